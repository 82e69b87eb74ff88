set_option maxRecDepth 100000
/-! java/util/AbstractCollection -/
def RJ0 : String := "java/util/AbstractCollection"
abbrev cJ0_init : ByteArray := prog_41_method_1_code
def yJ0_init : MethodName := ⟨RJ0, "<init>", "()V"⟩
theorem dJ0_init_0 : decode cJ0_init 0 = .ok (.aload_n 0, 1) := by decide +kernel
theorem dJ0_init_1 : decode cJ0_init 1 = .ok (.invokespecial 1, 3) := by decide +kernel
theorem dJ0_init_4 : decode cJ0_init 4 = .ok (.return_, 1) := by decide +kernel
theorem q115 : (Jvm.Cond.initialized "java/util/AbstractCollection") ∈ lw_all := lw_g (lw_at lw_m1 4 rfl) rfl
theorem q199 : (Jvm.Cond.instanceMethod ({ cls := "java/util/AbstractCollection", name := "<init>", desc := "()V" } : Jvm.MethodName)) ∈ lw_all := lw_g (lw_at lw_m1 88 rfl) rfl
theorem q200 : (Jvm.Cond.code ({ cls := "java/util/AbstractCollection", name := "<init>", desc := "()V" } : Jvm.MethodName) prog_41_method_1_code (1 : Nat) (Option.none : Option Jvm.ClassFile.FieldType)) ∈ lw_all := lw_g (lw_at lw_m1 89 rfl) rfl
theorem q201 : (Jvm.Cond.methodLink "java/util/AbstractCollection" (1 : Nat) ({ cls := "java/lang/Object", name := "<init>", desc := "()V" } : Jvm.MethodName)) ∈ lw_all := lw_g (lw_at lw_m1 90 rfl) rfl
/-! java/util/AbstractList -/
def RJ1 : String := "java/util/AbstractList"
abbrev cJ1_init : ByteArray := prog_42_method_1_code
def yJ1_init : MethodName := ⟨RJ1, "<init>", "()V"⟩
def dkwJ1_init_0 : List UInt8 := [42, 183, 0, 1, 42, 3, 181, 0, 7, 177]
abbrev dktJ1_init_0 : List UInt8 := dkwJ1_init_0 ++ []
theorem dksJ1_init_0 : cJ1_init.data.toList.drop 0 = dktJ1_init_0 := by decide +kernel
theorem dJ1_init_0 : decode cJ1_init 0 = .ok (.aload_n 0, 1) := dk_42 (dk_at dksJ1_init_0 0 rfl rfl)
theorem dJ1_init_1 : decode cJ1_init 1 = .ok (.invokespecial 1, 3) := dk_183 0 1 (dk_at dksJ1_init_0 1 rfl rfl)
theorem dJ1_init_4 : decode cJ1_init 4 = .ok (.aload_n 0, 1) := dk_42 (dk_at dksJ1_init_0 4 rfl rfl)
theorem dJ1_init_5 : decode cJ1_init 5 = .ok (.iconst 0, 1) := dk_3 (dk_at dksJ1_init_0 5 rfl rfl)
theorem dJ1_init_6 : decode cJ1_init 6 = .ok (.putfield 7, 3) := dk_181 0 7 (dk_at dksJ1_init_0 6 rfl rfl)
theorem dJ1_init_9 : decode cJ1_init 9 = .ok (.return_, 1) := dk_177 (dk_at dksJ1_init_0 9 rfl rfl)
theorem q116 : (Jvm.Cond.initialized "java/util/AbstractList") ∈ lw_all := lw_g (lw_at lw_m1 5 rfl) rfl
theorem q196 : (Jvm.Cond.instanceMethod ({ cls := "java/util/AbstractList", name := "<init>", desc := "()V" } : Jvm.MethodName)) ∈ lw_all := lw_g (lw_at lw_m1 85 rfl) rfl
theorem q197 : (Jvm.Cond.code ({ cls := "java/util/AbstractList", name := "<init>", desc := "()V" } : Jvm.MethodName) prog_42_method_1_code (1 : Nat) (Option.none : Option Jvm.ClassFile.FieldType)) ∈ lw_all := lw_g (lw_at lw_m1 86 rfl) rfl
theorem q198 : (Jvm.Cond.methodLink "java/util/AbstractList" (1 : Nat) ({ cls := "java/util/AbstractCollection", name := "<init>", desc := "()V" } : Jvm.MethodName)) ∈ lw_all := lw_g (lw_at lw_m1 87 rfl) rfl
theorem q208 : (Jvm.Cond.fieldLink "java/util/AbstractList" (7 : Nat) "java/util/AbstractList" "modCount" "I") ∈ lw_all := lw_g (lw_at lw_m1 97 rfl) rfl
theorem q216 : (Jvm.Cond.soleField "java/util/AbstractList" "modCount") ∈ lw_all := lw_g (lw_at lw_m1 105 rfl) rfl
/-! java/util/ArrayList -/
def RJ2 : String := "java/util/ArrayList"
def TJ2 : u_T := fun k => match k with
  | 0 => ("java/util/AbstractList", "modCount", "I", false)
  | 1 => ("java/util/ArrayList", "elementData", "[Ljava/lang/Object;", false)
  | _ => ("java/util/ArrayList", "size", "I", false)
def tyJ2 : Nat → FieldType := fun k => match k with
  | 0 => .int
  | 1 => .array (.object "java/lang/Object")
  | _ => .int
abbrev wsJ20 : List Cond := u_ws RJ2 TJ2 3
theorem nmJ2 : ∀ a, a < 3 → ∀ b, b < 3 → a ≠ b → (TJ2 a).2.1 ≠ (TJ2 b).2.1 := by decide +kernel
theorem tyJ2_ok : ∀ k, k < 3 → parseFieldDescriptor (TJ2 k).2.2.1 = some (tyJ2 k) := by decide +kernel
abbrev cJ2_init : ByteArray := prog_43_method_1_code
def yJ2_init : MethodName := ⟨RJ2, "<init>", "(I)V"⟩
def dkwJ2_init_2 : List UInt8 := [182, 0, 25, 27, 182, 0, 29, 182, 0, 32, 183, 0, 36, 191, 177]
abbrev dktJ2_init_2 : List UInt8 := dkwJ2_init_2 ++ []
def dkwJ2_init_1 : List UInt8 := [178, 0, 15, 181, 0, 9, 167, 0, 30, 187, 0, 18, 89, 187, 0, 20, 89, 183, 0, 22, 18, 23]
abbrev dktJ2_init_1 : List UInt8 := dkwJ2_init_1 ++ dktJ2_init_2
def dkwJ2_init_0 : List UInt8 := [42, 183, 0, 1, 27, 158, 0, 14, 42, 27, 189, 0, 7, 181, 0, 9, 167, 0, 44, 27, 154, 0, 13, 42]
abbrev dktJ2_init_0 : List UInt8 := dkwJ2_init_0 ++ dktJ2_init_1
theorem dksJ2_init_0 : cJ2_init.data.toList.drop 0 = dktJ2_init_0 := by decide +kernel
theorem dksJ2_init_1 : cJ2_init.data.toList.drop 24 = dktJ2_init_1 := dk_seg dksJ2_init_0 24 rfl rfl
theorem dksJ2_init_2 : cJ2_init.data.toList.drop 46 = dktJ2_init_2 := dk_seg dksJ2_init_1 22 rfl rfl
theorem dJ2_init_0 : decode cJ2_init 0 = .ok (.aload_n 0, 1) := dk_42 (dk_at dksJ2_init_0 0 rfl rfl)
theorem dJ2_init_1 : decode cJ2_init 1 = .ok (.invokespecial 1, 3) := dk_183 0 1 (dk_at dksJ2_init_0 1 rfl rfl)
theorem dJ2_init_4 : decode cJ2_init 4 = .ok (.iload_n 1, 1) := dk_27 (dk_at dksJ2_init_0 4 rfl rfl)
theorem dJ2_init_5 : decode cJ2_init 5 = .ok (.ifCond .le 14, 3) := dk_158 0 14 (dk_at dksJ2_init_0 5 rfl rfl)
theorem dJ2_init_8 : decode cJ2_init 8 = .ok (.aload_n 0, 1) := dk_42 (dk_at dksJ2_init_0 8 rfl rfl)
theorem dJ2_init_9 : decode cJ2_init 9 = .ok (.iload_n 1, 1) := dk_27 (dk_at dksJ2_init_0 9 rfl rfl)
theorem dJ2_init_10 : decode cJ2_init 10 = .ok (.anewarray 7, 3) := dk_189 0 7 (dk_at dksJ2_init_0 10 rfl rfl)
theorem dJ2_init_13 : decode cJ2_init 13 = .ok (.putfield 9, 3) := dk_181 0 9 (dk_at dksJ2_init_0 13 rfl rfl)
theorem dJ2_init_16 : decode cJ2_init 16 = .ok (.goto 44, 3) := dk_167 0 44 (dk_at dksJ2_init_0 16 rfl rfl)
theorem dJ2_init_19 : decode cJ2_init 19 = .ok (.iload_n 1, 1) := dk_27 (dk_at dksJ2_init_0 19 rfl rfl)
theorem dJ2_init_20 : decode cJ2_init 20 = .ok (.ifCond .ne 13, 3) := dk_154 0 13 (dk_at dksJ2_init_0 20 rfl rfl)
theorem dJ2_init_23 : decode cJ2_init 23 = .ok (.aload_n 0, 1) := dk_42 (dk_at dksJ2_init_0 23 rfl rfl)
theorem dJ2_init_24 : decode cJ2_init 24 = .ok (.getstatic 15, 3) := dk_178 0 15 (dk_at dksJ2_init_1 0 rfl rfl)
theorem dJ2_init_27 : decode cJ2_init 27 = .ok (.putfield 9, 3) := dk_181 0 9 (dk_at dksJ2_init_1 3 rfl rfl)
theorem dJ2_init_30 : decode cJ2_init 30 = .ok (.goto 30, 3) := dk_167 0 30 (dk_at dksJ2_init_1 6 rfl rfl)
theorem dJ2_init_33 : decode cJ2_init 33 = .ok (.new 18, 3) := dk_187 0 18 (dk_at dksJ2_init_1 9 rfl rfl)
theorem dJ2_init_36 : decode cJ2_init 36 = .ok (.dup, 1) := dk_89 (dk_at dksJ2_init_1 12 rfl rfl)
theorem dJ2_init_37 : decode cJ2_init 37 = .ok (.new 20, 3) := dk_187 0 20 (dk_at dksJ2_init_1 13 rfl rfl)
theorem dJ2_init_40 : decode cJ2_init 40 = .ok (.dup, 1) := dk_89 (dk_at dksJ2_init_1 16 rfl rfl)
theorem dJ2_init_41 : decode cJ2_init 41 = .ok (.invokespecial 22, 3) := dk_183 0 22 (dk_at dksJ2_init_1 17 rfl rfl)
theorem dJ2_init_44 : decode cJ2_init 44 = .ok (.ldc 23, 2) := dk_18 23 (dk_at dksJ2_init_1 20 rfl rfl)
theorem dJ2_init_46 : decode cJ2_init 46 = .ok (.invokevirtual 25, 3) := dk_182 0 25 (dk_at dksJ2_init_2 0 rfl rfl)
theorem dJ2_init_49 : decode cJ2_init 49 = .ok (.iload_n 1, 1) := dk_27 (dk_at dksJ2_init_2 3 rfl rfl)
theorem dJ2_init_50 : decode cJ2_init 50 = .ok (.invokevirtual 29, 3) := dk_182 0 29 (dk_at dksJ2_init_2 4 rfl rfl)
theorem dJ2_init_53 : decode cJ2_init 53 = .ok (.invokevirtual 32, 3) := dk_182 0 32 (dk_at dksJ2_init_2 7 rfl rfl)
theorem dJ2_init_56 : decode cJ2_init 56 = .ok (.invokespecial 36, 3) := dk_183 0 36 (dk_at dksJ2_init_2 10 rfl rfl)
theorem dJ2_init_59 : decode cJ2_init 59 = .ok (.athrow, 1) := dk_191 (dk_at dksJ2_init_2 13 rfl rfl)
theorem dJ2_init_60 : decode cJ2_init 60 = .ok (.return_, 1) := dk_177 (dk_at dksJ2_init_2 14 rfl rfl)
abbrev cJ2_clear : ByteArray := prog_43_method_40_code
def yJ2_clear : MethodName := ⟨RJ2, "clear", "()V"⟩
def dkwJ2_clear_1 : List UInt8 := [181, 0, 48, 62, 29, 28, 162, 0, 13, 43, 29, 1, 83, 132, 3, 1, 167, 255, 244, 177]
abbrev dktJ2_clear_1 : List UInt8 := dkwJ2_clear_1 ++ []
def dkwJ2_clear_0 : List UInt8 := [42, 89, 180, 0, 63, 4, 96, 181, 0, 63, 42, 180, 0, 9, 76, 42, 180, 0, 48, 61, 42, 3, 90]
abbrev dktJ2_clear_0 : List UInt8 := dkwJ2_clear_0 ++ dktJ2_clear_1
theorem dksJ2_clear_0 : cJ2_clear.data.toList.drop 0 = dktJ2_clear_0 := by decide +kernel
theorem dksJ2_clear_1 : cJ2_clear.data.toList.drop 23 = dktJ2_clear_1 := dk_seg dksJ2_clear_0 23 rfl rfl
theorem dJ2_clear_0 : decode cJ2_clear 0 = .ok (.aload_n 0, 1) := dk_42 (dk_at dksJ2_clear_0 0 rfl rfl)
theorem dJ2_clear_1 : decode cJ2_clear 1 = .ok (.dup, 1) := dk_89 (dk_at dksJ2_clear_0 1 rfl rfl)
theorem dJ2_clear_2 : decode cJ2_clear 2 = .ok (.getfield 63, 3) := dk_180 0 63 (dk_at dksJ2_clear_0 2 rfl rfl)
theorem dJ2_clear_5 : decode cJ2_clear 5 = .ok (.iconst 1, 1) := dk_4 (dk_at dksJ2_clear_0 5 rfl rfl)
theorem dJ2_clear_6 : decode cJ2_clear 6 = .ok (.iadd, 1) := dk_96 (dk_at dksJ2_clear_0 6 rfl rfl)
theorem dJ2_clear_7 : decode cJ2_clear 7 = .ok (.putfield 63, 3) := dk_181 0 63 (dk_at dksJ2_clear_0 7 rfl rfl)
theorem dJ2_clear_10 : decode cJ2_clear 10 = .ok (.aload_n 0, 1) := dk_42 (dk_at dksJ2_clear_0 10 rfl rfl)
theorem dJ2_clear_11 : decode cJ2_clear 11 = .ok (.getfield 9, 3) := dk_180 0 9 (dk_at dksJ2_clear_0 11 rfl rfl)
theorem dJ2_clear_14 : decode cJ2_clear 14 = .ok (.astore_n 1, 1) := dk_76 (dk_at dksJ2_clear_0 14 rfl rfl)
theorem dJ2_clear_15 : decode cJ2_clear 15 = .ok (.aload_n 0, 1) := dk_42 (dk_at dksJ2_clear_0 15 rfl rfl)
theorem dJ2_clear_16 : decode cJ2_clear 16 = .ok (.getfield 48, 3) := dk_180 0 48 (dk_at dksJ2_clear_0 16 rfl rfl)
theorem dJ2_clear_19 : decode cJ2_clear 19 = .ok (.istore_n 2, 1) := dk_61 (dk_at dksJ2_clear_0 19 rfl rfl)
theorem dJ2_clear_20 : decode cJ2_clear 20 = .ok (.aload_n 0, 1) := dk_42 (dk_at dksJ2_clear_0 20 rfl rfl)
theorem dJ2_clear_21 : decode cJ2_clear 21 = .ok (.iconst 0, 1) := dk_3 (dk_at dksJ2_clear_0 21 rfl rfl)
theorem dJ2_clear_22 : decode cJ2_clear 22 = .ok (.dup_x1, 1) := dk_90 (dk_at dksJ2_clear_0 22 rfl rfl)
theorem dJ2_clear_23 : decode cJ2_clear 23 = .ok (.putfield 48, 3) := dk_181 0 48 (dk_at dksJ2_clear_1 0 rfl rfl)
theorem dJ2_clear_26 : decode cJ2_clear 26 = .ok (.istore_n 3, 1) := dk_62 (dk_at dksJ2_clear_1 3 rfl rfl)
theorem dJ2_clear_27 : decode cJ2_clear 27 = .ok (.iload_n 3, 1) := dk_29 (dk_at dksJ2_clear_1 4 rfl rfl)
theorem dJ2_clear_28 : decode cJ2_clear 28 = .ok (.iload_n 2, 1) := dk_28 (dk_at dksJ2_clear_1 5 rfl rfl)
theorem dJ2_clear_29 : decode cJ2_clear 29 = .ok (.if_icmp .ge 13, 3) := dk_162 0 13 (dk_at dksJ2_clear_1 6 rfl rfl)
theorem dJ2_clear_32 : decode cJ2_clear 32 = .ok (.aload_n 1, 1) := dk_43 (dk_at dksJ2_clear_1 9 rfl rfl)
theorem dJ2_clear_33 : decode cJ2_clear 33 = .ok (.iload_n 3, 1) := dk_29 (dk_at dksJ2_clear_1 10 rfl rfl)
theorem dJ2_clear_34 : decode cJ2_clear 34 = .ok (.aconst_null, 1) := dk_1 (dk_at dksJ2_clear_1 11 rfl rfl)
theorem dJ2_clear_35 : decode cJ2_clear 35 = .ok (.aastore, 1) := dk_83 (dk_at dksJ2_clear_1 12 rfl rfl)
theorem dJ2_clear_36 : decode cJ2_clear 36 = .ok (.iinc 3 1, 3) := dk_132 3 1 (dk_at dksJ2_clear_1 13 rfl rfl)
theorem dJ2_clear_39 : decode cJ2_clear 39 = .ok (.goto (-12), 3) := dk_167 255 244 (dk_at dksJ2_clear_1 16 rfl rfl)
theorem dJ2_clear_42 : decode cJ2_clear 42 = .ok (.return_, 1) := dk_177 (dk_at dksJ2_clear_1 19 rfl rfl)
abbrev cJ2_addAll : ByteArray := prog_43_method_41_code
def yJ2_addAll : MethodName := ⟨RJ2, "addAll", "(Ljava/util/Collection;)Z"⟩
def dkwJ2_addAll_3 : List UInt8 := [181, 0, 48, 4, 172]
abbrev dktJ2_addAll_3 : List UInt8 := dkwJ2_addAll_3 ++ []
def dkwJ2_addAll_2 : List UInt8 := [21, 5, 29, 96, 182, 0, 69, 58, 4, 44, 3, 25, 4, 21, 5, 29, 184, 0, 112, 42, 21, 5, 29, 96]
abbrev dktJ2_addAll_2 : List UInt8 := dkwJ2_addAll_2 ++ dktJ2_addAll_3
def dkwJ2_addAll_1 : List UInt8 := [3, 172, 29, 42, 180, 0, 9, 89, 58, 4, 190, 42, 180, 0, 48, 89, 54, 5, 100, 164, 0, 13, 42]
abbrev dktJ2_addAll_1 : List UInt8 := dkwJ2_addAll_1 ++ dktJ2_addAll_2
def dkwJ2_addAll_0 : List UInt8 := [43, 185, 0, 42, 1, 0, 77, 42, 89, 180, 0, 63, 4, 96, 181, 0, 63, 44, 190, 62, 29, 154, 0, 5]
abbrev dktJ2_addAll_0 : List UInt8 := dkwJ2_addAll_0 ++ dktJ2_addAll_1
theorem dksJ2_addAll_0 : cJ2_addAll.data.toList.drop 0 = dktJ2_addAll_0 := by decide +kernel
theorem dksJ2_addAll_1 : cJ2_addAll.data.toList.drop 24 = dktJ2_addAll_1 := dk_seg dksJ2_addAll_0 24 rfl rfl
theorem dksJ2_addAll_2 : cJ2_addAll.data.toList.drop 47 = dktJ2_addAll_2 := dk_seg dksJ2_addAll_1 23 rfl rfl
theorem dksJ2_addAll_3 : cJ2_addAll.data.toList.drop 71 = dktJ2_addAll_3 := dk_seg dksJ2_addAll_2 24 rfl rfl
theorem dJ2_addAll_0 : decode cJ2_addAll 0 = .ok (.aload_n 1, 1) := dk_43 (dk_at dksJ2_addAll_0 0 rfl rfl)
theorem dJ2_addAll_1 : decode cJ2_addAll 1 = .ok (.invokeinterface 42 1, 5) := by decide +kernel
theorem dJ2_addAll_6 : decode cJ2_addAll 6 = .ok (.astore_n 2, 1) := dk_77 (dk_at dksJ2_addAll_0 6 rfl rfl)
theorem dJ2_addAll_7 : decode cJ2_addAll 7 = .ok (.aload_n 0, 1) := dk_42 (dk_at dksJ2_addAll_0 7 rfl rfl)
theorem dJ2_addAll_8 : decode cJ2_addAll 8 = .ok (.dup, 1) := dk_89 (dk_at dksJ2_addAll_0 8 rfl rfl)
theorem dJ2_addAll_9 : decode cJ2_addAll 9 = .ok (.getfield 63, 3) := dk_180 0 63 (dk_at dksJ2_addAll_0 9 rfl rfl)
theorem dJ2_addAll_12 : decode cJ2_addAll 12 = .ok (.iconst 1, 1) := dk_4 (dk_at dksJ2_addAll_0 12 rfl rfl)
theorem dJ2_addAll_13 : decode cJ2_addAll 13 = .ok (.iadd, 1) := dk_96 (dk_at dksJ2_addAll_0 13 rfl rfl)
theorem dJ2_addAll_14 : decode cJ2_addAll 14 = .ok (.putfield 63, 3) := dk_181 0 63 (dk_at dksJ2_addAll_0 14 rfl rfl)
theorem dJ2_addAll_17 : decode cJ2_addAll 17 = .ok (.aload_n 2, 1) := dk_44 (dk_at dksJ2_addAll_0 17 rfl rfl)
theorem dJ2_addAll_18 : decode cJ2_addAll 18 = .ok (.arraylength, 1) := dk_190 (dk_at dksJ2_addAll_0 18 rfl rfl)
theorem dJ2_addAll_19 : decode cJ2_addAll 19 = .ok (.istore_n 3, 1) := dk_62 (dk_at dksJ2_addAll_0 19 rfl rfl)
theorem dJ2_addAll_20 : decode cJ2_addAll 20 = .ok (.iload_n 3, 1) := dk_29 (dk_at dksJ2_addAll_0 20 rfl rfl)
theorem dJ2_addAll_21 : decode cJ2_addAll 21 = .ok (.ifCond .ne 5, 3) := dk_154 0 5 (dk_at dksJ2_addAll_0 21 rfl rfl)
theorem dJ2_addAll_24 : decode cJ2_addAll 24 = .ok (.iconst 0, 1) := dk_3 (dk_at dksJ2_addAll_1 0 rfl rfl)
theorem dJ2_addAll_25 : decode cJ2_addAll 25 = .ok (.ireturn, 1) := dk_172 (dk_at dksJ2_addAll_1 1 rfl rfl)
theorem dJ2_addAll_26 : decode cJ2_addAll 26 = .ok (.iload_n 3, 1) := dk_29 (dk_at dksJ2_addAll_1 2 rfl rfl)
theorem dJ2_addAll_27 : decode cJ2_addAll 27 = .ok (.aload_n 0, 1) := dk_42 (dk_at dksJ2_addAll_1 3 rfl rfl)
theorem dJ2_addAll_28 : decode cJ2_addAll 28 = .ok (.getfield 9, 3) := dk_180 0 9 (dk_at dksJ2_addAll_1 4 rfl rfl)
theorem dJ2_addAll_31 : decode cJ2_addAll 31 = .ok (.dup, 1) := dk_89 (dk_at dksJ2_addAll_1 7 rfl rfl)
theorem dJ2_addAll_32 : decode cJ2_addAll 32 = .ok (.astore 4, 2) := dk_58 4 (dk_at dksJ2_addAll_1 8 rfl rfl)
theorem dJ2_addAll_34 : decode cJ2_addAll 34 = .ok (.arraylength, 1) := dk_190 (dk_at dksJ2_addAll_1 10 rfl rfl)
theorem dJ2_addAll_35 : decode cJ2_addAll 35 = .ok (.aload_n 0, 1) := dk_42 (dk_at dksJ2_addAll_1 11 rfl rfl)
theorem dJ2_addAll_36 : decode cJ2_addAll 36 = .ok (.getfield 48, 3) := dk_180 0 48 (dk_at dksJ2_addAll_1 12 rfl rfl)
theorem dJ2_addAll_39 : decode cJ2_addAll 39 = .ok (.dup, 1) := dk_89 (dk_at dksJ2_addAll_1 15 rfl rfl)
theorem dJ2_addAll_40 : decode cJ2_addAll 40 = .ok (.istore 5, 2) := dk_54 5 (dk_at dksJ2_addAll_1 16 rfl rfl)
theorem dJ2_addAll_42 : decode cJ2_addAll 42 = .ok (.isub, 1) := dk_100 (dk_at dksJ2_addAll_1 18 rfl rfl)
theorem dJ2_addAll_43 : decode cJ2_addAll 43 = .ok (.if_icmp .le 13, 3) := dk_164 0 13 (dk_at dksJ2_addAll_1 19 rfl rfl)
theorem dJ2_addAll_46 : decode cJ2_addAll 46 = .ok (.aload_n 0, 1) := dk_42 (dk_at dksJ2_addAll_1 22 rfl rfl)
theorem dJ2_addAll_47 : decode cJ2_addAll 47 = .ok (.iload 5, 2) := dk_21 5 (dk_at dksJ2_addAll_2 0 rfl rfl)
theorem dJ2_addAll_49 : decode cJ2_addAll 49 = .ok (.iload_n 3, 1) := dk_29 (dk_at dksJ2_addAll_2 2 rfl rfl)
theorem dJ2_addAll_50 : decode cJ2_addAll 50 = .ok (.iadd, 1) := dk_96 (dk_at dksJ2_addAll_2 3 rfl rfl)
theorem dJ2_addAll_51 : decode cJ2_addAll 51 = .ok (.invokevirtual 69, 3) := dk_182 0 69 (dk_at dksJ2_addAll_2 4 rfl rfl)
theorem dJ2_addAll_54 : decode cJ2_addAll 54 = .ok (.astore 4, 2) := dk_58 4 (dk_at dksJ2_addAll_2 7 rfl rfl)
theorem dJ2_addAll_56 : decode cJ2_addAll 56 = .ok (.aload_n 2, 1) := dk_44 (dk_at dksJ2_addAll_2 9 rfl rfl)
theorem dJ2_addAll_57 : decode cJ2_addAll 57 = .ok (.iconst 0, 1) := dk_3 (dk_at dksJ2_addAll_2 10 rfl rfl)
theorem dJ2_addAll_58 : decode cJ2_addAll 58 = .ok (.aload 4, 2) := dk_25 4 (dk_at dksJ2_addAll_2 11 rfl rfl)
theorem dJ2_addAll_60 : decode cJ2_addAll 60 = .ok (.iload 5, 2) := dk_21 5 (dk_at dksJ2_addAll_2 13 rfl rfl)
theorem dJ2_addAll_62 : decode cJ2_addAll 62 = .ok (.iload_n 3, 1) := dk_29 (dk_at dksJ2_addAll_2 15 rfl rfl)
theorem dJ2_addAll_63 : decode cJ2_addAll 63 = .ok (.invokestatic 112, 3) := dk_184 0 112 (dk_at dksJ2_addAll_2 16 rfl rfl)
theorem dJ2_addAll_66 : decode cJ2_addAll 66 = .ok (.aload_n 0, 1) := dk_42 (dk_at dksJ2_addAll_2 19 rfl rfl)
theorem dJ2_addAll_67 : decode cJ2_addAll 67 = .ok (.iload 5, 2) := dk_21 5 (dk_at dksJ2_addAll_2 20 rfl rfl)
theorem dJ2_addAll_69 : decode cJ2_addAll 69 = .ok (.iload_n 3, 1) := dk_29 (dk_at dksJ2_addAll_2 22 rfl rfl)
theorem dJ2_addAll_70 : decode cJ2_addAll 70 = .ok (.iadd, 1) := dk_96 (dk_at dksJ2_addAll_2 23 rfl rfl)
theorem dJ2_addAll_71 : decode cJ2_addAll 71 = .ok (.putfield 48, 3) := dk_181 0 48 (dk_at dksJ2_addAll_3 0 rfl rfl)
theorem dJ2_addAll_74 : decode cJ2_addAll 74 = .ok (.iconst 1, 1) := dk_4 (dk_at dksJ2_addAll_3 3 rfl rfl)
theorem dJ2_addAll_75 : decode cJ2_addAll 75 = .ok (.ireturn, 1) := dk_172 (dk_at dksJ2_addAll_3 4 rfl rfl)
abbrev cJ2_toArray : ByteArray := prog_43_method_16_code
def yJ2_toArray : MethodName := ⟨RJ2, "toArray", "()[Ljava/lang/Object;"⟩
def dkwJ2_toArray_0 : List UInt8 := [42, 180, 0, 9, 42, 180, 0, 48, 184, 0, 66, 176]
abbrev dktJ2_toArray_0 : List UInt8 := dkwJ2_toArray_0 ++ []
theorem dksJ2_toArray_0 : cJ2_toArray.data.toList.drop 0 = dktJ2_toArray_0 := by decide +kernel
theorem dJ2_toArray_0 : decode cJ2_toArray 0 = .ok (.aload_n 0, 1) := dk_42 (dk_at dksJ2_toArray_0 0 rfl rfl)
theorem dJ2_toArray_1 : decode cJ2_toArray 1 = .ok (.getfield 9, 3) := dk_180 0 9 (dk_at dksJ2_toArray_0 1 rfl rfl)
theorem dJ2_toArray_4 : decode cJ2_toArray 4 = .ok (.aload_n 0, 1) := dk_42 (dk_at dksJ2_toArray_0 4 rfl rfl)
theorem dJ2_toArray_5 : decode cJ2_toArray 5 = .ok (.getfield 48, 3) := dk_180 0 48 (dk_at dksJ2_toArray_0 5 rfl rfl)
theorem dJ2_toArray_8 : decode cJ2_toArray 8 = .ok (.invokestatic 66, 3) := dk_184 0 66 (dk_at dksJ2_toArray_0 8 rfl rfl)
theorem dJ2_toArray_11 : decode cJ2_toArray 11 = .ok (.areturn, 1) := dk_176 (dk_at dksJ2_toArray_0 11 rfl rfl)
abbrev cJ2_grow : ByteArray := prog_43_method_6_code
def yJ2_grow : MethodName := ⟨RJ2, "grow", "(I)[Ljava/lang/Object;"⟩
def dkwJ2_grow_2 : List UInt8 := [27, 184, 0, 79, 189, 0, 7, 90, 181, 0, 9, 176]
abbrev dktJ2_grow_2 : List UInt8 := dkwJ2_grow_2 ++ []
def dkwJ2_grow_1 : List UInt8 := [28, 4, 122, 184, 0, 73, 62, 42, 42, 180, 0, 9, 29, 184, 0, 66, 90, 181, 0, 9, 176, 42, 16, 10]
abbrev dktJ2_grow_1 : List UInt8 := dkwJ2_grow_1 ++ dktJ2_grow_2
def dkwJ2_grow_0 : List UInt8 := [42, 180, 0, 9, 190, 61, 28, 157, 0, 13, 42, 180, 0, 9, 178, 0, 39, 165, 0, 28, 28, 27, 28, 100]
abbrev dktJ2_grow_0 : List UInt8 := dkwJ2_grow_0 ++ dktJ2_grow_1
theorem dksJ2_grow_0 : cJ2_grow.data.toList.drop 0 = dktJ2_grow_0 := by decide +kernel
theorem dksJ2_grow_1 : cJ2_grow.data.toList.drop 24 = dktJ2_grow_1 := dk_seg dksJ2_grow_0 24 rfl rfl
theorem dksJ2_grow_2 : cJ2_grow.data.toList.drop 48 = dktJ2_grow_2 := dk_seg dksJ2_grow_1 24 rfl rfl
theorem dJ2_grow_0 : decode cJ2_grow 0 = .ok (.aload_n 0, 1) := dk_42 (dk_at dksJ2_grow_0 0 rfl rfl)
theorem dJ2_grow_1 : decode cJ2_grow 1 = .ok (.getfield 9, 3) := dk_180 0 9 (dk_at dksJ2_grow_0 1 rfl rfl)
theorem dJ2_grow_4 : decode cJ2_grow 4 = .ok (.arraylength, 1) := dk_190 (dk_at dksJ2_grow_0 4 rfl rfl)
theorem dJ2_grow_5 : decode cJ2_grow 5 = .ok (.istore_n 2, 1) := dk_61 (dk_at dksJ2_grow_0 5 rfl rfl)
theorem dJ2_grow_6 : decode cJ2_grow 6 = .ok (.iload_n 2, 1) := dk_28 (dk_at dksJ2_grow_0 6 rfl rfl)
theorem dJ2_grow_7 : decode cJ2_grow 7 = .ok (.ifCond .gt 13, 3) := dk_157 0 13 (dk_at dksJ2_grow_0 7 rfl rfl)
theorem dJ2_grow_10 : decode cJ2_grow 10 = .ok (.aload_n 0, 1) := dk_42 (dk_at dksJ2_grow_0 10 rfl rfl)
theorem dJ2_grow_11 : decode cJ2_grow 11 = .ok (.getfield 9, 3) := dk_180 0 9 (dk_at dksJ2_grow_0 11 rfl rfl)
theorem dJ2_grow_14 : decode cJ2_grow 14 = .ok (.getstatic 39, 3) := dk_178 0 39 (dk_at dksJ2_grow_0 14 rfl rfl)
theorem dJ2_grow_17 : decode cJ2_grow 17 = .ok (.if_acmp .eq 28, 3) := dk_165 0 28 (dk_at dksJ2_grow_0 17 rfl rfl)
theorem dJ2_grow_20 : decode cJ2_grow 20 = .ok (.iload_n 2, 1) := dk_28 (dk_at dksJ2_grow_0 20 rfl rfl)
theorem dJ2_grow_21 : decode cJ2_grow 21 = .ok (.iload_n 1, 1) := dk_27 (dk_at dksJ2_grow_0 21 rfl rfl)
theorem dJ2_grow_22 : decode cJ2_grow 22 = .ok (.iload_n 2, 1) := dk_28 (dk_at dksJ2_grow_0 22 rfl rfl)
theorem dJ2_grow_23 : decode cJ2_grow 23 = .ok (.isub, 1) := dk_100 (dk_at dksJ2_grow_0 23 rfl rfl)
theorem dJ2_grow_24 : decode cJ2_grow 24 = .ok (.iload_n 2, 1) := dk_28 (dk_at dksJ2_grow_1 0 rfl rfl)
theorem dJ2_grow_25 : decode cJ2_grow 25 = .ok (.iconst 1, 1) := dk_4 (dk_at dksJ2_grow_1 1 rfl rfl)
theorem dJ2_grow_26 : decode cJ2_grow 26 = .ok (.ishr, 1) := dk_122 (dk_at dksJ2_grow_1 2 rfl rfl)
theorem dJ2_grow_27 : decode cJ2_grow 27 = .ok (.invokestatic 73, 3) := dk_184 0 73 (dk_at dksJ2_grow_1 3 rfl rfl)
theorem dJ2_grow_30 : decode cJ2_grow 30 = .ok (.istore_n 3, 1) := dk_62 (dk_at dksJ2_grow_1 6 rfl rfl)
theorem dJ2_grow_31 : decode cJ2_grow 31 = .ok (.aload_n 0, 1) := dk_42 (dk_at dksJ2_grow_1 7 rfl rfl)
theorem dJ2_grow_32 : decode cJ2_grow 32 = .ok (.aload_n 0, 1) := dk_42 (dk_at dksJ2_grow_1 8 rfl rfl)
theorem dJ2_grow_33 : decode cJ2_grow 33 = .ok (.getfield 9, 3) := dk_180 0 9 (dk_at dksJ2_grow_1 9 rfl rfl)
theorem dJ2_grow_36 : decode cJ2_grow 36 = .ok (.iload_n 3, 1) := dk_29 (dk_at dksJ2_grow_1 12 rfl rfl)
theorem dJ2_grow_37 : decode cJ2_grow 37 = .ok (.invokestatic 66, 3) := dk_184 0 66 (dk_at dksJ2_grow_1 13 rfl rfl)
theorem dJ2_grow_40 : decode cJ2_grow 40 = .ok (.dup_x1, 1) := dk_90 (dk_at dksJ2_grow_1 16 rfl rfl)
theorem dJ2_grow_41 : decode cJ2_grow 41 = .ok (.putfield 9, 3) := dk_181 0 9 (dk_at dksJ2_grow_1 17 rfl rfl)
theorem dJ2_grow_44 : decode cJ2_grow 44 = .ok (.areturn, 1) := dk_176 (dk_at dksJ2_grow_1 20 rfl rfl)
theorem dJ2_grow_45 : decode cJ2_grow 45 = .ok (.aload_n 0, 1) := dk_42 (dk_at dksJ2_grow_1 21 rfl rfl)
theorem dJ2_grow_46 : decode cJ2_grow 46 = .ok (.bipush 10, 2) := dk_16 10 (dk_at dksJ2_grow_1 22 rfl rfl)
theorem dJ2_grow_48 : decode cJ2_grow 48 = .ok (.iload_n 1, 1) := dk_27 (dk_at dksJ2_grow_2 0 rfl rfl)
theorem dJ2_grow_49 : decode cJ2_grow 49 = .ok (.invokestatic 79, 3) := dk_184 0 79 (dk_at dksJ2_grow_2 1 rfl rfl)
theorem dJ2_grow_52 : decode cJ2_grow 52 = .ok (.anewarray 7, 3) := dk_189 0 7 (dk_at dksJ2_grow_2 4 rfl rfl)
theorem dJ2_grow_55 : decode cJ2_grow 55 = .ok (.dup_x1, 1) := dk_90 (dk_at dksJ2_grow_2 7 rfl rfl)
theorem dJ2_grow_56 : decode cJ2_grow 56 = .ok (.putfield 9, 3) := dk_181 0 9 (dk_at dksJ2_grow_2 8 rfl rfl)
theorem dJ2_grow_59 : decode cJ2_grow 59 = .ok (.areturn, 1) := dk_176 (dk_at dksJ2_grow_2 11 rfl rfl)
abbrev cJ2_size : ByteArray := prog_43_method_8_code
def yJ2_size : MethodName := ⟨RJ2, "size", "()I"⟩
theorem dJ2_size_0 : decode cJ2_size 0 = .ok (.aload_n 0, 1) := by decide +kernel
theorem dJ2_size_1 : decode cJ2_size 1 = .ok (.getfield 48, 3) := by decide +kernel
theorem dJ2_size_4 : decode cJ2_size 4 = .ok (.ireturn, 1) := by decide +kernel
abbrev cJ2_get : ByteArray := prog_43_method_20_code
def yJ2_get : MethodName := ⟨RJ2, "get", "(I)Ljava/lang/Object;"⟩
def dkwJ2_get_0 : List UInt8 := [27, 42, 180, 0, 48, 184, 0, 118, 87, 42, 27, 182, 0, 123, 176]
abbrev dktJ2_get_0 : List UInt8 := dkwJ2_get_0 ++ []
theorem dksJ2_get_0 : cJ2_get.data.toList.drop 0 = dktJ2_get_0 := by decide +kernel
theorem dJ2_get_0 : decode cJ2_get 0 = .ok (.iload_n 1, 1) := dk_27 (dk_at dksJ2_get_0 0 rfl rfl)
theorem dJ2_get_1 : decode cJ2_get 1 = .ok (.aload_n 0, 1) := dk_42 (dk_at dksJ2_get_0 1 rfl rfl)
theorem dJ2_get_2 : decode cJ2_get 2 = .ok (.getfield 48, 3) := dk_180 0 48 (dk_at dksJ2_get_0 2 rfl rfl)
theorem dJ2_get_5 : decode cJ2_get 5 = .ok (.invokestatic 118, 3) := dk_184 0 118 (dk_at dksJ2_get_0 5 rfl rfl)
theorem dJ2_get_8 : decode cJ2_get 8 = .ok (.pop, 1) := dk_87 (dk_at dksJ2_get_0 8 rfl rfl)
theorem dJ2_get_9 : decode cJ2_get 9 = .ok (.aload_n 0, 1) := dk_42 (dk_at dksJ2_get_0 9 rfl rfl)
theorem dJ2_get_10 : decode cJ2_get 10 = .ok (.iload_n 1, 1) := dk_27 (dk_at dksJ2_get_0 10 rfl rfl)
theorem dJ2_get_11 : decode cJ2_get 11 = .ok (.invokevirtual 123, 3) := dk_182 0 123 (dk_at dksJ2_get_0 11 rfl rfl)
theorem dJ2_get_14 : decode cJ2_get 14 = .ok (.areturn, 1) := dk_176 (dk_at dksJ2_get_0 14 rfl rfl)
abbrev cJ2_elementData : ByteArray := prog_43_method_18_code
def yJ2_elementData : MethodName := ⟨RJ2, "elementData", "(I)Ljava/lang/Object;"⟩
def dkwJ2_elementData_0 : List UInt8 := [42, 180, 0, 9, 27, 50, 176]
abbrev dktJ2_elementData_0 : List UInt8 := dkwJ2_elementData_0 ++ []
theorem dksJ2_elementData_0 : cJ2_elementData.data.toList.drop 0 = dktJ2_elementData_0 := by decide +kernel
theorem dJ2_elementData_0 : decode cJ2_elementData 0 = .ok (.aload_n 0, 1) := dk_42 (dk_at dksJ2_elementData_0 0 rfl rfl)
theorem dJ2_elementData_1 : decode cJ2_elementData 1 = .ok (.getfield 9, 3) := dk_180 0 9 (dk_at dksJ2_elementData_0 1 rfl rfl)
theorem dJ2_elementData_4 : decode cJ2_elementData 4 = .ok (.iload_n 1, 1) := dk_27 (dk_at dksJ2_elementData_0 4 rfl rfl)
theorem dJ2_elementData_5 : decode cJ2_elementData 5 = .ok (.aaload, 1) := dk_50 (dk_at dksJ2_elementData_0 5 rfl rfl)
theorem dJ2_elementData_6 : decode cJ2_elementData 6 = .ok (.areturn, 1) := dk_176 (dk_at dksJ2_elementData_0 6 rfl rfl)
abbrev cJ2_add : ByteArray := prog_43_method_25_code
def yJ2_add : MethodName := ⟨RJ2, "add", "(Ljava/lang/Object;)Z"⟩
def dkwJ2_add_1 : List UInt8 := [172]
abbrev dktJ2_add_1 : List UInt8 := dkwJ2_add_1 ++ []
def dkwJ2_add_0 : List UInt8 := [42, 89, 180, 0, 63, 4, 96, 181, 0, 63, 42, 43, 42, 180, 0, 9, 42, 180, 0, 48, 182, 0, 131, 4]
abbrev dktJ2_add_0 : List UInt8 := dkwJ2_add_0 ++ dktJ2_add_1
theorem dksJ2_add_0 : cJ2_add.data.toList.drop 0 = dktJ2_add_0 := by decide +kernel
theorem dksJ2_add_1 : cJ2_add.data.toList.drop 24 = dktJ2_add_1 := dk_seg dksJ2_add_0 24 rfl rfl
theorem dJ2_add_0 : decode cJ2_add 0 = .ok (.aload_n 0, 1) := dk_42 (dk_at dksJ2_add_0 0 rfl rfl)
theorem dJ2_add_1 : decode cJ2_add 1 = .ok (.dup, 1) := dk_89 (dk_at dksJ2_add_0 1 rfl rfl)
theorem dJ2_add_2 : decode cJ2_add 2 = .ok (.getfield 63, 3) := dk_180 0 63 (dk_at dksJ2_add_0 2 rfl rfl)
theorem dJ2_add_5 : decode cJ2_add 5 = .ok (.iconst 1, 1) := dk_4 (dk_at dksJ2_add_0 5 rfl rfl)
theorem dJ2_add_6 : decode cJ2_add 6 = .ok (.iadd, 1) := dk_96 (dk_at dksJ2_add_0 6 rfl rfl)
theorem dJ2_add_7 : decode cJ2_add 7 = .ok (.putfield 63, 3) := dk_181 0 63 (dk_at dksJ2_add_0 7 rfl rfl)
theorem dJ2_add_10 : decode cJ2_add 10 = .ok (.aload_n 0, 1) := dk_42 (dk_at dksJ2_add_0 10 rfl rfl)
theorem dJ2_add_11 : decode cJ2_add 11 = .ok (.aload_n 1, 1) := dk_43 (dk_at dksJ2_add_0 11 rfl rfl)
theorem dJ2_add_12 : decode cJ2_add 12 = .ok (.aload_n 0, 1) := dk_42 (dk_at dksJ2_add_0 12 rfl rfl)
theorem dJ2_add_13 : decode cJ2_add 13 = .ok (.getfield 9, 3) := dk_180 0 9 (dk_at dksJ2_add_0 13 rfl rfl)
theorem dJ2_add_16 : decode cJ2_add 16 = .ok (.aload_n 0, 1) := dk_42 (dk_at dksJ2_add_0 16 rfl rfl)
theorem dJ2_add_17 : decode cJ2_add 17 = .ok (.getfield 48, 3) := dk_180 0 48 (dk_at dksJ2_add_0 17 rfl rfl)
theorem dJ2_add_20 : decode cJ2_add 20 = .ok (.invokevirtual 131, 3) := dk_182 0 131 (dk_at dksJ2_add_0 20 rfl rfl)
theorem dJ2_add_23 : decode cJ2_add 23 = .ok (.iconst 1, 1) := dk_4 (dk_at dksJ2_add_0 23 rfl rfl)
theorem dJ2_add_24 : decode cJ2_add 24 = .ok (.ireturn, 1) := dk_172 (dk_at dksJ2_add_1 0 rfl rfl)
abbrev cJ2_add_2 : ByteArray := prog_43_method_24_code
def yJ2_add_2 : MethodName := ⟨RJ2, "add", "(Ljava/lang/Object;[Ljava/lang/Object;I)V"⟩
def dkwJ2_add_2_0 : List UInt8 := [29, 44, 190, 160, 0, 8, 42, 182, 0, 129, 77, 44, 29, 43, 83, 42, 29, 4, 96, 181, 0, 48, 177]
abbrev dktJ2_add_2_0 : List UInt8 := dkwJ2_add_2_0 ++ []
theorem dksJ2_add_2_0 : cJ2_add_2.data.toList.drop 0 = dktJ2_add_2_0 := by decide +kernel
theorem dJ2_add_2_0 : decode cJ2_add_2 0 = .ok (.iload_n 3, 1) := dk_29 (dk_at dksJ2_add_2_0 0 rfl rfl)
theorem dJ2_add_2_1 : decode cJ2_add_2 1 = .ok (.aload_n 2, 1) := dk_44 (dk_at dksJ2_add_2_0 1 rfl rfl)
theorem dJ2_add_2_2 : decode cJ2_add_2 2 = .ok (.arraylength, 1) := dk_190 (dk_at dksJ2_add_2_0 2 rfl rfl)
theorem dJ2_add_2_3 : decode cJ2_add_2 3 = .ok (.if_icmp .ne 8, 3) := dk_160 0 8 (dk_at dksJ2_add_2_0 3 rfl rfl)
theorem dJ2_add_2_6 : decode cJ2_add_2 6 = .ok (.aload_n 0, 1) := dk_42 (dk_at dksJ2_add_2_0 6 rfl rfl)
theorem dJ2_add_2_7 : decode cJ2_add_2 7 = .ok (.invokevirtual 129, 3) := dk_182 0 129 (dk_at dksJ2_add_2_0 7 rfl rfl)
theorem dJ2_add_2_10 : decode cJ2_add_2 10 = .ok (.astore_n 2, 1) := dk_77 (dk_at dksJ2_add_2_0 10 rfl rfl)
theorem dJ2_add_2_11 : decode cJ2_add_2 11 = .ok (.aload_n 2, 1) := dk_44 (dk_at dksJ2_add_2_0 11 rfl rfl)
theorem dJ2_add_2_12 : decode cJ2_add_2 12 = .ok (.iload_n 3, 1) := dk_29 (dk_at dksJ2_add_2_0 12 rfl rfl)
theorem dJ2_add_2_13 : decode cJ2_add_2 13 = .ok (.aload_n 1, 1) := dk_43 (dk_at dksJ2_add_2_0 13 rfl rfl)
theorem dJ2_add_2_14 : decode cJ2_add_2 14 = .ok (.aastore, 1) := dk_83 (dk_at dksJ2_add_2_0 14 rfl rfl)
theorem dJ2_add_2_15 : decode cJ2_add_2 15 = .ok (.aload_n 0, 1) := dk_42 (dk_at dksJ2_add_2_0 15 rfl rfl)
theorem dJ2_add_2_16 : decode cJ2_add_2 16 = .ok (.iload_n 3, 1) := dk_29 (dk_at dksJ2_add_2_0 16 rfl rfl)
theorem dJ2_add_2_17 : decode cJ2_add_2 17 = .ok (.iconst 1, 1) := dk_4 (dk_at dksJ2_add_2_0 17 rfl rfl)
theorem dJ2_add_2_18 : decode cJ2_add_2 18 = .ok (.iadd, 1) := dk_96 (dk_at dksJ2_add_2_0 18 rfl rfl)
theorem dJ2_add_2_19 : decode cJ2_add_2 19 = .ok (.putfield 48, 3) := dk_181 0 48 (dk_at dksJ2_add_2_0 19 rfl rfl)
theorem dJ2_add_2_22 : decode cJ2_add_2 22 = .ok (.return_, 1) := dk_177 (dk_at dksJ2_add_2_0 22 rfl rfl)
abbrev cJ2_grow_2 : ByteArray := prog_43_method_7_code
def yJ2_grow_2 : MethodName := ⟨RJ2, "grow", "()[Ljava/lang/Object;"⟩
def dkwJ2_grow_2_0 : List UInt8 := [42, 42, 180, 0, 48, 4, 96, 182, 0, 69, 176]
abbrev dktJ2_grow_2_0 : List UInt8 := dkwJ2_grow_2_0 ++ []
theorem dksJ2_grow_2_0 : cJ2_grow_2.data.toList.drop 0 = dktJ2_grow_2_0 := by decide +kernel
theorem dJ2_grow_2_0 : decode cJ2_grow_2 0 = .ok (.aload_n 0, 1) := dk_42 (dk_at dksJ2_grow_2_0 0 rfl rfl)
theorem dJ2_grow_2_1 : decode cJ2_grow_2 1 = .ok (.aload_n 0, 1) := dk_42 (dk_at dksJ2_grow_2_0 1 rfl rfl)
theorem dJ2_grow_2_2 : decode cJ2_grow_2 2 = .ok (.getfield 48, 3) := dk_180 0 48 (dk_at dksJ2_grow_2_0 2 rfl rfl)
theorem dJ2_grow_2_5 : decode cJ2_grow_2 5 = .ok (.iconst 1, 1) := dk_4 (dk_at dksJ2_grow_2_0 5 rfl rfl)
theorem dJ2_grow_2_6 : decode cJ2_grow_2 6 = .ok (.iadd, 1) := dk_96 (dk_at dksJ2_grow_2_0 6 rfl rfl)
theorem dJ2_grow_2_7 : decode cJ2_grow_2 7 = .ok (.invokevirtual 69, 3) := dk_182 0 69 (dk_at dksJ2_grow_2_0 7 rfl rfl)
theorem dJ2_grow_2_10 : decode cJ2_grow_2 10 = .ok (.areturn, 1) := dk_176 (dk_at dksJ2_grow_2_0 10 rfl rfl)
abbrev cJ2_set : ByteArray := prog_43_method_23_code
def yJ2_set : MethodName := ⟨RJ2, "set", "(ILjava/lang/Object;)Ljava/lang/Object;"⟩
def dkwJ2_set_0 : List UInt8 := [27, 42, 180, 0, 48, 184, 0, 118, 87, 42, 27, 182, 0, 123, 78, 42, 180, 0, 9, 27, 44, 83, 45, 176]
abbrev dktJ2_set_0 : List UInt8 := dkwJ2_set_0 ++ []
theorem dksJ2_set_0 : cJ2_set.data.toList.drop 0 = dktJ2_set_0 := by decide +kernel
theorem dJ2_set_0 : decode cJ2_set 0 = .ok (.iload_n 1, 1) := dk_27 (dk_at dksJ2_set_0 0 rfl rfl)
theorem dJ2_set_1 : decode cJ2_set 1 = .ok (.aload_n 0, 1) := dk_42 (dk_at dksJ2_set_0 1 rfl rfl)
theorem dJ2_set_2 : decode cJ2_set 2 = .ok (.getfield 48, 3) := dk_180 0 48 (dk_at dksJ2_set_0 2 rfl rfl)
theorem dJ2_set_5 : decode cJ2_set 5 = .ok (.invokestatic 118, 3) := dk_184 0 118 (dk_at dksJ2_set_0 5 rfl rfl)
theorem dJ2_set_8 : decode cJ2_set 8 = .ok (.pop, 1) := dk_87 (dk_at dksJ2_set_0 8 rfl rfl)
theorem dJ2_set_9 : decode cJ2_set 9 = .ok (.aload_n 0, 1) := dk_42 (dk_at dksJ2_set_0 9 rfl rfl)
theorem dJ2_set_10 : decode cJ2_set 10 = .ok (.iload_n 1, 1) := dk_27 (dk_at dksJ2_set_0 10 rfl rfl)
theorem dJ2_set_11 : decode cJ2_set 11 = .ok (.invokevirtual 123, 3) := dk_182 0 123 (dk_at dksJ2_set_0 11 rfl rfl)
theorem dJ2_set_14 : decode cJ2_set 14 = .ok (.astore_n 3, 1) := dk_78 (dk_at dksJ2_set_0 14 rfl rfl)
theorem dJ2_set_15 : decode cJ2_set 15 = .ok (.aload_n 0, 1) := dk_42 (dk_at dksJ2_set_0 15 rfl rfl)
theorem dJ2_set_16 : decode cJ2_set 16 = .ok (.getfield 9, 3) := dk_180 0 9 (dk_at dksJ2_set_0 16 rfl rfl)
theorem dJ2_set_19 : decode cJ2_set 19 = .ok (.iload_n 1, 1) := dk_27 (dk_at dksJ2_set_0 19 rfl rfl)
theorem dJ2_set_20 : decode cJ2_set 20 = .ok (.aload_n 2, 1) := dk_44 (dk_at dksJ2_set_0 20 rfl rfl)
theorem dJ2_set_21 : decode cJ2_set 21 = .ok (.aastore, 1) := dk_83 (dk_at dksJ2_set_0 21 rfl rfl)
theorem dJ2_set_22 : decode cJ2_set 22 = .ok (.aload_n 3, 1) := dk_45 (dk_at dksJ2_set_0 22 rfl rfl)
theorem dJ2_set_23 : decode cJ2_set 23 = .ok (.areturn, 1) := dk_176 (dk_at dksJ2_set_0 23 rfl rfl)
abbrev cJ2_isEmpty : ByteArray := prog_43_method_9_code
def yJ2_isEmpty : MethodName := ⟨RJ2, "isEmpty", "()Z"⟩
def dkwJ2_isEmpty_0 : List UInt8 := [42, 180, 0, 48, 154, 0, 7, 4, 167, 0, 4, 3, 172]
abbrev dktJ2_isEmpty_0 : List UInt8 := dkwJ2_isEmpty_0 ++ []
theorem dksJ2_isEmpty_0 : cJ2_isEmpty.data.toList.drop 0 = dktJ2_isEmpty_0 := by decide +kernel
theorem dJ2_isEmpty_0 : decode cJ2_isEmpty 0 = .ok (.aload_n 0, 1) := dk_42 (dk_at dksJ2_isEmpty_0 0 rfl rfl)
theorem dJ2_isEmpty_1 : decode cJ2_isEmpty 1 = .ok (.getfield 48, 3) := dk_180 0 48 (dk_at dksJ2_isEmpty_0 1 rfl rfl)
theorem dJ2_isEmpty_4 : decode cJ2_isEmpty 4 = .ok (.ifCond .ne 7, 3) := dk_154 0 7 (dk_at dksJ2_isEmpty_0 4 rfl rfl)
theorem dJ2_isEmpty_7 : decode cJ2_isEmpty 7 = .ok (.iconst 1, 1) := dk_4 (dk_at dksJ2_isEmpty_0 7 rfl rfl)
theorem dJ2_isEmpty_8 : decode cJ2_isEmpty 8 = .ok (.goto 4, 3) := dk_167 0 4 (dk_at dksJ2_isEmpty_0 8 rfl rfl)
theorem dJ2_isEmpty_11 : decode cJ2_isEmpty 11 = .ok (.iconst 0, 1) := dk_3 (dk_at dksJ2_isEmpty_0 11 rfl rfl)
theorem dJ2_isEmpty_12 : decode cJ2_isEmpty 12 = .ok (.ireturn, 1) := dk_172 (dk_at dksJ2_isEmpty_0 12 rfl rfl)
abbrev cJ2_remove : ByteArray := prog_43_method_29_code
def yJ2_remove : MethodName := ⟨RJ2, "remove", "(I)Ljava/lang/Object;"⟩
def dkwJ2_remove_1 : List UInt8 := [45, 176]
abbrev dktJ2_remove_1 : List UInt8 := dkwJ2_remove_1 ++ []
def dkwJ2_remove_0 : List UInt8 := [27, 42, 180, 0, 48, 184, 0, 118, 87, 42, 180, 0, 9, 77, 44, 27, 50, 78, 42, 44, 27, 182, 0, 144]
abbrev dktJ2_remove_0 : List UInt8 := dkwJ2_remove_0 ++ dktJ2_remove_1
theorem dksJ2_remove_0 : cJ2_remove.data.toList.drop 0 = dktJ2_remove_0 := by decide +kernel
theorem dksJ2_remove_1 : cJ2_remove.data.toList.drop 24 = dktJ2_remove_1 := dk_seg dksJ2_remove_0 24 rfl rfl
theorem dJ2_remove_0 : decode cJ2_remove 0 = .ok (.iload_n 1, 1) := dk_27 (dk_at dksJ2_remove_0 0 rfl rfl)
theorem dJ2_remove_1 : decode cJ2_remove 1 = .ok (.aload_n 0, 1) := dk_42 (dk_at dksJ2_remove_0 1 rfl rfl)
theorem dJ2_remove_2 : decode cJ2_remove 2 = .ok (.getfield 48, 3) := dk_180 0 48 (dk_at dksJ2_remove_0 2 rfl rfl)
theorem dJ2_remove_5 : decode cJ2_remove 5 = .ok (.invokestatic 118, 3) := dk_184 0 118 (dk_at dksJ2_remove_0 5 rfl rfl)
theorem dJ2_remove_8 : decode cJ2_remove 8 = .ok (.pop, 1) := dk_87 (dk_at dksJ2_remove_0 8 rfl rfl)
theorem dJ2_remove_9 : decode cJ2_remove 9 = .ok (.aload_n 0, 1) := dk_42 (dk_at dksJ2_remove_0 9 rfl rfl)
theorem dJ2_remove_10 : decode cJ2_remove 10 = .ok (.getfield 9, 3) := dk_180 0 9 (dk_at dksJ2_remove_0 10 rfl rfl)
theorem dJ2_remove_13 : decode cJ2_remove 13 = .ok (.astore_n 2, 1) := dk_77 (dk_at dksJ2_remove_0 13 rfl rfl)
theorem dJ2_remove_14 : decode cJ2_remove 14 = .ok (.aload_n 2, 1) := dk_44 (dk_at dksJ2_remove_0 14 rfl rfl)
theorem dJ2_remove_15 : decode cJ2_remove 15 = .ok (.iload_n 1, 1) := dk_27 (dk_at dksJ2_remove_0 15 rfl rfl)
theorem dJ2_remove_16 : decode cJ2_remove 16 = .ok (.aaload, 1) := dk_50 (dk_at dksJ2_remove_0 16 rfl rfl)
theorem dJ2_remove_17 : decode cJ2_remove 17 = .ok (.astore_n 3, 1) := dk_78 (dk_at dksJ2_remove_0 17 rfl rfl)
theorem dJ2_remove_18 : decode cJ2_remove 18 = .ok (.aload_n 0, 1) := dk_42 (dk_at dksJ2_remove_0 18 rfl rfl)
theorem dJ2_remove_19 : decode cJ2_remove 19 = .ok (.aload_n 2, 1) := dk_44 (dk_at dksJ2_remove_0 19 rfl rfl)
theorem dJ2_remove_20 : decode cJ2_remove 20 = .ok (.iload_n 1, 1) := dk_27 (dk_at dksJ2_remove_0 20 rfl rfl)
theorem dJ2_remove_21 : decode cJ2_remove 21 = .ok (.invokevirtual 144, 3) := dk_182 0 144 (dk_at dksJ2_remove_0 21 rfl rfl)
theorem dJ2_remove_24 : decode cJ2_remove 24 = .ok (.aload_n 3, 1) := dk_45 (dk_at dksJ2_remove_1 0 rfl rfl)
theorem dJ2_remove_25 : decode cJ2_remove 25 = .ok (.areturn, 1) := dk_176 (dk_at dksJ2_remove_1 1 rfl rfl)
abbrev cJ2_fastRemove : ByteArray := prog_43_method_39_code
def yJ2_fastRemove : MethodName := ⟨RJ2, "fastRemove", "([Ljava/lang/Object;I)V"⟩
def dkwJ2_fastRemove_1 : List UInt8 := [4, 96, 43, 28, 29, 28, 100, 184, 0, 112, 43, 42, 29, 90, 181, 0, 48, 1, 83, 177]
abbrev dktJ2_fastRemove_1 : List UInt8 := dkwJ2_fastRemove_1 ++ []
def dkwJ2_fastRemove_0 : List UInt8 := [42, 89, 180, 0, 63, 4, 96, 181, 0, 63, 42, 180, 0, 48, 4, 100, 89, 62, 28, 164, 0, 15, 43, 28]
abbrev dktJ2_fastRemove_0 : List UInt8 := dkwJ2_fastRemove_0 ++ dktJ2_fastRemove_1
theorem dksJ2_fastRemove_0 : cJ2_fastRemove.data.toList.drop 0 = dktJ2_fastRemove_0 := by decide +kernel
theorem dksJ2_fastRemove_1 : cJ2_fastRemove.data.toList.drop 24 = dktJ2_fastRemove_1 := dk_seg dksJ2_fastRemove_0 24 rfl rfl
theorem dJ2_fastRemove_0 : decode cJ2_fastRemove 0 = .ok (.aload_n 0, 1) := dk_42 (dk_at dksJ2_fastRemove_0 0 rfl rfl)
theorem dJ2_fastRemove_1 : decode cJ2_fastRemove 1 = .ok (.dup, 1) := dk_89 (dk_at dksJ2_fastRemove_0 1 rfl rfl)
theorem dJ2_fastRemove_2 : decode cJ2_fastRemove 2 = .ok (.getfield 63, 3) := dk_180 0 63 (dk_at dksJ2_fastRemove_0 2 rfl rfl)
theorem dJ2_fastRemove_5 : decode cJ2_fastRemove 5 = .ok (.iconst 1, 1) := dk_4 (dk_at dksJ2_fastRemove_0 5 rfl rfl)
theorem dJ2_fastRemove_6 : decode cJ2_fastRemove 6 = .ok (.iadd, 1) := dk_96 (dk_at dksJ2_fastRemove_0 6 rfl rfl)
theorem dJ2_fastRemove_7 : decode cJ2_fastRemove 7 = .ok (.putfield 63, 3) := dk_181 0 63 (dk_at dksJ2_fastRemove_0 7 rfl rfl)
theorem dJ2_fastRemove_10 : decode cJ2_fastRemove 10 = .ok (.aload_n 0, 1) := dk_42 (dk_at dksJ2_fastRemove_0 10 rfl rfl)
theorem dJ2_fastRemove_11 : decode cJ2_fastRemove 11 = .ok (.getfield 48, 3) := dk_180 0 48 (dk_at dksJ2_fastRemove_0 11 rfl rfl)
theorem dJ2_fastRemove_14 : decode cJ2_fastRemove 14 = .ok (.iconst 1, 1) := dk_4 (dk_at dksJ2_fastRemove_0 14 rfl rfl)
theorem dJ2_fastRemove_15 : decode cJ2_fastRemove 15 = .ok (.isub, 1) := dk_100 (dk_at dksJ2_fastRemove_0 15 rfl rfl)
theorem dJ2_fastRemove_16 : decode cJ2_fastRemove 16 = .ok (.dup, 1) := dk_89 (dk_at dksJ2_fastRemove_0 16 rfl rfl)
theorem dJ2_fastRemove_17 : decode cJ2_fastRemove 17 = .ok (.istore_n 3, 1) := dk_62 (dk_at dksJ2_fastRemove_0 17 rfl rfl)
theorem dJ2_fastRemove_18 : decode cJ2_fastRemove 18 = .ok (.iload_n 2, 1) := dk_28 (dk_at dksJ2_fastRemove_0 18 rfl rfl)
theorem dJ2_fastRemove_19 : decode cJ2_fastRemove 19 = .ok (.if_icmp .le 15, 3) := dk_164 0 15 (dk_at dksJ2_fastRemove_0 19 rfl rfl)
theorem dJ2_fastRemove_22 : decode cJ2_fastRemove 22 = .ok (.aload_n 1, 1) := dk_43 (dk_at dksJ2_fastRemove_0 22 rfl rfl)
theorem dJ2_fastRemove_23 : decode cJ2_fastRemove 23 = .ok (.iload_n 2, 1) := dk_28 (dk_at dksJ2_fastRemove_0 23 rfl rfl)
theorem dJ2_fastRemove_24 : decode cJ2_fastRemove 24 = .ok (.iconst 1, 1) := dk_4 (dk_at dksJ2_fastRemove_1 0 rfl rfl)
theorem dJ2_fastRemove_25 : decode cJ2_fastRemove 25 = .ok (.iadd, 1) := dk_96 (dk_at dksJ2_fastRemove_1 1 rfl rfl)
theorem dJ2_fastRemove_26 : decode cJ2_fastRemove 26 = .ok (.aload_n 1, 1) := dk_43 (dk_at dksJ2_fastRemove_1 2 rfl rfl)
theorem dJ2_fastRemove_27 : decode cJ2_fastRemove 27 = .ok (.iload_n 2, 1) := dk_28 (dk_at dksJ2_fastRemove_1 3 rfl rfl)
theorem dJ2_fastRemove_28 : decode cJ2_fastRemove 28 = .ok (.iload_n 3, 1) := dk_29 (dk_at dksJ2_fastRemove_1 4 rfl rfl)
theorem dJ2_fastRemove_29 : decode cJ2_fastRemove 29 = .ok (.iload_n 2, 1) := dk_28 (dk_at dksJ2_fastRemove_1 5 rfl rfl)
theorem dJ2_fastRemove_30 : decode cJ2_fastRemove 30 = .ok (.isub, 1) := dk_100 (dk_at dksJ2_fastRemove_1 6 rfl rfl)
theorem dJ2_fastRemove_31 : decode cJ2_fastRemove 31 = .ok (.invokestatic 112, 3) := dk_184 0 112 (dk_at dksJ2_fastRemove_1 7 rfl rfl)
theorem dJ2_fastRemove_34 : decode cJ2_fastRemove 34 = .ok (.aload_n 1, 1) := dk_43 (dk_at dksJ2_fastRemove_1 10 rfl rfl)
theorem dJ2_fastRemove_35 : decode cJ2_fastRemove 35 = .ok (.aload_n 0, 1) := dk_42 (dk_at dksJ2_fastRemove_1 11 rfl rfl)
theorem dJ2_fastRemove_36 : decode cJ2_fastRemove 36 = .ok (.iload_n 3, 1) := dk_29 (dk_at dksJ2_fastRemove_1 12 rfl rfl)
theorem dJ2_fastRemove_37 : decode cJ2_fastRemove 37 = .ok (.dup_x1, 1) := dk_90 (dk_at dksJ2_fastRemove_1 13 rfl rfl)
theorem dJ2_fastRemove_38 : decode cJ2_fastRemove 38 = .ok (.putfield 48, 3) := dk_181 0 48 (dk_at dksJ2_fastRemove_1 14 rfl rfl)
theorem dJ2_fastRemove_41 : decode cJ2_fastRemove 41 = .ok (.aconst_null, 1) := dk_1 (dk_at dksJ2_fastRemove_1 17 rfl rfl)
theorem dJ2_fastRemove_42 : decode cJ2_fastRemove 42 = .ok (.aastore, 1) := dk_83 (dk_at dksJ2_fastRemove_1 18 rfl rfl)
theorem dJ2_fastRemove_43 : decode cJ2_fastRemove 43 = .ok (.return_, 1) := dk_177 (dk_at dksJ2_fastRemove_1 19 rfl rfl)
theorem q117 : (Jvm.Cond.initialized "java/util/ArrayList") ∈ lw_all := lw_g (lw_at lw_m1 6 rfl) rfl
theorem q191 : (Jvm.Cond.instantiable "java/util/ArrayList" (3 : Nat)) ∈ lw_all := lw_g (lw_at lw_m1 80 rfl) rfl
theorem q193 : (Jvm.Cond.instanceMethod ({ cls := "java/util/ArrayList", name := "<init>", desc := "(I)V" } : Jvm.MethodName)) ∈ lw_all := lw_g (lw_at lw_m1 82 rfl) rfl
theorem q194 : (Jvm.Cond.code ({ cls := "java/util/ArrayList", name := "<init>", desc := "(I)V" } : Jvm.MethodName) prog_43_method_1_code (2 : Nat) (Option.none : Option Jvm.ClassFile.FieldType)) ∈ lw_all := lw_g (lw_at lw_m1 83 rfl) rfl
theorem q195 : (Jvm.Cond.methodLink "java/util/ArrayList" (1 : Nat) ({ cls := "java/util/AbstractList", name := "<init>", desc := "()V" } : Jvm.MethodName)) ∈ lw_all := lw_g (lw_at lw_m1 84 rfl) rfl
theorem q202 : (Jvm.Cond.classLink "java/util/ArrayList" (7 : Nat) "java/lang/Object") ∈ lw_all := lw_g (lw_at lw_m1 91 rfl) rfl
theorem q204 : (Jvm.Cond.fieldLink "java/util/ArrayList" (15 : Nat) "java/util/ArrayList" "EMPTY_ELEMENTDATA" "[Ljava/lang/Object;") ∈ lw_all := lw_g (lw_at lw_m1 93 rfl) rfl
theorem q205 : (Jvm.Cond.laysStatic "java/util/ArrayList" "EMPTY_ELEMENTDATA" "[Ljava/lang/Object;") ∈ lw_tbl := lw_at lw_m1 94 rfl
theorem q206 : (Jvm.Cond.fieldLink "java/util/ArrayList" (9 : Nat) "java/util/ArrayList" "elementData" "[Ljava/lang/Object;") ∈ lw_all := lw_g (lw_at lw_m1 95 rfl) rfl
theorem q207 : (Jvm.Cond.fieldLink "java/util/ArrayList" (48 : Nat) "java/util/ArrayList" "size" "I") ∈ lw_all := lw_g (lw_at lw_m1 96 rfl) rfl
theorem q209 : (Jvm.Cond.fieldLink "java/util/ArrayList" (63 : Nat) "java/util/ArrayList" "modCount" "I") ∈ lw_all := lw_g (lw_at lw_m1 98 rfl) rfl
theorem q210 : (Jvm.Cond.sameField "java/util/ArrayList" "java/util/AbstractList" "modCount" "I") ∈ lw_all := lw_g (lw_at lw_m1 99 rfl) rfl
theorem q211 : (Jvm.Cond.lays "java/util/ArrayList" "java/util/ArrayList" "elementData" "[Ljava/lang/Object;") ∈ lw_all := lw_g (lw_at lw_m1 100 rfl) rfl
theorem q212 : (Jvm.Cond.soleField "java/util/ArrayList" "elementData") ∈ lw_all := lw_g (lw_at lw_m1 101 rfl) rfl
theorem q213 : (Jvm.Cond.lays "java/util/ArrayList" "java/util/ArrayList" "size" "I") ∈ lw_all := lw_g (lw_at lw_m1 102 rfl) rfl
theorem q214 : (Jvm.Cond.soleField "java/util/ArrayList" "size") ∈ lw_all := lw_g (lw_at lw_m1 103 rfl) rfl
theorem q215 : (Jvm.Cond.lays "java/util/ArrayList" "java/util/AbstractList" "modCount" "I") ∈ lw_all := lw_g (lw_at lw_m1 104 rfl) rfl
theorem q217 : (Jvm.Cond.superclass "java/util/ArrayList" "java/util/AbstractList") ∈ lw_all := lw_g (lw_at lw_m1 106 rfl) rfl
theorem q618 : (Jvm.Cond.instanceMethod ({ cls := "java/util/ArrayList", name := "clear", desc := "()V" } : Jvm.MethodName)) ∈ lw_all := lw_g (lw_at lw_m3 27 rfl) rfl
theorem q619 : (Jvm.Cond.selects "java/util/ArrayList" ({ cls := "java/util/ArrayList", name := "clear", desc := "()V" } : Jvm.MethodName) ({ cls := "java/util/ArrayList", name := "clear", desc := "()V" } : Jvm.MethodName)) ∈ lw_all := lw_g (lw_at lw_m3 28 rfl) rfl
theorem q620 : (Jvm.Cond.code ({ cls := "java/util/ArrayList", name := "clear", desc := "()V" } : Jvm.MethodName) prog_43_method_40_code (4 : Nat) (Option.none : Option Jvm.ClassFile.FieldType)) ∈ lw_all := lw_g (lw_at lw_m3 29 rfl) rfl
theorem q622 : (Jvm.Cond.instanceMethod ({ cls := "java/util/ArrayList", name := "addAll", desc := "(Ljava/util/Collection;)Z" } : Jvm.MethodName)) ∈ lw_all := lw_g (lw_at lw_m3 31 rfl) rfl
theorem q623 : (Jvm.Cond.selects "java/util/ArrayList" ({ cls := "java/util/ArrayList", name := "addAll", desc := "(Ljava/util/Collection;)Z" } : Jvm.MethodName) ({ cls := "java/util/ArrayList", name := "addAll", desc := "(Ljava/util/Collection;)Z" } : Jvm.MethodName)) ∈ lw_all := lw_g (lw_at lw_m3 32 rfl) rfl
theorem q624 : (Jvm.Cond.code ({ cls := "java/util/ArrayList", name := "addAll", desc := "(Ljava/util/Collection;)Z" } : Jvm.MethodName) prog_43_method_41_code (6 : Nat) (Option.some Jvm.ClassFile.FieldType.boolean)) ∈ lw_all := lw_g (lw_at lw_m3 33 rfl) rfl
theorem q625 : (Jvm.Cond.interfaceEntry "java/util/ArrayList" (42 : Nat)) ∈ lw_tbl := lw_at lw_m3 34 rfl
theorem q626 : (Jvm.Cond.methodLink "java/util/ArrayList" (42 : Nat) ({ cls := "java/util/Collection", name := "toArray", desc := "()[Ljava/lang/Object;" } : Jvm.MethodName)) ∈ lw_all := lw_g (lw_at lw_m3 35 rfl) rfl
theorem q629 : (Jvm.Cond.castable "java/util/ArrayList" "java/util/Collection") ∈ lw_tbl := lw_at lw_m3 38 rfl
theorem q630 : (Jvm.Cond.selects "java/util/ArrayList" ({ cls := "java/util/Collection", name := "toArray", desc := "()[Ljava/lang/Object;" } : Jvm.MethodName) ({ cls := "java/util/ArrayList", name := "toArray", desc := "()[Ljava/lang/Object;" } : Jvm.MethodName)) ∈ lw_all := lw_g (lw_at lw_m3 39 rfl) rfl
theorem q631 : (Jvm.Cond.unhidden "java/util/ArrayList" "toArray" "()[Ljava/lang/Object;") ∈ lw_tbl := lw_at lw_m3 40 rfl
theorem q632 : (Jvm.Cond.instanceMethod ({ cls := "java/util/ArrayList", name := "toArray", desc := "()[Ljava/lang/Object;" } : Jvm.MethodName)) ∈ lw_all := lw_g (lw_at lw_m3 41 rfl) rfl
theorem q633 : (Jvm.Cond.publicMethod ({ cls := "java/util/ArrayList", name := "toArray", desc := "()[Ljava/lang/Object;" } : Jvm.MethodName)) ∈ lw_tbl := lw_at lw_m3 42 rfl
theorem q634 : (Jvm.Cond.code ({ cls := "java/util/ArrayList", name := "toArray", desc := "()[Ljava/lang/Object;" } : Jvm.MethodName) prog_43_method_16_code (1 : Nat) (Option.some (Jvm.ClassFile.FieldType.array (Jvm.ClassFile.FieldType.object "java/lang/Object")))) ∈ lw_all := lw_g (lw_at lw_m3 43 rfl) rfl
theorem q635 : (Jvm.Cond.methodLink "java/util/ArrayList" (66 : Nat) ({ cls := "java/util/Arrays", name := "copyOf", desc := "([Ljava/lang/Object;I)[Ljava/lang/Object;" } : Jvm.MethodName)) ∈ lw_all := lw_g (lw_at lw_m3 44 rfl) rfl
theorem q666 : (Jvm.Cond.selects "java/util/ArrayList" ({ cls := "java/lang/Object", name := "getClass", desc := "()Ljava/lang/Class;" } : Jvm.MethodName) ({ cls := "java/lang/Object", name := "getClass", desc := "()Ljava/lang/Class;" } : Jvm.MethodName)) ∈ lw_all := lw_g (lw_at lw_m3 75 rfl) rfl
theorem q677 : (Jvm.Cond.methodLink "java/util/ArrayList" (69 : Nat) ({ cls := "java/util/ArrayList", name := "grow", desc := "(I)[Ljava/lang/Object;" } : Jvm.MethodName)) ∈ lw_all := lw_g (lw_at lw_m3 86 rfl) rfl
theorem q678 : (Jvm.Cond.privateMethod ({ cls := "java/util/ArrayList", name := "grow", desc := "(I)[Ljava/lang/Object;" } : Jvm.MethodName)) ∈ lw_tbl := lw_at lw_m3 87 rfl
theorem q679 : (Jvm.Cond.instanceMethod ({ cls := "java/util/ArrayList", name := "grow", desc := "(I)[Ljava/lang/Object;" } : Jvm.MethodName)) ∈ lw_all := lw_g (lw_at lw_m3 88 rfl) rfl
theorem q680 : (Jvm.Cond.code ({ cls := "java/util/ArrayList", name := "grow", desc := "(I)[Ljava/lang/Object;" } : Jvm.MethodName) prog_43_method_6_code (4 : Nat) (Option.some (Jvm.ClassFile.FieldType.array (Jvm.ClassFile.FieldType.object "java/lang/Object")))) ∈ lw_all := lw_g (lw_at lw_m3 89 rfl) rfl
theorem q681 : (Jvm.Cond.fieldLink "java/util/ArrayList" (39 : Nat) "java/util/ArrayList" "DEFAULTCAPACITY_EMPTY_ELEMENTDATA" "[Ljava/lang/Object;") ∈ lw_all := lw_g (lw_at lw_m3 90 rfl) rfl
theorem q682 : (Jvm.Cond.laysStatic "java/util/ArrayList" "DEFAULTCAPACITY_EMPTY_ELEMENTDATA" "[Ljava/lang/Object;") ∈ lw_tbl := lw_at lw_m3 91 rfl
theorem q683 : (Jvm.Cond.methodLink "java/util/ArrayList" (73 : Nat) ({ cls := "jdk/internal/util/ArraysSupport", name := "newLength", desc := "(III)I" } : Jvm.MethodName)) ∈ lw_all := lw_g (lw_at lw_m3 92 rfl) rfl
theorem q693 : (Jvm.Cond.methodLink "java/util/ArrayList" (79 : Nat) ({ cls := "java/lang/Math", name := "max", desc := "(II)I" } : Jvm.MethodName)) ∈ lw_all := lw_g (lw_at lw_m3 102 rfl) rfl
theorem q694 : (Jvm.Cond.methodLink "java/util/ArrayList" (112 : Nat) ({ cls := "java/lang/System", name := "arraycopy", desc := "(Ljava/lang/Object;ILjava/lang/Object;II)V" } : Jvm.MethodName)) ∈ lw_all := lw_g (lw_at lw_m3 103 rfl) rfl
theorem q757 : (Jvm.Cond.instanceMethod ({ cls := "java/util/ArrayList", name := "size", desc := "()I" } : Jvm.MethodName)) ∈ lw_all := lw_g (lw_at lw_m3 166 rfl) rfl
theorem q758 : (Jvm.Cond.selects "java/util/ArrayList" ({ cls := "java/util/ArrayList", name := "size", desc := "()I" } : Jvm.MethodName) ({ cls := "java/util/ArrayList", name := "size", desc := "()I" } : Jvm.MethodName)) ∈ lw_all := lw_g (lw_at lw_m3 167 rfl) rfl
theorem q759 : (Jvm.Cond.code ({ cls := "java/util/ArrayList", name := "size", desc := "()I" } : Jvm.MethodName) prog_43_method_8_code (1 : Nat) (Option.some Jvm.ClassFile.FieldType.int)) ∈ lw_all := lw_g (lw_at lw_m3 168 rfl) rfl
theorem q761 : (Jvm.Cond.instanceMethod ({ cls := "java/util/ArrayList", name := "get", desc := "(I)Ljava/lang/Object;" } : Jvm.MethodName)) ∈ lw_all := lw_g (lw_at lw_m3 170 rfl) rfl
theorem q762 : (Jvm.Cond.selects "java/util/ArrayList" ({ cls := "java/util/ArrayList", name := "get", desc := "(I)Ljava/lang/Object;" } : Jvm.MethodName) ({ cls := "java/util/ArrayList", name := "get", desc := "(I)Ljava/lang/Object;" } : Jvm.MethodName)) ∈ lw_all := lw_g (lw_at lw_m3 171 rfl) rfl
theorem q763 : (Jvm.Cond.code ({ cls := "java/util/ArrayList", name := "get", desc := "(I)Ljava/lang/Object;" } : Jvm.MethodName) prog_43_method_20_code (2 : Nat) (Option.some (Jvm.ClassFile.FieldType.object "java/lang/Object"))) ∈ lw_all := lw_g (lw_at lw_m3 172 rfl) rfl
theorem q764 : (Jvm.Cond.methodLink "java/util/ArrayList" (118 : Nat) ({ cls := "java/util/Objects", name := "checkIndex", desc := "(II)I" } : Jvm.MethodName)) ∈ lw_all := lw_g (lw_at lw_m3 173 rfl) rfl
theorem q770 : (Jvm.Cond.methodLink "java/util/ArrayList" (123 : Nat) ({ cls := "java/util/ArrayList", name := "elementData", desc := "(I)Ljava/lang/Object;" } : Jvm.MethodName)) ∈ lw_all := lw_g (lw_at lw_m3 179 rfl) rfl
theorem q771 : (Jvm.Cond.instanceMethod ({ cls := "java/util/ArrayList", name := "elementData", desc := "(I)Ljava/lang/Object;" } : Jvm.MethodName)) ∈ lw_all := lw_g (lw_at lw_m3 180 rfl) rfl
theorem q772 : (Jvm.Cond.selects "java/util/ArrayList" ({ cls := "java/util/ArrayList", name := "elementData", desc := "(I)Ljava/lang/Object;" } : Jvm.MethodName) ({ cls := "java/util/ArrayList", name := "elementData", desc := "(I)Ljava/lang/Object;" } : Jvm.MethodName)) ∈ lw_all := lw_g (lw_at lw_m3 181 rfl) rfl
theorem q773 : (Jvm.Cond.code ({ cls := "java/util/ArrayList", name := "elementData", desc := "(I)Ljava/lang/Object;" } : Jvm.MethodName) prog_43_method_18_code (2 : Nat) (Option.some (Jvm.ClassFile.FieldType.object "java/lang/Object"))) ∈ lw_all := lw_g (lw_at lw_m3 182 rfl) rfl
theorem q800 : (Jvm.Cond.instanceMethod ({ cls := "java/util/ArrayList", name := "add", desc := "(Ljava/lang/Object;)Z" } : Jvm.MethodName)) ∈ lw_all := lw_g (lw_at lw_m3 209 rfl) rfl
theorem q801 : (Jvm.Cond.selects "java/util/ArrayList" ({ cls := "java/util/ArrayList", name := "add", desc := "(Ljava/lang/Object;)Z" } : Jvm.MethodName) ({ cls := "java/util/ArrayList", name := "add", desc := "(Ljava/lang/Object;)Z" } : Jvm.MethodName)) ∈ lw_all := lw_g (lw_at lw_m3 210 rfl) rfl
theorem q802 : (Jvm.Cond.code ({ cls := "java/util/ArrayList", name := "add", desc := "(Ljava/lang/Object;)Z" } : Jvm.MethodName) prog_43_method_25_code (2 : Nat) (Option.some Jvm.ClassFile.FieldType.boolean)) ∈ lw_all := lw_g (lw_at lw_m3 211 rfl) rfl
theorem q803 : (Jvm.Cond.methodLink "java/util/ArrayList" (131 : Nat) ({ cls := "java/util/ArrayList", name := "add", desc := "(Ljava/lang/Object;[Ljava/lang/Object;I)V" } : Jvm.MethodName)) ∈ lw_all := lw_g (lw_at lw_m3 212 rfl) rfl
theorem q804 : (Jvm.Cond.privateMethod ({ cls := "java/util/ArrayList", name := "add", desc := "(Ljava/lang/Object;[Ljava/lang/Object;I)V" } : Jvm.MethodName)) ∈ lw_tbl := lw_at lw_m3 213 rfl
theorem q805 : (Jvm.Cond.instanceMethod ({ cls := "java/util/ArrayList", name := "add", desc := "(Ljava/lang/Object;[Ljava/lang/Object;I)V" } : Jvm.MethodName)) ∈ lw_all := lw_g (lw_at lw_m3 214 rfl) rfl
theorem q806 : (Jvm.Cond.code ({ cls := "java/util/ArrayList", name := "add", desc := "(Ljava/lang/Object;[Ljava/lang/Object;I)V" } : Jvm.MethodName) prog_43_method_24_code (4 : Nat) (Option.none : Option Jvm.ClassFile.FieldType)) ∈ lw_all := lw_g (lw_at lw_m3 215 rfl) rfl
theorem q807 : (Jvm.Cond.methodLink "java/util/ArrayList" (129 : Nat) ({ cls := "java/util/ArrayList", name := "grow", desc := "()[Ljava/lang/Object;" } : Jvm.MethodName)) ∈ lw_all := lw_g (lw_at lw_m3 216 rfl) rfl
theorem q808 : (Jvm.Cond.privateMethod ({ cls := "java/util/ArrayList", name := "grow", desc := "()[Ljava/lang/Object;" } : Jvm.MethodName)) ∈ lw_tbl := lw_at lw_m3 217 rfl
theorem q809 : (Jvm.Cond.instanceMethod ({ cls := "java/util/ArrayList", name := "grow", desc := "()[Ljava/lang/Object;" } : Jvm.MethodName)) ∈ lw_all := lw_g (lw_at lw_m3 218 rfl) rfl
theorem q810 : (Jvm.Cond.code ({ cls := "java/util/ArrayList", name := "grow", desc := "()[Ljava/lang/Object;" } : Jvm.MethodName) prog_43_method_7_code (1 : Nat) (Option.some (Jvm.ClassFile.FieldType.array (Jvm.ClassFile.FieldType.object "java/lang/Object")))) ∈ lw_all := lw_g (lw_at lw_m3 219 rfl) rfl
theorem q820 : (Jvm.Cond.instanceMethod ({ cls := "java/util/ArrayList", name := "set", desc := "(ILjava/lang/Object;)Ljava/lang/Object;" } : Jvm.MethodName)) ∈ lw_all := lw_g (lw_at lw_m3 229 rfl) rfl
theorem q821 : (Jvm.Cond.selects "java/util/ArrayList" ({ cls := "java/util/ArrayList", name := "set", desc := "(ILjava/lang/Object;)Ljava/lang/Object;" } : Jvm.MethodName) ({ cls := "java/util/ArrayList", name := "set", desc := "(ILjava/lang/Object;)Ljava/lang/Object;" } : Jvm.MethodName)) ∈ lw_all := lw_g (lw_at lw_m3 230 rfl) rfl
theorem q822 : (Jvm.Cond.code ({ cls := "java/util/ArrayList", name := "set", desc := "(ILjava/lang/Object;)Ljava/lang/Object;" } : Jvm.MethodName) prog_43_method_23_code (4 : Nat) (Option.some (Jvm.ClassFile.FieldType.object "java/lang/Object"))) ∈ lw_all := lw_g (lw_at lw_m3 231 rfl) rfl
theorem q1524 : (Jvm.Cond.instanceMethod ({ cls := "java/util/ArrayList", name := "isEmpty", desc := "()Z" } : Jvm.MethodName)) ∈ lw_all := lw_g (lw_at lw_m6 213 rfl) rfl
theorem q1525 : (Jvm.Cond.selects "java/util/ArrayList" ({ cls := "java/util/ArrayList", name := "isEmpty", desc := "()Z" } : Jvm.MethodName) ({ cls := "java/util/ArrayList", name := "isEmpty", desc := "()Z" } : Jvm.MethodName)) ∈ lw_all := lw_g (lw_at lw_m6 214 rfl) rfl
theorem q1526 : (Jvm.Cond.code ({ cls := "java/util/ArrayList", name := "isEmpty", desc := "()Z" } : Jvm.MethodName) prog_43_method_9_code (1 : Nat) (Option.some Jvm.ClassFile.FieldType.boolean)) ∈ lw_all := lw_g (lw_at lw_m6 215 rfl) rfl
theorem q1528 : (Jvm.Cond.instanceMethod ({ cls := "java/util/ArrayList", name := "remove", desc := "(I)Ljava/lang/Object;" } : Jvm.MethodName)) ∈ lw_all := lw_g (lw_at lw_m6 217 rfl) rfl
theorem q1529 : (Jvm.Cond.selects "java/util/ArrayList" ({ cls := "java/util/ArrayList", name := "remove", desc := "(I)Ljava/lang/Object;" } : Jvm.MethodName) ({ cls := "java/util/ArrayList", name := "remove", desc := "(I)Ljava/lang/Object;" } : Jvm.MethodName)) ∈ lw_all := lw_g (lw_at lw_m6 218 rfl) rfl
theorem q1530 : (Jvm.Cond.code ({ cls := "java/util/ArrayList", name := "remove", desc := "(I)Ljava/lang/Object;" } : Jvm.MethodName) prog_43_method_29_code (4 : Nat) (Option.some (Jvm.ClassFile.FieldType.object "java/lang/Object"))) ∈ lw_all := lw_g (lw_at lw_m6 219 rfl) rfl
theorem q1531 : (Jvm.Cond.methodLink "java/util/ArrayList" (144 : Nat) ({ cls := "java/util/ArrayList", name := "fastRemove", desc := "([Ljava/lang/Object;I)V" } : Jvm.MethodName)) ∈ lw_all := lw_g (lw_at lw_m6 220 rfl) rfl
theorem q1532 : (Jvm.Cond.privateMethod ({ cls := "java/util/ArrayList", name := "fastRemove", desc := "([Ljava/lang/Object;I)V" } : Jvm.MethodName)) ∈ lw_tbl := lw_at lw_m6 221 rfl
theorem q1533 : (Jvm.Cond.instanceMethod ({ cls := "java/util/ArrayList", name := "fastRemove", desc := "([Ljava/lang/Object;I)V" } : Jvm.MethodName)) ∈ lw_all := lw_g (lw_at lw_m6 222 rfl) rfl
theorem q1534 : (Jvm.Cond.code ({ cls := "java/util/ArrayList", name := "fastRemove", desc := "([Ljava/lang/Object;I)V" } : Jvm.MethodName) prog_43_method_39_code (4 : Nat) (Option.none : Option Jvm.ClassFile.FieldType)) ∈ lw_all := lw_g (lw_at lw_m6 223 rfl) rfl
theorem q2602 : (Jvm.Cond.castable "java/util/ArrayList" "java/lang/Object") ∈ lw_tbl := lw_at lw_m11 91 rfl
theorem in_J2 : ∀ w ∈ wsJ20, w ∈ lw_all := lw_in wsJ20 [215, 211, 213] (by decide +kernel) (by decide +kernel)
/-! java/lang/Throwable -/
def RJ3 : String := "java/lang/Throwable"
def TJ3 : u_T := fun k => match k with
  | 0 => ("java/lang/Throwable", "cause", "Ljava/lang/Throwable;", false)
  | 1 => ("java/lang/Throwable", "stackTrace", "[Ljava/lang/StackTraceElement;", false)
  | 2 => ("java/lang/Throwable", "suppressedExceptions", "Ljava/util/List;", false)
  | 3 => ("java/lang/Throwable", "detailMessage", "Ljava/lang/String;", false)
  | _ => ("java/lang/Throwable", "backtrace", "Ljava/lang/Object;", false)
def tyJ3 : Nat → FieldType := fun k => match k with
  | 0 => .object "java/lang/Throwable"
  | 1 => .array (.object "java/lang/StackTraceElement")
  | 2 => .object "java/util/List"
  | 3 => .object "java/lang/String"
  | _ => .object "java/lang/Object"
abbrev wsJ30 : List Cond := u_ws RJ3 TJ3 5
theorem nmJ3 : ∀ a, a < 5 → ∀ b, b < 5 → a ≠ b → (TJ3 a).2.1 ≠ (TJ3 b).2.1 := by decide +kernel
theorem tyJ3_ok : ∀ k, k < 5 → parseFieldDescriptor (TJ3 k).2.2.1 = some (tyJ3 k) := by decide +kernel
abbrev cJ3_init : ByteArray := prog_40_method_1_code
def yJ3_init : MethodName := ⟨RJ3, "<init>", "()V"⟩
def dkwJ3_init_1 : List UInt8 := [182, 0, 27, 87, 177]
abbrev dktJ3_init_1 : List UInt8 := dkwJ3_init_1 ++ []
def dkwJ3_init_0 : List UInt8 := [42, 183, 0, 1, 42, 42, 181, 0, 7, 42, 178, 0, 13, 181, 0, 17, 42, 178, 0, 20, 181, 0, 24, 42]
abbrev dktJ3_init_0 : List UInt8 := dkwJ3_init_0 ++ dktJ3_init_1
theorem dksJ3_init_0 : cJ3_init.data.toList.drop 0 = dktJ3_init_0 := by decide +kernel
theorem dksJ3_init_1 : cJ3_init.data.toList.drop 24 = dktJ3_init_1 := dk_seg dksJ3_init_0 24 rfl rfl
theorem dJ3_init_0 : decode cJ3_init 0 = .ok (.aload_n 0, 1) := dk_42 (dk_at dksJ3_init_0 0 rfl rfl)
theorem dJ3_init_1 : decode cJ3_init 1 = .ok (.invokespecial 1, 3) := dk_183 0 1 (dk_at dksJ3_init_0 1 rfl rfl)
theorem dJ3_init_4 : decode cJ3_init 4 = .ok (.aload_n 0, 1) := dk_42 (dk_at dksJ3_init_0 4 rfl rfl)
theorem dJ3_init_5 : decode cJ3_init 5 = .ok (.aload_n 0, 1) := dk_42 (dk_at dksJ3_init_0 5 rfl rfl)
theorem dJ3_init_6 : decode cJ3_init 6 = .ok (.putfield 7, 3) := dk_181 0 7 (dk_at dksJ3_init_0 6 rfl rfl)
theorem dJ3_init_9 : decode cJ3_init 9 = .ok (.aload_n 0, 1) := dk_42 (dk_at dksJ3_init_0 9 rfl rfl)
theorem dJ3_init_10 : decode cJ3_init 10 = .ok (.getstatic 13, 3) := dk_178 0 13 (dk_at dksJ3_init_0 10 rfl rfl)
theorem dJ3_init_13 : decode cJ3_init 13 = .ok (.putfield 17, 3) := dk_181 0 17 (dk_at dksJ3_init_0 13 rfl rfl)
theorem dJ3_init_16 : decode cJ3_init 16 = .ok (.aload_n 0, 1) := dk_42 (dk_at dksJ3_init_0 16 rfl rfl)
theorem dJ3_init_17 : decode cJ3_init 17 = .ok (.getstatic 20, 3) := dk_178 0 20 (dk_at dksJ3_init_0 17 rfl rfl)
theorem dJ3_init_20 : decode cJ3_init 20 = .ok (.putfield 24, 3) := dk_181 0 24 (dk_at dksJ3_init_0 20 rfl rfl)
theorem dJ3_init_23 : decode cJ3_init 23 = .ok (.aload_n 0, 1) := dk_42 (dk_at dksJ3_init_0 23 rfl rfl)
theorem dJ3_init_24 : decode cJ3_init 24 = .ok (.invokevirtual 27, 3) := dk_182 0 27 (dk_at dksJ3_init_1 0 rfl rfl)
theorem dJ3_init_27 : decode cJ3_init 27 = .ok (.pop, 1) := dk_87 (dk_at dksJ3_init_1 3 rfl rfl)
theorem dJ3_init_28 : decode cJ3_init 28 = .ok (.return_, 1) := dk_177 (dk_at dksJ3_init_1 4 rfl rfl)
abbrev cJ3_init_2 : ByteArray := prog_40_method_5_code
def yJ3_init_2 : MethodName := ⟨RJ3, "<init>", "(Ljava/lang/String;Ljava/lang/Throwable;ZZ)V"⟩
def dkwJ3_init_2_2 : List UInt8 := [44, 181, 0, 7, 29, 154, 0, 8, 42, 1, 181, 0, 24, 177]
abbrev dktJ3_init_2_2 : List UInt8 := dkwJ3_init_2_2 ++ []
def dkwJ3_init_2_1 : List UInt8 := [21, 4, 153, 0, 11, 42, 182, 0, 27, 87, 167, 0, 8, 42, 1, 181, 0, 17, 42, 43, 181, 0, 31, 42]
abbrev dktJ3_init_2_1 : List UInt8 := dkwJ3_init_2_1 ++ dktJ3_init_2_2
def dkwJ3_init_2_0 : List UInt8 := [42, 183, 0, 1, 42, 42, 181, 0, 7, 42, 178, 0, 13, 181, 0, 17, 42, 178, 0, 20, 181, 0, 24]
abbrev dktJ3_init_2_0 : List UInt8 := dkwJ3_init_2_0 ++ dktJ3_init_2_1
theorem dksJ3_init_2_0 : cJ3_init_2.data.toList.drop 0 = dktJ3_init_2_0 := by decide +kernel
theorem dksJ3_init_2_1 : cJ3_init_2.data.toList.drop 23 = dktJ3_init_2_1 := dk_seg dksJ3_init_2_0 23 rfl rfl
theorem dksJ3_init_2_2 : cJ3_init_2.data.toList.drop 47 = dktJ3_init_2_2 := dk_seg dksJ3_init_2_1 24 rfl rfl
theorem dJ3_init_2_0 : decode cJ3_init_2 0 = .ok (.aload_n 0, 1) := dk_42 (dk_at dksJ3_init_2_0 0 rfl rfl)
theorem dJ3_init_2_1 : decode cJ3_init_2 1 = .ok (.invokespecial 1, 3) := dk_183 0 1 (dk_at dksJ3_init_2_0 1 rfl rfl)
theorem dJ3_init_2_4 : decode cJ3_init_2 4 = .ok (.aload_n 0, 1) := dk_42 (dk_at dksJ3_init_2_0 4 rfl rfl)
theorem dJ3_init_2_5 : decode cJ3_init_2 5 = .ok (.aload_n 0, 1) := dk_42 (dk_at dksJ3_init_2_0 5 rfl rfl)
theorem dJ3_init_2_6 : decode cJ3_init_2 6 = .ok (.putfield 7, 3) := dk_181 0 7 (dk_at dksJ3_init_2_0 6 rfl rfl)
theorem dJ3_init_2_9 : decode cJ3_init_2 9 = .ok (.aload_n 0, 1) := dk_42 (dk_at dksJ3_init_2_0 9 rfl rfl)
theorem dJ3_init_2_10 : decode cJ3_init_2 10 = .ok (.getstatic 13, 3) := dk_178 0 13 (dk_at dksJ3_init_2_0 10 rfl rfl)
theorem dJ3_init_2_13 : decode cJ3_init_2 13 = .ok (.putfield 17, 3) := dk_181 0 17 (dk_at dksJ3_init_2_0 13 rfl rfl)
theorem dJ3_init_2_16 : decode cJ3_init_2 16 = .ok (.aload_n 0, 1) := dk_42 (dk_at dksJ3_init_2_0 16 rfl rfl)
theorem dJ3_init_2_17 : decode cJ3_init_2 17 = .ok (.getstatic 20, 3) := dk_178 0 20 (dk_at dksJ3_init_2_0 17 rfl rfl)
theorem dJ3_init_2_20 : decode cJ3_init_2 20 = .ok (.putfield 24, 3) := dk_181 0 24 (dk_at dksJ3_init_2_0 20 rfl rfl)
theorem dJ3_init_2_23 : decode cJ3_init_2 23 = .ok (.iload 4, 2) := dk_21 4 (dk_at dksJ3_init_2_1 0 rfl rfl)
theorem dJ3_init_2_25 : decode cJ3_init_2 25 = .ok (.ifCond .eq 11, 3) := dk_153 0 11 (dk_at dksJ3_init_2_1 2 rfl rfl)
theorem dJ3_init_2_28 : decode cJ3_init_2 28 = .ok (.aload_n 0, 1) := dk_42 (dk_at dksJ3_init_2_1 5 rfl rfl)
theorem dJ3_init_2_29 : decode cJ3_init_2 29 = .ok (.invokevirtual 27, 3) := dk_182 0 27 (dk_at dksJ3_init_2_1 6 rfl rfl)
theorem dJ3_init_2_32 : decode cJ3_init_2 32 = .ok (.pop, 1) := dk_87 (dk_at dksJ3_init_2_1 9 rfl rfl)
theorem dJ3_init_2_33 : decode cJ3_init_2 33 = .ok (.goto 8, 3) := dk_167 0 8 (dk_at dksJ3_init_2_1 10 rfl rfl)
theorem dJ3_init_2_36 : decode cJ3_init_2 36 = .ok (.aload_n 0, 1) := dk_42 (dk_at dksJ3_init_2_1 13 rfl rfl)
theorem dJ3_init_2_37 : decode cJ3_init_2 37 = .ok (.aconst_null, 1) := dk_1 (dk_at dksJ3_init_2_1 14 rfl rfl)
theorem dJ3_init_2_38 : decode cJ3_init_2 38 = .ok (.putfield 17, 3) := dk_181 0 17 (dk_at dksJ3_init_2_1 15 rfl rfl)
theorem dJ3_init_2_41 : decode cJ3_init_2 41 = .ok (.aload_n 0, 1) := dk_42 (dk_at dksJ3_init_2_1 18 rfl rfl)
theorem dJ3_init_2_42 : decode cJ3_init_2 42 = .ok (.aload_n 1, 1) := dk_43 (dk_at dksJ3_init_2_1 19 rfl rfl)
theorem dJ3_init_2_43 : decode cJ3_init_2 43 = .ok (.putfield 31, 3) := dk_181 0 31 (dk_at dksJ3_init_2_1 20 rfl rfl)
theorem dJ3_init_2_46 : decode cJ3_init_2 46 = .ok (.aload_n 0, 1) := dk_42 (dk_at dksJ3_init_2_1 23 rfl rfl)
theorem dJ3_init_2_47 : decode cJ3_init_2 47 = .ok (.aload_n 2, 1) := dk_44 (dk_at dksJ3_init_2_2 0 rfl rfl)
theorem dJ3_init_2_48 : decode cJ3_init_2 48 = .ok (.putfield 7, 3) := dk_181 0 7 (dk_at dksJ3_init_2_2 1 rfl rfl)
theorem dJ3_init_2_51 : decode cJ3_init_2 51 = .ok (.iload_n 3, 1) := dk_29 (dk_at dksJ3_init_2_2 4 rfl rfl)
theorem dJ3_init_2_52 : decode cJ3_init_2 52 = .ok (.ifCond .ne 8, 3) := dk_154 0 8 (dk_at dksJ3_init_2_2 5 rfl rfl)
theorem dJ3_init_2_55 : decode cJ3_init_2 55 = .ok (.aload_n 0, 1) := dk_42 (dk_at dksJ3_init_2_2 8 rfl rfl)
theorem dJ3_init_2_56 : decode cJ3_init_2 56 = .ok (.aconst_null, 1) := dk_1 (dk_at dksJ3_init_2_2 9 rfl rfl)
theorem dJ3_init_2_57 : decode cJ3_init_2 57 = .ok (.putfield 24, 3) := dk_181 0 24 (dk_at dksJ3_init_2_2 10 rfl rfl)
theorem dJ3_init_2_60 : decode cJ3_init_2 60 = .ok (.return_, 1) := dk_177 (dk_at dksJ3_init_2_2 13 rfl rfl)
theorem q119 : (Jvm.Cond.initialized "java/lang/Throwable") ∈ lw_all := lw_g (lw_at lw_m1 8 rfl) rfl
theorem q285 : (Jvm.Cond.declares ({ cls := "java/lang/Throwable", name := "<init>", desc := "()V" } : Jvm.MethodName)) ∈ lw_tbl := lw_at lw_m1 174 rfl
theorem q286 : (Jvm.Cond.declares ({ cls := "java/lang/Throwable", name := "<init>", desc := "(Ljava/lang/String;)V" } : Jvm.MethodName)) ∈ lw_tbl := lw_at lw_m1 175 rfl
theorem q290 : (Jvm.Cond.lays "java/lang/Throwable" "java/lang/Throwable" "cause" "Ljava/lang/Throwable;") ∈ lw_all := lw_g (lw_at lw_m1 179 rfl) rfl
theorem q292 : (Jvm.Cond.lays "java/lang/Throwable" "java/lang/Throwable" "stackTrace" "[Ljava/lang/StackTraceElement;") ∈ lw_all := lw_g (lw_at lw_m1 181 rfl) rfl
theorem q294 : (Jvm.Cond.lays "java/lang/Throwable" "java/lang/Throwable" "suppressedExceptions" "Ljava/util/List;") ∈ lw_all := lw_g (lw_at lw_m1 183 rfl) rfl
theorem q296 : (Jvm.Cond.lays "java/lang/Throwable" "java/lang/Throwable" "detailMessage" "Ljava/lang/String;") ∈ lw_all := lw_g (lw_at lw_m1 185 rfl) rfl
theorem q298 : (Jvm.Cond.lays "java/lang/Throwable" "java/lang/Throwable" "backtrace" "Ljava/lang/Object;") ∈ lw_all := lw_g (lw_at lw_m1 187 rfl) rfl
theorem q299 : (Jvm.Cond.fieldLink "java/lang/Throwable" (198 : Nat) "java/lang/Throwable" "backtrace" "Ljava/lang/Object;") ∈ lw_all := lw_g (lw_at lw_m1 188 rfl) rfl
theorem q300 : (Jvm.Cond.superclass "java/lang/Throwable" "java/lang/Object") ∈ lw_all := lw_g (lw_at lw_m1 189 rfl) rfl
theorem q301 : (Jvm.Cond.instanceMethod ({ cls := "java/lang/Throwable", name := "<init>", desc := "()V" } : Jvm.MethodName)) ∈ lw_all := lw_g (lw_at lw_m1 190 rfl) rfl
theorem q302 : (Jvm.Cond.code ({ cls := "java/lang/Throwable", name := "<init>", desc := "()V" } : Jvm.MethodName) prog_40_method_1_code (1 : Nat) (Option.none : Option Jvm.ClassFile.FieldType)) ∈ lw_all := lw_g (lw_at lw_m1 191 rfl) rfl
theorem q303 : (Jvm.Cond.methodLink "java/lang/Throwable" (1 : Nat) ({ cls := "java/lang/Object", name := "<init>", desc := "()V" } : Jvm.MethodName)) ∈ lw_all := lw_g (lw_at lw_m1 192 rfl) rfl
theorem q304 : (Jvm.Cond.fieldLink "java/lang/Throwable" (13 : Nat) "java/lang/Throwable" "UNASSIGNED_STACK" "[Ljava/lang/StackTraceElement;") ∈ lw_all := lw_g (lw_at lw_m1 193 rfl) rfl
theorem q305 : (Jvm.Cond.laysStatic "java/lang/Throwable" "UNASSIGNED_STACK" "[Ljava/lang/StackTraceElement;") ∈ lw_tbl := lw_at lw_m1 194 rfl
theorem q306 : (Jvm.Cond.fieldLink "java/lang/Throwable" (20 : Nat) "java/lang/Throwable" "SUPPRESSED_SENTINEL" "Ljava/util/List;") ∈ lw_all := lw_g (lw_at lw_m1 195 rfl) rfl
theorem q307 : (Jvm.Cond.laysStatic "java/lang/Throwable" "SUPPRESSED_SENTINEL" "Ljava/util/List;") ∈ lw_tbl := lw_at lw_m1 196 rfl
theorem q308 : (Jvm.Cond.methodLink "java/lang/Throwable" (27 : Nat) ({ cls := "java/lang/Throwable", name := "fillInStackTrace", desc := "()Ljava/lang/Throwable;" } : Jvm.MethodName)) ∈ lw_all := lw_g (lw_at lw_m1 197 rfl) rfl
theorem q309 : (Jvm.Cond.instanceMethod ({ cls := "java/lang/Throwable", name := "fillInStackTrace", desc := "()Ljava/lang/Throwable;" } : Jvm.MethodName)) ∈ lw_all := lw_g (lw_at lw_m1 198 rfl) rfl
theorem q310 : (Jvm.Cond.sameMethod "java/lang/Throwable" "java/lang/Throwable" "fillInStackTrace" "()Ljava/lang/Throwable;") ∈ lw_all := lw_g (lw_at lw_m1 199 rfl) rfl
theorem q312 : (Jvm.Cond.codeSync ({ cls := "java/lang/Throwable", name := "fillInStackTrace", desc := "()Ljava/lang/Throwable;" } : Jvm.MethodName) prog_40_method_18_code (1 : Nat) (Option.some (Jvm.ClassFile.FieldType.object "java/lang/Throwable"))) ∈ lw_all := lw_g (lw_at lw_m1 201 rfl) rfl
theorem q313 : (Jvm.Cond.methodLink "java/lang/Throwable" (202 : Nat) ({ cls := "java/lang/Throwable", name := "fillInStackTrace", desc := "(I)Ljava/lang/Throwable;" } : Jvm.MethodName)) ∈ lw_all := lw_g (lw_at lw_m1 202 rfl) rfl
theorem q314 : (Jvm.Cond.privateMethod ({ cls := "java/lang/Throwable", name := "fillInStackTrace", desc := "(I)Ljava/lang/Throwable;" } : Jvm.MethodName)) ∈ lw_tbl := lw_at lw_m1 203 rfl
theorem q315 : (Jvm.Cond.instanceMethod ({ cls := "java/lang/Throwable", name := "fillInStackTrace", desc := "(I)Ljava/lang/Throwable;" } : Jvm.MethodName)) ∈ lw_all := lw_g (lw_at lw_m1 204 rfl) rfl
theorem q316 : (Jvm.Cond.instantiable "java/lang/Throwable" (6 : Nat)) ∈ lw_all := lw_g (lw_at lw_m1 205 rfl) rfl
theorem q317 : (Jvm.Cond.native ({ cls := "java/lang/Throwable", name := "fillInStackTrace", desc := "(I)Ljava/lang/Throwable;" } : Jvm.MethodName)) ∈ lw_all := lw_g (lw_at lw_m1 206 rfl) rfl
theorem q325 : (Jvm.Cond.instanceMethod ({ cls := "java/lang/Throwable", name := "<init>", desc := "(Ljava/lang/String;Ljava/lang/Throwable;ZZ)V" } : Jvm.MethodName)) ∈ lw_all := lw_g (lw_at lw_m1 214 rfl) rfl
theorem q326 : (Jvm.Cond.code ({ cls := "java/lang/Throwable", name := "<init>", desc := "(Ljava/lang/String;Ljava/lang/Throwable;ZZ)V" } : Jvm.MethodName) prog_40_method_5_code (5 : Nat) (Option.none : Option Jvm.ClassFile.FieldType)) ∈ lw_all := lw_g (lw_at lw_m1 215 rfl) rfl
theorem q327 : (Jvm.Cond.fieldLink "java/lang/Throwable" (198 : Nat) "java/lang/Throwable" "backtrace" "Ljava/lang/Object;") ∈ lw_all := lw_g (lw_at lw_m1 216 rfl) rfl
theorem q328 : (Jvm.Cond.fieldLink "java/lang/Throwable" (31 : Nat) "java/lang/Throwable" "detailMessage" "Ljava/lang/String;") ∈ lw_all := lw_g (lw_at lw_m1 217 rfl) rfl
theorem q329 : (Jvm.Cond.fieldLink "java/lang/Throwable" (7 : Nat) "java/lang/Throwable" "cause" "Ljava/lang/Throwable;") ∈ lw_all := lw_g (lw_at lw_m1 218 rfl) rfl
theorem q330 : (Jvm.Cond.fieldLink "java/lang/Throwable" (17 : Nat) "java/lang/Throwable" "stackTrace" "[Ljava/lang/StackTraceElement;") ∈ lw_all := lw_g (lw_at lw_m1 219 rfl) rfl
theorem q331 : (Jvm.Cond.fieldLink "java/lang/Throwable" (24 : Nat) "java/lang/Throwable" "suppressedExceptions" "Ljava/util/List;") ∈ lw_all := lw_g (lw_at lw_m1 220 rfl) rfl
theorem q332 : (Jvm.Cond.soleField "java/lang/Throwable" "backtrace") ∈ lw_all := lw_g (lw_at lw_m1 221 rfl) rfl
theorem q333 : (Jvm.Cond.soleField "java/lang/Throwable" "detailMessage") ∈ lw_all := lw_g (lw_at lw_m1 222 rfl) rfl
theorem q334 : (Jvm.Cond.soleField "java/lang/Throwable" "cause") ∈ lw_all := lw_g (lw_at lw_m1 223 rfl) rfl
theorem q335 : (Jvm.Cond.soleField "java/lang/Throwable" "stackTrace") ∈ lw_all := lw_g (lw_at lw_m1 224 rfl) rfl
theorem q337 : (Jvm.Cond.soleField "java/lang/Throwable" "depth") ∈ lw_all := lw_g (lw_at lw_m1 226 rfl) rfl
theorem q338 : (Jvm.Cond.soleField "java/lang/Throwable" "suppressedExceptions") ∈ lw_all := lw_g (lw_at lw_m1 227 rfl) rfl
theorem q2585 : (Jvm.Cond.sameMethod "java/lang/Throwable" "java/lang/Throwable" "fillInStackTrace" "(I)Ljava/lang/Throwable;") ∈ lw_all := lw_g (lw_at lw_m11 74 rfl) rfl
theorem q2625 : (Jvm.Cond.castable "java/lang/Throwable" "java/lang/Object") ∈ lw_tbl := lw_at lw_m11 114 rfl
theorem in_J3 : ∀ w ∈ wsJ30, w ∈ lw_all := lw_in wsJ30 [290, 292, 294, 296, 298] (by decide +kernel) (by decide +kernel)
/-! java/lang/Exception -/
def RJ4 : String := "java/lang/Exception"
abbrev cJ4_init : ByteArray := prog_32_method_5_code
def yJ4_init : MethodName := ⟨RJ4, "<init>", "(Ljava/lang/String;Ljava/lang/Throwable;ZZ)V"⟩
def dkwJ4_init_0 : List UInt8 := [42, 43, 44, 29, 21, 4, 183, 0, 16, 177]
abbrev dktJ4_init_0 : List UInt8 := dkwJ4_init_0 ++ []
theorem dksJ4_init_0 : cJ4_init.data.toList.drop 0 = dktJ4_init_0 := by decide +kernel
theorem dJ4_init_0 : decode cJ4_init 0 = .ok (.aload_n 0, 1) := dk_42 (dk_at dksJ4_init_0 0 rfl rfl)
theorem dJ4_init_1 : decode cJ4_init 1 = .ok (.aload_n 1, 1) := dk_43 (dk_at dksJ4_init_0 1 rfl rfl)
theorem dJ4_init_2 : decode cJ4_init 2 = .ok (.aload_n 2, 1) := dk_44 (dk_at dksJ4_init_0 2 rfl rfl)
theorem dJ4_init_3 : decode cJ4_init 3 = .ok (.iload_n 3, 1) := dk_29 (dk_at dksJ4_init_0 3 rfl rfl)
theorem dJ4_init_4 : decode cJ4_init 4 = .ok (.iload 4, 2) := dk_21 4 (dk_at dksJ4_init_0 4 rfl rfl)
theorem dJ4_init_6 : decode cJ4_init 6 = .ok (.invokespecial 16, 3) := dk_183 0 16 (dk_at dksJ4_init_0 6 rfl rfl)
theorem dJ4_init_9 : decode cJ4_init 9 = .ok (.return_, 1) := dk_177 (dk_at dksJ4_init_0 9 rfl rfl)
theorem q120 : (Jvm.Cond.initialized "java/lang/Exception") ∈ lw_all := lw_g (lw_at lw_m1 9 rfl) rfl
theorem q283 : (Jvm.Cond.declares ({ cls := "java/lang/Exception", name := "<init>", desc := "()V" } : Jvm.MethodName)) ∈ lw_tbl := lw_at lw_m1 172 rfl
theorem q284 : (Jvm.Cond.declares ({ cls := "java/lang/Exception", name := "<init>", desc := "(Ljava/lang/String;)V" } : Jvm.MethodName)) ∈ lw_tbl := lw_at lw_m1 173 rfl
theorem q322 : (Jvm.Cond.instanceMethod ({ cls := "java/lang/Exception", name := "<init>", desc := "(Ljava/lang/String;Ljava/lang/Throwable;ZZ)V" } : Jvm.MethodName)) ∈ lw_all := lw_g (lw_at lw_m1 211 rfl) rfl
theorem q323 : (Jvm.Cond.code ({ cls := "java/lang/Exception", name := "<init>", desc := "(Ljava/lang/String;Ljava/lang/Throwable;ZZ)V" } : Jvm.MethodName) prog_32_method_5_code (5 : Nat) (Option.none : Option Jvm.ClassFile.FieldType)) ∈ lw_all := lw_g (lw_at lw_m1 212 rfl) rfl
theorem q324 : (Jvm.Cond.methodLink "java/lang/Exception" (16 : Nat) ({ cls := "java/lang/Throwable", name := "<init>", desc := "(Ljava/lang/String;Ljava/lang/Throwable;ZZ)V" } : Jvm.MethodName)) ∈ lw_all := lw_g (lw_at lw_m1 213 rfl) rfl
/-! java/util/Objects -/
def RJ5 : String := "java/util/Objects"
abbrev cJ5_checkIndex : ByteArray := prog_47_method_17_code
def yJ5_checkIndex : MethodName := ⟨RJ5, "checkIndex", "(II)I"⟩
def dkwJ5_checkIndex_0 : List UInt8 := [26, 27, 1, 184, 0, 105, 172]
abbrev dktJ5_checkIndex_0 : List UInt8 := dkwJ5_checkIndex_0 ++ []
theorem dksJ5_checkIndex_0 : cJ5_checkIndex.data.toList.drop 0 = dktJ5_checkIndex_0 := by decide +kernel
theorem dJ5_checkIndex_0 : decode cJ5_checkIndex 0 = .ok (.iload_n 0, 1) := dk_26 (dk_at dksJ5_checkIndex_0 0 rfl rfl)
theorem dJ5_checkIndex_1 : decode cJ5_checkIndex 1 = .ok (.iload_n 1, 1) := dk_27 (dk_at dksJ5_checkIndex_0 1 rfl rfl)
theorem dJ5_checkIndex_2 : decode cJ5_checkIndex 2 = .ok (.aconst_null, 1) := dk_1 (dk_at dksJ5_checkIndex_0 2 rfl rfl)
theorem dJ5_checkIndex_3 : decode cJ5_checkIndex 3 = .ok (.invokestatic 105, 3) := dk_184 0 105 (dk_at dksJ5_checkIndex_0 3 rfl rfl)
theorem dJ5_checkIndex_6 : decode cJ5_checkIndex 6 = .ok (.ireturn, 1) := dk_172 (dk_at dksJ5_checkIndex_0 6 rfl rfl)
theorem q128 : (Jvm.Cond.initialized "java/util/Objects") ∈ lw_all := lw_g (lw_at lw_m1 17 rfl) rfl
theorem q765 : (Jvm.Cond.static ({ cls := "java/util/Objects", name := "checkIndex", desc := "(II)I" } : Jvm.MethodName)) ∈ lw_all := lw_g (lw_at lw_m3 174 rfl) rfl
theorem q766 : (Jvm.Cond.code ({ cls := "java/util/Objects", name := "checkIndex", desc := "(II)I" } : Jvm.MethodName) prog_47_method_17_code (2 : Nat) (Option.some Jvm.ClassFile.FieldType.int)) ∈ lw_all := lw_g (lw_at lw_m3 175 rfl) rfl
theorem q767 : (Jvm.Cond.methodLink "java/util/Objects" (105 : Nat) ({ cls := "jdk/internal/util/Preconditions", name := "checkIndex", desc := "(IILjava/util/function/BiFunction;)I" } : Jvm.MethodName)) ∈ lw_all := lw_g (lw_at lw_m3 176 rfl) rfl
/-! jdk/internal/util/Preconditions -/
def RJ6 : String := "jdk/internal/util/Preconditions"
abbrev cJ6_checkIndex : ByteArray := prog_51_method_11_code
def yJ6_checkIndex : MethodName := ⟨RJ6, "checkIndex", "(IILjava/util/function/BiFunction;)I"⟩
def dkwJ6_checkIndex_0 : List UInt8 := [26, 155, 0, 8, 26, 27, 161, 0, 10, 44, 26, 27, 184, 0, 95, 191, 26, 172]
abbrev dktJ6_checkIndex_0 : List UInt8 := dkwJ6_checkIndex_0 ++ []
theorem dksJ6_checkIndex_0 : cJ6_checkIndex.data.toList.drop 0 = dktJ6_checkIndex_0 := by decide +kernel
theorem dJ6_checkIndex_0 : decode cJ6_checkIndex 0 = .ok (.iload_n 0, 1) := dk_26 (dk_at dksJ6_checkIndex_0 0 rfl rfl)
theorem dJ6_checkIndex_1 : decode cJ6_checkIndex 1 = .ok (.ifCond .lt 8, 3) := dk_155 0 8 (dk_at dksJ6_checkIndex_0 1 rfl rfl)
theorem dJ6_checkIndex_4 : decode cJ6_checkIndex 4 = .ok (.iload_n 0, 1) := dk_26 (dk_at dksJ6_checkIndex_0 4 rfl rfl)
theorem dJ6_checkIndex_5 : decode cJ6_checkIndex 5 = .ok (.iload_n 1, 1) := dk_27 (dk_at dksJ6_checkIndex_0 5 rfl rfl)
theorem dJ6_checkIndex_6 : decode cJ6_checkIndex 6 = .ok (.if_icmp .lt 10, 3) := dk_161 0 10 (dk_at dksJ6_checkIndex_0 6 rfl rfl)
theorem dJ6_checkIndex_9 : decode cJ6_checkIndex 9 = .ok (.aload_n 2, 1) := dk_44 (dk_at dksJ6_checkIndex_0 9 rfl rfl)
theorem dJ6_checkIndex_10 : decode cJ6_checkIndex 10 = .ok (.iload_n 0, 1) := dk_26 (dk_at dksJ6_checkIndex_0 10 rfl rfl)
theorem dJ6_checkIndex_11 : decode cJ6_checkIndex 11 = .ok (.iload_n 1, 1) := dk_27 (dk_at dksJ6_checkIndex_0 11 rfl rfl)
theorem dJ6_checkIndex_12 : decode cJ6_checkIndex 12 = .ok (.invokestatic 95, 3) := dk_184 0 95 (dk_at dksJ6_checkIndex_0 12 rfl rfl)
theorem dJ6_checkIndex_15 : decode cJ6_checkIndex 15 = .ok (.athrow, 1) := dk_191 (dk_at dksJ6_checkIndex_0 15 rfl rfl)
theorem dJ6_checkIndex_16 : decode cJ6_checkIndex 16 = .ok (.iload_n 0, 1) := dk_26 (dk_at dksJ6_checkIndex_0 16 rfl rfl)
theorem dJ6_checkIndex_17 : decode cJ6_checkIndex 17 = .ok (.ireturn, 1) := dk_172 (dk_at dksJ6_checkIndex_0 17 rfl rfl)
theorem q129 : (Jvm.Cond.initialized "jdk/internal/util/Preconditions") ∈ lw_all := lw_g (lw_at lw_m1 18 rfl) rfl
theorem q768 : (Jvm.Cond.static ({ cls := "jdk/internal/util/Preconditions", name := "checkIndex", desc := "(IILjava/util/function/BiFunction;)I" } : Jvm.MethodName)) ∈ lw_all := lw_g (lw_at lw_m3 177 rfl) rfl
theorem q769 : (Jvm.Cond.code ({ cls := "jdk/internal/util/Preconditions", name := "checkIndex", desc := "(IILjava/util/function/BiFunction;)I" } : Jvm.MethodName) prog_51_method_11_code (3 : Nat) (Option.some Jvm.ClassFile.FieldType.int)) ∈ lw_all := lw_g (lw_at lw_m3 178 rfl) rfl
theorem q961 : (Jvm.Cond.laysStatic "jdk/internal/util/Preconditions" "SIOOBE_FORMATTER" "Ljava/util/function/BiFunction;") ∈ lw_tbl := lw_at lw_m4 130 rfl
/-! jdk/internal/util/ArraysSupport -/
def RJ7 : String := "jdk/internal/util/ArraysSupport"
abbrev cJ7_newLength : ByteArray := prog_50_method_27_code
def yJ7_newLength : MethodName := ⟨RJ7, "newLength", "(III)I"⟩
def dkwJ7_newLength_1 : List UInt8 := [184, 0, 201, 172]
abbrev dktJ7_newLength_1 : List UInt8 := dkwJ7_newLength_1 ++ []
def dkwJ7_newLength_0 : List UInt8 := [26, 27, 28, 184, 0, 194, 96, 62, 3, 29, 162, 0, 11, 29, 18, 200, 163, 0, 5, 29, 172, 26, 27]
abbrev dktJ7_newLength_0 : List UInt8 := dkwJ7_newLength_0 ++ dktJ7_newLength_1
theorem dksJ7_newLength_0 : cJ7_newLength.data.toList.drop 0 = dktJ7_newLength_0 := by decide +kernel
theorem dksJ7_newLength_1 : cJ7_newLength.data.toList.drop 23 = dktJ7_newLength_1 := dk_seg dksJ7_newLength_0 23 rfl rfl
theorem dJ7_newLength_0 : decode cJ7_newLength 0 = .ok (.iload_n 0, 1) := dk_26 (dk_at dksJ7_newLength_0 0 rfl rfl)
theorem dJ7_newLength_1 : decode cJ7_newLength 1 = .ok (.iload_n 1, 1) := dk_27 (dk_at dksJ7_newLength_0 1 rfl rfl)
theorem dJ7_newLength_2 : decode cJ7_newLength 2 = .ok (.iload_n 2, 1) := dk_28 (dk_at dksJ7_newLength_0 2 rfl rfl)
theorem dJ7_newLength_3 : decode cJ7_newLength 3 = .ok (.invokestatic 194, 3) := dk_184 0 194 (dk_at dksJ7_newLength_0 3 rfl rfl)
theorem dJ7_newLength_6 : decode cJ7_newLength 6 = .ok (.iadd, 1) := dk_96 (dk_at dksJ7_newLength_0 6 rfl rfl)
theorem dJ7_newLength_7 : decode cJ7_newLength 7 = .ok (.istore_n 3, 1) := dk_62 (dk_at dksJ7_newLength_0 7 rfl rfl)
theorem dJ7_newLength_8 : decode cJ7_newLength 8 = .ok (.iconst 0, 1) := dk_3 (dk_at dksJ7_newLength_0 8 rfl rfl)
theorem dJ7_newLength_9 : decode cJ7_newLength 9 = .ok (.iload_n 3, 1) := dk_29 (dk_at dksJ7_newLength_0 9 rfl rfl)
theorem dJ7_newLength_10 : decode cJ7_newLength 10 = .ok (.if_icmp .ge 11, 3) := dk_162 0 11 (dk_at dksJ7_newLength_0 10 rfl rfl)
theorem dJ7_newLength_13 : decode cJ7_newLength 13 = .ok (.iload_n 3, 1) := dk_29 (dk_at dksJ7_newLength_0 13 rfl rfl)
theorem dJ7_newLength_14 : decode cJ7_newLength 14 = .ok (.ldc 200, 2) := dk_18 200 (dk_at dksJ7_newLength_0 14 rfl rfl)
theorem dJ7_newLength_16 : decode cJ7_newLength 16 = .ok (.if_icmp .gt 5, 3) := dk_163 0 5 (dk_at dksJ7_newLength_0 16 rfl rfl)
theorem dJ7_newLength_19 : decode cJ7_newLength 19 = .ok (.iload_n 3, 1) := dk_29 (dk_at dksJ7_newLength_0 19 rfl rfl)
theorem dJ7_newLength_20 : decode cJ7_newLength 20 = .ok (.ireturn, 1) := dk_172 (dk_at dksJ7_newLength_0 20 rfl rfl)
theorem dJ7_newLength_21 : decode cJ7_newLength 21 = .ok (.iload_n 0, 1) := dk_26 (dk_at dksJ7_newLength_0 21 rfl rfl)
theorem dJ7_newLength_22 : decode cJ7_newLength 22 = .ok (.iload_n 1, 1) := dk_27 (dk_at dksJ7_newLength_0 22 rfl rfl)
theorem dJ7_newLength_23 : decode cJ7_newLength 23 = .ok (.invokestatic 201, 3) := dk_184 0 201 (dk_at dksJ7_newLength_1 0 rfl rfl)
theorem dJ7_newLength_26 : decode cJ7_newLength 26 = .ok (.ireturn, 1) := dk_172 (dk_at dksJ7_newLength_1 3 rfl rfl)
abbrev cJ7_hugeLength : ByteArray := prog_50_method_28_code
def yJ7_hugeLength : MethodName := ⟨RJ7, "hugeLength", "(II)I"⟩
def dkwJ7_hugeLength_2 : List UInt8 := [191, 28, 18, 200, 163, 0, 6, 18, 200, 172, 28, 172]
abbrev dktJ7_hugeLength_2 : List UInt8 := dkwJ7_hugeLength_2 ++ []
def dkwJ7_hugeLength_1 : List UInt8 := [26, 182, 0, 98, 18, 208, 182, 0, 94, 27, 182, 0, 98, 18, 210, 182, 0, 94, 182, 0, 101, 183, 0, 212]
abbrev dktJ7_hugeLength_1 : List UInt8 := dkwJ7_hugeLength_1 ++ dktJ7_hugeLength_2
def dkwJ7_hugeLength_0 : List UInt8 := [26, 27, 96, 61, 28, 156, 0, 44, 187, 0, 204, 89, 187, 0, 89, 89, 183, 0, 91, 18, 206, 182, 0, 94]
abbrev dktJ7_hugeLength_0 : List UInt8 := dkwJ7_hugeLength_0 ++ dktJ7_hugeLength_1
theorem dksJ7_hugeLength_0 : cJ7_hugeLength.data.toList.drop 0 = dktJ7_hugeLength_0 := by decide +kernel
theorem dksJ7_hugeLength_1 : cJ7_hugeLength.data.toList.drop 24 = dktJ7_hugeLength_1 := dk_seg dksJ7_hugeLength_0 24 rfl rfl
theorem dksJ7_hugeLength_2 : cJ7_hugeLength.data.toList.drop 48 = dktJ7_hugeLength_2 := dk_seg dksJ7_hugeLength_1 24 rfl rfl
theorem dJ7_hugeLength_0 : decode cJ7_hugeLength 0 = .ok (.iload_n 0, 1) := dk_26 (dk_at dksJ7_hugeLength_0 0 rfl rfl)
theorem dJ7_hugeLength_1 : decode cJ7_hugeLength 1 = .ok (.iload_n 1, 1) := dk_27 (dk_at dksJ7_hugeLength_0 1 rfl rfl)
theorem dJ7_hugeLength_2 : decode cJ7_hugeLength 2 = .ok (.iadd, 1) := dk_96 (dk_at dksJ7_hugeLength_0 2 rfl rfl)
theorem dJ7_hugeLength_3 : decode cJ7_hugeLength 3 = .ok (.istore_n 2, 1) := dk_61 (dk_at dksJ7_hugeLength_0 3 rfl rfl)
theorem dJ7_hugeLength_4 : decode cJ7_hugeLength 4 = .ok (.iload_n 2, 1) := dk_28 (dk_at dksJ7_hugeLength_0 4 rfl rfl)
theorem dJ7_hugeLength_5 : decode cJ7_hugeLength 5 = .ok (.ifCond .ge 44, 3) := dk_156 0 44 (dk_at dksJ7_hugeLength_0 5 rfl rfl)
theorem dJ7_hugeLength_8 : decode cJ7_hugeLength 8 = .ok (.new 204, 3) := dk_187 0 204 (dk_at dksJ7_hugeLength_0 8 rfl rfl)
theorem dJ7_hugeLength_11 : decode cJ7_hugeLength 11 = .ok (.dup, 1) := dk_89 (dk_at dksJ7_hugeLength_0 11 rfl rfl)
theorem dJ7_hugeLength_12 : decode cJ7_hugeLength 12 = .ok (.new 89, 3) := dk_187 0 89 (dk_at dksJ7_hugeLength_0 12 rfl rfl)
theorem dJ7_hugeLength_15 : decode cJ7_hugeLength 15 = .ok (.dup, 1) := dk_89 (dk_at dksJ7_hugeLength_0 15 rfl rfl)
theorem dJ7_hugeLength_16 : decode cJ7_hugeLength 16 = .ok (.invokespecial 91, 3) := dk_183 0 91 (dk_at dksJ7_hugeLength_0 16 rfl rfl)
theorem dJ7_hugeLength_19 : decode cJ7_hugeLength 19 = .ok (.ldc 206, 2) := dk_18 206 (dk_at dksJ7_hugeLength_0 19 rfl rfl)
theorem dJ7_hugeLength_21 : decode cJ7_hugeLength 21 = .ok (.invokevirtual 94, 3) := dk_182 0 94 (dk_at dksJ7_hugeLength_0 21 rfl rfl)
theorem dJ7_hugeLength_24 : decode cJ7_hugeLength 24 = .ok (.iload_n 0, 1) := dk_26 (dk_at dksJ7_hugeLength_1 0 rfl rfl)
theorem dJ7_hugeLength_25 : decode cJ7_hugeLength 25 = .ok (.invokevirtual 98, 3) := dk_182 0 98 (dk_at dksJ7_hugeLength_1 1 rfl rfl)
theorem dJ7_hugeLength_28 : decode cJ7_hugeLength 28 = .ok (.ldc 208, 2) := dk_18 208 (dk_at dksJ7_hugeLength_1 4 rfl rfl)
theorem dJ7_hugeLength_30 : decode cJ7_hugeLength 30 = .ok (.invokevirtual 94, 3) := dk_182 0 94 (dk_at dksJ7_hugeLength_1 6 rfl rfl)
theorem dJ7_hugeLength_33 : decode cJ7_hugeLength 33 = .ok (.iload_n 1, 1) := dk_27 (dk_at dksJ7_hugeLength_1 9 rfl rfl)
theorem dJ7_hugeLength_34 : decode cJ7_hugeLength 34 = .ok (.invokevirtual 98, 3) := dk_182 0 98 (dk_at dksJ7_hugeLength_1 10 rfl rfl)
theorem dJ7_hugeLength_37 : decode cJ7_hugeLength 37 = .ok (.ldc 210, 2) := dk_18 210 (dk_at dksJ7_hugeLength_1 13 rfl rfl)
theorem dJ7_hugeLength_39 : decode cJ7_hugeLength 39 = .ok (.invokevirtual 94, 3) := dk_182 0 94 (dk_at dksJ7_hugeLength_1 15 rfl rfl)
theorem dJ7_hugeLength_42 : decode cJ7_hugeLength 42 = .ok (.invokevirtual 101, 3) := dk_182 0 101 (dk_at dksJ7_hugeLength_1 18 rfl rfl)
theorem dJ7_hugeLength_45 : decode cJ7_hugeLength 45 = .ok (.invokespecial 212, 3) := dk_183 0 212 (dk_at dksJ7_hugeLength_1 21 rfl rfl)
theorem dJ7_hugeLength_48 : decode cJ7_hugeLength 48 = .ok (.athrow, 1) := dk_191 (dk_at dksJ7_hugeLength_2 0 rfl rfl)
theorem dJ7_hugeLength_49 : decode cJ7_hugeLength 49 = .ok (.iload_n 2, 1) := dk_28 (dk_at dksJ7_hugeLength_2 1 rfl rfl)
theorem dJ7_hugeLength_50 : decode cJ7_hugeLength 50 = .ok (.ldc 200, 2) := dk_18 200 (dk_at dksJ7_hugeLength_2 2 rfl rfl)
theorem dJ7_hugeLength_52 : decode cJ7_hugeLength 52 = .ok (.if_icmp .gt 6, 3) := dk_163 0 6 (dk_at dksJ7_hugeLength_2 4 rfl rfl)
theorem dJ7_hugeLength_55 : decode cJ7_hugeLength 55 = .ok (.ldc 200, 2) := dk_18 200 (dk_at dksJ7_hugeLength_2 7 rfl rfl)
theorem dJ7_hugeLength_57 : decode cJ7_hugeLength 57 = .ok (.ireturn, 1) := dk_172 (dk_at dksJ7_hugeLength_2 9 rfl rfl)
theorem dJ7_hugeLength_58 : decode cJ7_hugeLength 58 = .ok (.iload_n 2, 1) := dk_28 (dk_at dksJ7_hugeLength_2 10 rfl rfl)
theorem dJ7_hugeLength_59 : decode cJ7_hugeLength 59 = .ok (.ireturn, 1) := dk_172 (dk_at dksJ7_hugeLength_2 11 rfl rfl)
theorem q131 : (Jvm.Cond.initialized "jdk/internal/util/ArraysSupport") ∈ lw_all := lw_g (lw_at lw_m1 20 rfl) rfl
theorem q684 : (Jvm.Cond.static ({ cls := "jdk/internal/util/ArraysSupport", name := "newLength", desc := "(III)I" } : Jvm.MethodName)) ∈ lw_all := lw_g (lw_at lw_m3 93 rfl) rfl
theorem q685 : (Jvm.Cond.code ({ cls := "jdk/internal/util/ArraysSupport", name := "newLength", desc := "(III)I" } : Jvm.MethodName) prog_50_method_27_code (4 : Nat) (Option.some Jvm.ClassFile.FieldType.int)) ∈ lw_all := lw_g (lw_at lw_m3 94 rfl) rfl
theorem q686 : (Jvm.Cond.methodLink "jdk/internal/util/ArraysSupport" (194 : Nat) ({ cls := "java/lang/Math", name := "max", desc := "(II)I" } : Jvm.MethodName)) ∈ lw_all := lw_g (lw_at lw_m3 95 rfl) rfl
theorem q689 : (Jvm.Cond.constant "jdk/internal/util/ArraysSupport" (200 : Nat) (2147483639 : Int32)) ∈ lw_all := lw_g (lw_at lw_m3 98 rfl) rfl
theorem q690 : (Jvm.Cond.methodLink "jdk/internal/util/ArraysSupport" (201 : Nat) ({ cls := "jdk/internal/util/ArraysSupport", name := "hugeLength", desc := "(II)I" } : Jvm.MethodName)) ∈ lw_all := lw_g (lw_at lw_m3 99 rfl) rfl
theorem q691 : (Jvm.Cond.static ({ cls := "jdk/internal/util/ArraysSupport", name := "hugeLength", desc := "(II)I" } : Jvm.MethodName)) ∈ lw_all := lw_g (lw_at lw_m3 100 rfl) rfl
theorem q692 : (Jvm.Cond.code ({ cls := "jdk/internal/util/ArraysSupport", name := "hugeLength", desc := "(II)I" } : Jvm.MethodName) prog_50_method_28_code (3 : Nat) (Option.some Jvm.ClassFile.FieldType.int)) ∈ lw_all := lw_g (lw_at lw_m3 101 rfl) rfl
/-! java/lang/Math -/
def RJ8 : String := "java/lang/Math"
abbrev cJ8_min : ByteArray := prog_35_method_69_code
def yJ8_min : MethodName := ⟨RJ8, "min", "(II)I"⟩
def dkwJ8_min_0 : List UInt8 := [26, 27, 163, 0, 7, 26, 167, 0, 4, 27, 172]
abbrev dktJ8_min_0 : List UInt8 := dkwJ8_min_0 ++ []
theorem dksJ8_min_0 : cJ8_min.data.toList.drop 0 = dktJ8_min_0 := by decide +kernel
theorem dJ8_min_0 : decode cJ8_min 0 = .ok (.iload_n 0, 1) := dk_26 (dk_at dksJ8_min_0 0 rfl rfl)
theorem dJ8_min_1 : decode cJ8_min 1 = .ok (.iload_n 1, 1) := dk_27 (dk_at dksJ8_min_0 1 rfl rfl)
theorem dJ8_min_2 : decode cJ8_min 2 = .ok (.if_icmp .gt 7, 3) := dk_163 0 7 (dk_at dksJ8_min_0 2 rfl rfl)
theorem dJ8_min_5 : decode cJ8_min 5 = .ok (.iload_n 0, 1) := dk_26 (dk_at dksJ8_min_0 5 rfl rfl)
theorem dJ8_min_6 : decode cJ8_min 6 = .ok (.goto 4, 3) := dk_167 0 4 (dk_at dksJ8_min_0 6 rfl rfl)
theorem dJ8_min_9 : decode cJ8_min 9 = .ok (.iload_n 1, 1) := dk_27 (dk_at dksJ8_min_0 9 rfl rfl)
theorem dJ8_min_10 : decode cJ8_min 10 = .ok (.ireturn, 1) := dk_172 (dk_at dksJ8_min_0 10 rfl rfl)
abbrev cJ8_max : ByteArray := prog_35_method_65_code
def yJ8_max : MethodName := ⟨RJ8, "max", "(II)I"⟩
def dkwJ8_max_0 : List UInt8 := [26, 27, 161, 0, 7, 26, 167, 0, 4, 27, 172]
abbrev dktJ8_max_0 : List UInt8 := dkwJ8_max_0 ++ []
theorem dksJ8_max_0 : cJ8_max.data.toList.drop 0 = dktJ8_max_0 := by decide +kernel
theorem dJ8_max_0 : decode cJ8_max 0 = .ok (.iload_n 0, 1) := dk_26 (dk_at dksJ8_max_0 0 rfl rfl)
theorem dJ8_max_1 : decode cJ8_max 1 = .ok (.iload_n 1, 1) := dk_27 (dk_at dksJ8_max_0 1 rfl rfl)
theorem dJ8_max_2 : decode cJ8_max 2 = .ok (.if_icmp .lt 7, 3) := dk_161 0 7 (dk_at dksJ8_max_0 2 rfl rfl)
theorem dJ8_max_5 : decode cJ8_max 5 = .ok (.iload_n 0, 1) := dk_26 (dk_at dksJ8_max_0 5 rfl rfl)
theorem dJ8_max_6 : decode cJ8_max 6 = .ok (.goto 4, 3) := dk_167 0 4 (dk_at dksJ8_max_0 6 rfl rfl)
theorem dJ8_max_9 : decode cJ8_max 9 = .ok (.iload_n 1, 1) := dk_27 (dk_at dksJ8_max_0 9 rfl rfl)
theorem dJ8_max_10 : decode cJ8_max 10 = .ok (.ireturn, 1) := dk_172 (dk_at dksJ8_max_0 10 rfl rfl)
abbrev cJ8_min_2 : ByteArray := prog_35_method_70_code
def yJ8_min_2 : MethodName := ⟨RJ8, "min", "(JJ)J"⟩
def dkwJ8_min_2_0 : List UInt8 := [30, 32, 148, 157, 0, 7, 30, 167, 0, 4, 32, 173]
abbrev dktJ8_min_2_0 : List UInt8 := dkwJ8_min_2_0 ++ []
theorem dksJ8_min_2_0 : cJ8_min_2.data.toList.drop 0 = dktJ8_min_2_0 := by decide +kernel
theorem dJ8_min_2_0 : decode cJ8_min_2 0 = .ok (.lload_n 0, 1) := dk_30 (dk_at dksJ8_min_2_0 0 rfl rfl)
theorem dJ8_min_2_1 : decode cJ8_min_2 1 = .ok (.lload_n 2, 1) := dk_32 (dk_at dksJ8_min_2_0 1 rfl rfl)
theorem dJ8_min_2_2 : decode cJ8_min_2 2 = .ok (.lcmp, 1) := dk_148 (dk_at dksJ8_min_2_0 2 rfl rfl)
theorem dJ8_min_2_3 : decode cJ8_min_2 3 = .ok (.ifCond .gt 7, 3) := dk_157 0 7 (dk_at dksJ8_min_2_0 3 rfl rfl)
theorem dJ8_min_2_6 : decode cJ8_min_2 6 = .ok (.lload_n 0, 1) := dk_30 (dk_at dksJ8_min_2_0 6 rfl rfl)
theorem dJ8_min_2_7 : decode cJ8_min_2 7 = .ok (.goto 4, 3) := dk_167 0 4 (dk_at dksJ8_min_2_0 7 rfl rfl)
theorem dJ8_min_2_10 : decode cJ8_min_2 10 = .ok (.lload_n 2, 1) := dk_32 (dk_at dksJ8_min_2_0 10 rfl rfl)
theorem dJ8_min_2_11 : decode cJ8_min_2 11 = .ok (.lreturn, 1) := dk_173 (dk_at dksJ8_min_2_0 11 rfl rfl)
abbrev cJ8_max_2 : ByteArray := prog_35_method_66_code
def yJ8_max_2 : MethodName := ⟨RJ8, "max", "(JJ)J"⟩
def dkwJ8_max_2_0 : List UInt8 := [30, 32, 148, 155, 0, 7, 30, 167, 0, 4, 32, 173]
abbrev dktJ8_max_2_0 : List UInt8 := dkwJ8_max_2_0 ++ []
theorem dksJ8_max_2_0 : cJ8_max_2.data.toList.drop 0 = dktJ8_max_2_0 := by decide +kernel
theorem dJ8_max_2_0 : decode cJ8_max_2 0 = .ok (.lload_n 0, 1) := dk_30 (dk_at dksJ8_max_2_0 0 rfl rfl)
theorem dJ8_max_2_1 : decode cJ8_max_2 1 = .ok (.lload_n 2, 1) := dk_32 (dk_at dksJ8_max_2_0 1 rfl rfl)
theorem dJ8_max_2_2 : decode cJ8_max_2 2 = .ok (.lcmp, 1) := dk_148 (dk_at dksJ8_max_2_0 2 rfl rfl)
theorem dJ8_max_2_3 : decode cJ8_max_2 3 = .ok (.ifCond .lt 7, 3) := dk_155 0 7 (dk_at dksJ8_max_2_0 3 rfl rfl)
theorem dJ8_max_2_6 : decode cJ8_max_2 6 = .ok (.lload_n 0, 1) := dk_30 (dk_at dksJ8_max_2_0 6 rfl rfl)
theorem dJ8_max_2_7 : decode cJ8_max_2 7 = .ok (.goto 4, 3) := dk_167 0 4 (dk_at dksJ8_max_2_0 7 rfl rfl)
theorem dJ8_max_2_10 : decode cJ8_max_2 10 = .ok (.lload_n 2, 1) := dk_32 (dk_at dksJ8_max_2_0 10 rfl rfl)
theorem dJ8_max_2_11 : decode cJ8_max_2 11 = .ok (.lreturn, 1) := dk_173 (dk_at dksJ8_max_2_0 11 rfl rfl)
theorem q132 : (Jvm.Cond.initialized "java/lang/Math") ∈ lw_all := lw_g (lw_at lw_m1 21 rfl) rfl
theorem q674 : (Jvm.Cond.static ({ cls := "java/lang/Math", name := "min", desc := "(II)I" } : Jvm.MethodName)) ∈ lw_all := lw_g (lw_at lw_m3 83 rfl) rfl
theorem q675 : (Jvm.Cond.code ({ cls := "java/lang/Math", name := "min", desc := "(II)I" } : Jvm.MethodName) prog_35_method_69_code (2 : Nat) (Option.some Jvm.ClassFile.FieldType.int)) ∈ lw_all := lw_g (lw_at lw_m3 84 rfl) rfl
theorem q687 : (Jvm.Cond.static ({ cls := "java/lang/Math", name := "max", desc := "(II)I" } : Jvm.MethodName)) ∈ lw_all := lw_g (lw_at lw_m3 96 rfl) rfl
theorem q688 : (Jvm.Cond.code ({ cls := "java/lang/Math", name := "max", desc := "(II)I" } : Jvm.MethodName) prog_35_method_65_code (2 : Nat) (Option.some Jvm.ClassFile.FieldType.int)) ∈ lw_all := lw_g (lw_at lw_m3 97 rfl) rfl
theorem q1357 : (Jvm.Cond.static ({ cls := "java/lang/Math", name := "min", desc := "(JJ)J" } : Jvm.MethodName)) ∈ lw_all := lw_g (lw_at lw_m6 46 rfl) rfl
theorem q1358 : (Jvm.Cond.code ({ cls := "java/lang/Math", name := "min", desc := "(JJ)J" } : Jvm.MethodName) prog_35_method_70_code (4 : Nat) (Option.some Jvm.ClassFile.FieldType.long)) ∈ lw_all := lw_g (lw_at lw_m6 47 rfl) rfl
theorem q1360 : (Jvm.Cond.static ({ cls := "java/lang/Math", name := "max", desc := "(JJ)J" } : Jvm.MethodName)) ∈ lw_all := lw_g (lw_at lw_m6 49 rfl) rfl
theorem q1361 : (Jvm.Cond.code ({ cls := "java/lang/Math", name := "max", desc := "(JJ)J" } : Jvm.MethodName) prog_35_method_66_code (4 : Nat) (Option.some Jvm.ClassFile.FieldType.long)) ∈ lw_all := lw_g (lw_at lw_m6 50 rfl) rfl
/-! java/util/Arrays -/
def RJ9 : String := "java/util/Arrays"
abbrev cJ9_copyOf : ByteArray := prog_44_method_119_code
def yJ9_copyOf : MethodName := ⟨RJ9, "copyOf", "([Ljava/lang/Object;I)[Ljava/lang/Object;"⟩
def dkwJ9_copyOf_0 : List UInt8 := [42, 27, 42, 182, 0, 86, 184, 1, 44, 176]
abbrev dktJ9_copyOf_0 : List UInt8 := dkwJ9_copyOf_0 ++ []
theorem dksJ9_copyOf_0 : cJ9_copyOf.data.toList.drop 0 = dktJ9_copyOf_0 := by decide +kernel
theorem dJ9_copyOf_0 : decode cJ9_copyOf 0 = .ok (.aload_n 0, 1) := dk_42 (dk_at dksJ9_copyOf_0 0 rfl rfl)
theorem dJ9_copyOf_1 : decode cJ9_copyOf 1 = .ok (.iload_n 1, 1) := dk_27 (dk_at dksJ9_copyOf_0 1 rfl rfl)
theorem dJ9_copyOf_2 : decode cJ9_copyOf 2 = .ok (.aload_n 0, 1) := dk_42 (dk_at dksJ9_copyOf_0 2 rfl rfl)
theorem dJ9_copyOf_3 : decode cJ9_copyOf 3 = .ok (.invokevirtual 86, 3) := dk_182 0 86 (dk_at dksJ9_copyOf_0 3 rfl rfl)
theorem dJ9_copyOf_6 : decode cJ9_copyOf 6 = .ok (.invokestatic 300, 3) := dk_184 1 44 (dk_at dksJ9_copyOf_0 6 rfl rfl)
theorem dJ9_copyOf_9 : decode cJ9_copyOf 9 = .ok (.areturn, 1) := dk_176 (dk_at dksJ9_copyOf_0 9 rfl rfl)
abbrev cJ9_copyOf_2 : ByteArray := prog_44_method_120_code
def yJ9_copyOf_2 : MethodName := ⟨RJ9, "copyOf", "([Ljava/lang/Object;ILjava/lang/Class;)[Ljava/lang/Object;"⟩
def dkwJ9_copyOf_2_1 : List UInt8 := [78, 42, 3, 45, 3, 42, 190, 27, 184, 1, 48, 184, 0, 150, 45, 176]
abbrev dktJ9_copyOf_2_1 : List UInt8 := dkwJ9_copyOf_2_1 ++ []
def dkwJ9_copyOf_2_0 : List UInt8 := [44, 18, 110, 166, 0, 10, 27, 189, 0, 2, 167, 0, 14, 44, 182, 0, 90, 27, 184, 0, 95, 192, 0, 110]
abbrev dktJ9_copyOf_2_0 : List UInt8 := dkwJ9_copyOf_2_0 ++ dktJ9_copyOf_2_1
theorem dksJ9_copyOf_2_0 : cJ9_copyOf_2.data.toList.drop 0 = dktJ9_copyOf_2_0 := by decide +kernel
theorem dksJ9_copyOf_2_1 : cJ9_copyOf_2.data.toList.drop 24 = dktJ9_copyOf_2_1 := dk_seg dksJ9_copyOf_2_0 24 rfl rfl
theorem dJ9_copyOf_2_0 : decode cJ9_copyOf_2 0 = .ok (.aload_n 2, 1) := dk_44 (dk_at dksJ9_copyOf_2_0 0 rfl rfl)
theorem dJ9_copyOf_2_1 : decode cJ9_copyOf_2 1 = .ok (.ldc 110, 2) := dk_18 110 (dk_at dksJ9_copyOf_2_0 1 rfl rfl)
theorem dJ9_copyOf_2_3 : decode cJ9_copyOf_2 3 = .ok (.if_acmp .ne 10, 3) := dk_166 0 10 (dk_at dksJ9_copyOf_2_0 3 rfl rfl)
theorem dJ9_copyOf_2_6 : decode cJ9_copyOf_2 6 = .ok (.iload_n 1, 1) := dk_27 (dk_at dksJ9_copyOf_2_0 6 rfl rfl)
theorem dJ9_copyOf_2_7 : decode cJ9_copyOf_2 7 = .ok (.anewarray 2, 3) := dk_189 0 2 (dk_at dksJ9_copyOf_2_0 7 rfl rfl)
theorem dJ9_copyOf_2_10 : decode cJ9_copyOf_2 10 = .ok (.goto 14, 3) := dk_167 0 14 (dk_at dksJ9_copyOf_2_0 10 rfl rfl)
theorem dJ9_copyOf_2_13 : decode cJ9_copyOf_2 13 = .ok (.aload_n 2, 1) := dk_44 (dk_at dksJ9_copyOf_2_0 13 rfl rfl)
theorem dJ9_copyOf_2_14 : decode cJ9_copyOf_2 14 = .ok (.invokevirtual 90, 3) := dk_182 0 90 (dk_at dksJ9_copyOf_2_0 14 rfl rfl)
theorem dJ9_copyOf_2_17 : decode cJ9_copyOf_2 17 = .ok (.iload_n 1, 1) := dk_27 (dk_at dksJ9_copyOf_2_0 17 rfl rfl)
theorem dJ9_copyOf_2_18 : decode cJ9_copyOf_2 18 = .ok (.invokestatic 95, 3) := dk_184 0 95 (dk_at dksJ9_copyOf_2_0 18 rfl rfl)
theorem dJ9_copyOf_2_21 : decode cJ9_copyOf_2 21 = .ok (.checkcast 110, 3) := dk_192 0 110 (dk_at dksJ9_copyOf_2_0 21 rfl rfl)
theorem dJ9_copyOf_2_24 : decode cJ9_copyOf_2 24 = .ok (.astore_n 3, 1) := dk_78 (dk_at dksJ9_copyOf_2_1 0 rfl rfl)
theorem dJ9_copyOf_2_25 : decode cJ9_copyOf_2 25 = .ok (.aload_n 0, 1) := dk_42 (dk_at dksJ9_copyOf_2_1 1 rfl rfl)
theorem dJ9_copyOf_2_26 : decode cJ9_copyOf_2 26 = .ok (.iconst 0, 1) := dk_3 (dk_at dksJ9_copyOf_2_1 2 rfl rfl)
theorem dJ9_copyOf_2_27 : decode cJ9_copyOf_2 27 = .ok (.aload_n 3, 1) := dk_45 (dk_at dksJ9_copyOf_2_1 3 rfl rfl)
theorem dJ9_copyOf_2_28 : decode cJ9_copyOf_2 28 = .ok (.iconst 0, 1) := dk_3 (dk_at dksJ9_copyOf_2_1 4 rfl rfl)
theorem dJ9_copyOf_2_29 : decode cJ9_copyOf_2 29 = .ok (.aload_n 0, 1) := dk_42 (dk_at dksJ9_copyOf_2_1 5 rfl rfl)
theorem dJ9_copyOf_2_30 : decode cJ9_copyOf_2 30 = .ok (.arraylength, 1) := dk_190 (dk_at dksJ9_copyOf_2_1 6 rfl rfl)
theorem dJ9_copyOf_2_31 : decode cJ9_copyOf_2 31 = .ok (.iload_n 1, 1) := dk_27 (dk_at dksJ9_copyOf_2_1 7 rfl rfl)
theorem dJ9_copyOf_2_32 : decode cJ9_copyOf_2 32 = .ok (.invokestatic 304, 3) := dk_184 1 48 (dk_at dksJ9_copyOf_2_1 8 rfl rfl)
theorem dJ9_copyOf_2_35 : decode cJ9_copyOf_2 35 = .ok (.invokestatic 150, 3) := dk_184 0 150 (dk_at dksJ9_copyOf_2_1 11 rfl rfl)
theorem dJ9_copyOf_2_38 : decode cJ9_copyOf_2 38 = .ok (.aload_n 3, 1) := dk_45 (dk_at dksJ9_copyOf_2_1 14 rfl rfl)
theorem dJ9_copyOf_2_39 : decode cJ9_copyOf_2 39 = .ok (.areturn, 1) := dk_176 (dk_at dksJ9_copyOf_2_1 15 rfl rfl)
theorem q133 : (Jvm.Cond.initialized "java/util/Arrays") ∈ lw_all := lw_g (lw_at lw_m1 22 rfl) rfl
theorem q636 : (Jvm.Cond.static ({ cls := "java/util/Arrays", name := "copyOf", desc := "([Ljava/lang/Object;I)[Ljava/lang/Object;" } : Jvm.MethodName)) ∈ lw_all := lw_g (lw_at lw_m3 45 rfl) rfl
theorem q637 : (Jvm.Cond.code ({ cls := "java/util/Arrays", name := "copyOf", desc := "([Ljava/lang/Object;I)[Ljava/lang/Object;" } : Jvm.MethodName) prog_44_method_119_code (2 : Nat) (Option.some (Jvm.ClassFile.FieldType.array (Jvm.ClassFile.FieldType.object "java/lang/Object")))) ∈ lw_all := lw_g (lw_at lw_m3 46 rfl) rfl
theorem q638 : (Jvm.Cond.methodLink "java/util/Arrays" (86 : Nat) ({ cls := "java/lang/Object", name := "getClass", desc := "()Ljava/lang/Class;" } : Jvm.MethodName)) ∈ lw_all := lw_g (lw_at lw_m3 47 rfl) rfl
theorem q668 : (Jvm.Cond.methodLink "java/util/Arrays" (300 : Nat) ({ cls := "java/util/Arrays", name := "copyOf", desc := "([Ljava/lang/Object;ILjava/lang/Class;)[Ljava/lang/Object;" } : Jvm.MethodName)) ∈ lw_all := lw_g (lw_at lw_m3 77 rfl) rfl
theorem q669 : (Jvm.Cond.static ({ cls := "java/util/Arrays", name := "copyOf", desc := "([Ljava/lang/Object;ILjava/lang/Class;)[Ljava/lang/Object;" } : Jvm.MethodName)) ∈ lw_all := lw_g (lw_at lw_m3 78 rfl) rfl
theorem q670 : (Jvm.Cond.code ({ cls := "java/util/Arrays", name := "copyOf", desc := "([Ljava/lang/Object;ILjava/lang/Class;)[Ljava/lang/Object;" } : Jvm.MethodName) prog_44_method_120_code (4 : Nat) (Option.some (Jvm.ClassFile.FieldType.array (Jvm.ClassFile.FieldType.object "java/lang/Object")))) ∈ lw_all := lw_g (lw_at lw_m3 79 rfl) rfl
theorem q671 : (Jvm.Cond.classLink "java/util/Arrays" (110 : Nat) "[Ljava/lang/Object;") ∈ lw_all := lw_g (lw_at lw_m3 80 rfl) rfl
theorem q672 : (Jvm.Cond.classLink "java/util/Arrays" (2 : Nat) "java/lang/Object") ∈ lw_all := lw_g (lw_at lw_m3 81 rfl) rfl
theorem q673 : (Jvm.Cond.methodLink "java/util/Arrays" (304 : Nat) ({ cls := "java/lang/Math", name := "min", desc := "(II)I" } : Jvm.MethodName)) ∈ lw_all := lw_g (lw_at lw_m3 82 rfl) rfl
theorem q676 : (Jvm.Cond.methodLink "java/util/Arrays" (150 : Nat) ({ cls := "java/lang/System", name := "arraycopy", desc := "(Ljava/lang/Object;ILjava/lang/Object;II)V" } : Jvm.MethodName)) ∈ lw_all := lw_g (lw_at lw_m3 85 rfl) rfl
/-! java/lang/String -/
def RJ10 : String := "java/lang/String"
abbrev cJ10_length : ByteArray := prog_36_method_54_code
def yJ10_length : MethodName := ⟨RJ10, "length", "()I"⟩
def dkwJ10_length_0 : List UInt8 := [42, 180, 0, 9, 190, 42, 182, 1, 79, 122, 172]
abbrev dktJ10_length_0 : List UInt8 := dkwJ10_length_0 ++ []
theorem dksJ10_length_0 : cJ10_length.data.toList.drop 0 = dktJ10_length_0 := by decide +kernel
theorem dJ10_length_0 : decode cJ10_length 0 = .ok (.aload_n 0, 1) := dk_42 (dk_at dksJ10_length_0 0 rfl rfl)
theorem dJ10_length_1 : decode cJ10_length 1 = .ok (.getfield 9, 3) := dk_180 0 9 (dk_at dksJ10_length_0 1 rfl rfl)
theorem dJ10_length_4 : decode cJ10_length 4 = .ok (.arraylength, 1) := dk_190 (dk_at dksJ10_length_0 4 rfl rfl)
theorem dJ10_length_5 : decode cJ10_length 5 = .ok (.aload_n 0, 1) := dk_42 (dk_at dksJ10_length_0 5 rfl rfl)
theorem dJ10_length_6 : decode cJ10_length 6 = .ok (.invokevirtual 335, 3) := dk_182 1 79 (dk_at dksJ10_length_0 6 rfl rfl)
theorem dJ10_length_9 : decode cJ10_length 9 = .ok (.ishr, 1) := dk_122 (dk_at dksJ10_length_0 9 rfl rfl)
theorem dJ10_length_10 : decode cJ10_length 10 = .ok (.ireturn, 1) := dk_172 (dk_at dksJ10_length_0 10 rfl rfl)
abbrev cJ10_coder : ByteArray := prog_36_method_152_code
def yJ10_coder : MethodName := ⟨RJ10, "coder", "()B"⟩
def dkwJ10_coder_0 : List UInt8 := [178, 0, 38, 153, 0, 10, 42, 180, 0, 15, 167, 0, 4, 4, 172]
abbrev dktJ10_coder_0 : List UInt8 := dkwJ10_coder_0 ++ []
theorem dksJ10_coder_0 : cJ10_coder.data.toList.drop 0 = dktJ10_coder_0 := by decide +kernel
theorem dJ10_coder_0 : decode cJ10_coder 0 = .ok (.getstatic 38, 3) := dk_178 0 38 (dk_at dksJ10_coder_0 0 rfl rfl)
theorem dJ10_coder_3 : decode cJ10_coder 3 = .ok (.ifCond .eq 10, 3) := dk_153 0 10 (dk_at dksJ10_coder_0 3 rfl rfl)
theorem dJ10_coder_6 : decode cJ10_coder 6 = .ok (.aload_n 0, 1) := dk_42 (dk_at dksJ10_coder_0 6 rfl rfl)
theorem dJ10_coder_7 : decode cJ10_coder 7 = .ok (.getfield 15, 3) := dk_180 0 15 (dk_at dksJ10_coder_0 7 rfl rfl)
theorem dJ10_coder_10 : decode cJ10_coder 10 = .ok (.goto 4, 3) := dk_167 0 4 (dk_at dksJ10_coder_0 10 rfl rfl)
theorem dJ10_coder_13 : decode cJ10_coder 13 = .ok (.iconst 1, 1) := dk_4 (dk_at dksJ10_coder_0 13 rfl rfl)
theorem dJ10_coder_14 : decode cJ10_coder 14 = .ok (.ireturn, 1) := dk_172 (dk_at dksJ10_coder_0 14 rfl rfl)
abbrev cJ10_charAt : ByteArray := prog_36_method_56_code
def yJ10_charAt : MethodName := ⟨RJ10, "charAt", "(I)C"⟩
def dkwJ10_charAt_1 : List UInt8 := [172]
abbrev dktJ10_charAt_1 : List UInt8 := dkwJ10_charAt_1 ++ []
def dkwJ10_charAt_0 : List UInt8 := [42, 182, 1, 236, 153, 0, 12, 42, 180, 0, 9, 27, 184, 1, 239, 172, 42, 180, 0, 9, 27, 184, 1, 242]
abbrev dktJ10_charAt_0 : List UInt8 := dkwJ10_charAt_0 ++ dktJ10_charAt_1
theorem dksJ10_charAt_0 : cJ10_charAt.data.toList.drop 0 = dktJ10_charAt_0 := by decide +kernel
theorem dksJ10_charAt_1 : cJ10_charAt.data.toList.drop 24 = dktJ10_charAt_1 := dk_seg dksJ10_charAt_0 24 rfl rfl
theorem dJ10_charAt_0 : decode cJ10_charAt 0 = .ok (.aload_n 0, 1) := dk_42 (dk_at dksJ10_charAt_0 0 rfl rfl)
theorem dJ10_charAt_1 : decode cJ10_charAt 1 = .ok (.invokevirtual 492, 3) := dk_182 1 236 (dk_at dksJ10_charAt_0 1 rfl rfl)
theorem dJ10_charAt_4 : decode cJ10_charAt 4 = .ok (.ifCond .eq 12, 3) := dk_153 0 12 (dk_at dksJ10_charAt_0 4 rfl rfl)
theorem dJ10_charAt_7 : decode cJ10_charAt 7 = .ok (.aload_n 0, 1) := dk_42 (dk_at dksJ10_charAt_0 7 rfl rfl)
theorem dJ10_charAt_8 : decode cJ10_charAt 8 = .ok (.getfield 9, 3) := dk_180 0 9 (dk_at dksJ10_charAt_0 8 rfl rfl)
theorem dJ10_charAt_11 : decode cJ10_charAt 11 = .ok (.iload_n 1, 1) := dk_27 (dk_at dksJ10_charAt_0 11 rfl rfl)
theorem dJ10_charAt_12 : decode cJ10_charAt 12 = .ok (.invokestatic 495, 3) := dk_184 1 239 (dk_at dksJ10_charAt_0 12 rfl rfl)
theorem dJ10_charAt_15 : decode cJ10_charAt 15 = .ok (.ireturn, 1) := dk_172 (dk_at dksJ10_charAt_0 15 rfl rfl)
theorem dJ10_charAt_16 : decode cJ10_charAt 16 = .ok (.aload_n 0, 1) := dk_42 (dk_at dksJ10_charAt_0 16 rfl rfl)
theorem dJ10_charAt_17 : decode cJ10_charAt 17 = .ok (.getfield 9, 3) := dk_180 0 9 (dk_at dksJ10_charAt_0 17 rfl rfl)
theorem dJ10_charAt_20 : decode cJ10_charAt 20 = .ok (.iload_n 1, 1) := dk_27 (dk_at dksJ10_charAt_0 20 rfl rfl)
theorem dJ10_charAt_21 : decode cJ10_charAt 21 = .ok (.invokestatic 498, 3) := dk_184 1 242 (dk_at dksJ10_charAt_0 21 rfl rfl)
theorem dJ10_charAt_24 : decode cJ10_charAt 24 = .ok (.ireturn, 1) := dk_172 (dk_at dksJ10_charAt_1 0 rfl rfl)
abbrev cJ10_isLatin1 : ByteArray := prog_36_method_154_code
def yJ10_isLatin1 : MethodName := ⟨RJ10, "isLatin1", "()Z"⟩
def dkwJ10_isLatin1_0 : List UInt8 := [178, 0, 38, 153, 0, 14, 42, 180, 0, 15, 154, 0, 7, 4, 167, 0, 4, 3, 172]
abbrev dktJ10_isLatin1_0 : List UInt8 := dkwJ10_isLatin1_0 ++ []
theorem dksJ10_isLatin1_0 : cJ10_isLatin1.data.toList.drop 0 = dktJ10_isLatin1_0 := by decide +kernel
theorem dJ10_isLatin1_0 : decode cJ10_isLatin1 0 = .ok (.getstatic 38, 3) := dk_178 0 38 (dk_at dksJ10_isLatin1_0 0 rfl rfl)
theorem dJ10_isLatin1_3 : decode cJ10_isLatin1 3 = .ok (.ifCond .eq 14, 3) := dk_153 0 14 (dk_at dksJ10_isLatin1_0 3 rfl rfl)
theorem dJ10_isLatin1_6 : decode cJ10_isLatin1 6 = .ok (.aload_n 0, 1) := dk_42 (dk_at dksJ10_isLatin1_0 6 rfl rfl)
theorem dJ10_isLatin1_7 : decode cJ10_isLatin1 7 = .ok (.getfield 15, 3) := dk_180 0 15 (dk_at dksJ10_isLatin1_0 7 rfl rfl)
theorem dJ10_isLatin1_10 : decode cJ10_isLatin1 10 = .ok (.ifCond .ne 7, 3) := dk_154 0 7 (dk_at dksJ10_isLatin1_0 10 rfl rfl)
theorem dJ10_isLatin1_13 : decode cJ10_isLatin1 13 = .ok (.iconst 1, 1) := dk_4 (dk_at dksJ10_isLatin1_0 13 rfl rfl)
theorem dJ10_isLatin1_14 : decode cJ10_isLatin1 14 = .ok (.goto 4, 3) := dk_167 0 4 (dk_at dksJ10_isLatin1_0 14 rfl rfl)
theorem dJ10_isLatin1_17 : decode cJ10_isLatin1 17 = .ok (.iconst 0, 1) := dk_3 (dk_at dksJ10_isLatin1_0 17 rfl rfl)
theorem dJ10_isLatin1_18 : decode cJ10_isLatin1 18 = .ok (.ireturn, 1) := dk_172 (dk_at dksJ10_isLatin1_0 18 rfl rfl)
abbrev cJ10_checkIndex : ByteArray := prog_36_method_155_code
def yJ10_checkIndex : MethodName := ⟨RJ10, "checkIndex", "(II)V"⟩
def dkwJ10_checkIndex_0 : List UInt8 := [26, 27, 178, 4, 29, 184, 4, 35, 87, 177]
abbrev dktJ10_checkIndex_0 : List UInt8 := dkwJ10_checkIndex_0 ++ []
theorem dksJ10_checkIndex_0 : cJ10_checkIndex.data.toList.drop 0 = dktJ10_checkIndex_0 := by decide +kernel
theorem dJ10_checkIndex_0 : decode cJ10_checkIndex 0 = .ok (.iload_n 0, 1) := dk_26 (dk_at dksJ10_checkIndex_0 0 rfl rfl)
theorem dJ10_checkIndex_1 : decode cJ10_checkIndex 1 = .ok (.iload_n 1, 1) := dk_27 (dk_at dksJ10_checkIndex_0 1 rfl rfl)
theorem dJ10_checkIndex_2 : decode cJ10_checkIndex 2 = .ok (.getstatic 1053, 3) := dk_178 4 29 (dk_at dksJ10_checkIndex_0 2 rfl rfl)
theorem dJ10_checkIndex_5 : decode cJ10_checkIndex 5 = .ok (.invokestatic 1059, 3) := dk_184 4 35 (dk_at dksJ10_checkIndex_0 5 rfl rfl)
theorem dJ10_checkIndex_8 : decode cJ10_checkIndex 8 = .ok (.pop, 1) := dk_87 (dk_at dksJ10_checkIndex_0 8 rfl rfl)
theorem dJ10_checkIndex_9 : decode cJ10_checkIndex 9 = .ok (.return_, 1) := dk_177 (dk_at dksJ10_checkIndex_0 9 rfl rfl)
theorem q137 : (Jvm.Cond.initialized "java/lang/String") ∈ lw_all := lw_g (lw_at lw_m1 26 rfl) rfl
theorem q937 : (Jvm.Cond.instanceMethod ({ cls := "java/lang/String", name := "length", desc := "()I" } : Jvm.MethodName)) ∈ lw_all := lw_g (lw_at lw_m4 106 rfl) rfl
theorem q938 : (Jvm.Cond.selects "java/lang/String" ({ cls := "java/lang/String", name := "length", desc := "()I" } : Jvm.MethodName) ({ cls := "java/lang/String", name := "length", desc := "()I" } : Jvm.MethodName)) ∈ lw_all := lw_g (lw_at lw_m4 107 rfl) rfl
theorem q939 : (Jvm.Cond.code ({ cls := "java/lang/String", name := "length", desc := "()I" } : Jvm.MethodName) prog_36_method_54_code (1 : Nat) (Option.some Jvm.ClassFile.FieldType.int)) ∈ lw_all := lw_g (lw_at lw_m4 108 rfl) rfl
theorem q940 : (Jvm.Cond.methodLink "java/lang/String" (335 : Nat) ({ cls := "java/lang/String", name := "coder", desc := "()B" } : Jvm.MethodName)) ∈ lw_all := lw_g (lw_at lw_m4 109 rfl) rfl
theorem q941 : (Jvm.Cond.instanceMethod ({ cls := "java/lang/String", name := "coder", desc := "()B" } : Jvm.MethodName)) ∈ lw_all := lw_g (lw_at lw_m4 110 rfl) rfl
theorem q942 : (Jvm.Cond.selects "java/lang/String" ({ cls := "java/lang/String", name := "coder", desc := "()B" } : Jvm.MethodName) ({ cls := "java/lang/String", name := "coder", desc := "()B" } : Jvm.MethodName)) ∈ lw_all := lw_g (lw_at lw_m4 111 rfl) rfl
theorem q943 : (Jvm.Cond.code ({ cls := "java/lang/String", name := "coder", desc := "()B" } : Jvm.MethodName) prog_36_method_152_code (1 : Nat) (Option.some Jvm.ClassFile.FieldType.byte)) ∈ lw_all := lw_g (lw_at lw_m4 112 rfl) rfl
theorem q944 : (Jvm.Cond.fieldLink "java/lang/String" (38 : Nat) "java/lang/String" "COMPACT_STRINGS" "Z") ∈ lw_all := lw_g (lw_at lw_m4 113 rfl) rfl
theorem q945 : (Jvm.Cond.laysStatic "java/lang/String" "COMPACT_STRINGS" "Z") ∈ lw_tbl := lw_at lw_m4 114 rfl
theorem q947 : (Jvm.Cond.instanceMethod ({ cls := "java/lang/String", name := "charAt", desc := "(I)C" } : Jvm.MethodName)) ∈ lw_all := lw_g (lw_at lw_m4 116 rfl) rfl
theorem q948 : (Jvm.Cond.selects "java/lang/String" ({ cls := "java/lang/String", name := "charAt", desc := "(I)C" } : Jvm.MethodName) ({ cls := "java/lang/String", name := "charAt", desc := "(I)C" } : Jvm.MethodName)) ∈ lw_all := lw_g (lw_at lw_m4 117 rfl) rfl
theorem q949 : (Jvm.Cond.code ({ cls := "java/lang/String", name := "charAt", desc := "(I)C" } : Jvm.MethodName) prog_36_method_56_code (2 : Nat) (Option.some Jvm.ClassFile.FieldType.char)) ∈ lw_all := lw_g (lw_at lw_m4 118 rfl) rfl
theorem q950 : (Jvm.Cond.methodLink "java/lang/String" (492 : Nat) ({ cls := "java/lang/String", name := "isLatin1", desc := "()Z" } : Jvm.MethodName)) ∈ lw_all := lw_g (lw_at lw_m4 119 rfl) rfl
theorem q951 : (Jvm.Cond.instanceMethod ({ cls := "java/lang/String", name := "isLatin1", desc := "()Z" } : Jvm.MethodName)) ∈ lw_all := lw_g (lw_at lw_m4 120 rfl) rfl
theorem q952 : (Jvm.Cond.selects "java/lang/String" ({ cls := "java/lang/String", name := "isLatin1", desc := "()Z" } : Jvm.MethodName) ({ cls := "java/lang/String", name := "isLatin1", desc := "()Z" } : Jvm.MethodName)) ∈ lw_all := lw_g (lw_at lw_m4 121 rfl) rfl
theorem q953 : (Jvm.Cond.code ({ cls := "java/lang/String", name := "isLatin1", desc := "()Z" } : Jvm.MethodName) prog_36_method_154_code (1 : Nat) (Option.some Jvm.ClassFile.FieldType.boolean)) ∈ lw_all := lw_g (lw_at lw_m4 122 rfl) rfl
theorem q954 : (Jvm.Cond.methodLink "java/lang/String" (495 : Nat) ({ cls := "java/lang/StringLatin1", name := "charAt", desc := "([BI)C" } : Jvm.MethodName)) ∈ lw_all := lw_g (lw_at lw_m4 123 rfl) rfl
theorem q958 : (Jvm.Cond.static ({ cls := "java/lang/String", name := "checkIndex", desc := "(II)V" } : Jvm.MethodName)) ∈ lw_all := lw_g (lw_at lw_m4 127 rfl) rfl
theorem q959 : (Jvm.Cond.code ({ cls := "java/lang/String", name := "checkIndex", desc := "(II)V" } : Jvm.MethodName) prog_36_method_155_code (2 : Nat) (Option.none : Option Jvm.ClassFile.FieldType)) ∈ lw_all := lw_g (lw_at lw_m4 128 rfl) rfl
theorem q960 : (Jvm.Cond.fieldLink "java/lang/String" (1053 : Nat) "jdk/internal/util/Preconditions" "SIOOBE_FORMATTER" "Ljava/util/function/BiFunction;") ∈ lw_all := lw_g (lw_at lw_m4 129 rfl) rfl
theorem q962 : (Jvm.Cond.methodLink "java/lang/String" (1059 : Nat) ({ cls := "jdk/internal/util/Preconditions", name := "checkIndex", desc := "(IILjava/util/function/BiFunction;)I" } : Jvm.MethodName)) ∈ lw_all := lw_g (lw_at lw_m4 131 rfl) rfl
theorem q963 : (Jvm.Cond.methodLink "java/lang/String" (498 : Nat) ({ cls := "java/lang/StringUTF16", name := "charAt", desc := "([BI)C" } : Jvm.MethodName)) ∈ lw_all := lw_g (lw_at lw_m4 132 rfl) rfl
theorem q2626 : (Jvm.Cond.castable "java/lang/String" "java/lang/Object") ∈ lw_tbl := lw_at lw_m11 115 rfl
theorem q2637 : (Jvm.Cond.fieldLink "java/lang/String" (9 : Nat) "java/lang/String" "value" "[B") ∈ lw_all := lw_g (lw_at lw_m11 126 rfl) rfl
theorem q2638 : (Jvm.Cond.fieldLink "java/lang/String" (15 : Nat) "java/lang/String" "coder" "B") ∈ lw_all := lw_g (lw_at lw_m11 127 rfl) rfl
/-! java/lang/StringLatin1 -/
def RJ11 : String := "java/lang/StringLatin1"
abbrev cJ11_charAt : ByteArray := prog_37_method_2_code
def yJ11_charAt : MethodName := ⟨RJ11, "charAt", "([BI)C"⟩
def dkwJ11_charAt_0 : List UInt8 := [27, 42, 190, 184, 0, 9, 42, 27, 51, 17, 0, 255, 126, 146, 172]
abbrev dktJ11_charAt_0 : List UInt8 := dkwJ11_charAt_0 ++ []
theorem dksJ11_charAt_0 : cJ11_charAt.data.toList.drop 0 = dktJ11_charAt_0 := by decide +kernel
theorem dJ11_charAt_0 : decode cJ11_charAt 0 = .ok (.iload_n 1, 1) := dk_27 (dk_at dksJ11_charAt_0 0 rfl rfl)
theorem dJ11_charAt_1 : decode cJ11_charAt 1 = .ok (.aload_n 0, 1) := dk_42 (dk_at dksJ11_charAt_0 1 rfl rfl)
theorem dJ11_charAt_2 : decode cJ11_charAt 2 = .ok (.arraylength, 1) := dk_190 (dk_at dksJ11_charAt_0 2 rfl rfl)
theorem dJ11_charAt_3 : decode cJ11_charAt 3 = .ok (.invokestatic 9, 3) := dk_184 0 9 (dk_at dksJ11_charAt_0 3 rfl rfl)
theorem dJ11_charAt_6 : decode cJ11_charAt 6 = .ok (.aload_n 0, 1) := dk_42 (dk_at dksJ11_charAt_0 6 rfl rfl)
theorem dJ11_charAt_7 : decode cJ11_charAt 7 = .ok (.iload_n 1, 1) := dk_27 (dk_at dksJ11_charAt_0 7 rfl rfl)
theorem dJ11_charAt_8 : decode cJ11_charAt 8 = .ok (.baload, 1) := dk_51 (dk_at dksJ11_charAt_0 8 rfl rfl)
theorem dJ11_charAt_9 : decode cJ11_charAt 9 = .ok (.sipush 255, 3) := dk_17 0 255 (dk_at dksJ11_charAt_0 9 rfl rfl)
theorem dJ11_charAt_12 : decode cJ11_charAt 12 = .ok (.iand, 1) := dk_126 (dk_at dksJ11_charAt_0 12 rfl rfl)
theorem dJ11_charAt_13 : decode cJ11_charAt 13 = .ok (.i2c, 1) := dk_146 (dk_at dksJ11_charAt_0 13 rfl rfl)
theorem dJ11_charAt_14 : decode cJ11_charAt 14 = .ok (.ireturn, 1) := dk_172 (dk_at dksJ11_charAt_0 14 rfl rfl)
theorem q138 : (Jvm.Cond.initialized "java/lang/StringLatin1") ∈ lw_all := lw_g (lw_at lw_m1 27 rfl) rfl
theorem q955 : (Jvm.Cond.static ({ cls := "java/lang/StringLatin1", name := "charAt", desc := "([BI)C" } : Jvm.MethodName)) ∈ lw_all := lw_g (lw_at lw_m4 124 rfl) rfl
theorem q956 : (Jvm.Cond.code ({ cls := "java/lang/StringLatin1", name := "charAt", desc := "([BI)C" } : Jvm.MethodName) prog_37_method_2_code (2 : Nat) (Option.some Jvm.ClassFile.FieldType.char)) ∈ lw_all := lw_g (lw_at lw_m4 125 rfl) rfl
theorem q957 : (Jvm.Cond.methodLink "java/lang/StringLatin1" (9 : Nat) ({ cls := "java/lang/String", name := "checkIndex", desc := "(II)V" } : Jvm.MethodName)) ∈ lw_all := lw_g (lw_at lw_m4 126 rfl) rfl
/-! java/lang/StringUTF16 -/
def RJ12 : String := "java/lang/StringUTF16"
abbrev cJ12_charAt : ByteArray := prog_38_method_83_code
def yJ12_charAt : MethodName := ⟨RJ12, "charAt", "([BI)C"⟩
def dkwJ12_charAt_0 : List UInt8 := [27, 42, 184, 0, 67, 42, 27, 184, 0, 71, 172]
abbrev dktJ12_charAt_0 : List UInt8 := dkwJ12_charAt_0 ++ []
theorem dksJ12_charAt_0 : cJ12_charAt.data.toList.drop 0 = dktJ12_charAt_0 := by decide +kernel
theorem dJ12_charAt_0 : decode cJ12_charAt 0 = .ok (.iload_n 1, 1) := dk_27 (dk_at dksJ12_charAt_0 0 rfl rfl)
theorem dJ12_charAt_1 : decode cJ12_charAt 1 = .ok (.aload_n 0, 1) := dk_42 (dk_at dksJ12_charAt_0 1 rfl rfl)
theorem dJ12_charAt_2 : decode cJ12_charAt 2 = .ok (.invokestatic 67, 3) := dk_184 0 67 (dk_at dksJ12_charAt_0 2 rfl rfl)
theorem dJ12_charAt_5 : decode cJ12_charAt 5 = .ok (.aload_n 0, 1) := dk_42 (dk_at dksJ12_charAt_0 5 rfl rfl)
theorem dJ12_charAt_6 : decode cJ12_charAt 6 = .ok (.iload_n 1, 1) := dk_27 (dk_at dksJ12_charAt_0 6 rfl rfl)
theorem dJ12_charAt_7 : decode cJ12_charAt 7 = .ok (.invokestatic 71, 3) := dk_184 0 71 (dk_at dksJ12_charAt_0 7 rfl rfl)
theorem dJ12_charAt_10 : decode cJ12_charAt 10 = .ok (.ireturn, 1) := dk_172 (dk_at dksJ12_charAt_0 10 rfl rfl)
abbrev cJ12_checkIndex : ByteArray := prog_38_method_91_code
def yJ12_checkIndex : MethodName := ⟨RJ12, "checkIndex", "(I[B)V"⟩
def dkwJ12_checkIndex_0 : List UInt8 := [26, 43, 184, 0, 48, 184, 1, 158, 177]
abbrev dktJ12_checkIndex_0 : List UInt8 := dkwJ12_checkIndex_0 ++ []
theorem dksJ12_checkIndex_0 : cJ12_checkIndex.data.toList.drop 0 = dktJ12_checkIndex_0 := by decide +kernel
theorem dJ12_checkIndex_0 : decode cJ12_checkIndex 0 = .ok (.iload_n 0, 1) := dk_26 (dk_at dksJ12_checkIndex_0 0 rfl rfl)
theorem dJ12_checkIndex_1 : decode cJ12_checkIndex 1 = .ok (.aload_n 1, 1) := dk_43 (dk_at dksJ12_checkIndex_0 1 rfl rfl)
theorem dJ12_checkIndex_2 : decode cJ12_checkIndex 2 = .ok (.invokestatic 48, 3) := dk_184 0 48 (dk_at dksJ12_checkIndex_0 2 rfl rfl)
theorem dJ12_checkIndex_5 : decode cJ12_checkIndex 5 = .ok (.invokestatic 414, 3) := dk_184 1 158 (dk_at dksJ12_checkIndex_0 5 rfl rfl)
theorem dJ12_checkIndex_8 : decode cJ12_checkIndex 8 = .ok (.return_, 1) := dk_177 (dk_at dksJ12_checkIndex_0 8 rfl rfl)
abbrev cJ12_length : ByteArray := prog_38_method_6_code
def yJ12_length : MethodName := ⟨RJ12, "length", "([B)I"⟩
def dkwJ12_length_0 : List UInt8 := [42, 190, 4, 122, 172]
abbrev dktJ12_length_0 : List UInt8 := dkwJ12_length_0 ++ []
theorem dksJ12_length_0 : cJ12_length.data.toList.drop 0 = dktJ12_length_0 := by decide +kernel
theorem dJ12_length_0 : decode cJ12_length 0 = .ok (.aload_n 0, 1) := dk_42 (dk_at dksJ12_length_0 0 rfl rfl)
theorem dJ12_length_1 : decode cJ12_length 1 = .ok (.arraylength, 1) := dk_190 (dk_at dksJ12_length_0 1 rfl rfl)
theorem dJ12_length_2 : decode cJ12_length 2 = .ok (.iconst 1, 1) := dk_4 (dk_at dksJ12_length_0 2 rfl rfl)
theorem dJ12_length_3 : decode cJ12_length 3 = .ok (.ishr, 1) := dk_122 (dk_at dksJ12_length_0 3 rfl rfl)
theorem dJ12_length_4 : decode cJ12_length 4 = .ok (.ireturn, 1) := dk_172 (dk_at dksJ12_length_0 4 rfl rfl)
abbrev cJ12_getChar : ByteArray := prog_38_method_5_code
def yJ12_getChar : MethodName := ⟨RJ12, "getChar", "([BI)C"⟩
def dkwJ12_getChar_2 : List UInt8 := [51, 17, 0, 255, 126, 178, 0, 63, 120, 128, 146, 172]
abbrev dktJ12_getChar_2 : List UInt8 := dkwJ12_getChar_2 ++ []
def dkwJ12_getChar_1 : List UInt8 := [183, 0, 56, 191, 27, 4, 120, 60, 42, 27, 132, 1, 1, 51, 17, 0, 255, 126, 178, 0, 59, 120, 42, 27]
abbrev dktJ12_getChar_1 : List UInt8 := dkwJ12_getChar_1 ++ dktJ12_getChar_2
def dkwJ12_getChar_0 : List UInt8 := [178, 0, 44, 154, 0, 25, 27, 155, 0, 11, 27, 42, 184, 0, 48, 161, 0, 13, 187, 0, 52, 89, 18, 54]
abbrev dktJ12_getChar_0 : List UInt8 := dkwJ12_getChar_0 ++ dktJ12_getChar_1
theorem dksJ12_getChar_0 : cJ12_getChar.data.toList.drop 0 = dktJ12_getChar_0 := by decide +kernel
theorem dksJ12_getChar_1 : cJ12_getChar.data.toList.drop 24 = dktJ12_getChar_1 := dk_seg dksJ12_getChar_0 24 rfl rfl
theorem dksJ12_getChar_2 : cJ12_getChar.data.toList.drop 48 = dktJ12_getChar_2 := dk_seg dksJ12_getChar_1 24 rfl rfl
theorem dJ12_getChar_0 : decode cJ12_getChar 0 = .ok (.getstatic 44, 3) := dk_178 0 44 (dk_at dksJ12_getChar_0 0 rfl rfl)
theorem dJ12_getChar_3 : decode cJ12_getChar 3 = .ok (.ifCond .ne 25, 3) := dk_154 0 25 (dk_at dksJ12_getChar_0 3 rfl rfl)
theorem dJ12_getChar_6 : decode cJ12_getChar 6 = .ok (.iload_n 1, 1) := dk_27 (dk_at dksJ12_getChar_0 6 rfl rfl)
theorem dJ12_getChar_7 : decode cJ12_getChar 7 = .ok (.ifCond .lt 11, 3) := dk_155 0 11 (dk_at dksJ12_getChar_0 7 rfl rfl)
theorem dJ12_getChar_10 : decode cJ12_getChar 10 = .ok (.iload_n 1, 1) := dk_27 (dk_at dksJ12_getChar_0 10 rfl rfl)
theorem dJ12_getChar_11 : decode cJ12_getChar 11 = .ok (.aload_n 0, 1) := dk_42 (dk_at dksJ12_getChar_0 11 rfl rfl)
theorem dJ12_getChar_12 : decode cJ12_getChar 12 = .ok (.invokestatic 48, 3) := dk_184 0 48 (dk_at dksJ12_getChar_0 12 rfl rfl)
theorem dJ12_getChar_15 : decode cJ12_getChar 15 = .ok (.if_icmp .lt 13, 3) := dk_161 0 13 (dk_at dksJ12_getChar_0 15 rfl rfl)
theorem dJ12_getChar_18 : decode cJ12_getChar 18 = .ok (.new 52, 3) := dk_187 0 52 (dk_at dksJ12_getChar_0 18 rfl rfl)
theorem dJ12_getChar_21 : decode cJ12_getChar 21 = .ok (.dup, 1) := dk_89 (dk_at dksJ12_getChar_0 21 rfl rfl)
theorem dJ12_getChar_22 : decode cJ12_getChar 22 = .ok (.ldc 54, 2) := dk_18 54 (dk_at dksJ12_getChar_0 22 rfl rfl)
theorem dJ12_getChar_24 : decode cJ12_getChar 24 = .ok (.invokespecial 56, 3) := dk_183 0 56 (dk_at dksJ12_getChar_1 0 rfl rfl)
theorem dJ12_getChar_27 : decode cJ12_getChar 27 = .ok (.athrow, 1) := dk_191 (dk_at dksJ12_getChar_1 3 rfl rfl)
theorem dJ12_getChar_28 : decode cJ12_getChar 28 = .ok (.iload_n 1, 1) := dk_27 (dk_at dksJ12_getChar_1 4 rfl rfl)
theorem dJ12_getChar_29 : decode cJ12_getChar 29 = .ok (.iconst 1, 1) := dk_4 (dk_at dksJ12_getChar_1 5 rfl rfl)
theorem dJ12_getChar_30 : decode cJ12_getChar 30 = .ok (.ishl, 1) := dk_120 (dk_at dksJ12_getChar_1 6 rfl rfl)
theorem dJ12_getChar_31 : decode cJ12_getChar 31 = .ok (.istore_n 1, 1) := dk_60 (dk_at dksJ12_getChar_1 7 rfl rfl)
theorem dJ12_getChar_32 : decode cJ12_getChar 32 = .ok (.aload_n 0, 1) := dk_42 (dk_at dksJ12_getChar_1 8 rfl rfl)
theorem dJ12_getChar_33 : decode cJ12_getChar 33 = .ok (.iload_n 1, 1) := dk_27 (dk_at dksJ12_getChar_1 9 rfl rfl)
theorem dJ12_getChar_34 : decode cJ12_getChar 34 = .ok (.iinc 1 1, 3) := dk_132 1 1 (dk_at dksJ12_getChar_1 10 rfl rfl)
theorem dJ12_getChar_37 : decode cJ12_getChar 37 = .ok (.baload, 1) := dk_51 (dk_at dksJ12_getChar_1 13 rfl rfl)
theorem dJ12_getChar_38 : decode cJ12_getChar 38 = .ok (.sipush 255, 3) := dk_17 0 255 (dk_at dksJ12_getChar_1 14 rfl rfl)
theorem dJ12_getChar_41 : decode cJ12_getChar 41 = .ok (.iand, 1) := dk_126 (dk_at dksJ12_getChar_1 17 rfl rfl)
theorem dJ12_getChar_42 : decode cJ12_getChar 42 = .ok (.getstatic 59, 3) := dk_178 0 59 (dk_at dksJ12_getChar_1 18 rfl rfl)
theorem dJ12_getChar_45 : decode cJ12_getChar 45 = .ok (.ishl, 1) := dk_120 (dk_at dksJ12_getChar_1 21 rfl rfl)
theorem dJ12_getChar_46 : decode cJ12_getChar 46 = .ok (.aload_n 0, 1) := dk_42 (dk_at dksJ12_getChar_1 22 rfl rfl)
theorem dJ12_getChar_47 : decode cJ12_getChar 47 = .ok (.iload_n 1, 1) := dk_27 (dk_at dksJ12_getChar_1 23 rfl rfl)
theorem dJ12_getChar_48 : decode cJ12_getChar 48 = .ok (.baload, 1) := dk_51 (dk_at dksJ12_getChar_2 0 rfl rfl)
theorem dJ12_getChar_49 : decode cJ12_getChar 49 = .ok (.sipush 255, 3) := dk_17 0 255 (dk_at dksJ12_getChar_2 1 rfl rfl)
theorem dJ12_getChar_52 : decode cJ12_getChar 52 = .ok (.iand, 1) := dk_126 (dk_at dksJ12_getChar_2 4 rfl rfl)
theorem dJ12_getChar_53 : decode cJ12_getChar 53 = .ok (.getstatic 63, 3) := dk_178 0 63 (dk_at dksJ12_getChar_2 5 rfl rfl)
theorem dJ12_getChar_56 : decode cJ12_getChar 56 = .ok (.ishl, 1) := dk_120 (dk_at dksJ12_getChar_2 8 rfl rfl)
theorem dJ12_getChar_57 : decode cJ12_getChar 57 = .ok (.ior, 1) := dk_128 (dk_at dksJ12_getChar_2 9 rfl rfl)
theorem dJ12_getChar_58 : decode cJ12_getChar 58 = .ok (.i2c, 1) := dk_146 (dk_at dksJ12_getChar_2 10 rfl rfl)
theorem dJ12_getChar_59 : decode cJ12_getChar 59 = .ok (.ireturn, 1) := dk_172 (dk_at dksJ12_getChar_2 11 rfl rfl)
theorem q139 : (Jvm.Cond.initialized "java/lang/StringUTF16") ∈ lw_all := lw_g (lw_at lw_m1 28 rfl) rfl
theorem q964 : (Jvm.Cond.static ({ cls := "java/lang/StringUTF16", name := "charAt", desc := "([BI)C" } : Jvm.MethodName)) ∈ lw_all := lw_g (lw_at lw_m4 133 rfl) rfl
theorem q965 : (Jvm.Cond.code ({ cls := "java/lang/StringUTF16", name := "charAt", desc := "([BI)C" } : Jvm.MethodName) prog_38_method_83_code (2 : Nat) (Option.some Jvm.ClassFile.FieldType.char)) ∈ lw_all := lw_g (lw_at lw_m4 134 rfl) rfl
theorem q966 : (Jvm.Cond.methodLink "java/lang/StringUTF16" (67 : Nat) ({ cls := "java/lang/StringUTF16", name := "checkIndex", desc := "(I[B)V" } : Jvm.MethodName)) ∈ lw_all := lw_g (lw_at lw_m4 135 rfl) rfl
theorem q967 : (Jvm.Cond.static ({ cls := "java/lang/StringUTF16", name := "checkIndex", desc := "(I[B)V" } : Jvm.MethodName)) ∈ lw_all := lw_g (lw_at lw_m4 136 rfl) rfl
theorem q968 : (Jvm.Cond.code ({ cls := "java/lang/StringUTF16", name := "checkIndex", desc := "(I[B)V" } : Jvm.MethodName) prog_38_method_91_code (2 : Nat) (Option.none : Option Jvm.ClassFile.FieldType)) ∈ lw_all := lw_g (lw_at lw_m4 137 rfl) rfl
theorem q969 : (Jvm.Cond.methodLink "java/lang/StringUTF16" (48 : Nat) ({ cls := "java/lang/StringUTF16", name := "length", desc := "([B)I" } : Jvm.MethodName)) ∈ lw_all := lw_g (lw_at lw_m4 138 rfl) rfl
theorem q970 : (Jvm.Cond.static ({ cls := "java/lang/StringUTF16", name := "length", desc := "([B)I" } : Jvm.MethodName)) ∈ lw_all := lw_g (lw_at lw_m4 139 rfl) rfl
theorem q971 : (Jvm.Cond.code ({ cls := "java/lang/StringUTF16", name := "length", desc := "([B)I" } : Jvm.MethodName) prog_38_method_6_code (1 : Nat) (Option.some Jvm.ClassFile.FieldType.int)) ∈ lw_all := lw_g (lw_at lw_m4 140 rfl) rfl
theorem q972 : (Jvm.Cond.methodLink "java/lang/StringUTF16" (414 : Nat) ({ cls := "java/lang/String", name := "checkIndex", desc := "(II)V" } : Jvm.MethodName)) ∈ lw_all := lw_g (lw_at lw_m4 141 rfl) rfl
theorem q973 : (Jvm.Cond.methodLink "java/lang/StringUTF16" (71 : Nat) ({ cls := "java/lang/StringUTF16", name := "getChar", desc := "([BI)C" } : Jvm.MethodName)) ∈ lw_all := lw_g (lw_at lw_m4 142 rfl) rfl
theorem q974 : (Jvm.Cond.static ({ cls := "java/lang/StringUTF16", name := "getChar", desc := "([BI)C" } : Jvm.MethodName)) ∈ lw_all := lw_g (lw_at lw_m4 143 rfl) rfl
theorem q975 : (Jvm.Cond.code ({ cls := "java/lang/StringUTF16", name := "getChar", desc := "([BI)C" } : Jvm.MethodName) prog_38_method_5_code (2 : Nat) (Option.some Jvm.ClassFile.FieldType.char)) ∈ lw_all := lw_g (lw_at lw_m4 144 rfl) rfl
theorem q976 : (Jvm.Cond.fieldLink "java/lang/StringUTF16" (44 : Nat) "java/lang/StringUTF16" "$assertionsDisabled" "Z") ∈ lw_all := lw_g (lw_at lw_m4 145 rfl) rfl
theorem q977 : (Jvm.Cond.laysStatic "java/lang/StringUTF16" "$assertionsDisabled" "Z") ∈ lw_tbl := lw_at lw_m4 146 rfl
theorem q978 : (Jvm.Cond.fieldLink "java/lang/StringUTF16" (59 : Nat) "java/lang/StringUTF16" "HI_BYTE_SHIFT" "I") ∈ lw_all := lw_g (lw_at lw_m4 147 rfl) rfl
theorem q979 : (Jvm.Cond.laysStatic "java/lang/StringUTF16" "HI_BYTE_SHIFT" "I") ∈ lw_tbl := lw_at lw_m4 148 rfl
theorem q980 : (Jvm.Cond.fieldLink "java/lang/StringUTF16" (63 : Nat) "java/lang/StringUTF16" "LO_BYTE_SHIFT" "I") ∈ lw_all := lw_g (lw_at lw_m4 149 rfl) rfl
theorem q981 : (Jvm.Cond.laysStatic "java/lang/StringUTF16" "LO_BYTE_SHIFT" "I") ∈ lw_tbl := lw_at lw_m4 150 rfl
/-! java/lang/Integer -/
def RJ13 : String := "java/lang/Integer"
abbrev cJ13_bitCount : ByteArray := prog_33_method_49_code
def yJ13_bitCount : MethodName := ⟨RJ13, "bitCount", "(I)I"⟩
def dkwJ13_bitCount_2 : List UInt8 := [26, 16, 63, 126, 172]
abbrev dktJ13_bitCount_2 : List UInt8 := dkwJ13_bitCount_2 ++ []
def dkwJ13_bitCount_1 : List UInt8 := [26, 26, 7, 124, 96, 19, 1, 11, 126, 59, 26, 26, 16, 8, 124, 96, 59, 26, 26, 16, 16, 124, 96, 59]
abbrev dktJ13_bitCount_1 : List UInt8 := dkwJ13_bitCount_1 ++ dktJ13_bitCount_2
def dkwJ13_bitCount_0 : List UInt8 := [26, 26, 4, 124, 19, 1, 9, 126, 100, 59, 26, 19, 1, 10, 126, 26, 5, 124, 19, 1, 10, 126, 96, 59]
abbrev dktJ13_bitCount_0 : List UInt8 := dkwJ13_bitCount_0 ++ dktJ13_bitCount_1
theorem dksJ13_bitCount_0 : cJ13_bitCount.data.toList.drop 0 = dktJ13_bitCount_0 := by decide +kernel
theorem dksJ13_bitCount_1 : cJ13_bitCount.data.toList.drop 24 = dktJ13_bitCount_1 := dk_seg dksJ13_bitCount_0 24 rfl rfl
theorem dksJ13_bitCount_2 : cJ13_bitCount.data.toList.drop 48 = dktJ13_bitCount_2 := dk_seg dksJ13_bitCount_1 24 rfl rfl
theorem dJ13_bitCount_0 : decode cJ13_bitCount 0 = .ok (.iload_n 0, 1) := dk_26 (dk_at dksJ13_bitCount_0 0 rfl rfl)
theorem dJ13_bitCount_1 : decode cJ13_bitCount 1 = .ok (.iload_n 0, 1) := dk_26 (dk_at dksJ13_bitCount_0 1 rfl rfl)
theorem dJ13_bitCount_2 : decode cJ13_bitCount 2 = .ok (.iconst 1, 1) := dk_4 (dk_at dksJ13_bitCount_0 2 rfl rfl)
theorem dJ13_bitCount_3 : decode cJ13_bitCount 3 = .ok (.iushr, 1) := dk_124 (dk_at dksJ13_bitCount_0 3 rfl rfl)
theorem dJ13_bitCount_4 : decode cJ13_bitCount 4 = .ok (.ldc_w 265, 3) := dk_19 1 9 (dk_at dksJ13_bitCount_0 4 rfl rfl)
theorem dJ13_bitCount_7 : decode cJ13_bitCount 7 = .ok (.iand, 1) := dk_126 (dk_at dksJ13_bitCount_0 7 rfl rfl)
theorem dJ13_bitCount_8 : decode cJ13_bitCount 8 = .ok (.isub, 1) := dk_100 (dk_at dksJ13_bitCount_0 8 rfl rfl)
theorem dJ13_bitCount_9 : decode cJ13_bitCount 9 = .ok (.istore_n 0, 1) := dk_59 (dk_at dksJ13_bitCount_0 9 rfl rfl)
theorem dJ13_bitCount_10 : decode cJ13_bitCount 10 = .ok (.iload_n 0, 1) := dk_26 (dk_at dksJ13_bitCount_0 10 rfl rfl)
theorem dJ13_bitCount_11 : decode cJ13_bitCount 11 = .ok (.ldc_w 266, 3) := dk_19 1 10 (dk_at dksJ13_bitCount_0 11 rfl rfl)
theorem dJ13_bitCount_14 : decode cJ13_bitCount 14 = .ok (.iand, 1) := dk_126 (dk_at dksJ13_bitCount_0 14 rfl rfl)
theorem dJ13_bitCount_15 : decode cJ13_bitCount 15 = .ok (.iload_n 0, 1) := dk_26 (dk_at dksJ13_bitCount_0 15 rfl rfl)
theorem dJ13_bitCount_16 : decode cJ13_bitCount 16 = .ok (.iconst 2, 1) := dk_5 (dk_at dksJ13_bitCount_0 16 rfl rfl)
theorem dJ13_bitCount_17 : decode cJ13_bitCount 17 = .ok (.iushr, 1) := dk_124 (dk_at dksJ13_bitCount_0 17 rfl rfl)
theorem dJ13_bitCount_18 : decode cJ13_bitCount 18 = .ok (.ldc_w 266, 3) := dk_19 1 10 (dk_at dksJ13_bitCount_0 18 rfl rfl)
theorem dJ13_bitCount_21 : decode cJ13_bitCount 21 = .ok (.iand, 1) := dk_126 (dk_at dksJ13_bitCount_0 21 rfl rfl)
theorem dJ13_bitCount_22 : decode cJ13_bitCount 22 = .ok (.iadd, 1) := dk_96 (dk_at dksJ13_bitCount_0 22 rfl rfl)
theorem dJ13_bitCount_23 : decode cJ13_bitCount 23 = .ok (.istore_n 0, 1) := dk_59 (dk_at dksJ13_bitCount_0 23 rfl rfl)
theorem dJ13_bitCount_24 : decode cJ13_bitCount 24 = .ok (.iload_n 0, 1) := dk_26 (dk_at dksJ13_bitCount_1 0 rfl rfl)
theorem dJ13_bitCount_25 : decode cJ13_bitCount 25 = .ok (.iload_n 0, 1) := dk_26 (dk_at dksJ13_bitCount_1 1 rfl rfl)
theorem dJ13_bitCount_26 : decode cJ13_bitCount 26 = .ok (.iconst 4, 1) := dk_7 (dk_at dksJ13_bitCount_1 2 rfl rfl)
theorem dJ13_bitCount_27 : decode cJ13_bitCount 27 = .ok (.iushr, 1) := dk_124 (dk_at dksJ13_bitCount_1 3 rfl rfl)
theorem dJ13_bitCount_28 : decode cJ13_bitCount 28 = .ok (.iadd, 1) := dk_96 (dk_at dksJ13_bitCount_1 4 rfl rfl)
theorem dJ13_bitCount_29 : decode cJ13_bitCount 29 = .ok (.ldc_w 267, 3) := dk_19 1 11 (dk_at dksJ13_bitCount_1 5 rfl rfl)
theorem dJ13_bitCount_32 : decode cJ13_bitCount 32 = .ok (.iand, 1) := dk_126 (dk_at dksJ13_bitCount_1 8 rfl rfl)
theorem dJ13_bitCount_33 : decode cJ13_bitCount 33 = .ok (.istore_n 0, 1) := dk_59 (dk_at dksJ13_bitCount_1 9 rfl rfl)
theorem dJ13_bitCount_34 : decode cJ13_bitCount 34 = .ok (.iload_n 0, 1) := dk_26 (dk_at dksJ13_bitCount_1 10 rfl rfl)
theorem dJ13_bitCount_35 : decode cJ13_bitCount 35 = .ok (.iload_n 0, 1) := dk_26 (dk_at dksJ13_bitCount_1 11 rfl rfl)
theorem dJ13_bitCount_36 : decode cJ13_bitCount 36 = .ok (.bipush 8, 2) := dk_16 8 (dk_at dksJ13_bitCount_1 12 rfl rfl)
theorem dJ13_bitCount_38 : decode cJ13_bitCount 38 = .ok (.iushr, 1) := dk_124 (dk_at dksJ13_bitCount_1 14 rfl rfl)
theorem dJ13_bitCount_39 : decode cJ13_bitCount 39 = .ok (.iadd, 1) := dk_96 (dk_at dksJ13_bitCount_1 15 rfl rfl)
theorem dJ13_bitCount_40 : decode cJ13_bitCount 40 = .ok (.istore_n 0, 1) := dk_59 (dk_at dksJ13_bitCount_1 16 rfl rfl)
theorem dJ13_bitCount_41 : decode cJ13_bitCount 41 = .ok (.iload_n 0, 1) := dk_26 (dk_at dksJ13_bitCount_1 17 rfl rfl)
theorem dJ13_bitCount_42 : decode cJ13_bitCount 42 = .ok (.iload_n 0, 1) := dk_26 (dk_at dksJ13_bitCount_1 18 rfl rfl)
theorem dJ13_bitCount_43 : decode cJ13_bitCount 43 = .ok (.bipush 16, 2) := dk_16 16 (dk_at dksJ13_bitCount_1 19 rfl rfl)
theorem dJ13_bitCount_45 : decode cJ13_bitCount 45 = .ok (.iushr, 1) := dk_124 (dk_at dksJ13_bitCount_1 21 rfl rfl)
theorem dJ13_bitCount_46 : decode cJ13_bitCount 46 = .ok (.iadd, 1) := dk_96 (dk_at dksJ13_bitCount_1 22 rfl rfl)
theorem dJ13_bitCount_47 : decode cJ13_bitCount 47 = .ok (.istore_n 0, 1) := dk_59 (dk_at dksJ13_bitCount_1 23 rfl rfl)
theorem dJ13_bitCount_48 : decode cJ13_bitCount 48 = .ok (.iload_n 0, 1) := dk_26 (dk_at dksJ13_bitCount_2 0 rfl rfl)
theorem dJ13_bitCount_49 : decode cJ13_bitCount 49 = .ok (.bipush 63, 2) := dk_16 63 (dk_at dksJ13_bitCount_2 1 rfl rfl)
theorem dJ13_bitCount_51 : decode cJ13_bitCount 51 = .ok (.iand, 1) := dk_126 (dk_at dksJ13_bitCount_2 3 rfl rfl)
theorem dJ13_bitCount_52 : decode cJ13_bitCount 52 = .ok (.ireturn, 1) := dk_172 (dk_at dksJ13_bitCount_2 4 rfl rfl)
theorem q154 : (Jvm.Cond.initialized "java/lang/Integer") ∈ lw_all := lw_g (lw_at lw_m1 43 rfl) rfl
theorem q1661 : (Jvm.Cond.static ({ cls := "java/lang/Integer", name := "bitCount", desc := "(I)I" } : Jvm.MethodName)) ∈ lw_all := lw_g (lw_at lw_m7 110 rfl) rfl
theorem q1662 : (Jvm.Cond.code ({ cls := "java/lang/Integer", name := "bitCount", desc := "(I)I" } : Jvm.MethodName) prog_33_method_49_code (1 : Nat) (Option.some Jvm.ClassFile.FieldType.int)) ∈ lw_all := lw_g (lw_at lw_m7 111 rfl) rfl
theorem q1663 : (Jvm.Cond.constant "java/lang/Integer" (265 : Nat) (1431655765 : Int32)) ∈ lw_all := lw_g (lw_at lw_m7 112 rfl) rfl
theorem q1664 : (Jvm.Cond.constant "java/lang/Integer" (266 : Nat) (858993459 : Int32)) ∈ lw_all := lw_g (lw_at lw_m7 113 rfl) rfl
theorem q1665 : (Jvm.Cond.constant "java/lang/Integer" (267 : Nat) (252645135 : Int32)) ∈ lw_all := lw_g (lw_at lw_m7 114 rfl) rfl
/-! java/lang/Object -/
def RJ14 : String := "java/lang/Object"
abbrev cJ14_init : ByteArray := object_method_1_code
def yJ14_init : MethodName := ⟨RJ14, "<init>", "()V"⟩
theorem dJ14_init_0 : decode cJ14_init 0 = .ok (.return_, 1) := by decide +kernel
theorem q161 : (Jvm.Cond.instanceMethod ({ cls := "java/lang/Object", name := "<init>", desc := "()V" } : Jvm.MethodName)) ∈ lw_all := lw_g (lw_at lw_m1 50 rfl) rfl
theorem q162 : (Jvm.Cond.code ({ cls := "java/lang/Object", name := "<init>", desc := "()V" } : Jvm.MethodName) object_method_1_code (1 : Nat) (Option.none : Option Jvm.ClassFile.FieldType)) ∈ lw_all := lw_g (lw_at lw_m1 51 rfl) rfl
theorem q639 : (Jvm.Cond.instanceMethod ({ cls := "java/lang/Object", name := "getClass", desc := "()Ljava/lang/Class;" } : Jvm.MethodName)) ∈ lw_all := lw_g (lw_at lw_m3 48 rfl) rfl
theorem q640 : (Jvm.Cond.sameMethod "java/lang/Object" "java/lang/Object" "getClass" "()Ljava/lang/Class;") ∈ lw_all := lw_g (lw_at lw_m3 49 rfl) rfl
theorem q667 : (Jvm.Cond.native ({ cls := "java/lang/Object", name := "getClass", desc := "()Ljava/lang/Class;" } : Jvm.MethodName)) ∈ lw_all := lw_g (lw_at lw_m3 76 rfl) rfl
theorem q2595 : (Jvm.Cond.initialized "java/lang/Object") ∈ lw_all := lw_g (lw_at lw_m11 84 rfl) rfl
theorem q2629 : (Jvm.Cond.declares ({ cls := "java/lang/Object", name := "getClass", desc := "()Ljava/lang/Class;" } : Jvm.MethodName)) ∈ lw_tbl := lw_at lw_m11 118 rfl
/-! DeadUnderstudies$State -/
def RX1 : String := "DeadUnderstudies$State"
def TX1 : u_T := fun k => match k with
  | 0 => ("DeadUnderstudies$State", "scripts", "[LDeadUnderstudies$Script;", true)
  | 1 => ("DeadUnderstudies$State", "stages", "[I", true)
  | 2 => ("DeadUnderstudies$State", "cues", "[I", true)
  | 3 => ("DeadUnderstudies$State", "deeds", "[I", true)
  | 4 => ("DeadUnderstudies$State", "terms", "[I", true)
  | 5 => ("DeadUnderstudies$State", "people", "Ljava/util/ArrayList;", true)
  | 6 => ("DeadUnderstudies$State", "versions", "Ljava/util/ArrayList;", true)
  | 7 => ("DeadUnderstudies$State", "laws", "Ljava/util/ArrayList;", true)
  | 8 => ("DeadUnderstudies$State", "parts", "I", false)
  | 9 => ("DeadUnderstudies$State", "cueMany", "I", false)
  | 10 => ("DeadUnderstudies$State", "deedMany", "I", false)
  | _ => ("DeadUnderstudies$State", "force", "I", false)
def tyX1 : Nat → FieldType := fun k => match k with
  | 0 => .array (.object "DeadUnderstudies$Script")
  | 1 => .array .int
  | 2 => .array .int
  | 3 => .array .int
  | 4 => .array .int
  | 5 => .object "java/util/ArrayList"
  | 6 => .object "java/util/ArrayList"
  | 7 => .object "java/util/ArrayList"
  | 8 => .int
  | 9 => .int
  | 10 => .int
  | _ => .int
abbrev wsX10 : List Cond := u_ws RX1 TX1 12
theorem nmX1 : ∀ a, a < 12 → ∀ b, b < 12 → a ≠ b → (TX1 a).2.1 ≠ (TX1 b).2.1 := by decide +kernel
theorem tyX1_ok : ∀ k, k < 12 → parseFieldDescriptor (TX1 k).2.2.1 = some (tyX1 k) := by decide +kernel
abbrev cX1_init : ByteArray := prog_21_method_1_code
def yX1_init : MethodName := ⟨RX1, "<init>", "()V"⟩
def dkwX1_init_6 : List UInt8 := [187, 0, 31, 89, 5, 183, 0, 33, 181, 0, 43, 42, 2, 181, 0, 46, 177]
abbrev dktX1_init_6 : List UInt8 := dkwX1_init_6 ++ []
def dkwX1_init_5 : List UInt8 := [187, 0, 31, 89, 5, 183, 0, 33, 181, 0, 36, 42, 187, 0, 31, 89, 5, 183, 0, 33, 181, 0, 40, 42]
abbrev dktX1_init_5 : List UInt8 := dkwX1_init_5 ++ dktX1_init_6
def dkwX1_init_4 : List UInt8 := [181, 0, 25, 42, 6, 188, 10, 89, 3, 3, 79, 89, 4, 3, 79, 89, 5, 16, 10, 79, 181, 0, 28, 42]
abbrev dktX1_init_4 : List UInt8 := dkwX1_init_4 ++ dktX1_init_5
def dkwX1_init_3 : List UInt8 := [181, 0, 12, 42, 16, 12, 188, 10, 181, 0, 18, 42, 16, 12, 188, 10, 181, 0, 22, 42, 16, 36, 188, 10]
abbrev dktX1_init_3 : List UInt8 := dkwX1_init_3 ++ dktX1_init_4
def dkwX1_init_2 : List UInt8 := [183, 0, 11, 83, 89, 7, 187, 0, 9, 89, 183, 0, 11, 83, 89, 8, 187, 0, 9, 89, 183, 0, 11, 83]
abbrev dktX1_init_2 : List UInt8 := dkwX1_init_2 ++ dktX1_init_3
def dkwX1_init_1 : List UInt8 := [187, 0, 9, 89, 183, 0, 11, 83, 89, 5, 187, 0, 9, 89, 183, 0, 11, 83, 89, 6, 187, 0, 9, 89]
abbrev dktX1_init_1 : List UInt8 := dkwX1_init_1 ++ dktX1_init_2
def dkwX1_init_0 : List UInt8 := [42, 183, 0, 3, 42, 16, 6, 189, 0, 9, 89, 3, 187, 0, 9, 89, 183, 0, 11, 83, 89, 4]
abbrev dktX1_init_0 : List UInt8 := dkwX1_init_0 ++ dktX1_init_1
theorem dksX1_init_0 : cX1_init.data.toList.drop 0 = dktX1_init_0 := by decide +kernel
theorem dksX1_init_1 : cX1_init.data.toList.drop 22 = dktX1_init_1 := dk_seg dksX1_init_0 22 rfl rfl
theorem dksX1_init_2 : cX1_init.data.toList.drop 46 = dktX1_init_2 := dk_seg dksX1_init_1 24 rfl rfl
theorem dksX1_init_3 : cX1_init.data.toList.drop 70 = dktX1_init_3 := dk_seg dksX1_init_2 24 rfl rfl
theorem dksX1_init_4 : cX1_init.data.toList.drop 94 = dktX1_init_4 := dk_seg dksX1_init_3 24 rfl rfl
theorem dksX1_init_5 : cX1_init.data.toList.drop 118 = dktX1_init_5 := dk_seg dksX1_init_4 24 rfl rfl
theorem dksX1_init_6 : cX1_init.data.toList.drop 142 = dktX1_init_6 := dk_seg dksX1_init_5 24 rfl rfl
theorem dX1_init_0 : decode cX1_init 0 = .ok (.aload_n 0, 1) := dk_42 (dk_at dksX1_init_0 0 rfl rfl)
theorem dX1_init_1 : decode cX1_init 1 = .ok (.invokespecial 3, 3) := dk_183 0 3 (dk_at dksX1_init_0 1 rfl rfl)
theorem dX1_init_4 : decode cX1_init 4 = .ok (.aload_n 0, 1) := dk_42 (dk_at dksX1_init_0 4 rfl rfl)
theorem dX1_init_5 : decode cX1_init 5 = .ok (.bipush 6, 2) := dk_16 6 (dk_at dksX1_init_0 5 rfl rfl)
theorem dX1_init_7 : decode cX1_init 7 = .ok (.anewarray 9, 3) := dk_189 0 9 (dk_at dksX1_init_0 7 rfl rfl)
theorem dX1_init_10 : decode cX1_init 10 = .ok (.dup, 1) := dk_89 (dk_at dksX1_init_0 10 rfl rfl)
theorem dX1_init_11 : decode cX1_init 11 = .ok (.iconst 0, 1) := dk_3 (dk_at dksX1_init_0 11 rfl rfl)
theorem dX1_init_12 : decode cX1_init 12 = .ok (.new 9, 3) := dk_187 0 9 (dk_at dksX1_init_0 12 rfl rfl)
theorem dX1_init_15 : decode cX1_init 15 = .ok (.dup, 1) := dk_89 (dk_at dksX1_init_0 15 rfl rfl)
theorem dX1_init_16 : decode cX1_init 16 = .ok (.invokespecial 11, 3) := dk_183 0 11 (dk_at dksX1_init_0 16 rfl rfl)
theorem dX1_init_19 : decode cX1_init 19 = .ok (.aastore, 1) := dk_83 (dk_at dksX1_init_0 19 rfl rfl)
theorem dX1_init_20 : decode cX1_init 20 = .ok (.dup, 1) := dk_89 (dk_at dksX1_init_0 20 rfl rfl)
theorem dX1_init_21 : decode cX1_init 21 = .ok (.iconst 1, 1) := dk_4 (dk_at dksX1_init_0 21 rfl rfl)
theorem dX1_init_22 : decode cX1_init 22 = .ok (.new 9, 3) := dk_187 0 9 (dk_at dksX1_init_1 0 rfl rfl)
theorem dX1_init_25 : decode cX1_init 25 = .ok (.dup, 1) := dk_89 (dk_at dksX1_init_1 3 rfl rfl)
theorem dX1_init_26 : decode cX1_init 26 = .ok (.invokespecial 11, 3) := dk_183 0 11 (dk_at dksX1_init_1 4 rfl rfl)
theorem dX1_init_29 : decode cX1_init 29 = .ok (.aastore, 1) := dk_83 (dk_at dksX1_init_1 7 rfl rfl)
theorem dX1_init_30 : decode cX1_init 30 = .ok (.dup, 1) := dk_89 (dk_at dksX1_init_1 8 rfl rfl)
theorem dX1_init_31 : decode cX1_init 31 = .ok (.iconst 2, 1) := dk_5 (dk_at dksX1_init_1 9 rfl rfl)
theorem dX1_init_32 : decode cX1_init 32 = .ok (.new 9, 3) := dk_187 0 9 (dk_at dksX1_init_1 10 rfl rfl)
theorem dX1_init_35 : decode cX1_init 35 = .ok (.dup, 1) := dk_89 (dk_at dksX1_init_1 13 rfl rfl)
theorem dX1_init_36 : decode cX1_init 36 = .ok (.invokespecial 11, 3) := dk_183 0 11 (dk_at dksX1_init_1 14 rfl rfl)
theorem dX1_init_39 : decode cX1_init 39 = .ok (.aastore, 1) := dk_83 (dk_at dksX1_init_1 17 rfl rfl)
theorem dX1_init_40 : decode cX1_init 40 = .ok (.dup, 1) := dk_89 (dk_at dksX1_init_1 18 rfl rfl)
theorem dX1_init_41 : decode cX1_init 41 = .ok (.iconst 3, 1) := dk_6 (dk_at dksX1_init_1 19 rfl rfl)
theorem dX1_init_42 : decode cX1_init 42 = .ok (.new 9, 3) := dk_187 0 9 (dk_at dksX1_init_1 20 rfl rfl)
theorem dX1_init_45 : decode cX1_init 45 = .ok (.dup, 1) := dk_89 (dk_at dksX1_init_1 23 rfl rfl)
theorem dX1_init_46 : decode cX1_init 46 = .ok (.invokespecial 11, 3) := dk_183 0 11 (dk_at dksX1_init_2 0 rfl rfl)
theorem dX1_init_49 : decode cX1_init 49 = .ok (.aastore, 1) := dk_83 (dk_at dksX1_init_2 3 rfl rfl)
theorem dX1_init_50 : decode cX1_init 50 = .ok (.dup, 1) := dk_89 (dk_at dksX1_init_2 4 rfl rfl)
theorem dX1_init_51 : decode cX1_init 51 = .ok (.iconst 4, 1) := dk_7 (dk_at dksX1_init_2 5 rfl rfl)
theorem dX1_init_52 : decode cX1_init 52 = .ok (.new 9, 3) := dk_187 0 9 (dk_at dksX1_init_2 6 rfl rfl)
theorem dX1_init_55 : decode cX1_init 55 = .ok (.dup, 1) := dk_89 (dk_at dksX1_init_2 9 rfl rfl)
theorem dX1_init_56 : decode cX1_init 56 = .ok (.invokespecial 11, 3) := dk_183 0 11 (dk_at dksX1_init_2 10 rfl rfl)
theorem dX1_init_59 : decode cX1_init 59 = .ok (.aastore, 1) := dk_83 (dk_at dksX1_init_2 13 rfl rfl)
theorem dX1_init_60 : decode cX1_init 60 = .ok (.dup, 1) := dk_89 (dk_at dksX1_init_2 14 rfl rfl)
theorem dX1_init_61 : decode cX1_init 61 = .ok (.iconst 5, 1) := dk_8 (dk_at dksX1_init_2 15 rfl rfl)
theorem dX1_init_62 : decode cX1_init 62 = .ok (.new 9, 3) := dk_187 0 9 (dk_at dksX1_init_2 16 rfl rfl)
theorem dX1_init_65 : decode cX1_init 65 = .ok (.dup, 1) := dk_89 (dk_at dksX1_init_2 19 rfl rfl)
theorem dX1_init_66 : decode cX1_init 66 = .ok (.invokespecial 11, 3) := dk_183 0 11 (dk_at dksX1_init_2 20 rfl rfl)
theorem dX1_init_69 : decode cX1_init 69 = .ok (.aastore, 1) := dk_83 (dk_at dksX1_init_2 23 rfl rfl)
theorem dX1_init_70 : decode cX1_init 70 = .ok (.putfield 12, 3) := dk_181 0 12 (dk_at dksX1_init_3 0 rfl rfl)
theorem dX1_init_73 : decode cX1_init 73 = .ok (.aload_n 0, 1) := dk_42 (dk_at dksX1_init_3 3 rfl rfl)
theorem dX1_init_74 : decode cX1_init 74 = .ok (.bipush 12, 2) := dk_16 12 (dk_at dksX1_init_3 4 rfl rfl)
theorem dX1_init_76 : decode cX1_init 76 = .ok (.newarray .int, 2) := dk_188_10 (dk_at dksX1_init_3 6 rfl rfl)
theorem dX1_init_78 : decode cX1_init 78 = .ok (.putfield 18, 3) := dk_181 0 18 (dk_at dksX1_init_3 8 rfl rfl)
theorem dX1_init_81 : decode cX1_init 81 = .ok (.aload_n 0, 1) := dk_42 (dk_at dksX1_init_3 11 rfl rfl)
theorem dX1_init_82 : decode cX1_init 82 = .ok (.bipush 12, 2) := dk_16 12 (dk_at dksX1_init_3 12 rfl rfl)
theorem dX1_init_84 : decode cX1_init 84 = .ok (.newarray .int, 2) := dk_188_10 (dk_at dksX1_init_3 14 rfl rfl)
theorem dX1_init_86 : decode cX1_init 86 = .ok (.putfield 22, 3) := dk_181 0 22 (dk_at dksX1_init_3 16 rfl rfl)
theorem dX1_init_89 : decode cX1_init 89 = .ok (.aload_n 0, 1) := dk_42 (dk_at dksX1_init_3 19 rfl rfl)
theorem dX1_init_90 : decode cX1_init 90 = .ok (.bipush 36, 2) := dk_16 36 (dk_at dksX1_init_3 20 rfl rfl)
theorem dX1_init_92 : decode cX1_init 92 = .ok (.newarray .int, 2) := dk_188_10 (dk_at dksX1_init_3 22 rfl rfl)
theorem dX1_init_94 : decode cX1_init 94 = .ok (.putfield 25, 3) := dk_181 0 25 (dk_at dksX1_init_4 0 rfl rfl)
theorem dX1_init_97 : decode cX1_init 97 = .ok (.aload_n 0, 1) := dk_42 (dk_at dksX1_init_4 3 rfl rfl)
theorem dX1_init_98 : decode cX1_init 98 = .ok (.iconst 3, 1) := dk_6 (dk_at dksX1_init_4 4 rfl rfl)
theorem dX1_init_99 : decode cX1_init 99 = .ok (.newarray .int, 2) := dk_188_10 (dk_at dksX1_init_4 5 rfl rfl)
theorem dX1_init_101 : decode cX1_init 101 = .ok (.dup, 1) := dk_89 (dk_at dksX1_init_4 7 rfl rfl)
theorem dX1_init_102 : decode cX1_init 102 = .ok (.iconst 0, 1) := dk_3 (dk_at dksX1_init_4 8 rfl rfl)
theorem dX1_init_103 : decode cX1_init 103 = .ok (.iconst 0, 1) := dk_3 (dk_at dksX1_init_4 9 rfl rfl)
theorem dX1_init_104 : decode cX1_init 104 = .ok (.iastore, 1) := dk_79 (dk_at dksX1_init_4 10 rfl rfl)
theorem dX1_init_105 : decode cX1_init 105 = .ok (.dup, 1) := dk_89 (dk_at dksX1_init_4 11 rfl rfl)
theorem dX1_init_106 : decode cX1_init 106 = .ok (.iconst 1, 1) := dk_4 (dk_at dksX1_init_4 12 rfl rfl)
theorem dX1_init_107 : decode cX1_init 107 = .ok (.iconst 0, 1) := dk_3 (dk_at dksX1_init_4 13 rfl rfl)
theorem dX1_init_108 : decode cX1_init 108 = .ok (.iastore, 1) := dk_79 (dk_at dksX1_init_4 14 rfl rfl)
theorem dX1_init_109 : decode cX1_init 109 = .ok (.dup, 1) := dk_89 (dk_at dksX1_init_4 15 rfl rfl)
theorem dX1_init_110 : decode cX1_init 110 = .ok (.iconst 2, 1) := dk_5 (dk_at dksX1_init_4 16 rfl rfl)
theorem dX1_init_111 : decode cX1_init 111 = .ok (.bipush 10, 2) := dk_16 10 (dk_at dksX1_init_4 17 rfl rfl)
theorem dX1_init_113 : decode cX1_init 113 = .ok (.iastore, 1) := dk_79 (dk_at dksX1_init_4 19 rfl rfl)
theorem dX1_init_114 : decode cX1_init 114 = .ok (.putfield 28, 3) := dk_181 0 28 (dk_at dksX1_init_4 20 rfl rfl)
theorem dX1_init_117 : decode cX1_init 117 = .ok (.aload_n 0, 1) := dk_42 (dk_at dksX1_init_4 23 rfl rfl)
theorem dX1_init_118 : decode cX1_init 118 = .ok (.new 31, 3) := dk_187 0 31 (dk_at dksX1_init_5 0 rfl rfl)
theorem dX1_init_121 : decode cX1_init 121 = .ok (.dup, 1) := dk_89 (dk_at dksX1_init_5 3 rfl rfl)
theorem dX1_init_122 : decode cX1_init 122 = .ok (.iconst 2, 1) := dk_5 (dk_at dksX1_init_5 4 rfl rfl)
theorem dX1_init_123 : decode cX1_init 123 = .ok (.invokespecial 33, 3) := dk_183 0 33 (dk_at dksX1_init_5 5 rfl rfl)
theorem dX1_init_126 : decode cX1_init 126 = .ok (.putfield 36, 3) := dk_181 0 36 (dk_at dksX1_init_5 8 rfl rfl)
theorem dX1_init_129 : decode cX1_init 129 = .ok (.aload_n 0, 1) := dk_42 (dk_at dksX1_init_5 11 rfl rfl)
theorem dX1_init_130 : decode cX1_init 130 = .ok (.new 31, 3) := dk_187 0 31 (dk_at dksX1_init_5 12 rfl rfl)
theorem dX1_init_133 : decode cX1_init 133 = .ok (.dup, 1) := dk_89 (dk_at dksX1_init_5 15 rfl rfl)
theorem dX1_init_134 : decode cX1_init 134 = .ok (.iconst 2, 1) := dk_5 (dk_at dksX1_init_5 16 rfl rfl)
theorem dX1_init_135 : decode cX1_init 135 = .ok (.invokespecial 33, 3) := dk_183 0 33 (dk_at dksX1_init_5 17 rfl rfl)
theorem dX1_init_138 : decode cX1_init 138 = .ok (.putfield 40, 3) := dk_181 0 40 (dk_at dksX1_init_5 20 rfl rfl)
theorem dX1_init_141 : decode cX1_init 141 = .ok (.aload_n 0, 1) := dk_42 (dk_at dksX1_init_5 23 rfl rfl)
theorem dX1_init_142 : decode cX1_init 142 = .ok (.new 31, 3) := dk_187 0 31 (dk_at dksX1_init_6 0 rfl rfl)
theorem dX1_init_145 : decode cX1_init 145 = .ok (.dup, 1) := dk_89 (dk_at dksX1_init_6 3 rfl rfl)
theorem dX1_init_146 : decode cX1_init 146 = .ok (.iconst 2, 1) := dk_5 (dk_at dksX1_init_6 4 rfl rfl)
theorem dX1_init_147 : decode cX1_init 147 = .ok (.invokespecial 33, 3) := dk_183 0 33 (dk_at dksX1_init_6 5 rfl rfl)
theorem dX1_init_150 : decode cX1_init 150 = .ok (.putfield 43, 3) := dk_181 0 43 (dk_at dksX1_init_6 8 rfl rfl)
theorem dX1_init_153 : decode cX1_init 153 = .ok (.aload_n 0, 1) := dk_42 (dk_at dksX1_init_6 11 rfl rfl)
theorem dX1_init_154 : decode cX1_init 154 = .ok (.iconst (-1), 1) := dk_2 (dk_at dksX1_init_6 12 rfl rfl)
theorem dX1_init_155 : decode cX1_init 155 = .ok (.putfield 46, 3) := dk_181 0 46 (dk_at dksX1_init_6 13 rfl rfl)
theorem dX1_init_158 : decode cX1_init 158 = .ok (.return_, 1) := dk_177 (dk_at dksX1_init_6 16 rfl rfl)
abbrev cX1_takes : ByteArray := prog_21_method_2_code
def yX1_takes : MethodName := ⟨RX1, "takes", "(LDeadUnderstudies$State;)V"⟩
def dkwX1_takes_7 : List UInt8 := [43, 180, 0, 73, 181, 0, 73, 42, 43, 180, 0, 46, 181, 0, 46, 177]
abbrev dktX1_takes_7 : List UInt8 := dkwX1_takes_7 ++ []
def dkwX1_takes_6 : List UInt8 := [180, 0, 43, 182, 0, 63, 87, 42, 43, 180, 0, 67, 181, 0, 67, 42, 43, 180, 0, 70, 181, 0, 70, 42]
abbrev dktX1_takes_6 : List UInt8 := dkwX1_takes_6 ++ dktX1_takes_7
def dkwX1_takes_5 : List UInt8 := [180, 0, 40, 43, 180, 0, 40, 182, 0, 63, 87, 42, 180, 0, 43, 182, 0, 60, 42, 180, 0, 43, 43]
abbrev dktX1_takes_5 : List UInt8 := dkwX1_takes_5 ++ dktX1_takes_6
def dkwX1_takes_4 : List UInt8 := [182, 0, 60, 42, 180, 0, 36, 43, 180, 0, 36, 182, 0, 63, 87, 42, 180, 0, 40, 182, 0, 60, 42]
abbrev dktX1_takes_4 : List UInt8 := dkwX1_takes_4 ++ dktX1_takes_5
def dkwX1_takes_3 : List UInt8 := [16, 36, 184, 0, 54, 43, 180, 0, 28, 3, 42, 180, 0, 28, 3, 6, 184, 0, 54, 42, 180, 0, 36]
abbrev dktX1_takes_3 : List UInt8 := dkwX1_takes_3 ++ dktX1_takes_4
def dkwX1_takes_2 : List UInt8 := [180, 0, 22, 3, 42, 180, 0, 22, 3, 16, 12, 184, 0, 54, 43, 180, 0, 25, 3, 42, 180, 0, 25, 3]
abbrev dktX1_takes_2 : List UInt8 := dkwX1_takes_2 ++ dktX1_takes_3
def dkwX1_takes_1 : List UInt8 := [132, 2, 1, 167, 255, 232, 43, 180, 0, 18, 3, 42, 180, 0, 18, 3, 16, 12, 184, 0, 54, 43]
abbrev dktX1_takes_1 : List UInt8 := dkwX1_takes_1 ++ dktX1_takes_2
def dkwX1_takes_0 : List UInt8 := [3, 61, 28, 16, 6, 162, 0, 24, 42, 180, 0, 12, 28, 50, 43, 180, 0, 12, 28, 50, 182, 0, 50]
abbrev dktX1_takes_0 : List UInt8 := dkwX1_takes_0 ++ dktX1_takes_1
theorem dksX1_takes_0 : cX1_takes.data.toList.drop 0 = dktX1_takes_0 := by decide +kernel
theorem dksX1_takes_1 : cX1_takes.data.toList.drop 23 = dktX1_takes_1 := dk_seg dksX1_takes_0 23 rfl rfl
theorem dksX1_takes_2 : cX1_takes.data.toList.drop 45 = dktX1_takes_2 := dk_seg dksX1_takes_1 22 rfl rfl
theorem dksX1_takes_3 : cX1_takes.data.toList.drop 69 = dktX1_takes_3 := dk_seg dksX1_takes_2 24 rfl rfl
theorem dksX1_takes_4 : cX1_takes.data.toList.drop 92 = dktX1_takes_4 := dk_seg dksX1_takes_3 23 rfl rfl
theorem dksX1_takes_5 : cX1_takes.data.toList.drop 115 = dktX1_takes_5 := dk_seg dksX1_takes_4 23 rfl rfl
theorem dksX1_takes_6 : cX1_takes.data.toList.drop 138 = dktX1_takes_6 := dk_seg dksX1_takes_5 23 rfl rfl
theorem dksX1_takes_7 : cX1_takes.data.toList.drop 162 = dktX1_takes_7 := dk_seg dksX1_takes_6 24 rfl rfl
theorem dX1_takes_0 : decode cX1_takes 0 = .ok (.iconst 0, 1) := dk_3 (dk_at dksX1_takes_0 0 rfl rfl)
theorem dX1_takes_1 : decode cX1_takes 1 = .ok (.istore_n 2, 1) := dk_61 (dk_at dksX1_takes_0 1 rfl rfl)
theorem dX1_takes_2 : decode cX1_takes 2 = .ok (.iload_n 2, 1) := dk_28 (dk_at dksX1_takes_0 2 rfl rfl)
theorem dX1_takes_3 : decode cX1_takes 3 = .ok (.bipush 6, 2) := dk_16 6 (dk_at dksX1_takes_0 3 rfl rfl)
theorem dX1_takes_5 : decode cX1_takes 5 = .ok (.if_icmp .ge 24, 3) := dk_162 0 24 (dk_at dksX1_takes_0 5 rfl rfl)
theorem dX1_takes_8 : decode cX1_takes 8 = .ok (.aload_n 0, 1) := dk_42 (dk_at dksX1_takes_0 8 rfl rfl)
theorem dX1_takes_9 : decode cX1_takes 9 = .ok (.getfield 12, 3) := dk_180 0 12 (dk_at dksX1_takes_0 9 rfl rfl)
theorem dX1_takes_12 : decode cX1_takes 12 = .ok (.iload_n 2, 1) := dk_28 (dk_at dksX1_takes_0 12 rfl rfl)
theorem dX1_takes_13 : decode cX1_takes 13 = .ok (.aaload, 1) := dk_50 (dk_at dksX1_takes_0 13 rfl rfl)
theorem dX1_takes_14 : decode cX1_takes 14 = .ok (.aload_n 1, 1) := dk_43 (dk_at dksX1_takes_0 14 rfl rfl)
theorem dX1_takes_15 : decode cX1_takes 15 = .ok (.getfield 12, 3) := dk_180 0 12 (dk_at dksX1_takes_0 15 rfl rfl)
theorem dX1_takes_18 : decode cX1_takes 18 = .ok (.iload_n 2, 1) := dk_28 (dk_at dksX1_takes_0 18 rfl rfl)
theorem dX1_takes_19 : decode cX1_takes 19 = .ok (.aaload, 1) := dk_50 (dk_at dksX1_takes_0 19 rfl rfl)
theorem dX1_takes_20 : decode cX1_takes 20 = .ok (.invokevirtual 50, 3) := dk_182 0 50 (dk_at dksX1_takes_0 20 rfl rfl)
theorem dX1_takes_23 : decode cX1_takes 23 = .ok (.iinc 2 1, 3) := dk_132 2 1 (dk_at dksX1_takes_1 0 rfl rfl)
theorem dX1_takes_26 : decode cX1_takes 26 = .ok (.goto (-24), 3) := dk_167 255 232 (dk_at dksX1_takes_1 3 rfl rfl)
theorem dX1_takes_29 : decode cX1_takes 29 = .ok (.aload_n 1, 1) := dk_43 (dk_at dksX1_takes_1 6 rfl rfl)
theorem dX1_takes_30 : decode cX1_takes 30 = .ok (.getfield 18, 3) := dk_180 0 18 (dk_at dksX1_takes_1 7 rfl rfl)
theorem dX1_takes_33 : decode cX1_takes 33 = .ok (.iconst 0, 1) := dk_3 (dk_at dksX1_takes_1 10 rfl rfl)
theorem dX1_takes_34 : decode cX1_takes 34 = .ok (.aload_n 0, 1) := dk_42 (dk_at dksX1_takes_1 11 rfl rfl)
theorem dX1_takes_35 : decode cX1_takes 35 = .ok (.getfield 18, 3) := dk_180 0 18 (dk_at dksX1_takes_1 12 rfl rfl)
theorem dX1_takes_38 : decode cX1_takes 38 = .ok (.iconst 0, 1) := dk_3 (dk_at dksX1_takes_1 15 rfl rfl)
theorem dX1_takes_39 : decode cX1_takes 39 = .ok (.bipush 12, 2) := dk_16 12 (dk_at dksX1_takes_1 16 rfl rfl)
theorem dX1_takes_41 : decode cX1_takes 41 = .ok (.invokestatic 54, 3) := dk_184 0 54 (dk_at dksX1_takes_1 18 rfl rfl)
theorem dX1_takes_44 : decode cX1_takes 44 = .ok (.aload_n 1, 1) := dk_43 (dk_at dksX1_takes_1 21 rfl rfl)
theorem dX1_takes_45 : decode cX1_takes 45 = .ok (.getfield 22, 3) := dk_180 0 22 (dk_at dksX1_takes_2 0 rfl rfl)
theorem dX1_takes_48 : decode cX1_takes 48 = .ok (.iconst 0, 1) := dk_3 (dk_at dksX1_takes_2 3 rfl rfl)
theorem dX1_takes_49 : decode cX1_takes 49 = .ok (.aload_n 0, 1) := dk_42 (dk_at dksX1_takes_2 4 rfl rfl)
theorem dX1_takes_50 : decode cX1_takes 50 = .ok (.getfield 22, 3) := dk_180 0 22 (dk_at dksX1_takes_2 5 rfl rfl)
theorem dX1_takes_53 : decode cX1_takes 53 = .ok (.iconst 0, 1) := dk_3 (dk_at dksX1_takes_2 8 rfl rfl)
theorem dX1_takes_54 : decode cX1_takes 54 = .ok (.bipush 12, 2) := dk_16 12 (dk_at dksX1_takes_2 9 rfl rfl)
theorem dX1_takes_56 : decode cX1_takes 56 = .ok (.invokestatic 54, 3) := dk_184 0 54 (dk_at dksX1_takes_2 11 rfl rfl)
theorem dX1_takes_59 : decode cX1_takes 59 = .ok (.aload_n 1, 1) := dk_43 (dk_at dksX1_takes_2 14 rfl rfl)
theorem dX1_takes_60 : decode cX1_takes 60 = .ok (.getfield 25, 3) := dk_180 0 25 (dk_at dksX1_takes_2 15 rfl rfl)
theorem dX1_takes_63 : decode cX1_takes 63 = .ok (.iconst 0, 1) := dk_3 (dk_at dksX1_takes_2 18 rfl rfl)
theorem dX1_takes_64 : decode cX1_takes 64 = .ok (.aload_n 0, 1) := dk_42 (dk_at dksX1_takes_2 19 rfl rfl)
theorem dX1_takes_65 : decode cX1_takes 65 = .ok (.getfield 25, 3) := dk_180 0 25 (dk_at dksX1_takes_2 20 rfl rfl)
theorem dX1_takes_68 : decode cX1_takes 68 = .ok (.iconst 0, 1) := dk_3 (dk_at dksX1_takes_2 23 rfl rfl)
theorem dX1_takes_69 : decode cX1_takes 69 = .ok (.bipush 36, 2) := dk_16 36 (dk_at dksX1_takes_3 0 rfl rfl)
theorem dX1_takes_71 : decode cX1_takes 71 = .ok (.invokestatic 54, 3) := dk_184 0 54 (dk_at dksX1_takes_3 2 rfl rfl)
theorem dX1_takes_74 : decode cX1_takes 74 = .ok (.aload_n 1, 1) := dk_43 (dk_at dksX1_takes_3 5 rfl rfl)
theorem dX1_takes_75 : decode cX1_takes 75 = .ok (.getfield 28, 3) := dk_180 0 28 (dk_at dksX1_takes_3 6 rfl rfl)
theorem dX1_takes_78 : decode cX1_takes 78 = .ok (.iconst 0, 1) := dk_3 (dk_at dksX1_takes_3 9 rfl rfl)
theorem dX1_takes_79 : decode cX1_takes 79 = .ok (.aload_n 0, 1) := dk_42 (dk_at dksX1_takes_3 10 rfl rfl)
theorem dX1_takes_80 : decode cX1_takes 80 = .ok (.getfield 28, 3) := dk_180 0 28 (dk_at dksX1_takes_3 11 rfl rfl)
theorem dX1_takes_83 : decode cX1_takes 83 = .ok (.iconst 0, 1) := dk_3 (dk_at dksX1_takes_3 14 rfl rfl)
theorem dX1_takes_84 : decode cX1_takes 84 = .ok (.iconst 3, 1) := dk_6 (dk_at dksX1_takes_3 15 rfl rfl)
theorem dX1_takes_85 : decode cX1_takes 85 = .ok (.invokestatic 54, 3) := dk_184 0 54 (dk_at dksX1_takes_3 16 rfl rfl)
theorem dX1_takes_88 : decode cX1_takes 88 = .ok (.aload_n 0, 1) := dk_42 (dk_at dksX1_takes_3 19 rfl rfl)
theorem dX1_takes_89 : decode cX1_takes 89 = .ok (.getfield 36, 3) := dk_180 0 36 (dk_at dksX1_takes_3 20 rfl rfl)
theorem dX1_takes_92 : decode cX1_takes 92 = .ok (.invokevirtual 60, 3) := dk_182 0 60 (dk_at dksX1_takes_4 0 rfl rfl)
theorem dX1_takes_95 : decode cX1_takes 95 = .ok (.aload_n 0, 1) := dk_42 (dk_at dksX1_takes_4 3 rfl rfl)
theorem dX1_takes_96 : decode cX1_takes 96 = .ok (.getfield 36, 3) := dk_180 0 36 (dk_at dksX1_takes_4 4 rfl rfl)
theorem dX1_takes_99 : decode cX1_takes 99 = .ok (.aload_n 1, 1) := dk_43 (dk_at dksX1_takes_4 7 rfl rfl)
theorem dX1_takes_100 : decode cX1_takes 100 = .ok (.getfield 36, 3) := dk_180 0 36 (dk_at dksX1_takes_4 8 rfl rfl)
theorem dX1_takes_103 : decode cX1_takes 103 = .ok (.invokevirtual 63, 3) := dk_182 0 63 (dk_at dksX1_takes_4 11 rfl rfl)
theorem dX1_takes_106 : decode cX1_takes 106 = .ok (.pop, 1) := dk_87 (dk_at dksX1_takes_4 14 rfl rfl)
theorem dX1_takes_107 : decode cX1_takes 107 = .ok (.aload_n 0, 1) := dk_42 (dk_at dksX1_takes_4 15 rfl rfl)
theorem dX1_takes_108 : decode cX1_takes 108 = .ok (.getfield 40, 3) := dk_180 0 40 (dk_at dksX1_takes_4 16 rfl rfl)
theorem dX1_takes_111 : decode cX1_takes 111 = .ok (.invokevirtual 60, 3) := dk_182 0 60 (dk_at dksX1_takes_4 19 rfl rfl)
theorem dX1_takes_114 : decode cX1_takes 114 = .ok (.aload_n 0, 1) := dk_42 (dk_at dksX1_takes_4 22 rfl rfl)
theorem dX1_takes_115 : decode cX1_takes 115 = .ok (.getfield 40, 3) := dk_180 0 40 (dk_at dksX1_takes_5 0 rfl rfl)
theorem dX1_takes_118 : decode cX1_takes 118 = .ok (.aload_n 1, 1) := dk_43 (dk_at dksX1_takes_5 3 rfl rfl)
theorem dX1_takes_119 : decode cX1_takes 119 = .ok (.getfield 40, 3) := dk_180 0 40 (dk_at dksX1_takes_5 4 rfl rfl)
theorem dX1_takes_122 : decode cX1_takes 122 = .ok (.invokevirtual 63, 3) := dk_182 0 63 (dk_at dksX1_takes_5 7 rfl rfl)
theorem dX1_takes_125 : decode cX1_takes 125 = .ok (.pop, 1) := dk_87 (dk_at dksX1_takes_5 10 rfl rfl)
theorem dX1_takes_126 : decode cX1_takes 126 = .ok (.aload_n 0, 1) := dk_42 (dk_at dksX1_takes_5 11 rfl rfl)
theorem dX1_takes_127 : decode cX1_takes 127 = .ok (.getfield 43, 3) := dk_180 0 43 (dk_at dksX1_takes_5 12 rfl rfl)
theorem dX1_takes_130 : decode cX1_takes 130 = .ok (.invokevirtual 60, 3) := dk_182 0 60 (dk_at dksX1_takes_5 15 rfl rfl)
theorem dX1_takes_133 : decode cX1_takes 133 = .ok (.aload_n 0, 1) := dk_42 (dk_at dksX1_takes_5 18 rfl rfl)
theorem dX1_takes_134 : decode cX1_takes 134 = .ok (.getfield 43, 3) := dk_180 0 43 (dk_at dksX1_takes_5 19 rfl rfl)
theorem dX1_takes_137 : decode cX1_takes 137 = .ok (.aload_n 1, 1) := dk_43 (dk_at dksX1_takes_5 22 rfl rfl)
theorem dX1_takes_138 : decode cX1_takes 138 = .ok (.getfield 43, 3) := dk_180 0 43 (dk_at dksX1_takes_6 0 rfl rfl)
theorem dX1_takes_141 : decode cX1_takes 141 = .ok (.invokevirtual 63, 3) := dk_182 0 63 (dk_at dksX1_takes_6 3 rfl rfl)
theorem dX1_takes_144 : decode cX1_takes 144 = .ok (.pop, 1) := dk_87 (dk_at dksX1_takes_6 6 rfl rfl)
theorem dX1_takes_145 : decode cX1_takes 145 = .ok (.aload_n 0, 1) := dk_42 (dk_at dksX1_takes_6 7 rfl rfl)
theorem dX1_takes_146 : decode cX1_takes 146 = .ok (.aload_n 1, 1) := dk_43 (dk_at dksX1_takes_6 8 rfl rfl)
theorem dX1_takes_147 : decode cX1_takes 147 = .ok (.getfield 67, 3) := dk_180 0 67 (dk_at dksX1_takes_6 9 rfl rfl)
theorem dX1_takes_150 : decode cX1_takes 150 = .ok (.putfield 67, 3) := dk_181 0 67 (dk_at dksX1_takes_6 12 rfl rfl)
theorem dX1_takes_153 : decode cX1_takes 153 = .ok (.aload_n 0, 1) := dk_42 (dk_at dksX1_takes_6 15 rfl rfl)
theorem dX1_takes_154 : decode cX1_takes 154 = .ok (.aload_n 1, 1) := dk_43 (dk_at dksX1_takes_6 16 rfl rfl)
theorem dX1_takes_155 : decode cX1_takes 155 = .ok (.getfield 70, 3) := dk_180 0 70 (dk_at dksX1_takes_6 17 rfl rfl)
theorem dX1_takes_158 : decode cX1_takes 158 = .ok (.putfield 70, 3) := dk_181 0 70 (dk_at dksX1_takes_6 20 rfl rfl)
theorem dX1_takes_161 : decode cX1_takes 161 = .ok (.aload_n 0, 1) := dk_42 (dk_at dksX1_takes_6 23 rfl rfl)
theorem dX1_takes_162 : decode cX1_takes 162 = .ok (.aload_n 1, 1) := dk_43 (dk_at dksX1_takes_7 0 rfl rfl)
theorem dX1_takes_163 : decode cX1_takes 163 = .ok (.getfield 73, 3) := dk_180 0 73 (dk_at dksX1_takes_7 1 rfl rfl)
theorem dX1_takes_166 : decode cX1_takes 166 = .ok (.putfield 73, 3) := dk_181 0 73 (dk_at dksX1_takes_7 4 rfl rfl)
theorem dX1_takes_169 : decode cX1_takes 169 = .ok (.aload_n 0, 1) := dk_42 (dk_at dksX1_takes_7 7 rfl rfl)
theorem dX1_takes_170 : decode cX1_takes 170 = .ok (.aload_n 1, 1) := dk_43 (dk_at dksX1_takes_7 8 rfl rfl)
theorem dX1_takes_171 : decode cX1_takes 171 = .ok (.getfield 46, 3) := dk_180 0 46 (dk_at dksX1_takes_7 9 rfl rfl)
theorem dX1_takes_174 : decode cX1_takes 174 = .ok (.putfield 46, 3) := dk_181 0 46 (dk_at dksX1_takes_7 12 rfl rfl)
theorem dX1_takes_177 : decode cX1_takes 177 = .ok (.return_, 1) := dk_177 (dk_at dksX1_takes_7 15 rfl rfl)
theorem q113 : (Jvm.Cond.initialized "DeadUnderstudies$State") ∈ lw_all := lw_g (lw_at lw_m1 2 rfl) rfl
theorem q164 : (Jvm.Cond.instantiable "DeadUnderstudies$State" (12 : Nat)) ∈ lw_all := lw_g (lw_at lw_m1 53 rfl) rfl
theorem q166 : (Jvm.Cond.instanceMethod ({ cls := "DeadUnderstudies$State", name := "<init>", desc := "()V" } : Jvm.MethodName)) ∈ lw_all := lw_g (lw_at lw_m1 55 rfl) rfl
theorem q167 : (Jvm.Cond.code ({ cls := "DeadUnderstudies$State", name := "<init>", desc := "()V" } : Jvm.MethodName) prog_21_method_1_code (1 : Nat) (Option.none : Option Jvm.ClassFile.FieldType)) ∈ lw_all := lw_g (lw_at lw_m1 56 rfl) rfl
theorem q168 : (Jvm.Cond.methodLink "DeadUnderstudies$State" (3 : Nat) ({ cls := "java/lang/Object", name := "<init>", desc := "()V" } : Jvm.MethodName)) ∈ lw_all := lw_g (lw_at lw_m1 57 rfl) rfl
theorem q169 : (Jvm.Cond.classLink "DeadUnderstudies$State" (9 : Nat) "DeadUnderstudies$Script") ∈ lw_all := lw_g (lw_at lw_m1 58 rfl) rfl
theorem q172 : (Jvm.Cond.methodLink "DeadUnderstudies$State" (11 : Nat) ({ cls := "DeadUnderstudies$Script", name := "<init>", desc := "()V" } : Jvm.MethodName)) ∈ lw_all := lw_g (lw_at lw_m1 61 rfl) rfl
theorem q190 : (Jvm.Cond.classLink "DeadUnderstudies$State" (31 : Nat) "java/util/ArrayList") ∈ lw_all := lw_g (lw_at lw_m1 79 rfl) rfl
theorem q192 : (Jvm.Cond.methodLink "DeadUnderstudies$State" (33 : Nat) ({ cls := "java/util/ArrayList", name := "<init>", desc := "(I)V" } : Jvm.MethodName)) ∈ lw_all := lw_g (lw_at lw_m1 81 rfl) rfl
theorem q218 : (Jvm.Cond.fieldLink "DeadUnderstudies$State" (12 : Nat) "DeadUnderstudies$State" "scripts" "[LDeadUnderstudies$Script;") ∈ lw_all := lw_g (lw_at lw_m1 107 rfl) rfl
theorem q220 : (Jvm.Cond.fieldLink "DeadUnderstudies$State" (18 : Nat) "DeadUnderstudies$State" "stages" "[I") ∈ lw_all := lw_g (lw_at lw_m1 109 rfl) rfl
theorem q223 : (Jvm.Cond.fieldLink "DeadUnderstudies$State" (22 : Nat) "DeadUnderstudies$State" "cues" "[I") ∈ lw_all := lw_g (lw_at lw_m1 112 rfl) rfl
theorem q225 : (Jvm.Cond.fieldLink "DeadUnderstudies$State" (25 : Nat) "DeadUnderstudies$State" "deeds" "[I") ∈ lw_all := lw_g (lw_at lw_m1 114 rfl) rfl
theorem q228 : (Jvm.Cond.fieldLink "DeadUnderstudies$State" (28 : Nat) "DeadUnderstudies$State" "terms" "[I") ∈ lw_all := lw_g (lw_at lw_m1 117 rfl) rfl
theorem q230 : (Jvm.Cond.fieldLink "DeadUnderstudies$State" (36 : Nat) "DeadUnderstudies$State" "people" "Ljava/util/ArrayList;") ∈ lw_all := lw_g (lw_at lw_m1 119 rfl) rfl
theorem q234 : (Jvm.Cond.fieldLink "DeadUnderstudies$State" (40 : Nat) "DeadUnderstudies$State" "versions" "Ljava/util/ArrayList;") ∈ lw_all := lw_g (lw_at lw_m1 123 rfl) rfl
theorem q236 : (Jvm.Cond.fieldLink "DeadUnderstudies$State" (43 : Nat) "DeadUnderstudies$State" "laws" "Ljava/util/ArrayList;") ∈ lw_all := lw_g (lw_at lw_m1 125 rfl) rfl
theorem q239 : (Jvm.Cond.fieldLink "DeadUnderstudies$State" (67 : Nat) "DeadUnderstudies$State" "parts" "I") ∈ lw_all := lw_g (lw_at lw_m1 128 rfl) rfl
theorem q241 : (Jvm.Cond.fieldLink "DeadUnderstudies$State" (70 : Nat) "DeadUnderstudies$State" "cueMany" "I") ∈ lw_all := lw_g (lw_at lw_m1 130 rfl) rfl
theorem q244 : (Jvm.Cond.fieldLink "DeadUnderstudies$State" (73 : Nat) "DeadUnderstudies$State" "deedMany" "I") ∈ lw_all := lw_g (lw_at lw_m1 133 rfl) rfl
theorem q246 : (Jvm.Cond.fieldLink "DeadUnderstudies$State" (46 : Nat) "DeadUnderstudies$State" "force" "I") ∈ lw_all := lw_g (lw_at lw_m1 135 rfl) rfl
theorem q248 : (Jvm.Cond.laysFinal "DeadUnderstudies$State" "DeadUnderstudies$State" "scripts" "[LDeadUnderstudies$Script;") ∈ lw_all := lw_g (lw_at lw_m1 137 rfl) rfl
theorem q249 : (Jvm.Cond.soleField "DeadUnderstudies$State" "scripts") ∈ lw_all := lw_g (lw_at lw_m1 138 rfl) rfl
theorem q250 : (Jvm.Cond.laysFinal "DeadUnderstudies$State" "DeadUnderstudies$State" "stages" "[I") ∈ lw_all := lw_g (lw_at lw_m1 139 rfl) rfl
theorem q251 : (Jvm.Cond.soleField "DeadUnderstudies$State" "stages") ∈ lw_all := lw_g (lw_at lw_m1 140 rfl) rfl
theorem q252 : (Jvm.Cond.laysFinal "DeadUnderstudies$State" "DeadUnderstudies$State" "cues" "[I") ∈ lw_all := lw_g (lw_at lw_m1 141 rfl) rfl
theorem q253 : (Jvm.Cond.soleField "DeadUnderstudies$State" "cues") ∈ lw_all := lw_g (lw_at lw_m1 142 rfl) rfl
theorem q254 : (Jvm.Cond.laysFinal "DeadUnderstudies$State" "DeadUnderstudies$State" "deeds" "[I") ∈ lw_all := lw_g (lw_at lw_m1 143 rfl) rfl
theorem q255 : (Jvm.Cond.soleField "DeadUnderstudies$State" "deeds") ∈ lw_all := lw_g (lw_at lw_m1 144 rfl) rfl
theorem q256 : (Jvm.Cond.laysFinal "DeadUnderstudies$State" "DeadUnderstudies$State" "terms" "[I") ∈ lw_all := lw_g (lw_at lw_m1 145 rfl) rfl
theorem q257 : (Jvm.Cond.soleField "DeadUnderstudies$State" "terms") ∈ lw_all := lw_g (lw_at lw_m1 146 rfl) rfl
theorem q258 : (Jvm.Cond.laysFinal "DeadUnderstudies$State" "DeadUnderstudies$State" "people" "Ljava/util/ArrayList;") ∈ lw_all := lw_g (lw_at lw_m1 147 rfl) rfl
theorem q259 : (Jvm.Cond.soleField "DeadUnderstudies$State" "people") ∈ lw_all := lw_g (lw_at lw_m1 148 rfl) rfl
theorem q260 : (Jvm.Cond.laysFinal "DeadUnderstudies$State" "DeadUnderstudies$State" "versions" "Ljava/util/ArrayList;") ∈ lw_all := lw_g (lw_at lw_m1 149 rfl) rfl
theorem q261 : (Jvm.Cond.soleField "DeadUnderstudies$State" "versions") ∈ lw_all := lw_g (lw_at lw_m1 150 rfl) rfl
theorem q262 : (Jvm.Cond.laysFinal "DeadUnderstudies$State" "DeadUnderstudies$State" "laws" "Ljava/util/ArrayList;") ∈ lw_all := lw_g (lw_at lw_m1 151 rfl) rfl
theorem q263 : (Jvm.Cond.soleField "DeadUnderstudies$State" "laws") ∈ lw_all := lw_g (lw_at lw_m1 152 rfl) rfl
theorem q264 : (Jvm.Cond.lays "DeadUnderstudies$State" "DeadUnderstudies$State" "parts" "I") ∈ lw_all := lw_g (lw_at lw_m1 153 rfl) rfl
theorem q265 : (Jvm.Cond.soleField "DeadUnderstudies$State" "parts") ∈ lw_all := lw_g (lw_at lw_m1 154 rfl) rfl
theorem q266 : (Jvm.Cond.lays "DeadUnderstudies$State" "DeadUnderstudies$State" "cueMany" "I") ∈ lw_all := lw_g (lw_at lw_m1 155 rfl) rfl
theorem q267 : (Jvm.Cond.soleField "DeadUnderstudies$State" "cueMany") ∈ lw_all := lw_g (lw_at lw_m1 156 rfl) rfl
theorem q268 : (Jvm.Cond.lays "DeadUnderstudies$State" "DeadUnderstudies$State" "deedMany" "I") ∈ lw_all := lw_g (lw_at lw_m1 157 rfl) rfl
theorem q269 : (Jvm.Cond.soleField "DeadUnderstudies$State" "deedMany") ∈ lw_all := lw_g (lw_at lw_m1 158 rfl) rfl
theorem q270 : (Jvm.Cond.lays "DeadUnderstudies$State" "DeadUnderstudies$State" "force" "I") ∈ lw_all := lw_g (lw_at lw_m1 159 rfl) rfl
theorem q271 : (Jvm.Cond.soleField "DeadUnderstudies$State" "force") ∈ lw_all := lw_g (lw_at lw_m1 160 rfl) rfl
theorem q272 : (Jvm.Cond.superclass "DeadUnderstudies$State" "java/lang/Object") ∈ lw_all := lw_g (lw_at lw_m1 161 rfl) rfl
theorem q606 : (Jvm.Cond.instanceMethod ({ cls := "DeadUnderstudies$State", name := "takes", desc := "(LDeadUnderstudies$State;)V" } : Jvm.MethodName)) ∈ lw_all := lw_g (lw_at lw_m3 15 rfl) rfl
theorem q607 : (Jvm.Cond.selects "DeadUnderstudies$State" ({ cls := "DeadUnderstudies$State", name := "takes", desc := "(LDeadUnderstudies$State;)V" } : Jvm.MethodName) ({ cls := "DeadUnderstudies$State", name := "takes", desc := "(LDeadUnderstudies$State;)V" } : Jvm.MethodName)) ∈ lw_all := lw_g (lw_at lw_m3 16 rfl) rfl
theorem q608 : (Jvm.Cond.code ({ cls := "DeadUnderstudies$State", name := "takes", desc := "(LDeadUnderstudies$State;)V" } : Jvm.MethodName) prog_21_method_2_code (3 : Nat) (Option.none : Option Jvm.ClassFile.FieldType)) ∈ lw_all := lw_g (lw_at lw_m3 17 rfl) rfl
theorem q609 : (Jvm.Cond.methodLink "DeadUnderstudies$State" (50 : Nat) ({ cls := "DeadUnderstudies$Script", name := "takes", desc := "(LDeadUnderstudies$Script;)V" } : Jvm.MethodName)) ∈ lw_all := lw_g (lw_at lw_m3 18 rfl) rfl
theorem q616 : (Jvm.Cond.methodLink "DeadUnderstudies$State" (54 : Nat) ({ cls := "java/lang/System", name := "arraycopy", desc := "(Ljava/lang/Object;ILjava/lang/Object;II)V" } : Jvm.MethodName)) ∈ lw_all := lw_g (lw_at lw_m3 25 rfl) rfl
theorem q617 : (Jvm.Cond.methodLink "DeadUnderstudies$State" (60 : Nat) ({ cls := "java/util/ArrayList", name := "clear", desc := "()V" } : Jvm.MethodName)) ∈ lw_all := lw_g (lw_at lw_m3 26 rfl) rfl
theorem q621 : (Jvm.Cond.methodLink "DeadUnderstudies$State" (63 : Nat) ({ cls := "java/util/ArrayList", name := "addAll", desc := "(Ljava/util/Collection;)Z" } : Jvm.MethodName)) ∈ lw_all := lw_g (lw_at lw_m3 30 rfl) rfl
theorem q660 : (Jvm.Cond.selects "DeadUnderstudies$State" ({ cls := "java/lang/Object", name := "getClass", desc := "()Ljava/lang/Class;" } : Jvm.MethodName) ({ cls := "java/lang/Object", name := "getClass", desc := "()Ljava/lang/Class;" } : Jvm.MethodName)) ∈ lw_all := lw_g (lw_at lw_m3 69 rfl) rfl
theorem q2600 : (Jvm.Cond.castable "DeadUnderstudies$State" "java/lang/Object") ∈ lw_tbl := lw_at lw_m11 89 rfl
theorem in_X1 : ∀ w ∈ wsX10, w ∈ lw_all := lw_in wsX10 [248, 250, 252, 254, 256, 258, 260, 262, 264, 266, 268, 270] (by decide +kernel) (by decide +kernel)
/-! DeadUnderstudies$Script -/
def RX2 : String := "DeadUnderstudies$Script"
def TX2 : u_T := fun k => match k with
  | 0 => ("DeadUnderstudies$Script", "words", "[I", true)
  | _ => ("DeadUnderstudies$Script", "nexts", "[I", true)
def tyX2 : Nat → FieldType := fun k => match k with
  | 0 => .array .int
  | _ => .array .int
abbrev wsX20 : List Cond := u_ws RX2 TX2 2
theorem nmX2 : ∀ a, a < 2 → ∀ b, b < 2 → a ≠ b → (TX2 a).2.1 ≠ (TX2 b).2.1 := by decide +kernel
theorem tyX2_ok : ∀ k, k < 2 → parseFieldDescriptor (TX2 k).2.2.1 = some (tyX2 k) := by decide +kernel
abbrev cX2_init : ByteArray := prog_18_method_1_code
def yX2_init : MethodName := ⟨RX2, "<init>", "()V"⟩
def dkwX2_init_1 : List UInt8 := [16, 36, 162, 0, 16, 42, 180, 0, 9, 27, 2, 79, 132, 1, 1, 167, 255, 240, 177]
abbrev dktX2_init_1 : List UInt8 := dkwX2_init_1 ++ []
def dkwX2_init_0 : List UInt8 := [42, 183, 0, 3, 42, 16, 36, 188, 10, 181, 0, 9, 42, 16, 36, 188, 10, 181, 0, 15, 3, 60, 27]
abbrev dktX2_init_0 : List UInt8 := dkwX2_init_0 ++ dktX2_init_1
theorem dksX2_init_0 : cX2_init.data.toList.drop 0 = dktX2_init_0 := by decide +kernel
theorem dksX2_init_1 : cX2_init.data.toList.drop 23 = dktX2_init_1 := dk_seg dksX2_init_0 23 rfl rfl
theorem dX2_init_0 : decode cX2_init 0 = .ok (.aload_n 0, 1) := dk_42 (dk_at dksX2_init_0 0 rfl rfl)
theorem dX2_init_1 : decode cX2_init 1 = .ok (.invokespecial 3, 3) := dk_183 0 3 (dk_at dksX2_init_0 1 rfl rfl)
theorem dX2_init_4 : decode cX2_init 4 = .ok (.aload_n 0, 1) := dk_42 (dk_at dksX2_init_0 4 rfl rfl)
theorem dX2_init_5 : decode cX2_init 5 = .ok (.bipush 36, 2) := dk_16 36 (dk_at dksX2_init_0 5 rfl rfl)
theorem dX2_init_7 : decode cX2_init 7 = .ok (.newarray .int, 2) := dk_188_10 (dk_at dksX2_init_0 7 rfl rfl)
theorem dX2_init_9 : decode cX2_init 9 = .ok (.putfield 9, 3) := dk_181 0 9 (dk_at dksX2_init_0 9 rfl rfl)
theorem dX2_init_12 : decode cX2_init 12 = .ok (.aload_n 0, 1) := dk_42 (dk_at dksX2_init_0 12 rfl rfl)
theorem dX2_init_13 : decode cX2_init 13 = .ok (.bipush 36, 2) := dk_16 36 (dk_at dksX2_init_0 13 rfl rfl)
theorem dX2_init_15 : decode cX2_init 15 = .ok (.newarray .int, 2) := dk_188_10 (dk_at dksX2_init_0 15 rfl rfl)
theorem dX2_init_17 : decode cX2_init 17 = .ok (.putfield 15, 3) := dk_181 0 15 (dk_at dksX2_init_0 17 rfl rfl)
theorem dX2_init_20 : decode cX2_init 20 = .ok (.iconst 0, 1) := dk_3 (dk_at dksX2_init_0 20 rfl rfl)
theorem dX2_init_21 : decode cX2_init 21 = .ok (.istore_n 1, 1) := dk_60 (dk_at dksX2_init_0 21 rfl rfl)
theorem dX2_init_22 : decode cX2_init 22 = .ok (.iload_n 1, 1) := dk_27 (dk_at dksX2_init_0 22 rfl rfl)
theorem dX2_init_23 : decode cX2_init 23 = .ok (.bipush 36, 2) := dk_16 36 (dk_at dksX2_init_1 0 rfl rfl)
theorem dX2_init_25 : decode cX2_init 25 = .ok (.if_icmp .ge 16, 3) := dk_162 0 16 (dk_at dksX2_init_1 2 rfl rfl)
theorem dX2_init_28 : decode cX2_init 28 = .ok (.aload_n 0, 1) := dk_42 (dk_at dksX2_init_1 5 rfl rfl)
theorem dX2_init_29 : decode cX2_init 29 = .ok (.getfield 9, 3) := dk_180 0 9 (dk_at dksX2_init_1 6 rfl rfl)
theorem dX2_init_32 : decode cX2_init 32 = .ok (.iload_n 1, 1) := dk_27 (dk_at dksX2_init_1 9 rfl rfl)
theorem dX2_init_33 : decode cX2_init 33 = .ok (.iconst (-1), 1) := dk_2 (dk_at dksX2_init_1 10 rfl rfl)
theorem dX2_init_34 : decode cX2_init 34 = .ok (.iastore, 1) := dk_79 (dk_at dksX2_init_1 11 rfl rfl)
theorem dX2_init_35 : decode cX2_init 35 = .ok (.iinc 1 1, 3) := dk_132 1 1 (dk_at dksX2_init_1 12 rfl rfl)
theorem dX2_init_38 : decode cX2_init 38 = .ok (.goto (-16), 3) := dk_167 255 240 (dk_at dksX2_init_1 15 rfl rfl)
theorem dX2_init_41 : decode cX2_init 41 = .ok (.return_, 1) := dk_177 (dk_at dksX2_init_1 18 rfl rfl)
abbrev cX2_takes : ByteArray := prog_18_method_2_code
def yX2_takes : MethodName := ⟨RX2, "takes", "(LDeadUnderstudies$Script;)V"⟩
def dkwX2_takes_1 : List UInt8 := [3, 16, 36, 184, 0, 18, 177]
abbrev dktX2_takes_1 : List UInt8 := dkwX2_takes_1 ++ []
def dkwX2_takes_0 : List UInt8 := [43, 180, 0, 9, 3, 42, 180, 0, 9, 3, 16, 36, 184, 0, 18, 43, 180, 0, 15, 3, 42, 180, 0, 15]
abbrev dktX2_takes_0 : List UInt8 := dkwX2_takes_0 ++ dktX2_takes_1
theorem dksX2_takes_0 : cX2_takes.data.toList.drop 0 = dktX2_takes_0 := by decide +kernel
theorem dksX2_takes_1 : cX2_takes.data.toList.drop 24 = dktX2_takes_1 := dk_seg dksX2_takes_0 24 rfl rfl
theorem dX2_takes_0 : decode cX2_takes 0 = .ok (.aload_n 1, 1) := dk_43 (dk_at dksX2_takes_0 0 rfl rfl)
theorem dX2_takes_1 : decode cX2_takes 1 = .ok (.getfield 9, 3) := dk_180 0 9 (dk_at dksX2_takes_0 1 rfl rfl)
theorem dX2_takes_4 : decode cX2_takes 4 = .ok (.iconst 0, 1) := dk_3 (dk_at dksX2_takes_0 4 rfl rfl)
theorem dX2_takes_5 : decode cX2_takes 5 = .ok (.aload_n 0, 1) := dk_42 (dk_at dksX2_takes_0 5 rfl rfl)
theorem dX2_takes_6 : decode cX2_takes 6 = .ok (.getfield 9, 3) := dk_180 0 9 (dk_at dksX2_takes_0 6 rfl rfl)
theorem dX2_takes_9 : decode cX2_takes 9 = .ok (.iconst 0, 1) := dk_3 (dk_at dksX2_takes_0 9 rfl rfl)
theorem dX2_takes_10 : decode cX2_takes 10 = .ok (.bipush 36, 2) := dk_16 36 (dk_at dksX2_takes_0 10 rfl rfl)
theorem dX2_takes_12 : decode cX2_takes 12 = .ok (.invokestatic 18, 3) := dk_184 0 18 (dk_at dksX2_takes_0 12 rfl rfl)
theorem dX2_takes_15 : decode cX2_takes 15 = .ok (.aload_n 1, 1) := dk_43 (dk_at dksX2_takes_0 15 rfl rfl)
theorem dX2_takes_16 : decode cX2_takes 16 = .ok (.getfield 15, 3) := dk_180 0 15 (dk_at dksX2_takes_0 16 rfl rfl)
theorem dX2_takes_19 : decode cX2_takes 19 = .ok (.iconst 0, 1) := dk_3 (dk_at dksX2_takes_0 19 rfl rfl)
theorem dX2_takes_20 : decode cX2_takes 20 = .ok (.aload_n 0, 1) := dk_42 (dk_at dksX2_takes_0 20 rfl rfl)
theorem dX2_takes_21 : decode cX2_takes 21 = .ok (.getfield 15, 3) := dk_180 0 15 (dk_at dksX2_takes_0 21 rfl rfl)
theorem dX2_takes_24 : decode cX2_takes 24 = .ok (.iconst 0, 1) := dk_3 (dk_at dksX2_takes_1 0 rfl rfl)
theorem dX2_takes_25 : decode cX2_takes 25 = .ok (.bipush 36, 2) := dk_16 36 (dk_at dksX2_takes_1 1 rfl rfl)
theorem dX2_takes_27 : decode cX2_takes 27 = .ok (.invokestatic 18, 3) := dk_184 0 18 (dk_at dksX2_takes_1 3 rfl rfl)
theorem dX2_takes_30 : decode cX2_takes 30 = .ok (.return_, 1) := dk_177 (dk_at dksX2_takes_1 6 rfl rfl)
abbrev cX2_hushes : ByteArray := prog_18_method_7_code
def yX2_hushes : MethodName := ⟨RX2, "hushes", "(I)I"⟩
def dkwX2_hushes_0 : List UInt8 := [42, 180, 0, 9, 27, 46, 61, 42, 180, 0, 9, 27, 2, 79, 28, 172]
abbrev dktX2_hushes_0 : List UInt8 := dkwX2_hushes_0 ++ []
theorem dksX2_hushes_0 : cX2_hushes.data.toList.drop 0 = dktX2_hushes_0 := by decide +kernel
theorem dX2_hushes_0 : decode cX2_hushes 0 = .ok (.aload_n 0, 1) := dk_42 (dk_at dksX2_hushes_0 0 rfl rfl)
theorem dX2_hushes_1 : decode cX2_hushes 1 = .ok (.getfield 9, 3) := dk_180 0 9 (dk_at dksX2_hushes_0 1 rfl rfl)
theorem dX2_hushes_4 : decode cX2_hushes 4 = .ok (.iload_n 1, 1) := dk_27 (dk_at dksX2_hushes_0 4 rfl rfl)
theorem dX2_hushes_5 : decode cX2_hushes 5 = .ok (.iaload, 1) := dk_46 (dk_at dksX2_hushes_0 5 rfl rfl)
theorem dX2_hushes_6 : decode cX2_hushes 6 = .ok (.istore_n 2, 1) := dk_61 (dk_at dksX2_hushes_0 6 rfl rfl)
theorem dX2_hushes_7 : decode cX2_hushes 7 = .ok (.aload_n 0, 1) := dk_42 (dk_at dksX2_hushes_0 7 rfl rfl)
theorem dX2_hushes_8 : decode cX2_hushes 8 = .ok (.getfield 9, 3) := dk_180 0 9 (dk_at dksX2_hushes_0 8 rfl rfl)
theorem dX2_hushes_11 : decode cX2_hushes 11 = .ok (.iload_n 1, 1) := dk_27 (dk_at dksX2_hushes_0 11 rfl rfl)
theorem dX2_hushes_12 : decode cX2_hushes 12 = .ok (.iconst (-1), 1) := dk_2 (dk_at dksX2_hushes_0 12 rfl rfl)
theorem dX2_hushes_13 : decode cX2_hushes 13 = .ok (.iastore, 1) := dk_79 (dk_at dksX2_hushes_0 13 rfl rfl)
theorem dX2_hushes_14 : decode cX2_hushes 14 = .ok (.iload_n 2, 1) := dk_28 (dk_at dksX2_hushes_0 14 rfl rfl)
theorem dX2_hushes_15 : decode cX2_hushes 15 = .ok (.ireturn, 1) := dk_172 (dk_at dksX2_hushes_0 15 rfl rfl)
abbrev cX2_says : ByteArray := prog_18_method_6_code
def yX2_says : MethodName := ⟨RX2, "says", "(III)V"⟩
def dkwX2_says_0 : List UInt8 := [42, 180, 0, 9, 27, 28, 79, 42, 180, 0, 15, 27, 29, 79, 177]
abbrev dktX2_says_0 : List UInt8 := dkwX2_says_0 ++ []
theorem dksX2_says_0 : cX2_says.data.toList.drop 0 = dktX2_says_0 := by decide +kernel
theorem dX2_says_0 : decode cX2_says 0 = .ok (.aload_n 0, 1) := dk_42 (dk_at dksX2_says_0 0 rfl rfl)
theorem dX2_says_1 : decode cX2_says 1 = .ok (.getfield 9, 3) := dk_180 0 9 (dk_at dksX2_says_0 1 rfl rfl)
theorem dX2_says_4 : decode cX2_says 4 = .ok (.iload_n 1, 1) := dk_27 (dk_at dksX2_says_0 4 rfl rfl)
theorem dX2_says_5 : decode cX2_says 5 = .ok (.iload_n 2, 1) := dk_28 (dk_at dksX2_says_0 5 rfl rfl)
theorem dX2_says_6 : decode cX2_says 6 = .ok (.iastore, 1) := dk_79 (dk_at dksX2_says_0 6 rfl rfl)
theorem dX2_says_7 : decode cX2_says 7 = .ok (.aload_n 0, 1) := dk_42 (dk_at dksX2_says_0 7 rfl rfl)
theorem dX2_says_8 : decode cX2_says 8 = .ok (.getfield 15, 3) := dk_180 0 15 (dk_at dksX2_says_0 8 rfl rfl)
theorem dX2_says_11 : decode cX2_says 11 = .ok (.iload_n 1, 1) := dk_27 (dk_at dksX2_says_0 11 rfl rfl)
theorem dX2_says_12 : decode cX2_says 12 = .ok (.iload_n 3, 1) := dk_29 (dk_at dksX2_says_0 12 rfl rfl)
theorem dX2_says_13 : decode cX2_says 13 = .ok (.iastore, 1) := dk_79 (dk_at dksX2_says_0 13 rfl rfl)
theorem dX2_says_14 : decode cX2_says 14 = .ok (.return_, 1) := dk_177 (dk_at dksX2_says_0 14 rfl rfl)
abbrev cX2_next : ByteArray := prog_18_method_5_code
def yX2_next : MethodName := ⟨RX2, "next", "(I)I"⟩
def dkwX2_next_0 : List UInt8 := [42, 27, 182, 0, 29, 153, 0, 7, 2, 167, 0, 9, 42, 180, 0, 15, 27, 46, 172]
abbrev dktX2_next_0 : List UInt8 := dkwX2_next_0 ++ []
theorem dksX2_next_0 : cX2_next.data.toList.drop 0 = dktX2_next_0 := by decide +kernel
theorem dX2_next_0 : decode cX2_next 0 = .ok (.aload_n 0, 1) := dk_42 (dk_at dksX2_next_0 0 rfl rfl)
theorem dX2_next_1 : decode cX2_next 1 = .ok (.iload_n 1, 1) := dk_27 (dk_at dksX2_next_0 1 rfl rfl)
theorem dX2_next_2 : decode cX2_next 2 = .ok (.invokevirtual 29, 3) := dk_182 0 29 (dk_at dksX2_next_0 2 rfl rfl)
theorem dX2_next_5 : decode cX2_next 5 = .ok (.ifCond .eq 7, 3) := dk_153 0 7 (dk_at dksX2_next_0 5 rfl rfl)
theorem dX2_next_8 : decode cX2_next 8 = .ok (.iconst (-1), 1) := dk_2 (dk_at dksX2_next_0 8 rfl rfl)
theorem dX2_next_9 : decode cX2_next 9 = .ok (.goto 9, 3) := dk_167 0 9 (dk_at dksX2_next_0 9 rfl rfl)
theorem dX2_next_12 : decode cX2_next 12 = .ok (.aload_n 0, 1) := dk_42 (dk_at dksX2_next_0 12 rfl rfl)
theorem dX2_next_13 : decode cX2_next 13 = .ok (.getfield 15, 3) := dk_180 0 15 (dk_at dksX2_next_0 13 rfl rfl)
theorem dX2_next_16 : decode cX2_next 16 = .ok (.iload_n 1, 1) := dk_27 (dk_at dksX2_next_0 16 rfl rfl)
theorem dX2_next_17 : decode cX2_next 17 = .ok (.iaload, 1) := dk_46 (dk_at dksX2_next_0 17 rfl rfl)
theorem dX2_next_18 : decode cX2_next 18 = .ok (.ireturn, 1) := dk_172 (dk_at dksX2_next_0 18 rfl rfl)
abbrev cX2_isHole : ByteArray := prog_18_method_4_code
def yX2_isHole : MethodName := ⟨RX2, "isHole", "(I)Z"⟩
def dkwX2_isHole_0 : List UInt8 := [42, 180, 0, 9, 27, 46, 2, 160, 0, 7, 4, 167, 0, 4, 3, 172]
abbrev dktX2_isHole_0 : List UInt8 := dkwX2_isHole_0 ++ []
theorem dksX2_isHole_0 : cX2_isHole.data.toList.drop 0 = dktX2_isHole_0 := by decide +kernel
theorem dX2_isHole_0 : decode cX2_isHole 0 = .ok (.aload_n 0, 1) := dk_42 (dk_at dksX2_isHole_0 0 rfl rfl)
theorem dX2_isHole_1 : decode cX2_isHole 1 = .ok (.getfield 9, 3) := dk_180 0 9 (dk_at dksX2_isHole_0 1 rfl rfl)
theorem dX2_isHole_4 : decode cX2_isHole 4 = .ok (.iload_n 1, 1) := dk_27 (dk_at dksX2_isHole_0 4 rfl rfl)
theorem dX2_isHole_5 : decode cX2_isHole 5 = .ok (.iaload, 1) := dk_46 (dk_at dksX2_isHole_0 5 rfl rfl)
theorem dX2_isHole_6 : decode cX2_isHole 6 = .ok (.iconst (-1), 1) := dk_2 (dk_at dksX2_isHole_0 6 rfl rfl)
theorem dX2_isHole_7 : decode cX2_isHole 7 = .ok (.if_icmp .ne 7, 3) := dk_160 0 7 (dk_at dksX2_isHole_0 7 rfl rfl)
theorem dX2_isHole_10 : decode cX2_isHole 10 = .ok (.iconst 1, 1) := dk_4 (dk_at dksX2_isHole_0 10 rfl rfl)
theorem dX2_isHole_11 : decode cX2_isHole 11 = .ok (.goto 4, 3) := dk_167 0 4 (dk_at dksX2_isHole_0 11 rfl rfl)
theorem dX2_isHole_14 : decode cX2_isHole 14 = .ok (.iconst 0, 1) := dk_3 (dk_at dksX2_isHole_0 14 rfl rfl)
theorem dX2_isHole_15 : decode cX2_isHole 15 = .ok (.ireturn, 1) := dk_172 (dk_at dksX2_isHole_0 15 rfl rfl)
abbrev cX2_known : ByteArray := prog_18_method_8_code
def yX2_known : MethodName := ⟨RX2, "known", "()I"⟩
def dkwX2_known_1 : List UInt8 := [96, 60, 132, 2, 1, 167, 255, 231, 27, 172]
abbrev dktX2_known_1 : List UInt8 := dkwX2_known_1 ++ []
def dkwX2_known_0 : List UInt8 := [3, 60, 3, 61, 28, 16, 36, 162, 0, 25, 27, 42, 28, 182, 0, 29, 153, 0, 7, 3, 167, 0, 4, 4]
abbrev dktX2_known_0 : List UInt8 := dkwX2_known_0 ++ dktX2_known_1
theorem dksX2_known_0 : cX2_known.data.toList.drop 0 = dktX2_known_0 := by decide +kernel
theorem dksX2_known_1 : cX2_known.data.toList.drop 24 = dktX2_known_1 := dk_seg dksX2_known_0 24 rfl rfl
theorem dX2_known_0 : decode cX2_known 0 = .ok (.iconst 0, 1) := dk_3 (dk_at dksX2_known_0 0 rfl rfl)
theorem dX2_known_1 : decode cX2_known 1 = .ok (.istore_n 1, 1) := dk_60 (dk_at dksX2_known_0 1 rfl rfl)
theorem dX2_known_2 : decode cX2_known 2 = .ok (.iconst 0, 1) := dk_3 (dk_at dksX2_known_0 2 rfl rfl)
theorem dX2_known_3 : decode cX2_known 3 = .ok (.istore_n 2, 1) := dk_61 (dk_at dksX2_known_0 3 rfl rfl)
theorem dX2_known_4 : decode cX2_known 4 = .ok (.iload_n 2, 1) := dk_28 (dk_at dksX2_known_0 4 rfl rfl)
theorem dX2_known_5 : decode cX2_known 5 = .ok (.bipush 36, 2) := dk_16 36 (dk_at dksX2_known_0 5 rfl rfl)
theorem dX2_known_7 : decode cX2_known 7 = .ok (.if_icmp .ge 25, 3) := dk_162 0 25 (dk_at dksX2_known_0 7 rfl rfl)
theorem dX2_known_10 : decode cX2_known 10 = .ok (.iload_n 1, 1) := dk_27 (dk_at dksX2_known_0 10 rfl rfl)
theorem dX2_known_11 : decode cX2_known 11 = .ok (.aload_n 0, 1) := dk_42 (dk_at dksX2_known_0 11 rfl rfl)
theorem dX2_known_12 : decode cX2_known 12 = .ok (.iload_n 2, 1) := dk_28 (dk_at dksX2_known_0 12 rfl rfl)
theorem dX2_known_13 : decode cX2_known 13 = .ok (.invokevirtual 29, 3) := dk_182 0 29 (dk_at dksX2_known_0 13 rfl rfl)
theorem dX2_known_16 : decode cX2_known 16 = .ok (.ifCond .eq 7, 3) := dk_153 0 7 (dk_at dksX2_known_0 16 rfl rfl)
theorem dX2_known_19 : decode cX2_known 19 = .ok (.iconst 0, 1) := dk_3 (dk_at dksX2_known_0 19 rfl rfl)
theorem dX2_known_20 : decode cX2_known 20 = .ok (.goto 4, 3) := dk_167 0 4 (dk_at dksX2_known_0 20 rfl rfl)
theorem dX2_known_23 : decode cX2_known 23 = .ok (.iconst 1, 1) := dk_4 (dk_at dksX2_known_0 23 rfl rfl)
theorem dX2_known_24 : decode cX2_known 24 = .ok (.iadd, 1) := dk_96 (dk_at dksX2_known_1 0 rfl rfl)
theorem dX2_known_25 : decode cX2_known 25 = .ok (.istore_n 1, 1) := dk_60 (dk_at dksX2_known_1 1 rfl rfl)
theorem dX2_known_26 : decode cX2_known 26 = .ok (.iinc 2 1, 3) := dk_132 2 1 (dk_at dksX2_known_1 2 rfl rfl)
theorem dX2_known_29 : decode cX2_known 29 = .ok (.goto (-25), 3) := dk_167 255 231 (dk_at dksX2_known_1 5 rfl rfl)
theorem dX2_known_32 : decode cX2_known 32 = .ok (.iload_n 1, 1) := dk_27 (dk_at dksX2_known_1 8 rfl rfl)
theorem dX2_known_33 : decode cX2_known 33 = .ok (.ireturn, 1) := dk_172 (dk_at dksX2_known_1 9 rfl rfl)
abbrev cX2_copy : ByteArray := prog_18_method_3_code
def yX2_copy : MethodName := ⟨RX2, "copy", "()LDeadUnderstudies$Script;"⟩
def dkwX2_copy_0 : List UInt8 := [187, 0, 10, 89, 183, 0, 24, 76, 43, 42, 182, 0, 25, 43, 176]
abbrev dktX2_copy_0 : List UInt8 := dkwX2_copy_0 ++ []
theorem dksX2_copy_0 : cX2_copy.data.toList.drop 0 = dktX2_copy_0 := by decide +kernel
theorem dX2_copy_0 : decode cX2_copy 0 = .ok (.new 10, 3) := dk_187 0 10 (dk_at dksX2_copy_0 0 rfl rfl)
theorem dX2_copy_3 : decode cX2_copy 3 = .ok (.dup, 1) := dk_89 (dk_at dksX2_copy_0 3 rfl rfl)
theorem dX2_copy_4 : decode cX2_copy 4 = .ok (.invokespecial 24, 3) := dk_183 0 24 (dk_at dksX2_copy_0 4 rfl rfl)
theorem dX2_copy_7 : decode cX2_copy 7 = .ok (.astore_n 1, 1) := dk_76 (dk_at dksX2_copy_0 7 rfl rfl)
theorem dX2_copy_8 : decode cX2_copy 8 = .ok (.aload_n 1, 1) := dk_43 (dk_at dksX2_copy_0 8 rfl rfl)
theorem dX2_copy_9 : decode cX2_copy 9 = .ok (.aload_n 0, 1) := dk_42 (dk_at dksX2_copy_0 9 rfl rfl)
theorem dX2_copy_10 : decode cX2_copy 10 = .ok (.invokevirtual 25, 3) := dk_182 0 25 (dk_at dksX2_copy_0 10 rfl rfl)
theorem dX2_copy_13 : decode cX2_copy 13 = .ok (.aload_n 1, 1) := dk_43 (dk_at dksX2_copy_0 13 rfl rfl)
theorem dX2_copy_14 : decode cX2_copy 14 = .ok (.areturn, 1) := dk_176 (dk_at dksX2_copy_0 14 rfl rfl)
abbrev cX2_unlike : ByteArray := prog_18_method_9_code
def yX2_unlike : MethodName := ⟨RX2, "unlike", "(LDeadUnderstudies$Script;)I"⟩
def dkwX2_unlike_2 : List UInt8 := [132, 3, 1, 167, 255, 211, 28, 172]
abbrev dktX2_unlike_2 : List UInt8 := dkwX2_unlike_2 ++ []
def dkwX2_unlike_1 : List UInt8 := [160, 0, 20, 42, 29, 182, 0, 33, 43, 29, 182, 0, 33, 160, 0, 7, 3, 167, 0, 4, 4, 96, 61]
abbrev dktX2_unlike_1 : List UInt8 := dkwX2_unlike_1 ++ dktX2_unlike_2
def dkwX2_unlike_0 : List UInt8 := [3, 61, 3, 62, 29, 16, 36, 162, 0, 45, 28, 42, 180, 0, 9, 29, 46, 43, 180, 0, 9, 29, 46]
abbrev dktX2_unlike_0 : List UInt8 := dkwX2_unlike_0 ++ dktX2_unlike_1
theorem dksX2_unlike_0 : cX2_unlike.data.toList.drop 0 = dktX2_unlike_0 := by decide +kernel
theorem dksX2_unlike_1 : cX2_unlike.data.toList.drop 23 = dktX2_unlike_1 := dk_seg dksX2_unlike_0 23 rfl rfl
theorem dksX2_unlike_2 : cX2_unlike.data.toList.drop 46 = dktX2_unlike_2 := dk_seg dksX2_unlike_1 23 rfl rfl
theorem dX2_unlike_0 : decode cX2_unlike 0 = .ok (.iconst 0, 1) := dk_3 (dk_at dksX2_unlike_0 0 rfl rfl)
theorem dX2_unlike_1 : decode cX2_unlike 1 = .ok (.istore_n 2, 1) := dk_61 (dk_at dksX2_unlike_0 1 rfl rfl)
theorem dX2_unlike_2 : decode cX2_unlike 2 = .ok (.iconst 0, 1) := dk_3 (dk_at dksX2_unlike_0 2 rfl rfl)
theorem dX2_unlike_3 : decode cX2_unlike 3 = .ok (.istore_n 3, 1) := dk_62 (dk_at dksX2_unlike_0 3 rfl rfl)
theorem dX2_unlike_4 : decode cX2_unlike 4 = .ok (.iload_n 3, 1) := dk_29 (dk_at dksX2_unlike_0 4 rfl rfl)
theorem dX2_unlike_5 : decode cX2_unlike 5 = .ok (.bipush 36, 2) := dk_16 36 (dk_at dksX2_unlike_0 5 rfl rfl)
theorem dX2_unlike_7 : decode cX2_unlike 7 = .ok (.if_icmp .ge 45, 3) := dk_162 0 45 (dk_at dksX2_unlike_0 7 rfl rfl)
theorem dX2_unlike_10 : decode cX2_unlike 10 = .ok (.iload_n 2, 1) := dk_28 (dk_at dksX2_unlike_0 10 rfl rfl)
theorem dX2_unlike_11 : decode cX2_unlike 11 = .ok (.aload_n 0, 1) := dk_42 (dk_at dksX2_unlike_0 11 rfl rfl)
theorem dX2_unlike_12 : decode cX2_unlike 12 = .ok (.getfield 9, 3) := dk_180 0 9 (dk_at dksX2_unlike_0 12 rfl rfl)
theorem dX2_unlike_15 : decode cX2_unlike 15 = .ok (.iload_n 3, 1) := dk_29 (dk_at dksX2_unlike_0 15 rfl rfl)
theorem dX2_unlike_16 : decode cX2_unlike 16 = .ok (.iaload, 1) := dk_46 (dk_at dksX2_unlike_0 16 rfl rfl)
theorem dX2_unlike_17 : decode cX2_unlike 17 = .ok (.aload_n 1, 1) := dk_43 (dk_at dksX2_unlike_0 17 rfl rfl)
theorem dX2_unlike_18 : decode cX2_unlike 18 = .ok (.getfield 9, 3) := dk_180 0 9 (dk_at dksX2_unlike_0 18 rfl rfl)
theorem dX2_unlike_21 : decode cX2_unlike 21 = .ok (.iload_n 3, 1) := dk_29 (dk_at dksX2_unlike_0 21 rfl rfl)
theorem dX2_unlike_22 : decode cX2_unlike 22 = .ok (.iaload, 1) := dk_46 (dk_at dksX2_unlike_0 22 rfl rfl)
theorem dX2_unlike_23 : decode cX2_unlike 23 = .ok (.if_icmp .ne 20, 3) := dk_160 0 20 (dk_at dksX2_unlike_1 0 rfl rfl)
theorem dX2_unlike_26 : decode cX2_unlike 26 = .ok (.aload_n 0, 1) := dk_42 (dk_at dksX2_unlike_1 3 rfl rfl)
theorem dX2_unlike_27 : decode cX2_unlike 27 = .ok (.iload_n 3, 1) := dk_29 (dk_at dksX2_unlike_1 4 rfl rfl)
theorem dX2_unlike_28 : decode cX2_unlike 28 = .ok (.invokevirtual 33, 3) := dk_182 0 33 (dk_at dksX2_unlike_1 5 rfl rfl)
theorem dX2_unlike_31 : decode cX2_unlike 31 = .ok (.aload_n 1, 1) := dk_43 (dk_at dksX2_unlike_1 8 rfl rfl)
theorem dX2_unlike_32 : decode cX2_unlike 32 = .ok (.iload_n 3, 1) := dk_29 (dk_at dksX2_unlike_1 9 rfl rfl)
theorem dX2_unlike_33 : decode cX2_unlike 33 = .ok (.invokevirtual 33, 3) := dk_182 0 33 (dk_at dksX2_unlike_1 10 rfl rfl)
theorem dX2_unlike_36 : decode cX2_unlike 36 = .ok (.if_icmp .ne 7, 3) := dk_160 0 7 (dk_at dksX2_unlike_1 13 rfl rfl)
theorem dX2_unlike_39 : decode cX2_unlike 39 = .ok (.iconst 0, 1) := dk_3 (dk_at dksX2_unlike_1 16 rfl rfl)
theorem dX2_unlike_40 : decode cX2_unlike 40 = .ok (.goto 4, 3) := dk_167 0 4 (dk_at dksX2_unlike_1 17 rfl rfl)
theorem dX2_unlike_43 : decode cX2_unlike 43 = .ok (.iconst 1, 1) := dk_4 (dk_at dksX2_unlike_1 20 rfl rfl)
theorem dX2_unlike_44 : decode cX2_unlike 44 = .ok (.iadd, 1) := dk_96 (dk_at dksX2_unlike_1 21 rfl rfl)
theorem dX2_unlike_45 : decode cX2_unlike 45 = .ok (.istore_n 2, 1) := dk_61 (dk_at dksX2_unlike_1 22 rfl rfl)
theorem dX2_unlike_46 : decode cX2_unlike 46 = .ok (.iinc 3 1, 3) := dk_132 3 1 (dk_at dksX2_unlike_2 0 rfl rfl)
theorem dX2_unlike_49 : decode cX2_unlike 49 = .ok (.goto (-45), 3) := dk_167 255 211 (dk_at dksX2_unlike_2 3 rfl rfl)
theorem dX2_unlike_52 : decode cX2_unlike 52 = .ok (.iload_n 2, 1) := dk_28 (dk_at dksX2_unlike_2 6 rfl rfl)
theorem dX2_unlike_53 : decode cX2_unlike 53 = .ok (.ireturn, 1) := dk_172 (dk_at dksX2_unlike_2 7 rfl rfl)
abbrev cX2_wordAt : ByteArray := prog_18_method_11_code
def yX2_wordAt : MethodName := ⟨RX2, "wordAt", "([II)I"⟩
def dkwX2_wordAt_1 : List UInt8 := [104, 43, 28, 46, 96, 46, 172]
abbrev dktX2_wordAt_1 : List UInt8 := dkwX2_wordAt_1 ++ []
def dkwX2_wordAt_0 : List UInt8 := [42, 43, 3, 28, 182, 0, 37, 62, 29, 2, 160, 0, 7, 2, 167, 0, 16, 42, 180, 0, 9, 16, 6, 29]
abbrev dktX2_wordAt_0 : List UInt8 := dkwX2_wordAt_0 ++ dktX2_wordAt_1
theorem dksX2_wordAt_0 : cX2_wordAt.data.toList.drop 0 = dktX2_wordAt_0 := by decide +kernel
theorem dksX2_wordAt_1 : cX2_wordAt.data.toList.drop 24 = dktX2_wordAt_1 := dk_seg dksX2_wordAt_0 24 rfl rfl
theorem dX2_wordAt_0 : decode cX2_wordAt 0 = .ok (.aload_n 0, 1) := dk_42 (dk_at dksX2_wordAt_0 0 rfl rfl)
theorem dX2_wordAt_1 : decode cX2_wordAt 1 = .ok (.aload_n 1, 1) := dk_43 (dk_at dksX2_wordAt_0 1 rfl rfl)
theorem dX2_wordAt_2 : decode cX2_wordAt 2 = .ok (.iconst 0, 1) := dk_3 (dk_at dksX2_wordAt_0 2 rfl rfl)
theorem dX2_wordAt_3 : decode cX2_wordAt 3 = .ok (.iload_n 2, 1) := dk_28 (dk_at dksX2_wordAt_0 3 rfl rfl)
theorem dX2_wordAt_4 : decode cX2_wordAt 4 = .ok (.invokevirtual 37, 3) := dk_182 0 37 (dk_at dksX2_wordAt_0 4 rfl rfl)
theorem dX2_wordAt_7 : decode cX2_wordAt 7 = .ok (.istore_n 3, 1) := dk_62 (dk_at dksX2_wordAt_0 7 rfl rfl)
theorem dX2_wordAt_8 : decode cX2_wordAt 8 = .ok (.iload_n 3, 1) := dk_29 (dk_at dksX2_wordAt_0 8 rfl rfl)
theorem dX2_wordAt_9 : decode cX2_wordAt 9 = .ok (.iconst (-1), 1) := dk_2 (dk_at dksX2_wordAt_0 9 rfl rfl)
theorem dX2_wordAt_10 : decode cX2_wordAt 10 = .ok (.if_icmp .ne 7, 3) := dk_160 0 7 (dk_at dksX2_wordAt_0 10 rfl rfl)
theorem dX2_wordAt_13 : decode cX2_wordAt 13 = .ok (.iconst (-1), 1) := dk_2 (dk_at dksX2_wordAt_0 13 rfl rfl)
theorem dX2_wordAt_14 : decode cX2_wordAt 14 = .ok (.goto 16, 3) := dk_167 0 16 (dk_at dksX2_wordAt_0 14 rfl rfl)
theorem dX2_wordAt_17 : decode cX2_wordAt 17 = .ok (.aload_n 0, 1) := dk_42 (dk_at dksX2_wordAt_0 17 rfl rfl)
theorem dX2_wordAt_18 : decode cX2_wordAt 18 = .ok (.getfield 9, 3) := dk_180 0 9 (dk_at dksX2_wordAt_0 18 rfl rfl)
theorem dX2_wordAt_21 : decode cX2_wordAt 21 = .ok (.bipush 6, 2) := dk_16 6 (dk_at dksX2_wordAt_0 21 rfl rfl)
theorem dX2_wordAt_23 : decode cX2_wordAt 23 = .ok (.iload_n 3, 1) := dk_29 (dk_at dksX2_wordAt_0 23 rfl rfl)
theorem dX2_wordAt_24 : decode cX2_wordAt 24 = .ok (.imul, 1) := dk_104 (dk_at dksX2_wordAt_1 0 rfl rfl)
theorem dX2_wordAt_25 : decode cX2_wordAt 25 = .ok (.aload_n 1, 1) := dk_43 (dk_at dksX2_wordAt_1 1 rfl rfl)
theorem dX2_wordAt_26 : decode cX2_wordAt 26 = .ok (.iload_n 2, 1) := dk_28 (dk_at dksX2_wordAt_1 2 rfl rfl)
theorem dX2_wordAt_27 : decode cX2_wordAt 27 = .ok (.iaload, 1) := dk_46 (dk_at dksX2_wordAt_1 3 rfl rfl)
theorem dX2_wordAt_28 : decode cX2_wordAt 28 = .ok (.iadd, 1) := dk_96 (dk_at dksX2_wordAt_1 4 rfl rfl)
theorem dX2_wordAt_29 : decode cX2_wordAt 29 = .ok (.iaload, 1) := dk_46 (dk_at dksX2_wordAt_1 5 rfl rfl)
theorem dX2_wordAt_30 : decode cX2_wordAt 30 = .ok (.ireturn, 1) := dk_172 (dk_at dksX2_wordAt_1 6 rfl rfl)
abbrev cX2_stateBehind : ByteArray := prog_18_method_10_code
def yX2_stateBehind : MethodName := ⟨RX2, "stateBehind", "([III)I"⟩
def dkwX2_stateBehind_1 : List UInt8 := [43, 28, 21, 5, 96, 46, 96, 182, 0, 33, 54, 4, 132, 5, 1, 167, 255, 223, 21, 4, 172]
abbrev dktX2_stateBehind_1 : List UInt8 := dkwX2_stateBehind_1 ++ []
def dkwX2_stateBehind_0 : List UInt8 := [3, 54, 4, 3, 54, 5, 21, 5, 29, 162, 0, 33, 21, 4, 2, 159, 0, 27, 42, 16, 6, 21, 4, 104]
abbrev dktX2_stateBehind_0 : List UInt8 := dkwX2_stateBehind_0 ++ dktX2_stateBehind_1
theorem dksX2_stateBehind_0 : cX2_stateBehind.data.toList.drop 0 = dktX2_stateBehind_0 := by decide +kernel
theorem dksX2_stateBehind_1 : cX2_stateBehind.data.toList.drop 24 = dktX2_stateBehind_1 := dk_seg dksX2_stateBehind_0 24 rfl rfl
theorem dX2_stateBehind_0 : decode cX2_stateBehind 0 = .ok (.iconst 0, 1) := dk_3 (dk_at dksX2_stateBehind_0 0 rfl rfl)
theorem dX2_stateBehind_1 : decode cX2_stateBehind 1 = .ok (.istore 4, 2) := dk_54 4 (dk_at dksX2_stateBehind_0 1 rfl rfl)
theorem dX2_stateBehind_3 : decode cX2_stateBehind 3 = .ok (.iconst 0, 1) := dk_3 (dk_at dksX2_stateBehind_0 3 rfl rfl)
theorem dX2_stateBehind_4 : decode cX2_stateBehind 4 = .ok (.istore 5, 2) := dk_54 5 (dk_at dksX2_stateBehind_0 4 rfl rfl)
theorem dX2_stateBehind_6 : decode cX2_stateBehind 6 = .ok (.iload 5, 2) := dk_21 5 (dk_at dksX2_stateBehind_0 6 rfl rfl)
theorem dX2_stateBehind_8 : decode cX2_stateBehind 8 = .ok (.iload_n 3, 1) := dk_29 (dk_at dksX2_stateBehind_0 8 rfl rfl)
theorem dX2_stateBehind_9 : decode cX2_stateBehind 9 = .ok (.if_icmp .ge 33, 3) := dk_162 0 33 (dk_at dksX2_stateBehind_0 9 rfl rfl)
theorem dX2_stateBehind_12 : decode cX2_stateBehind 12 = .ok (.iload 4, 2) := dk_21 4 (dk_at dksX2_stateBehind_0 12 rfl rfl)
theorem dX2_stateBehind_14 : decode cX2_stateBehind 14 = .ok (.iconst (-1), 1) := dk_2 (dk_at dksX2_stateBehind_0 14 rfl rfl)
theorem dX2_stateBehind_15 : decode cX2_stateBehind 15 = .ok (.if_icmp .eq 27, 3) := dk_159 0 27 (dk_at dksX2_stateBehind_0 15 rfl rfl)
theorem dX2_stateBehind_18 : decode cX2_stateBehind 18 = .ok (.aload_n 0, 1) := dk_42 (dk_at dksX2_stateBehind_0 18 rfl rfl)
theorem dX2_stateBehind_19 : decode cX2_stateBehind 19 = .ok (.bipush 6, 2) := dk_16 6 (dk_at dksX2_stateBehind_0 19 rfl rfl)
theorem dX2_stateBehind_21 : decode cX2_stateBehind 21 = .ok (.iload 4, 2) := dk_21 4 (dk_at dksX2_stateBehind_0 21 rfl rfl)
theorem dX2_stateBehind_23 : decode cX2_stateBehind 23 = .ok (.imul, 1) := dk_104 (dk_at dksX2_stateBehind_0 23 rfl rfl)
theorem dX2_stateBehind_24 : decode cX2_stateBehind 24 = .ok (.aload_n 1, 1) := dk_43 (dk_at dksX2_stateBehind_1 0 rfl rfl)
theorem dX2_stateBehind_25 : decode cX2_stateBehind 25 = .ok (.iload_n 2, 1) := dk_28 (dk_at dksX2_stateBehind_1 1 rfl rfl)
theorem dX2_stateBehind_26 : decode cX2_stateBehind 26 = .ok (.iload 5, 2) := dk_21 5 (dk_at dksX2_stateBehind_1 2 rfl rfl)
theorem dX2_stateBehind_28 : decode cX2_stateBehind 28 = .ok (.iadd, 1) := dk_96 (dk_at dksX2_stateBehind_1 4 rfl rfl)
theorem dX2_stateBehind_29 : decode cX2_stateBehind 29 = .ok (.iaload, 1) := dk_46 (dk_at dksX2_stateBehind_1 5 rfl rfl)
theorem dX2_stateBehind_30 : decode cX2_stateBehind 30 = .ok (.iadd, 1) := dk_96 (dk_at dksX2_stateBehind_1 6 rfl rfl)
theorem dX2_stateBehind_31 : decode cX2_stateBehind 31 = .ok (.invokevirtual 33, 3) := dk_182 0 33 (dk_at dksX2_stateBehind_1 7 rfl rfl)
theorem dX2_stateBehind_34 : decode cX2_stateBehind 34 = .ok (.istore 4, 2) := dk_54 4 (dk_at dksX2_stateBehind_1 10 rfl rfl)
theorem dX2_stateBehind_36 : decode cX2_stateBehind 36 = .ok (.iinc 5 1, 3) := dk_132 5 1 (dk_at dksX2_stateBehind_1 12 rfl rfl)
theorem dX2_stateBehind_39 : decode cX2_stateBehind 39 = .ok (.goto (-33), 3) := dk_167 255 223 (dk_at dksX2_stateBehind_1 15 rfl rfl)
theorem dX2_stateBehind_42 : decode cX2_stateBehind 42 = .ok (.iload 4, 2) := dk_21 4 (dk_at dksX2_stateBehind_1 18 rfl rfl)
theorem dX2_stateBehind_44 : decode cX2_stateBehind 44 = .ok (.ireturn, 1) := dk_172 (dk_at dksX2_stateBehind_1 20 rfl rfl)
theorem q114 : (Jvm.Cond.initialized "DeadUnderstudies$Script") ∈ lw_all := lw_g (lw_at lw_m1 3 rfl) rfl
theorem q171 : (Jvm.Cond.instantiable "DeadUnderstudies$Script" (2 : Nat)) ∈ lw_all := lw_g (lw_at lw_m1 60 rfl) rfl
theorem q173 : (Jvm.Cond.instanceMethod ({ cls := "DeadUnderstudies$Script", name := "<init>", desc := "()V" } : Jvm.MethodName)) ∈ lw_all := lw_g (lw_at lw_m1 62 rfl) rfl
theorem q174 : (Jvm.Cond.code ({ cls := "DeadUnderstudies$Script", name := "<init>", desc := "()V" } : Jvm.MethodName) prog_18_method_1_code (2 : Nat) (Option.none : Option Jvm.ClassFile.FieldType)) ∈ lw_all := lw_g (lw_at lw_m1 63 rfl) rfl
theorem q175 : (Jvm.Cond.methodLink "DeadUnderstudies$Script" (3 : Nat) ({ cls := "java/lang/Object", name := "<init>", desc := "()V" } : Jvm.MethodName)) ∈ lw_all := lw_g (lw_at lw_m1 64 rfl) rfl
theorem q176 : (Jvm.Cond.fieldLink "DeadUnderstudies$Script" (9 : Nat) "DeadUnderstudies$Script" "words" "[I") ∈ lw_all := lw_g (lw_at lw_m1 65 rfl) rfl
theorem q180 : (Jvm.Cond.fieldLink "DeadUnderstudies$Script" (15 : Nat) "DeadUnderstudies$Script" "nexts" "[I") ∈ lw_all := lw_g (lw_at lw_m1 69 rfl) rfl
theorem q184 : (Jvm.Cond.laysFinal "DeadUnderstudies$Script" "DeadUnderstudies$Script" "words" "[I") ∈ lw_all := lw_g (lw_at lw_m1 73 rfl) rfl
theorem q185 : (Jvm.Cond.soleField "DeadUnderstudies$Script" "words") ∈ lw_all := lw_g (lw_at lw_m1 74 rfl) rfl
theorem q186 : (Jvm.Cond.laysFinal "DeadUnderstudies$Script" "DeadUnderstudies$Script" "nexts" "[I") ∈ lw_all := lw_g (lw_at lw_m1 75 rfl) rfl
theorem q187 : (Jvm.Cond.soleField "DeadUnderstudies$Script" "nexts") ∈ lw_all := lw_g (lw_at lw_m1 76 rfl) rfl
theorem q188 : (Jvm.Cond.superclass "DeadUnderstudies$Script" "java/lang/Object") ∈ lw_all := lw_g (lw_at lw_m1 77 rfl) rfl
theorem q610 : (Jvm.Cond.instanceMethod ({ cls := "DeadUnderstudies$Script", name := "takes", desc := "(LDeadUnderstudies$Script;)V" } : Jvm.MethodName)) ∈ lw_all := lw_g (lw_at lw_m3 19 rfl) rfl
theorem q611 : (Jvm.Cond.selects "DeadUnderstudies$Script" ({ cls := "DeadUnderstudies$Script", name := "takes", desc := "(LDeadUnderstudies$Script;)V" } : Jvm.MethodName) ({ cls := "DeadUnderstudies$Script", name := "takes", desc := "(LDeadUnderstudies$Script;)V" } : Jvm.MethodName)) ∈ lw_all := lw_g (lw_at lw_m3 20 rfl) rfl
theorem q612 : (Jvm.Cond.code ({ cls := "DeadUnderstudies$Script", name := "takes", desc := "(LDeadUnderstudies$Script;)V" } : Jvm.MethodName) prog_18_method_2_code (2 : Nat) (Option.none : Option Jvm.ClassFile.FieldType)) ∈ lw_all := lw_g (lw_at lw_m3 21 rfl) rfl
theorem q613 : (Jvm.Cond.methodLink "DeadUnderstudies$Script" (18 : Nat) ({ cls := "java/lang/System", name := "arraycopy", desc := "(Ljava/lang/Object;ILjava/lang/Object;II)V" } : Jvm.MethodName)) ∈ lw_all := lw_g (lw_at lw_m3 22 rfl) rfl
theorem q657 : (Jvm.Cond.selects "DeadUnderstudies$Script" ({ cls := "java/lang/Object", name := "getClass", desc := "()Ljava/lang/Class;" } : Jvm.MethodName) ({ cls := "java/lang/Object", name := "getClass", desc := "()Ljava/lang/Class;" } : Jvm.MethodName)) ∈ lw_all := lw_g (lw_at lw_m3 66 rfl) rfl
theorem q708 : (Jvm.Cond.instanceMethod ({ cls := "DeadUnderstudies$Script", name := "hushes", desc := "(I)I" } : Jvm.MethodName)) ∈ lw_all := lw_g (lw_at lw_m3 117 rfl) rfl
theorem q709 : (Jvm.Cond.selects "DeadUnderstudies$Script" ({ cls := "DeadUnderstudies$Script", name := "hushes", desc := "(I)I" } : Jvm.MethodName) ({ cls := "DeadUnderstudies$Script", name := "hushes", desc := "(I)I" } : Jvm.MethodName)) ∈ lw_all := lw_g (lw_at lw_m3 118 rfl) rfl
theorem q710 : (Jvm.Cond.code ({ cls := "DeadUnderstudies$Script", name := "hushes", desc := "(I)I" } : Jvm.MethodName) prog_18_method_7_code (3 : Nat) (Option.some Jvm.ClassFile.FieldType.int)) ∈ lw_all := lw_g (lw_at lw_m3 119 rfl) rfl
theorem q726 : (Jvm.Cond.instanceMethod ({ cls := "DeadUnderstudies$Script", name := "says", desc := "(III)V" } : Jvm.MethodName)) ∈ lw_all := lw_g (lw_at lw_m3 135 rfl) rfl
theorem q727 : (Jvm.Cond.selects "DeadUnderstudies$Script" ({ cls := "DeadUnderstudies$Script", name := "says", desc := "(III)V" } : Jvm.MethodName) ({ cls := "DeadUnderstudies$Script", name := "says", desc := "(III)V" } : Jvm.MethodName)) ∈ lw_all := lw_g (lw_at lw_m3 136 rfl) rfl
theorem q728 : (Jvm.Cond.code ({ cls := "DeadUnderstudies$Script", name := "says", desc := "(III)V" } : Jvm.MethodName) prog_18_method_6_code (4 : Nat) (Option.none : Option Jvm.ClassFile.FieldType)) ∈ lw_all := lw_g (lw_at lw_m3 137 rfl) rfl
theorem q741 : (Jvm.Cond.instanceMethod ({ cls := "DeadUnderstudies$Script", name := "next", desc := "(I)I" } : Jvm.MethodName)) ∈ lw_all := lw_g (lw_at lw_m3 150 rfl) rfl
theorem q742 : (Jvm.Cond.selects "DeadUnderstudies$Script" ({ cls := "DeadUnderstudies$Script", name := "next", desc := "(I)I" } : Jvm.MethodName) ({ cls := "DeadUnderstudies$Script", name := "next", desc := "(I)I" } : Jvm.MethodName)) ∈ lw_all := lw_g (lw_at lw_m3 151 rfl) rfl
theorem q743 : (Jvm.Cond.code ({ cls := "DeadUnderstudies$Script", name := "next", desc := "(I)I" } : Jvm.MethodName) prog_18_method_5_code (2 : Nat) (Option.some Jvm.ClassFile.FieldType.int)) ∈ lw_all := lw_g (lw_at lw_m3 152 rfl) rfl
theorem q744 : (Jvm.Cond.methodLink "DeadUnderstudies$Script" (29 : Nat) ({ cls := "DeadUnderstudies$Script", name := "isHole", desc := "(I)Z" } : Jvm.MethodName)) ∈ lw_all := lw_g (lw_at lw_m3 153 rfl) rfl
theorem q745 : (Jvm.Cond.instanceMethod ({ cls := "DeadUnderstudies$Script", name := "isHole", desc := "(I)Z" } : Jvm.MethodName)) ∈ lw_all := lw_g (lw_at lw_m3 154 rfl) rfl
theorem q746 : (Jvm.Cond.selects "DeadUnderstudies$Script" ({ cls := "DeadUnderstudies$Script", name := "isHole", desc := "(I)Z" } : Jvm.MethodName) ({ cls := "DeadUnderstudies$Script", name := "isHole", desc := "(I)Z" } : Jvm.MethodName)) ∈ lw_all := lw_g (lw_at lw_m3 155 rfl) rfl
theorem q747 : (Jvm.Cond.code ({ cls := "DeadUnderstudies$Script", name := "isHole", desc := "(I)Z" } : Jvm.MethodName) prog_18_method_4_code (2 : Nat) (Option.some Jvm.ClassFile.FieldType.boolean)) ∈ lw_all := lw_g (lw_at lw_m3 156 rfl) rfl
theorem q753 : (Jvm.Cond.instanceMethod ({ cls := "DeadUnderstudies$Script", name := "known", desc := "()I" } : Jvm.MethodName)) ∈ lw_all := lw_g (lw_at lw_m3 162 rfl) rfl
theorem q754 : (Jvm.Cond.selects "DeadUnderstudies$Script" ({ cls := "DeadUnderstudies$Script", name := "known", desc := "()I" } : Jvm.MethodName) ({ cls := "DeadUnderstudies$Script", name := "known", desc := "()I" } : Jvm.MethodName)) ∈ lw_all := lw_g (lw_at lw_m3 163 rfl) rfl
theorem q755 : (Jvm.Cond.code ({ cls := "DeadUnderstudies$Script", name := "known", desc := "()I" } : Jvm.MethodName) prog_18_method_8_code (3 : Nat) (Option.some Jvm.ClassFile.FieldType.int)) ∈ lw_all := lw_g (lw_at lw_m3 164 rfl) rfl
theorem q1460 : (Jvm.Cond.instanceMethod ({ cls := "DeadUnderstudies$Script", name := "copy", desc := "()LDeadUnderstudies$Script;" } : Jvm.MethodName)) ∈ lw_all := lw_g (lw_at lw_m6 149 rfl) rfl
theorem q1461 : (Jvm.Cond.selects "DeadUnderstudies$Script" ({ cls := "DeadUnderstudies$Script", name := "copy", desc := "()LDeadUnderstudies$Script;" } : Jvm.MethodName) ({ cls := "DeadUnderstudies$Script", name := "copy", desc := "()LDeadUnderstudies$Script;" } : Jvm.MethodName)) ∈ lw_all := lw_g (lw_at lw_m6 150 rfl) rfl
theorem q1462 : (Jvm.Cond.code ({ cls := "DeadUnderstudies$Script", name := "copy", desc := "()LDeadUnderstudies$Script;" } : Jvm.MethodName) prog_18_method_3_code (2 : Nat) (Option.some (Jvm.ClassFile.FieldType.object "DeadUnderstudies$Script"))) ∈ lw_all := lw_g (lw_at lw_m6 151 rfl) rfl
theorem q1463 : (Jvm.Cond.classLink "DeadUnderstudies$Script" (10 : Nat) "DeadUnderstudies$Script") ∈ lw_all := lw_g (lw_at lw_m6 152 rfl) rfl
theorem q1464 : (Jvm.Cond.methodLink "DeadUnderstudies$Script" (24 : Nat) ({ cls := "DeadUnderstudies$Script", name := "<init>", desc := "()V" } : Jvm.MethodName)) ∈ lw_all := lw_g (lw_at lw_m6 153 rfl) rfl
theorem q1465 : (Jvm.Cond.methodLink "DeadUnderstudies$Script" (25 : Nat) ({ cls := "DeadUnderstudies$Script", name := "takes", desc := "(LDeadUnderstudies$Script;)V" } : Jvm.MethodName)) ∈ lw_all := lw_g (lw_at lw_m6 154 rfl) rfl
theorem q1540 : (Jvm.Cond.instanceMethod ({ cls := "DeadUnderstudies$Script", name := "unlike", desc := "(LDeadUnderstudies$Script;)I" } : Jvm.MethodName)) ∈ lw_all := lw_g (lw_at lw_m6 229 rfl) rfl
theorem q1541 : (Jvm.Cond.selects "DeadUnderstudies$Script" ({ cls := "DeadUnderstudies$Script", name := "unlike", desc := "(LDeadUnderstudies$Script;)I" } : Jvm.MethodName) ({ cls := "DeadUnderstudies$Script", name := "unlike", desc := "(LDeadUnderstudies$Script;)I" } : Jvm.MethodName)) ∈ lw_all := lw_g (lw_at lw_m6 230 rfl) rfl
theorem q1542 : (Jvm.Cond.code ({ cls := "DeadUnderstudies$Script", name := "unlike", desc := "(LDeadUnderstudies$Script;)I" } : Jvm.MethodName) prog_18_method_9_code (4 : Nat) (Option.some Jvm.ClassFile.FieldType.int)) ∈ lw_all := lw_g (lw_at lw_m6 231 rfl) rfl
theorem q1543 : (Jvm.Cond.methodLink "DeadUnderstudies$Script" (33 : Nat) ({ cls := "DeadUnderstudies$Script", name := "next", desc := "(I)I" } : Jvm.MethodName)) ∈ lw_all := lw_g (lw_at lw_m6 232 rfl) rfl
theorem q1557 : (Jvm.Cond.instanceMethod ({ cls := "DeadUnderstudies$Script", name := "wordAt", desc := "([II)I" } : Jvm.MethodName)) ∈ lw_all := lw_g (lw_at lw_m7 6 rfl) rfl
theorem q1558 : (Jvm.Cond.selects "DeadUnderstudies$Script" ({ cls := "DeadUnderstudies$Script", name := "wordAt", desc := "([II)I" } : Jvm.MethodName) ({ cls := "DeadUnderstudies$Script", name := "wordAt", desc := "([II)I" } : Jvm.MethodName)) ∈ lw_all := lw_g (lw_at lw_m7 7 rfl) rfl
theorem q1559 : (Jvm.Cond.code ({ cls := "DeadUnderstudies$Script", name := "wordAt", desc := "([II)I" } : Jvm.MethodName) prog_18_method_11_code (4 : Nat) (Option.some Jvm.ClassFile.FieldType.int)) ∈ lw_all := lw_g (lw_at lw_m7 8 rfl) rfl
theorem q1560 : (Jvm.Cond.methodLink "DeadUnderstudies$Script" (37 : Nat) ({ cls := "DeadUnderstudies$Script", name := "stateBehind", desc := "([III)I" } : Jvm.MethodName)) ∈ lw_all := lw_g (lw_at lw_m7 9 rfl) rfl
theorem q1561 : (Jvm.Cond.instanceMethod ({ cls := "DeadUnderstudies$Script", name := "stateBehind", desc := "([III)I" } : Jvm.MethodName)) ∈ lw_all := lw_g (lw_at lw_m7 10 rfl) rfl
theorem q1562 : (Jvm.Cond.selects "DeadUnderstudies$Script" ({ cls := "DeadUnderstudies$Script", name := "stateBehind", desc := "([III)I" } : Jvm.MethodName) ({ cls := "DeadUnderstudies$Script", name := "stateBehind", desc := "([III)I" } : Jvm.MethodName)) ∈ lw_all := lw_g (lw_at lw_m7 11 rfl) rfl
theorem q1563 : (Jvm.Cond.code ({ cls := "DeadUnderstudies$Script", name := "stateBehind", desc := "([III)I" } : Jvm.MethodName) prog_18_method_10_code (6 : Nat) (Option.some Jvm.ClassFile.FieldType.int)) ∈ lw_all := lw_g (lw_at lw_m7 12 rfl) rfl
theorem q2599 : (Jvm.Cond.castable "DeadUnderstudies$Script" "java/lang/Object") ∈ lw_tbl := lw_at lw_m11 88 rfl
theorem in_X2 : ∀ w ∈ wsX20, w ∈ lw_all := lw_in wsX20 [184, 186] (by decide +kernel) (by decide +kernel)
/-! DeadUnderstudies$Setting -/
def RX3 : String := "DeadUnderstudies$Setting"
def TX3 : u_T := fun k => match k with
  | 0 => ("DeadUnderstudies$Setting", "broken", "LDeadUnderstudies$Broken;", true)
  | _ => ("DeadUnderstudies$Setting", "values", "[J", true)
def tyX3 : Nat → FieldType := fun k => match k with
  | 0 => .object "DeadUnderstudies$Broken"
  | _ => .array .long
abbrev wsX30 : List Cond := u_ws RX3 TX3 2
theorem nmX3 : ∀ a, a < 2 → ∀ b, b < 2 → a ≠ b → (TX3 a).2.1 ≠ (TX3 b).2.1 := by decide +kernel
theorem tyX3_ok : ∀ k, k < 2 → parseFieldDescriptor (TX3 k).2.2.1 = some (tyX3 k) := by decide +kernel
abbrev cX3_init : ByteArray := prog_19_method_1_code
def yX3_init : MethodName := ⟨RX3, "<init>", "()V"⟩
def dkwX3_init_0 : List UInt8 := [42, 183, 0, 3, 42, 187, 0, 9, 89, 183, 0, 11, 181, 0, 12, 42, 16, 8, 188, 11, 181, 0, 18, 177]
abbrev dktX3_init_0 : List UInt8 := dkwX3_init_0 ++ []
theorem dksX3_init_0 : cX3_init.data.toList.drop 0 = dktX3_init_0 := by decide +kernel
theorem dX3_init_0 : decode cX3_init 0 = .ok (.aload_n 0, 1) := dk_42 (dk_at dksX3_init_0 0 rfl rfl)
theorem dX3_init_1 : decode cX3_init 1 = .ok (.invokespecial 3, 3) := dk_183 0 3 (dk_at dksX3_init_0 1 rfl rfl)
theorem dX3_init_4 : decode cX3_init 4 = .ok (.aload_n 0, 1) := dk_42 (dk_at dksX3_init_0 4 rfl rfl)
theorem dX3_init_5 : decode cX3_init 5 = .ok (.new 9, 3) := dk_187 0 9 (dk_at dksX3_init_0 5 rfl rfl)
theorem dX3_init_8 : decode cX3_init 8 = .ok (.dup, 1) := dk_89 (dk_at dksX3_init_0 8 rfl rfl)
theorem dX3_init_9 : decode cX3_init 9 = .ok (.invokespecial 11, 3) := dk_183 0 11 (dk_at dksX3_init_0 9 rfl rfl)
theorem dX3_init_12 : decode cX3_init 12 = .ok (.putfield 12, 3) := dk_181 0 12 (dk_at dksX3_init_0 12 rfl rfl)
theorem dX3_init_15 : decode cX3_init 15 = .ok (.aload_n 0, 1) := dk_42 (dk_at dksX3_init_0 15 rfl rfl)
theorem dX3_init_16 : decode cX3_init 16 = .ok (.bipush 8, 2) := dk_16 8 (dk_at dksX3_init_0 16 rfl rfl)
theorem dX3_init_18 : decode cX3_init 18 = .ok (.newarray .long, 2) := dk_188_11 (dk_at dksX3_init_0 18 rfl rfl)
theorem dX3_init_20 : decode cX3_init 20 = .ok (.putfield 18, 3) := dk_181 0 18 (dk_at dksX3_init_0 20 rfl rfl)
theorem dX3_init_23 : decode cX3_init 23 = .ok (.return_, 1) := dk_177 (dk_at dksX3_init_0 23 rfl rfl)
theorem q118 : (Jvm.Cond.initialized "DeadUnderstudies$Setting") ∈ lw_all := lw_g (lw_at lw_m1 7 rfl) rfl
theorem q275 : (Jvm.Cond.instantiable "DeadUnderstudies$Setting" (2 : Nat)) ∈ lw_all := lw_g (lw_at lw_m1 164 rfl) rfl
theorem q277 : (Jvm.Cond.instanceMethod ({ cls := "DeadUnderstudies$Setting", name := "<init>", desc := "()V" } : Jvm.MethodName)) ∈ lw_all := lw_g (lw_at lw_m1 166 rfl) rfl
theorem q278 : (Jvm.Cond.code ({ cls := "DeadUnderstudies$Setting", name := "<init>", desc := "()V" } : Jvm.MethodName) prog_19_method_1_code (1 : Nat) (Option.none : Option Jvm.ClassFile.FieldType)) ∈ lw_all := lw_g (lw_at lw_m1 167 rfl) rfl
theorem q279 : (Jvm.Cond.methodLink "DeadUnderstudies$Setting" (3 : Nat) ({ cls := "java/lang/Object", name := "<init>", desc := "()V" } : Jvm.MethodName)) ∈ lw_all := lw_g (lw_at lw_m1 168 rfl) rfl
theorem q280 : (Jvm.Cond.classLink "DeadUnderstudies$Setting" (9 : Nat) "DeadUnderstudies$Broken") ∈ lw_all := lw_g (lw_at lw_m1 169 rfl) rfl
theorem q318 : (Jvm.Cond.methodLink "DeadUnderstudies$Setting" (11 : Nat) ({ cls := "DeadUnderstudies$Broken", name := "<init>", desc := "()V" } : Jvm.MethodName)) ∈ lw_all := lw_g (lw_at lw_m1 207 rfl) rfl
theorem q341 : (Jvm.Cond.fieldLink "DeadUnderstudies$Setting" (12 : Nat) "DeadUnderstudies$Setting" "broken" "LDeadUnderstudies$Broken;") ∈ lw_all := lw_g (lw_at lw_m1 230 rfl) rfl
theorem q343 : (Jvm.Cond.fieldLink "DeadUnderstudies$Setting" (18 : Nat) "DeadUnderstudies$Setting" "values" "[J") ∈ lw_all := lw_g (lw_at lw_m1 232 rfl) rfl
theorem q346 : (Jvm.Cond.laysFinal "DeadUnderstudies$Setting" "DeadUnderstudies$Setting" "broken" "LDeadUnderstudies$Broken;") ∈ lw_all := lw_g (lw_at lw_m1 235 rfl) rfl
theorem q347 : (Jvm.Cond.soleField "DeadUnderstudies$Setting" "broken") ∈ lw_all := lw_g (lw_at lw_m1 236 rfl) rfl
theorem q348 : (Jvm.Cond.laysFinal "DeadUnderstudies$Setting" "DeadUnderstudies$Setting" "values" "[J") ∈ lw_all := lw_g (lw_at lw_m1 237 rfl) rfl
theorem q349 : (Jvm.Cond.soleField "DeadUnderstudies$Setting" "values") ∈ lw_all := lw_g (lw_at lw_m1 238 rfl) rfl
theorem q350 : (Jvm.Cond.superclass "DeadUnderstudies$Setting" "java/lang/Object") ∈ lw_all := lw_g (lw_at lw_m1 239 rfl) rfl
theorem q658 : (Jvm.Cond.selects "DeadUnderstudies$Setting" ({ cls := "java/lang/Object", name := "getClass", desc := "()Ljava/lang/Class;" } : Jvm.MethodName) ({ cls := "java/lang/Object", name := "getClass", desc := "()Ljava/lang/Class;" } : Jvm.MethodName)) ∈ lw_all := lw_g (lw_at lw_m3 67 rfl) rfl
theorem q2603 : (Jvm.Cond.castable "DeadUnderstudies$Setting" "java/lang/Object") ∈ lw_tbl := lw_at lw_m11 92 rfl
theorem in_X3 : ∀ w ∈ wsX30, w ∈ lw_all := lw_in wsX30 [346, 348] (by decide +kernel) (by decide +kernel)
/-! DeadUnderstudies$Broken -/
def RX4 : String := "DeadUnderstudies$Broken"
def TX4 : u_T := fun k => match k with
  | 0 => ("java/lang/Throwable", "cause", "Ljava/lang/Throwable;", false)
  | 1 => ("java/lang/Throwable", "stackTrace", "[Ljava/lang/StackTraceElement;", false)
  | 2 => ("java/lang/Throwable", "suppressedExceptions", "Ljava/util/List;", false)
  | 3 => ("java/lang/Throwable", "detailMessage", "Ljava/lang/String;", false)
  | 4 => ("java/lang/Throwable", "backtrace", "Ljava/lang/Object;", false)
  | _ => ("java/lang/Throwable", "depth", "I", false)
def tyX4 : Nat → FieldType := fun k => match k with
  | 0 => .object "java/lang/Throwable"
  | 1 => .array (.object "java/lang/StackTraceElement")
  | 2 => .object "java/util/List"
  | 3 => .object "java/lang/String"
  | 4 => .object "java/lang/Object"
  | _ => .int
abbrev wsX40 : List Cond := u_ws RX4 TX4 6
theorem nmX4 : ∀ a, a < 6 → ∀ b, b < 6 → a ≠ b → (TX4 a).2.1 ≠ (TX4 b).2.1 := by decide +kernel
theorem tyX4_ok : ∀ k, k < 6 → parseFieldDescriptor (TX4 k).2.2.1 = some (tyX4 k) := by decide +kernel
abbrev cX4_init : ByteArray := prog_3_method_1_code
def yX4_init : MethodName := ⟨RX4, "<init>", "()V"⟩
def dkwX4_init_0 : List UInt8 := [42, 1, 1, 3, 3, 183, 0, 1, 177]
abbrev dktX4_init_0 : List UInt8 := dkwX4_init_0 ++ []
theorem dksX4_init_0 : cX4_init.data.toList.drop 0 = dktX4_init_0 := by decide +kernel
theorem dX4_init_0 : decode cX4_init 0 = .ok (.aload_n 0, 1) := dk_42 (dk_at dksX4_init_0 0 rfl rfl)
theorem dX4_init_1 : decode cX4_init 1 = .ok (.aconst_null, 1) := dk_1 (dk_at dksX4_init_0 1 rfl rfl)
theorem dX4_init_2 : decode cX4_init 2 = .ok (.aconst_null, 1) := dk_1 (dk_at dksX4_init_0 2 rfl rfl)
theorem dX4_init_3 : decode cX4_init 3 = .ok (.iconst 0, 1) := dk_3 (dk_at dksX4_init_0 3 rfl rfl)
theorem dX4_init_4 : decode cX4_init 4 = .ok (.iconst 0, 1) := dk_3 (dk_at dksX4_init_0 4 rfl rfl)
theorem dX4_init_5 : decode cX4_init 5 = .ok (.invokespecial 1, 3) := dk_183 0 1 (dk_at dksX4_init_0 5 rfl rfl)
theorem dX4_init_8 : decode cX4_init 8 = .ok (.return_, 1) := dk_177 (dk_at dksX4_init_0 8 rfl rfl)
theorem q121 : (Jvm.Cond.initialized "DeadUnderstudies$Broken") ∈ lw_all := lw_g (lw_at lw_m1 10 rfl) rfl
theorem q281 : (Jvm.Cond.instantiable "DeadUnderstudies$Broken" (6 : Nat)) ∈ lw_all := lw_g (lw_at lw_m1 170 rfl) rfl
theorem q282 : (Jvm.Cond.castable "DeadUnderstudies$Broken" "DeadUnderstudies$Broken") ∈ lw_tbl := lw_at lw_m1 171 rfl
theorem q287 : (Jvm.Cond.selects "DeadUnderstudies$Broken" ({ cls := "java/lang/Throwable", name := "fillInStackTrace", desc := "(I)Ljava/lang/Throwable;" } : Jvm.MethodName) ({ cls := "java/lang/Throwable", name := "fillInStackTrace", desc := "(I)Ljava/lang/Throwable;" } : Jvm.MethodName)) ∈ lw_all := lw_g (lw_at lw_m1 176 rfl) rfl
theorem q288 : (Jvm.Cond.selects "DeadUnderstudies$Broken" ({ cls := "java/lang/Throwable", name := "fillInStackTrace", desc := "()Ljava/lang/Throwable;" } : Jvm.MethodName) ({ cls := "java/lang/Throwable", name := "fillInStackTrace", desc := "()Ljava/lang/Throwable;" } : Jvm.MethodName)) ∈ lw_all := lw_g (lw_at lw_m1 177 rfl) rfl
theorem q289 : (Jvm.Cond.lays "DeadUnderstudies$Broken" "java/lang/Throwable" "cause" "Ljava/lang/Throwable;") ∈ lw_all := lw_g (lw_at lw_m1 178 rfl) rfl
theorem q291 : (Jvm.Cond.lays "DeadUnderstudies$Broken" "java/lang/Throwable" "stackTrace" "[Ljava/lang/StackTraceElement;") ∈ lw_all := lw_g (lw_at lw_m1 180 rfl) rfl
theorem q293 : (Jvm.Cond.lays "DeadUnderstudies$Broken" "java/lang/Throwable" "suppressedExceptions" "Ljava/util/List;") ∈ lw_all := lw_g (lw_at lw_m1 182 rfl) rfl
theorem q295 : (Jvm.Cond.lays "DeadUnderstudies$Broken" "java/lang/Throwable" "detailMessage" "Ljava/lang/String;") ∈ lw_all := lw_g (lw_at lw_m1 184 rfl) rfl
theorem q297 : (Jvm.Cond.lays "DeadUnderstudies$Broken" "java/lang/Throwable" "backtrace" "Ljava/lang/Object;") ∈ lw_all := lw_g (lw_at lw_m1 186 rfl) rfl
theorem q319 : (Jvm.Cond.instanceMethod ({ cls := "DeadUnderstudies$Broken", name := "<init>", desc := "()V" } : Jvm.MethodName)) ∈ lw_all := lw_g (lw_at lw_m1 208 rfl) rfl
theorem q320 : (Jvm.Cond.code ({ cls := "DeadUnderstudies$Broken", name := "<init>", desc := "()V" } : Jvm.MethodName) prog_3_method_1_code (1 : Nat) (Option.none : Option Jvm.ClassFile.FieldType)) ∈ lw_all := lw_g (lw_at lw_m1 209 rfl) rfl
theorem q321 : (Jvm.Cond.methodLink "DeadUnderstudies$Broken" (1 : Nat) ({ cls := "java/lang/Exception", name := "<init>", desc := "(Ljava/lang/String;Ljava/lang/Throwable;ZZ)V" } : Jvm.MethodName)) ∈ lw_all := lw_g (lw_at lw_m1 210 rfl) rfl
theorem q336 : (Jvm.Cond.lays "DeadUnderstudies$Broken" "java/lang/Throwable" "depth" "I") ∈ lw_all := lw_g (lw_at lw_m1 225 rfl) rfl
theorem q339 : (Jvm.Cond.superclass "DeadUnderstudies$Broken" "java/lang/Exception") ∈ lw_all := lw_g (lw_at lw_m1 228 rfl) rfl
theorem q643 : (Jvm.Cond.selects "DeadUnderstudies$Broken" ({ cls := "java/lang/Object", name := "getClass", desc := "()Ljava/lang/Class;" } : Jvm.MethodName) ({ cls := "java/lang/Object", name := "getClass", desc := "()Ljava/lang/Class;" } : Jvm.MethodName)) ∈ lw_all := lw_g (lw_at lw_m3 52 rfl) rfl
theorem q2604 : (Jvm.Cond.castable "DeadUnderstudies$Broken" "java/lang/Object") ∈ lw_tbl := lw_at lw_m11 93 rfl
theorem in_X4 : ∀ w ∈ wsX40, w ∈ lw_all := lw_in wsX40 [289, 291, 293, 295, 297, 336] (by decide +kernel) (by decide +kernel)
/-! DeadUnderstudies$Apart -/
def RX5 : String := "DeadUnderstudies$Apart"
def TX5 : u_T := fun k => match k with
  | 0 => ("DeadUnderstudies$Apart", "line", "[I", true)
  | 1 => ("DeadUnderstudies$Apart", "came", "[I", true)
  | 2 => ("DeadUnderstudies$Apart", "by", "[I", true)
  | 3 => ("DeadUnderstudies$Apart", "row", "[I", true)
  | 4 => ("DeadUnderstudies$Apart", "many", "I", false)
  | 5 => ("DeadUnderstudies$Apart", "size", "I", false)
  | _ => ("DeadUnderstudies$Apart", "this$0", "LDeadUnderstudies;", true)
def tyX5 : Nat → FieldType := fun k => match k with
  | 0 => .array .int
  | 1 => .array .int
  | 2 => .array .int
  | 3 => .array .int
  | 4 => .int
  | 5 => .int
  | _ => .object "DeadUnderstudies"
abbrev wsX50 : List Cond := u_ws RX5 TX5 7
theorem nmX5 : ∀ a, a < 7 → ∀ b, b < 7 → a ≠ b → (TX5 a).2.1 ≠ (TX5 b).2.1 := by decide +kernel
theorem tyX5_ok : ∀ k, k < 7 → parseFieldDescriptor (TX5 k).2.2.1 = some (tyX5 k) := by decide +kernel
abbrev cX5_init : ByteArray := prog_2_method_1_code
def yX5_init : MethodName := ⟨RX5, "<init>", "(LDeadUnderstudies;)V"⟩
def dkwX5_init_1 : List UInt8 := [181, 0, 19, 42, 16, 36, 188, 10, 181, 0, 22, 42, 16, 37, 188, 10, 181, 0, 25, 177]
abbrev dktX5_init_1 : List UInt8 := dkwX5_init_1 ++ []
def dkwX5_init_0 : List UInt8 := [42, 43, 181, 0, 3, 42, 183, 0, 9, 42, 16, 36, 188, 10, 181, 0, 15, 42, 16, 36, 188, 10]
abbrev dktX5_init_0 : List UInt8 := dkwX5_init_0 ++ dktX5_init_1
theorem dksX5_init_0 : cX5_init.data.toList.drop 0 = dktX5_init_0 := by decide +kernel
theorem dksX5_init_1 : cX5_init.data.toList.drop 22 = dktX5_init_1 := dk_seg dksX5_init_0 22 rfl rfl
theorem dX5_init_0 : decode cX5_init 0 = .ok (.aload_n 0, 1) := dk_42 (dk_at dksX5_init_0 0 rfl rfl)
theorem dX5_init_1 : decode cX5_init 1 = .ok (.aload_n 1, 1) := dk_43 (dk_at dksX5_init_0 1 rfl rfl)
theorem dX5_init_2 : decode cX5_init 2 = .ok (.putfield 3, 3) := dk_181 0 3 (dk_at dksX5_init_0 2 rfl rfl)
theorem dX5_init_5 : decode cX5_init 5 = .ok (.aload_n 0, 1) := dk_42 (dk_at dksX5_init_0 5 rfl rfl)
theorem dX5_init_6 : decode cX5_init 6 = .ok (.invokespecial 9, 3) := dk_183 0 9 (dk_at dksX5_init_0 6 rfl rfl)
theorem dX5_init_9 : decode cX5_init 9 = .ok (.aload_n 0, 1) := dk_42 (dk_at dksX5_init_0 9 rfl rfl)
theorem dX5_init_10 : decode cX5_init 10 = .ok (.bipush 36, 2) := dk_16 36 (dk_at dksX5_init_0 10 rfl rfl)
theorem dX5_init_12 : decode cX5_init 12 = .ok (.newarray .int, 2) := dk_188_10 (dk_at dksX5_init_0 12 rfl rfl)
theorem dX5_init_14 : decode cX5_init 14 = .ok (.putfield 15, 3) := dk_181 0 15 (dk_at dksX5_init_0 14 rfl rfl)
theorem dX5_init_17 : decode cX5_init 17 = .ok (.aload_n 0, 1) := dk_42 (dk_at dksX5_init_0 17 rfl rfl)
theorem dX5_init_18 : decode cX5_init 18 = .ok (.bipush 36, 2) := dk_16 36 (dk_at dksX5_init_0 18 rfl rfl)
theorem dX5_init_20 : decode cX5_init 20 = .ok (.newarray .int, 2) := dk_188_10 (dk_at dksX5_init_0 20 rfl rfl)
theorem dX5_init_22 : decode cX5_init 22 = .ok (.putfield 19, 3) := dk_181 0 19 (dk_at dksX5_init_1 0 rfl rfl)
theorem dX5_init_25 : decode cX5_init 25 = .ok (.aload_n 0, 1) := dk_42 (dk_at dksX5_init_1 3 rfl rfl)
theorem dX5_init_26 : decode cX5_init 26 = .ok (.bipush 36, 2) := dk_16 36 (dk_at dksX5_init_1 4 rfl rfl)
theorem dX5_init_28 : decode cX5_init 28 = .ok (.newarray .int, 2) := dk_188_10 (dk_at dksX5_init_1 6 rfl rfl)
theorem dX5_init_30 : decode cX5_init 30 = .ok (.putfield 22, 3) := dk_181 0 22 (dk_at dksX5_init_1 8 rfl rfl)
theorem dX5_init_33 : decode cX5_init 33 = .ok (.aload_n 0, 1) := dk_42 (dk_at dksX5_init_1 11 rfl rfl)
theorem dX5_init_34 : decode cX5_init 34 = .ok (.bipush 37, 2) := dk_16 37 (dk_at dksX5_init_1 12 rfl rfl)
theorem dX5_init_36 : decode cX5_init 36 = .ok (.newarray .int, 2) := dk_188_10 (dk_at dksX5_init_1 14 rfl rfl)
theorem dX5_init_38 : decode cX5_init 38 = .ok (.putfield 25, 3) := dk_181 0 25 (dk_at dksX5_init_1 16 rfl rfl)
theorem dX5_init_41 : decode cX5_init 41 = .ok (.return_, 1) := dk_177 (dk_at dksX5_init_1 19 rfl rfl)
abbrev cX5_finds : ByteArray := prog_2_method_2_code
def yX5_finds : MethodName := ⟨RX5, "finds", "(LDeadUnderstudies$Script;LDeadUnderstudies$Script;)I"⟩
def dkwX5_finds_7 : List UInt8 := [132, 4, 1, 167, 255, 143, 132, 3, 1, 167, 255, 126, 42, 2, 181, 0, 52, 2, 172]
abbrev dktX5_finds_7 : List UInt8 := dkwX5_finds_7 ++ []
def dkwX5_finds_6 : List UInt8 := [21, 5, 46, 104, 44, 180, 0, 45, 21, 6, 46, 96, 42, 180, 0, 15, 29, 46, 21, 4, 182, 0, 48]
abbrev dktX5_finds_6 : List UInt8 := dkwX5_finds_6 ++ dktX5_finds_7
def dkwX5_finds_5 : List UInt8 := [29, 46, 21, 4, 182, 0, 37, 172, 43, 21, 5, 182, 0, 41, 154, 0, 33, 42, 16, 6, 43, 180, 0, 45]
abbrev dktX5_finds_5 : List UInt8 := dkwX5_finds_5 ++ dktX5_finds_6
def dkwX5_finds_4 : List UInt8 := [54, 6, 43, 180, 0, 32, 21, 5, 46, 44, 180, 0, 32, 21, 6, 46, 159, 0, 16, 42, 42, 180, 0, 15]
abbrev dktX5_finds_4 : List UInt8 := dkwX5_finds_4 ++ dktX5_finds_5
def dkwX5_finds_3 : List UInt8 := [16, 6, 108, 104, 21, 4, 96, 54, 5, 16, 6, 42, 180, 0, 15, 29, 46, 16, 6, 112, 104, 21, 4, 96]
abbrev dktX5_finds_3 : List UInt8 := dkwX5_finds_3 ++ dktX5_finds_4
def dkwX5_finds_2 : List UInt8 := [180, 0, 28, 162, 0, 128, 3, 54, 4, 21, 4, 16, 6, 162, 0, 112, 16, 6, 42, 180, 0, 15, 29, 46]
abbrev dktX5_finds_2 : List UInt8 := dkwX5_finds_2 ++ dktX5_finds_3
def dkwX5_finds_1 : List UInt8 := [180, 0, 19, 3, 3, 79, 42, 180, 0, 15, 3, 3, 79, 42, 4, 181, 0, 28, 3, 62, 29, 42]
abbrev dktX5_finds_1 : List UInt8 := dkwX5_finds_1 ++ dktX5_finds_2
def dkwX5_finds_0 : List UInt8 := [3, 62, 29, 16, 36, 162, 0, 16, 42, 180, 0, 19, 29, 2, 79, 132, 3, 1, 167, 255, 240, 42]
abbrev dktX5_finds_0 : List UInt8 := dkwX5_finds_0 ++ dktX5_finds_1
theorem dksX5_finds_0 : cX5_finds.data.toList.drop 0 = dktX5_finds_0 := by decide +kernel
theorem dksX5_finds_1 : cX5_finds.data.toList.drop 22 = dktX5_finds_1 := dk_seg dksX5_finds_0 22 rfl rfl
theorem dksX5_finds_2 : cX5_finds.data.toList.drop 44 = dktX5_finds_2 := dk_seg dksX5_finds_1 22 rfl rfl
theorem dksX5_finds_3 : cX5_finds.data.toList.drop 68 = dktX5_finds_3 := dk_seg dksX5_finds_2 24 rfl rfl
theorem dksX5_finds_4 : cX5_finds.data.toList.drop 92 = dktX5_finds_4 := dk_seg dksX5_finds_3 24 rfl rfl
theorem dksX5_finds_5 : cX5_finds.data.toList.drop 116 = dktX5_finds_5 := dk_seg dksX5_finds_4 24 rfl rfl
theorem dksX5_finds_6 : cX5_finds.data.toList.drop 140 = dktX5_finds_6 := dk_seg dksX5_finds_5 24 rfl rfl
theorem dksX5_finds_7 : cX5_finds.data.toList.drop 163 = dktX5_finds_7 := dk_seg dksX5_finds_6 23 rfl rfl
theorem dX5_finds_0 : decode cX5_finds 0 = .ok (.iconst 0, 1) := dk_3 (dk_at dksX5_finds_0 0 rfl rfl)
theorem dX5_finds_1 : decode cX5_finds 1 = .ok (.istore_n 3, 1) := dk_62 (dk_at dksX5_finds_0 1 rfl rfl)
theorem dX5_finds_2 : decode cX5_finds 2 = .ok (.iload_n 3, 1) := dk_29 (dk_at dksX5_finds_0 2 rfl rfl)
theorem dX5_finds_3 : decode cX5_finds 3 = .ok (.bipush 36, 2) := dk_16 36 (dk_at dksX5_finds_0 3 rfl rfl)
theorem dX5_finds_5 : decode cX5_finds 5 = .ok (.if_icmp .ge 16, 3) := dk_162 0 16 (dk_at dksX5_finds_0 5 rfl rfl)
theorem dX5_finds_8 : decode cX5_finds 8 = .ok (.aload_n 0, 1) := dk_42 (dk_at dksX5_finds_0 8 rfl rfl)
theorem dX5_finds_9 : decode cX5_finds 9 = .ok (.getfield 19, 3) := dk_180 0 19 (dk_at dksX5_finds_0 9 rfl rfl)
theorem dX5_finds_12 : decode cX5_finds 12 = .ok (.iload_n 3, 1) := dk_29 (dk_at dksX5_finds_0 12 rfl rfl)
theorem dX5_finds_13 : decode cX5_finds 13 = .ok (.iconst (-1), 1) := dk_2 (dk_at dksX5_finds_0 13 rfl rfl)
theorem dX5_finds_14 : decode cX5_finds 14 = .ok (.iastore, 1) := dk_79 (dk_at dksX5_finds_0 14 rfl rfl)
theorem dX5_finds_15 : decode cX5_finds 15 = .ok (.iinc 3 1, 3) := dk_132 3 1 (dk_at dksX5_finds_0 15 rfl rfl)
theorem dX5_finds_18 : decode cX5_finds 18 = .ok (.goto (-16), 3) := dk_167 255 240 (dk_at dksX5_finds_0 18 rfl rfl)
theorem dX5_finds_21 : decode cX5_finds 21 = .ok (.aload_n 0, 1) := dk_42 (dk_at dksX5_finds_0 21 rfl rfl)
theorem dX5_finds_22 : decode cX5_finds 22 = .ok (.getfield 19, 3) := dk_180 0 19 (dk_at dksX5_finds_1 0 rfl rfl)
theorem dX5_finds_25 : decode cX5_finds 25 = .ok (.iconst 0, 1) := dk_3 (dk_at dksX5_finds_1 3 rfl rfl)
theorem dX5_finds_26 : decode cX5_finds 26 = .ok (.iconst 0, 1) := dk_3 (dk_at dksX5_finds_1 4 rfl rfl)
theorem dX5_finds_27 : decode cX5_finds 27 = .ok (.iastore, 1) := dk_79 (dk_at dksX5_finds_1 5 rfl rfl)
theorem dX5_finds_28 : decode cX5_finds 28 = .ok (.aload_n 0, 1) := dk_42 (dk_at dksX5_finds_1 6 rfl rfl)
theorem dX5_finds_29 : decode cX5_finds 29 = .ok (.getfield 15, 3) := dk_180 0 15 (dk_at dksX5_finds_1 7 rfl rfl)
theorem dX5_finds_32 : decode cX5_finds 32 = .ok (.iconst 0, 1) := dk_3 (dk_at dksX5_finds_1 10 rfl rfl)
theorem dX5_finds_33 : decode cX5_finds 33 = .ok (.iconst 0, 1) := dk_3 (dk_at dksX5_finds_1 11 rfl rfl)
theorem dX5_finds_34 : decode cX5_finds 34 = .ok (.iastore, 1) := dk_79 (dk_at dksX5_finds_1 12 rfl rfl)
theorem dX5_finds_35 : decode cX5_finds 35 = .ok (.aload_n 0, 1) := dk_42 (dk_at dksX5_finds_1 13 rfl rfl)
theorem dX5_finds_36 : decode cX5_finds 36 = .ok (.iconst 1, 1) := dk_4 (dk_at dksX5_finds_1 14 rfl rfl)
theorem dX5_finds_37 : decode cX5_finds 37 = .ok (.putfield 28, 3) := dk_181 0 28 (dk_at dksX5_finds_1 15 rfl rfl)
theorem dX5_finds_40 : decode cX5_finds 40 = .ok (.iconst 0, 1) := dk_3 (dk_at dksX5_finds_1 18 rfl rfl)
theorem dX5_finds_41 : decode cX5_finds 41 = .ok (.istore_n 3, 1) := dk_62 (dk_at dksX5_finds_1 19 rfl rfl)
theorem dX5_finds_42 : decode cX5_finds 42 = .ok (.iload_n 3, 1) := dk_29 (dk_at dksX5_finds_1 20 rfl rfl)
theorem dX5_finds_43 : decode cX5_finds 43 = .ok (.aload_n 0, 1) := dk_42 (dk_at dksX5_finds_1 21 rfl rfl)
theorem dX5_finds_44 : decode cX5_finds 44 = .ok (.getfield 28, 3) := dk_180 0 28 (dk_at dksX5_finds_2 0 rfl rfl)
theorem dX5_finds_47 : decode cX5_finds 47 = .ok (.if_icmp .ge 128, 3) := dk_162 0 128 (dk_at dksX5_finds_2 3 rfl rfl)
theorem dX5_finds_50 : decode cX5_finds 50 = .ok (.iconst 0, 1) := dk_3 (dk_at dksX5_finds_2 6 rfl rfl)
theorem dX5_finds_51 : decode cX5_finds 51 = .ok (.istore 4, 2) := dk_54 4 (dk_at dksX5_finds_2 7 rfl rfl)
theorem dX5_finds_53 : decode cX5_finds 53 = .ok (.iload 4, 2) := dk_21 4 (dk_at dksX5_finds_2 9 rfl rfl)
theorem dX5_finds_55 : decode cX5_finds 55 = .ok (.bipush 6, 2) := dk_16 6 (dk_at dksX5_finds_2 11 rfl rfl)
theorem dX5_finds_57 : decode cX5_finds 57 = .ok (.if_icmp .ge 112, 3) := dk_162 0 112 (dk_at dksX5_finds_2 13 rfl rfl)
theorem dX5_finds_60 : decode cX5_finds 60 = .ok (.bipush 6, 2) := dk_16 6 (dk_at dksX5_finds_2 16 rfl rfl)
theorem dX5_finds_62 : decode cX5_finds 62 = .ok (.aload_n 0, 1) := dk_42 (dk_at dksX5_finds_2 18 rfl rfl)
theorem dX5_finds_63 : decode cX5_finds 63 = .ok (.getfield 15, 3) := dk_180 0 15 (dk_at dksX5_finds_2 19 rfl rfl)
theorem dX5_finds_66 : decode cX5_finds 66 = .ok (.iload_n 3, 1) := dk_29 (dk_at dksX5_finds_2 22 rfl rfl)
theorem dX5_finds_67 : decode cX5_finds 67 = .ok (.iaload, 1) := dk_46 (dk_at dksX5_finds_2 23 rfl rfl)
theorem dX5_finds_68 : decode cX5_finds 68 = .ok (.bipush 6, 2) := dk_16 6 (dk_at dksX5_finds_3 0 rfl rfl)
theorem dX5_finds_70 : decode cX5_finds 70 = .ok (.idiv, 1) := dk_108 (dk_at dksX5_finds_3 2 rfl rfl)
theorem dX5_finds_71 : decode cX5_finds 71 = .ok (.imul, 1) := dk_104 (dk_at dksX5_finds_3 3 rfl rfl)
theorem dX5_finds_72 : decode cX5_finds 72 = .ok (.iload 4, 2) := dk_21 4 (dk_at dksX5_finds_3 4 rfl rfl)
theorem dX5_finds_74 : decode cX5_finds 74 = .ok (.iadd, 1) := dk_96 (dk_at dksX5_finds_3 6 rfl rfl)
theorem dX5_finds_75 : decode cX5_finds 75 = .ok (.istore 5, 2) := dk_54 5 (dk_at dksX5_finds_3 7 rfl rfl)
theorem dX5_finds_77 : decode cX5_finds 77 = .ok (.bipush 6, 2) := dk_16 6 (dk_at dksX5_finds_3 9 rfl rfl)
theorem dX5_finds_79 : decode cX5_finds 79 = .ok (.aload_n 0, 1) := dk_42 (dk_at dksX5_finds_3 11 rfl rfl)
theorem dX5_finds_80 : decode cX5_finds 80 = .ok (.getfield 15, 3) := dk_180 0 15 (dk_at dksX5_finds_3 12 rfl rfl)
theorem dX5_finds_83 : decode cX5_finds 83 = .ok (.iload_n 3, 1) := dk_29 (dk_at dksX5_finds_3 15 rfl rfl)
theorem dX5_finds_84 : decode cX5_finds 84 = .ok (.iaload, 1) := dk_46 (dk_at dksX5_finds_3 16 rfl rfl)
theorem dX5_finds_85 : decode cX5_finds 85 = .ok (.bipush 6, 2) := dk_16 6 (dk_at dksX5_finds_3 17 rfl rfl)
theorem dX5_finds_87 : decode cX5_finds 87 = .ok (.irem, 1) := dk_112 (dk_at dksX5_finds_3 19 rfl rfl)
theorem dX5_finds_88 : decode cX5_finds 88 = .ok (.imul, 1) := dk_104 (dk_at dksX5_finds_3 20 rfl rfl)
theorem dX5_finds_89 : decode cX5_finds 89 = .ok (.iload 4, 2) := dk_21 4 (dk_at dksX5_finds_3 21 rfl rfl)
theorem dX5_finds_91 : decode cX5_finds 91 = .ok (.iadd, 1) := dk_96 (dk_at dksX5_finds_3 23 rfl rfl)
theorem dX5_finds_92 : decode cX5_finds 92 = .ok (.istore 6, 2) := dk_54 6 (dk_at dksX5_finds_4 0 rfl rfl)
theorem dX5_finds_94 : decode cX5_finds 94 = .ok (.aload_n 1, 1) := dk_43 (dk_at dksX5_finds_4 2 rfl rfl)
theorem dX5_finds_95 : decode cX5_finds 95 = .ok (.getfield 32, 3) := dk_180 0 32 (dk_at dksX5_finds_4 3 rfl rfl)
theorem dX5_finds_98 : decode cX5_finds 98 = .ok (.iload 5, 2) := dk_21 5 (dk_at dksX5_finds_4 6 rfl rfl)
theorem dX5_finds_100 : decode cX5_finds 100 = .ok (.iaload, 1) := dk_46 (dk_at dksX5_finds_4 8 rfl rfl)
theorem dX5_finds_101 : decode cX5_finds 101 = .ok (.aload_n 2, 1) := dk_44 (dk_at dksX5_finds_4 9 rfl rfl)
theorem dX5_finds_102 : decode cX5_finds 102 = .ok (.getfield 32, 3) := dk_180 0 32 (dk_at dksX5_finds_4 10 rfl rfl)
theorem dX5_finds_105 : decode cX5_finds 105 = .ok (.iload 6, 2) := dk_21 6 (dk_at dksX5_finds_4 13 rfl rfl)
theorem dX5_finds_107 : decode cX5_finds 107 = .ok (.iaload, 1) := dk_46 (dk_at dksX5_finds_4 15 rfl rfl)
theorem dX5_finds_108 : decode cX5_finds 108 = .ok (.if_icmp .eq 16, 3) := dk_159 0 16 (dk_at dksX5_finds_4 16 rfl rfl)
theorem dX5_finds_111 : decode cX5_finds 111 = .ok (.aload_n 0, 1) := dk_42 (dk_at dksX5_finds_4 19 rfl rfl)
theorem dX5_finds_112 : decode cX5_finds 112 = .ok (.aload_n 0, 1) := dk_42 (dk_at dksX5_finds_4 20 rfl rfl)
theorem dX5_finds_113 : decode cX5_finds 113 = .ok (.getfield 15, 3) := dk_180 0 15 (dk_at dksX5_finds_4 21 rfl rfl)
theorem dX5_finds_116 : decode cX5_finds 116 = .ok (.iload_n 3, 1) := dk_29 (dk_at dksX5_finds_5 0 rfl rfl)
theorem dX5_finds_117 : decode cX5_finds 117 = .ok (.iaload, 1) := dk_46 (dk_at dksX5_finds_5 1 rfl rfl)
theorem dX5_finds_118 : decode cX5_finds 118 = .ok (.iload 4, 2) := dk_21 4 (dk_at dksX5_finds_5 2 rfl rfl)
theorem dX5_finds_120 : decode cX5_finds 120 = .ok (.invokevirtual 37, 3) := dk_182 0 37 (dk_at dksX5_finds_5 4 rfl rfl)
theorem dX5_finds_123 : decode cX5_finds 123 = .ok (.ireturn, 1) := dk_172 (dk_at dksX5_finds_5 7 rfl rfl)
theorem dX5_finds_124 : decode cX5_finds 124 = .ok (.aload_n 1, 1) := dk_43 (dk_at dksX5_finds_5 8 rfl rfl)
theorem dX5_finds_125 : decode cX5_finds 125 = .ok (.iload 5, 2) := dk_21 5 (dk_at dksX5_finds_5 9 rfl rfl)
theorem dX5_finds_127 : decode cX5_finds 127 = .ok (.invokevirtual 41, 3) := dk_182 0 41 (dk_at dksX5_finds_5 11 rfl rfl)
theorem dX5_finds_130 : decode cX5_finds 130 = .ok (.ifCond .ne 33, 3) := dk_154 0 33 (dk_at dksX5_finds_5 14 rfl rfl)
theorem dX5_finds_133 : decode cX5_finds 133 = .ok (.aload_n 0, 1) := dk_42 (dk_at dksX5_finds_5 17 rfl rfl)
theorem dX5_finds_134 : decode cX5_finds 134 = .ok (.bipush 6, 2) := dk_16 6 (dk_at dksX5_finds_5 18 rfl rfl)
theorem dX5_finds_136 : decode cX5_finds 136 = .ok (.aload_n 1, 1) := dk_43 (dk_at dksX5_finds_5 20 rfl rfl)
theorem dX5_finds_137 : decode cX5_finds 137 = .ok (.getfield 45, 3) := dk_180 0 45 (dk_at dksX5_finds_5 21 rfl rfl)
theorem dX5_finds_140 : decode cX5_finds 140 = .ok (.iload 5, 2) := dk_21 5 (dk_at dksX5_finds_6 0 rfl rfl)
theorem dX5_finds_142 : decode cX5_finds 142 = .ok (.iaload, 1) := dk_46 (dk_at dksX5_finds_6 2 rfl rfl)
theorem dX5_finds_143 : decode cX5_finds 143 = .ok (.imul, 1) := dk_104 (dk_at dksX5_finds_6 3 rfl rfl)
theorem dX5_finds_144 : decode cX5_finds 144 = .ok (.aload_n 2, 1) := dk_44 (dk_at dksX5_finds_6 4 rfl rfl)
theorem dX5_finds_145 : decode cX5_finds 145 = .ok (.getfield 45, 3) := dk_180 0 45 (dk_at dksX5_finds_6 5 rfl rfl)
theorem dX5_finds_148 : decode cX5_finds 148 = .ok (.iload 6, 2) := dk_21 6 (dk_at dksX5_finds_6 8 rfl rfl)
theorem dX5_finds_150 : decode cX5_finds 150 = .ok (.iaload, 1) := dk_46 (dk_at dksX5_finds_6 10 rfl rfl)
theorem dX5_finds_151 : decode cX5_finds 151 = .ok (.iadd, 1) := dk_96 (dk_at dksX5_finds_6 11 rfl rfl)
theorem dX5_finds_152 : decode cX5_finds 152 = .ok (.aload_n 0, 1) := dk_42 (dk_at dksX5_finds_6 12 rfl rfl)
theorem dX5_finds_153 : decode cX5_finds 153 = .ok (.getfield 15, 3) := dk_180 0 15 (dk_at dksX5_finds_6 13 rfl rfl)
theorem dX5_finds_156 : decode cX5_finds 156 = .ok (.iload_n 3, 1) := dk_29 (dk_at dksX5_finds_6 16 rfl rfl)
theorem dX5_finds_157 : decode cX5_finds 157 = .ok (.iaload, 1) := dk_46 (dk_at dksX5_finds_6 17 rfl rfl)
theorem dX5_finds_158 : decode cX5_finds 158 = .ok (.iload 4, 2) := dk_21 4 (dk_at dksX5_finds_6 18 rfl rfl)
theorem dX5_finds_160 : decode cX5_finds 160 = .ok (.invokevirtual 48, 3) := dk_182 0 48 (dk_at dksX5_finds_6 20 rfl rfl)
theorem dX5_finds_163 : decode cX5_finds 163 = .ok (.iinc 4 1, 3) := dk_132 4 1 (dk_at dksX5_finds_7 0 rfl rfl)
theorem dX5_finds_166 : decode cX5_finds 166 = .ok (.goto (-113), 3) := dk_167 255 143 (dk_at dksX5_finds_7 3 rfl rfl)
theorem dX5_finds_169 : decode cX5_finds 169 = .ok (.iinc 3 1, 3) := dk_132 3 1 (dk_at dksX5_finds_7 6 rfl rfl)
theorem dX5_finds_172 : decode cX5_finds 172 = .ok (.goto (-130), 3) := dk_167 255 126 (dk_at dksX5_finds_7 9 rfl rfl)
theorem dX5_finds_175 : decode cX5_finds 175 = .ok (.aload_n 0, 1) := dk_42 (dk_at dksX5_finds_7 12 rfl rfl)
theorem dX5_finds_176 : decode cX5_finds 176 = .ok (.iconst (-1), 1) := dk_2 (dk_at dksX5_finds_7 13 rfl rfl)
theorem dX5_finds_177 : decode cX5_finds 177 = .ok (.putfield 52, 3) := dk_181 0 52 (dk_at dksX5_finds_7 14 rfl rfl)
theorem dX5_finds_180 : decode cX5_finds 180 = .ok (.iconst (-1), 1) := dk_2 (dk_at dksX5_finds_7 17 rfl rfl)
theorem dX5_finds_181 : decode cX5_finds 181 = .ok (.ireturn, 1) := dk_172 (dk_at dksX5_finds_7 18 rfl rfl)
abbrev cX5_ends : ByteArray := prog_2_method_4_code
def yX5_ends : MethodName := ⟨RX5, "ends", "(II)I"⟩
def dkwX5_ends_3 : List UInt8 := [180, 0, 19, 21, 4, 46, 54, 4, 167, 255, 226, 42, 180, 0, 52, 172]
abbrev dktX5_ends_3 : List UInt8 := dkwX5_ends_3 ++ []
def dkwX5_ends_2 : List UInt8 := [54, 4, 21, 4, 153, 0, 31, 132, 3, 255, 42, 180, 0, 25, 29, 42, 180, 0, 22, 21, 4, 46, 79, 42]
abbrev dktX5_ends_2 : List UInt8 := dkwX5_ends_2 ++ dktX5_ends_3
def dkwX5_ends_1 : List UInt8 := [180, 0, 19, 29, 46, 62, 167, 255, 235, 42, 180, 0, 52, 4, 100, 62, 42, 180, 0, 25, 29, 28, 79, 27]
abbrev dktX5_ends_1 : List UInt8 := dkwX5_ends_1 ++ dktX5_ends_2
def dkwX5_ends_0 : List UInt8 := [42, 4, 181, 0, 52, 27, 62, 29, 153, 0, 23, 42, 89, 180, 0, 52, 4, 96, 181, 0, 52, 42]
abbrev dktX5_ends_0 : List UInt8 := dkwX5_ends_0 ++ dktX5_ends_1
theorem dksX5_ends_0 : cX5_ends.data.toList.drop 0 = dktX5_ends_0 := by decide +kernel
theorem dksX5_ends_1 : cX5_ends.data.toList.drop 22 = dktX5_ends_1 := dk_seg dksX5_ends_0 22 rfl rfl
theorem dksX5_ends_2 : cX5_ends.data.toList.drop 46 = dktX5_ends_2 := dk_seg dksX5_ends_1 24 rfl rfl
theorem dksX5_ends_3 : cX5_ends.data.toList.drop 70 = dktX5_ends_3 := dk_seg dksX5_ends_2 24 rfl rfl
theorem dX5_ends_0 : decode cX5_ends 0 = .ok (.aload_n 0, 1) := dk_42 (dk_at dksX5_ends_0 0 rfl rfl)
theorem dX5_ends_1 : decode cX5_ends 1 = .ok (.iconst 1, 1) := dk_4 (dk_at dksX5_ends_0 1 rfl rfl)
theorem dX5_ends_2 : decode cX5_ends 2 = .ok (.putfield 52, 3) := dk_181 0 52 (dk_at dksX5_ends_0 2 rfl rfl)
theorem dX5_ends_5 : decode cX5_ends 5 = .ok (.iload_n 1, 1) := dk_27 (dk_at dksX5_ends_0 5 rfl rfl)
theorem dX5_ends_6 : decode cX5_ends 6 = .ok (.istore_n 3, 1) := dk_62 (dk_at dksX5_ends_0 6 rfl rfl)
theorem dX5_ends_7 : decode cX5_ends 7 = .ok (.iload_n 3, 1) := dk_29 (dk_at dksX5_ends_0 7 rfl rfl)
theorem dX5_ends_8 : decode cX5_ends 8 = .ok (.ifCond .eq 23, 3) := dk_153 0 23 (dk_at dksX5_ends_0 8 rfl rfl)
theorem dX5_ends_11 : decode cX5_ends 11 = .ok (.aload_n 0, 1) := dk_42 (dk_at dksX5_ends_0 11 rfl rfl)
theorem dX5_ends_12 : decode cX5_ends 12 = .ok (.dup, 1) := dk_89 (dk_at dksX5_ends_0 12 rfl rfl)
theorem dX5_ends_13 : decode cX5_ends 13 = .ok (.getfield 52, 3) := dk_180 0 52 (dk_at dksX5_ends_0 13 rfl rfl)
theorem dX5_ends_16 : decode cX5_ends 16 = .ok (.iconst 1, 1) := dk_4 (dk_at dksX5_ends_0 16 rfl rfl)
theorem dX5_ends_17 : decode cX5_ends 17 = .ok (.iadd, 1) := dk_96 (dk_at dksX5_ends_0 17 rfl rfl)
theorem dX5_ends_18 : decode cX5_ends 18 = .ok (.putfield 52, 3) := dk_181 0 52 (dk_at dksX5_ends_0 18 rfl rfl)
theorem dX5_ends_21 : decode cX5_ends 21 = .ok (.aload_n 0, 1) := dk_42 (dk_at dksX5_ends_0 21 rfl rfl)
theorem dX5_ends_22 : decode cX5_ends 22 = .ok (.getfield 19, 3) := dk_180 0 19 (dk_at dksX5_ends_1 0 rfl rfl)
theorem dX5_ends_25 : decode cX5_ends 25 = .ok (.iload_n 3, 1) := dk_29 (dk_at dksX5_ends_1 3 rfl rfl)
theorem dX5_ends_26 : decode cX5_ends 26 = .ok (.iaload, 1) := dk_46 (dk_at dksX5_ends_1 4 rfl rfl)
theorem dX5_ends_27 : decode cX5_ends 27 = .ok (.istore_n 3, 1) := dk_62 (dk_at dksX5_ends_1 5 rfl rfl)
theorem dX5_ends_28 : decode cX5_ends 28 = .ok (.goto (-21), 3) := dk_167 255 235 (dk_at dksX5_ends_1 6 rfl rfl)
theorem dX5_ends_31 : decode cX5_ends 31 = .ok (.aload_n 0, 1) := dk_42 (dk_at dksX5_ends_1 9 rfl rfl)
theorem dX5_ends_32 : decode cX5_ends 32 = .ok (.getfield 52, 3) := dk_180 0 52 (dk_at dksX5_ends_1 10 rfl rfl)
theorem dX5_ends_35 : decode cX5_ends 35 = .ok (.iconst 1, 1) := dk_4 (dk_at dksX5_ends_1 13 rfl rfl)
theorem dX5_ends_36 : decode cX5_ends 36 = .ok (.isub, 1) := dk_100 (dk_at dksX5_ends_1 14 rfl rfl)
theorem dX5_ends_37 : decode cX5_ends 37 = .ok (.istore_n 3, 1) := dk_62 (dk_at dksX5_ends_1 15 rfl rfl)
theorem dX5_ends_38 : decode cX5_ends 38 = .ok (.aload_n 0, 1) := dk_42 (dk_at dksX5_ends_1 16 rfl rfl)
theorem dX5_ends_39 : decode cX5_ends 39 = .ok (.getfield 25, 3) := dk_180 0 25 (dk_at dksX5_ends_1 17 rfl rfl)
theorem dX5_ends_42 : decode cX5_ends 42 = .ok (.iload_n 3, 1) := dk_29 (dk_at dksX5_ends_1 20 rfl rfl)
theorem dX5_ends_43 : decode cX5_ends 43 = .ok (.iload_n 2, 1) := dk_28 (dk_at dksX5_ends_1 21 rfl rfl)
theorem dX5_ends_44 : decode cX5_ends 44 = .ok (.iastore, 1) := dk_79 (dk_at dksX5_ends_1 22 rfl rfl)
theorem dX5_ends_45 : decode cX5_ends 45 = .ok (.iload_n 1, 1) := dk_27 (dk_at dksX5_ends_1 23 rfl rfl)
theorem dX5_ends_46 : decode cX5_ends 46 = .ok (.istore 4, 2) := dk_54 4 (dk_at dksX5_ends_2 0 rfl rfl)
theorem dX5_ends_48 : decode cX5_ends 48 = .ok (.iload 4, 2) := dk_21 4 (dk_at dksX5_ends_2 2 rfl rfl)
theorem dX5_ends_50 : decode cX5_ends 50 = .ok (.ifCond .eq 31, 3) := dk_153 0 31 (dk_at dksX5_ends_2 4 rfl rfl)
theorem dX5_ends_53 : decode cX5_ends 53 = .ok (.iinc 3 (-1), 3) := dk_132 3 255 (dk_at dksX5_ends_2 7 rfl rfl)
theorem dX5_ends_56 : decode cX5_ends 56 = .ok (.aload_n 0, 1) := dk_42 (dk_at dksX5_ends_2 10 rfl rfl)
theorem dX5_ends_57 : decode cX5_ends 57 = .ok (.getfield 25, 3) := dk_180 0 25 (dk_at dksX5_ends_2 11 rfl rfl)
theorem dX5_ends_60 : decode cX5_ends 60 = .ok (.iload_n 3, 1) := dk_29 (dk_at dksX5_ends_2 14 rfl rfl)
theorem dX5_ends_61 : decode cX5_ends 61 = .ok (.aload_n 0, 1) := dk_42 (dk_at dksX5_ends_2 15 rfl rfl)
theorem dX5_ends_62 : decode cX5_ends 62 = .ok (.getfield 22, 3) := dk_180 0 22 (dk_at dksX5_ends_2 16 rfl rfl)
theorem dX5_ends_65 : decode cX5_ends 65 = .ok (.iload 4, 2) := dk_21 4 (dk_at dksX5_ends_2 19 rfl rfl)
theorem dX5_ends_67 : decode cX5_ends 67 = .ok (.iaload, 1) := dk_46 (dk_at dksX5_ends_2 21 rfl rfl)
theorem dX5_ends_68 : decode cX5_ends 68 = .ok (.iastore, 1) := dk_79 (dk_at dksX5_ends_2 22 rfl rfl)
theorem dX5_ends_69 : decode cX5_ends 69 = .ok (.aload_n 0, 1) := dk_42 (dk_at dksX5_ends_2 23 rfl rfl)
theorem dX5_ends_70 : decode cX5_ends 70 = .ok (.getfield 19, 3) := dk_180 0 19 (dk_at dksX5_ends_3 0 rfl rfl)
theorem dX5_ends_73 : decode cX5_ends 73 = .ok (.iload 4, 2) := dk_21 4 (dk_at dksX5_ends_3 3 rfl rfl)
theorem dX5_ends_75 : decode cX5_ends 75 = .ok (.iaload, 1) := dk_46 (dk_at dksX5_ends_3 5 rfl rfl)
theorem dX5_ends_76 : decode cX5_ends 76 = .ok (.istore 4, 2) := dk_54 4 (dk_at dksX5_ends_3 6 rfl rfl)
theorem dX5_ends_78 : decode cX5_ends 78 = .ok (.goto (-30), 3) := dk_167 255 226 (dk_at dksX5_ends_3 8 rfl rfl)
theorem dX5_ends_81 : decode cX5_ends 81 = .ok (.aload_n 0, 1) := dk_42 (dk_at dksX5_ends_3 11 rfl rfl)
theorem dX5_ends_82 : decode cX5_ends 82 = .ok (.getfield 52, 3) := dk_180 0 52 (dk_at dksX5_ends_3 12 rfl rfl)
theorem dX5_ends_85 : decode cX5_ends 85 = .ok (.ireturn, 1) := dk_172 (dk_at dksX5_ends_3 15 rfl rfl)
abbrev cX5_comes : ByteArray := prog_2_method_3_code
def yX5_comes : MethodName := ⟨RX5, "comes", "(III)V"⟩
def dkwX5_comes_1 : List UInt8 := [79, 42, 180, 0, 15, 42, 180, 0, 28, 27, 79, 42, 89, 180, 0, 28, 4, 96, 181, 0, 28, 177]
abbrev dktX5_comes_1 : List UInt8 := dkwX5_comes_1 ++ []
def dkwX5_comes_0 : List UInt8 := [42, 180, 0, 19, 27, 46, 2, 159, 0, 4, 177, 42, 180, 0, 19, 27, 28, 79, 42, 180, 0, 22, 27, 29]
abbrev dktX5_comes_0 : List UInt8 := dkwX5_comes_0 ++ dktX5_comes_1
theorem dksX5_comes_0 : cX5_comes.data.toList.drop 0 = dktX5_comes_0 := by decide +kernel
theorem dksX5_comes_1 : cX5_comes.data.toList.drop 24 = dktX5_comes_1 := dk_seg dksX5_comes_0 24 rfl rfl
theorem dX5_comes_0 : decode cX5_comes 0 = .ok (.aload_n 0, 1) := dk_42 (dk_at dksX5_comes_0 0 rfl rfl)
theorem dX5_comes_1 : decode cX5_comes 1 = .ok (.getfield 19, 3) := dk_180 0 19 (dk_at dksX5_comes_0 1 rfl rfl)
theorem dX5_comes_4 : decode cX5_comes 4 = .ok (.iload_n 1, 1) := dk_27 (dk_at dksX5_comes_0 4 rfl rfl)
theorem dX5_comes_5 : decode cX5_comes 5 = .ok (.iaload, 1) := dk_46 (dk_at dksX5_comes_0 5 rfl rfl)
theorem dX5_comes_6 : decode cX5_comes 6 = .ok (.iconst (-1), 1) := dk_2 (dk_at dksX5_comes_0 6 rfl rfl)
theorem dX5_comes_7 : decode cX5_comes 7 = .ok (.if_icmp .eq 4, 3) := dk_159 0 4 (dk_at dksX5_comes_0 7 rfl rfl)
theorem dX5_comes_10 : decode cX5_comes 10 = .ok (.return_, 1) := dk_177 (dk_at dksX5_comes_0 10 rfl rfl)
theorem dX5_comes_11 : decode cX5_comes 11 = .ok (.aload_n 0, 1) := dk_42 (dk_at dksX5_comes_0 11 rfl rfl)
theorem dX5_comes_12 : decode cX5_comes 12 = .ok (.getfield 19, 3) := dk_180 0 19 (dk_at dksX5_comes_0 12 rfl rfl)
theorem dX5_comes_15 : decode cX5_comes 15 = .ok (.iload_n 1, 1) := dk_27 (dk_at dksX5_comes_0 15 rfl rfl)
theorem dX5_comes_16 : decode cX5_comes 16 = .ok (.iload_n 2, 1) := dk_28 (dk_at dksX5_comes_0 16 rfl rfl)
theorem dX5_comes_17 : decode cX5_comes 17 = .ok (.iastore, 1) := dk_79 (dk_at dksX5_comes_0 17 rfl rfl)
theorem dX5_comes_18 : decode cX5_comes 18 = .ok (.aload_n 0, 1) := dk_42 (dk_at dksX5_comes_0 18 rfl rfl)
theorem dX5_comes_19 : decode cX5_comes 19 = .ok (.getfield 22, 3) := dk_180 0 22 (dk_at dksX5_comes_0 19 rfl rfl)
theorem dX5_comes_22 : decode cX5_comes 22 = .ok (.iload_n 1, 1) := dk_27 (dk_at dksX5_comes_0 22 rfl rfl)
theorem dX5_comes_23 : decode cX5_comes 23 = .ok (.iload_n 3, 1) := dk_29 (dk_at dksX5_comes_0 23 rfl rfl)
theorem dX5_comes_24 : decode cX5_comes 24 = .ok (.iastore, 1) := dk_79 (dk_at dksX5_comes_1 0 rfl rfl)
theorem dX5_comes_25 : decode cX5_comes 25 = .ok (.aload_n 0, 1) := dk_42 (dk_at dksX5_comes_1 1 rfl rfl)
theorem dX5_comes_26 : decode cX5_comes 26 = .ok (.getfield 15, 3) := dk_180 0 15 (dk_at dksX5_comes_1 2 rfl rfl)
theorem dX5_comes_29 : decode cX5_comes 29 = .ok (.aload_n 0, 1) := dk_42 (dk_at dksX5_comes_1 5 rfl rfl)
theorem dX5_comes_30 : decode cX5_comes 30 = .ok (.getfield 28, 3) := dk_180 0 28 (dk_at dksX5_comes_1 6 rfl rfl)
theorem dX5_comes_33 : decode cX5_comes 33 = .ok (.iload_n 1, 1) := dk_27 (dk_at dksX5_comes_1 9 rfl rfl)
theorem dX5_comes_34 : decode cX5_comes 34 = .ok (.iastore, 1) := dk_79 (dk_at dksX5_comes_1 10 rfl rfl)
theorem dX5_comes_35 : decode cX5_comes 35 = .ok (.aload_n 0, 1) := dk_42 (dk_at dksX5_comes_1 11 rfl rfl)
theorem dX5_comes_36 : decode cX5_comes 36 = .ok (.dup, 1) := dk_89 (dk_at dksX5_comes_1 12 rfl rfl)
theorem dX5_comes_37 : decode cX5_comes 37 = .ok (.getfield 28, 3) := dk_180 0 28 (dk_at dksX5_comes_1 13 rfl rfl)
theorem dX5_comes_40 : decode cX5_comes 40 = .ok (.iconst 1, 1) := dk_4 (dk_at dksX5_comes_1 16 rfl rfl)
theorem dX5_comes_41 : decode cX5_comes 41 = .ok (.iadd, 1) := dk_96 (dk_at dksX5_comes_1 17 rfl rfl)
theorem dX5_comes_42 : decode cX5_comes 42 = .ok (.putfield 28, 3) := dk_181 0 28 (dk_at dksX5_comes_1 18 rfl rfl)
theorem dX5_comes_45 : decode cX5_comes 45 = .ok (.return_, 1) := dk_177 (dk_at dksX5_comes_1 21 rfl rfl)
abbrev cX5_tells : ByteArray := prog_2_method_5_code
def yX5_tells : MethodName := ⟨RX5, "tells", "(I)I"⟩
def dkwX5_tells_1 : List UInt8 := [180, 0, 52, 4, 100, 184, 0, 55, 153, 0, 12, 42, 180, 0, 25, 27, 46, 167, 0, 4, 2, 172]
abbrev dktX5_tells_1 : List UInt8 := dkwX5_tells_1 ++ []
def dkwX5_tells_0 : List UInt8 := [27, 2, 160, 0, 10, 42, 180, 0, 52, 167, 0, 35, 42, 180, 0, 52, 2, 159, 0, 26, 27, 3, 42]
abbrev dktX5_tells_0 : List UInt8 := dkwX5_tells_0 ++ dktX5_tells_1
theorem dksX5_tells_0 : cX5_tells.data.toList.drop 0 = dktX5_tells_0 := by decide +kernel
theorem dksX5_tells_1 : cX5_tells.data.toList.drop 23 = dktX5_tells_1 := dk_seg dksX5_tells_0 23 rfl rfl
theorem dX5_tells_0 : decode cX5_tells 0 = .ok (.iload_n 1, 1) := dk_27 (dk_at dksX5_tells_0 0 rfl rfl)
theorem dX5_tells_1 : decode cX5_tells 1 = .ok (.iconst (-1), 1) := dk_2 (dk_at dksX5_tells_0 1 rfl rfl)
theorem dX5_tells_2 : decode cX5_tells 2 = .ok (.if_icmp .ne 10, 3) := dk_160 0 10 (dk_at dksX5_tells_0 2 rfl rfl)
theorem dX5_tells_5 : decode cX5_tells 5 = .ok (.aload_n 0, 1) := dk_42 (dk_at dksX5_tells_0 5 rfl rfl)
theorem dX5_tells_6 : decode cX5_tells 6 = .ok (.getfield 52, 3) := dk_180 0 52 (dk_at dksX5_tells_0 6 rfl rfl)
theorem dX5_tells_9 : decode cX5_tells 9 = .ok (.goto 35, 3) := dk_167 0 35 (dk_at dksX5_tells_0 9 rfl rfl)
theorem dX5_tells_12 : decode cX5_tells 12 = .ok (.aload_n 0, 1) := dk_42 (dk_at dksX5_tells_0 12 rfl rfl)
theorem dX5_tells_13 : decode cX5_tells 13 = .ok (.getfield 52, 3) := dk_180 0 52 (dk_at dksX5_tells_0 13 rfl rfl)
theorem dX5_tells_16 : decode cX5_tells 16 = .ok (.iconst (-1), 1) := dk_2 (dk_at dksX5_tells_0 16 rfl rfl)
theorem dX5_tells_17 : decode cX5_tells 17 = .ok (.if_icmp .eq 26, 3) := dk_159 0 26 (dk_at dksX5_tells_0 17 rfl rfl)
theorem dX5_tells_20 : decode cX5_tells 20 = .ok (.iload_n 1, 1) := dk_27 (dk_at dksX5_tells_0 20 rfl rfl)
theorem dX5_tells_21 : decode cX5_tells 21 = .ok (.iconst 0, 1) := dk_3 (dk_at dksX5_tells_0 21 rfl rfl)
theorem dX5_tells_22 : decode cX5_tells 22 = .ok (.aload_n 0, 1) := dk_42 (dk_at dksX5_tells_0 22 rfl rfl)
theorem dX5_tells_23 : decode cX5_tells 23 = .ok (.getfield 52, 3) := dk_180 0 52 (dk_at dksX5_tells_1 0 rfl rfl)
theorem dX5_tells_26 : decode cX5_tells 26 = .ok (.iconst 1, 1) := dk_4 (dk_at dksX5_tells_1 3 rfl rfl)
theorem dX5_tells_27 : decode cX5_tells 27 = .ok (.isub, 1) := dk_100 (dk_at dksX5_tells_1 4 rfl rfl)
theorem dX5_tells_28 : decode cX5_tells 28 = .ok (.invokestatic 55, 3) := dk_184 0 55 (dk_at dksX5_tells_1 5 rfl rfl)
theorem dX5_tells_31 : decode cX5_tells 31 = .ok (.ifCond .eq 12, 3) := dk_153 0 12 (dk_at dksX5_tells_1 8 rfl rfl)
theorem dX5_tells_34 : decode cX5_tells 34 = .ok (.aload_n 0, 1) := dk_42 (dk_at dksX5_tells_1 11 rfl rfl)
theorem dX5_tells_35 : decode cX5_tells 35 = .ok (.getfield 25, 3) := dk_180 0 25 (dk_at dksX5_tells_1 12 rfl rfl)
theorem dX5_tells_38 : decode cX5_tells 38 = .ok (.iload_n 1, 1) := dk_27 (dk_at dksX5_tells_1 15 rfl rfl)
theorem dX5_tells_39 : decode cX5_tells 39 = .ok (.iaload, 1) := dk_46 (dk_at dksX5_tells_1 16 rfl rfl)
theorem dX5_tells_40 : decode cX5_tells 40 = .ok (.goto 4, 3) := dk_167 0 4 (dk_at dksX5_tells_1 17 rfl rfl)
theorem dX5_tells_43 : decode cX5_tells 43 = .ok (.iconst (-1), 1) := dk_2 (dk_at dksX5_tells_1 20 rfl rfl)
theorem dX5_tells_44 : decode cX5_tells 44 = .ok (.ireturn, 1) := dk_172 (dk_at dksX5_tells_1 21 rfl rfl)
theorem q122 : (Jvm.Cond.initialized "DeadUnderstudies$Apart") ∈ lw_all := lw_g (lw_at lw_m1 11 rfl) rfl
theorem q177 : (Jvm.Cond.fieldLinkNest "DeadUnderstudies$Apart" (32 : Nat) "DeadUnderstudies$Script" "words" "[I" "DeadUnderstudies") ∈ lw_tbl := lw_at lw_m1 66 rfl
theorem q181 : (Jvm.Cond.fieldLinkNest "DeadUnderstudies$Apart" (45 : Nat) "DeadUnderstudies$Script" "nexts" "[I" "DeadUnderstudies") ∈ lw_tbl := lw_at lw_m1 70 rfl
theorem q353 : (Jvm.Cond.instantiable "DeadUnderstudies$Apart" (7 : Nat)) ∈ lw_all := lw_g (lw_at lw_m2 2 rfl) rfl
theorem q355 : (Jvm.Cond.instanceMethod ({ cls := "DeadUnderstudies$Apart", name := "<init>", desc := "(LDeadUnderstudies;)V" } : Jvm.MethodName)) ∈ lw_all := lw_g (lw_at lw_m2 4 rfl) rfl
theorem q356 : (Jvm.Cond.code ({ cls := "DeadUnderstudies$Apart", name := "<init>", desc := "(LDeadUnderstudies;)V" } : Jvm.MethodName) prog_2_method_1_code (2 : Nat) (Option.none : Option Jvm.ClassFile.FieldType)) ∈ lw_all := lw_g (lw_at lw_m2 5 rfl) rfl
theorem q357 : (Jvm.Cond.methodLink "DeadUnderstudies$Apart" (9 : Nat) ({ cls := "java/lang/Object", name := "<init>", desc := "()V" } : Jvm.MethodName)) ∈ lw_all := lw_g (lw_at lw_m2 6 rfl) rfl
theorem q358 : (Jvm.Cond.fieldLink "DeadUnderstudies$Apart" (15 : Nat) "DeadUnderstudies$Apart" "line" "[I") ∈ lw_all := lw_g (lw_at lw_m2 7 rfl) rfl
theorem q359 : (Jvm.Cond.fieldLink "DeadUnderstudies$Apart" (19 : Nat) "DeadUnderstudies$Apart" "came" "[I") ∈ lw_all := lw_g (lw_at lw_m2 8 rfl) rfl
theorem q360 : (Jvm.Cond.fieldLink "DeadUnderstudies$Apart" (22 : Nat) "DeadUnderstudies$Apart" "by" "[I") ∈ lw_all := lw_g (lw_at lw_m2 9 rfl) rfl
theorem q361 : (Jvm.Cond.fieldLink "DeadUnderstudies$Apart" (25 : Nat) "DeadUnderstudies$Apart" "row" "[I") ∈ lw_all := lw_g (lw_at lw_m2 10 rfl) rfl
theorem q362 : (Jvm.Cond.fieldLink "DeadUnderstudies$Apart" (28 : Nat) "DeadUnderstudies$Apart" "many" "I") ∈ lw_all := lw_g (lw_at lw_m2 11 rfl) rfl
theorem q363 : (Jvm.Cond.fieldLink "DeadUnderstudies$Apart" (52 : Nat) "DeadUnderstudies$Apart" "size" "I") ∈ lw_all := lw_g (lw_at lw_m2 12 rfl) rfl
theorem q364 : (Jvm.Cond.fieldLink "DeadUnderstudies$Apart" (3 : Nat) "DeadUnderstudies$Apart" "this$0" "LDeadUnderstudies;") ∈ lw_all := lw_g (lw_at lw_m2 13 rfl) rfl
theorem q365 : (Jvm.Cond.laysFinal "DeadUnderstudies$Apart" "DeadUnderstudies$Apart" "line" "[I") ∈ lw_all := lw_g (lw_at lw_m2 14 rfl) rfl
theorem q366 : (Jvm.Cond.soleField "DeadUnderstudies$Apart" "line") ∈ lw_all := lw_g (lw_at lw_m2 15 rfl) rfl
theorem q367 : (Jvm.Cond.laysFinal "DeadUnderstudies$Apart" "DeadUnderstudies$Apart" "came" "[I") ∈ lw_all := lw_g (lw_at lw_m2 16 rfl) rfl
theorem q368 : (Jvm.Cond.soleField "DeadUnderstudies$Apart" "came") ∈ lw_all := lw_g (lw_at lw_m2 17 rfl) rfl
theorem q369 : (Jvm.Cond.laysFinal "DeadUnderstudies$Apart" "DeadUnderstudies$Apart" "by" "[I") ∈ lw_all := lw_g (lw_at lw_m2 18 rfl) rfl
theorem q370 : (Jvm.Cond.soleField "DeadUnderstudies$Apart" "by") ∈ lw_all := lw_g (lw_at lw_m2 19 rfl) rfl
theorem q371 : (Jvm.Cond.laysFinal "DeadUnderstudies$Apart" "DeadUnderstudies$Apart" "row" "[I") ∈ lw_all := lw_g (lw_at lw_m2 20 rfl) rfl
theorem q372 : (Jvm.Cond.soleField "DeadUnderstudies$Apart" "row") ∈ lw_all := lw_g (lw_at lw_m2 21 rfl) rfl
theorem q373 : (Jvm.Cond.lays "DeadUnderstudies$Apart" "DeadUnderstudies$Apart" "many" "I") ∈ lw_all := lw_g (lw_at lw_m2 22 rfl) rfl
theorem q374 : (Jvm.Cond.soleField "DeadUnderstudies$Apart" "many") ∈ lw_all := lw_g (lw_at lw_m2 23 rfl) rfl
theorem q375 : (Jvm.Cond.lays "DeadUnderstudies$Apart" "DeadUnderstudies$Apart" "size" "I") ∈ lw_all := lw_g (lw_at lw_m2 24 rfl) rfl
theorem q376 : (Jvm.Cond.soleField "DeadUnderstudies$Apart" "size") ∈ lw_all := lw_g (lw_at lw_m2 25 rfl) rfl
theorem q377 : (Jvm.Cond.laysFinal "DeadUnderstudies$Apart" "DeadUnderstudies$Apart" "this$0" "LDeadUnderstudies;") ∈ lw_all := lw_g (lw_at lw_m2 26 rfl) rfl
theorem q378 : (Jvm.Cond.soleField "DeadUnderstudies$Apart" "this$0") ∈ lw_all := lw_g (lw_at lw_m2 27 rfl) rfl
theorem q379 : (Jvm.Cond.superclass "DeadUnderstudies$Apart" "java/lang/Object") ∈ lw_all := lw_g (lw_at lw_m2 28 rfl) rfl
theorem q642 : (Jvm.Cond.selects "DeadUnderstudies$Apart" ({ cls := "java/lang/Object", name := "getClass", desc := "()Ljava/lang/Class;" } : Jvm.MethodName) ({ cls := "java/lang/Object", name := "getClass", desc := "()Ljava/lang/Class;" } : Jvm.MethodName)) ∈ lw_all := lw_g (lw_at lw_m3 51 rfl) rfl
theorem q1573 : (Jvm.Cond.instanceMethod ({ cls := "DeadUnderstudies$Apart", name := "finds", desc := "(LDeadUnderstudies$Script;LDeadUnderstudies$Script;)I" } : Jvm.MethodName)) ∈ lw_all := lw_g (lw_at lw_m7 22 rfl) rfl
theorem q1574 : (Jvm.Cond.selects "DeadUnderstudies$Apart" ({ cls := "DeadUnderstudies$Apart", name := "finds", desc := "(LDeadUnderstudies$Script;LDeadUnderstudies$Script;)I" } : Jvm.MethodName) ({ cls := "DeadUnderstudies$Apart", name := "finds", desc := "(LDeadUnderstudies$Script;LDeadUnderstudies$Script;)I" } : Jvm.MethodName)) ∈ lw_all := lw_g (lw_at lw_m7 23 rfl) rfl
theorem q1575 : (Jvm.Cond.code ({ cls := "DeadUnderstudies$Apart", name := "finds", desc := "(LDeadUnderstudies$Script;LDeadUnderstudies$Script;)I" } : Jvm.MethodName) prog_2_method_2_code (7 : Nat) (Option.some Jvm.ClassFile.FieldType.int)) ∈ lw_all := lw_g (lw_at lw_m7 24 rfl) rfl
theorem q1576 : (Jvm.Cond.methodLink "DeadUnderstudies$Apart" (37 : Nat) ({ cls := "DeadUnderstudies$Apart", name := "ends", desc := "(II)I" } : Jvm.MethodName)) ∈ lw_all := lw_g (lw_at lw_m7 25 rfl) rfl
theorem q1577 : (Jvm.Cond.privateMethod ({ cls := "DeadUnderstudies$Apart", name := "ends", desc := "(II)I" } : Jvm.MethodName)) ∈ lw_tbl := lw_at lw_m7 26 rfl
theorem q1578 : (Jvm.Cond.instanceMethod ({ cls := "DeadUnderstudies$Apart", name := "ends", desc := "(II)I" } : Jvm.MethodName)) ∈ lw_all := lw_g (lw_at lw_m7 27 rfl) rfl
theorem q1579 : (Jvm.Cond.code ({ cls := "DeadUnderstudies$Apart", name := "ends", desc := "(II)I" } : Jvm.MethodName) prog_2_method_4_code (5 : Nat) (Option.some Jvm.ClassFile.FieldType.int)) ∈ lw_all := lw_g (lw_at lw_m7 28 rfl) rfl
theorem q1580 : (Jvm.Cond.methodLink "DeadUnderstudies$Apart" (41 : Nat) ({ cls := "DeadUnderstudies$Script", name := "isHole", desc := "(I)Z" } : Jvm.MethodName)) ∈ lw_all := lw_g (lw_at lw_m7 29 rfl) rfl
theorem q1581 : (Jvm.Cond.methodLink "DeadUnderstudies$Apart" (48 : Nat) ({ cls := "DeadUnderstudies$Apart", name := "comes", desc := "(III)V" } : Jvm.MethodName)) ∈ lw_all := lw_g (lw_at lw_m7 30 rfl) rfl
theorem q1582 : (Jvm.Cond.privateMethod ({ cls := "DeadUnderstudies$Apart", name := "comes", desc := "(III)V" } : Jvm.MethodName)) ∈ lw_tbl := lw_at lw_m7 31 rfl
theorem q1583 : (Jvm.Cond.instanceMethod ({ cls := "DeadUnderstudies$Apart", name := "comes", desc := "(III)V" } : Jvm.MethodName)) ∈ lw_all := lw_g (lw_at lw_m7 32 rfl) rfl
theorem q1584 : (Jvm.Cond.code ({ cls := "DeadUnderstudies$Apart", name := "comes", desc := "(III)V" } : Jvm.MethodName) prog_2_method_3_code (4 : Nat) (Option.none : Option Jvm.ClassFile.FieldType)) ∈ lw_all := lw_g (lw_at lw_m7 33 rfl) rfl
theorem q1586 : (Jvm.Cond.instanceMethod ({ cls := "DeadUnderstudies$Apart", name := "tells", desc := "(I)I" } : Jvm.MethodName)) ∈ lw_all := lw_g (lw_at lw_m7 35 rfl) rfl
theorem q1587 : (Jvm.Cond.selects "DeadUnderstudies$Apart" ({ cls := "DeadUnderstudies$Apart", name := "tells", desc := "(I)I" } : Jvm.MethodName) ({ cls := "DeadUnderstudies$Apart", name := "tells", desc := "(I)I" } : Jvm.MethodName)) ∈ lw_all := lw_g (lw_at lw_m7 36 rfl) rfl
theorem q1588 : (Jvm.Cond.code ({ cls := "DeadUnderstudies$Apart", name := "tells", desc := "(I)I" } : Jvm.MethodName) prog_2_method_5_code (2 : Nat) (Option.some Jvm.ClassFile.FieldType.int)) ∈ lw_all := lw_g (lw_at lw_m7 37 rfl) rfl
theorem q1589 : (Jvm.Cond.methodLinkNest "DeadUnderstudies$Apart" (55 : Nat) ({ cls := "DeadUnderstudies", name := "in", desc := "(III)Z" } : Jvm.MethodName) "DeadUnderstudies") ∈ lw_tbl := lw_at lw_m7 38 rfl
theorem q2605 : (Jvm.Cond.castable "DeadUnderstudies$Apart" "java/lang/Object") ∈ lw_tbl := lw_at lw_m11 94 rfl
theorem in_X5 : ∀ w ∈ wsX50, w ∈ lw_all := lw_in wsX50 [365, 367, 369, 371, 373, 375, 377] (by decide +kernel) (by decide +kernel)
/-! DeadUnderstudies$Talk -/
def RX6 : String := "DeadUnderstudies$Talk"
def TX6 : u_T := fun k => match k with
  | 0 => ("DeadUnderstudies$Talk", "seen", "[I", true)
  | 1 => ("DeadUnderstudies$Talk", "said", "[I", true)
  | 2 => ("DeadUnderstudies$Talk", "words", "I", false)
  | 3 => ("DeadUnderstudies$Talk", "stopState", "I", false)
  | 4 => ("DeadUnderstudies$Talk", "stopCue", "I", false)
  | 5 => ("DeadUnderstudies$Talk", "stopTurn", "I", false)
  | 6 => ("DeadUnderstudies$Talk", "ahead", "I", false)
  | 7 => ("DeadUnderstudies$Talk", "round", "I", false)
  | _ => ("DeadUnderstudies$Talk", "this$0", "LDeadUnderstudies;", true)
def tyX6 : Nat → FieldType := fun k => match k with
  | 0 => .array .int
  | 1 => .array .int
  | 2 => .int
  | 3 => .int
  | 4 => .int
  | 5 => .int
  | 6 => .int
  | 7 => .int
  | _ => .object "DeadUnderstudies"
abbrev wsX60 : List Cond := u_ws RX6 TX6 9
theorem nmX6 : ∀ a, a < 9 → ∀ b, b < 9 → a ≠ b → (TX6 a).2.1 ≠ (TX6 b).2.1 := by decide +kernel
theorem tyX6_ok : ∀ k, k < 9 → parseFieldDescriptor (TX6 k).2.2.1 = some (tyX6 k) := by decide +kernel
abbrev cX6_init : ByteArray := prog_23_method_1_code
def yX6_init : MethodName := ⟨RX6, "<init>", "(LDeadUnderstudies;)V"⟩
def dkwX6_init_1 : List UInt8 := [181, 0, 19, 177]
abbrev dktX6_init_1 : List UInt8 := dkwX6_init_1 ++ []
def dkwX6_init_0 : List UInt8 := [42, 43, 181, 0, 3, 42, 183, 0, 9, 42, 17, 1, 176, 188, 10, 181, 0, 15, 42, 17, 1, 177, 188, 10]
abbrev dktX6_init_0 : List UInt8 := dkwX6_init_0 ++ dktX6_init_1
theorem dksX6_init_0 : cX6_init.data.toList.drop 0 = dktX6_init_0 := by decide +kernel
theorem dksX6_init_1 : cX6_init.data.toList.drop 24 = dktX6_init_1 := dk_seg dksX6_init_0 24 rfl rfl
theorem dX6_init_0 : decode cX6_init 0 = .ok (.aload_n 0, 1) := dk_42 (dk_at dksX6_init_0 0 rfl rfl)
theorem dX6_init_1 : decode cX6_init 1 = .ok (.aload_n 1, 1) := dk_43 (dk_at dksX6_init_0 1 rfl rfl)
theorem dX6_init_2 : decode cX6_init 2 = .ok (.putfield 3, 3) := dk_181 0 3 (dk_at dksX6_init_0 2 rfl rfl)
theorem dX6_init_5 : decode cX6_init 5 = .ok (.aload_n 0, 1) := dk_42 (dk_at dksX6_init_0 5 rfl rfl)
theorem dX6_init_6 : decode cX6_init 6 = .ok (.invokespecial 9, 3) := dk_183 0 9 (dk_at dksX6_init_0 6 rfl rfl)
theorem dX6_init_9 : decode cX6_init 9 = .ok (.aload_n 0, 1) := dk_42 (dk_at dksX6_init_0 9 rfl rfl)
theorem dX6_init_10 : decode cX6_init 10 = .ok (.sipush 432, 3) := dk_17 1 176 (dk_at dksX6_init_0 10 rfl rfl)
theorem dX6_init_13 : decode cX6_init 13 = .ok (.newarray .int, 2) := dk_188_10 (dk_at dksX6_init_0 13 rfl rfl)
theorem dX6_init_15 : decode cX6_init 15 = .ok (.putfield 15, 3) := dk_181 0 15 (dk_at dksX6_init_0 15 rfl rfl)
theorem dX6_init_18 : decode cX6_init 18 = .ok (.aload_n 0, 1) := dk_42 (dk_at dksX6_init_0 18 rfl rfl)
theorem dX6_init_19 : decode cX6_init 19 = .ok (.sipush 433, 3) := dk_17 1 177 (dk_at dksX6_init_0 19 rfl rfl)
theorem dX6_init_22 : decode cX6_init 22 = .ok (.newarray .int, 2) := dk_188_10 (dk_at dksX6_init_0 22 rfl rfl)
theorem dX6_init_24 : decode cX6_init 24 = .ok (.putfield 19, 3) := dk_181 0 19 (dk_at dksX6_init_1 0 rfl rfl)
theorem dX6_init_27 : decode cX6_init 27 = .ok (.return_, 1) := dk_177 (dk_at dksX6_init_1 3 rfl rfl)
abbrev cX6_goesOn : ByteArray := prog_23_method_2_code
def yX6_goesOn : MethodName := ⟨RX6, "goesOn", "(LDeadUnderstudies$Script;LDeadUnderstudies$Script;I)Z"⟩
def dkwX6_goesOn_10 : List UInt8 := [54, 5, 4, 21, 6, 100, 54, 6, 25, 9, 180, 0, 47, 21, 10, 46, 16, 6, 112, 54, 7, 167, 255, 45]
abbrev dktX6_goesOn_10 : List UInt8 := dkwX6_goesOn_10 ++ []
def dkwX6_goesOn_9 : List UInt8 := [154, 0, 16, 25, 9, 180, 0, 49, 21, 10, 46, 54, 4, 167, 0, 13, 25, 9, 180, 0, 49, 21, 10, 46]
abbrev dktX6_goesOn_9 : List UInt8 := dkwX6_goesOn_9 ++ dktX6_goesOn_10
def dkwX6_goesOn_8 : List UInt8 := [180, 0, 22, 25, 9, 180, 0, 47, 21, 10, 46, 79, 42, 89, 180, 0, 22, 4, 96, 181, 0, 22, 21, 6]
abbrev dktX6_goesOn_8 : List UInt8 := dkwX6_goesOn_8 ++ dktX6_goesOn_9
def dkwX6_goesOn_7 : List UInt8 := [181, 0, 38, 42, 21, 7, 181, 0, 41, 42, 21, 6, 181, 0, 44, 3, 172, 42, 180, 0, 19, 42]
abbrev dktX6_goesOn_7 : List UInt8 := dkwX6_goesOn_7 ++ dktX6_goesOn_8
def dkwX6_goesOn_6 : List UInt8 := [104, 21, 7, 96, 54, 10, 25, 9, 21, 10, 182, 0, 32, 153, 0, 26, 42, 21, 10, 16, 6, 108]
abbrev dktX6_goesOn_6 : List UInt8 := dkwX6_goesOn_6 ++ dktX6_goesOn_7
def dkwX6_goesOn_5 : List UInt8 := [154, 0, 7, 43, 167, 0, 4, 44, 58, 9, 16, 6, 21, 6, 154, 0, 8, 21, 4, 167, 0, 5, 21, 5]
abbrev dktX6_goesOn_5 : List UInt8 := dkwX6_goesOn_5 ++ dktX6_goesOn_6
def dkwX6_goesOn_4 : List UInt8 := [21, 8, 46, 100, 181, 0, 29, 4, 172, 42, 180, 0, 15, 21, 8, 42, 180, 0, 22, 79, 21, 6]
abbrev dktX6_goesOn_4 : List UInt8 := dkwX6_goesOn_4 ++ dktX6_goesOn_5
def dkwX6_goesOn_3 : List UInt8 := [2, 159, 0, 32, 42, 42, 180, 0, 15, 21, 8, 46, 181, 0, 26, 42, 42, 180, 0, 22, 42, 180, 0, 15]
abbrev dktX6_goesOn_3 : List UInt8 := dkwX6_goesOn_3 ++ dktX6_goesOn_4
def dkwX6_goesOn_2 : List UInt8 := [104, 21, 5, 96, 5, 104, 21, 6, 96, 16, 6, 104, 21, 7, 96, 54, 8, 42, 180, 0, 15, 21, 8, 46]
abbrev dktX6_goesOn_2 : List UInt8 := dkwX6_goesOn_2 ++ dktX6_goesOn_3
def dkwX6_goesOn_1 : List UInt8 := [167, 255, 235, 3, 54, 4, 3, 54, 5, 3, 54, 6, 29, 54, 7, 42, 3, 181, 0, 22, 16, 6, 21, 4]
abbrev dktX6_goesOn_1 : List UInt8 := dkwX6_goesOn_1 ++ dktX6_goesOn_2
def dkwX6_goesOn_0 : List UInt8 := [3, 54, 4, 21, 4, 42, 180, 0, 15, 190, 162, 0, 17, 42, 180, 0, 15, 21, 4, 2, 79, 132, 4, 1]
abbrev dktX6_goesOn_0 : List UInt8 := dkwX6_goesOn_0 ++ dktX6_goesOn_1
theorem dksX6_goesOn_0 : cX6_goesOn.data.toList.drop 0 = dktX6_goesOn_0 := by decide +kernel
theorem dksX6_goesOn_1 : cX6_goesOn.data.toList.drop 24 = dktX6_goesOn_1 := dk_seg dksX6_goesOn_0 24 rfl rfl
theorem dksX6_goesOn_2 : cX6_goesOn.data.toList.drop 48 = dktX6_goesOn_2 := dk_seg dksX6_goesOn_1 24 rfl rfl
theorem dksX6_goesOn_3 : cX6_goesOn.data.toList.drop 72 = dktX6_goesOn_3 := dk_seg dksX6_goesOn_2 24 rfl rfl
theorem dksX6_goesOn_4 : cX6_goesOn.data.toList.drop 96 = dktX6_goesOn_4 := dk_seg dksX6_goesOn_3 24 rfl rfl
theorem dksX6_goesOn_5 : cX6_goesOn.data.toList.drop 118 = dktX6_goesOn_5 := dk_seg dksX6_goesOn_4 22 rfl rfl
theorem dksX6_goesOn_6 : cX6_goesOn.data.toList.drop 142 = dktX6_goesOn_6 := dk_seg dksX6_goesOn_5 24 rfl rfl
theorem dksX6_goesOn_7 : cX6_goesOn.data.toList.drop 164 = dktX6_goesOn_7 := dk_seg dksX6_goesOn_6 22 rfl rfl
theorem dksX6_goesOn_8 : cX6_goesOn.data.toList.drop 186 = dktX6_goesOn_8 := dk_seg dksX6_goesOn_7 22 rfl rfl
theorem dksX6_goesOn_9 : cX6_goesOn.data.toList.drop 210 = dktX6_goesOn_9 := dk_seg dksX6_goesOn_8 24 rfl rfl
theorem dksX6_goesOn_10 : cX6_goesOn.data.toList.drop 234 = dktX6_goesOn_10 := dk_seg dksX6_goesOn_9 24 rfl rfl
theorem dX6_goesOn_0 : decode cX6_goesOn 0 = .ok (.iconst 0, 1) := dk_3 (dk_at dksX6_goesOn_0 0 rfl rfl)
theorem dX6_goesOn_1 : decode cX6_goesOn 1 = .ok (.istore 4, 2) := dk_54 4 (dk_at dksX6_goesOn_0 1 rfl rfl)
theorem dX6_goesOn_3 : decode cX6_goesOn 3 = .ok (.iload 4, 2) := dk_21 4 (dk_at dksX6_goesOn_0 3 rfl rfl)
theorem dX6_goesOn_5 : decode cX6_goesOn 5 = .ok (.aload_n 0, 1) := dk_42 (dk_at dksX6_goesOn_0 5 rfl rfl)
theorem dX6_goesOn_6 : decode cX6_goesOn 6 = .ok (.getfield 15, 3) := dk_180 0 15 (dk_at dksX6_goesOn_0 6 rfl rfl)
theorem dX6_goesOn_9 : decode cX6_goesOn 9 = .ok (.arraylength, 1) := dk_190 (dk_at dksX6_goesOn_0 9 rfl rfl)
theorem dX6_goesOn_10 : decode cX6_goesOn 10 = .ok (.if_icmp .ge 17, 3) := dk_162 0 17 (dk_at dksX6_goesOn_0 10 rfl rfl)
theorem dX6_goesOn_13 : decode cX6_goesOn 13 = .ok (.aload_n 0, 1) := dk_42 (dk_at dksX6_goesOn_0 13 rfl rfl)
theorem dX6_goesOn_14 : decode cX6_goesOn 14 = .ok (.getfield 15, 3) := dk_180 0 15 (dk_at dksX6_goesOn_0 14 rfl rfl)
theorem dX6_goesOn_17 : decode cX6_goesOn 17 = .ok (.iload 4, 2) := dk_21 4 (dk_at dksX6_goesOn_0 17 rfl rfl)
theorem dX6_goesOn_19 : decode cX6_goesOn 19 = .ok (.iconst (-1), 1) := dk_2 (dk_at dksX6_goesOn_0 19 rfl rfl)
theorem dX6_goesOn_20 : decode cX6_goesOn 20 = .ok (.iastore, 1) := dk_79 (dk_at dksX6_goesOn_0 20 rfl rfl)
theorem dX6_goesOn_21 : decode cX6_goesOn 21 = .ok (.iinc 4 1, 3) := dk_132 4 1 (dk_at dksX6_goesOn_0 21 rfl rfl)
theorem dX6_goesOn_24 : decode cX6_goesOn 24 = .ok (.goto (-21), 3) := dk_167 255 235 (dk_at dksX6_goesOn_1 0 rfl rfl)
theorem dX6_goesOn_27 : decode cX6_goesOn 27 = .ok (.iconst 0, 1) := dk_3 (dk_at dksX6_goesOn_1 3 rfl rfl)
theorem dX6_goesOn_28 : decode cX6_goesOn 28 = .ok (.istore 4, 2) := dk_54 4 (dk_at dksX6_goesOn_1 4 rfl rfl)
theorem dX6_goesOn_30 : decode cX6_goesOn 30 = .ok (.iconst 0, 1) := dk_3 (dk_at dksX6_goesOn_1 6 rfl rfl)
theorem dX6_goesOn_31 : decode cX6_goesOn 31 = .ok (.istore 5, 2) := dk_54 5 (dk_at dksX6_goesOn_1 7 rfl rfl)
theorem dX6_goesOn_33 : decode cX6_goesOn 33 = .ok (.iconst 0, 1) := dk_3 (dk_at dksX6_goesOn_1 9 rfl rfl)
theorem dX6_goesOn_34 : decode cX6_goesOn 34 = .ok (.istore 6, 2) := dk_54 6 (dk_at dksX6_goesOn_1 10 rfl rfl)
theorem dX6_goesOn_36 : decode cX6_goesOn 36 = .ok (.iload_n 3, 1) := dk_29 (dk_at dksX6_goesOn_1 12 rfl rfl)
theorem dX6_goesOn_37 : decode cX6_goesOn 37 = .ok (.istore 7, 2) := dk_54 7 (dk_at dksX6_goesOn_1 13 rfl rfl)
theorem dX6_goesOn_39 : decode cX6_goesOn 39 = .ok (.aload_n 0, 1) := dk_42 (dk_at dksX6_goesOn_1 15 rfl rfl)
theorem dX6_goesOn_40 : decode cX6_goesOn 40 = .ok (.iconst 0, 1) := dk_3 (dk_at dksX6_goesOn_1 16 rfl rfl)
theorem dX6_goesOn_41 : decode cX6_goesOn 41 = .ok (.putfield 22, 3) := dk_181 0 22 (dk_at dksX6_goesOn_1 17 rfl rfl)
theorem dX6_goesOn_44 : decode cX6_goesOn 44 = .ok (.bipush 6, 2) := dk_16 6 (dk_at dksX6_goesOn_1 20 rfl rfl)
theorem dX6_goesOn_46 : decode cX6_goesOn 46 = .ok (.iload 4, 2) := dk_21 4 (dk_at dksX6_goesOn_1 22 rfl rfl)
theorem dX6_goesOn_48 : decode cX6_goesOn 48 = .ok (.imul, 1) := dk_104 (dk_at dksX6_goesOn_2 0 rfl rfl)
theorem dX6_goesOn_49 : decode cX6_goesOn 49 = .ok (.iload 5, 2) := dk_21 5 (dk_at dksX6_goesOn_2 1 rfl rfl)
theorem dX6_goesOn_51 : decode cX6_goesOn 51 = .ok (.iadd, 1) := dk_96 (dk_at dksX6_goesOn_2 3 rfl rfl)
theorem dX6_goesOn_52 : decode cX6_goesOn 52 = .ok (.iconst 2, 1) := dk_5 (dk_at dksX6_goesOn_2 4 rfl rfl)
theorem dX6_goesOn_53 : decode cX6_goesOn 53 = .ok (.imul, 1) := dk_104 (dk_at dksX6_goesOn_2 5 rfl rfl)
theorem dX6_goesOn_54 : decode cX6_goesOn 54 = .ok (.iload 6, 2) := dk_21 6 (dk_at dksX6_goesOn_2 6 rfl rfl)
theorem dX6_goesOn_56 : decode cX6_goesOn 56 = .ok (.iadd, 1) := dk_96 (dk_at dksX6_goesOn_2 8 rfl rfl)
theorem dX6_goesOn_57 : decode cX6_goesOn 57 = .ok (.bipush 6, 2) := dk_16 6 (dk_at dksX6_goesOn_2 9 rfl rfl)
theorem dX6_goesOn_59 : decode cX6_goesOn 59 = .ok (.imul, 1) := dk_104 (dk_at dksX6_goesOn_2 11 rfl rfl)
theorem dX6_goesOn_60 : decode cX6_goesOn 60 = .ok (.iload 7, 2) := dk_21 7 (dk_at dksX6_goesOn_2 12 rfl rfl)
theorem dX6_goesOn_62 : decode cX6_goesOn 62 = .ok (.iadd, 1) := dk_96 (dk_at dksX6_goesOn_2 14 rfl rfl)
theorem dX6_goesOn_63 : decode cX6_goesOn 63 = .ok (.istore 8, 2) := dk_54 8 (dk_at dksX6_goesOn_2 15 rfl rfl)
theorem dX6_goesOn_65 : decode cX6_goesOn 65 = .ok (.aload_n 0, 1) := dk_42 (dk_at dksX6_goesOn_2 17 rfl rfl)
theorem dX6_goesOn_66 : decode cX6_goesOn 66 = .ok (.getfield 15, 3) := dk_180 0 15 (dk_at dksX6_goesOn_2 18 rfl rfl)
theorem dX6_goesOn_69 : decode cX6_goesOn 69 = .ok (.iload 8, 2) := dk_21 8 (dk_at dksX6_goesOn_2 21 rfl rfl)
theorem dX6_goesOn_71 : decode cX6_goesOn 71 = .ok (.iaload, 1) := dk_46 (dk_at dksX6_goesOn_2 23 rfl rfl)
theorem dX6_goesOn_72 : decode cX6_goesOn 72 = .ok (.iconst (-1), 1) := dk_2 (dk_at dksX6_goesOn_3 0 rfl rfl)
theorem dX6_goesOn_73 : decode cX6_goesOn 73 = .ok (.if_icmp .eq 32, 3) := dk_159 0 32 (dk_at dksX6_goesOn_3 1 rfl rfl)
theorem dX6_goesOn_76 : decode cX6_goesOn 76 = .ok (.aload_n 0, 1) := dk_42 (dk_at dksX6_goesOn_3 4 rfl rfl)
theorem dX6_goesOn_77 : decode cX6_goesOn 77 = .ok (.aload_n 0, 1) := dk_42 (dk_at dksX6_goesOn_3 5 rfl rfl)
theorem dX6_goesOn_78 : decode cX6_goesOn 78 = .ok (.getfield 15, 3) := dk_180 0 15 (dk_at dksX6_goesOn_3 6 rfl rfl)
theorem dX6_goesOn_81 : decode cX6_goesOn 81 = .ok (.iload 8, 2) := dk_21 8 (dk_at dksX6_goesOn_3 9 rfl rfl)
theorem dX6_goesOn_83 : decode cX6_goesOn 83 = .ok (.iaload, 1) := dk_46 (dk_at dksX6_goesOn_3 11 rfl rfl)
theorem dX6_goesOn_84 : decode cX6_goesOn 84 = .ok (.putfield 26, 3) := dk_181 0 26 (dk_at dksX6_goesOn_3 12 rfl rfl)
theorem dX6_goesOn_87 : decode cX6_goesOn 87 = .ok (.aload_n 0, 1) := dk_42 (dk_at dksX6_goesOn_3 15 rfl rfl)
theorem dX6_goesOn_88 : decode cX6_goesOn 88 = .ok (.aload_n 0, 1) := dk_42 (dk_at dksX6_goesOn_3 16 rfl rfl)
theorem dX6_goesOn_89 : decode cX6_goesOn 89 = .ok (.getfield 22, 3) := dk_180 0 22 (dk_at dksX6_goesOn_3 17 rfl rfl)
theorem dX6_goesOn_92 : decode cX6_goesOn 92 = .ok (.aload_n 0, 1) := dk_42 (dk_at dksX6_goesOn_3 20 rfl rfl)
theorem dX6_goesOn_93 : decode cX6_goesOn 93 = .ok (.getfield 15, 3) := dk_180 0 15 (dk_at dksX6_goesOn_3 21 rfl rfl)
theorem dX6_goesOn_96 : decode cX6_goesOn 96 = .ok (.iload 8, 2) := dk_21 8 (dk_at dksX6_goesOn_4 0 rfl rfl)
theorem dX6_goesOn_98 : decode cX6_goesOn 98 = .ok (.iaload, 1) := dk_46 (dk_at dksX6_goesOn_4 2 rfl rfl)
theorem dX6_goesOn_99 : decode cX6_goesOn 99 = .ok (.isub, 1) := dk_100 (dk_at dksX6_goesOn_4 3 rfl rfl)
theorem dX6_goesOn_100 : decode cX6_goesOn 100 = .ok (.putfield 29, 3) := dk_181 0 29 (dk_at dksX6_goesOn_4 4 rfl rfl)
theorem dX6_goesOn_103 : decode cX6_goesOn 103 = .ok (.iconst 1, 1) := dk_4 (dk_at dksX6_goesOn_4 7 rfl rfl)
theorem dX6_goesOn_104 : decode cX6_goesOn 104 = .ok (.ireturn, 1) := dk_172 (dk_at dksX6_goesOn_4 8 rfl rfl)
theorem dX6_goesOn_105 : decode cX6_goesOn 105 = .ok (.aload_n 0, 1) := dk_42 (dk_at dksX6_goesOn_4 9 rfl rfl)
theorem dX6_goesOn_106 : decode cX6_goesOn 106 = .ok (.getfield 15, 3) := dk_180 0 15 (dk_at dksX6_goesOn_4 10 rfl rfl)
theorem dX6_goesOn_109 : decode cX6_goesOn 109 = .ok (.iload 8, 2) := dk_21 8 (dk_at dksX6_goesOn_4 13 rfl rfl)
theorem dX6_goesOn_111 : decode cX6_goesOn 111 = .ok (.aload_n 0, 1) := dk_42 (dk_at dksX6_goesOn_4 15 rfl rfl)
theorem dX6_goesOn_112 : decode cX6_goesOn 112 = .ok (.getfield 22, 3) := dk_180 0 22 (dk_at dksX6_goesOn_4 16 rfl rfl)
theorem dX6_goesOn_115 : decode cX6_goesOn 115 = .ok (.iastore, 1) := dk_79 (dk_at dksX6_goesOn_4 19 rfl rfl)
theorem dX6_goesOn_116 : decode cX6_goesOn 116 = .ok (.iload 6, 2) := dk_21 6 (dk_at dksX6_goesOn_4 20 rfl rfl)
theorem dX6_goesOn_118 : decode cX6_goesOn 118 = .ok (.ifCond .ne 7, 3) := dk_154 0 7 (dk_at dksX6_goesOn_5 0 rfl rfl)
theorem dX6_goesOn_121 : decode cX6_goesOn 121 = .ok (.aload_n 1, 1) := dk_43 (dk_at dksX6_goesOn_5 3 rfl rfl)
theorem dX6_goesOn_122 : decode cX6_goesOn 122 = .ok (.goto 4, 3) := dk_167 0 4 (dk_at dksX6_goesOn_5 4 rfl rfl)
theorem dX6_goesOn_125 : decode cX6_goesOn 125 = .ok (.aload_n 2, 1) := dk_44 (dk_at dksX6_goesOn_5 7 rfl rfl)
theorem dX6_goesOn_126 : decode cX6_goesOn 126 = .ok (.astore 9, 2) := dk_58 9 (dk_at dksX6_goesOn_5 8 rfl rfl)
theorem dX6_goesOn_128 : decode cX6_goesOn 128 = .ok (.bipush 6, 2) := dk_16 6 (dk_at dksX6_goesOn_5 10 rfl rfl)
theorem dX6_goesOn_130 : decode cX6_goesOn 130 = .ok (.iload 6, 2) := dk_21 6 (dk_at dksX6_goesOn_5 12 rfl rfl)
theorem dX6_goesOn_132 : decode cX6_goesOn 132 = .ok (.ifCond .ne 8, 3) := dk_154 0 8 (dk_at dksX6_goesOn_5 14 rfl rfl)
theorem dX6_goesOn_135 : decode cX6_goesOn 135 = .ok (.iload 4, 2) := dk_21 4 (dk_at dksX6_goesOn_5 17 rfl rfl)
theorem dX6_goesOn_137 : decode cX6_goesOn 137 = .ok (.goto 5, 3) := dk_167 0 5 (dk_at dksX6_goesOn_5 19 rfl rfl)
theorem dX6_goesOn_140 : decode cX6_goesOn 140 = .ok (.iload 5, 2) := dk_21 5 (dk_at dksX6_goesOn_5 22 rfl rfl)
theorem dX6_goesOn_142 : decode cX6_goesOn 142 = .ok (.imul, 1) := dk_104 (dk_at dksX6_goesOn_6 0 rfl rfl)
theorem dX6_goesOn_143 : decode cX6_goesOn 143 = .ok (.iload 7, 2) := dk_21 7 (dk_at dksX6_goesOn_6 1 rfl rfl)
theorem dX6_goesOn_145 : decode cX6_goesOn 145 = .ok (.iadd, 1) := dk_96 (dk_at dksX6_goesOn_6 3 rfl rfl)
theorem dX6_goesOn_146 : decode cX6_goesOn 146 = .ok (.istore 10, 2) := dk_54 10 (dk_at dksX6_goesOn_6 4 rfl rfl)
theorem dX6_goesOn_148 : decode cX6_goesOn 148 = .ok (.aload 9, 2) := dk_25 9 (dk_at dksX6_goesOn_6 6 rfl rfl)
theorem dX6_goesOn_150 : decode cX6_goesOn 150 = .ok (.iload 10, 2) := dk_21 10 (dk_at dksX6_goesOn_6 8 rfl rfl)
theorem dX6_goesOn_152 : decode cX6_goesOn 152 = .ok (.invokevirtual 32, 3) := dk_182 0 32 (dk_at dksX6_goesOn_6 10 rfl rfl)
theorem dX6_goesOn_155 : decode cX6_goesOn 155 = .ok (.ifCond .eq 26, 3) := dk_153 0 26 (dk_at dksX6_goesOn_6 13 rfl rfl)
theorem dX6_goesOn_158 : decode cX6_goesOn 158 = .ok (.aload_n 0, 1) := dk_42 (dk_at dksX6_goesOn_6 16 rfl rfl)
theorem dX6_goesOn_159 : decode cX6_goesOn 159 = .ok (.iload 10, 2) := dk_21 10 (dk_at dksX6_goesOn_6 17 rfl rfl)
theorem dX6_goesOn_161 : decode cX6_goesOn 161 = .ok (.bipush 6, 2) := dk_16 6 (dk_at dksX6_goesOn_6 19 rfl rfl)
theorem dX6_goesOn_163 : decode cX6_goesOn 163 = .ok (.idiv, 1) := dk_108 (dk_at dksX6_goesOn_6 21 rfl rfl)
theorem dX6_goesOn_164 : decode cX6_goesOn 164 = .ok (.putfield 38, 3) := dk_181 0 38 (dk_at dksX6_goesOn_7 0 rfl rfl)
theorem dX6_goesOn_167 : decode cX6_goesOn 167 = .ok (.aload_n 0, 1) := dk_42 (dk_at dksX6_goesOn_7 3 rfl rfl)
theorem dX6_goesOn_168 : decode cX6_goesOn 168 = .ok (.iload 7, 2) := dk_21 7 (dk_at dksX6_goesOn_7 4 rfl rfl)
theorem dX6_goesOn_170 : decode cX6_goesOn 170 = .ok (.putfield 41, 3) := dk_181 0 41 (dk_at dksX6_goesOn_7 6 rfl rfl)
theorem dX6_goesOn_173 : decode cX6_goesOn 173 = .ok (.aload_n 0, 1) := dk_42 (dk_at dksX6_goesOn_7 9 rfl rfl)
theorem dX6_goesOn_174 : decode cX6_goesOn 174 = .ok (.iload 6, 2) := dk_21 6 (dk_at dksX6_goesOn_7 10 rfl rfl)
theorem dX6_goesOn_176 : decode cX6_goesOn 176 = .ok (.putfield 44, 3) := dk_181 0 44 (dk_at dksX6_goesOn_7 12 rfl rfl)
theorem dX6_goesOn_179 : decode cX6_goesOn 179 = .ok (.iconst 0, 1) := dk_3 (dk_at dksX6_goesOn_7 15 rfl rfl)
theorem dX6_goesOn_180 : decode cX6_goesOn 180 = .ok (.ireturn, 1) := dk_172 (dk_at dksX6_goesOn_7 16 rfl rfl)
theorem dX6_goesOn_181 : decode cX6_goesOn 181 = .ok (.aload_n 0, 1) := dk_42 (dk_at dksX6_goesOn_7 17 rfl rfl)
theorem dX6_goesOn_182 : decode cX6_goesOn 182 = .ok (.getfield 19, 3) := dk_180 0 19 (dk_at dksX6_goesOn_7 18 rfl rfl)
theorem dX6_goesOn_185 : decode cX6_goesOn 185 = .ok (.aload_n 0, 1) := dk_42 (dk_at dksX6_goesOn_7 21 rfl rfl)
theorem dX6_goesOn_186 : decode cX6_goesOn 186 = .ok (.getfield 22, 3) := dk_180 0 22 (dk_at dksX6_goesOn_8 0 rfl rfl)
theorem dX6_goesOn_189 : decode cX6_goesOn 189 = .ok (.aload 9, 2) := dk_25 9 (dk_at dksX6_goesOn_8 3 rfl rfl)
theorem dX6_goesOn_191 : decode cX6_goesOn 191 = .ok (.getfield 47, 3) := dk_180 0 47 (dk_at dksX6_goesOn_8 5 rfl rfl)
theorem dX6_goesOn_194 : decode cX6_goesOn 194 = .ok (.iload 10, 2) := dk_21 10 (dk_at dksX6_goesOn_8 8 rfl rfl)
theorem dX6_goesOn_196 : decode cX6_goesOn 196 = .ok (.iaload, 1) := dk_46 (dk_at dksX6_goesOn_8 10 rfl rfl)
theorem dX6_goesOn_197 : decode cX6_goesOn 197 = .ok (.iastore, 1) := dk_79 (dk_at dksX6_goesOn_8 11 rfl rfl)
theorem dX6_goesOn_198 : decode cX6_goesOn 198 = .ok (.aload_n 0, 1) := dk_42 (dk_at dksX6_goesOn_8 12 rfl rfl)
theorem dX6_goesOn_199 : decode cX6_goesOn 199 = .ok (.dup, 1) := dk_89 (dk_at dksX6_goesOn_8 13 rfl rfl)
theorem dX6_goesOn_200 : decode cX6_goesOn 200 = .ok (.getfield 22, 3) := dk_180 0 22 (dk_at dksX6_goesOn_8 14 rfl rfl)
theorem dX6_goesOn_203 : decode cX6_goesOn 203 = .ok (.iconst 1, 1) := dk_4 (dk_at dksX6_goesOn_8 17 rfl rfl)
theorem dX6_goesOn_204 : decode cX6_goesOn 204 = .ok (.iadd, 1) := dk_96 (dk_at dksX6_goesOn_8 18 rfl rfl)
theorem dX6_goesOn_205 : decode cX6_goesOn 205 = .ok (.putfield 22, 3) := dk_181 0 22 (dk_at dksX6_goesOn_8 19 rfl rfl)
theorem dX6_goesOn_208 : decode cX6_goesOn 208 = .ok (.iload 6, 2) := dk_21 6 (dk_at dksX6_goesOn_8 22 rfl rfl)
theorem dX6_goesOn_210 : decode cX6_goesOn 210 = .ok (.ifCond .ne 16, 3) := dk_154 0 16 (dk_at dksX6_goesOn_9 0 rfl rfl)
theorem dX6_goesOn_213 : decode cX6_goesOn 213 = .ok (.aload 9, 2) := dk_25 9 (dk_at dksX6_goesOn_9 3 rfl rfl)
theorem dX6_goesOn_215 : decode cX6_goesOn 215 = .ok (.getfield 49, 3) := dk_180 0 49 (dk_at dksX6_goesOn_9 5 rfl rfl)
theorem dX6_goesOn_218 : decode cX6_goesOn 218 = .ok (.iload 10, 2) := dk_21 10 (dk_at dksX6_goesOn_9 8 rfl rfl)
theorem dX6_goesOn_220 : decode cX6_goesOn 220 = .ok (.iaload, 1) := dk_46 (dk_at dksX6_goesOn_9 10 rfl rfl)
theorem dX6_goesOn_221 : decode cX6_goesOn 221 = .ok (.istore 4, 2) := dk_54 4 (dk_at dksX6_goesOn_9 11 rfl rfl)
theorem dX6_goesOn_223 : decode cX6_goesOn 223 = .ok (.goto 13, 3) := dk_167 0 13 (dk_at dksX6_goesOn_9 13 rfl rfl)
theorem dX6_goesOn_226 : decode cX6_goesOn 226 = .ok (.aload 9, 2) := dk_25 9 (dk_at dksX6_goesOn_9 16 rfl rfl)
theorem dX6_goesOn_228 : decode cX6_goesOn 228 = .ok (.getfield 49, 3) := dk_180 0 49 (dk_at dksX6_goesOn_9 18 rfl rfl)
theorem dX6_goesOn_231 : decode cX6_goesOn 231 = .ok (.iload 10, 2) := dk_21 10 (dk_at dksX6_goesOn_9 21 rfl rfl)
theorem dX6_goesOn_233 : decode cX6_goesOn 233 = .ok (.iaload, 1) := dk_46 (dk_at dksX6_goesOn_9 23 rfl rfl)
theorem dX6_goesOn_234 : decode cX6_goesOn 234 = .ok (.istore 5, 2) := dk_54 5 (dk_at dksX6_goesOn_10 0 rfl rfl)
theorem dX6_goesOn_236 : decode cX6_goesOn 236 = .ok (.iconst 1, 1) := dk_4 (dk_at dksX6_goesOn_10 2 rfl rfl)
theorem dX6_goesOn_237 : decode cX6_goesOn 237 = .ok (.iload 6, 2) := dk_21 6 (dk_at dksX6_goesOn_10 3 rfl rfl)
theorem dX6_goesOn_239 : decode cX6_goesOn 239 = .ok (.isub, 1) := dk_100 (dk_at dksX6_goesOn_10 5 rfl rfl)
theorem dX6_goesOn_240 : decode cX6_goesOn 240 = .ok (.istore 6, 2) := dk_54 6 (dk_at dksX6_goesOn_10 6 rfl rfl)
theorem dX6_goesOn_242 : decode cX6_goesOn 242 = .ok (.aload 9, 2) := dk_25 9 (dk_at dksX6_goesOn_10 8 rfl rfl)
theorem dX6_goesOn_244 : decode cX6_goesOn 244 = .ok (.getfield 47, 3) := dk_180 0 47 (dk_at dksX6_goesOn_10 10 rfl rfl)
theorem dX6_goesOn_247 : decode cX6_goesOn 247 = .ok (.iload 10, 2) := dk_21 10 (dk_at dksX6_goesOn_10 13 rfl rfl)
theorem dX6_goesOn_249 : decode cX6_goesOn 249 = .ok (.iaload, 1) := dk_46 (dk_at dksX6_goesOn_10 15 rfl rfl)
theorem dX6_goesOn_250 : decode cX6_goesOn 250 = .ok (.bipush 6, 2) := dk_16 6 (dk_at dksX6_goesOn_10 16 rfl rfl)
theorem dX6_goesOn_252 : decode cX6_goesOn 252 = .ok (.irem, 1) := dk_112 (dk_at dksX6_goesOn_10 18 rfl rfl)
theorem dX6_goesOn_253 : decode cX6_goesOn 253 = .ok (.istore 7, 2) := dk_54 7 (dk_at dksX6_goesOn_10 19 rfl rfl)
theorem dX6_goesOn_255 : decode cX6_goesOn 255 = .ok (.goto (-211), 3) := dk_167 255 45 (dk_at dksX6_goesOn_10 21 rfl rfl)
abbrev cX6_word : ByteArray := prog_23_method_3_code
def yX6_word : MethodName := ⟨RX6, "word", "(ZI)I"⟩
def dkwX6_word_2 : List UInt8 := [172]
abbrev dktX6_word_2 : List UInt8 := dkwX6_word_2 ++ []
def dkwX6_word_1 : List UInt8 := [180, 0, 19, 42, 180, 0, 26, 28, 42, 180, 0, 26, 100, 42, 180, 0, 29, 112, 96, 46, 167, 0, 4, 2]
abbrev dktX6_word_1 : List UInt8 := dkwX6_word_1 ++ dktX6_word_2
def dkwX6_word_0 : List UInt8 := [28, 42, 180, 0, 22, 162, 0, 12, 42, 180, 0, 19, 28, 46, 167, 0, 32, 27, 153, 0, 27, 42]
abbrev dktX6_word_0 : List UInt8 := dkwX6_word_0 ++ dktX6_word_1
theorem dksX6_word_0 : cX6_word.data.toList.drop 0 = dktX6_word_0 := by decide +kernel
theorem dksX6_word_1 : cX6_word.data.toList.drop 22 = dktX6_word_1 := dk_seg dksX6_word_0 22 rfl rfl
theorem dksX6_word_2 : cX6_word.data.toList.drop 46 = dktX6_word_2 := dk_seg dksX6_word_1 24 rfl rfl
theorem dX6_word_0 : decode cX6_word 0 = .ok (.iload_n 2, 1) := dk_28 (dk_at dksX6_word_0 0 rfl rfl)
theorem dX6_word_1 : decode cX6_word 1 = .ok (.aload_n 0, 1) := dk_42 (dk_at dksX6_word_0 1 rfl rfl)
theorem dX6_word_2 : decode cX6_word 2 = .ok (.getfield 22, 3) := dk_180 0 22 (dk_at dksX6_word_0 2 rfl rfl)
theorem dX6_word_5 : decode cX6_word 5 = .ok (.if_icmp .ge 12, 3) := dk_162 0 12 (dk_at dksX6_word_0 5 rfl rfl)
theorem dX6_word_8 : decode cX6_word 8 = .ok (.aload_n 0, 1) := dk_42 (dk_at dksX6_word_0 8 rfl rfl)
theorem dX6_word_9 : decode cX6_word 9 = .ok (.getfield 19, 3) := dk_180 0 19 (dk_at dksX6_word_0 9 rfl rfl)
theorem dX6_word_12 : decode cX6_word 12 = .ok (.iload_n 2, 1) := dk_28 (dk_at dksX6_word_0 12 rfl rfl)
theorem dX6_word_13 : decode cX6_word 13 = .ok (.iaload, 1) := dk_46 (dk_at dksX6_word_0 13 rfl rfl)
theorem dX6_word_14 : decode cX6_word 14 = .ok (.goto 32, 3) := dk_167 0 32 (dk_at dksX6_word_0 14 rfl rfl)
theorem dX6_word_17 : decode cX6_word 17 = .ok (.iload_n 1, 1) := dk_27 (dk_at dksX6_word_0 17 rfl rfl)
theorem dX6_word_18 : decode cX6_word 18 = .ok (.ifCond .eq 27, 3) := dk_153 0 27 (dk_at dksX6_word_0 18 rfl rfl)
theorem dX6_word_21 : decode cX6_word 21 = .ok (.aload_n 0, 1) := dk_42 (dk_at dksX6_word_0 21 rfl rfl)
theorem dX6_word_22 : decode cX6_word 22 = .ok (.getfield 19, 3) := dk_180 0 19 (dk_at dksX6_word_1 0 rfl rfl)
theorem dX6_word_25 : decode cX6_word 25 = .ok (.aload_n 0, 1) := dk_42 (dk_at dksX6_word_1 3 rfl rfl)
theorem dX6_word_26 : decode cX6_word 26 = .ok (.getfield 26, 3) := dk_180 0 26 (dk_at dksX6_word_1 4 rfl rfl)
theorem dX6_word_29 : decode cX6_word 29 = .ok (.iload_n 2, 1) := dk_28 (dk_at dksX6_word_1 7 rfl rfl)
theorem dX6_word_30 : decode cX6_word 30 = .ok (.aload_n 0, 1) := dk_42 (dk_at dksX6_word_1 8 rfl rfl)
theorem dX6_word_31 : decode cX6_word 31 = .ok (.getfield 26, 3) := dk_180 0 26 (dk_at dksX6_word_1 9 rfl rfl)
theorem dX6_word_34 : decode cX6_word 34 = .ok (.isub, 1) := dk_100 (dk_at dksX6_word_1 12 rfl rfl)
theorem dX6_word_35 : decode cX6_word 35 = .ok (.aload_n 0, 1) := dk_42 (dk_at dksX6_word_1 13 rfl rfl)
theorem dX6_word_36 : decode cX6_word 36 = .ok (.getfield 29, 3) := dk_180 0 29 (dk_at dksX6_word_1 14 rfl rfl)
theorem dX6_word_39 : decode cX6_word 39 = .ok (.irem, 1) := dk_112 (dk_at dksX6_word_1 17 rfl rfl)
theorem dX6_word_40 : decode cX6_word 40 = .ok (.iadd, 1) := dk_96 (dk_at dksX6_word_1 18 rfl rfl)
theorem dX6_word_41 : decode cX6_word 41 = .ok (.iaload, 1) := dk_46 (dk_at dksX6_word_1 19 rfl rfl)
theorem dX6_word_42 : decode cX6_word 42 = .ok (.goto 4, 3) := dk_167 0 4 (dk_at dksX6_word_1 20 rfl rfl)
theorem dX6_word_45 : decode cX6_word 45 = .ok (.iconst (-1), 1) := dk_2 (dk_at dksX6_word_1 23 rfl rfl)
theorem dX6_word_46 : decode cX6_word 46 = .ok (.ireturn, 1) := dk_172 (dk_at dksX6_word_2 0 rfl rfl)
theorem q123 : (Jvm.Cond.initialized "DeadUnderstudies$Talk") ∈ lw_all := lw_g (lw_at lw_m1 12 rfl) rfl
theorem q178 : (Jvm.Cond.fieldLinkNest "DeadUnderstudies$Talk" (47 : Nat) "DeadUnderstudies$Script" "words" "[I" "DeadUnderstudies") ∈ lw_tbl := lw_at lw_m1 67 rfl
theorem q182 : (Jvm.Cond.fieldLinkNest "DeadUnderstudies$Talk" (49 : Nat) "DeadUnderstudies$Script" "nexts" "[I" "DeadUnderstudies") ∈ lw_tbl := lw_at lw_m1 71 rfl
theorem q383 : (Jvm.Cond.instantiable "DeadUnderstudies$Talk" (9 : Nat)) ∈ lw_all := lw_g (lw_at lw_m2 32 rfl) rfl
theorem q385 : (Jvm.Cond.instanceMethod ({ cls := "DeadUnderstudies$Talk", name := "<init>", desc := "(LDeadUnderstudies;)V" } : Jvm.MethodName)) ∈ lw_all := lw_g (lw_at lw_m2 34 rfl) rfl
theorem q386 : (Jvm.Cond.code ({ cls := "DeadUnderstudies$Talk", name := "<init>", desc := "(LDeadUnderstudies;)V" } : Jvm.MethodName) prog_23_method_1_code (2 : Nat) (Option.none : Option Jvm.ClassFile.FieldType)) ∈ lw_all := lw_g (lw_at lw_m2 35 rfl) rfl
theorem q387 : (Jvm.Cond.methodLink "DeadUnderstudies$Talk" (9 : Nat) ({ cls := "java/lang/Object", name := "<init>", desc := "()V" } : Jvm.MethodName)) ∈ lw_all := lw_g (lw_at lw_m2 36 rfl) rfl
theorem q388 : (Jvm.Cond.fieldLink "DeadUnderstudies$Talk" (15 : Nat) "DeadUnderstudies$Talk" "seen" "[I") ∈ lw_all := lw_g (lw_at lw_m2 37 rfl) rfl
theorem q389 : (Jvm.Cond.fieldLink "DeadUnderstudies$Talk" (19 : Nat) "DeadUnderstudies$Talk" "said" "[I") ∈ lw_all := lw_g (lw_at lw_m2 38 rfl) rfl
theorem q390 : (Jvm.Cond.fieldLink "DeadUnderstudies$Talk" (22 : Nat) "DeadUnderstudies$Talk" "words" "I") ∈ lw_all := lw_g (lw_at lw_m2 39 rfl) rfl
theorem q392 : (Jvm.Cond.fieldLink "DeadUnderstudies$Talk" (38 : Nat) "DeadUnderstudies$Talk" "stopState" "I") ∈ lw_all := lw_g (lw_at lw_m2 41 rfl) rfl
theorem q394 : (Jvm.Cond.fieldLink "DeadUnderstudies$Talk" (41 : Nat) "DeadUnderstudies$Talk" "stopCue" "I") ∈ lw_all := lw_g (lw_at lw_m2 43 rfl) rfl
theorem q396 : (Jvm.Cond.fieldLink "DeadUnderstudies$Talk" (44 : Nat) "DeadUnderstudies$Talk" "stopTurn" "I") ∈ lw_all := lw_g (lw_at lw_m2 45 rfl) rfl
theorem q398 : (Jvm.Cond.fieldLink "DeadUnderstudies$Talk" (26 : Nat) "DeadUnderstudies$Talk" "ahead" "I") ∈ lw_all := lw_g (lw_at lw_m2 47 rfl) rfl
theorem q400 : (Jvm.Cond.fieldLink "DeadUnderstudies$Talk" (29 : Nat) "DeadUnderstudies$Talk" "round" "I") ∈ lw_all := lw_g (lw_at lw_m2 49 rfl) rfl
theorem q402 : (Jvm.Cond.fieldLink "DeadUnderstudies$Talk" (3 : Nat) "DeadUnderstudies$Talk" "this$0" "LDeadUnderstudies;") ∈ lw_all := lw_g (lw_at lw_m2 51 rfl) rfl
theorem q403 : (Jvm.Cond.laysFinal "DeadUnderstudies$Talk" "DeadUnderstudies$Talk" "seen" "[I") ∈ lw_all := lw_g (lw_at lw_m2 52 rfl) rfl
theorem q404 : (Jvm.Cond.soleField "DeadUnderstudies$Talk" "seen") ∈ lw_all := lw_g (lw_at lw_m2 53 rfl) rfl
theorem q405 : (Jvm.Cond.laysFinal "DeadUnderstudies$Talk" "DeadUnderstudies$Talk" "said" "[I") ∈ lw_all := lw_g (lw_at lw_m2 54 rfl) rfl
theorem q406 : (Jvm.Cond.soleField "DeadUnderstudies$Talk" "said") ∈ lw_all := lw_g (lw_at lw_m2 55 rfl) rfl
theorem q407 : (Jvm.Cond.lays "DeadUnderstudies$Talk" "DeadUnderstudies$Talk" "words" "I") ∈ lw_all := lw_g (lw_at lw_m2 56 rfl) rfl
theorem q408 : (Jvm.Cond.soleField "DeadUnderstudies$Talk" "words") ∈ lw_all := lw_g (lw_at lw_m2 57 rfl) rfl
theorem q409 : (Jvm.Cond.lays "DeadUnderstudies$Talk" "DeadUnderstudies$Talk" "stopState" "I") ∈ lw_all := lw_g (lw_at lw_m2 58 rfl) rfl
theorem q410 : (Jvm.Cond.soleField "DeadUnderstudies$Talk" "stopState") ∈ lw_all := lw_g (lw_at lw_m2 59 rfl) rfl
theorem q411 : (Jvm.Cond.lays "DeadUnderstudies$Talk" "DeadUnderstudies$Talk" "stopCue" "I") ∈ lw_all := lw_g (lw_at lw_m2 60 rfl) rfl
theorem q412 : (Jvm.Cond.soleField "DeadUnderstudies$Talk" "stopCue") ∈ lw_all := lw_g (lw_at lw_m2 61 rfl) rfl
theorem q413 : (Jvm.Cond.lays "DeadUnderstudies$Talk" "DeadUnderstudies$Talk" "stopTurn" "I") ∈ lw_all := lw_g (lw_at lw_m2 62 rfl) rfl
theorem q414 : (Jvm.Cond.soleField "DeadUnderstudies$Talk" "stopTurn") ∈ lw_all := lw_g (lw_at lw_m2 63 rfl) rfl
theorem q415 : (Jvm.Cond.lays "DeadUnderstudies$Talk" "DeadUnderstudies$Talk" "ahead" "I") ∈ lw_all := lw_g (lw_at lw_m2 64 rfl) rfl
theorem q416 : (Jvm.Cond.soleField "DeadUnderstudies$Talk" "ahead") ∈ lw_all := lw_g (lw_at lw_m2 65 rfl) rfl
theorem q417 : (Jvm.Cond.lays "DeadUnderstudies$Talk" "DeadUnderstudies$Talk" "round" "I") ∈ lw_all := lw_g (lw_at lw_m2 66 rfl) rfl
theorem q418 : (Jvm.Cond.soleField "DeadUnderstudies$Talk" "round") ∈ lw_all := lw_g (lw_at lw_m2 67 rfl) rfl
theorem q419 : (Jvm.Cond.laysFinal "DeadUnderstudies$Talk" "DeadUnderstudies$Talk" "this$0" "LDeadUnderstudies;") ∈ lw_all := lw_g (lw_at lw_m2 68 rfl) rfl
theorem q420 : (Jvm.Cond.soleField "DeadUnderstudies$Talk" "this$0") ∈ lw_all := lw_g (lw_at lw_m2 69 rfl) rfl
theorem q421 : (Jvm.Cond.superclass "DeadUnderstudies$Talk" "java/lang/Object") ∈ lw_all := lw_g (lw_at lw_m2 70 rfl) rfl
theorem q661 : (Jvm.Cond.selects "DeadUnderstudies$Talk" ({ cls := "java/lang/Object", name := "getClass", desc := "()Ljava/lang/Class;" } : Jvm.MethodName) ({ cls := "java/lang/Object", name := "getClass", desc := "()Ljava/lang/Class;" } : Jvm.MethodName)) ∈ lw_all := lw_g (lw_at lw_m3 70 rfl) rfl
theorem q1604 : (Jvm.Cond.instanceMethod ({ cls := "DeadUnderstudies$Talk", name := "goesOn", desc := "(LDeadUnderstudies$Script;LDeadUnderstudies$Script;I)Z" } : Jvm.MethodName)) ∈ lw_all := lw_g (lw_at lw_m7 53 rfl) rfl
theorem q1605 : (Jvm.Cond.selects "DeadUnderstudies$Talk" ({ cls := "DeadUnderstudies$Talk", name := "goesOn", desc := "(LDeadUnderstudies$Script;LDeadUnderstudies$Script;I)Z" } : Jvm.MethodName) ({ cls := "DeadUnderstudies$Talk", name := "goesOn", desc := "(LDeadUnderstudies$Script;LDeadUnderstudies$Script;I)Z" } : Jvm.MethodName)) ∈ lw_all := lw_g (lw_at lw_m7 54 rfl) rfl
theorem q1606 : (Jvm.Cond.code ({ cls := "DeadUnderstudies$Talk", name := "goesOn", desc := "(LDeadUnderstudies$Script;LDeadUnderstudies$Script;I)Z" } : Jvm.MethodName) prog_23_method_2_code (11 : Nat) (Option.some Jvm.ClassFile.FieldType.boolean)) ∈ lw_all := lw_g (lw_at lw_m7 55 rfl) rfl
theorem q1607 : (Jvm.Cond.methodLink "DeadUnderstudies$Talk" (32 : Nat) ({ cls := "DeadUnderstudies$Script", name := "isHole", desc := "(I)Z" } : Jvm.MethodName)) ∈ lw_all := lw_g (lw_at lw_m7 56 rfl) rfl
theorem q1609 : (Jvm.Cond.instanceMethod ({ cls := "DeadUnderstudies$Talk", name := "word", desc := "(ZI)I" } : Jvm.MethodName)) ∈ lw_all := lw_g (lw_at lw_m7 58 rfl) rfl
theorem q1610 : (Jvm.Cond.selects "DeadUnderstudies$Talk" ({ cls := "DeadUnderstudies$Talk", name := "word", desc := "(ZI)I" } : Jvm.MethodName) ({ cls := "DeadUnderstudies$Talk", name := "word", desc := "(ZI)I" } : Jvm.MethodName)) ∈ lw_all := lw_g (lw_at lw_m7 59 rfl) rfl
theorem q1611 : (Jvm.Cond.code ({ cls := "DeadUnderstudies$Talk", name := "word", desc := "(ZI)I" } : Jvm.MethodName) prog_23_method_3_code (3 : Nat) (Option.some Jvm.ClassFile.FieldType.int)) ∈ lw_all := lw_g (lw_at lw_m7 60 rfl) rfl
theorem q2606 : (Jvm.Cond.castable "DeadUnderstudies$Talk" "java/lang/Object") ∈ lw_tbl := lw_at lw_m11 95 rfl
theorem in_X6 : ∀ w ∈ wsX60, w ∈ lw_all := lw_in wsX60 [403, 405, 407, 409, 411, 413, 415, 417, 419] (by decide +kernel) (by decide +kernel)
/-! DeadUnderstudies$Chain -/
def RX7 : String := "DeadUnderstudies$Chain"
def TX7 : u_T := fun k => match k with
  | 0 => ("DeadUnderstudies$Chain", "can", "[Z", true)
  | 1 => ("DeadUnderstudies$Chain", "row", "[I", true)
  | 2 => ("DeadUnderstudies$Chain", "best", "[I", true)
  | 3 => ("DeadUnderstudies$Chain", "people", "I", false)
  | 4 => ("DeadUnderstudies$Chain", "last", "I", false)
  | 5 => ("DeadUnderstudies$Chain", "many", "I", false)
  | 6 => ("DeadUnderstudies$Chain", "out", "I", false)
  | _ => ("DeadUnderstudies$Chain", "this$0", "LDeadUnderstudies;", true)
def tyX7 : Nat → FieldType := fun k => match k with
  | 0 => .array .boolean
  | 1 => .array .int
  | 2 => .array .int
  | 3 => .int
  | 4 => .int
  | 5 => .int
  | 6 => .int
  | _ => .object "DeadUnderstudies"
abbrev wsX70 : List Cond := u_ws RX7 TX7 8
theorem nmX7 : ∀ a, a < 8 → ∀ b, b < 8 → a ≠ b → (TX7 a).2.1 ≠ (TX7 b).2.1 := by decide +kernel
theorem tyX7_ok : ∀ k, k < 8 → parseFieldDescriptor (TX7 k).2.2.1 = some (tyX7 k) := by decide +kernel
abbrev cX7_init : ByteArray := prog_5_method_1_code
def yX7_init : MethodName := ⟨RX7, "<init>", "(LDeadUnderstudies;)V"⟩
def dkwX7_init_1 : List UInt8 := [181, 0, 19, 42, 16, 8, 188, 10, 181, 0, 23, 177]
abbrev dktX7_init_1 : List UInt8 := dkwX7_init_1 ++ []
def dkwX7_init_0 : List UInt8 := [42, 43, 181, 0, 3, 42, 183, 0, 9, 42, 16, 64, 188, 4, 181, 0, 15, 42, 16, 8, 188, 10]
abbrev dktX7_init_0 : List UInt8 := dkwX7_init_0 ++ dktX7_init_1
theorem dksX7_init_0 : cX7_init.data.toList.drop 0 = dktX7_init_0 := by decide +kernel
theorem dksX7_init_1 : cX7_init.data.toList.drop 22 = dktX7_init_1 := dk_seg dksX7_init_0 22 rfl rfl
theorem dX7_init_0 : decode cX7_init 0 = .ok (.aload_n 0, 1) := dk_42 (dk_at dksX7_init_0 0 rfl rfl)
theorem dX7_init_1 : decode cX7_init 1 = .ok (.aload_n 1, 1) := dk_43 (dk_at dksX7_init_0 1 rfl rfl)
theorem dX7_init_2 : decode cX7_init 2 = .ok (.putfield 3, 3) := dk_181 0 3 (dk_at dksX7_init_0 2 rfl rfl)
theorem dX7_init_5 : decode cX7_init 5 = .ok (.aload_n 0, 1) := dk_42 (dk_at dksX7_init_0 5 rfl rfl)
theorem dX7_init_6 : decode cX7_init 6 = .ok (.invokespecial 9, 3) := dk_183 0 9 (dk_at dksX7_init_0 6 rfl rfl)
theorem dX7_init_9 : decode cX7_init 9 = .ok (.aload_n 0, 1) := dk_42 (dk_at dksX7_init_0 9 rfl rfl)
theorem dX7_init_10 : decode cX7_init 10 = .ok (.bipush 64, 2) := dk_16 64 (dk_at dksX7_init_0 10 rfl rfl)
theorem dX7_init_12 : decode cX7_init 12 = .ok (.newarray .boolean, 2) := dk_188_4 (dk_at dksX7_init_0 12 rfl rfl)
theorem dX7_init_14 : decode cX7_init 14 = .ok (.putfield 15, 3) := dk_181 0 15 (dk_at dksX7_init_0 14 rfl rfl)
theorem dX7_init_17 : decode cX7_init 17 = .ok (.aload_n 0, 1) := dk_42 (dk_at dksX7_init_0 17 rfl rfl)
theorem dX7_init_18 : decode cX7_init 18 = .ok (.bipush 8, 2) := dk_16 8 (dk_at dksX7_init_0 18 rfl rfl)
theorem dX7_init_20 : decode cX7_init 20 = .ok (.newarray .int, 2) := dk_188_10 (dk_at dksX7_init_0 20 rfl rfl)
theorem dX7_init_22 : decode cX7_init 22 = .ok (.putfield 19, 3) := dk_181 0 19 (dk_at dksX7_init_1 0 rfl rfl)
theorem dX7_init_25 : decode cX7_init 25 = .ok (.aload_n 0, 1) := dk_42 (dk_at dksX7_init_1 3 rfl rfl)
theorem dX7_init_26 : decode cX7_init 26 = .ok (.bipush 8, 2) := dk_16 8 (dk_at dksX7_init_1 4 rfl rfl)
theorem dX7_init_28 : decode cX7_init 28 = .ok (.newarray .int, 2) := dk_188_10 (dk_at dksX7_init_1 6 rfl rfl)
theorem dX7_init_30 : decode cX7_init 30 = .ok (.putfield 23, 3) := dk_181 0 23 (dk_at dksX7_init_1 8 rfl rfl)
theorem dX7_init_33 : decode cX7_init 33 = .ok (.return_, 1) := dk_177 (dk_at dksX7_init_1 11 rfl rfl)
abbrev cX7_lays : ByteArray := prog_5_method_2_code
def yX7_lays : MethodName := ⟨RX7, "lays", "(I)V"⟩
def dkwX7_lays_6 : List UInt8 := [161, 0, 7, 4, 167, 0, 4, 3, 84, 132, 3, 1, 167, 255, 131, 132, 2, 1, 167, 255, 115, 177]
abbrev dktX7_lays_6 : List UInt8 := dkwX7_lays_6 ++ []
def dkwX7_lays_5 : List UInt8 := [27, 28, 21, 7, 182, 0, 58, 154, 0, 24, 21, 6, 42, 180, 0, 3, 29, 27, 28, 21, 7, 182, 0, 62]
abbrev dktX7_lays_5 : List UInt8 := dkwX7_lays_5 ++ dktX7_lays_6
def dkwX7_lays_4 : List UInt8 := [180, 0, 15, 16, 8, 28, 104, 29, 96, 28, 29, 159, 0, 44, 21, 6, 158, 0, 39, 42, 180, 0, 3, 29]
abbrev dktX7_lays_4 : List UInt8 := dkwX7_lays_4 ++ dktX7_lays_5
def dkwX7_lays_3 : List UInt8 := [192, 0, 49, 58, 5, 25, 4, 25, 5, 182, 0, 51, 54, 6, 25, 4, 25, 5, 182, 0, 55, 54, 7, 42]
abbrev dktX7_lays_3 : List UInt8 := dkwX7_lays_3 ++ dktX7_lays_4
def dkwX7_lays_2 : List UInt8 := [182, 0, 45, 192, 0, 49, 58, 4, 42, 180, 0, 3, 180, 0, 26, 180, 0, 30, 29, 182, 0, 45]
abbrev dktX7_lays_2 : List UInt8 := dkwX7_lays_2 ++ dktX7_lays_3
def dkwX7_lays_1 : List UInt8 := [162, 0, 139, 3, 62, 29, 42, 180, 0, 42, 162, 0, 123, 42, 180, 0, 3, 180, 0, 26, 180, 0, 30, 28]
abbrev dktX7_lays_1 : List UInt8 := dkwX7_lays_1 ++ dktX7_lays_2
def dkwX7_lays_0 : List UInt8 := [42, 42, 180, 0, 3, 180, 0, 26, 180, 0, 30, 182, 0, 36, 181, 0, 42, 3, 61, 28, 42, 180, 0, 42]
abbrev dktX7_lays_0 : List UInt8 := dkwX7_lays_0 ++ dktX7_lays_1
theorem dksX7_lays_0 : cX7_lays.data.toList.drop 0 = dktX7_lays_0 := by decide +kernel
theorem dksX7_lays_1 : cX7_lays.data.toList.drop 24 = dktX7_lays_1 := dk_seg dksX7_lays_0 24 rfl rfl
theorem dksX7_lays_2 : cX7_lays.data.toList.drop 48 = dktX7_lays_2 := dk_seg dksX7_lays_1 24 rfl rfl
theorem dksX7_lays_3 : cX7_lays.data.toList.drop 70 = dktX7_lays_3 := dk_seg dksX7_lays_2 22 rfl rfl
theorem dksX7_lays_4 : cX7_lays.data.toList.drop 94 = dktX7_lays_4 := dk_seg dksX7_lays_3 24 rfl rfl
theorem dksX7_lays_5 : cX7_lays.data.toList.drop 118 = dktX7_lays_5 := dk_seg dksX7_lays_4 24 rfl rfl
theorem dksX7_lays_6 : cX7_lays.data.toList.drop 142 = dktX7_lays_6 := dk_seg dksX7_lays_5 24 rfl rfl
theorem dX7_lays_0 : decode cX7_lays 0 = .ok (.aload_n 0, 1) := dk_42 (dk_at dksX7_lays_0 0 rfl rfl)
theorem dX7_lays_1 : decode cX7_lays 1 = .ok (.aload_n 0, 1) := dk_42 (dk_at dksX7_lays_0 1 rfl rfl)
theorem dX7_lays_2 : decode cX7_lays 2 = .ok (.getfield 3, 3) := dk_180 0 3 (dk_at dksX7_lays_0 2 rfl rfl)
theorem dX7_lays_5 : decode cX7_lays 5 = .ok (.getfield 26, 3) := dk_180 0 26 (dk_at dksX7_lays_0 5 rfl rfl)
theorem dX7_lays_8 : decode cX7_lays 8 = .ok (.getfield 30, 3) := dk_180 0 30 (dk_at dksX7_lays_0 8 rfl rfl)
theorem dX7_lays_11 : decode cX7_lays 11 = .ok (.invokevirtual 36, 3) := dk_182 0 36 (dk_at dksX7_lays_0 11 rfl rfl)
theorem dX7_lays_14 : decode cX7_lays 14 = .ok (.putfield 42, 3) := dk_181 0 42 (dk_at dksX7_lays_0 14 rfl rfl)
theorem dX7_lays_17 : decode cX7_lays 17 = .ok (.iconst 0, 1) := dk_3 (dk_at dksX7_lays_0 17 rfl rfl)
theorem dX7_lays_18 : decode cX7_lays 18 = .ok (.istore_n 2, 1) := dk_61 (dk_at dksX7_lays_0 18 rfl rfl)
theorem dX7_lays_19 : decode cX7_lays 19 = .ok (.iload_n 2, 1) := dk_28 (dk_at dksX7_lays_0 19 rfl rfl)
theorem dX7_lays_20 : decode cX7_lays 20 = .ok (.aload_n 0, 1) := dk_42 (dk_at dksX7_lays_0 20 rfl rfl)
theorem dX7_lays_21 : decode cX7_lays 21 = .ok (.getfield 42, 3) := dk_180 0 42 (dk_at dksX7_lays_0 21 rfl rfl)
theorem dX7_lays_24 : decode cX7_lays 24 = .ok (.if_icmp .ge 139, 3) := dk_162 0 139 (dk_at dksX7_lays_1 0 rfl rfl)
theorem dX7_lays_27 : decode cX7_lays 27 = .ok (.iconst 0, 1) := dk_3 (dk_at dksX7_lays_1 3 rfl rfl)
theorem dX7_lays_28 : decode cX7_lays 28 = .ok (.istore_n 3, 1) := dk_62 (dk_at dksX7_lays_1 4 rfl rfl)
theorem dX7_lays_29 : decode cX7_lays 29 = .ok (.iload_n 3, 1) := dk_29 (dk_at dksX7_lays_1 5 rfl rfl)
theorem dX7_lays_30 : decode cX7_lays 30 = .ok (.aload_n 0, 1) := dk_42 (dk_at dksX7_lays_1 6 rfl rfl)
theorem dX7_lays_31 : decode cX7_lays 31 = .ok (.getfield 42, 3) := dk_180 0 42 (dk_at dksX7_lays_1 7 rfl rfl)
theorem dX7_lays_34 : decode cX7_lays 34 = .ok (.if_icmp .ge 123, 3) := dk_162 0 123 (dk_at dksX7_lays_1 10 rfl rfl)
theorem dX7_lays_37 : decode cX7_lays 37 = .ok (.aload_n 0, 1) := dk_42 (dk_at dksX7_lays_1 13 rfl rfl)
theorem dX7_lays_38 : decode cX7_lays 38 = .ok (.getfield 3, 3) := dk_180 0 3 (dk_at dksX7_lays_1 14 rfl rfl)
theorem dX7_lays_41 : decode cX7_lays 41 = .ok (.getfield 26, 3) := dk_180 0 26 (dk_at dksX7_lays_1 17 rfl rfl)
theorem dX7_lays_44 : decode cX7_lays 44 = .ok (.getfield 30, 3) := dk_180 0 30 (dk_at dksX7_lays_1 20 rfl rfl)
theorem dX7_lays_47 : decode cX7_lays 47 = .ok (.iload_n 2, 1) := dk_28 (dk_at dksX7_lays_1 23 rfl rfl)
theorem dX7_lays_48 : decode cX7_lays 48 = .ok (.invokevirtual 45, 3) := dk_182 0 45 (dk_at dksX7_lays_2 0 rfl rfl)
theorem dX7_lays_51 : decode cX7_lays 51 = .ok (.checkcast 49, 3) := dk_192 0 49 (dk_at dksX7_lays_2 3 rfl rfl)
theorem dX7_lays_54 : decode cX7_lays 54 = .ok (.astore 4, 2) := dk_58 4 (dk_at dksX7_lays_2 6 rfl rfl)
theorem dX7_lays_56 : decode cX7_lays 56 = .ok (.aload_n 0, 1) := dk_42 (dk_at dksX7_lays_2 8 rfl rfl)
theorem dX7_lays_57 : decode cX7_lays 57 = .ok (.getfield 3, 3) := dk_180 0 3 (dk_at dksX7_lays_2 9 rfl rfl)
theorem dX7_lays_60 : decode cX7_lays 60 = .ok (.getfield 26, 3) := dk_180 0 26 (dk_at dksX7_lays_2 12 rfl rfl)
theorem dX7_lays_63 : decode cX7_lays 63 = .ok (.getfield 30, 3) := dk_180 0 30 (dk_at dksX7_lays_2 15 rfl rfl)
theorem dX7_lays_66 : decode cX7_lays 66 = .ok (.iload_n 3, 1) := dk_29 (dk_at dksX7_lays_2 18 rfl rfl)
theorem dX7_lays_67 : decode cX7_lays 67 = .ok (.invokevirtual 45, 3) := dk_182 0 45 (dk_at dksX7_lays_2 19 rfl rfl)
theorem dX7_lays_70 : decode cX7_lays 70 = .ok (.checkcast 49, 3) := dk_192 0 49 (dk_at dksX7_lays_3 0 rfl rfl)
theorem dX7_lays_73 : decode cX7_lays 73 = .ok (.astore 5, 2) := dk_58 5 (dk_at dksX7_lays_3 3 rfl rfl)
theorem dX7_lays_75 : decode cX7_lays 75 = .ok (.aload 4, 2) := dk_25 4 (dk_at dksX7_lays_3 5 rfl rfl)
theorem dX7_lays_77 : decode cX7_lays 77 = .ok (.aload 5, 2) := dk_25 5 (dk_at dksX7_lays_3 7 rfl rfl)
theorem dX7_lays_79 : decode cX7_lays 79 = .ok (.invokevirtual 51, 3) := dk_182 0 51 (dk_at dksX7_lays_3 9 rfl rfl)
theorem dX7_lays_82 : decode cX7_lays 82 = .ok (.istore 6, 2) := dk_54 6 (dk_at dksX7_lays_3 12 rfl rfl)
theorem dX7_lays_84 : decode cX7_lays 84 = .ok (.aload 4, 2) := dk_25 4 (dk_at dksX7_lays_3 14 rfl rfl)
theorem dX7_lays_86 : decode cX7_lays 86 = .ok (.aload 5, 2) := dk_25 5 (dk_at dksX7_lays_3 16 rfl rfl)
theorem dX7_lays_88 : decode cX7_lays 88 = .ok (.invokevirtual 55, 3) := dk_182 0 55 (dk_at dksX7_lays_3 18 rfl rfl)
theorem dX7_lays_91 : decode cX7_lays 91 = .ok (.istore 7, 2) := dk_54 7 (dk_at dksX7_lays_3 21 rfl rfl)
theorem dX7_lays_93 : decode cX7_lays 93 = .ok (.aload_n 0, 1) := dk_42 (dk_at dksX7_lays_3 23 rfl rfl)
theorem dX7_lays_94 : decode cX7_lays 94 = .ok (.getfield 15, 3) := dk_180 0 15 (dk_at dksX7_lays_4 0 rfl rfl)
theorem dX7_lays_97 : decode cX7_lays 97 = .ok (.bipush 8, 2) := dk_16 8 (dk_at dksX7_lays_4 3 rfl rfl)
theorem dX7_lays_99 : decode cX7_lays 99 = .ok (.iload_n 2, 1) := dk_28 (dk_at dksX7_lays_4 5 rfl rfl)
theorem dX7_lays_100 : decode cX7_lays 100 = .ok (.imul, 1) := dk_104 (dk_at dksX7_lays_4 6 rfl rfl)
theorem dX7_lays_101 : decode cX7_lays 101 = .ok (.iload_n 3, 1) := dk_29 (dk_at dksX7_lays_4 7 rfl rfl)
theorem dX7_lays_102 : decode cX7_lays 102 = .ok (.iadd, 1) := dk_96 (dk_at dksX7_lays_4 8 rfl rfl)
theorem dX7_lays_103 : decode cX7_lays 103 = .ok (.iload_n 2, 1) := dk_28 (dk_at dksX7_lays_4 9 rfl rfl)
theorem dX7_lays_104 : decode cX7_lays 104 = .ok (.iload_n 3, 1) := dk_29 (dk_at dksX7_lays_4 10 rfl rfl)
theorem dX7_lays_105 : decode cX7_lays 105 = .ok (.if_icmp .eq 44, 3) := dk_159 0 44 (dk_at dksX7_lays_4 11 rfl rfl)
theorem dX7_lays_108 : decode cX7_lays 108 = .ok (.iload 6, 2) := dk_21 6 (dk_at dksX7_lays_4 14 rfl rfl)
theorem dX7_lays_110 : decode cX7_lays 110 = .ok (.ifCond .le 39, 3) := dk_158 0 39 (dk_at dksX7_lays_4 16 rfl rfl)
theorem dX7_lays_113 : decode cX7_lays 113 = .ok (.aload_n 0, 1) := dk_42 (dk_at dksX7_lays_4 19 rfl rfl)
theorem dX7_lays_114 : decode cX7_lays 114 = .ok (.getfield 3, 3) := dk_180 0 3 (dk_at dksX7_lays_4 20 rfl rfl)
theorem dX7_lays_117 : decode cX7_lays 117 = .ok (.iload_n 3, 1) := dk_29 (dk_at dksX7_lays_4 23 rfl rfl)
theorem dX7_lays_118 : decode cX7_lays 118 = .ok (.iload_n 1, 1) := dk_27 (dk_at dksX7_lays_5 0 rfl rfl)
theorem dX7_lays_119 : decode cX7_lays 119 = .ok (.iload_n 2, 1) := dk_28 (dk_at dksX7_lays_5 1 rfl rfl)
theorem dX7_lays_120 : decode cX7_lays 120 = .ok (.iload 7, 2) := dk_21 7 (dk_at dksX7_lays_5 2 rfl rfl)
theorem dX7_lays_122 : decode cX7_lays 122 = .ok (.invokevirtual 58, 3) := dk_182 0 58 (dk_at dksX7_lays_5 4 rfl rfl)
theorem dX7_lays_125 : decode cX7_lays 125 = .ok (.ifCond .ne 24, 3) := dk_154 0 24 (dk_at dksX7_lays_5 7 rfl rfl)
theorem dX7_lays_128 : decode cX7_lays 128 = .ok (.iload 6, 2) := dk_21 6 (dk_at dksX7_lays_5 10 rfl rfl)
theorem dX7_lays_130 : decode cX7_lays 130 = .ok (.aload_n 0, 1) := dk_42 (dk_at dksX7_lays_5 12 rfl rfl)
theorem dX7_lays_131 : decode cX7_lays 131 = .ok (.getfield 3, 3) := dk_180 0 3 (dk_at dksX7_lays_5 13 rfl rfl)
theorem dX7_lays_134 : decode cX7_lays 134 = .ok (.iload_n 3, 1) := dk_29 (dk_at dksX7_lays_5 16 rfl rfl)
theorem dX7_lays_135 : decode cX7_lays 135 = .ok (.iload_n 1, 1) := dk_27 (dk_at dksX7_lays_5 17 rfl rfl)
theorem dX7_lays_136 : decode cX7_lays 136 = .ok (.iload_n 2, 1) := dk_28 (dk_at dksX7_lays_5 18 rfl rfl)
theorem dX7_lays_137 : decode cX7_lays 137 = .ok (.iload 7, 2) := dk_21 7 (dk_at dksX7_lays_5 19 rfl rfl)
theorem dX7_lays_139 : decode cX7_lays 139 = .ok (.invokevirtual 62, 3) := dk_182 0 62 (dk_at dksX7_lays_5 21 rfl rfl)
theorem dX7_lays_142 : decode cX7_lays 142 = .ok (.if_icmp .lt 7, 3) := dk_161 0 7 (dk_at dksX7_lays_6 0 rfl rfl)
theorem dX7_lays_145 : decode cX7_lays 145 = .ok (.iconst 1, 1) := dk_4 (dk_at dksX7_lays_6 3 rfl rfl)
theorem dX7_lays_146 : decode cX7_lays 146 = .ok (.goto 4, 3) := dk_167 0 4 (dk_at dksX7_lays_6 4 rfl rfl)
theorem dX7_lays_149 : decode cX7_lays 149 = .ok (.iconst 0, 1) := dk_3 (dk_at dksX7_lays_6 7 rfl rfl)
theorem dX7_lays_150 : decode cX7_lays 150 = .ok (.bastore, 1) := dk_84 (dk_at dksX7_lays_6 8 rfl rfl)
theorem dX7_lays_151 : decode cX7_lays 151 = .ok (.iinc 3 1, 3) := dk_132 3 1 (dk_at dksX7_lays_6 9 rfl rfl)
theorem dX7_lays_154 : decode cX7_lays 154 = .ok (.goto (-125), 3) := dk_167 255 131 (dk_at dksX7_lays_6 12 rfl rfl)
theorem dX7_lays_157 : decode cX7_lays 157 = .ok (.iinc 2 1, 3) := dk_132 2 1 (dk_at dksX7_lays_6 15 rfl rfl)
theorem dX7_lays_160 : decode cX7_lays 160 = .ok (.goto (-141), 3) := dk_167 255 115 (dk_at dksX7_lays_6 18 rfl rfl)
theorem dX7_lays_163 : decode cX7_lays 163 = .ok (.return_, 1) := dk_177 (dk_at dksX7_lays_6 21 rfl rfl)
abbrev cX7_finds : ByteArray := prog_5_method_3_code
def yX7_finds : MethodName := ⟨RX7, "finds", "(II)V"⟩
def dkwX7_finds_1 : List UInt8 := [182, 0, 72, 177]
abbrev dktX7_finds_1 : List UInt8 := dkwX7_finds_1 ++ []
def dkwX7_finds_0 : List UInt8 := [42, 28, 181, 0, 66, 42, 2, 181, 0, 69, 42, 180, 0, 19, 3, 27, 79, 42, 4, 4, 27, 120]
abbrev dktX7_finds_0 : List UInt8 := dkwX7_finds_0 ++ dktX7_finds_1
theorem dksX7_finds_0 : cX7_finds.data.toList.drop 0 = dktX7_finds_0 := by decide +kernel
theorem dksX7_finds_1 : cX7_finds.data.toList.drop 22 = dktX7_finds_1 := dk_seg dksX7_finds_0 22 rfl rfl
theorem dX7_finds_0 : decode cX7_finds 0 = .ok (.aload_n 0, 1) := dk_42 (dk_at dksX7_finds_0 0 rfl rfl)
theorem dX7_finds_1 : decode cX7_finds 1 = .ok (.iload_n 2, 1) := dk_28 (dk_at dksX7_finds_0 1 rfl rfl)
theorem dX7_finds_2 : decode cX7_finds 2 = .ok (.putfield 66, 3) := dk_181 0 66 (dk_at dksX7_finds_0 2 rfl rfl)
theorem dX7_finds_5 : decode cX7_finds 5 = .ok (.aload_n 0, 1) := dk_42 (dk_at dksX7_finds_0 5 rfl rfl)
theorem dX7_finds_6 : decode cX7_finds 6 = .ok (.iconst (-1), 1) := dk_2 (dk_at dksX7_finds_0 6 rfl rfl)
theorem dX7_finds_7 : decode cX7_finds 7 = .ok (.putfield 69, 3) := dk_181 0 69 (dk_at dksX7_finds_0 7 rfl rfl)
theorem dX7_finds_10 : decode cX7_finds 10 = .ok (.aload_n 0, 1) := dk_42 (dk_at dksX7_finds_0 10 rfl rfl)
theorem dX7_finds_11 : decode cX7_finds 11 = .ok (.getfield 19, 3) := dk_180 0 19 (dk_at dksX7_finds_0 11 rfl rfl)
theorem dX7_finds_14 : decode cX7_finds 14 = .ok (.iconst 0, 1) := dk_3 (dk_at dksX7_finds_0 14 rfl rfl)
theorem dX7_finds_15 : decode cX7_finds 15 = .ok (.iload_n 1, 1) := dk_27 (dk_at dksX7_finds_0 15 rfl rfl)
theorem dX7_finds_16 : decode cX7_finds 16 = .ok (.iastore, 1) := dk_79 (dk_at dksX7_finds_0 16 rfl rfl)
theorem dX7_finds_17 : decode cX7_finds 17 = .ok (.aload_n 0, 1) := dk_42 (dk_at dksX7_finds_0 17 rfl rfl)
theorem dX7_finds_18 : decode cX7_finds 18 = .ok (.iconst 1, 1) := dk_4 (dk_at dksX7_finds_0 18 rfl rfl)
theorem dX7_finds_19 : decode cX7_finds 19 = .ok (.iconst 1, 1) := dk_4 (dk_at dksX7_finds_0 19 rfl rfl)
theorem dX7_finds_20 : decode cX7_finds 20 = .ok (.iload_n 1, 1) := dk_27 (dk_at dksX7_finds_0 20 rfl rfl)
theorem dX7_finds_21 : decode cX7_finds 21 = .ok (.ishl, 1) := dk_120 (dk_at dksX7_finds_0 21 rfl rfl)
theorem dX7_finds_22 : decode cX7_finds 22 = .ok (.invokevirtual 72, 3) := dk_182 0 72 (dk_at dksX7_finds_1 0 rfl rfl)
theorem dX7_finds_25 : decode cX7_finds 25 = .ok (.return_, 1) := dk_177 (dk_at dksX7_finds_1 3 rfl rfl)
abbrev cX7_tries : ByteArray := prog_5_method_4_code
def yX7_tries : MethodName := ⟨RX7, "tries", "(II)V"⟩
def dkwX7_tries_6 : List UInt8 := [21, 4, 79, 42, 27, 4, 96, 28, 4, 21, 4, 120, 128, 182, 0, 72, 132, 4, 1, 167, 255, 180, 177]
abbrev dktX7_tries_6 : List UInt8 := dkwX7_tries_6 ++ []
def dkwX7_tries_5 : List UInt8 := [180, 0, 19, 27, 4, 100, 46, 104, 21, 4, 96, 51, 154, 0, 6, 167, 0, 24, 42, 180, 0, 19, 27]
abbrev dktX7_tries_5 : List UInt8 := dkwX7_tries_5 ++ dktX7_tries_6
def dkwX7_tries_4 : List UInt8 := [180, 0, 66, 159, 0, 58, 28, 21, 4, 184, 0, 88, 154, 0, 49, 42, 180, 0, 15, 16, 8, 42]
abbrev dktX7_tries_4 : List UInt8 := dkwX7_tries_4 ++ dktX7_tries_5
def dkwX7_tries_3 : List UInt8 := [180, 0, 23, 3, 16, 8, 184, 0, 82, 3, 54, 4, 21, 4, 42, 180, 0, 42, 162, 0, 73, 21, 4, 42]
abbrev dktX7_tries_3 : List UInt8 := dkwX7_tries_3 ++ dktX7_tries_4
def dkwX7_tries_2 : List UInt8 := [180, 0, 79, 162, 0, 28, 42, 29, 181, 0, 69, 42, 27, 181, 0, 79, 42, 180, 0, 19, 3, 42]
abbrev dktX7_tries_2 : List UInt8 := dkwX7_tries_2 ++ dktX7_tries_3
def dkwX7_tries_1 : List UInt8 := [180, 0, 76, 4, 100, 62, 29, 42, 180, 0, 69, 163, 0, 19, 29, 42, 180, 0, 69, 160, 0, 36, 27, 42]
abbrev dktX7_tries_1 : List UInt8 := dkwX7_tries_1 ++ dktX7_tries_2
def dkwX7_tries_0 : List UInt8 := [42, 180, 0, 3, 180, 0, 26, 180, 0, 30, 42, 180, 0, 19, 27, 4, 100, 46, 182, 0, 45, 192, 0, 49]
abbrev dktX7_tries_0 : List UInt8 := dkwX7_tries_0 ++ dktX7_tries_1
theorem dksX7_tries_0 : cX7_tries.data.toList.drop 0 = dktX7_tries_0 := by decide +kernel
theorem dksX7_tries_1 : cX7_tries.data.toList.drop 24 = dktX7_tries_1 := dk_seg dksX7_tries_0 24 rfl rfl
theorem dksX7_tries_2 : cX7_tries.data.toList.drop 48 = dktX7_tries_2 := dk_seg dksX7_tries_1 24 rfl rfl
theorem dksX7_tries_3 : cX7_tries.data.toList.drop 70 = dktX7_tries_3 := dk_seg dksX7_tries_2 22 rfl rfl
theorem dksX7_tries_4 : cX7_tries.data.toList.drop 94 = dktX7_tries_4 := dk_seg dksX7_tries_3 24 rfl rfl
theorem dksX7_tries_5 : cX7_tries.data.toList.drop 116 = dktX7_tries_5 := dk_seg dksX7_tries_4 22 rfl rfl
theorem dksX7_tries_6 : cX7_tries.data.toList.drop 139 = dktX7_tries_6 := dk_seg dksX7_tries_5 23 rfl rfl
theorem dX7_tries_0 : decode cX7_tries 0 = .ok (.aload_n 0, 1) := dk_42 (dk_at dksX7_tries_0 0 rfl rfl)
theorem dX7_tries_1 : decode cX7_tries 1 = .ok (.getfield 3, 3) := dk_180 0 3 (dk_at dksX7_tries_0 1 rfl rfl)
theorem dX7_tries_4 : decode cX7_tries 4 = .ok (.getfield 26, 3) := dk_180 0 26 (dk_at dksX7_tries_0 4 rfl rfl)
theorem dX7_tries_7 : decode cX7_tries 7 = .ok (.getfield 30, 3) := dk_180 0 30 (dk_at dksX7_tries_0 7 rfl rfl)
theorem dX7_tries_10 : decode cX7_tries 10 = .ok (.aload_n 0, 1) := dk_42 (dk_at dksX7_tries_0 10 rfl rfl)
theorem dX7_tries_11 : decode cX7_tries 11 = .ok (.getfield 19, 3) := dk_180 0 19 (dk_at dksX7_tries_0 11 rfl rfl)
theorem dX7_tries_14 : decode cX7_tries 14 = .ok (.iload_n 1, 1) := dk_27 (dk_at dksX7_tries_0 14 rfl rfl)
theorem dX7_tries_15 : decode cX7_tries 15 = .ok (.iconst 1, 1) := dk_4 (dk_at dksX7_tries_0 15 rfl rfl)
theorem dX7_tries_16 : decode cX7_tries 16 = .ok (.isub, 1) := dk_100 (dk_at dksX7_tries_0 16 rfl rfl)
theorem dX7_tries_17 : decode cX7_tries 17 = .ok (.iaload, 1) := dk_46 (dk_at dksX7_tries_0 17 rfl rfl)
theorem dX7_tries_18 : decode cX7_tries 18 = .ok (.invokevirtual 45, 3) := dk_182 0 45 (dk_at dksX7_tries_0 18 rfl rfl)
theorem dX7_tries_21 : decode cX7_tries 21 = .ok (.checkcast 49, 3) := dk_192 0 49 (dk_at dksX7_tries_0 21 rfl rfl)
theorem dX7_tries_24 : decode cX7_tries 24 = .ok (.getfield 76, 3) := dk_180 0 76 (dk_at dksX7_tries_1 0 rfl rfl)
theorem dX7_tries_27 : decode cX7_tries 27 = .ok (.iconst 1, 1) := dk_4 (dk_at dksX7_tries_1 3 rfl rfl)
theorem dX7_tries_28 : decode cX7_tries 28 = .ok (.isub, 1) := dk_100 (dk_at dksX7_tries_1 4 rfl rfl)
theorem dX7_tries_29 : decode cX7_tries 29 = .ok (.istore_n 3, 1) := dk_62 (dk_at dksX7_tries_1 5 rfl rfl)
theorem dX7_tries_30 : decode cX7_tries 30 = .ok (.iload_n 3, 1) := dk_29 (dk_at dksX7_tries_1 6 rfl rfl)
theorem dX7_tries_31 : decode cX7_tries 31 = .ok (.aload_n 0, 1) := dk_42 (dk_at dksX7_tries_1 7 rfl rfl)
theorem dX7_tries_32 : decode cX7_tries 32 = .ok (.getfield 69, 3) := dk_180 0 69 (dk_at dksX7_tries_1 8 rfl rfl)
theorem dX7_tries_35 : decode cX7_tries 35 = .ok (.if_icmp .gt 19, 3) := dk_163 0 19 (dk_at dksX7_tries_1 11 rfl rfl)
theorem dX7_tries_38 : decode cX7_tries 38 = .ok (.iload_n 3, 1) := dk_29 (dk_at dksX7_tries_1 14 rfl rfl)
theorem dX7_tries_39 : decode cX7_tries 39 = .ok (.aload_n 0, 1) := dk_42 (dk_at dksX7_tries_1 15 rfl rfl)
theorem dX7_tries_40 : decode cX7_tries 40 = .ok (.getfield 69, 3) := dk_180 0 69 (dk_at dksX7_tries_1 16 rfl rfl)
theorem dX7_tries_43 : decode cX7_tries 43 = .ok (.if_icmp .ne 36, 3) := dk_160 0 36 (dk_at dksX7_tries_1 19 rfl rfl)
theorem dX7_tries_46 : decode cX7_tries 46 = .ok (.iload_n 1, 1) := dk_27 (dk_at dksX7_tries_1 22 rfl rfl)
theorem dX7_tries_47 : decode cX7_tries 47 = .ok (.aload_n 0, 1) := dk_42 (dk_at dksX7_tries_1 23 rfl rfl)
theorem dX7_tries_48 : decode cX7_tries 48 = .ok (.getfield 79, 3) := dk_180 0 79 (dk_at dksX7_tries_2 0 rfl rfl)
theorem dX7_tries_51 : decode cX7_tries 51 = .ok (.if_icmp .ge 28, 3) := dk_162 0 28 (dk_at dksX7_tries_2 3 rfl rfl)
theorem dX7_tries_54 : decode cX7_tries 54 = .ok (.aload_n 0, 1) := dk_42 (dk_at dksX7_tries_2 6 rfl rfl)
theorem dX7_tries_55 : decode cX7_tries 55 = .ok (.iload_n 3, 1) := dk_29 (dk_at dksX7_tries_2 7 rfl rfl)
theorem dX7_tries_56 : decode cX7_tries 56 = .ok (.putfield 69, 3) := dk_181 0 69 (dk_at dksX7_tries_2 8 rfl rfl)
theorem dX7_tries_59 : decode cX7_tries 59 = .ok (.aload_n 0, 1) := dk_42 (dk_at dksX7_tries_2 11 rfl rfl)
theorem dX7_tries_60 : decode cX7_tries 60 = .ok (.iload_n 1, 1) := dk_27 (dk_at dksX7_tries_2 12 rfl rfl)
theorem dX7_tries_61 : decode cX7_tries 61 = .ok (.putfield 79, 3) := dk_181 0 79 (dk_at dksX7_tries_2 13 rfl rfl)
theorem dX7_tries_64 : decode cX7_tries 64 = .ok (.aload_n 0, 1) := dk_42 (dk_at dksX7_tries_2 16 rfl rfl)
theorem dX7_tries_65 : decode cX7_tries 65 = .ok (.getfield 19, 3) := dk_180 0 19 (dk_at dksX7_tries_2 17 rfl rfl)
theorem dX7_tries_68 : decode cX7_tries 68 = .ok (.iconst 0, 1) := dk_3 (dk_at dksX7_tries_2 20 rfl rfl)
theorem dX7_tries_69 : decode cX7_tries 69 = .ok (.aload_n 0, 1) := dk_42 (dk_at dksX7_tries_2 21 rfl rfl)
theorem dX7_tries_70 : decode cX7_tries 70 = .ok (.getfield 23, 3) := dk_180 0 23 (dk_at dksX7_tries_3 0 rfl rfl)
theorem dX7_tries_73 : decode cX7_tries 73 = .ok (.iconst 0, 1) := dk_3 (dk_at dksX7_tries_3 3 rfl rfl)
theorem dX7_tries_74 : decode cX7_tries 74 = .ok (.bipush 8, 2) := dk_16 8 (dk_at dksX7_tries_3 4 rfl rfl)
theorem dX7_tries_76 : decode cX7_tries 76 = .ok (.invokestatic 82, 3) := dk_184 0 82 (dk_at dksX7_tries_3 6 rfl rfl)
theorem dX7_tries_79 : decode cX7_tries 79 = .ok (.iconst 0, 1) := dk_3 (dk_at dksX7_tries_3 9 rfl rfl)
theorem dX7_tries_80 : decode cX7_tries 80 = .ok (.istore 4, 2) := dk_54 4 (dk_at dksX7_tries_3 10 rfl rfl)
theorem dX7_tries_82 : decode cX7_tries 82 = .ok (.iload 4, 2) := dk_21 4 (dk_at dksX7_tries_3 12 rfl rfl)
theorem dX7_tries_84 : decode cX7_tries 84 = .ok (.aload_n 0, 1) := dk_42 (dk_at dksX7_tries_3 14 rfl rfl)
theorem dX7_tries_85 : decode cX7_tries 85 = .ok (.getfield 42, 3) := dk_180 0 42 (dk_at dksX7_tries_3 15 rfl rfl)
theorem dX7_tries_88 : decode cX7_tries 88 = .ok (.if_icmp .ge 73, 3) := dk_162 0 73 (dk_at dksX7_tries_3 18 rfl rfl)
theorem dX7_tries_91 : decode cX7_tries 91 = .ok (.iload 4, 2) := dk_21 4 (dk_at dksX7_tries_3 21 rfl rfl)
theorem dX7_tries_93 : decode cX7_tries 93 = .ok (.aload_n 0, 1) := dk_42 (dk_at dksX7_tries_3 23 rfl rfl)
theorem dX7_tries_94 : decode cX7_tries 94 = .ok (.getfield 66, 3) := dk_180 0 66 (dk_at dksX7_tries_4 0 rfl rfl)
theorem dX7_tries_97 : decode cX7_tries 97 = .ok (.if_icmp .eq 58, 3) := dk_159 0 58 (dk_at dksX7_tries_4 3 rfl rfl)
theorem dX7_tries_100 : decode cX7_tries 100 = .ok (.iload_n 2, 1) := dk_28 (dk_at dksX7_tries_4 6 rfl rfl)
theorem dX7_tries_101 : decode cX7_tries 101 = .ok (.iload 4, 2) := dk_21 4 (dk_at dksX7_tries_4 7 rfl rfl)
theorem dX7_tries_103 : decode cX7_tries 103 = .ok (.invokestatic 88, 3) := dk_184 0 88 (dk_at dksX7_tries_4 9 rfl rfl)
theorem dX7_tries_106 : decode cX7_tries 106 = .ok (.ifCond .ne 49, 3) := dk_154 0 49 (dk_at dksX7_tries_4 12 rfl rfl)
theorem dX7_tries_109 : decode cX7_tries 109 = .ok (.aload_n 0, 1) := dk_42 (dk_at dksX7_tries_4 15 rfl rfl)
theorem dX7_tries_110 : decode cX7_tries 110 = .ok (.getfield 15, 3) := dk_180 0 15 (dk_at dksX7_tries_4 16 rfl rfl)
theorem dX7_tries_113 : decode cX7_tries 113 = .ok (.bipush 8, 2) := dk_16 8 (dk_at dksX7_tries_4 19 rfl rfl)
theorem dX7_tries_115 : decode cX7_tries 115 = .ok (.aload_n 0, 1) := dk_42 (dk_at dksX7_tries_4 21 rfl rfl)
theorem dX7_tries_116 : decode cX7_tries 116 = .ok (.getfield 19, 3) := dk_180 0 19 (dk_at dksX7_tries_5 0 rfl rfl)
theorem dX7_tries_119 : decode cX7_tries 119 = .ok (.iload_n 1, 1) := dk_27 (dk_at dksX7_tries_5 3 rfl rfl)
theorem dX7_tries_120 : decode cX7_tries 120 = .ok (.iconst 1, 1) := dk_4 (dk_at dksX7_tries_5 4 rfl rfl)
theorem dX7_tries_121 : decode cX7_tries 121 = .ok (.isub, 1) := dk_100 (dk_at dksX7_tries_5 5 rfl rfl)
theorem dX7_tries_122 : decode cX7_tries 122 = .ok (.iaload, 1) := dk_46 (dk_at dksX7_tries_5 6 rfl rfl)
theorem dX7_tries_123 : decode cX7_tries 123 = .ok (.imul, 1) := dk_104 (dk_at dksX7_tries_5 7 rfl rfl)
theorem dX7_tries_124 : decode cX7_tries 124 = .ok (.iload 4, 2) := dk_21 4 (dk_at dksX7_tries_5 8 rfl rfl)
theorem dX7_tries_126 : decode cX7_tries 126 = .ok (.iadd, 1) := dk_96 (dk_at dksX7_tries_5 10 rfl rfl)
theorem dX7_tries_127 : decode cX7_tries 127 = .ok (.baload, 1) := dk_51 (dk_at dksX7_tries_5 11 rfl rfl)
theorem dX7_tries_128 : decode cX7_tries 128 = .ok (.ifCond .ne 6, 3) := dk_154 0 6 (dk_at dksX7_tries_5 12 rfl rfl)
theorem dX7_tries_131 : decode cX7_tries 131 = .ok (.goto 24, 3) := dk_167 0 24 (dk_at dksX7_tries_5 15 rfl rfl)
theorem dX7_tries_134 : decode cX7_tries 134 = .ok (.aload_n 0, 1) := dk_42 (dk_at dksX7_tries_5 18 rfl rfl)
theorem dX7_tries_135 : decode cX7_tries 135 = .ok (.getfield 19, 3) := dk_180 0 19 (dk_at dksX7_tries_5 19 rfl rfl)
theorem dX7_tries_138 : decode cX7_tries 138 = .ok (.iload_n 1, 1) := dk_27 (dk_at dksX7_tries_5 22 rfl rfl)
theorem dX7_tries_139 : decode cX7_tries 139 = .ok (.iload 4, 2) := dk_21 4 (dk_at dksX7_tries_6 0 rfl rfl)
theorem dX7_tries_141 : decode cX7_tries 141 = .ok (.iastore, 1) := dk_79 (dk_at dksX7_tries_6 2 rfl rfl)
theorem dX7_tries_142 : decode cX7_tries 142 = .ok (.aload_n 0, 1) := dk_42 (dk_at dksX7_tries_6 3 rfl rfl)
theorem dX7_tries_143 : decode cX7_tries 143 = .ok (.iload_n 1, 1) := dk_27 (dk_at dksX7_tries_6 4 rfl rfl)
theorem dX7_tries_144 : decode cX7_tries 144 = .ok (.iconst 1, 1) := dk_4 (dk_at dksX7_tries_6 5 rfl rfl)
theorem dX7_tries_145 : decode cX7_tries 145 = .ok (.iadd, 1) := dk_96 (dk_at dksX7_tries_6 6 rfl rfl)
theorem dX7_tries_146 : decode cX7_tries 146 = .ok (.iload_n 2, 1) := dk_28 (dk_at dksX7_tries_6 7 rfl rfl)
theorem dX7_tries_147 : decode cX7_tries 147 = .ok (.iconst 1, 1) := dk_4 (dk_at dksX7_tries_6 8 rfl rfl)
theorem dX7_tries_148 : decode cX7_tries 148 = .ok (.iload 4, 2) := dk_21 4 (dk_at dksX7_tries_6 9 rfl rfl)
theorem dX7_tries_150 : decode cX7_tries 150 = .ok (.ishl, 1) := dk_120 (dk_at dksX7_tries_6 11 rfl rfl)
theorem dX7_tries_151 : decode cX7_tries 151 = .ok (.ior, 1) := dk_128 (dk_at dksX7_tries_6 12 rfl rfl)
theorem dX7_tries_152 : decode cX7_tries 152 = .ok (.invokevirtual 72, 3) := dk_182 0 72 (dk_at dksX7_tries_6 13 rfl rfl)
theorem dX7_tries_155 : decode cX7_tries 155 = .ok (.iinc 4 1, 3) := dk_132 4 1 (dk_at dksX7_tries_6 16 rfl rfl)
theorem dX7_tries_158 : decode cX7_tries 158 = .ok (.goto (-76), 3) := dk_167 255 180 (dk_at dksX7_tries_6 19 rfl rfl)
theorem dX7_tries_161 : decode cX7_tries 161 = .ok (.return_, 1) := dk_177 (dk_at dksX7_tries_6 22 rfl rfl)
theorem q124 : (Jvm.Cond.initialized "DeadUnderstudies$Chain") ∈ lw_all := lw_g (lw_at lw_m1 13 rfl) rfl
theorem q231 : (Jvm.Cond.fieldLinkNest "DeadUnderstudies$Chain" (30 : Nat) "DeadUnderstudies$State" "people" "Ljava/util/ArrayList;" "DeadUnderstudies") ∈ lw_tbl := lw_at lw_m1 120 rfl
theorem q423 : (Jvm.Cond.instantiable "DeadUnderstudies$Chain" (8 : Nat)) ∈ lw_all := lw_g (lw_at lw_m2 72 rfl) rfl
theorem q425 : (Jvm.Cond.instanceMethod ({ cls := "DeadUnderstudies$Chain", name := "<init>", desc := "(LDeadUnderstudies;)V" } : Jvm.MethodName)) ∈ lw_all := lw_g (lw_at lw_m2 74 rfl) rfl
theorem q426 : (Jvm.Cond.code ({ cls := "DeadUnderstudies$Chain", name := "<init>", desc := "(LDeadUnderstudies;)V" } : Jvm.MethodName) prog_5_method_1_code (2 : Nat) (Option.none : Option Jvm.ClassFile.FieldType)) ∈ lw_all := lw_g (lw_at lw_m2 75 rfl) rfl
theorem q427 : (Jvm.Cond.methodLink "DeadUnderstudies$Chain" (9 : Nat) ({ cls := "java/lang/Object", name := "<init>", desc := "()V" } : Jvm.MethodName)) ∈ lw_all := lw_g (lw_at lw_m2 76 rfl) rfl
theorem q428 : (Jvm.Cond.fieldLink "DeadUnderstudies$Chain" (15 : Nat) "DeadUnderstudies$Chain" "can" "[Z") ∈ lw_all := lw_g (lw_at lw_m2 77 rfl) rfl
theorem q429 : (Jvm.Cond.fieldLink "DeadUnderstudies$Chain" (19 : Nat) "DeadUnderstudies$Chain" "row" "[I") ∈ lw_all := lw_g (lw_at lw_m2 78 rfl) rfl
theorem q430 : (Jvm.Cond.fieldLink "DeadUnderstudies$Chain" (23 : Nat) "DeadUnderstudies$Chain" "best" "[I") ∈ lw_all := lw_g (lw_at lw_m2 79 rfl) rfl
theorem q432 : (Jvm.Cond.fieldLink "DeadUnderstudies$Chain" (42 : Nat) "DeadUnderstudies$Chain" "people" "I") ∈ lw_all := lw_g (lw_at lw_m2 81 rfl) rfl
theorem q433 : (Jvm.Cond.fieldLink "DeadUnderstudies$Chain" (69 : Nat) "DeadUnderstudies$Chain" "last" "I") ∈ lw_all := lw_g (lw_at lw_m2 82 rfl) rfl
theorem q435 : (Jvm.Cond.fieldLink "DeadUnderstudies$Chain" (79 : Nat) "DeadUnderstudies$Chain" "many" "I") ∈ lw_all := lw_g (lw_at lw_m2 84 rfl) rfl
theorem q437 : (Jvm.Cond.fieldLink "DeadUnderstudies$Chain" (66 : Nat) "DeadUnderstudies$Chain" "out" "I") ∈ lw_all := lw_g (lw_at lw_m2 86 rfl) rfl
theorem q438 : (Jvm.Cond.fieldLink "DeadUnderstudies$Chain" (3 : Nat) "DeadUnderstudies$Chain" "this$0" "LDeadUnderstudies;") ∈ lw_all := lw_g (lw_at lw_m2 87 rfl) rfl
theorem q439 : (Jvm.Cond.laysFinal "DeadUnderstudies$Chain" "DeadUnderstudies$Chain" "can" "[Z") ∈ lw_all := lw_g (lw_at lw_m2 88 rfl) rfl
theorem q440 : (Jvm.Cond.soleField "DeadUnderstudies$Chain" "can") ∈ lw_all := lw_g (lw_at lw_m2 89 rfl) rfl
theorem q441 : (Jvm.Cond.laysFinal "DeadUnderstudies$Chain" "DeadUnderstudies$Chain" "row" "[I") ∈ lw_all := lw_g (lw_at lw_m2 90 rfl) rfl
theorem q442 : (Jvm.Cond.soleField "DeadUnderstudies$Chain" "row") ∈ lw_all := lw_g (lw_at lw_m2 91 rfl) rfl
theorem q443 : (Jvm.Cond.laysFinal "DeadUnderstudies$Chain" "DeadUnderstudies$Chain" "best" "[I") ∈ lw_all := lw_g (lw_at lw_m2 92 rfl) rfl
theorem q444 : (Jvm.Cond.soleField "DeadUnderstudies$Chain" "best") ∈ lw_all := lw_g (lw_at lw_m2 93 rfl) rfl
theorem q445 : (Jvm.Cond.lays "DeadUnderstudies$Chain" "DeadUnderstudies$Chain" "people" "I") ∈ lw_all := lw_g (lw_at lw_m2 94 rfl) rfl
theorem q446 : (Jvm.Cond.soleField "DeadUnderstudies$Chain" "people") ∈ lw_all := lw_g (lw_at lw_m2 95 rfl) rfl
theorem q447 : (Jvm.Cond.lays "DeadUnderstudies$Chain" "DeadUnderstudies$Chain" "last" "I") ∈ lw_all := lw_g (lw_at lw_m2 96 rfl) rfl
theorem q448 : (Jvm.Cond.soleField "DeadUnderstudies$Chain" "last") ∈ lw_all := lw_g (lw_at lw_m2 97 rfl) rfl
theorem q449 : (Jvm.Cond.lays "DeadUnderstudies$Chain" "DeadUnderstudies$Chain" "many" "I") ∈ lw_all := lw_g (lw_at lw_m2 98 rfl) rfl
theorem q450 : (Jvm.Cond.soleField "DeadUnderstudies$Chain" "many") ∈ lw_all := lw_g (lw_at lw_m2 99 rfl) rfl
theorem q451 : (Jvm.Cond.lays "DeadUnderstudies$Chain" "DeadUnderstudies$Chain" "out" "I") ∈ lw_all := lw_g (lw_at lw_m2 100 rfl) rfl
theorem q452 : (Jvm.Cond.soleField "DeadUnderstudies$Chain" "out") ∈ lw_all := lw_g (lw_at lw_m2 101 rfl) rfl
theorem q453 : (Jvm.Cond.laysFinal "DeadUnderstudies$Chain" "DeadUnderstudies$Chain" "this$0" "LDeadUnderstudies;") ∈ lw_all := lw_g (lw_at lw_m2 102 rfl) rfl
theorem q454 : (Jvm.Cond.soleField "DeadUnderstudies$Chain" "this$0") ∈ lw_all := lw_g (lw_at lw_m2 103 rfl) rfl
theorem q455 : (Jvm.Cond.superclass "DeadUnderstudies$Chain" "java/lang/Object") ∈ lw_all := lw_g (lw_at lw_m2 104 rfl) rfl
theorem q527 : (Jvm.Cond.fieldLinkNest "DeadUnderstudies$Chain" (26 : Nat) "DeadUnderstudies" "state" "LDeadUnderstudies$State;" "DeadUnderstudies") ∈ lw_tbl := lw_at lw_m2 176 rfl
theorem q645 : (Jvm.Cond.selects "DeadUnderstudies$Chain" ({ cls := "java/lang/Object", name := "getClass", desc := "()Ljava/lang/Class;" } : Jvm.MethodName) ({ cls := "java/lang/Object", name := "getClass", desc := "()Ljava/lang/Class;" } : Jvm.MethodName)) ∈ lw_all := lw_g (lw_at lw_m3 54 rfl) rfl
theorem q788 : (Jvm.Cond.fieldLinkNest "DeadUnderstudies$Chain" (76 : Nat) "DeadUnderstudies$Person" "dead" "I" "DeadUnderstudies") ∈ lw_tbl := lw_at lw_m3 197 rfl
theorem q1672 : (Jvm.Cond.instanceMethod ({ cls := "DeadUnderstudies$Chain", name := "lays", desc := "(I)V" } : Jvm.MethodName)) ∈ lw_all := lw_g (lw_at lw_m7 121 rfl) rfl
theorem q1673 : (Jvm.Cond.selects "DeadUnderstudies$Chain" ({ cls := "DeadUnderstudies$Chain", name := "lays", desc := "(I)V" } : Jvm.MethodName) ({ cls := "DeadUnderstudies$Chain", name := "lays", desc := "(I)V" } : Jvm.MethodName)) ∈ lw_all := lw_g (lw_at lw_m7 122 rfl) rfl
theorem q1674 : (Jvm.Cond.code ({ cls := "DeadUnderstudies$Chain", name := "lays", desc := "(I)V" } : Jvm.MethodName) prog_5_method_2_code (8 : Nat) (Option.none : Option Jvm.ClassFile.FieldType)) ∈ lw_all := lw_g (lw_at lw_m7 123 rfl) rfl
theorem q1675 : (Jvm.Cond.methodLink "DeadUnderstudies$Chain" (36 : Nat) ({ cls := "java/util/ArrayList", name := "size", desc := "()I" } : Jvm.MethodName)) ∈ lw_all := lw_g (lw_at lw_m7 124 rfl) rfl
theorem q1676 : (Jvm.Cond.methodLink "DeadUnderstudies$Chain" (45 : Nat) ({ cls := "java/util/ArrayList", name := "get", desc := "(I)Ljava/lang/Object;" } : Jvm.MethodName)) ∈ lw_all := lw_g (lw_at lw_m7 125 rfl) rfl
theorem q1677 : (Jvm.Cond.classLink "DeadUnderstudies$Chain" (49 : Nat) "DeadUnderstudies$Person") ∈ lw_all := lw_g (lw_at lw_m7 126 rfl) rfl
theorem q1678 : (Jvm.Cond.methodLink "DeadUnderstudies$Chain" (51 : Nat) ({ cls := "DeadUnderstudies$Person", name := "together", desc := "(LDeadUnderstudies$Person;)I" } : Jvm.MethodName)) ∈ lw_all := lw_g (lw_at lw_m7 127 rfl) rfl
theorem q1679 : (Jvm.Cond.methodLink "DeadUnderstudies$Chain" (55 : Nat) ({ cls := "DeadUnderstudies$Person", name := "meets", desc := "(LDeadUnderstudies$Person;)I" } : Jvm.MethodName)) ∈ lw_all := lw_g (lw_at lw_m7 128 rfl) rfl
theorem q1680 : (Jvm.Cond.methodLinkNest "DeadUnderstudies$Chain" (58 : Nat) ({ cls := "DeadUnderstudies", name := "isBarred", desc := "(IIII)Z" } : Jvm.MethodName) "DeadUnderstudies") ∈ lw_tbl := lw_at lw_m7 129 rfl
theorem q1681 : (Jvm.Cond.methodLinkNest "DeadUnderstudies$Chain" (62 : Nat) ({ cls := "DeadUnderstudies", name := "hours", desc := "(IIII)I" } : Jvm.MethodName) "DeadUnderstudies") ∈ lw_tbl := lw_at lw_m7 130 rfl
theorem q1683 : (Jvm.Cond.instanceMethod ({ cls := "DeadUnderstudies$Chain", name := "finds", desc := "(II)V" } : Jvm.MethodName)) ∈ lw_all := lw_g (lw_at lw_m7 132 rfl) rfl
theorem q1684 : (Jvm.Cond.selects "DeadUnderstudies$Chain" ({ cls := "DeadUnderstudies$Chain", name := "finds", desc := "(II)V" } : Jvm.MethodName) ({ cls := "DeadUnderstudies$Chain", name := "finds", desc := "(II)V" } : Jvm.MethodName)) ∈ lw_all := lw_g (lw_at lw_m7 133 rfl) rfl
theorem q1685 : (Jvm.Cond.code ({ cls := "DeadUnderstudies$Chain", name := "finds", desc := "(II)V" } : Jvm.MethodName) prog_5_method_3_code (3 : Nat) (Option.none : Option Jvm.ClassFile.FieldType)) ∈ lw_all := lw_g (lw_at lw_m7 134 rfl) rfl
theorem q1686 : (Jvm.Cond.methodLink "DeadUnderstudies$Chain" (72 : Nat) ({ cls := "DeadUnderstudies$Chain", name := "tries", desc := "(II)V" } : Jvm.MethodName)) ∈ lw_all := lw_g (lw_at lw_m7 135 rfl) rfl
theorem q1687 : (Jvm.Cond.privateMethod ({ cls := "DeadUnderstudies$Chain", name := "tries", desc := "(II)V" } : Jvm.MethodName)) ∈ lw_tbl := lw_at lw_m7 136 rfl
theorem q1688 : (Jvm.Cond.instanceMethod ({ cls := "DeadUnderstudies$Chain", name := "tries", desc := "(II)V" } : Jvm.MethodName)) ∈ lw_all := lw_g (lw_at lw_m7 137 rfl) rfl
theorem q1689 : (Jvm.Cond.code ({ cls := "DeadUnderstudies$Chain", name := "tries", desc := "(II)V" } : Jvm.MethodName) prog_5_method_4_code (5 : Nat) (Option.none : Option Jvm.ClassFile.FieldType)) ∈ lw_all := lw_g (lw_at lw_m7 138 rfl) rfl
theorem q1690 : (Jvm.Cond.methodLink "DeadUnderstudies$Chain" (82 : Nat) ({ cls := "java/lang/System", name := "arraycopy", desc := "(Ljava/lang/Object;ILjava/lang/Object;II)V" } : Jvm.MethodName)) ∈ lw_all := lw_g (lw_at lw_m7 139 rfl) rfl
theorem q1691 : (Jvm.Cond.methodLinkNest "DeadUnderstudies$Chain" (88 : Nat) ({ cls := "DeadUnderstudies", name := "isOf", desc := "(II)Z" } : Jvm.MethodName) "DeadUnderstudies") ∈ lw_tbl := lw_at lw_m7 140 rfl
theorem q2607 : (Jvm.Cond.castable "DeadUnderstudies$Chain" "java/lang/Object") ∈ lw_tbl := lw_at lw_m11 96 rfl
theorem in_X7 : ∀ w ∈ wsX70, w ∈ lw_all := lw_in wsX70 [439, 441, 443, 445, 447, 449, 451, 453] (by decide +kernel) (by decide +kernel)
/-! DeadUnderstudies$Cast -/
def RX8 : String := "DeadUnderstudies$Cast"
def TX8 : u_T := fun k => match k with
  | 0 => ("DeadUnderstudies$Cast", "row", "[I", true)
  | 1 => ("DeadUnderstudies$Cast", "best", "[I", true)
  | 2 => ("DeadUnderstudies$Cast", "may", "[Z", true)
  | 3 => ("DeadUnderstudies$Cast", "fewest", "I", false)
  | 4 => ("DeadUnderstudies$Cast", "many", "I", false)
  | _ => ("DeadUnderstudies$Cast", "this$0", "LDeadUnderstudies;", true)
def tyX8 : Nat → FieldType := fun k => match k with
  | 0 => .array .int
  | 1 => .array .int
  | 2 => .array .boolean
  | 3 => .int
  | 4 => .int
  | _ => .object "DeadUnderstudies"
abbrev wsX80 : List Cond := u_ws RX8 TX8 6
theorem nmX8 : ∀ a, a < 6 → ∀ b, b < 6 → a ≠ b → (TX8 a).2.1 ≠ (TX8 b).2.1 := by decide +kernel
theorem tyX8_ok : ∀ k, k < 6 → parseFieldDescriptor (TX8 k).2.2.1 = some (tyX8 k) := by decide +kernel
abbrev cX8_init : ByteArray := prog_4_method_1_code
def yX8_init : MethodName := ⟨RX8, "<init>", "(LDeadUnderstudies;)V"⟩
def dkwX8_init_1 : List UInt8 := [181, 0, 19, 42, 16, 48, 188, 4, 181, 0, 22, 177]
abbrev dktX8_init_1 : List UInt8 := dkwX8_init_1 ++ []
def dkwX8_init_0 : List UInt8 := [42, 43, 181, 0, 3, 42, 183, 0, 9, 42, 16, 6, 188, 10, 181, 0, 15, 42, 16, 6, 188, 10]
abbrev dktX8_init_0 : List UInt8 := dkwX8_init_0 ++ dktX8_init_1
theorem dksX8_init_0 : cX8_init.data.toList.drop 0 = dktX8_init_0 := by decide +kernel
theorem dksX8_init_1 : cX8_init.data.toList.drop 22 = dktX8_init_1 := dk_seg dksX8_init_0 22 rfl rfl
theorem dX8_init_0 : decode cX8_init 0 = .ok (.aload_n 0, 1) := dk_42 (dk_at dksX8_init_0 0 rfl rfl)
theorem dX8_init_1 : decode cX8_init 1 = .ok (.aload_n 1, 1) := dk_43 (dk_at dksX8_init_0 1 rfl rfl)
theorem dX8_init_2 : decode cX8_init 2 = .ok (.putfield 3, 3) := dk_181 0 3 (dk_at dksX8_init_0 2 rfl rfl)
theorem dX8_init_5 : decode cX8_init 5 = .ok (.aload_n 0, 1) := dk_42 (dk_at dksX8_init_0 5 rfl rfl)
theorem dX8_init_6 : decode cX8_init 6 = .ok (.invokespecial 9, 3) := dk_183 0 9 (dk_at dksX8_init_0 6 rfl rfl)
theorem dX8_init_9 : decode cX8_init 9 = .ok (.aload_n 0, 1) := dk_42 (dk_at dksX8_init_0 9 rfl rfl)
theorem dX8_init_10 : decode cX8_init 10 = .ok (.bipush 6, 2) := dk_16 6 (dk_at dksX8_init_0 10 rfl rfl)
theorem dX8_init_12 : decode cX8_init 12 = .ok (.newarray .int, 2) := dk_188_10 (dk_at dksX8_init_0 12 rfl rfl)
theorem dX8_init_14 : decode cX8_init 14 = .ok (.putfield 15, 3) := dk_181 0 15 (dk_at dksX8_init_0 14 rfl rfl)
theorem dX8_init_17 : decode cX8_init 17 = .ok (.aload_n 0, 1) := dk_42 (dk_at dksX8_init_0 17 rfl rfl)
theorem dX8_init_18 : decode cX8_init 18 = .ok (.bipush 6, 2) := dk_16 6 (dk_at dksX8_init_0 18 rfl rfl)
theorem dX8_init_20 : decode cX8_init 20 = .ok (.newarray .int, 2) := dk_188_10 (dk_at dksX8_init_0 20 rfl rfl)
theorem dX8_init_22 : decode cX8_init 22 = .ok (.putfield 19, 3) := dk_181 0 19 (dk_at dksX8_init_1 0 rfl rfl)
theorem dX8_init_25 : decode cX8_init 25 = .ok (.aload_n 0, 1) := dk_42 (dk_at dksX8_init_1 3 rfl rfl)
theorem dX8_init_26 : decode cX8_init 26 = .ok (.bipush 48, 2) := dk_16 48 (dk_at dksX8_init_1 4 rfl rfl)
theorem dX8_init_28 : decode cX8_init 28 = .ok (.newarray .boolean, 2) := dk_188_4 (dk_at dksX8_init_1 6 rfl rfl)
theorem dX8_init_30 : decode cX8_init 30 = .ok (.putfield 22, 3) := dk_181 0 22 (dk_at dksX8_init_1 8 rfl rfl)
theorem dX8_init_33 : decode cX8_init 33 = .ok (.return_, 1) := dk_177 (dk_at dksX8_init_1 11 rfl rfl)
abbrev cX8_finds : ByteArray := prog_4_method_2_code
def yX8_finds : MethodName := ⟨RX8, "finds", "()V"⟩
def dkwX8_finds_4 : List UInt8 := [167, 0, 4, 3, 84, 132, 2, 1, 167, 255, 182, 132, 1, 1, 167, 255, 160, 42, 3, 3, 182, 0, 63, 177]
abbrev dktX8_finds_4 : List UInt8 := dkwX8_finds_4 ++ []
def dkwX8_finds_3 : List UInt8 := [153, 0, 27, 42, 180, 0, 3, 28, 27, 2, 42, 180, 0, 3, 182, 0, 52, 182, 0, 59, 154, 0, 7, 4]
abbrev dktX8_finds_3 : List UInt8 := dkwX8_finds_3 ++ dktX8_finds_4
def dkwX8_finds_2 : List UInt8 := [180, 0, 22, 16, 8, 27, 104, 28, 96, 42, 180, 0, 3, 28, 42, 180, 0, 3, 182, 0, 52, 182, 0, 55]
abbrev dktX8_finds_2 : List UInt8 := dkwX8_finds_2 ++ dktX8_finds_3
def dkwX8_finds_1 : List UInt8 := [162, 0, 88, 3, 61, 28, 42, 180, 0, 3, 180, 0, 33, 180, 0, 42, 182, 0, 46, 162, 0, 63, 42]
abbrev dktX8_finds_1 : List UInt8 := dkwX8_finds_1 ++ dktX8_finds_2
def dkwX8_finds_0 : List UInt8 := [42, 16, 9, 181, 0, 26, 42, 3, 181, 0, 30, 3, 60, 27, 42, 180, 0, 3, 180, 0, 33, 180, 0, 37]
abbrev dktX8_finds_0 : List UInt8 := dkwX8_finds_0 ++ dktX8_finds_1
theorem dksX8_finds_0 : cX8_finds.data.toList.drop 0 = dktX8_finds_0 := by decide +kernel
theorem dksX8_finds_1 : cX8_finds.data.toList.drop 24 = dktX8_finds_1 := dk_seg dksX8_finds_0 24 rfl rfl
theorem dksX8_finds_2 : cX8_finds.data.toList.drop 47 = dktX8_finds_2 := dk_seg dksX8_finds_1 23 rfl rfl
theorem dksX8_finds_3 : cX8_finds.data.toList.drop 71 = dktX8_finds_3 := dk_seg dksX8_finds_2 24 rfl rfl
theorem dksX8_finds_4 : cX8_finds.data.toList.drop 95 = dktX8_finds_4 := dk_seg dksX8_finds_3 24 rfl rfl
theorem dX8_finds_0 : decode cX8_finds 0 = .ok (.aload_n 0, 1) := dk_42 (dk_at dksX8_finds_0 0 rfl rfl)
theorem dX8_finds_1 : decode cX8_finds 1 = .ok (.bipush 9, 2) := dk_16 9 (dk_at dksX8_finds_0 1 rfl rfl)
theorem dX8_finds_3 : decode cX8_finds 3 = .ok (.putfield 26, 3) := dk_181 0 26 (dk_at dksX8_finds_0 3 rfl rfl)
theorem dX8_finds_6 : decode cX8_finds 6 = .ok (.aload_n 0, 1) := dk_42 (dk_at dksX8_finds_0 6 rfl rfl)
theorem dX8_finds_7 : decode cX8_finds 7 = .ok (.iconst 0, 1) := dk_3 (dk_at dksX8_finds_0 7 rfl rfl)
theorem dX8_finds_8 : decode cX8_finds 8 = .ok (.putfield 30, 3) := dk_181 0 30 (dk_at dksX8_finds_0 8 rfl rfl)
theorem dX8_finds_11 : decode cX8_finds 11 = .ok (.iconst 0, 1) := dk_3 (dk_at dksX8_finds_0 11 rfl rfl)
theorem dX8_finds_12 : decode cX8_finds 12 = .ok (.istore_n 1, 1) := dk_60 (dk_at dksX8_finds_0 12 rfl rfl)
theorem dX8_finds_13 : decode cX8_finds 13 = .ok (.iload_n 1, 1) := dk_27 (dk_at dksX8_finds_0 13 rfl rfl)
theorem dX8_finds_14 : decode cX8_finds 14 = .ok (.aload_n 0, 1) := dk_42 (dk_at dksX8_finds_0 14 rfl rfl)
theorem dX8_finds_15 : decode cX8_finds 15 = .ok (.getfield 3, 3) := dk_180 0 3 (dk_at dksX8_finds_0 15 rfl rfl)
theorem dX8_finds_18 : decode cX8_finds 18 = .ok (.getfield 33, 3) := dk_180 0 33 (dk_at dksX8_finds_0 18 rfl rfl)
theorem dX8_finds_21 : decode cX8_finds 21 = .ok (.getfield 37, 3) := dk_180 0 37 (dk_at dksX8_finds_0 21 rfl rfl)
theorem dX8_finds_24 : decode cX8_finds 24 = .ok (.if_icmp .ge 88, 3) := dk_162 0 88 (dk_at dksX8_finds_1 0 rfl rfl)
theorem dX8_finds_27 : decode cX8_finds 27 = .ok (.iconst 0, 1) := dk_3 (dk_at dksX8_finds_1 3 rfl rfl)
theorem dX8_finds_28 : decode cX8_finds 28 = .ok (.istore_n 2, 1) := dk_61 (dk_at dksX8_finds_1 4 rfl rfl)
theorem dX8_finds_29 : decode cX8_finds 29 = .ok (.iload_n 2, 1) := dk_28 (dk_at dksX8_finds_1 5 rfl rfl)
theorem dX8_finds_30 : decode cX8_finds 30 = .ok (.aload_n 0, 1) := dk_42 (dk_at dksX8_finds_1 6 rfl rfl)
theorem dX8_finds_31 : decode cX8_finds 31 = .ok (.getfield 3, 3) := dk_180 0 3 (dk_at dksX8_finds_1 7 rfl rfl)
theorem dX8_finds_34 : decode cX8_finds 34 = .ok (.getfield 33, 3) := dk_180 0 33 (dk_at dksX8_finds_1 10 rfl rfl)
theorem dX8_finds_37 : decode cX8_finds 37 = .ok (.getfield 42, 3) := dk_180 0 42 (dk_at dksX8_finds_1 13 rfl rfl)
theorem dX8_finds_40 : decode cX8_finds 40 = .ok (.invokevirtual 46, 3) := dk_182 0 46 (dk_at dksX8_finds_1 16 rfl rfl)
theorem dX8_finds_43 : decode cX8_finds 43 = .ok (.if_icmp .ge 63, 3) := dk_162 0 63 (dk_at dksX8_finds_1 19 rfl rfl)
theorem dX8_finds_46 : decode cX8_finds 46 = .ok (.aload_n 0, 1) := dk_42 (dk_at dksX8_finds_1 22 rfl rfl)
theorem dX8_finds_47 : decode cX8_finds 47 = .ok (.getfield 22, 3) := dk_180 0 22 (dk_at dksX8_finds_2 0 rfl rfl)
theorem dX8_finds_50 : decode cX8_finds 50 = .ok (.bipush 8, 2) := dk_16 8 (dk_at dksX8_finds_2 3 rfl rfl)
theorem dX8_finds_52 : decode cX8_finds 52 = .ok (.iload_n 1, 1) := dk_27 (dk_at dksX8_finds_2 5 rfl rfl)
theorem dX8_finds_53 : decode cX8_finds 53 = .ok (.imul, 1) := dk_104 (dk_at dksX8_finds_2 6 rfl rfl)
theorem dX8_finds_54 : decode cX8_finds 54 = .ok (.iload_n 2, 1) := dk_28 (dk_at dksX8_finds_2 7 rfl rfl)
theorem dX8_finds_55 : decode cX8_finds 55 = .ok (.iadd, 1) := dk_96 (dk_at dksX8_finds_2 8 rfl rfl)
theorem dX8_finds_56 : decode cX8_finds 56 = .ok (.aload_n 0, 1) := dk_42 (dk_at dksX8_finds_2 9 rfl rfl)
theorem dX8_finds_57 : decode cX8_finds 57 = .ok (.getfield 3, 3) := dk_180 0 3 (dk_at dksX8_finds_2 10 rfl rfl)
theorem dX8_finds_60 : decode cX8_finds 60 = .ok (.iload_n 2, 1) := dk_28 (dk_at dksX8_finds_2 13 rfl rfl)
theorem dX8_finds_61 : decode cX8_finds 61 = .ok (.aload_n 0, 1) := dk_42 (dk_at dksX8_finds_2 14 rfl rfl)
theorem dX8_finds_62 : decode cX8_finds 62 = .ok (.getfield 3, 3) := dk_180 0 3 (dk_at dksX8_finds_2 15 rfl rfl)
theorem dX8_finds_65 : decode cX8_finds 65 = .ok (.invokevirtual 52, 3) := dk_182 0 52 (dk_at dksX8_finds_2 18 rfl rfl)
theorem dX8_finds_68 : decode cX8_finds 68 = .ok (.invokevirtual 55, 3) := dk_182 0 55 (dk_at dksX8_finds_2 21 rfl rfl)
theorem dX8_finds_71 : decode cX8_finds 71 = .ok (.ifCond .eq 27, 3) := dk_153 0 27 (dk_at dksX8_finds_3 0 rfl rfl)
theorem dX8_finds_74 : decode cX8_finds 74 = .ok (.aload_n 0, 1) := dk_42 (dk_at dksX8_finds_3 3 rfl rfl)
theorem dX8_finds_75 : decode cX8_finds 75 = .ok (.getfield 3, 3) := dk_180 0 3 (dk_at dksX8_finds_3 4 rfl rfl)
theorem dX8_finds_78 : decode cX8_finds 78 = .ok (.iload_n 2, 1) := dk_28 (dk_at dksX8_finds_3 7 rfl rfl)
theorem dX8_finds_79 : decode cX8_finds 79 = .ok (.iload_n 1, 1) := dk_27 (dk_at dksX8_finds_3 8 rfl rfl)
theorem dX8_finds_80 : decode cX8_finds 80 = .ok (.iconst (-1), 1) := dk_2 (dk_at dksX8_finds_3 9 rfl rfl)
theorem dX8_finds_81 : decode cX8_finds 81 = .ok (.aload_n 0, 1) := dk_42 (dk_at dksX8_finds_3 10 rfl rfl)
theorem dX8_finds_82 : decode cX8_finds 82 = .ok (.getfield 3, 3) := dk_180 0 3 (dk_at dksX8_finds_3 11 rfl rfl)
theorem dX8_finds_85 : decode cX8_finds 85 = .ok (.invokevirtual 52, 3) := dk_182 0 52 (dk_at dksX8_finds_3 14 rfl rfl)
theorem dX8_finds_88 : decode cX8_finds 88 = .ok (.invokevirtual 59, 3) := dk_182 0 59 (dk_at dksX8_finds_3 17 rfl rfl)
theorem dX8_finds_91 : decode cX8_finds 91 = .ok (.ifCond .ne 7, 3) := dk_154 0 7 (dk_at dksX8_finds_3 20 rfl rfl)
theorem dX8_finds_94 : decode cX8_finds 94 = .ok (.iconst 1, 1) := dk_4 (dk_at dksX8_finds_3 23 rfl rfl)
theorem dX8_finds_95 : decode cX8_finds 95 = .ok (.goto 4, 3) := dk_167 0 4 (dk_at dksX8_finds_4 0 rfl rfl)
theorem dX8_finds_98 : decode cX8_finds 98 = .ok (.iconst 0, 1) := dk_3 (dk_at dksX8_finds_4 3 rfl rfl)
theorem dX8_finds_99 : decode cX8_finds 99 = .ok (.bastore, 1) := dk_84 (dk_at dksX8_finds_4 4 rfl rfl)
theorem dX8_finds_100 : decode cX8_finds 100 = .ok (.iinc 2 1, 3) := dk_132 2 1 (dk_at dksX8_finds_4 5 rfl rfl)
theorem dX8_finds_103 : decode cX8_finds 103 = .ok (.goto (-74), 3) := dk_167 255 182 (dk_at dksX8_finds_4 8 rfl rfl)
theorem dX8_finds_106 : decode cX8_finds 106 = .ok (.iinc 1 1, 3) := dk_132 1 1 (dk_at dksX8_finds_4 11 rfl rfl)
theorem dX8_finds_109 : decode cX8_finds 109 = .ok (.goto (-96), 3) := dk_167 255 160 (dk_at dksX8_finds_4 14 rfl rfl)
theorem dX8_finds_112 : decode cX8_finds 112 = .ok (.aload_n 0, 1) := dk_42 (dk_at dksX8_finds_4 17 rfl rfl)
theorem dX8_finds_113 : decode cX8_finds 113 = .ok (.iconst 0, 1) := dk_3 (dk_at dksX8_finds_4 18 rfl rfl)
theorem dX8_finds_114 : decode cX8_finds 114 = .ok (.iconst 0, 1) := dk_3 (dk_at dksX8_finds_4 19 rfl rfl)
theorem dX8_finds_115 : decode cX8_finds 115 = .ok (.invokevirtual 63, 3) := dk_182 0 63 (dk_at dksX8_finds_4 20 rfl rfl)
theorem dX8_finds_118 : decode cX8_finds 118 = .ok (.return_, 1) := dk_177 (dk_at dksX8_finds_4 23 rfl rfl)
abbrev cX8_tries : ByteArray := prog_4_method_4_code
def yX8_tries : MethodName := ⟨RX8, "tries", "(II)V"⟩
def dkwX8_tries_8 : List UInt8 := [177]
abbrev dktX8_tries_8 : List UInt8 := dkwX8_tries_8 ++ []
def dkwX8_tries_7 : List UInt8 := [180, 0, 15, 27, 29, 79, 42, 27, 4, 96, 28, 4, 29, 120, 128, 182, 0, 63, 132, 3, 1, 167, 255, 148]
abbrev dktX8_tries_7 : List UInt8 := dkwX8_tries_7 ++ dktX8_tries_8
def dkwX8_tries_6 : List UInt8 := [4, 167, 0, 4, 3, 54, 4, 132, 5, 1, 167, 255, 214, 21, 4, 154, 0, 6, 167, 0, 22, 42]
abbrev dktX8_tries_6 : List UInt8 := dkwX8_tries_6 ++ dktX8_tries_7
def dkwX8_tries_5 : List UInt8 := [153, 0, 28, 42, 180, 0, 15, 21, 5, 46, 29, 160, 0, 13, 42, 21, 5, 27, 182, 0, 80, 154, 0, 7]
abbrev dktX8_tries_5 : List UInt8 := dkwX8_tries_5 ++ dktX8_tries_6
def dkwX8_tries_4 : List UInt8 := [42, 180, 0, 22, 16, 8, 27, 104, 29, 96, 51, 54, 4, 3, 54, 5, 21, 5, 27, 162, 0, 42, 21, 4]
abbrev dktX8_tries_4 : List UInt8 := dkwX8_tries_4 ++ dktX8_tries_5
def dkwX8_tries_3 : List UInt8 := [96, 181, 0, 30, 177, 3, 62, 29, 42, 180, 0, 3, 180, 0, 33, 180, 0, 42, 182, 0, 46, 162, 0, 97]
abbrev dktX8_tries_3 : List UInt8 := dkwX8_tries_3 ++ dktX8_tries_4
def dkwX8_tries_2 : List UInt8 := [181, 0, 30, 42, 180, 0, 15, 3, 42, 180, 0, 19, 3, 16, 6, 184, 0, 74, 42, 89, 180, 0, 30, 4]
abbrev dktX8_tries_2 : List UInt8 := dkwX8_tries_2 ++ dktX8_tries_3
def dkwX8_tries_1 : List UInt8 := [160, 0, 53, 28, 184, 0, 70, 42, 180, 0, 26, 162, 0, 31, 42, 28, 184, 0, 70, 181, 0, 26, 42, 3]
abbrev dktX8_tries_1 : List UInt8 := dkwX8_tries_1 ++ dktX8_tries_2
def dkwX8_tries_0 : List UInt8 := [28, 184, 0, 70, 42, 180, 0, 26, 164, 0, 4, 177, 27, 42, 180, 0, 3, 180, 0, 33, 180, 0, 37]
abbrev dktX8_tries_0 : List UInt8 := dkwX8_tries_0 ++ dktX8_tries_1
theorem dksX8_tries_0 : cX8_tries.data.toList.drop 0 = dktX8_tries_0 := by decide +kernel
theorem dksX8_tries_1 : cX8_tries.data.toList.drop 23 = dktX8_tries_1 := dk_seg dksX8_tries_0 23 rfl rfl
theorem dksX8_tries_2 : cX8_tries.data.toList.drop 47 = dktX8_tries_2 := dk_seg dksX8_tries_1 24 rfl rfl
theorem dksX8_tries_3 : cX8_tries.data.toList.drop 71 = dktX8_tries_3 := dk_seg dksX8_tries_2 24 rfl rfl
theorem dksX8_tries_4 : cX8_tries.data.toList.drop 95 = dktX8_tries_4 := dk_seg dksX8_tries_3 24 rfl rfl
theorem dksX8_tries_5 : cX8_tries.data.toList.drop 119 = dktX8_tries_5 := dk_seg dksX8_tries_4 24 rfl rfl
theorem dksX8_tries_6 : cX8_tries.data.toList.drop 143 = dktX8_tries_6 := dk_seg dksX8_tries_5 24 rfl rfl
theorem dksX8_tries_7 : cX8_tries.data.toList.drop 165 = dktX8_tries_7 := dk_seg dksX8_tries_6 22 rfl rfl
theorem dksX8_tries_8 : cX8_tries.data.toList.drop 189 = dktX8_tries_8 := dk_seg dksX8_tries_7 24 rfl rfl
theorem dX8_tries_0 : decode cX8_tries 0 = .ok (.iload_n 2, 1) := dk_28 (dk_at dksX8_tries_0 0 rfl rfl)
theorem dX8_tries_1 : decode cX8_tries 1 = .ok (.invokestatic 70, 3) := dk_184 0 70 (dk_at dksX8_tries_0 1 rfl rfl)
theorem dX8_tries_4 : decode cX8_tries 4 = .ok (.aload_n 0, 1) := dk_42 (dk_at dksX8_tries_0 4 rfl rfl)
theorem dX8_tries_5 : decode cX8_tries 5 = .ok (.getfield 26, 3) := dk_180 0 26 (dk_at dksX8_tries_0 5 rfl rfl)
theorem dX8_tries_8 : decode cX8_tries 8 = .ok (.if_icmp .le 4, 3) := dk_164 0 4 (dk_at dksX8_tries_0 8 rfl rfl)
theorem dX8_tries_11 : decode cX8_tries 11 = .ok (.return_, 1) := dk_177 (dk_at dksX8_tries_0 11 rfl rfl)
theorem dX8_tries_12 : decode cX8_tries 12 = .ok (.iload_n 1, 1) := dk_27 (dk_at dksX8_tries_0 12 rfl rfl)
theorem dX8_tries_13 : decode cX8_tries 13 = .ok (.aload_n 0, 1) := dk_42 (dk_at dksX8_tries_0 13 rfl rfl)
theorem dX8_tries_14 : decode cX8_tries 14 = .ok (.getfield 3, 3) := dk_180 0 3 (dk_at dksX8_tries_0 14 rfl rfl)
theorem dX8_tries_17 : decode cX8_tries 17 = .ok (.getfield 33, 3) := dk_180 0 33 (dk_at dksX8_tries_0 17 rfl rfl)
theorem dX8_tries_20 : decode cX8_tries 20 = .ok (.getfield 37, 3) := dk_180 0 37 (dk_at dksX8_tries_0 20 rfl rfl)
theorem dX8_tries_23 : decode cX8_tries 23 = .ok (.if_icmp .ne 53, 3) := dk_160 0 53 (dk_at dksX8_tries_1 0 rfl rfl)
theorem dX8_tries_26 : decode cX8_tries 26 = .ok (.iload_n 2, 1) := dk_28 (dk_at dksX8_tries_1 3 rfl rfl)
theorem dX8_tries_27 : decode cX8_tries 27 = .ok (.invokestatic 70, 3) := dk_184 0 70 (dk_at dksX8_tries_1 4 rfl rfl)
theorem dX8_tries_30 : decode cX8_tries 30 = .ok (.aload_n 0, 1) := dk_42 (dk_at dksX8_tries_1 7 rfl rfl)
theorem dX8_tries_31 : decode cX8_tries 31 = .ok (.getfield 26, 3) := dk_180 0 26 (dk_at dksX8_tries_1 8 rfl rfl)
theorem dX8_tries_34 : decode cX8_tries 34 = .ok (.if_icmp .ge 31, 3) := dk_162 0 31 (dk_at dksX8_tries_1 11 rfl rfl)
theorem dX8_tries_37 : decode cX8_tries 37 = .ok (.aload_n 0, 1) := dk_42 (dk_at dksX8_tries_1 14 rfl rfl)
theorem dX8_tries_38 : decode cX8_tries 38 = .ok (.iload_n 2, 1) := dk_28 (dk_at dksX8_tries_1 15 rfl rfl)
theorem dX8_tries_39 : decode cX8_tries 39 = .ok (.invokestatic 70, 3) := dk_184 0 70 (dk_at dksX8_tries_1 16 rfl rfl)
theorem dX8_tries_42 : decode cX8_tries 42 = .ok (.putfield 26, 3) := dk_181 0 26 (dk_at dksX8_tries_1 19 rfl rfl)
theorem dX8_tries_45 : decode cX8_tries 45 = .ok (.aload_n 0, 1) := dk_42 (dk_at dksX8_tries_1 22 rfl rfl)
theorem dX8_tries_46 : decode cX8_tries 46 = .ok (.iconst 0, 1) := dk_3 (dk_at dksX8_tries_1 23 rfl rfl)
theorem dX8_tries_47 : decode cX8_tries 47 = .ok (.putfield 30, 3) := dk_181 0 30 (dk_at dksX8_tries_2 0 rfl rfl)
theorem dX8_tries_50 : decode cX8_tries 50 = .ok (.aload_n 0, 1) := dk_42 (dk_at dksX8_tries_2 3 rfl rfl)
theorem dX8_tries_51 : decode cX8_tries 51 = .ok (.getfield 15, 3) := dk_180 0 15 (dk_at dksX8_tries_2 4 rfl rfl)
theorem dX8_tries_54 : decode cX8_tries 54 = .ok (.iconst 0, 1) := dk_3 (dk_at dksX8_tries_2 7 rfl rfl)
theorem dX8_tries_55 : decode cX8_tries 55 = .ok (.aload_n 0, 1) := dk_42 (dk_at dksX8_tries_2 8 rfl rfl)
theorem dX8_tries_56 : decode cX8_tries 56 = .ok (.getfield 19, 3) := dk_180 0 19 (dk_at dksX8_tries_2 9 rfl rfl)
theorem dX8_tries_59 : decode cX8_tries 59 = .ok (.iconst 0, 1) := dk_3 (dk_at dksX8_tries_2 12 rfl rfl)
theorem dX8_tries_60 : decode cX8_tries 60 = .ok (.bipush 6, 2) := dk_16 6 (dk_at dksX8_tries_2 13 rfl rfl)
theorem dX8_tries_62 : decode cX8_tries 62 = .ok (.invokestatic 74, 3) := dk_184 0 74 (dk_at dksX8_tries_2 15 rfl rfl)
theorem dX8_tries_65 : decode cX8_tries 65 = .ok (.aload_n 0, 1) := dk_42 (dk_at dksX8_tries_2 18 rfl rfl)
theorem dX8_tries_66 : decode cX8_tries 66 = .ok (.dup, 1) := dk_89 (dk_at dksX8_tries_2 19 rfl rfl)
theorem dX8_tries_67 : decode cX8_tries 67 = .ok (.getfield 30, 3) := dk_180 0 30 (dk_at dksX8_tries_2 20 rfl rfl)
theorem dX8_tries_70 : decode cX8_tries 70 = .ok (.iconst 1, 1) := dk_4 (dk_at dksX8_tries_2 23 rfl rfl)
theorem dX8_tries_71 : decode cX8_tries 71 = .ok (.iadd, 1) := dk_96 (dk_at dksX8_tries_3 0 rfl rfl)
theorem dX8_tries_72 : decode cX8_tries 72 = .ok (.putfield 30, 3) := dk_181 0 30 (dk_at dksX8_tries_3 1 rfl rfl)
theorem dX8_tries_75 : decode cX8_tries 75 = .ok (.return_, 1) := dk_177 (dk_at dksX8_tries_3 4 rfl rfl)
theorem dX8_tries_76 : decode cX8_tries 76 = .ok (.iconst 0, 1) := dk_3 (dk_at dksX8_tries_3 5 rfl rfl)
theorem dX8_tries_77 : decode cX8_tries 77 = .ok (.istore_n 3, 1) := dk_62 (dk_at dksX8_tries_3 6 rfl rfl)
theorem dX8_tries_78 : decode cX8_tries 78 = .ok (.iload_n 3, 1) := dk_29 (dk_at dksX8_tries_3 7 rfl rfl)
theorem dX8_tries_79 : decode cX8_tries 79 = .ok (.aload_n 0, 1) := dk_42 (dk_at dksX8_tries_3 8 rfl rfl)
theorem dX8_tries_80 : decode cX8_tries 80 = .ok (.getfield 3, 3) := dk_180 0 3 (dk_at dksX8_tries_3 9 rfl rfl)
theorem dX8_tries_83 : decode cX8_tries 83 = .ok (.getfield 33, 3) := dk_180 0 33 (dk_at dksX8_tries_3 12 rfl rfl)
theorem dX8_tries_86 : decode cX8_tries 86 = .ok (.getfield 42, 3) := dk_180 0 42 (dk_at dksX8_tries_3 15 rfl rfl)
theorem dX8_tries_89 : decode cX8_tries 89 = .ok (.invokevirtual 46, 3) := dk_182 0 46 (dk_at dksX8_tries_3 18 rfl rfl)
theorem dX8_tries_92 : decode cX8_tries 92 = .ok (.if_icmp .ge 97, 3) := dk_162 0 97 (dk_at dksX8_tries_3 21 rfl rfl)
theorem dX8_tries_95 : decode cX8_tries 95 = .ok (.aload_n 0, 1) := dk_42 (dk_at dksX8_tries_4 0 rfl rfl)
theorem dX8_tries_96 : decode cX8_tries 96 = .ok (.getfield 22, 3) := dk_180 0 22 (dk_at dksX8_tries_4 1 rfl rfl)
theorem dX8_tries_99 : decode cX8_tries 99 = .ok (.bipush 8, 2) := dk_16 8 (dk_at dksX8_tries_4 4 rfl rfl)
theorem dX8_tries_101 : decode cX8_tries 101 = .ok (.iload_n 1, 1) := dk_27 (dk_at dksX8_tries_4 6 rfl rfl)
theorem dX8_tries_102 : decode cX8_tries 102 = .ok (.imul, 1) := dk_104 (dk_at dksX8_tries_4 7 rfl rfl)
theorem dX8_tries_103 : decode cX8_tries 103 = .ok (.iload_n 3, 1) := dk_29 (dk_at dksX8_tries_4 8 rfl rfl)
theorem dX8_tries_104 : decode cX8_tries 104 = .ok (.iadd, 1) := dk_96 (dk_at dksX8_tries_4 9 rfl rfl)
theorem dX8_tries_105 : decode cX8_tries 105 = .ok (.baload, 1) := dk_51 (dk_at dksX8_tries_4 10 rfl rfl)
theorem dX8_tries_106 : decode cX8_tries 106 = .ok (.istore 4, 2) := dk_54 4 (dk_at dksX8_tries_4 11 rfl rfl)
theorem dX8_tries_108 : decode cX8_tries 108 = .ok (.iconst 0, 1) := dk_3 (dk_at dksX8_tries_4 13 rfl rfl)
theorem dX8_tries_109 : decode cX8_tries 109 = .ok (.istore 5, 2) := dk_54 5 (dk_at dksX8_tries_4 14 rfl rfl)
theorem dX8_tries_111 : decode cX8_tries 111 = .ok (.iload 5, 2) := dk_21 5 (dk_at dksX8_tries_4 16 rfl rfl)
theorem dX8_tries_113 : decode cX8_tries 113 = .ok (.iload_n 1, 1) := dk_27 (dk_at dksX8_tries_4 18 rfl rfl)
theorem dX8_tries_114 : decode cX8_tries 114 = .ok (.if_icmp .ge 42, 3) := dk_162 0 42 (dk_at dksX8_tries_4 19 rfl rfl)
theorem dX8_tries_117 : decode cX8_tries 117 = .ok (.iload 4, 2) := dk_21 4 (dk_at dksX8_tries_4 22 rfl rfl)
theorem dX8_tries_119 : decode cX8_tries 119 = .ok (.ifCond .eq 28, 3) := dk_153 0 28 (dk_at dksX8_tries_5 0 rfl rfl)
theorem dX8_tries_122 : decode cX8_tries 122 = .ok (.aload_n 0, 1) := dk_42 (dk_at dksX8_tries_5 3 rfl rfl)
theorem dX8_tries_123 : decode cX8_tries 123 = .ok (.getfield 15, 3) := dk_180 0 15 (dk_at dksX8_tries_5 4 rfl rfl)
theorem dX8_tries_126 : decode cX8_tries 126 = .ok (.iload 5, 2) := dk_21 5 (dk_at dksX8_tries_5 7 rfl rfl)
theorem dX8_tries_128 : decode cX8_tries 128 = .ok (.iaload, 1) := dk_46 (dk_at dksX8_tries_5 9 rfl rfl)
theorem dX8_tries_129 : decode cX8_tries 129 = .ok (.iload_n 3, 1) := dk_29 (dk_at dksX8_tries_5 10 rfl rfl)
theorem dX8_tries_130 : decode cX8_tries 130 = .ok (.if_icmp .ne 13, 3) := dk_160 0 13 (dk_at dksX8_tries_5 11 rfl rfl)
theorem dX8_tries_133 : decode cX8_tries 133 = .ok (.aload_n 0, 1) := dk_42 (dk_at dksX8_tries_5 14 rfl rfl)
theorem dX8_tries_134 : decode cX8_tries 134 = .ok (.iload 5, 2) := dk_21 5 (dk_at dksX8_tries_5 15 rfl rfl)
theorem dX8_tries_136 : decode cX8_tries 136 = .ok (.iload_n 1, 1) := dk_27 (dk_at dksX8_tries_5 17 rfl rfl)
theorem dX8_tries_137 : decode cX8_tries 137 = .ok (.invokevirtual 80, 3) := dk_182 0 80 (dk_at dksX8_tries_5 18 rfl rfl)
theorem dX8_tries_140 : decode cX8_tries 140 = .ok (.ifCond .ne 7, 3) := dk_154 0 7 (dk_at dksX8_tries_5 21 rfl rfl)
theorem dX8_tries_143 : decode cX8_tries 143 = .ok (.iconst 1, 1) := dk_4 (dk_at dksX8_tries_6 0 rfl rfl)
theorem dX8_tries_144 : decode cX8_tries 144 = .ok (.goto 4, 3) := dk_167 0 4 (dk_at dksX8_tries_6 1 rfl rfl)
theorem dX8_tries_147 : decode cX8_tries 147 = .ok (.iconst 0, 1) := dk_3 (dk_at dksX8_tries_6 4 rfl rfl)
theorem dX8_tries_148 : decode cX8_tries 148 = .ok (.istore 4, 2) := dk_54 4 (dk_at dksX8_tries_6 5 rfl rfl)
theorem dX8_tries_150 : decode cX8_tries 150 = .ok (.iinc 5 1, 3) := dk_132 5 1 (dk_at dksX8_tries_6 7 rfl rfl)
theorem dX8_tries_153 : decode cX8_tries 153 = .ok (.goto (-42), 3) := dk_167 255 214 (dk_at dksX8_tries_6 10 rfl rfl)
theorem dX8_tries_156 : decode cX8_tries 156 = .ok (.iload 4, 2) := dk_21 4 (dk_at dksX8_tries_6 13 rfl rfl)
theorem dX8_tries_158 : decode cX8_tries 158 = .ok (.ifCond .ne 6, 3) := dk_154 0 6 (dk_at dksX8_tries_6 15 rfl rfl)
theorem dX8_tries_161 : decode cX8_tries 161 = .ok (.goto 22, 3) := dk_167 0 22 (dk_at dksX8_tries_6 18 rfl rfl)
theorem dX8_tries_164 : decode cX8_tries 164 = .ok (.aload_n 0, 1) := dk_42 (dk_at dksX8_tries_6 21 rfl rfl)
theorem dX8_tries_165 : decode cX8_tries 165 = .ok (.getfield 15, 3) := dk_180 0 15 (dk_at dksX8_tries_7 0 rfl rfl)
theorem dX8_tries_168 : decode cX8_tries 168 = .ok (.iload_n 1, 1) := dk_27 (dk_at dksX8_tries_7 3 rfl rfl)
theorem dX8_tries_169 : decode cX8_tries 169 = .ok (.iload_n 3, 1) := dk_29 (dk_at dksX8_tries_7 4 rfl rfl)
theorem dX8_tries_170 : decode cX8_tries 170 = .ok (.iastore, 1) := dk_79 (dk_at dksX8_tries_7 5 rfl rfl)
theorem dX8_tries_171 : decode cX8_tries 171 = .ok (.aload_n 0, 1) := dk_42 (dk_at dksX8_tries_7 6 rfl rfl)
theorem dX8_tries_172 : decode cX8_tries 172 = .ok (.iload_n 1, 1) := dk_27 (dk_at dksX8_tries_7 7 rfl rfl)
theorem dX8_tries_173 : decode cX8_tries 173 = .ok (.iconst 1, 1) := dk_4 (dk_at dksX8_tries_7 8 rfl rfl)
theorem dX8_tries_174 : decode cX8_tries 174 = .ok (.iadd, 1) := dk_96 (dk_at dksX8_tries_7 9 rfl rfl)
theorem dX8_tries_175 : decode cX8_tries 175 = .ok (.iload_n 2, 1) := dk_28 (dk_at dksX8_tries_7 10 rfl rfl)
theorem dX8_tries_176 : decode cX8_tries 176 = .ok (.iconst 1, 1) := dk_4 (dk_at dksX8_tries_7 11 rfl rfl)
theorem dX8_tries_177 : decode cX8_tries 177 = .ok (.iload_n 3, 1) := dk_29 (dk_at dksX8_tries_7 12 rfl rfl)
theorem dX8_tries_178 : decode cX8_tries 178 = .ok (.ishl, 1) := dk_120 (dk_at dksX8_tries_7 13 rfl rfl)
theorem dX8_tries_179 : decode cX8_tries 179 = .ok (.ior, 1) := dk_128 (dk_at dksX8_tries_7 14 rfl rfl)
theorem dX8_tries_180 : decode cX8_tries 180 = .ok (.invokevirtual 63, 3) := dk_182 0 63 (dk_at dksX8_tries_7 15 rfl rfl)
theorem dX8_tries_183 : decode cX8_tries 183 = .ok (.iinc 3 1, 3) := dk_132 3 1 (dk_at dksX8_tries_7 18 rfl rfl)
theorem dX8_tries_186 : decode cX8_tries 186 = .ok (.goto (-108), 3) := dk_167 255 148 (dk_at dksX8_tries_7 21 rfl rfl)
theorem dX8_tries_189 : decode cX8_tries 189 = .ok (.return_, 1) := dk_177 (dk_at dksX8_tries_8 0 rfl rfl)
abbrev cX8_meet : ByteArray := prog_4_method_3_code
def yX8_meet : MethodName := ⟨RX8, "meet", "(II)Z"⟩
def dkwX8_meet_2 : List UInt8 := [180, 0, 3, 180, 0, 33, 180, 0, 67, 5, 27, 104, 4, 96, 46, 162, 0, 7, 4, 167, 0, 4, 3, 172]
abbrev dktX8_meet_2 : List UInt8 := dkwX8_meet_2 ++ []
def dkwX8_meet_1 : List UInt8 := [5, 28, 104, 4, 96, 46, 162, 0, 40, 42, 180, 0, 3, 180, 0, 33, 180, 0, 67, 5, 28, 104, 46, 42]
abbrev dktX8_meet_1 : List UInt8 := dkwX8_meet_1 ++ dktX8_meet_2
def dkwX8_meet_0 : List UInt8 := [42, 180, 0, 3, 180, 0, 33, 180, 0, 67, 5, 27, 104, 46, 42, 180, 0, 3, 180, 0, 33, 180, 0, 67]
abbrev dktX8_meet_0 : List UInt8 := dkwX8_meet_0 ++ dktX8_meet_1
theorem dksX8_meet_0 : cX8_meet.data.toList.drop 0 = dktX8_meet_0 := by decide +kernel
theorem dksX8_meet_1 : cX8_meet.data.toList.drop 24 = dktX8_meet_1 := dk_seg dksX8_meet_0 24 rfl rfl
theorem dksX8_meet_2 : cX8_meet.data.toList.drop 48 = dktX8_meet_2 := dk_seg dksX8_meet_1 24 rfl rfl
theorem dX8_meet_0 : decode cX8_meet 0 = .ok (.aload_n 0, 1) := dk_42 (dk_at dksX8_meet_0 0 rfl rfl)
theorem dX8_meet_1 : decode cX8_meet 1 = .ok (.getfield 3, 3) := dk_180 0 3 (dk_at dksX8_meet_0 1 rfl rfl)
theorem dX8_meet_4 : decode cX8_meet 4 = .ok (.getfield 33, 3) := dk_180 0 33 (dk_at dksX8_meet_0 4 rfl rfl)
theorem dX8_meet_7 : decode cX8_meet 7 = .ok (.getfield 67, 3) := dk_180 0 67 (dk_at dksX8_meet_0 7 rfl rfl)
theorem dX8_meet_10 : decode cX8_meet 10 = .ok (.iconst 2, 1) := dk_5 (dk_at dksX8_meet_0 10 rfl rfl)
theorem dX8_meet_11 : decode cX8_meet 11 = .ok (.iload_n 1, 1) := dk_27 (dk_at dksX8_meet_0 11 rfl rfl)
theorem dX8_meet_12 : decode cX8_meet 12 = .ok (.imul, 1) := dk_104 (dk_at dksX8_meet_0 12 rfl rfl)
theorem dX8_meet_13 : decode cX8_meet 13 = .ok (.iaload, 1) := dk_46 (dk_at dksX8_meet_0 13 rfl rfl)
theorem dX8_meet_14 : decode cX8_meet 14 = .ok (.aload_n 0, 1) := dk_42 (dk_at dksX8_meet_0 14 rfl rfl)
theorem dX8_meet_15 : decode cX8_meet 15 = .ok (.getfield 3, 3) := dk_180 0 3 (dk_at dksX8_meet_0 15 rfl rfl)
theorem dX8_meet_18 : decode cX8_meet 18 = .ok (.getfield 33, 3) := dk_180 0 33 (dk_at dksX8_meet_0 18 rfl rfl)
theorem dX8_meet_21 : decode cX8_meet 21 = .ok (.getfield 67, 3) := dk_180 0 67 (dk_at dksX8_meet_0 21 rfl rfl)
theorem dX8_meet_24 : decode cX8_meet 24 = .ok (.iconst 2, 1) := dk_5 (dk_at dksX8_meet_1 0 rfl rfl)
theorem dX8_meet_25 : decode cX8_meet 25 = .ok (.iload_n 2, 1) := dk_28 (dk_at dksX8_meet_1 1 rfl rfl)
theorem dX8_meet_26 : decode cX8_meet 26 = .ok (.imul, 1) := dk_104 (dk_at dksX8_meet_1 2 rfl rfl)
theorem dX8_meet_27 : decode cX8_meet 27 = .ok (.iconst 1, 1) := dk_4 (dk_at dksX8_meet_1 3 rfl rfl)
theorem dX8_meet_28 : decode cX8_meet 28 = .ok (.iadd, 1) := dk_96 (dk_at dksX8_meet_1 4 rfl rfl)
theorem dX8_meet_29 : decode cX8_meet 29 = .ok (.iaload, 1) := dk_46 (dk_at dksX8_meet_1 5 rfl rfl)
theorem dX8_meet_30 : decode cX8_meet 30 = .ok (.if_icmp .ge 40, 3) := dk_162 0 40 (dk_at dksX8_meet_1 6 rfl rfl)
theorem dX8_meet_33 : decode cX8_meet 33 = .ok (.aload_n 0, 1) := dk_42 (dk_at dksX8_meet_1 9 rfl rfl)
theorem dX8_meet_34 : decode cX8_meet 34 = .ok (.getfield 3, 3) := dk_180 0 3 (dk_at dksX8_meet_1 10 rfl rfl)
theorem dX8_meet_37 : decode cX8_meet 37 = .ok (.getfield 33, 3) := dk_180 0 33 (dk_at dksX8_meet_1 13 rfl rfl)
theorem dX8_meet_40 : decode cX8_meet 40 = .ok (.getfield 67, 3) := dk_180 0 67 (dk_at dksX8_meet_1 16 rfl rfl)
theorem dX8_meet_43 : decode cX8_meet 43 = .ok (.iconst 2, 1) := dk_5 (dk_at dksX8_meet_1 19 rfl rfl)
theorem dX8_meet_44 : decode cX8_meet 44 = .ok (.iload_n 2, 1) := dk_28 (dk_at dksX8_meet_1 20 rfl rfl)
theorem dX8_meet_45 : decode cX8_meet 45 = .ok (.imul, 1) := dk_104 (dk_at dksX8_meet_1 21 rfl rfl)
theorem dX8_meet_46 : decode cX8_meet 46 = .ok (.iaload, 1) := dk_46 (dk_at dksX8_meet_1 22 rfl rfl)
theorem dX8_meet_47 : decode cX8_meet 47 = .ok (.aload_n 0, 1) := dk_42 (dk_at dksX8_meet_1 23 rfl rfl)
theorem dX8_meet_48 : decode cX8_meet 48 = .ok (.getfield 3, 3) := dk_180 0 3 (dk_at dksX8_meet_2 0 rfl rfl)
theorem dX8_meet_51 : decode cX8_meet 51 = .ok (.getfield 33, 3) := dk_180 0 33 (dk_at dksX8_meet_2 3 rfl rfl)
theorem dX8_meet_54 : decode cX8_meet 54 = .ok (.getfield 67, 3) := dk_180 0 67 (dk_at dksX8_meet_2 6 rfl rfl)
theorem dX8_meet_57 : decode cX8_meet 57 = .ok (.iconst 2, 1) := dk_5 (dk_at dksX8_meet_2 9 rfl rfl)
theorem dX8_meet_58 : decode cX8_meet 58 = .ok (.iload_n 1, 1) := dk_27 (dk_at dksX8_meet_2 10 rfl rfl)
theorem dX8_meet_59 : decode cX8_meet 59 = .ok (.imul, 1) := dk_104 (dk_at dksX8_meet_2 11 rfl rfl)
theorem dX8_meet_60 : decode cX8_meet 60 = .ok (.iconst 1, 1) := dk_4 (dk_at dksX8_meet_2 12 rfl rfl)
theorem dX8_meet_61 : decode cX8_meet 61 = .ok (.iadd, 1) := dk_96 (dk_at dksX8_meet_2 13 rfl rfl)
theorem dX8_meet_62 : decode cX8_meet 62 = .ok (.iaload, 1) := dk_46 (dk_at dksX8_meet_2 14 rfl rfl)
theorem dX8_meet_63 : decode cX8_meet 63 = .ok (.if_icmp .ge 7, 3) := dk_162 0 7 (dk_at dksX8_meet_2 15 rfl rfl)
theorem dX8_meet_66 : decode cX8_meet 66 = .ok (.iconst 1, 1) := dk_4 (dk_at dksX8_meet_2 18 rfl rfl)
theorem dX8_meet_67 : decode cX8_meet 67 = .ok (.goto 4, 3) := dk_167 0 4 (dk_at dksX8_meet_2 19 rfl rfl)
theorem dX8_meet_70 : decode cX8_meet 70 = .ok (.iconst 0, 1) := dk_3 (dk_at dksX8_meet_2 22 rfl rfl)
theorem dX8_meet_71 : decode cX8_meet 71 = .ok (.ireturn, 1) := dk_172 (dk_at dksX8_meet_2 23 rfl rfl)
theorem q125 : (Jvm.Cond.initialized "DeadUnderstudies$Cast") ∈ lw_all := lw_g (lw_at lw_m1 14 rfl) rfl
theorem q221 : (Jvm.Cond.fieldLinkNest "DeadUnderstudies$Cast" (67 : Nat) "DeadUnderstudies$State" "stages" "[I" "DeadUnderstudies") ∈ lw_tbl := lw_at lw_m1 110 rfl
theorem q232 : (Jvm.Cond.fieldLinkNest "DeadUnderstudies$Cast" (42 : Nat) "DeadUnderstudies$State" "people" "Ljava/util/ArrayList;" "DeadUnderstudies") ∈ lw_tbl := lw_at lw_m1 121 rfl
theorem q238 : (Jvm.Cond.fieldLinkNest "DeadUnderstudies$Cast" (37 : Nat) "DeadUnderstudies$State" "parts" "I" "DeadUnderstudies") ∈ lw_tbl := lw_at lw_m1 127 rfl
theorem q458 : (Jvm.Cond.instantiable "DeadUnderstudies$Cast" (6 : Nat)) ∈ lw_all := lw_g (lw_at lw_m2 107 rfl) rfl
theorem q460 : (Jvm.Cond.instanceMethod ({ cls := "DeadUnderstudies$Cast", name := "<init>", desc := "(LDeadUnderstudies;)V" } : Jvm.MethodName)) ∈ lw_all := lw_g (lw_at lw_m2 109 rfl) rfl
theorem q461 : (Jvm.Cond.code ({ cls := "DeadUnderstudies$Cast", name := "<init>", desc := "(LDeadUnderstudies;)V" } : Jvm.MethodName) prog_4_method_1_code (2 : Nat) (Option.none : Option Jvm.ClassFile.FieldType)) ∈ lw_all := lw_g (lw_at lw_m2 110 rfl) rfl
theorem q462 : (Jvm.Cond.methodLink "DeadUnderstudies$Cast" (9 : Nat) ({ cls := "java/lang/Object", name := "<init>", desc := "()V" } : Jvm.MethodName)) ∈ lw_all := lw_g (lw_at lw_m2 111 rfl) rfl
theorem q463 : (Jvm.Cond.fieldLink "DeadUnderstudies$Cast" (15 : Nat) "DeadUnderstudies$Cast" "row" "[I") ∈ lw_all := lw_g (lw_at lw_m2 112 rfl) rfl
theorem q464 : (Jvm.Cond.fieldLink "DeadUnderstudies$Cast" (19 : Nat) "DeadUnderstudies$Cast" "best" "[I") ∈ lw_all := lw_g (lw_at lw_m2 113 rfl) rfl
theorem q466 : (Jvm.Cond.fieldLink "DeadUnderstudies$Cast" (22 : Nat) "DeadUnderstudies$Cast" "may" "[Z") ∈ lw_all := lw_g (lw_at lw_m2 115 rfl) rfl
theorem q467 : (Jvm.Cond.fieldLink "DeadUnderstudies$Cast" (26 : Nat) "DeadUnderstudies$Cast" "fewest" "I") ∈ lw_all := lw_g (lw_at lw_m2 116 rfl) rfl
theorem q469 : (Jvm.Cond.fieldLink "DeadUnderstudies$Cast" (30 : Nat) "DeadUnderstudies$Cast" "many" "I") ∈ lw_all := lw_g (lw_at lw_m2 118 rfl) rfl
theorem q471 : (Jvm.Cond.fieldLink "DeadUnderstudies$Cast" (3 : Nat) "DeadUnderstudies$Cast" "this$0" "LDeadUnderstudies;") ∈ lw_all := lw_g (lw_at lw_m2 120 rfl) rfl
theorem q472 : (Jvm.Cond.laysFinal "DeadUnderstudies$Cast" "DeadUnderstudies$Cast" "row" "[I") ∈ lw_all := lw_g (lw_at lw_m2 121 rfl) rfl
theorem q473 : (Jvm.Cond.soleField "DeadUnderstudies$Cast" "row") ∈ lw_all := lw_g (lw_at lw_m2 122 rfl) rfl
theorem q474 : (Jvm.Cond.laysFinal "DeadUnderstudies$Cast" "DeadUnderstudies$Cast" "best" "[I") ∈ lw_all := lw_g (lw_at lw_m2 123 rfl) rfl
theorem q475 : (Jvm.Cond.soleField "DeadUnderstudies$Cast" "best") ∈ lw_all := lw_g (lw_at lw_m2 124 rfl) rfl
theorem q476 : (Jvm.Cond.laysFinal "DeadUnderstudies$Cast" "DeadUnderstudies$Cast" "may" "[Z") ∈ lw_all := lw_g (lw_at lw_m2 125 rfl) rfl
theorem q477 : (Jvm.Cond.soleField "DeadUnderstudies$Cast" "may") ∈ lw_all := lw_g (lw_at lw_m2 126 rfl) rfl
theorem q478 : (Jvm.Cond.lays "DeadUnderstudies$Cast" "DeadUnderstudies$Cast" "fewest" "I") ∈ lw_all := lw_g (lw_at lw_m2 127 rfl) rfl
theorem q479 : (Jvm.Cond.soleField "DeadUnderstudies$Cast" "fewest") ∈ lw_all := lw_g (lw_at lw_m2 128 rfl) rfl
theorem q480 : (Jvm.Cond.lays "DeadUnderstudies$Cast" "DeadUnderstudies$Cast" "many" "I") ∈ lw_all := lw_g (lw_at lw_m2 129 rfl) rfl
theorem q481 : (Jvm.Cond.soleField "DeadUnderstudies$Cast" "many") ∈ lw_all := lw_g (lw_at lw_m2 130 rfl) rfl
theorem q482 : (Jvm.Cond.laysFinal "DeadUnderstudies$Cast" "DeadUnderstudies$Cast" "this$0" "LDeadUnderstudies;") ∈ lw_all := lw_g (lw_at lw_m2 131 rfl) rfl
theorem q483 : (Jvm.Cond.soleField "DeadUnderstudies$Cast" "this$0") ∈ lw_all := lw_g (lw_at lw_m2 132 rfl) rfl
theorem q484 : (Jvm.Cond.superclass "DeadUnderstudies$Cast" "java/lang/Object") ∈ lw_all := lw_g (lw_at lw_m2 133 rfl) rfl
theorem q528 : (Jvm.Cond.fieldLinkNest "DeadUnderstudies$Cast" (33 : Nat) "DeadUnderstudies" "state" "LDeadUnderstudies$State;" "DeadUnderstudies") ∈ lw_tbl := lw_at lw_m2 177 rfl
theorem q644 : (Jvm.Cond.selects "DeadUnderstudies$Cast" ({ cls := "java/lang/Object", name := "getClass", desc := "()Ljava/lang/Class;" } : Jvm.MethodName) ({ cls := "java/lang/Object", name := "getClass", desc := "()Ljava/lang/Class;" } : Jvm.MethodName)) ∈ lw_all := lw_g (lw_at lw_m3 53 rfl) rfl
theorem q1703 : (Jvm.Cond.instanceMethod ({ cls := "DeadUnderstudies$Cast", name := "finds", desc := "()V" } : Jvm.MethodName)) ∈ lw_all := lw_g (lw_at lw_m7 152 rfl) rfl
theorem q1704 : (Jvm.Cond.selects "DeadUnderstudies$Cast" ({ cls := "DeadUnderstudies$Cast", name := "finds", desc := "()V" } : Jvm.MethodName) ({ cls := "DeadUnderstudies$Cast", name := "finds", desc := "()V" } : Jvm.MethodName)) ∈ lw_all := lw_g (lw_at lw_m7 153 rfl) rfl
theorem q1705 : (Jvm.Cond.code ({ cls := "DeadUnderstudies$Cast", name := "finds", desc := "()V" } : Jvm.MethodName) prog_4_method_2_code (3 : Nat) (Option.none : Option Jvm.ClassFile.FieldType)) ∈ lw_all := lw_g (lw_at lw_m7 154 rfl) rfl
theorem q1706 : (Jvm.Cond.methodLink "DeadUnderstudies$Cast" (46 : Nat) ({ cls := "java/util/ArrayList", name := "size", desc := "()I" } : Jvm.MethodName)) ∈ lw_all := lw_g (lw_at lw_m7 155 rfl) rfl
theorem q1707 : (Jvm.Cond.methodLinkNest "DeadUnderstudies$Cast" (52 : Nat) ({ cls := "DeadUnderstudies", name := "year", desc := "()I" } : Jvm.MethodName) "DeadUnderstudies") ∈ lw_tbl := lw_at lw_m7 156 rfl
theorem q1708 : (Jvm.Cond.methodLinkNest "DeadUnderstudies$Cast" (55 : Nat) ({ cls := "DeadUnderstudies", name := "isAlive", desc := "(II)Z" } : Jvm.MethodName) "DeadUnderstudies") ∈ lw_tbl := lw_at lw_m7 157 rfl
theorem q1709 : (Jvm.Cond.methodLinkNest "DeadUnderstudies$Cast" (59 : Nat) ({ cls := "DeadUnderstudies", name := "isBarred", desc := "(IIII)Z" } : Jvm.MethodName) "DeadUnderstudies") ∈ lw_tbl := lw_at lw_m7 158 rfl
theorem q1710 : (Jvm.Cond.methodLink "DeadUnderstudies$Cast" (63 : Nat) ({ cls := "DeadUnderstudies$Cast", name := "tries", desc := "(II)V" } : Jvm.MethodName)) ∈ lw_all := lw_g (lw_at lw_m7 159 rfl) rfl
theorem q1711 : (Jvm.Cond.privateMethod ({ cls := "DeadUnderstudies$Cast", name := "tries", desc := "(II)V" } : Jvm.MethodName)) ∈ lw_tbl := lw_at lw_m7 160 rfl
theorem q1712 : (Jvm.Cond.instanceMethod ({ cls := "DeadUnderstudies$Cast", name := "tries", desc := "(II)V" } : Jvm.MethodName)) ∈ lw_all := lw_g (lw_at lw_m7 161 rfl) rfl
theorem q1713 : (Jvm.Cond.code ({ cls := "DeadUnderstudies$Cast", name := "tries", desc := "(II)V" } : Jvm.MethodName) prog_4_method_4_code (6 : Nat) (Option.none : Option Jvm.ClassFile.FieldType)) ∈ lw_all := lw_g (lw_at lw_m7 162 rfl) rfl
theorem q1714 : (Jvm.Cond.methodLinkNest "DeadUnderstudies$Cast" (70 : Nat) ({ cls := "DeadUnderstudies", name := "ones", desc := "(I)I" } : Jvm.MethodName) "DeadUnderstudies") ∈ lw_tbl := lw_at lw_m7 163 rfl
theorem q1715 : (Jvm.Cond.methodLink "DeadUnderstudies$Cast" (74 : Nat) ({ cls := "java/lang/System", name := "arraycopy", desc := "(Ljava/lang/Object;ILjava/lang/Object;II)V" } : Jvm.MethodName)) ∈ lw_all := lw_g (lw_at lw_m7 164 rfl) rfl
theorem q1716 : (Jvm.Cond.methodLink "DeadUnderstudies$Cast" (80 : Nat) ({ cls := "DeadUnderstudies$Cast", name := "meet", desc := "(II)Z" } : Jvm.MethodName)) ∈ lw_all := lw_g (lw_at lw_m7 165 rfl) rfl
theorem q1717 : (Jvm.Cond.privateMethod ({ cls := "DeadUnderstudies$Cast", name := "meet", desc := "(II)Z" } : Jvm.MethodName)) ∈ lw_tbl := lw_at lw_m7 166 rfl
theorem q1718 : (Jvm.Cond.instanceMethod ({ cls := "DeadUnderstudies$Cast", name := "meet", desc := "(II)Z" } : Jvm.MethodName)) ∈ lw_all := lw_g (lw_at lw_m7 167 rfl) rfl
theorem q1719 : (Jvm.Cond.code ({ cls := "DeadUnderstudies$Cast", name := "meet", desc := "(II)Z" } : Jvm.MethodName) prog_4_method_3_code (3 : Nat) (Option.some Jvm.ClassFile.FieldType.boolean)) ∈ lw_all := lw_g (lw_at lw_m7 168 rfl) rfl
theorem q2608 : (Jvm.Cond.castable "DeadUnderstudies$Cast" "java/lang/Object") ∈ lw_tbl := lw_at lw_m11 97 rfl
theorem in_X8 : ∀ w ∈ wsX80, w ∈ lw_all := lw_in wsX80 [472, 474, 476, 478, 480, 482] (by decide +kernel) (by decide +kernel)
/-! DeadUnderstudies$Least -/
def RX9 : String := "DeadUnderstudies$Least"
def TX9 : u_T := fun k => match k with
  | 0 => ("DeadUnderstudies$Least", "order", "[I", true)
  | 1 => ("DeadUnderstudies$Least", "words", "[I", true)
  | 2 => ("DeadUnderstudies$Least", "nexts", "[I", true)
  | 3 => ("DeadUnderstudies$Least", "size", "I", false)
  | 4 => ("DeadUnderstudies$Least", "many", "I", false)
  | 5 => ("DeadUnderstudies$Least", "states", "I", false)
  | 6 => ("DeadUnderstudies$Least", "wanted", "I", false)
  | 7 => ("DeadUnderstudies$Least", "wantedCue", "I", false)
  | 8 => ("DeadUnderstudies$Least", "would", "I", false)
  | _ => ("DeadUnderstudies$Least", "this$0", "LDeadUnderstudies;", true)
def tyX9 : Nat → FieldType := fun k => match k with
  | 0 => .array .int
  | 1 => .array .int
  | 2 => .array .int
  | 3 => .int
  | 4 => .int
  | 5 => .int
  | 6 => .int
  | 7 => .int
  | 8 => .int
  | _ => .object "DeadUnderstudies"
abbrev wsX90 : List Cond := u_ws RX9 TX9 10
theorem nmX9 : ∀ a, a < 10 → ∀ b, b < 10 → a ≠ b → (TX9 a).2.1 ≠ (TX9 b).2.1 := by decide +kernel
theorem tyX9_ok : ∀ k, k < 10 → parseFieldDescriptor (TX9 k).2.2.1 = some (tyX9 k) := by decide +kernel
abbrev cX9_init : ByteArray := prog_11_method_1_code
def yX9_init : MethodName := ⟨RX9, "<init>", "(LDeadUnderstudies;)V"⟩
def dkwX9_init_1 : List UInt8 := [181, 0, 19, 42, 16, 18, 188, 10, 181, 0, 22, 177]
abbrev dktX9_init_1 : List UInt8 := dkwX9_init_1 ++ []
def dkwX9_init_0 : List UInt8 := [42, 43, 181, 0, 3, 42, 183, 0, 9, 42, 16, 12, 188, 10, 181, 0, 15, 42, 16, 18, 188, 10]
abbrev dktX9_init_0 : List UInt8 := dkwX9_init_0 ++ dktX9_init_1
theorem dksX9_init_0 : cX9_init.data.toList.drop 0 = dktX9_init_0 := by decide +kernel
theorem dksX9_init_1 : cX9_init.data.toList.drop 22 = dktX9_init_1 := dk_seg dksX9_init_0 22 rfl rfl
theorem dX9_init_0 : decode cX9_init 0 = .ok (.aload_n 0, 1) := dk_42 (dk_at dksX9_init_0 0 rfl rfl)
theorem dX9_init_1 : decode cX9_init 1 = .ok (.aload_n 1, 1) := dk_43 (dk_at dksX9_init_0 1 rfl rfl)
theorem dX9_init_2 : decode cX9_init 2 = .ok (.putfield 3, 3) := dk_181 0 3 (dk_at dksX9_init_0 2 rfl rfl)
theorem dX9_init_5 : decode cX9_init 5 = .ok (.aload_n 0, 1) := dk_42 (dk_at dksX9_init_0 5 rfl rfl)
theorem dX9_init_6 : decode cX9_init 6 = .ok (.invokespecial 9, 3) := dk_183 0 9 (dk_at dksX9_init_0 6 rfl rfl)
theorem dX9_init_9 : decode cX9_init 9 = .ok (.aload_n 0, 1) := dk_42 (dk_at dksX9_init_0 9 rfl rfl)
theorem dX9_init_10 : decode cX9_init 10 = .ok (.bipush 12, 2) := dk_16 12 (dk_at dksX9_init_0 10 rfl rfl)
theorem dX9_init_12 : decode cX9_init 12 = .ok (.newarray .int, 2) := dk_188_10 (dk_at dksX9_init_0 12 rfl rfl)
theorem dX9_init_14 : decode cX9_init 14 = .ok (.putfield 15, 3) := dk_181 0 15 (dk_at dksX9_init_0 14 rfl rfl)
theorem dX9_init_17 : decode cX9_init 17 = .ok (.aload_n 0, 1) := dk_42 (dk_at dksX9_init_0 17 rfl rfl)
theorem dX9_init_18 : decode cX9_init 18 = .ok (.bipush 18, 2) := dk_16 18 (dk_at dksX9_init_0 18 rfl rfl)
theorem dX9_init_20 : decode cX9_init 20 = .ok (.newarray .int, 2) := dk_188_10 (dk_at dksX9_init_0 20 rfl rfl)
theorem dX9_init_22 : decode cX9_init 22 = .ok (.putfield 19, 3) := dk_181 0 19 (dk_at dksX9_init_1 0 rfl rfl)
theorem dX9_init_25 : decode cX9_init 25 = .ok (.aload_n 0, 1) := dk_42 (dk_at dksX9_init_1 3 rfl rfl)
theorem dX9_init_26 : decode cX9_init 26 = .ok (.bipush 18, 2) := dk_16 18 (dk_at dksX9_init_1 4 rfl rfl)
theorem dX9_init_28 : decode cX9_init 28 = .ok (.newarray .int, 2) := dk_188_10 (dk_at dksX9_init_1 6 rfl rfl)
theorem dX9_init_30 : decode cX9_init 30 = .ok (.putfield 22, 3) := dk_181 0 22 (dk_at dksX9_init_1 8 rfl rfl)
theorem dX9_init_33 : decode cX9_init 33 = .ok (.return_, 1) := dk_177 (dk_at dksX9_init_1 11 rfl rfl)
abbrev cX9_finds : ByteArray := prog_11_method_2_code
def yX9_finds : MethodName := ⟨RX9, "finds", "(II)I"⟩
def dkwX9_finds_7 : List UInt8 := [180, 0, 47, 172, 42, 89, 180, 0, 47, 4, 96, 181, 0, 47, 167, 255, 181, 2, 172]
abbrev dktX9_finds_7 : List UInt8 := dkwX9_finds_7 ++ []
def dkwX9_finds_6 : List UInt8 := [79, 132, 3, 1, 167, 255, 233, 42, 3, 3, 4, 182, 0, 56, 42, 180, 0, 50, 158, 0, 8, 42]
abbrev dktX9_finds_6 : List UInt8 := dkwX9_finds_6 ++ dktX9_finds_7
def dkwX9_finds_5 : List UInt8 := [181, 0, 53, 3, 62, 29, 16, 18, 162, 0, 23, 42, 180, 0, 19, 29, 2, 79, 42, 180, 0, 22, 29, 2]
abbrev dktX9_finds_5 : List UInt8 := dkwX9_finds_5 ++ dktX9_finds_6
def dkwX9_finds_4 : List UInt8 := [181, 0, 44, 42, 4, 181, 0, 47, 42, 180, 0, 47, 6, 163, 0, 73, 42, 3, 181, 0, 50, 42, 3]
abbrev dktX9_finds_4 : List UInt8 := dkwX9_finds_4 ++ dktX9_finds_5
def dkwX9_finds_3 : List UInt8 := [181, 0, 25, 132, 4, 1, 167, 255, 195, 132, 3, 1, 167, 255, 181, 42, 27, 181, 0, 41, 42, 28]
abbrev dktX9_finds_3 : List UInt8 := dkwX9_finds_3 ++ dktX9_finds_4
def dkwX9_finds_2 : List UInt8 := [159, 0, 6, 167, 0, 24, 42, 180, 0, 15, 42, 180, 0, 25, 21, 4, 79, 42, 89, 180, 0, 25, 4, 96]
abbrev dktX9_finds_2 : List UInt8 := dkwX9_finds_2 ++ dktX9_finds_3
def dkwX9_finds_1 : List UInt8 := [180, 0, 33, 162, 0, 52, 42, 180, 0, 3, 180, 0, 29, 180, 0, 38, 6, 21, 4, 104, 46, 29]
abbrev dktX9_finds_1 : List UInt8 := dkwX9_finds_1 ++ dktX9_finds_2
def dkwX9_finds_0 : List UInt8 := [42, 3, 181, 0, 25, 3, 62, 29, 7, 162, 0, 76, 3, 54, 4, 21, 4, 42, 180, 0, 3, 180, 0, 29]
abbrev dktX9_finds_0 : List UInt8 := dkwX9_finds_0 ++ dktX9_finds_1
theorem dksX9_finds_0 : cX9_finds.data.toList.drop 0 = dktX9_finds_0 := by decide +kernel
theorem dksX9_finds_1 : cX9_finds.data.toList.drop 24 = dktX9_finds_1 := dk_seg dksX9_finds_0 24 rfl rfl
theorem dksX9_finds_2 : cX9_finds.data.toList.drop 46 = dktX9_finds_2 := dk_seg dksX9_finds_1 22 rfl rfl
theorem dksX9_finds_3 : cX9_finds.data.toList.drop 70 = dktX9_finds_3 := dk_seg dksX9_finds_2 24 rfl rfl
theorem dksX9_finds_4 : cX9_finds.data.toList.drop 92 = dktX9_finds_4 := dk_seg dksX9_finds_3 22 rfl rfl
theorem dksX9_finds_5 : cX9_finds.data.toList.drop 115 = dktX9_finds_5 := dk_seg dksX9_finds_4 23 rfl rfl
theorem dksX9_finds_6 : cX9_finds.data.toList.drop 139 = dktX9_finds_6 := dk_seg dksX9_finds_5 24 rfl rfl
theorem dksX9_finds_7 : cX9_finds.data.toList.drop 161 = dktX9_finds_7 := dk_seg dksX9_finds_6 22 rfl rfl
theorem dX9_finds_0 : decode cX9_finds 0 = .ok (.aload_n 0, 1) := dk_42 (dk_at dksX9_finds_0 0 rfl rfl)
theorem dX9_finds_1 : decode cX9_finds 1 = .ok (.iconst 0, 1) := dk_3 (dk_at dksX9_finds_0 1 rfl rfl)
theorem dX9_finds_2 : decode cX9_finds 2 = .ok (.putfield 25, 3) := dk_181 0 25 (dk_at dksX9_finds_0 2 rfl rfl)
theorem dX9_finds_5 : decode cX9_finds 5 = .ok (.iconst 0, 1) := dk_3 (dk_at dksX9_finds_0 5 rfl rfl)
theorem dX9_finds_6 : decode cX9_finds 6 = .ok (.istore_n 3, 1) := dk_62 (dk_at dksX9_finds_0 6 rfl rfl)
theorem dX9_finds_7 : decode cX9_finds 7 = .ok (.iload_n 3, 1) := dk_29 (dk_at dksX9_finds_0 7 rfl rfl)
theorem dX9_finds_8 : decode cX9_finds 8 = .ok (.iconst 4, 1) := dk_7 (dk_at dksX9_finds_0 8 rfl rfl)
theorem dX9_finds_9 : decode cX9_finds 9 = .ok (.if_icmp .ge 76, 3) := dk_162 0 76 (dk_at dksX9_finds_0 9 rfl rfl)
theorem dX9_finds_12 : decode cX9_finds 12 = .ok (.iconst 0, 1) := dk_3 (dk_at dksX9_finds_0 12 rfl rfl)
theorem dX9_finds_13 : decode cX9_finds 13 = .ok (.istore 4, 2) := dk_54 4 (dk_at dksX9_finds_0 13 rfl rfl)
theorem dX9_finds_15 : decode cX9_finds 15 = .ok (.iload 4, 2) := dk_21 4 (dk_at dksX9_finds_0 15 rfl rfl)
theorem dX9_finds_17 : decode cX9_finds 17 = .ok (.aload_n 0, 1) := dk_42 (dk_at dksX9_finds_0 17 rfl rfl)
theorem dX9_finds_18 : decode cX9_finds 18 = .ok (.getfield 3, 3) := dk_180 0 3 (dk_at dksX9_finds_0 18 rfl rfl)
theorem dX9_finds_21 : decode cX9_finds 21 = .ok (.getfield 29, 3) := dk_180 0 29 (dk_at dksX9_finds_0 21 rfl rfl)
theorem dX9_finds_24 : decode cX9_finds 24 = .ok (.getfield 33, 3) := dk_180 0 33 (dk_at dksX9_finds_1 0 rfl rfl)
theorem dX9_finds_27 : decode cX9_finds 27 = .ok (.if_icmp .ge 52, 3) := dk_162 0 52 (dk_at dksX9_finds_1 3 rfl rfl)
theorem dX9_finds_30 : decode cX9_finds 30 = .ok (.aload_n 0, 1) := dk_42 (dk_at dksX9_finds_1 6 rfl rfl)
theorem dX9_finds_31 : decode cX9_finds 31 = .ok (.getfield 3, 3) := dk_180 0 3 (dk_at dksX9_finds_1 7 rfl rfl)
theorem dX9_finds_34 : decode cX9_finds 34 = .ok (.getfield 29, 3) := dk_180 0 29 (dk_at dksX9_finds_1 10 rfl rfl)
theorem dX9_finds_37 : decode cX9_finds 37 = .ok (.getfield 38, 3) := dk_180 0 38 (dk_at dksX9_finds_1 13 rfl rfl)
theorem dX9_finds_40 : decode cX9_finds 40 = .ok (.iconst 3, 1) := dk_6 (dk_at dksX9_finds_1 16 rfl rfl)
theorem dX9_finds_41 : decode cX9_finds 41 = .ok (.iload 4, 2) := dk_21 4 (dk_at dksX9_finds_1 17 rfl rfl)
theorem dX9_finds_43 : decode cX9_finds 43 = .ok (.imul, 1) := dk_104 (dk_at dksX9_finds_1 19 rfl rfl)
theorem dX9_finds_44 : decode cX9_finds 44 = .ok (.iaload, 1) := dk_46 (dk_at dksX9_finds_1 20 rfl rfl)
theorem dX9_finds_45 : decode cX9_finds 45 = .ok (.iload_n 3, 1) := dk_29 (dk_at dksX9_finds_1 21 rfl rfl)
theorem dX9_finds_46 : decode cX9_finds 46 = .ok (.if_icmp .eq 6, 3) := dk_159 0 6 (dk_at dksX9_finds_2 0 rfl rfl)
theorem dX9_finds_49 : decode cX9_finds 49 = .ok (.goto 24, 3) := dk_167 0 24 (dk_at dksX9_finds_2 3 rfl rfl)
theorem dX9_finds_52 : decode cX9_finds 52 = .ok (.aload_n 0, 1) := dk_42 (dk_at dksX9_finds_2 6 rfl rfl)
theorem dX9_finds_53 : decode cX9_finds 53 = .ok (.getfield 15, 3) := dk_180 0 15 (dk_at dksX9_finds_2 7 rfl rfl)
theorem dX9_finds_56 : decode cX9_finds 56 = .ok (.aload_n 0, 1) := dk_42 (dk_at dksX9_finds_2 10 rfl rfl)
theorem dX9_finds_57 : decode cX9_finds 57 = .ok (.getfield 25, 3) := dk_180 0 25 (dk_at dksX9_finds_2 11 rfl rfl)
theorem dX9_finds_60 : decode cX9_finds 60 = .ok (.iload 4, 2) := dk_21 4 (dk_at dksX9_finds_2 14 rfl rfl)
theorem dX9_finds_62 : decode cX9_finds 62 = .ok (.iastore, 1) := dk_79 (dk_at dksX9_finds_2 16 rfl rfl)
theorem dX9_finds_63 : decode cX9_finds 63 = .ok (.aload_n 0, 1) := dk_42 (dk_at dksX9_finds_2 17 rfl rfl)
theorem dX9_finds_64 : decode cX9_finds 64 = .ok (.dup, 1) := dk_89 (dk_at dksX9_finds_2 18 rfl rfl)
theorem dX9_finds_65 : decode cX9_finds 65 = .ok (.getfield 25, 3) := dk_180 0 25 (dk_at dksX9_finds_2 19 rfl rfl)
theorem dX9_finds_68 : decode cX9_finds 68 = .ok (.iconst 1, 1) := dk_4 (dk_at dksX9_finds_2 22 rfl rfl)
theorem dX9_finds_69 : decode cX9_finds 69 = .ok (.iadd, 1) := dk_96 (dk_at dksX9_finds_2 23 rfl rfl)
theorem dX9_finds_70 : decode cX9_finds 70 = .ok (.putfield 25, 3) := dk_181 0 25 (dk_at dksX9_finds_3 0 rfl rfl)
theorem dX9_finds_73 : decode cX9_finds 73 = .ok (.iinc 4 1, 3) := dk_132 4 1 (dk_at dksX9_finds_3 3 rfl rfl)
theorem dX9_finds_76 : decode cX9_finds 76 = .ok (.goto (-61), 3) := dk_167 255 195 (dk_at dksX9_finds_3 6 rfl rfl)
theorem dX9_finds_79 : decode cX9_finds 79 = .ok (.iinc 3 1, 3) := dk_132 3 1 (dk_at dksX9_finds_3 9 rfl rfl)
theorem dX9_finds_82 : decode cX9_finds 82 = .ok (.goto (-75), 3) := dk_167 255 181 (dk_at dksX9_finds_3 12 rfl rfl)
theorem dX9_finds_85 : decode cX9_finds 85 = .ok (.aload_n 0, 1) := dk_42 (dk_at dksX9_finds_3 15 rfl rfl)
theorem dX9_finds_86 : decode cX9_finds 86 = .ok (.iload_n 1, 1) := dk_27 (dk_at dksX9_finds_3 16 rfl rfl)
theorem dX9_finds_87 : decode cX9_finds 87 = .ok (.putfield 41, 3) := dk_181 0 41 (dk_at dksX9_finds_3 17 rfl rfl)
theorem dX9_finds_90 : decode cX9_finds 90 = .ok (.aload_n 0, 1) := dk_42 (dk_at dksX9_finds_3 20 rfl rfl)
theorem dX9_finds_91 : decode cX9_finds 91 = .ok (.iload_n 2, 1) := dk_28 (dk_at dksX9_finds_3 21 rfl rfl)
theorem dX9_finds_92 : decode cX9_finds 92 = .ok (.putfield 44, 3) := dk_181 0 44 (dk_at dksX9_finds_4 0 rfl rfl)
theorem dX9_finds_95 : decode cX9_finds 95 = .ok (.aload_n 0, 1) := dk_42 (dk_at dksX9_finds_4 3 rfl rfl)
theorem dX9_finds_96 : decode cX9_finds 96 = .ok (.iconst 1, 1) := dk_4 (dk_at dksX9_finds_4 4 rfl rfl)
theorem dX9_finds_97 : decode cX9_finds 97 = .ok (.putfield 47, 3) := dk_181 0 47 (dk_at dksX9_finds_4 5 rfl rfl)
theorem dX9_finds_100 : decode cX9_finds 100 = .ok (.aload_n 0, 1) := dk_42 (dk_at dksX9_finds_4 8 rfl rfl)
theorem dX9_finds_101 : decode cX9_finds 101 = .ok (.getfield 47, 3) := dk_180 0 47 (dk_at dksX9_finds_4 9 rfl rfl)
theorem dX9_finds_104 : decode cX9_finds 104 = .ok (.iconst 3, 1) := dk_6 (dk_at dksX9_finds_4 12 rfl rfl)
theorem dX9_finds_105 : decode cX9_finds 105 = .ok (.if_icmp .gt 73, 3) := dk_163 0 73 (dk_at dksX9_finds_4 13 rfl rfl)
theorem dX9_finds_108 : decode cX9_finds 108 = .ok (.aload_n 0, 1) := dk_42 (dk_at dksX9_finds_4 16 rfl rfl)
theorem dX9_finds_109 : decode cX9_finds 109 = .ok (.iconst 0, 1) := dk_3 (dk_at dksX9_finds_4 17 rfl rfl)
theorem dX9_finds_110 : decode cX9_finds 110 = .ok (.putfield 50, 3) := dk_181 0 50 (dk_at dksX9_finds_4 18 rfl rfl)
theorem dX9_finds_113 : decode cX9_finds 113 = .ok (.aload_n 0, 1) := dk_42 (dk_at dksX9_finds_4 21 rfl rfl)
theorem dX9_finds_114 : decode cX9_finds 114 = .ok (.iconst 0, 1) := dk_3 (dk_at dksX9_finds_4 22 rfl rfl)
theorem dX9_finds_115 : decode cX9_finds 115 = .ok (.putfield 53, 3) := dk_181 0 53 (dk_at dksX9_finds_5 0 rfl rfl)
theorem dX9_finds_118 : decode cX9_finds 118 = .ok (.iconst 0, 1) := dk_3 (dk_at dksX9_finds_5 3 rfl rfl)
theorem dX9_finds_119 : decode cX9_finds 119 = .ok (.istore_n 3, 1) := dk_62 (dk_at dksX9_finds_5 4 rfl rfl)
theorem dX9_finds_120 : decode cX9_finds 120 = .ok (.iload_n 3, 1) := dk_29 (dk_at dksX9_finds_5 5 rfl rfl)
theorem dX9_finds_121 : decode cX9_finds 121 = .ok (.bipush 18, 2) := dk_16 18 (dk_at dksX9_finds_5 6 rfl rfl)
theorem dX9_finds_123 : decode cX9_finds 123 = .ok (.if_icmp .ge 23, 3) := dk_162 0 23 (dk_at dksX9_finds_5 8 rfl rfl)
theorem dX9_finds_126 : decode cX9_finds 126 = .ok (.aload_n 0, 1) := dk_42 (dk_at dksX9_finds_5 11 rfl rfl)
theorem dX9_finds_127 : decode cX9_finds 127 = .ok (.getfield 19, 3) := dk_180 0 19 (dk_at dksX9_finds_5 12 rfl rfl)
theorem dX9_finds_130 : decode cX9_finds 130 = .ok (.iload_n 3, 1) := dk_29 (dk_at dksX9_finds_5 15 rfl rfl)
theorem dX9_finds_131 : decode cX9_finds 131 = .ok (.iconst (-1), 1) := dk_2 (dk_at dksX9_finds_5 16 rfl rfl)
theorem dX9_finds_132 : decode cX9_finds 132 = .ok (.iastore, 1) := dk_79 (dk_at dksX9_finds_5 17 rfl rfl)
theorem dX9_finds_133 : decode cX9_finds 133 = .ok (.aload_n 0, 1) := dk_42 (dk_at dksX9_finds_5 18 rfl rfl)
theorem dX9_finds_134 : decode cX9_finds 134 = .ok (.getfield 22, 3) := dk_180 0 22 (dk_at dksX9_finds_5 19 rfl rfl)
theorem dX9_finds_137 : decode cX9_finds 137 = .ok (.iload_n 3, 1) := dk_29 (dk_at dksX9_finds_5 22 rfl rfl)
theorem dX9_finds_138 : decode cX9_finds 138 = .ok (.iconst (-1), 1) := dk_2 (dk_at dksX9_finds_5 23 rfl rfl)
theorem dX9_finds_139 : decode cX9_finds 139 = .ok (.iastore, 1) := dk_79 (dk_at dksX9_finds_6 0 rfl rfl)
theorem dX9_finds_140 : decode cX9_finds 140 = .ok (.iinc 3 1, 3) := dk_132 3 1 (dk_at dksX9_finds_6 1 rfl rfl)
theorem dX9_finds_143 : decode cX9_finds 143 = .ok (.goto (-23), 3) := dk_167 255 233 (dk_at dksX9_finds_6 4 rfl rfl)
theorem dX9_finds_146 : decode cX9_finds 146 = .ok (.aload_n 0, 1) := dk_42 (dk_at dksX9_finds_6 7 rfl rfl)
theorem dX9_finds_147 : decode cX9_finds 147 = .ok (.iconst 0, 1) := dk_3 (dk_at dksX9_finds_6 8 rfl rfl)
theorem dX9_finds_148 : decode cX9_finds 148 = .ok (.iconst 0, 1) := dk_3 (dk_at dksX9_finds_6 9 rfl rfl)
theorem dX9_finds_149 : decode cX9_finds 149 = .ok (.iconst 1, 1) := dk_4 (dk_at dksX9_finds_6 10 rfl rfl)
theorem dX9_finds_150 : decode cX9_finds 150 = .ok (.invokevirtual 56, 3) := dk_182 0 56 (dk_at dksX9_finds_6 11 rfl rfl)
theorem dX9_finds_153 : decode cX9_finds 153 = .ok (.aload_n 0, 1) := dk_42 (dk_at dksX9_finds_6 14 rfl rfl)
theorem dX9_finds_154 : decode cX9_finds 154 = .ok (.getfield 50, 3) := dk_180 0 50 (dk_at dksX9_finds_6 15 rfl rfl)
theorem dX9_finds_157 : decode cX9_finds 157 = .ok (.ifCond .le 8, 3) := dk_158 0 8 (dk_at dksX9_finds_6 18 rfl rfl)
theorem dX9_finds_160 : decode cX9_finds 160 = .ok (.aload_n 0, 1) := dk_42 (dk_at dksX9_finds_6 21 rfl rfl)
theorem dX9_finds_161 : decode cX9_finds 161 = .ok (.getfield 47, 3) := dk_180 0 47 (dk_at dksX9_finds_7 0 rfl rfl)
theorem dX9_finds_164 : decode cX9_finds 164 = .ok (.ireturn, 1) := dk_172 (dk_at dksX9_finds_7 3 rfl rfl)
theorem dX9_finds_165 : decode cX9_finds 165 = .ok (.aload_n 0, 1) := dk_42 (dk_at dksX9_finds_7 4 rfl rfl)
theorem dX9_finds_166 : decode cX9_finds 166 = .ok (.dup, 1) := dk_89 (dk_at dksX9_finds_7 5 rfl rfl)
theorem dX9_finds_167 : decode cX9_finds 167 = .ok (.getfield 47, 3) := dk_180 0 47 (dk_at dksX9_finds_7 6 rfl rfl)
theorem dX9_finds_170 : decode cX9_finds 170 = .ok (.iconst 1, 1) := dk_4 (dk_at dksX9_finds_7 9 rfl rfl)
theorem dX9_finds_171 : decode cX9_finds 171 = .ok (.iadd, 1) := dk_96 (dk_at dksX9_finds_7 10 rfl rfl)
theorem dX9_finds_172 : decode cX9_finds 172 = .ok (.putfield 47, 3) := dk_181 0 47 (dk_at dksX9_finds_7 11 rfl rfl)
theorem dX9_finds_175 : decode cX9_finds 175 = .ok (.goto (-75), 3) := dk_167 255 181 (dk_at dksX9_finds_7 14 rfl rfl)
theorem dX9_finds_178 : decode cX9_finds 178 = .ok (.iconst (-1), 1) := dk_2 (dk_at dksX9_finds_7 17 rfl rfl)
theorem dX9_finds_179 : decode cX9_finds 179 = .ok (.ireturn, 1) := dk_172 (dk_at dksX9_finds_7 18 rfl rfl)
abbrev cX9_tries : ByteArray := prog_11_method_4_code
def yX9_tries : MethodName := ⟨RX9, "tries", "(III)V"⟩
def dkwX9_tries_10 : List UInt8 := [21, 4, 2, 79, 42, 180, 0, 19, 21, 4, 21, 6, 79, 177]
abbrev dktX9_tries_10 : List UInt8 := dkwX9_tries_10 ++ []
def dkwX9_tries_9 : List UInt8 := [96, 21, 7, 29, 21, 7, 4, 96, 184, 0, 68, 182, 0, 56, 132, 7, 1, 167, 255, 212, 42, 180, 0, 22]
abbrev dktX9_tries_9 : List UInt8 := dkwX9_tries_9 ++ dktX9_tries_10
def dkwX9_tries_8 : List UInt8 := [163, 0, 44, 21, 7, 42, 180, 0, 47, 162, 0, 35, 42, 180, 0, 22, 21, 4, 21, 7, 79, 42, 27, 4]
abbrev dktX9_tries_8 : List UInt8 := dkwX9_tries_8 ++ dktX9_tries_9
def dkwX9_tries_7 : List UInt8 := [4, 96, 42, 180, 0, 22, 21, 4, 46, 29, 182, 0, 56, 167, 0, 61, 3, 54, 7, 21, 7, 29]
abbrev dktX9_tries_7 : List UInt8 := dkwX9_tries_7 ++ dktX9_tries_8
def dkwX9_tries_6 : List UInt8 := [27, 4, 96, 3, 29, 182, 0, 56, 167, 0, 90, 42, 180, 0, 22, 21, 4, 46, 2, 159, 0, 21, 42, 27]
abbrev dktX9_tries_6 : List UInt8 := dkwX9_tries_6 ++ dktX9_tries_7
def dkwX9_tries_5 : List UInt8 := [180, 0, 19, 21, 4, 21, 5, 79, 42, 27, 4, 96, 182, 0, 64, 42, 27, 182, 0, 64, 159, 0, 15, 42]
abbrev dktX9_tries_5 : List UInt8 := dkwX9_tries_5 ++ dktX9_tries_6
def dkwX9_tries_4 : List UInt8 := [180, 0, 19, 21, 4, 46, 54, 6, 21, 6, 2, 159, 0, 11, 21, 6, 21, 5, 159, 0, 4, 177, 42]
abbrev dktX9_tries_4 : List UInt8 := dkwX9_tries_4 ++ dktX9_tries_5
def dkwX9_tries_3 : List UInt8 := [180, 0, 3, 180, 0, 29, 180, 0, 38, 6, 42, 180, 0, 15, 27, 46, 104, 5, 96, 46, 54, 5, 42]
abbrev dktX9_tries_3 : List UInt8 := dkwX9_tries_3 ++ dktX9_tries_4
def dkwX9_tries_2 : List UInt8 := [180, 0, 3, 180, 0, 29, 180, 0, 38, 6, 42, 180, 0, 15, 27, 46, 104, 4, 96, 46, 96, 54, 4, 42]
abbrev dktX9_tries_2 : List UInt8 := dkwX9_tries_2 ++ dktX9_tries_3
def dkwX9_tries_1 : List UInt8 := [159, 0, 16, 42, 89, 180, 0, 53, 42, 182, 0, 60, 128, 181, 0, 53, 177, 16, 6, 28, 104, 42]
abbrev dktX9_tries_1 : List UInt8 := dkwX9_tries_1 ++ dktX9_tries_2
def dkwX9_tries_0 : List UInt8 := [27, 42, 180, 0, 25, 160, 0, 35, 42, 89, 180, 0, 50, 4, 96, 181, 0, 50, 42, 180, 0, 41, 2]
abbrev dktX9_tries_0 : List UInt8 := dkwX9_tries_0 ++ dktX9_tries_1
theorem dksX9_tries_0 : cX9_tries.data.toList.drop 0 = dktX9_tries_0 := by decide +kernel
theorem dksX9_tries_1 : cX9_tries.data.toList.drop 23 = dktX9_tries_1 := dk_seg dksX9_tries_0 23 rfl rfl
theorem dksX9_tries_2 : cX9_tries.data.toList.drop 45 = dktX9_tries_2 := dk_seg dksX9_tries_1 22 rfl rfl
theorem dksX9_tries_3 : cX9_tries.data.toList.drop 69 = dktX9_tries_3 := dk_seg dksX9_tries_2 24 rfl rfl
theorem dksX9_tries_4 : cX9_tries.data.toList.drop 92 = dktX9_tries_4 := dk_seg dksX9_tries_3 23 rfl rfl
theorem dksX9_tries_5 : cX9_tries.data.toList.drop 115 = dktX9_tries_5 := dk_seg dksX9_tries_4 23 rfl rfl
theorem dksX9_tries_6 : cX9_tries.data.toList.drop 139 = dktX9_tries_6 := dk_seg dksX9_tries_5 24 rfl rfl
theorem dksX9_tries_7 : cX9_tries.data.toList.drop 163 = dktX9_tries_7 := dk_seg dksX9_tries_6 24 rfl rfl
theorem dksX9_tries_8 : cX9_tries.data.toList.drop 185 = dktX9_tries_8 := dk_seg dksX9_tries_7 22 rfl rfl
theorem dksX9_tries_9 : cX9_tries.data.toList.drop 209 = dktX9_tries_9 := dk_seg dksX9_tries_8 24 rfl rfl
theorem dksX9_tries_10 : cX9_tries.data.toList.drop 233 = dktX9_tries_10 := dk_seg dksX9_tries_9 24 rfl rfl
theorem dX9_tries_0 : decode cX9_tries 0 = .ok (.iload_n 1, 1) := dk_27 (dk_at dksX9_tries_0 0 rfl rfl)
theorem dX9_tries_1 : decode cX9_tries 1 = .ok (.aload_n 0, 1) := dk_42 (dk_at dksX9_tries_0 1 rfl rfl)
theorem dX9_tries_2 : decode cX9_tries 2 = .ok (.getfield 25, 3) := dk_180 0 25 (dk_at dksX9_tries_0 2 rfl rfl)
theorem dX9_tries_5 : decode cX9_tries 5 = .ok (.if_icmp .ne 35, 3) := dk_160 0 35 (dk_at dksX9_tries_0 5 rfl rfl)
theorem dX9_tries_8 : decode cX9_tries 8 = .ok (.aload_n 0, 1) := dk_42 (dk_at dksX9_tries_0 8 rfl rfl)
theorem dX9_tries_9 : decode cX9_tries 9 = .ok (.dup, 1) := dk_89 (dk_at dksX9_tries_0 9 rfl rfl)
theorem dX9_tries_10 : decode cX9_tries 10 = .ok (.getfield 50, 3) := dk_180 0 50 (dk_at dksX9_tries_0 10 rfl rfl)
theorem dX9_tries_13 : decode cX9_tries 13 = .ok (.iconst 1, 1) := dk_4 (dk_at dksX9_tries_0 13 rfl rfl)
theorem dX9_tries_14 : decode cX9_tries 14 = .ok (.iadd, 1) := dk_96 (dk_at dksX9_tries_0 14 rfl rfl)
theorem dX9_tries_15 : decode cX9_tries 15 = .ok (.putfield 50, 3) := dk_181 0 50 (dk_at dksX9_tries_0 15 rfl rfl)
theorem dX9_tries_18 : decode cX9_tries 18 = .ok (.aload_n 0, 1) := dk_42 (dk_at dksX9_tries_0 18 rfl rfl)
theorem dX9_tries_19 : decode cX9_tries 19 = .ok (.getfield 41, 3) := dk_180 0 41 (dk_at dksX9_tries_0 19 rfl rfl)
theorem dX9_tries_22 : decode cX9_tries 22 = .ok (.iconst (-1), 1) := dk_2 (dk_at dksX9_tries_0 22 rfl rfl)
theorem dX9_tries_23 : decode cX9_tries 23 = .ok (.if_icmp .eq 16, 3) := dk_159 0 16 (dk_at dksX9_tries_1 0 rfl rfl)
theorem dX9_tries_26 : decode cX9_tries 26 = .ok (.aload_n 0, 1) := dk_42 (dk_at dksX9_tries_1 3 rfl rfl)
theorem dX9_tries_27 : decode cX9_tries 27 = .ok (.dup, 1) := dk_89 (dk_at dksX9_tries_1 4 rfl rfl)
theorem dX9_tries_28 : decode cX9_tries 28 = .ok (.getfield 53, 3) := dk_180 0 53 (dk_at dksX9_tries_1 5 rfl rfl)
theorem dX9_tries_31 : decode cX9_tries 31 = .ok (.aload_n 0, 1) := dk_42 (dk_at dksX9_tries_1 8 rfl rfl)
theorem dX9_tries_32 : decode cX9_tries 32 = .ok (.invokevirtual 60, 3) := dk_182 0 60 (dk_at dksX9_tries_1 9 rfl rfl)
theorem dX9_tries_35 : decode cX9_tries 35 = .ok (.ior, 1) := dk_128 (dk_at dksX9_tries_1 12 rfl rfl)
theorem dX9_tries_36 : decode cX9_tries 36 = .ok (.putfield 53, 3) := dk_181 0 53 (dk_at dksX9_tries_1 13 rfl rfl)
theorem dX9_tries_39 : decode cX9_tries 39 = .ok (.return_, 1) := dk_177 (dk_at dksX9_tries_1 16 rfl rfl)
theorem dX9_tries_40 : decode cX9_tries 40 = .ok (.bipush 6, 2) := dk_16 6 (dk_at dksX9_tries_1 17 rfl rfl)
theorem dX9_tries_42 : decode cX9_tries 42 = .ok (.iload_n 2, 1) := dk_28 (dk_at dksX9_tries_1 19 rfl rfl)
theorem dX9_tries_43 : decode cX9_tries 43 = .ok (.imul, 1) := dk_104 (dk_at dksX9_tries_1 20 rfl rfl)
theorem dX9_tries_44 : decode cX9_tries 44 = .ok (.aload_n 0, 1) := dk_42 (dk_at dksX9_tries_1 21 rfl rfl)
theorem dX9_tries_45 : decode cX9_tries 45 = .ok (.getfield 3, 3) := dk_180 0 3 (dk_at dksX9_tries_2 0 rfl rfl)
theorem dX9_tries_48 : decode cX9_tries 48 = .ok (.getfield 29, 3) := dk_180 0 29 (dk_at dksX9_tries_2 3 rfl rfl)
theorem dX9_tries_51 : decode cX9_tries 51 = .ok (.getfield 38, 3) := dk_180 0 38 (dk_at dksX9_tries_2 6 rfl rfl)
theorem dX9_tries_54 : decode cX9_tries 54 = .ok (.iconst 3, 1) := dk_6 (dk_at dksX9_tries_2 9 rfl rfl)
theorem dX9_tries_55 : decode cX9_tries 55 = .ok (.aload_n 0, 1) := dk_42 (dk_at dksX9_tries_2 10 rfl rfl)
theorem dX9_tries_56 : decode cX9_tries 56 = .ok (.getfield 15, 3) := dk_180 0 15 (dk_at dksX9_tries_2 11 rfl rfl)
theorem dX9_tries_59 : decode cX9_tries 59 = .ok (.iload_n 1, 1) := dk_27 (dk_at dksX9_tries_2 14 rfl rfl)
theorem dX9_tries_60 : decode cX9_tries 60 = .ok (.iaload, 1) := dk_46 (dk_at dksX9_tries_2 15 rfl rfl)
theorem dX9_tries_61 : decode cX9_tries 61 = .ok (.imul, 1) := dk_104 (dk_at dksX9_tries_2 16 rfl rfl)
theorem dX9_tries_62 : decode cX9_tries 62 = .ok (.iconst 1, 1) := dk_4 (dk_at dksX9_tries_2 17 rfl rfl)
theorem dX9_tries_63 : decode cX9_tries 63 = .ok (.iadd, 1) := dk_96 (dk_at dksX9_tries_2 18 rfl rfl)
theorem dX9_tries_64 : decode cX9_tries 64 = .ok (.iaload, 1) := dk_46 (dk_at dksX9_tries_2 19 rfl rfl)
theorem dX9_tries_65 : decode cX9_tries 65 = .ok (.iadd, 1) := dk_96 (dk_at dksX9_tries_2 20 rfl rfl)
theorem dX9_tries_66 : decode cX9_tries 66 = .ok (.istore 4, 2) := dk_54 4 (dk_at dksX9_tries_2 21 rfl rfl)
theorem dX9_tries_68 : decode cX9_tries 68 = .ok (.aload_n 0, 1) := dk_42 (dk_at dksX9_tries_2 23 rfl rfl)
theorem dX9_tries_69 : decode cX9_tries 69 = .ok (.getfield 3, 3) := dk_180 0 3 (dk_at dksX9_tries_3 0 rfl rfl)
theorem dX9_tries_72 : decode cX9_tries 72 = .ok (.getfield 29, 3) := dk_180 0 29 (dk_at dksX9_tries_3 3 rfl rfl)
theorem dX9_tries_75 : decode cX9_tries 75 = .ok (.getfield 38, 3) := dk_180 0 38 (dk_at dksX9_tries_3 6 rfl rfl)
theorem dX9_tries_78 : decode cX9_tries 78 = .ok (.iconst 3, 1) := dk_6 (dk_at dksX9_tries_3 9 rfl rfl)
theorem dX9_tries_79 : decode cX9_tries 79 = .ok (.aload_n 0, 1) := dk_42 (dk_at dksX9_tries_3 10 rfl rfl)
theorem dX9_tries_80 : decode cX9_tries 80 = .ok (.getfield 15, 3) := dk_180 0 15 (dk_at dksX9_tries_3 11 rfl rfl)
theorem dX9_tries_83 : decode cX9_tries 83 = .ok (.iload_n 1, 1) := dk_27 (dk_at dksX9_tries_3 14 rfl rfl)
theorem dX9_tries_84 : decode cX9_tries 84 = .ok (.iaload, 1) := dk_46 (dk_at dksX9_tries_3 15 rfl rfl)
theorem dX9_tries_85 : decode cX9_tries 85 = .ok (.imul, 1) := dk_104 (dk_at dksX9_tries_3 16 rfl rfl)
theorem dX9_tries_86 : decode cX9_tries 86 = .ok (.iconst 2, 1) := dk_5 (dk_at dksX9_tries_3 17 rfl rfl)
theorem dX9_tries_87 : decode cX9_tries 87 = .ok (.iadd, 1) := dk_96 (dk_at dksX9_tries_3 18 rfl rfl)
theorem dX9_tries_88 : decode cX9_tries 88 = .ok (.iaload, 1) := dk_46 (dk_at dksX9_tries_3 19 rfl rfl)
theorem dX9_tries_89 : decode cX9_tries 89 = .ok (.istore 5, 2) := dk_54 5 (dk_at dksX9_tries_3 20 rfl rfl)
theorem dX9_tries_91 : decode cX9_tries 91 = .ok (.aload_n 0, 1) := dk_42 (dk_at dksX9_tries_3 22 rfl rfl)
theorem dX9_tries_92 : decode cX9_tries 92 = .ok (.getfield 19, 3) := dk_180 0 19 (dk_at dksX9_tries_4 0 rfl rfl)
theorem dX9_tries_95 : decode cX9_tries 95 = .ok (.iload 4, 2) := dk_21 4 (dk_at dksX9_tries_4 3 rfl rfl)
theorem dX9_tries_97 : decode cX9_tries 97 = .ok (.iaload, 1) := dk_46 (dk_at dksX9_tries_4 5 rfl rfl)
theorem dX9_tries_98 : decode cX9_tries 98 = .ok (.istore 6, 2) := dk_54 6 (dk_at dksX9_tries_4 6 rfl rfl)
theorem dX9_tries_100 : decode cX9_tries 100 = .ok (.iload 6, 2) := dk_21 6 (dk_at dksX9_tries_4 8 rfl rfl)
theorem dX9_tries_102 : decode cX9_tries 102 = .ok (.iconst (-1), 1) := dk_2 (dk_at dksX9_tries_4 10 rfl rfl)
theorem dX9_tries_103 : decode cX9_tries 103 = .ok (.if_icmp .eq 11, 3) := dk_159 0 11 (dk_at dksX9_tries_4 11 rfl rfl)
theorem dX9_tries_106 : decode cX9_tries 106 = .ok (.iload 6, 2) := dk_21 6 (dk_at dksX9_tries_4 14 rfl rfl)
theorem dX9_tries_108 : decode cX9_tries 108 = .ok (.iload 5, 2) := dk_21 5 (dk_at dksX9_tries_4 16 rfl rfl)
theorem dX9_tries_110 : decode cX9_tries 110 = .ok (.if_icmp .eq 4, 3) := dk_159 0 4 (dk_at dksX9_tries_4 18 rfl rfl)
theorem dX9_tries_113 : decode cX9_tries 113 = .ok (.return_, 1) := dk_177 (dk_at dksX9_tries_4 21 rfl rfl)
theorem dX9_tries_114 : decode cX9_tries 114 = .ok (.aload_n 0, 1) := dk_42 (dk_at dksX9_tries_4 22 rfl rfl)
theorem dX9_tries_115 : decode cX9_tries 115 = .ok (.getfield 19, 3) := dk_180 0 19 (dk_at dksX9_tries_5 0 rfl rfl)
theorem dX9_tries_118 : decode cX9_tries 118 = .ok (.iload 4, 2) := dk_21 4 (dk_at dksX9_tries_5 3 rfl rfl)
theorem dX9_tries_120 : decode cX9_tries 120 = .ok (.iload 5, 2) := dk_21 5 (dk_at dksX9_tries_5 5 rfl rfl)
theorem dX9_tries_122 : decode cX9_tries 122 = .ok (.iastore, 1) := dk_79 (dk_at dksX9_tries_5 7 rfl rfl)
theorem dX9_tries_123 : decode cX9_tries 123 = .ok (.aload_n 0, 1) := dk_42 (dk_at dksX9_tries_5 8 rfl rfl)
theorem dX9_tries_124 : decode cX9_tries 124 = .ok (.iload_n 1, 1) := dk_27 (dk_at dksX9_tries_5 9 rfl rfl)
theorem dX9_tries_125 : decode cX9_tries 125 = .ok (.iconst 1, 1) := dk_4 (dk_at dksX9_tries_5 10 rfl rfl)
theorem dX9_tries_126 : decode cX9_tries 126 = .ok (.iadd, 1) := dk_96 (dk_at dksX9_tries_5 11 rfl rfl)
theorem dX9_tries_127 : decode cX9_tries 127 = .ok (.invokevirtual 64, 3) := dk_182 0 64 (dk_at dksX9_tries_5 12 rfl rfl)
theorem dX9_tries_130 : decode cX9_tries 130 = .ok (.aload_n 0, 1) := dk_42 (dk_at dksX9_tries_5 15 rfl rfl)
theorem dX9_tries_131 : decode cX9_tries 131 = .ok (.iload_n 1, 1) := dk_27 (dk_at dksX9_tries_5 16 rfl rfl)
theorem dX9_tries_132 : decode cX9_tries 132 = .ok (.invokevirtual 64, 3) := dk_182 0 64 (dk_at dksX9_tries_5 17 rfl rfl)
theorem dX9_tries_135 : decode cX9_tries 135 = .ok (.if_icmp .eq 15, 3) := dk_159 0 15 (dk_at dksX9_tries_5 20 rfl rfl)
theorem dX9_tries_138 : decode cX9_tries 138 = .ok (.aload_n 0, 1) := dk_42 (dk_at dksX9_tries_5 23 rfl rfl)
theorem dX9_tries_139 : decode cX9_tries 139 = .ok (.iload_n 1, 1) := dk_27 (dk_at dksX9_tries_6 0 rfl rfl)
theorem dX9_tries_140 : decode cX9_tries 140 = .ok (.iconst 1, 1) := dk_4 (dk_at dksX9_tries_6 1 rfl rfl)
theorem dX9_tries_141 : decode cX9_tries 141 = .ok (.iadd, 1) := dk_96 (dk_at dksX9_tries_6 2 rfl rfl)
theorem dX9_tries_142 : decode cX9_tries 142 = .ok (.iconst 0, 1) := dk_3 (dk_at dksX9_tries_6 3 rfl rfl)
theorem dX9_tries_143 : decode cX9_tries 143 = .ok (.iload_n 3, 1) := dk_29 (dk_at dksX9_tries_6 4 rfl rfl)
theorem dX9_tries_144 : decode cX9_tries 144 = .ok (.invokevirtual 56, 3) := dk_182 0 56 (dk_at dksX9_tries_6 5 rfl rfl)
theorem dX9_tries_147 : decode cX9_tries 147 = .ok (.goto 90, 3) := dk_167 0 90 (dk_at dksX9_tries_6 8 rfl rfl)
theorem dX9_tries_150 : decode cX9_tries 150 = .ok (.aload_n 0, 1) := dk_42 (dk_at dksX9_tries_6 11 rfl rfl)
theorem dX9_tries_151 : decode cX9_tries 151 = .ok (.getfield 22, 3) := dk_180 0 22 (dk_at dksX9_tries_6 12 rfl rfl)
theorem dX9_tries_154 : decode cX9_tries 154 = .ok (.iload 4, 2) := dk_21 4 (dk_at dksX9_tries_6 15 rfl rfl)
theorem dX9_tries_156 : decode cX9_tries 156 = .ok (.iaload, 1) := dk_46 (dk_at dksX9_tries_6 17 rfl rfl)
theorem dX9_tries_157 : decode cX9_tries 157 = .ok (.iconst (-1), 1) := dk_2 (dk_at dksX9_tries_6 18 rfl rfl)
theorem dX9_tries_158 : decode cX9_tries 158 = .ok (.if_icmp .eq 21, 3) := dk_159 0 21 (dk_at dksX9_tries_6 19 rfl rfl)
theorem dX9_tries_161 : decode cX9_tries 161 = .ok (.aload_n 0, 1) := dk_42 (dk_at dksX9_tries_6 22 rfl rfl)
theorem dX9_tries_162 : decode cX9_tries 162 = .ok (.iload_n 1, 1) := dk_27 (dk_at dksX9_tries_6 23 rfl rfl)
theorem dX9_tries_163 : decode cX9_tries 163 = .ok (.iconst 1, 1) := dk_4 (dk_at dksX9_tries_7 0 rfl rfl)
theorem dX9_tries_164 : decode cX9_tries 164 = .ok (.iadd, 1) := dk_96 (dk_at dksX9_tries_7 1 rfl rfl)
theorem dX9_tries_165 : decode cX9_tries 165 = .ok (.aload_n 0, 1) := dk_42 (dk_at dksX9_tries_7 2 rfl rfl)
theorem dX9_tries_166 : decode cX9_tries 166 = .ok (.getfield 22, 3) := dk_180 0 22 (dk_at dksX9_tries_7 3 rfl rfl)
theorem dX9_tries_169 : decode cX9_tries 169 = .ok (.iload 4, 2) := dk_21 4 (dk_at dksX9_tries_7 6 rfl rfl)
theorem dX9_tries_171 : decode cX9_tries 171 = .ok (.iaload, 1) := dk_46 (dk_at dksX9_tries_7 8 rfl rfl)
theorem dX9_tries_172 : decode cX9_tries 172 = .ok (.iload_n 3, 1) := dk_29 (dk_at dksX9_tries_7 9 rfl rfl)
theorem dX9_tries_173 : decode cX9_tries 173 = .ok (.invokevirtual 56, 3) := dk_182 0 56 (dk_at dksX9_tries_7 10 rfl rfl)
theorem dX9_tries_176 : decode cX9_tries 176 = .ok (.goto 61, 3) := dk_167 0 61 (dk_at dksX9_tries_7 13 rfl rfl)
theorem dX9_tries_179 : decode cX9_tries 179 = .ok (.iconst 0, 1) := dk_3 (dk_at dksX9_tries_7 16 rfl rfl)
theorem dX9_tries_180 : decode cX9_tries 180 = .ok (.istore 7, 2) := dk_54 7 (dk_at dksX9_tries_7 17 rfl rfl)
theorem dX9_tries_182 : decode cX9_tries 182 = .ok (.iload 7, 2) := dk_21 7 (dk_at dksX9_tries_7 19 rfl rfl)
theorem dX9_tries_184 : decode cX9_tries 184 = .ok (.iload_n 3, 1) := dk_29 (dk_at dksX9_tries_7 21 rfl rfl)
theorem dX9_tries_185 : decode cX9_tries 185 = .ok (.if_icmp .gt 44, 3) := dk_163 0 44 (dk_at dksX9_tries_8 0 rfl rfl)
theorem dX9_tries_188 : decode cX9_tries 188 = .ok (.iload 7, 2) := dk_21 7 (dk_at dksX9_tries_8 3 rfl rfl)
theorem dX9_tries_190 : decode cX9_tries 190 = .ok (.aload_n 0, 1) := dk_42 (dk_at dksX9_tries_8 5 rfl rfl)
theorem dX9_tries_191 : decode cX9_tries 191 = .ok (.getfield 47, 3) := dk_180 0 47 (dk_at dksX9_tries_8 6 rfl rfl)
theorem dX9_tries_194 : decode cX9_tries 194 = .ok (.if_icmp .ge 35, 3) := dk_162 0 35 (dk_at dksX9_tries_8 9 rfl rfl)
theorem dX9_tries_197 : decode cX9_tries 197 = .ok (.aload_n 0, 1) := dk_42 (dk_at dksX9_tries_8 12 rfl rfl)
theorem dX9_tries_198 : decode cX9_tries 198 = .ok (.getfield 22, 3) := dk_180 0 22 (dk_at dksX9_tries_8 13 rfl rfl)
theorem dX9_tries_201 : decode cX9_tries 201 = .ok (.iload 4, 2) := dk_21 4 (dk_at dksX9_tries_8 16 rfl rfl)
theorem dX9_tries_203 : decode cX9_tries 203 = .ok (.iload 7, 2) := dk_21 7 (dk_at dksX9_tries_8 18 rfl rfl)
theorem dX9_tries_205 : decode cX9_tries 205 = .ok (.iastore, 1) := dk_79 (dk_at dksX9_tries_8 20 rfl rfl)
theorem dX9_tries_206 : decode cX9_tries 206 = .ok (.aload_n 0, 1) := dk_42 (dk_at dksX9_tries_8 21 rfl rfl)
theorem dX9_tries_207 : decode cX9_tries 207 = .ok (.iload_n 1, 1) := dk_27 (dk_at dksX9_tries_8 22 rfl rfl)
theorem dX9_tries_208 : decode cX9_tries 208 = .ok (.iconst 1, 1) := dk_4 (dk_at dksX9_tries_8 23 rfl rfl)
theorem dX9_tries_209 : decode cX9_tries 209 = .ok (.iadd, 1) := dk_96 (dk_at dksX9_tries_9 0 rfl rfl)
theorem dX9_tries_210 : decode cX9_tries 210 = .ok (.iload 7, 2) := dk_21 7 (dk_at dksX9_tries_9 1 rfl rfl)
theorem dX9_tries_212 : decode cX9_tries 212 = .ok (.iload_n 3, 1) := dk_29 (dk_at dksX9_tries_9 3 rfl rfl)
theorem dX9_tries_213 : decode cX9_tries 213 = .ok (.iload 7, 2) := dk_21 7 (dk_at dksX9_tries_9 4 rfl rfl)
theorem dX9_tries_215 : decode cX9_tries 215 = .ok (.iconst 1, 1) := dk_4 (dk_at dksX9_tries_9 6 rfl rfl)
theorem dX9_tries_216 : decode cX9_tries 216 = .ok (.iadd, 1) := dk_96 (dk_at dksX9_tries_9 7 rfl rfl)
theorem dX9_tries_217 : decode cX9_tries 217 = .ok (.invokestatic 68, 3) := dk_184 0 68 (dk_at dksX9_tries_9 8 rfl rfl)
theorem dX9_tries_220 : decode cX9_tries 220 = .ok (.invokevirtual 56, 3) := dk_182 0 56 (dk_at dksX9_tries_9 11 rfl rfl)
theorem dX9_tries_223 : decode cX9_tries 223 = .ok (.iinc 7 1, 3) := dk_132 7 1 (dk_at dksX9_tries_9 14 rfl rfl)
theorem dX9_tries_226 : decode cX9_tries 226 = .ok (.goto (-44), 3) := dk_167 255 212 (dk_at dksX9_tries_9 17 rfl rfl)
theorem dX9_tries_229 : decode cX9_tries 229 = .ok (.aload_n 0, 1) := dk_42 (dk_at dksX9_tries_9 20 rfl rfl)
theorem dX9_tries_230 : decode cX9_tries 230 = .ok (.getfield 22, 3) := dk_180 0 22 (dk_at dksX9_tries_9 21 rfl rfl)
theorem dX9_tries_233 : decode cX9_tries 233 = .ok (.iload 4, 2) := dk_21 4 (dk_at dksX9_tries_10 0 rfl rfl)
theorem dX9_tries_235 : decode cX9_tries 235 = .ok (.iconst (-1), 1) := dk_2 (dk_at dksX9_tries_10 2 rfl rfl)
theorem dX9_tries_236 : decode cX9_tries 236 = .ok (.iastore, 1) := dk_79 (dk_at dksX9_tries_10 3 rfl rfl)
theorem dX9_tries_237 : decode cX9_tries 237 = .ok (.aload_n 0, 1) := dk_42 (dk_at dksX9_tries_10 4 rfl rfl)
theorem dX9_tries_238 : decode cX9_tries 238 = .ok (.getfield 19, 3) := dk_180 0 19 (dk_at dksX9_tries_10 5 rfl rfl)
theorem dX9_tries_241 : decode cX9_tries 241 = .ok (.iload 4, 2) := dk_21 4 (dk_at dksX9_tries_10 8 rfl rfl)
theorem dX9_tries_243 : decode cX9_tries 243 = .ok (.iload 6, 2) := dk_21 6 (dk_at dksX9_tries_10 10 rfl rfl)
theorem dX9_tries_245 : decode cX9_tries 245 = .ok (.iastore, 1) := dk_79 (dk_at dksX9_tries_10 12 rfl rfl)
theorem dX9_tries_246 : decode cX9_tries 246 = .ok (.return_, 1) := dk_177 (dk_at dksX9_tries_10 13 rfl rfl)
abbrev cX9_wouldBe : ByteArray := prog_11_method_5_code
def yX9_wouldBe : MethodName := ⟨RX9, "wouldBe", "()I"⟩
def dkwX9_wouldBe_5 : List UInt8 := [180, 0, 19, 16, 6, 29, 104, 42, 180, 0, 44, 96, 46, 120, 128, 61, 132, 3, 1, 167, 255, 192, 28, 172]
abbrev dktX9_wouldBe_5 : List UInt8 := dkwX9_wouldBe_5 ++ []
def dkwX9_wouldBe_4 : List UInt8 := [16, 6, 29, 104, 42, 180, 0, 44, 96, 46, 2, 160, 0, 9, 17, 3, 255, 167, 0, 19, 4, 42]
abbrev dktX9_wouldBe_4 : List UInt8 := dkwX9_wouldBe_4 ++ dktX9_wouldBe_5
def dkwX9_wouldBe_3 : List UInt8 := [29, 42, 180, 0, 47, 162, 0, 62, 27, 2, 159, 0, 8, 27, 29, 160, 0, 46, 28, 42, 180, 0, 19]
abbrev dktX9_wouldBe_3 : List UInt8 := dkwX9_wouldBe_3 ++ dktX9_wouldBe_4
def dkwX9_wouldBe_2 : List UInt8 := [6, 42, 180, 0, 15, 28, 46, 104, 4, 96, 46, 96, 46, 60, 132, 2, 1, 167, 255, 196, 3, 61, 3, 62]
abbrev dktX9_wouldBe_2 : List UInt8 := dkwX9_wouldBe_2 ++ dktX9_wouldBe_3
def dkwX9_wouldBe_1 : List UInt8 := [180, 0, 41, 160, 0, 35, 42, 180, 0, 22, 16, 6, 27, 104, 42, 180, 0, 3, 180, 0, 29, 180, 0, 38]
abbrev dktX9_wouldBe_1 : List UInt8 := dkwX9_wouldBe_1 ++ dktX9_wouldBe_2
def dkwX9_wouldBe_0 : List UInt8 := [3, 60, 3, 61, 28, 42, 180, 0, 25, 162, 0, 58, 27, 2, 159, 0, 53, 42, 28, 182, 0, 64, 42]
abbrev dktX9_wouldBe_0 : List UInt8 := dkwX9_wouldBe_0 ++ dktX9_wouldBe_1
theorem dksX9_wouldBe_0 : cX9_wouldBe.data.toList.drop 0 = dktX9_wouldBe_0 := by decide +kernel
theorem dksX9_wouldBe_1 : cX9_wouldBe.data.toList.drop 23 = dktX9_wouldBe_1 := dk_seg dksX9_wouldBe_0 23 rfl rfl
theorem dksX9_wouldBe_2 : cX9_wouldBe.data.toList.drop 47 = dktX9_wouldBe_2 := dk_seg dksX9_wouldBe_1 24 rfl rfl
theorem dksX9_wouldBe_3 : cX9_wouldBe.data.toList.drop 71 = dktX9_wouldBe_3 := dk_seg dksX9_wouldBe_2 24 rfl rfl
theorem dksX9_wouldBe_4 : cX9_wouldBe.data.toList.drop 94 = dktX9_wouldBe_4 := dk_seg dksX9_wouldBe_3 23 rfl rfl
theorem dksX9_wouldBe_5 : cX9_wouldBe.data.toList.drop 116 = dktX9_wouldBe_5 := dk_seg dksX9_wouldBe_4 22 rfl rfl
theorem dX9_wouldBe_0 : decode cX9_wouldBe 0 = .ok (.iconst 0, 1) := dk_3 (dk_at dksX9_wouldBe_0 0 rfl rfl)
theorem dX9_wouldBe_1 : decode cX9_wouldBe 1 = .ok (.istore_n 1, 1) := dk_60 (dk_at dksX9_wouldBe_0 1 rfl rfl)
theorem dX9_wouldBe_2 : decode cX9_wouldBe 2 = .ok (.iconst 0, 1) := dk_3 (dk_at dksX9_wouldBe_0 2 rfl rfl)
theorem dX9_wouldBe_3 : decode cX9_wouldBe 3 = .ok (.istore_n 2, 1) := dk_61 (dk_at dksX9_wouldBe_0 3 rfl rfl)
theorem dX9_wouldBe_4 : decode cX9_wouldBe 4 = .ok (.iload_n 2, 1) := dk_28 (dk_at dksX9_wouldBe_0 4 rfl rfl)
theorem dX9_wouldBe_5 : decode cX9_wouldBe 5 = .ok (.aload_n 0, 1) := dk_42 (dk_at dksX9_wouldBe_0 5 rfl rfl)
theorem dX9_wouldBe_6 : decode cX9_wouldBe 6 = .ok (.getfield 25, 3) := dk_180 0 25 (dk_at dksX9_wouldBe_0 6 rfl rfl)
theorem dX9_wouldBe_9 : decode cX9_wouldBe 9 = .ok (.if_icmp .ge 58, 3) := dk_162 0 58 (dk_at dksX9_wouldBe_0 9 rfl rfl)
theorem dX9_wouldBe_12 : decode cX9_wouldBe 12 = .ok (.iload_n 1, 1) := dk_27 (dk_at dksX9_wouldBe_0 12 rfl rfl)
theorem dX9_wouldBe_13 : decode cX9_wouldBe 13 = .ok (.iconst (-1), 1) := dk_2 (dk_at dksX9_wouldBe_0 13 rfl rfl)
theorem dX9_wouldBe_14 : decode cX9_wouldBe 14 = .ok (.if_icmp .eq 53, 3) := dk_159 0 53 (dk_at dksX9_wouldBe_0 14 rfl rfl)
theorem dX9_wouldBe_17 : decode cX9_wouldBe 17 = .ok (.aload_n 0, 1) := dk_42 (dk_at dksX9_wouldBe_0 17 rfl rfl)
theorem dX9_wouldBe_18 : decode cX9_wouldBe 18 = .ok (.iload_n 2, 1) := dk_28 (dk_at dksX9_wouldBe_0 18 rfl rfl)
theorem dX9_wouldBe_19 : decode cX9_wouldBe 19 = .ok (.invokevirtual 64, 3) := dk_182 0 64 (dk_at dksX9_wouldBe_0 19 rfl rfl)
theorem dX9_wouldBe_22 : decode cX9_wouldBe 22 = .ok (.aload_n 0, 1) := dk_42 (dk_at dksX9_wouldBe_0 22 rfl rfl)
theorem dX9_wouldBe_23 : decode cX9_wouldBe 23 = .ok (.getfield 41, 3) := dk_180 0 41 (dk_at dksX9_wouldBe_1 0 rfl rfl)
theorem dX9_wouldBe_26 : decode cX9_wouldBe 26 = .ok (.if_icmp .ne 35, 3) := dk_160 0 35 (dk_at dksX9_wouldBe_1 3 rfl rfl)
theorem dX9_wouldBe_29 : decode cX9_wouldBe 29 = .ok (.aload_n 0, 1) := dk_42 (dk_at dksX9_wouldBe_1 6 rfl rfl)
theorem dX9_wouldBe_30 : decode cX9_wouldBe 30 = .ok (.getfield 22, 3) := dk_180 0 22 (dk_at dksX9_wouldBe_1 7 rfl rfl)
theorem dX9_wouldBe_33 : decode cX9_wouldBe 33 = .ok (.bipush 6, 2) := dk_16 6 (dk_at dksX9_wouldBe_1 10 rfl rfl)
theorem dX9_wouldBe_35 : decode cX9_wouldBe 35 = .ok (.iload_n 1, 1) := dk_27 (dk_at dksX9_wouldBe_1 12 rfl rfl)
theorem dX9_wouldBe_36 : decode cX9_wouldBe 36 = .ok (.imul, 1) := dk_104 (dk_at dksX9_wouldBe_1 13 rfl rfl)
theorem dX9_wouldBe_37 : decode cX9_wouldBe 37 = .ok (.aload_n 0, 1) := dk_42 (dk_at dksX9_wouldBe_1 14 rfl rfl)
theorem dX9_wouldBe_38 : decode cX9_wouldBe 38 = .ok (.getfield 3, 3) := dk_180 0 3 (dk_at dksX9_wouldBe_1 15 rfl rfl)
theorem dX9_wouldBe_41 : decode cX9_wouldBe 41 = .ok (.getfield 29, 3) := dk_180 0 29 (dk_at dksX9_wouldBe_1 18 rfl rfl)
theorem dX9_wouldBe_44 : decode cX9_wouldBe 44 = .ok (.getfield 38, 3) := dk_180 0 38 (dk_at dksX9_wouldBe_1 21 rfl rfl)
theorem dX9_wouldBe_47 : decode cX9_wouldBe 47 = .ok (.iconst 3, 1) := dk_6 (dk_at dksX9_wouldBe_2 0 rfl rfl)
theorem dX9_wouldBe_48 : decode cX9_wouldBe 48 = .ok (.aload_n 0, 1) := dk_42 (dk_at dksX9_wouldBe_2 1 rfl rfl)
theorem dX9_wouldBe_49 : decode cX9_wouldBe 49 = .ok (.getfield 15, 3) := dk_180 0 15 (dk_at dksX9_wouldBe_2 2 rfl rfl)
theorem dX9_wouldBe_52 : decode cX9_wouldBe 52 = .ok (.iload_n 2, 1) := dk_28 (dk_at dksX9_wouldBe_2 5 rfl rfl)
theorem dX9_wouldBe_53 : decode cX9_wouldBe 53 = .ok (.iaload, 1) := dk_46 (dk_at dksX9_wouldBe_2 6 rfl rfl)
theorem dX9_wouldBe_54 : decode cX9_wouldBe 54 = .ok (.imul, 1) := dk_104 (dk_at dksX9_wouldBe_2 7 rfl rfl)
theorem dX9_wouldBe_55 : decode cX9_wouldBe 55 = .ok (.iconst 1, 1) := dk_4 (dk_at dksX9_wouldBe_2 8 rfl rfl)
theorem dX9_wouldBe_56 : decode cX9_wouldBe 56 = .ok (.iadd, 1) := dk_96 (dk_at dksX9_wouldBe_2 9 rfl rfl)
theorem dX9_wouldBe_57 : decode cX9_wouldBe 57 = .ok (.iaload, 1) := dk_46 (dk_at dksX9_wouldBe_2 10 rfl rfl)
theorem dX9_wouldBe_58 : decode cX9_wouldBe 58 = .ok (.iadd, 1) := dk_96 (dk_at dksX9_wouldBe_2 11 rfl rfl)
theorem dX9_wouldBe_59 : decode cX9_wouldBe 59 = .ok (.iaload, 1) := dk_46 (dk_at dksX9_wouldBe_2 12 rfl rfl)
theorem dX9_wouldBe_60 : decode cX9_wouldBe 60 = .ok (.istore_n 1, 1) := dk_60 (dk_at dksX9_wouldBe_2 13 rfl rfl)
theorem dX9_wouldBe_61 : decode cX9_wouldBe 61 = .ok (.iinc 2 1, 3) := dk_132 2 1 (dk_at dksX9_wouldBe_2 14 rfl rfl)
theorem dX9_wouldBe_64 : decode cX9_wouldBe 64 = .ok (.goto (-60), 3) := dk_167 255 196 (dk_at dksX9_wouldBe_2 17 rfl rfl)
theorem dX9_wouldBe_67 : decode cX9_wouldBe 67 = .ok (.iconst 0, 1) := dk_3 (dk_at dksX9_wouldBe_2 20 rfl rfl)
theorem dX9_wouldBe_68 : decode cX9_wouldBe 68 = .ok (.istore_n 2, 1) := dk_61 (dk_at dksX9_wouldBe_2 21 rfl rfl)
theorem dX9_wouldBe_69 : decode cX9_wouldBe 69 = .ok (.iconst 0, 1) := dk_3 (dk_at dksX9_wouldBe_2 22 rfl rfl)
theorem dX9_wouldBe_70 : decode cX9_wouldBe 70 = .ok (.istore_n 3, 1) := dk_62 (dk_at dksX9_wouldBe_2 23 rfl rfl)
theorem dX9_wouldBe_71 : decode cX9_wouldBe 71 = .ok (.iload_n 3, 1) := dk_29 (dk_at dksX9_wouldBe_3 0 rfl rfl)
theorem dX9_wouldBe_72 : decode cX9_wouldBe 72 = .ok (.aload_n 0, 1) := dk_42 (dk_at dksX9_wouldBe_3 1 rfl rfl)
theorem dX9_wouldBe_73 : decode cX9_wouldBe 73 = .ok (.getfield 47, 3) := dk_180 0 47 (dk_at dksX9_wouldBe_3 2 rfl rfl)
theorem dX9_wouldBe_76 : decode cX9_wouldBe 76 = .ok (.if_icmp .ge 62, 3) := dk_162 0 62 (dk_at dksX9_wouldBe_3 5 rfl rfl)
theorem dX9_wouldBe_79 : decode cX9_wouldBe 79 = .ok (.iload_n 1, 1) := dk_27 (dk_at dksX9_wouldBe_3 8 rfl rfl)
theorem dX9_wouldBe_80 : decode cX9_wouldBe 80 = .ok (.iconst (-1), 1) := dk_2 (dk_at dksX9_wouldBe_3 9 rfl rfl)
theorem dX9_wouldBe_81 : decode cX9_wouldBe 81 = .ok (.if_icmp .eq 8, 3) := dk_159 0 8 (dk_at dksX9_wouldBe_3 10 rfl rfl)
theorem dX9_wouldBe_84 : decode cX9_wouldBe 84 = .ok (.iload_n 1, 1) := dk_27 (dk_at dksX9_wouldBe_3 13 rfl rfl)
theorem dX9_wouldBe_85 : decode cX9_wouldBe 85 = .ok (.iload_n 3, 1) := dk_29 (dk_at dksX9_wouldBe_3 14 rfl rfl)
theorem dX9_wouldBe_86 : decode cX9_wouldBe 86 = .ok (.if_icmp .ne 46, 3) := dk_160 0 46 (dk_at dksX9_wouldBe_3 15 rfl rfl)
theorem dX9_wouldBe_89 : decode cX9_wouldBe 89 = .ok (.iload_n 2, 1) := dk_28 (dk_at dksX9_wouldBe_3 18 rfl rfl)
theorem dX9_wouldBe_90 : decode cX9_wouldBe 90 = .ok (.aload_n 0, 1) := dk_42 (dk_at dksX9_wouldBe_3 19 rfl rfl)
theorem dX9_wouldBe_91 : decode cX9_wouldBe 91 = .ok (.getfield 19, 3) := dk_180 0 19 (dk_at dksX9_wouldBe_3 20 rfl rfl)
theorem dX9_wouldBe_94 : decode cX9_wouldBe 94 = .ok (.bipush 6, 2) := dk_16 6 (dk_at dksX9_wouldBe_4 0 rfl rfl)
theorem dX9_wouldBe_96 : decode cX9_wouldBe 96 = .ok (.iload_n 3, 1) := dk_29 (dk_at dksX9_wouldBe_4 2 rfl rfl)
theorem dX9_wouldBe_97 : decode cX9_wouldBe 97 = .ok (.imul, 1) := dk_104 (dk_at dksX9_wouldBe_4 3 rfl rfl)
theorem dX9_wouldBe_98 : decode cX9_wouldBe 98 = .ok (.aload_n 0, 1) := dk_42 (dk_at dksX9_wouldBe_4 4 rfl rfl)
theorem dX9_wouldBe_99 : decode cX9_wouldBe 99 = .ok (.getfield 44, 3) := dk_180 0 44 (dk_at dksX9_wouldBe_4 5 rfl rfl)
theorem dX9_wouldBe_102 : decode cX9_wouldBe 102 = .ok (.iadd, 1) := dk_96 (dk_at dksX9_wouldBe_4 8 rfl rfl)
theorem dX9_wouldBe_103 : decode cX9_wouldBe 103 = .ok (.iaload, 1) := dk_46 (dk_at dksX9_wouldBe_4 9 rfl rfl)
theorem dX9_wouldBe_104 : decode cX9_wouldBe 104 = .ok (.iconst (-1), 1) := dk_2 (dk_at dksX9_wouldBe_4 10 rfl rfl)
theorem dX9_wouldBe_105 : decode cX9_wouldBe 105 = .ok (.if_icmp .ne 9, 3) := dk_160 0 9 (dk_at dksX9_wouldBe_4 11 rfl rfl)
theorem dX9_wouldBe_108 : decode cX9_wouldBe 108 = .ok (.sipush 1023, 3) := dk_17 3 255 (dk_at dksX9_wouldBe_4 14 rfl rfl)
theorem dX9_wouldBe_111 : decode cX9_wouldBe 111 = .ok (.goto 19, 3) := dk_167 0 19 (dk_at dksX9_wouldBe_4 17 rfl rfl)
theorem dX9_wouldBe_114 : decode cX9_wouldBe 114 = .ok (.iconst 1, 1) := dk_4 (dk_at dksX9_wouldBe_4 20 rfl rfl)
theorem dX9_wouldBe_115 : decode cX9_wouldBe 115 = .ok (.aload_n 0, 1) := dk_42 (dk_at dksX9_wouldBe_4 21 rfl rfl)
theorem dX9_wouldBe_116 : decode cX9_wouldBe 116 = .ok (.getfield 19, 3) := dk_180 0 19 (dk_at dksX9_wouldBe_5 0 rfl rfl)
theorem dX9_wouldBe_119 : decode cX9_wouldBe 119 = .ok (.bipush 6, 2) := dk_16 6 (dk_at dksX9_wouldBe_5 3 rfl rfl)
theorem dX9_wouldBe_121 : decode cX9_wouldBe 121 = .ok (.iload_n 3, 1) := dk_29 (dk_at dksX9_wouldBe_5 5 rfl rfl)
theorem dX9_wouldBe_122 : decode cX9_wouldBe 122 = .ok (.imul, 1) := dk_104 (dk_at dksX9_wouldBe_5 6 rfl rfl)
theorem dX9_wouldBe_123 : decode cX9_wouldBe 123 = .ok (.aload_n 0, 1) := dk_42 (dk_at dksX9_wouldBe_5 7 rfl rfl)
theorem dX9_wouldBe_124 : decode cX9_wouldBe 124 = .ok (.getfield 44, 3) := dk_180 0 44 (dk_at dksX9_wouldBe_5 8 rfl rfl)
theorem dX9_wouldBe_127 : decode cX9_wouldBe 127 = .ok (.iadd, 1) := dk_96 (dk_at dksX9_wouldBe_5 11 rfl rfl)
theorem dX9_wouldBe_128 : decode cX9_wouldBe 128 = .ok (.iaload, 1) := dk_46 (dk_at dksX9_wouldBe_5 12 rfl rfl)
theorem dX9_wouldBe_129 : decode cX9_wouldBe 129 = .ok (.ishl, 1) := dk_120 (dk_at dksX9_wouldBe_5 13 rfl rfl)
theorem dX9_wouldBe_130 : decode cX9_wouldBe 130 = .ok (.ior, 1) := dk_128 (dk_at dksX9_wouldBe_5 14 rfl rfl)
theorem dX9_wouldBe_131 : decode cX9_wouldBe 131 = .ok (.istore_n 2, 1) := dk_61 (dk_at dksX9_wouldBe_5 15 rfl rfl)
theorem dX9_wouldBe_132 : decode cX9_wouldBe 132 = .ok (.iinc 3 1, 3) := dk_132 3 1 (dk_at dksX9_wouldBe_5 16 rfl rfl)
theorem dX9_wouldBe_135 : decode cX9_wouldBe 135 = .ok (.goto (-64), 3) := dk_167 255 192 (dk_at dksX9_wouldBe_5 19 rfl rfl)
theorem dX9_wouldBe_138 : decode cX9_wouldBe 138 = .ok (.iload_n 2, 1) := dk_28 (dk_at dksX9_wouldBe_5 22 rfl rfl)
theorem dX9_wouldBe_139 : decode cX9_wouldBe 139 = .ok (.ireturn, 1) := dk_172 (dk_at dksX9_wouldBe_5 23 rfl rfl)
abbrev cX9_rowOf : ByteArray := prog_11_method_3_code
def yX9_rowOf : MethodName := ⟨RX9, "rowOf", "(I)I"⟩
def dkwX9_rowOf_1 : List UInt8 := [46, 104, 46, 167, 0, 4, 7, 172]
abbrev dktX9_rowOf_1 : List UInt8 := dkwX9_rowOf_1 ++ []
def dkwX9_rowOf_0 : List UInt8 := [27, 42, 180, 0, 25, 162, 0, 25, 42, 180, 0, 3, 180, 0, 29, 180, 0, 38, 6, 42, 180, 0, 15, 27]
abbrev dktX9_rowOf_0 : List UInt8 := dkwX9_rowOf_0 ++ dktX9_rowOf_1
theorem dksX9_rowOf_0 : cX9_rowOf.data.toList.drop 0 = dktX9_rowOf_0 := by decide +kernel
theorem dksX9_rowOf_1 : cX9_rowOf.data.toList.drop 24 = dktX9_rowOf_1 := dk_seg dksX9_rowOf_0 24 rfl rfl
theorem dX9_rowOf_0 : decode cX9_rowOf 0 = .ok (.iload_n 1, 1) := dk_27 (dk_at dksX9_rowOf_0 0 rfl rfl)
theorem dX9_rowOf_1 : decode cX9_rowOf 1 = .ok (.aload_n 0, 1) := dk_42 (dk_at dksX9_rowOf_0 1 rfl rfl)
theorem dX9_rowOf_2 : decode cX9_rowOf 2 = .ok (.getfield 25, 3) := dk_180 0 25 (dk_at dksX9_rowOf_0 2 rfl rfl)
theorem dX9_rowOf_5 : decode cX9_rowOf 5 = .ok (.if_icmp .ge 25, 3) := dk_162 0 25 (dk_at dksX9_rowOf_0 5 rfl rfl)
theorem dX9_rowOf_8 : decode cX9_rowOf 8 = .ok (.aload_n 0, 1) := dk_42 (dk_at dksX9_rowOf_0 8 rfl rfl)
theorem dX9_rowOf_9 : decode cX9_rowOf 9 = .ok (.getfield 3, 3) := dk_180 0 3 (dk_at dksX9_rowOf_0 9 rfl rfl)
theorem dX9_rowOf_12 : decode cX9_rowOf 12 = .ok (.getfield 29, 3) := dk_180 0 29 (dk_at dksX9_rowOf_0 12 rfl rfl)
theorem dX9_rowOf_15 : decode cX9_rowOf 15 = .ok (.getfield 38, 3) := dk_180 0 38 (dk_at dksX9_rowOf_0 15 rfl rfl)
theorem dX9_rowOf_18 : decode cX9_rowOf 18 = .ok (.iconst 3, 1) := dk_6 (dk_at dksX9_rowOf_0 18 rfl rfl)
theorem dX9_rowOf_19 : decode cX9_rowOf 19 = .ok (.aload_n 0, 1) := dk_42 (dk_at dksX9_rowOf_0 19 rfl rfl)
theorem dX9_rowOf_20 : decode cX9_rowOf 20 = .ok (.getfield 15, 3) := dk_180 0 15 (dk_at dksX9_rowOf_0 20 rfl rfl)
theorem dX9_rowOf_23 : decode cX9_rowOf 23 = .ok (.iload_n 1, 1) := dk_27 (dk_at dksX9_rowOf_0 23 rfl rfl)
theorem dX9_rowOf_24 : decode cX9_rowOf 24 = .ok (.iaload, 1) := dk_46 (dk_at dksX9_rowOf_1 0 rfl rfl)
theorem dX9_rowOf_25 : decode cX9_rowOf 25 = .ok (.imul, 1) := dk_104 (dk_at dksX9_rowOf_1 1 rfl rfl)
theorem dX9_rowOf_26 : decode cX9_rowOf 26 = .ok (.iaload, 1) := dk_46 (dk_at dksX9_rowOf_1 2 rfl rfl)
theorem dX9_rowOf_27 : decode cX9_rowOf 27 = .ok (.goto 4, 3) := dk_167 0 4 (dk_at dksX9_rowOf_1 3 rfl rfl)
theorem dX9_rowOf_30 : decode cX9_rowOf 30 = .ok (.iconst 4, 1) := dk_7 (dk_at dksX9_rowOf_1 6 rfl rfl)
theorem dX9_rowOf_31 : decode cX9_rowOf 31 = .ok (.ireturn, 1) := dk_172 (dk_at dksX9_rowOf_1 7 rfl rfl)
theorem q126 : (Jvm.Cond.initialized "DeadUnderstudies$Least") ∈ lw_all := lw_g (lw_at lw_m1 15 rfl) rfl
theorem q226 : (Jvm.Cond.fieldLinkNest "DeadUnderstudies$Least" (38 : Nat) "DeadUnderstudies$State" "deeds" "[I" "DeadUnderstudies") ∈ lw_tbl := lw_at lw_m1 115 rfl
theorem q243 : (Jvm.Cond.fieldLinkNest "DeadUnderstudies$Least" (33 : Nat) "DeadUnderstudies$State" "deedMany" "I" "DeadUnderstudies") ∈ lw_tbl := lw_at lw_m1 132 rfl
theorem q486 : (Jvm.Cond.instantiable "DeadUnderstudies$Least" (10 : Nat)) ∈ lw_all := lw_g (lw_at lw_m2 135 rfl) rfl
theorem q488 : (Jvm.Cond.instanceMethod ({ cls := "DeadUnderstudies$Least", name := "<init>", desc := "(LDeadUnderstudies;)V" } : Jvm.MethodName)) ∈ lw_all := lw_g (lw_at lw_m2 137 rfl) rfl
theorem q489 : (Jvm.Cond.code ({ cls := "DeadUnderstudies$Least", name := "<init>", desc := "(LDeadUnderstudies;)V" } : Jvm.MethodName) prog_11_method_1_code (2 : Nat) (Option.none : Option Jvm.ClassFile.FieldType)) ∈ lw_all := lw_g (lw_at lw_m2 138 rfl) rfl
theorem q490 : (Jvm.Cond.methodLink "DeadUnderstudies$Least" (9 : Nat) ({ cls := "java/lang/Object", name := "<init>", desc := "()V" } : Jvm.MethodName)) ∈ lw_all := lw_g (lw_at lw_m2 139 rfl) rfl
theorem q491 : (Jvm.Cond.fieldLink "DeadUnderstudies$Least" (15 : Nat) "DeadUnderstudies$Least" "order" "[I") ∈ lw_all := lw_g (lw_at lw_m2 140 rfl) rfl
theorem q492 : (Jvm.Cond.fieldLink "DeadUnderstudies$Least" (19 : Nat) "DeadUnderstudies$Least" "words" "[I") ∈ lw_all := lw_g (lw_at lw_m2 141 rfl) rfl
theorem q493 : (Jvm.Cond.fieldLink "DeadUnderstudies$Least" (22 : Nat) "DeadUnderstudies$Least" "nexts" "[I") ∈ lw_all := lw_g (lw_at lw_m2 142 rfl) rfl
theorem q494 : (Jvm.Cond.fieldLink "DeadUnderstudies$Least" (25 : Nat) "DeadUnderstudies$Least" "size" "I") ∈ lw_all := lw_g (lw_at lw_m2 143 rfl) rfl
theorem q495 : (Jvm.Cond.fieldLink "DeadUnderstudies$Least" (50 : Nat) "DeadUnderstudies$Least" "many" "I") ∈ lw_all := lw_g (lw_at lw_m2 144 rfl) rfl
theorem q497 : (Jvm.Cond.fieldLink "DeadUnderstudies$Least" (47 : Nat) "DeadUnderstudies$Least" "states" "I") ∈ lw_all := lw_g (lw_at lw_m2 146 rfl) rfl
theorem q498 : (Jvm.Cond.fieldLink "DeadUnderstudies$Least" (41 : Nat) "DeadUnderstudies$Least" "wanted" "I") ∈ lw_all := lw_g (lw_at lw_m2 147 rfl) rfl
theorem q499 : (Jvm.Cond.fieldLink "DeadUnderstudies$Least" (44 : Nat) "DeadUnderstudies$Least" "wantedCue" "I") ∈ lw_all := lw_g (lw_at lw_m2 148 rfl) rfl
theorem q500 : (Jvm.Cond.fieldLink "DeadUnderstudies$Least" (53 : Nat) "DeadUnderstudies$Least" "would" "I") ∈ lw_all := lw_g (lw_at lw_m2 149 rfl) rfl
theorem q502 : (Jvm.Cond.fieldLink "DeadUnderstudies$Least" (3 : Nat) "DeadUnderstudies$Least" "this$0" "LDeadUnderstudies;") ∈ lw_all := lw_g (lw_at lw_m2 151 rfl) rfl
theorem q503 : (Jvm.Cond.laysFinal "DeadUnderstudies$Least" "DeadUnderstudies$Least" "order" "[I") ∈ lw_all := lw_g (lw_at lw_m2 152 rfl) rfl
theorem q504 : (Jvm.Cond.soleField "DeadUnderstudies$Least" "order") ∈ lw_all := lw_g (lw_at lw_m2 153 rfl) rfl
theorem q505 : (Jvm.Cond.laysFinal "DeadUnderstudies$Least" "DeadUnderstudies$Least" "words" "[I") ∈ lw_all := lw_g (lw_at lw_m2 154 rfl) rfl
theorem q506 : (Jvm.Cond.soleField "DeadUnderstudies$Least" "words") ∈ lw_all := lw_g (lw_at lw_m2 155 rfl) rfl
theorem q507 : (Jvm.Cond.laysFinal "DeadUnderstudies$Least" "DeadUnderstudies$Least" "nexts" "[I") ∈ lw_all := lw_g (lw_at lw_m2 156 rfl) rfl
theorem q508 : (Jvm.Cond.soleField "DeadUnderstudies$Least" "nexts") ∈ lw_all := lw_g (lw_at lw_m2 157 rfl) rfl
theorem q509 : (Jvm.Cond.lays "DeadUnderstudies$Least" "DeadUnderstudies$Least" "size" "I") ∈ lw_all := lw_g (lw_at lw_m2 158 rfl) rfl
theorem q510 : (Jvm.Cond.soleField "DeadUnderstudies$Least" "size") ∈ lw_all := lw_g (lw_at lw_m2 159 rfl) rfl
theorem q511 : (Jvm.Cond.lays "DeadUnderstudies$Least" "DeadUnderstudies$Least" "many" "I") ∈ lw_all := lw_g (lw_at lw_m2 160 rfl) rfl
theorem q512 : (Jvm.Cond.soleField "DeadUnderstudies$Least" "many") ∈ lw_all := lw_g (lw_at lw_m2 161 rfl) rfl
theorem q513 : (Jvm.Cond.lays "DeadUnderstudies$Least" "DeadUnderstudies$Least" "states" "I") ∈ lw_all := lw_g (lw_at lw_m2 162 rfl) rfl
theorem q514 : (Jvm.Cond.soleField "DeadUnderstudies$Least" "states") ∈ lw_all := lw_g (lw_at lw_m2 163 rfl) rfl
theorem q515 : (Jvm.Cond.lays "DeadUnderstudies$Least" "DeadUnderstudies$Least" "wanted" "I") ∈ lw_all := lw_g (lw_at lw_m2 164 rfl) rfl
theorem q516 : (Jvm.Cond.soleField "DeadUnderstudies$Least" "wanted") ∈ lw_all := lw_g (lw_at lw_m2 165 rfl) rfl
theorem q517 : (Jvm.Cond.lays "DeadUnderstudies$Least" "DeadUnderstudies$Least" "wantedCue" "I") ∈ lw_all := lw_g (lw_at lw_m2 166 rfl) rfl
theorem q518 : (Jvm.Cond.soleField "DeadUnderstudies$Least" "wantedCue") ∈ lw_all := lw_g (lw_at lw_m2 167 rfl) rfl
theorem q519 : (Jvm.Cond.lays "DeadUnderstudies$Least" "DeadUnderstudies$Least" "would" "I") ∈ lw_all := lw_g (lw_at lw_m2 168 rfl) rfl
theorem q520 : (Jvm.Cond.soleField "DeadUnderstudies$Least" "would") ∈ lw_all := lw_g (lw_at lw_m2 169 rfl) rfl
theorem q521 : (Jvm.Cond.laysFinal "DeadUnderstudies$Least" "DeadUnderstudies$Least" "this$0" "LDeadUnderstudies;") ∈ lw_all := lw_g (lw_at lw_m2 170 rfl) rfl
theorem q522 : (Jvm.Cond.soleField "DeadUnderstudies$Least" "this$0") ∈ lw_all := lw_g (lw_at lw_m2 171 rfl) rfl
theorem q523 : (Jvm.Cond.superclass "DeadUnderstudies$Least" "java/lang/Object") ∈ lw_all := lw_g (lw_at lw_m2 172 rfl) rfl
theorem q529 : (Jvm.Cond.fieldLinkNest "DeadUnderstudies$Least" (29 : Nat) "DeadUnderstudies" "state" "LDeadUnderstudies$State;" "DeadUnderstudies") ∈ lw_tbl := lw_at lw_m2 178 rfl
theorem q651 : (Jvm.Cond.selects "DeadUnderstudies$Least" ({ cls := "java/lang/Object", name := "getClass", desc := "()Ljava/lang/Class;" } : Jvm.MethodName) ({ cls := "java/lang/Object", name := "getClass", desc := "()Ljava/lang/Class;" } : Jvm.MethodName)) ∈ lw_all := lw_g (lw_at lw_m3 60 rfl) rfl
theorem q1737 : (Jvm.Cond.instanceMethod ({ cls := "DeadUnderstudies$Least", name := "finds", desc := "(II)I" } : Jvm.MethodName)) ∈ lw_all := lw_g (lw_at lw_m7 186 rfl) rfl
theorem q1738 : (Jvm.Cond.selects "DeadUnderstudies$Least" ({ cls := "DeadUnderstudies$Least", name := "finds", desc := "(II)I" } : Jvm.MethodName) ({ cls := "DeadUnderstudies$Least", name := "finds", desc := "(II)I" } : Jvm.MethodName)) ∈ lw_all := lw_g (lw_at lw_m7 187 rfl) rfl
theorem q1739 : (Jvm.Cond.code ({ cls := "DeadUnderstudies$Least", name := "finds", desc := "(II)I" } : Jvm.MethodName) prog_11_method_2_code (5 : Nat) (Option.some Jvm.ClassFile.FieldType.int)) ∈ lw_all := lw_g (lw_at lw_m7 188 rfl) rfl
theorem q1740 : (Jvm.Cond.methodLink "DeadUnderstudies$Least" (56 : Nat) ({ cls := "DeadUnderstudies$Least", name := "tries", desc := "(III)V" } : Jvm.MethodName)) ∈ lw_all := lw_g (lw_at lw_m7 189 rfl) rfl
theorem q1741 : (Jvm.Cond.privateMethod ({ cls := "DeadUnderstudies$Least", name := "tries", desc := "(III)V" } : Jvm.MethodName)) ∈ lw_tbl := lw_at lw_m7 190 rfl
theorem q1742 : (Jvm.Cond.instanceMethod ({ cls := "DeadUnderstudies$Least", name := "tries", desc := "(III)V" } : Jvm.MethodName)) ∈ lw_all := lw_g (lw_at lw_m7 191 rfl) rfl
theorem q1743 : (Jvm.Cond.code ({ cls := "DeadUnderstudies$Least", name := "tries", desc := "(III)V" } : Jvm.MethodName) prog_11_method_4_code (8 : Nat) (Option.none : Option Jvm.ClassFile.FieldType)) ∈ lw_all := lw_g (lw_at lw_m7 192 rfl) rfl
theorem q1744 : (Jvm.Cond.methodLink "DeadUnderstudies$Least" (60 : Nat) ({ cls := "DeadUnderstudies$Least", name := "wouldBe", desc := "()I" } : Jvm.MethodName)) ∈ lw_all := lw_g (lw_at lw_m7 193 rfl) rfl
theorem q1745 : (Jvm.Cond.privateMethod ({ cls := "DeadUnderstudies$Least", name := "wouldBe", desc := "()I" } : Jvm.MethodName)) ∈ lw_tbl := lw_at lw_m7 194 rfl
theorem q1746 : (Jvm.Cond.instanceMethod ({ cls := "DeadUnderstudies$Least", name := "wouldBe", desc := "()I" } : Jvm.MethodName)) ∈ lw_all := lw_g (lw_at lw_m7 195 rfl) rfl
theorem q1747 : (Jvm.Cond.code ({ cls := "DeadUnderstudies$Least", name := "wouldBe", desc := "()I" } : Jvm.MethodName) prog_11_method_5_code (4 : Nat) (Option.some Jvm.ClassFile.FieldType.int)) ∈ lw_all := lw_g (lw_at lw_m7 196 rfl) rfl
theorem q1748 : (Jvm.Cond.methodLink "DeadUnderstudies$Least" (64 : Nat) ({ cls := "DeadUnderstudies$Least", name := "rowOf", desc := "(I)I" } : Jvm.MethodName)) ∈ lw_all := lw_g (lw_at lw_m7 197 rfl) rfl
theorem q1749 : (Jvm.Cond.privateMethod ({ cls := "DeadUnderstudies$Least", name := "rowOf", desc := "(I)I" } : Jvm.MethodName)) ∈ lw_tbl := lw_at lw_m7 198 rfl
theorem q1750 : (Jvm.Cond.instanceMethod ({ cls := "DeadUnderstudies$Least", name := "rowOf", desc := "(I)I" } : Jvm.MethodName)) ∈ lw_all := lw_g (lw_at lw_m7 199 rfl) rfl
theorem q1751 : (Jvm.Cond.code ({ cls := "DeadUnderstudies$Least", name := "rowOf", desc := "(I)I" } : Jvm.MethodName) prog_11_method_3_code (2 : Nat) (Option.some Jvm.ClassFile.FieldType.int)) ∈ lw_all := lw_g (lw_at lw_m7 200 rfl) rfl
theorem q1752 : (Jvm.Cond.methodLink "DeadUnderstudies$Least" (68 : Nat) ({ cls := "java/lang/Math", name := "max", desc := "(II)I" } : Jvm.MethodName)) ∈ lw_all := lw_g (lw_at lw_m7 201 rfl) rfl
theorem q2609 : (Jvm.Cond.castable "DeadUnderstudies$Least" "java/lang/Object") ∈ lw_tbl := lw_at lw_m11 98 rfl
theorem in_X9 : ∀ w ∈ wsX90, w ∈ lw_all := lw_in wsX90 [503, 505, 507, 509, 511, 513, 515, 517, 519, 521] (by decide +kernel) (by decide +kernel)
/-! DeadUnderstudies$Person -/
def RX11 : String := "DeadUnderstudies$Person"
def TX11 : u_T := fun k => match k with
  | 0 => ("DeadUnderstudies$Person", "born", "I", true)
  | 1 => ("DeadUnderstudies$Person", "dead", "I", true)
  | _ => ("DeadUnderstudies$Person", "memory", "I", true)
def tyX11 : Nat → FieldType := fun k => match k with
  | 0 => .int
  | 1 => .int
  | _ => .int
abbrev wsX110 : List Cond := u_ws RX11 TX11 3
theorem nmX11 : ∀ a, a < 3 → ∀ b, b < 3 → a ≠ b → (TX11 a).2.1 ≠ (TX11 b).2.1 := by decide +kernel
theorem tyX11_ok : ∀ k, k < 3 → parseFieldDescriptor (TX11 k).2.2.1 = some (tyX11 k) := by decide +kernel
abbrev cX11_init : ByteArray := prog_15_method_1_code
def yX11_init : MethodName := ⟨RX11, "<init>", "(III)V"⟩
def dkwX11_init_0 : List UInt8 := [42, 183, 0, 1, 42, 27, 181, 0, 7, 42, 28, 181, 0, 13, 42, 29, 181, 0, 16, 177]
abbrev dktX11_init_0 : List UInt8 := dkwX11_init_0 ++ []
theorem dksX11_init_0 : cX11_init.data.toList.drop 0 = dktX11_init_0 := by decide +kernel
theorem dX11_init_0 : decode cX11_init 0 = .ok (.aload_n 0, 1) := dk_42 (dk_at dksX11_init_0 0 rfl rfl)
theorem dX11_init_1 : decode cX11_init 1 = .ok (.invokespecial 1, 3) := dk_183 0 1 (dk_at dksX11_init_0 1 rfl rfl)
theorem dX11_init_4 : decode cX11_init 4 = .ok (.aload_n 0, 1) := dk_42 (dk_at dksX11_init_0 4 rfl rfl)
theorem dX11_init_5 : decode cX11_init 5 = .ok (.iload_n 1, 1) := dk_27 (dk_at dksX11_init_0 5 rfl rfl)
theorem dX11_init_6 : decode cX11_init 6 = .ok (.putfield 7, 3) := dk_181 0 7 (dk_at dksX11_init_0 6 rfl rfl)
theorem dX11_init_9 : decode cX11_init 9 = .ok (.aload_n 0, 1) := dk_42 (dk_at dksX11_init_0 9 rfl rfl)
theorem dX11_init_10 : decode cX11_init 10 = .ok (.iload_n 2, 1) := dk_28 (dk_at dksX11_init_0 10 rfl rfl)
theorem dX11_init_11 : decode cX11_init 11 = .ok (.putfield 13, 3) := dk_181 0 13 (dk_at dksX11_init_0 11 rfl rfl)
theorem dX11_init_14 : decode cX11_init 14 = .ok (.aload_n 0, 1) := dk_42 (dk_at dksX11_init_0 14 rfl rfl)
theorem dX11_init_15 : decode cX11_init 15 = .ok (.iload_n 3, 1) := dk_29 (dk_at dksX11_init_0 15 rfl rfl)
theorem dX11_init_16 : decode cX11_init 16 = .ok (.putfield 16, 3) := dk_181 0 16 (dk_at dksX11_init_0 16 rfl rfl)
theorem dX11_init_19 : decode cX11_init 19 = .ok (.return_, 1) := dk_177 (dk_at dksX11_init_0 19 rfl rfl)
abbrev cX11_isAlive : ByteArray := prog_15_method_2_code
def yX11_isAlive : MethodName := ⟨RX11, "isAlive", "(I)Z"⟩
def dkwX11_isAlive_0 : List UInt8 := [27, 42, 180, 0, 7, 161, 0, 15, 27, 42, 180, 0, 13, 162, 0, 7, 4, 167, 0, 4, 3, 172]
abbrev dktX11_isAlive_0 : List UInt8 := dkwX11_isAlive_0 ++ []
theorem dksX11_isAlive_0 : cX11_isAlive.data.toList.drop 0 = dktX11_isAlive_0 := by decide +kernel
theorem dX11_isAlive_0 : decode cX11_isAlive 0 = .ok (.iload_n 1, 1) := dk_27 (dk_at dksX11_isAlive_0 0 rfl rfl)
theorem dX11_isAlive_1 : decode cX11_isAlive 1 = .ok (.aload_n 0, 1) := dk_42 (dk_at dksX11_isAlive_0 1 rfl rfl)
theorem dX11_isAlive_2 : decode cX11_isAlive 2 = .ok (.getfield 7, 3) := dk_180 0 7 (dk_at dksX11_isAlive_0 2 rfl rfl)
theorem dX11_isAlive_5 : decode cX11_isAlive 5 = .ok (.if_icmp .lt 15, 3) := dk_161 0 15 (dk_at dksX11_isAlive_0 5 rfl rfl)
theorem dX11_isAlive_8 : decode cX11_isAlive 8 = .ok (.iload_n 1, 1) := dk_27 (dk_at dksX11_isAlive_0 8 rfl rfl)
theorem dX11_isAlive_9 : decode cX11_isAlive 9 = .ok (.aload_n 0, 1) := dk_42 (dk_at dksX11_isAlive_0 9 rfl rfl)
theorem dX11_isAlive_10 : decode cX11_isAlive 10 = .ok (.getfield 13, 3) := dk_180 0 13 (dk_at dksX11_isAlive_0 10 rfl rfl)
theorem dX11_isAlive_13 : decode cX11_isAlive 13 = .ok (.if_icmp .ge 7, 3) := dk_162 0 7 (dk_at dksX11_isAlive_0 13 rfl rfl)
theorem dX11_isAlive_16 : decode cX11_isAlive 16 = .ok (.iconst 1, 1) := dk_4 (dk_at dksX11_isAlive_0 16 rfl rfl)
theorem dX11_isAlive_17 : decode cX11_isAlive 17 = .ok (.goto 4, 3) := dk_167 0 4 (dk_at dksX11_isAlive_0 17 rfl rfl)
theorem dX11_isAlive_20 : decode cX11_isAlive 20 = .ok (.iconst 0, 1) := dk_3 (dk_at dksX11_isAlive_0 20 rfl rfl)
theorem dX11_isAlive_21 : decode cX11_isAlive 21 = .ok (.ireturn, 1) := dk_172 (dk_at dksX11_isAlive_0 21 rfl rfl)
abbrev cX11_together : ByteArray := prog_15_method_4_code
def yX11_together : MethodName := ⟨RX11, "together", "(LDeadUnderstudies$Person;)I"⟩
def dkwX11_together_0 : List UInt8 := [42, 180, 0, 13, 43, 180, 0, 13, 184, 0, 25, 42, 43, 182, 0, 28, 100, 172]
abbrev dktX11_together_0 : List UInt8 := dkwX11_together_0 ++ []
theorem dksX11_together_0 : cX11_together.data.toList.drop 0 = dktX11_together_0 := by decide +kernel
theorem dX11_together_0 : decode cX11_together 0 = .ok (.aload_n 0, 1) := dk_42 (dk_at dksX11_together_0 0 rfl rfl)
theorem dX11_together_1 : decode cX11_together 1 = .ok (.getfield 13, 3) := dk_180 0 13 (dk_at dksX11_together_0 1 rfl rfl)
theorem dX11_together_4 : decode cX11_together 4 = .ok (.aload_n 1, 1) := dk_43 (dk_at dksX11_together_0 4 rfl rfl)
theorem dX11_together_5 : decode cX11_together 5 = .ok (.getfield 13, 3) := dk_180 0 13 (dk_at dksX11_together_0 5 rfl rfl)
theorem dX11_together_8 : decode cX11_together 8 = .ok (.invokestatic 25, 3) := dk_184 0 25 (dk_at dksX11_together_0 8 rfl rfl)
theorem dX11_together_11 : decode cX11_together 11 = .ok (.aload_n 0, 1) := dk_42 (dk_at dksX11_together_0 11 rfl rfl)
theorem dX11_together_12 : decode cX11_together 12 = .ok (.aload_n 1, 1) := dk_43 (dk_at dksX11_together_0 12 rfl rfl)
theorem dX11_together_13 : decode cX11_together 13 = .ok (.invokevirtual 28, 3) := dk_182 0 28 (dk_at dksX11_together_0 13 rfl rfl)
theorem dX11_together_16 : decode cX11_together 16 = .ok (.isub, 1) := dk_100 (dk_at dksX11_together_0 16 rfl rfl)
theorem dX11_together_17 : decode cX11_together 17 = .ok (.ireturn, 1) := dk_172 (dk_at dksX11_together_0 17 rfl rfl)
abbrev cX11_meets : ByteArray := prog_15_method_3_code
def yX11_meets : MethodName := ⟨RX11, "meets", "(LDeadUnderstudies$Person;)I"⟩
def dkwX11_meets_0 : List UInt8 := [42, 180, 0, 7, 43, 180, 0, 7, 184, 0, 19, 172]
abbrev dktX11_meets_0 : List UInt8 := dkwX11_meets_0 ++ []
theorem dksX11_meets_0 : cX11_meets.data.toList.drop 0 = dktX11_meets_0 := by decide +kernel
theorem dX11_meets_0 : decode cX11_meets 0 = .ok (.aload_n 0, 1) := dk_42 (dk_at dksX11_meets_0 0 rfl rfl)
theorem dX11_meets_1 : decode cX11_meets 1 = .ok (.getfield 7, 3) := dk_180 0 7 (dk_at dksX11_meets_0 1 rfl rfl)
theorem dX11_meets_4 : decode cX11_meets 4 = .ok (.aload_n 1, 1) := dk_43 (dk_at dksX11_meets_0 4 rfl rfl)
theorem dX11_meets_5 : decode cX11_meets 5 = .ok (.getfield 7, 3) := dk_180 0 7 (dk_at dksX11_meets_0 5 rfl rfl)
theorem dX11_meets_8 : decode cX11_meets 8 = .ok (.invokestatic 19, 3) := dk_184 0 19 (dk_at dksX11_meets_0 8 rfl rfl)
theorem dX11_meets_11 : decode cX11_meets 11 = .ok (.ireturn, 1) := dk_172 (dk_at dksX11_meets_0 11 rfl rfl)
theorem q130 : (Jvm.Cond.initialized "DeadUnderstudies$Person") ∈ lw_all := lw_g (lw_at lw_m1 19 rfl) rfl
theorem q655 : (Jvm.Cond.selects "DeadUnderstudies$Person" ({ cls := "java/lang/Object", name := "getClass", desc := "()Ljava/lang/Class;" } : Jvm.MethodName) ({ cls := "java/lang/Object", name := "getClass", desc := "()Ljava/lang/Class;" } : Jvm.MethodName)) ∈ lw_all := lw_g (lw_at lw_m3 64 rfl) rfl
theorem q780 : (Jvm.Cond.instantiable "DeadUnderstudies$Person" (3 : Nat)) ∈ lw_all := lw_g (lw_at lw_m3 189 rfl) rfl
theorem q782 : (Jvm.Cond.instanceMethod ({ cls := "DeadUnderstudies$Person", name := "<init>", desc := "(III)V" } : Jvm.MethodName)) ∈ lw_all := lw_g (lw_at lw_m3 191 rfl) rfl
theorem q783 : (Jvm.Cond.code ({ cls := "DeadUnderstudies$Person", name := "<init>", desc := "(III)V" } : Jvm.MethodName) prog_15_method_1_code (4 : Nat) (Option.none : Option Jvm.ClassFile.FieldType)) ∈ lw_all := lw_g (lw_at lw_m3 192 rfl) rfl
theorem q784 : (Jvm.Cond.methodLink "DeadUnderstudies$Person" (1 : Nat) ({ cls := "java/lang/Object", name := "<init>", desc := "()V" } : Jvm.MethodName)) ∈ lw_all := lw_g (lw_at lw_m3 193 rfl) rfl
theorem q785 : (Jvm.Cond.fieldLink "DeadUnderstudies$Person" (7 : Nat) "DeadUnderstudies$Person" "born" "I") ∈ lw_all := lw_g (lw_at lw_m3 194 rfl) rfl
theorem q787 : (Jvm.Cond.fieldLink "DeadUnderstudies$Person" (13 : Nat) "DeadUnderstudies$Person" "dead" "I") ∈ lw_all := lw_g (lw_at lw_m3 196 rfl) rfl
theorem q790 : (Jvm.Cond.fieldLink "DeadUnderstudies$Person" (16 : Nat) "DeadUnderstudies$Person" "memory" "I") ∈ lw_all := lw_g (lw_at lw_m3 199 rfl) rfl
theorem q792 : (Jvm.Cond.laysFinal "DeadUnderstudies$Person" "DeadUnderstudies$Person" "born" "I") ∈ lw_all := lw_g (lw_at lw_m3 201 rfl) rfl
theorem q793 : (Jvm.Cond.soleField "DeadUnderstudies$Person" "born") ∈ lw_all := lw_g (lw_at lw_m3 202 rfl) rfl
theorem q794 : (Jvm.Cond.laysFinal "DeadUnderstudies$Person" "DeadUnderstudies$Person" "dead" "I") ∈ lw_all := lw_g (lw_at lw_m3 203 rfl) rfl
theorem q795 : (Jvm.Cond.soleField "DeadUnderstudies$Person" "dead") ∈ lw_all := lw_g (lw_at lw_m3 204 rfl) rfl
theorem q796 : (Jvm.Cond.laysFinal "DeadUnderstudies$Person" "DeadUnderstudies$Person" "memory" "I") ∈ lw_all := lw_g (lw_at lw_m3 205 rfl) rfl
theorem q797 : (Jvm.Cond.soleField "DeadUnderstudies$Person" "memory") ∈ lw_all := lw_g (lw_at lw_m3 206 rfl) rfl
theorem q798 : (Jvm.Cond.superclass "DeadUnderstudies$Person" "java/lang/Object") ∈ lw_all := lw_g (lw_at lw_m3 207 rfl) rfl
theorem q832 : (Jvm.Cond.instanceMethod ({ cls := "DeadUnderstudies$Person", name := "isAlive", desc := "(I)Z" } : Jvm.MethodName)) ∈ lw_all := lw_g (lw_at lw_m4 1 rfl) rfl
theorem q833 : (Jvm.Cond.selects "DeadUnderstudies$Person" ({ cls := "DeadUnderstudies$Person", name := "isAlive", desc := "(I)Z" } : Jvm.MethodName) ({ cls := "DeadUnderstudies$Person", name := "isAlive", desc := "(I)Z" } : Jvm.MethodName)) ∈ lw_all := lw_g (lw_at lw_m4 2 rfl) rfl
theorem q834 : (Jvm.Cond.code ({ cls := "DeadUnderstudies$Person", name := "isAlive", desc := "(I)Z" } : Jvm.MethodName) prog_15_method_2_code (2 : Nat) (Option.some Jvm.ClassFile.FieldType.boolean)) ∈ lw_all := lw_g (lw_at lw_m4 3 rfl) rfl
theorem q1505 : (Jvm.Cond.instanceMethod ({ cls := "DeadUnderstudies$Person", name := "together", desc := "(LDeadUnderstudies$Person;)I" } : Jvm.MethodName)) ∈ lw_all := lw_g (lw_at lw_m6 194 rfl) rfl
theorem q1506 : (Jvm.Cond.selects "DeadUnderstudies$Person" ({ cls := "DeadUnderstudies$Person", name := "together", desc := "(LDeadUnderstudies$Person;)I" } : Jvm.MethodName) ({ cls := "DeadUnderstudies$Person", name := "together", desc := "(LDeadUnderstudies$Person;)I" } : Jvm.MethodName)) ∈ lw_all := lw_g (lw_at lw_m6 195 rfl) rfl
theorem q1507 : (Jvm.Cond.code ({ cls := "DeadUnderstudies$Person", name := "together", desc := "(LDeadUnderstudies$Person;)I" } : Jvm.MethodName) prog_15_method_4_code (2 : Nat) (Option.some Jvm.ClassFile.FieldType.int)) ∈ lw_all := lw_g (lw_at lw_m6 196 rfl) rfl
theorem q1508 : (Jvm.Cond.methodLink "DeadUnderstudies$Person" (25 : Nat) ({ cls := "java/lang/Math", name := "min", desc := "(II)I" } : Jvm.MethodName)) ∈ lw_all := lw_g (lw_at lw_m6 197 rfl) rfl
theorem q1509 : (Jvm.Cond.methodLink "DeadUnderstudies$Person" (28 : Nat) ({ cls := "DeadUnderstudies$Person", name := "meets", desc := "(LDeadUnderstudies$Person;)I" } : Jvm.MethodName)) ∈ lw_all := lw_g (lw_at lw_m6 198 rfl) rfl
theorem q1510 : (Jvm.Cond.instanceMethod ({ cls := "DeadUnderstudies$Person", name := "meets", desc := "(LDeadUnderstudies$Person;)I" } : Jvm.MethodName)) ∈ lw_all := lw_g (lw_at lw_m6 199 rfl) rfl
theorem q1511 : (Jvm.Cond.selects "DeadUnderstudies$Person" ({ cls := "DeadUnderstudies$Person", name := "meets", desc := "(LDeadUnderstudies$Person;)I" } : Jvm.MethodName) ({ cls := "DeadUnderstudies$Person", name := "meets", desc := "(LDeadUnderstudies$Person;)I" } : Jvm.MethodName)) ∈ lw_all := lw_g (lw_at lw_m6 200 rfl) rfl
theorem q1512 : (Jvm.Cond.code ({ cls := "DeadUnderstudies$Person", name := "meets", desc := "(LDeadUnderstudies$Person;)I" } : Jvm.MethodName) prog_15_method_3_code (2 : Nat) (Option.some Jvm.ClassFile.FieldType.int)) ∈ lw_all := lw_g (lw_at lw_m6 201 rfl) rfl
theorem q1513 : (Jvm.Cond.methodLink "DeadUnderstudies$Person" (19 : Nat) ({ cls := "java/lang/Math", name := "max", desc := "(II)I" } : Jvm.MethodName)) ∈ lw_all := lw_g (lw_at lw_m6 202 rfl) rfl
theorem q2611 : (Jvm.Cond.castable "DeadUnderstudies$Person" "java/lang/Object") ∈ lw_tbl := lw_at lw_m11 100 rfl
theorem in_X11 : ∀ w ∈ wsX110, w ∈ lw_all := lw_in wsX110 [792, 794, 796] (by decide +kernel) (by decide +kernel)
/-! DeadUnderstudies$Reader -/
def RX12 : String := "DeadUnderstudies$Reader"
abbrev cX12_init : ByteArray := prog_17_method_1_code
def yX12_init : MethodName := ⟨RX12, "<init>", "([BI)V"⟩
def dkwX12_init_0 : List UInt8 := [42, 183, 0, 3, 42, 43, 181, 0, 9, 42, 28, 181, 0, 15, 177]
abbrev dktX12_init_0 : List UInt8 := dkwX12_init_0 ++ []
theorem dksX12_init_0 : cX12_init.data.toList.drop 0 = dktX12_init_0 := by decide +kernel
theorem dX12_init_0 : decode cX12_init 0 = .ok (.aload_n 0, 1) := dk_42 (dk_at dksX12_init_0 0 rfl rfl)
theorem dX12_init_1 : decode cX12_init 1 = .ok (.invokespecial 3, 3) := dk_183 0 3 (dk_at dksX12_init_0 1 rfl rfl)
theorem dX12_init_4 : decode cX12_init 4 = .ok (.aload_n 0, 1) := dk_42 (dk_at dksX12_init_0 4 rfl rfl)
theorem dX12_init_5 : decode cX12_init 5 = .ok (.aload_n 1, 1) := dk_43 (dk_at dksX12_init_0 5 rfl rfl)
theorem dX12_init_6 : decode cX12_init 6 = .ok (.putfield 9, 3) := dk_181 0 9 (dk_at dksX12_init_0 6 rfl rfl)
theorem dX12_init_9 : decode cX12_init 9 = .ok (.aload_n 0, 1) := dk_42 (dk_at dksX12_init_0 9 rfl rfl)
theorem dX12_init_10 : decode cX12_init 10 = .ok (.iload_n 2, 1) := dk_28 (dk_at dksX12_init_0 10 rfl rfl)
theorem dX12_init_11 : decode cX12_init 11 = .ok (.putfield 15, 3) := dk_181 0 15 (dk_at dksX12_init_0 11 rfl rfl)
theorem dX12_init_14 : decode cX12_init 14 = .ok (.return_, 1) := dk_177 (dk_at dksX12_init_0 14 rfl rfl)
abbrev cX12_read : ByteArray := prog_17_method_10_code
def yX12_read : MethodName := ⟨RX12, "read", "()V"⟩
def dkwX12_read_1 : List UInt8 := [42, 180, 0, 22, 42, 180, 0, 15, 162, 0, 15, 187, 0, 49, 89, 42, 180, 0, 22, 183, 0, 51, 191, 177]
abbrev dktX12_read_1 : List UInt8 := dkwX12_read_1 ++ []
def dkwX12_read_0 : List UInt8 := [42, 182, 0, 43, 42, 182, 0, 54, 42, 18, 57, 182, 0, 46, 153, 0, 10, 42, 182, 0, 54, 167, 255, 243]
abbrev dktX12_read_0 : List UInt8 := dkwX12_read_0 ++ dktX12_read_1
theorem dksX12_read_0 : cX12_read.data.toList.drop 0 = dktX12_read_0 := by decide +kernel
theorem dksX12_read_1 : cX12_read.data.toList.drop 24 = dktX12_read_1 := dk_seg dksX12_read_0 24 rfl rfl
theorem dX12_read_0 : decode cX12_read 0 = .ok (.aload_n 0, 1) := dk_42 (dk_at dksX12_read_0 0 rfl rfl)
theorem dX12_read_1 : decode cX12_read 1 = .ok (.invokevirtual 43, 3) := dk_182 0 43 (dk_at dksX12_read_0 1 rfl rfl)
theorem dX12_read_4 : decode cX12_read 4 = .ok (.aload_n 0, 1) := dk_42 (dk_at dksX12_read_0 4 rfl rfl)
theorem dX12_read_5 : decode cX12_read 5 = .ok (.invokevirtual 54, 3) := dk_182 0 54 (dk_at dksX12_read_0 5 rfl rfl)
theorem dX12_read_8 : decode cX12_read 8 = .ok (.aload_n 0, 1) := dk_42 (dk_at dksX12_read_0 8 rfl rfl)
theorem dX12_read_9 : decode cX12_read 9 = .ok (.ldc 57, 2) := dk_18 57 (dk_at dksX12_read_0 9 rfl rfl)
theorem dX12_read_11 : decode cX12_read 11 = .ok (.invokevirtual 46, 3) := dk_182 0 46 (dk_at dksX12_read_0 11 rfl rfl)
theorem dX12_read_14 : decode cX12_read 14 = .ok (.ifCond .eq 10, 3) := dk_153 0 10 (dk_at dksX12_read_0 14 rfl rfl)
theorem dX12_read_17 : decode cX12_read 17 = .ok (.aload_n 0, 1) := dk_42 (dk_at dksX12_read_0 17 rfl rfl)
theorem dX12_read_18 : decode cX12_read 18 = .ok (.invokevirtual 54, 3) := dk_182 0 54 (dk_at dksX12_read_0 18 rfl rfl)
theorem dX12_read_21 : decode cX12_read 21 = .ok (.goto (-13), 3) := dk_167 255 243 (dk_at dksX12_read_0 21 rfl rfl)
theorem dX12_read_24 : decode cX12_read 24 = .ok (.aload_n 0, 1) := dk_42 (dk_at dksX12_read_1 0 rfl rfl)
theorem dX12_read_25 : decode cX12_read 25 = .ok (.getfield 22, 3) := dk_180 0 22 (dk_at dksX12_read_1 1 rfl rfl)
theorem dX12_read_28 : decode cX12_read 28 = .ok (.aload_n 0, 1) := dk_42 (dk_at dksX12_read_1 4 rfl rfl)
theorem dX12_read_29 : decode cX12_read 29 = .ok (.getfield 15, 3) := dk_180 0 15 (dk_at dksX12_read_1 5 rfl rfl)
theorem dX12_read_32 : decode cX12_read 32 = .ok (.if_icmp .ge 15, 3) := dk_162 0 15 (dk_at dksX12_read_1 8 rfl rfl)
theorem dX12_read_35 : decode cX12_read 35 = .ok (.new 49, 3) := dk_187 0 49 (dk_at dksX12_read_1 11 rfl rfl)
theorem dX12_read_38 : decode cX12_read 38 = .ok (.dup, 1) := dk_89 (dk_at dksX12_read_1 14 rfl rfl)
theorem dX12_read_39 : decode cX12_read 39 = .ok (.aload_n 0, 1) := dk_42 (dk_at dksX12_read_1 15 rfl rfl)
theorem dX12_read_40 : decode cX12_read 40 = .ok (.getfield 22, 3) := dk_180 0 22 (dk_at dksX12_read_1 16 rfl rfl)
theorem dX12_read_43 : decode cX12_read 43 = .ok (.invokespecial 51, 3) := dk_183 0 51 (dk_at dksX12_read_1 19 rfl rfl)
theorem dX12_read_46 : decode cX12_read 46 = .ok (.athrow, 1) := dk_191 (dk_at dksX12_read_1 22 rfl rfl)
theorem dX12_read_47 : decode cX12_read 47 = .ok (.return_, 1) := dk_177 (dk_at dksX12_read_1 23 rfl rfl)
abbrev cX12_next : ByteArray := prog_17_method_3_code
def yX12_next : MethodName := ⟨RX12, "next", "()V"⟩
def dkwX12_next_6 : List UInt8 := [162, 0, 13, 42, 89, 180, 0, 19, 4, 96, 181, 0, 19, 177]
abbrev dktX12_next_6 : List UInt8 := dkwX12_next_6 ++ []
def dkwX12_next_5 : List UInt8 := [153, 0, 37, 42, 89, 180, 0, 19, 4, 96, 181, 0, 19, 167, 255, 231, 42, 180, 0, 22, 42, 180, 0, 15]
abbrev dktX12_next_5 : List UInt8 := dkwX12_next_5 ++ dktX12_next_6
def dkwX12_next_4 : List UInt8 := [16, 48, 16, 57, 182, 0, 25, 153, 0, 31, 42, 42, 180, 0, 19, 16, 48, 16, 57, 182, 0, 25]
abbrev dktX12_next_4 : List UInt8 := dkwX12_next_4 ++ dktX12_next_5
def dkwX12_next_3 : List UInt8 := [182, 0, 25, 153, 0, 80, 42, 89, 180, 0, 19, 4, 96, 181, 0, 19, 167, 255, 231, 42, 42, 180, 0, 22]
abbrev dktX12_next_3 : List UInt8 := dkwX12_next_3 ++ dktX12_next_4
def dkwX12_next_2 : List UInt8 := [180, 0, 22, 16, 97, 16, 122, 182, 0, 25, 153, 0, 31, 42, 42, 180, 0, 19, 16, 97, 16, 122]
abbrev dktX12_next_2 : List UInt8 := dkwX12_next_2 ++ dktX12_next_3
def dkwX12_next_1 : List UInt8 := [89, 180, 0, 22, 4, 96, 181, 0, 22, 167, 255, 231, 42, 42, 180, 0, 22, 181, 0, 19, 42, 42]
abbrev dktX12_next_1 : List UInt8 := dkwX12_next_1 ++ dktX12_next_2
def dkwX12_next_0 : List UInt8 := [42, 42, 180, 0, 19, 181, 0, 22, 42, 42, 180, 0, 22, 16, 32, 16, 32, 182, 0, 25, 153, 0, 16, 42]
abbrev dktX12_next_0 : List UInt8 := dkwX12_next_0 ++ dktX12_next_1
theorem dksX12_next_0 : cX12_next.data.toList.drop 0 = dktX12_next_0 := by decide +kernel
theorem dksX12_next_1 : cX12_next.data.toList.drop 24 = dktX12_next_1 := dk_seg dksX12_next_0 24 rfl rfl
theorem dksX12_next_2 : cX12_next.data.toList.drop 46 = dktX12_next_2 := dk_seg dksX12_next_1 22 rfl rfl
theorem dksX12_next_3 : cX12_next.data.toList.drop 68 = dktX12_next_3 := dk_seg dksX12_next_2 22 rfl rfl
theorem dksX12_next_4 : cX12_next.data.toList.drop 92 = dktX12_next_4 := dk_seg dksX12_next_3 24 rfl rfl
theorem dksX12_next_5 : cX12_next.data.toList.drop 114 = dktX12_next_5 := dk_seg dksX12_next_4 22 rfl rfl
theorem dksX12_next_6 : cX12_next.data.toList.drop 138 = dktX12_next_6 := dk_seg dksX12_next_5 24 rfl rfl
theorem dX12_next_0 : decode cX12_next 0 = .ok (.aload_n 0, 1) := dk_42 (dk_at dksX12_next_0 0 rfl rfl)
theorem dX12_next_1 : decode cX12_next 1 = .ok (.aload_n 0, 1) := dk_42 (dk_at dksX12_next_0 1 rfl rfl)
theorem dX12_next_2 : decode cX12_next 2 = .ok (.getfield 19, 3) := dk_180 0 19 (dk_at dksX12_next_0 2 rfl rfl)
theorem dX12_next_5 : decode cX12_next 5 = .ok (.putfield 22, 3) := dk_181 0 22 (dk_at dksX12_next_0 5 rfl rfl)
theorem dX12_next_8 : decode cX12_next 8 = .ok (.aload_n 0, 1) := dk_42 (dk_at dksX12_next_0 8 rfl rfl)
theorem dX12_next_9 : decode cX12_next 9 = .ok (.aload_n 0, 1) := dk_42 (dk_at dksX12_next_0 9 rfl rfl)
theorem dX12_next_10 : decode cX12_next 10 = .ok (.getfield 22, 3) := dk_180 0 22 (dk_at dksX12_next_0 10 rfl rfl)
theorem dX12_next_13 : decode cX12_next 13 = .ok (.bipush 32, 2) := dk_16 32 (dk_at dksX12_next_0 13 rfl rfl)
theorem dX12_next_15 : decode cX12_next 15 = .ok (.bipush 32, 2) := dk_16 32 (dk_at dksX12_next_0 15 rfl rfl)
theorem dX12_next_17 : decode cX12_next 17 = .ok (.invokevirtual 25, 3) := dk_182 0 25 (dk_at dksX12_next_0 17 rfl rfl)
theorem dX12_next_20 : decode cX12_next 20 = .ok (.ifCond .eq 16, 3) := dk_153 0 16 (dk_at dksX12_next_0 20 rfl rfl)
theorem dX12_next_23 : decode cX12_next 23 = .ok (.aload_n 0, 1) := dk_42 (dk_at dksX12_next_0 23 rfl rfl)
theorem dX12_next_24 : decode cX12_next 24 = .ok (.dup, 1) := dk_89 (dk_at dksX12_next_1 0 rfl rfl)
theorem dX12_next_25 : decode cX12_next 25 = .ok (.getfield 22, 3) := dk_180 0 22 (dk_at dksX12_next_1 1 rfl rfl)
theorem dX12_next_28 : decode cX12_next 28 = .ok (.iconst 1, 1) := dk_4 (dk_at dksX12_next_1 4 rfl rfl)
theorem dX12_next_29 : decode cX12_next 29 = .ok (.iadd, 1) := dk_96 (dk_at dksX12_next_1 5 rfl rfl)
theorem dX12_next_30 : decode cX12_next 30 = .ok (.putfield 22, 3) := dk_181 0 22 (dk_at dksX12_next_1 6 rfl rfl)
theorem dX12_next_33 : decode cX12_next 33 = .ok (.goto (-25), 3) := dk_167 255 231 (dk_at dksX12_next_1 9 rfl rfl)
theorem dX12_next_36 : decode cX12_next 36 = .ok (.aload_n 0, 1) := dk_42 (dk_at dksX12_next_1 12 rfl rfl)
theorem dX12_next_37 : decode cX12_next 37 = .ok (.aload_n 0, 1) := dk_42 (dk_at dksX12_next_1 13 rfl rfl)
theorem dX12_next_38 : decode cX12_next 38 = .ok (.getfield 22, 3) := dk_180 0 22 (dk_at dksX12_next_1 14 rfl rfl)
theorem dX12_next_41 : decode cX12_next 41 = .ok (.putfield 19, 3) := dk_181 0 19 (dk_at dksX12_next_1 17 rfl rfl)
theorem dX12_next_44 : decode cX12_next 44 = .ok (.aload_n 0, 1) := dk_42 (dk_at dksX12_next_1 20 rfl rfl)
theorem dX12_next_45 : decode cX12_next 45 = .ok (.aload_n 0, 1) := dk_42 (dk_at dksX12_next_1 21 rfl rfl)
theorem dX12_next_46 : decode cX12_next 46 = .ok (.getfield 22, 3) := dk_180 0 22 (dk_at dksX12_next_2 0 rfl rfl)
theorem dX12_next_49 : decode cX12_next 49 = .ok (.bipush 97, 2) := dk_16 97 (dk_at dksX12_next_2 3 rfl rfl)
theorem dX12_next_51 : decode cX12_next 51 = .ok (.bipush 122, 2) := dk_16 122 (dk_at dksX12_next_2 5 rfl rfl)
theorem dX12_next_53 : decode cX12_next 53 = .ok (.invokevirtual 25, 3) := dk_182 0 25 (dk_at dksX12_next_2 7 rfl rfl)
theorem dX12_next_56 : decode cX12_next 56 = .ok (.ifCond .eq 31, 3) := dk_153 0 31 (dk_at dksX12_next_2 10 rfl rfl)
theorem dX12_next_59 : decode cX12_next 59 = .ok (.aload_n 0, 1) := dk_42 (dk_at dksX12_next_2 13 rfl rfl)
theorem dX12_next_60 : decode cX12_next 60 = .ok (.aload_n 0, 1) := dk_42 (dk_at dksX12_next_2 14 rfl rfl)
theorem dX12_next_61 : decode cX12_next 61 = .ok (.getfield 19, 3) := dk_180 0 19 (dk_at dksX12_next_2 15 rfl rfl)
theorem dX12_next_64 : decode cX12_next 64 = .ok (.bipush 97, 2) := dk_16 97 (dk_at dksX12_next_2 18 rfl rfl)
theorem dX12_next_66 : decode cX12_next 66 = .ok (.bipush 122, 2) := dk_16 122 (dk_at dksX12_next_2 20 rfl rfl)
theorem dX12_next_68 : decode cX12_next 68 = .ok (.invokevirtual 25, 3) := dk_182 0 25 (dk_at dksX12_next_3 0 rfl rfl)
theorem dX12_next_71 : decode cX12_next 71 = .ok (.ifCond .eq 80, 3) := dk_153 0 80 (dk_at dksX12_next_3 3 rfl rfl)
theorem dX12_next_74 : decode cX12_next 74 = .ok (.aload_n 0, 1) := dk_42 (dk_at dksX12_next_3 6 rfl rfl)
theorem dX12_next_75 : decode cX12_next 75 = .ok (.dup, 1) := dk_89 (dk_at dksX12_next_3 7 rfl rfl)
theorem dX12_next_76 : decode cX12_next 76 = .ok (.getfield 19, 3) := dk_180 0 19 (dk_at dksX12_next_3 8 rfl rfl)
theorem dX12_next_79 : decode cX12_next 79 = .ok (.iconst 1, 1) := dk_4 (dk_at dksX12_next_3 11 rfl rfl)
theorem dX12_next_80 : decode cX12_next 80 = .ok (.iadd, 1) := dk_96 (dk_at dksX12_next_3 12 rfl rfl)
theorem dX12_next_81 : decode cX12_next 81 = .ok (.putfield 19, 3) := dk_181 0 19 (dk_at dksX12_next_3 13 rfl rfl)
theorem dX12_next_84 : decode cX12_next 84 = .ok (.goto (-25), 3) := dk_167 255 231 (dk_at dksX12_next_3 16 rfl rfl)
theorem dX12_next_87 : decode cX12_next 87 = .ok (.aload_n 0, 1) := dk_42 (dk_at dksX12_next_3 19 rfl rfl)
theorem dX12_next_88 : decode cX12_next 88 = .ok (.aload_n 0, 1) := dk_42 (dk_at dksX12_next_3 20 rfl rfl)
theorem dX12_next_89 : decode cX12_next 89 = .ok (.getfield 22, 3) := dk_180 0 22 (dk_at dksX12_next_3 21 rfl rfl)
theorem dX12_next_92 : decode cX12_next 92 = .ok (.bipush 48, 2) := dk_16 48 (dk_at dksX12_next_4 0 rfl rfl)
theorem dX12_next_94 : decode cX12_next 94 = .ok (.bipush 57, 2) := dk_16 57 (dk_at dksX12_next_4 2 rfl rfl)
theorem dX12_next_96 : decode cX12_next 96 = .ok (.invokevirtual 25, 3) := dk_182 0 25 (dk_at dksX12_next_4 4 rfl rfl)
theorem dX12_next_99 : decode cX12_next 99 = .ok (.ifCond .eq 31, 3) := dk_153 0 31 (dk_at dksX12_next_4 7 rfl rfl)
theorem dX12_next_102 : decode cX12_next 102 = .ok (.aload_n 0, 1) := dk_42 (dk_at dksX12_next_4 10 rfl rfl)
theorem dX12_next_103 : decode cX12_next 103 = .ok (.aload_n 0, 1) := dk_42 (dk_at dksX12_next_4 11 rfl rfl)
theorem dX12_next_104 : decode cX12_next 104 = .ok (.getfield 19, 3) := dk_180 0 19 (dk_at dksX12_next_4 12 rfl rfl)
theorem dX12_next_107 : decode cX12_next 107 = .ok (.bipush 48, 2) := dk_16 48 (dk_at dksX12_next_4 15 rfl rfl)
theorem dX12_next_109 : decode cX12_next 109 = .ok (.bipush 57, 2) := dk_16 57 (dk_at dksX12_next_4 17 rfl rfl)
theorem dX12_next_111 : decode cX12_next 111 = .ok (.invokevirtual 25, 3) := dk_182 0 25 (dk_at dksX12_next_4 19 rfl rfl)
theorem dX12_next_114 : decode cX12_next 114 = .ok (.ifCond .eq 37, 3) := dk_153 0 37 (dk_at dksX12_next_5 0 rfl rfl)
theorem dX12_next_117 : decode cX12_next 117 = .ok (.aload_n 0, 1) := dk_42 (dk_at dksX12_next_5 3 rfl rfl)
theorem dX12_next_118 : decode cX12_next 118 = .ok (.dup, 1) := dk_89 (dk_at dksX12_next_5 4 rfl rfl)
theorem dX12_next_119 : decode cX12_next 119 = .ok (.getfield 19, 3) := dk_180 0 19 (dk_at dksX12_next_5 5 rfl rfl)
theorem dX12_next_122 : decode cX12_next 122 = .ok (.iconst 1, 1) := dk_4 (dk_at dksX12_next_5 8 rfl rfl)
theorem dX12_next_123 : decode cX12_next 123 = .ok (.iadd, 1) := dk_96 (dk_at dksX12_next_5 9 rfl rfl)
theorem dX12_next_124 : decode cX12_next 124 = .ok (.putfield 19, 3) := dk_181 0 19 (dk_at dksX12_next_5 10 rfl rfl)
theorem dX12_next_127 : decode cX12_next 127 = .ok (.goto (-25), 3) := dk_167 255 231 (dk_at dksX12_next_5 13 rfl rfl)
theorem dX12_next_130 : decode cX12_next 130 = .ok (.aload_n 0, 1) := dk_42 (dk_at dksX12_next_5 16 rfl rfl)
theorem dX12_next_131 : decode cX12_next 131 = .ok (.getfield 22, 3) := dk_180 0 22 (dk_at dksX12_next_5 17 rfl rfl)
theorem dX12_next_134 : decode cX12_next 134 = .ok (.aload_n 0, 1) := dk_42 (dk_at dksX12_next_5 20 rfl rfl)
theorem dX12_next_135 : decode cX12_next 135 = .ok (.getfield 15, 3) := dk_180 0 15 (dk_at dksX12_next_5 21 rfl rfl)
theorem dX12_next_138 : decode cX12_next 138 = .ok (.if_icmp .ge 13, 3) := dk_162 0 13 (dk_at dksX12_next_6 0 rfl rfl)
theorem dX12_next_141 : decode cX12_next 141 = .ok (.aload_n 0, 1) := dk_42 (dk_at dksX12_next_6 3 rfl rfl)
theorem dX12_next_142 : decode cX12_next 142 = .ok (.dup, 1) := dk_89 (dk_at dksX12_next_6 4 rfl rfl)
theorem dX12_next_143 : decode cX12_next 143 = .ok (.getfield 19, 3) := dk_180 0 19 (dk_at dksX12_next_6 5 rfl rfl)
theorem dX12_next_146 : decode cX12_next 146 = .ok (.iconst 1, 1) := dk_4 (dk_at dksX12_next_6 8 rfl rfl)
theorem dX12_next_147 : decode cX12_next 147 = .ok (.iadd, 1) := dk_96 (dk_at dksX12_next_6 9 rfl rfl)
theorem dX12_next_148 : decode cX12_next 148 = .ok (.putfield 19, 3) := dk_181 0 19 (dk_at dksX12_next_6 10 rfl rfl)
theorem dX12_next_151 : decode cX12_next 151 = .ok (.return_, 1) := dk_177 (dk_at dksX12_next_6 13 rfl rfl)
abbrev cX12_isIn : ByteArray := prog_17_method_2_code
def yX12_isIn : MethodName := ⟨RX12, "isIn", "(III)Z"⟩
def dkwX12_isIn_1 : List UInt8 := [29, 163, 0, 7, 4, 167, 0, 4, 3, 172]
abbrev dktX12_isIn_1 : List UInt8 := dkwX12_isIn_1 ++ []
def dkwX12_isIn_0 : List UInt8 := [27, 42, 180, 0, 15, 162, 0, 27, 42, 180, 0, 9, 27, 51, 28, 161, 0, 17, 42, 180, 0, 9, 27, 51]
abbrev dktX12_isIn_0 : List UInt8 := dkwX12_isIn_0 ++ dktX12_isIn_1
theorem dksX12_isIn_0 : cX12_isIn.data.toList.drop 0 = dktX12_isIn_0 := by decide +kernel
theorem dksX12_isIn_1 : cX12_isIn.data.toList.drop 24 = dktX12_isIn_1 := dk_seg dksX12_isIn_0 24 rfl rfl
theorem dX12_isIn_0 : decode cX12_isIn 0 = .ok (.iload_n 1, 1) := dk_27 (dk_at dksX12_isIn_0 0 rfl rfl)
theorem dX12_isIn_1 : decode cX12_isIn 1 = .ok (.aload_n 0, 1) := dk_42 (dk_at dksX12_isIn_0 1 rfl rfl)
theorem dX12_isIn_2 : decode cX12_isIn 2 = .ok (.getfield 15, 3) := dk_180 0 15 (dk_at dksX12_isIn_0 2 rfl rfl)
theorem dX12_isIn_5 : decode cX12_isIn 5 = .ok (.if_icmp .ge 27, 3) := dk_162 0 27 (dk_at dksX12_isIn_0 5 rfl rfl)
theorem dX12_isIn_8 : decode cX12_isIn 8 = .ok (.aload_n 0, 1) := dk_42 (dk_at dksX12_isIn_0 8 rfl rfl)
theorem dX12_isIn_9 : decode cX12_isIn 9 = .ok (.getfield 9, 3) := dk_180 0 9 (dk_at dksX12_isIn_0 9 rfl rfl)
theorem dX12_isIn_12 : decode cX12_isIn 12 = .ok (.iload_n 1, 1) := dk_27 (dk_at dksX12_isIn_0 12 rfl rfl)
theorem dX12_isIn_13 : decode cX12_isIn 13 = .ok (.baload, 1) := dk_51 (dk_at dksX12_isIn_0 13 rfl rfl)
theorem dX12_isIn_14 : decode cX12_isIn 14 = .ok (.iload_n 2, 1) := dk_28 (dk_at dksX12_isIn_0 14 rfl rfl)
theorem dX12_isIn_15 : decode cX12_isIn 15 = .ok (.if_icmp .lt 17, 3) := dk_161 0 17 (dk_at dksX12_isIn_0 15 rfl rfl)
theorem dX12_isIn_18 : decode cX12_isIn 18 = .ok (.aload_n 0, 1) := dk_42 (dk_at dksX12_isIn_0 18 rfl rfl)
theorem dX12_isIn_19 : decode cX12_isIn 19 = .ok (.getfield 9, 3) := dk_180 0 9 (dk_at dksX12_isIn_0 19 rfl rfl)
theorem dX12_isIn_22 : decode cX12_isIn 22 = .ok (.iload_n 1, 1) := dk_27 (dk_at dksX12_isIn_0 22 rfl rfl)
theorem dX12_isIn_23 : decode cX12_isIn 23 = .ok (.baload, 1) := dk_51 (dk_at dksX12_isIn_0 23 rfl rfl)
theorem dX12_isIn_24 : decode cX12_isIn 24 = .ok (.iload_n 3, 1) := dk_29 (dk_at dksX12_isIn_1 0 rfl rfl)
theorem dX12_isIn_25 : decode cX12_isIn 25 = .ok (.if_icmp .gt 7, 3) := dk_163 0 7 (dk_at dksX12_isIn_1 1 rfl rfl)
theorem dX12_isIn_28 : decode cX12_isIn 28 = .ok (.iconst 1, 1) := dk_4 (dk_at dksX12_isIn_1 4 rfl rfl)
theorem dX12_isIn_29 : decode cX12_isIn 29 = .ok (.goto 4, 3) := dk_167 0 4 (dk_at dksX12_isIn_1 5 rfl rfl)
theorem dX12_isIn_32 : decode cX12_isIn 32 = .ok (.iconst 0, 1) := dk_3 (dk_at dksX12_isIn_1 8 rfl rfl)
theorem dX12_isIn_33 : decode cX12_isIn 33 = .ok (.ireturn, 1) := dk_172 (dk_at dksX12_isIn_1 9 rfl rfl)
abbrev cX12_is : ByteArray := prog_17_method_4_code
def yX12_is : MethodName := ⟨RX12, "is", "(Ljava/lang/String;)Z"⟩
def dkwX12_is_2 : List UInt8 := [159, 0, 5, 3, 172, 132, 2, 1, 167, 255, 224, 4, 172]
abbrev dktX12_is_2 : List UInt8 := dkwX12_is_2 ++ []
def dkwX12_is_1 : List UInt8 := [182, 0, 29, 162, 0, 30, 42, 180, 0, 9, 42, 180, 0, 22, 28, 96, 51, 43, 28, 182, 0, 35]
abbrev dktX12_is_1 : List UInt8 := dkwX12_is_1 ++ dktX12_is_2
def dkwX12_is_0 : List UInt8 := [42, 180, 0, 19, 42, 180, 0, 22, 100, 43, 182, 0, 29, 159, 0, 5, 3, 172, 3, 61, 28, 43]
abbrev dktX12_is_0 : List UInt8 := dkwX12_is_0 ++ dktX12_is_1
theorem dksX12_is_0 : cX12_is.data.toList.drop 0 = dktX12_is_0 := by decide +kernel
theorem dksX12_is_1 : cX12_is.data.toList.drop 22 = dktX12_is_1 := dk_seg dksX12_is_0 22 rfl rfl
theorem dksX12_is_2 : cX12_is.data.toList.drop 44 = dktX12_is_2 := dk_seg dksX12_is_1 22 rfl rfl
theorem dX12_is_0 : decode cX12_is 0 = .ok (.aload_n 0, 1) := dk_42 (dk_at dksX12_is_0 0 rfl rfl)
theorem dX12_is_1 : decode cX12_is 1 = .ok (.getfield 19, 3) := dk_180 0 19 (dk_at dksX12_is_0 1 rfl rfl)
theorem dX12_is_4 : decode cX12_is 4 = .ok (.aload_n 0, 1) := dk_42 (dk_at dksX12_is_0 4 rfl rfl)
theorem dX12_is_5 : decode cX12_is 5 = .ok (.getfield 22, 3) := dk_180 0 22 (dk_at dksX12_is_0 5 rfl rfl)
theorem dX12_is_8 : decode cX12_is 8 = .ok (.isub, 1) := dk_100 (dk_at dksX12_is_0 8 rfl rfl)
theorem dX12_is_9 : decode cX12_is 9 = .ok (.aload_n 1, 1) := dk_43 (dk_at dksX12_is_0 9 rfl rfl)
theorem dX12_is_10 : decode cX12_is 10 = .ok (.invokevirtual 29, 3) := dk_182 0 29 (dk_at dksX12_is_0 10 rfl rfl)
theorem dX12_is_13 : decode cX12_is 13 = .ok (.if_icmp .eq 5, 3) := dk_159 0 5 (dk_at dksX12_is_0 13 rfl rfl)
theorem dX12_is_16 : decode cX12_is 16 = .ok (.iconst 0, 1) := dk_3 (dk_at dksX12_is_0 16 rfl rfl)
theorem dX12_is_17 : decode cX12_is 17 = .ok (.ireturn, 1) := dk_172 (dk_at dksX12_is_0 17 rfl rfl)
theorem dX12_is_18 : decode cX12_is 18 = .ok (.iconst 0, 1) := dk_3 (dk_at dksX12_is_0 18 rfl rfl)
theorem dX12_is_19 : decode cX12_is 19 = .ok (.istore_n 2, 1) := dk_61 (dk_at dksX12_is_0 19 rfl rfl)
theorem dX12_is_20 : decode cX12_is 20 = .ok (.iload_n 2, 1) := dk_28 (dk_at dksX12_is_0 20 rfl rfl)
theorem dX12_is_21 : decode cX12_is 21 = .ok (.aload_n 1, 1) := dk_43 (dk_at dksX12_is_0 21 rfl rfl)
theorem dX12_is_22 : decode cX12_is 22 = .ok (.invokevirtual 29, 3) := dk_182 0 29 (dk_at dksX12_is_1 0 rfl rfl)
theorem dX12_is_25 : decode cX12_is 25 = .ok (.if_icmp .ge 30, 3) := dk_162 0 30 (dk_at dksX12_is_1 3 rfl rfl)
theorem dX12_is_28 : decode cX12_is 28 = .ok (.aload_n 0, 1) := dk_42 (dk_at dksX12_is_1 6 rfl rfl)
theorem dX12_is_29 : decode cX12_is 29 = .ok (.getfield 9, 3) := dk_180 0 9 (dk_at dksX12_is_1 7 rfl rfl)
theorem dX12_is_32 : decode cX12_is 32 = .ok (.aload_n 0, 1) := dk_42 (dk_at dksX12_is_1 10 rfl rfl)
theorem dX12_is_33 : decode cX12_is 33 = .ok (.getfield 22, 3) := dk_180 0 22 (dk_at dksX12_is_1 11 rfl rfl)
theorem dX12_is_36 : decode cX12_is 36 = .ok (.iload_n 2, 1) := dk_28 (dk_at dksX12_is_1 14 rfl rfl)
theorem dX12_is_37 : decode cX12_is 37 = .ok (.iadd, 1) := dk_96 (dk_at dksX12_is_1 15 rfl rfl)
theorem dX12_is_38 : decode cX12_is 38 = .ok (.baload, 1) := dk_51 (dk_at dksX12_is_1 16 rfl rfl)
theorem dX12_is_39 : decode cX12_is 39 = .ok (.aload_n 1, 1) := dk_43 (dk_at dksX12_is_1 17 rfl rfl)
theorem dX12_is_40 : decode cX12_is 40 = .ok (.iload_n 2, 1) := dk_28 (dk_at dksX12_is_1 18 rfl rfl)
theorem dX12_is_41 : decode cX12_is 41 = .ok (.invokevirtual 35, 3) := dk_182 0 35 (dk_at dksX12_is_1 19 rfl rfl)
theorem dX12_is_44 : decode cX12_is 44 = .ok (.if_icmp .eq 5, 3) := dk_159 0 5 (dk_at dksX12_is_2 0 rfl rfl)
theorem dX12_is_47 : decode cX12_is 47 = .ok (.iconst 0, 1) := dk_3 (dk_at dksX12_is_2 3 rfl rfl)
theorem dX12_is_48 : decode cX12_is 48 = .ok (.ireturn, 1) := dk_172 (dk_at dksX12_is_2 4 rfl rfl)
theorem dX12_is_49 : decode cX12_is 49 = .ok (.iinc 2 1, 3) := dk_132 2 1 (dk_at dksX12_is_2 5 rfl rfl)
theorem dX12_is_52 : decode cX12_is 52 = .ok (.goto (-32), 3) := dk_167 255 224 (dk_at dksX12_is_2 8 rfl rfl)
theorem dX12_is_55 : decode cX12_is 55 = .ok (.iconst 1, 1) := dk_4 (dk_at dksX12_is_2 11 rfl rfl)
theorem dX12_is_56 : decode cX12_is 56 = .ok (.ireturn, 1) := dk_172 (dk_at dksX12_is_2 12 rfl rfl)
abbrev cX12_begins : ByteArray := prog_17_method_11_code
def yX12_begins : MethodName := ⟨RX12, "begins", "(Z)V"⟩
def dkwX12_begins_1 : List UInt8 := [191, 42, 89, 180, 0, 59, 4, 96, 181, 0, 59, 177]
abbrev dktX12_begins_1 : List UInt8 := dkwX12_begins_1 ++ []
def dkwX12_begins_0 : List UInt8 := [42, 180, 0, 59, 16, 12, 159, 0, 7, 27, 154, 0, 15, 187, 0, 49, 89, 42, 180, 0, 22, 183, 0, 51]
abbrev dktX12_begins_0 : List UInt8 := dkwX12_begins_0 ++ dktX12_begins_1
theorem dksX12_begins_0 : cX12_begins.data.toList.drop 0 = dktX12_begins_0 := by decide +kernel
theorem dksX12_begins_1 : cX12_begins.data.toList.drop 24 = dktX12_begins_1 := dk_seg dksX12_begins_0 24 rfl rfl
theorem dX12_begins_0 : decode cX12_begins 0 = .ok (.aload_n 0, 1) := dk_42 (dk_at dksX12_begins_0 0 rfl rfl)
theorem dX12_begins_1 : decode cX12_begins 1 = .ok (.getfield 59, 3) := dk_180 0 59 (dk_at dksX12_begins_0 1 rfl rfl)
theorem dX12_begins_4 : decode cX12_begins 4 = .ok (.bipush 12, 2) := dk_16 12 (dk_at dksX12_begins_0 4 rfl rfl)
theorem dX12_begins_6 : decode cX12_begins 6 = .ok (.if_icmp .eq 7, 3) := dk_159 0 7 (dk_at dksX12_begins_0 6 rfl rfl)
theorem dX12_begins_9 : decode cX12_begins 9 = .ok (.iload_n 1, 1) := dk_27 (dk_at dksX12_begins_0 9 rfl rfl)
theorem dX12_begins_10 : decode cX12_begins 10 = .ok (.ifCond .ne 15, 3) := dk_154 0 15 (dk_at dksX12_begins_0 10 rfl rfl)
theorem dX12_begins_13 : decode cX12_begins 13 = .ok (.new 49, 3) := dk_187 0 49 (dk_at dksX12_begins_0 13 rfl rfl)
theorem dX12_begins_16 : decode cX12_begins 16 = .ok (.dup, 1) := dk_89 (dk_at dksX12_begins_0 16 rfl rfl)
theorem dX12_begins_17 : decode cX12_begins 17 = .ok (.aload_n 0, 1) := dk_42 (dk_at dksX12_begins_0 17 rfl rfl)
theorem dX12_begins_18 : decode cX12_begins 18 = .ok (.getfield 22, 3) := dk_180 0 22 (dk_at dksX12_begins_0 18 rfl rfl)
theorem dX12_begins_21 : decode cX12_begins 21 = .ok (.invokespecial 51, 3) := dk_183 0 51 (dk_at dksX12_begins_0 21 rfl rfl)
theorem dX12_begins_24 : decode cX12_begins 24 = .ok (.athrow, 1) := dk_191 (dk_at dksX12_begins_1 0 rfl rfl)
theorem dX12_begins_25 : decode cX12_begins 25 = .ok (.aload_n 0, 1) := dk_42 (dk_at dksX12_begins_1 1 rfl rfl)
theorem dX12_begins_26 : decode cX12_begins 26 = .ok (.dup, 1) := dk_89 (dk_at dksX12_begins_1 2 rfl rfl)
theorem dX12_begins_27 : decode cX12_begins 27 = .ok (.getfield 59, 3) := dk_180 0 59 (dk_at dksX12_begins_1 3 rfl rfl)
theorem dX12_begins_30 : decode cX12_begins 30 = .ok (.iconst 1, 1) := dk_4 (dk_at dksX12_begins_1 6 rfl rfl)
theorem dX12_begins_31 : decode cX12_begins 31 = .ok (.iadd, 1) := dk_96 (dk_at dksX12_begins_1 7 rfl rfl)
theorem dX12_begins_32 : decode cX12_begins 32 = .ok (.putfield 59, 3) := dk_181 0 59 (dk_at dksX12_begins_1 8 rfl rfl)
theorem dX12_begins_35 : decode cX12_begins 35 = .ok (.return_, 1) := dk_177 (dk_at dksX12_begins_1 11 rfl rfl)
abbrev cX12_sum : ByteArray := prog_17_method_17_code
def yX12_sum : MethodName := ⟨RX12, "sum", "()LDeadUnderstudies$Sum;"⟩
def dkwX12_sum_2 : List UInt8 := [183, 0, 139, 76, 167, 255, 209, 43, 176]
abbrev dktX12_sum_2 : List UInt8 := dkwX12_sum_2 ++ []
def dkwX12_sum_1 : List UInt8 := [180, 0, 9, 42, 180, 0, 22, 51, 146, 61, 42, 182, 0, 43, 187, 0, 137, 89, 28, 43, 42, 182, 0, 130]
abbrev dktX12_sum_1 : List UInt8 := dkwX12_sum_1 ++ dktX12_sum_2
def dkwX12_sum_0 : List UInt8 := [42, 182, 0, 130, 76, 42, 18, 133, 182, 0, 39, 154, 0, 12, 42, 18, 135, 182, 0, 39, 153, 0, 35, 42]
abbrev dktX12_sum_0 : List UInt8 := dkwX12_sum_0 ++ dktX12_sum_1
theorem dksX12_sum_0 : cX12_sum.data.toList.drop 0 = dktX12_sum_0 := by decide +kernel
theorem dksX12_sum_1 : cX12_sum.data.toList.drop 24 = dktX12_sum_1 := dk_seg dksX12_sum_0 24 rfl rfl
theorem dksX12_sum_2 : cX12_sum.data.toList.drop 48 = dktX12_sum_2 := dk_seg dksX12_sum_1 24 rfl rfl
theorem dX12_sum_0 : decode cX12_sum 0 = .ok (.aload_n 0, 1) := dk_42 (dk_at dksX12_sum_0 0 rfl rfl)
theorem dX12_sum_1 : decode cX12_sum 1 = .ok (.invokevirtual 130, 3) := dk_182 0 130 (dk_at dksX12_sum_0 1 rfl rfl)
theorem dX12_sum_4 : decode cX12_sum 4 = .ok (.astore_n 1, 1) := dk_76 (dk_at dksX12_sum_0 4 rfl rfl)
theorem dX12_sum_5 : decode cX12_sum 5 = .ok (.aload_n 0, 1) := dk_42 (dk_at dksX12_sum_0 5 rfl rfl)
theorem dX12_sum_6 : decode cX12_sum 6 = .ok (.ldc 133, 2) := dk_18 133 (dk_at dksX12_sum_0 6 rfl rfl)
theorem dX12_sum_8 : decode cX12_sum 8 = .ok (.invokevirtual 39, 3) := dk_182 0 39 (dk_at dksX12_sum_0 8 rfl rfl)
theorem dX12_sum_11 : decode cX12_sum 11 = .ok (.ifCond .ne 12, 3) := dk_154 0 12 (dk_at dksX12_sum_0 11 rfl rfl)
theorem dX12_sum_14 : decode cX12_sum 14 = .ok (.aload_n 0, 1) := dk_42 (dk_at dksX12_sum_0 14 rfl rfl)
theorem dX12_sum_15 : decode cX12_sum 15 = .ok (.ldc 135, 2) := dk_18 135 (dk_at dksX12_sum_0 15 rfl rfl)
theorem dX12_sum_17 : decode cX12_sum 17 = .ok (.invokevirtual 39, 3) := dk_182 0 39 (dk_at dksX12_sum_0 17 rfl rfl)
theorem dX12_sum_20 : decode cX12_sum 20 = .ok (.ifCond .eq 35, 3) := dk_153 0 35 (dk_at dksX12_sum_0 20 rfl rfl)
theorem dX12_sum_23 : decode cX12_sum 23 = .ok (.aload_n 0, 1) := dk_42 (dk_at dksX12_sum_0 23 rfl rfl)
theorem dX12_sum_24 : decode cX12_sum 24 = .ok (.getfield 9, 3) := dk_180 0 9 (dk_at dksX12_sum_1 0 rfl rfl)
theorem dX12_sum_27 : decode cX12_sum 27 = .ok (.aload_n 0, 1) := dk_42 (dk_at dksX12_sum_1 3 rfl rfl)
theorem dX12_sum_28 : decode cX12_sum 28 = .ok (.getfield 22, 3) := dk_180 0 22 (dk_at dksX12_sum_1 4 rfl rfl)
theorem dX12_sum_31 : decode cX12_sum 31 = .ok (.baload, 1) := dk_51 (dk_at dksX12_sum_1 7 rfl rfl)
theorem dX12_sum_32 : decode cX12_sum 32 = .ok (.i2c, 1) := dk_146 (dk_at dksX12_sum_1 8 rfl rfl)
theorem dX12_sum_33 : decode cX12_sum 33 = .ok (.istore_n 2, 1) := dk_61 (dk_at dksX12_sum_1 9 rfl rfl)
theorem dX12_sum_34 : decode cX12_sum 34 = .ok (.aload_n 0, 1) := dk_42 (dk_at dksX12_sum_1 10 rfl rfl)
theorem dX12_sum_35 : decode cX12_sum 35 = .ok (.invokevirtual 43, 3) := dk_182 0 43 (dk_at dksX12_sum_1 11 rfl rfl)
theorem dX12_sum_38 : decode cX12_sum 38 = .ok (.new 137, 3) := dk_187 0 137 (dk_at dksX12_sum_1 14 rfl rfl)
theorem dX12_sum_41 : decode cX12_sum 41 = .ok (.dup, 1) := dk_89 (dk_at dksX12_sum_1 17 rfl rfl)
theorem dX12_sum_42 : decode cX12_sum 42 = .ok (.iload_n 2, 1) := dk_28 (dk_at dksX12_sum_1 18 rfl rfl)
theorem dX12_sum_43 : decode cX12_sum 43 = .ok (.aload_n 1, 1) := dk_43 (dk_at dksX12_sum_1 19 rfl rfl)
theorem dX12_sum_44 : decode cX12_sum 44 = .ok (.aload_n 0, 1) := dk_42 (dk_at dksX12_sum_1 20 rfl rfl)
theorem dX12_sum_45 : decode cX12_sum 45 = .ok (.invokevirtual 130, 3) := dk_182 0 130 (dk_at dksX12_sum_1 21 rfl rfl)
theorem dX12_sum_48 : decode cX12_sum 48 = .ok (.invokespecial 139, 3) := dk_183 0 139 (dk_at dksX12_sum_2 0 rfl rfl)
theorem dX12_sum_51 : decode cX12_sum 51 = .ok (.astore_n 1, 1) := dk_76 (dk_at dksX12_sum_2 3 rfl rfl)
theorem dX12_sum_52 : decode cX12_sum 52 = .ok (.goto (-47), 3) := dk_167 255 209 (dk_at dksX12_sum_2 4 rfl rfl)
theorem dX12_sum_55 : decode cX12_sum 55 = .ok (.aload_n 1, 1) := dk_43 (dk_at dksX12_sum_2 7 rfl rfl)
theorem dX12_sum_56 : decode cX12_sum 56 = .ok (.areturn, 1) := dk_176 (dk_at dksX12_sum_2 8 rfl rfl)
abbrev cX12_term : ByteArray := prog_17_method_18_code
def yX12_term : MethodName := ⟨RX12, "term", "()LDeadUnderstudies$Sum;"⟩
def dkwX12_term_2 : List UInt8 := [187, 0, 137, 89, 28, 43, 42, 182, 0, 140, 183, 0, 139, 76, 167, 255, 200, 43, 176]
abbrev dktX12_term_2 : List UInt8 := dkwX12_term_2 ++ []
def dkwX12_term_1 : List UInt8 := [18, 147, 182, 0, 39, 153, 0, 35, 42, 180, 0, 9, 42, 180, 0, 22, 51, 146, 61, 42, 182, 0, 43]
abbrev dktX12_term_1 : List UInt8 := dkwX12_term_1 ++ dktX12_term_2
def dkwX12_term_0 : List UInt8 := [42, 182, 0, 140, 76, 42, 18, 143, 182, 0, 39, 154, 0, 21, 42, 18, 145, 182, 0, 39, 154, 0, 12, 42]
abbrev dktX12_term_0 : List UInt8 := dkwX12_term_0 ++ dktX12_term_1
theorem dksX12_term_0 : cX12_term.data.toList.drop 0 = dktX12_term_0 := by decide +kernel
theorem dksX12_term_1 : cX12_term.data.toList.drop 24 = dktX12_term_1 := dk_seg dksX12_term_0 24 rfl rfl
theorem dksX12_term_2 : cX12_term.data.toList.drop 47 = dktX12_term_2 := dk_seg dksX12_term_1 23 rfl rfl
theorem dX12_term_0 : decode cX12_term 0 = .ok (.aload_n 0, 1) := dk_42 (dk_at dksX12_term_0 0 rfl rfl)
theorem dX12_term_1 : decode cX12_term 1 = .ok (.invokevirtual 140, 3) := dk_182 0 140 (dk_at dksX12_term_0 1 rfl rfl)
theorem dX12_term_4 : decode cX12_term 4 = .ok (.astore_n 1, 1) := dk_76 (dk_at dksX12_term_0 4 rfl rfl)
theorem dX12_term_5 : decode cX12_term 5 = .ok (.aload_n 0, 1) := dk_42 (dk_at dksX12_term_0 5 rfl rfl)
theorem dX12_term_6 : decode cX12_term 6 = .ok (.ldc 143, 2) := dk_18 143 (dk_at dksX12_term_0 6 rfl rfl)
theorem dX12_term_8 : decode cX12_term 8 = .ok (.invokevirtual 39, 3) := dk_182 0 39 (dk_at dksX12_term_0 8 rfl rfl)
theorem dX12_term_11 : decode cX12_term 11 = .ok (.ifCond .ne 21, 3) := dk_154 0 21 (dk_at dksX12_term_0 11 rfl rfl)
theorem dX12_term_14 : decode cX12_term 14 = .ok (.aload_n 0, 1) := dk_42 (dk_at dksX12_term_0 14 rfl rfl)
theorem dX12_term_15 : decode cX12_term 15 = .ok (.ldc 145, 2) := dk_18 145 (dk_at dksX12_term_0 15 rfl rfl)
theorem dX12_term_17 : decode cX12_term 17 = .ok (.invokevirtual 39, 3) := dk_182 0 39 (dk_at dksX12_term_0 17 rfl rfl)
theorem dX12_term_20 : decode cX12_term 20 = .ok (.ifCond .ne 12, 3) := dk_154 0 12 (dk_at dksX12_term_0 20 rfl rfl)
theorem dX12_term_23 : decode cX12_term 23 = .ok (.aload_n 0, 1) := dk_42 (dk_at dksX12_term_0 23 rfl rfl)
theorem dX12_term_24 : decode cX12_term 24 = .ok (.ldc 147, 2) := dk_18 147 (dk_at dksX12_term_1 0 rfl rfl)
theorem dX12_term_26 : decode cX12_term 26 = .ok (.invokevirtual 39, 3) := dk_182 0 39 (dk_at dksX12_term_1 2 rfl rfl)
theorem dX12_term_29 : decode cX12_term 29 = .ok (.ifCond .eq 35, 3) := dk_153 0 35 (dk_at dksX12_term_1 5 rfl rfl)
theorem dX12_term_32 : decode cX12_term 32 = .ok (.aload_n 0, 1) := dk_42 (dk_at dksX12_term_1 8 rfl rfl)
theorem dX12_term_33 : decode cX12_term 33 = .ok (.getfield 9, 3) := dk_180 0 9 (dk_at dksX12_term_1 9 rfl rfl)
theorem dX12_term_36 : decode cX12_term 36 = .ok (.aload_n 0, 1) := dk_42 (dk_at dksX12_term_1 12 rfl rfl)
theorem dX12_term_37 : decode cX12_term 37 = .ok (.getfield 22, 3) := dk_180 0 22 (dk_at dksX12_term_1 13 rfl rfl)
theorem dX12_term_40 : decode cX12_term 40 = .ok (.baload, 1) := dk_51 (dk_at dksX12_term_1 16 rfl rfl)
theorem dX12_term_41 : decode cX12_term 41 = .ok (.i2c, 1) := dk_146 (dk_at dksX12_term_1 17 rfl rfl)
theorem dX12_term_42 : decode cX12_term 42 = .ok (.istore_n 2, 1) := dk_61 (dk_at dksX12_term_1 18 rfl rfl)
theorem dX12_term_43 : decode cX12_term 43 = .ok (.aload_n 0, 1) := dk_42 (dk_at dksX12_term_1 19 rfl rfl)
theorem dX12_term_44 : decode cX12_term 44 = .ok (.invokevirtual 43, 3) := dk_182 0 43 (dk_at dksX12_term_1 20 rfl rfl)
theorem dX12_term_47 : decode cX12_term 47 = .ok (.new 137, 3) := dk_187 0 137 (dk_at dksX12_term_2 0 rfl rfl)
theorem dX12_term_50 : decode cX12_term 50 = .ok (.dup, 1) := dk_89 (dk_at dksX12_term_2 3 rfl rfl)
theorem dX12_term_51 : decode cX12_term 51 = .ok (.iload_n 2, 1) := dk_28 (dk_at dksX12_term_2 4 rfl rfl)
theorem dX12_term_52 : decode cX12_term 52 = .ok (.aload_n 1, 1) := dk_43 (dk_at dksX12_term_2 5 rfl rfl)
theorem dX12_term_53 : decode cX12_term 53 = .ok (.aload_n 0, 1) := dk_42 (dk_at dksX12_term_2 6 rfl rfl)
theorem dX12_term_54 : decode cX12_term 54 = .ok (.invokevirtual 140, 3) := dk_182 0 140 (dk_at dksX12_term_2 7 rfl rfl)
theorem dX12_term_57 : decode cX12_term 57 = .ok (.invokespecial 139, 3) := dk_183 0 139 (dk_at dksX12_term_2 10 rfl rfl)
theorem dX12_term_60 : decode cX12_term 60 = .ok (.astore_n 1, 1) := dk_76 (dk_at dksX12_term_2 13 rfl rfl)
theorem dX12_term_61 : decode cX12_term 61 = .ok (.goto (-56), 3) := dk_167 255 200 (dk_at dksX12_term_2 14 rfl rfl)
theorem dX12_term_64 : decode cX12_term 64 = .ok (.aload_n 1, 1) := dk_43 (dk_at dksX12_term_2 17 rfl rfl)
theorem dX12_term_65 : decode cX12_term 65 = .ok (.areturn, 1) := dk_176 (dk_at dksX12_term_2 18 rfl rfl)
abbrev cX12_part : ByteArray := prog_17_method_20_code
def yX12_part : MethodName := ⟨RX12, "part", "()LDeadUnderstudies$Sum;"⟩
def dkwX12_part_4 : List UInt8 := [182, 0, 156, 42, 182, 0, 43, 187, 0, 169, 89, 27, 183, 0, 171, 176]
abbrev dktX12_part_4 : List UInt8 := dkwX12_part_4 ++ []
def dkwX12_part_3 : List UInt8 := [182, 0, 166, 60, 27, 2, 160, 0, 15, 187, 0, 49, 89, 42, 180, 0, 22, 183, 0, 51, 191, 42]
abbrev dktX12_part_3 : List UInt8 := dkwX12_part_3 ++ dktX12_part_4
def dkwX12_part_2 : List UInt8 := [153, 0, 23, 42, 182, 0, 156, 187, 0, 159, 89, 42, 3, 17, 3, 232, 182, 0, 161, 183, 0, 165, 176, 42]
abbrev dktX12_part_2 : List UInt8 := dkwX12_part_2 ++ dktX12_part_3
def dkwX12_part_1 : List UInt8 := [42, 89, 180, 0, 88, 4, 100, 181, 0, 88, 43, 176, 42, 42, 180, 0, 22, 16, 48, 16, 57, 182, 0, 25]
abbrev dktX12_part_1 : List UInt8 := dkwX12_part_1 ++ dktX12_part_2
def dkwX12_part_0 : List UInt8 := [42, 18, 152, 182, 0, 39, 153, 0, 30, 42, 182, 0, 103, 42, 182, 0, 115, 76, 42, 18, 154, 182, 0, 111]
abbrev dktX12_part_0 : List UInt8 := dkwX12_part_0 ++ dktX12_part_1
theorem dksX12_part_0 : cX12_part.data.toList.drop 0 = dktX12_part_0 := by decide +kernel
theorem dksX12_part_1 : cX12_part.data.toList.drop 24 = dktX12_part_1 := dk_seg dksX12_part_0 24 rfl rfl
theorem dksX12_part_2 : cX12_part.data.toList.drop 48 = dktX12_part_2 := dk_seg dksX12_part_1 24 rfl rfl
theorem dksX12_part_3 : cX12_part.data.toList.drop 72 = dktX12_part_3 := dk_seg dksX12_part_2 24 rfl rfl
theorem dksX12_part_4 : cX12_part.data.toList.drop 94 = dktX12_part_4 := dk_seg dksX12_part_3 22 rfl rfl
theorem dX12_part_0 : decode cX12_part 0 = .ok (.aload_n 0, 1) := dk_42 (dk_at dksX12_part_0 0 rfl rfl)
theorem dX12_part_1 : decode cX12_part 1 = .ok (.ldc 152, 2) := dk_18 152 (dk_at dksX12_part_0 1 rfl rfl)
theorem dX12_part_3 : decode cX12_part 3 = .ok (.invokevirtual 39, 3) := dk_182 0 39 (dk_at dksX12_part_0 3 rfl rfl)
theorem dX12_part_6 : decode cX12_part 6 = .ok (.ifCond .eq 30, 3) := dk_153 0 30 (dk_at dksX12_part_0 6 rfl rfl)
theorem dX12_part_9 : decode cX12_part 9 = .ok (.aload_n 0, 1) := dk_42 (dk_at dksX12_part_0 9 rfl rfl)
theorem dX12_part_10 : decode cX12_part 10 = .ok (.invokevirtual 103, 3) := dk_182 0 103 (dk_at dksX12_part_0 10 rfl rfl)
theorem dX12_part_13 : decode cX12_part 13 = .ok (.aload_n 0, 1) := dk_42 (dk_at dksX12_part_0 13 rfl rfl)
theorem dX12_part_14 : decode cX12_part 14 = .ok (.invokevirtual 115, 3) := dk_182 0 115 (dk_at dksX12_part_0 14 rfl rfl)
theorem dX12_part_17 : decode cX12_part 17 = .ok (.astore_n 1, 1) := dk_76 (dk_at dksX12_part_0 17 rfl rfl)
theorem dX12_part_18 : decode cX12_part 18 = .ok (.aload_n 0, 1) := dk_42 (dk_at dksX12_part_0 18 rfl rfl)
theorem dX12_part_19 : decode cX12_part 19 = .ok (.ldc 154, 2) := dk_18 154 (dk_at dksX12_part_0 19 rfl rfl)
theorem dX12_part_21 : decode cX12_part 21 = .ok (.invokevirtual 111, 3) := dk_182 0 111 (dk_at dksX12_part_0 21 rfl rfl)
theorem dX12_part_24 : decode cX12_part 24 = .ok (.aload_n 0, 1) := dk_42 (dk_at dksX12_part_1 0 rfl rfl)
theorem dX12_part_25 : decode cX12_part 25 = .ok (.dup, 1) := dk_89 (dk_at dksX12_part_1 1 rfl rfl)
theorem dX12_part_26 : decode cX12_part 26 = .ok (.getfield 88, 3) := dk_180 0 88 (dk_at dksX12_part_1 2 rfl rfl)
theorem dX12_part_29 : decode cX12_part 29 = .ok (.iconst 1, 1) := dk_4 (dk_at dksX12_part_1 5 rfl rfl)
theorem dX12_part_30 : decode cX12_part 30 = .ok (.isub, 1) := dk_100 (dk_at dksX12_part_1 6 rfl rfl)
theorem dX12_part_31 : decode cX12_part 31 = .ok (.putfield 88, 3) := dk_181 0 88 (dk_at dksX12_part_1 7 rfl rfl)
theorem dX12_part_34 : decode cX12_part 34 = .ok (.aload_n 1, 1) := dk_43 (dk_at dksX12_part_1 10 rfl rfl)
theorem dX12_part_35 : decode cX12_part 35 = .ok (.areturn, 1) := dk_176 (dk_at dksX12_part_1 11 rfl rfl)
theorem dX12_part_36 : decode cX12_part 36 = .ok (.aload_n 0, 1) := dk_42 (dk_at dksX12_part_1 12 rfl rfl)
theorem dX12_part_37 : decode cX12_part 37 = .ok (.aload_n 0, 1) := dk_42 (dk_at dksX12_part_1 13 rfl rfl)
theorem dX12_part_38 : decode cX12_part 38 = .ok (.getfield 22, 3) := dk_180 0 22 (dk_at dksX12_part_1 14 rfl rfl)
theorem dX12_part_41 : decode cX12_part 41 = .ok (.bipush 48, 2) := dk_16 48 (dk_at dksX12_part_1 17 rfl rfl)
theorem dX12_part_43 : decode cX12_part 43 = .ok (.bipush 57, 2) := dk_16 57 (dk_at dksX12_part_1 19 rfl rfl)
theorem dX12_part_45 : decode cX12_part 45 = .ok (.invokevirtual 25, 3) := dk_182 0 25 (dk_at dksX12_part_1 21 rfl rfl)
theorem dX12_part_48 : decode cX12_part 48 = .ok (.ifCond .eq 23, 3) := dk_153 0 23 (dk_at dksX12_part_2 0 rfl rfl)
theorem dX12_part_51 : decode cX12_part 51 = .ok (.aload_n 0, 1) := dk_42 (dk_at dksX12_part_2 3 rfl rfl)
theorem dX12_part_52 : decode cX12_part 52 = .ok (.invokevirtual 156, 3) := dk_182 0 156 (dk_at dksX12_part_2 4 rfl rfl)
theorem dX12_part_55 : decode cX12_part 55 = .ok (.new 159, 3) := dk_187 0 159 (dk_at dksX12_part_2 7 rfl rfl)
theorem dX12_part_58 : decode cX12_part 58 = .ok (.dup, 1) := dk_89 (dk_at dksX12_part_2 10 rfl rfl)
theorem dX12_part_59 : decode cX12_part 59 = .ok (.aload_n 0, 1) := dk_42 (dk_at dksX12_part_2 11 rfl rfl)
theorem dX12_part_60 : decode cX12_part 60 = .ok (.iconst 0, 1) := dk_3 (dk_at dksX12_part_2 12 rfl rfl)
theorem dX12_part_61 : decode cX12_part 61 = .ok (.sipush 1000, 3) := dk_17 3 232 (dk_at dksX12_part_2 13 rfl rfl)
theorem dX12_part_64 : decode cX12_part 64 = .ok (.invokevirtual 161, 3) := dk_182 0 161 (dk_at dksX12_part_2 16 rfl rfl)
theorem dX12_part_67 : decode cX12_part 67 = .ok (.invokespecial 165, 3) := dk_183 0 165 (dk_at dksX12_part_2 19 rfl rfl)
theorem dX12_part_70 : decode cX12_part 70 = .ok (.areturn, 1) := dk_176 (dk_at dksX12_part_2 22 rfl rfl)
theorem dX12_part_71 : decode cX12_part 71 = .ok (.aload_n 0, 1) := dk_42 (dk_at dksX12_part_2 23 rfl rfl)
theorem dX12_part_72 : decode cX12_part 72 = .ok (.invokevirtual 166, 3) := dk_182 0 166 (dk_at dksX12_part_3 0 rfl rfl)
theorem dX12_part_75 : decode cX12_part 75 = .ok (.istore_n 1, 1) := dk_60 (dk_at dksX12_part_3 3 rfl rfl)
theorem dX12_part_76 : decode cX12_part 76 = .ok (.iload_n 1, 1) := dk_27 (dk_at dksX12_part_3 4 rfl rfl)
theorem dX12_part_77 : decode cX12_part 77 = .ok (.iconst (-1), 1) := dk_2 (dk_at dksX12_part_3 5 rfl rfl)
theorem dX12_part_78 : decode cX12_part 78 = .ok (.if_icmp .ne 15, 3) := dk_160 0 15 (dk_at dksX12_part_3 6 rfl rfl)
theorem dX12_part_81 : decode cX12_part 81 = .ok (.new 49, 3) := dk_187 0 49 (dk_at dksX12_part_3 9 rfl rfl)
theorem dX12_part_84 : decode cX12_part 84 = .ok (.dup, 1) := dk_89 (dk_at dksX12_part_3 12 rfl rfl)
theorem dX12_part_85 : decode cX12_part 85 = .ok (.aload_n 0, 1) := dk_42 (dk_at dksX12_part_3 13 rfl rfl)
theorem dX12_part_86 : decode cX12_part 86 = .ok (.getfield 22, 3) := dk_180 0 22 (dk_at dksX12_part_3 14 rfl rfl)
theorem dX12_part_89 : decode cX12_part 89 = .ok (.invokespecial 51, 3) := dk_183 0 51 (dk_at dksX12_part_3 17 rfl rfl)
theorem dX12_part_92 : decode cX12_part 92 = .ok (.athrow, 1) := dk_191 (dk_at dksX12_part_3 20 rfl rfl)
theorem dX12_part_93 : decode cX12_part 93 = .ok (.aload_n 0, 1) := dk_42 (dk_at dksX12_part_3 21 rfl rfl)
theorem dX12_part_94 : decode cX12_part 94 = .ok (.invokevirtual 156, 3) := dk_182 0 156 (dk_at dksX12_part_4 0 rfl rfl)
theorem dX12_part_97 : decode cX12_part 97 = .ok (.aload_n 0, 1) := dk_42 (dk_at dksX12_part_4 3 rfl rfl)
theorem dX12_part_98 : decode cX12_part 98 = .ok (.invokevirtual 43, 3) := dk_182 0 43 (dk_at dksX12_part_4 4 rfl rfl)
theorem dX12_part_101 : decode cX12_part 101 = .ok (.new 169, 3) := dk_187 0 169 (dk_at dksX12_part_4 7 rfl rfl)
theorem dX12_part_104 : decode cX12_part 104 = .ok (.dup, 1) := dk_89 (dk_at dksX12_part_4 10 rfl rfl)
theorem dX12_part_105 : decode cX12_part 105 = .ok (.iload_n 1, 1) := dk_27 (dk_at dksX12_part_4 11 rfl rfl)
theorem dX12_part_106 : decode cX12_part 106 = .ok (.invokespecial 171, 3) := dk_183 0 171 (dk_at dksX12_part_4 12 rfl rfl)
theorem dX12_part_109 : decode cX12_part 109 = .ok (.areturn, 1) := dk_176 (dk_at dksX12_part_4 15 rfl rfl)
abbrev cX12_opens : ByteArray := prog_17_method_14_code
def yX12_opens : MethodName := ⟨RX12, "opens", "()V"⟩
def dkwX12_opens_1 : List UInt8 := [180, 0, 88, 4, 96, 181, 0, 88, 42, 182, 0, 43, 177]
abbrev dktX12_opens_1 : List UInt8 := dkwX12_opens_1 ++ []
def dkwX12_opens_0 : List UInt8 := [42, 180, 0, 88, 16, 8, 160, 0, 15, 187, 0, 49, 89, 42, 180, 0, 22, 183, 0, 51, 191, 42, 89]
abbrev dktX12_opens_0 : List UInt8 := dkwX12_opens_0 ++ dktX12_opens_1
theorem dksX12_opens_0 : cX12_opens.data.toList.drop 0 = dktX12_opens_0 := by decide +kernel
theorem dksX12_opens_1 : cX12_opens.data.toList.drop 23 = dktX12_opens_1 := dk_seg dksX12_opens_0 23 rfl rfl
theorem dX12_opens_0 : decode cX12_opens 0 = .ok (.aload_n 0, 1) := dk_42 (dk_at dksX12_opens_0 0 rfl rfl)
theorem dX12_opens_1 : decode cX12_opens 1 = .ok (.getfield 88, 3) := dk_180 0 88 (dk_at dksX12_opens_0 1 rfl rfl)
theorem dX12_opens_4 : decode cX12_opens 4 = .ok (.bipush 8, 2) := dk_16 8 (dk_at dksX12_opens_0 4 rfl rfl)
theorem dX12_opens_6 : decode cX12_opens 6 = .ok (.if_icmp .ne 15, 3) := dk_160 0 15 (dk_at dksX12_opens_0 6 rfl rfl)
theorem dX12_opens_9 : decode cX12_opens 9 = .ok (.new 49, 3) := dk_187 0 49 (dk_at dksX12_opens_0 9 rfl rfl)
theorem dX12_opens_12 : decode cX12_opens 12 = .ok (.dup, 1) := dk_89 (dk_at dksX12_opens_0 12 rfl rfl)
theorem dX12_opens_13 : decode cX12_opens 13 = .ok (.aload_n 0, 1) := dk_42 (dk_at dksX12_opens_0 13 rfl rfl)
theorem dX12_opens_14 : decode cX12_opens 14 = .ok (.getfield 22, 3) := dk_180 0 22 (dk_at dksX12_opens_0 14 rfl rfl)
theorem dX12_opens_17 : decode cX12_opens 17 = .ok (.invokespecial 51, 3) := dk_183 0 51 (dk_at dksX12_opens_0 17 rfl rfl)
theorem dX12_opens_20 : decode cX12_opens 20 = .ok (.athrow, 1) := dk_191 (dk_at dksX12_opens_0 20 rfl rfl)
theorem dX12_opens_21 : decode cX12_opens 21 = .ok (.aload_n 0, 1) := dk_42 (dk_at dksX12_opens_0 21 rfl rfl)
theorem dX12_opens_22 : decode cX12_opens 22 = .ok (.dup, 1) := dk_89 (dk_at dksX12_opens_0 22 rfl rfl)
theorem dX12_opens_23 : decode cX12_opens 23 = .ok (.getfield 88, 3) := dk_180 0 88 (dk_at dksX12_opens_1 0 rfl rfl)
theorem dX12_opens_26 : decode cX12_opens 26 = .ok (.iconst 1, 1) := dk_4 (dk_at dksX12_opens_1 3 rfl rfl)
theorem dX12_opens_27 : decode cX12_opens 27 = .ok (.iadd, 1) := dk_96 (dk_at dksX12_opens_1 4 rfl rfl)
theorem dX12_opens_28 : decode cX12_opens 28 = .ok (.putfield 88, 3) := dk_181 0 88 (dk_at dksX12_opens_1 5 rfl rfl)
theorem dX12_opens_31 : decode cX12_opens 31 = .ok (.aload_n 0, 1) := dk_42 (dk_at dksX12_opens_1 8 rfl rfl)
theorem dX12_opens_32 : decode cX12_opens 32 = .ok (.invokevirtual 43, 3) := dk_182 0 43 (dk_at dksX12_opens_1 9 rfl rfl)
theorem dX12_opens_35 : decode cX12_opens 35 = .ok (.return_, 1) := dk_177 (dk_at dksX12_opens_1 12 rfl rfl)
abbrev cX12_need : ByteArray := prog_17_method_6_code
def yX12_need : MethodName := ⟨RX12, "need", "(Ljava/lang/String;)V"⟩
def dkwX12_need_0 : List UInt8 := [42, 43, 182, 0, 46, 154, 0, 15, 187, 0, 49, 89, 42, 180, 0, 22, 183, 0, 51, 191, 177]
abbrev dktX12_need_0 : List UInt8 := dkwX12_need_0 ++ []
theorem dksX12_need_0 : cX12_need.data.toList.drop 0 = dktX12_need_0 := by decide +kernel
theorem dX12_need_0 : decode cX12_need 0 = .ok (.aload_n 0, 1) := dk_42 (dk_at dksX12_need_0 0 rfl rfl)
theorem dX12_need_1 : decode cX12_need 1 = .ok (.aload_n 1, 1) := dk_43 (dk_at dksX12_need_0 1 rfl rfl)
theorem dX12_need_2 : decode cX12_need 2 = .ok (.invokevirtual 46, 3) := dk_182 0 46 (dk_at dksX12_need_0 2 rfl rfl)
theorem dX12_need_5 : decode cX12_need 5 = .ok (.ifCond .ne 15, 3) := dk_154 0 15 (dk_at dksX12_need_0 5 rfl rfl)
theorem dX12_need_8 : decode cX12_need 8 = .ok (.new 49, 3) := dk_187 0 49 (dk_at dksX12_need_0 8 rfl rfl)
theorem dX12_need_11 : decode cX12_need 11 = .ok (.dup, 1) := dk_89 (dk_at dksX12_need_0 11 rfl rfl)
theorem dX12_need_12 : decode cX12_need 12 = .ok (.aload_n 0, 1) := dk_42 (dk_at dksX12_need_0 12 rfl rfl)
theorem dX12_need_13 : decode cX12_need 13 = .ok (.getfield 22, 3) := dk_180 0 22 (dk_at dksX12_need_0 13 rfl rfl)
theorem dX12_need_16 : decode cX12_need 16 = .ok (.invokespecial 51, 3) := dk_183 0 51 (dk_at dksX12_need_0 16 rfl rfl)
theorem dX12_need_19 : decode cX12_need 19 = .ok (.athrow, 1) := dk_191 (dk_at dksX12_need_0 19 rfl rfl)
theorem dX12_need_20 : decode cX12_need 20 = .ok (.return_, 1) := dk_177 (dk_at dksX12_need_0 20 rfl rfl)
abbrev cX12_takes : ByteArray := prog_17_method_5_code
def yX12_takes : MethodName := ⟨RX12, "takes", "(Ljava/lang/String;)Z"⟩
def dkwX12_takes_0 : List UInt8 := [42, 43, 182, 0, 39, 61, 28, 153, 0, 7, 42, 182, 0, 43, 28, 172]
abbrev dktX12_takes_0 : List UInt8 := dkwX12_takes_0 ++ []
theorem dksX12_takes_0 : cX12_takes.data.toList.drop 0 = dktX12_takes_0 := by decide +kernel
theorem dX12_takes_0 : decode cX12_takes 0 = .ok (.aload_n 0, 1) := dk_42 (dk_at dksX12_takes_0 0 rfl rfl)
theorem dX12_takes_1 : decode cX12_takes 1 = .ok (.aload_n 1, 1) := dk_43 (dk_at dksX12_takes_0 1 rfl rfl)
theorem dX12_takes_2 : decode cX12_takes 2 = .ok (.invokevirtual 39, 3) := dk_182 0 39 (dk_at dksX12_takes_0 2 rfl rfl)
theorem dX12_takes_5 : decode cX12_takes 5 = .ok (.istore_n 2, 1) := dk_61 (dk_at dksX12_takes_0 5 rfl rfl)
theorem dX12_takes_6 : decode cX12_takes 6 = .ok (.iload_n 2, 1) := dk_28 (dk_at dksX12_takes_0 6 rfl rfl)
theorem dX12_takes_7 : decode cX12_takes 7 = .ok (.ifCond .eq 7, 3) := dk_153 0 7 (dk_at dksX12_takes_0 7 rfl rfl)
theorem dX12_takes_10 : decode cX12_takes 10 = .ok (.aload_n 0, 1) := dk_42 (dk_at dksX12_takes_0 10 rfl rfl)
theorem dX12_takes_11 : decode cX12_takes 11 = .ok (.invokevirtual 43, 3) := dk_182 0 43 (dk_at dksX12_takes_0 11 rfl rfl)
theorem dX12_takes_14 : decode cX12_takes 14 = .ok (.iload_n 2, 1) := dk_28 (dk_at dksX12_takes_0 14 rfl rfl)
theorem dX12_takes_15 : decode cX12_takes 15 = .ok (.ireturn, 1) := dk_172 (dk_at dksX12_takes_0 15 rfl rfl)
abbrev cX12_leaf : ByteArray := prog_17_method_19_code
def yX12_leaf : MethodName := ⟨RX12, "leaf", "()V"⟩
def dkwX12_leaf_1 : List UInt8 := [180, 0, 149, 4, 96, 181, 0, 149, 177]
abbrev dktX12_leaf_1 : List UInt8 := dkwX12_leaf_1 ++ []
def dkwX12_leaf_0 : List UInt8 := [42, 180, 0, 149, 16, 50, 160, 0, 15, 187, 0, 49, 89, 42, 180, 0, 22, 183, 0, 51, 191, 42, 89]
abbrev dktX12_leaf_0 : List UInt8 := dkwX12_leaf_0 ++ dktX12_leaf_1
theorem dksX12_leaf_0 : cX12_leaf.data.toList.drop 0 = dktX12_leaf_0 := by decide +kernel
theorem dksX12_leaf_1 : cX12_leaf.data.toList.drop 23 = dktX12_leaf_1 := dk_seg dksX12_leaf_0 23 rfl rfl
theorem dX12_leaf_0 : decode cX12_leaf 0 = .ok (.aload_n 0, 1) := dk_42 (dk_at dksX12_leaf_0 0 rfl rfl)
theorem dX12_leaf_1 : decode cX12_leaf 1 = .ok (.getfield 149, 3) := dk_180 0 149 (dk_at dksX12_leaf_0 1 rfl rfl)
theorem dX12_leaf_4 : decode cX12_leaf 4 = .ok (.bipush 50, 2) := dk_16 50 (dk_at dksX12_leaf_0 4 rfl rfl)
theorem dX12_leaf_6 : decode cX12_leaf 6 = .ok (.if_icmp .ne 15, 3) := dk_160 0 15 (dk_at dksX12_leaf_0 6 rfl rfl)
theorem dX12_leaf_9 : decode cX12_leaf 9 = .ok (.new 49, 3) := dk_187 0 49 (dk_at dksX12_leaf_0 9 rfl rfl)
theorem dX12_leaf_12 : decode cX12_leaf 12 = .ok (.dup, 1) := dk_89 (dk_at dksX12_leaf_0 12 rfl rfl)
theorem dX12_leaf_13 : decode cX12_leaf 13 = .ok (.aload_n 0, 1) := dk_42 (dk_at dksX12_leaf_0 13 rfl rfl)
theorem dX12_leaf_14 : decode cX12_leaf 14 = .ok (.getfield 22, 3) := dk_180 0 22 (dk_at dksX12_leaf_0 14 rfl rfl)
theorem dX12_leaf_17 : decode cX12_leaf 17 = .ok (.invokespecial 51, 3) := dk_183 0 51 (dk_at dksX12_leaf_0 17 rfl rfl)
theorem dX12_leaf_20 : decode cX12_leaf 20 = .ok (.athrow, 1) := dk_191 (dk_at dksX12_leaf_0 20 rfl rfl)
theorem dX12_leaf_21 : decode cX12_leaf 21 = .ok (.aload_n 0, 1) := dk_42 (dk_at dksX12_leaf_0 21 rfl rfl)
theorem dX12_leaf_22 : decode cX12_leaf 22 = .ok (.dup, 1) := dk_89 (dk_at dksX12_leaf_0 22 rfl rfl)
theorem dX12_leaf_23 : decode cX12_leaf 23 = .ok (.getfield 149, 3) := dk_180 0 149 (dk_at dksX12_leaf_1 0 rfl rfl)
theorem dX12_leaf_26 : decode cX12_leaf 26 = .ok (.iconst 1, 1) := dk_4 (dk_at dksX12_leaf_1 3 rfl rfl)
theorem dX12_leaf_27 : decode cX12_leaf 27 = .ok (.iadd, 1) := dk_96 (dk_at dksX12_leaf_1 4 rfl rfl)
theorem dX12_leaf_28 : decode cX12_leaf 28 = .ok (.putfield 149, 3) := dk_181 0 149 (dk_at dksX12_leaf_1 5 rfl rfl)
theorem dX12_leaf_31 : decode cX12_leaf 31 = .ok (.return_, 1) := dk_177 (dk_at dksX12_leaf_1 8 rfl rfl)
abbrev cX12_number : ByteArray := prog_17_method_7_code
def yX12_number : MethodName := ⟨RX12, "number", "(II)I"⟩
def dkwX12_number_4 : List UInt8 := [191, 42, 182, 0, 43, 29, 172]
abbrev dktX12_number_4 : List UInt8 := dkwX12_number_4 ++ []
def dkwX12_number_3 : List UInt8 := [167, 255, 223, 29, 27, 161, 0, 8, 29, 28, 164, 0, 15, 187, 0, 49, 89, 42, 180, 0, 22, 183, 0, 51]
abbrev dktX12_number_3 : List UInt8 := dkwX12_number_3 ++ dktX12_number_4
def dkwX12_number_2 : List UInt8 := [163, 0, 25, 16, 10, 29, 104, 42, 180, 0, 9, 21, 4, 51, 96, 16, 48, 100, 62, 132, 4, 1]
abbrev dktX12_number_2 : List UInt8 := dkwX12_number_2 ++ dktX12_number_3
def dkwX12_number_1 : List UInt8 := [183, 0, 51, 191, 3, 62, 42, 180, 0, 22, 54, 4, 21, 4, 42, 180, 0, 19, 162, 0, 30, 29, 28]
abbrev dktX12_number_1 : List UInt8 := dkwX12_number_1 ++ dktX12_number_2
def dkwX12_number_0 : List UInt8 := [42, 42, 180, 0, 22, 16, 48, 16, 57, 182, 0, 25, 154, 0, 15, 187, 0, 49, 89, 42, 180, 0, 22]
abbrev dktX12_number_0 : List UInt8 := dkwX12_number_0 ++ dktX12_number_1
theorem dksX12_number_0 : cX12_number.data.toList.drop 0 = dktX12_number_0 := by decide +kernel
theorem dksX12_number_1 : cX12_number.data.toList.drop 23 = dktX12_number_1 := dk_seg dksX12_number_0 23 rfl rfl
theorem dksX12_number_2 : cX12_number.data.toList.drop 46 = dktX12_number_2 := dk_seg dksX12_number_1 23 rfl rfl
theorem dksX12_number_3 : cX12_number.data.toList.drop 68 = dktX12_number_3 := dk_seg dksX12_number_2 22 rfl rfl
theorem dksX12_number_4 : cX12_number.data.toList.drop 92 = dktX12_number_4 := dk_seg dksX12_number_3 24 rfl rfl
theorem dX12_number_0 : decode cX12_number 0 = .ok (.aload_n 0, 1) := dk_42 (dk_at dksX12_number_0 0 rfl rfl)
theorem dX12_number_1 : decode cX12_number 1 = .ok (.aload_n 0, 1) := dk_42 (dk_at dksX12_number_0 1 rfl rfl)
theorem dX12_number_2 : decode cX12_number 2 = .ok (.getfield 22, 3) := dk_180 0 22 (dk_at dksX12_number_0 2 rfl rfl)
theorem dX12_number_5 : decode cX12_number 5 = .ok (.bipush 48, 2) := dk_16 48 (dk_at dksX12_number_0 5 rfl rfl)
theorem dX12_number_7 : decode cX12_number 7 = .ok (.bipush 57, 2) := dk_16 57 (dk_at dksX12_number_0 7 rfl rfl)
theorem dX12_number_9 : decode cX12_number 9 = .ok (.invokevirtual 25, 3) := dk_182 0 25 (dk_at dksX12_number_0 9 rfl rfl)
theorem dX12_number_12 : decode cX12_number 12 = .ok (.ifCond .ne 15, 3) := dk_154 0 15 (dk_at dksX12_number_0 12 rfl rfl)
theorem dX12_number_15 : decode cX12_number 15 = .ok (.new 49, 3) := dk_187 0 49 (dk_at dksX12_number_0 15 rfl rfl)
theorem dX12_number_18 : decode cX12_number 18 = .ok (.dup, 1) := dk_89 (dk_at dksX12_number_0 18 rfl rfl)
theorem dX12_number_19 : decode cX12_number 19 = .ok (.aload_n 0, 1) := dk_42 (dk_at dksX12_number_0 19 rfl rfl)
theorem dX12_number_20 : decode cX12_number 20 = .ok (.getfield 22, 3) := dk_180 0 22 (dk_at dksX12_number_0 20 rfl rfl)
theorem dX12_number_23 : decode cX12_number 23 = .ok (.invokespecial 51, 3) := dk_183 0 51 (dk_at dksX12_number_1 0 rfl rfl)
theorem dX12_number_26 : decode cX12_number 26 = .ok (.athrow, 1) := dk_191 (dk_at dksX12_number_1 3 rfl rfl)
theorem dX12_number_27 : decode cX12_number 27 = .ok (.iconst 0, 1) := dk_3 (dk_at dksX12_number_1 4 rfl rfl)
theorem dX12_number_28 : decode cX12_number 28 = .ok (.istore_n 3, 1) := dk_62 (dk_at dksX12_number_1 5 rfl rfl)
theorem dX12_number_29 : decode cX12_number 29 = .ok (.aload_n 0, 1) := dk_42 (dk_at dksX12_number_1 6 rfl rfl)
theorem dX12_number_30 : decode cX12_number 30 = .ok (.getfield 22, 3) := dk_180 0 22 (dk_at dksX12_number_1 7 rfl rfl)
theorem dX12_number_33 : decode cX12_number 33 = .ok (.istore 4, 2) := dk_54 4 (dk_at dksX12_number_1 10 rfl rfl)
theorem dX12_number_35 : decode cX12_number 35 = .ok (.iload 4, 2) := dk_21 4 (dk_at dksX12_number_1 12 rfl rfl)
theorem dX12_number_37 : decode cX12_number 37 = .ok (.aload_n 0, 1) := dk_42 (dk_at dksX12_number_1 14 rfl rfl)
theorem dX12_number_38 : decode cX12_number 38 = .ok (.getfield 19, 3) := dk_180 0 19 (dk_at dksX12_number_1 15 rfl rfl)
theorem dX12_number_41 : decode cX12_number 41 = .ok (.if_icmp .ge 30, 3) := dk_162 0 30 (dk_at dksX12_number_1 18 rfl rfl)
theorem dX12_number_44 : decode cX12_number 44 = .ok (.iload_n 3, 1) := dk_29 (dk_at dksX12_number_1 21 rfl rfl)
theorem dX12_number_45 : decode cX12_number 45 = .ok (.iload_n 2, 1) := dk_28 (dk_at dksX12_number_1 22 rfl rfl)
theorem dX12_number_46 : decode cX12_number 46 = .ok (.if_icmp .gt 25, 3) := dk_163 0 25 (dk_at dksX12_number_2 0 rfl rfl)
theorem dX12_number_49 : decode cX12_number 49 = .ok (.bipush 10, 2) := dk_16 10 (dk_at dksX12_number_2 3 rfl rfl)
theorem dX12_number_51 : decode cX12_number 51 = .ok (.iload_n 3, 1) := dk_29 (dk_at dksX12_number_2 5 rfl rfl)
theorem dX12_number_52 : decode cX12_number 52 = .ok (.imul, 1) := dk_104 (dk_at dksX12_number_2 6 rfl rfl)
theorem dX12_number_53 : decode cX12_number 53 = .ok (.aload_n 0, 1) := dk_42 (dk_at dksX12_number_2 7 rfl rfl)
theorem dX12_number_54 : decode cX12_number 54 = .ok (.getfield 9, 3) := dk_180 0 9 (dk_at dksX12_number_2 8 rfl rfl)
theorem dX12_number_57 : decode cX12_number 57 = .ok (.iload 4, 2) := dk_21 4 (dk_at dksX12_number_2 11 rfl rfl)
theorem dX12_number_59 : decode cX12_number 59 = .ok (.baload, 1) := dk_51 (dk_at dksX12_number_2 13 rfl rfl)
theorem dX12_number_60 : decode cX12_number 60 = .ok (.iadd, 1) := dk_96 (dk_at dksX12_number_2 14 rfl rfl)
theorem dX12_number_61 : decode cX12_number 61 = .ok (.bipush 48, 2) := dk_16 48 (dk_at dksX12_number_2 15 rfl rfl)
theorem dX12_number_63 : decode cX12_number 63 = .ok (.isub, 1) := dk_100 (dk_at dksX12_number_2 17 rfl rfl)
theorem dX12_number_64 : decode cX12_number 64 = .ok (.istore_n 3, 1) := dk_62 (dk_at dksX12_number_2 18 rfl rfl)
theorem dX12_number_65 : decode cX12_number 65 = .ok (.iinc 4 1, 3) := dk_132 4 1 (dk_at dksX12_number_2 19 rfl rfl)
theorem dX12_number_68 : decode cX12_number 68 = .ok (.goto (-33), 3) := dk_167 255 223 (dk_at dksX12_number_3 0 rfl rfl)
theorem dX12_number_71 : decode cX12_number 71 = .ok (.iload_n 3, 1) := dk_29 (dk_at dksX12_number_3 3 rfl rfl)
theorem dX12_number_72 : decode cX12_number 72 = .ok (.iload_n 1, 1) := dk_27 (dk_at dksX12_number_3 4 rfl rfl)
theorem dX12_number_73 : decode cX12_number 73 = .ok (.if_icmp .lt 8, 3) := dk_161 0 8 (dk_at dksX12_number_3 5 rfl rfl)
theorem dX12_number_76 : decode cX12_number 76 = .ok (.iload_n 3, 1) := dk_29 (dk_at dksX12_number_3 8 rfl rfl)
theorem dX12_number_77 : decode cX12_number 77 = .ok (.iload_n 2, 1) := dk_28 (dk_at dksX12_number_3 9 rfl rfl)
theorem dX12_number_78 : decode cX12_number 78 = .ok (.if_icmp .le 15, 3) := dk_164 0 15 (dk_at dksX12_number_3 10 rfl rfl)
theorem dX12_number_81 : decode cX12_number 81 = .ok (.new 49, 3) := dk_187 0 49 (dk_at dksX12_number_3 13 rfl rfl)
theorem dX12_number_84 : decode cX12_number 84 = .ok (.dup, 1) := dk_89 (dk_at dksX12_number_3 16 rfl rfl)
theorem dX12_number_85 : decode cX12_number 85 = .ok (.aload_n 0, 1) := dk_42 (dk_at dksX12_number_3 17 rfl rfl)
theorem dX12_number_86 : decode cX12_number 86 = .ok (.getfield 22, 3) := dk_180 0 22 (dk_at dksX12_number_3 18 rfl rfl)
theorem dX12_number_89 : decode cX12_number 89 = .ok (.invokespecial 51, 3) := dk_183 0 51 (dk_at dksX12_number_3 21 rfl rfl)
theorem dX12_number_92 : decode cX12_number 92 = .ok (.athrow, 1) := dk_191 (dk_at dksX12_number_4 0 rfl rfl)
theorem dX12_number_93 : decode cX12_number 93 = .ok (.aload_n 0, 1) := dk_42 (dk_at dksX12_number_4 1 rfl rfl)
theorem dX12_number_94 : decode cX12_number 94 = .ok (.invokevirtual 43, 3) := dk_182 0 43 (dk_at dksX12_number_4 2 rfl rfl)
theorem dX12_number_97 : decode cX12_number 97 = .ok (.iload_n 3, 1) := dk_29 (dk_at dksX12_number_4 5 rfl rfl)
theorem dX12_number_98 : decode cX12_number 98 = .ok (.ireturn, 1) := dk_172 (dk_at dksX12_number_4 6 rfl rfl)
abbrev cX12_test : ByteArray := prog_17_method_12_code
def yX12_test : MethodName := ⟨RX12, "test", "()LDeadUnderstudies$Test;"⟩
def dkwX12_test_2 : List UInt8 := [182, 0, 62, 182, 0, 77, 87, 167, 255, 235, 44, 176]
abbrev dktX12_test_2 : List UInt8 := dkwX12_test_2 ++ []
def dkwX12_test_1 : List UInt8 := [77, 44, 180, 0, 73, 43, 182, 0, 77, 87, 42, 18, 66, 182, 0, 46, 153, 0, 18, 44, 180, 0, 73, 42]
abbrev dktX12_test_1 : List UInt8 := dkwX12_test_1 ++ dktX12_test_2
def dkwX12_test_0 : List UInt8 := [42, 182, 0, 62, 76, 42, 18, 66, 182, 0, 39, 154, 0, 5, 43, 176, 187, 0, 68, 89, 3, 183, 0, 70]
abbrev dktX12_test_0 : List UInt8 := dkwX12_test_0 ++ dktX12_test_1
theorem dksX12_test_0 : cX12_test.data.toList.drop 0 = dktX12_test_0 := by decide +kernel
theorem dksX12_test_1 : cX12_test.data.toList.drop 24 = dktX12_test_1 := dk_seg dksX12_test_0 24 rfl rfl
theorem dksX12_test_2 : cX12_test.data.toList.drop 48 = dktX12_test_2 := dk_seg dksX12_test_1 24 rfl rfl
theorem dX12_test_0 : decode cX12_test 0 = .ok (.aload_n 0, 1) := dk_42 (dk_at dksX12_test_0 0 rfl rfl)
theorem dX12_test_1 : decode cX12_test 1 = .ok (.invokevirtual 62, 3) := dk_182 0 62 (dk_at dksX12_test_0 1 rfl rfl)
theorem dX12_test_4 : decode cX12_test 4 = .ok (.astore_n 1, 1) := dk_76 (dk_at dksX12_test_0 4 rfl rfl)
theorem dX12_test_5 : decode cX12_test 5 = .ok (.aload_n 0, 1) := dk_42 (dk_at dksX12_test_0 5 rfl rfl)
theorem dX12_test_6 : decode cX12_test 6 = .ok (.ldc 66, 2) := dk_18 66 (dk_at dksX12_test_0 6 rfl rfl)
theorem dX12_test_8 : decode cX12_test 8 = .ok (.invokevirtual 39, 3) := dk_182 0 39 (dk_at dksX12_test_0 8 rfl rfl)
theorem dX12_test_11 : decode cX12_test 11 = .ok (.ifCond .ne 5, 3) := dk_154 0 5 (dk_at dksX12_test_0 11 rfl rfl)
theorem dX12_test_14 : decode cX12_test 14 = .ok (.aload_n 1, 1) := dk_43 (dk_at dksX12_test_0 14 rfl rfl)
theorem dX12_test_15 : decode cX12_test 15 = .ok (.areturn, 1) := dk_176 (dk_at dksX12_test_0 15 rfl rfl)
theorem dX12_test_16 : decode cX12_test 16 = .ok (.new 68, 3) := dk_187 0 68 (dk_at dksX12_test_0 16 rfl rfl)
theorem dX12_test_19 : decode cX12_test 19 = .ok (.dup, 1) := dk_89 (dk_at dksX12_test_0 19 rfl rfl)
theorem dX12_test_20 : decode cX12_test 20 = .ok (.iconst 0, 1) := dk_3 (dk_at dksX12_test_0 20 rfl rfl)
theorem dX12_test_21 : decode cX12_test 21 = .ok (.invokespecial 70, 3) := dk_183 0 70 (dk_at dksX12_test_0 21 rfl rfl)
theorem dX12_test_24 : decode cX12_test 24 = .ok (.astore_n 2, 1) := dk_77 (dk_at dksX12_test_1 0 rfl rfl)
theorem dX12_test_25 : decode cX12_test 25 = .ok (.aload_n 2, 1) := dk_44 (dk_at dksX12_test_1 1 rfl rfl)
theorem dX12_test_26 : decode cX12_test 26 = .ok (.getfield 73, 3) := dk_180 0 73 (dk_at dksX12_test_1 2 rfl rfl)
theorem dX12_test_29 : decode cX12_test 29 = .ok (.aload_n 1, 1) := dk_43 (dk_at dksX12_test_1 5 rfl rfl)
theorem dX12_test_30 : decode cX12_test 30 = .ok (.invokevirtual 77, 3) := dk_182 0 77 (dk_at dksX12_test_1 6 rfl rfl)
theorem dX12_test_33 : decode cX12_test 33 = .ok (.pop, 1) := dk_87 (dk_at dksX12_test_1 9 rfl rfl)
theorem dX12_test_34 : decode cX12_test 34 = .ok (.aload_n 0, 1) := dk_42 (dk_at dksX12_test_1 10 rfl rfl)
theorem dX12_test_35 : decode cX12_test 35 = .ok (.ldc 66, 2) := dk_18 66 (dk_at dksX12_test_1 11 rfl rfl)
theorem dX12_test_37 : decode cX12_test 37 = .ok (.invokevirtual 46, 3) := dk_182 0 46 (dk_at dksX12_test_1 13 rfl rfl)
theorem dX12_test_40 : decode cX12_test 40 = .ok (.ifCond .eq 18, 3) := dk_153 0 18 (dk_at dksX12_test_1 16 rfl rfl)
theorem dX12_test_43 : decode cX12_test 43 = .ok (.aload_n 2, 1) := dk_44 (dk_at dksX12_test_1 19 rfl rfl)
theorem dX12_test_44 : decode cX12_test 44 = .ok (.getfield 73, 3) := dk_180 0 73 (dk_at dksX12_test_1 20 rfl rfl)
theorem dX12_test_47 : decode cX12_test 47 = .ok (.aload_n 0, 1) := dk_42 (dk_at dksX12_test_1 23 rfl rfl)
theorem dX12_test_48 : decode cX12_test 48 = .ok (.invokevirtual 62, 3) := dk_182 0 62 (dk_at dksX12_test_2 0 rfl rfl)
theorem dX12_test_51 : decode cX12_test 51 = .ok (.invokevirtual 77, 3) := dk_182 0 77 (dk_at dksX12_test_2 3 rfl rfl)
theorem dX12_test_54 : decode cX12_test 54 = .ok (.pop, 1) := dk_87 (dk_at dksX12_test_2 6 rfl rfl)
theorem dX12_test_55 : decode cX12_test 55 = .ok (.goto (-21), 3) := dk_167 255 235 (dk_at dksX12_test_2 7 rfl rfl)
theorem dX12_test_58 : decode cX12_test 58 = .ok (.aload_n 2, 1) := dk_44 (dk_at dksX12_test_2 10 rfl rfl)
theorem dX12_test_59 : decode cX12_test 59 = .ok (.areturn, 1) := dk_176 (dk_at dksX12_test_2 11 rfl rfl)
abbrev cX12_both : ByteArray := prog_17_method_13_code
def yX12_both : MethodName := ⟨RX12, "both", "()LDeadUnderstudies$Test;"⟩
def dkwX12_both_2 : List UInt8 := [182, 0, 83, 182, 0, 77, 87, 167, 255, 235, 44, 176]
abbrev dktX12_both_2 : List UInt8 := dkwX12_both_2 ++ []
def dkwX12_both_1 : List UInt8 := [77, 44, 180, 0, 73, 43, 182, 0, 77, 87, 42, 18, 86, 182, 0, 46, 153, 0, 18, 44, 180, 0, 73, 42]
abbrev dktX12_both_1 : List UInt8 := dkwX12_both_1 ++ dktX12_both_2
def dkwX12_both_0 : List UInt8 := [42, 182, 0, 83, 76, 42, 18, 86, 182, 0, 39, 154, 0, 5, 43, 176, 187, 0, 68, 89, 4, 183, 0, 70]
abbrev dktX12_both_0 : List UInt8 := dkwX12_both_0 ++ dktX12_both_1
theorem dksX12_both_0 : cX12_both.data.toList.drop 0 = dktX12_both_0 := by decide +kernel
theorem dksX12_both_1 : cX12_both.data.toList.drop 24 = dktX12_both_1 := dk_seg dksX12_both_0 24 rfl rfl
theorem dksX12_both_2 : cX12_both.data.toList.drop 48 = dktX12_both_2 := dk_seg dksX12_both_1 24 rfl rfl
theorem dX12_both_0 : decode cX12_both 0 = .ok (.aload_n 0, 1) := dk_42 (dk_at dksX12_both_0 0 rfl rfl)
theorem dX12_both_1 : decode cX12_both 1 = .ok (.invokevirtual 83, 3) := dk_182 0 83 (dk_at dksX12_both_0 1 rfl rfl)
theorem dX12_both_4 : decode cX12_both 4 = .ok (.astore_n 1, 1) := dk_76 (dk_at dksX12_both_0 4 rfl rfl)
theorem dX12_both_5 : decode cX12_both 5 = .ok (.aload_n 0, 1) := dk_42 (dk_at dksX12_both_0 5 rfl rfl)
theorem dX12_both_6 : decode cX12_both 6 = .ok (.ldc 86, 2) := dk_18 86 (dk_at dksX12_both_0 6 rfl rfl)
theorem dX12_both_8 : decode cX12_both 8 = .ok (.invokevirtual 39, 3) := dk_182 0 39 (dk_at dksX12_both_0 8 rfl rfl)
theorem dX12_both_11 : decode cX12_both 11 = .ok (.ifCond .ne 5, 3) := dk_154 0 5 (dk_at dksX12_both_0 11 rfl rfl)
theorem dX12_both_14 : decode cX12_both 14 = .ok (.aload_n 1, 1) := dk_43 (dk_at dksX12_both_0 14 rfl rfl)
theorem dX12_both_15 : decode cX12_both 15 = .ok (.areturn, 1) := dk_176 (dk_at dksX12_both_0 15 rfl rfl)
theorem dX12_both_16 : decode cX12_both 16 = .ok (.new 68, 3) := dk_187 0 68 (dk_at dksX12_both_0 16 rfl rfl)
theorem dX12_both_19 : decode cX12_both 19 = .ok (.dup, 1) := dk_89 (dk_at dksX12_both_0 19 rfl rfl)
theorem dX12_both_20 : decode cX12_both 20 = .ok (.iconst 1, 1) := dk_4 (dk_at dksX12_both_0 20 rfl rfl)
theorem dX12_both_21 : decode cX12_both 21 = .ok (.invokespecial 70, 3) := dk_183 0 70 (dk_at dksX12_both_0 21 rfl rfl)
theorem dX12_both_24 : decode cX12_both 24 = .ok (.astore_n 2, 1) := dk_77 (dk_at dksX12_both_1 0 rfl rfl)
theorem dX12_both_25 : decode cX12_both 25 = .ok (.aload_n 2, 1) := dk_44 (dk_at dksX12_both_1 1 rfl rfl)
theorem dX12_both_26 : decode cX12_both 26 = .ok (.getfield 73, 3) := dk_180 0 73 (dk_at dksX12_both_1 2 rfl rfl)
theorem dX12_both_29 : decode cX12_both 29 = .ok (.aload_n 1, 1) := dk_43 (dk_at dksX12_both_1 5 rfl rfl)
theorem dX12_both_30 : decode cX12_both 30 = .ok (.invokevirtual 77, 3) := dk_182 0 77 (dk_at dksX12_both_1 6 rfl rfl)
theorem dX12_both_33 : decode cX12_both 33 = .ok (.pop, 1) := dk_87 (dk_at dksX12_both_1 9 rfl rfl)
theorem dX12_both_34 : decode cX12_both 34 = .ok (.aload_n 0, 1) := dk_42 (dk_at dksX12_both_1 10 rfl rfl)
theorem dX12_both_35 : decode cX12_both 35 = .ok (.ldc 86, 2) := dk_18 86 (dk_at dksX12_both_1 11 rfl rfl)
theorem dX12_both_37 : decode cX12_both 37 = .ok (.invokevirtual 46, 3) := dk_182 0 46 (dk_at dksX12_both_1 13 rfl rfl)
theorem dX12_both_40 : decode cX12_both 40 = .ok (.ifCond .eq 18, 3) := dk_153 0 18 (dk_at dksX12_both_1 16 rfl rfl)
theorem dX12_both_43 : decode cX12_both 43 = .ok (.aload_n 2, 1) := dk_44 (dk_at dksX12_both_1 19 rfl rfl)
theorem dX12_both_44 : decode cX12_both 44 = .ok (.getfield 73, 3) := dk_180 0 73 (dk_at dksX12_both_1 20 rfl rfl)
theorem dX12_both_47 : decode cX12_both 47 = .ok (.aload_n 0, 1) := dk_42 (dk_at dksX12_both_1 23 rfl rfl)
theorem dX12_both_48 : decode cX12_both 48 = .ok (.invokevirtual 83, 3) := dk_182 0 83 (dk_at dksX12_both_2 0 rfl rfl)
theorem dX12_both_51 : decode cX12_both 51 = .ok (.invokevirtual 77, 3) := dk_182 0 77 (dk_at dksX12_both_2 3 rfl rfl)
theorem dX12_both_54 : decode cX12_both 54 = .ok (.pop, 1) := dk_87 (dk_at dksX12_both_2 6 rfl rfl)
theorem dX12_both_55 : decode cX12_both 55 = .ok (.goto (-21), 3) := dk_167 255 235 (dk_at dksX12_both_2 7 rfl rfl)
theorem dX12_both_58 : decode cX12_both 58 = .ok (.aload_n 2, 1) := dk_44 (dk_at dksX12_both_2 10 rfl rfl)
theorem dX12_both_59 : decode cX12_both 59 = .ok (.areturn, 1) := dk_176 (dk_at dksX12_both_2 11 rfl rfl)
abbrev cX12_plain : ByteArray := prog_17_method_15_code
def yX12_plain : MethodName := ⟨RX12, "plain", "()LDeadUnderstudies$Test;"⟩
def dkwX12_plain_1 : List UInt8 := [42, 182, 0, 93, 77, 27, 153, 0, 14, 187, 0, 96, 89, 44, 183, 0, 98, 167, 0, 4, 44, 176]
abbrev dktX12_plain_1 : List UInt8 := dkwX12_plain_1 ++ []
def dkwX12_plain_0 : List UInt8 := [3, 60, 42, 18, 91, 182, 0, 46, 153, 0, 16, 27, 154, 0, 7, 4, 167, 0, 4, 3, 60, 167, 255, 237]
abbrev dktX12_plain_0 : List UInt8 := dkwX12_plain_0 ++ dktX12_plain_1
theorem dksX12_plain_0 : cX12_plain.data.toList.drop 0 = dktX12_plain_0 := by decide +kernel
theorem dksX12_plain_1 : cX12_plain.data.toList.drop 24 = dktX12_plain_1 := dk_seg dksX12_plain_0 24 rfl rfl
theorem dX12_plain_0 : decode cX12_plain 0 = .ok (.iconst 0, 1) := dk_3 (dk_at dksX12_plain_0 0 rfl rfl)
theorem dX12_plain_1 : decode cX12_plain 1 = .ok (.istore_n 1, 1) := dk_60 (dk_at dksX12_plain_0 1 rfl rfl)
theorem dX12_plain_2 : decode cX12_plain 2 = .ok (.aload_n 0, 1) := dk_42 (dk_at dksX12_plain_0 2 rfl rfl)
theorem dX12_plain_3 : decode cX12_plain 3 = .ok (.ldc 91, 2) := dk_18 91 (dk_at dksX12_plain_0 3 rfl rfl)
theorem dX12_plain_5 : decode cX12_plain 5 = .ok (.invokevirtual 46, 3) := dk_182 0 46 (dk_at dksX12_plain_0 5 rfl rfl)
theorem dX12_plain_8 : decode cX12_plain 8 = .ok (.ifCond .eq 16, 3) := dk_153 0 16 (dk_at dksX12_plain_0 8 rfl rfl)
theorem dX12_plain_11 : decode cX12_plain 11 = .ok (.iload_n 1, 1) := dk_27 (dk_at dksX12_plain_0 11 rfl rfl)
theorem dX12_plain_12 : decode cX12_plain 12 = .ok (.ifCond .ne 7, 3) := dk_154 0 7 (dk_at dksX12_plain_0 12 rfl rfl)
theorem dX12_plain_15 : decode cX12_plain 15 = .ok (.iconst 1, 1) := dk_4 (dk_at dksX12_plain_0 15 rfl rfl)
theorem dX12_plain_16 : decode cX12_plain 16 = .ok (.goto 4, 3) := dk_167 0 4 (dk_at dksX12_plain_0 16 rfl rfl)
theorem dX12_plain_19 : decode cX12_plain 19 = .ok (.iconst 0, 1) := dk_3 (dk_at dksX12_plain_0 19 rfl rfl)
theorem dX12_plain_20 : decode cX12_plain 20 = .ok (.istore_n 1, 1) := dk_60 (dk_at dksX12_plain_0 20 rfl rfl)
theorem dX12_plain_21 : decode cX12_plain 21 = .ok (.goto (-19), 3) := dk_167 255 237 (dk_at dksX12_plain_0 21 rfl rfl)
theorem dX12_plain_24 : decode cX12_plain 24 = .ok (.aload_n 0, 1) := dk_42 (dk_at dksX12_plain_1 0 rfl rfl)
theorem dX12_plain_25 : decode cX12_plain 25 = .ok (.invokevirtual 93, 3) := dk_182 0 93 (dk_at dksX12_plain_1 1 rfl rfl)
theorem dX12_plain_28 : decode cX12_plain 28 = .ok (.astore_n 2, 1) := dk_77 (dk_at dksX12_plain_1 4 rfl rfl)
theorem dX12_plain_29 : decode cX12_plain 29 = .ok (.iload_n 1, 1) := dk_27 (dk_at dksX12_plain_1 5 rfl rfl)
theorem dX12_plain_30 : decode cX12_plain 30 = .ok (.ifCond .eq 14, 3) := dk_153 0 14 (dk_at dksX12_plain_1 6 rfl rfl)
theorem dX12_plain_33 : decode cX12_plain 33 = .ok (.new 96, 3) := dk_187 0 96 (dk_at dksX12_plain_1 9 rfl rfl)
theorem dX12_plain_36 : decode cX12_plain 36 = .ok (.dup, 1) := dk_89 (dk_at dksX12_plain_1 12 rfl rfl)
theorem dX12_plain_37 : decode cX12_plain 37 = .ok (.aload_n 2, 1) := dk_44 (dk_at dksX12_plain_1 13 rfl rfl)
theorem dX12_plain_38 : decode cX12_plain 38 = .ok (.invokespecial 98, 3) := dk_183 0 98 (dk_at dksX12_plain_1 14 rfl rfl)
theorem dX12_plain_41 : decode cX12_plain 41 = .ok (.goto 4, 3) := dk_167 0 4 (dk_at dksX12_plain_1 17 rfl rfl)
theorem dX12_plain_44 : decode cX12_plain 44 = .ok (.aload_n 2, 1) := dk_44 (dk_at dksX12_plain_1 20 rfl rfl)
theorem dX12_plain_45 : decode cX12_plain 45 = .ok (.areturn, 1) := dk_176 (dk_at dksX12_plain_1 21 rfl rfl)
abbrev cX12_positive : ByteArray := prog_17_method_16_code
def yX12_positive : MethodName := ⟨RX12, "positive", "()LDeadUnderstudies$Test;"⟩
def dkwX12_positive_4 : List UInt8 := [187, 0, 125, 89, 28, 43, 42, 182, 0, 115, 183, 0, 127, 176]
abbrev dktX12_positive_4 : List UInt8 := dkwX12_positive_4 ++ []
def dkwX12_positive_3 : List UInt8 := [89, 42, 180, 0, 22, 183, 0, 51, 191, 42, 180, 0, 9, 42, 180, 0, 22, 51, 146, 61, 42, 182, 0, 43]
abbrev dktX12_positive_3 : List UInt8 := dkwX12_positive_3 ++ dktX12_positive_4
def dkwX12_positive_2 : List UInt8 := [154, 0, 33, 42, 18, 121, 182, 0, 39, 154, 0, 24, 42, 18, 123, 182, 0, 39, 154, 0, 15, 187, 0, 49]
abbrev dktX12_positive_2 : List UInt8 := dkwX12_positive_2 ++ dktX12_positive_3
def dkwX12_positive_1 : List UInt8 := [42, 89, 180, 0, 88, 4, 100, 181, 0, 88, 43, 176, 42, 182, 0, 115, 76, 42, 18, 119, 182, 0, 39]
abbrev dktX12_positive_1 : List UInt8 := dkwX12_positive_1 ++ dktX12_positive_2
def dkwX12_positive_0 : List UInt8 := [42, 18, 101, 182, 0, 39, 153, 0, 30, 42, 182, 0, 103, 42, 182, 0, 106, 76, 42, 18, 109, 182, 0, 111]
abbrev dktX12_positive_0 : List UInt8 := dkwX12_positive_0 ++ dktX12_positive_1
theorem dksX12_positive_0 : cX12_positive.data.toList.drop 0 = dktX12_positive_0 := by decide +kernel
theorem dksX12_positive_1 : cX12_positive.data.toList.drop 24 = dktX12_positive_1 := dk_seg dksX12_positive_0 24 rfl rfl
theorem dksX12_positive_2 : cX12_positive.data.toList.drop 47 = dktX12_positive_2 := dk_seg dksX12_positive_1 23 rfl rfl
theorem dksX12_positive_3 : cX12_positive.data.toList.drop 71 = dktX12_positive_3 := dk_seg dksX12_positive_2 24 rfl rfl
theorem dksX12_positive_4 : cX12_positive.data.toList.drop 95 = dktX12_positive_4 := dk_seg dksX12_positive_3 24 rfl rfl
theorem dX12_positive_0 : decode cX12_positive 0 = .ok (.aload_n 0, 1) := dk_42 (dk_at dksX12_positive_0 0 rfl rfl)
theorem dX12_positive_1 : decode cX12_positive 1 = .ok (.ldc 101, 2) := dk_18 101 (dk_at dksX12_positive_0 1 rfl rfl)
theorem dX12_positive_3 : decode cX12_positive 3 = .ok (.invokevirtual 39, 3) := dk_182 0 39 (dk_at dksX12_positive_0 3 rfl rfl)
theorem dX12_positive_6 : decode cX12_positive 6 = .ok (.ifCond .eq 30, 3) := dk_153 0 30 (dk_at dksX12_positive_0 6 rfl rfl)
theorem dX12_positive_9 : decode cX12_positive 9 = .ok (.aload_n 0, 1) := dk_42 (dk_at dksX12_positive_0 9 rfl rfl)
theorem dX12_positive_10 : decode cX12_positive 10 = .ok (.invokevirtual 103, 3) := dk_182 0 103 (dk_at dksX12_positive_0 10 rfl rfl)
theorem dX12_positive_13 : decode cX12_positive 13 = .ok (.aload_n 0, 1) := dk_42 (dk_at dksX12_positive_0 13 rfl rfl)
theorem dX12_positive_14 : decode cX12_positive 14 = .ok (.invokevirtual 106, 3) := dk_182 0 106 (dk_at dksX12_positive_0 14 rfl rfl)
theorem dX12_positive_17 : decode cX12_positive 17 = .ok (.astore_n 1, 1) := dk_76 (dk_at dksX12_positive_0 17 rfl rfl)
theorem dX12_positive_18 : decode cX12_positive 18 = .ok (.aload_n 0, 1) := dk_42 (dk_at dksX12_positive_0 18 rfl rfl)
theorem dX12_positive_19 : decode cX12_positive 19 = .ok (.ldc 109, 2) := dk_18 109 (dk_at dksX12_positive_0 19 rfl rfl)
theorem dX12_positive_21 : decode cX12_positive 21 = .ok (.invokevirtual 111, 3) := dk_182 0 111 (dk_at dksX12_positive_0 21 rfl rfl)
theorem dX12_positive_24 : decode cX12_positive 24 = .ok (.aload_n 0, 1) := dk_42 (dk_at dksX12_positive_1 0 rfl rfl)
theorem dX12_positive_25 : decode cX12_positive 25 = .ok (.dup, 1) := dk_89 (dk_at dksX12_positive_1 1 rfl rfl)
theorem dX12_positive_26 : decode cX12_positive 26 = .ok (.getfield 88, 3) := dk_180 0 88 (dk_at dksX12_positive_1 2 rfl rfl)
theorem dX12_positive_29 : decode cX12_positive 29 = .ok (.iconst 1, 1) := dk_4 (dk_at dksX12_positive_1 5 rfl rfl)
theorem dX12_positive_30 : decode cX12_positive 30 = .ok (.isub, 1) := dk_100 (dk_at dksX12_positive_1 6 rfl rfl)
theorem dX12_positive_31 : decode cX12_positive 31 = .ok (.putfield 88, 3) := dk_181 0 88 (dk_at dksX12_positive_1 7 rfl rfl)
theorem dX12_positive_34 : decode cX12_positive 34 = .ok (.aload_n 1, 1) := dk_43 (dk_at dksX12_positive_1 10 rfl rfl)
theorem dX12_positive_35 : decode cX12_positive 35 = .ok (.areturn, 1) := dk_176 (dk_at dksX12_positive_1 11 rfl rfl)
theorem dX12_positive_36 : decode cX12_positive 36 = .ok (.aload_n 0, 1) := dk_42 (dk_at dksX12_positive_1 12 rfl rfl)
theorem dX12_positive_37 : decode cX12_positive 37 = .ok (.invokevirtual 115, 3) := dk_182 0 115 (dk_at dksX12_positive_1 13 rfl rfl)
theorem dX12_positive_40 : decode cX12_positive 40 = .ok (.astore_n 1, 1) := dk_76 (dk_at dksX12_positive_1 16 rfl rfl)
theorem dX12_positive_41 : decode cX12_positive 41 = .ok (.aload_n 0, 1) := dk_42 (dk_at dksX12_positive_1 17 rfl rfl)
theorem dX12_positive_42 : decode cX12_positive 42 = .ok (.ldc 119, 2) := dk_18 119 (dk_at dksX12_positive_1 18 rfl rfl)
theorem dX12_positive_44 : decode cX12_positive 44 = .ok (.invokevirtual 39, 3) := dk_182 0 39 (dk_at dksX12_positive_1 20 rfl rfl)
theorem dX12_positive_47 : decode cX12_positive 47 = .ok (.ifCond .ne 33, 3) := dk_154 0 33 (dk_at dksX12_positive_2 0 rfl rfl)
theorem dX12_positive_50 : decode cX12_positive 50 = .ok (.aload_n 0, 1) := dk_42 (dk_at dksX12_positive_2 3 rfl rfl)
theorem dX12_positive_51 : decode cX12_positive 51 = .ok (.ldc 121, 2) := dk_18 121 (dk_at dksX12_positive_2 4 rfl rfl)
theorem dX12_positive_53 : decode cX12_positive 53 = .ok (.invokevirtual 39, 3) := dk_182 0 39 (dk_at dksX12_positive_2 6 rfl rfl)
theorem dX12_positive_56 : decode cX12_positive 56 = .ok (.ifCond .ne 24, 3) := dk_154 0 24 (dk_at dksX12_positive_2 9 rfl rfl)
theorem dX12_positive_59 : decode cX12_positive 59 = .ok (.aload_n 0, 1) := dk_42 (dk_at dksX12_positive_2 12 rfl rfl)
theorem dX12_positive_60 : decode cX12_positive 60 = .ok (.ldc 123, 2) := dk_18 123 (dk_at dksX12_positive_2 13 rfl rfl)
theorem dX12_positive_62 : decode cX12_positive 62 = .ok (.invokevirtual 39, 3) := dk_182 0 39 (dk_at dksX12_positive_2 15 rfl rfl)
theorem dX12_positive_65 : decode cX12_positive 65 = .ok (.ifCond .ne 15, 3) := dk_154 0 15 (dk_at dksX12_positive_2 18 rfl rfl)
theorem dX12_positive_68 : decode cX12_positive 68 = .ok (.new 49, 3) := dk_187 0 49 (dk_at dksX12_positive_2 21 rfl rfl)
theorem dX12_positive_71 : decode cX12_positive 71 = .ok (.dup, 1) := dk_89 (dk_at dksX12_positive_3 0 rfl rfl)
theorem dX12_positive_72 : decode cX12_positive 72 = .ok (.aload_n 0, 1) := dk_42 (dk_at dksX12_positive_3 1 rfl rfl)
theorem dX12_positive_73 : decode cX12_positive 73 = .ok (.getfield 22, 3) := dk_180 0 22 (dk_at dksX12_positive_3 2 rfl rfl)
theorem dX12_positive_76 : decode cX12_positive 76 = .ok (.invokespecial 51, 3) := dk_183 0 51 (dk_at dksX12_positive_3 5 rfl rfl)
theorem dX12_positive_79 : decode cX12_positive 79 = .ok (.athrow, 1) := dk_191 (dk_at dksX12_positive_3 8 rfl rfl)
theorem dX12_positive_80 : decode cX12_positive 80 = .ok (.aload_n 0, 1) := dk_42 (dk_at dksX12_positive_3 9 rfl rfl)
theorem dX12_positive_81 : decode cX12_positive 81 = .ok (.getfield 9, 3) := dk_180 0 9 (dk_at dksX12_positive_3 10 rfl rfl)
theorem dX12_positive_84 : decode cX12_positive 84 = .ok (.aload_n 0, 1) := dk_42 (dk_at dksX12_positive_3 13 rfl rfl)
theorem dX12_positive_85 : decode cX12_positive 85 = .ok (.getfield 22, 3) := dk_180 0 22 (dk_at dksX12_positive_3 14 rfl rfl)
theorem dX12_positive_88 : decode cX12_positive 88 = .ok (.baload, 1) := dk_51 (dk_at dksX12_positive_3 17 rfl rfl)
theorem dX12_positive_89 : decode cX12_positive 89 = .ok (.i2c, 1) := dk_146 (dk_at dksX12_positive_3 18 rfl rfl)
theorem dX12_positive_90 : decode cX12_positive 90 = .ok (.istore_n 2, 1) := dk_61 (dk_at dksX12_positive_3 19 rfl rfl)
theorem dX12_positive_91 : decode cX12_positive 91 = .ok (.aload_n 0, 1) := dk_42 (dk_at dksX12_positive_3 20 rfl rfl)
theorem dX12_positive_92 : decode cX12_positive 92 = .ok (.invokevirtual 43, 3) := dk_182 0 43 (dk_at dksX12_positive_3 21 rfl rfl)
theorem dX12_positive_95 : decode cX12_positive 95 = .ok (.new 125, 3) := dk_187 0 125 (dk_at dksX12_positive_4 0 rfl rfl)
theorem dX12_positive_98 : decode cX12_positive 98 = .ok (.dup, 1) := dk_89 (dk_at dksX12_positive_4 3 rfl rfl)
theorem dX12_positive_99 : decode cX12_positive 99 = .ok (.iload_n 2, 1) := dk_28 (dk_at dksX12_positive_4 4 rfl rfl)
theorem dX12_positive_100 : decode cX12_positive 100 = .ok (.aload_n 1, 1) := dk_43 (dk_at dksX12_positive_4 5 rfl rfl)
theorem dX12_positive_101 : decode cX12_positive 101 = .ok (.aload_n 0, 1) := dk_42 (dk_at dksX12_positive_4 6 rfl rfl)
theorem dX12_positive_102 : decode cX12_positive 102 = .ok (.invokevirtual 115, 3) := dk_182 0 115 (dk_at dksX12_positive_4 7 rfl rfl)
theorem dX12_positive_105 : decode cX12_positive 105 = .ok (.invokespecial 127, 3) := dk_183 0 127 (dk_at dksX12_positive_4 10 rfl rfl)
theorem dX12_positive_108 : decode cX12_positive 108 = .ok (.areturn, 1) := dk_176 (dk_at dksX12_positive_4 13 rfl rfl)
theorem q135 : (Jvm.Cond.initialized "DeadUnderstudies$Reader") ∈ lw_all := lw_g (lw_at lw_m1 24 rfl) rfl
theorem q869 : (Jvm.Cond.instanceMethod ({ cls := "DeadUnderstudies$Reader", name := "<init>", desc := "([BI)V" } : Jvm.MethodName)) ∈ lw_all := lw_g (lw_at lw_m4 38 rfl) rfl
theorem q870 : (Jvm.Cond.code ({ cls := "DeadUnderstudies$Reader", name := "<init>", desc := "([BI)V" } : Jvm.MethodName) prog_17_method_1_code (3 : Nat) (Option.none : Option Jvm.ClassFile.FieldType)) ∈ lw_all := lw_g (lw_at lw_m4 39 rfl) rfl
theorem q871 : (Jvm.Cond.methodLink "DeadUnderstudies$Reader" (3 : Nat) ({ cls := "java/lang/Object", name := "<init>", desc := "()V" } : Jvm.MethodName)) ∈ lw_all := lw_g (lw_at lw_m4 40 rfl) rfl
theorem q876 : (Jvm.Cond.fieldLink "DeadUnderstudies$Reader" (9 : Nat) "DeadUnderstudies$Reader" "tape" "[B") ∈ lw_all := lw_g (lw_at lw_m4 45 rfl) rfl
theorem q877 : (Jvm.Cond.fieldLink "DeadUnderstudies$Reader" (15 : Nat) "DeadUnderstudies$Reader" "size" "I") ∈ lw_all := lw_g (lw_at lw_m4 46 rfl) rfl
theorem q878 : (Jvm.Cond.fieldLink "DeadUnderstudies$Reader" (59 : Nat) "DeadUnderstudies$Reader" "made" "I") ∈ lw_all := lw_g (lw_at lw_m4 47 rfl) rfl
theorem q879 : (Jvm.Cond.fieldLink "DeadUnderstudies$Reader" (22 : Nat) "DeadUnderstudies$Reader" "from" "I") ∈ lw_all := lw_g (lw_at lw_m4 48 rfl) rfl
theorem q880 : (Jvm.Cond.fieldLink "DeadUnderstudies$Reader" (19 : Nat) "DeadUnderstudies$Reader" "to" "I") ∈ lw_all := lw_g (lw_at lw_m4 49 rfl) rfl
theorem q881 : (Jvm.Cond.fieldLink "DeadUnderstudies$Reader" (149 : Nat) "DeadUnderstudies$Reader" "leaves" "I") ∈ lw_all := lw_g (lw_at lw_m4 50 rfl) rfl
theorem q882 : (Jvm.Cond.fieldLink "DeadUnderstudies$Reader" (88 : Nat) "DeadUnderstudies$Reader" "deep" "I") ∈ lw_all := lw_g (lw_at lw_m4 51 rfl) rfl
theorem q886 : (Jvm.Cond.soleField "DeadUnderstudies$Reader" "tape") ∈ lw_all := lw_g (lw_at lw_m4 55 rfl) rfl
theorem q888 : (Jvm.Cond.soleField "DeadUnderstudies$Reader" "size") ∈ lw_all := lw_g (lw_at lw_m4 57 rfl) rfl
theorem q890 : (Jvm.Cond.soleField "DeadUnderstudies$Reader" "made") ∈ lw_all := lw_g (lw_at lw_m4 59 rfl) rfl
theorem q892 : (Jvm.Cond.soleField "DeadUnderstudies$Reader" "from") ∈ lw_all := lw_g (lw_at lw_m4 61 rfl) rfl
theorem q894 : (Jvm.Cond.soleField "DeadUnderstudies$Reader" "to") ∈ lw_all := lw_g (lw_at lw_m4 63 rfl) rfl
theorem q896 : (Jvm.Cond.soleField "DeadUnderstudies$Reader" "leaves") ∈ lw_all := lw_g (lw_at lw_m4 65 rfl) rfl
theorem q898 : (Jvm.Cond.soleField "DeadUnderstudies$Reader" "deep") ∈ lw_all := lw_g (lw_at lw_m4 67 rfl) rfl
theorem q906 : (Jvm.Cond.instanceMethod ({ cls := "DeadUnderstudies$Reader", name := "read", desc := "()V" } : Jvm.MethodName)) ∈ lw_all := lw_g (lw_at lw_m4 75 rfl) rfl
theorem q907 : (Jvm.Cond.sameMethod "DeadUnderstudies$Reader" "DeadUnderstudies$Reader" "read" "()V") ∈ lw_all := lw_g (lw_at lw_m4 76 rfl) rfl
theorem q910 : (Jvm.Cond.code ({ cls := "DeadUnderstudies$Reader", name := "read", desc := "()V" } : Jvm.MethodName) prog_17_method_10_code (1 : Nat) (Option.none : Option Jvm.ClassFile.FieldType)) ∈ lw_all := lw_g (lw_at lw_m4 79 rfl) rfl
theorem q911 : (Jvm.Cond.methodLink "DeadUnderstudies$Reader" (43 : Nat) ({ cls := "DeadUnderstudies$Reader", name := "next", desc := "()V" } : Jvm.MethodName)) ∈ lw_all := lw_g (lw_at lw_m4 80 rfl) rfl
theorem q912 : (Jvm.Cond.instanceMethod ({ cls := "DeadUnderstudies$Reader", name := "next", desc := "()V" } : Jvm.MethodName)) ∈ lw_all := lw_g (lw_at lw_m4 81 rfl) rfl
theorem q913 : (Jvm.Cond.sameMethod "DeadUnderstudies$Reader" "DeadUnderstudies$Reader" "next" "()V") ∈ lw_all := lw_g (lw_at lw_m4 82 rfl) rfl
theorem q916 : (Jvm.Cond.code ({ cls := "DeadUnderstudies$Reader", name := "next", desc := "()V" } : Jvm.MethodName) prog_17_method_3_code (1 : Nat) (Option.none : Option Jvm.ClassFile.FieldType)) ∈ lw_all := lw_g (lw_at lw_m4 85 rfl) rfl
theorem q917 : (Jvm.Cond.methodLink "DeadUnderstudies$Reader" (25 : Nat) ({ cls := "DeadUnderstudies$Reader", name := "isIn", desc := "(III)Z" } : Jvm.MethodName)) ∈ lw_all := lw_g (lw_at lw_m4 86 rfl) rfl
theorem q918 : (Jvm.Cond.instanceMethod ({ cls := "DeadUnderstudies$Reader", name := "isIn", desc := "(III)Z" } : Jvm.MethodName)) ∈ lw_all := lw_g (lw_at lw_m4 87 rfl) rfl
theorem q919 : (Jvm.Cond.sameMethod "DeadUnderstudies$Reader" "DeadUnderstudies$Reader" "isIn" "(III)Z") ∈ lw_all := lw_g (lw_at lw_m4 88 rfl) rfl
theorem q922 : (Jvm.Cond.code ({ cls := "DeadUnderstudies$Reader", name := "isIn", desc := "(III)Z" } : Jvm.MethodName) prog_17_method_2_code (4 : Nat) (Option.some Jvm.ClassFile.FieldType.boolean)) ∈ lw_all := lw_g (lw_at lw_m4 91 rfl) rfl
theorem q923 : (Jvm.Cond.methodLink "DeadUnderstudies$Reader" (54 : Nat) ({ cls := "DeadUnderstudies$Reader", name := "clause", desc := "()V" } : Jvm.MethodName)) ∈ lw_all := lw_g (lw_at lw_m4 92 rfl) rfl
theorem q924 : (Jvm.Cond.declares ({ cls := "DeadUnderstudies$Reader", name := "clause", desc := "()V" } : Jvm.MethodName)) ∈ lw_tbl := lw_at lw_m4 93 rfl
theorem q925 : (Jvm.Cond.sameMethod "DeadUnderstudies$Reader" "DeadUnderstudies$Reader" "clause" "()V") ∈ lw_all := lw_g (lw_at lw_m4 94 rfl) rfl
theorem q932 : (Jvm.Cond.declares ({ cls := "DeadUnderstudies$Reader", name := "is", desc := "(Ljava/lang/String;)Z" } : Jvm.MethodName)) ∈ lw_tbl := lw_at lw_m4 101 rfl
theorem q934 : (Jvm.Cond.instanceMethod ({ cls := "DeadUnderstudies$Reader", name := "is", desc := "(Ljava/lang/String;)Z" } : Jvm.MethodName)) ∈ lw_all := lw_g (lw_at lw_m4 103 rfl) rfl
theorem q935 : (Jvm.Cond.code ({ cls := "DeadUnderstudies$Reader", name := "is", desc := "(Ljava/lang/String;)Z" } : Jvm.MethodName) prog_17_method_4_code (3 : Nat) (Option.some Jvm.ClassFile.FieldType.boolean)) ∈ lw_all := lw_g (lw_at lw_m4 104 rfl) rfl
theorem q936 : (Jvm.Cond.methodLink "DeadUnderstudies$Reader" (29 : Nat) ({ cls := "java/lang/String", name := "length", desc := "()I" } : Jvm.MethodName)) ∈ lw_all := lw_g (lw_at lw_m4 105 rfl) rfl
theorem q946 : (Jvm.Cond.methodLink "DeadUnderstudies$Reader" (35 : Nat) ({ cls := "java/lang/String", name := "charAt", desc := "(I)C" } : Jvm.MethodName)) ∈ lw_all := lw_g (lw_at lw_m4 115 rfl) rfl
theorem q986 : (Jvm.Cond.declares ({ cls := "DeadUnderstudies$Reader", name := "begins", desc := "(Z)V" } : Jvm.MethodName)) ∈ lw_tbl := lw_at lw_m4 155 rfl
theorem q988 : (Jvm.Cond.instanceMethod ({ cls := "DeadUnderstudies$Reader", name := "begins", desc := "(Z)V" } : Jvm.MethodName)) ∈ lw_all := lw_g (lw_at lw_m4 157 rfl) rfl
theorem q989 : (Jvm.Cond.code ({ cls := "DeadUnderstudies$Reader", name := "begins", desc := "(Z)V" } : Jvm.MethodName) prog_17_method_11_code (2 : Nat) (Option.none : Option Jvm.ClassFile.FieldType)) ∈ lw_all := lw_g (lw_at lw_m4 158 rfl) rfl
theorem q990 : (Jvm.Cond.classLink "DeadUnderstudies$Reader" (49 : Nat) "DeadUnderstudies$Fault") ∈ lw_all := lw_g (lw_at lw_m4 159 rfl) rfl
theorem q999 : (Jvm.Cond.methodLink "DeadUnderstudies$Reader" (51 : Nat) ({ cls := "DeadUnderstudies$Fault", name := "<init>", desc := "(I)V" } : Jvm.MethodName)) ∈ lw_all := lw_g (lw_at lw_m4 168 rfl) rfl
theorem q1011 : (Jvm.Cond.declares ({ cls := "DeadUnderstudies$Reader", name := "next", desc := "()V" } : Jvm.MethodName)) ∈ lw_tbl := lw_at lw_m4 180 rfl
theorem q1034 : (Jvm.Cond.declares ({ cls := "DeadUnderstudies$Reader", name := "sum", desc := "()LDeadUnderstudies$Sum;" } : Jvm.MethodName)) ∈ lw_tbl := lw_at lw_m4 203 rfl
theorem q1036 : (Jvm.Cond.instanceMethod ({ cls := "DeadUnderstudies$Reader", name := "sum", desc := "()LDeadUnderstudies$Sum;" } : Jvm.MethodName)) ∈ lw_all := lw_g (lw_at lw_m4 205 rfl) rfl
theorem q1037 : (Jvm.Cond.code ({ cls := "DeadUnderstudies$Reader", name := "sum", desc := "()LDeadUnderstudies$Sum;" } : Jvm.MethodName) prog_17_method_17_code (3 : Nat) (Option.some (Jvm.ClassFile.FieldType.object "DeadUnderstudies$Sum"))) ∈ lw_all := lw_g (lw_at lw_m4 206 rfl) rfl
theorem q1038 : (Jvm.Cond.methodLink "DeadUnderstudies$Reader" (130 : Nat) ({ cls := "DeadUnderstudies$Reader", name := "term", desc := "()LDeadUnderstudies$Sum;" } : Jvm.MethodName)) ∈ lw_all := lw_g (lw_at lw_m4 207 rfl) rfl
theorem q1039 : (Jvm.Cond.instanceMethod ({ cls := "DeadUnderstudies$Reader", name := "term", desc := "()LDeadUnderstudies$Sum;" } : Jvm.MethodName)) ∈ lw_all := lw_g (lw_at lw_m4 208 rfl) rfl
theorem q1040 : (Jvm.Cond.sameMethod "DeadUnderstudies$Reader" "DeadUnderstudies$Reader" "term" "()LDeadUnderstudies$Sum;") ∈ lw_all := lw_g (lw_at lw_m4 209 rfl) rfl
theorem q1043 : (Jvm.Cond.code ({ cls := "DeadUnderstudies$Reader", name := "term", desc := "()LDeadUnderstudies$Sum;" } : Jvm.MethodName) prog_17_method_18_code (3 : Nat) (Option.some (Jvm.ClassFile.FieldType.object "DeadUnderstudies$Sum"))) ∈ lw_all := lw_g (lw_at lw_m4 212 rfl) rfl
theorem q1044 : (Jvm.Cond.methodLink "DeadUnderstudies$Reader" (140 : Nat) ({ cls := "DeadUnderstudies$Reader", name := "part", desc := "()LDeadUnderstudies$Sum;" } : Jvm.MethodName)) ∈ lw_all := lw_g (lw_at lw_m4 213 rfl) rfl
theorem q1045 : (Jvm.Cond.instanceMethod ({ cls := "DeadUnderstudies$Reader", name := "part", desc := "()LDeadUnderstudies$Sum;" } : Jvm.MethodName)) ∈ lw_all := lw_g (lw_at lw_m4 214 rfl) rfl
theorem q1046 : (Jvm.Cond.sameMethod "DeadUnderstudies$Reader" "DeadUnderstudies$Reader" "part" "()LDeadUnderstudies$Sum;") ∈ lw_all := lw_g (lw_at lw_m4 215 rfl) rfl
theorem q1049 : (Jvm.Cond.code ({ cls := "DeadUnderstudies$Reader", name := "part", desc := "()LDeadUnderstudies$Sum;" } : Jvm.MethodName) prog_17_method_20_code (2 : Nat) (Option.some (Jvm.ClassFile.FieldType.object "DeadUnderstudies$Sum"))) ∈ lw_all := lw_g (lw_at lw_m4 218 rfl) rfl
theorem q1050 : (Jvm.Cond.stringRef "DeadUnderstudies$Reader" (152 : Nat) "[") ∈ lw_tbl := lw_at lw_m4 219 rfl
theorem q1051 : (Jvm.Cond.methodLink "DeadUnderstudies$Reader" (39 : Nat) ({ cls := "DeadUnderstudies$Reader", name := "is", desc := "(Ljava/lang/String;)Z" } : Jvm.MethodName)) ∈ lw_all := lw_g (lw_at lw_m4 220 rfl) rfl
theorem q1052 : (Jvm.Cond.methodLink "DeadUnderstudies$Reader" (103 : Nat) ({ cls := "DeadUnderstudies$Reader", name := "opens", desc := "()V" } : Jvm.MethodName)) ∈ lw_all := lw_g (lw_at lw_m4 221 rfl) rfl
theorem q1053 : (Jvm.Cond.instanceMethod ({ cls := "DeadUnderstudies$Reader", name := "opens", desc := "()V" } : Jvm.MethodName)) ∈ lw_all := lw_g (lw_at lw_m4 222 rfl) rfl
theorem q1054 : (Jvm.Cond.sameMethod "DeadUnderstudies$Reader" "DeadUnderstudies$Reader" "opens" "()V") ∈ lw_all := lw_g (lw_at lw_m4 223 rfl) rfl
theorem q1057 : (Jvm.Cond.code ({ cls := "DeadUnderstudies$Reader", name := "opens", desc := "()V" } : Jvm.MethodName) prog_17_method_14_code (1 : Nat) (Option.none : Option Jvm.ClassFile.FieldType)) ∈ lw_all := lw_g (lw_at lw_m4 226 rfl) rfl
theorem q1058 : (Jvm.Cond.methodLink "DeadUnderstudies$Reader" (115 : Nat) ({ cls := "DeadUnderstudies$Reader", name := "sum", desc := "()LDeadUnderstudies$Sum;" } : Jvm.MethodName)) ∈ lw_all := lw_g (lw_at lw_m4 227 rfl) rfl
theorem q1059 : (Jvm.Cond.stringRef "DeadUnderstudies$Reader" (154 : Nat) "]") ∈ lw_tbl := lw_at lw_m4 228 rfl
theorem q1060 : (Jvm.Cond.methodLink "DeadUnderstudies$Reader" (111 : Nat) ({ cls := "DeadUnderstudies$Reader", name := "need", desc := "(Ljava/lang/String;)V" } : Jvm.MethodName)) ∈ lw_all := lw_g (lw_at lw_m4 229 rfl) rfl
theorem q1061 : (Jvm.Cond.instanceMethod ({ cls := "DeadUnderstudies$Reader", name := "need", desc := "(Ljava/lang/String;)V" } : Jvm.MethodName)) ∈ lw_all := lw_g (lw_at lw_m4 230 rfl) rfl
theorem q1062 : (Jvm.Cond.sameMethod "DeadUnderstudies$Reader" "DeadUnderstudies$Reader" "need" "(Ljava/lang/String;)V") ∈ lw_all := lw_g (lw_at lw_m4 231 rfl) rfl
theorem q1065 : (Jvm.Cond.code ({ cls := "DeadUnderstudies$Reader", name := "need", desc := "(Ljava/lang/String;)V" } : Jvm.MethodName) prog_17_method_6_code (2 : Nat) (Option.none : Option Jvm.ClassFile.FieldType)) ∈ lw_all := lw_g (lw_at lw_m4 234 rfl) rfl
theorem q1066 : (Jvm.Cond.methodLink "DeadUnderstudies$Reader" (46 : Nat) ({ cls := "DeadUnderstudies$Reader", name := "takes", desc := "(Ljava/lang/String;)Z" } : Jvm.MethodName)) ∈ lw_all := lw_g (lw_at lw_m4 235 rfl) rfl
theorem q1067 : (Jvm.Cond.instanceMethod ({ cls := "DeadUnderstudies$Reader", name := "takes", desc := "(Ljava/lang/String;)Z" } : Jvm.MethodName)) ∈ lw_all := lw_g (lw_at lw_m4 236 rfl) rfl
theorem q1068 : (Jvm.Cond.sameMethod "DeadUnderstudies$Reader" "DeadUnderstudies$Reader" "takes" "(Ljava/lang/String;)Z") ∈ lw_all := lw_g (lw_at lw_m4 237 rfl) rfl
theorem q1071 : (Jvm.Cond.code ({ cls := "DeadUnderstudies$Reader", name := "takes", desc := "(Ljava/lang/String;)Z" } : Jvm.MethodName) prog_17_method_5_code (3 : Nat) (Option.some Jvm.ClassFile.FieldType.boolean)) ∈ lw_all := lw_g (lw_at lw_m5 0 rfl) rfl
theorem q1072 : (Jvm.Cond.methodLink "DeadUnderstudies$Reader" (156 : Nat) ({ cls := "DeadUnderstudies$Reader", name := "leaf", desc := "()V" } : Jvm.MethodName)) ∈ lw_all := lw_g (lw_at lw_m5 1 rfl) rfl
theorem q1073 : (Jvm.Cond.instanceMethod ({ cls := "DeadUnderstudies$Reader", name := "leaf", desc := "()V" } : Jvm.MethodName)) ∈ lw_all := lw_g (lw_at lw_m5 2 rfl) rfl
theorem q1074 : (Jvm.Cond.sameMethod "DeadUnderstudies$Reader" "DeadUnderstudies$Reader" "leaf" "()V") ∈ lw_all := lw_g (lw_at lw_m5 3 rfl) rfl
theorem q1077 : (Jvm.Cond.code ({ cls := "DeadUnderstudies$Reader", name := "leaf", desc := "()V" } : Jvm.MethodName) prog_17_method_19_code (1 : Nat) (Option.none : Option Jvm.ClassFile.FieldType)) ∈ lw_all := lw_g (lw_at lw_m5 6 rfl) rfl
theorem q1078 : (Jvm.Cond.classLink "DeadUnderstudies$Reader" (159 : Nat) "DeadUnderstudies$Number") ∈ lw_all := lw_g (lw_at lw_m5 7 rfl) rfl
theorem q1080 : (Jvm.Cond.methodLink "DeadUnderstudies$Reader" (161 : Nat) ({ cls := "DeadUnderstudies$Reader", name := "number", desc := "(II)I" } : Jvm.MethodName)) ∈ lw_all := lw_g (lw_at lw_m5 9 rfl) rfl
theorem q1081 : (Jvm.Cond.instanceMethod ({ cls := "DeadUnderstudies$Reader", name := "number", desc := "(II)I" } : Jvm.MethodName)) ∈ lw_all := lw_g (lw_at lw_m5 10 rfl) rfl
theorem q1082 : (Jvm.Cond.sameMethod "DeadUnderstudies$Reader" "DeadUnderstudies$Reader" "number" "(II)I") ∈ lw_all := lw_g (lw_at lw_m5 11 rfl) rfl
theorem q1085 : (Jvm.Cond.code ({ cls := "DeadUnderstudies$Reader", name := "number", desc := "(II)I" } : Jvm.MethodName) prog_17_method_7_code (5 : Nat) (Option.some Jvm.ClassFile.FieldType.int)) ∈ lw_all := lw_g (lw_at lw_m5 14 rfl) rfl
theorem q1086 : (Jvm.Cond.methodLink "DeadUnderstudies$Reader" (165 : Nat) ({ cls := "DeadUnderstudies$Number", name := "<init>", desc := "(I)V" } : Jvm.MethodName)) ∈ lw_all := lw_g (lw_at lw_m5 15 rfl) rfl
theorem q1097 : (Jvm.Cond.methodLink "DeadUnderstudies$Reader" (166 : Nat) ({ cls := "DeadUnderstudies$Reader", name := "value", desc := "()I" } : Jvm.MethodName)) ∈ lw_all := lw_g (lw_at lw_m5 26 rfl) rfl
theorem q1098 : (Jvm.Cond.declares ({ cls := "DeadUnderstudies$Reader", name := "value", desc := "()I" } : Jvm.MethodName)) ∈ lw_tbl := lw_at lw_m5 27 rfl
theorem q1099 : (Jvm.Cond.sameMethod "DeadUnderstudies$Reader" "DeadUnderstudies$Reader" "value" "()I") ∈ lw_all := lw_g (lw_at lw_m5 28 rfl) rfl
theorem q1123 : (Jvm.Cond.classLink "DeadUnderstudies$Reader" (169 : Nat) "DeadUnderstudies$Value") ∈ lw_all := lw_g (lw_at lw_m5 52 rfl) rfl
theorem q1125 : (Jvm.Cond.methodLink "DeadUnderstudies$Reader" (171 : Nat) ({ cls := "DeadUnderstudies$Value", name := "<init>", desc := "(I)V" } : Jvm.MethodName)) ∈ lw_all := lw_g (lw_at lw_m5 54 rfl) rfl
theorem q1133 : (Jvm.Cond.stringRef "DeadUnderstudies$Reader" (143 : Nat) "*") ∈ lw_tbl := lw_at lw_m5 62 rfl
theorem q1134 : (Jvm.Cond.stringRef "DeadUnderstudies$Reader" (145 : Nat) "/") ∈ lw_tbl := lw_at lw_m5 63 rfl
theorem q1135 : (Jvm.Cond.stringRef "DeadUnderstudies$Reader" (147 : Nat) "%") ∈ lw_tbl := lw_at lw_m5 64 rfl
theorem q1136 : (Jvm.Cond.classLink "DeadUnderstudies$Reader" (137 : Nat) "DeadUnderstudies$Two") ∈ lw_all := lw_g (lw_at lw_m5 65 rfl) rfl
theorem q1138 : (Jvm.Cond.methodLink "DeadUnderstudies$Reader" (139 : Nat) ({ cls := "DeadUnderstudies$Two", name := "<init>", desc := "(CLDeadUnderstudies$Sum;LDeadUnderstudies$Sum;)V" } : Jvm.MethodName)) ∈ lw_all := lw_g (lw_at lw_m5 67 rfl) rfl
theorem q1152 : (Jvm.Cond.stringRef "DeadUnderstudies$Reader" (133 : Nat) "+") ∈ lw_tbl := lw_at lw_m5 81 rfl
theorem q1153 : (Jvm.Cond.stringRef "DeadUnderstudies$Reader" (135 : Nat) "-") ∈ lw_tbl := lw_at lw_m5 82 rfl
theorem q1157 : (Jvm.Cond.declares ({ cls := "DeadUnderstudies$Reader", name := "takes", desc := "(Ljava/lang/String;)Z" } : Jvm.MethodName)) ∈ lw_tbl := lw_at lw_m5 86 rfl
theorem q1161 : (Jvm.Cond.declares ({ cls := "DeadUnderstudies$Reader", name := "test", desc := "()LDeadUnderstudies$Test;" } : Jvm.MethodName)) ∈ lw_tbl := lw_at lw_m5 90 rfl
theorem q1163 : (Jvm.Cond.instanceMethod ({ cls := "DeadUnderstudies$Reader", name := "test", desc := "()LDeadUnderstudies$Test;" } : Jvm.MethodName)) ∈ lw_all := lw_g (lw_at lw_m5 92 rfl) rfl
theorem q1164 : (Jvm.Cond.code ({ cls := "DeadUnderstudies$Reader", name := "test", desc := "()LDeadUnderstudies$Test;" } : Jvm.MethodName) prog_17_method_12_code (3 : Nat) (Option.some (Jvm.ClassFile.FieldType.object "DeadUnderstudies$Test"))) ∈ lw_all := lw_g (lw_at lw_m5 93 rfl) rfl
theorem q1165 : (Jvm.Cond.methodLink "DeadUnderstudies$Reader" (62 : Nat) ({ cls := "DeadUnderstudies$Reader", name := "both", desc := "()LDeadUnderstudies$Test;" } : Jvm.MethodName)) ∈ lw_all := lw_g (lw_at lw_m5 94 rfl) rfl
theorem q1166 : (Jvm.Cond.instanceMethod ({ cls := "DeadUnderstudies$Reader", name := "both", desc := "()LDeadUnderstudies$Test;" } : Jvm.MethodName)) ∈ lw_all := lw_g (lw_at lw_m5 95 rfl) rfl
theorem q1167 : (Jvm.Cond.sameMethod "DeadUnderstudies$Reader" "DeadUnderstudies$Reader" "both" "()LDeadUnderstudies$Test;") ∈ lw_all := lw_g (lw_at lw_m5 96 rfl) rfl
theorem q1170 : (Jvm.Cond.code ({ cls := "DeadUnderstudies$Reader", name := "both", desc := "()LDeadUnderstudies$Test;" } : Jvm.MethodName) prog_17_method_13_code (3 : Nat) (Option.some (Jvm.ClassFile.FieldType.object "DeadUnderstudies$Test"))) ∈ lw_all := lw_g (lw_at lw_m5 99 rfl) rfl
theorem q1171 : (Jvm.Cond.methodLink "DeadUnderstudies$Reader" (83 : Nat) ({ cls := "DeadUnderstudies$Reader", name := "plain", desc := "()LDeadUnderstudies$Test;" } : Jvm.MethodName)) ∈ lw_all := lw_g (lw_at lw_m5 100 rfl) rfl
theorem q1172 : (Jvm.Cond.instanceMethod ({ cls := "DeadUnderstudies$Reader", name := "plain", desc := "()LDeadUnderstudies$Test;" } : Jvm.MethodName)) ∈ lw_all := lw_g (lw_at lw_m5 101 rfl) rfl
theorem q1173 : (Jvm.Cond.sameMethod "DeadUnderstudies$Reader" "DeadUnderstudies$Reader" "plain" "()LDeadUnderstudies$Test;") ∈ lw_all := lw_g (lw_at lw_m5 102 rfl) rfl
theorem q1176 : (Jvm.Cond.code ({ cls := "DeadUnderstudies$Reader", name := "plain", desc := "()LDeadUnderstudies$Test;" } : Jvm.MethodName) prog_17_method_15_code (3 : Nat) (Option.some (Jvm.ClassFile.FieldType.object "DeadUnderstudies$Test"))) ∈ lw_all := lw_g (lw_at lw_m5 105 rfl) rfl
theorem q1177 : (Jvm.Cond.stringRef "DeadUnderstudies$Reader" (91 : Nat) "not") ∈ lw_tbl := lw_at lw_m5 106 rfl
theorem q1178 : (Jvm.Cond.methodLink "DeadUnderstudies$Reader" (93 : Nat) ({ cls := "DeadUnderstudies$Reader", name := "positive", desc := "()LDeadUnderstudies$Test;" } : Jvm.MethodName)) ∈ lw_all := lw_g (lw_at lw_m5 107 rfl) rfl
theorem q1179 : (Jvm.Cond.instanceMethod ({ cls := "DeadUnderstudies$Reader", name := "positive", desc := "()LDeadUnderstudies$Test;" } : Jvm.MethodName)) ∈ lw_all := lw_g (lw_at lw_m5 108 rfl) rfl
theorem q1180 : (Jvm.Cond.sameMethod "DeadUnderstudies$Reader" "DeadUnderstudies$Reader" "positive" "()LDeadUnderstudies$Test;") ∈ lw_all := lw_g (lw_at lw_m5 109 rfl) rfl
theorem q1183 : (Jvm.Cond.code ({ cls := "DeadUnderstudies$Reader", name := "positive", desc := "()LDeadUnderstudies$Test;" } : Jvm.MethodName) prog_17_method_16_code (3 : Nat) (Option.some (Jvm.ClassFile.FieldType.object "DeadUnderstudies$Test"))) ∈ lw_all := lw_g (lw_at lw_m5 112 rfl) rfl
theorem q1184 : (Jvm.Cond.stringRef "DeadUnderstudies$Reader" (101 : Nat) "(") ∈ lw_tbl := lw_at lw_m5 113 rfl
theorem q1185 : (Jvm.Cond.methodLink "DeadUnderstudies$Reader" (106 : Nat) ({ cls := "DeadUnderstudies$Reader", name := "test", desc := "()LDeadUnderstudies$Test;" } : Jvm.MethodName)) ∈ lw_all := lw_g (lw_at lw_m5 114 rfl) rfl
theorem q1186 : (Jvm.Cond.stringRef "DeadUnderstudies$Reader" (109 : Nat) ")") ∈ lw_tbl := lw_at lw_m5 115 rfl
theorem q1187 : (Jvm.Cond.stringRef "DeadUnderstudies$Reader" (119 : Nat) "<") ∈ lw_tbl := lw_at lw_m5 116 rfl
theorem q1188 : (Jvm.Cond.stringRef "DeadUnderstudies$Reader" (121 : Nat) ">") ∈ lw_tbl := lw_at lw_m5 117 rfl
theorem q1189 : (Jvm.Cond.stringRef "DeadUnderstudies$Reader" (123 : Nat) "=") ∈ lw_tbl := lw_at lw_m5 118 rfl
theorem q1190 : (Jvm.Cond.classLink "DeadUnderstudies$Reader" (125 : Nat) "DeadUnderstudies$Compare") ∈ lw_all := lw_g (lw_at lw_m5 119 rfl) rfl
theorem q1192 : (Jvm.Cond.methodLink "DeadUnderstudies$Reader" (127 : Nat) ({ cls := "DeadUnderstudies$Compare", name := "<init>", desc := "(CLDeadUnderstudies$Sum;LDeadUnderstudies$Sum;)V" } : Jvm.MethodName)) ∈ lw_all := lw_g (lw_at lw_m5 121 rfl) rfl
theorem q1209 : (Jvm.Cond.classLink "DeadUnderstudies$Reader" (96 : Nat) "DeadUnderstudies$Not") ∈ lw_all := lw_g (lw_at lw_m5 138 rfl) rfl
theorem q1211 : (Jvm.Cond.methodLink "DeadUnderstudies$Reader" (98 : Nat) ({ cls := "DeadUnderstudies$Not", name := "<init>", desc := "(LDeadUnderstudies$Test;)V" } : Jvm.MethodName)) ∈ lw_all := lw_g (lw_at lw_m5 140 rfl) rfl
theorem q1219 : (Jvm.Cond.stringRef "DeadUnderstudies$Reader" (86 : Nat) "and") ∈ lw_tbl := lw_at lw_m5 148 rfl
theorem q1220 : (Jvm.Cond.classLink "DeadUnderstudies$Reader" (68 : Nat) "DeadUnderstudies$Several") ∈ lw_all := lw_g (lw_at lw_m5 149 rfl) rfl
theorem q1222 : (Jvm.Cond.methodLink "DeadUnderstudies$Reader" (70 : Nat) ({ cls := "DeadUnderstudies$Several", name := "<init>", desc := "(Z)V" } : Jvm.MethodName)) ∈ lw_all := lw_g (lw_at lw_m5 151 rfl) rfl
theorem q1230 : (Jvm.Cond.fieldLinkNest "DeadUnderstudies$Reader" (73 : Nat) "DeadUnderstudies$Several" "of" "Ljava/util/ArrayList;" "DeadUnderstudies") ∈ lw_tbl := lw_at lw_m5 159 rfl
theorem q1236 : (Jvm.Cond.methodLink "DeadUnderstudies$Reader" (77 : Nat) ({ cls := "java/util/ArrayList", name := "add", desc := "(Ljava/lang/Object;)Z" } : Jvm.MethodName)) ∈ lw_all := lw_g (lw_at lw_m5 165 rfl) rfl
theorem q1237 : (Jvm.Cond.stringRef "DeadUnderstudies$Reader" (66 : Nat) "or") ∈ lw_tbl := lw_at lw_m5 166 rfl
theorem q1286 : (Jvm.Cond.declares ({ cls := "DeadUnderstudies$Reader", name := "number", desc := "(II)I" } : Jvm.MethodName)) ∈ lw_tbl := lw_at lw_m5 215 rfl
theorem q1291 : (Jvm.Cond.declares ({ cls := "DeadUnderstudies$Reader", name := "need", desc := "(Ljava/lang/String;)V" } : Jvm.MethodName)) ∈ lw_tbl := lw_at lw_m5 220 rfl
theorem q1304 : (Jvm.Cond.stringRef "DeadUnderstudies$Reader" (57 : Nat) ";") ∈ lw_tbl := lw_at lw_m5 233 rfl
theorem q2586 : (Jvm.Cond.sameMethod "DeadUnderstudies$Reader" "DeadUnderstudies$Reader" "is" "(Ljava/lang/String;)Z") ∈ lw_all := lw_g (lw_at lw_m11 75 rfl) rfl
theorem q2589 : (Jvm.Cond.sameMethod "DeadUnderstudies$Reader" "DeadUnderstudies$Reader" "sum" "()LDeadUnderstudies$Sum;") ∈ lw_all := lw_g (lw_at lw_m11 78 rfl) rfl
theorem q2592 : (Jvm.Cond.sameMethod "DeadUnderstudies$Reader" "DeadUnderstudies$Reader" "test" "()LDeadUnderstudies$Test;") ∈ lw_all := lw_g (lw_at lw_m11 81 rfl) rfl
/-! DeadUnderstudies$PlayReader -/
def RX13 : String := "DeadUnderstudies$PlayReader"
def TX13 : u_T := fun k => match k with
  | 0 => ("DeadUnderstudies$Reader", "tape", "[B", true)
  | 1 => ("DeadUnderstudies$Reader", "size", "I", true)
  | 2 => ("DeadUnderstudies$Reader", "made", "I", false)
  | 3 => ("DeadUnderstudies$Reader", "from", "I", false)
  | 4 => ("DeadUnderstudies$Reader", "to", "I", false)
  | 5 => ("DeadUnderstudies$Reader", "leaves", "I", false)
  | 6 => ("DeadUnderstudies$Reader", "deep", "I", false)
  | _ => ("DeadUnderstudies$PlayReader", "lines", "Ljava/util/ArrayList;", true)
def tyX13 : Nat → FieldType := fun k => match k with
  | 0 => .array .byte
  | 1 => .int
  | 2 => .int
  | 3 => .int
  | 4 => .int
  | 5 => .int
  | 6 => .int
  | _ => .object "java/util/ArrayList"
abbrev wsX130 : List Cond := u_ws RX13 TX13 8
theorem nmX13 : ∀ a, a < 8 → ∀ b, b < 8 → a ≠ b → (TX13 a).2.1 ≠ (TX13 b).2.1 := by decide +kernel
theorem tyX13_ok : ∀ k, k < 8 → parseFieldDescriptor (TX13 k).2.2.1 = some (tyX13 k) := by decide +kernel
abbrev cX13_init : ByteArray := prog_16_method_1_code
def yX13_init : MethodName := ⟨RX13, "<init>", "([BI)V"⟩
def dkwX13_init_0 : List UInt8 := [42, 43, 28, 183, 0, 3, 42, 187, 0, 9, 89, 5, 183, 0, 11, 181, 0, 14, 177]
abbrev dktX13_init_0 : List UInt8 := dkwX13_init_0 ++ []
theorem dksX13_init_0 : cX13_init.data.toList.drop 0 = dktX13_init_0 := by decide +kernel
theorem dX13_init_0 : decode cX13_init 0 = .ok (.aload_n 0, 1) := dk_42 (dk_at dksX13_init_0 0 rfl rfl)
theorem dX13_init_1 : decode cX13_init 1 = .ok (.aload_n 1, 1) := dk_43 (dk_at dksX13_init_0 1 rfl rfl)
theorem dX13_init_2 : decode cX13_init 2 = .ok (.iload_n 2, 1) := dk_28 (dk_at dksX13_init_0 2 rfl rfl)
theorem dX13_init_3 : decode cX13_init 3 = .ok (.invokespecial 3, 3) := dk_183 0 3 (dk_at dksX13_init_0 3 rfl rfl)
theorem dX13_init_6 : decode cX13_init 6 = .ok (.aload_n 0, 1) := dk_42 (dk_at dksX13_init_0 6 rfl rfl)
theorem dX13_init_7 : decode cX13_init 7 = .ok (.new 9, 3) := dk_187 0 9 (dk_at dksX13_init_0 7 rfl rfl)
theorem dX13_init_10 : decode cX13_init 10 = .ok (.dup, 1) := dk_89 (dk_at dksX13_init_0 10 rfl rfl)
theorem dX13_init_11 : decode cX13_init 11 = .ok (.iconst 2, 1) := dk_5 (dk_at dksX13_init_0 11 rfl rfl)
theorem dX13_init_12 : decode cX13_init 12 = .ok (.invokespecial 11, 3) := dk_183 0 11 (dk_at dksX13_init_0 12 rfl rfl)
theorem dX13_init_15 : decode cX13_init 15 = .ok (.putfield 14, 3) := dk_181 0 14 (dk_at dksX13_init_0 15 rfl rfl)
theorem dX13_init_18 : decode cX13_init 18 = .ok (.return_, 1) := dk_177 (dk_at dksX13_init_0 18 rfl rfl)
abbrev cX13_value : ByteArray := prog_16_method_4_code
def yX13_value : MethodName := ⟨RX13, "value", "()I"⟩
def dkwX13_value_2 : List UInt8 := [182, 0, 32, 153, 0, 5, 7, 172, 42, 18, 100, 182, 0, 32, 153, 0, 7, 8, 167, 0, 4, 2, 172]
abbrev dktX13_value_2 : List UInt8 := dkwX13_value_2 ++ []
def dkwX13_value_1 : List UInt8 := [18, 96, 182, 0, 32, 153, 0, 5, 5, 172, 42, 18, 97, 182, 0, 32, 153, 0, 5, 6, 172, 42, 18, 98]
abbrev dktX13_value_1 : List UInt8 := dkwX13_value_1 ++ dktX13_value_2
def dkwX13_value_0 : List UInt8 := [42, 18, 94, 182, 0, 32, 153, 0, 5, 3, 172, 42, 18, 95, 182, 0, 32, 153, 0, 5, 4, 172, 42]
abbrev dktX13_value_0 : List UInt8 := dkwX13_value_0 ++ dktX13_value_1
theorem dksX13_value_0 : cX13_value.data.toList.drop 0 = dktX13_value_0 := by decide +kernel
theorem dksX13_value_1 : cX13_value.data.toList.drop 23 = dktX13_value_1 := dk_seg dksX13_value_0 23 rfl rfl
theorem dksX13_value_2 : cX13_value.data.toList.drop 47 = dktX13_value_2 := dk_seg dksX13_value_1 24 rfl rfl
theorem dX13_value_0 : decode cX13_value 0 = .ok (.aload_n 0, 1) := dk_42 (dk_at dksX13_value_0 0 rfl rfl)
theorem dX13_value_1 : decode cX13_value 1 = .ok (.ldc 94, 2) := dk_18 94 (dk_at dksX13_value_0 1 rfl rfl)
theorem dX13_value_3 : decode cX13_value 3 = .ok (.invokevirtual 32, 3) := dk_182 0 32 (dk_at dksX13_value_0 3 rfl rfl)
theorem dX13_value_6 : decode cX13_value 6 = .ok (.ifCond .eq 5, 3) := dk_153 0 5 (dk_at dksX13_value_0 6 rfl rfl)
theorem dX13_value_9 : decode cX13_value 9 = .ok (.iconst 0, 1) := dk_3 (dk_at dksX13_value_0 9 rfl rfl)
theorem dX13_value_10 : decode cX13_value 10 = .ok (.ireturn, 1) := dk_172 (dk_at dksX13_value_0 10 rfl rfl)
theorem dX13_value_11 : decode cX13_value 11 = .ok (.aload_n 0, 1) := dk_42 (dk_at dksX13_value_0 11 rfl rfl)
theorem dX13_value_12 : decode cX13_value 12 = .ok (.ldc 95, 2) := dk_18 95 (dk_at dksX13_value_0 12 rfl rfl)
theorem dX13_value_14 : decode cX13_value 14 = .ok (.invokevirtual 32, 3) := dk_182 0 32 (dk_at dksX13_value_0 14 rfl rfl)
theorem dX13_value_17 : decode cX13_value 17 = .ok (.ifCond .eq 5, 3) := dk_153 0 5 (dk_at dksX13_value_0 17 rfl rfl)
theorem dX13_value_20 : decode cX13_value 20 = .ok (.iconst 1, 1) := dk_4 (dk_at dksX13_value_0 20 rfl rfl)
theorem dX13_value_21 : decode cX13_value 21 = .ok (.ireturn, 1) := dk_172 (dk_at dksX13_value_0 21 rfl rfl)
theorem dX13_value_22 : decode cX13_value 22 = .ok (.aload_n 0, 1) := dk_42 (dk_at dksX13_value_0 22 rfl rfl)
theorem dX13_value_23 : decode cX13_value 23 = .ok (.ldc 96, 2) := dk_18 96 (dk_at dksX13_value_1 0 rfl rfl)
theorem dX13_value_25 : decode cX13_value 25 = .ok (.invokevirtual 32, 3) := dk_182 0 32 (dk_at dksX13_value_1 2 rfl rfl)
theorem dX13_value_28 : decode cX13_value 28 = .ok (.ifCond .eq 5, 3) := dk_153 0 5 (dk_at dksX13_value_1 5 rfl rfl)
theorem dX13_value_31 : decode cX13_value 31 = .ok (.iconst 2, 1) := dk_5 (dk_at dksX13_value_1 8 rfl rfl)
theorem dX13_value_32 : decode cX13_value 32 = .ok (.ireturn, 1) := dk_172 (dk_at dksX13_value_1 9 rfl rfl)
theorem dX13_value_33 : decode cX13_value 33 = .ok (.aload_n 0, 1) := dk_42 (dk_at dksX13_value_1 10 rfl rfl)
theorem dX13_value_34 : decode cX13_value 34 = .ok (.ldc 97, 2) := dk_18 97 (dk_at dksX13_value_1 11 rfl rfl)
theorem dX13_value_36 : decode cX13_value 36 = .ok (.invokevirtual 32, 3) := dk_182 0 32 (dk_at dksX13_value_1 13 rfl rfl)
theorem dX13_value_39 : decode cX13_value 39 = .ok (.ifCond .eq 5, 3) := dk_153 0 5 (dk_at dksX13_value_1 16 rfl rfl)
theorem dX13_value_42 : decode cX13_value 42 = .ok (.iconst 3, 1) := dk_6 (dk_at dksX13_value_1 19 rfl rfl)
theorem dX13_value_43 : decode cX13_value 43 = .ok (.ireturn, 1) := dk_172 (dk_at dksX13_value_1 20 rfl rfl)
theorem dX13_value_44 : decode cX13_value 44 = .ok (.aload_n 0, 1) := dk_42 (dk_at dksX13_value_1 21 rfl rfl)
theorem dX13_value_45 : decode cX13_value 45 = .ok (.ldc 98, 2) := dk_18 98 (dk_at dksX13_value_1 22 rfl rfl)
theorem dX13_value_47 : decode cX13_value 47 = .ok (.invokevirtual 32, 3) := dk_182 0 32 (dk_at dksX13_value_2 0 rfl rfl)
theorem dX13_value_50 : decode cX13_value 50 = .ok (.ifCond .eq 5, 3) := dk_153 0 5 (dk_at dksX13_value_2 3 rfl rfl)
theorem dX13_value_53 : decode cX13_value 53 = .ok (.iconst 4, 1) := dk_7 (dk_at dksX13_value_2 6 rfl rfl)
theorem dX13_value_54 : decode cX13_value 54 = .ok (.ireturn, 1) := dk_172 (dk_at dksX13_value_2 7 rfl rfl)
theorem dX13_value_55 : decode cX13_value 55 = .ok (.aload_n 0, 1) := dk_42 (dk_at dksX13_value_2 8 rfl rfl)
theorem dX13_value_56 : decode cX13_value 56 = .ok (.ldc 100, 2) := dk_18 100 (dk_at dksX13_value_2 9 rfl rfl)
theorem dX13_value_58 : decode cX13_value 58 = .ok (.invokevirtual 32, 3) := dk_182 0 32 (dk_at dksX13_value_2 11 rfl rfl)
theorem dX13_value_61 : decode cX13_value 61 = .ok (.ifCond .eq 7, 3) := dk_153 0 7 (dk_at dksX13_value_2 14 rfl rfl)
theorem dX13_value_64 : decode cX13_value 64 = .ok (.iconst 5, 1) := dk_8 (dk_at dksX13_value_2 17 rfl rfl)
theorem dX13_value_65 : decode cX13_value 65 = .ok (.goto 4, 3) := dk_167 0 4 (dk_at dksX13_value_2 18 rfl rfl)
theorem dX13_value_68 : decode cX13_value 68 = .ok (.iconst (-1), 1) := dk_2 (dk_at dksX13_value_2 21 rfl rfl)
theorem dX13_value_69 : decode cX13_value 69 = .ok (.ireturn, 1) := dk_172 (dk_at dksX13_value_2 22 rfl rfl)
abbrev cX13_clause : ByteArray := prog_16_method_3_code
def yX13_clause : MethodName := ⟨RX13, "clause", "()V"⟩
def dkwX13_clause_4 : List UInt8 := [153, 0, 11, 43, 42, 182, 0, 82, 181, 0, 86, 42, 180, 0, 14, 43, 182, 0, 90, 87, 177]
abbrev dktX13_clause_4 : List UInt8 := dkwX13_clause_4 ++ []
def dkwX13_clause_3 : List UInt8 := [18, 76, 182, 0, 22, 153, 0, 11, 43, 42, 182, 0, 68, 181, 0, 78, 42, 18, 80, 182, 0, 22]
abbrev dktX13_clause_3 : List UInt8 := dkwX13_clause_3 ++ dktX13_clause_4
def dkwX13_clause_2 : List UInt8 := [18, 64, 182, 0, 22, 154, 0, 34, 42, 18, 66, 182, 0, 57, 43, 42, 182, 0, 68, 181, 0, 72, 42]
abbrev dktX13_clause_2 : List UInt8 := dkwX13_clause_2 ++ dktX13_clause_3
def dkwX13_clause_1 : List UInt8 := [8, 182, 0, 47, 181, 0, 51, 42, 18, 55, 182, 0, 57, 43, 42, 8, 182, 0, 47, 181, 0, 61, 42]
abbrev dktX13_clause_1 : List UInt8 := dkwX13_clause_1 ++ dktX13_clause_2
def dkwX13_clause_0 : List UInt8 := [42, 42, 18, 30, 182, 0, 32, 182, 0, 35, 42, 182, 0, 39, 187, 0, 43, 89, 183, 0, 45, 76, 43, 42]
abbrev dktX13_clause_0 : List UInt8 := dkwX13_clause_0 ++ dktX13_clause_1
theorem dksX13_clause_0 : cX13_clause.data.toList.drop 0 = dktX13_clause_0 := by decide +kernel
theorem dksX13_clause_1 : cX13_clause.data.toList.drop 24 = dktX13_clause_1 := dk_seg dksX13_clause_0 24 rfl rfl
theorem dksX13_clause_2 : cX13_clause.data.toList.drop 47 = dktX13_clause_2 := dk_seg dksX13_clause_1 23 rfl rfl
theorem dksX13_clause_3 : cX13_clause.data.toList.drop 70 = dktX13_clause_3 := dk_seg dksX13_clause_2 23 rfl rfl
theorem dksX13_clause_4 : cX13_clause.data.toList.drop 92 = dktX13_clause_4 := dk_seg dksX13_clause_3 22 rfl rfl
theorem dX13_clause_0 : decode cX13_clause 0 = .ok (.aload_n 0, 1) := dk_42 (dk_at dksX13_clause_0 0 rfl rfl)
theorem dX13_clause_1 : decode cX13_clause 1 = .ok (.aload_n 0, 1) := dk_42 (dk_at dksX13_clause_0 1 rfl rfl)
theorem dX13_clause_2 : decode cX13_clause 2 = .ok (.ldc 30, 2) := dk_18 30 (dk_at dksX13_clause_0 2 rfl rfl)
theorem dX13_clause_4 : decode cX13_clause 4 = .ok (.invokevirtual 32, 3) := dk_182 0 32 (dk_at dksX13_clause_0 4 rfl rfl)
theorem dX13_clause_7 : decode cX13_clause 7 = .ok (.invokevirtual 35, 3) := dk_182 0 35 (dk_at dksX13_clause_0 7 rfl rfl)
theorem dX13_clause_10 : decode cX13_clause 10 = .ok (.aload_n 0, 1) := dk_42 (dk_at dksX13_clause_0 10 rfl rfl)
theorem dX13_clause_11 : decode cX13_clause 11 = .ok (.invokevirtual 39, 3) := dk_182 0 39 (dk_at dksX13_clause_0 11 rfl rfl)
theorem dX13_clause_14 : decode cX13_clause 14 = .ok (.new 43, 3) := dk_187 0 43 (dk_at dksX13_clause_0 14 rfl rfl)
theorem dX13_clause_17 : decode cX13_clause 17 = .ok (.dup, 1) := dk_89 (dk_at dksX13_clause_0 17 rfl rfl)
theorem dX13_clause_18 : decode cX13_clause 18 = .ok (.invokespecial 45, 3) := dk_183 0 45 (dk_at dksX13_clause_0 18 rfl rfl)
theorem dX13_clause_21 : decode cX13_clause 21 = .ok (.astore_n 1, 1) := dk_76 (dk_at dksX13_clause_0 21 rfl rfl)
theorem dX13_clause_22 : decode cX13_clause 22 = .ok (.aload_n 1, 1) := dk_43 (dk_at dksX13_clause_0 22 rfl rfl)
theorem dX13_clause_23 : decode cX13_clause 23 = .ok (.aload_n 0, 1) := dk_42 (dk_at dksX13_clause_0 23 rfl rfl)
theorem dX13_clause_24 : decode cX13_clause 24 = .ok (.iconst 5, 1) := dk_8 (dk_at dksX13_clause_1 0 rfl rfl)
theorem dX13_clause_25 : decode cX13_clause 25 = .ok (.invokevirtual 47, 3) := dk_182 0 47 (dk_at dksX13_clause_1 1 rfl rfl)
theorem dX13_clause_28 : decode cX13_clause 28 = .ok (.putfield 51, 3) := dk_181 0 51 (dk_at dksX13_clause_1 4 rfl rfl)
theorem dX13_clause_31 : decode cX13_clause 31 = .ok (.aload_n 0, 1) := dk_42 (dk_at dksX13_clause_1 7 rfl rfl)
theorem dX13_clause_32 : decode cX13_clause 32 = .ok (.ldc 55, 2) := dk_18 55 (dk_at dksX13_clause_1 8 rfl rfl)
theorem dX13_clause_34 : decode cX13_clause 34 = .ok (.invokevirtual 57, 3) := dk_182 0 57 (dk_at dksX13_clause_1 10 rfl rfl)
theorem dX13_clause_37 : decode cX13_clause 37 = .ok (.aload_n 1, 1) := dk_43 (dk_at dksX13_clause_1 13 rfl rfl)
theorem dX13_clause_38 : decode cX13_clause 38 = .ok (.aload_n 0, 1) := dk_42 (dk_at dksX13_clause_1 14 rfl rfl)
theorem dX13_clause_39 : decode cX13_clause 39 = .ok (.iconst 5, 1) := dk_8 (dk_at dksX13_clause_1 15 rfl rfl)
theorem dX13_clause_40 : decode cX13_clause 40 = .ok (.invokevirtual 47, 3) := dk_182 0 47 (dk_at dksX13_clause_1 16 rfl rfl)
theorem dX13_clause_43 : decode cX13_clause 43 = .ok (.putfield 61, 3) := dk_181 0 61 (dk_at dksX13_clause_1 19 rfl rfl)
theorem dX13_clause_46 : decode cX13_clause 46 = .ok (.aload_n 0, 1) := dk_42 (dk_at dksX13_clause_1 22 rfl rfl)
theorem dX13_clause_47 : decode cX13_clause 47 = .ok (.ldc 64, 2) := dk_18 64 (dk_at dksX13_clause_2 0 rfl rfl)
theorem dX13_clause_49 : decode cX13_clause 49 = .ok (.invokevirtual 22, 3) := dk_182 0 22 (dk_at dksX13_clause_2 2 rfl rfl)
theorem dX13_clause_52 : decode cX13_clause 52 = .ok (.ifCond .ne 34, 3) := dk_154 0 34 (dk_at dksX13_clause_2 5 rfl rfl)
theorem dX13_clause_55 : decode cX13_clause 55 = .ok (.aload_n 0, 1) := dk_42 (dk_at dksX13_clause_2 8 rfl rfl)
theorem dX13_clause_56 : decode cX13_clause 56 = .ok (.ldc 66, 2) := dk_18 66 (dk_at dksX13_clause_2 9 rfl rfl)
theorem dX13_clause_58 : decode cX13_clause 58 = .ok (.invokevirtual 57, 3) := dk_182 0 57 (dk_at dksX13_clause_2 11 rfl rfl)
theorem dX13_clause_61 : decode cX13_clause 61 = .ok (.aload_n 1, 1) := dk_43 (dk_at dksX13_clause_2 14 rfl rfl)
theorem dX13_clause_62 : decode cX13_clause 62 = .ok (.aload_n 0, 1) := dk_42 (dk_at dksX13_clause_2 15 rfl rfl)
theorem dX13_clause_63 : decode cX13_clause 63 = .ok (.invokevirtual 68, 3) := dk_182 0 68 (dk_at dksX13_clause_2 16 rfl rfl)
theorem dX13_clause_66 : decode cX13_clause 66 = .ok (.putfield 72, 3) := dk_181 0 72 (dk_at dksX13_clause_2 19 rfl rfl)
theorem dX13_clause_69 : decode cX13_clause 69 = .ok (.aload_n 0, 1) := dk_42 (dk_at dksX13_clause_2 22 rfl rfl)
theorem dX13_clause_70 : decode cX13_clause 70 = .ok (.ldc 76, 2) := dk_18 76 (dk_at dksX13_clause_3 0 rfl rfl)
theorem dX13_clause_72 : decode cX13_clause 72 = .ok (.invokevirtual 22, 3) := dk_182 0 22 (dk_at dksX13_clause_3 2 rfl rfl)
theorem dX13_clause_75 : decode cX13_clause 75 = .ok (.ifCond .eq 11, 3) := dk_153 0 11 (dk_at dksX13_clause_3 5 rfl rfl)
theorem dX13_clause_78 : decode cX13_clause 78 = .ok (.aload_n 1, 1) := dk_43 (dk_at dksX13_clause_3 8 rfl rfl)
theorem dX13_clause_79 : decode cX13_clause 79 = .ok (.aload_n 0, 1) := dk_42 (dk_at dksX13_clause_3 9 rfl rfl)
theorem dX13_clause_80 : decode cX13_clause 80 = .ok (.invokevirtual 68, 3) := dk_182 0 68 (dk_at dksX13_clause_3 10 rfl rfl)
theorem dX13_clause_83 : decode cX13_clause 83 = .ok (.putfield 78, 3) := dk_181 0 78 (dk_at dksX13_clause_3 13 rfl rfl)
theorem dX13_clause_86 : decode cX13_clause 86 = .ok (.aload_n 0, 1) := dk_42 (dk_at dksX13_clause_3 16 rfl rfl)
theorem dX13_clause_87 : decode cX13_clause 87 = .ok (.ldc 80, 2) := dk_18 80 (dk_at dksX13_clause_3 17 rfl rfl)
theorem dX13_clause_89 : decode cX13_clause 89 = .ok (.invokevirtual 22, 3) := dk_182 0 22 (dk_at dksX13_clause_3 19 rfl rfl)
theorem dX13_clause_92 : decode cX13_clause 92 = .ok (.ifCond .eq 11, 3) := dk_153 0 11 (dk_at dksX13_clause_4 0 rfl rfl)
theorem dX13_clause_95 : decode cX13_clause 95 = .ok (.aload_n 1, 1) := dk_43 (dk_at dksX13_clause_4 3 rfl rfl)
theorem dX13_clause_96 : decode cX13_clause 96 = .ok (.aload_n 0, 1) := dk_42 (dk_at dksX13_clause_4 4 rfl rfl)
theorem dX13_clause_97 : decode cX13_clause 97 = .ok (.invokevirtual 82, 3) := dk_182 0 82 (dk_at dksX13_clause_4 5 rfl rfl)
theorem dX13_clause_100 : decode cX13_clause 100 = .ok (.putfield 86, 3) := dk_181 0 86 (dk_at dksX13_clause_4 8 rfl rfl)
theorem dX13_clause_103 : decode cX13_clause 103 = .ok (.aload_n 0, 1) := dk_42 (dk_at dksX13_clause_4 11 rfl rfl)
theorem dX13_clause_104 : decode cX13_clause 104 = .ok (.getfield 14, 3) := dk_180 0 14 (dk_at dksX13_clause_4 12 rfl rfl)
theorem dX13_clause_107 : decode cX13_clause 107 = .ok (.aload_n 1, 1) := dk_43 (dk_at dksX13_clause_4 15 rfl rfl)
theorem dX13_clause_108 : decode cX13_clause 108 = .ok (.invokevirtual 90, 3) := dk_182 0 90 (dk_at dksX13_clause_4 16 rfl rfl)
theorem dX13_clause_111 : decode cX13_clause 111 = .ok (.pop, 1) := dk_87 (dk_at dksX13_clause_4 19 rfl rfl)
theorem dX13_clause_112 : decode cX13_clause 112 = .ok (.return_, 1) := dk_177 (dk_at dksX13_clause_4 20 rfl rfl)
abbrev cX13_oneOrAny : ByteArray := prog_16_method_2_code
def yX13_oneOrAny : MethodName := ⟨RX13, "oneOrAny", "(I)I"⟩
def dkwX13_oneOrAny_0 : List UInt8 := [42, 18, 20, 182, 0, 22, 153, 0, 7, 2, 167, 0, 9, 42, 3, 27, 182, 0, 26, 172]
abbrev dktX13_oneOrAny_0 : List UInt8 := dkwX13_oneOrAny_0 ++ []
theorem dksX13_oneOrAny_0 : cX13_oneOrAny.data.toList.drop 0 = dktX13_oneOrAny_0 := by decide +kernel
theorem dX13_oneOrAny_0 : decode cX13_oneOrAny 0 = .ok (.aload_n 0, 1) := dk_42 (dk_at dksX13_oneOrAny_0 0 rfl rfl)
theorem dX13_oneOrAny_1 : decode cX13_oneOrAny 1 = .ok (.ldc 20, 2) := dk_18 20 (dk_at dksX13_oneOrAny_0 1 rfl rfl)
theorem dX13_oneOrAny_3 : decode cX13_oneOrAny 3 = .ok (.invokevirtual 22, 3) := dk_182 0 22 (dk_at dksX13_oneOrAny_0 3 rfl rfl)
theorem dX13_oneOrAny_6 : decode cX13_oneOrAny 6 = .ok (.ifCond .eq 7, 3) := dk_153 0 7 (dk_at dksX13_oneOrAny_0 6 rfl rfl)
theorem dX13_oneOrAny_9 : decode cX13_oneOrAny 9 = .ok (.iconst (-1), 1) := dk_2 (dk_at dksX13_oneOrAny_0 9 rfl rfl)
theorem dX13_oneOrAny_10 : decode cX13_oneOrAny 10 = .ok (.goto 9, 3) := dk_167 0 9 (dk_at dksX13_oneOrAny_0 10 rfl rfl)
theorem dX13_oneOrAny_13 : decode cX13_oneOrAny 13 = .ok (.aload_n 0, 1) := dk_42 (dk_at dksX13_oneOrAny_0 13 rfl rfl)
theorem dX13_oneOrAny_14 : decode cX13_oneOrAny 14 = .ok (.iconst 0, 1) := dk_3 (dk_at dksX13_oneOrAny_0 14 rfl rfl)
theorem dX13_oneOrAny_15 : decode cX13_oneOrAny 15 = .ok (.iload_n 1, 1) := dk_27 (dk_at dksX13_oneOrAny_0 15 rfl rfl)
theorem dX13_oneOrAny_16 : decode cX13_oneOrAny 16 = .ok (.invokevirtual 26, 3) := dk_182 0 26 (dk_at dksX13_oneOrAny_0 16 rfl rfl)
theorem dX13_oneOrAny_19 : decode cX13_oneOrAny 19 = .ok (.ireturn, 1) := dk_172 (dk_at dksX13_oneOrAny_0 19 rfl rfl)
theorem q136 : (Jvm.Cond.initialized "DeadUnderstudies$PlayReader") ∈ lw_all := lw_g (lw_at lw_m1 25 rfl) rfl
theorem q656 : (Jvm.Cond.selects "DeadUnderstudies$PlayReader" ({ cls := "java/lang/Object", name := "getClass", desc := "()Ljava/lang/Class;" } : Jvm.MethodName) ({ cls := "java/lang/Object", name := "getClass", desc := "()Ljava/lang/Class;" } : Jvm.MethodName)) ∈ lw_all := lw_g (lw_at lw_m3 65 rfl) rfl
theorem q864 : (Jvm.Cond.instantiable "DeadUnderstudies$PlayReader" (8 : Nat)) ∈ lw_all := lw_g (lw_at lw_m4 33 rfl) rfl
theorem q866 : (Jvm.Cond.instanceMethod ({ cls := "DeadUnderstudies$PlayReader", name := "<init>", desc := "([BI)V" } : Jvm.MethodName)) ∈ lw_all := lw_g (lw_at lw_m4 35 rfl) rfl
theorem q867 : (Jvm.Cond.code ({ cls := "DeadUnderstudies$PlayReader", name := "<init>", desc := "([BI)V" } : Jvm.MethodName) prog_16_method_1_code (3 : Nat) (Option.none : Option Jvm.ClassFile.FieldType)) ∈ lw_all := lw_g (lw_at lw_m4 36 rfl) rfl
theorem q868 : (Jvm.Cond.methodLink "DeadUnderstudies$PlayReader" (3 : Nat) ({ cls := "DeadUnderstudies$Reader", name := "<init>", desc := "([BI)V" } : Jvm.MethodName)) ∈ lw_all := lw_g (lw_at lw_m4 37 rfl) rfl
theorem q872 : (Jvm.Cond.classLink "DeadUnderstudies$PlayReader" (9 : Nat) "java/util/ArrayList") ∈ lw_all := lw_g (lw_at lw_m4 41 rfl) rfl
theorem q873 : (Jvm.Cond.methodLink "DeadUnderstudies$PlayReader" (11 : Nat) ({ cls := "java/util/ArrayList", name := "<init>", desc := "(I)V" } : Jvm.MethodName)) ∈ lw_all := lw_g (lw_at lw_m4 42 rfl) rfl
theorem q874 : (Jvm.Cond.fieldLink "DeadUnderstudies$PlayReader" (14 : Nat) "DeadUnderstudies$PlayReader" "lines" "Ljava/util/ArrayList;") ∈ lw_all := lw_g (lw_at lw_m4 43 rfl) rfl
theorem q883 : (Jvm.Cond.laysFinal "DeadUnderstudies$PlayReader" "DeadUnderstudies$PlayReader" "lines" "Ljava/util/ArrayList;") ∈ lw_all := lw_g (lw_at lw_m4 52 rfl) rfl
theorem q884 : (Jvm.Cond.soleField "DeadUnderstudies$PlayReader" "lines") ∈ lw_all := lw_g (lw_at lw_m4 53 rfl) rfl
theorem q885 : (Jvm.Cond.laysFinal "DeadUnderstudies$PlayReader" "DeadUnderstudies$Reader" "tape" "[B") ∈ lw_all := lw_g (lw_at lw_m4 54 rfl) rfl
theorem q887 : (Jvm.Cond.laysFinal "DeadUnderstudies$PlayReader" "DeadUnderstudies$Reader" "size" "I") ∈ lw_all := lw_g (lw_at lw_m4 56 rfl) rfl
theorem q889 : (Jvm.Cond.lays "DeadUnderstudies$PlayReader" "DeadUnderstudies$Reader" "made" "I") ∈ lw_all := lw_g (lw_at lw_m4 58 rfl) rfl
theorem q891 : (Jvm.Cond.lays "DeadUnderstudies$PlayReader" "DeadUnderstudies$Reader" "from" "I") ∈ lw_all := lw_g (lw_at lw_m4 60 rfl) rfl
theorem q893 : (Jvm.Cond.lays "DeadUnderstudies$PlayReader" "DeadUnderstudies$Reader" "to" "I") ∈ lw_all := lw_g (lw_at lw_m4 62 rfl) rfl
theorem q895 : (Jvm.Cond.lays "DeadUnderstudies$PlayReader" "DeadUnderstudies$Reader" "leaves" "I") ∈ lw_all := lw_g (lw_at lw_m4 64 rfl) rfl
theorem q897 : (Jvm.Cond.lays "DeadUnderstudies$PlayReader" "DeadUnderstudies$Reader" "deep" "I") ∈ lw_all := lw_g (lw_at lw_m4 66 rfl) rfl
theorem q899 : (Jvm.Cond.superclass "DeadUnderstudies$PlayReader" "DeadUnderstudies$Reader") ∈ lw_all := lw_g (lw_at lw_m4 68 rfl) rfl
theorem q909 : (Jvm.Cond.selects "DeadUnderstudies$PlayReader" ({ cls := "DeadUnderstudies$Reader", name := "read", desc := "()V" } : Jvm.MethodName) ({ cls := "DeadUnderstudies$Reader", name := "read", desc := "()V" } : Jvm.MethodName)) ∈ lw_all := lw_g (lw_at lw_m4 78 rfl) rfl
theorem q915 : (Jvm.Cond.selects "DeadUnderstudies$PlayReader" ({ cls := "DeadUnderstudies$Reader", name := "next", desc := "()V" } : Jvm.MethodName) ({ cls := "DeadUnderstudies$Reader", name := "next", desc := "()V" } : Jvm.MethodName)) ∈ lw_all := lw_g (lw_at lw_m4 84 rfl) rfl
theorem q921 : (Jvm.Cond.selects "DeadUnderstudies$PlayReader" ({ cls := "DeadUnderstudies$Reader", name := "isIn", desc := "(III)Z" } : Jvm.MethodName) ({ cls := "DeadUnderstudies$Reader", name := "isIn", desc := "(III)Z" } : Jvm.MethodName)) ∈ lw_all := lw_g (lw_at lw_m4 90 rfl) rfl
theorem q1042 : (Jvm.Cond.selects "DeadUnderstudies$PlayReader" ({ cls := "DeadUnderstudies$Reader", name := "term", desc := "()LDeadUnderstudies$Sum;" } : Jvm.MethodName) ({ cls := "DeadUnderstudies$Reader", name := "term", desc := "()LDeadUnderstudies$Sum;" } : Jvm.MethodName)) ∈ lw_all := lw_g (lw_at lw_m4 211 rfl) rfl
theorem q1048 : (Jvm.Cond.selects "DeadUnderstudies$PlayReader" ({ cls := "DeadUnderstudies$Reader", name := "part", desc := "()LDeadUnderstudies$Sum;" } : Jvm.MethodName) ({ cls := "DeadUnderstudies$Reader", name := "part", desc := "()LDeadUnderstudies$Sum;" } : Jvm.MethodName)) ∈ lw_all := lw_g (lw_at lw_m4 217 rfl) rfl
theorem q1056 : (Jvm.Cond.selects "DeadUnderstudies$PlayReader" ({ cls := "DeadUnderstudies$Reader", name := "opens", desc := "()V" } : Jvm.MethodName) ({ cls := "DeadUnderstudies$Reader", name := "opens", desc := "()V" } : Jvm.MethodName)) ∈ lw_all := lw_g (lw_at lw_m4 225 rfl) rfl
theorem q1064 : (Jvm.Cond.selects "DeadUnderstudies$PlayReader" ({ cls := "DeadUnderstudies$Reader", name := "need", desc := "(Ljava/lang/String;)V" } : Jvm.MethodName) ({ cls := "DeadUnderstudies$Reader", name := "need", desc := "(Ljava/lang/String;)V" } : Jvm.MethodName)) ∈ lw_all := lw_g (lw_at lw_m4 233 rfl) rfl
theorem q1070 : (Jvm.Cond.selects "DeadUnderstudies$PlayReader" ({ cls := "DeadUnderstudies$Reader", name := "takes", desc := "(Ljava/lang/String;)Z" } : Jvm.MethodName) ({ cls := "DeadUnderstudies$Reader", name := "takes", desc := "(Ljava/lang/String;)Z" } : Jvm.MethodName)) ∈ lw_all := lw_g (lw_at lw_m4 239 rfl) rfl
theorem q1076 : (Jvm.Cond.selects "DeadUnderstudies$PlayReader" ({ cls := "DeadUnderstudies$Reader", name := "leaf", desc := "()V" } : Jvm.MethodName) ({ cls := "DeadUnderstudies$Reader", name := "leaf", desc := "()V" } : Jvm.MethodName)) ∈ lw_all := lw_g (lw_at lw_m5 5 rfl) rfl
theorem q1084 : (Jvm.Cond.selects "DeadUnderstudies$PlayReader" ({ cls := "DeadUnderstudies$Reader", name := "number", desc := "(II)I" } : Jvm.MethodName) ({ cls := "DeadUnderstudies$Reader", name := "number", desc := "(II)I" } : Jvm.MethodName)) ∈ lw_all := lw_g (lw_at lw_m5 13 rfl) rfl
theorem q1111 : (Jvm.Cond.selects "DeadUnderstudies$PlayReader" ({ cls := "DeadUnderstudies$Reader", name := "value", desc := "()I" } : Jvm.MethodName) ({ cls := "DeadUnderstudies$PlayReader", name := "value", desc := "()I" } : Jvm.MethodName)) ∈ lw_all := lw_g (lw_at lw_m5 40 rfl) rfl
theorem q1112 : (Jvm.Cond.instanceMethod ({ cls := "DeadUnderstudies$PlayReader", name := "value", desc := "()I" } : Jvm.MethodName)) ∈ lw_all := lw_g (lw_at lw_m5 41 rfl) rfl
theorem q1113 : (Jvm.Cond.code ({ cls := "DeadUnderstudies$PlayReader", name := "value", desc := "()I" } : Jvm.MethodName) prog_16_method_4_code (1 : Nat) (Option.some Jvm.ClassFile.FieldType.int)) ∈ lw_all := lw_g (lw_at lw_m5 42 rfl) rfl
theorem q1114 : (Jvm.Cond.stringRef "DeadUnderstudies$PlayReader" (94 : Nat) "state") ∈ lw_tbl := lw_at lw_m5 43 rfl
theorem q1115 : (Jvm.Cond.methodLink "DeadUnderstudies$PlayReader" (32 : Nat) ({ cls := "DeadUnderstudies$PlayReader", name := "is", desc := "(Ljava/lang/String;)Z" } : Jvm.MethodName)) ∈ lw_all := lw_g (lw_at lw_m5 44 rfl) rfl
theorem q1116 : (Jvm.Cond.sameMethod "DeadUnderstudies$PlayReader" "DeadUnderstudies$Reader" "is" "(Ljava/lang/String;)Z") ∈ lw_all := lw_g (lw_at lw_m5 45 rfl) rfl
theorem q1117 : (Jvm.Cond.selects "DeadUnderstudies$PlayReader" ({ cls := "DeadUnderstudies$PlayReader", name := "is", desc := "(Ljava/lang/String;)Z" } : Jvm.MethodName) ({ cls := "DeadUnderstudies$Reader", name := "is", desc := "(Ljava/lang/String;)Z" } : Jvm.MethodName)) ∈ lw_all := lw_g (lw_at lw_m5 46 rfl) rfl
theorem q1118 : (Jvm.Cond.stringRef "DeadUnderstudies$PlayReader" (95 : Nat) "cue") ∈ lw_tbl := lw_at lw_m5 47 rfl
theorem q1119 : (Jvm.Cond.stringRef "DeadUnderstudies$PlayReader" (96 : Nat) "word") ∈ lw_tbl := lw_at lw_m5 48 rfl
theorem q1120 : (Jvm.Cond.stringRef "DeadUnderstudies$PlayReader" (97 : Nat) "next") ∈ lw_tbl := lw_at lw_m5 49 rfl
theorem q1121 : (Jvm.Cond.stringRef "DeadUnderstudies$PlayReader" (98 : Nat) "part") ∈ lw_tbl := lw_at lw_m5 50 rfl
theorem q1122 : (Jvm.Cond.stringRef "DeadUnderstudies$PlayReader" (100 : Nat) "mood") ∈ lw_tbl := lw_at lw_m5 51 rfl
theorem q1169 : (Jvm.Cond.selects "DeadUnderstudies$PlayReader" ({ cls := "DeadUnderstudies$Reader", name := "both", desc := "()LDeadUnderstudies$Test;" } : Jvm.MethodName) ({ cls := "DeadUnderstudies$Reader", name := "both", desc := "()LDeadUnderstudies$Test;" } : Jvm.MethodName)) ∈ lw_all := lw_g (lw_at lw_m5 98 rfl) rfl
theorem q1175 : (Jvm.Cond.selects "DeadUnderstudies$PlayReader" ({ cls := "DeadUnderstudies$Reader", name := "plain", desc := "()LDeadUnderstudies$Test;" } : Jvm.MethodName) ({ cls := "DeadUnderstudies$Reader", name := "plain", desc := "()LDeadUnderstudies$Test;" } : Jvm.MethodName)) ∈ lw_all := lw_g (lw_at lw_m5 104 rfl) rfl
theorem q1182 : (Jvm.Cond.selects "DeadUnderstudies$PlayReader" ({ cls := "DeadUnderstudies$Reader", name := "positive", desc := "()LDeadUnderstudies$Test;" } : Jvm.MethodName) ({ cls := "DeadUnderstudies$Reader", name := "positive", desc := "()LDeadUnderstudies$Test;" } : Jvm.MethodName)) ∈ lw_all := lw_g (lw_at lw_m5 111 rfl) rfl
theorem q1239 : (Jvm.Cond.selects "DeadUnderstudies$PlayReader" ({ cls := "DeadUnderstudies$Reader", name := "clause", desc := "()V" } : Jvm.MethodName) ({ cls := "DeadUnderstudies$PlayReader", name := "clause", desc := "()V" } : Jvm.MethodName)) ∈ lw_all := lw_g (lw_at lw_m5 168 rfl) rfl
theorem q1240 : (Jvm.Cond.instanceMethod ({ cls := "DeadUnderstudies$PlayReader", name := "clause", desc := "()V" } : Jvm.MethodName)) ∈ lw_all := lw_g (lw_at lw_m5 169 rfl) rfl
theorem q1241 : (Jvm.Cond.code ({ cls := "DeadUnderstudies$PlayReader", name := "clause", desc := "()V" } : Jvm.MethodName) prog_16_method_3_code (2 : Nat) (Option.none : Option Jvm.ClassFile.FieldType)) ∈ lw_all := lw_g (lw_at lw_m5 170 rfl) rfl
theorem q1242 : (Jvm.Cond.stringRef "DeadUnderstudies$PlayReader" (30 : Nat) "in") ∈ lw_tbl := lw_at lw_m5 171 rfl
theorem q1243 : (Jvm.Cond.methodLink "DeadUnderstudies$PlayReader" (35 : Nat) ({ cls := "DeadUnderstudies$PlayReader", name := "begins", desc := "(Z)V" } : Jvm.MethodName)) ∈ lw_all := lw_g (lw_at lw_m5 172 rfl) rfl
theorem q1244 : (Jvm.Cond.sameMethod "DeadUnderstudies$PlayReader" "DeadUnderstudies$Reader" "begins" "(Z)V") ∈ lw_all := lw_g (lw_at lw_m5 173 rfl) rfl
theorem q1245 : (Jvm.Cond.selects "DeadUnderstudies$PlayReader" ({ cls := "DeadUnderstudies$PlayReader", name := "begins", desc := "(Z)V" } : Jvm.MethodName) ({ cls := "DeadUnderstudies$Reader", name := "begins", desc := "(Z)V" } : Jvm.MethodName)) ∈ lw_all := lw_g (lw_at lw_m5 174 rfl) rfl
theorem q1246 : (Jvm.Cond.methodLink "DeadUnderstudies$PlayReader" (39 : Nat) ({ cls := "DeadUnderstudies$PlayReader", name := "next", desc := "()V" } : Jvm.MethodName)) ∈ lw_all := lw_g (lw_at lw_m5 175 rfl) rfl
theorem q1247 : (Jvm.Cond.sameMethod "DeadUnderstudies$PlayReader" "DeadUnderstudies$Reader" "next" "()V") ∈ lw_all := lw_g (lw_at lw_m5 176 rfl) rfl
theorem q1248 : (Jvm.Cond.selects "DeadUnderstudies$PlayReader" ({ cls := "DeadUnderstudies$PlayReader", name := "next", desc := "()V" } : Jvm.MethodName) ({ cls := "DeadUnderstudies$Reader", name := "next", desc := "()V" } : Jvm.MethodName)) ∈ lw_all := lw_g (lw_at lw_m5 177 rfl) rfl
theorem q1249 : (Jvm.Cond.classLink "DeadUnderstudies$PlayReader" (43 : Nat) "DeadUnderstudies$Line") ∈ lw_all := lw_g (lw_at lw_m5 178 rfl) rfl
theorem q1251 : (Jvm.Cond.methodLinkNest "DeadUnderstudies$PlayReader" (45 : Nat) ({ cls := "DeadUnderstudies$Line", name := "<init>", desc := "()V" } : Jvm.MethodName) "DeadUnderstudies") ∈ lw_tbl := lw_at lw_m5 180 rfl
theorem q1256 : (Jvm.Cond.fieldLinkNest "DeadUnderstudies$PlayReader" (51 : Nat) "DeadUnderstudies$Line" "state" "I" "DeadUnderstudies") ∈ lw_tbl := lw_at lw_m5 185 rfl
theorem q1258 : (Jvm.Cond.fieldLinkNest "DeadUnderstudies$PlayReader" (61 : Nat) "DeadUnderstudies$Line" "cue" "I" "DeadUnderstudies") ∈ lw_tbl := lw_at lw_m5 187 rfl
theorem q1260 : (Jvm.Cond.fieldLinkNest "DeadUnderstudies$PlayReader" (72 : Nat) "DeadUnderstudies$Line" "word" "LDeadUnderstudies$Sum;" "DeadUnderstudies") ∈ lw_tbl := lw_at lw_m5 189 rfl
theorem q1262 : (Jvm.Cond.fieldLinkNest "DeadUnderstudies$PlayReader" (78 : Nat) "DeadUnderstudies$Line" "go" "LDeadUnderstudies$Sum;" "DeadUnderstudies") ∈ lw_tbl := lw_at lw_m5 191 rfl
theorem q1264 : (Jvm.Cond.fieldLinkNest "DeadUnderstudies$PlayReader" (86 : Nat) "DeadUnderstudies$Line" "when" "LDeadUnderstudies$Test;" "DeadUnderstudies") ∈ lw_tbl := lw_at lw_m5 193 rfl
theorem q1276 : (Jvm.Cond.methodLink "DeadUnderstudies$PlayReader" (47 : Nat) ({ cls := "DeadUnderstudies$PlayReader", name := "oneOrAny", desc := "(I)I" } : Jvm.MethodName)) ∈ lw_all := lw_g (lw_at lw_m5 205 rfl) rfl
theorem q1277 : (Jvm.Cond.privateMethod ({ cls := "DeadUnderstudies$PlayReader", name := "oneOrAny", desc := "(I)I" } : Jvm.MethodName)) ∈ lw_tbl := lw_at lw_m5 206 rfl
theorem q1278 : (Jvm.Cond.instanceMethod ({ cls := "DeadUnderstudies$PlayReader", name := "oneOrAny", desc := "(I)I" } : Jvm.MethodName)) ∈ lw_all := lw_g (lw_at lw_m5 207 rfl) rfl
theorem q1279 : (Jvm.Cond.code ({ cls := "DeadUnderstudies$PlayReader", name := "oneOrAny", desc := "(I)I" } : Jvm.MethodName) prog_16_method_2_code (2 : Nat) (Option.some Jvm.ClassFile.FieldType.int)) ∈ lw_all := lw_g (lw_at lw_m5 208 rfl) rfl
theorem q1280 : (Jvm.Cond.stringRef "DeadUnderstudies$PlayReader" (20 : Nat) "any") ∈ lw_tbl := lw_at lw_m5 209 rfl
theorem q1281 : (Jvm.Cond.methodLink "DeadUnderstudies$PlayReader" (22 : Nat) ({ cls := "DeadUnderstudies$PlayReader", name := "takes", desc := "(Ljava/lang/String;)Z" } : Jvm.MethodName)) ∈ lw_all := lw_g (lw_at lw_m5 210 rfl) rfl
theorem q1282 : (Jvm.Cond.sameMethod "DeadUnderstudies$PlayReader" "DeadUnderstudies$Reader" "takes" "(Ljava/lang/String;)Z") ∈ lw_all := lw_g (lw_at lw_m5 211 rfl) rfl
theorem q1283 : (Jvm.Cond.selects "DeadUnderstudies$PlayReader" ({ cls := "DeadUnderstudies$PlayReader", name := "takes", desc := "(Ljava/lang/String;)Z" } : Jvm.MethodName) ({ cls := "DeadUnderstudies$Reader", name := "takes", desc := "(Ljava/lang/String;)Z" } : Jvm.MethodName)) ∈ lw_all := lw_g (lw_at lw_m5 212 rfl) rfl
theorem q1284 : (Jvm.Cond.methodLink "DeadUnderstudies$PlayReader" (26 : Nat) ({ cls := "DeadUnderstudies$PlayReader", name := "number", desc := "(II)I" } : Jvm.MethodName)) ∈ lw_all := lw_g (lw_at lw_m5 213 rfl) rfl
theorem q1285 : (Jvm.Cond.sameMethod "DeadUnderstudies$PlayReader" "DeadUnderstudies$Reader" "number" "(II)I") ∈ lw_all := lw_g (lw_at lw_m5 214 rfl) rfl
theorem q1287 : (Jvm.Cond.selects "DeadUnderstudies$PlayReader" ({ cls := "DeadUnderstudies$PlayReader", name := "number", desc := "(II)I" } : Jvm.MethodName) ({ cls := "DeadUnderstudies$Reader", name := "number", desc := "(II)I" } : Jvm.MethodName)) ∈ lw_all := lw_g (lw_at lw_m5 216 rfl) rfl
theorem q1288 : (Jvm.Cond.stringRef "DeadUnderstudies$PlayReader" (55 : Nat) "at") ∈ lw_tbl := lw_at lw_m5 217 rfl
theorem q1289 : (Jvm.Cond.methodLink "DeadUnderstudies$PlayReader" (57 : Nat) ({ cls := "DeadUnderstudies$PlayReader", name := "need", desc := "(Ljava/lang/String;)V" } : Jvm.MethodName)) ∈ lw_all := lw_g (lw_at lw_m5 218 rfl) rfl
theorem q1290 : (Jvm.Cond.sameMethod "DeadUnderstudies$PlayReader" "DeadUnderstudies$Reader" "need" "(Ljava/lang/String;)V") ∈ lw_all := lw_g (lw_at lw_m5 219 rfl) rfl
theorem q1292 : (Jvm.Cond.selects "DeadUnderstudies$PlayReader" ({ cls := "DeadUnderstudies$PlayReader", name := "need", desc := "(Ljava/lang/String;)V" } : Jvm.MethodName) ({ cls := "DeadUnderstudies$Reader", name := "need", desc := "(Ljava/lang/String;)V" } : Jvm.MethodName)) ∈ lw_all := lw_g (lw_at lw_m5 221 rfl) rfl
theorem q1293 : (Jvm.Cond.stringRef "DeadUnderstudies$PlayReader" (64 : Nat) "hush") ∈ lw_tbl := lw_at lw_m5 222 rfl
theorem q1294 : (Jvm.Cond.stringRef "DeadUnderstudies$PlayReader" (66 : Nat) "say") ∈ lw_tbl := lw_at lw_m5 223 rfl
theorem q1295 : (Jvm.Cond.methodLink "DeadUnderstudies$PlayReader" (68 : Nat) ({ cls := "DeadUnderstudies$PlayReader", name := "sum", desc := "()LDeadUnderstudies$Sum;" } : Jvm.MethodName)) ∈ lw_all := lw_g (lw_at lw_m5 224 rfl) rfl
theorem q1296 : (Jvm.Cond.sameMethod "DeadUnderstudies$PlayReader" "DeadUnderstudies$Reader" "sum" "()LDeadUnderstudies$Sum;") ∈ lw_all := lw_g (lw_at lw_m5 225 rfl) rfl
theorem q1297 : (Jvm.Cond.selects "DeadUnderstudies$PlayReader" ({ cls := "DeadUnderstudies$PlayReader", name := "sum", desc := "()LDeadUnderstudies$Sum;" } : Jvm.MethodName) ({ cls := "DeadUnderstudies$Reader", name := "sum", desc := "()LDeadUnderstudies$Sum;" } : Jvm.MethodName)) ∈ lw_all := lw_g (lw_at lw_m5 226 rfl) rfl
theorem q1298 : (Jvm.Cond.stringRef "DeadUnderstudies$PlayReader" (76 : Nat) "go") ∈ lw_tbl := lw_at lw_m5 227 rfl
theorem q1299 : (Jvm.Cond.stringRef "DeadUnderstudies$PlayReader" (80 : Nat) "if") ∈ lw_tbl := lw_at lw_m5 228 rfl
theorem q1300 : (Jvm.Cond.methodLink "DeadUnderstudies$PlayReader" (82 : Nat) ({ cls := "DeadUnderstudies$PlayReader", name := "test", desc := "()LDeadUnderstudies$Test;" } : Jvm.MethodName)) ∈ lw_all := lw_g (lw_at lw_m5 229 rfl) rfl
theorem q1301 : (Jvm.Cond.sameMethod "DeadUnderstudies$PlayReader" "DeadUnderstudies$Reader" "test" "()LDeadUnderstudies$Test;") ∈ lw_all := lw_g (lw_at lw_m5 230 rfl) rfl
theorem q1302 : (Jvm.Cond.selects "DeadUnderstudies$PlayReader" ({ cls := "DeadUnderstudies$PlayReader", name := "test", desc := "()LDeadUnderstudies$Test;" } : Jvm.MethodName) ({ cls := "DeadUnderstudies$Reader", name := "test", desc := "()LDeadUnderstudies$Test;" } : Jvm.MethodName)) ∈ lw_all := lw_g (lw_at lw_m5 231 rfl) rfl
theorem q1303 : (Jvm.Cond.methodLink "DeadUnderstudies$PlayReader" (90 : Nat) ({ cls := "java/util/ArrayList", name := "add", desc := "(Ljava/lang/Object;)Z" } : Jvm.MethodName)) ∈ lw_all := lw_g (lw_at lw_m5 232 rfl) rfl
theorem q2588 : (Jvm.Cond.selects "DeadUnderstudies$PlayReader" ({ cls := "DeadUnderstudies$Reader", name := "is", desc := "(Ljava/lang/String;)Z" } : Jvm.MethodName) ({ cls := "DeadUnderstudies$Reader", name := "is", desc := "(Ljava/lang/String;)Z" } : Jvm.MethodName)) ∈ lw_all := lw_g (lw_at lw_m11 77 rfl) rfl
theorem q2591 : (Jvm.Cond.selects "DeadUnderstudies$PlayReader" ({ cls := "DeadUnderstudies$Reader", name := "sum", desc := "()LDeadUnderstudies$Sum;" } : Jvm.MethodName) ({ cls := "DeadUnderstudies$Reader", name := "sum", desc := "()LDeadUnderstudies$Sum;" } : Jvm.MethodName)) ∈ lw_all := lw_g (lw_at lw_m11 80 rfl) rfl
theorem q2594 : (Jvm.Cond.selects "DeadUnderstudies$PlayReader" ({ cls := "DeadUnderstudies$Reader", name := "test", desc := "()LDeadUnderstudies$Test;" } : Jvm.MethodName) ({ cls := "DeadUnderstudies$Reader", name := "test", desc := "()LDeadUnderstudies$Test;" } : Jvm.MethodName)) ∈ lw_all := lw_g (lw_at lw_m11 83 rfl) rfl
theorem q2612 : (Jvm.Cond.castable "DeadUnderstudies$PlayReader" "java/lang/Object") ∈ lw_tbl := lw_at lw_m11 101 rfl
theorem in_X13 : ∀ w ∈ wsX130, w ∈ lw_all := lw_in wsX130 [885, 887, 889, 891, 893, 895, 897, 883] (by decide +kernel) (by decide +kernel)
/-! DeadUnderstudies$Fault -/
def RX14 : String := "DeadUnderstudies$Fault"
def TX14 : u_T := fun k => match k with
  | 0 => ("java/lang/Throwable", "cause", "Ljava/lang/Throwable;", false)
  | 1 => ("java/lang/Throwable", "stackTrace", "[Ljava/lang/StackTraceElement;", false)
  | 2 => ("java/lang/Throwable", "suppressedExceptions", "Ljava/util/List;", false)
  | 3 => ("java/lang/Throwable", "detailMessage", "Ljava/lang/String;", false)
  | 4 => ("java/lang/Throwable", "backtrace", "Ljava/lang/Object;", false)
  | 5 => ("java/lang/Throwable", "depth", "I", false)
  | _ => ("DeadUnderstudies$Fault", "place", "I", true)
def tyX14 : Nat → FieldType := fun k => match k with
  | 0 => .object "java/lang/Throwable"
  | 1 => .array (.object "java/lang/StackTraceElement")
  | 2 => .object "java/util/List"
  | 3 => .object "java/lang/String"
  | 4 => .object "java/lang/Object"
  | 5 => .int
  | _ => .int
abbrev wsX140 : List Cond := u_ws RX14 TX14 7
theorem nmX14 : ∀ a, a < 7 → ∀ b, b < 7 → a ≠ b → (TX14 a).2.1 ≠ (TX14 b).2.1 := by decide +kernel
theorem tyX14_ok : ∀ k, k < 7 → parseFieldDescriptor (TX14 k).2.2.1 = some (tyX14 k) := by decide +kernel
abbrev cX14_init : ByteArray := prog_8_method_1_code
def yX14_init : MethodName := ⟨RX14, "<init>", "(I)V"⟩
def dkwX14_init_0 : List UInt8 := [42, 1, 1, 3, 3, 183, 0, 1, 42, 27, 181, 0, 7, 177]
abbrev dktX14_init_0 : List UInt8 := dkwX14_init_0 ++ []
theorem dksX14_init_0 : cX14_init.data.toList.drop 0 = dktX14_init_0 := by decide +kernel
theorem dX14_init_0 : decode cX14_init 0 = .ok (.aload_n 0, 1) := dk_42 (dk_at dksX14_init_0 0 rfl rfl)
theorem dX14_init_1 : decode cX14_init 1 = .ok (.aconst_null, 1) := dk_1 (dk_at dksX14_init_0 1 rfl rfl)
theorem dX14_init_2 : decode cX14_init 2 = .ok (.aconst_null, 1) := dk_1 (dk_at dksX14_init_0 2 rfl rfl)
theorem dX14_init_3 : decode cX14_init 3 = .ok (.iconst 0, 1) := dk_3 (dk_at dksX14_init_0 3 rfl rfl)
theorem dX14_init_4 : decode cX14_init 4 = .ok (.iconst 0, 1) := dk_3 (dk_at dksX14_init_0 4 rfl rfl)
theorem dX14_init_5 : decode cX14_init 5 = .ok (.invokespecial 1, 3) := dk_183 0 1 (dk_at dksX14_init_0 5 rfl rfl)
theorem dX14_init_8 : decode cX14_init 8 = .ok (.aload_n 0, 1) := dk_42 (dk_at dksX14_init_0 8 rfl rfl)
theorem dX14_init_9 : decode cX14_init 9 = .ok (.iload_n 1, 1) := dk_27 (dk_at dksX14_init_0 9 rfl rfl)
theorem dX14_init_10 : decode cX14_init 10 = .ok (.putfield 7, 3) := dk_181 0 7 (dk_at dksX14_init_0 10 rfl rfl)
theorem dX14_init_13 : decode cX14_init 13 = .ok (.return_, 1) := dk_177 (dk_at dksX14_init_0 13 rfl rfl)
theorem q140 : (Jvm.Cond.initialized "DeadUnderstudies$Fault") ∈ lw_all := lw_g (lw_at lw_m1 29 rfl) rfl
theorem q311 : (Jvm.Cond.selects "DeadUnderstudies$Fault" ({ cls := "java/lang/Throwable", name := "fillInStackTrace", desc := "()Ljava/lang/Throwable;" } : Jvm.MethodName) ({ cls := "java/lang/Throwable", name := "fillInStackTrace", desc := "()Ljava/lang/Throwable;" } : Jvm.MethodName)) ∈ lw_all := lw_g (lw_at lw_m1 200 rfl) rfl
theorem q648 : (Jvm.Cond.selects "DeadUnderstudies$Fault" ({ cls := "java/lang/Object", name := "getClass", desc := "()Ljava/lang/Class;" } : Jvm.MethodName) ({ cls := "java/lang/Object", name := "getClass", desc := "()Ljava/lang/Class;" } : Jvm.MethodName)) ∈ lw_all := lw_g (lw_at lw_m3 57 rfl) rfl
theorem q991 : (Jvm.Cond.instantiable "DeadUnderstudies$Fault" (7 : Nat)) ∈ lw_all := lw_g (lw_at lw_m4 160 rfl) rfl
theorem q992 : (Jvm.Cond.castable "DeadUnderstudies$Fault" "DeadUnderstudies$Fault") ∈ lw_tbl := lw_at lw_m4 161 rfl
theorem q993 : (Jvm.Cond.selects "DeadUnderstudies$Fault" ({ cls := "java/lang/Throwable", name := "fillInStackTrace", desc := "(I)Ljava/lang/Throwable;" } : Jvm.MethodName) ({ cls := "java/lang/Throwable", name := "fillInStackTrace", desc := "(I)Ljava/lang/Throwable;" } : Jvm.MethodName)) ∈ lw_all := lw_g (lw_at lw_m4 162 rfl) rfl
theorem q994 : (Jvm.Cond.lays "DeadUnderstudies$Fault" "java/lang/Throwable" "cause" "Ljava/lang/Throwable;") ∈ lw_all := lw_g (lw_at lw_m4 163 rfl) rfl
theorem q995 : (Jvm.Cond.lays "DeadUnderstudies$Fault" "java/lang/Throwable" "stackTrace" "[Ljava/lang/StackTraceElement;") ∈ lw_all := lw_g (lw_at lw_m4 164 rfl) rfl
theorem q996 : (Jvm.Cond.lays "DeadUnderstudies$Fault" "java/lang/Throwable" "suppressedExceptions" "Ljava/util/List;") ∈ lw_all := lw_g (lw_at lw_m4 165 rfl) rfl
theorem q997 : (Jvm.Cond.lays "DeadUnderstudies$Fault" "java/lang/Throwable" "detailMessage" "Ljava/lang/String;") ∈ lw_all := lw_g (lw_at lw_m4 166 rfl) rfl
theorem q998 : (Jvm.Cond.lays "DeadUnderstudies$Fault" "java/lang/Throwable" "backtrace" "Ljava/lang/Object;") ∈ lw_all := lw_g (lw_at lw_m4 167 rfl) rfl
theorem q1000 : (Jvm.Cond.instanceMethod ({ cls := "DeadUnderstudies$Fault", name := "<init>", desc := "(I)V" } : Jvm.MethodName)) ∈ lw_all := lw_g (lw_at lw_m4 169 rfl) rfl
theorem q1001 : (Jvm.Cond.code ({ cls := "DeadUnderstudies$Fault", name := "<init>", desc := "(I)V" } : Jvm.MethodName) prog_8_method_1_code (2 : Nat) (Option.none : Option Jvm.ClassFile.FieldType)) ∈ lw_all := lw_g (lw_at lw_m4 170 rfl) rfl
theorem q1002 : (Jvm.Cond.methodLink "DeadUnderstudies$Fault" (1 : Nat) ({ cls := "java/lang/Exception", name := "<init>", desc := "(Ljava/lang/String;Ljava/lang/Throwable;ZZ)V" } : Jvm.MethodName)) ∈ lw_all := lw_g (lw_at lw_m4 171 rfl) rfl
theorem q1003 : (Jvm.Cond.fieldLink "DeadUnderstudies$Fault" (7 : Nat) "DeadUnderstudies$Fault" "place" "I") ∈ lw_all := lw_g (lw_at lw_m4 172 rfl) rfl
theorem q1005 : (Jvm.Cond.laysFinal "DeadUnderstudies$Fault" "DeadUnderstudies$Fault" "place" "I") ∈ lw_all := lw_g (lw_at lw_m4 174 rfl) rfl
theorem q1006 : (Jvm.Cond.soleField "DeadUnderstudies$Fault" "place") ∈ lw_all := lw_g (lw_at lw_m4 175 rfl) rfl
theorem q1007 : (Jvm.Cond.lays "DeadUnderstudies$Fault" "java/lang/Throwable" "depth" "I") ∈ lw_all := lw_g (lw_at lw_m4 176 rfl) rfl
theorem q1008 : (Jvm.Cond.superclass "DeadUnderstudies$Fault" "java/lang/Exception") ∈ lw_all := lw_g (lw_at lw_m4 177 rfl) rfl
theorem q2613 : (Jvm.Cond.castable "DeadUnderstudies$Fault" "java/lang/Object") ∈ lw_tbl := lw_at lw_m11 102 rfl
theorem in_X14 : ∀ w ∈ wsX140, w ∈ lw_all := lw_in wsX140 [994, 995, 996, 997, 998, 1007, 1005] (by decide +kernel) (by decide +kernel)
/-! DeadUnderstudies$Clause -/
def RX15 : String := "DeadUnderstudies$Clause"
def TX15 : u_T := fun k => match k with
  | 0 => ("DeadUnderstudies$Clause", "head", "I", true)
  | 1 => ("DeadUnderstudies$Clause", "sum", "LDeadUnderstudies$Sum;", false)
  | _ => ("DeadUnderstudies$Clause", "when", "LDeadUnderstudies$Test;", false)
def tyX15 : Nat → FieldType := fun k => match k with
  | 0 => .int
  | 1 => .object "DeadUnderstudies$Sum"
  | _ => .object "DeadUnderstudies$Test"
abbrev wsX150 : List Cond := u_ws RX15 TX15 3
theorem nmX15 : ∀ a, a < 3 → ∀ b, b < 3 → a ≠ b → (TX15 a).2.1 ≠ (TX15 b).2.1 := by decide +kernel
theorem tyX15_ok : ∀ k, k < 3 → parseFieldDescriptor (TX15 k).2.2.1 = some (tyX15 k) := by decide +kernel
abbrev cX15_init : ByteArray := prog_6_method_1_code
def yX15_init : MethodName := ⟨RX15, "<init>", "(I)V"⟩
def dkwX15_init_0 : List UInt8 := [42, 183, 0, 3, 42, 27, 181, 0, 9, 177]
abbrev dktX15_init_0 : List UInt8 := dkwX15_init_0 ++ []
theorem dksX15_init_0 : cX15_init.data.toList.drop 0 = dktX15_init_0 := by decide +kernel
theorem dX15_init_0 : decode cX15_init 0 = .ok (.aload_n 0, 1) := dk_42 (dk_at dksX15_init_0 0 rfl rfl)
theorem dX15_init_1 : decode cX15_init 1 = .ok (.invokespecial 3, 3) := dk_183 0 3 (dk_at dksX15_init_0 1 rfl rfl)
theorem dX15_init_4 : decode cX15_init 4 = .ok (.aload_n 0, 1) := dk_42 (dk_at dksX15_init_0 4 rfl rfl)
theorem dX15_init_5 : decode cX15_init 5 = .ok (.iload_n 1, 1) := dk_27 (dk_at dksX15_init_0 5 rfl rfl)
theorem dX15_init_6 : decode cX15_init 6 = .ok (.putfield 9, 3) := dk_181 0 9 (dk_at dksX15_init_0 6 rfl rfl)
theorem dX15_init_9 : decode cX15_init 9 = .ok (.return_, 1) := dk_177 (dk_at dksX15_init_0 9 rfl rfl)
abbrev cX15_tells : ByteArray := prog_6_method_2_code
def yX15_tells : MethodName := ⟨RX15, "tells", "(LDeadUnderstudies$Setting;)J"⟩
def dkwX15_tells_1 : List UInt8 := [180, 0, 27, 199, 0, 7, 10, 167, 0, 11, 42, 180, 0, 27, 43, 182, 0, 31, 173, 77, 20, 0, 25, 173]
abbrev dktX15_tells_1 : List UInt8 := dkwX15_tells_1 ++ []
def dkwX15_tells_0 : List UInt8 := [42, 180, 0, 15, 198, 0, 18, 42, 180, 0, 15, 43, 182, 0, 19, 154, 0, 7, 20, 0, 25, 173, 42]
abbrev dktX15_tells_0 : List UInt8 := dkwX15_tells_0 ++ dktX15_tells_1
theorem dksX15_tells_0 : cX15_tells.data.toList.drop 0 = dktX15_tells_0 := by decide +kernel
theorem dksX15_tells_1 : cX15_tells.data.toList.drop 23 = dktX15_tells_1 := dk_seg dksX15_tells_0 23 rfl rfl
theorem dX15_tells_0 : decode cX15_tells 0 = .ok (.aload_n 0, 1) := dk_42 (dk_at dksX15_tells_0 0 rfl rfl)
theorem dX15_tells_1 : decode cX15_tells 1 = .ok (.getfield 15, 3) := dk_180 0 15 (dk_at dksX15_tells_0 1 rfl rfl)
theorem dX15_tells_4 : decode cX15_tells 4 = .ok (.ifnull 18, 3) := dk_198 0 18 (dk_at dksX15_tells_0 4 rfl rfl)
theorem dX15_tells_7 : decode cX15_tells 7 = .ok (.aload_n 0, 1) := dk_42 (dk_at dksX15_tells_0 7 rfl rfl)
theorem dX15_tells_8 : decode cX15_tells 8 = .ok (.getfield 15, 3) := dk_180 0 15 (dk_at dksX15_tells_0 8 rfl rfl)
theorem dX15_tells_11 : decode cX15_tells 11 = .ok (.aload_n 1, 1) := dk_43 (dk_at dksX15_tells_0 11 rfl rfl)
theorem dX15_tells_12 : decode cX15_tells 12 = .ok (.invokevirtual 19, 3) := dk_182 0 19 (dk_at dksX15_tells_0 12 rfl rfl)
theorem dX15_tells_15 : decode cX15_tells 15 = .ok (.ifCond .ne 7, 3) := dk_154 0 7 (dk_at dksX15_tells_0 15 rfl rfl)
theorem dX15_tells_18 : decode cX15_tells 18 = .ok (.ldc2_w 25, 3) := dk_20 0 25 (dk_at dksX15_tells_0 18 rfl rfl)
theorem dX15_tells_21 : decode cX15_tells 21 = .ok (.lreturn, 1) := dk_173 (dk_at dksX15_tells_0 21 rfl rfl)
theorem dX15_tells_22 : decode cX15_tells 22 = .ok (.aload_n 0, 1) := dk_42 (dk_at dksX15_tells_0 22 rfl rfl)
theorem dX15_tells_23 : decode cX15_tells 23 = .ok (.getfield 27, 3) := dk_180 0 27 (dk_at dksX15_tells_1 0 rfl rfl)
theorem dX15_tells_26 : decode cX15_tells 26 = .ok (.ifnonnull 7, 3) := dk_199 0 7 (dk_at dksX15_tells_1 3 rfl rfl)
theorem dX15_tells_29 : decode cX15_tells 29 = .ok (.lconst 1, 1) := dk_10 (dk_at dksX15_tells_1 6 rfl rfl)
theorem dX15_tells_30 : decode cX15_tells 30 = .ok (.goto 11, 3) := dk_167 0 11 (dk_at dksX15_tells_1 7 rfl rfl)
theorem dX15_tells_33 : decode cX15_tells 33 = .ok (.aload_n 0, 1) := dk_42 (dk_at dksX15_tells_1 10 rfl rfl)
theorem dX15_tells_34 : decode cX15_tells 34 = .ok (.getfield 27, 3) := dk_180 0 27 (dk_at dksX15_tells_1 11 rfl rfl)
theorem dX15_tells_37 : decode cX15_tells 37 = .ok (.aload_n 1, 1) := dk_43 (dk_at dksX15_tells_1 14 rfl rfl)
theorem dX15_tells_38 : decode cX15_tells 38 = .ok (.invokevirtual 31, 3) := dk_182 0 31 (dk_at dksX15_tells_1 15 rfl rfl)
theorem dX15_tells_41 : decode cX15_tells 41 = .ok (.lreturn, 1) := dk_173 (dk_at dksX15_tells_1 18 rfl rfl)
theorem dX15_tells_42 : decode cX15_tells 42 = .ok (.astore_n 2, 1) := dk_77 (dk_at dksX15_tells_1 19 rfl rfl)
theorem dX15_tells_43 : decode cX15_tells 43 = .ok (.ldc2_w 25, 3) := dk_20 0 25 (dk_at dksX15_tells_1 20 rfl rfl)
theorem dX15_tells_46 : decode cX15_tells 46 = .ok (.lreturn, 1) := dk_173 (dk_at dksX15_tells_1 23 rfl rfl)
theorem q141 : (Jvm.Cond.initialized "DeadUnderstudies$Clause") ∈ lw_all := lw_g (lw_at lw_m1 30 rfl) rfl
theorem q646 : (Jvm.Cond.selects "DeadUnderstudies$Clause" ({ cls := "java/lang/Object", name := "getClass", desc := "()Ljava/lang/Class;" } : Jvm.MethodName) ({ cls := "java/lang/Object", name := "getClass", desc := "()Ljava/lang/Class;" } : Jvm.MethodName)) ∈ lw_all := lw_g (lw_at lw_m3 55 rfl) rfl
theorem q1014 : (Jvm.Cond.instantiable "DeadUnderstudies$Clause" (3 : Nat)) ∈ lw_all := lw_g (lw_at lw_m4 183 rfl) rfl
theorem q1016 : (Jvm.Cond.instanceMethod ({ cls := "DeadUnderstudies$Clause", name := "<init>", desc := "(I)V" } : Jvm.MethodName)) ∈ lw_all := lw_g (lw_at lw_m4 185 rfl) rfl
theorem q1017 : (Jvm.Cond.code ({ cls := "DeadUnderstudies$Clause", name := "<init>", desc := "(I)V" } : Jvm.MethodName) prog_6_method_1_code (2 : Nat) (Option.none : Option Jvm.ClassFile.FieldType)) ∈ lw_all := lw_g (lw_at lw_m4 186 rfl) rfl
theorem q1018 : (Jvm.Cond.methodLink "DeadUnderstudies$Clause" (3 : Nat) ({ cls := "java/lang/Object", name := "<init>", desc := "()V" } : Jvm.MethodName)) ∈ lw_all := lw_g (lw_at lw_m4 187 rfl) rfl
theorem q1019 : (Jvm.Cond.fieldLink "DeadUnderstudies$Clause" (9 : Nat) "DeadUnderstudies$Clause" "head" "I") ∈ lw_all := lw_g (lw_at lw_m4 188 rfl) rfl
theorem q1021 : (Jvm.Cond.fieldLink "DeadUnderstudies$Clause" (27 : Nat) "DeadUnderstudies$Clause" "sum" "LDeadUnderstudies$Sum;") ∈ lw_all := lw_g (lw_at lw_m4 190 rfl) rfl
theorem q1023 : (Jvm.Cond.fieldLink "DeadUnderstudies$Clause" (15 : Nat) "DeadUnderstudies$Clause" "when" "LDeadUnderstudies$Test;") ∈ lw_all := lw_g (lw_at lw_m4 192 rfl) rfl
theorem q1025 : (Jvm.Cond.laysFinal "DeadUnderstudies$Clause" "DeadUnderstudies$Clause" "head" "I") ∈ lw_all := lw_g (lw_at lw_m4 194 rfl) rfl
theorem q1026 : (Jvm.Cond.soleField "DeadUnderstudies$Clause" "head") ∈ lw_all := lw_g (lw_at lw_m4 195 rfl) rfl
theorem q1027 : (Jvm.Cond.lays "DeadUnderstudies$Clause" "DeadUnderstudies$Clause" "sum" "LDeadUnderstudies$Sum;") ∈ lw_all := lw_g (lw_at lw_m4 196 rfl) rfl
theorem q1028 : (Jvm.Cond.soleField "DeadUnderstudies$Clause" "sum") ∈ lw_all := lw_g (lw_at lw_m4 197 rfl) rfl
theorem q1029 : (Jvm.Cond.lays "DeadUnderstudies$Clause" "DeadUnderstudies$Clause" "when" "LDeadUnderstudies$Test;") ∈ lw_all := lw_g (lw_at lw_m4 198 rfl) rfl
theorem q1030 : (Jvm.Cond.soleField "DeadUnderstudies$Clause" "when") ∈ lw_all := lw_g (lw_at lw_m4 199 rfl) rfl
theorem q1031 : (Jvm.Cond.superclass "DeadUnderstudies$Clause" "java/lang/Object") ∈ lw_all := lw_g (lw_at lw_m4 200 rfl) rfl
theorem q1427 : (Jvm.Cond.instanceMethod ({ cls := "DeadUnderstudies$Clause", name := "tells", desc := "(LDeadUnderstudies$Setting;)J" } : Jvm.MethodName)) ∈ lw_all := lw_g (lw_at lw_m6 116 rfl) rfl
theorem q1428 : (Jvm.Cond.selects "DeadUnderstudies$Clause" ({ cls := "DeadUnderstudies$Clause", name := "tells", desc := "(LDeadUnderstudies$Setting;)J" } : Jvm.MethodName) ({ cls := "DeadUnderstudies$Clause", name := "tells", desc := "(LDeadUnderstudies$Setting;)J" } : Jvm.MethodName)) ∈ lw_all := lw_g (lw_at lw_m6 117 rfl) rfl
theorem q1429 : (Jvm.Cond.codeWith ({ cls := "DeadUnderstudies$Clause", name := "tells", desc := "(LDeadUnderstudies$Setting;)J" } : Jvm.MethodName) prog_6_method_2_code (3 : Nat) (Option.some Jvm.ClassFile.FieldType.long) [((0 : Nat), (21 : Nat), (42 : Nat), (37 : Nat)), ((22 : Nat), (41 : Nat), (42 : Nat), (37 : Nat))]) ∈ lw_all := lw_g (lw_at lw_m6 118 rfl) rfl
theorem q1430 : (Jvm.Cond.classLink "DeadUnderstudies$Clause" (37 : Nat) "DeadUnderstudies$Broken") ∈ lw_all := lw_g (lw_at lw_m6 119 rfl) rfl
theorem q1431 : (Jvm.Cond.methodLink "DeadUnderstudies$Clause" (19 : Nat) ({ cls := "DeadUnderstudies$Test", name := "is", desc := "(LDeadUnderstudies$Setting;)Z" } : Jvm.MethodName)) ∈ lw_all := lw_g (lw_at lw_m6 120 rfl) rfl
theorem q1432 : (Jvm.Cond.constantLong "DeadUnderstudies$Clause" (25 : Nat) (-4000000000 : Int64)) ∈ lw_all := lw_g (lw_at lw_m6 121 rfl) rfl
theorem q1433 : (Jvm.Cond.methodLink "DeadUnderstudies$Clause" (31 : Nat) ({ cls := "DeadUnderstudies$Sum", name := "of", desc := "(LDeadUnderstudies$Setting;)J" } : Jvm.MethodName)) ∈ lw_all := lw_g (lw_at lw_m6 122 rfl) rfl
theorem q2624 : (Jvm.Cond.castable "DeadUnderstudies$Clause" "java/lang/Object") ∈ lw_tbl := lw_at lw_m11 113 rfl
theorem in_X15 : ∀ w ∈ wsX150, w ∈ lw_all := lw_in wsX150 [1025, 1027, 1029] (by decide +kernel) (by decide +kernel)
/-! DeadUnderstudies$Sum -/
def RX16 : String := "DeadUnderstudies$Sum"
abbrev cX16_init : ByteArray := prog_22_method_1_code
def yX16_init : MethodName := ⟨RX16, "<init>", "()V"⟩
theorem dX16_init_0 : decode cX16_init 0 = .ok (.aload_n 0, 1) := by decide +kernel
theorem dX16_init_1 : decode cX16_init 1 = .ok (.invokespecial 1, 3) := by decide +kernel
theorem dX16_init_4 : decode cX16_init 4 = .ok (.return_, 1) := by decide +kernel
theorem q142 : (Jvm.Cond.initialized "DeadUnderstudies$Sum") ∈ lw_all := lw_g (lw_at lw_m1 31 rfl) rfl
theorem q1090 : (Jvm.Cond.instanceMethod ({ cls := "DeadUnderstudies$Sum", name := "<init>", desc := "()V" } : Jvm.MethodName)) ∈ lw_all := lw_g (lw_at lw_m5 19 rfl) rfl
theorem q1091 : (Jvm.Cond.code ({ cls := "DeadUnderstudies$Sum", name := "<init>", desc := "()V" } : Jvm.MethodName) prog_22_method_1_code (1 : Nat) (Option.none : Option Jvm.ClassFile.FieldType)) ∈ lw_all := lw_g (lw_at lw_m5 20 rfl) rfl
theorem q1092 : (Jvm.Cond.methodLink "DeadUnderstudies$Sum" (1 : Nat) ({ cls := "java/lang/Object", name := "<init>", desc := "()V" } : Jvm.MethodName)) ∈ lw_all := lw_g (lw_at lw_m5 21 rfl) rfl
theorem q1326 : (Jvm.Cond.declares ({ cls := "DeadUnderstudies$Sum", name := "of", desc := "(LDeadUnderstudies$Setting;)J" } : Jvm.MethodName)) ∈ lw_tbl := lw_at lw_m6 15 rfl
theorem q1327 : (Jvm.Cond.sameMethod "DeadUnderstudies$Sum" "DeadUnderstudies$Sum" "of" "(LDeadUnderstudies$Setting;)J") ∈ lw_all := lw_g (lw_at lw_m6 16 rfl) rfl
/-! DeadUnderstudies$Number -/
def RX17 : String := "DeadUnderstudies$Number"
def TX17 : u_T := fun k => match k with
  | _ => ("DeadUnderstudies$Number", "number", "I", true)
def tyX17 : Nat → FieldType := fun k => match k with
  | _ => .int
abbrev wsX170 : List Cond := u_ws RX17 TX17 1
theorem nmX17 : ∀ a, a < 1 → ∀ b, b < 1 → a ≠ b → (TX17 a).2.1 ≠ (TX17 b).2.1 := by decide +kernel
theorem tyX17_ok : ∀ k, k < 1 → parseFieldDescriptor (TX17 k).2.2.1 = some (tyX17 k) := by decide +kernel
abbrev cX17_init : ByteArray := prog_14_method_1_code
def yX17_init : MethodName := ⟨RX17, "<init>", "(I)V"⟩
def dkwX17_init_0 : List UInt8 := [42, 183, 0, 1, 42, 27, 181, 0, 7, 177]
abbrev dktX17_init_0 : List UInt8 := dkwX17_init_0 ++ []
theorem dksX17_init_0 : cX17_init.data.toList.drop 0 = dktX17_init_0 := by decide +kernel
theorem dX17_init_0 : decode cX17_init 0 = .ok (.aload_n 0, 1) := dk_42 (dk_at dksX17_init_0 0 rfl rfl)
theorem dX17_init_1 : decode cX17_init 1 = .ok (.invokespecial 1, 3) := dk_183 0 1 (dk_at dksX17_init_0 1 rfl rfl)
theorem dX17_init_4 : decode cX17_init 4 = .ok (.aload_n 0, 1) := dk_42 (dk_at dksX17_init_0 4 rfl rfl)
theorem dX17_init_5 : decode cX17_init 5 = .ok (.iload_n 1, 1) := dk_27 (dk_at dksX17_init_0 5 rfl rfl)
theorem dX17_init_6 : decode cX17_init 6 = .ok (.putfield 7, 3) := dk_181 0 7 (dk_at dksX17_init_0 6 rfl rfl)
theorem dX17_init_9 : decode cX17_init 9 = .ok (.return_, 1) := dk_177 (dk_at dksX17_init_0 9 rfl rfl)
abbrev cX17_of : ByteArray := prog_14_method_2_code
def yX17_of : MethodName := ⟨RX17, "of", "(LDeadUnderstudies$Setting;)J"⟩
def dkwX17_of_0 : List UInt8 := [42, 180, 0, 7, 133, 173]
abbrev dktX17_of_0 : List UInt8 := dkwX17_of_0 ++ []
theorem dksX17_of_0 : cX17_of.data.toList.drop 0 = dktX17_of_0 := by decide +kernel
theorem dX17_of_0 : decode cX17_of 0 = .ok (.aload_n 0, 1) := dk_42 (dk_at dksX17_of_0 0 rfl rfl)
theorem dX17_of_1 : decode cX17_of 1 = .ok (.getfield 7, 3) := dk_180 0 7 (dk_at dksX17_of_0 1 rfl rfl)
theorem dX17_of_4 : decode cX17_of 4 = .ok (.i2l, 1) := dk_133 (dk_at dksX17_of_0 4 rfl rfl)
theorem dX17_of_5 : decode cX17_of 5 = .ok (.lreturn, 1) := dk_173 (dk_at dksX17_of_0 5 rfl rfl)
theorem q143 : (Jvm.Cond.initialized "DeadUnderstudies$Number") ∈ lw_all := lw_g (lw_at lw_m1 32 rfl) rfl
theorem q654 : (Jvm.Cond.selects "DeadUnderstudies$Number" ({ cls := "java/lang/Object", name := "getClass", desc := "()Ljava/lang/Class;" } : Jvm.MethodName) ({ cls := "java/lang/Object", name := "getClass", desc := "()Ljava/lang/Class;" } : Jvm.MethodName)) ∈ lw_all := lw_g (lw_at lw_m3 63 rfl) rfl
theorem q1079 : (Jvm.Cond.instantiable "DeadUnderstudies$Number" (1 : Nat)) ∈ lw_all := lw_g (lw_at lw_m5 8 rfl) rfl
theorem q1087 : (Jvm.Cond.instanceMethod ({ cls := "DeadUnderstudies$Number", name := "<init>", desc := "(I)V" } : Jvm.MethodName)) ∈ lw_all := lw_g (lw_at lw_m5 16 rfl) rfl
theorem q1088 : (Jvm.Cond.code ({ cls := "DeadUnderstudies$Number", name := "<init>", desc := "(I)V" } : Jvm.MethodName) prog_14_method_1_code (2 : Nat) (Option.none : Option Jvm.ClassFile.FieldType)) ∈ lw_all := lw_g (lw_at lw_m5 17 rfl) rfl
theorem q1089 : (Jvm.Cond.methodLinkNest "DeadUnderstudies$Number" (1 : Nat) ({ cls := "DeadUnderstudies$Sum", name := "<init>", desc := "()V" } : Jvm.MethodName) "DeadUnderstudies") ∈ lw_tbl := lw_at lw_m5 18 rfl
theorem q1093 : (Jvm.Cond.fieldLink "DeadUnderstudies$Number" (7 : Nat) "DeadUnderstudies$Number" "number" "I") ∈ lw_all := lw_g (lw_at lw_m5 22 rfl) rfl
theorem q1094 : (Jvm.Cond.laysFinal "DeadUnderstudies$Number" "DeadUnderstudies$Number" "number" "I") ∈ lw_all := lw_g (lw_at lw_m5 23 rfl) rfl
theorem q1095 : (Jvm.Cond.soleField "DeadUnderstudies$Number" "number") ∈ lw_all := lw_g (lw_at lw_m5 24 rfl) rfl
theorem q1096 : (Jvm.Cond.superclass "DeadUnderstudies$Number" "DeadUnderstudies$Sum") ∈ lw_all := lw_g (lw_at lw_m5 25 rfl) rfl
theorem q1328 : (Jvm.Cond.selects "DeadUnderstudies$Number" ({ cls := "DeadUnderstudies$Sum", name := "of", desc := "(LDeadUnderstudies$Setting;)J" } : Jvm.MethodName) ({ cls := "DeadUnderstudies$Number", name := "of", desc := "(LDeadUnderstudies$Setting;)J" } : Jvm.MethodName)) ∈ lw_all := lw_g (lw_at lw_m6 17 rfl) rfl
theorem q1329 : (Jvm.Cond.instanceMethod ({ cls := "DeadUnderstudies$Number", name := "of", desc := "(LDeadUnderstudies$Setting;)J" } : Jvm.MethodName)) ∈ lw_all := lw_g (lw_at lw_m6 18 rfl) rfl
theorem q1330 : (Jvm.Cond.code ({ cls := "DeadUnderstudies$Number", name := "of", desc := "(LDeadUnderstudies$Setting;)J" } : Jvm.MethodName) prog_14_method_2_code (2 : Nat) (Option.some Jvm.ClassFile.FieldType.long)) ∈ lw_all := lw_g (lw_at lw_m6 19 rfl) rfl
theorem q2615 : (Jvm.Cond.castable "DeadUnderstudies$Number" "java/lang/Object") ∈ lw_tbl := lw_at lw_m11 104 rfl
theorem in_X17 : ∀ w ∈ wsX170, w ∈ lw_all := lw_in wsX170 [1094] (by decide +kernel) (by decide +kernel)
/-! DeadUnderstudies$Value -/
def RX18 : String := "DeadUnderstudies$Value"
def TX18 : u_T := fun k => match k with
  | _ => ("DeadUnderstudies$Value", "which", "I", true)
def tyX18 : Nat → FieldType := fun k => match k with
  | _ => .int
abbrev wsX180 : List Cond := u_ws RX18 TX18 1
theorem nmX18 : ∀ a, a < 1 → ∀ b, b < 1 → a ≠ b → (TX18 a).2.1 ≠ (TX18 b).2.1 := by decide +kernel
theorem tyX18_ok : ∀ k, k < 1 → parseFieldDescriptor (TX18 k).2.2.1 = some (tyX18 k) := by decide +kernel
abbrev cX18_init : ByteArray := prog_26_method_1_code
def yX18_init : MethodName := ⟨RX18, "<init>", "(I)V"⟩
def dkwX18_init_0 : List UInt8 := [42, 183, 0, 1, 42, 27, 181, 0, 7, 177]
abbrev dktX18_init_0 : List UInt8 := dkwX18_init_0 ++ []
theorem dksX18_init_0 : cX18_init.data.toList.drop 0 = dktX18_init_0 := by decide +kernel
theorem dX18_init_0 : decode cX18_init 0 = .ok (.aload_n 0, 1) := dk_42 (dk_at dksX18_init_0 0 rfl rfl)
theorem dX18_init_1 : decode cX18_init 1 = .ok (.invokespecial 1, 3) := dk_183 0 1 (dk_at dksX18_init_0 1 rfl rfl)
theorem dX18_init_4 : decode cX18_init 4 = .ok (.aload_n 0, 1) := dk_42 (dk_at dksX18_init_0 4 rfl rfl)
theorem dX18_init_5 : decode cX18_init 5 = .ok (.iload_n 1, 1) := dk_27 (dk_at dksX18_init_0 5 rfl rfl)
theorem dX18_init_6 : decode cX18_init 6 = .ok (.putfield 7, 3) := dk_181 0 7 (dk_at dksX18_init_0 6 rfl rfl)
theorem dX18_init_9 : decode cX18_init 9 = .ok (.return_, 1) := dk_177 (dk_at dksX18_init_0 9 rfl rfl)
abbrev cX18_of : ByteArray := prog_26_method_2_code
def yX18_of : MethodName := ⟨RX18, "of", "(LDeadUnderstudies$Setting;)J"⟩
def dkwX18_of_0 : List UInt8 := [43, 180, 0, 13, 42, 180, 0, 7, 47, 173]
abbrev dktX18_of_0 : List UInt8 := dkwX18_of_0 ++ []
theorem dksX18_of_0 : cX18_of.data.toList.drop 0 = dktX18_of_0 := by decide +kernel
theorem dX18_of_0 : decode cX18_of 0 = .ok (.aload_n 1, 1) := dk_43 (dk_at dksX18_of_0 0 rfl rfl)
theorem dX18_of_1 : decode cX18_of 1 = .ok (.getfield 13, 3) := dk_180 0 13 (dk_at dksX18_of_0 1 rfl rfl)
theorem dX18_of_4 : decode cX18_of 4 = .ok (.aload_n 0, 1) := dk_42 (dk_at dksX18_of_0 4 rfl rfl)
theorem dX18_of_5 : decode cX18_of 5 = .ok (.getfield 7, 3) := dk_180 0 7 (dk_at dksX18_of_0 5 rfl rfl)
theorem dX18_of_8 : decode cX18_of 8 = .ok (.laload, 1) := dk_47 (dk_at dksX18_of_0 8 rfl rfl)
theorem dX18_of_9 : decode cX18_of 9 = .ok (.lreturn, 1) := dk_173 (dk_at dksX18_of_0 9 rfl rfl)
theorem q144 : (Jvm.Cond.initialized "DeadUnderstudies$Value") ∈ lw_all := lw_g (lw_at lw_m1 33 rfl) rfl
theorem q344 : (Jvm.Cond.fieldLinkNest "DeadUnderstudies$Value" (13 : Nat) "DeadUnderstudies$Setting" "values" "[J" "DeadUnderstudies") ∈ lw_tbl := lw_at lw_m1 233 rfl
theorem q663 : (Jvm.Cond.selects "DeadUnderstudies$Value" ({ cls := "java/lang/Object", name := "getClass", desc := "()Ljava/lang/Class;" } : Jvm.MethodName) ({ cls := "java/lang/Object", name := "getClass", desc := "()Ljava/lang/Class;" } : Jvm.MethodName)) ∈ lw_all := lw_g (lw_at lw_m3 72 rfl) rfl
theorem q1124 : (Jvm.Cond.instantiable "DeadUnderstudies$Value" (1 : Nat)) ∈ lw_all := lw_g (lw_at lw_m5 53 rfl) rfl
theorem q1126 : (Jvm.Cond.instanceMethod ({ cls := "DeadUnderstudies$Value", name := "<init>", desc := "(I)V" } : Jvm.MethodName)) ∈ lw_all := lw_g (lw_at lw_m5 55 rfl) rfl
theorem q1127 : (Jvm.Cond.code ({ cls := "DeadUnderstudies$Value", name := "<init>", desc := "(I)V" } : Jvm.MethodName) prog_26_method_1_code (2 : Nat) (Option.none : Option Jvm.ClassFile.FieldType)) ∈ lw_all := lw_g (lw_at lw_m5 56 rfl) rfl
theorem q1128 : (Jvm.Cond.methodLinkNest "DeadUnderstudies$Value" (1 : Nat) ({ cls := "DeadUnderstudies$Sum", name := "<init>", desc := "()V" } : Jvm.MethodName) "DeadUnderstudies") ∈ lw_tbl := lw_at lw_m5 57 rfl
theorem q1129 : (Jvm.Cond.fieldLink "DeadUnderstudies$Value" (7 : Nat) "DeadUnderstudies$Value" "which" "I") ∈ lw_all := lw_g (lw_at lw_m5 58 rfl) rfl
theorem q1130 : (Jvm.Cond.laysFinal "DeadUnderstudies$Value" "DeadUnderstudies$Value" "which" "I") ∈ lw_all := lw_g (lw_at lw_m5 59 rfl) rfl
theorem q1131 : (Jvm.Cond.soleField "DeadUnderstudies$Value" "which") ∈ lw_all := lw_g (lw_at lw_m5 60 rfl) rfl
theorem q1132 : (Jvm.Cond.superclass "DeadUnderstudies$Value" "DeadUnderstudies$Sum") ∈ lw_all := lw_g (lw_at lw_m5 61 rfl) rfl
theorem q1335 : (Jvm.Cond.instanceMethod ({ cls := "DeadUnderstudies$Value", name := "of", desc := "(LDeadUnderstudies$Setting;)J" } : Jvm.MethodName)) ∈ lw_all := lw_g (lw_at lw_m6 24 rfl) rfl
theorem q1336 : (Jvm.Cond.code ({ cls := "DeadUnderstudies$Value", name := "of", desc := "(LDeadUnderstudies$Setting;)J" } : Jvm.MethodName) prog_26_method_2_code (2 : Nat) (Option.some Jvm.ClassFile.FieldType.long)) ∈ lw_all := lw_g (lw_at lw_m6 25 rfl) rfl
theorem q1339 : (Jvm.Cond.selects "DeadUnderstudies$Value" ({ cls := "DeadUnderstudies$Sum", name := "of", desc := "(LDeadUnderstudies$Setting;)J" } : Jvm.MethodName) ({ cls := "DeadUnderstudies$Value", name := "of", desc := "(LDeadUnderstudies$Setting;)J" } : Jvm.MethodName)) ∈ lw_all := lw_g (lw_at lw_m6 28 rfl) rfl
theorem q2616 : (Jvm.Cond.castable "DeadUnderstudies$Value" "java/lang/Object") ∈ lw_tbl := lw_at lw_m11 105 rfl
theorem in_X18 : ∀ w ∈ wsX180, w ∈ lw_all := lw_in wsX180 [1130] (by decide +kernel) (by decide +kernel)
/-! DeadUnderstudies$Two -/
def RX19 : String := "DeadUnderstudies$Two"
def TX19 : u_T := fun k => match k with
  | 0 => ("DeadUnderstudies$Two", "sign", "C", true)
  | 1 => ("DeadUnderstudies$Two", "left", "LDeadUnderstudies$Sum;", true)
  | _ => ("DeadUnderstudies$Two", "right", "LDeadUnderstudies$Sum;", true)
def tyX19 : Nat → FieldType := fun k => match k with
  | 0 => .char
  | 1 => .object "DeadUnderstudies$Sum"
  | _ => .object "DeadUnderstudies$Sum"
abbrev wsX190 : List Cond := u_ws RX19 TX19 3
theorem nmX19 : ∀ a, a < 3 → ∀ b, b < 3 → a ≠ b → (TX19 a).2.1 ≠ (TX19 b).2.1 := by decide +kernel
theorem tyX19_ok : ∀ k, k < 3 → parseFieldDescriptor (TX19 k).2.2.1 = some (tyX19 k) := by decide +kernel
abbrev cX19_init : ByteArray := prog_25_method_1_code
def yX19_init : MethodName := ⟨RX19, "<init>", "(CLDeadUnderstudies$Sum;LDeadUnderstudies$Sum;)V"⟩
def dkwX19_init_0 : List UInt8 := [42, 183, 0, 3, 42, 27, 181, 0, 9, 42, 44, 181, 0, 15, 42, 45, 181, 0, 19, 177]
abbrev dktX19_init_0 : List UInt8 := dkwX19_init_0 ++ []
theorem dksX19_init_0 : cX19_init.data.toList.drop 0 = dktX19_init_0 := by decide +kernel
theorem dX19_init_0 : decode cX19_init 0 = .ok (.aload_n 0, 1) := dk_42 (dk_at dksX19_init_0 0 rfl rfl)
theorem dX19_init_1 : decode cX19_init 1 = .ok (.invokespecial 3, 3) := dk_183 0 3 (dk_at dksX19_init_0 1 rfl rfl)
theorem dX19_init_4 : decode cX19_init 4 = .ok (.aload_n 0, 1) := dk_42 (dk_at dksX19_init_0 4 rfl rfl)
theorem dX19_init_5 : decode cX19_init 5 = .ok (.iload_n 1, 1) := dk_27 (dk_at dksX19_init_0 5 rfl rfl)
theorem dX19_init_6 : decode cX19_init 6 = .ok (.putfield 9, 3) := dk_181 0 9 (dk_at dksX19_init_0 6 rfl rfl)
theorem dX19_init_9 : decode cX19_init 9 = .ok (.aload_n 0, 1) := dk_42 (dk_at dksX19_init_0 9 rfl rfl)
theorem dX19_init_10 : decode cX19_init 10 = .ok (.aload_n 2, 1) := dk_44 (dk_at dksX19_init_0 10 rfl rfl)
theorem dX19_init_11 : decode cX19_init 11 = .ok (.putfield 15, 3) := dk_181 0 15 (dk_at dksX19_init_0 11 rfl rfl)
theorem dX19_init_14 : decode cX19_init 14 = .ok (.aload_n 0, 1) := dk_42 (dk_at dksX19_init_0 14 rfl rfl)
theorem dX19_init_15 : decode cX19_init 15 = .ok (.aload_n 3, 1) := dk_45 (dk_at dksX19_init_0 15 rfl rfl)
theorem dX19_init_16 : decode cX19_init 16 = .ok (.putfield 19, 3) := dk_181 0 19 (dk_at dksX19_init_0 16 rfl rfl)
theorem dX19_init_19 : decode cX19_init 19 = .ok (.return_, 1) := dk_177 (dk_at dksX19_init_0 19 rfl rfl)
abbrev cX19_of : ByteArray := prog_25_method_2_code
def yX19_of : MethodName := ⟨RX19, "of", "(LDeadUnderstudies$Setting;)J"⟩
def dkwX19_of_6 : List UInt8 := [191, 22, 6, 173]
abbrev dktX19_of_6 : List UInt8 := dkwX19_of_6 ++ []
def dkwX19_of_5 : List UInt8 := [55, 6, 22, 6, 20, 0, 32, 148, 157, 0, 12, 22, 6, 20, 0, 34, 148, 156, 0, 8, 43, 180, 0, 26]
abbrev dktX19_of_5 : List UInt8 := dkwX19_of_5 ++ dktX19_of_6
def dkwX19_of_4 : List UInt8 := [105, 167, 0, 23, 42, 180, 0, 9, 16, 47, 160, 0, 10, 32, 22, 4, 109, 167, 0, 7, 32, 22, 4, 113]
abbrev dktX19_of_4 : List UInt8 := dkwX19_of_4 ++ dktX19_of_5
def dkwX19_of_3 : List UInt8 := [16, 45, 160, 0, 10, 32, 22, 4, 101, 167, 0, 39, 42, 180, 0, 9, 16, 42, 160, 0, 10, 32, 22, 4]
abbrev dktX19_of_3 : List UInt8 := dkwX19_of_3 ++ dktX19_of_4
def dkwX19_of_2 : List UInt8 := [180, 0, 26, 191, 42, 180, 0, 9, 16, 43, 160, 0, 10, 32, 22, 4, 97, 167, 0, 55, 42, 180, 0, 9]
abbrev dktX19_of_2 : List UInt8 := dkwX19_of_2 ++ dktX19_of_3
def dkwX19_of_1 : List UInt8 := [16, 47, 159, 0, 12, 42, 180, 0, 9, 16, 37, 160, 0, 15, 22, 4, 9, 148, 154, 0, 8, 43]
abbrev dktX19_of_1 : List UInt8 := dkwX19_of_1 ++ dktX19_of_2
def dkwX19_of_0 : List UInt8 := [42, 180, 0, 15, 43, 182, 0, 22, 65, 42, 180, 0, 19, 43, 182, 0, 22, 55, 4, 42, 180, 0, 9]
abbrev dktX19_of_0 : List UInt8 := dkwX19_of_0 ++ dktX19_of_1
theorem dksX19_of_0 : cX19_of.data.toList.drop 0 = dktX19_of_0 := by decide +kernel
theorem dksX19_of_1 : cX19_of.data.toList.drop 23 = dktX19_of_1 := dk_seg dksX19_of_0 23 rfl rfl
theorem dksX19_of_2 : cX19_of.data.toList.drop 45 = dktX19_of_2 := dk_seg dksX19_of_1 22 rfl rfl
theorem dksX19_of_3 : cX19_of.data.toList.drop 69 = dktX19_of_3 := dk_seg dksX19_of_2 24 rfl rfl
theorem dksX19_of_4 : cX19_of.data.toList.drop 93 = dktX19_of_4 := dk_seg dksX19_of_3 24 rfl rfl
theorem dksX19_of_5 : cX19_of.data.toList.drop 117 = dktX19_of_5 := dk_seg dksX19_of_4 24 rfl rfl
theorem dksX19_of_6 : cX19_of.data.toList.drop 141 = dktX19_of_6 := dk_seg dksX19_of_5 24 rfl rfl
theorem dX19_of_0 : decode cX19_of 0 = .ok (.aload_n 0, 1) := dk_42 (dk_at dksX19_of_0 0 rfl rfl)
theorem dX19_of_1 : decode cX19_of 1 = .ok (.getfield 15, 3) := dk_180 0 15 (dk_at dksX19_of_0 1 rfl rfl)
theorem dX19_of_4 : decode cX19_of 4 = .ok (.aload_n 1, 1) := dk_43 (dk_at dksX19_of_0 4 rfl rfl)
theorem dX19_of_5 : decode cX19_of 5 = .ok (.invokevirtual 22, 3) := dk_182 0 22 (dk_at dksX19_of_0 5 rfl rfl)
theorem dX19_of_8 : decode cX19_of 8 = .ok (.lstore_n 2, 1) := dk_65 (dk_at dksX19_of_0 8 rfl rfl)
theorem dX19_of_9 : decode cX19_of 9 = .ok (.aload_n 0, 1) := dk_42 (dk_at dksX19_of_0 9 rfl rfl)
theorem dX19_of_10 : decode cX19_of 10 = .ok (.getfield 19, 3) := dk_180 0 19 (dk_at dksX19_of_0 10 rfl rfl)
theorem dX19_of_13 : decode cX19_of 13 = .ok (.aload_n 1, 1) := dk_43 (dk_at dksX19_of_0 13 rfl rfl)
theorem dX19_of_14 : decode cX19_of 14 = .ok (.invokevirtual 22, 3) := dk_182 0 22 (dk_at dksX19_of_0 14 rfl rfl)
theorem dX19_of_17 : decode cX19_of 17 = .ok (.lstore 4, 2) := dk_55 4 (dk_at dksX19_of_0 17 rfl rfl)
theorem dX19_of_19 : decode cX19_of 19 = .ok (.aload_n 0, 1) := dk_42 (dk_at dksX19_of_0 19 rfl rfl)
theorem dX19_of_20 : decode cX19_of 20 = .ok (.getfield 9, 3) := dk_180 0 9 (dk_at dksX19_of_0 20 rfl rfl)
theorem dX19_of_23 : decode cX19_of 23 = .ok (.bipush 47, 2) := dk_16 47 (dk_at dksX19_of_1 0 rfl rfl)
theorem dX19_of_25 : decode cX19_of 25 = .ok (.if_icmp .eq 12, 3) := dk_159 0 12 (dk_at dksX19_of_1 2 rfl rfl)
theorem dX19_of_28 : decode cX19_of 28 = .ok (.aload_n 0, 1) := dk_42 (dk_at dksX19_of_1 5 rfl rfl)
theorem dX19_of_29 : decode cX19_of 29 = .ok (.getfield 9, 3) := dk_180 0 9 (dk_at dksX19_of_1 6 rfl rfl)
theorem dX19_of_32 : decode cX19_of 32 = .ok (.bipush 37, 2) := dk_16 37 (dk_at dksX19_of_1 9 rfl rfl)
theorem dX19_of_34 : decode cX19_of 34 = .ok (.if_icmp .ne 15, 3) := dk_160 0 15 (dk_at dksX19_of_1 11 rfl rfl)
theorem dX19_of_37 : decode cX19_of 37 = .ok (.lload 4, 2) := dk_22 4 (dk_at dksX19_of_1 14 rfl rfl)
theorem dX19_of_39 : decode cX19_of 39 = .ok (.lconst 0, 1) := dk_9 (dk_at dksX19_of_1 16 rfl rfl)
theorem dX19_of_40 : decode cX19_of 40 = .ok (.lcmp, 1) := dk_148 (dk_at dksX19_of_1 17 rfl rfl)
theorem dX19_of_41 : decode cX19_of 41 = .ok (.ifCond .ne 8, 3) := dk_154 0 8 (dk_at dksX19_of_1 18 rfl rfl)
theorem dX19_of_44 : decode cX19_of 44 = .ok (.aload_n 1, 1) := dk_43 (dk_at dksX19_of_1 21 rfl rfl)
theorem dX19_of_45 : decode cX19_of 45 = .ok (.getfield 26, 3) := dk_180 0 26 (dk_at dksX19_of_2 0 rfl rfl)
theorem dX19_of_48 : decode cX19_of 48 = .ok (.athrow, 1) := dk_191 (dk_at dksX19_of_2 3 rfl rfl)
theorem dX19_of_49 : decode cX19_of 49 = .ok (.aload_n 0, 1) := dk_42 (dk_at dksX19_of_2 4 rfl rfl)
theorem dX19_of_50 : decode cX19_of 50 = .ok (.getfield 9, 3) := dk_180 0 9 (dk_at dksX19_of_2 5 rfl rfl)
theorem dX19_of_53 : decode cX19_of 53 = .ok (.bipush 43, 2) := dk_16 43 (dk_at dksX19_of_2 8 rfl rfl)
theorem dX19_of_55 : decode cX19_of 55 = .ok (.if_icmp .ne 10, 3) := dk_160 0 10 (dk_at dksX19_of_2 10 rfl rfl)
theorem dX19_of_58 : decode cX19_of 58 = .ok (.lload_n 2, 1) := dk_32 (dk_at dksX19_of_2 13 rfl rfl)
theorem dX19_of_59 : decode cX19_of 59 = .ok (.lload 4, 2) := dk_22 4 (dk_at dksX19_of_2 14 rfl rfl)
theorem dX19_of_61 : decode cX19_of 61 = .ok (.ladd, 1) := dk_97 (dk_at dksX19_of_2 16 rfl rfl)
theorem dX19_of_62 : decode cX19_of 62 = .ok (.goto 55, 3) := dk_167 0 55 (dk_at dksX19_of_2 17 rfl rfl)
theorem dX19_of_65 : decode cX19_of 65 = .ok (.aload_n 0, 1) := dk_42 (dk_at dksX19_of_2 20 rfl rfl)
theorem dX19_of_66 : decode cX19_of 66 = .ok (.getfield 9, 3) := dk_180 0 9 (dk_at dksX19_of_2 21 rfl rfl)
theorem dX19_of_69 : decode cX19_of 69 = .ok (.bipush 45, 2) := dk_16 45 (dk_at dksX19_of_3 0 rfl rfl)
theorem dX19_of_71 : decode cX19_of 71 = .ok (.if_icmp .ne 10, 3) := dk_160 0 10 (dk_at dksX19_of_3 2 rfl rfl)
theorem dX19_of_74 : decode cX19_of 74 = .ok (.lload_n 2, 1) := dk_32 (dk_at dksX19_of_3 5 rfl rfl)
theorem dX19_of_75 : decode cX19_of 75 = .ok (.lload 4, 2) := dk_22 4 (dk_at dksX19_of_3 6 rfl rfl)
theorem dX19_of_77 : decode cX19_of 77 = .ok (.lsub, 1) := dk_101 (dk_at dksX19_of_3 8 rfl rfl)
theorem dX19_of_78 : decode cX19_of 78 = .ok (.goto 39, 3) := dk_167 0 39 (dk_at dksX19_of_3 9 rfl rfl)
theorem dX19_of_81 : decode cX19_of 81 = .ok (.aload_n 0, 1) := dk_42 (dk_at dksX19_of_3 12 rfl rfl)
theorem dX19_of_82 : decode cX19_of 82 = .ok (.getfield 9, 3) := dk_180 0 9 (dk_at dksX19_of_3 13 rfl rfl)
theorem dX19_of_85 : decode cX19_of 85 = .ok (.bipush 42, 2) := dk_16 42 (dk_at dksX19_of_3 16 rfl rfl)
theorem dX19_of_87 : decode cX19_of 87 = .ok (.if_icmp .ne 10, 3) := dk_160 0 10 (dk_at dksX19_of_3 18 rfl rfl)
theorem dX19_of_90 : decode cX19_of 90 = .ok (.lload_n 2, 1) := dk_32 (dk_at dksX19_of_3 21 rfl rfl)
theorem dX19_of_91 : decode cX19_of 91 = .ok (.lload 4, 2) := dk_22 4 (dk_at dksX19_of_3 22 rfl rfl)
theorem dX19_of_93 : decode cX19_of 93 = .ok (.lmul, 1) := dk_105 (dk_at dksX19_of_4 0 rfl rfl)
theorem dX19_of_94 : decode cX19_of 94 = .ok (.goto 23, 3) := dk_167 0 23 (dk_at dksX19_of_4 1 rfl rfl)
theorem dX19_of_97 : decode cX19_of 97 = .ok (.aload_n 0, 1) := dk_42 (dk_at dksX19_of_4 4 rfl rfl)
theorem dX19_of_98 : decode cX19_of 98 = .ok (.getfield 9, 3) := dk_180 0 9 (dk_at dksX19_of_4 5 rfl rfl)
theorem dX19_of_101 : decode cX19_of 101 = .ok (.bipush 47, 2) := dk_16 47 (dk_at dksX19_of_4 8 rfl rfl)
theorem dX19_of_103 : decode cX19_of 103 = .ok (.if_icmp .ne 10, 3) := dk_160 0 10 (dk_at dksX19_of_4 10 rfl rfl)
theorem dX19_of_106 : decode cX19_of 106 = .ok (.lload_n 2, 1) := dk_32 (dk_at dksX19_of_4 13 rfl rfl)
theorem dX19_of_107 : decode cX19_of 107 = .ok (.lload 4, 2) := dk_22 4 (dk_at dksX19_of_4 14 rfl rfl)
theorem dX19_of_109 : decode cX19_of 109 = .ok (.ldiv, 1) := dk_109 (dk_at dksX19_of_4 16 rfl rfl)
theorem dX19_of_110 : decode cX19_of 110 = .ok (.goto 7, 3) := dk_167 0 7 (dk_at dksX19_of_4 17 rfl rfl)
theorem dX19_of_113 : decode cX19_of 113 = .ok (.lload_n 2, 1) := dk_32 (dk_at dksX19_of_4 20 rfl rfl)
theorem dX19_of_114 : decode cX19_of 114 = .ok (.lload 4, 2) := dk_22 4 (dk_at dksX19_of_4 21 rfl rfl)
theorem dX19_of_116 : decode cX19_of 116 = .ok (.lrem, 1) := dk_113 (dk_at dksX19_of_4 23 rfl rfl)
theorem dX19_of_117 : decode cX19_of 117 = .ok (.lstore 6, 2) := dk_55 6 (dk_at dksX19_of_5 0 rfl rfl)
theorem dX19_of_119 : decode cX19_of 119 = .ok (.lload 6, 2) := dk_22 6 (dk_at dksX19_of_5 2 rfl rfl)
theorem dX19_of_121 : decode cX19_of 121 = .ok (.ldc2_w 32, 3) := dk_20 0 32 (dk_at dksX19_of_5 4 rfl rfl)
theorem dX19_of_124 : decode cX19_of 124 = .ok (.lcmp, 1) := dk_148 (dk_at dksX19_of_5 7 rfl rfl)
theorem dX19_of_125 : decode cX19_of 125 = .ok (.ifCond .gt 12, 3) := dk_157 0 12 (dk_at dksX19_of_5 8 rfl rfl)
theorem dX19_of_128 : decode cX19_of 128 = .ok (.lload 6, 2) := dk_22 6 (dk_at dksX19_of_5 11 rfl rfl)
theorem dX19_of_130 : decode cX19_of 130 = .ok (.ldc2_w 34, 3) := dk_20 0 34 (dk_at dksX19_of_5 13 rfl rfl)
theorem dX19_of_133 : decode cX19_of 133 = .ok (.lcmp, 1) := dk_148 (dk_at dksX19_of_5 16 rfl rfl)
theorem dX19_of_134 : decode cX19_of 134 = .ok (.ifCond .ge 8, 3) := dk_156 0 8 (dk_at dksX19_of_5 17 rfl rfl)
theorem dX19_of_137 : decode cX19_of 137 = .ok (.aload_n 1, 1) := dk_43 (dk_at dksX19_of_5 20 rfl rfl)
theorem dX19_of_138 : decode cX19_of 138 = .ok (.getfield 26, 3) := dk_180 0 26 (dk_at dksX19_of_5 21 rfl rfl)
theorem dX19_of_141 : decode cX19_of 141 = .ok (.athrow, 1) := dk_191 (dk_at dksX19_of_6 0 rfl rfl)
theorem dX19_of_142 : decode cX19_of 142 = .ok (.lload 6, 2) := dk_22 6 (dk_at dksX19_of_6 1 rfl rfl)
theorem dX19_of_144 : decode cX19_of 144 = .ok (.lreturn, 1) := dk_173 (dk_at dksX19_of_6 3 rfl rfl)
theorem q145 : (Jvm.Cond.initialized "DeadUnderstudies$Two") ∈ lw_all := lw_g (lw_at lw_m1 34 rfl) rfl
theorem q342 : (Jvm.Cond.fieldLinkNest "DeadUnderstudies$Two" (26 : Nat) "DeadUnderstudies$Setting" "broken" "LDeadUnderstudies$Broken;" "DeadUnderstudies") ∈ lw_tbl := lw_at lw_m1 231 rfl
theorem q662 : (Jvm.Cond.selects "DeadUnderstudies$Two" ({ cls := "java/lang/Object", name := "getClass", desc := "()Ljava/lang/Class;" } : Jvm.MethodName) ({ cls := "java/lang/Object", name := "getClass", desc := "()Ljava/lang/Class;" } : Jvm.MethodName)) ∈ lw_all := lw_g (lw_at lw_m3 71 rfl) rfl
theorem q1137 : (Jvm.Cond.instantiable "DeadUnderstudies$Two" (3 : Nat)) ∈ lw_all := lw_g (lw_at lw_m5 66 rfl) rfl
theorem q1139 : (Jvm.Cond.instanceMethod ({ cls := "DeadUnderstudies$Two", name := "<init>", desc := "(CLDeadUnderstudies$Sum;LDeadUnderstudies$Sum;)V" } : Jvm.MethodName)) ∈ lw_all := lw_g (lw_at lw_m5 68 rfl) rfl
theorem q1140 : (Jvm.Cond.code ({ cls := "DeadUnderstudies$Two", name := "<init>", desc := "(CLDeadUnderstudies$Sum;LDeadUnderstudies$Sum;)V" } : Jvm.MethodName) prog_25_method_1_code (4 : Nat) (Option.none : Option Jvm.ClassFile.FieldType)) ∈ lw_all := lw_g (lw_at lw_m5 69 rfl) rfl
theorem q1141 : (Jvm.Cond.methodLinkNest "DeadUnderstudies$Two" (3 : Nat) ({ cls := "DeadUnderstudies$Sum", name := "<init>", desc := "()V" } : Jvm.MethodName) "DeadUnderstudies") ∈ lw_tbl := lw_at lw_m5 70 rfl
theorem q1142 : (Jvm.Cond.fieldLink "DeadUnderstudies$Two" (9 : Nat) "DeadUnderstudies$Two" "sign" "C") ∈ lw_all := lw_g (lw_at lw_m5 71 rfl) rfl
theorem q1143 : (Jvm.Cond.fieldLink "DeadUnderstudies$Two" (15 : Nat) "DeadUnderstudies$Two" "left" "LDeadUnderstudies$Sum;") ∈ lw_all := lw_g (lw_at lw_m5 72 rfl) rfl
theorem q1144 : (Jvm.Cond.fieldLink "DeadUnderstudies$Two" (19 : Nat) "DeadUnderstudies$Two" "right" "LDeadUnderstudies$Sum;") ∈ lw_all := lw_g (lw_at lw_m5 73 rfl) rfl
theorem q1145 : (Jvm.Cond.laysFinal "DeadUnderstudies$Two" "DeadUnderstudies$Two" "sign" "C") ∈ lw_all := lw_g (lw_at lw_m5 74 rfl) rfl
theorem q1146 : (Jvm.Cond.soleField "DeadUnderstudies$Two" "sign") ∈ lw_all := lw_g (lw_at lw_m5 75 rfl) rfl
theorem q1147 : (Jvm.Cond.laysFinal "DeadUnderstudies$Two" "DeadUnderstudies$Two" "left" "LDeadUnderstudies$Sum;") ∈ lw_all := lw_g (lw_at lw_m5 76 rfl) rfl
theorem q1148 : (Jvm.Cond.soleField "DeadUnderstudies$Two" "left") ∈ lw_all := lw_g (lw_at lw_m5 77 rfl) rfl
theorem q1149 : (Jvm.Cond.laysFinal "DeadUnderstudies$Two" "DeadUnderstudies$Two" "right" "LDeadUnderstudies$Sum;") ∈ lw_all := lw_g (lw_at lw_m5 78 rfl) rfl
theorem q1150 : (Jvm.Cond.soleField "DeadUnderstudies$Two" "right") ∈ lw_all := lw_g (lw_at lw_m5 79 rfl) rfl
theorem q1151 : (Jvm.Cond.superclass "DeadUnderstudies$Two" "DeadUnderstudies$Sum") ∈ lw_all := lw_g (lw_at lw_m5 80 rfl) rfl
theorem q1331 : (Jvm.Cond.selects "DeadUnderstudies$Two" ({ cls := "DeadUnderstudies$Sum", name := "of", desc := "(LDeadUnderstudies$Setting;)J" } : Jvm.MethodName) ({ cls := "DeadUnderstudies$Two", name := "of", desc := "(LDeadUnderstudies$Setting;)J" } : Jvm.MethodName)) ∈ lw_all := lw_g (lw_at lw_m6 20 rfl) rfl
theorem q1332 : (Jvm.Cond.instanceMethod ({ cls := "DeadUnderstudies$Two", name := "of", desc := "(LDeadUnderstudies$Setting;)J" } : Jvm.MethodName)) ∈ lw_all := lw_g (lw_at lw_m6 21 rfl) rfl
theorem q1333 : (Jvm.Cond.code ({ cls := "DeadUnderstudies$Two", name := "of", desc := "(LDeadUnderstudies$Setting;)J" } : Jvm.MethodName) prog_25_method_2_code (8 : Nat) (Option.some Jvm.ClassFile.FieldType.long)) ∈ lw_all := lw_g (lw_at lw_m6 22 rfl) rfl
theorem q1334 : (Jvm.Cond.methodLink "DeadUnderstudies$Two" (22 : Nat) ({ cls := "DeadUnderstudies$Sum", name := "of", desc := "(LDeadUnderstudies$Setting;)J" } : Jvm.MethodName)) ∈ lw_all := lw_g (lw_at lw_m6 23 rfl) rfl
theorem q1337 : (Jvm.Cond.constantLong "DeadUnderstudies$Two" (32 : Nat) (1000000000 : Int64)) ∈ lw_all := lw_g (lw_at lw_m6 26 rfl) rfl
theorem q1338 : (Jvm.Cond.constantLong "DeadUnderstudies$Two" (34 : Nat) (-1000000000 : Int64)) ∈ lw_all := lw_g (lw_at lw_m6 27 rfl) rfl
theorem q2617 : (Jvm.Cond.castable "DeadUnderstudies$Two" "java/lang/Object") ∈ lw_tbl := lw_at lw_m11 106 rfl
theorem in_X19 : ∀ w ∈ wsX190, w ∈ lw_all := lw_in wsX190 [1145, 1147, 1149] (by decide +kernel) (by decide +kernel)
/-! DeadUnderstudies$Test -/
def RX20 : String := "DeadUnderstudies$Test"
abbrev cX20_init : ByteArray := prog_24_method_1_code
def yX20_init : MethodName := ⟨RX20, "<init>", "()V"⟩
theorem dX20_init_0 : decode cX20_init 0 = .ok (.aload_n 0, 1) := by decide +kernel
theorem dX20_init_1 : decode cX20_init 1 = .ok (.invokespecial 1, 3) := by decide +kernel
theorem dX20_init_4 : decode cX20_init 4 = .ok (.return_, 1) := by decide +kernel
theorem q146 : (Jvm.Cond.initialized "DeadUnderstudies$Test") ∈ lw_all := lw_g (lw_at lw_m1 35 rfl) rfl
theorem q1196 : (Jvm.Cond.instanceMethod ({ cls := "DeadUnderstudies$Test", name := "<init>", desc := "()V" } : Jvm.MethodName)) ∈ lw_all := lw_g (lw_at lw_m5 125 rfl) rfl
theorem q1197 : (Jvm.Cond.code ({ cls := "DeadUnderstudies$Test", name := "<init>", desc := "()V" } : Jvm.MethodName) prog_24_method_1_code (1 : Nat) (Option.none : Option Jvm.ClassFile.FieldType)) ∈ lw_all := lw_g (lw_at lw_m5 126 rfl) rfl
theorem q1198 : (Jvm.Cond.methodLink "DeadUnderstudies$Test" (1 : Nat) ({ cls := "java/lang/Object", name := "<init>", desc := "()V" } : Jvm.MethodName)) ∈ lw_all := lw_g (lw_at lw_m5 127 rfl) rfl
theorem q1320 : (Jvm.Cond.declares ({ cls := "DeadUnderstudies$Test", name := "is", desc := "(LDeadUnderstudies$Setting;)Z" } : Jvm.MethodName)) ∈ lw_tbl := lw_at lw_m6 9 rfl
theorem q1321 : (Jvm.Cond.sameMethod "DeadUnderstudies$Test" "DeadUnderstudies$Test" "is" "(LDeadUnderstudies$Setting;)Z") ∈ lw_all := lw_g (lw_at lw_m6 10 rfl) rfl
/-! DeadUnderstudies$Compare -/
def RX21 : String := "DeadUnderstudies$Compare"
def TX21 : u_T := fun k => match k with
  | 0 => ("DeadUnderstudies$Compare", "sign", "C", true)
  | 1 => ("DeadUnderstudies$Compare", "left", "LDeadUnderstudies$Sum;", true)
  | _ => ("DeadUnderstudies$Compare", "right", "LDeadUnderstudies$Sum;", true)
def tyX21 : Nat → FieldType := fun k => match k with
  | 0 => .char
  | 1 => .object "DeadUnderstudies$Sum"
  | _ => .object "DeadUnderstudies$Sum"
abbrev wsX210 : List Cond := u_ws RX21 TX21 3
theorem nmX21 : ∀ a, a < 3 → ∀ b, b < 3 → a ≠ b → (TX21 a).2.1 ≠ (TX21 b).2.1 := by decide +kernel
theorem tyX21_ok : ∀ k, k < 3 → parseFieldDescriptor (TX21 k).2.2.1 = some (tyX21 k) := by decide +kernel
abbrev cX21_init : ByteArray := prog_7_method_1_code
def yX21_init : MethodName := ⟨RX21, "<init>", "(CLDeadUnderstudies$Sum;LDeadUnderstudies$Sum;)V"⟩
def dkwX21_init_0 : List UInt8 := [42, 183, 0, 1, 42, 27, 181, 0, 7, 42, 44, 181, 0, 13, 42, 45, 181, 0, 17, 177]
abbrev dktX21_init_0 : List UInt8 := dkwX21_init_0 ++ []
theorem dksX21_init_0 : cX21_init.data.toList.drop 0 = dktX21_init_0 := by decide +kernel
theorem dX21_init_0 : decode cX21_init 0 = .ok (.aload_n 0, 1) := dk_42 (dk_at dksX21_init_0 0 rfl rfl)
theorem dX21_init_1 : decode cX21_init 1 = .ok (.invokespecial 1, 3) := dk_183 0 1 (dk_at dksX21_init_0 1 rfl rfl)
theorem dX21_init_4 : decode cX21_init 4 = .ok (.aload_n 0, 1) := dk_42 (dk_at dksX21_init_0 4 rfl rfl)
theorem dX21_init_5 : decode cX21_init 5 = .ok (.iload_n 1, 1) := dk_27 (dk_at dksX21_init_0 5 rfl rfl)
theorem dX21_init_6 : decode cX21_init 6 = .ok (.putfield 7, 3) := dk_181 0 7 (dk_at dksX21_init_0 6 rfl rfl)
theorem dX21_init_9 : decode cX21_init 9 = .ok (.aload_n 0, 1) := dk_42 (dk_at dksX21_init_0 9 rfl rfl)
theorem dX21_init_10 : decode cX21_init 10 = .ok (.aload_n 2, 1) := dk_44 (dk_at dksX21_init_0 10 rfl rfl)
theorem dX21_init_11 : decode cX21_init 11 = .ok (.putfield 13, 3) := dk_181 0 13 (dk_at dksX21_init_0 11 rfl rfl)
theorem dX21_init_14 : decode cX21_init 14 = .ok (.aload_n 0, 1) := dk_42 (dk_at dksX21_init_0 14 rfl rfl)
theorem dX21_init_15 : decode cX21_init 15 = .ok (.aload_n 3, 1) := dk_45 (dk_at dksX21_init_0 15 rfl rfl)
theorem dX21_init_16 : decode cX21_init 16 = .ok (.putfield 17, 3) := dk_181 0 17 (dk_at dksX21_init_0 16 rfl rfl)
theorem dX21_init_19 : decode cX21_init 19 = .ok (.return_, 1) := dk_177 (dk_at dksX21_init_0 19 rfl rfl)
abbrev cX21_is : ByteArray := prog_7_method_2_code
def yX21_is : MethodName := ⟨RX21, "is", "(LDeadUnderstudies$Setting;)Z"⟩
def dkwX21_is_3 : List UInt8 := [154, 0, 7, 4, 167, 0, 4, 3, 172]
abbrev dktX21_is_3 : List UInt8 := dkwX21_is_3 ++ []
def dkwX21_is_2 : List UInt8 := [16, 62, 160, 0, 18, 32, 22, 4, 148, 158, 0, 7, 4, 167, 0, 19, 3, 167, 0, 15, 32, 22, 4, 148]
abbrev dktX21_is_2 : List UInt8 := dkwX21_is_2 ++ dktX21_is_3
def dkwX21_is_1 : List UInt8 := [16, 60, 160, 0, 18, 32, 22, 4, 148, 156, 0, 7, 4, 167, 0, 43, 3, 167, 0, 39, 42, 180, 0, 7]
abbrev dktX21_is_1 : List UInt8 := dkwX21_is_1 ++ dktX21_is_2
def dkwX21_is_0 : List UInt8 := [42, 180, 0, 13, 43, 182, 0, 20, 65, 42, 180, 0, 17, 43, 182, 0, 20, 55, 4, 42, 180, 0, 7]
abbrev dktX21_is_0 : List UInt8 := dkwX21_is_0 ++ dktX21_is_1
theorem dksX21_is_0 : cX21_is.data.toList.drop 0 = dktX21_is_0 := by decide +kernel
theorem dksX21_is_1 : cX21_is.data.toList.drop 23 = dktX21_is_1 := dk_seg dksX21_is_0 23 rfl rfl
theorem dksX21_is_2 : cX21_is.data.toList.drop 47 = dktX21_is_2 := dk_seg dksX21_is_1 24 rfl rfl
theorem dksX21_is_3 : cX21_is.data.toList.drop 71 = dktX21_is_3 := dk_seg dksX21_is_2 24 rfl rfl
theorem dX21_is_0 : decode cX21_is 0 = .ok (.aload_n 0, 1) := dk_42 (dk_at dksX21_is_0 0 rfl rfl)
theorem dX21_is_1 : decode cX21_is 1 = .ok (.getfield 13, 3) := dk_180 0 13 (dk_at dksX21_is_0 1 rfl rfl)
theorem dX21_is_4 : decode cX21_is 4 = .ok (.aload_n 1, 1) := dk_43 (dk_at dksX21_is_0 4 rfl rfl)
theorem dX21_is_5 : decode cX21_is 5 = .ok (.invokevirtual 20, 3) := dk_182 0 20 (dk_at dksX21_is_0 5 rfl rfl)
theorem dX21_is_8 : decode cX21_is 8 = .ok (.lstore_n 2, 1) := dk_65 (dk_at dksX21_is_0 8 rfl rfl)
theorem dX21_is_9 : decode cX21_is 9 = .ok (.aload_n 0, 1) := dk_42 (dk_at dksX21_is_0 9 rfl rfl)
theorem dX21_is_10 : decode cX21_is 10 = .ok (.getfield 17, 3) := dk_180 0 17 (dk_at dksX21_is_0 10 rfl rfl)
theorem dX21_is_13 : decode cX21_is 13 = .ok (.aload_n 1, 1) := dk_43 (dk_at dksX21_is_0 13 rfl rfl)
theorem dX21_is_14 : decode cX21_is 14 = .ok (.invokevirtual 20, 3) := dk_182 0 20 (dk_at dksX21_is_0 14 rfl rfl)
theorem dX21_is_17 : decode cX21_is 17 = .ok (.lstore 4, 2) := dk_55 4 (dk_at dksX21_is_0 17 rfl rfl)
theorem dX21_is_19 : decode cX21_is 19 = .ok (.aload_n 0, 1) := dk_42 (dk_at dksX21_is_0 19 rfl rfl)
theorem dX21_is_20 : decode cX21_is 20 = .ok (.getfield 7, 3) := dk_180 0 7 (dk_at dksX21_is_0 20 rfl rfl)
theorem dX21_is_23 : decode cX21_is 23 = .ok (.bipush 60, 2) := dk_16 60 (dk_at dksX21_is_1 0 rfl rfl)
theorem dX21_is_25 : decode cX21_is 25 = .ok (.if_icmp .ne 18, 3) := dk_160 0 18 (dk_at dksX21_is_1 2 rfl rfl)
theorem dX21_is_28 : decode cX21_is 28 = .ok (.lload_n 2, 1) := dk_32 (dk_at dksX21_is_1 5 rfl rfl)
theorem dX21_is_29 : decode cX21_is 29 = .ok (.lload 4, 2) := dk_22 4 (dk_at dksX21_is_1 6 rfl rfl)
theorem dX21_is_31 : decode cX21_is 31 = .ok (.lcmp, 1) := dk_148 (dk_at dksX21_is_1 8 rfl rfl)
theorem dX21_is_32 : decode cX21_is 32 = .ok (.ifCond .ge 7, 3) := dk_156 0 7 (dk_at dksX21_is_1 9 rfl rfl)
theorem dX21_is_35 : decode cX21_is 35 = .ok (.iconst 1, 1) := dk_4 (dk_at dksX21_is_1 12 rfl rfl)
theorem dX21_is_36 : decode cX21_is 36 = .ok (.goto 43, 3) := dk_167 0 43 (dk_at dksX21_is_1 13 rfl rfl)
theorem dX21_is_39 : decode cX21_is 39 = .ok (.iconst 0, 1) := dk_3 (dk_at dksX21_is_1 16 rfl rfl)
theorem dX21_is_40 : decode cX21_is 40 = .ok (.goto 39, 3) := dk_167 0 39 (dk_at dksX21_is_1 17 rfl rfl)
theorem dX21_is_43 : decode cX21_is 43 = .ok (.aload_n 0, 1) := dk_42 (dk_at dksX21_is_1 20 rfl rfl)
theorem dX21_is_44 : decode cX21_is 44 = .ok (.getfield 7, 3) := dk_180 0 7 (dk_at dksX21_is_1 21 rfl rfl)
theorem dX21_is_47 : decode cX21_is 47 = .ok (.bipush 62, 2) := dk_16 62 (dk_at dksX21_is_2 0 rfl rfl)
theorem dX21_is_49 : decode cX21_is 49 = .ok (.if_icmp .ne 18, 3) := dk_160 0 18 (dk_at dksX21_is_2 2 rfl rfl)
theorem dX21_is_52 : decode cX21_is 52 = .ok (.lload_n 2, 1) := dk_32 (dk_at dksX21_is_2 5 rfl rfl)
theorem dX21_is_53 : decode cX21_is 53 = .ok (.lload 4, 2) := dk_22 4 (dk_at dksX21_is_2 6 rfl rfl)
theorem dX21_is_55 : decode cX21_is 55 = .ok (.lcmp, 1) := dk_148 (dk_at dksX21_is_2 8 rfl rfl)
theorem dX21_is_56 : decode cX21_is 56 = .ok (.ifCond .le 7, 3) := dk_158 0 7 (dk_at dksX21_is_2 9 rfl rfl)
theorem dX21_is_59 : decode cX21_is 59 = .ok (.iconst 1, 1) := dk_4 (dk_at dksX21_is_2 12 rfl rfl)
theorem dX21_is_60 : decode cX21_is 60 = .ok (.goto 19, 3) := dk_167 0 19 (dk_at dksX21_is_2 13 rfl rfl)
theorem dX21_is_63 : decode cX21_is 63 = .ok (.iconst 0, 1) := dk_3 (dk_at dksX21_is_2 16 rfl rfl)
theorem dX21_is_64 : decode cX21_is 64 = .ok (.goto 15, 3) := dk_167 0 15 (dk_at dksX21_is_2 17 rfl rfl)
theorem dX21_is_67 : decode cX21_is 67 = .ok (.lload_n 2, 1) := dk_32 (dk_at dksX21_is_2 20 rfl rfl)
theorem dX21_is_68 : decode cX21_is 68 = .ok (.lload 4, 2) := dk_22 4 (dk_at dksX21_is_2 21 rfl rfl)
theorem dX21_is_70 : decode cX21_is 70 = .ok (.lcmp, 1) := dk_148 (dk_at dksX21_is_2 23 rfl rfl)
theorem dX21_is_71 : decode cX21_is 71 = .ok (.ifCond .ne 7, 3) := dk_154 0 7 (dk_at dksX21_is_3 0 rfl rfl)
theorem dX21_is_74 : decode cX21_is 74 = .ok (.iconst 1, 1) := dk_4 (dk_at dksX21_is_3 3 rfl rfl)
theorem dX21_is_75 : decode cX21_is 75 = .ok (.goto 4, 3) := dk_167 0 4 (dk_at dksX21_is_3 4 rfl rfl)
theorem dX21_is_78 : decode cX21_is 78 = .ok (.iconst 0, 1) := dk_3 (dk_at dksX21_is_3 7 rfl rfl)
theorem dX21_is_79 : decode cX21_is 79 = .ok (.ireturn, 1) := dk_172 (dk_at dksX21_is_3 8 rfl rfl)
theorem q147 : (Jvm.Cond.initialized "DeadUnderstudies$Compare") ∈ lw_all := lw_g (lw_at lw_m1 36 rfl) rfl
theorem q647 : (Jvm.Cond.selects "DeadUnderstudies$Compare" ({ cls := "java/lang/Object", name := "getClass", desc := "()Ljava/lang/Class;" } : Jvm.MethodName) ({ cls := "java/lang/Object", name := "getClass", desc := "()Ljava/lang/Class;" } : Jvm.MethodName)) ∈ lw_all := lw_g (lw_at lw_m3 56 rfl) rfl
theorem q1191 : (Jvm.Cond.instantiable "DeadUnderstudies$Compare" (3 : Nat)) ∈ lw_all := lw_g (lw_at lw_m5 120 rfl) rfl
theorem q1193 : (Jvm.Cond.instanceMethod ({ cls := "DeadUnderstudies$Compare", name := "<init>", desc := "(CLDeadUnderstudies$Sum;LDeadUnderstudies$Sum;)V" } : Jvm.MethodName)) ∈ lw_all := lw_g (lw_at lw_m5 122 rfl) rfl
theorem q1194 : (Jvm.Cond.code ({ cls := "DeadUnderstudies$Compare", name := "<init>", desc := "(CLDeadUnderstudies$Sum;LDeadUnderstudies$Sum;)V" } : Jvm.MethodName) prog_7_method_1_code (4 : Nat) (Option.none : Option Jvm.ClassFile.FieldType)) ∈ lw_all := lw_g (lw_at lw_m5 123 rfl) rfl
theorem q1195 : (Jvm.Cond.methodLinkNest "DeadUnderstudies$Compare" (1 : Nat) ({ cls := "DeadUnderstudies$Test", name := "<init>", desc := "()V" } : Jvm.MethodName) "DeadUnderstudies") ∈ lw_tbl := lw_at lw_m5 124 rfl
theorem q1199 : (Jvm.Cond.fieldLink "DeadUnderstudies$Compare" (7 : Nat) "DeadUnderstudies$Compare" "sign" "C") ∈ lw_all := lw_g (lw_at lw_m5 128 rfl) rfl
theorem q1200 : (Jvm.Cond.fieldLink "DeadUnderstudies$Compare" (13 : Nat) "DeadUnderstudies$Compare" "left" "LDeadUnderstudies$Sum;") ∈ lw_all := lw_g (lw_at lw_m5 129 rfl) rfl
theorem q1201 : (Jvm.Cond.fieldLink "DeadUnderstudies$Compare" (17 : Nat) "DeadUnderstudies$Compare" "right" "LDeadUnderstudies$Sum;") ∈ lw_all := lw_g (lw_at lw_m5 130 rfl) rfl
theorem q1202 : (Jvm.Cond.laysFinal "DeadUnderstudies$Compare" "DeadUnderstudies$Compare" "sign" "C") ∈ lw_all := lw_g (lw_at lw_m5 131 rfl) rfl
theorem q1203 : (Jvm.Cond.soleField "DeadUnderstudies$Compare" "sign") ∈ lw_all := lw_g (lw_at lw_m5 132 rfl) rfl
theorem q1204 : (Jvm.Cond.laysFinal "DeadUnderstudies$Compare" "DeadUnderstudies$Compare" "left" "LDeadUnderstudies$Sum;") ∈ lw_all := lw_g (lw_at lw_m5 133 rfl) rfl
theorem q1205 : (Jvm.Cond.soleField "DeadUnderstudies$Compare" "left") ∈ lw_all := lw_g (lw_at lw_m5 134 rfl) rfl
theorem q1206 : (Jvm.Cond.laysFinal "DeadUnderstudies$Compare" "DeadUnderstudies$Compare" "right" "LDeadUnderstudies$Sum;") ∈ lw_all := lw_g (lw_at lw_m5 135 rfl) rfl
theorem q1207 : (Jvm.Cond.soleField "DeadUnderstudies$Compare" "right") ∈ lw_all := lw_g (lw_at lw_m5 136 rfl) rfl
theorem q1208 : (Jvm.Cond.superclass "DeadUnderstudies$Compare" "DeadUnderstudies$Test") ∈ lw_all := lw_g (lw_at lw_m5 137 rfl) rfl
theorem q1322 : (Jvm.Cond.selects "DeadUnderstudies$Compare" ({ cls := "DeadUnderstudies$Test", name := "is", desc := "(LDeadUnderstudies$Setting;)Z" } : Jvm.MethodName) ({ cls := "DeadUnderstudies$Compare", name := "is", desc := "(LDeadUnderstudies$Setting;)Z" } : Jvm.MethodName)) ∈ lw_all := lw_g (lw_at lw_m6 11 rfl) rfl
theorem q1323 : (Jvm.Cond.instanceMethod ({ cls := "DeadUnderstudies$Compare", name := "is", desc := "(LDeadUnderstudies$Setting;)Z" } : Jvm.MethodName)) ∈ lw_all := lw_g (lw_at lw_m6 12 rfl) rfl
theorem q1324 : (Jvm.Cond.code ({ cls := "DeadUnderstudies$Compare", name := "is", desc := "(LDeadUnderstudies$Setting;)Z" } : Jvm.MethodName) prog_7_method_2_code (6 : Nat) (Option.some Jvm.ClassFile.FieldType.boolean)) ∈ lw_all := lw_g (lw_at lw_m6 13 rfl) rfl
theorem q1325 : (Jvm.Cond.methodLink "DeadUnderstudies$Compare" (20 : Nat) ({ cls := "DeadUnderstudies$Sum", name := "of", desc := "(LDeadUnderstudies$Setting;)J" } : Jvm.MethodName)) ∈ lw_all := lw_g (lw_at lw_m6 14 rfl) rfl
theorem q2596 : (Jvm.Cond.castable "DeadUnderstudies$Compare" "DeadUnderstudies$Test") ∈ lw_tbl := lw_at lw_m11 85 rfl
theorem q2618 : (Jvm.Cond.castable "DeadUnderstudies$Compare" "java/lang/Object") ∈ lw_tbl := lw_at lw_m11 107 rfl
theorem in_X21 : ∀ w ∈ wsX210, w ∈ lw_all := lw_in wsX210 [1202, 1204, 1206] (by decide +kernel) (by decide +kernel)
/-! DeadUnderstudies$Not -/
def RX22 : String := "DeadUnderstudies$Not"
def TX22 : u_T := fun k => match k with
  | _ => ("DeadUnderstudies$Not", "of", "LDeadUnderstudies$Test;", true)
def tyX22 : Nat → FieldType := fun k => match k with
  | _ => .object "DeadUnderstudies$Test"
abbrev wsX220 : List Cond := u_ws RX22 TX22 1
theorem nmX22 : ∀ a, a < 1 → ∀ b, b < 1 → a ≠ b → (TX22 a).2.1 ≠ (TX22 b).2.1 := by decide +kernel
theorem tyX22_ok : ∀ k, k < 1 → parseFieldDescriptor (TX22 k).2.2.1 = some (tyX22 k) := by decide +kernel
abbrev cX22_init : ByteArray := prog_13_method_1_code
def yX22_init : MethodName := ⟨RX22, "<init>", "(LDeadUnderstudies$Test;)V"⟩
def dkwX22_init_0 : List UInt8 := [42, 183, 0, 1, 42, 43, 181, 0, 7, 177]
abbrev dktX22_init_0 : List UInt8 := dkwX22_init_0 ++ []
theorem dksX22_init_0 : cX22_init.data.toList.drop 0 = dktX22_init_0 := by decide +kernel
theorem dX22_init_0 : decode cX22_init 0 = .ok (.aload_n 0, 1) := dk_42 (dk_at dksX22_init_0 0 rfl rfl)
theorem dX22_init_1 : decode cX22_init 1 = .ok (.invokespecial 1, 3) := dk_183 0 1 (dk_at dksX22_init_0 1 rfl rfl)
theorem dX22_init_4 : decode cX22_init 4 = .ok (.aload_n 0, 1) := dk_42 (dk_at dksX22_init_0 4 rfl rfl)
theorem dX22_init_5 : decode cX22_init 5 = .ok (.aload_n 1, 1) := dk_43 (dk_at dksX22_init_0 5 rfl rfl)
theorem dX22_init_6 : decode cX22_init 6 = .ok (.putfield 7, 3) := dk_181 0 7 (dk_at dksX22_init_0 6 rfl rfl)
theorem dX22_init_9 : decode cX22_init 9 = .ok (.return_, 1) := dk_177 (dk_at dksX22_init_0 9 rfl rfl)
abbrev cX22_is : ByteArray := prog_13_method_2_code
def yX22_is : MethodName := ⟨RX22, "is", "(LDeadUnderstudies$Setting;)Z"⟩
def dkwX22_is_0 : List UInt8 := [42, 180, 0, 7, 43, 182, 0, 13, 154, 0, 7, 4, 167, 0, 4, 3, 172]
abbrev dktX22_is_0 : List UInt8 := dkwX22_is_0 ++ []
theorem dksX22_is_0 : cX22_is.data.toList.drop 0 = dktX22_is_0 := by decide +kernel
theorem dX22_is_0 : decode cX22_is 0 = .ok (.aload_n 0, 1) := dk_42 (dk_at dksX22_is_0 0 rfl rfl)
theorem dX22_is_1 : decode cX22_is 1 = .ok (.getfield 7, 3) := dk_180 0 7 (dk_at dksX22_is_0 1 rfl rfl)
theorem dX22_is_4 : decode cX22_is 4 = .ok (.aload_n 1, 1) := dk_43 (dk_at dksX22_is_0 4 rfl rfl)
theorem dX22_is_5 : decode cX22_is 5 = .ok (.invokevirtual 13, 3) := dk_182 0 13 (dk_at dksX22_is_0 5 rfl rfl)
theorem dX22_is_8 : decode cX22_is 8 = .ok (.ifCond .ne 7, 3) := dk_154 0 7 (dk_at dksX22_is_0 8 rfl rfl)
theorem dX22_is_11 : decode cX22_is 11 = .ok (.iconst 1, 1) := dk_4 (dk_at dksX22_is_0 11 rfl rfl)
theorem dX22_is_12 : decode cX22_is 12 = .ok (.goto 4, 3) := dk_167 0 4 (dk_at dksX22_is_0 12 rfl rfl)
theorem dX22_is_15 : decode cX22_is 15 = .ok (.iconst 0, 1) := dk_3 (dk_at dksX22_is_0 15 rfl rfl)
theorem dX22_is_16 : decode cX22_is 16 = .ok (.ireturn, 1) := dk_172 (dk_at dksX22_is_0 16 rfl rfl)
theorem q148 : (Jvm.Cond.initialized "DeadUnderstudies$Not") ∈ lw_all := lw_g (lw_at lw_m1 37 rfl) rfl
theorem q653 : (Jvm.Cond.selects "DeadUnderstudies$Not" ({ cls := "java/lang/Object", name := "getClass", desc := "()Ljava/lang/Class;" } : Jvm.MethodName) ({ cls := "java/lang/Object", name := "getClass", desc := "()Ljava/lang/Class;" } : Jvm.MethodName)) ∈ lw_all := lw_g (lw_at lw_m3 62 rfl) rfl
theorem q1210 : (Jvm.Cond.instantiable "DeadUnderstudies$Not" (1 : Nat)) ∈ lw_all := lw_g (lw_at lw_m5 139 rfl) rfl
theorem q1212 : (Jvm.Cond.instanceMethod ({ cls := "DeadUnderstudies$Not", name := "<init>", desc := "(LDeadUnderstudies$Test;)V" } : Jvm.MethodName)) ∈ lw_all := lw_g (lw_at lw_m5 141 rfl) rfl
theorem q1213 : (Jvm.Cond.code ({ cls := "DeadUnderstudies$Not", name := "<init>", desc := "(LDeadUnderstudies$Test;)V" } : Jvm.MethodName) prog_13_method_1_code (2 : Nat) (Option.none : Option Jvm.ClassFile.FieldType)) ∈ lw_all := lw_g (lw_at lw_m5 142 rfl) rfl
theorem q1214 : (Jvm.Cond.methodLinkNest "DeadUnderstudies$Not" (1 : Nat) ({ cls := "DeadUnderstudies$Test", name := "<init>", desc := "()V" } : Jvm.MethodName) "DeadUnderstudies") ∈ lw_tbl := lw_at lw_m5 143 rfl
theorem q1215 : (Jvm.Cond.fieldLink "DeadUnderstudies$Not" (7 : Nat) "DeadUnderstudies$Not" "of" "LDeadUnderstudies$Test;") ∈ lw_all := lw_g (lw_at lw_m5 144 rfl) rfl
theorem q1216 : (Jvm.Cond.laysFinal "DeadUnderstudies$Not" "DeadUnderstudies$Not" "of" "LDeadUnderstudies$Test;") ∈ lw_all := lw_g (lw_at lw_m5 145 rfl) rfl
theorem q1217 : (Jvm.Cond.soleField "DeadUnderstudies$Not" "of") ∈ lw_all := lw_g (lw_at lw_m5 146 rfl) rfl
theorem q1218 : (Jvm.Cond.superclass "DeadUnderstudies$Not" "DeadUnderstudies$Test") ∈ lw_all := lw_g (lw_at lw_m5 147 rfl) rfl
theorem q1340 : (Jvm.Cond.selects "DeadUnderstudies$Not" ({ cls := "DeadUnderstudies$Test", name := "is", desc := "(LDeadUnderstudies$Setting;)Z" } : Jvm.MethodName) ({ cls := "DeadUnderstudies$Not", name := "is", desc := "(LDeadUnderstudies$Setting;)Z" } : Jvm.MethodName)) ∈ lw_all := lw_g (lw_at lw_m6 29 rfl) rfl
theorem q1341 : (Jvm.Cond.instanceMethod ({ cls := "DeadUnderstudies$Not", name := "is", desc := "(LDeadUnderstudies$Setting;)Z" } : Jvm.MethodName)) ∈ lw_all := lw_g (lw_at lw_m6 30 rfl) rfl
theorem q1342 : (Jvm.Cond.code ({ cls := "DeadUnderstudies$Not", name := "is", desc := "(LDeadUnderstudies$Setting;)Z" } : Jvm.MethodName) prog_13_method_2_code (2 : Nat) (Option.some Jvm.ClassFile.FieldType.boolean)) ∈ lw_all := lw_g (lw_at lw_m6 31 rfl) rfl
theorem q1343 : (Jvm.Cond.methodLink "DeadUnderstudies$Not" (13 : Nat) ({ cls := "DeadUnderstudies$Test", name := "is", desc := "(LDeadUnderstudies$Setting;)Z" } : Jvm.MethodName)) ∈ lw_all := lw_g (lw_at lw_m6 32 rfl) rfl
theorem q2597 : (Jvm.Cond.castable "DeadUnderstudies$Not" "DeadUnderstudies$Test") ∈ lw_tbl := lw_at lw_m11 86 rfl
theorem q2619 : (Jvm.Cond.castable "DeadUnderstudies$Not" "java/lang/Object") ∈ lw_tbl := lw_at lw_m11 108 rfl
theorem in_X22 : ∀ w ∈ wsX220, w ∈ lw_all := lw_in wsX220 [1216] (by decide +kernel) (by decide +kernel)
/-! DeadUnderstudies$Several -/
def RX23 : String := "DeadUnderstudies$Several"
def TX23 : u_T := fun k => match k with
  | 0 => ("DeadUnderstudies$Several", "all", "Z", true)
  | _ => ("DeadUnderstudies$Several", "of", "Ljava/util/ArrayList;", true)
def tyX23 : Nat → FieldType := fun k => match k with
  | 0 => .boolean
  | _ => .object "java/util/ArrayList"
abbrev wsX230 : List Cond := u_ws RX23 TX23 2
theorem nmX23 : ∀ a, a < 2 → ∀ b, b < 2 → a ≠ b → (TX23 a).2.1 ≠ (TX23 b).2.1 := by decide +kernel
theorem tyX23_ok : ∀ k, k < 2 → parseFieldDescriptor (TX23 k).2.2.1 = some (tyX23 k) := by decide +kernel
abbrev cX23_init : ByteArray := prog_20_method_1_code
def yX23_init : MethodName := ⟨RX23, "<init>", "(Z)V"⟩
def dkwX23_init_0 : List UInt8 := [42, 183, 0, 1, 42, 187, 0, 7, 89, 5, 183, 0, 9, 181, 0, 12, 42, 27, 181, 0, 18, 177]
abbrev dktX23_init_0 : List UInt8 := dkwX23_init_0 ++ []
theorem dksX23_init_0 : cX23_init.data.toList.drop 0 = dktX23_init_0 := by decide +kernel
theorem dX23_init_0 : decode cX23_init 0 = .ok (.aload_n 0, 1) := dk_42 (dk_at dksX23_init_0 0 rfl rfl)
theorem dX23_init_1 : decode cX23_init 1 = .ok (.invokespecial 1, 3) := dk_183 0 1 (dk_at dksX23_init_0 1 rfl rfl)
theorem dX23_init_4 : decode cX23_init 4 = .ok (.aload_n 0, 1) := dk_42 (dk_at dksX23_init_0 4 rfl rfl)
theorem dX23_init_5 : decode cX23_init 5 = .ok (.new 7, 3) := dk_187 0 7 (dk_at dksX23_init_0 5 rfl rfl)
theorem dX23_init_8 : decode cX23_init 8 = .ok (.dup, 1) := dk_89 (dk_at dksX23_init_0 8 rfl rfl)
theorem dX23_init_9 : decode cX23_init 9 = .ok (.iconst 2, 1) := dk_5 (dk_at dksX23_init_0 9 rfl rfl)
theorem dX23_init_10 : decode cX23_init 10 = .ok (.invokespecial 9, 3) := dk_183 0 9 (dk_at dksX23_init_0 10 rfl rfl)
theorem dX23_init_13 : decode cX23_init 13 = .ok (.putfield 12, 3) := dk_181 0 12 (dk_at dksX23_init_0 13 rfl rfl)
theorem dX23_init_16 : decode cX23_init 16 = .ok (.aload_n 0, 1) := dk_42 (dk_at dksX23_init_0 16 rfl rfl)
theorem dX23_init_17 : decode cX23_init 17 = .ok (.iload_n 1, 1) := dk_27 (dk_at dksX23_init_0 17 rfl rfl)
theorem dX23_init_18 : decode cX23_init 18 = .ok (.putfield 18, 3) := dk_181 0 18 (dk_at dksX23_init_0 18 rfl rfl)
theorem dX23_init_21 : decode cX23_init 21 = .ok (.return_, 1) := dk_177 (dk_at dksX23_init_0 21 rfl rfl)
abbrev cX23_is : ByteArray := prog_20_method_2_code
def yX23_is : MethodName := ⟨RX23, "is", "(LDeadUnderstudies$Setting;)Z"⟩
def dkwX23_is_2 : List UInt8 := [132, 2, 1, 167, 255, 207, 42, 180, 0, 18, 172]
abbrev dktX23_is_2 : List UInt8 := dkwX23_is_2 ++ []
def dkwX23_is_1 : List UInt8 := [43, 182, 0, 30, 42, 180, 0, 18, 159, 0, 16, 42, 180, 0, 18, 154, 0, 7, 4, 167, 0, 4, 3, 172]
abbrev dktX23_is_1 : List UInt8 := dkwX23_is_1 ++ dktX23_is_2
def dkwX23_is_0 : List UInt8 := [3, 61, 28, 42, 180, 0, 12, 182, 0, 22, 162, 0, 44, 42, 180, 0, 12, 28, 182, 0, 26, 192, 0, 2]
abbrev dktX23_is_0 : List UInt8 := dkwX23_is_0 ++ dktX23_is_1
theorem dksX23_is_0 : cX23_is.data.toList.drop 0 = dktX23_is_0 := by decide +kernel
theorem dksX23_is_1 : cX23_is.data.toList.drop 24 = dktX23_is_1 := dk_seg dksX23_is_0 24 rfl rfl
theorem dksX23_is_2 : cX23_is.data.toList.drop 48 = dktX23_is_2 := dk_seg dksX23_is_1 24 rfl rfl
theorem dX23_is_0 : decode cX23_is 0 = .ok (.iconst 0, 1) := dk_3 (dk_at dksX23_is_0 0 rfl rfl)
theorem dX23_is_1 : decode cX23_is 1 = .ok (.istore_n 2, 1) := dk_61 (dk_at dksX23_is_0 1 rfl rfl)
theorem dX23_is_2 : decode cX23_is 2 = .ok (.iload_n 2, 1) := dk_28 (dk_at dksX23_is_0 2 rfl rfl)
theorem dX23_is_3 : decode cX23_is 3 = .ok (.aload_n 0, 1) := dk_42 (dk_at dksX23_is_0 3 rfl rfl)
theorem dX23_is_4 : decode cX23_is 4 = .ok (.getfield 12, 3) := dk_180 0 12 (dk_at dksX23_is_0 4 rfl rfl)
theorem dX23_is_7 : decode cX23_is 7 = .ok (.invokevirtual 22, 3) := dk_182 0 22 (dk_at dksX23_is_0 7 rfl rfl)
theorem dX23_is_10 : decode cX23_is 10 = .ok (.if_icmp .ge 44, 3) := dk_162 0 44 (dk_at dksX23_is_0 10 rfl rfl)
theorem dX23_is_13 : decode cX23_is 13 = .ok (.aload_n 0, 1) := dk_42 (dk_at dksX23_is_0 13 rfl rfl)
theorem dX23_is_14 : decode cX23_is 14 = .ok (.getfield 12, 3) := dk_180 0 12 (dk_at dksX23_is_0 14 rfl rfl)
theorem dX23_is_17 : decode cX23_is 17 = .ok (.iload_n 2, 1) := dk_28 (dk_at dksX23_is_0 17 rfl rfl)
theorem dX23_is_18 : decode cX23_is 18 = .ok (.invokevirtual 26, 3) := dk_182 0 26 (dk_at dksX23_is_0 18 rfl rfl)
theorem dX23_is_21 : decode cX23_is 21 = .ok (.checkcast 2, 3) := dk_192 0 2 (dk_at dksX23_is_0 21 rfl rfl)
theorem dX23_is_24 : decode cX23_is 24 = .ok (.aload_n 1, 1) := dk_43 (dk_at dksX23_is_1 0 rfl rfl)
theorem dX23_is_25 : decode cX23_is 25 = .ok (.invokevirtual 30, 3) := dk_182 0 30 (dk_at dksX23_is_1 1 rfl rfl)
theorem dX23_is_28 : decode cX23_is 28 = .ok (.aload_n 0, 1) := dk_42 (dk_at dksX23_is_1 4 rfl rfl)
theorem dX23_is_29 : decode cX23_is 29 = .ok (.getfield 18, 3) := dk_180 0 18 (dk_at dksX23_is_1 5 rfl rfl)
theorem dX23_is_32 : decode cX23_is 32 = .ok (.if_icmp .eq 16, 3) := dk_159 0 16 (dk_at dksX23_is_1 8 rfl rfl)
theorem dX23_is_35 : decode cX23_is 35 = .ok (.aload_n 0, 1) := dk_42 (dk_at dksX23_is_1 11 rfl rfl)
theorem dX23_is_36 : decode cX23_is 36 = .ok (.getfield 18, 3) := dk_180 0 18 (dk_at dksX23_is_1 12 rfl rfl)
theorem dX23_is_39 : decode cX23_is 39 = .ok (.ifCond .ne 7, 3) := dk_154 0 7 (dk_at dksX23_is_1 15 rfl rfl)
theorem dX23_is_42 : decode cX23_is 42 = .ok (.iconst 1, 1) := dk_4 (dk_at dksX23_is_1 18 rfl rfl)
theorem dX23_is_43 : decode cX23_is 43 = .ok (.goto 4, 3) := dk_167 0 4 (dk_at dksX23_is_1 19 rfl rfl)
theorem dX23_is_46 : decode cX23_is 46 = .ok (.iconst 0, 1) := dk_3 (dk_at dksX23_is_1 22 rfl rfl)
theorem dX23_is_47 : decode cX23_is 47 = .ok (.ireturn, 1) := dk_172 (dk_at dksX23_is_1 23 rfl rfl)
theorem dX23_is_48 : decode cX23_is 48 = .ok (.iinc 2 1, 3) := dk_132 2 1 (dk_at dksX23_is_2 0 rfl rfl)
theorem dX23_is_51 : decode cX23_is 51 = .ok (.goto (-49), 3) := dk_167 255 207 (dk_at dksX23_is_2 3 rfl rfl)
theorem dX23_is_54 : decode cX23_is 54 = .ok (.aload_n 0, 1) := dk_42 (dk_at dksX23_is_2 6 rfl rfl)
theorem dX23_is_55 : decode cX23_is 55 = .ok (.getfield 18, 3) := dk_180 0 18 (dk_at dksX23_is_2 7 rfl rfl)
theorem dX23_is_58 : decode cX23_is 58 = .ok (.ireturn, 1) := dk_172 (dk_at dksX23_is_2 10 rfl rfl)
theorem q149 : (Jvm.Cond.initialized "DeadUnderstudies$Several") ∈ lw_all := lw_g (lw_at lw_m1 38 rfl) rfl
theorem q659 : (Jvm.Cond.selects "DeadUnderstudies$Several" ({ cls := "java/lang/Object", name := "getClass", desc := "()Ljava/lang/Class;" } : Jvm.MethodName) ({ cls := "java/lang/Object", name := "getClass", desc := "()Ljava/lang/Class;" } : Jvm.MethodName)) ∈ lw_all := lw_g (lw_at lw_m3 68 rfl) rfl
theorem q1221 : (Jvm.Cond.instantiable "DeadUnderstudies$Several" (2 : Nat)) ∈ lw_all := lw_g (lw_at lw_m5 150 rfl) rfl
theorem q1223 : (Jvm.Cond.instanceMethod ({ cls := "DeadUnderstudies$Several", name := "<init>", desc := "(Z)V" } : Jvm.MethodName)) ∈ lw_all := lw_g (lw_at lw_m5 152 rfl) rfl
theorem q1224 : (Jvm.Cond.code ({ cls := "DeadUnderstudies$Several", name := "<init>", desc := "(Z)V" } : Jvm.MethodName) prog_20_method_1_code (2 : Nat) (Option.none : Option Jvm.ClassFile.FieldType)) ∈ lw_all := lw_g (lw_at lw_m5 153 rfl) rfl
theorem q1225 : (Jvm.Cond.methodLinkNest "DeadUnderstudies$Several" (1 : Nat) ({ cls := "DeadUnderstudies$Test", name := "<init>", desc := "()V" } : Jvm.MethodName) "DeadUnderstudies") ∈ lw_tbl := lw_at lw_m5 154 rfl
theorem q1226 : (Jvm.Cond.classLink "DeadUnderstudies$Several" (7 : Nat) "java/util/ArrayList") ∈ lw_all := lw_g (lw_at lw_m5 155 rfl) rfl
theorem q1227 : (Jvm.Cond.methodLink "DeadUnderstudies$Several" (9 : Nat) ({ cls := "java/util/ArrayList", name := "<init>", desc := "(I)V" } : Jvm.MethodName)) ∈ lw_all := lw_g (lw_at lw_m5 156 rfl) rfl
theorem q1228 : (Jvm.Cond.fieldLink "DeadUnderstudies$Several" (18 : Nat) "DeadUnderstudies$Several" "all" "Z") ∈ lw_all := lw_g (lw_at lw_m5 157 rfl) rfl
theorem q1229 : (Jvm.Cond.fieldLink "DeadUnderstudies$Several" (12 : Nat) "DeadUnderstudies$Several" "of" "Ljava/util/ArrayList;") ∈ lw_all := lw_g (lw_at lw_m5 158 rfl) rfl
theorem q1231 : (Jvm.Cond.laysFinal "DeadUnderstudies$Several" "DeadUnderstudies$Several" "all" "Z") ∈ lw_all := lw_g (lw_at lw_m5 160 rfl) rfl
theorem q1232 : (Jvm.Cond.soleField "DeadUnderstudies$Several" "all") ∈ lw_all := lw_g (lw_at lw_m5 161 rfl) rfl
theorem q1233 : (Jvm.Cond.laysFinal "DeadUnderstudies$Several" "DeadUnderstudies$Several" "of" "Ljava/util/ArrayList;") ∈ lw_all := lw_g (lw_at lw_m5 162 rfl) rfl
theorem q1234 : (Jvm.Cond.soleField "DeadUnderstudies$Several" "of") ∈ lw_all := lw_g (lw_at lw_m5 163 rfl) rfl
theorem q1235 : (Jvm.Cond.superclass "DeadUnderstudies$Several" "DeadUnderstudies$Test") ∈ lw_all := lw_g (lw_at lw_m5 164 rfl) rfl
theorem q1344 : (Jvm.Cond.instanceMethod ({ cls := "DeadUnderstudies$Several", name := "is", desc := "(LDeadUnderstudies$Setting;)Z" } : Jvm.MethodName)) ∈ lw_all := lw_g (lw_at lw_m6 33 rfl) rfl
theorem q1345 : (Jvm.Cond.code ({ cls := "DeadUnderstudies$Several", name := "is", desc := "(LDeadUnderstudies$Setting;)Z" } : Jvm.MethodName) prog_20_method_2_code (3 : Nat) (Option.some Jvm.ClassFile.FieldType.boolean)) ∈ lw_all := lw_g (lw_at lw_m6 34 rfl) rfl
theorem q1346 : (Jvm.Cond.methodLink "DeadUnderstudies$Several" (22 : Nat) ({ cls := "java/util/ArrayList", name := "size", desc := "()I" } : Jvm.MethodName)) ∈ lw_all := lw_g (lw_at lw_m6 35 rfl) rfl
theorem q1347 : (Jvm.Cond.methodLink "DeadUnderstudies$Several" (26 : Nat) ({ cls := "java/util/ArrayList", name := "get", desc := "(I)Ljava/lang/Object;" } : Jvm.MethodName)) ∈ lw_all := lw_g (lw_at lw_m6 36 rfl) rfl
theorem q1348 : (Jvm.Cond.classLink "DeadUnderstudies$Several" (2 : Nat) "DeadUnderstudies$Test") ∈ lw_all := lw_g (lw_at lw_m6 37 rfl) rfl
theorem q1349 : (Jvm.Cond.methodLink "DeadUnderstudies$Several" (30 : Nat) ({ cls := "DeadUnderstudies$Test", name := "is", desc := "(LDeadUnderstudies$Setting;)Z" } : Jvm.MethodName)) ∈ lw_all := lw_g (lw_at lw_m6 38 rfl) rfl
theorem q1350 : (Jvm.Cond.selects "DeadUnderstudies$Several" ({ cls := "DeadUnderstudies$Test", name := "is", desc := "(LDeadUnderstudies$Setting;)Z" } : Jvm.MethodName) ({ cls := "DeadUnderstudies$Several", name := "is", desc := "(LDeadUnderstudies$Setting;)Z" } : Jvm.MethodName)) ∈ lw_all := lw_g (lw_at lw_m6 39 rfl) rfl
theorem q2598 : (Jvm.Cond.castable "DeadUnderstudies$Several" "DeadUnderstudies$Test") ∈ lw_tbl := lw_at lw_m11 87 rfl
theorem q2620 : (Jvm.Cond.castable "DeadUnderstudies$Several" "java/lang/Object") ∈ lw_tbl := lw_at lw_m11 109 rfl
theorem in_X23 : ∀ w ∈ wsX230, w ∈ lw_all := lw_in wsX230 [1231, 1233] (by decide +kernel) (by decide +kernel)
/-! DeadUnderstudies$Line -/
def RX24 : String := "DeadUnderstudies$Line"
def TX24 : u_T := fun k => match k with
  | 0 => ("DeadUnderstudies$Line", "state", "I", false)
  | 1 => ("DeadUnderstudies$Line", "cue", "I", false)
  | 2 => ("DeadUnderstudies$Line", "word", "LDeadUnderstudies$Sum;", false)
  | 3 => ("DeadUnderstudies$Line", "go", "LDeadUnderstudies$Sum;", false)
  | _ => ("DeadUnderstudies$Line", "when", "LDeadUnderstudies$Test;", false)
def tyX24 : Nat → FieldType := fun k => match k with
  | 0 => .int
  | 1 => .int
  | 2 => .object "DeadUnderstudies$Sum"
  | 3 => .object "DeadUnderstudies$Sum"
  | _ => .object "DeadUnderstudies$Test"
abbrev wsX240 : List Cond := u_ws RX24 TX24 5
theorem nmX24 : ∀ a, a < 5 → ∀ b, b < 5 → a ≠ b → (TX24 a).2.1 ≠ (TX24 b).2.1 := by decide +kernel
theorem tyX24_ok : ∀ k, k < 5 → parseFieldDescriptor (TX24 k).2.2.1 = some (tyX24 k) := by decide +kernel
abbrev cX24_init : ByteArray := prog_12_method_1_code
def yX24_init : MethodName := ⟨RX24, "<init>", "()V"⟩
def dkwX24_init_0 : List UInt8 := [42, 183, 0, 3, 42, 2, 181, 0, 9, 42, 2, 181, 0, 15, 177]
abbrev dktX24_init_0 : List UInt8 := dkwX24_init_0 ++ []
theorem dksX24_init_0 : cX24_init.data.toList.drop 0 = dktX24_init_0 := by decide +kernel
theorem dX24_init_0 : decode cX24_init 0 = .ok (.aload_n 0, 1) := dk_42 (dk_at dksX24_init_0 0 rfl rfl)
theorem dX24_init_1 : decode cX24_init 1 = .ok (.invokespecial 3, 3) := dk_183 0 3 (dk_at dksX24_init_0 1 rfl rfl)
theorem dX24_init_4 : decode cX24_init 4 = .ok (.aload_n 0, 1) := dk_42 (dk_at dksX24_init_0 4 rfl rfl)
theorem dX24_init_5 : decode cX24_init 5 = .ok (.iconst (-1), 1) := dk_2 (dk_at dksX24_init_0 5 rfl rfl)
theorem dX24_init_6 : decode cX24_init 6 = .ok (.putfield 9, 3) := dk_181 0 9 (dk_at dksX24_init_0 6 rfl rfl)
theorem dX24_init_9 : decode cX24_init 9 = .ok (.aload_n 0, 1) := dk_42 (dk_at dksX24_init_0 9 rfl rfl)
theorem dX24_init_10 : decode cX24_init 10 = .ok (.iconst (-1), 1) := dk_2 (dk_at dksX24_init_0 10 rfl rfl)
theorem dX24_init_11 : decode cX24_init 11 = .ok (.putfield 15, 3) := dk_181 0 15 (dk_at dksX24_init_0 11 rfl rfl)
theorem dX24_init_14 : decode cX24_init 14 = .ok (.return_, 1) := dk_177 (dk_at dksX24_init_0 14 rfl rfl)
abbrev cX24_isOf : ByteArray := prog_12_method_2_code
def yX24_isOf : MethodName := ⟨RX24, "isOf", "(II)Z"⟩
def dkwX24_isOf_1 : List UInt8 := [42, 180, 0, 15, 28, 160, 0, 7, 4, 167, 0, 4, 3, 172]
abbrev dktX24_isOf_1 : List UInt8 := dkwX24_isOf_1 ++ []
def dkwX24_isOf_0 : List UInt8 := [42, 180, 0, 9, 2, 159, 0, 11, 42, 180, 0, 9, 27, 160, 0, 23, 42, 180, 0, 15, 2, 159, 0, 11]
abbrev dktX24_isOf_0 : List UInt8 := dkwX24_isOf_0 ++ dktX24_isOf_1
theorem dksX24_isOf_0 : cX24_isOf.data.toList.drop 0 = dktX24_isOf_0 := by decide +kernel
theorem dksX24_isOf_1 : cX24_isOf.data.toList.drop 24 = dktX24_isOf_1 := dk_seg dksX24_isOf_0 24 rfl rfl
theorem dX24_isOf_0 : decode cX24_isOf 0 = .ok (.aload_n 0, 1) := dk_42 (dk_at dksX24_isOf_0 0 rfl rfl)
theorem dX24_isOf_1 : decode cX24_isOf 1 = .ok (.getfield 9, 3) := dk_180 0 9 (dk_at dksX24_isOf_0 1 rfl rfl)
theorem dX24_isOf_4 : decode cX24_isOf 4 = .ok (.iconst (-1), 1) := dk_2 (dk_at dksX24_isOf_0 4 rfl rfl)
theorem dX24_isOf_5 : decode cX24_isOf 5 = .ok (.if_icmp .eq 11, 3) := dk_159 0 11 (dk_at dksX24_isOf_0 5 rfl rfl)
theorem dX24_isOf_8 : decode cX24_isOf 8 = .ok (.aload_n 0, 1) := dk_42 (dk_at dksX24_isOf_0 8 rfl rfl)
theorem dX24_isOf_9 : decode cX24_isOf 9 = .ok (.getfield 9, 3) := dk_180 0 9 (dk_at dksX24_isOf_0 9 rfl rfl)
theorem dX24_isOf_12 : decode cX24_isOf 12 = .ok (.iload_n 1, 1) := dk_27 (dk_at dksX24_isOf_0 12 rfl rfl)
theorem dX24_isOf_13 : decode cX24_isOf 13 = .ok (.if_icmp .ne 23, 3) := dk_160 0 23 (dk_at dksX24_isOf_0 13 rfl rfl)
theorem dX24_isOf_16 : decode cX24_isOf 16 = .ok (.aload_n 0, 1) := dk_42 (dk_at dksX24_isOf_0 16 rfl rfl)
theorem dX24_isOf_17 : decode cX24_isOf 17 = .ok (.getfield 15, 3) := dk_180 0 15 (dk_at dksX24_isOf_0 17 rfl rfl)
theorem dX24_isOf_20 : decode cX24_isOf 20 = .ok (.iconst (-1), 1) := dk_2 (dk_at dksX24_isOf_0 20 rfl rfl)
theorem dX24_isOf_21 : decode cX24_isOf 21 = .ok (.if_icmp .eq 11, 3) := dk_159 0 11 (dk_at dksX24_isOf_0 21 rfl rfl)
theorem dX24_isOf_24 : decode cX24_isOf 24 = .ok (.aload_n 0, 1) := dk_42 (dk_at dksX24_isOf_1 0 rfl rfl)
theorem dX24_isOf_25 : decode cX24_isOf 25 = .ok (.getfield 15, 3) := dk_180 0 15 (dk_at dksX24_isOf_1 1 rfl rfl)
theorem dX24_isOf_28 : decode cX24_isOf 28 = .ok (.iload_n 2, 1) := dk_28 (dk_at dksX24_isOf_1 4 rfl rfl)
theorem dX24_isOf_29 : decode cX24_isOf 29 = .ok (.if_icmp .ne 7, 3) := dk_160 0 7 (dk_at dksX24_isOf_1 5 rfl rfl)
theorem dX24_isOf_32 : decode cX24_isOf 32 = .ok (.iconst 1, 1) := dk_4 (dk_at dksX24_isOf_1 8 rfl rfl)
theorem dX24_isOf_33 : decode cX24_isOf 33 = .ok (.goto 4, 3) := dk_167 0 4 (dk_at dksX24_isOf_1 9 rfl rfl)
theorem dX24_isOf_36 : decode cX24_isOf 36 = .ok (.iconst 0, 1) := dk_3 (dk_at dksX24_isOf_1 12 rfl rfl)
theorem dX24_isOf_37 : decode cX24_isOf 37 = .ok (.ireturn, 1) := dk_172 (dk_at dksX24_isOf_1 13 rfl rfl)
abbrev cX24_changes : ByteArray := prog_12_method_3_code
def yX24_changes : MethodName := ⟨RX24, "changes", "(LDeadUnderstudies$Script;ILDeadUnderstudies$Setting;)Z"⟩
def dkwX24_changes_3 : List UInt8 := [180, 0, 48, 45, 182, 0, 38, 3, 8, 184, 0, 44, 182, 0, 51, 4, 172, 58, 4, 3, 172]
abbrev dktX24_changes_3 : List UInt8 := dkwX24_changes_3 ++ []
def dkwX24_changes_2 : List UInt8 := [184, 0, 44, 54, 4, 43, 28, 21, 4, 42, 180, 0, 48, 199, 0, 10, 28, 16, 6, 108, 167, 0, 16, 42]
abbrev dktX24_changes_2 : List UInt8 := dkwX24_changes_2 ++ dktX24_changes_3
def dkwX24_changes_1 : List UInt8 := [199, 0, 11, 43, 28, 182, 0, 32, 87, 4, 172, 42, 180, 0, 28, 45, 182, 0, 38, 3, 16, 9]
abbrev dktX24_changes_1 : List UInt8 := dkwX24_changes_1 ++ dktX24_changes_2
def dkwX24_changes_0 : List UInt8 := [42, 180, 0, 18, 198, 0, 16, 42, 180, 0, 18, 45, 182, 0, 22, 154, 0, 5, 3, 172, 42, 180, 0, 28]
abbrev dktX24_changes_0 : List UInt8 := dkwX24_changes_0 ++ dktX24_changes_1
theorem dksX24_changes_0 : cX24_changes.data.toList.drop 0 = dktX24_changes_0 := by decide +kernel
theorem dksX24_changes_1 : cX24_changes.data.toList.drop 24 = dktX24_changes_1 := dk_seg dksX24_changes_0 24 rfl rfl
theorem dksX24_changes_2 : cX24_changes.data.toList.drop 46 = dktX24_changes_2 := dk_seg dksX24_changes_1 22 rfl rfl
theorem dksX24_changes_3 : cX24_changes.data.toList.drop 70 = dktX24_changes_3 := dk_seg dksX24_changes_2 24 rfl rfl
theorem dX24_changes_0 : decode cX24_changes 0 = .ok (.aload_n 0, 1) := dk_42 (dk_at dksX24_changes_0 0 rfl rfl)
theorem dX24_changes_1 : decode cX24_changes 1 = .ok (.getfield 18, 3) := dk_180 0 18 (dk_at dksX24_changes_0 1 rfl rfl)
theorem dX24_changes_4 : decode cX24_changes 4 = .ok (.ifnull 16, 3) := dk_198 0 16 (dk_at dksX24_changes_0 4 rfl rfl)
theorem dX24_changes_7 : decode cX24_changes 7 = .ok (.aload_n 0, 1) := dk_42 (dk_at dksX24_changes_0 7 rfl rfl)
theorem dX24_changes_8 : decode cX24_changes 8 = .ok (.getfield 18, 3) := dk_180 0 18 (dk_at dksX24_changes_0 8 rfl rfl)
theorem dX24_changes_11 : decode cX24_changes 11 = .ok (.aload_n 3, 1) := dk_45 (dk_at dksX24_changes_0 11 rfl rfl)
theorem dX24_changes_12 : decode cX24_changes 12 = .ok (.invokevirtual 22, 3) := dk_182 0 22 (dk_at dksX24_changes_0 12 rfl rfl)
theorem dX24_changes_15 : decode cX24_changes 15 = .ok (.ifCond .ne 5, 3) := dk_154 0 5 (dk_at dksX24_changes_0 15 rfl rfl)
theorem dX24_changes_18 : decode cX24_changes 18 = .ok (.iconst 0, 1) := dk_3 (dk_at dksX24_changes_0 18 rfl rfl)
theorem dX24_changes_19 : decode cX24_changes 19 = .ok (.ireturn, 1) := dk_172 (dk_at dksX24_changes_0 19 rfl rfl)
theorem dX24_changes_20 : decode cX24_changes 20 = .ok (.aload_n 0, 1) := dk_42 (dk_at dksX24_changes_0 20 rfl rfl)
theorem dX24_changes_21 : decode cX24_changes 21 = .ok (.getfield 28, 3) := dk_180 0 28 (dk_at dksX24_changes_0 21 rfl rfl)
theorem dX24_changes_24 : decode cX24_changes 24 = .ok (.ifnonnull 11, 3) := dk_199 0 11 (dk_at dksX24_changes_1 0 rfl rfl)
theorem dX24_changes_27 : decode cX24_changes 27 = .ok (.aload_n 1, 1) := dk_43 (dk_at dksX24_changes_1 3 rfl rfl)
theorem dX24_changes_28 : decode cX24_changes 28 = .ok (.iload_n 2, 1) := dk_28 (dk_at dksX24_changes_1 4 rfl rfl)
theorem dX24_changes_29 : decode cX24_changes 29 = .ok (.invokevirtual 32, 3) := dk_182 0 32 (dk_at dksX24_changes_1 5 rfl rfl)
theorem dX24_changes_32 : decode cX24_changes 32 = .ok (.pop, 1) := dk_87 (dk_at dksX24_changes_1 8 rfl rfl)
theorem dX24_changes_33 : decode cX24_changes 33 = .ok (.iconst 1, 1) := dk_4 (dk_at dksX24_changes_1 9 rfl rfl)
theorem dX24_changes_34 : decode cX24_changes 34 = .ok (.ireturn, 1) := dk_172 (dk_at dksX24_changes_1 10 rfl rfl)
theorem dX24_changes_35 : decode cX24_changes 35 = .ok (.aload_n 0, 1) := dk_42 (dk_at dksX24_changes_1 11 rfl rfl)
theorem dX24_changes_36 : decode cX24_changes 36 = .ok (.getfield 28, 3) := dk_180 0 28 (dk_at dksX24_changes_1 12 rfl rfl)
theorem dX24_changes_39 : decode cX24_changes 39 = .ok (.aload_n 3, 1) := dk_45 (dk_at dksX24_changes_1 15 rfl rfl)
theorem dX24_changes_40 : decode cX24_changes 40 = .ok (.invokevirtual 38, 3) := dk_182 0 38 (dk_at dksX24_changes_1 16 rfl rfl)
theorem dX24_changes_43 : decode cX24_changes 43 = .ok (.iconst 0, 1) := dk_3 (dk_at dksX24_changes_1 19 rfl rfl)
theorem dX24_changes_44 : decode cX24_changes 44 = .ok (.bipush 9, 2) := dk_16 9 (dk_at dksX24_changes_1 20 rfl rfl)
theorem dX24_changes_46 : decode cX24_changes 46 = .ok (.invokestatic 44, 3) := dk_184 0 44 (dk_at dksX24_changes_2 0 rfl rfl)
theorem dX24_changes_49 : decode cX24_changes 49 = .ok (.istore 4, 2) := dk_54 4 (dk_at dksX24_changes_2 3 rfl rfl)
theorem dX24_changes_51 : decode cX24_changes 51 = .ok (.aload_n 1, 1) := dk_43 (dk_at dksX24_changes_2 5 rfl rfl)
theorem dX24_changes_52 : decode cX24_changes 52 = .ok (.iload_n 2, 1) := dk_28 (dk_at dksX24_changes_2 6 rfl rfl)
theorem dX24_changes_53 : decode cX24_changes 53 = .ok (.iload 4, 2) := dk_21 4 (dk_at dksX24_changes_2 7 rfl rfl)
theorem dX24_changes_55 : decode cX24_changes 55 = .ok (.aload_n 0, 1) := dk_42 (dk_at dksX24_changes_2 9 rfl rfl)
theorem dX24_changes_56 : decode cX24_changes 56 = .ok (.getfield 48, 3) := dk_180 0 48 (dk_at dksX24_changes_2 10 rfl rfl)
theorem dX24_changes_59 : decode cX24_changes 59 = .ok (.ifnonnull 10, 3) := dk_199 0 10 (dk_at dksX24_changes_2 13 rfl rfl)
theorem dX24_changes_62 : decode cX24_changes 62 = .ok (.iload_n 2, 1) := dk_28 (dk_at dksX24_changes_2 16 rfl rfl)
theorem dX24_changes_63 : decode cX24_changes 63 = .ok (.bipush 6, 2) := dk_16 6 (dk_at dksX24_changes_2 17 rfl rfl)
theorem dX24_changes_65 : decode cX24_changes 65 = .ok (.idiv, 1) := dk_108 (dk_at dksX24_changes_2 19 rfl rfl)
theorem dX24_changes_66 : decode cX24_changes 66 = .ok (.goto 16, 3) := dk_167 0 16 (dk_at dksX24_changes_2 20 rfl rfl)
theorem dX24_changes_69 : decode cX24_changes 69 = .ok (.aload_n 0, 1) := dk_42 (dk_at dksX24_changes_2 23 rfl rfl)
theorem dX24_changes_70 : decode cX24_changes 70 = .ok (.getfield 48, 3) := dk_180 0 48 (dk_at dksX24_changes_3 0 rfl rfl)
theorem dX24_changes_73 : decode cX24_changes 73 = .ok (.aload_n 3, 1) := dk_45 (dk_at dksX24_changes_3 3 rfl rfl)
theorem dX24_changes_74 : decode cX24_changes 74 = .ok (.invokevirtual 38, 3) := dk_182 0 38 (dk_at dksX24_changes_3 4 rfl rfl)
theorem dX24_changes_77 : decode cX24_changes 77 = .ok (.iconst 0, 1) := dk_3 (dk_at dksX24_changes_3 7 rfl rfl)
theorem dX24_changes_78 : decode cX24_changes 78 = .ok (.iconst 5, 1) := dk_8 (dk_at dksX24_changes_3 8 rfl rfl)
theorem dX24_changes_79 : decode cX24_changes 79 = .ok (.invokestatic 44, 3) := dk_184 0 44 (dk_at dksX24_changes_3 9 rfl rfl)
theorem dX24_changes_82 : decode cX24_changes 82 = .ok (.invokevirtual 51, 3) := dk_182 0 51 (dk_at dksX24_changes_3 12 rfl rfl)
theorem dX24_changes_85 : decode cX24_changes 85 = .ok (.iconst 1, 1) := dk_4 (dk_at dksX24_changes_3 15 rfl rfl)
theorem dX24_changes_86 : decode cX24_changes 86 = .ok (.ireturn, 1) := dk_172 (dk_at dksX24_changes_3 16 rfl rfl)
theorem dX24_changes_87 : decode cX24_changes 87 = .ok (.astore 4, 2) := dk_58 4 (dk_at dksX24_changes_3 17 rfl rfl)
theorem dX24_changes_89 : decode cX24_changes 89 = .ok (.iconst 0, 1) := dk_3 (dk_at dksX24_changes_3 19 rfl rfl)
theorem dX24_changes_90 : decode cX24_changes 90 = .ok (.ireturn, 1) := dk_172 (dk_at dksX24_changes_3 20 rfl rfl)
theorem q150 : (Jvm.Cond.initialized "DeadUnderstudies$Line") ∈ lw_all := lw_g (lw_at lw_m1 39 rfl) rfl
theorem q652 : (Jvm.Cond.selects "DeadUnderstudies$Line" ({ cls := "java/lang/Object", name := "getClass", desc := "()Ljava/lang/Class;" } : Jvm.MethodName) ({ cls := "java/lang/Object", name := "getClass", desc := "()Ljava/lang/Class;" } : Jvm.MethodName)) ∈ lw_all := lw_g (lw_at lw_m3 61 rfl) rfl
theorem q1250 : (Jvm.Cond.instantiable "DeadUnderstudies$Line" (5 : Nat)) ∈ lw_all := lw_g (lw_at lw_m5 179 rfl) rfl
theorem q1252 : (Jvm.Cond.instanceMethod ({ cls := "DeadUnderstudies$Line", name := "<init>", desc := "()V" } : Jvm.MethodName)) ∈ lw_all := lw_g (lw_at lw_m5 181 rfl) rfl
theorem q1253 : (Jvm.Cond.code ({ cls := "DeadUnderstudies$Line", name := "<init>", desc := "()V" } : Jvm.MethodName) prog_12_method_1_code (1 : Nat) (Option.none : Option Jvm.ClassFile.FieldType)) ∈ lw_all := lw_g (lw_at lw_m5 182 rfl) rfl
theorem q1254 : (Jvm.Cond.methodLink "DeadUnderstudies$Line" (3 : Nat) ({ cls := "java/lang/Object", name := "<init>", desc := "()V" } : Jvm.MethodName)) ∈ lw_all := lw_g (lw_at lw_m5 183 rfl) rfl
theorem q1255 : (Jvm.Cond.fieldLink "DeadUnderstudies$Line" (9 : Nat) "DeadUnderstudies$Line" "state" "I") ∈ lw_all := lw_g (lw_at lw_m5 184 rfl) rfl
theorem q1257 : (Jvm.Cond.fieldLink "DeadUnderstudies$Line" (15 : Nat) "DeadUnderstudies$Line" "cue" "I") ∈ lw_all := lw_g (lw_at lw_m5 186 rfl) rfl
theorem q1259 : (Jvm.Cond.fieldLink "DeadUnderstudies$Line" (28 : Nat) "DeadUnderstudies$Line" "word" "LDeadUnderstudies$Sum;") ∈ lw_all := lw_g (lw_at lw_m5 188 rfl) rfl
theorem q1261 : (Jvm.Cond.fieldLink "DeadUnderstudies$Line" (48 : Nat) "DeadUnderstudies$Line" "go" "LDeadUnderstudies$Sum;") ∈ lw_all := lw_g (lw_at lw_m5 190 rfl) rfl
theorem q1263 : (Jvm.Cond.fieldLink "DeadUnderstudies$Line" (18 : Nat) "DeadUnderstudies$Line" "when" "LDeadUnderstudies$Test;") ∈ lw_all := lw_g (lw_at lw_m5 192 rfl) rfl
theorem q1265 : (Jvm.Cond.lays "DeadUnderstudies$Line" "DeadUnderstudies$Line" "state" "I") ∈ lw_all := lw_g (lw_at lw_m5 194 rfl) rfl
theorem q1266 : (Jvm.Cond.soleField "DeadUnderstudies$Line" "state") ∈ lw_all := lw_g (lw_at lw_m5 195 rfl) rfl
theorem q1267 : (Jvm.Cond.lays "DeadUnderstudies$Line" "DeadUnderstudies$Line" "cue" "I") ∈ lw_all := lw_g (lw_at lw_m5 196 rfl) rfl
theorem q1268 : (Jvm.Cond.soleField "DeadUnderstudies$Line" "cue") ∈ lw_all := lw_g (lw_at lw_m5 197 rfl) rfl
theorem q1269 : (Jvm.Cond.lays "DeadUnderstudies$Line" "DeadUnderstudies$Line" "word" "LDeadUnderstudies$Sum;") ∈ lw_all := lw_g (lw_at lw_m5 198 rfl) rfl
theorem q1270 : (Jvm.Cond.soleField "DeadUnderstudies$Line" "word") ∈ lw_all := lw_g (lw_at lw_m5 199 rfl) rfl
theorem q1271 : (Jvm.Cond.lays "DeadUnderstudies$Line" "DeadUnderstudies$Line" "go" "LDeadUnderstudies$Sum;") ∈ lw_all := lw_g (lw_at lw_m5 200 rfl) rfl
theorem q1272 : (Jvm.Cond.soleField "DeadUnderstudies$Line" "go") ∈ lw_all := lw_g (lw_at lw_m5 201 rfl) rfl
theorem q1273 : (Jvm.Cond.lays "DeadUnderstudies$Line" "DeadUnderstudies$Line" "when" "LDeadUnderstudies$Test;") ∈ lw_all := lw_g (lw_at lw_m5 202 rfl) rfl
theorem q1274 : (Jvm.Cond.soleField "DeadUnderstudies$Line" "when") ∈ lw_all := lw_g (lw_at lw_m5 203 rfl) rfl
theorem q1275 : (Jvm.Cond.superclass "DeadUnderstudies$Line" "java/lang/Object") ∈ lw_all := lw_g (lw_at lw_m5 204 rfl) rfl
theorem q1311 : (Jvm.Cond.instanceMethod ({ cls := "DeadUnderstudies$Line", name := "isOf", desc := "(II)Z" } : Jvm.MethodName)) ∈ lw_all := lw_g (lw_at lw_m6 0 rfl) rfl
theorem q1312 : (Jvm.Cond.selects "DeadUnderstudies$Line" ({ cls := "DeadUnderstudies$Line", name := "isOf", desc := "(II)Z" } : Jvm.MethodName) ({ cls := "DeadUnderstudies$Line", name := "isOf", desc := "(II)Z" } : Jvm.MethodName)) ∈ lw_all := lw_g (lw_at lw_m6 1 rfl) rfl
theorem q1313 : (Jvm.Cond.code ({ cls := "DeadUnderstudies$Line", name := "isOf", desc := "(II)Z" } : Jvm.MethodName) prog_12_method_2_code (3 : Nat) (Option.some Jvm.ClassFile.FieldType.boolean)) ∈ lw_all := lw_g (lw_at lw_m6 2 rfl) rfl
theorem q1315 : (Jvm.Cond.instanceMethod ({ cls := "DeadUnderstudies$Line", name := "changes", desc := "(LDeadUnderstudies$Script;ILDeadUnderstudies$Setting;)Z" } : Jvm.MethodName)) ∈ lw_all := lw_g (lw_at lw_m6 4 rfl) rfl
theorem q1316 : (Jvm.Cond.selects "DeadUnderstudies$Line" ({ cls := "DeadUnderstudies$Line", name := "changes", desc := "(LDeadUnderstudies$Script;ILDeadUnderstudies$Setting;)Z" } : Jvm.MethodName) ({ cls := "DeadUnderstudies$Line", name := "changes", desc := "(LDeadUnderstudies$Script;ILDeadUnderstudies$Setting;)Z" } : Jvm.MethodName)) ∈ lw_all := lw_g (lw_at lw_m6 5 rfl) rfl
theorem q1317 : (Jvm.Cond.codeWith ({ cls := "DeadUnderstudies$Line", name := "changes", desc := "(LDeadUnderstudies$Script;ILDeadUnderstudies$Setting;)Z" } : Jvm.MethodName) prog_12_method_3_code (5 : Nat) (Option.some Jvm.ClassFile.FieldType.boolean) [((0 : Nat), (19 : Nat), (87 : Nat), (55 : Nat)), ((20 : Nat), (34 : Nat), (87 : Nat), (55 : Nat)), ((35 : Nat), (86 : Nat), (87 : Nat), (55 : Nat))]) ∈ lw_all := lw_g (lw_at lw_m6 6 rfl) rfl
theorem q1318 : (Jvm.Cond.classLink "DeadUnderstudies$Line" (55 : Nat) "DeadUnderstudies$Broken") ∈ lw_all := lw_g (lw_at lw_m6 7 rfl) rfl
theorem q1319 : (Jvm.Cond.methodLink "DeadUnderstudies$Line" (22 : Nat) ({ cls := "DeadUnderstudies$Test", name := "is", desc := "(LDeadUnderstudies$Setting;)Z" } : Jvm.MethodName)) ∈ lw_all := lw_g (lw_at lw_m6 8 rfl) rfl
theorem q1351 : (Jvm.Cond.methodLink "DeadUnderstudies$Line" (32 : Nat) ({ cls := "DeadUnderstudies$Script", name := "hushes", desc := "(I)I" } : Jvm.MethodName)) ∈ lw_all := lw_g (lw_at lw_m6 40 rfl) rfl
theorem q1352 : (Jvm.Cond.methodLink "DeadUnderstudies$Line" (38 : Nat) ({ cls := "DeadUnderstudies$Sum", name := "of", desc := "(LDeadUnderstudies$Setting;)J" } : Jvm.MethodName)) ∈ lw_all := lw_g (lw_at lw_m6 41 rfl) rfl
theorem q1353 : (Jvm.Cond.methodLinkNest "DeadUnderstudies$Line" (44 : Nat) ({ cls := "DeadUnderstudies", name := "near", desc := "(JII)I" } : Jvm.MethodName) "DeadUnderstudies") ∈ lw_tbl := lw_at lw_m6 42 rfl
theorem q1362 : (Jvm.Cond.methodLink "DeadUnderstudies$Line" (51 : Nat) ({ cls := "DeadUnderstudies$Script", name := "says", desc := "(III)V" } : Jvm.MethodName)) ∈ lw_all := lw_g (lw_at lw_m6 51 rfl) rfl
theorem q2614 : (Jvm.Cond.castable "DeadUnderstudies$Line" "java/lang/Object") ∈ lw_tbl := lw_at lw_m11 103 rfl
theorem in_X24 : ∀ w ∈ wsX240, w ∈ lw_all := lw_in wsX240 [1265, 1267, 1269, 1271, 1273] (by decide +kernel) (by decide +kernel)
/-! DeadUnderstudies$LawReader -/
def RX25 : String := "DeadUnderstudies$LawReader"
def TX25 : u_T := fun k => match k with
  | 0 => ("DeadUnderstudies$Reader", "tape", "[B", true)
  | 1 => ("DeadUnderstudies$Reader", "size", "I", true)
  | 2 => ("DeadUnderstudies$Reader", "made", "I", false)
  | 3 => ("DeadUnderstudies$Reader", "from", "I", false)
  | 4 => ("DeadUnderstudies$Reader", "to", "I", false)
  | 5 => ("DeadUnderstudies$Reader", "leaves", "I", false)
  | 6 => ("DeadUnderstudies$Reader", "deep", "I", false)
  | _ => ("DeadUnderstudies$LawReader", "clauses", "Ljava/util/ArrayList;", true)
def tyX25 : Nat → FieldType := fun k => match k with
  | 0 => .array .byte
  | 1 => .int
  | 2 => .int
  | 3 => .int
  | 4 => .int
  | 5 => .int
  | 6 => .int
  | _ => .object "java/util/ArrayList"
abbrev wsX250 : List Cond := u_ws RX25 TX25 8
theorem nmX25 : ∀ a, a < 8 → ∀ b, b < 8 → a ≠ b → (TX25 a).2.1 ≠ (TX25 b).2.1 := by decide +kernel
theorem tyX25_ok : ∀ k, k < 8 → parseFieldDescriptor (TX25 k).2.2.1 = some (tyX25 k) := by decide +kernel
abbrev cX25_clause : ByteArray := prog_10_method_2_code
def yX25_clause : MethodName := ⟨RX25, "clause", "()V"⟩
def dkwX25_clause_4 : List UInt8 := [182, 0, 53, 181, 0, 57, 42, 180, 0, 14, 44, 182, 0, 61, 87, 177]
abbrev dktX25_clause_4 : List UInt8 := dkwX25_clause_4 ++ []
def dkwX25_clause_3 : List UInt8 := [159, 0, 11, 44, 42, 182, 0, 41, 181, 0, 45, 42, 18, 48, 182, 0, 50, 153, 0, 11, 44, 42]
abbrev dktX25_clause_3 : List UInt8 := dkwX25_clause_3 ++ dktX25_clause_4
def dkwX25_clause_2 : List UInt8 := [4, 167, 0, 4, 3, 182, 0, 30, 42, 182, 0, 34, 187, 0, 38, 89, 27, 183, 0, 40, 77, 27, 5]
abbrev dktX25_clause_2 : List UInt8 := dkwX25_clause_2 ++ dktX25_clause_3
def dkwX25_clause_1 : List UInt8 := [167, 0, 17, 42, 18, 28, 182, 0, 22, 153, 0, 7, 5, 167, 0, 4, 2, 60, 42, 27, 2, 159, 0, 7]
abbrev dktX25_clause_1 : List UInt8 := dkwX25_clause_1 ++ dktX25_clause_2
def dkwX25_clause_0 : List UInt8 := [42, 18, 20, 182, 0, 22, 153, 0, 7, 3, 167, 0, 30, 42, 18, 26, 182, 0, 22, 153, 0, 7, 4]
abbrev dktX25_clause_0 : List UInt8 := dkwX25_clause_0 ++ dktX25_clause_1
theorem dksX25_clause_0 : cX25_clause.data.toList.drop 0 = dktX25_clause_0 := by decide +kernel
theorem dksX25_clause_1 : cX25_clause.data.toList.drop 23 = dktX25_clause_1 := dk_seg dksX25_clause_0 23 rfl rfl
theorem dksX25_clause_2 : cX25_clause.data.toList.drop 47 = dktX25_clause_2 := dk_seg dksX25_clause_1 24 rfl rfl
theorem dksX25_clause_3 : cX25_clause.data.toList.drop 70 = dktX25_clause_3 := dk_seg dksX25_clause_2 23 rfl rfl
theorem dksX25_clause_4 : cX25_clause.data.toList.drop 92 = dktX25_clause_4 := dk_seg dksX25_clause_3 22 rfl rfl
theorem dX25_clause_0 : decode cX25_clause 0 = .ok (.aload_n 0, 1) := dk_42 (dk_at dksX25_clause_0 0 rfl rfl)
theorem dX25_clause_1 : decode cX25_clause 1 = .ok (.ldc 20, 2) := dk_18 20 (dk_at dksX25_clause_0 1 rfl rfl)
theorem dX25_clause_3 : decode cX25_clause 3 = .ok (.invokevirtual 22, 3) := dk_182 0 22 (dk_at dksX25_clause_0 3 rfl rfl)
theorem dX25_clause_6 : decode cX25_clause 6 = .ok (.ifCond .eq 7, 3) := dk_153 0 7 (dk_at dksX25_clause_0 6 rfl rfl)
theorem dX25_clause_9 : decode cX25_clause 9 = .ok (.iconst 0, 1) := dk_3 (dk_at dksX25_clause_0 9 rfl rfl)
theorem dX25_clause_10 : decode cX25_clause 10 = .ok (.goto 30, 3) := dk_167 0 30 (dk_at dksX25_clause_0 10 rfl rfl)
theorem dX25_clause_13 : decode cX25_clause 13 = .ok (.aload_n 0, 1) := dk_42 (dk_at dksX25_clause_0 13 rfl rfl)
theorem dX25_clause_14 : decode cX25_clause 14 = .ok (.ldc 26, 2) := dk_18 26 (dk_at dksX25_clause_0 14 rfl rfl)
theorem dX25_clause_16 : decode cX25_clause 16 = .ok (.invokevirtual 22, 3) := dk_182 0 22 (dk_at dksX25_clause_0 16 rfl rfl)
theorem dX25_clause_19 : decode cX25_clause 19 = .ok (.ifCond .eq 7, 3) := dk_153 0 7 (dk_at dksX25_clause_0 19 rfl rfl)
theorem dX25_clause_22 : decode cX25_clause 22 = .ok (.iconst 1, 1) := dk_4 (dk_at dksX25_clause_0 22 rfl rfl)
theorem dX25_clause_23 : decode cX25_clause 23 = .ok (.goto 17, 3) := dk_167 0 17 (dk_at dksX25_clause_1 0 rfl rfl)
theorem dX25_clause_26 : decode cX25_clause 26 = .ok (.aload_n 0, 1) := dk_42 (dk_at dksX25_clause_1 3 rfl rfl)
theorem dX25_clause_27 : decode cX25_clause 27 = .ok (.ldc 28, 2) := dk_18 28 (dk_at dksX25_clause_1 4 rfl rfl)
theorem dX25_clause_29 : decode cX25_clause 29 = .ok (.invokevirtual 22, 3) := dk_182 0 22 (dk_at dksX25_clause_1 6 rfl rfl)
theorem dX25_clause_32 : decode cX25_clause 32 = .ok (.ifCond .eq 7, 3) := dk_153 0 7 (dk_at dksX25_clause_1 9 rfl rfl)
theorem dX25_clause_35 : decode cX25_clause 35 = .ok (.iconst 2, 1) := dk_5 (dk_at dksX25_clause_1 12 rfl rfl)
theorem dX25_clause_36 : decode cX25_clause 36 = .ok (.goto 4, 3) := dk_167 0 4 (dk_at dksX25_clause_1 13 rfl rfl)
theorem dX25_clause_39 : decode cX25_clause 39 = .ok (.iconst (-1), 1) := dk_2 (dk_at dksX25_clause_1 16 rfl rfl)
theorem dX25_clause_40 : decode cX25_clause 40 = .ok (.istore_n 1, 1) := dk_60 (dk_at dksX25_clause_1 17 rfl rfl)
theorem dX25_clause_41 : decode cX25_clause 41 = .ok (.aload_n 0, 1) := dk_42 (dk_at dksX25_clause_1 18 rfl rfl)
theorem dX25_clause_42 : decode cX25_clause 42 = .ok (.iload_n 1, 1) := dk_27 (dk_at dksX25_clause_1 19 rfl rfl)
theorem dX25_clause_43 : decode cX25_clause 43 = .ok (.iconst (-1), 1) := dk_2 (dk_at dksX25_clause_1 20 rfl rfl)
theorem dX25_clause_44 : decode cX25_clause 44 = .ok (.if_icmp .eq 7, 3) := dk_159 0 7 (dk_at dksX25_clause_1 21 rfl rfl)
theorem dX25_clause_47 : decode cX25_clause 47 = .ok (.iconst 1, 1) := dk_4 (dk_at dksX25_clause_2 0 rfl rfl)
theorem dX25_clause_48 : decode cX25_clause 48 = .ok (.goto 4, 3) := dk_167 0 4 (dk_at dksX25_clause_2 1 rfl rfl)
theorem dX25_clause_51 : decode cX25_clause 51 = .ok (.iconst 0, 1) := dk_3 (dk_at dksX25_clause_2 4 rfl rfl)
theorem dX25_clause_52 : decode cX25_clause 52 = .ok (.invokevirtual 30, 3) := dk_182 0 30 (dk_at dksX25_clause_2 5 rfl rfl)
theorem dX25_clause_55 : decode cX25_clause 55 = .ok (.aload_n 0, 1) := dk_42 (dk_at dksX25_clause_2 8 rfl rfl)
theorem dX25_clause_56 : decode cX25_clause 56 = .ok (.invokevirtual 34, 3) := dk_182 0 34 (dk_at dksX25_clause_2 9 rfl rfl)
theorem dX25_clause_59 : decode cX25_clause 59 = .ok (.new 38, 3) := dk_187 0 38 (dk_at dksX25_clause_2 12 rfl rfl)
theorem dX25_clause_62 : decode cX25_clause 62 = .ok (.dup, 1) := dk_89 (dk_at dksX25_clause_2 15 rfl rfl)
theorem dX25_clause_63 : decode cX25_clause 63 = .ok (.iload_n 1, 1) := dk_27 (dk_at dksX25_clause_2 16 rfl rfl)
theorem dX25_clause_64 : decode cX25_clause 64 = .ok (.invokespecial 40, 3) := dk_183 0 40 (dk_at dksX25_clause_2 17 rfl rfl)
theorem dX25_clause_67 : decode cX25_clause 67 = .ok (.astore_n 2, 1) := dk_77 (dk_at dksX25_clause_2 20 rfl rfl)
theorem dX25_clause_68 : decode cX25_clause 68 = .ok (.iload_n 1, 1) := dk_27 (dk_at dksX25_clause_2 21 rfl rfl)
theorem dX25_clause_69 : decode cX25_clause 69 = .ok (.iconst 2, 1) := dk_5 (dk_at dksX25_clause_2 22 rfl rfl)
theorem dX25_clause_70 : decode cX25_clause 70 = .ok (.if_icmp .eq 11, 3) := dk_159 0 11 (dk_at dksX25_clause_3 0 rfl rfl)
theorem dX25_clause_73 : decode cX25_clause 73 = .ok (.aload_n 2, 1) := dk_44 (dk_at dksX25_clause_3 3 rfl rfl)
theorem dX25_clause_74 : decode cX25_clause 74 = .ok (.aload_n 0, 1) := dk_42 (dk_at dksX25_clause_3 4 rfl rfl)
theorem dX25_clause_75 : decode cX25_clause 75 = .ok (.invokevirtual 41, 3) := dk_182 0 41 (dk_at dksX25_clause_3 5 rfl rfl)
theorem dX25_clause_78 : decode cX25_clause 78 = .ok (.putfield 45, 3) := dk_181 0 45 (dk_at dksX25_clause_3 8 rfl rfl)
theorem dX25_clause_81 : decode cX25_clause 81 = .ok (.aload_n 0, 1) := dk_42 (dk_at dksX25_clause_3 11 rfl rfl)
theorem dX25_clause_82 : decode cX25_clause 82 = .ok (.ldc 48, 2) := dk_18 48 (dk_at dksX25_clause_3 12 rfl rfl)
theorem dX25_clause_84 : decode cX25_clause 84 = .ok (.invokevirtual 50, 3) := dk_182 0 50 (dk_at dksX25_clause_3 14 rfl rfl)
theorem dX25_clause_87 : decode cX25_clause 87 = .ok (.ifCond .eq 11, 3) := dk_153 0 11 (dk_at dksX25_clause_3 17 rfl rfl)
theorem dX25_clause_90 : decode cX25_clause 90 = .ok (.aload_n 2, 1) := dk_44 (dk_at dksX25_clause_3 20 rfl rfl)
theorem dX25_clause_91 : decode cX25_clause 91 = .ok (.aload_n 0, 1) := dk_42 (dk_at dksX25_clause_3 21 rfl rfl)
theorem dX25_clause_92 : decode cX25_clause 92 = .ok (.invokevirtual 53, 3) := dk_182 0 53 (dk_at dksX25_clause_4 0 rfl rfl)
theorem dX25_clause_95 : decode cX25_clause 95 = .ok (.putfield 57, 3) := dk_181 0 57 (dk_at dksX25_clause_4 3 rfl rfl)
theorem dX25_clause_98 : decode cX25_clause 98 = .ok (.aload_n 0, 1) := dk_42 (dk_at dksX25_clause_4 6 rfl rfl)
theorem dX25_clause_99 : decode cX25_clause 99 = .ok (.getfield 14, 3) := dk_180 0 14 (dk_at dksX25_clause_4 7 rfl rfl)
theorem dX25_clause_102 : decode cX25_clause 102 = .ok (.aload_n 2, 1) := dk_44 (dk_at dksX25_clause_4 10 rfl rfl)
theorem dX25_clause_103 : decode cX25_clause 103 = .ok (.invokevirtual 61, 3) := dk_182 0 61 (dk_at dksX25_clause_4 11 rfl rfl)
theorem dX25_clause_106 : decode cX25_clause 106 = .ok (.pop, 1) := dk_87 (dk_at dksX25_clause_4 14 rfl rfl)
theorem dX25_clause_107 : decode cX25_clause 107 = .ok (.return_, 1) := dk_177 (dk_at dksX25_clause_4 15 rfl rfl)
abbrev cX25_value : ByteArray := prog_10_method_3_code
def yX25_value : MethodName := ⟨RX25, "value", "()I"⟩
def dkwX25_value_4 : List UInt8 := [172]
abbrev dktX25_value_4 : List UInt8 := dkwX25_value_4 ++ []
def dkwX25_value_3 : List UInt8 := [182, 0, 22, 153, 0, 6, 16, 6, 172, 42, 18, 79, 182, 0, 22, 153, 0, 8, 16, 7, 167, 0, 4, 2]
abbrev dktX25_value_3 : List UInt8 := dkwX25_value_3 ++ dktX25_value_4
def dkwX25_value_2 : List UInt8 := [182, 0, 22, 153, 0, 5, 7, 172, 42, 18, 75, 182, 0, 22, 153, 0, 5, 8, 172, 42, 18, 77]
abbrev dktX25_value_2 : List UInt8 := dkwX25_value_2 ++ dktX25_value_3
def dkwX25_value_1 : List UInt8 := [18, 69, 182, 0, 22, 153, 0, 5, 5, 172, 42, 18, 71, 182, 0, 22, 153, 0, 5, 6, 172, 42, 18, 73]
abbrev dktX25_value_1 : List UInt8 := dkwX25_value_1 ++ dktX25_value_2
def dkwX25_value_0 : List UInt8 := [42, 18, 65, 182, 0, 22, 153, 0, 5, 3, 172, 42, 18, 67, 182, 0, 22, 153, 0, 5, 4, 172, 42]
abbrev dktX25_value_0 : List UInt8 := dkwX25_value_0 ++ dktX25_value_1
theorem dksX25_value_0 : cX25_value.data.toList.drop 0 = dktX25_value_0 := by decide +kernel
theorem dksX25_value_1 : cX25_value.data.toList.drop 23 = dktX25_value_1 := dk_seg dksX25_value_0 23 rfl rfl
theorem dksX25_value_2 : cX25_value.data.toList.drop 47 = dktX25_value_2 := dk_seg dksX25_value_1 24 rfl rfl
theorem dksX25_value_3 : cX25_value.data.toList.drop 69 = dktX25_value_3 := dk_seg dksX25_value_2 22 rfl rfl
theorem dksX25_value_4 : cX25_value.data.toList.drop 93 = dktX25_value_4 := dk_seg dksX25_value_3 24 rfl rfl
theorem dX25_value_0 : decode cX25_value 0 = .ok (.aload_n 0, 1) := dk_42 (dk_at dksX25_value_0 0 rfl rfl)
theorem dX25_value_1 : decode cX25_value 1 = .ok (.ldc 65, 2) := dk_18 65 (dk_at dksX25_value_0 1 rfl rfl)
theorem dX25_value_3 : decode cX25_value 3 = .ok (.invokevirtual 22, 3) := dk_182 0 22 (dk_at dksX25_value_0 3 rfl rfl)
theorem dX25_value_6 : decode cX25_value 6 = .ok (.ifCond .eq 5, 3) := dk_153 0 5 (dk_at dksX25_value_0 6 rfl rfl)
theorem dX25_value_9 : decode cX25_value 9 = .ok (.iconst 0, 1) := dk_3 (dk_at dksX25_value_0 9 rfl rfl)
theorem dX25_value_10 : decode cX25_value 10 = .ok (.ireturn, 1) := dk_172 (dk_at dksX25_value_0 10 rfl rfl)
theorem dX25_value_11 : decode cX25_value 11 = .ok (.aload_n 0, 1) := dk_42 (dk_at dksX25_value_0 11 rfl rfl)
theorem dX25_value_12 : decode cX25_value 12 = .ok (.ldc 67, 2) := dk_18 67 (dk_at dksX25_value_0 12 rfl rfl)
theorem dX25_value_14 : decode cX25_value 14 = .ok (.invokevirtual 22, 3) := dk_182 0 22 (dk_at dksX25_value_0 14 rfl rfl)
theorem dX25_value_17 : decode cX25_value 17 = .ok (.ifCond .eq 5, 3) := dk_153 0 5 (dk_at dksX25_value_0 17 rfl rfl)
theorem dX25_value_20 : decode cX25_value 20 = .ok (.iconst 1, 1) := dk_4 (dk_at dksX25_value_0 20 rfl rfl)
theorem dX25_value_21 : decode cX25_value 21 = .ok (.ireturn, 1) := dk_172 (dk_at dksX25_value_0 21 rfl rfl)
theorem dX25_value_22 : decode cX25_value 22 = .ok (.aload_n 0, 1) := dk_42 (dk_at dksX25_value_0 22 rfl rfl)
theorem dX25_value_23 : decode cX25_value 23 = .ok (.ldc 69, 2) := dk_18 69 (dk_at dksX25_value_1 0 rfl rfl)
theorem dX25_value_25 : decode cX25_value 25 = .ok (.invokevirtual 22, 3) := dk_182 0 22 (dk_at dksX25_value_1 2 rfl rfl)
theorem dX25_value_28 : decode cX25_value 28 = .ok (.ifCond .eq 5, 3) := dk_153 0 5 (dk_at dksX25_value_1 5 rfl rfl)
theorem dX25_value_31 : decode cX25_value 31 = .ok (.iconst 2, 1) := dk_5 (dk_at dksX25_value_1 8 rfl rfl)
theorem dX25_value_32 : decode cX25_value 32 = .ok (.ireturn, 1) := dk_172 (dk_at dksX25_value_1 9 rfl rfl)
theorem dX25_value_33 : decode cX25_value 33 = .ok (.aload_n 0, 1) := dk_42 (dk_at dksX25_value_1 10 rfl rfl)
theorem dX25_value_34 : decode cX25_value 34 = .ok (.ldc 71, 2) := dk_18 71 (dk_at dksX25_value_1 11 rfl rfl)
theorem dX25_value_36 : decode cX25_value 36 = .ok (.invokevirtual 22, 3) := dk_182 0 22 (dk_at dksX25_value_1 13 rfl rfl)
theorem dX25_value_39 : decode cX25_value 39 = .ok (.ifCond .eq 5, 3) := dk_153 0 5 (dk_at dksX25_value_1 16 rfl rfl)
theorem dX25_value_42 : decode cX25_value 42 = .ok (.iconst 3, 1) := dk_6 (dk_at dksX25_value_1 19 rfl rfl)
theorem dX25_value_43 : decode cX25_value 43 = .ok (.ireturn, 1) := dk_172 (dk_at dksX25_value_1 20 rfl rfl)
theorem dX25_value_44 : decode cX25_value 44 = .ok (.aload_n 0, 1) := dk_42 (dk_at dksX25_value_1 21 rfl rfl)
theorem dX25_value_45 : decode cX25_value 45 = .ok (.ldc 73, 2) := dk_18 73 (dk_at dksX25_value_1 22 rfl rfl)
theorem dX25_value_47 : decode cX25_value 47 = .ok (.invokevirtual 22, 3) := dk_182 0 22 (dk_at dksX25_value_2 0 rfl rfl)
theorem dX25_value_50 : decode cX25_value 50 = .ok (.ifCond .eq 5, 3) := dk_153 0 5 (dk_at dksX25_value_2 3 rfl rfl)
theorem dX25_value_53 : decode cX25_value 53 = .ok (.iconst 4, 1) := dk_7 (dk_at dksX25_value_2 6 rfl rfl)
theorem dX25_value_54 : decode cX25_value 54 = .ok (.ireturn, 1) := dk_172 (dk_at dksX25_value_2 7 rfl rfl)
theorem dX25_value_55 : decode cX25_value 55 = .ok (.aload_n 0, 1) := dk_42 (dk_at dksX25_value_2 8 rfl rfl)
theorem dX25_value_56 : decode cX25_value 56 = .ok (.ldc 75, 2) := dk_18 75 (dk_at dksX25_value_2 9 rfl rfl)
theorem dX25_value_58 : decode cX25_value 58 = .ok (.invokevirtual 22, 3) := dk_182 0 22 (dk_at dksX25_value_2 11 rfl rfl)
theorem dX25_value_61 : decode cX25_value 61 = .ok (.ifCond .eq 5, 3) := dk_153 0 5 (dk_at dksX25_value_2 14 rfl rfl)
theorem dX25_value_64 : decode cX25_value 64 = .ok (.iconst 5, 1) := dk_8 (dk_at dksX25_value_2 17 rfl rfl)
theorem dX25_value_65 : decode cX25_value 65 = .ok (.ireturn, 1) := dk_172 (dk_at dksX25_value_2 18 rfl rfl)
theorem dX25_value_66 : decode cX25_value 66 = .ok (.aload_n 0, 1) := dk_42 (dk_at dksX25_value_2 19 rfl rfl)
theorem dX25_value_67 : decode cX25_value 67 = .ok (.ldc 77, 2) := dk_18 77 (dk_at dksX25_value_2 20 rfl rfl)
theorem dX25_value_69 : decode cX25_value 69 = .ok (.invokevirtual 22, 3) := dk_182 0 22 (dk_at dksX25_value_3 0 rfl rfl)
theorem dX25_value_72 : decode cX25_value 72 = .ok (.ifCond .eq 6, 3) := dk_153 0 6 (dk_at dksX25_value_3 3 rfl rfl)
theorem dX25_value_75 : decode cX25_value 75 = .ok (.bipush 6, 2) := dk_16 6 (dk_at dksX25_value_3 6 rfl rfl)
theorem dX25_value_77 : decode cX25_value 77 = .ok (.ireturn, 1) := dk_172 (dk_at dksX25_value_3 8 rfl rfl)
theorem dX25_value_78 : decode cX25_value 78 = .ok (.aload_n 0, 1) := dk_42 (dk_at dksX25_value_3 9 rfl rfl)
theorem dX25_value_79 : decode cX25_value 79 = .ok (.ldc 79, 2) := dk_18 79 (dk_at dksX25_value_3 10 rfl rfl)
theorem dX25_value_81 : decode cX25_value 81 = .ok (.invokevirtual 22, 3) := dk_182 0 22 (dk_at dksX25_value_3 12 rfl rfl)
theorem dX25_value_84 : decode cX25_value 84 = .ok (.ifCond .eq 8, 3) := dk_153 0 8 (dk_at dksX25_value_3 15 rfl rfl)
theorem dX25_value_87 : decode cX25_value 87 = .ok (.bipush 7, 2) := dk_16 7 (dk_at dksX25_value_3 18 rfl rfl)
theorem dX25_value_89 : decode cX25_value 89 = .ok (.goto 4, 3) := dk_167 0 4 (dk_at dksX25_value_3 20 rfl rfl)
theorem dX25_value_92 : decode cX25_value 92 = .ok (.iconst (-1), 1) := dk_2 (dk_at dksX25_value_3 23 rfl rfl)
theorem dX25_value_93 : decode cX25_value 93 = .ok (.ireturn, 1) := dk_172 (dk_at dksX25_value_4 0 rfl rfl)
abbrev cX25_init : ByteArray := prog_10_method_1_code
def yX25_init : MethodName := ⟨RX25, "<init>", "([BI)V"⟩
def dkwX25_init_0 : List UInt8 := [42, 43, 28, 183, 0, 3, 42, 187, 0, 9, 89, 5, 183, 0, 11, 181, 0, 14, 177]
abbrev dktX25_init_0 : List UInt8 := dkwX25_init_0 ++ []
theorem dksX25_init_0 : cX25_init.data.toList.drop 0 = dktX25_init_0 := by decide +kernel
theorem dX25_init_0 : decode cX25_init 0 = .ok (.aload_n 0, 1) := dk_42 (dk_at dksX25_init_0 0 rfl rfl)
theorem dX25_init_1 : decode cX25_init 1 = .ok (.aload_n 1, 1) := dk_43 (dk_at dksX25_init_0 1 rfl rfl)
theorem dX25_init_2 : decode cX25_init 2 = .ok (.iload_n 2, 1) := dk_28 (dk_at dksX25_init_0 2 rfl rfl)
theorem dX25_init_3 : decode cX25_init 3 = .ok (.invokespecial 3, 3) := dk_183 0 3 (dk_at dksX25_init_0 3 rfl rfl)
theorem dX25_init_6 : decode cX25_init 6 = .ok (.aload_n 0, 1) := dk_42 (dk_at dksX25_init_0 6 rfl rfl)
theorem dX25_init_7 : decode cX25_init 7 = .ok (.new 9, 3) := dk_187 0 9 (dk_at dksX25_init_0 7 rfl rfl)
theorem dX25_init_10 : decode cX25_init 10 = .ok (.dup, 1) := dk_89 (dk_at dksX25_init_0 10 rfl rfl)
theorem dX25_init_11 : decode cX25_init 11 = .ok (.iconst 2, 1) := dk_5 (dk_at dksX25_init_0 11 rfl rfl)
theorem dX25_init_12 : decode cX25_init 12 = .ok (.invokespecial 11, 3) := dk_183 0 11 (dk_at dksX25_init_0 12 rfl rfl)
theorem dX25_init_15 : decode cX25_init 15 = .ok (.putfield 14, 3) := dk_181 0 14 (dk_at dksX25_init_0 15 rfl rfl)
theorem dX25_init_18 : decode cX25_init 18 = .ok (.return_, 1) := dk_177 (dk_at dksX25_init_0 18 rfl rfl)
theorem q151 : (Jvm.Cond.initialized "DeadUnderstudies$LawReader") ∈ lw_all := lw_g (lw_at lw_m1 40 rfl) rfl
theorem q650 : (Jvm.Cond.selects "DeadUnderstudies$LawReader" ({ cls := "java/lang/Object", name := "getClass", desc := "()Ljava/lang/Class;" } : Jvm.MethodName) ({ cls := "java/lang/Object", name := "getClass", desc := "()Ljava/lang/Class;" } : Jvm.MethodName)) ∈ lw_all := lw_g (lw_at lw_m3 59 rfl) rfl
theorem q908 : (Jvm.Cond.selects "DeadUnderstudies$LawReader" ({ cls := "DeadUnderstudies$Reader", name := "read", desc := "()V" } : Jvm.MethodName) ({ cls := "DeadUnderstudies$Reader", name := "read", desc := "()V" } : Jvm.MethodName)) ∈ lw_all := lw_g (lw_at lw_m4 77 rfl) rfl
theorem q914 : (Jvm.Cond.selects "DeadUnderstudies$LawReader" ({ cls := "DeadUnderstudies$Reader", name := "next", desc := "()V" } : Jvm.MethodName) ({ cls := "DeadUnderstudies$Reader", name := "next", desc := "()V" } : Jvm.MethodName)) ∈ lw_all := lw_g (lw_at lw_m4 83 rfl) rfl
theorem q920 : (Jvm.Cond.selects "DeadUnderstudies$LawReader" ({ cls := "DeadUnderstudies$Reader", name := "isIn", desc := "(III)Z" } : Jvm.MethodName) ({ cls := "DeadUnderstudies$Reader", name := "isIn", desc := "(III)Z" } : Jvm.MethodName)) ∈ lw_all := lw_g (lw_at lw_m4 89 rfl) rfl
theorem q926 : (Jvm.Cond.selects "DeadUnderstudies$LawReader" ({ cls := "DeadUnderstudies$Reader", name := "clause", desc := "()V" } : Jvm.MethodName) ({ cls := "DeadUnderstudies$LawReader", name := "clause", desc := "()V" } : Jvm.MethodName)) ∈ lw_all := lw_g (lw_at lw_m4 95 rfl) rfl
theorem q927 : (Jvm.Cond.instanceMethod ({ cls := "DeadUnderstudies$LawReader", name := "clause", desc := "()V" } : Jvm.MethodName)) ∈ lw_all := lw_g (lw_at lw_m4 96 rfl) rfl
theorem q928 : (Jvm.Cond.code ({ cls := "DeadUnderstudies$LawReader", name := "clause", desc := "()V" } : Jvm.MethodName) prog_10_method_2_code (3 : Nat) (Option.none : Option Jvm.ClassFile.FieldType)) ∈ lw_all := lw_g (lw_at lw_m4 97 rfl) rfl
theorem q929 : (Jvm.Cond.stringRef "DeadUnderstudies$LawReader" (20 : Nat) "slips") ∈ lw_tbl := lw_at lw_m4 98 rfl
theorem q930 : (Jvm.Cond.methodLink "DeadUnderstudies$LawReader" (22 : Nat) ({ cls := "DeadUnderstudies$LawReader", name := "is", desc := "(Ljava/lang/String;)Z" } : Jvm.MethodName)) ∈ lw_all := lw_g (lw_at lw_m4 99 rfl) rfl
theorem q931 : (Jvm.Cond.sameMethod "DeadUnderstudies$LawReader" "DeadUnderstudies$Reader" "is" "(Ljava/lang/String;)Z") ∈ lw_all := lw_g (lw_at lw_m4 100 rfl) rfl
theorem q933 : (Jvm.Cond.selects "DeadUnderstudies$LawReader" ({ cls := "DeadUnderstudies$LawReader", name := "is", desc := "(Ljava/lang/String;)Z" } : Jvm.MethodName) ({ cls := "DeadUnderstudies$Reader", name := "is", desc := "(Ljava/lang/String;)Z" } : Jvm.MethodName)) ∈ lw_all := lw_g (lw_at lw_m4 102 rfl) rfl
theorem q982 : (Jvm.Cond.stringRef "DeadUnderstudies$LawReader" (26 : Nat) "hours") ∈ lw_tbl := lw_at lw_m4 151 rfl
theorem q983 : (Jvm.Cond.stringRef "DeadUnderstudies$LawReader" (28 : Nat) "bars") ∈ lw_tbl := lw_at lw_m4 152 rfl
theorem q984 : (Jvm.Cond.methodLink "DeadUnderstudies$LawReader" (30 : Nat) ({ cls := "DeadUnderstudies$LawReader", name := "begins", desc := "(Z)V" } : Jvm.MethodName)) ∈ lw_all := lw_g (lw_at lw_m4 153 rfl) rfl
theorem q985 : (Jvm.Cond.sameMethod "DeadUnderstudies$LawReader" "DeadUnderstudies$Reader" "begins" "(Z)V") ∈ lw_all := lw_g (lw_at lw_m4 154 rfl) rfl
theorem q987 : (Jvm.Cond.selects "DeadUnderstudies$LawReader" ({ cls := "DeadUnderstudies$LawReader", name := "begins", desc := "(Z)V" } : Jvm.MethodName) ({ cls := "DeadUnderstudies$Reader", name := "begins", desc := "(Z)V" } : Jvm.MethodName)) ∈ lw_all := lw_g (lw_at lw_m4 156 rfl) rfl
theorem q1009 : (Jvm.Cond.methodLink "DeadUnderstudies$LawReader" (34 : Nat) ({ cls := "DeadUnderstudies$LawReader", name := "next", desc := "()V" } : Jvm.MethodName)) ∈ lw_all := lw_g (lw_at lw_m4 178 rfl) rfl
theorem q1010 : (Jvm.Cond.sameMethod "DeadUnderstudies$LawReader" "DeadUnderstudies$Reader" "next" "()V") ∈ lw_all := lw_g (lw_at lw_m4 179 rfl) rfl
theorem q1012 : (Jvm.Cond.selects "DeadUnderstudies$LawReader" ({ cls := "DeadUnderstudies$LawReader", name := "next", desc := "()V" } : Jvm.MethodName) ({ cls := "DeadUnderstudies$Reader", name := "next", desc := "()V" } : Jvm.MethodName)) ∈ lw_all := lw_g (lw_at lw_m4 181 rfl) rfl
theorem q1013 : (Jvm.Cond.classLink "DeadUnderstudies$LawReader" (38 : Nat) "DeadUnderstudies$Clause") ∈ lw_all := lw_g (lw_at lw_m4 182 rfl) rfl
theorem q1015 : (Jvm.Cond.methodLink "DeadUnderstudies$LawReader" (40 : Nat) ({ cls := "DeadUnderstudies$Clause", name := "<init>", desc := "(I)V" } : Jvm.MethodName)) ∈ lw_all := lw_g (lw_at lw_m4 184 rfl) rfl
theorem q1022 : (Jvm.Cond.fieldLinkNest "DeadUnderstudies$LawReader" (45 : Nat) "DeadUnderstudies$Clause" "sum" "LDeadUnderstudies$Sum;" "DeadUnderstudies") ∈ lw_tbl := lw_at lw_m4 191 rfl
theorem q1024 : (Jvm.Cond.fieldLinkNest "DeadUnderstudies$LawReader" (57 : Nat) "DeadUnderstudies$Clause" "when" "LDeadUnderstudies$Test;" "DeadUnderstudies") ∈ lw_tbl := lw_at lw_m4 193 rfl
theorem q1032 : (Jvm.Cond.methodLink "DeadUnderstudies$LawReader" (41 : Nat) ({ cls := "DeadUnderstudies$LawReader", name := "sum", desc := "()LDeadUnderstudies$Sum;" } : Jvm.MethodName)) ∈ lw_all := lw_g (lw_at lw_m4 201 rfl) rfl
theorem q1033 : (Jvm.Cond.sameMethod "DeadUnderstudies$LawReader" "DeadUnderstudies$Reader" "sum" "()LDeadUnderstudies$Sum;") ∈ lw_all := lw_g (lw_at lw_m4 202 rfl) rfl
theorem q1035 : (Jvm.Cond.selects "DeadUnderstudies$LawReader" ({ cls := "DeadUnderstudies$LawReader", name := "sum", desc := "()LDeadUnderstudies$Sum;" } : Jvm.MethodName) ({ cls := "DeadUnderstudies$Reader", name := "sum", desc := "()LDeadUnderstudies$Sum;" } : Jvm.MethodName)) ∈ lw_all := lw_g (lw_at lw_m4 204 rfl) rfl
theorem q1041 : (Jvm.Cond.selects "DeadUnderstudies$LawReader" ({ cls := "DeadUnderstudies$Reader", name := "term", desc := "()LDeadUnderstudies$Sum;" } : Jvm.MethodName) ({ cls := "DeadUnderstudies$Reader", name := "term", desc := "()LDeadUnderstudies$Sum;" } : Jvm.MethodName)) ∈ lw_all := lw_g (lw_at lw_m4 210 rfl) rfl
theorem q1047 : (Jvm.Cond.selects "DeadUnderstudies$LawReader" ({ cls := "DeadUnderstudies$Reader", name := "part", desc := "()LDeadUnderstudies$Sum;" } : Jvm.MethodName) ({ cls := "DeadUnderstudies$Reader", name := "part", desc := "()LDeadUnderstudies$Sum;" } : Jvm.MethodName)) ∈ lw_all := lw_g (lw_at lw_m4 216 rfl) rfl
theorem q1055 : (Jvm.Cond.selects "DeadUnderstudies$LawReader" ({ cls := "DeadUnderstudies$Reader", name := "opens", desc := "()V" } : Jvm.MethodName) ({ cls := "DeadUnderstudies$Reader", name := "opens", desc := "()V" } : Jvm.MethodName)) ∈ lw_all := lw_g (lw_at lw_m4 224 rfl) rfl
theorem q1063 : (Jvm.Cond.selects "DeadUnderstudies$LawReader" ({ cls := "DeadUnderstudies$Reader", name := "need", desc := "(Ljava/lang/String;)V" } : Jvm.MethodName) ({ cls := "DeadUnderstudies$Reader", name := "need", desc := "(Ljava/lang/String;)V" } : Jvm.MethodName)) ∈ lw_all := lw_g (lw_at lw_m4 232 rfl) rfl
theorem q1069 : (Jvm.Cond.selects "DeadUnderstudies$LawReader" ({ cls := "DeadUnderstudies$Reader", name := "takes", desc := "(Ljava/lang/String;)Z" } : Jvm.MethodName) ({ cls := "DeadUnderstudies$Reader", name := "takes", desc := "(Ljava/lang/String;)Z" } : Jvm.MethodName)) ∈ lw_all := lw_g (lw_at lw_m4 238 rfl) rfl
theorem q1075 : (Jvm.Cond.selects "DeadUnderstudies$LawReader" ({ cls := "DeadUnderstudies$Reader", name := "leaf", desc := "()V" } : Jvm.MethodName) ({ cls := "DeadUnderstudies$Reader", name := "leaf", desc := "()V" } : Jvm.MethodName)) ∈ lw_all := lw_g (lw_at lw_m5 4 rfl) rfl
theorem q1083 : (Jvm.Cond.selects "DeadUnderstudies$LawReader" ({ cls := "DeadUnderstudies$Reader", name := "number", desc := "(II)I" } : Jvm.MethodName) ({ cls := "DeadUnderstudies$Reader", name := "number", desc := "(II)I" } : Jvm.MethodName)) ∈ lw_all := lw_g (lw_at lw_m5 12 rfl) rfl
theorem q1100 : (Jvm.Cond.selects "DeadUnderstudies$LawReader" ({ cls := "DeadUnderstudies$Reader", name := "value", desc := "()I" } : Jvm.MethodName) ({ cls := "DeadUnderstudies$LawReader", name := "value", desc := "()I" } : Jvm.MethodName)) ∈ lw_all := lw_g (lw_at lw_m5 29 rfl) rfl
theorem q1101 : (Jvm.Cond.instanceMethod ({ cls := "DeadUnderstudies$LawReader", name := "value", desc := "()I" } : Jvm.MethodName)) ∈ lw_all := lw_g (lw_at lw_m5 30 rfl) rfl
theorem q1102 : (Jvm.Cond.code ({ cls := "DeadUnderstudies$LawReader", name := "value", desc := "()I" } : Jvm.MethodName) prog_10_method_3_code (1 : Nat) (Option.some Jvm.ClassFile.FieldType.int)) ∈ lw_all := lw_g (lw_at lw_m5 31 rfl) rfl
theorem q1103 : (Jvm.Cond.stringRef "DeadUnderstudies$LawReader" (65 : Nat) "person") ∈ lw_tbl := lw_at lw_m5 32 rfl
theorem q1104 : (Jvm.Cond.stringRef "DeadUnderstudies$LawReader" (67 : Nat) "memory") ∈ lw_tbl := lw_at lw_m5 33 rfl
theorem q1105 : (Jvm.Cond.stringRef "DeadUnderstudies$LawReader" (69 : Nat) "born") ∈ lw_tbl := lw_at lw_m5 34 rfl
theorem q1106 : (Jvm.Cond.stringRef "DeadUnderstudies$LawReader" (71 : Nat) "dead") ∈ lw_tbl := lw_at lw_m5 35 rfl
theorem q1107 : (Jvm.Cond.stringRef "DeadUnderstudies$LawReader" (73 : Nat) "part") ∈ lw_tbl := lw_at lw_m5 36 rfl
theorem q1108 : (Jvm.Cond.stringRef "DeadUnderstudies$LawReader" (75 : Nat) "teacher") ∈ lw_tbl := lw_at lw_m5 37 rfl
theorem q1109 : (Jvm.Cond.stringRef "DeadUnderstudies$LawReader" (77 : Nat) "year") ∈ lw_tbl := lw_at lw_m5 38 rfl
theorem q1110 : (Jvm.Cond.stringRef "DeadUnderstudies$LawReader" (79 : Nat) "mood") ∈ lw_tbl := lw_at lw_m5 39 rfl
theorem q1154 : (Jvm.Cond.stringRef "DeadUnderstudies$LawReader" (48 : Nat) "if") ∈ lw_tbl := lw_at lw_m5 83 rfl
theorem q1155 : (Jvm.Cond.methodLink "DeadUnderstudies$LawReader" (50 : Nat) ({ cls := "DeadUnderstudies$LawReader", name := "takes", desc := "(Ljava/lang/String;)Z" } : Jvm.MethodName)) ∈ lw_all := lw_g (lw_at lw_m5 84 rfl) rfl
theorem q1156 : (Jvm.Cond.sameMethod "DeadUnderstudies$LawReader" "DeadUnderstudies$Reader" "takes" "(Ljava/lang/String;)Z") ∈ lw_all := lw_g (lw_at lw_m5 85 rfl) rfl
theorem q1158 : (Jvm.Cond.selects "DeadUnderstudies$LawReader" ({ cls := "DeadUnderstudies$LawReader", name := "takes", desc := "(Ljava/lang/String;)Z" } : Jvm.MethodName) ({ cls := "DeadUnderstudies$Reader", name := "takes", desc := "(Ljava/lang/String;)Z" } : Jvm.MethodName)) ∈ lw_all := lw_g (lw_at lw_m5 87 rfl) rfl
theorem q1159 : (Jvm.Cond.methodLink "DeadUnderstudies$LawReader" (53 : Nat) ({ cls := "DeadUnderstudies$LawReader", name := "test", desc := "()LDeadUnderstudies$Test;" } : Jvm.MethodName)) ∈ lw_all := lw_g (lw_at lw_m5 88 rfl) rfl
theorem q1160 : (Jvm.Cond.sameMethod "DeadUnderstudies$LawReader" "DeadUnderstudies$Reader" "test" "()LDeadUnderstudies$Test;") ∈ lw_all := lw_g (lw_at lw_m5 89 rfl) rfl
theorem q1162 : (Jvm.Cond.selects "DeadUnderstudies$LawReader" ({ cls := "DeadUnderstudies$LawReader", name := "test", desc := "()LDeadUnderstudies$Test;" } : Jvm.MethodName) ({ cls := "DeadUnderstudies$Reader", name := "test", desc := "()LDeadUnderstudies$Test;" } : Jvm.MethodName)) ∈ lw_all := lw_g (lw_at lw_m5 91 rfl) rfl
theorem q1168 : (Jvm.Cond.selects "DeadUnderstudies$LawReader" ({ cls := "DeadUnderstudies$Reader", name := "both", desc := "()LDeadUnderstudies$Test;" } : Jvm.MethodName) ({ cls := "DeadUnderstudies$Reader", name := "both", desc := "()LDeadUnderstudies$Test;" } : Jvm.MethodName)) ∈ lw_all := lw_g (lw_at lw_m5 97 rfl) rfl
theorem q1174 : (Jvm.Cond.selects "DeadUnderstudies$LawReader" ({ cls := "DeadUnderstudies$Reader", name := "plain", desc := "()LDeadUnderstudies$Test;" } : Jvm.MethodName) ({ cls := "DeadUnderstudies$Reader", name := "plain", desc := "()LDeadUnderstudies$Test;" } : Jvm.MethodName)) ∈ lw_all := lw_g (lw_at lw_m5 103 rfl) rfl
theorem q1181 : (Jvm.Cond.selects "DeadUnderstudies$LawReader" ({ cls := "DeadUnderstudies$Reader", name := "positive", desc := "()LDeadUnderstudies$Test;" } : Jvm.MethodName) ({ cls := "DeadUnderstudies$Reader", name := "positive", desc := "()LDeadUnderstudies$Test;" } : Jvm.MethodName)) ∈ lw_all := lw_g (lw_at lw_m5 110 rfl) rfl
theorem q1238 : (Jvm.Cond.methodLink "DeadUnderstudies$LawReader" (61 : Nat) ({ cls := "java/util/ArrayList", name := "add", desc := "(Ljava/lang/Object;)Z" } : Jvm.MethodName)) ∈ lw_all := lw_g (lw_at lw_m5 167 rfl) rfl
theorem q1368 : (Jvm.Cond.instantiable "DeadUnderstudies$LawReader" (8 : Nat)) ∈ lw_all := lw_g (lw_at lw_m6 57 rfl) rfl
theorem q1370 : (Jvm.Cond.instanceMethod ({ cls := "DeadUnderstudies$LawReader", name := "<init>", desc := "([BI)V" } : Jvm.MethodName)) ∈ lw_all := lw_g (lw_at lw_m6 59 rfl) rfl
theorem q1371 : (Jvm.Cond.code ({ cls := "DeadUnderstudies$LawReader", name := "<init>", desc := "([BI)V" } : Jvm.MethodName) prog_10_method_1_code (3 : Nat) (Option.none : Option Jvm.ClassFile.FieldType)) ∈ lw_all := lw_g (lw_at lw_m6 60 rfl) rfl
theorem q1372 : (Jvm.Cond.methodLink "DeadUnderstudies$LawReader" (3 : Nat) ({ cls := "DeadUnderstudies$Reader", name := "<init>", desc := "([BI)V" } : Jvm.MethodName)) ∈ lw_all := lw_g (lw_at lw_m6 61 rfl) rfl
theorem q1373 : (Jvm.Cond.classLink "DeadUnderstudies$LawReader" (9 : Nat) "java/util/ArrayList") ∈ lw_all := lw_g (lw_at lw_m6 62 rfl) rfl
theorem q1374 : (Jvm.Cond.methodLink "DeadUnderstudies$LawReader" (11 : Nat) ({ cls := "java/util/ArrayList", name := "<init>", desc := "(I)V" } : Jvm.MethodName)) ∈ lw_all := lw_g (lw_at lw_m6 63 rfl) rfl
theorem q1375 : (Jvm.Cond.fieldLink "DeadUnderstudies$LawReader" (14 : Nat) "DeadUnderstudies$LawReader" "clauses" "Ljava/util/ArrayList;") ∈ lw_all := lw_g (lw_at lw_m6 64 rfl) rfl
theorem q1377 : (Jvm.Cond.laysFinal "DeadUnderstudies$LawReader" "DeadUnderstudies$LawReader" "clauses" "Ljava/util/ArrayList;") ∈ lw_all := lw_g (lw_at lw_m6 66 rfl) rfl
theorem q1378 : (Jvm.Cond.soleField "DeadUnderstudies$LawReader" "clauses") ∈ lw_all := lw_g (lw_at lw_m6 67 rfl) rfl
theorem q1379 : (Jvm.Cond.laysFinal "DeadUnderstudies$LawReader" "DeadUnderstudies$Reader" "tape" "[B") ∈ lw_all := lw_g (lw_at lw_m6 68 rfl) rfl
theorem q1380 : (Jvm.Cond.laysFinal "DeadUnderstudies$LawReader" "DeadUnderstudies$Reader" "size" "I") ∈ lw_all := lw_g (lw_at lw_m6 69 rfl) rfl
theorem q1381 : (Jvm.Cond.lays "DeadUnderstudies$LawReader" "DeadUnderstudies$Reader" "made" "I") ∈ lw_all := lw_g (lw_at lw_m6 70 rfl) rfl
theorem q1382 : (Jvm.Cond.lays "DeadUnderstudies$LawReader" "DeadUnderstudies$Reader" "from" "I") ∈ lw_all := lw_g (lw_at lw_m6 71 rfl) rfl
theorem q1383 : (Jvm.Cond.lays "DeadUnderstudies$LawReader" "DeadUnderstudies$Reader" "to" "I") ∈ lw_all := lw_g (lw_at lw_m6 72 rfl) rfl
theorem q1384 : (Jvm.Cond.lays "DeadUnderstudies$LawReader" "DeadUnderstudies$Reader" "leaves" "I") ∈ lw_all := lw_g (lw_at lw_m6 73 rfl) rfl
theorem q1385 : (Jvm.Cond.lays "DeadUnderstudies$LawReader" "DeadUnderstudies$Reader" "deep" "I") ∈ lw_all := lw_g (lw_at lw_m6 74 rfl) rfl
theorem q1386 : (Jvm.Cond.superclass "DeadUnderstudies$LawReader" "DeadUnderstudies$Reader") ∈ lw_all := lw_g (lw_at lw_m6 75 rfl) rfl
theorem q2587 : (Jvm.Cond.selects "DeadUnderstudies$LawReader" ({ cls := "DeadUnderstudies$Reader", name := "is", desc := "(Ljava/lang/String;)Z" } : Jvm.MethodName) ({ cls := "DeadUnderstudies$Reader", name := "is", desc := "(Ljava/lang/String;)Z" } : Jvm.MethodName)) ∈ lw_all := lw_g (lw_at lw_m11 76 rfl) rfl
theorem q2590 : (Jvm.Cond.selects "DeadUnderstudies$LawReader" ({ cls := "DeadUnderstudies$Reader", name := "sum", desc := "()LDeadUnderstudies$Sum;" } : Jvm.MethodName) ({ cls := "DeadUnderstudies$Reader", name := "sum", desc := "()LDeadUnderstudies$Sum;" } : Jvm.MethodName)) ∈ lw_all := lw_g (lw_at lw_m11 79 rfl) rfl
theorem q2593 : (Jvm.Cond.selects "DeadUnderstudies$LawReader" ({ cls := "DeadUnderstudies$Reader", name := "test", desc := "()LDeadUnderstudies$Test;" } : Jvm.MethodName) ({ cls := "DeadUnderstudies$Reader", name := "test", desc := "()LDeadUnderstudies$Test;" } : Jvm.MethodName)) ∈ lw_all := lw_g (lw_at lw_m11 82 rfl) rfl
theorem q2621 : (Jvm.Cond.castable "DeadUnderstudies$LawReader" "java/lang/Object") ∈ lw_tbl := lw_at lw_m11 110 rfl
theorem in_X25 : ∀ w ∈ wsX250, w ∈ lw_all := lw_in wsX250 [1379, 1380, 1381, 1382, 1383, 1384, 1385, 1377] (by decide +kernel) (by decide +kernel)
/-! DeadUnderstudies$Law -/
def RX26 : String := "DeadUnderstudies$Law"
def TX26 : u_T := fun k => match k with
  | _ => ("DeadUnderstudies$Law", "clauses", "Ljava/util/ArrayList;", true)
def tyX26 : Nat → FieldType := fun k => match k with
  | _ => .object "java/util/ArrayList"
abbrev wsX260 : List Cond := u_ws RX26 TX26 1
theorem nmX26 : ∀ a, a < 1 → ∀ b, b < 1 → a ≠ b → (TX26 a).2.1 ≠ (TX26 b).2.1 := by decide +kernel
theorem tyX26_ok : ∀ k, k < 1 → parseFieldDescriptor (TX26 k).2.2.1 = some (tyX26 k) := by decide +kernel
abbrev cX26_init : ByteArray := prog_9_method_1_code
def yX26_init : MethodName := ⟨RX26, "<init>", "(Ljava/util/ArrayList;)V"⟩
def dkwX26_init_0 : List UInt8 := [42, 183, 0, 3, 42, 43, 181, 0, 9, 177]
abbrev dktX26_init_0 : List UInt8 := dkwX26_init_0 ++ []
theorem dksX26_init_0 : cX26_init.data.toList.drop 0 = dktX26_init_0 := by decide +kernel
theorem dX26_init_0 : decode cX26_init 0 = .ok (.aload_n 0, 1) := dk_42 (dk_at dksX26_init_0 0 rfl rfl)
theorem dX26_init_1 : decode cX26_init 1 = .ok (.invokespecial 3, 3) := dk_183 0 3 (dk_at dksX26_init_0 1 rfl rfl)
theorem dX26_init_4 : decode cX26_init 4 = .ok (.aload_n 0, 1) := dk_42 (dk_at dksX26_init_0 4 rfl rfl)
theorem dX26_init_5 : decode cX26_init 5 = .ok (.aload_n 1, 1) := dk_43 (dk_at dksX26_init_0 5 rfl rfl)
theorem dX26_init_6 : decode cX26_init 6 = .ok (.putfield 9, 3) := dk_181 0 9 (dk_at dksX26_init_0 6 rfl rfl)
theorem dX26_init_9 : decode cX26_init 9 = .ok (.return_, 1) := dk_177 (dk_at dksX26_init_0 9 rfl rfl)
abbrev cX26_told : ByteArray := prog_9_method_2_code
def yX26_told : MethodName := ⟨RX26, "told", "(ILDeadUnderstudies$Setting;)J"⟩
def dkwX26_told_3 : List UInt8 := [132, 5, 1, 167, 255, 189, 33, 173]
abbrev dktX26_told_3 : List UInt8 := dkwX26_told_3 ++ []
def dkwX26_told_2 : List UInt8 := [182, 0, 23, 192, 0, 27, 44, 182, 0, 33, 55, 6, 22, 6, 20, 0, 15, 148, 153, 0, 6, 22, 6, 66]
abbrev dktX26_told_2 : List UInt8 := dkwX26_told_2 ++ dktX26_told_3
def dkwX26_told_1 : List UInt8 := [21, 5, 182, 0, 23, 192, 0, 27, 180, 0, 29, 27, 159, 0, 6, 167, 0, 33, 42, 180, 0, 9, 21, 5]
abbrev dktX26_told_1 : List UInt8 := dkwX26_told_1 ++ dktX26_told_2
def dkwX26_told_0 : List UInt8 := [20, 0, 15, 66, 3, 54, 5, 21, 5, 42, 180, 0, 9, 182, 0, 17, 162, 0, 61, 42, 180, 0, 9]
abbrev dktX26_told_0 : List UInt8 := dkwX26_told_0 ++ dktX26_told_1
theorem dksX26_told_0 : cX26_told.data.toList.drop 0 = dktX26_told_0 := by decide +kernel
theorem dksX26_told_1 : cX26_told.data.toList.drop 23 = dktX26_told_1 := dk_seg dksX26_told_0 23 rfl rfl
theorem dksX26_told_2 : cX26_told.data.toList.drop 47 = dktX26_told_2 := dk_seg dksX26_told_1 24 rfl rfl
theorem dksX26_told_3 : cX26_told.data.toList.drop 71 = dktX26_told_3 := dk_seg dksX26_told_2 24 rfl rfl
theorem dX26_told_0 : decode cX26_told 0 = .ok (.ldc2_w 15, 3) := dk_20 0 15 (dk_at dksX26_told_0 0 rfl rfl)
theorem dX26_told_3 : decode cX26_told 3 = .ok (.lstore_n 3, 1) := dk_66 (dk_at dksX26_told_0 3 rfl rfl)
theorem dX26_told_4 : decode cX26_told 4 = .ok (.iconst 0, 1) := dk_3 (dk_at dksX26_told_0 4 rfl rfl)
theorem dX26_told_5 : decode cX26_told 5 = .ok (.istore 5, 2) := dk_54 5 (dk_at dksX26_told_0 5 rfl rfl)
theorem dX26_told_7 : decode cX26_told 7 = .ok (.iload 5, 2) := dk_21 5 (dk_at dksX26_told_0 7 rfl rfl)
theorem dX26_told_9 : decode cX26_told 9 = .ok (.aload_n 0, 1) := dk_42 (dk_at dksX26_told_0 9 rfl rfl)
theorem dX26_told_10 : decode cX26_told 10 = .ok (.getfield 9, 3) := dk_180 0 9 (dk_at dksX26_told_0 10 rfl rfl)
theorem dX26_told_13 : decode cX26_told 13 = .ok (.invokevirtual 17, 3) := dk_182 0 17 (dk_at dksX26_told_0 13 rfl rfl)
theorem dX26_told_16 : decode cX26_told 16 = .ok (.if_icmp .ge 61, 3) := dk_162 0 61 (dk_at dksX26_told_0 16 rfl rfl)
theorem dX26_told_19 : decode cX26_told 19 = .ok (.aload_n 0, 1) := dk_42 (dk_at dksX26_told_0 19 rfl rfl)
theorem dX26_told_20 : decode cX26_told 20 = .ok (.getfield 9, 3) := dk_180 0 9 (dk_at dksX26_told_0 20 rfl rfl)
theorem dX26_told_23 : decode cX26_told 23 = .ok (.iload 5, 2) := dk_21 5 (dk_at dksX26_told_1 0 rfl rfl)
theorem dX26_told_25 : decode cX26_told 25 = .ok (.invokevirtual 23, 3) := dk_182 0 23 (dk_at dksX26_told_1 2 rfl rfl)
theorem dX26_told_28 : decode cX26_told 28 = .ok (.checkcast 27, 3) := dk_192 0 27 (dk_at dksX26_told_1 5 rfl rfl)
theorem dX26_told_31 : decode cX26_told 31 = .ok (.getfield 29, 3) := dk_180 0 29 (dk_at dksX26_told_1 8 rfl rfl)
theorem dX26_told_34 : decode cX26_told 34 = .ok (.iload_n 1, 1) := dk_27 (dk_at dksX26_told_1 11 rfl rfl)
theorem dX26_told_35 : decode cX26_told 35 = .ok (.if_icmp .eq 6, 3) := dk_159 0 6 (dk_at dksX26_told_1 12 rfl rfl)
theorem dX26_told_38 : decode cX26_told 38 = .ok (.goto 33, 3) := dk_167 0 33 (dk_at dksX26_told_1 15 rfl rfl)
theorem dX26_told_41 : decode cX26_told 41 = .ok (.aload_n 0, 1) := dk_42 (dk_at dksX26_told_1 18 rfl rfl)
theorem dX26_told_42 : decode cX26_told 42 = .ok (.getfield 9, 3) := dk_180 0 9 (dk_at dksX26_told_1 19 rfl rfl)
theorem dX26_told_45 : decode cX26_told 45 = .ok (.iload 5, 2) := dk_21 5 (dk_at dksX26_told_1 22 rfl rfl)
theorem dX26_told_47 : decode cX26_told 47 = .ok (.invokevirtual 23, 3) := dk_182 0 23 (dk_at dksX26_told_2 0 rfl rfl)
theorem dX26_told_50 : decode cX26_told 50 = .ok (.checkcast 27, 3) := dk_192 0 27 (dk_at dksX26_told_2 3 rfl rfl)
theorem dX26_told_53 : decode cX26_told 53 = .ok (.aload_n 2, 1) := dk_44 (dk_at dksX26_told_2 6 rfl rfl)
theorem dX26_told_54 : decode cX26_told 54 = .ok (.invokevirtual 33, 3) := dk_182 0 33 (dk_at dksX26_told_2 7 rfl rfl)
theorem dX26_told_57 : decode cX26_told 57 = .ok (.lstore 6, 2) := dk_55 6 (dk_at dksX26_told_2 10 rfl rfl)
theorem dX26_told_59 : decode cX26_told 59 = .ok (.lload 6, 2) := dk_22 6 (dk_at dksX26_told_2 12 rfl rfl)
theorem dX26_told_61 : decode cX26_told 61 = .ok (.ldc2_w 15, 3) := dk_20 0 15 (dk_at dksX26_told_2 14 rfl rfl)
theorem dX26_told_64 : decode cX26_told 64 = .ok (.lcmp, 1) := dk_148 (dk_at dksX26_told_2 17 rfl rfl)
theorem dX26_told_65 : decode cX26_told 65 = .ok (.ifCond .eq 6, 3) := dk_153 0 6 (dk_at dksX26_told_2 18 rfl rfl)
theorem dX26_told_68 : decode cX26_told 68 = .ok (.lload 6, 2) := dk_22 6 (dk_at dksX26_told_2 21 rfl rfl)
theorem dX26_told_70 : decode cX26_told 70 = .ok (.lstore_n 3, 1) := dk_66 (dk_at dksX26_told_2 23 rfl rfl)
theorem dX26_told_71 : decode cX26_told 71 = .ok (.iinc 5 1, 3) := dk_132 5 1 (dk_at dksX26_told_3 0 rfl rfl)
theorem dX26_told_74 : decode cX26_told 74 = .ok (.goto (-67), 3) := dk_167 255 189 (dk_at dksX26_told_3 3 rfl rfl)
theorem dX26_told_77 : decode cX26_told 77 = .ok (.lload_n 3, 1) := dk_33 (dk_at dksX26_told_3 6 rfl rfl)
theorem dX26_told_78 : decode cX26_told 78 = .ok (.lreturn, 1) := dk_173 (dk_at dksX26_told_3 7 rfl rfl)
theorem q152 : (Jvm.Cond.initialized "DeadUnderstudies$Law") ∈ lw_all := lw_g (lw_at lw_m1 41 rfl) rfl
theorem q649 : (Jvm.Cond.selects "DeadUnderstudies$Law" ({ cls := "java/lang/Object", name := "getClass", desc := "()Ljava/lang/Class;" } : Jvm.MethodName) ({ cls := "java/lang/Object", name := "getClass", desc := "()Ljava/lang/Class;" } : Jvm.MethodName)) ∈ lw_all := lw_g (lw_at lw_m3 58 rfl) rfl
theorem q1020 : (Jvm.Cond.fieldLinkNest "DeadUnderstudies$Law" (29 : Nat) "DeadUnderstudies$Clause" "head" "I" "DeadUnderstudies") ∈ lw_tbl := lw_at lw_m4 189 rfl
theorem q1388 : (Jvm.Cond.instantiable "DeadUnderstudies$Law" (1 : Nat)) ∈ lw_all := lw_g (lw_at lw_m6 77 rfl) rfl
theorem q1390 : (Jvm.Cond.instanceMethod ({ cls := "DeadUnderstudies$Law", name := "<init>", desc := "(Ljava/util/ArrayList;)V" } : Jvm.MethodName)) ∈ lw_all := lw_g (lw_at lw_m6 79 rfl) rfl
theorem q1391 : (Jvm.Cond.code ({ cls := "DeadUnderstudies$Law", name := "<init>", desc := "(Ljava/util/ArrayList;)V" } : Jvm.MethodName) prog_9_method_1_code (2 : Nat) (Option.none : Option Jvm.ClassFile.FieldType)) ∈ lw_all := lw_g (lw_at lw_m6 80 rfl) rfl
theorem q1392 : (Jvm.Cond.methodLink "DeadUnderstudies$Law" (3 : Nat) ({ cls := "java/lang/Object", name := "<init>", desc := "()V" } : Jvm.MethodName)) ∈ lw_all := lw_g (lw_at lw_m6 81 rfl) rfl
theorem q1393 : (Jvm.Cond.fieldLink "DeadUnderstudies$Law" (9 : Nat) "DeadUnderstudies$Law" "clauses" "Ljava/util/ArrayList;") ∈ lw_all := lw_g (lw_at lw_m6 82 rfl) rfl
theorem q1394 : (Jvm.Cond.laysFinal "DeadUnderstudies$Law" "DeadUnderstudies$Law" "clauses" "Ljava/util/ArrayList;") ∈ lw_all := lw_g (lw_at lw_m6 83 rfl) rfl
theorem q1395 : (Jvm.Cond.soleField "DeadUnderstudies$Law" "clauses") ∈ lw_all := lw_g (lw_at lw_m6 84 rfl) rfl
theorem q1396 : (Jvm.Cond.superclass "DeadUnderstudies$Law" "java/lang/Object") ∈ lw_all := lw_g (lw_at lw_m6 85 rfl) rfl
theorem q1419 : (Jvm.Cond.instanceMethod ({ cls := "DeadUnderstudies$Law", name := "told", desc := "(ILDeadUnderstudies$Setting;)J" } : Jvm.MethodName)) ∈ lw_all := lw_g (lw_at lw_m6 108 rfl) rfl
theorem q1420 : (Jvm.Cond.selects "DeadUnderstudies$Law" ({ cls := "DeadUnderstudies$Law", name := "told", desc := "(ILDeadUnderstudies$Setting;)J" } : Jvm.MethodName) ({ cls := "DeadUnderstudies$Law", name := "told", desc := "(ILDeadUnderstudies$Setting;)J" } : Jvm.MethodName)) ∈ lw_all := lw_g (lw_at lw_m6 109 rfl) rfl
theorem q1421 : (Jvm.Cond.code ({ cls := "DeadUnderstudies$Law", name := "told", desc := "(ILDeadUnderstudies$Setting;)J" } : Jvm.MethodName) prog_9_method_2_code (8 : Nat) (Option.some Jvm.ClassFile.FieldType.long)) ∈ lw_all := lw_g (lw_at lw_m6 110 rfl) rfl
theorem q1422 : (Jvm.Cond.constantLong "DeadUnderstudies$Law" (15 : Nat) (-4000000000 : Int64)) ∈ lw_all := lw_g (lw_at lw_m6 111 rfl) rfl
theorem q1423 : (Jvm.Cond.methodLink "DeadUnderstudies$Law" (17 : Nat) ({ cls := "java/util/ArrayList", name := "size", desc := "()I" } : Jvm.MethodName)) ∈ lw_all := lw_g (lw_at lw_m6 112 rfl) rfl
theorem q1424 : (Jvm.Cond.methodLink "DeadUnderstudies$Law" (23 : Nat) ({ cls := "java/util/ArrayList", name := "get", desc := "(I)Ljava/lang/Object;" } : Jvm.MethodName)) ∈ lw_all := lw_g (lw_at lw_m6 113 rfl) rfl
theorem q1425 : (Jvm.Cond.classLink "DeadUnderstudies$Law" (27 : Nat) "DeadUnderstudies$Clause") ∈ lw_all := lw_g (lw_at lw_m6 114 rfl) rfl
theorem q1426 : (Jvm.Cond.methodLink "DeadUnderstudies$Law" (33 : Nat) ({ cls := "DeadUnderstudies$Clause", name := "tells", desc := "(LDeadUnderstudies$Setting;)J" } : Jvm.MethodName)) ∈ lw_all := lw_g (lw_at lw_m6 115 rfl) rfl
theorem q2622 : (Jvm.Cond.castable "DeadUnderstudies$Law" "java/lang/Object") ∈ lw_tbl := lw_at lw_m11 111 rfl
theorem in_X26 : ∀ w ∈ wsX260, w ∈ lw_all := lw_in wsX260 [1394] (by decide +kernel) (by decide +kernel)
/-! DeadUnderstudies$Version -/
def RX27 : String := "DeadUnderstudies$Version"
def TX27 : u_T := fun k => match k with
  | 0 => ("DeadUnderstudies$Version", "part", "I", true)
  | 1 => ("DeadUnderstudies$Version", "holder", "I", true)
  | 2 => ("DeadUnderstudies$Version", "teacher", "I", true)
  | _ => ("DeadUnderstudies$Version", "script", "LDeadUnderstudies$Script;", true)
def tyX27 : Nat → FieldType := fun k => match k with
  | 0 => .int
  | 1 => .int
  | 2 => .int
  | _ => .object "DeadUnderstudies$Script"
abbrev wsX270 : List Cond := u_ws RX27 TX27 4
theorem nmX27 : ∀ a, a < 4 → ∀ b, b < 4 → a ≠ b → (TX27 a).2.1 ≠ (TX27 b).2.1 := by decide +kernel
theorem tyX27_ok : ∀ k, k < 4 → parseFieldDescriptor (TX27 k).2.2.1 = some (tyX27 k) := by decide +kernel
abbrev cX27_init : ByteArray := prog_27_method_1_code
def yX27_init : MethodName := ⟨RX27, "<init>", "(IIILDeadUnderstudies$Script;)V"⟩
def dkwX27_init_1 : List UInt8 := [181, 0, 19, 177]
abbrev dktX27_init_1 : List UInt8 := dkwX27_init_1 ++ []
def dkwX27_init_0 : List UInt8 := [42, 183, 0, 1, 42, 27, 181, 0, 7, 42, 28, 181, 0, 13, 42, 29, 181, 0, 16, 42, 25, 4]
abbrev dktX27_init_0 : List UInt8 := dkwX27_init_0 ++ dktX27_init_1
theorem dksX27_init_0 : cX27_init.data.toList.drop 0 = dktX27_init_0 := by decide +kernel
theorem dksX27_init_1 : cX27_init.data.toList.drop 22 = dktX27_init_1 := dk_seg dksX27_init_0 22 rfl rfl
theorem dX27_init_0 : decode cX27_init 0 = .ok (.aload_n 0, 1) := dk_42 (dk_at dksX27_init_0 0 rfl rfl)
theorem dX27_init_1 : decode cX27_init 1 = .ok (.invokespecial 1, 3) := dk_183 0 1 (dk_at dksX27_init_0 1 rfl rfl)
theorem dX27_init_4 : decode cX27_init 4 = .ok (.aload_n 0, 1) := dk_42 (dk_at dksX27_init_0 4 rfl rfl)
theorem dX27_init_5 : decode cX27_init 5 = .ok (.iload_n 1, 1) := dk_27 (dk_at dksX27_init_0 5 rfl rfl)
theorem dX27_init_6 : decode cX27_init 6 = .ok (.putfield 7, 3) := dk_181 0 7 (dk_at dksX27_init_0 6 rfl rfl)
theorem dX27_init_9 : decode cX27_init 9 = .ok (.aload_n 0, 1) := dk_42 (dk_at dksX27_init_0 9 rfl rfl)
theorem dX27_init_10 : decode cX27_init 10 = .ok (.iload_n 2, 1) := dk_28 (dk_at dksX27_init_0 10 rfl rfl)
theorem dX27_init_11 : decode cX27_init 11 = .ok (.putfield 13, 3) := dk_181 0 13 (dk_at dksX27_init_0 11 rfl rfl)
theorem dX27_init_14 : decode cX27_init 14 = .ok (.aload_n 0, 1) := dk_42 (dk_at dksX27_init_0 14 rfl rfl)
theorem dX27_init_15 : decode cX27_init 15 = .ok (.iload_n 3, 1) := dk_29 (dk_at dksX27_init_0 15 rfl rfl)
theorem dX27_init_16 : decode cX27_init 16 = .ok (.putfield 16, 3) := dk_181 0 16 (dk_at dksX27_init_0 16 rfl rfl)
theorem dX27_init_19 : decode cX27_init 19 = .ok (.aload_n 0, 1) := dk_42 (dk_at dksX27_init_0 19 rfl rfl)
theorem dX27_init_20 : decode cX27_init 20 = .ok (.aload 4, 2) := dk_25 4 (dk_at dksX27_init_0 20 rfl rfl)
theorem dX27_init_22 : decode cX27_init 22 = .ok (.putfield 19, 3) := dk_181 0 19 (dk_at dksX27_init_1 0 rfl rfl)
theorem dX27_init_25 : decode cX27_init 25 = .ok (.return_, 1) := dk_177 (dk_at dksX27_init_1 3 rfl rfl)
theorem q153 : (Jvm.Cond.initialized "DeadUnderstudies$Version") ∈ lw_all := lw_g (lw_at lw_m1 42 rfl) rfl
theorem q664 : (Jvm.Cond.selects "DeadUnderstudies$Version" ({ cls := "java/lang/Object", name := "getClass", desc := "()Ljava/lang/Class;" } : Jvm.MethodName) ({ cls := "java/lang/Object", name := "getClass", desc := "()Ljava/lang/Class;" } : Jvm.MethodName)) ∈ lw_all := lw_g (lw_at lw_m3 73 rfl) rfl
theorem q1470 : (Jvm.Cond.instantiable "DeadUnderstudies$Version" (4 : Nat)) ∈ lw_all := lw_g (lw_at lw_m6 159 rfl) rfl
theorem q1472 : (Jvm.Cond.instanceMethod ({ cls := "DeadUnderstudies$Version", name := "<init>", desc := "(IIILDeadUnderstudies$Script;)V" } : Jvm.MethodName)) ∈ lw_all := lw_g (lw_at lw_m6 161 rfl) rfl
theorem q1473 : (Jvm.Cond.code ({ cls := "DeadUnderstudies$Version", name := "<init>", desc := "(IIILDeadUnderstudies$Script;)V" } : Jvm.MethodName) prog_27_method_1_code (5 : Nat) (Option.none : Option Jvm.ClassFile.FieldType)) ∈ lw_all := lw_g (lw_at lw_m6 162 rfl) rfl
theorem q1474 : (Jvm.Cond.methodLink "DeadUnderstudies$Version" (1 : Nat) ({ cls := "java/lang/Object", name := "<init>", desc := "()V" } : Jvm.MethodName)) ∈ lw_all := lw_g (lw_at lw_m6 163 rfl) rfl
theorem q1475 : (Jvm.Cond.fieldLink "DeadUnderstudies$Version" (7 : Nat) "DeadUnderstudies$Version" "part" "I") ∈ lw_all := lw_g (lw_at lw_m6 164 rfl) rfl
theorem q1477 : (Jvm.Cond.fieldLink "DeadUnderstudies$Version" (13 : Nat) "DeadUnderstudies$Version" "holder" "I") ∈ lw_all := lw_g (lw_at lw_m6 166 rfl) rfl
theorem q1479 : (Jvm.Cond.fieldLink "DeadUnderstudies$Version" (16 : Nat) "DeadUnderstudies$Version" "teacher" "I") ∈ lw_all := lw_g (lw_at lw_m6 168 rfl) rfl
theorem q1481 : (Jvm.Cond.fieldLink "DeadUnderstudies$Version" (19 : Nat) "DeadUnderstudies$Version" "script" "LDeadUnderstudies$Script;") ∈ lw_all := lw_g (lw_at lw_m6 170 rfl) rfl
theorem q1483 : (Jvm.Cond.laysFinal "DeadUnderstudies$Version" "DeadUnderstudies$Version" "part" "I") ∈ lw_all := lw_g (lw_at lw_m6 172 rfl) rfl
theorem q1484 : (Jvm.Cond.soleField "DeadUnderstudies$Version" "part") ∈ lw_all := lw_g (lw_at lw_m6 173 rfl) rfl
theorem q1485 : (Jvm.Cond.laysFinal "DeadUnderstudies$Version" "DeadUnderstudies$Version" "holder" "I") ∈ lw_all := lw_g (lw_at lw_m6 174 rfl) rfl
theorem q1486 : (Jvm.Cond.soleField "DeadUnderstudies$Version" "holder") ∈ lw_all := lw_g (lw_at lw_m6 175 rfl) rfl
theorem q1487 : (Jvm.Cond.laysFinal "DeadUnderstudies$Version" "DeadUnderstudies$Version" "teacher" "I") ∈ lw_all := lw_g (lw_at lw_m6 176 rfl) rfl
theorem q1488 : (Jvm.Cond.soleField "DeadUnderstudies$Version" "teacher") ∈ lw_all := lw_g (lw_at lw_m6 177 rfl) rfl
theorem q1489 : (Jvm.Cond.laysFinal "DeadUnderstudies$Version" "DeadUnderstudies$Version" "script" "LDeadUnderstudies$Script;") ∈ lw_all := lw_g (lw_at lw_m6 178 rfl) rfl
theorem q1490 : (Jvm.Cond.soleField "DeadUnderstudies$Version" "script") ∈ lw_all := lw_g (lw_at lw_m6 179 rfl) rfl
theorem q1491 : (Jvm.Cond.superclass "DeadUnderstudies$Version" "java/lang/Object") ∈ lw_all := lw_g (lw_at lw_m6 180 rfl) rfl
theorem q2623 : (Jvm.Cond.castable "DeadUnderstudies$Version" "java/lang/Object") ∈ lw_tbl := lw_at lw_m11 112 rfl
theorem in_X27 : ∀ w ∈ wsX270, w ∈ lw_all := lw_in wsX270 [1483, 1485, 1487, 1489] (by decide +kernel) (by decide +kernel)
theorem q111 : (Jvm.Cond.initialized "DeadUnderstudiesLaw") ∈ lw_all := lw_g (lw_at lw_m1 0 rfl) rfl
theorem q155 : (Jvm.Cond.classLink "DeadUnderstudiesLaw" (7 : Nat) "DeadUnderstudies") ∈ lw_all := lw_g (lw_at lw_m1 44 rfl) rfl
theorem q157 : (Jvm.Cond.methodLink "DeadUnderstudiesLaw" (9 : Nat) ({ cls := "DeadUnderstudies", name := "<init>", desc := "()V" } : Jvm.MethodName)) ∈ lw_all := lw_g (lw_at lw_m1 46 rfl) rfl
theorem q594 : (Jvm.Cond.methodLink "DeadUnderstudiesLaw" (196 : Nat) ({ cls := "DeadUnderstudies", name := "image", desc := "(I)I" } : Jvm.MethodName)) ∈ lw_all := lw_g (lw_at lw_m3 3 rfl) rfl
theorem q699 : (Jvm.Cond.methodLink "DeadUnderstudiesLaw" (200 : Nat) ({ cls := "DeadUnderstudies", name := "back", desc := "(I)I" } : Jvm.MethodName)) ∈ lw_all := lw_g (lw_at lw_m3 108 rfl) rfl
theorem q703 : (Jvm.Cond.methodLink "DeadUnderstudiesLaw" (13 : Nat) ({ cls := "DeadUnderstudies", name := "part", desc := "(II)I" } : Jvm.MethodName)) ∈ lw_all := lw_g (lw_at lw_m3 112 rfl) rfl
theorem q711 : (Jvm.Cond.methodLink "DeadUnderstudiesLaw" (18 : Nat) ({ cls := "DeadUnderstudies", name := "rule", desc := "(IIIII)I" } : Jvm.MethodName)) ∈ lw_all := lw_g (lw_at lw_m3 120 rfl) rfl
theorem q729 : (Jvm.Cond.methodLink "DeadUnderstudiesLaw" (23 : Nat) ({ cls := "DeadUnderstudies", name := "hush", desc := "(III)I" } : Jvm.MethodName)) ∈ lw_all := lw_g (lw_at lw_m3 138 rfl) rfl
theorem q733 : (Jvm.Cond.methodLink "DeadUnderstudiesLaw" (28 : Nat) ({ cls := "DeadUnderstudies", name := "of", desc := "(IIII)I" } : Jvm.MethodName)) ∈ lw_all := lw_g (lw_at lw_m3 142 rfl) rfl
theorem q748 : (Jvm.Cond.methodLink "DeadUnderstudiesLaw" (33 : Nat) ({ cls := "DeadUnderstudies", name := "stage", desc := "(II)I" } : Jvm.MethodName)) ∈ lw_all := lw_g (lw_at lw_m3 157 rfl) rfl
theorem q775 : (Jvm.Cond.methodLink "DeadUnderstudiesLaw" (37 : Nat) ({ cls := "DeadUnderstudies", name := "person", desc := "(III)I" } : Jvm.MethodName)) ∈ lw_all := lw_g (lw_at lw_m3 184 rfl) rfl
theorem q811 : (Jvm.Cond.methodLink "DeadUnderstudiesLaw" (41 : Nat) ({ cls := "DeadUnderstudies", name := "put", desc := "(III)I" } : Jvm.MethodName)) ∈ lw_all := lw_g (lw_at lw_m3 220 rfl) rfl
theorem q823 : (Jvm.Cond.methodLink "DeadUnderstudiesLaw" (45 : Nat) ({ cls := "DeadUnderstudies", name := "fact", desc := "(II)I" } : Jvm.MethodName)) ∈ lw_all := lw_g (lw_at lw_m3 232 rfl) rfl
theorem q835 : (Jvm.Cond.methodLink "DeadUnderstudiesLaw" (49 : Nat) ({ cls := "DeadUnderstudies", name := "terms", desc := "(II)I" } : Jvm.MethodName)) ∈ lw_all := lw_g (lw_at lw_m4 4 rfl) rfl
theorem q839 : (Jvm.Cond.methodLink "DeadUnderstudiesLaw" (53 : Nat) ({ cls := "DeadUnderstudies", name := "feed", desc := "(IIIII)I" } : Jvm.MethodName)) ∈ lw_all := lw_g (lw_at lw_m4 8 rfl) rfl
theorem q847 : (Jvm.Cond.methodLink "DeadUnderstudiesLaw" (57 : Nat) ({ cls := "DeadUnderstudies", name := "end", desc := "(I)I" } : Jvm.MethodName)) ∈ lw_all := lw_g (lw_at lw_m4 16 rfl) rfl
theorem q851 : (Jvm.Cond.methodLink "DeadUnderstudiesLaw" (62 : Nat) ({ cls := "DeadUnderstudies", name := "row", desc := "(I)I" } : Jvm.MethodName)) ∈ lw_all := lw_g (lw_at lw_m4 20 rfl) rfl
theorem q855 : (Jvm.Cond.methodLink "DeadUnderstudiesLaw" (66 : Nat) ({ cls := "DeadUnderstudies", name := "prattle", desc := "()I" } : Jvm.MethodName)) ∈ lw_all := lw_g (lw_at lw_m4 24 rfl) rfl
theorem q859 : (Jvm.Cond.methodLink "DeadUnderstudiesLaw" (71 : Nat) ({ cls := "DeadUnderstudies", name := "play", desc := "(I)I" } : Jvm.MethodName)) ∈ lw_all := lw_g (lw_at lw_m4 28 rfl) rfl
theorem q1363 : (Jvm.Cond.methodLink "DeadUnderstudiesLaw" (75 : Nat) ({ cls := "DeadUnderstudies", name := "law", desc := "()I" } : Jvm.MethodName)) ∈ lw_all := lw_g (lw_at lw_m6 52 rfl) rfl
theorem q1397 : (Jvm.Cond.methodLink "DeadUnderstudiesLaw" (79 : Nat) ({ cls := "DeadUnderstudies", name := "fault", desc := "()I" } : Jvm.MethodName)) ∈ lw_all := lw_g (lw_at lw_m6 86 rfl) rfl
theorem q1401 : (Jvm.Cond.methodLink "DeadUnderstudiesLaw" (83 : Nat) ({ cls := "DeadUnderstudies", name := "force", desc := "(I)I" } : Jvm.MethodName)) ∈ lw_all := lw_g (lw_at lw_m6 90 rfl) rfl
theorem q1405 : (Jvm.Cond.methodLink "DeadUnderstudiesLaw" (87 : Nat) ({ cls := "DeadUnderstudies", name := "asks", desc := "(IIII)I" } : Jvm.MethodName)) ∈ lw_all := lw_g (lw_at lw_m6 94 rfl) rfl
theorem q1443 : (Jvm.Cond.methodLink "DeadUnderstudiesLaw" (91 : Nat) ({ cls := "DeadUnderstudies", name := "cue", desc := "(I)I" } : Jvm.MethodName)) ∈ lw_all := lw_g (lw_at lw_m6 132 rfl) rfl
theorem q1447 : (Jvm.Cond.methodLink "DeadUnderstudiesLaw" (95 : Nat) ({ cls := "DeadUnderstudies", name := "still", desc := "()I" } : Jvm.MethodName)) ∈ lw_all := lw_g (lw_at lw_m6 136 rfl) rfl
theorem q1451 : (Jvm.Cond.methodLink "DeadUnderstudiesLaw" (99 : Nat) ({ cls := "DeadUnderstudies", name := "begin", desc := "(II)I" } : Jvm.MethodName)) ∈ lw_all := lw_g (lw_at lw_m6 140 rfl) rfl
theorem q1492 : (Jvm.Cond.methodLink "DeadUnderstudiesLaw" (103 : Nat) ({ cls := "DeadUnderstudies", name := "learn", desc := "(III)I" } : Jvm.MethodName)) ∈ lw_all := lw_g (lw_at lw_m6 181 rfl) rfl
theorem q1519 : (Jvm.Cond.methodLink "DeadUnderstudiesLaw" (107 : Nat) ({ cls := "DeadUnderstudies", name := "undo", desc := "()I" } : Jvm.MethodName)) ∈ lw_all := lw_g (lw_at lw_m6 208 rfl) rfl
theorem q1535 : (Jvm.Cond.methodLink "DeadUnderstudiesLaw" (111 : Nat) ({ cls := "DeadUnderstudies", name := "version", desc := "(II)I" } : Jvm.MethodName)) ∈ lw_all := lw_g (lw_at lw_m6 224 rfl) rfl
theorem q1544 : (Jvm.Cond.methodLink "DeadUnderstudiesLaw" (115 : Nat) ({ cls := "DeadUnderstudies", name := "knows", desc := "(IIII)I" } : Jvm.MethodName)) ∈ lw_all := lw_g (lw_at lw_m6 233 rfl) rfl
theorem q1552 : (Jvm.Cond.methodLink "DeadUnderstudiesLaw" (119 : Nat) ({ cls := "DeadUnderstudies", name := "says", desc := "(II)I" } : Jvm.MethodName)) ∈ lw_all := lw_g (lw_at lw_m7 1 rfl) rfl
theorem q1564 : (Jvm.Cond.methodLink "DeadUnderstudiesLaw" (123 : Nat) ({ cls := "DeadUnderstudies", name := "stops", desc := "(I)I" } : Jvm.MethodName)) ∈ lw_all := lw_g (lw_at lw_m7 13 rfl) rfl
theorem q1568 : (Jvm.Cond.methodLink "DeadUnderstudiesLaw" (127 : Nat) ({ cls := "DeadUnderstudies", name := "apart", desc := "(III)I" } : Jvm.MethodName)) ∈ lw_all := lw_g (lw_at lw_m7 17 rfl) rfl
theorem q1590 : (Jvm.Cond.methodLink "DeadUnderstudiesLaw" (131 : Nat) ({ cls := "DeadUnderstudies", name := "trap", desc := "(II)I" } : Jvm.MethodName)) ∈ lw_all := lw_g (lw_at lw_m7 39 rfl) rfl
theorem q1595 : (Jvm.Cond.methodLink "DeadUnderstudiesLaw" (135 : Nat) ({ cls := "DeadUnderstudies", name := "talk", desc := "(IIII)I" } : Jvm.MethodName)) ∈ lw_all := lw_g (lw_at lw_m7 44 rfl) rfl
theorem q1612 : (Jvm.Cond.methodLink "DeadUnderstudiesLaw" (139 : Nat) ({ cls := "DeadUnderstudies", name := "mends", desc := "(IIII)I" } : Jvm.MethodName)) ∈ lw_all := lw_g (lw_at lw_m7 61 rfl) rfl
theorem q1620 : (Jvm.Cond.methodLink "DeadUnderstudiesLaw" (143 : Nat) ({ cls := "DeadUnderstudies", name := "vote", desc := "(II)I" } : Jvm.MethodName)) ∈ lw_all := lw_g (lw_at lw_m7 69 rfl) rfl
theorem q1624 : (Jvm.Cond.methodLink "DeadUnderstudiesLaw" (147 : Nat) ({ cls := "DeadUnderstudies", name := "drift", desc := "(II)J" } : Jvm.MethodName)) ∈ lw_all := lw_g (lw_at lw_m7 73 rfl) rfl
theorem q1636 : (Jvm.Cond.methodLink "DeadUnderstudiesLaw" (152 : Nat) ({ cls := "DeadUnderstudies", name := "origin", desc := "(III)I" } : Jvm.MethodName)) ∈ lw_all := lw_g (lw_at lw_m7 85 rfl) rfl
theorem q1653 : (Jvm.Cond.methodLink "DeadUnderstudiesLaw" (156 : Nat) ({ cls := "DeadUnderstudies", name := "origins", desc := "(II)J" } : Jvm.MethodName)) ∈ lw_all := lw_g (lw_at lw_m7 102 rfl) rfl
theorem q1667 : (Jvm.Cond.methodLink "DeadUnderstudiesLaw" (160 : Nat) ({ cls := "DeadUnderstudies", name := "chain", desc := "(III)I" } : Jvm.MethodName)) ∈ lw_all := lw_g (lw_at lw_m7 116 rfl) rfl
theorem q1698 : (Jvm.Cond.methodLink "DeadUnderstudiesLaw" (164 : Nat) ({ cls := "DeadUnderstudies", name := "cast", desc := "(I)I" } : Jvm.MethodName)) ∈ lw_all := lw_g (lw_at lw_m7 147 rfl) rfl
theorem q1720 : (Jvm.Cond.methodLink "DeadUnderstudiesLaw" (168 : Nat) ({ cls := "DeadUnderstudies", name := "deed", desc := "(III)I" } : Jvm.MethodName)) ∈ lw_all := lw_g (lw_at lw_m7 169 rfl) rfl
theorem q1724 : (Jvm.Cond.methodLink "DeadUnderstudiesLaw" (172 : Nat) ({ cls := "DeadUnderstudies", name := "forget", desc := "()I" } : Jvm.MethodName)) ∈ lw_all := lw_g (lw_at lw_m7 173 rfl) rfl
theorem q1728 : (Jvm.Cond.methodLink "DeadUnderstudiesLaw" (176 : Nat) ({ cls := "DeadUnderstudies", name := "judge", desc := "(I)I" } : Jvm.MethodName)) ∈ lw_all := lw_g (lw_at lw_m7 177 rfl) rfl
theorem q1732 : (Jvm.Cond.methodLink "DeadUnderstudiesLaw" (180 : Nat) ({ cls := "DeadUnderstudies", name := "least", desc := "(I)I" } : Jvm.MethodName)) ∈ lw_all := lw_g (lw_at lw_m7 181 rfl) rfl
theorem q1753 : (Jvm.Cond.methodLink "DeadUnderstudiesLaw" (184 : Nat) ({ cls := "DeadUnderstudies", name := "would", desc := "(II)I" } : Jvm.MethodName)) ∈ lw_all := lw_g (lw_at lw_m7 202 rfl) rfl
theorem q1757 : (Jvm.Cond.methodLink "DeadUnderstudiesLaw" (188 : Nat) ({ cls := "DeadUnderstudies", name := "century", desc := "(III)I" } : Jvm.MethodName)) ∈ lw_all := lw_g (lw_at lw_m7 206 rfl) rfl
theorem q1769 : (Jvm.Cond.methodLink "DeadUnderstudiesLaw" (192 : Nat) ({ cls := "DeadUnderstudies", name := "drawn", desc := "(III)I" } : Jvm.MethodName)) ∈ lw_all := lw_g (lw_at lw_m7 218 rfl) rfl
theorem q1773 : (Jvm.Cond.methodLink "DeadUnderstudiesLaw" (204 : Nat) ({ cls := "DeadUnderstudies", name := "count", desc := "(I)I" } : Jvm.MethodName)) ∈ lw_all := lw_g (lw_at lw_m7 222 rfl) rfl
theorem q1777 : (Jvm.Cond.methodLink "DeadUnderstudiesLaw" (208 : Nat) ({ cls := "DeadUnderstudies", name := "status", desc := "()I" } : Jvm.MethodName)) ∈ lw_all := lw_g (lw_at lw_m7 226 rfl) rfl
theorem q1781 : (Jvm.Cond.classLink "DeadUnderstudiesLaw" (10 : Nat) "DeadUnderstudiesModel") ∈ lw_all := lw_g (lw_at lw_m7 230 rfl) rfl
theorem q1783 : (Jvm.Cond.methodLink "DeadUnderstudiesLaw" (12 : Nat) ({ cls := "DeadUnderstudiesModel", name := "<init>", desc := "()V" } : Jvm.MethodName)) ∈ lw_all := lw_g (lw_at lw_m7 232 rfl) rfl
theorem q2028 : (Jvm.Cond.methodLink "DeadUnderstudiesLaw" (199 : Nat) ({ cls := "DeadUnderstudiesModel", name := "image", desc := "(I)I" } : Jvm.MethodName)) ∈ lw_all := lw_g (lw_at lw_m8 237 rfl) rfl
theorem q2039 : (Jvm.Cond.methodLink "DeadUnderstudiesLaw" (203 : Nat) ({ cls := "DeadUnderstudiesModel", name := "back", desc := "(I)I" } : Jvm.MethodName)) ∈ lw_all := lw_g (lw_at lw_m9 8 rfl) rfl
theorem q2043 : (Jvm.Cond.methodLink "DeadUnderstudiesLaw" (17 : Nat) ({ cls := "DeadUnderstudiesModel", name := "part", desc := "(II)I" } : Jvm.MethodName)) ∈ lw_all := lw_g (lw_at lw_m9 12 rfl) rfl
theorem q2049 : (Jvm.Cond.methodLink "DeadUnderstudiesLaw" (22 : Nat) ({ cls := "DeadUnderstudiesModel", name := "rule", desc := "(IIIII)I" } : Jvm.MethodName)) ∈ lw_all := lw_g (lw_at lw_m9 18 rfl) rfl
theorem q2076 : (Jvm.Cond.methodLink "DeadUnderstudiesLaw" (27 : Nat) ({ cls := "DeadUnderstudiesModel", name := "hush", desc := "(III)I" } : Jvm.MethodName)) ∈ lw_all := lw_g (lw_at lw_m9 45 rfl) rfl
theorem q2080 : (Jvm.Cond.methodLink "DeadUnderstudiesLaw" (32 : Nat) ({ cls := "DeadUnderstudiesModel", name := "of", desc := "(IIII)I" } : Jvm.MethodName)) ∈ lw_all := lw_g (lw_at lw_m9 49 rfl) rfl
theorem q2090 : (Jvm.Cond.methodLink "DeadUnderstudiesLaw" (36 : Nat) ({ cls := "DeadUnderstudiesModel", name := "stage", desc := "(II)I" } : Jvm.MethodName)) ∈ lw_all := lw_g (lw_at lw_m9 59 rfl) rfl
theorem q2099 : (Jvm.Cond.methodLink "DeadUnderstudiesLaw" (40 : Nat) ({ cls := "DeadUnderstudiesModel", name := "person", desc := "(III)I" } : Jvm.MethodName)) ∈ lw_all := lw_g (lw_at lw_m9 68 rfl) rfl
theorem q2105 : (Jvm.Cond.methodLink "DeadUnderstudiesLaw" (44 : Nat) ({ cls := "DeadUnderstudiesModel", name := "put", desc := "(III)I" } : Jvm.MethodName)) ∈ lw_all := lw_g (lw_at lw_m9 74 rfl) rfl
theorem q2117 : (Jvm.Cond.methodLink "DeadUnderstudiesLaw" (48 : Nat) ({ cls := "DeadUnderstudiesModel", name := "fact", desc := "(II)I" } : Jvm.MethodName)) ∈ lw_all := lw_g (lw_at lw_m9 86 rfl) rfl
theorem q2129 : (Jvm.Cond.methodLink "DeadUnderstudiesLaw" (52 : Nat) ({ cls := "DeadUnderstudiesModel", name := "terms", desc := "(II)I" } : Jvm.MethodName)) ∈ lw_all := lw_g (lw_at lw_m9 98 rfl) rfl
theorem q2134 : (Jvm.Cond.methodLink "DeadUnderstudiesLaw" (65 : Nat) ({ cls := "DeadUnderstudiesModel", name := "row", desc := "(I)I" } : Jvm.MethodName)) ∈ lw_all := lw_g (lw_at lw_m9 103 rfl) rfl
theorem q2138 : (Jvm.Cond.methodLink "DeadUnderstudiesLaw" (70 : Nat) ({ cls := "DeadUnderstudiesModel", name := "prattle", desc := "()I" } : Jvm.MethodName)) ∈ lw_all := lw_g (lw_at lw_m9 107 rfl) rfl
theorem q2142 : (Jvm.Cond.methodLink "DeadUnderstudiesLaw" (56 : Nat) ({ cls := "DeadUnderstudiesModel", name := "feed", desc := "(IIIII)I" } : Jvm.MethodName)) ∈ lw_all := lw_g (lw_at lw_m9 111 rfl) rfl
theorem q2150 : (Jvm.Cond.methodLink "DeadUnderstudiesLaw" (61 : Nat) ({ cls := "DeadUnderstudiesModel", name := "end", desc := "(I)I" } : Jvm.MethodName)) ∈ lw_all := lw_g (lw_at lw_m9 119 rfl) rfl
theorem q2154 : (Jvm.Cond.methodLink "DeadUnderstudiesLaw" (82 : Nat) ({ cls := "DeadUnderstudiesModel", name := "fault", desc := "()I" } : Jvm.MethodName)) ∈ lw_all := lw_g (lw_at lw_m9 123 rfl) rfl
theorem q2158 : (Jvm.Cond.methodLink "DeadUnderstudiesLaw" (78 : Nat) ({ cls := "DeadUnderstudiesModel", name := "law", desc := "()I" } : Jvm.MethodName)) ∈ lw_all := lw_g (lw_at lw_m9 127 rfl) rfl
theorem q2276 : (Jvm.Cond.methodLink "DeadUnderstudiesLaw" (86 : Nat) ({ cls := "DeadUnderstudiesModel", name := "force", desc := "(I)I" } : Jvm.MethodName)) ∈ lw_all := lw_g (lw_at lw_m10 5 rfl) rfl
theorem q2280 : (Jvm.Cond.methodLink "DeadUnderstudiesLaw" (90 : Nat) ({ cls := "DeadUnderstudiesModel", name := "asks", desc := "(IIII)I" } : Jvm.MethodName)) ∈ lw_all := lw_g (lw_at lw_m10 9 rfl) rfl
theorem q2318 : (Jvm.Cond.methodLink "DeadUnderstudiesLaw" (74 : Nat) ({ cls := "DeadUnderstudiesModel", name := "play", desc := "(I)I" } : Jvm.MethodName)) ∈ lw_all := lw_g (lw_at lw_m10 47 rfl) rfl
theorem q2344 : (Jvm.Cond.methodLink "DeadUnderstudiesLaw" (94 : Nat) ({ cls := "DeadUnderstudiesModel", name := "cue", desc := "(I)I" } : Jvm.MethodName)) ∈ lw_all := lw_g (lw_at lw_m10 73 rfl) rfl
theorem q2348 : (Jvm.Cond.methodLink "DeadUnderstudiesLaw" (98 : Nat) ({ cls := "DeadUnderstudiesModel", name := "still", desc := "()I" } : Jvm.MethodName)) ∈ lw_all := lw_g (lw_at lw_m10 77 rfl) rfl
theorem q2352 : (Jvm.Cond.methodLink "DeadUnderstudiesLaw" (102 : Nat) ({ cls := "DeadUnderstudiesModel", name := "begin", desc := "(II)I" } : Jvm.MethodName)) ∈ lw_all := lw_g (lw_at lw_m10 81 rfl) rfl
theorem q2360 : (Jvm.Cond.methodLink "DeadUnderstudiesLaw" (106 : Nat) ({ cls := "DeadUnderstudiesModel", name := "learn", desc := "(III)I" } : Jvm.MethodName)) ∈ lw_all := lw_g (lw_at lw_m10 89 rfl) rfl
theorem q2376 : (Jvm.Cond.methodLink "DeadUnderstudiesLaw" (110 : Nat) ({ cls := "DeadUnderstudiesModel", name := "undo", desc := "()I" } : Jvm.MethodName)) ∈ lw_all := lw_g (lw_at lw_m10 105 rfl) rfl
theorem q2380 : (Jvm.Cond.methodLink "DeadUnderstudiesLaw" (114 : Nat) ({ cls := "DeadUnderstudiesModel", name := "version", desc := "(II)I" } : Jvm.MethodName)) ∈ lw_all := lw_g (lw_at lw_m10 109 rfl) rfl
theorem q2385 : (Jvm.Cond.methodLink "DeadUnderstudiesLaw" (118 : Nat) ({ cls := "DeadUnderstudiesModel", name := "knows", desc := "(IIII)I" } : Jvm.MethodName)) ∈ lw_all := lw_g (lw_at lw_m10 114 rfl) rfl
theorem q2389 : (Jvm.Cond.methodLink "DeadUnderstudiesLaw" (122 : Nat) ({ cls := "DeadUnderstudiesModel", name := "says", desc := "(II)I" } : Jvm.MethodName)) ∈ lw_all := lw_g (lw_at lw_m10 118 rfl) rfl
theorem q2397 : (Jvm.Cond.methodLink "DeadUnderstudiesLaw" (126 : Nat) ({ cls := "DeadUnderstudiesModel", name := "stops", desc := "(I)I" } : Jvm.MethodName)) ∈ lw_all := lw_g (lw_at lw_m10 126 rfl) rfl
theorem q2401 : (Jvm.Cond.methodLink "DeadUnderstudiesLaw" (130 : Nat) ({ cls := "DeadUnderstudiesModel", name := "apart", desc := "(III)I" } : Jvm.MethodName)) ∈ lw_all := lw_g (lw_at lw_m10 130 rfl) rfl
theorem q2417 : (Jvm.Cond.methodLink "DeadUnderstudiesLaw" (134 : Nat) ({ cls := "DeadUnderstudiesModel", name := "trap", desc := "(II)I" } : Jvm.MethodName)) ∈ lw_all := lw_g (lw_at lw_m10 146 rfl) rfl
theorem q2421 : (Jvm.Cond.methodLink "DeadUnderstudiesLaw" (138 : Nat) ({ cls := "DeadUnderstudiesModel", name := "talk", desc := "(IIII)I" } : Jvm.MethodName)) ∈ lw_all := lw_g (lw_at lw_m10 150 rfl) rfl
theorem q2434 : (Jvm.Cond.methodLink "DeadUnderstudiesLaw" (142 : Nat) ({ cls := "DeadUnderstudiesModel", name := "mends", desc := "(IIII)I" } : Jvm.MethodName)) ∈ lw_all := lw_g (lw_at lw_m10 163 rfl) rfl
theorem q2438 : (Jvm.Cond.methodLink "DeadUnderstudiesLaw" (146 : Nat) ({ cls := "DeadUnderstudiesModel", name := "vote", desc := "(II)I" } : Jvm.MethodName)) ∈ lw_all := lw_g (lw_at lw_m10 167 rfl) rfl
theorem q2446 : (Jvm.Cond.methodLink "DeadUnderstudiesLaw" (151 : Nat) ({ cls := "DeadUnderstudiesModel", name := "drift", desc := "(II)J" } : Jvm.MethodName)) ∈ lw_all := lw_g (lw_at lw_m10 175 rfl) rfl
theorem q2451 : (Jvm.Cond.methodLink "DeadUnderstudiesLaw" (155 : Nat) ({ cls := "DeadUnderstudiesModel", name := "origin", desc := "(III)I" } : Jvm.MethodName)) ∈ lw_all := lw_g (lw_at lw_m10 180 rfl) rfl
theorem q2463 : (Jvm.Cond.methodLink "DeadUnderstudiesLaw" (159 : Nat) ({ cls := "DeadUnderstudiesModel", name := "origins", desc := "(II)J" } : Jvm.MethodName)) ∈ lw_all := lw_g (lw_at lw_m10 192 rfl) rfl
theorem q2468 : (Jvm.Cond.methodLink "DeadUnderstudiesLaw" (163 : Nat) ({ cls := "DeadUnderstudiesModel", name := "chain", desc := "(III)I" } : Jvm.MethodName)) ∈ lw_all := lw_g (lw_at lw_m10 197 rfl) rfl
theorem q2491 : (Jvm.Cond.methodLink "DeadUnderstudiesLaw" (167 : Nat) ({ cls := "DeadUnderstudiesModel", name := "cast", desc := "(I)I" } : Jvm.MethodName)) ∈ lw_all := lw_g (lw_at lw_m10 220 rfl) rfl
theorem q2512 : (Jvm.Cond.methodLink "DeadUnderstudiesLaw" (171 : Nat) ({ cls := "DeadUnderstudiesModel", name := "deed", desc := "(III)I" } : Jvm.MethodName)) ∈ lw_all := lw_g (lw_at lw_m11 1 rfl) rfl
theorem q2516 : (Jvm.Cond.methodLink "DeadUnderstudiesLaw" (175 : Nat) ({ cls := "DeadUnderstudiesModel", name := "forget", desc := "()I" } : Jvm.MethodName)) ∈ lw_all := lw_g (lw_at lw_m11 5 rfl) rfl
theorem q2520 : (Jvm.Cond.methodLink "DeadUnderstudiesLaw" (179 : Nat) ({ cls := "DeadUnderstudiesModel", name := "judge", desc := "(I)I" } : Jvm.MethodName)) ∈ lw_all := lw_g (lw_at lw_m11 9 rfl) rfl
theorem q2524 : (Jvm.Cond.methodLink "DeadUnderstudiesLaw" (183 : Nat) ({ cls := "DeadUnderstudiesModel", name := "least", desc := "(I)I" } : Jvm.MethodName)) ∈ lw_all := lw_g (lw_at lw_m11 13 rfl) rfl
theorem q2556 : (Jvm.Cond.methodLink "DeadUnderstudiesLaw" (187 : Nat) ({ cls := "DeadUnderstudiesModel", name := "would", desc := "(II)I" } : Jvm.MethodName)) ∈ lw_all := lw_g (lw_at lw_m11 45 rfl) rfl
theorem q2560 : (Jvm.Cond.methodLink "DeadUnderstudiesLaw" (191 : Nat) ({ cls := "DeadUnderstudiesModel", name := "century", desc := "(III)I" } : Jvm.MethodName)) ∈ lw_all := lw_g (lw_at lw_m11 49 rfl) rfl
theorem q2571 : (Jvm.Cond.methodLink "DeadUnderstudiesLaw" (195 : Nat) ({ cls := "DeadUnderstudiesModel", name := "drawn", desc := "(III)I" } : Jvm.MethodName)) ∈ lw_all := lw_g (lw_at lw_m11 60 rfl) rfl
theorem q2575 : (Jvm.Cond.methodLink "DeadUnderstudiesLaw" (207 : Nat) ({ cls := "DeadUnderstudiesModel", name := "count", desc := "(I)I" } : Jvm.MethodName)) ∈ lw_all := lw_g (lw_at lw_m11 64 rfl) rfl
theorem q2581 : (Jvm.Cond.methodLink "DeadUnderstudiesLaw" (211 : Nat) ({ cls := "DeadUnderstudiesModel", name := "status", desc := "()I" } : Jvm.MethodName)) ∈ lw_all := lw_g (lw_at lw_m11 70 rfl) rfl
theorem q2634 : (Jvm.Cond.castable "[B" "java/lang/Object") ∈ lw_tbl := lw_at lw_m11 123 rfl
theorem q2631 : (Jvm.Cond.castable "[I" "java/lang/Object") ∈ lw_tbl := lw_at lw_m11 120 rfl
theorem q2635 : (Jvm.Cond.castable "[J" "java/lang/Object") ∈ lw_tbl := lw_at lw_m11 124 rfl
theorem q2630 : (Jvm.Cond.castable "[LDeadUnderstudies$Script;" "java/lang/Object") ∈ lw_tbl := lw_at lw_m11 119 rfl
theorem q2633 : (Jvm.Cond.castable "[LDeadUnderstudies$State;" "java/lang/Object") ∈ lw_tbl := lw_at lw_m11 122 rfl
theorem q2627 : (Jvm.Cond.sameMethod "[Ljava/lang/Object;" "java/lang/Object" "getClass" "()Ljava/lang/Class;") ∈ lw_all := lw_g (lw_at lw_m11 116 rfl) rfl
theorem q2628 : (Jvm.Cond.selects "[Ljava/lang/Object;" ({ cls := "java/lang/Object", name := "getClass", desc := "()Ljava/lang/Class;" } : Jvm.MethodName) ({ cls := "java/lang/Object", name := "getClass", desc := "()Ljava/lang/Class;" } : Jvm.MethodName)) ∈ lw_all := lw_g (lw_at lw_m11 117 rfl) rfl
theorem q2632 : (Jvm.Cond.castable "[Ljava/lang/Object;" "java/lang/Object") ∈ lw_tbl := lw_at lw_m11 121 rfl
theorem q2636 : (Jvm.Cond.castable "[Z" "java/lang/Object") ∈ lw_tbl := lw_at lw_m11 125 rfl
theorem q134 : (Jvm.Cond.initialized "java/lang/System") ∈ lw_all := lw_g (lw_at lw_m1 23 rfl) rfl
theorem q614 : (Jvm.Cond.static ({ cls := "java/lang/System", name := "arraycopy", desc := "(Ljava/lang/Object;ILjava/lang/Object;II)V" } : Jvm.MethodName)) ∈ lw_all := lw_g (lw_at lw_m3 23 rfl) rfl
theorem q615 : (Jvm.Cond.native ({ cls := "java/lang/System", name := "arraycopy", desc := "(Ljava/lang/Object;ILjava/lang/Object;II)V" } : Jvm.MethodName)) ∈ lw_all := lw_g (lw_at lw_m3 24 rfl) rfl
theorem q627 : (Jvm.Cond.interfaceMethod "java/util/Collection" "java/util/Collection" "toArray" "()[Ljava/lang/Object;") ∈ lw_tbl := lw_at lw_m3 36 rfl
theorem q628 : (Jvm.Cond.declares ({ cls := "java/util/Collection", name := "toArray", desc := "()[Ljava/lang/Object;" } : Jvm.MethodName)) ∈ lw_tbl := lw_at lw_m3 37 rfl
theorem q170 : (Jvm.Cond.arrayOver (Jvm.ClassFile.FieldType.object "DeadUnderstudies$Script")) ∈ lw_tbl := lw_at lw_m1 59 rfl
theorem q189 : (Jvm.Cond.arrayClass Jvm.ClassFile.FieldType.int) ∈ lw_all := lw_g (lw_at lw_m1 78 rfl) rfl
theorem q203 : (Jvm.Cond.arrayOver (Jvm.ClassFile.FieldType.object "java/lang/Object")) ∈ lw_tbl := lw_at lw_m1 92 rfl
theorem q273 : (Jvm.Cond.arrayOver (Jvm.ClassFile.FieldType.object "DeadUnderstudies$State")) ∈ lw_tbl := lw_at lw_m1 162 rfl
theorem q340 : (Jvm.Cond.arrayClass Jvm.ClassFile.FieldType.byte) ∈ lw_all := lw_g (lw_at lw_m1 229 rfl) rfl
theorem q351 : (Jvm.Cond.arrayClass Jvm.ClassFile.FieldType.long) ∈ lw_all := lw_g (lw_at lw_m2 0 rfl) rfl
theorem q456 : (Jvm.Cond.arrayClass Jvm.ClassFile.FieldType.boolean) ∈ lw_all := lw_g (lw_at lw_m2 105 rfl) rfl
