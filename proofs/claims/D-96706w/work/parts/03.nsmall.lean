/-! java/util/AbstractCollection -/
set_option maxRecDepth 100000
def RJ0 : String := "java/util/AbstractCollection"
abbrev cJ0_init : ByteArray := prog_21_method_1_code
def yJ0_init : MethodName := ⟨RJ0, "<init>", "()V"⟩
theorem dJ0_init_0 : decode cJ0_init 0 = .ok (.aload_n 0, 1) := by decide +kernel
theorem dJ0_init_1 : decode cJ0_init 1 = .ok (.invokespecial 1, 3) := by decide +kernel
theorem dJ0_init_4 : decode cJ0_init 4 = .ok (.return_, 1) := by decide +kernel
theorem q84 : (Jvm.Cond.initialized "java/util/AbstractCollection") ∈ lw_all := lw_g (lw_at lw_m1 3 rfl) rfl
theorem q128 : (Jvm.Cond.instanceMethod ({ cls := "java/util/AbstractCollection", name := "<init>", desc := "()V" } : Jvm.MethodName)) ∈ lw_all := lw_g (lw_at lw_m1 47 rfl) rfl
theorem q129 : (Jvm.Cond.code ({ cls := "java/util/AbstractCollection", name := "<init>", desc := "()V" } : Jvm.MethodName) prog_21_method_1_code (1 : Nat) (Option.none : Option Jvm.ClassFile.FieldType)) ∈ lw_all := lw_g (lw_at lw_m1 48 rfl) rfl
theorem q130 : (Jvm.Cond.methodLink "java/util/AbstractCollection" (1 : Nat) ({ cls := "java/lang/Object", name := "<init>", desc := "()V" } : Jvm.MethodName)) ∈ lw_all := lw_g (lw_at lw_m1 49 rfl) rfl

/-! java/util/AbstractList -/
set_option maxRecDepth 100000
def RJ1 : String := "java/util/AbstractList"
abbrev cJ1_init : ByteArray := prog_22_method_1_code
def yJ1_init : MethodName := ⟨RJ1, "<init>", "()V"⟩
def dkwJ1_init_0 : List UInt8 := [42, 183, 0, 1, 42, 3, 181, 0, 7, 177]
abbrev dktJ1_init_0 : List UInt8 := dkwJ1_init_0 ++ []
theorem dksJ1_init_0 : cJ1_init.data.toList.drop 0 = dktJ1_init_0 := by decide +kernel
theorem dJ1_init_0 : decode cJ1_init 0 = .ok (.aload_n 0, 1) := dk_42 (dk_at dksJ1_init_0 0 rfl rfl)
theorem dJ1_init_1 : decode cJ1_init 1 = .ok (.invokespecial 1, 3) := dk_183 0 1 (dk_at dksJ1_init_0 1 rfl rfl)
theorem dJ1_init_4 : decode cJ1_init 4 = .ok (.aload_n 0, 1) := dk_42 (dk_at dksJ1_init_0 4 rfl rfl)
theorem dJ1_init_5 : decode cJ1_init 5 = .ok (.iconst 0, 1) := dk_3 (dk_at dksJ1_init_0 5 rfl rfl)
theorem dJ1_init_6 : decode cJ1_init 6 = .ok (.putfield 7, 3) := dk_181 0 7 (dk_at dksJ1_init_0 6 rfl rfl)
theorem dJ1_init_9 : decode cJ1_init 9 = .ok (.return_, 1) := dk_177 (dk_at dksJ1_init_0 9 rfl rfl)
theorem q85 : (Jvm.Cond.initialized "java/util/AbstractList") ∈ lw_all := lw_g (lw_at lw_m1 4 rfl) rfl
theorem q125 : (Jvm.Cond.instanceMethod ({ cls := "java/util/AbstractList", name := "<init>", desc := "()V" } : Jvm.MethodName)) ∈ lw_all := lw_g (lw_at lw_m1 44 rfl) rfl
theorem q126 : (Jvm.Cond.code ({ cls := "java/util/AbstractList", name := "<init>", desc := "()V" } : Jvm.MethodName) prog_22_method_1_code (1 : Nat) (Option.none : Option Jvm.ClassFile.FieldType)) ∈ lw_all := lw_g (lw_at lw_m1 45 rfl) rfl
theorem q127 : (Jvm.Cond.methodLink "java/util/AbstractList" (1 : Nat) ({ cls := "java/util/AbstractCollection", name := "<init>", desc := "()V" } : Jvm.MethodName)) ∈ lw_all := lw_g (lw_at lw_m1 46 rfl) rfl
theorem q137 : (Jvm.Cond.fieldLink "java/util/AbstractList" (7 : Nat) "java/util/AbstractList" "modCount" "I") ∈ lw_all := lw_g (lw_at lw_m1 56 rfl) rfl
theorem q145 : (Jvm.Cond.soleField "java/util/AbstractList" "modCount") ∈ lw_all := lw_g (lw_at lw_m1 64 rfl) rfl

/-! java/lang/RuntimeException -/
set_option maxRecDepth 100000
def RJ10 : String := "java/lang/RuntimeException"
abbrev cJ10_init : ByteArray := prog_18_method_5_code
def yJ10_init : MethodName := ⟨RJ10, "<init>", "(Ljava/lang/String;Ljava/lang/Throwable;ZZ)V"⟩
def dkwJ10_init_0 : List UInt8 := [42, 43, 44, 29, 21, 4, 183, 0, 16, 177]
abbrev dktJ10_init_0 : List UInt8 := dkwJ10_init_0 ++ []
theorem dksJ10_init_0 : cJ10_init.data.toList.drop 0 = dktJ10_init_0 := by decide +kernel
theorem dJ10_init_0 : decode cJ10_init 0 = .ok (.aload_n 0, 1) := dk_42 (dk_at dksJ10_init_0 0 rfl rfl)
theorem dJ10_init_1 : decode cJ10_init 1 = .ok (.aload_n 1, 1) := dk_43 (dk_at dksJ10_init_0 1 rfl rfl)
theorem dJ10_init_2 : decode cJ10_init 2 = .ok (.aload_n 2, 1) := dk_44 (dk_at dksJ10_init_0 2 rfl rfl)
theorem dJ10_init_3 : decode cJ10_init 3 = .ok (.iload_n 3, 1) := dk_29 (dk_at dksJ10_init_0 3 rfl rfl)
theorem dJ10_init_4 : decode cJ10_init 4 = .ok (.iload 4, 2) := dk_21 4 (dk_at dksJ10_init_0 4 rfl rfl)
theorem dJ10_init_6 : decode cJ10_init 6 = .ok (.invokespecial 16, 3) := dk_183 0 16 (dk_at dksJ10_init_0 6 rfl rfl)
theorem dJ10_init_9 : decode cJ10_init 9 = .ok (.return_, 1) := dk_177 (dk_at dksJ10_init_0 9 rfl rfl)
theorem q97 : (Jvm.Cond.initialized "java/lang/RuntimeException") ∈ lw_all := lw_g (lw_at lw_m1 16 rfl) rfl
theorem q374 : (Jvm.Cond.declares ({ cls := "java/lang/RuntimeException", name := "<init>", desc := "()V" } : Jvm.MethodName)) ∈ lw_tbl := lw_at lw_m2 53 rfl
theorem q375 : (Jvm.Cond.declares ({ cls := "java/lang/RuntimeException", name := "<init>", desc := "(Ljava/lang/String;)V" } : Jvm.MethodName)) ∈ lw_tbl := lw_at lw_m2 54 rfl
theorem q414 : (Jvm.Cond.instanceMethod ({ cls := "java/lang/RuntimeException", name := "<init>", desc := "(Ljava/lang/String;Ljava/lang/Throwable;ZZ)V" } : Jvm.MethodName)) ∈ lw_all := lw_g (lw_at lw_m2 93 rfl) rfl
theorem q415 : (Jvm.Cond.code ({ cls := "java/lang/RuntimeException", name := "<init>", desc := "(Ljava/lang/String;Ljava/lang/Throwable;ZZ)V" } : Jvm.MethodName) prog_18_method_5_code (5 : Nat) (Option.none : Option Jvm.ClassFile.FieldType)) ∈ lw_all := lw_g (lw_at lw_m2 94 rfl) rfl
theorem q416 : (Jvm.Cond.methodLink "java/lang/RuntimeException" (16 : Nat) ({ cls := "java/lang/Exception", name := "<init>", desc := "(Ljava/lang/String;Ljava/lang/Throwable;ZZ)V" } : Jvm.MethodName)) ∈ lw_all := lw_g (lw_at lw_m2 95 rfl) rfl

/-! java/lang/Object -/
set_option maxRecDepth 100000
def RJ11 : String := "java/lang/Object"
abbrev cJ11_init : ByteArray := object_method_1_code
def yJ11_init : MethodName := ⟨RJ11, "<init>", "()V"⟩
theorem dJ11_init_0 : decode cJ11_init 0 = .ok (.return_, 1) := by decide +kernel
theorem q111 : (Jvm.Cond.instanceMethod ({ cls := "java/lang/Object", name := "<init>", desc := "()V" } : Jvm.MethodName)) ∈ lw_all := lw_g (lw_at lw_m1 30 rfl) rfl
theorem q112 : (Jvm.Cond.code ({ cls := "java/lang/Object", name := "<init>", desc := "()V" } : Jvm.MethodName) object_method_1_code (1 : Nat) (Option.none : Option Jvm.ClassFile.FieldType)) ∈ lw_all := lw_g (lw_at lw_m1 31 rfl) rfl
theorem q305 : (Jvm.Cond.instanceMethod ({ cls := "java/lang/Object", name := "getClass", desc := "()Ljava/lang/Class;" } : Jvm.MethodName)) ∈ lw_all := lw_g (lw_at lw_m1 224 rfl) rfl
theorem q306 : (Jvm.Cond.sameMethod "java/lang/Object" "java/lang/Object" "getClass" "()Ljava/lang/Class;") ∈ lw_all := lw_g (lw_at lw_m1 225 rfl) rfl
theorem q319 : (Jvm.Cond.native ({ cls := "java/lang/Object", name := "getClass", desc := "()Ljava/lang/Class;" } : Jvm.MethodName)) ∈ lw_all := lw_g (lw_at lw_m1 238 rfl) rfl
theorem q1511 : (Jvm.Cond.initialized "java/lang/Object") ∈ lw_all := lw_g (lw_at lw_m6 230 rfl) rfl
theorem q1532 : (Jvm.Cond.declares ({ cls := "java/lang/Object", name := "getClass", desc := "()Ljava/lang/Class;" } : Jvm.MethodName)) ∈ lw_tbl := lw_at lw_m7 11 rfl

/-! java/util/ArrayList -/
set_option maxRecDepth 100000
def RJ2 : String := "java/util/ArrayList"
def TJ2 : u_T := fun k => match k with
  | 0 => ("java/util/AbstractList", "modCount", "I", false)
  | 1 => ("java/util/ArrayList", "elementData", "[Ljava/lang/Object;", false)
  | _ => ("java/util/ArrayList", "size", "I", false)
def tyJ2 : Nat → FieldType := fun k => match k with
  | 0 => .int
  | 1 => .array (.object "java/lang/Object")
  | _ => .int
abbrev wsJ20 : List Cond := u_ws RJ2 TJ2 3
theorem nmJ2 : ∀ a, a < 3 → ∀ b, b < 3 → a ≠ b → (TJ2 a).2.1 ≠ (TJ2 b).2.1 := by decide +kernel
theorem tyJ2_ok : ∀ k, k < 3 → parseFieldDescriptor (TJ2 k).2.2.1 = some (tyJ2 k) := by decide +kernel
abbrev cJ2_init : ByteArray := prog_23_method_1_code
def yJ2_init : MethodName := ⟨RJ2, "<init>", "(I)V"⟩
def dkwJ2_init_2 : List UInt8 := [182, 0, 25, 27, 182, 0, 29, 182, 0, 32, 183, 0, 36, 191, 177]
abbrev dktJ2_init_2 : List UInt8 := dkwJ2_init_2 ++ []
def dkwJ2_init_1 : List UInt8 := [178, 0, 15, 181, 0, 9, 167, 0, 30, 187, 0, 18, 89, 187, 0, 20, 89, 183, 0, 22, 18, 23]
abbrev dktJ2_init_1 : List UInt8 := dkwJ2_init_1 ++ dktJ2_init_2
def dkwJ2_init_0 : List UInt8 := [42, 183, 0, 1, 27, 158, 0, 14, 42, 27, 189, 0, 7, 181, 0, 9, 167, 0, 44, 27, 154, 0, 13, 42]
abbrev dktJ2_init_0 : List UInt8 := dkwJ2_init_0 ++ dktJ2_init_1
theorem dksJ2_init_0 : cJ2_init.data.toList.drop 0 = dktJ2_init_0 := by decide +kernel
theorem dksJ2_init_1 : cJ2_init.data.toList.drop 24 = dktJ2_init_1 := dk_seg dksJ2_init_0 24 rfl rfl
theorem dksJ2_init_2 : cJ2_init.data.toList.drop 46 = dktJ2_init_2 := dk_seg dksJ2_init_1 22 rfl rfl
theorem dJ2_init_0 : decode cJ2_init 0 = .ok (.aload_n 0, 1) := dk_42 (dk_at dksJ2_init_0 0 rfl rfl)
theorem dJ2_init_1 : decode cJ2_init 1 = .ok (.invokespecial 1, 3) := dk_183 0 1 (dk_at dksJ2_init_0 1 rfl rfl)
theorem dJ2_init_4 : decode cJ2_init 4 = .ok (.iload_n 1, 1) := dk_27 (dk_at dksJ2_init_0 4 rfl rfl)
theorem dJ2_init_5 : decode cJ2_init 5 = .ok (.ifCond .le 14, 3) := dk_158 0 14 (dk_at dksJ2_init_0 5 rfl rfl)
theorem dJ2_init_8 : decode cJ2_init 8 = .ok (.aload_n 0, 1) := dk_42 (dk_at dksJ2_init_0 8 rfl rfl)
theorem dJ2_init_9 : decode cJ2_init 9 = .ok (.iload_n 1, 1) := dk_27 (dk_at dksJ2_init_0 9 rfl rfl)
theorem dJ2_init_10 : decode cJ2_init 10 = .ok (.anewarray 7, 3) := dk_189 0 7 (dk_at dksJ2_init_0 10 rfl rfl)
theorem dJ2_init_13 : decode cJ2_init 13 = .ok (.putfield 9, 3) := dk_181 0 9 (dk_at dksJ2_init_0 13 rfl rfl)
theorem dJ2_init_16 : decode cJ2_init 16 = .ok (.goto 44, 3) := dk_167 0 44 (dk_at dksJ2_init_0 16 rfl rfl)
theorem dJ2_init_19 : decode cJ2_init 19 = .ok (.iload_n 1, 1) := dk_27 (dk_at dksJ2_init_0 19 rfl rfl)
theorem dJ2_init_20 : decode cJ2_init 20 = .ok (.ifCond .ne 13, 3) := dk_154 0 13 (dk_at dksJ2_init_0 20 rfl rfl)
theorem dJ2_init_23 : decode cJ2_init 23 = .ok (.aload_n 0, 1) := dk_42 (dk_at dksJ2_init_0 23 rfl rfl)
theorem dJ2_init_24 : decode cJ2_init 24 = .ok (.getstatic 15, 3) := dk_178 0 15 (dk_at dksJ2_init_1 0 rfl rfl)
theorem dJ2_init_27 : decode cJ2_init 27 = .ok (.putfield 9, 3) := dk_181 0 9 (dk_at dksJ2_init_1 3 rfl rfl)
theorem dJ2_init_30 : decode cJ2_init 30 = .ok (.goto 30, 3) := dk_167 0 30 (dk_at dksJ2_init_1 6 rfl rfl)
theorem dJ2_init_33 : decode cJ2_init 33 = .ok (.new 18, 3) := dk_187 0 18 (dk_at dksJ2_init_1 9 rfl rfl)
theorem dJ2_init_36 : decode cJ2_init 36 = .ok (.dup, 1) := dk_89 (dk_at dksJ2_init_1 12 rfl rfl)
theorem dJ2_init_37 : decode cJ2_init 37 = .ok (.new 20, 3) := dk_187 0 20 (dk_at dksJ2_init_1 13 rfl rfl)
theorem dJ2_init_40 : decode cJ2_init 40 = .ok (.dup, 1) := dk_89 (dk_at dksJ2_init_1 16 rfl rfl)
theorem dJ2_init_41 : decode cJ2_init 41 = .ok (.invokespecial 22, 3) := dk_183 0 22 (dk_at dksJ2_init_1 17 rfl rfl)
theorem dJ2_init_44 : decode cJ2_init 44 = .ok (.ldc 23, 2) := dk_18 23 (dk_at dksJ2_init_1 20 rfl rfl)
theorem dJ2_init_46 : decode cJ2_init 46 = .ok (.invokevirtual 25, 3) := dk_182 0 25 (dk_at dksJ2_init_2 0 rfl rfl)
theorem dJ2_init_49 : decode cJ2_init 49 = .ok (.iload_n 1, 1) := dk_27 (dk_at dksJ2_init_2 3 rfl rfl)
theorem dJ2_init_50 : decode cJ2_init 50 = .ok (.invokevirtual 29, 3) := dk_182 0 29 (dk_at dksJ2_init_2 4 rfl rfl)
theorem dJ2_init_53 : decode cJ2_init 53 = .ok (.invokevirtual 32, 3) := dk_182 0 32 (dk_at dksJ2_init_2 7 rfl rfl)
theorem dJ2_init_56 : decode cJ2_init 56 = .ok (.invokespecial 36, 3) := dk_183 0 36 (dk_at dksJ2_init_2 10 rfl rfl)
theorem dJ2_init_59 : decode cJ2_init 59 = .ok (.athrow, 1) := dk_191 (dk_at dksJ2_init_2 13 rfl rfl)
theorem dJ2_init_60 : decode cJ2_init 60 = .ok (.return_, 1) := dk_177 (dk_at dksJ2_init_2 14 rfl rfl)
abbrev cJ2_clear : ByteArray := prog_23_method_40_code
def yJ2_clear : MethodName := ⟨RJ2, "clear", "()V"⟩
def dkwJ2_clear_1 : List UInt8 := [181, 0, 48, 62, 29, 28, 162, 0, 13, 43, 29, 1, 83, 132, 3, 1, 167, 255, 244, 177]
abbrev dktJ2_clear_1 : List UInt8 := dkwJ2_clear_1 ++ []
def dkwJ2_clear_0 : List UInt8 := [42, 89, 180, 0, 63, 4, 96, 181, 0, 63, 42, 180, 0, 9, 76, 42, 180, 0, 48, 61, 42, 3, 90]
abbrev dktJ2_clear_0 : List UInt8 := dkwJ2_clear_0 ++ dktJ2_clear_1
theorem dksJ2_clear_0 : cJ2_clear.data.toList.drop 0 = dktJ2_clear_0 := by decide +kernel
theorem dksJ2_clear_1 : cJ2_clear.data.toList.drop 23 = dktJ2_clear_1 := dk_seg dksJ2_clear_0 23 rfl rfl
theorem dJ2_clear_0 : decode cJ2_clear 0 = .ok (.aload_n 0, 1) := dk_42 (dk_at dksJ2_clear_0 0 rfl rfl)
theorem dJ2_clear_1 : decode cJ2_clear 1 = .ok (.dup, 1) := dk_89 (dk_at dksJ2_clear_0 1 rfl rfl)
theorem dJ2_clear_2 : decode cJ2_clear 2 = .ok (.getfield 63, 3) := dk_180 0 63 (dk_at dksJ2_clear_0 2 rfl rfl)
theorem dJ2_clear_5 : decode cJ2_clear 5 = .ok (.iconst 1, 1) := dk_4 (dk_at dksJ2_clear_0 5 rfl rfl)
theorem dJ2_clear_6 : decode cJ2_clear 6 = .ok (.iadd, 1) := dk_96 (dk_at dksJ2_clear_0 6 rfl rfl)
theorem dJ2_clear_7 : decode cJ2_clear 7 = .ok (.putfield 63, 3) := dk_181 0 63 (dk_at dksJ2_clear_0 7 rfl rfl)
theorem dJ2_clear_10 : decode cJ2_clear 10 = .ok (.aload_n 0, 1) := dk_42 (dk_at dksJ2_clear_0 10 rfl rfl)
theorem dJ2_clear_11 : decode cJ2_clear 11 = .ok (.getfield 9, 3) := dk_180 0 9 (dk_at dksJ2_clear_0 11 rfl rfl)
theorem dJ2_clear_14 : decode cJ2_clear 14 = .ok (.astore_n 1, 1) := dk_76 (dk_at dksJ2_clear_0 14 rfl rfl)
theorem dJ2_clear_15 : decode cJ2_clear 15 = .ok (.aload_n 0, 1) := dk_42 (dk_at dksJ2_clear_0 15 rfl rfl)
theorem dJ2_clear_16 : decode cJ2_clear 16 = .ok (.getfield 48, 3) := dk_180 0 48 (dk_at dksJ2_clear_0 16 rfl rfl)
theorem dJ2_clear_19 : decode cJ2_clear 19 = .ok (.istore_n 2, 1) := dk_61 (dk_at dksJ2_clear_0 19 rfl rfl)
theorem dJ2_clear_20 : decode cJ2_clear 20 = .ok (.aload_n 0, 1) := dk_42 (dk_at dksJ2_clear_0 20 rfl rfl)
theorem dJ2_clear_21 : decode cJ2_clear 21 = .ok (.iconst 0, 1) := dk_3 (dk_at dksJ2_clear_0 21 rfl rfl)
theorem dJ2_clear_22 : decode cJ2_clear 22 = .ok (.dup_x1, 1) := dk_90 (dk_at dksJ2_clear_0 22 rfl rfl)
theorem dJ2_clear_23 : decode cJ2_clear 23 = .ok (.putfield 48, 3) := dk_181 0 48 (dk_at dksJ2_clear_1 0 rfl rfl)
theorem dJ2_clear_26 : decode cJ2_clear 26 = .ok (.istore_n 3, 1) := dk_62 (dk_at dksJ2_clear_1 3 rfl rfl)
theorem dJ2_clear_27 : decode cJ2_clear 27 = .ok (.iload_n 3, 1) := dk_29 (dk_at dksJ2_clear_1 4 rfl rfl)
theorem dJ2_clear_28 : decode cJ2_clear 28 = .ok (.iload_n 2, 1) := dk_28 (dk_at dksJ2_clear_1 5 rfl rfl)
theorem dJ2_clear_29 : decode cJ2_clear 29 = .ok (.if_icmp .ge 13, 3) := dk_162 0 13 (dk_at dksJ2_clear_1 6 rfl rfl)
theorem dJ2_clear_32 : decode cJ2_clear 32 = .ok (.aload_n 1, 1) := dk_43 (dk_at dksJ2_clear_1 9 rfl rfl)
theorem dJ2_clear_33 : decode cJ2_clear 33 = .ok (.iload_n 3, 1) := dk_29 (dk_at dksJ2_clear_1 10 rfl rfl)
theorem dJ2_clear_34 : decode cJ2_clear 34 = .ok (.aconst_null, 1) := dk_1 (dk_at dksJ2_clear_1 11 rfl rfl)
theorem dJ2_clear_35 : decode cJ2_clear 35 = .ok (.aastore, 1) := dk_83 (dk_at dksJ2_clear_1 12 rfl rfl)
theorem dJ2_clear_36 : decode cJ2_clear 36 = .ok (.iinc 3 1, 3) := dk_132 3 1 (dk_at dksJ2_clear_1 13 rfl rfl)
theorem dJ2_clear_39 : decode cJ2_clear 39 = .ok (.goto (-12), 3) := dk_167 255 244 (dk_at dksJ2_clear_1 16 rfl rfl)
theorem dJ2_clear_42 : decode cJ2_clear 42 = .ok (.return_, 1) := dk_177 (dk_at dksJ2_clear_1 19 rfl rfl)
abbrev cJ2_size : ByteArray := prog_23_method_8_code
def yJ2_size : MethodName := ⟨RJ2, "size", "()I"⟩
theorem dJ2_size_0 : decode cJ2_size 0 = .ok (.aload_n 0, 1) := by decide +kernel
theorem dJ2_size_1 : decode cJ2_size 1 = .ok (.getfield 48, 3) := by decide +kernel
theorem dJ2_size_4 : decode cJ2_size 4 = .ok (.ireturn, 1) := by decide +kernel
abbrev cJ2_get : ByteArray := prog_23_method_20_code
def yJ2_get : MethodName := ⟨RJ2, "get", "(I)Ljava/lang/Object;"⟩
def dkwJ2_get_0 : List UInt8 := [27, 42, 180, 0, 48, 184, 0, 118, 87, 42, 27, 182, 0, 123, 176]
abbrev dktJ2_get_0 : List UInt8 := dkwJ2_get_0 ++ []
theorem dksJ2_get_0 : cJ2_get.data.toList.drop 0 = dktJ2_get_0 := by decide +kernel
theorem dJ2_get_0 : decode cJ2_get 0 = .ok (.iload_n 1, 1) := dk_27 (dk_at dksJ2_get_0 0 rfl rfl)
theorem dJ2_get_1 : decode cJ2_get 1 = .ok (.aload_n 0, 1) := dk_42 (dk_at dksJ2_get_0 1 rfl rfl)
theorem dJ2_get_2 : decode cJ2_get 2 = .ok (.getfield 48, 3) := dk_180 0 48 (dk_at dksJ2_get_0 2 rfl rfl)
theorem dJ2_get_5 : decode cJ2_get 5 = .ok (.invokestatic 118, 3) := dk_184 0 118 (dk_at dksJ2_get_0 5 rfl rfl)
theorem dJ2_get_8 : decode cJ2_get 8 = .ok (.pop, 1) := dk_87 (dk_at dksJ2_get_0 8 rfl rfl)
theorem dJ2_get_9 : decode cJ2_get 9 = .ok (.aload_n 0, 1) := dk_42 (dk_at dksJ2_get_0 9 rfl rfl)
theorem dJ2_get_10 : decode cJ2_get 10 = .ok (.iload_n 1, 1) := dk_27 (dk_at dksJ2_get_0 10 rfl rfl)
theorem dJ2_get_11 : decode cJ2_get 11 = .ok (.invokevirtual 123, 3) := dk_182 0 123 (dk_at dksJ2_get_0 11 rfl rfl)
theorem dJ2_get_14 : decode cJ2_get 14 = .ok (.areturn, 1) := dk_176 (dk_at dksJ2_get_0 14 rfl rfl)
abbrev cJ2_elementData : ByteArray := prog_23_method_18_code
def yJ2_elementData : MethodName := ⟨RJ2, "elementData", "(I)Ljava/lang/Object;"⟩
def dkwJ2_elementData_0 : List UInt8 := [42, 180, 0, 9, 27, 50, 176]
abbrev dktJ2_elementData_0 : List UInt8 := dkwJ2_elementData_0 ++ []
theorem dksJ2_elementData_0 : cJ2_elementData.data.toList.drop 0 = dktJ2_elementData_0 := by decide +kernel
theorem dJ2_elementData_0 : decode cJ2_elementData 0 = .ok (.aload_n 0, 1) := dk_42 (dk_at dksJ2_elementData_0 0 rfl rfl)
theorem dJ2_elementData_1 : decode cJ2_elementData 1 = .ok (.getfield 9, 3) := dk_180 0 9 (dk_at dksJ2_elementData_0 1 rfl rfl)
theorem dJ2_elementData_4 : decode cJ2_elementData 4 = .ok (.iload_n 1, 1) := dk_27 (dk_at dksJ2_elementData_0 4 rfl rfl)
theorem dJ2_elementData_5 : decode cJ2_elementData 5 = .ok (.aaload, 1) := dk_50 (dk_at dksJ2_elementData_0 5 rfl rfl)
theorem dJ2_elementData_6 : decode cJ2_elementData 6 = .ok (.areturn, 1) := dk_176 (dk_at dksJ2_elementData_0 6 rfl rfl)
abbrev cJ2_add : ByteArray := prog_23_method_25_code
def yJ2_add : MethodName := ⟨RJ2, "add", "(Ljava/lang/Object;)Z"⟩
def dkwJ2_add_1 : List UInt8 := [172]
abbrev dktJ2_add_1 : List UInt8 := dkwJ2_add_1 ++ []
def dkwJ2_add_0 : List UInt8 := [42, 89, 180, 0, 63, 4, 96, 181, 0, 63, 42, 43, 42, 180, 0, 9, 42, 180, 0, 48, 182, 0, 131, 4]
abbrev dktJ2_add_0 : List UInt8 := dkwJ2_add_0 ++ dktJ2_add_1
theorem dksJ2_add_0 : cJ2_add.data.toList.drop 0 = dktJ2_add_0 := by decide +kernel
theorem dksJ2_add_1 : cJ2_add.data.toList.drop 24 = dktJ2_add_1 := dk_seg dksJ2_add_0 24 rfl rfl
theorem dJ2_add_0 : decode cJ2_add 0 = .ok (.aload_n 0, 1) := dk_42 (dk_at dksJ2_add_0 0 rfl rfl)
theorem dJ2_add_1 : decode cJ2_add 1 = .ok (.dup, 1) := dk_89 (dk_at dksJ2_add_0 1 rfl rfl)
theorem dJ2_add_2 : decode cJ2_add 2 = .ok (.getfield 63, 3) := dk_180 0 63 (dk_at dksJ2_add_0 2 rfl rfl)
theorem dJ2_add_5 : decode cJ2_add 5 = .ok (.iconst 1, 1) := dk_4 (dk_at dksJ2_add_0 5 rfl rfl)
theorem dJ2_add_6 : decode cJ2_add 6 = .ok (.iadd, 1) := dk_96 (dk_at dksJ2_add_0 6 rfl rfl)
theorem dJ2_add_7 : decode cJ2_add 7 = .ok (.putfield 63, 3) := dk_181 0 63 (dk_at dksJ2_add_0 7 rfl rfl)
theorem dJ2_add_10 : decode cJ2_add 10 = .ok (.aload_n 0, 1) := dk_42 (dk_at dksJ2_add_0 10 rfl rfl)
theorem dJ2_add_11 : decode cJ2_add 11 = .ok (.aload_n 1, 1) := dk_43 (dk_at dksJ2_add_0 11 rfl rfl)
theorem dJ2_add_12 : decode cJ2_add 12 = .ok (.aload_n 0, 1) := dk_42 (dk_at dksJ2_add_0 12 rfl rfl)
theorem dJ2_add_13 : decode cJ2_add 13 = .ok (.getfield 9, 3) := dk_180 0 9 (dk_at dksJ2_add_0 13 rfl rfl)
theorem dJ2_add_16 : decode cJ2_add 16 = .ok (.aload_n 0, 1) := dk_42 (dk_at dksJ2_add_0 16 rfl rfl)
theorem dJ2_add_17 : decode cJ2_add 17 = .ok (.getfield 48, 3) := dk_180 0 48 (dk_at dksJ2_add_0 17 rfl rfl)
theorem dJ2_add_20 : decode cJ2_add 20 = .ok (.invokevirtual 131, 3) := dk_182 0 131 (dk_at dksJ2_add_0 20 rfl rfl)
theorem dJ2_add_23 : decode cJ2_add 23 = .ok (.iconst 1, 1) := dk_4 (dk_at dksJ2_add_0 23 rfl rfl)
theorem dJ2_add_24 : decode cJ2_add 24 = .ok (.ireturn, 1) := dk_172 (dk_at dksJ2_add_1 0 rfl rfl)
abbrev cJ2_add_2 : ByteArray := prog_23_method_24_code
def yJ2_add_2 : MethodName := ⟨RJ2, "add", "(Ljava/lang/Object;[Ljava/lang/Object;I)V"⟩
def dkwJ2_add_2_0 : List UInt8 := [29, 44, 190, 160, 0, 8, 42, 182, 0, 129, 77, 44, 29, 43, 83, 42, 29, 4, 96, 181, 0, 48, 177]
abbrev dktJ2_add_2_0 : List UInt8 := dkwJ2_add_2_0 ++ []
theorem dksJ2_add_2_0 : cJ2_add_2.data.toList.drop 0 = dktJ2_add_2_0 := by decide +kernel
theorem dJ2_add_2_0 : decode cJ2_add_2 0 = .ok (.iload_n 3, 1) := dk_29 (dk_at dksJ2_add_2_0 0 rfl rfl)
theorem dJ2_add_2_1 : decode cJ2_add_2 1 = .ok (.aload_n 2, 1) := dk_44 (dk_at dksJ2_add_2_0 1 rfl rfl)
theorem dJ2_add_2_2 : decode cJ2_add_2 2 = .ok (.arraylength, 1) := dk_190 (dk_at dksJ2_add_2_0 2 rfl rfl)
theorem dJ2_add_2_3 : decode cJ2_add_2 3 = .ok (.if_icmp .ne 8, 3) := dk_160 0 8 (dk_at dksJ2_add_2_0 3 rfl rfl)
theorem dJ2_add_2_6 : decode cJ2_add_2 6 = .ok (.aload_n 0, 1) := dk_42 (dk_at dksJ2_add_2_0 6 rfl rfl)
theorem dJ2_add_2_7 : decode cJ2_add_2 7 = .ok (.invokevirtual 129, 3) := dk_182 0 129 (dk_at dksJ2_add_2_0 7 rfl rfl)
theorem dJ2_add_2_10 : decode cJ2_add_2 10 = .ok (.astore_n 2, 1) := dk_77 (dk_at dksJ2_add_2_0 10 rfl rfl)
theorem dJ2_add_2_11 : decode cJ2_add_2 11 = .ok (.aload_n 2, 1) := dk_44 (dk_at dksJ2_add_2_0 11 rfl rfl)
theorem dJ2_add_2_12 : decode cJ2_add_2 12 = .ok (.iload_n 3, 1) := dk_29 (dk_at dksJ2_add_2_0 12 rfl rfl)
theorem dJ2_add_2_13 : decode cJ2_add_2 13 = .ok (.aload_n 1, 1) := dk_43 (dk_at dksJ2_add_2_0 13 rfl rfl)
theorem dJ2_add_2_14 : decode cJ2_add_2 14 = .ok (.aastore, 1) := dk_83 (dk_at dksJ2_add_2_0 14 rfl rfl)
theorem dJ2_add_2_15 : decode cJ2_add_2 15 = .ok (.aload_n 0, 1) := dk_42 (dk_at dksJ2_add_2_0 15 rfl rfl)
theorem dJ2_add_2_16 : decode cJ2_add_2 16 = .ok (.iload_n 3, 1) := dk_29 (dk_at dksJ2_add_2_0 16 rfl rfl)
theorem dJ2_add_2_17 : decode cJ2_add_2 17 = .ok (.iconst 1, 1) := dk_4 (dk_at dksJ2_add_2_0 17 rfl rfl)
theorem dJ2_add_2_18 : decode cJ2_add_2 18 = .ok (.iadd, 1) := dk_96 (dk_at dksJ2_add_2_0 18 rfl rfl)
theorem dJ2_add_2_19 : decode cJ2_add_2 19 = .ok (.putfield 48, 3) := dk_181 0 48 (dk_at dksJ2_add_2_0 19 rfl rfl)
theorem dJ2_add_2_22 : decode cJ2_add_2 22 = .ok (.return_, 1) := dk_177 (dk_at dksJ2_add_2_0 22 rfl rfl)
abbrev cJ2_grow : ByteArray := prog_23_method_7_code
def yJ2_grow : MethodName := ⟨RJ2, "grow", "()[Ljava/lang/Object;"⟩
def dkwJ2_grow_0 : List UInt8 := [42, 42, 180, 0, 48, 4, 96, 182, 0, 69, 176]
abbrev dktJ2_grow_0 : List UInt8 := dkwJ2_grow_0 ++ []
theorem dksJ2_grow_0 : cJ2_grow.data.toList.drop 0 = dktJ2_grow_0 := by decide +kernel
theorem dJ2_grow_0 : decode cJ2_grow 0 = .ok (.aload_n 0, 1) := dk_42 (dk_at dksJ2_grow_0 0 rfl rfl)
theorem dJ2_grow_1 : decode cJ2_grow 1 = .ok (.aload_n 0, 1) := dk_42 (dk_at dksJ2_grow_0 1 rfl rfl)
theorem dJ2_grow_2 : decode cJ2_grow 2 = .ok (.getfield 48, 3) := dk_180 0 48 (dk_at dksJ2_grow_0 2 rfl rfl)
theorem dJ2_grow_5 : decode cJ2_grow 5 = .ok (.iconst 1, 1) := dk_4 (dk_at dksJ2_grow_0 5 rfl rfl)
theorem dJ2_grow_6 : decode cJ2_grow 6 = .ok (.iadd, 1) := dk_96 (dk_at dksJ2_grow_0 6 rfl rfl)
theorem dJ2_grow_7 : decode cJ2_grow 7 = .ok (.invokevirtual 69, 3) := dk_182 0 69 (dk_at dksJ2_grow_0 7 rfl rfl)
theorem dJ2_grow_10 : decode cJ2_grow 10 = .ok (.areturn, 1) := dk_176 (dk_at dksJ2_grow_0 10 rfl rfl)
abbrev cJ2_grow_2 : ByteArray := prog_23_method_6_code
def yJ2_grow_2 : MethodName := ⟨RJ2, "grow", "(I)[Ljava/lang/Object;"⟩
def dkwJ2_grow_2_2 : List UInt8 := [27, 184, 0, 79, 189, 0, 7, 90, 181, 0, 9, 176]
abbrev dktJ2_grow_2_2 : List UInt8 := dkwJ2_grow_2_2 ++ []
def dkwJ2_grow_2_1 : List UInt8 := [28, 4, 122, 184, 0, 73, 62, 42, 42, 180, 0, 9, 29, 184, 0, 66, 90, 181, 0, 9, 176, 42, 16, 10]
abbrev dktJ2_grow_2_1 : List UInt8 := dkwJ2_grow_2_1 ++ dktJ2_grow_2_2
def dkwJ2_grow_2_0 : List UInt8 := [42, 180, 0, 9, 190, 61, 28, 157, 0, 13, 42, 180, 0, 9, 178, 0, 39, 165, 0, 28, 28, 27, 28, 100]
abbrev dktJ2_grow_2_0 : List UInt8 := dkwJ2_grow_2_0 ++ dktJ2_grow_2_1
theorem dksJ2_grow_2_0 : cJ2_grow_2.data.toList.drop 0 = dktJ2_grow_2_0 := by decide +kernel
theorem dksJ2_grow_2_1 : cJ2_grow_2.data.toList.drop 24 = dktJ2_grow_2_1 := dk_seg dksJ2_grow_2_0 24 rfl rfl
theorem dksJ2_grow_2_2 : cJ2_grow_2.data.toList.drop 48 = dktJ2_grow_2_2 := dk_seg dksJ2_grow_2_1 24 rfl rfl
theorem dJ2_grow_2_0 : decode cJ2_grow_2 0 = .ok (.aload_n 0, 1) := dk_42 (dk_at dksJ2_grow_2_0 0 rfl rfl)
theorem dJ2_grow_2_1 : decode cJ2_grow_2 1 = .ok (.getfield 9, 3) := dk_180 0 9 (dk_at dksJ2_grow_2_0 1 rfl rfl)
theorem dJ2_grow_2_4 : decode cJ2_grow_2 4 = .ok (.arraylength, 1) := dk_190 (dk_at dksJ2_grow_2_0 4 rfl rfl)
theorem dJ2_grow_2_5 : decode cJ2_grow_2 5 = .ok (.istore_n 2, 1) := dk_61 (dk_at dksJ2_grow_2_0 5 rfl rfl)
theorem dJ2_grow_2_6 : decode cJ2_grow_2 6 = .ok (.iload_n 2, 1) := dk_28 (dk_at dksJ2_grow_2_0 6 rfl rfl)
theorem dJ2_grow_2_7 : decode cJ2_grow_2 7 = .ok (.ifCond .gt 13, 3) := dk_157 0 13 (dk_at dksJ2_grow_2_0 7 rfl rfl)
theorem dJ2_grow_2_10 : decode cJ2_grow_2 10 = .ok (.aload_n 0, 1) := dk_42 (dk_at dksJ2_grow_2_0 10 rfl rfl)
theorem dJ2_grow_2_11 : decode cJ2_grow_2 11 = .ok (.getfield 9, 3) := dk_180 0 9 (dk_at dksJ2_grow_2_0 11 rfl rfl)
theorem dJ2_grow_2_14 : decode cJ2_grow_2 14 = .ok (.getstatic 39, 3) := dk_178 0 39 (dk_at dksJ2_grow_2_0 14 rfl rfl)
theorem dJ2_grow_2_17 : decode cJ2_grow_2 17 = .ok (.if_acmp .eq 28, 3) := dk_165 0 28 (dk_at dksJ2_grow_2_0 17 rfl rfl)
theorem dJ2_grow_2_20 : decode cJ2_grow_2 20 = .ok (.iload_n 2, 1) := dk_28 (dk_at dksJ2_grow_2_0 20 rfl rfl)
theorem dJ2_grow_2_21 : decode cJ2_grow_2 21 = .ok (.iload_n 1, 1) := dk_27 (dk_at dksJ2_grow_2_0 21 rfl rfl)
theorem dJ2_grow_2_22 : decode cJ2_grow_2 22 = .ok (.iload_n 2, 1) := dk_28 (dk_at dksJ2_grow_2_0 22 rfl rfl)
theorem dJ2_grow_2_23 : decode cJ2_grow_2 23 = .ok (.isub, 1) := dk_100 (dk_at dksJ2_grow_2_0 23 rfl rfl)
theorem dJ2_grow_2_24 : decode cJ2_grow_2 24 = .ok (.iload_n 2, 1) := dk_28 (dk_at dksJ2_grow_2_1 0 rfl rfl)
theorem dJ2_grow_2_25 : decode cJ2_grow_2 25 = .ok (.iconst 1, 1) := dk_4 (dk_at dksJ2_grow_2_1 1 rfl rfl)
theorem dJ2_grow_2_26 : decode cJ2_grow_2 26 = .ok (.ishr, 1) := dk_122 (dk_at dksJ2_grow_2_1 2 rfl rfl)
theorem dJ2_grow_2_27 : decode cJ2_grow_2 27 = .ok (.invokestatic 73, 3) := dk_184 0 73 (dk_at dksJ2_grow_2_1 3 rfl rfl)
theorem dJ2_grow_2_30 : decode cJ2_grow_2 30 = .ok (.istore_n 3, 1) := dk_62 (dk_at dksJ2_grow_2_1 6 rfl rfl)
theorem dJ2_grow_2_31 : decode cJ2_grow_2 31 = .ok (.aload_n 0, 1) := dk_42 (dk_at dksJ2_grow_2_1 7 rfl rfl)
theorem dJ2_grow_2_32 : decode cJ2_grow_2 32 = .ok (.aload_n 0, 1) := dk_42 (dk_at dksJ2_grow_2_1 8 rfl rfl)
theorem dJ2_grow_2_33 : decode cJ2_grow_2 33 = .ok (.getfield 9, 3) := dk_180 0 9 (dk_at dksJ2_grow_2_1 9 rfl rfl)
theorem dJ2_grow_2_36 : decode cJ2_grow_2 36 = .ok (.iload_n 3, 1) := dk_29 (dk_at dksJ2_grow_2_1 12 rfl rfl)
theorem dJ2_grow_2_37 : decode cJ2_grow_2 37 = .ok (.invokestatic 66, 3) := dk_184 0 66 (dk_at dksJ2_grow_2_1 13 rfl rfl)
theorem dJ2_grow_2_40 : decode cJ2_grow_2 40 = .ok (.dup_x1, 1) := dk_90 (dk_at dksJ2_grow_2_1 16 rfl rfl)
theorem dJ2_grow_2_41 : decode cJ2_grow_2 41 = .ok (.putfield 9, 3) := dk_181 0 9 (dk_at dksJ2_grow_2_1 17 rfl rfl)
theorem dJ2_grow_2_44 : decode cJ2_grow_2 44 = .ok (.areturn, 1) := dk_176 (dk_at dksJ2_grow_2_1 20 rfl rfl)
theorem dJ2_grow_2_45 : decode cJ2_grow_2 45 = .ok (.aload_n 0, 1) := dk_42 (dk_at dksJ2_grow_2_1 21 rfl rfl)
theorem dJ2_grow_2_46 : decode cJ2_grow_2 46 = .ok (.bipush 10, 2) := dk_16 10 (dk_at dksJ2_grow_2_1 22 rfl rfl)
theorem dJ2_grow_2_48 : decode cJ2_grow_2 48 = .ok (.iload_n 1, 1) := dk_27 (dk_at dksJ2_grow_2_2 0 rfl rfl)
theorem dJ2_grow_2_49 : decode cJ2_grow_2 49 = .ok (.invokestatic 79, 3) := dk_184 0 79 (dk_at dksJ2_grow_2_2 1 rfl rfl)
theorem dJ2_grow_2_52 : decode cJ2_grow_2 52 = .ok (.anewarray 7, 3) := dk_189 0 7 (dk_at dksJ2_grow_2_2 4 rfl rfl)
theorem dJ2_grow_2_55 : decode cJ2_grow_2 55 = .ok (.dup_x1, 1) := dk_90 (dk_at dksJ2_grow_2_2 7 rfl rfl)
theorem dJ2_grow_2_56 : decode cJ2_grow_2 56 = .ok (.putfield 9, 3) := dk_181 0 9 (dk_at dksJ2_grow_2_2 8 rfl rfl)
theorem dJ2_grow_2_59 : decode cJ2_grow_2 59 = .ok (.areturn, 1) := dk_176 (dk_at dksJ2_grow_2_2 11 rfl rfl)
abbrev cJ2_set : ByteArray := prog_23_method_23_code
def yJ2_set : MethodName := ⟨RJ2, "set", "(ILjava/lang/Object;)Ljava/lang/Object;"⟩
def dkwJ2_set_0 : List UInt8 := [27, 42, 180, 0, 48, 184, 0, 118, 87, 42, 27, 182, 0, 123, 78, 42, 180, 0, 9, 27, 44, 83, 45, 176]
abbrev dktJ2_set_0 : List UInt8 := dkwJ2_set_0 ++ []
theorem dksJ2_set_0 : cJ2_set.data.toList.drop 0 = dktJ2_set_0 := by decide +kernel
theorem dJ2_set_0 : decode cJ2_set 0 = .ok (.iload_n 1, 1) := dk_27 (dk_at dksJ2_set_0 0 rfl rfl)
theorem dJ2_set_1 : decode cJ2_set 1 = .ok (.aload_n 0, 1) := dk_42 (dk_at dksJ2_set_0 1 rfl rfl)
theorem dJ2_set_2 : decode cJ2_set 2 = .ok (.getfield 48, 3) := dk_180 0 48 (dk_at dksJ2_set_0 2 rfl rfl)
theorem dJ2_set_5 : decode cJ2_set 5 = .ok (.invokestatic 118, 3) := dk_184 0 118 (dk_at dksJ2_set_0 5 rfl rfl)
theorem dJ2_set_8 : decode cJ2_set 8 = .ok (.pop, 1) := dk_87 (dk_at dksJ2_set_0 8 rfl rfl)
theorem dJ2_set_9 : decode cJ2_set 9 = .ok (.aload_n 0, 1) := dk_42 (dk_at dksJ2_set_0 9 rfl rfl)
theorem dJ2_set_10 : decode cJ2_set 10 = .ok (.iload_n 1, 1) := dk_27 (dk_at dksJ2_set_0 10 rfl rfl)
theorem dJ2_set_11 : decode cJ2_set 11 = .ok (.invokevirtual 123, 3) := dk_182 0 123 (dk_at dksJ2_set_0 11 rfl rfl)
theorem dJ2_set_14 : decode cJ2_set 14 = .ok (.astore_n 3, 1) := dk_78 (dk_at dksJ2_set_0 14 rfl rfl)
theorem dJ2_set_15 : decode cJ2_set 15 = .ok (.aload_n 0, 1) := dk_42 (dk_at dksJ2_set_0 15 rfl rfl)
theorem dJ2_set_16 : decode cJ2_set 16 = .ok (.getfield 9, 3) := dk_180 0 9 (dk_at dksJ2_set_0 16 rfl rfl)
theorem dJ2_set_19 : decode cJ2_set 19 = .ok (.iload_n 1, 1) := dk_27 (dk_at dksJ2_set_0 19 rfl rfl)
theorem dJ2_set_20 : decode cJ2_set 20 = .ok (.aload_n 2, 1) := dk_44 (dk_at dksJ2_set_0 20 rfl rfl)
theorem dJ2_set_21 : decode cJ2_set 21 = .ok (.aastore, 1) := dk_83 (dk_at dksJ2_set_0 21 rfl rfl)
theorem dJ2_set_22 : decode cJ2_set 22 = .ok (.aload_n 3, 1) := dk_45 (dk_at dksJ2_set_0 22 rfl rfl)
theorem dJ2_set_23 : decode cJ2_set 23 = .ok (.areturn, 1) := dk_176 (dk_at dksJ2_set_0 23 rfl rfl)
theorem q86 : (Jvm.Cond.initialized "java/util/ArrayList") ∈ lw_all := lw_g (lw_at lw_m1 5 rfl) rfl
theorem q120 : (Jvm.Cond.instantiable "java/util/ArrayList" (3 : Nat)) ∈ lw_all := lw_g (lw_at lw_m1 39 rfl) rfl
theorem q122 : (Jvm.Cond.instanceMethod ({ cls := "java/util/ArrayList", name := "<init>", desc := "(I)V" } : Jvm.MethodName)) ∈ lw_all := lw_g (lw_at lw_m1 41 rfl) rfl
theorem q123 : (Jvm.Cond.code ({ cls := "java/util/ArrayList", name := "<init>", desc := "(I)V" } : Jvm.MethodName) prog_23_method_1_code (2 : Nat) (Option.none : Option Jvm.ClassFile.FieldType)) ∈ lw_all := lw_g (lw_at lw_m1 42 rfl) rfl
theorem q124 : (Jvm.Cond.methodLink "java/util/ArrayList" (1 : Nat) ({ cls := "java/util/AbstractList", name := "<init>", desc := "()V" } : Jvm.MethodName)) ∈ lw_all := lw_g (lw_at lw_m1 43 rfl) rfl
theorem q131 : (Jvm.Cond.classLink "java/util/ArrayList" (7 : Nat) "java/lang/Object") ∈ lw_all := lw_g (lw_at lw_m1 50 rfl) rfl
theorem q133 : (Jvm.Cond.fieldLink "java/util/ArrayList" (15 : Nat) "java/util/ArrayList" "EMPTY_ELEMENTDATA" "[Ljava/lang/Object;") ∈ lw_all := lw_g (lw_at lw_m1 52 rfl) rfl
theorem q134 : (Jvm.Cond.laysStatic "java/util/ArrayList" "EMPTY_ELEMENTDATA" "[Ljava/lang/Object;") ∈ lw_tbl := lw_at lw_m1 53 rfl
theorem q135 : (Jvm.Cond.fieldLink "java/util/ArrayList" (9 : Nat) "java/util/ArrayList" "elementData" "[Ljava/lang/Object;") ∈ lw_all := lw_g (lw_at lw_m1 54 rfl) rfl
theorem q136 : (Jvm.Cond.fieldLink "java/util/ArrayList" (48 : Nat) "java/util/ArrayList" "size" "I") ∈ lw_all := lw_g (lw_at lw_m1 55 rfl) rfl
theorem q138 : (Jvm.Cond.fieldLink "java/util/ArrayList" (63 : Nat) "java/util/ArrayList" "modCount" "I") ∈ lw_all := lw_g (lw_at lw_m1 57 rfl) rfl
theorem q139 : (Jvm.Cond.sameField "java/util/ArrayList" "java/util/AbstractList" "modCount" "I") ∈ lw_all := lw_g (lw_at lw_m1 58 rfl) rfl
theorem q140 : (Jvm.Cond.lays "java/util/ArrayList" "java/util/ArrayList" "elementData" "[Ljava/lang/Object;") ∈ lw_all := lw_g (lw_at lw_m1 59 rfl) rfl
theorem q141 : (Jvm.Cond.soleField "java/util/ArrayList" "elementData") ∈ lw_all := lw_g (lw_at lw_m1 60 rfl) rfl
theorem q142 : (Jvm.Cond.lays "java/util/ArrayList" "java/util/ArrayList" "size" "I") ∈ lw_all := lw_g (lw_at lw_m1 61 rfl) rfl
theorem q143 : (Jvm.Cond.soleField "java/util/ArrayList" "size") ∈ lw_all := lw_g (lw_at lw_m1 62 rfl) rfl
theorem q144 : (Jvm.Cond.lays "java/util/ArrayList" "java/util/AbstractList" "modCount" "I") ∈ lw_all := lw_g (lw_at lw_m1 63 rfl) rfl
theorem q146 : (Jvm.Cond.superclass "java/util/ArrayList" "java/util/AbstractList") ∈ lw_all := lw_g (lw_at lw_m1 65 rfl) rfl
theorem q247 : (Jvm.Cond.instanceMethod ({ cls := "java/util/ArrayList", name := "clear", desc := "()V" } : Jvm.MethodName)) ∈ lw_all := lw_g (lw_at lw_m1 166 rfl) rfl
theorem q248 : (Jvm.Cond.selects "java/util/ArrayList" ({ cls := "java/util/ArrayList", name := "clear", desc := "()V" } : Jvm.MethodName) ({ cls := "java/util/ArrayList", name := "clear", desc := "()V" } : Jvm.MethodName)) ∈ lw_all := lw_g (lw_at lw_m1 167 rfl) rfl
theorem q249 : (Jvm.Cond.code ({ cls := "java/util/ArrayList", name := "clear", desc := "()V" } : Jvm.MethodName) prog_23_method_40_code (4 : Nat) (Option.none : Option Jvm.ClassFile.FieldType)) ∈ lw_all := lw_g (lw_at lw_m1 168 rfl) rfl
theorem q251 : (Jvm.Cond.instanceMethod ({ cls := "java/util/ArrayList", name := "size", desc := "()I" } : Jvm.MethodName)) ∈ lw_all := lw_g (lw_at lw_m1 170 rfl) rfl
theorem q252 : (Jvm.Cond.selects "java/util/ArrayList" ({ cls := "java/util/ArrayList", name := "size", desc := "()I" } : Jvm.MethodName) ({ cls := "java/util/ArrayList", name := "size", desc := "()I" } : Jvm.MethodName)) ∈ lw_all := lw_g (lw_at lw_m1 171 rfl) rfl
theorem q253 : (Jvm.Cond.code ({ cls := "java/util/ArrayList", name := "size", desc := "()I" } : Jvm.MethodName) prog_23_method_8_code (1 : Nat) (Option.some Jvm.ClassFile.FieldType.int)) ∈ lw_all := lw_g (lw_at lw_m1 172 rfl) rfl
theorem q259 : (Jvm.Cond.instanceMethod ({ cls := "java/util/ArrayList", name := "get", desc := "(I)Ljava/lang/Object;" } : Jvm.MethodName)) ∈ lw_all := lw_g (lw_at lw_m1 178 rfl) rfl
theorem q260 : (Jvm.Cond.selects "java/util/ArrayList" ({ cls := "java/util/ArrayList", name := "get", desc := "(I)Ljava/lang/Object;" } : Jvm.MethodName) ({ cls := "java/util/ArrayList", name := "get", desc := "(I)Ljava/lang/Object;" } : Jvm.MethodName)) ∈ lw_all := lw_g (lw_at lw_m1 179 rfl) rfl
theorem q261 : (Jvm.Cond.code ({ cls := "java/util/ArrayList", name := "get", desc := "(I)Ljava/lang/Object;" } : Jvm.MethodName) prog_23_method_20_code (2 : Nat) (Option.some (Jvm.ClassFile.FieldType.object "java/lang/Object"))) ∈ lw_all := lw_g (lw_at lw_m1 180 rfl) rfl
theorem q262 : (Jvm.Cond.methodLink "java/util/ArrayList" (118 : Nat) ({ cls := "java/util/Objects", name := "checkIndex", desc := "(II)I" } : Jvm.MethodName)) ∈ lw_all := lw_g (lw_at lw_m1 181 rfl) rfl
theorem q268 : (Jvm.Cond.methodLink "java/util/ArrayList" (123 : Nat) ({ cls := "java/util/ArrayList", name := "elementData", desc := "(I)Ljava/lang/Object;" } : Jvm.MethodName)) ∈ lw_all := lw_g (lw_at lw_m1 187 rfl) rfl
theorem q269 : (Jvm.Cond.instanceMethod ({ cls := "java/util/ArrayList", name := "elementData", desc := "(I)Ljava/lang/Object;" } : Jvm.MethodName)) ∈ lw_all := lw_g (lw_at lw_m1 188 rfl) rfl
theorem q270 : (Jvm.Cond.selects "java/util/ArrayList" ({ cls := "java/util/ArrayList", name := "elementData", desc := "(I)Ljava/lang/Object;" } : Jvm.MethodName) ({ cls := "java/util/ArrayList", name := "elementData", desc := "(I)Ljava/lang/Object;" } : Jvm.MethodName)) ∈ lw_all := lw_g (lw_at lw_m1 189 rfl) rfl
theorem q271 : (Jvm.Cond.code ({ cls := "java/util/ArrayList", name := "elementData", desc := "(I)Ljava/lang/Object;" } : Jvm.MethodName) prog_23_method_18_code (2 : Nat) (Option.some (Jvm.ClassFile.FieldType.object "java/lang/Object"))) ∈ lw_all := lw_g (lw_at lw_m1 190 rfl) rfl
theorem q274 : (Jvm.Cond.instanceMethod ({ cls := "java/util/ArrayList", name := "add", desc := "(Ljava/lang/Object;)Z" } : Jvm.MethodName)) ∈ lw_all := lw_g (lw_at lw_m1 193 rfl) rfl
theorem q275 : (Jvm.Cond.selects "java/util/ArrayList" ({ cls := "java/util/ArrayList", name := "add", desc := "(Ljava/lang/Object;)Z" } : Jvm.MethodName) ({ cls := "java/util/ArrayList", name := "add", desc := "(Ljava/lang/Object;)Z" } : Jvm.MethodName)) ∈ lw_all := lw_g (lw_at lw_m1 194 rfl) rfl
theorem q276 : (Jvm.Cond.code ({ cls := "java/util/ArrayList", name := "add", desc := "(Ljava/lang/Object;)Z" } : Jvm.MethodName) prog_23_method_25_code (2 : Nat) (Option.some Jvm.ClassFile.FieldType.boolean)) ∈ lw_all := lw_g (lw_at lw_m1 195 rfl) rfl
theorem q277 : (Jvm.Cond.methodLink "java/util/ArrayList" (131 : Nat) ({ cls := "java/util/ArrayList", name := "add", desc := "(Ljava/lang/Object;[Ljava/lang/Object;I)V" } : Jvm.MethodName)) ∈ lw_all := lw_g (lw_at lw_m1 196 rfl) rfl
theorem q278 : (Jvm.Cond.privateMethod ({ cls := "java/util/ArrayList", name := "add", desc := "(Ljava/lang/Object;[Ljava/lang/Object;I)V" } : Jvm.MethodName)) ∈ lw_tbl := lw_at lw_m1 197 rfl
theorem q279 : (Jvm.Cond.instanceMethod ({ cls := "java/util/ArrayList", name := "add", desc := "(Ljava/lang/Object;[Ljava/lang/Object;I)V" } : Jvm.MethodName)) ∈ lw_all := lw_g (lw_at lw_m1 198 rfl) rfl
theorem q280 : (Jvm.Cond.code ({ cls := "java/util/ArrayList", name := "add", desc := "(Ljava/lang/Object;[Ljava/lang/Object;I)V" } : Jvm.MethodName) prog_23_method_24_code (4 : Nat) (Option.none : Option Jvm.ClassFile.FieldType)) ∈ lw_all := lw_g (lw_at lw_m1 199 rfl) rfl
theorem q281 : (Jvm.Cond.methodLink "java/util/ArrayList" (129 : Nat) ({ cls := "java/util/ArrayList", name := "grow", desc := "()[Ljava/lang/Object;" } : Jvm.MethodName)) ∈ lw_all := lw_g (lw_at lw_m1 200 rfl) rfl
theorem q282 : (Jvm.Cond.privateMethod ({ cls := "java/util/ArrayList", name := "grow", desc := "()[Ljava/lang/Object;" } : Jvm.MethodName)) ∈ lw_tbl := lw_at lw_m1 201 rfl
theorem q283 : (Jvm.Cond.instanceMethod ({ cls := "java/util/ArrayList", name := "grow", desc := "()[Ljava/lang/Object;" } : Jvm.MethodName)) ∈ lw_all := lw_g (lw_at lw_m1 202 rfl) rfl
theorem q284 : (Jvm.Cond.code ({ cls := "java/util/ArrayList", name := "grow", desc := "()[Ljava/lang/Object;" } : Jvm.MethodName) prog_23_method_7_code (1 : Nat) (Option.some (Jvm.ClassFile.FieldType.array (Jvm.ClassFile.FieldType.object "java/lang/Object")))) ∈ lw_all := lw_g (lw_at lw_m1 203 rfl) rfl
theorem q285 : (Jvm.Cond.methodLink "java/util/ArrayList" (69 : Nat) ({ cls := "java/util/ArrayList", name := "grow", desc := "(I)[Ljava/lang/Object;" } : Jvm.MethodName)) ∈ lw_all := lw_g (lw_at lw_m1 204 rfl) rfl
theorem q286 : (Jvm.Cond.privateMethod ({ cls := "java/util/ArrayList", name := "grow", desc := "(I)[Ljava/lang/Object;" } : Jvm.MethodName)) ∈ lw_tbl := lw_at lw_m1 205 rfl
theorem q287 : (Jvm.Cond.instanceMethod ({ cls := "java/util/ArrayList", name := "grow", desc := "(I)[Ljava/lang/Object;" } : Jvm.MethodName)) ∈ lw_all := lw_g (lw_at lw_m1 206 rfl) rfl
theorem q288 : (Jvm.Cond.code ({ cls := "java/util/ArrayList", name := "grow", desc := "(I)[Ljava/lang/Object;" } : Jvm.MethodName) prog_23_method_6_code (4 : Nat) (Option.some (Jvm.ClassFile.FieldType.array (Jvm.ClassFile.FieldType.object "java/lang/Object")))) ∈ lw_all := lw_g (lw_at lw_m1 207 rfl) rfl
theorem q289 : (Jvm.Cond.fieldLink "java/util/ArrayList" (39 : Nat) "java/util/ArrayList" "DEFAULTCAPACITY_EMPTY_ELEMENTDATA" "[Ljava/lang/Object;") ∈ lw_all := lw_g (lw_at lw_m1 208 rfl) rfl
theorem q290 : (Jvm.Cond.laysStatic "java/util/ArrayList" "DEFAULTCAPACITY_EMPTY_ELEMENTDATA" "[Ljava/lang/Object;") ∈ lw_tbl := lw_at lw_m1 209 rfl
theorem q291 : (Jvm.Cond.methodLink "java/util/ArrayList" (73 : Nat) ({ cls := "jdk/internal/util/ArraysSupport", name := "newLength", desc := "(III)I" } : Jvm.MethodName)) ∈ lw_all := lw_g (lw_at lw_m1 210 rfl) rfl
theorem q301 : (Jvm.Cond.methodLink "java/util/ArrayList" (66 : Nat) ({ cls := "java/util/Arrays", name := "copyOf", desc := "([Ljava/lang/Object;I)[Ljava/lang/Object;" } : Jvm.MethodName)) ∈ lw_all := lw_g (lw_at lw_m1 220 rfl) rfl
theorem q318 : (Jvm.Cond.selects "java/util/ArrayList" ({ cls := "java/lang/Object", name := "getClass", desc := "()Ljava/lang/Class;" } : Jvm.MethodName) ({ cls := "java/lang/Object", name := "getClass", desc := "()Ljava/lang/Class;" } : Jvm.MethodName)) ∈ lw_all := lw_g (lw_at lw_m1 237 rfl) rfl
theorem q331 : (Jvm.Cond.methodLink "java/util/ArrayList" (79 : Nat) ({ cls := "java/lang/Math", name := "max", desc := "(II)I" } : Jvm.MethodName)) ∈ lw_all := lw_g (lw_at lw_m2 10 rfl) rfl
theorem q865 : (Jvm.Cond.instanceMethod ({ cls := "java/util/ArrayList", name := "set", desc := "(ILjava/lang/Object;)Ljava/lang/Object;" } : Jvm.MethodName)) ∈ lw_all := lw_g (lw_at lw_m4 64 rfl) rfl
theorem q866 : (Jvm.Cond.selects "java/util/ArrayList" ({ cls := "java/util/ArrayList", name := "set", desc := "(ILjava/lang/Object;)Ljava/lang/Object;" } : Jvm.MethodName) ({ cls := "java/util/ArrayList", name := "set", desc := "(ILjava/lang/Object;)Ljava/lang/Object;" } : Jvm.MethodName)) ∈ lw_all := lw_g (lw_at lw_m4 65 rfl) rfl
theorem q867 : (Jvm.Cond.code ({ cls := "java/util/ArrayList", name := "set", desc := "(ILjava/lang/Object;)Ljava/lang/Object;" } : Jvm.MethodName) prog_23_method_23_code (4 : Nat) (Option.some (Jvm.ClassFile.FieldType.object "java/lang/Object"))) ∈ lw_all := lw_g (lw_at lw_m4 66 rfl) rfl
theorem q1519 : (Jvm.Cond.castable "java/util/ArrayList" "java/lang/Object") ∈ lw_tbl := lw_at lw_m6 238 rfl
theorem in_J2 : ∀ w ∈ wsJ20, w ∈ lw_all := lw_in wsJ20 [144, 140, 142] (by decide +kernel) (by decide +kernel)

/-! java/util/Objects -/
set_option maxRecDepth 100000
def RJ3 : String := "java/util/Objects"
abbrev cJ3_checkIndex : ByteArray := prog_27_method_17_code
def yJ3_checkIndex : MethodName := ⟨RJ3, "checkIndex", "(II)I"⟩
def dkwJ3_checkIndex_0 : List UInt8 := [26, 27, 1, 184, 0, 105, 172]
abbrev dktJ3_checkIndex_0 : List UInt8 := dkwJ3_checkIndex_0 ++ []
theorem dksJ3_checkIndex_0 : cJ3_checkIndex.data.toList.drop 0 = dktJ3_checkIndex_0 := by decide +kernel
theorem dJ3_checkIndex_0 : decode cJ3_checkIndex 0 = .ok (.iload_n 0, 1) := dk_26 (dk_at dksJ3_checkIndex_0 0 rfl rfl)
theorem dJ3_checkIndex_1 : decode cJ3_checkIndex 1 = .ok (.iload_n 1, 1) := dk_27 (dk_at dksJ3_checkIndex_0 1 rfl rfl)
theorem dJ3_checkIndex_2 : decode cJ3_checkIndex 2 = .ok (.aconst_null, 1) := dk_1 (dk_at dksJ3_checkIndex_0 2 rfl rfl)
theorem dJ3_checkIndex_3 : decode cJ3_checkIndex 3 = .ok (.invokestatic 105, 3) := dk_184 0 105 (dk_at dksJ3_checkIndex_0 3 rfl rfl)
theorem dJ3_checkIndex_6 : decode cJ3_checkIndex 6 = .ok (.ireturn, 1) := dk_172 (dk_at dksJ3_checkIndex_0 6 rfl rfl)
theorem q88 : (Jvm.Cond.initialized "java/util/Objects") ∈ lw_all := lw_g (lw_at lw_m1 7 rfl) rfl
theorem q263 : (Jvm.Cond.static ({ cls := "java/util/Objects", name := "checkIndex", desc := "(II)I" } : Jvm.MethodName)) ∈ lw_all := lw_g (lw_at lw_m1 182 rfl) rfl
theorem q264 : (Jvm.Cond.code ({ cls := "java/util/Objects", name := "checkIndex", desc := "(II)I" } : Jvm.MethodName) prog_27_method_17_code (2 : Nat) (Option.some Jvm.ClassFile.FieldType.int)) ∈ lw_all := lw_g (lw_at lw_m1 183 rfl) rfl
theorem q265 : (Jvm.Cond.methodLink "java/util/Objects" (105 : Nat) ({ cls := "jdk/internal/util/Preconditions", name := "checkIndex", desc := "(IILjava/util/function/BiFunction;)I" } : Jvm.MethodName)) ∈ lw_all := lw_g (lw_at lw_m1 184 rfl) rfl

/-! jdk/internal/util/Preconditions -/
set_option maxRecDepth 100000
def RJ4 : String := "jdk/internal/util/Preconditions"
abbrev cJ4_checkIndex : ByteArray := prog_31_method_11_code
def yJ4_checkIndex : MethodName := ⟨RJ4, "checkIndex", "(IILjava/util/function/BiFunction;)I"⟩
def dkwJ4_checkIndex_0 : List UInt8 := [26, 155, 0, 8, 26, 27, 161, 0, 10, 44, 26, 27, 184, 0, 95, 191, 26, 172]
abbrev dktJ4_checkIndex_0 : List UInt8 := dkwJ4_checkIndex_0 ++ []
theorem dksJ4_checkIndex_0 : cJ4_checkIndex.data.toList.drop 0 = dktJ4_checkIndex_0 := by decide +kernel
theorem dJ4_checkIndex_0 : decode cJ4_checkIndex 0 = .ok (.iload_n 0, 1) := dk_26 (dk_at dksJ4_checkIndex_0 0 rfl rfl)
theorem dJ4_checkIndex_1 : decode cJ4_checkIndex 1 = .ok (.ifCond .lt 8, 3) := dk_155 0 8 (dk_at dksJ4_checkIndex_0 1 rfl rfl)
theorem dJ4_checkIndex_4 : decode cJ4_checkIndex 4 = .ok (.iload_n 0, 1) := dk_26 (dk_at dksJ4_checkIndex_0 4 rfl rfl)
theorem dJ4_checkIndex_5 : decode cJ4_checkIndex 5 = .ok (.iload_n 1, 1) := dk_27 (dk_at dksJ4_checkIndex_0 5 rfl rfl)
theorem dJ4_checkIndex_6 : decode cJ4_checkIndex 6 = .ok (.if_icmp .lt 10, 3) := dk_161 0 10 (dk_at dksJ4_checkIndex_0 6 rfl rfl)
theorem dJ4_checkIndex_9 : decode cJ4_checkIndex 9 = .ok (.aload_n 2, 1) := dk_44 (dk_at dksJ4_checkIndex_0 9 rfl rfl)
theorem dJ4_checkIndex_10 : decode cJ4_checkIndex 10 = .ok (.iload_n 0, 1) := dk_26 (dk_at dksJ4_checkIndex_0 10 rfl rfl)
theorem dJ4_checkIndex_11 : decode cJ4_checkIndex 11 = .ok (.iload_n 1, 1) := dk_27 (dk_at dksJ4_checkIndex_0 11 rfl rfl)
theorem dJ4_checkIndex_12 : decode cJ4_checkIndex 12 = .ok (.invokestatic 95, 3) := dk_184 0 95 (dk_at dksJ4_checkIndex_0 12 rfl rfl)
theorem dJ4_checkIndex_15 : decode cJ4_checkIndex 15 = .ok (.athrow, 1) := dk_191 (dk_at dksJ4_checkIndex_0 15 rfl rfl)
theorem dJ4_checkIndex_16 : decode cJ4_checkIndex 16 = .ok (.iload_n 0, 1) := dk_26 (dk_at dksJ4_checkIndex_0 16 rfl rfl)
theorem dJ4_checkIndex_17 : decode cJ4_checkIndex 17 = .ok (.ireturn, 1) := dk_172 (dk_at dksJ4_checkIndex_0 17 rfl rfl)
theorem q89 : (Jvm.Cond.initialized "jdk/internal/util/Preconditions") ∈ lw_all := lw_g (lw_at lw_m1 8 rfl) rfl
theorem q266 : (Jvm.Cond.static ({ cls := "jdk/internal/util/Preconditions", name := "checkIndex", desc := "(IILjava/util/function/BiFunction;)I" } : Jvm.MethodName)) ∈ lw_all := lw_g (lw_at lw_m1 185 rfl) rfl
theorem q267 : (Jvm.Cond.code ({ cls := "jdk/internal/util/Preconditions", name := "checkIndex", desc := "(IILjava/util/function/BiFunction;)I" } : Jvm.MethodName) prog_31_method_11_code (3 : Nat) (Option.some Jvm.ClassFile.FieldType.int)) ∈ lw_all := lw_g (lw_at lw_m1 186 rfl) rfl

/-! jdk/internal/util/ArraysSupport -/
set_option maxRecDepth 100000
def RJ5 : String := "jdk/internal/util/ArraysSupport"
abbrev cJ5_newLength : ByteArray := prog_30_method_27_code
def yJ5_newLength : MethodName := ⟨RJ5, "newLength", "(III)I"⟩
def dkwJ5_newLength_1 : List UInt8 := [184, 0, 201, 172]
abbrev dktJ5_newLength_1 : List UInt8 := dkwJ5_newLength_1 ++ []
def dkwJ5_newLength_0 : List UInt8 := [26, 27, 28, 184, 0, 194, 96, 62, 3, 29, 162, 0, 11, 29, 18, 200, 163, 0, 5, 29, 172, 26, 27]
abbrev dktJ5_newLength_0 : List UInt8 := dkwJ5_newLength_0 ++ dktJ5_newLength_1
theorem dksJ5_newLength_0 : cJ5_newLength.data.toList.drop 0 = dktJ5_newLength_0 := by decide +kernel
theorem dksJ5_newLength_1 : cJ5_newLength.data.toList.drop 23 = dktJ5_newLength_1 := dk_seg dksJ5_newLength_0 23 rfl rfl
theorem dJ5_newLength_0 : decode cJ5_newLength 0 = .ok (.iload_n 0, 1) := dk_26 (dk_at dksJ5_newLength_0 0 rfl rfl)
theorem dJ5_newLength_1 : decode cJ5_newLength 1 = .ok (.iload_n 1, 1) := dk_27 (dk_at dksJ5_newLength_0 1 rfl rfl)
theorem dJ5_newLength_2 : decode cJ5_newLength 2 = .ok (.iload_n 2, 1) := dk_28 (dk_at dksJ5_newLength_0 2 rfl rfl)
theorem dJ5_newLength_3 : decode cJ5_newLength 3 = .ok (.invokestatic 194, 3) := dk_184 0 194 (dk_at dksJ5_newLength_0 3 rfl rfl)
theorem dJ5_newLength_6 : decode cJ5_newLength 6 = .ok (.iadd, 1) := dk_96 (dk_at dksJ5_newLength_0 6 rfl rfl)
theorem dJ5_newLength_7 : decode cJ5_newLength 7 = .ok (.istore_n 3, 1) := dk_62 (dk_at dksJ5_newLength_0 7 rfl rfl)
theorem dJ5_newLength_8 : decode cJ5_newLength 8 = .ok (.iconst 0, 1) := dk_3 (dk_at dksJ5_newLength_0 8 rfl rfl)
theorem dJ5_newLength_9 : decode cJ5_newLength 9 = .ok (.iload_n 3, 1) := dk_29 (dk_at dksJ5_newLength_0 9 rfl rfl)
theorem dJ5_newLength_10 : decode cJ5_newLength 10 = .ok (.if_icmp .ge 11, 3) := dk_162 0 11 (dk_at dksJ5_newLength_0 10 rfl rfl)
theorem dJ5_newLength_13 : decode cJ5_newLength 13 = .ok (.iload_n 3, 1) := dk_29 (dk_at dksJ5_newLength_0 13 rfl rfl)
theorem dJ5_newLength_14 : decode cJ5_newLength 14 = .ok (.ldc 200, 2) := dk_18 200 (dk_at dksJ5_newLength_0 14 rfl rfl)
theorem dJ5_newLength_16 : decode cJ5_newLength 16 = .ok (.if_icmp .gt 5, 3) := dk_163 0 5 (dk_at dksJ5_newLength_0 16 rfl rfl)
theorem dJ5_newLength_19 : decode cJ5_newLength 19 = .ok (.iload_n 3, 1) := dk_29 (dk_at dksJ5_newLength_0 19 rfl rfl)
theorem dJ5_newLength_20 : decode cJ5_newLength 20 = .ok (.ireturn, 1) := dk_172 (dk_at dksJ5_newLength_0 20 rfl rfl)
theorem dJ5_newLength_21 : decode cJ5_newLength 21 = .ok (.iload_n 0, 1) := dk_26 (dk_at dksJ5_newLength_0 21 rfl rfl)
theorem dJ5_newLength_22 : decode cJ5_newLength 22 = .ok (.iload_n 1, 1) := dk_27 (dk_at dksJ5_newLength_0 22 rfl rfl)
theorem dJ5_newLength_23 : decode cJ5_newLength 23 = .ok (.invokestatic 201, 3) := dk_184 0 201 (dk_at dksJ5_newLength_1 0 rfl rfl)
theorem dJ5_newLength_26 : decode cJ5_newLength 26 = .ok (.ireturn, 1) := dk_172 (dk_at dksJ5_newLength_1 3 rfl rfl)
abbrev cJ5_hugeLength : ByteArray := prog_30_method_28_code
def yJ5_hugeLength : MethodName := ⟨RJ5, "hugeLength", "(II)I"⟩
def dkwJ5_hugeLength_2 : List UInt8 := [191, 28, 18, 200, 163, 0, 6, 18, 200, 172, 28, 172]
abbrev dktJ5_hugeLength_2 : List UInt8 := dkwJ5_hugeLength_2 ++ []
def dkwJ5_hugeLength_1 : List UInt8 := [26, 182, 0, 98, 18, 208, 182, 0, 94, 27, 182, 0, 98, 18, 210, 182, 0, 94, 182, 0, 101, 183, 0, 212]
abbrev dktJ5_hugeLength_1 : List UInt8 := dkwJ5_hugeLength_1 ++ dktJ5_hugeLength_2
def dkwJ5_hugeLength_0 : List UInt8 := [26, 27, 96, 61, 28, 156, 0, 44, 187, 0, 204, 89, 187, 0, 89, 89, 183, 0, 91, 18, 206, 182, 0, 94]
abbrev dktJ5_hugeLength_0 : List UInt8 := dkwJ5_hugeLength_0 ++ dktJ5_hugeLength_1
theorem dksJ5_hugeLength_0 : cJ5_hugeLength.data.toList.drop 0 = dktJ5_hugeLength_0 := by decide +kernel
theorem dksJ5_hugeLength_1 : cJ5_hugeLength.data.toList.drop 24 = dktJ5_hugeLength_1 := dk_seg dksJ5_hugeLength_0 24 rfl rfl
theorem dksJ5_hugeLength_2 : cJ5_hugeLength.data.toList.drop 48 = dktJ5_hugeLength_2 := dk_seg dksJ5_hugeLength_1 24 rfl rfl
theorem dJ5_hugeLength_0 : decode cJ5_hugeLength 0 = .ok (.iload_n 0, 1) := dk_26 (dk_at dksJ5_hugeLength_0 0 rfl rfl)
theorem dJ5_hugeLength_1 : decode cJ5_hugeLength 1 = .ok (.iload_n 1, 1) := dk_27 (dk_at dksJ5_hugeLength_0 1 rfl rfl)
theorem dJ5_hugeLength_2 : decode cJ5_hugeLength 2 = .ok (.iadd, 1) := dk_96 (dk_at dksJ5_hugeLength_0 2 rfl rfl)
theorem dJ5_hugeLength_3 : decode cJ5_hugeLength 3 = .ok (.istore_n 2, 1) := dk_61 (dk_at dksJ5_hugeLength_0 3 rfl rfl)
theorem dJ5_hugeLength_4 : decode cJ5_hugeLength 4 = .ok (.iload_n 2, 1) := dk_28 (dk_at dksJ5_hugeLength_0 4 rfl rfl)
theorem dJ5_hugeLength_5 : decode cJ5_hugeLength 5 = .ok (.ifCond .ge 44, 3) := dk_156 0 44 (dk_at dksJ5_hugeLength_0 5 rfl rfl)
theorem dJ5_hugeLength_8 : decode cJ5_hugeLength 8 = .ok (.new 204, 3) := dk_187 0 204 (dk_at dksJ5_hugeLength_0 8 rfl rfl)
theorem dJ5_hugeLength_11 : decode cJ5_hugeLength 11 = .ok (.dup, 1) := dk_89 (dk_at dksJ5_hugeLength_0 11 rfl rfl)
theorem dJ5_hugeLength_12 : decode cJ5_hugeLength 12 = .ok (.new 89, 3) := dk_187 0 89 (dk_at dksJ5_hugeLength_0 12 rfl rfl)
theorem dJ5_hugeLength_15 : decode cJ5_hugeLength 15 = .ok (.dup, 1) := dk_89 (dk_at dksJ5_hugeLength_0 15 rfl rfl)
theorem dJ5_hugeLength_16 : decode cJ5_hugeLength 16 = .ok (.invokespecial 91, 3) := dk_183 0 91 (dk_at dksJ5_hugeLength_0 16 rfl rfl)
theorem dJ5_hugeLength_19 : decode cJ5_hugeLength 19 = .ok (.ldc 206, 2) := dk_18 206 (dk_at dksJ5_hugeLength_0 19 rfl rfl)
theorem dJ5_hugeLength_21 : decode cJ5_hugeLength 21 = .ok (.invokevirtual 94, 3) := dk_182 0 94 (dk_at dksJ5_hugeLength_0 21 rfl rfl)
theorem dJ5_hugeLength_24 : decode cJ5_hugeLength 24 = .ok (.iload_n 0, 1) := dk_26 (dk_at dksJ5_hugeLength_1 0 rfl rfl)
theorem dJ5_hugeLength_25 : decode cJ5_hugeLength 25 = .ok (.invokevirtual 98, 3) := dk_182 0 98 (dk_at dksJ5_hugeLength_1 1 rfl rfl)
theorem dJ5_hugeLength_28 : decode cJ5_hugeLength 28 = .ok (.ldc 208, 2) := dk_18 208 (dk_at dksJ5_hugeLength_1 4 rfl rfl)
theorem dJ5_hugeLength_30 : decode cJ5_hugeLength 30 = .ok (.invokevirtual 94, 3) := dk_182 0 94 (dk_at dksJ5_hugeLength_1 6 rfl rfl)
theorem dJ5_hugeLength_33 : decode cJ5_hugeLength 33 = .ok (.iload_n 1, 1) := dk_27 (dk_at dksJ5_hugeLength_1 9 rfl rfl)
theorem dJ5_hugeLength_34 : decode cJ5_hugeLength 34 = .ok (.invokevirtual 98, 3) := dk_182 0 98 (dk_at dksJ5_hugeLength_1 10 rfl rfl)
theorem dJ5_hugeLength_37 : decode cJ5_hugeLength 37 = .ok (.ldc 210, 2) := dk_18 210 (dk_at dksJ5_hugeLength_1 13 rfl rfl)
theorem dJ5_hugeLength_39 : decode cJ5_hugeLength 39 = .ok (.invokevirtual 94, 3) := dk_182 0 94 (dk_at dksJ5_hugeLength_1 15 rfl rfl)
theorem dJ5_hugeLength_42 : decode cJ5_hugeLength 42 = .ok (.invokevirtual 101, 3) := dk_182 0 101 (dk_at dksJ5_hugeLength_1 18 rfl rfl)
theorem dJ5_hugeLength_45 : decode cJ5_hugeLength 45 = .ok (.invokespecial 212, 3) := dk_183 0 212 (dk_at dksJ5_hugeLength_1 21 rfl rfl)
theorem dJ5_hugeLength_48 : decode cJ5_hugeLength 48 = .ok (.athrow, 1) := dk_191 (dk_at dksJ5_hugeLength_2 0 rfl rfl)
theorem dJ5_hugeLength_49 : decode cJ5_hugeLength 49 = .ok (.iload_n 2, 1) := dk_28 (dk_at dksJ5_hugeLength_2 1 rfl rfl)
theorem dJ5_hugeLength_50 : decode cJ5_hugeLength 50 = .ok (.ldc 200, 2) := dk_18 200 (dk_at dksJ5_hugeLength_2 2 rfl rfl)
theorem dJ5_hugeLength_52 : decode cJ5_hugeLength 52 = .ok (.if_icmp .gt 6, 3) := dk_163 0 6 (dk_at dksJ5_hugeLength_2 4 rfl rfl)
theorem dJ5_hugeLength_55 : decode cJ5_hugeLength 55 = .ok (.ldc 200, 2) := dk_18 200 (dk_at dksJ5_hugeLength_2 7 rfl rfl)
theorem dJ5_hugeLength_57 : decode cJ5_hugeLength 57 = .ok (.ireturn, 1) := dk_172 (dk_at dksJ5_hugeLength_2 9 rfl rfl)
theorem dJ5_hugeLength_58 : decode cJ5_hugeLength 58 = .ok (.iload_n 2, 1) := dk_28 (dk_at dksJ5_hugeLength_2 10 rfl rfl)
theorem dJ5_hugeLength_59 : decode cJ5_hugeLength 59 = .ok (.ireturn, 1) := dk_172 (dk_at dksJ5_hugeLength_2 11 rfl rfl)
theorem q90 : (Jvm.Cond.initialized "jdk/internal/util/ArraysSupport") ∈ lw_all := lw_g (lw_at lw_m1 9 rfl) rfl
theorem q292 : (Jvm.Cond.static ({ cls := "jdk/internal/util/ArraysSupport", name := "newLength", desc := "(III)I" } : Jvm.MethodName)) ∈ lw_all := lw_g (lw_at lw_m1 211 rfl) rfl
theorem q293 : (Jvm.Cond.code ({ cls := "jdk/internal/util/ArraysSupport", name := "newLength", desc := "(III)I" } : Jvm.MethodName) prog_30_method_27_code (4 : Nat) (Option.some Jvm.ClassFile.FieldType.int)) ∈ lw_all := lw_g (lw_at lw_m1 212 rfl) rfl
theorem q294 : (Jvm.Cond.methodLink "jdk/internal/util/ArraysSupport" (194 : Nat) ({ cls := "java/lang/Math", name := "max", desc := "(II)I" } : Jvm.MethodName)) ∈ lw_all := lw_g (lw_at lw_m1 213 rfl) rfl
theorem q297 : (Jvm.Cond.constant "jdk/internal/util/ArraysSupport" (200 : Nat) (2147483639 : Int32)) ∈ lw_all := lw_g (lw_at lw_m1 216 rfl) rfl
theorem q298 : (Jvm.Cond.methodLink "jdk/internal/util/ArraysSupport" (201 : Nat) ({ cls := "jdk/internal/util/ArraysSupport", name := "hugeLength", desc := "(II)I" } : Jvm.MethodName)) ∈ lw_all := lw_g (lw_at lw_m1 217 rfl) rfl
theorem q299 : (Jvm.Cond.static ({ cls := "jdk/internal/util/ArraysSupport", name := "hugeLength", desc := "(II)I" } : Jvm.MethodName)) ∈ lw_all := lw_g (lw_at lw_m1 218 rfl) rfl
theorem q300 : (Jvm.Cond.code ({ cls := "jdk/internal/util/ArraysSupport", name := "hugeLength", desc := "(II)I" } : Jvm.MethodName) prog_30_method_28_code (3 : Nat) (Option.some Jvm.ClassFile.FieldType.int)) ∈ lw_all := lw_g (lw_at lw_m1 219 rfl) rfl

/-! java/lang/Math -/
set_option maxRecDepth 100000
def RJ6 : String := "java/lang/Math"
abbrev cJ6_max : ByteArray := prog_17_method_65_code
def yJ6_max : MethodName := ⟨RJ6, "max", "(II)I"⟩
def dkwJ6_max_0 : List UInt8 := [26, 27, 161, 0, 7, 26, 167, 0, 4, 27, 172]
abbrev dktJ6_max_0 : List UInt8 := dkwJ6_max_0 ++ []
theorem dksJ6_max_0 : cJ6_max.data.toList.drop 0 = dktJ6_max_0 := by decide +kernel
theorem dJ6_max_0 : decode cJ6_max 0 = .ok (.iload_n 0, 1) := dk_26 (dk_at dksJ6_max_0 0 rfl rfl)
theorem dJ6_max_1 : decode cJ6_max 1 = .ok (.iload_n 1, 1) := dk_27 (dk_at dksJ6_max_0 1 rfl rfl)
theorem dJ6_max_2 : decode cJ6_max 2 = .ok (.if_icmp .lt 7, 3) := dk_161 0 7 (dk_at dksJ6_max_0 2 rfl rfl)
theorem dJ6_max_5 : decode cJ6_max 5 = .ok (.iload_n 0, 1) := dk_26 (dk_at dksJ6_max_0 5 rfl rfl)
theorem dJ6_max_6 : decode cJ6_max 6 = .ok (.goto 4, 3) := dk_167 0 4 (dk_at dksJ6_max_0 6 rfl rfl)
theorem dJ6_max_9 : decode cJ6_max 9 = .ok (.iload_n 1, 1) := dk_27 (dk_at dksJ6_max_0 9 rfl rfl)
theorem dJ6_max_10 : decode cJ6_max 10 = .ok (.ireturn, 1) := dk_172 (dk_at dksJ6_max_0 10 rfl rfl)
abbrev cJ6_min : ByteArray := prog_17_method_69_code
def yJ6_min : MethodName := ⟨RJ6, "min", "(II)I"⟩
def dkwJ6_min_0 : List UInt8 := [26, 27, 163, 0, 7, 26, 167, 0, 4, 27, 172]
abbrev dktJ6_min_0 : List UInt8 := dkwJ6_min_0 ++ []
theorem dksJ6_min_0 : cJ6_min.data.toList.drop 0 = dktJ6_min_0 := by decide +kernel
theorem dJ6_min_0 : decode cJ6_min 0 = .ok (.iload_n 0, 1) := dk_26 (dk_at dksJ6_min_0 0 rfl rfl)
theorem dJ6_min_1 : decode cJ6_min 1 = .ok (.iload_n 1, 1) := dk_27 (dk_at dksJ6_min_0 1 rfl rfl)
theorem dJ6_min_2 : decode cJ6_min 2 = .ok (.if_icmp .gt 7, 3) := dk_163 0 7 (dk_at dksJ6_min_0 2 rfl rfl)
theorem dJ6_min_5 : decode cJ6_min 5 = .ok (.iload_n 0, 1) := dk_26 (dk_at dksJ6_min_0 5 rfl rfl)
theorem dJ6_min_6 : decode cJ6_min 6 = .ok (.goto 4, 3) := dk_167 0 4 (dk_at dksJ6_min_0 6 rfl rfl)
theorem dJ6_min_9 : decode cJ6_min 9 = .ok (.iload_n 1, 1) := dk_27 (dk_at dksJ6_min_0 9 rfl rfl)
theorem dJ6_min_10 : decode cJ6_min 10 = .ok (.ireturn, 1) := dk_172 (dk_at dksJ6_min_0 10 rfl rfl)
theorem q91 : (Jvm.Cond.initialized "java/lang/Math") ∈ lw_all := lw_g (lw_at lw_m1 10 rfl) rfl
theorem q295 : (Jvm.Cond.static ({ cls := "java/lang/Math", name := "max", desc := "(II)I" } : Jvm.MethodName)) ∈ lw_all := lw_g (lw_at lw_m1 214 rfl) rfl
theorem q296 : (Jvm.Cond.code ({ cls := "java/lang/Math", name := "max", desc := "(II)I" } : Jvm.MethodName) prog_17_method_65_code (2 : Nat) (Option.some Jvm.ClassFile.FieldType.int)) ∈ lw_all := lw_g (lw_at lw_m1 215 rfl) rfl
theorem q326 : (Jvm.Cond.static ({ cls := "java/lang/Math", name := "min", desc := "(II)I" } : Jvm.MethodName)) ∈ lw_all := lw_g (lw_at lw_m2 5 rfl) rfl
theorem q327 : (Jvm.Cond.code ({ cls := "java/lang/Math", name := "min", desc := "(II)I" } : Jvm.MethodName) prog_17_method_69_code (2 : Nat) (Option.some Jvm.ClassFile.FieldType.int)) ∈ lw_all := lw_g (lw_at lw_m2 6 rfl) rfl

/-! java/util/Arrays -/
set_option maxRecDepth 100000
def RJ7 : String := "java/util/Arrays"
abbrev cJ7_copyOf : ByteArray := prog_24_method_119_code
def yJ7_copyOf : MethodName := ⟨RJ7, "copyOf", "([Ljava/lang/Object;I)[Ljava/lang/Object;"⟩
def dkwJ7_copyOf_0 : List UInt8 := [42, 27, 42, 182, 0, 86, 184, 1, 44, 176]
abbrev dktJ7_copyOf_0 : List UInt8 := dkwJ7_copyOf_0 ++ []
theorem dksJ7_copyOf_0 : cJ7_copyOf.data.toList.drop 0 = dktJ7_copyOf_0 := by decide +kernel
theorem dJ7_copyOf_0 : decode cJ7_copyOf 0 = .ok (.aload_n 0, 1) := dk_42 (dk_at dksJ7_copyOf_0 0 rfl rfl)
theorem dJ7_copyOf_1 : decode cJ7_copyOf 1 = .ok (.iload_n 1, 1) := dk_27 (dk_at dksJ7_copyOf_0 1 rfl rfl)
theorem dJ7_copyOf_2 : decode cJ7_copyOf 2 = .ok (.aload_n 0, 1) := dk_42 (dk_at dksJ7_copyOf_0 2 rfl rfl)
theorem dJ7_copyOf_3 : decode cJ7_copyOf 3 = .ok (.invokevirtual 86, 3) := dk_182 0 86 (dk_at dksJ7_copyOf_0 3 rfl rfl)
theorem dJ7_copyOf_6 : decode cJ7_copyOf 6 = .ok (.invokestatic 300, 3) := dk_184 1 44 (dk_at dksJ7_copyOf_0 6 rfl rfl)
theorem dJ7_copyOf_9 : decode cJ7_copyOf 9 = .ok (.areturn, 1) := dk_176 (dk_at dksJ7_copyOf_0 9 rfl rfl)
abbrev cJ7_copyOf_2 : ByteArray := prog_24_method_120_code
def yJ7_copyOf_2 : MethodName := ⟨RJ7, "copyOf", "([Ljava/lang/Object;ILjava/lang/Class;)[Ljava/lang/Object;"⟩
def dkwJ7_copyOf_2_1 : List UInt8 := [78, 42, 3, 45, 3, 42, 190, 27, 184, 1, 48, 184, 0, 150, 45, 176]
abbrev dktJ7_copyOf_2_1 : List UInt8 := dkwJ7_copyOf_2_1 ++ []
def dkwJ7_copyOf_2_0 : List UInt8 := [44, 18, 110, 166, 0, 10, 27, 189, 0, 2, 167, 0, 14, 44, 182, 0, 90, 27, 184, 0, 95, 192, 0, 110]
abbrev dktJ7_copyOf_2_0 : List UInt8 := dkwJ7_copyOf_2_0 ++ dktJ7_copyOf_2_1
theorem dksJ7_copyOf_2_0 : cJ7_copyOf_2.data.toList.drop 0 = dktJ7_copyOf_2_0 := by decide +kernel
theorem dksJ7_copyOf_2_1 : cJ7_copyOf_2.data.toList.drop 24 = dktJ7_copyOf_2_1 := dk_seg dksJ7_copyOf_2_0 24 rfl rfl
theorem dJ7_copyOf_2_0 : decode cJ7_copyOf_2 0 = .ok (.aload_n 2, 1) := dk_44 (dk_at dksJ7_copyOf_2_0 0 rfl rfl)
theorem dJ7_copyOf_2_1 : decode cJ7_copyOf_2 1 = .ok (.ldc 110, 2) := dk_18 110 (dk_at dksJ7_copyOf_2_0 1 rfl rfl)
theorem dJ7_copyOf_2_3 : decode cJ7_copyOf_2 3 = .ok (.if_acmp .ne 10, 3) := dk_166 0 10 (dk_at dksJ7_copyOf_2_0 3 rfl rfl)
theorem dJ7_copyOf_2_6 : decode cJ7_copyOf_2 6 = .ok (.iload_n 1, 1) := dk_27 (dk_at dksJ7_copyOf_2_0 6 rfl rfl)
theorem dJ7_copyOf_2_7 : decode cJ7_copyOf_2 7 = .ok (.anewarray 2, 3) := dk_189 0 2 (dk_at dksJ7_copyOf_2_0 7 rfl rfl)
theorem dJ7_copyOf_2_10 : decode cJ7_copyOf_2 10 = .ok (.goto 14, 3) := dk_167 0 14 (dk_at dksJ7_copyOf_2_0 10 rfl rfl)
theorem dJ7_copyOf_2_13 : decode cJ7_copyOf_2 13 = .ok (.aload_n 2, 1) := dk_44 (dk_at dksJ7_copyOf_2_0 13 rfl rfl)
theorem dJ7_copyOf_2_14 : decode cJ7_copyOf_2 14 = .ok (.invokevirtual 90, 3) := dk_182 0 90 (dk_at dksJ7_copyOf_2_0 14 rfl rfl)
theorem dJ7_copyOf_2_17 : decode cJ7_copyOf_2 17 = .ok (.iload_n 1, 1) := dk_27 (dk_at dksJ7_copyOf_2_0 17 rfl rfl)
theorem dJ7_copyOf_2_18 : decode cJ7_copyOf_2 18 = .ok (.invokestatic 95, 3) := dk_184 0 95 (dk_at dksJ7_copyOf_2_0 18 rfl rfl)
theorem dJ7_copyOf_2_21 : decode cJ7_copyOf_2 21 = .ok (.checkcast 110, 3) := dk_192 0 110 (dk_at dksJ7_copyOf_2_0 21 rfl rfl)
theorem dJ7_copyOf_2_24 : decode cJ7_copyOf_2 24 = .ok (.astore_n 3, 1) := dk_78 (dk_at dksJ7_copyOf_2_1 0 rfl rfl)
theorem dJ7_copyOf_2_25 : decode cJ7_copyOf_2 25 = .ok (.aload_n 0, 1) := dk_42 (dk_at dksJ7_copyOf_2_1 1 rfl rfl)
theorem dJ7_copyOf_2_26 : decode cJ7_copyOf_2 26 = .ok (.iconst 0, 1) := dk_3 (dk_at dksJ7_copyOf_2_1 2 rfl rfl)
theorem dJ7_copyOf_2_27 : decode cJ7_copyOf_2 27 = .ok (.aload_n 3, 1) := dk_45 (dk_at dksJ7_copyOf_2_1 3 rfl rfl)
theorem dJ7_copyOf_2_28 : decode cJ7_copyOf_2 28 = .ok (.iconst 0, 1) := dk_3 (dk_at dksJ7_copyOf_2_1 4 rfl rfl)
theorem dJ7_copyOf_2_29 : decode cJ7_copyOf_2 29 = .ok (.aload_n 0, 1) := dk_42 (dk_at dksJ7_copyOf_2_1 5 rfl rfl)
theorem dJ7_copyOf_2_30 : decode cJ7_copyOf_2 30 = .ok (.arraylength, 1) := dk_190 (dk_at dksJ7_copyOf_2_1 6 rfl rfl)
theorem dJ7_copyOf_2_31 : decode cJ7_copyOf_2 31 = .ok (.iload_n 1, 1) := dk_27 (dk_at dksJ7_copyOf_2_1 7 rfl rfl)
theorem dJ7_copyOf_2_32 : decode cJ7_copyOf_2 32 = .ok (.invokestatic 304, 3) := dk_184 1 48 (dk_at dksJ7_copyOf_2_1 8 rfl rfl)
theorem dJ7_copyOf_2_35 : decode cJ7_copyOf_2 35 = .ok (.invokestatic 150, 3) := dk_184 0 150 (dk_at dksJ7_copyOf_2_1 11 rfl rfl)
theorem dJ7_copyOf_2_38 : decode cJ7_copyOf_2 38 = .ok (.aload_n 3, 1) := dk_45 (dk_at dksJ7_copyOf_2_1 14 rfl rfl)
theorem dJ7_copyOf_2_39 : decode cJ7_copyOf_2 39 = .ok (.areturn, 1) := dk_176 (dk_at dksJ7_copyOf_2_1 15 rfl rfl)
theorem q92 : (Jvm.Cond.initialized "java/util/Arrays") ∈ lw_all := lw_g (lw_at lw_m1 11 rfl) rfl
theorem q302 : (Jvm.Cond.static ({ cls := "java/util/Arrays", name := "copyOf", desc := "([Ljava/lang/Object;I)[Ljava/lang/Object;" } : Jvm.MethodName)) ∈ lw_all := lw_g (lw_at lw_m1 221 rfl) rfl
theorem q303 : (Jvm.Cond.code ({ cls := "java/util/Arrays", name := "copyOf", desc := "([Ljava/lang/Object;I)[Ljava/lang/Object;" } : Jvm.MethodName) prog_24_method_119_code (2 : Nat) (Option.some (Jvm.ClassFile.FieldType.array (Jvm.ClassFile.FieldType.object "java/lang/Object")))) ∈ lw_all := lw_g (lw_at lw_m1 222 rfl) rfl
theorem q304 : (Jvm.Cond.methodLink "java/util/Arrays" (86 : Nat) ({ cls := "java/lang/Object", name := "getClass", desc := "()Ljava/lang/Class;" } : Jvm.MethodName)) ∈ lw_all := lw_g (lw_at lw_m1 223 rfl) rfl
theorem q320 : (Jvm.Cond.methodLink "java/util/Arrays" (300 : Nat) ({ cls := "java/util/Arrays", name := "copyOf", desc := "([Ljava/lang/Object;ILjava/lang/Class;)[Ljava/lang/Object;" } : Jvm.MethodName)) ∈ lw_all := lw_g (lw_at lw_m1 239 rfl) rfl
theorem q321 : (Jvm.Cond.static ({ cls := "java/util/Arrays", name := "copyOf", desc := "([Ljava/lang/Object;ILjava/lang/Class;)[Ljava/lang/Object;" } : Jvm.MethodName)) ∈ lw_all := lw_g (lw_at lw_m2 0 rfl) rfl
theorem q322 : (Jvm.Cond.code ({ cls := "java/util/Arrays", name := "copyOf", desc := "([Ljava/lang/Object;ILjava/lang/Class;)[Ljava/lang/Object;" } : Jvm.MethodName) prog_24_method_120_code (4 : Nat) (Option.some (Jvm.ClassFile.FieldType.array (Jvm.ClassFile.FieldType.object "java/lang/Object")))) ∈ lw_all := lw_g (lw_at lw_m2 1 rfl) rfl
theorem q323 : (Jvm.Cond.classLink "java/util/Arrays" (110 : Nat) "[Ljava/lang/Object;") ∈ lw_all := lw_g (lw_at lw_m2 2 rfl) rfl
theorem q324 : (Jvm.Cond.classLink "java/util/Arrays" (2 : Nat) "java/lang/Object") ∈ lw_all := lw_g (lw_at lw_m2 3 rfl) rfl
theorem q325 : (Jvm.Cond.methodLink "java/util/Arrays" (304 : Nat) ({ cls := "java/lang/Math", name := "min", desc := "(II)I" } : Jvm.MethodName)) ∈ lw_all := lw_g (lw_at lw_m2 4 rfl) rfl
theorem q328 : (Jvm.Cond.methodLink "java/util/Arrays" (150 : Nat) ({ cls := "java/lang/System", name := "arraycopy", desc := "(Ljava/lang/Object;ILjava/lang/Object;II)V" } : Jvm.MethodName)) ∈ lw_all := lw_g (lw_at lw_m2 7 rfl) rfl

/-! java/lang/Throwable -/
set_option maxRecDepth 100000
def RJ8 : String := "java/lang/Throwable"
def TJ8 : u_T := fun k => match k with
  | 0 => ("java/lang/Throwable", "cause", "Ljava/lang/Throwable;", false)
  | 1 => ("java/lang/Throwable", "stackTrace", "[Ljava/lang/StackTraceElement;", false)
  | 2 => ("java/lang/Throwable", "suppressedExceptions", "Ljava/util/List;", false)
  | 3 => ("java/lang/Throwable", "detailMessage", "Ljava/lang/String;", false)
  | _ => ("java/lang/Throwable", "backtrace", "Ljava/lang/Object;", false)
def tyJ8 : Nat → FieldType := fun k => match k with
  | 0 => .object "java/lang/Throwable"
  | 1 => .array (.object "java/lang/StackTraceElement")
  | 2 => .object "java/util/List"
  | 3 => .object "java/lang/String"
  | _ => .object "java/lang/Object"
abbrev wsJ80 : List Cond := u_ws RJ8 TJ8 5
theorem nmJ8 : ∀ a, a < 5 → ∀ b, b < 5 → a ≠ b → (TJ8 a).2.1 ≠ (TJ8 b).2.1 := by decide +kernel
theorem tyJ8_ok : ∀ k, k < 5 → parseFieldDescriptor (TJ8 k).2.2.1 = some (tyJ8 k) := by decide +kernel
abbrev cJ8_init : ByteArray := prog_20_method_1_code
def yJ8_init : MethodName := ⟨RJ8, "<init>", "()V"⟩
def dkwJ8_init_1 : List UInt8 := [182, 0, 27, 87, 177]
abbrev dktJ8_init_1 : List UInt8 := dkwJ8_init_1 ++ []
def dkwJ8_init_0 : List UInt8 := [42, 183, 0, 1, 42, 42, 181, 0, 7, 42, 178, 0, 13, 181, 0, 17, 42, 178, 0, 20, 181, 0, 24, 42]
abbrev dktJ8_init_0 : List UInt8 := dkwJ8_init_0 ++ dktJ8_init_1
theorem dksJ8_init_0 : cJ8_init.data.toList.drop 0 = dktJ8_init_0 := by decide +kernel
theorem dksJ8_init_1 : cJ8_init.data.toList.drop 24 = dktJ8_init_1 := dk_seg dksJ8_init_0 24 rfl rfl
theorem dJ8_init_0 : decode cJ8_init 0 = .ok (.aload_n 0, 1) := dk_42 (dk_at dksJ8_init_0 0 rfl rfl)
theorem dJ8_init_1 : decode cJ8_init 1 = .ok (.invokespecial 1, 3) := dk_183 0 1 (dk_at dksJ8_init_0 1 rfl rfl)
theorem dJ8_init_4 : decode cJ8_init 4 = .ok (.aload_n 0, 1) := dk_42 (dk_at dksJ8_init_0 4 rfl rfl)
theorem dJ8_init_5 : decode cJ8_init 5 = .ok (.aload_n 0, 1) := dk_42 (dk_at dksJ8_init_0 5 rfl rfl)
theorem dJ8_init_6 : decode cJ8_init 6 = .ok (.putfield 7, 3) := dk_181 0 7 (dk_at dksJ8_init_0 6 rfl rfl)
theorem dJ8_init_9 : decode cJ8_init 9 = .ok (.aload_n 0, 1) := dk_42 (dk_at dksJ8_init_0 9 rfl rfl)
theorem dJ8_init_10 : decode cJ8_init 10 = .ok (.getstatic 13, 3) := dk_178 0 13 (dk_at dksJ8_init_0 10 rfl rfl)
theorem dJ8_init_13 : decode cJ8_init 13 = .ok (.putfield 17, 3) := dk_181 0 17 (dk_at dksJ8_init_0 13 rfl rfl)
theorem dJ8_init_16 : decode cJ8_init 16 = .ok (.aload_n 0, 1) := dk_42 (dk_at dksJ8_init_0 16 rfl rfl)
theorem dJ8_init_17 : decode cJ8_init 17 = .ok (.getstatic 20, 3) := dk_178 0 20 (dk_at dksJ8_init_0 17 rfl rfl)
theorem dJ8_init_20 : decode cJ8_init 20 = .ok (.putfield 24, 3) := dk_181 0 24 (dk_at dksJ8_init_0 20 rfl rfl)
theorem dJ8_init_23 : decode cJ8_init 23 = .ok (.aload_n 0, 1) := dk_42 (dk_at dksJ8_init_0 23 rfl rfl)
theorem dJ8_init_24 : decode cJ8_init 24 = .ok (.invokevirtual 27, 3) := dk_182 0 27 (dk_at dksJ8_init_1 0 rfl rfl)
theorem dJ8_init_27 : decode cJ8_init 27 = .ok (.pop, 1) := dk_87 (dk_at dksJ8_init_1 3 rfl rfl)
theorem dJ8_init_28 : decode cJ8_init 28 = .ok (.return_, 1) := dk_177 (dk_at dksJ8_init_1 4 rfl rfl)
abbrev cJ8_init_2 : ByteArray := prog_20_method_5_code
def yJ8_init_2 : MethodName := ⟨RJ8, "<init>", "(Ljava/lang/String;Ljava/lang/Throwable;ZZ)V"⟩
def dkwJ8_init_2_2 : List UInt8 := [44, 181, 0, 7, 29, 154, 0, 8, 42, 1, 181, 0, 24, 177]
abbrev dktJ8_init_2_2 : List UInt8 := dkwJ8_init_2_2 ++ []
def dkwJ8_init_2_1 : List UInt8 := [21, 4, 153, 0, 11, 42, 182, 0, 27, 87, 167, 0, 8, 42, 1, 181, 0, 17, 42, 43, 181, 0, 31, 42]
abbrev dktJ8_init_2_1 : List UInt8 := dkwJ8_init_2_1 ++ dktJ8_init_2_2
def dkwJ8_init_2_0 : List UInt8 := [42, 183, 0, 1, 42, 42, 181, 0, 7, 42, 178, 0, 13, 181, 0, 17, 42, 178, 0, 20, 181, 0, 24]
abbrev dktJ8_init_2_0 : List UInt8 := dkwJ8_init_2_0 ++ dktJ8_init_2_1
theorem dksJ8_init_2_0 : cJ8_init_2.data.toList.drop 0 = dktJ8_init_2_0 := by decide +kernel
theorem dksJ8_init_2_1 : cJ8_init_2.data.toList.drop 23 = dktJ8_init_2_1 := dk_seg dksJ8_init_2_0 23 rfl rfl
theorem dksJ8_init_2_2 : cJ8_init_2.data.toList.drop 47 = dktJ8_init_2_2 := dk_seg dksJ8_init_2_1 24 rfl rfl
theorem dJ8_init_2_0 : decode cJ8_init_2 0 = .ok (.aload_n 0, 1) := dk_42 (dk_at dksJ8_init_2_0 0 rfl rfl)
theorem dJ8_init_2_1 : decode cJ8_init_2 1 = .ok (.invokespecial 1, 3) := dk_183 0 1 (dk_at dksJ8_init_2_0 1 rfl rfl)
theorem dJ8_init_2_4 : decode cJ8_init_2 4 = .ok (.aload_n 0, 1) := dk_42 (dk_at dksJ8_init_2_0 4 rfl rfl)
theorem dJ8_init_2_5 : decode cJ8_init_2 5 = .ok (.aload_n 0, 1) := dk_42 (dk_at dksJ8_init_2_0 5 rfl rfl)
theorem dJ8_init_2_6 : decode cJ8_init_2 6 = .ok (.putfield 7, 3) := dk_181 0 7 (dk_at dksJ8_init_2_0 6 rfl rfl)
theorem dJ8_init_2_9 : decode cJ8_init_2 9 = .ok (.aload_n 0, 1) := dk_42 (dk_at dksJ8_init_2_0 9 rfl rfl)
theorem dJ8_init_2_10 : decode cJ8_init_2 10 = .ok (.getstatic 13, 3) := dk_178 0 13 (dk_at dksJ8_init_2_0 10 rfl rfl)
theorem dJ8_init_2_13 : decode cJ8_init_2 13 = .ok (.putfield 17, 3) := dk_181 0 17 (dk_at dksJ8_init_2_0 13 rfl rfl)
theorem dJ8_init_2_16 : decode cJ8_init_2 16 = .ok (.aload_n 0, 1) := dk_42 (dk_at dksJ8_init_2_0 16 rfl rfl)
theorem dJ8_init_2_17 : decode cJ8_init_2 17 = .ok (.getstatic 20, 3) := dk_178 0 20 (dk_at dksJ8_init_2_0 17 rfl rfl)
theorem dJ8_init_2_20 : decode cJ8_init_2 20 = .ok (.putfield 24, 3) := dk_181 0 24 (dk_at dksJ8_init_2_0 20 rfl rfl)
theorem dJ8_init_2_23 : decode cJ8_init_2 23 = .ok (.iload 4, 2) := dk_21 4 (dk_at dksJ8_init_2_1 0 rfl rfl)
theorem dJ8_init_2_25 : decode cJ8_init_2 25 = .ok (.ifCond .eq 11, 3) := dk_153 0 11 (dk_at dksJ8_init_2_1 2 rfl rfl)
theorem dJ8_init_2_28 : decode cJ8_init_2 28 = .ok (.aload_n 0, 1) := dk_42 (dk_at dksJ8_init_2_1 5 rfl rfl)
theorem dJ8_init_2_29 : decode cJ8_init_2 29 = .ok (.invokevirtual 27, 3) := dk_182 0 27 (dk_at dksJ8_init_2_1 6 rfl rfl)
theorem dJ8_init_2_32 : decode cJ8_init_2 32 = .ok (.pop, 1) := dk_87 (dk_at dksJ8_init_2_1 9 rfl rfl)
theorem dJ8_init_2_33 : decode cJ8_init_2 33 = .ok (.goto 8, 3) := dk_167 0 8 (dk_at dksJ8_init_2_1 10 rfl rfl)
theorem dJ8_init_2_36 : decode cJ8_init_2 36 = .ok (.aload_n 0, 1) := dk_42 (dk_at dksJ8_init_2_1 13 rfl rfl)
theorem dJ8_init_2_37 : decode cJ8_init_2 37 = .ok (.aconst_null, 1) := dk_1 (dk_at dksJ8_init_2_1 14 rfl rfl)
theorem dJ8_init_2_38 : decode cJ8_init_2 38 = .ok (.putfield 17, 3) := dk_181 0 17 (dk_at dksJ8_init_2_1 15 rfl rfl)
theorem dJ8_init_2_41 : decode cJ8_init_2 41 = .ok (.aload_n 0, 1) := dk_42 (dk_at dksJ8_init_2_1 18 rfl rfl)
theorem dJ8_init_2_42 : decode cJ8_init_2 42 = .ok (.aload_n 1, 1) := dk_43 (dk_at dksJ8_init_2_1 19 rfl rfl)
theorem dJ8_init_2_43 : decode cJ8_init_2 43 = .ok (.putfield 31, 3) := dk_181 0 31 (dk_at dksJ8_init_2_1 20 rfl rfl)
theorem dJ8_init_2_46 : decode cJ8_init_2 46 = .ok (.aload_n 0, 1) := dk_42 (dk_at dksJ8_init_2_1 23 rfl rfl)
theorem dJ8_init_2_47 : decode cJ8_init_2 47 = .ok (.aload_n 2, 1) := dk_44 (dk_at dksJ8_init_2_2 0 rfl rfl)
theorem dJ8_init_2_48 : decode cJ8_init_2 48 = .ok (.putfield 7, 3) := dk_181 0 7 (dk_at dksJ8_init_2_2 1 rfl rfl)
theorem dJ8_init_2_51 : decode cJ8_init_2 51 = .ok (.iload_n 3, 1) := dk_29 (dk_at dksJ8_init_2_2 4 rfl rfl)
theorem dJ8_init_2_52 : decode cJ8_init_2 52 = .ok (.ifCond .ne 8, 3) := dk_154 0 8 (dk_at dksJ8_init_2_2 5 rfl rfl)
theorem dJ8_init_2_55 : decode cJ8_init_2 55 = .ok (.aload_n 0, 1) := dk_42 (dk_at dksJ8_init_2_2 8 rfl rfl)
theorem dJ8_init_2_56 : decode cJ8_init_2 56 = .ok (.aconst_null, 1) := dk_1 (dk_at dksJ8_init_2_2 9 rfl rfl)
theorem dJ8_init_2_57 : decode cJ8_init_2 57 = .ok (.putfield 24, 3) := dk_181 0 24 (dk_at dksJ8_init_2_2 10 rfl rfl)
theorem dJ8_init_2_60 : decode cJ8_init_2 60 = .ok (.return_, 1) := dk_177 (dk_at dksJ8_init_2_2 13 rfl rfl)
theorem q95 : (Jvm.Cond.initialized "java/lang/Throwable") ∈ lw_all := lw_g (lw_at lw_m1 14 rfl) rfl
theorem q378 : (Jvm.Cond.declares ({ cls := "java/lang/Throwable", name := "<init>", desc := "()V" } : Jvm.MethodName)) ∈ lw_tbl := lw_at lw_m2 57 rfl
theorem q379 : (Jvm.Cond.declares ({ cls := "java/lang/Throwable", name := "<init>", desc := "(Ljava/lang/String;)V" } : Jvm.MethodName)) ∈ lw_tbl := lw_at lw_m2 58 rfl
theorem q383 : (Jvm.Cond.lays "java/lang/Throwable" "java/lang/Throwable" "cause" "Ljava/lang/Throwable;") ∈ lw_all := lw_g (lw_at lw_m2 62 rfl) rfl
theorem q385 : (Jvm.Cond.lays "java/lang/Throwable" "java/lang/Throwable" "stackTrace" "[Ljava/lang/StackTraceElement;") ∈ lw_all := lw_g (lw_at lw_m2 64 rfl) rfl
theorem q387 : (Jvm.Cond.lays "java/lang/Throwable" "java/lang/Throwable" "suppressedExceptions" "Ljava/util/List;") ∈ lw_all := lw_g (lw_at lw_m2 66 rfl) rfl
theorem q389 : (Jvm.Cond.lays "java/lang/Throwable" "java/lang/Throwable" "detailMessage" "Ljava/lang/String;") ∈ lw_all := lw_g (lw_at lw_m2 68 rfl) rfl
theorem q391 : (Jvm.Cond.lays "java/lang/Throwable" "java/lang/Throwable" "backtrace" "Ljava/lang/Object;") ∈ lw_all := lw_g (lw_at lw_m2 70 rfl) rfl
theorem q392 : (Jvm.Cond.fieldLink "java/lang/Throwable" (198 : Nat) "java/lang/Throwable" "backtrace" "Ljava/lang/Object;") ∈ lw_all := lw_g (lw_at lw_m2 71 rfl) rfl
theorem q393 : (Jvm.Cond.superclass "java/lang/Throwable" "java/lang/Object") ∈ lw_all := lw_g (lw_at lw_m2 72 rfl) rfl
theorem q394 : (Jvm.Cond.instanceMethod ({ cls := "java/lang/Throwable", name := "<init>", desc := "()V" } : Jvm.MethodName)) ∈ lw_all := lw_g (lw_at lw_m2 73 rfl) rfl
theorem q395 : (Jvm.Cond.code ({ cls := "java/lang/Throwable", name := "<init>", desc := "()V" } : Jvm.MethodName) prog_20_method_1_code (1 : Nat) (Option.none : Option Jvm.ClassFile.FieldType)) ∈ lw_all := lw_g (lw_at lw_m2 74 rfl) rfl
theorem q396 : (Jvm.Cond.methodLink "java/lang/Throwable" (1 : Nat) ({ cls := "java/lang/Object", name := "<init>", desc := "()V" } : Jvm.MethodName)) ∈ lw_all := lw_g (lw_at lw_m2 75 rfl) rfl
theorem q397 : (Jvm.Cond.fieldLink "java/lang/Throwable" (13 : Nat) "java/lang/Throwable" "UNASSIGNED_STACK" "[Ljava/lang/StackTraceElement;") ∈ lw_all := lw_g (lw_at lw_m2 76 rfl) rfl
theorem q398 : (Jvm.Cond.laysStatic "java/lang/Throwable" "UNASSIGNED_STACK" "[Ljava/lang/StackTraceElement;") ∈ lw_tbl := lw_at lw_m2 77 rfl
theorem q399 : (Jvm.Cond.fieldLink "java/lang/Throwable" (20 : Nat) "java/lang/Throwable" "SUPPRESSED_SENTINEL" "Ljava/util/List;") ∈ lw_all := lw_g (lw_at lw_m2 78 rfl) rfl
theorem q400 : (Jvm.Cond.laysStatic "java/lang/Throwable" "SUPPRESSED_SENTINEL" "Ljava/util/List;") ∈ lw_tbl := lw_at lw_m2 79 rfl
theorem q401 : (Jvm.Cond.methodLink "java/lang/Throwable" (27 : Nat) ({ cls := "java/lang/Throwable", name := "fillInStackTrace", desc := "()Ljava/lang/Throwable;" } : Jvm.MethodName)) ∈ lw_all := lw_g (lw_at lw_m2 80 rfl) rfl
theorem q402 : (Jvm.Cond.instanceMethod ({ cls := "java/lang/Throwable", name := "fillInStackTrace", desc := "()Ljava/lang/Throwable;" } : Jvm.MethodName)) ∈ lw_all := lw_g (lw_at lw_m2 81 rfl) rfl
theorem q403 : (Jvm.Cond.sameMethod "java/lang/Throwable" "java/lang/Throwable" "fillInStackTrace" "()Ljava/lang/Throwable;") ∈ lw_all := lw_g (lw_at lw_m2 82 rfl) rfl
theorem q404 : (Jvm.Cond.codeSync ({ cls := "java/lang/Throwable", name := "fillInStackTrace", desc := "()Ljava/lang/Throwable;" } : Jvm.MethodName) prog_20_method_18_code (1 : Nat) (Option.some (Jvm.ClassFile.FieldType.object "java/lang/Throwable"))) ∈ lw_all := lw_g (lw_at lw_m2 83 rfl) rfl
theorem q405 : (Jvm.Cond.methodLink "java/lang/Throwable" (202 : Nat) ({ cls := "java/lang/Throwable", name := "fillInStackTrace", desc := "(I)Ljava/lang/Throwable;" } : Jvm.MethodName)) ∈ lw_all := lw_g (lw_at lw_m2 84 rfl) rfl
theorem q406 : (Jvm.Cond.privateMethod ({ cls := "java/lang/Throwable", name := "fillInStackTrace", desc := "(I)Ljava/lang/Throwable;" } : Jvm.MethodName)) ∈ lw_tbl := lw_at lw_m2 85 rfl
theorem q407 : (Jvm.Cond.instanceMethod ({ cls := "java/lang/Throwable", name := "fillInStackTrace", desc := "(I)Ljava/lang/Throwable;" } : Jvm.MethodName)) ∈ lw_all := lw_g (lw_at lw_m2 86 rfl) rfl
theorem q408 : (Jvm.Cond.instantiable "java/lang/Throwable" (6 : Nat)) ∈ lw_all := lw_g (lw_at lw_m2 87 rfl) rfl
theorem q409 : (Jvm.Cond.native ({ cls := "java/lang/Throwable", name := "fillInStackTrace", desc := "(I)Ljava/lang/Throwable;" } : Jvm.MethodName)) ∈ lw_all := lw_g (lw_at lw_m2 88 rfl) rfl
theorem q420 : (Jvm.Cond.instanceMethod ({ cls := "java/lang/Throwable", name := "<init>", desc := "(Ljava/lang/String;Ljava/lang/Throwable;ZZ)V" } : Jvm.MethodName)) ∈ lw_all := lw_g (lw_at lw_m2 99 rfl) rfl
theorem q421 : (Jvm.Cond.code ({ cls := "java/lang/Throwable", name := "<init>", desc := "(Ljava/lang/String;Ljava/lang/Throwable;ZZ)V" } : Jvm.MethodName) prog_20_method_5_code (5 : Nat) (Option.none : Option Jvm.ClassFile.FieldType)) ∈ lw_all := lw_g (lw_at lw_m2 100 rfl) rfl
theorem q424 : (Jvm.Cond.fieldLink "java/lang/Throwable" (198 : Nat) "java/lang/Throwable" "backtrace" "Ljava/lang/Object;") ∈ lw_all := lw_g (lw_at lw_m2 103 rfl) rfl
theorem q425 : (Jvm.Cond.fieldLink "java/lang/Throwable" (31 : Nat) "java/lang/Throwable" "detailMessage" "Ljava/lang/String;") ∈ lw_all := lw_g (lw_at lw_m2 104 rfl) rfl
theorem q426 : (Jvm.Cond.fieldLink "java/lang/Throwable" (7 : Nat) "java/lang/Throwable" "cause" "Ljava/lang/Throwable;") ∈ lw_all := lw_g (lw_at lw_m2 105 rfl) rfl
theorem q427 : (Jvm.Cond.fieldLink "java/lang/Throwable" (17 : Nat) "java/lang/Throwable" "stackTrace" "[Ljava/lang/StackTraceElement;") ∈ lw_all := lw_g (lw_at lw_m2 106 rfl) rfl
theorem q428 : (Jvm.Cond.fieldLink "java/lang/Throwable" (24 : Nat) "java/lang/Throwable" "suppressedExceptions" "Ljava/util/List;") ∈ lw_all := lw_g (lw_at lw_m2 107 rfl) rfl
theorem q431 : (Jvm.Cond.soleField "java/lang/Throwable" "backtrace") ∈ lw_all := lw_g (lw_at lw_m2 110 rfl) rfl
theorem q432 : (Jvm.Cond.soleField "java/lang/Throwable" "detailMessage") ∈ lw_all := lw_g (lw_at lw_m2 111 rfl) rfl
theorem q433 : (Jvm.Cond.soleField "java/lang/Throwable" "cause") ∈ lw_all := lw_g (lw_at lw_m2 112 rfl) rfl
theorem q434 : (Jvm.Cond.soleField "java/lang/Throwable" "stackTrace") ∈ lw_all := lw_g (lw_at lw_m2 113 rfl) rfl
theorem q436 : (Jvm.Cond.soleField "java/lang/Throwable" "depth") ∈ lw_all := lw_g (lw_at lw_m2 115 rfl) rfl
theorem q437 : (Jvm.Cond.soleField "java/lang/Throwable" "suppressedExceptions") ∈ lw_all := lw_g (lw_at lw_m2 116 rfl) rfl
theorem q1506 : (Jvm.Cond.sameMethod "java/lang/Throwable" "java/lang/Throwable" "fillInStackTrace" "(I)Ljava/lang/Throwable;") ∈ lw_all := lw_g (lw_at lw_m6 225 rfl) rfl
theorem q1529 : (Jvm.Cond.castable "java/lang/Throwable" "java/lang/Object") ∈ lw_tbl := lw_at lw_m7 8 rfl
theorem in_J8 : ∀ w ∈ wsJ80, w ∈ lw_all := lw_in wsJ80 [383, 385, 387, 389, 391] (by decide +kernel) (by decide +kernel)

/-! java/lang/Exception -/
set_option maxRecDepth 100000
def RJ9 : String := "java/lang/Exception"
abbrev cJ9_init : ByteArray := prog_15_method_5_code
def yJ9_init : MethodName := ⟨RJ9, "<init>", "(Ljava/lang/String;Ljava/lang/Throwable;ZZ)V"⟩
def dkwJ9_init_0 : List UInt8 := [42, 43, 44, 29, 21, 4, 183, 0, 16, 177]
abbrev dktJ9_init_0 : List UInt8 := dkwJ9_init_0 ++ []
theorem dksJ9_init_0 : cJ9_init.data.toList.drop 0 = dktJ9_init_0 := by decide +kernel
theorem dJ9_init_0 : decode cJ9_init 0 = .ok (.aload_n 0, 1) := dk_42 (dk_at dksJ9_init_0 0 rfl rfl)
theorem dJ9_init_1 : decode cJ9_init 1 = .ok (.aload_n 1, 1) := dk_43 (dk_at dksJ9_init_0 1 rfl rfl)
theorem dJ9_init_2 : decode cJ9_init 2 = .ok (.aload_n 2, 1) := dk_44 (dk_at dksJ9_init_0 2 rfl rfl)
theorem dJ9_init_3 : decode cJ9_init 3 = .ok (.iload_n 3, 1) := dk_29 (dk_at dksJ9_init_0 3 rfl rfl)
theorem dJ9_init_4 : decode cJ9_init 4 = .ok (.iload 4, 2) := dk_21 4 (dk_at dksJ9_init_0 4 rfl rfl)
theorem dJ9_init_6 : decode cJ9_init 6 = .ok (.invokespecial 16, 3) := dk_183 0 16 (dk_at dksJ9_init_0 6 rfl rfl)
theorem dJ9_init_9 : decode cJ9_init 9 = .ok (.return_, 1) := dk_177 (dk_at dksJ9_init_0 9 rfl rfl)
theorem q96 : (Jvm.Cond.initialized "java/lang/Exception") ∈ lw_all := lw_g (lw_at lw_m1 15 rfl) rfl
theorem q376 : (Jvm.Cond.declares ({ cls := "java/lang/Exception", name := "<init>", desc := "()V" } : Jvm.MethodName)) ∈ lw_tbl := lw_at lw_m2 55 rfl
theorem q377 : (Jvm.Cond.declares ({ cls := "java/lang/Exception", name := "<init>", desc := "(Ljava/lang/String;)V" } : Jvm.MethodName)) ∈ lw_tbl := lw_at lw_m2 56 rfl
theorem q417 : (Jvm.Cond.instanceMethod ({ cls := "java/lang/Exception", name := "<init>", desc := "(Ljava/lang/String;Ljava/lang/Throwable;ZZ)V" } : Jvm.MethodName)) ∈ lw_all := lw_g (lw_at lw_m2 96 rfl) rfl
theorem q418 : (Jvm.Cond.code ({ cls := "java/lang/Exception", name := "<init>", desc := "(Ljava/lang/String;Ljava/lang/Throwable;ZZ)V" } : Jvm.MethodName) prog_15_method_5_code (5 : Nat) (Option.none : Option Jvm.ClassFile.FieldType)) ∈ lw_all := lw_g (lw_at lw_m2 97 rfl) rfl
theorem q419 : (Jvm.Cond.methodLink "java/lang/Exception" (16 : Nat) ({ cls := "java/lang/Throwable", name := "<init>", desc := "(Ljava/lang/String;Ljava/lang/Throwable;ZZ)V" } : Jvm.MethodName)) ∈ lw_all := lw_g (lw_at lw_m2 98 rfl) rfl

/-! PrayerMatsFace$Blind -/
set_option maxRecDepth 100000
def RX10 : String := "PrayerMatsFace$Blind"
def TX10 : u_T := fun k => match k with
  | 0 => ("PrayerMatsFace$Person", "kind", "I", true)
  | _ => ("PrayerMatsFace$Person", "figure", "I", true)
def tyX10 : Nat → FieldType := fun k => match k with
  | 0 => .int
  | _ => .int
abbrev wsX100 : List Cond := u_ws RX10 TX10 2
theorem nmX10 : ∀ a, a < 2 → ∀ b, b < 2 → a ≠ b → (TX10 a).2.1 ≠ (TX10 b).2.1 := by decide +kernel
theorem tyX10_ok : ∀ k, k < 2 → parseFieldDescriptor (TX10 k).2.2.1 = some (tyX10 k) := by decide +kernel
abbrev cX10_init : ByteArray := prog_2_method_1_code
def yX10_init : MethodName := ⟨RX10, "<init>", "(II)V"⟩
def dkwX10_init_0 : List UInt8 := [42, 27, 28, 183, 0, 1, 177]
abbrev dktX10_init_0 : List UInt8 := dkwX10_init_0 ++ []
theorem dksX10_init_0 : cX10_init.data.toList.drop 0 = dktX10_init_0 := by decide +kernel
theorem dX10_init_0 : decode cX10_init 0 = .ok (.aload_n 0, 1) := dk_42 (dk_at dksX10_init_0 0 rfl rfl)
theorem dX10_init_1 : decode cX10_init 1 = .ok (.iload_n 1, 1) := dk_27 (dk_at dksX10_init_0 1 rfl rfl)
theorem dX10_init_2 : decode cX10_init 2 = .ok (.iload_n 2, 1) := dk_28 (dk_at dksX10_init_0 2 rfl rfl)
theorem dX10_init_3 : decode cX10_init 3 = .ok (.invokespecial 1, 3) := dk_183 0 1 (dk_at dksX10_init_0 3 rfl rfl)
theorem dX10_init_6 : decode cX10_init 6 = .ok (.return_, 1) := dk_177 (dk_at dksX10_init_0 6 rfl rfl)
abbrev cX10_soft : ByteArray := prog_2_method_2_code
def yX10_soft : MethodName := ⟨RX10, "soft", "()I"⟩
def dkwX10_soft_0 : List UInt8 := [5, 42, 183, 0, 7, 104, 172]
abbrev dktX10_soft_0 : List UInt8 := dkwX10_soft_0 ++ []
theorem dksX10_soft_0 : cX10_soft.data.toList.drop 0 = dktX10_soft_0 := by decide +kernel
theorem dX10_soft_0 : decode cX10_soft 0 = .ok (.iconst 2, 1) := dk_5 (dk_at dksX10_soft_0 0 rfl rfl)
theorem dX10_soft_1 : decode cX10_soft 1 = .ok (.aload_n 0, 1) := dk_42 (dk_at dksX10_soft_0 1 rfl rfl)
theorem dX10_soft_2 : decode cX10_soft 2 = .ok (.invokespecial 7, 3) := dk_183 0 7 (dk_at dksX10_soft_0 2 rfl rfl)
theorem dX10_soft_5 : decode cX10_soft 5 = .ok (.imul, 1) := dk_104 (dk_at dksX10_soft_0 5 rfl rfl)
theorem dX10_soft_6 : decode cX10_soft 6 = .ok (.ireturn, 1) := dk_172 (dk_at dksX10_soft_0 6 rfl rfl)
abbrev cX10_charm : ByteArray := prog_2_method_3_code
def yX10_charm : MethodName := ⟨RX10, "charm", "()I"⟩
theorem dX10_charm_0 : decode cX10_charm 0 = .ok (.bipush 9, 2) := by decide +kernel
theorem dX10_charm_2 : decode cX10_charm 2 = .ok (.ireturn, 1) := by decide +kernel
theorem q104 : (Jvm.Cond.initialized "PrayerMatsFace$Blind") ∈ lw_all := lw_g (lw_at lw_m1 23 rfl) rfl
theorem q308 : (Jvm.Cond.selects "PrayerMatsFace$Blind" ({ cls := "java/lang/Object", name := "getClass", desc := "()Ljava/lang/Class;" } : Jvm.MethodName) ({ cls := "java/lang/Object", name := "getClass", desc := "()Ljava/lang/Class;" } : Jvm.MethodName)) ∈ lw_all := lw_g (lw_at lw_m1 227 rfl) rfl
theorem q508 : (Jvm.Cond.instantiable "PrayerMatsFace$Blind" (2 : Nat)) ∈ lw_all := lw_g (lw_at lw_m2 187 rfl) rfl
theorem q510 : (Jvm.Cond.instanceMethod ({ cls := "PrayerMatsFace$Blind", name := "<init>", desc := "(II)V" } : Jvm.MethodName)) ∈ lw_all := lw_g (lw_at lw_m2 189 rfl) rfl
theorem q511 : (Jvm.Cond.code ({ cls := "PrayerMatsFace$Blind", name := "<init>", desc := "(II)V" } : Jvm.MethodName) prog_2_method_1_code (3 : Nat) (Option.none : Option Jvm.ClassFile.FieldType)) ∈ lw_all := lw_g (lw_at lw_m2 190 rfl) rfl
theorem q512 : (Jvm.Cond.methodLink "PrayerMatsFace$Blind" (1 : Nat) ({ cls := "PrayerMatsFace$Widower", name := "<init>", desc := "(II)V" } : Jvm.MethodName)) ∈ lw_all := lw_g (lw_at lw_m2 191 rfl) rfl
theorem q513 : (Jvm.Cond.laysFinal "PrayerMatsFace$Blind" "PrayerMatsFace$Person" "kind" "I") ∈ lw_all := lw_g (lw_at lw_m2 192 rfl) rfl
theorem q514 : (Jvm.Cond.laysFinal "PrayerMatsFace$Blind" "PrayerMatsFace$Person" "figure" "I") ∈ lw_all := lw_g (lw_at lw_m2 193 rfl) rfl
theorem q515 : (Jvm.Cond.superclass "PrayerMatsFace$Blind" "PrayerMatsFace$Widower") ∈ lw_all := lw_g (lw_at lw_m2 194 rfl) rfl
theorem q591 : (Jvm.Cond.selects "PrayerMatsFace$Blind" ({ cls := "PrayerMatsFace$Person", name := "soft", desc := "()I" } : Jvm.MethodName) ({ cls := "PrayerMatsFace$Blind", name := "soft", desc := "()I" } : Jvm.MethodName)) ∈ lw_all := lw_g (lw_at lw_m3 30 rfl) rfl
theorem q592 : (Jvm.Cond.instanceMethod ({ cls := "PrayerMatsFace$Blind", name := "soft", desc := "()I" } : Jvm.MethodName)) ∈ lw_all := lw_g (lw_at lw_m3 31 rfl) rfl
theorem q593 : (Jvm.Cond.code ({ cls := "PrayerMatsFace$Blind", name := "soft", desc := "()I" } : Jvm.MethodName) prog_2_method_2_code (1 : Nat) (Option.some Jvm.ClassFile.FieldType.int)) ∈ lw_all := lw_g (lw_at lw_m3 32 rfl) rfl
theorem q594 : (Jvm.Cond.methodLink "PrayerMatsFace$Blind" (7 : Nat) ({ cls := "PrayerMatsFace$Widower", name := "soft", desc := "()I" } : Jvm.MethodName)) ∈ lw_all := lw_g (lw_at lw_m3 33 rfl) rfl
theorem q615 : (Jvm.Cond.selects "PrayerMatsFace$Blind" ({ cls := "PrayerMatsFace$Person", name := "sore", desc := "()I" } : Jvm.MethodName) ({ cls := "PrayerMatsFace$Widower", name := "sore", desc := "()I" } : Jvm.MethodName)) ∈ lw_all := lw_g (lw_at lw_m3 54 rfl) rfl
theorem q653 : (Jvm.Cond.selects "PrayerMatsFace$Blind" ({ cls := "PrayerMatsFace$Person", name := "charm", desc := "()I" } : Jvm.MethodName) ({ cls := "PrayerMatsFace$Blind", name := "charm", desc := "()I" } : Jvm.MethodName)) ∈ lw_all := lw_g (lw_at lw_m3 92 rfl) rfl
theorem q654 : (Jvm.Cond.instanceMethod ({ cls := "PrayerMatsFace$Blind", name := "charm", desc := "()I" } : Jvm.MethodName)) ∈ lw_all := lw_g (lw_at lw_m3 93 rfl) rfl
theorem q655 : (Jvm.Cond.code ({ cls := "PrayerMatsFace$Blind", name := "charm", desc := "()I" } : Jvm.MethodName) prog_2_method_3_code (1 : Nat) (Option.some Jvm.ClassFile.FieldType.int)) ∈ lw_all := lw_g (lw_at lw_m3 94 rfl) rfl
theorem q1512 : (Jvm.Cond.castable "PrayerMatsFace$Blind" "PrayerMatsFace$Person") ∈ lw_tbl := lw_at lw_m6 231 rfl
theorem q1527 : (Jvm.Cond.castable "PrayerMatsFace$Blind" "java/lang/Object") ∈ lw_tbl := lw_at lw_m7 6 rfl
theorem in_X10 : ∀ w ∈ wsX100, w ∈ lw_all := lw_in wsX100 [513, 514] (by decide +kernel) (by decide +kernel)

/-! PrayerMatsFace$Reader -/
set_option maxRecDepth 100000
def RX3 : String := "PrayerMatsFace$Reader"
def TX3 : u_T := fun k => match k with
  | 0 => ("PrayerMatsFace$Reader", "at", "I", false)
  | 1 => ("PrayerMatsFace$Reader", "wrong", "I", false)
  | 2 => ("PrayerMatsFace$Reader", "begun", "I", false)
  | _ => ("PrayerMatsFace$Reader", "this$0", "LPrayerMatsFace;", true)
def tyX3 : Nat → FieldType := fun k => match k with
  | 0 => .int
  | 1 => .int
  | 2 => .int
  | _ => .object "PrayerMatsFace"
abbrev wsX30 : List Cond := u_ws RX3 TX3 4
theorem nmX3 : ∀ a, a < 4 → ∀ b, b < 4 → a ≠ b → (TX3 a).2.1 ≠ (TX3 b).2.1 := by decide +kernel
theorem tyX3_ok : ∀ k, k < 4 → parseFieldDescriptor (TX3 k).2.2.1 = some (tyX3 k) := by decide +kernel
abbrev cX3_init : ByteArray := prog_8_method_1_code
def yX3_init : MethodName := ⟨RX3, "<init>", "(LPrayerMatsFace;)V"⟩
def dkwX3_init_0 : List UInt8 := [42, 43, 181, 0, 3, 42, 183, 0, 9, 42, 16, 247, 181, 0, 15, 177]
abbrev dktX3_init_0 : List UInt8 := dkwX3_init_0 ++ []
theorem dksX3_init_0 : cX3_init.data.toList.drop 0 = dktX3_init_0 := by decide +kernel
theorem dX3_init_0 : decode cX3_init 0 = .ok (.aload_n 0, 1) := dk_42 (dk_at dksX3_init_0 0 rfl rfl)
theorem dX3_init_1 : decode cX3_init 1 = .ok (.aload_n 1, 1) := dk_43 (dk_at dksX3_init_0 1 rfl rfl)
theorem dX3_init_2 : decode cX3_init 2 = .ok (.putfield 3, 3) := dk_181 0 3 (dk_at dksX3_init_0 2 rfl rfl)
theorem dX3_init_5 : decode cX3_init 5 = .ok (.aload_n 0, 1) := dk_42 (dk_at dksX3_init_0 5 rfl rfl)
theorem dX3_init_6 : decode cX3_init 6 = .ok (.invokespecial 9, 3) := dk_183 0 9 (dk_at dksX3_init_0 6 rfl rfl)
theorem dX3_init_9 : decode cX3_init 9 = .ok (.aload_n 0, 1) := dk_42 (dk_at dksX3_init_0 9 rfl rfl)
theorem dX3_init_10 : decode cX3_init 10 = .ok (.bipush (-9), 2) := dk_16 247 (dk_at dksX3_init_0 10 rfl rfl)
theorem dX3_init_12 : decode cX3_init 12 = .ok (.putfield 15, 3) := dk_181 0 15 (dk_at dksX3_init_0 12 rfl rfl)
theorem dX3_init_15 : decode cX3_init 15 = .ok (.return_, 1) := dk_177 (dk_at dksX3_init_0 15 rfl rfl)
abbrev cX3_all : ByteArray := prog_8_method_13_code
def yX3_all : MethodName := ⟨RX3, "all", "()I"⟩
def dkwX3_all_5 : List UInt8 := [191, 132, 1, 1, 42, 180, 0, 19, 42, 180, 0, 3, 180, 0, 22, 161, 255, 101, 27, 172]
abbrev dktX3_all_5 : List UInt8 := dkwX3_all_5 ++ []
def dkwX3_all_4 : List UInt8 := [182, 0, 100, 167, 0, 22, 42, 182, 0, 103, 167, 0, 15, 187, 0, 106, 89, 42, 180, 0, 40, 183, 0, 108]
abbrev dktX3_all_4 : List UInt8 := dkwX3_all_4 ++ dktX3_all_5
def dkwX3_all_3 : List UInt8 := [42, 182, 0, 92, 167, 0, 43, 42, 182, 0, 95, 167, 0, 36, 42, 182, 0, 97, 167, 0, 29, 42]
abbrev dktX3_all_3 : List UInt8 := dkwX3_all_3 ++ dktX3_all_4
def dkwX3_all_2 : List UInt8 := [170, 0, 0, 0, 0, 105, 0, 0, 0, 100, 0, 0, 0, 113, 0, 0, 0, 98, 0, 0, 0, 105, 0, 0, 0, 105, 0, 0, 0, 105, 0, 0, 0, 77, 0, 0, 0, 105, 0, 0, 0, 105, 0, 0, 0, 105, 0, 0, 0, 105, 0, 0, 0, 91, 0, 0, 0, 105, 0, 0, 0, 105, 0, 0, 0, 70, 0, 0, 0, 84]
abbrev dktX3_all_2 : List UInt8 := dkwX3_all_2 ++ dktX3_all_3
def dkwX3_all_1 : List UInt8 := [181, 0, 19, 28]
abbrev dktX3_all_1 : List UInt8 := dkwX3_all_1 ++ dktX3_all_2
def dkwX3_all_0 : List UInt8 := [3, 60, 42, 42, 180, 0, 19, 181, 0, 40, 42, 182, 0, 29, 61, 42, 89, 180, 0, 19, 4, 96]
abbrev dktX3_all_0 : List UInt8 := dkwX3_all_0 ++ dktX3_all_1
theorem dksX3_all_0 : cX3_all.data.toList.drop 0 = dktX3_all_0 := by decide +kernel
theorem dksX3_all_1 : cX3_all.data.toList.drop 22 = dktX3_all_1 := dk_seg dksX3_all_0 22 rfl rfl
theorem dksX3_all_2 : cX3_all.data.toList.drop 26 = dktX3_all_2 := dk_seg dksX3_all_1 4 rfl rfl
theorem dksX3_all_3 : cX3_all.data.toList.drop 96 = dktX3_all_3 := dk_seg dksX3_all_2 70 rfl rfl
theorem dksX3_all_4 : cX3_all.data.toList.drop 118 = dktX3_all_4 := dk_seg dksX3_all_3 22 rfl rfl
theorem dksX3_all_5 : cX3_all.data.toList.drop 142 = dktX3_all_5 := dk_seg dksX3_all_4 24 rfl rfl
theorem dX3_all_0 : decode cX3_all 0 = .ok (.iconst 0, 1) := dk_3 (dk_at dksX3_all_0 0 rfl rfl)
theorem dX3_all_1 : decode cX3_all 1 = .ok (.istore_n 1, 1) := dk_60 (dk_at dksX3_all_0 1 rfl rfl)
theorem dX3_all_2 : decode cX3_all 2 = .ok (.aload_n 0, 1) := dk_42 (dk_at dksX3_all_0 2 rfl rfl)
theorem dX3_all_3 : decode cX3_all 3 = .ok (.aload_n 0, 1) := dk_42 (dk_at dksX3_all_0 3 rfl rfl)
theorem dX3_all_4 : decode cX3_all 4 = .ok (.getfield 19, 3) := dk_180 0 19 (dk_at dksX3_all_0 4 rfl rfl)
theorem dX3_all_7 : decode cX3_all 7 = .ok (.putfield 40, 3) := dk_181 0 40 (dk_at dksX3_all_0 7 rfl rfl)
theorem dX3_all_10 : decode cX3_all 10 = .ok (.aload_n 0, 1) := dk_42 (dk_at dksX3_all_0 10 rfl rfl)
theorem dX3_all_11 : decode cX3_all 11 = .ok (.invokevirtual 29, 3) := dk_182 0 29 (dk_at dksX3_all_0 11 rfl rfl)
theorem dX3_all_14 : decode cX3_all 14 = .ok (.istore_n 2, 1) := dk_61 (dk_at dksX3_all_0 14 rfl rfl)
theorem dX3_all_15 : decode cX3_all 15 = .ok (.aload_n 0, 1) := dk_42 (dk_at dksX3_all_0 15 rfl rfl)
theorem dX3_all_16 : decode cX3_all 16 = .ok (.dup, 1) := dk_89 (dk_at dksX3_all_0 16 rfl rfl)
theorem dX3_all_17 : decode cX3_all 17 = .ok (.getfield 19, 3) := dk_180 0 19 (dk_at dksX3_all_0 17 rfl rfl)
theorem dX3_all_20 : decode cX3_all 20 = .ok (.iconst 1, 1) := dk_4 (dk_at dksX3_all_0 20 rfl rfl)
theorem dX3_all_21 : decode cX3_all 21 = .ok (.iadd, 1) := dk_96 (dk_at dksX3_all_0 21 rfl rfl)
theorem dX3_all_22 : decode cX3_all 22 = .ok (.putfield 19, 3) := dk_181 0 19 (dk_at dksX3_all_1 0 rfl rfl)
theorem dX3_all_25 : decode cX3_all 25 = .ok (.iload_n 2, 1) := dk_28 (dk_at dksX3_all_1 3 rfl rfl)
theorem dX3_all_26 : decode cX3_all 26 = .ok (.tableswitch 105 100 113 #[98, 105, 105, 105, 77, 105, 105, 105, 105, 91, 105, 105, 70, 84], 70) := by decide +kernel
theorem dX3_all_96 : decode cX3_all 96 = .ok (.aload_n 0, 1) := dk_42 (dk_at dksX3_all_3 0 rfl rfl)
theorem dX3_all_97 : decode cX3_all 97 = .ok (.invokevirtual 92, 3) := dk_182 0 92 (dk_at dksX3_all_3 1 rfl rfl)
theorem dX3_all_100 : decode cX3_all 100 = .ok (.goto 43, 3) := dk_167 0 43 (dk_at dksX3_all_3 4 rfl rfl)
theorem dX3_all_103 : decode cX3_all 103 = .ok (.aload_n 0, 1) := dk_42 (dk_at dksX3_all_3 7 rfl rfl)
theorem dX3_all_104 : decode cX3_all 104 = .ok (.invokevirtual 95, 3) := dk_182 0 95 (dk_at dksX3_all_3 8 rfl rfl)
theorem dX3_all_107 : decode cX3_all 107 = .ok (.goto 36, 3) := dk_167 0 36 (dk_at dksX3_all_3 11 rfl rfl)
theorem dX3_all_110 : decode cX3_all 110 = .ok (.aload_n 0, 1) := dk_42 (dk_at dksX3_all_3 14 rfl rfl)
theorem dX3_all_111 : decode cX3_all 111 = .ok (.invokevirtual 97, 3) := dk_182 0 97 (dk_at dksX3_all_3 15 rfl rfl)
theorem dX3_all_114 : decode cX3_all 114 = .ok (.goto 29, 3) := dk_167 0 29 (dk_at dksX3_all_3 18 rfl rfl)
theorem dX3_all_117 : decode cX3_all 117 = .ok (.aload_n 0, 1) := dk_42 (dk_at dksX3_all_3 21 rfl rfl)
theorem dX3_all_118 : decode cX3_all 118 = .ok (.invokevirtual 100, 3) := dk_182 0 100 (dk_at dksX3_all_4 0 rfl rfl)
theorem dX3_all_121 : decode cX3_all 121 = .ok (.goto 22, 3) := dk_167 0 22 (dk_at dksX3_all_4 3 rfl rfl)
theorem dX3_all_124 : decode cX3_all 124 = .ok (.aload_n 0, 1) := dk_42 (dk_at dksX3_all_4 6 rfl rfl)
theorem dX3_all_125 : decode cX3_all 125 = .ok (.invokevirtual 103, 3) := dk_182 0 103 (dk_at dksX3_all_4 7 rfl rfl)
theorem dX3_all_128 : decode cX3_all 128 = .ok (.goto 15, 3) := dk_167 0 15 (dk_at dksX3_all_4 10 rfl rfl)
theorem dX3_all_131 : decode cX3_all 131 = .ok (.new 106, 3) := dk_187 0 106 (dk_at dksX3_all_4 13 rfl rfl)
theorem dX3_all_134 : decode cX3_all 134 = .ok (.dup, 1) := dk_89 (dk_at dksX3_all_4 16 rfl rfl)
theorem dX3_all_135 : decode cX3_all 135 = .ok (.aload_n 0, 1) := dk_42 (dk_at dksX3_all_4 17 rfl rfl)
theorem dX3_all_136 : decode cX3_all 136 = .ok (.getfield 40, 3) := dk_180 0 40 (dk_at dksX3_all_4 18 rfl rfl)
theorem dX3_all_139 : decode cX3_all 139 = .ok (.invokespecial 108, 3) := dk_183 0 108 (dk_at dksX3_all_4 21 rfl rfl)
theorem dX3_all_142 : decode cX3_all 142 = .ok (.athrow, 1) := dk_191 (dk_at dksX3_all_5 0 rfl rfl)
theorem dX3_all_143 : decode cX3_all 143 = .ok (.iinc 1 1, 3) := dk_132 1 1 (dk_at dksX3_all_5 1 rfl rfl)
theorem dX3_all_146 : decode cX3_all 146 = .ok (.aload_n 0, 1) := dk_42 (dk_at dksX3_all_5 4 rfl rfl)
theorem dX3_all_147 : decode cX3_all 147 = .ok (.getfield 19, 3) := dk_180 0 19 (dk_at dksX3_all_5 5 rfl rfl)
theorem dX3_all_150 : decode cX3_all 150 = .ok (.aload_n 0, 1) := dk_42 (dk_at dksX3_all_5 8 rfl rfl)
theorem dX3_all_151 : decode cX3_all 151 = .ok (.getfield 3, 3) := dk_180 0 3 (dk_at dksX3_all_5 9 rfl rfl)
theorem dX3_all_154 : decode cX3_all 154 = .ok (.getfield 22, 3) := dk_180 0 22 (dk_at dksX3_all_5 12 rfl rfl)
theorem dX3_all_157 : decode cX3_all 157 = .ok (.if_icmp .lt (-155), 3) := dk_161 255 101 (dk_at dksX3_all_5 15 rfl rfl)
theorem dX3_all_160 : decode cX3_all 160 = .ok (.iload_n 1, 1) := dk_27 (dk_at dksX3_all_5 18 rfl rfl)
theorem dX3_all_161 : decode cX3_all 161 = .ok (.ireturn, 1) := dk_172 (dk_at dksX3_all_5 19 rfl rfl)
abbrev cX3_here : ByteArray := prog_8_method_2_code
def yX3_here : MethodName := ⟨RX3, "here", "()I"⟩
def dkwX3_here_1 : List UInt8 := [180, 0, 19, 46, 167, 0, 4, 2, 172]
abbrev dktX3_here_1 : List UInt8 := dkwX3_here_1 ++ []
def dkwX3_here_0 : List UInt8 := [42, 180, 0, 19, 42, 180, 0, 3, 180, 0, 22, 162, 0, 18, 42, 180, 0, 3, 180, 0, 25, 42]
abbrev dktX3_here_0 : List UInt8 := dkwX3_here_0 ++ dktX3_here_1
theorem dksX3_here_0 : cX3_here.data.toList.drop 0 = dktX3_here_0 := by decide +kernel
theorem dksX3_here_1 : cX3_here.data.toList.drop 22 = dktX3_here_1 := dk_seg dksX3_here_0 22 rfl rfl
theorem dX3_here_0 : decode cX3_here 0 = .ok (.aload_n 0, 1) := dk_42 (dk_at dksX3_here_0 0 rfl rfl)
theorem dX3_here_1 : decode cX3_here 1 = .ok (.getfield 19, 3) := dk_180 0 19 (dk_at dksX3_here_0 1 rfl rfl)
theorem dX3_here_4 : decode cX3_here 4 = .ok (.aload_n 0, 1) := dk_42 (dk_at dksX3_here_0 4 rfl rfl)
theorem dX3_here_5 : decode cX3_here 5 = .ok (.getfield 3, 3) := dk_180 0 3 (dk_at dksX3_here_0 5 rfl rfl)
theorem dX3_here_8 : decode cX3_here 8 = .ok (.getfield 22, 3) := dk_180 0 22 (dk_at dksX3_here_0 8 rfl rfl)
theorem dX3_here_11 : decode cX3_here 11 = .ok (.if_icmp .ge 18, 3) := dk_162 0 18 (dk_at dksX3_here_0 11 rfl rfl)
theorem dX3_here_14 : decode cX3_here 14 = .ok (.aload_n 0, 1) := dk_42 (dk_at dksX3_here_0 14 rfl rfl)
theorem dX3_here_15 : decode cX3_here 15 = .ok (.getfield 3, 3) := dk_180 0 3 (dk_at dksX3_here_0 15 rfl rfl)
theorem dX3_here_18 : decode cX3_here 18 = .ok (.getfield 25, 3) := dk_180 0 25 (dk_at dksX3_here_0 18 rfl rfl)
theorem dX3_here_21 : decode cX3_here 21 = .ok (.aload_n 0, 1) := dk_42 (dk_at dksX3_here_0 21 rfl rfl)
theorem dX3_here_22 : decode cX3_here 22 = .ok (.getfield 19, 3) := dk_180 0 19 (dk_at dksX3_here_1 0 rfl rfl)
theorem dX3_here_25 : decode cX3_here 25 = .ok (.iaload, 1) := dk_46 (dk_at dksX3_here_1 3 rfl rfl)
theorem dX3_here_26 : decode cX3_here 26 = .ok (.goto 4, 3) := dk_167 0 4 (dk_at dksX3_here_1 4 rfl rfl)
theorem dX3_here_29 : decode cX3_here 29 = .ok (.iconst (-1), 1) := dk_2 (dk_at dksX3_here_1 7 rfl rfl)
theorem dX3_here_30 : decode cX3_here 30 = .ok (.ireturn, 1) := dk_172 (dk_at dksX3_here_1 8 rfl rfl)
abbrev cX3_person : ByteArray := prog_8_method_8_code
def yX3_person : MethodName := ⟨RX3, "person", "()V"⟩
def dkwX3_person_3 : List UInt8 := [182, 0, 66, 177]
abbrev dktX3_person_3 : List UInt8 := dkwX3_person_3 ++ []
def dkwX3_person_2 : List UInt8 := [4, 167, 0, 4, 3, 182, 0, 58, 153, 0, 19, 42, 180, 0, 3, 180, 0, 43, 27, 28, 184, 0, 62, 29]
abbrev dktX3_person_2 : List UInt8 := dkwX3_person_2 ++ dktX3_person_3
def dkwX3_person_1 : List UInt8 := [162, 0, 28, 29, 16, 31, 163, 0, 22, 42, 180, 0, 3, 180, 0, 43, 182, 0, 47, 16, 6, 162, 0, 7]
abbrev dktX3_person_1 : List UInt8 := dkwX3_person_1 ++ dktX3_person_2
def dkwX3_person_0 : List UInt8 := [42, 182, 0, 37, 60, 42, 182, 0, 37, 61, 42, 182, 0, 52, 62, 42, 182, 0, 55, 42, 27, 16, 6]
abbrev dktX3_person_0 : List UInt8 := dkwX3_person_0 ++ dktX3_person_1
theorem dksX3_person_0 : cX3_person.data.toList.drop 0 = dktX3_person_0 := by decide +kernel
theorem dksX3_person_1 : cX3_person.data.toList.drop 23 = dktX3_person_1 := dk_seg dksX3_person_0 23 rfl rfl
theorem dksX3_person_2 : cX3_person.data.toList.drop 47 = dktX3_person_2 := dk_seg dksX3_person_1 24 rfl rfl
theorem dksX3_person_3 : cX3_person.data.toList.drop 71 = dktX3_person_3 := dk_seg dksX3_person_2 24 rfl rfl
theorem dX3_person_0 : decode cX3_person 0 = .ok (.aload_n 0, 1) := dk_42 (dk_at dksX3_person_0 0 rfl rfl)
theorem dX3_person_1 : decode cX3_person 1 = .ok (.invokevirtual 37, 3) := dk_182 0 37 (dk_at dksX3_person_0 1 rfl rfl)
theorem dX3_person_4 : decode cX3_person 4 = .ok (.istore_n 1, 1) := dk_60 (dk_at dksX3_person_0 4 rfl rfl)
theorem dX3_person_5 : decode cX3_person 5 = .ok (.aload_n 0, 1) := dk_42 (dk_at dksX3_person_0 5 rfl rfl)
theorem dX3_person_6 : decode cX3_person 6 = .ok (.invokevirtual 37, 3) := dk_182 0 37 (dk_at dksX3_person_0 6 rfl rfl)
theorem dX3_person_9 : decode cX3_person 9 = .ok (.istore_n 2, 1) := dk_61 (dk_at dksX3_person_0 9 rfl rfl)
theorem dX3_person_10 : decode cX3_person 10 = .ok (.aload_n 0, 1) := dk_42 (dk_at dksX3_person_0 10 rfl rfl)
theorem dX3_person_11 : decode cX3_person 11 = .ok (.invokevirtual 52, 3) := dk_182 0 52 (dk_at dksX3_person_0 11 rfl rfl)
theorem dX3_person_14 : decode cX3_person 14 = .ok (.istore_n 3, 1) := dk_62 (dk_at dksX3_person_0 14 rfl rfl)
theorem dX3_person_15 : decode cX3_person 15 = .ok (.aload_n 0, 1) := dk_42 (dk_at dksX3_person_0 15 rfl rfl)
theorem dX3_person_16 : decode cX3_person 16 = .ok (.invokevirtual 55, 3) := dk_182 0 55 (dk_at dksX3_person_0 16 rfl rfl)
theorem dX3_person_19 : decode cX3_person 19 = .ok (.aload_n 0, 1) := dk_42 (dk_at dksX3_person_0 19 rfl rfl)
theorem dX3_person_20 : decode cX3_person 20 = .ok (.iload_n 1, 1) := dk_27 (dk_at dksX3_person_0 20 rfl rfl)
theorem dX3_person_21 : decode cX3_person 21 = .ok (.bipush 6, 2) := dk_16 6 (dk_at dksX3_person_0 21 rfl rfl)
theorem dX3_person_23 : decode cX3_person 23 = .ok (.if_icmp .ge 28, 3) := dk_162 0 28 (dk_at dksX3_person_1 0 rfl rfl)
theorem dX3_person_26 : decode cX3_person 26 = .ok (.iload_n 3, 1) := dk_29 (dk_at dksX3_person_1 3 rfl rfl)
theorem dX3_person_27 : decode cX3_person 27 = .ok (.bipush 31, 2) := dk_16 31 (dk_at dksX3_person_1 4 rfl rfl)
theorem dX3_person_29 : decode cX3_person 29 = .ok (.if_icmp .gt 22, 3) := dk_163 0 22 (dk_at dksX3_person_1 6 rfl rfl)
theorem dX3_person_32 : decode cX3_person 32 = .ok (.aload_n 0, 1) := dk_42 (dk_at dksX3_person_1 9 rfl rfl)
theorem dX3_person_33 : decode cX3_person 33 = .ok (.getfield 3, 3) := dk_180 0 3 (dk_at dksX3_person_1 10 rfl rfl)
theorem dX3_person_36 : decode cX3_person 36 = .ok (.getfield 43, 3) := dk_180 0 43 (dk_at dksX3_person_1 13 rfl rfl)
theorem dX3_person_39 : decode cX3_person 39 = .ok (.invokevirtual 47, 3) := dk_182 0 47 (dk_at dksX3_person_1 16 rfl rfl)
theorem dX3_person_42 : decode cX3_person 42 = .ok (.bipush 6, 2) := dk_16 6 (dk_at dksX3_person_1 19 rfl rfl)
theorem dX3_person_44 : decode cX3_person 44 = .ok (.if_icmp .ge 7, 3) := dk_162 0 7 (dk_at dksX3_person_1 21 rfl rfl)
theorem dX3_person_47 : decode cX3_person 47 = .ok (.iconst 1, 1) := dk_4 (dk_at dksX3_person_2 0 rfl rfl)
theorem dX3_person_48 : decode cX3_person 48 = .ok (.goto 4, 3) := dk_167 0 4 (dk_at dksX3_person_2 1 rfl rfl)
theorem dX3_person_51 : decode cX3_person 51 = .ok (.iconst 0, 1) := dk_3 (dk_at dksX3_person_2 4 rfl rfl)
theorem dX3_person_52 : decode cX3_person 52 = .ok (.invokevirtual 58, 3) := dk_182 0 58 (dk_at dksX3_person_2 5 rfl rfl)
theorem dX3_person_55 : decode cX3_person 55 = .ok (.ifCond .eq 19, 3) := dk_153 0 19 (dk_at dksX3_person_2 8 rfl rfl)
theorem dX3_person_58 : decode cX3_person 58 = .ok (.aload_n 0, 1) := dk_42 (dk_at dksX3_person_2 11 rfl rfl)
theorem dX3_person_59 : decode cX3_person 59 = .ok (.getfield 3, 3) := dk_180 0 3 (dk_at dksX3_person_2 12 rfl rfl)
theorem dX3_person_62 : decode cX3_person 62 = .ok (.getfield 43, 3) := dk_180 0 43 (dk_at dksX3_person_2 15 rfl rfl)
theorem dX3_person_65 : decode cX3_person 65 = .ok (.iload_n 1, 1) := dk_27 (dk_at dksX3_person_2 18 rfl rfl)
theorem dX3_person_66 : decode cX3_person 66 = .ok (.iload_n 2, 1) := dk_28 (dk_at dksX3_person_2 19 rfl rfl)
theorem dX3_person_67 : decode cX3_person 67 = .ok (.invokestatic 62, 3) := dk_184 0 62 (dk_at dksX3_person_2 20 rfl rfl)
theorem dX3_person_70 : decode cX3_person 70 = .ok (.iload_n 3, 1) := dk_29 (dk_at dksX3_person_2 23 rfl rfl)
theorem dX3_person_71 : decode cX3_person 71 = .ok (.invokevirtual 66, 3) := dk_182 0 66 (dk_at dksX3_person_3 0 rfl rfl)
theorem dX3_person_74 : decode cX3_person 74 = .ok (.return_, 1) := dk_177 (dk_at dksX3_person_3 3 rfl rfl)
abbrev cX3_digit : ByteArray := prog_8_method_3_code
def yX3_digit : MethodName := ⟨RX3, "digit", "()I"⟩
def dkwX3_digit_2 : List UInt8 := [180, 0, 19, 4, 100, 46, 16, 48, 100, 172]
abbrev dktX3_digit_2 : List UInt8 := dkwX3_digit_2 ++ []
def dkwX3_digit_1 : List UInt8 := [180, 0, 19, 184, 0, 33, 42, 89, 180, 0, 19, 4, 96, 181, 0, 19, 42, 180, 0, 3, 180, 0, 25, 42]
abbrev dktX3_digit_1 : List UInt8 := dkwX3_digit_1 ++ dktX3_digit_2
def dkwX3_digit_0 : List UInt8 := [42, 182, 0, 29, 16, 48, 161, 0, 16, 42, 182, 0, 29, 16, 57, 163, 0, 7, 4, 167, 0, 4, 3, 42]
abbrev dktX3_digit_0 : List UInt8 := dkwX3_digit_0 ++ dktX3_digit_1
theorem dksX3_digit_0 : cX3_digit.data.toList.drop 0 = dktX3_digit_0 := by decide +kernel
theorem dksX3_digit_1 : cX3_digit.data.toList.drop 24 = dktX3_digit_1 := dk_seg dksX3_digit_0 24 rfl rfl
theorem dksX3_digit_2 : cX3_digit.data.toList.drop 48 = dktX3_digit_2 := dk_seg dksX3_digit_1 24 rfl rfl
theorem dX3_digit_0 : decode cX3_digit 0 = .ok (.aload_n 0, 1) := dk_42 (dk_at dksX3_digit_0 0 rfl rfl)
theorem dX3_digit_1 : decode cX3_digit 1 = .ok (.invokevirtual 29, 3) := dk_182 0 29 (dk_at dksX3_digit_0 1 rfl rfl)
theorem dX3_digit_4 : decode cX3_digit 4 = .ok (.bipush 48, 2) := dk_16 48 (dk_at dksX3_digit_0 4 rfl rfl)
theorem dX3_digit_6 : decode cX3_digit 6 = .ok (.if_icmp .lt 16, 3) := dk_161 0 16 (dk_at dksX3_digit_0 6 rfl rfl)
theorem dX3_digit_9 : decode cX3_digit 9 = .ok (.aload_n 0, 1) := dk_42 (dk_at dksX3_digit_0 9 rfl rfl)
theorem dX3_digit_10 : decode cX3_digit 10 = .ok (.invokevirtual 29, 3) := dk_182 0 29 (dk_at dksX3_digit_0 10 rfl rfl)
theorem dX3_digit_13 : decode cX3_digit 13 = .ok (.bipush 57, 2) := dk_16 57 (dk_at dksX3_digit_0 13 rfl rfl)
theorem dX3_digit_15 : decode cX3_digit 15 = .ok (.if_icmp .gt 7, 3) := dk_163 0 7 (dk_at dksX3_digit_0 15 rfl rfl)
theorem dX3_digit_18 : decode cX3_digit 18 = .ok (.iconst 1, 1) := dk_4 (dk_at dksX3_digit_0 18 rfl rfl)
theorem dX3_digit_19 : decode cX3_digit 19 = .ok (.goto 4, 3) := dk_167 0 4 (dk_at dksX3_digit_0 19 rfl rfl)
theorem dX3_digit_22 : decode cX3_digit 22 = .ok (.iconst 0, 1) := dk_3 (dk_at dksX3_digit_0 22 rfl rfl)
theorem dX3_digit_23 : decode cX3_digit 23 = .ok (.aload_n 0, 1) := dk_42 (dk_at dksX3_digit_0 23 rfl rfl)
theorem dX3_digit_24 : decode cX3_digit 24 = .ok (.getfield 19, 3) := dk_180 0 19 (dk_at dksX3_digit_1 0 rfl rfl)
theorem dX3_digit_27 : decode cX3_digit 27 = .ok (.invokestatic 33, 3) := dk_184 0 33 (dk_at dksX3_digit_1 3 rfl rfl)
theorem dX3_digit_30 : decode cX3_digit 30 = .ok (.aload_n 0, 1) := dk_42 (dk_at dksX3_digit_1 6 rfl rfl)
theorem dX3_digit_31 : decode cX3_digit 31 = .ok (.dup, 1) := dk_89 (dk_at dksX3_digit_1 7 rfl rfl)
theorem dX3_digit_32 : decode cX3_digit 32 = .ok (.getfield 19, 3) := dk_180 0 19 (dk_at dksX3_digit_1 8 rfl rfl)
theorem dX3_digit_35 : decode cX3_digit 35 = .ok (.iconst 1, 1) := dk_4 (dk_at dksX3_digit_1 11 rfl rfl)
theorem dX3_digit_36 : decode cX3_digit 36 = .ok (.iadd, 1) := dk_96 (dk_at dksX3_digit_1 12 rfl rfl)
theorem dX3_digit_37 : decode cX3_digit 37 = .ok (.putfield 19, 3) := dk_181 0 19 (dk_at dksX3_digit_1 13 rfl rfl)
theorem dX3_digit_40 : decode cX3_digit 40 = .ok (.aload_n 0, 1) := dk_42 (dk_at dksX3_digit_1 16 rfl rfl)
theorem dX3_digit_41 : decode cX3_digit 41 = .ok (.getfield 3, 3) := dk_180 0 3 (dk_at dksX3_digit_1 17 rfl rfl)
theorem dX3_digit_44 : decode cX3_digit 44 = .ok (.getfield 25, 3) := dk_180 0 25 (dk_at dksX3_digit_1 20 rfl rfl)
theorem dX3_digit_47 : decode cX3_digit 47 = .ok (.aload_n 0, 1) := dk_42 (dk_at dksX3_digit_1 23 rfl rfl)
theorem dX3_digit_48 : decode cX3_digit 48 = .ok (.getfield 19, 3) := dk_180 0 19 (dk_at dksX3_digit_2 0 rfl rfl)
theorem dX3_digit_51 : decode cX3_digit 51 = .ok (.iconst 1, 1) := dk_4 (dk_at dksX3_digit_2 3 rfl rfl)
theorem dX3_digit_52 : decode cX3_digit 52 = .ok (.isub, 1) := dk_100 (dk_at dksX3_digit_2 4 rfl rfl)
theorem dX3_digit_53 : decode cX3_digit 53 = .ok (.iaload, 1) := dk_46 (dk_at dksX3_digit_2 5 rfl rfl)
theorem dX3_digit_54 : decode cX3_digit 54 = .ok (.bipush 48, 2) := dk_16 48 (dk_at dksX3_digit_2 6 rfl rfl)
theorem dX3_digit_56 : decode cX3_digit 56 = .ok (.isub, 1) := dk_100 (dk_at dksX3_digit_2 8 rfl rfl)
theorem dX3_digit_57 : decode cX3_digit 57 = .ok (.ireturn, 1) := dk_172 (dk_at dksX3_digit_2 9 rfl rfl)
abbrev cX3_two : ByteArray := prog_8_method_4_code
def yX3_two : MethodName := ⟨RX3, "two", "()I"⟩
def dkwX3_two_0 : List UInt8 := [16, 10, 42, 182, 0, 37, 104, 60, 27, 42, 182, 0, 37, 96, 172]
abbrev dktX3_two_0 : List UInt8 := dkwX3_two_0 ++ []
theorem dksX3_two_0 : cX3_two.data.toList.drop 0 = dktX3_two_0 := by decide +kernel
theorem dX3_two_0 : decode cX3_two 0 = .ok (.bipush 10, 2) := dk_16 10 (dk_at dksX3_two_0 0 rfl rfl)
theorem dX3_two_2 : decode cX3_two 2 = .ok (.aload_n 0, 1) := dk_42 (dk_at dksX3_two_0 2 rfl rfl)
theorem dX3_two_3 : decode cX3_two 3 = .ok (.invokevirtual 37, 3) := dk_182 0 37 (dk_at dksX3_two_0 3 rfl rfl)
theorem dX3_two_6 : decode cX3_two 6 = .ok (.imul, 1) := dk_104 (dk_at dksX3_two_0 6 rfl rfl)
theorem dX3_two_7 : decode cX3_two 7 = .ok (.istore_n 1, 1) := dk_60 (dk_at dksX3_two_0 7 rfl rfl)
theorem dX3_two_8 : decode cX3_two 8 = .ok (.iload_n 1, 1) := dk_27 (dk_at dksX3_two_0 8 rfl rfl)
theorem dX3_two_9 : decode cX3_two 9 = .ok (.aload_n 0, 1) := dk_42 (dk_at dksX3_two_0 9 rfl rfl)
theorem dX3_two_10 : decode cX3_two 10 = .ok (.invokevirtual 37, 3) := dk_182 0 37 (dk_at dksX3_two_0 10 rfl rfl)
theorem dX3_two_13 : decode cX3_two 13 = .ok (.iadd, 1) := dk_96 (dk_at dksX3_two_0 13 rfl rfl)
theorem dX3_two_14 : decode cX3_two 14 = .ok (.ireturn, 1) := dk_172 (dk_at dksX3_two_0 14 rfl rfl)
abbrev cX3_ends : ByteArray := prog_8_method_5_code
def yX3_ends : MethodName := ⟨RX3, "ends", "()V"⟩
def dkwX3_ends_1 : List UInt8 := [180, 0, 19, 4, 96, 181, 0, 19, 177]
abbrev dktX3_ends_1 : List UInt8 := dkwX3_ends_1 ++ []
def dkwX3_ends_0 : List UInt8 := [42, 182, 0, 29, 16, 59, 160, 0, 7, 4, 167, 0, 4, 3, 42, 180, 0, 19, 184, 0, 33, 42, 89]
abbrev dktX3_ends_0 : List UInt8 := dkwX3_ends_0 ++ dktX3_ends_1
theorem dksX3_ends_0 : cX3_ends.data.toList.drop 0 = dktX3_ends_0 := by decide +kernel
theorem dksX3_ends_1 : cX3_ends.data.toList.drop 23 = dktX3_ends_1 := dk_seg dksX3_ends_0 23 rfl rfl
theorem dX3_ends_0 : decode cX3_ends 0 = .ok (.aload_n 0, 1) := dk_42 (dk_at dksX3_ends_0 0 rfl rfl)
theorem dX3_ends_1 : decode cX3_ends 1 = .ok (.invokevirtual 29, 3) := dk_182 0 29 (dk_at dksX3_ends_0 1 rfl rfl)
theorem dX3_ends_4 : decode cX3_ends 4 = .ok (.bipush 59, 2) := dk_16 59 (dk_at dksX3_ends_0 4 rfl rfl)
theorem dX3_ends_6 : decode cX3_ends 6 = .ok (.if_icmp .ne 7, 3) := dk_160 0 7 (dk_at dksX3_ends_0 6 rfl rfl)
theorem dX3_ends_9 : decode cX3_ends 9 = .ok (.iconst 1, 1) := dk_4 (dk_at dksX3_ends_0 9 rfl rfl)
theorem dX3_ends_10 : decode cX3_ends 10 = .ok (.goto 4, 3) := dk_167 0 4 (dk_at dksX3_ends_0 10 rfl rfl)
theorem dX3_ends_13 : decode cX3_ends 13 = .ok (.iconst 0, 1) := dk_3 (dk_at dksX3_ends_0 13 rfl rfl)
theorem dX3_ends_14 : decode cX3_ends 14 = .ok (.aload_n 0, 1) := dk_42 (dk_at dksX3_ends_0 14 rfl rfl)
theorem dX3_ends_15 : decode cX3_ends 15 = .ok (.getfield 19, 3) := dk_180 0 19 (dk_at dksX3_ends_0 15 rfl rfl)
theorem dX3_ends_18 : decode cX3_ends 18 = .ok (.invokestatic 33, 3) := dk_184 0 33 (dk_at dksX3_ends_0 18 rfl rfl)
theorem dX3_ends_21 : decode cX3_ends 21 = .ok (.aload_n 0, 1) := dk_42 (dk_at dksX3_ends_0 21 rfl rfl)
theorem dX3_ends_22 : decode cX3_ends 22 = .ok (.dup, 1) := dk_89 (dk_at dksX3_ends_0 22 rfl rfl)
theorem dX3_ends_23 : decode cX3_ends 23 = .ok (.getfield 19, 3) := dk_180 0 19 (dk_at dksX3_ends_1 0 rfl rfl)
theorem dX3_ends_26 : decode cX3_ends 26 = .ok (.iconst 1, 1) := dk_4 (dk_at dksX3_ends_1 3 rfl rfl)
theorem dX3_ends_27 : decode cX3_ends 27 = .ok (.iadd, 1) := dk_96 (dk_at dksX3_ends_1 4 rfl rfl)
theorem dX3_ends_28 : decode cX3_ends 28 = .ok (.putfield 19, 3) := dk_181 0 19 (dk_at dksX3_ends_1 5 rfl rfl)
theorem dX3_ends_31 : decode cX3_ends 31 = .ok (.return_, 1) := dk_177 (dk_at dksX3_ends_1 8 rfl rfl)
abbrev cX3_well : ByteArray := prog_8_method_6_code
def yX3_well : MethodName := ⟨RX3, "well", "(Z)Z"⟩
def dkwX3_well_0 : List UInt8 := [27, 154, 0, 18, 42, 180, 0, 15, 156, 0, 11, 42, 42, 180, 0, 40, 181, 0, 15, 27, 172]
abbrev dktX3_well_0 : List UInt8 := dkwX3_well_0 ++ []
theorem dksX3_well_0 : cX3_well.data.toList.drop 0 = dktX3_well_0 := by decide +kernel
theorem dX3_well_0 : decode cX3_well 0 = .ok (.iload_n 1, 1) := dk_27 (dk_at dksX3_well_0 0 rfl rfl)
theorem dX3_well_1 : decode cX3_well 1 = .ok (.ifCond .ne 18, 3) := dk_154 0 18 (dk_at dksX3_well_0 1 rfl rfl)
theorem dX3_well_4 : decode cX3_well 4 = .ok (.aload_n 0, 1) := dk_42 (dk_at dksX3_well_0 4 rfl rfl)
theorem dX3_well_5 : decode cX3_well 5 = .ok (.getfield 15, 3) := dk_180 0 15 (dk_at dksX3_well_0 5 rfl rfl)
theorem dX3_well_8 : decode cX3_well 8 = .ok (.ifCond .ge 11, 3) := dk_156 0 11 (dk_at dksX3_well_0 8 rfl rfl)
theorem dX3_well_11 : decode cX3_well 11 = .ok (.aload_n 0, 1) := dk_42 (dk_at dksX3_well_0 11 rfl rfl)
theorem dX3_well_12 : decode cX3_well 12 = .ok (.aload_n 0, 1) := dk_42 (dk_at dksX3_well_0 12 rfl rfl)
theorem dX3_well_13 : decode cX3_well 13 = .ok (.getfield 40, 3) := dk_180 0 40 (dk_at dksX3_well_0 13 rfl rfl)
theorem dX3_well_16 : decode cX3_well 16 = .ok (.putfield 15, 3) := dk_181 0 15 (dk_at dksX3_well_0 16 rfl rfl)
theorem dX3_well_19 : decode cX3_well 19 = .ok (.iload_n 1, 1) := dk_27 (dk_at dksX3_well_0 19 rfl rfl)
theorem dX3_well_20 : decode cX3_well 20 = .ok (.ireturn, 1) := dk_172 (dk_at dksX3_well_0 20 rfl rfl)
abbrev cX3_hours : ByteArray := prog_8_method_9_code
def yX3_hours : MethodName := ⟨RX3, "hours", "()V"⟩
def dkwX3_hours_2 : List UInt8 := [180, 0, 3, 180, 0, 43, 180, 0, 70, 27, 28, 79, 177]
abbrev dktX3_hours_2 : List UInt8 := dkwX3_hours_2 ++ []
def dkwX3_hours_1 : List UInt8 := [182, 0, 47, 162, 0, 13, 28, 16, 31, 163, 0, 7, 4, 167, 0, 4, 3, 182, 0, 58, 153, 0, 16, 42]
abbrev dktX3_hours_1 : List UInt8 := dkwX3_hours_1 ++ dktX3_hours_2
def dkwX3_hours_0 : List UInt8 := [42, 182, 0, 37, 60, 42, 182, 0, 52, 61, 42, 182, 0, 55, 42, 27, 42, 180, 0, 3, 180, 0, 43]
abbrev dktX3_hours_0 : List UInt8 := dkwX3_hours_0 ++ dktX3_hours_1
theorem dksX3_hours_0 : cX3_hours.data.toList.drop 0 = dktX3_hours_0 := by decide +kernel
theorem dksX3_hours_1 : cX3_hours.data.toList.drop 23 = dktX3_hours_1 := dk_seg dksX3_hours_0 23 rfl rfl
theorem dksX3_hours_2 : cX3_hours.data.toList.drop 47 = dktX3_hours_2 := dk_seg dksX3_hours_1 24 rfl rfl
theorem dX3_hours_0 : decode cX3_hours 0 = .ok (.aload_n 0, 1) := dk_42 (dk_at dksX3_hours_0 0 rfl rfl)
theorem dX3_hours_1 : decode cX3_hours 1 = .ok (.invokevirtual 37, 3) := dk_182 0 37 (dk_at dksX3_hours_0 1 rfl rfl)
theorem dX3_hours_4 : decode cX3_hours 4 = .ok (.istore_n 1, 1) := dk_60 (dk_at dksX3_hours_0 4 rfl rfl)
theorem dX3_hours_5 : decode cX3_hours 5 = .ok (.aload_n 0, 1) := dk_42 (dk_at dksX3_hours_0 5 rfl rfl)
theorem dX3_hours_6 : decode cX3_hours 6 = .ok (.invokevirtual 52, 3) := dk_182 0 52 (dk_at dksX3_hours_0 6 rfl rfl)
theorem dX3_hours_9 : decode cX3_hours 9 = .ok (.istore_n 2, 1) := dk_61 (dk_at dksX3_hours_0 9 rfl rfl)
theorem dX3_hours_10 : decode cX3_hours 10 = .ok (.aload_n 0, 1) := dk_42 (dk_at dksX3_hours_0 10 rfl rfl)
theorem dX3_hours_11 : decode cX3_hours 11 = .ok (.invokevirtual 55, 3) := dk_182 0 55 (dk_at dksX3_hours_0 11 rfl rfl)
theorem dX3_hours_14 : decode cX3_hours 14 = .ok (.aload_n 0, 1) := dk_42 (dk_at dksX3_hours_0 14 rfl rfl)
theorem dX3_hours_15 : decode cX3_hours 15 = .ok (.iload_n 1, 1) := dk_27 (dk_at dksX3_hours_0 15 rfl rfl)
theorem dX3_hours_16 : decode cX3_hours 16 = .ok (.aload_n 0, 1) := dk_42 (dk_at dksX3_hours_0 16 rfl rfl)
theorem dX3_hours_17 : decode cX3_hours 17 = .ok (.getfield 3, 3) := dk_180 0 3 (dk_at dksX3_hours_0 17 rfl rfl)
theorem dX3_hours_20 : decode cX3_hours 20 = .ok (.getfield 43, 3) := dk_180 0 43 (dk_at dksX3_hours_0 20 rfl rfl)
theorem dX3_hours_23 : decode cX3_hours 23 = .ok (.invokevirtual 47, 3) := dk_182 0 47 (dk_at dksX3_hours_1 0 rfl rfl)
theorem dX3_hours_26 : decode cX3_hours 26 = .ok (.if_icmp .ge 13, 3) := dk_162 0 13 (dk_at dksX3_hours_1 3 rfl rfl)
theorem dX3_hours_29 : decode cX3_hours 29 = .ok (.iload_n 2, 1) := dk_28 (dk_at dksX3_hours_1 6 rfl rfl)
theorem dX3_hours_30 : decode cX3_hours 30 = .ok (.bipush 31, 2) := dk_16 31 (dk_at dksX3_hours_1 7 rfl rfl)
theorem dX3_hours_32 : decode cX3_hours 32 = .ok (.if_icmp .gt 7, 3) := dk_163 0 7 (dk_at dksX3_hours_1 9 rfl rfl)
theorem dX3_hours_35 : decode cX3_hours 35 = .ok (.iconst 1, 1) := dk_4 (dk_at dksX3_hours_1 12 rfl rfl)
theorem dX3_hours_36 : decode cX3_hours 36 = .ok (.goto 4, 3) := dk_167 0 4 (dk_at dksX3_hours_1 13 rfl rfl)
theorem dX3_hours_39 : decode cX3_hours 39 = .ok (.iconst 0, 1) := dk_3 (dk_at dksX3_hours_1 16 rfl rfl)
theorem dX3_hours_40 : decode cX3_hours 40 = .ok (.invokevirtual 58, 3) := dk_182 0 58 (dk_at dksX3_hours_1 17 rfl rfl)
theorem dX3_hours_43 : decode cX3_hours 43 = .ok (.ifCond .eq 16, 3) := dk_153 0 16 (dk_at dksX3_hours_1 20 rfl rfl)
theorem dX3_hours_46 : decode cX3_hours 46 = .ok (.aload_n 0, 1) := dk_42 (dk_at dksX3_hours_1 23 rfl rfl)
theorem dX3_hours_47 : decode cX3_hours 47 = .ok (.getfield 3, 3) := dk_180 0 3 (dk_at dksX3_hours_2 0 rfl rfl)
theorem dX3_hours_50 : decode cX3_hours 50 = .ok (.getfield 43, 3) := dk_180 0 43 (dk_at dksX3_hours_2 3 rfl rfl)
theorem dX3_hours_53 : decode cX3_hours 53 = .ok (.getfield 70, 3) := dk_180 0 70 (dk_at dksX3_hours_2 6 rfl rfl)
theorem dX3_hours_56 : decode cX3_hours 56 = .ok (.iload_n 1, 1) := dk_27 (dk_at dksX3_hours_2 9 rfl rfl)
theorem dX3_hours_57 : decode cX3_hours 57 = .ok (.iload_n 2, 1) := dk_28 (dk_at dksX3_hours_2 10 rfl rfl)
theorem dX3_hours_58 : decode cX3_hours 58 = .ok (.iastore, 1) := dk_79 (dk_at dksX3_hours_2 11 rfl rfl)
theorem dX3_hours_59 : decode cX3_hours 59 = .ok (.return_, 1) := dk_177 (dk_at dksX3_hours_2 12 rfl rfl)
abbrev cX3_quarrel : ByteArray := prog_8_method_10_code
def yX3_quarrel : MethodName := ⟨RX3, "quarrel", "()V"⟩
def dkwX3_quarrel_1 : List UInt8 := [182, 0, 73, 182, 0, 58, 153, 0, 16, 42, 180, 0, 3, 180, 0, 43, 27, 28, 29, 182, 0, 77, 177]
abbrev dktX3_quarrel_1 : List UInt8 := dkwX3_quarrel_1 ++ []
def dkwX3_quarrel_0 : List UInt8 := [42, 182, 0, 37, 60, 42, 182, 0, 37, 61, 42, 182, 0, 52, 62, 42, 182, 0, 55, 42, 42, 27, 28]
abbrev dktX3_quarrel_0 : List UInt8 := dkwX3_quarrel_0 ++ dktX3_quarrel_1
theorem dksX3_quarrel_0 : cX3_quarrel.data.toList.drop 0 = dktX3_quarrel_0 := by decide +kernel
theorem dksX3_quarrel_1 : cX3_quarrel.data.toList.drop 23 = dktX3_quarrel_1 := dk_seg dksX3_quarrel_0 23 rfl rfl
theorem dX3_quarrel_0 : decode cX3_quarrel 0 = .ok (.aload_n 0, 1) := dk_42 (dk_at dksX3_quarrel_0 0 rfl rfl)
theorem dX3_quarrel_1 : decode cX3_quarrel 1 = .ok (.invokevirtual 37, 3) := dk_182 0 37 (dk_at dksX3_quarrel_0 1 rfl rfl)
theorem dX3_quarrel_4 : decode cX3_quarrel 4 = .ok (.istore_n 1, 1) := dk_60 (dk_at dksX3_quarrel_0 4 rfl rfl)
theorem dX3_quarrel_5 : decode cX3_quarrel 5 = .ok (.aload_n 0, 1) := dk_42 (dk_at dksX3_quarrel_0 5 rfl rfl)
theorem dX3_quarrel_6 : decode cX3_quarrel 6 = .ok (.invokevirtual 37, 3) := dk_182 0 37 (dk_at dksX3_quarrel_0 6 rfl rfl)
theorem dX3_quarrel_9 : decode cX3_quarrel 9 = .ok (.istore_n 2, 1) := dk_61 (dk_at dksX3_quarrel_0 9 rfl rfl)
theorem dX3_quarrel_10 : decode cX3_quarrel 10 = .ok (.aload_n 0, 1) := dk_42 (dk_at dksX3_quarrel_0 10 rfl rfl)
theorem dX3_quarrel_11 : decode cX3_quarrel 11 = .ok (.invokevirtual 52, 3) := dk_182 0 52 (dk_at dksX3_quarrel_0 11 rfl rfl)
theorem dX3_quarrel_14 : decode cX3_quarrel 14 = .ok (.istore_n 3, 1) := dk_62 (dk_at dksX3_quarrel_0 14 rfl rfl)
theorem dX3_quarrel_15 : decode cX3_quarrel 15 = .ok (.aload_n 0, 1) := dk_42 (dk_at dksX3_quarrel_0 15 rfl rfl)
theorem dX3_quarrel_16 : decode cX3_quarrel 16 = .ok (.invokevirtual 55, 3) := dk_182 0 55 (dk_at dksX3_quarrel_0 16 rfl rfl)
theorem dX3_quarrel_19 : decode cX3_quarrel 19 = .ok (.aload_n 0, 1) := dk_42 (dk_at dksX3_quarrel_0 19 rfl rfl)
theorem dX3_quarrel_20 : decode cX3_quarrel 20 = .ok (.aload_n 0, 1) := dk_42 (dk_at dksX3_quarrel_0 20 rfl rfl)
theorem dX3_quarrel_21 : decode cX3_quarrel 21 = .ok (.iload_n 1, 1) := dk_27 (dk_at dksX3_quarrel_0 21 rfl rfl)
theorem dX3_quarrel_22 : decode cX3_quarrel 22 = .ok (.iload_n 2, 1) := dk_28 (dk_at dksX3_quarrel_0 22 rfl rfl)
theorem dX3_quarrel_23 : decode cX3_quarrel 23 = .ok (.invokevirtual 73, 3) := dk_182 0 73 (dk_at dksX3_quarrel_1 0 rfl rfl)
theorem dX3_quarrel_26 : decode cX3_quarrel 26 = .ok (.invokevirtual 58, 3) := dk_182 0 58 (dk_at dksX3_quarrel_1 3 rfl rfl)
theorem dX3_quarrel_29 : decode cX3_quarrel 29 = .ok (.ifCond .eq 16, 3) := dk_153 0 16 (dk_at dksX3_quarrel_1 6 rfl rfl)
theorem dX3_quarrel_32 : decode cX3_quarrel 32 = .ok (.aload_n 0, 1) := dk_42 (dk_at dksX3_quarrel_1 9 rfl rfl)
theorem dX3_quarrel_33 : decode cX3_quarrel 33 = .ok (.getfield 3, 3) := dk_180 0 3 (dk_at dksX3_quarrel_1 10 rfl rfl)
theorem dX3_quarrel_36 : decode cX3_quarrel 36 = .ok (.getfield 43, 3) := dk_180 0 43 (dk_at dksX3_quarrel_1 13 rfl rfl)
theorem dX3_quarrel_39 : decode cX3_quarrel 39 = .ok (.iload_n 1, 1) := dk_27 (dk_at dksX3_quarrel_1 16 rfl rfl)
theorem dX3_quarrel_40 : decode cX3_quarrel 40 = .ok (.iload_n 2, 1) := dk_28 (dk_at dksX3_quarrel_1 17 rfl rfl)
theorem dX3_quarrel_41 : decode cX3_quarrel 41 = .ok (.iload_n 3, 1) := dk_29 (dk_at dksX3_quarrel_1 18 rfl rfl)
theorem dX3_quarrel_42 : decode cX3_quarrel 42 = .ok (.invokevirtual 77, 3) := dk_182 0 77 (dk_at dksX3_quarrel_1 19 rfl rfl)
theorem dX3_quarrel_45 : decode cX3_quarrel 45 = .ok (.return_, 1) := dk_177 (dk_at dksX3_quarrel_1 22 rfl rfl)
abbrev cX3_areBoth : ByteArray := prog_8_method_7_code
def yX3_areBoth : MethodName := ⟨RX3, "areBoth", "(II)Z"⟩
def dkwX3_areBoth_1 : List UInt8 := [182, 0, 47, 162, 0, 12, 27, 28, 159, 0, 7, 4, 167, 0, 4, 3, 172]
abbrev dktX3_areBoth_1 : List UInt8 := dkwX3_areBoth_1 ++ []
def dkwX3_areBoth_0 : List UInt8 := [27, 42, 180, 0, 3, 180, 0, 43, 182, 0, 47, 162, 0, 26, 28, 42, 180, 0, 3, 180, 0, 43]
abbrev dktX3_areBoth_0 : List UInt8 := dkwX3_areBoth_0 ++ dktX3_areBoth_1
theorem dksX3_areBoth_0 : cX3_areBoth.data.toList.drop 0 = dktX3_areBoth_0 := by decide +kernel
theorem dksX3_areBoth_1 : cX3_areBoth.data.toList.drop 22 = dktX3_areBoth_1 := dk_seg dksX3_areBoth_0 22 rfl rfl
theorem dX3_areBoth_0 : decode cX3_areBoth 0 = .ok (.iload_n 1, 1) := dk_27 (dk_at dksX3_areBoth_0 0 rfl rfl)
theorem dX3_areBoth_1 : decode cX3_areBoth 1 = .ok (.aload_n 0, 1) := dk_42 (dk_at dksX3_areBoth_0 1 rfl rfl)
theorem dX3_areBoth_2 : decode cX3_areBoth 2 = .ok (.getfield 3, 3) := dk_180 0 3 (dk_at dksX3_areBoth_0 2 rfl rfl)
theorem dX3_areBoth_5 : decode cX3_areBoth 5 = .ok (.getfield 43, 3) := dk_180 0 43 (dk_at dksX3_areBoth_0 5 rfl rfl)
theorem dX3_areBoth_8 : decode cX3_areBoth 8 = .ok (.invokevirtual 47, 3) := dk_182 0 47 (dk_at dksX3_areBoth_0 8 rfl rfl)
theorem dX3_areBoth_11 : decode cX3_areBoth 11 = .ok (.if_icmp .ge 26, 3) := dk_162 0 26 (dk_at dksX3_areBoth_0 11 rfl rfl)
theorem dX3_areBoth_14 : decode cX3_areBoth 14 = .ok (.iload_n 2, 1) := dk_28 (dk_at dksX3_areBoth_0 14 rfl rfl)
theorem dX3_areBoth_15 : decode cX3_areBoth 15 = .ok (.aload_n 0, 1) := dk_42 (dk_at dksX3_areBoth_0 15 rfl rfl)
theorem dX3_areBoth_16 : decode cX3_areBoth 16 = .ok (.getfield 3, 3) := dk_180 0 3 (dk_at dksX3_areBoth_0 16 rfl rfl)
theorem dX3_areBoth_19 : decode cX3_areBoth 19 = .ok (.getfield 43, 3) := dk_180 0 43 (dk_at dksX3_areBoth_0 19 rfl rfl)
theorem dX3_areBoth_22 : decode cX3_areBoth 22 = .ok (.invokevirtual 47, 3) := dk_182 0 47 (dk_at dksX3_areBoth_1 0 rfl rfl)
theorem dX3_areBoth_25 : decode cX3_areBoth 25 = .ok (.if_icmp .ge 12, 3) := dk_162 0 12 (dk_at dksX3_areBoth_1 3 rfl rfl)
theorem dX3_areBoth_28 : decode cX3_areBoth 28 = .ok (.iload_n 1, 1) := dk_27 (dk_at dksX3_areBoth_1 6 rfl rfl)
theorem dX3_areBoth_29 : decode cX3_areBoth 29 = .ok (.iload_n 2, 1) := dk_28 (dk_at dksX3_areBoth_1 7 rfl rfl)
theorem dX3_areBoth_30 : decode cX3_areBoth 30 = .ok (.if_icmp .eq 7, 3) := dk_159 0 7 (dk_at dksX3_areBoth_1 8 rfl rfl)
theorem dX3_areBoth_33 : decode cX3_areBoth 33 = .ok (.iconst 1, 1) := dk_4 (dk_at dksX3_areBoth_1 11 rfl rfl)
theorem dX3_areBoth_34 : decode cX3_areBoth 34 = .ok (.goto 4, 3) := dk_167 0 4 (dk_at dksX3_areBoth_1 12 rfl rfl)
theorem dX3_areBoth_37 : decode cX3_areBoth 37 = .ok (.iconst 0, 1) := dk_3 (dk_at dksX3_areBoth_1 15 rfl rfl)
theorem dX3_areBoth_38 : decode cX3_areBoth 38 = .ok (.ireturn, 1) := dk_172 (dk_at dksX3_areBoth_1 16 rfl rfl)
abbrev cX3_mat : ByteArray := prog_8_method_11_code
def yX3_mat : MethodName := ⟨RX3, "mat", "()V"⟩
def dkwX3_mat_1 : List UInt8 := [153, 0, 15, 42, 180, 0, 3, 180, 0, 43, 27, 28, 184, 0, 81, 177]
abbrev dktX3_mat_1 : List UInt8 := dkwX3_mat_1 ++ []
def dkwX3_mat_0 : List UInt8 := [42, 182, 0, 37, 60, 42, 182, 0, 37, 61, 42, 182, 0, 55, 42, 42, 27, 28, 182, 0, 73, 182, 0, 58]
abbrev dktX3_mat_0 : List UInt8 := dkwX3_mat_0 ++ dktX3_mat_1
theorem dksX3_mat_0 : cX3_mat.data.toList.drop 0 = dktX3_mat_0 := by decide +kernel
theorem dksX3_mat_1 : cX3_mat.data.toList.drop 24 = dktX3_mat_1 := dk_seg dksX3_mat_0 24 rfl rfl
theorem dX3_mat_0 : decode cX3_mat 0 = .ok (.aload_n 0, 1) := dk_42 (dk_at dksX3_mat_0 0 rfl rfl)
theorem dX3_mat_1 : decode cX3_mat 1 = .ok (.invokevirtual 37, 3) := dk_182 0 37 (dk_at dksX3_mat_0 1 rfl rfl)
theorem dX3_mat_4 : decode cX3_mat 4 = .ok (.istore_n 1, 1) := dk_60 (dk_at dksX3_mat_0 4 rfl rfl)
theorem dX3_mat_5 : decode cX3_mat 5 = .ok (.aload_n 0, 1) := dk_42 (dk_at dksX3_mat_0 5 rfl rfl)
theorem dX3_mat_6 : decode cX3_mat 6 = .ok (.invokevirtual 37, 3) := dk_182 0 37 (dk_at dksX3_mat_0 6 rfl rfl)
theorem dX3_mat_9 : decode cX3_mat 9 = .ok (.istore_n 2, 1) := dk_61 (dk_at dksX3_mat_0 9 rfl rfl)
theorem dX3_mat_10 : decode cX3_mat 10 = .ok (.aload_n 0, 1) := dk_42 (dk_at dksX3_mat_0 10 rfl rfl)
theorem dX3_mat_11 : decode cX3_mat 11 = .ok (.invokevirtual 55, 3) := dk_182 0 55 (dk_at dksX3_mat_0 11 rfl rfl)
theorem dX3_mat_14 : decode cX3_mat 14 = .ok (.aload_n 0, 1) := dk_42 (dk_at dksX3_mat_0 14 rfl rfl)
theorem dX3_mat_15 : decode cX3_mat 15 = .ok (.aload_n 0, 1) := dk_42 (dk_at dksX3_mat_0 15 rfl rfl)
theorem dX3_mat_16 : decode cX3_mat 16 = .ok (.iload_n 1, 1) := dk_27 (dk_at dksX3_mat_0 16 rfl rfl)
theorem dX3_mat_17 : decode cX3_mat 17 = .ok (.iload_n 2, 1) := dk_28 (dk_at dksX3_mat_0 17 rfl rfl)
theorem dX3_mat_18 : decode cX3_mat 18 = .ok (.invokevirtual 73, 3) := dk_182 0 73 (dk_at dksX3_mat_0 18 rfl rfl)
theorem dX3_mat_21 : decode cX3_mat 21 = .ok (.invokevirtual 58, 3) := dk_182 0 58 (dk_at dksX3_mat_0 21 rfl rfl)
theorem dX3_mat_24 : decode cX3_mat 24 = .ok (.ifCond .eq 15, 3) := dk_153 0 15 (dk_at dksX3_mat_1 0 rfl rfl)
theorem dX3_mat_27 : decode cX3_mat 27 = .ok (.aload_n 0, 1) := dk_42 (dk_at dksX3_mat_1 3 rfl rfl)
theorem dX3_mat_28 : decode cX3_mat 28 = .ok (.getfield 3, 3) := dk_180 0 3 (dk_at dksX3_mat_1 4 rfl rfl)
theorem dX3_mat_31 : decode cX3_mat 31 = .ok (.getfield 43, 3) := dk_180 0 43 (dk_at dksX3_mat_1 7 rfl rfl)
theorem dX3_mat_34 : decode cX3_mat 34 = .ok (.iload_n 1, 1) := dk_27 (dk_at dksX3_mat_1 10 rfl rfl)
theorem dX3_mat_35 : decode cX3_mat 35 = .ok (.iload_n 2, 1) := dk_28 (dk_at dksX3_mat_1 11 rfl rfl)
theorem dX3_mat_36 : decode cX3_mat 36 = .ok (.invokestatic 81, 3) := dk_184 0 81 (dk_at dksX3_mat_1 12 rfl rfl)
theorem dX3_mat_39 : decode cX3_mat 39 = .ok (.return_, 1) := dk_177 (dk_at dksX3_mat_1 15 rfl rfl)
abbrev cX3_days : ByteArray := prog_8_method_12_code
def yX3_days : MethodName := ⟨RX3, "days", "()V"⟩
def dkwX3_days_2 : List UInt8 := [182, 0, 58, 153, 0, 14, 42, 180, 0, 3, 180, 0, 43, 27, 182, 0, 88, 177]
abbrev dktX3_days_2 : List UInt8 := dkwX3_days_2 ++ []
def dkwX3_days_1 : List UInt8 := [180, 0, 3, 180, 0, 43, 180, 0, 85, 27, 96, 17, 3, 231, 163, 0, 7, 4, 167, 0, 4, 3]
abbrev dktX3_days_1 : List UInt8 := dkwX3_days_1 ++ dktX3_days_2
def dkwX3_days_0 : List UInt8 := [42, 182, 0, 52, 60, 42, 182, 0, 55, 42, 27, 4, 161, 0, 31, 27, 16, 60, 163, 0, 25, 42]
abbrev dktX3_days_0 : List UInt8 := dkwX3_days_0 ++ dktX3_days_1
theorem dksX3_days_0 : cX3_days.data.toList.drop 0 = dktX3_days_0 := by decide +kernel
theorem dksX3_days_1 : cX3_days.data.toList.drop 22 = dktX3_days_1 := dk_seg dksX3_days_0 22 rfl rfl
theorem dksX3_days_2 : cX3_days.data.toList.drop 44 = dktX3_days_2 := dk_seg dksX3_days_1 22 rfl rfl
theorem dX3_days_0 : decode cX3_days 0 = .ok (.aload_n 0, 1) := dk_42 (dk_at dksX3_days_0 0 rfl rfl)
theorem dX3_days_1 : decode cX3_days 1 = .ok (.invokevirtual 52, 3) := dk_182 0 52 (dk_at dksX3_days_0 1 rfl rfl)
theorem dX3_days_4 : decode cX3_days 4 = .ok (.istore_n 1, 1) := dk_60 (dk_at dksX3_days_0 4 rfl rfl)
theorem dX3_days_5 : decode cX3_days 5 = .ok (.aload_n 0, 1) := dk_42 (dk_at dksX3_days_0 5 rfl rfl)
theorem dX3_days_6 : decode cX3_days 6 = .ok (.invokevirtual 55, 3) := dk_182 0 55 (dk_at dksX3_days_0 6 rfl rfl)
theorem dX3_days_9 : decode cX3_days 9 = .ok (.aload_n 0, 1) := dk_42 (dk_at dksX3_days_0 9 rfl rfl)
theorem dX3_days_10 : decode cX3_days 10 = .ok (.iload_n 1, 1) := dk_27 (dk_at dksX3_days_0 10 rfl rfl)
theorem dX3_days_11 : decode cX3_days 11 = .ok (.iconst 1, 1) := dk_4 (dk_at dksX3_days_0 11 rfl rfl)
theorem dX3_days_12 : decode cX3_days 12 = .ok (.if_icmp .lt 31, 3) := dk_161 0 31 (dk_at dksX3_days_0 12 rfl rfl)
theorem dX3_days_15 : decode cX3_days 15 = .ok (.iload_n 1, 1) := dk_27 (dk_at dksX3_days_0 15 rfl rfl)
theorem dX3_days_16 : decode cX3_days 16 = .ok (.bipush 60, 2) := dk_16 60 (dk_at dksX3_days_0 16 rfl rfl)
theorem dX3_days_18 : decode cX3_days 18 = .ok (.if_icmp .gt 25, 3) := dk_163 0 25 (dk_at dksX3_days_0 18 rfl rfl)
theorem dX3_days_21 : decode cX3_days 21 = .ok (.aload_n 0, 1) := dk_42 (dk_at dksX3_days_0 21 rfl rfl)
theorem dX3_days_22 : decode cX3_days 22 = .ok (.getfield 3, 3) := dk_180 0 3 (dk_at dksX3_days_1 0 rfl rfl)
theorem dX3_days_25 : decode cX3_days 25 = .ok (.getfield 43, 3) := dk_180 0 43 (dk_at dksX3_days_1 3 rfl rfl)
theorem dX3_days_28 : decode cX3_days 28 = .ok (.getfield 85, 3) := dk_180 0 85 (dk_at dksX3_days_1 6 rfl rfl)
theorem dX3_days_31 : decode cX3_days 31 = .ok (.iload_n 1, 1) := dk_27 (dk_at dksX3_days_1 9 rfl rfl)
theorem dX3_days_32 : decode cX3_days 32 = .ok (.iadd, 1) := dk_96 (dk_at dksX3_days_1 10 rfl rfl)
theorem dX3_days_33 : decode cX3_days 33 = .ok (.sipush 999, 3) := dk_17 3 231 (dk_at dksX3_days_1 11 rfl rfl)
theorem dX3_days_36 : decode cX3_days 36 = .ok (.if_icmp .gt 7, 3) := dk_163 0 7 (dk_at dksX3_days_1 14 rfl rfl)
theorem dX3_days_39 : decode cX3_days 39 = .ok (.iconst 1, 1) := dk_4 (dk_at dksX3_days_1 17 rfl rfl)
theorem dX3_days_40 : decode cX3_days 40 = .ok (.goto 4, 3) := dk_167 0 4 (dk_at dksX3_days_1 18 rfl rfl)
theorem dX3_days_43 : decode cX3_days 43 = .ok (.iconst 0, 1) := dk_3 (dk_at dksX3_days_1 21 rfl rfl)
theorem dX3_days_44 : decode cX3_days 44 = .ok (.invokevirtual 58, 3) := dk_182 0 58 (dk_at dksX3_days_2 0 rfl rfl)
theorem dX3_days_47 : decode cX3_days 47 = .ok (.ifCond .eq 14, 3) := dk_153 0 14 (dk_at dksX3_days_2 3 rfl rfl)
theorem dX3_days_50 : decode cX3_days 50 = .ok (.aload_n 0, 1) := dk_42 (dk_at dksX3_days_2 6 rfl rfl)
theorem dX3_days_51 : decode cX3_days 51 = .ok (.getfield 3, 3) := dk_180 0 3 (dk_at dksX3_days_2 7 rfl rfl)
theorem dX3_days_54 : decode cX3_days 54 = .ok (.getfield 43, 3) := dk_180 0 43 (dk_at dksX3_days_2 10 rfl rfl)
theorem dX3_days_57 : decode cX3_days 57 = .ok (.iload_n 1, 1) := dk_27 (dk_at dksX3_days_2 13 rfl rfl)
theorem dX3_days_58 : decode cX3_days 58 = .ok (.invokevirtual 88, 3) := dk_182 0 88 (dk_at dksX3_days_2 14 rfl rfl)
theorem dX3_days_61 : decode cX3_days 61 = .ok (.return_, 1) := dk_177 (dk_at dksX3_days_2 17 rfl rfl)
theorem q94 : (Jvm.Cond.initialized "PrayerMatsFace$Reader") ∈ lw_all := lw_g (lw_at lw_m1 13 rfl) rfl
theorem q151 : (Jvm.Cond.fieldLinkNest "PrayerMatsFace$Reader" (70 : Nat) "PrayerMatsFace$Quarter" "hours" "[I" "PrayerMatsFace") ∈ lw_tbl := lw_at lw_m1 70 rfl
theorem q157 : (Jvm.Cond.fieldLinkNest "PrayerMatsFace$Reader" (85 : Nat) "PrayerMatsFace$Quarter" "day" "I" "PrayerMatsFace") ∈ lw_tbl := lw_at lw_m1 76 rfl
theorem q175 : (Jvm.Cond.fieldLinkNest "PrayerMatsFace$Reader" (43 : Nat) "PrayerMatsFace" "read" "LPrayerMatsFace$Quarter;" "PrayerMatsFace") ∈ lw_tbl := lw_at lw_m1 94 rfl
theorem q179 : (Jvm.Cond.fieldLinkNest "PrayerMatsFace$Reader" (25 : Nat) "PrayerMatsFace" "letter" "[I" "PrayerMatsFace") ∈ lw_tbl := lw_at lw_m1 98 rfl
theorem q180 : (Jvm.Cond.fieldLinkNest "PrayerMatsFace$Reader" (22 : Nat) "PrayerMatsFace" "lettered" "I" "PrayerMatsFace") ∈ lw_tbl := lw_at lw_m1 99 rfl
theorem q314 : (Jvm.Cond.selects "PrayerMatsFace$Reader" ({ cls := "java/lang/Object", name := "getClass", desc := "()Ljava/lang/Class;" } : Jvm.MethodName) ({ cls := "java/lang/Object", name := "getClass", desc := "()Ljava/lang/Class;" } : Jvm.MethodName)) ∈ lw_all := lw_g (lw_at lw_m1 233 rfl) rfl
theorem q334 : (Jvm.Cond.instantiable "PrayerMatsFace$Reader" (4 : Nat)) ∈ lw_all := lw_g (lw_at lw_m2 13 rfl) rfl
theorem q336 : (Jvm.Cond.instanceMethod ({ cls := "PrayerMatsFace$Reader", name := "<init>", desc := "(LPrayerMatsFace;)V" } : Jvm.MethodName)) ∈ lw_all := lw_g (lw_at lw_m2 15 rfl) rfl
theorem q337 : (Jvm.Cond.code ({ cls := "PrayerMatsFace$Reader", name := "<init>", desc := "(LPrayerMatsFace;)V" } : Jvm.MethodName) prog_8_method_1_code (2 : Nat) (Option.none : Option Jvm.ClassFile.FieldType)) ∈ lw_all := lw_g (lw_at lw_m2 16 rfl) rfl
theorem q338 : (Jvm.Cond.methodLink "PrayerMatsFace$Reader" (9 : Nat) ({ cls := "java/lang/Object", name := "<init>", desc := "()V" } : Jvm.MethodName)) ∈ lw_all := lw_g (lw_at lw_m2 17 rfl) rfl
theorem q339 : (Jvm.Cond.fieldLink "PrayerMatsFace$Reader" (19 : Nat) "PrayerMatsFace$Reader" "at" "I") ∈ lw_all := lw_g (lw_at lw_m2 18 rfl) rfl
theorem q340 : (Jvm.Cond.fieldLink "PrayerMatsFace$Reader" (15 : Nat) "PrayerMatsFace$Reader" "wrong" "I") ∈ lw_all := lw_g (lw_at lw_m2 19 rfl) rfl
theorem q342 : (Jvm.Cond.fieldLink "PrayerMatsFace$Reader" (40 : Nat) "PrayerMatsFace$Reader" "begun" "I") ∈ lw_all := lw_g (lw_at lw_m2 21 rfl) rfl
theorem q343 : (Jvm.Cond.fieldLink "PrayerMatsFace$Reader" (3 : Nat) "PrayerMatsFace$Reader" "this$0" "LPrayerMatsFace;") ∈ lw_all := lw_g (lw_at lw_m2 22 rfl) rfl
theorem q344 : (Jvm.Cond.lays "PrayerMatsFace$Reader" "PrayerMatsFace$Reader" "at" "I") ∈ lw_all := lw_g (lw_at lw_m2 23 rfl) rfl
theorem q345 : (Jvm.Cond.soleField "PrayerMatsFace$Reader" "at") ∈ lw_all := lw_g (lw_at lw_m2 24 rfl) rfl
theorem q346 : (Jvm.Cond.lays "PrayerMatsFace$Reader" "PrayerMatsFace$Reader" "wrong" "I") ∈ lw_all := lw_g (lw_at lw_m2 25 rfl) rfl
theorem q347 : (Jvm.Cond.soleField "PrayerMatsFace$Reader" "wrong") ∈ lw_all := lw_g (lw_at lw_m2 26 rfl) rfl
theorem q348 : (Jvm.Cond.lays "PrayerMatsFace$Reader" "PrayerMatsFace$Reader" "begun" "I") ∈ lw_all := lw_g (lw_at lw_m2 27 rfl) rfl
theorem q349 : (Jvm.Cond.soleField "PrayerMatsFace$Reader" "begun") ∈ lw_all := lw_g (lw_at lw_m2 28 rfl) rfl
theorem q350 : (Jvm.Cond.laysFinal "PrayerMatsFace$Reader" "PrayerMatsFace$Reader" "this$0" "LPrayerMatsFace;") ∈ lw_all := lw_g (lw_at lw_m2 29 rfl) rfl
theorem q351 : (Jvm.Cond.soleField "PrayerMatsFace$Reader" "this$0") ∈ lw_all := lw_g (lw_at lw_m2 30 rfl) rfl
theorem q352 : (Jvm.Cond.superclass "PrayerMatsFace$Reader" "java/lang/Object") ∈ lw_all := lw_g (lw_at lw_m2 31 rfl) rfl
theorem q354 : (Jvm.Cond.instanceMethod ({ cls := "PrayerMatsFace$Reader", name := "all", desc := "()I" } : Jvm.MethodName)) ∈ lw_all := lw_g (lw_at lw_m2 33 rfl) rfl
theorem q355 : (Jvm.Cond.selects "PrayerMatsFace$Reader" ({ cls := "PrayerMatsFace$Reader", name := "all", desc := "()I" } : Jvm.MethodName) ({ cls := "PrayerMatsFace$Reader", name := "all", desc := "()I" } : Jvm.MethodName)) ∈ lw_all := lw_g (lw_at lw_m2 34 rfl) rfl
theorem q356 : (Jvm.Cond.code ({ cls := "PrayerMatsFace$Reader", name := "all", desc := "()I" } : Jvm.MethodName) prog_8_method_13_code (3 : Nat) (Option.some Jvm.ClassFile.FieldType.int)) ∈ lw_all := lw_g (lw_at lw_m2 35 rfl) rfl
theorem q357 : (Jvm.Cond.methodLink "PrayerMatsFace$Reader" (29 : Nat) ({ cls := "PrayerMatsFace$Reader", name := "here", desc := "()I" } : Jvm.MethodName)) ∈ lw_all := lw_g (lw_at lw_m2 36 rfl) rfl
theorem q358 : (Jvm.Cond.privateMethod ({ cls := "PrayerMatsFace$Reader", name := "here", desc := "()I" } : Jvm.MethodName)) ∈ lw_tbl := lw_at lw_m2 37 rfl
theorem q359 : (Jvm.Cond.instanceMethod ({ cls := "PrayerMatsFace$Reader", name := "here", desc := "()I" } : Jvm.MethodName)) ∈ lw_all := lw_g (lw_at lw_m2 38 rfl) rfl
theorem q360 : (Jvm.Cond.code ({ cls := "PrayerMatsFace$Reader", name := "here", desc := "()I" } : Jvm.MethodName) prog_8_method_2_code (1 : Nat) (Option.some Jvm.ClassFile.FieldType.int)) ∈ lw_all := lw_g (lw_at lw_m2 39 rfl) rfl
theorem q361 : (Jvm.Cond.methodLink "PrayerMatsFace$Reader" (92 : Nat) ({ cls := "PrayerMatsFace$Reader", name := "person", desc := "()V" } : Jvm.MethodName)) ∈ lw_all := lw_g (lw_at lw_m2 40 rfl) rfl
theorem q362 : (Jvm.Cond.privateMethod ({ cls := "PrayerMatsFace$Reader", name := "person", desc := "()V" } : Jvm.MethodName)) ∈ lw_tbl := lw_at lw_m2 41 rfl
theorem q363 : (Jvm.Cond.instanceMethod ({ cls := "PrayerMatsFace$Reader", name := "person", desc := "()V" } : Jvm.MethodName)) ∈ lw_all := lw_g (lw_at lw_m2 42 rfl) rfl
theorem q364 : (Jvm.Cond.code ({ cls := "PrayerMatsFace$Reader", name := "person", desc := "()V" } : Jvm.MethodName) prog_8_method_8_code (4 : Nat) (Option.none : Option Jvm.ClassFile.FieldType)) ∈ lw_all := lw_g (lw_at lw_m2 43 rfl) rfl
theorem q365 : (Jvm.Cond.methodLink "PrayerMatsFace$Reader" (37 : Nat) ({ cls := "PrayerMatsFace$Reader", name := "digit", desc := "()I" } : Jvm.MethodName)) ∈ lw_all := lw_g (lw_at lw_m2 44 rfl) rfl
theorem q366 : (Jvm.Cond.privateMethod ({ cls := "PrayerMatsFace$Reader", name := "digit", desc := "()I" } : Jvm.MethodName)) ∈ lw_tbl := lw_at lw_m2 45 rfl
theorem q367 : (Jvm.Cond.instanceMethod ({ cls := "PrayerMatsFace$Reader", name := "digit", desc := "()I" } : Jvm.MethodName)) ∈ lw_all := lw_g (lw_at lw_m2 46 rfl) rfl
theorem q368 : (Jvm.Cond.code ({ cls := "PrayerMatsFace$Reader", name := "digit", desc := "()I" } : Jvm.MethodName) prog_8_method_3_code (1 : Nat) (Option.some Jvm.ClassFile.FieldType.int)) ∈ lw_all := lw_g (lw_at lw_m2 47 rfl) rfl
theorem q369 : (Jvm.Cond.methodLinkNest "PrayerMatsFace$Reader" (33 : Nat) ({ cls := "PrayerMatsFace", name := "asks", desc := "(ZI)V" } : Jvm.MethodName) "PrayerMatsFace") ∈ lw_tbl := lw_at lw_m2 48 rfl
theorem q439 : (Jvm.Cond.methodLink "PrayerMatsFace$Reader" (52 : Nat) ({ cls := "PrayerMatsFace$Reader", name := "two", desc := "()I" } : Jvm.MethodName)) ∈ lw_all := lw_g (lw_at lw_m2 118 rfl) rfl
theorem q440 : (Jvm.Cond.privateMethod ({ cls := "PrayerMatsFace$Reader", name := "two", desc := "()I" } : Jvm.MethodName)) ∈ lw_tbl := lw_at lw_m2 119 rfl
theorem q441 : (Jvm.Cond.instanceMethod ({ cls := "PrayerMatsFace$Reader", name := "two", desc := "()I" } : Jvm.MethodName)) ∈ lw_all := lw_g (lw_at lw_m2 120 rfl) rfl
theorem q442 : (Jvm.Cond.code ({ cls := "PrayerMatsFace$Reader", name := "two", desc := "()I" } : Jvm.MethodName) prog_8_method_4_code (2 : Nat) (Option.some Jvm.ClassFile.FieldType.int)) ∈ lw_all := lw_g (lw_at lw_m2 121 rfl) rfl
theorem q443 : (Jvm.Cond.methodLink "PrayerMatsFace$Reader" (55 : Nat) ({ cls := "PrayerMatsFace$Reader", name := "ends", desc := "()V" } : Jvm.MethodName)) ∈ lw_all := lw_g (lw_at lw_m2 122 rfl) rfl
theorem q444 : (Jvm.Cond.privateMethod ({ cls := "PrayerMatsFace$Reader", name := "ends", desc := "()V" } : Jvm.MethodName)) ∈ lw_tbl := lw_at lw_m2 123 rfl
theorem q445 : (Jvm.Cond.instanceMethod ({ cls := "PrayerMatsFace$Reader", name := "ends", desc := "()V" } : Jvm.MethodName)) ∈ lw_all := lw_g (lw_at lw_m2 124 rfl) rfl
theorem q446 : (Jvm.Cond.code ({ cls := "PrayerMatsFace$Reader", name := "ends", desc := "()V" } : Jvm.MethodName) prog_8_method_5_code (1 : Nat) (Option.none : Option Jvm.ClassFile.FieldType)) ∈ lw_all := lw_g (lw_at lw_m2 125 rfl) rfl
theorem q447 : (Jvm.Cond.methodLink "PrayerMatsFace$Reader" (47 : Nat) ({ cls := "PrayerMatsFace$Quarter", name := "many", desc := "()I" } : Jvm.MethodName)) ∈ lw_all := lw_g (lw_at lw_m2 126 rfl) rfl
theorem q451 : (Jvm.Cond.methodLink "PrayerMatsFace$Reader" (58 : Nat) ({ cls := "PrayerMatsFace$Reader", name := "well", desc := "(Z)Z" } : Jvm.MethodName)) ∈ lw_all := lw_g (lw_at lw_m2 130 rfl) rfl
theorem q452 : (Jvm.Cond.privateMethod ({ cls := "PrayerMatsFace$Reader", name := "well", desc := "(Z)Z" } : Jvm.MethodName)) ∈ lw_tbl := lw_at lw_m2 131 rfl
theorem q453 : (Jvm.Cond.instanceMethod ({ cls := "PrayerMatsFace$Reader", name := "well", desc := "(Z)Z" } : Jvm.MethodName)) ∈ lw_all := lw_g (lw_at lw_m2 132 rfl) rfl
theorem q454 : (Jvm.Cond.code ({ cls := "PrayerMatsFace$Reader", name := "well", desc := "(Z)Z" } : Jvm.MethodName) prog_8_method_6_code (2 : Nat) (Option.some Jvm.ClassFile.FieldType.boolean)) ∈ lw_all := lw_g (lw_at lw_m2 133 rfl) rfl
theorem q455 : (Jvm.Cond.methodLinkNest "PrayerMatsFace$Reader" (62 : Nat) ({ cls := "PrayerMatsFace", name := "personWith", desc := "(II)LPrayerMatsFace$Person;" } : Jvm.MethodName) "PrayerMatsFace") ∈ lw_tbl := lw_at lw_m2 134 rfl
theorem q522 : (Jvm.Cond.methodLink "PrayerMatsFace$Reader" (66 : Nat) ({ cls := "PrayerMatsFace$Quarter", name := "comes", desc := "(LPrayerMatsFace$Person;I)V" } : Jvm.MethodName)) ∈ lw_all := lw_g (lw_at lw_m2 201 rfl) rfl
theorem q531 : (Jvm.Cond.methodLink "PrayerMatsFace$Reader" (95 : Nat) ({ cls := "PrayerMatsFace$Reader", name := "hours", desc := "()V" } : Jvm.MethodName)) ∈ lw_all := lw_g (lw_at lw_m2 210 rfl) rfl
theorem q532 : (Jvm.Cond.privateMethod ({ cls := "PrayerMatsFace$Reader", name := "hours", desc := "()V" } : Jvm.MethodName)) ∈ lw_tbl := lw_at lw_m2 211 rfl
theorem q533 : (Jvm.Cond.instanceMethod ({ cls := "PrayerMatsFace$Reader", name := "hours", desc := "()V" } : Jvm.MethodName)) ∈ lw_all := lw_g (lw_at lw_m2 212 rfl) rfl
theorem q534 : (Jvm.Cond.code ({ cls := "PrayerMatsFace$Reader", name := "hours", desc := "()V" } : Jvm.MethodName) prog_8_method_9_code (3 : Nat) (Option.none : Option Jvm.ClassFile.FieldType)) ∈ lw_all := lw_g (lw_at lw_m2 213 rfl) rfl
theorem q535 : (Jvm.Cond.methodLink "PrayerMatsFace$Reader" (97 : Nat) ({ cls := "PrayerMatsFace$Reader", name := "quarrel", desc := "()V" } : Jvm.MethodName)) ∈ lw_all := lw_g (lw_at lw_m2 214 rfl) rfl
theorem q536 : (Jvm.Cond.privateMethod ({ cls := "PrayerMatsFace$Reader", name := "quarrel", desc := "()V" } : Jvm.MethodName)) ∈ lw_tbl := lw_at lw_m2 215 rfl
theorem q537 : (Jvm.Cond.instanceMethod ({ cls := "PrayerMatsFace$Reader", name := "quarrel", desc := "()V" } : Jvm.MethodName)) ∈ lw_all := lw_g (lw_at lw_m2 216 rfl) rfl
theorem q538 : (Jvm.Cond.code ({ cls := "PrayerMatsFace$Reader", name := "quarrel", desc := "()V" } : Jvm.MethodName) prog_8_method_10_code (4 : Nat) (Option.none : Option Jvm.ClassFile.FieldType)) ∈ lw_all := lw_g (lw_at lw_m2 217 rfl) rfl
theorem q539 : (Jvm.Cond.methodLink "PrayerMatsFace$Reader" (73 : Nat) ({ cls := "PrayerMatsFace$Reader", name := "areBoth", desc := "(II)Z" } : Jvm.MethodName)) ∈ lw_all := lw_g (lw_at lw_m2 218 rfl) rfl
theorem q540 : (Jvm.Cond.privateMethod ({ cls := "PrayerMatsFace$Reader", name := "areBoth", desc := "(II)Z" } : Jvm.MethodName)) ∈ lw_tbl := lw_at lw_m2 219 rfl
theorem q541 : (Jvm.Cond.instanceMethod ({ cls := "PrayerMatsFace$Reader", name := "areBoth", desc := "(II)Z" } : Jvm.MethodName)) ∈ lw_all := lw_g (lw_at lw_m2 220 rfl) rfl
theorem q542 : (Jvm.Cond.code ({ cls := "PrayerMatsFace$Reader", name := "areBoth", desc := "(II)Z" } : Jvm.MethodName) prog_8_method_7_code (3 : Nat) (Option.some Jvm.ClassFile.FieldType.boolean)) ∈ lw_all := lw_g (lw_at lw_m2 221 rfl) rfl
theorem q543 : (Jvm.Cond.methodLink "PrayerMatsFace$Reader" (77 : Nat) ({ cls := "PrayerMatsFace$Quarter", name := "quarrels", desc := "(III)V" } : Jvm.MethodName)) ∈ lw_all := lw_g (lw_at lw_m2 222 rfl) rfl
theorem q544 : (Jvm.Cond.methodLink "PrayerMatsFace$Reader" (100 : Nat) ({ cls := "PrayerMatsFace$Reader", name := "mat", desc := "()V" } : Jvm.MethodName)) ∈ lw_all := lw_g (lw_at lw_m2 223 rfl) rfl
theorem q545 : (Jvm.Cond.privateMethod ({ cls := "PrayerMatsFace$Reader", name := "mat", desc := "()V" } : Jvm.MethodName)) ∈ lw_tbl := lw_at lw_m2 224 rfl
theorem q546 : (Jvm.Cond.instanceMethod ({ cls := "PrayerMatsFace$Reader", name := "mat", desc := "()V" } : Jvm.MethodName)) ∈ lw_all := lw_g (lw_at lw_m2 225 rfl) rfl
theorem q547 : (Jvm.Cond.code ({ cls := "PrayerMatsFace$Reader", name := "mat", desc := "()V" } : Jvm.MethodName) prog_8_method_11_code (3 : Nat) (Option.none : Option Jvm.ClassFile.FieldType)) ∈ lw_all := lw_g (lw_at lw_m2 226 rfl) rfl
theorem q548 : (Jvm.Cond.methodLinkNest "PrayerMatsFace$Reader" (81 : Nat) ({ cls := "PrayerMatsFace", name := "turnsMat", desc := "(LPrayerMatsFace$Quarter;II)V" } : Jvm.MethodName) "PrayerMatsFace") ∈ lw_tbl := lw_at lw_m2 227 rfl
theorem q560 : (Jvm.Cond.methodLink "PrayerMatsFace$Reader" (103 : Nat) ({ cls := "PrayerMatsFace$Reader", name := "days", desc := "()V" } : Jvm.MethodName)) ∈ lw_all := lw_g (lw_at lw_m2 239 rfl) rfl
theorem q561 : (Jvm.Cond.privateMethod ({ cls := "PrayerMatsFace$Reader", name := "days", desc := "()V" } : Jvm.MethodName)) ∈ lw_tbl := lw_at lw_m3 0 rfl
theorem q562 : (Jvm.Cond.instanceMethod ({ cls := "PrayerMatsFace$Reader", name := "days", desc := "()V" } : Jvm.MethodName)) ∈ lw_all := lw_g (lw_at lw_m3 1 rfl) rfl
theorem q563 : (Jvm.Cond.code ({ cls := "PrayerMatsFace$Reader", name := "days", desc := "()V" } : Jvm.MethodName) prog_8_method_12_code (2 : Nat) (Option.none : Option Jvm.ClassFile.FieldType)) ∈ lw_all := lw_g (lw_at lw_m3 2 rfl) rfl
theorem q564 : (Jvm.Cond.methodLink "PrayerMatsFace$Reader" (88 : Nat) ({ cls := "PrayerMatsFace$Quarter", name := "goesOn", desc := "(I)V" } : Jvm.MethodName)) ∈ lw_all := lw_g (lw_at lw_m3 3 rfl) rfl
theorem q632 : (Jvm.Cond.classLink "PrayerMatsFace$Reader" (106 : Nat) "PrayerMatsFace$Refused") ∈ lw_all := lw_g (lw_at lw_m3 71 rfl) rfl
theorem q633 : (Jvm.Cond.methodLink "PrayerMatsFace$Reader" (108 : Nat) ({ cls := "PrayerMatsFace$Refused", name := "<init>", desc := "(I)V" } : Jvm.MethodName)) ∈ lw_all := lw_g (lw_at lw_m3 72 rfl) rfl
theorem q1521 : (Jvm.Cond.castable "PrayerMatsFace$Reader" "java/lang/Object") ∈ lw_tbl := lw_at lw_m7 0 rfl
theorem in_X3 : ∀ w ∈ wsX30, w ∈ lw_all := lw_in wsX30 [344, 346, 348, 350] (by decide +kernel) (by decide +kernel)

/-! PrayerMatsFace$Refused -/
set_option maxRecDepth 100000
def RX4 : String := "PrayerMatsFace$Refused"
def TX4 : u_T := fun k => match k with
  | 0 => ("java/lang/Throwable", "cause", "Ljava/lang/Throwable;", false)
  | 1 => ("java/lang/Throwable", "stackTrace", "[Ljava/lang/StackTraceElement;", false)
  | 2 => ("java/lang/Throwable", "suppressedExceptions", "Ljava/util/List;", false)
  | 3 => ("java/lang/Throwable", "detailMessage", "Ljava/lang/String;", false)
  | 4 => ("java/lang/Throwable", "backtrace", "Ljava/lang/Object;", false)
  | 5 => ("java/lang/Throwable", "depth", "I", false)
  | _ => ("PrayerMatsFace$Refused", "code", "I", true)
def tyX4 : Nat → FieldType := fun k => match k with
  | 0 => .object "java/lang/Throwable"
  | 1 => .array (.object "java/lang/StackTraceElement")
  | 2 => .object "java/util/List"
  | 3 => .object "java/lang/String"
  | 4 => .object "java/lang/Object"
  | 5 => .int
  | _ => .int
abbrev wsX40 : List Cond := u_ws RX4 TX4 7
theorem nmX4 : ∀ a, a < 7 → ∀ b, b < 7 → a ≠ b → (TX4 a).2.1 ≠ (TX4 b).2.1 := by decide +kernel
theorem tyX4_ok : ∀ k, k < 7 → parseFieldDescriptor (TX4 k).2.2.1 = some (tyX4 k) := by decide +kernel
abbrev cX4_init : ByteArray := prog_9_method_1_code
def yX4_init : MethodName := ⟨RX4, "<init>", "(I)V"⟩
def dkwX4_init_0 : List UInt8 := [42, 1, 1, 3, 3, 183, 0, 1, 42, 27, 181, 0, 7, 177]
abbrev dktX4_init_0 : List UInt8 := dkwX4_init_0 ++ []
theorem dksX4_init_0 : cX4_init.data.toList.drop 0 = dktX4_init_0 := by decide +kernel
theorem dX4_init_0 : decode cX4_init 0 = .ok (.aload_n 0, 1) := dk_42 (dk_at dksX4_init_0 0 rfl rfl)
theorem dX4_init_1 : decode cX4_init 1 = .ok (.aconst_null, 1) := dk_1 (dk_at dksX4_init_0 1 rfl rfl)
theorem dX4_init_2 : decode cX4_init 2 = .ok (.aconst_null, 1) := dk_1 (dk_at dksX4_init_0 2 rfl rfl)
theorem dX4_init_3 : decode cX4_init 3 = .ok (.iconst 0, 1) := dk_3 (dk_at dksX4_init_0 3 rfl rfl)
theorem dX4_init_4 : decode cX4_init 4 = .ok (.iconst 0, 1) := dk_3 (dk_at dksX4_init_0 4 rfl rfl)
theorem dX4_init_5 : decode cX4_init 5 = .ok (.invokespecial 1, 3) := dk_183 0 1 (dk_at dksX4_init_0 5 rfl rfl)
theorem dX4_init_8 : decode cX4_init 8 = .ok (.aload_n 0, 1) := dk_42 (dk_at dksX4_init_0 8 rfl rfl)
theorem dX4_init_9 : decode cX4_init 9 = .ok (.iload_n 1, 1) := dk_27 (dk_at dksX4_init_0 9 rfl rfl)
theorem dX4_init_10 : decode cX4_init 10 = .ok (.putfield 7, 3) := dk_181 0 7 (dk_at dksX4_init_0 10 rfl rfl)
theorem dX4_init_13 : decode cX4_init 13 = .ok (.return_, 1) := dk_177 (dk_at dksX4_init_0 13 rfl rfl)
theorem q98 : (Jvm.Cond.initialized "PrayerMatsFace$Refused") ∈ lw_all := lw_g (lw_at lw_m1 17 rfl) rfl
theorem q315 : (Jvm.Cond.selects "PrayerMatsFace$Refused" ({ cls := "java/lang/Object", name := "getClass", desc := "()Ljava/lang/Class;" } : Jvm.MethodName) ({ cls := "java/lang/Object", name := "getClass", desc := "()Ljava/lang/Class;" } : Jvm.MethodName)) ∈ lw_all := lw_g (lw_at lw_m1 234 rfl) rfl
theorem q372 : (Jvm.Cond.instantiable "PrayerMatsFace$Refused" (7 : Nat)) ∈ lw_all := lw_g (lw_at lw_m2 51 rfl) rfl
theorem q373 : (Jvm.Cond.castable "PrayerMatsFace$Refused" "PrayerMatsFace$Refused") ∈ lw_tbl := lw_at lw_m2 52 rfl
theorem q380 : (Jvm.Cond.selects "PrayerMatsFace$Refused" ({ cls := "java/lang/Throwable", name := "fillInStackTrace", desc := "(I)Ljava/lang/Throwable;" } : Jvm.MethodName) ({ cls := "java/lang/Throwable", name := "fillInStackTrace", desc := "(I)Ljava/lang/Throwable;" } : Jvm.MethodName)) ∈ lw_all := lw_g (lw_at lw_m2 59 rfl) rfl
theorem q381 : (Jvm.Cond.selects "PrayerMatsFace$Refused" ({ cls := "java/lang/Throwable", name := "fillInStackTrace", desc := "()Ljava/lang/Throwable;" } : Jvm.MethodName) ({ cls := "java/lang/Throwable", name := "fillInStackTrace", desc := "()Ljava/lang/Throwable;" } : Jvm.MethodName)) ∈ lw_all := lw_g (lw_at lw_m2 60 rfl) rfl
theorem q382 : (Jvm.Cond.lays "PrayerMatsFace$Refused" "java/lang/Throwable" "cause" "Ljava/lang/Throwable;") ∈ lw_all := lw_g (lw_at lw_m2 61 rfl) rfl
theorem q384 : (Jvm.Cond.lays "PrayerMatsFace$Refused" "java/lang/Throwable" "stackTrace" "[Ljava/lang/StackTraceElement;") ∈ lw_all := lw_g (lw_at lw_m2 63 rfl) rfl
theorem q386 : (Jvm.Cond.lays "PrayerMatsFace$Refused" "java/lang/Throwable" "suppressedExceptions" "Ljava/util/List;") ∈ lw_all := lw_g (lw_at lw_m2 65 rfl) rfl
theorem q388 : (Jvm.Cond.lays "PrayerMatsFace$Refused" "java/lang/Throwable" "detailMessage" "Ljava/lang/String;") ∈ lw_all := lw_g (lw_at lw_m2 67 rfl) rfl
theorem q390 : (Jvm.Cond.lays "PrayerMatsFace$Refused" "java/lang/Throwable" "backtrace" "Ljava/lang/Object;") ∈ lw_all := lw_g (lw_at lw_m2 69 rfl) rfl
theorem q411 : (Jvm.Cond.instanceMethod ({ cls := "PrayerMatsFace$Refused", name := "<init>", desc := "(I)V" } : Jvm.MethodName)) ∈ lw_all := lw_g (lw_at lw_m2 90 rfl) rfl
theorem q412 : (Jvm.Cond.code ({ cls := "PrayerMatsFace$Refused", name := "<init>", desc := "(I)V" } : Jvm.MethodName) prog_9_method_1_code (2 : Nat) (Option.none : Option Jvm.ClassFile.FieldType)) ∈ lw_all := lw_g (lw_at lw_m2 91 rfl) rfl
theorem q413 : (Jvm.Cond.methodLink "PrayerMatsFace$Refused" (1 : Nat) ({ cls := "java/lang/RuntimeException", name := "<init>", desc := "(Ljava/lang/String;Ljava/lang/Throwable;ZZ)V" } : Jvm.MethodName)) ∈ lw_all := lw_g (lw_at lw_m2 92 rfl) rfl
theorem q422 : (Jvm.Cond.fieldLink "PrayerMatsFace$Refused" (7 : Nat) "PrayerMatsFace$Refused" "code" "I") ∈ lw_all := lw_g (lw_at lw_m2 101 rfl) rfl
theorem q429 : (Jvm.Cond.laysFinal "PrayerMatsFace$Refused" "PrayerMatsFace$Refused" "code" "I") ∈ lw_all := lw_g (lw_at lw_m2 108 rfl) rfl
theorem q430 : (Jvm.Cond.soleField "PrayerMatsFace$Refused" "code") ∈ lw_all := lw_g (lw_at lw_m2 109 rfl) rfl
theorem q435 : (Jvm.Cond.lays "PrayerMatsFace$Refused" "java/lang/Throwable" "depth" "I") ∈ lw_all := lw_g (lw_at lw_m2 114 rfl) rfl
theorem q438 : (Jvm.Cond.superclass "PrayerMatsFace$Refused" "java/lang/RuntimeException") ∈ lw_all := lw_g (lw_at lw_m2 117 rfl) rfl
theorem q1522 : (Jvm.Cond.castable "PrayerMatsFace$Refused" "java/lang/Object") ∈ lw_tbl := lw_at lw_m7 1 rfl
theorem in_X4 : ∀ w ∈ wsX40, w ∈ lw_all := lw_in wsX40 [382, 384, 386, 388, 390, 435, 429] (by decide +kernel) (by decide +kernel)

/-! PrayerMatsFace$Person -/
set_option maxRecDepth 100000
def RX5 : String := "PrayerMatsFace$Person"
def TX5 : u_T := fun k => match k with
  | 0 => ("PrayerMatsFace$Person", "kind", "I", true)
  | _ => ("PrayerMatsFace$Person", "figure", "I", true)
def tyX5 : Nat → FieldType := fun k => match k with
  | 0 => .int
  | _ => .int
abbrev wsX50 : List Cond := u_ws RX5 TX5 2
theorem nmX5 : ∀ a, a < 2 → ∀ b, b < 2 → a ≠ b → (TX5 a).2.1 ≠ (TX5 b).2.1 := by decide +kernel
theorem tyX5_ok : ∀ k, k < 2 → parseFieldDescriptor (TX5 k).2.2.1 = some (tyX5 k) := by decide +kernel
abbrev cX5_init : ByteArray := prog_6_method_1_code
def yX5_init : MethodName := ⟨RX5, "<init>", "(II)V"⟩
def dkwX5_init_0 : List UInt8 := [42, 183, 0, 1, 42, 27, 181, 0, 7, 42, 28, 181, 0, 13, 177]
abbrev dktX5_init_0 : List UInt8 := dkwX5_init_0 ++ []
theorem dksX5_init_0 : cX5_init.data.toList.drop 0 = dktX5_init_0 := by decide +kernel
theorem dX5_init_0 : decode cX5_init 0 = .ok (.aload_n 0, 1) := dk_42 (dk_at dksX5_init_0 0 rfl rfl)
theorem dX5_init_1 : decode cX5_init 1 = .ok (.invokespecial 1, 3) := dk_183 0 1 (dk_at dksX5_init_0 1 rfl rfl)
theorem dX5_init_4 : decode cX5_init 4 = .ok (.aload_n 0, 1) := dk_42 (dk_at dksX5_init_0 4 rfl rfl)
theorem dX5_init_5 : decode cX5_init 5 = .ok (.iload_n 1, 1) := dk_27 (dk_at dksX5_init_0 5 rfl rfl)
theorem dX5_init_6 : decode cX5_init 6 = .ok (.putfield 7, 3) := dk_181 0 7 (dk_at dksX5_init_0 6 rfl rfl)
theorem dX5_init_9 : decode cX5_init 9 = .ok (.aload_n 0, 1) := dk_42 (dk_at dksX5_init_0 9 rfl rfl)
theorem dX5_init_10 : decode cX5_init 10 = .ok (.iload_n 2, 1) := dk_28 (dk_at dksX5_init_0 10 rfl rfl)
theorem dX5_init_11 : decode cX5_init 11 = .ok (.putfield 13, 3) := dk_181 0 13 (dk_at dksX5_init_0 11 rfl rfl)
theorem dX5_init_14 : decode cX5_init 14 = .ok (.return_, 1) := dk_177 (dk_at dksX5_init_0 14 rfl rfl)
abbrev cX5_soft : ByteArray := prog_6_method_2_code
def yX5_soft : MethodName := ⟨RX5, "soft", "()I"⟩
theorem dX5_soft_0 : decode cX5_soft 0 = .ok (.iconst 1, 1) := by decide +kernel
theorem dX5_soft_1 : decode cX5_soft 1 = .ok (.ireturn, 1) := by decide +kernel
abbrev cX5_sore : ByteArray := prog_6_method_3_code
def yX5_sore : MethodName := ⟨RX5, "sore", "()I"⟩
theorem dX5_sore_0 : decode cX5_sore 0 = .ok (.iconst 1, 1) := by decide +kernel
theorem dX5_sore_1 : decode cX5_sore 1 = .ok (.ireturn, 1) := by decide +kernel
abbrev cX5_charm : ByteArray := prog_6_method_4_code
def yX5_charm : MethodName := ⟨RX5, "charm", "()I"⟩
theorem dX5_charm_0 : decode cX5_charm 0 = .ok (.aload_n 0, 1) := by decide +kernel
theorem dX5_charm_1 : decode cX5_charm 1 = .ok (.getfield 13, 3) := by decide +kernel
theorem dX5_charm_4 : decode cX5_charm 4 = .ok (.ireturn, 1) := by decide +kernel
theorem q99 : (Jvm.Cond.initialized "PrayerMatsFace$Person") ∈ lw_all := lw_g (lw_at lw_m1 18 rfl) rfl
theorem q312 : (Jvm.Cond.selects "PrayerMatsFace$Person" ({ cls := "java/lang/Object", name := "getClass", desc := "()Ljava/lang/Class;" } : Jvm.MethodName) ({ cls := "java/lang/Object", name := "getClass", desc := "()Ljava/lang/Class;" } : Jvm.MethodName)) ∈ lw_all := lw_g (lw_at lw_m1 231 rfl) rfl
theorem q464 : (Jvm.Cond.instanceMethod ({ cls := "PrayerMatsFace$Person", name := "<init>", desc := "(II)V" } : Jvm.MethodName)) ∈ lw_all := lw_g (lw_at lw_m2 143 rfl) rfl
theorem q465 : (Jvm.Cond.code ({ cls := "PrayerMatsFace$Person", name := "<init>", desc := "(II)V" } : Jvm.MethodName) prog_6_method_1_code (3 : Nat) (Option.none : Option Jvm.ClassFile.FieldType)) ∈ lw_all := lw_g (lw_at lw_m2 144 rfl) rfl
theorem q466 : (Jvm.Cond.methodLink "PrayerMatsFace$Person" (1 : Nat) ({ cls := "java/lang/Object", name := "<init>", desc := "()V" } : Jvm.MethodName)) ∈ lw_all := lw_g (lw_at lw_m2 145 rfl) rfl
theorem q467 : (Jvm.Cond.fieldLink "PrayerMatsFace$Person" (7 : Nat) "PrayerMatsFace$Person" "kind" "I") ∈ lw_all := lw_g (lw_at lw_m2 146 rfl) rfl
theorem q469 : (Jvm.Cond.fieldLink "PrayerMatsFace$Person" (13 : Nat) "PrayerMatsFace$Person" "figure" "I") ∈ lw_all := lw_g (lw_at lw_m2 148 rfl) rfl
theorem q476 : (Jvm.Cond.soleField "PrayerMatsFace$Person" "kind") ∈ lw_all := lw_g (lw_at lw_m2 155 rfl) rfl
theorem q478 : (Jvm.Cond.soleField "PrayerMatsFace$Person" "figure") ∈ lw_all := lw_g (lw_at lw_m2 157 rfl) rfl
theorem q517 : (Jvm.Cond.instantiable "PrayerMatsFace$Person" (2 : Nat)) ∈ lw_all := lw_g (lw_at lw_m2 196 rfl) rfl
theorem q519 : (Jvm.Cond.laysFinal "PrayerMatsFace$Person" "PrayerMatsFace$Person" "kind" "I") ∈ lw_all := lw_g (lw_at lw_m2 198 rfl) rfl
theorem q520 : (Jvm.Cond.laysFinal "PrayerMatsFace$Person" "PrayerMatsFace$Person" "figure" "I") ∈ lw_all := lw_g (lw_at lw_m2 199 rfl) rfl
theorem q521 : (Jvm.Cond.superclass "PrayerMatsFace$Person" "java/lang/Object") ∈ lw_all := lw_g (lw_at lw_m2 200 rfl) rfl
theorem q588 : (Jvm.Cond.instanceMethod ({ cls := "PrayerMatsFace$Person", name := "soft", desc := "()I" } : Jvm.MethodName)) ∈ lw_all := lw_g (lw_at lw_m3 27 rfl) rfl
theorem q589 : (Jvm.Cond.selects "PrayerMatsFace$Person" ({ cls := "PrayerMatsFace$Person", name := "soft", desc := "()I" } : Jvm.MethodName) ({ cls := "PrayerMatsFace$Person", name := "soft", desc := "()I" } : Jvm.MethodName)) ∈ lw_all := lw_g (lw_at lw_m3 28 rfl) rfl
theorem q590 : (Jvm.Cond.sameMethod "PrayerMatsFace$Person" "PrayerMatsFace$Person" "soft" "()I") ∈ lw_all := lw_g (lw_at lw_m3 29 rfl) rfl
theorem q598 : (Jvm.Cond.code ({ cls := "PrayerMatsFace$Person", name := "soft", desc := "()I" } : Jvm.MethodName) prog_6_method_2_code (1 : Nat) (Option.some Jvm.ClassFile.FieldType.int)) ∈ lw_all := lw_g (lw_at lw_m3 37 rfl) rfl
theorem q612 : (Jvm.Cond.instanceMethod ({ cls := "PrayerMatsFace$Person", name := "sore", desc := "()I" } : Jvm.MethodName)) ∈ lw_all := lw_g (lw_at lw_m3 51 rfl) rfl
theorem q613 : (Jvm.Cond.selects "PrayerMatsFace$Person" ({ cls := "PrayerMatsFace$Person", name := "sore", desc := "()I" } : Jvm.MethodName) ({ cls := "PrayerMatsFace$Person", name := "sore", desc := "()I" } : Jvm.MethodName)) ∈ lw_all := lw_g (lw_at lw_m3 52 rfl) rfl
theorem q614 : (Jvm.Cond.sameMethod "PrayerMatsFace$Person" "PrayerMatsFace$Person" "sore" "()I") ∈ lw_all := lw_g (lw_at lw_m3 53 rfl) rfl
theorem q628 : (Jvm.Cond.code ({ cls := "PrayerMatsFace$Person", name := "sore", desc := "()I" } : Jvm.MethodName) prog_6_method_3_code (1 : Nat) (Option.some Jvm.ClassFile.FieldType.int)) ∈ lw_all := lw_g (lw_at lw_m3 67 rfl) rfl
theorem q650 : (Jvm.Cond.instanceMethod ({ cls := "PrayerMatsFace$Person", name := "charm", desc := "()I" } : Jvm.MethodName)) ∈ lw_all := lw_g (lw_at lw_m3 89 rfl) rfl
theorem q651 : (Jvm.Cond.selects "PrayerMatsFace$Person" ({ cls := "PrayerMatsFace$Person", name := "charm", desc := "()I" } : Jvm.MethodName) ({ cls := "PrayerMatsFace$Person", name := "charm", desc := "()I" } : Jvm.MethodName)) ∈ lw_all := lw_g (lw_at lw_m3 90 rfl) rfl
theorem q652 : (Jvm.Cond.sameMethod "PrayerMatsFace$Person" "PrayerMatsFace$Person" "charm" "()I") ∈ lw_all := lw_g (lw_at lw_m3 91 rfl) rfl
theorem q660 : (Jvm.Cond.code ({ cls := "PrayerMatsFace$Person", name := "charm", desc := "()I" } : Jvm.MethodName) prog_6_method_4_code (1 : Nat) (Option.some Jvm.ClassFile.FieldType.int)) ∈ lw_all := lw_g (lw_at lw_m3 99 rfl) rfl
theorem q1528 : (Jvm.Cond.castable "PrayerMatsFace$Person" "java/lang/Object") ∈ lw_tbl := lw_at lw_m7 7 rfl
theorem in_X5 : ∀ w ∈ wsX50, w ∈ lw_all := lw_in wsX50 [519, 520] (by decide +kernel) (by decide +kernel)

/-! PrayerMatsFace$Merchant -/
set_option maxRecDepth 100000
def RX6 : String := "PrayerMatsFace$Merchant"
def TX6 : u_T := fun k => match k with
  | 0 => ("PrayerMatsFace$Person", "kind", "I", true)
  | _ => ("PrayerMatsFace$Person", "figure", "I", true)
def tyX6 : Nat → FieldType := fun k => match k with
  | 0 => .int
  | _ => .int
abbrev wsX60 : List Cond := u_ws RX6 TX6 2
theorem nmX6 : ∀ a, a < 2 → ∀ b, b < 2 → a ≠ b → (TX6 a).2.1 ≠ (TX6 b).2.1 := by decide +kernel
theorem tyX6_ok : ∀ k, k < 2 → parseFieldDescriptor (TX6 k).2.2.1 = some (tyX6 k) := by decide +kernel
abbrev cX6_init : ByteArray := prog_5_method_1_code
def yX6_init : MethodName := ⟨RX6, "<init>", "(II)V"⟩
def dkwX6_init_0 : List UInt8 := [42, 27, 28, 183, 0, 1, 177]
abbrev dktX6_init_0 : List UInt8 := dkwX6_init_0 ++ []
theorem dksX6_init_0 : cX6_init.data.toList.drop 0 = dktX6_init_0 := by decide +kernel
theorem dX6_init_0 : decode cX6_init 0 = .ok (.aload_n 0, 1) := dk_42 (dk_at dksX6_init_0 0 rfl rfl)
theorem dX6_init_1 : decode cX6_init 1 = .ok (.iload_n 1, 1) := dk_27 (dk_at dksX6_init_0 1 rfl rfl)
theorem dX6_init_2 : decode cX6_init 2 = .ok (.iload_n 2, 1) := dk_28 (dk_at dksX6_init_0 2 rfl rfl)
theorem dX6_init_3 : decode cX6_init 3 = .ok (.invokespecial 1, 3) := dk_183 0 1 (dk_at dksX6_init_0 3 rfl rfl)
theorem dX6_init_6 : decode cX6_init 6 = .ok (.return_, 1) := dk_177 (dk_at dksX6_init_0 6 rfl rfl)
abbrev cX6_soft : ByteArray := prog_5_method_2_code
def yX6_soft : MethodName := ⟨RX6, "soft", "()I"⟩
def dkwX6_soft_0 : List UInt8 := [42, 180, 0, 7, 8, 108, 172]
abbrev dktX6_soft_0 : List UInt8 := dkwX6_soft_0 ++ []
theorem dksX6_soft_0 : cX6_soft.data.toList.drop 0 = dktX6_soft_0 := by decide +kernel
theorem dX6_soft_0 : decode cX6_soft 0 = .ok (.aload_n 0, 1) := dk_42 (dk_at dksX6_soft_0 0 rfl rfl)
theorem dX6_soft_1 : decode cX6_soft 1 = .ok (.getfield 7, 3) := dk_180 0 7 (dk_at dksX6_soft_0 1 rfl rfl)
theorem dX6_soft_4 : decode cX6_soft 4 = .ok (.iconst 5, 1) := dk_8 (dk_at dksX6_soft_0 4 rfl rfl)
theorem dX6_soft_5 : decode cX6_soft 5 = .ok (.idiv, 1) := dk_108 (dk_at dksX6_soft_0 5 rfl rfl)
theorem dX6_soft_6 : decode cX6_soft 6 = .ok (.ireturn, 1) := dk_172 (dk_at dksX6_soft_0 6 rfl rfl)
abbrev cX6_sore : ByteArray := prog_5_method_3_code
def yX6_sore : MethodName := ⟨RX6, "sore", "()I"⟩
def dkwX6_sore_0 : List UInt8 := [42, 183, 0, 13, 5, 96, 172]
abbrev dktX6_sore_0 : List UInt8 := dkwX6_sore_0 ++ []
theorem dksX6_sore_0 : cX6_sore.data.toList.drop 0 = dktX6_sore_0 := by decide +kernel
theorem dX6_sore_0 : decode cX6_sore 0 = .ok (.aload_n 0, 1) := dk_42 (dk_at dksX6_sore_0 0 rfl rfl)
theorem dX6_sore_1 : decode cX6_sore 1 = .ok (.invokespecial 13, 3) := dk_183 0 13 (dk_at dksX6_sore_0 1 rfl rfl)
theorem dX6_sore_4 : decode cX6_sore 4 = .ok (.iconst 2, 1) := dk_5 (dk_at dksX6_sore_0 4 rfl rfl)
theorem dX6_sore_5 : decode cX6_sore 5 = .ok (.iadd, 1) := dk_96 (dk_at dksX6_sore_0 5 rfl rfl)
theorem dX6_sore_6 : decode cX6_sore 6 = .ok (.ireturn, 1) := dk_172 (dk_at dksX6_sore_0 6 rfl rfl)
abbrev cX6_charm : ByteArray := prog_5_method_4_code
def yX6_charm : MethodName := ⟨RX6, "charm", "()I"⟩
def dkwX6_charm_0 : List UInt8 := [42, 183, 0, 17, 5, 108, 172]
abbrev dktX6_charm_0 : List UInt8 := dkwX6_charm_0 ++ []
theorem dksX6_charm_0 : cX6_charm.data.toList.drop 0 = dktX6_charm_0 := by decide +kernel
theorem dX6_charm_0 : decode cX6_charm 0 = .ok (.aload_n 0, 1) := dk_42 (dk_at dksX6_charm_0 0 rfl rfl)
theorem dX6_charm_1 : decode cX6_charm 1 = .ok (.invokespecial 17, 3) := dk_183 0 17 (dk_at dksX6_charm_0 1 rfl rfl)
theorem dX6_charm_4 : decode cX6_charm 4 = .ok (.iconst 2, 1) := dk_5 (dk_at dksX6_charm_0 4 rfl rfl)
theorem dX6_charm_5 : decode cX6_charm 5 = .ok (.idiv, 1) := dk_108 (dk_at dksX6_charm_0 5 rfl rfl)
theorem dX6_charm_6 : decode cX6_charm 6 = .ok (.ireturn, 1) := dk_172 (dk_at dksX6_charm_0 6 rfl rfl)
theorem q100 : (Jvm.Cond.initialized "PrayerMatsFace$Merchant") ∈ lw_all := lw_g (lw_at lw_m1 19 rfl) rfl
theorem q311 : (Jvm.Cond.selects "PrayerMatsFace$Merchant" ({ cls := "java/lang/Object", name := "getClass", desc := "()Ljava/lang/Class;" } : Jvm.MethodName) ({ cls := "java/lang/Object", name := "getClass", desc := "()Ljava/lang/Class;" } : Jvm.MethodName)) ∈ lw_all := lw_g (lw_at lw_m1 230 rfl) rfl
theorem q459 : (Jvm.Cond.instantiable "PrayerMatsFace$Merchant" (2 : Nat)) ∈ lw_all := lw_g (lw_at lw_m2 138 rfl) rfl
theorem q461 : (Jvm.Cond.instanceMethod ({ cls := "PrayerMatsFace$Merchant", name := "<init>", desc := "(II)V" } : Jvm.MethodName)) ∈ lw_all := lw_g (lw_at lw_m2 140 rfl) rfl
theorem q462 : (Jvm.Cond.code ({ cls := "PrayerMatsFace$Merchant", name := "<init>", desc := "(II)V" } : Jvm.MethodName) prog_5_method_1_code (3 : Nat) (Option.none : Option Jvm.ClassFile.FieldType)) ∈ lw_all := lw_g (lw_at lw_m2 141 rfl) rfl
theorem q463 : (Jvm.Cond.methodLink "PrayerMatsFace$Merchant" (1 : Nat) ({ cls := "PrayerMatsFace$Person", name := "<init>", desc := "(II)V" } : Jvm.MethodName)) ∈ lw_all := lw_g (lw_at lw_m2 142 rfl) rfl
theorem q470 : (Jvm.Cond.fieldLink "PrayerMatsFace$Merchant" (7 : Nat) "PrayerMatsFace$Merchant" "figure" "I") ∈ lw_all := lw_g (lw_at lw_m2 149 rfl) rfl
theorem q471 : (Jvm.Cond.sameField "PrayerMatsFace$Merchant" "PrayerMatsFace$Person" "figure" "I") ∈ lw_all := lw_g (lw_at lw_m2 150 rfl) rfl
theorem q475 : (Jvm.Cond.laysFinal "PrayerMatsFace$Merchant" "PrayerMatsFace$Person" "kind" "I") ∈ lw_all := lw_g (lw_at lw_m2 154 rfl) rfl
theorem q477 : (Jvm.Cond.laysFinal "PrayerMatsFace$Merchant" "PrayerMatsFace$Person" "figure" "I") ∈ lw_all := lw_g (lw_at lw_m2 156 rfl) rfl
theorem q479 : (Jvm.Cond.superclass "PrayerMatsFace$Merchant" "PrayerMatsFace$Person") ∈ lw_all := lw_g (lw_at lw_m2 158 rfl) rfl
theorem q606 : (Jvm.Cond.instanceMethod ({ cls := "PrayerMatsFace$Merchant", name := "soft", desc := "()I" } : Jvm.MethodName)) ∈ lw_all := lw_g (lw_at lw_m3 45 rfl) rfl
theorem q607 : (Jvm.Cond.code ({ cls := "PrayerMatsFace$Merchant", name := "soft", desc := "()I" } : Jvm.MethodName) prog_5_method_2_code (1 : Nat) (Option.some Jvm.ClassFile.FieldType.int)) ∈ lw_all := lw_g (lw_at lw_m3 46 rfl) rfl
theorem q608 : (Jvm.Cond.selects "PrayerMatsFace$Merchant" ({ cls := "PrayerMatsFace$Person", name := "soft", desc := "()I" } : Jvm.MethodName) ({ cls := "PrayerMatsFace$Merchant", name := "soft", desc := "()I" } : Jvm.MethodName)) ∈ lw_all := lw_g (lw_at lw_m3 47 rfl) rfl
theorem q625 : (Jvm.Cond.instanceMethod ({ cls := "PrayerMatsFace$Merchant", name := "sore", desc := "()I" } : Jvm.MethodName)) ∈ lw_all := lw_g (lw_at lw_m3 64 rfl) rfl
theorem q626 : (Jvm.Cond.code ({ cls := "PrayerMatsFace$Merchant", name := "sore", desc := "()I" } : Jvm.MethodName) prog_5_method_3_code (1 : Nat) (Option.some Jvm.ClassFile.FieldType.int)) ∈ lw_all := lw_g (lw_at lw_m3 65 rfl) rfl
theorem q627 : (Jvm.Cond.methodLink "PrayerMatsFace$Merchant" (13 : Nat) ({ cls := "PrayerMatsFace$Person", name := "sore", desc := "()I" } : Jvm.MethodName)) ∈ lw_all := lw_g (lw_at lw_m3 66 rfl) rfl
theorem q629 : (Jvm.Cond.selects "PrayerMatsFace$Merchant" ({ cls := "PrayerMatsFace$Person", name := "sore", desc := "()I" } : Jvm.MethodName) ({ cls := "PrayerMatsFace$Merchant", name := "sore", desc := "()I" } : Jvm.MethodName)) ∈ lw_all := lw_g (lw_at lw_m3 68 rfl) rfl
theorem q665 : (Jvm.Cond.instanceMethod ({ cls := "PrayerMatsFace$Merchant", name := "charm", desc := "()I" } : Jvm.MethodName)) ∈ lw_all := lw_g (lw_at lw_m3 104 rfl) rfl
theorem q666 : (Jvm.Cond.code ({ cls := "PrayerMatsFace$Merchant", name := "charm", desc := "()I" } : Jvm.MethodName) prog_5_method_4_code (1 : Nat) (Option.some Jvm.ClassFile.FieldType.int)) ∈ lw_all := lw_g (lw_at lw_m3 105 rfl) rfl
theorem q667 : (Jvm.Cond.methodLink "PrayerMatsFace$Merchant" (17 : Nat) ({ cls := "PrayerMatsFace$Person", name := "charm", desc := "()I" } : Jvm.MethodName)) ∈ lw_all := lw_g (lw_at lw_m3 106 rfl) rfl
theorem q668 : (Jvm.Cond.selects "PrayerMatsFace$Merchant" ({ cls := "PrayerMatsFace$Person", name := "charm", desc := "()I" } : Jvm.MethodName) ({ cls := "PrayerMatsFace$Merchant", name := "charm", desc := "()I" } : Jvm.MethodName)) ∈ lw_all := lw_g (lw_at lw_m3 107 rfl) rfl
theorem q1508 : (Jvm.Cond.sameMethod "PrayerMatsFace$Merchant" "PrayerMatsFace$Merchant" "soft" "()I") ∈ lw_all := lw_g (lw_at lw_m6 227 rfl) rfl
theorem q1509 : (Jvm.Cond.sameMethod "PrayerMatsFace$Merchant" "PrayerMatsFace$Merchant" "sore" "()I") ∈ lw_all := lw_g (lw_at lw_m6 228 rfl) rfl
theorem q1510 : (Jvm.Cond.sameMethod "PrayerMatsFace$Merchant" "PrayerMatsFace$Merchant" "charm" "()I") ∈ lw_all := lw_g (lw_at lw_m6 229 rfl) rfl
theorem q1515 : (Jvm.Cond.castable "PrayerMatsFace$Merchant" "PrayerMatsFace$Person") ∈ lw_tbl := lw_at lw_m6 234 rfl
theorem q1523 : (Jvm.Cond.castable "PrayerMatsFace$Merchant" "java/lang/Object") ∈ lw_tbl := lw_at lw_m7 2 rfl
theorem in_X6 : ∀ w ∈ wsX60, w ∈ lw_all := lw_in wsX60 [475, 477] (by decide +kernel) (by decide +kernel)

/-! PrayerMatsFace$Boy -/
set_option maxRecDepth 100000
def RX7 : String := "PrayerMatsFace$Boy"
def TX7 : u_T := fun k => match k with
  | 0 => ("PrayerMatsFace$Person", "kind", "I", true)
  | _ => ("PrayerMatsFace$Person", "figure", "I", true)
def tyX7 : Nat → FieldType := fun k => match k with
  | 0 => .int
  | _ => .int
abbrev wsX70 : List Cond := u_ws RX7 TX7 2
theorem nmX7 : ∀ a, a < 2 → ∀ b, b < 2 → a ≠ b → (TX7 a).2.1 ≠ (TX7 b).2.1 := by decide +kernel
theorem tyX7_ok : ∀ k, k < 2 → parseFieldDescriptor (TX7 k).2.2.1 = some (tyX7 k) := by decide +kernel
abbrev cX7_init : ByteArray := prog_3_method_1_code
def yX7_init : MethodName := ⟨RX7, "<init>", "(II)V"⟩
def dkwX7_init_0 : List UInt8 := [42, 27, 28, 183, 0, 1, 177]
abbrev dktX7_init_0 : List UInt8 := dkwX7_init_0 ++ []
theorem dksX7_init_0 : cX7_init.data.toList.drop 0 = dktX7_init_0 := by decide +kernel
theorem dX7_init_0 : decode cX7_init 0 = .ok (.aload_n 0, 1) := dk_42 (dk_at dksX7_init_0 0 rfl rfl)
theorem dX7_init_1 : decode cX7_init 1 = .ok (.iload_n 1, 1) := dk_27 (dk_at dksX7_init_0 1 rfl rfl)
theorem dX7_init_2 : decode cX7_init 2 = .ok (.iload_n 2, 1) := dk_28 (dk_at dksX7_init_0 2 rfl rfl)
theorem dX7_init_3 : decode cX7_init 3 = .ok (.invokespecial 1, 3) := dk_183 0 1 (dk_at dksX7_init_0 3 rfl rfl)
theorem dX7_init_6 : decode cX7_init 6 = .ok (.return_, 1) := dk_177 (dk_at dksX7_init_0 6 rfl rfl)
abbrev cX7_soft : ByteArray := prog_3_method_2_code
def yX7_soft : MethodName := ⟨RX7, "soft", "()I"⟩
theorem dX7_soft_0 : decode cX7_soft 0 = .ok (.iconst 3, 1) := by decide +kernel
theorem dX7_soft_1 : decode cX7_soft 1 = .ok (.ireturn, 1) := by decide +kernel
abbrev cX7_sore : ByteArray := prog_3_method_3_code
def yX7_sore : MethodName := ⟨RX7, "sore", "()I"⟩
theorem dX7_sore_0 : decode cX7_sore 0 = .ok (.iconst 0, 1) := by decide +kernel
theorem dX7_sore_1 : decode cX7_sore 1 = .ok (.ireturn, 1) := by decide +kernel
abbrev cX7_charm : ByteArray := prog_3_method_4_code
def yX7_charm : MethodName := ⟨RX7, "charm", "()I"⟩
def dkwX7_charm_0 : List UInt8 := [42, 183, 0, 7, 6, 96, 172]
abbrev dktX7_charm_0 : List UInt8 := dkwX7_charm_0 ++ []
theorem dksX7_charm_0 : cX7_charm.data.toList.drop 0 = dktX7_charm_0 := by decide +kernel
theorem dX7_charm_0 : decode cX7_charm 0 = .ok (.aload_n 0, 1) := dk_42 (dk_at dksX7_charm_0 0 rfl rfl)
theorem dX7_charm_1 : decode cX7_charm 1 = .ok (.invokespecial 7, 3) := dk_183 0 7 (dk_at dksX7_charm_0 1 rfl rfl)
theorem dX7_charm_4 : decode cX7_charm 4 = .ok (.iconst 3, 1) := dk_6 (dk_at dksX7_charm_0 4 rfl rfl)
theorem dX7_charm_5 : decode cX7_charm 5 = .ok (.iadd, 1) := dk_96 (dk_at dksX7_charm_0 5 rfl rfl)
theorem dX7_charm_6 : decode cX7_charm 6 = .ok (.ireturn, 1) := dk_172 (dk_at dksX7_charm_0 6 rfl rfl)
theorem q101 : (Jvm.Cond.initialized "PrayerMatsFace$Boy") ∈ lw_all := lw_g (lw_at lw_m1 20 rfl) rfl
theorem q309 : (Jvm.Cond.selects "PrayerMatsFace$Boy" ({ cls := "java/lang/Object", name := "getClass", desc := "()Ljava/lang/Class;" } : Jvm.MethodName) ({ cls := "java/lang/Object", name := "getClass", desc := "()Ljava/lang/Class;" } : Jvm.MethodName)) ∈ lw_all := lw_g (lw_at lw_m1 228 rfl) rfl
theorem q481 : (Jvm.Cond.instantiable "PrayerMatsFace$Boy" (2 : Nat)) ∈ lw_all := lw_g (lw_at lw_m2 160 rfl) rfl
theorem q483 : (Jvm.Cond.instanceMethod ({ cls := "PrayerMatsFace$Boy", name := "<init>", desc := "(II)V" } : Jvm.MethodName)) ∈ lw_all := lw_g (lw_at lw_m2 162 rfl) rfl
theorem q484 : (Jvm.Cond.code ({ cls := "PrayerMatsFace$Boy", name := "<init>", desc := "(II)V" } : Jvm.MethodName) prog_3_method_1_code (3 : Nat) (Option.none : Option Jvm.ClassFile.FieldType)) ∈ lw_all := lw_g (lw_at lw_m2 163 rfl) rfl
theorem q485 : (Jvm.Cond.methodLink "PrayerMatsFace$Boy" (1 : Nat) ({ cls := "PrayerMatsFace$Person", name := "<init>", desc := "(II)V" } : Jvm.MethodName)) ∈ lw_all := lw_g (lw_at lw_m2 164 rfl) rfl
theorem q486 : (Jvm.Cond.laysFinal "PrayerMatsFace$Boy" "PrayerMatsFace$Person" "kind" "I") ∈ lw_all := lw_g (lw_at lw_m2 165 rfl) rfl
theorem q487 : (Jvm.Cond.laysFinal "PrayerMatsFace$Boy" "PrayerMatsFace$Person" "figure" "I") ∈ lw_all := lw_g (lw_at lw_m2 166 rfl) rfl
theorem q488 : (Jvm.Cond.superclass "PrayerMatsFace$Boy" "PrayerMatsFace$Person") ∈ lw_all := lw_g (lw_at lw_m2 167 rfl) rfl
theorem q599 : (Jvm.Cond.selects "PrayerMatsFace$Boy" ({ cls := "PrayerMatsFace$Person", name := "soft", desc := "()I" } : Jvm.MethodName) ({ cls := "PrayerMatsFace$Boy", name := "soft", desc := "()I" } : Jvm.MethodName)) ∈ lw_all := lw_g (lw_at lw_m3 38 rfl) rfl
theorem q600 : (Jvm.Cond.instanceMethod ({ cls := "PrayerMatsFace$Boy", name := "soft", desc := "()I" } : Jvm.MethodName)) ∈ lw_all := lw_g (lw_at lw_m3 39 rfl) rfl
theorem q601 : (Jvm.Cond.code ({ cls := "PrayerMatsFace$Boy", name := "soft", desc := "()I" } : Jvm.MethodName) prog_3_method_2_code (1 : Nat) (Option.some Jvm.ClassFile.FieldType.int)) ∈ lw_all := lw_g (lw_at lw_m3 40 rfl) rfl
theorem q618 : (Jvm.Cond.selects "PrayerMatsFace$Boy" ({ cls := "PrayerMatsFace$Person", name := "sore", desc := "()I" } : Jvm.MethodName) ({ cls := "PrayerMatsFace$Boy", name := "sore", desc := "()I" } : Jvm.MethodName)) ∈ lw_all := lw_g (lw_at lw_m3 57 rfl) rfl
theorem q619 : (Jvm.Cond.instanceMethod ({ cls := "PrayerMatsFace$Boy", name := "sore", desc := "()I" } : Jvm.MethodName)) ∈ lw_all := lw_g (lw_at lw_m3 58 rfl) rfl
theorem q620 : (Jvm.Cond.code ({ cls := "PrayerMatsFace$Boy", name := "sore", desc := "()I" } : Jvm.MethodName) prog_3_method_3_code (1 : Nat) (Option.some Jvm.ClassFile.FieldType.int)) ∈ lw_all := lw_g (lw_at lw_m3 59 rfl) rfl
theorem q656 : (Jvm.Cond.selects "PrayerMatsFace$Boy" ({ cls := "PrayerMatsFace$Person", name := "charm", desc := "()I" } : Jvm.MethodName) ({ cls := "PrayerMatsFace$Boy", name := "charm", desc := "()I" } : Jvm.MethodName)) ∈ lw_all := lw_g (lw_at lw_m3 95 rfl) rfl
theorem q657 : (Jvm.Cond.instanceMethod ({ cls := "PrayerMatsFace$Boy", name := "charm", desc := "()I" } : Jvm.MethodName)) ∈ lw_all := lw_g (lw_at lw_m3 96 rfl) rfl
theorem q658 : (Jvm.Cond.code ({ cls := "PrayerMatsFace$Boy", name := "charm", desc := "()I" } : Jvm.MethodName) prog_3_method_4_code (1 : Nat) (Option.some Jvm.ClassFile.FieldType.int)) ∈ lw_all := lw_g (lw_at lw_m3 97 rfl) rfl
theorem q659 : (Jvm.Cond.methodLink "PrayerMatsFace$Boy" (7 : Nat) ({ cls := "PrayerMatsFace$Person", name := "charm", desc := "()I" } : Jvm.MethodName)) ∈ lw_all := lw_g (lw_at lw_m3 98 rfl) rfl
theorem q1513 : (Jvm.Cond.castable "PrayerMatsFace$Boy" "PrayerMatsFace$Person") ∈ lw_tbl := lw_at lw_m6 232 rfl
theorem q1524 : (Jvm.Cond.castable "PrayerMatsFace$Boy" "java/lang/Object") ∈ lw_tbl := lw_at lw_m7 3 rfl
theorem in_X7 : ∀ w ∈ wsX70, w ∈ lw_all := lw_in wsX70 [486, 487] (by decide +kernel) (by decide +kernel)

/-! PrayerMatsFace$Widower -/
set_option maxRecDepth 100000
def RX8 : String := "PrayerMatsFace$Widower"
def TX8 : u_T := fun k => match k with
  | 0 => ("PrayerMatsFace$Person", "kind", "I", true)
  | _ => ("PrayerMatsFace$Person", "figure", "I", true)
def tyX8 : Nat → FieldType := fun k => match k with
  | 0 => .int
  | _ => .int
abbrev wsX80 : List Cond := u_ws RX8 TX8 2
theorem nmX8 : ∀ a, a < 2 → ∀ b, b < 2 → a ≠ b → (TX8 a).2.1 ≠ (TX8 b).2.1 := by decide +kernel
theorem tyX8_ok : ∀ k, k < 2 → parseFieldDescriptor (TX8 k).2.2.1 = some (tyX8 k) := by decide +kernel
abbrev cX8_init : ByteArray := prog_10_method_1_code
def yX8_init : MethodName := ⟨RX8, "<init>", "(II)V"⟩
def dkwX8_init_0 : List UInt8 := [42, 27, 28, 183, 0, 1, 177]
abbrev dktX8_init_0 : List UInt8 := dkwX8_init_0 ++ []
theorem dksX8_init_0 : cX8_init.data.toList.drop 0 = dktX8_init_0 := by decide +kernel
theorem dX8_init_0 : decode cX8_init 0 = .ok (.aload_n 0, 1) := dk_42 (dk_at dksX8_init_0 0 rfl rfl)
theorem dX8_init_1 : decode cX8_init 1 = .ok (.iload_n 1, 1) := dk_27 (dk_at dksX8_init_0 1 rfl rfl)
theorem dX8_init_2 : decode cX8_init 2 = .ok (.iload_n 2, 1) := dk_28 (dk_at dksX8_init_0 2 rfl rfl)
theorem dX8_init_3 : decode cX8_init 3 = .ok (.invokespecial 1, 3) := dk_183 0 1 (dk_at dksX8_init_0 3 rfl rfl)
theorem dX8_init_6 : decode cX8_init 6 = .ok (.return_, 1) := dk_177 (dk_at dksX8_init_0 6 rfl rfl)
abbrev cX8_soft : ByteArray := prog_10_method_2_code
def yX8_soft : MethodName := ⟨RX8, "soft", "()I"⟩
def dkwX8_soft_0 : List UInt8 := [42, 183, 0, 7, 4, 96, 172]
abbrev dktX8_soft_0 : List UInt8 := dkwX8_soft_0 ++ []
theorem dksX8_soft_0 : cX8_soft.data.toList.drop 0 = dktX8_soft_0 := by decide +kernel
theorem dX8_soft_0 : decode cX8_soft 0 = .ok (.aload_n 0, 1) := dk_42 (dk_at dksX8_soft_0 0 rfl rfl)
theorem dX8_soft_1 : decode cX8_soft 1 = .ok (.invokespecial 7, 3) := dk_183 0 7 (dk_at dksX8_soft_0 1 rfl rfl)
theorem dX8_soft_4 : decode cX8_soft 4 = .ok (.iconst 1, 1) := dk_4 (dk_at dksX8_soft_0 4 rfl rfl)
theorem dX8_soft_5 : decode cX8_soft 5 = .ok (.iadd, 1) := dk_96 (dk_at dksX8_soft_0 5 rfl rfl)
theorem dX8_soft_6 : decode cX8_soft 6 = .ok (.ireturn, 1) := dk_172 (dk_at dksX8_soft_0 6 rfl rfl)
abbrev cX8_sore : ByteArray := prog_10_method_3_code
def yX8_sore : MethodName := ⟨RX8, "sore", "()I"⟩
def dkwX8_sore_0 : List UInt8 := [42, 180, 0, 11, 6, 108, 172]
abbrev dktX8_sore_0 : List UInt8 := dkwX8_sore_0 ++ []
theorem dksX8_sore_0 : cX8_sore.data.toList.drop 0 = dktX8_sore_0 := by decide +kernel
theorem dX8_sore_0 : decode cX8_sore 0 = .ok (.aload_n 0, 1) := dk_42 (dk_at dksX8_sore_0 0 rfl rfl)
theorem dX8_sore_1 : decode cX8_sore 1 = .ok (.getfield 11, 3) := dk_180 0 11 (dk_at dksX8_sore_0 1 rfl rfl)
theorem dX8_sore_4 : decode cX8_sore 4 = .ok (.iconst 3, 1) := dk_6 (dk_at dksX8_sore_0 4 rfl rfl)
theorem dX8_sore_5 : decode cX8_sore 5 = .ok (.idiv, 1) := dk_108 (dk_at dksX8_sore_0 5 rfl rfl)
theorem dX8_sore_6 : decode cX8_sore 6 = .ok (.ireturn, 1) := dk_172 (dk_at dksX8_sore_0 6 rfl rfl)
abbrev cX8_charm : ByteArray := prog_10_method_4_code
def yX8_charm : MethodName := ⟨RX8, "charm", "()I"⟩
theorem dX8_charm_0 : decode cX8_charm 0 = .ok (.iconst 0, 1) := by decide +kernel
theorem dX8_charm_1 : decode cX8_charm 1 = .ok (.ireturn, 1) := by decide +kernel
theorem q102 : (Jvm.Cond.initialized "PrayerMatsFace$Widower") ∈ lw_all := lw_g (lw_at lw_m1 21 rfl) rfl
theorem q316 : (Jvm.Cond.selects "PrayerMatsFace$Widower" ({ cls := "java/lang/Object", name := "getClass", desc := "()Ljava/lang/Class;" } : Jvm.MethodName) ({ cls := "java/lang/Object", name := "getClass", desc := "()Ljava/lang/Class;" } : Jvm.MethodName)) ∈ lw_all := lw_g (lw_at lw_m1 235 rfl) rfl
theorem q472 : (Jvm.Cond.fieldLink "PrayerMatsFace$Widower" (11 : Nat) "PrayerMatsFace$Widower" "figure" "I") ∈ lw_all := lw_g (lw_at lw_m2 151 rfl) rfl
theorem q473 : (Jvm.Cond.sameField "PrayerMatsFace$Widower" "PrayerMatsFace$Person" "figure" "I") ∈ lw_all := lw_g (lw_at lw_m2 152 rfl) rfl
theorem q490 : (Jvm.Cond.instantiable "PrayerMatsFace$Widower" (2 : Nat)) ∈ lw_all := lw_g (lw_at lw_m2 169 rfl) rfl
theorem q492 : (Jvm.Cond.instanceMethod ({ cls := "PrayerMatsFace$Widower", name := "<init>", desc := "(II)V" } : Jvm.MethodName)) ∈ lw_all := lw_g (lw_at lw_m2 171 rfl) rfl
theorem q493 : (Jvm.Cond.code ({ cls := "PrayerMatsFace$Widower", name := "<init>", desc := "(II)V" } : Jvm.MethodName) prog_10_method_1_code (3 : Nat) (Option.none : Option Jvm.ClassFile.FieldType)) ∈ lw_all := lw_g (lw_at lw_m2 172 rfl) rfl
theorem q494 : (Jvm.Cond.methodLink "PrayerMatsFace$Widower" (1 : Nat) ({ cls := "PrayerMatsFace$Person", name := "<init>", desc := "(II)V" } : Jvm.MethodName)) ∈ lw_all := lw_g (lw_at lw_m2 173 rfl) rfl
theorem q495 : (Jvm.Cond.laysFinal "PrayerMatsFace$Widower" "PrayerMatsFace$Person" "kind" "I") ∈ lw_all := lw_g (lw_at lw_m2 174 rfl) rfl
theorem q496 : (Jvm.Cond.laysFinal "PrayerMatsFace$Widower" "PrayerMatsFace$Person" "figure" "I") ∈ lw_all := lw_g (lw_at lw_m2 175 rfl) rfl
theorem q497 : (Jvm.Cond.superclass "PrayerMatsFace$Widower" "PrayerMatsFace$Person") ∈ lw_all := lw_g (lw_at lw_m2 176 rfl) rfl
theorem q595 : (Jvm.Cond.instanceMethod ({ cls := "PrayerMatsFace$Widower", name := "soft", desc := "()I" } : Jvm.MethodName)) ∈ lw_all := lw_g (lw_at lw_m3 34 rfl) rfl
theorem q596 : (Jvm.Cond.code ({ cls := "PrayerMatsFace$Widower", name := "soft", desc := "()I" } : Jvm.MethodName) prog_10_method_2_code (1 : Nat) (Option.some Jvm.ClassFile.FieldType.int)) ∈ lw_all := lw_g (lw_at lw_m3 35 rfl) rfl
theorem q597 : (Jvm.Cond.methodLink "PrayerMatsFace$Widower" (7 : Nat) ({ cls := "PrayerMatsFace$Person", name := "soft", desc := "()I" } : Jvm.MethodName)) ∈ lw_all := lw_g (lw_at lw_m3 36 rfl) rfl
theorem q609 : (Jvm.Cond.selects "PrayerMatsFace$Widower" ({ cls := "PrayerMatsFace$Person", name := "soft", desc := "()I" } : Jvm.MethodName) ({ cls := "PrayerMatsFace$Widower", name := "soft", desc := "()I" } : Jvm.MethodName)) ∈ lw_all := lw_g (lw_at lw_m3 48 rfl) rfl
theorem q616 : (Jvm.Cond.instanceMethod ({ cls := "PrayerMatsFace$Widower", name := "sore", desc := "()I" } : Jvm.MethodName)) ∈ lw_all := lw_g (lw_at lw_m3 55 rfl) rfl
theorem q617 : (Jvm.Cond.code ({ cls := "PrayerMatsFace$Widower", name := "sore", desc := "()I" } : Jvm.MethodName) prog_10_method_3_code (1 : Nat) (Option.some Jvm.ClassFile.FieldType.int)) ∈ lw_all := lw_g (lw_at lw_m3 56 rfl) rfl
theorem q630 : (Jvm.Cond.selects "PrayerMatsFace$Widower" ({ cls := "PrayerMatsFace$Person", name := "sore", desc := "()I" } : Jvm.MethodName) ({ cls := "PrayerMatsFace$Widower", name := "sore", desc := "()I" } : Jvm.MethodName)) ∈ lw_all := lw_g (lw_at lw_m3 69 rfl) rfl
theorem q669 : (Jvm.Cond.selects "PrayerMatsFace$Widower" ({ cls := "PrayerMatsFace$Person", name := "charm", desc := "()I" } : Jvm.MethodName) ({ cls := "PrayerMatsFace$Widower", name := "charm", desc := "()I" } : Jvm.MethodName)) ∈ lw_all := lw_g (lw_at lw_m3 108 rfl) rfl
theorem q670 : (Jvm.Cond.instanceMethod ({ cls := "PrayerMatsFace$Widower", name := "charm", desc := "()I" } : Jvm.MethodName)) ∈ lw_all := lw_g (lw_at lw_m3 109 rfl) rfl
theorem q671 : (Jvm.Cond.code ({ cls := "PrayerMatsFace$Widower", name := "charm", desc := "()I" } : Jvm.MethodName) prog_10_method_4_code (1 : Nat) (Option.some Jvm.ClassFile.FieldType.int)) ∈ lw_all := lw_g (lw_at lw_m3 110 rfl) rfl
theorem q1507 : (Jvm.Cond.sameMethod "PrayerMatsFace$Widower" "PrayerMatsFace$Widower" "soft" "()I") ∈ lw_all := lw_g (lw_at lw_m6 226 rfl) rfl
theorem q1516 : (Jvm.Cond.castable "PrayerMatsFace$Widower" "PrayerMatsFace$Person") ∈ lw_tbl := lw_at lw_m6 235 rfl
theorem q1525 : (Jvm.Cond.castable "PrayerMatsFace$Widower" "java/lang/Object") ∈ lw_tbl := lw_at lw_m7 4 rfl
theorem in_X8 : ∀ w ∈ wsX80, w ∈ lw_all := lw_in wsX80 [495, 496] (by decide +kernel) (by decide +kernel)

/-! PrayerMatsFace$Dealer -/
set_option maxRecDepth 100000
def RX9 : String := "PrayerMatsFace$Dealer"
def TX9 : u_T := fun k => match k with
  | 0 => ("PrayerMatsFace$Person", "kind", "I", true)
  | _ => ("PrayerMatsFace$Person", "figure", "I", true)
def tyX9 : Nat → FieldType := fun k => match k with
  | 0 => .int
  | _ => .int
abbrev wsX90 : List Cond := u_ws RX9 TX9 2
theorem nmX9 : ∀ a, a < 2 → ∀ b, b < 2 → a ≠ b → (TX9 a).2.1 ≠ (TX9 b).2.1 := by decide +kernel
theorem tyX9_ok : ∀ k, k < 2 → parseFieldDescriptor (TX9 k).2.2.1 = some (tyX9 k) := by decide +kernel
abbrev cX9_init : ByteArray := prog_4_method_1_code
def yX9_init : MethodName := ⟨RX9, "<init>", "(II)V"⟩
def dkwX9_init_0 : List UInt8 := [42, 27, 28, 183, 0, 1, 177]
abbrev dktX9_init_0 : List UInt8 := dkwX9_init_0 ++ []
theorem dksX9_init_0 : cX9_init.data.toList.drop 0 = dktX9_init_0 := by decide +kernel
theorem dX9_init_0 : decode cX9_init 0 = .ok (.aload_n 0, 1) := dk_42 (dk_at dksX9_init_0 0 rfl rfl)
theorem dX9_init_1 : decode cX9_init 1 = .ok (.iload_n 1, 1) := dk_27 (dk_at dksX9_init_0 1 rfl rfl)
theorem dX9_init_2 : decode cX9_init 2 = .ok (.iload_n 2, 1) := dk_28 (dk_at dksX9_init_0 2 rfl rfl)
theorem dX9_init_3 : decode cX9_init 3 = .ok (.invokespecial 1, 3) := dk_183 0 1 (dk_at dksX9_init_0 3 rfl rfl)
theorem dX9_init_6 : decode cX9_init 6 = .ok (.return_, 1) := dk_177 (dk_at dksX9_init_0 6 rfl rfl)
abbrev cX9_soft : ByteArray := prog_4_method_2_code
def yX9_soft : MethodName := ⟨RX9, "soft", "()I"⟩
def dkwX9_soft_0 : List UInt8 := [42, 183, 0, 7, 4, 96, 172]
abbrev dktX9_soft_0 : List UInt8 := dkwX9_soft_0 ++ []
theorem dksX9_soft_0 : cX9_soft.data.toList.drop 0 = dktX9_soft_0 := by decide +kernel
theorem dX9_soft_0 : decode cX9_soft 0 = .ok (.aload_n 0, 1) := dk_42 (dk_at dksX9_soft_0 0 rfl rfl)
theorem dX9_soft_1 : decode cX9_soft 1 = .ok (.invokespecial 7, 3) := dk_183 0 7 (dk_at dksX9_soft_0 1 rfl rfl)
theorem dX9_soft_4 : decode cX9_soft 4 = .ok (.iconst 1, 1) := dk_4 (dk_at dksX9_soft_0 4 rfl rfl)
theorem dX9_soft_5 : decode cX9_soft 5 = .ok (.iadd, 1) := dk_96 (dk_at dksX9_soft_0 5 rfl rfl)
theorem dX9_soft_6 : decode cX9_soft 6 = .ok (.ireturn, 1) := dk_172 (dk_at dksX9_soft_0 6 rfl rfl)
abbrev cX9_sore : ByteArray := prog_4_method_3_code
def yX9_sore : MethodName := ⟨RX9, "sore", "()I"⟩
def dkwX9_sore_0 : List UInt8 := [42, 183, 0, 11, 5, 108, 172]
abbrev dktX9_sore_0 : List UInt8 := dkwX9_sore_0 ++ []
theorem dksX9_sore_0 : cX9_sore.data.toList.drop 0 = dktX9_sore_0 := by decide +kernel
theorem dX9_sore_0 : decode cX9_sore 0 = .ok (.aload_n 0, 1) := dk_42 (dk_at dksX9_sore_0 0 rfl rfl)
theorem dX9_sore_1 : decode cX9_sore 1 = .ok (.invokespecial 11, 3) := dk_183 0 11 (dk_at dksX9_sore_0 1 rfl rfl)
theorem dX9_sore_4 : decode cX9_sore 4 = .ok (.iconst 2, 1) := dk_5 (dk_at dksX9_sore_0 4 rfl rfl)
theorem dX9_sore_5 : decode cX9_sore 5 = .ok (.idiv, 1) := dk_108 (dk_at dksX9_sore_0 5 rfl rfl)
theorem dX9_sore_6 : decode cX9_sore 6 = .ok (.ireturn, 1) := dk_172 (dk_at dksX9_sore_0 6 rfl rfl)
abbrev cX9_charm : ByteArray := prog_4_method_4_code
def yX9_charm : MethodName := ⟨RX9, "charm", "()I"⟩
def dkwX9_charm_0 : List UInt8 := [42, 183, 0, 14, 7, 96, 172]
abbrev dktX9_charm_0 : List UInt8 := dkwX9_charm_0 ++ []
theorem dksX9_charm_0 : cX9_charm.data.toList.drop 0 = dktX9_charm_0 := by decide +kernel
theorem dX9_charm_0 : decode cX9_charm 0 = .ok (.aload_n 0, 1) := dk_42 (dk_at dksX9_charm_0 0 rfl rfl)
theorem dX9_charm_1 : decode cX9_charm 1 = .ok (.invokespecial 14, 3) := dk_183 0 14 (dk_at dksX9_charm_0 1 rfl rfl)
theorem dX9_charm_4 : decode cX9_charm 4 = .ok (.iconst 4, 1) := dk_7 (dk_at dksX9_charm_0 4 rfl rfl)
theorem dX9_charm_5 : decode cX9_charm 5 = .ok (.iadd, 1) := dk_96 (dk_at dksX9_charm_0 5 rfl rfl)
theorem dX9_charm_6 : decode cX9_charm 6 = .ok (.ireturn, 1) := dk_172 (dk_at dksX9_charm_0 6 rfl rfl)
theorem q103 : (Jvm.Cond.initialized "PrayerMatsFace$Dealer") ∈ lw_all := lw_g (lw_at lw_m1 22 rfl) rfl
theorem q310 : (Jvm.Cond.selects "PrayerMatsFace$Dealer" ({ cls := "java/lang/Object", name := "getClass", desc := "()Ljava/lang/Class;" } : Jvm.MethodName) ({ cls := "java/lang/Object", name := "getClass", desc := "()Ljava/lang/Class;" } : Jvm.MethodName)) ∈ lw_all := lw_g (lw_at lw_m1 229 rfl) rfl
theorem q499 : (Jvm.Cond.instantiable "PrayerMatsFace$Dealer" (2 : Nat)) ∈ lw_all := lw_g (lw_at lw_m2 178 rfl) rfl
theorem q501 : (Jvm.Cond.instanceMethod ({ cls := "PrayerMatsFace$Dealer", name := "<init>", desc := "(II)V" } : Jvm.MethodName)) ∈ lw_all := lw_g (lw_at lw_m2 180 rfl) rfl
theorem q502 : (Jvm.Cond.code ({ cls := "PrayerMatsFace$Dealer", name := "<init>", desc := "(II)V" } : Jvm.MethodName) prog_4_method_1_code (3 : Nat) (Option.none : Option Jvm.ClassFile.FieldType)) ∈ lw_all := lw_g (lw_at lw_m2 181 rfl) rfl
theorem q503 : (Jvm.Cond.methodLink "PrayerMatsFace$Dealer" (1 : Nat) ({ cls := "PrayerMatsFace$Merchant", name := "<init>", desc := "(II)V" } : Jvm.MethodName)) ∈ lw_all := lw_g (lw_at lw_m2 182 rfl) rfl
theorem q504 : (Jvm.Cond.laysFinal "PrayerMatsFace$Dealer" "PrayerMatsFace$Person" "kind" "I") ∈ lw_all := lw_g (lw_at lw_m2 183 rfl) rfl
theorem q505 : (Jvm.Cond.laysFinal "PrayerMatsFace$Dealer" "PrayerMatsFace$Person" "figure" "I") ∈ lw_all := lw_g (lw_at lw_m2 184 rfl) rfl
theorem q506 : (Jvm.Cond.superclass "PrayerMatsFace$Dealer" "PrayerMatsFace$Merchant") ∈ lw_all := lw_g (lw_at lw_m2 185 rfl) rfl
theorem q602 : (Jvm.Cond.selects "PrayerMatsFace$Dealer" ({ cls := "PrayerMatsFace$Person", name := "soft", desc := "()I" } : Jvm.MethodName) ({ cls := "PrayerMatsFace$Dealer", name := "soft", desc := "()I" } : Jvm.MethodName)) ∈ lw_all := lw_g (lw_at lw_m3 41 rfl) rfl
theorem q603 : (Jvm.Cond.instanceMethod ({ cls := "PrayerMatsFace$Dealer", name := "soft", desc := "()I" } : Jvm.MethodName)) ∈ lw_all := lw_g (lw_at lw_m3 42 rfl) rfl
theorem q604 : (Jvm.Cond.code ({ cls := "PrayerMatsFace$Dealer", name := "soft", desc := "()I" } : Jvm.MethodName) prog_4_method_2_code (1 : Nat) (Option.some Jvm.ClassFile.FieldType.int)) ∈ lw_all := lw_g (lw_at lw_m3 43 rfl) rfl
theorem q605 : (Jvm.Cond.methodLink "PrayerMatsFace$Dealer" (7 : Nat) ({ cls := "PrayerMatsFace$Merchant", name := "soft", desc := "()I" } : Jvm.MethodName)) ∈ lw_all := lw_g (lw_at lw_m3 44 rfl) rfl
theorem q621 : (Jvm.Cond.selects "PrayerMatsFace$Dealer" ({ cls := "PrayerMatsFace$Person", name := "sore", desc := "()I" } : Jvm.MethodName) ({ cls := "PrayerMatsFace$Dealer", name := "sore", desc := "()I" } : Jvm.MethodName)) ∈ lw_all := lw_g (lw_at lw_m3 60 rfl) rfl
theorem q622 : (Jvm.Cond.instanceMethod ({ cls := "PrayerMatsFace$Dealer", name := "sore", desc := "()I" } : Jvm.MethodName)) ∈ lw_all := lw_g (lw_at lw_m3 61 rfl) rfl
theorem q623 : (Jvm.Cond.code ({ cls := "PrayerMatsFace$Dealer", name := "sore", desc := "()I" } : Jvm.MethodName) prog_4_method_3_code (1 : Nat) (Option.some Jvm.ClassFile.FieldType.int)) ∈ lw_all := lw_g (lw_at lw_m3 62 rfl) rfl
theorem q624 : (Jvm.Cond.methodLink "PrayerMatsFace$Dealer" (11 : Nat) ({ cls := "PrayerMatsFace$Merchant", name := "sore", desc := "()I" } : Jvm.MethodName)) ∈ lw_all := lw_g (lw_at lw_m3 63 rfl) rfl
theorem q661 : (Jvm.Cond.selects "PrayerMatsFace$Dealer" ({ cls := "PrayerMatsFace$Person", name := "charm", desc := "()I" } : Jvm.MethodName) ({ cls := "PrayerMatsFace$Dealer", name := "charm", desc := "()I" } : Jvm.MethodName)) ∈ lw_all := lw_g (lw_at lw_m3 100 rfl) rfl
theorem q662 : (Jvm.Cond.instanceMethod ({ cls := "PrayerMatsFace$Dealer", name := "charm", desc := "()I" } : Jvm.MethodName)) ∈ lw_all := lw_g (lw_at lw_m3 101 rfl) rfl
theorem q663 : (Jvm.Cond.code ({ cls := "PrayerMatsFace$Dealer", name := "charm", desc := "()I" } : Jvm.MethodName) prog_4_method_4_code (1 : Nat) (Option.some Jvm.ClassFile.FieldType.int)) ∈ lw_all := lw_g (lw_at lw_m3 102 rfl) rfl
theorem q664 : (Jvm.Cond.methodLink "PrayerMatsFace$Dealer" (14 : Nat) ({ cls := "PrayerMatsFace$Merchant", name := "charm", desc := "()I" } : Jvm.MethodName)) ∈ lw_all := lw_g (lw_at lw_m3 103 rfl) rfl
theorem q1514 : (Jvm.Cond.castable "PrayerMatsFace$Dealer" "PrayerMatsFace$Person") ∈ lw_tbl := lw_at lw_m6 233 rfl
theorem q1526 : (Jvm.Cond.castable "PrayerMatsFace$Dealer" "java/lang/Object") ∈ lw_tbl := lw_at lw_m7 5 rfl
theorem in_X9 : ∀ w ∈ wsX90, w ∈ lw_all := lw_in wsX90 [504, 505] (by decide +kernel) (by decide +kernel)

theorem q81 : (Jvm.Cond.initialized "PrayerMatsFaceLaw") ∈ lw_all := lw_g (lw_at lw_m1 0 rfl) rfl
set_option maxRecDepth 100000
theorem q105 : (Jvm.Cond.classLink "PrayerMatsFaceLaw" (7 : Nat) "PrayerMatsFace") ∈ lw_all := lw_g (lw_at lw_m1 24 rfl) rfl
theorem q107 : (Jvm.Cond.methodLink "PrayerMatsFaceLaw" (9 : Nat) ({ cls := "PrayerMatsFace", name := "<init>", desc := "()V" } : Jvm.MethodName)) ∈ lw_all := lw_g (lw_at lw_m1 26 rfl) rfl
theorem q226 : (Jvm.Cond.methodLink "PrayerMatsFaceLaw" (13 : Nat) ({ cls := "PrayerMatsFace", name := "feed", desc := "(I)I" } : Jvm.MethodName)) ∈ lw_all := lw_g (lw_at lw_m1 145 rfl) rfl
theorem q237 : (Jvm.Cond.methodLink "PrayerMatsFaceLaw" (18 : Nat) ({ cls := "PrayerMatsFace", name := "quarter", desc := "()I" } : Jvm.MethodName)) ∈ lw_all := lw_g (lw_at lw_m1 156 rfl) rfl
theorem q634 : (Jvm.Cond.methodLink "PrayerMatsFaceLaw" (23 : Nat) ({ cls := "PrayerMatsFace", name := "personOf", desc := "(II)I" } : Jvm.MethodName)) ∈ lw_all := lw_g (lw_at lw_m3 73 rfl) rfl
theorem q672 : (Jvm.Cond.methodLink "PrayerMatsFaceLaw" (28 : Nat) ({ cls := "PrayerMatsFace", name := "between", desc := "(III)I" } : Jvm.MethodName)) ∈ lw_all := lw_g (lw_at lw_m3 111 rfl) rfl
theorem q689 : (Jvm.Cond.methodLink "PrayerMatsFaceLaw" (33 : Nat) ({ cls := "PrayerMatsFace", name := "person", desc := "(III)I" } : Jvm.MethodName)) ∈ lw_all := lw_g (lw_at lw_m3 128 rfl) rfl
theorem q695 : (Jvm.Cond.methodLink "PrayerMatsFaceLaw" (37 : Nat) ({ cls := "PrayerMatsFace", name := "comes", desc := "(II)I" } : Jvm.MethodName)) ∈ lw_all := lw_g (lw_at lw_m3 134 rfl) rfl
theorem q703 : (Jvm.Cond.methodLink "PrayerMatsFaceLaw" (41 : Nat) ({ cls := "PrayerMatsFace", name := "quarrels", desc := "(III)I" } : Jvm.MethodName)) ∈ lw_all := lw_g (lw_at lw_m3 142 rfl) rfl
theorem q708 : (Jvm.Cond.methodLink "PrayerMatsFaceLaw" (45 : Nat) ({ cls := "PrayerMatsFace", name := "joins", desc := "(II)I" } : Jvm.MethodName)) ∈ lw_all := lw_g (lw_at lw_m3 147 rfl) rfl
theorem q717 : (Jvm.Cond.methodLink "PrayerMatsFaceLaw" (49 : Nat) ({ cls := "PrayerMatsFace", name := "days", desc := "(I)I" } : Jvm.MethodName)) ∈ lw_all := lw_g (lw_at lw_m3 156 rfl) rfl
theorem q726 : (Jvm.Cond.methodLink "PrayerMatsFaceLaw" (53 : Nat) ({ cls := "PrayerMatsFace", name := "back", desc := "()I" } : Jvm.MethodName)) ∈ lw_all := lw_g (lw_at lw_m3 165 rfl) rfl
theorem q730 : (Jvm.Cond.methodLink "PrayerMatsFaceLaw" (57 : Nat) ({ cls := "PrayerMatsFace", name := "behind", desc := "(III)I" } : Jvm.MethodName)) ∈ lw_all := lw_g (lw_at lw_m3 169 rfl) rfl
theorem q741 : (Jvm.Cond.methodLink "PrayerMatsFaceLaw" (61 : Nat) ({ cls := "PrayerMatsFace", name := "all", desc := "(II)I" } : Jvm.MethodName)) ∈ lw_all := lw_g (lw_at lw_m3 180 rfl) rfl
theorem q752 : (Jvm.Cond.methodLink "PrayerMatsFaceLaw" (65 : Nat) ({ cls := "PrayerMatsFace", name := "mended", desc := "(II)I" } : Jvm.MethodName)) ∈ lw_all := lw_g (lw_at lw_m3 191 rfl) rfl
theorem q764 : (Jvm.Cond.methodLink "PrayerMatsFaceLaw" (69 : Nat) ({ cls := "PrayerMatsFace", name := "never", desc := "()I" } : Jvm.MethodName)) ∈ lw_all := lw_g (lw_at lw_m3 203 rfl) rfl
theorem q768 : (Jvm.Cond.methodLink "PrayerMatsFaceLaw" (73 : Nat) ({ cls := "PrayerMatsFace", name := "turn", desc := "(II)I" } : Jvm.MethodName)) ∈ lw_all := lw_g (lw_at lw_m3 207 rfl) rfl
theorem q777 : (Jvm.Cond.methodLink "PrayerMatsFaceLaw" (77 : Nat) ({ cls := "PrayerMatsFace", name := "leaves", desc := "(I)I" } : Jvm.MethodName)) ∈ lw_all := lw_g (lw_at lw_m3 216 rfl) rfl
theorem q794 : (Jvm.Cond.methodLink "PrayerMatsFaceLaw" (81 : Nat) ({ cls := "PrayerMatsFace", name := "pairings", desc := "(I)I" } : Jvm.MethodName)) ∈ lw_all := lw_g (lw_at lw_m3 233 rfl) rfl
theorem q822 : (Jvm.Cond.methodLink "PrayerMatsFaceLaw" (85 : Nat) ({ cls := "PrayerMatsFace", name := "bestPairing", desc := "(II)I" } : Jvm.MethodName)) ∈ lw_all := lw_g (lw_at lw_m4 21 rfl) rfl
theorem q826 : (Jvm.Cond.methodLink "PrayerMatsFaceLaw" (89 : Nat) ({ cls := "PrayerMatsFace", name := "soonest", desc := "(II)I" } : Jvm.MethodName)) ∈ lw_all := lw_g (lw_at lw_m4 25 rfl) rfl
theorem q830 : (Jvm.Cond.methodLink "PrayerMatsFaceLaw" (93 : Nat) ({ cls := "PrayerMatsFace", name := "mateFor", desc := "(II)I" } : Jvm.MethodName)) ∈ lw_all := lw_g (lw_at lw_m4 29 rfl) rfl
theorem q839 : (Jvm.Cond.methodLink "PrayerMatsFaceLaw" (97 : Nat) ({ cls := "PrayerMatsFace", name := "hoursFor", desc := "(II)I" } : Jvm.MethodName)) ∈ lw_all := lw_g (lw_at lw_m4 38 rfl) rfl
theorem q844 : (Jvm.Cond.methodLink "PrayerMatsFaceLaw" (101 : Nat) ({ cls := "PrayerMatsFace", name := "swap", desc := "()I" } : Jvm.MethodName)) ∈ lw_all := lw_g (lw_at lw_m4 43 rfl) rfl
theorem q852 : (Jvm.Cond.methodLink "PrayerMatsFaceLaw" (105 : Nat) ({ cls := "PrayerMatsFace", name := "glad", desc := "(I)I" } : Jvm.MethodName)) ∈ lw_all := lw_g (lw_at lw_m4 51 rfl) rfl
theorem q856 : (Jvm.Cond.methodLink "PrayerMatsFaceLaw" (109 : Nat) ({ cls := "PrayerMatsFace", name := "who", desc := "(III)I" } : Jvm.MethodName)) ∈ lw_all := lw_g (lw_at lw_m4 55 rfl) rfl
theorem q872 : (Jvm.Cond.methodLink "PrayerMatsFaceLaw" (113 : Nat) ({ cls := "PrayerMatsFace", name := "ways", desc := "(II)I" } : Jvm.MethodName)) ∈ lw_all := lw_g (lw_at lw_m4 71 rfl) rfl
theorem q880 : (Jvm.Cond.methodLink "PrayerMatsFaceLaw" (117 : Nat) ({ cls := "PrayerMatsFace", name := "away", desc := "(IIIIII)J" } : Jvm.MethodName)) ∈ lw_all := lw_g (lw_at lw_m4 79 rfl) rfl
theorem q902 : (Jvm.Cond.methodLink "PrayerMatsFaceLaw" (122 : Nat) ({ cls := "PrayerMatsFace", name := "fullest", desc := "(I)I" } : Jvm.MethodName)) ∈ lw_all := lw_g (lw_at lw_m4 101 rfl) rfl
theorem q910 : (Jvm.Cond.methodLink "PrayerMatsFaceLaw" (126 : Nat) ({ cls := "PrayerMatsFace", name := "charmer", desc := "()I" } : Jvm.MethodName)) ∈ lw_all := lw_g (lw_at lw_m4 109 rfl) rfl
theorem q914 : (Jvm.Cond.methodLink "PrayerMatsFaceLaw" (130 : Nat) ({ cls := "PrayerMatsFace", name := "friends", desc := "()I" } : Jvm.MethodName)) ∈ lw_all := lw_g (lw_at lw_m4 113 rfl) rfl
theorem q918 : (Jvm.Cond.methodLink "PrayerMatsFaceLaw" (134 : Nat) ({ cls := "PrayerMatsFace", name := "chain", desc := "(I)I" } : Jvm.MethodName)) ∈ lw_all := lw_g (lw_at lw_m4 117 rfl) rfl
theorem q922 : (Jvm.Cond.methodLink "PrayerMatsFaceLaw" (138 : Nat) ({ cls := "PrayerMatsFace", name := "lonely", desc := "()I" } : Jvm.MethodName)) ∈ lw_all := lw_g (lw_at lw_m4 121 rfl) rfl
theorem q930 : (Jvm.Cond.methodLink "PrayerMatsFaceLaw" (142 : Nat) ({ cls := "PrayerMatsFace", name := "spread", desc := "()I" } : Jvm.MethodName)) ∈ lw_all := lw_g (lw_at lw_m4 129 rfl) rfl
theorem q935 : (Jvm.Cond.methodLink "PrayerMatsFaceLaw" (146 : Nat) ({ cls := "PrayerMatsFace", name := "mean", desc := "(I)J" } : Jvm.MethodName)) ∈ lw_all := lw_g (lw_at lw_m4 134 rfl) rfl
theorem q939 : (Jvm.Cond.methodLink "PrayerMatsFaceLaw" (151 : Nat) ({ cls := "PrayerMatsFace", name := "enemy", desc := "(I)I" } : Jvm.MethodName)) ∈ lw_all := lw_g (lw_at lw_m4 138 rfl) rfl
theorem q943 : (Jvm.Cond.methodLink "PrayerMatsFaceLaw" (155 : Nat) ({ cls := "PrayerMatsFace", name := "peace", desc := "()I" } : Jvm.MethodName)) ∈ lw_all := lw_g (lw_at lw_m4 142 rfl) rfl
theorem q950 : (Jvm.Cond.methodLink "PrayerMatsFaceLaw" (159 : Nat) ({ cls := "PrayerMatsFace", name := "helps", desc := "(III)I" } : Jvm.MethodName)) ∈ lw_all := lw_g (lw_at lw_m4 149 rfl) rfl
theorem q954 : (Jvm.Cond.methodLink "PrayerMatsFaceLaw" (163 : Nat) ({ cls := "PrayerMatsFace", name := "doubled", desc := "()I" } : Jvm.MethodName)) ∈ lw_all := lw_g (lw_at lw_m4 153 rfl) rfl
theorem q963 : (Jvm.Cond.methodLink "PrayerMatsFaceLaw" (167 : Nat) ({ cls := "PrayerMatsFace", name := "row", desc := "(I)I" } : Jvm.MethodName)) ∈ lw_all := lw_g (lw_at lw_m4 162 rfl) rfl
theorem q967 : (Jvm.Cond.methodLink "PrayerMatsFaceLaw" (175 : Nat) ({ cls := "PrayerMatsFace", name := "clear", desc := "()I" } : Jvm.MethodName)) ∈ lw_all := lw_g (lw_at lw_m4 166 rfl) rfl
theorem q971 : (Jvm.Cond.methodLink "PrayerMatsFaceLaw" (171 : Nat) ({ cls := "PrayerMatsFace", name := "judge", desc := "(I)I" } : Jvm.MethodName)) ∈ lw_all := lw_g (lw_at lw_m4 170 rfl) rfl
theorem q976 : (Jvm.Cond.methodLink "PrayerMatsFaceLaw" (179 : Nat) ({ cls := "PrayerMatsFace", name := "lots", desc := "(III)I" } : Jvm.MethodName)) ∈ lw_all := lw_g (lw_at lw_m4 175 rfl) rfl
theorem q987 : (Jvm.Cond.methodLink "PrayerMatsFaceLaw" (183 : Nat) ({ cls := "PrayerMatsFace", name := "image", desc := "()I" } : Jvm.MethodName)) ∈ lw_all := lw_g (lw_at lw_m4 186 rfl) rfl
theorem q991 : (Jvm.Cond.methodLink "PrayerMatsFaceLaw" (187 : Nat) ({ cls := "PrayerMatsFace", name := "restore", desc := "()I" } : Jvm.MethodName)) ∈ lw_all := lw_g (lw_at lw_m4 190 rfl) rfl
theorem q995 : (Jvm.Cond.methodLink "PrayerMatsFaceLaw" (191 : Nat) ({ cls := "PrayerMatsFace", name := "count", desc := "(I)I" } : Jvm.MethodName)) ∈ lw_all := lw_g (lw_at lw_m4 194 rfl) rfl
theorem q1003 : (Jvm.Cond.classLink "PrayerMatsFaceLaw" (10 : Nat) "PrayerMatsFaceModel") ∈ lw_all := lw_g (lw_at lw_m4 202 rfl) rfl
theorem q1005 : (Jvm.Cond.methodLink "PrayerMatsFaceLaw" (12 : Nat) ({ cls := "PrayerMatsFaceModel", name := "<init>", desc := "()V" } : Jvm.MethodName)) ∈ lw_all := lw_g (lw_at lw_m4 204 rfl) rfl
theorem q1109 : (Jvm.Cond.methodLink "PrayerMatsFaceLaw" (17 : Nat) ({ cls := "PrayerMatsFaceModel", name := "feed", desc := "(I)I" } : Jvm.MethodName)) ∈ lw_all := lw_g (lw_at lw_m5 68 rfl) rfl
theorem q1117 : (Jvm.Cond.methodLink "PrayerMatsFaceLaw" (22 : Nat) ({ cls := "PrayerMatsFaceModel", name := "quarter", desc := "()I" } : Jvm.MethodName)) ∈ lw_all := lw_g (lw_at lw_m5 76 rfl) rfl
theorem q1224 : (Jvm.Cond.methodLink "PrayerMatsFaceLaw" (186 : Nat) ({ cls := "PrayerMatsFaceModel", name := "image", desc := "()I" } : Jvm.MethodName)) ∈ lw_all := lw_g (lw_at lw_m5 183 rfl) rfl
theorem q1228 : (Jvm.Cond.methodLink "PrayerMatsFaceLaw" (190 : Nat) ({ cls := "PrayerMatsFaceModel", name := "restore", desc := "()I" } : Jvm.MethodName)) ∈ lw_all := lw_g (lw_at lw_m5 187 rfl) rfl
theorem q1232 : (Jvm.Cond.methodLink "PrayerMatsFaceLaw" (56 : Nat) ({ cls := "PrayerMatsFaceModel", name := "back", desc := "()I" } : Jvm.MethodName)) ∈ lw_all := lw_g (lw_at lw_m5 191 rfl) rfl
theorem q1236 : (Jvm.Cond.methodLink "PrayerMatsFaceLaw" (27 : Nat) ({ cls := "PrayerMatsFaceModel", name := "personOf", desc := "(II)I" } : Jvm.MethodName)) ∈ lw_all := lw_g (lw_at lw_m5 195 rfl) rfl
theorem q1245 : (Jvm.Cond.methodLink "PrayerMatsFaceLaw" (32 : Nat) ({ cls := "PrayerMatsFaceModel", name := "between", desc := "(III)I" } : Jvm.MethodName)) ∈ lw_all := lw_g (lw_at lw_m5 204 rfl) rfl
theorem q1259 : (Jvm.Cond.methodLink "PrayerMatsFaceLaw" (36 : Nat) ({ cls := "PrayerMatsFaceModel", name := "person", desc := "(III)I" } : Jvm.MethodName)) ∈ lw_all := lw_g (lw_at lw_m5 218 rfl) rfl
theorem q1264 : (Jvm.Cond.methodLink "PrayerMatsFaceLaw" (40 : Nat) ({ cls := "PrayerMatsFaceModel", name := "comes", desc := "(II)I" } : Jvm.MethodName)) ∈ lw_all := lw_g (lw_at lw_m5 223 rfl) rfl
theorem q1275 : (Jvm.Cond.methodLink "PrayerMatsFaceLaw" (44 : Nat) ({ cls := "PrayerMatsFaceModel", name := "quarrels", desc := "(III)I" } : Jvm.MethodName)) ∈ lw_all := lw_g (lw_at lw_m5 234 rfl) rfl
theorem q1279 : (Jvm.Cond.methodLink "PrayerMatsFaceLaw" (48 : Nat) ({ cls := "PrayerMatsFaceModel", name := "joins", desc := "(II)I" } : Jvm.MethodName)) ∈ lw_all := lw_g (lw_at lw_m5 238 rfl) rfl
theorem q1287 : (Jvm.Cond.methodLink "PrayerMatsFaceLaw" (52 : Nat) ({ cls := "PrayerMatsFaceModel", name := "days", desc := "(I)I" } : Jvm.MethodName)) ∈ lw_all := lw_g (lw_at lw_m6 6 rfl) rfl
theorem q1295 : (Jvm.Cond.methodLink "PrayerMatsFaceLaw" (60 : Nat) ({ cls := "PrayerMatsFaceModel", name := "behind", desc := "(III)I" } : Jvm.MethodName)) ∈ lw_all := lw_g (lw_at lw_m6 14 rfl) rfl
theorem q1299 : (Jvm.Cond.methodLink "PrayerMatsFaceLaw" (64 : Nat) ({ cls := "PrayerMatsFaceModel", name := "all", desc := "(II)I" } : Jvm.MethodName)) ∈ lw_all := lw_g (lw_at lw_m6 18 rfl) rfl
theorem q1311 : (Jvm.Cond.methodLink "PrayerMatsFaceLaw" (68 : Nat) ({ cls := "PrayerMatsFaceModel", name := "mended", desc := "(II)I" } : Jvm.MethodName)) ∈ lw_all := lw_g (lw_at lw_m6 30 rfl) rfl
theorem q1319 : (Jvm.Cond.methodLink "PrayerMatsFaceLaw" (72 : Nat) ({ cls := "PrayerMatsFaceModel", name := "never", desc := "()I" } : Jvm.MethodName)) ∈ lw_all := lw_g (lw_at lw_m6 38 rfl) rfl
theorem q1323 : (Jvm.Cond.methodLink "PrayerMatsFaceLaw" (76 : Nat) ({ cls := "PrayerMatsFaceModel", name := "turn", desc := "(II)I" } : Jvm.MethodName)) ∈ lw_all := lw_g (lw_at lw_m6 42 rfl) rfl
theorem q1328 : (Jvm.Cond.methodLink "PrayerMatsFaceLaw" (80 : Nat) ({ cls := "PrayerMatsFaceModel", name := "leaves", desc := "(I)I" } : Jvm.MethodName)) ∈ lw_all := lw_g (lw_at lw_m6 47 rfl) rfl
theorem q1349 : (Jvm.Cond.methodLink "PrayerMatsFaceLaw" (84 : Nat) ({ cls := "PrayerMatsFaceModel", name := "pairings", desc := "(I)I" } : Jvm.MethodName)) ∈ lw_all := lw_g (lw_at lw_m6 68 rfl) rfl
theorem q1366 : (Jvm.Cond.methodLink "PrayerMatsFaceLaw" (88 : Nat) ({ cls := "PrayerMatsFaceModel", name := "bestPairing", desc := "(II)I" } : Jvm.MethodName)) ∈ lw_all := lw_g (lw_at lw_m6 85 rfl) rfl
theorem q1370 : (Jvm.Cond.methodLink "PrayerMatsFaceLaw" (92 : Nat) ({ cls := "PrayerMatsFaceModel", name := "soonest", desc := "(II)I" } : Jvm.MethodName)) ∈ lw_all := lw_g (lw_at lw_m6 89 rfl) rfl
theorem q1374 : (Jvm.Cond.methodLink "PrayerMatsFaceLaw" (96 : Nat) ({ cls := "PrayerMatsFaceModel", name := "mateFor", desc := "(II)I" } : Jvm.MethodName)) ∈ lw_all := lw_g (lw_at lw_m6 93 rfl) rfl
theorem q1382 : (Jvm.Cond.methodLink "PrayerMatsFaceLaw" (100 : Nat) ({ cls := "PrayerMatsFaceModel", name := "hoursFor", desc := "(II)I" } : Jvm.MethodName)) ∈ lw_all := lw_g (lw_at lw_m6 101 rfl) rfl
theorem q1386 : (Jvm.Cond.methodLink "PrayerMatsFaceLaw" (104 : Nat) ({ cls := "PrayerMatsFaceModel", name := "swap", desc := "()I" } : Jvm.MethodName)) ∈ lw_all := lw_g (lw_at lw_m6 105 rfl) rfl
theorem q1394 : (Jvm.Cond.methodLink "PrayerMatsFaceLaw" (108 : Nat) ({ cls := "PrayerMatsFaceModel", name := "glad", desc := "(I)I" } : Jvm.MethodName)) ∈ lw_all := lw_g (lw_at lw_m6 113 rfl) rfl
theorem q1398 : (Jvm.Cond.methodLink "PrayerMatsFaceLaw" (112 : Nat) ({ cls := "PrayerMatsFaceModel", name := "who", desc := "(III)I" } : Jvm.MethodName)) ∈ lw_all := lw_g (lw_at lw_m6 117 rfl) rfl
theorem q1406 : (Jvm.Cond.methodLink "PrayerMatsFaceLaw" (116 : Nat) ({ cls := "PrayerMatsFaceModel", name := "ways", desc := "(II)I" } : Jvm.MethodName)) ∈ lw_all := lw_g (lw_at lw_m6 125 rfl) rfl
theorem q1413 : (Jvm.Cond.methodLink "PrayerMatsFaceLaw" (121 : Nat) ({ cls := "PrayerMatsFaceModel", name := "away", desc := "(IIIIII)J" } : Jvm.MethodName)) ∈ lw_all := lw_g (lw_at lw_m6 132 rfl) rfl
theorem q1424 : (Jvm.Cond.methodLink "PrayerMatsFaceLaw" (125 : Nat) ({ cls := "PrayerMatsFaceModel", name := "fullest", desc := "(I)I" } : Jvm.MethodName)) ∈ lw_all := lw_g (lw_at lw_m6 143 rfl) rfl
theorem q1432 : (Jvm.Cond.methodLink "PrayerMatsFaceLaw" (129 : Nat) ({ cls := "PrayerMatsFaceModel", name := "charmer", desc := "()I" } : Jvm.MethodName)) ∈ lw_all := lw_g (lw_at lw_m6 151 rfl) rfl
theorem q1436 : (Jvm.Cond.methodLink "PrayerMatsFaceLaw" (133 : Nat) ({ cls := "PrayerMatsFaceModel", name := "friends", desc := "()I" } : Jvm.MethodName)) ∈ lw_all := lw_g (lw_at lw_m6 155 rfl) rfl
theorem q1440 : (Jvm.Cond.methodLink "PrayerMatsFaceLaw" (137 : Nat) ({ cls := "PrayerMatsFaceModel", name := "chain", desc := "(I)I" } : Jvm.MethodName)) ∈ lw_all := lw_g (lw_at lw_m6 159 rfl) rfl
theorem q1444 : (Jvm.Cond.methodLink "PrayerMatsFaceLaw" (141 : Nat) ({ cls := "PrayerMatsFaceModel", name := "lonely", desc := "()I" } : Jvm.MethodName)) ∈ lw_all := lw_g (lw_at lw_m6 163 rfl) rfl
theorem q1448 : (Jvm.Cond.methodLink "PrayerMatsFaceLaw" (145 : Nat) ({ cls := "PrayerMatsFaceModel", name := "spread", desc := "()I" } : Jvm.MethodName)) ∈ lw_all := lw_g (lw_at lw_m6 167 rfl) rfl
theorem q1452 : (Jvm.Cond.methodLink "PrayerMatsFaceLaw" (150 : Nat) ({ cls := "PrayerMatsFaceModel", name := "mean", desc := "(I)J" } : Jvm.MethodName)) ∈ lw_all := lw_g (lw_at lw_m6 171 rfl) rfl
theorem q1456 : (Jvm.Cond.methodLink "PrayerMatsFaceLaw" (154 : Nat) ({ cls := "PrayerMatsFaceModel", name := "enemy", desc := "(I)I" } : Jvm.MethodName)) ∈ lw_all := lw_g (lw_at lw_m6 175 rfl) rfl
theorem q1460 : (Jvm.Cond.methodLink "PrayerMatsFaceLaw" (158 : Nat) ({ cls := "PrayerMatsFaceModel", name := "peace", desc := "()I" } : Jvm.MethodName)) ∈ lw_all := lw_g (lw_at lw_m6 179 rfl) rfl
theorem q1468 : (Jvm.Cond.methodLink "PrayerMatsFaceLaw" (162 : Nat) ({ cls := "PrayerMatsFaceModel", name := "helps", desc := "(III)I" } : Jvm.MethodName)) ∈ lw_all := lw_g (lw_at lw_m6 187 rfl) rfl
theorem q1473 : (Jvm.Cond.methodLink "PrayerMatsFaceLaw" (166 : Nat) ({ cls := "PrayerMatsFaceModel", name := "doubled", desc := "()I" } : Jvm.MethodName)) ∈ lw_all := lw_g (lw_at lw_m6 192 rfl) rfl
theorem q1477 : (Jvm.Cond.methodLink "PrayerMatsFaceLaw" (170 : Nat) ({ cls := "PrayerMatsFaceModel", name := "row", desc := "(I)I" } : Jvm.MethodName)) ∈ lw_all := lw_g (lw_at lw_m6 196 rfl) rfl
theorem q1481 : (Jvm.Cond.methodLink "PrayerMatsFaceLaw" (174 : Nat) ({ cls := "PrayerMatsFaceModel", name := "judge", desc := "(I)I" } : Jvm.MethodName)) ∈ lw_all := lw_g (lw_at lw_m6 200 rfl) rfl
theorem q1485 : (Jvm.Cond.methodLink "PrayerMatsFaceLaw" (178 : Nat) ({ cls := "PrayerMatsFaceModel", name := "clear", desc := "()I" } : Jvm.MethodName)) ∈ lw_all := lw_g (lw_at lw_m6 204 rfl) rfl
theorem q1489 : (Jvm.Cond.methodLink "PrayerMatsFaceLaw" (182 : Nat) ({ cls := "PrayerMatsFaceModel", name := "lots", desc := "(III)I" } : Jvm.MethodName)) ∈ lw_all := lw_g (lw_at lw_m6 208 rfl) rfl
theorem q1500 : (Jvm.Cond.methodLink "PrayerMatsFaceLaw" (194 : Nat) ({ cls := "PrayerMatsFaceModel", name := "count", desc := "(I)I" } : Jvm.MethodName)) ∈ lw_all := lw_g (lw_at lw_m6 219 rfl) rfl

theorem q1534 : (Jvm.Cond.castable "[I" "java/lang/Object") ∈ lw_tbl := lw_at lw_m7 13 rfl
set_option maxRecDepth 100000

theorem q1535 : (Jvm.Cond.castable "[LPrayerMatsFace$Quarter;" "java/lang/Object") ∈ lw_tbl := lw_at lw_m7 14 rfl
set_option maxRecDepth 100000

theorem q1530 : (Jvm.Cond.sameMethod "[Ljava/lang/Object;" "java/lang/Object" "getClass" "()Ljava/lang/Class;") ∈ lw_all := lw_g (lw_at lw_m7 9 rfl) rfl
set_option maxRecDepth 100000
theorem q1531 : (Jvm.Cond.selects "[Ljava/lang/Object;" ({ cls := "java/lang/Object", name := "getClass", desc := "()Ljava/lang/Class;" } : Jvm.MethodName) ({ cls := "java/lang/Object", name := "getClass", desc := "()Ljava/lang/Class;" } : Jvm.MethodName)) ∈ lw_all := lw_g (lw_at lw_m7 10 rfl) rfl
theorem q1533 : (Jvm.Cond.castable "[Ljava/lang/Object;" "java/lang/Object") ∈ lw_tbl := lw_at lw_m7 12 rfl

theorem q93 : (Jvm.Cond.initialized "java/lang/System") ∈ lw_all := lw_g (lw_at lw_m1 12 rfl) rfl
set_option maxRecDepth 100000
theorem q329 : (Jvm.Cond.static ({ cls := "java/lang/System", name := "arraycopy", desc := "(Ljava/lang/Object;ILjava/lang/Object;II)V" } : Jvm.MethodName)) ∈ lw_all := lw_g (lw_at lw_m2 8 rfl) rfl
theorem q330 : (Jvm.Cond.native ({ cls := "java/lang/System", name := "arraycopy", desc := "(Ljava/lang/Object;ILjava/lang/Object;II)V" } : Jvm.MethodName)) ∈ lw_all := lw_g (lw_at lw_m2 9 rfl) rfl

theorem q132 : (Jvm.Cond.arrayOver (Jvm.ClassFile.FieldType.object "java/lang/Object")) ∈ lw_tbl := lw_at lw_m1 51 rfl
set_option maxRecDepth 100000
theorem q147 : (Jvm.Cond.arrayClass Jvm.ClassFile.FieldType.int) ∈ lw_all := lw_g (lw_at lw_m1 66 rfl) rfl
theorem q170 : (Jvm.Cond.arrayOver (Jvm.ClassFile.FieldType.object "PrayerMatsFace$Quarter")) ∈ lw_tbl := lw_at lw_m1 89 rfl
