/-! PrayerMatsFace$Quarter -/
set_option maxRecDepth 100000
def RX1 : String := "PrayerMatsFace$Quarter"
def TX1 : u_T := fun k => match k with
  | 0 => ("PrayerMatsFace$Quarter", "people", "Ljava/util/ArrayList;", true)
  | 1 => ("PrayerMatsFace$Quarter", "hours", "[I", true)
  | 2 => ("PrayerMatsFace$Quarter", "mate", "[I", true)
  | 3 => ("PrayerMatsFace$Quarter", "quarrel", "[I", true)
  | _ => ("PrayerMatsFace$Quarter", "day", "I", false)
def tyX1 : Nat → FieldType := fun k => match k with
  | 0 => .object "java/util/ArrayList"
  | 1 => .array .int
  | 2 => .array .int
  | 3 => .array .int
  | _ => .int
abbrev wsX10 : List Cond := u_ws RX1 TX1 5
theorem nmX1 : ∀ a, a < 5 → ∀ b, b < 5 → a ≠ b → (TX1 a).2.1 ≠ (TX1 b).2.1 := by decide +kernel
theorem tyX1_ok : ∀ k, k < 5 → parseFieldDescriptor (TX1 k).2.2.1 = some (tyX1 k) := by decide +kernel
abbrev cX1_init : ByteArray := prog_7_method_1_code
def yX1_init : MethodName := ⟨RX1, "<init>", "()V"⟩
def dkwX1_init_1 : List UInt8 := [181, 0, 20, 42, 16, 6, 188, 10, 181, 0, 24, 42, 16, 36, 188, 10, 181, 0, 27, 177]
abbrev dktX1_init_1 : List UInt8 := dkwX1_init_1 ++ []
def dkwX1_init_0 : List UInt8 := [42, 183, 0, 3, 42, 187, 0, 9, 89, 16, 6, 183, 0, 11, 181, 0, 14, 42, 16, 6, 188, 10]
abbrev dktX1_init_0 : List UInt8 := dkwX1_init_0 ++ dktX1_init_1
theorem dksX1_init_0 : cX1_init.data.toList.drop 0 = dktX1_init_0 := by decide +kernel
theorem dksX1_init_1 : cX1_init.data.toList.drop 22 = dktX1_init_1 := dk_seg dksX1_init_0 22 rfl rfl
theorem dX1_init_0 : decode cX1_init 0 = .ok (.aload_n 0, 1) := dk_42 (dk_at dksX1_init_0 0 rfl rfl)
theorem dX1_init_1 : decode cX1_init 1 = .ok (.invokespecial 3, 3) := dk_183 0 3 (dk_at dksX1_init_0 1 rfl rfl)
theorem dX1_init_4 : decode cX1_init 4 = .ok (.aload_n 0, 1) := dk_42 (dk_at dksX1_init_0 4 rfl rfl)
theorem dX1_init_5 : decode cX1_init 5 = .ok (.new 9, 3) := dk_187 0 9 (dk_at dksX1_init_0 5 rfl rfl)
theorem dX1_init_8 : decode cX1_init 8 = .ok (.dup, 1) := dk_89 (dk_at dksX1_init_0 8 rfl rfl)
theorem dX1_init_9 : decode cX1_init 9 = .ok (.bipush 6, 2) := dk_16 6 (dk_at dksX1_init_0 9 rfl rfl)
theorem dX1_init_11 : decode cX1_init 11 = .ok (.invokespecial 11, 3) := dk_183 0 11 (dk_at dksX1_init_0 11 rfl rfl)
theorem dX1_init_14 : decode cX1_init 14 = .ok (.putfield 14, 3) := dk_181 0 14 (dk_at dksX1_init_0 14 rfl rfl)
theorem dX1_init_17 : decode cX1_init 17 = .ok (.aload_n 0, 1) := dk_42 (dk_at dksX1_init_0 17 rfl rfl)
theorem dX1_init_18 : decode cX1_init 18 = .ok (.bipush 6, 2) := dk_16 6 (dk_at dksX1_init_0 18 rfl rfl)
theorem dX1_init_20 : decode cX1_init 20 = .ok (.newarray .int, 2) := dk_188_10 (dk_at dksX1_init_0 20 rfl rfl)
theorem dX1_init_22 : decode cX1_init 22 = .ok (.putfield 20, 3) := dk_181 0 20 (dk_at dksX1_init_1 0 rfl rfl)
theorem dX1_init_25 : decode cX1_init 25 = .ok (.aload_n 0, 1) := dk_42 (dk_at dksX1_init_1 3 rfl rfl)
theorem dX1_init_26 : decode cX1_init 26 = .ok (.bipush 6, 2) := dk_16 6 (dk_at dksX1_init_1 4 rfl rfl)
theorem dX1_init_28 : decode cX1_init 28 = .ok (.newarray .int, 2) := dk_188_10 (dk_at dksX1_init_1 6 rfl rfl)
theorem dX1_init_30 : decode cX1_init 30 = .ok (.putfield 24, 3) := dk_181 0 24 (dk_at dksX1_init_1 8 rfl rfl)
theorem dX1_init_33 : decode cX1_init 33 = .ok (.aload_n 0, 1) := dk_42 (dk_at dksX1_init_1 11 rfl rfl)
theorem dX1_init_34 : decode cX1_init 34 = .ok (.bipush 36, 2) := dk_16 36 (dk_at dksX1_init_1 12 rfl rfl)
theorem dX1_init_36 : decode cX1_init 36 = .ok (.newarray .int, 2) := dk_188_10 (dk_at dksX1_init_1 14 rfl rfl)
theorem dX1_init_38 : decode cX1_init 38 = .ok (.putfield 27, 3) := dk_181 0 27 (dk_at dksX1_init_1 16 rfl rfl)
theorem dX1_init_41 : decode cX1_init 41 = .ok (.return_, 1) := dk_177 (dk_at dksX1_init_1 19 rfl rfl)
abbrev cX1_takes : ByteArray := prog_7_method_2_code
def yX1_takes : MethodName := ⟨RX1, "takes", "(LPrayerMatsFace$Quarter;)V"⟩
def dkwX1_takes_3 : List UInt8 := [180, 0, 27, 3, 42, 180, 0, 27, 3, 16, 36, 184, 0, 45, 42, 43, 180, 0, 51, 181, 0, 51, 177]
abbrev dktX1_takes_3 : List UInt8 := dkwX1_takes_3 ++ []
def dkwX1_takes_2 : List UInt8 := [3, 16, 6, 184, 0, 45, 43, 180, 0, 24, 3, 42, 180, 0, 24, 3, 16, 6, 184, 0, 45, 43]
abbrev dktX1_takes_2 : List UInt8 := dkwX1_takes_2 ++ dktX1_takes_3
def dkwX1_takes_1 : List UInt8 := [43, 28, 182, 0, 37, 182, 0, 41, 87, 132, 2, 1, 167, 255, 229, 43, 180, 0, 20, 3, 42, 180, 0, 20]
abbrev dktX1_takes_1 : List UInt8 := dkwX1_takes_1 ++ dktX1_takes_2
def dkwX1_takes_0 : List UInt8 := [42, 180, 0, 14, 182, 0, 30, 3, 61, 28, 43, 180, 0, 14, 182, 0, 33, 162, 0, 22, 42, 180, 0, 14]
abbrev dktX1_takes_0 : List UInt8 := dkwX1_takes_0 ++ dktX1_takes_1
theorem dksX1_takes_0 : cX1_takes.data.toList.drop 0 = dktX1_takes_0 := by decide +kernel
theorem dksX1_takes_1 : cX1_takes.data.toList.drop 24 = dktX1_takes_1 := dk_seg dksX1_takes_0 24 rfl rfl
theorem dksX1_takes_2 : cX1_takes.data.toList.drop 48 = dktX1_takes_2 := dk_seg dksX1_takes_1 24 rfl rfl
theorem dksX1_takes_3 : cX1_takes.data.toList.drop 70 = dktX1_takes_3 := dk_seg dksX1_takes_2 22 rfl rfl
theorem dX1_takes_0 : decode cX1_takes 0 = .ok (.aload_n 0, 1) := dk_42 (dk_at dksX1_takes_0 0 rfl rfl)
theorem dX1_takes_1 : decode cX1_takes 1 = .ok (.getfield 14, 3) := dk_180 0 14 (dk_at dksX1_takes_0 1 rfl rfl)
theorem dX1_takes_4 : decode cX1_takes 4 = .ok (.invokevirtual 30, 3) := dk_182 0 30 (dk_at dksX1_takes_0 4 rfl rfl)
theorem dX1_takes_7 : decode cX1_takes 7 = .ok (.iconst 0, 1) := dk_3 (dk_at dksX1_takes_0 7 rfl rfl)
theorem dX1_takes_8 : decode cX1_takes 8 = .ok (.istore_n 2, 1) := dk_61 (dk_at dksX1_takes_0 8 rfl rfl)
theorem dX1_takes_9 : decode cX1_takes 9 = .ok (.iload_n 2, 1) := dk_28 (dk_at dksX1_takes_0 9 rfl rfl)
theorem dX1_takes_10 : decode cX1_takes 10 = .ok (.aload_n 1, 1) := dk_43 (dk_at dksX1_takes_0 10 rfl rfl)
theorem dX1_takes_11 : decode cX1_takes 11 = .ok (.getfield 14, 3) := dk_180 0 14 (dk_at dksX1_takes_0 11 rfl rfl)
theorem dX1_takes_14 : decode cX1_takes 14 = .ok (.invokevirtual 33, 3) := dk_182 0 33 (dk_at dksX1_takes_0 14 rfl rfl)
theorem dX1_takes_17 : decode cX1_takes 17 = .ok (.if_icmp .ge 22, 3) := dk_162 0 22 (dk_at dksX1_takes_0 17 rfl rfl)
theorem dX1_takes_20 : decode cX1_takes 20 = .ok (.aload_n 0, 1) := dk_42 (dk_at dksX1_takes_0 20 rfl rfl)
theorem dX1_takes_21 : decode cX1_takes 21 = .ok (.getfield 14, 3) := dk_180 0 14 (dk_at dksX1_takes_0 21 rfl rfl)
theorem dX1_takes_24 : decode cX1_takes 24 = .ok (.aload_n 1, 1) := dk_43 (dk_at dksX1_takes_1 0 rfl rfl)
theorem dX1_takes_25 : decode cX1_takes 25 = .ok (.iload_n 2, 1) := dk_28 (dk_at dksX1_takes_1 1 rfl rfl)
theorem dX1_takes_26 : decode cX1_takes 26 = .ok (.invokevirtual 37, 3) := dk_182 0 37 (dk_at dksX1_takes_1 2 rfl rfl)
theorem dX1_takes_29 : decode cX1_takes 29 = .ok (.invokevirtual 41, 3) := dk_182 0 41 (dk_at dksX1_takes_1 5 rfl rfl)
theorem dX1_takes_32 : decode cX1_takes 32 = .ok (.pop, 1) := dk_87 (dk_at dksX1_takes_1 8 rfl rfl)
theorem dX1_takes_33 : decode cX1_takes 33 = .ok (.iinc 2 1, 3) := dk_132 2 1 (dk_at dksX1_takes_1 9 rfl rfl)
theorem dX1_takes_36 : decode cX1_takes 36 = .ok (.goto (-27), 3) := dk_167 255 229 (dk_at dksX1_takes_1 12 rfl rfl)
theorem dX1_takes_39 : decode cX1_takes 39 = .ok (.aload_n 1, 1) := dk_43 (dk_at dksX1_takes_1 15 rfl rfl)
theorem dX1_takes_40 : decode cX1_takes 40 = .ok (.getfield 20, 3) := dk_180 0 20 (dk_at dksX1_takes_1 16 rfl rfl)
theorem dX1_takes_43 : decode cX1_takes 43 = .ok (.iconst 0, 1) := dk_3 (dk_at dksX1_takes_1 19 rfl rfl)
theorem dX1_takes_44 : decode cX1_takes 44 = .ok (.aload_n 0, 1) := dk_42 (dk_at dksX1_takes_1 20 rfl rfl)
theorem dX1_takes_45 : decode cX1_takes 45 = .ok (.getfield 20, 3) := dk_180 0 20 (dk_at dksX1_takes_1 21 rfl rfl)
theorem dX1_takes_48 : decode cX1_takes 48 = .ok (.iconst 0, 1) := dk_3 (dk_at dksX1_takes_2 0 rfl rfl)
theorem dX1_takes_49 : decode cX1_takes 49 = .ok (.bipush 6, 2) := dk_16 6 (dk_at dksX1_takes_2 1 rfl rfl)
theorem dX1_takes_51 : decode cX1_takes 51 = .ok (.invokestatic 45, 3) := dk_184 0 45 (dk_at dksX1_takes_2 3 rfl rfl)
theorem dX1_takes_54 : decode cX1_takes 54 = .ok (.aload_n 1, 1) := dk_43 (dk_at dksX1_takes_2 6 rfl rfl)
theorem dX1_takes_55 : decode cX1_takes 55 = .ok (.getfield 24, 3) := dk_180 0 24 (dk_at dksX1_takes_2 7 rfl rfl)
theorem dX1_takes_58 : decode cX1_takes 58 = .ok (.iconst 0, 1) := dk_3 (dk_at dksX1_takes_2 10 rfl rfl)
theorem dX1_takes_59 : decode cX1_takes 59 = .ok (.aload_n 0, 1) := dk_42 (dk_at dksX1_takes_2 11 rfl rfl)
theorem dX1_takes_60 : decode cX1_takes 60 = .ok (.getfield 24, 3) := dk_180 0 24 (dk_at dksX1_takes_2 12 rfl rfl)
theorem dX1_takes_63 : decode cX1_takes 63 = .ok (.iconst 0, 1) := dk_3 (dk_at dksX1_takes_2 15 rfl rfl)
theorem dX1_takes_64 : decode cX1_takes 64 = .ok (.bipush 6, 2) := dk_16 6 (dk_at dksX1_takes_2 16 rfl rfl)
theorem dX1_takes_66 : decode cX1_takes 66 = .ok (.invokestatic 45, 3) := dk_184 0 45 (dk_at dksX1_takes_2 18 rfl rfl)
theorem dX1_takes_69 : decode cX1_takes 69 = .ok (.aload_n 1, 1) := dk_43 (dk_at dksX1_takes_2 21 rfl rfl)
theorem dX1_takes_70 : decode cX1_takes 70 = .ok (.getfield 27, 3) := dk_180 0 27 (dk_at dksX1_takes_3 0 rfl rfl)
theorem dX1_takes_73 : decode cX1_takes 73 = .ok (.iconst 0, 1) := dk_3 (dk_at dksX1_takes_3 3 rfl rfl)
theorem dX1_takes_74 : decode cX1_takes 74 = .ok (.aload_n 0, 1) := dk_42 (dk_at dksX1_takes_3 4 rfl rfl)
theorem dX1_takes_75 : decode cX1_takes 75 = .ok (.getfield 27, 3) := dk_180 0 27 (dk_at dksX1_takes_3 5 rfl rfl)
theorem dX1_takes_78 : decode cX1_takes 78 = .ok (.iconst 0, 1) := dk_3 (dk_at dksX1_takes_3 8 rfl rfl)
theorem dX1_takes_79 : decode cX1_takes 79 = .ok (.bipush 36, 2) := dk_16 36 (dk_at dksX1_takes_3 9 rfl rfl)
theorem dX1_takes_81 : decode cX1_takes 81 = .ok (.invokestatic 45, 3) := dk_184 0 45 (dk_at dksX1_takes_3 11 rfl rfl)
theorem dX1_takes_84 : decode cX1_takes 84 = .ok (.aload_n 0, 1) := dk_42 (dk_at dksX1_takes_3 14 rfl rfl)
theorem dX1_takes_85 : decode cX1_takes 85 = .ok (.aload_n 1, 1) := dk_43 (dk_at dksX1_takes_3 15 rfl rfl)
theorem dX1_takes_86 : decode cX1_takes 86 = .ok (.getfield 51, 3) := dk_180 0 51 (dk_at dksX1_takes_3 16 rfl rfl)
theorem dX1_takes_89 : decode cX1_takes 89 = .ok (.putfield 51, 3) := dk_181 0 51 (dk_at dksX1_takes_3 19 rfl rfl)
theorem dX1_takes_92 : decode cX1_takes 92 = .ok (.return_, 1) := dk_177 (dk_at dksX1_takes_3 22 rfl rfl)
abbrev cX1_person : ByteArray := prog_7_method_4_code
def yX1_person : MethodName := ⟨RX1, "person", "(I)LPrayerMatsFace$Person;"⟩
def dkwX1_person_0 : List UInt8 := [42, 180, 0, 14, 27, 182, 0, 55, 192, 0, 59, 176]
abbrev dktX1_person_0 : List UInt8 := dkwX1_person_0 ++ []
theorem dksX1_person_0 : cX1_person.data.toList.drop 0 = dktX1_person_0 := by decide +kernel
theorem dX1_person_0 : decode cX1_person 0 = .ok (.aload_n 0, 1) := dk_42 (dk_at dksX1_person_0 0 rfl rfl)
theorem dX1_person_1 : decode cX1_person 1 = .ok (.getfield 14, 3) := dk_180 0 14 (dk_at dksX1_person_0 1 rfl rfl)
theorem dX1_person_4 : decode cX1_person 4 = .ok (.iload_n 1, 1) := dk_27 (dk_at dksX1_person_0 4 rfl rfl)
theorem dX1_person_5 : decode cX1_person 5 = .ok (.invokevirtual 55, 3) := dk_182 0 55 (dk_at dksX1_person_0 5 rfl rfl)
theorem dX1_person_8 : decode cX1_person 8 = .ok (.checkcast 59, 3) := dk_192 0 59 (dk_at dksX1_person_0 8 rfl rfl)
theorem dX1_person_11 : decode cX1_person 11 = .ok (.areturn, 1) := dk_176 (dk_at dksX1_person_0 11 rfl rfl)
abbrev cX1_many : ByteArray := prog_7_method_3_code
def yX1_many : MethodName := ⟨RX1, "many", "()I"⟩
def dkwX1_many_0 : List UInt8 := [42, 180, 0, 14, 182, 0, 33, 172]
abbrev dktX1_many_0 : List UInt8 := dkwX1_many_0 ++ []
theorem dksX1_many_0 : cX1_many.data.toList.drop 0 = dktX1_many_0 := by decide +kernel
theorem dX1_many_0 : decode cX1_many 0 = .ok (.aload_n 0, 1) := dk_42 (dk_at dksX1_many_0 0 rfl rfl)
theorem dX1_many_1 : decode cX1_many 1 = .ok (.getfield 14, 3) := dk_180 0 14 (dk_at dksX1_many_0 1 rfl rfl)
theorem dX1_many_4 : decode cX1_many 4 = .ok (.invokevirtual 33, 3) := dk_182 0 33 (dk_at dksX1_many_0 4 rfl rfl)
theorem dX1_many_7 : decode cX1_many 7 = .ok (.ireturn, 1) := dk_172 (dk_at dksX1_many_0 7 rfl rfl)
abbrev cX1_comes : ByteArray := prog_7_method_5_code
def yX1_comes : MethodName := ⟨RX1, "comes", "(LPrayerMatsFace$Person;I)V"⟩
def dkwX1_comes_2 : List UInt8 := [180, 0, 14, 43, 182, 0, 41, 87, 177]
abbrev dktX1_comes_2 : List UInt8 := dkwX1_comes_2 ++ []
def dkwX1_comes_1 : List UInt8 := [21, 4, 16, 6, 162, 0, 17, 42, 29, 21, 4, 3, 182, 0, 64, 132, 4, 1, 167, 255, 238, 42]
abbrev dktX1_comes_1 : List UInt8 := dkwX1_comes_1 ++ dktX1_comes_2
def dkwX1_comes_0 : List UInt8 := [42, 182, 0, 61, 62, 42, 180, 0, 20, 29, 28, 79, 42, 180, 0, 24, 29, 16, 247, 79, 3, 54, 4]
abbrev dktX1_comes_0 : List UInt8 := dkwX1_comes_0 ++ dktX1_comes_1
theorem dksX1_comes_0 : cX1_comes.data.toList.drop 0 = dktX1_comes_0 := by decide +kernel
theorem dksX1_comes_1 : cX1_comes.data.toList.drop 23 = dktX1_comes_1 := dk_seg dksX1_comes_0 23 rfl rfl
theorem dksX1_comes_2 : cX1_comes.data.toList.drop 45 = dktX1_comes_2 := dk_seg dksX1_comes_1 22 rfl rfl
theorem dX1_comes_0 : decode cX1_comes 0 = .ok (.aload_n 0, 1) := dk_42 (dk_at dksX1_comes_0 0 rfl rfl)
theorem dX1_comes_1 : decode cX1_comes 1 = .ok (.invokevirtual 61, 3) := dk_182 0 61 (dk_at dksX1_comes_0 1 rfl rfl)
theorem dX1_comes_4 : decode cX1_comes 4 = .ok (.istore_n 3, 1) := dk_62 (dk_at dksX1_comes_0 4 rfl rfl)
theorem dX1_comes_5 : decode cX1_comes 5 = .ok (.aload_n 0, 1) := dk_42 (dk_at dksX1_comes_0 5 rfl rfl)
theorem dX1_comes_6 : decode cX1_comes 6 = .ok (.getfield 20, 3) := dk_180 0 20 (dk_at dksX1_comes_0 6 rfl rfl)
theorem dX1_comes_9 : decode cX1_comes 9 = .ok (.iload_n 3, 1) := dk_29 (dk_at dksX1_comes_0 9 rfl rfl)
theorem dX1_comes_10 : decode cX1_comes 10 = .ok (.iload_n 2, 1) := dk_28 (dk_at dksX1_comes_0 10 rfl rfl)
theorem dX1_comes_11 : decode cX1_comes 11 = .ok (.iastore, 1) := dk_79 (dk_at dksX1_comes_0 11 rfl rfl)
theorem dX1_comes_12 : decode cX1_comes 12 = .ok (.aload_n 0, 1) := dk_42 (dk_at dksX1_comes_0 12 rfl rfl)
theorem dX1_comes_13 : decode cX1_comes 13 = .ok (.getfield 24, 3) := dk_180 0 24 (dk_at dksX1_comes_0 13 rfl rfl)
theorem dX1_comes_16 : decode cX1_comes 16 = .ok (.iload_n 3, 1) := dk_29 (dk_at dksX1_comes_0 16 rfl rfl)
theorem dX1_comes_17 : decode cX1_comes 17 = .ok (.bipush (-9), 2) := dk_16 247 (dk_at dksX1_comes_0 17 rfl rfl)
theorem dX1_comes_19 : decode cX1_comes 19 = .ok (.iastore, 1) := dk_79 (dk_at dksX1_comes_0 19 rfl rfl)
theorem dX1_comes_20 : decode cX1_comes 20 = .ok (.iconst 0, 1) := dk_3 (dk_at dksX1_comes_0 20 rfl rfl)
theorem dX1_comes_21 : decode cX1_comes 21 = .ok (.istore 4, 2) := dk_54 4 (dk_at dksX1_comes_0 21 rfl rfl)
theorem dX1_comes_23 : decode cX1_comes 23 = .ok (.iload 4, 2) := dk_21 4 (dk_at dksX1_comes_1 0 rfl rfl)
theorem dX1_comes_25 : decode cX1_comes 25 = .ok (.bipush 6, 2) := dk_16 6 (dk_at dksX1_comes_1 2 rfl rfl)
theorem dX1_comes_27 : decode cX1_comes 27 = .ok (.if_icmp .ge 17, 3) := dk_162 0 17 (dk_at dksX1_comes_1 4 rfl rfl)
theorem dX1_comes_30 : decode cX1_comes 30 = .ok (.aload_n 0, 1) := dk_42 (dk_at dksX1_comes_1 7 rfl rfl)
theorem dX1_comes_31 : decode cX1_comes 31 = .ok (.iload_n 3, 1) := dk_29 (dk_at dksX1_comes_1 8 rfl rfl)
theorem dX1_comes_32 : decode cX1_comes 32 = .ok (.iload 4, 2) := dk_21 4 (dk_at dksX1_comes_1 9 rfl rfl)
theorem dX1_comes_34 : decode cX1_comes 34 = .ok (.iconst 0, 1) := dk_3 (dk_at dksX1_comes_1 11 rfl rfl)
theorem dX1_comes_35 : decode cX1_comes 35 = .ok (.invokevirtual 64, 3) := dk_182 0 64 (dk_at dksX1_comes_1 12 rfl rfl)
theorem dX1_comes_38 : decode cX1_comes 38 = .ok (.iinc 4 1, 3) := dk_132 4 1 (dk_at dksX1_comes_1 15 rfl rfl)
theorem dX1_comes_41 : decode cX1_comes 41 = .ok (.goto (-18), 3) := dk_167 255 238 (dk_at dksX1_comes_1 18 rfl rfl)
theorem dX1_comes_44 : decode cX1_comes 44 = .ok (.aload_n 0, 1) := dk_42 (dk_at dksX1_comes_1 21 rfl rfl)
theorem dX1_comes_45 : decode cX1_comes 45 = .ok (.getfield 14, 3) := dk_180 0 14 (dk_at dksX1_comes_2 0 rfl rfl)
theorem dX1_comes_48 : decode cX1_comes 48 = .ok (.aload_n 1, 1) := dk_43 (dk_at dksX1_comes_2 3 rfl rfl)
theorem dX1_comes_49 : decode cX1_comes 49 = .ok (.invokevirtual 41, 3) := dk_182 0 41 (dk_at dksX1_comes_2 4 rfl rfl)
theorem dX1_comes_52 : decode cX1_comes 52 = .ok (.pop, 1) := dk_87 (dk_at dksX1_comes_2 7 rfl rfl)
theorem dX1_comes_53 : decode cX1_comes 53 = .ok (.return_, 1) := dk_177 (dk_at dksX1_comes_2 8 rfl rfl)
abbrev cX1_quarrels : ByteArray := prog_7_method_7_code
def yX1_quarrels : MethodName := ⟨RX1, "quarrels", "(III)V"⟩
def dkwX1_quarrels_1 : List UInt8 := [177]
abbrev dktX1_quarrels_1 : List UInt8 := dkwX1_quarrels_1 ++ []
def dkwX1_quarrels_0 : List UInt8 := [42, 180, 0, 27, 16, 6, 27, 104, 28, 96, 29, 79, 42, 180, 0, 27, 16, 6, 28, 104, 27, 96, 29, 79]
abbrev dktX1_quarrels_0 : List UInt8 := dkwX1_quarrels_0 ++ dktX1_quarrels_1
theorem dksX1_quarrels_0 : cX1_quarrels.data.toList.drop 0 = dktX1_quarrels_0 := by decide +kernel
theorem dksX1_quarrels_1 : cX1_quarrels.data.toList.drop 24 = dktX1_quarrels_1 := dk_seg dksX1_quarrels_0 24 rfl rfl
theorem dX1_quarrels_0 : decode cX1_quarrels 0 = .ok (.aload_n 0, 1) := dk_42 (dk_at dksX1_quarrels_0 0 rfl rfl)
theorem dX1_quarrels_1 : decode cX1_quarrels 1 = .ok (.getfield 27, 3) := dk_180 0 27 (dk_at dksX1_quarrels_0 1 rfl rfl)
theorem dX1_quarrels_4 : decode cX1_quarrels 4 = .ok (.bipush 6, 2) := dk_16 6 (dk_at dksX1_quarrels_0 4 rfl rfl)
theorem dX1_quarrels_6 : decode cX1_quarrels 6 = .ok (.iload_n 1, 1) := dk_27 (dk_at dksX1_quarrels_0 6 rfl rfl)
theorem dX1_quarrels_7 : decode cX1_quarrels 7 = .ok (.imul, 1) := dk_104 (dk_at dksX1_quarrels_0 7 rfl rfl)
theorem dX1_quarrels_8 : decode cX1_quarrels 8 = .ok (.iload_n 2, 1) := dk_28 (dk_at dksX1_quarrels_0 8 rfl rfl)
theorem dX1_quarrels_9 : decode cX1_quarrels 9 = .ok (.iadd, 1) := dk_96 (dk_at dksX1_quarrels_0 9 rfl rfl)
theorem dX1_quarrels_10 : decode cX1_quarrels 10 = .ok (.iload_n 3, 1) := dk_29 (dk_at dksX1_quarrels_0 10 rfl rfl)
theorem dX1_quarrels_11 : decode cX1_quarrels 11 = .ok (.iastore, 1) := dk_79 (dk_at dksX1_quarrels_0 11 rfl rfl)
theorem dX1_quarrels_12 : decode cX1_quarrels 12 = .ok (.aload_n 0, 1) := dk_42 (dk_at dksX1_quarrels_0 12 rfl rfl)
theorem dX1_quarrels_13 : decode cX1_quarrels 13 = .ok (.getfield 27, 3) := dk_180 0 27 (dk_at dksX1_quarrels_0 13 rfl rfl)
theorem dX1_quarrels_16 : decode cX1_quarrels 16 = .ok (.bipush 6, 2) := dk_16 6 (dk_at dksX1_quarrels_0 16 rfl rfl)
theorem dX1_quarrels_18 : decode cX1_quarrels 18 = .ok (.iload_n 2, 1) := dk_28 (dk_at dksX1_quarrels_0 18 rfl rfl)
theorem dX1_quarrels_19 : decode cX1_quarrels 19 = .ok (.imul, 1) := dk_104 (dk_at dksX1_quarrels_0 19 rfl rfl)
theorem dX1_quarrels_20 : decode cX1_quarrels 20 = .ok (.iload_n 1, 1) := dk_27 (dk_at dksX1_quarrels_0 20 rfl rfl)
theorem dX1_quarrels_21 : decode cX1_quarrels 21 = .ok (.iadd, 1) := dk_96 (dk_at dksX1_quarrels_0 21 rfl rfl)
theorem dX1_quarrels_22 : decode cX1_quarrels 22 = .ok (.iload_n 3, 1) := dk_29 (dk_at dksX1_quarrels_0 22 rfl rfl)
theorem dX1_quarrels_23 : decode cX1_quarrels 23 = .ok (.iastore, 1) := dk_79 (dk_at dksX1_quarrels_0 23 rfl rfl)
theorem dX1_quarrels_24 : decode cX1_quarrels 24 = .ok (.return_, 1) := dk_177 (dk_at dksX1_quarrels_1 0 rfl rfl)
abbrev cX1_parts : ByteArray := prog_7_method_8_code
def yX1_parts : MethodName := ⟨RX1, "parts", "(I)V"⟩
def dkwX1_parts_1 : List UInt8 := [180, 0, 24, 27, 16, 247, 79, 177]
abbrev dktX1_parts_1 : List UInt8 := dkwX1_parts_1 ++ []
def dkwX1_parts_0 : List UInt8 := [42, 180, 0, 24, 27, 46, 156, 0, 4, 177, 42, 180, 0, 24, 42, 180, 0, 24, 27, 46, 16, 247, 79, 42]
abbrev dktX1_parts_0 : List UInt8 := dkwX1_parts_0 ++ dktX1_parts_1
theorem dksX1_parts_0 : cX1_parts.data.toList.drop 0 = dktX1_parts_0 := by decide +kernel
theorem dksX1_parts_1 : cX1_parts.data.toList.drop 24 = dktX1_parts_1 := dk_seg dksX1_parts_0 24 rfl rfl
theorem dX1_parts_0 : decode cX1_parts 0 = .ok (.aload_n 0, 1) := dk_42 (dk_at dksX1_parts_0 0 rfl rfl)
theorem dX1_parts_1 : decode cX1_parts 1 = .ok (.getfield 24, 3) := dk_180 0 24 (dk_at dksX1_parts_0 1 rfl rfl)
theorem dX1_parts_4 : decode cX1_parts 4 = .ok (.iload_n 1, 1) := dk_27 (dk_at dksX1_parts_0 4 rfl rfl)
theorem dX1_parts_5 : decode cX1_parts 5 = .ok (.iaload, 1) := dk_46 (dk_at dksX1_parts_0 5 rfl rfl)
theorem dX1_parts_6 : decode cX1_parts 6 = .ok (.ifCond .ge 4, 3) := dk_156 0 4 (dk_at dksX1_parts_0 6 rfl rfl)
theorem dX1_parts_9 : decode cX1_parts 9 = .ok (.return_, 1) := dk_177 (dk_at dksX1_parts_0 9 rfl rfl)
theorem dX1_parts_10 : decode cX1_parts 10 = .ok (.aload_n 0, 1) := dk_42 (dk_at dksX1_parts_0 10 rfl rfl)
theorem dX1_parts_11 : decode cX1_parts 11 = .ok (.getfield 24, 3) := dk_180 0 24 (dk_at dksX1_parts_0 11 rfl rfl)
theorem dX1_parts_14 : decode cX1_parts 14 = .ok (.aload_n 0, 1) := dk_42 (dk_at dksX1_parts_0 14 rfl rfl)
theorem dX1_parts_15 : decode cX1_parts 15 = .ok (.getfield 24, 3) := dk_180 0 24 (dk_at dksX1_parts_0 15 rfl rfl)
theorem dX1_parts_18 : decode cX1_parts 18 = .ok (.iload_n 1, 1) := dk_27 (dk_at dksX1_parts_0 18 rfl rfl)
theorem dX1_parts_19 : decode cX1_parts 19 = .ok (.iaload, 1) := dk_46 (dk_at dksX1_parts_0 19 rfl rfl)
theorem dX1_parts_20 : decode cX1_parts 20 = .ok (.bipush (-9), 2) := dk_16 247 (dk_at dksX1_parts_0 20 rfl rfl)
theorem dX1_parts_22 : decode cX1_parts 22 = .ok (.iastore, 1) := dk_79 (dk_at dksX1_parts_0 22 rfl rfl)
theorem dX1_parts_23 : decode cX1_parts 23 = .ok (.aload_n 0, 1) := dk_42 (dk_at dksX1_parts_0 23 rfl rfl)
theorem dX1_parts_24 : decode cX1_parts 24 = .ok (.getfield 24, 3) := dk_180 0 24 (dk_at dksX1_parts_1 0 rfl rfl)
theorem dX1_parts_27 : decode cX1_parts 27 = .ok (.iload_n 1, 1) := dk_27 (dk_at dksX1_parts_1 3 rfl rfl)
theorem dX1_parts_28 : decode cX1_parts 28 = .ok (.bipush (-9), 2) := dk_16 247 (dk_at dksX1_parts_1 4 rfl rfl)
theorem dX1_parts_30 : decode cX1_parts 30 = .ok (.iastore, 1) := dk_79 (dk_at dksX1_parts_1 6 rfl rfl)
theorem dX1_parts_31 : decode cX1_parts 31 = .ok (.return_, 1) := dk_177 (dk_at dksX1_parts_1 7 rfl rfl)
abbrev cX1_joins : ByteArray := prog_7_method_9_code
def yX1_joins : MethodName := ⟨RX1, "joins", "(II)V"⟩
def dkwX1_joins_1 : List UInt8 := [177]
abbrev dktX1_joins_1 : List UInt8 := dkwX1_joins_1 ++ []
def dkwX1_joins_0 : List UInt8 := [42, 27, 182, 0, 68, 42, 28, 182, 0, 68, 42, 180, 0, 24, 27, 28, 79, 42, 180, 0, 24, 28, 27, 79]
abbrev dktX1_joins_0 : List UInt8 := dkwX1_joins_0 ++ dktX1_joins_1
theorem dksX1_joins_0 : cX1_joins.data.toList.drop 0 = dktX1_joins_0 := by decide +kernel
theorem dksX1_joins_1 : cX1_joins.data.toList.drop 24 = dktX1_joins_1 := dk_seg dksX1_joins_0 24 rfl rfl
theorem dX1_joins_0 : decode cX1_joins 0 = .ok (.aload_n 0, 1) := dk_42 (dk_at dksX1_joins_0 0 rfl rfl)
theorem dX1_joins_1 : decode cX1_joins 1 = .ok (.iload_n 1, 1) := dk_27 (dk_at dksX1_joins_0 1 rfl rfl)
theorem dX1_joins_2 : decode cX1_joins 2 = .ok (.invokevirtual 68, 3) := dk_182 0 68 (dk_at dksX1_joins_0 2 rfl rfl)
theorem dX1_joins_5 : decode cX1_joins 5 = .ok (.aload_n 0, 1) := dk_42 (dk_at dksX1_joins_0 5 rfl rfl)
theorem dX1_joins_6 : decode cX1_joins 6 = .ok (.iload_n 2, 1) := dk_28 (dk_at dksX1_joins_0 6 rfl rfl)
theorem dX1_joins_7 : decode cX1_joins 7 = .ok (.invokevirtual 68, 3) := dk_182 0 68 (dk_at dksX1_joins_0 7 rfl rfl)
theorem dX1_joins_10 : decode cX1_joins 10 = .ok (.aload_n 0, 1) := dk_42 (dk_at dksX1_joins_0 10 rfl rfl)
theorem dX1_joins_11 : decode cX1_joins 11 = .ok (.getfield 24, 3) := dk_180 0 24 (dk_at dksX1_joins_0 11 rfl rfl)
theorem dX1_joins_14 : decode cX1_joins 14 = .ok (.iload_n 1, 1) := dk_27 (dk_at dksX1_joins_0 14 rfl rfl)
theorem dX1_joins_15 : decode cX1_joins 15 = .ok (.iload_n 2, 1) := dk_28 (dk_at dksX1_joins_0 15 rfl rfl)
theorem dX1_joins_16 : decode cX1_joins 16 = .ok (.iastore, 1) := dk_79 (dk_at dksX1_joins_0 16 rfl rfl)
theorem dX1_joins_17 : decode cX1_joins 17 = .ok (.aload_n 0, 1) := dk_42 (dk_at dksX1_joins_0 17 rfl rfl)
theorem dX1_joins_18 : decode cX1_joins 18 = .ok (.getfield 24, 3) := dk_180 0 24 (dk_at dksX1_joins_0 18 rfl rfl)
theorem dX1_joins_21 : decode cX1_joins 21 = .ok (.iload_n 2, 1) := dk_28 (dk_at dksX1_joins_0 21 rfl rfl)
theorem dX1_joins_22 : decode cX1_joins 22 = .ok (.iload_n 1, 1) := dk_27 (dk_at dksX1_joins_0 22 rfl rfl)
theorem dX1_joins_23 : decode cX1_joins 23 = .ok (.iastore, 1) := dk_79 (dk_at dksX1_joins_0 23 rfl rfl)
theorem dX1_joins_24 : decode cX1_joins 24 = .ok (.return_, 1) := dk_177 (dk_at dksX1_joins_1 0 rfl rfl)
abbrev cX1_goesOn : ByteArray := prog_7_method_13_code
def yX1_goesOn : MethodName := ⟨RX1, "goesOn", "(I)V"⟩
def dkwX1_goesOn_0 : List UInt8 := [3, 61, 28, 27, 162, 0, 13, 42, 182, 0, 99, 132, 2, 1, 167, 255, 244, 177]
abbrev dktX1_goesOn_0 : List UInt8 := dkwX1_goesOn_0 ++ []
theorem dksX1_goesOn_0 : cX1_goesOn.data.toList.drop 0 = dktX1_goesOn_0 := by decide +kernel
theorem dX1_goesOn_0 : decode cX1_goesOn 0 = .ok (.iconst 0, 1) := dk_3 (dk_at dksX1_goesOn_0 0 rfl rfl)
theorem dX1_goesOn_1 : decode cX1_goesOn 1 = .ok (.istore_n 2, 1) := dk_61 (dk_at dksX1_goesOn_0 1 rfl rfl)
theorem dX1_goesOn_2 : decode cX1_goesOn 2 = .ok (.iload_n 2, 1) := dk_28 (dk_at dksX1_goesOn_0 2 rfl rfl)
theorem dX1_goesOn_3 : decode cX1_goesOn 3 = .ok (.iload_n 1, 1) := dk_27 (dk_at dksX1_goesOn_0 3 rfl rfl)
theorem dX1_goesOn_4 : decode cX1_goesOn 4 = .ok (.if_icmp .ge 13, 3) := dk_162 0 13 (dk_at dksX1_goesOn_0 4 rfl rfl)
theorem dX1_goesOn_7 : decode cX1_goesOn 7 = .ok (.aload_n 0, 1) := dk_42 (dk_at dksX1_goesOn_0 7 rfl rfl)
theorem dX1_goesOn_8 : decode cX1_goesOn 8 = .ok (.invokevirtual 99, 3) := dk_182 0 99 (dk_at dksX1_goesOn_0 8 rfl rfl)
theorem dX1_goesOn_11 : decode cX1_goesOn 11 = .ok (.iinc 2 1, 3) := dk_132 2 1 (dk_at dksX1_goesOn_0 11 rfl rfl)
theorem dX1_goesOn_14 : decode cX1_goesOn 14 = .ok (.goto (-12), 3) := dk_167 255 244 (dk_at dksX1_goesOn_0 14 rfl rfl)
theorem dX1_goesOn_17 : decode cX1_goesOn 17 = .ok (.return_, 1) := dk_177 (dk_at dksX1_goesOn_0 17 rfl rfl)
abbrev cX1_goes : ByteArray := prog_7_method_12_code
def yX1_goes : MethodName := ⟨RX1, "goes", "()V"⟩
def dkwX1_goes_1 : List UInt8 := [132, 1, 1, 167, 255, 243, 177]
abbrev dktX1_goes_1 : List UInt8 := dkwX1_goes_1 ++ []
def dkwX1_goes_0 : List UInt8 := [42, 89, 180, 0, 51, 4, 96, 181, 0, 51, 3, 60, 27, 8, 162, 0, 14, 42, 27, 182, 0, 96]
abbrev dktX1_goes_0 : List UInt8 := dkwX1_goes_0 ++ dktX1_goes_1
theorem dksX1_goes_0 : cX1_goes.data.toList.drop 0 = dktX1_goes_0 := by decide +kernel
theorem dksX1_goes_1 : cX1_goes.data.toList.drop 22 = dktX1_goes_1 := dk_seg dksX1_goes_0 22 rfl rfl
theorem dX1_goes_0 : decode cX1_goes 0 = .ok (.aload_n 0, 1) := dk_42 (dk_at dksX1_goes_0 0 rfl rfl)
theorem dX1_goes_1 : decode cX1_goes 1 = .ok (.dup, 1) := dk_89 (dk_at dksX1_goes_0 1 rfl rfl)
theorem dX1_goes_2 : decode cX1_goes 2 = .ok (.getfield 51, 3) := dk_180 0 51 (dk_at dksX1_goes_0 2 rfl rfl)
theorem dX1_goes_5 : decode cX1_goes 5 = .ok (.iconst 1, 1) := dk_4 (dk_at dksX1_goes_0 5 rfl rfl)
theorem dX1_goes_6 : decode cX1_goes 6 = .ok (.iadd, 1) := dk_96 (dk_at dksX1_goes_0 6 rfl rfl)
theorem dX1_goes_7 : decode cX1_goes 7 = .ok (.putfield 51, 3) := dk_181 0 51 (dk_at dksX1_goes_0 7 rfl rfl)
theorem dX1_goes_10 : decode cX1_goes 10 = .ok (.iconst 0, 1) := dk_3 (dk_at dksX1_goes_0 10 rfl rfl)
theorem dX1_goes_11 : decode cX1_goes 11 = .ok (.istore_n 1, 1) := dk_60 (dk_at dksX1_goes_0 11 rfl rfl)
theorem dX1_goes_12 : decode cX1_goes 12 = .ok (.iload_n 1, 1) := dk_27 (dk_at dksX1_goes_0 12 rfl rfl)
theorem dX1_goes_13 : decode cX1_goes 13 = .ok (.iconst 5, 1) := dk_8 (dk_at dksX1_goes_0 13 rfl rfl)
theorem dX1_goes_14 : decode cX1_goes 14 = .ok (.if_icmp .ge 14, 3) := dk_162 0 14 (dk_at dksX1_goes_0 14 rfl rfl)
theorem dX1_goes_17 : decode cX1_goes 17 = .ok (.aload_n 0, 1) := dk_42 (dk_at dksX1_goes_0 17 rfl rfl)
theorem dX1_goes_18 : decode cX1_goes 18 = .ok (.iload_n 1, 1) := dk_27 (dk_at dksX1_goes_0 18 rfl rfl)
theorem dX1_goes_19 : decode cX1_goes 19 = .ok (.invokevirtual 96, 3) := dk_182 0 96 (dk_at dksX1_goes_0 19 rfl rfl)
theorem dX1_goes_22 : decode cX1_goes 22 = .ok (.iinc 1 1, 3) := dk_132 1 1 (dk_at dksX1_goes_1 0 rfl rfl)
theorem dX1_goes_25 : decode cX1_goes 25 = .ok (.goto (-13), 3) := dk_167 255 243 (dk_at dksX1_goes_1 3 rfl rfl)
theorem dX1_goes_28 : decode cX1_goes 28 = .ok (.return_, 1) := dk_177 (dk_at dksX1_goes_1 6 rfl rfl)
abbrev cX1_hour : ByteArray := prog_7_method_11_code
def yX1_hour : MethodName := ⟨RX1, "hour", "(I)V"⟩
def dkwX1_hour_1 : List UInt8 := [180, 0, 24, 28, 46, 27, 182, 0, 93, 132, 2, 1, 167, 255, 223, 177]
abbrev dktX1_hour_1 : List UInt8 := dkwX1_hour_1 ++ []
def dkwX1_hour_0 : List UInt8 := [3, 61, 28, 42, 182, 0, 61, 162, 0, 31, 42, 180, 0, 24, 28, 46, 28, 164, 0, 15, 42, 28, 42]
abbrev dktX1_hour_0 : List UInt8 := dkwX1_hour_0 ++ dktX1_hour_1
theorem dksX1_hour_0 : cX1_hour.data.toList.drop 0 = dktX1_hour_0 := by decide +kernel
theorem dksX1_hour_1 : cX1_hour.data.toList.drop 23 = dktX1_hour_1 := dk_seg dksX1_hour_0 23 rfl rfl
theorem dX1_hour_0 : decode cX1_hour 0 = .ok (.iconst 0, 1) := dk_3 (dk_at dksX1_hour_0 0 rfl rfl)
theorem dX1_hour_1 : decode cX1_hour 1 = .ok (.istore_n 2, 1) := dk_61 (dk_at dksX1_hour_0 1 rfl rfl)
theorem dX1_hour_2 : decode cX1_hour 2 = .ok (.iload_n 2, 1) := dk_28 (dk_at dksX1_hour_0 2 rfl rfl)
theorem dX1_hour_3 : decode cX1_hour 3 = .ok (.aload_n 0, 1) := dk_42 (dk_at dksX1_hour_0 3 rfl rfl)
theorem dX1_hour_4 : decode cX1_hour 4 = .ok (.invokevirtual 61, 3) := dk_182 0 61 (dk_at dksX1_hour_0 4 rfl rfl)
theorem dX1_hour_7 : decode cX1_hour 7 = .ok (.if_icmp .ge 31, 3) := dk_162 0 31 (dk_at dksX1_hour_0 7 rfl rfl)
theorem dX1_hour_10 : decode cX1_hour 10 = .ok (.aload_n 0, 1) := dk_42 (dk_at dksX1_hour_0 10 rfl rfl)
theorem dX1_hour_11 : decode cX1_hour 11 = .ok (.getfield 24, 3) := dk_180 0 24 (dk_at dksX1_hour_0 11 rfl rfl)
theorem dX1_hour_14 : decode cX1_hour 14 = .ok (.iload_n 2, 1) := dk_28 (dk_at dksX1_hour_0 14 rfl rfl)
theorem dX1_hour_15 : decode cX1_hour 15 = .ok (.iaload, 1) := dk_46 (dk_at dksX1_hour_0 15 rfl rfl)
theorem dX1_hour_16 : decode cX1_hour 16 = .ok (.iload_n 2, 1) := dk_28 (dk_at dksX1_hour_0 16 rfl rfl)
theorem dX1_hour_17 : decode cX1_hour 17 = .ok (.if_icmp .le 15, 3) := dk_164 0 15 (dk_at dksX1_hour_0 17 rfl rfl)
theorem dX1_hour_20 : decode cX1_hour 20 = .ok (.aload_n 0, 1) := dk_42 (dk_at dksX1_hour_0 20 rfl rfl)
theorem dX1_hour_21 : decode cX1_hour 21 = .ok (.iload_n 2, 1) := dk_28 (dk_at dksX1_hour_0 21 rfl rfl)
theorem dX1_hour_22 : decode cX1_hour 22 = .ok (.aload_n 0, 1) := dk_42 (dk_at dksX1_hour_0 22 rfl rfl)
theorem dX1_hour_23 : decode cX1_hour 23 = .ok (.getfield 24, 3) := dk_180 0 24 (dk_at dksX1_hour_1 0 rfl rfl)
theorem dX1_hour_26 : decode cX1_hour 26 = .ok (.iload_n 2, 1) := dk_28 (dk_at dksX1_hour_1 3 rfl rfl)
theorem dX1_hour_27 : decode cX1_hour 27 = .ok (.iaload, 1) := dk_46 (dk_at dksX1_hour_1 4 rfl rfl)
theorem dX1_hour_28 : decode cX1_hour 28 = .ok (.iload_n 1, 1) := dk_27 (dk_at dksX1_hour_1 5 rfl rfl)
theorem dX1_hour_29 : decode cX1_hour 29 = .ok (.invokevirtual 93, 3) := dk_182 0 93 (dk_at dksX1_hour_1 6 rfl rfl)
theorem dX1_hour_32 : decode cX1_hour 32 = .ok (.iinc 2 1, 3) := dk_132 2 1 (dk_at dksX1_hour_1 9 rfl rfl)
theorem dX1_hour_35 : decode cX1_hour 35 = .ok (.goto (-33), 3) := dk_167 255 223 (dk_at dksX1_hour_1 12 rfl rfl)
theorem dX1_hour_38 : decode cX1_hour 38 = .ok (.return_, 1) := dk_177 (dk_at dksX1_hour_1 15 rfl rfl)
abbrev cX1_kneel : ByteArray := prog_7_method_10_code
def yX1_kneel : MethodName := ⟨RX1, "kneel", "(III)V"⟩
def dkwX1_kneel_4 : List UInt8 := [28, 182, 0, 37, 182, 0, 87, 96, 184, 0, 90, 54, 6, 42, 27, 28, 21, 6, 182, 0, 64, 177]
abbrev dktX1_kneel_4 : List UInt8 := dkwX1_kneel_4 ++ []
def dkwX1_kneel_3 : List UInt8 := [21, 4, 154, 0, 8, 21, 5, 153, 0, 30, 16, 99, 21, 6, 42, 21, 4, 153, 0, 7, 27, 167, 0, 4]
abbrev dktX1_kneel_3 : List UInt8 := dkwX1_kneel_3 ++ dktX1_kneel_4
def dkwX1_kneel_2 : List UInt8 := [182, 0, 37, 182, 0, 79, 100, 42, 28, 182, 0, 37, 182, 0, 79, 100, 184, 0, 82, 54, 6, 167, 0, 40]
abbrev dktX1_kneel_2 : List UInt8 := dkwX1_kneel_2 ++ dktX1_kneel_3
def dkwX1_kneel_1 : List UInt8 := [42, 27, 28, 182, 0, 75, 54, 6, 21, 4, 153, 0, 37, 21, 5, 153, 0, 32, 3, 21, 6, 42, 27]
abbrev dktX1_kneel_1 : List UInt8 := dkwX1_kneel_1 ++ dktX1_kneel_2
def dkwX1_kneel_0 : List UInt8 := [42, 180, 0, 20, 27, 46, 29, 184, 0, 71, 54, 4, 42, 180, 0, 20, 28, 46, 29, 184, 0, 71, 54, 5]
abbrev dktX1_kneel_0 : List UInt8 := dkwX1_kneel_0 ++ dktX1_kneel_1
theorem dksX1_kneel_0 : cX1_kneel.data.toList.drop 0 = dktX1_kneel_0 := by decide +kernel
theorem dksX1_kneel_1 : cX1_kneel.data.toList.drop 24 = dktX1_kneel_1 := dk_seg dksX1_kneel_0 24 rfl rfl
theorem dksX1_kneel_2 : cX1_kneel.data.toList.drop 47 = dktX1_kneel_2 := dk_seg dksX1_kneel_1 23 rfl rfl
theorem dksX1_kneel_3 : cX1_kneel.data.toList.drop 71 = dktX1_kneel_3 := dk_seg dksX1_kneel_2 24 rfl rfl
theorem dksX1_kneel_4 : cX1_kneel.data.toList.drop 95 = dktX1_kneel_4 := dk_seg dksX1_kneel_3 24 rfl rfl
theorem dX1_kneel_0 : decode cX1_kneel 0 = .ok (.aload_n 0, 1) := dk_42 (dk_at dksX1_kneel_0 0 rfl rfl)
theorem dX1_kneel_1 : decode cX1_kneel 1 = .ok (.getfield 20, 3) := dk_180 0 20 (dk_at dksX1_kneel_0 1 rfl rfl)
theorem dX1_kneel_4 : decode cX1_kneel 4 = .ok (.iload_n 1, 1) := dk_27 (dk_at dksX1_kneel_0 4 rfl rfl)
theorem dX1_kneel_5 : decode cX1_kneel 5 = .ok (.iaload, 1) := dk_46 (dk_at dksX1_kneel_0 5 rfl rfl)
theorem dX1_kneel_6 : decode cX1_kneel 6 = .ok (.iload_n 3, 1) := dk_29 (dk_at dksX1_kneel_0 6 rfl rfl)
theorem dX1_kneel_7 : decode cX1_kneel 7 = .ok (.invokestatic 71, 3) := dk_184 0 71 (dk_at dksX1_kneel_0 7 rfl rfl)
theorem dX1_kneel_10 : decode cX1_kneel 10 = .ok (.istore 4, 2) := dk_54 4 (dk_at dksX1_kneel_0 10 rfl rfl)
theorem dX1_kneel_12 : decode cX1_kneel 12 = .ok (.aload_n 0, 1) := dk_42 (dk_at dksX1_kneel_0 12 rfl rfl)
theorem dX1_kneel_13 : decode cX1_kneel 13 = .ok (.getfield 20, 3) := dk_180 0 20 (dk_at dksX1_kneel_0 13 rfl rfl)
theorem dX1_kneel_16 : decode cX1_kneel 16 = .ok (.iload_n 2, 1) := dk_28 (dk_at dksX1_kneel_0 16 rfl rfl)
theorem dX1_kneel_17 : decode cX1_kneel 17 = .ok (.iaload, 1) := dk_46 (dk_at dksX1_kneel_0 17 rfl rfl)
theorem dX1_kneel_18 : decode cX1_kneel 18 = .ok (.iload_n 3, 1) := dk_29 (dk_at dksX1_kneel_0 18 rfl rfl)
theorem dX1_kneel_19 : decode cX1_kneel 19 = .ok (.invokestatic 71, 3) := dk_184 0 71 (dk_at dksX1_kneel_0 19 rfl rfl)
theorem dX1_kneel_22 : decode cX1_kneel 22 = .ok (.istore 5, 2) := dk_54 5 (dk_at dksX1_kneel_0 22 rfl rfl)
theorem dX1_kneel_24 : decode cX1_kneel 24 = .ok (.aload_n 0, 1) := dk_42 (dk_at dksX1_kneel_1 0 rfl rfl)
theorem dX1_kneel_25 : decode cX1_kneel 25 = .ok (.iload_n 1, 1) := dk_27 (dk_at dksX1_kneel_1 1 rfl rfl)
theorem dX1_kneel_26 : decode cX1_kneel 26 = .ok (.iload_n 2, 1) := dk_28 (dk_at dksX1_kneel_1 2 rfl rfl)
theorem dX1_kneel_27 : decode cX1_kneel 27 = .ok (.invokevirtual 75, 3) := dk_182 0 75 (dk_at dksX1_kneel_1 3 rfl rfl)
theorem dX1_kneel_30 : decode cX1_kneel 30 = .ok (.istore 6, 2) := dk_54 6 (dk_at dksX1_kneel_1 6 rfl rfl)
theorem dX1_kneel_32 : decode cX1_kneel 32 = .ok (.iload 4, 2) := dk_21 4 (dk_at dksX1_kneel_1 8 rfl rfl)
theorem dX1_kneel_34 : decode cX1_kneel 34 = .ok (.ifCond .eq 37, 3) := dk_153 0 37 (dk_at dksX1_kneel_1 10 rfl rfl)
theorem dX1_kneel_37 : decode cX1_kneel 37 = .ok (.iload 5, 2) := dk_21 5 (dk_at dksX1_kneel_1 13 rfl rfl)
theorem dX1_kneel_39 : decode cX1_kneel 39 = .ok (.ifCond .eq 32, 3) := dk_153 0 32 (dk_at dksX1_kneel_1 15 rfl rfl)
theorem dX1_kneel_42 : decode cX1_kneel 42 = .ok (.iconst 0, 1) := dk_3 (dk_at dksX1_kneel_1 18 rfl rfl)
theorem dX1_kneel_43 : decode cX1_kneel 43 = .ok (.iload 6, 2) := dk_21 6 (dk_at dksX1_kneel_1 19 rfl rfl)
theorem dX1_kneel_45 : decode cX1_kneel 45 = .ok (.aload_n 0, 1) := dk_42 (dk_at dksX1_kneel_1 21 rfl rfl)
theorem dX1_kneel_46 : decode cX1_kneel 46 = .ok (.iload_n 1, 1) := dk_27 (dk_at dksX1_kneel_1 22 rfl rfl)
theorem dX1_kneel_47 : decode cX1_kneel 47 = .ok (.invokevirtual 37, 3) := dk_182 0 37 (dk_at dksX1_kneel_2 0 rfl rfl)
theorem dX1_kneel_50 : decode cX1_kneel 50 = .ok (.invokevirtual 79, 3) := dk_182 0 79 (dk_at dksX1_kneel_2 3 rfl rfl)
theorem dX1_kneel_53 : decode cX1_kneel 53 = .ok (.isub, 1) := dk_100 (dk_at dksX1_kneel_2 6 rfl rfl)
theorem dX1_kneel_54 : decode cX1_kneel 54 = .ok (.aload_n 0, 1) := dk_42 (dk_at dksX1_kneel_2 7 rfl rfl)
theorem dX1_kneel_55 : decode cX1_kneel 55 = .ok (.iload_n 2, 1) := dk_28 (dk_at dksX1_kneel_2 8 rfl rfl)
theorem dX1_kneel_56 : decode cX1_kneel 56 = .ok (.invokevirtual 37, 3) := dk_182 0 37 (dk_at dksX1_kneel_2 9 rfl rfl)
theorem dX1_kneel_59 : decode cX1_kneel 59 = .ok (.invokevirtual 79, 3) := dk_182 0 79 (dk_at dksX1_kneel_2 12 rfl rfl)
theorem dX1_kneel_62 : decode cX1_kneel 62 = .ok (.isub, 1) := dk_100 (dk_at dksX1_kneel_2 15 rfl rfl)
theorem dX1_kneel_63 : decode cX1_kneel 63 = .ok (.invokestatic 82, 3) := dk_184 0 82 (dk_at dksX1_kneel_2 16 rfl rfl)
theorem dX1_kneel_66 : decode cX1_kneel 66 = .ok (.istore 6, 2) := dk_54 6 (dk_at dksX1_kneel_2 19 rfl rfl)
theorem dX1_kneel_68 : decode cX1_kneel 68 = .ok (.goto 40, 3) := dk_167 0 40 (dk_at dksX1_kneel_2 21 rfl rfl)
theorem dX1_kneel_71 : decode cX1_kneel 71 = .ok (.iload 4, 2) := dk_21 4 (dk_at dksX1_kneel_3 0 rfl rfl)
theorem dX1_kneel_73 : decode cX1_kneel 73 = .ok (.ifCond .ne 8, 3) := dk_154 0 8 (dk_at dksX1_kneel_3 2 rfl rfl)
theorem dX1_kneel_76 : decode cX1_kneel 76 = .ok (.iload 5, 2) := dk_21 5 (dk_at dksX1_kneel_3 5 rfl rfl)
theorem dX1_kneel_78 : decode cX1_kneel 78 = .ok (.ifCond .eq 30, 3) := dk_153 0 30 (dk_at dksX1_kneel_3 7 rfl rfl)
theorem dX1_kneel_81 : decode cX1_kneel 81 = .ok (.bipush 99, 2) := dk_16 99 (dk_at dksX1_kneel_3 10 rfl rfl)
theorem dX1_kneel_83 : decode cX1_kneel 83 = .ok (.iload 6, 2) := dk_21 6 (dk_at dksX1_kneel_3 12 rfl rfl)
theorem dX1_kneel_85 : decode cX1_kneel 85 = .ok (.aload_n 0, 1) := dk_42 (dk_at dksX1_kneel_3 14 rfl rfl)
theorem dX1_kneel_86 : decode cX1_kneel 86 = .ok (.iload 4, 2) := dk_21 4 (dk_at dksX1_kneel_3 15 rfl rfl)
theorem dX1_kneel_88 : decode cX1_kneel 88 = .ok (.ifCond .eq 7, 3) := dk_153 0 7 (dk_at dksX1_kneel_3 17 rfl rfl)
theorem dX1_kneel_91 : decode cX1_kneel 91 = .ok (.iload_n 1, 1) := dk_27 (dk_at dksX1_kneel_3 20 rfl rfl)
theorem dX1_kneel_92 : decode cX1_kneel 92 = .ok (.goto 4, 3) := dk_167 0 4 (dk_at dksX1_kneel_3 21 rfl rfl)
theorem dX1_kneel_95 : decode cX1_kneel 95 = .ok (.iload_n 2, 1) := dk_28 (dk_at dksX1_kneel_4 0 rfl rfl)
theorem dX1_kneel_96 : decode cX1_kneel 96 = .ok (.invokevirtual 37, 3) := dk_182 0 37 (dk_at dksX1_kneel_4 1 rfl rfl)
theorem dX1_kneel_99 : decode cX1_kneel 99 = .ok (.invokevirtual 87, 3) := dk_182 0 87 (dk_at dksX1_kneel_4 4 rfl rfl)
theorem dX1_kneel_102 : decode cX1_kneel 102 = .ok (.iadd, 1) := dk_96 (dk_at dksX1_kneel_4 7 rfl rfl)
theorem dX1_kneel_103 : decode cX1_kneel 103 = .ok (.invokestatic 90, 3) := dk_184 0 90 (dk_at dksX1_kneel_4 8 rfl rfl)
theorem dX1_kneel_106 : decode cX1_kneel 106 = .ok (.istore 6, 2) := dk_54 6 (dk_at dksX1_kneel_4 11 rfl rfl)
theorem dX1_kneel_108 : decode cX1_kneel 108 = .ok (.aload_n 0, 1) := dk_42 (dk_at dksX1_kneel_4 13 rfl rfl)
theorem dX1_kneel_109 : decode cX1_kneel 109 = .ok (.iload_n 1, 1) := dk_27 (dk_at dksX1_kneel_4 14 rfl rfl)
theorem dX1_kneel_110 : decode cX1_kneel 110 = .ok (.iload_n 2, 1) := dk_28 (dk_at dksX1_kneel_4 15 rfl rfl)
theorem dX1_kneel_111 : decode cX1_kneel 111 = .ok (.iload 6, 2) := dk_21 6 (dk_at dksX1_kneel_4 16 rfl rfl)
theorem dX1_kneel_113 : decode cX1_kneel 113 = .ok (.invokevirtual 64, 3) := dk_182 0 64 (dk_at dksX1_kneel_4 18 rfl rfl)
theorem dX1_kneel_116 : decode cX1_kneel 116 = .ok (.return_, 1) := dk_177 (dk_at dksX1_kneel_4 21 rfl rfl)
abbrev cX1_between : ByteArray := prog_7_method_6_code
def yX1_between : MethodName := ⟨RX1, "between", "(II)I"⟩
def dkwX1_between_0 : List UInt8 := [42, 180, 0, 27, 16, 6, 27, 104, 28, 96, 46, 172]
abbrev dktX1_between_0 : List UInt8 := dkwX1_between_0 ++ []
theorem dksX1_between_0 : cX1_between.data.toList.drop 0 = dktX1_between_0 := by decide +kernel
theorem dX1_between_0 : decode cX1_between 0 = .ok (.aload_n 0, 1) := dk_42 (dk_at dksX1_between_0 0 rfl rfl)
theorem dX1_between_1 : decode cX1_between 1 = .ok (.getfield 27, 3) := dk_180 0 27 (dk_at dksX1_between_0 1 rfl rfl)
theorem dX1_between_4 : decode cX1_between 4 = .ok (.bipush 6, 2) := dk_16 6 (dk_at dksX1_between_0 4 rfl rfl)
theorem dX1_between_6 : decode cX1_between 6 = .ok (.iload_n 1, 1) := dk_27 (dk_at dksX1_between_0 6 rfl rfl)
theorem dX1_between_7 : decode cX1_between 7 = .ok (.imul, 1) := dk_104 (dk_at dksX1_between_0 7 rfl rfl)
theorem dX1_between_8 : decode cX1_between 8 = .ok (.iload_n 2, 1) := dk_28 (dk_at dksX1_between_0 8 rfl rfl)
theorem dX1_between_9 : decode cX1_between 9 = .ok (.iadd, 1) := dk_96 (dk_at dksX1_between_0 9 rfl rfl)
theorem dX1_between_10 : decode cX1_between 10 = .ok (.iaload, 1) := dk_46 (dk_at dksX1_between_0 10 rfl rfl)
theorem dX1_between_11 : decode cX1_between 11 = .ok (.ireturn, 1) := dk_172 (dk_at dksX1_between_0 11 rfl rfl)
abbrev cX1_likes : ByteArray := prog_7_method_17_code
def yX1_likes : MethodName := ⟨RX1, "likes", "(II)I"⟩
def dkwX1_likes_1 : List UInt8 := [184, 0, 102, 96, 42, 28, 182, 0, 37, 182, 0, 106, 96, 172]
abbrev dktX1_likes_1 : List UInt8 := dkwX1_likes_1 ++ []
def dkwX1_likes_0 : List UInt8 := [16, 60, 42, 27, 28, 182, 0, 75, 100, 42, 180, 0, 20, 27, 46, 42, 180, 0, 20, 28, 46, 126]
abbrev dktX1_likes_0 : List UInt8 := dkwX1_likes_0 ++ dktX1_likes_1
theorem dksX1_likes_0 : cX1_likes.data.toList.drop 0 = dktX1_likes_0 := by decide +kernel
theorem dksX1_likes_1 : cX1_likes.data.toList.drop 22 = dktX1_likes_1 := dk_seg dksX1_likes_0 22 rfl rfl
theorem dX1_likes_0 : decode cX1_likes 0 = .ok (.bipush 60, 2) := dk_16 60 (dk_at dksX1_likes_0 0 rfl rfl)
theorem dX1_likes_2 : decode cX1_likes 2 = .ok (.aload_n 0, 1) := dk_42 (dk_at dksX1_likes_0 2 rfl rfl)
theorem dX1_likes_3 : decode cX1_likes 3 = .ok (.iload_n 1, 1) := dk_27 (dk_at dksX1_likes_0 3 rfl rfl)
theorem dX1_likes_4 : decode cX1_likes 4 = .ok (.iload_n 2, 1) := dk_28 (dk_at dksX1_likes_0 4 rfl rfl)
theorem dX1_likes_5 : decode cX1_likes 5 = .ok (.invokevirtual 75, 3) := dk_182 0 75 (dk_at dksX1_likes_0 5 rfl rfl)
theorem dX1_likes_8 : decode cX1_likes 8 = .ok (.isub, 1) := dk_100 (dk_at dksX1_likes_0 8 rfl rfl)
theorem dX1_likes_9 : decode cX1_likes 9 = .ok (.aload_n 0, 1) := dk_42 (dk_at dksX1_likes_0 9 rfl rfl)
theorem dX1_likes_10 : decode cX1_likes 10 = .ok (.getfield 20, 3) := dk_180 0 20 (dk_at dksX1_likes_0 10 rfl rfl)
theorem dX1_likes_13 : decode cX1_likes 13 = .ok (.iload_n 1, 1) := dk_27 (dk_at dksX1_likes_0 13 rfl rfl)
theorem dX1_likes_14 : decode cX1_likes 14 = .ok (.iaload, 1) := dk_46 (dk_at dksX1_likes_0 14 rfl rfl)
theorem dX1_likes_15 : decode cX1_likes 15 = .ok (.aload_n 0, 1) := dk_42 (dk_at dksX1_likes_0 15 rfl rfl)
theorem dX1_likes_16 : decode cX1_likes 16 = .ok (.getfield 20, 3) := dk_180 0 20 (dk_at dksX1_likes_0 16 rfl rfl)
theorem dX1_likes_19 : decode cX1_likes 19 = .ok (.iload_n 2, 1) := dk_28 (dk_at dksX1_likes_0 19 rfl rfl)
theorem dX1_likes_20 : decode cX1_likes 20 = .ok (.iaload, 1) := dk_46 (dk_at dksX1_likes_0 20 rfl rfl)
theorem dX1_likes_21 : decode cX1_likes 21 = .ok (.iand, 1) := dk_126 (dk_at dksX1_likes_0 21 rfl rfl)
theorem dX1_likes_22 : decode cX1_likes 22 = .ok (.invokestatic 102, 3) := dk_184 0 102 (dk_at dksX1_likes_1 0 rfl rfl)
theorem dX1_likes_25 : decode cX1_likes 25 = .ok (.iadd, 1) := dk_96 (dk_at dksX1_likes_1 3 rfl rfl)
theorem dX1_likes_26 : decode cX1_likes 26 = .ok (.aload_n 0, 1) := dk_42 (dk_at dksX1_likes_1 4 rfl rfl)
theorem dX1_likes_27 : decode cX1_likes 27 = .ok (.iload_n 2, 1) := dk_28 (dk_at dksX1_likes_1 5 rfl rfl)
theorem dX1_likes_28 : decode cX1_likes 28 = .ok (.invokevirtual 37, 3) := dk_182 0 37 (dk_at dksX1_likes_1 6 rfl rfl)
theorem dX1_likes_31 : decode cX1_likes 31 = .ok (.invokevirtual 106, 3) := dk_182 0 106 (dk_at dksX1_likes_1 9 rfl rfl)
theorem dX1_likes_34 : decode cX1_likes 34 = .ok (.iadd, 1) := dk_96 (dk_at dksX1_likes_1 12 rfl rfl)
theorem dX1_likes_35 : decode cX1_likes 35 = .ok (.ireturn, 1) := dk_172 (dk_at dksX1_likes_1 13 rfl rfl)
abbrev cX1_mats : ByteArray := prog_7_method_16_code
def yX1_mats : MethodName := ⟨RX1, "mats", "()I"⟩
def dkwX1_mats_1 : List UInt8 := [167, 0, 4, 3, 96, 60, 132, 2, 1, 167, 255, 227, 27, 172]
abbrev dktX1_mats_1 : List UInt8 := dkwX1_mats_1 ++ []
def dkwX1_mats_0 : List UInt8 := [3, 60, 3, 61, 28, 42, 182, 0, 61, 162, 0, 27, 27, 42, 180, 0, 24, 28, 46, 28, 164, 0, 7, 4]
abbrev dktX1_mats_0 : List UInt8 := dkwX1_mats_0 ++ dktX1_mats_1
theorem dksX1_mats_0 : cX1_mats.data.toList.drop 0 = dktX1_mats_0 := by decide +kernel
theorem dksX1_mats_1 : cX1_mats.data.toList.drop 24 = dktX1_mats_1 := dk_seg dksX1_mats_0 24 rfl rfl
theorem dX1_mats_0 : decode cX1_mats 0 = .ok (.iconst 0, 1) := dk_3 (dk_at dksX1_mats_0 0 rfl rfl)
theorem dX1_mats_1 : decode cX1_mats 1 = .ok (.istore_n 1, 1) := dk_60 (dk_at dksX1_mats_0 1 rfl rfl)
theorem dX1_mats_2 : decode cX1_mats 2 = .ok (.iconst 0, 1) := dk_3 (dk_at dksX1_mats_0 2 rfl rfl)
theorem dX1_mats_3 : decode cX1_mats 3 = .ok (.istore_n 2, 1) := dk_61 (dk_at dksX1_mats_0 3 rfl rfl)
theorem dX1_mats_4 : decode cX1_mats 4 = .ok (.iload_n 2, 1) := dk_28 (dk_at dksX1_mats_0 4 rfl rfl)
theorem dX1_mats_5 : decode cX1_mats 5 = .ok (.aload_n 0, 1) := dk_42 (dk_at dksX1_mats_0 5 rfl rfl)
theorem dX1_mats_6 : decode cX1_mats 6 = .ok (.invokevirtual 61, 3) := dk_182 0 61 (dk_at dksX1_mats_0 6 rfl rfl)
theorem dX1_mats_9 : decode cX1_mats 9 = .ok (.if_icmp .ge 27, 3) := dk_162 0 27 (dk_at dksX1_mats_0 9 rfl rfl)
theorem dX1_mats_12 : decode cX1_mats 12 = .ok (.iload_n 1, 1) := dk_27 (dk_at dksX1_mats_0 12 rfl rfl)
theorem dX1_mats_13 : decode cX1_mats 13 = .ok (.aload_n 0, 1) := dk_42 (dk_at dksX1_mats_0 13 rfl rfl)
theorem dX1_mats_14 : decode cX1_mats 14 = .ok (.getfield 24, 3) := dk_180 0 24 (dk_at dksX1_mats_0 14 rfl rfl)
theorem dX1_mats_17 : decode cX1_mats 17 = .ok (.iload_n 2, 1) := dk_28 (dk_at dksX1_mats_0 17 rfl rfl)
theorem dX1_mats_18 : decode cX1_mats 18 = .ok (.iaload, 1) := dk_46 (dk_at dksX1_mats_0 18 rfl rfl)
theorem dX1_mats_19 : decode cX1_mats 19 = .ok (.iload_n 2, 1) := dk_28 (dk_at dksX1_mats_0 19 rfl rfl)
theorem dX1_mats_20 : decode cX1_mats 20 = .ok (.if_icmp .le 7, 3) := dk_164 0 7 (dk_at dksX1_mats_0 20 rfl rfl)
theorem dX1_mats_23 : decode cX1_mats 23 = .ok (.iconst 1, 1) := dk_4 (dk_at dksX1_mats_0 23 rfl rfl)
theorem dX1_mats_24 : decode cX1_mats 24 = .ok (.goto 4, 3) := dk_167 0 4 (dk_at dksX1_mats_1 0 rfl rfl)
theorem dX1_mats_27 : decode cX1_mats 27 = .ok (.iconst 0, 1) := dk_3 (dk_at dksX1_mats_1 3 rfl rfl)
theorem dX1_mats_28 : decode cX1_mats 28 = .ok (.iadd, 1) := dk_96 (dk_at dksX1_mats_1 4 rfl rfl)
theorem dX1_mats_29 : decode cX1_mats 29 = .ok (.istore_n 1, 1) := dk_60 (dk_at dksX1_mats_1 5 rfl rfl)
theorem dX1_mats_30 : decode cX1_mats 30 = .ok (.iinc 2 1, 3) := dk_132 2 1 (dk_at dksX1_mats_1 6 rfl rfl)
theorem dX1_mats_33 : decode cX1_mats 33 = .ok (.goto (-29), 3) := dk_167 255 227 (dk_at dksX1_mats_1 9 rfl rfl)
theorem dX1_mats_36 : decode cX1_mats 36 = .ok (.iload_n 1, 1) := dk_27 (dk_at dksX1_mats_1 12 rfl rfl)
theorem dX1_mats_37 : decode cX1_mats 37 = .ok (.ireturn, 1) := dk_172 (dk_at dksX1_mats_1 13 rfl rfl)
abbrev cX1_all : ByteArray := prog_7_method_14_code
def yX1_all : MethodName := ⟨RX1, "all", "()I"⟩
def dkwX1_all_1 : List UInt8 := [27, 42, 28, 29, 182, 0, 75, 96, 60, 132, 3, 1, 167, 255, 236, 132, 2, 1, 167, 255, 218, 27, 172]
abbrev dktX1_all_1 : List UInt8 := dkwX1_all_1 ++ []
def dkwX1_all_0 : List UInt8 := [3, 60, 3, 61, 28, 42, 182, 0, 61, 162, 0, 36, 28, 4, 96, 62, 29, 42, 182, 0, 61, 162, 0, 18]
abbrev dktX1_all_0 : List UInt8 := dkwX1_all_0 ++ dktX1_all_1
theorem dksX1_all_0 : cX1_all.data.toList.drop 0 = dktX1_all_0 := by decide +kernel
theorem dksX1_all_1 : cX1_all.data.toList.drop 24 = dktX1_all_1 := dk_seg dksX1_all_0 24 rfl rfl
theorem dX1_all_0 : decode cX1_all 0 = .ok (.iconst 0, 1) := dk_3 (dk_at dksX1_all_0 0 rfl rfl)
theorem dX1_all_1 : decode cX1_all 1 = .ok (.istore_n 1, 1) := dk_60 (dk_at dksX1_all_0 1 rfl rfl)
theorem dX1_all_2 : decode cX1_all 2 = .ok (.iconst 0, 1) := dk_3 (dk_at dksX1_all_0 2 rfl rfl)
theorem dX1_all_3 : decode cX1_all 3 = .ok (.istore_n 2, 1) := dk_61 (dk_at dksX1_all_0 3 rfl rfl)
theorem dX1_all_4 : decode cX1_all 4 = .ok (.iload_n 2, 1) := dk_28 (dk_at dksX1_all_0 4 rfl rfl)
theorem dX1_all_5 : decode cX1_all 5 = .ok (.aload_n 0, 1) := dk_42 (dk_at dksX1_all_0 5 rfl rfl)
theorem dX1_all_6 : decode cX1_all 6 = .ok (.invokevirtual 61, 3) := dk_182 0 61 (dk_at dksX1_all_0 6 rfl rfl)
theorem dX1_all_9 : decode cX1_all 9 = .ok (.if_icmp .ge 36, 3) := dk_162 0 36 (dk_at dksX1_all_0 9 rfl rfl)
theorem dX1_all_12 : decode cX1_all 12 = .ok (.iload_n 2, 1) := dk_28 (dk_at dksX1_all_0 12 rfl rfl)
theorem dX1_all_13 : decode cX1_all 13 = .ok (.iconst 1, 1) := dk_4 (dk_at dksX1_all_0 13 rfl rfl)
theorem dX1_all_14 : decode cX1_all 14 = .ok (.iadd, 1) := dk_96 (dk_at dksX1_all_0 14 rfl rfl)
theorem dX1_all_15 : decode cX1_all 15 = .ok (.istore_n 3, 1) := dk_62 (dk_at dksX1_all_0 15 rfl rfl)
theorem dX1_all_16 : decode cX1_all 16 = .ok (.iload_n 3, 1) := dk_29 (dk_at dksX1_all_0 16 rfl rfl)
theorem dX1_all_17 : decode cX1_all 17 = .ok (.aload_n 0, 1) := dk_42 (dk_at dksX1_all_0 17 rfl rfl)
theorem dX1_all_18 : decode cX1_all 18 = .ok (.invokevirtual 61, 3) := dk_182 0 61 (dk_at dksX1_all_0 18 rfl rfl)
theorem dX1_all_21 : decode cX1_all 21 = .ok (.if_icmp .ge 18, 3) := dk_162 0 18 (dk_at dksX1_all_0 21 rfl rfl)
theorem dX1_all_24 : decode cX1_all 24 = .ok (.iload_n 1, 1) := dk_27 (dk_at dksX1_all_1 0 rfl rfl)
theorem dX1_all_25 : decode cX1_all 25 = .ok (.aload_n 0, 1) := dk_42 (dk_at dksX1_all_1 1 rfl rfl)
theorem dX1_all_26 : decode cX1_all 26 = .ok (.iload_n 2, 1) := dk_28 (dk_at dksX1_all_1 2 rfl rfl)
theorem dX1_all_27 : decode cX1_all 27 = .ok (.iload_n 3, 1) := dk_29 (dk_at dksX1_all_1 3 rfl rfl)
theorem dX1_all_28 : decode cX1_all 28 = .ok (.invokevirtual 75, 3) := dk_182 0 75 (dk_at dksX1_all_1 4 rfl rfl)
theorem dX1_all_31 : decode cX1_all 31 = .ok (.iadd, 1) := dk_96 (dk_at dksX1_all_1 7 rfl rfl)
theorem dX1_all_32 : decode cX1_all 32 = .ok (.istore_n 1, 1) := dk_60 (dk_at dksX1_all_1 8 rfl rfl)
theorem dX1_all_33 : decode cX1_all 33 = .ok (.iinc 3 1, 3) := dk_132 3 1 (dk_at dksX1_all_1 9 rfl rfl)
theorem dX1_all_36 : decode cX1_all 36 = .ok (.goto (-20), 3) := dk_167 255 236 (dk_at dksX1_all_1 12 rfl rfl)
theorem dX1_all_39 : decode cX1_all 39 = .ok (.iinc 2 1, 3) := dk_132 2 1 (dk_at dksX1_all_1 15 rfl rfl)
theorem dX1_all_42 : decode cX1_all 42 = .ok (.goto (-38), 3) := dk_167 255 218 (dk_at dksX1_all_1 18 rfl rfl)
theorem dX1_all_45 : decode cX1_all 45 = .ok (.iload_n 1, 1) := dk_27 (dk_at dksX1_all_1 21 rfl rfl)
theorem dX1_all_46 : decode cX1_all 46 = .ok (.ireturn, 1) := dk_172 (dk_at dksX1_all_1 22 rfl rfl)
abbrev cX1_mended : ByteArray := prog_7_method_15_code
def yX1_mended : MethodName := ⟨RX1, "mended", "()I"⟩
def dkwX1_mended_2 : List UInt8 := [132, 2, 1, 167, 255, 210, 27, 172]
abbrev dktX1_mended_2 : List UInt8 := dkwX1_mended_2 ++ []
def dkwX1_mended_1 : List UInt8 := [27, 42, 28, 29, 182, 0, 75, 154, 0, 7, 4, 167, 0, 4, 3, 96, 60, 132, 3, 1, 167, 255, 228]
abbrev dktX1_mended_1 : List UInt8 := dkwX1_mended_1 ++ dktX1_mended_2
def dkwX1_mended_0 : List UInt8 := [3, 60, 3, 61, 28, 42, 182, 0, 61, 162, 0, 44, 28, 4, 96, 62, 29, 42, 182, 0, 61, 162, 0, 26]
abbrev dktX1_mended_0 : List UInt8 := dkwX1_mended_0 ++ dktX1_mended_1
theorem dksX1_mended_0 : cX1_mended.data.toList.drop 0 = dktX1_mended_0 := by decide +kernel
theorem dksX1_mended_1 : cX1_mended.data.toList.drop 24 = dktX1_mended_1 := dk_seg dksX1_mended_0 24 rfl rfl
theorem dksX1_mended_2 : cX1_mended.data.toList.drop 47 = dktX1_mended_2 := dk_seg dksX1_mended_1 23 rfl rfl
theorem dX1_mended_0 : decode cX1_mended 0 = .ok (.iconst 0, 1) := dk_3 (dk_at dksX1_mended_0 0 rfl rfl)
theorem dX1_mended_1 : decode cX1_mended 1 = .ok (.istore_n 1, 1) := dk_60 (dk_at dksX1_mended_0 1 rfl rfl)
theorem dX1_mended_2 : decode cX1_mended 2 = .ok (.iconst 0, 1) := dk_3 (dk_at dksX1_mended_0 2 rfl rfl)
theorem dX1_mended_3 : decode cX1_mended 3 = .ok (.istore_n 2, 1) := dk_61 (dk_at dksX1_mended_0 3 rfl rfl)
theorem dX1_mended_4 : decode cX1_mended 4 = .ok (.iload_n 2, 1) := dk_28 (dk_at dksX1_mended_0 4 rfl rfl)
theorem dX1_mended_5 : decode cX1_mended 5 = .ok (.aload_n 0, 1) := dk_42 (dk_at dksX1_mended_0 5 rfl rfl)
theorem dX1_mended_6 : decode cX1_mended 6 = .ok (.invokevirtual 61, 3) := dk_182 0 61 (dk_at dksX1_mended_0 6 rfl rfl)
theorem dX1_mended_9 : decode cX1_mended 9 = .ok (.if_icmp .ge 44, 3) := dk_162 0 44 (dk_at dksX1_mended_0 9 rfl rfl)
theorem dX1_mended_12 : decode cX1_mended 12 = .ok (.iload_n 2, 1) := dk_28 (dk_at dksX1_mended_0 12 rfl rfl)
theorem dX1_mended_13 : decode cX1_mended 13 = .ok (.iconst 1, 1) := dk_4 (dk_at dksX1_mended_0 13 rfl rfl)
theorem dX1_mended_14 : decode cX1_mended 14 = .ok (.iadd, 1) := dk_96 (dk_at dksX1_mended_0 14 rfl rfl)
theorem dX1_mended_15 : decode cX1_mended 15 = .ok (.istore_n 3, 1) := dk_62 (dk_at dksX1_mended_0 15 rfl rfl)
theorem dX1_mended_16 : decode cX1_mended 16 = .ok (.iload_n 3, 1) := dk_29 (dk_at dksX1_mended_0 16 rfl rfl)
theorem dX1_mended_17 : decode cX1_mended 17 = .ok (.aload_n 0, 1) := dk_42 (dk_at dksX1_mended_0 17 rfl rfl)
theorem dX1_mended_18 : decode cX1_mended 18 = .ok (.invokevirtual 61, 3) := dk_182 0 61 (dk_at dksX1_mended_0 18 rfl rfl)
theorem dX1_mended_21 : decode cX1_mended 21 = .ok (.if_icmp .ge 26, 3) := dk_162 0 26 (dk_at dksX1_mended_0 21 rfl rfl)
theorem dX1_mended_24 : decode cX1_mended 24 = .ok (.iload_n 1, 1) := dk_27 (dk_at dksX1_mended_1 0 rfl rfl)
theorem dX1_mended_25 : decode cX1_mended 25 = .ok (.aload_n 0, 1) := dk_42 (dk_at dksX1_mended_1 1 rfl rfl)
theorem dX1_mended_26 : decode cX1_mended 26 = .ok (.iload_n 2, 1) := dk_28 (dk_at dksX1_mended_1 2 rfl rfl)
theorem dX1_mended_27 : decode cX1_mended 27 = .ok (.iload_n 3, 1) := dk_29 (dk_at dksX1_mended_1 3 rfl rfl)
theorem dX1_mended_28 : decode cX1_mended 28 = .ok (.invokevirtual 75, 3) := dk_182 0 75 (dk_at dksX1_mended_1 4 rfl rfl)
theorem dX1_mended_31 : decode cX1_mended 31 = .ok (.ifCond .ne 7, 3) := dk_154 0 7 (dk_at dksX1_mended_1 7 rfl rfl)
theorem dX1_mended_34 : decode cX1_mended 34 = .ok (.iconst 1, 1) := dk_4 (dk_at dksX1_mended_1 10 rfl rfl)
theorem dX1_mended_35 : decode cX1_mended 35 = .ok (.goto 4, 3) := dk_167 0 4 (dk_at dksX1_mended_1 11 rfl rfl)
theorem dX1_mended_38 : decode cX1_mended 38 = .ok (.iconst 0, 1) := dk_3 (dk_at dksX1_mended_1 14 rfl rfl)
theorem dX1_mended_39 : decode cX1_mended 39 = .ok (.iadd, 1) := dk_96 (dk_at dksX1_mended_1 15 rfl rfl)
theorem dX1_mended_40 : decode cX1_mended 40 = .ok (.istore_n 1, 1) := dk_60 (dk_at dksX1_mended_1 16 rfl rfl)
theorem dX1_mended_41 : decode cX1_mended 41 = .ok (.iinc 3 1, 3) := dk_132 3 1 (dk_at dksX1_mended_1 17 rfl rfl)
theorem dX1_mended_44 : decode cX1_mended 44 = .ok (.goto (-28), 3) := dk_167 255 228 (dk_at dksX1_mended_1 20 rfl rfl)
theorem dX1_mended_47 : decode cX1_mended 47 = .ok (.iinc 2 1, 3) := dk_132 2 1 (dk_at dksX1_mended_2 0 rfl rfl)
theorem dX1_mended_50 : decode cX1_mended 50 = .ok (.goto (-46), 3) := dk_167 255 210 (dk_at dksX1_mended_2 3 rfl rfl)
theorem dX1_mended_53 : decode cX1_mended 53 = .ok (.iload_n 1, 1) := dk_27 (dk_at dksX1_mended_2 6 rfl rfl)
theorem dX1_mended_54 : decode cX1_mended 54 = .ok (.ireturn, 1) := dk_172 (dk_at dksX1_mended_2 7 rfl rfl)
abbrev cX1_isRid : ByteArray := prog_7_method_20_code
def yX1_isRid : MethodName := ⟨RX1, "isRid", "(I)Z"⟩
def dkwX1_isRid_1 : List UInt8 := [162, 0, 7, 4, 167, 0, 4, 3, 172]
abbrev dktX1_isRid_1 : List UInt8 := dkwX1_isRid_1 ++ []
def dkwX1_isRid_0 : List UInt8 := [42, 180, 0, 24, 27, 46, 155, 0, 23, 42, 27, 42, 180, 0, 24, 27, 46, 182, 0, 109, 16, 50]
abbrev dktX1_isRid_0 : List UInt8 := dkwX1_isRid_0 ++ dktX1_isRid_1
theorem dksX1_isRid_0 : cX1_isRid.data.toList.drop 0 = dktX1_isRid_0 := by decide +kernel
theorem dksX1_isRid_1 : cX1_isRid.data.toList.drop 22 = dktX1_isRid_1 := dk_seg dksX1_isRid_0 22 rfl rfl
theorem dX1_isRid_0 : decode cX1_isRid 0 = .ok (.aload_n 0, 1) := dk_42 (dk_at dksX1_isRid_0 0 rfl rfl)
theorem dX1_isRid_1 : decode cX1_isRid 1 = .ok (.getfield 24, 3) := dk_180 0 24 (dk_at dksX1_isRid_0 1 rfl rfl)
theorem dX1_isRid_4 : decode cX1_isRid 4 = .ok (.iload_n 1, 1) := dk_27 (dk_at dksX1_isRid_0 4 rfl rfl)
theorem dX1_isRid_5 : decode cX1_isRid 5 = .ok (.iaload, 1) := dk_46 (dk_at dksX1_isRid_0 5 rfl rfl)
theorem dX1_isRid_6 : decode cX1_isRid 6 = .ok (.ifCond .lt 23, 3) := dk_155 0 23 (dk_at dksX1_isRid_0 6 rfl rfl)
theorem dX1_isRid_9 : decode cX1_isRid 9 = .ok (.aload_n 0, 1) := dk_42 (dk_at dksX1_isRid_0 9 rfl rfl)
theorem dX1_isRid_10 : decode cX1_isRid 10 = .ok (.iload_n 1, 1) := dk_27 (dk_at dksX1_isRid_0 10 rfl rfl)
theorem dX1_isRid_11 : decode cX1_isRid 11 = .ok (.aload_n 0, 1) := dk_42 (dk_at dksX1_isRid_0 11 rfl rfl)
theorem dX1_isRid_12 : decode cX1_isRid 12 = .ok (.getfield 24, 3) := dk_180 0 24 (dk_at dksX1_isRid_0 12 rfl rfl)
theorem dX1_isRid_15 : decode cX1_isRid 15 = .ok (.iload_n 1, 1) := dk_27 (dk_at dksX1_isRid_0 15 rfl rfl)
theorem dX1_isRid_16 : decode cX1_isRid 16 = .ok (.iaload, 1) := dk_46 (dk_at dksX1_isRid_0 16 rfl rfl)
theorem dX1_isRid_17 : decode cX1_isRid 17 = .ok (.invokevirtual 109, 3) := dk_182 0 109 (dk_at dksX1_isRid_0 17 rfl rfl)
theorem dX1_isRid_20 : decode cX1_isRid 20 = .ok (.bipush 50, 2) := dk_16 50 (dk_at dksX1_isRid_0 20 rfl rfl)
theorem dX1_isRid_22 : decode cX1_isRid 22 = .ok (.if_icmp .ge 7, 3) := dk_162 0 7 (dk_at dksX1_isRid_1 0 rfl rfl)
theorem dX1_isRid_25 : decode cX1_isRid 25 = .ok (.iconst 1, 1) := dk_4 (dk_at dksX1_isRid_1 3 rfl rfl)
theorem dX1_isRid_26 : decode cX1_isRid 26 = .ok (.goto 4, 3) := dk_167 0 4 (dk_at dksX1_isRid_1 4 rfl rfl)
theorem dX1_isRid_29 : decode cX1_isRid 29 = .ok (.iconst 0, 1) := dk_3 (dk_at dksX1_isRid_1 7 rfl rfl)
theorem dX1_isRid_30 : decode cX1_isRid 30 = .ok (.ireturn, 1) := dk_172 (dk_at dksX1_isRid_1 8 rfl rfl)
abbrev cX1_doLeave : ByteArray := prog_7_method_19_code
def yX1_doLeave : MethodName := ⟨RX1, "doLeave", "(II)Z"⟩
def dkwX1_doLeave_1 : List UInt8 := [182, 0, 112, 153, 0, 7, 4, 167, 0, 4, 3, 172]
abbrev dktX1_doLeave_1 : List UInt8 := dkwX1_doLeave_1 ++ []
def dkwX1_doLeave_0 : List UInt8 := [42, 180, 0, 24, 27, 46, 28, 159, 0, 25, 42, 27, 28, 182, 0, 112, 153, 0, 16, 42, 28, 27]
abbrev dktX1_doLeave_0 : List UInt8 := dkwX1_doLeave_0 ++ dktX1_doLeave_1
theorem dksX1_doLeave_0 : cX1_doLeave.data.toList.drop 0 = dktX1_doLeave_0 := by decide +kernel
theorem dksX1_doLeave_1 : cX1_doLeave.data.toList.drop 22 = dktX1_doLeave_1 := dk_seg dksX1_doLeave_0 22 rfl rfl
theorem dX1_doLeave_0 : decode cX1_doLeave 0 = .ok (.aload_n 0, 1) := dk_42 (dk_at dksX1_doLeave_0 0 rfl rfl)
theorem dX1_doLeave_1 : decode cX1_doLeave 1 = .ok (.getfield 24, 3) := dk_180 0 24 (dk_at dksX1_doLeave_0 1 rfl rfl)
theorem dX1_doLeave_4 : decode cX1_doLeave 4 = .ok (.iload_n 1, 1) := dk_27 (dk_at dksX1_doLeave_0 4 rfl rfl)
theorem dX1_doLeave_5 : decode cX1_doLeave 5 = .ok (.iaload, 1) := dk_46 (dk_at dksX1_doLeave_0 5 rfl rfl)
theorem dX1_doLeave_6 : decode cX1_doLeave 6 = .ok (.iload_n 2, 1) := dk_28 (dk_at dksX1_doLeave_0 6 rfl rfl)
theorem dX1_doLeave_7 : decode cX1_doLeave 7 = .ok (.if_icmp .eq 25, 3) := dk_159 0 25 (dk_at dksX1_doLeave_0 7 rfl rfl)
theorem dX1_doLeave_10 : decode cX1_doLeave 10 = .ok (.aload_n 0, 1) := dk_42 (dk_at dksX1_doLeave_0 10 rfl rfl)
theorem dX1_doLeave_11 : decode cX1_doLeave 11 = .ok (.iload_n 1, 1) := dk_27 (dk_at dksX1_doLeave_0 11 rfl rfl)
theorem dX1_doLeave_12 : decode cX1_doLeave 12 = .ok (.iload_n 2, 1) := dk_28 (dk_at dksX1_doLeave_0 12 rfl rfl)
theorem dX1_doLeave_13 : decode cX1_doLeave 13 = .ok (.invokevirtual 112, 3) := dk_182 0 112 (dk_at dksX1_doLeave_0 13 rfl rfl)
theorem dX1_doLeave_16 : decode cX1_doLeave 16 = .ok (.ifCond .eq 16, 3) := dk_153 0 16 (dk_at dksX1_doLeave_0 16 rfl rfl)
theorem dX1_doLeave_19 : decode cX1_doLeave 19 = .ok (.aload_n 0, 1) := dk_42 (dk_at dksX1_doLeave_0 19 rfl rfl)
theorem dX1_doLeave_20 : decode cX1_doLeave 20 = .ok (.iload_n 2, 1) := dk_28 (dk_at dksX1_doLeave_0 20 rfl rfl)
theorem dX1_doLeave_21 : decode cX1_doLeave 21 = .ok (.iload_n 1, 1) := dk_27 (dk_at dksX1_doLeave_0 21 rfl rfl)
theorem dX1_doLeave_22 : decode cX1_doLeave 22 = .ok (.invokevirtual 112, 3) := dk_182 0 112 (dk_at dksX1_doLeave_1 0 rfl rfl)
theorem dX1_doLeave_25 : decode cX1_doLeave 25 = .ok (.ifCond .eq 7, 3) := dk_153 0 7 (dk_at dksX1_doLeave_1 3 rfl rfl)
theorem dX1_doLeave_28 : decode cX1_doLeave 28 = .ok (.iconst 1, 1) := dk_4 (dk_at dksX1_doLeave_1 6 rfl rfl)
theorem dX1_doLeave_29 : decode cX1_doLeave 29 = .ok (.goto 4, 3) := dk_167 0 4 (dk_at dksX1_doLeave_1 7 rfl rfl)
theorem dX1_doLeave_32 : decode cX1_doLeave 32 = .ok (.iconst 0, 1) := dk_3 (dk_at dksX1_doLeave_1 10 rfl rfl)
theorem dX1_doLeave_33 : decode cX1_doLeave 33 = .ok (.ireturn, 1) := dk_172 (dk_at dksX1_doLeave_1 11 rfl rfl)
abbrev cX1_wouldRather : ByteArray := prog_7_method_18_code
def yX1_wouldRather : MethodName := ⟨RX1, "wouldRather", "(II)Z"⟩
def dkwX1_wouldRather_2 : List UInt8 := [164, 0, 7, 4, 167, 0, 4, 3, 172]
abbrev dktX1_wouldRather_2 : List UInt8 := dkwX1_wouldRather_2 ++ []
def dkwX1_wouldRather_1 : List UInt8 := [161, 0, 30, 167, 0, 23, 42, 27, 28, 182, 0, 109, 42, 27, 42, 180, 0, 24, 27, 46, 182, 0, 109]
abbrev dktX1_wouldRather_1 : List UInt8 := dkwX1_wouldRather_1 ++ dktX1_wouldRather_2
def dkwX1_wouldRather_0 : List UInt8 := [27, 28, 159, 0, 50, 42, 180, 0, 24, 27, 46, 156, 0, 17, 42, 27, 28, 182, 0, 109, 16, 50]
abbrev dktX1_wouldRather_0 : List UInt8 := dkwX1_wouldRather_0 ++ dktX1_wouldRather_1
theorem dksX1_wouldRather_0 : cX1_wouldRather.data.toList.drop 0 = dktX1_wouldRather_0 := by decide +kernel
theorem dksX1_wouldRather_1 : cX1_wouldRather.data.toList.drop 22 = dktX1_wouldRather_1 := dk_seg dksX1_wouldRather_0 22 rfl rfl
theorem dksX1_wouldRather_2 : cX1_wouldRather.data.toList.drop 45 = dktX1_wouldRather_2 := dk_seg dksX1_wouldRather_1 23 rfl rfl
theorem dX1_wouldRather_0 : decode cX1_wouldRather 0 = .ok (.iload_n 1, 1) := dk_27 (dk_at dksX1_wouldRather_0 0 rfl rfl)
theorem dX1_wouldRather_1 : decode cX1_wouldRather 1 = .ok (.iload_n 2, 1) := dk_28 (dk_at dksX1_wouldRather_0 1 rfl rfl)
theorem dX1_wouldRather_2 : decode cX1_wouldRather 2 = .ok (.if_icmp .eq 50, 3) := dk_159 0 50 (dk_at dksX1_wouldRather_0 2 rfl rfl)
theorem dX1_wouldRather_5 : decode cX1_wouldRather 5 = .ok (.aload_n 0, 1) := dk_42 (dk_at dksX1_wouldRather_0 5 rfl rfl)
theorem dX1_wouldRather_6 : decode cX1_wouldRather 6 = .ok (.getfield 24, 3) := dk_180 0 24 (dk_at dksX1_wouldRather_0 6 rfl rfl)
theorem dX1_wouldRather_9 : decode cX1_wouldRather 9 = .ok (.iload_n 1, 1) := dk_27 (dk_at dksX1_wouldRather_0 9 rfl rfl)
theorem dX1_wouldRather_10 : decode cX1_wouldRather 10 = .ok (.iaload, 1) := dk_46 (dk_at dksX1_wouldRather_0 10 rfl rfl)
theorem dX1_wouldRather_11 : decode cX1_wouldRather 11 = .ok (.ifCond .ge 17, 3) := dk_156 0 17 (dk_at dksX1_wouldRather_0 11 rfl rfl)
theorem dX1_wouldRather_14 : decode cX1_wouldRather 14 = .ok (.aload_n 0, 1) := dk_42 (dk_at dksX1_wouldRather_0 14 rfl rfl)
theorem dX1_wouldRather_15 : decode cX1_wouldRather 15 = .ok (.iload_n 1, 1) := dk_27 (dk_at dksX1_wouldRather_0 15 rfl rfl)
theorem dX1_wouldRather_16 : decode cX1_wouldRather 16 = .ok (.iload_n 2, 1) := dk_28 (dk_at dksX1_wouldRather_0 16 rfl rfl)
theorem dX1_wouldRather_17 : decode cX1_wouldRather 17 = .ok (.invokevirtual 109, 3) := dk_182 0 109 (dk_at dksX1_wouldRather_0 17 rfl rfl)
theorem dX1_wouldRather_20 : decode cX1_wouldRather 20 = .ok (.bipush 50, 2) := dk_16 50 (dk_at dksX1_wouldRather_0 20 rfl rfl)
theorem dX1_wouldRather_22 : decode cX1_wouldRather 22 = .ok (.if_icmp .lt 30, 3) := dk_161 0 30 (dk_at dksX1_wouldRather_1 0 rfl rfl)
theorem dX1_wouldRather_25 : decode cX1_wouldRather 25 = .ok (.goto 23, 3) := dk_167 0 23 (dk_at dksX1_wouldRather_1 3 rfl rfl)
theorem dX1_wouldRather_28 : decode cX1_wouldRather 28 = .ok (.aload_n 0, 1) := dk_42 (dk_at dksX1_wouldRather_1 6 rfl rfl)
theorem dX1_wouldRather_29 : decode cX1_wouldRather 29 = .ok (.iload_n 1, 1) := dk_27 (dk_at dksX1_wouldRather_1 7 rfl rfl)
theorem dX1_wouldRather_30 : decode cX1_wouldRather 30 = .ok (.iload_n 2, 1) := dk_28 (dk_at dksX1_wouldRather_1 8 rfl rfl)
theorem dX1_wouldRather_31 : decode cX1_wouldRather 31 = .ok (.invokevirtual 109, 3) := dk_182 0 109 (dk_at dksX1_wouldRather_1 9 rfl rfl)
theorem dX1_wouldRather_34 : decode cX1_wouldRather 34 = .ok (.aload_n 0, 1) := dk_42 (dk_at dksX1_wouldRather_1 12 rfl rfl)
theorem dX1_wouldRather_35 : decode cX1_wouldRather 35 = .ok (.iload_n 1, 1) := dk_27 (dk_at dksX1_wouldRather_1 13 rfl rfl)
theorem dX1_wouldRather_36 : decode cX1_wouldRather 36 = .ok (.aload_n 0, 1) := dk_42 (dk_at dksX1_wouldRather_1 14 rfl rfl)
theorem dX1_wouldRather_37 : decode cX1_wouldRather 37 = .ok (.getfield 24, 3) := dk_180 0 24 (dk_at dksX1_wouldRather_1 15 rfl rfl)
theorem dX1_wouldRather_40 : decode cX1_wouldRather 40 = .ok (.iload_n 1, 1) := dk_27 (dk_at dksX1_wouldRather_1 18 rfl rfl)
theorem dX1_wouldRather_41 : decode cX1_wouldRather 41 = .ok (.iaload, 1) := dk_46 (dk_at dksX1_wouldRather_1 19 rfl rfl)
theorem dX1_wouldRather_42 : decode cX1_wouldRather 42 = .ok (.invokevirtual 109, 3) := dk_182 0 109 (dk_at dksX1_wouldRather_1 20 rfl rfl)
theorem dX1_wouldRather_45 : decode cX1_wouldRather 45 = .ok (.if_icmp .le 7, 3) := dk_164 0 7 (dk_at dksX1_wouldRather_2 0 rfl rfl)
theorem dX1_wouldRather_48 : decode cX1_wouldRather 48 = .ok (.iconst 1, 1) := dk_4 (dk_at dksX1_wouldRather_2 3 rfl rfl)
theorem dX1_wouldRather_49 : decode cX1_wouldRather 49 = .ok (.goto 4, 3) := dk_167 0 4 (dk_at dksX1_wouldRather_2 4 rfl rfl)
theorem dX1_wouldRather_52 : decode cX1_wouldRather 52 = .ok (.iconst 0, 1) := dk_3 (dk_at dksX1_wouldRather_2 7 rfl rfl)
theorem dX1_wouldRather_53 : decode cX1_wouldRather 53 = .ok (.ireturn, 1) := dk_172 (dk_at dksX1_wouldRather_2 8 rfl rfl)
abbrev cX1_isStable : ByteArray := prog_7_method_21_code
def yX1_isStable : MethodName := ⟨RX1, "isStable", "()Z"⟩
def dkwX1_isStable_2 : List UInt8 := [167, 255, 234, 132, 1, 1, 167, 255, 206, 4, 172]
abbrev dktX1_isStable_2 : List UInt8 := dkwX1_isStable_2 ++ []
def dkwX1_isStable_1 : List UInt8 := [28, 42, 182, 0, 61, 162, 0, 20, 42, 27, 28, 182, 0, 119, 153, 0, 5, 3, 172, 132, 2, 1]
abbrev dktX1_isStable_1 : List UInt8 := dkwX1_isStable_1 ++ dktX1_isStable_2
def dkwX1_isStable_0 : List UInt8 := [3, 60, 27, 42, 182, 0, 61, 162, 0, 48, 42, 27, 182, 0, 115, 153, 0, 5, 3, 172, 27, 4, 96, 61]
abbrev dktX1_isStable_0 : List UInt8 := dkwX1_isStable_0 ++ dktX1_isStable_1
theorem dksX1_isStable_0 : cX1_isStable.data.toList.drop 0 = dktX1_isStable_0 := by decide +kernel
theorem dksX1_isStable_1 : cX1_isStable.data.toList.drop 24 = dktX1_isStable_1 := dk_seg dksX1_isStable_0 24 rfl rfl
theorem dksX1_isStable_2 : cX1_isStable.data.toList.drop 46 = dktX1_isStable_2 := dk_seg dksX1_isStable_1 22 rfl rfl
theorem dX1_isStable_0 : decode cX1_isStable 0 = .ok (.iconst 0, 1) := dk_3 (dk_at dksX1_isStable_0 0 rfl rfl)
theorem dX1_isStable_1 : decode cX1_isStable 1 = .ok (.istore_n 1, 1) := dk_60 (dk_at dksX1_isStable_0 1 rfl rfl)
theorem dX1_isStable_2 : decode cX1_isStable 2 = .ok (.iload_n 1, 1) := dk_27 (dk_at dksX1_isStable_0 2 rfl rfl)
theorem dX1_isStable_3 : decode cX1_isStable 3 = .ok (.aload_n 0, 1) := dk_42 (dk_at dksX1_isStable_0 3 rfl rfl)
theorem dX1_isStable_4 : decode cX1_isStable 4 = .ok (.invokevirtual 61, 3) := dk_182 0 61 (dk_at dksX1_isStable_0 4 rfl rfl)
theorem dX1_isStable_7 : decode cX1_isStable 7 = .ok (.if_icmp .ge 48, 3) := dk_162 0 48 (dk_at dksX1_isStable_0 7 rfl rfl)
theorem dX1_isStable_10 : decode cX1_isStable 10 = .ok (.aload_n 0, 1) := dk_42 (dk_at dksX1_isStable_0 10 rfl rfl)
theorem dX1_isStable_11 : decode cX1_isStable 11 = .ok (.iload_n 1, 1) := dk_27 (dk_at dksX1_isStable_0 11 rfl rfl)
theorem dX1_isStable_12 : decode cX1_isStable 12 = .ok (.invokevirtual 115, 3) := dk_182 0 115 (dk_at dksX1_isStable_0 12 rfl rfl)
theorem dX1_isStable_15 : decode cX1_isStable 15 = .ok (.ifCond .eq 5, 3) := dk_153 0 5 (dk_at dksX1_isStable_0 15 rfl rfl)
theorem dX1_isStable_18 : decode cX1_isStable 18 = .ok (.iconst 0, 1) := dk_3 (dk_at dksX1_isStable_0 18 rfl rfl)
theorem dX1_isStable_19 : decode cX1_isStable 19 = .ok (.ireturn, 1) := dk_172 (dk_at dksX1_isStable_0 19 rfl rfl)
theorem dX1_isStable_20 : decode cX1_isStable 20 = .ok (.iload_n 1, 1) := dk_27 (dk_at dksX1_isStable_0 20 rfl rfl)
theorem dX1_isStable_21 : decode cX1_isStable 21 = .ok (.iconst 1, 1) := dk_4 (dk_at dksX1_isStable_0 21 rfl rfl)
theorem dX1_isStable_22 : decode cX1_isStable 22 = .ok (.iadd, 1) := dk_96 (dk_at dksX1_isStable_0 22 rfl rfl)
theorem dX1_isStable_23 : decode cX1_isStable 23 = .ok (.istore_n 2, 1) := dk_61 (dk_at dksX1_isStable_0 23 rfl rfl)
theorem dX1_isStable_24 : decode cX1_isStable 24 = .ok (.iload_n 2, 1) := dk_28 (dk_at dksX1_isStable_1 0 rfl rfl)
theorem dX1_isStable_25 : decode cX1_isStable 25 = .ok (.aload_n 0, 1) := dk_42 (dk_at dksX1_isStable_1 1 rfl rfl)
theorem dX1_isStable_26 : decode cX1_isStable 26 = .ok (.invokevirtual 61, 3) := dk_182 0 61 (dk_at dksX1_isStable_1 2 rfl rfl)
theorem dX1_isStable_29 : decode cX1_isStable 29 = .ok (.if_icmp .ge 20, 3) := dk_162 0 20 (dk_at dksX1_isStable_1 5 rfl rfl)
theorem dX1_isStable_32 : decode cX1_isStable 32 = .ok (.aload_n 0, 1) := dk_42 (dk_at dksX1_isStable_1 8 rfl rfl)
theorem dX1_isStable_33 : decode cX1_isStable 33 = .ok (.iload_n 1, 1) := dk_27 (dk_at dksX1_isStable_1 9 rfl rfl)
theorem dX1_isStable_34 : decode cX1_isStable 34 = .ok (.iload_n 2, 1) := dk_28 (dk_at dksX1_isStable_1 10 rfl rfl)
theorem dX1_isStable_35 : decode cX1_isStable 35 = .ok (.invokevirtual 119, 3) := dk_182 0 119 (dk_at dksX1_isStable_1 11 rfl rfl)
theorem dX1_isStable_38 : decode cX1_isStable 38 = .ok (.ifCond .eq 5, 3) := dk_153 0 5 (dk_at dksX1_isStable_1 14 rfl rfl)
theorem dX1_isStable_41 : decode cX1_isStable 41 = .ok (.iconst 0, 1) := dk_3 (dk_at dksX1_isStable_1 17 rfl rfl)
theorem dX1_isStable_42 : decode cX1_isStable 42 = .ok (.ireturn, 1) := dk_172 (dk_at dksX1_isStable_1 18 rfl rfl)
theorem dX1_isStable_43 : decode cX1_isStable 43 = .ok (.iinc 2 1, 3) := dk_132 2 1 (dk_at dksX1_isStable_1 19 rfl rfl)
theorem dX1_isStable_46 : decode cX1_isStable 46 = .ok (.goto (-22), 3) := dk_167 255 234 (dk_at dksX1_isStable_2 0 rfl rfl)
theorem dX1_isStable_49 : decode cX1_isStable 49 = .ok (.iinc 1 1, 3) := dk_132 1 1 (dk_at dksX1_isStable_2 3 rfl rfl)
theorem dX1_isStable_52 : decode cX1_isStable 52 = .ok (.goto (-50), 3) := dk_167 255 206 (dk_at dksX1_isStable_2 6 rfl rfl)
theorem dX1_isStable_55 : decode cX1_isStable 55 = .ok (.iconst 1, 1) := dk_4 (dk_at dksX1_isStable_2 9 rfl rfl)
theorem dX1_isStable_56 : decode cX1_isStable 56 = .ok (.ireturn, 1) := dk_172 (dk_at dksX1_isStable_2 10 rfl rfl)
abbrev cX1_allLikes : ByteArray := prog_7_method_22_code
def yX1_allLikes : MethodName := ⟨RX1, "allLikes", "()I"⟩
def dkwX1_allLikes_1 : List UInt8 := [167, 0, 14, 42, 28, 42, 180, 0, 24, 28, 46, 182, 0, 109, 96, 60, 132, 2, 1, 167, 255, 218, 27, 172]
abbrev dktX1_allLikes_1 : List UInt8 := dkwX1_allLikes_1 ++ []
def dkwX1_allLikes_0 : List UInt8 := [3, 60, 3, 61, 28, 42, 182, 0, 61, 162, 0, 36, 27, 42, 180, 0, 24, 28, 46, 156, 0, 7, 3]
abbrev dktX1_allLikes_0 : List UInt8 := dkwX1_allLikes_0 ++ dktX1_allLikes_1
theorem dksX1_allLikes_0 : cX1_allLikes.data.toList.drop 0 = dktX1_allLikes_0 := by decide +kernel
theorem dksX1_allLikes_1 : cX1_allLikes.data.toList.drop 23 = dktX1_allLikes_1 := dk_seg dksX1_allLikes_0 23 rfl rfl
theorem dX1_allLikes_0 : decode cX1_allLikes 0 = .ok (.iconst 0, 1) := dk_3 (dk_at dksX1_allLikes_0 0 rfl rfl)
theorem dX1_allLikes_1 : decode cX1_allLikes 1 = .ok (.istore_n 1, 1) := dk_60 (dk_at dksX1_allLikes_0 1 rfl rfl)
theorem dX1_allLikes_2 : decode cX1_allLikes 2 = .ok (.iconst 0, 1) := dk_3 (dk_at dksX1_allLikes_0 2 rfl rfl)
theorem dX1_allLikes_3 : decode cX1_allLikes 3 = .ok (.istore_n 2, 1) := dk_61 (dk_at dksX1_allLikes_0 3 rfl rfl)
theorem dX1_allLikes_4 : decode cX1_allLikes 4 = .ok (.iload_n 2, 1) := dk_28 (dk_at dksX1_allLikes_0 4 rfl rfl)
theorem dX1_allLikes_5 : decode cX1_allLikes 5 = .ok (.aload_n 0, 1) := dk_42 (dk_at dksX1_allLikes_0 5 rfl rfl)
theorem dX1_allLikes_6 : decode cX1_allLikes 6 = .ok (.invokevirtual 61, 3) := dk_182 0 61 (dk_at dksX1_allLikes_0 6 rfl rfl)
theorem dX1_allLikes_9 : decode cX1_allLikes 9 = .ok (.if_icmp .ge 36, 3) := dk_162 0 36 (dk_at dksX1_allLikes_0 9 rfl rfl)
theorem dX1_allLikes_12 : decode cX1_allLikes 12 = .ok (.iload_n 1, 1) := dk_27 (dk_at dksX1_allLikes_0 12 rfl rfl)
theorem dX1_allLikes_13 : decode cX1_allLikes 13 = .ok (.aload_n 0, 1) := dk_42 (dk_at dksX1_allLikes_0 13 rfl rfl)
theorem dX1_allLikes_14 : decode cX1_allLikes 14 = .ok (.getfield 24, 3) := dk_180 0 24 (dk_at dksX1_allLikes_0 14 rfl rfl)
theorem dX1_allLikes_17 : decode cX1_allLikes 17 = .ok (.iload_n 2, 1) := dk_28 (dk_at dksX1_allLikes_0 17 rfl rfl)
theorem dX1_allLikes_18 : decode cX1_allLikes 18 = .ok (.iaload, 1) := dk_46 (dk_at dksX1_allLikes_0 18 rfl rfl)
theorem dX1_allLikes_19 : decode cX1_allLikes 19 = .ok (.ifCond .ge 7, 3) := dk_156 0 7 (dk_at dksX1_allLikes_0 19 rfl rfl)
theorem dX1_allLikes_22 : decode cX1_allLikes 22 = .ok (.iconst 0, 1) := dk_3 (dk_at dksX1_allLikes_0 22 rfl rfl)
theorem dX1_allLikes_23 : decode cX1_allLikes 23 = .ok (.goto 14, 3) := dk_167 0 14 (dk_at dksX1_allLikes_1 0 rfl rfl)
theorem dX1_allLikes_26 : decode cX1_allLikes 26 = .ok (.aload_n 0, 1) := dk_42 (dk_at dksX1_allLikes_1 3 rfl rfl)
theorem dX1_allLikes_27 : decode cX1_allLikes 27 = .ok (.iload_n 2, 1) := dk_28 (dk_at dksX1_allLikes_1 4 rfl rfl)
theorem dX1_allLikes_28 : decode cX1_allLikes 28 = .ok (.aload_n 0, 1) := dk_42 (dk_at dksX1_allLikes_1 5 rfl rfl)
theorem dX1_allLikes_29 : decode cX1_allLikes 29 = .ok (.getfield 24, 3) := dk_180 0 24 (dk_at dksX1_allLikes_1 6 rfl rfl)
theorem dX1_allLikes_32 : decode cX1_allLikes 32 = .ok (.iload_n 2, 1) := dk_28 (dk_at dksX1_allLikes_1 9 rfl rfl)
theorem dX1_allLikes_33 : decode cX1_allLikes 33 = .ok (.iaload, 1) := dk_46 (dk_at dksX1_allLikes_1 10 rfl rfl)
theorem dX1_allLikes_34 : decode cX1_allLikes 34 = .ok (.invokevirtual 109, 3) := dk_182 0 109 (dk_at dksX1_allLikes_1 11 rfl rfl)
theorem dX1_allLikes_37 : decode cX1_allLikes 37 = .ok (.iadd, 1) := dk_96 (dk_at dksX1_allLikes_1 14 rfl rfl)
theorem dX1_allLikes_38 : decode cX1_allLikes 38 = .ok (.istore_n 1, 1) := dk_60 (dk_at dksX1_allLikes_1 15 rfl rfl)
theorem dX1_allLikes_39 : decode cX1_allLikes 39 = .ok (.iinc 2 1, 3) := dk_132 2 1 (dk_at dksX1_allLikes_1 16 rfl rfl)
theorem dX1_allLikes_42 : decode cX1_allLikes 42 = .ok (.goto (-38), 3) := dk_167 255 218 (dk_at dksX1_allLikes_1 19 rfl rfl)
theorem dX1_allLikes_45 : decode cX1_allLikes 45 = .ok (.iload_n 1, 1) := dk_27 (dk_at dksX1_allLikes_1 22 rfl rfl)
theorem dX1_allLikes_46 : decode cX1_allLikes 46 = .ok (.ireturn, 1) := dk_172 (dk_at dksX1_allLikes_1 23 rfl rfl)
theorem q83 : (Jvm.Cond.initialized "PrayerMatsFace$Quarter") ∈ lw_all := lw_g (lw_at lw_m1 2 rfl) rfl
theorem q114 : (Jvm.Cond.instantiable "PrayerMatsFace$Quarter" (5 : Nat)) ∈ lw_all := lw_g (lw_at lw_m1 33 rfl) rfl
theorem q116 : (Jvm.Cond.instanceMethod ({ cls := "PrayerMatsFace$Quarter", name := "<init>", desc := "()V" } : Jvm.MethodName)) ∈ lw_all := lw_g (lw_at lw_m1 35 rfl) rfl
theorem q117 : (Jvm.Cond.code ({ cls := "PrayerMatsFace$Quarter", name := "<init>", desc := "()V" } : Jvm.MethodName) prog_7_method_1_code (1 : Nat) (Option.none : Option Jvm.ClassFile.FieldType)) ∈ lw_all := lw_g (lw_at lw_m1 36 rfl) rfl
theorem q118 : (Jvm.Cond.methodLink "PrayerMatsFace$Quarter" (3 : Nat) ({ cls := "java/lang/Object", name := "<init>", desc := "()V" } : Jvm.MethodName)) ∈ lw_all := lw_g (lw_at lw_m1 37 rfl) rfl
theorem q119 : (Jvm.Cond.classLink "PrayerMatsFace$Quarter" (9 : Nat) "java/util/ArrayList") ∈ lw_all := lw_g (lw_at lw_m1 38 rfl) rfl
theorem q121 : (Jvm.Cond.methodLink "PrayerMatsFace$Quarter" (11 : Nat) ({ cls := "java/util/ArrayList", name := "<init>", desc := "(I)V" } : Jvm.MethodName)) ∈ lw_all := lw_g (lw_at lw_m1 40 rfl) rfl
theorem q148 : (Jvm.Cond.fieldLink "PrayerMatsFace$Quarter" (14 : Nat) "PrayerMatsFace$Quarter" "people" "Ljava/util/ArrayList;") ∈ lw_all := lw_g (lw_at lw_m1 67 rfl) rfl
theorem q150 : (Jvm.Cond.fieldLink "PrayerMatsFace$Quarter" (20 : Nat) "PrayerMatsFace$Quarter" "hours" "[I") ∈ lw_all := lw_g (lw_at lw_m1 69 rfl) rfl
theorem q153 : (Jvm.Cond.fieldLink "PrayerMatsFace$Quarter" (24 : Nat) "PrayerMatsFace$Quarter" "mate" "[I") ∈ lw_all := lw_g (lw_at lw_m1 72 rfl) rfl
theorem q155 : (Jvm.Cond.fieldLink "PrayerMatsFace$Quarter" (27 : Nat) "PrayerMatsFace$Quarter" "quarrel" "[I") ∈ lw_all := lw_g (lw_at lw_m1 74 rfl) rfl
theorem q156 : (Jvm.Cond.fieldLink "PrayerMatsFace$Quarter" (51 : Nat) "PrayerMatsFace$Quarter" "day" "I") ∈ lw_all := lw_g (lw_at lw_m1 75 rfl) rfl
theorem q159 : (Jvm.Cond.laysFinal "PrayerMatsFace$Quarter" "PrayerMatsFace$Quarter" "people" "Ljava/util/ArrayList;") ∈ lw_all := lw_g (lw_at lw_m1 78 rfl) rfl
theorem q160 : (Jvm.Cond.soleField "PrayerMatsFace$Quarter" "people") ∈ lw_all := lw_g (lw_at lw_m1 79 rfl) rfl
theorem q161 : (Jvm.Cond.laysFinal "PrayerMatsFace$Quarter" "PrayerMatsFace$Quarter" "hours" "[I") ∈ lw_all := lw_g (lw_at lw_m1 80 rfl) rfl
theorem q162 : (Jvm.Cond.soleField "PrayerMatsFace$Quarter" "hours") ∈ lw_all := lw_g (lw_at lw_m1 81 rfl) rfl
theorem q163 : (Jvm.Cond.laysFinal "PrayerMatsFace$Quarter" "PrayerMatsFace$Quarter" "mate" "[I") ∈ lw_all := lw_g (lw_at lw_m1 82 rfl) rfl
theorem q164 : (Jvm.Cond.soleField "PrayerMatsFace$Quarter" "mate") ∈ lw_all := lw_g (lw_at lw_m1 83 rfl) rfl
theorem q165 : (Jvm.Cond.laysFinal "PrayerMatsFace$Quarter" "PrayerMatsFace$Quarter" "quarrel" "[I") ∈ lw_all := lw_g (lw_at lw_m1 84 rfl) rfl
theorem q166 : (Jvm.Cond.soleField "PrayerMatsFace$Quarter" "quarrel") ∈ lw_all := lw_g (lw_at lw_m1 85 rfl) rfl
theorem q167 : (Jvm.Cond.lays "PrayerMatsFace$Quarter" "PrayerMatsFace$Quarter" "day" "I") ∈ lw_all := lw_g (lw_at lw_m1 86 rfl) rfl
theorem q168 : (Jvm.Cond.soleField "PrayerMatsFace$Quarter" "day") ∈ lw_all := lw_g (lw_at lw_m1 87 rfl) rfl
theorem q169 : (Jvm.Cond.superclass "PrayerMatsFace$Quarter" "java/lang/Object") ∈ lw_all := lw_g (lw_at lw_m1 88 rfl) rfl
theorem q243 : (Jvm.Cond.instanceMethod ({ cls := "PrayerMatsFace$Quarter", name := "takes", desc := "(LPrayerMatsFace$Quarter;)V" } : Jvm.MethodName)) ∈ lw_all := lw_g (lw_at lw_m1 162 rfl) rfl
theorem q244 : (Jvm.Cond.selects "PrayerMatsFace$Quarter" ({ cls := "PrayerMatsFace$Quarter", name := "takes", desc := "(LPrayerMatsFace$Quarter;)V" } : Jvm.MethodName) ({ cls := "PrayerMatsFace$Quarter", name := "takes", desc := "(LPrayerMatsFace$Quarter;)V" } : Jvm.MethodName)) ∈ lw_all := lw_g (lw_at lw_m1 163 rfl) rfl
theorem q245 : (Jvm.Cond.code ({ cls := "PrayerMatsFace$Quarter", name := "takes", desc := "(LPrayerMatsFace$Quarter;)V" } : Jvm.MethodName) prog_7_method_2_code (3 : Nat) (Option.none : Option Jvm.ClassFile.FieldType)) ∈ lw_all := lw_g (lw_at lw_m1 164 rfl) rfl
theorem q246 : (Jvm.Cond.methodLink "PrayerMatsFace$Quarter" (30 : Nat) ({ cls := "java/util/ArrayList", name := "clear", desc := "()V" } : Jvm.MethodName)) ∈ lw_all := lw_g (lw_at lw_m1 165 rfl) rfl
theorem q250 : (Jvm.Cond.methodLink "PrayerMatsFace$Quarter" (33 : Nat) ({ cls := "java/util/ArrayList", name := "size", desc := "()I" } : Jvm.MethodName)) ∈ lw_all := lw_g (lw_at lw_m1 169 rfl) rfl
theorem q254 : (Jvm.Cond.methodLink "PrayerMatsFace$Quarter" (37 : Nat) ({ cls := "PrayerMatsFace$Quarter", name := "person", desc := "(I)LPrayerMatsFace$Person;" } : Jvm.MethodName)) ∈ lw_all := lw_g (lw_at lw_m1 173 rfl) rfl
theorem q255 : (Jvm.Cond.instanceMethod ({ cls := "PrayerMatsFace$Quarter", name := "person", desc := "(I)LPrayerMatsFace$Person;" } : Jvm.MethodName)) ∈ lw_all := lw_g (lw_at lw_m1 174 rfl) rfl
theorem q256 : (Jvm.Cond.selects "PrayerMatsFace$Quarter" ({ cls := "PrayerMatsFace$Quarter", name := "person", desc := "(I)LPrayerMatsFace$Person;" } : Jvm.MethodName) ({ cls := "PrayerMatsFace$Quarter", name := "person", desc := "(I)LPrayerMatsFace$Person;" } : Jvm.MethodName)) ∈ lw_all := lw_g (lw_at lw_m1 175 rfl) rfl
theorem q257 : (Jvm.Cond.code ({ cls := "PrayerMatsFace$Quarter", name := "person", desc := "(I)LPrayerMatsFace$Person;" } : Jvm.MethodName) prog_7_method_4_code (2 : Nat) (Option.some (Jvm.ClassFile.FieldType.object "PrayerMatsFace$Person"))) ∈ lw_all := lw_g (lw_at lw_m1 176 rfl) rfl
theorem q258 : (Jvm.Cond.methodLink "PrayerMatsFace$Quarter" (55 : Nat) ({ cls := "java/util/ArrayList", name := "get", desc := "(I)Ljava/lang/Object;" } : Jvm.MethodName)) ∈ lw_all := lw_g (lw_at lw_m1 177 rfl) rfl
theorem q272 : (Jvm.Cond.classLink "PrayerMatsFace$Quarter" (59 : Nat) "PrayerMatsFace$Person") ∈ lw_all := lw_g (lw_at lw_m1 191 rfl) rfl
theorem q273 : (Jvm.Cond.methodLink "PrayerMatsFace$Quarter" (41 : Nat) ({ cls := "java/util/ArrayList", name := "add", desc := "(Ljava/lang/Object;)Z" } : Jvm.MethodName)) ∈ lw_all := lw_g (lw_at lw_m1 192 rfl) rfl
theorem q313 : (Jvm.Cond.selects "PrayerMatsFace$Quarter" ({ cls := "java/lang/Object", name := "getClass", desc := "()Ljava/lang/Class;" } : Jvm.MethodName) ({ cls := "java/lang/Object", name := "getClass", desc := "()Ljava/lang/Class;" } : Jvm.MethodName)) ∈ lw_all := lw_g (lw_at lw_m1 232 rfl) rfl
theorem q332 : (Jvm.Cond.methodLink "PrayerMatsFace$Quarter" (45 : Nat) ({ cls := "java/lang/System", name := "arraycopy", desc := "(Ljava/lang/Object;ILjava/lang/Object;II)V" } : Jvm.MethodName)) ∈ lw_all := lw_g (lw_at lw_m2 11 rfl) rfl
theorem q448 : (Jvm.Cond.instanceMethod ({ cls := "PrayerMatsFace$Quarter", name := "many", desc := "()I" } : Jvm.MethodName)) ∈ lw_all := lw_g (lw_at lw_m2 127 rfl) rfl
theorem q449 : (Jvm.Cond.selects "PrayerMatsFace$Quarter" ({ cls := "PrayerMatsFace$Quarter", name := "many", desc := "()I" } : Jvm.MethodName) ({ cls := "PrayerMatsFace$Quarter", name := "many", desc := "()I" } : Jvm.MethodName)) ∈ lw_all := lw_g (lw_at lw_m2 128 rfl) rfl
theorem q450 : (Jvm.Cond.code ({ cls := "PrayerMatsFace$Quarter", name := "many", desc := "()I" } : Jvm.MethodName) prog_7_method_3_code (1 : Nat) (Option.some Jvm.ClassFile.FieldType.int)) ∈ lw_all := lw_g (lw_at lw_m2 129 rfl) rfl
theorem q523 : (Jvm.Cond.instanceMethod ({ cls := "PrayerMatsFace$Quarter", name := "comes", desc := "(LPrayerMatsFace$Person;I)V" } : Jvm.MethodName)) ∈ lw_all := lw_g (lw_at lw_m2 202 rfl) rfl
theorem q524 : (Jvm.Cond.selects "PrayerMatsFace$Quarter" ({ cls := "PrayerMatsFace$Quarter", name := "comes", desc := "(LPrayerMatsFace$Person;I)V" } : Jvm.MethodName) ({ cls := "PrayerMatsFace$Quarter", name := "comes", desc := "(LPrayerMatsFace$Person;I)V" } : Jvm.MethodName)) ∈ lw_all := lw_g (lw_at lw_m2 203 rfl) rfl
theorem q525 : (Jvm.Cond.code ({ cls := "PrayerMatsFace$Quarter", name := "comes", desc := "(LPrayerMatsFace$Person;I)V" } : Jvm.MethodName) prog_7_method_5_code (5 : Nat) (Option.none : Option Jvm.ClassFile.FieldType)) ∈ lw_all := lw_g (lw_at lw_m2 204 rfl) rfl
theorem q526 : (Jvm.Cond.methodLink "PrayerMatsFace$Quarter" (61 : Nat) ({ cls := "PrayerMatsFace$Quarter", name := "many", desc := "()I" } : Jvm.MethodName)) ∈ lw_all := lw_g (lw_at lw_m2 205 rfl) rfl
theorem q527 : (Jvm.Cond.methodLink "PrayerMatsFace$Quarter" (64 : Nat) ({ cls := "PrayerMatsFace$Quarter", name := "quarrels", desc := "(III)V" } : Jvm.MethodName)) ∈ lw_all := lw_g (lw_at lw_m2 206 rfl) rfl
theorem q528 : (Jvm.Cond.instanceMethod ({ cls := "PrayerMatsFace$Quarter", name := "quarrels", desc := "(III)V" } : Jvm.MethodName)) ∈ lw_all := lw_g (lw_at lw_m2 207 rfl) rfl
theorem q529 : (Jvm.Cond.selects "PrayerMatsFace$Quarter" ({ cls := "PrayerMatsFace$Quarter", name := "quarrels", desc := "(III)V" } : Jvm.MethodName) ({ cls := "PrayerMatsFace$Quarter", name := "quarrels", desc := "(III)V" } : Jvm.MethodName)) ∈ lw_all := lw_g (lw_at lw_m2 208 rfl) rfl
theorem q530 : (Jvm.Cond.code ({ cls := "PrayerMatsFace$Quarter", name := "quarrels", desc := "(III)V" } : Jvm.MethodName) prog_7_method_7_code (4 : Nat) (Option.none : Option Jvm.ClassFile.FieldType)) ∈ lw_all := lw_g (lw_at lw_m2 209 rfl) rfl
theorem q552 : (Jvm.Cond.instanceMethod ({ cls := "PrayerMatsFace$Quarter", name := "parts", desc := "(I)V" } : Jvm.MethodName)) ∈ lw_all := lw_g (lw_at lw_m2 231 rfl) rfl
theorem q553 : (Jvm.Cond.selects "PrayerMatsFace$Quarter" ({ cls := "PrayerMatsFace$Quarter", name := "parts", desc := "(I)V" } : Jvm.MethodName) ({ cls := "PrayerMatsFace$Quarter", name := "parts", desc := "(I)V" } : Jvm.MethodName)) ∈ lw_all := lw_g (lw_at lw_m2 232 rfl) rfl
theorem q554 : (Jvm.Cond.code ({ cls := "PrayerMatsFace$Quarter", name := "parts", desc := "(I)V" } : Jvm.MethodName) prog_7_method_8_code (2 : Nat) (Option.none : Option Jvm.ClassFile.FieldType)) ∈ lw_all := lw_g (lw_at lw_m2 233 rfl) rfl
theorem q556 : (Jvm.Cond.instanceMethod ({ cls := "PrayerMatsFace$Quarter", name := "joins", desc := "(II)V" } : Jvm.MethodName)) ∈ lw_all := lw_g (lw_at lw_m2 235 rfl) rfl
theorem q557 : (Jvm.Cond.selects "PrayerMatsFace$Quarter" ({ cls := "PrayerMatsFace$Quarter", name := "joins", desc := "(II)V" } : Jvm.MethodName) ({ cls := "PrayerMatsFace$Quarter", name := "joins", desc := "(II)V" } : Jvm.MethodName)) ∈ lw_all := lw_g (lw_at lw_m2 236 rfl) rfl
theorem q558 : (Jvm.Cond.code ({ cls := "PrayerMatsFace$Quarter", name := "joins", desc := "(II)V" } : Jvm.MethodName) prog_7_method_9_code (3 : Nat) (Option.none : Option Jvm.ClassFile.FieldType)) ∈ lw_all := lw_g (lw_at lw_m2 237 rfl) rfl
theorem q559 : (Jvm.Cond.methodLink "PrayerMatsFace$Quarter" (68 : Nat) ({ cls := "PrayerMatsFace$Quarter", name := "parts", desc := "(I)V" } : Jvm.MethodName)) ∈ lw_all := lw_g (lw_at lw_m2 238 rfl) rfl
theorem q565 : (Jvm.Cond.instanceMethod ({ cls := "PrayerMatsFace$Quarter", name := "goesOn", desc := "(I)V" } : Jvm.MethodName)) ∈ lw_all := lw_g (lw_at lw_m3 4 rfl) rfl
theorem q566 : (Jvm.Cond.selects "PrayerMatsFace$Quarter" ({ cls := "PrayerMatsFace$Quarter", name := "goesOn", desc := "(I)V" } : Jvm.MethodName) ({ cls := "PrayerMatsFace$Quarter", name := "goesOn", desc := "(I)V" } : Jvm.MethodName)) ∈ lw_all := lw_g (lw_at lw_m3 5 rfl) rfl
theorem q567 : (Jvm.Cond.code ({ cls := "PrayerMatsFace$Quarter", name := "goesOn", desc := "(I)V" } : Jvm.MethodName) prog_7_method_13_code (3 : Nat) (Option.none : Option Jvm.ClassFile.FieldType)) ∈ lw_all := lw_g (lw_at lw_m3 6 rfl) rfl
theorem q568 : (Jvm.Cond.methodLink "PrayerMatsFace$Quarter" (99 : Nat) ({ cls := "PrayerMatsFace$Quarter", name := "goes", desc := "()V" } : Jvm.MethodName)) ∈ lw_all := lw_g (lw_at lw_m3 7 rfl) rfl
theorem q569 : (Jvm.Cond.instanceMethod ({ cls := "PrayerMatsFace$Quarter", name := "goes", desc := "()V" } : Jvm.MethodName)) ∈ lw_all := lw_g (lw_at lw_m3 8 rfl) rfl
theorem q570 : (Jvm.Cond.selects "PrayerMatsFace$Quarter" ({ cls := "PrayerMatsFace$Quarter", name := "goes", desc := "()V" } : Jvm.MethodName) ({ cls := "PrayerMatsFace$Quarter", name := "goes", desc := "()V" } : Jvm.MethodName)) ∈ lw_all := lw_g (lw_at lw_m3 9 rfl) rfl
theorem q571 : (Jvm.Cond.code ({ cls := "PrayerMatsFace$Quarter", name := "goes", desc := "()V" } : Jvm.MethodName) prog_7_method_12_code (2 : Nat) (Option.none : Option Jvm.ClassFile.FieldType)) ∈ lw_all := lw_g (lw_at lw_m3 10 rfl) rfl
theorem q572 : (Jvm.Cond.methodLink "PrayerMatsFace$Quarter" (96 : Nat) ({ cls := "PrayerMatsFace$Quarter", name := "hour", desc := "(I)V" } : Jvm.MethodName)) ∈ lw_all := lw_g (lw_at lw_m3 11 rfl) rfl
theorem q573 : (Jvm.Cond.instanceMethod ({ cls := "PrayerMatsFace$Quarter", name := "hour", desc := "(I)V" } : Jvm.MethodName)) ∈ lw_all := lw_g (lw_at lw_m3 12 rfl) rfl
theorem q574 : (Jvm.Cond.selects "PrayerMatsFace$Quarter" ({ cls := "PrayerMatsFace$Quarter", name := "hour", desc := "(I)V" } : Jvm.MethodName) ({ cls := "PrayerMatsFace$Quarter", name := "hour", desc := "(I)V" } : Jvm.MethodName)) ∈ lw_all := lw_g (lw_at lw_m3 13 rfl) rfl
theorem q575 : (Jvm.Cond.code ({ cls := "PrayerMatsFace$Quarter", name := "hour", desc := "(I)V" } : Jvm.MethodName) prog_7_method_11_code (3 : Nat) (Option.none : Option Jvm.ClassFile.FieldType)) ∈ lw_all := lw_g (lw_at lw_m3 14 rfl) rfl
theorem q576 : (Jvm.Cond.methodLink "PrayerMatsFace$Quarter" (93 : Nat) ({ cls := "PrayerMatsFace$Quarter", name := "kneel", desc := "(III)V" } : Jvm.MethodName)) ∈ lw_all := lw_g (lw_at lw_m3 15 rfl) rfl
theorem q577 : (Jvm.Cond.privateMethod ({ cls := "PrayerMatsFace$Quarter", name := "kneel", desc := "(III)V" } : Jvm.MethodName)) ∈ lw_tbl := lw_at lw_m3 16 rfl
theorem q578 : (Jvm.Cond.instanceMethod ({ cls := "PrayerMatsFace$Quarter", name := "kneel", desc := "(III)V" } : Jvm.MethodName)) ∈ lw_all := lw_g (lw_at lw_m3 17 rfl) rfl
theorem q579 : (Jvm.Cond.code ({ cls := "PrayerMatsFace$Quarter", name := "kneel", desc := "(III)V" } : Jvm.MethodName) prog_7_method_10_code (7 : Nat) (Option.none : Option Jvm.ClassFile.FieldType)) ∈ lw_all := lw_g (lw_at lw_m3 18 rfl) rfl
theorem q580 : (Jvm.Cond.methodLinkNest "PrayerMatsFace$Quarter" (71 : Nat) ({ cls := "PrayerMatsFace", name := "has", desc := "(II)Z" } : Jvm.MethodName) "PrayerMatsFace") ∈ lw_tbl := lw_at lw_m3 19 rfl
theorem q583 : (Jvm.Cond.methodLink "PrayerMatsFace$Quarter" (75 : Nat) ({ cls := "PrayerMatsFace$Quarter", name := "between", desc := "(II)I" } : Jvm.MethodName)) ∈ lw_all := lw_g (lw_at lw_m3 22 rfl) rfl
theorem q584 : (Jvm.Cond.instanceMethod ({ cls := "PrayerMatsFace$Quarter", name := "between", desc := "(II)I" } : Jvm.MethodName)) ∈ lw_all := lw_g (lw_at lw_m3 23 rfl) rfl
theorem q585 : (Jvm.Cond.selects "PrayerMatsFace$Quarter" ({ cls := "PrayerMatsFace$Quarter", name := "between", desc := "(II)I" } : Jvm.MethodName) ({ cls := "PrayerMatsFace$Quarter", name := "between", desc := "(II)I" } : Jvm.MethodName)) ∈ lw_all := lw_g (lw_at lw_m3 24 rfl) rfl
theorem q586 : (Jvm.Cond.code ({ cls := "PrayerMatsFace$Quarter", name := "between", desc := "(II)I" } : Jvm.MethodName) prog_7_method_6_code (3 : Nat) (Option.some Jvm.ClassFile.FieldType.int)) ∈ lw_all := lw_g (lw_at lw_m3 25 rfl) rfl
theorem q587 : (Jvm.Cond.methodLink "PrayerMatsFace$Quarter" (79 : Nat) ({ cls := "PrayerMatsFace$Person", name := "soft", desc := "()I" } : Jvm.MethodName)) ∈ lw_all := lw_g (lw_at lw_m3 26 rfl) rfl
theorem q610 : (Jvm.Cond.methodLink "PrayerMatsFace$Quarter" (82 : Nat) ({ cls := "java/lang/Math", name := "max", desc := "(II)I" } : Jvm.MethodName)) ∈ lw_all := lw_g (lw_at lw_m3 49 rfl) rfl
theorem q611 : (Jvm.Cond.methodLink "PrayerMatsFace$Quarter" (87 : Nat) ({ cls := "PrayerMatsFace$Person", name := "sore", desc := "()I" } : Jvm.MethodName)) ∈ lw_all := lw_g (lw_at lw_m3 50 rfl) rfl
theorem q631 : (Jvm.Cond.methodLink "PrayerMatsFace$Quarter" (90 : Nat) ({ cls := "java/lang/Math", name := "min", desc := "(II)I" } : Jvm.MethodName)) ∈ lw_all := lw_g (lw_at lw_m3 70 rfl) rfl
theorem q682 : (Jvm.Cond.instanceMethod ({ cls := "PrayerMatsFace$Quarter", name := "likes", desc := "(II)I" } : Jvm.MethodName)) ∈ lw_all := lw_g (lw_at lw_m3 121 rfl) rfl
theorem q683 : (Jvm.Cond.selects "PrayerMatsFace$Quarter" ({ cls := "PrayerMatsFace$Quarter", name := "likes", desc := "(II)I" } : Jvm.MethodName) ({ cls := "PrayerMatsFace$Quarter", name := "likes", desc := "(II)I" } : Jvm.MethodName)) ∈ lw_all := lw_g (lw_at lw_m3 122 rfl) rfl
theorem q684 : (Jvm.Cond.code ({ cls := "PrayerMatsFace$Quarter", name := "likes", desc := "(II)I" } : Jvm.MethodName) prog_7_method_17_code (3 : Nat) (Option.some Jvm.ClassFile.FieldType.int)) ∈ lw_all := lw_g (lw_at lw_m3 123 rfl) rfl
theorem q685 : (Jvm.Cond.methodLinkNest "PrayerMatsFace$Quarter" (102 : Nat) ({ cls := "PrayerMatsFace", name := "bits", desc := "(I)I" } : Jvm.MethodName) "PrayerMatsFace") ∈ lw_tbl := lw_at lw_m3 124 rfl
theorem q688 : (Jvm.Cond.methodLink "PrayerMatsFace$Quarter" (106 : Nat) ({ cls := "PrayerMatsFace$Person", name := "charm", desc := "()I" } : Jvm.MethodName)) ∈ lw_all := lw_g (lw_at lw_m3 127 rfl) rfl
theorem q714 : (Jvm.Cond.instanceMethod ({ cls := "PrayerMatsFace$Quarter", name := "mats", desc := "()I" } : Jvm.MethodName)) ∈ lw_all := lw_g (lw_at lw_m3 153 rfl) rfl
theorem q715 : (Jvm.Cond.selects "PrayerMatsFace$Quarter" ({ cls := "PrayerMatsFace$Quarter", name := "mats", desc := "()I" } : Jvm.MethodName) ({ cls := "PrayerMatsFace$Quarter", name := "mats", desc := "()I" } : Jvm.MethodName)) ∈ lw_all := lw_g (lw_at lw_m3 154 rfl) rfl
theorem q716 : (Jvm.Cond.code ({ cls := "PrayerMatsFace$Quarter", name := "mats", desc := "()I" } : Jvm.MethodName) prog_7_method_16_code (3 : Nat) (Option.some Jvm.ClassFile.FieldType.int)) ∈ lw_all := lw_g (lw_at lw_m3 155 rfl) rfl
theorem q723 : (Jvm.Cond.instanceMethod ({ cls := "PrayerMatsFace$Quarter", name := "all", desc := "()I" } : Jvm.MethodName)) ∈ lw_all := lw_g (lw_at lw_m3 162 rfl) rfl
theorem q724 : (Jvm.Cond.selects "PrayerMatsFace$Quarter" ({ cls := "PrayerMatsFace$Quarter", name := "all", desc := "()I" } : Jvm.MethodName) ({ cls := "PrayerMatsFace$Quarter", name := "all", desc := "()I" } : Jvm.MethodName)) ∈ lw_all := lw_g (lw_at lw_m3 163 rfl) rfl
theorem q725 : (Jvm.Cond.code ({ cls := "PrayerMatsFace$Quarter", name := "all", desc := "()I" } : Jvm.MethodName) prog_7_method_14_code (4 : Nat) (Option.some Jvm.ClassFile.FieldType.int)) ∈ lw_all := lw_g (lw_at lw_m3 164 rfl) rfl
theorem q746 : (Jvm.Cond.instanceMethod ({ cls := "PrayerMatsFace$Quarter", name := "mended", desc := "()I" } : Jvm.MethodName)) ∈ lw_all := lw_g (lw_at lw_m3 185 rfl) rfl
theorem q747 : (Jvm.Cond.selects "PrayerMatsFace$Quarter" ({ cls := "PrayerMatsFace$Quarter", name := "mended", desc := "()I" } : Jvm.MethodName) ({ cls := "PrayerMatsFace$Quarter", name := "mended", desc := "()I" } : Jvm.MethodName)) ∈ lw_all := lw_g (lw_at lw_m3 186 rfl) rfl
theorem q748 : (Jvm.Cond.code ({ cls := "PrayerMatsFace$Quarter", name := "mended", desc := "()I" } : Jvm.MethodName) prog_7_method_15_code (4 : Nat) (Option.some Jvm.ClassFile.FieldType.int)) ∈ lw_all := lw_g (lw_at lw_m3 187 rfl) rfl
theorem q782 : (Jvm.Cond.instanceMethod ({ cls := "PrayerMatsFace$Quarter", name := "isRid", desc := "(I)Z" } : Jvm.MethodName)) ∈ lw_all := lw_g (lw_at lw_m3 221 rfl) rfl
theorem q783 : (Jvm.Cond.selects "PrayerMatsFace$Quarter" ({ cls := "PrayerMatsFace$Quarter", name := "isRid", desc := "(I)Z" } : Jvm.MethodName) ({ cls := "PrayerMatsFace$Quarter", name := "isRid", desc := "(I)Z" } : Jvm.MethodName)) ∈ lw_all := lw_g (lw_at lw_m3 222 rfl) rfl
theorem q784 : (Jvm.Cond.code ({ cls := "PrayerMatsFace$Quarter", name := "isRid", desc := "(I)Z" } : Jvm.MethodName) prog_7_method_20_code (2 : Nat) (Option.some Jvm.ClassFile.FieldType.boolean)) ∈ lw_all := lw_g (lw_at lw_m3 223 rfl) rfl
theorem q785 : (Jvm.Cond.methodLink "PrayerMatsFace$Quarter" (109 : Nat) ({ cls := "PrayerMatsFace$Quarter", name := "likes", desc := "(II)I" } : Jvm.MethodName)) ∈ lw_all := lw_g (lw_at lw_m3 224 rfl) rfl
theorem q787 : (Jvm.Cond.instanceMethod ({ cls := "PrayerMatsFace$Quarter", name := "doLeave", desc := "(II)Z" } : Jvm.MethodName)) ∈ lw_all := lw_g (lw_at lw_m3 226 rfl) rfl
theorem q788 : (Jvm.Cond.selects "PrayerMatsFace$Quarter" ({ cls := "PrayerMatsFace$Quarter", name := "doLeave", desc := "(II)Z" } : Jvm.MethodName) ({ cls := "PrayerMatsFace$Quarter", name := "doLeave", desc := "(II)Z" } : Jvm.MethodName)) ∈ lw_all := lw_g (lw_at lw_m3 227 rfl) rfl
theorem q789 : (Jvm.Cond.code ({ cls := "PrayerMatsFace$Quarter", name := "doLeave", desc := "(II)Z" } : Jvm.MethodName) prog_7_method_19_code (3 : Nat) (Option.some Jvm.ClassFile.FieldType.boolean)) ∈ lw_all := lw_g (lw_at lw_m3 228 rfl) rfl
theorem q790 : (Jvm.Cond.methodLink "PrayerMatsFace$Quarter" (112 : Nat) ({ cls := "PrayerMatsFace$Quarter", name := "wouldRather", desc := "(II)Z" } : Jvm.MethodName)) ∈ lw_all := lw_g (lw_at lw_m3 229 rfl) rfl
theorem q791 : (Jvm.Cond.instanceMethod ({ cls := "PrayerMatsFace$Quarter", name := "wouldRather", desc := "(II)Z" } : Jvm.MethodName)) ∈ lw_all := lw_g (lw_at lw_m3 230 rfl) rfl
theorem q792 : (Jvm.Cond.selects "PrayerMatsFace$Quarter" ({ cls := "PrayerMatsFace$Quarter", name := "wouldRather", desc := "(II)Z" } : Jvm.MethodName) ({ cls := "PrayerMatsFace$Quarter", name := "wouldRather", desc := "(II)Z" } : Jvm.MethodName)) ∈ lw_all := lw_g (lw_at lw_m3 231 rfl) rfl
theorem q793 : (Jvm.Cond.code ({ cls := "PrayerMatsFace$Quarter", name := "wouldRather", desc := "(II)Z" } : Jvm.MethodName) prog_7_method_18_code (3 : Nat) (Option.some Jvm.ClassFile.FieldType.boolean)) ∈ lw_all := lw_g (lw_at lw_m3 232 rfl) rfl
theorem q811 : (Jvm.Cond.instanceMethod ({ cls := "PrayerMatsFace$Quarter", name := "isStable", desc := "()Z" } : Jvm.MethodName)) ∈ lw_all := lw_g (lw_at lw_m4 10 rfl) rfl
theorem q812 : (Jvm.Cond.selects "PrayerMatsFace$Quarter" ({ cls := "PrayerMatsFace$Quarter", name := "isStable", desc := "()Z" } : Jvm.MethodName) ({ cls := "PrayerMatsFace$Quarter", name := "isStable", desc := "()Z" } : Jvm.MethodName)) ∈ lw_all := lw_g (lw_at lw_m4 11 rfl) rfl
theorem q813 : (Jvm.Cond.code ({ cls := "PrayerMatsFace$Quarter", name := "isStable", desc := "()Z" } : Jvm.MethodName) prog_7_method_21_code (3 : Nat) (Option.some Jvm.ClassFile.FieldType.boolean)) ∈ lw_all := lw_g (lw_at lw_m4 12 rfl) rfl
theorem q814 : (Jvm.Cond.methodLink "PrayerMatsFace$Quarter" (115 : Nat) ({ cls := "PrayerMatsFace$Quarter", name := "isRid", desc := "(I)Z" } : Jvm.MethodName)) ∈ lw_all := lw_g (lw_at lw_m4 13 rfl) rfl
theorem q815 : (Jvm.Cond.methodLink "PrayerMatsFace$Quarter" (119 : Nat) ({ cls := "PrayerMatsFace$Quarter", name := "doLeave", desc := "(II)Z" } : Jvm.MethodName)) ∈ lw_all := lw_g (lw_at lw_m4 14 rfl) rfl
theorem q849 : (Jvm.Cond.instanceMethod ({ cls := "PrayerMatsFace$Quarter", name := "allLikes", desc := "()I" } : Jvm.MethodName)) ∈ lw_all := lw_g (lw_at lw_m4 48 rfl) rfl
theorem q850 : (Jvm.Cond.selects "PrayerMatsFace$Quarter" ({ cls := "PrayerMatsFace$Quarter", name := "allLikes", desc := "()I" } : Jvm.MethodName) ({ cls := "PrayerMatsFace$Quarter", name := "allLikes", desc := "()I" } : Jvm.MethodName)) ∈ lw_all := lw_g (lw_at lw_m4 49 rfl) rfl
theorem q851 : (Jvm.Cond.code ({ cls := "PrayerMatsFace$Quarter", name := "allLikes", desc := "()I" } : Jvm.MethodName) prog_7_method_22_code (3 : Nat) (Option.some Jvm.ClassFile.FieldType.int)) ∈ lw_all := lw_g (lw_at lw_m4 50 rfl) rfl
theorem q1517 : (Jvm.Cond.castable "PrayerMatsFace$Quarter" "java/lang/Object") ∈ lw_tbl := lw_at lw_m6 236 rfl
theorem in_X1 : ∀ w ∈ wsX10, w ∈ lw_all := lw_in wsX10 [159, 161, 163, 165, 167] (by decide +kernel) (by decide +kernel)
