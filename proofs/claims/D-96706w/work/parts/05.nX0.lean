/-! PrayerMatsFace -/
set_option maxRecDepth 100000
def RX0 : String := "PrayerMatsFace"
def TX0 : u_T := fun k => match k with
  | 0 => ("PrayerMatsFace", "refusals", "[I", true)
  | 1 => ("PrayerMatsFace", "quarter", "LPrayerMatsFace$Quarter;", true)
  | 2 => ("PrayerMatsFace", "mind", "LPrayerMatsFace$Quarter;", true)
  | 3 => ("PrayerMatsFace", "read", "LPrayerMatsFace$Quarter;", true)
  | 4 => ("PrayerMatsFace", "kept", "LPrayerMatsFace$Quarter;", true)
  | 5 => ("PrayerMatsFace", "isKept", "Z", false)
  | 6 => ("PrayerMatsFace", "letter", "[I", true)
  | 7 => ("PrayerMatsFace", "lettered", "I", false)
  | 8 => ("PrayerMatsFace", "stepped", "[LPrayerMatsFace$Quarter;", true)
  | 9 => ("PrayerMatsFace", "steps", "I", false)
  | 10 => ("PrayerMatsFace", "bestMate", "[I", true)
  | 11 => ("PrayerMatsFace", "found", "I", false)
  | 12 => ("PrayerMatsFace", "least", "I", false)
  | 13 => ("PrayerMatsFace", "daysOn", "I", false)
  | 14 => ("PrayerMatsFace", "row", "[I", true)
  | 15 => ("PrayerMatsFace", "rowed", "I", false)
  | _ => ("PrayerMatsFace", "seed", "I", false)
def tyX0 : Nat → FieldType := fun k => match k with
  | 0 => .array .int
  | 1 => .object "PrayerMatsFace$Quarter"
  | 2 => .object "PrayerMatsFace$Quarter"
  | 3 => .object "PrayerMatsFace$Quarter"
  | 4 => .object "PrayerMatsFace$Quarter"
  | 5 => .boolean
  | 6 => .array .int
  | 7 => .int
  | 8 => .array (.object "PrayerMatsFace$Quarter")
  | 9 => .int
  | 10 => .array .int
  | 11 => .int
  | 12 => .int
  | 13 => .int
  | 14 => .array .int
  | 15 => .int
  | _ => .int
abbrev wsX00 : List Cond := u_ws RX0 TX0 17
set_option maxRecDepth 100000 in
theorem nmX0 : ∀ a, a < 17 → ∀ b, b < 17 → a ≠ b → (TX0 a).2.1 ≠ (TX0 b).2.1 := by decide +kernel
set_option maxRecDepth 100000 in
theorem tyX0_ok : ∀ k, k < 17 → parseFieldDescriptor (TX0 k).2.2.1 = some (tyX0 k) := by decide +kernel
abbrev cX0_init : ByteArray := prog_1_method_1_code
def yX0_init : MethodName := ⟨RX0, "<init>", "()V"⟩
def dkwX0_init_7 : List UInt8 := [16, 12, 188, 10, 181, 0, 39, 177]
abbrev dktX0_init_7 : List UInt8 := dkwX0_init_7 ++ []
def dkwX0_init_6 : List UInt8 := [83, 89, 16, 7, 187, 0, 13, 89, 183, 0, 15, 83, 181, 0, 32, 42, 16, 6, 188, 10, 181, 0, 36, 42]
abbrev dktX0_init_6 : List UInt8 := dkwX0_init_6 ++ dktX0_init_7
def dkwX0_init_5 : List UInt8 := [183, 0, 15, 83, 89, 8, 187, 0, 13, 89, 183, 0, 15, 83, 89, 16, 6, 187, 0, 13, 89, 183, 0, 15]
abbrev dktX0_init_5 : List UInt8 := dkwX0_init_5 ++ dktX0_init_6
def dkwX0_init_4 : List UInt8 := [187, 0, 13, 89, 183, 0, 15, 83, 89, 6, 187, 0, 13, 89, 183, 0, 15, 83, 89, 7, 187, 0, 13, 89]
abbrev dktX0_init_4 : List UInt8 := dkwX0_init_4 ++ dktX0_init_5
def dkwX0_init_3 : List UInt8 := [89, 3, 187, 0, 13, 89, 183, 0, 15, 83, 89, 4, 187, 0, 13, 89, 183, 0, 15, 83, 89, 5]
abbrev dktX0_init_3 : List UInt8 := dkwX0_init_3 ++ dktX0_init_4
def dkwX0_init_2 : List UInt8 := [187, 0, 13, 89, 183, 0, 15, 181, 0, 26, 42, 16, 96, 188, 10, 181, 0, 29, 42, 16, 8, 189, 0, 13]
abbrev dktX0_init_2 : List UInt8 := dkwX0_init_2 ++ dktX0_init_3
def dkwX0_init_1 : List UInt8 := [187, 0, 13, 89, 183, 0, 15, 181, 0, 20, 42, 187, 0, 13, 89, 183, 0, 15, 181, 0, 23, 42]
abbrev dktX0_init_1 : List UInt8 := dkwX0_init_1 ++ dktX0_init_2
def dkwX0_init_0 : List UInt8 := [42, 183, 0, 1, 42, 16, 7, 188, 10, 181, 0, 7, 42, 187, 0, 13, 89, 183, 0, 15, 181, 0, 16, 42]
abbrev dktX0_init_0 : List UInt8 := dkwX0_init_0 ++ dktX0_init_1
theorem dksX0_init_0 : cX0_init.data.toList.drop 0 = dktX0_init_0 := by decide +kernel
theorem dksX0_init_1 : cX0_init.data.toList.drop 24 = dktX0_init_1 := dk_seg dksX0_init_0 24 rfl rfl
theorem dksX0_init_2 : cX0_init.data.toList.drop 46 = dktX0_init_2 := dk_seg dksX0_init_1 22 rfl rfl
theorem dksX0_init_3 : cX0_init.data.toList.drop 70 = dktX0_init_3 := dk_seg dksX0_init_2 24 rfl rfl
theorem dksX0_init_4 : cX0_init.data.toList.drop 92 = dktX0_init_4 := dk_seg dksX0_init_3 22 rfl rfl
theorem dksX0_init_5 : cX0_init.data.toList.drop 116 = dktX0_init_5 := dk_seg dksX0_init_4 24 rfl rfl
theorem dksX0_init_6 : cX0_init.data.toList.drop 140 = dktX0_init_6 := dk_seg dksX0_init_5 24 rfl rfl
theorem dksX0_init_7 : cX0_init.data.toList.drop 164 = dktX0_init_7 := dk_seg dksX0_init_6 24 rfl rfl
theorem dX0_init_0 : decode cX0_init 0 = .ok (.aload_n 0, 1) := dk_42 (dk_at dksX0_init_0 0 rfl rfl)
theorem dX0_init_1 : decode cX0_init 1 = .ok (.invokespecial 1, 3) := dk_183 0 1 (dk_at dksX0_init_0 1 rfl rfl)
theorem dX0_init_4 : decode cX0_init 4 = .ok (.aload_n 0, 1) := dk_42 (dk_at dksX0_init_0 4 rfl rfl)
theorem dX0_init_5 : decode cX0_init 5 = .ok (.bipush 7, 2) := dk_16 7 (dk_at dksX0_init_0 5 rfl rfl)
theorem dX0_init_7 : decode cX0_init 7 = .ok (.newarray .int, 2) := dk_188_10 (dk_at dksX0_init_0 7 rfl rfl)
theorem dX0_init_9 : decode cX0_init 9 = .ok (.putfield 7, 3) := dk_181 0 7 (dk_at dksX0_init_0 9 rfl rfl)
theorem dX0_init_12 : decode cX0_init 12 = .ok (.aload_n 0, 1) := dk_42 (dk_at dksX0_init_0 12 rfl rfl)
theorem dX0_init_13 : decode cX0_init 13 = .ok (.new 13, 3) := dk_187 0 13 (dk_at dksX0_init_0 13 rfl rfl)
theorem dX0_init_16 : decode cX0_init 16 = .ok (.dup, 1) := dk_89 (dk_at dksX0_init_0 16 rfl rfl)
theorem dX0_init_17 : decode cX0_init 17 = .ok (.invokespecial 15, 3) := dk_183 0 15 (dk_at dksX0_init_0 17 rfl rfl)
theorem dX0_init_20 : decode cX0_init 20 = .ok (.putfield 16, 3) := dk_181 0 16 (dk_at dksX0_init_0 20 rfl rfl)
theorem dX0_init_23 : decode cX0_init 23 = .ok (.aload_n 0, 1) := dk_42 (dk_at dksX0_init_0 23 rfl rfl)
theorem dX0_init_24 : decode cX0_init 24 = .ok (.new 13, 3) := dk_187 0 13 (dk_at dksX0_init_1 0 rfl rfl)
theorem dX0_init_27 : decode cX0_init 27 = .ok (.dup, 1) := dk_89 (dk_at dksX0_init_1 3 rfl rfl)
theorem dX0_init_28 : decode cX0_init 28 = .ok (.invokespecial 15, 3) := dk_183 0 15 (dk_at dksX0_init_1 4 rfl rfl)
theorem dX0_init_31 : decode cX0_init 31 = .ok (.putfield 20, 3) := dk_181 0 20 (dk_at dksX0_init_1 7 rfl rfl)
theorem dX0_init_34 : decode cX0_init 34 = .ok (.aload_n 0, 1) := dk_42 (dk_at dksX0_init_1 10 rfl rfl)
theorem dX0_init_35 : decode cX0_init 35 = .ok (.new 13, 3) := dk_187 0 13 (dk_at dksX0_init_1 11 rfl rfl)
theorem dX0_init_38 : decode cX0_init 38 = .ok (.dup, 1) := dk_89 (dk_at dksX0_init_1 14 rfl rfl)
theorem dX0_init_39 : decode cX0_init 39 = .ok (.invokespecial 15, 3) := dk_183 0 15 (dk_at dksX0_init_1 15 rfl rfl)
theorem dX0_init_42 : decode cX0_init 42 = .ok (.putfield 23, 3) := dk_181 0 23 (dk_at dksX0_init_1 18 rfl rfl)
theorem dX0_init_45 : decode cX0_init 45 = .ok (.aload_n 0, 1) := dk_42 (dk_at dksX0_init_1 21 rfl rfl)
theorem dX0_init_46 : decode cX0_init 46 = .ok (.new 13, 3) := dk_187 0 13 (dk_at dksX0_init_2 0 rfl rfl)
theorem dX0_init_49 : decode cX0_init 49 = .ok (.dup, 1) := dk_89 (dk_at dksX0_init_2 3 rfl rfl)
theorem dX0_init_50 : decode cX0_init 50 = .ok (.invokespecial 15, 3) := dk_183 0 15 (dk_at dksX0_init_2 4 rfl rfl)
theorem dX0_init_53 : decode cX0_init 53 = .ok (.putfield 26, 3) := dk_181 0 26 (dk_at dksX0_init_2 7 rfl rfl)
theorem dX0_init_56 : decode cX0_init 56 = .ok (.aload_n 0, 1) := dk_42 (dk_at dksX0_init_2 10 rfl rfl)
theorem dX0_init_57 : decode cX0_init 57 = .ok (.bipush 96, 2) := dk_16 96 (dk_at dksX0_init_2 11 rfl rfl)
theorem dX0_init_59 : decode cX0_init 59 = .ok (.newarray .int, 2) := dk_188_10 (dk_at dksX0_init_2 13 rfl rfl)
theorem dX0_init_61 : decode cX0_init 61 = .ok (.putfield 29, 3) := dk_181 0 29 (dk_at dksX0_init_2 15 rfl rfl)
theorem dX0_init_64 : decode cX0_init 64 = .ok (.aload_n 0, 1) := dk_42 (dk_at dksX0_init_2 18 rfl rfl)
theorem dX0_init_65 : decode cX0_init 65 = .ok (.bipush 8, 2) := dk_16 8 (dk_at dksX0_init_2 19 rfl rfl)
theorem dX0_init_67 : decode cX0_init 67 = .ok (.anewarray 13, 3) := dk_189 0 13 (dk_at dksX0_init_2 21 rfl rfl)
theorem dX0_init_70 : decode cX0_init 70 = .ok (.dup, 1) := dk_89 (dk_at dksX0_init_3 0 rfl rfl)
theorem dX0_init_71 : decode cX0_init 71 = .ok (.iconst 0, 1) := dk_3 (dk_at dksX0_init_3 1 rfl rfl)
theorem dX0_init_72 : decode cX0_init 72 = .ok (.new 13, 3) := dk_187 0 13 (dk_at dksX0_init_3 2 rfl rfl)
theorem dX0_init_75 : decode cX0_init 75 = .ok (.dup, 1) := dk_89 (dk_at dksX0_init_3 5 rfl rfl)
theorem dX0_init_76 : decode cX0_init 76 = .ok (.invokespecial 15, 3) := dk_183 0 15 (dk_at dksX0_init_3 6 rfl rfl)
theorem dX0_init_79 : decode cX0_init 79 = .ok (.aastore, 1) := dk_83 (dk_at dksX0_init_3 9 rfl rfl)
theorem dX0_init_80 : decode cX0_init 80 = .ok (.dup, 1) := dk_89 (dk_at dksX0_init_3 10 rfl rfl)
theorem dX0_init_81 : decode cX0_init 81 = .ok (.iconst 1, 1) := dk_4 (dk_at dksX0_init_3 11 rfl rfl)
theorem dX0_init_82 : decode cX0_init 82 = .ok (.new 13, 3) := dk_187 0 13 (dk_at dksX0_init_3 12 rfl rfl)
theorem dX0_init_85 : decode cX0_init 85 = .ok (.dup, 1) := dk_89 (dk_at dksX0_init_3 15 rfl rfl)
theorem dX0_init_86 : decode cX0_init 86 = .ok (.invokespecial 15, 3) := dk_183 0 15 (dk_at dksX0_init_3 16 rfl rfl)
theorem dX0_init_89 : decode cX0_init 89 = .ok (.aastore, 1) := dk_83 (dk_at dksX0_init_3 19 rfl rfl)
theorem dX0_init_90 : decode cX0_init 90 = .ok (.dup, 1) := dk_89 (dk_at dksX0_init_3 20 rfl rfl)
theorem dX0_init_91 : decode cX0_init 91 = .ok (.iconst 2, 1) := dk_5 (dk_at dksX0_init_3 21 rfl rfl)
theorem dX0_init_92 : decode cX0_init 92 = .ok (.new 13, 3) := dk_187 0 13 (dk_at dksX0_init_4 0 rfl rfl)
theorem dX0_init_95 : decode cX0_init 95 = .ok (.dup, 1) := dk_89 (dk_at dksX0_init_4 3 rfl rfl)
theorem dX0_init_96 : decode cX0_init 96 = .ok (.invokespecial 15, 3) := dk_183 0 15 (dk_at dksX0_init_4 4 rfl rfl)
theorem dX0_init_99 : decode cX0_init 99 = .ok (.aastore, 1) := dk_83 (dk_at dksX0_init_4 7 rfl rfl)
theorem dX0_init_100 : decode cX0_init 100 = .ok (.dup, 1) := dk_89 (dk_at dksX0_init_4 8 rfl rfl)
theorem dX0_init_101 : decode cX0_init 101 = .ok (.iconst 3, 1) := dk_6 (dk_at dksX0_init_4 9 rfl rfl)
theorem dX0_init_102 : decode cX0_init 102 = .ok (.new 13, 3) := dk_187 0 13 (dk_at dksX0_init_4 10 rfl rfl)
theorem dX0_init_105 : decode cX0_init 105 = .ok (.dup, 1) := dk_89 (dk_at dksX0_init_4 13 rfl rfl)
theorem dX0_init_106 : decode cX0_init 106 = .ok (.invokespecial 15, 3) := dk_183 0 15 (dk_at dksX0_init_4 14 rfl rfl)
theorem dX0_init_109 : decode cX0_init 109 = .ok (.aastore, 1) := dk_83 (dk_at dksX0_init_4 17 rfl rfl)
theorem dX0_init_110 : decode cX0_init 110 = .ok (.dup, 1) := dk_89 (dk_at dksX0_init_4 18 rfl rfl)
theorem dX0_init_111 : decode cX0_init 111 = .ok (.iconst 4, 1) := dk_7 (dk_at dksX0_init_4 19 rfl rfl)
theorem dX0_init_112 : decode cX0_init 112 = .ok (.new 13, 3) := dk_187 0 13 (dk_at dksX0_init_4 20 rfl rfl)
theorem dX0_init_115 : decode cX0_init 115 = .ok (.dup, 1) := dk_89 (dk_at dksX0_init_4 23 rfl rfl)
theorem dX0_init_116 : decode cX0_init 116 = .ok (.invokespecial 15, 3) := dk_183 0 15 (dk_at dksX0_init_5 0 rfl rfl)
theorem dX0_init_119 : decode cX0_init 119 = .ok (.aastore, 1) := dk_83 (dk_at dksX0_init_5 3 rfl rfl)
theorem dX0_init_120 : decode cX0_init 120 = .ok (.dup, 1) := dk_89 (dk_at dksX0_init_5 4 rfl rfl)
theorem dX0_init_121 : decode cX0_init 121 = .ok (.iconst 5, 1) := dk_8 (dk_at dksX0_init_5 5 rfl rfl)
theorem dX0_init_122 : decode cX0_init 122 = .ok (.new 13, 3) := dk_187 0 13 (dk_at dksX0_init_5 6 rfl rfl)
theorem dX0_init_125 : decode cX0_init 125 = .ok (.dup, 1) := dk_89 (dk_at dksX0_init_5 9 rfl rfl)
theorem dX0_init_126 : decode cX0_init 126 = .ok (.invokespecial 15, 3) := dk_183 0 15 (dk_at dksX0_init_5 10 rfl rfl)
theorem dX0_init_129 : decode cX0_init 129 = .ok (.aastore, 1) := dk_83 (dk_at dksX0_init_5 13 rfl rfl)
theorem dX0_init_130 : decode cX0_init 130 = .ok (.dup, 1) := dk_89 (dk_at dksX0_init_5 14 rfl rfl)
theorem dX0_init_131 : decode cX0_init 131 = .ok (.bipush 6, 2) := dk_16 6 (dk_at dksX0_init_5 15 rfl rfl)
theorem dX0_init_133 : decode cX0_init 133 = .ok (.new 13, 3) := dk_187 0 13 (dk_at dksX0_init_5 17 rfl rfl)
theorem dX0_init_136 : decode cX0_init 136 = .ok (.dup, 1) := dk_89 (dk_at dksX0_init_5 20 rfl rfl)
theorem dX0_init_137 : decode cX0_init 137 = .ok (.invokespecial 15, 3) := dk_183 0 15 (dk_at dksX0_init_5 21 rfl rfl)
theorem dX0_init_140 : decode cX0_init 140 = .ok (.aastore, 1) := dk_83 (dk_at dksX0_init_6 0 rfl rfl)
theorem dX0_init_141 : decode cX0_init 141 = .ok (.dup, 1) := dk_89 (dk_at dksX0_init_6 1 rfl rfl)
theorem dX0_init_142 : decode cX0_init 142 = .ok (.bipush 7, 2) := dk_16 7 (dk_at dksX0_init_6 2 rfl rfl)
theorem dX0_init_144 : decode cX0_init 144 = .ok (.new 13, 3) := dk_187 0 13 (dk_at dksX0_init_6 4 rfl rfl)
theorem dX0_init_147 : decode cX0_init 147 = .ok (.dup, 1) := dk_89 (dk_at dksX0_init_6 7 rfl rfl)
theorem dX0_init_148 : decode cX0_init 148 = .ok (.invokespecial 15, 3) := dk_183 0 15 (dk_at dksX0_init_6 8 rfl rfl)
theorem dX0_init_151 : decode cX0_init 151 = .ok (.aastore, 1) := dk_83 (dk_at dksX0_init_6 11 rfl rfl)
theorem dX0_init_152 : decode cX0_init 152 = .ok (.putfield 32, 3) := dk_181 0 32 (dk_at dksX0_init_6 12 rfl rfl)
theorem dX0_init_155 : decode cX0_init 155 = .ok (.aload_n 0, 1) := dk_42 (dk_at dksX0_init_6 15 rfl rfl)
theorem dX0_init_156 : decode cX0_init 156 = .ok (.bipush 6, 2) := dk_16 6 (dk_at dksX0_init_6 16 rfl rfl)
theorem dX0_init_158 : decode cX0_init 158 = .ok (.newarray .int, 2) := dk_188_10 (dk_at dksX0_init_6 18 rfl rfl)
theorem dX0_init_160 : decode cX0_init 160 = .ok (.putfield 36, 3) := dk_181 0 36 (dk_at dksX0_init_6 20 rfl rfl)
theorem dX0_init_163 : decode cX0_init 163 = .ok (.aload_n 0, 1) := dk_42 (dk_at dksX0_init_6 23 rfl rfl)
theorem dX0_init_164 : decode cX0_init 164 = .ok (.bipush 12, 2) := dk_16 12 (dk_at dksX0_init_7 0 rfl rfl)
theorem dX0_init_166 : decode cX0_init 166 = .ok (.newarray .int, 2) := dk_188_10 (dk_at dksX0_init_7 2 rfl rfl)
theorem dX0_init_168 : decode cX0_init 168 = .ok (.putfield 39, 3) := dk_181 0 39 (dk_at dksX0_init_7 4 rfl rfl)
theorem dX0_init_171 : decode cX0_init 171 = .ok (.return_, 1) := dk_177 (dk_at dksX0_init_7 7 rfl rfl)
abbrev cX0_feed : ByteArray := prog_1_method_13_code
def yX0_feed : MethodName := ⟨RX0, "feed", "(I)I"⟩
def dkwX0_feed_2 : List UInt8 := [180, 0, 90, 4, 96, 181, 0, 90, 42, 180, 0, 90, 172]
abbrev dktX0_feed_2 : List UInt8 := dkwX0_feed_2 ++ []
def dkwX0_feed_1 : List UInt8 := [61, 28, 153, 0, 9, 42, 28, 182, 0, 48, 172, 42, 180, 0, 29, 42, 180, 0, 90, 27, 79, 42, 89]
abbrev dktX0_feed_1 : List UInt8 := dkwX0_feed_1 ++ dktX0_feed_2
def dkwX0_feed_0 : List UInt8 := [27, 3, 17, 0, 255, 184, 0, 86, 61, 28, 154, 0, 15, 42, 180, 0, 90, 16, 96, 160, 0, 6, 16, 250]
abbrev dktX0_feed_0 : List UInt8 := dkwX0_feed_0 ++ dktX0_feed_1
theorem dksX0_feed_0 : cX0_feed.data.toList.drop 0 = dktX0_feed_0 := by decide +kernel
theorem dksX0_feed_1 : cX0_feed.data.toList.drop 24 = dktX0_feed_1 := dk_seg dksX0_feed_0 24 rfl rfl
theorem dksX0_feed_2 : cX0_feed.data.toList.drop 47 = dktX0_feed_2 := dk_seg dksX0_feed_1 23 rfl rfl
theorem dX0_feed_0 : decode cX0_feed 0 = .ok (.iload_n 1, 1) := dk_27 (dk_at dksX0_feed_0 0 rfl rfl)
theorem dX0_feed_1 : decode cX0_feed 1 = .ok (.iconst 0, 1) := dk_3 (dk_at dksX0_feed_0 1 rfl rfl)
theorem dX0_feed_2 : decode cX0_feed 2 = .ok (.sipush 255, 3) := dk_17 0 255 (dk_at dksX0_feed_0 2 rfl rfl)
theorem dX0_feed_5 : decode cX0_feed 5 = .ok (.invokestatic 86, 3) := dk_184 0 86 (dk_at dksX0_feed_0 5 rfl rfl)
theorem dX0_feed_8 : decode cX0_feed 8 = .ok (.istore_n 2, 1) := dk_61 (dk_at dksX0_feed_0 8 rfl rfl)
theorem dX0_feed_9 : decode cX0_feed 9 = .ok (.iload_n 2, 1) := dk_28 (dk_at dksX0_feed_0 9 rfl rfl)
theorem dX0_feed_10 : decode cX0_feed 10 = .ok (.ifCond .ne 15, 3) := dk_154 0 15 (dk_at dksX0_feed_0 10 rfl rfl)
theorem dX0_feed_13 : decode cX0_feed 13 = .ok (.aload_n 0, 1) := dk_42 (dk_at dksX0_feed_0 13 rfl rfl)
theorem dX0_feed_14 : decode cX0_feed 14 = .ok (.getfield 90, 3) := dk_180 0 90 (dk_at dksX0_feed_0 14 rfl rfl)
theorem dX0_feed_17 : decode cX0_feed 17 = .ok (.bipush 96, 2) := dk_16 96 (dk_at dksX0_feed_0 17 rfl rfl)
theorem dX0_feed_19 : decode cX0_feed 19 = .ok (.if_icmp .ne 6, 3) := dk_160 0 6 (dk_at dksX0_feed_0 19 rfl rfl)
theorem dX0_feed_22 : decode cX0_feed 22 = .ok (.bipush (-6), 2) := dk_16 250 (dk_at dksX0_feed_0 22 rfl rfl)
theorem dX0_feed_24 : decode cX0_feed 24 = .ok (.istore_n 2, 1) := dk_61 (dk_at dksX0_feed_1 0 rfl rfl)
theorem dX0_feed_25 : decode cX0_feed 25 = .ok (.iload_n 2, 1) := dk_28 (dk_at dksX0_feed_1 1 rfl rfl)
theorem dX0_feed_26 : decode cX0_feed 26 = .ok (.ifCond .eq 9, 3) := dk_153 0 9 (dk_at dksX0_feed_1 2 rfl rfl)
theorem dX0_feed_29 : decode cX0_feed 29 = .ok (.aload_n 0, 1) := dk_42 (dk_at dksX0_feed_1 5 rfl rfl)
theorem dX0_feed_30 : decode cX0_feed 30 = .ok (.iload_n 2, 1) := dk_28 (dk_at dksX0_feed_1 6 rfl rfl)
theorem dX0_feed_31 : decode cX0_feed 31 = .ok (.invokevirtual 48, 3) := dk_182 0 48 (dk_at dksX0_feed_1 7 rfl rfl)
theorem dX0_feed_34 : decode cX0_feed 34 = .ok (.ireturn, 1) := dk_172 (dk_at dksX0_feed_1 10 rfl rfl)
theorem dX0_feed_35 : decode cX0_feed 35 = .ok (.aload_n 0, 1) := dk_42 (dk_at dksX0_feed_1 11 rfl rfl)
theorem dX0_feed_36 : decode cX0_feed 36 = .ok (.getfield 29, 3) := dk_180 0 29 (dk_at dksX0_feed_1 12 rfl rfl)
theorem dX0_feed_39 : decode cX0_feed 39 = .ok (.aload_n 0, 1) := dk_42 (dk_at dksX0_feed_1 15 rfl rfl)
theorem dX0_feed_40 : decode cX0_feed 40 = .ok (.getfield 90, 3) := dk_180 0 90 (dk_at dksX0_feed_1 16 rfl rfl)
theorem dX0_feed_43 : decode cX0_feed 43 = .ok (.iload_n 1, 1) := dk_27 (dk_at dksX0_feed_1 19 rfl rfl)
theorem dX0_feed_44 : decode cX0_feed 44 = .ok (.iastore, 1) := dk_79 (dk_at dksX0_feed_1 20 rfl rfl)
theorem dX0_feed_45 : decode cX0_feed 45 = .ok (.aload_n 0, 1) := dk_42 (dk_at dksX0_feed_1 21 rfl rfl)
theorem dX0_feed_46 : decode cX0_feed 46 = .ok (.dup, 1) := dk_89 (dk_at dksX0_feed_1 22 rfl rfl)
theorem dX0_feed_47 : decode cX0_feed 47 = .ok (.getfield 90, 3) := dk_180 0 90 (dk_at dksX0_feed_2 0 rfl rfl)
theorem dX0_feed_50 : decode cX0_feed 50 = .ok (.iconst 1, 1) := dk_4 (dk_at dksX0_feed_2 3 rfl rfl)
theorem dX0_feed_51 : decode cX0_feed 51 = .ok (.iadd, 1) := dk_96 (dk_at dksX0_feed_2 4 rfl rfl)
theorem dX0_feed_52 : decode cX0_feed 52 = .ok (.putfield 90, 3) := dk_181 0 90 (dk_at dksX0_feed_2 5 rfl rfl)
theorem dX0_feed_55 : decode cX0_feed 55 = .ok (.aload_n 0, 1) := dk_42 (dk_at dksX0_feed_2 8 rfl rfl)
theorem dX0_feed_56 : decode cX0_feed 56 = .ok (.getfield 90, 3) := dk_180 0 90 (dk_at dksX0_feed_2 9 rfl rfl)
theorem dX0_feed_59 : decode cX0_feed 59 = .ok (.ireturn, 1) := dk_172 (dk_at dksX0_feed_2 12 rfl rfl)
abbrev cX0_within : ByteArray := prog_1_method_4_code
def yX0_within : MethodName := ⟨RX0, "within", "(III)I"⟩
def dkwX0_within_0 : List UInt8 := [26, 27, 162, 0, 8, 16, 252, 167, 0, 14, 26, 28, 164, 0, 8, 16, 250, 167, 0, 4, 3, 172]
abbrev dktX0_within_0 : List UInt8 := dkwX0_within_0 ++ []
theorem dksX0_within_0 : cX0_within.data.toList.drop 0 = dktX0_within_0 := by decide +kernel
theorem dX0_within_0 : decode cX0_within 0 = .ok (.iload_n 0, 1) := dk_26 (dk_at dksX0_within_0 0 rfl rfl)
theorem dX0_within_1 : decode cX0_within 1 = .ok (.iload_n 1, 1) := dk_27 (dk_at dksX0_within_0 1 rfl rfl)
theorem dX0_within_2 : decode cX0_within 2 = .ok (.if_icmp .ge 8, 3) := dk_162 0 8 (dk_at dksX0_within_0 2 rfl rfl)
theorem dX0_within_5 : decode cX0_within 5 = .ok (.bipush (-4), 2) := dk_16 252 (dk_at dksX0_within_0 5 rfl rfl)
theorem dX0_within_7 : decode cX0_within 7 = .ok (.goto 14, 3) := dk_167 0 14 (dk_at dksX0_within_0 7 rfl rfl)
theorem dX0_within_10 : decode cX0_within 10 = .ok (.iload_n 0, 1) := dk_26 (dk_at dksX0_within_0 10 rfl rfl)
theorem dX0_within_11 : decode cX0_within 11 = .ok (.iload_n 2, 1) := dk_28 (dk_at dksX0_within_0 11 rfl rfl)
theorem dX0_within_12 : decode cX0_within 12 = .ok (.if_icmp .le 8, 3) := dk_164 0 8 (dk_at dksX0_within_0 12 rfl rfl)
theorem dX0_within_15 : decode cX0_within 15 = .ok (.bipush (-6), 2) := dk_16 250 (dk_at dksX0_within_0 15 rfl rfl)
theorem dX0_within_17 : decode cX0_within 17 = .ok (.goto 4, 3) := dk_167 0 4 (dk_at dksX0_within_0 17 rfl rfl)
theorem dX0_within_20 : decode cX0_within 20 = .ok (.iconst 0, 1) := dk_3 (dk_at dksX0_within_0 20 rfl rfl)
theorem dX0_within_21 : decode cX0_within 21 = .ok (.ireturn, 1) := dk_172 (dk_at dksX0_within_0 21 rfl rfl)
abbrev cX0_refuse : ByteArray := prog_1_method_7_code
def yX0_refuse : MethodName := ⟨RX0, "refuse", "(I)I"⟩
def dkwX0_refuse_0 : List UInt8 := [42, 180, 0, 7, 27, 116, 92, 46, 4, 96, 79, 27, 172]
abbrev dktX0_refuse_0 : List UInt8 := dkwX0_refuse_0 ++ []
theorem dksX0_refuse_0 : cX0_refuse.data.toList.drop 0 = dktX0_refuse_0 := by decide +kernel
theorem dX0_refuse_0 : decode cX0_refuse 0 = .ok (.aload_n 0, 1) := dk_42 (dk_at dksX0_refuse_0 0 rfl rfl)
theorem dX0_refuse_1 : decode cX0_refuse 1 = .ok (.getfield 7, 3) := dk_180 0 7 (dk_at dksX0_refuse_0 1 rfl rfl)
theorem dX0_refuse_4 : decode cX0_refuse 4 = .ok (.iload_n 1, 1) := dk_27 (dk_at dksX0_refuse_0 4 rfl rfl)
theorem dX0_refuse_5 : decode cX0_refuse 5 = .ok (.ineg, 1) := dk_116 (dk_at dksX0_refuse_0 5 rfl rfl)
theorem dX0_refuse_6 : decode cX0_refuse 6 = .ok (.dup2, 1) := dk_92 (dk_at dksX0_refuse_0 6 rfl rfl)
theorem dX0_refuse_7 : decode cX0_refuse 7 = .ok (.iaload, 1) := dk_46 (dk_at dksX0_refuse_0 7 rfl rfl)
theorem dX0_refuse_8 : decode cX0_refuse 8 = .ok (.iconst 1, 1) := dk_4 (dk_at dksX0_refuse_0 8 rfl rfl)
theorem dX0_refuse_9 : decode cX0_refuse 9 = .ok (.iadd, 1) := dk_96 (dk_at dksX0_refuse_0 9 rfl rfl)
theorem dX0_refuse_10 : decode cX0_refuse 10 = .ok (.iastore, 1) := dk_79 (dk_at dksX0_refuse_0 10 rfl rfl)
theorem dX0_refuse_11 : decode cX0_refuse 11 = .ok (.iload_n 1, 1) := dk_27 (dk_at dksX0_refuse_0 11 rfl rfl)
theorem dX0_refuse_12 : decode cX0_refuse 12 = .ok (.ireturn, 1) := dk_172 (dk_at dksX0_refuse_0 12 rfl rfl)
abbrev cX0_quarter : ByteArray := prog_1_method_15_code
def yX0_quarter : MethodName := ⟨RX0, "quarter", "()I"⟩
def dkwX0_quarter_4 : List UInt8 := [181, 0, 90, 25, 4, 191]
abbrev dktX0_quarter_4 : List UInt8 := dkwX0_quarter_4 ++ []
def dkwX0_quarter_3 : List UInt8 := [172, 76, 17, 252, 24, 43, 180, 0, 121, 100, 61, 42, 3, 181, 0, 90, 28, 172, 58, 4, 42, 3]
abbrev dktX0_quarter_3 : List UInt8 := dkwX0_quarter_3 ++ dktX0_quarter_4
def dkwX0_quarter_2 : List UInt8 := [42, 180, 0, 16, 42, 180, 0, 23, 182, 0, 103, 42, 3, 181, 0, 118, 28, 62, 42, 3, 181, 0, 90, 29]
abbrev dktX0_quarter_2 : List UInt8 := dkwX0_quarter_2 ++ dktX0_quarter_3
def dkwX0_quarter_1 : List UInt8 := [61, 43, 180, 0, 115, 155, 0, 19, 17, 248, 48, 43, 180, 0, 115, 100, 62, 42, 3, 181, 0, 90, 29, 172]
abbrev dktX0_quarter_1 : List UInt8 := dkwX0_quarter_1 ++ dktX0_quarter_2
def dkwX0_quarter_0 : List UInt8 := [42, 180, 0, 23, 42, 180, 0, 16, 182, 0, 103, 187, 0, 107, 89, 42, 183, 0, 109, 76, 43, 182, 0, 112]
abbrev dktX0_quarter_0 : List UInt8 := dkwX0_quarter_0 ++ dktX0_quarter_1
theorem dksX0_quarter_0 : cX0_quarter.data.toList.drop 0 = dktX0_quarter_0 := by decide +kernel
theorem dksX0_quarter_1 : cX0_quarter.data.toList.drop 24 = dktX0_quarter_1 := dk_seg dksX0_quarter_0 24 rfl rfl
theorem dksX0_quarter_2 : cX0_quarter.data.toList.drop 48 = dktX0_quarter_2 := dk_seg dksX0_quarter_1 24 rfl rfl
theorem dksX0_quarter_3 : cX0_quarter.data.toList.drop 72 = dktX0_quarter_3 := dk_seg dksX0_quarter_2 24 rfl rfl
theorem dksX0_quarter_4 : cX0_quarter.data.toList.drop 94 = dktX0_quarter_4 := dk_seg dksX0_quarter_3 22 rfl rfl
theorem dX0_quarter_0 : decode cX0_quarter 0 = .ok (.aload_n 0, 1) := dk_42 (dk_at dksX0_quarter_0 0 rfl rfl)
theorem dX0_quarter_1 : decode cX0_quarter 1 = .ok (.getfield 23, 3) := dk_180 0 23 (dk_at dksX0_quarter_0 1 rfl rfl)
theorem dX0_quarter_4 : decode cX0_quarter 4 = .ok (.aload_n 0, 1) := dk_42 (dk_at dksX0_quarter_0 4 rfl rfl)
theorem dX0_quarter_5 : decode cX0_quarter 5 = .ok (.getfield 16, 3) := dk_180 0 16 (dk_at dksX0_quarter_0 5 rfl rfl)
theorem dX0_quarter_8 : decode cX0_quarter 8 = .ok (.invokevirtual 103, 3) := dk_182 0 103 (dk_at dksX0_quarter_0 8 rfl rfl)
theorem dX0_quarter_11 : decode cX0_quarter 11 = .ok (.new 107, 3) := dk_187 0 107 (dk_at dksX0_quarter_0 11 rfl rfl)
theorem dX0_quarter_14 : decode cX0_quarter 14 = .ok (.dup, 1) := dk_89 (dk_at dksX0_quarter_0 14 rfl rfl)
theorem dX0_quarter_15 : decode cX0_quarter 15 = .ok (.aload_n 0, 1) := dk_42 (dk_at dksX0_quarter_0 15 rfl rfl)
theorem dX0_quarter_16 : decode cX0_quarter 16 = .ok (.invokespecial 109, 3) := dk_183 0 109 (dk_at dksX0_quarter_0 16 rfl rfl)
theorem dX0_quarter_19 : decode cX0_quarter 19 = .ok (.astore_n 1, 1) := dk_76 (dk_at dksX0_quarter_0 19 rfl rfl)
theorem dX0_quarter_20 : decode cX0_quarter 20 = .ok (.aload_n 1, 1) := dk_43 (dk_at dksX0_quarter_0 20 rfl rfl)
theorem dX0_quarter_21 : decode cX0_quarter 21 = .ok (.invokevirtual 112, 3) := dk_182 0 112 (dk_at dksX0_quarter_0 21 rfl rfl)
theorem dX0_quarter_24 : decode cX0_quarter 24 = .ok (.istore_n 2, 1) := dk_61 (dk_at dksX0_quarter_1 0 rfl rfl)
theorem dX0_quarter_25 : decode cX0_quarter 25 = .ok (.aload_n 1, 1) := dk_43 (dk_at dksX0_quarter_1 1 rfl rfl)
theorem dX0_quarter_26 : decode cX0_quarter 26 = .ok (.getfield 115, 3) := dk_180 0 115 (dk_at dksX0_quarter_1 2 rfl rfl)
theorem dX0_quarter_29 : decode cX0_quarter 29 = .ok (.ifCond .lt 19, 3) := dk_155 0 19 (dk_at dksX0_quarter_1 5 rfl rfl)
theorem dX0_quarter_32 : decode cX0_quarter 32 = .ok (.sipush (-2000), 3) := dk_17 248 48 (dk_at dksX0_quarter_1 8 rfl rfl)
theorem dX0_quarter_35 : decode cX0_quarter 35 = .ok (.aload_n 1, 1) := dk_43 (dk_at dksX0_quarter_1 11 rfl rfl)
theorem dX0_quarter_36 : decode cX0_quarter 36 = .ok (.getfield 115, 3) := dk_180 0 115 (dk_at dksX0_quarter_1 12 rfl rfl)
theorem dX0_quarter_39 : decode cX0_quarter 39 = .ok (.isub, 1) := dk_100 (dk_at dksX0_quarter_1 15 rfl rfl)
theorem dX0_quarter_40 : decode cX0_quarter 40 = .ok (.istore_n 3, 1) := dk_62 (dk_at dksX0_quarter_1 16 rfl rfl)
theorem dX0_quarter_41 : decode cX0_quarter 41 = .ok (.aload_n 0, 1) := dk_42 (dk_at dksX0_quarter_1 17 rfl rfl)
theorem dX0_quarter_42 : decode cX0_quarter 42 = .ok (.iconst 0, 1) := dk_3 (dk_at dksX0_quarter_1 18 rfl rfl)
theorem dX0_quarter_43 : decode cX0_quarter 43 = .ok (.putfield 90, 3) := dk_181 0 90 (dk_at dksX0_quarter_1 19 rfl rfl)
theorem dX0_quarter_46 : decode cX0_quarter 46 = .ok (.iload_n 3, 1) := dk_29 (dk_at dksX0_quarter_1 22 rfl rfl)
theorem dX0_quarter_47 : decode cX0_quarter 47 = .ok (.ireturn, 1) := dk_172 (dk_at dksX0_quarter_1 23 rfl rfl)
theorem dX0_quarter_48 : decode cX0_quarter 48 = .ok (.aload_n 0, 1) := dk_42 (dk_at dksX0_quarter_2 0 rfl rfl)
theorem dX0_quarter_49 : decode cX0_quarter 49 = .ok (.getfield 16, 3) := dk_180 0 16 (dk_at dksX0_quarter_2 1 rfl rfl)
theorem dX0_quarter_52 : decode cX0_quarter 52 = .ok (.aload_n 0, 1) := dk_42 (dk_at dksX0_quarter_2 4 rfl rfl)
theorem dX0_quarter_53 : decode cX0_quarter 53 = .ok (.getfield 23, 3) := dk_180 0 23 (dk_at dksX0_quarter_2 5 rfl rfl)
theorem dX0_quarter_56 : decode cX0_quarter 56 = .ok (.invokevirtual 103, 3) := dk_182 0 103 (dk_at dksX0_quarter_2 8 rfl rfl)
theorem dX0_quarter_59 : decode cX0_quarter 59 = .ok (.aload_n 0, 1) := dk_42 (dk_at dksX0_quarter_2 11 rfl rfl)
theorem dX0_quarter_60 : decode cX0_quarter 60 = .ok (.iconst 0, 1) := dk_3 (dk_at dksX0_quarter_2 12 rfl rfl)
theorem dX0_quarter_61 : decode cX0_quarter 61 = .ok (.putfield 118, 3) := dk_181 0 118 (dk_at dksX0_quarter_2 13 rfl rfl)
theorem dX0_quarter_64 : decode cX0_quarter 64 = .ok (.iload_n 2, 1) := dk_28 (dk_at dksX0_quarter_2 16 rfl rfl)
theorem dX0_quarter_65 : decode cX0_quarter 65 = .ok (.istore_n 3, 1) := dk_62 (dk_at dksX0_quarter_2 17 rfl rfl)
theorem dX0_quarter_66 : decode cX0_quarter 66 = .ok (.aload_n 0, 1) := dk_42 (dk_at dksX0_quarter_2 18 rfl rfl)
theorem dX0_quarter_67 : decode cX0_quarter 67 = .ok (.iconst 0, 1) := dk_3 (dk_at dksX0_quarter_2 19 rfl rfl)
theorem dX0_quarter_68 : decode cX0_quarter 68 = .ok (.putfield 90, 3) := dk_181 0 90 (dk_at dksX0_quarter_2 20 rfl rfl)
theorem dX0_quarter_71 : decode cX0_quarter 71 = .ok (.iload_n 3, 1) := dk_29 (dk_at dksX0_quarter_2 23 rfl rfl)
theorem dX0_quarter_72 : decode cX0_quarter 72 = .ok (.ireturn, 1) := dk_172 (dk_at dksX0_quarter_3 0 rfl rfl)
theorem dX0_quarter_73 : decode cX0_quarter 73 = .ok (.astore_n 1, 1) := dk_76 (dk_at dksX0_quarter_3 1 rfl rfl)
theorem dX0_quarter_74 : decode cX0_quarter 74 = .ok (.sipush (-1000), 3) := dk_17 252 24 (dk_at dksX0_quarter_3 2 rfl rfl)
theorem dX0_quarter_77 : decode cX0_quarter 77 = .ok (.aload_n 1, 1) := dk_43 (dk_at dksX0_quarter_3 5 rfl rfl)
theorem dX0_quarter_78 : decode cX0_quarter 78 = .ok (.getfield 121, 3) := dk_180 0 121 (dk_at dksX0_quarter_3 6 rfl rfl)
theorem dX0_quarter_81 : decode cX0_quarter 81 = .ok (.isub, 1) := dk_100 (dk_at dksX0_quarter_3 9 rfl rfl)
theorem dX0_quarter_82 : decode cX0_quarter 82 = .ok (.istore_n 2, 1) := dk_61 (dk_at dksX0_quarter_3 10 rfl rfl)
theorem dX0_quarter_83 : decode cX0_quarter 83 = .ok (.aload_n 0, 1) := dk_42 (dk_at dksX0_quarter_3 11 rfl rfl)
theorem dX0_quarter_84 : decode cX0_quarter 84 = .ok (.iconst 0, 1) := dk_3 (dk_at dksX0_quarter_3 12 rfl rfl)
theorem dX0_quarter_85 : decode cX0_quarter 85 = .ok (.putfield 90, 3) := dk_181 0 90 (dk_at dksX0_quarter_3 13 rfl rfl)
theorem dX0_quarter_88 : decode cX0_quarter 88 = .ok (.iload_n 2, 1) := dk_28 (dk_at dksX0_quarter_3 16 rfl rfl)
theorem dX0_quarter_89 : decode cX0_quarter 89 = .ok (.ireturn, 1) := dk_172 (dk_at dksX0_quarter_3 17 rfl rfl)
theorem dX0_quarter_90 : decode cX0_quarter 90 = .ok (.astore 4, 2) := dk_58 4 (dk_at dksX0_quarter_3 18 rfl rfl)
theorem dX0_quarter_92 : decode cX0_quarter 92 = .ok (.aload_n 0, 1) := dk_42 (dk_at dksX0_quarter_3 20 rfl rfl)
theorem dX0_quarter_93 : decode cX0_quarter 93 = .ok (.iconst 0, 1) := dk_3 (dk_at dksX0_quarter_3 21 rfl rfl)
theorem dX0_quarter_94 : decode cX0_quarter 94 = .ok (.putfield 90, 3) := dk_181 0 90 (dk_at dksX0_quarter_4 0 rfl rfl)
theorem dX0_quarter_97 : decode cX0_quarter 97 = .ok (.aload 4, 2) := dk_25 4 (dk_at dksX0_quarter_4 3 rfl rfl)
theorem dX0_quarter_99 : decode cX0_quarter 99 = .ok (.athrow, 1) := dk_191 (dk_at dksX0_quarter_4 5 rfl rfl)
abbrev cX0_asks : ByteArray := prog_1_method_2_code
def yX0_asks : MethodName := ⟨RX0, "asks", "(ZI)V"⟩
def dkwX0_asks_0 : List UInt8 := [26, 154, 0, 12, 187, 0, 42, 89, 27, 183, 0, 44, 191, 177]
abbrev dktX0_asks_0 : List UInt8 := dkwX0_asks_0 ++ []
theorem dksX0_asks_0 : cX0_asks.data.toList.drop 0 = dktX0_asks_0 := by decide +kernel
theorem dX0_asks_0 : decode cX0_asks 0 = .ok (.iload_n 0, 1) := dk_26 (dk_at dksX0_asks_0 0 rfl rfl)
theorem dX0_asks_1 : decode cX0_asks 1 = .ok (.ifCond .ne 12, 3) := dk_154 0 12 (dk_at dksX0_asks_0 1 rfl rfl)
theorem dX0_asks_4 : decode cX0_asks 4 = .ok (.new 42, 3) := dk_187 0 42 (dk_at dksX0_asks_0 4 rfl rfl)
theorem dX0_asks_7 : decode cX0_asks 7 = .ok (.dup, 1) := dk_89 (dk_at dksX0_asks_0 7 rfl rfl)
theorem dX0_asks_8 : decode cX0_asks 8 = .ok (.iload_n 1, 1) := dk_27 (dk_at dksX0_asks_0 8 rfl rfl)
theorem dX0_asks_9 : decode cX0_asks 9 = .ok (.invokespecial 44, 3) := dk_183 0 44 (dk_at dksX0_asks_0 9 rfl rfl)
theorem dX0_asks_12 : decode cX0_asks 12 = .ok (.athrow, 1) := dk_191 (dk_at dksX0_asks_0 12 rfl rfl)
theorem dX0_asks_13 : decode cX0_asks 13 = .ok (.return_, 1) := dk_177 (dk_at dksX0_asks_0 13 rfl rfl)
abbrev cX0_personWith : ByteArray := prog_1_method_10_code
def yX0_personWith : MethodName := ⟨RX0, "personWith", "(II)LPrayerMatsFace$Person;"⟩
def dkwX0_personWith_4 : List UInt8 := [183, 0, 70, 176, 187, 0, 71, 89, 26, 27, 183, 0, 73, 176]
abbrev dktX0_personWith_4 : List UInt8 := dkwX0_personWith_4 ++ []
def dkwX0_personWith_3 : List UInt8 := [26, 27, 183, 0, 64, 176, 187, 0, 65, 89, 26, 27, 183, 0, 67, 176, 187, 0, 68, 89, 26, 27]
abbrev dktX0_personWith_3 : List UInt8 := dkwX0_personWith_3 ++ dktX0_personWith_4
def dkwX0_personWith_2 : List UInt8 := [187, 0, 54, 89, 26, 27, 183, 0, 56, 176, 187, 0, 59, 89, 26, 27, 183, 0, 61, 176, 187, 0, 62, 89]
abbrev dktX0_personWith_2 : List UInt8 := dkwX0_personWith_2 ++ dktX0_personWith_3
def dkwX0_personWith_1 : List UInt8 := [170, 0, 0, 0, 0, 0, 85, 0, 0, 0, 1, 0, 0, 0, 5, 0, 0, 0, 35, 0, 0, 0, 45, 0, 0, 0, 55, 0, 0, 0, 65, 0, 0, 0, 75]
abbrev dktX0_personWith_1 : List UInt8 := dkwX0_personWith_1 ++ dktX0_personWith_2
def dkwX0_personWith_0 : List UInt8 := [26]
abbrev dktX0_personWith_0 : List UInt8 := dkwX0_personWith_0 ++ dktX0_personWith_1
theorem dksX0_personWith_0 : cX0_personWith.data.toList.drop 0 = dktX0_personWith_0 := by decide +kernel
theorem dksX0_personWith_1 : cX0_personWith.data.toList.drop 1 = dktX0_personWith_1 := dk_seg dksX0_personWith_0 1 rfl rfl
theorem dksX0_personWith_2 : cX0_personWith.data.toList.drop 36 = dktX0_personWith_2 := dk_seg dksX0_personWith_1 35 rfl rfl
theorem dksX0_personWith_3 : cX0_personWith.data.toList.drop 60 = dktX0_personWith_3 := dk_seg dksX0_personWith_2 24 rfl rfl
theorem dksX0_personWith_4 : cX0_personWith.data.toList.drop 82 = dktX0_personWith_4 := dk_seg dksX0_personWith_3 22 rfl rfl
theorem dX0_personWith_0 : decode cX0_personWith 0 = .ok (.iload_n 0, 1) := dk_26 (dk_at dksX0_personWith_0 0 rfl rfl)
theorem dX0_personWith_1 : decode cX0_personWith 1 = .ok (.tableswitch 85 1 5 #[35, 45, 55, 65, 75], 35) := by decide +kernel
theorem dX0_personWith_36 : decode cX0_personWith 36 = .ok (.new 54, 3) := dk_187 0 54 (dk_at dksX0_personWith_2 0 rfl rfl)
theorem dX0_personWith_39 : decode cX0_personWith 39 = .ok (.dup, 1) := dk_89 (dk_at dksX0_personWith_2 3 rfl rfl)
theorem dX0_personWith_40 : decode cX0_personWith 40 = .ok (.iload_n 0, 1) := dk_26 (dk_at dksX0_personWith_2 4 rfl rfl)
theorem dX0_personWith_41 : decode cX0_personWith 41 = .ok (.iload_n 1, 1) := dk_27 (dk_at dksX0_personWith_2 5 rfl rfl)
theorem dX0_personWith_42 : decode cX0_personWith 42 = .ok (.invokespecial 56, 3) := dk_183 0 56 (dk_at dksX0_personWith_2 6 rfl rfl)
theorem dX0_personWith_45 : decode cX0_personWith 45 = .ok (.areturn, 1) := dk_176 (dk_at dksX0_personWith_2 9 rfl rfl)
theorem dX0_personWith_46 : decode cX0_personWith 46 = .ok (.new 59, 3) := dk_187 0 59 (dk_at dksX0_personWith_2 10 rfl rfl)
theorem dX0_personWith_49 : decode cX0_personWith 49 = .ok (.dup, 1) := dk_89 (dk_at dksX0_personWith_2 13 rfl rfl)
theorem dX0_personWith_50 : decode cX0_personWith 50 = .ok (.iload_n 0, 1) := dk_26 (dk_at dksX0_personWith_2 14 rfl rfl)
theorem dX0_personWith_51 : decode cX0_personWith 51 = .ok (.iload_n 1, 1) := dk_27 (dk_at dksX0_personWith_2 15 rfl rfl)
theorem dX0_personWith_52 : decode cX0_personWith 52 = .ok (.invokespecial 61, 3) := dk_183 0 61 (dk_at dksX0_personWith_2 16 rfl rfl)
theorem dX0_personWith_55 : decode cX0_personWith 55 = .ok (.areturn, 1) := dk_176 (dk_at dksX0_personWith_2 19 rfl rfl)
theorem dX0_personWith_56 : decode cX0_personWith 56 = .ok (.new 62, 3) := dk_187 0 62 (dk_at dksX0_personWith_2 20 rfl rfl)
theorem dX0_personWith_59 : decode cX0_personWith 59 = .ok (.dup, 1) := dk_89 (dk_at dksX0_personWith_2 23 rfl rfl)
theorem dX0_personWith_60 : decode cX0_personWith 60 = .ok (.iload_n 0, 1) := dk_26 (dk_at dksX0_personWith_3 0 rfl rfl)
theorem dX0_personWith_61 : decode cX0_personWith 61 = .ok (.iload_n 1, 1) := dk_27 (dk_at dksX0_personWith_3 1 rfl rfl)
theorem dX0_personWith_62 : decode cX0_personWith 62 = .ok (.invokespecial 64, 3) := dk_183 0 64 (dk_at dksX0_personWith_3 2 rfl rfl)
theorem dX0_personWith_65 : decode cX0_personWith 65 = .ok (.areturn, 1) := dk_176 (dk_at dksX0_personWith_3 5 rfl rfl)
theorem dX0_personWith_66 : decode cX0_personWith 66 = .ok (.new 65, 3) := dk_187 0 65 (dk_at dksX0_personWith_3 6 rfl rfl)
theorem dX0_personWith_69 : decode cX0_personWith 69 = .ok (.dup, 1) := dk_89 (dk_at dksX0_personWith_3 9 rfl rfl)
theorem dX0_personWith_70 : decode cX0_personWith 70 = .ok (.iload_n 0, 1) := dk_26 (dk_at dksX0_personWith_3 10 rfl rfl)
theorem dX0_personWith_71 : decode cX0_personWith 71 = .ok (.iload_n 1, 1) := dk_27 (dk_at dksX0_personWith_3 11 rfl rfl)
theorem dX0_personWith_72 : decode cX0_personWith 72 = .ok (.invokespecial 67, 3) := dk_183 0 67 (dk_at dksX0_personWith_3 12 rfl rfl)
theorem dX0_personWith_75 : decode cX0_personWith 75 = .ok (.areturn, 1) := dk_176 (dk_at dksX0_personWith_3 15 rfl rfl)
theorem dX0_personWith_76 : decode cX0_personWith 76 = .ok (.new 68, 3) := dk_187 0 68 (dk_at dksX0_personWith_3 16 rfl rfl)
theorem dX0_personWith_79 : decode cX0_personWith 79 = .ok (.dup, 1) := dk_89 (dk_at dksX0_personWith_3 19 rfl rfl)
theorem dX0_personWith_80 : decode cX0_personWith 80 = .ok (.iload_n 0, 1) := dk_26 (dk_at dksX0_personWith_3 20 rfl rfl)
theorem dX0_personWith_81 : decode cX0_personWith 81 = .ok (.iload_n 1, 1) := dk_27 (dk_at dksX0_personWith_3 21 rfl rfl)
theorem dX0_personWith_82 : decode cX0_personWith 82 = .ok (.invokespecial 70, 3) := dk_183 0 70 (dk_at dksX0_personWith_4 0 rfl rfl)
theorem dX0_personWith_85 : decode cX0_personWith 85 = .ok (.areturn, 1) := dk_176 (dk_at dksX0_personWith_4 3 rfl rfl)
theorem dX0_personWith_86 : decode cX0_personWith 86 = .ok (.new 71, 3) := dk_187 0 71 (dk_at dksX0_personWith_4 4 rfl rfl)
theorem dX0_personWith_89 : decode cX0_personWith 89 = .ok (.dup, 1) := dk_89 (dk_at dksX0_personWith_4 7 rfl rfl)
theorem dX0_personWith_90 : decode cX0_personWith 90 = .ok (.iload_n 0, 1) := dk_26 (dk_at dksX0_personWith_4 8 rfl rfl)
theorem dX0_personWith_91 : decode cX0_personWith 91 = .ok (.iload_n 1, 1) := dk_27 (dk_at dksX0_personWith_4 9 rfl rfl)
theorem dX0_personWith_92 : decode cX0_personWith 92 = .ok (.invokespecial 73, 3) := dk_183 0 73 (dk_at dksX0_personWith_4 10 rfl rfl)
theorem dX0_personWith_95 : decode cX0_personWith 95 = .ok (.areturn, 1) := dk_176 (dk_at dksX0_personWith_4 13 rfl rfl)
abbrev cX0_turnsMat : ByteArray := prog_1_method_14_code
def yX0_turnsMat : MethodName := ⟨RX0, "turnsMat", "(LPrayerMatsFace$Quarter;II)V"⟩
def dkwX0_turnsMat_1 : List UInt8 := [177]
abbrev dktX0_turnsMat_1 : List UInt8 := dkwX0_turnsMat_1 ++ []
def dkwX0_turnsMat_0 : List UInt8 := [42, 180, 0, 94, 27, 46, 28, 160, 0, 11, 42, 27, 182, 0, 97, 167, 0, 9, 42, 27, 28, 182, 0, 100]
abbrev dktX0_turnsMat_0 : List UInt8 := dkwX0_turnsMat_0 ++ dktX0_turnsMat_1
theorem dksX0_turnsMat_0 : cX0_turnsMat.data.toList.drop 0 = dktX0_turnsMat_0 := by decide +kernel
theorem dksX0_turnsMat_1 : cX0_turnsMat.data.toList.drop 24 = dktX0_turnsMat_1 := dk_seg dksX0_turnsMat_0 24 rfl rfl
theorem dX0_turnsMat_0 : decode cX0_turnsMat 0 = .ok (.aload_n 0, 1) := dk_42 (dk_at dksX0_turnsMat_0 0 rfl rfl)
theorem dX0_turnsMat_1 : decode cX0_turnsMat 1 = .ok (.getfield 94, 3) := dk_180 0 94 (dk_at dksX0_turnsMat_0 1 rfl rfl)
theorem dX0_turnsMat_4 : decode cX0_turnsMat 4 = .ok (.iload_n 1, 1) := dk_27 (dk_at dksX0_turnsMat_0 4 rfl rfl)
theorem dX0_turnsMat_5 : decode cX0_turnsMat 5 = .ok (.iaload, 1) := dk_46 (dk_at dksX0_turnsMat_0 5 rfl rfl)
theorem dX0_turnsMat_6 : decode cX0_turnsMat 6 = .ok (.iload_n 2, 1) := dk_28 (dk_at dksX0_turnsMat_0 6 rfl rfl)
theorem dX0_turnsMat_7 : decode cX0_turnsMat 7 = .ok (.if_icmp .ne 11, 3) := dk_160 0 11 (dk_at dksX0_turnsMat_0 7 rfl rfl)
theorem dX0_turnsMat_10 : decode cX0_turnsMat 10 = .ok (.aload_n 0, 1) := dk_42 (dk_at dksX0_turnsMat_0 10 rfl rfl)
theorem dX0_turnsMat_11 : decode cX0_turnsMat 11 = .ok (.iload_n 1, 1) := dk_27 (dk_at dksX0_turnsMat_0 11 rfl rfl)
theorem dX0_turnsMat_12 : decode cX0_turnsMat 12 = .ok (.invokevirtual 97, 3) := dk_182 0 97 (dk_at dksX0_turnsMat_0 12 rfl rfl)
theorem dX0_turnsMat_15 : decode cX0_turnsMat 15 = .ok (.goto 9, 3) := dk_167 0 9 (dk_at dksX0_turnsMat_0 15 rfl rfl)
theorem dX0_turnsMat_18 : decode cX0_turnsMat 18 = .ok (.aload_n 0, 1) := dk_42 (dk_at dksX0_turnsMat_0 18 rfl rfl)
theorem dX0_turnsMat_19 : decode cX0_turnsMat 19 = .ok (.iload_n 1, 1) := dk_27 (dk_at dksX0_turnsMat_0 19 rfl rfl)
theorem dX0_turnsMat_20 : decode cX0_turnsMat 20 = .ok (.iload_n 2, 1) := dk_28 (dk_at dksX0_turnsMat_0 20 rfl rfl)
theorem dX0_turnsMat_21 : decode cX0_turnsMat 21 = .ok (.invokevirtual 100, 3) := dk_182 0 100 (dk_at dksX0_turnsMat_0 21 rfl rfl)
theorem dX0_turnsMat_24 : decode cX0_turnsMat 24 = .ok (.return_, 1) := dk_177 (dk_at dksX0_turnsMat_1 0 rfl rfl)
abbrev cX0_has : ByteArray := prog_1_method_5_code
def yX0_has : MethodName := ⟨RX0, "has", "(II)Z"⟩
def dkwX0_has_0 : List UInt8 := [26, 27, 122, 4, 126, 4, 160, 0, 7, 4, 167, 0, 4, 3, 172]
abbrev dktX0_has_0 : List UInt8 := dkwX0_has_0 ++ []
theorem dksX0_has_0 : cX0_has.data.toList.drop 0 = dktX0_has_0 := by decide +kernel
theorem dX0_has_0 : decode cX0_has 0 = .ok (.iload_n 0, 1) := dk_26 (dk_at dksX0_has_0 0 rfl rfl)
theorem dX0_has_1 : decode cX0_has 1 = .ok (.iload_n 1, 1) := dk_27 (dk_at dksX0_has_0 1 rfl rfl)
theorem dX0_has_2 : decode cX0_has 2 = .ok (.ishr, 1) := dk_122 (dk_at dksX0_has_0 2 rfl rfl)
theorem dX0_has_3 : decode cX0_has 3 = .ok (.iconst 1, 1) := dk_4 (dk_at dksX0_has_0 3 rfl rfl)
theorem dX0_has_4 : decode cX0_has 4 = .ok (.iand, 1) := dk_126 (dk_at dksX0_has_0 4 rfl rfl)
theorem dX0_has_5 : decode cX0_has 5 = .ok (.iconst 1, 1) := dk_4 (dk_at dksX0_has_0 5 rfl rfl)
theorem dX0_has_6 : decode cX0_has 6 = .ok (.if_icmp .ne 7, 3) := dk_160 0 7 (dk_at dksX0_has_0 6 rfl rfl)
theorem dX0_has_9 : decode cX0_has 9 = .ok (.iconst 1, 1) := dk_4 (dk_at dksX0_has_0 9 rfl rfl)
theorem dX0_has_10 : decode cX0_has 10 = .ok (.goto 4, 3) := dk_167 0 4 (dk_at dksX0_has_0 10 rfl rfl)
theorem dX0_has_13 : decode cX0_has 13 = .ok (.iconst 0, 1) := dk_3 (dk_at dksX0_has_0 13 rfl rfl)
theorem dX0_has_14 : decode cX0_has 14 = .ok (.ireturn, 1) := dk_172 (dk_at dksX0_has_0 14 rfl rfl)
abbrev cX0_personOf : ByteArray := prog_1_method_16_code
def yX0_personOf : MethodName := ⟨RX0, "personOf", "(II)I"⟩
def dkwX0_personOf_4 : List UInt8 := [182, 0, 48, 172]
abbrev dktX0_personOf_4 : List UInt8 := dkwX0_personOf_4 ++ []
def dkwX0_personOf_3 : List UInt8 := [180, 0, 94, 27, 46, 172, 45, 182, 0, 137, 172, 45, 182, 0, 140, 172, 45, 182, 0, 143, 172, 42, 16, 254]
abbrev dktX0_personOf_3 : List UInt8 := dkwX0_personOf_3 ++ dktX0_personOf_4
def dkwX0_personOf_2 : List UInt8 := [45, 180, 0, 128, 172, 45, 180, 0, 131, 172, 42, 180, 0, 16, 180, 0, 134, 27, 46, 172, 42, 180, 0, 16]
abbrev dktX0_personOf_2 : List UInt8 := dkwX0_personOf_2 ++ dktX0_personOf_3
def dkwX0_personOf_1 : List UInt8 := [170, 0, 0, 0, 0, 0, 0, 89, 0, 0, 0, 0, 0, 0, 0, 6, 0, 0, 0, 44, 0, 0, 0, 49, 0, 0, 0, 54, 0, 0, 0, 64, 0, 0, 0, 74, 0, 0, 0, 79, 0, 0, 0, 84]
abbrev dktX0_personOf_1 : List UInt8 := dkwX0_personOf_1 ++ dktX0_personOf_2
def dkwX0_personOf_0 : List UInt8 := [42, 27, 182, 0, 82, 154, 0, 9, 42, 2, 182, 0, 48, 172, 42, 180, 0, 16, 27, 182, 0, 124, 78, 28]
abbrev dktX0_personOf_0 : List UInt8 := dkwX0_personOf_0 ++ dktX0_personOf_1
theorem dksX0_personOf_0 : cX0_personOf.data.toList.drop 0 = dktX0_personOf_0 := by decide +kernel
theorem dksX0_personOf_1 : cX0_personOf.data.toList.drop 24 = dktX0_personOf_1 := dk_seg dksX0_personOf_0 24 rfl rfl
theorem dksX0_personOf_2 : cX0_personOf.data.toList.drop 68 = dktX0_personOf_2 := dk_seg dksX0_personOf_1 44 rfl rfl
theorem dksX0_personOf_3 : cX0_personOf.data.toList.drop 92 = dktX0_personOf_3 := dk_seg dksX0_personOf_2 24 rfl rfl
theorem dksX0_personOf_4 : cX0_personOf.data.toList.drop 116 = dktX0_personOf_4 := dk_seg dksX0_personOf_3 24 rfl rfl
theorem dX0_personOf_0 : decode cX0_personOf 0 = .ok (.aload_n 0, 1) := dk_42 (dk_at dksX0_personOf_0 0 rfl rfl)
theorem dX0_personOf_1 : decode cX0_personOf 1 = .ok (.iload_n 1, 1) := dk_27 (dk_at dksX0_personOf_0 1 rfl rfl)
theorem dX0_personOf_2 : decode cX0_personOf 2 = .ok (.invokevirtual 82, 3) := dk_182 0 82 (dk_at dksX0_personOf_0 2 rfl rfl)
theorem dX0_personOf_5 : decode cX0_personOf 5 = .ok (.ifCond .ne 9, 3) := dk_154 0 9 (dk_at dksX0_personOf_0 5 rfl rfl)
theorem dX0_personOf_8 : decode cX0_personOf 8 = .ok (.aload_n 0, 1) := dk_42 (dk_at dksX0_personOf_0 8 rfl rfl)
theorem dX0_personOf_9 : decode cX0_personOf 9 = .ok (.iconst (-1), 1) := dk_2 (dk_at dksX0_personOf_0 9 rfl rfl)
theorem dX0_personOf_10 : decode cX0_personOf 10 = .ok (.invokevirtual 48, 3) := dk_182 0 48 (dk_at dksX0_personOf_0 10 rfl rfl)
theorem dX0_personOf_13 : decode cX0_personOf 13 = .ok (.ireturn, 1) := dk_172 (dk_at dksX0_personOf_0 13 rfl rfl)
theorem dX0_personOf_14 : decode cX0_personOf 14 = .ok (.aload_n 0, 1) := dk_42 (dk_at dksX0_personOf_0 14 rfl rfl)
theorem dX0_personOf_15 : decode cX0_personOf 15 = .ok (.getfield 16, 3) := dk_180 0 16 (dk_at dksX0_personOf_0 15 rfl rfl)
theorem dX0_personOf_18 : decode cX0_personOf 18 = .ok (.iload_n 1, 1) := dk_27 (dk_at dksX0_personOf_0 18 rfl rfl)
theorem dX0_personOf_19 : decode cX0_personOf 19 = .ok (.invokevirtual 124, 3) := dk_182 0 124 (dk_at dksX0_personOf_0 19 rfl rfl)
theorem dX0_personOf_22 : decode cX0_personOf 22 = .ok (.astore_n 3, 1) := dk_78 (dk_at dksX0_personOf_0 22 rfl rfl)
theorem dX0_personOf_23 : decode cX0_personOf 23 = .ok (.iload_n 2, 1) := dk_28 (dk_at dksX0_personOf_0 23 rfl rfl)
theorem dX0_personOf_24 : decode cX0_personOf 24 = .ok (.tableswitch 89 0 6 #[44, 49, 54, 64, 74, 79, 84], 44) := by decide +kernel
theorem dX0_personOf_68 : decode cX0_personOf 68 = .ok (.aload_n 3, 1) := dk_45 (dk_at dksX0_personOf_2 0 rfl rfl)
theorem dX0_personOf_69 : decode cX0_personOf 69 = .ok (.getfield 128, 3) := dk_180 0 128 (dk_at dksX0_personOf_2 1 rfl rfl)
theorem dX0_personOf_72 : decode cX0_personOf 72 = .ok (.ireturn, 1) := dk_172 (dk_at dksX0_personOf_2 4 rfl rfl)
theorem dX0_personOf_73 : decode cX0_personOf 73 = .ok (.aload_n 3, 1) := dk_45 (dk_at dksX0_personOf_2 5 rfl rfl)
theorem dX0_personOf_74 : decode cX0_personOf 74 = .ok (.getfield 131, 3) := dk_180 0 131 (dk_at dksX0_personOf_2 6 rfl rfl)
theorem dX0_personOf_77 : decode cX0_personOf 77 = .ok (.ireturn, 1) := dk_172 (dk_at dksX0_personOf_2 9 rfl rfl)
theorem dX0_personOf_78 : decode cX0_personOf 78 = .ok (.aload_n 0, 1) := dk_42 (dk_at dksX0_personOf_2 10 rfl rfl)
theorem dX0_personOf_79 : decode cX0_personOf 79 = .ok (.getfield 16, 3) := dk_180 0 16 (dk_at dksX0_personOf_2 11 rfl rfl)
theorem dX0_personOf_82 : decode cX0_personOf 82 = .ok (.getfield 134, 3) := dk_180 0 134 (dk_at dksX0_personOf_2 14 rfl rfl)
theorem dX0_personOf_85 : decode cX0_personOf 85 = .ok (.iload_n 1, 1) := dk_27 (dk_at dksX0_personOf_2 17 rfl rfl)
theorem dX0_personOf_86 : decode cX0_personOf 86 = .ok (.iaload, 1) := dk_46 (dk_at dksX0_personOf_2 18 rfl rfl)
theorem dX0_personOf_87 : decode cX0_personOf 87 = .ok (.ireturn, 1) := dk_172 (dk_at dksX0_personOf_2 19 rfl rfl)
theorem dX0_personOf_88 : decode cX0_personOf 88 = .ok (.aload_n 0, 1) := dk_42 (dk_at dksX0_personOf_2 20 rfl rfl)
theorem dX0_personOf_89 : decode cX0_personOf 89 = .ok (.getfield 16, 3) := dk_180 0 16 (dk_at dksX0_personOf_2 21 rfl rfl)
theorem dX0_personOf_92 : decode cX0_personOf 92 = .ok (.getfield 94, 3) := dk_180 0 94 (dk_at dksX0_personOf_3 0 rfl rfl)
theorem dX0_personOf_95 : decode cX0_personOf 95 = .ok (.iload_n 1, 1) := dk_27 (dk_at dksX0_personOf_3 3 rfl rfl)
theorem dX0_personOf_96 : decode cX0_personOf 96 = .ok (.iaload, 1) := dk_46 (dk_at dksX0_personOf_3 4 rfl rfl)
theorem dX0_personOf_97 : decode cX0_personOf 97 = .ok (.ireturn, 1) := dk_172 (dk_at dksX0_personOf_3 5 rfl rfl)
theorem dX0_personOf_98 : decode cX0_personOf 98 = .ok (.aload_n 3, 1) := dk_45 (dk_at dksX0_personOf_3 6 rfl rfl)
theorem dX0_personOf_99 : decode cX0_personOf 99 = .ok (.invokevirtual 137, 3) := dk_182 0 137 (dk_at dksX0_personOf_3 7 rfl rfl)
theorem dX0_personOf_102 : decode cX0_personOf 102 = .ok (.ireturn, 1) := dk_172 (dk_at dksX0_personOf_3 10 rfl rfl)
theorem dX0_personOf_103 : decode cX0_personOf 103 = .ok (.aload_n 3, 1) := dk_45 (dk_at dksX0_personOf_3 11 rfl rfl)
theorem dX0_personOf_104 : decode cX0_personOf 104 = .ok (.invokevirtual 140, 3) := dk_182 0 140 (dk_at dksX0_personOf_3 12 rfl rfl)
theorem dX0_personOf_107 : decode cX0_personOf 107 = .ok (.ireturn, 1) := dk_172 (dk_at dksX0_personOf_3 15 rfl rfl)
theorem dX0_personOf_108 : decode cX0_personOf 108 = .ok (.aload_n 3, 1) := dk_45 (dk_at dksX0_personOf_3 16 rfl rfl)
theorem dX0_personOf_109 : decode cX0_personOf 109 = .ok (.invokevirtual 143, 3) := dk_182 0 143 (dk_at dksX0_personOf_3 17 rfl rfl)
theorem dX0_personOf_112 : decode cX0_personOf 112 = .ok (.ireturn, 1) := dk_172 (dk_at dksX0_personOf_3 20 rfl rfl)
theorem dX0_personOf_113 : decode cX0_personOf 113 = .ok (.aload_n 0, 1) := dk_42 (dk_at dksX0_personOf_3 21 rfl rfl)
theorem dX0_personOf_114 : decode cX0_personOf 114 = .ok (.bipush (-2), 2) := dk_16 254 (dk_at dksX0_personOf_3 22 rfl rfl)
theorem dX0_personOf_116 : decode cX0_personOf 116 = .ok (.invokevirtual 48, 3) := dk_182 0 48 (dk_at dksX0_personOf_4 0 rfl rfl)
theorem dX0_personOf_119 : decode cX0_personOf 119 = .ok (.ireturn, 1) := dk_172 (dk_at dksX0_personOf_4 3 rfl rfl)
abbrev cX0_isPerson : ByteArray := prog_1_method_11_code
def yX0_isPerson : MethodName := ⟨RX0, "isPerson", "(I)Z"⟩
def dkwX0_isPerson_0 : List UInt8 := [27, 42, 180, 0, 16, 182, 0, 74, 184, 0, 78, 172]
abbrev dktX0_isPerson_0 : List UInt8 := dkwX0_isPerson_0 ++ []
theorem dksX0_isPerson_0 : cX0_isPerson.data.toList.drop 0 = dktX0_isPerson_0 := by decide +kernel
theorem dX0_isPerson_0 : decode cX0_isPerson 0 = .ok (.iload_n 1, 1) := dk_27 (dk_at dksX0_isPerson_0 0 rfl rfl)
theorem dX0_isPerson_1 : decode cX0_isPerson 1 = .ok (.aload_n 0, 1) := dk_42 (dk_at dksX0_isPerson_0 1 rfl rfl)
theorem dX0_isPerson_2 : decode cX0_isPerson 2 = .ok (.getfield 16, 3) := dk_180 0 16 (dk_at dksX0_isPerson_0 2 rfl rfl)
theorem dX0_isPerson_5 : decode cX0_isPerson 5 = .ok (.invokevirtual 74, 3) := dk_182 0 74 (dk_at dksX0_isPerson_0 5 rfl rfl)
theorem dX0_isPerson_8 : decode cX0_isPerson 8 = .ok (.invokestatic 78, 3) := dk_184 0 78 (dk_at dksX0_isPerson_0 8 rfl rfl)
theorem dX0_isPerson_11 : decode cX0_isPerson 11 = .ok (.ireturn, 1) := dk_172 (dk_at dksX0_isPerson_0 11 rfl rfl)
abbrev cX0_isIn : ByteArray := prog_1_method_3_code
def yX0_isIn : MethodName := ⟨RX0, "isIn", "(II)Z"⟩
def dkwX0_isIn_0 : List UInt8 := [26, 155, 0, 12, 26, 27, 162, 0, 7, 4, 167, 0, 4, 3, 172]
abbrev dktX0_isIn_0 : List UInt8 := dkwX0_isIn_0 ++ []
theorem dksX0_isIn_0 : cX0_isIn.data.toList.drop 0 = dktX0_isIn_0 := by decide +kernel
theorem dX0_isIn_0 : decode cX0_isIn 0 = .ok (.iload_n 0, 1) := dk_26 (dk_at dksX0_isIn_0 0 rfl rfl)
theorem dX0_isIn_1 : decode cX0_isIn 1 = .ok (.ifCond .lt 12, 3) := dk_155 0 12 (dk_at dksX0_isIn_0 1 rfl rfl)
theorem dX0_isIn_4 : decode cX0_isIn 4 = .ok (.iload_n 0, 1) := dk_26 (dk_at dksX0_isIn_0 4 rfl rfl)
theorem dX0_isIn_5 : decode cX0_isIn 5 = .ok (.iload_n 1, 1) := dk_27 (dk_at dksX0_isIn_0 5 rfl rfl)
theorem dX0_isIn_6 : decode cX0_isIn 6 = .ok (.if_icmp .ge 7, 3) := dk_162 0 7 (dk_at dksX0_isIn_0 6 rfl rfl)
theorem dX0_isIn_9 : decode cX0_isIn 9 = .ok (.iconst 1, 1) := dk_4 (dk_at dksX0_isIn_0 9 rfl rfl)
theorem dX0_isIn_10 : decode cX0_isIn 10 = .ok (.goto 4, 3) := dk_167 0 4 (dk_at dksX0_isIn_0 10 rfl rfl)
theorem dX0_isIn_13 : decode cX0_isIn 13 = .ok (.iconst 0, 1) := dk_3 (dk_at dksX0_isIn_0 13 rfl rfl)
theorem dX0_isIn_14 : decode cX0_isIn 14 = .ok (.ireturn, 1) := dk_172 (dk_at dksX0_isIn_0 14 rfl rfl)
abbrev cX0_between : ByteArray := prog_1_method_17_code
def yX0_between : MethodName := ⟨RX0, "between", "(III)I"⟩
def dkwX0_between_3 : List UInt8 := [172]
abbrev dktX0_between_3 : List UInt8 := dkwX0_between_3 ++ []
def dkwX0_between_2 : List UInt8 := [180, 0, 16, 27, 28, 182, 0, 149, 167, 0, 16, 42, 180, 0, 16, 27, 28, 182, 0, 153, 17, 3, 232, 96]
abbrev dktX0_between_2 : List UInt8 := dkwX0_between_2 ++ dktX0_between_3
def dkwX0_between_1 : List UInt8 := [167, 0, 5, 16, 254, 54, 4, 21, 4, 153, 0, 10, 42, 21, 4, 182, 0, 48, 172, 29, 154, 0, 15, 42]
abbrev dktX0_between_1 : List UInt8 := dkwX0_between_1 ++ dktX0_between_2
def dkwX0_between_0 : List UInt8 := [42, 27, 28, 182, 0, 146, 154, 0, 7, 2, 167, 0, 17, 29, 5, 184, 0, 78, 153, 0, 7, 3]
abbrev dktX0_between_0 : List UInt8 := dkwX0_between_0 ++ dktX0_between_1
theorem dksX0_between_0 : cX0_between.data.toList.drop 0 = dktX0_between_0 := by decide +kernel
theorem dksX0_between_1 : cX0_between.data.toList.drop 22 = dktX0_between_1 := dk_seg dksX0_between_0 22 rfl rfl
theorem dksX0_between_2 : cX0_between.data.toList.drop 46 = dktX0_between_2 := dk_seg dksX0_between_1 24 rfl rfl
theorem dksX0_between_3 : cX0_between.data.toList.drop 70 = dktX0_between_3 := dk_seg dksX0_between_2 24 rfl rfl
theorem dX0_between_0 : decode cX0_between 0 = .ok (.aload_n 0, 1) := dk_42 (dk_at dksX0_between_0 0 rfl rfl)
theorem dX0_between_1 : decode cX0_between 1 = .ok (.iload_n 1, 1) := dk_27 (dk_at dksX0_between_0 1 rfl rfl)
theorem dX0_between_2 : decode cX0_between 2 = .ok (.iload_n 2, 1) := dk_28 (dk_at dksX0_between_0 2 rfl rfl)
theorem dX0_between_3 : decode cX0_between 3 = .ok (.invokevirtual 146, 3) := dk_182 0 146 (dk_at dksX0_between_0 3 rfl rfl)
theorem dX0_between_6 : decode cX0_between 6 = .ok (.ifCond .ne 7, 3) := dk_154 0 7 (dk_at dksX0_between_0 6 rfl rfl)
theorem dX0_between_9 : decode cX0_between 9 = .ok (.iconst (-1), 1) := dk_2 (dk_at dksX0_between_0 9 rfl rfl)
theorem dX0_between_10 : decode cX0_between 10 = .ok (.goto 17, 3) := dk_167 0 17 (dk_at dksX0_between_0 10 rfl rfl)
theorem dX0_between_13 : decode cX0_between 13 = .ok (.iload_n 3, 1) := dk_29 (dk_at dksX0_between_0 13 rfl rfl)
theorem dX0_between_14 : decode cX0_between 14 = .ok (.iconst 2, 1) := dk_5 (dk_at dksX0_between_0 14 rfl rfl)
theorem dX0_between_15 : decode cX0_between 15 = .ok (.invokestatic 78, 3) := dk_184 0 78 (dk_at dksX0_between_0 15 rfl rfl)
theorem dX0_between_18 : decode cX0_between 18 = .ok (.ifCond .eq 7, 3) := dk_153 0 7 (dk_at dksX0_between_0 18 rfl rfl)
theorem dX0_between_21 : decode cX0_between 21 = .ok (.iconst 0, 1) := dk_3 (dk_at dksX0_between_0 21 rfl rfl)
theorem dX0_between_22 : decode cX0_between 22 = .ok (.goto 5, 3) := dk_167 0 5 (dk_at dksX0_between_1 0 rfl rfl)
theorem dX0_between_25 : decode cX0_between 25 = .ok (.bipush (-2), 2) := dk_16 254 (dk_at dksX0_between_1 3 rfl rfl)
theorem dX0_between_27 : decode cX0_between 27 = .ok (.istore 4, 2) := dk_54 4 (dk_at dksX0_between_1 5 rfl rfl)
theorem dX0_between_29 : decode cX0_between 29 = .ok (.iload 4, 2) := dk_21 4 (dk_at dksX0_between_1 7 rfl rfl)
theorem dX0_between_31 : decode cX0_between 31 = .ok (.ifCond .eq 10, 3) := dk_153 0 10 (dk_at dksX0_between_1 9 rfl rfl)
theorem dX0_between_34 : decode cX0_between 34 = .ok (.aload_n 0, 1) := dk_42 (dk_at dksX0_between_1 12 rfl rfl)
theorem dX0_between_35 : decode cX0_between 35 = .ok (.iload 4, 2) := dk_21 4 (dk_at dksX0_between_1 13 rfl rfl)
theorem dX0_between_37 : decode cX0_between 37 = .ok (.invokevirtual 48, 3) := dk_182 0 48 (dk_at dksX0_between_1 15 rfl rfl)
theorem dX0_between_40 : decode cX0_between 40 = .ok (.ireturn, 1) := dk_172 (dk_at dksX0_between_1 18 rfl rfl)
theorem dX0_between_41 : decode cX0_between 41 = .ok (.iload_n 3, 1) := dk_29 (dk_at dksX0_between_1 19 rfl rfl)
theorem dX0_between_42 : decode cX0_between 42 = .ok (.ifCond .ne 15, 3) := dk_154 0 15 (dk_at dksX0_between_1 20 rfl rfl)
theorem dX0_between_45 : decode cX0_between 45 = .ok (.aload_n 0, 1) := dk_42 (dk_at dksX0_between_1 23 rfl rfl)
theorem dX0_between_46 : decode cX0_between 46 = .ok (.getfield 16, 3) := dk_180 0 16 (dk_at dksX0_between_2 0 rfl rfl)
theorem dX0_between_49 : decode cX0_between 49 = .ok (.iload_n 1, 1) := dk_27 (dk_at dksX0_between_2 3 rfl rfl)
theorem dX0_between_50 : decode cX0_between 50 = .ok (.iload_n 2, 1) := dk_28 (dk_at dksX0_between_2 4 rfl rfl)
theorem dX0_between_51 : decode cX0_between 51 = .ok (.invokevirtual 149, 3) := dk_182 0 149 (dk_at dksX0_between_2 5 rfl rfl)
theorem dX0_between_54 : decode cX0_between 54 = .ok (.goto 16, 3) := dk_167 0 16 (dk_at dksX0_between_2 8 rfl rfl)
theorem dX0_between_57 : decode cX0_between 57 = .ok (.aload_n 0, 1) := dk_42 (dk_at dksX0_between_2 11 rfl rfl)
theorem dX0_between_58 : decode cX0_between 58 = .ok (.getfield 16, 3) := dk_180 0 16 (dk_at dksX0_between_2 12 rfl rfl)
theorem dX0_between_61 : decode cX0_between 61 = .ok (.iload_n 1, 1) := dk_27 (dk_at dksX0_between_2 15 rfl rfl)
theorem dX0_between_62 : decode cX0_between 62 = .ok (.iload_n 2, 1) := dk_28 (dk_at dksX0_between_2 16 rfl rfl)
theorem dX0_between_63 : decode cX0_between 63 = .ok (.invokevirtual 153, 3) := dk_182 0 153 (dk_at dksX0_between_2 17 rfl rfl)
theorem dX0_between_66 : decode cX0_between 66 = .ok (.sipush 1000, 3) := dk_17 3 232 (dk_at dksX0_between_2 20 rfl rfl)
theorem dX0_between_69 : decode cX0_between 69 = .ok (.iadd, 1) := dk_96 (dk_at dksX0_between_2 23 rfl rfl)
theorem dX0_between_70 : decode cX0_between 70 = .ok (.ireturn, 1) := dk_172 (dk_at dksX0_between_3 0 rfl rfl)
abbrev cX0_areTwo : ByteArray := prog_1_method_12_code
def yX0_areTwo : MethodName := ⟨RX0, "areTwo", "(II)Z"⟩
def dkwX0_areTwo_1 : List UInt8 := [167, 0, 4, 3, 172]
abbrev dktX0_areTwo_1 : List UInt8 := dkwX0_areTwo_1 ++ []
def dkwX0_areTwo_0 : List UInt8 := [42, 27, 182, 0, 82, 153, 0, 20, 42, 28, 182, 0, 82, 153, 0, 12, 27, 28, 159, 0, 7, 4]
abbrev dktX0_areTwo_0 : List UInt8 := dkwX0_areTwo_0 ++ dktX0_areTwo_1
theorem dksX0_areTwo_0 : cX0_areTwo.data.toList.drop 0 = dktX0_areTwo_0 := by decide +kernel
theorem dksX0_areTwo_1 : cX0_areTwo.data.toList.drop 22 = dktX0_areTwo_1 := dk_seg dksX0_areTwo_0 22 rfl rfl
theorem dX0_areTwo_0 : decode cX0_areTwo 0 = .ok (.aload_n 0, 1) := dk_42 (dk_at dksX0_areTwo_0 0 rfl rfl)
theorem dX0_areTwo_1 : decode cX0_areTwo 1 = .ok (.iload_n 1, 1) := dk_27 (dk_at dksX0_areTwo_0 1 rfl rfl)
theorem dX0_areTwo_2 : decode cX0_areTwo 2 = .ok (.invokevirtual 82, 3) := dk_182 0 82 (dk_at dksX0_areTwo_0 2 rfl rfl)
theorem dX0_areTwo_5 : decode cX0_areTwo 5 = .ok (.ifCond .eq 20, 3) := dk_153 0 20 (dk_at dksX0_areTwo_0 5 rfl rfl)
theorem dX0_areTwo_8 : decode cX0_areTwo 8 = .ok (.aload_n 0, 1) := dk_42 (dk_at dksX0_areTwo_0 8 rfl rfl)
theorem dX0_areTwo_9 : decode cX0_areTwo 9 = .ok (.iload_n 2, 1) := dk_28 (dk_at dksX0_areTwo_0 9 rfl rfl)
theorem dX0_areTwo_10 : decode cX0_areTwo 10 = .ok (.invokevirtual 82, 3) := dk_182 0 82 (dk_at dksX0_areTwo_0 10 rfl rfl)
theorem dX0_areTwo_13 : decode cX0_areTwo 13 = .ok (.ifCond .eq 12, 3) := dk_153 0 12 (dk_at dksX0_areTwo_0 13 rfl rfl)
theorem dX0_areTwo_16 : decode cX0_areTwo 16 = .ok (.iload_n 1, 1) := dk_27 (dk_at dksX0_areTwo_0 16 rfl rfl)
theorem dX0_areTwo_17 : decode cX0_areTwo 17 = .ok (.iload_n 2, 1) := dk_28 (dk_at dksX0_areTwo_0 17 rfl rfl)
theorem dX0_areTwo_18 : decode cX0_areTwo 18 = .ok (.if_icmp .eq 7, 3) := dk_159 0 7 (dk_at dksX0_areTwo_0 18 rfl rfl)
theorem dX0_areTwo_21 : decode cX0_areTwo 21 = .ok (.iconst 1, 1) := dk_4 (dk_at dksX0_areTwo_0 21 rfl rfl)
theorem dX0_areTwo_22 : decode cX0_areTwo 22 = .ok (.goto 4, 3) := dk_167 0 4 (dk_at dksX0_areTwo_1 0 rfl rfl)
theorem dX0_areTwo_25 : decode cX0_areTwo 25 = .ok (.iconst 0, 1) := dk_3 (dk_at dksX0_areTwo_1 3 rfl rfl)
theorem dX0_areTwo_26 : decode cX0_areTwo 26 = .ok (.ireturn, 1) := dk_172 (dk_at dksX0_areTwo_1 4 rfl rfl)
abbrev cX0_bits : ByteArray := prog_1_method_6_code
def yX0_bits : MethodName := ⟨RX0, "bits", "(I)I"⟩
def dkwX0_bits_0 : List UInt8 := [3, 60, 26, 61, 28, 153, 0, 15, 132, 1, 1, 28, 28, 4, 100, 126, 61, 167, 255, 243, 27, 172]
abbrev dktX0_bits_0 : List UInt8 := dkwX0_bits_0 ++ []
theorem dksX0_bits_0 : cX0_bits.data.toList.drop 0 = dktX0_bits_0 := by decide +kernel
theorem dX0_bits_0 : decode cX0_bits 0 = .ok (.iconst 0, 1) := dk_3 (dk_at dksX0_bits_0 0 rfl rfl)
theorem dX0_bits_1 : decode cX0_bits 1 = .ok (.istore_n 1, 1) := dk_60 (dk_at dksX0_bits_0 1 rfl rfl)
theorem dX0_bits_2 : decode cX0_bits 2 = .ok (.iload_n 0, 1) := dk_26 (dk_at dksX0_bits_0 2 rfl rfl)
theorem dX0_bits_3 : decode cX0_bits 3 = .ok (.istore_n 2, 1) := dk_61 (dk_at dksX0_bits_0 3 rfl rfl)
theorem dX0_bits_4 : decode cX0_bits 4 = .ok (.iload_n 2, 1) := dk_28 (dk_at dksX0_bits_0 4 rfl rfl)
theorem dX0_bits_5 : decode cX0_bits 5 = .ok (.ifCond .eq 15, 3) := dk_153 0 15 (dk_at dksX0_bits_0 5 rfl rfl)
theorem dX0_bits_8 : decode cX0_bits 8 = .ok (.iinc 1 1, 3) := dk_132 1 1 (dk_at dksX0_bits_0 8 rfl rfl)
theorem dX0_bits_11 : decode cX0_bits 11 = .ok (.iload_n 2, 1) := dk_28 (dk_at dksX0_bits_0 11 rfl rfl)
theorem dX0_bits_12 : decode cX0_bits 12 = .ok (.iload_n 2, 1) := dk_28 (dk_at dksX0_bits_0 12 rfl rfl)
theorem dX0_bits_13 : decode cX0_bits 13 = .ok (.iconst 1, 1) := dk_4 (dk_at dksX0_bits_0 13 rfl rfl)
theorem dX0_bits_14 : decode cX0_bits 14 = .ok (.isub, 1) := dk_100 (dk_at dksX0_bits_0 14 rfl rfl)
theorem dX0_bits_15 : decode cX0_bits 15 = .ok (.iand, 1) := dk_126 (dk_at dksX0_bits_0 15 rfl rfl)
theorem dX0_bits_16 : decode cX0_bits 16 = .ok (.istore_n 2, 1) := dk_61 (dk_at dksX0_bits_0 16 rfl rfl)
theorem dX0_bits_17 : decode cX0_bits 17 = .ok (.goto (-13), 3) := dk_167 255 243 (dk_at dksX0_bits_0 17 rfl rfl)
theorem dX0_bits_20 : decode cX0_bits 20 = .ok (.iload_n 1, 1) := dk_27 (dk_at dksX0_bits_0 20 rfl rfl)
theorem dX0_bits_21 : decode cX0_bits 21 = .ok (.ireturn, 1) := dk_172 (dk_at dksX0_bits_0 21 rfl rfl)
abbrev cX0_person : ByteArray := prog_1_method_18_code
def yX0_person : MethodName := ⟨RX0, "person", "(III)I"⟩
def dkwX0_person_4 : List UInt8 := [4, 100, 172]
abbrev dktX0_person_4 : List UInt8 := dkwX0_person_4 ++ []
def dkwX0_person_3 : List UInt8 := [180, 0, 16, 27, 28, 184, 0, 156, 29, 182, 0, 160, 42, 3, 181, 0, 118, 42, 180, 0, 16, 182, 0, 74]
abbrev dktX0_person_3 : List UInt8 := dkwX0_person_3 ++ dktX0_person_4
def dkwX0_person_2 : List UInt8 := [160, 0, 8, 16, 250, 167, 0, 4, 3, 54, 4, 21, 4, 153, 0, 10, 42, 21, 4, 182, 0, 48, 172, 42]
abbrev dktX0_person_2 : List UInt8 := dkwX0_person_2 ++ dktX0_person_3
def dkwX0_person_1 : List UInt8 := [167, 0, 33, 28, 16, 9, 163, 0, 21, 29, 16, 31, 163, 0, 15, 42, 180, 0, 16, 182, 0, 74, 16, 6]
abbrev dktX0_person_1 : List UInt8 := dkwX0_person_1 ++ dktX0_person_2
def dkwX0_person_0 : List UInt8 := [27, 16, 6, 184, 0, 78, 154, 0, 8, 16, 254, 167, 0, 46, 28, 155, 0, 7, 29, 156, 0, 8, 16, 252]
abbrev dktX0_person_0 : List UInt8 := dkwX0_person_0 ++ dktX0_person_1
theorem dksX0_person_0 : cX0_person.data.toList.drop 0 = dktX0_person_0 := by decide +kernel
theorem dksX0_person_1 : cX0_person.data.toList.drop 24 = dktX0_person_1 := dk_seg dksX0_person_0 24 rfl rfl
theorem dksX0_person_2 : cX0_person.data.toList.drop 48 = dktX0_person_2 := dk_seg dksX0_person_1 24 rfl rfl
theorem dksX0_person_3 : cX0_person.data.toList.drop 72 = dktX0_person_3 := dk_seg dksX0_person_2 24 rfl rfl
theorem dksX0_person_4 : cX0_person.data.toList.drop 96 = dktX0_person_4 := dk_seg dksX0_person_3 24 rfl rfl
theorem dX0_person_0 : decode cX0_person 0 = .ok (.iload_n 1, 1) := dk_27 (dk_at dksX0_person_0 0 rfl rfl)
theorem dX0_person_1 : decode cX0_person 1 = .ok (.bipush 6, 2) := dk_16 6 (dk_at dksX0_person_0 1 rfl rfl)
theorem dX0_person_3 : decode cX0_person 3 = .ok (.invokestatic 78, 3) := dk_184 0 78 (dk_at dksX0_person_0 3 rfl rfl)
theorem dX0_person_6 : decode cX0_person 6 = .ok (.ifCond .ne 8, 3) := dk_154 0 8 (dk_at dksX0_person_0 6 rfl rfl)
theorem dX0_person_9 : decode cX0_person 9 = .ok (.bipush (-2), 2) := dk_16 254 (dk_at dksX0_person_0 9 rfl rfl)
theorem dX0_person_11 : decode cX0_person 11 = .ok (.goto 46, 3) := dk_167 0 46 (dk_at dksX0_person_0 11 rfl rfl)
theorem dX0_person_14 : decode cX0_person 14 = .ok (.iload_n 2, 1) := dk_28 (dk_at dksX0_person_0 14 rfl rfl)
theorem dX0_person_15 : decode cX0_person 15 = .ok (.ifCond .lt 7, 3) := dk_155 0 7 (dk_at dksX0_person_0 15 rfl rfl)
theorem dX0_person_18 : decode cX0_person 18 = .ok (.iload_n 3, 1) := dk_29 (dk_at dksX0_person_0 18 rfl rfl)
theorem dX0_person_19 : decode cX0_person 19 = .ok (.ifCond .ge 8, 3) := dk_156 0 8 (dk_at dksX0_person_0 19 rfl rfl)
theorem dX0_person_22 : decode cX0_person 22 = .ok (.bipush (-4), 2) := dk_16 252 (dk_at dksX0_person_0 22 rfl rfl)
theorem dX0_person_24 : decode cX0_person 24 = .ok (.goto 33, 3) := dk_167 0 33 (dk_at dksX0_person_1 0 rfl rfl)
theorem dX0_person_27 : decode cX0_person 27 = .ok (.iload_n 2, 1) := dk_28 (dk_at dksX0_person_1 3 rfl rfl)
theorem dX0_person_28 : decode cX0_person 28 = .ok (.bipush 9, 2) := dk_16 9 (dk_at dksX0_person_1 4 rfl rfl)
theorem dX0_person_30 : decode cX0_person 30 = .ok (.if_icmp .gt 21, 3) := dk_163 0 21 (dk_at dksX0_person_1 6 rfl rfl)
theorem dX0_person_33 : decode cX0_person 33 = .ok (.iload_n 3, 1) := dk_29 (dk_at dksX0_person_1 9 rfl rfl)
theorem dX0_person_34 : decode cX0_person 34 = .ok (.bipush 31, 2) := dk_16 31 (dk_at dksX0_person_1 10 rfl rfl)
theorem dX0_person_36 : decode cX0_person 36 = .ok (.if_icmp .gt 15, 3) := dk_163 0 15 (dk_at dksX0_person_1 12 rfl rfl)
theorem dX0_person_39 : decode cX0_person 39 = .ok (.aload_n 0, 1) := dk_42 (dk_at dksX0_person_1 15 rfl rfl)
theorem dX0_person_40 : decode cX0_person 40 = .ok (.getfield 16, 3) := dk_180 0 16 (dk_at dksX0_person_1 16 rfl rfl)
theorem dX0_person_43 : decode cX0_person 43 = .ok (.invokevirtual 74, 3) := dk_182 0 74 (dk_at dksX0_person_1 19 rfl rfl)
theorem dX0_person_46 : decode cX0_person 46 = .ok (.bipush 6, 2) := dk_16 6 (dk_at dksX0_person_1 22 rfl rfl)
theorem dX0_person_48 : decode cX0_person 48 = .ok (.if_icmp .ne 8, 3) := dk_160 0 8 (dk_at dksX0_person_2 0 rfl rfl)
theorem dX0_person_51 : decode cX0_person 51 = .ok (.bipush (-6), 2) := dk_16 250 (dk_at dksX0_person_2 3 rfl rfl)
theorem dX0_person_53 : decode cX0_person 53 = .ok (.goto 4, 3) := dk_167 0 4 (dk_at dksX0_person_2 5 rfl rfl)
theorem dX0_person_56 : decode cX0_person 56 = .ok (.iconst 0, 1) := dk_3 (dk_at dksX0_person_2 8 rfl rfl)
theorem dX0_person_57 : decode cX0_person 57 = .ok (.istore 4, 2) := dk_54 4 (dk_at dksX0_person_2 9 rfl rfl)
theorem dX0_person_59 : decode cX0_person 59 = .ok (.iload 4, 2) := dk_21 4 (dk_at dksX0_person_2 11 rfl rfl)
theorem dX0_person_61 : decode cX0_person 61 = .ok (.ifCond .eq 10, 3) := dk_153 0 10 (dk_at dksX0_person_2 13 rfl rfl)
theorem dX0_person_64 : decode cX0_person 64 = .ok (.aload_n 0, 1) := dk_42 (dk_at dksX0_person_2 16 rfl rfl)
theorem dX0_person_65 : decode cX0_person 65 = .ok (.iload 4, 2) := dk_21 4 (dk_at dksX0_person_2 17 rfl rfl)
theorem dX0_person_67 : decode cX0_person 67 = .ok (.invokevirtual 48, 3) := dk_182 0 48 (dk_at dksX0_person_2 19 rfl rfl)
theorem dX0_person_70 : decode cX0_person 70 = .ok (.ireturn, 1) := dk_172 (dk_at dksX0_person_2 22 rfl rfl)
theorem dX0_person_71 : decode cX0_person 71 = .ok (.aload_n 0, 1) := dk_42 (dk_at dksX0_person_2 23 rfl rfl)
theorem dX0_person_72 : decode cX0_person 72 = .ok (.getfield 16, 3) := dk_180 0 16 (dk_at dksX0_person_3 0 rfl rfl)
theorem dX0_person_75 : decode cX0_person 75 = .ok (.iload_n 1, 1) := dk_27 (dk_at dksX0_person_3 3 rfl rfl)
theorem dX0_person_76 : decode cX0_person 76 = .ok (.iload_n 2, 1) := dk_28 (dk_at dksX0_person_3 4 rfl rfl)
theorem dX0_person_77 : decode cX0_person 77 = .ok (.invokestatic 156, 3) := dk_184 0 156 (dk_at dksX0_person_3 5 rfl rfl)
theorem dX0_person_80 : decode cX0_person 80 = .ok (.iload_n 3, 1) := dk_29 (dk_at dksX0_person_3 8 rfl rfl)
theorem dX0_person_81 : decode cX0_person 81 = .ok (.invokevirtual 160, 3) := dk_182 0 160 (dk_at dksX0_person_3 9 rfl rfl)
theorem dX0_person_84 : decode cX0_person 84 = .ok (.aload_n 0, 1) := dk_42 (dk_at dksX0_person_3 12 rfl rfl)
theorem dX0_person_85 : decode cX0_person 85 = .ok (.iconst 0, 1) := dk_3 (dk_at dksX0_person_3 13 rfl rfl)
theorem dX0_person_86 : decode cX0_person 86 = .ok (.putfield 118, 3) := dk_181 0 118 (dk_at dksX0_person_3 14 rfl rfl)
theorem dX0_person_89 : decode cX0_person 89 = .ok (.aload_n 0, 1) := dk_42 (dk_at dksX0_person_3 17 rfl rfl)
theorem dX0_person_90 : decode cX0_person 90 = .ok (.getfield 16, 3) := dk_180 0 16 (dk_at dksX0_person_3 18 rfl rfl)
theorem dX0_person_93 : decode cX0_person 93 = .ok (.invokevirtual 74, 3) := dk_182 0 74 (dk_at dksX0_person_3 21 rfl rfl)
theorem dX0_person_96 : decode cX0_person 96 = .ok (.iconst 1, 1) := dk_4 (dk_at dksX0_person_4 0 rfl rfl)
theorem dX0_person_97 : decode cX0_person 97 = .ok (.isub, 1) := dk_100 (dk_at dksX0_person_4 1 rfl rfl)
theorem dX0_person_98 : decode cX0_person 98 = .ok (.ireturn, 1) := dk_172 (dk_at dksX0_person_4 2 rfl rfl)
abbrev cX0_comes : ByteArray := prog_1_method_19_code
def yX0_comes : MethodName := ⟨RX0, "comes", "(II)I"⟩
def dkwX0_comes_2 : List UInt8 := [180, 0, 16, 180, 0, 134, 27, 28, 79, 21, 4, 172]
abbrev dktX0_comes_2 : List UInt8 := dkwX0_comes_2 ++ []
def dkwX0_comes_1 : List UInt8 := [42, 29, 182, 0, 48, 172, 42, 182, 0, 164, 42, 180, 0, 16, 180, 0, 134, 27, 46, 54, 4, 42]
abbrev dktX0_comes_1 : List UInt8 := dkwX0_comes_1 ++ dktX0_comes_2
def dkwX0_comes_0 : List UInt8 := [42, 27, 182, 0, 82, 153, 0, 13, 28, 3, 16, 31, 184, 0, 86, 167, 0, 4, 2, 62, 29, 153, 0, 9]
abbrev dktX0_comes_0 : List UInt8 := dkwX0_comes_0 ++ dktX0_comes_1
theorem dksX0_comes_0 : cX0_comes.data.toList.drop 0 = dktX0_comes_0 := by decide +kernel
theorem dksX0_comes_1 : cX0_comes.data.toList.drop 24 = dktX0_comes_1 := dk_seg dksX0_comes_0 24 rfl rfl
theorem dksX0_comes_2 : cX0_comes.data.toList.drop 46 = dktX0_comes_2 := dk_seg dksX0_comes_1 22 rfl rfl
theorem dX0_comes_0 : decode cX0_comes 0 = .ok (.aload_n 0, 1) := dk_42 (dk_at dksX0_comes_0 0 rfl rfl)
theorem dX0_comes_1 : decode cX0_comes 1 = .ok (.iload_n 1, 1) := dk_27 (dk_at dksX0_comes_0 1 rfl rfl)
theorem dX0_comes_2 : decode cX0_comes 2 = .ok (.invokevirtual 82, 3) := dk_182 0 82 (dk_at dksX0_comes_0 2 rfl rfl)
theorem dX0_comes_5 : decode cX0_comes 5 = .ok (.ifCond .eq 13, 3) := dk_153 0 13 (dk_at dksX0_comes_0 5 rfl rfl)
theorem dX0_comes_8 : decode cX0_comes 8 = .ok (.iload_n 2, 1) := dk_28 (dk_at dksX0_comes_0 8 rfl rfl)
theorem dX0_comes_9 : decode cX0_comes 9 = .ok (.iconst 0, 1) := dk_3 (dk_at dksX0_comes_0 9 rfl rfl)
theorem dX0_comes_10 : decode cX0_comes 10 = .ok (.bipush 31, 2) := dk_16 31 (dk_at dksX0_comes_0 10 rfl rfl)
theorem dX0_comes_12 : decode cX0_comes 12 = .ok (.invokestatic 86, 3) := dk_184 0 86 (dk_at dksX0_comes_0 12 rfl rfl)
theorem dX0_comes_15 : decode cX0_comes 15 = .ok (.goto 4, 3) := dk_167 0 4 (dk_at dksX0_comes_0 15 rfl rfl)
theorem dX0_comes_18 : decode cX0_comes 18 = .ok (.iconst (-1), 1) := dk_2 (dk_at dksX0_comes_0 18 rfl rfl)
theorem dX0_comes_19 : decode cX0_comes 19 = .ok (.istore_n 3, 1) := dk_62 (dk_at dksX0_comes_0 19 rfl rfl)
theorem dX0_comes_20 : decode cX0_comes 20 = .ok (.iload_n 3, 1) := dk_29 (dk_at dksX0_comes_0 20 rfl rfl)
theorem dX0_comes_21 : decode cX0_comes 21 = .ok (.ifCond .eq 9, 3) := dk_153 0 9 (dk_at dksX0_comes_0 21 rfl rfl)
theorem dX0_comes_24 : decode cX0_comes 24 = .ok (.aload_n 0, 1) := dk_42 (dk_at dksX0_comes_1 0 rfl rfl)
theorem dX0_comes_25 : decode cX0_comes 25 = .ok (.iload_n 3, 1) := dk_29 (dk_at dksX0_comes_1 1 rfl rfl)
theorem dX0_comes_26 : decode cX0_comes 26 = .ok (.invokevirtual 48, 3) := dk_182 0 48 (dk_at dksX0_comes_1 2 rfl rfl)
theorem dX0_comes_29 : decode cX0_comes 29 = .ok (.ireturn, 1) := dk_172 (dk_at dksX0_comes_1 5 rfl rfl)
theorem dX0_comes_30 : decode cX0_comes 30 = .ok (.aload_n 0, 1) := dk_42 (dk_at dksX0_comes_1 6 rfl rfl)
theorem dX0_comes_31 : decode cX0_comes 31 = .ok (.invokevirtual 164, 3) := dk_182 0 164 (dk_at dksX0_comes_1 7 rfl rfl)
theorem dX0_comes_34 : decode cX0_comes 34 = .ok (.aload_n 0, 1) := dk_42 (dk_at dksX0_comes_1 10 rfl rfl)
theorem dX0_comes_35 : decode cX0_comes 35 = .ok (.getfield 16, 3) := dk_180 0 16 (dk_at dksX0_comes_1 11 rfl rfl)
theorem dX0_comes_38 : decode cX0_comes 38 = .ok (.getfield 134, 3) := dk_180 0 134 (dk_at dksX0_comes_1 14 rfl rfl)
theorem dX0_comes_41 : decode cX0_comes 41 = .ok (.iload_n 1, 1) := dk_27 (dk_at dksX0_comes_1 17 rfl rfl)
theorem dX0_comes_42 : decode cX0_comes 42 = .ok (.iaload, 1) := dk_46 (dk_at dksX0_comes_1 18 rfl rfl)
theorem dX0_comes_43 : decode cX0_comes 43 = .ok (.istore 4, 2) := dk_54 4 (dk_at dksX0_comes_1 19 rfl rfl)
theorem dX0_comes_45 : decode cX0_comes 45 = .ok (.aload_n 0, 1) := dk_42 (dk_at dksX0_comes_1 21 rfl rfl)
theorem dX0_comes_46 : decode cX0_comes 46 = .ok (.getfield 16, 3) := dk_180 0 16 (dk_at dksX0_comes_2 0 rfl rfl)
theorem dX0_comes_49 : decode cX0_comes 49 = .ok (.getfield 134, 3) := dk_180 0 134 (dk_at dksX0_comes_2 3 rfl rfl)
theorem dX0_comes_52 : decode cX0_comes 52 = .ok (.iload_n 1, 1) := dk_27 (dk_at dksX0_comes_2 6 rfl rfl)
theorem dX0_comes_53 : decode cX0_comes 53 = .ok (.iload_n 2, 1) := dk_28 (dk_at dksX0_comes_2 7 rfl rfl)
theorem dX0_comes_54 : decode cX0_comes 54 = .ok (.iastore, 1) := dk_79 (dk_at dksX0_comes_2 8 rfl rfl)
theorem dX0_comes_55 : decode cX0_comes 55 = .ok (.iload 4, 2) := dk_21 4 (dk_at dksX0_comes_2 9 rfl rfl)
theorem dX0_comes_57 : decode cX0_comes 57 = .ok (.ireturn, 1) := dk_172 (dk_at dksX0_comes_2 11 rfl rfl)
abbrev cX0_remembers : ByteArray := prog_1_method_23_code
def yX0_remembers : MethodName := ⟨RX0, "remembers", "()V"⟩
def dkwX0_remembers_3 : List UInt8 := [180, 0, 118, 50, 42, 180, 0, 16, 182, 0, 103, 42, 89, 180, 0, 118, 4, 96, 181, 0, 118, 177]
abbrev dktX0_remembers_3 : List UInt8 := dkwX0_remembers_3 ++ []
def dkwX0_remembers_2 : List UInt8 := [180, 0, 118, 4, 100, 181, 0, 118, 42, 180, 0, 32, 42, 180, 0, 118, 43, 83, 42, 180, 0, 32, 42]
abbrev dktX0_remembers_2 : List UInt8 := dkwX0_remembers_2 ++ dktX0_remembers_3
def dkwX0_remembers_1 : List UInt8 := [42, 180, 0, 32, 28, 4, 100, 42, 180, 0, 32, 28, 50, 83, 132, 2, 1, 167, 255, 233, 42, 89]
abbrev dktX0_remembers_1 : List UInt8 := dkwX0_remembers_1 ++ dktX0_remembers_2
def dkwX0_remembers_0 : List UInt8 := [42, 180, 0, 118, 16, 8, 160, 0, 58, 42, 180, 0, 32, 3, 50, 76, 4, 61, 28, 16, 8, 162, 0, 23]
abbrev dktX0_remembers_0 : List UInt8 := dkwX0_remembers_0 ++ dktX0_remembers_1
theorem dksX0_remembers_0 : cX0_remembers.data.toList.drop 0 = dktX0_remembers_0 := by decide +kernel
theorem dksX0_remembers_1 : cX0_remembers.data.toList.drop 24 = dktX0_remembers_1 := dk_seg dksX0_remembers_0 24 rfl rfl
theorem dksX0_remembers_2 : cX0_remembers.data.toList.drop 46 = dktX0_remembers_2 := dk_seg dksX0_remembers_1 22 rfl rfl
theorem dksX0_remembers_3 : cX0_remembers.data.toList.drop 69 = dktX0_remembers_3 := dk_seg dksX0_remembers_2 23 rfl rfl
theorem dX0_remembers_0 : decode cX0_remembers 0 = .ok (.aload_n 0, 1) := dk_42 (dk_at dksX0_remembers_0 0 rfl rfl)
theorem dX0_remembers_1 : decode cX0_remembers 1 = .ok (.getfield 118, 3) := dk_180 0 118 (dk_at dksX0_remembers_0 1 rfl rfl)
theorem dX0_remembers_4 : decode cX0_remembers 4 = .ok (.bipush 8, 2) := dk_16 8 (dk_at dksX0_remembers_0 4 rfl rfl)
theorem dX0_remembers_6 : decode cX0_remembers 6 = .ok (.if_icmp .ne 58, 3) := dk_160 0 58 (dk_at dksX0_remembers_0 6 rfl rfl)
theorem dX0_remembers_9 : decode cX0_remembers 9 = .ok (.aload_n 0, 1) := dk_42 (dk_at dksX0_remembers_0 9 rfl rfl)
theorem dX0_remembers_10 : decode cX0_remembers 10 = .ok (.getfield 32, 3) := dk_180 0 32 (dk_at dksX0_remembers_0 10 rfl rfl)
theorem dX0_remembers_13 : decode cX0_remembers 13 = .ok (.iconst 0, 1) := dk_3 (dk_at dksX0_remembers_0 13 rfl rfl)
theorem dX0_remembers_14 : decode cX0_remembers 14 = .ok (.aaload, 1) := dk_50 (dk_at dksX0_remembers_0 14 rfl rfl)
theorem dX0_remembers_15 : decode cX0_remembers 15 = .ok (.astore_n 1, 1) := dk_76 (dk_at dksX0_remembers_0 15 rfl rfl)
theorem dX0_remembers_16 : decode cX0_remembers 16 = .ok (.iconst 1, 1) := dk_4 (dk_at dksX0_remembers_0 16 rfl rfl)
theorem dX0_remembers_17 : decode cX0_remembers 17 = .ok (.istore_n 2, 1) := dk_61 (dk_at dksX0_remembers_0 17 rfl rfl)
theorem dX0_remembers_18 : decode cX0_remembers 18 = .ok (.iload_n 2, 1) := dk_28 (dk_at dksX0_remembers_0 18 rfl rfl)
theorem dX0_remembers_19 : decode cX0_remembers 19 = .ok (.bipush 8, 2) := dk_16 8 (dk_at dksX0_remembers_0 19 rfl rfl)
theorem dX0_remembers_21 : decode cX0_remembers 21 = .ok (.if_icmp .ge 23, 3) := dk_162 0 23 (dk_at dksX0_remembers_0 21 rfl rfl)
theorem dX0_remembers_24 : decode cX0_remembers 24 = .ok (.aload_n 0, 1) := dk_42 (dk_at dksX0_remembers_1 0 rfl rfl)
theorem dX0_remembers_25 : decode cX0_remembers 25 = .ok (.getfield 32, 3) := dk_180 0 32 (dk_at dksX0_remembers_1 1 rfl rfl)
theorem dX0_remembers_28 : decode cX0_remembers 28 = .ok (.iload_n 2, 1) := dk_28 (dk_at dksX0_remembers_1 4 rfl rfl)
theorem dX0_remembers_29 : decode cX0_remembers 29 = .ok (.iconst 1, 1) := dk_4 (dk_at dksX0_remembers_1 5 rfl rfl)
theorem dX0_remembers_30 : decode cX0_remembers 30 = .ok (.isub, 1) := dk_100 (dk_at dksX0_remembers_1 6 rfl rfl)
theorem dX0_remembers_31 : decode cX0_remembers 31 = .ok (.aload_n 0, 1) := dk_42 (dk_at dksX0_remembers_1 7 rfl rfl)
theorem dX0_remembers_32 : decode cX0_remembers 32 = .ok (.getfield 32, 3) := dk_180 0 32 (dk_at dksX0_remembers_1 8 rfl rfl)
theorem dX0_remembers_35 : decode cX0_remembers 35 = .ok (.iload_n 2, 1) := dk_28 (dk_at dksX0_remembers_1 11 rfl rfl)
theorem dX0_remembers_36 : decode cX0_remembers 36 = .ok (.aaload, 1) := dk_50 (dk_at dksX0_remembers_1 12 rfl rfl)
theorem dX0_remembers_37 : decode cX0_remembers 37 = .ok (.aastore, 1) := dk_83 (dk_at dksX0_remembers_1 13 rfl rfl)
theorem dX0_remembers_38 : decode cX0_remembers 38 = .ok (.iinc 2 1, 3) := dk_132 2 1 (dk_at dksX0_remembers_1 14 rfl rfl)
theorem dX0_remembers_41 : decode cX0_remembers 41 = .ok (.goto (-23), 3) := dk_167 255 233 (dk_at dksX0_remembers_1 17 rfl rfl)
theorem dX0_remembers_44 : decode cX0_remembers 44 = .ok (.aload_n 0, 1) := dk_42 (dk_at dksX0_remembers_1 20 rfl rfl)
theorem dX0_remembers_45 : decode cX0_remembers 45 = .ok (.dup, 1) := dk_89 (dk_at dksX0_remembers_1 21 rfl rfl)
theorem dX0_remembers_46 : decode cX0_remembers 46 = .ok (.getfield 118, 3) := dk_180 0 118 (dk_at dksX0_remembers_2 0 rfl rfl)
theorem dX0_remembers_49 : decode cX0_remembers 49 = .ok (.iconst 1, 1) := dk_4 (dk_at dksX0_remembers_2 3 rfl rfl)
theorem dX0_remembers_50 : decode cX0_remembers 50 = .ok (.isub, 1) := dk_100 (dk_at dksX0_remembers_2 4 rfl rfl)
theorem dX0_remembers_51 : decode cX0_remembers 51 = .ok (.putfield 118, 3) := dk_181 0 118 (dk_at dksX0_remembers_2 5 rfl rfl)
theorem dX0_remembers_54 : decode cX0_remembers 54 = .ok (.aload_n 0, 1) := dk_42 (dk_at dksX0_remembers_2 8 rfl rfl)
theorem dX0_remembers_55 : decode cX0_remembers 55 = .ok (.getfield 32, 3) := dk_180 0 32 (dk_at dksX0_remembers_2 9 rfl rfl)
theorem dX0_remembers_58 : decode cX0_remembers 58 = .ok (.aload_n 0, 1) := dk_42 (dk_at dksX0_remembers_2 12 rfl rfl)
theorem dX0_remembers_59 : decode cX0_remembers 59 = .ok (.getfield 118, 3) := dk_180 0 118 (dk_at dksX0_remembers_2 13 rfl rfl)
theorem dX0_remembers_62 : decode cX0_remembers 62 = .ok (.aload_n 1, 1) := dk_43 (dk_at dksX0_remembers_2 16 rfl rfl)
theorem dX0_remembers_63 : decode cX0_remembers 63 = .ok (.aastore, 1) := dk_83 (dk_at dksX0_remembers_2 17 rfl rfl)
theorem dX0_remembers_64 : decode cX0_remembers 64 = .ok (.aload_n 0, 1) := dk_42 (dk_at dksX0_remembers_2 18 rfl rfl)
theorem dX0_remembers_65 : decode cX0_remembers 65 = .ok (.getfield 32, 3) := dk_180 0 32 (dk_at dksX0_remembers_2 19 rfl rfl)
theorem dX0_remembers_68 : decode cX0_remembers 68 = .ok (.aload_n 0, 1) := dk_42 (dk_at dksX0_remembers_2 22 rfl rfl)
theorem dX0_remembers_69 : decode cX0_remembers 69 = .ok (.getfield 118, 3) := dk_180 0 118 (dk_at dksX0_remembers_3 0 rfl rfl)
theorem dX0_remembers_72 : decode cX0_remembers 72 = .ok (.aaload, 1) := dk_50 (dk_at dksX0_remembers_3 3 rfl rfl)
theorem dX0_remembers_73 : decode cX0_remembers 73 = .ok (.aload_n 0, 1) := dk_42 (dk_at dksX0_remembers_3 4 rfl rfl)
theorem dX0_remembers_74 : decode cX0_remembers 74 = .ok (.getfield 16, 3) := dk_180 0 16 (dk_at dksX0_remembers_3 5 rfl rfl)
theorem dX0_remembers_77 : decode cX0_remembers 77 = .ok (.invokevirtual 103, 3) := dk_182 0 103 (dk_at dksX0_remembers_3 8 rfl rfl)
theorem dX0_remembers_80 : decode cX0_remembers 80 = .ok (.aload_n 0, 1) := dk_42 (dk_at dksX0_remembers_3 11 rfl rfl)
theorem dX0_remembers_81 : decode cX0_remembers 81 = .ok (.dup, 1) := dk_89 (dk_at dksX0_remembers_3 12 rfl rfl)
theorem dX0_remembers_82 : decode cX0_remembers 82 = .ok (.getfield 118, 3) := dk_180 0 118 (dk_at dksX0_remembers_3 13 rfl rfl)
theorem dX0_remembers_85 : decode cX0_remembers 85 = .ok (.iconst 1, 1) := dk_4 (dk_at dksX0_remembers_3 16 rfl rfl)
theorem dX0_remembers_86 : decode cX0_remembers 86 = .ok (.iadd, 1) := dk_96 (dk_at dksX0_remembers_3 17 rfl rfl)
theorem dX0_remembers_87 : decode cX0_remembers 87 = .ok (.putfield 118, 3) := dk_181 0 118 (dk_at dksX0_remembers_3 18 rfl rfl)
theorem dX0_remembers_90 : decode cX0_remembers 90 = .ok (.return_, 1) := dk_177 (dk_at dksX0_remembers_3 21 rfl rfl)
abbrev cX0_quarrels : ByteArray := prog_1_method_20_code
def yX0_quarrels : MethodName := ⟨RX0, "quarrels", "(III)I"⟩
def dkwX0_quarrels_2 : List UInt8 := [54, 5, 42, 180, 0, 16, 27, 28, 29, 182, 0, 167, 21, 5, 172]
abbrev dktX0_quarrels_2 : List UInt8 := dkwX0_quarrels_2 ++ []
def dkwX0_quarrels_1 : List UInt8 := [153, 0, 10, 42, 21, 4, 182, 0, 48, 172, 42, 182, 0, 164, 42, 180, 0, 16, 27, 28, 182, 0, 149]
abbrev dktX0_quarrels_1 : List UInt8 := dkwX0_quarrels_1 ++ dktX0_quarrels_2
def dkwX0_quarrels_0 : List UInt8 := [42, 27, 28, 182, 0, 146, 153, 0, 13, 29, 3, 16, 99, 184, 0, 86, 167, 0, 4, 2, 54, 4, 21, 4]
abbrev dktX0_quarrels_0 : List UInt8 := dkwX0_quarrels_0 ++ dktX0_quarrels_1
theorem dksX0_quarrels_0 : cX0_quarrels.data.toList.drop 0 = dktX0_quarrels_0 := by decide +kernel
theorem dksX0_quarrels_1 : cX0_quarrels.data.toList.drop 24 = dktX0_quarrels_1 := dk_seg dksX0_quarrels_0 24 rfl rfl
theorem dksX0_quarrels_2 : cX0_quarrels.data.toList.drop 47 = dktX0_quarrels_2 := dk_seg dksX0_quarrels_1 23 rfl rfl
theorem dX0_quarrels_0 : decode cX0_quarrels 0 = .ok (.aload_n 0, 1) := dk_42 (dk_at dksX0_quarrels_0 0 rfl rfl)
theorem dX0_quarrels_1 : decode cX0_quarrels 1 = .ok (.iload_n 1, 1) := dk_27 (dk_at dksX0_quarrels_0 1 rfl rfl)
theorem dX0_quarrels_2 : decode cX0_quarrels 2 = .ok (.iload_n 2, 1) := dk_28 (dk_at dksX0_quarrels_0 2 rfl rfl)
theorem dX0_quarrels_3 : decode cX0_quarrels 3 = .ok (.invokevirtual 146, 3) := dk_182 0 146 (dk_at dksX0_quarrels_0 3 rfl rfl)
theorem dX0_quarrels_6 : decode cX0_quarrels 6 = .ok (.ifCond .eq 13, 3) := dk_153 0 13 (dk_at dksX0_quarrels_0 6 rfl rfl)
theorem dX0_quarrels_9 : decode cX0_quarrels 9 = .ok (.iload_n 3, 1) := dk_29 (dk_at dksX0_quarrels_0 9 rfl rfl)
theorem dX0_quarrels_10 : decode cX0_quarrels 10 = .ok (.iconst 0, 1) := dk_3 (dk_at dksX0_quarrels_0 10 rfl rfl)
theorem dX0_quarrels_11 : decode cX0_quarrels 11 = .ok (.bipush 99, 2) := dk_16 99 (dk_at dksX0_quarrels_0 11 rfl rfl)
theorem dX0_quarrels_13 : decode cX0_quarrels 13 = .ok (.invokestatic 86, 3) := dk_184 0 86 (dk_at dksX0_quarrels_0 13 rfl rfl)
theorem dX0_quarrels_16 : decode cX0_quarrels 16 = .ok (.goto 4, 3) := dk_167 0 4 (dk_at dksX0_quarrels_0 16 rfl rfl)
theorem dX0_quarrels_19 : decode cX0_quarrels 19 = .ok (.iconst (-1), 1) := dk_2 (dk_at dksX0_quarrels_0 19 rfl rfl)
theorem dX0_quarrels_20 : decode cX0_quarrels 20 = .ok (.istore 4, 2) := dk_54 4 (dk_at dksX0_quarrels_0 20 rfl rfl)
theorem dX0_quarrels_22 : decode cX0_quarrels 22 = .ok (.iload 4, 2) := dk_21 4 (dk_at dksX0_quarrels_0 22 rfl rfl)
theorem dX0_quarrels_24 : decode cX0_quarrels 24 = .ok (.ifCond .eq 10, 3) := dk_153 0 10 (dk_at dksX0_quarrels_1 0 rfl rfl)
theorem dX0_quarrels_27 : decode cX0_quarrels 27 = .ok (.aload_n 0, 1) := dk_42 (dk_at dksX0_quarrels_1 3 rfl rfl)
theorem dX0_quarrels_28 : decode cX0_quarrels 28 = .ok (.iload 4, 2) := dk_21 4 (dk_at dksX0_quarrels_1 4 rfl rfl)
theorem dX0_quarrels_30 : decode cX0_quarrels 30 = .ok (.invokevirtual 48, 3) := dk_182 0 48 (dk_at dksX0_quarrels_1 6 rfl rfl)
theorem dX0_quarrels_33 : decode cX0_quarrels 33 = .ok (.ireturn, 1) := dk_172 (dk_at dksX0_quarrels_1 9 rfl rfl)
theorem dX0_quarrels_34 : decode cX0_quarrels 34 = .ok (.aload_n 0, 1) := dk_42 (dk_at dksX0_quarrels_1 10 rfl rfl)
theorem dX0_quarrels_35 : decode cX0_quarrels 35 = .ok (.invokevirtual 164, 3) := dk_182 0 164 (dk_at dksX0_quarrels_1 11 rfl rfl)
theorem dX0_quarrels_38 : decode cX0_quarrels 38 = .ok (.aload_n 0, 1) := dk_42 (dk_at dksX0_quarrels_1 14 rfl rfl)
theorem dX0_quarrels_39 : decode cX0_quarrels 39 = .ok (.getfield 16, 3) := dk_180 0 16 (dk_at dksX0_quarrels_1 15 rfl rfl)
theorem dX0_quarrels_42 : decode cX0_quarrels 42 = .ok (.iload_n 1, 1) := dk_27 (dk_at dksX0_quarrels_1 18 rfl rfl)
theorem dX0_quarrels_43 : decode cX0_quarrels 43 = .ok (.iload_n 2, 1) := dk_28 (dk_at dksX0_quarrels_1 19 rfl rfl)
theorem dX0_quarrels_44 : decode cX0_quarrels 44 = .ok (.invokevirtual 149, 3) := dk_182 0 149 (dk_at dksX0_quarrels_1 20 rfl rfl)
theorem dX0_quarrels_47 : decode cX0_quarrels 47 = .ok (.istore 5, 2) := dk_54 5 (dk_at dksX0_quarrels_2 0 rfl rfl)
theorem dX0_quarrels_49 : decode cX0_quarrels 49 = .ok (.aload_n 0, 1) := dk_42 (dk_at dksX0_quarrels_2 2 rfl rfl)
theorem dX0_quarrels_50 : decode cX0_quarrels 50 = .ok (.getfield 16, 3) := dk_180 0 16 (dk_at dksX0_quarrels_2 3 rfl rfl)
theorem dX0_quarrels_53 : decode cX0_quarrels 53 = .ok (.iload_n 1, 1) := dk_27 (dk_at dksX0_quarrels_2 6 rfl rfl)
theorem dX0_quarrels_54 : decode cX0_quarrels 54 = .ok (.iload_n 2, 1) := dk_28 (dk_at dksX0_quarrels_2 7 rfl rfl)
theorem dX0_quarrels_55 : decode cX0_quarrels 55 = .ok (.iload_n 3, 1) := dk_29 (dk_at dksX0_quarrels_2 8 rfl rfl)
theorem dX0_quarrels_56 : decode cX0_quarrels 56 = .ok (.invokevirtual 167, 3) := dk_182 0 167 (dk_at dksX0_quarrels_2 9 rfl rfl)
theorem dX0_quarrels_59 : decode cX0_quarrels 59 = .ok (.iload 5, 2) := dk_21 5 (dk_at dksX0_quarrels_2 12 rfl rfl)
theorem dX0_quarrels_61 : decode cX0_quarrels 61 = .ok (.ireturn, 1) := dk_172 (dk_at dksX0_quarrels_2 14 rfl rfl)
abbrev cX0_joins : ByteArray := prog_1_method_21_code
def yX0_joins : MethodName := ⟨RX0, "joins", "(II)I"⟩
def dkwX0_joins_1 : List UInt8 := [28, 184, 0, 171, 42, 180, 0, 16, 182, 0, 175, 172]
abbrev dktX0_joins_1 : List UInt8 := dkwX0_joins_1 ++ []
def dkwX0_joins_0 : List UInt8 := [42, 27, 28, 182, 0, 146, 154, 0, 9, 42, 2, 182, 0, 48, 172, 42, 182, 0, 164, 42, 180, 0, 16, 27]
abbrev dktX0_joins_0 : List UInt8 := dkwX0_joins_0 ++ dktX0_joins_1
theorem dksX0_joins_0 : cX0_joins.data.toList.drop 0 = dktX0_joins_0 := by decide +kernel
theorem dksX0_joins_1 : cX0_joins.data.toList.drop 24 = dktX0_joins_1 := dk_seg dksX0_joins_0 24 rfl rfl
theorem dX0_joins_0 : decode cX0_joins 0 = .ok (.aload_n 0, 1) := dk_42 (dk_at dksX0_joins_0 0 rfl rfl)
theorem dX0_joins_1 : decode cX0_joins 1 = .ok (.iload_n 1, 1) := dk_27 (dk_at dksX0_joins_0 1 rfl rfl)
theorem dX0_joins_2 : decode cX0_joins 2 = .ok (.iload_n 2, 1) := dk_28 (dk_at dksX0_joins_0 2 rfl rfl)
theorem dX0_joins_3 : decode cX0_joins 3 = .ok (.invokevirtual 146, 3) := dk_182 0 146 (dk_at dksX0_joins_0 3 rfl rfl)
theorem dX0_joins_6 : decode cX0_joins 6 = .ok (.ifCond .ne 9, 3) := dk_154 0 9 (dk_at dksX0_joins_0 6 rfl rfl)
theorem dX0_joins_9 : decode cX0_joins 9 = .ok (.aload_n 0, 1) := dk_42 (dk_at dksX0_joins_0 9 rfl rfl)
theorem dX0_joins_10 : decode cX0_joins 10 = .ok (.iconst (-1), 1) := dk_2 (dk_at dksX0_joins_0 10 rfl rfl)
theorem dX0_joins_11 : decode cX0_joins 11 = .ok (.invokevirtual 48, 3) := dk_182 0 48 (dk_at dksX0_joins_0 11 rfl rfl)
theorem dX0_joins_14 : decode cX0_joins 14 = .ok (.ireturn, 1) := dk_172 (dk_at dksX0_joins_0 14 rfl rfl)
theorem dX0_joins_15 : decode cX0_joins 15 = .ok (.aload_n 0, 1) := dk_42 (dk_at dksX0_joins_0 15 rfl rfl)
theorem dX0_joins_16 : decode cX0_joins 16 = .ok (.invokevirtual 164, 3) := dk_182 0 164 (dk_at dksX0_joins_0 16 rfl rfl)
theorem dX0_joins_19 : decode cX0_joins 19 = .ok (.aload_n 0, 1) := dk_42 (dk_at dksX0_joins_0 19 rfl rfl)
theorem dX0_joins_20 : decode cX0_joins 20 = .ok (.getfield 16, 3) := dk_180 0 16 (dk_at dksX0_joins_0 20 rfl rfl)
theorem dX0_joins_23 : decode cX0_joins 23 = .ok (.iload_n 1, 1) := dk_27 (dk_at dksX0_joins_0 23 rfl rfl)
theorem dX0_joins_24 : decode cX0_joins 24 = .ok (.iload_n 2, 1) := dk_28 (dk_at dksX0_joins_1 0 rfl rfl)
theorem dX0_joins_25 : decode cX0_joins 25 = .ok (.invokestatic 171, 3) := dk_184 0 171 (dk_at dksX0_joins_1 1 rfl rfl)
theorem dX0_joins_28 : decode cX0_joins 28 = .ok (.aload_n 0, 1) := dk_42 (dk_at dksX0_joins_1 4 rfl rfl)
theorem dX0_joins_29 : decode cX0_joins 29 = .ok (.getfield 16, 3) := dk_180 0 16 (dk_at dksX0_joins_1 5 rfl rfl)
theorem dX0_joins_32 : decode cX0_joins 32 = .ok (.invokevirtual 175, 3) := dk_182 0 175 (dk_at dksX0_joins_1 8 rfl rfl)
theorem dX0_joins_35 : decode cX0_joins 35 = .ok (.ireturn, 1) := dk_172 (dk_at dksX0_joins_1 11 rfl rfl)
abbrev cX0_days : ByteArray := prog_1_method_22_code
def yX0_days : MethodName := ⟨RX0, "days", "(I)I"⟩
def dkwX0_days_2 : List UInt8 := [27, 182, 0, 181, 42, 180, 0, 16, 182, 0, 184, 172]
abbrev dktX0_days_2 : List UInt8 := dkwX0_days_2 ++ []
def dkwX0_days_1 : List UInt8 := [164, 0, 6, 16, 250, 61, 28, 153, 0, 9, 42, 28, 182, 0, 48, 172, 42, 182, 0, 164, 42, 180, 0, 16]
abbrev dktX0_days_1 : List UInt8 := dkwX0_days_1 ++ dktX0_days_2
def dkwX0_days_0 : List UInt8 := [27, 4, 16, 60, 184, 0, 86, 61, 28, 154, 0, 21, 42, 180, 0, 16, 180, 0, 178, 27, 96, 17, 3, 231]
abbrev dktX0_days_0 : List UInt8 := dkwX0_days_0 ++ dktX0_days_1
theorem dksX0_days_0 : cX0_days.data.toList.drop 0 = dktX0_days_0 := by decide +kernel
theorem dksX0_days_1 : cX0_days.data.toList.drop 24 = dktX0_days_1 := dk_seg dksX0_days_0 24 rfl rfl
theorem dksX0_days_2 : cX0_days.data.toList.drop 48 = dktX0_days_2 := dk_seg dksX0_days_1 24 rfl rfl
theorem dX0_days_0 : decode cX0_days 0 = .ok (.iload_n 1, 1) := dk_27 (dk_at dksX0_days_0 0 rfl rfl)
theorem dX0_days_1 : decode cX0_days 1 = .ok (.iconst 1, 1) := dk_4 (dk_at dksX0_days_0 1 rfl rfl)
theorem dX0_days_2 : decode cX0_days 2 = .ok (.bipush 60, 2) := dk_16 60 (dk_at dksX0_days_0 2 rfl rfl)
theorem dX0_days_4 : decode cX0_days 4 = .ok (.invokestatic 86, 3) := dk_184 0 86 (dk_at dksX0_days_0 4 rfl rfl)
theorem dX0_days_7 : decode cX0_days 7 = .ok (.istore_n 2, 1) := dk_61 (dk_at dksX0_days_0 7 rfl rfl)
theorem dX0_days_8 : decode cX0_days 8 = .ok (.iload_n 2, 1) := dk_28 (dk_at dksX0_days_0 8 rfl rfl)
theorem dX0_days_9 : decode cX0_days 9 = .ok (.ifCond .ne 21, 3) := dk_154 0 21 (dk_at dksX0_days_0 9 rfl rfl)
theorem dX0_days_12 : decode cX0_days 12 = .ok (.aload_n 0, 1) := dk_42 (dk_at dksX0_days_0 12 rfl rfl)
theorem dX0_days_13 : decode cX0_days 13 = .ok (.getfield 16, 3) := dk_180 0 16 (dk_at dksX0_days_0 13 rfl rfl)
theorem dX0_days_16 : decode cX0_days 16 = .ok (.getfield 178, 3) := dk_180 0 178 (dk_at dksX0_days_0 16 rfl rfl)
theorem dX0_days_19 : decode cX0_days 19 = .ok (.iload_n 1, 1) := dk_27 (dk_at dksX0_days_0 19 rfl rfl)
theorem dX0_days_20 : decode cX0_days 20 = .ok (.iadd, 1) := dk_96 (dk_at dksX0_days_0 20 rfl rfl)
theorem dX0_days_21 : decode cX0_days 21 = .ok (.sipush 999, 3) := dk_17 3 231 (dk_at dksX0_days_0 21 rfl rfl)
theorem dX0_days_24 : decode cX0_days 24 = .ok (.if_icmp .le 6, 3) := dk_164 0 6 (dk_at dksX0_days_1 0 rfl rfl)
theorem dX0_days_27 : decode cX0_days 27 = .ok (.bipush (-6), 2) := dk_16 250 (dk_at dksX0_days_1 3 rfl rfl)
theorem dX0_days_29 : decode cX0_days 29 = .ok (.istore_n 2, 1) := dk_61 (dk_at dksX0_days_1 5 rfl rfl)
theorem dX0_days_30 : decode cX0_days 30 = .ok (.iload_n 2, 1) := dk_28 (dk_at dksX0_days_1 6 rfl rfl)
theorem dX0_days_31 : decode cX0_days 31 = .ok (.ifCond .eq 9, 3) := dk_153 0 9 (dk_at dksX0_days_1 7 rfl rfl)
theorem dX0_days_34 : decode cX0_days 34 = .ok (.aload_n 0, 1) := dk_42 (dk_at dksX0_days_1 10 rfl rfl)
theorem dX0_days_35 : decode cX0_days 35 = .ok (.iload_n 2, 1) := dk_28 (dk_at dksX0_days_1 11 rfl rfl)
theorem dX0_days_36 : decode cX0_days 36 = .ok (.invokevirtual 48, 3) := dk_182 0 48 (dk_at dksX0_days_1 12 rfl rfl)
theorem dX0_days_39 : decode cX0_days 39 = .ok (.ireturn, 1) := dk_172 (dk_at dksX0_days_1 15 rfl rfl)
theorem dX0_days_40 : decode cX0_days 40 = .ok (.aload_n 0, 1) := dk_42 (dk_at dksX0_days_1 16 rfl rfl)
theorem dX0_days_41 : decode cX0_days 41 = .ok (.invokevirtual 164, 3) := dk_182 0 164 (dk_at dksX0_days_1 17 rfl rfl)
theorem dX0_days_44 : decode cX0_days 44 = .ok (.aload_n 0, 1) := dk_42 (dk_at dksX0_days_1 20 rfl rfl)
theorem dX0_days_45 : decode cX0_days 45 = .ok (.getfield 16, 3) := dk_180 0 16 (dk_at dksX0_days_1 21 rfl rfl)
theorem dX0_days_48 : decode cX0_days 48 = .ok (.iload_n 1, 1) := dk_27 (dk_at dksX0_days_2 0 rfl rfl)
theorem dX0_days_49 : decode cX0_days 49 = .ok (.invokevirtual 181, 3) := dk_182 0 181 (dk_at dksX0_days_2 1 rfl rfl)
theorem dX0_days_52 : decode cX0_days 52 = .ok (.aload_n 0, 1) := dk_42 (dk_at dksX0_days_2 4 rfl rfl)
theorem dX0_days_53 : decode cX0_days 53 = .ok (.getfield 16, 3) := dk_180 0 16 (dk_at dksX0_days_2 5 rfl rfl)
theorem dX0_days_56 : decode cX0_days 56 = .ok (.invokevirtual 184, 3) := dk_182 0 184 (dk_at dksX0_days_2 8 rfl rfl)
theorem dX0_days_59 : decode cX0_days 59 = .ok (.ireturn, 1) := dk_172 (dk_at dksX0_days_2 11 rfl rfl)
abbrev cX0_back : ByteArray := prog_1_method_24_code
def yX0_back : MethodName := ⟨RX0, "back", "()I"⟩
def dkwX0_back_1 : List UInt8 := [42, 180, 0, 16, 42, 180, 0, 32, 42, 180, 0, 118, 50, 182, 0, 103, 42, 180, 0, 118, 172]
abbrev dktX0_back_1 : List UInt8 := dkwX0_back_1 ++ []
def dkwX0_back_0 : List UInt8 := [42, 180, 0, 118, 154, 0, 10, 42, 16, 253, 182, 0, 48, 172, 42, 89, 180, 0, 118, 4, 100, 181, 0, 118]
abbrev dktX0_back_0 : List UInt8 := dkwX0_back_0 ++ dktX0_back_1
theorem dksX0_back_0 : cX0_back.data.toList.drop 0 = dktX0_back_0 := by decide +kernel
theorem dksX0_back_1 : cX0_back.data.toList.drop 24 = dktX0_back_1 := dk_seg dksX0_back_0 24 rfl rfl
theorem dX0_back_0 : decode cX0_back 0 = .ok (.aload_n 0, 1) := dk_42 (dk_at dksX0_back_0 0 rfl rfl)
theorem dX0_back_1 : decode cX0_back 1 = .ok (.getfield 118, 3) := dk_180 0 118 (dk_at dksX0_back_0 1 rfl rfl)
theorem dX0_back_4 : decode cX0_back 4 = .ok (.ifCond .ne 10, 3) := dk_154 0 10 (dk_at dksX0_back_0 4 rfl rfl)
theorem dX0_back_7 : decode cX0_back 7 = .ok (.aload_n 0, 1) := dk_42 (dk_at dksX0_back_0 7 rfl rfl)
theorem dX0_back_8 : decode cX0_back 8 = .ok (.bipush (-3), 2) := dk_16 253 (dk_at dksX0_back_0 8 rfl rfl)
theorem dX0_back_10 : decode cX0_back 10 = .ok (.invokevirtual 48, 3) := dk_182 0 48 (dk_at dksX0_back_0 10 rfl rfl)
theorem dX0_back_13 : decode cX0_back 13 = .ok (.ireturn, 1) := dk_172 (dk_at dksX0_back_0 13 rfl rfl)
theorem dX0_back_14 : decode cX0_back 14 = .ok (.aload_n 0, 1) := dk_42 (dk_at dksX0_back_0 14 rfl rfl)
theorem dX0_back_15 : decode cX0_back 15 = .ok (.dup, 1) := dk_89 (dk_at dksX0_back_0 15 rfl rfl)
theorem dX0_back_16 : decode cX0_back 16 = .ok (.getfield 118, 3) := dk_180 0 118 (dk_at dksX0_back_0 16 rfl rfl)
theorem dX0_back_19 : decode cX0_back 19 = .ok (.iconst 1, 1) := dk_4 (dk_at dksX0_back_0 19 rfl rfl)
theorem dX0_back_20 : decode cX0_back 20 = .ok (.isub, 1) := dk_100 (dk_at dksX0_back_0 20 rfl rfl)
theorem dX0_back_21 : decode cX0_back 21 = .ok (.putfield 118, 3) := dk_181 0 118 (dk_at dksX0_back_0 21 rfl rfl)
theorem dX0_back_24 : decode cX0_back 24 = .ok (.aload_n 0, 1) := dk_42 (dk_at dksX0_back_1 0 rfl rfl)
theorem dX0_back_25 : decode cX0_back 25 = .ok (.getfield 16, 3) := dk_180 0 16 (dk_at dksX0_back_1 1 rfl rfl)
theorem dX0_back_28 : decode cX0_back 28 = .ok (.aload_n 0, 1) := dk_42 (dk_at dksX0_back_1 4 rfl rfl)
theorem dX0_back_29 : decode cX0_back 29 = .ok (.getfield 32, 3) := dk_180 0 32 (dk_at dksX0_back_1 5 rfl rfl)
theorem dX0_back_32 : decode cX0_back 32 = .ok (.aload_n 0, 1) := dk_42 (dk_at dksX0_back_1 8 rfl rfl)
theorem dX0_back_33 : decode cX0_back 33 = .ok (.getfield 118, 3) := dk_180 0 118 (dk_at dksX0_back_1 9 rfl rfl)
theorem dX0_back_36 : decode cX0_back 36 = .ok (.aaload, 1) := dk_50 (dk_at dksX0_back_1 12 rfl rfl)
theorem dX0_back_37 : decode cX0_back 37 = .ok (.invokevirtual 103, 3) := dk_182 0 103 (dk_at dksX0_back_1 13 rfl rfl)
theorem dX0_back_40 : decode cX0_back 40 = .ok (.aload_n 0, 1) := dk_42 (dk_at dksX0_back_1 16 rfl rfl)
theorem dX0_back_41 : decode cX0_back 41 = .ok (.getfield 118, 3) := dk_180 0 118 (dk_at dksX0_back_1 17 rfl rfl)
theorem dX0_back_44 : decode cX0_back 44 = .ok (.ireturn, 1) := dk_172 (dk_at dksX0_back_1 20 rfl rfl)
abbrev cX0_behind : ByteArray := prog_1_method_27_code
def yX0_behind : MethodName := ⟨RX0, "behind", "(III)I"⟩
def dkwX0_behind_1 : List UInt8 := [42, 21, 4, 182, 0, 48, 172, 42, 29, 182, 0, 188, 42, 180, 0, 20, 27, 28, 182, 0, 149, 172]
abbrev dktX0_behind_1 : List UInt8 := dkwX0_behind_1 ++ []
def dkwX0_behind_0 : List UInt8 := [42, 27, 28, 182, 0, 146, 153, 0, 10, 29, 184, 0, 185, 167, 0, 4, 2, 54, 4, 21, 4, 153, 0, 10]
abbrev dktX0_behind_0 : List UInt8 := dkwX0_behind_0 ++ dktX0_behind_1
theorem dksX0_behind_0 : cX0_behind.data.toList.drop 0 = dktX0_behind_0 := by decide +kernel
theorem dksX0_behind_1 : cX0_behind.data.toList.drop 24 = dktX0_behind_1 := dk_seg dksX0_behind_0 24 rfl rfl
theorem dX0_behind_0 : decode cX0_behind 0 = .ok (.aload_n 0, 1) := dk_42 (dk_at dksX0_behind_0 0 rfl rfl)
theorem dX0_behind_1 : decode cX0_behind 1 = .ok (.iload_n 1, 1) := dk_27 (dk_at dksX0_behind_0 1 rfl rfl)
theorem dX0_behind_2 : decode cX0_behind 2 = .ok (.iload_n 2, 1) := dk_28 (dk_at dksX0_behind_0 2 rfl rfl)
theorem dX0_behind_3 : decode cX0_behind 3 = .ok (.invokevirtual 146, 3) := dk_182 0 146 (dk_at dksX0_behind_0 3 rfl rfl)
theorem dX0_behind_6 : decode cX0_behind 6 = .ok (.ifCond .eq 10, 3) := dk_153 0 10 (dk_at dksX0_behind_0 6 rfl rfl)
theorem dX0_behind_9 : decode cX0_behind 9 = .ok (.iload_n 3, 1) := dk_29 (dk_at dksX0_behind_0 9 rfl rfl)
theorem dX0_behind_10 : decode cX0_behind 10 = .ok (.invokestatic 185, 3) := dk_184 0 185 (dk_at dksX0_behind_0 10 rfl rfl)
theorem dX0_behind_13 : decode cX0_behind 13 = .ok (.goto 4, 3) := dk_167 0 4 (dk_at dksX0_behind_0 13 rfl rfl)
theorem dX0_behind_16 : decode cX0_behind 16 = .ok (.iconst (-1), 1) := dk_2 (dk_at dksX0_behind_0 16 rfl rfl)
theorem dX0_behind_17 : decode cX0_behind 17 = .ok (.istore 4, 2) := dk_54 4 (dk_at dksX0_behind_0 17 rfl rfl)
theorem dX0_behind_19 : decode cX0_behind 19 = .ok (.iload 4, 2) := dk_21 4 (dk_at dksX0_behind_0 19 rfl rfl)
theorem dX0_behind_21 : decode cX0_behind 21 = .ok (.ifCond .eq 10, 3) := dk_153 0 10 (dk_at dksX0_behind_0 21 rfl rfl)
theorem dX0_behind_24 : decode cX0_behind 24 = .ok (.aload_n 0, 1) := dk_42 (dk_at dksX0_behind_1 0 rfl rfl)
theorem dX0_behind_25 : decode cX0_behind 25 = .ok (.iload 4, 2) := dk_21 4 (dk_at dksX0_behind_1 1 rfl rfl)
theorem dX0_behind_27 : decode cX0_behind 27 = .ok (.invokevirtual 48, 3) := dk_182 0 48 (dk_at dksX0_behind_1 3 rfl rfl)
theorem dX0_behind_30 : decode cX0_behind 30 = .ok (.ireturn, 1) := dk_172 (dk_at dksX0_behind_1 6 rfl rfl)
theorem dX0_behind_31 : decode cX0_behind 31 = .ok (.aload_n 0, 1) := dk_42 (dk_at dksX0_behind_1 7 rfl rfl)
theorem dX0_behind_32 : decode cX0_behind 32 = .ok (.iload_n 3, 1) := dk_29 (dk_at dksX0_behind_1 8 rfl rfl)
theorem dX0_behind_33 : decode cX0_behind 33 = .ok (.invokevirtual 188, 3) := dk_182 0 188 (dk_at dksX0_behind_1 9 rfl rfl)
theorem dX0_behind_36 : decode cX0_behind 36 = .ok (.aload_n 0, 1) := dk_42 (dk_at dksX0_behind_1 12 rfl rfl)
theorem dX0_behind_37 : decode cX0_behind 37 = .ok (.getfield 20, 3) := dk_180 0 20 (dk_at dksX0_behind_1 13 rfl rfl)
theorem dX0_behind_40 : decode cX0_behind 40 = .ok (.iload_n 1, 1) := dk_27 (dk_at dksX0_behind_1 16 rfl rfl)
theorem dX0_behind_41 : decode cX0_behind 41 = .ok (.iload_n 2, 1) := dk_28 (dk_at dksX0_behind_1 17 rfl rfl)
theorem dX0_behind_42 : decode cX0_behind 42 = .ok (.invokevirtual 149, 3) := dk_182 0 149 (dk_at dksX0_behind_1 18 rfl rfl)
theorem dX0_behind_45 : decode cX0_behind 45 = .ok (.ireturn, 1) := dk_172 (dk_at dksX0_behind_1 21 rfl rfl)
abbrev cX0_wrongDays : ByteArray := prog_1_method_25_code
def yX0_wrongDays : MethodName := ⟨RX0, "wrongDays", "(I)I"⟩
def dkwX0_wrongDays_0 : List UInt8 := [26, 3, 16, 99, 184, 0, 86, 172]
abbrev dktX0_wrongDays_0 : List UInt8 := dkwX0_wrongDays_0 ++ []
theorem dksX0_wrongDays_0 : cX0_wrongDays.data.toList.drop 0 = dktX0_wrongDays_0 := by decide +kernel
theorem dX0_wrongDays_0 : decode cX0_wrongDays 0 = .ok (.iload_n 0, 1) := dk_26 (dk_at dksX0_wrongDays_0 0 rfl rfl)
theorem dX0_wrongDays_1 : decode cX0_wrongDays 1 = .ok (.iconst 0, 1) := dk_3 (dk_at dksX0_wrongDays_0 1 rfl rfl)
theorem dX0_wrongDays_2 : decode cX0_wrongDays 2 = .ok (.bipush 99, 2) := dk_16 99 (dk_at dksX0_wrongDays_0 2 rfl rfl)
theorem dX0_wrongDays_4 : decode cX0_wrongDays 4 = .ok (.invokestatic 86, 3) := dk_184 0 86 (dk_at dksX0_wrongDays_0 4 rfl rfl)
theorem dX0_wrongDays_7 : decode cX0_wrongDays 7 = .ok (.ireturn, 1) := dk_172 (dk_at dksX0_wrongDays_0 7 rfl rfl)
abbrev cX0_goesOn : ByteArray := prog_1_method_26_code
def yX0_goesOn : MethodName := ⟨RX0, "goesOn", "(I)V"⟩
def dkwX0_goesOn_0 : List UInt8 := [42, 180, 0, 20, 42, 180, 0, 16, 182, 0, 103, 42, 180, 0, 20, 27, 182, 0, 181, 177]
abbrev dktX0_goesOn_0 : List UInt8 := dkwX0_goesOn_0 ++ []
theorem dksX0_goesOn_0 : cX0_goesOn.data.toList.drop 0 = dktX0_goesOn_0 := by decide +kernel
theorem dX0_goesOn_0 : decode cX0_goesOn 0 = .ok (.aload_n 0, 1) := dk_42 (dk_at dksX0_goesOn_0 0 rfl rfl)
theorem dX0_goesOn_1 : decode cX0_goesOn 1 = .ok (.getfield 20, 3) := dk_180 0 20 (dk_at dksX0_goesOn_0 1 rfl rfl)
theorem dX0_goesOn_4 : decode cX0_goesOn 4 = .ok (.aload_n 0, 1) := dk_42 (dk_at dksX0_goesOn_0 4 rfl rfl)
theorem dX0_goesOn_5 : decode cX0_goesOn 5 = .ok (.getfield 16, 3) := dk_180 0 16 (dk_at dksX0_goesOn_0 5 rfl rfl)
theorem dX0_goesOn_8 : decode cX0_goesOn 8 = .ok (.invokevirtual 103, 3) := dk_182 0 103 (dk_at dksX0_goesOn_0 8 rfl rfl)
theorem dX0_goesOn_11 : decode cX0_goesOn 11 = .ok (.aload_n 0, 1) := dk_42 (dk_at dksX0_goesOn_0 11 rfl rfl)
theorem dX0_goesOn_12 : decode cX0_goesOn 12 = .ok (.getfield 20, 3) := dk_180 0 20 (dk_at dksX0_goesOn_0 12 rfl rfl)
theorem dX0_goesOn_15 : decode cX0_goesOn 15 = .ok (.iload_n 1, 1) := dk_27 (dk_at dksX0_goesOn_0 15 rfl rfl)
theorem dX0_goesOn_16 : decode cX0_goesOn 16 = .ok (.invokevirtual 181, 3) := dk_182 0 181 (dk_at dksX0_goesOn_0 16 rfl rfl)
theorem dX0_goesOn_19 : decode cX0_goesOn 19 = .ok (.return_, 1) := dk_177 (dk_at dksX0_goesOn_0 19 rfl rfl)
abbrev cX0_all : ByteArray := prog_1_method_29_code
def yX0_all : MethodName := ⟨RX0, "all", "(II)I"⟩
def dkwX0_all_3 : List UInt8 := [184, 0, 192, 172]
abbrev dktX0_all_3 : List UInt8 := dkwX0_all_3 ++ []
def dkwX0_all_2 : List UInt8 := [167, 0, 25, 28, 4, 160, 0, 13, 42, 180, 0, 20, 182, 0, 189, 167, 0, 10, 42, 180, 0, 20]
abbrev dktX0_all_2 : List UInt8 := dkwX0_all_2 ++ dktX0_all_3
def dkwX0_all_1 : List UInt8 := [42, 29, 182, 0, 48, 172, 42, 27, 182, 0, 188, 28, 154, 0, 13, 42, 180, 0, 20, 182, 0, 184]
abbrev dktX0_all_1 : List UInt8 := dkwX0_all_1 ++ dktX0_all_2
def dkwX0_all_0 : List UInt8 := [27, 184, 0, 185, 62, 29, 154, 0, 14, 28, 6, 184, 0, 78, 154, 0, 6, 16, 254, 62, 29, 153, 0, 9]
abbrev dktX0_all_0 : List UInt8 := dkwX0_all_0 ++ dktX0_all_1
theorem dksX0_all_0 : cX0_all.data.toList.drop 0 = dktX0_all_0 := by decide +kernel
theorem dksX0_all_1 : cX0_all.data.toList.drop 24 = dktX0_all_1 := dk_seg dksX0_all_0 24 rfl rfl
theorem dksX0_all_2 : cX0_all.data.toList.drop 46 = dktX0_all_2 := dk_seg dksX0_all_1 22 rfl rfl
theorem dksX0_all_3 : cX0_all.data.toList.drop 68 = dktX0_all_3 := dk_seg dksX0_all_2 22 rfl rfl
theorem dX0_all_0 : decode cX0_all 0 = .ok (.iload_n 1, 1) := dk_27 (dk_at dksX0_all_0 0 rfl rfl)
theorem dX0_all_1 : decode cX0_all 1 = .ok (.invokestatic 185, 3) := dk_184 0 185 (dk_at dksX0_all_0 1 rfl rfl)
theorem dX0_all_4 : decode cX0_all 4 = .ok (.istore_n 3, 1) := dk_62 (dk_at dksX0_all_0 4 rfl rfl)
theorem dX0_all_5 : decode cX0_all 5 = .ok (.iload_n 3, 1) := dk_29 (dk_at dksX0_all_0 5 rfl rfl)
theorem dX0_all_6 : decode cX0_all 6 = .ok (.ifCond .ne 14, 3) := dk_154 0 14 (dk_at dksX0_all_0 6 rfl rfl)
theorem dX0_all_9 : decode cX0_all 9 = .ok (.iload_n 2, 1) := dk_28 (dk_at dksX0_all_0 9 rfl rfl)
theorem dX0_all_10 : decode cX0_all 10 = .ok (.iconst 3, 1) := dk_6 (dk_at dksX0_all_0 10 rfl rfl)
theorem dX0_all_11 : decode cX0_all 11 = .ok (.invokestatic 78, 3) := dk_184 0 78 (dk_at dksX0_all_0 11 rfl rfl)
theorem dX0_all_14 : decode cX0_all 14 = .ok (.ifCond .ne 6, 3) := dk_154 0 6 (dk_at dksX0_all_0 14 rfl rfl)
theorem dX0_all_17 : decode cX0_all 17 = .ok (.bipush (-2), 2) := dk_16 254 (dk_at dksX0_all_0 17 rfl rfl)
theorem dX0_all_19 : decode cX0_all 19 = .ok (.istore_n 3, 1) := dk_62 (dk_at dksX0_all_0 19 rfl rfl)
theorem dX0_all_20 : decode cX0_all 20 = .ok (.iload_n 3, 1) := dk_29 (dk_at dksX0_all_0 20 rfl rfl)
theorem dX0_all_21 : decode cX0_all 21 = .ok (.ifCond .eq 9, 3) := dk_153 0 9 (dk_at dksX0_all_0 21 rfl rfl)
theorem dX0_all_24 : decode cX0_all 24 = .ok (.aload_n 0, 1) := dk_42 (dk_at dksX0_all_1 0 rfl rfl)
theorem dX0_all_25 : decode cX0_all 25 = .ok (.iload_n 3, 1) := dk_29 (dk_at dksX0_all_1 1 rfl rfl)
theorem dX0_all_26 : decode cX0_all 26 = .ok (.invokevirtual 48, 3) := dk_182 0 48 (dk_at dksX0_all_1 2 rfl rfl)
theorem dX0_all_29 : decode cX0_all 29 = .ok (.ireturn, 1) := dk_172 (dk_at dksX0_all_1 5 rfl rfl)
theorem dX0_all_30 : decode cX0_all 30 = .ok (.aload_n 0, 1) := dk_42 (dk_at dksX0_all_1 6 rfl rfl)
theorem dX0_all_31 : decode cX0_all 31 = .ok (.iload_n 1, 1) := dk_27 (dk_at dksX0_all_1 7 rfl rfl)
theorem dX0_all_32 : decode cX0_all 32 = .ok (.invokevirtual 188, 3) := dk_182 0 188 (dk_at dksX0_all_1 8 rfl rfl)
theorem dX0_all_35 : decode cX0_all 35 = .ok (.iload_n 2, 1) := dk_28 (dk_at dksX0_all_1 11 rfl rfl)
theorem dX0_all_36 : decode cX0_all 36 = .ok (.ifCond .ne 13, 3) := dk_154 0 13 (dk_at dksX0_all_1 12 rfl rfl)
theorem dX0_all_39 : decode cX0_all 39 = .ok (.aload_n 0, 1) := dk_42 (dk_at dksX0_all_1 15 rfl rfl)
theorem dX0_all_40 : decode cX0_all 40 = .ok (.getfield 20, 3) := dk_180 0 20 (dk_at dksX0_all_1 16 rfl rfl)
theorem dX0_all_43 : decode cX0_all 43 = .ok (.invokevirtual 184, 3) := dk_182 0 184 (dk_at dksX0_all_1 19 rfl rfl)
theorem dX0_all_46 : decode cX0_all 46 = .ok (.goto 25, 3) := dk_167 0 25 (dk_at dksX0_all_2 0 rfl rfl)
theorem dX0_all_49 : decode cX0_all 49 = .ok (.iload_n 2, 1) := dk_28 (dk_at dksX0_all_2 3 rfl rfl)
theorem dX0_all_50 : decode cX0_all 50 = .ok (.iconst 1, 1) := dk_4 (dk_at dksX0_all_2 4 rfl rfl)
theorem dX0_all_51 : decode cX0_all 51 = .ok (.if_icmp .ne 13, 3) := dk_160 0 13 (dk_at dksX0_all_2 5 rfl rfl)
theorem dX0_all_54 : decode cX0_all 54 = .ok (.aload_n 0, 1) := dk_42 (dk_at dksX0_all_2 8 rfl rfl)
theorem dX0_all_55 : decode cX0_all 55 = .ok (.getfield 20, 3) := dk_180 0 20 (dk_at dksX0_all_2 9 rfl rfl)
theorem dX0_all_58 : decode cX0_all 58 = .ok (.invokevirtual 189, 3) := dk_182 0 189 (dk_at dksX0_all_2 12 rfl rfl)
theorem dX0_all_61 : decode cX0_all 61 = .ok (.goto 10, 3) := dk_167 0 10 (dk_at dksX0_all_2 15 rfl rfl)
theorem dX0_all_64 : decode cX0_all 64 = .ok (.aload_n 0, 1) := dk_42 (dk_at dksX0_all_2 18 rfl rfl)
theorem dX0_all_65 : decode cX0_all 65 = .ok (.getfield 20, 3) := dk_180 0 20 (dk_at dksX0_all_2 19 rfl rfl)
theorem dX0_all_68 : decode cX0_all 68 = .ok (.invokestatic 192, 3) := dk_184 0 192 (dk_at dksX0_all_3 0 rfl rfl)
theorem dX0_all_71 : decode cX0_all 71 = .ok (.ireturn, 1) := dk_172 (dk_at dksX0_all_3 3 rfl rfl)
abbrev cX0_atLaw : ByteArray := prog_1_method_28_code
def yX0_atLaw : MethodName := ⟨RX0, "atLaw", "(LPrayerMatsFace$Quarter;)I"⟩
def dkwX0_atLaw_3 : List UInt8 := [27, 172]
abbrev dktX0_atLaw_3 : List UInt8 := dkwX0_atLaw_3 ++ []
def dkwX0_atLaw_2 : List UInt8 := [21, 4, 96, 60, 42, 29, 21, 4, 182, 0, 149, 61, 132, 4, 1, 167, 255, 214, 132, 3, 1, 167, 255, 195]
abbrev dktX0_atLaw_2 : List UInt8 := dkwX0_atLaw_2 ++ dktX0_atLaw_3
def dkwX0_atLaw_1 : List UInt8 := [182, 0, 74, 162, 0, 39, 42, 29, 21, 4, 182, 0, 149, 28, 163, 0, 6, 167, 0, 19, 16, 10, 29, 104]
abbrev dktX0_atLaw_1 : List UInt8 := dkwX0_atLaw_1 ++ dktX0_atLaw_2
def dkwX0_atLaw_0 : List UInt8 := [16, 247, 60, 2, 61, 3, 62, 29, 42, 182, 0, 74, 162, 0, 59, 29, 4, 96, 54, 4, 21, 4, 42]
abbrev dktX0_atLaw_0 : List UInt8 := dkwX0_atLaw_0 ++ dktX0_atLaw_1
theorem dksX0_atLaw_0 : cX0_atLaw.data.toList.drop 0 = dktX0_atLaw_0 := by decide +kernel
theorem dksX0_atLaw_1 : cX0_atLaw.data.toList.drop 23 = dktX0_atLaw_1 := dk_seg dksX0_atLaw_0 23 rfl rfl
theorem dksX0_atLaw_2 : cX0_atLaw.data.toList.drop 47 = dktX0_atLaw_2 := dk_seg dksX0_atLaw_1 24 rfl rfl
theorem dksX0_atLaw_3 : cX0_atLaw.data.toList.drop 71 = dktX0_atLaw_3 := dk_seg dksX0_atLaw_2 24 rfl rfl
theorem dX0_atLaw_0 : decode cX0_atLaw 0 = .ok (.bipush (-9), 2) := dk_16 247 (dk_at dksX0_atLaw_0 0 rfl rfl)
theorem dX0_atLaw_2 : decode cX0_atLaw 2 = .ok (.istore_n 1, 1) := dk_60 (dk_at dksX0_atLaw_0 2 rfl rfl)
theorem dX0_atLaw_3 : decode cX0_atLaw 3 = .ok (.iconst (-1), 1) := dk_2 (dk_at dksX0_atLaw_0 3 rfl rfl)
theorem dX0_atLaw_4 : decode cX0_atLaw 4 = .ok (.istore_n 2, 1) := dk_61 (dk_at dksX0_atLaw_0 4 rfl rfl)
theorem dX0_atLaw_5 : decode cX0_atLaw 5 = .ok (.iconst 0, 1) := dk_3 (dk_at dksX0_atLaw_0 5 rfl rfl)
theorem dX0_atLaw_6 : decode cX0_atLaw 6 = .ok (.istore_n 3, 1) := dk_62 (dk_at dksX0_atLaw_0 6 rfl rfl)
theorem dX0_atLaw_7 : decode cX0_atLaw 7 = .ok (.iload_n 3, 1) := dk_29 (dk_at dksX0_atLaw_0 7 rfl rfl)
theorem dX0_atLaw_8 : decode cX0_atLaw 8 = .ok (.aload_n 0, 1) := dk_42 (dk_at dksX0_atLaw_0 8 rfl rfl)
theorem dX0_atLaw_9 : decode cX0_atLaw 9 = .ok (.invokevirtual 74, 3) := dk_182 0 74 (dk_at dksX0_atLaw_0 9 rfl rfl)
theorem dX0_atLaw_12 : decode cX0_atLaw 12 = .ok (.if_icmp .ge 59, 3) := dk_162 0 59 (dk_at dksX0_atLaw_0 12 rfl rfl)
theorem dX0_atLaw_15 : decode cX0_atLaw 15 = .ok (.iload_n 3, 1) := dk_29 (dk_at dksX0_atLaw_0 15 rfl rfl)
theorem dX0_atLaw_16 : decode cX0_atLaw 16 = .ok (.iconst 1, 1) := dk_4 (dk_at dksX0_atLaw_0 16 rfl rfl)
theorem dX0_atLaw_17 : decode cX0_atLaw 17 = .ok (.iadd, 1) := dk_96 (dk_at dksX0_atLaw_0 17 rfl rfl)
theorem dX0_atLaw_18 : decode cX0_atLaw 18 = .ok (.istore 4, 2) := dk_54 4 (dk_at dksX0_atLaw_0 18 rfl rfl)
theorem dX0_atLaw_20 : decode cX0_atLaw 20 = .ok (.iload 4, 2) := dk_21 4 (dk_at dksX0_atLaw_0 20 rfl rfl)
theorem dX0_atLaw_22 : decode cX0_atLaw 22 = .ok (.aload_n 0, 1) := dk_42 (dk_at dksX0_atLaw_0 22 rfl rfl)
theorem dX0_atLaw_23 : decode cX0_atLaw 23 = .ok (.invokevirtual 74, 3) := dk_182 0 74 (dk_at dksX0_atLaw_1 0 rfl rfl)
theorem dX0_atLaw_26 : decode cX0_atLaw 26 = .ok (.if_icmp .ge 39, 3) := dk_162 0 39 (dk_at dksX0_atLaw_1 3 rfl rfl)
theorem dX0_atLaw_29 : decode cX0_atLaw 29 = .ok (.aload_n 0, 1) := dk_42 (dk_at dksX0_atLaw_1 6 rfl rfl)
theorem dX0_atLaw_30 : decode cX0_atLaw 30 = .ok (.iload_n 3, 1) := dk_29 (dk_at dksX0_atLaw_1 7 rfl rfl)
theorem dX0_atLaw_31 : decode cX0_atLaw 31 = .ok (.iload 4, 2) := dk_21 4 (dk_at dksX0_atLaw_1 8 rfl rfl)
theorem dX0_atLaw_33 : decode cX0_atLaw 33 = .ok (.invokevirtual 149, 3) := dk_182 0 149 (dk_at dksX0_atLaw_1 10 rfl rfl)
theorem dX0_atLaw_36 : decode cX0_atLaw 36 = .ok (.iload_n 2, 1) := dk_28 (dk_at dksX0_atLaw_1 13 rfl rfl)
theorem dX0_atLaw_37 : decode cX0_atLaw 37 = .ok (.if_icmp .gt 6, 3) := dk_163 0 6 (dk_at dksX0_atLaw_1 14 rfl rfl)
theorem dX0_atLaw_40 : decode cX0_atLaw 40 = .ok (.goto 19, 3) := dk_167 0 19 (dk_at dksX0_atLaw_1 17 rfl rfl)
theorem dX0_atLaw_43 : decode cX0_atLaw 43 = .ok (.bipush 10, 2) := dk_16 10 (dk_at dksX0_atLaw_1 20 rfl rfl)
theorem dX0_atLaw_45 : decode cX0_atLaw 45 = .ok (.iload_n 3, 1) := dk_29 (dk_at dksX0_atLaw_1 22 rfl rfl)
theorem dX0_atLaw_46 : decode cX0_atLaw 46 = .ok (.imul, 1) := dk_104 (dk_at dksX0_atLaw_1 23 rfl rfl)
theorem dX0_atLaw_47 : decode cX0_atLaw 47 = .ok (.iload 4, 2) := dk_21 4 (dk_at dksX0_atLaw_2 0 rfl rfl)
theorem dX0_atLaw_49 : decode cX0_atLaw 49 = .ok (.iadd, 1) := dk_96 (dk_at dksX0_atLaw_2 2 rfl rfl)
theorem dX0_atLaw_50 : decode cX0_atLaw 50 = .ok (.istore_n 1, 1) := dk_60 (dk_at dksX0_atLaw_2 3 rfl rfl)
theorem dX0_atLaw_51 : decode cX0_atLaw 51 = .ok (.aload_n 0, 1) := dk_42 (dk_at dksX0_atLaw_2 4 rfl rfl)
theorem dX0_atLaw_52 : decode cX0_atLaw 52 = .ok (.iload_n 3, 1) := dk_29 (dk_at dksX0_atLaw_2 5 rfl rfl)
theorem dX0_atLaw_53 : decode cX0_atLaw 53 = .ok (.iload 4, 2) := dk_21 4 (dk_at dksX0_atLaw_2 6 rfl rfl)
theorem dX0_atLaw_55 : decode cX0_atLaw 55 = .ok (.invokevirtual 149, 3) := dk_182 0 149 (dk_at dksX0_atLaw_2 8 rfl rfl)
theorem dX0_atLaw_58 : decode cX0_atLaw 58 = .ok (.istore_n 2, 1) := dk_61 (dk_at dksX0_atLaw_2 11 rfl rfl)
theorem dX0_atLaw_59 : decode cX0_atLaw 59 = .ok (.iinc 4 1, 3) := dk_132 4 1 (dk_at dksX0_atLaw_2 12 rfl rfl)
theorem dX0_atLaw_62 : decode cX0_atLaw 62 = .ok (.goto (-42), 3) := dk_167 255 214 (dk_at dksX0_atLaw_2 15 rfl rfl)
theorem dX0_atLaw_65 : decode cX0_atLaw 65 = .ok (.iinc 3 1, 3) := dk_132 3 1 (dk_at dksX0_atLaw_2 18 rfl rfl)
theorem dX0_atLaw_68 : decode cX0_atLaw 68 = .ok (.goto (-61), 3) := dk_167 255 195 (dk_at dksX0_atLaw_2 21 rfl rfl)
theorem dX0_atLaw_71 : decode cX0_atLaw 71 = .ok (.iload_n 1, 1) := dk_27 (dk_at dksX0_atLaw_3 0 rfl rfl)
theorem dX0_atLaw_72 : decode cX0_atLaw 72 = .ok (.ireturn, 1) := dk_172 (dk_at dksX0_atLaw_3 1 rfl rfl)
abbrev cX0_mended : ByteArray := prog_1_method_32_code
def yX0_mended : MethodName := ⟨RX0, "mended", "(II)I"⟩
def dkwX0_mended_1 : List UInt8 := [182, 0, 103, 42, 27, 28, 182, 0, 199, 184, 0, 202, 172]
abbrev dktX0_mended_1 : List UInt8 := dkwX0_mended_1 ++ []
def dkwX0_mended_0 : List UInt8 := [42, 27, 28, 182, 0, 146, 154, 0, 9, 42, 2, 182, 0, 48, 172, 42, 180, 0, 20, 42, 180, 0, 16]
abbrev dktX0_mended_0 : List UInt8 := dkwX0_mended_0 ++ dktX0_mended_1
theorem dksX0_mended_0 : cX0_mended.data.toList.drop 0 = dktX0_mended_0 := by decide +kernel
theorem dksX0_mended_1 : cX0_mended.data.toList.drop 23 = dktX0_mended_1 := dk_seg dksX0_mended_0 23 rfl rfl
theorem dX0_mended_0 : decode cX0_mended 0 = .ok (.aload_n 0, 1) := dk_42 (dk_at dksX0_mended_0 0 rfl rfl)
theorem dX0_mended_1 : decode cX0_mended 1 = .ok (.iload_n 1, 1) := dk_27 (dk_at dksX0_mended_0 1 rfl rfl)
theorem dX0_mended_2 : decode cX0_mended 2 = .ok (.iload_n 2, 1) := dk_28 (dk_at dksX0_mended_0 2 rfl rfl)
theorem dX0_mended_3 : decode cX0_mended 3 = .ok (.invokevirtual 146, 3) := dk_182 0 146 (dk_at dksX0_mended_0 3 rfl rfl)
theorem dX0_mended_6 : decode cX0_mended 6 = .ok (.ifCond .ne 9, 3) := dk_154 0 9 (dk_at dksX0_mended_0 6 rfl rfl)
theorem dX0_mended_9 : decode cX0_mended 9 = .ok (.aload_n 0, 1) := dk_42 (dk_at dksX0_mended_0 9 rfl rfl)
theorem dX0_mended_10 : decode cX0_mended 10 = .ok (.iconst (-1), 1) := dk_2 (dk_at dksX0_mended_0 10 rfl rfl)
theorem dX0_mended_11 : decode cX0_mended 11 = .ok (.invokevirtual 48, 3) := dk_182 0 48 (dk_at dksX0_mended_0 11 rfl rfl)
theorem dX0_mended_14 : decode cX0_mended 14 = .ok (.ireturn, 1) := dk_172 (dk_at dksX0_mended_0 14 rfl rfl)
theorem dX0_mended_15 : decode cX0_mended 15 = .ok (.aload_n 0, 1) := dk_42 (dk_at dksX0_mended_0 15 rfl rfl)
theorem dX0_mended_16 : decode cX0_mended 16 = .ok (.getfield 20, 3) := dk_180 0 20 (dk_at dksX0_mended_0 16 rfl rfl)
theorem dX0_mended_19 : decode cX0_mended 19 = .ok (.aload_n 0, 1) := dk_42 (dk_at dksX0_mended_0 19 rfl rfl)
theorem dX0_mended_20 : decode cX0_mended 20 = .ok (.getfield 16, 3) := dk_180 0 16 (dk_at dksX0_mended_0 20 rfl rfl)
theorem dX0_mended_23 : decode cX0_mended 23 = .ok (.invokevirtual 103, 3) := dk_182 0 103 (dk_at dksX0_mended_1 0 rfl rfl)
theorem dX0_mended_26 : decode cX0_mended 26 = .ok (.aload_n 0, 1) := dk_42 (dk_at dksX0_mended_1 3 rfl rfl)
theorem dX0_mended_27 : decode cX0_mended 27 = .ok (.iload_n 1, 1) := dk_27 (dk_at dksX0_mended_1 4 rfl rfl)
theorem dX0_mended_28 : decode cX0_mended 28 = .ok (.iload_n 2, 1) := dk_28 (dk_at dksX0_mended_1 5 rfl rfl)
theorem dX0_mended_29 : decode cX0_mended 29 = .ok (.invokevirtual 199, 3) := dk_182 0 199 (dk_at dksX0_mended_1 6 rfl rfl)
theorem dX0_mended_32 : decode cX0_mended 32 = .ok (.invokestatic 202, 3) := dk_184 0 202 (dk_at dksX0_mended_1 9 rfl rfl)
theorem dX0_mended_35 : decode cX0_mended 35 = .ok (.ireturn, 1) := dk_172 (dk_at dksX0_mended_1 12 rfl rfl)
abbrev cX0_whenMended : ByteArray := prog_1_method_30_code
def yX0_whenMended : MethodName := ⟨RX0, "whenMended", "(II)I"⟩
def dkwX0_whenMended_1 : List UInt8 := [180, 0, 20, 182, 0, 196, 132, 3, 1, 167, 255, 226, 16, 100, 172]
abbrev dktX0_whenMended_1 : List UInt8 := dkwX0_whenMended_1 ++ []
def dkwX0_whenMended_0 : List UInt8 := [3, 62, 29, 16, 99, 163, 0, 30, 42, 180, 0, 20, 27, 28, 182, 0, 149, 154, 0, 5, 29, 172, 42]
abbrev dktX0_whenMended_0 : List UInt8 := dkwX0_whenMended_0 ++ dktX0_whenMended_1
theorem dksX0_whenMended_0 : cX0_whenMended.data.toList.drop 0 = dktX0_whenMended_0 := by decide +kernel
theorem dksX0_whenMended_1 : cX0_whenMended.data.toList.drop 23 = dktX0_whenMended_1 := dk_seg dksX0_whenMended_0 23 rfl rfl
theorem dX0_whenMended_0 : decode cX0_whenMended 0 = .ok (.iconst 0, 1) := dk_3 (dk_at dksX0_whenMended_0 0 rfl rfl)
theorem dX0_whenMended_1 : decode cX0_whenMended 1 = .ok (.istore_n 3, 1) := dk_62 (dk_at dksX0_whenMended_0 1 rfl rfl)
theorem dX0_whenMended_2 : decode cX0_whenMended 2 = .ok (.iload_n 3, 1) := dk_29 (dk_at dksX0_whenMended_0 2 rfl rfl)
theorem dX0_whenMended_3 : decode cX0_whenMended 3 = .ok (.bipush 99, 2) := dk_16 99 (dk_at dksX0_whenMended_0 3 rfl rfl)
theorem dX0_whenMended_5 : decode cX0_whenMended 5 = .ok (.if_icmp .gt 30, 3) := dk_163 0 30 (dk_at dksX0_whenMended_0 5 rfl rfl)
theorem dX0_whenMended_8 : decode cX0_whenMended 8 = .ok (.aload_n 0, 1) := dk_42 (dk_at dksX0_whenMended_0 8 rfl rfl)
theorem dX0_whenMended_9 : decode cX0_whenMended 9 = .ok (.getfield 20, 3) := dk_180 0 20 (dk_at dksX0_whenMended_0 9 rfl rfl)
theorem dX0_whenMended_12 : decode cX0_whenMended 12 = .ok (.iload_n 1, 1) := dk_27 (dk_at dksX0_whenMended_0 12 rfl rfl)
theorem dX0_whenMended_13 : decode cX0_whenMended 13 = .ok (.iload_n 2, 1) := dk_28 (dk_at dksX0_whenMended_0 13 rfl rfl)
theorem dX0_whenMended_14 : decode cX0_whenMended 14 = .ok (.invokevirtual 149, 3) := dk_182 0 149 (dk_at dksX0_whenMended_0 14 rfl rfl)
theorem dX0_whenMended_17 : decode cX0_whenMended 17 = .ok (.ifCond .ne 5, 3) := dk_154 0 5 (dk_at dksX0_whenMended_0 17 rfl rfl)
theorem dX0_whenMended_20 : decode cX0_whenMended 20 = .ok (.iload_n 3, 1) := dk_29 (dk_at dksX0_whenMended_0 20 rfl rfl)
theorem dX0_whenMended_21 : decode cX0_whenMended 21 = .ok (.ireturn, 1) := dk_172 (dk_at dksX0_whenMended_0 21 rfl rfl)
theorem dX0_whenMended_22 : decode cX0_whenMended 22 = .ok (.aload_n 0, 1) := dk_42 (dk_at dksX0_whenMended_0 22 rfl rfl)
theorem dX0_whenMended_23 : decode cX0_whenMended 23 = .ok (.getfield 20, 3) := dk_180 0 20 (dk_at dksX0_whenMended_1 0 rfl rfl)
theorem dX0_whenMended_26 : decode cX0_whenMended 26 = .ok (.invokevirtual 196, 3) := dk_182 0 196 (dk_at dksX0_whenMended_1 3 rfl rfl)
theorem dX0_whenMended_29 : decode cX0_whenMended 29 = .ok (.iinc 3 1, 3) := dk_132 3 1 (dk_at dksX0_whenMended_1 6 rfl rfl)
theorem dX0_whenMended_32 : decode cX0_whenMended 32 = .ok (.goto (-30), 3) := dk_167 255 226 (dk_at dksX0_whenMended_1 9 rfl rfl)
theorem dX0_whenMended_35 : decode cX0_whenMended 35 = .ok (.bipush 100, 2) := dk_16 100 (dk_at dksX0_whenMended_1 12 rfl rfl)
theorem dX0_whenMended_37 : decode cX0_whenMended 37 = .ok (.ireturn, 1) := dk_172 (dk_at dksX0_whenMended_1 14 rfl rfl)
abbrev cX0_told : ByteArray := prog_1_method_31_code
def yX0_told : MethodName := ⟨RX0, "told", "(I)I"⟩
def dkwX0_told_0 : List UInt8 := [26, 16, 100, 160, 0, 8, 16, 247, 167, 0, 4, 26, 172]
abbrev dktX0_told_0 : List UInt8 := dkwX0_told_0 ++ []
theorem dksX0_told_0 : cX0_told.data.toList.drop 0 = dktX0_told_0 := by decide +kernel
theorem dX0_told_0 : decode cX0_told 0 = .ok (.iload_n 0, 1) := dk_26 (dk_at dksX0_told_0 0 rfl rfl)
theorem dX0_told_1 : decode cX0_told 1 = .ok (.bipush 100, 2) := dk_16 100 (dk_at dksX0_told_0 1 rfl rfl)
theorem dX0_told_3 : decode cX0_told 3 = .ok (.if_icmp .ne 8, 3) := dk_160 0 8 (dk_at dksX0_told_0 3 rfl rfl)
theorem dX0_told_6 : decode cX0_told 6 = .ok (.bipush (-9), 2) := dk_16 247 (dk_at dksX0_told_0 6 rfl rfl)
theorem dX0_told_8 : decode cX0_told 8 = .ok (.goto 4, 3) := dk_167 0 4 (dk_at dksX0_told_0 8 rfl rfl)
theorem dX0_told_11 : decode cX0_told 11 = .ok (.iload_n 0, 1) := dk_26 (dk_at dksX0_told_0 11 rfl rfl)
theorem dX0_told_12 : decode cX0_told 12 = .ok (.ireturn, 1) := dk_172 (dk_at dksX0_told_0 12 rfl rfl)
abbrev cX0_never : ByteArray := prog_1_method_33_code
def yX0_never : MethodName := ⟨RX0, "never", "()I"⟩
def dkwX0_never_2 : List UInt8 := [28, 46, 182, 0, 149, 158, 0, 7, 4, 167, 0, 4, 3, 96, 60, 132, 2, 1, 167, 255, 201, 27, 172]
abbrev dktX0_never_2 : List UInt8 := dkwX0_never_2 ++ []
def dkwX0_never_1 : List UInt8 := [180, 0, 20, 180, 0, 94, 28, 46, 28, 164, 0, 27, 42, 180, 0, 20, 28, 42, 180, 0, 20, 180, 0, 94]
abbrev dktX0_never_1 : List UInt8 := dkwX0_never_1 ++ dktX0_never_2
def dkwX0_never_0 : List UInt8 := [42, 16, 99, 182, 0, 188, 3, 60, 3, 61, 28, 42, 180, 0, 20, 182, 0, 74, 162, 0, 50, 27, 42]
abbrev dktX0_never_0 : List UInt8 := dkwX0_never_0 ++ dktX0_never_1
theorem dksX0_never_0 : cX0_never.data.toList.drop 0 = dktX0_never_0 := by decide +kernel
theorem dksX0_never_1 : cX0_never.data.toList.drop 23 = dktX0_never_1 := dk_seg dksX0_never_0 23 rfl rfl
theorem dksX0_never_2 : cX0_never.data.toList.drop 47 = dktX0_never_2 := dk_seg dksX0_never_1 24 rfl rfl
theorem dX0_never_0 : decode cX0_never 0 = .ok (.aload_n 0, 1) := dk_42 (dk_at dksX0_never_0 0 rfl rfl)
theorem dX0_never_1 : decode cX0_never 1 = .ok (.bipush 99, 2) := dk_16 99 (dk_at dksX0_never_0 1 rfl rfl)
theorem dX0_never_3 : decode cX0_never 3 = .ok (.invokevirtual 188, 3) := dk_182 0 188 (dk_at dksX0_never_0 3 rfl rfl)
theorem dX0_never_6 : decode cX0_never 6 = .ok (.iconst 0, 1) := dk_3 (dk_at dksX0_never_0 6 rfl rfl)
theorem dX0_never_7 : decode cX0_never 7 = .ok (.istore_n 1, 1) := dk_60 (dk_at dksX0_never_0 7 rfl rfl)
theorem dX0_never_8 : decode cX0_never 8 = .ok (.iconst 0, 1) := dk_3 (dk_at dksX0_never_0 8 rfl rfl)
theorem dX0_never_9 : decode cX0_never 9 = .ok (.istore_n 2, 1) := dk_61 (dk_at dksX0_never_0 9 rfl rfl)
theorem dX0_never_10 : decode cX0_never 10 = .ok (.iload_n 2, 1) := dk_28 (dk_at dksX0_never_0 10 rfl rfl)
theorem dX0_never_11 : decode cX0_never 11 = .ok (.aload_n 0, 1) := dk_42 (dk_at dksX0_never_0 11 rfl rfl)
theorem dX0_never_12 : decode cX0_never 12 = .ok (.getfield 20, 3) := dk_180 0 20 (dk_at dksX0_never_0 12 rfl rfl)
theorem dX0_never_15 : decode cX0_never 15 = .ok (.invokevirtual 74, 3) := dk_182 0 74 (dk_at dksX0_never_0 15 rfl rfl)
theorem dX0_never_18 : decode cX0_never 18 = .ok (.if_icmp .ge 50, 3) := dk_162 0 50 (dk_at dksX0_never_0 18 rfl rfl)
theorem dX0_never_21 : decode cX0_never 21 = .ok (.iload_n 1, 1) := dk_27 (dk_at dksX0_never_0 21 rfl rfl)
theorem dX0_never_22 : decode cX0_never 22 = .ok (.aload_n 0, 1) := dk_42 (dk_at dksX0_never_0 22 rfl rfl)
theorem dX0_never_23 : decode cX0_never 23 = .ok (.getfield 20, 3) := dk_180 0 20 (dk_at dksX0_never_1 0 rfl rfl)
theorem dX0_never_26 : decode cX0_never 26 = .ok (.getfield 94, 3) := dk_180 0 94 (dk_at dksX0_never_1 3 rfl rfl)
theorem dX0_never_29 : decode cX0_never 29 = .ok (.iload_n 2, 1) := dk_28 (dk_at dksX0_never_1 6 rfl rfl)
theorem dX0_never_30 : decode cX0_never 30 = .ok (.iaload, 1) := dk_46 (dk_at dksX0_never_1 7 rfl rfl)
theorem dX0_never_31 : decode cX0_never 31 = .ok (.iload_n 2, 1) := dk_28 (dk_at dksX0_never_1 8 rfl rfl)
theorem dX0_never_32 : decode cX0_never 32 = .ok (.if_icmp .le 27, 3) := dk_164 0 27 (dk_at dksX0_never_1 9 rfl rfl)
theorem dX0_never_35 : decode cX0_never 35 = .ok (.aload_n 0, 1) := dk_42 (dk_at dksX0_never_1 12 rfl rfl)
theorem dX0_never_36 : decode cX0_never 36 = .ok (.getfield 20, 3) := dk_180 0 20 (dk_at dksX0_never_1 13 rfl rfl)
theorem dX0_never_39 : decode cX0_never 39 = .ok (.iload_n 2, 1) := dk_28 (dk_at dksX0_never_1 16 rfl rfl)
theorem dX0_never_40 : decode cX0_never 40 = .ok (.aload_n 0, 1) := dk_42 (dk_at dksX0_never_1 17 rfl rfl)
theorem dX0_never_41 : decode cX0_never 41 = .ok (.getfield 20, 3) := dk_180 0 20 (dk_at dksX0_never_1 18 rfl rfl)
theorem dX0_never_44 : decode cX0_never 44 = .ok (.getfield 94, 3) := dk_180 0 94 (dk_at dksX0_never_1 21 rfl rfl)
theorem dX0_never_47 : decode cX0_never 47 = .ok (.iload_n 2, 1) := dk_28 (dk_at dksX0_never_2 0 rfl rfl)
theorem dX0_never_48 : decode cX0_never 48 = .ok (.iaload, 1) := dk_46 (dk_at dksX0_never_2 1 rfl rfl)
theorem dX0_never_49 : decode cX0_never 49 = .ok (.invokevirtual 149, 3) := dk_182 0 149 (dk_at dksX0_never_2 2 rfl rfl)
theorem dX0_never_52 : decode cX0_never 52 = .ok (.ifCond .le 7, 3) := dk_158 0 7 (dk_at dksX0_never_2 5 rfl rfl)
theorem dX0_never_55 : decode cX0_never 55 = .ok (.iconst 1, 1) := dk_4 (dk_at dksX0_never_2 8 rfl rfl)
theorem dX0_never_56 : decode cX0_never 56 = .ok (.goto 4, 3) := dk_167 0 4 (dk_at dksX0_never_2 9 rfl rfl)
theorem dX0_never_59 : decode cX0_never 59 = .ok (.iconst 0, 1) := dk_3 (dk_at dksX0_never_2 12 rfl rfl)
theorem dX0_never_60 : decode cX0_never 60 = .ok (.iadd, 1) := dk_96 (dk_at dksX0_never_2 13 rfl rfl)
theorem dX0_never_61 : decode cX0_never 61 = .ok (.istore_n 1, 1) := dk_60 (dk_at dksX0_never_2 14 rfl rfl)
theorem dX0_never_62 : decode cX0_never 62 = .ok (.iinc 2 1, 3) := dk_132 2 1 (dk_at dksX0_never_2 15 rfl rfl)
theorem dX0_never_65 : decode cX0_never 65 = .ok (.goto (-55), 3) := dk_167 255 201 (dk_at dksX0_never_2 18 rfl rfl)
theorem dX0_never_68 : decode cX0_never 68 = .ok (.iload_n 1, 1) := dk_27 (dk_at dksX0_never_2 21 rfl rfl)
theorem dX0_never_69 : decode cX0_never 69 = .ok (.ireturn, 1) := dk_172 (dk_at dksX0_never_2 22 rfl rfl)
abbrev cX0_turn : ByteArray := prog_1_method_34_code
def yX0_turn : MethodName := ⟨RX0, "turn", "(II)I"⟩
def dkwX0_turn_2 : List UInt8 := [180, 0, 20, 182, 0, 196, 42, 180, 0, 20, 27, 28, 182, 0, 149, 16, 50, 100, 172]
abbrev dktX0_turn_2 : List UInt8 := dkwX0_turn_2 ++ []
def dkwX0_turn_1 : List UInt8 := [182, 0, 103, 42, 180, 0, 20, 27, 28, 182, 0, 100, 42, 180, 0, 20, 27, 28, 16, 50, 182, 0, 167, 42]
abbrev dktX0_turn_1 : List UInt8 := dkwX0_turn_1 ++ dktX0_turn_2
def dkwX0_turn_0 : List UInt8 := [42, 27, 28, 182, 0, 146, 154, 0, 9, 42, 2, 182, 0, 205, 172, 42, 180, 0, 20, 42, 180, 0, 16]
abbrev dktX0_turn_0 : List UInt8 := dkwX0_turn_0 ++ dktX0_turn_1
theorem dksX0_turn_0 : cX0_turn.data.toList.drop 0 = dktX0_turn_0 := by decide +kernel
theorem dksX0_turn_1 : cX0_turn.data.toList.drop 23 = dktX0_turn_1 := dk_seg dksX0_turn_0 23 rfl rfl
theorem dksX0_turn_2 : cX0_turn.data.toList.drop 47 = dktX0_turn_2 := dk_seg dksX0_turn_1 24 rfl rfl
theorem dX0_turn_0 : decode cX0_turn 0 = .ok (.aload_n 0, 1) := dk_42 (dk_at dksX0_turn_0 0 rfl rfl)
theorem dX0_turn_1 : decode cX0_turn 1 = .ok (.iload_n 1, 1) := dk_27 (dk_at dksX0_turn_0 1 rfl rfl)
theorem dX0_turn_2 : decode cX0_turn 2 = .ok (.iload_n 2, 1) := dk_28 (dk_at dksX0_turn_0 2 rfl rfl)
theorem dX0_turn_3 : decode cX0_turn 3 = .ok (.invokevirtual 146, 3) := dk_182 0 146 (dk_at dksX0_turn_0 3 rfl rfl)
theorem dX0_turn_6 : decode cX0_turn 6 = .ok (.ifCond .ne 9, 3) := dk_154 0 9 (dk_at dksX0_turn_0 6 rfl rfl)
theorem dX0_turn_9 : decode cX0_turn 9 = .ok (.aload_n 0, 1) := dk_42 (dk_at dksX0_turn_0 9 rfl rfl)
theorem dX0_turn_10 : decode cX0_turn 10 = .ok (.iconst (-1), 1) := dk_2 (dk_at dksX0_turn_0 10 rfl rfl)
theorem dX0_turn_11 : decode cX0_turn 11 = .ok (.invokevirtual 205, 3) := dk_182 0 205 (dk_at dksX0_turn_0 11 rfl rfl)
theorem dX0_turn_14 : decode cX0_turn 14 = .ok (.ireturn, 1) := dk_172 (dk_at dksX0_turn_0 14 rfl rfl)
theorem dX0_turn_15 : decode cX0_turn 15 = .ok (.aload_n 0, 1) := dk_42 (dk_at dksX0_turn_0 15 rfl rfl)
theorem dX0_turn_16 : decode cX0_turn 16 = .ok (.getfield 20, 3) := dk_180 0 20 (dk_at dksX0_turn_0 16 rfl rfl)
theorem dX0_turn_19 : decode cX0_turn 19 = .ok (.aload_n 0, 1) := dk_42 (dk_at dksX0_turn_0 19 rfl rfl)
theorem dX0_turn_20 : decode cX0_turn 20 = .ok (.getfield 16, 3) := dk_180 0 16 (dk_at dksX0_turn_0 20 rfl rfl)
theorem dX0_turn_23 : decode cX0_turn 23 = .ok (.invokevirtual 103, 3) := dk_182 0 103 (dk_at dksX0_turn_1 0 rfl rfl)
theorem dX0_turn_26 : decode cX0_turn 26 = .ok (.aload_n 0, 1) := dk_42 (dk_at dksX0_turn_1 3 rfl rfl)
theorem dX0_turn_27 : decode cX0_turn 27 = .ok (.getfield 20, 3) := dk_180 0 20 (dk_at dksX0_turn_1 4 rfl rfl)
theorem dX0_turn_30 : decode cX0_turn 30 = .ok (.iload_n 1, 1) := dk_27 (dk_at dksX0_turn_1 7 rfl rfl)
theorem dX0_turn_31 : decode cX0_turn 31 = .ok (.iload_n 2, 1) := dk_28 (dk_at dksX0_turn_1 8 rfl rfl)
theorem dX0_turn_32 : decode cX0_turn 32 = .ok (.invokevirtual 100, 3) := dk_182 0 100 (dk_at dksX0_turn_1 9 rfl rfl)
theorem dX0_turn_35 : decode cX0_turn 35 = .ok (.aload_n 0, 1) := dk_42 (dk_at dksX0_turn_1 12 rfl rfl)
theorem dX0_turn_36 : decode cX0_turn 36 = .ok (.getfield 20, 3) := dk_180 0 20 (dk_at dksX0_turn_1 13 rfl rfl)
theorem dX0_turn_39 : decode cX0_turn 39 = .ok (.iload_n 1, 1) := dk_27 (dk_at dksX0_turn_1 16 rfl rfl)
theorem dX0_turn_40 : decode cX0_turn 40 = .ok (.iload_n 2, 1) := dk_28 (dk_at dksX0_turn_1 17 rfl rfl)
theorem dX0_turn_41 : decode cX0_turn 41 = .ok (.bipush 50, 2) := dk_16 50 (dk_at dksX0_turn_1 18 rfl rfl)
theorem dX0_turn_43 : decode cX0_turn 43 = .ok (.invokevirtual 167, 3) := dk_182 0 167 (dk_at dksX0_turn_1 20 rfl rfl)
theorem dX0_turn_46 : decode cX0_turn 46 = .ok (.aload_n 0, 1) := dk_42 (dk_at dksX0_turn_1 23 rfl rfl)
theorem dX0_turn_47 : decode cX0_turn 47 = .ok (.getfield 20, 3) := dk_180 0 20 (dk_at dksX0_turn_2 0 rfl rfl)
theorem dX0_turn_50 : decode cX0_turn 50 = .ok (.invokevirtual 196, 3) := dk_182 0 196 (dk_at dksX0_turn_2 3 rfl rfl)
theorem dX0_turn_53 : decode cX0_turn 53 = .ok (.aload_n 0, 1) := dk_42 (dk_at dksX0_turn_2 6 rfl rfl)
theorem dX0_turn_54 : decode cX0_turn 54 = .ok (.getfield 20, 3) := dk_180 0 20 (dk_at dksX0_turn_2 7 rfl rfl)
theorem dX0_turn_57 : decode cX0_turn 57 = .ok (.iload_n 1, 1) := dk_27 (dk_at dksX0_turn_2 10 rfl rfl)
theorem dX0_turn_58 : decode cX0_turn 58 = .ok (.iload_n 2, 1) := dk_28 (dk_at dksX0_turn_2 11 rfl rfl)
theorem dX0_turn_59 : decode cX0_turn 59 = .ok (.invokevirtual 149, 3) := dk_182 0 149 (dk_at dksX0_turn_2 12 rfl rfl)
theorem dX0_turn_62 : decode cX0_turn 62 = .ok (.bipush 50, 2) := dk_16 50 (dk_at dksX0_turn_2 15 rfl rfl)
theorem dX0_turn_64 : decode cX0_turn 64 = .ok (.isub, 1) := dk_100 (dk_at dksX0_turn_2 17 rfl rfl)
theorem dX0_turn_65 : decode cX0_turn 65 = .ok (.ireturn, 1) := dk_172 (dk_at dksX0_turn_2 18 rfl rfl)
abbrev cX0_refuseFar : ByteArray := prog_1_method_8_code
def yX0_refuseFar : MethodName := ⟨RX0, "refuseFar", "(I)I"⟩
def dkwX0_refuseFar_0 : List UInt8 := [18, 47, 42, 27, 182, 0, 48, 100, 172]
abbrev dktX0_refuseFar_0 : List UInt8 := dkwX0_refuseFar_0 ++ []
theorem dksX0_refuseFar_0 : cX0_refuseFar.data.toList.drop 0 = dktX0_refuseFar_0 := by decide +kernel
theorem dX0_refuseFar_0 : decode cX0_refuseFar 0 = .ok (.ldc 47, 2) := dk_18 47 (dk_at dksX0_refuseFar_0 0 rfl rfl)
theorem dX0_refuseFar_2 : decode cX0_refuseFar 2 = .ok (.aload_n 0, 1) := dk_42 (dk_at dksX0_refuseFar_0 2 rfl rfl)
theorem dX0_refuseFar_3 : decode cX0_refuseFar 3 = .ok (.iload_n 1, 1) := dk_27 (dk_at dksX0_refuseFar_0 3 rfl rfl)
theorem dX0_refuseFar_4 : decode cX0_refuseFar 4 = .ok (.invokevirtual 48, 3) := dk_182 0 48 (dk_at dksX0_refuseFar_0 4 rfl rfl)
theorem dX0_refuseFar_7 : decode cX0_refuseFar 7 = .ok (.isub, 1) := dk_100 (dk_at dksX0_refuseFar_0 7 rfl rfl)
theorem dX0_refuseFar_8 : decode cX0_refuseFar 8 = .ok (.ireturn, 1) := dk_172 (dk_at dksX0_refuseFar_0 8 rfl rfl)
abbrev cX0_leaves : ByteArray := prog_1_method_35_code
def yX0_leaves : MethodName := ⟨RX0, "leaves", "(I)I"⟩
def dkwX0_leaves_5 : List UInt8 := [167, 255, 163, 27, 154, 0, 7, 28, 167, 0, 14, 27, 4, 160, 0, 7, 29, 167, 0, 5, 21, 4, 172]
abbrev dktX0_leaves_5 : List UInt8 := dkwX0_leaves_5 ++ []
def dkwX0_leaves_4 : List UInt8 := [154, 0, 12, 16, 10, 21, 5, 104, 21, 6, 96, 61, 132, 3, 1, 132, 6, 1, 167, 255, 208, 132, 5, 1]
abbrev dktX0_leaves_4 : List UInt8 := dkwX0_leaves_4 ++ dktX0_leaves_5
def dkwX0_leaves_3 : List UInt8 := [182, 0, 74, 162, 0, 42, 42, 180, 0, 16, 21, 5, 21, 6, 182, 0, 211, 154, 0, 6, 167, 0, 19, 29]
abbrev dktX0_leaves_3 : List UInt8 := dkwX0_leaves_3 ++ dktX0_leaves_4
def dkwX0_leaves_2 : List UInt8 := [153, 0, 12, 21, 4, 4, 21, 5, 120, 128, 54, 4, 21, 5, 4, 96, 54, 6, 21, 6, 42, 180, 0, 16]
abbrev dktX0_leaves_2 : List UInt8 := dkwX0_leaves_2 ++ dktX0_leaves_3
def dkwX0_leaves_1 : List UInt8 := [54, 5, 21, 5, 42, 180, 0, 16, 182, 0, 74, 162, 0, 87, 42, 180, 0, 16, 21, 5, 182, 0, 208]
abbrev dktX0_leaves_1 : List UInt8 := dkwX0_leaves_1 ++ dktX0_leaves_2
def dkwX0_leaves_0 : List UInt8 := [27, 6, 184, 0, 78, 154, 0, 10, 42, 16, 254, 182, 0, 48, 172, 16, 247, 61, 3, 62, 3, 54, 4, 3]
abbrev dktX0_leaves_0 : List UInt8 := dkwX0_leaves_0 ++ dktX0_leaves_1
theorem dksX0_leaves_0 : cX0_leaves.data.toList.drop 0 = dktX0_leaves_0 := by decide +kernel
theorem dksX0_leaves_1 : cX0_leaves.data.toList.drop 24 = dktX0_leaves_1 := dk_seg dksX0_leaves_0 24 rfl rfl
theorem dksX0_leaves_2 : cX0_leaves.data.toList.drop 47 = dktX0_leaves_2 := dk_seg dksX0_leaves_1 23 rfl rfl
theorem dksX0_leaves_3 : cX0_leaves.data.toList.drop 71 = dktX0_leaves_3 := dk_seg dksX0_leaves_2 24 rfl rfl
theorem dksX0_leaves_4 : cX0_leaves.data.toList.drop 95 = dktX0_leaves_4 := dk_seg dksX0_leaves_3 24 rfl rfl
theorem dksX0_leaves_5 : cX0_leaves.data.toList.drop 119 = dktX0_leaves_5 := dk_seg dksX0_leaves_4 24 rfl rfl
theorem dX0_leaves_0 : decode cX0_leaves 0 = .ok (.iload_n 1, 1) := dk_27 (dk_at dksX0_leaves_0 0 rfl rfl)
theorem dX0_leaves_1 : decode cX0_leaves 1 = .ok (.iconst 3, 1) := dk_6 (dk_at dksX0_leaves_0 1 rfl rfl)
theorem dX0_leaves_2 : decode cX0_leaves 2 = .ok (.invokestatic 78, 3) := dk_184 0 78 (dk_at dksX0_leaves_0 2 rfl rfl)
theorem dX0_leaves_5 : decode cX0_leaves 5 = .ok (.ifCond .ne 10, 3) := dk_154 0 10 (dk_at dksX0_leaves_0 5 rfl rfl)
theorem dX0_leaves_8 : decode cX0_leaves 8 = .ok (.aload_n 0, 1) := dk_42 (dk_at dksX0_leaves_0 8 rfl rfl)
theorem dX0_leaves_9 : decode cX0_leaves 9 = .ok (.bipush (-2), 2) := dk_16 254 (dk_at dksX0_leaves_0 9 rfl rfl)
theorem dX0_leaves_11 : decode cX0_leaves 11 = .ok (.invokevirtual 48, 3) := dk_182 0 48 (dk_at dksX0_leaves_0 11 rfl rfl)
theorem dX0_leaves_14 : decode cX0_leaves 14 = .ok (.ireturn, 1) := dk_172 (dk_at dksX0_leaves_0 14 rfl rfl)
theorem dX0_leaves_15 : decode cX0_leaves 15 = .ok (.bipush (-9), 2) := dk_16 247 (dk_at dksX0_leaves_0 15 rfl rfl)
theorem dX0_leaves_17 : decode cX0_leaves 17 = .ok (.istore_n 2, 1) := dk_61 (dk_at dksX0_leaves_0 17 rfl rfl)
theorem dX0_leaves_18 : decode cX0_leaves 18 = .ok (.iconst 0, 1) := dk_3 (dk_at dksX0_leaves_0 18 rfl rfl)
theorem dX0_leaves_19 : decode cX0_leaves 19 = .ok (.istore_n 3, 1) := dk_62 (dk_at dksX0_leaves_0 19 rfl rfl)
theorem dX0_leaves_20 : decode cX0_leaves 20 = .ok (.iconst 0, 1) := dk_3 (dk_at dksX0_leaves_0 20 rfl rfl)
theorem dX0_leaves_21 : decode cX0_leaves 21 = .ok (.istore 4, 2) := dk_54 4 (dk_at dksX0_leaves_0 21 rfl rfl)
theorem dX0_leaves_23 : decode cX0_leaves 23 = .ok (.iconst 0, 1) := dk_3 (dk_at dksX0_leaves_0 23 rfl rfl)
theorem dX0_leaves_24 : decode cX0_leaves 24 = .ok (.istore 5, 2) := dk_54 5 (dk_at dksX0_leaves_1 0 rfl rfl)
theorem dX0_leaves_26 : decode cX0_leaves 26 = .ok (.iload 5, 2) := dk_21 5 (dk_at dksX0_leaves_1 2 rfl rfl)
theorem dX0_leaves_28 : decode cX0_leaves 28 = .ok (.aload_n 0, 1) := dk_42 (dk_at dksX0_leaves_1 4 rfl rfl)
theorem dX0_leaves_29 : decode cX0_leaves 29 = .ok (.getfield 16, 3) := dk_180 0 16 (dk_at dksX0_leaves_1 5 rfl rfl)
theorem dX0_leaves_32 : decode cX0_leaves 32 = .ok (.invokevirtual 74, 3) := dk_182 0 74 (dk_at dksX0_leaves_1 8 rfl rfl)
theorem dX0_leaves_35 : decode cX0_leaves 35 = .ok (.if_icmp .ge 87, 3) := dk_162 0 87 (dk_at dksX0_leaves_1 11 rfl rfl)
theorem dX0_leaves_38 : decode cX0_leaves 38 = .ok (.aload_n 0, 1) := dk_42 (dk_at dksX0_leaves_1 14 rfl rfl)
theorem dX0_leaves_39 : decode cX0_leaves 39 = .ok (.getfield 16, 3) := dk_180 0 16 (dk_at dksX0_leaves_1 15 rfl rfl)
theorem dX0_leaves_42 : decode cX0_leaves 42 = .ok (.iload 5, 2) := dk_21 5 (dk_at dksX0_leaves_1 18 rfl rfl)
theorem dX0_leaves_44 : decode cX0_leaves 44 = .ok (.invokevirtual 208, 3) := dk_182 0 208 (dk_at dksX0_leaves_1 20 rfl rfl)
theorem dX0_leaves_47 : decode cX0_leaves 47 = .ok (.ifCond .eq 12, 3) := dk_153 0 12 (dk_at dksX0_leaves_2 0 rfl rfl)
theorem dX0_leaves_50 : decode cX0_leaves 50 = .ok (.iload 4, 2) := dk_21 4 (dk_at dksX0_leaves_2 3 rfl rfl)
theorem dX0_leaves_52 : decode cX0_leaves 52 = .ok (.iconst 1, 1) := dk_4 (dk_at dksX0_leaves_2 5 rfl rfl)
theorem dX0_leaves_53 : decode cX0_leaves 53 = .ok (.iload 5, 2) := dk_21 5 (dk_at dksX0_leaves_2 6 rfl rfl)
theorem dX0_leaves_55 : decode cX0_leaves 55 = .ok (.ishl, 1) := dk_120 (dk_at dksX0_leaves_2 8 rfl rfl)
theorem dX0_leaves_56 : decode cX0_leaves 56 = .ok (.ior, 1) := dk_128 (dk_at dksX0_leaves_2 9 rfl rfl)
theorem dX0_leaves_57 : decode cX0_leaves 57 = .ok (.istore 4, 2) := dk_54 4 (dk_at dksX0_leaves_2 10 rfl rfl)
theorem dX0_leaves_59 : decode cX0_leaves 59 = .ok (.iload 5, 2) := dk_21 5 (dk_at dksX0_leaves_2 12 rfl rfl)
theorem dX0_leaves_61 : decode cX0_leaves 61 = .ok (.iconst 1, 1) := dk_4 (dk_at dksX0_leaves_2 14 rfl rfl)
theorem dX0_leaves_62 : decode cX0_leaves 62 = .ok (.iadd, 1) := dk_96 (dk_at dksX0_leaves_2 15 rfl rfl)
theorem dX0_leaves_63 : decode cX0_leaves 63 = .ok (.istore 6, 2) := dk_54 6 (dk_at dksX0_leaves_2 16 rfl rfl)
theorem dX0_leaves_65 : decode cX0_leaves 65 = .ok (.iload 6, 2) := dk_21 6 (dk_at dksX0_leaves_2 18 rfl rfl)
theorem dX0_leaves_67 : decode cX0_leaves 67 = .ok (.aload_n 0, 1) := dk_42 (dk_at dksX0_leaves_2 20 rfl rfl)
theorem dX0_leaves_68 : decode cX0_leaves 68 = .ok (.getfield 16, 3) := dk_180 0 16 (dk_at dksX0_leaves_2 21 rfl rfl)
theorem dX0_leaves_71 : decode cX0_leaves 71 = .ok (.invokevirtual 74, 3) := dk_182 0 74 (dk_at dksX0_leaves_3 0 rfl rfl)
theorem dX0_leaves_74 : decode cX0_leaves 74 = .ok (.if_icmp .ge 42, 3) := dk_162 0 42 (dk_at dksX0_leaves_3 3 rfl rfl)
theorem dX0_leaves_77 : decode cX0_leaves 77 = .ok (.aload_n 0, 1) := dk_42 (dk_at dksX0_leaves_3 6 rfl rfl)
theorem dX0_leaves_78 : decode cX0_leaves 78 = .ok (.getfield 16, 3) := dk_180 0 16 (dk_at dksX0_leaves_3 7 rfl rfl)
theorem dX0_leaves_81 : decode cX0_leaves 81 = .ok (.iload 5, 2) := dk_21 5 (dk_at dksX0_leaves_3 10 rfl rfl)
theorem dX0_leaves_83 : decode cX0_leaves 83 = .ok (.iload 6, 2) := dk_21 6 (dk_at dksX0_leaves_3 12 rfl rfl)
theorem dX0_leaves_85 : decode cX0_leaves 85 = .ok (.invokevirtual 211, 3) := dk_182 0 211 (dk_at dksX0_leaves_3 14 rfl rfl)
theorem dX0_leaves_88 : decode cX0_leaves 88 = .ok (.ifCond .ne 6, 3) := dk_154 0 6 (dk_at dksX0_leaves_3 17 rfl rfl)
theorem dX0_leaves_91 : decode cX0_leaves 91 = .ok (.goto 19, 3) := dk_167 0 19 (dk_at dksX0_leaves_3 20 rfl rfl)
theorem dX0_leaves_94 : decode cX0_leaves 94 = .ok (.iload_n 3, 1) := dk_29 (dk_at dksX0_leaves_3 23 rfl rfl)
theorem dX0_leaves_95 : decode cX0_leaves 95 = .ok (.ifCond .ne 12, 3) := dk_154 0 12 (dk_at dksX0_leaves_4 0 rfl rfl)
theorem dX0_leaves_98 : decode cX0_leaves 98 = .ok (.bipush 10, 2) := dk_16 10 (dk_at dksX0_leaves_4 3 rfl rfl)
theorem dX0_leaves_100 : decode cX0_leaves 100 = .ok (.iload 5, 2) := dk_21 5 (dk_at dksX0_leaves_4 5 rfl rfl)
theorem dX0_leaves_102 : decode cX0_leaves 102 = .ok (.imul, 1) := dk_104 (dk_at dksX0_leaves_4 7 rfl rfl)
theorem dX0_leaves_103 : decode cX0_leaves 103 = .ok (.iload 6, 2) := dk_21 6 (dk_at dksX0_leaves_4 8 rfl rfl)
theorem dX0_leaves_105 : decode cX0_leaves 105 = .ok (.iadd, 1) := dk_96 (dk_at dksX0_leaves_4 10 rfl rfl)
theorem dX0_leaves_106 : decode cX0_leaves 106 = .ok (.istore_n 2, 1) := dk_61 (dk_at dksX0_leaves_4 11 rfl rfl)
theorem dX0_leaves_107 : decode cX0_leaves 107 = .ok (.iinc 3 1, 3) := dk_132 3 1 (dk_at dksX0_leaves_4 12 rfl rfl)
theorem dX0_leaves_110 : decode cX0_leaves 110 = .ok (.iinc 6 1, 3) := dk_132 6 1 (dk_at dksX0_leaves_4 15 rfl rfl)
theorem dX0_leaves_113 : decode cX0_leaves 113 = .ok (.goto (-48), 3) := dk_167 255 208 (dk_at dksX0_leaves_4 18 rfl rfl)
theorem dX0_leaves_116 : decode cX0_leaves 116 = .ok (.iinc 5 1, 3) := dk_132 5 1 (dk_at dksX0_leaves_4 21 rfl rfl)
theorem dX0_leaves_119 : decode cX0_leaves 119 = .ok (.goto (-93), 3) := dk_167 255 163 (dk_at dksX0_leaves_5 0 rfl rfl)
theorem dX0_leaves_122 : decode cX0_leaves 122 = .ok (.iload_n 1, 1) := dk_27 (dk_at dksX0_leaves_5 3 rfl rfl)
theorem dX0_leaves_123 : decode cX0_leaves 123 = .ok (.ifCond .ne 7, 3) := dk_154 0 7 (dk_at dksX0_leaves_5 4 rfl rfl)
theorem dX0_leaves_126 : decode cX0_leaves 126 = .ok (.iload_n 2, 1) := dk_28 (dk_at dksX0_leaves_5 7 rfl rfl)
theorem dX0_leaves_127 : decode cX0_leaves 127 = .ok (.goto 14, 3) := dk_167 0 14 (dk_at dksX0_leaves_5 8 rfl rfl)
theorem dX0_leaves_130 : decode cX0_leaves 130 = .ok (.iload_n 1, 1) := dk_27 (dk_at dksX0_leaves_5 11 rfl rfl)
theorem dX0_leaves_131 : decode cX0_leaves 131 = .ok (.iconst 1, 1) := dk_4 (dk_at dksX0_leaves_5 12 rfl rfl)
theorem dX0_leaves_132 : decode cX0_leaves 132 = .ok (.if_icmp .ne 7, 3) := dk_160 0 7 (dk_at dksX0_leaves_5 13 rfl rfl)
theorem dX0_leaves_135 : decode cX0_leaves 135 = .ok (.iload_n 3, 1) := dk_29 (dk_at dksX0_leaves_5 16 rfl rfl)
theorem dX0_leaves_136 : decode cX0_leaves 136 = .ok (.goto 5, 3) := dk_167 0 5 (dk_at dksX0_leaves_5 17 rfl rfl)
theorem dX0_leaves_139 : decode cX0_leaves 139 = .ok (.iload 4, 2) := dk_21 4 (dk_at dksX0_leaves_5 20 rfl rfl)
theorem dX0_leaves_141 : decode cX0_leaves 141 = .ok (.ireturn, 1) := dk_172 (dk_at dksX0_leaves_5 22 rfl rfl)
abbrev cX0_pairings : ByteArray := prog_1_method_40_code
def yX0_pairings : MethodName := ⟨RX0, "pairings", "(I)I"⟩
def dkwX0_pairings_1 : List UInt8 := [27, 156, 0, 10, 42, 180, 0, 224, 167, 0, 9, 42, 180, 0, 36, 27, 46, 172]
abbrev dktX0_pairings_1 : List UInt8 := dkwX0_pairings_1 ++ []
def dkwX0_pairings_0 : List UInt8 := [27, 2, 159, 0, 17, 42, 27, 182, 0, 82, 154, 0, 9, 42, 2, 182, 0, 48, 172, 42, 4, 182, 0, 247]
abbrev dktX0_pairings_0 : List UInt8 := dkwX0_pairings_0 ++ dktX0_pairings_1
theorem dksX0_pairings_0 : cX0_pairings.data.toList.drop 0 = dktX0_pairings_0 := by decide +kernel
theorem dksX0_pairings_1 : cX0_pairings.data.toList.drop 24 = dktX0_pairings_1 := dk_seg dksX0_pairings_0 24 rfl rfl
theorem dX0_pairings_0 : decode cX0_pairings 0 = .ok (.iload_n 1, 1) := dk_27 (dk_at dksX0_pairings_0 0 rfl rfl)
theorem dX0_pairings_1 : decode cX0_pairings 1 = .ok (.iconst (-1), 1) := dk_2 (dk_at dksX0_pairings_0 1 rfl rfl)
theorem dX0_pairings_2 : decode cX0_pairings 2 = .ok (.if_icmp .eq 17, 3) := dk_159 0 17 (dk_at dksX0_pairings_0 2 rfl rfl)
theorem dX0_pairings_5 : decode cX0_pairings 5 = .ok (.aload_n 0, 1) := dk_42 (dk_at dksX0_pairings_0 5 rfl rfl)
theorem dX0_pairings_6 : decode cX0_pairings 6 = .ok (.iload_n 1, 1) := dk_27 (dk_at dksX0_pairings_0 6 rfl rfl)
theorem dX0_pairings_7 : decode cX0_pairings 7 = .ok (.invokevirtual 82, 3) := dk_182 0 82 (dk_at dksX0_pairings_0 7 rfl rfl)
theorem dX0_pairings_10 : decode cX0_pairings 10 = .ok (.ifCond .ne 9, 3) := dk_154 0 9 (dk_at dksX0_pairings_0 10 rfl rfl)
theorem dX0_pairings_13 : decode cX0_pairings 13 = .ok (.aload_n 0, 1) := dk_42 (dk_at dksX0_pairings_0 13 rfl rfl)
theorem dX0_pairings_14 : decode cX0_pairings 14 = .ok (.iconst (-1), 1) := dk_2 (dk_at dksX0_pairings_0 14 rfl rfl)
theorem dX0_pairings_15 : decode cX0_pairings 15 = .ok (.invokevirtual 48, 3) := dk_182 0 48 (dk_at dksX0_pairings_0 15 rfl rfl)
theorem dX0_pairings_18 : decode cX0_pairings 18 = .ok (.ireturn, 1) := dk_172 (dk_at dksX0_pairings_0 18 rfl rfl)
theorem dX0_pairings_19 : decode cX0_pairings 19 = .ok (.aload_n 0, 1) := dk_42 (dk_at dksX0_pairings_0 19 rfl rfl)
theorem dX0_pairings_20 : decode cX0_pairings 20 = .ok (.iconst 1, 1) := dk_4 (dk_at dksX0_pairings_0 20 rfl rfl)
theorem dX0_pairings_21 : decode cX0_pairings 21 = .ok (.invokevirtual 247, 3) := dk_182 0 247 (dk_at dksX0_pairings_0 21 rfl rfl)
theorem dX0_pairings_24 : decode cX0_pairings 24 = .ok (.iload_n 1, 1) := dk_27 (dk_at dksX0_pairings_1 0 rfl rfl)
theorem dX0_pairings_25 : decode cX0_pairings 25 = .ok (.ifCond .ge 10, 3) := dk_156 0 10 (dk_at dksX0_pairings_1 1 rfl rfl)
theorem dX0_pairings_28 : decode cX0_pairings 28 = .ok (.aload_n 0, 1) := dk_42 (dk_at dksX0_pairings_1 4 rfl rfl)
theorem dX0_pairings_29 : decode cX0_pairings 29 = .ok (.getfield 224, 3) := dk_180 0 224 (dk_at dksX0_pairings_1 5 rfl rfl)
theorem dX0_pairings_32 : decode cX0_pairings 32 = .ok (.goto 9, 3) := dk_167 0 9 (dk_at dksX0_pairings_1 8 rfl rfl)
theorem dX0_pairings_35 : decode cX0_pairings 35 = .ok (.aload_n 0, 1) := dk_42 (dk_at dksX0_pairings_1 11 rfl rfl)
theorem dX0_pairings_36 : decode cX0_pairings 36 = .ok (.getfield 36, 3) := dk_180 0 36 (dk_at dksX0_pairings_1 12 rfl rfl)
theorem dX0_pairings_39 : decode cX0_pairings 39 = .ok (.iload_n 1, 1) := dk_27 (dk_at dksX0_pairings_1 15 rfl rfl)
theorem dX0_pairings_40 : decode cX0_pairings 40 = .ok (.iaload, 1) := dk_46 (dk_at dksX0_pairings_1 16 rfl rfl)
theorem dX0_pairings_41 : decode cX0_pairings 41 = .ok (.ireturn, 1) := dk_172 (dk_at dksX0_pairings_1 17 rfl rfl)
abbrev cX0_findsPairing : ByteArray := prog_1_method_39_code
def yX0_findsPairing : MethodName := ⟨RX0, "findsPairing", "(Z)V"⟩
def dkwX0_findsPairing_2 : List UInt8 := [180, 0, 16, 182, 0, 74, 120, 4, 100, 27, 182, 0, 243, 177]
abbrev dktX0_findsPairing_2 : List UInt8 := dkwX0_findsPairing_2 ++ []
def dkwX0_findsPairing_1 : List UInt8 := [28, 16, 6, 162, 0, 17, 42, 180, 0, 36, 28, 16, 247, 79, 132, 2, 1, 167, 255, 239, 42, 4, 42]
abbrev dktX0_findsPairing_1 : List UInt8 := dkwX0_findsPairing_1 ++ dktX0_findsPairing_2
def dkwX0_findsPairing_0 : List UInt8 := [42, 180, 0, 20, 42, 180, 0, 16, 182, 0, 103, 42, 3, 181, 0, 224, 42, 18, 47, 181, 0, 233, 3, 61]
abbrev dktX0_findsPairing_0 : List UInt8 := dkwX0_findsPairing_0 ++ dktX0_findsPairing_1
theorem dksX0_findsPairing_0 : cX0_findsPairing.data.toList.drop 0 = dktX0_findsPairing_0 := by decide +kernel
theorem dksX0_findsPairing_1 : cX0_findsPairing.data.toList.drop 24 = dktX0_findsPairing_1 := dk_seg dksX0_findsPairing_0 24 rfl rfl
theorem dksX0_findsPairing_2 : cX0_findsPairing.data.toList.drop 47 = dktX0_findsPairing_2 := dk_seg dksX0_findsPairing_1 23 rfl rfl
theorem dX0_findsPairing_0 : decode cX0_findsPairing 0 = .ok (.aload_n 0, 1) := dk_42 (dk_at dksX0_findsPairing_0 0 rfl rfl)
theorem dX0_findsPairing_1 : decode cX0_findsPairing 1 = .ok (.getfield 20, 3) := dk_180 0 20 (dk_at dksX0_findsPairing_0 1 rfl rfl)
theorem dX0_findsPairing_4 : decode cX0_findsPairing 4 = .ok (.aload_n 0, 1) := dk_42 (dk_at dksX0_findsPairing_0 4 rfl rfl)
theorem dX0_findsPairing_5 : decode cX0_findsPairing 5 = .ok (.getfield 16, 3) := dk_180 0 16 (dk_at dksX0_findsPairing_0 5 rfl rfl)
theorem dX0_findsPairing_8 : decode cX0_findsPairing 8 = .ok (.invokevirtual 103, 3) := dk_182 0 103 (dk_at dksX0_findsPairing_0 8 rfl rfl)
theorem dX0_findsPairing_11 : decode cX0_findsPairing 11 = .ok (.aload_n 0, 1) := dk_42 (dk_at dksX0_findsPairing_0 11 rfl rfl)
theorem dX0_findsPairing_12 : decode cX0_findsPairing 12 = .ok (.iconst 0, 1) := dk_3 (dk_at dksX0_findsPairing_0 12 rfl rfl)
theorem dX0_findsPairing_13 : decode cX0_findsPairing 13 = .ok (.putfield 224, 3) := dk_181 0 224 (dk_at dksX0_findsPairing_0 13 rfl rfl)
theorem dX0_findsPairing_16 : decode cX0_findsPairing 16 = .ok (.aload_n 0, 1) := dk_42 (dk_at dksX0_findsPairing_0 16 rfl rfl)
theorem dX0_findsPairing_17 : decode cX0_findsPairing 17 = .ok (.ldc 47, 2) := dk_18 47 (dk_at dksX0_findsPairing_0 17 rfl rfl)
theorem dX0_findsPairing_19 : decode cX0_findsPairing 19 = .ok (.putfield 233, 3) := dk_181 0 233 (dk_at dksX0_findsPairing_0 19 rfl rfl)
theorem dX0_findsPairing_22 : decode cX0_findsPairing 22 = .ok (.iconst 0, 1) := dk_3 (dk_at dksX0_findsPairing_0 22 rfl rfl)
theorem dX0_findsPairing_23 : decode cX0_findsPairing 23 = .ok (.istore_n 2, 1) := dk_61 (dk_at dksX0_findsPairing_0 23 rfl rfl)
theorem dX0_findsPairing_24 : decode cX0_findsPairing 24 = .ok (.iload_n 2, 1) := dk_28 (dk_at dksX0_findsPairing_1 0 rfl rfl)
theorem dX0_findsPairing_25 : decode cX0_findsPairing 25 = .ok (.bipush 6, 2) := dk_16 6 (dk_at dksX0_findsPairing_1 1 rfl rfl)
theorem dX0_findsPairing_27 : decode cX0_findsPairing 27 = .ok (.if_icmp .ge 17, 3) := dk_162 0 17 (dk_at dksX0_findsPairing_1 3 rfl rfl)
theorem dX0_findsPairing_30 : decode cX0_findsPairing 30 = .ok (.aload_n 0, 1) := dk_42 (dk_at dksX0_findsPairing_1 6 rfl rfl)
theorem dX0_findsPairing_31 : decode cX0_findsPairing 31 = .ok (.getfield 36, 3) := dk_180 0 36 (dk_at dksX0_findsPairing_1 7 rfl rfl)
theorem dX0_findsPairing_34 : decode cX0_findsPairing 34 = .ok (.iload_n 2, 1) := dk_28 (dk_at dksX0_findsPairing_1 10 rfl rfl)
theorem dX0_findsPairing_35 : decode cX0_findsPairing 35 = .ok (.bipush (-9), 2) := dk_16 247 (dk_at dksX0_findsPairing_1 11 rfl rfl)
theorem dX0_findsPairing_37 : decode cX0_findsPairing 37 = .ok (.iastore, 1) := dk_79 (dk_at dksX0_findsPairing_1 13 rfl rfl)
theorem dX0_findsPairing_38 : decode cX0_findsPairing 38 = .ok (.iinc 2 1, 3) := dk_132 2 1 (dk_at dksX0_findsPairing_1 14 rfl rfl)
theorem dX0_findsPairing_41 : decode cX0_findsPairing 41 = .ok (.goto (-17), 3) := dk_167 255 239 (dk_at dksX0_findsPairing_1 17 rfl rfl)
theorem dX0_findsPairing_44 : decode cX0_findsPairing 44 = .ok (.aload_n 0, 1) := dk_42 (dk_at dksX0_findsPairing_1 20 rfl rfl)
theorem dX0_findsPairing_45 : decode cX0_findsPairing 45 = .ok (.iconst 1, 1) := dk_4 (dk_at dksX0_findsPairing_1 21 rfl rfl)
theorem dX0_findsPairing_46 : decode cX0_findsPairing 46 = .ok (.aload_n 0, 1) := dk_42 (dk_at dksX0_findsPairing_1 22 rfl rfl)
theorem dX0_findsPairing_47 : decode cX0_findsPairing 47 = .ok (.getfield 16, 3) := dk_180 0 16 (dk_at dksX0_findsPairing_2 0 rfl rfl)
theorem dX0_findsPairing_50 : decode cX0_findsPairing 50 = .ok (.invokevirtual 74, 3) := dk_182 0 74 (dk_at dksX0_findsPairing_2 3 rfl rfl)
theorem dX0_findsPairing_53 : decode cX0_findsPairing 53 = .ok (.ishl, 1) := dk_120 (dk_at dksX0_findsPairing_2 6 rfl rfl)
theorem dX0_findsPairing_54 : decode cX0_findsPairing 54 = .ok (.iconst 1, 1) := dk_4 (dk_at dksX0_findsPairing_2 7 rfl rfl)
theorem dX0_findsPairing_55 : decode cX0_findsPairing 55 = .ok (.isub, 1) := dk_100 (dk_at dksX0_findsPairing_2 8 rfl rfl)
theorem dX0_findsPairing_56 : decode cX0_findsPairing 56 = .ok (.iload_n 1, 1) := dk_27 (dk_at dksX0_findsPairing_2 9 rfl rfl)
theorem dX0_findsPairing_57 : decode cX0_findsPairing 57 = .ok (.invokevirtual 243, 3) := dk_182 0 243 (dk_at dksX0_findsPairing_2 10 rfl rfl)
theorem dX0_findsPairing_60 : decode cX0_findsPairing 60 = .ok (.return_, 1) := dk_177 (dk_at dksX0_findsPairing_2 13 rfl rfl)
abbrev cX0_eachPairing : ByteArray := prog_1_method_38_code
def yX0_eachPairing : MethodName := ⟨RX0, "eachPairing", "(IZ)V"⟩
def dkwX0_eachPairing_5 : List UInt8 := [182, 0, 243, 132, 5, 1, 167, 255, 192, 177]
abbrev dktX0_eachPairing_5 : List UInt8 := dkwX0_eachPairing_5 ++ []
def dkwX0_eachPairing_4 : List UInt8 := [42, 180, 0, 20, 180, 0, 94, 21, 5, 29, 79, 42, 21, 4, 4, 21, 5, 120, 2, 130, 126, 28]
abbrev dktX0_eachPairing_4 : List UInt8 := dkwX0_eachPairing_4 ++ dktX0_eachPairing_5
def dkwX0_eachPairing_3 : List UInt8 := [21, 4, 21, 5, 184, 0, 240, 154, 0, 6, 167, 0, 39, 42, 180, 0, 20, 180, 0, 94, 29, 21, 5, 79]
abbrev dktX0_eachPairing_3 : List UInt8 := dkwX0_eachPairing_3 ++ dktX0_eachPairing_4
def dkwX0_eachPairing_2 : List UInt8 := [21, 4, 28, 182, 0, 243, 29, 4, 96, 54, 5, 21, 5, 42, 180, 0, 16, 182, 0, 74, 162, 0, 58]
abbrev dktX0_eachPairing_2 : List UInt8 := dkwX0_eachPairing_2 ++ dktX0_eachPairing_3
def dkwX0_eachPairing_1 : List UInt8 := [167, 255, 245, 27, 4, 29, 120, 2, 130, 126, 54, 4, 42, 180, 0, 20, 180, 0, 94, 29, 16, 247, 79, 42]
abbrev dktX0_eachPairing_1 : List UInt8 := dkwX0_eachPairing_1 ++ dktX0_eachPairing_2
def dkwX0_eachPairing_0 : List UInt8 := [27, 154, 0, 9, 42, 28, 182, 0, 236, 177, 3, 62, 27, 29, 184, 0, 240, 154, 0, 9, 132, 3, 1]
abbrev dktX0_eachPairing_0 : List UInt8 := dkwX0_eachPairing_0 ++ dktX0_eachPairing_1
theorem dksX0_eachPairing_0 : cX0_eachPairing.data.toList.drop 0 = dktX0_eachPairing_0 := by decide +kernel
theorem dksX0_eachPairing_1 : cX0_eachPairing.data.toList.drop 23 = dktX0_eachPairing_1 := dk_seg dksX0_eachPairing_0 23 rfl rfl
theorem dksX0_eachPairing_2 : cX0_eachPairing.data.toList.drop 47 = dktX0_eachPairing_2 := dk_seg dksX0_eachPairing_1 24 rfl rfl
theorem dksX0_eachPairing_3 : cX0_eachPairing.data.toList.drop 70 = dktX0_eachPairing_3 := dk_seg dksX0_eachPairing_2 23 rfl rfl
theorem dksX0_eachPairing_4 : cX0_eachPairing.data.toList.drop 94 = dktX0_eachPairing_4 := dk_seg dksX0_eachPairing_3 24 rfl rfl
theorem dksX0_eachPairing_5 : cX0_eachPairing.data.toList.drop 116 = dktX0_eachPairing_5 := dk_seg dksX0_eachPairing_4 22 rfl rfl
theorem dX0_eachPairing_0 : decode cX0_eachPairing 0 = .ok (.iload_n 1, 1) := dk_27 (dk_at dksX0_eachPairing_0 0 rfl rfl)
theorem dX0_eachPairing_1 : decode cX0_eachPairing 1 = .ok (.ifCond .ne 9, 3) := dk_154 0 9 (dk_at dksX0_eachPairing_0 1 rfl rfl)
theorem dX0_eachPairing_4 : decode cX0_eachPairing 4 = .ok (.aload_n 0, 1) := dk_42 (dk_at dksX0_eachPairing_0 4 rfl rfl)
theorem dX0_eachPairing_5 : decode cX0_eachPairing 5 = .ok (.iload_n 2, 1) := dk_28 (dk_at dksX0_eachPairing_0 5 rfl rfl)
theorem dX0_eachPairing_6 : decode cX0_eachPairing 6 = .ok (.invokevirtual 236, 3) := dk_182 0 236 (dk_at dksX0_eachPairing_0 6 rfl rfl)
theorem dX0_eachPairing_9 : decode cX0_eachPairing 9 = .ok (.return_, 1) := dk_177 (dk_at dksX0_eachPairing_0 9 rfl rfl)
theorem dX0_eachPairing_10 : decode cX0_eachPairing 10 = .ok (.iconst 0, 1) := dk_3 (dk_at dksX0_eachPairing_0 10 rfl rfl)
theorem dX0_eachPairing_11 : decode cX0_eachPairing 11 = .ok (.istore_n 3, 1) := dk_62 (dk_at dksX0_eachPairing_0 11 rfl rfl)
theorem dX0_eachPairing_12 : decode cX0_eachPairing 12 = .ok (.iload_n 1, 1) := dk_27 (dk_at dksX0_eachPairing_0 12 rfl rfl)
theorem dX0_eachPairing_13 : decode cX0_eachPairing 13 = .ok (.iload_n 3, 1) := dk_29 (dk_at dksX0_eachPairing_0 13 rfl rfl)
theorem dX0_eachPairing_14 : decode cX0_eachPairing 14 = .ok (.invokestatic 240, 3) := dk_184 0 240 (dk_at dksX0_eachPairing_0 14 rfl rfl)
theorem dX0_eachPairing_17 : decode cX0_eachPairing 17 = .ok (.ifCond .ne 9, 3) := dk_154 0 9 (dk_at dksX0_eachPairing_0 17 rfl rfl)
theorem dX0_eachPairing_20 : decode cX0_eachPairing 20 = .ok (.iinc 3 1, 3) := dk_132 3 1 (dk_at dksX0_eachPairing_0 20 rfl rfl)
theorem dX0_eachPairing_23 : decode cX0_eachPairing 23 = .ok (.goto (-11), 3) := dk_167 255 245 (dk_at dksX0_eachPairing_1 0 rfl rfl)
theorem dX0_eachPairing_26 : decode cX0_eachPairing 26 = .ok (.iload_n 1, 1) := dk_27 (dk_at dksX0_eachPairing_1 3 rfl rfl)
theorem dX0_eachPairing_27 : decode cX0_eachPairing 27 = .ok (.iconst 1, 1) := dk_4 (dk_at dksX0_eachPairing_1 4 rfl rfl)
theorem dX0_eachPairing_28 : decode cX0_eachPairing 28 = .ok (.iload_n 3, 1) := dk_29 (dk_at dksX0_eachPairing_1 5 rfl rfl)
theorem dX0_eachPairing_29 : decode cX0_eachPairing 29 = .ok (.ishl, 1) := dk_120 (dk_at dksX0_eachPairing_1 6 rfl rfl)
theorem dX0_eachPairing_30 : decode cX0_eachPairing 30 = .ok (.iconst (-1), 1) := dk_2 (dk_at dksX0_eachPairing_1 7 rfl rfl)
theorem dX0_eachPairing_31 : decode cX0_eachPairing 31 = .ok (.ixor, 1) := dk_130 (dk_at dksX0_eachPairing_1 8 rfl rfl)
theorem dX0_eachPairing_32 : decode cX0_eachPairing 32 = .ok (.iand, 1) := dk_126 (dk_at dksX0_eachPairing_1 9 rfl rfl)
theorem dX0_eachPairing_33 : decode cX0_eachPairing 33 = .ok (.istore 4, 2) := dk_54 4 (dk_at dksX0_eachPairing_1 10 rfl rfl)
theorem dX0_eachPairing_35 : decode cX0_eachPairing 35 = .ok (.aload_n 0, 1) := dk_42 (dk_at dksX0_eachPairing_1 12 rfl rfl)
theorem dX0_eachPairing_36 : decode cX0_eachPairing 36 = .ok (.getfield 20, 3) := dk_180 0 20 (dk_at dksX0_eachPairing_1 13 rfl rfl)
theorem dX0_eachPairing_39 : decode cX0_eachPairing 39 = .ok (.getfield 94, 3) := dk_180 0 94 (dk_at dksX0_eachPairing_1 16 rfl rfl)
theorem dX0_eachPairing_42 : decode cX0_eachPairing 42 = .ok (.iload_n 3, 1) := dk_29 (dk_at dksX0_eachPairing_1 19 rfl rfl)
theorem dX0_eachPairing_43 : decode cX0_eachPairing 43 = .ok (.bipush (-9), 2) := dk_16 247 (dk_at dksX0_eachPairing_1 20 rfl rfl)
theorem dX0_eachPairing_45 : decode cX0_eachPairing 45 = .ok (.iastore, 1) := dk_79 (dk_at dksX0_eachPairing_1 22 rfl rfl)
theorem dX0_eachPairing_46 : decode cX0_eachPairing 46 = .ok (.aload_n 0, 1) := dk_42 (dk_at dksX0_eachPairing_1 23 rfl rfl)
theorem dX0_eachPairing_47 : decode cX0_eachPairing 47 = .ok (.iload 4, 2) := dk_21 4 (dk_at dksX0_eachPairing_2 0 rfl rfl)
theorem dX0_eachPairing_49 : decode cX0_eachPairing 49 = .ok (.iload_n 2, 1) := dk_28 (dk_at dksX0_eachPairing_2 2 rfl rfl)
theorem dX0_eachPairing_50 : decode cX0_eachPairing 50 = .ok (.invokevirtual 243, 3) := dk_182 0 243 (dk_at dksX0_eachPairing_2 3 rfl rfl)
theorem dX0_eachPairing_53 : decode cX0_eachPairing 53 = .ok (.iload_n 3, 1) := dk_29 (dk_at dksX0_eachPairing_2 6 rfl rfl)
theorem dX0_eachPairing_54 : decode cX0_eachPairing 54 = .ok (.iconst 1, 1) := dk_4 (dk_at dksX0_eachPairing_2 7 rfl rfl)
theorem dX0_eachPairing_55 : decode cX0_eachPairing 55 = .ok (.iadd, 1) := dk_96 (dk_at dksX0_eachPairing_2 8 rfl rfl)
theorem dX0_eachPairing_56 : decode cX0_eachPairing 56 = .ok (.istore 5, 2) := dk_54 5 (dk_at dksX0_eachPairing_2 9 rfl rfl)
theorem dX0_eachPairing_58 : decode cX0_eachPairing 58 = .ok (.iload 5, 2) := dk_21 5 (dk_at dksX0_eachPairing_2 11 rfl rfl)
theorem dX0_eachPairing_60 : decode cX0_eachPairing 60 = .ok (.aload_n 0, 1) := dk_42 (dk_at dksX0_eachPairing_2 13 rfl rfl)
theorem dX0_eachPairing_61 : decode cX0_eachPairing 61 = .ok (.getfield 16, 3) := dk_180 0 16 (dk_at dksX0_eachPairing_2 14 rfl rfl)
theorem dX0_eachPairing_64 : decode cX0_eachPairing 64 = .ok (.invokevirtual 74, 3) := dk_182 0 74 (dk_at dksX0_eachPairing_2 17 rfl rfl)
theorem dX0_eachPairing_67 : decode cX0_eachPairing 67 = .ok (.if_icmp .ge 58, 3) := dk_162 0 58 (dk_at dksX0_eachPairing_2 20 rfl rfl)
theorem dX0_eachPairing_70 : decode cX0_eachPairing 70 = .ok (.iload 4, 2) := dk_21 4 (dk_at dksX0_eachPairing_3 0 rfl rfl)
theorem dX0_eachPairing_72 : decode cX0_eachPairing 72 = .ok (.iload 5, 2) := dk_21 5 (dk_at dksX0_eachPairing_3 2 rfl rfl)
theorem dX0_eachPairing_74 : decode cX0_eachPairing 74 = .ok (.invokestatic 240, 3) := dk_184 0 240 (dk_at dksX0_eachPairing_3 4 rfl rfl)
theorem dX0_eachPairing_77 : decode cX0_eachPairing 77 = .ok (.ifCond .ne 6, 3) := dk_154 0 6 (dk_at dksX0_eachPairing_3 7 rfl rfl)
theorem dX0_eachPairing_80 : decode cX0_eachPairing 80 = .ok (.goto 39, 3) := dk_167 0 39 (dk_at dksX0_eachPairing_3 10 rfl rfl)
theorem dX0_eachPairing_83 : decode cX0_eachPairing 83 = .ok (.aload_n 0, 1) := dk_42 (dk_at dksX0_eachPairing_3 13 rfl rfl)
theorem dX0_eachPairing_84 : decode cX0_eachPairing 84 = .ok (.getfield 20, 3) := dk_180 0 20 (dk_at dksX0_eachPairing_3 14 rfl rfl)
theorem dX0_eachPairing_87 : decode cX0_eachPairing 87 = .ok (.getfield 94, 3) := dk_180 0 94 (dk_at dksX0_eachPairing_3 17 rfl rfl)
theorem dX0_eachPairing_90 : decode cX0_eachPairing 90 = .ok (.iload_n 3, 1) := dk_29 (dk_at dksX0_eachPairing_3 20 rfl rfl)
theorem dX0_eachPairing_91 : decode cX0_eachPairing 91 = .ok (.iload 5, 2) := dk_21 5 (dk_at dksX0_eachPairing_3 21 rfl rfl)
theorem dX0_eachPairing_93 : decode cX0_eachPairing 93 = .ok (.iastore, 1) := dk_79 (dk_at dksX0_eachPairing_3 23 rfl rfl)
theorem dX0_eachPairing_94 : decode cX0_eachPairing 94 = .ok (.aload_n 0, 1) := dk_42 (dk_at dksX0_eachPairing_4 0 rfl rfl)
theorem dX0_eachPairing_95 : decode cX0_eachPairing 95 = .ok (.getfield 20, 3) := dk_180 0 20 (dk_at dksX0_eachPairing_4 1 rfl rfl)
theorem dX0_eachPairing_98 : decode cX0_eachPairing 98 = .ok (.getfield 94, 3) := dk_180 0 94 (dk_at dksX0_eachPairing_4 4 rfl rfl)
theorem dX0_eachPairing_101 : decode cX0_eachPairing 101 = .ok (.iload 5, 2) := dk_21 5 (dk_at dksX0_eachPairing_4 7 rfl rfl)
theorem dX0_eachPairing_103 : decode cX0_eachPairing 103 = .ok (.iload_n 3, 1) := dk_29 (dk_at dksX0_eachPairing_4 9 rfl rfl)
theorem dX0_eachPairing_104 : decode cX0_eachPairing 104 = .ok (.iastore, 1) := dk_79 (dk_at dksX0_eachPairing_4 10 rfl rfl)
theorem dX0_eachPairing_105 : decode cX0_eachPairing 105 = .ok (.aload_n 0, 1) := dk_42 (dk_at dksX0_eachPairing_4 11 rfl rfl)
theorem dX0_eachPairing_106 : decode cX0_eachPairing 106 = .ok (.iload 4, 2) := dk_21 4 (dk_at dksX0_eachPairing_4 12 rfl rfl)
theorem dX0_eachPairing_108 : decode cX0_eachPairing 108 = .ok (.iconst 1, 1) := dk_4 (dk_at dksX0_eachPairing_4 14 rfl rfl)
theorem dX0_eachPairing_109 : decode cX0_eachPairing 109 = .ok (.iload 5, 2) := dk_21 5 (dk_at dksX0_eachPairing_4 15 rfl rfl)
theorem dX0_eachPairing_111 : decode cX0_eachPairing 111 = .ok (.ishl, 1) := dk_120 (dk_at dksX0_eachPairing_4 17 rfl rfl)
theorem dX0_eachPairing_112 : decode cX0_eachPairing 112 = .ok (.iconst (-1), 1) := dk_2 (dk_at dksX0_eachPairing_4 18 rfl rfl)
theorem dX0_eachPairing_113 : decode cX0_eachPairing 113 = .ok (.ixor, 1) := dk_130 (dk_at dksX0_eachPairing_4 19 rfl rfl)
theorem dX0_eachPairing_114 : decode cX0_eachPairing 114 = .ok (.iand, 1) := dk_126 (dk_at dksX0_eachPairing_4 20 rfl rfl)
theorem dX0_eachPairing_115 : decode cX0_eachPairing 115 = .ok (.iload_n 2, 1) := dk_28 (dk_at dksX0_eachPairing_4 21 rfl rfl)
theorem dX0_eachPairing_116 : decode cX0_eachPairing 116 = .ok (.invokevirtual 243, 3) := dk_182 0 243 (dk_at dksX0_eachPairing_5 0 rfl rfl)
theorem dX0_eachPairing_119 : decode cX0_eachPairing 119 = .ok (.iinc 5 1, 3) := dk_132 5 1 (dk_at dksX0_eachPairing_5 3 rfl rfl)
theorem dX0_eachPairing_122 : decode cX0_eachPairing 122 = .ok (.goto (-64), 3) := dk_167 255 192 (dk_at dksX0_eachPairing_5 6 rfl rfl)
theorem dX0_eachPairing_125 : decode cX0_eachPairing 125 = .ok (.return_, 1) := dk_177 (dk_at dksX0_eachPairing_5 9 rfl rfl)
abbrev cX0_looksAt : ByteArray := prog_1_method_37_code
def yX0_looksAt : MethodName := ⟨RX0, "looksAt", "(Z)V"⟩
def dkwX0_looksAt_3 : List UInt8 := [180, 0, 233, 161, 0, 4, 177, 42, 42, 180, 0, 23, 182, 0, 184, 181, 0, 233, 42, 182, 0, 227, 177]
abbrev dktX0_looksAt_3 : List UInt8 := dkwX0_looksAt_3 ++ []
def dkwX0_looksAt_2 : List UInt8 := [182, 0, 103, 42, 180, 0, 23, 42, 180, 0, 230, 182, 0, 181, 42, 180, 0, 23, 182, 0, 184, 42]
abbrev dktX0_looksAt_2 : List UInt8 := dkwX0_looksAt_2 ++ dktX0_looksAt_3
def dkwX0_looksAt_1 : List UInt8 := [182, 0, 227, 42, 89, 180, 0, 224, 4, 96, 181, 0, 224, 177, 42, 180, 0, 23, 42, 180, 0, 20]
abbrev dktX0_looksAt_1 : List UInt8 := dkwX0_looksAt_1 ++ dktX0_looksAt_2
def dkwX0_looksAt_0 : List UInt8 := [27, 153, 0, 36, 42, 180, 0, 20, 182, 0, 220, 154, 0, 4, 177, 42, 180, 0, 224, 154, 0, 7, 42]
abbrev dktX0_looksAt_0 : List UInt8 := dkwX0_looksAt_0 ++ dktX0_looksAt_1
theorem dksX0_looksAt_0 : cX0_looksAt.data.toList.drop 0 = dktX0_looksAt_0 := by decide +kernel
theorem dksX0_looksAt_1 : cX0_looksAt.data.toList.drop 23 = dktX0_looksAt_1 := dk_seg dksX0_looksAt_0 23 rfl rfl
theorem dksX0_looksAt_2 : cX0_looksAt.data.toList.drop 45 = dktX0_looksAt_2 := dk_seg dksX0_looksAt_1 22 rfl rfl
theorem dksX0_looksAt_3 : cX0_looksAt.data.toList.drop 67 = dktX0_looksAt_3 := dk_seg dksX0_looksAt_2 22 rfl rfl
theorem dX0_looksAt_0 : decode cX0_looksAt 0 = .ok (.iload_n 1, 1) := dk_27 (dk_at dksX0_looksAt_0 0 rfl rfl)
theorem dX0_looksAt_1 : decode cX0_looksAt 1 = .ok (.ifCond .eq 36, 3) := dk_153 0 36 (dk_at dksX0_looksAt_0 1 rfl rfl)
theorem dX0_looksAt_4 : decode cX0_looksAt 4 = .ok (.aload_n 0, 1) := dk_42 (dk_at dksX0_looksAt_0 4 rfl rfl)
theorem dX0_looksAt_5 : decode cX0_looksAt 5 = .ok (.getfield 20, 3) := dk_180 0 20 (dk_at dksX0_looksAt_0 5 rfl rfl)
theorem dX0_looksAt_8 : decode cX0_looksAt 8 = .ok (.invokevirtual 220, 3) := dk_182 0 220 (dk_at dksX0_looksAt_0 8 rfl rfl)
theorem dX0_looksAt_11 : decode cX0_looksAt 11 = .ok (.ifCond .ne 4, 3) := dk_154 0 4 (dk_at dksX0_looksAt_0 11 rfl rfl)
theorem dX0_looksAt_14 : decode cX0_looksAt 14 = .ok (.return_, 1) := dk_177 (dk_at dksX0_looksAt_0 14 rfl rfl)
theorem dX0_looksAt_15 : decode cX0_looksAt 15 = .ok (.aload_n 0, 1) := dk_42 (dk_at dksX0_looksAt_0 15 rfl rfl)
theorem dX0_looksAt_16 : decode cX0_looksAt 16 = .ok (.getfield 224, 3) := dk_180 0 224 (dk_at dksX0_looksAt_0 16 rfl rfl)
theorem dX0_looksAt_19 : decode cX0_looksAt 19 = .ok (.ifCond .ne 7, 3) := dk_154 0 7 (dk_at dksX0_looksAt_0 19 rfl rfl)
theorem dX0_looksAt_22 : decode cX0_looksAt 22 = .ok (.aload_n 0, 1) := dk_42 (dk_at dksX0_looksAt_0 22 rfl rfl)
theorem dX0_looksAt_23 : decode cX0_looksAt 23 = .ok (.invokevirtual 227, 3) := dk_182 0 227 (dk_at dksX0_looksAt_1 0 rfl rfl)
theorem dX0_looksAt_26 : decode cX0_looksAt 26 = .ok (.aload_n 0, 1) := dk_42 (dk_at dksX0_looksAt_1 3 rfl rfl)
theorem dX0_looksAt_27 : decode cX0_looksAt 27 = .ok (.dup, 1) := dk_89 (dk_at dksX0_looksAt_1 4 rfl rfl)
theorem dX0_looksAt_28 : decode cX0_looksAt 28 = .ok (.getfield 224, 3) := dk_180 0 224 (dk_at dksX0_looksAt_1 5 rfl rfl)
theorem dX0_looksAt_31 : decode cX0_looksAt 31 = .ok (.iconst 1, 1) := dk_4 (dk_at dksX0_looksAt_1 8 rfl rfl)
theorem dX0_looksAt_32 : decode cX0_looksAt 32 = .ok (.iadd, 1) := dk_96 (dk_at dksX0_looksAt_1 9 rfl rfl)
theorem dX0_looksAt_33 : decode cX0_looksAt 33 = .ok (.putfield 224, 3) := dk_181 0 224 (dk_at dksX0_looksAt_1 10 rfl rfl)
theorem dX0_looksAt_36 : decode cX0_looksAt 36 = .ok (.return_, 1) := dk_177 (dk_at dksX0_looksAt_1 13 rfl rfl)
theorem dX0_looksAt_37 : decode cX0_looksAt 37 = .ok (.aload_n 0, 1) := dk_42 (dk_at dksX0_looksAt_1 14 rfl rfl)
theorem dX0_looksAt_38 : decode cX0_looksAt 38 = .ok (.getfield 23, 3) := dk_180 0 23 (dk_at dksX0_looksAt_1 15 rfl rfl)
theorem dX0_looksAt_41 : decode cX0_looksAt 41 = .ok (.aload_n 0, 1) := dk_42 (dk_at dksX0_looksAt_1 18 rfl rfl)
theorem dX0_looksAt_42 : decode cX0_looksAt 42 = .ok (.getfield 20, 3) := dk_180 0 20 (dk_at dksX0_looksAt_1 19 rfl rfl)
theorem dX0_looksAt_45 : decode cX0_looksAt 45 = .ok (.invokevirtual 103, 3) := dk_182 0 103 (dk_at dksX0_looksAt_2 0 rfl rfl)
theorem dX0_looksAt_48 : decode cX0_looksAt 48 = .ok (.aload_n 0, 1) := dk_42 (dk_at dksX0_looksAt_2 3 rfl rfl)
theorem dX0_looksAt_49 : decode cX0_looksAt 49 = .ok (.getfield 23, 3) := dk_180 0 23 (dk_at dksX0_looksAt_2 4 rfl rfl)
theorem dX0_looksAt_52 : decode cX0_looksAt 52 = .ok (.aload_n 0, 1) := dk_42 (dk_at dksX0_looksAt_2 7 rfl rfl)
theorem dX0_looksAt_53 : decode cX0_looksAt 53 = .ok (.getfield 230, 3) := dk_180 0 230 (dk_at dksX0_looksAt_2 8 rfl rfl)
theorem dX0_looksAt_56 : decode cX0_looksAt 56 = .ok (.invokevirtual 181, 3) := dk_182 0 181 (dk_at dksX0_looksAt_2 11 rfl rfl)
theorem dX0_looksAt_59 : decode cX0_looksAt 59 = .ok (.aload_n 0, 1) := dk_42 (dk_at dksX0_looksAt_2 14 rfl rfl)
theorem dX0_looksAt_60 : decode cX0_looksAt 60 = .ok (.getfield 23, 3) := dk_180 0 23 (dk_at dksX0_looksAt_2 15 rfl rfl)
theorem dX0_looksAt_63 : decode cX0_looksAt 63 = .ok (.invokevirtual 184, 3) := dk_182 0 184 (dk_at dksX0_looksAt_2 18 rfl rfl)
theorem dX0_looksAt_66 : decode cX0_looksAt 66 = .ok (.aload_n 0, 1) := dk_42 (dk_at dksX0_looksAt_2 21 rfl rfl)
theorem dX0_looksAt_67 : decode cX0_looksAt 67 = .ok (.getfield 233, 3) := dk_180 0 233 (dk_at dksX0_looksAt_3 0 rfl rfl)
theorem dX0_looksAt_70 : decode cX0_looksAt 70 = .ok (.if_icmp .lt 4, 3) := dk_161 0 4 (dk_at dksX0_looksAt_3 3 rfl rfl)
theorem dX0_looksAt_73 : decode cX0_looksAt 73 = .ok (.return_, 1) := dk_177 (dk_at dksX0_looksAt_3 6 rfl rfl)
theorem dX0_looksAt_74 : decode cX0_looksAt 74 = .ok (.aload_n 0, 1) := dk_42 (dk_at dksX0_looksAt_3 7 rfl rfl)
theorem dX0_looksAt_75 : decode cX0_looksAt 75 = .ok (.aload_n 0, 1) := dk_42 (dk_at dksX0_looksAt_3 8 rfl rfl)
theorem dX0_looksAt_76 : decode cX0_looksAt 76 = .ok (.getfield 23, 3) := dk_180 0 23 (dk_at dksX0_looksAt_3 9 rfl rfl)
theorem dX0_looksAt_79 : decode cX0_looksAt 79 = .ok (.invokevirtual 184, 3) := dk_182 0 184 (dk_at dksX0_looksAt_3 12 rfl rfl)
theorem dX0_looksAt_82 : decode cX0_looksAt 82 = .ok (.putfield 233, 3) := dk_181 0 233 (dk_at dksX0_looksAt_3 15 rfl rfl)
theorem dX0_looksAt_85 : decode cX0_looksAt 85 = .ok (.aload_n 0, 1) := dk_42 (dk_at dksX0_looksAt_3 18 rfl rfl)
theorem dX0_looksAt_86 : decode cX0_looksAt 86 = .ok (.invokevirtual 227, 3) := dk_182 0 227 (dk_at dksX0_looksAt_3 19 rfl rfl)
theorem dX0_looksAt_89 : decode cX0_looksAt 89 = .ok (.return_, 1) := dk_177 (dk_at dksX0_looksAt_3 22 rfl rfl)
abbrev cX0_keepsPairing : ByteArray := prog_1_method_36_code
def yX0_keepsPairing : MethodName := ⟨RX0, "keepsPairing", "()V"⟩
def dkwX0_keepsPairing_0 : List UInt8 := [42, 180, 0, 20, 180, 0, 94, 3, 42, 180, 0, 36, 3, 16, 6, 184, 0, 214, 177]
abbrev dktX0_keepsPairing_0 : List UInt8 := dkwX0_keepsPairing_0 ++ []
theorem dksX0_keepsPairing_0 : cX0_keepsPairing.data.toList.drop 0 = dktX0_keepsPairing_0 := by decide +kernel
theorem dX0_keepsPairing_0 : decode cX0_keepsPairing 0 = .ok (.aload_n 0, 1) := dk_42 (dk_at dksX0_keepsPairing_0 0 rfl rfl)
theorem dX0_keepsPairing_1 : decode cX0_keepsPairing 1 = .ok (.getfield 20, 3) := dk_180 0 20 (dk_at dksX0_keepsPairing_0 1 rfl rfl)
theorem dX0_keepsPairing_4 : decode cX0_keepsPairing 4 = .ok (.getfield 94, 3) := dk_180 0 94 (dk_at dksX0_keepsPairing_0 4 rfl rfl)
theorem dX0_keepsPairing_7 : decode cX0_keepsPairing 7 = .ok (.iconst 0, 1) := dk_3 (dk_at dksX0_keepsPairing_0 7 rfl rfl)
theorem dX0_keepsPairing_8 : decode cX0_keepsPairing 8 = .ok (.aload_n 0, 1) := dk_42 (dk_at dksX0_keepsPairing_0 8 rfl rfl)
theorem dX0_keepsPairing_9 : decode cX0_keepsPairing 9 = .ok (.getfield 36, 3) := dk_180 0 36 (dk_at dksX0_keepsPairing_0 9 rfl rfl)
theorem dX0_keepsPairing_12 : decode cX0_keepsPairing 12 = .ok (.iconst 0, 1) := dk_3 (dk_at dksX0_keepsPairing_0 12 rfl rfl)
theorem dX0_keepsPairing_13 : decode cX0_keepsPairing 13 = .ok (.bipush 6, 2) := dk_16 6 (dk_at dksX0_keepsPairing_0 13 rfl rfl)
theorem dX0_keepsPairing_15 : decode cX0_keepsPairing 15 = .ok (.invokestatic 214, 3) := dk_184 0 214 (dk_at dksX0_keepsPairing_0 15 rfl rfl)
theorem dX0_keepsPairing_18 : decode cX0_keepsPairing 18 = .ok (.return_, 1) := dk_177 (dk_at dksX0_keepsPairing_0 18 rfl rfl)
abbrev cX0_bestPairing : ByteArray := prog_1_method_41_code
def yX0_bestPairing : MethodName := ⟨RX0, "bestPairing", "(II)I"⟩
def dkwX0_bestPairing_2 : List UInt8 := [180, 0, 233, 167, 0, 9, 42, 180, 0, 36, 28, 46, 172]
abbrev dktX0_bestPairing_2 : List UInt8 := dkwX0_bestPairing_2 ++ []
def dkwX0_bestPairing_1 : List UInt8 := [153, 0, 9, 42, 29, 182, 0, 48, 172, 42, 27, 181, 0, 230, 42, 3, 182, 0, 247, 28, 156, 0, 10, 42]
abbrev dktX0_bestPairing_1 : List UInt8 := dkwX0_bestPairing_1 ++ dktX0_bestPairing_2
def dkwX0_bestPairing_0 : List UInt8 := [28, 2, 159, 0, 11, 42, 28, 182, 0, 82, 153, 0, 10, 27, 184, 0, 185, 167, 0, 4, 2, 62, 29]
abbrev dktX0_bestPairing_0 : List UInt8 := dkwX0_bestPairing_0 ++ dktX0_bestPairing_1
theorem dksX0_bestPairing_0 : cX0_bestPairing.data.toList.drop 0 = dktX0_bestPairing_0 := by decide +kernel
theorem dksX0_bestPairing_1 : cX0_bestPairing.data.toList.drop 23 = dktX0_bestPairing_1 := dk_seg dksX0_bestPairing_0 23 rfl rfl
theorem dksX0_bestPairing_2 : cX0_bestPairing.data.toList.drop 47 = dktX0_bestPairing_2 := dk_seg dksX0_bestPairing_1 24 rfl rfl
theorem dX0_bestPairing_0 : decode cX0_bestPairing 0 = .ok (.iload_n 2, 1) := dk_28 (dk_at dksX0_bestPairing_0 0 rfl rfl)
theorem dX0_bestPairing_1 : decode cX0_bestPairing 1 = .ok (.iconst (-1), 1) := dk_2 (dk_at dksX0_bestPairing_0 1 rfl rfl)
theorem dX0_bestPairing_2 : decode cX0_bestPairing 2 = .ok (.if_icmp .eq 11, 3) := dk_159 0 11 (dk_at dksX0_bestPairing_0 2 rfl rfl)
theorem dX0_bestPairing_5 : decode cX0_bestPairing 5 = .ok (.aload_n 0, 1) := dk_42 (dk_at dksX0_bestPairing_0 5 rfl rfl)
theorem dX0_bestPairing_6 : decode cX0_bestPairing 6 = .ok (.iload_n 2, 1) := dk_28 (dk_at dksX0_bestPairing_0 6 rfl rfl)
theorem dX0_bestPairing_7 : decode cX0_bestPairing 7 = .ok (.invokevirtual 82, 3) := dk_182 0 82 (dk_at dksX0_bestPairing_0 7 rfl rfl)
theorem dX0_bestPairing_10 : decode cX0_bestPairing 10 = .ok (.ifCond .eq 10, 3) := dk_153 0 10 (dk_at dksX0_bestPairing_0 10 rfl rfl)
theorem dX0_bestPairing_13 : decode cX0_bestPairing 13 = .ok (.iload_n 1, 1) := dk_27 (dk_at dksX0_bestPairing_0 13 rfl rfl)
theorem dX0_bestPairing_14 : decode cX0_bestPairing 14 = .ok (.invokestatic 185, 3) := dk_184 0 185 (dk_at dksX0_bestPairing_0 14 rfl rfl)
theorem dX0_bestPairing_17 : decode cX0_bestPairing 17 = .ok (.goto 4, 3) := dk_167 0 4 (dk_at dksX0_bestPairing_0 17 rfl rfl)
theorem dX0_bestPairing_20 : decode cX0_bestPairing 20 = .ok (.iconst (-1), 1) := dk_2 (dk_at dksX0_bestPairing_0 20 rfl rfl)
theorem dX0_bestPairing_21 : decode cX0_bestPairing 21 = .ok (.istore_n 3, 1) := dk_62 (dk_at dksX0_bestPairing_0 21 rfl rfl)
theorem dX0_bestPairing_22 : decode cX0_bestPairing 22 = .ok (.iload_n 3, 1) := dk_29 (dk_at dksX0_bestPairing_0 22 rfl rfl)
theorem dX0_bestPairing_23 : decode cX0_bestPairing 23 = .ok (.ifCond .eq 9, 3) := dk_153 0 9 (dk_at dksX0_bestPairing_1 0 rfl rfl)
theorem dX0_bestPairing_26 : decode cX0_bestPairing 26 = .ok (.aload_n 0, 1) := dk_42 (dk_at dksX0_bestPairing_1 3 rfl rfl)
theorem dX0_bestPairing_27 : decode cX0_bestPairing 27 = .ok (.iload_n 3, 1) := dk_29 (dk_at dksX0_bestPairing_1 4 rfl rfl)
theorem dX0_bestPairing_28 : decode cX0_bestPairing 28 = .ok (.invokevirtual 48, 3) := dk_182 0 48 (dk_at dksX0_bestPairing_1 5 rfl rfl)
theorem dX0_bestPairing_31 : decode cX0_bestPairing 31 = .ok (.ireturn, 1) := dk_172 (dk_at dksX0_bestPairing_1 8 rfl rfl)
theorem dX0_bestPairing_32 : decode cX0_bestPairing 32 = .ok (.aload_n 0, 1) := dk_42 (dk_at dksX0_bestPairing_1 9 rfl rfl)
theorem dX0_bestPairing_33 : decode cX0_bestPairing 33 = .ok (.iload_n 1, 1) := dk_27 (dk_at dksX0_bestPairing_1 10 rfl rfl)
theorem dX0_bestPairing_34 : decode cX0_bestPairing 34 = .ok (.putfield 230, 3) := dk_181 0 230 (dk_at dksX0_bestPairing_1 11 rfl rfl)
theorem dX0_bestPairing_37 : decode cX0_bestPairing 37 = .ok (.aload_n 0, 1) := dk_42 (dk_at dksX0_bestPairing_1 14 rfl rfl)
theorem dX0_bestPairing_38 : decode cX0_bestPairing 38 = .ok (.iconst 0, 1) := dk_3 (dk_at dksX0_bestPairing_1 15 rfl rfl)
theorem dX0_bestPairing_39 : decode cX0_bestPairing 39 = .ok (.invokevirtual 247, 3) := dk_182 0 247 (dk_at dksX0_bestPairing_1 16 rfl rfl)
theorem dX0_bestPairing_42 : decode cX0_bestPairing 42 = .ok (.iload_n 2, 1) := dk_28 (dk_at dksX0_bestPairing_1 19 rfl rfl)
theorem dX0_bestPairing_43 : decode cX0_bestPairing 43 = .ok (.ifCond .ge 10, 3) := dk_156 0 10 (dk_at dksX0_bestPairing_1 20 rfl rfl)
theorem dX0_bestPairing_46 : decode cX0_bestPairing 46 = .ok (.aload_n 0, 1) := dk_42 (dk_at dksX0_bestPairing_1 23 rfl rfl)
theorem dX0_bestPairing_47 : decode cX0_bestPairing 47 = .ok (.getfield 233, 3) := dk_180 0 233 (dk_at dksX0_bestPairing_2 0 rfl rfl)
theorem dX0_bestPairing_50 : decode cX0_bestPairing 50 = .ok (.goto 9, 3) := dk_167 0 9 (dk_at dksX0_bestPairing_2 3 rfl rfl)
theorem dX0_bestPairing_53 : decode cX0_bestPairing 53 = .ok (.aload_n 0, 1) := dk_42 (dk_at dksX0_bestPairing_2 6 rfl rfl)
theorem dX0_bestPairing_54 : decode cX0_bestPairing 54 = .ok (.getfield 36, 3) := dk_180 0 36 (dk_at dksX0_bestPairing_2 7 rfl rfl)
theorem dX0_bestPairing_57 : decode cX0_bestPairing 57 = .ok (.iload_n 2, 1) := dk_28 (dk_at dksX0_bestPairing_2 10 rfl rfl)
theorem dX0_bestPairing_58 : decode cX0_bestPairing 58 = .ok (.iaload, 1) := dk_46 (dk_at dksX0_bestPairing_2 11 rfl rfl)
theorem dX0_bestPairing_59 : decode cX0_bestPairing 59 = .ok (.ireturn, 1) := dk_172 (dk_at dksX0_bestPairing_2 12 rfl rfl)
abbrev cX0_soonest : ByteArray := prog_1_method_42_code
def yX0_soonest : MethodName := ⟨RX0, "soonest", "(II)I"⟩
def dkwX0_soonest_1 : List UInt8 := [182, 0, 103, 42, 180, 0, 20, 27, 28, 182, 0, 100, 42, 27, 28, 182, 0, 199, 184, 0, 202, 172]
abbrev dktX0_soonest_1 : List UInt8 := dkwX0_soonest_1 ++ []
def dkwX0_soonest_0 : List UInt8 := [42, 27, 28, 182, 0, 146, 154, 0, 9, 42, 2, 182, 0, 48, 172, 42, 180, 0, 20, 42, 180, 0, 16]
abbrev dktX0_soonest_0 : List UInt8 := dkwX0_soonest_0 ++ dktX0_soonest_1
theorem dksX0_soonest_0 : cX0_soonest.data.toList.drop 0 = dktX0_soonest_0 := by decide +kernel
theorem dksX0_soonest_1 : cX0_soonest.data.toList.drop 23 = dktX0_soonest_1 := dk_seg dksX0_soonest_0 23 rfl rfl
theorem dX0_soonest_0 : decode cX0_soonest 0 = .ok (.aload_n 0, 1) := dk_42 (dk_at dksX0_soonest_0 0 rfl rfl)
theorem dX0_soonest_1 : decode cX0_soonest 1 = .ok (.iload_n 1, 1) := dk_27 (dk_at dksX0_soonest_0 1 rfl rfl)
theorem dX0_soonest_2 : decode cX0_soonest 2 = .ok (.iload_n 2, 1) := dk_28 (dk_at dksX0_soonest_0 2 rfl rfl)
theorem dX0_soonest_3 : decode cX0_soonest 3 = .ok (.invokevirtual 146, 3) := dk_182 0 146 (dk_at dksX0_soonest_0 3 rfl rfl)
theorem dX0_soonest_6 : decode cX0_soonest 6 = .ok (.ifCond .ne 9, 3) := dk_154 0 9 (dk_at dksX0_soonest_0 6 rfl rfl)
theorem dX0_soonest_9 : decode cX0_soonest 9 = .ok (.aload_n 0, 1) := dk_42 (dk_at dksX0_soonest_0 9 rfl rfl)
theorem dX0_soonest_10 : decode cX0_soonest 10 = .ok (.iconst (-1), 1) := dk_2 (dk_at dksX0_soonest_0 10 rfl rfl)
theorem dX0_soonest_11 : decode cX0_soonest 11 = .ok (.invokevirtual 48, 3) := dk_182 0 48 (dk_at dksX0_soonest_0 11 rfl rfl)
theorem dX0_soonest_14 : decode cX0_soonest 14 = .ok (.ireturn, 1) := dk_172 (dk_at dksX0_soonest_0 14 rfl rfl)
theorem dX0_soonest_15 : decode cX0_soonest 15 = .ok (.aload_n 0, 1) := dk_42 (dk_at dksX0_soonest_0 15 rfl rfl)
theorem dX0_soonest_16 : decode cX0_soonest 16 = .ok (.getfield 20, 3) := dk_180 0 20 (dk_at dksX0_soonest_0 16 rfl rfl)
theorem dX0_soonest_19 : decode cX0_soonest 19 = .ok (.aload_n 0, 1) := dk_42 (dk_at dksX0_soonest_0 19 rfl rfl)
theorem dX0_soonest_20 : decode cX0_soonest 20 = .ok (.getfield 16, 3) := dk_180 0 16 (dk_at dksX0_soonest_0 20 rfl rfl)
theorem dX0_soonest_23 : decode cX0_soonest 23 = .ok (.invokevirtual 103, 3) := dk_182 0 103 (dk_at dksX0_soonest_1 0 rfl rfl)
theorem dX0_soonest_26 : decode cX0_soonest 26 = .ok (.aload_n 0, 1) := dk_42 (dk_at dksX0_soonest_1 3 rfl rfl)
theorem dX0_soonest_27 : decode cX0_soonest 27 = .ok (.getfield 20, 3) := dk_180 0 20 (dk_at dksX0_soonest_1 4 rfl rfl)
theorem dX0_soonest_30 : decode cX0_soonest 30 = .ok (.iload_n 1, 1) := dk_27 (dk_at dksX0_soonest_1 7 rfl rfl)
theorem dX0_soonest_31 : decode cX0_soonest 31 = .ok (.iload_n 2, 1) := dk_28 (dk_at dksX0_soonest_1 8 rfl rfl)
theorem dX0_soonest_32 : decode cX0_soonest 32 = .ok (.invokevirtual 100, 3) := dk_182 0 100 (dk_at dksX0_soonest_1 9 rfl rfl)
theorem dX0_soonest_35 : decode cX0_soonest 35 = .ok (.aload_n 0, 1) := dk_42 (dk_at dksX0_soonest_1 12 rfl rfl)
theorem dX0_soonest_36 : decode cX0_soonest 36 = .ok (.iload_n 1, 1) := dk_27 (dk_at dksX0_soonest_1 13 rfl rfl)
theorem dX0_soonest_37 : decode cX0_soonest 37 = .ok (.iload_n 2, 1) := dk_28 (dk_at dksX0_soonest_1 14 rfl rfl)
theorem dX0_soonest_38 : decode cX0_soonest 38 = .ok (.invokevirtual 199, 3) := dk_182 0 199 (dk_at dksX0_soonest_1 15 rfl rfl)
theorem dX0_soonest_41 : decode cX0_soonest 41 = .ok (.invokestatic 202, 3) := dk_184 0 202 (dk_at dksX0_soonest_1 18 rfl rfl)
theorem dX0_soonest_44 : decode cX0_soonest 44 = .ok (.ireturn, 1) := dk_172 (dk_at dksX0_soonest_1 21 rfl rfl)
abbrev cX0_mateFor : ByteArray := prog_1_method_44_code
def yX0_mateFor : MethodName := ⟨RX0, "mateFor", "(II)I"⟩
def dkwX0_mateFor_3 : List UInt8 := [182, 0, 253, 153, 0, 12, 21, 4, 4, 21, 5, 120, 128, 54, 4, 132, 5, 1, 167, 255, 219, 21, 4, 172]
abbrev dktX0_mateFor_3 : List UInt8 := dkwX0_mateFor_3 ++ []
def dkwX0_mateFor_2 : List UInt8 := [54, 4, 3, 54, 5, 21, 5, 42, 180, 0, 16, 182, 0, 74, 162, 0, 31, 42, 180, 0, 16, 21, 5, 27]
abbrev dktX0_mateFor_2 : List UInt8 := dkwX0_mateFor_2 ++ dktX0_mateFor_3
def dkwX0_mateFor_1 : List UInt8 := [16, 254, 62, 29, 153, 0, 9, 42, 29, 182, 0, 48, 172, 28, 154, 0, 9, 42, 27, 182, 0, 250, 172, 3]
abbrev dktX0_mateFor_1 : List UInt8 := dkwX0_mateFor_1 ++ dktX0_mateFor_2
def dkwX0_mateFor_0 : List UInt8 := [42, 27, 182, 0, 82, 154, 0, 7, 2, 167, 0, 17, 28, 5, 184, 0, 78, 153, 0, 7, 3, 167, 0, 5]
abbrev dktX0_mateFor_0 : List UInt8 := dkwX0_mateFor_0 ++ dktX0_mateFor_1
theorem dksX0_mateFor_0 : cX0_mateFor.data.toList.drop 0 = dktX0_mateFor_0 := by decide +kernel
theorem dksX0_mateFor_1 : cX0_mateFor.data.toList.drop 24 = dktX0_mateFor_1 := dk_seg dksX0_mateFor_0 24 rfl rfl
theorem dksX0_mateFor_2 : cX0_mateFor.data.toList.drop 48 = dktX0_mateFor_2 := dk_seg dksX0_mateFor_1 24 rfl rfl
theorem dksX0_mateFor_3 : cX0_mateFor.data.toList.drop 72 = dktX0_mateFor_3 := dk_seg dksX0_mateFor_2 24 rfl rfl
theorem dX0_mateFor_0 : decode cX0_mateFor 0 = .ok (.aload_n 0, 1) := dk_42 (dk_at dksX0_mateFor_0 0 rfl rfl)
theorem dX0_mateFor_1 : decode cX0_mateFor 1 = .ok (.iload_n 1, 1) := dk_27 (dk_at dksX0_mateFor_0 1 rfl rfl)
theorem dX0_mateFor_2 : decode cX0_mateFor 2 = .ok (.invokevirtual 82, 3) := dk_182 0 82 (dk_at dksX0_mateFor_0 2 rfl rfl)
theorem dX0_mateFor_5 : decode cX0_mateFor 5 = .ok (.ifCond .ne 7, 3) := dk_154 0 7 (dk_at dksX0_mateFor_0 5 rfl rfl)
theorem dX0_mateFor_8 : decode cX0_mateFor 8 = .ok (.iconst (-1), 1) := dk_2 (dk_at dksX0_mateFor_0 8 rfl rfl)
theorem dX0_mateFor_9 : decode cX0_mateFor 9 = .ok (.goto 17, 3) := dk_167 0 17 (dk_at dksX0_mateFor_0 9 rfl rfl)
theorem dX0_mateFor_12 : decode cX0_mateFor 12 = .ok (.iload_n 2, 1) := dk_28 (dk_at dksX0_mateFor_0 12 rfl rfl)
theorem dX0_mateFor_13 : decode cX0_mateFor 13 = .ok (.iconst 2, 1) := dk_5 (dk_at dksX0_mateFor_0 13 rfl rfl)
theorem dX0_mateFor_14 : decode cX0_mateFor 14 = .ok (.invokestatic 78, 3) := dk_184 0 78 (dk_at dksX0_mateFor_0 14 rfl rfl)
theorem dX0_mateFor_17 : decode cX0_mateFor 17 = .ok (.ifCond .eq 7, 3) := dk_153 0 7 (dk_at dksX0_mateFor_0 17 rfl rfl)
theorem dX0_mateFor_20 : decode cX0_mateFor 20 = .ok (.iconst 0, 1) := dk_3 (dk_at dksX0_mateFor_0 20 rfl rfl)
theorem dX0_mateFor_21 : decode cX0_mateFor 21 = .ok (.goto 5, 3) := dk_167 0 5 (dk_at dksX0_mateFor_0 21 rfl rfl)
theorem dX0_mateFor_24 : decode cX0_mateFor 24 = .ok (.bipush (-2), 2) := dk_16 254 (dk_at dksX0_mateFor_1 0 rfl rfl)
theorem dX0_mateFor_26 : decode cX0_mateFor 26 = .ok (.istore_n 3, 1) := dk_62 (dk_at dksX0_mateFor_1 2 rfl rfl)
theorem dX0_mateFor_27 : decode cX0_mateFor 27 = .ok (.iload_n 3, 1) := dk_29 (dk_at dksX0_mateFor_1 3 rfl rfl)
theorem dX0_mateFor_28 : decode cX0_mateFor 28 = .ok (.ifCond .eq 9, 3) := dk_153 0 9 (dk_at dksX0_mateFor_1 4 rfl rfl)
theorem dX0_mateFor_31 : decode cX0_mateFor 31 = .ok (.aload_n 0, 1) := dk_42 (dk_at dksX0_mateFor_1 7 rfl rfl)
theorem dX0_mateFor_32 : decode cX0_mateFor 32 = .ok (.iload_n 3, 1) := dk_29 (dk_at dksX0_mateFor_1 8 rfl rfl)
theorem dX0_mateFor_33 : decode cX0_mateFor 33 = .ok (.invokevirtual 48, 3) := dk_182 0 48 (dk_at dksX0_mateFor_1 9 rfl rfl)
theorem dX0_mateFor_36 : decode cX0_mateFor 36 = .ok (.ireturn, 1) := dk_172 (dk_at dksX0_mateFor_1 12 rfl rfl)
theorem dX0_mateFor_37 : decode cX0_mateFor 37 = .ok (.iload_n 2, 1) := dk_28 (dk_at dksX0_mateFor_1 13 rfl rfl)
theorem dX0_mateFor_38 : decode cX0_mateFor 38 = .ok (.ifCond .ne 9, 3) := dk_154 0 9 (dk_at dksX0_mateFor_1 14 rfl rfl)
theorem dX0_mateFor_41 : decode cX0_mateFor 41 = .ok (.aload_n 0, 1) := dk_42 (dk_at dksX0_mateFor_1 17 rfl rfl)
theorem dX0_mateFor_42 : decode cX0_mateFor 42 = .ok (.iload_n 1, 1) := dk_27 (dk_at dksX0_mateFor_1 18 rfl rfl)
theorem dX0_mateFor_43 : decode cX0_mateFor 43 = .ok (.invokevirtual 250, 3) := dk_182 0 250 (dk_at dksX0_mateFor_1 19 rfl rfl)
theorem dX0_mateFor_46 : decode cX0_mateFor 46 = .ok (.ireturn, 1) := dk_172 (dk_at dksX0_mateFor_1 22 rfl rfl)
theorem dX0_mateFor_47 : decode cX0_mateFor 47 = .ok (.iconst 0, 1) := dk_3 (dk_at dksX0_mateFor_1 23 rfl rfl)
theorem dX0_mateFor_48 : decode cX0_mateFor 48 = .ok (.istore 4, 2) := dk_54 4 (dk_at dksX0_mateFor_2 0 rfl rfl)
theorem dX0_mateFor_50 : decode cX0_mateFor 50 = .ok (.iconst 0, 1) := dk_3 (dk_at dksX0_mateFor_2 2 rfl rfl)
theorem dX0_mateFor_51 : decode cX0_mateFor 51 = .ok (.istore 5, 2) := dk_54 5 (dk_at dksX0_mateFor_2 3 rfl rfl)
theorem dX0_mateFor_53 : decode cX0_mateFor 53 = .ok (.iload 5, 2) := dk_21 5 (dk_at dksX0_mateFor_2 5 rfl rfl)
theorem dX0_mateFor_55 : decode cX0_mateFor 55 = .ok (.aload_n 0, 1) := dk_42 (dk_at dksX0_mateFor_2 7 rfl rfl)
theorem dX0_mateFor_56 : decode cX0_mateFor 56 = .ok (.getfield 16, 3) := dk_180 0 16 (dk_at dksX0_mateFor_2 8 rfl rfl)
theorem dX0_mateFor_59 : decode cX0_mateFor 59 = .ok (.invokevirtual 74, 3) := dk_182 0 74 (dk_at dksX0_mateFor_2 11 rfl rfl)
theorem dX0_mateFor_62 : decode cX0_mateFor 62 = .ok (.if_icmp .ge 31, 3) := dk_162 0 31 (dk_at dksX0_mateFor_2 14 rfl rfl)
theorem dX0_mateFor_65 : decode cX0_mateFor 65 = .ok (.aload_n 0, 1) := dk_42 (dk_at dksX0_mateFor_2 17 rfl rfl)
theorem dX0_mateFor_66 : decode cX0_mateFor 66 = .ok (.getfield 16, 3) := dk_180 0 16 (dk_at dksX0_mateFor_2 18 rfl rfl)
theorem dX0_mateFor_69 : decode cX0_mateFor 69 = .ok (.iload 5, 2) := dk_21 5 (dk_at dksX0_mateFor_2 21 rfl rfl)
theorem dX0_mateFor_71 : decode cX0_mateFor 71 = .ok (.iload_n 1, 1) := dk_27 (dk_at dksX0_mateFor_2 23 rfl rfl)
theorem dX0_mateFor_72 : decode cX0_mateFor 72 = .ok (.invokevirtual 253, 3) := dk_182 0 253 (dk_at dksX0_mateFor_3 0 rfl rfl)
theorem dX0_mateFor_75 : decode cX0_mateFor 75 = .ok (.ifCond .eq 12, 3) := dk_153 0 12 (dk_at dksX0_mateFor_3 3 rfl rfl)
theorem dX0_mateFor_78 : decode cX0_mateFor 78 = .ok (.iload 4, 2) := dk_21 4 (dk_at dksX0_mateFor_3 6 rfl rfl)
theorem dX0_mateFor_80 : decode cX0_mateFor 80 = .ok (.iconst 1, 1) := dk_4 (dk_at dksX0_mateFor_3 8 rfl rfl)
theorem dX0_mateFor_81 : decode cX0_mateFor 81 = .ok (.iload 5, 2) := dk_21 5 (dk_at dksX0_mateFor_3 9 rfl rfl)
theorem dX0_mateFor_83 : decode cX0_mateFor 83 = .ok (.ishl, 1) := dk_120 (dk_at dksX0_mateFor_3 11 rfl rfl)
theorem dX0_mateFor_84 : decode cX0_mateFor 84 = .ok (.ior, 1) := dk_128 (dk_at dksX0_mateFor_3 12 rfl rfl)
theorem dX0_mateFor_85 : decode cX0_mateFor 85 = .ok (.istore 4, 2) := dk_54 4 (dk_at dksX0_mateFor_3 13 rfl rfl)
theorem dX0_mateFor_87 : decode cX0_mateFor 87 = .ok (.iinc 5 1, 3) := dk_132 5 1 (dk_at dksX0_mateFor_3 15 rfl rfl)
theorem dX0_mateFor_90 : decode cX0_mateFor 90 = .ok (.goto (-37), 3) := dk_167 255 219 (dk_at dksX0_mateFor_3 18 rfl rfl)
theorem dX0_mateFor_93 : decode cX0_mateFor 93 = .ok (.iload 4, 2) := dk_21 4 (dk_at dksX0_mateFor_3 21 rfl rfl)
theorem dX0_mateFor_95 : decode cX0_mateFor 95 = .ok (.ireturn, 1) := dk_172 (dk_at dksX0_mateFor_3 23 rfl rfl)
abbrev cX0_favourite : ByteArray := prog_1_method_43_code
def yX0_favourite : MethodName := ⟨RX0, "favourite", "(I)I"⟩
def dkwX0_favourite_2 : List UInt8 := [29, 61, 132, 3, 1, 167, 255, 210, 28, 172]
abbrev dktX0_favourite_2 : List UInt8 := dkwX0_favourite_2 ++ []
def dkwX0_favourite_1 : List UInt8 := [155, 0, 24, 42, 180, 0, 16, 27, 29, 182, 0, 153, 42, 180, 0, 16, 27, 28, 182, 0, 153, 164, 0, 5]
abbrev dktX0_favourite_1 : List UInt8 := dkwX0_favourite_1 ++ dktX0_favourite_2
def dkwX0_favourite_0 : List UInt8 := [16, 247, 61, 3, 62, 29, 42, 180, 0, 16, 182, 0, 74, 162, 0, 41, 29, 27, 159, 0, 30, 28]
abbrev dktX0_favourite_0 : List UInt8 := dkwX0_favourite_0 ++ dktX0_favourite_1
theorem dksX0_favourite_0 : cX0_favourite.data.toList.drop 0 = dktX0_favourite_0 := by decide +kernel
theorem dksX0_favourite_1 : cX0_favourite.data.toList.drop 22 = dktX0_favourite_1 := dk_seg dksX0_favourite_0 22 rfl rfl
theorem dksX0_favourite_2 : cX0_favourite.data.toList.drop 46 = dktX0_favourite_2 := dk_seg dksX0_favourite_1 24 rfl rfl
theorem dX0_favourite_0 : decode cX0_favourite 0 = .ok (.bipush (-9), 2) := dk_16 247 (dk_at dksX0_favourite_0 0 rfl rfl)
theorem dX0_favourite_2 : decode cX0_favourite 2 = .ok (.istore_n 2, 1) := dk_61 (dk_at dksX0_favourite_0 2 rfl rfl)
theorem dX0_favourite_3 : decode cX0_favourite 3 = .ok (.iconst 0, 1) := dk_3 (dk_at dksX0_favourite_0 3 rfl rfl)
theorem dX0_favourite_4 : decode cX0_favourite 4 = .ok (.istore_n 3, 1) := dk_62 (dk_at dksX0_favourite_0 4 rfl rfl)
theorem dX0_favourite_5 : decode cX0_favourite 5 = .ok (.iload_n 3, 1) := dk_29 (dk_at dksX0_favourite_0 5 rfl rfl)
theorem dX0_favourite_6 : decode cX0_favourite 6 = .ok (.aload_n 0, 1) := dk_42 (dk_at dksX0_favourite_0 6 rfl rfl)
theorem dX0_favourite_7 : decode cX0_favourite 7 = .ok (.getfield 16, 3) := dk_180 0 16 (dk_at dksX0_favourite_0 7 rfl rfl)
theorem dX0_favourite_10 : decode cX0_favourite 10 = .ok (.invokevirtual 74, 3) := dk_182 0 74 (dk_at dksX0_favourite_0 10 rfl rfl)
theorem dX0_favourite_13 : decode cX0_favourite 13 = .ok (.if_icmp .ge 41, 3) := dk_162 0 41 (dk_at dksX0_favourite_0 13 rfl rfl)
theorem dX0_favourite_16 : decode cX0_favourite 16 = .ok (.iload_n 3, 1) := dk_29 (dk_at dksX0_favourite_0 16 rfl rfl)
theorem dX0_favourite_17 : decode cX0_favourite 17 = .ok (.iload_n 1, 1) := dk_27 (dk_at dksX0_favourite_0 17 rfl rfl)
theorem dX0_favourite_18 : decode cX0_favourite 18 = .ok (.if_icmp .eq 30, 3) := dk_159 0 30 (dk_at dksX0_favourite_0 18 rfl rfl)
theorem dX0_favourite_21 : decode cX0_favourite 21 = .ok (.iload_n 2, 1) := dk_28 (dk_at dksX0_favourite_0 21 rfl rfl)
theorem dX0_favourite_22 : decode cX0_favourite 22 = .ok (.ifCond .lt 24, 3) := dk_155 0 24 (dk_at dksX0_favourite_1 0 rfl rfl)
theorem dX0_favourite_25 : decode cX0_favourite 25 = .ok (.aload_n 0, 1) := dk_42 (dk_at dksX0_favourite_1 3 rfl rfl)
theorem dX0_favourite_26 : decode cX0_favourite 26 = .ok (.getfield 16, 3) := dk_180 0 16 (dk_at dksX0_favourite_1 4 rfl rfl)
theorem dX0_favourite_29 : decode cX0_favourite 29 = .ok (.iload_n 1, 1) := dk_27 (dk_at dksX0_favourite_1 7 rfl rfl)
theorem dX0_favourite_30 : decode cX0_favourite 30 = .ok (.iload_n 3, 1) := dk_29 (dk_at dksX0_favourite_1 8 rfl rfl)
theorem dX0_favourite_31 : decode cX0_favourite 31 = .ok (.invokevirtual 153, 3) := dk_182 0 153 (dk_at dksX0_favourite_1 9 rfl rfl)
theorem dX0_favourite_34 : decode cX0_favourite 34 = .ok (.aload_n 0, 1) := dk_42 (dk_at dksX0_favourite_1 12 rfl rfl)
theorem dX0_favourite_35 : decode cX0_favourite 35 = .ok (.getfield 16, 3) := dk_180 0 16 (dk_at dksX0_favourite_1 13 rfl rfl)
theorem dX0_favourite_38 : decode cX0_favourite 38 = .ok (.iload_n 1, 1) := dk_27 (dk_at dksX0_favourite_1 16 rfl rfl)
theorem dX0_favourite_39 : decode cX0_favourite 39 = .ok (.iload_n 2, 1) := dk_28 (dk_at dksX0_favourite_1 17 rfl rfl)
theorem dX0_favourite_40 : decode cX0_favourite 40 = .ok (.invokevirtual 153, 3) := dk_182 0 153 (dk_at dksX0_favourite_1 18 rfl rfl)
theorem dX0_favourite_43 : decode cX0_favourite 43 = .ok (.if_icmp .le 5, 3) := dk_164 0 5 (dk_at dksX0_favourite_1 21 rfl rfl)
theorem dX0_favourite_46 : decode cX0_favourite 46 = .ok (.iload_n 3, 1) := dk_29 (dk_at dksX0_favourite_2 0 rfl rfl)
theorem dX0_favourite_47 : decode cX0_favourite 47 = .ok (.istore_n 2, 1) := dk_61 (dk_at dksX0_favourite_2 1 rfl rfl)
theorem dX0_favourite_48 : decode cX0_favourite 48 = .ok (.iinc 3 1, 3) := dk_132 3 1 (dk_at dksX0_favourite_2 2 rfl rfl)
theorem dX0_favourite_51 : decode cX0_favourite 51 = .ok (.goto (-46), 3) := dk_167 255 210 (dk_at dksX0_favourite_2 5 rfl rfl)
theorem dX0_favourite_54 : decode cX0_favourite 54 = .ok (.iload_n 2, 1) := dk_28 (dk_at dksX0_favourite_2 8 rfl rfl)
theorem dX0_favourite_55 : decode cX0_favourite 55 = .ok (.ireturn, 1) := dk_172 (dk_at dksX0_favourite_2 9 rfl rfl)
abbrev cX0_hoursFor : ByteArray := prog_1_method_45_code
def yX0_hoursFor : MethodName := ⟨RX0, "hoursFor", "(II)I"⟩
def dkwX0_hoursFor_7 : List UInt8 := [21, 6, 184, 0, 202, 172]
abbrev dktX0_hoursFor_7 : List UInt8 := dkwX0_hoursFor_7 ++ []
def dkwX0_hoursFor_6 : List UInt8 := [21, 7, 54, 5, 21, 8, 54, 6, 132, 7, 1, 167, 255, 170, 28, 154, 0, 8, 21, 5, 167, 0, 8]
abbrev dktX0_hoursFor_6 : List UInt8 := dkwX0_hoursFor_6 ++ dktX0_hoursFor_7
def dkwX0_hoursFor_5 : List UInt8 := [21, 8, 21, 6, 160, 0, 19, 21, 7, 184, 1, 0, 21, 5, 184, 1, 0, 161, 0, 6, 167, 0, 11]
abbrev dktX0_hoursFor_5 : List UInt8 := dkwX0_hoursFor_5 ++ dktX0_hoursFor_6
def dkwX0_hoursFor_4 : List UInt8 := [79, 42, 27, 21, 4, 182, 0, 199, 54, 8, 21, 8, 16, 100, 159, 0, 41, 21, 8, 21, 6, 163, 0, 34]
abbrev dktX0_hoursFor_4 : List UInt8 := dkwX0_hoursFor_4 ++ dktX0_hoursFor_5
def dkwX0_hoursFor_3 : List UInt8 := [163, 0, 85, 42, 180, 0, 20, 42, 180, 0, 16, 182, 0, 103, 42, 180, 0, 20, 180, 0, 134, 27, 21, 7]
abbrev dktX0_hoursFor_3 : List UInt8 := dkwX0_hoursFor_3 ++ dktX0_hoursFor_4
def dkwX0_hoursFor_2 : List UInt8 := [21, 4, 156, 0, 6, 16, 247, 172, 16, 247, 54, 5, 16, 100, 54, 6, 3, 54, 7, 21, 7, 16, 31]
abbrev dktX0_hoursFor_2 : List UInt8 := dkwX0_hoursFor_2 ++ dktX0_hoursFor_3
def dkwX0_hoursFor_1 : List UInt8 := [16, 254, 62, 29, 153, 0, 9, 42, 29, 182, 0, 48, 172, 42, 180, 0, 16, 180, 0, 94, 27, 46, 54, 4]
abbrev dktX0_hoursFor_1 : List UInt8 := dkwX0_hoursFor_1 ++ dktX0_hoursFor_2
def dkwX0_hoursFor_0 : List UInt8 := [42, 27, 182, 0, 82, 154, 0, 7, 2, 167, 0, 17, 28, 5, 184, 0, 78, 153, 0, 7, 3, 167, 0, 5]
abbrev dktX0_hoursFor_0 : List UInt8 := dkwX0_hoursFor_0 ++ dktX0_hoursFor_1
theorem dksX0_hoursFor_0 : cX0_hoursFor.data.toList.drop 0 = dktX0_hoursFor_0 := by decide +kernel
theorem dksX0_hoursFor_1 : cX0_hoursFor.data.toList.drop 24 = dktX0_hoursFor_1 := dk_seg dksX0_hoursFor_0 24 rfl rfl
theorem dksX0_hoursFor_2 : cX0_hoursFor.data.toList.drop 48 = dktX0_hoursFor_2 := dk_seg dksX0_hoursFor_1 24 rfl rfl
theorem dksX0_hoursFor_3 : cX0_hoursFor.data.toList.drop 71 = dktX0_hoursFor_3 := dk_seg dksX0_hoursFor_2 23 rfl rfl
theorem dksX0_hoursFor_4 : cX0_hoursFor.data.toList.drop 95 = dktX0_hoursFor_4 := dk_seg dksX0_hoursFor_3 24 rfl rfl
theorem dksX0_hoursFor_5 : cX0_hoursFor.data.toList.drop 119 = dktX0_hoursFor_5 := dk_seg dksX0_hoursFor_4 24 rfl rfl
theorem dksX0_hoursFor_6 : cX0_hoursFor.data.toList.drop 142 = dktX0_hoursFor_6 := dk_seg dksX0_hoursFor_5 23 rfl rfl
theorem dksX0_hoursFor_7 : cX0_hoursFor.data.toList.drop 165 = dktX0_hoursFor_7 := dk_seg dksX0_hoursFor_6 23 rfl rfl
theorem dX0_hoursFor_0 : decode cX0_hoursFor 0 = .ok (.aload_n 0, 1) := dk_42 (dk_at dksX0_hoursFor_0 0 rfl rfl)
theorem dX0_hoursFor_1 : decode cX0_hoursFor 1 = .ok (.iload_n 1, 1) := dk_27 (dk_at dksX0_hoursFor_0 1 rfl rfl)
theorem dX0_hoursFor_2 : decode cX0_hoursFor 2 = .ok (.invokevirtual 82, 3) := dk_182 0 82 (dk_at dksX0_hoursFor_0 2 rfl rfl)
theorem dX0_hoursFor_5 : decode cX0_hoursFor 5 = .ok (.ifCond .ne 7, 3) := dk_154 0 7 (dk_at dksX0_hoursFor_0 5 rfl rfl)
theorem dX0_hoursFor_8 : decode cX0_hoursFor 8 = .ok (.iconst (-1), 1) := dk_2 (dk_at dksX0_hoursFor_0 8 rfl rfl)
theorem dX0_hoursFor_9 : decode cX0_hoursFor 9 = .ok (.goto 17, 3) := dk_167 0 17 (dk_at dksX0_hoursFor_0 9 rfl rfl)
theorem dX0_hoursFor_12 : decode cX0_hoursFor 12 = .ok (.iload_n 2, 1) := dk_28 (dk_at dksX0_hoursFor_0 12 rfl rfl)
theorem dX0_hoursFor_13 : decode cX0_hoursFor 13 = .ok (.iconst 2, 1) := dk_5 (dk_at dksX0_hoursFor_0 13 rfl rfl)
theorem dX0_hoursFor_14 : decode cX0_hoursFor 14 = .ok (.invokestatic 78, 3) := dk_184 0 78 (dk_at dksX0_hoursFor_0 14 rfl rfl)
theorem dX0_hoursFor_17 : decode cX0_hoursFor 17 = .ok (.ifCond .eq 7, 3) := dk_153 0 7 (dk_at dksX0_hoursFor_0 17 rfl rfl)
theorem dX0_hoursFor_20 : decode cX0_hoursFor 20 = .ok (.iconst 0, 1) := dk_3 (dk_at dksX0_hoursFor_0 20 rfl rfl)
theorem dX0_hoursFor_21 : decode cX0_hoursFor 21 = .ok (.goto 5, 3) := dk_167 0 5 (dk_at dksX0_hoursFor_0 21 rfl rfl)
theorem dX0_hoursFor_24 : decode cX0_hoursFor 24 = .ok (.bipush (-2), 2) := dk_16 254 (dk_at dksX0_hoursFor_1 0 rfl rfl)
theorem dX0_hoursFor_26 : decode cX0_hoursFor 26 = .ok (.istore_n 3, 1) := dk_62 (dk_at dksX0_hoursFor_1 2 rfl rfl)
theorem dX0_hoursFor_27 : decode cX0_hoursFor 27 = .ok (.iload_n 3, 1) := dk_29 (dk_at dksX0_hoursFor_1 3 rfl rfl)
theorem dX0_hoursFor_28 : decode cX0_hoursFor 28 = .ok (.ifCond .eq 9, 3) := dk_153 0 9 (dk_at dksX0_hoursFor_1 4 rfl rfl)
theorem dX0_hoursFor_31 : decode cX0_hoursFor 31 = .ok (.aload_n 0, 1) := dk_42 (dk_at dksX0_hoursFor_1 7 rfl rfl)
theorem dX0_hoursFor_32 : decode cX0_hoursFor 32 = .ok (.iload_n 3, 1) := dk_29 (dk_at dksX0_hoursFor_1 8 rfl rfl)
theorem dX0_hoursFor_33 : decode cX0_hoursFor 33 = .ok (.invokevirtual 48, 3) := dk_182 0 48 (dk_at dksX0_hoursFor_1 9 rfl rfl)
theorem dX0_hoursFor_36 : decode cX0_hoursFor 36 = .ok (.ireturn, 1) := dk_172 (dk_at dksX0_hoursFor_1 12 rfl rfl)
theorem dX0_hoursFor_37 : decode cX0_hoursFor 37 = .ok (.aload_n 0, 1) := dk_42 (dk_at dksX0_hoursFor_1 13 rfl rfl)
theorem dX0_hoursFor_38 : decode cX0_hoursFor 38 = .ok (.getfield 16, 3) := dk_180 0 16 (dk_at dksX0_hoursFor_1 14 rfl rfl)
theorem dX0_hoursFor_41 : decode cX0_hoursFor 41 = .ok (.getfield 94, 3) := dk_180 0 94 (dk_at dksX0_hoursFor_1 17 rfl rfl)
theorem dX0_hoursFor_44 : decode cX0_hoursFor 44 = .ok (.iload_n 1, 1) := dk_27 (dk_at dksX0_hoursFor_1 20 rfl rfl)
theorem dX0_hoursFor_45 : decode cX0_hoursFor 45 = .ok (.iaload, 1) := dk_46 (dk_at dksX0_hoursFor_1 21 rfl rfl)
theorem dX0_hoursFor_46 : decode cX0_hoursFor 46 = .ok (.istore 4, 2) := dk_54 4 (dk_at dksX0_hoursFor_1 22 rfl rfl)
theorem dX0_hoursFor_48 : decode cX0_hoursFor 48 = .ok (.iload 4, 2) := dk_21 4 (dk_at dksX0_hoursFor_2 0 rfl rfl)
theorem dX0_hoursFor_50 : decode cX0_hoursFor 50 = .ok (.ifCond .ge 6, 3) := dk_156 0 6 (dk_at dksX0_hoursFor_2 2 rfl rfl)
theorem dX0_hoursFor_53 : decode cX0_hoursFor 53 = .ok (.bipush (-9), 2) := dk_16 247 (dk_at dksX0_hoursFor_2 5 rfl rfl)
theorem dX0_hoursFor_55 : decode cX0_hoursFor 55 = .ok (.ireturn, 1) := dk_172 (dk_at dksX0_hoursFor_2 7 rfl rfl)
theorem dX0_hoursFor_56 : decode cX0_hoursFor 56 = .ok (.bipush (-9), 2) := dk_16 247 (dk_at dksX0_hoursFor_2 8 rfl rfl)
theorem dX0_hoursFor_58 : decode cX0_hoursFor 58 = .ok (.istore 5, 2) := dk_54 5 (dk_at dksX0_hoursFor_2 10 rfl rfl)
theorem dX0_hoursFor_60 : decode cX0_hoursFor 60 = .ok (.bipush 100, 2) := dk_16 100 (dk_at dksX0_hoursFor_2 12 rfl rfl)
theorem dX0_hoursFor_62 : decode cX0_hoursFor 62 = .ok (.istore 6, 2) := dk_54 6 (dk_at dksX0_hoursFor_2 14 rfl rfl)
theorem dX0_hoursFor_64 : decode cX0_hoursFor 64 = .ok (.iconst 0, 1) := dk_3 (dk_at dksX0_hoursFor_2 16 rfl rfl)
theorem dX0_hoursFor_65 : decode cX0_hoursFor 65 = .ok (.istore 7, 2) := dk_54 7 (dk_at dksX0_hoursFor_2 17 rfl rfl)
theorem dX0_hoursFor_67 : decode cX0_hoursFor 67 = .ok (.iload 7, 2) := dk_21 7 (dk_at dksX0_hoursFor_2 19 rfl rfl)
theorem dX0_hoursFor_69 : decode cX0_hoursFor 69 = .ok (.bipush 31, 2) := dk_16 31 (dk_at dksX0_hoursFor_2 21 rfl rfl)
theorem dX0_hoursFor_71 : decode cX0_hoursFor 71 = .ok (.if_icmp .gt 85, 3) := dk_163 0 85 (dk_at dksX0_hoursFor_3 0 rfl rfl)
theorem dX0_hoursFor_74 : decode cX0_hoursFor 74 = .ok (.aload_n 0, 1) := dk_42 (dk_at dksX0_hoursFor_3 3 rfl rfl)
theorem dX0_hoursFor_75 : decode cX0_hoursFor 75 = .ok (.getfield 20, 3) := dk_180 0 20 (dk_at dksX0_hoursFor_3 4 rfl rfl)
theorem dX0_hoursFor_78 : decode cX0_hoursFor 78 = .ok (.aload_n 0, 1) := dk_42 (dk_at dksX0_hoursFor_3 7 rfl rfl)
theorem dX0_hoursFor_79 : decode cX0_hoursFor 79 = .ok (.getfield 16, 3) := dk_180 0 16 (dk_at dksX0_hoursFor_3 8 rfl rfl)
theorem dX0_hoursFor_82 : decode cX0_hoursFor 82 = .ok (.invokevirtual 103, 3) := dk_182 0 103 (dk_at dksX0_hoursFor_3 11 rfl rfl)
theorem dX0_hoursFor_85 : decode cX0_hoursFor 85 = .ok (.aload_n 0, 1) := dk_42 (dk_at dksX0_hoursFor_3 14 rfl rfl)
theorem dX0_hoursFor_86 : decode cX0_hoursFor 86 = .ok (.getfield 20, 3) := dk_180 0 20 (dk_at dksX0_hoursFor_3 15 rfl rfl)
theorem dX0_hoursFor_89 : decode cX0_hoursFor 89 = .ok (.getfield 134, 3) := dk_180 0 134 (dk_at dksX0_hoursFor_3 18 rfl rfl)
theorem dX0_hoursFor_92 : decode cX0_hoursFor 92 = .ok (.iload_n 1, 1) := dk_27 (dk_at dksX0_hoursFor_3 21 rfl rfl)
theorem dX0_hoursFor_93 : decode cX0_hoursFor 93 = .ok (.iload 7, 2) := dk_21 7 (dk_at dksX0_hoursFor_3 22 rfl rfl)
theorem dX0_hoursFor_95 : decode cX0_hoursFor 95 = .ok (.iastore, 1) := dk_79 (dk_at dksX0_hoursFor_4 0 rfl rfl)
theorem dX0_hoursFor_96 : decode cX0_hoursFor 96 = .ok (.aload_n 0, 1) := dk_42 (dk_at dksX0_hoursFor_4 1 rfl rfl)
theorem dX0_hoursFor_97 : decode cX0_hoursFor 97 = .ok (.iload_n 1, 1) := dk_27 (dk_at dksX0_hoursFor_4 2 rfl rfl)
theorem dX0_hoursFor_98 : decode cX0_hoursFor 98 = .ok (.iload 4, 2) := dk_21 4 (dk_at dksX0_hoursFor_4 3 rfl rfl)
theorem dX0_hoursFor_100 : decode cX0_hoursFor 100 = .ok (.invokevirtual 199, 3) := dk_182 0 199 (dk_at dksX0_hoursFor_4 5 rfl rfl)
theorem dX0_hoursFor_103 : decode cX0_hoursFor 103 = .ok (.istore 8, 2) := dk_54 8 (dk_at dksX0_hoursFor_4 8 rfl rfl)
theorem dX0_hoursFor_105 : decode cX0_hoursFor 105 = .ok (.iload 8, 2) := dk_21 8 (dk_at dksX0_hoursFor_4 10 rfl rfl)
theorem dX0_hoursFor_107 : decode cX0_hoursFor 107 = .ok (.bipush 100, 2) := dk_16 100 (dk_at dksX0_hoursFor_4 12 rfl rfl)
theorem dX0_hoursFor_109 : decode cX0_hoursFor 109 = .ok (.if_icmp .eq 41, 3) := dk_159 0 41 (dk_at dksX0_hoursFor_4 14 rfl rfl)
theorem dX0_hoursFor_112 : decode cX0_hoursFor 112 = .ok (.iload 8, 2) := dk_21 8 (dk_at dksX0_hoursFor_4 17 rfl rfl)
theorem dX0_hoursFor_114 : decode cX0_hoursFor 114 = .ok (.iload 6, 2) := dk_21 6 (dk_at dksX0_hoursFor_4 19 rfl rfl)
theorem dX0_hoursFor_116 : decode cX0_hoursFor 116 = .ok (.if_icmp .gt 34, 3) := dk_163 0 34 (dk_at dksX0_hoursFor_4 21 rfl rfl)
theorem dX0_hoursFor_119 : decode cX0_hoursFor 119 = .ok (.iload 8, 2) := dk_21 8 (dk_at dksX0_hoursFor_5 0 rfl rfl)
theorem dX0_hoursFor_121 : decode cX0_hoursFor 121 = .ok (.iload 6, 2) := dk_21 6 (dk_at dksX0_hoursFor_5 2 rfl rfl)
theorem dX0_hoursFor_123 : decode cX0_hoursFor 123 = .ok (.if_icmp .ne 19, 3) := dk_160 0 19 (dk_at dksX0_hoursFor_5 4 rfl rfl)
theorem dX0_hoursFor_126 : decode cX0_hoursFor 126 = .ok (.iload 7, 2) := dk_21 7 (dk_at dksX0_hoursFor_5 7 rfl rfl)
theorem dX0_hoursFor_128 : decode cX0_hoursFor 128 = .ok (.invokestatic 256, 3) := dk_184 1 0 (dk_at dksX0_hoursFor_5 9 rfl rfl)
theorem dX0_hoursFor_131 : decode cX0_hoursFor 131 = .ok (.iload 5, 2) := dk_21 5 (dk_at dksX0_hoursFor_5 12 rfl rfl)
theorem dX0_hoursFor_133 : decode cX0_hoursFor 133 = .ok (.invokestatic 256, 3) := dk_184 1 0 (dk_at dksX0_hoursFor_5 14 rfl rfl)
theorem dX0_hoursFor_136 : decode cX0_hoursFor 136 = .ok (.if_icmp .lt 6, 3) := dk_161 0 6 (dk_at dksX0_hoursFor_5 17 rfl rfl)
theorem dX0_hoursFor_139 : decode cX0_hoursFor 139 = .ok (.goto 11, 3) := dk_167 0 11 (dk_at dksX0_hoursFor_5 20 rfl rfl)
theorem dX0_hoursFor_142 : decode cX0_hoursFor 142 = .ok (.iload 7, 2) := dk_21 7 (dk_at dksX0_hoursFor_6 0 rfl rfl)
theorem dX0_hoursFor_144 : decode cX0_hoursFor 144 = .ok (.istore 5, 2) := dk_54 5 (dk_at dksX0_hoursFor_6 2 rfl rfl)
theorem dX0_hoursFor_146 : decode cX0_hoursFor 146 = .ok (.iload 8, 2) := dk_21 8 (dk_at dksX0_hoursFor_6 4 rfl rfl)
theorem dX0_hoursFor_148 : decode cX0_hoursFor 148 = .ok (.istore 6, 2) := dk_54 6 (dk_at dksX0_hoursFor_6 6 rfl rfl)
theorem dX0_hoursFor_150 : decode cX0_hoursFor 150 = .ok (.iinc 7 1, 3) := dk_132 7 1 (dk_at dksX0_hoursFor_6 8 rfl rfl)
theorem dX0_hoursFor_153 : decode cX0_hoursFor 153 = .ok (.goto (-86), 3) := dk_167 255 170 (dk_at dksX0_hoursFor_6 11 rfl rfl)
theorem dX0_hoursFor_156 : decode cX0_hoursFor 156 = .ok (.iload_n 2, 1) := dk_28 (dk_at dksX0_hoursFor_6 14 rfl rfl)
theorem dX0_hoursFor_157 : decode cX0_hoursFor 157 = .ok (.ifCond .ne 8, 3) := dk_154 0 8 (dk_at dksX0_hoursFor_6 15 rfl rfl)
theorem dX0_hoursFor_160 : decode cX0_hoursFor 160 = .ok (.iload 5, 2) := dk_21 5 (dk_at dksX0_hoursFor_6 18 rfl rfl)
theorem dX0_hoursFor_162 : decode cX0_hoursFor 162 = .ok (.goto 8, 3) := dk_167 0 8 (dk_at dksX0_hoursFor_6 20 rfl rfl)
theorem dX0_hoursFor_165 : decode cX0_hoursFor 165 = .ok (.iload 6, 2) := dk_21 6 (dk_at dksX0_hoursFor_7 0 rfl rfl)
theorem dX0_hoursFor_167 : decode cX0_hoursFor 167 = .ok (.invokestatic 202, 3) := dk_184 0 202 (dk_at dksX0_hoursFor_7 2 rfl rfl)
theorem dX0_hoursFor_170 : decode cX0_hoursFor 170 = .ok (.ireturn, 1) := dk_172 (dk_at dksX0_hoursFor_7 5 rfl rfl)
abbrev cX0_swap : ByteArray := prog_1_method_46_code
def yX0_swap : MethodName := ⟨RX0, "swap", "()I"⟩
def dkwX0_swap_6 : List UInt8 := [132, 4, 1, 167, 255, 140, 132, 3, 1, 167, 255, 118, 27, 172]
abbrev dktX0_swap_6 : List UInt8 := dkwX0_swap_6 ++ []
def dkwX0_swap_5 : List UInt8 := [163, 0, 6, 167, 0, 19, 16, 10, 29, 104, 21, 4, 96, 60, 42, 180, 0, 20, 182, 1, 3, 61]
abbrev dktX0_swap_5 : List UInt8 := dkwX0_swap_5 ++ dktX0_swap_6
def dkwX0_swap_4 : List UInt8 := [21, 6, 182, 0, 100, 42, 180, 0, 20, 21, 4, 21, 5, 182, 0, 100, 42, 180, 0, 20, 182, 1, 3, 28]
abbrev dktX0_swap_4 : List UInt8 := dkwX0_swap_4 ++ dktX0_swap_5
def dkwX0_swap_3 : List UInt8 := [21, 4, 162, 0, 6, 167, 0, 65, 42, 180, 0, 20, 42, 180, 0, 16, 182, 0, 103, 42, 180, 0, 20, 29]
abbrev dktX0_swap_3 : List UInt8 := dkwX0_swap_3 ++ dktX0_swap_4
def dkwX0_swap_2 : List UInt8 := [29, 46, 54, 5, 42, 180, 0, 16, 180, 0, 94, 21, 4, 46, 54, 6, 21, 5, 29, 161, 0, 75, 21, 6]
abbrev dktX0_swap_2 : List UInt8 := dkwX0_swap_2 ++ dktX0_swap_3
def dkwX0_swap_1 : List UInt8 := [29, 4, 96, 54, 4, 21, 4, 42, 180, 0, 16, 182, 0, 74, 162, 0, 110, 42, 180, 0, 16, 180, 0, 94]
abbrev dktX0_swap_1 : List UInt8 := dkwX0_swap_1 ++ dktX0_swap_2
def dkwX0_swap_0 : List UInt8 := [16, 247, 60, 42, 180, 0, 16, 182, 1, 3, 61, 3, 62, 29, 42, 180, 0, 16, 182, 0, 74, 162, 0, 133]
abbrev dktX0_swap_0 : List UInt8 := dkwX0_swap_0 ++ dktX0_swap_1
theorem dksX0_swap_0 : cX0_swap.data.toList.drop 0 = dktX0_swap_0 := by decide +kernel
theorem dksX0_swap_1 : cX0_swap.data.toList.drop 24 = dktX0_swap_1 := dk_seg dksX0_swap_0 24 rfl rfl
theorem dksX0_swap_2 : cX0_swap.data.toList.drop 48 = dktX0_swap_2 := dk_seg dksX0_swap_1 24 rfl rfl
theorem dksX0_swap_3 : cX0_swap.data.toList.drop 72 = dktX0_swap_3 := dk_seg dksX0_swap_2 24 rfl rfl
theorem dksX0_swap_4 : cX0_swap.data.toList.drop 96 = dktX0_swap_4 := dk_seg dksX0_swap_3 24 rfl rfl
theorem dksX0_swap_5 : cX0_swap.data.toList.drop 120 = dktX0_swap_5 := dk_seg dksX0_swap_4 24 rfl rfl
theorem dksX0_swap_6 : cX0_swap.data.toList.drop 142 = dktX0_swap_6 := dk_seg dksX0_swap_5 22 rfl rfl
theorem dX0_swap_0 : decode cX0_swap 0 = .ok (.bipush (-9), 2) := dk_16 247 (dk_at dksX0_swap_0 0 rfl rfl)
theorem dX0_swap_2 : decode cX0_swap 2 = .ok (.istore_n 1, 1) := dk_60 (dk_at dksX0_swap_0 2 rfl rfl)
theorem dX0_swap_3 : decode cX0_swap 3 = .ok (.aload_n 0, 1) := dk_42 (dk_at dksX0_swap_0 3 rfl rfl)
theorem dX0_swap_4 : decode cX0_swap 4 = .ok (.getfield 16, 3) := dk_180 0 16 (dk_at dksX0_swap_0 4 rfl rfl)
theorem dX0_swap_7 : decode cX0_swap 7 = .ok (.invokevirtual 259, 3) := dk_182 1 3 (dk_at dksX0_swap_0 7 rfl rfl)
theorem dX0_swap_10 : decode cX0_swap 10 = .ok (.istore_n 2, 1) := dk_61 (dk_at dksX0_swap_0 10 rfl rfl)
theorem dX0_swap_11 : decode cX0_swap 11 = .ok (.iconst 0, 1) := dk_3 (dk_at dksX0_swap_0 11 rfl rfl)
theorem dX0_swap_12 : decode cX0_swap 12 = .ok (.istore_n 3, 1) := dk_62 (dk_at dksX0_swap_0 12 rfl rfl)
theorem dX0_swap_13 : decode cX0_swap 13 = .ok (.iload_n 3, 1) := dk_29 (dk_at dksX0_swap_0 13 rfl rfl)
theorem dX0_swap_14 : decode cX0_swap 14 = .ok (.aload_n 0, 1) := dk_42 (dk_at dksX0_swap_0 14 rfl rfl)
theorem dX0_swap_15 : decode cX0_swap 15 = .ok (.getfield 16, 3) := dk_180 0 16 (dk_at dksX0_swap_0 15 rfl rfl)
theorem dX0_swap_18 : decode cX0_swap 18 = .ok (.invokevirtual 74, 3) := dk_182 0 74 (dk_at dksX0_swap_0 18 rfl rfl)
theorem dX0_swap_21 : decode cX0_swap 21 = .ok (.if_icmp .ge 133, 3) := dk_162 0 133 (dk_at dksX0_swap_0 21 rfl rfl)
theorem dX0_swap_24 : decode cX0_swap 24 = .ok (.iload_n 3, 1) := dk_29 (dk_at dksX0_swap_1 0 rfl rfl)
theorem dX0_swap_25 : decode cX0_swap 25 = .ok (.iconst 1, 1) := dk_4 (dk_at dksX0_swap_1 1 rfl rfl)
theorem dX0_swap_26 : decode cX0_swap 26 = .ok (.iadd, 1) := dk_96 (dk_at dksX0_swap_1 2 rfl rfl)
theorem dX0_swap_27 : decode cX0_swap 27 = .ok (.istore 4, 2) := dk_54 4 (dk_at dksX0_swap_1 3 rfl rfl)
theorem dX0_swap_29 : decode cX0_swap 29 = .ok (.iload 4, 2) := dk_21 4 (dk_at dksX0_swap_1 5 rfl rfl)
theorem dX0_swap_31 : decode cX0_swap 31 = .ok (.aload_n 0, 1) := dk_42 (dk_at dksX0_swap_1 7 rfl rfl)
theorem dX0_swap_32 : decode cX0_swap 32 = .ok (.getfield 16, 3) := dk_180 0 16 (dk_at dksX0_swap_1 8 rfl rfl)
theorem dX0_swap_35 : decode cX0_swap 35 = .ok (.invokevirtual 74, 3) := dk_182 0 74 (dk_at dksX0_swap_1 11 rfl rfl)
theorem dX0_swap_38 : decode cX0_swap 38 = .ok (.if_icmp .ge 110, 3) := dk_162 0 110 (dk_at dksX0_swap_1 14 rfl rfl)
theorem dX0_swap_41 : decode cX0_swap 41 = .ok (.aload_n 0, 1) := dk_42 (dk_at dksX0_swap_1 17 rfl rfl)
theorem dX0_swap_42 : decode cX0_swap 42 = .ok (.getfield 16, 3) := dk_180 0 16 (dk_at dksX0_swap_1 18 rfl rfl)
theorem dX0_swap_45 : decode cX0_swap 45 = .ok (.getfield 94, 3) := dk_180 0 94 (dk_at dksX0_swap_1 21 rfl rfl)
theorem dX0_swap_48 : decode cX0_swap 48 = .ok (.iload_n 3, 1) := dk_29 (dk_at dksX0_swap_2 0 rfl rfl)
theorem dX0_swap_49 : decode cX0_swap 49 = .ok (.iaload, 1) := dk_46 (dk_at dksX0_swap_2 1 rfl rfl)
theorem dX0_swap_50 : decode cX0_swap 50 = .ok (.istore 5, 2) := dk_54 5 (dk_at dksX0_swap_2 2 rfl rfl)
theorem dX0_swap_52 : decode cX0_swap 52 = .ok (.aload_n 0, 1) := dk_42 (dk_at dksX0_swap_2 4 rfl rfl)
theorem dX0_swap_53 : decode cX0_swap 53 = .ok (.getfield 16, 3) := dk_180 0 16 (dk_at dksX0_swap_2 5 rfl rfl)
theorem dX0_swap_56 : decode cX0_swap 56 = .ok (.getfield 94, 3) := dk_180 0 94 (dk_at dksX0_swap_2 8 rfl rfl)
theorem dX0_swap_59 : decode cX0_swap 59 = .ok (.iload 4, 2) := dk_21 4 (dk_at dksX0_swap_2 11 rfl rfl)
theorem dX0_swap_61 : decode cX0_swap 61 = .ok (.iaload, 1) := dk_46 (dk_at dksX0_swap_2 13 rfl rfl)
theorem dX0_swap_62 : decode cX0_swap 62 = .ok (.istore 6, 2) := dk_54 6 (dk_at dksX0_swap_2 14 rfl rfl)
theorem dX0_swap_64 : decode cX0_swap 64 = .ok (.iload 5, 2) := dk_21 5 (dk_at dksX0_swap_2 16 rfl rfl)
theorem dX0_swap_66 : decode cX0_swap 66 = .ok (.iload_n 3, 1) := dk_29 (dk_at dksX0_swap_2 18 rfl rfl)
theorem dX0_swap_67 : decode cX0_swap 67 = .ok (.if_icmp .lt 75, 3) := dk_161 0 75 (dk_at dksX0_swap_2 19 rfl rfl)
theorem dX0_swap_70 : decode cX0_swap 70 = .ok (.iload 6, 2) := dk_21 6 (dk_at dksX0_swap_2 22 rfl rfl)
theorem dX0_swap_72 : decode cX0_swap 72 = .ok (.iload 4, 2) := dk_21 4 (dk_at dksX0_swap_3 0 rfl rfl)
theorem dX0_swap_74 : decode cX0_swap 74 = .ok (.if_icmp .ge 6, 3) := dk_162 0 6 (dk_at dksX0_swap_3 2 rfl rfl)
theorem dX0_swap_77 : decode cX0_swap 77 = .ok (.goto 65, 3) := dk_167 0 65 (dk_at dksX0_swap_3 5 rfl rfl)
theorem dX0_swap_80 : decode cX0_swap 80 = .ok (.aload_n 0, 1) := dk_42 (dk_at dksX0_swap_3 8 rfl rfl)
theorem dX0_swap_81 : decode cX0_swap 81 = .ok (.getfield 20, 3) := dk_180 0 20 (dk_at dksX0_swap_3 9 rfl rfl)
theorem dX0_swap_84 : decode cX0_swap 84 = .ok (.aload_n 0, 1) := dk_42 (dk_at dksX0_swap_3 12 rfl rfl)
theorem dX0_swap_85 : decode cX0_swap 85 = .ok (.getfield 16, 3) := dk_180 0 16 (dk_at dksX0_swap_3 13 rfl rfl)
theorem dX0_swap_88 : decode cX0_swap 88 = .ok (.invokevirtual 103, 3) := dk_182 0 103 (dk_at dksX0_swap_3 16 rfl rfl)
theorem dX0_swap_91 : decode cX0_swap 91 = .ok (.aload_n 0, 1) := dk_42 (dk_at dksX0_swap_3 19 rfl rfl)
theorem dX0_swap_92 : decode cX0_swap 92 = .ok (.getfield 20, 3) := dk_180 0 20 (dk_at dksX0_swap_3 20 rfl rfl)
theorem dX0_swap_95 : decode cX0_swap 95 = .ok (.iload_n 3, 1) := dk_29 (dk_at dksX0_swap_3 23 rfl rfl)
theorem dX0_swap_96 : decode cX0_swap 96 = .ok (.iload 6, 2) := dk_21 6 (dk_at dksX0_swap_4 0 rfl rfl)
theorem dX0_swap_98 : decode cX0_swap 98 = .ok (.invokevirtual 100, 3) := dk_182 0 100 (dk_at dksX0_swap_4 2 rfl rfl)
theorem dX0_swap_101 : decode cX0_swap 101 = .ok (.aload_n 0, 1) := dk_42 (dk_at dksX0_swap_4 5 rfl rfl)
theorem dX0_swap_102 : decode cX0_swap 102 = .ok (.getfield 20, 3) := dk_180 0 20 (dk_at dksX0_swap_4 6 rfl rfl)
theorem dX0_swap_105 : decode cX0_swap 105 = .ok (.iload 4, 2) := dk_21 4 (dk_at dksX0_swap_4 9 rfl rfl)
theorem dX0_swap_107 : decode cX0_swap 107 = .ok (.iload 5, 2) := dk_21 5 (dk_at dksX0_swap_4 11 rfl rfl)
theorem dX0_swap_109 : decode cX0_swap 109 = .ok (.invokevirtual 100, 3) := dk_182 0 100 (dk_at dksX0_swap_4 13 rfl rfl)
theorem dX0_swap_112 : decode cX0_swap 112 = .ok (.aload_n 0, 1) := dk_42 (dk_at dksX0_swap_4 16 rfl rfl)
theorem dX0_swap_113 : decode cX0_swap 113 = .ok (.getfield 20, 3) := dk_180 0 20 (dk_at dksX0_swap_4 17 rfl rfl)
theorem dX0_swap_116 : decode cX0_swap 116 = .ok (.invokevirtual 259, 3) := dk_182 1 3 (dk_at dksX0_swap_4 20 rfl rfl)
theorem dX0_swap_119 : decode cX0_swap 119 = .ok (.iload_n 2, 1) := dk_28 (dk_at dksX0_swap_4 23 rfl rfl)
theorem dX0_swap_120 : decode cX0_swap 120 = .ok (.if_icmp .gt 6, 3) := dk_163 0 6 (dk_at dksX0_swap_5 0 rfl rfl)
theorem dX0_swap_123 : decode cX0_swap 123 = .ok (.goto 19, 3) := dk_167 0 19 (dk_at dksX0_swap_5 3 rfl rfl)
theorem dX0_swap_126 : decode cX0_swap 126 = .ok (.bipush 10, 2) := dk_16 10 (dk_at dksX0_swap_5 6 rfl rfl)
theorem dX0_swap_128 : decode cX0_swap 128 = .ok (.iload_n 3, 1) := dk_29 (dk_at dksX0_swap_5 8 rfl rfl)
theorem dX0_swap_129 : decode cX0_swap 129 = .ok (.imul, 1) := dk_104 (dk_at dksX0_swap_5 9 rfl rfl)
theorem dX0_swap_130 : decode cX0_swap 130 = .ok (.iload 4, 2) := dk_21 4 (dk_at dksX0_swap_5 10 rfl rfl)
theorem dX0_swap_132 : decode cX0_swap 132 = .ok (.iadd, 1) := dk_96 (dk_at dksX0_swap_5 12 rfl rfl)
theorem dX0_swap_133 : decode cX0_swap 133 = .ok (.istore_n 1, 1) := dk_60 (dk_at dksX0_swap_5 13 rfl rfl)
theorem dX0_swap_134 : decode cX0_swap 134 = .ok (.aload_n 0, 1) := dk_42 (dk_at dksX0_swap_5 14 rfl rfl)
theorem dX0_swap_135 : decode cX0_swap 135 = .ok (.getfield 20, 3) := dk_180 0 20 (dk_at dksX0_swap_5 15 rfl rfl)
theorem dX0_swap_138 : decode cX0_swap 138 = .ok (.invokevirtual 259, 3) := dk_182 1 3 (dk_at dksX0_swap_5 18 rfl rfl)
theorem dX0_swap_141 : decode cX0_swap 141 = .ok (.istore_n 2, 1) := dk_61 (dk_at dksX0_swap_5 21 rfl rfl)
theorem dX0_swap_142 : decode cX0_swap 142 = .ok (.iinc 4 1, 3) := dk_132 4 1 (dk_at dksX0_swap_6 0 rfl rfl)
theorem dX0_swap_145 : decode cX0_swap 145 = .ok (.goto (-116), 3) := dk_167 255 140 (dk_at dksX0_swap_6 3 rfl rfl)
theorem dX0_swap_148 : decode cX0_swap 148 = .ok (.iinc 3 1, 3) := dk_132 3 1 (dk_at dksX0_swap_6 6 rfl rfl)
theorem dX0_swap_151 : decode cX0_swap 151 = .ok (.goto (-138), 3) := dk_167 255 118 (dk_at dksX0_swap_6 9 rfl rfl)
theorem dX0_swap_154 : decode cX0_swap 154 = .ok (.iload_n 1, 1) := dk_27 (dk_at dksX0_swap_6 12 rfl rfl)
theorem dX0_swap_155 : decode cX0_swap 155 = .ok (.ireturn, 1) := dk_172 (dk_at dksX0_swap_6 13 rfl rfl)
abbrev cX0_glad : ByteArray := prog_1_method_47_code
def yX0_glad : MethodName := ⟨RX0, "glad", "(I)I"⟩
def dkwX0_glad_1 : List UInt8 := [28, 156, 0, 8, 16, 247, 167, 0, 16, 42, 180, 0, 16, 27, 28, 182, 0, 153, 17, 3, 232, 96, 172]
abbrev dktX0_glad_1 : List UInt8 := dkwX0_glad_1 ++ []
def dkwX0_glad_0 : List UInt8 := [42, 27, 182, 0, 82, 154, 0, 9, 42, 2, 182, 0, 48, 172, 42, 180, 0, 16, 180, 0, 94, 27, 46, 61]
abbrev dktX0_glad_0 : List UInt8 := dkwX0_glad_0 ++ dktX0_glad_1
theorem dksX0_glad_0 : cX0_glad.data.toList.drop 0 = dktX0_glad_0 := by decide +kernel
theorem dksX0_glad_1 : cX0_glad.data.toList.drop 24 = dktX0_glad_1 := dk_seg dksX0_glad_0 24 rfl rfl
theorem dX0_glad_0 : decode cX0_glad 0 = .ok (.aload_n 0, 1) := dk_42 (dk_at dksX0_glad_0 0 rfl rfl)
theorem dX0_glad_1 : decode cX0_glad 1 = .ok (.iload_n 1, 1) := dk_27 (dk_at dksX0_glad_0 1 rfl rfl)
theorem dX0_glad_2 : decode cX0_glad 2 = .ok (.invokevirtual 82, 3) := dk_182 0 82 (dk_at dksX0_glad_0 2 rfl rfl)
theorem dX0_glad_5 : decode cX0_glad 5 = .ok (.ifCond .ne 9, 3) := dk_154 0 9 (dk_at dksX0_glad_0 5 rfl rfl)
theorem dX0_glad_8 : decode cX0_glad 8 = .ok (.aload_n 0, 1) := dk_42 (dk_at dksX0_glad_0 8 rfl rfl)
theorem dX0_glad_9 : decode cX0_glad 9 = .ok (.iconst (-1), 1) := dk_2 (dk_at dksX0_glad_0 9 rfl rfl)
theorem dX0_glad_10 : decode cX0_glad 10 = .ok (.invokevirtual 48, 3) := dk_182 0 48 (dk_at dksX0_glad_0 10 rfl rfl)
theorem dX0_glad_13 : decode cX0_glad 13 = .ok (.ireturn, 1) := dk_172 (dk_at dksX0_glad_0 13 rfl rfl)
theorem dX0_glad_14 : decode cX0_glad 14 = .ok (.aload_n 0, 1) := dk_42 (dk_at dksX0_glad_0 14 rfl rfl)
theorem dX0_glad_15 : decode cX0_glad 15 = .ok (.getfield 16, 3) := dk_180 0 16 (dk_at dksX0_glad_0 15 rfl rfl)
theorem dX0_glad_18 : decode cX0_glad 18 = .ok (.getfield 94, 3) := dk_180 0 94 (dk_at dksX0_glad_0 18 rfl rfl)
theorem dX0_glad_21 : decode cX0_glad 21 = .ok (.iload_n 1, 1) := dk_27 (dk_at dksX0_glad_0 21 rfl rfl)
theorem dX0_glad_22 : decode cX0_glad 22 = .ok (.iaload, 1) := dk_46 (dk_at dksX0_glad_0 22 rfl rfl)
theorem dX0_glad_23 : decode cX0_glad 23 = .ok (.istore_n 2, 1) := dk_61 (dk_at dksX0_glad_0 23 rfl rfl)
theorem dX0_glad_24 : decode cX0_glad 24 = .ok (.iload_n 2, 1) := dk_28 (dk_at dksX0_glad_1 0 rfl rfl)
theorem dX0_glad_25 : decode cX0_glad 25 = .ok (.ifCond .ge 8, 3) := dk_156 0 8 (dk_at dksX0_glad_1 1 rfl rfl)
theorem dX0_glad_28 : decode cX0_glad 28 = .ok (.bipush (-9), 2) := dk_16 247 (dk_at dksX0_glad_1 4 rfl rfl)
theorem dX0_glad_30 : decode cX0_glad 30 = .ok (.goto 16, 3) := dk_167 0 16 (dk_at dksX0_glad_1 6 rfl rfl)
theorem dX0_glad_33 : decode cX0_glad 33 = .ok (.aload_n 0, 1) := dk_42 (dk_at dksX0_glad_1 9 rfl rfl)
theorem dX0_glad_34 : decode cX0_glad 34 = .ok (.getfield 16, 3) := dk_180 0 16 (dk_at dksX0_glad_1 10 rfl rfl)
theorem dX0_glad_37 : decode cX0_glad 37 = .ok (.iload_n 1, 1) := dk_27 (dk_at dksX0_glad_1 13 rfl rfl)
theorem dX0_glad_38 : decode cX0_glad 38 = .ok (.iload_n 2, 1) := dk_28 (dk_at dksX0_glad_1 14 rfl rfl)
theorem dX0_glad_39 : decode cX0_glad 39 = .ok (.invokevirtual 153, 3) := dk_182 0 153 (dk_at dksX0_glad_1 15 rfl rfl)
theorem dX0_glad_42 : decode cX0_glad 42 = .ok (.sipush 1000, 3) := dk_17 3 232 (dk_at dksX0_glad_1 18 rfl rfl)
theorem dX0_glad_45 : decode cX0_glad 45 = .ok (.iadd, 1) := dk_96 (dk_at dksX0_glad_1 21 rfl rfl)
theorem dX0_glad_46 : decode cX0_glad 46 = .ok (.ireturn, 1) := dk_172 (dk_at dksX0_glad_1 22 rfl rfl)
abbrev cX0_who : ByteArray := prog_1_method_50_code
def yX0_who : MethodName := ⟨RX0, "who", "(III)I"⟩
def dkwX0_who_6 : List UInt8 := [160, 0, 8, 21, 6, 167, 0, 5, 21, 7, 172]
abbrev dktX0_who_6 : List UInt8 := dkwX0_who_6 ++ []
def dkwX0_who_5 : List UInt8 := [21, 8, 54, 7, 132, 8, 255, 167, 255, 207, 29, 5, 162, 0, 8, 21, 5, 167, 0, 15, 29, 5]
abbrev dktX0_who_5 : List UInt8 := dkwX0_who_5 ++ dktX0_who_6
def dkwX0_who_4 : List UInt8 := [154, 0, 6, 167, 0, 24, 29, 5, 162, 0, 12, 21, 5, 4, 21, 8, 120, 128, 54, 5, 132, 6, 1]
abbrev dktX0_who_4 : List UInt8 := dkwX0_who_4 ++ dktX0_who_5
def dkwX0_who_3 : List UInt8 := [16, 31, 54, 8, 21, 8, 155, 0, 50, 42, 27, 29, 21, 8, 182, 1, 19, 42, 27, 28, 182, 1, 22]
abbrev dktX0_who_3 : List UInt8 := dkwX0_who_3 ++ dktX0_who_4
def dkwX0_who_2 : List UInt8 := [54, 6, 16, 247, 54, 7, 29, 154, 0, 7, 8, 167, 0, 15, 29, 4, 160, 0, 8, 16, 9, 167, 0, 5]
abbrev dktX0_who_2 : List UInt8 := dkwX0_who_2 ++ dktX0_who_3
def dkwX0_who_1 : List UInt8 := [167, 0, 5, 16, 254, 54, 4, 21, 4, 153, 0, 10, 42, 21, 4, 182, 0, 48, 172, 3, 54, 5, 3]
abbrev dktX0_who_1 : List UInt8 := dkwX0_who_1 ++ dktX0_who_2
def dkwX0_who_0 : List UInt8 := [42, 27, 28, 182, 0, 146, 154, 0, 7, 2, 167, 0, 17, 29, 7, 184, 0, 78, 153, 0, 7, 3]
abbrev dktX0_who_0 : List UInt8 := dkwX0_who_0 ++ dktX0_who_1
theorem dksX0_who_0 : cX0_who.data.toList.drop 0 = dktX0_who_0 := by decide +kernel
theorem dksX0_who_1 : cX0_who.data.toList.drop 22 = dktX0_who_1 := dk_seg dksX0_who_0 22 rfl rfl
theorem dksX0_who_2 : cX0_who.data.toList.drop 45 = dktX0_who_2 := dk_seg dksX0_who_1 23 rfl rfl
theorem dksX0_who_3 : cX0_who.data.toList.drop 69 = dktX0_who_3 := dk_seg dksX0_who_2 24 rfl rfl
theorem dksX0_who_4 : cX0_who.data.toList.drop 92 = dktX0_who_4 := dk_seg dksX0_who_3 23 rfl rfl
theorem dksX0_who_5 : cX0_who.data.toList.drop 115 = dktX0_who_5 := dk_seg dksX0_who_4 23 rfl rfl
theorem dksX0_who_6 : cX0_who.data.toList.drop 137 = dktX0_who_6 := dk_seg dksX0_who_5 22 rfl rfl
theorem dX0_who_0 : decode cX0_who 0 = .ok (.aload_n 0, 1) := dk_42 (dk_at dksX0_who_0 0 rfl rfl)
theorem dX0_who_1 : decode cX0_who 1 = .ok (.iload_n 1, 1) := dk_27 (dk_at dksX0_who_0 1 rfl rfl)
theorem dX0_who_2 : decode cX0_who 2 = .ok (.iload_n 2, 1) := dk_28 (dk_at dksX0_who_0 2 rfl rfl)
theorem dX0_who_3 : decode cX0_who 3 = .ok (.invokevirtual 146, 3) := dk_182 0 146 (dk_at dksX0_who_0 3 rfl rfl)
theorem dX0_who_6 : decode cX0_who 6 = .ok (.ifCond .ne 7, 3) := dk_154 0 7 (dk_at dksX0_who_0 6 rfl rfl)
theorem dX0_who_9 : decode cX0_who 9 = .ok (.iconst (-1), 1) := dk_2 (dk_at dksX0_who_0 9 rfl rfl)
theorem dX0_who_10 : decode cX0_who 10 = .ok (.goto 17, 3) := dk_167 0 17 (dk_at dksX0_who_0 10 rfl rfl)
theorem dX0_who_13 : decode cX0_who 13 = .ok (.iload_n 3, 1) := dk_29 (dk_at dksX0_who_0 13 rfl rfl)
theorem dX0_who_14 : decode cX0_who 14 = .ok (.iconst 4, 1) := dk_7 (dk_at dksX0_who_0 14 rfl rfl)
theorem dX0_who_15 : decode cX0_who 15 = .ok (.invokestatic 78, 3) := dk_184 0 78 (dk_at dksX0_who_0 15 rfl rfl)
theorem dX0_who_18 : decode cX0_who 18 = .ok (.ifCond .eq 7, 3) := dk_153 0 7 (dk_at dksX0_who_0 18 rfl rfl)
theorem dX0_who_21 : decode cX0_who 21 = .ok (.iconst 0, 1) := dk_3 (dk_at dksX0_who_0 21 rfl rfl)
theorem dX0_who_22 : decode cX0_who 22 = .ok (.goto 5, 3) := dk_167 0 5 (dk_at dksX0_who_1 0 rfl rfl)
theorem dX0_who_25 : decode cX0_who 25 = .ok (.bipush (-2), 2) := dk_16 254 (dk_at dksX0_who_1 3 rfl rfl)
theorem dX0_who_27 : decode cX0_who 27 = .ok (.istore 4, 2) := dk_54 4 (dk_at dksX0_who_1 5 rfl rfl)
theorem dX0_who_29 : decode cX0_who 29 = .ok (.iload 4, 2) := dk_21 4 (dk_at dksX0_who_1 7 rfl rfl)
theorem dX0_who_31 : decode cX0_who 31 = .ok (.ifCond .eq 10, 3) := dk_153 0 10 (dk_at dksX0_who_1 9 rfl rfl)
theorem dX0_who_34 : decode cX0_who 34 = .ok (.aload_n 0, 1) := dk_42 (dk_at dksX0_who_1 12 rfl rfl)
theorem dX0_who_35 : decode cX0_who 35 = .ok (.iload 4, 2) := dk_21 4 (dk_at dksX0_who_1 13 rfl rfl)
theorem dX0_who_37 : decode cX0_who 37 = .ok (.invokevirtual 48, 3) := dk_182 0 48 (dk_at dksX0_who_1 15 rfl rfl)
theorem dX0_who_40 : decode cX0_who 40 = .ok (.ireturn, 1) := dk_172 (dk_at dksX0_who_1 18 rfl rfl)
theorem dX0_who_41 : decode cX0_who 41 = .ok (.iconst 0, 1) := dk_3 (dk_at dksX0_who_1 19 rfl rfl)
theorem dX0_who_42 : decode cX0_who 42 = .ok (.istore 5, 2) := dk_54 5 (dk_at dksX0_who_1 20 rfl rfl)
theorem dX0_who_44 : decode cX0_who 44 = .ok (.iconst 0, 1) := dk_3 (dk_at dksX0_who_1 22 rfl rfl)
theorem dX0_who_45 : decode cX0_who 45 = .ok (.istore 6, 2) := dk_54 6 (dk_at dksX0_who_2 0 rfl rfl)
theorem dX0_who_47 : decode cX0_who 47 = .ok (.bipush (-9), 2) := dk_16 247 (dk_at dksX0_who_2 2 rfl rfl)
theorem dX0_who_49 : decode cX0_who 49 = .ok (.istore 7, 2) := dk_54 7 (dk_at dksX0_who_2 4 rfl rfl)
theorem dX0_who_51 : decode cX0_who 51 = .ok (.iload_n 3, 1) := dk_29 (dk_at dksX0_who_2 6 rfl rfl)
theorem dX0_who_52 : decode cX0_who 52 = .ok (.ifCond .ne 7, 3) := dk_154 0 7 (dk_at dksX0_who_2 7 rfl rfl)
theorem dX0_who_55 : decode cX0_who 55 = .ok (.iconst 5, 1) := dk_8 (dk_at dksX0_who_2 10 rfl rfl)
theorem dX0_who_56 : decode cX0_who 56 = .ok (.goto 15, 3) := dk_167 0 15 (dk_at dksX0_who_2 11 rfl rfl)
theorem dX0_who_59 : decode cX0_who 59 = .ok (.iload_n 3, 1) := dk_29 (dk_at dksX0_who_2 14 rfl rfl)
theorem dX0_who_60 : decode cX0_who 60 = .ok (.iconst 1, 1) := dk_4 (dk_at dksX0_who_2 15 rfl rfl)
theorem dX0_who_61 : decode cX0_who 61 = .ok (.if_icmp .ne 8, 3) := dk_160 0 8 (dk_at dksX0_who_2 16 rfl rfl)
theorem dX0_who_64 : decode cX0_who 64 = .ok (.bipush 9, 2) := dk_16 9 (dk_at dksX0_who_2 19 rfl rfl)
theorem dX0_who_66 : decode cX0_who 66 = .ok (.goto 5, 3) := dk_167 0 5 (dk_at dksX0_who_2 21 rfl rfl)
theorem dX0_who_69 : decode cX0_who 69 = .ok (.bipush 31, 2) := dk_16 31 (dk_at dksX0_who_3 0 rfl rfl)
theorem dX0_who_71 : decode cX0_who 71 = .ok (.istore 8, 2) := dk_54 8 (dk_at dksX0_who_3 2 rfl rfl)
theorem dX0_who_73 : decode cX0_who 73 = .ok (.iload 8, 2) := dk_21 8 (dk_at dksX0_who_3 4 rfl rfl)
theorem dX0_who_75 : decode cX0_who 75 = .ok (.ifCond .lt 50, 3) := dk_155 0 50 (dk_at dksX0_who_3 6 rfl rfl)
theorem dX0_who_78 : decode cX0_who 78 = .ok (.aload_n 0, 1) := dk_42 (dk_at dksX0_who_3 9 rfl rfl)
theorem dX0_who_79 : decode cX0_who 79 = .ok (.iload_n 1, 1) := dk_27 (dk_at dksX0_who_3 10 rfl rfl)
theorem dX0_who_80 : decode cX0_who 80 = .ok (.iload_n 3, 1) := dk_29 (dk_at dksX0_who_3 11 rfl rfl)
theorem dX0_who_81 : decode cX0_who 81 = .ok (.iload 8, 2) := dk_21 8 (dk_at dksX0_who_3 12 rfl rfl)
theorem dX0_who_83 : decode cX0_who 83 = .ok (.invokevirtual 275, 3) := dk_182 1 19 (dk_at dksX0_who_3 14 rfl rfl)
theorem dX0_who_86 : decode cX0_who 86 = .ok (.aload_n 0, 1) := dk_42 (dk_at dksX0_who_3 17 rfl rfl)
theorem dX0_who_87 : decode cX0_who 87 = .ok (.iload_n 1, 1) := dk_27 (dk_at dksX0_who_3 18 rfl rfl)
theorem dX0_who_88 : decode cX0_who 88 = .ok (.iload_n 2, 1) := dk_28 (dk_at dksX0_who_3 19 rfl rfl)
theorem dX0_who_89 : decode cX0_who 89 = .ok (.invokevirtual 278, 3) := dk_182 1 22 (dk_at dksX0_who_3 20 rfl rfl)
theorem dX0_who_92 : decode cX0_who 92 = .ok (.ifCond .ne 6, 3) := dk_154 0 6 (dk_at dksX0_who_4 0 rfl rfl)
theorem dX0_who_95 : decode cX0_who 95 = .ok (.goto 24, 3) := dk_167 0 24 (dk_at dksX0_who_4 3 rfl rfl)
theorem dX0_who_98 : decode cX0_who 98 = .ok (.iload_n 3, 1) := dk_29 (dk_at dksX0_who_4 6 rfl rfl)
theorem dX0_who_99 : decode cX0_who 99 = .ok (.iconst 2, 1) := dk_5 (dk_at dksX0_who_4 7 rfl rfl)
theorem dX0_who_100 : decode cX0_who 100 = .ok (.if_icmp .ge 12, 3) := dk_162 0 12 (dk_at dksX0_who_4 8 rfl rfl)
theorem dX0_who_103 : decode cX0_who 103 = .ok (.iload 5, 2) := dk_21 5 (dk_at dksX0_who_4 11 rfl rfl)
theorem dX0_who_105 : decode cX0_who 105 = .ok (.iconst 1, 1) := dk_4 (dk_at dksX0_who_4 13 rfl rfl)
theorem dX0_who_106 : decode cX0_who 106 = .ok (.iload 8, 2) := dk_21 8 (dk_at dksX0_who_4 14 rfl rfl)
theorem dX0_who_108 : decode cX0_who 108 = .ok (.ishl, 1) := dk_120 (dk_at dksX0_who_4 16 rfl rfl)
theorem dX0_who_109 : decode cX0_who 109 = .ok (.ior, 1) := dk_128 (dk_at dksX0_who_4 17 rfl rfl)
theorem dX0_who_110 : decode cX0_who 110 = .ok (.istore 5, 2) := dk_54 5 (dk_at dksX0_who_4 18 rfl rfl)
theorem dX0_who_112 : decode cX0_who 112 = .ok (.iinc 6 1, 3) := dk_132 6 1 (dk_at dksX0_who_4 20 rfl rfl)
theorem dX0_who_115 : decode cX0_who 115 = .ok (.iload 8, 2) := dk_21 8 (dk_at dksX0_who_5 0 rfl rfl)
theorem dX0_who_117 : decode cX0_who 117 = .ok (.istore 7, 2) := dk_54 7 (dk_at dksX0_who_5 2 rfl rfl)
theorem dX0_who_119 : decode cX0_who 119 = .ok (.iinc 8 (-1), 3) := dk_132 8 255 (dk_at dksX0_who_5 4 rfl rfl)
theorem dX0_who_122 : decode cX0_who 122 = .ok (.goto (-49), 3) := dk_167 255 207 (dk_at dksX0_who_5 7 rfl rfl)
theorem dX0_who_125 : decode cX0_who 125 = .ok (.iload_n 3, 1) := dk_29 (dk_at dksX0_who_5 10 rfl rfl)
theorem dX0_who_126 : decode cX0_who 126 = .ok (.iconst 2, 1) := dk_5 (dk_at dksX0_who_5 11 rfl rfl)
theorem dX0_who_127 : decode cX0_who 127 = .ok (.if_icmp .ge 8, 3) := dk_162 0 8 (dk_at dksX0_who_5 12 rfl rfl)
theorem dX0_who_130 : decode cX0_who 130 = .ok (.iload 5, 2) := dk_21 5 (dk_at dksX0_who_5 15 rfl rfl)
theorem dX0_who_132 : decode cX0_who 132 = .ok (.goto 15, 3) := dk_167 0 15 (dk_at dksX0_who_5 17 rfl rfl)
theorem dX0_who_135 : decode cX0_who 135 = .ok (.iload_n 3, 1) := dk_29 (dk_at dksX0_who_5 20 rfl rfl)
theorem dX0_who_136 : decode cX0_who 136 = .ok (.iconst 2, 1) := dk_5 (dk_at dksX0_who_5 21 rfl rfl)
theorem dX0_who_137 : decode cX0_who 137 = .ok (.if_icmp .ne 8, 3) := dk_160 0 8 (dk_at dksX0_who_6 0 rfl rfl)
theorem dX0_who_140 : decode cX0_who 140 = .ok (.iload 6, 2) := dk_21 6 (dk_at dksX0_who_6 3 rfl rfl)
theorem dX0_who_142 : decode cX0_who 142 = .ok (.goto 5, 3) := dk_167 0 5 (dk_at dksX0_who_6 5 rfl rfl)
theorem dX0_who_145 : decode cX0_who 145 = .ok (.iload 7, 2) := dk_21 7 (dk_at dksX0_who_6 8 rfl rfl)
theorem dX0_who_147 : decode cX0_who 147 = .ok (.ireturn, 1) := dk_172 (dk_at dksX0_who_6 10 rfl rfl)
abbrev cX0_supposes : ByteArray := prog_1_method_49_code
def yX0_supposes : MethodName := ⟨RX0, "supposes", "(III)V"⟩
def dkwX0_supposes_3 : List UInt8 := [180, 0, 131, 184, 0, 156, 182, 1, 13, 87, 177]
abbrev dktX0_supposes_3 : List UInt8 := dkwX0_supposes_3 ++ []
def dkwX0_supposes_2 : List UInt8 := [28, 154, 0, 7, 29, 167, 0, 8, 25, 4, 180, 0, 128, 28, 4, 160, 0, 7, 29, 167, 0, 8, 25, 4]
abbrev dktX0_supposes_2 : List UInt8 := dkwX0_supposes_2 ++ dktX0_supposes_3
def dkwX0_supposes_1 : List UInt8 := [164, 0, 16, 42, 180, 0, 20, 180, 0, 134, 27, 29, 79, 167, 0, 45, 42, 180, 0, 20, 180, 1, 9, 27]
abbrev dktX0_supposes_1 : List UInt8 := dkwX0_supposes_1 ++ dktX0_supposes_2
def dkwX0_supposes_0 : List UInt8 := [42, 180, 0, 20, 42, 180, 0, 16, 182, 0, 103, 42, 180, 0, 16, 27, 182, 0, 124, 58, 4, 28, 4]
abbrev dktX0_supposes_0 : List UInt8 := dkwX0_supposes_0 ++ dktX0_supposes_1
theorem dksX0_supposes_0 : cX0_supposes.data.toList.drop 0 = dktX0_supposes_0 := by decide +kernel
theorem dksX0_supposes_1 : cX0_supposes.data.toList.drop 23 = dktX0_supposes_1 := dk_seg dksX0_supposes_0 23 rfl rfl
theorem dksX0_supposes_2 : cX0_supposes.data.toList.drop 47 = dktX0_supposes_2 := dk_seg dksX0_supposes_1 24 rfl rfl
theorem dksX0_supposes_3 : cX0_supposes.data.toList.drop 71 = dktX0_supposes_3 := dk_seg dksX0_supposes_2 24 rfl rfl
theorem dX0_supposes_0 : decode cX0_supposes 0 = .ok (.aload_n 0, 1) := dk_42 (dk_at dksX0_supposes_0 0 rfl rfl)
theorem dX0_supposes_1 : decode cX0_supposes 1 = .ok (.getfield 20, 3) := dk_180 0 20 (dk_at dksX0_supposes_0 1 rfl rfl)
theorem dX0_supposes_4 : decode cX0_supposes 4 = .ok (.aload_n 0, 1) := dk_42 (dk_at dksX0_supposes_0 4 rfl rfl)
theorem dX0_supposes_5 : decode cX0_supposes 5 = .ok (.getfield 16, 3) := dk_180 0 16 (dk_at dksX0_supposes_0 5 rfl rfl)
theorem dX0_supposes_8 : decode cX0_supposes 8 = .ok (.invokevirtual 103, 3) := dk_182 0 103 (dk_at dksX0_supposes_0 8 rfl rfl)
theorem dX0_supposes_11 : decode cX0_supposes 11 = .ok (.aload_n 0, 1) := dk_42 (dk_at dksX0_supposes_0 11 rfl rfl)
theorem dX0_supposes_12 : decode cX0_supposes 12 = .ok (.getfield 16, 3) := dk_180 0 16 (dk_at dksX0_supposes_0 12 rfl rfl)
theorem dX0_supposes_15 : decode cX0_supposes 15 = .ok (.iload_n 1, 1) := dk_27 (dk_at dksX0_supposes_0 15 rfl rfl)
theorem dX0_supposes_16 : decode cX0_supposes 16 = .ok (.invokevirtual 124, 3) := dk_182 0 124 (dk_at dksX0_supposes_0 16 rfl rfl)
theorem dX0_supposes_19 : decode cX0_supposes 19 = .ok (.astore 4, 2) := dk_58 4 (dk_at dksX0_supposes_0 19 rfl rfl)
theorem dX0_supposes_21 : decode cX0_supposes 21 = .ok (.iload_n 2, 1) := dk_28 (dk_at dksX0_supposes_0 21 rfl rfl)
theorem dX0_supposes_22 : decode cX0_supposes 22 = .ok (.iconst 1, 1) := dk_4 (dk_at dksX0_supposes_0 22 rfl rfl)
theorem dX0_supposes_23 : decode cX0_supposes 23 = .ok (.if_icmp .le 16, 3) := dk_164 0 16 (dk_at dksX0_supposes_1 0 rfl rfl)
theorem dX0_supposes_26 : decode cX0_supposes 26 = .ok (.aload_n 0, 1) := dk_42 (dk_at dksX0_supposes_1 3 rfl rfl)
theorem dX0_supposes_27 : decode cX0_supposes 27 = .ok (.getfield 20, 3) := dk_180 0 20 (dk_at dksX0_supposes_1 4 rfl rfl)
theorem dX0_supposes_30 : decode cX0_supposes 30 = .ok (.getfield 134, 3) := dk_180 0 134 (dk_at dksX0_supposes_1 7 rfl rfl)
theorem dX0_supposes_33 : decode cX0_supposes 33 = .ok (.iload_n 1, 1) := dk_27 (dk_at dksX0_supposes_1 10 rfl rfl)
theorem dX0_supposes_34 : decode cX0_supposes 34 = .ok (.iload_n 3, 1) := dk_29 (dk_at dksX0_supposes_1 11 rfl rfl)
theorem dX0_supposes_35 : decode cX0_supposes 35 = .ok (.iastore, 1) := dk_79 (dk_at dksX0_supposes_1 12 rfl rfl)
theorem dX0_supposes_36 : decode cX0_supposes 36 = .ok (.goto 45, 3) := dk_167 0 45 (dk_at dksX0_supposes_1 13 rfl rfl)
theorem dX0_supposes_39 : decode cX0_supposes 39 = .ok (.aload_n 0, 1) := dk_42 (dk_at dksX0_supposes_1 16 rfl rfl)
theorem dX0_supposes_40 : decode cX0_supposes 40 = .ok (.getfield 20, 3) := dk_180 0 20 (dk_at dksX0_supposes_1 17 rfl rfl)
theorem dX0_supposes_43 : decode cX0_supposes 43 = .ok (.getfield 265, 3) := dk_180 1 9 (dk_at dksX0_supposes_1 20 rfl rfl)
theorem dX0_supposes_46 : decode cX0_supposes 46 = .ok (.iload_n 1, 1) := dk_27 (dk_at dksX0_supposes_1 23 rfl rfl)
theorem dX0_supposes_47 : decode cX0_supposes 47 = .ok (.iload_n 2, 1) := dk_28 (dk_at dksX0_supposes_2 0 rfl rfl)
theorem dX0_supposes_48 : decode cX0_supposes 48 = .ok (.ifCond .ne 7, 3) := dk_154 0 7 (dk_at dksX0_supposes_2 1 rfl rfl)
theorem dX0_supposes_51 : decode cX0_supposes 51 = .ok (.iload_n 3, 1) := dk_29 (dk_at dksX0_supposes_2 4 rfl rfl)
theorem dX0_supposes_52 : decode cX0_supposes 52 = .ok (.goto 8, 3) := dk_167 0 8 (dk_at dksX0_supposes_2 5 rfl rfl)
theorem dX0_supposes_55 : decode cX0_supposes 55 = .ok (.aload 4, 2) := dk_25 4 (dk_at dksX0_supposes_2 8 rfl rfl)
theorem dX0_supposes_57 : decode cX0_supposes 57 = .ok (.getfield 128, 3) := dk_180 0 128 (dk_at dksX0_supposes_2 10 rfl rfl)
theorem dX0_supposes_60 : decode cX0_supposes 60 = .ok (.iload_n 2, 1) := dk_28 (dk_at dksX0_supposes_2 13 rfl rfl)
theorem dX0_supposes_61 : decode cX0_supposes 61 = .ok (.iconst 1, 1) := dk_4 (dk_at dksX0_supposes_2 14 rfl rfl)
theorem dX0_supposes_62 : decode cX0_supposes 62 = .ok (.if_icmp .ne 7, 3) := dk_160 0 7 (dk_at dksX0_supposes_2 15 rfl rfl)
theorem dX0_supposes_65 : decode cX0_supposes 65 = .ok (.iload_n 3, 1) := dk_29 (dk_at dksX0_supposes_2 18 rfl rfl)
theorem dX0_supposes_66 : decode cX0_supposes 66 = .ok (.goto 8, 3) := dk_167 0 8 (dk_at dksX0_supposes_2 19 rfl rfl)
theorem dX0_supposes_69 : decode cX0_supposes 69 = .ok (.aload 4, 2) := dk_25 4 (dk_at dksX0_supposes_2 22 rfl rfl)
theorem dX0_supposes_71 : decode cX0_supposes 71 = .ok (.getfield 131, 3) := dk_180 0 131 (dk_at dksX0_supposes_3 0 rfl rfl)
theorem dX0_supposes_74 : decode cX0_supposes 74 = .ok (.invokestatic 156, 3) := dk_184 0 156 (dk_at dksX0_supposes_3 3 rfl rfl)
theorem dX0_supposes_77 : decode cX0_supposes 77 = .ok (.invokevirtual 269, 3) := dk_182 1 13 (dk_at dksX0_supposes_3 6 rfl rfl)
theorem dX0_supposes_80 : decode cX0_supposes 80 = .ok (.pop, 1) := dk_87 (dk_at dksX0_supposes_3 9 rfl rfl)
theorem dX0_supposes_81 : decode cX0_supposes 81 = .ok (.return_, 1) := dk_177 (dk_at dksX0_supposes_3 10 rfl rfl)
abbrev cX0_isQuarrelSo : ByteArray := prog_1_method_48_code
def yX0_isQuarrelSo : MethodName := ⟨RX0, "isQuarrelSo", "(II)Z"⟩
def dkwX0_isQuarrelSo_1 : List UInt8 := [46, 159, 0, 5, 3, 172, 42, 180, 0, 20, 182, 0, 196, 132, 3, 1, 167, 255, 218, 4, 172]
abbrev dktX0_isQuarrelSo_1 : List UInt8 := dkwX0_isQuarrelSo_1 ++ []
def dkwX0_isQuarrelSo_0 : List UInt8 := [3, 62, 29, 42, 180, 1, 6, 162, 0, 36, 42, 180, 0, 20, 27, 28, 182, 0, 149, 42, 180, 0, 39, 29]
abbrev dktX0_isQuarrelSo_0 : List UInt8 := dkwX0_isQuarrelSo_0 ++ dktX0_isQuarrelSo_1
theorem dksX0_isQuarrelSo_0 : cX0_isQuarrelSo.data.toList.drop 0 = dktX0_isQuarrelSo_0 := by decide +kernel
theorem dksX0_isQuarrelSo_1 : cX0_isQuarrelSo.data.toList.drop 24 = dktX0_isQuarrelSo_1 := dk_seg dksX0_isQuarrelSo_0 24 rfl rfl
theorem dX0_isQuarrelSo_0 : decode cX0_isQuarrelSo 0 = .ok (.iconst 0, 1) := dk_3 (dk_at dksX0_isQuarrelSo_0 0 rfl rfl)
theorem dX0_isQuarrelSo_1 : decode cX0_isQuarrelSo 1 = .ok (.istore_n 3, 1) := dk_62 (dk_at dksX0_isQuarrelSo_0 1 rfl rfl)
theorem dX0_isQuarrelSo_2 : decode cX0_isQuarrelSo 2 = .ok (.iload_n 3, 1) := dk_29 (dk_at dksX0_isQuarrelSo_0 2 rfl rfl)
theorem dX0_isQuarrelSo_3 : decode cX0_isQuarrelSo 3 = .ok (.aload_n 0, 1) := dk_42 (dk_at dksX0_isQuarrelSo_0 3 rfl rfl)
theorem dX0_isQuarrelSo_4 : decode cX0_isQuarrelSo 4 = .ok (.getfield 262, 3) := dk_180 1 6 (dk_at dksX0_isQuarrelSo_0 4 rfl rfl)
theorem dX0_isQuarrelSo_7 : decode cX0_isQuarrelSo 7 = .ok (.if_icmp .ge 36, 3) := dk_162 0 36 (dk_at dksX0_isQuarrelSo_0 7 rfl rfl)
theorem dX0_isQuarrelSo_10 : decode cX0_isQuarrelSo 10 = .ok (.aload_n 0, 1) := dk_42 (dk_at dksX0_isQuarrelSo_0 10 rfl rfl)
theorem dX0_isQuarrelSo_11 : decode cX0_isQuarrelSo 11 = .ok (.getfield 20, 3) := dk_180 0 20 (dk_at dksX0_isQuarrelSo_0 11 rfl rfl)
theorem dX0_isQuarrelSo_14 : decode cX0_isQuarrelSo 14 = .ok (.iload_n 1, 1) := dk_27 (dk_at dksX0_isQuarrelSo_0 14 rfl rfl)
theorem dX0_isQuarrelSo_15 : decode cX0_isQuarrelSo 15 = .ok (.iload_n 2, 1) := dk_28 (dk_at dksX0_isQuarrelSo_0 15 rfl rfl)
theorem dX0_isQuarrelSo_16 : decode cX0_isQuarrelSo 16 = .ok (.invokevirtual 149, 3) := dk_182 0 149 (dk_at dksX0_isQuarrelSo_0 16 rfl rfl)
theorem dX0_isQuarrelSo_19 : decode cX0_isQuarrelSo 19 = .ok (.aload_n 0, 1) := dk_42 (dk_at dksX0_isQuarrelSo_0 19 rfl rfl)
theorem dX0_isQuarrelSo_20 : decode cX0_isQuarrelSo 20 = .ok (.getfield 39, 3) := dk_180 0 39 (dk_at dksX0_isQuarrelSo_0 20 rfl rfl)
theorem dX0_isQuarrelSo_23 : decode cX0_isQuarrelSo 23 = .ok (.iload_n 3, 1) := dk_29 (dk_at dksX0_isQuarrelSo_0 23 rfl rfl)
theorem dX0_isQuarrelSo_24 : decode cX0_isQuarrelSo 24 = .ok (.iaload, 1) := dk_46 (dk_at dksX0_isQuarrelSo_1 0 rfl rfl)
theorem dX0_isQuarrelSo_25 : decode cX0_isQuarrelSo 25 = .ok (.if_icmp .eq 5, 3) := dk_159 0 5 (dk_at dksX0_isQuarrelSo_1 1 rfl rfl)
theorem dX0_isQuarrelSo_28 : decode cX0_isQuarrelSo 28 = .ok (.iconst 0, 1) := dk_3 (dk_at dksX0_isQuarrelSo_1 4 rfl rfl)
theorem dX0_isQuarrelSo_29 : decode cX0_isQuarrelSo 29 = .ok (.ireturn, 1) := dk_172 (dk_at dksX0_isQuarrelSo_1 5 rfl rfl)
theorem dX0_isQuarrelSo_30 : decode cX0_isQuarrelSo 30 = .ok (.aload_n 0, 1) := dk_42 (dk_at dksX0_isQuarrelSo_1 6 rfl rfl)
theorem dX0_isQuarrelSo_31 : decode cX0_isQuarrelSo 31 = .ok (.getfield 20, 3) := dk_180 0 20 (dk_at dksX0_isQuarrelSo_1 7 rfl rfl)
theorem dX0_isQuarrelSo_34 : decode cX0_isQuarrelSo 34 = .ok (.invokevirtual 196, 3) := dk_182 0 196 (dk_at dksX0_isQuarrelSo_1 10 rfl rfl)
theorem dX0_isQuarrelSo_37 : decode cX0_isQuarrelSo 37 = .ok (.iinc 3 1, 3) := dk_132 3 1 (dk_at dksX0_isQuarrelSo_1 13 rfl rfl)
theorem dX0_isQuarrelSo_40 : decode cX0_isQuarrelSo 40 = .ok (.goto (-38), 3) := dk_167 255 218 (dk_at dksX0_isQuarrelSo_1 16 rfl rfl)
theorem dX0_isQuarrelSo_43 : decode cX0_isQuarrelSo 43 = .ok (.iconst 1, 1) := dk_4 (dk_at dksX0_isQuarrelSo_1 19 rfl rfl)
theorem dX0_isQuarrelSo_44 : decode cX0_isQuarrelSo 44 = .ok (.ireturn, 1) := dk_172 (dk_at dksX0_isQuarrelSo_1 20 rfl rfl)
abbrev cX0_ways : ByteArray := prog_1_method_52_code
def yX0_ways : MethodName := ⟨RX0, "ways", "(II)I"⟩
def dkwX0_ways_4 : List UInt8 := [172, 132, 4, 1, 167, 255, 184, 16, 247, 172]
abbrev dktX0_ways_4 : List UInt8 := dkwX0_ways_4 ++ []
def dkwX0_ways_3 : List UInt8 := [21, 5, 184, 1, 30, 29, 21, 6, 21, 5, 184, 1, 30, 163, 0, 12, 16, 10, 21, 5, 104, 21, 6, 96]
abbrev dktX0_ways_3 : List UInt8 := dkwX0_ways_3 ++ dktX0_ways_4
def dkwX0_ways_2 : List UInt8 := [21, 5, 100, 21, 6, 184, 1, 30, 29, 21, 5, 21, 6, 184, 1, 30, 163, 0, 33, 29, 4, 21, 6, 100]
abbrev dktX0_ways_2 : List UInt8 := dkwX0_ways_2 ++ dktX0_ways_3
def dkwX0_ways_1 : List UInt8 := [62, 3, 54, 4, 21, 4, 7, 162, 0, 72, 21, 4, 5, 108, 54, 5, 21, 4, 5, 112, 54, 6, 29, 4]
abbrev dktX0_ways_1 : List UInt8 := dkwX0_ways_1 ++ dktX0_ways_2
def dkwX0_ways_0 : List UInt8 := [42, 27, 28, 182, 0, 146, 154, 0, 9, 42, 2, 182, 0, 48, 172, 42, 180, 0, 16, 27, 28, 182, 0, 149]
abbrev dktX0_ways_0 : List UInt8 := dkwX0_ways_0 ++ dktX0_ways_1
theorem dksX0_ways_0 : cX0_ways.data.toList.drop 0 = dktX0_ways_0 := by decide +kernel
theorem dksX0_ways_1 : cX0_ways.data.toList.drop 24 = dktX0_ways_1 := dk_seg dksX0_ways_0 24 rfl rfl
theorem dksX0_ways_2 : cX0_ways.data.toList.drop 48 = dktX0_ways_2 := dk_seg dksX0_ways_1 24 rfl rfl
theorem dksX0_ways_3 : cX0_ways.data.toList.drop 72 = dktX0_ways_3 := dk_seg dksX0_ways_2 24 rfl rfl
theorem dksX0_ways_4 : cX0_ways.data.toList.drop 96 = dktX0_ways_4 := dk_seg dksX0_ways_3 24 rfl rfl
theorem dX0_ways_0 : decode cX0_ways 0 = .ok (.aload_n 0, 1) := dk_42 (dk_at dksX0_ways_0 0 rfl rfl)
theorem dX0_ways_1 : decode cX0_ways 1 = .ok (.iload_n 1, 1) := dk_27 (dk_at dksX0_ways_0 1 rfl rfl)
theorem dX0_ways_2 : decode cX0_ways 2 = .ok (.iload_n 2, 1) := dk_28 (dk_at dksX0_ways_0 2 rfl rfl)
theorem dX0_ways_3 : decode cX0_ways 3 = .ok (.invokevirtual 146, 3) := dk_182 0 146 (dk_at dksX0_ways_0 3 rfl rfl)
theorem dX0_ways_6 : decode cX0_ways 6 = .ok (.ifCond .ne 9, 3) := dk_154 0 9 (dk_at dksX0_ways_0 6 rfl rfl)
theorem dX0_ways_9 : decode cX0_ways 9 = .ok (.aload_n 0, 1) := dk_42 (dk_at dksX0_ways_0 9 rfl rfl)
theorem dX0_ways_10 : decode cX0_ways 10 = .ok (.iconst (-1), 1) := dk_2 (dk_at dksX0_ways_0 10 rfl rfl)
theorem dX0_ways_11 : decode cX0_ways 11 = .ok (.invokevirtual 48, 3) := dk_182 0 48 (dk_at dksX0_ways_0 11 rfl rfl)
theorem dX0_ways_14 : decode cX0_ways 14 = .ok (.ireturn, 1) := dk_172 (dk_at dksX0_ways_0 14 rfl rfl)
theorem dX0_ways_15 : decode cX0_ways 15 = .ok (.aload_n 0, 1) := dk_42 (dk_at dksX0_ways_0 15 rfl rfl)
theorem dX0_ways_16 : decode cX0_ways 16 = .ok (.getfield 16, 3) := dk_180 0 16 (dk_at dksX0_ways_0 16 rfl rfl)
theorem dX0_ways_19 : decode cX0_ways 19 = .ok (.iload_n 1, 1) := dk_27 (dk_at dksX0_ways_0 19 rfl rfl)
theorem dX0_ways_20 : decode cX0_ways 20 = .ok (.iload_n 2, 1) := dk_28 (dk_at dksX0_ways_0 20 rfl rfl)
theorem dX0_ways_21 : decode cX0_ways 21 = .ok (.invokevirtual 149, 3) := dk_182 0 149 (dk_at dksX0_ways_0 21 rfl rfl)
theorem dX0_ways_24 : decode cX0_ways 24 = .ok (.istore_n 3, 1) := dk_62 (dk_at dksX0_ways_1 0 rfl rfl)
theorem dX0_ways_25 : decode cX0_ways 25 = .ok (.iconst 0, 1) := dk_3 (dk_at dksX0_ways_1 1 rfl rfl)
theorem dX0_ways_26 : decode cX0_ways 26 = .ok (.istore 4, 2) := dk_54 4 (dk_at dksX0_ways_1 2 rfl rfl)
theorem dX0_ways_28 : decode cX0_ways 28 = .ok (.iload 4, 2) := dk_21 4 (dk_at dksX0_ways_1 4 rfl rfl)
theorem dX0_ways_30 : decode cX0_ways 30 = .ok (.iconst 4, 1) := dk_7 (dk_at dksX0_ways_1 6 rfl rfl)
theorem dX0_ways_31 : decode cX0_ways 31 = .ok (.if_icmp .ge 72, 3) := dk_162 0 72 (dk_at dksX0_ways_1 7 rfl rfl)
theorem dX0_ways_34 : decode cX0_ways 34 = .ok (.iload 4, 2) := dk_21 4 (dk_at dksX0_ways_1 10 rfl rfl)
theorem dX0_ways_36 : decode cX0_ways 36 = .ok (.iconst 2, 1) := dk_5 (dk_at dksX0_ways_1 12 rfl rfl)
theorem dX0_ways_37 : decode cX0_ways 37 = .ok (.idiv, 1) := dk_108 (dk_at dksX0_ways_1 13 rfl rfl)
theorem dX0_ways_38 : decode cX0_ways 38 = .ok (.istore 5, 2) := dk_54 5 (dk_at dksX0_ways_1 14 rfl rfl)
theorem dX0_ways_40 : decode cX0_ways 40 = .ok (.iload 4, 2) := dk_21 4 (dk_at dksX0_ways_1 16 rfl rfl)
theorem dX0_ways_42 : decode cX0_ways 42 = .ok (.iconst 2, 1) := dk_5 (dk_at dksX0_ways_1 18 rfl rfl)
theorem dX0_ways_43 : decode cX0_ways 43 = .ok (.irem, 1) := dk_112 (dk_at dksX0_ways_1 19 rfl rfl)
theorem dX0_ways_44 : decode cX0_ways 44 = .ok (.istore 6, 2) := dk_54 6 (dk_at dksX0_ways_1 20 rfl rfl)
theorem dX0_ways_46 : decode cX0_ways 46 = .ok (.iload_n 3, 1) := dk_29 (dk_at dksX0_ways_1 22 rfl rfl)
theorem dX0_ways_47 : decode cX0_ways 47 = .ok (.iconst 1, 1) := dk_4 (dk_at dksX0_ways_1 23 rfl rfl)
theorem dX0_ways_48 : decode cX0_ways 48 = .ok (.iload 5, 2) := dk_21 5 (dk_at dksX0_ways_2 0 rfl rfl)
theorem dX0_ways_50 : decode cX0_ways 50 = .ok (.isub, 1) := dk_100 (dk_at dksX0_ways_2 2 rfl rfl)
theorem dX0_ways_51 : decode cX0_ways 51 = .ok (.iload 6, 2) := dk_21 6 (dk_at dksX0_ways_2 3 rfl rfl)
theorem dX0_ways_53 : decode cX0_ways 53 = .ok (.invokestatic 286, 3) := dk_184 1 30 (dk_at dksX0_ways_2 5 rfl rfl)
theorem dX0_ways_56 : decode cX0_ways 56 = .ok (.iload_n 3, 1) := dk_29 (dk_at dksX0_ways_2 8 rfl rfl)
theorem dX0_ways_57 : decode cX0_ways 57 = .ok (.iload 5, 2) := dk_21 5 (dk_at dksX0_ways_2 9 rfl rfl)
theorem dX0_ways_59 : decode cX0_ways 59 = .ok (.iload 6, 2) := dk_21 6 (dk_at dksX0_ways_2 11 rfl rfl)
theorem dX0_ways_61 : decode cX0_ways 61 = .ok (.invokestatic 286, 3) := dk_184 1 30 (dk_at dksX0_ways_2 13 rfl rfl)
theorem dX0_ways_64 : decode cX0_ways 64 = .ok (.if_icmp .gt 33, 3) := dk_163 0 33 (dk_at dksX0_ways_2 16 rfl rfl)
theorem dX0_ways_67 : decode cX0_ways 67 = .ok (.iload_n 3, 1) := dk_29 (dk_at dksX0_ways_2 19 rfl rfl)
theorem dX0_ways_68 : decode cX0_ways 68 = .ok (.iconst 1, 1) := dk_4 (dk_at dksX0_ways_2 20 rfl rfl)
theorem dX0_ways_69 : decode cX0_ways 69 = .ok (.iload 6, 2) := dk_21 6 (dk_at dksX0_ways_2 21 rfl rfl)
theorem dX0_ways_71 : decode cX0_ways 71 = .ok (.isub, 1) := dk_100 (dk_at dksX0_ways_2 23 rfl rfl)
theorem dX0_ways_72 : decode cX0_ways 72 = .ok (.iload 5, 2) := dk_21 5 (dk_at dksX0_ways_3 0 rfl rfl)
theorem dX0_ways_74 : decode cX0_ways 74 = .ok (.invokestatic 286, 3) := dk_184 1 30 (dk_at dksX0_ways_3 2 rfl rfl)
theorem dX0_ways_77 : decode cX0_ways 77 = .ok (.iload_n 3, 1) := dk_29 (dk_at dksX0_ways_3 5 rfl rfl)
theorem dX0_ways_78 : decode cX0_ways 78 = .ok (.iload 6, 2) := dk_21 6 (dk_at dksX0_ways_3 6 rfl rfl)
theorem dX0_ways_80 : decode cX0_ways 80 = .ok (.iload 5, 2) := dk_21 5 (dk_at dksX0_ways_3 8 rfl rfl)
theorem dX0_ways_82 : decode cX0_ways 82 = .ok (.invokestatic 286, 3) := dk_184 1 30 (dk_at dksX0_ways_3 10 rfl rfl)
theorem dX0_ways_85 : decode cX0_ways 85 = .ok (.if_icmp .gt 12, 3) := dk_163 0 12 (dk_at dksX0_ways_3 13 rfl rfl)
theorem dX0_ways_88 : decode cX0_ways 88 = .ok (.bipush 10, 2) := dk_16 10 (dk_at dksX0_ways_3 16 rfl rfl)
theorem dX0_ways_90 : decode cX0_ways 90 = .ok (.iload 5, 2) := dk_21 5 (dk_at dksX0_ways_3 18 rfl rfl)
theorem dX0_ways_92 : decode cX0_ways 92 = .ok (.imul, 1) := dk_104 (dk_at dksX0_ways_3 20 rfl rfl)
theorem dX0_ways_93 : decode cX0_ways 93 = .ok (.iload 6, 2) := dk_21 6 (dk_at dksX0_ways_3 21 rfl rfl)
theorem dX0_ways_95 : decode cX0_ways 95 = .ok (.iadd, 1) := dk_96 (dk_at dksX0_ways_3 23 rfl rfl)
theorem dX0_ways_96 : decode cX0_ways 96 = .ok (.ireturn, 1) := dk_172 (dk_at dksX0_ways_4 0 rfl rfl)
theorem dX0_ways_97 : decode cX0_ways 97 = .ok (.iinc 4 1, 3) := dk_132 4 1 (dk_at dksX0_ways_4 1 rfl rfl)
theorem dX0_ways_100 : decode cX0_ways 100 = .ok (.goto (-72), 3) := dk_167 255 184 (dk_at dksX0_ways_4 4 rfl rfl)
theorem dX0_ways_103 : decode cX0_ways 103 = .ok (.bipush (-9), 2) := dk_16 247 (dk_at dksX0_ways_4 7 rfl rfl)
theorem dX0_ways_105 : decode cX0_ways 105 = .ok (.ireturn, 1) := dk_172 (dk_at dksX0_ways_4 9 rfl rfl)
abbrev cX0_gains : ByteArray := prog_1_method_51_code
def yX0_gains : MethodName := ⟨RX0, "gains", "(III)I"⟩
def dkwX0_gains_1 : List UInt8 := [160, 0, 7, 3, 167, 0, 14, 27, 154, 0, 8, 16, 8, 167, 0, 5, 16, 251, 96, 172]
abbrev dktX0_gains_1 : List UInt8 := dkwX0_gains_1 ++ []
def dkwX0_gains_0 : List UInt8 := [3, 26, 16, 10, 27, 104, 100, 16, 10, 28, 104, 100, 184, 1, 25, 62, 16, 20, 29, 100, 27, 28]
abbrev dktX0_gains_0 : List UInt8 := dkwX0_gains_0 ++ dktX0_gains_1
theorem dksX0_gains_0 : cX0_gains.data.toList.drop 0 = dktX0_gains_0 := by decide +kernel
theorem dksX0_gains_1 : cX0_gains.data.toList.drop 22 = dktX0_gains_1 := dk_seg dksX0_gains_0 22 rfl rfl
theorem dX0_gains_0 : decode cX0_gains 0 = .ok (.iconst 0, 1) := dk_3 (dk_at dksX0_gains_0 0 rfl rfl)
theorem dX0_gains_1 : decode cX0_gains 1 = .ok (.iload_n 0, 1) := dk_26 (dk_at dksX0_gains_0 1 rfl rfl)
theorem dX0_gains_2 : decode cX0_gains 2 = .ok (.bipush 10, 2) := dk_16 10 (dk_at dksX0_gains_0 2 rfl rfl)
theorem dX0_gains_4 : decode cX0_gains 4 = .ok (.iload_n 1, 1) := dk_27 (dk_at dksX0_gains_0 4 rfl rfl)
theorem dX0_gains_5 : decode cX0_gains 5 = .ok (.imul, 1) := dk_104 (dk_at dksX0_gains_0 5 rfl rfl)
theorem dX0_gains_6 : decode cX0_gains 6 = .ok (.isub, 1) := dk_100 (dk_at dksX0_gains_0 6 rfl rfl)
theorem dX0_gains_7 : decode cX0_gains 7 = .ok (.bipush 10, 2) := dk_16 10 (dk_at dksX0_gains_0 7 rfl rfl)
theorem dX0_gains_9 : decode cX0_gains 9 = .ok (.iload_n 2, 1) := dk_28 (dk_at dksX0_gains_0 9 rfl rfl)
theorem dX0_gains_10 : decode cX0_gains 10 = .ok (.imul, 1) := dk_104 (dk_at dksX0_gains_0 10 rfl rfl)
theorem dX0_gains_11 : decode cX0_gains 11 = .ok (.isub, 1) := dk_100 (dk_at dksX0_gains_0 11 rfl rfl)
theorem dX0_gains_12 : decode cX0_gains 12 = .ok (.invokestatic 281, 3) := dk_184 1 25 (dk_at dksX0_gains_0 12 rfl rfl)
theorem dX0_gains_15 : decode cX0_gains 15 = .ok (.istore_n 3, 1) := dk_62 (dk_at dksX0_gains_0 15 rfl rfl)
theorem dX0_gains_16 : decode cX0_gains 16 = .ok (.bipush 20, 2) := dk_16 20 (dk_at dksX0_gains_0 16 rfl rfl)
theorem dX0_gains_18 : decode cX0_gains 18 = .ok (.iload_n 3, 1) := dk_29 (dk_at dksX0_gains_0 18 rfl rfl)
theorem dX0_gains_19 : decode cX0_gains 19 = .ok (.isub, 1) := dk_100 (dk_at dksX0_gains_0 19 rfl rfl)
theorem dX0_gains_20 : decode cX0_gains 20 = .ok (.iload_n 1, 1) := dk_27 (dk_at dksX0_gains_0 20 rfl rfl)
theorem dX0_gains_21 : decode cX0_gains 21 = .ok (.iload_n 2, 1) := dk_28 (dk_at dksX0_gains_0 21 rfl rfl)
theorem dX0_gains_22 : decode cX0_gains 22 = .ok (.if_icmp .ne 7, 3) := dk_160 0 7 (dk_at dksX0_gains_1 0 rfl rfl)
theorem dX0_gains_25 : decode cX0_gains 25 = .ok (.iconst 0, 1) := dk_3 (dk_at dksX0_gains_1 3 rfl rfl)
theorem dX0_gains_26 : decode cX0_gains 26 = .ok (.goto 14, 3) := dk_167 0 14 (dk_at dksX0_gains_1 4 rfl rfl)
theorem dX0_gains_29 : decode cX0_gains 29 = .ok (.iload_n 1, 1) := dk_27 (dk_at dksX0_gains_1 7 rfl rfl)
theorem dX0_gains_30 : decode cX0_gains 30 = .ok (.ifCond .ne 8, 3) := dk_154 0 8 (dk_at dksX0_gains_1 8 rfl rfl)
theorem dX0_gains_33 : decode cX0_gains 33 = .ok (.bipush 8, 2) := dk_16 8 (dk_at dksX0_gains_1 11 rfl rfl)
theorem dX0_gains_35 : decode cX0_gains 35 = .ok (.goto 5, 3) := dk_167 0 5 (dk_at dksX0_gains_1 13 rfl rfl)
theorem dX0_gains_38 : decode cX0_gains 38 = .ok (.bipush (-5), 2) := dk_16 251 (dk_at dksX0_gains_1 16 rfl rfl)
theorem dX0_gains_40 : decode cX0_gains 40 = .ok (.iadd, 1) := dk_96 (dk_at dksX0_gains_1 18 rfl rfl)
theorem dX0_gains_41 : decode cX0_gains 41 = .ok (.ireturn, 1) := dk_172 (dk_at dksX0_gains_1 19 rfl rfl)
abbrev cX0_away : ByteArray := prog_1_method_57_code
def yX0_away : MethodName := ⟨RX0, "away", "(IIIIII)J"⟩
def dkwX0_away_6 : List UInt8 := [167, 255, 209, 22, 8, 21, 5, 133, 21, 4, 184, 1, 45, 21, 6, 184, 1, 49, 173]
abbrev dktX0_away_6 : List UInt8 := dkwX0_away_6 ++ []
def dkwX0_away_5 : List UInt8 := [21, 5, 4, 100, 133, 21, 4, 21, 10, 184, 1, 0, 100, 184, 1, 45, 97, 55, 8, 132, 10, 1]
abbrev dktX0_away_5 : List UInt8 := dkwX0_away_5 ++ dktX0_away_6
def dkwX0_away_4 : List UInt8 := [4, 21, 4, 120, 162, 0, 44, 42, 27, 28, 21, 4, 21, 10, 182, 1, 41, 29, 163, 0, 24, 22, 8]
abbrev dktX0_away_4 : List UInt8 := dkwX0_away_4 ++ dktX0_away_5
def dkwX0_away_3 : List UInt8 := [16, 254, 54, 7, 21, 7, 153, 0, 10, 42, 21, 7, 182, 1, 37, 173, 9, 55, 8, 3, 54, 10, 21, 10]
abbrev dktX0_away_3 : List UInt8 := dkwX0_away_3 ++ dktX0_away_4
def dkwX0_away_2 : List UInt8 := [16, 20, 164, 0, 8, 16, 250, 167, 0, 18, 21, 6, 5, 184, 0, 78, 153, 0, 7, 3, 167, 0, 5]
abbrev dktX0_away_2 : List UInt8 := dkwX0_away_2 ++ dktX0_away_3
def dkwX0_away_1 : List UInt8 := [5, 162, 0, 8, 16, 252, 167, 0, 43, 29, 16, 99, 163, 0, 17, 21, 4, 16, 8, 163, 0, 10, 21, 5]
abbrev dktX0_away_1 : List UInt8 := dkwX0_away_1 ++ dktX0_away_2
def dkwX0_away_0 : List UInt8 := [42, 27, 28, 182, 0, 146, 154, 0, 7, 2, 167, 0, 63, 29, 155, 0, 14, 21, 4, 155, 0, 9, 21, 5]
abbrev dktX0_away_0 : List UInt8 := dkwX0_away_0 ++ dktX0_away_1
theorem dksX0_away_0 : cX0_away.data.toList.drop 0 = dktX0_away_0 := by decide +kernel
theorem dksX0_away_1 : cX0_away.data.toList.drop 24 = dktX0_away_1 := dk_seg dksX0_away_0 24 rfl rfl
theorem dksX0_away_2 : cX0_away.data.toList.drop 48 = dktX0_away_2 := dk_seg dksX0_away_1 24 rfl rfl
theorem dksX0_away_3 : cX0_away.data.toList.drop 71 = dktX0_away_3 := dk_seg dksX0_away_2 23 rfl rfl
theorem dksX0_away_4 : cX0_away.data.toList.drop 95 = dktX0_away_4 := dk_seg dksX0_away_3 24 rfl rfl
theorem dksX0_away_5 : cX0_away.data.toList.drop 118 = dktX0_away_5 := dk_seg dksX0_away_4 23 rfl rfl
theorem dksX0_away_6 : cX0_away.data.toList.drop 140 = dktX0_away_6 := dk_seg dksX0_away_5 22 rfl rfl
theorem dX0_away_0 : decode cX0_away 0 = .ok (.aload_n 0, 1) := dk_42 (dk_at dksX0_away_0 0 rfl rfl)
theorem dX0_away_1 : decode cX0_away 1 = .ok (.iload_n 1, 1) := dk_27 (dk_at dksX0_away_0 1 rfl rfl)
theorem dX0_away_2 : decode cX0_away 2 = .ok (.iload_n 2, 1) := dk_28 (dk_at dksX0_away_0 2 rfl rfl)
theorem dX0_away_3 : decode cX0_away 3 = .ok (.invokevirtual 146, 3) := dk_182 0 146 (dk_at dksX0_away_0 3 rfl rfl)
theorem dX0_away_6 : decode cX0_away 6 = .ok (.ifCond .ne 7, 3) := dk_154 0 7 (dk_at dksX0_away_0 6 rfl rfl)
theorem dX0_away_9 : decode cX0_away 9 = .ok (.iconst (-1), 1) := dk_2 (dk_at dksX0_away_0 9 rfl rfl)
theorem dX0_away_10 : decode cX0_away 10 = .ok (.goto 63, 3) := dk_167 0 63 (dk_at dksX0_away_0 10 rfl rfl)
theorem dX0_away_13 : decode cX0_away 13 = .ok (.iload_n 3, 1) := dk_29 (dk_at dksX0_away_0 13 rfl rfl)
theorem dX0_away_14 : decode cX0_away 14 = .ok (.ifCond .lt 14, 3) := dk_155 0 14 (dk_at dksX0_away_0 14 rfl rfl)
theorem dX0_away_17 : decode cX0_away 17 = .ok (.iload 4, 2) := dk_21 4 (dk_at dksX0_away_0 17 rfl rfl)
theorem dX0_away_19 : decode cX0_away 19 = .ok (.ifCond .lt 9, 3) := dk_155 0 9 (dk_at dksX0_away_0 19 rfl rfl)
theorem dX0_away_22 : decode cX0_away 22 = .ok (.iload 5, 2) := dk_21 5 (dk_at dksX0_away_0 22 rfl rfl)
theorem dX0_away_24 : decode cX0_away 24 = .ok (.iconst 2, 1) := dk_5 (dk_at dksX0_away_1 0 rfl rfl)
theorem dX0_away_25 : decode cX0_away 25 = .ok (.if_icmp .ge 8, 3) := dk_162 0 8 (dk_at dksX0_away_1 1 rfl rfl)
theorem dX0_away_28 : decode cX0_away 28 = .ok (.bipush (-4), 2) := dk_16 252 (dk_at dksX0_away_1 4 rfl rfl)
theorem dX0_away_30 : decode cX0_away 30 = .ok (.goto 43, 3) := dk_167 0 43 (dk_at dksX0_away_1 6 rfl rfl)
theorem dX0_away_33 : decode cX0_away 33 = .ok (.iload_n 3, 1) := dk_29 (dk_at dksX0_away_1 9 rfl rfl)
theorem dX0_away_34 : decode cX0_away 34 = .ok (.bipush 99, 2) := dk_16 99 (dk_at dksX0_away_1 10 rfl rfl)
theorem dX0_away_36 : decode cX0_away 36 = .ok (.if_icmp .gt 17, 3) := dk_163 0 17 (dk_at dksX0_away_1 12 rfl rfl)
theorem dX0_away_39 : decode cX0_away 39 = .ok (.iload 4, 2) := dk_21 4 (dk_at dksX0_away_1 15 rfl rfl)
theorem dX0_away_41 : decode cX0_away 41 = .ok (.bipush 8, 2) := dk_16 8 (dk_at dksX0_away_1 17 rfl rfl)
theorem dX0_away_43 : decode cX0_away 43 = .ok (.if_icmp .gt 10, 3) := dk_163 0 10 (dk_at dksX0_away_1 19 rfl rfl)
theorem dX0_away_46 : decode cX0_away 46 = .ok (.iload 5, 2) := dk_21 5 (dk_at dksX0_away_1 22 rfl rfl)
theorem dX0_away_48 : decode cX0_away 48 = .ok (.bipush 20, 2) := dk_16 20 (dk_at dksX0_away_2 0 rfl rfl)
theorem dX0_away_50 : decode cX0_away 50 = .ok (.if_icmp .le 8, 3) := dk_164 0 8 (dk_at dksX0_away_2 2 rfl rfl)
theorem dX0_away_53 : decode cX0_away 53 = .ok (.bipush (-6), 2) := dk_16 250 (dk_at dksX0_away_2 5 rfl rfl)
theorem dX0_away_55 : decode cX0_away 55 = .ok (.goto 18, 3) := dk_167 0 18 (dk_at dksX0_away_2 7 rfl rfl)
theorem dX0_away_58 : decode cX0_away 58 = .ok (.iload 6, 2) := dk_21 6 (dk_at dksX0_away_2 10 rfl rfl)
theorem dX0_away_60 : decode cX0_away 60 = .ok (.iconst 2, 1) := dk_5 (dk_at dksX0_away_2 12 rfl rfl)
theorem dX0_away_61 : decode cX0_away 61 = .ok (.invokestatic 78, 3) := dk_184 0 78 (dk_at dksX0_away_2 13 rfl rfl)
theorem dX0_away_64 : decode cX0_away 64 = .ok (.ifCond .eq 7, 3) := dk_153 0 7 (dk_at dksX0_away_2 16 rfl rfl)
theorem dX0_away_67 : decode cX0_away 67 = .ok (.iconst 0, 1) := dk_3 (dk_at dksX0_away_2 19 rfl rfl)
theorem dX0_away_68 : decode cX0_away 68 = .ok (.goto 5, 3) := dk_167 0 5 (dk_at dksX0_away_2 20 rfl rfl)
theorem dX0_away_71 : decode cX0_away 71 = .ok (.bipush (-2), 2) := dk_16 254 (dk_at dksX0_away_3 0 rfl rfl)
theorem dX0_away_73 : decode cX0_away 73 = .ok (.istore 7, 2) := dk_54 7 (dk_at dksX0_away_3 2 rfl rfl)
theorem dX0_away_75 : decode cX0_away 75 = .ok (.iload 7, 2) := dk_21 7 (dk_at dksX0_away_3 4 rfl rfl)
theorem dX0_away_77 : decode cX0_away 77 = .ok (.ifCond .eq 10, 3) := dk_153 0 10 (dk_at dksX0_away_3 6 rfl rfl)
theorem dX0_away_80 : decode cX0_away 80 = .ok (.aload_n 0, 1) := dk_42 (dk_at dksX0_away_3 9 rfl rfl)
theorem dX0_away_81 : decode cX0_away 81 = .ok (.iload 7, 2) := dk_21 7 (dk_at dksX0_away_3 10 rfl rfl)
theorem dX0_away_83 : decode cX0_away 83 = .ok (.invokevirtual 293, 3) := dk_182 1 37 (dk_at dksX0_away_3 12 rfl rfl)
theorem dX0_away_86 : decode cX0_away 86 = .ok (.lreturn, 1) := dk_173 (dk_at dksX0_away_3 15 rfl rfl)
theorem dX0_away_87 : decode cX0_away 87 = .ok (.lconst 0, 1) := dk_9 (dk_at dksX0_away_3 16 rfl rfl)
theorem dX0_away_88 : decode cX0_away 88 = .ok (.lstore 8, 2) := dk_55 8 (dk_at dksX0_away_3 17 rfl rfl)
theorem dX0_away_90 : decode cX0_away 90 = .ok (.iconst 0, 1) := dk_3 (dk_at dksX0_away_3 19 rfl rfl)
theorem dX0_away_91 : decode cX0_away 91 = .ok (.istore 10, 2) := dk_54 10 (dk_at dksX0_away_3 20 rfl rfl)
theorem dX0_away_93 : decode cX0_away 93 = .ok (.iload 10, 2) := dk_21 10 (dk_at dksX0_away_3 22 rfl rfl)
theorem dX0_away_95 : decode cX0_away 95 = .ok (.iconst 1, 1) := dk_4 (dk_at dksX0_away_4 0 rfl rfl)
theorem dX0_away_96 : decode cX0_away 96 = .ok (.iload 4, 2) := dk_21 4 (dk_at dksX0_away_4 1 rfl rfl)
theorem dX0_away_98 : decode cX0_away 98 = .ok (.ishl, 1) := dk_120 (dk_at dksX0_away_4 3 rfl rfl)
theorem dX0_away_99 : decode cX0_away 99 = .ok (.if_icmp .ge 44, 3) := dk_162 0 44 (dk_at dksX0_away_4 4 rfl rfl)
theorem dX0_away_102 : decode cX0_away 102 = .ok (.aload_n 0, 1) := dk_42 (dk_at dksX0_away_4 7 rfl rfl)
theorem dX0_away_103 : decode cX0_away 103 = .ok (.iload_n 1, 1) := dk_27 (dk_at dksX0_away_4 8 rfl rfl)
theorem dX0_away_104 : decode cX0_away 104 = .ok (.iload_n 2, 1) := dk_28 (dk_at dksX0_away_4 9 rfl rfl)
theorem dX0_away_105 : decode cX0_away 105 = .ok (.iload 4, 2) := dk_21 4 (dk_at dksX0_away_4 10 rfl rfl)
theorem dX0_away_107 : decode cX0_away 107 = .ok (.iload 10, 2) := dk_21 10 (dk_at dksX0_away_4 12 rfl rfl)
theorem dX0_away_109 : decode cX0_away 109 = .ok (.invokevirtual 297, 3) := dk_182 1 41 (dk_at dksX0_away_4 14 rfl rfl)
theorem dX0_away_112 : decode cX0_away 112 = .ok (.iload_n 3, 1) := dk_29 (dk_at dksX0_away_4 17 rfl rfl)
theorem dX0_away_113 : decode cX0_away 113 = .ok (.if_icmp .gt 24, 3) := dk_163 0 24 (dk_at dksX0_away_4 18 rfl rfl)
theorem dX0_away_116 : decode cX0_away 116 = .ok (.lload 8, 2) := dk_22 8 (dk_at dksX0_away_4 21 rfl rfl)
theorem dX0_away_118 : decode cX0_away 118 = .ok (.iload 5, 2) := dk_21 5 (dk_at dksX0_away_5 0 rfl rfl)
theorem dX0_away_120 : decode cX0_away 120 = .ok (.iconst 1, 1) := dk_4 (dk_at dksX0_away_5 2 rfl rfl)
theorem dX0_away_121 : decode cX0_away 121 = .ok (.isub, 1) := dk_100 (dk_at dksX0_away_5 3 rfl rfl)
theorem dX0_away_122 : decode cX0_away 122 = .ok (.i2l, 1) := dk_133 (dk_at dksX0_away_5 4 rfl rfl)
theorem dX0_away_123 : decode cX0_away 123 = .ok (.iload 4, 2) := dk_21 4 (dk_at dksX0_away_5 5 rfl rfl)
theorem dX0_away_125 : decode cX0_away 125 = .ok (.iload 10, 2) := dk_21 10 (dk_at dksX0_away_5 7 rfl rfl)
theorem dX0_away_127 : decode cX0_away 127 = .ok (.invokestatic 256, 3) := dk_184 1 0 (dk_at dksX0_away_5 9 rfl rfl)
theorem dX0_away_130 : decode cX0_away 130 = .ok (.isub, 1) := dk_100 (dk_at dksX0_away_5 12 rfl rfl)
theorem dX0_away_131 : decode cX0_away 131 = .ok (.invokestatic 301, 3) := dk_184 1 45 (dk_at dksX0_away_5 13 rfl rfl)
theorem dX0_away_134 : decode cX0_away 134 = .ok (.ladd, 1) := dk_97 (dk_at dksX0_away_5 16 rfl rfl)
theorem dX0_away_135 : decode cX0_away 135 = .ok (.lstore 8, 2) := dk_55 8 (dk_at dksX0_away_5 17 rfl rfl)
theorem dX0_away_137 : decode cX0_away 137 = .ok (.iinc 10 1, 3) := dk_132 10 1 (dk_at dksX0_away_5 19 rfl rfl)
theorem dX0_away_140 : decode cX0_away 140 = .ok (.goto (-47), 3) := dk_167 255 209 (dk_at dksX0_away_6 0 rfl rfl)
theorem dX0_away_143 : decode cX0_away 143 = .ok (.lload 8, 2) := dk_22 8 (dk_at dksX0_away_6 3 rfl rfl)
theorem dX0_away_145 : decode cX0_away 145 = .ok (.iload 5, 2) := dk_21 5 (dk_at dksX0_away_6 5 rfl rfl)
theorem dX0_away_147 : decode cX0_away 147 = .ok (.i2l, 1) := dk_133 (dk_at dksX0_away_6 7 rfl rfl)
theorem dX0_away_148 : decode cX0_away 148 = .ok (.iload 4, 2) := dk_21 4 (dk_at dksX0_away_6 8 rfl rfl)
theorem dX0_away_150 : decode cX0_away 150 = .ok (.invokestatic 301, 3) := dk_184 1 45 (dk_at dksX0_away_6 10 rfl rfl)
theorem dX0_away_153 : decode cX0_away 153 = .ok (.iload 6, 2) := dk_21 6 (dk_at dksX0_away_6 13 rfl rfl)
theorem dX0_away_155 : decode cX0_away 155 = .ok (.invokestatic 305, 3) := dk_184 1 49 (dk_at dksX0_away_6 15 rfl rfl)
theorem dX0_away_158 : decode cX0_away 158 = .ok (.lreturn, 1) := dk_173 (dk_at dksX0_away_6 18 rfl rfl)
abbrev cX0_refuseWide : ByteArray := prog_1_method_9_code
def yX0_refuseWide : MethodName := ⟨RX0, "refuseWide", "(I)J"⟩
def dkwX0_refuseWide_0 : List UInt8 := [20, 0, 52, 42, 27, 182, 0, 48, 133, 101, 173]
abbrev dktX0_refuseWide_0 : List UInt8 := dkwX0_refuseWide_0 ++ []
theorem dksX0_refuseWide_0 : cX0_refuseWide.data.toList.drop 0 = dktX0_refuseWide_0 := by decide +kernel
theorem dX0_refuseWide_0 : decode cX0_refuseWide 0 = .ok (.ldc2_w 52, 3) := dk_20 0 52 (dk_at dksX0_refuseWide_0 0 rfl rfl)
theorem dX0_refuseWide_3 : decode cX0_refuseWide 3 = .ok (.aload_n 0, 1) := dk_42 (dk_at dksX0_refuseWide_0 3 rfl rfl)
theorem dX0_refuseWide_4 : decode cX0_refuseWide 4 = .ok (.iload_n 1, 1) := dk_27 (dk_at dksX0_refuseWide_0 4 rfl rfl)
theorem dX0_refuseWide_5 : decode cX0_refuseWide 5 = .ok (.invokevirtual 48, 3) := dk_182 0 48 (dk_at dksX0_refuseWide_0 5 rfl rfl)
theorem dX0_refuseWide_8 : decode cX0_refuseWide 8 = .ok (.i2l, 1) := dk_133 (dk_at dksX0_refuseWide_0 8 rfl rfl)
theorem dX0_refuseWide_9 : decode cX0_refuseWide 9 = .ok (.lsub, 1) := dk_101 (dk_at dksX0_refuseWide_0 9 rfl rfl)
theorem dX0_refuseWide_10 : decode cX0_refuseWide 10 = .ok (.lreturn, 1) := dk_173 (dk_at dksX0_refuseWide_0 10 rfl rfl)
abbrev cX0_quarrelBy : ByteArray := prog_1_method_56_code
def yX0_quarrelBy : MethodName := ⟨RX0, "quarrelBy", "(IIII)I"⟩
def dkwX0_quarrelBy_3 : List UInt8 := [28, 182, 0, 149, 172]
abbrev dktX0_quarrelBy_3 : List UInt8 := dkwX0_quarrelBy_3 ++ []
def dkwX0_quarrelBy_2 : List UInt8 := [180, 0, 134, 27, 46, 79, 42, 180, 0, 20, 182, 0, 196, 132, 5, 1, 167, 255, 208, 42, 180, 0, 20, 27]
abbrev dktX0_quarrelBy_2 : List UInt8 := dkwX0_quarrelBy_2 ++ dktX0_quarrelBy_3
def dkwX0_quarrelBy_1 : List UInt8 := [180, 0, 134, 27, 21, 4, 21, 5, 184, 0, 240, 153, 0, 7, 3, 167, 0, 12, 42, 180, 0, 16]
abbrev dktX0_quarrelBy_1 : List UInt8 := dkwX0_quarrelBy_1 ++ dktX0_quarrelBy_2
def dkwX0_quarrelBy_0 : List UInt8 := [42, 180, 0, 20, 42, 180, 0, 16, 182, 0, 103, 3, 54, 5, 21, 5, 29, 162, 0, 48, 42, 180, 0, 20]
abbrev dktX0_quarrelBy_0 : List UInt8 := dkwX0_quarrelBy_0 ++ dktX0_quarrelBy_1
theorem dksX0_quarrelBy_0 : cX0_quarrelBy.data.toList.drop 0 = dktX0_quarrelBy_0 := by decide +kernel
theorem dksX0_quarrelBy_1 : cX0_quarrelBy.data.toList.drop 24 = dktX0_quarrelBy_1 := dk_seg dksX0_quarrelBy_0 24 rfl rfl
theorem dksX0_quarrelBy_2 : cX0_quarrelBy.data.toList.drop 46 = dktX0_quarrelBy_2 := dk_seg dksX0_quarrelBy_1 22 rfl rfl
theorem dksX0_quarrelBy_3 : cX0_quarrelBy.data.toList.drop 70 = dktX0_quarrelBy_3 := dk_seg dksX0_quarrelBy_2 24 rfl rfl
theorem dX0_quarrelBy_0 : decode cX0_quarrelBy 0 = .ok (.aload_n 0, 1) := dk_42 (dk_at dksX0_quarrelBy_0 0 rfl rfl)
theorem dX0_quarrelBy_1 : decode cX0_quarrelBy 1 = .ok (.getfield 20, 3) := dk_180 0 20 (dk_at dksX0_quarrelBy_0 1 rfl rfl)
theorem dX0_quarrelBy_4 : decode cX0_quarrelBy 4 = .ok (.aload_n 0, 1) := dk_42 (dk_at dksX0_quarrelBy_0 4 rfl rfl)
theorem dX0_quarrelBy_5 : decode cX0_quarrelBy 5 = .ok (.getfield 16, 3) := dk_180 0 16 (dk_at dksX0_quarrelBy_0 5 rfl rfl)
theorem dX0_quarrelBy_8 : decode cX0_quarrelBy 8 = .ok (.invokevirtual 103, 3) := dk_182 0 103 (dk_at dksX0_quarrelBy_0 8 rfl rfl)
theorem dX0_quarrelBy_11 : decode cX0_quarrelBy 11 = .ok (.iconst 0, 1) := dk_3 (dk_at dksX0_quarrelBy_0 11 rfl rfl)
theorem dX0_quarrelBy_12 : decode cX0_quarrelBy 12 = .ok (.istore 5, 2) := dk_54 5 (dk_at dksX0_quarrelBy_0 12 rfl rfl)
theorem dX0_quarrelBy_14 : decode cX0_quarrelBy 14 = .ok (.iload 5, 2) := dk_21 5 (dk_at dksX0_quarrelBy_0 14 rfl rfl)
theorem dX0_quarrelBy_16 : decode cX0_quarrelBy 16 = .ok (.iload_n 3, 1) := dk_29 (dk_at dksX0_quarrelBy_0 16 rfl rfl)
theorem dX0_quarrelBy_17 : decode cX0_quarrelBy 17 = .ok (.if_icmp .ge 48, 3) := dk_162 0 48 (dk_at dksX0_quarrelBy_0 17 rfl rfl)
theorem dX0_quarrelBy_20 : decode cX0_quarrelBy 20 = .ok (.aload_n 0, 1) := dk_42 (dk_at dksX0_quarrelBy_0 20 rfl rfl)
theorem dX0_quarrelBy_21 : decode cX0_quarrelBy 21 = .ok (.getfield 20, 3) := dk_180 0 20 (dk_at dksX0_quarrelBy_0 21 rfl rfl)
theorem dX0_quarrelBy_24 : decode cX0_quarrelBy 24 = .ok (.getfield 134, 3) := dk_180 0 134 (dk_at dksX0_quarrelBy_1 0 rfl rfl)
theorem dX0_quarrelBy_27 : decode cX0_quarrelBy 27 = .ok (.iload_n 1, 1) := dk_27 (dk_at dksX0_quarrelBy_1 3 rfl rfl)
theorem dX0_quarrelBy_28 : decode cX0_quarrelBy 28 = .ok (.iload 4, 2) := dk_21 4 (dk_at dksX0_quarrelBy_1 4 rfl rfl)
theorem dX0_quarrelBy_30 : decode cX0_quarrelBy 30 = .ok (.iload 5, 2) := dk_21 5 (dk_at dksX0_quarrelBy_1 6 rfl rfl)
theorem dX0_quarrelBy_32 : decode cX0_quarrelBy 32 = .ok (.invokestatic 240, 3) := dk_184 0 240 (dk_at dksX0_quarrelBy_1 8 rfl rfl)
theorem dX0_quarrelBy_35 : decode cX0_quarrelBy 35 = .ok (.ifCond .eq 7, 3) := dk_153 0 7 (dk_at dksX0_quarrelBy_1 11 rfl rfl)
theorem dX0_quarrelBy_38 : decode cX0_quarrelBy 38 = .ok (.iconst 0, 1) := dk_3 (dk_at dksX0_quarrelBy_1 14 rfl rfl)
theorem dX0_quarrelBy_39 : decode cX0_quarrelBy 39 = .ok (.goto 12, 3) := dk_167 0 12 (dk_at dksX0_quarrelBy_1 15 rfl rfl)
theorem dX0_quarrelBy_42 : decode cX0_quarrelBy 42 = .ok (.aload_n 0, 1) := dk_42 (dk_at dksX0_quarrelBy_1 18 rfl rfl)
theorem dX0_quarrelBy_43 : decode cX0_quarrelBy 43 = .ok (.getfield 16, 3) := dk_180 0 16 (dk_at dksX0_quarrelBy_1 19 rfl rfl)
theorem dX0_quarrelBy_46 : decode cX0_quarrelBy 46 = .ok (.getfield 134, 3) := dk_180 0 134 (dk_at dksX0_quarrelBy_2 0 rfl rfl)
theorem dX0_quarrelBy_49 : decode cX0_quarrelBy 49 = .ok (.iload_n 1, 1) := dk_27 (dk_at dksX0_quarrelBy_2 3 rfl rfl)
theorem dX0_quarrelBy_50 : decode cX0_quarrelBy 50 = .ok (.iaload, 1) := dk_46 (dk_at dksX0_quarrelBy_2 4 rfl rfl)
theorem dX0_quarrelBy_51 : decode cX0_quarrelBy 51 = .ok (.iastore, 1) := dk_79 (dk_at dksX0_quarrelBy_2 5 rfl rfl)
theorem dX0_quarrelBy_52 : decode cX0_quarrelBy 52 = .ok (.aload_n 0, 1) := dk_42 (dk_at dksX0_quarrelBy_2 6 rfl rfl)
theorem dX0_quarrelBy_53 : decode cX0_quarrelBy 53 = .ok (.getfield 20, 3) := dk_180 0 20 (dk_at dksX0_quarrelBy_2 7 rfl rfl)
theorem dX0_quarrelBy_56 : decode cX0_quarrelBy 56 = .ok (.invokevirtual 196, 3) := dk_182 0 196 (dk_at dksX0_quarrelBy_2 10 rfl rfl)
theorem dX0_quarrelBy_59 : decode cX0_quarrelBy 59 = .ok (.iinc 5 1, 3) := dk_132 5 1 (dk_at dksX0_quarrelBy_2 13 rfl rfl)
theorem dX0_quarrelBy_62 : decode cX0_quarrelBy 62 = .ok (.goto (-48), 3) := dk_167 255 208 (dk_at dksX0_quarrelBy_2 16 rfl rfl)
theorem dX0_quarrelBy_65 : decode cX0_quarrelBy 65 = .ok (.aload_n 0, 1) := dk_42 (dk_at dksX0_quarrelBy_2 19 rfl rfl)
theorem dX0_quarrelBy_66 : decode cX0_quarrelBy 66 = .ok (.getfield 20, 3) := dk_180 0 20 (dk_at dksX0_quarrelBy_2 20 rfl rfl)
theorem dX0_quarrelBy_69 : decode cX0_quarrelBy 69 = .ok (.iload_n 1, 1) := dk_27 (dk_at dksX0_quarrelBy_2 23 rfl rfl)
theorem dX0_quarrelBy_70 : decode cX0_quarrelBy 70 = .ok (.iload_n 2, 1) := dk_28 (dk_at dksX0_quarrelBy_3 0 rfl rfl)
theorem dX0_quarrelBy_71 : decode cX0_quarrelBy 71 = .ok (.invokevirtual 149, 3) := dk_182 0 149 (dk_at dksX0_quarrelBy_3 1 rfl rfl)
theorem dX0_quarrelBy_74 : decode cX0_quarrelBy 74 = .ok (.ireturn, 1) := dk_172 (dk_at dksX0_quarrelBy_3 4 rfl rfl)
abbrev cX0_power : ByteArray := prog_1_method_55_code
def yX0_power : MethodName := ⟨RX0, "power", "(JI)J"⟩
def dkwX0_power_0 : List UInt8 := [10, 66, 3, 54, 5, 21, 5, 28, 162, 0, 13, 33, 30, 105, 66, 132, 5, 1, 167, 255, 243, 33, 173]
abbrev dktX0_power_0 : List UInt8 := dkwX0_power_0 ++ []
theorem dksX0_power_0 : cX0_power.data.toList.drop 0 = dktX0_power_0 := by decide +kernel
theorem dX0_power_0 : decode cX0_power 0 = .ok (.lconst 1, 1) := dk_10 (dk_at dksX0_power_0 0 rfl rfl)
theorem dX0_power_1 : decode cX0_power 1 = .ok (.lstore_n 3, 1) := dk_66 (dk_at dksX0_power_0 1 rfl rfl)
theorem dX0_power_2 : decode cX0_power 2 = .ok (.iconst 0, 1) := dk_3 (dk_at dksX0_power_0 2 rfl rfl)
theorem dX0_power_3 : decode cX0_power 3 = .ok (.istore 5, 2) := dk_54 5 (dk_at dksX0_power_0 3 rfl rfl)
theorem dX0_power_5 : decode cX0_power 5 = .ok (.iload 5, 2) := dk_21 5 (dk_at dksX0_power_0 5 rfl rfl)
theorem dX0_power_7 : decode cX0_power 7 = .ok (.iload_n 2, 1) := dk_28 (dk_at dksX0_power_0 7 rfl rfl)
theorem dX0_power_8 : decode cX0_power 8 = .ok (.if_icmp .ge 13, 3) := dk_162 0 13 (dk_at dksX0_power_0 8 rfl rfl)
theorem dX0_power_11 : decode cX0_power 11 = .ok (.lload_n 3, 1) := dk_33 (dk_at dksX0_power_0 11 rfl rfl)
theorem dX0_power_12 : decode cX0_power 12 = .ok (.lload_n 0, 1) := dk_30 (dk_at dksX0_power_0 12 rfl rfl)
theorem dX0_power_13 : decode cX0_power 13 = .ok (.lmul, 1) := dk_105 (dk_at dksX0_power_0 13 rfl rfl)
theorem dX0_power_14 : decode cX0_power 14 = .ok (.lstore_n 3, 1) := dk_66 (dk_at dksX0_power_0 14 rfl rfl)
theorem dX0_power_15 : decode cX0_power 15 = .ok (.iinc 5 1, 3) := dk_132 5 1 (dk_at dksX0_power_0 15 rfl rfl)
theorem dX0_power_18 : decode cX0_power 18 = .ok (.goto (-13), 3) := dk_167 255 243 (dk_at dksX0_power_0 18 rfl rfl)
theorem dX0_power_21 : decode cX0_power 21 = .ok (.lload_n 3, 1) := dk_33 (dk_at dksX0_power_0 21 rfl rfl)
theorem dX0_power_22 : decode cX0_power 22 = .ok (.lreturn, 1) := dk_173 (dk_at dksX0_power_0 22 rfl rfl)
abbrev cX0_inLeast : ByteArray := prog_1_method_54_code
def yX0_inLeast : MethodName := ⟨RX0, "inLeast", "(JJI)J"⟩
def dkwX0_inLeast_1 : List UInt8 := [184, 1, 33, 109, 173]
abbrev dktX0_inLeast_1 : List UInt8 := dkwX0_inLeast_1 ++ []
def dkwX0_inLeast_0 : List UInt8 := [30, 9, 148, 154, 0, 9, 21, 4, 133, 167, 0, 19, 21, 4, 154, 0, 7, 30, 167, 0, 4, 32, 32, 30]
abbrev dktX0_inLeast_0 : List UInt8 := dkwX0_inLeast_0 ++ dktX0_inLeast_1
theorem dksX0_inLeast_0 : cX0_inLeast.data.toList.drop 0 = dktX0_inLeast_0 := by decide +kernel
theorem dksX0_inLeast_1 : cX0_inLeast.data.toList.drop 24 = dktX0_inLeast_1 := dk_seg dksX0_inLeast_0 24 rfl rfl
theorem dX0_inLeast_0 : decode cX0_inLeast 0 = .ok (.lload_n 0, 1) := dk_30 (dk_at dksX0_inLeast_0 0 rfl rfl)
theorem dX0_inLeast_1 : decode cX0_inLeast 1 = .ok (.lconst 0, 1) := dk_9 (dk_at dksX0_inLeast_0 1 rfl rfl)
theorem dX0_inLeast_2 : decode cX0_inLeast 2 = .ok (.lcmp, 1) := dk_148 (dk_at dksX0_inLeast_0 2 rfl rfl)
theorem dX0_inLeast_3 : decode cX0_inLeast 3 = .ok (.ifCond .ne 9, 3) := dk_154 0 9 (dk_at dksX0_inLeast_0 3 rfl rfl)
theorem dX0_inLeast_6 : decode cX0_inLeast 6 = .ok (.iload 4, 2) := dk_21 4 (dk_at dksX0_inLeast_0 6 rfl rfl)
theorem dX0_inLeast_8 : decode cX0_inLeast 8 = .ok (.i2l, 1) := dk_133 (dk_at dksX0_inLeast_0 8 rfl rfl)
theorem dX0_inLeast_9 : decode cX0_inLeast 9 = .ok (.goto 19, 3) := dk_167 0 19 (dk_at dksX0_inLeast_0 9 rfl rfl)
theorem dX0_inLeast_12 : decode cX0_inLeast 12 = .ok (.iload 4, 2) := dk_21 4 (dk_at dksX0_inLeast_0 12 rfl rfl)
theorem dX0_inLeast_14 : decode cX0_inLeast 14 = .ok (.ifCond .ne 7, 3) := dk_154 0 7 (dk_at dksX0_inLeast_0 14 rfl rfl)
theorem dX0_inLeast_17 : decode cX0_inLeast 17 = .ok (.lload_n 0, 1) := dk_30 (dk_at dksX0_inLeast_0 17 rfl rfl)
theorem dX0_inLeast_18 : decode cX0_inLeast 18 = .ok (.goto 4, 3) := dk_167 0 4 (dk_at dksX0_inLeast_0 18 rfl rfl)
theorem dX0_inLeast_21 : decode cX0_inLeast 21 = .ok (.lload_n 2, 1) := dk_32 (dk_at dksX0_inLeast_0 21 rfl rfl)
theorem dX0_inLeast_22 : decode cX0_inLeast 22 = .ok (.lload_n 2, 1) := dk_32 (dk_at dksX0_inLeast_0 22 rfl rfl)
theorem dX0_inLeast_23 : decode cX0_inLeast 23 = .ok (.lload_n 0, 1) := dk_30 (dk_at dksX0_inLeast_0 23 rfl rfl)
theorem dX0_inLeast_24 : decode cX0_inLeast 24 = .ok (.invokestatic 289, 3) := dk_184 1 33 (dk_at dksX0_inLeast_1 0 rfl rfl)
theorem dX0_inLeast_27 : decode cX0_inLeast 27 = .ok (.ldiv, 1) := dk_109 (dk_at dksX0_inLeast_1 3 rfl rfl)
theorem dX0_inLeast_28 : decode cX0_inLeast 28 = .ok (.lreturn, 1) := dk_173 (dk_at dksX0_inLeast_1 4 rfl rfl)
abbrev cX0_common : ByteArray := prog_1_method_53_code
def yX0_common : MethodName := ⟨RX0, "common", "(JJ)J"⟩
def dkwX0_common_1 : List UInt8 := [22, 8, 55, 6, 167, 255, 234, 22, 4, 173]
abbrev dktX0_common_1 : List UInt8 := dkwX0_common_1 ++ []
def dkwX0_common_0 : List UInt8 := [30, 55, 4, 32, 55, 6, 22, 6, 9, 148, 153, 0, 21, 22, 4, 22, 6, 113, 55, 8, 22, 6, 55, 4]
abbrev dktX0_common_0 : List UInt8 := dkwX0_common_0 ++ dktX0_common_1
theorem dksX0_common_0 : cX0_common.data.toList.drop 0 = dktX0_common_0 := by decide +kernel
theorem dksX0_common_1 : cX0_common.data.toList.drop 24 = dktX0_common_1 := dk_seg dksX0_common_0 24 rfl rfl
theorem dX0_common_0 : decode cX0_common 0 = .ok (.lload_n 0, 1) := dk_30 (dk_at dksX0_common_0 0 rfl rfl)
theorem dX0_common_1 : decode cX0_common 1 = .ok (.lstore 4, 2) := dk_55 4 (dk_at dksX0_common_0 1 rfl rfl)
theorem dX0_common_3 : decode cX0_common 3 = .ok (.lload_n 2, 1) := dk_32 (dk_at dksX0_common_0 3 rfl rfl)
theorem dX0_common_4 : decode cX0_common 4 = .ok (.lstore 6, 2) := dk_55 6 (dk_at dksX0_common_0 4 rfl rfl)
theorem dX0_common_6 : decode cX0_common 6 = .ok (.lload 6, 2) := dk_22 6 (dk_at dksX0_common_0 6 rfl rfl)
theorem dX0_common_8 : decode cX0_common 8 = .ok (.lconst 0, 1) := dk_9 (dk_at dksX0_common_0 8 rfl rfl)
theorem dX0_common_9 : decode cX0_common 9 = .ok (.lcmp, 1) := dk_148 (dk_at dksX0_common_0 9 rfl rfl)
theorem dX0_common_10 : decode cX0_common 10 = .ok (.ifCond .eq 21, 3) := dk_153 0 21 (dk_at dksX0_common_0 10 rfl rfl)
theorem dX0_common_13 : decode cX0_common 13 = .ok (.lload 4, 2) := dk_22 4 (dk_at dksX0_common_0 13 rfl rfl)
theorem dX0_common_15 : decode cX0_common 15 = .ok (.lload 6, 2) := dk_22 6 (dk_at dksX0_common_0 15 rfl rfl)
theorem dX0_common_17 : decode cX0_common 17 = .ok (.lrem, 1) := dk_113 (dk_at dksX0_common_0 17 rfl rfl)
theorem dX0_common_18 : decode cX0_common 18 = .ok (.lstore 8, 2) := dk_55 8 (dk_at dksX0_common_0 18 rfl rfl)
theorem dX0_common_20 : decode cX0_common 20 = .ok (.lload 6, 2) := dk_22 6 (dk_at dksX0_common_0 20 rfl rfl)
theorem dX0_common_22 : decode cX0_common 22 = .ok (.lstore 4, 2) := dk_55 4 (dk_at dksX0_common_0 22 rfl rfl)
theorem dX0_common_24 : decode cX0_common 24 = .ok (.lload 8, 2) := dk_22 8 (dk_at dksX0_common_1 0 rfl rfl)
theorem dX0_common_26 : decode cX0_common 26 = .ok (.lstore 6, 2) := dk_55 6 (dk_at dksX0_common_1 2 rfl rfl)
theorem dX0_common_28 : decode cX0_common 28 = .ok (.goto (-22), 3) := dk_167 255 234 (dk_at dksX0_common_1 4 rfl rfl)
theorem dX0_common_31 : decode cX0_common 31 = .ok (.lload 4, 2) := dk_22 4 (dk_at dksX0_common_1 7 rfl rfl)
theorem dX0_common_33 : decode cX0_common 33 = .ok (.lreturn, 1) := dk_173 (dk_at dksX0_common_1 9 rfl rfl)
abbrev cX0_fullest : ByteArray := prog_1_method_59_code
def yX0_fullest : MethodName := ⟨RX0, "fullest", "(I)I"⟩
def dkwX0_fullest_2 : List UInt8 := [154, 0, 7, 28, 167, 0, 8, 42, 28, 182, 1, 53, 172]
abbrev dktX0_fullest_2 : List UInt8 := dkwX0_fullest_2 ++ []
def dkwX0_fullest_1 : List UInt8 := [42, 29, 182, 1, 53, 42, 28, 182, 1, 53, 164, 0, 5, 29, 61, 132, 3, 1, 167, 255, 233, 27]
abbrev dktX0_fullest_1 : List UInt8 := dkwX0_fullest_1 ++ dktX0_fullest_2
def dkwX0_fullest_0 : List UInt8 := [27, 5, 184, 0, 78, 154, 0, 10, 42, 16, 254, 182, 0, 48, 172, 3, 61, 4, 62, 29, 8, 162, 0, 24]
abbrev dktX0_fullest_0 : List UInt8 := dkwX0_fullest_0 ++ dktX0_fullest_1
theorem dksX0_fullest_0 : cX0_fullest.data.toList.drop 0 = dktX0_fullest_0 := by decide +kernel
theorem dksX0_fullest_1 : cX0_fullest.data.toList.drop 24 = dktX0_fullest_1 := dk_seg dksX0_fullest_0 24 rfl rfl
theorem dksX0_fullest_2 : cX0_fullest.data.toList.drop 46 = dktX0_fullest_2 := dk_seg dksX0_fullest_1 22 rfl rfl
theorem dX0_fullest_0 : decode cX0_fullest 0 = .ok (.iload_n 1, 1) := dk_27 (dk_at dksX0_fullest_0 0 rfl rfl)
theorem dX0_fullest_1 : decode cX0_fullest 1 = .ok (.iconst 2, 1) := dk_5 (dk_at dksX0_fullest_0 1 rfl rfl)
theorem dX0_fullest_2 : decode cX0_fullest 2 = .ok (.invokestatic 78, 3) := dk_184 0 78 (dk_at dksX0_fullest_0 2 rfl rfl)
theorem dX0_fullest_5 : decode cX0_fullest 5 = .ok (.ifCond .ne 10, 3) := dk_154 0 10 (dk_at dksX0_fullest_0 5 rfl rfl)
theorem dX0_fullest_8 : decode cX0_fullest 8 = .ok (.aload_n 0, 1) := dk_42 (dk_at dksX0_fullest_0 8 rfl rfl)
theorem dX0_fullest_9 : decode cX0_fullest 9 = .ok (.bipush (-2), 2) := dk_16 254 (dk_at dksX0_fullest_0 9 rfl rfl)
theorem dX0_fullest_11 : decode cX0_fullest 11 = .ok (.invokevirtual 48, 3) := dk_182 0 48 (dk_at dksX0_fullest_0 11 rfl rfl)
theorem dX0_fullest_14 : decode cX0_fullest 14 = .ok (.ireturn, 1) := dk_172 (dk_at dksX0_fullest_0 14 rfl rfl)
theorem dX0_fullest_15 : decode cX0_fullest 15 = .ok (.iconst 0, 1) := dk_3 (dk_at dksX0_fullest_0 15 rfl rfl)
theorem dX0_fullest_16 : decode cX0_fullest 16 = .ok (.istore_n 2, 1) := dk_61 (dk_at dksX0_fullest_0 16 rfl rfl)
theorem dX0_fullest_17 : decode cX0_fullest 17 = .ok (.iconst 1, 1) := dk_4 (dk_at dksX0_fullest_0 17 rfl rfl)
theorem dX0_fullest_18 : decode cX0_fullest 18 = .ok (.istore_n 3, 1) := dk_62 (dk_at dksX0_fullest_0 18 rfl rfl)
theorem dX0_fullest_19 : decode cX0_fullest 19 = .ok (.iload_n 3, 1) := dk_29 (dk_at dksX0_fullest_0 19 rfl rfl)
theorem dX0_fullest_20 : decode cX0_fullest 20 = .ok (.iconst 5, 1) := dk_8 (dk_at dksX0_fullest_0 20 rfl rfl)
theorem dX0_fullest_21 : decode cX0_fullest 21 = .ok (.if_icmp .ge 24, 3) := dk_162 0 24 (dk_at dksX0_fullest_0 21 rfl rfl)
theorem dX0_fullest_24 : decode cX0_fullest 24 = .ok (.aload_n 0, 1) := dk_42 (dk_at dksX0_fullest_1 0 rfl rfl)
theorem dX0_fullest_25 : decode cX0_fullest 25 = .ok (.iload_n 3, 1) := dk_29 (dk_at dksX0_fullest_1 1 rfl rfl)
theorem dX0_fullest_26 : decode cX0_fullest 26 = .ok (.invokevirtual 309, 3) := dk_182 1 53 (dk_at dksX0_fullest_1 2 rfl rfl)
theorem dX0_fullest_29 : decode cX0_fullest 29 = .ok (.aload_n 0, 1) := dk_42 (dk_at dksX0_fullest_1 5 rfl rfl)
theorem dX0_fullest_30 : decode cX0_fullest 30 = .ok (.iload_n 2, 1) := dk_28 (dk_at dksX0_fullest_1 6 rfl rfl)
theorem dX0_fullest_31 : decode cX0_fullest 31 = .ok (.invokevirtual 309, 3) := dk_182 1 53 (dk_at dksX0_fullest_1 7 rfl rfl)
theorem dX0_fullest_34 : decode cX0_fullest 34 = .ok (.if_icmp .le 5, 3) := dk_164 0 5 (dk_at dksX0_fullest_1 10 rfl rfl)
theorem dX0_fullest_37 : decode cX0_fullest 37 = .ok (.iload_n 3, 1) := dk_29 (dk_at dksX0_fullest_1 13 rfl rfl)
theorem dX0_fullest_38 : decode cX0_fullest 38 = .ok (.istore_n 2, 1) := dk_61 (dk_at dksX0_fullest_1 14 rfl rfl)
theorem dX0_fullest_39 : decode cX0_fullest 39 = .ok (.iinc 3 1, 3) := dk_132 3 1 (dk_at dksX0_fullest_1 15 rfl rfl)
theorem dX0_fullest_42 : decode cX0_fullest 42 = .ok (.goto (-23), 3) := dk_167 255 233 (dk_at dksX0_fullest_1 18 rfl rfl)
theorem dX0_fullest_45 : decode cX0_fullest 45 = .ok (.iload_n 1, 1) := dk_27 (dk_at dksX0_fullest_1 21 rfl rfl)
theorem dX0_fullest_46 : decode cX0_fullest 46 = .ok (.ifCond .ne 7, 3) := dk_154 0 7 (dk_at dksX0_fullest_2 0 rfl rfl)
theorem dX0_fullest_49 : decode cX0_fullest 49 = .ok (.iload_n 2, 1) := dk_28 (dk_at dksX0_fullest_2 3 rfl rfl)
theorem dX0_fullest_50 : decode cX0_fullest 50 = .ok (.goto 8, 3) := dk_167 0 8 (dk_at dksX0_fullest_2 4 rfl rfl)
theorem dX0_fullest_53 : decode cX0_fullest 53 = .ok (.aload_n 0, 1) := dk_42 (dk_at dksX0_fullest_2 7 rfl rfl)
theorem dX0_fullest_54 : decode cX0_fullest 54 = .ok (.iload_n 2, 1) := dk_28 (dk_at dksX0_fullest_2 8 rfl rfl)
theorem dX0_fullest_55 : decode cX0_fullest 55 = .ok (.invokevirtual 309, 3) := dk_182 1 53 (dk_at dksX0_fullest_2 9 rfl rfl)
theorem dX0_fullest_58 : decode cX0_fullest 58 = .ok (.ireturn, 1) := dk_172 (dk_at dksX0_fullest_2 12 rfl rfl)
abbrev cX0_comingAt : ByteArray := prog_1_method_58_code
def yX0_comingAt : MethodName := ⟨RX0, "comingAt", "(I)I"⟩
def dkwX0_comingAt_1 : List UInt8 := [46, 27, 184, 0, 240, 153, 0, 7, 4, 167, 0, 4, 3, 96, 61, 132, 3, 1, 167, 255, 218, 28, 172]
abbrev dktX0_comingAt_1 : List UInt8 := dkwX0_comingAt_1 ++ []
def dkwX0_comingAt_0 : List UInt8 := [3, 61, 3, 62, 29, 42, 180, 0, 16, 182, 0, 74, 162, 0, 33, 28, 42, 180, 0, 16, 180, 0, 134, 29]
abbrev dktX0_comingAt_0 : List UInt8 := dkwX0_comingAt_0 ++ dktX0_comingAt_1
theorem dksX0_comingAt_0 : cX0_comingAt.data.toList.drop 0 = dktX0_comingAt_0 := by decide +kernel
theorem dksX0_comingAt_1 : cX0_comingAt.data.toList.drop 24 = dktX0_comingAt_1 := dk_seg dksX0_comingAt_0 24 rfl rfl
theorem dX0_comingAt_0 : decode cX0_comingAt 0 = .ok (.iconst 0, 1) := dk_3 (dk_at dksX0_comingAt_0 0 rfl rfl)
theorem dX0_comingAt_1 : decode cX0_comingAt 1 = .ok (.istore_n 2, 1) := dk_61 (dk_at dksX0_comingAt_0 1 rfl rfl)
theorem dX0_comingAt_2 : decode cX0_comingAt 2 = .ok (.iconst 0, 1) := dk_3 (dk_at dksX0_comingAt_0 2 rfl rfl)
theorem dX0_comingAt_3 : decode cX0_comingAt 3 = .ok (.istore_n 3, 1) := dk_62 (dk_at dksX0_comingAt_0 3 rfl rfl)
theorem dX0_comingAt_4 : decode cX0_comingAt 4 = .ok (.iload_n 3, 1) := dk_29 (dk_at dksX0_comingAt_0 4 rfl rfl)
theorem dX0_comingAt_5 : decode cX0_comingAt 5 = .ok (.aload_n 0, 1) := dk_42 (dk_at dksX0_comingAt_0 5 rfl rfl)
theorem dX0_comingAt_6 : decode cX0_comingAt 6 = .ok (.getfield 16, 3) := dk_180 0 16 (dk_at dksX0_comingAt_0 6 rfl rfl)
theorem dX0_comingAt_9 : decode cX0_comingAt 9 = .ok (.invokevirtual 74, 3) := dk_182 0 74 (dk_at dksX0_comingAt_0 9 rfl rfl)
theorem dX0_comingAt_12 : decode cX0_comingAt 12 = .ok (.if_icmp .ge 33, 3) := dk_162 0 33 (dk_at dksX0_comingAt_0 12 rfl rfl)
theorem dX0_comingAt_15 : decode cX0_comingAt 15 = .ok (.iload_n 2, 1) := dk_28 (dk_at dksX0_comingAt_0 15 rfl rfl)
theorem dX0_comingAt_16 : decode cX0_comingAt 16 = .ok (.aload_n 0, 1) := dk_42 (dk_at dksX0_comingAt_0 16 rfl rfl)
theorem dX0_comingAt_17 : decode cX0_comingAt 17 = .ok (.getfield 16, 3) := dk_180 0 16 (dk_at dksX0_comingAt_0 17 rfl rfl)
theorem dX0_comingAt_20 : decode cX0_comingAt 20 = .ok (.getfield 134, 3) := dk_180 0 134 (dk_at dksX0_comingAt_0 20 rfl rfl)
theorem dX0_comingAt_23 : decode cX0_comingAt 23 = .ok (.iload_n 3, 1) := dk_29 (dk_at dksX0_comingAt_0 23 rfl rfl)
theorem dX0_comingAt_24 : decode cX0_comingAt 24 = .ok (.iaload, 1) := dk_46 (dk_at dksX0_comingAt_1 0 rfl rfl)
theorem dX0_comingAt_25 : decode cX0_comingAt 25 = .ok (.iload_n 1, 1) := dk_27 (dk_at dksX0_comingAt_1 1 rfl rfl)
theorem dX0_comingAt_26 : decode cX0_comingAt 26 = .ok (.invokestatic 240, 3) := dk_184 0 240 (dk_at dksX0_comingAt_1 2 rfl rfl)
theorem dX0_comingAt_29 : decode cX0_comingAt 29 = .ok (.ifCond .eq 7, 3) := dk_153 0 7 (dk_at dksX0_comingAt_1 5 rfl rfl)
theorem dX0_comingAt_32 : decode cX0_comingAt 32 = .ok (.iconst 1, 1) := dk_4 (dk_at dksX0_comingAt_1 8 rfl rfl)
theorem dX0_comingAt_33 : decode cX0_comingAt 33 = .ok (.goto 4, 3) := dk_167 0 4 (dk_at dksX0_comingAt_1 9 rfl rfl)
theorem dX0_comingAt_36 : decode cX0_comingAt 36 = .ok (.iconst 0, 1) := dk_3 (dk_at dksX0_comingAt_1 12 rfl rfl)
theorem dX0_comingAt_37 : decode cX0_comingAt 37 = .ok (.iadd, 1) := dk_96 (dk_at dksX0_comingAt_1 13 rfl rfl)
theorem dX0_comingAt_38 : decode cX0_comingAt 38 = .ok (.istore_n 2, 1) := dk_61 (dk_at dksX0_comingAt_1 14 rfl rfl)
theorem dX0_comingAt_39 : decode cX0_comingAt 39 = .ok (.iinc 3 1, 3) := dk_132 3 1 (dk_at dksX0_comingAt_1 15 rfl rfl)
theorem dX0_comingAt_42 : decode cX0_comingAt 42 = .ok (.goto (-38), 3) := dk_167 255 218 (dk_at dksX0_comingAt_1 18 rfl rfl)
theorem dX0_comingAt_45 : decode cX0_comingAt 45 = .ok (.iload_n 2, 1) := dk_28 (dk_at dksX0_comingAt_1 21 rfl rfl)
theorem dX0_comingAt_46 : decode cX0_comingAt 46 = .ok (.ireturn, 1) := dk_172 (dk_at dksX0_comingAt_1 22 rfl rfl)
abbrev cX0_charmer : ByteArray := prog_1_method_60_code
def yX0_charmer : MethodName := ⟨RX0, "charmer", "()I"⟩
def dkwX0_charmer_2 : List UInt8 := [132, 2, 1, 167, 255, 211, 27, 172]
abbrev dktX0_charmer_2 : List UInt8 := dkwX0_charmer_2 ++ []
def dkwX0_charmer_1 : List UInt8 := [28, 182, 0, 124, 182, 0, 143, 42, 180, 0, 16, 27, 182, 0, 124, 182, 0, 143, 164, 0, 5, 28, 60]
abbrev dktX0_charmer_1 : List UInt8 := dkwX0_charmer_1 ++ dktX0_charmer_2
def dkwX0_charmer_0 : List UInt8 := [16, 247, 60, 3, 61, 28, 42, 180, 0, 16, 182, 0, 74, 162, 0, 40, 27, 155, 0, 28, 42, 180, 0, 16]
abbrev dktX0_charmer_0 : List UInt8 := dkwX0_charmer_0 ++ dktX0_charmer_1
theorem dksX0_charmer_0 : cX0_charmer.data.toList.drop 0 = dktX0_charmer_0 := by decide +kernel
theorem dksX0_charmer_1 : cX0_charmer.data.toList.drop 24 = dktX0_charmer_1 := dk_seg dksX0_charmer_0 24 rfl rfl
theorem dksX0_charmer_2 : cX0_charmer.data.toList.drop 47 = dktX0_charmer_2 := dk_seg dksX0_charmer_1 23 rfl rfl
theorem dX0_charmer_0 : decode cX0_charmer 0 = .ok (.bipush (-9), 2) := dk_16 247 (dk_at dksX0_charmer_0 0 rfl rfl)
theorem dX0_charmer_2 : decode cX0_charmer 2 = .ok (.istore_n 1, 1) := dk_60 (dk_at dksX0_charmer_0 2 rfl rfl)
theorem dX0_charmer_3 : decode cX0_charmer 3 = .ok (.iconst 0, 1) := dk_3 (dk_at dksX0_charmer_0 3 rfl rfl)
theorem dX0_charmer_4 : decode cX0_charmer 4 = .ok (.istore_n 2, 1) := dk_61 (dk_at dksX0_charmer_0 4 rfl rfl)
theorem dX0_charmer_5 : decode cX0_charmer 5 = .ok (.iload_n 2, 1) := dk_28 (dk_at dksX0_charmer_0 5 rfl rfl)
theorem dX0_charmer_6 : decode cX0_charmer 6 = .ok (.aload_n 0, 1) := dk_42 (dk_at dksX0_charmer_0 6 rfl rfl)
theorem dX0_charmer_7 : decode cX0_charmer 7 = .ok (.getfield 16, 3) := dk_180 0 16 (dk_at dksX0_charmer_0 7 rfl rfl)
theorem dX0_charmer_10 : decode cX0_charmer 10 = .ok (.invokevirtual 74, 3) := dk_182 0 74 (dk_at dksX0_charmer_0 10 rfl rfl)
theorem dX0_charmer_13 : decode cX0_charmer 13 = .ok (.if_icmp .ge 40, 3) := dk_162 0 40 (dk_at dksX0_charmer_0 13 rfl rfl)
theorem dX0_charmer_16 : decode cX0_charmer 16 = .ok (.iload_n 1, 1) := dk_27 (dk_at dksX0_charmer_0 16 rfl rfl)
theorem dX0_charmer_17 : decode cX0_charmer 17 = .ok (.ifCond .lt 28, 3) := dk_155 0 28 (dk_at dksX0_charmer_0 17 rfl rfl)
theorem dX0_charmer_20 : decode cX0_charmer 20 = .ok (.aload_n 0, 1) := dk_42 (dk_at dksX0_charmer_0 20 rfl rfl)
theorem dX0_charmer_21 : decode cX0_charmer 21 = .ok (.getfield 16, 3) := dk_180 0 16 (dk_at dksX0_charmer_0 21 rfl rfl)
theorem dX0_charmer_24 : decode cX0_charmer 24 = .ok (.iload_n 2, 1) := dk_28 (dk_at dksX0_charmer_1 0 rfl rfl)
theorem dX0_charmer_25 : decode cX0_charmer 25 = .ok (.invokevirtual 124, 3) := dk_182 0 124 (dk_at dksX0_charmer_1 1 rfl rfl)
theorem dX0_charmer_28 : decode cX0_charmer 28 = .ok (.invokevirtual 143, 3) := dk_182 0 143 (dk_at dksX0_charmer_1 4 rfl rfl)
theorem dX0_charmer_31 : decode cX0_charmer 31 = .ok (.aload_n 0, 1) := dk_42 (dk_at dksX0_charmer_1 7 rfl rfl)
theorem dX0_charmer_32 : decode cX0_charmer 32 = .ok (.getfield 16, 3) := dk_180 0 16 (dk_at dksX0_charmer_1 8 rfl rfl)
theorem dX0_charmer_35 : decode cX0_charmer 35 = .ok (.iload_n 1, 1) := dk_27 (dk_at dksX0_charmer_1 11 rfl rfl)
theorem dX0_charmer_36 : decode cX0_charmer 36 = .ok (.invokevirtual 124, 3) := dk_182 0 124 (dk_at dksX0_charmer_1 12 rfl rfl)
theorem dX0_charmer_39 : decode cX0_charmer 39 = .ok (.invokevirtual 143, 3) := dk_182 0 143 (dk_at dksX0_charmer_1 15 rfl rfl)
theorem dX0_charmer_42 : decode cX0_charmer 42 = .ok (.if_icmp .le 5, 3) := dk_164 0 5 (dk_at dksX0_charmer_1 18 rfl rfl)
theorem dX0_charmer_45 : decode cX0_charmer 45 = .ok (.iload_n 2, 1) := dk_28 (dk_at dksX0_charmer_1 21 rfl rfl)
theorem dX0_charmer_46 : decode cX0_charmer 46 = .ok (.istore_n 1, 1) := dk_60 (dk_at dksX0_charmer_1 22 rfl rfl)
theorem dX0_charmer_47 : decode cX0_charmer 47 = .ok (.iinc 2 1, 3) := dk_132 2 1 (dk_at dksX0_charmer_2 0 rfl rfl)
theorem dX0_charmer_50 : decode cX0_charmer 50 = .ok (.goto (-45), 3) := dk_167 255 211 (dk_at dksX0_charmer_2 3 rfl rfl)
theorem dX0_charmer_53 : decode cX0_charmer 53 = .ok (.iload_n 1, 1) := dk_27 (dk_at dksX0_charmer_2 6 rfl rfl)
theorem dX0_charmer_54 : decode cX0_charmer 54 = .ok (.ireturn, 1) := dk_172 (dk_at dksX0_charmer_2 7 rfl rfl)
abbrev cX0_friends : ByteArray := prog_1_method_61_code
def yX0_friends : MethodName := ⟨RX0, "friends", "()I"⟩
def dkwX0_friends_3 : List UInt8 := [167, 255, 206, 132, 2, 1, 167, 255, 185, 27, 172]
abbrev dktX0_friends_3 : List UInt8 := dkwX0_friends_3 ++ []
def dkwX0_friends_2 : List UInt8 := [180, 0, 16, 29, 28, 182, 0, 153, 16, 60, 161, 0, 7, 4, 167, 0, 4, 3, 96, 60, 132, 3, 1]
abbrev dktX0_friends_2 : List UInt8 := dkwX0_friends_2 ++ dktX0_friends_3
def dkwX0_friends_1 : List UInt8 := [182, 0, 74, 162, 0, 45, 27, 42, 180, 0, 16, 28, 29, 182, 0, 153, 16, 60, 161, 0, 21, 42]
abbrev dktX0_friends_1 : List UInt8 := dkwX0_friends_1 ++ dktX0_friends_2
def dkwX0_friends_0 : List UInt8 := [3, 60, 3, 61, 28, 42, 180, 0, 16, 182, 0, 74, 162, 0, 66, 28, 4, 96, 62, 29, 42, 180, 0, 16]
abbrev dktX0_friends_0 : List UInt8 := dkwX0_friends_0 ++ dktX0_friends_1
theorem dksX0_friends_0 : cX0_friends.data.toList.drop 0 = dktX0_friends_0 := by decide +kernel
theorem dksX0_friends_1 : cX0_friends.data.toList.drop 24 = dktX0_friends_1 := dk_seg dksX0_friends_0 24 rfl rfl
theorem dksX0_friends_2 : cX0_friends.data.toList.drop 46 = dktX0_friends_2 := dk_seg dksX0_friends_1 22 rfl rfl
theorem dksX0_friends_3 : cX0_friends.data.toList.drop 69 = dktX0_friends_3 := dk_seg dksX0_friends_2 23 rfl rfl
theorem dX0_friends_0 : decode cX0_friends 0 = .ok (.iconst 0, 1) := dk_3 (dk_at dksX0_friends_0 0 rfl rfl)
theorem dX0_friends_1 : decode cX0_friends 1 = .ok (.istore_n 1, 1) := dk_60 (dk_at dksX0_friends_0 1 rfl rfl)
theorem dX0_friends_2 : decode cX0_friends 2 = .ok (.iconst 0, 1) := dk_3 (dk_at dksX0_friends_0 2 rfl rfl)
theorem dX0_friends_3 : decode cX0_friends 3 = .ok (.istore_n 2, 1) := dk_61 (dk_at dksX0_friends_0 3 rfl rfl)
theorem dX0_friends_4 : decode cX0_friends 4 = .ok (.iload_n 2, 1) := dk_28 (dk_at dksX0_friends_0 4 rfl rfl)
theorem dX0_friends_5 : decode cX0_friends 5 = .ok (.aload_n 0, 1) := dk_42 (dk_at dksX0_friends_0 5 rfl rfl)
theorem dX0_friends_6 : decode cX0_friends 6 = .ok (.getfield 16, 3) := dk_180 0 16 (dk_at dksX0_friends_0 6 rfl rfl)
theorem dX0_friends_9 : decode cX0_friends 9 = .ok (.invokevirtual 74, 3) := dk_182 0 74 (dk_at dksX0_friends_0 9 rfl rfl)
theorem dX0_friends_12 : decode cX0_friends 12 = .ok (.if_icmp .ge 66, 3) := dk_162 0 66 (dk_at dksX0_friends_0 12 rfl rfl)
theorem dX0_friends_15 : decode cX0_friends 15 = .ok (.iload_n 2, 1) := dk_28 (dk_at dksX0_friends_0 15 rfl rfl)
theorem dX0_friends_16 : decode cX0_friends 16 = .ok (.iconst 1, 1) := dk_4 (dk_at dksX0_friends_0 16 rfl rfl)
theorem dX0_friends_17 : decode cX0_friends 17 = .ok (.iadd, 1) := dk_96 (dk_at dksX0_friends_0 17 rfl rfl)
theorem dX0_friends_18 : decode cX0_friends 18 = .ok (.istore_n 3, 1) := dk_62 (dk_at dksX0_friends_0 18 rfl rfl)
theorem dX0_friends_19 : decode cX0_friends 19 = .ok (.iload_n 3, 1) := dk_29 (dk_at dksX0_friends_0 19 rfl rfl)
theorem dX0_friends_20 : decode cX0_friends 20 = .ok (.aload_n 0, 1) := dk_42 (dk_at dksX0_friends_0 20 rfl rfl)
theorem dX0_friends_21 : decode cX0_friends 21 = .ok (.getfield 16, 3) := dk_180 0 16 (dk_at dksX0_friends_0 21 rfl rfl)
theorem dX0_friends_24 : decode cX0_friends 24 = .ok (.invokevirtual 74, 3) := dk_182 0 74 (dk_at dksX0_friends_1 0 rfl rfl)
theorem dX0_friends_27 : decode cX0_friends 27 = .ok (.if_icmp .ge 45, 3) := dk_162 0 45 (dk_at dksX0_friends_1 3 rfl rfl)
theorem dX0_friends_30 : decode cX0_friends 30 = .ok (.iload_n 1, 1) := dk_27 (dk_at dksX0_friends_1 6 rfl rfl)
theorem dX0_friends_31 : decode cX0_friends 31 = .ok (.aload_n 0, 1) := dk_42 (dk_at dksX0_friends_1 7 rfl rfl)
theorem dX0_friends_32 : decode cX0_friends 32 = .ok (.getfield 16, 3) := dk_180 0 16 (dk_at dksX0_friends_1 8 rfl rfl)
theorem dX0_friends_35 : decode cX0_friends 35 = .ok (.iload_n 2, 1) := dk_28 (dk_at dksX0_friends_1 11 rfl rfl)
theorem dX0_friends_36 : decode cX0_friends 36 = .ok (.iload_n 3, 1) := dk_29 (dk_at dksX0_friends_1 12 rfl rfl)
theorem dX0_friends_37 : decode cX0_friends 37 = .ok (.invokevirtual 153, 3) := dk_182 0 153 (dk_at dksX0_friends_1 13 rfl rfl)
theorem dX0_friends_40 : decode cX0_friends 40 = .ok (.bipush 60, 2) := dk_16 60 (dk_at dksX0_friends_1 16 rfl rfl)
theorem dX0_friends_42 : decode cX0_friends 42 = .ok (.if_icmp .lt 21, 3) := dk_161 0 21 (dk_at dksX0_friends_1 18 rfl rfl)
theorem dX0_friends_45 : decode cX0_friends 45 = .ok (.aload_n 0, 1) := dk_42 (dk_at dksX0_friends_1 21 rfl rfl)
theorem dX0_friends_46 : decode cX0_friends 46 = .ok (.getfield 16, 3) := dk_180 0 16 (dk_at dksX0_friends_2 0 rfl rfl)
theorem dX0_friends_49 : decode cX0_friends 49 = .ok (.iload_n 3, 1) := dk_29 (dk_at dksX0_friends_2 3 rfl rfl)
theorem dX0_friends_50 : decode cX0_friends 50 = .ok (.iload_n 2, 1) := dk_28 (dk_at dksX0_friends_2 4 rfl rfl)
theorem dX0_friends_51 : decode cX0_friends 51 = .ok (.invokevirtual 153, 3) := dk_182 0 153 (dk_at dksX0_friends_2 5 rfl rfl)
theorem dX0_friends_54 : decode cX0_friends 54 = .ok (.bipush 60, 2) := dk_16 60 (dk_at dksX0_friends_2 8 rfl rfl)
theorem dX0_friends_56 : decode cX0_friends 56 = .ok (.if_icmp .lt 7, 3) := dk_161 0 7 (dk_at dksX0_friends_2 10 rfl rfl)
theorem dX0_friends_59 : decode cX0_friends 59 = .ok (.iconst 1, 1) := dk_4 (dk_at dksX0_friends_2 13 rfl rfl)
theorem dX0_friends_60 : decode cX0_friends 60 = .ok (.goto 4, 3) := dk_167 0 4 (dk_at dksX0_friends_2 14 rfl rfl)
theorem dX0_friends_63 : decode cX0_friends 63 = .ok (.iconst 0, 1) := dk_3 (dk_at dksX0_friends_2 17 rfl rfl)
theorem dX0_friends_64 : decode cX0_friends 64 = .ok (.iadd, 1) := dk_96 (dk_at dksX0_friends_2 18 rfl rfl)
theorem dX0_friends_65 : decode cX0_friends 65 = .ok (.istore_n 1, 1) := dk_60 (dk_at dksX0_friends_2 19 rfl rfl)
theorem dX0_friends_66 : decode cX0_friends 66 = .ok (.iinc 3 1, 3) := dk_132 3 1 (dk_at dksX0_friends_2 20 rfl rfl)
theorem dX0_friends_69 : decode cX0_friends 69 = .ok (.goto (-50), 3) := dk_167 255 206 (dk_at dksX0_friends_3 0 rfl rfl)
theorem dX0_friends_72 : decode cX0_friends 72 = .ok (.iinc 2 1, 3) := dk_132 2 1 (dk_at dksX0_friends_3 3 rfl rfl)
theorem dX0_friends_75 : decode cX0_friends 75 = .ok (.goto (-71), 3) := dk_167 255 185 (dk_at dksX0_friends_3 6 rfl rfl)
theorem dX0_friends_78 : decode cX0_friends 78 = .ok (.iload_n 1, 1) := dk_27 (dk_at dksX0_friends_3 9 rfl rfl)
theorem dX0_friends_79 : decode cX0_friends 79 = .ok (.ireturn, 1) := dk_172 (dk_at dksX0_friends_3 10 rfl rfl)
abbrev cX0_chain : ByteArray := prog_1_method_62_code
def yX0_chain : MethodName := ⟨RX0, "chain", "(I)I"⟩
def dkwX0_chain_2 : List UInt8 := [184, 1, 0, 172]
abbrev dktX0_chain_2 : List UInt8 := dkwX0_chain_2 ++ []
def dkwX0_chain_1 : List UInt8 := [184, 0, 240, 154, 0, 18, 28, 4, 29, 120, 128, 61, 42, 29, 182, 0, 250, 62, 167, 255, 232, 28]
abbrev dktX0_chain_1 : List UInt8 := dkwX0_chain_1 ++ dktX0_chain_2
def dkwX0_chain_0 : List UInt8 := [42, 27, 182, 0, 82, 154, 0, 9, 42, 2, 182, 0, 48, 172, 3, 61, 27, 62, 29, 155, 0, 26, 28, 29]
abbrev dktX0_chain_0 : List UInt8 := dkwX0_chain_0 ++ dktX0_chain_1
theorem dksX0_chain_0 : cX0_chain.data.toList.drop 0 = dktX0_chain_0 := by decide +kernel
theorem dksX0_chain_1 : cX0_chain.data.toList.drop 24 = dktX0_chain_1 := dk_seg dksX0_chain_0 24 rfl rfl
theorem dksX0_chain_2 : cX0_chain.data.toList.drop 46 = dktX0_chain_2 := dk_seg dksX0_chain_1 22 rfl rfl
theorem dX0_chain_0 : decode cX0_chain 0 = .ok (.aload_n 0, 1) := dk_42 (dk_at dksX0_chain_0 0 rfl rfl)
theorem dX0_chain_1 : decode cX0_chain 1 = .ok (.iload_n 1, 1) := dk_27 (dk_at dksX0_chain_0 1 rfl rfl)
theorem dX0_chain_2 : decode cX0_chain 2 = .ok (.invokevirtual 82, 3) := dk_182 0 82 (dk_at dksX0_chain_0 2 rfl rfl)
theorem dX0_chain_5 : decode cX0_chain 5 = .ok (.ifCond .ne 9, 3) := dk_154 0 9 (dk_at dksX0_chain_0 5 rfl rfl)
theorem dX0_chain_8 : decode cX0_chain 8 = .ok (.aload_n 0, 1) := dk_42 (dk_at dksX0_chain_0 8 rfl rfl)
theorem dX0_chain_9 : decode cX0_chain 9 = .ok (.iconst (-1), 1) := dk_2 (dk_at dksX0_chain_0 9 rfl rfl)
theorem dX0_chain_10 : decode cX0_chain 10 = .ok (.invokevirtual 48, 3) := dk_182 0 48 (dk_at dksX0_chain_0 10 rfl rfl)
theorem dX0_chain_13 : decode cX0_chain 13 = .ok (.ireturn, 1) := dk_172 (dk_at dksX0_chain_0 13 rfl rfl)
theorem dX0_chain_14 : decode cX0_chain 14 = .ok (.iconst 0, 1) := dk_3 (dk_at dksX0_chain_0 14 rfl rfl)
theorem dX0_chain_15 : decode cX0_chain 15 = .ok (.istore_n 2, 1) := dk_61 (dk_at dksX0_chain_0 15 rfl rfl)
theorem dX0_chain_16 : decode cX0_chain 16 = .ok (.iload_n 1, 1) := dk_27 (dk_at dksX0_chain_0 16 rfl rfl)
theorem dX0_chain_17 : decode cX0_chain 17 = .ok (.istore_n 3, 1) := dk_62 (dk_at dksX0_chain_0 17 rfl rfl)
theorem dX0_chain_18 : decode cX0_chain 18 = .ok (.iload_n 3, 1) := dk_29 (dk_at dksX0_chain_0 18 rfl rfl)
theorem dX0_chain_19 : decode cX0_chain 19 = .ok (.ifCond .lt 26, 3) := dk_155 0 26 (dk_at dksX0_chain_0 19 rfl rfl)
theorem dX0_chain_22 : decode cX0_chain 22 = .ok (.iload_n 2, 1) := dk_28 (dk_at dksX0_chain_0 22 rfl rfl)
theorem dX0_chain_23 : decode cX0_chain 23 = .ok (.iload_n 3, 1) := dk_29 (dk_at dksX0_chain_0 23 rfl rfl)
theorem dX0_chain_24 : decode cX0_chain 24 = .ok (.invokestatic 240, 3) := dk_184 0 240 (dk_at dksX0_chain_1 0 rfl rfl)
theorem dX0_chain_27 : decode cX0_chain 27 = .ok (.ifCond .ne 18, 3) := dk_154 0 18 (dk_at dksX0_chain_1 3 rfl rfl)
theorem dX0_chain_30 : decode cX0_chain 30 = .ok (.iload_n 2, 1) := dk_28 (dk_at dksX0_chain_1 6 rfl rfl)
theorem dX0_chain_31 : decode cX0_chain 31 = .ok (.iconst 1, 1) := dk_4 (dk_at dksX0_chain_1 7 rfl rfl)
theorem dX0_chain_32 : decode cX0_chain 32 = .ok (.iload_n 3, 1) := dk_29 (dk_at dksX0_chain_1 8 rfl rfl)
theorem dX0_chain_33 : decode cX0_chain 33 = .ok (.ishl, 1) := dk_120 (dk_at dksX0_chain_1 9 rfl rfl)
theorem dX0_chain_34 : decode cX0_chain 34 = .ok (.ior, 1) := dk_128 (dk_at dksX0_chain_1 10 rfl rfl)
theorem dX0_chain_35 : decode cX0_chain 35 = .ok (.istore_n 2, 1) := dk_61 (dk_at dksX0_chain_1 11 rfl rfl)
theorem dX0_chain_36 : decode cX0_chain 36 = .ok (.aload_n 0, 1) := dk_42 (dk_at dksX0_chain_1 12 rfl rfl)
theorem dX0_chain_37 : decode cX0_chain 37 = .ok (.iload_n 3, 1) := dk_29 (dk_at dksX0_chain_1 13 rfl rfl)
theorem dX0_chain_38 : decode cX0_chain 38 = .ok (.invokevirtual 250, 3) := dk_182 0 250 (dk_at dksX0_chain_1 14 rfl rfl)
theorem dX0_chain_41 : decode cX0_chain 41 = .ok (.istore_n 3, 1) := dk_62 (dk_at dksX0_chain_1 17 rfl rfl)
theorem dX0_chain_42 : decode cX0_chain 42 = .ok (.goto (-24), 3) := dk_167 255 232 (dk_at dksX0_chain_1 18 rfl rfl)
theorem dX0_chain_45 : decode cX0_chain 45 = .ok (.iload_n 2, 1) := dk_28 (dk_at dksX0_chain_1 21 rfl rfl)
theorem dX0_chain_46 : decode cX0_chain 46 = .ok (.invokestatic 256, 3) := dk_184 1 0 (dk_at dksX0_chain_2 0 rfl rfl)
theorem dX0_chain_49 : decode cX0_chain 49 = .ok (.ireturn, 1) := dk_172 (dk_at dksX0_chain_2 3 rfl rfl)
abbrev cX0_lonely : ByteArray := prog_1_method_64_code
def yX0_lonely : MethodName := ⟨RX0, "lonely", "()I"⟩
def dkwX0_lonely_2 : List UInt8 := [172]
abbrev dktX0_lonely_2 : List UInt8 := dkwX0_lonely_2 ++ []
def dkwX0_lonely_1 : List UInt8 := [156, 0, 17, 42, 28, 182, 1, 56, 154, 0, 9, 27, 4, 28, 120, 128, 60, 132, 2, 1, 167, 255, 216, 27]
abbrev dktX0_lonely_1 : List UInt8 := dkwX0_lonely_1 ++ dktX0_lonely_2
def dkwX0_lonely_0 : List UInt8 := [3, 60, 3, 61, 28, 42, 180, 0, 16, 182, 0, 74, 162, 0, 35, 42, 180, 0, 16, 180, 0, 94, 28, 46]
abbrev dktX0_lonely_0 : List UInt8 := dkwX0_lonely_0 ++ dktX0_lonely_1
theorem dksX0_lonely_0 : cX0_lonely.data.toList.drop 0 = dktX0_lonely_0 := by decide +kernel
theorem dksX0_lonely_1 : cX0_lonely.data.toList.drop 24 = dktX0_lonely_1 := dk_seg dksX0_lonely_0 24 rfl rfl
theorem dksX0_lonely_2 : cX0_lonely.data.toList.drop 48 = dktX0_lonely_2 := dk_seg dksX0_lonely_1 24 rfl rfl
theorem dX0_lonely_0 : decode cX0_lonely 0 = .ok (.iconst 0, 1) := dk_3 (dk_at dksX0_lonely_0 0 rfl rfl)
theorem dX0_lonely_1 : decode cX0_lonely 1 = .ok (.istore_n 1, 1) := dk_60 (dk_at dksX0_lonely_0 1 rfl rfl)
theorem dX0_lonely_2 : decode cX0_lonely 2 = .ok (.iconst 0, 1) := dk_3 (dk_at dksX0_lonely_0 2 rfl rfl)
theorem dX0_lonely_3 : decode cX0_lonely 3 = .ok (.istore_n 2, 1) := dk_61 (dk_at dksX0_lonely_0 3 rfl rfl)
theorem dX0_lonely_4 : decode cX0_lonely 4 = .ok (.iload_n 2, 1) := dk_28 (dk_at dksX0_lonely_0 4 rfl rfl)
theorem dX0_lonely_5 : decode cX0_lonely 5 = .ok (.aload_n 0, 1) := dk_42 (dk_at dksX0_lonely_0 5 rfl rfl)
theorem dX0_lonely_6 : decode cX0_lonely 6 = .ok (.getfield 16, 3) := dk_180 0 16 (dk_at dksX0_lonely_0 6 rfl rfl)
theorem dX0_lonely_9 : decode cX0_lonely 9 = .ok (.invokevirtual 74, 3) := dk_182 0 74 (dk_at dksX0_lonely_0 9 rfl rfl)
theorem dX0_lonely_12 : decode cX0_lonely 12 = .ok (.if_icmp .ge 35, 3) := dk_162 0 35 (dk_at dksX0_lonely_0 12 rfl rfl)
theorem dX0_lonely_15 : decode cX0_lonely 15 = .ok (.aload_n 0, 1) := dk_42 (dk_at dksX0_lonely_0 15 rfl rfl)
theorem dX0_lonely_16 : decode cX0_lonely 16 = .ok (.getfield 16, 3) := dk_180 0 16 (dk_at dksX0_lonely_0 16 rfl rfl)
theorem dX0_lonely_19 : decode cX0_lonely 19 = .ok (.getfield 94, 3) := dk_180 0 94 (dk_at dksX0_lonely_0 19 rfl rfl)
theorem dX0_lonely_22 : decode cX0_lonely 22 = .ok (.iload_n 2, 1) := dk_28 (dk_at dksX0_lonely_0 22 rfl rfl)
theorem dX0_lonely_23 : decode cX0_lonely 23 = .ok (.iaload, 1) := dk_46 (dk_at dksX0_lonely_0 23 rfl rfl)
theorem dX0_lonely_24 : decode cX0_lonely 24 = .ok (.ifCond .ge 17, 3) := dk_156 0 17 (dk_at dksX0_lonely_1 0 rfl rfl)
theorem dX0_lonely_27 : decode cX0_lonely 27 = .ok (.aload_n 0, 1) := dk_42 (dk_at dksX0_lonely_1 3 rfl rfl)
theorem dX0_lonely_28 : decode cX0_lonely 28 = .ok (.iload_n 2, 1) := dk_28 (dk_at dksX0_lonely_1 4 rfl rfl)
theorem dX0_lonely_29 : decode cX0_lonely 29 = .ok (.invokevirtual 312, 3) := dk_182 1 56 (dk_at dksX0_lonely_1 5 rfl rfl)
theorem dX0_lonely_32 : decode cX0_lonely 32 = .ok (.ifCond .ne 9, 3) := dk_154 0 9 (dk_at dksX0_lonely_1 8 rfl rfl)
theorem dX0_lonely_35 : decode cX0_lonely 35 = .ok (.iload_n 1, 1) := dk_27 (dk_at dksX0_lonely_1 11 rfl rfl)
theorem dX0_lonely_36 : decode cX0_lonely 36 = .ok (.iconst 1, 1) := dk_4 (dk_at dksX0_lonely_1 12 rfl rfl)
theorem dX0_lonely_37 : decode cX0_lonely 37 = .ok (.iload_n 2, 1) := dk_28 (dk_at dksX0_lonely_1 13 rfl rfl)
theorem dX0_lonely_38 : decode cX0_lonely 38 = .ok (.ishl, 1) := dk_120 (dk_at dksX0_lonely_1 14 rfl rfl)
theorem dX0_lonely_39 : decode cX0_lonely 39 = .ok (.ior, 1) := dk_128 (dk_at dksX0_lonely_1 15 rfl rfl)
theorem dX0_lonely_40 : decode cX0_lonely 40 = .ok (.istore_n 1, 1) := dk_60 (dk_at dksX0_lonely_1 16 rfl rfl)
theorem dX0_lonely_41 : decode cX0_lonely 41 = .ok (.iinc 2 1, 3) := dk_132 2 1 (dk_at dksX0_lonely_1 17 rfl rfl)
theorem dX0_lonely_44 : decode cX0_lonely 44 = .ok (.goto (-40), 3) := dk_167 255 216 (dk_at dksX0_lonely_1 20 rfl rfl)
theorem dX0_lonely_47 : decode cX0_lonely 47 = .ok (.iload_n 1, 1) := dk_27 (dk_at dksX0_lonely_1 23 rfl rfl)
theorem dX0_lonely_48 : decode cX0_lonely 48 = .ok (.ireturn, 1) := dk_172 (dk_at dksX0_lonely_2 0 rfl rfl)
abbrev cX0_isWanted : ByteArray := prog_1_method_63_code
def yX0_isWanted : MethodName := ⟨RX0, "isWanted", "(I)Z"⟩
def dkwX0_isWanted_1 : List UInt8 := [153, 0, 5, 4, 172, 132, 2, 1, 167, 255, 228, 3, 172]
abbrev dktX0_isWanted_1 : List UInt8 := dkwX0_isWanted_1 ++ []
def dkwX0_isWanted_0 : List UInt8 := [3, 61, 28, 42, 180, 0, 16, 182, 0, 74, 162, 0, 23, 42, 180, 0, 16, 28, 27, 182, 0, 253]
abbrev dktX0_isWanted_0 : List UInt8 := dkwX0_isWanted_0 ++ dktX0_isWanted_1
theorem dksX0_isWanted_0 : cX0_isWanted.data.toList.drop 0 = dktX0_isWanted_0 := by decide +kernel
theorem dksX0_isWanted_1 : cX0_isWanted.data.toList.drop 22 = dktX0_isWanted_1 := dk_seg dksX0_isWanted_0 22 rfl rfl
theorem dX0_isWanted_0 : decode cX0_isWanted 0 = .ok (.iconst 0, 1) := dk_3 (dk_at dksX0_isWanted_0 0 rfl rfl)
theorem dX0_isWanted_1 : decode cX0_isWanted 1 = .ok (.istore_n 2, 1) := dk_61 (dk_at dksX0_isWanted_0 1 rfl rfl)
theorem dX0_isWanted_2 : decode cX0_isWanted 2 = .ok (.iload_n 2, 1) := dk_28 (dk_at dksX0_isWanted_0 2 rfl rfl)
theorem dX0_isWanted_3 : decode cX0_isWanted 3 = .ok (.aload_n 0, 1) := dk_42 (dk_at dksX0_isWanted_0 3 rfl rfl)
theorem dX0_isWanted_4 : decode cX0_isWanted 4 = .ok (.getfield 16, 3) := dk_180 0 16 (dk_at dksX0_isWanted_0 4 rfl rfl)
theorem dX0_isWanted_7 : decode cX0_isWanted 7 = .ok (.invokevirtual 74, 3) := dk_182 0 74 (dk_at dksX0_isWanted_0 7 rfl rfl)
theorem dX0_isWanted_10 : decode cX0_isWanted 10 = .ok (.if_icmp .ge 23, 3) := dk_162 0 23 (dk_at dksX0_isWanted_0 10 rfl rfl)
theorem dX0_isWanted_13 : decode cX0_isWanted 13 = .ok (.aload_n 0, 1) := dk_42 (dk_at dksX0_isWanted_0 13 rfl rfl)
theorem dX0_isWanted_14 : decode cX0_isWanted 14 = .ok (.getfield 16, 3) := dk_180 0 16 (dk_at dksX0_isWanted_0 14 rfl rfl)
theorem dX0_isWanted_17 : decode cX0_isWanted 17 = .ok (.iload_n 2, 1) := dk_28 (dk_at dksX0_isWanted_0 17 rfl rfl)
theorem dX0_isWanted_18 : decode cX0_isWanted 18 = .ok (.iload_n 1, 1) := dk_27 (dk_at dksX0_isWanted_0 18 rfl rfl)
theorem dX0_isWanted_19 : decode cX0_isWanted 19 = .ok (.invokevirtual 253, 3) := dk_182 0 253 (dk_at dksX0_isWanted_0 19 rfl rfl)
theorem dX0_isWanted_22 : decode cX0_isWanted 22 = .ok (.ifCond .eq 5, 3) := dk_153 0 5 (dk_at dksX0_isWanted_1 0 rfl rfl)
theorem dX0_isWanted_25 : decode cX0_isWanted 25 = .ok (.iconst 1, 1) := dk_4 (dk_at dksX0_isWanted_1 3 rfl rfl)
theorem dX0_isWanted_26 : decode cX0_isWanted 26 = .ok (.ireturn, 1) := dk_172 (dk_at dksX0_isWanted_1 4 rfl rfl)
theorem dX0_isWanted_27 : decode cX0_isWanted 27 = .ok (.iinc 2 1, 3) := dk_132 2 1 (dk_at dksX0_isWanted_1 5 rfl rfl)
theorem dX0_isWanted_30 : decode cX0_isWanted 30 = .ok (.goto (-28), 3) := dk_167 255 228 (dk_at dksX0_isWanted_1 8 rfl rfl)
theorem dX0_isWanted_33 : decode cX0_isWanted 33 = .ok (.iconst 0, 1) := dk_3 (dk_at dksX0_isWanted_1 11 rfl rfl)
theorem dX0_isWanted_34 : decode cX0_isWanted 34 = .ok (.ireturn, 1) := dk_172 (dk_at dksX0_isWanted_1 12 rfl rfl)
abbrev cX0_spread : ByteArray := prog_1_method_65_code
def yX0_spread : MethodName := ⟨RX0, "spread", "()I"⟩
def dkwX0_spread_4 : List UInt8 := [29, 100, 172]
abbrev dktX0_spread_4 : List UInt8 := dkwX0_spread_4 ++ []
def dkwX0_spread_3 : List UInt8 := [21, 4, 21, 5, 182, 0, 149, 184, 1, 59, 62, 132, 5, 1, 167, 255, 225, 132, 4, 1, 167, 255, 201, 28]
abbrev dktX0_spread_3 : List UInt8 := dkwX0_spread_3 ++ dktX0_spread_4
def dkwX0_spread_2 : List UInt8 := [21, 4, 4, 96, 54, 5, 21, 5, 42, 180, 0, 16, 182, 0, 74, 162, 0, 25, 29, 42, 180, 0, 16]
abbrev dktX0_spread_2 : List UInt8 := dkwX0_spread_2 ++ dktX0_spread_3
def dkwX0_spread_1 : List UInt8 := [16, 10, 112, 182, 0, 149, 61, 28, 62, 3, 54, 4, 21, 4, 42, 180, 0, 16, 182, 0, 74, 162, 0, 49]
abbrev dktX0_spread_1 : List UInt8 := dkwX0_spread_1 ++ dktX0_spread_2
def dkwX0_spread_0 : List UInt8 := [42, 180, 0, 16, 184, 0, 192, 60, 27, 156, 0, 5, 3, 172, 42, 180, 0, 16, 27, 16, 10, 108, 27]
abbrev dktX0_spread_0 : List UInt8 := dkwX0_spread_0 ++ dktX0_spread_1
theorem dksX0_spread_0 : cX0_spread.data.toList.drop 0 = dktX0_spread_0 := by decide +kernel
theorem dksX0_spread_1 : cX0_spread.data.toList.drop 23 = dktX0_spread_1 := dk_seg dksX0_spread_0 23 rfl rfl
theorem dksX0_spread_2 : cX0_spread.data.toList.drop 47 = dktX0_spread_2 := dk_seg dksX0_spread_1 24 rfl rfl
theorem dksX0_spread_3 : cX0_spread.data.toList.drop 70 = dktX0_spread_3 := dk_seg dksX0_spread_2 23 rfl rfl
theorem dksX0_spread_4 : cX0_spread.data.toList.drop 94 = dktX0_spread_4 := dk_seg dksX0_spread_3 24 rfl rfl
theorem dX0_spread_0 : decode cX0_spread 0 = .ok (.aload_n 0, 1) := dk_42 (dk_at dksX0_spread_0 0 rfl rfl)
theorem dX0_spread_1 : decode cX0_spread 1 = .ok (.getfield 16, 3) := dk_180 0 16 (dk_at dksX0_spread_0 1 rfl rfl)
theorem dX0_spread_4 : decode cX0_spread 4 = .ok (.invokestatic 192, 3) := dk_184 0 192 (dk_at dksX0_spread_0 4 rfl rfl)
theorem dX0_spread_7 : decode cX0_spread 7 = .ok (.istore_n 1, 1) := dk_60 (dk_at dksX0_spread_0 7 rfl rfl)
theorem dX0_spread_8 : decode cX0_spread 8 = .ok (.iload_n 1, 1) := dk_27 (dk_at dksX0_spread_0 8 rfl rfl)
theorem dX0_spread_9 : decode cX0_spread 9 = .ok (.ifCond .ge 5, 3) := dk_156 0 5 (dk_at dksX0_spread_0 9 rfl rfl)
theorem dX0_spread_12 : decode cX0_spread 12 = .ok (.iconst 0, 1) := dk_3 (dk_at dksX0_spread_0 12 rfl rfl)
theorem dX0_spread_13 : decode cX0_spread 13 = .ok (.ireturn, 1) := dk_172 (dk_at dksX0_spread_0 13 rfl rfl)
theorem dX0_spread_14 : decode cX0_spread 14 = .ok (.aload_n 0, 1) := dk_42 (dk_at dksX0_spread_0 14 rfl rfl)
theorem dX0_spread_15 : decode cX0_spread 15 = .ok (.getfield 16, 3) := dk_180 0 16 (dk_at dksX0_spread_0 15 rfl rfl)
theorem dX0_spread_18 : decode cX0_spread 18 = .ok (.iload_n 1, 1) := dk_27 (dk_at dksX0_spread_0 18 rfl rfl)
theorem dX0_spread_19 : decode cX0_spread 19 = .ok (.bipush 10, 2) := dk_16 10 (dk_at dksX0_spread_0 19 rfl rfl)
theorem dX0_spread_21 : decode cX0_spread 21 = .ok (.idiv, 1) := dk_108 (dk_at dksX0_spread_0 21 rfl rfl)
theorem dX0_spread_22 : decode cX0_spread 22 = .ok (.iload_n 1, 1) := dk_27 (dk_at dksX0_spread_0 22 rfl rfl)
theorem dX0_spread_23 : decode cX0_spread 23 = .ok (.bipush 10, 2) := dk_16 10 (dk_at dksX0_spread_1 0 rfl rfl)
theorem dX0_spread_25 : decode cX0_spread 25 = .ok (.irem, 1) := dk_112 (dk_at dksX0_spread_1 2 rfl rfl)
theorem dX0_spread_26 : decode cX0_spread 26 = .ok (.invokevirtual 149, 3) := dk_182 0 149 (dk_at dksX0_spread_1 3 rfl rfl)
theorem dX0_spread_29 : decode cX0_spread 29 = .ok (.istore_n 2, 1) := dk_61 (dk_at dksX0_spread_1 6 rfl rfl)
theorem dX0_spread_30 : decode cX0_spread 30 = .ok (.iload_n 2, 1) := dk_28 (dk_at dksX0_spread_1 7 rfl rfl)
theorem dX0_spread_31 : decode cX0_spread 31 = .ok (.istore_n 3, 1) := dk_62 (dk_at dksX0_spread_1 8 rfl rfl)
theorem dX0_spread_32 : decode cX0_spread 32 = .ok (.iconst 0, 1) := dk_3 (dk_at dksX0_spread_1 9 rfl rfl)
theorem dX0_spread_33 : decode cX0_spread 33 = .ok (.istore 4, 2) := dk_54 4 (dk_at dksX0_spread_1 10 rfl rfl)
theorem dX0_spread_35 : decode cX0_spread 35 = .ok (.iload 4, 2) := dk_21 4 (dk_at dksX0_spread_1 12 rfl rfl)
theorem dX0_spread_37 : decode cX0_spread 37 = .ok (.aload_n 0, 1) := dk_42 (dk_at dksX0_spread_1 14 rfl rfl)
theorem dX0_spread_38 : decode cX0_spread 38 = .ok (.getfield 16, 3) := dk_180 0 16 (dk_at dksX0_spread_1 15 rfl rfl)
theorem dX0_spread_41 : decode cX0_spread 41 = .ok (.invokevirtual 74, 3) := dk_182 0 74 (dk_at dksX0_spread_1 18 rfl rfl)
theorem dX0_spread_44 : decode cX0_spread 44 = .ok (.if_icmp .ge 49, 3) := dk_162 0 49 (dk_at dksX0_spread_1 21 rfl rfl)
theorem dX0_spread_47 : decode cX0_spread 47 = .ok (.iload 4, 2) := dk_21 4 (dk_at dksX0_spread_2 0 rfl rfl)
theorem dX0_spread_49 : decode cX0_spread 49 = .ok (.iconst 1, 1) := dk_4 (dk_at dksX0_spread_2 2 rfl rfl)
theorem dX0_spread_50 : decode cX0_spread 50 = .ok (.iadd, 1) := dk_96 (dk_at dksX0_spread_2 3 rfl rfl)
theorem dX0_spread_51 : decode cX0_spread 51 = .ok (.istore 5, 2) := dk_54 5 (dk_at dksX0_spread_2 4 rfl rfl)
theorem dX0_spread_53 : decode cX0_spread 53 = .ok (.iload 5, 2) := dk_21 5 (dk_at dksX0_spread_2 6 rfl rfl)
theorem dX0_spread_55 : decode cX0_spread 55 = .ok (.aload_n 0, 1) := dk_42 (dk_at dksX0_spread_2 8 rfl rfl)
theorem dX0_spread_56 : decode cX0_spread 56 = .ok (.getfield 16, 3) := dk_180 0 16 (dk_at dksX0_spread_2 9 rfl rfl)
theorem dX0_spread_59 : decode cX0_spread 59 = .ok (.invokevirtual 74, 3) := dk_182 0 74 (dk_at dksX0_spread_2 12 rfl rfl)
theorem dX0_spread_62 : decode cX0_spread 62 = .ok (.if_icmp .ge 25, 3) := dk_162 0 25 (dk_at dksX0_spread_2 15 rfl rfl)
theorem dX0_spread_65 : decode cX0_spread 65 = .ok (.iload_n 3, 1) := dk_29 (dk_at dksX0_spread_2 18 rfl rfl)
theorem dX0_spread_66 : decode cX0_spread 66 = .ok (.aload_n 0, 1) := dk_42 (dk_at dksX0_spread_2 19 rfl rfl)
theorem dX0_spread_67 : decode cX0_spread 67 = .ok (.getfield 16, 3) := dk_180 0 16 (dk_at dksX0_spread_2 20 rfl rfl)
theorem dX0_spread_70 : decode cX0_spread 70 = .ok (.iload 4, 2) := dk_21 4 (dk_at dksX0_spread_3 0 rfl rfl)
theorem dX0_spread_72 : decode cX0_spread 72 = .ok (.iload 5, 2) := dk_21 5 (dk_at dksX0_spread_3 2 rfl rfl)
theorem dX0_spread_74 : decode cX0_spread 74 = .ok (.invokevirtual 149, 3) := dk_182 0 149 (dk_at dksX0_spread_3 4 rfl rfl)
theorem dX0_spread_77 : decode cX0_spread 77 = .ok (.invokestatic 315, 3) := dk_184 1 59 (dk_at dksX0_spread_3 7 rfl rfl)
theorem dX0_spread_80 : decode cX0_spread 80 = .ok (.istore_n 3, 1) := dk_62 (dk_at dksX0_spread_3 10 rfl rfl)
theorem dX0_spread_81 : decode cX0_spread 81 = .ok (.iinc 5 1, 3) := dk_132 5 1 (dk_at dksX0_spread_3 11 rfl rfl)
theorem dX0_spread_84 : decode cX0_spread 84 = .ok (.goto (-31), 3) := dk_167 255 225 (dk_at dksX0_spread_3 14 rfl rfl)
theorem dX0_spread_87 : decode cX0_spread 87 = .ok (.iinc 4 1, 3) := dk_132 4 1 (dk_at dksX0_spread_3 17 rfl rfl)
theorem dX0_spread_90 : decode cX0_spread 90 = .ok (.goto (-55), 3) := dk_167 255 201 (dk_at dksX0_spread_3 20 rfl rfl)
theorem dX0_spread_93 : decode cX0_spread 93 = .ok (.iload_n 2, 1) := dk_28 (dk_at dksX0_spread_3 23 rfl rfl)
theorem dX0_spread_94 : decode cX0_spread 94 = .ok (.iload_n 3, 1) := dk_29 (dk_at dksX0_spread_4 0 rfl rfl)
theorem dX0_spread_95 : decode cX0_spread 95 = .ok (.isub, 1) := dk_100 (dk_at dksX0_spread_4 1 rfl rfl)
theorem dX0_spread_96 : decode cX0_spread 96 = .ok (.ireturn, 1) := dk_172 (dk_at dksX0_spread_4 2 rfl rfl)
abbrev cX0_mean : ByteArray := prog_1_method_66_code
def yX0_mean : MethodName := ⟨RX0, "mean", "(I)J"⟩
def dkwX0_mean_2 : List UInt8 := [182, 1, 37, 173]
abbrev dktX0_mean_2 : List UInt8 := dkwX0_mean_2 ++ []
def dkwX0_mean_1 : List UInt8 := [180, 0, 16, 182, 0, 74, 4, 100, 104, 5, 108, 133, 27, 184, 1, 49, 167, 0, 9, 42, 16, 254]
abbrev dktX0_mean_1 : List UInt8 := dkwX0_mean_1 ++ dktX0_mean_2
def dkwX0_mean_0 : List UInt8 := [27, 5, 184, 0, 78, 153, 0, 38, 42, 180, 0, 16, 182, 0, 184, 133, 42, 180, 0, 16, 182, 0, 74, 42]
abbrev dktX0_mean_0 : List UInt8 := dkwX0_mean_0 ++ dktX0_mean_1
theorem dksX0_mean_0 : cX0_mean.data.toList.drop 0 = dktX0_mean_0 := by decide +kernel
theorem dksX0_mean_1 : cX0_mean.data.toList.drop 24 = dktX0_mean_1 := dk_seg dksX0_mean_0 24 rfl rfl
theorem dksX0_mean_2 : cX0_mean.data.toList.drop 46 = dktX0_mean_2 := dk_seg dksX0_mean_1 22 rfl rfl
theorem dX0_mean_0 : decode cX0_mean 0 = .ok (.iload_n 1, 1) := dk_27 (dk_at dksX0_mean_0 0 rfl rfl)
theorem dX0_mean_1 : decode cX0_mean 1 = .ok (.iconst 2, 1) := dk_5 (dk_at dksX0_mean_0 1 rfl rfl)
theorem dX0_mean_2 : decode cX0_mean 2 = .ok (.invokestatic 78, 3) := dk_184 0 78 (dk_at dksX0_mean_0 2 rfl rfl)
theorem dX0_mean_5 : decode cX0_mean 5 = .ok (.ifCond .eq 38, 3) := dk_153 0 38 (dk_at dksX0_mean_0 5 rfl rfl)
theorem dX0_mean_8 : decode cX0_mean 8 = .ok (.aload_n 0, 1) := dk_42 (dk_at dksX0_mean_0 8 rfl rfl)
theorem dX0_mean_9 : decode cX0_mean 9 = .ok (.getfield 16, 3) := dk_180 0 16 (dk_at dksX0_mean_0 9 rfl rfl)
theorem dX0_mean_12 : decode cX0_mean 12 = .ok (.invokevirtual 184, 3) := dk_182 0 184 (dk_at dksX0_mean_0 12 rfl rfl)
theorem dX0_mean_15 : decode cX0_mean 15 = .ok (.i2l, 1) := dk_133 (dk_at dksX0_mean_0 15 rfl rfl)
theorem dX0_mean_16 : decode cX0_mean 16 = .ok (.aload_n 0, 1) := dk_42 (dk_at dksX0_mean_0 16 rfl rfl)
theorem dX0_mean_17 : decode cX0_mean 17 = .ok (.getfield 16, 3) := dk_180 0 16 (dk_at dksX0_mean_0 17 rfl rfl)
theorem dX0_mean_20 : decode cX0_mean 20 = .ok (.invokevirtual 74, 3) := dk_182 0 74 (dk_at dksX0_mean_0 20 rfl rfl)
theorem dX0_mean_23 : decode cX0_mean 23 = .ok (.aload_n 0, 1) := dk_42 (dk_at dksX0_mean_0 23 rfl rfl)
theorem dX0_mean_24 : decode cX0_mean 24 = .ok (.getfield 16, 3) := dk_180 0 16 (dk_at dksX0_mean_1 0 rfl rfl)
theorem dX0_mean_27 : decode cX0_mean 27 = .ok (.invokevirtual 74, 3) := dk_182 0 74 (dk_at dksX0_mean_1 3 rfl rfl)
theorem dX0_mean_30 : decode cX0_mean 30 = .ok (.iconst 1, 1) := dk_4 (dk_at dksX0_mean_1 6 rfl rfl)
theorem dX0_mean_31 : decode cX0_mean 31 = .ok (.isub, 1) := dk_100 (dk_at dksX0_mean_1 7 rfl rfl)
theorem dX0_mean_32 : decode cX0_mean 32 = .ok (.imul, 1) := dk_104 (dk_at dksX0_mean_1 8 rfl rfl)
theorem dX0_mean_33 : decode cX0_mean 33 = .ok (.iconst 2, 1) := dk_5 (dk_at dksX0_mean_1 9 rfl rfl)
theorem dX0_mean_34 : decode cX0_mean 34 = .ok (.idiv, 1) := dk_108 (dk_at dksX0_mean_1 10 rfl rfl)
theorem dX0_mean_35 : decode cX0_mean 35 = .ok (.i2l, 1) := dk_133 (dk_at dksX0_mean_1 11 rfl rfl)
theorem dX0_mean_36 : decode cX0_mean 36 = .ok (.iload_n 1, 1) := dk_27 (dk_at dksX0_mean_1 12 rfl rfl)
theorem dX0_mean_37 : decode cX0_mean 37 = .ok (.invokestatic 305, 3) := dk_184 1 49 (dk_at dksX0_mean_1 13 rfl rfl)
theorem dX0_mean_40 : decode cX0_mean 40 = .ok (.goto 9, 3) := dk_167 0 9 (dk_at dksX0_mean_1 16 rfl rfl)
theorem dX0_mean_43 : decode cX0_mean 43 = .ok (.aload_n 0, 1) := dk_42 (dk_at dksX0_mean_1 19 rfl rfl)
theorem dX0_mean_44 : decode cX0_mean 44 = .ok (.bipush (-2), 2) := dk_16 254 (dk_at dksX0_mean_1 20 rfl rfl)
theorem dX0_mean_46 : decode cX0_mean 46 = .ok (.invokevirtual 293, 3) := dk_182 1 37 (dk_at dksX0_mean_2 0 rfl rfl)
theorem dX0_mean_49 : decode cX0_mean 49 = .ok (.lreturn, 1) := dk_173 (dk_at dksX0_mean_2 3 rfl rfl)
abbrev cX0_enemy : ByteArray := prog_1_method_67_code
def yX0_enemy : MethodName := ⟨RX0, "enemy", "(I)I"⟩
def dkwX0_enemy_2 : List UInt8 := [42, 180, 0, 16, 27, 28, 182, 0, 149, 164, 0, 5, 29, 61, 132, 3, 1, 167, 255, 210, 28, 172]
abbrev dktX0_enemy_2 : List UInt8 := dkwX0_enemy_2 ++ []
def dkwX0_enemy_1 : List UInt8 := [182, 0, 74, 162, 0, 41, 29, 27, 159, 0, 30, 28, 155, 0, 24, 42, 180, 0, 16, 27, 29, 182, 0, 149]
abbrev dktX0_enemy_1 : List UInt8 := dkwX0_enemy_1 ++ dktX0_enemy_2
def dkwX0_enemy_0 : List UInt8 := [42, 27, 182, 0, 82, 154, 0, 9, 42, 2, 182, 0, 48, 172, 16, 247, 61, 3, 62, 29, 42, 180, 0, 16]
abbrev dktX0_enemy_0 : List UInt8 := dkwX0_enemy_0 ++ dktX0_enemy_1
theorem dksX0_enemy_0 : cX0_enemy.data.toList.drop 0 = dktX0_enemy_0 := by decide +kernel
theorem dksX0_enemy_1 : cX0_enemy.data.toList.drop 24 = dktX0_enemy_1 := dk_seg dksX0_enemy_0 24 rfl rfl
theorem dksX0_enemy_2 : cX0_enemy.data.toList.drop 48 = dktX0_enemy_2 := dk_seg dksX0_enemy_1 24 rfl rfl
theorem dX0_enemy_0 : decode cX0_enemy 0 = .ok (.aload_n 0, 1) := dk_42 (dk_at dksX0_enemy_0 0 rfl rfl)
theorem dX0_enemy_1 : decode cX0_enemy 1 = .ok (.iload_n 1, 1) := dk_27 (dk_at dksX0_enemy_0 1 rfl rfl)
theorem dX0_enemy_2 : decode cX0_enemy 2 = .ok (.invokevirtual 82, 3) := dk_182 0 82 (dk_at dksX0_enemy_0 2 rfl rfl)
theorem dX0_enemy_5 : decode cX0_enemy 5 = .ok (.ifCond .ne 9, 3) := dk_154 0 9 (dk_at dksX0_enemy_0 5 rfl rfl)
theorem dX0_enemy_8 : decode cX0_enemy 8 = .ok (.aload_n 0, 1) := dk_42 (dk_at dksX0_enemy_0 8 rfl rfl)
theorem dX0_enemy_9 : decode cX0_enemy 9 = .ok (.iconst (-1), 1) := dk_2 (dk_at dksX0_enemy_0 9 rfl rfl)
theorem dX0_enemy_10 : decode cX0_enemy 10 = .ok (.invokevirtual 48, 3) := dk_182 0 48 (dk_at dksX0_enemy_0 10 rfl rfl)
theorem dX0_enemy_13 : decode cX0_enemy 13 = .ok (.ireturn, 1) := dk_172 (dk_at dksX0_enemy_0 13 rfl rfl)
theorem dX0_enemy_14 : decode cX0_enemy 14 = .ok (.bipush (-9), 2) := dk_16 247 (dk_at dksX0_enemy_0 14 rfl rfl)
theorem dX0_enemy_16 : decode cX0_enemy 16 = .ok (.istore_n 2, 1) := dk_61 (dk_at dksX0_enemy_0 16 rfl rfl)
theorem dX0_enemy_17 : decode cX0_enemy 17 = .ok (.iconst 0, 1) := dk_3 (dk_at dksX0_enemy_0 17 rfl rfl)
theorem dX0_enemy_18 : decode cX0_enemy 18 = .ok (.istore_n 3, 1) := dk_62 (dk_at dksX0_enemy_0 18 rfl rfl)
theorem dX0_enemy_19 : decode cX0_enemy 19 = .ok (.iload_n 3, 1) := dk_29 (dk_at dksX0_enemy_0 19 rfl rfl)
theorem dX0_enemy_20 : decode cX0_enemy 20 = .ok (.aload_n 0, 1) := dk_42 (dk_at dksX0_enemy_0 20 rfl rfl)
theorem dX0_enemy_21 : decode cX0_enemy 21 = .ok (.getfield 16, 3) := dk_180 0 16 (dk_at dksX0_enemy_0 21 rfl rfl)
theorem dX0_enemy_24 : decode cX0_enemy 24 = .ok (.invokevirtual 74, 3) := dk_182 0 74 (dk_at dksX0_enemy_1 0 rfl rfl)
theorem dX0_enemy_27 : decode cX0_enemy 27 = .ok (.if_icmp .ge 41, 3) := dk_162 0 41 (dk_at dksX0_enemy_1 3 rfl rfl)
theorem dX0_enemy_30 : decode cX0_enemy 30 = .ok (.iload_n 3, 1) := dk_29 (dk_at dksX0_enemy_1 6 rfl rfl)
theorem dX0_enemy_31 : decode cX0_enemy 31 = .ok (.iload_n 1, 1) := dk_27 (dk_at dksX0_enemy_1 7 rfl rfl)
theorem dX0_enemy_32 : decode cX0_enemy 32 = .ok (.if_icmp .eq 30, 3) := dk_159 0 30 (dk_at dksX0_enemy_1 8 rfl rfl)
theorem dX0_enemy_35 : decode cX0_enemy 35 = .ok (.iload_n 2, 1) := dk_28 (dk_at dksX0_enemy_1 11 rfl rfl)
theorem dX0_enemy_36 : decode cX0_enemy 36 = .ok (.ifCond .lt 24, 3) := dk_155 0 24 (dk_at dksX0_enemy_1 12 rfl rfl)
theorem dX0_enemy_39 : decode cX0_enemy 39 = .ok (.aload_n 0, 1) := dk_42 (dk_at dksX0_enemy_1 15 rfl rfl)
theorem dX0_enemy_40 : decode cX0_enemy 40 = .ok (.getfield 16, 3) := dk_180 0 16 (dk_at dksX0_enemy_1 16 rfl rfl)
theorem dX0_enemy_43 : decode cX0_enemy 43 = .ok (.iload_n 1, 1) := dk_27 (dk_at dksX0_enemy_1 19 rfl rfl)
theorem dX0_enemy_44 : decode cX0_enemy 44 = .ok (.iload_n 3, 1) := dk_29 (dk_at dksX0_enemy_1 20 rfl rfl)
theorem dX0_enemy_45 : decode cX0_enemy 45 = .ok (.invokevirtual 149, 3) := dk_182 0 149 (dk_at dksX0_enemy_1 21 rfl rfl)
theorem dX0_enemy_48 : decode cX0_enemy 48 = .ok (.aload_n 0, 1) := dk_42 (dk_at dksX0_enemy_2 0 rfl rfl)
theorem dX0_enemy_49 : decode cX0_enemy 49 = .ok (.getfield 16, 3) := dk_180 0 16 (dk_at dksX0_enemy_2 1 rfl rfl)
theorem dX0_enemy_52 : decode cX0_enemy 52 = .ok (.iload_n 1, 1) := dk_27 (dk_at dksX0_enemy_2 4 rfl rfl)
theorem dX0_enemy_53 : decode cX0_enemy 53 = .ok (.iload_n 2, 1) := dk_28 (dk_at dksX0_enemy_2 5 rfl rfl)
theorem dX0_enemy_54 : decode cX0_enemy 54 = .ok (.invokevirtual 149, 3) := dk_182 0 149 (dk_at dksX0_enemy_2 6 rfl rfl)
theorem dX0_enemy_57 : decode cX0_enemy 57 = .ok (.if_icmp .le 5, 3) := dk_164 0 5 (dk_at dksX0_enemy_2 9 rfl rfl)
theorem dX0_enemy_60 : decode cX0_enemy 60 = .ok (.iload_n 3, 1) := dk_29 (dk_at dksX0_enemy_2 12 rfl rfl)
theorem dX0_enemy_61 : decode cX0_enemy 61 = .ok (.istore_n 2, 1) := dk_61 (dk_at dksX0_enemy_2 13 rfl rfl)
theorem dX0_enemy_62 : decode cX0_enemy 62 = .ok (.iinc 3 1, 3) := dk_132 3 1 (dk_at dksX0_enemy_2 14 rfl rfl)
theorem dX0_enemy_65 : decode cX0_enemy 65 = .ok (.goto (-46), 3) := dk_167 255 210 (dk_at dksX0_enemy_2 17 rfl rfl)
theorem dX0_enemy_68 : decode cX0_enemy 68 = .ok (.iload_n 2, 1) := dk_28 (dk_at dksX0_enemy_2 20 rfl rfl)
theorem dX0_enemy_69 : decode cX0_enemy 69 = .ok (.ireturn, 1) := dk_172 (dk_at dksX0_enemy_2 21 rfl rfl)
abbrev cX0_peace : ByteArray := prog_1_method_69_code
def yX0_peace : MethodName := ⟨RX0, "peace", "()I"⟩
def dkwX0_peace_1 : List UInt8 := [184, 1, 62, 153, 0, 5, 27, 172, 42, 180, 0, 20, 182, 0, 196, 132, 1, 1, 167, 255, 228, 16, 247, 172]
abbrev dktX0_peace_1 : List UInt8 := dkwX0_peace_1 ++ []
def dkwX0_peace_0 : List UInt8 := [42, 180, 0, 20, 42, 180, 0, 16, 182, 0, 103, 3, 60, 27, 16, 99, 163, 0, 28, 42, 180, 0, 20]
abbrev dktX0_peace_0 : List UInt8 := dkwX0_peace_0 ++ dktX0_peace_1
theorem dksX0_peace_0 : cX0_peace.data.toList.drop 0 = dktX0_peace_0 := by decide +kernel
theorem dksX0_peace_1 : cX0_peace.data.toList.drop 23 = dktX0_peace_1 := dk_seg dksX0_peace_0 23 rfl rfl
theorem dX0_peace_0 : decode cX0_peace 0 = .ok (.aload_n 0, 1) := dk_42 (dk_at dksX0_peace_0 0 rfl rfl)
theorem dX0_peace_1 : decode cX0_peace 1 = .ok (.getfield 20, 3) := dk_180 0 20 (dk_at dksX0_peace_0 1 rfl rfl)
theorem dX0_peace_4 : decode cX0_peace 4 = .ok (.aload_n 0, 1) := dk_42 (dk_at dksX0_peace_0 4 rfl rfl)
theorem dX0_peace_5 : decode cX0_peace 5 = .ok (.getfield 16, 3) := dk_180 0 16 (dk_at dksX0_peace_0 5 rfl rfl)
theorem dX0_peace_8 : decode cX0_peace 8 = .ok (.invokevirtual 103, 3) := dk_182 0 103 (dk_at dksX0_peace_0 8 rfl rfl)
theorem dX0_peace_11 : decode cX0_peace 11 = .ok (.iconst 0, 1) := dk_3 (dk_at dksX0_peace_0 11 rfl rfl)
theorem dX0_peace_12 : decode cX0_peace 12 = .ok (.istore_n 1, 1) := dk_60 (dk_at dksX0_peace_0 12 rfl rfl)
theorem dX0_peace_13 : decode cX0_peace 13 = .ok (.iload_n 1, 1) := dk_27 (dk_at dksX0_peace_0 13 rfl rfl)
theorem dX0_peace_14 : decode cX0_peace 14 = .ok (.bipush 99, 2) := dk_16 99 (dk_at dksX0_peace_0 14 rfl rfl)
theorem dX0_peace_16 : decode cX0_peace 16 = .ok (.if_icmp .gt 28, 3) := dk_163 0 28 (dk_at dksX0_peace_0 16 rfl rfl)
theorem dX0_peace_19 : decode cX0_peace 19 = .ok (.aload_n 0, 1) := dk_42 (dk_at dksX0_peace_0 19 rfl rfl)
theorem dX0_peace_20 : decode cX0_peace 20 = .ok (.getfield 20, 3) := dk_180 0 20 (dk_at dksX0_peace_0 20 rfl rfl)
theorem dX0_peace_23 : decode cX0_peace 23 = .ok (.invokestatic 318, 3) := dk_184 1 62 (dk_at dksX0_peace_1 0 rfl rfl)
theorem dX0_peace_26 : decode cX0_peace 26 = .ok (.ifCond .eq 5, 3) := dk_153 0 5 (dk_at dksX0_peace_1 3 rfl rfl)
theorem dX0_peace_29 : decode cX0_peace 29 = .ok (.iload_n 1, 1) := dk_27 (dk_at dksX0_peace_1 6 rfl rfl)
theorem dX0_peace_30 : decode cX0_peace 30 = .ok (.ireturn, 1) := dk_172 (dk_at dksX0_peace_1 7 rfl rfl)
theorem dX0_peace_31 : decode cX0_peace 31 = .ok (.aload_n 0, 1) := dk_42 (dk_at dksX0_peace_1 8 rfl rfl)
theorem dX0_peace_32 : decode cX0_peace 32 = .ok (.getfield 20, 3) := dk_180 0 20 (dk_at dksX0_peace_1 9 rfl rfl)
theorem dX0_peace_35 : decode cX0_peace 35 = .ok (.invokevirtual 196, 3) := dk_182 0 196 (dk_at dksX0_peace_1 12 rfl rfl)
theorem dX0_peace_38 : decode cX0_peace 38 = .ok (.iinc 1 1, 3) := dk_132 1 1 (dk_at dksX0_peace_1 15 rfl rfl)
theorem dX0_peace_41 : decode cX0_peace 41 = .ok (.goto (-28), 3) := dk_167 255 228 (dk_at dksX0_peace_1 18 rfl rfl)
theorem dX0_peace_44 : decode cX0_peace 44 = .ok (.bipush (-9), 2) := dk_16 247 (dk_at dksX0_peace_1 21 rfl rfl)
theorem dX0_peace_46 : decode cX0_peace 46 = .ok (.ireturn, 1) := dk_172 (dk_at dksX0_peace_1 23 rfl rfl)
abbrev cX0_isPeaceful : ByteArray := prog_1_method_68_code
def yX0_isPeaceful : MethodName := ⟨RX0, "isPeaceful", "(LPrayerMatsFace$Quarter;)Z"⟩
def dkwX0_isPeaceful_1 : List UInt8 := [180, 0, 94, 27, 46, 182, 0, 149, 158, 0, 5, 3, 172, 132, 1, 1, 167, 255, 219, 4, 172]
abbrev dktX0_isPeaceful_1 : List UInt8 := dkwX0_isPeaceful_1 ++ []
def dkwX0_isPeaceful_0 : List UInt8 := [3, 60, 27, 42, 182, 0, 74, 162, 0, 35, 42, 180, 0, 94, 27, 46, 27, 164, 0, 19, 42, 27, 42]
abbrev dktX0_isPeaceful_0 : List UInt8 := dkwX0_isPeaceful_0 ++ dktX0_isPeaceful_1
theorem dksX0_isPeaceful_0 : cX0_isPeaceful.data.toList.drop 0 = dktX0_isPeaceful_0 := by decide +kernel
theorem dksX0_isPeaceful_1 : cX0_isPeaceful.data.toList.drop 23 = dktX0_isPeaceful_1 := dk_seg dksX0_isPeaceful_0 23 rfl rfl
theorem dX0_isPeaceful_0 : decode cX0_isPeaceful 0 = .ok (.iconst 0, 1) := dk_3 (dk_at dksX0_isPeaceful_0 0 rfl rfl)
theorem dX0_isPeaceful_1 : decode cX0_isPeaceful 1 = .ok (.istore_n 1, 1) := dk_60 (dk_at dksX0_isPeaceful_0 1 rfl rfl)
theorem dX0_isPeaceful_2 : decode cX0_isPeaceful 2 = .ok (.iload_n 1, 1) := dk_27 (dk_at dksX0_isPeaceful_0 2 rfl rfl)
theorem dX0_isPeaceful_3 : decode cX0_isPeaceful 3 = .ok (.aload_n 0, 1) := dk_42 (dk_at dksX0_isPeaceful_0 3 rfl rfl)
theorem dX0_isPeaceful_4 : decode cX0_isPeaceful 4 = .ok (.invokevirtual 74, 3) := dk_182 0 74 (dk_at dksX0_isPeaceful_0 4 rfl rfl)
theorem dX0_isPeaceful_7 : decode cX0_isPeaceful 7 = .ok (.if_icmp .ge 35, 3) := dk_162 0 35 (dk_at dksX0_isPeaceful_0 7 rfl rfl)
theorem dX0_isPeaceful_10 : decode cX0_isPeaceful 10 = .ok (.aload_n 0, 1) := dk_42 (dk_at dksX0_isPeaceful_0 10 rfl rfl)
theorem dX0_isPeaceful_11 : decode cX0_isPeaceful 11 = .ok (.getfield 94, 3) := dk_180 0 94 (dk_at dksX0_isPeaceful_0 11 rfl rfl)
theorem dX0_isPeaceful_14 : decode cX0_isPeaceful 14 = .ok (.iload_n 1, 1) := dk_27 (dk_at dksX0_isPeaceful_0 14 rfl rfl)
theorem dX0_isPeaceful_15 : decode cX0_isPeaceful 15 = .ok (.iaload, 1) := dk_46 (dk_at dksX0_isPeaceful_0 15 rfl rfl)
theorem dX0_isPeaceful_16 : decode cX0_isPeaceful 16 = .ok (.iload_n 1, 1) := dk_27 (dk_at dksX0_isPeaceful_0 16 rfl rfl)
theorem dX0_isPeaceful_17 : decode cX0_isPeaceful 17 = .ok (.if_icmp .le 19, 3) := dk_164 0 19 (dk_at dksX0_isPeaceful_0 17 rfl rfl)
theorem dX0_isPeaceful_20 : decode cX0_isPeaceful 20 = .ok (.aload_n 0, 1) := dk_42 (dk_at dksX0_isPeaceful_0 20 rfl rfl)
theorem dX0_isPeaceful_21 : decode cX0_isPeaceful 21 = .ok (.iload_n 1, 1) := dk_27 (dk_at dksX0_isPeaceful_0 21 rfl rfl)
theorem dX0_isPeaceful_22 : decode cX0_isPeaceful 22 = .ok (.aload_n 0, 1) := dk_42 (dk_at dksX0_isPeaceful_0 22 rfl rfl)
theorem dX0_isPeaceful_23 : decode cX0_isPeaceful 23 = .ok (.getfield 94, 3) := dk_180 0 94 (dk_at dksX0_isPeaceful_1 0 rfl rfl)
theorem dX0_isPeaceful_26 : decode cX0_isPeaceful 26 = .ok (.iload_n 1, 1) := dk_27 (dk_at dksX0_isPeaceful_1 3 rfl rfl)
theorem dX0_isPeaceful_27 : decode cX0_isPeaceful 27 = .ok (.iaload, 1) := dk_46 (dk_at dksX0_isPeaceful_1 4 rfl rfl)
theorem dX0_isPeaceful_28 : decode cX0_isPeaceful 28 = .ok (.invokevirtual 149, 3) := dk_182 0 149 (dk_at dksX0_isPeaceful_1 5 rfl rfl)
theorem dX0_isPeaceful_31 : decode cX0_isPeaceful 31 = .ok (.ifCond .le 5, 3) := dk_158 0 5 (dk_at dksX0_isPeaceful_1 8 rfl rfl)
theorem dX0_isPeaceful_34 : decode cX0_isPeaceful 34 = .ok (.iconst 0, 1) := dk_3 (dk_at dksX0_isPeaceful_1 11 rfl rfl)
theorem dX0_isPeaceful_35 : decode cX0_isPeaceful 35 = .ok (.ireturn, 1) := dk_172 (dk_at dksX0_isPeaceful_1 12 rfl rfl)
theorem dX0_isPeaceful_36 : decode cX0_isPeaceful 36 = .ok (.iinc 1 1, 3) := dk_132 1 1 (dk_at dksX0_isPeaceful_1 13 rfl rfl)
theorem dX0_isPeaceful_39 : decode cX0_isPeaceful 39 = .ok (.goto (-37), 3) := dk_167 255 219 (dk_at dksX0_isPeaceful_1 16 rfl rfl)
theorem dX0_isPeaceful_42 : decode cX0_isPeaceful 42 = .ok (.iconst 1, 1) := dk_4 (dk_at dksX0_isPeaceful_1 19 rfl rfl)
theorem dX0_isPeaceful_43 : decode cX0_isPeaceful 43 = .ok (.ireturn, 1) := dk_172 (dk_at dksX0_isPeaceful_1 20 rfl rfl)
abbrev cX0_helps : ByteArray := prog_1_method_70_code
def yX0_helps : MethodName := ⟨RX0, "helps", "(III)I"⟩
def dkwX0_helps_5 : List UInt8 := [100, 172]
abbrev dktX0_helps_5 : List UInt8 := dkwX0_helps_5 ++ []
def dkwX0_helps_4 : List UInt8 := [28, 120, 128, 79, 42, 180, 0, 20, 29, 182, 0, 181, 21, 6, 42, 180, 0, 20, 27, 21, 5, 182, 0, 149]
abbrev dktX0_helps_4 : List UInt8 := dkwX0_helps_4 ++ dktX0_helps_5
def dkwX0_helps_3 : List UInt8 := [54, 6, 42, 180, 0, 20, 42, 180, 0, 16, 182, 0, 103, 42, 180, 0, 20, 180, 0, 134, 27, 92, 46, 4]
abbrev dktX0_helps_3 : List UInt8 := dkwX0_helps_3 ++ dktX0_helps_4
def dkwX0_helps_2 : List UInt8 := [54, 5, 21, 5, 156, 0, 5, 3, 172, 42, 29, 182, 0, 188, 42, 180, 0, 20, 27, 21, 5, 182, 0, 149]
abbrev dktX0_helps_2 : List UInt8 := dkwX0_helps_2 ++ dktX0_helps_3
def dkwX0_helps_1 : List UInt8 := [54, 4, 21, 4, 153, 0, 10, 42, 21, 4, 182, 0, 205, 172, 42, 180, 0, 16, 180, 0, 94, 27, 46]
abbrev dktX0_helps_1 : List UInt8 := dkwX0_helps_1 ++ dktX0_helps_2
def dkwX0_helps_0 : List UInt8 := [42, 27, 182, 0, 82, 153, 0, 18, 28, 8, 184, 0, 78, 153, 0, 10, 29, 184, 0, 185, 167, 0, 4, 2]
abbrev dktX0_helps_0 : List UInt8 := dkwX0_helps_0 ++ dktX0_helps_1
theorem dksX0_helps_0 : cX0_helps.data.toList.drop 0 = dktX0_helps_0 := by decide +kernel
theorem dksX0_helps_1 : cX0_helps.data.toList.drop 24 = dktX0_helps_1 := dk_seg dksX0_helps_0 24 rfl rfl
theorem dksX0_helps_2 : cX0_helps.data.toList.drop 47 = dktX0_helps_2 := dk_seg dksX0_helps_1 23 rfl rfl
theorem dksX0_helps_3 : cX0_helps.data.toList.drop 71 = dktX0_helps_3 := dk_seg dksX0_helps_2 24 rfl rfl
theorem dksX0_helps_4 : cX0_helps.data.toList.drop 95 = dktX0_helps_4 := dk_seg dksX0_helps_3 24 rfl rfl
theorem dksX0_helps_5 : cX0_helps.data.toList.drop 119 = dktX0_helps_5 := dk_seg dksX0_helps_4 24 rfl rfl
theorem dX0_helps_0 : decode cX0_helps 0 = .ok (.aload_n 0, 1) := dk_42 (dk_at dksX0_helps_0 0 rfl rfl)
theorem dX0_helps_1 : decode cX0_helps 1 = .ok (.iload_n 1, 1) := dk_27 (dk_at dksX0_helps_0 1 rfl rfl)
theorem dX0_helps_2 : decode cX0_helps 2 = .ok (.invokevirtual 82, 3) := dk_182 0 82 (dk_at dksX0_helps_0 2 rfl rfl)
theorem dX0_helps_5 : decode cX0_helps 5 = .ok (.ifCond .eq 18, 3) := dk_153 0 18 (dk_at dksX0_helps_0 5 rfl rfl)
theorem dX0_helps_8 : decode cX0_helps 8 = .ok (.iload_n 2, 1) := dk_28 (dk_at dksX0_helps_0 8 rfl rfl)
theorem dX0_helps_9 : decode cX0_helps 9 = .ok (.iconst 5, 1) := dk_8 (dk_at dksX0_helps_0 9 rfl rfl)
theorem dX0_helps_10 : decode cX0_helps 10 = .ok (.invokestatic 78, 3) := dk_184 0 78 (dk_at dksX0_helps_0 10 rfl rfl)
theorem dX0_helps_13 : decode cX0_helps 13 = .ok (.ifCond .eq 10, 3) := dk_153 0 10 (dk_at dksX0_helps_0 13 rfl rfl)
theorem dX0_helps_16 : decode cX0_helps 16 = .ok (.iload_n 3, 1) := dk_29 (dk_at dksX0_helps_0 16 rfl rfl)
theorem dX0_helps_17 : decode cX0_helps 17 = .ok (.invokestatic 185, 3) := dk_184 0 185 (dk_at dksX0_helps_0 17 rfl rfl)
theorem dX0_helps_20 : decode cX0_helps 20 = .ok (.goto 4, 3) := dk_167 0 4 (dk_at dksX0_helps_0 20 rfl rfl)
theorem dX0_helps_23 : decode cX0_helps 23 = .ok (.iconst (-1), 1) := dk_2 (dk_at dksX0_helps_0 23 rfl rfl)
theorem dX0_helps_24 : decode cX0_helps 24 = .ok (.istore 4, 2) := dk_54 4 (dk_at dksX0_helps_1 0 rfl rfl)
theorem dX0_helps_26 : decode cX0_helps 26 = .ok (.iload 4, 2) := dk_21 4 (dk_at dksX0_helps_1 2 rfl rfl)
theorem dX0_helps_28 : decode cX0_helps 28 = .ok (.ifCond .eq 10, 3) := dk_153 0 10 (dk_at dksX0_helps_1 4 rfl rfl)
theorem dX0_helps_31 : decode cX0_helps 31 = .ok (.aload_n 0, 1) := dk_42 (dk_at dksX0_helps_1 7 rfl rfl)
theorem dX0_helps_32 : decode cX0_helps 32 = .ok (.iload 4, 2) := dk_21 4 (dk_at dksX0_helps_1 8 rfl rfl)
theorem dX0_helps_34 : decode cX0_helps 34 = .ok (.invokevirtual 205, 3) := dk_182 0 205 (dk_at dksX0_helps_1 10 rfl rfl)
theorem dX0_helps_37 : decode cX0_helps 37 = .ok (.ireturn, 1) := dk_172 (dk_at dksX0_helps_1 13 rfl rfl)
theorem dX0_helps_38 : decode cX0_helps 38 = .ok (.aload_n 0, 1) := dk_42 (dk_at dksX0_helps_1 14 rfl rfl)
theorem dX0_helps_39 : decode cX0_helps 39 = .ok (.getfield 16, 3) := dk_180 0 16 (dk_at dksX0_helps_1 15 rfl rfl)
theorem dX0_helps_42 : decode cX0_helps 42 = .ok (.getfield 94, 3) := dk_180 0 94 (dk_at dksX0_helps_1 18 rfl rfl)
theorem dX0_helps_45 : decode cX0_helps 45 = .ok (.iload_n 1, 1) := dk_27 (dk_at dksX0_helps_1 21 rfl rfl)
theorem dX0_helps_46 : decode cX0_helps 46 = .ok (.iaload, 1) := dk_46 (dk_at dksX0_helps_1 22 rfl rfl)
theorem dX0_helps_47 : decode cX0_helps 47 = .ok (.istore 5, 2) := dk_54 5 (dk_at dksX0_helps_2 0 rfl rfl)
theorem dX0_helps_49 : decode cX0_helps 49 = .ok (.iload 5, 2) := dk_21 5 (dk_at dksX0_helps_2 2 rfl rfl)
theorem dX0_helps_51 : decode cX0_helps 51 = .ok (.ifCond .ge 5, 3) := dk_156 0 5 (dk_at dksX0_helps_2 4 rfl rfl)
theorem dX0_helps_54 : decode cX0_helps 54 = .ok (.iconst 0, 1) := dk_3 (dk_at dksX0_helps_2 7 rfl rfl)
theorem dX0_helps_55 : decode cX0_helps 55 = .ok (.ireturn, 1) := dk_172 (dk_at dksX0_helps_2 8 rfl rfl)
theorem dX0_helps_56 : decode cX0_helps 56 = .ok (.aload_n 0, 1) := dk_42 (dk_at dksX0_helps_2 9 rfl rfl)
theorem dX0_helps_57 : decode cX0_helps 57 = .ok (.iload_n 3, 1) := dk_29 (dk_at dksX0_helps_2 10 rfl rfl)
theorem dX0_helps_58 : decode cX0_helps 58 = .ok (.invokevirtual 188, 3) := dk_182 0 188 (dk_at dksX0_helps_2 11 rfl rfl)
theorem dX0_helps_61 : decode cX0_helps 61 = .ok (.aload_n 0, 1) := dk_42 (dk_at dksX0_helps_2 14 rfl rfl)
theorem dX0_helps_62 : decode cX0_helps 62 = .ok (.getfield 20, 3) := dk_180 0 20 (dk_at dksX0_helps_2 15 rfl rfl)
theorem dX0_helps_65 : decode cX0_helps 65 = .ok (.iload_n 1, 1) := dk_27 (dk_at dksX0_helps_2 18 rfl rfl)
theorem dX0_helps_66 : decode cX0_helps 66 = .ok (.iload 5, 2) := dk_21 5 (dk_at dksX0_helps_2 19 rfl rfl)
theorem dX0_helps_68 : decode cX0_helps 68 = .ok (.invokevirtual 149, 3) := dk_182 0 149 (dk_at dksX0_helps_2 21 rfl rfl)
theorem dX0_helps_71 : decode cX0_helps 71 = .ok (.istore 6, 2) := dk_54 6 (dk_at dksX0_helps_3 0 rfl rfl)
theorem dX0_helps_73 : decode cX0_helps 73 = .ok (.aload_n 0, 1) := dk_42 (dk_at dksX0_helps_3 2 rfl rfl)
theorem dX0_helps_74 : decode cX0_helps 74 = .ok (.getfield 20, 3) := dk_180 0 20 (dk_at dksX0_helps_3 3 rfl rfl)
theorem dX0_helps_77 : decode cX0_helps 77 = .ok (.aload_n 0, 1) := dk_42 (dk_at dksX0_helps_3 6 rfl rfl)
theorem dX0_helps_78 : decode cX0_helps 78 = .ok (.getfield 16, 3) := dk_180 0 16 (dk_at dksX0_helps_3 7 rfl rfl)
theorem dX0_helps_81 : decode cX0_helps 81 = .ok (.invokevirtual 103, 3) := dk_182 0 103 (dk_at dksX0_helps_3 10 rfl rfl)
theorem dX0_helps_84 : decode cX0_helps 84 = .ok (.aload_n 0, 1) := dk_42 (dk_at dksX0_helps_3 13 rfl rfl)
theorem dX0_helps_85 : decode cX0_helps 85 = .ok (.getfield 20, 3) := dk_180 0 20 (dk_at dksX0_helps_3 14 rfl rfl)
theorem dX0_helps_88 : decode cX0_helps 88 = .ok (.getfield 134, 3) := dk_180 0 134 (dk_at dksX0_helps_3 17 rfl rfl)
theorem dX0_helps_91 : decode cX0_helps 91 = .ok (.iload_n 1, 1) := dk_27 (dk_at dksX0_helps_3 20 rfl rfl)
theorem dX0_helps_92 : decode cX0_helps 92 = .ok (.dup2, 1) := dk_92 (dk_at dksX0_helps_3 21 rfl rfl)
theorem dX0_helps_93 : decode cX0_helps 93 = .ok (.iaload, 1) := dk_46 (dk_at dksX0_helps_3 22 rfl rfl)
theorem dX0_helps_94 : decode cX0_helps 94 = .ok (.iconst 1, 1) := dk_4 (dk_at dksX0_helps_3 23 rfl rfl)
theorem dX0_helps_95 : decode cX0_helps 95 = .ok (.iload_n 2, 1) := dk_28 (dk_at dksX0_helps_4 0 rfl rfl)
theorem dX0_helps_96 : decode cX0_helps 96 = .ok (.ishl, 1) := dk_120 (dk_at dksX0_helps_4 1 rfl rfl)
theorem dX0_helps_97 : decode cX0_helps 97 = .ok (.ior, 1) := dk_128 (dk_at dksX0_helps_4 2 rfl rfl)
theorem dX0_helps_98 : decode cX0_helps 98 = .ok (.iastore, 1) := dk_79 (dk_at dksX0_helps_4 3 rfl rfl)
theorem dX0_helps_99 : decode cX0_helps 99 = .ok (.aload_n 0, 1) := dk_42 (dk_at dksX0_helps_4 4 rfl rfl)
theorem dX0_helps_100 : decode cX0_helps 100 = .ok (.getfield 20, 3) := dk_180 0 20 (dk_at dksX0_helps_4 5 rfl rfl)
theorem dX0_helps_103 : decode cX0_helps 103 = .ok (.iload_n 3, 1) := dk_29 (dk_at dksX0_helps_4 8 rfl rfl)
theorem dX0_helps_104 : decode cX0_helps 104 = .ok (.invokevirtual 181, 3) := dk_182 0 181 (dk_at dksX0_helps_4 9 rfl rfl)
theorem dX0_helps_107 : decode cX0_helps 107 = .ok (.iload 6, 2) := dk_21 6 (dk_at dksX0_helps_4 12 rfl rfl)
theorem dX0_helps_109 : decode cX0_helps 109 = .ok (.aload_n 0, 1) := dk_42 (dk_at dksX0_helps_4 14 rfl rfl)
theorem dX0_helps_110 : decode cX0_helps 110 = .ok (.getfield 20, 3) := dk_180 0 20 (dk_at dksX0_helps_4 15 rfl rfl)
theorem dX0_helps_113 : decode cX0_helps 113 = .ok (.iload_n 1, 1) := dk_27 (dk_at dksX0_helps_4 18 rfl rfl)
theorem dX0_helps_114 : decode cX0_helps 114 = .ok (.iload 5, 2) := dk_21 5 (dk_at dksX0_helps_4 19 rfl rfl)
theorem dX0_helps_116 : decode cX0_helps 116 = .ok (.invokevirtual 149, 3) := dk_182 0 149 (dk_at dksX0_helps_4 21 rfl rfl)
theorem dX0_helps_119 : decode cX0_helps 119 = .ok (.isub, 1) := dk_100 (dk_at dksX0_helps_5 0 rfl rfl)
theorem dX0_helps_120 : decode cX0_helps 120 = .ok (.ireturn, 1) := dk_172 (dk_at dksX0_helps_5 1 rfl rfl)
abbrev cX0_doubled : ByteArray := prog_1_method_72_code
def yX0_doubled : MethodName := ⟨RX0, "doubled", "()I"⟩
def dkwX0_doubled_1 : List UInt8 := [132, 2, 1, 167, 255, 233, 27, 172]
abbrev dktX0_doubled_1 : List UInt8 := dkwX0_doubled_1 ++ []
def dkwX0_doubled_0 : List UInt8 := [3, 60, 4, 61, 28, 8, 162, 0, 24, 42, 28, 182, 1, 69, 42, 27, 182, 1, 69, 162, 0, 5, 28, 60]
abbrev dktX0_doubled_0 : List UInt8 := dkwX0_doubled_0 ++ dktX0_doubled_1
theorem dksX0_doubled_0 : cX0_doubled.data.toList.drop 0 = dktX0_doubled_0 := by decide +kernel
theorem dksX0_doubled_1 : cX0_doubled.data.toList.drop 24 = dktX0_doubled_1 := dk_seg dksX0_doubled_0 24 rfl rfl
theorem dX0_doubled_0 : decode cX0_doubled 0 = .ok (.iconst 0, 1) := dk_3 (dk_at dksX0_doubled_0 0 rfl rfl)
theorem dX0_doubled_1 : decode cX0_doubled 1 = .ok (.istore_n 1, 1) := dk_60 (dk_at dksX0_doubled_0 1 rfl rfl)
theorem dX0_doubled_2 : decode cX0_doubled 2 = .ok (.iconst 1, 1) := dk_4 (dk_at dksX0_doubled_0 2 rfl rfl)
theorem dX0_doubled_3 : decode cX0_doubled 3 = .ok (.istore_n 2, 1) := dk_61 (dk_at dksX0_doubled_0 3 rfl rfl)
theorem dX0_doubled_4 : decode cX0_doubled 4 = .ok (.iload_n 2, 1) := dk_28 (dk_at dksX0_doubled_0 4 rfl rfl)
theorem dX0_doubled_5 : decode cX0_doubled 5 = .ok (.iconst 5, 1) := dk_8 (dk_at dksX0_doubled_0 5 rfl rfl)
theorem dX0_doubled_6 : decode cX0_doubled 6 = .ok (.if_icmp .ge 24, 3) := dk_162 0 24 (dk_at dksX0_doubled_0 6 rfl rfl)
theorem dX0_doubled_9 : decode cX0_doubled 9 = .ok (.aload_n 0, 1) := dk_42 (dk_at dksX0_doubled_0 9 rfl rfl)
theorem dX0_doubled_10 : decode cX0_doubled 10 = .ok (.iload_n 2, 1) := dk_28 (dk_at dksX0_doubled_0 10 rfl rfl)
theorem dX0_doubled_11 : decode cX0_doubled 11 = .ok (.invokevirtual 325, 3) := dk_182 1 69 (dk_at dksX0_doubled_0 11 rfl rfl)
theorem dX0_doubled_14 : decode cX0_doubled 14 = .ok (.aload_n 0, 1) := dk_42 (dk_at dksX0_doubled_0 14 rfl rfl)
theorem dX0_doubled_15 : decode cX0_doubled 15 = .ok (.iload_n 1, 1) := dk_27 (dk_at dksX0_doubled_0 15 rfl rfl)
theorem dX0_doubled_16 : decode cX0_doubled 16 = .ok (.invokevirtual 325, 3) := dk_182 1 69 (dk_at dksX0_doubled_0 16 rfl rfl)
theorem dX0_doubled_19 : decode cX0_doubled 19 = .ok (.if_icmp .ge 5, 3) := dk_162 0 5 (dk_at dksX0_doubled_0 19 rfl rfl)
theorem dX0_doubled_22 : decode cX0_doubled 22 = .ok (.iload_n 2, 1) := dk_28 (dk_at dksX0_doubled_0 22 rfl rfl)
theorem dX0_doubled_23 : decode cX0_doubled 23 = .ok (.istore_n 1, 1) := dk_60 (dk_at dksX0_doubled_0 23 rfl rfl)
theorem dX0_doubled_24 : decode cX0_doubled 24 = .ok (.iinc 2 1, 3) := dk_132 2 1 (dk_at dksX0_doubled_1 0 rfl rfl)
theorem dX0_doubled_27 : decode cX0_doubled 27 = .ok (.goto (-23), 3) := dk_167 255 233 (dk_at dksX0_doubled_1 3 rfl rfl)
theorem dX0_doubled_30 : decode cX0_doubled 30 = .ok (.iload_n 1, 1) := dk_27 (dk_at dksX0_doubled_1 6 rfl rfl)
theorem dX0_doubled_31 : decode cX0_doubled 31 = .ok (.ireturn, 1) := dk_172 (dk_at dksX0_doubled_1 7 rfl rfl)
abbrev cX0_allDoubled : ByteArray := prog_1_method_71_code
def yX0_allDoubled : MethodName := ⟨RX0, "allDoubled", "(I)I"⟩
def dkwX0_allDoubled_2 : List UInt8 := [172]
abbrev dktX0_allDoubled_2 : List UInt8 := dkwX0_allDoubled_2 ++ []
def dkwX0_allDoubled_1 : List UInt8 := [182, 0, 196, 42, 180, 0, 20, 27, 182, 1, 66, 132, 2, 1, 167, 255, 232, 42, 180, 0, 20, 182, 0, 184]
abbrev dktX0_allDoubled_1 : List UInt8 := dkwX0_allDoubled_1 ++ dktX0_allDoubled_2
def dkwX0_allDoubled_0 : List UInt8 := [42, 180, 0, 20, 42, 180, 0, 16, 182, 0, 103, 3, 61, 28, 16, 9, 162, 0, 24, 42, 180, 0, 20]
abbrev dktX0_allDoubled_0 : List UInt8 := dkwX0_allDoubled_0 ++ dktX0_allDoubled_1
theorem dksX0_allDoubled_0 : cX0_allDoubled.data.toList.drop 0 = dktX0_allDoubled_0 := by decide +kernel
theorem dksX0_allDoubled_1 : cX0_allDoubled.data.toList.drop 23 = dktX0_allDoubled_1 := dk_seg dksX0_allDoubled_0 23 rfl rfl
theorem dksX0_allDoubled_2 : cX0_allDoubled.data.toList.drop 47 = dktX0_allDoubled_2 := dk_seg dksX0_allDoubled_1 24 rfl rfl
theorem dX0_allDoubled_0 : decode cX0_allDoubled 0 = .ok (.aload_n 0, 1) := dk_42 (dk_at dksX0_allDoubled_0 0 rfl rfl)
theorem dX0_allDoubled_1 : decode cX0_allDoubled 1 = .ok (.getfield 20, 3) := dk_180 0 20 (dk_at dksX0_allDoubled_0 1 rfl rfl)
theorem dX0_allDoubled_4 : decode cX0_allDoubled 4 = .ok (.aload_n 0, 1) := dk_42 (dk_at dksX0_allDoubled_0 4 rfl rfl)
theorem dX0_allDoubled_5 : decode cX0_allDoubled 5 = .ok (.getfield 16, 3) := dk_180 0 16 (dk_at dksX0_allDoubled_0 5 rfl rfl)
theorem dX0_allDoubled_8 : decode cX0_allDoubled 8 = .ok (.invokevirtual 103, 3) := dk_182 0 103 (dk_at dksX0_allDoubled_0 8 rfl rfl)
theorem dX0_allDoubled_11 : decode cX0_allDoubled 11 = .ok (.iconst 0, 1) := dk_3 (dk_at dksX0_allDoubled_0 11 rfl rfl)
theorem dX0_allDoubled_12 : decode cX0_allDoubled 12 = .ok (.istore_n 2, 1) := dk_61 (dk_at dksX0_allDoubled_0 12 rfl rfl)
theorem dX0_allDoubled_13 : decode cX0_allDoubled 13 = .ok (.iload_n 2, 1) := dk_28 (dk_at dksX0_allDoubled_0 13 rfl rfl)
theorem dX0_allDoubled_14 : decode cX0_allDoubled 14 = .ok (.bipush 9, 2) := dk_16 9 (dk_at dksX0_allDoubled_0 14 rfl rfl)
theorem dX0_allDoubled_16 : decode cX0_allDoubled 16 = .ok (.if_icmp .ge 24, 3) := dk_162 0 24 (dk_at dksX0_allDoubled_0 16 rfl rfl)
theorem dX0_allDoubled_19 : decode cX0_allDoubled 19 = .ok (.aload_n 0, 1) := dk_42 (dk_at dksX0_allDoubled_0 19 rfl rfl)
theorem dX0_allDoubled_20 : decode cX0_allDoubled 20 = .ok (.getfield 20, 3) := dk_180 0 20 (dk_at dksX0_allDoubled_0 20 rfl rfl)
theorem dX0_allDoubled_23 : decode cX0_allDoubled 23 = .ok (.invokevirtual 196, 3) := dk_182 0 196 (dk_at dksX0_allDoubled_1 0 rfl rfl)
theorem dX0_allDoubled_26 : decode cX0_allDoubled 26 = .ok (.aload_n 0, 1) := dk_42 (dk_at dksX0_allDoubled_1 3 rfl rfl)
theorem dX0_allDoubled_27 : decode cX0_allDoubled 27 = .ok (.getfield 20, 3) := dk_180 0 20 (dk_at dksX0_allDoubled_1 4 rfl rfl)
theorem dX0_allDoubled_30 : decode cX0_allDoubled 30 = .ok (.iload_n 1, 1) := dk_27 (dk_at dksX0_allDoubled_1 7 rfl rfl)
theorem dX0_allDoubled_31 : decode cX0_allDoubled 31 = .ok (.invokevirtual 322, 3) := dk_182 1 66 (dk_at dksX0_allDoubled_1 8 rfl rfl)
theorem dX0_allDoubled_34 : decode cX0_allDoubled 34 = .ok (.iinc 2 1, 3) := dk_132 2 1 (dk_at dksX0_allDoubled_1 11 rfl rfl)
theorem dX0_allDoubled_37 : decode cX0_allDoubled 37 = .ok (.goto (-24), 3) := dk_167 255 232 (dk_at dksX0_allDoubled_1 14 rfl rfl)
theorem dX0_allDoubled_40 : decode cX0_allDoubled 40 = .ok (.aload_n 0, 1) := dk_42 (dk_at dksX0_allDoubled_1 17 rfl rfl)
theorem dX0_allDoubled_41 : decode cX0_allDoubled 41 = .ok (.getfield 20, 3) := dk_180 0 20 (dk_at dksX0_allDoubled_1 18 rfl rfl)
theorem dX0_allDoubled_44 : decode cX0_allDoubled 44 = .ok (.invokevirtual 184, 3) := dk_182 0 184 (dk_at dksX0_allDoubled_1 21 rfl rfl)
theorem dX0_allDoubled_47 : decode cX0_allDoubled 47 = .ok (.ireturn, 1) := dk_172 (dk_at dksX0_allDoubled_2 0 rfl rfl)
abbrev cX0_row : ByteArray := prog_1_method_73_code
def yX0_row : MethodName := ⟨RX0, "row", "(I)I"⟩
def dkwX0_row_2 : List UInt8 := [180, 1, 6, 4, 96, 181, 1, 6, 42, 180, 1, 6, 172]
abbrev dktX0_row_2 : List UInt8 := dkwX0_row_2 ++ []
def dkwX0_row_1 : List UInt8 := [28, 153, 0, 9, 42, 28, 182, 0, 48, 172, 42, 180, 0, 39, 42, 180, 1, 6, 27, 79, 42, 89]
abbrev dktX0_row_1 : List UInt8 := dkwX0_row_1 ++ dktX0_row_2
def dkwX0_row_0 : List UInt8 := [27, 3, 16, 99, 184, 0, 86, 61, 28, 154, 0, 15, 42, 180, 1, 6, 16, 12, 160, 0, 6, 16, 250, 61]
abbrev dktX0_row_0 : List UInt8 := dkwX0_row_0 ++ dktX0_row_1
theorem dksX0_row_0 : cX0_row.data.toList.drop 0 = dktX0_row_0 := by decide +kernel
theorem dksX0_row_1 : cX0_row.data.toList.drop 24 = dktX0_row_1 := dk_seg dksX0_row_0 24 rfl rfl
theorem dksX0_row_2 : cX0_row.data.toList.drop 46 = dktX0_row_2 := dk_seg dksX0_row_1 22 rfl rfl
theorem dX0_row_0 : decode cX0_row 0 = .ok (.iload_n 1, 1) := dk_27 (dk_at dksX0_row_0 0 rfl rfl)
theorem dX0_row_1 : decode cX0_row 1 = .ok (.iconst 0, 1) := dk_3 (dk_at dksX0_row_0 1 rfl rfl)
theorem dX0_row_2 : decode cX0_row 2 = .ok (.bipush 99, 2) := dk_16 99 (dk_at dksX0_row_0 2 rfl rfl)
theorem dX0_row_4 : decode cX0_row 4 = .ok (.invokestatic 86, 3) := dk_184 0 86 (dk_at dksX0_row_0 4 rfl rfl)
theorem dX0_row_7 : decode cX0_row 7 = .ok (.istore_n 2, 1) := dk_61 (dk_at dksX0_row_0 7 rfl rfl)
theorem dX0_row_8 : decode cX0_row 8 = .ok (.iload_n 2, 1) := dk_28 (dk_at dksX0_row_0 8 rfl rfl)
theorem dX0_row_9 : decode cX0_row 9 = .ok (.ifCond .ne 15, 3) := dk_154 0 15 (dk_at dksX0_row_0 9 rfl rfl)
theorem dX0_row_12 : decode cX0_row 12 = .ok (.aload_n 0, 1) := dk_42 (dk_at dksX0_row_0 12 rfl rfl)
theorem dX0_row_13 : decode cX0_row 13 = .ok (.getfield 262, 3) := dk_180 1 6 (dk_at dksX0_row_0 13 rfl rfl)
theorem dX0_row_16 : decode cX0_row 16 = .ok (.bipush 12, 2) := dk_16 12 (dk_at dksX0_row_0 16 rfl rfl)
theorem dX0_row_18 : decode cX0_row 18 = .ok (.if_icmp .ne 6, 3) := dk_160 0 6 (dk_at dksX0_row_0 18 rfl rfl)
theorem dX0_row_21 : decode cX0_row 21 = .ok (.bipush (-6), 2) := dk_16 250 (dk_at dksX0_row_0 21 rfl rfl)
theorem dX0_row_23 : decode cX0_row 23 = .ok (.istore_n 2, 1) := dk_61 (dk_at dksX0_row_0 23 rfl rfl)
theorem dX0_row_24 : decode cX0_row 24 = .ok (.iload_n 2, 1) := dk_28 (dk_at dksX0_row_1 0 rfl rfl)
theorem dX0_row_25 : decode cX0_row 25 = .ok (.ifCond .eq 9, 3) := dk_153 0 9 (dk_at dksX0_row_1 1 rfl rfl)
theorem dX0_row_28 : decode cX0_row 28 = .ok (.aload_n 0, 1) := dk_42 (dk_at dksX0_row_1 4 rfl rfl)
theorem dX0_row_29 : decode cX0_row 29 = .ok (.iload_n 2, 1) := dk_28 (dk_at dksX0_row_1 5 rfl rfl)
theorem dX0_row_30 : decode cX0_row 30 = .ok (.invokevirtual 48, 3) := dk_182 0 48 (dk_at dksX0_row_1 6 rfl rfl)
theorem dX0_row_33 : decode cX0_row 33 = .ok (.ireturn, 1) := dk_172 (dk_at dksX0_row_1 9 rfl rfl)
theorem dX0_row_34 : decode cX0_row 34 = .ok (.aload_n 0, 1) := dk_42 (dk_at dksX0_row_1 10 rfl rfl)
theorem dX0_row_35 : decode cX0_row 35 = .ok (.getfield 39, 3) := dk_180 0 39 (dk_at dksX0_row_1 11 rfl rfl)
theorem dX0_row_38 : decode cX0_row 38 = .ok (.aload_n 0, 1) := dk_42 (dk_at dksX0_row_1 14 rfl rfl)
theorem dX0_row_39 : decode cX0_row 39 = .ok (.getfield 262, 3) := dk_180 1 6 (dk_at dksX0_row_1 15 rfl rfl)
theorem dX0_row_42 : decode cX0_row 42 = .ok (.iload_n 1, 1) := dk_27 (dk_at dksX0_row_1 18 rfl rfl)
theorem dX0_row_43 : decode cX0_row 43 = .ok (.iastore, 1) := dk_79 (dk_at dksX0_row_1 19 rfl rfl)
theorem dX0_row_44 : decode cX0_row 44 = .ok (.aload_n 0, 1) := dk_42 (dk_at dksX0_row_1 20 rfl rfl)
theorem dX0_row_45 : decode cX0_row 45 = .ok (.dup, 1) := dk_89 (dk_at dksX0_row_1 21 rfl rfl)
theorem dX0_row_46 : decode cX0_row 46 = .ok (.getfield 262, 3) := dk_180 1 6 (dk_at dksX0_row_2 0 rfl rfl)
theorem dX0_row_49 : decode cX0_row 49 = .ok (.iconst 1, 1) := dk_4 (dk_at dksX0_row_2 3 rfl rfl)
theorem dX0_row_50 : decode cX0_row 50 = .ok (.iadd, 1) := dk_96 (dk_at dksX0_row_2 4 rfl rfl)
theorem dX0_row_51 : decode cX0_row 51 = .ok (.putfield 262, 3) := dk_181 1 6 (dk_at dksX0_row_2 5 rfl rfl)
theorem dX0_row_54 : decode cX0_row 54 = .ok (.aload_n 0, 1) := dk_42 (dk_at dksX0_row_2 8 rfl rfl)
theorem dX0_row_55 : decode cX0_row 55 = .ok (.getfield 262, 3) := dk_180 1 6 (dk_at dksX0_row_2 9 rfl rfl)
theorem dX0_row_58 : decode cX0_row 58 = .ok (.ireturn, 1) := dk_172 (dk_at dksX0_row_2 12 rfl rfl)
abbrev cX0_clear : ByteArray := prog_1_method_74_code
def yX0_clear : MethodName := ⟨RX0, "clear", "()I"⟩
def dkwX0_clear_0 : List UInt8 := [42, 180, 1, 6, 60, 42, 3, 181, 1, 6, 27, 172]
abbrev dktX0_clear_0 : List UInt8 := dkwX0_clear_0 ++ []
theorem dksX0_clear_0 : cX0_clear.data.toList.drop 0 = dktX0_clear_0 := by decide +kernel
theorem dX0_clear_0 : decode cX0_clear 0 = .ok (.aload_n 0, 1) := dk_42 (dk_at dksX0_clear_0 0 rfl rfl)
theorem dX0_clear_1 : decode cX0_clear 1 = .ok (.getfield 262, 3) := dk_180 1 6 (dk_at dksX0_clear_0 1 rfl rfl)
theorem dX0_clear_4 : decode cX0_clear 4 = .ok (.istore_n 1, 1) := dk_60 (dk_at dksX0_clear_0 4 rfl rfl)
theorem dX0_clear_5 : decode cX0_clear 5 = .ok (.aload_n 0, 1) := dk_42 (dk_at dksX0_clear_0 5 rfl rfl)
theorem dX0_clear_6 : decode cX0_clear 6 = .ok (.iconst 0, 1) := dk_3 (dk_at dksX0_clear_0 6 rfl rfl)
theorem dX0_clear_7 : decode cX0_clear 7 = .ok (.putfield 262, 3) := dk_181 1 6 (dk_at dksX0_clear_0 7 rfl rfl)
theorem dX0_clear_10 : decode cX0_clear 10 = .ok (.iload_n 1, 1) := dk_27 (dk_at dksX0_clear_0 10 rfl rfl)
theorem dX0_clear_11 : decode cX0_clear 11 = .ok (.ireturn, 1) := dk_172 (dk_at dksX0_clear_0 11 rfl rfl)
abbrev cX0_judge : ByteArray := prog_1_method_75_code
def yX0_judge : MethodName := ⟨RX0, "judge", "(I)I"⟩
def dkwX0_judge_2 : List UInt8 := [29, 46, 159, 0, 5, 29, 172, 132, 3, 1, 167, 255, 220, 16, 247, 172]
abbrev dktX0_judge_2 : List UInt8 := dkwX0_judge_2 ++ []
def dkwX0_judge_1 : List UInt8 := [162, 0, 37, 42, 29, 182, 0, 82, 153, 0, 21, 42, 180, 0, 16, 27, 29, 182, 0, 149, 42, 180, 0, 39]
abbrev dktX0_judge_1 : List UInt8 := dkwX0_judge_1 ++ dktX0_judge_2
def dkwX0_judge_0 : List UInt8 := [42, 27, 182, 0, 82, 154, 0, 9, 42, 2, 182, 0, 48, 172, 42, 182, 1, 72, 61, 3, 62, 29, 28]
abbrev dktX0_judge_0 : List UInt8 := dkwX0_judge_0 ++ dktX0_judge_1
theorem dksX0_judge_0 : cX0_judge.data.toList.drop 0 = dktX0_judge_0 := by decide +kernel
theorem dksX0_judge_1 : cX0_judge.data.toList.drop 23 = dktX0_judge_1 := dk_seg dksX0_judge_0 23 rfl rfl
theorem dksX0_judge_2 : cX0_judge.data.toList.drop 47 = dktX0_judge_2 := dk_seg dksX0_judge_1 24 rfl rfl
theorem dX0_judge_0 : decode cX0_judge 0 = .ok (.aload_n 0, 1) := dk_42 (dk_at dksX0_judge_0 0 rfl rfl)
theorem dX0_judge_1 : decode cX0_judge 1 = .ok (.iload_n 1, 1) := dk_27 (dk_at dksX0_judge_0 1 rfl rfl)
theorem dX0_judge_2 : decode cX0_judge 2 = .ok (.invokevirtual 82, 3) := dk_182 0 82 (dk_at dksX0_judge_0 2 rfl rfl)
theorem dX0_judge_5 : decode cX0_judge 5 = .ok (.ifCond .ne 9, 3) := dk_154 0 9 (dk_at dksX0_judge_0 5 rfl rfl)
theorem dX0_judge_8 : decode cX0_judge 8 = .ok (.aload_n 0, 1) := dk_42 (dk_at dksX0_judge_0 8 rfl rfl)
theorem dX0_judge_9 : decode cX0_judge 9 = .ok (.iconst (-1), 1) := dk_2 (dk_at dksX0_judge_0 9 rfl rfl)
theorem dX0_judge_10 : decode cX0_judge 10 = .ok (.invokevirtual 48, 3) := dk_182 0 48 (dk_at dksX0_judge_0 10 rfl rfl)
theorem dX0_judge_13 : decode cX0_judge 13 = .ok (.ireturn, 1) := dk_172 (dk_at dksX0_judge_0 13 rfl rfl)
theorem dX0_judge_14 : decode cX0_judge 14 = .ok (.aload_n 0, 1) := dk_42 (dk_at dksX0_judge_0 14 rfl rfl)
theorem dX0_judge_15 : decode cX0_judge 15 = .ok (.invokevirtual 328, 3) := dk_182 1 72 (dk_at dksX0_judge_0 15 rfl rfl)
theorem dX0_judge_18 : decode cX0_judge 18 = .ok (.istore_n 2, 1) := dk_61 (dk_at dksX0_judge_0 18 rfl rfl)
theorem dX0_judge_19 : decode cX0_judge 19 = .ok (.iconst 0, 1) := dk_3 (dk_at dksX0_judge_0 19 rfl rfl)
theorem dX0_judge_20 : decode cX0_judge 20 = .ok (.istore_n 3, 1) := dk_62 (dk_at dksX0_judge_0 20 rfl rfl)
theorem dX0_judge_21 : decode cX0_judge 21 = .ok (.iload_n 3, 1) := dk_29 (dk_at dksX0_judge_0 21 rfl rfl)
theorem dX0_judge_22 : decode cX0_judge 22 = .ok (.iload_n 2, 1) := dk_28 (dk_at dksX0_judge_0 22 rfl rfl)
theorem dX0_judge_23 : decode cX0_judge 23 = .ok (.if_icmp .ge 37, 3) := dk_162 0 37 (dk_at dksX0_judge_1 0 rfl rfl)
theorem dX0_judge_26 : decode cX0_judge 26 = .ok (.aload_n 0, 1) := dk_42 (dk_at dksX0_judge_1 3 rfl rfl)
theorem dX0_judge_27 : decode cX0_judge 27 = .ok (.iload_n 3, 1) := dk_29 (dk_at dksX0_judge_1 4 rfl rfl)
theorem dX0_judge_28 : decode cX0_judge 28 = .ok (.invokevirtual 82, 3) := dk_182 0 82 (dk_at dksX0_judge_1 5 rfl rfl)
theorem dX0_judge_31 : decode cX0_judge 31 = .ok (.ifCond .eq 21, 3) := dk_153 0 21 (dk_at dksX0_judge_1 8 rfl rfl)
theorem dX0_judge_34 : decode cX0_judge 34 = .ok (.aload_n 0, 1) := dk_42 (dk_at dksX0_judge_1 11 rfl rfl)
theorem dX0_judge_35 : decode cX0_judge 35 = .ok (.getfield 16, 3) := dk_180 0 16 (dk_at dksX0_judge_1 12 rfl rfl)
theorem dX0_judge_38 : decode cX0_judge 38 = .ok (.iload_n 1, 1) := dk_27 (dk_at dksX0_judge_1 15 rfl rfl)
theorem dX0_judge_39 : decode cX0_judge 39 = .ok (.iload_n 3, 1) := dk_29 (dk_at dksX0_judge_1 16 rfl rfl)
theorem dX0_judge_40 : decode cX0_judge 40 = .ok (.invokevirtual 149, 3) := dk_182 0 149 (dk_at dksX0_judge_1 17 rfl rfl)
theorem dX0_judge_43 : decode cX0_judge 43 = .ok (.aload_n 0, 1) := dk_42 (dk_at dksX0_judge_1 20 rfl rfl)
theorem dX0_judge_44 : decode cX0_judge 44 = .ok (.getfield 39, 3) := dk_180 0 39 (dk_at dksX0_judge_1 21 rfl rfl)
theorem dX0_judge_47 : decode cX0_judge 47 = .ok (.iload_n 3, 1) := dk_29 (dk_at dksX0_judge_2 0 rfl rfl)
theorem dX0_judge_48 : decode cX0_judge 48 = .ok (.iaload, 1) := dk_46 (dk_at dksX0_judge_2 1 rfl rfl)
theorem dX0_judge_49 : decode cX0_judge 49 = .ok (.if_icmp .eq 5, 3) := dk_159 0 5 (dk_at dksX0_judge_2 2 rfl rfl)
theorem dX0_judge_52 : decode cX0_judge 52 = .ok (.iload_n 3, 1) := dk_29 (dk_at dksX0_judge_2 5 rfl rfl)
theorem dX0_judge_53 : decode cX0_judge 53 = .ok (.ireturn, 1) := dk_172 (dk_at dksX0_judge_2 6 rfl rfl)
theorem dX0_judge_54 : decode cX0_judge 54 = .ok (.iinc 3 1, 3) := dk_132 3 1 (dk_at dksX0_judge_2 7 rfl rfl)
theorem dX0_judge_57 : decode cX0_judge 57 = .ok (.goto (-36), 3) := dk_167 255 220 (dk_at dksX0_judge_2 10 rfl rfl)
theorem dX0_judge_60 : decode cX0_judge 60 = .ok (.bipush (-9), 2) := dk_16 247 (dk_at dksX0_judge_2 13 rfl rfl)
theorem dX0_judge_62 : decode cX0_judge 62 = .ok (.ireturn, 1) := dk_172 (dk_at dksX0_judge_2 15 rfl rfl)
abbrev cX0_lots : ByteArray := prog_1_method_77_code
def yX0_lots : MethodName := ⟨RX0, "lots", "(III)I"⟩
def dkwX0_lots_8 : List UInt8 := [21, 6, 172]
abbrev dktX0_lots_8 : List UInt8 := dkwX0_lots_8 ++ []
def dkwX0_lots_7 : List UInt8 := [180, 0, 20, 182, 0, 189, 96, 54, 6, 132, 7, 1, 167, 255, 135, 29, 154, 0, 8, 21, 5, 167, 0, 5]
abbrev dktX0_lots_7 : List UInt8 := dkwX0_lots_7 ++ dktX0_lots_8
def dkwX0_lots_6 : List UInt8 := [182, 0, 196, 132, 8, 1, 167, 255, 195, 21, 5, 42, 180, 0, 20, 182, 0, 184, 96, 54, 5, 21, 6, 42]
abbrev dktX0_lots_6 : List UInt8 := dkwX0_lots_6 ++ dktX0_lots_7
def dkwX0_lots_5 : List UInt8 := [21, 9, 21, 10, 159, 0, 14, 42, 180, 0, 20, 21, 9, 21, 10, 182, 0, 100, 42, 180, 0, 20]
abbrev dktX0_lots_5 : List UInt8 := dkwX0_lots_5 ++ dktX0_lots_6
def dkwX0_lots_4 : List UInt8 := [180, 0, 20, 182, 0, 74, 182, 1, 81, 54, 9, 42, 42, 180, 0, 20, 182, 0, 74, 182, 1, 81, 54, 10]
abbrev dktX0_lots_4 : List UInt8 := dkwX0_lots_4 ++ dktX0_lots_5
def dkwX0_lots_3 : List UInt8 := [180, 0, 20, 42, 180, 0, 16, 182, 0, 103, 3, 54, 8, 21, 8, 16, 30, 162, 0, 60, 42, 42]
abbrev dktX0_lots_3 : List UInt8 := dkwX0_lots_3 ++ dktX0_lots_4
def dkwX0_lots_2 : List UInt8 := [54, 6, 3, 54, 7, 21, 7, 27, 162, 0, 121, 42, 180, 0, 16, 182, 0, 74, 158, 0, 111, 42]
abbrev dktX0_lots_2 : List UInt8 := dkwX0_lots_2 ++ dktX0_lots_3
def dkwX0_lots_1 : List UInt8 := [54, 4, 21, 4, 153, 0, 10, 42, 21, 4, 182, 0, 48, 172, 42, 28, 181, 1, 75, 3, 54, 5, 3]
abbrev dktX0_lots_1 : List UInt8 := dkwX0_lots_1 ++ dktX0_lots_2
def dkwX0_lots_0 : List UInt8 := [27, 4, 16, 20, 184, 0, 86, 54, 4, 21, 4, 154, 0, 15, 29, 5, 184, 0, 78, 154, 0, 7, 16, 254]
abbrev dktX0_lots_0 : List UInt8 := dkwX0_lots_0 ++ dktX0_lots_1
theorem dksX0_lots_0 : cX0_lots.data.toList.drop 0 = dktX0_lots_0 := by decide +kernel
theorem dksX0_lots_1 : cX0_lots.data.toList.drop 24 = dktX0_lots_1 := dk_seg dksX0_lots_0 24 rfl rfl
theorem dksX0_lots_2 : cX0_lots.data.toList.drop 47 = dktX0_lots_2 := dk_seg dksX0_lots_1 23 rfl rfl
theorem dksX0_lots_3 : cX0_lots.data.toList.drop 69 = dktX0_lots_3 := dk_seg dksX0_lots_2 22 rfl rfl
theorem dksX0_lots_4 : cX0_lots.data.toList.drop 91 = dktX0_lots_4 := dk_seg dksX0_lots_3 22 rfl rfl
theorem dksX0_lots_5 : cX0_lots.data.toList.drop 115 = dktX0_lots_5 := dk_seg dksX0_lots_4 24 rfl rfl
theorem dksX0_lots_6 : cX0_lots.data.toList.drop 137 = dktX0_lots_6 := dk_seg dksX0_lots_5 22 rfl rfl
theorem dksX0_lots_7 : cX0_lots.data.toList.drop 161 = dktX0_lots_7 := dk_seg dksX0_lots_6 24 rfl rfl
theorem dksX0_lots_8 : cX0_lots.data.toList.drop 185 = dktX0_lots_8 := dk_seg dksX0_lots_7 24 rfl rfl
theorem dX0_lots_0 : decode cX0_lots 0 = .ok (.iload_n 1, 1) := dk_27 (dk_at dksX0_lots_0 0 rfl rfl)
theorem dX0_lots_1 : decode cX0_lots 1 = .ok (.iconst 1, 1) := dk_4 (dk_at dksX0_lots_0 1 rfl rfl)
theorem dX0_lots_2 : decode cX0_lots 2 = .ok (.bipush 20, 2) := dk_16 20 (dk_at dksX0_lots_0 2 rfl rfl)
theorem dX0_lots_4 : decode cX0_lots 4 = .ok (.invokestatic 86, 3) := dk_184 0 86 (dk_at dksX0_lots_0 4 rfl rfl)
theorem dX0_lots_7 : decode cX0_lots 7 = .ok (.istore 4, 2) := dk_54 4 (dk_at dksX0_lots_0 7 rfl rfl)
theorem dX0_lots_9 : decode cX0_lots 9 = .ok (.iload 4, 2) := dk_21 4 (dk_at dksX0_lots_0 9 rfl rfl)
theorem dX0_lots_11 : decode cX0_lots 11 = .ok (.ifCond .ne 15, 3) := dk_154 0 15 (dk_at dksX0_lots_0 11 rfl rfl)
theorem dX0_lots_14 : decode cX0_lots 14 = .ok (.iload_n 3, 1) := dk_29 (dk_at dksX0_lots_0 14 rfl rfl)
theorem dX0_lots_15 : decode cX0_lots 15 = .ok (.iconst 2, 1) := dk_5 (dk_at dksX0_lots_0 15 rfl rfl)
theorem dX0_lots_16 : decode cX0_lots 16 = .ok (.invokestatic 78, 3) := dk_184 0 78 (dk_at dksX0_lots_0 16 rfl rfl)
theorem dX0_lots_19 : decode cX0_lots 19 = .ok (.ifCond .ne 7, 3) := dk_154 0 7 (dk_at dksX0_lots_0 19 rfl rfl)
theorem dX0_lots_22 : decode cX0_lots 22 = .ok (.bipush (-2), 2) := dk_16 254 (dk_at dksX0_lots_0 22 rfl rfl)
theorem dX0_lots_24 : decode cX0_lots 24 = .ok (.istore 4, 2) := dk_54 4 (dk_at dksX0_lots_1 0 rfl rfl)
theorem dX0_lots_26 : decode cX0_lots 26 = .ok (.iload 4, 2) := dk_21 4 (dk_at dksX0_lots_1 2 rfl rfl)
theorem dX0_lots_28 : decode cX0_lots 28 = .ok (.ifCond .eq 10, 3) := dk_153 0 10 (dk_at dksX0_lots_1 4 rfl rfl)
theorem dX0_lots_31 : decode cX0_lots 31 = .ok (.aload_n 0, 1) := dk_42 (dk_at dksX0_lots_1 7 rfl rfl)
theorem dX0_lots_32 : decode cX0_lots 32 = .ok (.iload 4, 2) := dk_21 4 (dk_at dksX0_lots_1 8 rfl rfl)
theorem dX0_lots_34 : decode cX0_lots 34 = .ok (.invokevirtual 48, 3) := dk_182 0 48 (dk_at dksX0_lots_1 10 rfl rfl)
theorem dX0_lots_37 : decode cX0_lots 37 = .ok (.ireturn, 1) := dk_172 (dk_at dksX0_lots_1 13 rfl rfl)
theorem dX0_lots_38 : decode cX0_lots 38 = .ok (.aload_n 0, 1) := dk_42 (dk_at dksX0_lots_1 14 rfl rfl)
theorem dX0_lots_39 : decode cX0_lots 39 = .ok (.iload_n 2, 1) := dk_28 (dk_at dksX0_lots_1 15 rfl rfl)
theorem dX0_lots_40 : decode cX0_lots 40 = .ok (.putfield 331, 3) := dk_181 1 75 (dk_at dksX0_lots_1 16 rfl rfl)
theorem dX0_lots_43 : decode cX0_lots 43 = .ok (.iconst 0, 1) := dk_3 (dk_at dksX0_lots_1 19 rfl rfl)
theorem dX0_lots_44 : decode cX0_lots 44 = .ok (.istore 5, 2) := dk_54 5 (dk_at dksX0_lots_1 20 rfl rfl)
theorem dX0_lots_46 : decode cX0_lots 46 = .ok (.iconst 0, 1) := dk_3 (dk_at dksX0_lots_1 22 rfl rfl)
theorem dX0_lots_47 : decode cX0_lots 47 = .ok (.istore 6, 2) := dk_54 6 (dk_at dksX0_lots_2 0 rfl rfl)
theorem dX0_lots_49 : decode cX0_lots 49 = .ok (.iconst 0, 1) := dk_3 (dk_at dksX0_lots_2 2 rfl rfl)
theorem dX0_lots_50 : decode cX0_lots 50 = .ok (.istore 7, 2) := dk_54 7 (dk_at dksX0_lots_2 3 rfl rfl)
theorem dX0_lots_52 : decode cX0_lots 52 = .ok (.iload 7, 2) := dk_21 7 (dk_at dksX0_lots_2 5 rfl rfl)
theorem dX0_lots_54 : decode cX0_lots 54 = .ok (.iload_n 1, 1) := dk_27 (dk_at dksX0_lots_2 7 rfl rfl)
theorem dX0_lots_55 : decode cX0_lots 55 = .ok (.if_icmp .ge 121, 3) := dk_162 0 121 (dk_at dksX0_lots_2 8 rfl rfl)
theorem dX0_lots_58 : decode cX0_lots 58 = .ok (.aload_n 0, 1) := dk_42 (dk_at dksX0_lots_2 11 rfl rfl)
theorem dX0_lots_59 : decode cX0_lots 59 = .ok (.getfield 16, 3) := dk_180 0 16 (dk_at dksX0_lots_2 12 rfl rfl)
theorem dX0_lots_62 : decode cX0_lots 62 = .ok (.invokevirtual 74, 3) := dk_182 0 74 (dk_at dksX0_lots_2 15 rfl rfl)
theorem dX0_lots_65 : decode cX0_lots 65 = .ok (.ifCond .le 111, 3) := dk_158 0 111 (dk_at dksX0_lots_2 18 rfl rfl)
theorem dX0_lots_68 : decode cX0_lots 68 = .ok (.aload_n 0, 1) := dk_42 (dk_at dksX0_lots_2 21 rfl rfl)
theorem dX0_lots_69 : decode cX0_lots 69 = .ok (.getfield 20, 3) := dk_180 0 20 (dk_at dksX0_lots_3 0 rfl rfl)
theorem dX0_lots_72 : decode cX0_lots 72 = .ok (.aload_n 0, 1) := dk_42 (dk_at dksX0_lots_3 3 rfl rfl)
theorem dX0_lots_73 : decode cX0_lots 73 = .ok (.getfield 16, 3) := dk_180 0 16 (dk_at dksX0_lots_3 4 rfl rfl)
theorem dX0_lots_76 : decode cX0_lots 76 = .ok (.invokevirtual 103, 3) := dk_182 0 103 (dk_at dksX0_lots_3 7 rfl rfl)
theorem dX0_lots_79 : decode cX0_lots 79 = .ok (.iconst 0, 1) := dk_3 (dk_at dksX0_lots_3 10 rfl rfl)
theorem dX0_lots_80 : decode cX0_lots 80 = .ok (.istore 8, 2) := dk_54 8 (dk_at dksX0_lots_3 11 rfl rfl)
theorem dX0_lots_82 : decode cX0_lots 82 = .ok (.iload 8, 2) := dk_21 8 (dk_at dksX0_lots_3 13 rfl rfl)
theorem dX0_lots_84 : decode cX0_lots 84 = .ok (.bipush 30, 2) := dk_16 30 (dk_at dksX0_lots_3 15 rfl rfl)
theorem dX0_lots_86 : decode cX0_lots 86 = .ok (.if_icmp .ge 60, 3) := dk_162 0 60 (dk_at dksX0_lots_3 17 rfl rfl)
theorem dX0_lots_89 : decode cX0_lots 89 = .ok (.aload_n 0, 1) := dk_42 (dk_at dksX0_lots_3 20 rfl rfl)
theorem dX0_lots_90 : decode cX0_lots 90 = .ok (.aload_n 0, 1) := dk_42 (dk_at dksX0_lots_3 21 rfl rfl)
theorem dX0_lots_91 : decode cX0_lots 91 = .ok (.getfield 20, 3) := dk_180 0 20 (dk_at dksX0_lots_4 0 rfl rfl)
theorem dX0_lots_94 : decode cX0_lots 94 = .ok (.invokevirtual 74, 3) := dk_182 0 74 (dk_at dksX0_lots_4 3 rfl rfl)
theorem dX0_lots_97 : decode cX0_lots 97 = .ok (.invokevirtual 337, 3) := dk_182 1 81 (dk_at dksX0_lots_4 6 rfl rfl)
theorem dX0_lots_100 : decode cX0_lots 100 = .ok (.istore 9, 2) := dk_54 9 (dk_at dksX0_lots_4 9 rfl rfl)
theorem dX0_lots_102 : decode cX0_lots 102 = .ok (.aload_n 0, 1) := dk_42 (dk_at dksX0_lots_4 11 rfl rfl)
theorem dX0_lots_103 : decode cX0_lots 103 = .ok (.aload_n 0, 1) := dk_42 (dk_at dksX0_lots_4 12 rfl rfl)
theorem dX0_lots_104 : decode cX0_lots 104 = .ok (.getfield 20, 3) := dk_180 0 20 (dk_at dksX0_lots_4 13 rfl rfl)
theorem dX0_lots_107 : decode cX0_lots 107 = .ok (.invokevirtual 74, 3) := dk_182 0 74 (dk_at dksX0_lots_4 16 rfl rfl)
theorem dX0_lots_110 : decode cX0_lots 110 = .ok (.invokevirtual 337, 3) := dk_182 1 81 (dk_at dksX0_lots_4 19 rfl rfl)
theorem dX0_lots_113 : decode cX0_lots 113 = .ok (.istore 10, 2) := dk_54 10 (dk_at dksX0_lots_4 22 rfl rfl)
theorem dX0_lots_115 : decode cX0_lots 115 = .ok (.iload 9, 2) := dk_21 9 (dk_at dksX0_lots_5 0 rfl rfl)
theorem dX0_lots_117 : decode cX0_lots 117 = .ok (.iload 10, 2) := dk_21 10 (dk_at dksX0_lots_5 2 rfl rfl)
theorem dX0_lots_119 : decode cX0_lots 119 = .ok (.if_icmp .eq 14, 3) := dk_159 0 14 (dk_at dksX0_lots_5 4 rfl rfl)
theorem dX0_lots_122 : decode cX0_lots 122 = .ok (.aload_n 0, 1) := dk_42 (dk_at dksX0_lots_5 7 rfl rfl)
theorem dX0_lots_123 : decode cX0_lots 123 = .ok (.getfield 20, 3) := dk_180 0 20 (dk_at dksX0_lots_5 8 rfl rfl)
theorem dX0_lots_126 : decode cX0_lots 126 = .ok (.iload 9, 2) := dk_21 9 (dk_at dksX0_lots_5 11 rfl rfl)
theorem dX0_lots_128 : decode cX0_lots 128 = .ok (.iload 10, 2) := dk_21 10 (dk_at dksX0_lots_5 13 rfl rfl)
theorem dX0_lots_130 : decode cX0_lots 130 = .ok (.invokevirtual 100, 3) := dk_182 0 100 (dk_at dksX0_lots_5 15 rfl rfl)
theorem dX0_lots_133 : decode cX0_lots 133 = .ok (.aload_n 0, 1) := dk_42 (dk_at dksX0_lots_5 18 rfl rfl)
theorem dX0_lots_134 : decode cX0_lots 134 = .ok (.getfield 20, 3) := dk_180 0 20 (dk_at dksX0_lots_5 19 rfl rfl)
theorem dX0_lots_137 : decode cX0_lots 137 = .ok (.invokevirtual 196, 3) := dk_182 0 196 (dk_at dksX0_lots_6 0 rfl rfl)
theorem dX0_lots_140 : decode cX0_lots 140 = .ok (.iinc 8 1, 3) := dk_132 8 1 (dk_at dksX0_lots_6 3 rfl rfl)
theorem dX0_lots_143 : decode cX0_lots 143 = .ok (.goto (-61), 3) := dk_167 255 195 (dk_at dksX0_lots_6 6 rfl rfl)
theorem dX0_lots_146 : decode cX0_lots 146 = .ok (.iload 5, 2) := dk_21 5 (dk_at dksX0_lots_6 9 rfl rfl)
theorem dX0_lots_148 : decode cX0_lots 148 = .ok (.aload_n 0, 1) := dk_42 (dk_at dksX0_lots_6 11 rfl rfl)
theorem dX0_lots_149 : decode cX0_lots 149 = .ok (.getfield 20, 3) := dk_180 0 20 (dk_at dksX0_lots_6 12 rfl rfl)
theorem dX0_lots_152 : decode cX0_lots 152 = .ok (.invokevirtual 184, 3) := dk_182 0 184 (dk_at dksX0_lots_6 15 rfl rfl)
theorem dX0_lots_155 : decode cX0_lots 155 = .ok (.iadd, 1) := dk_96 (dk_at dksX0_lots_6 18 rfl rfl)
theorem dX0_lots_156 : decode cX0_lots 156 = .ok (.istore 5, 2) := dk_54 5 (dk_at dksX0_lots_6 19 rfl rfl)
theorem dX0_lots_158 : decode cX0_lots 158 = .ok (.iload 6, 2) := dk_21 6 (dk_at dksX0_lots_6 21 rfl rfl)
theorem dX0_lots_160 : decode cX0_lots 160 = .ok (.aload_n 0, 1) := dk_42 (dk_at dksX0_lots_6 23 rfl rfl)
theorem dX0_lots_161 : decode cX0_lots 161 = .ok (.getfield 20, 3) := dk_180 0 20 (dk_at dksX0_lots_7 0 rfl rfl)
theorem dX0_lots_164 : decode cX0_lots 164 = .ok (.invokevirtual 189, 3) := dk_182 0 189 (dk_at dksX0_lots_7 3 rfl rfl)
theorem dX0_lots_167 : decode cX0_lots 167 = .ok (.iadd, 1) := dk_96 (dk_at dksX0_lots_7 6 rfl rfl)
theorem dX0_lots_168 : decode cX0_lots 168 = .ok (.istore 6, 2) := dk_54 6 (dk_at dksX0_lots_7 7 rfl rfl)
theorem dX0_lots_170 : decode cX0_lots 170 = .ok (.iinc 7 1, 3) := dk_132 7 1 (dk_at dksX0_lots_7 9 rfl rfl)
theorem dX0_lots_173 : decode cX0_lots 173 = .ok (.goto (-121), 3) := dk_167 255 135 (dk_at dksX0_lots_7 12 rfl rfl)
theorem dX0_lots_176 : decode cX0_lots 176 = .ok (.iload_n 3, 1) := dk_29 (dk_at dksX0_lots_7 15 rfl rfl)
theorem dX0_lots_177 : decode cX0_lots 177 = .ok (.ifCond .ne 8, 3) := dk_154 0 8 (dk_at dksX0_lots_7 16 rfl rfl)
theorem dX0_lots_180 : decode cX0_lots 180 = .ok (.iload 5, 2) := dk_21 5 (dk_at dksX0_lots_7 19 rfl rfl)
theorem dX0_lots_182 : decode cX0_lots 182 = .ok (.goto 5, 3) := dk_167 0 5 (dk_at dksX0_lots_7 21 rfl rfl)
theorem dX0_lots_185 : decode cX0_lots 185 = .ok (.iload 6, 2) := dk_21 6 (dk_at dksX0_lots_8 0 rfl rfl)
theorem dX0_lots_187 : decode cX0_lots 187 = .ok (.ireturn, 1) := dk_172 (dk_at dksX0_lots_8 2 rfl rfl)
abbrev cX0_drawn : ByteArray := prog_1_method_76_code
def yX0_drawn : MethodName := ⟨RX0, "drawn", "(I)I"⟩
def dkwX0_drawn_1 : List UInt8 := [19, 1, 80, 108, 27, 112, 172]
abbrev dktX0_drawn_1 : List UInt8 := dkwX0_drawn_1 ++ []
def dkwX0_drawn_0 : List UInt8 := [42, 42, 180, 1, 75, 19, 1, 78, 104, 17, 48, 57, 96, 181, 1, 75, 42, 180, 1, 75, 19, 1, 79, 126]
abbrev dktX0_drawn_0 : List UInt8 := dkwX0_drawn_0 ++ dktX0_drawn_1
theorem dksX0_drawn_0 : cX0_drawn.data.toList.drop 0 = dktX0_drawn_0 := by decide +kernel
theorem dksX0_drawn_1 : cX0_drawn.data.toList.drop 24 = dktX0_drawn_1 := dk_seg dksX0_drawn_0 24 rfl rfl
theorem dX0_drawn_0 : decode cX0_drawn 0 = .ok (.aload_n 0, 1) := dk_42 (dk_at dksX0_drawn_0 0 rfl rfl)
theorem dX0_drawn_1 : decode cX0_drawn 1 = .ok (.aload_n 0, 1) := dk_42 (dk_at dksX0_drawn_0 1 rfl rfl)
theorem dX0_drawn_2 : decode cX0_drawn 2 = .ok (.getfield 331, 3) := dk_180 1 75 (dk_at dksX0_drawn_0 2 rfl rfl)
theorem dX0_drawn_5 : decode cX0_drawn 5 = .ok (.ldc_w 334, 3) := dk_19 1 78 (dk_at dksX0_drawn_0 5 rfl rfl)
theorem dX0_drawn_8 : decode cX0_drawn 8 = .ok (.imul, 1) := dk_104 (dk_at dksX0_drawn_0 8 rfl rfl)
theorem dX0_drawn_9 : decode cX0_drawn 9 = .ok (.sipush 12345, 3) := dk_17 48 57 (dk_at dksX0_drawn_0 9 rfl rfl)
theorem dX0_drawn_12 : decode cX0_drawn 12 = .ok (.iadd, 1) := dk_96 (dk_at dksX0_drawn_0 12 rfl rfl)
theorem dX0_drawn_13 : decode cX0_drawn 13 = .ok (.putfield 331, 3) := dk_181 1 75 (dk_at dksX0_drawn_0 13 rfl rfl)
theorem dX0_drawn_16 : decode cX0_drawn 16 = .ok (.aload_n 0, 1) := dk_42 (dk_at dksX0_drawn_0 16 rfl rfl)
theorem dX0_drawn_17 : decode cX0_drawn 17 = .ok (.getfield 331, 3) := dk_180 1 75 (dk_at dksX0_drawn_0 17 rfl rfl)
theorem dX0_drawn_20 : decode cX0_drawn 20 = .ok (.ldc_w 335, 3) := dk_19 1 79 (dk_at dksX0_drawn_0 20 rfl rfl)
theorem dX0_drawn_23 : decode cX0_drawn 23 = .ok (.iand, 1) := dk_126 (dk_at dksX0_drawn_0 23 rfl rfl)
theorem dX0_drawn_24 : decode cX0_drawn 24 = .ok (.ldc_w 336, 3) := dk_19 1 80 (dk_at dksX0_drawn_1 0 rfl rfl)
theorem dX0_drawn_27 : decode cX0_drawn 27 = .ok (.idiv, 1) := dk_108 (dk_at dksX0_drawn_1 3 rfl rfl)
theorem dX0_drawn_28 : decode cX0_drawn 28 = .ok (.iload_n 1, 1) := dk_27 (dk_at dksX0_drawn_1 4 rfl rfl)
theorem dX0_drawn_29 : decode cX0_drawn 29 = .ok (.irem, 1) := dk_112 (dk_at dksX0_drawn_1 5 rfl rfl)
theorem dX0_drawn_30 : decode cX0_drawn 30 = .ok (.ireturn, 1) := dk_172 (dk_at dksX0_drawn_1 6 rfl rfl)
abbrev cX0_image : ByteArray := prog_1_method_78_code
def yX0_image : MethodName := ⟨RX0, "image", "()I"⟩
def dkwX0_image_0 : List UInt8 := [42, 180, 0, 26, 42, 180, 0, 16, 182, 0, 103, 42, 4, 181, 1, 84, 42, 180, 0, 16, 180, 0, 178, 172]
abbrev dktX0_image_0 : List UInt8 := dkwX0_image_0 ++ []
theorem dksX0_image_0 : cX0_image.data.toList.drop 0 = dktX0_image_0 := by decide +kernel
theorem dX0_image_0 : decode cX0_image 0 = .ok (.aload_n 0, 1) := dk_42 (dk_at dksX0_image_0 0 rfl rfl)
theorem dX0_image_1 : decode cX0_image 1 = .ok (.getfield 26, 3) := dk_180 0 26 (dk_at dksX0_image_0 1 rfl rfl)
theorem dX0_image_4 : decode cX0_image 4 = .ok (.aload_n 0, 1) := dk_42 (dk_at dksX0_image_0 4 rfl rfl)
theorem dX0_image_5 : decode cX0_image 5 = .ok (.getfield 16, 3) := dk_180 0 16 (dk_at dksX0_image_0 5 rfl rfl)
theorem dX0_image_8 : decode cX0_image 8 = .ok (.invokevirtual 103, 3) := dk_182 0 103 (dk_at dksX0_image_0 8 rfl rfl)
theorem dX0_image_11 : decode cX0_image 11 = .ok (.aload_n 0, 1) := dk_42 (dk_at dksX0_image_0 11 rfl rfl)
theorem dX0_image_12 : decode cX0_image 12 = .ok (.iconst 1, 1) := dk_4 (dk_at dksX0_image_0 12 rfl rfl)
theorem dX0_image_13 : decode cX0_image 13 = .ok (.putfield 340, 3) := dk_181 1 84 (dk_at dksX0_image_0 13 rfl rfl)
theorem dX0_image_16 : decode cX0_image 16 = .ok (.aload_n 0, 1) := dk_42 (dk_at dksX0_image_0 16 rfl rfl)
theorem dX0_image_17 : decode cX0_image 17 = .ok (.getfield 16, 3) := dk_180 0 16 (dk_at dksX0_image_0 17 rfl rfl)
theorem dX0_image_20 : decode cX0_image 20 = .ok (.getfield 178, 3) := dk_180 0 178 (dk_at dksX0_image_0 20 rfl rfl)
theorem dX0_image_23 : decode cX0_image 23 = .ok (.ireturn, 1) := dk_172 (dk_at dksX0_image_0 23 rfl rfl)
abbrev cX0_restore : ByteArray := prog_1_method_79_code
def yX0_restore : MethodName := ⟨RX0, "restore", "()I"⟩
def dkwX0_restore_1 : List UInt8 := [182, 0, 103, 42, 3, 181, 0, 118, 42, 180, 0, 16, 180, 0, 178, 172]
abbrev dktX0_restore_1 : List UInt8 := dkwX0_restore_1 ++ []
def dkwX0_restore_0 : List UInt8 := [42, 180, 1, 84, 154, 0, 10, 42, 16, 253, 182, 0, 48, 172, 42, 180, 0, 16, 42, 180, 0, 26]
abbrev dktX0_restore_0 : List UInt8 := dkwX0_restore_0 ++ dktX0_restore_1
theorem dksX0_restore_0 : cX0_restore.data.toList.drop 0 = dktX0_restore_0 := by decide +kernel
theorem dksX0_restore_1 : cX0_restore.data.toList.drop 22 = dktX0_restore_1 := dk_seg dksX0_restore_0 22 rfl rfl
theorem dX0_restore_0 : decode cX0_restore 0 = .ok (.aload_n 0, 1) := dk_42 (dk_at dksX0_restore_0 0 rfl rfl)
theorem dX0_restore_1 : decode cX0_restore 1 = .ok (.getfield 340, 3) := dk_180 1 84 (dk_at dksX0_restore_0 1 rfl rfl)
theorem dX0_restore_4 : decode cX0_restore 4 = .ok (.ifCond .ne 10, 3) := dk_154 0 10 (dk_at dksX0_restore_0 4 rfl rfl)
theorem dX0_restore_7 : decode cX0_restore 7 = .ok (.aload_n 0, 1) := dk_42 (dk_at dksX0_restore_0 7 rfl rfl)
theorem dX0_restore_8 : decode cX0_restore 8 = .ok (.bipush (-3), 2) := dk_16 253 (dk_at dksX0_restore_0 8 rfl rfl)
theorem dX0_restore_10 : decode cX0_restore 10 = .ok (.invokevirtual 48, 3) := dk_182 0 48 (dk_at dksX0_restore_0 10 rfl rfl)
theorem dX0_restore_13 : decode cX0_restore 13 = .ok (.ireturn, 1) := dk_172 (dk_at dksX0_restore_0 13 rfl rfl)
theorem dX0_restore_14 : decode cX0_restore 14 = .ok (.aload_n 0, 1) := dk_42 (dk_at dksX0_restore_0 14 rfl rfl)
theorem dX0_restore_15 : decode cX0_restore 15 = .ok (.getfield 16, 3) := dk_180 0 16 (dk_at dksX0_restore_0 15 rfl rfl)
theorem dX0_restore_18 : decode cX0_restore 18 = .ok (.aload_n 0, 1) := dk_42 (dk_at dksX0_restore_0 18 rfl rfl)
theorem dX0_restore_19 : decode cX0_restore 19 = .ok (.getfield 26, 3) := dk_180 0 26 (dk_at dksX0_restore_0 19 rfl rfl)
theorem dX0_restore_22 : decode cX0_restore 22 = .ok (.invokevirtual 103, 3) := dk_182 0 103 (dk_at dksX0_restore_1 0 rfl rfl)
theorem dX0_restore_25 : decode cX0_restore 25 = .ok (.aload_n 0, 1) := dk_42 (dk_at dksX0_restore_1 3 rfl rfl)
theorem dX0_restore_26 : decode cX0_restore 26 = .ok (.iconst 0, 1) := dk_3 (dk_at dksX0_restore_1 4 rfl rfl)
theorem dX0_restore_27 : decode cX0_restore 27 = .ok (.putfield 118, 3) := dk_181 0 118 (dk_at dksX0_restore_1 5 rfl rfl)
theorem dX0_restore_30 : decode cX0_restore 30 = .ok (.aload_n 0, 1) := dk_42 (dk_at dksX0_restore_1 8 rfl rfl)
theorem dX0_restore_31 : decode cX0_restore 31 = .ok (.getfield 16, 3) := dk_180 0 16 (dk_at dksX0_restore_1 9 rfl rfl)
theorem dX0_restore_34 : decode cX0_restore 34 = .ok (.getfield 178, 3) := dk_180 0 178 (dk_at dksX0_restore_1 12 rfl rfl)
theorem dX0_restore_37 : decode cX0_restore 37 = .ok (.ireturn, 1) := dk_172 (dk_at dksX0_restore_1 15 rfl rfl)
abbrev cX0_count : ByteArray := prog_1_method_81_code
def yX0_count : MethodName := ⟨RX0, "count", "(I)I"⟩
def dkwX0_count_4 : List UInt8 := [180, 0, 118, 172, 16, 247, 172]
abbrev dktX0_count_4 : List UInt8 := dkwX0_count_4 ++ []
def dkwX0_count_3 : List UInt8 := [42, 180, 0, 16, 182, 0, 184, 172, 42, 182, 1, 88, 172, 42, 180, 0, 90, 172, 42, 180, 1, 6, 172, 42]
abbrev dktX0_count_3 : List UInt8 := dkwX0_count_3 ++ dktX0_count_4
def dkwX0_count_2 : List UInt8 := [42, 180, 0, 16, 182, 0, 74, 172, 42, 180, 0, 16, 180, 0, 178, 172, 42, 180, 0, 16, 182, 0, 175, 172]
abbrev dktX0_count_2 : List UInt8 := dkwX0_count_2 ++ dktX0_count_3
def dkwX0_count_1 : List UInt8 := [170, 0, 0, 0, 97, 0, 0, 0, 0, 0, 0, 0, 7, 0, 0, 0, 45, 0, 0, 0, 53, 0, 0, 0, 61, 0, 0, 0, 69, 0, 0, 0, 77, 0, 0, 0, 82, 0, 0, 0, 87, 0, 0, 0, 92]
abbrev dktX0_count_1 : List UInt8 := dkwX0_count_1 ++ dktX0_count_2
def dkwX0_count_0 : List UInt8 := [27, 16, 10, 164, 0, 19, 27, 16, 17, 162, 0, 13, 42, 180, 0, 7, 27, 16, 10, 100, 46, 172, 27]
abbrev dktX0_count_0 : List UInt8 := dkwX0_count_0 ++ dktX0_count_1
theorem dksX0_count_0 : cX0_count.data.toList.drop 0 = dktX0_count_0 := by decide +kernel
theorem dksX0_count_1 : cX0_count.data.toList.drop 23 = dktX0_count_1 := dk_seg dksX0_count_0 23 rfl rfl
theorem dksX0_count_2 : cX0_count.data.toList.drop 68 = dktX0_count_2 := dk_seg dksX0_count_1 45 rfl rfl
theorem dksX0_count_3 : cX0_count.data.toList.drop 92 = dktX0_count_3 := dk_seg dksX0_count_2 24 rfl rfl
theorem dksX0_count_4 : cX0_count.data.toList.drop 116 = dktX0_count_4 := dk_seg dksX0_count_3 24 rfl rfl
theorem dX0_count_0 : decode cX0_count 0 = .ok (.iload_n 1, 1) := dk_27 (dk_at dksX0_count_0 0 rfl rfl)
theorem dX0_count_1 : decode cX0_count 1 = .ok (.bipush 10, 2) := dk_16 10 (dk_at dksX0_count_0 1 rfl rfl)
theorem dX0_count_3 : decode cX0_count 3 = .ok (.if_icmp .le 19, 3) := dk_164 0 19 (dk_at dksX0_count_0 3 rfl rfl)
theorem dX0_count_6 : decode cX0_count 6 = .ok (.iload_n 1, 1) := dk_27 (dk_at dksX0_count_0 6 rfl rfl)
theorem dX0_count_7 : decode cX0_count 7 = .ok (.bipush 17, 2) := dk_16 17 (dk_at dksX0_count_0 7 rfl rfl)
theorem dX0_count_9 : decode cX0_count 9 = .ok (.if_icmp .ge 13, 3) := dk_162 0 13 (dk_at dksX0_count_0 9 rfl rfl)
theorem dX0_count_12 : decode cX0_count 12 = .ok (.aload_n 0, 1) := dk_42 (dk_at dksX0_count_0 12 rfl rfl)
theorem dX0_count_13 : decode cX0_count 13 = .ok (.getfield 7, 3) := dk_180 0 7 (dk_at dksX0_count_0 13 rfl rfl)
theorem dX0_count_16 : decode cX0_count 16 = .ok (.iload_n 1, 1) := dk_27 (dk_at dksX0_count_0 16 rfl rfl)
theorem dX0_count_17 : decode cX0_count 17 = .ok (.bipush 10, 2) := dk_16 10 (dk_at dksX0_count_0 17 rfl rfl)
theorem dX0_count_19 : decode cX0_count 19 = .ok (.isub, 1) := dk_100 (dk_at dksX0_count_0 19 rfl rfl)
theorem dX0_count_20 : decode cX0_count 20 = .ok (.iaload, 1) := dk_46 (dk_at dksX0_count_0 20 rfl rfl)
theorem dX0_count_21 : decode cX0_count 21 = .ok (.ireturn, 1) := dk_172 (dk_at dksX0_count_0 21 rfl rfl)
theorem dX0_count_22 : decode cX0_count 22 = .ok (.iload_n 1, 1) := dk_27 (dk_at dksX0_count_0 22 rfl rfl)
theorem dX0_count_23 : decode cX0_count 23 = .ok (.tableswitch 97 0 7 #[45, 53, 61, 69, 77, 82, 87, 92], 45) := by decide +kernel
theorem dX0_count_68 : decode cX0_count 68 = .ok (.aload_n 0, 1) := dk_42 (dk_at dksX0_count_2 0 rfl rfl)
theorem dX0_count_69 : decode cX0_count 69 = .ok (.getfield 16, 3) := dk_180 0 16 (dk_at dksX0_count_2 1 rfl rfl)
theorem dX0_count_72 : decode cX0_count 72 = .ok (.invokevirtual 74, 3) := dk_182 0 74 (dk_at dksX0_count_2 4 rfl rfl)
theorem dX0_count_75 : decode cX0_count 75 = .ok (.ireturn, 1) := dk_172 (dk_at dksX0_count_2 7 rfl rfl)
theorem dX0_count_76 : decode cX0_count 76 = .ok (.aload_n 0, 1) := dk_42 (dk_at dksX0_count_2 8 rfl rfl)
theorem dX0_count_77 : decode cX0_count 77 = .ok (.getfield 16, 3) := dk_180 0 16 (dk_at dksX0_count_2 9 rfl rfl)
theorem dX0_count_80 : decode cX0_count 80 = .ok (.getfield 178, 3) := dk_180 0 178 (dk_at dksX0_count_2 12 rfl rfl)
theorem dX0_count_83 : decode cX0_count 83 = .ok (.ireturn, 1) := dk_172 (dk_at dksX0_count_2 15 rfl rfl)
theorem dX0_count_84 : decode cX0_count 84 = .ok (.aload_n 0, 1) := dk_42 (dk_at dksX0_count_2 16 rfl rfl)
theorem dX0_count_85 : decode cX0_count 85 = .ok (.getfield 16, 3) := dk_180 0 16 (dk_at dksX0_count_2 17 rfl rfl)
theorem dX0_count_88 : decode cX0_count 88 = .ok (.invokevirtual 175, 3) := dk_182 0 175 (dk_at dksX0_count_2 20 rfl rfl)
theorem dX0_count_91 : decode cX0_count 91 = .ok (.ireturn, 1) := dk_172 (dk_at dksX0_count_2 23 rfl rfl)
theorem dX0_count_92 : decode cX0_count 92 = .ok (.aload_n 0, 1) := dk_42 (dk_at dksX0_count_3 0 rfl rfl)
theorem dX0_count_93 : decode cX0_count 93 = .ok (.getfield 16, 3) := dk_180 0 16 (dk_at dksX0_count_3 1 rfl rfl)
theorem dX0_count_96 : decode cX0_count 96 = .ok (.invokevirtual 184, 3) := dk_182 0 184 (dk_at dksX0_count_3 4 rfl rfl)
theorem dX0_count_99 : decode cX0_count 99 = .ok (.ireturn, 1) := dk_172 (dk_at dksX0_count_3 7 rfl rfl)
theorem dX0_count_100 : decode cX0_count 100 = .ok (.aload_n 0, 1) := dk_42 (dk_at dksX0_count_3 8 rfl rfl)
theorem dX0_count_101 : decode cX0_count 101 = .ok (.invokevirtual 344, 3) := dk_182 1 88 (dk_at dksX0_count_3 9 rfl rfl)
theorem dX0_count_104 : decode cX0_count 104 = .ok (.ireturn, 1) := dk_172 (dk_at dksX0_count_3 12 rfl rfl)
theorem dX0_count_105 : decode cX0_count 105 = .ok (.aload_n 0, 1) := dk_42 (dk_at dksX0_count_3 13 rfl rfl)
theorem dX0_count_106 : decode cX0_count 106 = .ok (.getfield 90, 3) := dk_180 0 90 (dk_at dksX0_count_3 14 rfl rfl)
theorem dX0_count_109 : decode cX0_count 109 = .ok (.ireturn, 1) := dk_172 (dk_at dksX0_count_3 17 rfl rfl)
theorem dX0_count_110 : decode cX0_count 110 = .ok (.aload_n 0, 1) := dk_42 (dk_at dksX0_count_3 18 rfl rfl)
theorem dX0_count_111 : decode cX0_count 111 = .ok (.getfield 262, 3) := dk_180 1 6 (dk_at dksX0_count_3 19 rfl rfl)
theorem dX0_count_114 : decode cX0_count 114 = .ok (.ireturn, 1) := dk_172 (dk_at dksX0_count_3 22 rfl rfl)
theorem dX0_count_115 : decode cX0_count 115 = .ok (.aload_n 0, 1) := dk_42 (dk_at dksX0_count_3 23 rfl rfl)
theorem dX0_count_116 : decode cX0_count 116 = .ok (.getfield 118, 3) := dk_180 0 118 (dk_at dksX0_count_4 0 rfl rfl)
theorem dX0_count_119 : decode cX0_count 119 = .ok (.ireturn, 1) := dk_172 (dk_at dksX0_count_4 3 rfl rfl)
theorem dX0_count_120 : decode cX0_count 120 = .ok (.bipush (-9), 2) := dk_16 247 (dk_at dksX0_count_4 4 rfl rfl)
theorem dX0_count_122 : decode cX0_count 122 = .ok (.ireturn, 1) := dk_172 (dk_at dksX0_count_4 6 rfl rfl)
abbrev cX0_allComing : ByteArray := prog_1_method_80_code
def yX0_allComing : MethodName := ⟨RX0, "allComing", "()I"⟩
def dkwX0_allComing_1 : List UInt8 := [172]
abbrev dktX0_allComing_1 : List UInt8 := dkwX0_allComing_1 ++ []
def dkwX0_allComing_0 : List UInt8 := [3, 60, 3, 61, 28, 8, 162, 0, 17, 27, 42, 28, 182, 1, 53, 96, 60, 132, 2, 1, 167, 255, 240, 27]
abbrev dktX0_allComing_0 : List UInt8 := dkwX0_allComing_0 ++ dktX0_allComing_1
theorem dksX0_allComing_0 : cX0_allComing.data.toList.drop 0 = dktX0_allComing_0 := by decide +kernel
theorem dksX0_allComing_1 : cX0_allComing.data.toList.drop 24 = dktX0_allComing_1 := dk_seg dksX0_allComing_0 24 rfl rfl
theorem dX0_allComing_0 : decode cX0_allComing 0 = .ok (.iconst 0, 1) := dk_3 (dk_at dksX0_allComing_0 0 rfl rfl)
theorem dX0_allComing_1 : decode cX0_allComing 1 = .ok (.istore_n 1, 1) := dk_60 (dk_at dksX0_allComing_0 1 rfl rfl)
theorem dX0_allComing_2 : decode cX0_allComing 2 = .ok (.iconst 0, 1) := dk_3 (dk_at dksX0_allComing_0 2 rfl rfl)
theorem dX0_allComing_3 : decode cX0_allComing 3 = .ok (.istore_n 2, 1) := dk_61 (dk_at dksX0_allComing_0 3 rfl rfl)
theorem dX0_allComing_4 : decode cX0_allComing 4 = .ok (.iload_n 2, 1) := dk_28 (dk_at dksX0_allComing_0 4 rfl rfl)
theorem dX0_allComing_5 : decode cX0_allComing 5 = .ok (.iconst 5, 1) := dk_8 (dk_at dksX0_allComing_0 5 rfl rfl)
theorem dX0_allComing_6 : decode cX0_allComing 6 = .ok (.if_icmp .ge 17, 3) := dk_162 0 17 (dk_at dksX0_allComing_0 6 rfl rfl)
theorem dX0_allComing_9 : decode cX0_allComing 9 = .ok (.iload_n 1, 1) := dk_27 (dk_at dksX0_allComing_0 9 rfl rfl)
theorem dX0_allComing_10 : decode cX0_allComing 10 = .ok (.aload_n 0, 1) := dk_42 (dk_at dksX0_allComing_0 10 rfl rfl)
theorem dX0_allComing_11 : decode cX0_allComing 11 = .ok (.iload_n 2, 1) := dk_28 (dk_at dksX0_allComing_0 11 rfl rfl)
theorem dX0_allComing_12 : decode cX0_allComing 12 = .ok (.invokevirtual 309, 3) := dk_182 1 53 (dk_at dksX0_allComing_0 12 rfl rfl)
theorem dX0_allComing_15 : decode cX0_allComing 15 = .ok (.iadd, 1) := dk_96 (dk_at dksX0_allComing_0 15 rfl rfl)
theorem dX0_allComing_16 : decode cX0_allComing 16 = .ok (.istore_n 1, 1) := dk_60 (dk_at dksX0_allComing_0 16 rfl rfl)
theorem dX0_allComing_17 : decode cX0_allComing 17 = .ok (.iinc 2 1, 3) := dk_132 2 1 (dk_at dksX0_allComing_0 17 rfl rfl)
theorem dX0_allComing_20 : decode cX0_allComing 20 = .ok (.goto (-16), 3) := dk_167 255 240 (dk_at dksX0_allComing_0 20 rfl rfl)
theorem dX0_allComing_23 : decode cX0_allComing 23 = .ok (.iload_n 1, 1) := dk_27 (dk_at dksX0_allComing_0 23 rfl rfl)
theorem dX0_allComing_24 : decode cX0_allComing 24 = .ok (.ireturn, 1) := dk_172 (dk_at dksX0_allComing_1 0 rfl rfl)
theorem q82 : (Jvm.Cond.initialized "PrayerMatsFace") ∈ lw_all := lw_g (lw_at lw_m1 1 rfl) rfl
theorem q106 : (Jvm.Cond.instantiable "PrayerMatsFace" (17 : Nat)) ∈ lw_all := lw_g (lw_at lw_m1 25 rfl) rfl
theorem q108 : (Jvm.Cond.instanceMethod ({ cls := "PrayerMatsFace", name := "<init>", desc := "()V" } : Jvm.MethodName)) ∈ lw_all := lw_g (lw_at lw_m1 27 rfl) rfl
theorem q109 : (Jvm.Cond.code ({ cls := "PrayerMatsFace", name := "<init>", desc := "()V" } : Jvm.MethodName) prog_1_method_1_code (1 : Nat) (Option.none : Option Jvm.ClassFile.FieldType)) ∈ lw_all := lw_g (lw_at lw_m1 28 rfl) rfl
theorem q110 : (Jvm.Cond.methodLink "PrayerMatsFace" (1 : Nat) ({ cls := "java/lang/Object", name := "<init>", desc := "()V" } : Jvm.MethodName)) ∈ lw_all := lw_g (lw_at lw_m1 29 rfl) rfl
theorem q113 : (Jvm.Cond.classLink "PrayerMatsFace" (13 : Nat) "PrayerMatsFace$Quarter") ∈ lw_all := lw_g (lw_at lw_m1 32 rfl) rfl
theorem q115 : (Jvm.Cond.methodLinkNest "PrayerMatsFace" (15 : Nat) ({ cls := "PrayerMatsFace$Quarter", name := "<init>", desc := "()V" } : Jvm.MethodName) "PrayerMatsFace") ∈ lw_tbl := lw_at lw_m1 34 rfl
theorem q149 : (Jvm.Cond.fieldLinkNest "PrayerMatsFace" (265 : Nat) "PrayerMatsFace$Quarter" "people" "Ljava/util/ArrayList;" "PrayerMatsFace") ∈ lw_tbl := lw_at lw_m1 68 rfl
theorem q152 : (Jvm.Cond.fieldLinkNest "PrayerMatsFace" (134 : Nat) "PrayerMatsFace$Quarter" "hours" "[I" "PrayerMatsFace") ∈ lw_tbl := lw_at lw_m1 71 rfl
theorem q154 : (Jvm.Cond.fieldLinkNest "PrayerMatsFace" (94 : Nat) "PrayerMatsFace$Quarter" "mate" "[I" "PrayerMatsFace") ∈ lw_tbl := lw_at lw_m1 73 rfl
theorem q158 : (Jvm.Cond.fieldLinkNest "PrayerMatsFace" (178 : Nat) "PrayerMatsFace$Quarter" "day" "I" "PrayerMatsFace") ∈ lw_tbl := lw_at lw_m1 77 rfl
theorem q171 : (Jvm.Cond.fieldLink "PrayerMatsFace" (7 : Nat) "PrayerMatsFace" "refusals" "[I") ∈ lw_all := lw_g (lw_at lw_m1 90 rfl) rfl
theorem q172 : (Jvm.Cond.fieldLink "PrayerMatsFace" (16 : Nat) "PrayerMatsFace" "quarter" "LPrayerMatsFace$Quarter;") ∈ lw_all := lw_g (lw_at lw_m1 91 rfl) rfl
theorem q173 : (Jvm.Cond.fieldLink "PrayerMatsFace" (20 : Nat) "PrayerMatsFace" "mind" "LPrayerMatsFace$Quarter;") ∈ lw_all := lw_g (lw_at lw_m1 92 rfl) rfl
theorem q174 : (Jvm.Cond.fieldLink "PrayerMatsFace" (23 : Nat) "PrayerMatsFace" "read" "LPrayerMatsFace$Quarter;") ∈ lw_all := lw_g (lw_at lw_m1 93 rfl) rfl
theorem q176 : (Jvm.Cond.fieldLink "PrayerMatsFace" (26 : Nat) "PrayerMatsFace" "kept" "LPrayerMatsFace$Quarter;") ∈ lw_all := lw_g (lw_at lw_m1 95 rfl) rfl
theorem q177 : (Jvm.Cond.fieldLink "PrayerMatsFace" (340 : Nat) "PrayerMatsFace" "isKept" "Z") ∈ lw_all := lw_g (lw_at lw_m1 96 rfl) rfl
theorem q178 : (Jvm.Cond.fieldLink "PrayerMatsFace" (29 : Nat) "PrayerMatsFace" "letter" "[I") ∈ lw_all := lw_g (lw_at lw_m1 97 rfl) rfl
theorem q181 : (Jvm.Cond.fieldLink "PrayerMatsFace" (90 : Nat) "PrayerMatsFace" "lettered" "I") ∈ lw_all := lw_g (lw_at lw_m1 100 rfl) rfl
theorem q182 : (Jvm.Cond.fieldLink "PrayerMatsFace" (32 : Nat) "PrayerMatsFace" "stepped" "[LPrayerMatsFace$Quarter;") ∈ lw_all := lw_g (lw_at lw_m1 101 rfl) rfl
theorem q183 : (Jvm.Cond.fieldLink "PrayerMatsFace" (118 : Nat) "PrayerMatsFace" "steps" "I") ∈ lw_all := lw_g (lw_at lw_m1 102 rfl) rfl
theorem q184 : (Jvm.Cond.fieldLink "PrayerMatsFace" (36 : Nat) "PrayerMatsFace" "bestMate" "[I") ∈ lw_all := lw_g (lw_at lw_m1 103 rfl) rfl
theorem q185 : (Jvm.Cond.fieldLink "PrayerMatsFace" (224 : Nat) "PrayerMatsFace" "found" "I") ∈ lw_all := lw_g (lw_at lw_m1 104 rfl) rfl
theorem q186 : (Jvm.Cond.fieldLink "PrayerMatsFace" (233 : Nat) "PrayerMatsFace" "least" "I") ∈ lw_all := lw_g (lw_at lw_m1 105 rfl) rfl
theorem q187 : (Jvm.Cond.fieldLink "PrayerMatsFace" (230 : Nat) "PrayerMatsFace" "daysOn" "I") ∈ lw_all := lw_g (lw_at lw_m1 106 rfl) rfl
theorem q188 : (Jvm.Cond.fieldLink "PrayerMatsFace" (39 : Nat) "PrayerMatsFace" "row" "[I") ∈ lw_all := lw_g (lw_at lw_m1 107 rfl) rfl
theorem q189 : (Jvm.Cond.fieldLink "PrayerMatsFace" (262 : Nat) "PrayerMatsFace" "rowed" "I") ∈ lw_all := lw_g (lw_at lw_m1 108 rfl) rfl
theorem q190 : (Jvm.Cond.fieldLink "PrayerMatsFace" (331 : Nat) "PrayerMatsFace" "seed" "I") ∈ lw_all := lw_g (lw_at lw_m1 109 rfl) rfl
theorem q191 : (Jvm.Cond.laysFinal "PrayerMatsFace" "PrayerMatsFace" "refusals" "[I") ∈ lw_all := lw_g (lw_at lw_m1 110 rfl) rfl
theorem q192 : (Jvm.Cond.soleField "PrayerMatsFace" "refusals") ∈ lw_all := lw_g (lw_at lw_m1 111 rfl) rfl
theorem q193 : (Jvm.Cond.laysFinal "PrayerMatsFace" "PrayerMatsFace" "quarter" "LPrayerMatsFace$Quarter;") ∈ lw_all := lw_g (lw_at lw_m1 112 rfl) rfl
theorem q194 : (Jvm.Cond.soleField "PrayerMatsFace" "quarter") ∈ lw_all := lw_g (lw_at lw_m1 113 rfl) rfl
theorem q195 : (Jvm.Cond.laysFinal "PrayerMatsFace" "PrayerMatsFace" "mind" "LPrayerMatsFace$Quarter;") ∈ lw_all := lw_g (lw_at lw_m1 114 rfl) rfl
theorem q196 : (Jvm.Cond.soleField "PrayerMatsFace" "mind") ∈ lw_all := lw_g (lw_at lw_m1 115 rfl) rfl
theorem q197 : (Jvm.Cond.laysFinal "PrayerMatsFace" "PrayerMatsFace" "read" "LPrayerMatsFace$Quarter;") ∈ lw_all := lw_g (lw_at lw_m1 116 rfl) rfl
theorem q198 : (Jvm.Cond.soleField "PrayerMatsFace" "read") ∈ lw_all := lw_g (lw_at lw_m1 117 rfl) rfl
theorem q199 : (Jvm.Cond.laysFinal "PrayerMatsFace" "PrayerMatsFace" "kept" "LPrayerMatsFace$Quarter;") ∈ lw_all := lw_g (lw_at lw_m1 118 rfl) rfl
theorem q200 : (Jvm.Cond.soleField "PrayerMatsFace" "kept") ∈ lw_all := lw_g (lw_at lw_m1 119 rfl) rfl
theorem q201 : (Jvm.Cond.lays "PrayerMatsFace" "PrayerMatsFace" "isKept" "Z") ∈ lw_all := lw_g (lw_at lw_m1 120 rfl) rfl
theorem q202 : (Jvm.Cond.soleField "PrayerMatsFace" "isKept") ∈ lw_all := lw_g (lw_at lw_m1 121 rfl) rfl
theorem q203 : (Jvm.Cond.laysFinal "PrayerMatsFace" "PrayerMatsFace" "letter" "[I") ∈ lw_all := lw_g (lw_at lw_m1 122 rfl) rfl
theorem q204 : (Jvm.Cond.soleField "PrayerMatsFace" "letter") ∈ lw_all := lw_g (lw_at lw_m1 123 rfl) rfl
theorem q205 : (Jvm.Cond.lays "PrayerMatsFace" "PrayerMatsFace" "lettered" "I") ∈ lw_all := lw_g (lw_at lw_m1 124 rfl) rfl
theorem q206 : (Jvm.Cond.soleField "PrayerMatsFace" "lettered") ∈ lw_all := lw_g (lw_at lw_m1 125 rfl) rfl
theorem q207 : (Jvm.Cond.laysFinal "PrayerMatsFace" "PrayerMatsFace" "stepped" "[LPrayerMatsFace$Quarter;") ∈ lw_all := lw_g (lw_at lw_m1 126 rfl) rfl
theorem q208 : (Jvm.Cond.soleField "PrayerMatsFace" "stepped") ∈ lw_all := lw_g (lw_at lw_m1 127 rfl) rfl
theorem q209 : (Jvm.Cond.lays "PrayerMatsFace" "PrayerMatsFace" "steps" "I") ∈ lw_all := lw_g (lw_at lw_m1 128 rfl) rfl
theorem q210 : (Jvm.Cond.soleField "PrayerMatsFace" "steps") ∈ lw_all := lw_g (lw_at lw_m1 129 rfl) rfl
theorem q211 : (Jvm.Cond.laysFinal "PrayerMatsFace" "PrayerMatsFace" "bestMate" "[I") ∈ lw_all := lw_g (lw_at lw_m1 130 rfl) rfl
theorem q212 : (Jvm.Cond.soleField "PrayerMatsFace" "bestMate") ∈ lw_all := lw_g (lw_at lw_m1 131 rfl) rfl
theorem q213 : (Jvm.Cond.lays "PrayerMatsFace" "PrayerMatsFace" "found" "I") ∈ lw_all := lw_g (lw_at lw_m1 132 rfl) rfl
theorem q214 : (Jvm.Cond.soleField "PrayerMatsFace" "found") ∈ lw_all := lw_g (lw_at lw_m1 133 rfl) rfl
theorem q215 : (Jvm.Cond.lays "PrayerMatsFace" "PrayerMatsFace" "least" "I") ∈ lw_all := lw_g (lw_at lw_m1 134 rfl) rfl
theorem q216 : (Jvm.Cond.soleField "PrayerMatsFace" "least") ∈ lw_all := lw_g (lw_at lw_m1 135 rfl) rfl
theorem q217 : (Jvm.Cond.lays "PrayerMatsFace" "PrayerMatsFace" "daysOn" "I") ∈ lw_all := lw_g (lw_at lw_m1 136 rfl) rfl
theorem q218 : (Jvm.Cond.soleField "PrayerMatsFace" "daysOn") ∈ lw_all := lw_g (lw_at lw_m1 137 rfl) rfl
theorem q219 : (Jvm.Cond.laysFinal "PrayerMatsFace" "PrayerMatsFace" "row" "[I") ∈ lw_all := lw_g (lw_at lw_m1 138 rfl) rfl
theorem q220 : (Jvm.Cond.soleField "PrayerMatsFace" "row") ∈ lw_all := lw_g (lw_at lw_m1 139 rfl) rfl
theorem q221 : (Jvm.Cond.lays "PrayerMatsFace" "PrayerMatsFace" "rowed" "I") ∈ lw_all := lw_g (lw_at lw_m1 140 rfl) rfl
theorem q222 : (Jvm.Cond.soleField "PrayerMatsFace" "rowed") ∈ lw_all := lw_g (lw_at lw_m1 141 rfl) rfl
theorem q223 : (Jvm.Cond.lays "PrayerMatsFace" "PrayerMatsFace" "seed" "I") ∈ lw_all := lw_g (lw_at lw_m1 142 rfl) rfl
theorem q224 : (Jvm.Cond.soleField "PrayerMatsFace" "seed") ∈ lw_all := lw_g (lw_at lw_m1 143 rfl) rfl
theorem q225 : (Jvm.Cond.superclass "PrayerMatsFace" "java/lang/Object") ∈ lw_all := lw_g (lw_at lw_m1 144 rfl) rfl
theorem q227 : (Jvm.Cond.instanceMethod ({ cls := "PrayerMatsFace", name := "feed", desc := "(I)I" } : Jvm.MethodName)) ∈ lw_all := lw_g (lw_at lw_m1 146 rfl) rfl
theorem q228 : (Jvm.Cond.selects "PrayerMatsFace" ({ cls := "PrayerMatsFace", name := "feed", desc := "(I)I" } : Jvm.MethodName) ({ cls := "PrayerMatsFace", name := "feed", desc := "(I)I" } : Jvm.MethodName)) ∈ lw_all := lw_g (lw_at lw_m1 147 rfl) rfl
theorem q229 : (Jvm.Cond.code ({ cls := "PrayerMatsFace", name := "feed", desc := "(I)I" } : Jvm.MethodName) prog_1_method_13_code (3 : Nat) (Option.some Jvm.ClassFile.FieldType.int)) ∈ lw_all := lw_g (lw_at lw_m1 148 rfl) rfl
theorem q230 : (Jvm.Cond.methodLink "PrayerMatsFace" (86 : Nat) ({ cls := "PrayerMatsFace", name := "within", desc := "(III)I" } : Jvm.MethodName)) ∈ lw_all := lw_g (lw_at lw_m1 149 rfl) rfl
theorem q231 : (Jvm.Cond.static ({ cls := "PrayerMatsFace", name := "within", desc := "(III)I" } : Jvm.MethodName)) ∈ lw_all := lw_g (lw_at lw_m1 150 rfl) rfl
theorem q232 : (Jvm.Cond.code ({ cls := "PrayerMatsFace", name := "within", desc := "(III)I" } : Jvm.MethodName) prog_1_method_4_code (3 : Nat) (Option.some Jvm.ClassFile.FieldType.int)) ∈ lw_all := lw_g (lw_at lw_m1 151 rfl) rfl
theorem q233 : (Jvm.Cond.methodLink "PrayerMatsFace" (48 : Nat) ({ cls := "PrayerMatsFace", name := "refuse", desc := "(I)I" } : Jvm.MethodName)) ∈ lw_all := lw_g (lw_at lw_m1 152 rfl) rfl
theorem q234 : (Jvm.Cond.privateMethod ({ cls := "PrayerMatsFace", name := "refuse", desc := "(I)I" } : Jvm.MethodName)) ∈ lw_tbl := lw_at lw_m1 153 rfl
theorem q235 : (Jvm.Cond.instanceMethod ({ cls := "PrayerMatsFace", name := "refuse", desc := "(I)I" } : Jvm.MethodName)) ∈ lw_all := lw_g (lw_at lw_m1 154 rfl) rfl
theorem q236 : (Jvm.Cond.code ({ cls := "PrayerMatsFace", name := "refuse", desc := "(I)I" } : Jvm.MethodName) prog_1_method_7_code (2 : Nat) (Option.some Jvm.ClassFile.FieldType.int)) ∈ lw_all := lw_g (lw_at lw_m1 155 rfl) rfl
theorem q238 : (Jvm.Cond.instanceMethod ({ cls := "PrayerMatsFace", name := "quarter", desc := "()I" } : Jvm.MethodName)) ∈ lw_all := lw_g (lw_at lw_m1 157 rfl) rfl
theorem q239 : (Jvm.Cond.selects "PrayerMatsFace" ({ cls := "PrayerMatsFace", name := "quarter", desc := "()I" } : Jvm.MethodName) ({ cls := "PrayerMatsFace", name := "quarter", desc := "()I" } : Jvm.MethodName)) ∈ lw_all := lw_g (lw_at lw_m1 158 rfl) rfl
theorem q240 : (Jvm.Cond.codeWith ({ cls := "PrayerMatsFace", name := "quarter", desc := "()I" } : Jvm.MethodName) prog_1_method_15_code (5 : Nat) (Option.some Jvm.ClassFile.FieldType.int) [((11 : Nat), (41 : Nat), (73 : Nat), (42 : Nat)), ((48 : Nat), (66 : Nat), (73 : Nat), (42 : Nat)), ((11 : Nat), (41 : Nat), (90 : Nat), (0 : Nat)), ((48 : Nat), (66 : Nat), (90 : Nat), (0 : Nat)), ((73 : Nat), (83 : Nat), (90 : Nat), (0 : Nat)), ((90 : Nat), (92 : Nat), (90 : Nat), (0 : Nat))]) ∈ lw_all := lw_g (lw_at lw_m1 159 rfl) rfl
theorem q241 : (Jvm.Cond.classLink "PrayerMatsFace" (42 : Nat) "PrayerMatsFace$Refused") ∈ lw_all := lw_g (lw_at lw_m1 160 rfl) rfl
theorem q242 : (Jvm.Cond.methodLink "PrayerMatsFace" (103 : Nat) ({ cls := "PrayerMatsFace$Quarter", name := "takes", desc := "(LPrayerMatsFace$Quarter;)V" } : Jvm.MethodName)) ∈ lw_all := lw_g (lw_at lw_m1 161 rfl) rfl
theorem q307 : (Jvm.Cond.selects "PrayerMatsFace" ({ cls := "java/lang/Object", name := "getClass", desc := "()Ljava/lang/Class;" } : Jvm.MethodName) ({ cls := "java/lang/Object", name := "getClass", desc := "()Ljava/lang/Class;" } : Jvm.MethodName)) ∈ lw_all := lw_g (lw_at lw_m1 226 rfl) rfl
theorem q333 : (Jvm.Cond.classLink "PrayerMatsFace" (107 : Nat) "PrayerMatsFace$Reader") ∈ lw_all := lw_g (lw_at lw_m2 12 rfl) rfl
theorem q335 : (Jvm.Cond.methodLinkNest "PrayerMatsFace" (109 : Nat) ({ cls := "PrayerMatsFace$Reader", name := "<init>", desc := "(LPrayerMatsFace;)V" } : Jvm.MethodName) "PrayerMatsFace") ∈ lw_tbl := lw_at lw_m2 14 rfl
theorem q341 : (Jvm.Cond.fieldLinkNest "PrayerMatsFace" (115 : Nat) "PrayerMatsFace$Reader" "wrong" "I" "PrayerMatsFace") ∈ lw_tbl := lw_at lw_m2 20 rfl
theorem q353 : (Jvm.Cond.methodLink "PrayerMatsFace" (112 : Nat) ({ cls := "PrayerMatsFace$Reader", name := "all", desc := "()I" } : Jvm.MethodName)) ∈ lw_all := lw_g (lw_at lw_m2 32 rfl) rfl
theorem q370 : (Jvm.Cond.static ({ cls := "PrayerMatsFace", name := "asks", desc := "(ZI)V" } : Jvm.MethodName)) ∈ lw_all := lw_g (lw_at lw_m2 49 rfl) rfl
theorem q371 : (Jvm.Cond.code ({ cls := "PrayerMatsFace", name := "asks", desc := "(ZI)V" } : Jvm.MethodName) prog_1_method_2_code (2 : Nat) (Option.none : Option Jvm.ClassFile.FieldType)) ∈ lw_all := lw_g (lw_at lw_m2 50 rfl) rfl
theorem q410 : (Jvm.Cond.methodLink "PrayerMatsFace" (44 : Nat) ({ cls := "PrayerMatsFace$Refused", name := "<init>", desc := "(I)V" } : Jvm.MethodName)) ∈ lw_all := lw_g (lw_at lw_m2 89 rfl) rfl
theorem q423 : (Jvm.Cond.fieldLinkNest "PrayerMatsFace" (121 : Nat) "PrayerMatsFace$Refused" "code" "I" "PrayerMatsFace") ∈ lw_tbl := lw_at lw_m2 102 rfl
theorem q456 : (Jvm.Cond.static ({ cls := "PrayerMatsFace", name := "personWith", desc := "(II)LPrayerMatsFace$Person;" } : Jvm.MethodName)) ∈ lw_all := lw_g (lw_at lw_m2 135 rfl) rfl
theorem q457 : (Jvm.Cond.code ({ cls := "PrayerMatsFace", name := "personWith", desc := "(II)LPrayerMatsFace$Person;" } : Jvm.MethodName) prog_1_method_10_code (2 : Nat) (Option.some (Jvm.ClassFile.FieldType.object "PrayerMatsFace$Person"))) ∈ lw_all := lw_g (lw_at lw_m2 136 rfl) rfl
theorem q458 : (Jvm.Cond.classLink "PrayerMatsFace" (54 : Nat) "PrayerMatsFace$Merchant") ∈ lw_all := lw_g (lw_at lw_m2 137 rfl) rfl
theorem q460 : (Jvm.Cond.methodLink "PrayerMatsFace" (56 : Nat) ({ cls := "PrayerMatsFace$Merchant", name := "<init>", desc := "(II)V" } : Jvm.MethodName)) ∈ lw_all := lw_g (lw_at lw_m2 139 rfl) rfl
theorem q468 : (Jvm.Cond.fieldLink "PrayerMatsFace" (128 : Nat) "PrayerMatsFace$Person" "kind" "I") ∈ lw_all := lw_g (lw_at lw_m2 147 rfl) rfl
theorem q474 : (Jvm.Cond.fieldLink "PrayerMatsFace" (131 : Nat) "PrayerMatsFace$Person" "figure" "I") ∈ lw_all := lw_g (lw_at lw_m2 153 rfl) rfl
theorem q480 : (Jvm.Cond.classLink "PrayerMatsFace" (59 : Nat) "PrayerMatsFace$Boy") ∈ lw_all := lw_g (lw_at lw_m2 159 rfl) rfl
theorem q482 : (Jvm.Cond.methodLink "PrayerMatsFace" (61 : Nat) ({ cls := "PrayerMatsFace$Boy", name := "<init>", desc := "(II)V" } : Jvm.MethodName)) ∈ lw_all := lw_g (lw_at lw_m2 161 rfl) rfl
theorem q489 : (Jvm.Cond.classLink "PrayerMatsFace" (62 : Nat) "PrayerMatsFace$Widower") ∈ lw_all := lw_g (lw_at lw_m2 168 rfl) rfl
theorem q491 : (Jvm.Cond.methodLink "PrayerMatsFace" (64 : Nat) ({ cls := "PrayerMatsFace$Widower", name := "<init>", desc := "(II)V" } : Jvm.MethodName)) ∈ lw_all := lw_g (lw_at lw_m2 170 rfl) rfl
theorem q498 : (Jvm.Cond.classLink "PrayerMatsFace" (65 : Nat) "PrayerMatsFace$Dealer") ∈ lw_all := lw_g (lw_at lw_m2 177 rfl) rfl
theorem q500 : (Jvm.Cond.methodLink "PrayerMatsFace" (67 : Nat) ({ cls := "PrayerMatsFace$Dealer", name := "<init>", desc := "(II)V" } : Jvm.MethodName)) ∈ lw_all := lw_g (lw_at lw_m2 179 rfl) rfl
theorem q507 : (Jvm.Cond.classLink "PrayerMatsFace" (68 : Nat) "PrayerMatsFace$Blind") ∈ lw_all := lw_g (lw_at lw_m2 186 rfl) rfl
theorem q509 : (Jvm.Cond.methodLink "PrayerMatsFace" (70 : Nat) ({ cls := "PrayerMatsFace$Blind", name := "<init>", desc := "(II)V" } : Jvm.MethodName)) ∈ lw_all := lw_g (lw_at lw_m2 188 rfl) rfl
theorem q516 : (Jvm.Cond.classLink "PrayerMatsFace" (71 : Nat) "PrayerMatsFace$Person") ∈ lw_all := lw_g (lw_at lw_m2 195 rfl) rfl
theorem q518 : (Jvm.Cond.methodLink "PrayerMatsFace" (73 : Nat) ({ cls := "PrayerMatsFace$Person", name := "<init>", desc := "(II)V" } : Jvm.MethodName)) ∈ lw_all := lw_g (lw_at lw_m2 197 rfl) rfl
theorem q549 : (Jvm.Cond.static ({ cls := "PrayerMatsFace", name := "turnsMat", desc := "(LPrayerMatsFace$Quarter;II)V" } : Jvm.MethodName)) ∈ lw_all := lw_g (lw_at lw_m2 228 rfl) rfl
theorem q550 : (Jvm.Cond.code ({ cls := "PrayerMatsFace", name := "turnsMat", desc := "(LPrayerMatsFace$Quarter;II)V" } : Jvm.MethodName) prog_1_method_14_code (3 : Nat) (Option.none : Option Jvm.ClassFile.FieldType)) ∈ lw_all := lw_g (lw_at lw_m2 229 rfl) rfl
theorem q551 : (Jvm.Cond.methodLink "PrayerMatsFace" (97 : Nat) ({ cls := "PrayerMatsFace$Quarter", name := "parts", desc := "(I)V" } : Jvm.MethodName)) ∈ lw_all := lw_g (lw_at lw_m2 230 rfl) rfl
theorem q555 : (Jvm.Cond.methodLink "PrayerMatsFace" (100 : Nat) ({ cls := "PrayerMatsFace$Quarter", name := "joins", desc := "(II)V" } : Jvm.MethodName)) ∈ lw_all := lw_g (lw_at lw_m2 234 rfl) rfl
theorem q581 : (Jvm.Cond.static ({ cls := "PrayerMatsFace", name := "has", desc := "(II)Z" } : Jvm.MethodName)) ∈ lw_all := lw_g (lw_at lw_m3 20 rfl) rfl
theorem q582 : (Jvm.Cond.code ({ cls := "PrayerMatsFace", name := "has", desc := "(II)Z" } : Jvm.MethodName) prog_1_method_5_code (2 : Nat) (Option.some Jvm.ClassFile.FieldType.boolean)) ∈ lw_all := lw_g (lw_at lw_m3 21 rfl) rfl
theorem q635 : (Jvm.Cond.instanceMethod ({ cls := "PrayerMatsFace", name := "personOf", desc := "(II)I" } : Jvm.MethodName)) ∈ lw_all := lw_g (lw_at lw_m3 74 rfl) rfl
theorem q636 : (Jvm.Cond.selects "PrayerMatsFace" ({ cls := "PrayerMatsFace", name := "personOf", desc := "(II)I" } : Jvm.MethodName) ({ cls := "PrayerMatsFace", name := "personOf", desc := "(II)I" } : Jvm.MethodName)) ∈ lw_all := lw_g (lw_at lw_m3 75 rfl) rfl
theorem q637 : (Jvm.Cond.code ({ cls := "PrayerMatsFace", name := "personOf", desc := "(II)I" } : Jvm.MethodName) prog_1_method_16_code (4 : Nat) (Option.some Jvm.ClassFile.FieldType.int)) ∈ lw_all := lw_g (lw_at lw_m3 76 rfl) rfl
theorem q638 : (Jvm.Cond.methodLink "PrayerMatsFace" (82 : Nat) ({ cls := "PrayerMatsFace", name := "isPerson", desc := "(I)Z" } : Jvm.MethodName)) ∈ lw_all := lw_g (lw_at lw_m3 77 rfl) rfl
theorem q639 : (Jvm.Cond.privateMethod ({ cls := "PrayerMatsFace", name := "isPerson", desc := "(I)Z" } : Jvm.MethodName)) ∈ lw_tbl := lw_at lw_m3 78 rfl
theorem q640 : (Jvm.Cond.instanceMethod ({ cls := "PrayerMatsFace", name := "isPerson", desc := "(I)Z" } : Jvm.MethodName)) ∈ lw_all := lw_g (lw_at lw_m3 79 rfl) rfl
theorem q641 : (Jvm.Cond.code ({ cls := "PrayerMatsFace", name := "isPerson", desc := "(I)Z" } : Jvm.MethodName) prog_1_method_11_code (2 : Nat) (Option.some Jvm.ClassFile.FieldType.boolean)) ∈ lw_all := lw_g (lw_at lw_m3 80 rfl) rfl
theorem q642 : (Jvm.Cond.methodLink "PrayerMatsFace" (74 : Nat) ({ cls := "PrayerMatsFace$Quarter", name := "many", desc := "()I" } : Jvm.MethodName)) ∈ lw_all := lw_g (lw_at lw_m3 81 rfl) rfl
theorem q643 : (Jvm.Cond.methodLink "PrayerMatsFace" (78 : Nat) ({ cls := "PrayerMatsFace", name := "isIn", desc := "(II)Z" } : Jvm.MethodName)) ∈ lw_all := lw_g (lw_at lw_m3 82 rfl) rfl
theorem q644 : (Jvm.Cond.static ({ cls := "PrayerMatsFace", name := "isIn", desc := "(II)Z" } : Jvm.MethodName)) ∈ lw_all := lw_g (lw_at lw_m3 83 rfl) rfl
theorem q645 : (Jvm.Cond.code ({ cls := "PrayerMatsFace", name := "isIn", desc := "(II)Z" } : Jvm.MethodName) prog_1_method_3_code (2 : Nat) (Option.some Jvm.ClassFile.FieldType.boolean)) ∈ lw_all := lw_g (lw_at lw_m3 84 rfl) rfl
theorem q646 : (Jvm.Cond.methodLink "PrayerMatsFace" (124 : Nat) ({ cls := "PrayerMatsFace$Quarter", name := "person", desc := "(I)LPrayerMatsFace$Person;" } : Jvm.MethodName)) ∈ lw_all := lw_g (lw_at lw_m3 85 rfl) rfl
theorem q647 : (Jvm.Cond.methodLink "PrayerMatsFace" (137 : Nat) ({ cls := "PrayerMatsFace$Person", name := "soft", desc := "()I" } : Jvm.MethodName)) ∈ lw_all := lw_g (lw_at lw_m3 86 rfl) rfl
theorem q648 : (Jvm.Cond.methodLink "PrayerMatsFace" (140 : Nat) ({ cls := "PrayerMatsFace$Person", name := "sore", desc := "()I" } : Jvm.MethodName)) ∈ lw_all := lw_g (lw_at lw_m3 87 rfl) rfl
theorem q649 : (Jvm.Cond.methodLink "PrayerMatsFace" (143 : Nat) ({ cls := "PrayerMatsFace$Person", name := "charm", desc := "()I" } : Jvm.MethodName)) ∈ lw_all := lw_g (lw_at lw_m3 88 rfl) rfl
theorem q673 : (Jvm.Cond.instanceMethod ({ cls := "PrayerMatsFace", name := "between", desc := "(III)I" } : Jvm.MethodName)) ∈ lw_all := lw_g (lw_at lw_m3 112 rfl) rfl
theorem q674 : (Jvm.Cond.selects "PrayerMatsFace" ({ cls := "PrayerMatsFace", name := "between", desc := "(III)I" } : Jvm.MethodName) ({ cls := "PrayerMatsFace", name := "between", desc := "(III)I" } : Jvm.MethodName)) ∈ lw_all := lw_g (lw_at lw_m3 113 rfl) rfl
theorem q675 : (Jvm.Cond.code ({ cls := "PrayerMatsFace", name := "between", desc := "(III)I" } : Jvm.MethodName) prog_1_method_17_code (5 : Nat) (Option.some Jvm.ClassFile.FieldType.int)) ∈ lw_all := lw_g (lw_at lw_m3 114 rfl) rfl
theorem q676 : (Jvm.Cond.methodLink "PrayerMatsFace" (146 : Nat) ({ cls := "PrayerMatsFace", name := "areTwo", desc := "(II)Z" } : Jvm.MethodName)) ∈ lw_all := lw_g (lw_at lw_m3 115 rfl) rfl
theorem q677 : (Jvm.Cond.privateMethod ({ cls := "PrayerMatsFace", name := "areTwo", desc := "(II)Z" } : Jvm.MethodName)) ∈ lw_tbl := lw_at lw_m3 116 rfl
theorem q678 : (Jvm.Cond.instanceMethod ({ cls := "PrayerMatsFace", name := "areTwo", desc := "(II)Z" } : Jvm.MethodName)) ∈ lw_all := lw_g (lw_at lw_m3 117 rfl) rfl
theorem q679 : (Jvm.Cond.code ({ cls := "PrayerMatsFace", name := "areTwo", desc := "(II)Z" } : Jvm.MethodName) prog_1_method_12_code (3 : Nat) (Option.some Jvm.ClassFile.FieldType.boolean)) ∈ lw_all := lw_g (lw_at lw_m3 118 rfl) rfl
theorem q680 : (Jvm.Cond.methodLink "PrayerMatsFace" (149 : Nat) ({ cls := "PrayerMatsFace$Quarter", name := "between", desc := "(II)I" } : Jvm.MethodName)) ∈ lw_all := lw_g (lw_at lw_m3 119 rfl) rfl
theorem q681 : (Jvm.Cond.methodLink "PrayerMatsFace" (153 : Nat) ({ cls := "PrayerMatsFace$Quarter", name := "likes", desc := "(II)I" } : Jvm.MethodName)) ∈ lw_all := lw_g (lw_at lw_m3 120 rfl) rfl
theorem q686 : (Jvm.Cond.static ({ cls := "PrayerMatsFace", name := "bits", desc := "(I)I" } : Jvm.MethodName)) ∈ lw_all := lw_g (lw_at lw_m3 125 rfl) rfl
theorem q687 : (Jvm.Cond.code ({ cls := "PrayerMatsFace", name := "bits", desc := "(I)I" } : Jvm.MethodName) prog_1_method_6_code (3 : Nat) (Option.some Jvm.ClassFile.FieldType.int)) ∈ lw_all := lw_g (lw_at lw_m3 126 rfl) rfl
theorem q690 : (Jvm.Cond.instanceMethod ({ cls := "PrayerMatsFace", name := "person", desc := "(III)I" } : Jvm.MethodName)) ∈ lw_all := lw_g (lw_at lw_m3 129 rfl) rfl
theorem q691 : (Jvm.Cond.selects "PrayerMatsFace" ({ cls := "PrayerMatsFace", name := "person", desc := "(III)I" } : Jvm.MethodName) ({ cls := "PrayerMatsFace", name := "person", desc := "(III)I" } : Jvm.MethodName)) ∈ lw_all := lw_g (lw_at lw_m3 130 rfl) rfl
theorem q692 : (Jvm.Cond.code ({ cls := "PrayerMatsFace", name := "person", desc := "(III)I" } : Jvm.MethodName) prog_1_method_18_code (5 : Nat) (Option.some Jvm.ClassFile.FieldType.int)) ∈ lw_all := lw_g (lw_at lw_m3 131 rfl) rfl
theorem q693 : (Jvm.Cond.methodLink "PrayerMatsFace" (156 : Nat) ({ cls := "PrayerMatsFace", name := "personWith", desc := "(II)LPrayerMatsFace$Person;" } : Jvm.MethodName)) ∈ lw_all := lw_g (lw_at lw_m3 132 rfl) rfl
theorem q694 : (Jvm.Cond.methodLink "PrayerMatsFace" (160 : Nat) ({ cls := "PrayerMatsFace$Quarter", name := "comes", desc := "(LPrayerMatsFace$Person;I)V" } : Jvm.MethodName)) ∈ lw_all := lw_g (lw_at lw_m3 133 rfl) rfl
theorem q696 : (Jvm.Cond.instanceMethod ({ cls := "PrayerMatsFace", name := "comes", desc := "(II)I" } : Jvm.MethodName)) ∈ lw_all := lw_g (lw_at lw_m3 135 rfl) rfl
theorem q697 : (Jvm.Cond.selects "PrayerMatsFace" ({ cls := "PrayerMatsFace", name := "comes", desc := "(II)I" } : Jvm.MethodName) ({ cls := "PrayerMatsFace", name := "comes", desc := "(II)I" } : Jvm.MethodName)) ∈ lw_all := lw_g (lw_at lw_m3 136 rfl) rfl
theorem q698 : (Jvm.Cond.code ({ cls := "PrayerMatsFace", name := "comes", desc := "(II)I" } : Jvm.MethodName) prog_1_method_19_code (5 : Nat) (Option.some Jvm.ClassFile.FieldType.int)) ∈ lw_all := lw_g (lw_at lw_m3 137 rfl) rfl
theorem q699 : (Jvm.Cond.methodLink "PrayerMatsFace" (164 : Nat) ({ cls := "PrayerMatsFace", name := "remembers", desc := "()V" } : Jvm.MethodName)) ∈ lw_all := lw_g (lw_at lw_m3 138 rfl) rfl
theorem q700 : (Jvm.Cond.privateMethod ({ cls := "PrayerMatsFace", name := "remembers", desc := "()V" } : Jvm.MethodName)) ∈ lw_tbl := lw_at lw_m3 139 rfl
theorem q701 : (Jvm.Cond.instanceMethod ({ cls := "PrayerMatsFace", name := "remembers", desc := "()V" } : Jvm.MethodName)) ∈ lw_all := lw_g (lw_at lw_m3 140 rfl) rfl
theorem q702 : (Jvm.Cond.code ({ cls := "PrayerMatsFace", name := "remembers", desc := "()V" } : Jvm.MethodName) prog_1_method_23_code (3 : Nat) (Option.none : Option Jvm.ClassFile.FieldType)) ∈ lw_all := lw_g (lw_at lw_m3 141 rfl) rfl
theorem q704 : (Jvm.Cond.instanceMethod ({ cls := "PrayerMatsFace", name := "quarrels", desc := "(III)I" } : Jvm.MethodName)) ∈ lw_all := lw_g (lw_at lw_m3 143 rfl) rfl
theorem q705 : (Jvm.Cond.selects "PrayerMatsFace" ({ cls := "PrayerMatsFace", name := "quarrels", desc := "(III)I" } : Jvm.MethodName) ({ cls := "PrayerMatsFace", name := "quarrels", desc := "(III)I" } : Jvm.MethodName)) ∈ lw_all := lw_g (lw_at lw_m3 144 rfl) rfl
theorem q706 : (Jvm.Cond.code ({ cls := "PrayerMatsFace", name := "quarrels", desc := "(III)I" } : Jvm.MethodName) prog_1_method_20_code (6 : Nat) (Option.some Jvm.ClassFile.FieldType.int)) ∈ lw_all := lw_g (lw_at lw_m3 145 rfl) rfl
theorem q707 : (Jvm.Cond.methodLink "PrayerMatsFace" (167 : Nat) ({ cls := "PrayerMatsFace$Quarter", name := "quarrels", desc := "(III)V" } : Jvm.MethodName)) ∈ lw_all := lw_g (lw_at lw_m3 146 rfl) rfl
theorem q709 : (Jvm.Cond.instanceMethod ({ cls := "PrayerMatsFace", name := "joins", desc := "(II)I" } : Jvm.MethodName)) ∈ lw_all := lw_g (lw_at lw_m3 148 rfl) rfl
theorem q710 : (Jvm.Cond.selects "PrayerMatsFace" ({ cls := "PrayerMatsFace", name := "joins", desc := "(II)I" } : Jvm.MethodName) ({ cls := "PrayerMatsFace", name := "joins", desc := "(II)I" } : Jvm.MethodName)) ∈ lw_all := lw_g (lw_at lw_m3 149 rfl) rfl
theorem q711 : (Jvm.Cond.code ({ cls := "PrayerMatsFace", name := "joins", desc := "(II)I" } : Jvm.MethodName) prog_1_method_21_code (3 : Nat) (Option.some Jvm.ClassFile.FieldType.int)) ∈ lw_all := lw_g (lw_at lw_m3 150 rfl) rfl
theorem q712 : (Jvm.Cond.methodLink "PrayerMatsFace" (171 : Nat) ({ cls := "PrayerMatsFace", name := "turnsMat", desc := "(LPrayerMatsFace$Quarter;II)V" } : Jvm.MethodName)) ∈ lw_all := lw_g (lw_at lw_m3 151 rfl) rfl
theorem q713 : (Jvm.Cond.methodLink "PrayerMatsFace" (175 : Nat) ({ cls := "PrayerMatsFace$Quarter", name := "mats", desc := "()I" } : Jvm.MethodName)) ∈ lw_all := lw_g (lw_at lw_m3 152 rfl) rfl
theorem q718 : (Jvm.Cond.instanceMethod ({ cls := "PrayerMatsFace", name := "days", desc := "(I)I" } : Jvm.MethodName)) ∈ lw_all := lw_g (lw_at lw_m3 157 rfl) rfl
theorem q719 : (Jvm.Cond.selects "PrayerMatsFace" ({ cls := "PrayerMatsFace", name := "days", desc := "(I)I" } : Jvm.MethodName) ({ cls := "PrayerMatsFace", name := "days", desc := "(I)I" } : Jvm.MethodName)) ∈ lw_all := lw_g (lw_at lw_m3 158 rfl) rfl
theorem q720 : (Jvm.Cond.code ({ cls := "PrayerMatsFace", name := "days", desc := "(I)I" } : Jvm.MethodName) prog_1_method_22_code (3 : Nat) (Option.some Jvm.ClassFile.FieldType.int)) ∈ lw_all := lw_g (lw_at lw_m3 159 rfl) rfl
theorem q721 : (Jvm.Cond.methodLink "PrayerMatsFace" (181 : Nat) ({ cls := "PrayerMatsFace$Quarter", name := "goesOn", desc := "(I)V" } : Jvm.MethodName)) ∈ lw_all := lw_g (lw_at lw_m3 160 rfl) rfl
theorem q722 : (Jvm.Cond.methodLink "PrayerMatsFace" (184 : Nat) ({ cls := "PrayerMatsFace$Quarter", name := "all", desc := "()I" } : Jvm.MethodName)) ∈ lw_all := lw_g (lw_at lw_m3 161 rfl) rfl
theorem q727 : (Jvm.Cond.instanceMethod ({ cls := "PrayerMatsFace", name := "back", desc := "()I" } : Jvm.MethodName)) ∈ lw_all := lw_g (lw_at lw_m3 166 rfl) rfl
theorem q728 : (Jvm.Cond.selects "PrayerMatsFace" ({ cls := "PrayerMatsFace", name := "back", desc := "()I" } : Jvm.MethodName) ({ cls := "PrayerMatsFace", name := "back", desc := "()I" } : Jvm.MethodName)) ∈ lw_all := lw_g (lw_at lw_m3 167 rfl) rfl
theorem q729 : (Jvm.Cond.code ({ cls := "PrayerMatsFace", name := "back", desc := "()I" } : Jvm.MethodName) prog_1_method_24_code (1 : Nat) (Option.some Jvm.ClassFile.FieldType.int)) ∈ lw_all := lw_g (lw_at lw_m3 168 rfl) rfl
theorem q731 : (Jvm.Cond.instanceMethod ({ cls := "PrayerMatsFace", name := "behind", desc := "(III)I" } : Jvm.MethodName)) ∈ lw_all := lw_g (lw_at lw_m3 170 rfl) rfl
theorem q732 : (Jvm.Cond.selects "PrayerMatsFace" ({ cls := "PrayerMatsFace", name := "behind", desc := "(III)I" } : Jvm.MethodName) ({ cls := "PrayerMatsFace", name := "behind", desc := "(III)I" } : Jvm.MethodName)) ∈ lw_all := lw_g (lw_at lw_m3 171 rfl) rfl
theorem q733 : (Jvm.Cond.code ({ cls := "PrayerMatsFace", name := "behind", desc := "(III)I" } : Jvm.MethodName) prog_1_method_27_code (5 : Nat) (Option.some Jvm.ClassFile.FieldType.int)) ∈ lw_all := lw_g (lw_at lw_m3 172 rfl) rfl
theorem q734 : (Jvm.Cond.methodLink "PrayerMatsFace" (185 : Nat) ({ cls := "PrayerMatsFace", name := "wrongDays", desc := "(I)I" } : Jvm.MethodName)) ∈ lw_all := lw_g (lw_at lw_m3 173 rfl) rfl
theorem q735 : (Jvm.Cond.static ({ cls := "PrayerMatsFace", name := "wrongDays", desc := "(I)I" } : Jvm.MethodName)) ∈ lw_all := lw_g (lw_at lw_m3 174 rfl) rfl
theorem q736 : (Jvm.Cond.code ({ cls := "PrayerMatsFace", name := "wrongDays", desc := "(I)I" } : Jvm.MethodName) prog_1_method_25_code (1 : Nat) (Option.some Jvm.ClassFile.FieldType.int)) ∈ lw_all := lw_g (lw_at lw_m3 175 rfl) rfl
theorem q737 : (Jvm.Cond.methodLink "PrayerMatsFace" (188 : Nat) ({ cls := "PrayerMatsFace", name := "goesOn", desc := "(I)V" } : Jvm.MethodName)) ∈ lw_all := lw_g (lw_at lw_m3 176 rfl) rfl
theorem q738 : (Jvm.Cond.privateMethod ({ cls := "PrayerMatsFace", name := "goesOn", desc := "(I)V" } : Jvm.MethodName)) ∈ lw_tbl := lw_at lw_m3 177 rfl
theorem q739 : (Jvm.Cond.instanceMethod ({ cls := "PrayerMatsFace", name := "goesOn", desc := "(I)V" } : Jvm.MethodName)) ∈ lw_all := lw_g (lw_at lw_m3 178 rfl) rfl
theorem q740 : (Jvm.Cond.code ({ cls := "PrayerMatsFace", name := "goesOn", desc := "(I)V" } : Jvm.MethodName) prog_1_method_26_code (2 : Nat) (Option.none : Option Jvm.ClassFile.FieldType)) ∈ lw_all := lw_g (lw_at lw_m3 179 rfl) rfl
theorem q742 : (Jvm.Cond.instanceMethod ({ cls := "PrayerMatsFace", name := "all", desc := "(II)I" } : Jvm.MethodName)) ∈ lw_all := lw_g (lw_at lw_m3 181 rfl) rfl
theorem q743 : (Jvm.Cond.selects "PrayerMatsFace" ({ cls := "PrayerMatsFace", name := "all", desc := "(II)I" } : Jvm.MethodName) ({ cls := "PrayerMatsFace", name := "all", desc := "(II)I" } : Jvm.MethodName)) ∈ lw_all := lw_g (lw_at lw_m3 182 rfl) rfl
theorem q744 : (Jvm.Cond.code ({ cls := "PrayerMatsFace", name := "all", desc := "(II)I" } : Jvm.MethodName) prog_1_method_29_code (4 : Nat) (Option.some Jvm.ClassFile.FieldType.int)) ∈ lw_all := lw_g (lw_at lw_m3 183 rfl) rfl
theorem q745 : (Jvm.Cond.methodLink "PrayerMatsFace" (189 : Nat) ({ cls := "PrayerMatsFace$Quarter", name := "mended", desc := "()I" } : Jvm.MethodName)) ∈ lw_all := lw_g (lw_at lw_m3 184 rfl) rfl
theorem q749 : (Jvm.Cond.methodLink "PrayerMatsFace" (192 : Nat) ({ cls := "PrayerMatsFace", name := "atLaw", desc := "(LPrayerMatsFace$Quarter;)I" } : Jvm.MethodName)) ∈ lw_all := lw_g (lw_at lw_m3 188 rfl) rfl
theorem q750 : (Jvm.Cond.static ({ cls := "PrayerMatsFace", name := "atLaw", desc := "(LPrayerMatsFace$Quarter;)I" } : Jvm.MethodName)) ∈ lw_all := lw_g (lw_at lw_m3 189 rfl) rfl
theorem q751 : (Jvm.Cond.code ({ cls := "PrayerMatsFace", name := "atLaw", desc := "(LPrayerMatsFace$Quarter;)I" } : Jvm.MethodName) prog_1_method_28_code (5 : Nat) (Option.some Jvm.ClassFile.FieldType.int)) ∈ lw_all := lw_g (lw_at lw_m3 190 rfl) rfl
theorem q753 : (Jvm.Cond.instanceMethod ({ cls := "PrayerMatsFace", name := "mended", desc := "(II)I" } : Jvm.MethodName)) ∈ lw_all := lw_g (lw_at lw_m3 192 rfl) rfl
theorem q754 : (Jvm.Cond.selects "PrayerMatsFace" ({ cls := "PrayerMatsFace", name := "mended", desc := "(II)I" } : Jvm.MethodName) ({ cls := "PrayerMatsFace", name := "mended", desc := "(II)I" } : Jvm.MethodName)) ∈ lw_all := lw_g (lw_at lw_m3 193 rfl) rfl
theorem q755 : (Jvm.Cond.code ({ cls := "PrayerMatsFace", name := "mended", desc := "(II)I" } : Jvm.MethodName) prog_1_method_32_code (3 : Nat) (Option.some Jvm.ClassFile.FieldType.int)) ∈ lw_all := lw_g (lw_at lw_m3 194 rfl) rfl
theorem q756 : (Jvm.Cond.methodLink "PrayerMatsFace" (199 : Nat) ({ cls := "PrayerMatsFace", name := "whenMended", desc := "(II)I" } : Jvm.MethodName)) ∈ lw_all := lw_g (lw_at lw_m3 195 rfl) rfl
theorem q757 : (Jvm.Cond.privateMethod ({ cls := "PrayerMatsFace", name := "whenMended", desc := "(II)I" } : Jvm.MethodName)) ∈ lw_tbl := lw_at lw_m3 196 rfl
theorem q758 : (Jvm.Cond.instanceMethod ({ cls := "PrayerMatsFace", name := "whenMended", desc := "(II)I" } : Jvm.MethodName)) ∈ lw_all := lw_g (lw_at lw_m3 197 rfl) rfl
theorem q759 : (Jvm.Cond.code ({ cls := "PrayerMatsFace", name := "whenMended", desc := "(II)I" } : Jvm.MethodName) prog_1_method_30_code (4 : Nat) (Option.some Jvm.ClassFile.FieldType.int)) ∈ lw_all := lw_g (lw_at lw_m3 198 rfl) rfl
theorem q760 : (Jvm.Cond.methodLink "PrayerMatsFace" (196 : Nat) ({ cls := "PrayerMatsFace$Quarter", name := "goes", desc := "()V" } : Jvm.MethodName)) ∈ lw_all := lw_g (lw_at lw_m3 199 rfl) rfl
theorem q761 : (Jvm.Cond.methodLink "PrayerMatsFace" (202 : Nat) ({ cls := "PrayerMatsFace", name := "told", desc := "(I)I" } : Jvm.MethodName)) ∈ lw_all := lw_g (lw_at lw_m3 200 rfl) rfl
theorem q762 : (Jvm.Cond.static ({ cls := "PrayerMatsFace", name := "told", desc := "(I)I" } : Jvm.MethodName)) ∈ lw_all := lw_g (lw_at lw_m3 201 rfl) rfl
theorem q763 : (Jvm.Cond.code ({ cls := "PrayerMatsFace", name := "told", desc := "(I)I" } : Jvm.MethodName) prog_1_method_31_code (1 : Nat) (Option.some Jvm.ClassFile.FieldType.int)) ∈ lw_all := lw_g (lw_at lw_m3 202 rfl) rfl
theorem q765 : (Jvm.Cond.instanceMethod ({ cls := "PrayerMatsFace", name := "never", desc := "()I" } : Jvm.MethodName)) ∈ lw_all := lw_g (lw_at lw_m3 204 rfl) rfl
theorem q766 : (Jvm.Cond.selects "PrayerMatsFace" ({ cls := "PrayerMatsFace", name := "never", desc := "()I" } : Jvm.MethodName) ({ cls := "PrayerMatsFace", name := "never", desc := "()I" } : Jvm.MethodName)) ∈ lw_all := lw_g (lw_at lw_m3 205 rfl) rfl
theorem q767 : (Jvm.Cond.code ({ cls := "PrayerMatsFace", name := "never", desc := "()I" } : Jvm.MethodName) prog_1_method_33_code (3 : Nat) (Option.some Jvm.ClassFile.FieldType.int)) ∈ lw_all := lw_g (lw_at lw_m3 206 rfl) rfl
theorem q769 : (Jvm.Cond.instanceMethod ({ cls := "PrayerMatsFace", name := "turn", desc := "(II)I" } : Jvm.MethodName)) ∈ lw_all := lw_g (lw_at lw_m3 208 rfl) rfl
theorem q770 : (Jvm.Cond.selects "PrayerMatsFace" ({ cls := "PrayerMatsFace", name := "turn", desc := "(II)I" } : Jvm.MethodName) ({ cls := "PrayerMatsFace", name := "turn", desc := "(II)I" } : Jvm.MethodName)) ∈ lw_all := lw_g (lw_at lw_m3 209 rfl) rfl
theorem q771 : (Jvm.Cond.code ({ cls := "PrayerMatsFace", name := "turn", desc := "(II)I" } : Jvm.MethodName) prog_1_method_34_code (3 : Nat) (Option.some Jvm.ClassFile.FieldType.int)) ∈ lw_all := lw_g (lw_at lw_m3 210 rfl) rfl
theorem q772 : (Jvm.Cond.methodLink "PrayerMatsFace" (205 : Nat) ({ cls := "PrayerMatsFace", name := "refuseFar", desc := "(I)I" } : Jvm.MethodName)) ∈ lw_all := lw_g (lw_at lw_m3 211 rfl) rfl
theorem q773 : (Jvm.Cond.privateMethod ({ cls := "PrayerMatsFace", name := "refuseFar", desc := "(I)I" } : Jvm.MethodName)) ∈ lw_tbl := lw_at lw_m3 212 rfl
theorem q774 : (Jvm.Cond.instanceMethod ({ cls := "PrayerMatsFace", name := "refuseFar", desc := "(I)I" } : Jvm.MethodName)) ∈ lw_all := lw_g (lw_at lw_m3 213 rfl) rfl
theorem q775 : (Jvm.Cond.code ({ cls := "PrayerMatsFace", name := "refuseFar", desc := "(I)I" } : Jvm.MethodName) prog_1_method_8_code (2 : Nat) (Option.some Jvm.ClassFile.FieldType.int)) ∈ lw_all := lw_g (lw_at lw_m3 214 rfl) rfl
theorem q776 : (Jvm.Cond.constant "PrayerMatsFace" (47 : Nat) (1000000000 : Int32)) ∈ lw_all := lw_g (lw_at lw_m3 215 rfl) rfl
theorem q778 : (Jvm.Cond.instanceMethod ({ cls := "PrayerMatsFace", name := "leaves", desc := "(I)I" } : Jvm.MethodName)) ∈ lw_all := lw_g (lw_at lw_m3 217 rfl) rfl
theorem q779 : (Jvm.Cond.selects "PrayerMatsFace" ({ cls := "PrayerMatsFace", name := "leaves", desc := "(I)I" } : Jvm.MethodName) ({ cls := "PrayerMatsFace", name := "leaves", desc := "(I)I" } : Jvm.MethodName)) ∈ lw_all := lw_g (lw_at lw_m3 218 rfl) rfl
theorem q780 : (Jvm.Cond.code ({ cls := "PrayerMatsFace", name := "leaves", desc := "(I)I" } : Jvm.MethodName) prog_1_method_35_code (7 : Nat) (Option.some Jvm.ClassFile.FieldType.int)) ∈ lw_all := lw_g (lw_at lw_m3 219 rfl) rfl
theorem q781 : (Jvm.Cond.methodLink "PrayerMatsFace" (208 : Nat) ({ cls := "PrayerMatsFace$Quarter", name := "isRid", desc := "(I)Z" } : Jvm.MethodName)) ∈ lw_all := lw_g (lw_at lw_m3 220 rfl) rfl
theorem q786 : (Jvm.Cond.methodLink "PrayerMatsFace" (211 : Nat) ({ cls := "PrayerMatsFace$Quarter", name := "doLeave", desc := "(II)Z" } : Jvm.MethodName)) ∈ lw_all := lw_g (lw_at lw_m3 225 rfl) rfl
theorem q795 : (Jvm.Cond.instanceMethod ({ cls := "PrayerMatsFace", name := "pairings", desc := "(I)I" } : Jvm.MethodName)) ∈ lw_all := lw_g (lw_at lw_m3 234 rfl) rfl
theorem q796 : (Jvm.Cond.selects "PrayerMatsFace" ({ cls := "PrayerMatsFace", name := "pairings", desc := "(I)I" } : Jvm.MethodName) ({ cls := "PrayerMatsFace", name := "pairings", desc := "(I)I" } : Jvm.MethodName)) ∈ lw_all := lw_g (lw_at lw_m3 235 rfl) rfl
theorem q797 : (Jvm.Cond.code ({ cls := "PrayerMatsFace", name := "pairings", desc := "(I)I" } : Jvm.MethodName) prog_1_method_40_code (2 : Nat) (Option.some Jvm.ClassFile.FieldType.int)) ∈ lw_all := lw_g (lw_at lw_m3 236 rfl) rfl
theorem q798 : (Jvm.Cond.methodLink "PrayerMatsFace" (247 : Nat) ({ cls := "PrayerMatsFace", name := "findsPairing", desc := "(Z)V" } : Jvm.MethodName)) ∈ lw_all := lw_g (lw_at lw_m3 237 rfl) rfl
theorem q799 : (Jvm.Cond.privateMethod ({ cls := "PrayerMatsFace", name := "findsPairing", desc := "(Z)V" } : Jvm.MethodName)) ∈ lw_tbl := lw_at lw_m3 238 rfl
theorem q800 : (Jvm.Cond.instanceMethod ({ cls := "PrayerMatsFace", name := "findsPairing", desc := "(Z)V" } : Jvm.MethodName)) ∈ lw_all := lw_g (lw_at lw_m3 239 rfl) rfl
theorem q801 : (Jvm.Cond.code ({ cls := "PrayerMatsFace", name := "findsPairing", desc := "(Z)V" } : Jvm.MethodName) prog_1_method_39_code (3 : Nat) (Option.none : Option Jvm.ClassFile.FieldType)) ∈ lw_all := lw_g (lw_at lw_m4 0 rfl) rfl
theorem q802 : (Jvm.Cond.methodLink "PrayerMatsFace" (243 : Nat) ({ cls := "PrayerMatsFace", name := "eachPairing", desc := "(IZ)V" } : Jvm.MethodName)) ∈ lw_all := lw_g (lw_at lw_m4 1 rfl) rfl
theorem q803 : (Jvm.Cond.privateMethod ({ cls := "PrayerMatsFace", name := "eachPairing", desc := "(IZ)V" } : Jvm.MethodName)) ∈ lw_tbl := lw_at lw_m4 2 rfl
theorem q804 : (Jvm.Cond.instanceMethod ({ cls := "PrayerMatsFace", name := "eachPairing", desc := "(IZ)V" } : Jvm.MethodName)) ∈ lw_all := lw_g (lw_at lw_m4 3 rfl) rfl
theorem q805 : (Jvm.Cond.code ({ cls := "PrayerMatsFace", name := "eachPairing", desc := "(IZ)V" } : Jvm.MethodName) prog_1_method_38_code (6 : Nat) (Option.none : Option Jvm.ClassFile.FieldType)) ∈ lw_all := lw_g (lw_at lw_m4 4 rfl) rfl
theorem q806 : (Jvm.Cond.methodLink "PrayerMatsFace" (236 : Nat) ({ cls := "PrayerMatsFace", name := "looksAt", desc := "(Z)V" } : Jvm.MethodName)) ∈ lw_all := lw_g (lw_at lw_m4 5 rfl) rfl
theorem q807 : (Jvm.Cond.privateMethod ({ cls := "PrayerMatsFace", name := "looksAt", desc := "(Z)V" } : Jvm.MethodName)) ∈ lw_tbl := lw_at lw_m4 6 rfl
theorem q808 : (Jvm.Cond.instanceMethod ({ cls := "PrayerMatsFace", name := "looksAt", desc := "(Z)V" } : Jvm.MethodName)) ∈ lw_all := lw_g (lw_at lw_m4 7 rfl) rfl
theorem q809 : (Jvm.Cond.code ({ cls := "PrayerMatsFace", name := "looksAt", desc := "(Z)V" } : Jvm.MethodName) prog_1_method_37_code (2 : Nat) (Option.none : Option Jvm.ClassFile.FieldType)) ∈ lw_all := lw_g (lw_at lw_m4 8 rfl) rfl
theorem q810 : (Jvm.Cond.methodLink "PrayerMatsFace" (220 : Nat) ({ cls := "PrayerMatsFace$Quarter", name := "isStable", desc := "()Z" } : Jvm.MethodName)) ∈ lw_all := lw_g (lw_at lw_m4 9 rfl) rfl
theorem q816 : (Jvm.Cond.methodLink "PrayerMatsFace" (227 : Nat) ({ cls := "PrayerMatsFace", name := "keepsPairing", desc := "()V" } : Jvm.MethodName)) ∈ lw_all := lw_g (lw_at lw_m4 15 rfl) rfl
theorem q817 : (Jvm.Cond.privateMethod ({ cls := "PrayerMatsFace", name := "keepsPairing", desc := "()V" } : Jvm.MethodName)) ∈ lw_tbl := lw_at lw_m4 16 rfl
theorem q818 : (Jvm.Cond.instanceMethod ({ cls := "PrayerMatsFace", name := "keepsPairing", desc := "()V" } : Jvm.MethodName)) ∈ lw_all := lw_g (lw_at lw_m4 17 rfl) rfl
theorem q819 : (Jvm.Cond.code ({ cls := "PrayerMatsFace", name := "keepsPairing", desc := "()V" } : Jvm.MethodName) prog_1_method_36_code (1 : Nat) (Option.none : Option Jvm.ClassFile.FieldType)) ∈ lw_all := lw_g (lw_at lw_m4 18 rfl) rfl
theorem q820 : (Jvm.Cond.methodLink "PrayerMatsFace" (214 : Nat) ({ cls := "java/lang/System", name := "arraycopy", desc := "(Ljava/lang/Object;ILjava/lang/Object;II)V" } : Jvm.MethodName)) ∈ lw_all := lw_g (lw_at lw_m4 19 rfl) rfl
theorem q821 : (Jvm.Cond.methodLink "PrayerMatsFace" (240 : Nat) ({ cls := "PrayerMatsFace", name := "has", desc := "(II)Z" } : Jvm.MethodName)) ∈ lw_all := lw_g (lw_at lw_m4 20 rfl) rfl
theorem q823 : (Jvm.Cond.instanceMethod ({ cls := "PrayerMatsFace", name := "bestPairing", desc := "(II)I" } : Jvm.MethodName)) ∈ lw_all := lw_g (lw_at lw_m4 22 rfl) rfl
theorem q824 : (Jvm.Cond.selects "PrayerMatsFace" ({ cls := "PrayerMatsFace", name := "bestPairing", desc := "(II)I" } : Jvm.MethodName) ({ cls := "PrayerMatsFace", name := "bestPairing", desc := "(II)I" } : Jvm.MethodName)) ∈ lw_all := lw_g (lw_at lw_m4 23 rfl) rfl
theorem q825 : (Jvm.Cond.code ({ cls := "PrayerMatsFace", name := "bestPairing", desc := "(II)I" } : Jvm.MethodName) prog_1_method_41_code (4 : Nat) (Option.some Jvm.ClassFile.FieldType.int)) ∈ lw_all := lw_g (lw_at lw_m4 24 rfl) rfl
theorem q827 : (Jvm.Cond.instanceMethod ({ cls := "PrayerMatsFace", name := "soonest", desc := "(II)I" } : Jvm.MethodName)) ∈ lw_all := lw_g (lw_at lw_m4 26 rfl) rfl
theorem q828 : (Jvm.Cond.selects "PrayerMatsFace" ({ cls := "PrayerMatsFace", name := "soonest", desc := "(II)I" } : Jvm.MethodName) ({ cls := "PrayerMatsFace", name := "soonest", desc := "(II)I" } : Jvm.MethodName)) ∈ lw_all := lw_g (lw_at lw_m4 27 rfl) rfl
theorem q829 : (Jvm.Cond.code ({ cls := "PrayerMatsFace", name := "soonest", desc := "(II)I" } : Jvm.MethodName) prog_1_method_42_code (3 : Nat) (Option.some Jvm.ClassFile.FieldType.int)) ∈ lw_all := lw_g (lw_at lw_m4 28 rfl) rfl
theorem q831 : (Jvm.Cond.instanceMethod ({ cls := "PrayerMatsFace", name := "mateFor", desc := "(II)I" } : Jvm.MethodName)) ∈ lw_all := lw_g (lw_at lw_m4 30 rfl) rfl
theorem q832 : (Jvm.Cond.selects "PrayerMatsFace" ({ cls := "PrayerMatsFace", name := "mateFor", desc := "(II)I" } : Jvm.MethodName) ({ cls := "PrayerMatsFace", name := "mateFor", desc := "(II)I" } : Jvm.MethodName)) ∈ lw_all := lw_g (lw_at lw_m4 31 rfl) rfl
theorem q833 : (Jvm.Cond.code ({ cls := "PrayerMatsFace", name := "mateFor", desc := "(II)I" } : Jvm.MethodName) prog_1_method_44_code (6 : Nat) (Option.some Jvm.ClassFile.FieldType.int)) ∈ lw_all := lw_g (lw_at lw_m4 32 rfl) rfl
theorem q834 : (Jvm.Cond.methodLink "PrayerMatsFace" (250 : Nat) ({ cls := "PrayerMatsFace", name := "favourite", desc := "(I)I" } : Jvm.MethodName)) ∈ lw_all := lw_g (lw_at lw_m4 33 rfl) rfl
theorem q835 : (Jvm.Cond.privateMethod ({ cls := "PrayerMatsFace", name := "favourite", desc := "(I)I" } : Jvm.MethodName)) ∈ lw_tbl := lw_at lw_m4 34 rfl
theorem q836 : (Jvm.Cond.instanceMethod ({ cls := "PrayerMatsFace", name := "favourite", desc := "(I)I" } : Jvm.MethodName)) ∈ lw_all := lw_g (lw_at lw_m4 35 rfl) rfl
theorem q837 : (Jvm.Cond.code ({ cls := "PrayerMatsFace", name := "favourite", desc := "(I)I" } : Jvm.MethodName) prog_1_method_43_code (4 : Nat) (Option.some Jvm.ClassFile.FieldType.int)) ∈ lw_all := lw_g (lw_at lw_m4 36 rfl) rfl
theorem q838 : (Jvm.Cond.methodLink "PrayerMatsFace" (253 : Nat) ({ cls := "PrayerMatsFace$Quarter", name := "wouldRather", desc := "(II)Z" } : Jvm.MethodName)) ∈ lw_all := lw_g (lw_at lw_m4 37 rfl) rfl
theorem q840 : (Jvm.Cond.instanceMethod ({ cls := "PrayerMatsFace", name := "hoursFor", desc := "(II)I" } : Jvm.MethodName)) ∈ lw_all := lw_g (lw_at lw_m4 39 rfl) rfl
theorem q841 : (Jvm.Cond.selects "PrayerMatsFace" ({ cls := "PrayerMatsFace", name := "hoursFor", desc := "(II)I" } : Jvm.MethodName) ({ cls := "PrayerMatsFace", name := "hoursFor", desc := "(II)I" } : Jvm.MethodName)) ∈ lw_all := lw_g (lw_at lw_m4 40 rfl) rfl
theorem q842 : (Jvm.Cond.code ({ cls := "PrayerMatsFace", name := "hoursFor", desc := "(II)I" } : Jvm.MethodName) prog_1_method_45_code (9 : Nat) (Option.some Jvm.ClassFile.FieldType.int)) ∈ lw_all := lw_g (lw_at lw_m4 41 rfl) rfl
theorem q843 : (Jvm.Cond.methodLink "PrayerMatsFace" (256 : Nat) ({ cls := "PrayerMatsFace", name := "bits", desc := "(I)I" } : Jvm.MethodName)) ∈ lw_all := lw_g (lw_at lw_m4 42 rfl) rfl
theorem q845 : (Jvm.Cond.instanceMethod ({ cls := "PrayerMatsFace", name := "swap", desc := "()I" } : Jvm.MethodName)) ∈ lw_all := lw_g (lw_at lw_m4 44 rfl) rfl
theorem q846 : (Jvm.Cond.selects "PrayerMatsFace" ({ cls := "PrayerMatsFace", name := "swap", desc := "()I" } : Jvm.MethodName) ({ cls := "PrayerMatsFace", name := "swap", desc := "()I" } : Jvm.MethodName)) ∈ lw_all := lw_g (lw_at lw_m4 45 rfl) rfl
theorem q847 : (Jvm.Cond.code ({ cls := "PrayerMatsFace", name := "swap", desc := "()I" } : Jvm.MethodName) prog_1_method_46_code (7 : Nat) (Option.some Jvm.ClassFile.FieldType.int)) ∈ lw_all := lw_g (lw_at lw_m4 46 rfl) rfl
theorem q848 : (Jvm.Cond.methodLink "PrayerMatsFace" (259 : Nat) ({ cls := "PrayerMatsFace$Quarter", name := "allLikes", desc := "()I" } : Jvm.MethodName)) ∈ lw_all := lw_g (lw_at lw_m4 47 rfl) rfl
theorem q853 : (Jvm.Cond.instanceMethod ({ cls := "PrayerMatsFace", name := "glad", desc := "(I)I" } : Jvm.MethodName)) ∈ lw_all := lw_g (lw_at lw_m4 52 rfl) rfl
theorem q854 : (Jvm.Cond.selects "PrayerMatsFace" ({ cls := "PrayerMatsFace", name := "glad", desc := "(I)I" } : Jvm.MethodName) ({ cls := "PrayerMatsFace", name := "glad", desc := "(I)I" } : Jvm.MethodName)) ∈ lw_all := lw_g (lw_at lw_m4 53 rfl) rfl
theorem q855 : (Jvm.Cond.code ({ cls := "PrayerMatsFace", name := "glad", desc := "(I)I" } : Jvm.MethodName) prog_1_method_47_code (3 : Nat) (Option.some Jvm.ClassFile.FieldType.int)) ∈ lw_all := lw_g (lw_at lw_m4 54 rfl) rfl
theorem q857 : (Jvm.Cond.instanceMethod ({ cls := "PrayerMatsFace", name := "who", desc := "(III)I" } : Jvm.MethodName)) ∈ lw_all := lw_g (lw_at lw_m4 56 rfl) rfl
theorem q858 : (Jvm.Cond.selects "PrayerMatsFace" ({ cls := "PrayerMatsFace", name := "who", desc := "(III)I" } : Jvm.MethodName) ({ cls := "PrayerMatsFace", name := "who", desc := "(III)I" } : Jvm.MethodName)) ∈ lw_all := lw_g (lw_at lw_m4 57 rfl) rfl
theorem q859 : (Jvm.Cond.code ({ cls := "PrayerMatsFace", name := "who", desc := "(III)I" } : Jvm.MethodName) prog_1_method_50_code (9 : Nat) (Option.some Jvm.ClassFile.FieldType.int)) ∈ lw_all := lw_g (lw_at lw_m4 58 rfl) rfl
theorem q860 : (Jvm.Cond.methodLink "PrayerMatsFace" (275 : Nat) ({ cls := "PrayerMatsFace", name := "supposes", desc := "(III)V" } : Jvm.MethodName)) ∈ lw_all := lw_g (lw_at lw_m4 59 rfl) rfl
theorem q861 : (Jvm.Cond.privateMethod ({ cls := "PrayerMatsFace", name := "supposes", desc := "(III)V" } : Jvm.MethodName)) ∈ lw_tbl := lw_at lw_m4 60 rfl
theorem q862 : (Jvm.Cond.instanceMethod ({ cls := "PrayerMatsFace", name := "supposes", desc := "(III)V" } : Jvm.MethodName)) ∈ lw_all := lw_g (lw_at lw_m4 61 rfl) rfl
theorem q863 : (Jvm.Cond.code ({ cls := "PrayerMatsFace", name := "supposes", desc := "(III)V" } : Jvm.MethodName) prog_1_method_49_code (5 : Nat) (Option.none : Option Jvm.ClassFile.FieldType)) ∈ lw_all := lw_g (lw_at lw_m4 62 rfl) rfl
theorem q864 : (Jvm.Cond.methodLink "PrayerMatsFace" (269 : Nat) ({ cls := "java/util/ArrayList", name := "set", desc := "(ILjava/lang/Object;)Ljava/lang/Object;" } : Jvm.MethodName)) ∈ lw_all := lw_g (lw_at lw_m4 63 rfl) rfl
theorem q868 : (Jvm.Cond.methodLink "PrayerMatsFace" (278 : Nat) ({ cls := "PrayerMatsFace", name := "isQuarrelSo", desc := "(II)Z" } : Jvm.MethodName)) ∈ lw_all := lw_g (lw_at lw_m4 67 rfl) rfl
theorem q869 : (Jvm.Cond.privateMethod ({ cls := "PrayerMatsFace", name := "isQuarrelSo", desc := "(II)Z" } : Jvm.MethodName)) ∈ lw_tbl := lw_at lw_m4 68 rfl
theorem q870 : (Jvm.Cond.instanceMethod ({ cls := "PrayerMatsFace", name := "isQuarrelSo", desc := "(II)Z" } : Jvm.MethodName)) ∈ lw_all := lw_g (lw_at lw_m4 69 rfl) rfl
theorem q871 : (Jvm.Cond.code ({ cls := "PrayerMatsFace", name := "isQuarrelSo", desc := "(II)Z" } : Jvm.MethodName) prog_1_method_48_code (4 : Nat) (Option.some Jvm.ClassFile.FieldType.boolean)) ∈ lw_all := lw_g (lw_at lw_m4 70 rfl) rfl
theorem q873 : (Jvm.Cond.instanceMethod ({ cls := "PrayerMatsFace", name := "ways", desc := "(II)I" } : Jvm.MethodName)) ∈ lw_all := lw_g (lw_at lw_m4 72 rfl) rfl
theorem q874 : (Jvm.Cond.selects "PrayerMatsFace" ({ cls := "PrayerMatsFace", name := "ways", desc := "(II)I" } : Jvm.MethodName) ({ cls := "PrayerMatsFace", name := "ways", desc := "(II)I" } : Jvm.MethodName)) ∈ lw_all := lw_g (lw_at lw_m4 73 rfl) rfl
theorem q875 : (Jvm.Cond.code ({ cls := "PrayerMatsFace", name := "ways", desc := "(II)I" } : Jvm.MethodName) prog_1_method_52_code (7 : Nat) (Option.some Jvm.ClassFile.FieldType.int)) ∈ lw_all := lw_g (lw_at lw_m4 74 rfl) rfl
theorem q876 : (Jvm.Cond.methodLink "PrayerMatsFace" (286 : Nat) ({ cls := "PrayerMatsFace", name := "gains", desc := "(III)I" } : Jvm.MethodName)) ∈ lw_all := lw_g (lw_at lw_m4 75 rfl) rfl
theorem q877 : (Jvm.Cond.static ({ cls := "PrayerMatsFace", name := "gains", desc := "(III)I" } : Jvm.MethodName)) ∈ lw_all := lw_g (lw_at lw_m4 76 rfl) rfl
theorem q878 : (Jvm.Cond.code ({ cls := "PrayerMatsFace", name := "gains", desc := "(III)I" } : Jvm.MethodName) prog_1_method_51_code (4 : Nat) (Option.some Jvm.ClassFile.FieldType.int)) ∈ lw_all := lw_g (lw_at lw_m4 77 rfl) rfl
theorem q879 : (Jvm.Cond.methodLink "PrayerMatsFace" (281 : Nat) ({ cls := "java/lang/Math", name := "max", desc := "(II)I" } : Jvm.MethodName)) ∈ lw_all := lw_g (lw_at lw_m4 78 rfl) rfl
theorem q881 : (Jvm.Cond.instanceMethod ({ cls := "PrayerMatsFace", name := "away", desc := "(IIIIII)J" } : Jvm.MethodName)) ∈ lw_all := lw_g (lw_at lw_m4 80 rfl) rfl
theorem q882 : (Jvm.Cond.selects "PrayerMatsFace" ({ cls := "PrayerMatsFace", name := "away", desc := "(IIIIII)J" } : Jvm.MethodName) ({ cls := "PrayerMatsFace", name := "away", desc := "(IIIIII)J" } : Jvm.MethodName)) ∈ lw_all := lw_g (lw_at lw_m4 81 rfl) rfl
theorem q883 : (Jvm.Cond.code ({ cls := "PrayerMatsFace", name := "away", desc := "(IIIIII)J" } : Jvm.MethodName) prog_1_method_57_code (11 : Nat) (Option.some Jvm.ClassFile.FieldType.long)) ∈ lw_all := lw_g (lw_at lw_m4 82 rfl) rfl
theorem q884 : (Jvm.Cond.methodLink "PrayerMatsFace" (293 : Nat) ({ cls := "PrayerMatsFace", name := "refuseWide", desc := "(I)J" } : Jvm.MethodName)) ∈ lw_all := lw_g (lw_at lw_m4 83 rfl) rfl
theorem q885 : (Jvm.Cond.privateMethod ({ cls := "PrayerMatsFace", name := "refuseWide", desc := "(I)J" } : Jvm.MethodName)) ∈ lw_tbl := lw_at lw_m4 84 rfl
theorem q886 : (Jvm.Cond.instanceMethod ({ cls := "PrayerMatsFace", name := "refuseWide", desc := "(I)J" } : Jvm.MethodName)) ∈ lw_all := lw_g (lw_at lw_m4 85 rfl) rfl
theorem q887 : (Jvm.Cond.code ({ cls := "PrayerMatsFace", name := "refuseWide", desc := "(I)J" } : Jvm.MethodName) prog_1_method_9_code (2 : Nat) (Option.some Jvm.ClassFile.FieldType.long)) ∈ lw_all := lw_g (lw_at lw_m4 86 rfl) rfl
theorem q888 : (Jvm.Cond.constantLong "PrayerMatsFace" (52 : Nat) (4000000000000000000 : Int64)) ∈ lw_all := lw_g (lw_at lw_m4 87 rfl) rfl
theorem q889 : (Jvm.Cond.methodLink "PrayerMatsFace" (297 : Nat) ({ cls := "PrayerMatsFace", name := "quarrelBy", desc := "(IIII)I" } : Jvm.MethodName)) ∈ lw_all := lw_g (lw_at lw_m4 88 rfl) rfl
theorem q890 : (Jvm.Cond.privateMethod ({ cls := "PrayerMatsFace", name := "quarrelBy", desc := "(IIII)I" } : Jvm.MethodName)) ∈ lw_tbl := lw_at lw_m4 89 rfl
theorem q891 : (Jvm.Cond.instanceMethod ({ cls := "PrayerMatsFace", name := "quarrelBy", desc := "(IIII)I" } : Jvm.MethodName)) ∈ lw_all := lw_g (lw_at lw_m4 90 rfl) rfl
theorem q892 : (Jvm.Cond.code ({ cls := "PrayerMatsFace", name := "quarrelBy", desc := "(IIII)I" } : Jvm.MethodName) prog_1_method_56_code (6 : Nat) (Option.some Jvm.ClassFile.FieldType.int)) ∈ lw_all := lw_g (lw_at lw_m4 91 rfl) rfl
theorem q893 : (Jvm.Cond.methodLink "PrayerMatsFace" (301 : Nat) ({ cls := "PrayerMatsFace", name := "power", desc := "(JI)J" } : Jvm.MethodName)) ∈ lw_all := lw_g (lw_at lw_m4 92 rfl) rfl
theorem q894 : (Jvm.Cond.static ({ cls := "PrayerMatsFace", name := "power", desc := "(JI)J" } : Jvm.MethodName)) ∈ lw_all := lw_g (lw_at lw_m4 93 rfl) rfl
theorem q895 : (Jvm.Cond.code ({ cls := "PrayerMatsFace", name := "power", desc := "(JI)J" } : Jvm.MethodName) prog_1_method_55_code (6 : Nat) (Option.some Jvm.ClassFile.FieldType.long)) ∈ lw_all := lw_g (lw_at lw_m4 94 rfl) rfl
theorem q896 : (Jvm.Cond.methodLink "PrayerMatsFace" (305 : Nat) ({ cls := "PrayerMatsFace", name := "inLeast", desc := "(JJI)J" } : Jvm.MethodName)) ∈ lw_all := lw_g (lw_at lw_m4 95 rfl) rfl
theorem q897 : (Jvm.Cond.static ({ cls := "PrayerMatsFace", name := "inLeast", desc := "(JJI)J" } : Jvm.MethodName)) ∈ lw_all := lw_g (lw_at lw_m4 96 rfl) rfl
theorem q898 : (Jvm.Cond.code ({ cls := "PrayerMatsFace", name := "inLeast", desc := "(JJI)J" } : Jvm.MethodName) prog_1_method_54_code (5 : Nat) (Option.some Jvm.ClassFile.FieldType.long)) ∈ lw_all := lw_g (lw_at lw_m4 97 rfl) rfl
theorem q899 : (Jvm.Cond.methodLink "PrayerMatsFace" (289 : Nat) ({ cls := "PrayerMatsFace", name := "common", desc := "(JJ)J" } : Jvm.MethodName)) ∈ lw_all := lw_g (lw_at lw_m4 98 rfl) rfl
theorem q900 : (Jvm.Cond.static ({ cls := "PrayerMatsFace", name := "common", desc := "(JJ)J" } : Jvm.MethodName)) ∈ lw_all := lw_g (lw_at lw_m4 99 rfl) rfl
theorem q901 : (Jvm.Cond.code ({ cls := "PrayerMatsFace", name := "common", desc := "(JJ)J" } : Jvm.MethodName) prog_1_method_53_code (10 : Nat) (Option.some Jvm.ClassFile.FieldType.long)) ∈ lw_all := lw_g (lw_at lw_m4 100 rfl) rfl
theorem q903 : (Jvm.Cond.instanceMethod ({ cls := "PrayerMatsFace", name := "fullest", desc := "(I)I" } : Jvm.MethodName)) ∈ lw_all := lw_g (lw_at lw_m4 102 rfl) rfl
theorem q904 : (Jvm.Cond.selects "PrayerMatsFace" ({ cls := "PrayerMatsFace", name := "fullest", desc := "(I)I" } : Jvm.MethodName) ({ cls := "PrayerMatsFace", name := "fullest", desc := "(I)I" } : Jvm.MethodName)) ∈ lw_all := lw_g (lw_at lw_m4 103 rfl) rfl
theorem q905 : (Jvm.Cond.code ({ cls := "PrayerMatsFace", name := "fullest", desc := "(I)I" } : Jvm.MethodName) prog_1_method_59_code (4 : Nat) (Option.some Jvm.ClassFile.FieldType.int)) ∈ lw_all := lw_g (lw_at lw_m4 104 rfl) rfl
theorem q906 : (Jvm.Cond.methodLink "PrayerMatsFace" (309 : Nat) ({ cls := "PrayerMatsFace", name := "comingAt", desc := "(I)I" } : Jvm.MethodName)) ∈ lw_all := lw_g (lw_at lw_m4 105 rfl) rfl
theorem q907 : (Jvm.Cond.privateMethod ({ cls := "PrayerMatsFace", name := "comingAt", desc := "(I)I" } : Jvm.MethodName)) ∈ lw_tbl := lw_at lw_m4 106 rfl
theorem q908 : (Jvm.Cond.instanceMethod ({ cls := "PrayerMatsFace", name := "comingAt", desc := "(I)I" } : Jvm.MethodName)) ∈ lw_all := lw_g (lw_at lw_m4 107 rfl) rfl
theorem q909 : (Jvm.Cond.code ({ cls := "PrayerMatsFace", name := "comingAt", desc := "(I)I" } : Jvm.MethodName) prog_1_method_58_code (4 : Nat) (Option.some Jvm.ClassFile.FieldType.int)) ∈ lw_all := lw_g (lw_at lw_m4 108 rfl) rfl
theorem q911 : (Jvm.Cond.instanceMethod ({ cls := "PrayerMatsFace", name := "charmer", desc := "()I" } : Jvm.MethodName)) ∈ lw_all := lw_g (lw_at lw_m4 110 rfl) rfl
theorem q912 : (Jvm.Cond.selects "PrayerMatsFace" ({ cls := "PrayerMatsFace", name := "charmer", desc := "()I" } : Jvm.MethodName) ({ cls := "PrayerMatsFace", name := "charmer", desc := "()I" } : Jvm.MethodName)) ∈ lw_all := lw_g (lw_at lw_m4 111 rfl) rfl
theorem q913 : (Jvm.Cond.code ({ cls := "PrayerMatsFace", name := "charmer", desc := "()I" } : Jvm.MethodName) prog_1_method_60_code (3 : Nat) (Option.some Jvm.ClassFile.FieldType.int)) ∈ lw_all := lw_g (lw_at lw_m4 112 rfl) rfl
theorem q915 : (Jvm.Cond.instanceMethod ({ cls := "PrayerMatsFace", name := "friends", desc := "()I" } : Jvm.MethodName)) ∈ lw_all := lw_g (lw_at lw_m4 114 rfl) rfl
theorem q916 : (Jvm.Cond.selects "PrayerMatsFace" ({ cls := "PrayerMatsFace", name := "friends", desc := "()I" } : Jvm.MethodName) ({ cls := "PrayerMatsFace", name := "friends", desc := "()I" } : Jvm.MethodName)) ∈ lw_all := lw_g (lw_at lw_m4 115 rfl) rfl
theorem q917 : (Jvm.Cond.code ({ cls := "PrayerMatsFace", name := "friends", desc := "()I" } : Jvm.MethodName) prog_1_method_61_code (4 : Nat) (Option.some Jvm.ClassFile.FieldType.int)) ∈ lw_all := lw_g (lw_at lw_m4 116 rfl) rfl
theorem q919 : (Jvm.Cond.instanceMethod ({ cls := "PrayerMatsFace", name := "chain", desc := "(I)I" } : Jvm.MethodName)) ∈ lw_all := lw_g (lw_at lw_m4 118 rfl) rfl
theorem q920 : (Jvm.Cond.selects "PrayerMatsFace" ({ cls := "PrayerMatsFace", name := "chain", desc := "(I)I" } : Jvm.MethodName) ({ cls := "PrayerMatsFace", name := "chain", desc := "(I)I" } : Jvm.MethodName)) ∈ lw_all := lw_g (lw_at lw_m4 119 rfl) rfl
theorem q921 : (Jvm.Cond.code ({ cls := "PrayerMatsFace", name := "chain", desc := "(I)I" } : Jvm.MethodName) prog_1_method_62_code (4 : Nat) (Option.some Jvm.ClassFile.FieldType.int)) ∈ lw_all := lw_g (lw_at lw_m4 120 rfl) rfl
theorem q923 : (Jvm.Cond.instanceMethod ({ cls := "PrayerMatsFace", name := "lonely", desc := "()I" } : Jvm.MethodName)) ∈ lw_all := lw_g (lw_at lw_m4 122 rfl) rfl
theorem q924 : (Jvm.Cond.selects "PrayerMatsFace" ({ cls := "PrayerMatsFace", name := "lonely", desc := "()I" } : Jvm.MethodName) ({ cls := "PrayerMatsFace", name := "lonely", desc := "()I" } : Jvm.MethodName)) ∈ lw_all := lw_g (lw_at lw_m4 123 rfl) rfl
theorem q925 : (Jvm.Cond.code ({ cls := "PrayerMatsFace", name := "lonely", desc := "()I" } : Jvm.MethodName) prog_1_method_64_code (3 : Nat) (Option.some Jvm.ClassFile.FieldType.int)) ∈ lw_all := lw_g (lw_at lw_m4 124 rfl) rfl
theorem q926 : (Jvm.Cond.methodLink "PrayerMatsFace" (312 : Nat) ({ cls := "PrayerMatsFace", name := "isWanted", desc := "(I)Z" } : Jvm.MethodName)) ∈ lw_all := lw_g (lw_at lw_m4 125 rfl) rfl
theorem q927 : (Jvm.Cond.privateMethod ({ cls := "PrayerMatsFace", name := "isWanted", desc := "(I)Z" } : Jvm.MethodName)) ∈ lw_tbl := lw_at lw_m4 126 rfl
theorem q928 : (Jvm.Cond.instanceMethod ({ cls := "PrayerMatsFace", name := "isWanted", desc := "(I)Z" } : Jvm.MethodName)) ∈ lw_all := lw_g (lw_at lw_m4 127 rfl) rfl
theorem q929 : (Jvm.Cond.code ({ cls := "PrayerMatsFace", name := "isWanted", desc := "(I)Z" } : Jvm.MethodName) prog_1_method_63_code (3 : Nat) (Option.some Jvm.ClassFile.FieldType.boolean)) ∈ lw_all := lw_g (lw_at lw_m4 128 rfl) rfl
theorem q931 : (Jvm.Cond.instanceMethod ({ cls := "PrayerMatsFace", name := "spread", desc := "()I" } : Jvm.MethodName)) ∈ lw_all := lw_g (lw_at lw_m4 130 rfl) rfl
theorem q932 : (Jvm.Cond.selects "PrayerMatsFace" ({ cls := "PrayerMatsFace", name := "spread", desc := "()I" } : Jvm.MethodName) ({ cls := "PrayerMatsFace", name := "spread", desc := "()I" } : Jvm.MethodName)) ∈ lw_all := lw_g (lw_at lw_m4 131 rfl) rfl
theorem q933 : (Jvm.Cond.code ({ cls := "PrayerMatsFace", name := "spread", desc := "()I" } : Jvm.MethodName) prog_1_method_65_code (6 : Nat) (Option.some Jvm.ClassFile.FieldType.int)) ∈ lw_all := lw_g (lw_at lw_m4 132 rfl) rfl
theorem q934 : (Jvm.Cond.methodLink "PrayerMatsFace" (315 : Nat) ({ cls := "java/lang/Math", name := "min", desc := "(II)I" } : Jvm.MethodName)) ∈ lw_all := lw_g (lw_at lw_m4 133 rfl) rfl
theorem q936 : (Jvm.Cond.instanceMethod ({ cls := "PrayerMatsFace", name := "mean", desc := "(I)J" } : Jvm.MethodName)) ∈ lw_all := lw_g (lw_at lw_m4 135 rfl) rfl
theorem q937 : (Jvm.Cond.selects "PrayerMatsFace" ({ cls := "PrayerMatsFace", name := "mean", desc := "(I)J" } : Jvm.MethodName) ({ cls := "PrayerMatsFace", name := "mean", desc := "(I)J" } : Jvm.MethodName)) ∈ lw_all := lw_g (lw_at lw_m4 136 rfl) rfl
theorem q938 : (Jvm.Cond.code ({ cls := "PrayerMatsFace", name := "mean", desc := "(I)J" } : Jvm.MethodName) prog_1_method_66_code (2 : Nat) (Option.some Jvm.ClassFile.FieldType.long)) ∈ lw_all := lw_g (lw_at lw_m4 137 rfl) rfl
theorem q940 : (Jvm.Cond.instanceMethod ({ cls := "PrayerMatsFace", name := "enemy", desc := "(I)I" } : Jvm.MethodName)) ∈ lw_all := lw_g (lw_at lw_m4 139 rfl) rfl
theorem q941 : (Jvm.Cond.selects "PrayerMatsFace" ({ cls := "PrayerMatsFace", name := "enemy", desc := "(I)I" } : Jvm.MethodName) ({ cls := "PrayerMatsFace", name := "enemy", desc := "(I)I" } : Jvm.MethodName)) ∈ lw_all := lw_g (lw_at lw_m4 140 rfl) rfl
theorem q942 : (Jvm.Cond.code ({ cls := "PrayerMatsFace", name := "enemy", desc := "(I)I" } : Jvm.MethodName) prog_1_method_67_code (4 : Nat) (Option.some Jvm.ClassFile.FieldType.int)) ∈ lw_all := lw_g (lw_at lw_m4 141 rfl) rfl
theorem q944 : (Jvm.Cond.instanceMethod ({ cls := "PrayerMatsFace", name := "peace", desc := "()I" } : Jvm.MethodName)) ∈ lw_all := lw_g (lw_at lw_m4 143 rfl) rfl
theorem q945 : (Jvm.Cond.selects "PrayerMatsFace" ({ cls := "PrayerMatsFace", name := "peace", desc := "()I" } : Jvm.MethodName) ({ cls := "PrayerMatsFace", name := "peace", desc := "()I" } : Jvm.MethodName)) ∈ lw_all := lw_g (lw_at lw_m4 144 rfl) rfl
theorem q946 : (Jvm.Cond.code ({ cls := "PrayerMatsFace", name := "peace", desc := "()I" } : Jvm.MethodName) prog_1_method_69_code (2 : Nat) (Option.some Jvm.ClassFile.FieldType.int)) ∈ lw_all := lw_g (lw_at lw_m4 145 rfl) rfl
theorem q947 : (Jvm.Cond.methodLink "PrayerMatsFace" (318 : Nat) ({ cls := "PrayerMatsFace", name := "isPeaceful", desc := "(LPrayerMatsFace$Quarter;)Z" } : Jvm.MethodName)) ∈ lw_all := lw_g (lw_at lw_m4 146 rfl) rfl
theorem q948 : (Jvm.Cond.static ({ cls := "PrayerMatsFace", name := "isPeaceful", desc := "(LPrayerMatsFace$Quarter;)Z" } : Jvm.MethodName)) ∈ lw_all := lw_g (lw_at lw_m4 147 rfl) rfl
theorem q949 : (Jvm.Cond.code ({ cls := "PrayerMatsFace", name := "isPeaceful", desc := "(LPrayerMatsFace$Quarter;)Z" } : Jvm.MethodName) prog_1_method_68_code (2 : Nat) (Option.some Jvm.ClassFile.FieldType.boolean)) ∈ lw_all := lw_g (lw_at lw_m4 148 rfl) rfl
theorem q951 : (Jvm.Cond.instanceMethod ({ cls := "PrayerMatsFace", name := "helps", desc := "(III)I" } : Jvm.MethodName)) ∈ lw_all := lw_g (lw_at lw_m4 150 rfl) rfl
theorem q952 : (Jvm.Cond.selects "PrayerMatsFace" ({ cls := "PrayerMatsFace", name := "helps", desc := "(III)I" } : Jvm.MethodName) ({ cls := "PrayerMatsFace", name := "helps", desc := "(III)I" } : Jvm.MethodName)) ∈ lw_all := lw_g (lw_at lw_m4 151 rfl) rfl
theorem q953 : (Jvm.Cond.code ({ cls := "PrayerMatsFace", name := "helps", desc := "(III)I" } : Jvm.MethodName) prog_1_method_70_code (7 : Nat) (Option.some Jvm.ClassFile.FieldType.int)) ∈ lw_all := lw_g (lw_at lw_m4 152 rfl) rfl
theorem q955 : (Jvm.Cond.instanceMethod ({ cls := "PrayerMatsFace", name := "doubled", desc := "()I" } : Jvm.MethodName)) ∈ lw_all := lw_g (lw_at lw_m4 154 rfl) rfl
theorem q956 : (Jvm.Cond.selects "PrayerMatsFace" ({ cls := "PrayerMatsFace", name := "doubled", desc := "()I" } : Jvm.MethodName) ({ cls := "PrayerMatsFace", name := "doubled", desc := "()I" } : Jvm.MethodName)) ∈ lw_all := lw_g (lw_at lw_m4 155 rfl) rfl
theorem q957 : (Jvm.Cond.code ({ cls := "PrayerMatsFace", name := "doubled", desc := "()I" } : Jvm.MethodName) prog_1_method_72_code (3 : Nat) (Option.some Jvm.ClassFile.FieldType.int)) ∈ lw_all := lw_g (lw_at lw_m4 156 rfl) rfl
theorem q958 : (Jvm.Cond.methodLink "PrayerMatsFace" (325 : Nat) ({ cls := "PrayerMatsFace", name := "allDoubled", desc := "(I)I" } : Jvm.MethodName)) ∈ lw_all := lw_g (lw_at lw_m4 157 rfl) rfl
theorem q959 : (Jvm.Cond.privateMethod ({ cls := "PrayerMatsFace", name := "allDoubled", desc := "(I)I" } : Jvm.MethodName)) ∈ lw_tbl := lw_at lw_m4 158 rfl
theorem q960 : (Jvm.Cond.instanceMethod ({ cls := "PrayerMatsFace", name := "allDoubled", desc := "(I)I" } : Jvm.MethodName)) ∈ lw_all := lw_g (lw_at lw_m4 159 rfl) rfl
theorem q961 : (Jvm.Cond.code ({ cls := "PrayerMatsFace", name := "allDoubled", desc := "(I)I" } : Jvm.MethodName) prog_1_method_71_code (3 : Nat) (Option.some Jvm.ClassFile.FieldType.int)) ∈ lw_all := lw_g (lw_at lw_m4 160 rfl) rfl
theorem q962 : (Jvm.Cond.methodLink "PrayerMatsFace" (322 : Nat) ({ cls := "PrayerMatsFace$Quarter", name := "hour", desc := "(I)V" } : Jvm.MethodName)) ∈ lw_all := lw_g (lw_at lw_m4 161 rfl) rfl
theorem q964 : (Jvm.Cond.instanceMethod ({ cls := "PrayerMatsFace", name := "row", desc := "(I)I" } : Jvm.MethodName)) ∈ lw_all := lw_g (lw_at lw_m4 163 rfl) rfl
theorem q965 : (Jvm.Cond.selects "PrayerMatsFace" ({ cls := "PrayerMatsFace", name := "row", desc := "(I)I" } : Jvm.MethodName) ({ cls := "PrayerMatsFace", name := "row", desc := "(I)I" } : Jvm.MethodName)) ∈ lw_all := lw_g (lw_at lw_m4 164 rfl) rfl
theorem q966 : (Jvm.Cond.code ({ cls := "PrayerMatsFace", name := "row", desc := "(I)I" } : Jvm.MethodName) prog_1_method_73_code (3 : Nat) (Option.some Jvm.ClassFile.FieldType.int)) ∈ lw_all := lw_g (lw_at lw_m4 165 rfl) rfl
theorem q968 : (Jvm.Cond.instanceMethod ({ cls := "PrayerMatsFace", name := "clear", desc := "()I" } : Jvm.MethodName)) ∈ lw_all := lw_g (lw_at lw_m4 167 rfl) rfl
theorem q969 : (Jvm.Cond.selects "PrayerMatsFace" ({ cls := "PrayerMatsFace", name := "clear", desc := "()I" } : Jvm.MethodName) ({ cls := "PrayerMatsFace", name := "clear", desc := "()I" } : Jvm.MethodName)) ∈ lw_all := lw_g (lw_at lw_m4 168 rfl) rfl
theorem q970 : (Jvm.Cond.code ({ cls := "PrayerMatsFace", name := "clear", desc := "()I" } : Jvm.MethodName) prog_1_method_74_code (2 : Nat) (Option.some Jvm.ClassFile.FieldType.int)) ∈ lw_all := lw_g (lw_at lw_m4 169 rfl) rfl
theorem q972 : (Jvm.Cond.instanceMethod ({ cls := "PrayerMatsFace", name := "judge", desc := "(I)I" } : Jvm.MethodName)) ∈ lw_all := lw_g (lw_at lw_m4 171 rfl) rfl
theorem q973 : (Jvm.Cond.selects "PrayerMatsFace" ({ cls := "PrayerMatsFace", name := "judge", desc := "(I)I" } : Jvm.MethodName) ({ cls := "PrayerMatsFace", name := "judge", desc := "(I)I" } : Jvm.MethodName)) ∈ lw_all := lw_g (lw_at lw_m4 172 rfl) rfl
theorem q974 : (Jvm.Cond.code ({ cls := "PrayerMatsFace", name := "judge", desc := "(I)I" } : Jvm.MethodName) prog_1_method_75_code (4 : Nat) (Option.some Jvm.ClassFile.FieldType.int)) ∈ lw_all := lw_g (lw_at lw_m4 173 rfl) rfl
theorem q975 : (Jvm.Cond.methodLink "PrayerMatsFace" (328 : Nat) ({ cls := "PrayerMatsFace", name := "clear", desc := "()I" } : Jvm.MethodName)) ∈ lw_all := lw_g (lw_at lw_m4 174 rfl) rfl
theorem q977 : (Jvm.Cond.instanceMethod ({ cls := "PrayerMatsFace", name := "lots", desc := "(III)I" } : Jvm.MethodName)) ∈ lw_all := lw_g (lw_at lw_m4 176 rfl) rfl
theorem q978 : (Jvm.Cond.selects "PrayerMatsFace" ({ cls := "PrayerMatsFace", name := "lots", desc := "(III)I" } : Jvm.MethodName) ({ cls := "PrayerMatsFace", name := "lots", desc := "(III)I" } : Jvm.MethodName)) ∈ lw_all := lw_g (lw_at lw_m4 177 rfl) rfl
theorem q979 : (Jvm.Cond.code ({ cls := "PrayerMatsFace", name := "lots", desc := "(III)I" } : Jvm.MethodName) prog_1_method_77_code (11 : Nat) (Option.some Jvm.ClassFile.FieldType.int)) ∈ lw_all := lw_g (lw_at lw_m4 178 rfl) rfl
theorem q980 : (Jvm.Cond.methodLink "PrayerMatsFace" (337 : Nat) ({ cls := "PrayerMatsFace", name := "drawn", desc := "(I)I" } : Jvm.MethodName)) ∈ lw_all := lw_g (lw_at lw_m4 179 rfl) rfl
theorem q981 : (Jvm.Cond.privateMethod ({ cls := "PrayerMatsFace", name := "drawn", desc := "(I)I" } : Jvm.MethodName)) ∈ lw_tbl := lw_at lw_m4 180 rfl
theorem q982 : (Jvm.Cond.instanceMethod ({ cls := "PrayerMatsFace", name := "drawn", desc := "(I)I" } : Jvm.MethodName)) ∈ lw_all := lw_g (lw_at lw_m4 181 rfl) rfl
theorem q983 : (Jvm.Cond.code ({ cls := "PrayerMatsFace", name := "drawn", desc := "(I)I" } : Jvm.MethodName) prog_1_method_76_code (2 : Nat) (Option.some Jvm.ClassFile.FieldType.int)) ∈ lw_all := lw_g (lw_at lw_m4 182 rfl) rfl
theorem q984 : (Jvm.Cond.constant "PrayerMatsFace" (334 : Nat) (1103515245 : Int32)) ∈ lw_all := lw_g (lw_at lw_m4 183 rfl) rfl
theorem q985 : (Jvm.Cond.constant "PrayerMatsFace" (335 : Nat) (2147483647 : Int32)) ∈ lw_all := lw_g (lw_at lw_m4 184 rfl) rfl
theorem q986 : (Jvm.Cond.constant "PrayerMatsFace" (336 : Nat) (65536 : Int32)) ∈ lw_all := lw_g (lw_at lw_m4 185 rfl) rfl
theorem q988 : (Jvm.Cond.instanceMethod ({ cls := "PrayerMatsFace", name := "image", desc := "()I" } : Jvm.MethodName)) ∈ lw_all := lw_g (lw_at lw_m4 187 rfl) rfl
theorem q989 : (Jvm.Cond.selects "PrayerMatsFace" ({ cls := "PrayerMatsFace", name := "image", desc := "()I" } : Jvm.MethodName) ({ cls := "PrayerMatsFace", name := "image", desc := "()I" } : Jvm.MethodName)) ∈ lw_all := lw_g (lw_at lw_m4 188 rfl) rfl
theorem q990 : (Jvm.Cond.code ({ cls := "PrayerMatsFace", name := "image", desc := "()I" } : Jvm.MethodName) prog_1_method_78_code (1 : Nat) (Option.some Jvm.ClassFile.FieldType.int)) ∈ lw_all := lw_g (lw_at lw_m4 189 rfl) rfl
theorem q992 : (Jvm.Cond.instanceMethod ({ cls := "PrayerMatsFace", name := "restore", desc := "()I" } : Jvm.MethodName)) ∈ lw_all := lw_g (lw_at lw_m4 191 rfl) rfl
theorem q993 : (Jvm.Cond.selects "PrayerMatsFace" ({ cls := "PrayerMatsFace", name := "restore", desc := "()I" } : Jvm.MethodName) ({ cls := "PrayerMatsFace", name := "restore", desc := "()I" } : Jvm.MethodName)) ∈ lw_all := lw_g (lw_at lw_m4 192 rfl) rfl
theorem q994 : (Jvm.Cond.code ({ cls := "PrayerMatsFace", name := "restore", desc := "()I" } : Jvm.MethodName) prog_1_method_79_code (1 : Nat) (Option.some Jvm.ClassFile.FieldType.int)) ∈ lw_all := lw_g (lw_at lw_m4 193 rfl) rfl
theorem q996 : (Jvm.Cond.instanceMethod ({ cls := "PrayerMatsFace", name := "count", desc := "(I)I" } : Jvm.MethodName)) ∈ lw_all := lw_g (lw_at lw_m4 195 rfl) rfl
theorem q997 : (Jvm.Cond.selects "PrayerMatsFace" ({ cls := "PrayerMatsFace", name := "count", desc := "(I)I" } : Jvm.MethodName) ({ cls := "PrayerMatsFace", name := "count", desc := "(I)I" } : Jvm.MethodName)) ∈ lw_all := lw_g (lw_at lw_m4 196 rfl) rfl
theorem q998 : (Jvm.Cond.code ({ cls := "PrayerMatsFace", name := "count", desc := "(I)I" } : Jvm.MethodName) prog_1_method_81_code (2 : Nat) (Option.some Jvm.ClassFile.FieldType.int)) ∈ lw_all := lw_g (lw_at lw_m4 197 rfl) rfl
theorem q999 : (Jvm.Cond.methodLink "PrayerMatsFace" (344 : Nat) ({ cls := "PrayerMatsFace", name := "allComing", desc := "()I" } : Jvm.MethodName)) ∈ lw_all := lw_g (lw_at lw_m4 198 rfl) rfl
theorem q1000 : (Jvm.Cond.privateMethod ({ cls := "PrayerMatsFace", name := "allComing", desc := "()I" } : Jvm.MethodName)) ∈ lw_tbl := lw_at lw_m4 199 rfl
theorem q1001 : (Jvm.Cond.instanceMethod ({ cls := "PrayerMatsFace", name := "allComing", desc := "()I" } : Jvm.MethodName)) ∈ lw_all := lw_g (lw_at lw_m4 200 rfl) rfl
theorem q1002 : (Jvm.Cond.code ({ cls := "PrayerMatsFace", name := "allComing", desc := "()I" } : Jvm.MethodName) prog_1_method_80_code (3 : Nat) (Option.some Jvm.ClassFile.FieldType.int)) ∈ lw_all := lw_g (lw_at lw_m4 201 rfl) rfl
theorem q1518 : (Jvm.Cond.castable "PrayerMatsFace" "java/lang/Object") ∈ lw_tbl := lw_at lw_m6 237 rfl
theorem in_X0 : ∀ w ∈ wsX00, w ∈ lw_all := lw_in wsX00 [191, 193, 195, 197, 199, 201, 203, 205, 207, 209, 211, 213, 215, 217, 219, 221, 223] (by decide +kernel) (by decide +kernel)
