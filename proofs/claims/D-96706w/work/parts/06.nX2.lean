/-! PrayerMatsFaceModel -/
set_option maxRecDepth 100000
def RX2 : String := "PrayerMatsFaceModel"
def TX2 : u_T := fun k => match k with
  | 0 => ("PrayerMatsFaceModel", "people", "I", false)
  | 1 => ("PrayerMatsFaceModel", "kinds", "[I", true)
  | 2 => ("PrayerMatsFaceModel", "figures", "[I", true)
  | 3 => ("PrayerMatsFaceModel", "hours0", "[I", true)
  | 4 => ("PrayerMatsFaceModel", "mates", "[I", true)
  | 5 => ("PrayerMatsFaceModel", "quarrel", "[I", true)
  | 6 => ("PrayerMatsFaceModel", "today", "I", false)
  | 7 => ("PrayerMatsFaceModel", "thrown", "I", false)
  | 8 => ("PrayerMatsFaceModel", "refusals", "[I", true)
  | 9 => ("PrayerMatsFaceModel", "letters", "[I", true)
  | 10 => ("PrayerMatsFaceModel", "letterMany", "I", false)
  | 11 => ("PrayerMatsFaceModel", "at", "I", false)
  | 12 => ("PrayerMatsFaceModel", "isBad", "Z", false)
  | 13 => ("PrayerMatsFaceModel", "statements", "I", false)
  | 14 => ("PrayerMatsFaceModel", "placeIn", "[I", true)
  | 15 => ("PrayerMatsFaceModel", "letterOf", "[I", true)
  | 16 => ("PrayerMatsFaceModel", "told", "[I", true)
  | 17 => ("PrayerMatsFaceModel", "kept", "[I", true)
  | 18 => ("PrayerMatsFaceModel", "imaged", "[I", true)
  | 19 => ("PrayerMatsFaceModel", "hasImage", "Z", false)
  | 20 => ("PrayerMatsFaceModel", "place0", "I", false)
  | 21 => ("PrayerMatsFaceModel", "isTaking", "Z", false)
  | 22 => ("PrayerMatsFaceModel", "keptIn", "[I", false)
  | 23 => ("PrayerMatsFaceModel", "turns0", "[I", true)
  | 24 => ("PrayerMatsFaceModel", "turnOf", "[I", true)
  | 25 => ("PrayerMatsFaceModel", "turned", "I", false)
  | 26 => ("PrayerMatsFaceModel", "paired", "[I", true)
  | 27 => ("PrayerMatsFaceModel", "pairedMany", "I", false)
  | 28 => ("PrayerMatsFaceModel", "pairedFor", "I", false)
  | 29 => ("PrayerMatsFaceModel", "trial", "[I", true)
  | 30 => ("PrayerMatsFaceModel", "row", "[I", true)
  | 31 => ("PrayerMatsFaceModel", "rowMany", "I", false)
  | _ => ("PrayerMatsFaceModel", "seed", "I", false)
def tyX2 : Nat → FieldType := fun k => match k with
  | 0 => .int
  | 1 => .array .int
  | 2 => .array .int
  | 3 => .array .int
  | 4 => .array .int
  | 5 => .array .int
  | 6 => .int
  | 7 => .int
  | 8 => .array .int
  | 9 => .array .int
  | 10 => .int
  | 11 => .int
  | 12 => .boolean
  | 13 => .int
  | 14 => .array .int
  | 15 => .array .int
  | 16 => .array .int
  | 17 => .array .int
  | 18 => .array .int
  | 19 => .boolean
  | 20 => .int
  | 21 => .boolean
  | 22 => .array .int
  | 23 => .array .int
  | 24 => .array .int
  | 25 => .int
  | 26 => .array .int
  | 27 => .int
  | 28 => .int
  | 29 => .array .int
  | 30 => .array .int
  | 31 => .int
  | _ => .int
abbrev wsX20 : List Cond := u_ws RX2 TX2 33
set_option maxRecDepth 100000 in
theorem nmX2 : ∀ a, a < 33 → ∀ b, b < 33 → a ≠ b → (TX2 a).2.1 ≠ (TX2 b).2.1 := by decide +kernel
set_option maxRecDepth 100000 in
theorem tyX2_ok : ∀ k, k < 33 → parseFieldDescriptor (TX2 k).2.2.1 = some (tyX2 k) := by decide +kernel
abbrev cX2_init : ByteArray := prog_12_method_1_code
def yX2_init : MethodName := ⟨RX2, "<init>", "()V"⟩
def dkwX2_init_6 : List UInt8 := [16, 12, 188, 10, 181, 0, 62, 42, 3, 181, 0, 65, 177]
abbrev dktX2_init_6 : List UInt8 := dkwX2_init_6 ++ []
def dkwX2_init_5 : List UInt8 := [42, 17, 1, 200, 188, 10, 181, 0, 52, 42, 2, 181, 0, 55, 42, 16, 6, 188, 10, 181, 0, 59, 42]
abbrev dktX2_init_5 : List UInt8 := dkwX2_init_5 ++ dktX2_init_6
def dkwX2_init_4 : List UInt8 := [16, 62, 188, 10, 181, 0, 43, 42, 17, 1, 240, 188, 10, 181, 0, 46, 42, 16, 62, 188, 10, 181, 0, 49]
abbrev dktX2_init_4 : List UInt8 := dkwX2_init_4 ++ dktX2_init_5
def dkwX2_init_3 : List UInt8 := [188, 10, 181, 0, 34, 42, 17, 0, 147, 188, 10, 181, 0, 37, 42, 16, 62, 188, 10, 181, 0, 40, 42]
abbrev dktX2_init_3 : List UInt8 := dkwX2_init_3 ++ dktX2_init_4
def dkwX2_init_2 : List UInt8 := [188, 10, 181, 0, 25, 42, 16, 96, 188, 10, 181, 0, 28, 42, 16, 49, 188, 10, 181, 0, 31, 42, 16, 49]
abbrev dktX2_init_2 : List UInt8 := dkwX2_init_2 ++ dktX2_init_3
def dkwX2_init_1 : List UInt8 := [188, 10, 181, 0, 16, 42, 16, 6, 188, 10, 181, 0, 19, 42, 16, 36, 188, 10, 181, 0, 22, 42, 16, 7]
abbrev dktX2_init_1 : List UInt8 := dkwX2_init_1 ++ dktX2_init_2
def dkwX2_init_0 : List UInt8 := [42, 183, 0, 1, 42, 16, 6, 188, 10, 181, 0, 7, 42, 16, 6, 188, 10, 181, 0, 13, 42, 16, 6]
abbrev dktX2_init_0 : List UInt8 := dkwX2_init_0 ++ dktX2_init_1
theorem dksX2_init_0 : cX2_init.data.toList.drop 0 = dktX2_init_0 := by decide +kernel
theorem dksX2_init_1 : cX2_init.data.toList.drop 23 = dktX2_init_1 := dk_seg dksX2_init_0 23 rfl rfl
theorem dksX2_init_2 : cX2_init.data.toList.drop 47 = dktX2_init_2 := dk_seg dksX2_init_1 24 rfl rfl
theorem dksX2_init_3 : cX2_init.data.toList.drop 71 = dktX2_init_3 := dk_seg dksX2_init_2 24 rfl rfl
theorem dksX2_init_4 : cX2_init.data.toList.drop 94 = dktX2_init_4 := dk_seg dksX2_init_3 23 rfl rfl
theorem dksX2_init_5 : cX2_init.data.toList.drop 118 = dktX2_init_5 := dk_seg dksX2_init_4 24 rfl rfl
theorem dksX2_init_6 : cX2_init.data.toList.drop 141 = dktX2_init_6 := dk_seg dksX2_init_5 23 rfl rfl
theorem dX2_init_0 : decode cX2_init 0 = .ok (.aload_n 0, 1) := dk_42 (dk_at dksX2_init_0 0 rfl rfl)
theorem dX2_init_1 : decode cX2_init 1 = .ok (.invokespecial 1, 3) := dk_183 0 1 (dk_at dksX2_init_0 1 rfl rfl)
theorem dX2_init_4 : decode cX2_init 4 = .ok (.aload_n 0, 1) := dk_42 (dk_at dksX2_init_0 4 rfl rfl)
theorem dX2_init_5 : decode cX2_init 5 = .ok (.bipush 6, 2) := dk_16 6 (dk_at dksX2_init_0 5 rfl rfl)
theorem dX2_init_7 : decode cX2_init 7 = .ok (.newarray .int, 2) := dk_188_10 (dk_at dksX2_init_0 7 rfl rfl)
theorem dX2_init_9 : decode cX2_init 9 = .ok (.putfield 7, 3) := dk_181 0 7 (dk_at dksX2_init_0 9 rfl rfl)
theorem dX2_init_12 : decode cX2_init 12 = .ok (.aload_n 0, 1) := dk_42 (dk_at dksX2_init_0 12 rfl rfl)
theorem dX2_init_13 : decode cX2_init 13 = .ok (.bipush 6, 2) := dk_16 6 (dk_at dksX2_init_0 13 rfl rfl)
theorem dX2_init_15 : decode cX2_init 15 = .ok (.newarray .int, 2) := dk_188_10 (dk_at dksX2_init_0 15 rfl rfl)
theorem dX2_init_17 : decode cX2_init 17 = .ok (.putfield 13, 3) := dk_181 0 13 (dk_at dksX2_init_0 17 rfl rfl)
theorem dX2_init_20 : decode cX2_init 20 = .ok (.aload_n 0, 1) := dk_42 (dk_at dksX2_init_0 20 rfl rfl)
theorem dX2_init_21 : decode cX2_init 21 = .ok (.bipush 6, 2) := dk_16 6 (dk_at dksX2_init_0 21 rfl rfl)
theorem dX2_init_23 : decode cX2_init 23 = .ok (.newarray .int, 2) := dk_188_10 (dk_at dksX2_init_1 0 rfl rfl)
theorem dX2_init_25 : decode cX2_init 25 = .ok (.putfield 16, 3) := dk_181 0 16 (dk_at dksX2_init_1 2 rfl rfl)
theorem dX2_init_28 : decode cX2_init 28 = .ok (.aload_n 0, 1) := dk_42 (dk_at dksX2_init_1 5 rfl rfl)
theorem dX2_init_29 : decode cX2_init 29 = .ok (.bipush 6, 2) := dk_16 6 (dk_at dksX2_init_1 6 rfl rfl)
theorem dX2_init_31 : decode cX2_init 31 = .ok (.newarray .int, 2) := dk_188_10 (dk_at dksX2_init_1 8 rfl rfl)
theorem dX2_init_33 : decode cX2_init 33 = .ok (.putfield 19, 3) := dk_181 0 19 (dk_at dksX2_init_1 10 rfl rfl)
theorem dX2_init_36 : decode cX2_init 36 = .ok (.aload_n 0, 1) := dk_42 (dk_at dksX2_init_1 13 rfl rfl)
theorem dX2_init_37 : decode cX2_init 37 = .ok (.bipush 36, 2) := dk_16 36 (dk_at dksX2_init_1 14 rfl rfl)
theorem dX2_init_39 : decode cX2_init 39 = .ok (.newarray .int, 2) := dk_188_10 (dk_at dksX2_init_1 16 rfl rfl)
theorem dX2_init_41 : decode cX2_init 41 = .ok (.putfield 22, 3) := dk_181 0 22 (dk_at dksX2_init_1 18 rfl rfl)
theorem dX2_init_44 : decode cX2_init 44 = .ok (.aload_n 0, 1) := dk_42 (dk_at dksX2_init_1 21 rfl rfl)
theorem dX2_init_45 : decode cX2_init 45 = .ok (.bipush 7, 2) := dk_16 7 (dk_at dksX2_init_1 22 rfl rfl)
theorem dX2_init_47 : decode cX2_init 47 = .ok (.newarray .int, 2) := dk_188_10 (dk_at dksX2_init_2 0 rfl rfl)
theorem dX2_init_49 : decode cX2_init 49 = .ok (.putfield 25, 3) := dk_181 0 25 (dk_at dksX2_init_2 2 rfl rfl)
theorem dX2_init_52 : decode cX2_init 52 = .ok (.aload_n 0, 1) := dk_42 (dk_at dksX2_init_2 5 rfl rfl)
theorem dX2_init_53 : decode cX2_init 53 = .ok (.bipush 96, 2) := dk_16 96 (dk_at dksX2_init_2 6 rfl rfl)
theorem dX2_init_55 : decode cX2_init 55 = .ok (.newarray .int, 2) := dk_188_10 (dk_at dksX2_init_2 8 rfl rfl)
theorem dX2_init_57 : decode cX2_init 57 = .ok (.putfield 28, 3) := dk_181 0 28 (dk_at dksX2_init_2 10 rfl rfl)
theorem dX2_init_60 : decode cX2_init 60 = .ok (.aload_n 0, 1) := dk_42 (dk_at dksX2_init_2 13 rfl rfl)
theorem dX2_init_61 : decode cX2_init 61 = .ok (.bipush 49, 2) := dk_16 49 (dk_at dksX2_init_2 14 rfl rfl)
theorem dX2_init_63 : decode cX2_init 63 = .ok (.newarray .int, 2) := dk_188_10 (dk_at dksX2_init_2 16 rfl rfl)
theorem dX2_init_65 : decode cX2_init 65 = .ok (.putfield 31, 3) := dk_181 0 31 (dk_at dksX2_init_2 18 rfl rfl)
theorem dX2_init_68 : decode cX2_init 68 = .ok (.aload_n 0, 1) := dk_42 (dk_at dksX2_init_2 21 rfl rfl)
theorem dX2_init_69 : decode cX2_init 69 = .ok (.bipush 49, 2) := dk_16 49 (dk_at dksX2_init_2 22 rfl rfl)
theorem dX2_init_71 : decode cX2_init 71 = .ok (.newarray .int, 2) := dk_188_10 (dk_at dksX2_init_3 0 rfl rfl)
theorem dX2_init_73 : decode cX2_init 73 = .ok (.putfield 34, 3) := dk_181 0 34 (dk_at dksX2_init_3 2 rfl rfl)
theorem dX2_init_76 : decode cX2_init 76 = .ok (.aload_n 0, 1) := dk_42 (dk_at dksX2_init_3 5 rfl rfl)
theorem dX2_init_77 : decode cX2_init 77 = .ok (.sipush 147, 3) := dk_17 0 147 (dk_at dksX2_init_3 6 rfl rfl)
theorem dX2_init_80 : decode cX2_init 80 = .ok (.newarray .int, 2) := dk_188_10 (dk_at dksX2_init_3 9 rfl rfl)
theorem dX2_init_82 : decode cX2_init 82 = .ok (.putfield 37, 3) := dk_181 0 37 (dk_at dksX2_init_3 11 rfl rfl)
theorem dX2_init_85 : decode cX2_init 85 = .ok (.aload_n 0, 1) := dk_42 (dk_at dksX2_init_3 14 rfl rfl)
theorem dX2_init_86 : decode cX2_init 86 = .ok (.bipush 62, 2) := dk_16 62 (dk_at dksX2_init_3 15 rfl rfl)
theorem dX2_init_88 : decode cX2_init 88 = .ok (.newarray .int, 2) := dk_188_10 (dk_at dksX2_init_3 17 rfl rfl)
theorem dX2_init_90 : decode cX2_init 90 = .ok (.putfield 40, 3) := dk_181 0 40 (dk_at dksX2_init_3 19 rfl rfl)
theorem dX2_init_93 : decode cX2_init 93 = .ok (.aload_n 0, 1) := dk_42 (dk_at dksX2_init_3 22 rfl rfl)
theorem dX2_init_94 : decode cX2_init 94 = .ok (.bipush 62, 2) := dk_16 62 (dk_at dksX2_init_4 0 rfl rfl)
theorem dX2_init_96 : decode cX2_init 96 = .ok (.newarray .int, 2) := dk_188_10 (dk_at dksX2_init_4 2 rfl rfl)
theorem dX2_init_98 : decode cX2_init 98 = .ok (.putfield 43, 3) := dk_181 0 43 (dk_at dksX2_init_4 4 rfl rfl)
theorem dX2_init_101 : decode cX2_init 101 = .ok (.aload_n 0, 1) := dk_42 (dk_at dksX2_init_4 7 rfl rfl)
theorem dX2_init_102 : decode cX2_init 102 = .ok (.sipush 496, 3) := dk_17 1 240 (dk_at dksX2_init_4 8 rfl rfl)
theorem dX2_init_105 : decode cX2_init 105 = .ok (.newarray .int, 2) := dk_188_10 (dk_at dksX2_init_4 11 rfl rfl)
theorem dX2_init_107 : decode cX2_init 107 = .ok (.putfield 46, 3) := dk_181 0 46 (dk_at dksX2_init_4 13 rfl rfl)
theorem dX2_init_110 : decode cX2_init 110 = .ok (.aload_n 0, 1) := dk_42 (dk_at dksX2_init_4 16 rfl rfl)
theorem dX2_init_111 : decode cX2_init 111 = .ok (.bipush 62, 2) := dk_16 62 (dk_at dksX2_init_4 17 rfl rfl)
theorem dX2_init_113 : decode cX2_init 113 = .ok (.newarray .int, 2) := dk_188_10 (dk_at dksX2_init_4 19 rfl rfl)
theorem dX2_init_115 : decode cX2_init 115 = .ok (.putfield 49, 3) := dk_181 0 49 (dk_at dksX2_init_4 21 rfl rfl)
theorem dX2_init_118 : decode cX2_init 118 = .ok (.aload_n 0, 1) := dk_42 (dk_at dksX2_init_5 0 rfl rfl)
theorem dX2_init_119 : decode cX2_init 119 = .ok (.sipush 456, 3) := dk_17 1 200 (dk_at dksX2_init_5 1 rfl rfl)
theorem dX2_init_122 : decode cX2_init 122 = .ok (.newarray .int, 2) := dk_188_10 (dk_at dksX2_init_5 4 rfl rfl)
theorem dX2_init_124 : decode cX2_init 124 = .ok (.putfield 52, 3) := dk_181 0 52 (dk_at dksX2_init_5 6 rfl rfl)
theorem dX2_init_127 : decode cX2_init 127 = .ok (.aload_n 0, 1) := dk_42 (dk_at dksX2_init_5 9 rfl rfl)
theorem dX2_init_128 : decode cX2_init 128 = .ok (.iconst (-1), 1) := dk_2 (dk_at dksX2_init_5 10 rfl rfl)
theorem dX2_init_129 : decode cX2_init 129 = .ok (.putfield 55, 3) := dk_181 0 55 (dk_at dksX2_init_5 11 rfl rfl)
theorem dX2_init_132 : decode cX2_init 132 = .ok (.aload_n 0, 1) := dk_42 (dk_at dksX2_init_5 14 rfl rfl)
theorem dX2_init_133 : decode cX2_init 133 = .ok (.bipush 6, 2) := dk_16 6 (dk_at dksX2_init_5 15 rfl rfl)
theorem dX2_init_135 : decode cX2_init 135 = .ok (.newarray .int, 2) := dk_188_10 (dk_at dksX2_init_5 17 rfl rfl)
theorem dX2_init_137 : decode cX2_init 137 = .ok (.putfield 59, 3) := dk_181 0 59 (dk_at dksX2_init_5 19 rfl rfl)
theorem dX2_init_140 : decode cX2_init 140 = .ok (.aload_n 0, 1) := dk_42 (dk_at dksX2_init_5 22 rfl rfl)
theorem dX2_init_141 : decode cX2_init 141 = .ok (.bipush 12, 2) := dk_16 12 (dk_at dksX2_init_6 0 rfl rfl)
theorem dX2_init_143 : decode cX2_init 143 = .ok (.newarray .int, 2) := dk_188_10 (dk_at dksX2_init_6 2 rfl rfl)
theorem dX2_init_145 : decode cX2_init 145 = .ok (.putfield 62, 3) := dk_181 0 62 (dk_at dksX2_init_6 4 rfl rfl)
theorem dX2_init_148 : decode cX2_init 148 = .ok (.aload_n 0, 1) := dk_42 (dk_at dksX2_init_6 7 rfl rfl)
theorem dX2_init_149 : decode cX2_init 149 = .ok (.iconst 0, 1) := dk_3 (dk_at dksX2_init_6 8 rfl rfl)
theorem dX2_init_150 : decode cX2_init 150 = .ok (.putfield 65, 3) := dk_181 0 65 (dk_at dksX2_init_6 9 rfl rfl)
theorem dX2_init_153 : decode cX2_init 153 = .ok (.return_, 1) := dk_177 (dk_at dksX2_init_6 12 rfl rfl)
abbrev cX2_feed : ByteArray := prog_12_method_28_code
def yX2_feed : MethodName := ⟨RX2, "feed", "(I)I"⟩
def dkwX2_feed_2 : List UInt8 := [79, 42, 89, 180, 0, 131, 4, 96, 181, 0, 131, 42, 180, 0, 131, 172]
abbrev dktX2_feed_2 : List UInt8 := dkwX2_feed_2 ++ []
def dkwX2_feed_1 : List UInt8 := [180, 0, 131, 16, 96, 160, 0, 10, 42, 16, 250, 182, 0, 128, 172, 42, 180, 0, 28, 42, 180, 0, 131, 27]
abbrev dktX2_feed_1 : List UInt8 := dkwX2_feed_1 ++ dktX2_feed_2
def dkwX2_feed_0 : List UInt8 := [42, 3, 181, 0, 65, 27, 156, 0, 10, 42, 16, 252, 182, 0, 128, 172, 27, 17, 0, 255, 163, 0, 12, 42]
abbrev dktX2_feed_0 : List UInt8 := dkwX2_feed_0 ++ dktX2_feed_1
theorem dksX2_feed_0 : cX2_feed.data.toList.drop 0 = dktX2_feed_0 := by decide +kernel
theorem dksX2_feed_1 : cX2_feed.data.toList.drop 24 = dktX2_feed_1 := dk_seg dksX2_feed_0 24 rfl rfl
theorem dksX2_feed_2 : cX2_feed.data.toList.drop 48 = dktX2_feed_2 := dk_seg dksX2_feed_1 24 rfl rfl
theorem dX2_feed_0 : decode cX2_feed 0 = .ok (.aload_n 0, 1) := dk_42 (dk_at dksX2_feed_0 0 rfl rfl)
theorem dX2_feed_1 : decode cX2_feed 1 = .ok (.iconst 0, 1) := dk_3 (dk_at dksX2_feed_0 1 rfl rfl)
theorem dX2_feed_2 : decode cX2_feed 2 = .ok (.putfield 65, 3) := dk_181 0 65 (dk_at dksX2_feed_0 2 rfl rfl)
theorem dX2_feed_5 : decode cX2_feed 5 = .ok (.iload_n 1, 1) := dk_27 (dk_at dksX2_feed_0 5 rfl rfl)
theorem dX2_feed_6 : decode cX2_feed 6 = .ok (.ifCond .ge 10, 3) := dk_156 0 10 (dk_at dksX2_feed_0 6 rfl rfl)
theorem dX2_feed_9 : decode cX2_feed 9 = .ok (.aload_n 0, 1) := dk_42 (dk_at dksX2_feed_0 9 rfl rfl)
theorem dX2_feed_10 : decode cX2_feed 10 = .ok (.bipush (-4), 2) := dk_16 252 (dk_at dksX2_feed_0 10 rfl rfl)
theorem dX2_feed_12 : decode cX2_feed 12 = .ok (.invokevirtual 128, 3) := dk_182 0 128 (dk_at dksX2_feed_0 12 rfl rfl)
theorem dX2_feed_15 : decode cX2_feed 15 = .ok (.ireturn, 1) := dk_172 (dk_at dksX2_feed_0 15 rfl rfl)
theorem dX2_feed_16 : decode cX2_feed 16 = .ok (.iload_n 1, 1) := dk_27 (dk_at dksX2_feed_0 16 rfl rfl)
theorem dX2_feed_17 : decode cX2_feed 17 = .ok (.sipush 255, 3) := dk_17 0 255 (dk_at dksX2_feed_0 17 rfl rfl)
theorem dX2_feed_20 : decode cX2_feed 20 = .ok (.if_icmp .gt 12, 3) := dk_163 0 12 (dk_at dksX2_feed_0 20 rfl rfl)
theorem dX2_feed_23 : decode cX2_feed 23 = .ok (.aload_n 0, 1) := dk_42 (dk_at dksX2_feed_0 23 rfl rfl)
theorem dX2_feed_24 : decode cX2_feed 24 = .ok (.getfield 131, 3) := dk_180 0 131 (dk_at dksX2_feed_1 0 rfl rfl)
theorem dX2_feed_27 : decode cX2_feed 27 = .ok (.bipush 96, 2) := dk_16 96 (dk_at dksX2_feed_1 3 rfl rfl)
theorem dX2_feed_29 : decode cX2_feed 29 = .ok (.if_icmp .ne 10, 3) := dk_160 0 10 (dk_at dksX2_feed_1 5 rfl rfl)
theorem dX2_feed_32 : decode cX2_feed 32 = .ok (.aload_n 0, 1) := dk_42 (dk_at dksX2_feed_1 8 rfl rfl)
theorem dX2_feed_33 : decode cX2_feed 33 = .ok (.bipush (-6), 2) := dk_16 250 (dk_at dksX2_feed_1 9 rfl rfl)
theorem dX2_feed_35 : decode cX2_feed 35 = .ok (.invokevirtual 128, 3) := dk_182 0 128 (dk_at dksX2_feed_1 11 rfl rfl)
theorem dX2_feed_38 : decode cX2_feed 38 = .ok (.ireturn, 1) := dk_172 (dk_at dksX2_feed_1 14 rfl rfl)
theorem dX2_feed_39 : decode cX2_feed 39 = .ok (.aload_n 0, 1) := dk_42 (dk_at dksX2_feed_1 15 rfl rfl)
theorem dX2_feed_40 : decode cX2_feed 40 = .ok (.getfield 28, 3) := dk_180 0 28 (dk_at dksX2_feed_1 16 rfl rfl)
theorem dX2_feed_43 : decode cX2_feed 43 = .ok (.aload_n 0, 1) := dk_42 (dk_at dksX2_feed_1 19 rfl rfl)
theorem dX2_feed_44 : decode cX2_feed 44 = .ok (.getfield 131, 3) := dk_180 0 131 (dk_at dksX2_feed_1 20 rfl rfl)
theorem dX2_feed_47 : decode cX2_feed 47 = .ok (.iload_n 1, 1) := dk_27 (dk_at dksX2_feed_1 23 rfl rfl)
theorem dX2_feed_48 : decode cX2_feed 48 = .ok (.iastore, 1) := dk_79 (dk_at dksX2_feed_2 0 rfl rfl)
theorem dX2_feed_49 : decode cX2_feed 49 = .ok (.aload_n 0, 1) := dk_42 (dk_at dksX2_feed_2 1 rfl rfl)
theorem dX2_feed_50 : decode cX2_feed 50 = .ok (.dup, 1) := dk_89 (dk_at dksX2_feed_2 2 rfl rfl)
theorem dX2_feed_51 : decode cX2_feed 51 = .ok (.getfield 131, 3) := dk_180 0 131 (dk_at dksX2_feed_2 3 rfl rfl)
theorem dX2_feed_54 : decode cX2_feed 54 = .ok (.iconst 1, 1) := dk_4 (dk_at dksX2_feed_2 6 rfl rfl)
theorem dX2_feed_55 : decode cX2_feed 55 = .ok (.iadd, 1) := dk_96 (dk_at dksX2_feed_2 7 rfl rfl)
theorem dX2_feed_56 : decode cX2_feed 56 = .ok (.putfield 131, 3) := dk_181 0 131 (dk_at dksX2_feed_2 8 rfl rfl)
theorem dX2_feed_59 : decode cX2_feed 59 = .ok (.aload_n 0, 1) := dk_42 (dk_at dksX2_feed_2 11 rfl rfl)
theorem dX2_feed_60 : decode cX2_feed 60 = .ok (.getfield 131, 3) := dk_180 0 131 (dk_at dksX2_feed_2 12 rfl rfl)
theorem dX2_feed_63 : decode cX2_feed 63 = .ok (.ireturn, 1) := dk_172 (dk_at dksX2_feed_2 15 rfl rfl)
abbrev cX2_refuse : ByteArray := prog_12_method_4_code
def yX2_refuse : MethodName := ⟨RX2, "refuse", "(I)I"⟩
def dkwX2_refuse_0 : List UInt8 := [42, 180, 0, 25, 27, 116, 92, 46, 4, 96, 79, 27, 172]
abbrev dktX2_refuse_0 : List UInt8 := dkwX2_refuse_0 ++ []
theorem dksX2_refuse_0 : cX2_refuse.data.toList.drop 0 = dktX2_refuse_0 := by decide +kernel
theorem dX2_refuse_0 : decode cX2_refuse 0 = .ok (.aload_n 0, 1) := dk_42 (dk_at dksX2_refuse_0 0 rfl rfl)
theorem dX2_refuse_1 : decode cX2_refuse 1 = .ok (.getfield 25, 3) := dk_180 0 25 (dk_at dksX2_refuse_0 1 rfl rfl)
theorem dX2_refuse_4 : decode cX2_refuse 4 = .ok (.iload_n 1, 1) := dk_27 (dk_at dksX2_refuse_0 4 rfl rfl)
theorem dX2_refuse_5 : decode cX2_refuse 5 = .ok (.ineg, 1) := dk_116 (dk_at dksX2_refuse_0 5 rfl rfl)
theorem dX2_refuse_6 : decode cX2_refuse 6 = .ok (.dup2, 1) := dk_92 (dk_at dksX2_refuse_0 6 rfl rfl)
theorem dX2_refuse_7 : decode cX2_refuse 7 = .ok (.iaload, 1) := dk_46 (dk_at dksX2_refuse_0 7 rfl rfl)
theorem dX2_refuse_8 : decode cX2_refuse 8 = .ok (.iconst 1, 1) := dk_4 (dk_at dksX2_refuse_0 8 rfl rfl)
theorem dX2_refuse_9 : decode cX2_refuse 9 = .ok (.iadd, 1) := dk_96 (dk_at dksX2_refuse_0 9 rfl rfl)
theorem dX2_refuse_10 : decode cX2_refuse 10 = .ok (.iastore, 1) := dk_79 (dk_at dksX2_refuse_0 10 rfl rfl)
theorem dX2_refuse_11 : decode cX2_refuse 11 = .ok (.iload_n 1, 1) := dk_27 (dk_at dksX2_refuse_0 11 rfl rfl)
theorem dX2_refuse_12 : decode cX2_refuse 12 = .ok (.ireturn, 1) := dk_172 (dk_at dksX2_refuse_0 12 rfl rfl)
abbrev cX2_quarter : ByteArray := prog_12_method_36_code
def yX2_quarter : MethodName := ⟨RX2, "quarter", "()I"⟩
def dkwX2_quarter_5 : List UInt8 := [42, 3, 181, 0, 187, 42, 180, 0, 152, 172]
abbrev dktX2_quarter_5 : List UInt8 := dkwX2_quarter_5 ++ []
def dkwX2_quarter_4 : List UInt8 := [154, 0, 18, 42, 182, 0, 184, 17, 248, 48, 42, 180, 0, 31, 27, 46, 100, 172, 132, 1, 1, 167, 255, 222]
abbrev dktX2_quarter_4 : List UInt8 := dkwX2_quarter_4 ++ dktX2_quarter_5
def dkwX2_quarter_3 : List UInt8 := [180, 0, 134, 100, 172, 42, 182, 0, 178, 3, 60, 27, 42, 180, 0, 152, 162, 0, 32, 42, 27, 182, 0, 181]
abbrev dktX2_quarter_3 : List UInt8 := dkwX2_quarter_3 ++ dktX2_quarter_4
def dkwX2_quarter_2 : List UInt8 := [182, 0, 175, 167, 255, 227, 42, 3, 181, 0, 131, 42, 180, 0, 137, 153, 0, 12, 17, 252, 24, 42]
abbrev dktX2_quarter_2 : List UInt8 := dkwX2_quarter_2 ++ dktX2_quarter_3
def dkwX2_quarter_1 : List UInt8 := [154, 0, 28, 42, 180, 0, 152, 153, 0, 14, 42, 180, 0, 134, 42, 180, 0, 131, 162, 0, 10, 42]
abbrev dktX2_quarter_1 : List UInt8 := dkwX2_quarter_1 ++ dktX2_quarter_2
def dkwX2_quarter_0 : List UInt8 := [42, 3, 181, 0, 65, 42, 3, 181, 0, 134, 42, 3, 181, 0, 137, 42, 3, 181, 0, 152, 42, 180, 0, 137]
abbrev dktX2_quarter_0 : List UInt8 := dkwX2_quarter_0 ++ dktX2_quarter_1
theorem dksX2_quarter_0 : cX2_quarter.data.toList.drop 0 = dktX2_quarter_0 := by decide +kernel
theorem dksX2_quarter_1 : cX2_quarter.data.toList.drop 24 = dktX2_quarter_1 := dk_seg dksX2_quarter_0 24 rfl rfl
theorem dksX2_quarter_2 : cX2_quarter.data.toList.drop 46 = dktX2_quarter_2 := dk_seg dksX2_quarter_1 22 rfl rfl
theorem dksX2_quarter_3 : cX2_quarter.data.toList.drop 68 = dktX2_quarter_3 := dk_seg dksX2_quarter_2 22 rfl rfl
theorem dksX2_quarter_4 : cX2_quarter.data.toList.drop 92 = dktX2_quarter_4 := dk_seg dksX2_quarter_3 24 rfl rfl
theorem dksX2_quarter_5 : cX2_quarter.data.toList.drop 116 = dktX2_quarter_5 := dk_seg dksX2_quarter_4 24 rfl rfl
theorem dX2_quarter_0 : decode cX2_quarter 0 = .ok (.aload_n 0, 1) := dk_42 (dk_at dksX2_quarter_0 0 rfl rfl)
theorem dX2_quarter_1 : decode cX2_quarter 1 = .ok (.iconst 0, 1) := dk_3 (dk_at dksX2_quarter_0 1 rfl rfl)
theorem dX2_quarter_2 : decode cX2_quarter 2 = .ok (.putfield 65, 3) := dk_181 0 65 (dk_at dksX2_quarter_0 2 rfl rfl)
theorem dX2_quarter_5 : decode cX2_quarter 5 = .ok (.aload_n 0, 1) := dk_42 (dk_at dksX2_quarter_0 5 rfl rfl)
theorem dX2_quarter_6 : decode cX2_quarter 6 = .ok (.iconst 0, 1) := dk_3 (dk_at dksX2_quarter_0 6 rfl rfl)
theorem dX2_quarter_7 : decode cX2_quarter 7 = .ok (.putfield 134, 3) := dk_181 0 134 (dk_at dksX2_quarter_0 7 rfl rfl)
theorem dX2_quarter_10 : decode cX2_quarter 10 = .ok (.aload_n 0, 1) := dk_42 (dk_at dksX2_quarter_0 10 rfl rfl)
theorem dX2_quarter_11 : decode cX2_quarter 11 = .ok (.iconst 0, 1) := dk_3 (dk_at dksX2_quarter_0 11 rfl rfl)
theorem dX2_quarter_12 : decode cX2_quarter 12 = .ok (.putfield 137, 3) := dk_181 0 137 (dk_at dksX2_quarter_0 12 rfl rfl)
theorem dX2_quarter_15 : decode cX2_quarter 15 = .ok (.aload_n 0, 1) := dk_42 (dk_at dksX2_quarter_0 15 rfl rfl)
theorem dX2_quarter_16 : decode cX2_quarter 16 = .ok (.iconst 0, 1) := dk_3 (dk_at dksX2_quarter_0 16 rfl rfl)
theorem dX2_quarter_17 : decode cX2_quarter 17 = .ok (.putfield 152, 3) := dk_181 0 152 (dk_at dksX2_quarter_0 17 rfl rfl)
theorem dX2_quarter_20 : decode cX2_quarter 20 = .ok (.aload_n 0, 1) := dk_42 (dk_at dksX2_quarter_0 20 rfl rfl)
theorem dX2_quarter_21 : decode cX2_quarter 21 = .ok (.getfield 137, 3) := dk_180 0 137 (dk_at dksX2_quarter_0 21 rfl rfl)
theorem dX2_quarter_24 : decode cX2_quarter 24 = .ok (.ifCond .ne 28, 3) := dk_154 0 28 (dk_at dksX2_quarter_1 0 rfl rfl)
theorem dX2_quarter_27 : decode cX2_quarter 27 = .ok (.aload_n 0, 1) := dk_42 (dk_at dksX2_quarter_1 3 rfl rfl)
theorem dX2_quarter_28 : decode cX2_quarter 28 = .ok (.getfield 152, 3) := dk_180 0 152 (dk_at dksX2_quarter_1 4 rfl rfl)
theorem dX2_quarter_31 : decode cX2_quarter 31 = .ok (.ifCond .eq 14, 3) := dk_153 0 14 (dk_at dksX2_quarter_1 7 rfl rfl)
theorem dX2_quarter_34 : decode cX2_quarter 34 = .ok (.aload_n 0, 1) := dk_42 (dk_at dksX2_quarter_1 10 rfl rfl)
theorem dX2_quarter_35 : decode cX2_quarter 35 = .ok (.getfield 134, 3) := dk_180 0 134 (dk_at dksX2_quarter_1 11 rfl rfl)
theorem dX2_quarter_38 : decode cX2_quarter 38 = .ok (.aload_n 0, 1) := dk_42 (dk_at dksX2_quarter_1 14 rfl rfl)
theorem dX2_quarter_39 : decode cX2_quarter 39 = .ok (.getfield 131, 3) := dk_180 0 131 (dk_at dksX2_quarter_1 15 rfl rfl)
theorem dX2_quarter_42 : decode cX2_quarter 42 = .ok (.if_icmp .ge 10, 3) := dk_162 0 10 (dk_at dksX2_quarter_1 18 rfl rfl)
theorem dX2_quarter_45 : decode cX2_quarter 45 = .ok (.aload_n 0, 1) := dk_42 (dk_at dksX2_quarter_1 21 rfl rfl)
theorem dX2_quarter_46 : decode cX2_quarter 46 = .ok (.invokevirtual 175, 3) := dk_182 0 175 (dk_at dksX2_quarter_2 0 rfl rfl)
theorem dX2_quarter_49 : decode cX2_quarter 49 = .ok (.goto (-29), 3) := dk_167 255 227 (dk_at dksX2_quarter_2 3 rfl rfl)
theorem dX2_quarter_52 : decode cX2_quarter 52 = .ok (.aload_n 0, 1) := dk_42 (dk_at dksX2_quarter_2 6 rfl rfl)
theorem dX2_quarter_53 : decode cX2_quarter 53 = .ok (.iconst 0, 1) := dk_3 (dk_at dksX2_quarter_2 7 rfl rfl)
theorem dX2_quarter_54 : decode cX2_quarter 54 = .ok (.putfield 131, 3) := dk_181 0 131 (dk_at dksX2_quarter_2 8 rfl rfl)
theorem dX2_quarter_57 : decode cX2_quarter 57 = .ok (.aload_n 0, 1) := dk_42 (dk_at dksX2_quarter_2 11 rfl rfl)
theorem dX2_quarter_58 : decode cX2_quarter 58 = .ok (.getfield 137, 3) := dk_180 0 137 (dk_at dksX2_quarter_2 12 rfl rfl)
theorem dX2_quarter_61 : decode cX2_quarter 61 = .ok (.ifCond .eq 12, 3) := dk_153 0 12 (dk_at dksX2_quarter_2 15 rfl rfl)
theorem dX2_quarter_64 : decode cX2_quarter 64 = .ok (.sipush (-1000), 3) := dk_17 252 24 (dk_at dksX2_quarter_2 18 rfl rfl)
theorem dX2_quarter_67 : decode cX2_quarter 67 = .ok (.aload_n 0, 1) := dk_42 (dk_at dksX2_quarter_2 21 rfl rfl)
theorem dX2_quarter_68 : decode cX2_quarter 68 = .ok (.getfield 134, 3) := dk_180 0 134 (dk_at dksX2_quarter_3 0 rfl rfl)
theorem dX2_quarter_71 : decode cX2_quarter 71 = .ok (.isub, 1) := dk_100 (dk_at dksX2_quarter_3 3 rfl rfl)
theorem dX2_quarter_72 : decode cX2_quarter 72 = .ok (.ireturn, 1) := dk_172 (dk_at dksX2_quarter_3 4 rfl rfl)
theorem dX2_quarter_73 : decode cX2_quarter 73 = .ok (.aload_n 0, 1) := dk_42 (dk_at dksX2_quarter_3 5 rfl rfl)
theorem dX2_quarter_74 : decode cX2_quarter 74 = .ok (.invokevirtual 178, 3) := dk_182 0 178 (dk_at dksX2_quarter_3 6 rfl rfl)
theorem dX2_quarter_77 : decode cX2_quarter 77 = .ok (.iconst 0, 1) := dk_3 (dk_at dksX2_quarter_3 9 rfl rfl)
theorem dX2_quarter_78 : decode cX2_quarter 78 = .ok (.istore_n 1, 1) := dk_60 (dk_at dksX2_quarter_3 10 rfl rfl)
theorem dX2_quarter_79 : decode cX2_quarter 79 = .ok (.iload_n 1, 1) := dk_27 (dk_at dksX2_quarter_3 11 rfl rfl)
theorem dX2_quarter_80 : decode cX2_quarter 80 = .ok (.aload_n 0, 1) := dk_42 (dk_at dksX2_quarter_3 12 rfl rfl)
theorem dX2_quarter_81 : decode cX2_quarter 81 = .ok (.getfield 152, 3) := dk_180 0 152 (dk_at dksX2_quarter_3 13 rfl rfl)
theorem dX2_quarter_84 : decode cX2_quarter 84 = .ok (.if_icmp .ge 32, 3) := dk_162 0 32 (dk_at dksX2_quarter_3 16 rfl rfl)
theorem dX2_quarter_87 : decode cX2_quarter 87 = .ok (.aload_n 0, 1) := dk_42 (dk_at dksX2_quarter_3 19 rfl rfl)
theorem dX2_quarter_88 : decode cX2_quarter 88 = .ok (.iload_n 1, 1) := dk_27 (dk_at dksX2_quarter_3 20 rfl rfl)
theorem dX2_quarter_89 : decode cX2_quarter 89 = .ok (.invokevirtual 181, 3) := dk_182 0 181 (dk_at dksX2_quarter_3 21 rfl rfl)
theorem dX2_quarter_92 : decode cX2_quarter 92 = .ok (.ifCond .ne 18, 3) := dk_154 0 18 (dk_at dksX2_quarter_4 0 rfl rfl)
theorem dX2_quarter_95 : decode cX2_quarter 95 = .ok (.aload_n 0, 1) := dk_42 (dk_at dksX2_quarter_4 3 rfl rfl)
theorem dX2_quarter_96 : decode cX2_quarter 96 = .ok (.invokevirtual 184, 3) := dk_182 0 184 (dk_at dksX2_quarter_4 4 rfl rfl)
theorem dX2_quarter_99 : decode cX2_quarter 99 = .ok (.sipush (-2000), 3) := dk_17 248 48 (dk_at dksX2_quarter_4 7 rfl rfl)
theorem dX2_quarter_102 : decode cX2_quarter 102 = .ok (.aload_n 0, 1) := dk_42 (dk_at dksX2_quarter_4 10 rfl rfl)
theorem dX2_quarter_103 : decode cX2_quarter 103 = .ok (.getfield 31, 3) := dk_180 0 31 (dk_at dksX2_quarter_4 11 rfl rfl)
theorem dX2_quarter_106 : decode cX2_quarter 106 = .ok (.iload_n 1, 1) := dk_27 (dk_at dksX2_quarter_4 14 rfl rfl)
theorem dX2_quarter_107 : decode cX2_quarter 107 = .ok (.iaload, 1) := dk_46 (dk_at dksX2_quarter_4 15 rfl rfl)
theorem dX2_quarter_108 : decode cX2_quarter 108 = .ok (.isub, 1) := dk_100 (dk_at dksX2_quarter_4 16 rfl rfl)
theorem dX2_quarter_109 : decode cX2_quarter 109 = .ok (.ireturn, 1) := dk_172 (dk_at dksX2_quarter_4 17 rfl rfl)
theorem dX2_quarter_110 : decode cX2_quarter 110 = .ok (.iinc 1 1, 3) := dk_132 1 1 (dk_at dksX2_quarter_4 18 rfl rfl)
theorem dX2_quarter_113 : decode cX2_quarter 113 = .ok (.goto (-34), 3) := dk_167 255 222 (dk_at dksX2_quarter_4 21 rfl rfl)
theorem dX2_quarter_116 : decode cX2_quarter 116 = .ok (.aload_n 0, 1) := dk_42 (dk_at dksX2_quarter_5 0 rfl rfl)
theorem dX2_quarter_117 : decode cX2_quarter 117 = .ok (.iconst 0, 1) := dk_3 (dk_at dksX2_quarter_5 1 rfl rfl)
theorem dX2_quarter_118 : decode cX2_quarter 118 = .ok (.putfield 187, 3) := dk_181 0 187 (dk_at dksX2_quarter_5 2 rfl rfl)
theorem dX2_quarter_121 : decode cX2_quarter 121 = .ok (.aload_n 0, 1) := dk_42 (dk_at dksX2_quarter_5 5 rfl rfl)
theorem dX2_quarter_122 : decode cX2_quarter 122 = .ok (.getfield 152, 3) := dk_180 0 152 (dk_at dksX2_quarter_5 6 rfl rfl)
theorem dX2_quarter_125 : decode cX2_quarter 125 = .ok (.ireturn, 1) := dk_172 (dk_at dksX2_quarter_5 9 rfl rfl)
abbrev cX2_readStatement : ByteArray := prog_12_method_33_code
def yX2_readStatement : MethodName := ⟨RX2, "readStatement", "()V"⟩
def dkwX2_readStatement_6 : List UInt8 := [181, 0, 152, 177]
abbrev dktX2_readStatement_6 : List UInt8 := dkwX2_readStatement_6 ++ []
def dkwX2_readStatement_5 : List UInt8 := [180, 0, 137, 153, 0, 7, 3, 167, 0, 4, 4, 96, 181, 0, 134, 42, 89, 180, 0, 152, 4, 96]
abbrev dktX2_readStatement_5 : List UInt8 := dkwX2_readStatement_5 ++ dktX2_readStatement_6
def dkwX2_readStatement_4 : List UInt8 := [182, 0, 141, 16, 59, 159, 0, 7, 4, 167, 0, 4, 3, 181, 0, 137, 42, 89, 180, 0, 134, 42]
abbrev dktX2_readStatement_4 : List UInt8 := dkwX2_readStatement_4 ++ dktX2_readStatement_5
def dkwX2_readStatement_3 : List UInt8 := [42, 180, 0, 137, 154, 0, 11, 42, 28, 6, 27, 104, 182, 0, 158, 42, 42, 180, 0, 137, 154, 0, 12, 42]
abbrev dktX2_readStatement_3 : List UInt8 := dkwX2_readStatement_3 ++ dktX2_readStatement_4
def dkwX2_readStatement_2 : List UInt8 := [181, 0, 137, 42, 89, 180, 0, 134, 42, 180, 0, 137, 153, 0, 7, 3, 167, 0, 4, 4, 96, 181, 0, 134]
abbrev dktX2_readStatement_2 : List UInt8 := dkwX2_readStatement_2 ++ dktX2_readStatement_3
def dkwX2_readStatement_1 : List UInt8 := [27, 28, 79, 42, 42, 180, 0, 137, 154, 0, 10, 28, 184, 0, 155, 154, 0, 7, 4, 167, 0, 4, 3]
abbrev dktX2_readStatement_1 : List UInt8 := dkwX2_readStatement_1 ++ dktX2_readStatement_2
def dkwX2_readStatement_0 : List UInt8 := [42, 180, 0, 152, 60, 42, 182, 0, 141, 61, 42, 180, 0, 31, 27, 42, 180, 0, 134, 79, 42, 180, 0, 34]
abbrev dktX2_readStatement_0 : List UInt8 := dkwX2_readStatement_0 ++ dktX2_readStatement_1
theorem dksX2_readStatement_0 : cX2_readStatement.data.toList.drop 0 = dktX2_readStatement_0 := by decide +kernel
theorem dksX2_readStatement_1 : cX2_readStatement.data.toList.drop 24 = dktX2_readStatement_1 := dk_seg dksX2_readStatement_0 24 rfl rfl
theorem dksX2_readStatement_2 : cX2_readStatement.data.toList.drop 47 = dktX2_readStatement_2 := dk_seg dksX2_readStatement_1 23 rfl rfl
theorem dksX2_readStatement_3 : cX2_readStatement.data.toList.drop 71 = dktX2_readStatement_3 := dk_seg dksX2_readStatement_2 24 rfl rfl
theorem dksX2_readStatement_4 : cX2_readStatement.data.toList.drop 95 = dktX2_readStatement_4 := dk_seg dksX2_readStatement_3 24 rfl rfl
theorem dksX2_readStatement_5 : cX2_readStatement.data.toList.drop 117 = dktX2_readStatement_5 := dk_seg dksX2_readStatement_4 22 rfl rfl
theorem dksX2_readStatement_6 : cX2_readStatement.data.toList.drop 139 = dktX2_readStatement_6 := dk_seg dksX2_readStatement_5 22 rfl rfl
theorem dX2_readStatement_0 : decode cX2_readStatement 0 = .ok (.aload_n 0, 1) := dk_42 (dk_at dksX2_readStatement_0 0 rfl rfl)
theorem dX2_readStatement_1 : decode cX2_readStatement 1 = .ok (.getfield 152, 3) := dk_180 0 152 (dk_at dksX2_readStatement_0 1 rfl rfl)
theorem dX2_readStatement_4 : decode cX2_readStatement 4 = .ok (.istore_n 1, 1) := dk_60 (dk_at dksX2_readStatement_0 4 rfl rfl)
theorem dX2_readStatement_5 : decode cX2_readStatement 5 = .ok (.aload_n 0, 1) := dk_42 (dk_at dksX2_readStatement_0 5 rfl rfl)
theorem dX2_readStatement_6 : decode cX2_readStatement 6 = .ok (.invokevirtual 141, 3) := dk_182 0 141 (dk_at dksX2_readStatement_0 6 rfl rfl)
theorem dX2_readStatement_9 : decode cX2_readStatement 9 = .ok (.istore_n 2, 1) := dk_61 (dk_at dksX2_readStatement_0 9 rfl rfl)
theorem dX2_readStatement_10 : decode cX2_readStatement 10 = .ok (.aload_n 0, 1) := dk_42 (dk_at dksX2_readStatement_0 10 rfl rfl)
theorem dX2_readStatement_11 : decode cX2_readStatement 11 = .ok (.getfield 31, 3) := dk_180 0 31 (dk_at dksX2_readStatement_0 11 rfl rfl)
theorem dX2_readStatement_14 : decode cX2_readStatement 14 = .ok (.iload_n 1, 1) := dk_27 (dk_at dksX2_readStatement_0 14 rfl rfl)
theorem dX2_readStatement_15 : decode cX2_readStatement 15 = .ok (.aload_n 0, 1) := dk_42 (dk_at dksX2_readStatement_0 15 rfl rfl)
theorem dX2_readStatement_16 : decode cX2_readStatement 16 = .ok (.getfield 134, 3) := dk_180 0 134 (dk_at dksX2_readStatement_0 16 rfl rfl)
theorem dX2_readStatement_19 : decode cX2_readStatement 19 = .ok (.iastore, 1) := dk_79 (dk_at dksX2_readStatement_0 19 rfl rfl)
theorem dX2_readStatement_20 : decode cX2_readStatement 20 = .ok (.aload_n 0, 1) := dk_42 (dk_at dksX2_readStatement_0 20 rfl rfl)
theorem dX2_readStatement_21 : decode cX2_readStatement 21 = .ok (.getfield 34, 3) := dk_180 0 34 (dk_at dksX2_readStatement_0 21 rfl rfl)
theorem dX2_readStatement_24 : decode cX2_readStatement 24 = .ok (.iload_n 1, 1) := dk_27 (dk_at dksX2_readStatement_1 0 rfl rfl)
theorem dX2_readStatement_25 : decode cX2_readStatement 25 = .ok (.iload_n 2, 1) := dk_28 (dk_at dksX2_readStatement_1 1 rfl rfl)
theorem dX2_readStatement_26 : decode cX2_readStatement 26 = .ok (.iastore, 1) := dk_79 (dk_at dksX2_readStatement_1 2 rfl rfl)
theorem dX2_readStatement_27 : decode cX2_readStatement 27 = .ok (.aload_n 0, 1) := dk_42 (dk_at dksX2_readStatement_1 3 rfl rfl)
theorem dX2_readStatement_28 : decode cX2_readStatement 28 = .ok (.aload_n 0, 1) := dk_42 (dk_at dksX2_readStatement_1 4 rfl rfl)
theorem dX2_readStatement_29 : decode cX2_readStatement 29 = .ok (.getfield 137, 3) := dk_180 0 137 (dk_at dksX2_readStatement_1 5 rfl rfl)
theorem dX2_readStatement_32 : decode cX2_readStatement 32 = .ok (.ifCond .ne 10, 3) := dk_154 0 10 (dk_at dksX2_readStatement_1 8 rfl rfl)
theorem dX2_readStatement_35 : decode cX2_readStatement 35 = .ok (.iload_n 2, 1) := dk_28 (dk_at dksX2_readStatement_1 11 rfl rfl)
theorem dX2_readStatement_36 : decode cX2_readStatement 36 = .ok (.invokestatic 155, 3) := dk_184 0 155 (dk_at dksX2_readStatement_1 12 rfl rfl)
theorem dX2_readStatement_39 : decode cX2_readStatement 39 = .ok (.ifCond .ne 7, 3) := dk_154 0 7 (dk_at dksX2_readStatement_1 15 rfl rfl)
theorem dX2_readStatement_42 : decode cX2_readStatement 42 = .ok (.iconst 1, 1) := dk_4 (dk_at dksX2_readStatement_1 18 rfl rfl)
theorem dX2_readStatement_43 : decode cX2_readStatement 43 = .ok (.goto 4, 3) := dk_167 0 4 (dk_at dksX2_readStatement_1 19 rfl rfl)
theorem dX2_readStatement_46 : decode cX2_readStatement 46 = .ok (.iconst 0, 1) := dk_3 (dk_at dksX2_readStatement_1 22 rfl rfl)
theorem dX2_readStatement_47 : decode cX2_readStatement 47 = .ok (.putfield 137, 3) := dk_181 0 137 (dk_at dksX2_readStatement_2 0 rfl rfl)
theorem dX2_readStatement_50 : decode cX2_readStatement 50 = .ok (.aload_n 0, 1) := dk_42 (dk_at dksX2_readStatement_2 3 rfl rfl)
theorem dX2_readStatement_51 : decode cX2_readStatement 51 = .ok (.dup, 1) := dk_89 (dk_at dksX2_readStatement_2 4 rfl rfl)
theorem dX2_readStatement_52 : decode cX2_readStatement 52 = .ok (.getfield 134, 3) := dk_180 0 134 (dk_at dksX2_readStatement_2 5 rfl rfl)
theorem dX2_readStatement_55 : decode cX2_readStatement 55 = .ok (.aload_n 0, 1) := dk_42 (dk_at dksX2_readStatement_2 8 rfl rfl)
theorem dX2_readStatement_56 : decode cX2_readStatement 56 = .ok (.getfield 137, 3) := dk_180 0 137 (dk_at dksX2_readStatement_2 9 rfl rfl)
theorem dX2_readStatement_59 : decode cX2_readStatement 59 = .ok (.ifCond .eq 7, 3) := dk_153 0 7 (dk_at dksX2_readStatement_2 12 rfl rfl)
theorem dX2_readStatement_62 : decode cX2_readStatement 62 = .ok (.iconst 0, 1) := dk_3 (dk_at dksX2_readStatement_2 15 rfl rfl)
theorem dX2_readStatement_63 : decode cX2_readStatement 63 = .ok (.goto 4, 3) := dk_167 0 4 (dk_at dksX2_readStatement_2 16 rfl rfl)
theorem dX2_readStatement_66 : decode cX2_readStatement 66 = .ok (.iconst 1, 1) := dk_4 (dk_at dksX2_readStatement_2 19 rfl rfl)
theorem dX2_readStatement_67 : decode cX2_readStatement 67 = .ok (.iadd, 1) := dk_96 (dk_at dksX2_readStatement_2 20 rfl rfl)
theorem dX2_readStatement_68 : decode cX2_readStatement 68 = .ok (.putfield 134, 3) := dk_181 0 134 (dk_at dksX2_readStatement_2 21 rfl rfl)
theorem dX2_readStatement_71 : decode cX2_readStatement 71 = .ok (.aload_n 0, 1) := dk_42 (dk_at dksX2_readStatement_3 0 rfl rfl)
theorem dX2_readStatement_72 : decode cX2_readStatement 72 = .ok (.getfield 137, 3) := dk_180 0 137 (dk_at dksX2_readStatement_3 1 rfl rfl)
theorem dX2_readStatement_75 : decode cX2_readStatement 75 = .ok (.ifCond .ne 11, 3) := dk_154 0 11 (dk_at dksX2_readStatement_3 4 rfl rfl)
theorem dX2_readStatement_78 : decode cX2_readStatement 78 = .ok (.aload_n 0, 1) := dk_42 (dk_at dksX2_readStatement_3 7 rfl rfl)
theorem dX2_readStatement_79 : decode cX2_readStatement 79 = .ok (.iload_n 2, 1) := dk_28 (dk_at dksX2_readStatement_3 8 rfl rfl)
theorem dX2_readStatement_80 : decode cX2_readStatement 80 = .ok (.iconst 3, 1) := dk_6 (dk_at dksX2_readStatement_3 9 rfl rfl)
theorem dX2_readStatement_81 : decode cX2_readStatement 81 = .ok (.iload_n 1, 1) := dk_27 (dk_at dksX2_readStatement_3 10 rfl rfl)
theorem dX2_readStatement_82 : decode cX2_readStatement 82 = .ok (.imul, 1) := dk_104 (dk_at dksX2_readStatement_3 11 rfl rfl)
theorem dX2_readStatement_83 : decode cX2_readStatement 83 = .ok (.invokevirtual 158, 3) := dk_182 0 158 (dk_at dksX2_readStatement_3 12 rfl rfl)
theorem dX2_readStatement_86 : decode cX2_readStatement 86 = .ok (.aload_n 0, 1) := dk_42 (dk_at dksX2_readStatement_3 15 rfl rfl)
theorem dX2_readStatement_87 : decode cX2_readStatement 87 = .ok (.aload_n 0, 1) := dk_42 (dk_at dksX2_readStatement_3 16 rfl rfl)
theorem dX2_readStatement_88 : decode cX2_readStatement 88 = .ok (.getfield 137, 3) := dk_180 0 137 (dk_at dksX2_readStatement_3 17 rfl rfl)
theorem dX2_readStatement_91 : decode cX2_readStatement 91 = .ok (.ifCond .ne 12, 3) := dk_154 0 12 (dk_at dksX2_readStatement_3 20 rfl rfl)
theorem dX2_readStatement_94 : decode cX2_readStatement 94 = .ok (.aload_n 0, 1) := dk_42 (dk_at dksX2_readStatement_3 23 rfl rfl)
theorem dX2_readStatement_95 : decode cX2_readStatement 95 = .ok (.invokevirtual 141, 3) := dk_182 0 141 (dk_at dksX2_readStatement_4 0 rfl rfl)
theorem dX2_readStatement_98 : decode cX2_readStatement 98 = .ok (.bipush 59, 2) := dk_16 59 (dk_at dksX2_readStatement_4 3 rfl rfl)
theorem dX2_readStatement_100 : decode cX2_readStatement 100 = .ok (.if_icmp .eq 7, 3) := dk_159 0 7 (dk_at dksX2_readStatement_4 5 rfl rfl)
theorem dX2_readStatement_103 : decode cX2_readStatement 103 = .ok (.iconst 1, 1) := dk_4 (dk_at dksX2_readStatement_4 8 rfl rfl)
theorem dX2_readStatement_104 : decode cX2_readStatement 104 = .ok (.goto 4, 3) := dk_167 0 4 (dk_at dksX2_readStatement_4 9 rfl rfl)
theorem dX2_readStatement_107 : decode cX2_readStatement 107 = .ok (.iconst 0, 1) := dk_3 (dk_at dksX2_readStatement_4 12 rfl rfl)
theorem dX2_readStatement_108 : decode cX2_readStatement 108 = .ok (.putfield 137, 3) := dk_181 0 137 (dk_at dksX2_readStatement_4 13 rfl rfl)
theorem dX2_readStatement_111 : decode cX2_readStatement 111 = .ok (.aload_n 0, 1) := dk_42 (dk_at dksX2_readStatement_4 16 rfl rfl)
theorem dX2_readStatement_112 : decode cX2_readStatement 112 = .ok (.dup, 1) := dk_89 (dk_at dksX2_readStatement_4 17 rfl rfl)
theorem dX2_readStatement_113 : decode cX2_readStatement 113 = .ok (.getfield 134, 3) := dk_180 0 134 (dk_at dksX2_readStatement_4 18 rfl rfl)
theorem dX2_readStatement_116 : decode cX2_readStatement 116 = .ok (.aload_n 0, 1) := dk_42 (dk_at dksX2_readStatement_4 21 rfl rfl)
theorem dX2_readStatement_117 : decode cX2_readStatement 117 = .ok (.getfield 137, 3) := dk_180 0 137 (dk_at dksX2_readStatement_5 0 rfl rfl)
theorem dX2_readStatement_120 : decode cX2_readStatement 120 = .ok (.ifCond .eq 7, 3) := dk_153 0 7 (dk_at dksX2_readStatement_5 3 rfl rfl)
theorem dX2_readStatement_123 : decode cX2_readStatement 123 = .ok (.iconst 0, 1) := dk_3 (dk_at dksX2_readStatement_5 6 rfl rfl)
theorem dX2_readStatement_124 : decode cX2_readStatement 124 = .ok (.goto 4, 3) := dk_167 0 4 (dk_at dksX2_readStatement_5 7 rfl rfl)
theorem dX2_readStatement_127 : decode cX2_readStatement 127 = .ok (.iconst 1, 1) := dk_4 (dk_at dksX2_readStatement_5 10 rfl rfl)
theorem dX2_readStatement_128 : decode cX2_readStatement 128 = .ok (.iadd, 1) := dk_96 (dk_at dksX2_readStatement_5 11 rfl rfl)
theorem dX2_readStatement_129 : decode cX2_readStatement 129 = .ok (.putfield 134, 3) := dk_181 0 134 (dk_at dksX2_readStatement_5 12 rfl rfl)
theorem dX2_readStatement_132 : decode cX2_readStatement 132 = .ok (.aload_n 0, 1) := dk_42 (dk_at dksX2_readStatement_5 15 rfl rfl)
theorem dX2_readStatement_133 : decode cX2_readStatement 133 = .ok (.dup, 1) := dk_89 (dk_at dksX2_readStatement_5 16 rfl rfl)
theorem dX2_readStatement_134 : decode cX2_readStatement 134 = .ok (.getfield 152, 3) := dk_180 0 152 (dk_at dksX2_readStatement_5 17 rfl rfl)
theorem dX2_readStatement_137 : decode cX2_readStatement 137 = .ok (.iconst 1, 1) := dk_4 (dk_at dksX2_readStatement_5 20 rfl rfl)
theorem dX2_readStatement_138 : decode cX2_readStatement 138 = .ok (.iadd, 1) := dk_96 (dk_at dksX2_readStatement_5 21 rfl rfl)
theorem dX2_readStatement_139 : decode cX2_readStatement 139 = .ok (.putfield 152, 3) := dk_181 0 152 (dk_at dksX2_readStatement_6 0 rfl rfl)
theorem dX2_readStatement_142 : decode cX2_readStatement 142 = .ok (.return_, 1) := dk_177 (dk_at dksX2_readStatement_6 3 rfl rfl)
abbrev cX2_here : ByteArray := prog_12_method_29_code
def yX2_here : MethodName := ⟨RX2, "here", "()I"⟩
def dkwX2_here_1 : List UInt8 := [172]
abbrev dktX2_here_1 : List UInt8 := dkwX2_here_1 ++ []
def dkwX2_here_0 : List UInt8 := [42, 180, 0, 134, 42, 180, 0, 131, 162, 0, 15, 42, 180, 0, 28, 42, 180, 0, 134, 46, 167, 0, 4, 2]
abbrev dktX2_here_0 : List UInt8 := dkwX2_here_0 ++ dktX2_here_1
theorem dksX2_here_0 : cX2_here.data.toList.drop 0 = dktX2_here_0 := by decide +kernel
theorem dksX2_here_1 : cX2_here.data.toList.drop 24 = dktX2_here_1 := dk_seg dksX2_here_0 24 rfl rfl
theorem dX2_here_0 : decode cX2_here 0 = .ok (.aload_n 0, 1) := dk_42 (dk_at dksX2_here_0 0 rfl rfl)
theorem dX2_here_1 : decode cX2_here 1 = .ok (.getfield 134, 3) := dk_180 0 134 (dk_at dksX2_here_0 1 rfl rfl)
theorem dX2_here_4 : decode cX2_here 4 = .ok (.aload_n 0, 1) := dk_42 (dk_at dksX2_here_0 4 rfl rfl)
theorem dX2_here_5 : decode cX2_here 5 = .ok (.getfield 131, 3) := dk_180 0 131 (dk_at dksX2_here_0 5 rfl rfl)
theorem dX2_here_8 : decode cX2_here 8 = .ok (.if_icmp .ge 15, 3) := dk_162 0 15 (dk_at dksX2_here_0 8 rfl rfl)
theorem dX2_here_11 : decode cX2_here 11 = .ok (.aload_n 0, 1) := dk_42 (dk_at dksX2_here_0 11 rfl rfl)
theorem dX2_here_12 : decode cX2_here 12 = .ok (.getfield 28, 3) := dk_180 0 28 (dk_at dksX2_here_0 12 rfl rfl)
theorem dX2_here_15 : decode cX2_here 15 = .ok (.aload_n 0, 1) := dk_42 (dk_at dksX2_here_0 15 rfl rfl)
theorem dX2_here_16 : decode cX2_here 16 = .ok (.getfield 134, 3) := dk_180 0 134 (dk_at dksX2_here_0 16 rfl rfl)
theorem dX2_here_19 : decode cX2_here 19 = .ok (.iaload, 1) := dk_46 (dk_at dksX2_here_0 19 rfl rfl)
theorem dX2_here_20 : decode cX2_here 20 = .ok (.goto 4, 3) := dk_167 0 4 (dk_at dksX2_here_0 20 rfl rfl)
theorem dX2_here_23 : decode cX2_here 23 = .ok (.iconst (-1), 1) := dk_2 (dk_at dksX2_here_0 23 rfl rfl)
theorem dX2_here_24 : decode cX2_here 24 = .ok (.ireturn, 1) := dk_172 (dk_at dksX2_here_1 0 rfl rfl)
abbrev cX2_isLetter : ByteArray := prog_12_method_31_code
def yX2_isLetter : MethodName := ⟨RX2, "isLetter", "(I)Z"⟩
def dkwX2_isLetter_1 : List UInt8 := [26, 16, 100, 160, 0, 7, 4, 167, 0, 4, 3, 172]
abbrev dktX2_isLetter_1 : List UInt8 := dkwX2_isLetter_1 ++ []
def dkwX2_isLetter_0 : List UInt8 := [26, 16, 112, 159, 0, 27, 26, 16, 104, 159, 0, 21, 26, 16, 113, 159, 0, 15, 26, 16, 109, 159, 0, 9]
abbrev dktX2_isLetter_0 : List UInt8 := dkwX2_isLetter_0 ++ dktX2_isLetter_1
theorem dksX2_isLetter_0 : cX2_isLetter.data.toList.drop 0 = dktX2_isLetter_0 := by decide +kernel
theorem dksX2_isLetter_1 : cX2_isLetter.data.toList.drop 24 = dktX2_isLetter_1 := dk_seg dksX2_isLetter_0 24 rfl rfl
theorem dX2_isLetter_0 : decode cX2_isLetter 0 = .ok (.iload_n 0, 1) := dk_26 (dk_at dksX2_isLetter_0 0 rfl rfl)
theorem dX2_isLetter_1 : decode cX2_isLetter 1 = .ok (.bipush 112, 2) := dk_16 112 (dk_at dksX2_isLetter_0 1 rfl rfl)
theorem dX2_isLetter_3 : decode cX2_isLetter 3 = .ok (.if_icmp .eq 27, 3) := dk_159 0 27 (dk_at dksX2_isLetter_0 3 rfl rfl)
theorem dX2_isLetter_6 : decode cX2_isLetter 6 = .ok (.iload_n 0, 1) := dk_26 (dk_at dksX2_isLetter_0 6 rfl rfl)
theorem dX2_isLetter_7 : decode cX2_isLetter 7 = .ok (.bipush 104, 2) := dk_16 104 (dk_at dksX2_isLetter_0 7 rfl rfl)
theorem dX2_isLetter_9 : decode cX2_isLetter 9 = .ok (.if_icmp .eq 21, 3) := dk_159 0 21 (dk_at dksX2_isLetter_0 9 rfl rfl)
theorem dX2_isLetter_12 : decode cX2_isLetter 12 = .ok (.iload_n 0, 1) := dk_26 (dk_at dksX2_isLetter_0 12 rfl rfl)
theorem dX2_isLetter_13 : decode cX2_isLetter 13 = .ok (.bipush 113, 2) := dk_16 113 (dk_at dksX2_isLetter_0 13 rfl rfl)
theorem dX2_isLetter_15 : decode cX2_isLetter 15 = .ok (.if_icmp .eq 15, 3) := dk_159 0 15 (dk_at dksX2_isLetter_0 15 rfl rfl)
theorem dX2_isLetter_18 : decode cX2_isLetter 18 = .ok (.iload_n 0, 1) := dk_26 (dk_at dksX2_isLetter_0 18 rfl rfl)
theorem dX2_isLetter_19 : decode cX2_isLetter 19 = .ok (.bipush 109, 2) := dk_16 109 (dk_at dksX2_isLetter_0 19 rfl rfl)
theorem dX2_isLetter_21 : decode cX2_isLetter 21 = .ok (.if_icmp .eq 9, 3) := dk_159 0 9 (dk_at dksX2_isLetter_0 21 rfl rfl)
theorem dX2_isLetter_24 : decode cX2_isLetter 24 = .ok (.iload_n 0, 1) := dk_26 (dk_at dksX2_isLetter_1 0 rfl rfl)
theorem dX2_isLetter_25 : decode cX2_isLetter 25 = .ok (.bipush 100, 2) := dk_16 100 (dk_at dksX2_isLetter_1 1 rfl rfl)
theorem dX2_isLetter_27 : decode cX2_isLetter 27 = .ok (.if_icmp .ne 7, 3) := dk_160 0 7 (dk_at dksX2_isLetter_1 3 rfl rfl)
theorem dX2_isLetter_30 : decode cX2_isLetter 30 = .ok (.iconst 1, 1) := dk_4 (dk_at dksX2_isLetter_1 6 rfl rfl)
theorem dX2_isLetter_31 : decode cX2_isLetter 31 = .ok (.goto 4, 3) := dk_167 0 4 (dk_at dksX2_isLetter_1 7 rfl rfl)
theorem dX2_isLetter_34 : decode cX2_isLetter 34 = .ok (.iconst 0, 1) := dk_3 (dk_at dksX2_isLetter_1 10 rfl rfl)
theorem dX2_isLetter_35 : decode cX2_isLetter 35 = .ok (.ireturn, 1) := dk_172 (dk_at dksX2_isLetter_1 11 rfl rfl)
abbrev cX2_readNumbers : ByteArray := prog_12_method_32_code
def yX2_readNumbers : MethodName := ⟨RX2, "readNumbers", "(II)V"⟩
def dkwX2_readNumbers_3 : List UInt8 := [16, 113, 160, 0, 16, 42, 180, 0, 37, 28, 5, 96, 42, 5, 182, 0, 149, 79, 177]
abbrev dktX2_readNumbers_3 : List UInt8 := dkwX2_readNumbers_3 ++ []
def dkwX2_readNumbers_2 : List UInt8 := [159, 0, 16, 42, 180, 0, 37, 28, 4, 96, 42, 4, 182, 0, 149, 79, 27, 16, 112, 159, 0, 9, 27]
abbrev dktX2_readNumbers_2 : List UInt8 := dkwX2_readNumbers_2 ++ dktX2_readNumbers_3
def dkwX2_readNumbers_1 : List UInt8 := [160, 0, 19, 42, 180, 0, 37, 28, 4, 96, 42, 5, 182, 0, 149, 79, 167, 0, 22, 27, 16, 100]
abbrev dktX2_readNumbers_1 : List UInt8 := dkwX2_readNumbers_1 ++ dktX2_readNumbers_2
def dkwX2_readNumbers_0 : List UInt8 := [42, 180, 0, 37, 28, 42, 27, 16, 100, 160, 0, 7, 5, 167, 0, 4, 4, 182, 0, 149, 79, 27, 16, 104]
abbrev dktX2_readNumbers_0 : List UInt8 := dkwX2_readNumbers_0 ++ dktX2_readNumbers_1
theorem dksX2_readNumbers_0 : cX2_readNumbers.data.toList.drop 0 = dktX2_readNumbers_0 := by decide +kernel
theorem dksX2_readNumbers_1 : cX2_readNumbers.data.toList.drop 24 = dktX2_readNumbers_1 := dk_seg dksX2_readNumbers_0 24 rfl rfl
theorem dksX2_readNumbers_2 : cX2_readNumbers.data.toList.drop 46 = dktX2_readNumbers_2 := dk_seg dksX2_readNumbers_1 22 rfl rfl
theorem dksX2_readNumbers_3 : cX2_readNumbers.data.toList.drop 69 = dktX2_readNumbers_3 := dk_seg dksX2_readNumbers_2 23 rfl rfl
theorem dX2_readNumbers_0 : decode cX2_readNumbers 0 = .ok (.aload_n 0, 1) := dk_42 (dk_at dksX2_readNumbers_0 0 rfl rfl)
theorem dX2_readNumbers_1 : decode cX2_readNumbers 1 = .ok (.getfield 37, 3) := dk_180 0 37 (dk_at dksX2_readNumbers_0 1 rfl rfl)
theorem dX2_readNumbers_4 : decode cX2_readNumbers 4 = .ok (.iload_n 2, 1) := dk_28 (dk_at dksX2_readNumbers_0 4 rfl rfl)
theorem dX2_readNumbers_5 : decode cX2_readNumbers 5 = .ok (.aload_n 0, 1) := dk_42 (dk_at dksX2_readNumbers_0 5 rfl rfl)
theorem dX2_readNumbers_6 : decode cX2_readNumbers 6 = .ok (.iload_n 1, 1) := dk_27 (dk_at dksX2_readNumbers_0 6 rfl rfl)
theorem dX2_readNumbers_7 : decode cX2_readNumbers 7 = .ok (.bipush 100, 2) := dk_16 100 (dk_at dksX2_readNumbers_0 7 rfl rfl)
theorem dX2_readNumbers_9 : decode cX2_readNumbers 9 = .ok (.if_icmp .ne 7, 3) := dk_160 0 7 (dk_at dksX2_readNumbers_0 9 rfl rfl)
theorem dX2_readNumbers_12 : decode cX2_readNumbers 12 = .ok (.iconst 2, 1) := dk_5 (dk_at dksX2_readNumbers_0 12 rfl rfl)
theorem dX2_readNumbers_13 : decode cX2_readNumbers 13 = .ok (.goto 4, 3) := dk_167 0 4 (dk_at dksX2_readNumbers_0 13 rfl rfl)
theorem dX2_readNumbers_16 : decode cX2_readNumbers 16 = .ok (.iconst 1, 1) := dk_4 (dk_at dksX2_readNumbers_0 16 rfl rfl)
theorem dX2_readNumbers_17 : decode cX2_readNumbers 17 = .ok (.invokevirtual 149, 3) := dk_182 0 149 (dk_at dksX2_readNumbers_0 17 rfl rfl)
theorem dX2_readNumbers_20 : decode cX2_readNumbers 20 = .ok (.iastore, 1) := dk_79 (dk_at dksX2_readNumbers_0 20 rfl rfl)
theorem dX2_readNumbers_21 : decode cX2_readNumbers 21 = .ok (.iload_n 1, 1) := dk_27 (dk_at dksX2_readNumbers_0 21 rfl rfl)
theorem dX2_readNumbers_22 : decode cX2_readNumbers 22 = .ok (.bipush 104, 2) := dk_16 104 (dk_at dksX2_readNumbers_0 22 rfl rfl)
theorem dX2_readNumbers_24 : decode cX2_readNumbers 24 = .ok (.if_icmp .ne 19, 3) := dk_160 0 19 (dk_at dksX2_readNumbers_1 0 rfl rfl)
theorem dX2_readNumbers_27 : decode cX2_readNumbers 27 = .ok (.aload_n 0, 1) := dk_42 (dk_at dksX2_readNumbers_1 3 rfl rfl)
theorem dX2_readNumbers_28 : decode cX2_readNumbers 28 = .ok (.getfield 37, 3) := dk_180 0 37 (dk_at dksX2_readNumbers_1 4 rfl rfl)
theorem dX2_readNumbers_31 : decode cX2_readNumbers 31 = .ok (.iload_n 2, 1) := dk_28 (dk_at dksX2_readNumbers_1 7 rfl rfl)
theorem dX2_readNumbers_32 : decode cX2_readNumbers 32 = .ok (.iconst 1, 1) := dk_4 (dk_at dksX2_readNumbers_1 8 rfl rfl)
theorem dX2_readNumbers_33 : decode cX2_readNumbers 33 = .ok (.iadd, 1) := dk_96 (dk_at dksX2_readNumbers_1 9 rfl rfl)
theorem dX2_readNumbers_34 : decode cX2_readNumbers 34 = .ok (.aload_n 0, 1) := dk_42 (dk_at dksX2_readNumbers_1 10 rfl rfl)
theorem dX2_readNumbers_35 : decode cX2_readNumbers 35 = .ok (.iconst 2, 1) := dk_5 (dk_at dksX2_readNumbers_1 11 rfl rfl)
theorem dX2_readNumbers_36 : decode cX2_readNumbers 36 = .ok (.invokevirtual 149, 3) := dk_182 0 149 (dk_at dksX2_readNumbers_1 12 rfl rfl)
theorem dX2_readNumbers_39 : decode cX2_readNumbers 39 = .ok (.iastore, 1) := dk_79 (dk_at dksX2_readNumbers_1 15 rfl rfl)
theorem dX2_readNumbers_40 : decode cX2_readNumbers 40 = .ok (.goto 22, 3) := dk_167 0 22 (dk_at dksX2_readNumbers_1 16 rfl rfl)
theorem dX2_readNumbers_43 : decode cX2_readNumbers 43 = .ok (.iload_n 1, 1) := dk_27 (dk_at dksX2_readNumbers_1 19 rfl rfl)
theorem dX2_readNumbers_44 : decode cX2_readNumbers 44 = .ok (.bipush 100, 2) := dk_16 100 (dk_at dksX2_readNumbers_1 20 rfl rfl)
theorem dX2_readNumbers_46 : decode cX2_readNumbers 46 = .ok (.if_icmp .eq 16, 3) := dk_159 0 16 (dk_at dksX2_readNumbers_2 0 rfl rfl)
theorem dX2_readNumbers_49 : decode cX2_readNumbers 49 = .ok (.aload_n 0, 1) := dk_42 (dk_at dksX2_readNumbers_2 3 rfl rfl)
theorem dX2_readNumbers_50 : decode cX2_readNumbers 50 = .ok (.getfield 37, 3) := dk_180 0 37 (dk_at dksX2_readNumbers_2 4 rfl rfl)
theorem dX2_readNumbers_53 : decode cX2_readNumbers 53 = .ok (.iload_n 2, 1) := dk_28 (dk_at dksX2_readNumbers_2 7 rfl rfl)
theorem dX2_readNumbers_54 : decode cX2_readNumbers 54 = .ok (.iconst 1, 1) := dk_4 (dk_at dksX2_readNumbers_2 8 rfl rfl)
theorem dX2_readNumbers_55 : decode cX2_readNumbers 55 = .ok (.iadd, 1) := dk_96 (dk_at dksX2_readNumbers_2 9 rfl rfl)
theorem dX2_readNumbers_56 : decode cX2_readNumbers 56 = .ok (.aload_n 0, 1) := dk_42 (dk_at dksX2_readNumbers_2 10 rfl rfl)
theorem dX2_readNumbers_57 : decode cX2_readNumbers 57 = .ok (.iconst 1, 1) := dk_4 (dk_at dksX2_readNumbers_2 11 rfl rfl)
theorem dX2_readNumbers_58 : decode cX2_readNumbers 58 = .ok (.invokevirtual 149, 3) := dk_182 0 149 (dk_at dksX2_readNumbers_2 12 rfl rfl)
theorem dX2_readNumbers_61 : decode cX2_readNumbers 61 = .ok (.iastore, 1) := dk_79 (dk_at dksX2_readNumbers_2 15 rfl rfl)
theorem dX2_readNumbers_62 : decode cX2_readNumbers 62 = .ok (.iload_n 1, 1) := dk_27 (dk_at dksX2_readNumbers_2 16 rfl rfl)
theorem dX2_readNumbers_63 : decode cX2_readNumbers 63 = .ok (.bipush 112, 2) := dk_16 112 (dk_at dksX2_readNumbers_2 17 rfl rfl)
theorem dX2_readNumbers_65 : decode cX2_readNumbers 65 = .ok (.if_icmp .eq 9, 3) := dk_159 0 9 (dk_at dksX2_readNumbers_2 19 rfl rfl)
theorem dX2_readNumbers_68 : decode cX2_readNumbers 68 = .ok (.iload_n 1, 1) := dk_27 (dk_at dksX2_readNumbers_2 22 rfl rfl)
theorem dX2_readNumbers_69 : decode cX2_readNumbers 69 = .ok (.bipush 113, 2) := dk_16 113 (dk_at dksX2_readNumbers_3 0 rfl rfl)
theorem dX2_readNumbers_71 : decode cX2_readNumbers 71 = .ok (.if_icmp .ne 16, 3) := dk_160 0 16 (dk_at dksX2_readNumbers_3 2 rfl rfl)
theorem dX2_readNumbers_74 : decode cX2_readNumbers 74 = .ok (.aload_n 0, 1) := dk_42 (dk_at dksX2_readNumbers_3 5 rfl rfl)
theorem dX2_readNumbers_75 : decode cX2_readNumbers 75 = .ok (.getfield 37, 3) := dk_180 0 37 (dk_at dksX2_readNumbers_3 6 rfl rfl)
theorem dX2_readNumbers_78 : decode cX2_readNumbers 78 = .ok (.iload_n 2, 1) := dk_28 (dk_at dksX2_readNumbers_3 9 rfl rfl)
theorem dX2_readNumbers_79 : decode cX2_readNumbers 79 = .ok (.iconst 2, 1) := dk_5 (dk_at dksX2_readNumbers_3 10 rfl rfl)
theorem dX2_readNumbers_80 : decode cX2_readNumbers 80 = .ok (.iadd, 1) := dk_96 (dk_at dksX2_readNumbers_3 11 rfl rfl)
theorem dX2_readNumbers_81 : decode cX2_readNumbers 81 = .ok (.aload_n 0, 1) := dk_42 (dk_at dksX2_readNumbers_3 12 rfl rfl)
theorem dX2_readNumbers_82 : decode cX2_readNumbers 82 = .ok (.iconst 2, 1) := dk_5 (dk_at dksX2_readNumbers_3 13 rfl rfl)
theorem dX2_readNumbers_83 : decode cX2_readNumbers 83 = .ok (.invokevirtual 149, 3) := dk_182 0 149 (dk_at dksX2_readNumbers_3 14 rfl rfl)
theorem dX2_readNumbers_86 : decode cX2_readNumbers 86 = .ok (.iastore, 1) := dk_79 (dk_at dksX2_readNumbers_3 17 rfl rfl)
theorem dX2_readNumbers_87 : decode cX2_readNumbers 87 = .ok (.return_, 1) := dk_177 (dk_at dksX2_readNumbers_3 18 rfl rfl)
abbrev cX2_readDigits : ByteArray := prog_12_method_30_code
def yX2_readDigits : MethodName := ⟨RX2, "readDigits", "(I)I"⟩
def dkwX2_readDigits_4 : List UInt8 := [132, 3, 1, 167, 255, 165, 28, 172]
abbrev dktX2_readDigits_4 : List UInt8 := dkwX2_readDigits_4 ++ []
def dkwX2_readDigits_3 : List UInt8 := [61, 42, 89, 180, 0, 134, 42, 180, 0, 137, 153, 0, 7, 3, 167, 0, 4, 4, 96, 181, 0, 134]
abbrev dktX2_readDigits_3 : List UInt8 := dkwX2_readDigits_3 ++ dktX2_readDigits_4
def dkwX2_readDigits_2 : List UInt8 := [153, 0, 7, 3, 167, 0, 20, 16, 10, 28, 104, 42, 180, 0, 28, 42, 180, 0, 134, 46, 96, 16, 48, 100]
abbrev dktX2_readDigits_2 : List UInt8 := dkwX2_readDigits_2 ++ dktX2_readDigits_3
def dkwX2_readDigits_1 : List UInt8 := [20, 0, 145, 20, 0, 147, 184, 0, 71, 154, 0, 7, 4, 167, 0, 4, 3, 181, 0, 137, 42, 180, 0, 137]
abbrev dktX2_readDigits_1 : List UInt8 := dkwX2_readDigits_1 ++ dktX2_readDigits_2
def dkwX2_readDigits_0 : List UInt8 := [3, 61, 3, 62, 29, 27, 162, 0, 92, 42, 42, 180, 0, 137, 154, 0, 20, 42, 182, 0, 141, 133]
abbrev dktX2_readDigits_0 : List UInt8 := dkwX2_readDigits_0 ++ dktX2_readDigits_1
theorem dksX2_readDigits_0 : cX2_readDigits.data.toList.drop 0 = dktX2_readDigits_0 := by decide +kernel
theorem dksX2_readDigits_1 : cX2_readDigits.data.toList.drop 22 = dktX2_readDigits_1 := dk_seg dksX2_readDigits_0 22 rfl rfl
theorem dksX2_readDigits_2 : cX2_readDigits.data.toList.drop 46 = dktX2_readDigits_2 := dk_seg dksX2_readDigits_1 24 rfl rfl
theorem dksX2_readDigits_3 : cX2_readDigits.data.toList.drop 70 = dktX2_readDigits_3 := dk_seg dksX2_readDigits_2 24 rfl rfl
theorem dksX2_readDigits_4 : cX2_readDigits.data.toList.drop 92 = dktX2_readDigits_4 := dk_seg dksX2_readDigits_3 22 rfl rfl
theorem dX2_readDigits_0 : decode cX2_readDigits 0 = .ok (.iconst 0, 1) := dk_3 (dk_at dksX2_readDigits_0 0 rfl rfl)
theorem dX2_readDigits_1 : decode cX2_readDigits 1 = .ok (.istore_n 2, 1) := dk_61 (dk_at dksX2_readDigits_0 1 rfl rfl)
theorem dX2_readDigits_2 : decode cX2_readDigits 2 = .ok (.iconst 0, 1) := dk_3 (dk_at dksX2_readDigits_0 2 rfl rfl)
theorem dX2_readDigits_3 : decode cX2_readDigits 3 = .ok (.istore_n 3, 1) := dk_62 (dk_at dksX2_readDigits_0 3 rfl rfl)
theorem dX2_readDigits_4 : decode cX2_readDigits 4 = .ok (.iload_n 3, 1) := dk_29 (dk_at dksX2_readDigits_0 4 rfl rfl)
theorem dX2_readDigits_5 : decode cX2_readDigits 5 = .ok (.iload_n 1, 1) := dk_27 (dk_at dksX2_readDigits_0 5 rfl rfl)
theorem dX2_readDigits_6 : decode cX2_readDigits 6 = .ok (.if_icmp .ge 92, 3) := dk_162 0 92 (dk_at dksX2_readDigits_0 6 rfl rfl)
theorem dX2_readDigits_9 : decode cX2_readDigits 9 = .ok (.aload_n 0, 1) := dk_42 (dk_at dksX2_readDigits_0 9 rfl rfl)
theorem dX2_readDigits_10 : decode cX2_readDigits 10 = .ok (.aload_n 0, 1) := dk_42 (dk_at dksX2_readDigits_0 10 rfl rfl)
theorem dX2_readDigits_11 : decode cX2_readDigits 11 = .ok (.getfield 137, 3) := dk_180 0 137 (dk_at dksX2_readDigits_0 11 rfl rfl)
theorem dX2_readDigits_14 : decode cX2_readDigits 14 = .ok (.ifCond .ne 20, 3) := dk_154 0 20 (dk_at dksX2_readDigits_0 14 rfl rfl)
theorem dX2_readDigits_17 : decode cX2_readDigits 17 = .ok (.aload_n 0, 1) := dk_42 (dk_at dksX2_readDigits_0 17 rfl rfl)
theorem dX2_readDigits_18 : decode cX2_readDigits 18 = .ok (.invokevirtual 141, 3) := dk_182 0 141 (dk_at dksX2_readDigits_0 18 rfl rfl)
theorem dX2_readDigits_21 : decode cX2_readDigits 21 = .ok (.i2l, 1) := dk_133 (dk_at dksX2_readDigits_0 21 rfl rfl)
theorem dX2_readDigits_22 : decode cX2_readDigits 22 = .ok (.ldc2_w 145, 3) := dk_20 0 145 (dk_at dksX2_readDigits_1 0 rfl rfl)
theorem dX2_readDigits_25 : decode cX2_readDigits 25 = .ok (.ldc2_w 147, 3) := dk_20 0 147 (dk_at dksX2_readDigits_1 3 rfl rfl)
theorem dX2_readDigits_28 : decode cX2_readDigits 28 = .ok (.invokestatic 71, 3) := dk_184 0 71 (dk_at dksX2_readDigits_1 6 rfl rfl)
theorem dX2_readDigits_31 : decode cX2_readDigits 31 = .ok (.ifCond .ne 7, 3) := dk_154 0 7 (dk_at dksX2_readDigits_1 9 rfl rfl)
theorem dX2_readDigits_34 : decode cX2_readDigits 34 = .ok (.iconst 1, 1) := dk_4 (dk_at dksX2_readDigits_1 12 rfl rfl)
theorem dX2_readDigits_35 : decode cX2_readDigits 35 = .ok (.goto 4, 3) := dk_167 0 4 (dk_at dksX2_readDigits_1 13 rfl rfl)
theorem dX2_readDigits_38 : decode cX2_readDigits 38 = .ok (.iconst 0, 1) := dk_3 (dk_at dksX2_readDigits_1 16 rfl rfl)
theorem dX2_readDigits_39 : decode cX2_readDigits 39 = .ok (.putfield 137, 3) := dk_181 0 137 (dk_at dksX2_readDigits_1 17 rfl rfl)
theorem dX2_readDigits_42 : decode cX2_readDigits 42 = .ok (.aload_n 0, 1) := dk_42 (dk_at dksX2_readDigits_1 20 rfl rfl)
theorem dX2_readDigits_43 : decode cX2_readDigits 43 = .ok (.getfield 137, 3) := dk_180 0 137 (dk_at dksX2_readDigits_1 21 rfl rfl)
theorem dX2_readDigits_46 : decode cX2_readDigits 46 = .ok (.ifCond .eq 7, 3) := dk_153 0 7 (dk_at dksX2_readDigits_2 0 rfl rfl)
theorem dX2_readDigits_49 : decode cX2_readDigits 49 = .ok (.iconst 0, 1) := dk_3 (dk_at dksX2_readDigits_2 3 rfl rfl)
theorem dX2_readDigits_50 : decode cX2_readDigits 50 = .ok (.goto 20, 3) := dk_167 0 20 (dk_at dksX2_readDigits_2 4 rfl rfl)
theorem dX2_readDigits_53 : decode cX2_readDigits 53 = .ok (.bipush 10, 2) := dk_16 10 (dk_at dksX2_readDigits_2 7 rfl rfl)
theorem dX2_readDigits_55 : decode cX2_readDigits 55 = .ok (.iload_n 2, 1) := dk_28 (dk_at dksX2_readDigits_2 9 rfl rfl)
theorem dX2_readDigits_56 : decode cX2_readDigits 56 = .ok (.imul, 1) := dk_104 (dk_at dksX2_readDigits_2 10 rfl rfl)
theorem dX2_readDigits_57 : decode cX2_readDigits 57 = .ok (.aload_n 0, 1) := dk_42 (dk_at dksX2_readDigits_2 11 rfl rfl)
theorem dX2_readDigits_58 : decode cX2_readDigits 58 = .ok (.getfield 28, 3) := dk_180 0 28 (dk_at dksX2_readDigits_2 12 rfl rfl)
theorem dX2_readDigits_61 : decode cX2_readDigits 61 = .ok (.aload_n 0, 1) := dk_42 (dk_at dksX2_readDigits_2 15 rfl rfl)
theorem dX2_readDigits_62 : decode cX2_readDigits 62 = .ok (.getfield 134, 3) := dk_180 0 134 (dk_at dksX2_readDigits_2 16 rfl rfl)
theorem dX2_readDigits_65 : decode cX2_readDigits 65 = .ok (.iaload, 1) := dk_46 (dk_at dksX2_readDigits_2 19 rfl rfl)
theorem dX2_readDigits_66 : decode cX2_readDigits 66 = .ok (.iadd, 1) := dk_96 (dk_at dksX2_readDigits_2 20 rfl rfl)
theorem dX2_readDigits_67 : decode cX2_readDigits 67 = .ok (.bipush 48, 2) := dk_16 48 (dk_at dksX2_readDigits_2 21 rfl rfl)
theorem dX2_readDigits_69 : decode cX2_readDigits 69 = .ok (.isub, 1) := dk_100 (dk_at dksX2_readDigits_2 23 rfl rfl)
theorem dX2_readDigits_70 : decode cX2_readDigits 70 = .ok (.istore_n 2, 1) := dk_61 (dk_at dksX2_readDigits_3 0 rfl rfl)
theorem dX2_readDigits_71 : decode cX2_readDigits 71 = .ok (.aload_n 0, 1) := dk_42 (dk_at dksX2_readDigits_3 1 rfl rfl)
theorem dX2_readDigits_72 : decode cX2_readDigits 72 = .ok (.dup, 1) := dk_89 (dk_at dksX2_readDigits_3 2 rfl rfl)
theorem dX2_readDigits_73 : decode cX2_readDigits 73 = .ok (.getfield 134, 3) := dk_180 0 134 (dk_at dksX2_readDigits_3 3 rfl rfl)
theorem dX2_readDigits_76 : decode cX2_readDigits 76 = .ok (.aload_n 0, 1) := dk_42 (dk_at dksX2_readDigits_3 6 rfl rfl)
theorem dX2_readDigits_77 : decode cX2_readDigits 77 = .ok (.getfield 137, 3) := dk_180 0 137 (dk_at dksX2_readDigits_3 7 rfl rfl)
theorem dX2_readDigits_80 : decode cX2_readDigits 80 = .ok (.ifCond .eq 7, 3) := dk_153 0 7 (dk_at dksX2_readDigits_3 10 rfl rfl)
theorem dX2_readDigits_83 : decode cX2_readDigits 83 = .ok (.iconst 0, 1) := dk_3 (dk_at dksX2_readDigits_3 13 rfl rfl)
theorem dX2_readDigits_84 : decode cX2_readDigits 84 = .ok (.goto 4, 3) := dk_167 0 4 (dk_at dksX2_readDigits_3 14 rfl rfl)
theorem dX2_readDigits_87 : decode cX2_readDigits 87 = .ok (.iconst 1, 1) := dk_4 (dk_at dksX2_readDigits_3 17 rfl rfl)
theorem dX2_readDigits_88 : decode cX2_readDigits 88 = .ok (.iadd, 1) := dk_96 (dk_at dksX2_readDigits_3 18 rfl rfl)
theorem dX2_readDigits_89 : decode cX2_readDigits 89 = .ok (.putfield 134, 3) := dk_181 0 134 (dk_at dksX2_readDigits_3 19 rfl rfl)
theorem dX2_readDigits_92 : decode cX2_readDigits 92 = .ok (.iinc 3 1, 3) := dk_132 3 1 (dk_at dksX2_readDigits_4 0 rfl rfl)
theorem dX2_readDigits_95 : decode cX2_readDigits 95 = .ok (.goto (-91), 3) := dk_167 255 165 (dk_at dksX2_readDigits_4 3 rfl rfl)
theorem dX2_readDigits_98 : decode cX2_readDigits 98 = .ok (.iload_n 2, 1) := dk_28 (dk_at dksX2_readDigits_4 6 rfl rfl)
theorem dX2_readDigits_99 : decode cX2_readDigits 99 = .ok (.ireturn, 1) := dk_172 (dk_at dksX2_readDigits_4 7 rfl rfl)
abbrev cX2_in : ByteArray := prog_12_method_3_code
def yX2_in : MethodName := ⟨RX2, "in", "(JJJ)Z"⟩
def dkwX2_in_0 : List UInt8 := [30, 32, 148, 155, 0, 14, 30, 22, 4, 148, 157, 0, 7, 4, 167, 0, 4, 3, 172]
abbrev dktX2_in_0 : List UInt8 := dkwX2_in_0 ++ []
theorem dksX2_in_0 : cX2_in.data.toList.drop 0 = dktX2_in_0 := by decide +kernel
theorem dX2_in_0 : decode cX2_in 0 = .ok (.lload_n 0, 1) := dk_30 (dk_at dksX2_in_0 0 rfl rfl)
theorem dX2_in_1 : decode cX2_in 1 = .ok (.lload_n 2, 1) := dk_32 (dk_at dksX2_in_0 1 rfl rfl)
theorem dX2_in_2 : decode cX2_in 2 = .ok (.lcmp, 1) := dk_148 (dk_at dksX2_in_0 2 rfl rfl)
theorem dX2_in_3 : decode cX2_in 3 = .ok (.ifCond .lt 14, 3) := dk_155 0 14 (dk_at dksX2_in_0 3 rfl rfl)
theorem dX2_in_6 : decode cX2_in 6 = .ok (.lload_n 0, 1) := dk_30 (dk_at dksX2_in_0 6 rfl rfl)
theorem dX2_in_7 : decode cX2_in 7 = .ok (.lload 4, 2) := dk_22 4 (dk_at dksX2_in_0 7 rfl rfl)
theorem dX2_in_9 : decode cX2_in 9 = .ok (.lcmp, 1) := dk_148 (dk_at dksX2_in_0 9 rfl rfl)
theorem dX2_in_10 : decode cX2_in 10 = .ok (.ifCond .gt 7, 3) := dk_157 0 7 (dk_at dksX2_in_0 10 rfl rfl)
theorem dX2_in_13 : decode cX2_in 13 = .ok (.iconst 1, 1) := dk_4 (dk_at dksX2_in_0 13 rfl rfl)
theorem dX2_in_14 : decode cX2_in 14 = .ok (.goto 4, 3) := dk_167 0 4 (dk_at dksX2_in_0 14 rfl rfl)
theorem dX2_in_17 : decode cX2_in 17 = .ok (.iconst 0, 1) := dk_3 (dk_at dksX2_in_0 17 rfl rfl)
theorem dX2_in_18 : decode cX2_in 18 = .ok (.ireturn, 1) := dk_172 (dk_at dksX2_in_0 18 rfl rfl)
abbrev cX2_think : ByteArray := prog_12_method_39_code
def yX2_think : MethodName := ⟨RX2, "think", "()V"⟩
def dkwX2_think_0 : List UInt8 := [42, 42, 180, 0, 40, 4, 182, 0, 202, 177]
abbrev dktX2_think_0 : List UInt8 := dkwX2_think_0 ++ []
theorem dksX2_think_0 : cX2_think.data.toList.drop 0 = dktX2_think_0 := by decide +kernel
theorem dX2_think_0 : decode cX2_think 0 = .ok (.aload_n 0, 1) := dk_42 (dk_at dksX2_think_0 0 rfl rfl)
theorem dX2_think_1 : decode cX2_think 1 = .ok (.aload_n 0, 1) := dk_42 (dk_at dksX2_think_0 1 rfl rfl)
theorem dX2_think_2 : decode cX2_think 2 = .ok (.getfield 40, 3) := dk_180 0 40 (dk_at dksX2_think_0 2 rfl rfl)
theorem dX2_think_5 : decode cX2_think 5 = .ok (.iconst 1, 1) := dk_4 (dk_at dksX2_think_0 5 rfl rfl)
theorem dX2_think_6 : decode cX2_think 6 = .ok (.invokevirtual 202, 3) := dk_182 0 202 (dk_at dksX2_think_0 6 rfl rfl)
theorem dX2_think_9 : decode cX2_think 9 = .ok (.return_, 1) := dk_177 (dk_at dksX2_think_0 9 rfl rfl)
abbrev cX2_carryAll : ByteArray := prog_12_method_38_code
def yX2_carryAll : MethodName := ⟨RX2, "carryAll", "([IZ)V"⟩
def dkwX2_carryAll_6 : List UInt8 := [132, 3, 1, 167, 255, 231, 177]
abbrev dktX2_carryAll_6 : List UInt8 := dkwX2_carryAll_6 ++ []
def dkwX2_carryAll_5 : List UInt8 := [62, 29, 16, 36, 162, 0, 25, 42, 180, 0, 22, 29, 42, 42, 180, 0, 22, 29, 46, 182, 0, 199, 79]
abbrev dktX2_carryAll_5 : List UInt8 := dkwX2_carryAll_5 ++ dktX2_carryAll_6
def dkwX2_carryAll_4 : List UInt8 := [79, 42, 180, 0, 19, 29, 42, 42, 180, 0, 19, 29, 46, 182, 0, 199, 79, 132, 3, 1, 167, 255, 183, 3]
abbrev dktX2_carryAll_4 : List UInt8 := dkwX2_carryAll_4 ++ dktX2_carryAll_5
def dkwX2_carryAll_3 : List UInt8 := [180, 0, 13, 29, 46, 182, 0, 199, 79, 42, 180, 0, 16, 29, 42, 42, 180, 0, 16, 29, 46, 182, 0, 199]
abbrev dktX2_carryAll_3 : List UInt8 := dkwX2_carryAll_3 ++ dktX2_carryAll_4
def dkwX2_carryAll_2 : List UInt8 := [180, 0, 7, 29, 42, 42, 180, 0, 7, 29, 46, 182, 0, 199, 79, 42, 180, 0, 13, 29, 42, 42]
abbrev dktX2_carryAll_2 : List UInt8 := dkwX2_carryAll_2 ++ dktX2_carryAll_3
def dkwX2_carryAll_1 : List UInt8 := [181, 0, 68, 42, 42, 42, 180, 0, 106, 182, 0, 199, 181, 0, 106, 3, 62, 29, 16, 6, 162, 0, 73, 42]
abbrev dktX2_carryAll_1 : List UInt8 := dkwX2_carryAll_1 ++ dktX2_carryAll_2
def dkwX2_carryAll_0 : List UInt8 := [42, 43, 181, 0, 193, 42, 28, 181, 0, 190, 42, 3, 181, 0, 196, 42, 42, 42, 180, 0, 68, 182, 0, 199]
abbrev dktX2_carryAll_0 : List UInt8 := dkwX2_carryAll_0 ++ dktX2_carryAll_1
theorem dksX2_carryAll_0 : cX2_carryAll.data.toList.drop 0 = dktX2_carryAll_0 := by decide +kernel
theorem dksX2_carryAll_1 : cX2_carryAll.data.toList.drop 24 = dktX2_carryAll_1 := dk_seg dksX2_carryAll_0 24 rfl rfl
theorem dksX2_carryAll_2 : cX2_carryAll.data.toList.drop 48 = dktX2_carryAll_2 := dk_seg dksX2_carryAll_1 24 rfl rfl
theorem dksX2_carryAll_3 : cX2_carryAll.data.toList.drop 70 = dktX2_carryAll_3 := dk_seg dksX2_carryAll_2 22 rfl rfl
theorem dksX2_carryAll_4 : cX2_carryAll.data.toList.drop 94 = dktX2_carryAll_4 := dk_seg dksX2_carryAll_3 24 rfl rfl
theorem dksX2_carryAll_5 : cX2_carryAll.data.toList.drop 118 = dktX2_carryAll_5 := dk_seg dksX2_carryAll_4 24 rfl rfl
theorem dksX2_carryAll_6 : cX2_carryAll.data.toList.drop 141 = dktX2_carryAll_6 := dk_seg dksX2_carryAll_5 23 rfl rfl
theorem dX2_carryAll_0 : decode cX2_carryAll 0 = .ok (.aload_n 0, 1) := dk_42 (dk_at dksX2_carryAll_0 0 rfl rfl)
theorem dX2_carryAll_1 : decode cX2_carryAll 1 = .ok (.aload_n 1, 1) := dk_43 (dk_at dksX2_carryAll_0 1 rfl rfl)
theorem dX2_carryAll_2 : decode cX2_carryAll 2 = .ok (.putfield 193, 3) := dk_181 0 193 (dk_at dksX2_carryAll_0 2 rfl rfl)
theorem dX2_carryAll_5 : decode cX2_carryAll 5 = .ok (.aload_n 0, 1) := dk_42 (dk_at dksX2_carryAll_0 5 rfl rfl)
theorem dX2_carryAll_6 : decode cX2_carryAll 6 = .ok (.iload_n 2, 1) := dk_28 (dk_at dksX2_carryAll_0 6 rfl rfl)
theorem dX2_carryAll_7 : decode cX2_carryAll 7 = .ok (.putfield 190, 3) := dk_181 0 190 (dk_at dksX2_carryAll_0 7 rfl rfl)
theorem dX2_carryAll_10 : decode cX2_carryAll 10 = .ok (.aload_n 0, 1) := dk_42 (dk_at dksX2_carryAll_0 10 rfl rfl)
theorem dX2_carryAll_11 : decode cX2_carryAll 11 = .ok (.iconst 0, 1) := dk_3 (dk_at dksX2_carryAll_0 11 rfl rfl)
theorem dX2_carryAll_12 : decode cX2_carryAll 12 = .ok (.putfield 196, 3) := dk_181 0 196 (dk_at dksX2_carryAll_0 12 rfl rfl)
theorem dX2_carryAll_15 : decode cX2_carryAll 15 = .ok (.aload_n 0, 1) := dk_42 (dk_at dksX2_carryAll_0 15 rfl rfl)
theorem dX2_carryAll_16 : decode cX2_carryAll 16 = .ok (.aload_n 0, 1) := dk_42 (dk_at dksX2_carryAll_0 16 rfl rfl)
theorem dX2_carryAll_17 : decode cX2_carryAll 17 = .ok (.aload_n 0, 1) := dk_42 (dk_at dksX2_carryAll_0 17 rfl rfl)
theorem dX2_carryAll_18 : decode cX2_carryAll 18 = .ok (.getfield 68, 3) := dk_180 0 68 (dk_at dksX2_carryAll_0 18 rfl rfl)
theorem dX2_carryAll_21 : decode cX2_carryAll 21 = .ok (.invokevirtual 199, 3) := dk_182 0 199 (dk_at dksX2_carryAll_0 21 rfl rfl)
theorem dX2_carryAll_24 : decode cX2_carryAll 24 = .ok (.putfield 68, 3) := dk_181 0 68 (dk_at dksX2_carryAll_1 0 rfl rfl)
theorem dX2_carryAll_27 : decode cX2_carryAll 27 = .ok (.aload_n 0, 1) := dk_42 (dk_at dksX2_carryAll_1 3 rfl rfl)
theorem dX2_carryAll_28 : decode cX2_carryAll 28 = .ok (.aload_n 0, 1) := dk_42 (dk_at dksX2_carryAll_1 4 rfl rfl)
theorem dX2_carryAll_29 : decode cX2_carryAll 29 = .ok (.aload_n 0, 1) := dk_42 (dk_at dksX2_carryAll_1 5 rfl rfl)
theorem dX2_carryAll_30 : decode cX2_carryAll 30 = .ok (.getfield 106, 3) := dk_180 0 106 (dk_at dksX2_carryAll_1 6 rfl rfl)
theorem dX2_carryAll_33 : decode cX2_carryAll 33 = .ok (.invokevirtual 199, 3) := dk_182 0 199 (dk_at dksX2_carryAll_1 9 rfl rfl)
theorem dX2_carryAll_36 : decode cX2_carryAll 36 = .ok (.putfield 106, 3) := dk_181 0 106 (dk_at dksX2_carryAll_1 12 rfl rfl)
theorem dX2_carryAll_39 : decode cX2_carryAll 39 = .ok (.iconst 0, 1) := dk_3 (dk_at dksX2_carryAll_1 15 rfl rfl)
theorem dX2_carryAll_40 : decode cX2_carryAll 40 = .ok (.istore_n 3, 1) := dk_62 (dk_at dksX2_carryAll_1 16 rfl rfl)
theorem dX2_carryAll_41 : decode cX2_carryAll 41 = .ok (.iload_n 3, 1) := dk_29 (dk_at dksX2_carryAll_1 17 rfl rfl)
theorem dX2_carryAll_42 : decode cX2_carryAll 42 = .ok (.bipush 6, 2) := dk_16 6 (dk_at dksX2_carryAll_1 18 rfl rfl)
theorem dX2_carryAll_44 : decode cX2_carryAll 44 = .ok (.if_icmp .ge 73, 3) := dk_162 0 73 (dk_at dksX2_carryAll_1 20 rfl rfl)
theorem dX2_carryAll_47 : decode cX2_carryAll 47 = .ok (.aload_n 0, 1) := dk_42 (dk_at dksX2_carryAll_1 23 rfl rfl)
theorem dX2_carryAll_48 : decode cX2_carryAll 48 = .ok (.getfield 7, 3) := dk_180 0 7 (dk_at dksX2_carryAll_2 0 rfl rfl)
theorem dX2_carryAll_51 : decode cX2_carryAll 51 = .ok (.iload_n 3, 1) := dk_29 (dk_at dksX2_carryAll_2 3 rfl rfl)
theorem dX2_carryAll_52 : decode cX2_carryAll 52 = .ok (.aload_n 0, 1) := dk_42 (dk_at dksX2_carryAll_2 4 rfl rfl)
theorem dX2_carryAll_53 : decode cX2_carryAll 53 = .ok (.aload_n 0, 1) := dk_42 (dk_at dksX2_carryAll_2 5 rfl rfl)
theorem dX2_carryAll_54 : decode cX2_carryAll 54 = .ok (.getfield 7, 3) := dk_180 0 7 (dk_at dksX2_carryAll_2 6 rfl rfl)
theorem dX2_carryAll_57 : decode cX2_carryAll 57 = .ok (.iload_n 3, 1) := dk_29 (dk_at dksX2_carryAll_2 9 rfl rfl)
theorem dX2_carryAll_58 : decode cX2_carryAll 58 = .ok (.iaload, 1) := dk_46 (dk_at dksX2_carryAll_2 10 rfl rfl)
theorem dX2_carryAll_59 : decode cX2_carryAll 59 = .ok (.invokevirtual 199, 3) := dk_182 0 199 (dk_at dksX2_carryAll_2 11 rfl rfl)
theorem dX2_carryAll_62 : decode cX2_carryAll 62 = .ok (.iastore, 1) := dk_79 (dk_at dksX2_carryAll_2 14 rfl rfl)
theorem dX2_carryAll_63 : decode cX2_carryAll 63 = .ok (.aload_n 0, 1) := dk_42 (dk_at dksX2_carryAll_2 15 rfl rfl)
theorem dX2_carryAll_64 : decode cX2_carryAll 64 = .ok (.getfield 13, 3) := dk_180 0 13 (dk_at dksX2_carryAll_2 16 rfl rfl)
theorem dX2_carryAll_67 : decode cX2_carryAll 67 = .ok (.iload_n 3, 1) := dk_29 (dk_at dksX2_carryAll_2 19 rfl rfl)
theorem dX2_carryAll_68 : decode cX2_carryAll 68 = .ok (.aload_n 0, 1) := dk_42 (dk_at dksX2_carryAll_2 20 rfl rfl)
theorem dX2_carryAll_69 : decode cX2_carryAll 69 = .ok (.aload_n 0, 1) := dk_42 (dk_at dksX2_carryAll_2 21 rfl rfl)
theorem dX2_carryAll_70 : decode cX2_carryAll 70 = .ok (.getfield 13, 3) := dk_180 0 13 (dk_at dksX2_carryAll_3 0 rfl rfl)
theorem dX2_carryAll_73 : decode cX2_carryAll 73 = .ok (.iload_n 3, 1) := dk_29 (dk_at dksX2_carryAll_3 3 rfl rfl)
theorem dX2_carryAll_74 : decode cX2_carryAll 74 = .ok (.iaload, 1) := dk_46 (dk_at dksX2_carryAll_3 4 rfl rfl)
theorem dX2_carryAll_75 : decode cX2_carryAll 75 = .ok (.invokevirtual 199, 3) := dk_182 0 199 (dk_at dksX2_carryAll_3 5 rfl rfl)
theorem dX2_carryAll_78 : decode cX2_carryAll 78 = .ok (.iastore, 1) := dk_79 (dk_at dksX2_carryAll_3 8 rfl rfl)
theorem dX2_carryAll_79 : decode cX2_carryAll 79 = .ok (.aload_n 0, 1) := dk_42 (dk_at dksX2_carryAll_3 9 rfl rfl)
theorem dX2_carryAll_80 : decode cX2_carryAll 80 = .ok (.getfield 16, 3) := dk_180 0 16 (dk_at dksX2_carryAll_3 10 rfl rfl)
theorem dX2_carryAll_83 : decode cX2_carryAll 83 = .ok (.iload_n 3, 1) := dk_29 (dk_at dksX2_carryAll_3 13 rfl rfl)
theorem dX2_carryAll_84 : decode cX2_carryAll 84 = .ok (.aload_n 0, 1) := dk_42 (dk_at dksX2_carryAll_3 14 rfl rfl)
theorem dX2_carryAll_85 : decode cX2_carryAll 85 = .ok (.aload_n 0, 1) := dk_42 (dk_at dksX2_carryAll_3 15 rfl rfl)
theorem dX2_carryAll_86 : decode cX2_carryAll 86 = .ok (.getfield 16, 3) := dk_180 0 16 (dk_at dksX2_carryAll_3 16 rfl rfl)
theorem dX2_carryAll_89 : decode cX2_carryAll 89 = .ok (.iload_n 3, 1) := dk_29 (dk_at dksX2_carryAll_3 19 rfl rfl)
theorem dX2_carryAll_90 : decode cX2_carryAll 90 = .ok (.iaload, 1) := dk_46 (dk_at dksX2_carryAll_3 20 rfl rfl)
theorem dX2_carryAll_91 : decode cX2_carryAll 91 = .ok (.invokevirtual 199, 3) := dk_182 0 199 (dk_at dksX2_carryAll_3 21 rfl rfl)
theorem dX2_carryAll_94 : decode cX2_carryAll 94 = .ok (.iastore, 1) := dk_79 (dk_at dksX2_carryAll_4 0 rfl rfl)
theorem dX2_carryAll_95 : decode cX2_carryAll 95 = .ok (.aload_n 0, 1) := dk_42 (dk_at dksX2_carryAll_4 1 rfl rfl)
theorem dX2_carryAll_96 : decode cX2_carryAll 96 = .ok (.getfield 19, 3) := dk_180 0 19 (dk_at dksX2_carryAll_4 2 rfl rfl)
theorem dX2_carryAll_99 : decode cX2_carryAll 99 = .ok (.iload_n 3, 1) := dk_29 (dk_at dksX2_carryAll_4 5 rfl rfl)
theorem dX2_carryAll_100 : decode cX2_carryAll 100 = .ok (.aload_n 0, 1) := dk_42 (dk_at dksX2_carryAll_4 6 rfl rfl)
theorem dX2_carryAll_101 : decode cX2_carryAll 101 = .ok (.aload_n 0, 1) := dk_42 (dk_at dksX2_carryAll_4 7 rfl rfl)
theorem dX2_carryAll_102 : decode cX2_carryAll 102 = .ok (.getfield 19, 3) := dk_180 0 19 (dk_at dksX2_carryAll_4 8 rfl rfl)
theorem dX2_carryAll_105 : decode cX2_carryAll 105 = .ok (.iload_n 3, 1) := dk_29 (dk_at dksX2_carryAll_4 11 rfl rfl)
theorem dX2_carryAll_106 : decode cX2_carryAll 106 = .ok (.iaload, 1) := dk_46 (dk_at dksX2_carryAll_4 12 rfl rfl)
theorem dX2_carryAll_107 : decode cX2_carryAll 107 = .ok (.invokevirtual 199, 3) := dk_182 0 199 (dk_at dksX2_carryAll_4 13 rfl rfl)
theorem dX2_carryAll_110 : decode cX2_carryAll 110 = .ok (.iastore, 1) := dk_79 (dk_at dksX2_carryAll_4 16 rfl rfl)
theorem dX2_carryAll_111 : decode cX2_carryAll 111 = .ok (.iinc 3 1, 3) := dk_132 3 1 (dk_at dksX2_carryAll_4 17 rfl rfl)
theorem dX2_carryAll_114 : decode cX2_carryAll 114 = .ok (.goto (-73), 3) := dk_167 255 183 (dk_at dksX2_carryAll_4 20 rfl rfl)
theorem dX2_carryAll_117 : decode cX2_carryAll 117 = .ok (.iconst 0, 1) := dk_3 (dk_at dksX2_carryAll_4 23 rfl rfl)
theorem dX2_carryAll_118 : decode cX2_carryAll 118 = .ok (.istore_n 3, 1) := dk_62 (dk_at dksX2_carryAll_5 0 rfl rfl)
theorem dX2_carryAll_119 : decode cX2_carryAll 119 = .ok (.iload_n 3, 1) := dk_29 (dk_at dksX2_carryAll_5 1 rfl rfl)
theorem dX2_carryAll_120 : decode cX2_carryAll 120 = .ok (.bipush 36, 2) := dk_16 36 (dk_at dksX2_carryAll_5 2 rfl rfl)
theorem dX2_carryAll_122 : decode cX2_carryAll 122 = .ok (.if_icmp .ge 25, 3) := dk_162 0 25 (dk_at dksX2_carryAll_5 4 rfl rfl)
theorem dX2_carryAll_125 : decode cX2_carryAll 125 = .ok (.aload_n 0, 1) := dk_42 (dk_at dksX2_carryAll_5 7 rfl rfl)
theorem dX2_carryAll_126 : decode cX2_carryAll 126 = .ok (.getfield 22, 3) := dk_180 0 22 (dk_at dksX2_carryAll_5 8 rfl rfl)
theorem dX2_carryAll_129 : decode cX2_carryAll 129 = .ok (.iload_n 3, 1) := dk_29 (dk_at dksX2_carryAll_5 11 rfl rfl)
theorem dX2_carryAll_130 : decode cX2_carryAll 130 = .ok (.aload_n 0, 1) := dk_42 (dk_at dksX2_carryAll_5 12 rfl rfl)
theorem dX2_carryAll_131 : decode cX2_carryAll 131 = .ok (.aload_n 0, 1) := dk_42 (dk_at dksX2_carryAll_5 13 rfl rfl)
theorem dX2_carryAll_132 : decode cX2_carryAll 132 = .ok (.getfield 22, 3) := dk_180 0 22 (dk_at dksX2_carryAll_5 14 rfl rfl)
theorem dX2_carryAll_135 : decode cX2_carryAll 135 = .ok (.iload_n 3, 1) := dk_29 (dk_at dksX2_carryAll_5 17 rfl rfl)
theorem dX2_carryAll_136 : decode cX2_carryAll 136 = .ok (.iaload, 1) := dk_46 (dk_at dksX2_carryAll_5 18 rfl rfl)
theorem dX2_carryAll_137 : decode cX2_carryAll 137 = .ok (.invokevirtual 199, 3) := dk_182 0 199 (dk_at dksX2_carryAll_5 19 rfl rfl)
theorem dX2_carryAll_140 : decode cX2_carryAll 140 = .ok (.iastore, 1) := dk_79 (dk_at dksX2_carryAll_5 22 rfl rfl)
theorem dX2_carryAll_141 : decode cX2_carryAll 141 = .ok (.iinc 3 1, 3) := dk_132 3 1 (dk_at dksX2_carryAll_6 0 rfl rfl)
theorem dX2_carryAll_144 : decode cX2_carryAll 144 = .ok (.goto (-25), 3) := dk_167 255 231 (dk_at dksX2_carryAll_6 3 rfl rfl)
theorem dX2_carryAll_147 : decode cX2_carryAll 147 = .ok (.return_, 1) := dk_177 (dk_at dksX2_carryAll_6 6 rfl rfl)
abbrev cX2_carry : ByteArray := prog_12_method_37_code
def yX2_carry : MethodName := ⟨RX2, "carry", "(I)I"⟩
def dkwX2_carry_1 : List UInt8 := [181, 0, 196, 42, 180, 0, 193, 42, 180, 0, 196, 4, 100, 46, 172]
abbrev dktX2_carry_1 : List UInt8 := dkwX2_carry_1 ++ []
def dkwX2_carry_0 : List UInt8 := [42, 180, 0, 190, 153, 0, 13, 42, 180, 0, 193, 42, 180, 0, 196, 27, 79, 42, 89, 180, 0, 196, 4, 96]
abbrev dktX2_carry_0 : List UInt8 := dkwX2_carry_0 ++ dktX2_carry_1
theorem dksX2_carry_0 : cX2_carry.data.toList.drop 0 = dktX2_carry_0 := by decide +kernel
theorem dksX2_carry_1 : cX2_carry.data.toList.drop 24 = dktX2_carry_1 := dk_seg dksX2_carry_0 24 rfl rfl
theorem dX2_carry_0 : decode cX2_carry 0 = .ok (.aload_n 0, 1) := dk_42 (dk_at dksX2_carry_0 0 rfl rfl)
theorem dX2_carry_1 : decode cX2_carry 1 = .ok (.getfield 190, 3) := dk_180 0 190 (dk_at dksX2_carry_0 1 rfl rfl)
theorem dX2_carry_4 : decode cX2_carry 4 = .ok (.ifCond .eq 13, 3) := dk_153 0 13 (dk_at dksX2_carry_0 4 rfl rfl)
theorem dX2_carry_7 : decode cX2_carry 7 = .ok (.aload_n 0, 1) := dk_42 (dk_at dksX2_carry_0 7 rfl rfl)
theorem dX2_carry_8 : decode cX2_carry 8 = .ok (.getfield 193, 3) := dk_180 0 193 (dk_at dksX2_carry_0 8 rfl rfl)
theorem dX2_carry_11 : decode cX2_carry 11 = .ok (.aload_n 0, 1) := dk_42 (dk_at dksX2_carry_0 11 rfl rfl)
theorem dX2_carry_12 : decode cX2_carry 12 = .ok (.getfield 196, 3) := dk_180 0 196 (dk_at dksX2_carry_0 12 rfl rfl)
theorem dX2_carry_15 : decode cX2_carry 15 = .ok (.iload_n 1, 1) := dk_27 (dk_at dksX2_carry_0 15 rfl rfl)
theorem dX2_carry_16 : decode cX2_carry 16 = .ok (.iastore, 1) := dk_79 (dk_at dksX2_carry_0 16 rfl rfl)
theorem dX2_carry_17 : decode cX2_carry 17 = .ok (.aload_n 0, 1) := dk_42 (dk_at dksX2_carry_0 17 rfl rfl)
theorem dX2_carry_18 : decode cX2_carry 18 = .ok (.dup, 1) := dk_89 (dk_at dksX2_carry_0 18 rfl rfl)
theorem dX2_carry_19 : decode cX2_carry 19 = .ok (.getfield 196, 3) := dk_180 0 196 (dk_at dksX2_carry_0 19 rfl rfl)
theorem dX2_carry_22 : decode cX2_carry 22 = .ok (.iconst 1, 1) := dk_4 (dk_at dksX2_carry_0 22 rfl rfl)
theorem dX2_carry_23 : decode cX2_carry 23 = .ok (.iadd, 1) := dk_96 (dk_at dksX2_carry_0 23 rfl rfl)
theorem dX2_carry_24 : decode cX2_carry 24 = .ok (.putfield 196, 3) := dk_181 0 196 (dk_at dksX2_carry_1 0 rfl rfl)
theorem dX2_carry_27 : decode cX2_carry 27 = .ok (.aload_n 0, 1) := dk_42 (dk_at dksX2_carry_1 3 rfl rfl)
theorem dX2_carry_28 : decode cX2_carry 28 = .ok (.getfield 193, 3) := dk_180 0 193 (dk_at dksX2_carry_1 4 rfl rfl)
theorem dX2_carry_31 : decode cX2_carry 31 = .ok (.aload_n 0, 1) := dk_42 (dk_at dksX2_carry_1 7 rfl rfl)
theorem dX2_carry_32 : decode cX2_carry 32 = .ok (.getfield 196, 3) := dk_180 0 196 (dk_at dksX2_carry_1 8 rfl rfl)
theorem dX2_carry_35 : decode cX2_carry 35 = .ok (.iconst 1, 1) := dk_4 (dk_at dksX2_carry_1 11 rfl rfl)
theorem dX2_carry_36 : decode cX2_carry 36 = .ok (.isub, 1) := dk_100 (dk_at dksX2_carry_1 12 rfl rfl)
theorem dX2_carry_37 : decode cX2_carry 37 = .ok (.iaload, 1) := dk_46 (dk_at dksX2_carry_1 13 rfl rfl)
theorem dX2_carry_38 : decode cX2_carry 38 = .ok (.ireturn, 1) := dk_172 (dk_at dksX2_carry_1 14 rfl rfl)
abbrev cX2_comesTold : ByteArray := prog_12_method_35_code
def yX2_comesTold : MethodName := ⟨RX2, "comesTold", "(I)Z"⟩
def dkwX2_comesTold_10 : List UInt8 := [182, 0, 172, 21, 5, 172]
abbrev dktX2_comesTold_10 : List UInt8 := dkwX2_comesTold_10 ++ []
def dkwX2_comesTold_9 : List UInt8 := [28, 96, 17, 3, 231, 163, 0, 7, 4, 167, 0, 4, 3, 54, 5, 21, 5, 153, 0, 8, 42, 28]
abbrev dktX2_comesTold_9 : List UInt8 := dkwX2_comesTold_9 ++ dktX2_comesTold_10
def dkwX2_comesTold_8 : List UInt8 := [28, 29, 182, 0, 167, 21, 5, 172, 28, 133, 10, 20, 0, 170, 184, 0, 71, 153, 0, 19, 42, 180, 0, 106]
abbrev dktX2_comesTold_8 : List UInt8 := dkwX2_comesTold_8 ++ dktX2_comesTold_9
def dkwX2_comesTold_7 : List UInt8 := [28, 29, 21, 4, 182, 0, 113, 21, 5, 172, 42, 28, 29, 182, 0, 164, 54, 5, 21, 5, 153, 0, 9, 42]
abbrev dktX2_comesTold_7 : List UInt8 := dkwX2_comesTold_7 ++ dktX2_comesTold_8
def dkwX2_comesTold_6 : List UInt8 := [42, 180, 0, 16, 28, 29, 79, 21, 5, 172, 42, 28, 29, 182, 0, 164, 54, 5, 21, 5, 153, 0, 11, 42]
abbrev dktX2_comesTold_6 : List UInt8 := dkwX2_comesTold_6 ++ dktX2_comesTold_7
def dkwX2_comesTold_5 : List UInt8 := [182, 0, 75, 153, 0, 13, 29, 16, 31, 163, 0, 7, 4, 167, 0, 4, 3, 54, 5, 21, 5, 153, 0, 10]
abbrev dktX2_comesTold_5 : List UInt8 := dkwX2_comesTold_5 ++ dktX2_comesTold_6
def dkwX2_comesTold_4 : List UInt8 := [167, 0, 4, 3, 54, 5, 21, 5, 153, 0, 11, 42, 28, 29, 21, 4, 182, 0, 161, 21, 5, 172, 42, 28]
abbrev dktX2_comesTold_4 : List UInt8 := dkwX2_comesTold_4 ++ dktX2_comesTold_5
def dkwX2_comesTold_3 : List UInt8 := [28, 16, 6, 162, 0, 23, 21, 4, 16, 31, 163, 0, 16, 42, 180, 0, 68, 16, 6, 162, 0, 7, 4]
abbrev dktX2_comesTold_3 : List UInt8 := dkwX2_comesTold_3 ++ dktX2_comesTold_4
def dkwX2_comesTold_2 : List UInt8 := [170, 0, 0, 0, 0, 0, 182, 0, 0, 0, 104, 0, 0, 0, 113, 0, 0, 0, 100, 0, 0, 0, 182, 0, 0, 0, 182, 0, 0, 0, 182, 0, 0, 0, 182, 0, 0, 0, 160, 0, 0, 0, 182, 0, 0, 0, 182, 0, 0, 0, 55, 0, 0, 0, 136]
abbrev dktX2_comesTold_2 : List UInt8 := dkwX2_comesTold_2 ++ dktX2_comesTold_3
def dkwX2_comesTold_1 : List UInt8 := [6, 27, 104, 5, 96, 46, 54, 4, 4, 54, 5, 42, 180, 0, 34, 27, 46]
abbrev dktX2_comesTold_1 : List UInt8 := dkwX2_comesTold_1 ++ dktX2_comesTold_2
def dkwX2_comesTold_0 : List UInt8 := [42, 180, 0, 37, 6, 27, 104, 46, 61, 42, 180, 0, 37, 6, 27, 104, 4, 96, 46, 62, 42, 180, 0, 37]
abbrev dktX2_comesTold_0 : List UInt8 := dkwX2_comesTold_0 ++ dktX2_comesTold_1
theorem dksX2_comesTold_0 : cX2_comesTold.data.toList.drop 0 = dktX2_comesTold_0 := by decide +kernel
theorem dksX2_comesTold_1 : cX2_comesTold.data.toList.drop 24 = dktX2_comesTold_1 := dk_seg dksX2_comesTold_0 24 rfl rfl
theorem dksX2_comesTold_2 : cX2_comesTold.data.toList.drop 41 = dktX2_comesTold_2 := dk_seg dksX2_comesTold_1 17 rfl rfl
theorem dksX2_comesTold_3 : cX2_comesTold.data.toList.drop 96 = dktX2_comesTold_3 := dk_seg dksX2_comesTold_2 55 rfl rfl
theorem dksX2_comesTold_4 : cX2_comesTold.data.toList.drop 119 = dktX2_comesTold_4 := dk_seg dksX2_comesTold_3 23 rfl rfl
theorem dksX2_comesTold_5 : cX2_comesTold.data.toList.drop 143 = dktX2_comesTold_5 := dk_seg dksX2_comesTold_4 24 rfl rfl
theorem dksX2_comesTold_6 : cX2_comesTold.data.toList.drop 167 = dktX2_comesTold_6 := dk_seg dksX2_comesTold_5 24 rfl rfl
theorem dksX2_comesTold_7 : cX2_comesTold.data.toList.drop 191 = dktX2_comesTold_7 := dk_seg dksX2_comesTold_6 24 rfl rfl
theorem dksX2_comesTold_8 : cX2_comesTold.data.toList.drop 215 = dktX2_comesTold_8 := dk_seg dksX2_comesTold_7 24 rfl rfl
theorem dksX2_comesTold_9 : cX2_comesTold.data.toList.drop 239 = dktX2_comesTold_9 := dk_seg dksX2_comesTold_8 24 rfl rfl
theorem dksX2_comesTold_10 : cX2_comesTold.data.toList.drop 261 = dktX2_comesTold_10 := dk_seg dksX2_comesTold_9 22 rfl rfl
theorem dX2_comesTold_0 : decode cX2_comesTold 0 = .ok (.aload_n 0, 1) := dk_42 (dk_at dksX2_comesTold_0 0 rfl rfl)
theorem dX2_comesTold_1 : decode cX2_comesTold 1 = .ok (.getfield 37, 3) := dk_180 0 37 (dk_at dksX2_comesTold_0 1 rfl rfl)
theorem dX2_comesTold_4 : decode cX2_comesTold 4 = .ok (.iconst 3, 1) := dk_6 (dk_at dksX2_comesTold_0 4 rfl rfl)
theorem dX2_comesTold_5 : decode cX2_comesTold 5 = .ok (.iload_n 1, 1) := dk_27 (dk_at dksX2_comesTold_0 5 rfl rfl)
theorem dX2_comesTold_6 : decode cX2_comesTold 6 = .ok (.imul, 1) := dk_104 (dk_at dksX2_comesTold_0 6 rfl rfl)
theorem dX2_comesTold_7 : decode cX2_comesTold 7 = .ok (.iaload, 1) := dk_46 (dk_at dksX2_comesTold_0 7 rfl rfl)
theorem dX2_comesTold_8 : decode cX2_comesTold 8 = .ok (.istore_n 2, 1) := dk_61 (dk_at dksX2_comesTold_0 8 rfl rfl)
theorem dX2_comesTold_9 : decode cX2_comesTold 9 = .ok (.aload_n 0, 1) := dk_42 (dk_at dksX2_comesTold_0 9 rfl rfl)
theorem dX2_comesTold_10 : decode cX2_comesTold 10 = .ok (.getfield 37, 3) := dk_180 0 37 (dk_at dksX2_comesTold_0 10 rfl rfl)
theorem dX2_comesTold_13 : decode cX2_comesTold 13 = .ok (.iconst 3, 1) := dk_6 (dk_at dksX2_comesTold_0 13 rfl rfl)
theorem dX2_comesTold_14 : decode cX2_comesTold 14 = .ok (.iload_n 1, 1) := dk_27 (dk_at dksX2_comesTold_0 14 rfl rfl)
theorem dX2_comesTold_15 : decode cX2_comesTold 15 = .ok (.imul, 1) := dk_104 (dk_at dksX2_comesTold_0 15 rfl rfl)
theorem dX2_comesTold_16 : decode cX2_comesTold 16 = .ok (.iconst 1, 1) := dk_4 (dk_at dksX2_comesTold_0 16 rfl rfl)
theorem dX2_comesTold_17 : decode cX2_comesTold 17 = .ok (.iadd, 1) := dk_96 (dk_at dksX2_comesTold_0 17 rfl rfl)
theorem dX2_comesTold_18 : decode cX2_comesTold 18 = .ok (.iaload, 1) := dk_46 (dk_at dksX2_comesTold_0 18 rfl rfl)
theorem dX2_comesTold_19 : decode cX2_comesTold 19 = .ok (.istore_n 3, 1) := dk_62 (dk_at dksX2_comesTold_0 19 rfl rfl)
theorem dX2_comesTold_20 : decode cX2_comesTold 20 = .ok (.aload_n 0, 1) := dk_42 (dk_at dksX2_comesTold_0 20 rfl rfl)
theorem dX2_comesTold_21 : decode cX2_comesTold 21 = .ok (.getfield 37, 3) := dk_180 0 37 (dk_at dksX2_comesTold_0 21 rfl rfl)
theorem dX2_comesTold_24 : decode cX2_comesTold 24 = .ok (.iconst 3, 1) := dk_6 (dk_at dksX2_comesTold_1 0 rfl rfl)
theorem dX2_comesTold_25 : decode cX2_comesTold 25 = .ok (.iload_n 1, 1) := dk_27 (dk_at dksX2_comesTold_1 1 rfl rfl)
theorem dX2_comesTold_26 : decode cX2_comesTold 26 = .ok (.imul, 1) := dk_104 (dk_at dksX2_comesTold_1 2 rfl rfl)
theorem dX2_comesTold_27 : decode cX2_comesTold 27 = .ok (.iconst 2, 1) := dk_5 (dk_at dksX2_comesTold_1 3 rfl rfl)
theorem dX2_comesTold_28 : decode cX2_comesTold 28 = .ok (.iadd, 1) := dk_96 (dk_at dksX2_comesTold_1 4 rfl rfl)
theorem dX2_comesTold_29 : decode cX2_comesTold 29 = .ok (.iaload, 1) := dk_46 (dk_at dksX2_comesTold_1 5 rfl rfl)
theorem dX2_comesTold_30 : decode cX2_comesTold 30 = .ok (.istore 4, 2) := dk_54 4 (dk_at dksX2_comesTold_1 6 rfl rfl)
theorem dX2_comesTold_32 : decode cX2_comesTold 32 = .ok (.iconst 1, 1) := dk_4 (dk_at dksX2_comesTold_1 8 rfl rfl)
theorem dX2_comesTold_33 : decode cX2_comesTold 33 = .ok (.istore 5, 2) := dk_54 5 (dk_at dksX2_comesTold_1 9 rfl rfl)
theorem dX2_comesTold_35 : decode cX2_comesTold 35 = .ok (.aload_n 0, 1) := dk_42 (dk_at dksX2_comesTold_1 11 rfl rfl)
theorem dX2_comesTold_36 : decode cX2_comesTold 36 = .ok (.getfield 34, 3) := dk_180 0 34 (dk_at dksX2_comesTold_1 12 rfl rfl)
theorem dX2_comesTold_39 : decode cX2_comesTold 39 = .ok (.iload_n 1, 1) := dk_27 (dk_at dksX2_comesTold_1 15 rfl rfl)
theorem dX2_comesTold_40 : decode cX2_comesTold 40 = .ok (.iaload, 1) := dk_46 (dk_at dksX2_comesTold_1 16 rfl rfl)
theorem dX2_comesTold_41 : decode cX2_comesTold 41 = .ok (.tableswitch 182 104 113 #[100, 182, 182, 182, 182, 160, 182, 182, 55, 136], 55) := by decide +kernel
theorem dX2_comesTold_96 : decode cX2_comesTold 96 = .ok (.iload_n 2, 1) := dk_28 (dk_at dksX2_comesTold_3 0 rfl rfl)
theorem dX2_comesTold_97 : decode cX2_comesTold 97 = .ok (.bipush 6, 2) := dk_16 6 (dk_at dksX2_comesTold_3 1 rfl rfl)
theorem dX2_comesTold_99 : decode cX2_comesTold 99 = .ok (.if_icmp .ge 23, 3) := dk_162 0 23 (dk_at dksX2_comesTold_3 3 rfl rfl)
theorem dX2_comesTold_102 : decode cX2_comesTold 102 = .ok (.iload 4, 2) := dk_21 4 (dk_at dksX2_comesTold_3 6 rfl rfl)
theorem dX2_comesTold_104 : decode cX2_comesTold 104 = .ok (.bipush 31, 2) := dk_16 31 (dk_at dksX2_comesTold_3 8 rfl rfl)
theorem dX2_comesTold_106 : decode cX2_comesTold 106 = .ok (.if_icmp .gt 16, 3) := dk_163 0 16 (dk_at dksX2_comesTold_3 10 rfl rfl)
theorem dX2_comesTold_109 : decode cX2_comesTold 109 = .ok (.aload_n 0, 1) := dk_42 (dk_at dksX2_comesTold_3 13 rfl rfl)
theorem dX2_comesTold_110 : decode cX2_comesTold 110 = .ok (.getfield 68, 3) := dk_180 0 68 (dk_at dksX2_comesTold_3 14 rfl rfl)
theorem dX2_comesTold_113 : decode cX2_comesTold 113 = .ok (.bipush 6, 2) := dk_16 6 (dk_at dksX2_comesTold_3 17 rfl rfl)
theorem dX2_comesTold_115 : decode cX2_comesTold 115 = .ok (.if_icmp .ge 7, 3) := dk_162 0 7 (dk_at dksX2_comesTold_3 19 rfl rfl)
theorem dX2_comesTold_118 : decode cX2_comesTold 118 = .ok (.iconst 1, 1) := dk_4 (dk_at dksX2_comesTold_3 22 rfl rfl)
theorem dX2_comesTold_119 : decode cX2_comesTold 119 = .ok (.goto 4, 3) := dk_167 0 4 (dk_at dksX2_comesTold_4 0 rfl rfl)
theorem dX2_comesTold_122 : decode cX2_comesTold 122 = .ok (.iconst 0, 1) := dk_3 (dk_at dksX2_comesTold_4 3 rfl rfl)
theorem dX2_comesTold_123 : decode cX2_comesTold 123 = .ok (.istore 5, 2) := dk_54 5 (dk_at dksX2_comesTold_4 4 rfl rfl)
theorem dX2_comesTold_125 : decode cX2_comesTold 125 = .ok (.iload 5, 2) := dk_21 5 (dk_at dksX2_comesTold_4 6 rfl rfl)
theorem dX2_comesTold_127 : decode cX2_comesTold 127 = .ok (.ifCond .eq 11, 3) := dk_153 0 11 (dk_at dksX2_comesTold_4 8 rfl rfl)
theorem dX2_comesTold_130 : decode cX2_comesTold 130 = .ok (.aload_n 0, 1) := dk_42 (dk_at dksX2_comesTold_4 11 rfl rfl)
theorem dX2_comesTold_131 : decode cX2_comesTold 131 = .ok (.iload_n 2, 1) := dk_28 (dk_at dksX2_comesTold_4 12 rfl rfl)
theorem dX2_comesTold_132 : decode cX2_comesTold 132 = .ok (.iload_n 3, 1) := dk_29 (dk_at dksX2_comesTold_4 13 rfl rfl)
theorem dX2_comesTold_133 : decode cX2_comesTold 133 = .ok (.iload 4, 2) := dk_21 4 (dk_at dksX2_comesTold_4 14 rfl rfl)
theorem dX2_comesTold_135 : decode cX2_comesTold 135 = .ok (.invokevirtual 161, 3) := dk_182 0 161 (dk_at dksX2_comesTold_4 16 rfl rfl)
theorem dX2_comesTold_138 : decode cX2_comesTold 138 = .ok (.iload 5, 2) := dk_21 5 (dk_at dksX2_comesTold_4 19 rfl rfl)
theorem dX2_comesTold_140 : decode cX2_comesTold 140 = .ok (.ireturn, 1) := dk_172 (dk_at dksX2_comesTold_4 21 rfl rfl)
theorem dX2_comesTold_141 : decode cX2_comesTold 141 = .ok (.aload_n 0, 1) := dk_42 (dk_at dksX2_comesTold_4 22 rfl rfl)
theorem dX2_comesTold_142 : decode cX2_comesTold 142 = .ok (.iload_n 2, 1) := dk_28 (dk_at dksX2_comesTold_4 23 rfl rfl)
theorem dX2_comesTold_143 : decode cX2_comesTold 143 = .ok (.invokevirtual 75, 3) := dk_182 0 75 (dk_at dksX2_comesTold_5 0 rfl rfl)
theorem dX2_comesTold_146 : decode cX2_comesTold 146 = .ok (.ifCond .eq 13, 3) := dk_153 0 13 (dk_at dksX2_comesTold_5 3 rfl rfl)
theorem dX2_comesTold_149 : decode cX2_comesTold 149 = .ok (.iload_n 3, 1) := dk_29 (dk_at dksX2_comesTold_5 6 rfl rfl)
theorem dX2_comesTold_150 : decode cX2_comesTold 150 = .ok (.bipush 31, 2) := dk_16 31 (dk_at dksX2_comesTold_5 7 rfl rfl)
theorem dX2_comesTold_152 : decode cX2_comesTold 152 = .ok (.if_icmp .gt 7, 3) := dk_163 0 7 (dk_at dksX2_comesTold_5 9 rfl rfl)
theorem dX2_comesTold_155 : decode cX2_comesTold 155 = .ok (.iconst 1, 1) := dk_4 (dk_at dksX2_comesTold_5 12 rfl rfl)
theorem dX2_comesTold_156 : decode cX2_comesTold 156 = .ok (.goto 4, 3) := dk_167 0 4 (dk_at dksX2_comesTold_5 13 rfl rfl)
theorem dX2_comesTold_159 : decode cX2_comesTold 159 = .ok (.iconst 0, 1) := dk_3 (dk_at dksX2_comesTold_5 16 rfl rfl)
theorem dX2_comesTold_160 : decode cX2_comesTold 160 = .ok (.istore 5, 2) := dk_54 5 (dk_at dksX2_comesTold_5 17 rfl rfl)
theorem dX2_comesTold_162 : decode cX2_comesTold 162 = .ok (.iload 5, 2) := dk_21 5 (dk_at dksX2_comesTold_5 19 rfl rfl)
theorem dX2_comesTold_164 : decode cX2_comesTold 164 = .ok (.ifCond .eq 10, 3) := dk_153 0 10 (dk_at dksX2_comesTold_5 21 rfl rfl)
theorem dX2_comesTold_167 : decode cX2_comesTold 167 = .ok (.aload_n 0, 1) := dk_42 (dk_at dksX2_comesTold_6 0 rfl rfl)
theorem dX2_comesTold_168 : decode cX2_comesTold 168 = .ok (.getfield 16, 3) := dk_180 0 16 (dk_at dksX2_comesTold_6 1 rfl rfl)
theorem dX2_comesTold_171 : decode cX2_comesTold 171 = .ok (.iload_n 2, 1) := dk_28 (dk_at dksX2_comesTold_6 4 rfl rfl)
theorem dX2_comesTold_172 : decode cX2_comesTold 172 = .ok (.iload_n 3, 1) := dk_29 (dk_at dksX2_comesTold_6 5 rfl rfl)
theorem dX2_comesTold_173 : decode cX2_comesTold 173 = .ok (.iastore, 1) := dk_79 (dk_at dksX2_comesTold_6 6 rfl rfl)
theorem dX2_comesTold_174 : decode cX2_comesTold 174 = .ok (.iload 5, 2) := dk_21 5 (dk_at dksX2_comesTold_6 7 rfl rfl)
theorem dX2_comesTold_176 : decode cX2_comesTold 176 = .ok (.ireturn, 1) := dk_172 (dk_at dksX2_comesTold_6 9 rfl rfl)
theorem dX2_comesTold_177 : decode cX2_comesTold 177 = .ok (.aload_n 0, 1) := dk_42 (dk_at dksX2_comesTold_6 10 rfl rfl)
theorem dX2_comesTold_178 : decode cX2_comesTold 178 = .ok (.iload_n 2, 1) := dk_28 (dk_at dksX2_comesTold_6 11 rfl rfl)
theorem dX2_comesTold_179 : decode cX2_comesTold 179 = .ok (.iload_n 3, 1) := dk_29 (dk_at dksX2_comesTold_6 12 rfl rfl)
theorem dX2_comesTold_180 : decode cX2_comesTold 180 = .ok (.invokevirtual 164, 3) := dk_182 0 164 (dk_at dksX2_comesTold_6 13 rfl rfl)
theorem dX2_comesTold_183 : decode cX2_comesTold 183 = .ok (.istore 5, 2) := dk_54 5 (dk_at dksX2_comesTold_6 16 rfl rfl)
theorem dX2_comesTold_185 : decode cX2_comesTold 185 = .ok (.iload 5, 2) := dk_21 5 (dk_at dksX2_comesTold_6 18 rfl rfl)
theorem dX2_comesTold_187 : decode cX2_comesTold 187 = .ok (.ifCond .eq 11, 3) := dk_153 0 11 (dk_at dksX2_comesTold_6 20 rfl rfl)
theorem dX2_comesTold_190 : decode cX2_comesTold 190 = .ok (.aload_n 0, 1) := dk_42 (dk_at dksX2_comesTold_6 23 rfl rfl)
theorem dX2_comesTold_191 : decode cX2_comesTold 191 = .ok (.iload_n 2, 1) := dk_28 (dk_at dksX2_comesTold_7 0 rfl rfl)
theorem dX2_comesTold_192 : decode cX2_comesTold 192 = .ok (.iload_n 3, 1) := dk_29 (dk_at dksX2_comesTold_7 1 rfl rfl)
theorem dX2_comesTold_193 : decode cX2_comesTold 193 = .ok (.iload 4, 2) := dk_21 4 (dk_at dksX2_comesTold_7 2 rfl rfl)
theorem dX2_comesTold_195 : decode cX2_comesTold 195 = .ok (.invokevirtual 113, 3) := dk_182 0 113 (dk_at dksX2_comesTold_7 4 rfl rfl)
theorem dX2_comesTold_198 : decode cX2_comesTold 198 = .ok (.iload 5, 2) := dk_21 5 (dk_at dksX2_comesTold_7 7 rfl rfl)
theorem dX2_comesTold_200 : decode cX2_comesTold 200 = .ok (.ireturn, 1) := dk_172 (dk_at dksX2_comesTold_7 9 rfl rfl)
theorem dX2_comesTold_201 : decode cX2_comesTold 201 = .ok (.aload_n 0, 1) := dk_42 (dk_at dksX2_comesTold_7 10 rfl rfl)
theorem dX2_comesTold_202 : decode cX2_comesTold 202 = .ok (.iload_n 2, 1) := dk_28 (dk_at dksX2_comesTold_7 11 rfl rfl)
theorem dX2_comesTold_203 : decode cX2_comesTold 203 = .ok (.iload_n 3, 1) := dk_29 (dk_at dksX2_comesTold_7 12 rfl rfl)
theorem dX2_comesTold_204 : decode cX2_comesTold 204 = .ok (.invokevirtual 164, 3) := dk_182 0 164 (dk_at dksX2_comesTold_7 13 rfl rfl)
theorem dX2_comesTold_207 : decode cX2_comesTold 207 = .ok (.istore 5, 2) := dk_54 5 (dk_at dksX2_comesTold_7 16 rfl rfl)
theorem dX2_comesTold_209 : decode cX2_comesTold 209 = .ok (.iload 5, 2) := dk_21 5 (dk_at dksX2_comesTold_7 18 rfl rfl)
theorem dX2_comesTold_211 : decode cX2_comesTold 211 = .ok (.ifCond .eq 9, 3) := dk_153 0 9 (dk_at dksX2_comesTold_7 20 rfl rfl)
theorem dX2_comesTold_214 : decode cX2_comesTold 214 = .ok (.aload_n 0, 1) := dk_42 (dk_at dksX2_comesTold_7 23 rfl rfl)
theorem dX2_comesTold_215 : decode cX2_comesTold 215 = .ok (.iload_n 2, 1) := dk_28 (dk_at dksX2_comesTold_8 0 rfl rfl)
theorem dX2_comesTold_216 : decode cX2_comesTold 216 = .ok (.iload_n 3, 1) := dk_29 (dk_at dksX2_comesTold_8 1 rfl rfl)
theorem dX2_comesTold_217 : decode cX2_comesTold 217 = .ok (.invokevirtual 167, 3) := dk_182 0 167 (dk_at dksX2_comesTold_8 2 rfl rfl)
theorem dX2_comesTold_220 : decode cX2_comesTold 220 = .ok (.iload 5, 2) := dk_21 5 (dk_at dksX2_comesTold_8 5 rfl rfl)
theorem dX2_comesTold_222 : decode cX2_comesTold 222 = .ok (.ireturn, 1) := dk_172 (dk_at dksX2_comesTold_8 7 rfl rfl)
theorem dX2_comesTold_223 : decode cX2_comesTold 223 = .ok (.iload_n 2, 1) := dk_28 (dk_at dksX2_comesTold_8 8 rfl rfl)
theorem dX2_comesTold_224 : decode cX2_comesTold 224 = .ok (.i2l, 1) := dk_133 (dk_at dksX2_comesTold_8 9 rfl rfl)
theorem dX2_comesTold_225 : decode cX2_comesTold 225 = .ok (.lconst 1, 1) := dk_10 (dk_at dksX2_comesTold_8 10 rfl rfl)
theorem dX2_comesTold_226 : decode cX2_comesTold 226 = .ok (.ldc2_w 170, 3) := dk_20 0 170 (dk_at dksX2_comesTold_8 11 rfl rfl)
theorem dX2_comesTold_229 : decode cX2_comesTold 229 = .ok (.invokestatic 71, 3) := dk_184 0 71 (dk_at dksX2_comesTold_8 14 rfl rfl)
theorem dX2_comesTold_232 : decode cX2_comesTold 232 = .ok (.ifCond .eq 19, 3) := dk_153 0 19 (dk_at dksX2_comesTold_8 17 rfl rfl)
theorem dX2_comesTold_235 : decode cX2_comesTold 235 = .ok (.aload_n 0, 1) := dk_42 (dk_at dksX2_comesTold_8 20 rfl rfl)
theorem dX2_comesTold_236 : decode cX2_comesTold 236 = .ok (.getfield 106, 3) := dk_180 0 106 (dk_at dksX2_comesTold_8 21 rfl rfl)
theorem dX2_comesTold_239 : decode cX2_comesTold 239 = .ok (.iload_n 2, 1) := dk_28 (dk_at dksX2_comesTold_9 0 rfl rfl)
theorem dX2_comesTold_240 : decode cX2_comesTold 240 = .ok (.iadd, 1) := dk_96 (dk_at dksX2_comesTold_9 1 rfl rfl)
theorem dX2_comesTold_241 : decode cX2_comesTold 241 = .ok (.sipush 999, 3) := dk_17 3 231 (dk_at dksX2_comesTold_9 2 rfl rfl)
theorem dX2_comesTold_244 : decode cX2_comesTold 244 = .ok (.if_icmp .gt 7, 3) := dk_163 0 7 (dk_at dksX2_comesTold_9 5 rfl rfl)
theorem dX2_comesTold_247 : decode cX2_comesTold 247 = .ok (.iconst 1, 1) := dk_4 (dk_at dksX2_comesTold_9 8 rfl rfl)
theorem dX2_comesTold_248 : decode cX2_comesTold 248 = .ok (.goto 4, 3) := dk_167 0 4 (dk_at dksX2_comesTold_9 9 rfl rfl)
theorem dX2_comesTold_251 : decode cX2_comesTold 251 = .ok (.iconst 0, 1) := dk_3 (dk_at dksX2_comesTold_9 12 rfl rfl)
theorem dX2_comesTold_252 : decode cX2_comesTold 252 = .ok (.istore 5, 2) := dk_54 5 (dk_at dksX2_comesTold_9 13 rfl rfl)
theorem dX2_comesTold_254 : decode cX2_comesTold 254 = .ok (.iload 5, 2) := dk_21 5 (dk_at dksX2_comesTold_9 15 rfl rfl)
theorem dX2_comesTold_256 : decode cX2_comesTold 256 = .ok (.ifCond .eq 8, 3) := dk_153 0 8 (dk_at dksX2_comesTold_9 17 rfl rfl)
theorem dX2_comesTold_259 : decode cX2_comesTold 259 = .ok (.aload_n 0, 1) := dk_42 (dk_at dksX2_comesTold_9 20 rfl rfl)
theorem dX2_comesTold_260 : decode cX2_comesTold 260 = .ok (.iload_n 2, 1) := dk_28 (dk_at dksX2_comesTold_9 21 rfl rfl)
theorem dX2_comesTold_261 : decode cX2_comesTold 261 = .ok (.invokevirtual 172, 3) := dk_182 0 172 (dk_at dksX2_comesTold_10 0 rfl rfl)
theorem dX2_comesTold_264 : decode cX2_comesTold 264 = .ok (.iload 5, 2) := dk_21 5 (dk_at dksX2_comesTold_10 3 rfl rfl)
theorem dX2_comesTold_266 : decode cX2_comesTold 266 = .ok (.ireturn, 1) := dk_172 (dk_at dksX2_comesTold_10 5 rfl rfl)
abbrev cX2_oneComes : ByteArray := prog_12_method_34_code
def yX2_oneComes : MethodName := ⟨RX2, "oneComes", "(III)V"⟩
def dkwX2_oneComes_3 : List UInt8 := [180, 0, 68, 4, 96, 181, 0, 68, 177]
abbrev dktX2_oneComes_3 : List UInt8 := dkwX2_oneComes_3 ++ []
def dkwX2_oneComes_2 : List UInt8 := [162, 0, 20, 42, 42, 180, 0, 68, 21, 4, 3, 182, 0, 113, 132, 4, 1, 167, 255, 235, 42, 89]
abbrev dktX2_oneComes_2 : List UInt8 := dkwX2_oneComes_2 ++ dktX2_oneComes_3
def dkwX2_oneComes_1 : List UInt8 := [42, 180, 0, 68, 29, 79, 42, 180, 0, 19, 42, 180, 0, 68, 16, 247, 79, 3, 54, 4, 21, 4, 16, 6]
abbrev dktX2_oneComes_1 : List UInt8 := dkwX2_oneComes_1 ++ dktX2_oneComes_2
def dkwX2_oneComes_0 : List UInt8 := [42, 180, 0, 7, 42, 180, 0, 68, 27, 79, 42, 180, 0, 13, 42, 180, 0, 68, 28, 79, 42, 180, 0, 16]
abbrev dktX2_oneComes_0 : List UInt8 := dkwX2_oneComes_0 ++ dktX2_oneComes_1
theorem dksX2_oneComes_0 : cX2_oneComes.data.toList.drop 0 = dktX2_oneComes_0 := by decide +kernel
theorem dksX2_oneComes_1 : cX2_oneComes.data.toList.drop 24 = dktX2_oneComes_1 := dk_seg dksX2_oneComes_0 24 rfl rfl
theorem dksX2_oneComes_2 : cX2_oneComes.data.toList.drop 48 = dktX2_oneComes_2 := dk_seg dksX2_oneComes_1 24 rfl rfl
theorem dksX2_oneComes_3 : cX2_oneComes.data.toList.drop 70 = dktX2_oneComes_3 := dk_seg dksX2_oneComes_2 22 rfl rfl
theorem dX2_oneComes_0 : decode cX2_oneComes 0 = .ok (.aload_n 0, 1) := dk_42 (dk_at dksX2_oneComes_0 0 rfl rfl)
theorem dX2_oneComes_1 : decode cX2_oneComes 1 = .ok (.getfield 7, 3) := dk_180 0 7 (dk_at dksX2_oneComes_0 1 rfl rfl)
theorem dX2_oneComes_4 : decode cX2_oneComes 4 = .ok (.aload_n 0, 1) := dk_42 (dk_at dksX2_oneComes_0 4 rfl rfl)
theorem dX2_oneComes_5 : decode cX2_oneComes 5 = .ok (.getfield 68, 3) := dk_180 0 68 (dk_at dksX2_oneComes_0 5 rfl rfl)
theorem dX2_oneComes_8 : decode cX2_oneComes 8 = .ok (.iload_n 1, 1) := dk_27 (dk_at dksX2_oneComes_0 8 rfl rfl)
theorem dX2_oneComes_9 : decode cX2_oneComes 9 = .ok (.iastore, 1) := dk_79 (dk_at dksX2_oneComes_0 9 rfl rfl)
theorem dX2_oneComes_10 : decode cX2_oneComes 10 = .ok (.aload_n 0, 1) := dk_42 (dk_at dksX2_oneComes_0 10 rfl rfl)
theorem dX2_oneComes_11 : decode cX2_oneComes 11 = .ok (.getfield 13, 3) := dk_180 0 13 (dk_at dksX2_oneComes_0 11 rfl rfl)
theorem dX2_oneComes_14 : decode cX2_oneComes 14 = .ok (.aload_n 0, 1) := dk_42 (dk_at dksX2_oneComes_0 14 rfl rfl)
theorem dX2_oneComes_15 : decode cX2_oneComes 15 = .ok (.getfield 68, 3) := dk_180 0 68 (dk_at dksX2_oneComes_0 15 rfl rfl)
theorem dX2_oneComes_18 : decode cX2_oneComes 18 = .ok (.iload_n 2, 1) := dk_28 (dk_at dksX2_oneComes_0 18 rfl rfl)
theorem dX2_oneComes_19 : decode cX2_oneComes 19 = .ok (.iastore, 1) := dk_79 (dk_at dksX2_oneComes_0 19 rfl rfl)
theorem dX2_oneComes_20 : decode cX2_oneComes 20 = .ok (.aload_n 0, 1) := dk_42 (dk_at dksX2_oneComes_0 20 rfl rfl)
theorem dX2_oneComes_21 : decode cX2_oneComes 21 = .ok (.getfield 16, 3) := dk_180 0 16 (dk_at dksX2_oneComes_0 21 rfl rfl)
theorem dX2_oneComes_24 : decode cX2_oneComes 24 = .ok (.aload_n 0, 1) := dk_42 (dk_at dksX2_oneComes_1 0 rfl rfl)
theorem dX2_oneComes_25 : decode cX2_oneComes 25 = .ok (.getfield 68, 3) := dk_180 0 68 (dk_at dksX2_oneComes_1 1 rfl rfl)
theorem dX2_oneComes_28 : decode cX2_oneComes 28 = .ok (.iload_n 3, 1) := dk_29 (dk_at dksX2_oneComes_1 4 rfl rfl)
theorem dX2_oneComes_29 : decode cX2_oneComes 29 = .ok (.iastore, 1) := dk_79 (dk_at dksX2_oneComes_1 5 rfl rfl)
theorem dX2_oneComes_30 : decode cX2_oneComes 30 = .ok (.aload_n 0, 1) := dk_42 (dk_at dksX2_oneComes_1 6 rfl rfl)
theorem dX2_oneComes_31 : decode cX2_oneComes 31 = .ok (.getfield 19, 3) := dk_180 0 19 (dk_at dksX2_oneComes_1 7 rfl rfl)
theorem dX2_oneComes_34 : decode cX2_oneComes 34 = .ok (.aload_n 0, 1) := dk_42 (dk_at dksX2_oneComes_1 10 rfl rfl)
theorem dX2_oneComes_35 : decode cX2_oneComes 35 = .ok (.getfield 68, 3) := dk_180 0 68 (dk_at dksX2_oneComes_1 11 rfl rfl)
theorem dX2_oneComes_38 : decode cX2_oneComes 38 = .ok (.bipush (-9), 2) := dk_16 247 (dk_at dksX2_oneComes_1 14 rfl rfl)
theorem dX2_oneComes_40 : decode cX2_oneComes 40 = .ok (.iastore, 1) := dk_79 (dk_at dksX2_oneComes_1 16 rfl rfl)
theorem dX2_oneComes_41 : decode cX2_oneComes 41 = .ok (.iconst 0, 1) := dk_3 (dk_at dksX2_oneComes_1 17 rfl rfl)
theorem dX2_oneComes_42 : decode cX2_oneComes 42 = .ok (.istore 4, 2) := dk_54 4 (dk_at dksX2_oneComes_1 18 rfl rfl)
theorem dX2_oneComes_44 : decode cX2_oneComes 44 = .ok (.iload 4, 2) := dk_21 4 (dk_at dksX2_oneComes_1 20 rfl rfl)
theorem dX2_oneComes_46 : decode cX2_oneComes 46 = .ok (.bipush 6, 2) := dk_16 6 (dk_at dksX2_oneComes_1 22 rfl rfl)
theorem dX2_oneComes_48 : decode cX2_oneComes 48 = .ok (.if_icmp .ge 20, 3) := dk_162 0 20 (dk_at dksX2_oneComes_2 0 rfl rfl)
theorem dX2_oneComes_51 : decode cX2_oneComes 51 = .ok (.aload_n 0, 1) := dk_42 (dk_at dksX2_oneComes_2 3 rfl rfl)
theorem dX2_oneComes_52 : decode cX2_oneComes 52 = .ok (.aload_n 0, 1) := dk_42 (dk_at dksX2_oneComes_2 4 rfl rfl)
theorem dX2_oneComes_53 : decode cX2_oneComes 53 = .ok (.getfield 68, 3) := dk_180 0 68 (dk_at dksX2_oneComes_2 5 rfl rfl)
theorem dX2_oneComes_56 : decode cX2_oneComes 56 = .ok (.iload 4, 2) := dk_21 4 (dk_at dksX2_oneComes_2 8 rfl rfl)
theorem dX2_oneComes_58 : decode cX2_oneComes 58 = .ok (.iconst 0, 1) := dk_3 (dk_at dksX2_oneComes_2 10 rfl rfl)
theorem dX2_oneComes_59 : decode cX2_oneComes 59 = .ok (.invokevirtual 113, 3) := dk_182 0 113 (dk_at dksX2_oneComes_2 11 rfl rfl)
theorem dX2_oneComes_62 : decode cX2_oneComes 62 = .ok (.iinc 4 1, 3) := dk_132 4 1 (dk_at dksX2_oneComes_2 14 rfl rfl)
theorem dX2_oneComes_65 : decode cX2_oneComes 65 = .ok (.goto (-21), 3) := dk_167 255 235 (dk_at dksX2_oneComes_2 17 rfl rfl)
theorem dX2_oneComes_68 : decode cX2_oneComes 68 = .ok (.aload_n 0, 1) := dk_42 (dk_at dksX2_oneComes_2 20 rfl rfl)
theorem dX2_oneComes_69 : decode cX2_oneComes 69 = .ok (.dup, 1) := dk_89 (dk_at dksX2_oneComes_2 21 rfl rfl)
theorem dX2_oneComes_70 : decode cX2_oneComes 70 = .ok (.getfield 68, 3) := dk_180 0 68 (dk_at dksX2_oneComes_3 0 rfl rfl)
theorem dX2_oneComes_73 : decode cX2_oneComes 73 = .ok (.iconst 1, 1) := dk_4 (dk_at dksX2_oneComes_3 3 rfl rfl)
theorem dX2_oneComes_74 : decode cX2_oneComes 74 = .ok (.iadd, 1) := dk_96 (dk_at dksX2_oneComes_3 4 rfl rfl)
theorem dX2_oneComes_75 : decode cX2_oneComes 75 = .ok (.putfield 68, 3) := dk_181 0 68 (dk_at dksX2_oneComes_3 5 rfl rfl)
theorem dX2_oneComes_78 : decode cX2_oneComes 78 = .ok (.return_, 1) := dk_177 (dk_at dksX2_oneComes_3 8 rfl rfl)
abbrev cX2_setQuarrel : ByteArray := prog_12_method_16_code
def yX2_setQuarrel : MethodName := ⟨RX2, "setQuarrel", "(III)V"⟩
def dkwX2_setQuarrel_1 : List UInt8 := [177]
abbrev dktX2_setQuarrel_1 : List UInt8 := dkwX2_setQuarrel_1 ++ []
def dkwX2_setQuarrel_0 : List UInt8 := [42, 180, 0, 22, 16, 6, 27, 104, 28, 96, 29, 79, 42, 180, 0, 22, 16, 6, 28, 104, 27, 96, 29, 79]
abbrev dktX2_setQuarrel_0 : List UInt8 := dkwX2_setQuarrel_0 ++ dktX2_setQuarrel_1
theorem dksX2_setQuarrel_0 : cX2_setQuarrel.data.toList.drop 0 = dktX2_setQuarrel_0 := by decide +kernel
theorem dksX2_setQuarrel_1 : cX2_setQuarrel.data.toList.drop 24 = dktX2_setQuarrel_1 := dk_seg dksX2_setQuarrel_0 24 rfl rfl
theorem dX2_setQuarrel_0 : decode cX2_setQuarrel 0 = .ok (.aload_n 0, 1) := dk_42 (dk_at dksX2_setQuarrel_0 0 rfl rfl)
theorem dX2_setQuarrel_1 : decode cX2_setQuarrel 1 = .ok (.getfield 22, 3) := dk_180 0 22 (dk_at dksX2_setQuarrel_0 1 rfl rfl)
theorem dX2_setQuarrel_4 : decode cX2_setQuarrel 4 = .ok (.bipush 6, 2) := dk_16 6 (dk_at dksX2_setQuarrel_0 4 rfl rfl)
theorem dX2_setQuarrel_6 : decode cX2_setQuarrel 6 = .ok (.iload_n 1, 1) := dk_27 (dk_at dksX2_setQuarrel_0 6 rfl rfl)
theorem dX2_setQuarrel_7 : decode cX2_setQuarrel 7 = .ok (.imul, 1) := dk_104 (dk_at dksX2_setQuarrel_0 7 rfl rfl)
theorem dX2_setQuarrel_8 : decode cX2_setQuarrel 8 = .ok (.iload_n 2, 1) := dk_28 (dk_at dksX2_setQuarrel_0 8 rfl rfl)
theorem dX2_setQuarrel_9 : decode cX2_setQuarrel 9 = .ok (.iadd, 1) := dk_96 (dk_at dksX2_setQuarrel_0 9 rfl rfl)
theorem dX2_setQuarrel_10 : decode cX2_setQuarrel 10 = .ok (.iload_n 3, 1) := dk_29 (dk_at dksX2_setQuarrel_0 10 rfl rfl)
theorem dX2_setQuarrel_11 : decode cX2_setQuarrel 11 = .ok (.iastore, 1) := dk_79 (dk_at dksX2_setQuarrel_0 11 rfl rfl)
theorem dX2_setQuarrel_12 : decode cX2_setQuarrel 12 = .ok (.aload_n 0, 1) := dk_42 (dk_at dksX2_setQuarrel_0 12 rfl rfl)
theorem dX2_setQuarrel_13 : decode cX2_setQuarrel 13 = .ok (.getfield 22, 3) := dk_180 0 22 (dk_at dksX2_setQuarrel_0 13 rfl rfl)
theorem dX2_setQuarrel_16 : decode cX2_setQuarrel 16 = .ok (.bipush 6, 2) := dk_16 6 (dk_at dksX2_setQuarrel_0 16 rfl rfl)
theorem dX2_setQuarrel_18 : decode cX2_setQuarrel 18 = .ok (.iload_n 2, 1) := dk_28 (dk_at dksX2_setQuarrel_0 18 rfl rfl)
theorem dX2_setQuarrel_19 : decode cX2_setQuarrel 19 = .ok (.imul, 1) := dk_104 (dk_at dksX2_setQuarrel_0 19 rfl rfl)
theorem dX2_setQuarrel_20 : decode cX2_setQuarrel 20 = .ok (.iload_n 1, 1) := dk_27 (dk_at dksX2_setQuarrel_0 20 rfl rfl)
theorem dX2_setQuarrel_21 : decode cX2_setQuarrel 21 = .ok (.iadd, 1) := dk_96 (dk_at dksX2_setQuarrel_0 21 rfl rfl)
theorem dX2_setQuarrel_22 : decode cX2_setQuarrel 22 = .ok (.iload_n 3, 1) := dk_29 (dk_at dksX2_setQuarrel_0 22 rfl rfl)
theorem dX2_setQuarrel_23 : decode cX2_setQuarrel 23 = .ok (.iastore, 1) := dk_79 (dk_at dksX2_setQuarrel_0 23 rfl rfl)
theorem dX2_setQuarrel_24 : decode cX2_setQuarrel 24 = .ok (.return_, 1) := dk_177 (dk_at dksX2_setQuarrel_1 0 rfl rfl)
abbrev cX2_isOne : ByteArray := prog_12_method_5_code
def yX2_isOne : MethodName := ⟨RX2, "isOne", "(I)Z"⟩
def dkwX2_isOne_0 : List UInt8 := [27, 133, 9, 42, 180, 0, 68, 4, 100, 133, 184, 0, 71, 172]
abbrev dktX2_isOne_0 : List UInt8 := dkwX2_isOne_0 ++ []
theorem dksX2_isOne_0 : cX2_isOne.data.toList.drop 0 = dktX2_isOne_0 := by decide +kernel
theorem dX2_isOne_0 : decode cX2_isOne 0 = .ok (.iload_n 1, 1) := dk_27 (dk_at dksX2_isOne_0 0 rfl rfl)
theorem dX2_isOne_1 : decode cX2_isOne 1 = .ok (.i2l, 1) := dk_133 (dk_at dksX2_isOne_0 1 rfl rfl)
theorem dX2_isOne_2 : decode cX2_isOne 2 = .ok (.lconst 0, 1) := dk_9 (dk_at dksX2_isOne_0 2 rfl rfl)
theorem dX2_isOne_3 : decode cX2_isOne 3 = .ok (.aload_n 0, 1) := dk_42 (dk_at dksX2_isOne_0 3 rfl rfl)
theorem dX2_isOne_4 : decode cX2_isOne 4 = .ok (.getfield 68, 3) := dk_180 0 68 (dk_at dksX2_isOne_0 4 rfl rfl)
theorem dX2_isOne_7 : decode cX2_isOne 7 = .ok (.iconst 1, 1) := dk_4 (dk_at dksX2_isOne_0 7 rfl rfl)
theorem dX2_isOne_8 : decode cX2_isOne 8 = .ok (.isub, 1) := dk_100 (dk_at dksX2_isOne_0 8 rfl rfl)
theorem dX2_isOne_9 : decode cX2_isOne 9 = .ok (.i2l, 1) := dk_133 (dk_at dksX2_isOne_0 9 rfl rfl)
theorem dX2_isOne_10 : decode cX2_isOne 10 = .ok (.invokestatic 71, 3) := dk_184 0 71 (dk_at dksX2_isOne_0 10 rfl rfl)
theorem dX2_isOne_13 : decode cX2_isOne 13 = .ok (.ireturn, 1) := dk_172 (dk_at dksX2_isOne_0 13 rfl rfl)
abbrev cX2_areTwo : ByteArray := prog_12_method_6_code
def yX2_areTwo : MethodName := ⟨RX2, "areTwo", "(II)Z"⟩
def dkwX2_areTwo_1 : List UInt8 := [167, 0, 4, 3, 172]
abbrev dktX2_areTwo_1 : List UInt8 := dkwX2_areTwo_1 ++ []
def dkwX2_areTwo_0 : List UInt8 := [42, 27, 182, 0, 75, 153, 0, 20, 42, 28, 182, 0, 75, 153, 0, 12, 27, 28, 159, 0, 7, 4]
abbrev dktX2_areTwo_0 : List UInt8 := dkwX2_areTwo_0 ++ dktX2_areTwo_1
theorem dksX2_areTwo_0 : cX2_areTwo.data.toList.drop 0 = dktX2_areTwo_0 := by decide +kernel
theorem dksX2_areTwo_1 : cX2_areTwo.data.toList.drop 22 = dktX2_areTwo_1 := dk_seg dksX2_areTwo_0 22 rfl rfl
theorem dX2_areTwo_0 : decode cX2_areTwo 0 = .ok (.aload_n 0, 1) := dk_42 (dk_at dksX2_areTwo_0 0 rfl rfl)
theorem dX2_areTwo_1 : decode cX2_areTwo 1 = .ok (.iload_n 1, 1) := dk_27 (dk_at dksX2_areTwo_0 1 rfl rfl)
theorem dX2_areTwo_2 : decode cX2_areTwo 2 = .ok (.invokevirtual 75, 3) := dk_182 0 75 (dk_at dksX2_areTwo_0 2 rfl rfl)
theorem dX2_areTwo_5 : decode cX2_areTwo 5 = .ok (.ifCond .eq 20, 3) := dk_153 0 20 (dk_at dksX2_areTwo_0 5 rfl rfl)
theorem dX2_areTwo_8 : decode cX2_areTwo 8 = .ok (.aload_n 0, 1) := dk_42 (dk_at dksX2_areTwo_0 8 rfl rfl)
theorem dX2_areTwo_9 : decode cX2_areTwo 9 = .ok (.iload_n 2, 1) := dk_28 (dk_at dksX2_areTwo_0 9 rfl rfl)
theorem dX2_areTwo_10 : decode cX2_areTwo 10 = .ok (.invokevirtual 75, 3) := dk_182 0 75 (dk_at dksX2_areTwo_0 10 rfl rfl)
theorem dX2_areTwo_13 : decode cX2_areTwo 13 = .ok (.ifCond .eq 12, 3) := dk_153 0 12 (dk_at dksX2_areTwo_0 13 rfl rfl)
theorem dX2_areTwo_16 : decode cX2_areTwo 16 = .ok (.iload_n 1, 1) := dk_27 (dk_at dksX2_areTwo_0 16 rfl rfl)
theorem dX2_areTwo_17 : decode cX2_areTwo 17 = .ok (.iload_n 2, 1) := dk_28 (dk_at dksX2_areTwo_0 17 rfl rfl)
theorem dX2_areTwo_18 : decode cX2_areTwo 18 = .ok (.if_icmp .eq 7, 3) := dk_159 0 7 (dk_at dksX2_areTwo_0 18 rfl rfl)
theorem dX2_areTwo_21 : decode cX2_areTwo 21 = .ok (.iconst 1, 1) := dk_4 (dk_at dksX2_areTwo_0 21 rfl rfl)
theorem dX2_areTwo_22 : decode cX2_areTwo 22 = .ok (.goto 4, 3) := dk_167 0 4 (dk_at dksX2_areTwo_1 0 rfl rfl)
theorem dX2_areTwo_25 : decode cX2_areTwo 25 = .ok (.iconst 0, 1) := dk_3 (dk_at dksX2_areTwo_1 3 rfl rfl)
theorem dX2_areTwo_26 : decode cX2_areTwo 26 = .ok (.ireturn, 1) := dk_172 (dk_at dksX2_areTwo_1 4 rfl rfl)
abbrev cX2_joinOrNot : ByteArray := prog_12_method_26_code
def yX2_joinOrNot : MethodName := ⟨RX2, "joinOrNot", "(II)V"⟩
def dkwX2_joinOrNot_1 : List UInt8 := [177]
abbrev dktX2_joinOrNot_1 : List UInt8 := dkwX2_joinOrNot_1 ++ []
def dkwX2_joinOrNot_0 : List UInt8 := [42, 180, 0, 19, 27, 46, 28, 160, 0, 11, 42, 27, 182, 0, 121, 167, 0, 9, 42, 27, 28, 182, 0, 125]
abbrev dktX2_joinOrNot_0 : List UInt8 := dkwX2_joinOrNot_0 ++ dktX2_joinOrNot_1
theorem dksX2_joinOrNot_0 : cX2_joinOrNot.data.toList.drop 0 = dktX2_joinOrNot_0 := by decide +kernel
theorem dksX2_joinOrNot_1 : cX2_joinOrNot.data.toList.drop 24 = dktX2_joinOrNot_1 := dk_seg dksX2_joinOrNot_0 24 rfl rfl
theorem dX2_joinOrNot_0 : decode cX2_joinOrNot 0 = .ok (.aload_n 0, 1) := dk_42 (dk_at dksX2_joinOrNot_0 0 rfl rfl)
theorem dX2_joinOrNot_1 : decode cX2_joinOrNot 1 = .ok (.getfield 19, 3) := dk_180 0 19 (dk_at dksX2_joinOrNot_0 1 rfl rfl)
theorem dX2_joinOrNot_4 : decode cX2_joinOrNot 4 = .ok (.iload_n 1, 1) := dk_27 (dk_at dksX2_joinOrNot_0 4 rfl rfl)
theorem dX2_joinOrNot_5 : decode cX2_joinOrNot 5 = .ok (.iaload, 1) := dk_46 (dk_at dksX2_joinOrNot_0 5 rfl rfl)
theorem dX2_joinOrNot_6 : decode cX2_joinOrNot 6 = .ok (.iload_n 2, 1) := dk_28 (dk_at dksX2_joinOrNot_0 6 rfl rfl)
theorem dX2_joinOrNot_7 : decode cX2_joinOrNot 7 = .ok (.if_icmp .ne 11, 3) := dk_160 0 11 (dk_at dksX2_joinOrNot_0 7 rfl rfl)
theorem dX2_joinOrNot_10 : decode cX2_joinOrNot 10 = .ok (.aload_n 0, 1) := dk_42 (dk_at dksX2_joinOrNot_0 10 rfl rfl)
theorem dX2_joinOrNot_11 : decode cX2_joinOrNot 11 = .ok (.iload_n 1, 1) := dk_27 (dk_at dksX2_joinOrNot_0 11 rfl rfl)
theorem dX2_joinOrNot_12 : decode cX2_joinOrNot 12 = .ok (.invokevirtual 121, 3) := dk_182 0 121 (dk_at dksX2_joinOrNot_0 12 rfl rfl)
theorem dX2_joinOrNot_15 : decode cX2_joinOrNot 15 = .ok (.goto 9, 3) := dk_167 0 9 (dk_at dksX2_joinOrNot_0 15 rfl rfl)
theorem dX2_joinOrNot_18 : decode cX2_joinOrNot 18 = .ok (.aload_n 0, 1) := dk_42 (dk_at dksX2_joinOrNot_0 18 rfl rfl)
theorem dX2_joinOrNot_19 : decode cX2_joinOrNot 19 = .ok (.iload_n 1, 1) := dk_27 (dk_at dksX2_joinOrNot_0 19 rfl rfl)
theorem dX2_joinOrNot_20 : decode cX2_joinOrNot 20 = .ok (.iload_n 2, 1) := dk_28 (dk_at dksX2_joinOrNot_0 20 rfl rfl)
theorem dX2_joinOrNot_21 : decode cX2_joinOrNot 21 = .ok (.invokevirtual 125, 3) := dk_182 0 125 (dk_at dksX2_joinOrNot_0 21 rfl rfl)
theorem dX2_joinOrNot_24 : decode cX2_joinOrNot 24 = .ok (.return_, 1) := dk_177 (dk_at dksX2_joinOrNot_1 0 rfl rfl)
abbrev cX2_leaveMat : ByteArray := prog_12_method_24_code
def yX2_leaveMat : MethodName := ⟨RX2, "leaveMat", "(I)V"⟩
def dkwX2_leaveMat_1 : List UInt8 := [180, 0, 19, 27, 16, 247, 79, 177]
abbrev dktX2_leaveMat_1 : List UInt8 := dkwX2_leaveMat_1 ++ []
def dkwX2_leaveMat_0 : List UInt8 := [42, 180, 0, 19, 27, 46, 155, 0, 24, 42, 180, 0, 19, 42, 180, 0, 19, 27, 46, 16, 247, 79, 42]
abbrev dktX2_leaveMat_0 : List UInt8 := dkwX2_leaveMat_0 ++ dktX2_leaveMat_1
theorem dksX2_leaveMat_0 : cX2_leaveMat.data.toList.drop 0 = dktX2_leaveMat_0 := by decide +kernel
theorem dksX2_leaveMat_1 : cX2_leaveMat.data.toList.drop 23 = dktX2_leaveMat_1 := dk_seg dksX2_leaveMat_0 23 rfl rfl
theorem dX2_leaveMat_0 : decode cX2_leaveMat 0 = .ok (.aload_n 0, 1) := dk_42 (dk_at dksX2_leaveMat_0 0 rfl rfl)
theorem dX2_leaveMat_1 : decode cX2_leaveMat 1 = .ok (.getfield 19, 3) := dk_180 0 19 (dk_at dksX2_leaveMat_0 1 rfl rfl)
theorem dX2_leaveMat_4 : decode cX2_leaveMat 4 = .ok (.iload_n 1, 1) := dk_27 (dk_at dksX2_leaveMat_0 4 rfl rfl)
theorem dX2_leaveMat_5 : decode cX2_leaveMat 5 = .ok (.iaload, 1) := dk_46 (dk_at dksX2_leaveMat_0 5 rfl rfl)
theorem dX2_leaveMat_6 : decode cX2_leaveMat 6 = .ok (.ifCond .lt 24, 3) := dk_155 0 24 (dk_at dksX2_leaveMat_0 6 rfl rfl)
theorem dX2_leaveMat_9 : decode cX2_leaveMat 9 = .ok (.aload_n 0, 1) := dk_42 (dk_at dksX2_leaveMat_0 9 rfl rfl)
theorem dX2_leaveMat_10 : decode cX2_leaveMat 10 = .ok (.getfield 19, 3) := dk_180 0 19 (dk_at dksX2_leaveMat_0 10 rfl rfl)
theorem dX2_leaveMat_13 : decode cX2_leaveMat 13 = .ok (.aload_n 0, 1) := dk_42 (dk_at dksX2_leaveMat_0 13 rfl rfl)
theorem dX2_leaveMat_14 : decode cX2_leaveMat 14 = .ok (.getfield 19, 3) := dk_180 0 19 (dk_at dksX2_leaveMat_0 14 rfl rfl)
theorem dX2_leaveMat_17 : decode cX2_leaveMat 17 = .ok (.iload_n 1, 1) := dk_27 (dk_at dksX2_leaveMat_0 17 rfl rfl)
theorem dX2_leaveMat_18 : decode cX2_leaveMat 18 = .ok (.iaload, 1) := dk_46 (dk_at dksX2_leaveMat_0 18 rfl rfl)
theorem dX2_leaveMat_19 : decode cX2_leaveMat 19 = .ok (.bipush (-9), 2) := dk_16 247 (dk_at dksX2_leaveMat_0 19 rfl rfl)
theorem dX2_leaveMat_21 : decode cX2_leaveMat 21 = .ok (.iastore, 1) := dk_79 (dk_at dksX2_leaveMat_0 21 rfl rfl)
theorem dX2_leaveMat_22 : decode cX2_leaveMat 22 = .ok (.aload_n 0, 1) := dk_42 (dk_at dksX2_leaveMat_0 22 rfl rfl)
theorem dX2_leaveMat_23 : decode cX2_leaveMat 23 = .ok (.getfield 19, 3) := dk_180 0 19 (dk_at dksX2_leaveMat_1 0 rfl rfl)
theorem dX2_leaveMat_26 : decode cX2_leaveMat 26 = .ok (.iload_n 1, 1) := dk_27 (dk_at dksX2_leaveMat_1 3 rfl rfl)
theorem dX2_leaveMat_27 : decode cX2_leaveMat 27 = .ok (.bipush (-9), 2) := dk_16 247 (dk_at dksX2_leaveMat_1 4 rfl rfl)
theorem dX2_leaveMat_29 : decode cX2_leaveMat 29 = .ok (.iastore, 1) := dk_79 (dk_at dksX2_leaveMat_1 6 rfl rfl)
theorem dX2_leaveMat_30 : decode cX2_leaveMat 30 = .ok (.return_, 1) := dk_177 (dk_at dksX2_leaveMat_1 7 rfl rfl)
abbrev cX2_join : ByteArray := prog_12_method_25_code
def yX2_join : MethodName := ⟨RX2, "join", "(II)V"⟩
def dkwX2_join_1 : List UInt8 := [177]
abbrev dktX2_join_1 : List UInt8 := dkwX2_join_1 ++ []
def dkwX2_join_0 : List UInt8 := [42, 27, 182, 0, 121, 42, 28, 182, 0, 121, 42, 180, 0, 19, 27, 28, 79, 42, 180, 0, 19, 28, 27, 79]
abbrev dktX2_join_0 : List UInt8 := dkwX2_join_0 ++ dktX2_join_1
theorem dksX2_join_0 : cX2_join.data.toList.drop 0 = dktX2_join_0 := by decide +kernel
theorem dksX2_join_1 : cX2_join.data.toList.drop 24 = dktX2_join_1 := dk_seg dksX2_join_0 24 rfl rfl
theorem dX2_join_0 : decode cX2_join 0 = .ok (.aload_n 0, 1) := dk_42 (dk_at dksX2_join_0 0 rfl rfl)
theorem dX2_join_1 : decode cX2_join 1 = .ok (.iload_n 1, 1) := dk_27 (dk_at dksX2_join_0 1 rfl rfl)
theorem dX2_join_2 : decode cX2_join 2 = .ok (.invokevirtual 121, 3) := dk_182 0 121 (dk_at dksX2_join_0 2 rfl rfl)
theorem dX2_join_5 : decode cX2_join 5 = .ok (.aload_n 0, 1) := dk_42 (dk_at dksX2_join_0 5 rfl rfl)
theorem dX2_join_6 : decode cX2_join 6 = .ok (.iload_n 2, 1) := dk_28 (dk_at dksX2_join_0 6 rfl rfl)
theorem dX2_join_7 : decode cX2_join 7 = .ok (.invokevirtual 121, 3) := dk_182 0 121 (dk_at dksX2_join_0 7 rfl rfl)
theorem dX2_join_10 : decode cX2_join 10 = .ok (.aload_n 0, 1) := dk_42 (dk_at dksX2_join_0 10 rfl rfl)
theorem dX2_join_11 : decode cX2_join 11 = .ok (.getfield 19, 3) := dk_180 0 19 (dk_at dksX2_join_0 11 rfl rfl)
theorem dX2_join_14 : decode cX2_join 14 = .ok (.iload_n 1, 1) := dk_27 (dk_at dksX2_join_0 14 rfl rfl)
theorem dX2_join_15 : decode cX2_join 15 = .ok (.iload_n 2, 1) := dk_28 (dk_at dksX2_join_0 15 rfl rfl)
theorem dX2_join_16 : decode cX2_join 16 = .ok (.iastore, 1) := dk_79 (dk_at dksX2_join_0 16 rfl rfl)
theorem dX2_join_17 : decode cX2_join 17 = .ok (.aload_n 0, 1) := dk_42 (dk_at dksX2_join_0 17 rfl rfl)
theorem dX2_join_18 : decode cX2_join 18 = .ok (.getfield 19, 3) := dk_180 0 19 (dk_at dksX2_join_0 18 rfl rfl)
theorem dX2_join_21 : decode cX2_join 21 = .ok (.iload_n 2, 1) := dk_28 (dk_at dksX2_join_0 21 rfl rfl)
theorem dX2_join_22 : decode cX2_join 22 = .ok (.iload_n 1, 1) := dk_27 (dk_at dksX2_join_0 22 rfl rfl)
theorem dX2_join_23 : decode cX2_join 23 = .ok (.iastore, 1) := dk_79 (dk_at dksX2_join_0 23 rfl rfl)
theorem dX2_join_24 : decode cX2_join 24 = .ok (.return_, 1) := dk_177 (dk_at dksX2_join_1 0 rfl rfl)
abbrev cX2_goDays : ByteArray := prog_12_method_21_code
def yX2_goDays : MethodName := ⟨RX2, "goDays", "(I)V"⟩
def dkwX2_goDays_0 : List UInt8 := [3, 61, 28, 27, 162, 0, 17, 42, 16, 247, 16, 247, 182, 0, 117, 132, 2, 1, 167, 255, 240, 177]
abbrev dktX2_goDays_0 : List UInt8 := dkwX2_goDays_0 ++ []
theorem dksX2_goDays_0 : cX2_goDays.data.toList.drop 0 = dktX2_goDays_0 := by decide +kernel
theorem dX2_goDays_0 : decode cX2_goDays 0 = .ok (.iconst 0, 1) := dk_3 (dk_at dksX2_goDays_0 0 rfl rfl)
theorem dX2_goDays_1 : decode cX2_goDays 1 = .ok (.istore_n 2, 1) := dk_61 (dk_at dksX2_goDays_0 1 rfl rfl)
theorem dX2_goDays_2 : decode cX2_goDays 2 = .ok (.iload_n 2, 1) := dk_28 (dk_at dksX2_goDays_0 2 rfl rfl)
theorem dX2_goDays_3 : decode cX2_goDays 3 = .ok (.iload_n 1, 1) := dk_27 (dk_at dksX2_goDays_0 3 rfl rfl)
theorem dX2_goDays_4 : decode cX2_goDays 4 = .ok (.if_icmp .ge 17, 3) := dk_162 0 17 (dk_at dksX2_goDays_0 4 rfl rfl)
theorem dX2_goDays_7 : decode cX2_goDays 7 = .ok (.aload_n 0, 1) := dk_42 (dk_at dksX2_goDays_0 7 rfl rfl)
theorem dX2_goDays_8 : decode cX2_goDays 8 = .ok (.bipush (-9), 2) := dk_16 247 (dk_at dksX2_goDays_0 8 rfl rfl)
theorem dX2_goDays_10 : decode cX2_goDays 10 = .ok (.bipush (-9), 2) := dk_16 247 (dk_at dksX2_goDays_0 10 rfl rfl)
theorem dX2_goDays_12 : decode cX2_goDays 12 = .ok (.invokevirtual 117, 3) := dk_182 0 117 (dk_at dksX2_goDays_0 12 rfl rfl)
theorem dX2_goDays_15 : decode cX2_goDays 15 = .ok (.iinc 2 1, 3) := dk_132 2 1 (dk_at dksX2_goDays_0 15 rfl rfl)
theorem dX2_goDays_18 : decode cX2_goDays 18 = .ok (.goto (-16), 3) := dk_167 255 240 (dk_at dksX2_goDays_0 18 rfl rfl)
theorem dX2_goDays_21 : decode cX2_goDays 21 = .ok (.return_, 1) := dk_177 (dk_at dksX2_goDays_0 21 rfl rfl)
abbrev cX2_dayBy : ByteArray := prog_12_method_20_code
def yX2_dayBy : MethodName := ⟨RX2, "dayBy", "(II)V"⟩
def dkwX2_dayBy_5 : List UInt8 := [28, 21, 5, 21, 6, 182, 0, 109, 182, 0, 113, 132, 3, 1, 167, 255, 137, 177]
abbrev dktX2_dayBy_5 : List UInt8 := dkwX2_dayBy_5 ++ []
def dkwX2_dayBy_4 : List UInt8 := [182, 0, 109, 182, 0, 113, 132, 7, 1, 167, 255, 227, 28, 155, 0, 22, 42, 29, 21, 4, 42, 29, 21, 4]
abbrev dktX2_dayBy_4 : List UInt8 := dkwX2_dayBy_4 ++ dktX2_dayBy_5
def dkwX2_dayBy_3 : List UInt8 := [54, 7, 21, 7, 8, 162, 0, 29, 42, 29, 21, 4, 42, 29, 21, 4, 21, 7, 21, 5, 21, 6]
abbrev dktX2_dayBy_3 : List UInt8 := dkwX2_dayBy_3 ++ dktX2_dayBy_4
def dkwX2_dayBy_2 : List UInt8 := [46, 54, 5, 21, 4, 27, 160, 0, 7, 3, 167, 0, 10, 42, 180, 0, 16, 21, 4, 46, 54, 6, 3]
abbrev dktX2_dayBy_2 : List UInt8 := dkwX2_dayBy_2 ++ dktX2_dayBy_3
def dkwX2_dayBy_1 : List UInt8 := [29, 46, 54, 4, 21, 4, 29, 164, 0, 97, 29, 27, 160, 0, 7, 3, 167, 0, 9, 42, 180, 0, 16, 29]
abbrev dktX2_dayBy_1 : List UInt8 := dkwX2_dayBy_1 ++ dktX2_dayBy_2
def dkwX2_dayBy_0 : List UInt8 := [42, 89, 180, 0, 106, 4, 96, 181, 0, 106, 3, 62, 29, 42, 180, 0, 68, 162, 0, 117, 42, 180, 0, 19]
abbrev dktX2_dayBy_0 : List UInt8 := dkwX2_dayBy_0 ++ dktX2_dayBy_1
theorem dksX2_dayBy_0 : cX2_dayBy.data.toList.drop 0 = dktX2_dayBy_0 := by decide +kernel
theorem dksX2_dayBy_1 : cX2_dayBy.data.toList.drop 24 = dktX2_dayBy_1 := dk_seg dksX2_dayBy_0 24 rfl rfl
theorem dksX2_dayBy_2 : cX2_dayBy.data.toList.drop 48 = dktX2_dayBy_2 := dk_seg dksX2_dayBy_1 24 rfl rfl
theorem dksX2_dayBy_3 : cX2_dayBy.data.toList.drop 71 = dktX2_dayBy_3 := dk_seg dksX2_dayBy_2 23 rfl rfl
theorem dksX2_dayBy_4 : cX2_dayBy.data.toList.drop 93 = dktX2_dayBy_4 := dk_seg dksX2_dayBy_3 22 rfl rfl
theorem dksX2_dayBy_5 : cX2_dayBy.data.toList.drop 117 = dktX2_dayBy_5 := dk_seg dksX2_dayBy_4 24 rfl rfl
theorem dX2_dayBy_0 : decode cX2_dayBy 0 = .ok (.aload_n 0, 1) := dk_42 (dk_at dksX2_dayBy_0 0 rfl rfl)
theorem dX2_dayBy_1 : decode cX2_dayBy 1 = .ok (.dup, 1) := dk_89 (dk_at dksX2_dayBy_0 1 rfl rfl)
theorem dX2_dayBy_2 : decode cX2_dayBy 2 = .ok (.getfield 106, 3) := dk_180 0 106 (dk_at dksX2_dayBy_0 2 rfl rfl)
theorem dX2_dayBy_5 : decode cX2_dayBy 5 = .ok (.iconst 1, 1) := dk_4 (dk_at dksX2_dayBy_0 5 rfl rfl)
theorem dX2_dayBy_6 : decode cX2_dayBy 6 = .ok (.iadd, 1) := dk_96 (dk_at dksX2_dayBy_0 6 rfl rfl)
theorem dX2_dayBy_7 : decode cX2_dayBy 7 = .ok (.putfield 106, 3) := dk_181 0 106 (dk_at dksX2_dayBy_0 7 rfl rfl)
theorem dX2_dayBy_10 : decode cX2_dayBy 10 = .ok (.iconst 0, 1) := dk_3 (dk_at dksX2_dayBy_0 10 rfl rfl)
theorem dX2_dayBy_11 : decode cX2_dayBy 11 = .ok (.istore_n 3, 1) := dk_62 (dk_at dksX2_dayBy_0 11 rfl rfl)
theorem dX2_dayBy_12 : decode cX2_dayBy 12 = .ok (.iload_n 3, 1) := dk_29 (dk_at dksX2_dayBy_0 12 rfl rfl)
theorem dX2_dayBy_13 : decode cX2_dayBy 13 = .ok (.aload_n 0, 1) := dk_42 (dk_at dksX2_dayBy_0 13 rfl rfl)
theorem dX2_dayBy_14 : decode cX2_dayBy 14 = .ok (.getfield 68, 3) := dk_180 0 68 (dk_at dksX2_dayBy_0 14 rfl rfl)
theorem dX2_dayBy_17 : decode cX2_dayBy 17 = .ok (.if_icmp .ge 117, 3) := dk_162 0 117 (dk_at dksX2_dayBy_0 17 rfl rfl)
theorem dX2_dayBy_20 : decode cX2_dayBy 20 = .ok (.aload_n 0, 1) := dk_42 (dk_at dksX2_dayBy_0 20 rfl rfl)
theorem dX2_dayBy_21 : decode cX2_dayBy 21 = .ok (.getfield 19, 3) := dk_180 0 19 (dk_at dksX2_dayBy_0 21 rfl rfl)
theorem dX2_dayBy_24 : decode cX2_dayBy 24 = .ok (.iload_n 3, 1) := dk_29 (dk_at dksX2_dayBy_1 0 rfl rfl)
theorem dX2_dayBy_25 : decode cX2_dayBy 25 = .ok (.iaload, 1) := dk_46 (dk_at dksX2_dayBy_1 1 rfl rfl)
theorem dX2_dayBy_26 : decode cX2_dayBy 26 = .ok (.istore 4, 2) := dk_54 4 (dk_at dksX2_dayBy_1 2 rfl rfl)
theorem dX2_dayBy_28 : decode cX2_dayBy 28 = .ok (.iload 4, 2) := dk_21 4 (dk_at dksX2_dayBy_1 4 rfl rfl)
theorem dX2_dayBy_30 : decode cX2_dayBy 30 = .ok (.iload_n 3, 1) := dk_29 (dk_at dksX2_dayBy_1 6 rfl rfl)
theorem dX2_dayBy_31 : decode cX2_dayBy 31 = .ok (.if_icmp .le 97, 3) := dk_164 0 97 (dk_at dksX2_dayBy_1 7 rfl rfl)
theorem dX2_dayBy_34 : decode cX2_dayBy 34 = .ok (.iload_n 3, 1) := dk_29 (dk_at dksX2_dayBy_1 10 rfl rfl)
theorem dX2_dayBy_35 : decode cX2_dayBy 35 = .ok (.iload_n 1, 1) := dk_27 (dk_at dksX2_dayBy_1 11 rfl rfl)
theorem dX2_dayBy_36 : decode cX2_dayBy 36 = .ok (.if_icmp .ne 7, 3) := dk_160 0 7 (dk_at dksX2_dayBy_1 12 rfl rfl)
theorem dX2_dayBy_39 : decode cX2_dayBy 39 = .ok (.iconst 0, 1) := dk_3 (dk_at dksX2_dayBy_1 15 rfl rfl)
theorem dX2_dayBy_40 : decode cX2_dayBy 40 = .ok (.goto 9, 3) := dk_167 0 9 (dk_at dksX2_dayBy_1 16 rfl rfl)
theorem dX2_dayBy_43 : decode cX2_dayBy 43 = .ok (.aload_n 0, 1) := dk_42 (dk_at dksX2_dayBy_1 19 rfl rfl)
theorem dX2_dayBy_44 : decode cX2_dayBy 44 = .ok (.getfield 16, 3) := dk_180 0 16 (dk_at dksX2_dayBy_1 20 rfl rfl)
theorem dX2_dayBy_47 : decode cX2_dayBy 47 = .ok (.iload_n 3, 1) := dk_29 (dk_at dksX2_dayBy_1 23 rfl rfl)
theorem dX2_dayBy_48 : decode cX2_dayBy 48 = .ok (.iaload, 1) := dk_46 (dk_at dksX2_dayBy_2 0 rfl rfl)
theorem dX2_dayBy_49 : decode cX2_dayBy 49 = .ok (.istore 5, 2) := dk_54 5 (dk_at dksX2_dayBy_2 1 rfl rfl)
theorem dX2_dayBy_51 : decode cX2_dayBy 51 = .ok (.iload 4, 2) := dk_21 4 (dk_at dksX2_dayBy_2 3 rfl rfl)
theorem dX2_dayBy_53 : decode cX2_dayBy 53 = .ok (.iload_n 1, 1) := dk_27 (dk_at dksX2_dayBy_2 5 rfl rfl)
theorem dX2_dayBy_54 : decode cX2_dayBy 54 = .ok (.if_icmp .ne 7, 3) := dk_160 0 7 (dk_at dksX2_dayBy_2 6 rfl rfl)
theorem dX2_dayBy_57 : decode cX2_dayBy 57 = .ok (.iconst 0, 1) := dk_3 (dk_at dksX2_dayBy_2 9 rfl rfl)
theorem dX2_dayBy_58 : decode cX2_dayBy 58 = .ok (.goto 10, 3) := dk_167 0 10 (dk_at dksX2_dayBy_2 10 rfl rfl)
theorem dX2_dayBy_61 : decode cX2_dayBy 61 = .ok (.aload_n 0, 1) := dk_42 (dk_at dksX2_dayBy_2 13 rfl rfl)
theorem dX2_dayBy_62 : decode cX2_dayBy 62 = .ok (.getfield 16, 3) := dk_180 0 16 (dk_at dksX2_dayBy_2 14 rfl rfl)
theorem dX2_dayBy_65 : decode cX2_dayBy 65 = .ok (.iload 4, 2) := dk_21 4 (dk_at dksX2_dayBy_2 17 rfl rfl)
theorem dX2_dayBy_67 : decode cX2_dayBy 67 = .ok (.iaload, 1) := dk_46 (dk_at dksX2_dayBy_2 19 rfl rfl)
theorem dX2_dayBy_68 : decode cX2_dayBy 68 = .ok (.istore 6, 2) := dk_54 6 (dk_at dksX2_dayBy_2 20 rfl rfl)
theorem dX2_dayBy_70 : decode cX2_dayBy 70 = .ok (.iconst 0, 1) := dk_3 (dk_at dksX2_dayBy_2 22 rfl rfl)
theorem dX2_dayBy_71 : decode cX2_dayBy 71 = .ok (.istore 7, 2) := dk_54 7 (dk_at dksX2_dayBy_3 0 rfl rfl)
theorem dX2_dayBy_73 : decode cX2_dayBy 73 = .ok (.iload 7, 2) := dk_21 7 (dk_at dksX2_dayBy_3 2 rfl rfl)
theorem dX2_dayBy_75 : decode cX2_dayBy 75 = .ok (.iconst 5, 1) := dk_8 (dk_at dksX2_dayBy_3 4 rfl rfl)
theorem dX2_dayBy_76 : decode cX2_dayBy 76 = .ok (.if_icmp .ge 29, 3) := dk_162 0 29 (dk_at dksX2_dayBy_3 5 rfl rfl)
theorem dX2_dayBy_79 : decode cX2_dayBy 79 = .ok (.aload_n 0, 1) := dk_42 (dk_at dksX2_dayBy_3 8 rfl rfl)
theorem dX2_dayBy_80 : decode cX2_dayBy 80 = .ok (.iload_n 3, 1) := dk_29 (dk_at dksX2_dayBy_3 9 rfl rfl)
theorem dX2_dayBy_81 : decode cX2_dayBy 81 = .ok (.iload 4, 2) := dk_21 4 (dk_at dksX2_dayBy_3 10 rfl rfl)
theorem dX2_dayBy_83 : decode cX2_dayBy 83 = .ok (.aload_n 0, 1) := dk_42 (dk_at dksX2_dayBy_3 12 rfl rfl)
theorem dX2_dayBy_84 : decode cX2_dayBy 84 = .ok (.iload_n 3, 1) := dk_29 (dk_at dksX2_dayBy_3 13 rfl rfl)
theorem dX2_dayBy_85 : decode cX2_dayBy 85 = .ok (.iload 4, 2) := dk_21 4 (dk_at dksX2_dayBy_3 14 rfl rfl)
theorem dX2_dayBy_87 : decode cX2_dayBy 87 = .ok (.iload 7, 2) := dk_21 7 (dk_at dksX2_dayBy_3 16 rfl rfl)
theorem dX2_dayBy_89 : decode cX2_dayBy 89 = .ok (.iload 5, 2) := dk_21 5 (dk_at dksX2_dayBy_3 18 rfl rfl)
theorem dX2_dayBy_91 : decode cX2_dayBy 91 = .ok (.iload 6, 2) := dk_21 6 (dk_at dksX2_dayBy_3 20 rfl rfl)
theorem dX2_dayBy_93 : decode cX2_dayBy 93 = .ok (.invokevirtual 109, 3) := dk_182 0 109 (dk_at dksX2_dayBy_4 0 rfl rfl)
theorem dX2_dayBy_96 : decode cX2_dayBy 96 = .ok (.invokevirtual 113, 3) := dk_182 0 113 (dk_at dksX2_dayBy_4 3 rfl rfl)
theorem dX2_dayBy_99 : decode cX2_dayBy 99 = .ok (.iinc 7 1, 3) := dk_132 7 1 (dk_at dksX2_dayBy_4 6 rfl rfl)
theorem dX2_dayBy_102 : decode cX2_dayBy 102 = .ok (.goto (-29), 3) := dk_167 255 227 (dk_at dksX2_dayBy_4 9 rfl rfl)
theorem dX2_dayBy_105 : decode cX2_dayBy 105 = .ok (.iload_n 2, 1) := dk_28 (dk_at dksX2_dayBy_4 12 rfl rfl)
theorem dX2_dayBy_106 : decode cX2_dayBy 106 = .ok (.ifCond .lt 22, 3) := dk_155 0 22 (dk_at dksX2_dayBy_4 13 rfl rfl)
theorem dX2_dayBy_109 : decode cX2_dayBy 109 = .ok (.aload_n 0, 1) := dk_42 (dk_at dksX2_dayBy_4 16 rfl rfl)
theorem dX2_dayBy_110 : decode cX2_dayBy 110 = .ok (.iload_n 3, 1) := dk_29 (dk_at dksX2_dayBy_4 17 rfl rfl)
theorem dX2_dayBy_111 : decode cX2_dayBy 111 = .ok (.iload 4, 2) := dk_21 4 (dk_at dksX2_dayBy_4 18 rfl rfl)
theorem dX2_dayBy_113 : decode cX2_dayBy 113 = .ok (.aload_n 0, 1) := dk_42 (dk_at dksX2_dayBy_4 20 rfl rfl)
theorem dX2_dayBy_114 : decode cX2_dayBy 114 = .ok (.iload_n 3, 1) := dk_29 (dk_at dksX2_dayBy_4 21 rfl rfl)
theorem dX2_dayBy_115 : decode cX2_dayBy 115 = .ok (.iload 4, 2) := dk_21 4 (dk_at dksX2_dayBy_4 22 rfl rfl)
theorem dX2_dayBy_117 : decode cX2_dayBy 117 = .ok (.iload_n 2, 1) := dk_28 (dk_at dksX2_dayBy_5 0 rfl rfl)
theorem dX2_dayBy_118 : decode cX2_dayBy 118 = .ok (.iload 5, 2) := dk_21 5 (dk_at dksX2_dayBy_5 1 rfl rfl)
theorem dX2_dayBy_120 : decode cX2_dayBy 120 = .ok (.iload 6, 2) := dk_21 6 (dk_at dksX2_dayBy_5 3 rfl rfl)
theorem dX2_dayBy_122 : decode cX2_dayBy 122 = .ok (.invokevirtual 109, 3) := dk_182 0 109 (dk_at dksX2_dayBy_5 5 rfl rfl)
theorem dX2_dayBy_125 : decode cX2_dayBy 125 = .ok (.invokevirtual 113, 3) := dk_182 0 113 (dk_at dksX2_dayBy_5 8 rfl rfl)
theorem dX2_dayBy_128 : decode cX2_dayBy 128 = .ok (.iinc 3 1, 3) := dk_132 3 1 (dk_at dksX2_dayBy_5 11 rfl rfl)
theorem dX2_dayBy_131 : decode cX2_dayBy 131 = .ok (.goto (-119), 3) := dk_167 255 137 (dk_at dksX2_dayBy_5 14 rfl rfl)
theorem dX2_dayBy_134 : decode cX2_dayBy 134 = .ok (.return_, 1) := dk_177 (dk_at dksX2_dayBy_5 17 rfl rfl)
abbrev cX2_behindHour : ByteArray := prog_12_method_19_code
def yX2_behindHour : MethodName := ⟨RX2, "behindHour", "(IIIII)I"⟩
def dkwX2_behindHour_3 : List UInt8 := [21, 7, 153, 0, 13, 21, 8, 42, 28, 182, 0, 100, 96, 54, 8, 21, 8, 16, 99, 184, 0, 103, 172]
abbrev dktX2_behindHour_3 : List UInt8 := dkwX2_behindHour_3 ++ []
def dkwX2_behindHour_2 : List UInt8 := [54, 8, 167, 0, 36, 21, 6, 153, 0, 16, 21, 8, 42, 27, 182, 0, 100, 96, 54, 8, 167, 0, 18]
abbrev dktX2_behindHour_2 : List UInt8 := dkwX2_behindHour_2 ++ dktX2_behindHour_3
def dkwX2_behindHour_1 : List UInt8 := [21, 6, 153, 0, 27, 21, 7, 153, 0, 22, 21, 8, 42, 27, 182, 0, 97, 42, 28, 182, 0, 97, 96, 100]
abbrev dktX2_behindHour_1 : List UInt8 := dkwX2_behindHour_1 ++ dktX2_behindHour_2
def dkwX2_behindHour_0 : List UInt8 := [21, 4, 29, 184, 0, 93, 54, 6, 21, 5, 29, 184, 0, 93, 54, 7, 42, 27, 28, 182, 0, 79, 54, 8]
abbrev dktX2_behindHour_0 : List UInt8 := dkwX2_behindHour_0 ++ dktX2_behindHour_1
theorem dksX2_behindHour_0 : cX2_behindHour.data.toList.drop 0 = dktX2_behindHour_0 := by decide +kernel
theorem dksX2_behindHour_1 : cX2_behindHour.data.toList.drop 24 = dktX2_behindHour_1 := dk_seg dksX2_behindHour_0 24 rfl rfl
theorem dksX2_behindHour_2 : cX2_behindHour.data.toList.drop 48 = dktX2_behindHour_2 := dk_seg dksX2_behindHour_1 24 rfl rfl
theorem dksX2_behindHour_3 : cX2_behindHour.data.toList.drop 71 = dktX2_behindHour_3 := dk_seg dksX2_behindHour_2 23 rfl rfl
theorem dX2_behindHour_0 : decode cX2_behindHour 0 = .ok (.iload 4, 2) := dk_21 4 (dk_at dksX2_behindHour_0 0 rfl rfl)
theorem dX2_behindHour_2 : decode cX2_behindHour 2 = .ok (.iload_n 3, 1) := dk_29 (dk_at dksX2_behindHour_0 2 rfl rfl)
theorem dX2_behindHour_3 : decode cX2_behindHour 3 = .ok (.invokestatic 93, 3) := dk_184 0 93 (dk_at dksX2_behindHour_0 3 rfl rfl)
theorem dX2_behindHour_6 : decode cX2_behindHour 6 = .ok (.istore 6, 2) := dk_54 6 (dk_at dksX2_behindHour_0 6 rfl rfl)
theorem dX2_behindHour_8 : decode cX2_behindHour 8 = .ok (.iload 5, 2) := dk_21 5 (dk_at dksX2_behindHour_0 8 rfl rfl)
theorem dX2_behindHour_10 : decode cX2_behindHour 10 = .ok (.iload_n 3, 1) := dk_29 (dk_at dksX2_behindHour_0 10 rfl rfl)
theorem dX2_behindHour_11 : decode cX2_behindHour 11 = .ok (.invokestatic 93, 3) := dk_184 0 93 (dk_at dksX2_behindHour_0 11 rfl rfl)
theorem dX2_behindHour_14 : decode cX2_behindHour 14 = .ok (.istore 7, 2) := dk_54 7 (dk_at dksX2_behindHour_0 14 rfl rfl)
theorem dX2_behindHour_16 : decode cX2_behindHour 16 = .ok (.aload_n 0, 1) := dk_42 (dk_at dksX2_behindHour_0 16 rfl rfl)
theorem dX2_behindHour_17 : decode cX2_behindHour 17 = .ok (.iload_n 1, 1) := dk_27 (dk_at dksX2_behindHour_0 17 rfl rfl)
theorem dX2_behindHour_18 : decode cX2_behindHour 18 = .ok (.iload_n 2, 1) := dk_28 (dk_at dksX2_behindHour_0 18 rfl rfl)
theorem dX2_behindHour_19 : decode cX2_behindHour 19 = .ok (.invokevirtual 79, 3) := dk_182 0 79 (dk_at dksX2_behindHour_0 19 rfl rfl)
theorem dX2_behindHour_22 : decode cX2_behindHour 22 = .ok (.istore 8, 2) := dk_54 8 (dk_at dksX2_behindHour_0 22 rfl rfl)
theorem dX2_behindHour_24 : decode cX2_behindHour 24 = .ok (.iload 6, 2) := dk_21 6 (dk_at dksX2_behindHour_1 0 rfl rfl)
theorem dX2_behindHour_26 : decode cX2_behindHour 26 = .ok (.ifCond .eq 27, 3) := dk_153 0 27 (dk_at dksX2_behindHour_1 2 rfl rfl)
theorem dX2_behindHour_29 : decode cX2_behindHour 29 = .ok (.iload 7, 2) := dk_21 7 (dk_at dksX2_behindHour_1 5 rfl rfl)
theorem dX2_behindHour_31 : decode cX2_behindHour 31 = .ok (.ifCond .eq 22, 3) := dk_153 0 22 (dk_at dksX2_behindHour_1 7 rfl rfl)
theorem dX2_behindHour_34 : decode cX2_behindHour 34 = .ok (.iload 8, 2) := dk_21 8 (dk_at dksX2_behindHour_1 10 rfl rfl)
theorem dX2_behindHour_36 : decode cX2_behindHour 36 = .ok (.aload_n 0, 1) := dk_42 (dk_at dksX2_behindHour_1 12 rfl rfl)
theorem dX2_behindHour_37 : decode cX2_behindHour 37 = .ok (.iload_n 1, 1) := dk_27 (dk_at dksX2_behindHour_1 13 rfl rfl)
theorem dX2_behindHour_38 : decode cX2_behindHour 38 = .ok (.invokevirtual 97, 3) := dk_182 0 97 (dk_at dksX2_behindHour_1 14 rfl rfl)
theorem dX2_behindHour_41 : decode cX2_behindHour 41 = .ok (.aload_n 0, 1) := dk_42 (dk_at dksX2_behindHour_1 17 rfl rfl)
theorem dX2_behindHour_42 : decode cX2_behindHour 42 = .ok (.iload_n 2, 1) := dk_28 (dk_at dksX2_behindHour_1 18 rfl rfl)
theorem dX2_behindHour_43 : decode cX2_behindHour 43 = .ok (.invokevirtual 97, 3) := dk_182 0 97 (dk_at dksX2_behindHour_1 19 rfl rfl)
theorem dX2_behindHour_46 : decode cX2_behindHour 46 = .ok (.iadd, 1) := dk_96 (dk_at dksX2_behindHour_1 22 rfl rfl)
theorem dX2_behindHour_47 : decode cX2_behindHour 47 = .ok (.isub, 1) := dk_100 (dk_at dksX2_behindHour_1 23 rfl rfl)
theorem dX2_behindHour_48 : decode cX2_behindHour 48 = .ok (.istore 8, 2) := dk_54 8 (dk_at dksX2_behindHour_2 0 rfl rfl)
theorem dX2_behindHour_50 : decode cX2_behindHour 50 = .ok (.goto 36, 3) := dk_167 0 36 (dk_at dksX2_behindHour_2 2 rfl rfl)
theorem dX2_behindHour_53 : decode cX2_behindHour 53 = .ok (.iload 6, 2) := dk_21 6 (dk_at dksX2_behindHour_2 5 rfl rfl)
theorem dX2_behindHour_55 : decode cX2_behindHour 55 = .ok (.ifCond .eq 16, 3) := dk_153 0 16 (dk_at dksX2_behindHour_2 7 rfl rfl)
theorem dX2_behindHour_58 : decode cX2_behindHour 58 = .ok (.iload 8, 2) := dk_21 8 (dk_at dksX2_behindHour_2 10 rfl rfl)
theorem dX2_behindHour_60 : decode cX2_behindHour 60 = .ok (.aload_n 0, 1) := dk_42 (dk_at dksX2_behindHour_2 12 rfl rfl)
theorem dX2_behindHour_61 : decode cX2_behindHour 61 = .ok (.iload_n 1, 1) := dk_27 (dk_at dksX2_behindHour_2 13 rfl rfl)
theorem dX2_behindHour_62 : decode cX2_behindHour 62 = .ok (.invokevirtual 100, 3) := dk_182 0 100 (dk_at dksX2_behindHour_2 14 rfl rfl)
theorem dX2_behindHour_65 : decode cX2_behindHour 65 = .ok (.iadd, 1) := dk_96 (dk_at dksX2_behindHour_2 17 rfl rfl)
theorem dX2_behindHour_66 : decode cX2_behindHour 66 = .ok (.istore 8, 2) := dk_54 8 (dk_at dksX2_behindHour_2 18 rfl rfl)
theorem dX2_behindHour_68 : decode cX2_behindHour 68 = .ok (.goto 18, 3) := dk_167 0 18 (dk_at dksX2_behindHour_2 20 rfl rfl)
theorem dX2_behindHour_71 : decode cX2_behindHour 71 = .ok (.iload 7, 2) := dk_21 7 (dk_at dksX2_behindHour_3 0 rfl rfl)
theorem dX2_behindHour_73 : decode cX2_behindHour 73 = .ok (.ifCond .eq 13, 3) := dk_153 0 13 (dk_at dksX2_behindHour_3 2 rfl rfl)
theorem dX2_behindHour_76 : decode cX2_behindHour 76 = .ok (.iload 8, 2) := dk_21 8 (dk_at dksX2_behindHour_3 5 rfl rfl)
theorem dX2_behindHour_78 : decode cX2_behindHour 78 = .ok (.aload_n 0, 1) := dk_42 (dk_at dksX2_behindHour_3 7 rfl rfl)
theorem dX2_behindHour_79 : decode cX2_behindHour 79 = .ok (.iload_n 2, 1) := dk_28 (dk_at dksX2_behindHour_3 8 rfl rfl)
theorem dX2_behindHour_80 : decode cX2_behindHour 80 = .ok (.invokevirtual 100, 3) := dk_182 0 100 (dk_at dksX2_behindHour_3 9 rfl rfl)
theorem dX2_behindHour_83 : decode cX2_behindHour 83 = .ok (.iadd, 1) := dk_96 (dk_at dksX2_behindHour_3 12 rfl rfl)
theorem dX2_behindHour_84 : decode cX2_behindHour 84 = .ok (.istore 8, 2) := dk_54 8 (dk_at dksX2_behindHour_3 13 rfl rfl)
theorem dX2_behindHour_86 : decode cX2_behindHour 86 = .ok (.iload 8, 2) := dk_21 8 (dk_at dksX2_behindHour_3 15 rfl rfl)
theorem dX2_behindHour_88 : decode cX2_behindHour 88 = .ok (.bipush 99, 2) := dk_16 99 (dk_at dksX2_behindHour_3 17 rfl rfl)
theorem dX2_behindHour_90 : decode cX2_behindHour 90 = .ok (.invokestatic 103, 3) := dk_184 0 103 (dk_at dksX2_behindHour_3 19 rfl rfl)
theorem dX2_behindHour_93 : decode cX2_behindHour 93 = .ok (.ireturn, 1) := dk_172 (dk_at dksX2_behindHour_3 22 rfl rfl)
abbrev cX2_hasBit : ByteArray := prog_12_method_9_code
def yX2_hasBit : MethodName := ⟨RX2, "hasBit", "(II)Z"⟩
def dkwX2_hasBit_0 : List UInt8 := [26, 27, 122, 4, 126, 4, 160, 0, 7, 4, 167, 0, 4, 3, 172]
abbrev dktX2_hasBit_0 : List UInt8 := dkwX2_hasBit_0 ++ []
theorem dksX2_hasBit_0 : cX2_hasBit.data.toList.drop 0 = dktX2_hasBit_0 := by decide +kernel
theorem dX2_hasBit_0 : decode cX2_hasBit 0 = .ok (.iload_n 0, 1) := dk_26 (dk_at dksX2_hasBit_0 0 rfl rfl)
theorem dX2_hasBit_1 : decode cX2_hasBit 1 = .ok (.iload_n 1, 1) := dk_27 (dk_at dksX2_hasBit_0 1 rfl rfl)
theorem dX2_hasBit_2 : decode cX2_hasBit 2 = .ok (.ishr, 1) := dk_122 (dk_at dksX2_hasBit_0 2 rfl rfl)
theorem dX2_hasBit_3 : decode cX2_hasBit 3 = .ok (.iconst 1, 1) := dk_4 (dk_at dksX2_hasBit_0 3 rfl rfl)
theorem dX2_hasBit_4 : decode cX2_hasBit 4 = .ok (.iand, 1) := dk_126 (dk_at dksX2_hasBit_0 4 rfl rfl)
theorem dX2_hasBit_5 : decode cX2_hasBit 5 = .ok (.iconst 1, 1) := dk_4 (dk_at dksX2_hasBit_0 5 rfl rfl)
theorem dX2_hasBit_6 : decode cX2_hasBit 6 = .ok (.if_icmp .ne 7, 3) := dk_160 0 7 (dk_at dksX2_hasBit_0 6 rfl rfl)
theorem dX2_hasBit_9 : decode cX2_hasBit 9 = .ok (.iconst 1, 1) := dk_4 (dk_at dksX2_hasBit_0 9 rfl rfl)
theorem dX2_hasBit_10 : decode cX2_hasBit 10 = .ok (.goto 4, 3) := dk_167 0 4 (dk_at dksX2_hasBit_0 10 rfl rfl)
theorem dX2_hasBit_13 : decode cX2_hasBit 13 = .ok (.iconst 0, 1) := dk_3 (dk_at dksX2_hasBit_0 13 rfl rfl)
theorem dX2_hasBit_14 : decode cX2_hasBit 14 = .ok (.ireturn, 1) := dk_172 (dk_at dksX2_hasBit_0 14 rfl rfl)
abbrev cX2_quarrelOf : ByteArray := prog_12_method_15_code
def yX2_quarrelOf : MethodName := ⟨RX2, "quarrelOf", "(II)I"⟩
def dkwX2_quarrelOf_0 : List UInt8 := [42, 180, 0, 22, 16, 6, 27, 104, 28, 96, 46, 172]
abbrev dktX2_quarrelOf_0 : List UInt8 := dkwX2_quarrelOf_0 ++ []
theorem dksX2_quarrelOf_0 : cX2_quarrelOf.data.toList.drop 0 = dktX2_quarrelOf_0 := by decide +kernel
theorem dX2_quarrelOf_0 : decode cX2_quarrelOf 0 = .ok (.aload_n 0, 1) := dk_42 (dk_at dksX2_quarrelOf_0 0 rfl rfl)
theorem dX2_quarrelOf_1 : decode cX2_quarrelOf 1 = .ok (.getfield 22, 3) := dk_180 0 22 (dk_at dksX2_quarrelOf_0 1 rfl rfl)
theorem dX2_quarrelOf_4 : decode cX2_quarrelOf 4 = .ok (.bipush 6, 2) := dk_16 6 (dk_at dksX2_quarrelOf_0 4 rfl rfl)
theorem dX2_quarrelOf_6 : decode cX2_quarrelOf 6 = .ok (.iload_n 1, 1) := dk_27 (dk_at dksX2_quarrelOf_0 6 rfl rfl)
theorem dX2_quarrelOf_7 : decode cX2_quarrelOf 7 = .ok (.imul, 1) := dk_104 (dk_at dksX2_quarrelOf_0 7 rfl rfl)
theorem dX2_quarrelOf_8 : decode cX2_quarrelOf 8 = .ok (.iload_n 2, 1) := dk_28 (dk_at dksX2_quarrelOf_0 8 rfl rfl)
theorem dX2_quarrelOf_9 : decode cX2_quarrelOf 9 = .ok (.iadd, 1) := dk_96 (dk_at dksX2_quarrelOf_0 9 rfl rfl)
theorem dX2_quarrelOf_10 : decode cX2_quarrelOf 10 = .ok (.iaload, 1) := dk_46 (dk_at dksX2_quarrelOf_0 10 rfl rfl)
theorem dX2_quarrelOf_11 : decode cX2_quarrelOf 11 = .ok (.ireturn, 1) := dk_172 (dk_at dksX2_quarrelOf_0 11 rfl rfl)
abbrev cX2_softOf : ByteArray := prog_12_method_12_code
def yX2_softOf : MethodName := ⟨RX2, "softOf", "(I)I"⟩
def dkwX2_softOf_3 : List UInt8 := [7, 172, 4, 172]
abbrev dktX2_softOf_3 : List UInt8 := dkwX2_softOf_3 ++ []
def dkwX2_softOf_2 : List UInt8 := [42, 180, 0, 13, 27, 46, 8, 108, 172, 6, 172, 5, 172, 42, 180, 0, 13, 27, 46, 8, 108, 4, 96, 172]
abbrev dktX2_softOf_2 : List UInt8 := dkwX2_softOf_2 ++ dktX2_softOf_3
def dkwX2_softOf_1 : List UInt8 := [170, 0, 0, 0, 0, 60, 0, 0, 0, 1, 0, 0, 0, 5, 0, 0, 0, 34, 0, 0, 0, 43, 0, 0, 0, 45, 0, 0, 0, 47, 0, 0, 0, 58]
abbrev dktX2_softOf_1 : List UInt8 := dkwX2_softOf_1 ++ dktX2_softOf_2
def dkwX2_softOf_0 : List UInt8 := [42, 180, 0, 7, 27, 46]
abbrev dktX2_softOf_0 : List UInt8 := dkwX2_softOf_0 ++ dktX2_softOf_1
theorem dksX2_softOf_0 : cX2_softOf.data.toList.drop 0 = dktX2_softOf_0 := by decide +kernel
theorem dksX2_softOf_1 : cX2_softOf.data.toList.drop 6 = dktX2_softOf_1 := dk_seg dksX2_softOf_0 6 rfl rfl
theorem dksX2_softOf_2 : cX2_softOf.data.toList.drop 40 = dktX2_softOf_2 := dk_seg dksX2_softOf_1 34 rfl rfl
theorem dksX2_softOf_3 : cX2_softOf.data.toList.drop 64 = dktX2_softOf_3 := dk_seg dksX2_softOf_2 24 rfl rfl
theorem dX2_softOf_0 : decode cX2_softOf 0 = .ok (.aload_n 0, 1) := dk_42 (dk_at dksX2_softOf_0 0 rfl rfl)
theorem dX2_softOf_1 : decode cX2_softOf 1 = .ok (.getfield 7, 3) := dk_180 0 7 (dk_at dksX2_softOf_0 1 rfl rfl)
theorem dX2_softOf_4 : decode cX2_softOf 4 = .ok (.iload_n 1, 1) := dk_27 (dk_at dksX2_softOf_0 4 rfl rfl)
theorem dX2_softOf_5 : decode cX2_softOf 5 = .ok (.iaload, 1) := dk_46 (dk_at dksX2_softOf_0 5 rfl rfl)
theorem dX2_softOf_6 : decode cX2_softOf 6 = .ok (.tableswitch 60 1 5 #[34, 43, 45, 47, 58], 34) := by decide +kernel
theorem dX2_softOf_40 : decode cX2_softOf 40 = .ok (.aload_n 0, 1) := dk_42 (dk_at dksX2_softOf_2 0 rfl rfl)
theorem dX2_softOf_41 : decode cX2_softOf 41 = .ok (.getfield 13, 3) := dk_180 0 13 (dk_at dksX2_softOf_2 1 rfl rfl)
theorem dX2_softOf_44 : decode cX2_softOf 44 = .ok (.iload_n 1, 1) := dk_27 (dk_at dksX2_softOf_2 4 rfl rfl)
theorem dX2_softOf_45 : decode cX2_softOf 45 = .ok (.iaload, 1) := dk_46 (dk_at dksX2_softOf_2 5 rfl rfl)
theorem dX2_softOf_46 : decode cX2_softOf 46 = .ok (.iconst 5, 1) := dk_8 (dk_at dksX2_softOf_2 6 rfl rfl)
theorem dX2_softOf_47 : decode cX2_softOf 47 = .ok (.idiv, 1) := dk_108 (dk_at dksX2_softOf_2 7 rfl rfl)
theorem dX2_softOf_48 : decode cX2_softOf 48 = .ok (.ireturn, 1) := dk_172 (dk_at dksX2_softOf_2 8 rfl rfl)
theorem dX2_softOf_49 : decode cX2_softOf 49 = .ok (.iconst 3, 1) := dk_6 (dk_at dksX2_softOf_2 9 rfl rfl)
theorem dX2_softOf_50 : decode cX2_softOf 50 = .ok (.ireturn, 1) := dk_172 (dk_at dksX2_softOf_2 10 rfl rfl)
theorem dX2_softOf_51 : decode cX2_softOf 51 = .ok (.iconst 2, 1) := dk_5 (dk_at dksX2_softOf_2 11 rfl rfl)
theorem dX2_softOf_52 : decode cX2_softOf 52 = .ok (.ireturn, 1) := dk_172 (dk_at dksX2_softOf_2 12 rfl rfl)
theorem dX2_softOf_53 : decode cX2_softOf 53 = .ok (.aload_n 0, 1) := dk_42 (dk_at dksX2_softOf_2 13 rfl rfl)
theorem dX2_softOf_54 : decode cX2_softOf 54 = .ok (.getfield 13, 3) := dk_180 0 13 (dk_at dksX2_softOf_2 14 rfl rfl)
theorem dX2_softOf_57 : decode cX2_softOf 57 = .ok (.iload_n 1, 1) := dk_27 (dk_at dksX2_softOf_2 17 rfl rfl)
theorem dX2_softOf_58 : decode cX2_softOf 58 = .ok (.iaload, 1) := dk_46 (dk_at dksX2_softOf_2 18 rfl rfl)
theorem dX2_softOf_59 : decode cX2_softOf 59 = .ok (.iconst 5, 1) := dk_8 (dk_at dksX2_softOf_2 19 rfl rfl)
theorem dX2_softOf_60 : decode cX2_softOf 60 = .ok (.idiv, 1) := dk_108 (dk_at dksX2_softOf_2 20 rfl rfl)
theorem dX2_softOf_61 : decode cX2_softOf 61 = .ok (.iconst 1, 1) := dk_4 (dk_at dksX2_softOf_2 21 rfl rfl)
theorem dX2_softOf_62 : decode cX2_softOf 62 = .ok (.iadd, 1) := dk_96 (dk_at dksX2_softOf_2 22 rfl rfl)
theorem dX2_softOf_63 : decode cX2_softOf 63 = .ok (.ireturn, 1) := dk_172 (dk_at dksX2_softOf_2 23 rfl rfl)
theorem dX2_softOf_64 : decode cX2_softOf 64 = .ok (.iconst 4, 1) := dk_7 (dk_at dksX2_softOf_3 0 rfl rfl)
theorem dX2_softOf_65 : decode cX2_softOf 65 = .ok (.ireturn, 1) := dk_172 (dk_at dksX2_softOf_3 1 rfl rfl)
theorem dX2_softOf_66 : decode cX2_softOf 66 = .ok (.iconst 1, 1) := dk_4 (dk_at dksX2_softOf_3 2 rfl rfl)
theorem dX2_softOf_67 : decode cX2_softOf 67 = .ok (.ireturn, 1) := dk_172 (dk_at dksX2_softOf_3 3 rfl rfl)
abbrev cX2_soreOf : ByteArray := prog_12_method_13_code
def yX2_soreOf : MethodName := ⟨RX2, "soreOf", "(I)I"⟩
def dkwX2_soreOf_2 : List UInt8 := [6, 172, 3, 172, 42, 180, 0, 13, 27, 46, 6, 108, 172, 4, 172]
abbrev dktX2_soreOf_2 : List UInt8 := dkwX2_soreOf_2 ++ []
def dkwX2_soreOf_1 : List UInt8 := [170, 0, 0, 0, 0, 47, 0, 0, 0, 1, 0, 0, 0, 5, 0, 0, 0, 34, 0, 0, 0, 36, 0, 0, 0, 38, 0, 0, 0, 47, 0, 0, 0, 38]
abbrev dktX2_soreOf_1 : List UInt8 := dkwX2_soreOf_1 ++ dktX2_soreOf_2
def dkwX2_soreOf_0 : List UInt8 := [42, 180, 0, 7, 27, 46]
abbrev dktX2_soreOf_0 : List UInt8 := dkwX2_soreOf_0 ++ dktX2_soreOf_1
theorem dksX2_soreOf_0 : cX2_soreOf.data.toList.drop 0 = dktX2_soreOf_0 := by decide +kernel
theorem dksX2_soreOf_1 : cX2_soreOf.data.toList.drop 6 = dktX2_soreOf_1 := dk_seg dksX2_soreOf_0 6 rfl rfl
theorem dksX2_soreOf_2 : cX2_soreOf.data.toList.drop 40 = dktX2_soreOf_2 := dk_seg dksX2_soreOf_1 34 rfl rfl
theorem dX2_soreOf_0 : decode cX2_soreOf 0 = .ok (.aload_n 0, 1) := dk_42 (dk_at dksX2_soreOf_0 0 rfl rfl)
theorem dX2_soreOf_1 : decode cX2_soreOf 1 = .ok (.getfield 7, 3) := dk_180 0 7 (dk_at dksX2_soreOf_0 1 rfl rfl)
theorem dX2_soreOf_4 : decode cX2_soreOf 4 = .ok (.iload_n 1, 1) := dk_27 (dk_at dksX2_soreOf_0 4 rfl rfl)
theorem dX2_soreOf_5 : decode cX2_soreOf 5 = .ok (.iaload, 1) := dk_46 (dk_at dksX2_soreOf_0 5 rfl rfl)
theorem dX2_soreOf_6 : decode cX2_soreOf 6 = .ok (.tableswitch 47 1 5 #[34, 36, 38, 47, 38], 34) := by decide +kernel
theorem dX2_soreOf_40 : decode cX2_soreOf 40 = .ok (.iconst 3, 1) := dk_6 (dk_at dksX2_soreOf_2 0 rfl rfl)
theorem dX2_soreOf_41 : decode cX2_soreOf 41 = .ok (.ireturn, 1) := dk_172 (dk_at dksX2_soreOf_2 1 rfl rfl)
theorem dX2_soreOf_42 : decode cX2_soreOf 42 = .ok (.iconst 0, 1) := dk_3 (dk_at dksX2_soreOf_2 2 rfl rfl)
theorem dX2_soreOf_43 : decode cX2_soreOf 43 = .ok (.ireturn, 1) := dk_172 (dk_at dksX2_soreOf_2 3 rfl rfl)
theorem dX2_soreOf_44 : decode cX2_soreOf 44 = .ok (.aload_n 0, 1) := dk_42 (dk_at dksX2_soreOf_2 4 rfl rfl)
theorem dX2_soreOf_45 : decode cX2_soreOf 45 = .ok (.getfield 13, 3) := dk_180 0 13 (dk_at dksX2_soreOf_2 5 rfl rfl)
theorem dX2_soreOf_48 : decode cX2_soreOf 48 = .ok (.iload_n 1, 1) := dk_27 (dk_at dksX2_soreOf_2 8 rfl rfl)
theorem dX2_soreOf_49 : decode cX2_soreOf 49 = .ok (.iaload, 1) := dk_46 (dk_at dksX2_soreOf_2 9 rfl rfl)
theorem dX2_soreOf_50 : decode cX2_soreOf 50 = .ok (.iconst 3, 1) := dk_6 (dk_at dksX2_soreOf_2 10 rfl rfl)
theorem dX2_soreOf_51 : decode cX2_soreOf 51 = .ok (.idiv, 1) := dk_108 (dk_at dksX2_soreOf_2 11 rfl rfl)
theorem dX2_soreOf_52 : decode cX2_soreOf 52 = .ok (.ireturn, 1) := dk_172 (dk_at dksX2_soreOf_2 12 rfl rfl)
theorem dX2_soreOf_53 : decode cX2_soreOf 53 = .ok (.iconst 1, 1) := dk_4 (dk_at dksX2_soreOf_2 13 rfl rfl)
theorem dX2_soreOf_54 : decode cX2_soreOf 54 = .ok (.ireturn, 1) := dk_172 (dk_at dksX2_soreOf_2 14 rfl rfl)
abbrev cX2_held : ByteArray := prog_12_method_11_code
def yX2_held : MethodName := ⟨RX2, "held", "(II)I"⟩
def dkwX2_held_0 : List UInt8 := [26, 156, 0, 7, 3, 167, 0, 13, 26, 27, 164, 0, 7, 27, 167, 0, 4, 26, 172]
abbrev dktX2_held_0 : List UInt8 := dkwX2_held_0 ++ []
theorem dksX2_held_0 : cX2_held.data.toList.drop 0 = dktX2_held_0 := by decide +kernel
theorem dX2_held_0 : decode cX2_held 0 = .ok (.iload_n 0, 1) := dk_26 (dk_at dksX2_held_0 0 rfl rfl)
theorem dX2_held_1 : decode cX2_held 1 = .ok (.ifCond .ge 7, 3) := dk_156 0 7 (dk_at dksX2_held_0 1 rfl rfl)
theorem dX2_held_4 : decode cX2_held 4 = .ok (.iconst 0, 1) := dk_3 (dk_at dksX2_held_0 4 rfl rfl)
theorem dX2_held_5 : decode cX2_held 5 = .ok (.goto 13, 3) := dk_167 0 13 (dk_at dksX2_held_0 5 rfl rfl)
theorem dX2_held_8 : decode cX2_held 8 = .ok (.iload_n 0, 1) := dk_26 (dk_at dksX2_held_0 8 rfl rfl)
theorem dX2_held_9 : decode cX2_held 9 = .ok (.iload_n 1, 1) := dk_27 (dk_at dksX2_held_0 9 rfl rfl)
theorem dX2_held_10 : decode cX2_held 10 = .ok (.if_icmp .le 7, 3) := dk_164 0 7 (dk_at dksX2_held_0 10 rfl rfl)
theorem dX2_held_13 : decode cX2_held 13 = .ok (.iload_n 1, 1) := dk_27 (dk_at dksX2_held_0 13 rfl rfl)
theorem dX2_held_14 : decode cX2_held 14 = .ok (.goto 4, 3) := dk_167 0 4 (dk_at dksX2_held_0 14 rfl rfl)
theorem dX2_held_17 : decode cX2_held 17 = .ok (.iload_n 0, 1) := dk_26 (dk_at dksX2_held_0 17 rfl rfl)
theorem dX2_held_18 : decode cX2_held 18 = .ok (.ireturn, 1) := dk_172 (dk_at dksX2_held_0 18 rfl rfl)
abbrev cX2_again : ByteArray := prog_12_method_40_code
def yX2_again : MethodName := ⟨RX2, "again", "()V"⟩
def dkwX2_again_0 : List UInt8 := [42, 42, 180, 0, 40, 3, 182, 0, 202, 177]
abbrev dktX2_again_0 : List UInt8 := dkwX2_again_0 ++ []
theorem dksX2_again_0 : cX2_again.data.toList.drop 0 = dktX2_again_0 := by decide +kernel
theorem dX2_again_0 : decode cX2_again 0 = .ok (.aload_n 0, 1) := dk_42 (dk_at dksX2_again_0 0 rfl rfl)
theorem dX2_again_1 : decode cX2_again 1 = .ok (.aload_n 0, 1) := dk_42 (dk_at dksX2_again_0 1 rfl rfl)
theorem dX2_again_2 : decode cX2_again 2 = .ok (.getfield 40, 3) := dk_180 0 40 (dk_at dksX2_again_0 2 rfl rfl)
theorem dX2_again_5 : decode cX2_again 5 = .ok (.iconst 0, 1) := dk_3 (dk_at dksX2_again_0 5 rfl rfl)
theorem dX2_again_6 : decode cX2_again 6 = .ok (.invokevirtual 202, 3) := dk_182 0 202 (dk_at dksX2_again_0 6 rfl rfl)
theorem dX2_again_9 : decode cX2_again 9 = .ok (.return_, 1) := dk_177 (dk_at dksX2_again_0 9 rfl rfl)
abbrev cX2_image : ByteArray := prog_12_method_41_code
def yX2_image : MethodName := ⟨RX2, "image", "()I"⟩
def dkwX2_image_0 : List UInt8 := [42, 3, 181, 0, 65, 42, 4, 181, 0, 206, 42, 42, 180, 0, 43, 4, 182, 0, 202, 42, 180, 0, 106, 172]
abbrev dktX2_image_0 : List UInt8 := dkwX2_image_0 ++ []
theorem dksX2_image_0 : cX2_image.data.toList.drop 0 = dktX2_image_0 := by decide +kernel
theorem dX2_image_0 : decode cX2_image 0 = .ok (.aload_n 0, 1) := dk_42 (dk_at dksX2_image_0 0 rfl rfl)
theorem dX2_image_1 : decode cX2_image 1 = .ok (.iconst 0, 1) := dk_3 (dk_at dksX2_image_0 1 rfl rfl)
theorem dX2_image_2 : decode cX2_image 2 = .ok (.putfield 65, 3) := dk_181 0 65 (dk_at dksX2_image_0 2 rfl rfl)
theorem dX2_image_5 : decode cX2_image 5 = .ok (.aload_n 0, 1) := dk_42 (dk_at dksX2_image_0 5 rfl rfl)
theorem dX2_image_6 : decode cX2_image 6 = .ok (.iconst 1, 1) := dk_4 (dk_at dksX2_image_0 6 rfl rfl)
theorem dX2_image_7 : decode cX2_image 7 = .ok (.putfield 206, 3) := dk_181 0 206 (dk_at dksX2_image_0 7 rfl rfl)
theorem dX2_image_10 : decode cX2_image 10 = .ok (.aload_n 0, 1) := dk_42 (dk_at dksX2_image_0 10 rfl rfl)
theorem dX2_image_11 : decode cX2_image 11 = .ok (.aload_n 0, 1) := dk_42 (dk_at dksX2_image_0 11 rfl rfl)
theorem dX2_image_12 : decode cX2_image 12 = .ok (.getfield 43, 3) := dk_180 0 43 (dk_at dksX2_image_0 12 rfl rfl)
theorem dX2_image_15 : decode cX2_image 15 = .ok (.iconst 1, 1) := dk_4 (dk_at dksX2_image_0 15 rfl rfl)
theorem dX2_image_16 : decode cX2_image 16 = .ok (.invokevirtual 202, 3) := dk_182 0 202 (dk_at dksX2_image_0 16 rfl rfl)
theorem dX2_image_19 : decode cX2_image 19 = .ok (.aload_n 0, 1) := dk_42 (dk_at dksX2_image_0 19 rfl rfl)
theorem dX2_image_20 : decode cX2_image 20 = .ok (.getfield 106, 3) := dk_180 0 106 (dk_at dksX2_image_0 20 rfl rfl)
theorem dX2_image_23 : decode cX2_image 23 = .ok (.ireturn, 1) := dk_172 (dk_at dksX2_image_0 23 rfl rfl)
abbrev cX2_restore : ByteArray := prog_12_method_42_code
def yX2_restore : MethodName := ⟨RX2, "restore", "()I"⟩
def dkwX2_restore_1 : List UInt8 := [3, 182, 0, 202, 42, 3, 181, 0, 187, 42, 180, 0, 106, 172]
abbrev dktX2_restore_1 : List UInt8 := dkwX2_restore_1 ++ []
def dkwX2_restore_0 : List UInt8 := [42, 3, 181, 0, 65, 42, 180, 0, 206, 154, 0, 10, 42, 16, 253, 182, 0, 128, 172, 42, 42, 180, 0, 43]
abbrev dktX2_restore_0 : List UInt8 := dkwX2_restore_0 ++ dktX2_restore_1
theorem dksX2_restore_0 : cX2_restore.data.toList.drop 0 = dktX2_restore_0 := by decide +kernel
theorem dksX2_restore_1 : cX2_restore.data.toList.drop 24 = dktX2_restore_1 := dk_seg dksX2_restore_0 24 rfl rfl
theorem dX2_restore_0 : decode cX2_restore 0 = .ok (.aload_n 0, 1) := dk_42 (dk_at dksX2_restore_0 0 rfl rfl)
theorem dX2_restore_1 : decode cX2_restore 1 = .ok (.iconst 0, 1) := dk_3 (dk_at dksX2_restore_0 1 rfl rfl)
theorem dX2_restore_2 : decode cX2_restore 2 = .ok (.putfield 65, 3) := dk_181 0 65 (dk_at dksX2_restore_0 2 rfl rfl)
theorem dX2_restore_5 : decode cX2_restore 5 = .ok (.aload_n 0, 1) := dk_42 (dk_at dksX2_restore_0 5 rfl rfl)
theorem dX2_restore_6 : decode cX2_restore 6 = .ok (.getfield 206, 3) := dk_180 0 206 (dk_at dksX2_restore_0 6 rfl rfl)
theorem dX2_restore_9 : decode cX2_restore 9 = .ok (.ifCond .ne 10, 3) := dk_154 0 10 (dk_at dksX2_restore_0 9 rfl rfl)
theorem dX2_restore_12 : decode cX2_restore 12 = .ok (.aload_n 0, 1) := dk_42 (dk_at dksX2_restore_0 12 rfl rfl)
theorem dX2_restore_13 : decode cX2_restore 13 = .ok (.bipush (-3), 2) := dk_16 253 (dk_at dksX2_restore_0 13 rfl rfl)
theorem dX2_restore_15 : decode cX2_restore 15 = .ok (.invokevirtual 128, 3) := dk_182 0 128 (dk_at dksX2_restore_0 15 rfl rfl)
theorem dX2_restore_18 : decode cX2_restore 18 = .ok (.ireturn, 1) := dk_172 (dk_at dksX2_restore_0 18 rfl rfl)
theorem dX2_restore_19 : decode cX2_restore 19 = .ok (.aload_n 0, 1) := dk_42 (dk_at dksX2_restore_0 19 rfl rfl)
theorem dX2_restore_20 : decode cX2_restore 20 = .ok (.aload_n 0, 1) := dk_42 (dk_at dksX2_restore_0 20 rfl rfl)
theorem dX2_restore_21 : decode cX2_restore 21 = .ok (.getfield 43, 3) := dk_180 0 43 (dk_at dksX2_restore_0 21 rfl rfl)
theorem dX2_restore_24 : decode cX2_restore 24 = .ok (.iconst 0, 1) := dk_3 (dk_at dksX2_restore_1 0 rfl rfl)
theorem dX2_restore_25 : decode cX2_restore 25 = .ok (.invokevirtual 202, 3) := dk_182 0 202 (dk_at dksX2_restore_1 1 rfl rfl)
theorem dX2_restore_28 : decode cX2_restore 28 = .ok (.aload_n 0, 1) := dk_42 (dk_at dksX2_restore_1 4 rfl rfl)
theorem dX2_restore_29 : decode cX2_restore 29 = .ok (.iconst 0, 1) := dk_3 (dk_at dksX2_restore_1 5 rfl rfl)
theorem dX2_restore_30 : decode cX2_restore 30 = .ok (.putfield 187, 3) := dk_181 0 187 (dk_at dksX2_restore_1 6 rfl rfl)
theorem dX2_restore_33 : decode cX2_restore 33 = .ok (.aload_n 0, 1) := dk_42 (dk_at dksX2_restore_1 9 rfl rfl)
theorem dX2_restore_34 : decode cX2_restore 34 = .ok (.getfield 106, 3) := dk_180 0 106 (dk_at dksX2_restore_1 10 rfl rfl)
theorem dX2_restore_37 : decode cX2_restore 37 = .ok (.ireturn, 1) := dk_172 (dk_at dksX2_restore_1 13 rfl rfl)
abbrev cX2_back : ByteArray := prog_12_method_44_code
def yX2_back : MethodName := ⟨RX2, "back", "()I"⟩
def dkwX2_back_3 : List UInt8 := [42, 180, 0, 187, 172]
abbrev dktX2_back_3 : List UInt8 := dkwX2_back_3 ++ []
def dkwX2_back_2 : List UInt8 := [42, 180, 0, 187, 104, 27, 96, 46, 79, 132, 1, 1, 167, 255, 227, 42, 42, 180, 0, 49, 3, 182, 0, 202]
abbrev dktX2_back_2 : List UInt8 := dkwX2_back_2 ++ dktX2_back_3
def dkwX2_back_1 : List UInt8 := [4, 100, 181, 0, 187, 3, 60, 27, 16, 62, 162, 0, 29, 42, 180, 0, 49, 27, 42, 180, 0, 46, 16, 62]
abbrev dktX2_back_1 : List UInt8 := dkwX2_back_1 ++ dktX2_back_2
def dkwX2_back_0 : List UInt8 := [42, 3, 181, 0, 65, 42, 180, 0, 187, 154, 0, 10, 42, 16, 253, 182, 0, 128, 172, 42, 89, 180, 0, 187]
abbrev dktX2_back_0 : List UInt8 := dkwX2_back_0 ++ dktX2_back_1
theorem dksX2_back_0 : cX2_back.data.toList.drop 0 = dktX2_back_0 := by decide +kernel
theorem dksX2_back_1 : cX2_back.data.toList.drop 24 = dktX2_back_1 := dk_seg dksX2_back_0 24 rfl rfl
theorem dksX2_back_2 : cX2_back.data.toList.drop 48 = dktX2_back_2 := dk_seg dksX2_back_1 24 rfl rfl
theorem dksX2_back_3 : cX2_back.data.toList.drop 72 = dktX2_back_3 := dk_seg dksX2_back_2 24 rfl rfl
theorem dX2_back_0 : decode cX2_back 0 = .ok (.aload_n 0, 1) := dk_42 (dk_at dksX2_back_0 0 rfl rfl)
theorem dX2_back_1 : decode cX2_back 1 = .ok (.iconst 0, 1) := dk_3 (dk_at dksX2_back_0 1 rfl rfl)
theorem dX2_back_2 : decode cX2_back 2 = .ok (.putfield 65, 3) := dk_181 0 65 (dk_at dksX2_back_0 2 rfl rfl)
theorem dX2_back_5 : decode cX2_back 5 = .ok (.aload_n 0, 1) := dk_42 (dk_at dksX2_back_0 5 rfl rfl)
theorem dX2_back_6 : decode cX2_back 6 = .ok (.getfield 187, 3) := dk_180 0 187 (dk_at dksX2_back_0 6 rfl rfl)
theorem dX2_back_9 : decode cX2_back 9 = .ok (.ifCond .ne 10, 3) := dk_154 0 10 (dk_at dksX2_back_0 9 rfl rfl)
theorem dX2_back_12 : decode cX2_back 12 = .ok (.aload_n 0, 1) := dk_42 (dk_at dksX2_back_0 12 rfl rfl)
theorem dX2_back_13 : decode cX2_back 13 = .ok (.bipush (-3), 2) := dk_16 253 (dk_at dksX2_back_0 13 rfl rfl)
theorem dX2_back_15 : decode cX2_back 15 = .ok (.invokevirtual 128, 3) := dk_182 0 128 (dk_at dksX2_back_0 15 rfl rfl)
theorem dX2_back_18 : decode cX2_back 18 = .ok (.ireturn, 1) := dk_172 (dk_at dksX2_back_0 18 rfl rfl)
theorem dX2_back_19 : decode cX2_back 19 = .ok (.aload_n 0, 1) := dk_42 (dk_at dksX2_back_0 19 rfl rfl)
theorem dX2_back_20 : decode cX2_back 20 = .ok (.dup, 1) := dk_89 (dk_at dksX2_back_0 20 rfl rfl)
theorem dX2_back_21 : decode cX2_back 21 = .ok (.getfield 187, 3) := dk_180 0 187 (dk_at dksX2_back_0 21 rfl rfl)
theorem dX2_back_24 : decode cX2_back 24 = .ok (.iconst 1, 1) := dk_4 (dk_at dksX2_back_1 0 rfl rfl)
theorem dX2_back_25 : decode cX2_back 25 = .ok (.isub, 1) := dk_100 (dk_at dksX2_back_1 1 rfl rfl)
theorem dX2_back_26 : decode cX2_back 26 = .ok (.putfield 187, 3) := dk_181 0 187 (dk_at dksX2_back_1 2 rfl rfl)
theorem dX2_back_29 : decode cX2_back 29 = .ok (.iconst 0, 1) := dk_3 (dk_at dksX2_back_1 5 rfl rfl)
theorem dX2_back_30 : decode cX2_back 30 = .ok (.istore_n 1, 1) := dk_60 (dk_at dksX2_back_1 6 rfl rfl)
theorem dX2_back_31 : decode cX2_back 31 = .ok (.iload_n 1, 1) := dk_27 (dk_at dksX2_back_1 7 rfl rfl)
theorem dX2_back_32 : decode cX2_back 32 = .ok (.bipush 62, 2) := dk_16 62 (dk_at dksX2_back_1 8 rfl rfl)
theorem dX2_back_34 : decode cX2_back 34 = .ok (.if_icmp .ge 29, 3) := dk_162 0 29 (dk_at dksX2_back_1 10 rfl rfl)
theorem dX2_back_37 : decode cX2_back 37 = .ok (.aload_n 0, 1) := dk_42 (dk_at dksX2_back_1 13 rfl rfl)
theorem dX2_back_38 : decode cX2_back 38 = .ok (.getfield 49, 3) := dk_180 0 49 (dk_at dksX2_back_1 14 rfl rfl)
theorem dX2_back_41 : decode cX2_back 41 = .ok (.iload_n 1, 1) := dk_27 (dk_at dksX2_back_1 17 rfl rfl)
theorem dX2_back_42 : decode cX2_back 42 = .ok (.aload_n 0, 1) := dk_42 (dk_at dksX2_back_1 18 rfl rfl)
theorem dX2_back_43 : decode cX2_back 43 = .ok (.getfield 46, 3) := dk_180 0 46 (dk_at dksX2_back_1 19 rfl rfl)
theorem dX2_back_46 : decode cX2_back 46 = .ok (.bipush 62, 2) := dk_16 62 (dk_at dksX2_back_1 22 rfl rfl)
theorem dX2_back_48 : decode cX2_back 48 = .ok (.aload_n 0, 1) := dk_42 (dk_at dksX2_back_2 0 rfl rfl)
theorem dX2_back_49 : decode cX2_back 49 = .ok (.getfield 187, 3) := dk_180 0 187 (dk_at dksX2_back_2 1 rfl rfl)
theorem dX2_back_52 : decode cX2_back 52 = .ok (.imul, 1) := dk_104 (dk_at dksX2_back_2 4 rfl rfl)
theorem dX2_back_53 : decode cX2_back 53 = .ok (.iload_n 1, 1) := dk_27 (dk_at dksX2_back_2 5 rfl rfl)
theorem dX2_back_54 : decode cX2_back 54 = .ok (.iadd, 1) := dk_96 (dk_at dksX2_back_2 6 rfl rfl)
theorem dX2_back_55 : decode cX2_back 55 = .ok (.iaload, 1) := dk_46 (dk_at dksX2_back_2 7 rfl rfl)
theorem dX2_back_56 : decode cX2_back 56 = .ok (.iastore, 1) := dk_79 (dk_at dksX2_back_2 8 rfl rfl)
theorem dX2_back_57 : decode cX2_back 57 = .ok (.iinc 1 1, 3) := dk_132 1 1 (dk_at dksX2_back_2 9 rfl rfl)
theorem dX2_back_60 : decode cX2_back 60 = .ok (.goto (-29), 3) := dk_167 255 227 (dk_at dksX2_back_2 12 rfl rfl)
theorem dX2_back_63 : decode cX2_back 63 = .ok (.aload_n 0, 1) := dk_42 (dk_at dksX2_back_2 15 rfl rfl)
theorem dX2_back_64 : decode cX2_back 64 = .ok (.aload_n 0, 1) := dk_42 (dk_at dksX2_back_2 16 rfl rfl)
theorem dX2_back_65 : decode cX2_back 65 = .ok (.getfield 49, 3) := dk_180 0 49 (dk_at dksX2_back_2 17 rfl rfl)
theorem dX2_back_68 : decode cX2_back 68 = .ok (.iconst 0, 1) := dk_3 (dk_at dksX2_back_2 20 rfl rfl)
theorem dX2_back_69 : decode cX2_back 69 = .ok (.invokevirtual 202, 3) := dk_182 0 202 (dk_at dksX2_back_2 21 rfl rfl)
theorem dX2_back_72 : decode cX2_back 72 = .ok (.aload_n 0, 1) := dk_42 (dk_at dksX2_back_3 0 rfl rfl)
theorem dX2_back_73 : decode cX2_back 73 = .ok (.getfield 187, 3) := dk_180 0 187 (dk_at dksX2_back_3 1 rfl rfl)
theorem dX2_back_76 : decode cX2_back 76 = .ok (.ireturn, 1) := dk_172 (dk_at dksX2_back_3 4 rfl rfl)
abbrev cX2_personOf : ByteArray := prog_12_method_45_code
def yX2_personOf : MethodName := ⟨RX2, "personOf", "(II)I"⟩
def dkwX2_personOf_4 : List UInt8 := [180, 0, 19, 27, 46, 172, 42, 27, 182, 0, 97, 172, 42, 27, 182, 0, 100, 172, 42, 27, 182, 0, 87, 172]
abbrev dktX2_personOf_4 : List UInt8 := dkwX2_personOf_4 ++ []
def dkwX2_personOf_3 : List UInt8 := [42, 180, 0, 7, 27, 46, 172, 42, 180, 0, 13, 27, 46, 172, 42, 180, 0, 16, 27, 46, 172, 42]
abbrev dktX2_personOf_3 : List UInt8 := dkwX2_personOf_3 ++ dktX2_personOf_4
def dkwX2_personOf_2 : List UInt8 := [170, 0, 0, 0, 0, 0, 79, 0, 0, 0, 0, 0, 0, 0, 5, 0, 0, 0, 39, 0, 0, 0, 46, 0, 0, 0, 53, 0, 0, 0, 60, 0, 0, 0, 67, 0, 0, 0, 73]
abbrev dktX2_personOf_2 : List UInt8 := dkwX2_personOf_2 ++ dktX2_personOf_3
def dkwX2_personOf_1 : List UInt8 := [154, 0, 22, 42, 42, 27, 182, 0, 75, 153, 0, 8, 16, 254, 167, 0, 4, 2, 182, 0, 128, 172, 28]
abbrev dktX2_personOf_1 : List UInt8 := dkwX2_personOf_1 ++ dktX2_personOf_2
def dkwX2_personOf_0 : List UInt8 := [42, 3, 181, 0, 65, 42, 27, 182, 0, 75, 153, 0, 15, 28, 133, 9, 20, 0, 209, 184, 0, 71]
abbrev dktX2_personOf_0 : List UInt8 := dkwX2_personOf_0 ++ dktX2_personOf_1
theorem dksX2_personOf_0 : cX2_personOf.data.toList.drop 0 = dktX2_personOf_0 := by decide +kernel
theorem dksX2_personOf_1 : cX2_personOf.data.toList.drop 22 = dktX2_personOf_1 := dk_seg dksX2_personOf_0 22 rfl rfl
theorem dksX2_personOf_2 : cX2_personOf.data.toList.drop 45 = dktX2_personOf_2 := dk_seg dksX2_personOf_1 23 rfl rfl
theorem dksX2_personOf_3 : cX2_personOf.data.toList.drop 84 = dktX2_personOf_3 := dk_seg dksX2_personOf_2 39 rfl rfl
theorem dksX2_personOf_4 : cX2_personOf.data.toList.drop 106 = dktX2_personOf_4 := dk_seg dksX2_personOf_3 22 rfl rfl
theorem dX2_personOf_0 : decode cX2_personOf 0 = .ok (.aload_n 0, 1) := dk_42 (dk_at dksX2_personOf_0 0 rfl rfl)
theorem dX2_personOf_1 : decode cX2_personOf 1 = .ok (.iconst 0, 1) := dk_3 (dk_at dksX2_personOf_0 1 rfl rfl)
theorem dX2_personOf_2 : decode cX2_personOf 2 = .ok (.putfield 65, 3) := dk_181 0 65 (dk_at dksX2_personOf_0 2 rfl rfl)
theorem dX2_personOf_5 : decode cX2_personOf 5 = .ok (.aload_n 0, 1) := dk_42 (dk_at dksX2_personOf_0 5 rfl rfl)
theorem dX2_personOf_6 : decode cX2_personOf 6 = .ok (.iload_n 1, 1) := dk_27 (dk_at dksX2_personOf_0 6 rfl rfl)
theorem dX2_personOf_7 : decode cX2_personOf 7 = .ok (.invokevirtual 75, 3) := dk_182 0 75 (dk_at dksX2_personOf_0 7 rfl rfl)
theorem dX2_personOf_10 : decode cX2_personOf 10 = .ok (.ifCond .eq 15, 3) := dk_153 0 15 (dk_at dksX2_personOf_0 10 rfl rfl)
theorem dX2_personOf_13 : decode cX2_personOf 13 = .ok (.iload_n 2, 1) := dk_28 (dk_at dksX2_personOf_0 13 rfl rfl)
theorem dX2_personOf_14 : decode cX2_personOf 14 = .ok (.i2l, 1) := dk_133 (dk_at dksX2_personOf_0 14 rfl rfl)
theorem dX2_personOf_15 : decode cX2_personOf 15 = .ok (.lconst 0, 1) := dk_9 (dk_at dksX2_personOf_0 15 rfl rfl)
theorem dX2_personOf_16 : decode cX2_personOf 16 = .ok (.ldc2_w 209, 3) := dk_20 0 209 (dk_at dksX2_personOf_0 16 rfl rfl)
theorem dX2_personOf_19 : decode cX2_personOf 19 = .ok (.invokestatic 71, 3) := dk_184 0 71 (dk_at dksX2_personOf_0 19 rfl rfl)
theorem dX2_personOf_22 : decode cX2_personOf 22 = .ok (.ifCond .ne 22, 3) := dk_154 0 22 (dk_at dksX2_personOf_1 0 rfl rfl)
theorem dX2_personOf_25 : decode cX2_personOf 25 = .ok (.aload_n 0, 1) := dk_42 (dk_at dksX2_personOf_1 3 rfl rfl)
theorem dX2_personOf_26 : decode cX2_personOf 26 = .ok (.aload_n 0, 1) := dk_42 (dk_at dksX2_personOf_1 4 rfl rfl)
theorem dX2_personOf_27 : decode cX2_personOf 27 = .ok (.iload_n 1, 1) := dk_27 (dk_at dksX2_personOf_1 5 rfl rfl)
theorem dX2_personOf_28 : decode cX2_personOf 28 = .ok (.invokevirtual 75, 3) := dk_182 0 75 (dk_at dksX2_personOf_1 6 rfl rfl)
theorem dX2_personOf_31 : decode cX2_personOf 31 = .ok (.ifCond .eq 8, 3) := dk_153 0 8 (dk_at dksX2_personOf_1 9 rfl rfl)
theorem dX2_personOf_34 : decode cX2_personOf 34 = .ok (.bipush (-2), 2) := dk_16 254 (dk_at dksX2_personOf_1 12 rfl rfl)
theorem dX2_personOf_36 : decode cX2_personOf 36 = .ok (.goto 4, 3) := dk_167 0 4 (dk_at dksX2_personOf_1 14 rfl rfl)
theorem dX2_personOf_39 : decode cX2_personOf 39 = .ok (.iconst (-1), 1) := dk_2 (dk_at dksX2_personOf_1 17 rfl rfl)
theorem dX2_personOf_40 : decode cX2_personOf 40 = .ok (.invokevirtual 128, 3) := dk_182 0 128 (dk_at dksX2_personOf_1 18 rfl rfl)
theorem dX2_personOf_43 : decode cX2_personOf 43 = .ok (.ireturn, 1) := dk_172 (dk_at dksX2_personOf_1 21 rfl rfl)
theorem dX2_personOf_44 : decode cX2_personOf 44 = .ok (.iload_n 2, 1) := dk_28 (dk_at dksX2_personOf_1 22 rfl rfl)
theorem dX2_personOf_45 : decode cX2_personOf 45 = .ok (.tableswitch 79 0 5 #[39, 46, 53, 60, 67, 73], 39) := by decide +kernel
theorem dX2_personOf_84 : decode cX2_personOf 84 = .ok (.aload_n 0, 1) := dk_42 (dk_at dksX2_personOf_3 0 rfl rfl)
theorem dX2_personOf_85 : decode cX2_personOf 85 = .ok (.getfield 7, 3) := dk_180 0 7 (dk_at dksX2_personOf_3 1 rfl rfl)
theorem dX2_personOf_88 : decode cX2_personOf 88 = .ok (.iload_n 1, 1) := dk_27 (dk_at dksX2_personOf_3 4 rfl rfl)
theorem dX2_personOf_89 : decode cX2_personOf 89 = .ok (.iaload, 1) := dk_46 (dk_at dksX2_personOf_3 5 rfl rfl)
theorem dX2_personOf_90 : decode cX2_personOf 90 = .ok (.ireturn, 1) := dk_172 (dk_at dksX2_personOf_3 6 rfl rfl)
theorem dX2_personOf_91 : decode cX2_personOf 91 = .ok (.aload_n 0, 1) := dk_42 (dk_at dksX2_personOf_3 7 rfl rfl)
theorem dX2_personOf_92 : decode cX2_personOf 92 = .ok (.getfield 13, 3) := dk_180 0 13 (dk_at dksX2_personOf_3 8 rfl rfl)
theorem dX2_personOf_95 : decode cX2_personOf 95 = .ok (.iload_n 1, 1) := dk_27 (dk_at dksX2_personOf_3 11 rfl rfl)
theorem dX2_personOf_96 : decode cX2_personOf 96 = .ok (.iaload, 1) := dk_46 (dk_at dksX2_personOf_3 12 rfl rfl)
theorem dX2_personOf_97 : decode cX2_personOf 97 = .ok (.ireturn, 1) := dk_172 (dk_at dksX2_personOf_3 13 rfl rfl)
theorem dX2_personOf_98 : decode cX2_personOf 98 = .ok (.aload_n 0, 1) := dk_42 (dk_at dksX2_personOf_3 14 rfl rfl)
theorem dX2_personOf_99 : decode cX2_personOf 99 = .ok (.getfield 16, 3) := dk_180 0 16 (dk_at dksX2_personOf_3 15 rfl rfl)
theorem dX2_personOf_102 : decode cX2_personOf 102 = .ok (.iload_n 1, 1) := dk_27 (dk_at dksX2_personOf_3 18 rfl rfl)
theorem dX2_personOf_103 : decode cX2_personOf 103 = .ok (.iaload, 1) := dk_46 (dk_at dksX2_personOf_3 19 rfl rfl)
theorem dX2_personOf_104 : decode cX2_personOf 104 = .ok (.ireturn, 1) := dk_172 (dk_at dksX2_personOf_3 20 rfl rfl)
theorem dX2_personOf_105 : decode cX2_personOf 105 = .ok (.aload_n 0, 1) := dk_42 (dk_at dksX2_personOf_3 21 rfl rfl)
theorem dX2_personOf_106 : decode cX2_personOf 106 = .ok (.getfield 19, 3) := dk_180 0 19 (dk_at dksX2_personOf_4 0 rfl rfl)
theorem dX2_personOf_109 : decode cX2_personOf 109 = .ok (.iload_n 1, 1) := dk_27 (dk_at dksX2_personOf_4 3 rfl rfl)
theorem dX2_personOf_110 : decode cX2_personOf 110 = .ok (.iaload, 1) := dk_46 (dk_at dksX2_personOf_4 4 rfl rfl)
theorem dX2_personOf_111 : decode cX2_personOf 111 = .ok (.ireturn, 1) := dk_172 (dk_at dksX2_personOf_4 5 rfl rfl)
theorem dX2_personOf_112 : decode cX2_personOf 112 = .ok (.aload_n 0, 1) := dk_42 (dk_at dksX2_personOf_4 6 rfl rfl)
theorem dX2_personOf_113 : decode cX2_personOf 113 = .ok (.iload_n 1, 1) := dk_27 (dk_at dksX2_personOf_4 7 rfl rfl)
theorem dX2_personOf_114 : decode cX2_personOf 114 = .ok (.invokevirtual 97, 3) := dk_182 0 97 (dk_at dksX2_personOf_4 8 rfl rfl)
theorem dX2_personOf_117 : decode cX2_personOf 117 = .ok (.ireturn, 1) := dk_172 (dk_at dksX2_personOf_4 11 rfl rfl)
theorem dX2_personOf_118 : decode cX2_personOf 118 = .ok (.aload_n 0, 1) := dk_42 (dk_at dksX2_personOf_4 12 rfl rfl)
theorem dX2_personOf_119 : decode cX2_personOf 119 = .ok (.iload_n 1, 1) := dk_27 (dk_at dksX2_personOf_4 13 rfl rfl)
theorem dX2_personOf_120 : decode cX2_personOf 120 = .ok (.invokevirtual 100, 3) := dk_182 0 100 (dk_at dksX2_personOf_4 14 rfl rfl)
theorem dX2_personOf_123 : decode cX2_personOf 123 = .ok (.ireturn, 1) := dk_172 (dk_at dksX2_personOf_4 17 rfl rfl)
theorem dX2_personOf_124 : decode cX2_personOf 124 = .ok (.aload_n 0, 1) := dk_42 (dk_at dksX2_personOf_4 18 rfl rfl)
theorem dX2_personOf_125 : decode cX2_personOf 125 = .ok (.iload_n 1, 1) := dk_27 (dk_at dksX2_personOf_4 19 rfl rfl)
theorem dX2_personOf_126 : decode cX2_personOf 126 = .ok (.invokevirtual 87, 3) := dk_182 0 87 (dk_at dksX2_personOf_4 20 rfl rfl)
theorem dX2_personOf_129 : decode cX2_personOf 129 = .ok (.ireturn, 1) := dk_172 (dk_at dksX2_personOf_4 23 rfl rfl)
abbrev cX2_charmOf : ByteArray := prog_12_method_14_code
def yX2_charmOf : MethodName := ⟨RX2, "charmOf", "(I)I"⟩
def dkwX2_charmOf_3 : List UInt8 := [27, 46, 5, 108, 7, 96, 172, 16, 9, 172, 42, 180, 0, 13, 27, 46, 172]
abbrev dktX2_charmOf_3 : List UInt8 := dkwX2_charmOf_3 ++ []
def dkwX2_charmOf_2 : List UInt8 := [42, 180, 0, 13, 27, 46, 5, 108, 172, 42, 180, 0, 13, 27, 46, 6, 96, 172, 3, 172, 42, 180, 0, 13]
abbrev dktX2_charmOf_2 : List UInt8 := dkwX2_charmOf_2 ++ dktX2_charmOf_3
def dkwX2_charmOf_1 : List UInt8 := [170, 0, 0, 0, 0, 68, 0, 0, 0, 1, 0, 0, 0, 5, 0, 0, 0, 34, 0, 0, 0, 43, 0, 0, 0, 52, 0, 0, 0, 54, 0, 0, 0, 65]
abbrev dktX2_charmOf_1 : List UInt8 := dkwX2_charmOf_1 ++ dktX2_charmOf_2
def dkwX2_charmOf_0 : List UInt8 := [42, 180, 0, 7, 27, 46]
abbrev dktX2_charmOf_0 : List UInt8 := dkwX2_charmOf_0 ++ dktX2_charmOf_1
theorem dksX2_charmOf_0 : cX2_charmOf.data.toList.drop 0 = dktX2_charmOf_0 := by decide +kernel
theorem dksX2_charmOf_1 : cX2_charmOf.data.toList.drop 6 = dktX2_charmOf_1 := dk_seg dksX2_charmOf_0 6 rfl rfl
theorem dksX2_charmOf_2 : cX2_charmOf.data.toList.drop 40 = dktX2_charmOf_2 := dk_seg dksX2_charmOf_1 34 rfl rfl
theorem dksX2_charmOf_3 : cX2_charmOf.data.toList.drop 64 = dktX2_charmOf_3 := dk_seg dksX2_charmOf_2 24 rfl rfl
theorem dX2_charmOf_0 : decode cX2_charmOf 0 = .ok (.aload_n 0, 1) := dk_42 (dk_at dksX2_charmOf_0 0 rfl rfl)
theorem dX2_charmOf_1 : decode cX2_charmOf 1 = .ok (.getfield 7, 3) := dk_180 0 7 (dk_at dksX2_charmOf_0 1 rfl rfl)
theorem dX2_charmOf_4 : decode cX2_charmOf 4 = .ok (.iload_n 1, 1) := dk_27 (dk_at dksX2_charmOf_0 4 rfl rfl)
theorem dX2_charmOf_5 : decode cX2_charmOf 5 = .ok (.iaload, 1) := dk_46 (dk_at dksX2_charmOf_0 5 rfl rfl)
theorem dX2_charmOf_6 : decode cX2_charmOf 6 = .ok (.tableswitch 68 1 5 #[34, 43, 52, 54, 65], 34) := by decide +kernel
theorem dX2_charmOf_40 : decode cX2_charmOf 40 = .ok (.aload_n 0, 1) := dk_42 (dk_at dksX2_charmOf_2 0 rfl rfl)
theorem dX2_charmOf_41 : decode cX2_charmOf 41 = .ok (.getfield 13, 3) := dk_180 0 13 (dk_at dksX2_charmOf_2 1 rfl rfl)
theorem dX2_charmOf_44 : decode cX2_charmOf 44 = .ok (.iload_n 1, 1) := dk_27 (dk_at dksX2_charmOf_2 4 rfl rfl)
theorem dX2_charmOf_45 : decode cX2_charmOf 45 = .ok (.iaload, 1) := dk_46 (dk_at dksX2_charmOf_2 5 rfl rfl)
theorem dX2_charmOf_46 : decode cX2_charmOf 46 = .ok (.iconst 2, 1) := dk_5 (dk_at dksX2_charmOf_2 6 rfl rfl)
theorem dX2_charmOf_47 : decode cX2_charmOf 47 = .ok (.idiv, 1) := dk_108 (dk_at dksX2_charmOf_2 7 rfl rfl)
theorem dX2_charmOf_48 : decode cX2_charmOf 48 = .ok (.ireturn, 1) := dk_172 (dk_at dksX2_charmOf_2 8 rfl rfl)
theorem dX2_charmOf_49 : decode cX2_charmOf 49 = .ok (.aload_n 0, 1) := dk_42 (dk_at dksX2_charmOf_2 9 rfl rfl)
theorem dX2_charmOf_50 : decode cX2_charmOf 50 = .ok (.getfield 13, 3) := dk_180 0 13 (dk_at dksX2_charmOf_2 10 rfl rfl)
theorem dX2_charmOf_53 : decode cX2_charmOf 53 = .ok (.iload_n 1, 1) := dk_27 (dk_at dksX2_charmOf_2 13 rfl rfl)
theorem dX2_charmOf_54 : decode cX2_charmOf 54 = .ok (.iaload, 1) := dk_46 (dk_at dksX2_charmOf_2 14 rfl rfl)
theorem dX2_charmOf_55 : decode cX2_charmOf 55 = .ok (.iconst 3, 1) := dk_6 (dk_at dksX2_charmOf_2 15 rfl rfl)
theorem dX2_charmOf_56 : decode cX2_charmOf 56 = .ok (.iadd, 1) := dk_96 (dk_at dksX2_charmOf_2 16 rfl rfl)
theorem dX2_charmOf_57 : decode cX2_charmOf 57 = .ok (.ireturn, 1) := dk_172 (dk_at dksX2_charmOf_2 17 rfl rfl)
theorem dX2_charmOf_58 : decode cX2_charmOf 58 = .ok (.iconst 0, 1) := dk_3 (dk_at dksX2_charmOf_2 18 rfl rfl)
theorem dX2_charmOf_59 : decode cX2_charmOf 59 = .ok (.ireturn, 1) := dk_172 (dk_at dksX2_charmOf_2 19 rfl rfl)
theorem dX2_charmOf_60 : decode cX2_charmOf 60 = .ok (.aload_n 0, 1) := dk_42 (dk_at dksX2_charmOf_2 20 rfl rfl)
theorem dX2_charmOf_61 : decode cX2_charmOf 61 = .ok (.getfield 13, 3) := dk_180 0 13 (dk_at dksX2_charmOf_2 21 rfl rfl)
theorem dX2_charmOf_64 : decode cX2_charmOf 64 = .ok (.iload_n 1, 1) := dk_27 (dk_at dksX2_charmOf_3 0 rfl rfl)
theorem dX2_charmOf_65 : decode cX2_charmOf 65 = .ok (.iaload, 1) := dk_46 (dk_at dksX2_charmOf_3 1 rfl rfl)
theorem dX2_charmOf_66 : decode cX2_charmOf 66 = .ok (.iconst 2, 1) := dk_5 (dk_at dksX2_charmOf_3 2 rfl rfl)
theorem dX2_charmOf_67 : decode cX2_charmOf 67 = .ok (.idiv, 1) := dk_108 (dk_at dksX2_charmOf_3 3 rfl rfl)
theorem dX2_charmOf_68 : decode cX2_charmOf 68 = .ok (.iconst 4, 1) := dk_7 (dk_at dksX2_charmOf_3 4 rfl rfl)
theorem dX2_charmOf_69 : decode cX2_charmOf 69 = .ok (.iadd, 1) := dk_96 (dk_at dksX2_charmOf_3 5 rfl rfl)
theorem dX2_charmOf_70 : decode cX2_charmOf 70 = .ok (.ireturn, 1) := dk_172 (dk_at dksX2_charmOf_3 6 rfl rfl)
theorem dX2_charmOf_71 : decode cX2_charmOf 71 = .ok (.bipush 9, 2) := dk_16 9 (dk_at dksX2_charmOf_3 7 rfl rfl)
theorem dX2_charmOf_73 : decode cX2_charmOf 73 = .ok (.ireturn, 1) := dk_172 (dk_at dksX2_charmOf_3 9 rfl rfl)
theorem dX2_charmOf_74 : decode cX2_charmOf 74 = .ok (.aload_n 0, 1) := dk_42 (dk_at dksX2_charmOf_3 10 rfl rfl)
theorem dX2_charmOf_75 : decode cX2_charmOf 75 = .ok (.getfield 13, 3) := dk_180 0 13 (dk_at dksX2_charmOf_3 11 rfl rfl)
theorem dX2_charmOf_78 : decode cX2_charmOf 78 = .ok (.iload_n 1, 1) := dk_27 (dk_at dksX2_charmOf_3 14 rfl rfl)
theorem dX2_charmOf_79 : decode cX2_charmOf 79 = .ok (.iaload, 1) := dk_46 (dk_at dksX2_charmOf_3 15 rfl rfl)
theorem dX2_charmOf_80 : decode cX2_charmOf 80 = .ok (.ireturn, 1) := dk_172 (dk_at dksX2_charmOf_3 16 rfl rfl)
abbrev cX2_between : ByteArray := prog_12_method_46_code
def yX2_between : MethodName := ⟨RX2, "between", "(III)I"⟩
def dkwX2_between_2 : List UInt8 := [167, 0, 13, 42, 27, 28, 182, 0, 90, 17, 3, 232, 96, 172]
abbrev dktX2_between_2 : List UInt8 := dkwX2_between_2 ++ []
def dkwX2_between_1 : List UInt8 := [54, 4, 21, 4, 156, 0, 10, 42, 21, 4, 182, 0, 128, 172, 29, 154, 0, 12, 42, 27, 28, 182, 0, 79]
abbrev dktX2_between_1 : List UInt8 := dkwX2_between_1 ++ dktX2_between_2
def dkwX2_between_0 : List UInt8 := [42, 3, 181, 0, 65, 42, 27, 28, 182, 0, 164, 153, 0, 7, 3, 167, 0, 4, 2, 29, 4, 184, 0, 211]
abbrev dktX2_between_0 : List UInt8 := dkwX2_between_0 ++ dktX2_between_1
theorem dksX2_between_0 : cX2_between.data.toList.drop 0 = dktX2_between_0 := by decide +kernel
theorem dksX2_between_1 : cX2_between.data.toList.drop 24 = dktX2_between_1 := dk_seg dksX2_between_0 24 rfl rfl
theorem dksX2_between_2 : cX2_between.data.toList.drop 48 = dktX2_between_2 := dk_seg dksX2_between_1 24 rfl rfl
theorem dX2_between_0 : decode cX2_between 0 = .ok (.aload_n 0, 1) := dk_42 (dk_at dksX2_between_0 0 rfl rfl)
theorem dX2_between_1 : decode cX2_between 1 = .ok (.iconst 0, 1) := dk_3 (dk_at dksX2_between_0 1 rfl rfl)
theorem dX2_between_2 : decode cX2_between 2 = .ok (.putfield 65, 3) := dk_181 0 65 (dk_at dksX2_between_0 2 rfl rfl)
theorem dX2_between_5 : decode cX2_between 5 = .ok (.aload_n 0, 1) := dk_42 (dk_at dksX2_between_0 5 rfl rfl)
theorem dX2_between_6 : decode cX2_between 6 = .ok (.iload_n 1, 1) := dk_27 (dk_at dksX2_between_0 6 rfl rfl)
theorem dX2_between_7 : decode cX2_between 7 = .ok (.iload_n 2, 1) := dk_28 (dk_at dksX2_between_0 7 rfl rfl)
theorem dX2_between_8 : decode cX2_between 8 = .ok (.invokevirtual 164, 3) := dk_182 0 164 (dk_at dksX2_between_0 8 rfl rfl)
theorem dX2_between_11 : decode cX2_between 11 = .ok (.ifCond .eq 7, 3) := dk_153 0 7 (dk_at dksX2_between_0 11 rfl rfl)
theorem dX2_between_14 : decode cX2_between 14 = .ok (.iconst 0, 1) := dk_3 (dk_at dksX2_between_0 14 rfl rfl)
theorem dX2_between_15 : decode cX2_between 15 = .ok (.goto 4, 3) := dk_167 0 4 (dk_at dksX2_between_0 15 rfl rfl)
theorem dX2_between_18 : decode cX2_between 18 = .ok (.iconst (-1), 1) := dk_2 (dk_at dksX2_between_0 18 rfl rfl)
theorem dX2_between_19 : decode cX2_between 19 = .ok (.iload_n 3, 1) := dk_29 (dk_at dksX2_between_0 19 rfl rfl)
theorem dX2_between_20 : decode cX2_between 20 = .ok (.iconst 1, 1) := dk_4 (dk_at dksX2_between_0 20 rfl rfl)
theorem dX2_between_21 : decode cX2_between 21 = .ok (.invokestatic 211, 3) := dk_184 0 211 (dk_at dksX2_between_0 21 rfl rfl)
theorem dX2_between_24 : decode cX2_between 24 = .ok (.istore 4, 2) := dk_54 4 (dk_at dksX2_between_1 0 rfl rfl)
theorem dX2_between_26 : decode cX2_between 26 = .ok (.iload 4, 2) := dk_21 4 (dk_at dksX2_between_1 2 rfl rfl)
theorem dX2_between_28 : decode cX2_between 28 = .ok (.ifCond .ge 10, 3) := dk_156 0 10 (dk_at dksX2_between_1 4 rfl rfl)
theorem dX2_between_31 : decode cX2_between 31 = .ok (.aload_n 0, 1) := dk_42 (dk_at dksX2_between_1 7 rfl rfl)
theorem dX2_between_32 : decode cX2_between 32 = .ok (.iload 4, 2) := dk_21 4 (dk_at dksX2_between_1 8 rfl rfl)
theorem dX2_between_34 : decode cX2_between 34 = .ok (.invokevirtual 128, 3) := dk_182 0 128 (dk_at dksX2_between_1 10 rfl rfl)
theorem dX2_between_37 : decode cX2_between 37 = .ok (.ireturn, 1) := dk_172 (dk_at dksX2_between_1 13 rfl rfl)
theorem dX2_between_38 : decode cX2_between 38 = .ok (.iload_n 3, 1) := dk_29 (dk_at dksX2_between_1 14 rfl rfl)
theorem dX2_between_39 : decode cX2_between 39 = .ok (.ifCond .ne 12, 3) := dk_154 0 12 (dk_at dksX2_between_1 15 rfl rfl)
theorem dX2_between_42 : decode cX2_between 42 = .ok (.aload_n 0, 1) := dk_42 (dk_at dksX2_between_1 18 rfl rfl)
theorem dX2_between_43 : decode cX2_between 43 = .ok (.iload_n 1, 1) := dk_27 (dk_at dksX2_between_1 19 rfl rfl)
theorem dX2_between_44 : decode cX2_between 44 = .ok (.iload_n 2, 1) := dk_28 (dk_at dksX2_between_1 20 rfl rfl)
theorem dX2_between_45 : decode cX2_between 45 = .ok (.invokevirtual 79, 3) := dk_182 0 79 (dk_at dksX2_between_1 21 rfl rfl)
theorem dX2_between_48 : decode cX2_between 48 = .ok (.goto 13, 3) := dk_167 0 13 (dk_at dksX2_between_2 0 rfl rfl)
theorem dX2_between_51 : decode cX2_between 51 = .ok (.aload_n 0, 1) := dk_42 (dk_at dksX2_between_2 3 rfl rfl)
theorem dX2_between_52 : decode cX2_between 52 = .ok (.iload_n 1, 1) := dk_27 (dk_at dksX2_between_2 4 rfl rfl)
theorem dX2_between_53 : decode cX2_between 53 = .ok (.iload_n 2, 1) := dk_28 (dk_at dksX2_between_2 5 rfl rfl)
theorem dX2_between_54 : decode cX2_between 54 = .ok (.invokevirtual 90, 3) := dk_182 0 90 (dk_at dksX2_between_2 6 rfl rfl)
theorem dX2_between_57 : decode cX2_between 57 = .ok (.sipush 1000, 3) := dk_17 3 232 (dk_at dksX2_between_2 9 rfl rfl)
theorem dX2_between_60 : decode cX2_between 60 = .ok (.iadd, 1) := dk_96 (dk_at dksX2_between_2 12 rfl rfl)
theorem dX2_between_61 : decode cX2_between 61 = .ok (.ireturn, 1) := dk_172 (dk_at dksX2_between_2 13 rfl rfl)
abbrev cX2_wrongBit : ByteArray := prog_12_method_8_code
def yX2_wrongBit : MethodName := ⟨RX2, "wrongBit", "(III)I"⟩
def dkwX2_wrongBit_0 : List UInt8 := [26, 154, 0, 19, 27, 133, 9, 28, 133, 184, 0, 71, 154, 0, 8, 16, 254, 167, 0, 4, 26, 172]
abbrev dktX2_wrongBit_0 : List UInt8 := dkwX2_wrongBit_0 ++ []
theorem dksX2_wrongBit_0 : cX2_wrongBit.data.toList.drop 0 = dktX2_wrongBit_0 := by decide +kernel
theorem dX2_wrongBit_0 : decode cX2_wrongBit 0 = .ok (.iload_n 0, 1) := dk_26 (dk_at dksX2_wrongBit_0 0 rfl rfl)
theorem dX2_wrongBit_1 : decode cX2_wrongBit 1 = .ok (.ifCond .ne 19, 3) := dk_154 0 19 (dk_at dksX2_wrongBit_0 1 rfl rfl)
theorem dX2_wrongBit_4 : decode cX2_wrongBit 4 = .ok (.iload_n 1, 1) := dk_27 (dk_at dksX2_wrongBit_0 4 rfl rfl)
theorem dX2_wrongBit_5 : decode cX2_wrongBit 5 = .ok (.i2l, 1) := dk_133 (dk_at dksX2_wrongBit_0 5 rfl rfl)
theorem dX2_wrongBit_6 : decode cX2_wrongBit 6 = .ok (.lconst 0, 1) := dk_9 (dk_at dksX2_wrongBit_0 6 rfl rfl)
theorem dX2_wrongBit_7 : decode cX2_wrongBit 7 = .ok (.iload_n 2, 1) := dk_28 (dk_at dksX2_wrongBit_0 7 rfl rfl)
theorem dX2_wrongBit_8 : decode cX2_wrongBit 8 = .ok (.i2l, 1) := dk_133 (dk_at dksX2_wrongBit_0 8 rfl rfl)
theorem dX2_wrongBit_9 : decode cX2_wrongBit 9 = .ok (.invokestatic 71, 3) := dk_184 0 71 (dk_at dksX2_wrongBit_0 9 rfl rfl)
theorem dX2_wrongBit_12 : decode cX2_wrongBit 12 = .ok (.ifCond .ne 8, 3) := dk_154 0 8 (dk_at dksX2_wrongBit_0 12 rfl rfl)
theorem dX2_wrongBit_15 : decode cX2_wrongBit 15 = .ok (.bipush (-2), 2) := dk_16 254 (dk_at dksX2_wrongBit_0 15 rfl rfl)
theorem dX2_wrongBit_17 : decode cX2_wrongBit 17 = .ok (.goto 4, 3) := dk_167 0 4 (dk_at dksX2_wrongBit_0 17 rfl rfl)
theorem dX2_wrongBit_20 : decode cX2_wrongBit 20 = .ok (.iload_n 0, 1) := dk_26 (dk_at dksX2_wrongBit_0 20 rfl rfl)
theorem dX2_wrongBit_21 : decode cX2_wrongBit 21 = .ok (.ireturn, 1) := dk_172 (dk_at dksX2_wrongBit_0 21 rfl rfl)
abbrev cX2_likesOf : ByteArray := prog_12_method_17_code
def yX2_likesOf : MethodName := ⟨RX2, "likesOf", "(II)I"⟩
def dkwX2_likesOf_1 : List UInt8 := [184, 0, 83, 96, 42, 28, 182, 0, 87, 96, 172]
abbrev dktX2_likesOf_1 : List UInt8 := dkwX2_likesOf_1 ++ []
def dkwX2_likesOf_0 : List UInt8 := [16, 60, 42, 27, 28, 182, 0, 79, 100, 42, 180, 0, 16, 27, 46, 42, 180, 0, 16, 28, 46, 126]
abbrev dktX2_likesOf_0 : List UInt8 := dkwX2_likesOf_0 ++ dktX2_likesOf_1
theorem dksX2_likesOf_0 : cX2_likesOf.data.toList.drop 0 = dktX2_likesOf_0 := by decide +kernel
theorem dksX2_likesOf_1 : cX2_likesOf.data.toList.drop 22 = dktX2_likesOf_1 := dk_seg dksX2_likesOf_0 22 rfl rfl
theorem dX2_likesOf_0 : decode cX2_likesOf 0 = .ok (.bipush 60, 2) := dk_16 60 (dk_at dksX2_likesOf_0 0 rfl rfl)
theorem dX2_likesOf_2 : decode cX2_likesOf 2 = .ok (.aload_n 0, 1) := dk_42 (dk_at dksX2_likesOf_0 2 rfl rfl)
theorem dX2_likesOf_3 : decode cX2_likesOf 3 = .ok (.iload_n 1, 1) := dk_27 (dk_at dksX2_likesOf_0 3 rfl rfl)
theorem dX2_likesOf_4 : decode cX2_likesOf 4 = .ok (.iload_n 2, 1) := dk_28 (dk_at dksX2_likesOf_0 4 rfl rfl)
theorem dX2_likesOf_5 : decode cX2_likesOf 5 = .ok (.invokevirtual 79, 3) := dk_182 0 79 (dk_at dksX2_likesOf_0 5 rfl rfl)
theorem dX2_likesOf_8 : decode cX2_likesOf 8 = .ok (.isub, 1) := dk_100 (dk_at dksX2_likesOf_0 8 rfl rfl)
theorem dX2_likesOf_9 : decode cX2_likesOf 9 = .ok (.aload_n 0, 1) := dk_42 (dk_at dksX2_likesOf_0 9 rfl rfl)
theorem dX2_likesOf_10 : decode cX2_likesOf 10 = .ok (.getfield 16, 3) := dk_180 0 16 (dk_at dksX2_likesOf_0 10 rfl rfl)
theorem dX2_likesOf_13 : decode cX2_likesOf 13 = .ok (.iload_n 1, 1) := dk_27 (dk_at dksX2_likesOf_0 13 rfl rfl)
theorem dX2_likesOf_14 : decode cX2_likesOf 14 = .ok (.iaload, 1) := dk_46 (dk_at dksX2_likesOf_0 14 rfl rfl)
theorem dX2_likesOf_15 : decode cX2_likesOf 15 = .ok (.aload_n 0, 1) := dk_42 (dk_at dksX2_likesOf_0 15 rfl rfl)
theorem dX2_likesOf_16 : decode cX2_likesOf 16 = .ok (.getfield 16, 3) := dk_180 0 16 (dk_at dksX2_likesOf_0 16 rfl rfl)
theorem dX2_likesOf_19 : decode cX2_likesOf 19 = .ok (.iload_n 2, 1) := dk_28 (dk_at dksX2_likesOf_0 19 rfl rfl)
theorem dX2_likesOf_20 : decode cX2_likesOf 20 = .ok (.iaload, 1) := dk_46 (dk_at dksX2_likesOf_0 20 rfl rfl)
theorem dX2_likesOf_21 : decode cX2_likesOf 21 = .ok (.iand, 1) := dk_126 (dk_at dksX2_likesOf_0 21 rfl rfl)
theorem dX2_likesOf_22 : decode cX2_likesOf 22 = .ok (.invokestatic 83, 3) := dk_184 0 83 (dk_at dksX2_likesOf_1 0 rfl rfl)
theorem dX2_likesOf_25 : decode cX2_likesOf 25 = .ok (.iadd, 1) := dk_96 (dk_at dksX2_likesOf_1 3 rfl rfl)
theorem dX2_likesOf_26 : decode cX2_likesOf 26 = .ok (.aload_n 0, 1) := dk_42 (dk_at dksX2_likesOf_1 4 rfl rfl)
theorem dX2_likesOf_27 : decode cX2_likesOf 27 = .ok (.iload_n 2, 1) := dk_28 (dk_at dksX2_likesOf_1 5 rfl rfl)
theorem dX2_likesOf_28 : decode cX2_likesOf 28 = .ok (.invokevirtual 87, 3) := dk_182 0 87 (dk_at dksX2_likesOf_1 6 rfl rfl)
theorem dX2_likesOf_31 : decode cX2_likesOf 31 = .ok (.iadd, 1) := dk_96 (dk_at dksX2_likesOf_1 9 rfl rfl)
theorem dX2_likesOf_32 : decode cX2_likesOf 32 = .ok (.ireturn, 1) := dk_172 (dk_at dksX2_likesOf_1 10 rfl rfl)
abbrev cX2_onesOf : ByteArray := prog_12_method_10_code
def yX2_onesOf : MethodName := ⟨RX2, "onesOf", "(I)I"⟩
def dkwX2_onesOf_0 : List UInt8 := [3, 60, 26, 61, 28, 153, 0, 15, 132, 1, 1, 28, 28, 4, 100, 126, 61, 167, 255, 243, 27, 172]
abbrev dktX2_onesOf_0 : List UInt8 := dkwX2_onesOf_0 ++ []
theorem dksX2_onesOf_0 : cX2_onesOf.data.toList.drop 0 = dktX2_onesOf_0 := by decide +kernel
theorem dX2_onesOf_0 : decode cX2_onesOf 0 = .ok (.iconst 0, 1) := dk_3 (dk_at dksX2_onesOf_0 0 rfl rfl)
theorem dX2_onesOf_1 : decode cX2_onesOf 1 = .ok (.istore_n 1, 1) := dk_60 (dk_at dksX2_onesOf_0 1 rfl rfl)
theorem dX2_onesOf_2 : decode cX2_onesOf 2 = .ok (.iload_n 0, 1) := dk_26 (dk_at dksX2_onesOf_0 2 rfl rfl)
theorem dX2_onesOf_3 : decode cX2_onesOf 3 = .ok (.istore_n 2, 1) := dk_61 (dk_at dksX2_onesOf_0 3 rfl rfl)
theorem dX2_onesOf_4 : decode cX2_onesOf 4 = .ok (.iload_n 2, 1) := dk_28 (dk_at dksX2_onesOf_0 4 rfl rfl)
theorem dX2_onesOf_5 : decode cX2_onesOf 5 = .ok (.ifCond .eq 15, 3) := dk_153 0 15 (dk_at dksX2_onesOf_0 5 rfl rfl)
theorem dX2_onesOf_8 : decode cX2_onesOf 8 = .ok (.iinc 1 1, 3) := dk_132 1 1 (dk_at dksX2_onesOf_0 8 rfl rfl)
theorem dX2_onesOf_11 : decode cX2_onesOf 11 = .ok (.iload_n 2, 1) := dk_28 (dk_at dksX2_onesOf_0 11 rfl rfl)
theorem dX2_onesOf_12 : decode cX2_onesOf 12 = .ok (.iload_n 2, 1) := dk_28 (dk_at dksX2_onesOf_0 12 rfl rfl)
theorem dX2_onesOf_13 : decode cX2_onesOf 13 = .ok (.iconst 1, 1) := dk_4 (dk_at dksX2_onesOf_0 13 rfl rfl)
theorem dX2_onesOf_14 : decode cX2_onesOf 14 = .ok (.isub, 1) := dk_100 (dk_at dksX2_onesOf_0 14 rfl rfl)
theorem dX2_onesOf_15 : decode cX2_onesOf 15 = .ok (.iand, 1) := dk_126 (dk_at dksX2_onesOf_0 15 rfl rfl)
theorem dX2_onesOf_16 : decode cX2_onesOf 16 = .ok (.istore_n 2, 1) := dk_61 (dk_at dksX2_onesOf_0 16 rfl rfl)
theorem dX2_onesOf_17 : decode cX2_onesOf 17 = .ok (.goto (-13), 3) := dk_167 255 243 (dk_at dksX2_onesOf_0 17 rfl rfl)
theorem dX2_onesOf_20 : decode cX2_onesOf 20 = .ok (.iload_n 1, 1) := dk_27 (dk_at dksX2_onesOf_0 20 rfl rfl)
theorem dX2_onesOf_21 : decode cX2_onesOf 21 = .ok (.ireturn, 1) := dk_172 (dk_at dksX2_onesOf_0 21 rfl rfl)
abbrev cX2_person : ByteArray := prog_12_method_47_code
def yX2_person : MethodName := ⟨RX2, "person", "(III)I"⟩
def dkwX2_person_4 : List UInt8 := [100, 172]
abbrev dktX2_person_4 : List UInt8 := dkwX2_person_4 ++ []
def dkwX2_person_3 : List UInt8 := [42, 21, 4, 182, 0, 128, 172, 42, 27, 28, 29, 182, 0, 161, 42, 3, 181, 0, 187, 42, 180, 0, 68, 4]
abbrev dktX2_person_3 : List UInt8 := dkwX2_person_3 ++ dktX2_person_4
def dkwX2_person_2 : List UInt8 := [29, 16, 31, 163, 0, 12, 42, 180, 0, 68, 16, 6, 160, 0, 7, 16, 250, 54, 4, 21, 4, 156, 0, 10]
abbrev dktX2_person_2 : List UInt8 := dkwX2_person_2 ++ dktX2_person_3
def dkwX2_person_1 : List UInt8 := [167, 0, 43, 28, 155, 0, 7, 29, 156, 0, 10, 16, 252, 54, 4, 167, 0, 28, 28, 16, 9, 163, 0, 18]
abbrev dktX2_person_1 : List UInt8 := dkwX2_person_1 ++ dktX2_person_2
def dkwX2_person_0 : List UInt8 := [42, 3, 181, 0, 65, 3, 54, 4, 27, 133, 9, 20, 0, 215, 184, 0, 71, 154, 0, 10, 16, 254, 54, 4]
abbrev dktX2_person_0 : List UInt8 := dkwX2_person_0 ++ dktX2_person_1
theorem dksX2_person_0 : cX2_person.data.toList.drop 0 = dktX2_person_0 := by decide +kernel
theorem dksX2_person_1 : cX2_person.data.toList.drop 24 = dktX2_person_1 := dk_seg dksX2_person_0 24 rfl rfl
theorem dksX2_person_2 : cX2_person.data.toList.drop 48 = dktX2_person_2 := dk_seg dksX2_person_1 24 rfl rfl
theorem dksX2_person_3 : cX2_person.data.toList.drop 72 = dktX2_person_3 := dk_seg dksX2_person_2 24 rfl rfl
theorem dksX2_person_4 : cX2_person.data.toList.drop 96 = dktX2_person_4 := dk_seg dksX2_person_3 24 rfl rfl
theorem dX2_person_0 : decode cX2_person 0 = .ok (.aload_n 0, 1) := dk_42 (dk_at dksX2_person_0 0 rfl rfl)
theorem dX2_person_1 : decode cX2_person 1 = .ok (.iconst 0, 1) := dk_3 (dk_at dksX2_person_0 1 rfl rfl)
theorem dX2_person_2 : decode cX2_person 2 = .ok (.putfield 65, 3) := dk_181 0 65 (dk_at dksX2_person_0 2 rfl rfl)
theorem dX2_person_5 : decode cX2_person 5 = .ok (.iconst 0, 1) := dk_3 (dk_at dksX2_person_0 5 rfl rfl)
theorem dX2_person_6 : decode cX2_person 6 = .ok (.istore 4, 2) := dk_54 4 (dk_at dksX2_person_0 6 rfl rfl)
theorem dX2_person_8 : decode cX2_person 8 = .ok (.iload_n 1, 1) := dk_27 (dk_at dksX2_person_0 8 rfl rfl)
theorem dX2_person_9 : decode cX2_person 9 = .ok (.i2l, 1) := dk_133 (dk_at dksX2_person_0 9 rfl rfl)
theorem dX2_person_10 : decode cX2_person 10 = .ok (.lconst 0, 1) := dk_9 (dk_at dksX2_person_0 10 rfl rfl)
theorem dX2_person_11 : decode cX2_person 11 = .ok (.ldc2_w 215, 3) := dk_20 0 215 (dk_at dksX2_person_0 11 rfl rfl)
theorem dX2_person_14 : decode cX2_person 14 = .ok (.invokestatic 71, 3) := dk_184 0 71 (dk_at dksX2_person_0 14 rfl rfl)
theorem dX2_person_17 : decode cX2_person 17 = .ok (.ifCond .ne 10, 3) := dk_154 0 10 (dk_at dksX2_person_0 17 rfl rfl)
theorem dX2_person_20 : decode cX2_person 20 = .ok (.bipush (-2), 2) := dk_16 254 (dk_at dksX2_person_0 20 rfl rfl)
theorem dX2_person_22 : decode cX2_person 22 = .ok (.istore 4, 2) := dk_54 4 (dk_at dksX2_person_0 22 rfl rfl)
theorem dX2_person_24 : decode cX2_person 24 = .ok (.goto 43, 3) := dk_167 0 43 (dk_at dksX2_person_1 0 rfl rfl)
theorem dX2_person_27 : decode cX2_person 27 = .ok (.iload_n 2, 1) := dk_28 (dk_at dksX2_person_1 3 rfl rfl)
theorem dX2_person_28 : decode cX2_person 28 = .ok (.ifCond .lt 7, 3) := dk_155 0 7 (dk_at dksX2_person_1 4 rfl rfl)
theorem dX2_person_31 : decode cX2_person 31 = .ok (.iload_n 3, 1) := dk_29 (dk_at dksX2_person_1 7 rfl rfl)
theorem dX2_person_32 : decode cX2_person 32 = .ok (.ifCond .ge 10, 3) := dk_156 0 10 (dk_at dksX2_person_1 8 rfl rfl)
theorem dX2_person_35 : decode cX2_person 35 = .ok (.bipush (-4), 2) := dk_16 252 (dk_at dksX2_person_1 11 rfl rfl)
theorem dX2_person_37 : decode cX2_person 37 = .ok (.istore 4, 2) := dk_54 4 (dk_at dksX2_person_1 13 rfl rfl)
theorem dX2_person_39 : decode cX2_person 39 = .ok (.goto 28, 3) := dk_167 0 28 (dk_at dksX2_person_1 15 rfl rfl)
theorem dX2_person_42 : decode cX2_person 42 = .ok (.iload_n 2, 1) := dk_28 (dk_at dksX2_person_1 18 rfl rfl)
theorem dX2_person_43 : decode cX2_person 43 = .ok (.bipush 9, 2) := dk_16 9 (dk_at dksX2_person_1 19 rfl rfl)
theorem dX2_person_45 : decode cX2_person 45 = .ok (.if_icmp .gt 18, 3) := dk_163 0 18 (dk_at dksX2_person_1 21 rfl rfl)
theorem dX2_person_48 : decode cX2_person 48 = .ok (.iload_n 3, 1) := dk_29 (dk_at dksX2_person_2 0 rfl rfl)
theorem dX2_person_49 : decode cX2_person 49 = .ok (.bipush 31, 2) := dk_16 31 (dk_at dksX2_person_2 1 rfl rfl)
theorem dX2_person_51 : decode cX2_person 51 = .ok (.if_icmp .gt 12, 3) := dk_163 0 12 (dk_at dksX2_person_2 3 rfl rfl)
theorem dX2_person_54 : decode cX2_person 54 = .ok (.aload_n 0, 1) := dk_42 (dk_at dksX2_person_2 6 rfl rfl)
theorem dX2_person_55 : decode cX2_person 55 = .ok (.getfield 68, 3) := dk_180 0 68 (dk_at dksX2_person_2 7 rfl rfl)
theorem dX2_person_58 : decode cX2_person 58 = .ok (.bipush 6, 2) := dk_16 6 (dk_at dksX2_person_2 10 rfl rfl)
theorem dX2_person_60 : decode cX2_person 60 = .ok (.if_icmp .ne 7, 3) := dk_160 0 7 (dk_at dksX2_person_2 12 rfl rfl)
theorem dX2_person_63 : decode cX2_person 63 = .ok (.bipush (-6), 2) := dk_16 250 (dk_at dksX2_person_2 15 rfl rfl)
theorem dX2_person_65 : decode cX2_person 65 = .ok (.istore 4, 2) := dk_54 4 (dk_at dksX2_person_2 17 rfl rfl)
theorem dX2_person_67 : decode cX2_person 67 = .ok (.iload 4, 2) := dk_21 4 (dk_at dksX2_person_2 19 rfl rfl)
theorem dX2_person_69 : decode cX2_person 69 = .ok (.ifCond .ge 10, 3) := dk_156 0 10 (dk_at dksX2_person_2 21 rfl rfl)
theorem dX2_person_72 : decode cX2_person 72 = .ok (.aload_n 0, 1) := dk_42 (dk_at dksX2_person_3 0 rfl rfl)
theorem dX2_person_73 : decode cX2_person 73 = .ok (.iload 4, 2) := dk_21 4 (dk_at dksX2_person_3 1 rfl rfl)
theorem dX2_person_75 : decode cX2_person 75 = .ok (.invokevirtual 128, 3) := dk_182 0 128 (dk_at dksX2_person_3 3 rfl rfl)
theorem dX2_person_78 : decode cX2_person 78 = .ok (.ireturn, 1) := dk_172 (dk_at dksX2_person_3 6 rfl rfl)
theorem dX2_person_79 : decode cX2_person 79 = .ok (.aload_n 0, 1) := dk_42 (dk_at dksX2_person_3 7 rfl rfl)
theorem dX2_person_80 : decode cX2_person 80 = .ok (.iload_n 1, 1) := dk_27 (dk_at dksX2_person_3 8 rfl rfl)
theorem dX2_person_81 : decode cX2_person 81 = .ok (.iload_n 2, 1) := dk_28 (dk_at dksX2_person_3 9 rfl rfl)
theorem dX2_person_82 : decode cX2_person 82 = .ok (.iload_n 3, 1) := dk_29 (dk_at dksX2_person_3 10 rfl rfl)
theorem dX2_person_83 : decode cX2_person 83 = .ok (.invokevirtual 161, 3) := dk_182 0 161 (dk_at dksX2_person_3 11 rfl rfl)
theorem dX2_person_86 : decode cX2_person 86 = .ok (.aload_n 0, 1) := dk_42 (dk_at dksX2_person_3 14 rfl rfl)
theorem dX2_person_87 : decode cX2_person 87 = .ok (.iconst 0, 1) := dk_3 (dk_at dksX2_person_3 15 rfl rfl)
theorem dX2_person_88 : decode cX2_person 88 = .ok (.putfield 187, 3) := dk_181 0 187 (dk_at dksX2_person_3 16 rfl rfl)
theorem dX2_person_91 : decode cX2_person 91 = .ok (.aload_n 0, 1) := dk_42 (dk_at dksX2_person_3 19 rfl rfl)
theorem dX2_person_92 : decode cX2_person 92 = .ok (.getfield 68, 3) := dk_180 0 68 (dk_at dksX2_person_3 20 rfl rfl)
theorem dX2_person_95 : decode cX2_person 95 = .ok (.iconst 1, 1) := dk_4 (dk_at dksX2_person_3 23 rfl rfl)
theorem dX2_person_96 : decode cX2_person 96 = .ok (.isub, 1) := dk_100 (dk_at dksX2_person_4 0 rfl rfl)
theorem dX2_person_97 : decode cX2_person 97 = .ok (.ireturn, 1) := dk_172 (dk_at dksX2_person_4 1 rfl rfl)
abbrev cX2_comes : ByteArray := prog_12_method_48_code
def yX2_comes : MethodName := ⟨RX2, "comes", "(II)I"⟩
def dkwX2_comes_2 : List UInt8 := [180, 0, 16, 27, 28, 79, 21, 4, 172]
abbrev dktX2_comes_2 : List UInt8 := dkwX2_comes_2 ++ []
def dkwX2_comes_1 : List UInt8 := [62, 29, 156, 0, 9, 42, 29, 182, 0, 128, 172, 42, 182, 0, 220, 42, 180, 0, 16, 27, 46, 54, 4, 42]
abbrev dktX2_comes_1 : List UInt8 := dkwX2_comes_1 ++ dktX2_comes_2
def dkwX2_comes_0 : List UInt8 := [42, 3, 181, 0, 65, 42, 27, 182, 0, 75, 153, 0, 13, 28, 3, 16, 31, 184, 0, 217, 167, 0, 4, 2]
abbrev dktX2_comes_0 : List UInt8 := dkwX2_comes_0 ++ dktX2_comes_1
theorem dksX2_comes_0 : cX2_comes.data.toList.drop 0 = dktX2_comes_0 := by decide +kernel
theorem dksX2_comes_1 : cX2_comes.data.toList.drop 24 = dktX2_comes_1 := dk_seg dksX2_comes_0 24 rfl rfl
theorem dksX2_comes_2 : cX2_comes.data.toList.drop 48 = dktX2_comes_2 := dk_seg dksX2_comes_1 24 rfl rfl
theorem dX2_comes_0 : decode cX2_comes 0 = .ok (.aload_n 0, 1) := dk_42 (dk_at dksX2_comes_0 0 rfl rfl)
theorem dX2_comes_1 : decode cX2_comes 1 = .ok (.iconst 0, 1) := dk_3 (dk_at dksX2_comes_0 1 rfl rfl)
theorem dX2_comes_2 : decode cX2_comes 2 = .ok (.putfield 65, 3) := dk_181 0 65 (dk_at dksX2_comes_0 2 rfl rfl)
theorem dX2_comes_5 : decode cX2_comes 5 = .ok (.aload_n 0, 1) := dk_42 (dk_at dksX2_comes_0 5 rfl rfl)
theorem dX2_comes_6 : decode cX2_comes 6 = .ok (.iload_n 1, 1) := dk_27 (dk_at dksX2_comes_0 6 rfl rfl)
theorem dX2_comes_7 : decode cX2_comes 7 = .ok (.invokevirtual 75, 3) := dk_182 0 75 (dk_at dksX2_comes_0 7 rfl rfl)
theorem dX2_comes_10 : decode cX2_comes 10 = .ok (.ifCond .eq 13, 3) := dk_153 0 13 (dk_at dksX2_comes_0 10 rfl rfl)
theorem dX2_comes_13 : decode cX2_comes 13 = .ok (.iload_n 2, 1) := dk_28 (dk_at dksX2_comes_0 13 rfl rfl)
theorem dX2_comes_14 : decode cX2_comes 14 = .ok (.iconst 0, 1) := dk_3 (dk_at dksX2_comes_0 14 rfl rfl)
theorem dX2_comes_15 : decode cX2_comes 15 = .ok (.bipush 31, 2) := dk_16 31 (dk_at dksX2_comes_0 15 rfl rfl)
theorem dX2_comes_17 : decode cX2_comes 17 = .ok (.invokestatic 217, 3) := dk_184 0 217 (dk_at dksX2_comes_0 17 rfl rfl)
theorem dX2_comes_20 : decode cX2_comes 20 = .ok (.goto 4, 3) := dk_167 0 4 (dk_at dksX2_comes_0 20 rfl rfl)
theorem dX2_comes_23 : decode cX2_comes 23 = .ok (.iconst (-1), 1) := dk_2 (dk_at dksX2_comes_0 23 rfl rfl)
theorem dX2_comes_24 : decode cX2_comes 24 = .ok (.istore_n 3, 1) := dk_62 (dk_at dksX2_comes_1 0 rfl rfl)
theorem dX2_comes_25 : decode cX2_comes 25 = .ok (.iload_n 3, 1) := dk_29 (dk_at dksX2_comes_1 1 rfl rfl)
theorem dX2_comes_26 : decode cX2_comes 26 = .ok (.ifCond .ge 9, 3) := dk_156 0 9 (dk_at dksX2_comes_1 2 rfl rfl)
theorem dX2_comes_29 : decode cX2_comes 29 = .ok (.aload_n 0, 1) := dk_42 (dk_at dksX2_comes_1 5 rfl rfl)
theorem dX2_comes_30 : decode cX2_comes 30 = .ok (.iload_n 3, 1) := dk_29 (dk_at dksX2_comes_1 6 rfl rfl)
theorem dX2_comes_31 : decode cX2_comes 31 = .ok (.invokevirtual 128, 3) := dk_182 0 128 (dk_at dksX2_comes_1 7 rfl rfl)
theorem dX2_comes_34 : decode cX2_comes 34 = .ok (.ireturn, 1) := dk_172 (dk_at dksX2_comes_1 10 rfl rfl)
theorem dX2_comes_35 : decode cX2_comes 35 = .ok (.aload_n 0, 1) := dk_42 (dk_at dksX2_comes_1 11 rfl rfl)
theorem dX2_comes_36 : decode cX2_comes 36 = .ok (.invokevirtual 220, 3) := dk_182 0 220 (dk_at dksX2_comes_1 12 rfl rfl)
theorem dX2_comes_39 : decode cX2_comes 39 = .ok (.aload_n 0, 1) := dk_42 (dk_at dksX2_comes_1 15 rfl rfl)
theorem dX2_comes_40 : decode cX2_comes 40 = .ok (.getfield 16, 3) := dk_180 0 16 (dk_at dksX2_comes_1 16 rfl rfl)
theorem dX2_comes_43 : decode cX2_comes 43 = .ok (.iload_n 1, 1) := dk_27 (dk_at dksX2_comes_1 19 rfl rfl)
theorem dX2_comes_44 : decode cX2_comes 44 = .ok (.iaload, 1) := dk_46 (dk_at dksX2_comes_1 20 rfl rfl)
theorem dX2_comes_45 : decode cX2_comes 45 = .ok (.istore 4, 2) := dk_54 4 (dk_at dksX2_comes_1 21 rfl rfl)
theorem dX2_comes_47 : decode cX2_comes 47 = .ok (.aload_n 0, 1) := dk_42 (dk_at dksX2_comes_1 23 rfl rfl)
theorem dX2_comes_48 : decode cX2_comes 48 = .ok (.getfield 16, 3) := dk_180 0 16 (dk_at dksX2_comes_2 0 rfl rfl)
theorem dX2_comes_51 : decode cX2_comes 51 = .ok (.iload_n 1, 1) := dk_27 (dk_at dksX2_comes_2 3 rfl rfl)
theorem dX2_comes_52 : decode cX2_comes 52 = .ok (.iload_n 2, 1) := dk_28 (dk_at dksX2_comes_2 4 rfl rfl)
theorem dX2_comes_53 : decode cX2_comes 53 = .ok (.iastore, 1) := dk_79 (dk_at dksX2_comes_2 5 rfl rfl)
theorem dX2_comes_54 : decode cX2_comes 54 = .ok (.iload 4, 2) := dk_21 4 (dk_at dksX2_comes_2 6 rfl rfl)
theorem dX2_comes_56 : decode cX2_comes 56 = .ok (.ireturn, 1) := dk_172 (dk_at dksX2_comes_2 8 rfl rfl)
abbrev cX2_wrongNumber : ByteArray := prog_12_method_7_code
def yX2_wrongNumber : MethodName := ⟨RX2, "wrongNumber", "(III)I"⟩
def dkwX2_wrongNumber_0 : List UInt8 := [26, 27, 162, 0, 8, 16, 252, 167, 0, 14, 26, 28, 164, 0, 8, 16, 250, 167, 0, 4, 3, 172]
abbrev dktX2_wrongNumber_0 : List UInt8 := dkwX2_wrongNumber_0 ++ []
theorem dksX2_wrongNumber_0 : cX2_wrongNumber.data.toList.drop 0 = dktX2_wrongNumber_0 := by decide +kernel
theorem dX2_wrongNumber_0 : decode cX2_wrongNumber 0 = .ok (.iload_n 0, 1) := dk_26 (dk_at dksX2_wrongNumber_0 0 rfl rfl)
theorem dX2_wrongNumber_1 : decode cX2_wrongNumber 1 = .ok (.iload_n 1, 1) := dk_27 (dk_at dksX2_wrongNumber_0 1 rfl rfl)
theorem dX2_wrongNumber_2 : decode cX2_wrongNumber 2 = .ok (.if_icmp .ge 8, 3) := dk_162 0 8 (dk_at dksX2_wrongNumber_0 2 rfl rfl)
theorem dX2_wrongNumber_5 : decode cX2_wrongNumber 5 = .ok (.bipush (-4), 2) := dk_16 252 (dk_at dksX2_wrongNumber_0 5 rfl rfl)
theorem dX2_wrongNumber_7 : decode cX2_wrongNumber 7 = .ok (.goto 14, 3) := dk_167 0 14 (dk_at dksX2_wrongNumber_0 7 rfl rfl)
theorem dX2_wrongNumber_10 : decode cX2_wrongNumber 10 = .ok (.iload_n 0, 1) := dk_26 (dk_at dksX2_wrongNumber_0 10 rfl rfl)
theorem dX2_wrongNumber_11 : decode cX2_wrongNumber 11 = .ok (.iload_n 2, 1) := dk_28 (dk_at dksX2_wrongNumber_0 11 rfl rfl)
theorem dX2_wrongNumber_12 : decode cX2_wrongNumber 12 = .ok (.if_icmp .le 8, 3) := dk_164 0 8 (dk_at dksX2_wrongNumber_0 12 rfl rfl)
theorem dX2_wrongNumber_15 : decode cX2_wrongNumber 15 = .ok (.bipush (-6), 2) := dk_16 250 (dk_at dksX2_wrongNumber_0 15 rfl rfl)
theorem dX2_wrongNumber_17 : decode cX2_wrongNumber 17 = .ok (.goto 4, 3) := dk_167 0 4 (dk_at dksX2_wrongNumber_0 17 rfl rfl)
theorem dX2_wrongNumber_20 : decode cX2_wrongNumber 20 = .ok (.iconst 0, 1) := dk_3 (dk_at dksX2_wrongNumber_0 20 rfl rfl)
theorem dX2_wrongNumber_21 : decode cX2_wrongNumber 21 = .ok (.ireturn, 1) := dk_172 (dk_at dksX2_wrongNumber_0 21 rfl rfl)
abbrev cX2_keepTurn : ByteArray := prog_12_method_43_code
def yX2_keepTurn : MethodName := ⟨RX2, "keepTurn", "()V"⟩
def dkwX2_keepTurn_4 : List UInt8 := [180, 0, 187, 4, 96, 181, 0, 187, 177]
abbrev dktX2_keepTurn_4 : List UInt8 := dkwX2_keepTurn_4 ++ []
def dkwX2_keepTurn_3 : List UInt8 := [16, 62, 42, 180, 0, 187, 104, 27, 96, 42, 180, 0, 49, 27, 46, 79, 132, 1, 1, 167, 255, 227, 42, 89]
abbrev dktX2_keepTurn_3 : List UInt8 := dkwX2_keepTurn_3 ++ dktX2_keepTurn_4
def dkwX2_keepTurn_2 : List UInt8 := [181, 0, 187, 42, 42, 180, 0, 49, 4, 182, 0, 202, 3, 60, 27, 16, 62, 162, 0, 29, 42, 180, 0, 46]
abbrev dktX2_keepTurn_2 : List UInt8 := dkwX2_keepTurn_2 ++ dktX2_keepTurn_3
def dkwX2_keepTurn_1 : List UInt8 := [16, 62, 100, 42, 180, 0, 46, 27, 46, 79, 132, 1, 1, 167, 255, 231, 42, 89, 180, 0, 187, 4, 100]
abbrev dktX2_keepTurn_1 : List UInt8 := dkwX2_keepTurn_1 ++ dktX2_keepTurn_2
def dkwX2_keepTurn_0 : List UInt8 := [42, 180, 0, 187, 16, 8, 160, 0, 44, 16, 62, 60, 27, 17, 1, 240, 162, 0, 24, 42, 180, 0, 46, 27]
abbrev dktX2_keepTurn_0 : List UInt8 := dkwX2_keepTurn_0 ++ dktX2_keepTurn_1
theorem dksX2_keepTurn_0 : cX2_keepTurn.data.toList.drop 0 = dktX2_keepTurn_0 := by decide +kernel
theorem dksX2_keepTurn_1 : cX2_keepTurn.data.toList.drop 24 = dktX2_keepTurn_1 := dk_seg dksX2_keepTurn_0 24 rfl rfl
theorem dksX2_keepTurn_2 : cX2_keepTurn.data.toList.drop 47 = dktX2_keepTurn_2 := dk_seg dksX2_keepTurn_1 23 rfl rfl
theorem dksX2_keepTurn_3 : cX2_keepTurn.data.toList.drop 71 = dktX2_keepTurn_3 := dk_seg dksX2_keepTurn_2 24 rfl rfl
theorem dksX2_keepTurn_4 : cX2_keepTurn.data.toList.drop 95 = dktX2_keepTurn_4 := dk_seg dksX2_keepTurn_3 24 rfl rfl
theorem dX2_keepTurn_0 : decode cX2_keepTurn 0 = .ok (.aload_n 0, 1) := dk_42 (dk_at dksX2_keepTurn_0 0 rfl rfl)
theorem dX2_keepTurn_1 : decode cX2_keepTurn 1 = .ok (.getfield 187, 3) := dk_180 0 187 (dk_at dksX2_keepTurn_0 1 rfl rfl)
theorem dX2_keepTurn_4 : decode cX2_keepTurn 4 = .ok (.bipush 8, 2) := dk_16 8 (dk_at dksX2_keepTurn_0 4 rfl rfl)
theorem dX2_keepTurn_6 : decode cX2_keepTurn 6 = .ok (.if_icmp .ne 44, 3) := dk_160 0 44 (dk_at dksX2_keepTurn_0 6 rfl rfl)
theorem dX2_keepTurn_9 : decode cX2_keepTurn 9 = .ok (.bipush 62, 2) := dk_16 62 (dk_at dksX2_keepTurn_0 9 rfl rfl)
theorem dX2_keepTurn_11 : decode cX2_keepTurn 11 = .ok (.istore_n 1, 1) := dk_60 (dk_at dksX2_keepTurn_0 11 rfl rfl)
theorem dX2_keepTurn_12 : decode cX2_keepTurn 12 = .ok (.iload_n 1, 1) := dk_27 (dk_at dksX2_keepTurn_0 12 rfl rfl)
theorem dX2_keepTurn_13 : decode cX2_keepTurn 13 = .ok (.sipush 496, 3) := dk_17 1 240 (dk_at dksX2_keepTurn_0 13 rfl rfl)
theorem dX2_keepTurn_16 : decode cX2_keepTurn 16 = .ok (.if_icmp .ge 24, 3) := dk_162 0 24 (dk_at dksX2_keepTurn_0 16 rfl rfl)
theorem dX2_keepTurn_19 : decode cX2_keepTurn 19 = .ok (.aload_n 0, 1) := dk_42 (dk_at dksX2_keepTurn_0 19 rfl rfl)
theorem dX2_keepTurn_20 : decode cX2_keepTurn 20 = .ok (.getfield 46, 3) := dk_180 0 46 (dk_at dksX2_keepTurn_0 20 rfl rfl)
theorem dX2_keepTurn_23 : decode cX2_keepTurn 23 = .ok (.iload_n 1, 1) := dk_27 (dk_at dksX2_keepTurn_0 23 rfl rfl)
theorem dX2_keepTurn_24 : decode cX2_keepTurn 24 = .ok (.bipush 62, 2) := dk_16 62 (dk_at dksX2_keepTurn_1 0 rfl rfl)
theorem dX2_keepTurn_26 : decode cX2_keepTurn 26 = .ok (.isub, 1) := dk_100 (dk_at dksX2_keepTurn_1 2 rfl rfl)
theorem dX2_keepTurn_27 : decode cX2_keepTurn 27 = .ok (.aload_n 0, 1) := dk_42 (dk_at dksX2_keepTurn_1 3 rfl rfl)
theorem dX2_keepTurn_28 : decode cX2_keepTurn 28 = .ok (.getfield 46, 3) := dk_180 0 46 (dk_at dksX2_keepTurn_1 4 rfl rfl)
theorem dX2_keepTurn_31 : decode cX2_keepTurn 31 = .ok (.iload_n 1, 1) := dk_27 (dk_at dksX2_keepTurn_1 7 rfl rfl)
theorem dX2_keepTurn_32 : decode cX2_keepTurn 32 = .ok (.iaload, 1) := dk_46 (dk_at dksX2_keepTurn_1 8 rfl rfl)
theorem dX2_keepTurn_33 : decode cX2_keepTurn 33 = .ok (.iastore, 1) := dk_79 (dk_at dksX2_keepTurn_1 9 rfl rfl)
theorem dX2_keepTurn_34 : decode cX2_keepTurn 34 = .ok (.iinc 1 1, 3) := dk_132 1 1 (dk_at dksX2_keepTurn_1 10 rfl rfl)
theorem dX2_keepTurn_37 : decode cX2_keepTurn 37 = .ok (.goto (-25), 3) := dk_167 255 231 (dk_at dksX2_keepTurn_1 13 rfl rfl)
theorem dX2_keepTurn_40 : decode cX2_keepTurn 40 = .ok (.aload_n 0, 1) := dk_42 (dk_at dksX2_keepTurn_1 16 rfl rfl)
theorem dX2_keepTurn_41 : decode cX2_keepTurn 41 = .ok (.dup, 1) := dk_89 (dk_at dksX2_keepTurn_1 17 rfl rfl)
theorem dX2_keepTurn_42 : decode cX2_keepTurn 42 = .ok (.getfield 187, 3) := dk_180 0 187 (dk_at dksX2_keepTurn_1 18 rfl rfl)
theorem dX2_keepTurn_45 : decode cX2_keepTurn 45 = .ok (.iconst 1, 1) := dk_4 (dk_at dksX2_keepTurn_1 21 rfl rfl)
theorem dX2_keepTurn_46 : decode cX2_keepTurn 46 = .ok (.isub, 1) := dk_100 (dk_at dksX2_keepTurn_1 22 rfl rfl)
theorem dX2_keepTurn_47 : decode cX2_keepTurn 47 = .ok (.putfield 187, 3) := dk_181 0 187 (dk_at dksX2_keepTurn_2 0 rfl rfl)
theorem dX2_keepTurn_50 : decode cX2_keepTurn 50 = .ok (.aload_n 0, 1) := dk_42 (dk_at dksX2_keepTurn_2 3 rfl rfl)
theorem dX2_keepTurn_51 : decode cX2_keepTurn 51 = .ok (.aload_n 0, 1) := dk_42 (dk_at dksX2_keepTurn_2 4 rfl rfl)
theorem dX2_keepTurn_52 : decode cX2_keepTurn 52 = .ok (.getfield 49, 3) := dk_180 0 49 (dk_at dksX2_keepTurn_2 5 rfl rfl)
theorem dX2_keepTurn_55 : decode cX2_keepTurn 55 = .ok (.iconst 1, 1) := dk_4 (dk_at dksX2_keepTurn_2 8 rfl rfl)
theorem dX2_keepTurn_56 : decode cX2_keepTurn 56 = .ok (.invokevirtual 202, 3) := dk_182 0 202 (dk_at dksX2_keepTurn_2 9 rfl rfl)
theorem dX2_keepTurn_59 : decode cX2_keepTurn 59 = .ok (.iconst 0, 1) := dk_3 (dk_at dksX2_keepTurn_2 12 rfl rfl)
theorem dX2_keepTurn_60 : decode cX2_keepTurn 60 = .ok (.istore_n 1, 1) := dk_60 (dk_at dksX2_keepTurn_2 13 rfl rfl)
theorem dX2_keepTurn_61 : decode cX2_keepTurn 61 = .ok (.iload_n 1, 1) := dk_27 (dk_at dksX2_keepTurn_2 14 rfl rfl)
theorem dX2_keepTurn_62 : decode cX2_keepTurn 62 = .ok (.bipush 62, 2) := dk_16 62 (dk_at dksX2_keepTurn_2 15 rfl rfl)
theorem dX2_keepTurn_64 : decode cX2_keepTurn 64 = .ok (.if_icmp .ge 29, 3) := dk_162 0 29 (dk_at dksX2_keepTurn_2 17 rfl rfl)
theorem dX2_keepTurn_67 : decode cX2_keepTurn 67 = .ok (.aload_n 0, 1) := dk_42 (dk_at dksX2_keepTurn_2 20 rfl rfl)
theorem dX2_keepTurn_68 : decode cX2_keepTurn 68 = .ok (.getfield 46, 3) := dk_180 0 46 (dk_at dksX2_keepTurn_2 21 rfl rfl)
theorem dX2_keepTurn_71 : decode cX2_keepTurn 71 = .ok (.bipush 62, 2) := dk_16 62 (dk_at dksX2_keepTurn_3 0 rfl rfl)
theorem dX2_keepTurn_73 : decode cX2_keepTurn 73 = .ok (.aload_n 0, 1) := dk_42 (dk_at dksX2_keepTurn_3 2 rfl rfl)
theorem dX2_keepTurn_74 : decode cX2_keepTurn 74 = .ok (.getfield 187, 3) := dk_180 0 187 (dk_at dksX2_keepTurn_3 3 rfl rfl)
theorem dX2_keepTurn_77 : decode cX2_keepTurn 77 = .ok (.imul, 1) := dk_104 (dk_at dksX2_keepTurn_3 6 rfl rfl)
theorem dX2_keepTurn_78 : decode cX2_keepTurn 78 = .ok (.iload_n 1, 1) := dk_27 (dk_at dksX2_keepTurn_3 7 rfl rfl)
theorem dX2_keepTurn_79 : decode cX2_keepTurn 79 = .ok (.iadd, 1) := dk_96 (dk_at dksX2_keepTurn_3 8 rfl rfl)
theorem dX2_keepTurn_80 : decode cX2_keepTurn 80 = .ok (.aload_n 0, 1) := dk_42 (dk_at dksX2_keepTurn_3 9 rfl rfl)
theorem dX2_keepTurn_81 : decode cX2_keepTurn 81 = .ok (.getfield 49, 3) := dk_180 0 49 (dk_at dksX2_keepTurn_3 10 rfl rfl)
theorem dX2_keepTurn_84 : decode cX2_keepTurn 84 = .ok (.iload_n 1, 1) := dk_27 (dk_at dksX2_keepTurn_3 13 rfl rfl)
theorem dX2_keepTurn_85 : decode cX2_keepTurn 85 = .ok (.iaload, 1) := dk_46 (dk_at dksX2_keepTurn_3 14 rfl rfl)
theorem dX2_keepTurn_86 : decode cX2_keepTurn 86 = .ok (.iastore, 1) := dk_79 (dk_at dksX2_keepTurn_3 15 rfl rfl)
theorem dX2_keepTurn_87 : decode cX2_keepTurn 87 = .ok (.iinc 1 1, 3) := dk_132 1 1 (dk_at dksX2_keepTurn_3 16 rfl rfl)
theorem dX2_keepTurn_90 : decode cX2_keepTurn 90 = .ok (.goto (-29), 3) := dk_167 255 227 (dk_at dksX2_keepTurn_3 19 rfl rfl)
theorem dX2_keepTurn_93 : decode cX2_keepTurn 93 = .ok (.aload_n 0, 1) := dk_42 (dk_at dksX2_keepTurn_3 22 rfl rfl)
theorem dX2_keepTurn_94 : decode cX2_keepTurn 94 = .ok (.dup, 1) := dk_89 (dk_at dksX2_keepTurn_3 23 rfl rfl)
theorem dX2_keepTurn_95 : decode cX2_keepTurn 95 = .ok (.getfield 187, 3) := dk_180 0 187 (dk_at dksX2_keepTurn_4 0 rfl rfl)
theorem dX2_keepTurn_98 : decode cX2_keepTurn 98 = .ok (.iconst 1, 1) := dk_4 (dk_at dksX2_keepTurn_4 3 rfl rfl)
theorem dX2_keepTurn_99 : decode cX2_keepTurn 99 = .ok (.iadd, 1) := dk_96 (dk_at dksX2_keepTurn_4 4 rfl rfl)
theorem dX2_keepTurn_100 : decode cX2_keepTurn 100 = .ok (.putfield 187, 3) := dk_181 0 187 (dk_at dksX2_keepTurn_4 5 rfl rfl)
theorem dX2_keepTurn_103 : decode cX2_keepTurn 103 = .ok (.return_, 1) := dk_177 (dk_at dksX2_keepTurn_4 8 rfl rfl)
abbrev cX2_quarrels : ByteArray := prog_12_method_49_code
def yX2_quarrels : MethodName := ⟨RX2, "quarrels", "(III)I"⟩
def dkwX2_quarrels_2 : List UInt8 := [182, 0, 79, 54, 5, 42, 27, 28, 29, 182, 0, 113, 21, 5, 172]
abbrev dktX2_quarrels_2 : List UInt8 := dkwX2_quarrels_2 ++ []
def dkwX2_quarrels_1 : List UInt8 := [2, 54, 4, 21, 4, 156, 0, 10, 42, 21, 4, 182, 0, 128, 172, 42, 182, 0, 220, 42, 27, 28]
abbrev dktX2_quarrels_1 : List UInt8 := dkwX2_quarrels_1 ++ dktX2_quarrels_2
def dkwX2_quarrels_0 : List UInt8 := [42, 3, 181, 0, 65, 42, 27, 28, 182, 0, 164, 153, 0, 13, 29, 3, 16, 99, 184, 0, 217, 167, 0, 4]
abbrev dktX2_quarrels_0 : List UInt8 := dkwX2_quarrels_0 ++ dktX2_quarrels_1
theorem dksX2_quarrels_0 : cX2_quarrels.data.toList.drop 0 = dktX2_quarrels_0 := by decide +kernel
theorem dksX2_quarrels_1 : cX2_quarrels.data.toList.drop 24 = dktX2_quarrels_1 := dk_seg dksX2_quarrels_0 24 rfl rfl
theorem dksX2_quarrels_2 : cX2_quarrels.data.toList.drop 46 = dktX2_quarrels_2 := dk_seg dksX2_quarrels_1 22 rfl rfl
theorem dX2_quarrels_0 : decode cX2_quarrels 0 = .ok (.aload_n 0, 1) := dk_42 (dk_at dksX2_quarrels_0 0 rfl rfl)
theorem dX2_quarrels_1 : decode cX2_quarrels 1 = .ok (.iconst 0, 1) := dk_3 (dk_at dksX2_quarrels_0 1 rfl rfl)
theorem dX2_quarrels_2 : decode cX2_quarrels 2 = .ok (.putfield 65, 3) := dk_181 0 65 (dk_at dksX2_quarrels_0 2 rfl rfl)
theorem dX2_quarrels_5 : decode cX2_quarrels 5 = .ok (.aload_n 0, 1) := dk_42 (dk_at dksX2_quarrels_0 5 rfl rfl)
theorem dX2_quarrels_6 : decode cX2_quarrels 6 = .ok (.iload_n 1, 1) := dk_27 (dk_at dksX2_quarrels_0 6 rfl rfl)
theorem dX2_quarrels_7 : decode cX2_quarrels 7 = .ok (.iload_n 2, 1) := dk_28 (dk_at dksX2_quarrels_0 7 rfl rfl)
theorem dX2_quarrels_8 : decode cX2_quarrels 8 = .ok (.invokevirtual 164, 3) := dk_182 0 164 (dk_at dksX2_quarrels_0 8 rfl rfl)
theorem dX2_quarrels_11 : decode cX2_quarrels 11 = .ok (.ifCond .eq 13, 3) := dk_153 0 13 (dk_at dksX2_quarrels_0 11 rfl rfl)
theorem dX2_quarrels_14 : decode cX2_quarrels 14 = .ok (.iload_n 3, 1) := dk_29 (dk_at dksX2_quarrels_0 14 rfl rfl)
theorem dX2_quarrels_15 : decode cX2_quarrels 15 = .ok (.iconst 0, 1) := dk_3 (dk_at dksX2_quarrels_0 15 rfl rfl)
theorem dX2_quarrels_16 : decode cX2_quarrels 16 = .ok (.bipush 99, 2) := dk_16 99 (dk_at dksX2_quarrels_0 16 rfl rfl)
theorem dX2_quarrels_18 : decode cX2_quarrels 18 = .ok (.invokestatic 217, 3) := dk_184 0 217 (dk_at dksX2_quarrels_0 18 rfl rfl)
theorem dX2_quarrels_21 : decode cX2_quarrels 21 = .ok (.goto 4, 3) := dk_167 0 4 (dk_at dksX2_quarrels_0 21 rfl rfl)
theorem dX2_quarrels_24 : decode cX2_quarrels 24 = .ok (.iconst (-1), 1) := dk_2 (dk_at dksX2_quarrels_1 0 rfl rfl)
theorem dX2_quarrels_25 : decode cX2_quarrels 25 = .ok (.istore 4, 2) := dk_54 4 (dk_at dksX2_quarrels_1 1 rfl rfl)
theorem dX2_quarrels_27 : decode cX2_quarrels 27 = .ok (.iload 4, 2) := dk_21 4 (dk_at dksX2_quarrels_1 3 rfl rfl)
theorem dX2_quarrels_29 : decode cX2_quarrels 29 = .ok (.ifCond .ge 10, 3) := dk_156 0 10 (dk_at dksX2_quarrels_1 5 rfl rfl)
theorem dX2_quarrels_32 : decode cX2_quarrels 32 = .ok (.aload_n 0, 1) := dk_42 (dk_at dksX2_quarrels_1 8 rfl rfl)
theorem dX2_quarrels_33 : decode cX2_quarrels 33 = .ok (.iload 4, 2) := dk_21 4 (dk_at dksX2_quarrels_1 9 rfl rfl)
theorem dX2_quarrels_35 : decode cX2_quarrels 35 = .ok (.invokevirtual 128, 3) := dk_182 0 128 (dk_at dksX2_quarrels_1 11 rfl rfl)
theorem dX2_quarrels_38 : decode cX2_quarrels 38 = .ok (.ireturn, 1) := dk_172 (dk_at dksX2_quarrels_1 14 rfl rfl)
theorem dX2_quarrels_39 : decode cX2_quarrels 39 = .ok (.aload_n 0, 1) := dk_42 (dk_at dksX2_quarrels_1 15 rfl rfl)
theorem dX2_quarrels_40 : decode cX2_quarrels 40 = .ok (.invokevirtual 220, 3) := dk_182 0 220 (dk_at dksX2_quarrels_1 16 rfl rfl)
theorem dX2_quarrels_43 : decode cX2_quarrels 43 = .ok (.aload_n 0, 1) := dk_42 (dk_at dksX2_quarrels_1 19 rfl rfl)
theorem dX2_quarrels_44 : decode cX2_quarrels 44 = .ok (.iload_n 1, 1) := dk_27 (dk_at dksX2_quarrels_1 20 rfl rfl)
theorem dX2_quarrels_45 : decode cX2_quarrels 45 = .ok (.iload_n 2, 1) := dk_28 (dk_at dksX2_quarrels_1 21 rfl rfl)
theorem dX2_quarrels_46 : decode cX2_quarrels 46 = .ok (.invokevirtual 79, 3) := dk_182 0 79 (dk_at dksX2_quarrels_2 0 rfl rfl)
theorem dX2_quarrels_49 : decode cX2_quarrels 49 = .ok (.istore 5, 2) := dk_54 5 (dk_at dksX2_quarrels_2 3 rfl rfl)
theorem dX2_quarrels_51 : decode cX2_quarrels 51 = .ok (.aload_n 0, 1) := dk_42 (dk_at dksX2_quarrels_2 5 rfl rfl)
theorem dX2_quarrels_52 : decode cX2_quarrels 52 = .ok (.iload_n 1, 1) := dk_27 (dk_at dksX2_quarrels_2 6 rfl rfl)
theorem dX2_quarrels_53 : decode cX2_quarrels 53 = .ok (.iload_n 2, 1) := dk_28 (dk_at dksX2_quarrels_2 7 rfl rfl)
theorem dX2_quarrels_54 : decode cX2_quarrels 54 = .ok (.iload_n 3, 1) := dk_29 (dk_at dksX2_quarrels_2 8 rfl rfl)
theorem dX2_quarrels_55 : decode cX2_quarrels 55 = .ok (.invokevirtual 113, 3) := dk_182 0 113 (dk_at dksX2_quarrels_2 9 rfl rfl)
theorem dX2_quarrels_58 : decode cX2_quarrels 58 = .ok (.iload 5, 2) := dk_21 5 (dk_at dksX2_quarrels_2 12 rfl rfl)
theorem dX2_quarrels_60 : decode cX2_quarrels 60 = .ok (.ireturn, 1) := dk_172 (dk_at dksX2_quarrels_2 14 rfl rfl)
abbrev cX2_joins : ByteArray := prog_12_method_50_code
def yX2_joins : MethodName := ⟨RX2, "joins", "(II)I"⟩
def dkwX2_joins_1 : List UInt8 := [42, 27, 28, 182, 0, 167, 42, 182, 0, 223, 172]
abbrev dktX2_joins_1 : List UInt8 := dkwX2_joins_1 ++ []
def dkwX2_joins_0 : List UInt8 := [42, 3, 181, 0, 65, 42, 27, 28, 182, 0, 164, 154, 0, 9, 42, 2, 182, 0, 128, 172, 42, 182, 0, 220]
abbrev dktX2_joins_0 : List UInt8 := dkwX2_joins_0 ++ dktX2_joins_1
theorem dksX2_joins_0 : cX2_joins.data.toList.drop 0 = dktX2_joins_0 := by decide +kernel
theorem dksX2_joins_1 : cX2_joins.data.toList.drop 24 = dktX2_joins_1 := dk_seg dksX2_joins_0 24 rfl rfl
theorem dX2_joins_0 : decode cX2_joins 0 = .ok (.aload_n 0, 1) := dk_42 (dk_at dksX2_joins_0 0 rfl rfl)
theorem dX2_joins_1 : decode cX2_joins 1 = .ok (.iconst 0, 1) := dk_3 (dk_at dksX2_joins_0 1 rfl rfl)
theorem dX2_joins_2 : decode cX2_joins 2 = .ok (.putfield 65, 3) := dk_181 0 65 (dk_at dksX2_joins_0 2 rfl rfl)
theorem dX2_joins_5 : decode cX2_joins 5 = .ok (.aload_n 0, 1) := dk_42 (dk_at dksX2_joins_0 5 rfl rfl)
theorem dX2_joins_6 : decode cX2_joins 6 = .ok (.iload_n 1, 1) := dk_27 (dk_at dksX2_joins_0 6 rfl rfl)
theorem dX2_joins_7 : decode cX2_joins 7 = .ok (.iload_n 2, 1) := dk_28 (dk_at dksX2_joins_0 7 rfl rfl)
theorem dX2_joins_8 : decode cX2_joins 8 = .ok (.invokevirtual 164, 3) := dk_182 0 164 (dk_at dksX2_joins_0 8 rfl rfl)
theorem dX2_joins_11 : decode cX2_joins 11 = .ok (.ifCond .ne 9, 3) := dk_154 0 9 (dk_at dksX2_joins_0 11 rfl rfl)
theorem dX2_joins_14 : decode cX2_joins 14 = .ok (.aload_n 0, 1) := dk_42 (dk_at dksX2_joins_0 14 rfl rfl)
theorem dX2_joins_15 : decode cX2_joins 15 = .ok (.iconst (-1), 1) := dk_2 (dk_at dksX2_joins_0 15 rfl rfl)
theorem dX2_joins_16 : decode cX2_joins 16 = .ok (.invokevirtual 128, 3) := dk_182 0 128 (dk_at dksX2_joins_0 16 rfl rfl)
theorem dX2_joins_19 : decode cX2_joins 19 = .ok (.ireturn, 1) := dk_172 (dk_at dksX2_joins_0 19 rfl rfl)
theorem dX2_joins_20 : decode cX2_joins 20 = .ok (.aload_n 0, 1) := dk_42 (dk_at dksX2_joins_0 20 rfl rfl)
theorem dX2_joins_21 : decode cX2_joins 21 = .ok (.invokevirtual 220, 3) := dk_182 0 220 (dk_at dksX2_joins_0 21 rfl rfl)
theorem dX2_joins_24 : decode cX2_joins 24 = .ok (.aload_n 0, 1) := dk_42 (dk_at dksX2_joins_1 0 rfl rfl)
theorem dX2_joins_25 : decode cX2_joins 25 = .ok (.iload_n 1, 1) := dk_27 (dk_at dksX2_joins_1 1 rfl rfl)
theorem dX2_joins_26 : decode cX2_joins 26 = .ok (.iload_n 2, 1) := dk_28 (dk_at dksX2_joins_1 2 rfl rfl)
theorem dX2_joins_27 : decode cX2_joins 27 = .ok (.invokevirtual 167, 3) := dk_182 0 167 (dk_at dksX2_joins_1 3 rfl rfl)
theorem dX2_joins_30 : decode cX2_joins 30 = .ok (.aload_n 0, 1) := dk_42 (dk_at dksX2_joins_1 6 rfl rfl)
theorem dX2_joins_31 : decode cX2_joins 31 = .ok (.invokevirtual 223, 3) := dk_182 0 223 (dk_at dksX2_joins_1 7 rfl rfl)
theorem dX2_joins_34 : decode cX2_joins 34 = .ok (.ireturn, 1) := dk_172 (dk_at dksX2_joins_1 10 rfl rfl)
abbrev cX2_matsOf : ByteArray := prog_12_method_27_code
def yX2_matsOf : MethodName := ⟨RX2, "matsOf", "()I"⟩
def dkwX2_matsOf_1 : List UInt8 := [167, 0, 4, 3, 96, 60, 132, 2, 1, 167, 255, 227, 27, 172]
abbrev dktX2_matsOf_1 : List UInt8 := dkwX2_matsOf_1 ++ []
def dkwX2_matsOf_0 : List UInt8 := [3, 60, 3, 61, 28, 42, 180, 0, 68, 162, 0, 27, 27, 42, 180, 0, 19, 28, 46, 28, 164, 0, 7, 4]
abbrev dktX2_matsOf_0 : List UInt8 := dkwX2_matsOf_0 ++ dktX2_matsOf_1
theorem dksX2_matsOf_0 : cX2_matsOf.data.toList.drop 0 = dktX2_matsOf_0 := by decide +kernel
theorem dksX2_matsOf_1 : cX2_matsOf.data.toList.drop 24 = dktX2_matsOf_1 := dk_seg dksX2_matsOf_0 24 rfl rfl
theorem dX2_matsOf_0 : decode cX2_matsOf 0 = .ok (.iconst 0, 1) := dk_3 (dk_at dksX2_matsOf_0 0 rfl rfl)
theorem dX2_matsOf_1 : decode cX2_matsOf 1 = .ok (.istore_n 1, 1) := dk_60 (dk_at dksX2_matsOf_0 1 rfl rfl)
theorem dX2_matsOf_2 : decode cX2_matsOf 2 = .ok (.iconst 0, 1) := dk_3 (dk_at dksX2_matsOf_0 2 rfl rfl)
theorem dX2_matsOf_3 : decode cX2_matsOf 3 = .ok (.istore_n 2, 1) := dk_61 (dk_at dksX2_matsOf_0 3 rfl rfl)
theorem dX2_matsOf_4 : decode cX2_matsOf 4 = .ok (.iload_n 2, 1) := dk_28 (dk_at dksX2_matsOf_0 4 rfl rfl)
theorem dX2_matsOf_5 : decode cX2_matsOf 5 = .ok (.aload_n 0, 1) := dk_42 (dk_at dksX2_matsOf_0 5 rfl rfl)
theorem dX2_matsOf_6 : decode cX2_matsOf 6 = .ok (.getfield 68, 3) := dk_180 0 68 (dk_at dksX2_matsOf_0 6 rfl rfl)
theorem dX2_matsOf_9 : decode cX2_matsOf 9 = .ok (.if_icmp .ge 27, 3) := dk_162 0 27 (dk_at dksX2_matsOf_0 9 rfl rfl)
theorem dX2_matsOf_12 : decode cX2_matsOf 12 = .ok (.iload_n 1, 1) := dk_27 (dk_at dksX2_matsOf_0 12 rfl rfl)
theorem dX2_matsOf_13 : decode cX2_matsOf 13 = .ok (.aload_n 0, 1) := dk_42 (dk_at dksX2_matsOf_0 13 rfl rfl)
theorem dX2_matsOf_14 : decode cX2_matsOf 14 = .ok (.getfield 19, 3) := dk_180 0 19 (dk_at dksX2_matsOf_0 14 rfl rfl)
theorem dX2_matsOf_17 : decode cX2_matsOf 17 = .ok (.iload_n 2, 1) := dk_28 (dk_at dksX2_matsOf_0 17 rfl rfl)
theorem dX2_matsOf_18 : decode cX2_matsOf 18 = .ok (.iaload, 1) := dk_46 (dk_at dksX2_matsOf_0 18 rfl rfl)
theorem dX2_matsOf_19 : decode cX2_matsOf 19 = .ok (.iload_n 2, 1) := dk_28 (dk_at dksX2_matsOf_0 19 rfl rfl)
theorem dX2_matsOf_20 : decode cX2_matsOf 20 = .ok (.if_icmp .le 7, 3) := dk_164 0 7 (dk_at dksX2_matsOf_0 20 rfl rfl)
theorem dX2_matsOf_23 : decode cX2_matsOf 23 = .ok (.iconst 1, 1) := dk_4 (dk_at dksX2_matsOf_0 23 rfl rfl)
theorem dX2_matsOf_24 : decode cX2_matsOf 24 = .ok (.goto 4, 3) := dk_167 0 4 (dk_at dksX2_matsOf_1 0 rfl rfl)
theorem dX2_matsOf_27 : decode cX2_matsOf 27 = .ok (.iconst 0, 1) := dk_3 (dk_at dksX2_matsOf_1 3 rfl rfl)
theorem dX2_matsOf_28 : decode cX2_matsOf 28 = .ok (.iadd, 1) := dk_96 (dk_at dksX2_matsOf_1 4 rfl rfl)
theorem dX2_matsOf_29 : decode cX2_matsOf 29 = .ok (.istore_n 1, 1) := dk_60 (dk_at dksX2_matsOf_1 5 rfl rfl)
theorem dX2_matsOf_30 : decode cX2_matsOf 30 = .ok (.iinc 2 1, 3) := dk_132 2 1 (dk_at dksX2_matsOf_1 6 rfl rfl)
theorem dX2_matsOf_33 : decode cX2_matsOf 33 = .ok (.goto (-29), 3) := dk_167 255 227 (dk_at dksX2_matsOf_1 9 rfl rfl)
theorem dX2_matsOf_36 : decode cX2_matsOf 36 = .ok (.iload_n 1, 1) := dk_27 (dk_at dksX2_matsOf_1 12 rfl rfl)
theorem dX2_matsOf_37 : decode cX2_matsOf 37 = .ok (.ireturn, 1) := dk_172 (dk_at dksX2_matsOf_1 13 rfl rfl)
abbrev cX2_days : ByteArray := prog_12_method_51_code
def yX2_days : MethodName := ⟨RX2, "days", "(I)I"⟩
def dkwX2_days_2 : List UInt8 := [182, 0, 220, 42, 27, 182, 0, 172, 42, 182, 0, 226, 172]
abbrev dktX2_days_2 : List UInt8 := dkwX2_days_2 ++ []
def dkwX2_days_1 : List UInt8 := [17, 3, 231, 164, 0, 8, 16, 250, 167, 0, 4, 28, 61, 28, 156, 0, 9, 42, 28, 182, 0, 128, 172, 42]
abbrev dktX2_days_1 : List UInt8 := dkwX2_days_1 ++ dktX2_days_2
def dkwX2_days_0 : List UInt8 := [42, 3, 181, 0, 65, 27, 4, 16, 60, 184, 0, 217, 61, 28, 154, 0, 20, 42, 180, 0, 106, 27, 96]
abbrev dktX2_days_0 : List UInt8 := dkwX2_days_0 ++ dktX2_days_1
theorem dksX2_days_0 : cX2_days.data.toList.drop 0 = dktX2_days_0 := by decide +kernel
theorem dksX2_days_1 : cX2_days.data.toList.drop 23 = dktX2_days_1 := dk_seg dksX2_days_0 23 rfl rfl
theorem dksX2_days_2 : cX2_days.data.toList.drop 47 = dktX2_days_2 := dk_seg dksX2_days_1 24 rfl rfl
theorem dX2_days_0 : decode cX2_days 0 = .ok (.aload_n 0, 1) := dk_42 (dk_at dksX2_days_0 0 rfl rfl)
theorem dX2_days_1 : decode cX2_days 1 = .ok (.iconst 0, 1) := dk_3 (dk_at dksX2_days_0 1 rfl rfl)
theorem dX2_days_2 : decode cX2_days 2 = .ok (.putfield 65, 3) := dk_181 0 65 (dk_at dksX2_days_0 2 rfl rfl)
theorem dX2_days_5 : decode cX2_days 5 = .ok (.iload_n 1, 1) := dk_27 (dk_at dksX2_days_0 5 rfl rfl)
theorem dX2_days_6 : decode cX2_days 6 = .ok (.iconst 1, 1) := dk_4 (dk_at dksX2_days_0 6 rfl rfl)
theorem dX2_days_7 : decode cX2_days 7 = .ok (.bipush 60, 2) := dk_16 60 (dk_at dksX2_days_0 7 rfl rfl)
theorem dX2_days_9 : decode cX2_days 9 = .ok (.invokestatic 217, 3) := dk_184 0 217 (dk_at dksX2_days_0 9 rfl rfl)
theorem dX2_days_12 : decode cX2_days 12 = .ok (.istore_n 2, 1) := dk_61 (dk_at dksX2_days_0 12 rfl rfl)
theorem dX2_days_13 : decode cX2_days 13 = .ok (.iload_n 2, 1) := dk_28 (dk_at dksX2_days_0 13 rfl rfl)
theorem dX2_days_14 : decode cX2_days 14 = .ok (.ifCond .ne 20, 3) := dk_154 0 20 (dk_at dksX2_days_0 14 rfl rfl)
theorem dX2_days_17 : decode cX2_days 17 = .ok (.aload_n 0, 1) := dk_42 (dk_at dksX2_days_0 17 rfl rfl)
theorem dX2_days_18 : decode cX2_days 18 = .ok (.getfield 106, 3) := dk_180 0 106 (dk_at dksX2_days_0 18 rfl rfl)
theorem dX2_days_21 : decode cX2_days 21 = .ok (.iload_n 1, 1) := dk_27 (dk_at dksX2_days_0 21 rfl rfl)
theorem dX2_days_22 : decode cX2_days 22 = .ok (.iadd, 1) := dk_96 (dk_at dksX2_days_0 22 rfl rfl)
theorem dX2_days_23 : decode cX2_days 23 = .ok (.sipush 999, 3) := dk_17 3 231 (dk_at dksX2_days_1 0 rfl rfl)
theorem dX2_days_26 : decode cX2_days 26 = .ok (.if_icmp .le 8, 3) := dk_164 0 8 (dk_at dksX2_days_1 3 rfl rfl)
theorem dX2_days_29 : decode cX2_days 29 = .ok (.bipush (-6), 2) := dk_16 250 (dk_at dksX2_days_1 6 rfl rfl)
theorem dX2_days_31 : decode cX2_days 31 = .ok (.goto 4, 3) := dk_167 0 4 (dk_at dksX2_days_1 8 rfl rfl)
theorem dX2_days_34 : decode cX2_days 34 = .ok (.iload_n 2, 1) := dk_28 (dk_at dksX2_days_1 11 rfl rfl)
theorem dX2_days_35 : decode cX2_days 35 = .ok (.istore_n 2, 1) := dk_61 (dk_at dksX2_days_1 12 rfl rfl)
theorem dX2_days_36 : decode cX2_days 36 = .ok (.iload_n 2, 1) := dk_28 (dk_at dksX2_days_1 13 rfl rfl)
theorem dX2_days_37 : decode cX2_days 37 = .ok (.ifCond .ge 9, 3) := dk_156 0 9 (dk_at dksX2_days_1 14 rfl rfl)
theorem dX2_days_40 : decode cX2_days 40 = .ok (.aload_n 0, 1) := dk_42 (dk_at dksX2_days_1 17 rfl rfl)
theorem dX2_days_41 : decode cX2_days 41 = .ok (.iload_n 2, 1) := dk_28 (dk_at dksX2_days_1 18 rfl rfl)
theorem dX2_days_42 : decode cX2_days 42 = .ok (.invokevirtual 128, 3) := dk_182 0 128 (dk_at dksX2_days_1 19 rfl rfl)
theorem dX2_days_45 : decode cX2_days 45 = .ok (.ireturn, 1) := dk_172 (dk_at dksX2_days_1 22 rfl rfl)
theorem dX2_days_46 : decode cX2_days 46 = .ok (.aload_n 0, 1) := dk_42 (dk_at dksX2_days_1 23 rfl rfl)
theorem dX2_days_47 : decode cX2_days 47 = .ok (.invokevirtual 220, 3) := dk_182 0 220 (dk_at dksX2_days_2 0 rfl rfl)
theorem dX2_days_50 : decode cX2_days 50 = .ok (.aload_n 0, 1) := dk_42 (dk_at dksX2_days_2 3 rfl rfl)
theorem dX2_days_51 : decode cX2_days 51 = .ok (.iload_n 1, 1) := dk_27 (dk_at dksX2_days_2 4 rfl rfl)
theorem dX2_days_52 : decode cX2_days 52 = .ok (.invokevirtual 172, 3) := dk_182 0 172 (dk_at dksX2_days_2 5 rfl rfl)
theorem dX2_days_55 : decode cX2_days 55 = .ok (.aload_n 0, 1) := dk_42 (dk_at dksX2_days_2 8 rfl rfl)
theorem dX2_days_56 : decode cX2_days 56 = .ok (.invokevirtual 226, 3) := dk_182 0 226 (dk_at dksX2_days_2 9 rfl rfl)
theorem dX2_days_59 : decode cX2_days 59 = .ok (.ireturn, 1) := dk_172 (dk_at dksX2_days_2 12 rfl rfl)
abbrev cX2_allOf : ByteArray := prog_12_method_22_code
def yX2_allOf : MethodName := ⟨RX2, "allOf", "()I"⟩
def dkwX2_allOf_1 : List UInt8 := [27, 42, 28, 29, 182, 0, 79, 96, 60, 132, 3, 1, 167, 255, 236, 132, 2, 1, 167, 255, 218, 27, 172]
abbrev dktX2_allOf_1 : List UInt8 := dkwX2_allOf_1 ++ []
def dkwX2_allOf_0 : List UInt8 := [3, 60, 3, 61, 28, 42, 180, 0, 68, 162, 0, 36, 28, 4, 96, 62, 29, 42, 180, 0, 68, 162, 0, 18]
abbrev dktX2_allOf_0 : List UInt8 := dkwX2_allOf_0 ++ dktX2_allOf_1
theorem dksX2_allOf_0 : cX2_allOf.data.toList.drop 0 = dktX2_allOf_0 := by decide +kernel
theorem dksX2_allOf_1 : cX2_allOf.data.toList.drop 24 = dktX2_allOf_1 := dk_seg dksX2_allOf_0 24 rfl rfl
theorem dX2_allOf_0 : decode cX2_allOf 0 = .ok (.iconst 0, 1) := dk_3 (dk_at dksX2_allOf_0 0 rfl rfl)
theorem dX2_allOf_1 : decode cX2_allOf 1 = .ok (.istore_n 1, 1) := dk_60 (dk_at dksX2_allOf_0 1 rfl rfl)
theorem dX2_allOf_2 : decode cX2_allOf 2 = .ok (.iconst 0, 1) := dk_3 (dk_at dksX2_allOf_0 2 rfl rfl)
theorem dX2_allOf_3 : decode cX2_allOf 3 = .ok (.istore_n 2, 1) := dk_61 (dk_at dksX2_allOf_0 3 rfl rfl)
theorem dX2_allOf_4 : decode cX2_allOf 4 = .ok (.iload_n 2, 1) := dk_28 (dk_at dksX2_allOf_0 4 rfl rfl)
theorem dX2_allOf_5 : decode cX2_allOf 5 = .ok (.aload_n 0, 1) := dk_42 (dk_at dksX2_allOf_0 5 rfl rfl)
theorem dX2_allOf_6 : decode cX2_allOf 6 = .ok (.getfield 68, 3) := dk_180 0 68 (dk_at dksX2_allOf_0 6 rfl rfl)
theorem dX2_allOf_9 : decode cX2_allOf 9 = .ok (.if_icmp .ge 36, 3) := dk_162 0 36 (dk_at dksX2_allOf_0 9 rfl rfl)
theorem dX2_allOf_12 : decode cX2_allOf 12 = .ok (.iload_n 2, 1) := dk_28 (dk_at dksX2_allOf_0 12 rfl rfl)
theorem dX2_allOf_13 : decode cX2_allOf 13 = .ok (.iconst 1, 1) := dk_4 (dk_at dksX2_allOf_0 13 rfl rfl)
theorem dX2_allOf_14 : decode cX2_allOf 14 = .ok (.iadd, 1) := dk_96 (dk_at dksX2_allOf_0 14 rfl rfl)
theorem dX2_allOf_15 : decode cX2_allOf 15 = .ok (.istore_n 3, 1) := dk_62 (dk_at dksX2_allOf_0 15 rfl rfl)
theorem dX2_allOf_16 : decode cX2_allOf 16 = .ok (.iload_n 3, 1) := dk_29 (dk_at dksX2_allOf_0 16 rfl rfl)
theorem dX2_allOf_17 : decode cX2_allOf 17 = .ok (.aload_n 0, 1) := dk_42 (dk_at dksX2_allOf_0 17 rfl rfl)
theorem dX2_allOf_18 : decode cX2_allOf 18 = .ok (.getfield 68, 3) := dk_180 0 68 (dk_at dksX2_allOf_0 18 rfl rfl)
theorem dX2_allOf_21 : decode cX2_allOf 21 = .ok (.if_icmp .ge 18, 3) := dk_162 0 18 (dk_at dksX2_allOf_0 21 rfl rfl)
theorem dX2_allOf_24 : decode cX2_allOf 24 = .ok (.iload_n 1, 1) := dk_27 (dk_at dksX2_allOf_1 0 rfl rfl)
theorem dX2_allOf_25 : decode cX2_allOf 25 = .ok (.aload_n 0, 1) := dk_42 (dk_at dksX2_allOf_1 1 rfl rfl)
theorem dX2_allOf_26 : decode cX2_allOf 26 = .ok (.iload_n 2, 1) := dk_28 (dk_at dksX2_allOf_1 2 rfl rfl)
theorem dX2_allOf_27 : decode cX2_allOf 27 = .ok (.iload_n 3, 1) := dk_29 (dk_at dksX2_allOf_1 3 rfl rfl)
theorem dX2_allOf_28 : decode cX2_allOf 28 = .ok (.invokevirtual 79, 3) := dk_182 0 79 (dk_at dksX2_allOf_1 4 rfl rfl)
theorem dX2_allOf_31 : decode cX2_allOf 31 = .ok (.iadd, 1) := dk_96 (dk_at dksX2_allOf_1 7 rfl rfl)
theorem dX2_allOf_32 : decode cX2_allOf 32 = .ok (.istore_n 1, 1) := dk_60 (dk_at dksX2_allOf_1 8 rfl rfl)
theorem dX2_allOf_33 : decode cX2_allOf 33 = .ok (.iinc 3 1, 3) := dk_132 3 1 (dk_at dksX2_allOf_1 9 rfl rfl)
theorem dX2_allOf_36 : decode cX2_allOf 36 = .ok (.goto (-20), 3) := dk_167 255 236 (dk_at dksX2_allOf_1 12 rfl rfl)
theorem dX2_allOf_39 : decode cX2_allOf 39 = .ok (.iinc 2 1, 3) := dk_132 2 1 (dk_at dksX2_allOf_1 15 rfl rfl)
theorem dX2_allOf_42 : decode cX2_allOf 42 = .ok (.goto (-38), 3) := dk_167 255 218 (dk_at dksX2_allOf_1 18 rfl rfl)
theorem dX2_allOf_45 : decode cX2_allOf 45 = .ok (.iload_n 1, 1) := dk_27 (dk_at dksX2_allOf_1 21 rfl rfl)
theorem dX2_allOf_46 : decode cX2_allOf 46 = .ok (.ireturn, 1) := dk_172 (dk_at dksX2_allOf_1 22 rfl rfl)
abbrev cX2_behind : ByteArray := prog_12_method_52_code
def yX2_behind : MethodName := ⟨RX2, "behind", "(III)I"⟩
def dkwX2_behind_2 : List UInt8 := [42, 27, 28, 182, 0, 79, 54, 5, 42, 182, 0, 184, 21, 5, 172]
abbrev dktX2_behind_2 : List UInt8 := dkwX2_behind_2 ++ []
def dkwX2_behind_1 : List UInt8 := [2, 54, 4, 21, 4, 156, 0, 10, 42, 21, 4, 182, 0, 128, 172, 42, 182, 0, 178, 42, 29, 182, 0, 172]
abbrev dktX2_behind_1 : List UInt8 := dkwX2_behind_1 ++ dktX2_behind_2
def dkwX2_behind_0 : List UInt8 := [42, 3, 181, 0, 65, 42, 27, 28, 182, 0, 164, 153, 0, 13, 29, 3, 16, 99, 184, 0, 217, 167, 0, 4]
abbrev dktX2_behind_0 : List UInt8 := dkwX2_behind_0 ++ dktX2_behind_1
theorem dksX2_behind_0 : cX2_behind.data.toList.drop 0 = dktX2_behind_0 := by decide +kernel
theorem dksX2_behind_1 : cX2_behind.data.toList.drop 24 = dktX2_behind_1 := dk_seg dksX2_behind_0 24 rfl rfl
theorem dksX2_behind_2 : cX2_behind.data.toList.drop 48 = dktX2_behind_2 := dk_seg dksX2_behind_1 24 rfl rfl
theorem dX2_behind_0 : decode cX2_behind 0 = .ok (.aload_n 0, 1) := dk_42 (dk_at dksX2_behind_0 0 rfl rfl)
theorem dX2_behind_1 : decode cX2_behind 1 = .ok (.iconst 0, 1) := dk_3 (dk_at dksX2_behind_0 1 rfl rfl)
theorem dX2_behind_2 : decode cX2_behind 2 = .ok (.putfield 65, 3) := dk_181 0 65 (dk_at dksX2_behind_0 2 rfl rfl)
theorem dX2_behind_5 : decode cX2_behind 5 = .ok (.aload_n 0, 1) := dk_42 (dk_at dksX2_behind_0 5 rfl rfl)
theorem dX2_behind_6 : decode cX2_behind 6 = .ok (.iload_n 1, 1) := dk_27 (dk_at dksX2_behind_0 6 rfl rfl)
theorem dX2_behind_7 : decode cX2_behind 7 = .ok (.iload_n 2, 1) := dk_28 (dk_at dksX2_behind_0 7 rfl rfl)
theorem dX2_behind_8 : decode cX2_behind 8 = .ok (.invokevirtual 164, 3) := dk_182 0 164 (dk_at dksX2_behind_0 8 rfl rfl)
theorem dX2_behind_11 : decode cX2_behind 11 = .ok (.ifCond .eq 13, 3) := dk_153 0 13 (dk_at dksX2_behind_0 11 rfl rfl)
theorem dX2_behind_14 : decode cX2_behind 14 = .ok (.iload_n 3, 1) := dk_29 (dk_at dksX2_behind_0 14 rfl rfl)
theorem dX2_behind_15 : decode cX2_behind 15 = .ok (.iconst 0, 1) := dk_3 (dk_at dksX2_behind_0 15 rfl rfl)
theorem dX2_behind_16 : decode cX2_behind 16 = .ok (.bipush 99, 2) := dk_16 99 (dk_at dksX2_behind_0 16 rfl rfl)
theorem dX2_behind_18 : decode cX2_behind 18 = .ok (.invokestatic 217, 3) := dk_184 0 217 (dk_at dksX2_behind_0 18 rfl rfl)
theorem dX2_behind_21 : decode cX2_behind 21 = .ok (.goto 4, 3) := dk_167 0 4 (dk_at dksX2_behind_0 21 rfl rfl)
theorem dX2_behind_24 : decode cX2_behind 24 = .ok (.iconst (-1), 1) := dk_2 (dk_at dksX2_behind_1 0 rfl rfl)
theorem dX2_behind_25 : decode cX2_behind 25 = .ok (.istore 4, 2) := dk_54 4 (dk_at dksX2_behind_1 1 rfl rfl)
theorem dX2_behind_27 : decode cX2_behind 27 = .ok (.iload 4, 2) := dk_21 4 (dk_at dksX2_behind_1 3 rfl rfl)
theorem dX2_behind_29 : decode cX2_behind 29 = .ok (.ifCond .ge 10, 3) := dk_156 0 10 (dk_at dksX2_behind_1 5 rfl rfl)
theorem dX2_behind_32 : decode cX2_behind 32 = .ok (.aload_n 0, 1) := dk_42 (dk_at dksX2_behind_1 8 rfl rfl)
theorem dX2_behind_33 : decode cX2_behind 33 = .ok (.iload 4, 2) := dk_21 4 (dk_at dksX2_behind_1 9 rfl rfl)
theorem dX2_behind_35 : decode cX2_behind 35 = .ok (.invokevirtual 128, 3) := dk_182 0 128 (dk_at dksX2_behind_1 11 rfl rfl)
theorem dX2_behind_38 : decode cX2_behind 38 = .ok (.ireturn, 1) := dk_172 (dk_at dksX2_behind_1 14 rfl rfl)
theorem dX2_behind_39 : decode cX2_behind 39 = .ok (.aload_n 0, 1) := dk_42 (dk_at dksX2_behind_1 15 rfl rfl)
theorem dX2_behind_40 : decode cX2_behind 40 = .ok (.invokevirtual 178, 3) := dk_182 0 178 (dk_at dksX2_behind_1 16 rfl rfl)
theorem dX2_behind_43 : decode cX2_behind 43 = .ok (.aload_n 0, 1) := dk_42 (dk_at dksX2_behind_1 19 rfl rfl)
theorem dX2_behind_44 : decode cX2_behind 44 = .ok (.iload_n 3, 1) := dk_29 (dk_at dksX2_behind_1 20 rfl rfl)
theorem dX2_behind_45 : decode cX2_behind 45 = .ok (.invokevirtual 172, 3) := dk_182 0 172 (dk_at dksX2_behind_1 21 rfl rfl)
theorem dX2_behind_48 : decode cX2_behind 48 = .ok (.aload_n 0, 1) := dk_42 (dk_at dksX2_behind_2 0 rfl rfl)
theorem dX2_behind_49 : decode cX2_behind 49 = .ok (.iload_n 1, 1) := dk_27 (dk_at dksX2_behind_2 1 rfl rfl)
theorem dX2_behind_50 : decode cX2_behind 50 = .ok (.iload_n 2, 1) := dk_28 (dk_at dksX2_behind_2 2 rfl rfl)
theorem dX2_behind_51 : decode cX2_behind 51 = .ok (.invokevirtual 79, 3) := dk_182 0 79 (dk_at dksX2_behind_2 3 rfl rfl)
theorem dX2_behind_54 : decode cX2_behind 54 = .ok (.istore 5, 2) := dk_54 5 (dk_at dksX2_behind_2 6 rfl rfl)
theorem dX2_behind_56 : decode cX2_behind 56 = .ok (.aload_n 0, 1) := dk_42 (dk_at dksX2_behind_2 8 rfl rfl)
theorem dX2_behind_57 : decode cX2_behind 57 = .ok (.invokevirtual 184, 3) := dk_182 0 184 (dk_at dksX2_behind_2 9 rfl rfl)
theorem dX2_behind_60 : decode cX2_behind 60 = .ok (.iload 5, 2) := dk_21 5 (dk_at dksX2_behind_2 12 rfl rfl)
theorem dX2_behind_62 : decode cX2_behind 62 = .ok (.ireturn, 1) := dk_172 (dk_at dksX2_behind_2 14 rfl rfl)
abbrev cX2_all : ByteArray := prog_12_method_54_code
def yX2_all : MethodName := ⟨RX2, "all", "(II)I"⟩
def dkwX2_all_3 : List UInt8 := [172]
abbrev dktX2_all_3 : List UInt8 := dkwX2_all_3 ++ []
def dkwX2_all_2 : List UInt8 := [28, 4, 160, 0, 10, 42, 182, 0, 229, 167, 0, 7, 42, 182, 0, 232, 54, 4, 42, 182, 0, 184, 21, 4]
abbrev dktX2_all_2 : List UInt8 := dkwX2_all_2 ++ dktX2_all_3
def dkwX2_all_1 : List UInt8 := [182, 0, 128, 172, 42, 182, 0, 178, 42, 27, 182, 0, 172, 28, 154, 0, 10, 42, 182, 0, 226, 167, 0, 19]
abbrev dktX2_all_1 : List UInt8 := dkwX2_all_1 ++ dktX2_all_2
def dkwX2_all_0 : List UInt8 := [42, 3, 181, 0, 65, 27, 3, 16, 99, 184, 0, 217, 28, 5, 184, 0, 211, 62, 29, 156, 0, 9, 42, 29]
abbrev dktX2_all_0 : List UInt8 := dkwX2_all_0 ++ dktX2_all_1
theorem dksX2_all_0 : cX2_all.data.toList.drop 0 = dktX2_all_0 := by decide +kernel
theorem dksX2_all_1 : cX2_all.data.toList.drop 24 = dktX2_all_1 := dk_seg dksX2_all_0 24 rfl rfl
theorem dksX2_all_2 : cX2_all.data.toList.drop 48 = dktX2_all_2 := dk_seg dksX2_all_1 24 rfl rfl
theorem dksX2_all_3 : cX2_all.data.toList.drop 72 = dktX2_all_3 := dk_seg dksX2_all_2 24 rfl rfl
theorem dX2_all_0 : decode cX2_all 0 = .ok (.aload_n 0, 1) := dk_42 (dk_at dksX2_all_0 0 rfl rfl)
theorem dX2_all_1 : decode cX2_all 1 = .ok (.iconst 0, 1) := dk_3 (dk_at dksX2_all_0 1 rfl rfl)
theorem dX2_all_2 : decode cX2_all 2 = .ok (.putfield 65, 3) := dk_181 0 65 (dk_at dksX2_all_0 2 rfl rfl)
theorem dX2_all_5 : decode cX2_all 5 = .ok (.iload_n 1, 1) := dk_27 (dk_at dksX2_all_0 5 rfl rfl)
theorem dX2_all_6 : decode cX2_all 6 = .ok (.iconst 0, 1) := dk_3 (dk_at dksX2_all_0 6 rfl rfl)
theorem dX2_all_7 : decode cX2_all 7 = .ok (.bipush 99, 2) := dk_16 99 (dk_at dksX2_all_0 7 rfl rfl)
theorem dX2_all_9 : decode cX2_all 9 = .ok (.invokestatic 217, 3) := dk_184 0 217 (dk_at dksX2_all_0 9 rfl rfl)
theorem dX2_all_12 : decode cX2_all 12 = .ok (.iload_n 2, 1) := dk_28 (dk_at dksX2_all_0 12 rfl rfl)
theorem dX2_all_13 : decode cX2_all 13 = .ok (.iconst 2, 1) := dk_5 (dk_at dksX2_all_0 13 rfl rfl)
theorem dX2_all_14 : decode cX2_all 14 = .ok (.invokestatic 211, 3) := dk_184 0 211 (dk_at dksX2_all_0 14 rfl rfl)
theorem dX2_all_17 : decode cX2_all 17 = .ok (.istore_n 3, 1) := dk_62 (dk_at dksX2_all_0 17 rfl rfl)
theorem dX2_all_18 : decode cX2_all 18 = .ok (.iload_n 3, 1) := dk_29 (dk_at dksX2_all_0 18 rfl rfl)
theorem dX2_all_19 : decode cX2_all 19 = .ok (.ifCond .ge 9, 3) := dk_156 0 9 (dk_at dksX2_all_0 19 rfl rfl)
theorem dX2_all_22 : decode cX2_all 22 = .ok (.aload_n 0, 1) := dk_42 (dk_at dksX2_all_0 22 rfl rfl)
theorem dX2_all_23 : decode cX2_all 23 = .ok (.iload_n 3, 1) := dk_29 (dk_at dksX2_all_0 23 rfl rfl)
theorem dX2_all_24 : decode cX2_all 24 = .ok (.invokevirtual 128, 3) := dk_182 0 128 (dk_at dksX2_all_1 0 rfl rfl)
theorem dX2_all_27 : decode cX2_all 27 = .ok (.ireturn, 1) := dk_172 (dk_at dksX2_all_1 3 rfl rfl)
theorem dX2_all_28 : decode cX2_all 28 = .ok (.aload_n 0, 1) := dk_42 (dk_at dksX2_all_1 4 rfl rfl)
theorem dX2_all_29 : decode cX2_all 29 = .ok (.invokevirtual 178, 3) := dk_182 0 178 (dk_at dksX2_all_1 5 rfl rfl)
theorem dX2_all_32 : decode cX2_all 32 = .ok (.aload_n 0, 1) := dk_42 (dk_at dksX2_all_1 8 rfl rfl)
theorem dX2_all_33 : decode cX2_all 33 = .ok (.iload_n 1, 1) := dk_27 (dk_at dksX2_all_1 9 rfl rfl)
theorem dX2_all_34 : decode cX2_all 34 = .ok (.invokevirtual 172, 3) := dk_182 0 172 (dk_at dksX2_all_1 10 rfl rfl)
theorem dX2_all_37 : decode cX2_all 37 = .ok (.iload_n 2, 1) := dk_28 (dk_at dksX2_all_1 13 rfl rfl)
theorem dX2_all_38 : decode cX2_all 38 = .ok (.ifCond .ne 10, 3) := dk_154 0 10 (dk_at dksX2_all_1 14 rfl rfl)
theorem dX2_all_41 : decode cX2_all 41 = .ok (.aload_n 0, 1) := dk_42 (dk_at dksX2_all_1 17 rfl rfl)
theorem dX2_all_42 : decode cX2_all 42 = .ok (.invokevirtual 226, 3) := dk_182 0 226 (dk_at dksX2_all_1 18 rfl rfl)
theorem dX2_all_45 : decode cX2_all 45 = .ok (.goto 19, 3) := dk_167 0 19 (dk_at dksX2_all_1 21 rfl rfl)
theorem dX2_all_48 : decode cX2_all 48 = .ok (.iload_n 2, 1) := dk_28 (dk_at dksX2_all_2 0 rfl rfl)
theorem dX2_all_49 : decode cX2_all 49 = .ok (.iconst 1, 1) := dk_4 (dk_at dksX2_all_2 1 rfl rfl)
theorem dX2_all_50 : decode cX2_all 50 = .ok (.if_icmp .ne 10, 3) := dk_160 0 10 (dk_at dksX2_all_2 2 rfl rfl)
theorem dX2_all_53 : decode cX2_all 53 = .ok (.aload_n 0, 1) := dk_42 (dk_at dksX2_all_2 5 rfl rfl)
theorem dX2_all_54 : decode cX2_all 54 = .ok (.invokevirtual 229, 3) := dk_182 0 229 (dk_at dksX2_all_2 6 rfl rfl)
theorem dX2_all_57 : decode cX2_all 57 = .ok (.goto 7, 3) := dk_167 0 7 (dk_at dksX2_all_2 9 rfl rfl)
theorem dX2_all_60 : decode cX2_all 60 = .ok (.aload_n 0, 1) := dk_42 (dk_at dksX2_all_2 12 rfl rfl)
theorem dX2_all_61 : decode cX2_all 61 = .ok (.invokevirtual 232, 3) := dk_182 0 232 (dk_at dksX2_all_2 13 rfl rfl)
theorem dX2_all_64 : decode cX2_all 64 = .ok (.istore 4, 2) := dk_54 4 (dk_at dksX2_all_2 16 rfl rfl)
theorem dX2_all_66 : decode cX2_all 66 = .ok (.aload_n 0, 1) := dk_42 (dk_at dksX2_all_2 18 rfl rfl)
theorem dX2_all_67 : decode cX2_all 67 = .ok (.invokevirtual 184, 3) := dk_182 0 184 (dk_at dksX2_all_2 19 rfl rfl)
theorem dX2_all_70 : decode cX2_all 70 = .ok (.iload 4, 2) := dk_21 4 (dk_at dksX2_all_2 22 rfl rfl)
theorem dX2_all_72 : decode cX2_all 72 = .ok (.ireturn, 1) := dk_172 (dk_at dksX2_all_3 0 rfl rfl)
abbrev cX2_zerosOf : ByteArray := prog_12_method_23_code
def yX2_zerosOf : MethodName := ⟨RX2, "zerosOf", "()I"⟩
def dkwX2_zerosOf_2 : List UInt8 := [132, 2, 1, 167, 255, 210, 27, 172]
abbrev dktX2_zerosOf_2 : List UInt8 := dkwX2_zerosOf_2 ++ []
def dkwX2_zerosOf_1 : List UInt8 := [27, 42, 28, 29, 182, 0, 79, 154, 0, 7, 4, 167, 0, 4, 3, 96, 60, 132, 3, 1, 167, 255, 228]
abbrev dktX2_zerosOf_1 : List UInt8 := dkwX2_zerosOf_1 ++ dktX2_zerosOf_2
def dkwX2_zerosOf_0 : List UInt8 := [3, 60, 3, 61, 28, 42, 180, 0, 68, 162, 0, 44, 28, 4, 96, 62, 29, 42, 180, 0, 68, 162, 0, 26]
abbrev dktX2_zerosOf_0 : List UInt8 := dkwX2_zerosOf_0 ++ dktX2_zerosOf_1
theorem dksX2_zerosOf_0 : cX2_zerosOf.data.toList.drop 0 = dktX2_zerosOf_0 := by decide +kernel
theorem dksX2_zerosOf_1 : cX2_zerosOf.data.toList.drop 24 = dktX2_zerosOf_1 := dk_seg dksX2_zerosOf_0 24 rfl rfl
theorem dksX2_zerosOf_2 : cX2_zerosOf.data.toList.drop 47 = dktX2_zerosOf_2 := dk_seg dksX2_zerosOf_1 23 rfl rfl
theorem dX2_zerosOf_0 : decode cX2_zerosOf 0 = .ok (.iconst 0, 1) := dk_3 (dk_at dksX2_zerosOf_0 0 rfl rfl)
theorem dX2_zerosOf_1 : decode cX2_zerosOf 1 = .ok (.istore_n 1, 1) := dk_60 (dk_at dksX2_zerosOf_0 1 rfl rfl)
theorem dX2_zerosOf_2 : decode cX2_zerosOf 2 = .ok (.iconst 0, 1) := dk_3 (dk_at dksX2_zerosOf_0 2 rfl rfl)
theorem dX2_zerosOf_3 : decode cX2_zerosOf 3 = .ok (.istore_n 2, 1) := dk_61 (dk_at dksX2_zerosOf_0 3 rfl rfl)
theorem dX2_zerosOf_4 : decode cX2_zerosOf 4 = .ok (.iload_n 2, 1) := dk_28 (dk_at dksX2_zerosOf_0 4 rfl rfl)
theorem dX2_zerosOf_5 : decode cX2_zerosOf 5 = .ok (.aload_n 0, 1) := dk_42 (dk_at dksX2_zerosOf_0 5 rfl rfl)
theorem dX2_zerosOf_6 : decode cX2_zerosOf 6 = .ok (.getfield 68, 3) := dk_180 0 68 (dk_at dksX2_zerosOf_0 6 rfl rfl)
theorem dX2_zerosOf_9 : decode cX2_zerosOf 9 = .ok (.if_icmp .ge 44, 3) := dk_162 0 44 (dk_at dksX2_zerosOf_0 9 rfl rfl)
theorem dX2_zerosOf_12 : decode cX2_zerosOf 12 = .ok (.iload_n 2, 1) := dk_28 (dk_at dksX2_zerosOf_0 12 rfl rfl)
theorem dX2_zerosOf_13 : decode cX2_zerosOf 13 = .ok (.iconst 1, 1) := dk_4 (dk_at dksX2_zerosOf_0 13 rfl rfl)
theorem dX2_zerosOf_14 : decode cX2_zerosOf 14 = .ok (.iadd, 1) := dk_96 (dk_at dksX2_zerosOf_0 14 rfl rfl)
theorem dX2_zerosOf_15 : decode cX2_zerosOf 15 = .ok (.istore_n 3, 1) := dk_62 (dk_at dksX2_zerosOf_0 15 rfl rfl)
theorem dX2_zerosOf_16 : decode cX2_zerosOf 16 = .ok (.iload_n 3, 1) := dk_29 (dk_at dksX2_zerosOf_0 16 rfl rfl)
theorem dX2_zerosOf_17 : decode cX2_zerosOf 17 = .ok (.aload_n 0, 1) := dk_42 (dk_at dksX2_zerosOf_0 17 rfl rfl)
theorem dX2_zerosOf_18 : decode cX2_zerosOf 18 = .ok (.getfield 68, 3) := dk_180 0 68 (dk_at dksX2_zerosOf_0 18 rfl rfl)
theorem dX2_zerosOf_21 : decode cX2_zerosOf 21 = .ok (.if_icmp .ge 26, 3) := dk_162 0 26 (dk_at dksX2_zerosOf_0 21 rfl rfl)
theorem dX2_zerosOf_24 : decode cX2_zerosOf 24 = .ok (.iload_n 1, 1) := dk_27 (dk_at dksX2_zerosOf_1 0 rfl rfl)
theorem dX2_zerosOf_25 : decode cX2_zerosOf 25 = .ok (.aload_n 0, 1) := dk_42 (dk_at dksX2_zerosOf_1 1 rfl rfl)
theorem dX2_zerosOf_26 : decode cX2_zerosOf 26 = .ok (.iload_n 2, 1) := dk_28 (dk_at dksX2_zerosOf_1 2 rfl rfl)
theorem dX2_zerosOf_27 : decode cX2_zerosOf 27 = .ok (.iload_n 3, 1) := dk_29 (dk_at dksX2_zerosOf_1 3 rfl rfl)
theorem dX2_zerosOf_28 : decode cX2_zerosOf 28 = .ok (.invokevirtual 79, 3) := dk_182 0 79 (dk_at dksX2_zerosOf_1 4 rfl rfl)
theorem dX2_zerosOf_31 : decode cX2_zerosOf 31 = .ok (.ifCond .ne 7, 3) := dk_154 0 7 (dk_at dksX2_zerosOf_1 7 rfl rfl)
theorem dX2_zerosOf_34 : decode cX2_zerosOf 34 = .ok (.iconst 1, 1) := dk_4 (dk_at dksX2_zerosOf_1 10 rfl rfl)
theorem dX2_zerosOf_35 : decode cX2_zerosOf 35 = .ok (.goto 4, 3) := dk_167 0 4 (dk_at dksX2_zerosOf_1 11 rfl rfl)
theorem dX2_zerosOf_38 : decode cX2_zerosOf 38 = .ok (.iconst 0, 1) := dk_3 (dk_at dksX2_zerosOf_1 14 rfl rfl)
theorem dX2_zerosOf_39 : decode cX2_zerosOf 39 = .ok (.iadd, 1) := dk_96 (dk_at dksX2_zerosOf_1 15 rfl rfl)
theorem dX2_zerosOf_40 : decode cX2_zerosOf 40 = .ok (.istore_n 1, 1) := dk_60 (dk_at dksX2_zerosOf_1 16 rfl rfl)
theorem dX2_zerosOf_41 : decode cX2_zerosOf 41 = .ok (.iinc 3 1, 3) := dk_132 3 1 (dk_at dksX2_zerosOf_1 17 rfl rfl)
theorem dX2_zerosOf_44 : decode cX2_zerosOf 44 = .ok (.goto (-28), 3) := dk_167 255 228 (dk_at dksX2_zerosOf_1 20 rfl rfl)
theorem dX2_zerosOf_47 : decode cX2_zerosOf 47 = .ok (.iinc 2 1, 3) := dk_132 2 1 (dk_at dksX2_zerosOf_2 0 rfl rfl)
theorem dX2_zerosOf_50 : decode cX2_zerosOf 50 = .ok (.goto (-46), 3) := dk_167 255 210 (dk_at dksX2_zerosOf_2 3 rfl rfl)
theorem dX2_zerosOf_53 : decode cX2_zerosOf 53 = .ok (.iload_n 1, 1) := dk_27 (dk_at dksX2_zerosOf_2 6 rfl rfl)
theorem dX2_zerosOf_54 : decode cX2_zerosOf 54 = .ok (.ireturn, 1) := dk_172 (dk_at dksX2_zerosOf_2 7 rfl rfl)
abbrev cX2_worstTwo : ByteArray := prog_12_method_53_code
def yX2_worstTwo : MethodName := ⟨RX2, "worstTwo", "()I"⟩
def dkwX2_worstTwo_3 : List UInt8 := [167, 0, 4, 28, 61, 132, 4, 1, 167, 255, 198, 132, 3, 1, 167, 255, 179, 27, 172]
abbrev dktX2_worstTwo_3 : List UInt8 := dkwX2_worstTwo_3 ++ []
def dkwX2_worstTwo_2 : List UInt8 := [167, 0, 4, 27, 60, 42, 29, 21, 4, 182, 0, 79, 28, 164, 0, 13, 42, 29, 21, 4, 182, 0, 79]
abbrev dktX2_worstTwo_2 : List UInt8 := dkwX2_worstTwo_2 ++ dktX2_worstTwo_3
def dkwX2_worstTwo_1 : List UInt8 := [180, 0, 68, 162, 0, 55, 42, 29, 21, 4, 182, 0, 79, 28, 164, 0, 13, 16, 10, 29, 104, 21, 4, 96]
abbrev dktX2_worstTwo_1 : List UInt8 := dkwX2_worstTwo_1 ++ dktX2_worstTwo_2
def dkwX2_worstTwo_0 : List UInt8 := [16, 247, 60, 2, 61, 3, 62, 29, 42, 180, 0, 68, 162, 0, 75, 29, 4, 96, 54, 4, 21, 4, 42]
abbrev dktX2_worstTwo_0 : List UInt8 := dkwX2_worstTwo_0 ++ dktX2_worstTwo_1
theorem dksX2_worstTwo_0 : cX2_worstTwo.data.toList.drop 0 = dktX2_worstTwo_0 := by decide +kernel
theorem dksX2_worstTwo_1 : cX2_worstTwo.data.toList.drop 23 = dktX2_worstTwo_1 := dk_seg dksX2_worstTwo_0 23 rfl rfl
theorem dksX2_worstTwo_2 : cX2_worstTwo.data.toList.drop 47 = dktX2_worstTwo_2 := dk_seg dksX2_worstTwo_1 24 rfl rfl
theorem dksX2_worstTwo_3 : cX2_worstTwo.data.toList.drop 70 = dktX2_worstTwo_3 := dk_seg dksX2_worstTwo_2 23 rfl rfl
theorem dX2_worstTwo_0 : decode cX2_worstTwo 0 = .ok (.bipush (-9), 2) := dk_16 247 (dk_at dksX2_worstTwo_0 0 rfl rfl)
theorem dX2_worstTwo_2 : decode cX2_worstTwo 2 = .ok (.istore_n 1, 1) := dk_60 (dk_at dksX2_worstTwo_0 2 rfl rfl)
theorem dX2_worstTwo_3 : decode cX2_worstTwo 3 = .ok (.iconst (-1), 1) := dk_2 (dk_at dksX2_worstTwo_0 3 rfl rfl)
theorem dX2_worstTwo_4 : decode cX2_worstTwo 4 = .ok (.istore_n 2, 1) := dk_61 (dk_at dksX2_worstTwo_0 4 rfl rfl)
theorem dX2_worstTwo_5 : decode cX2_worstTwo 5 = .ok (.iconst 0, 1) := dk_3 (dk_at dksX2_worstTwo_0 5 rfl rfl)
theorem dX2_worstTwo_6 : decode cX2_worstTwo 6 = .ok (.istore_n 3, 1) := dk_62 (dk_at dksX2_worstTwo_0 6 rfl rfl)
theorem dX2_worstTwo_7 : decode cX2_worstTwo 7 = .ok (.iload_n 3, 1) := dk_29 (dk_at dksX2_worstTwo_0 7 rfl rfl)
theorem dX2_worstTwo_8 : decode cX2_worstTwo 8 = .ok (.aload_n 0, 1) := dk_42 (dk_at dksX2_worstTwo_0 8 rfl rfl)
theorem dX2_worstTwo_9 : decode cX2_worstTwo 9 = .ok (.getfield 68, 3) := dk_180 0 68 (dk_at dksX2_worstTwo_0 9 rfl rfl)
theorem dX2_worstTwo_12 : decode cX2_worstTwo 12 = .ok (.if_icmp .ge 75, 3) := dk_162 0 75 (dk_at dksX2_worstTwo_0 12 rfl rfl)
theorem dX2_worstTwo_15 : decode cX2_worstTwo 15 = .ok (.iload_n 3, 1) := dk_29 (dk_at dksX2_worstTwo_0 15 rfl rfl)
theorem dX2_worstTwo_16 : decode cX2_worstTwo 16 = .ok (.iconst 1, 1) := dk_4 (dk_at dksX2_worstTwo_0 16 rfl rfl)
theorem dX2_worstTwo_17 : decode cX2_worstTwo 17 = .ok (.iadd, 1) := dk_96 (dk_at dksX2_worstTwo_0 17 rfl rfl)
theorem dX2_worstTwo_18 : decode cX2_worstTwo 18 = .ok (.istore 4, 2) := dk_54 4 (dk_at dksX2_worstTwo_0 18 rfl rfl)
theorem dX2_worstTwo_20 : decode cX2_worstTwo 20 = .ok (.iload 4, 2) := dk_21 4 (dk_at dksX2_worstTwo_0 20 rfl rfl)
theorem dX2_worstTwo_22 : decode cX2_worstTwo 22 = .ok (.aload_n 0, 1) := dk_42 (dk_at dksX2_worstTwo_0 22 rfl rfl)
theorem dX2_worstTwo_23 : decode cX2_worstTwo 23 = .ok (.getfield 68, 3) := dk_180 0 68 (dk_at dksX2_worstTwo_1 0 rfl rfl)
theorem dX2_worstTwo_26 : decode cX2_worstTwo 26 = .ok (.if_icmp .ge 55, 3) := dk_162 0 55 (dk_at dksX2_worstTwo_1 3 rfl rfl)
theorem dX2_worstTwo_29 : decode cX2_worstTwo 29 = .ok (.aload_n 0, 1) := dk_42 (dk_at dksX2_worstTwo_1 6 rfl rfl)
theorem dX2_worstTwo_30 : decode cX2_worstTwo 30 = .ok (.iload_n 3, 1) := dk_29 (dk_at dksX2_worstTwo_1 7 rfl rfl)
theorem dX2_worstTwo_31 : decode cX2_worstTwo 31 = .ok (.iload 4, 2) := dk_21 4 (dk_at dksX2_worstTwo_1 8 rfl rfl)
theorem dX2_worstTwo_33 : decode cX2_worstTwo 33 = .ok (.invokevirtual 79, 3) := dk_182 0 79 (dk_at dksX2_worstTwo_1 10 rfl rfl)
theorem dX2_worstTwo_36 : decode cX2_worstTwo 36 = .ok (.iload_n 2, 1) := dk_28 (dk_at dksX2_worstTwo_1 13 rfl rfl)
theorem dX2_worstTwo_37 : decode cX2_worstTwo 37 = .ok (.if_icmp .le 13, 3) := dk_164 0 13 (dk_at dksX2_worstTwo_1 14 rfl rfl)
theorem dX2_worstTwo_40 : decode cX2_worstTwo 40 = .ok (.bipush 10, 2) := dk_16 10 (dk_at dksX2_worstTwo_1 17 rfl rfl)
theorem dX2_worstTwo_42 : decode cX2_worstTwo 42 = .ok (.iload_n 3, 1) := dk_29 (dk_at dksX2_worstTwo_1 19 rfl rfl)
theorem dX2_worstTwo_43 : decode cX2_worstTwo 43 = .ok (.imul, 1) := dk_104 (dk_at dksX2_worstTwo_1 20 rfl rfl)
theorem dX2_worstTwo_44 : decode cX2_worstTwo 44 = .ok (.iload 4, 2) := dk_21 4 (dk_at dksX2_worstTwo_1 21 rfl rfl)
theorem dX2_worstTwo_46 : decode cX2_worstTwo 46 = .ok (.iadd, 1) := dk_96 (dk_at dksX2_worstTwo_1 23 rfl rfl)
theorem dX2_worstTwo_47 : decode cX2_worstTwo 47 = .ok (.goto 4, 3) := dk_167 0 4 (dk_at dksX2_worstTwo_2 0 rfl rfl)
theorem dX2_worstTwo_50 : decode cX2_worstTwo 50 = .ok (.iload_n 1, 1) := dk_27 (dk_at dksX2_worstTwo_2 3 rfl rfl)
theorem dX2_worstTwo_51 : decode cX2_worstTwo 51 = .ok (.istore_n 1, 1) := dk_60 (dk_at dksX2_worstTwo_2 4 rfl rfl)
theorem dX2_worstTwo_52 : decode cX2_worstTwo 52 = .ok (.aload_n 0, 1) := dk_42 (dk_at dksX2_worstTwo_2 5 rfl rfl)
theorem dX2_worstTwo_53 : decode cX2_worstTwo 53 = .ok (.iload_n 3, 1) := dk_29 (dk_at dksX2_worstTwo_2 6 rfl rfl)
theorem dX2_worstTwo_54 : decode cX2_worstTwo 54 = .ok (.iload 4, 2) := dk_21 4 (dk_at dksX2_worstTwo_2 7 rfl rfl)
theorem dX2_worstTwo_56 : decode cX2_worstTwo 56 = .ok (.invokevirtual 79, 3) := dk_182 0 79 (dk_at dksX2_worstTwo_2 9 rfl rfl)
theorem dX2_worstTwo_59 : decode cX2_worstTwo 59 = .ok (.iload_n 2, 1) := dk_28 (dk_at dksX2_worstTwo_2 12 rfl rfl)
theorem dX2_worstTwo_60 : decode cX2_worstTwo 60 = .ok (.if_icmp .le 13, 3) := dk_164 0 13 (dk_at dksX2_worstTwo_2 13 rfl rfl)
theorem dX2_worstTwo_63 : decode cX2_worstTwo 63 = .ok (.aload_n 0, 1) := dk_42 (dk_at dksX2_worstTwo_2 16 rfl rfl)
theorem dX2_worstTwo_64 : decode cX2_worstTwo 64 = .ok (.iload_n 3, 1) := dk_29 (dk_at dksX2_worstTwo_2 17 rfl rfl)
theorem dX2_worstTwo_65 : decode cX2_worstTwo 65 = .ok (.iload 4, 2) := dk_21 4 (dk_at dksX2_worstTwo_2 18 rfl rfl)
theorem dX2_worstTwo_67 : decode cX2_worstTwo 67 = .ok (.invokevirtual 79, 3) := dk_182 0 79 (dk_at dksX2_worstTwo_2 20 rfl rfl)
theorem dX2_worstTwo_70 : decode cX2_worstTwo 70 = .ok (.goto 4, 3) := dk_167 0 4 (dk_at dksX2_worstTwo_3 0 rfl rfl)
theorem dX2_worstTwo_73 : decode cX2_worstTwo 73 = .ok (.iload_n 2, 1) := dk_28 (dk_at dksX2_worstTwo_3 3 rfl rfl)
theorem dX2_worstTwo_74 : decode cX2_worstTwo 74 = .ok (.istore_n 2, 1) := dk_61 (dk_at dksX2_worstTwo_3 4 rfl rfl)
theorem dX2_worstTwo_75 : decode cX2_worstTwo 75 = .ok (.iinc 4 1, 3) := dk_132 4 1 (dk_at dksX2_worstTwo_3 5 rfl rfl)
theorem dX2_worstTwo_78 : decode cX2_worstTwo 78 = .ok (.goto (-58), 3) := dk_167 255 198 (dk_at dksX2_worstTwo_3 8 rfl rfl)
theorem dX2_worstTwo_81 : decode cX2_worstTwo 81 = .ok (.iinc 3 1, 3) := dk_132 3 1 (dk_at dksX2_worstTwo_3 11 rfl rfl)
theorem dX2_worstTwo_84 : decode cX2_worstTwo 84 = .ok (.goto (-77), 3) := dk_167 255 179 (dk_at dksX2_worstTwo_3 14 rfl rfl)
theorem dX2_worstTwo_87 : decode cX2_worstTwo 87 = .ok (.iload_n 1, 1) := dk_27 (dk_at dksX2_worstTwo_3 17 rfl rfl)
theorem dX2_worstTwo_88 : decode cX2_worstTwo 88 = .ok (.ireturn, 1) := dk_172 (dk_at dksX2_worstTwo_3 18 rfl rfl)
abbrev cX2_mended : ByteArray := prog_12_method_56_code
def yX2_mended : MethodName := ⟨RX2, "mended", "(II)I"⟩
def dkwX2_mended_1 : List UInt8 := [42, 27, 28, 182, 0, 235, 172]
abbrev dktX2_mended_1 : List UInt8 := dkwX2_mended_1 ++ []
def dkwX2_mended_0 : List UInt8 := [42, 3, 181, 0, 65, 42, 27, 28, 182, 0, 164, 154, 0, 9, 42, 2, 182, 0, 128, 172, 42, 182, 0, 178]
abbrev dktX2_mended_0 : List UInt8 := dkwX2_mended_0 ++ dktX2_mended_1
theorem dksX2_mended_0 : cX2_mended.data.toList.drop 0 = dktX2_mended_0 := by decide +kernel
theorem dksX2_mended_1 : cX2_mended.data.toList.drop 24 = dktX2_mended_1 := dk_seg dksX2_mended_0 24 rfl rfl
theorem dX2_mended_0 : decode cX2_mended 0 = .ok (.aload_n 0, 1) := dk_42 (dk_at dksX2_mended_0 0 rfl rfl)
theorem dX2_mended_1 : decode cX2_mended 1 = .ok (.iconst 0, 1) := dk_3 (dk_at dksX2_mended_0 1 rfl rfl)
theorem dX2_mended_2 : decode cX2_mended 2 = .ok (.putfield 65, 3) := dk_181 0 65 (dk_at dksX2_mended_0 2 rfl rfl)
theorem dX2_mended_5 : decode cX2_mended 5 = .ok (.aload_n 0, 1) := dk_42 (dk_at dksX2_mended_0 5 rfl rfl)
theorem dX2_mended_6 : decode cX2_mended 6 = .ok (.iload_n 1, 1) := dk_27 (dk_at dksX2_mended_0 6 rfl rfl)
theorem dX2_mended_7 : decode cX2_mended 7 = .ok (.iload_n 2, 1) := dk_28 (dk_at dksX2_mended_0 7 rfl rfl)
theorem dX2_mended_8 : decode cX2_mended 8 = .ok (.invokevirtual 164, 3) := dk_182 0 164 (dk_at dksX2_mended_0 8 rfl rfl)
theorem dX2_mended_11 : decode cX2_mended 11 = .ok (.ifCond .ne 9, 3) := dk_154 0 9 (dk_at dksX2_mended_0 11 rfl rfl)
theorem dX2_mended_14 : decode cX2_mended 14 = .ok (.aload_n 0, 1) := dk_42 (dk_at dksX2_mended_0 14 rfl rfl)
theorem dX2_mended_15 : decode cX2_mended 15 = .ok (.iconst (-1), 1) := dk_2 (dk_at dksX2_mended_0 15 rfl rfl)
theorem dX2_mended_16 : decode cX2_mended 16 = .ok (.invokevirtual 128, 3) := dk_182 0 128 (dk_at dksX2_mended_0 16 rfl rfl)
theorem dX2_mended_19 : decode cX2_mended 19 = .ok (.ireturn, 1) := dk_172 (dk_at dksX2_mended_0 19 rfl rfl)
theorem dX2_mended_20 : decode cX2_mended 20 = .ok (.aload_n 0, 1) := dk_42 (dk_at dksX2_mended_0 20 rfl rfl)
theorem dX2_mended_21 : decode cX2_mended 21 = .ok (.invokevirtual 178, 3) := dk_182 0 178 (dk_at dksX2_mended_0 21 rfl rfl)
theorem dX2_mended_24 : decode cX2_mended 24 = .ok (.aload_n 0, 1) := dk_42 (dk_at dksX2_mended_1 0 rfl rfl)
theorem dX2_mended_25 : decode cX2_mended 25 = .ok (.iload_n 1, 1) := dk_27 (dk_at dksX2_mended_1 1 rfl rfl)
theorem dX2_mended_26 : decode cX2_mended 26 = .ok (.iload_n 2, 1) := dk_28 (dk_at dksX2_mended_1 2 rfl rfl)
theorem dX2_mended_27 : decode cX2_mended 27 = .ok (.invokevirtual 235, 3) := dk_182 0 235 (dk_at dksX2_mended_1 3 rfl rfl)
theorem dX2_mended_30 : decode cX2_mended 30 = .ok (.ireturn, 1) := dk_172 (dk_at dksX2_mended_1 6 rfl rfl)
abbrev cX2_zeroIn : ByteArray := prog_12_method_55_code
def yX2_zeroIn : MethodName := ⟨RX2, "zeroIn", "(II)I"⟩
def dkwX2_zeroIn_2 : List UInt8 := [167, 255, 217, 42, 182, 0, 184, 29, 172]
abbrev dktX2_zeroIn_2 : List UInt8 := dkwX2_zeroIn_2 ++ []
def dkwX2_zeroIn_1 : List UInt8 := [154, 0, 8, 21, 4, 167, 0, 5, 16, 247, 62, 42, 16, 247, 16, 247, 182, 0, 117, 132, 4, 1]
abbrev dktX2_zeroIn_1 : List UInt8 := dkwX2_zeroIn_1 ++ dktX2_zeroIn_2
def dkwX2_zeroIn_0 : List UInt8 := [16, 247, 62, 3, 54, 4, 21, 4, 16, 99, 163, 0, 38, 29, 156, 0, 34, 42, 27, 28, 182, 0, 79]
abbrev dktX2_zeroIn_0 : List UInt8 := dkwX2_zeroIn_0 ++ dktX2_zeroIn_1
theorem dksX2_zeroIn_0 : cX2_zeroIn.data.toList.drop 0 = dktX2_zeroIn_0 := by decide +kernel
theorem dksX2_zeroIn_1 : cX2_zeroIn.data.toList.drop 23 = dktX2_zeroIn_1 := dk_seg dksX2_zeroIn_0 23 rfl rfl
theorem dksX2_zeroIn_2 : cX2_zeroIn.data.toList.drop 45 = dktX2_zeroIn_2 := dk_seg dksX2_zeroIn_1 22 rfl rfl
theorem dX2_zeroIn_0 : decode cX2_zeroIn 0 = .ok (.bipush (-9), 2) := dk_16 247 (dk_at dksX2_zeroIn_0 0 rfl rfl)
theorem dX2_zeroIn_2 : decode cX2_zeroIn 2 = .ok (.istore_n 3, 1) := dk_62 (dk_at dksX2_zeroIn_0 2 rfl rfl)
theorem dX2_zeroIn_3 : decode cX2_zeroIn 3 = .ok (.iconst 0, 1) := dk_3 (dk_at dksX2_zeroIn_0 3 rfl rfl)
theorem dX2_zeroIn_4 : decode cX2_zeroIn 4 = .ok (.istore 4, 2) := dk_54 4 (dk_at dksX2_zeroIn_0 4 rfl rfl)
theorem dX2_zeroIn_6 : decode cX2_zeroIn 6 = .ok (.iload 4, 2) := dk_21 4 (dk_at dksX2_zeroIn_0 6 rfl rfl)
theorem dX2_zeroIn_8 : decode cX2_zeroIn 8 = .ok (.bipush 99, 2) := dk_16 99 (dk_at dksX2_zeroIn_0 8 rfl rfl)
theorem dX2_zeroIn_10 : decode cX2_zeroIn 10 = .ok (.if_icmp .gt 38, 3) := dk_163 0 38 (dk_at dksX2_zeroIn_0 10 rfl rfl)
theorem dX2_zeroIn_13 : decode cX2_zeroIn 13 = .ok (.iload_n 3, 1) := dk_29 (dk_at dksX2_zeroIn_0 13 rfl rfl)
theorem dX2_zeroIn_14 : decode cX2_zeroIn 14 = .ok (.ifCond .ge 34, 3) := dk_156 0 34 (dk_at dksX2_zeroIn_0 14 rfl rfl)
theorem dX2_zeroIn_17 : decode cX2_zeroIn 17 = .ok (.aload_n 0, 1) := dk_42 (dk_at dksX2_zeroIn_0 17 rfl rfl)
theorem dX2_zeroIn_18 : decode cX2_zeroIn 18 = .ok (.iload_n 1, 1) := dk_27 (dk_at dksX2_zeroIn_0 18 rfl rfl)
theorem dX2_zeroIn_19 : decode cX2_zeroIn 19 = .ok (.iload_n 2, 1) := dk_28 (dk_at dksX2_zeroIn_0 19 rfl rfl)
theorem dX2_zeroIn_20 : decode cX2_zeroIn 20 = .ok (.invokevirtual 79, 3) := dk_182 0 79 (dk_at dksX2_zeroIn_0 20 rfl rfl)
theorem dX2_zeroIn_23 : decode cX2_zeroIn 23 = .ok (.ifCond .ne 8, 3) := dk_154 0 8 (dk_at dksX2_zeroIn_1 0 rfl rfl)
theorem dX2_zeroIn_26 : decode cX2_zeroIn 26 = .ok (.iload 4, 2) := dk_21 4 (dk_at dksX2_zeroIn_1 3 rfl rfl)
theorem dX2_zeroIn_28 : decode cX2_zeroIn 28 = .ok (.goto 5, 3) := dk_167 0 5 (dk_at dksX2_zeroIn_1 5 rfl rfl)
theorem dX2_zeroIn_31 : decode cX2_zeroIn 31 = .ok (.bipush (-9), 2) := dk_16 247 (dk_at dksX2_zeroIn_1 8 rfl rfl)
theorem dX2_zeroIn_33 : decode cX2_zeroIn 33 = .ok (.istore_n 3, 1) := dk_62 (dk_at dksX2_zeroIn_1 10 rfl rfl)
theorem dX2_zeroIn_34 : decode cX2_zeroIn 34 = .ok (.aload_n 0, 1) := dk_42 (dk_at dksX2_zeroIn_1 11 rfl rfl)
theorem dX2_zeroIn_35 : decode cX2_zeroIn 35 = .ok (.bipush (-9), 2) := dk_16 247 (dk_at dksX2_zeroIn_1 12 rfl rfl)
theorem dX2_zeroIn_37 : decode cX2_zeroIn 37 = .ok (.bipush (-9), 2) := dk_16 247 (dk_at dksX2_zeroIn_1 14 rfl rfl)
theorem dX2_zeroIn_39 : decode cX2_zeroIn 39 = .ok (.invokevirtual 117, 3) := dk_182 0 117 (dk_at dksX2_zeroIn_1 16 rfl rfl)
theorem dX2_zeroIn_42 : decode cX2_zeroIn 42 = .ok (.iinc 4 1, 3) := dk_132 4 1 (dk_at dksX2_zeroIn_1 19 rfl rfl)
theorem dX2_zeroIn_45 : decode cX2_zeroIn 45 = .ok (.goto (-39), 3) := dk_167 255 217 (dk_at dksX2_zeroIn_2 0 rfl rfl)
theorem dX2_zeroIn_48 : decode cX2_zeroIn 48 = .ok (.aload_n 0, 1) := dk_42 (dk_at dksX2_zeroIn_2 3 rfl rfl)
theorem dX2_zeroIn_49 : decode cX2_zeroIn 49 = .ok (.invokevirtual 184, 3) := dk_182 0 184 (dk_at dksX2_zeroIn_2 4 rfl rfl)
theorem dX2_zeroIn_52 : decode cX2_zeroIn 52 = .ok (.iload_n 3, 1) := dk_29 (dk_at dksX2_zeroIn_2 7 rfl rfl)
theorem dX2_zeroIn_53 : decode cX2_zeroIn 53 = .ok (.ireturn, 1) := dk_172 (dk_at dksX2_zeroIn_2 8 rfl rfl)
abbrev cX2_never : ByteArray := prog_12_method_57_code
def yX2_never : MethodName := ⟨RX2, "never", "()I"⟩
def dkwX2_never_3 : List UInt8 := [172]
abbrev dktX2_never_3 : List UInt8 := dkwX2_never_3 ++ []
def dkwX2_never_2 : List UInt8 := [182, 0, 79, 158, 0, 7, 4, 167, 0, 4, 3, 96, 60, 132, 2, 1, 167, 255, 213, 42, 182, 0, 184, 27]
abbrev dktX2_never_2 : List UInt8 := dkwX2_never_2 ++ dktX2_never_3
def dkwX2_never_1 : List UInt8 := [162, 0, 41, 27, 42, 180, 0, 19, 28, 46, 28, 164, 0, 21, 42, 28, 42, 180, 0, 19, 28, 46]
abbrev dktX2_never_1 : List UInt8 := dkwX2_never_1 ++ dktX2_never_2
def dkwX2_never_0 : List UInt8 := [42, 3, 181, 0, 65, 3, 60, 42, 182, 0, 178, 42, 16, 99, 182, 0, 172, 3, 61, 28, 42, 180, 0, 68]
abbrev dktX2_never_0 : List UInt8 := dkwX2_never_0 ++ dktX2_never_1
theorem dksX2_never_0 : cX2_never.data.toList.drop 0 = dktX2_never_0 := by decide +kernel
theorem dksX2_never_1 : cX2_never.data.toList.drop 24 = dktX2_never_1 := dk_seg dksX2_never_0 24 rfl rfl
theorem dksX2_never_2 : cX2_never.data.toList.drop 46 = dktX2_never_2 := dk_seg dksX2_never_1 22 rfl rfl
theorem dksX2_never_3 : cX2_never.data.toList.drop 70 = dktX2_never_3 := dk_seg dksX2_never_2 24 rfl rfl
theorem dX2_never_0 : decode cX2_never 0 = .ok (.aload_n 0, 1) := dk_42 (dk_at dksX2_never_0 0 rfl rfl)
theorem dX2_never_1 : decode cX2_never 1 = .ok (.iconst 0, 1) := dk_3 (dk_at dksX2_never_0 1 rfl rfl)
theorem dX2_never_2 : decode cX2_never 2 = .ok (.putfield 65, 3) := dk_181 0 65 (dk_at dksX2_never_0 2 rfl rfl)
theorem dX2_never_5 : decode cX2_never 5 = .ok (.iconst 0, 1) := dk_3 (dk_at dksX2_never_0 5 rfl rfl)
theorem dX2_never_6 : decode cX2_never 6 = .ok (.istore_n 1, 1) := dk_60 (dk_at dksX2_never_0 6 rfl rfl)
theorem dX2_never_7 : decode cX2_never 7 = .ok (.aload_n 0, 1) := dk_42 (dk_at dksX2_never_0 7 rfl rfl)
theorem dX2_never_8 : decode cX2_never 8 = .ok (.invokevirtual 178, 3) := dk_182 0 178 (dk_at dksX2_never_0 8 rfl rfl)
theorem dX2_never_11 : decode cX2_never 11 = .ok (.aload_n 0, 1) := dk_42 (dk_at dksX2_never_0 11 rfl rfl)
theorem dX2_never_12 : decode cX2_never 12 = .ok (.bipush 99, 2) := dk_16 99 (dk_at dksX2_never_0 12 rfl rfl)
theorem dX2_never_14 : decode cX2_never 14 = .ok (.invokevirtual 172, 3) := dk_182 0 172 (dk_at dksX2_never_0 14 rfl rfl)
theorem dX2_never_17 : decode cX2_never 17 = .ok (.iconst 0, 1) := dk_3 (dk_at dksX2_never_0 17 rfl rfl)
theorem dX2_never_18 : decode cX2_never 18 = .ok (.istore_n 2, 1) := dk_61 (dk_at dksX2_never_0 18 rfl rfl)
theorem dX2_never_19 : decode cX2_never 19 = .ok (.iload_n 2, 1) := dk_28 (dk_at dksX2_never_0 19 rfl rfl)
theorem dX2_never_20 : decode cX2_never 20 = .ok (.aload_n 0, 1) := dk_42 (dk_at dksX2_never_0 20 rfl rfl)
theorem dX2_never_21 : decode cX2_never 21 = .ok (.getfield 68, 3) := dk_180 0 68 (dk_at dksX2_never_0 21 rfl rfl)
theorem dX2_never_24 : decode cX2_never 24 = .ok (.if_icmp .ge 41, 3) := dk_162 0 41 (dk_at dksX2_never_1 0 rfl rfl)
theorem dX2_never_27 : decode cX2_never 27 = .ok (.iload_n 1, 1) := dk_27 (dk_at dksX2_never_1 3 rfl rfl)
theorem dX2_never_28 : decode cX2_never 28 = .ok (.aload_n 0, 1) := dk_42 (dk_at dksX2_never_1 4 rfl rfl)
theorem dX2_never_29 : decode cX2_never 29 = .ok (.getfield 19, 3) := dk_180 0 19 (dk_at dksX2_never_1 5 rfl rfl)
theorem dX2_never_32 : decode cX2_never 32 = .ok (.iload_n 2, 1) := dk_28 (dk_at dksX2_never_1 8 rfl rfl)
theorem dX2_never_33 : decode cX2_never 33 = .ok (.iaload, 1) := dk_46 (dk_at dksX2_never_1 9 rfl rfl)
theorem dX2_never_34 : decode cX2_never 34 = .ok (.iload_n 2, 1) := dk_28 (dk_at dksX2_never_1 10 rfl rfl)
theorem dX2_never_35 : decode cX2_never 35 = .ok (.if_icmp .le 21, 3) := dk_164 0 21 (dk_at dksX2_never_1 11 rfl rfl)
theorem dX2_never_38 : decode cX2_never 38 = .ok (.aload_n 0, 1) := dk_42 (dk_at dksX2_never_1 14 rfl rfl)
theorem dX2_never_39 : decode cX2_never 39 = .ok (.iload_n 2, 1) := dk_28 (dk_at dksX2_never_1 15 rfl rfl)
theorem dX2_never_40 : decode cX2_never 40 = .ok (.aload_n 0, 1) := dk_42 (dk_at dksX2_never_1 16 rfl rfl)
theorem dX2_never_41 : decode cX2_never 41 = .ok (.getfield 19, 3) := dk_180 0 19 (dk_at dksX2_never_1 17 rfl rfl)
theorem dX2_never_44 : decode cX2_never 44 = .ok (.iload_n 2, 1) := dk_28 (dk_at dksX2_never_1 20 rfl rfl)
theorem dX2_never_45 : decode cX2_never 45 = .ok (.iaload, 1) := dk_46 (dk_at dksX2_never_1 21 rfl rfl)
theorem dX2_never_46 : decode cX2_never 46 = .ok (.invokevirtual 79, 3) := dk_182 0 79 (dk_at dksX2_never_2 0 rfl rfl)
theorem dX2_never_49 : decode cX2_never 49 = .ok (.ifCond .le 7, 3) := dk_158 0 7 (dk_at dksX2_never_2 3 rfl rfl)
theorem dX2_never_52 : decode cX2_never 52 = .ok (.iconst 1, 1) := dk_4 (dk_at dksX2_never_2 6 rfl rfl)
theorem dX2_never_53 : decode cX2_never 53 = .ok (.goto 4, 3) := dk_167 0 4 (dk_at dksX2_never_2 7 rfl rfl)
theorem dX2_never_56 : decode cX2_never 56 = .ok (.iconst 0, 1) := dk_3 (dk_at dksX2_never_2 10 rfl rfl)
theorem dX2_never_57 : decode cX2_never 57 = .ok (.iadd, 1) := dk_96 (dk_at dksX2_never_2 11 rfl rfl)
theorem dX2_never_58 : decode cX2_never 58 = .ok (.istore_n 1, 1) := dk_60 (dk_at dksX2_never_2 12 rfl rfl)
theorem dX2_never_59 : decode cX2_never 59 = .ok (.iinc 2 1, 3) := dk_132 2 1 (dk_at dksX2_never_2 13 rfl rfl)
theorem dX2_never_62 : decode cX2_never 62 = .ok (.goto (-43), 3) := dk_167 255 213 (dk_at dksX2_never_2 16 rfl rfl)
theorem dX2_never_65 : decode cX2_never 65 = .ok (.aload_n 0, 1) := dk_42 (dk_at dksX2_never_2 19 rfl rfl)
theorem dX2_never_66 : decode cX2_never 66 = .ok (.invokevirtual 184, 3) := dk_182 0 184 (dk_at dksX2_never_2 20 rfl rfl)
theorem dX2_never_69 : decode cX2_never 69 = .ok (.iload_n 1, 1) := dk_27 (dk_at dksX2_never_2 23 rfl rfl)
theorem dX2_never_70 : decode cX2_never 70 = .ok (.ireturn, 1) := dk_172 (dk_at dksX2_never_3 0 rfl rfl)
abbrev cX2_turn : ByteArray := prog_12_method_58_code
def yX2_turn : MethodName := ⟨RX2, "turn", "(II)I"⟩
def dkwX2_turn_2 : List UInt8 := [182, 0, 117, 42, 27, 28, 182, 0, 79, 16, 50, 100, 62, 42, 182, 0, 184, 29, 172]
abbrev dktX2_turn_2 : List UInt8 := dkwX2_turn_2 ++ []
def dkwX2_turn_1 : List UInt8 := [182, 0, 178, 42, 27, 28, 182, 0, 125, 42, 27, 28, 16, 50, 182, 0, 113, 42, 16, 247, 16, 247]
abbrev dktX2_turn_1 : List UInt8 := dkwX2_turn_1 ++ dktX2_turn_2
def dkwX2_turn_0 : List UInt8 := [42, 3, 181, 0, 65, 42, 27, 28, 182, 0, 164, 154, 0, 12, 18, 238, 42, 2, 182, 0, 128, 100, 172, 42]
abbrev dktX2_turn_0 : List UInt8 := dkwX2_turn_0 ++ dktX2_turn_1
theorem dksX2_turn_0 : cX2_turn.data.toList.drop 0 = dktX2_turn_0 := by decide +kernel
theorem dksX2_turn_1 : cX2_turn.data.toList.drop 24 = dktX2_turn_1 := dk_seg dksX2_turn_0 24 rfl rfl
theorem dksX2_turn_2 : cX2_turn.data.toList.drop 46 = dktX2_turn_2 := dk_seg dksX2_turn_1 22 rfl rfl
theorem dX2_turn_0 : decode cX2_turn 0 = .ok (.aload_n 0, 1) := dk_42 (dk_at dksX2_turn_0 0 rfl rfl)
theorem dX2_turn_1 : decode cX2_turn 1 = .ok (.iconst 0, 1) := dk_3 (dk_at dksX2_turn_0 1 rfl rfl)
theorem dX2_turn_2 : decode cX2_turn 2 = .ok (.putfield 65, 3) := dk_181 0 65 (dk_at dksX2_turn_0 2 rfl rfl)
theorem dX2_turn_5 : decode cX2_turn 5 = .ok (.aload_n 0, 1) := dk_42 (dk_at dksX2_turn_0 5 rfl rfl)
theorem dX2_turn_6 : decode cX2_turn 6 = .ok (.iload_n 1, 1) := dk_27 (dk_at dksX2_turn_0 6 rfl rfl)
theorem dX2_turn_7 : decode cX2_turn 7 = .ok (.iload_n 2, 1) := dk_28 (dk_at dksX2_turn_0 7 rfl rfl)
theorem dX2_turn_8 : decode cX2_turn 8 = .ok (.invokevirtual 164, 3) := dk_182 0 164 (dk_at dksX2_turn_0 8 rfl rfl)
theorem dX2_turn_11 : decode cX2_turn 11 = .ok (.ifCond .ne 12, 3) := dk_154 0 12 (dk_at dksX2_turn_0 11 rfl rfl)
theorem dX2_turn_14 : decode cX2_turn 14 = .ok (.ldc 238, 2) := dk_18 238 (dk_at dksX2_turn_0 14 rfl rfl)
theorem dX2_turn_16 : decode cX2_turn 16 = .ok (.aload_n 0, 1) := dk_42 (dk_at dksX2_turn_0 16 rfl rfl)
theorem dX2_turn_17 : decode cX2_turn 17 = .ok (.iconst (-1), 1) := dk_2 (dk_at dksX2_turn_0 17 rfl rfl)
theorem dX2_turn_18 : decode cX2_turn 18 = .ok (.invokevirtual 128, 3) := dk_182 0 128 (dk_at dksX2_turn_0 18 rfl rfl)
theorem dX2_turn_21 : decode cX2_turn 21 = .ok (.isub, 1) := dk_100 (dk_at dksX2_turn_0 21 rfl rfl)
theorem dX2_turn_22 : decode cX2_turn 22 = .ok (.ireturn, 1) := dk_172 (dk_at dksX2_turn_0 22 rfl rfl)
theorem dX2_turn_23 : decode cX2_turn 23 = .ok (.aload_n 0, 1) := dk_42 (dk_at dksX2_turn_0 23 rfl rfl)
theorem dX2_turn_24 : decode cX2_turn 24 = .ok (.invokevirtual 178, 3) := dk_182 0 178 (dk_at dksX2_turn_1 0 rfl rfl)
theorem dX2_turn_27 : decode cX2_turn 27 = .ok (.aload_n 0, 1) := dk_42 (dk_at dksX2_turn_1 3 rfl rfl)
theorem dX2_turn_28 : decode cX2_turn 28 = .ok (.iload_n 1, 1) := dk_27 (dk_at dksX2_turn_1 4 rfl rfl)
theorem dX2_turn_29 : decode cX2_turn 29 = .ok (.iload_n 2, 1) := dk_28 (dk_at dksX2_turn_1 5 rfl rfl)
theorem dX2_turn_30 : decode cX2_turn 30 = .ok (.invokevirtual 125, 3) := dk_182 0 125 (dk_at dksX2_turn_1 6 rfl rfl)
theorem dX2_turn_33 : decode cX2_turn 33 = .ok (.aload_n 0, 1) := dk_42 (dk_at dksX2_turn_1 9 rfl rfl)
theorem dX2_turn_34 : decode cX2_turn 34 = .ok (.iload_n 1, 1) := dk_27 (dk_at dksX2_turn_1 10 rfl rfl)
theorem dX2_turn_35 : decode cX2_turn 35 = .ok (.iload_n 2, 1) := dk_28 (dk_at dksX2_turn_1 11 rfl rfl)
theorem dX2_turn_36 : decode cX2_turn 36 = .ok (.bipush 50, 2) := dk_16 50 (dk_at dksX2_turn_1 12 rfl rfl)
theorem dX2_turn_38 : decode cX2_turn 38 = .ok (.invokevirtual 113, 3) := dk_182 0 113 (dk_at dksX2_turn_1 14 rfl rfl)
theorem dX2_turn_41 : decode cX2_turn 41 = .ok (.aload_n 0, 1) := dk_42 (dk_at dksX2_turn_1 17 rfl rfl)
theorem dX2_turn_42 : decode cX2_turn 42 = .ok (.bipush (-9), 2) := dk_16 247 (dk_at dksX2_turn_1 18 rfl rfl)
theorem dX2_turn_44 : decode cX2_turn 44 = .ok (.bipush (-9), 2) := dk_16 247 (dk_at dksX2_turn_1 20 rfl rfl)
theorem dX2_turn_46 : decode cX2_turn 46 = .ok (.invokevirtual 117, 3) := dk_182 0 117 (dk_at dksX2_turn_2 0 rfl rfl)
theorem dX2_turn_49 : decode cX2_turn 49 = .ok (.aload_n 0, 1) := dk_42 (dk_at dksX2_turn_2 3 rfl rfl)
theorem dX2_turn_50 : decode cX2_turn 50 = .ok (.iload_n 1, 1) := dk_27 (dk_at dksX2_turn_2 4 rfl rfl)
theorem dX2_turn_51 : decode cX2_turn 51 = .ok (.iload_n 2, 1) := dk_28 (dk_at dksX2_turn_2 5 rfl rfl)
theorem dX2_turn_52 : decode cX2_turn 52 = .ok (.invokevirtual 79, 3) := dk_182 0 79 (dk_at dksX2_turn_2 6 rfl rfl)
theorem dX2_turn_55 : decode cX2_turn 55 = .ok (.bipush 50, 2) := dk_16 50 (dk_at dksX2_turn_2 9 rfl rfl)
theorem dX2_turn_57 : decode cX2_turn 57 = .ok (.isub, 1) := dk_100 (dk_at dksX2_turn_2 11 rfl rfl)
theorem dX2_turn_58 : decode cX2_turn 58 = .ok (.istore_n 3, 1) := dk_62 (dk_at dksX2_turn_2 12 rfl rfl)
theorem dX2_turn_59 : decode cX2_turn 59 = .ok (.aload_n 0, 1) := dk_42 (dk_at dksX2_turn_2 13 rfl rfl)
theorem dX2_turn_60 : decode cX2_turn 60 = .ok (.invokevirtual 184, 3) := dk_182 0 184 (dk_at dksX2_turn_2 14 rfl rfl)
theorem dX2_turn_63 : decode cX2_turn 63 = .ok (.iload_n 3, 1) := dk_29 (dk_at dksX2_turn_2 17 rfl rfl)
theorem dX2_turn_64 : decode cX2_turn 64 = .ok (.ireturn, 1) := dk_172 (dk_at dksX2_turn_2 18 rfl rfl)
abbrev cX2_leaves : ByteArray := prog_12_method_62_code
def yX2_leaves : MethodName := ⟨RX2, "leaves", "(I)I"⟩
def dkwX2_leaves_4 : List UInt8 := [160, 0, 10, 42, 182, 0, 247, 167, 0, 7, 42, 182, 0, 250, 172]
abbrev dktX2_leaves_4 : List UInt8 := dkwX2_leaves_4 ++ []
def dkwX2_leaves_3 : List UInt8 := [28, 61, 132, 4, 255, 167, 255, 225, 132, 3, 255, 167, 255, 207, 27, 154, 0, 7, 28, 167, 0, 19, 27, 4]
abbrev dktX2_leaves_3 : List UInt8 := dkwX2_leaves_3 ++ dktX2_leaves_4
def dkwX2_leaves_2 : List UInt8 := [29, 164, 0, 31, 42, 29, 21, 4, 182, 0, 242, 153, 0, 13, 16, 10, 29, 104, 21, 4, 96, 167, 0, 4]
abbrev dktX2_leaves_2 : List UInt8 := dkwX2_leaves_2 ++ dktX2_leaves_3
def dkwX2_leaves_1 : List UInt8 := [16, 247, 61, 42, 180, 0, 68, 4, 100, 62, 29, 155, 0, 51, 42, 180, 0, 68, 4, 100, 54, 4, 21, 4]
abbrev dktX2_leaves_1 : List UInt8 := dkwX2_leaves_1 ++ dktX2_leaves_2
def dkwX2_leaves_0 : List UInt8 := [42, 3, 181, 0, 65, 27, 133, 9, 20, 0, 245, 184, 0, 71, 154, 0, 10, 42, 16, 254, 182, 0, 128, 172]
abbrev dktX2_leaves_0 : List UInt8 := dkwX2_leaves_0 ++ dktX2_leaves_1
theorem dksX2_leaves_0 : cX2_leaves.data.toList.drop 0 = dktX2_leaves_0 := by decide +kernel
theorem dksX2_leaves_1 : cX2_leaves.data.toList.drop 24 = dktX2_leaves_1 := dk_seg dksX2_leaves_0 24 rfl rfl
theorem dksX2_leaves_2 : cX2_leaves.data.toList.drop 48 = dktX2_leaves_2 := dk_seg dksX2_leaves_1 24 rfl rfl
theorem dksX2_leaves_3 : cX2_leaves.data.toList.drop 72 = dktX2_leaves_3 := dk_seg dksX2_leaves_2 24 rfl rfl
theorem dksX2_leaves_4 : cX2_leaves.data.toList.drop 96 = dktX2_leaves_4 := dk_seg dksX2_leaves_3 24 rfl rfl
theorem dX2_leaves_0 : decode cX2_leaves 0 = .ok (.aload_n 0, 1) := dk_42 (dk_at dksX2_leaves_0 0 rfl rfl)
theorem dX2_leaves_1 : decode cX2_leaves 1 = .ok (.iconst 0, 1) := dk_3 (dk_at dksX2_leaves_0 1 rfl rfl)
theorem dX2_leaves_2 : decode cX2_leaves 2 = .ok (.putfield 65, 3) := dk_181 0 65 (dk_at dksX2_leaves_0 2 rfl rfl)
theorem dX2_leaves_5 : decode cX2_leaves 5 = .ok (.iload_n 1, 1) := dk_27 (dk_at dksX2_leaves_0 5 rfl rfl)
theorem dX2_leaves_6 : decode cX2_leaves 6 = .ok (.i2l, 1) := dk_133 (dk_at dksX2_leaves_0 6 rfl rfl)
theorem dX2_leaves_7 : decode cX2_leaves 7 = .ok (.lconst 0, 1) := dk_9 (dk_at dksX2_leaves_0 7 rfl rfl)
theorem dX2_leaves_8 : decode cX2_leaves 8 = .ok (.ldc2_w 245, 3) := dk_20 0 245 (dk_at dksX2_leaves_0 8 rfl rfl)
theorem dX2_leaves_11 : decode cX2_leaves 11 = .ok (.invokestatic 71, 3) := dk_184 0 71 (dk_at dksX2_leaves_0 11 rfl rfl)
theorem dX2_leaves_14 : decode cX2_leaves 14 = .ok (.ifCond .ne 10, 3) := dk_154 0 10 (dk_at dksX2_leaves_0 14 rfl rfl)
theorem dX2_leaves_17 : decode cX2_leaves 17 = .ok (.aload_n 0, 1) := dk_42 (dk_at dksX2_leaves_0 17 rfl rfl)
theorem dX2_leaves_18 : decode cX2_leaves 18 = .ok (.bipush (-2), 2) := dk_16 254 (dk_at dksX2_leaves_0 18 rfl rfl)
theorem dX2_leaves_20 : decode cX2_leaves 20 = .ok (.invokevirtual 128, 3) := dk_182 0 128 (dk_at dksX2_leaves_0 20 rfl rfl)
theorem dX2_leaves_23 : decode cX2_leaves 23 = .ok (.ireturn, 1) := dk_172 (dk_at dksX2_leaves_0 23 rfl rfl)
theorem dX2_leaves_24 : decode cX2_leaves 24 = .ok (.bipush (-9), 2) := dk_16 247 (dk_at dksX2_leaves_1 0 rfl rfl)
theorem dX2_leaves_26 : decode cX2_leaves 26 = .ok (.istore_n 2, 1) := dk_61 (dk_at dksX2_leaves_1 2 rfl rfl)
theorem dX2_leaves_27 : decode cX2_leaves 27 = .ok (.aload_n 0, 1) := dk_42 (dk_at dksX2_leaves_1 3 rfl rfl)
theorem dX2_leaves_28 : decode cX2_leaves 28 = .ok (.getfield 68, 3) := dk_180 0 68 (dk_at dksX2_leaves_1 4 rfl rfl)
theorem dX2_leaves_31 : decode cX2_leaves 31 = .ok (.iconst 1, 1) := dk_4 (dk_at dksX2_leaves_1 7 rfl rfl)
theorem dX2_leaves_32 : decode cX2_leaves 32 = .ok (.isub, 1) := dk_100 (dk_at dksX2_leaves_1 8 rfl rfl)
theorem dX2_leaves_33 : decode cX2_leaves 33 = .ok (.istore_n 3, 1) := dk_62 (dk_at dksX2_leaves_1 9 rfl rfl)
theorem dX2_leaves_34 : decode cX2_leaves 34 = .ok (.iload_n 3, 1) := dk_29 (dk_at dksX2_leaves_1 10 rfl rfl)
theorem dX2_leaves_35 : decode cX2_leaves 35 = .ok (.ifCond .lt 51, 3) := dk_155 0 51 (dk_at dksX2_leaves_1 11 rfl rfl)
theorem dX2_leaves_38 : decode cX2_leaves 38 = .ok (.aload_n 0, 1) := dk_42 (dk_at dksX2_leaves_1 14 rfl rfl)
theorem dX2_leaves_39 : decode cX2_leaves 39 = .ok (.getfield 68, 3) := dk_180 0 68 (dk_at dksX2_leaves_1 15 rfl rfl)
theorem dX2_leaves_42 : decode cX2_leaves 42 = .ok (.iconst 1, 1) := dk_4 (dk_at dksX2_leaves_1 18 rfl rfl)
theorem dX2_leaves_43 : decode cX2_leaves 43 = .ok (.isub, 1) := dk_100 (dk_at dksX2_leaves_1 19 rfl rfl)
theorem dX2_leaves_44 : decode cX2_leaves 44 = .ok (.istore 4, 2) := dk_54 4 (dk_at dksX2_leaves_1 20 rfl rfl)
theorem dX2_leaves_46 : decode cX2_leaves 46 = .ok (.iload 4, 2) := dk_21 4 (dk_at dksX2_leaves_1 22 rfl rfl)
theorem dX2_leaves_48 : decode cX2_leaves 48 = .ok (.iload_n 3, 1) := dk_29 (dk_at dksX2_leaves_2 0 rfl rfl)
theorem dX2_leaves_49 : decode cX2_leaves 49 = .ok (.if_icmp .le 31, 3) := dk_164 0 31 (dk_at dksX2_leaves_2 1 rfl rfl)
theorem dX2_leaves_52 : decode cX2_leaves 52 = .ok (.aload_n 0, 1) := dk_42 (dk_at dksX2_leaves_2 4 rfl rfl)
theorem dX2_leaves_53 : decode cX2_leaves 53 = .ok (.iload_n 3, 1) := dk_29 (dk_at dksX2_leaves_2 5 rfl rfl)
theorem dX2_leaves_54 : decode cX2_leaves 54 = .ok (.iload 4, 2) := dk_21 4 (dk_at dksX2_leaves_2 6 rfl rfl)
theorem dX2_leaves_56 : decode cX2_leaves 56 = .ok (.invokevirtual 242, 3) := dk_182 0 242 (dk_at dksX2_leaves_2 8 rfl rfl)
theorem dX2_leaves_59 : decode cX2_leaves 59 = .ok (.ifCond .eq 13, 3) := dk_153 0 13 (dk_at dksX2_leaves_2 11 rfl rfl)
theorem dX2_leaves_62 : decode cX2_leaves 62 = .ok (.bipush 10, 2) := dk_16 10 (dk_at dksX2_leaves_2 14 rfl rfl)
theorem dX2_leaves_64 : decode cX2_leaves 64 = .ok (.iload_n 3, 1) := dk_29 (dk_at dksX2_leaves_2 16 rfl rfl)
theorem dX2_leaves_65 : decode cX2_leaves 65 = .ok (.imul, 1) := dk_104 (dk_at dksX2_leaves_2 17 rfl rfl)
theorem dX2_leaves_66 : decode cX2_leaves 66 = .ok (.iload 4, 2) := dk_21 4 (dk_at dksX2_leaves_2 18 rfl rfl)
theorem dX2_leaves_68 : decode cX2_leaves 68 = .ok (.iadd, 1) := dk_96 (dk_at dksX2_leaves_2 20 rfl rfl)
theorem dX2_leaves_69 : decode cX2_leaves 69 = .ok (.goto 4, 3) := dk_167 0 4 (dk_at dksX2_leaves_2 21 rfl rfl)
theorem dX2_leaves_72 : decode cX2_leaves 72 = .ok (.iload_n 2, 1) := dk_28 (dk_at dksX2_leaves_3 0 rfl rfl)
theorem dX2_leaves_73 : decode cX2_leaves 73 = .ok (.istore_n 2, 1) := dk_61 (dk_at dksX2_leaves_3 1 rfl rfl)
theorem dX2_leaves_74 : decode cX2_leaves 74 = .ok (.iinc 4 (-1), 3) := dk_132 4 255 (dk_at dksX2_leaves_3 2 rfl rfl)
theorem dX2_leaves_77 : decode cX2_leaves 77 = .ok (.goto (-31), 3) := dk_167 255 225 (dk_at dksX2_leaves_3 5 rfl rfl)
theorem dX2_leaves_80 : decode cX2_leaves 80 = .ok (.iinc 3 (-1), 3) := dk_132 3 255 (dk_at dksX2_leaves_3 8 rfl rfl)
theorem dX2_leaves_83 : decode cX2_leaves 83 = .ok (.goto (-49), 3) := dk_167 255 207 (dk_at dksX2_leaves_3 11 rfl rfl)
theorem dX2_leaves_86 : decode cX2_leaves 86 = .ok (.iload_n 1, 1) := dk_27 (dk_at dksX2_leaves_3 14 rfl rfl)
theorem dX2_leaves_87 : decode cX2_leaves 87 = .ok (.ifCond .ne 7, 3) := dk_154 0 7 (dk_at dksX2_leaves_3 15 rfl rfl)
theorem dX2_leaves_90 : decode cX2_leaves 90 = .ok (.iload_n 2, 1) := dk_28 (dk_at dksX2_leaves_3 18 rfl rfl)
theorem dX2_leaves_91 : decode cX2_leaves 91 = .ok (.goto 19, 3) := dk_167 0 19 (dk_at dksX2_leaves_3 19 rfl rfl)
theorem dX2_leaves_94 : decode cX2_leaves 94 = .ok (.iload_n 1, 1) := dk_27 (dk_at dksX2_leaves_3 22 rfl rfl)
theorem dX2_leaves_95 : decode cX2_leaves 95 = .ok (.iconst 1, 1) := dk_4 (dk_at dksX2_leaves_3 23 rfl rfl)
theorem dX2_leaves_96 : decode cX2_leaves 96 = .ok (.if_icmp .ne 10, 3) := dk_160 0 10 (dk_at dksX2_leaves_4 0 rfl rfl)
theorem dX2_leaves_99 : decode cX2_leaves 99 = .ok (.aload_n 0, 1) := dk_42 (dk_at dksX2_leaves_4 3 rfl rfl)
theorem dX2_leaves_100 : decode cX2_leaves 100 = .ok (.invokevirtual 247, 3) := dk_182 0 247 (dk_at dksX2_leaves_4 4 rfl rfl)
theorem dX2_leaves_103 : decode cX2_leaves 103 = .ok (.goto 7, 3) := dk_167 0 7 (dk_at dksX2_leaves_4 7 rfl rfl)
theorem dX2_leaves_106 : decode cX2_leaves 106 = .ok (.aload_n 0, 1) := dk_42 (dk_at dksX2_leaves_4 10 rfl rfl)
theorem dX2_leaves_107 : decode cX2_leaves 107 = .ok (.invokevirtual 250, 3) := dk_182 0 250 (dk_at dksX2_leaves_4 11 rfl rfl)
theorem dX2_leaves_110 : decode cX2_leaves 110 = .ok (.ireturn, 1) := dk_172 (dk_at dksX2_leaves_4 14 rfl rfl)
abbrev cX2_wouldLeave : ByteArray := prog_12_method_59_code
def yX2_wouldLeave : MethodName := ⟨RX2, "wouldLeave", "(II)Z"⟩
def dkwX2_wouldLeave_1 : List UInt8 := [182, 0, 239, 153, 0, 7, 4, 167, 0, 4, 3, 172]
abbrev dktX2_wouldLeave_1 : List UInt8 := dkwX2_wouldLeave_1 ++ []
def dkwX2_wouldLeave_0 : List UInt8 := [42, 180, 0, 19, 27, 46, 28, 159, 0, 25, 42, 27, 28, 182, 0, 239, 153, 0, 16, 42, 28, 27]
abbrev dktX2_wouldLeave_0 : List UInt8 := dkwX2_wouldLeave_0 ++ dktX2_wouldLeave_1
theorem dksX2_wouldLeave_0 : cX2_wouldLeave.data.toList.drop 0 = dktX2_wouldLeave_0 := by decide +kernel
theorem dksX2_wouldLeave_1 : cX2_wouldLeave.data.toList.drop 22 = dktX2_wouldLeave_1 := dk_seg dksX2_wouldLeave_0 22 rfl rfl
theorem dX2_wouldLeave_0 : decode cX2_wouldLeave 0 = .ok (.aload_n 0, 1) := dk_42 (dk_at dksX2_wouldLeave_0 0 rfl rfl)
theorem dX2_wouldLeave_1 : decode cX2_wouldLeave 1 = .ok (.getfield 19, 3) := dk_180 0 19 (dk_at dksX2_wouldLeave_0 1 rfl rfl)
theorem dX2_wouldLeave_4 : decode cX2_wouldLeave 4 = .ok (.iload_n 1, 1) := dk_27 (dk_at dksX2_wouldLeave_0 4 rfl rfl)
theorem dX2_wouldLeave_5 : decode cX2_wouldLeave 5 = .ok (.iaload, 1) := dk_46 (dk_at dksX2_wouldLeave_0 5 rfl rfl)
theorem dX2_wouldLeave_6 : decode cX2_wouldLeave 6 = .ok (.iload_n 2, 1) := dk_28 (dk_at dksX2_wouldLeave_0 6 rfl rfl)
theorem dX2_wouldLeave_7 : decode cX2_wouldLeave 7 = .ok (.if_icmp .eq 25, 3) := dk_159 0 25 (dk_at dksX2_wouldLeave_0 7 rfl rfl)
theorem dX2_wouldLeave_10 : decode cX2_wouldLeave 10 = .ok (.aload_n 0, 1) := dk_42 (dk_at dksX2_wouldLeave_0 10 rfl rfl)
theorem dX2_wouldLeave_11 : decode cX2_wouldLeave 11 = .ok (.iload_n 1, 1) := dk_27 (dk_at dksX2_wouldLeave_0 11 rfl rfl)
theorem dX2_wouldLeave_12 : decode cX2_wouldLeave 12 = .ok (.iload_n 2, 1) := dk_28 (dk_at dksX2_wouldLeave_0 12 rfl rfl)
theorem dX2_wouldLeave_13 : decode cX2_wouldLeave 13 = .ok (.invokevirtual 239, 3) := dk_182 0 239 (dk_at dksX2_wouldLeave_0 13 rfl rfl)
theorem dX2_wouldLeave_16 : decode cX2_wouldLeave 16 = .ok (.ifCond .eq 16, 3) := dk_153 0 16 (dk_at dksX2_wouldLeave_0 16 rfl rfl)
theorem dX2_wouldLeave_19 : decode cX2_wouldLeave 19 = .ok (.aload_n 0, 1) := dk_42 (dk_at dksX2_wouldLeave_0 19 rfl rfl)
theorem dX2_wouldLeave_20 : decode cX2_wouldLeave 20 = .ok (.iload_n 2, 1) := dk_28 (dk_at dksX2_wouldLeave_0 20 rfl rfl)
theorem dX2_wouldLeave_21 : decode cX2_wouldLeave 21 = .ok (.iload_n 1, 1) := dk_27 (dk_at dksX2_wouldLeave_0 21 rfl rfl)
theorem dX2_wouldLeave_22 : decode cX2_wouldLeave 22 = .ok (.invokevirtual 239, 3) := dk_182 0 239 (dk_at dksX2_wouldLeave_1 0 rfl rfl)
theorem dX2_wouldLeave_25 : decode cX2_wouldLeave 25 = .ok (.ifCond .eq 7, 3) := dk_153 0 7 (dk_at dksX2_wouldLeave_1 3 rfl rfl)
theorem dX2_wouldLeave_28 : decode cX2_wouldLeave 28 = .ok (.iconst 1, 1) := dk_4 (dk_at dksX2_wouldLeave_1 6 rfl rfl)
theorem dX2_wouldLeave_29 : decode cX2_wouldLeave 29 = .ok (.goto 4, 3) := dk_167 0 4 (dk_at dksX2_wouldLeave_1 7 rfl rfl)
theorem dX2_wouldLeave_32 : decode cX2_wouldLeave 32 = .ok (.iconst 0, 1) := dk_3 (dk_at dksX2_wouldLeave_1 10 rfl rfl)
theorem dX2_wouldLeave_33 : decode cX2_wouldLeave 33 = .ok (.ireturn, 1) := dk_172 (dk_at dksX2_wouldLeave_1 11 rfl rfl)
abbrev cX2_ratherThanMate : ByteArray := prog_12_method_18_code
def yX2_ratherThanMate : MethodName := ⟨RX2, "ratherThanMate", "(II)Z"⟩
def dkwX2_ratherThanMate_2 : List UInt8 := [4, 167, 0, 4, 3, 172]
abbrev dktX2_ratherThanMate_2 : List UInt8 := dkwX2_ratherThanMate_2 ++ []
def dkwX2_ratherThanMate_1 : List UInt8 := [3, 167, 0, 28, 42, 27, 28, 182, 0, 90, 42, 27, 42, 180, 0, 19, 27, 46, 182, 0, 90, 164, 0, 7]
abbrev dktX2_ratherThanMate_1 : List UInt8 := dkwX2_ratherThanMate_1 ++ dktX2_ratherThanMate_2
def dkwX2_ratherThanMate_0 : List UInt8 := [42, 180, 0, 19, 27, 46, 156, 0, 22, 42, 27, 28, 182, 0, 90, 16, 50, 161, 0, 7, 4, 167, 0, 32]
abbrev dktX2_ratherThanMate_0 : List UInt8 := dkwX2_ratherThanMate_0 ++ dktX2_ratherThanMate_1
theorem dksX2_ratherThanMate_0 : cX2_ratherThanMate.data.toList.drop 0 = dktX2_ratherThanMate_0 := by decide +kernel
theorem dksX2_ratherThanMate_1 : cX2_ratherThanMate.data.toList.drop 24 = dktX2_ratherThanMate_1 := dk_seg dksX2_ratherThanMate_0 24 rfl rfl
theorem dksX2_ratherThanMate_2 : cX2_ratherThanMate.data.toList.drop 48 = dktX2_ratherThanMate_2 := dk_seg dksX2_ratherThanMate_1 24 rfl rfl
theorem dX2_ratherThanMate_0 : decode cX2_ratherThanMate 0 = .ok (.aload_n 0, 1) := dk_42 (dk_at dksX2_ratherThanMate_0 0 rfl rfl)
theorem dX2_ratherThanMate_1 : decode cX2_ratherThanMate 1 = .ok (.getfield 19, 3) := dk_180 0 19 (dk_at dksX2_ratherThanMate_0 1 rfl rfl)
theorem dX2_ratherThanMate_4 : decode cX2_ratherThanMate 4 = .ok (.iload_n 1, 1) := dk_27 (dk_at dksX2_ratherThanMate_0 4 rfl rfl)
theorem dX2_ratherThanMate_5 : decode cX2_ratherThanMate 5 = .ok (.iaload, 1) := dk_46 (dk_at dksX2_ratherThanMate_0 5 rfl rfl)
theorem dX2_ratherThanMate_6 : decode cX2_ratherThanMate 6 = .ok (.ifCond .ge 22, 3) := dk_156 0 22 (dk_at dksX2_ratherThanMate_0 6 rfl rfl)
theorem dX2_ratherThanMate_9 : decode cX2_ratherThanMate 9 = .ok (.aload_n 0, 1) := dk_42 (dk_at dksX2_ratherThanMate_0 9 rfl rfl)
theorem dX2_ratherThanMate_10 : decode cX2_ratherThanMate 10 = .ok (.iload_n 1, 1) := dk_27 (dk_at dksX2_ratherThanMate_0 10 rfl rfl)
theorem dX2_ratherThanMate_11 : decode cX2_ratherThanMate 11 = .ok (.iload_n 2, 1) := dk_28 (dk_at dksX2_ratherThanMate_0 11 rfl rfl)
theorem dX2_ratherThanMate_12 : decode cX2_ratherThanMate 12 = .ok (.invokevirtual 90, 3) := dk_182 0 90 (dk_at dksX2_ratherThanMate_0 12 rfl rfl)
theorem dX2_ratherThanMate_15 : decode cX2_ratherThanMate 15 = .ok (.bipush 50, 2) := dk_16 50 (dk_at dksX2_ratherThanMate_0 15 rfl rfl)
theorem dX2_ratherThanMate_17 : decode cX2_ratherThanMate 17 = .ok (.if_icmp .lt 7, 3) := dk_161 0 7 (dk_at dksX2_ratherThanMate_0 17 rfl rfl)
theorem dX2_ratherThanMate_20 : decode cX2_ratherThanMate 20 = .ok (.iconst 1, 1) := dk_4 (dk_at dksX2_ratherThanMate_0 20 rfl rfl)
theorem dX2_ratherThanMate_21 : decode cX2_ratherThanMate 21 = .ok (.goto 32, 3) := dk_167 0 32 (dk_at dksX2_ratherThanMate_0 21 rfl rfl)
theorem dX2_ratherThanMate_24 : decode cX2_ratherThanMate 24 = .ok (.iconst 0, 1) := dk_3 (dk_at dksX2_ratherThanMate_1 0 rfl rfl)
theorem dX2_ratherThanMate_25 : decode cX2_ratherThanMate 25 = .ok (.goto 28, 3) := dk_167 0 28 (dk_at dksX2_ratherThanMate_1 1 rfl rfl)
theorem dX2_ratherThanMate_28 : decode cX2_ratherThanMate 28 = .ok (.aload_n 0, 1) := dk_42 (dk_at dksX2_ratherThanMate_1 4 rfl rfl)
theorem dX2_ratherThanMate_29 : decode cX2_ratherThanMate 29 = .ok (.iload_n 1, 1) := dk_27 (dk_at dksX2_ratherThanMate_1 5 rfl rfl)
theorem dX2_ratherThanMate_30 : decode cX2_ratherThanMate 30 = .ok (.iload_n 2, 1) := dk_28 (dk_at dksX2_ratherThanMate_1 6 rfl rfl)
theorem dX2_ratherThanMate_31 : decode cX2_ratherThanMate 31 = .ok (.invokevirtual 90, 3) := dk_182 0 90 (dk_at dksX2_ratherThanMate_1 7 rfl rfl)
theorem dX2_ratherThanMate_34 : decode cX2_ratherThanMate 34 = .ok (.aload_n 0, 1) := dk_42 (dk_at dksX2_ratherThanMate_1 10 rfl rfl)
theorem dX2_ratherThanMate_35 : decode cX2_ratherThanMate 35 = .ok (.iload_n 1, 1) := dk_27 (dk_at dksX2_ratherThanMate_1 11 rfl rfl)
theorem dX2_ratherThanMate_36 : decode cX2_ratherThanMate 36 = .ok (.aload_n 0, 1) := dk_42 (dk_at dksX2_ratherThanMate_1 12 rfl rfl)
theorem dX2_ratherThanMate_37 : decode cX2_ratherThanMate 37 = .ok (.getfield 19, 3) := dk_180 0 19 (dk_at dksX2_ratherThanMate_1 13 rfl rfl)
theorem dX2_ratherThanMate_40 : decode cX2_ratherThanMate 40 = .ok (.iload_n 1, 1) := dk_27 (dk_at dksX2_ratherThanMate_1 16 rfl rfl)
theorem dX2_ratherThanMate_41 : decode cX2_ratherThanMate 41 = .ok (.iaload, 1) := dk_46 (dk_at dksX2_ratherThanMate_1 17 rfl rfl)
theorem dX2_ratherThanMate_42 : decode cX2_ratherThanMate 42 = .ok (.invokevirtual 90, 3) := dk_182 0 90 (dk_at dksX2_ratherThanMate_1 18 rfl rfl)
theorem dX2_ratherThanMate_45 : decode cX2_ratherThanMate 45 = .ok (.if_icmp .le 7, 3) := dk_164 0 7 (dk_at dksX2_ratherThanMate_1 21 rfl rfl)
theorem dX2_ratherThanMate_48 : decode cX2_ratherThanMate 48 = .ok (.iconst 1, 1) := dk_4 (dk_at dksX2_ratherThanMate_2 0 rfl rfl)
theorem dX2_ratherThanMate_49 : decode cX2_ratherThanMate 49 = .ok (.goto 4, 3) := dk_167 0 4 (dk_at dksX2_ratherThanMate_2 1 rfl rfl)
theorem dX2_ratherThanMate_52 : decode cX2_ratherThanMate 52 = .ok (.iconst 0, 1) := dk_3 (dk_at dksX2_ratherThanMate_2 4 rfl rfl)
theorem dX2_ratherThanMate_53 : decode cX2_ratherThanMate 53 = .ok (.ireturn, 1) := dk_172 (dk_at dksX2_ratherThanMate_2 5 rfl rfl)
abbrev cX2_leavingTwos : ByteArray := prog_12_method_61_code
def yX2_leavingTwos : MethodName := ⟨RX2, "leavingTwos", "()I"⟩
def dkwX2_leavingTwos_2 : List UInt8 := [132, 2, 1, 167, 255, 210, 27, 172]
abbrev dktX2_leavingTwos_2 : List UInt8 := dkwX2_leavingTwos_2 ++ []
def dkwX2_leavingTwos_1 : List UInt8 := [27, 42, 28, 29, 182, 0, 242, 153, 0, 7, 4, 167, 0, 4, 3, 96, 60, 132, 3, 1, 167, 255, 228]
abbrev dktX2_leavingTwos_1 : List UInt8 := dkwX2_leavingTwos_1 ++ dktX2_leavingTwos_2
def dkwX2_leavingTwos_0 : List UInt8 := [3, 60, 3, 61, 28, 42, 180, 0, 68, 162, 0, 44, 28, 4, 96, 62, 29, 42, 180, 0, 68, 162, 0, 26]
abbrev dktX2_leavingTwos_0 : List UInt8 := dkwX2_leavingTwos_0 ++ dktX2_leavingTwos_1
theorem dksX2_leavingTwos_0 : cX2_leavingTwos.data.toList.drop 0 = dktX2_leavingTwos_0 := by decide +kernel
theorem dksX2_leavingTwos_1 : cX2_leavingTwos.data.toList.drop 24 = dktX2_leavingTwos_1 := dk_seg dksX2_leavingTwos_0 24 rfl rfl
theorem dksX2_leavingTwos_2 : cX2_leavingTwos.data.toList.drop 47 = dktX2_leavingTwos_2 := dk_seg dksX2_leavingTwos_1 23 rfl rfl
theorem dX2_leavingTwos_0 : decode cX2_leavingTwos 0 = .ok (.iconst 0, 1) := dk_3 (dk_at dksX2_leavingTwos_0 0 rfl rfl)
theorem dX2_leavingTwos_1 : decode cX2_leavingTwos 1 = .ok (.istore_n 1, 1) := dk_60 (dk_at dksX2_leavingTwos_0 1 rfl rfl)
theorem dX2_leavingTwos_2 : decode cX2_leavingTwos 2 = .ok (.iconst 0, 1) := dk_3 (dk_at dksX2_leavingTwos_0 2 rfl rfl)
theorem dX2_leavingTwos_3 : decode cX2_leavingTwos 3 = .ok (.istore_n 2, 1) := dk_61 (dk_at dksX2_leavingTwos_0 3 rfl rfl)
theorem dX2_leavingTwos_4 : decode cX2_leavingTwos 4 = .ok (.iload_n 2, 1) := dk_28 (dk_at dksX2_leavingTwos_0 4 rfl rfl)
theorem dX2_leavingTwos_5 : decode cX2_leavingTwos 5 = .ok (.aload_n 0, 1) := dk_42 (dk_at dksX2_leavingTwos_0 5 rfl rfl)
theorem dX2_leavingTwos_6 : decode cX2_leavingTwos 6 = .ok (.getfield 68, 3) := dk_180 0 68 (dk_at dksX2_leavingTwos_0 6 rfl rfl)
theorem dX2_leavingTwos_9 : decode cX2_leavingTwos 9 = .ok (.if_icmp .ge 44, 3) := dk_162 0 44 (dk_at dksX2_leavingTwos_0 9 rfl rfl)
theorem dX2_leavingTwos_12 : decode cX2_leavingTwos 12 = .ok (.iload_n 2, 1) := dk_28 (dk_at dksX2_leavingTwos_0 12 rfl rfl)
theorem dX2_leavingTwos_13 : decode cX2_leavingTwos 13 = .ok (.iconst 1, 1) := dk_4 (dk_at dksX2_leavingTwos_0 13 rfl rfl)
theorem dX2_leavingTwos_14 : decode cX2_leavingTwos 14 = .ok (.iadd, 1) := dk_96 (dk_at dksX2_leavingTwos_0 14 rfl rfl)
theorem dX2_leavingTwos_15 : decode cX2_leavingTwos 15 = .ok (.istore_n 3, 1) := dk_62 (dk_at dksX2_leavingTwos_0 15 rfl rfl)
theorem dX2_leavingTwos_16 : decode cX2_leavingTwos 16 = .ok (.iload_n 3, 1) := dk_29 (dk_at dksX2_leavingTwos_0 16 rfl rfl)
theorem dX2_leavingTwos_17 : decode cX2_leavingTwos 17 = .ok (.aload_n 0, 1) := dk_42 (dk_at dksX2_leavingTwos_0 17 rfl rfl)
theorem dX2_leavingTwos_18 : decode cX2_leavingTwos 18 = .ok (.getfield 68, 3) := dk_180 0 68 (dk_at dksX2_leavingTwos_0 18 rfl rfl)
theorem dX2_leavingTwos_21 : decode cX2_leavingTwos 21 = .ok (.if_icmp .ge 26, 3) := dk_162 0 26 (dk_at dksX2_leavingTwos_0 21 rfl rfl)
theorem dX2_leavingTwos_24 : decode cX2_leavingTwos 24 = .ok (.iload_n 1, 1) := dk_27 (dk_at dksX2_leavingTwos_1 0 rfl rfl)
theorem dX2_leavingTwos_25 : decode cX2_leavingTwos 25 = .ok (.aload_n 0, 1) := dk_42 (dk_at dksX2_leavingTwos_1 1 rfl rfl)
theorem dX2_leavingTwos_26 : decode cX2_leavingTwos 26 = .ok (.iload_n 2, 1) := dk_28 (dk_at dksX2_leavingTwos_1 2 rfl rfl)
theorem dX2_leavingTwos_27 : decode cX2_leavingTwos 27 = .ok (.iload_n 3, 1) := dk_29 (dk_at dksX2_leavingTwos_1 3 rfl rfl)
theorem dX2_leavingTwos_28 : decode cX2_leavingTwos 28 = .ok (.invokevirtual 242, 3) := dk_182 0 242 (dk_at dksX2_leavingTwos_1 4 rfl rfl)
theorem dX2_leavingTwos_31 : decode cX2_leavingTwos 31 = .ok (.ifCond .eq 7, 3) := dk_153 0 7 (dk_at dksX2_leavingTwos_1 7 rfl rfl)
theorem dX2_leavingTwos_34 : decode cX2_leavingTwos 34 = .ok (.iconst 1, 1) := dk_4 (dk_at dksX2_leavingTwos_1 10 rfl rfl)
theorem dX2_leavingTwos_35 : decode cX2_leavingTwos 35 = .ok (.goto 4, 3) := dk_167 0 4 (dk_at dksX2_leavingTwos_1 11 rfl rfl)
theorem dX2_leavingTwos_38 : decode cX2_leavingTwos 38 = .ok (.iconst 0, 1) := dk_3 (dk_at dksX2_leavingTwos_1 14 rfl rfl)
theorem dX2_leavingTwos_39 : decode cX2_leavingTwos 39 = .ok (.iadd, 1) := dk_96 (dk_at dksX2_leavingTwos_1 15 rfl rfl)
theorem dX2_leavingTwos_40 : decode cX2_leavingTwos 40 = .ok (.istore_n 1, 1) := dk_60 (dk_at dksX2_leavingTwos_1 16 rfl rfl)
theorem dX2_leavingTwos_41 : decode cX2_leavingTwos 41 = .ok (.iinc 3 1, 3) := dk_132 3 1 (dk_at dksX2_leavingTwos_1 17 rfl rfl)
theorem dX2_leavingTwos_44 : decode cX2_leavingTwos 44 = .ok (.goto (-28), 3) := dk_167 255 228 (dk_at dksX2_leavingTwos_1 20 rfl rfl)
theorem dX2_leavingTwos_47 : decode cX2_leavingTwos 47 = .ok (.iinc 2 1, 3) := dk_132 2 1 (dk_at dksX2_leavingTwos_2 0 rfl rfl)
theorem dX2_leavingTwos_50 : decode cX2_leavingTwos 50 = .ok (.goto (-46), 3) := dk_167 255 210 (dk_at dksX2_leavingTwos_2 3 rfl rfl)
theorem dX2_leavingTwos_53 : decode cX2_leavingTwos 53 = .ok (.iload_n 1, 1) := dk_27 (dk_at dksX2_leavingTwos_2 6 rfl rfl)
theorem dX2_leavingTwos_54 : decode cX2_leavingTwos 54 = .ok (.ireturn, 1) := dk_172 (dk_at dksX2_leavingTwos_2 7 rfl rfl)
abbrev cX2_ridBits : ByteArray := prog_12_method_60_code
def yX2_ridBits : MethodName := ⟨RX2, "ridBits", "()I"⟩
def dkwX2_ridBits_2 : List UInt8 := [132, 2, 1, 167, 255, 210, 27, 172]
abbrev dktX2_ridBits_2 : List UInt8 := dkwX2_ridBits_2 ++ []
def dkwX2_ridBits_1 : List UInt8 := [42, 180, 0, 19, 28, 46, 182, 0, 90, 16, 50, 162, 0, 9, 4, 28, 120, 167, 0, 4, 3, 128, 60]
abbrev dktX2_ridBits_1 : List UInt8 := dkwX2_ridBits_1 ++ dktX2_ridBits_2
def dkwX2_ridBits_0 : List UInt8 := [3, 60, 3, 61, 28, 42, 180, 0, 68, 162, 0, 44, 27, 42, 180, 0, 19, 28, 46, 155, 0, 25, 42, 28]
abbrev dktX2_ridBits_0 : List UInt8 := dkwX2_ridBits_0 ++ dktX2_ridBits_1
theorem dksX2_ridBits_0 : cX2_ridBits.data.toList.drop 0 = dktX2_ridBits_0 := by decide +kernel
theorem dksX2_ridBits_1 : cX2_ridBits.data.toList.drop 24 = dktX2_ridBits_1 := dk_seg dksX2_ridBits_0 24 rfl rfl
theorem dksX2_ridBits_2 : cX2_ridBits.data.toList.drop 47 = dktX2_ridBits_2 := dk_seg dksX2_ridBits_1 23 rfl rfl
theorem dX2_ridBits_0 : decode cX2_ridBits 0 = .ok (.iconst 0, 1) := dk_3 (dk_at dksX2_ridBits_0 0 rfl rfl)
theorem dX2_ridBits_1 : decode cX2_ridBits 1 = .ok (.istore_n 1, 1) := dk_60 (dk_at dksX2_ridBits_0 1 rfl rfl)
theorem dX2_ridBits_2 : decode cX2_ridBits 2 = .ok (.iconst 0, 1) := dk_3 (dk_at dksX2_ridBits_0 2 rfl rfl)
theorem dX2_ridBits_3 : decode cX2_ridBits 3 = .ok (.istore_n 2, 1) := dk_61 (dk_at dksX2_ridBits_0 3 rfl rfl)
theorem dX2_ridBits_4 : decode cX2_ridBits 4 = .ok (.iload_n 2, 1) := dk_28 (dk_at dksX2_ridBits_0 4 rfl rfl)
theorem dX2_ridBits_5 : decode cX2_ridBits 5 = .ok (.aload_n 0, 1) := dk_42 (dk_at dksX2_ridBits_0 5 rfl rfl)
theorem dX2_ridBits_6 : decode cX2_ridBits 6 = .ok (.getfield 68, 3) := dk_180 0 68 (dk_at dksX2_ridBits_0 6 rfl rfl)
theorem dX2_ridBits_9 : decode cX2_ridBits 9 = .ok (.if_icmp .ge 44, 3) := dk_162 0 44 (dk_at dksX2_ridBits_0 9 rfl rfl)
theorem dX2_ridBits_12 : decode cX2_ridBits 12 = .ok (.iload_n 1, 1) := dk_27 (dk_at dksX2_ridBits_0 12 rfl rfl)
theorem dX2_ridBits_13 : decode cX2_ridBits 13 = .ok (.aload_n 0, 1) := dk_42 (dk_at dksX2_ridBits_0 13 rfl rfl)
theorem dX2_ridBits_14 : decode cX2_ridBits 14 = .ok (.getfield 19, 3) := dk_180 0 19 (dk_at dksX2_ridBits_0 14 rfl rfl)
theorem dX2_ridBits_17 : decode cX2_ridBits 17 = .ok (.iload_n 2, 1) := dk_28 (dk_at dksX2_ridBits_0 17 rfl rfl)
theorem dX2_ridBits_18 : decode cX2_ridBits 18 = .ok (.iaload, 1) := dk_46 (dk_at dksX2_ridBits_0 18 rfl rfl)
theorem dX2_ridBits_19 : decode cX2_ridBits 19 = .ok (.ifCond .lt 25, 3) := dk_155 0 25 (dk_at dksX2_ridBits_0 19 rfl rfl)
theorem dX2_ridBits_22 : decode cX2_ridBits 22 = .ok (.aload_n 0, 1) := dk_42 (dk_at dksX2_ridBits_0 22 rfl rfl)
theorem dX2_ridBits_23 : decode cX2_ridBits 23 = .ok (.iload_n 2, 1) := dk_28 (dk_at dksX2_ridBits_0 23 rfl rfl)
theorem dX2_ridBits_24 : decode cX2_ridBits 24 = .ok (.aload_n 0, 1) := dk_42 (dk_at dksX2_ridBits_1 0 rfl rfl)
theorem dX2_ridBits_25 : decode cX2_ridBits 25 = .ok (.getfield 19, 3) := dk_180 0 19 (dk_at dksX2_ridBits_1 1 rfl rfl)
theorem dX2_ridBits_28 : decode cX2_ridBits 28 = .ok (.iload_n 2, 1) := dk_28 (dk_at dksX2_ridBits_1 4 rfl rfl)
theorem dX2_ridBits_29 : decode cX2_ridBits 29 = .ok (.iaload, 1) := dk_46 (dk_at dksX2_ridBits_1 5 rfl rfl)
theorem dX2_ridBits_30 : decode cX2_ridBits 30 = .ok (.invokevirtual 90, 3) := dk_182 0 90 (dk_at dksX2_ridBits_1 6 rfl rfl)
theorem dX2_ridBits_33 : decode cX2_ridBits 33 = .ok (.bipush 50, 2) := dk_16 50 (dk_at dksX2_ridBits_1 9 rfl rfl)
theorem dX2_ridBits_35 : decode cX2_ridBits 35 = .ok (.if_icmp .ge 9, 3) := dk_162 0 9 (dk_at dksX2_ridBits_1 11 rfl rfl)
theorem dX2_ridBits_38 : decode cX2_ridBits 38 = .ok (.iconst 1, 1) := dk_4 (dk_at dksX2_ridBits_1 14 rfl rfl)
theorem dX2_ridBits_39 : decode cX2_ridBits 39 = .ok (.iload_n 2, 1) := dk_28 (dk_at dksX2_ridBits_1 15 rfl rfl)
theorem dX2_ridBits_40 : decode cX2_ridBits 40 = .ok (.ishl, 1) := dk_120 (dk_at dksX2_ridBits_1 16 rfl rfl)
theorem dX2_ridBits_41 : decode cX2_ridBits 41 = .ok (.goto 4, 3) := dk_167 0 4 (dk_at dksX2_ridBits_1 17 rfl rfl)
theorem dX2_ridBits_44 : decode cX2_ridBits 44 = .ok (.iconst 0, 1) := dk_3 (dk_at dksX2_ridBits_1 20 rfl rfl)
theorem dX2_ridBits_45 : decode cX2_ridBits 45 = .ok (.ior, 1) := dk_128 (dk_at dksX2_ridBits_1 21 rfl rfl)
theorem dX2_ridBits_46 : decode cX2_ridBits 46 = .ok (.istore_n 1, 1) := dk_60 (dk_at dksX2_ridBits_1 22 rfl rfl)
theorem dX2_ridBits_47 : decode cX2_ridBits 47 = .ok (.iinc 2 1, 3) := dk_132 2 1 (dk_at dksX2_ridBits_2 0 rfl rfl)
theorem dX2_ridBits_50 : decode cX2_ridBits 50 = .ok (.goto (-46), 3) := dk_167 255 210 (dk_at dksX2_ridBits_2 3 rfl rfl)
theorem dX2_ridBits_53 : decode cX2_ridBits 53 = .ok (.iload_n 1, 1) := dk_27 (dk_at dksX2_ridBits_2 6 rfl rfl)
theorem dX2_ridBits_54 : decode cX2_ridBits 54 = .ok (.ireturn, 1) := dk_172 (dk_at dksX2_ridBits_2 7 rfl rfl)
abbrev cX2_pairings : ByteArray := prog_12_method_66_code
def yX2_pairings : MethodName := ⟨RX2, "pairings", "(I)I"⟩
def dkwX2_pairings_6 : List UInt8 := [27, 96, 46, 172]
abbrev dktX2_pairings_6 : List UInt8 := dkwX2_pairings_6 ++ []
def dkwX2_pairings_5 : List UInt8 := [156, 0, 7, 28, 167, 0, 23, 29, 156, 0, 8, 16, 247, 167, 0, 14, 42, 180, 0, 52, 16, 6, 29, 104]
abbrev dktX2_pairings_5 : List UInt8 := dkwX2_pairings_5 ++ dktX2_pairings_6
def dkwX2_pairings_4 : List UInt8 := [21, 5, 153, 0, 8, 21, 4, 167, 0, 4, 29, 62, 132, 4, 255, 167, 255, 196, 42, 182, 0, 184, 27]
abbrev dktX2_pairings_4 : List UInt8 := dkwX2_pairings_4 ++ dktX2_pairings_5
def dkwX2_pairings_3 : List UInt8 := [154, 0, 7, 4, 167, 0, 4, 3, 54, 5, 28, 21, 5, 153, 0, 7, 4, 167, 0, 4, 3, 96, 61]
abbrev dktX2_pairings_3 : List UInt8 := dkwX2_pairings_3 ++ dktX2_pairings_4
def dkwX2_pairings_2 : List UInt8 := [54, 4, 21, 4, 155, 0, 61, 42, 21, 4, 182, 1, 8, 42, 182, 0, 247, 154, 0, 14, 42, 182, 0, 250]
abbrev dktX2_pairings_2 : List UInt8 := dkwX2_pairings_2 ++ dktX2_pairings_3
def dkwX2_pairings_1 : List UInt8 := [2, 182, 0, 128, 172, 42, 182, 1, 5, 3, 61, 16, 247, 62, 42, 182, 0, 178, 42, 180, 0, 253, 4, 100]
abbrev dktX2_pairings_1 : List UInt8 := dkwX2_pairings_1 ++ dktX2_pairings_2
def dkwX2_pairings_0 : List UInt8 := [42, 3, 181, 0, 65, 27, 133, 20, 1, 3, 42, 180, 0, 68, 4, 100, 133, 184, 0, 71, 154, 0, 9, 42]
abbrev dktX2_pairings_0 : List UInt8 := dkwX2_pairings_0 ++ dktX2_pairings_1
theorem dksX2_pairings_0 : cX2_pairings.data.toList.drop 0 = dktX2_pairings_0 := by decide +kernel
theorem dksX2_pairings_1 : cX2_pairings.data.toList.drop 24 = dktX2_pairings_1 := dk_seg dksX2_pairings_0 24 rfl rfl
theorem dksX2_pairings_2 : cX2_pairings.data.toList.drop 48 = dktX2_pairings_2 := dk_seg dksX2_pairings_1 24 rfl rfl
theorem dksX2_pairings_3 : cX2_pairings.data.toList.drop 72 = dktX2_pairings_3 := dk_seg dksX2_pairings_2 24 rfl rfl
theorem dksX2_pairings_4 : cX2_pairings.data.toList.drop 95 = dktX2_pairings_4 := dk_seg dksX2_pairings_3 23 rfl rfl
theorem dksX2_pairings_5 : cX2_pairings.data.toList.drop 118 = dktX2_pairings_5 := dk_seg dksX2_pairings_4 23 rfl rfl
theorem dksX2_pairings_6 : cX2_pairings.data.toList.drop 142 = dktX2_pairings_6 := dk_seg dksX2_pairings_5 24 rfl rfl
theorem dX2_pairings_0 : decode cX2_pairings 0 = .ok (.aload_n 0, 1) := dk_42 (dk_at dksX2_pairings_0 0 rfl rfl)
theorem dX2_pairings_1 : decode cX2_pairings 1 = .ok (.iconst 0, 1) := dk_3 (dk_at dksX2_pairings_0 1 rfl rfl)
theorem dX2_pairings_2 : decode cX2_pairings 2 = .ok (.putfield 65, 3) := dk_181 0 65 (dk_at dksX2_pairings_0 2 rfl rfl)
theorem dX2_pairings_5 : decode cX2_pairings 5 = .ok (.iload_n 1, 1) := dk_27 (dk_at dksX2_pairings_0 5 rfl rfl)
theorem dX2_pairings_6 : decode cX2_pairings 6 = .ok (.i2l, 1) := dk_133 (dk_at dksX2_pairings_0 6 rfl rfl)
theorem dX2_pairings_7 : decode cX2_pairings 7 = .ok (.ldc2_w 259, 3) := dk_20 1 3 (dk_at dksX2_pairings_0 7 rfl rfl)
theorem dX2_pairings_10 : decode cX2_pairings 10 = .ok (.aload_n 0, 1) := dk_42 (dk_at dksX2_pairings_0 10 rfl rfl)
theorem dX2_pairings_11 : decode cX2_pairings 11 = .ok (.getfield 68, 3) := dk_180 0 68 (dk_at dksX2_pairings_0 11 rfl rfl)
theorem dX2_pairings_14 : decode cX2_pairings 14 = .ok (.iconst 1, 1) := dk_4 (dk_at dksX2_pairings_0 14 rfl rfl)
theorem dX2_pairings_15 : decode cX2_pairings 15 = .ok (.isub, 1) := dk_100 (dk_at dksX2_pairings_0 15 rfl rfl)
theorem dX2_pairings_16 : decode cX2_pairings 16 = .ok (.i2l, 1) := dk_133 (dk_at dksX2_pairings_0 16 rfl rfl)
theorem dX2_pairings_17 : decode cX2_pairings 17 = .ok (.invokestatic 71, 3) := dk_184 0 71 (dk_at dksX2_pairings_0 17 rfl rfl)
theorem dX2_pairings_20 : decode cX2_pairings 20 = .ok (.ifCond .ne 9, 3) := dk_154 0 9 (dk_at dksX2_pairings_0 20 rfl rfl)
theorem dX2_pairings_23 : decode cX2_pairings 23 = .ok (.aload_n 0, 1) := dk_42 (dk_at dksX2_pairings_0 23 rfl rfl)
theorem dX2_pairings_24 : decode cX2_pairings 24 = .ok (.iconst (-1), 1) := dk_2 (dk_at dksX2_pairings_1 0 rfl rfl)
theorem dX2_pairings_25 : decode cX2_pairings 25 = .ok (.invokevirtual 128, 3) := dk_182 0 128 (dk_at dksX2_pairings_1 1 rfl rfl)
theorem dX2_pairings_28 : decode cX2_pairings 28 = .ok (.ireturn, 1) := dk_172 (dk_at dksX2_pairings_1 4 rfl rfl)
theorem dX2_pairings_29 : decode cX2_pairings 29 = .ok (.aload_n 0, 1) := dk_42 (dk_at dksX2_pairings_1 5 rfl rfl)
theorem dX2_pairings_30 : decode cX2_pairings 30 = .ok (.invokevirtual 261, 3) := dk_182 1 5 (dk_at dksX2_pairings_1 6 rfl rfl)
theorem dX2_pairings_33 : decode cX2_pairings 33 = .ok (.iconst 0, 1) := dk_3 (dk_at dksX2_pairings_1 9 rfl rfl)
theorem dX2_pairings_34 : decode cX2_pairings 34 = .ok (.istore_n 2, 1) := dk_61 (dk_at dksX2_pairings_1 10 rfl rfl)
theorem dX2_pairings_35 : decode cX2_pairings 35 = .ok (.bipush (-9), 2) := dk_16 247 (dk_at dksX2_pairings_1 11 rfl rfl)
theorem dX2_pairings_37 : decode cX2_pairings 37 = .ok (.istore_n 3, 1) := dk_62 (dk_at dksX2_pairings_1 13 rfl rfl)
theorem dX2_pairings_38 : decode cX2_pairings 38 = .ok (.aload_n 0, 1) := dk_42 (dk_at dksX2_pairings_1 14 rfl rfl)
theorem dX2_pairings_39 : decode cX2_pairings 39 = .ok (.invokevirtual 178, 3) := dk_182 0 178 (dk_at dksX2_pairings_1 15 rfl rfl)
theorem dX2_pairings_42 : decode cX2_pairings 42 = .ok (.aload_n 0, 1) := dk_42 (dk_at dksX2_pairings_1 18 rfl rfl)
theorem dX2_pairings_43 : decode cX2_pairings 43 = .ok (.getfield 253, 3) := dk_180 0 253 (dk_at dksX2_pairings_1 19 rfl rfl)
theorem dX2_pairings_46 : decode cX2_pairings 46 = .ok (.iconst 1, 1) := dk_4 (dk_at dksX2_pairings_1 22 rfl rfl)
theorem dX2_pairings_47 : decode cX2_pairings 47 = .ok (.isub, 1) := dk_100 (dk_at dksX2_pairings_1 23 rfl rfl)
theorem dX2_pairings_48 : decode cX2_pairings 48 = .ok (.istore 4, 2) := dk_54 4 (dk_at dksX2_pairings_2 0 rfl rfl)
theorem dX2_pairings_50 : decode cX2_pairings 50 = .ok (.iload 4, 2) := dk_21 4 (dk_at dksX2_pairings_2 2 rfl rfl)
theorem dX2_pairings_52 : decode cX2_pairings 52 = .ok (.ifCond .lt 61, 3) := dk_155 0 61 (dk_at dksX2_pairings_2 4 rfl rfl)
theorem dX2_pairings_55 : decode cX2_pairings 55 = .ok (.aload_n 0, 1) := dk_42 (dk_at dksX2_pairings_2 7 rfl rfl)
theorem dX2_pairings_56 : decode cX2_pairings 56 = .ok (.iload 4, 2) := dk_21 4 (dk_at dksX2_pairings_2 8 rfl rfl)
theorem dX2_pairings_58 : decode cX2_pairings 58 = .ok (.invokevirtual 264, 3) := dk_182 1 8 (dk_at dksX2_pairings_2 10 rfl rfl)
theorem dX2_pairings_61 : decode cX2_pairings 61 = .ok (.aload_n 0, 1) := dk_42 (dk_at dksX2_pairings_2 13 rfl rfl)
theorem dX2_pairings_62 : decode cX2_pairings 62 = .ok (.invokevirtual 247, 3) := dk_182 0 247 (dk_at dksX2_pairings_2 14 rfl rfl)
theorem dX2_pairings_65 : decode cX2_pairings 65 = .ok (.ifCond .ne 14, 3) := dk_154 0 14 (dk_at dksX2_pairings_2 17 rfl rfl)
theorem dX2_pairings_68 : decode cX2_pairings 68 = .ok (.aload_n 0, 1) := dk_42 (dk_at dksX2_pairings_2 20 rfl rfl)
theorem dX2_pairings_69 : decode cX2_pairings 69 = .ok (.invokevirtual 250, 3) := dk_182 0 250 (dk_at dksX2_pairings_2 21 rfl rfl)
theorem dX2_pairings_72 : decode cX2_pairings 72 = .ok (.ifCond .ne 7, 3) := dk_154 0 7 (dk_at dksX2_pairings_3 0 rfl rfl)
theorem dX2_pairings_75 : decode cX2_pairings 75 = .ok (.iconst 1, 1) := dk_4 (dk_at dksX2_pairings_3 3 rfl rfl)
theorem dX2_pairings_76 : decode cX2_pairings 76 = .ok (.goto 4, 3) := dk_167 0 4 (dk_at dksX2_pairings_3 4 rfl rfl)
theorem dX2_pairings_79 : decode cX2_pairings 79 = .ok (.iconst 0, 1) := dk_3 (dk_at dksX2_pairings_3 7 rfl rfl)
theorem dX2_pairings_80 : decode cX2_pairings 80 = .ok (.istore 5, 2) := dk_54 5 (dk_at dksX2_pairings_3 8 rfl rfl)
theorem dX2_pairings_82 : decode cX2_pairings 82 = .ok (.iload_n 2, 1) := dk_28 (dk_at dksX2_pairings_3 10 rfl rfl)
theorem dX2_pairings_83 : decode cX2_pairings 83 = .ok (.iload 5, 2) := dk_21 5 (dk_at dksX2_pairings_3 11 rfl rfl)
theorem dX2_pairings_85 : decode cX2_pairings 85 = .ok (.ifCond .eq 7, 3) := dk_153 0 7 (dk_at dksX2_pairings_3 13 rfl rfl)
theorem dX2_pairings_88 : decode cX2_pairings 88 = .ok (.iconst 1, 1) := dk_4 (dk_at dksX2_pairings_3 16 rfl rfl)
theorem dX2_pairings_89 : decode cX2_pairings 89 = .ok (.goto 4, 3) := dk_167 0 4 (dk_at dksX2_pairings_3 17 rfl rfl)
theorem dX2_pairings_92 : decode cX2_pairings 92 = .ok (.iconst 0, 1) := dk_3 (dk_at dksX2_pairings_3 20 rfl rfl)
theorem dX2_pairings_93 : decode cX2_pairings 93 = .ok (.iadd, 1) := dk_96 (dk_at dksX2_pairings_3 21 rfl rfl)
theorem dX2_pairings_94 : decode cX2_pairings 94 = .ok (.istore_n 2, 1) := dk_61 (dk_at dksX2_pairings_3 22 rfl rfl)
theorem dX2_pairings_95 : decode cX2_pairings 95 = .ok (.iload 5, 2) := dk_21 5 (dk_at dksX2_pairings_4 0 rfl rfl)
theorem dX2_pairings_97 : decode cX2_pairings 97 = .ok (.ifCond .eq 8, 3) := dk_153 0 8 (dk_at dksX2_pairings_4 2 rfl rfl)
theorem dX2_pairings_100 : decode cX2_pairings 100 = .ok (.iload 4, 2) := dk_21 4 (dk_at dksX2_pairings_4 5 rfl rfl)
theorem dX2_pairings_102 : decode cX2_pairings 102 = .ok (.goto 4, 3) := dk_167 0 4 (dk_at dksX2_pairings_4 7 rfl rfl)
theorem dX2_pairings_105 : decode cX2_pairings 105 = .ok (.iload_n 3, 1) := dk_29 (dk_at dksX2_pairings_4 10 rfl rfl)
theorem dX2_pairings_106 : decode cX2_pairings 106 = .ok (.istore_n 3, 1) := dk_62 (dk_at dksX2_pairings_4 11 rfl rfl)
theorem dX2_pairings_107 : decode cX2_pairings 107 = .ok (.iinc 4 (-1), 3) := dk_132 4 255 (dk_at dksX2_pairings_4 12 rfl rfl)
theorem dX2_pairings_110 : decode cX2_pairings 110 = .ok (.goto (-60), 3) := dk_167 255 196 (dk_at dksX2_pairings_4 15 rfl rfl)
theorem dX2_pairings_113 : decode cX2_pairings 113 = .ok (.aload_n 0, 1) := dk_42 (dk_at dksX2_pairings_4 18 rfl rfl)
theorem dX2_pairings_114 : decode cX2_pairings 114 = .ok (.invokevirtual 184, 3) := dk_182 0 184 (dk_at dksX2_pairings_4 19 rfl rfl)
theorem dX2_pairings_117 : decode cX2_pairings 117 = .ok (.iload_n 1, 1) := dk_27 (dk_at dksX2_pairings_4 22 rfl rfl)
theorem dX2_pairings_118 : decode cX2_pairings 118 = .ok (.ifCond .ge 7, 3) := dk_156 0 7 (dk_at dksX2_pairings_5 0 rfl rfl)
theorem dX2_pairings_121 : decode cX2_pairings 121 = .ok (.iload_n 2, 1) := dk_28 (dk_at dksX2_pairings_5 3 rfl rfl)
theorem dX2_pairings_122 : decode cX2_pairings 122 = .ok (.goto 23, 3) := dk_167 0 23 (dk_at dksX2_pairings_5 4 rfl rfl)
theorem dX2_pairings_125 : decode cX2_pairings 125 = .ok (.iload_n 3, 1) := dk_29 (dk_at dksX2_pairings_5 7 rfl rfl)
theorem dX2_pairings_126 : decode cX2_pairings 126 = .ok (.ifCond .ge 8, 3) := dk_156 0 8 (dk_at dksX2_pairings_5 8 rfl rfl)
theorem dX2_pairings_129 : decode cX2_pairings 129 = .ok (.bipush (-9), 2) := dk_16 247 (dk_at dksX2_pairings_5 11 rfl rfl)
theorem dX2_pairings_131 : decode cX2_pairings 131 = .ok (.goto 14, 3) := dk_167 0 14 (dk_at dksX2_pairings_5 13 rfl rfl)
theorem dX2_pairings_134 : decode cX2_pairings 134 = .ok (.aload_n 0, 1) := dk_42 (dk_at dksX2_pairings_5 16 rfl rfl)
theorem dX2_pairings_135 : decode cX2_pairings 135 = .ok (.getfield 52, 3) := dk_180 0 52 (dk_at dksX2_pairings_5 17 rfl rfl)
theorem dX2_pairings_138 : decode cX2_pairings 138 = .ok (.bipush 6, 2) := dk_16 6 (dk_at dksX2_pairings_5 20 rfl rfl)
theorem dX2_pairings_140 : decode cX2_pairings 140 = .ok (.iload_n 3, 1) := dk_29 (dk_at dksX2_pairings_5 22 rfl rfl)
theorem dX2_pairings_141 : decode cX2_pairings 141 = .ok (.imul, 1) := dk_104 (dk_at dksX2_pairings_5 23 rfl rfl)
theorem dX2_pairings_142 : decode cX2_pairings 142 = .ok (.iload_n 1, 1) := dk_27 (dk_at dksX2_pairings_6 0 rfl rfl)
theorem dX2_pairings_143 : decode cX2_pairings 143 = .ok (.iadd, 1) := dk_96 (dk_at dksX2_pairings_6 1 rfl rfl)
theorem dX2_pairings_144 : decode cX2_pairings 144 = .ok (.iaload, 1) := dk_46 (dk_at dksX2_pairings_6 2 rfl rfl)
theorem dX2_pairings_145 : decode cX2_pairings 145 = .ok (.ireturn, 1) := dk_172 (dk_at dksX2_pairings_6 3 rfl rfl)
abbrev cX2_layPairings : ByteArray := prog_12_method_64_code
def yX2_layPairings : MethodName := ⟨RX2, "layPairings", "()V"⟩
def dkwX2_layPairings_5 : List UInt8 := [4, 96, 181, 0, 253, 132, 2, 1, 167, 255, 181, 177]
abbrev dktX2_layPairings_5 : List UInt8 := dkwX2_layPairings_5 ++ []
def dkwX2_layPairings_4 : List UInt8 := [180, 0, 253, 104, 29, 96, 42, 180, 0, 59, 29, 46, 79, 132, 3, 1, 167, 255, 225, 42, 89, 180, 0, 253]
abbrev dktX2_layPairings_4 : List UInt8 := dkwX2_layPairings_4 ++ dktX2_layPairings_5
def dkwX2_layPairings_3 : List UInt8 := [4, 182, 1, 0, 153, 0, 49, 3, 62, 29, 42, 180, 0, 68, 162, 0, 29, 42, 180, 0, 52, 16, 6, 42]
abbrev dktX2_layPairings_3 : List UInt8 := dkwX2_layPairings_3 ++ dktX2_layPairings_4
def dkwX2_layPairings_2 : List UInt8 := [167, 255, 240, 3, 61, 28, 27, 162, 0, 76, 42, 28, 27, 4, 164, 0, 10, 27, 16, 6, 108, 167, 0, 4]
abbrev dktX2_layPairings_2 : List UInt8 := dkwX2_layPairings_2 ++ dktX2_layPairings_3
def dkwX2_layPairings_1 : List UInt8 := [181, 0, 253, 4, 60, 3, 61, 28, 42, 180, 0, 68, 162, 0, 14, 27, 16, 6, 104, 60, 132, 2, 1]
abbrev dktX2_layPairings_1 : List UInt8 := dkwX2_layPairings_1 ++ dktX2_layPairings_2
def dkwX2_layPairings_0 : List UInt8 := [42, 180, 0, 55, 42, 180, 0, 68, 160, 0, 4, 177, 42, 42, 180, 0, 68, 181, 0, 55, 42, 3]
abbrev dktX2_layPairings_0 : List UInt8 := dkwX2_layPairings_0 ++ dktX2_layPairings_1
theorem dksX2_layPairings_0 : cX2_layPairings.data.toList.drop 0 = dktX2_layPairings_0 := by decide +kernel
theorem dksX2_layPairings_1 : cX2_layPairings.data.toList.drop 22 = dktX2_layPairings_1 := dk_seg dksX2_layPairings_0 22 rfl rfl
theorem dksX2_layPairings_2 : cX2_layPairings.data.toList.drop 45 = dktX2_layPairings_2 := dk_seg dksX2_layPairings_1 23 rfl rfl
theorem dksX2_layPairings_3 : cX2_layPairings.data.toList.drop 69 = dktX2_layPairings_3 := dk_seg dksX2_layPairings_2 24 rfl rfl
theorem dksX2_layPairings_4 : cX2_layPairings.data.toList.drop 93 = dktX2_layPairings_4 := dk_seg dksX2_layPairings_3 24 rfl rfl
theorem dksX2_layPairings_5 : cX2_layPairings.data.toList.drop 117 = dktX2_layPairings_5 := dk_seg dksX2_layPairings_4 24 rfl rfl
theorem dX2_layPairings_0 : decode cX2_layPairings 0 = .ok (.aload_n 0, 1) := dk_42 (dk_at dksX2_layPairings_0 0 rfl rfl)
theorem dX2_layPairings_1 : decode cX2_layPairings 1 = .ok (.getfield 55, 3) := dk_180 0 55 (dk_at dksX2_layPairings_0 1 rfl rfl)
theorem dX2_layPairings_4 : decode cX2_layPairings 4 = .ok (.aload_n 0, 1) := dk_42 (dk_at dksX2_layPairings_0 4 rfl rfl)
theorem dX2_layPairings_5 : decode cX2_layPairings 5 = .ok (.getfield 68, 3) := dk_180 0 68 (dk_at dksX2_layPairings_0 5 rfl rfl)
theorem dX2_layPairings_8 : decode cX2_layPairings 8 = .ok (.if_icmp .ne 4, 3) := dk_160 0 4 (dk_at dksX2_layPairings_0 8 rfl rfl)
theorem dX2_layPairings_11 : decode cX2_layPairings 11 = .ok (.return_, 1) := dk_177 (dk_at dksX2_layPairings_0 11 rfl rfl)
theorem dX2_layPairings_12 : decode cX2_layPairings 12 = .ok (.aload_n 0, 1) := dk_42 (dk_at dksX2_layPairings_0 12 rfl rfl)
theorem dX2_layPairings_13 : decode cX2_layPairings 13 = .ok (.aload_n 0, 1) := dk_42 (dk_at dksX2_layPairings_0 13 rfl rfl)
theorem dX2_layPairings_14 : decode cX2_layPairings 14 = .ok (.getfield 68, 3) := dk_180 0 68 (dk_at dksX2_layPairings_0 14 rfl rfl)
theorem dX2_layPairings_17 : decode cX2_layPairings 17 = .ok (.putfield 55, 3) := dk_181 0 55 (dk_at dksX2_layPairings_0 17 rfl rfl)
theorem dX2_layPairings_20 : decode cX2_layPairings 20 = .ok (.aload_n 0, 1) := dk_42 (dk_at dksX2_layPairings_0 20 rfl rfl)
theorem dX2_layPairings_21 : decode cX2_layPairings 21 = .ok (.iconst 0, 1) := dk_3 (dk_at dksX2_layPairings_0 21 rfl rfl)
theorem dX2_layPairings_22 : decode cX2_layPairings 22 = .ok (.putfield 253, 3) := dk_181 0 253 (dk_at dksX2_layPairings_1 0 rfl rfl)
theorem dX2_layPairings_25 : decode cX2_layPairings 25 = .ok (.iconst 1, 1) := dk_4 (dk_at dksX2_layPairings_1 3 rfl rfl)
theorem dX2_layPairings_26 : decode cX2_layPairings 26 = .ok (.istore_n 1, 1) := dk_60 (dk_at dksX2_layPairings_1 4 rfl rfl)
theorem dX2_layPairings_27 : decode cX2_layPairings 27 = .ok (.iconst 0, 1) := dk_3 (dk_at dksX2_layPairings_1 5 rfl rfl)
theorem dX2_layPairings_28 : decode cX2_layPairings 28 = .ok (.istore_n 2, 1) := dk_61 (dk_at dksX2_layPairings_1 6 rfl rfl)
theorem dX2_layPairings_29 : decode cX2_layPairings 29 = .ok (.iload_n 2, 1) := dk_28 (dk_at dksX2_layPairings_1 7 rfl rfl)
theorem dX2_layPairings_30 : decode cX2_layPairings 30 = .ok (.aload_n 0, 1) := dk_42 (dk_at dksX2_layPairings_1 8 rfl rfl)
theorem dX2_layPairings_31 : decode cX2_layPairings 31 = .ok (.getfield 68, 3) := dk_180 0 68 (dk_at dksX2_layPairings_1 9 rfl rfl)
theorem dX2_layPairings_34 : decode cX2_layPairings 34 = .ok (.if_icmp .ge 14, 3) := dk_162 0 14 (dk_at dksX2_layPairings_1 12 rfl rfl)
theorem dX2_layPairings_37 : decode cX2_layPairings 37 = .ok (.iload_n 1, 1) := dk_27 (dk_at dksX2_layPairings_1 15 rfl rfl)
theorem dX2_layPairings_38 : decode cX2_layPairings 38 = .ok (.bipush 6, 2) := dk_16 6 (dk_at dksX2_layPairings_1 16 rfl rfl)
theorem dX2_layPairings_40 : decode cX2_layPairings 40 = .ok (.imul, 1) := dk_104 (dk_at dksX2_layPairings_1 18 rfl rfl)
theorem dX2_layPairings_41 : decode cX2_layPairings 41 = .ok (.istore_n 1, 1) := dk_60 (dk_at dksX2_layPairings_1 19 rfl rfl)
theorem dX2_layPairings_42 : decode cX2_layPairings 42 = .ok (.iinc 2 1, 3) := dk_132 2 1 (dk_at dksX2_layPairings_1 20 rfl rfl)
theorem dX2_layPairings_45 : decode cX2_layPairings 45 = .ok (.goto (-16), 3) := dk_167 255 240 (dk_at dksX2_layPairings_2 0 rfl rfl)
theorem dX2_layPairings_48 : decode cX2_layPairings 48 = .ok (.iconst 0, 1) := dk_3 (dk_at dksX2_layPairings_2 3 rfl rfl)
theorem dX2_layPairings_49 : decode cX2_layPairings 49 = .ok (.istore_n 2, 1) := dk_61 (dk_at dksX2_layPairings_2 4 rfl rfl)
theorem dX2_layPairings_50 : decode cX2_layPairings 50 = .ok (.iload_n 2, 1) := dk_28 (dk_at dksX2_layPairings_2 5 rfl rfl)
theorem dX2_layPairings_51 : decode cX2_layPairings 51 = .ok (.iload_n 1, 1) := dk_27 (dk_at dksX2_layPairings_2 6 rfl rfl)
theorem dX2_layPairings_52 : decode cX2_layPairings 52 = .ok (.if_icmp .ge 76, 3) := dk_162 0 76 (dk_at dksX2_layPairings_2 7 rfl rfl)
theorem dX2_layPairings_55 : decode cX2_layPairings 55 = .ok (.aload_n 0, 1) := dk_42 (dk_at dksX2_layPairings_2 10 rfl rfl)
theorem dX2_layPairings_56 : decode cX2_layPairings 56 = .ok (.iload_n 2, 1) := dk_28 (dk_at dksX2_layPairings_2 11 rfl rfl)
theorem dX2_layPairings_57 : decode cX2_layPairings 57 = .ok (.iload_n 1, 1) := dk_27 (dk_at dksX2_layPairings_2 12 rfl rfl)
theorem dX2_layPairings_58 : decode cX2_layPairings 58 = .ok (.iconst 1, 1) := dk_4 (dk_at dksX2_layPairings_2 13 rfl rfl)
theorem dX2_layPairings_59 : decode cX2_layPairings 59 = .ok (.if_icmp .le 10, 3) := dk_164 0 10 (dk_at dksX2_layPairings_2 14 rfl rfl)
theorem dX2_layPairings_62 : decode cX2_layPairings 62 = .ok (.iload_n 1, 1) := dk_27 (dk_at dksX2_layPairings_2 17 rfl rfl)
theorem dX2_layPairings_63 : decode cX2_layPairings 63 = .ok (.bipush 6, 2) := dk_16 6 (dk_at dksX2_layPairings_2 18 rfl rfl)
theorem dX2_layPairings_65 : decode cX2_layPairings 65 = .ok (.idiv, 1) := dk_108 (dk_at dksX2_layPairings_2 20 rfl rfl)
theorem dX2_layPairings_66 : decode cX2_layPairings 66 = .ok (.goto 4, 3) := dk_167 0 4 (dk_at dksX2_layPairings_2 21 rfl rfl)
theorem dX2_layPairings_69 : decode cX2_layPairings 69 = .ok (.iconst 1, 1) := dk_4 (dk_at dksX2_layPairings_3 0 rfl rfl)
theorem dX2_layPairings_70 : decode cX2_layPairings 70 = .ok (.invokevirtual 256, 3) := dk_182 1 0 (dk_at dksX2_layPairings_3 1 rfl rfl)
theorem dX2_layPairings_73 : decode cX2_layPairings 73 = .ok (.ifCond .eq 49, 3) := dk_153 0 49 (dk_at dksX2_layPairings_3 4 rfl rfl)
theorem dX2_layPairings_76 : decode cX2_layPairings 76 = .ok (.iconst 0, 1) := dk_3 (dk_at dksX2_layPairings_3 7 rfl rfl)
theorem dX2_layPairings_77 : decode cX2_layPairings 77 = .ok (.istore_n 3, 1) := dk_62 (dk_at dksX2_layPairings_3 8 rfl rfl)
theorem dX2_layPairings_78 : decode cX2_layPairings 78 = .ok (.iload_n 3, 1) := dk_29 (dk_at dksX2_layPairings_3 9 rfl rfl)
theorem dX2_layPairings_79 : decode cX2_layPairings 79 = .ok (.aload_n 0, 1) := dk_42 (dk_at dksX2_layPairings_3 10 rfl rfl)
theorem dX2_layPairings_80 : decode cX2_layPairings 80 = .ok (.getfield 68, 3) := dk_180 0 68 (dk_at dksX2_layPairings_3 11 rfl rfl)
theorem dX2_layPairings_83 : decode cX2_layPairings 83 = .ok (.if_icmp .ge 29, 3) := dk_162 0 29 (dk_at dksX2_layPairings_3 14 rfl rfl)
theorem dX2_layPairings_86 : decode cX2_layPairings 86 = .ok (.aload_n 0, 1) := dk_42 (dk_at dksX2_layPairings_3 17 rfl rfl)
theorem dX2_layPairings_87 : decode cX2_layPairings 87 = .ok (.getfield 52, 3) := dk_180 0 52 (dk_at dksX2_layPairings_3 18 rfl rfl)
theorem dX2_layPairings_90 : decode cX2_layPairings 90 = .ok (.bipush 6, 2) := dk_16 6 (dk_at dksX2_layPairings_3 21 rfl rfl)
theorem dX2_layPairings_92 : decode cX2_layPairings 92 = .ok (.aload_n 0, 1) := dk_42 (dk_at dksX2_layPairings_3 23 rfl rfl)
theorem dX2_layPairings_93 : decode cX2_layPairings 93 = .ok (.getfield 253, 3) := dk_180 0 253 (dk_at dksX2_layPairings_4 0 rfl rfl)
theorem dX2_layPairings_96 : decode cX2_layPairings 96 = .ok (.imul, 1) := dk_104 (dk_at dksX2_layPairings_4 3 rfl rfl)
theorem dX2_layPairings_97 : decode cX2_layPairings 97 = .ok (.iload_n 3, 1) := dk_29 (dk_at dksX2_layPairings_4 4 rfl rfl)
theorem dX2_layPairings_98 : decode cX2_layPairings 98 = .ok (.iadd, 1) := dk_96 (dk_at dksX2_layPairings_4 5 rfl rfl)
theorem dX2_layPairings_99 : decode cX2_layPairings 99 = .ok (.aload_n 0, 1) := dk_42 (dk_at dksX2_layPairings_4 6 rfl rfl)
theorem dX2_layPairings_100 : decode cX2_layPairings 100 = .ok (.getfield 59, 3) := dk_180 0 59 (dk_at dksX2_layPairings_4 7 rfl rfl)
theorem dX2_layPairings_103 : decode cX2_layPairings 103 = .ok (.iload_n 3, 1) := dk_29 (dk_at dksX2_layPairings_4 10 rfl rfl)
theorem dX2_layPairings_104 : decode cX2_layPairings 104 = .ok (.iaload, 1) := dk_46 (dk_at dksX2_layPairings_4 11 rfl rfl)
theorem dX2_layPairings_105 : decode cX2_layPairings 105 = .ok (.iastore, 1) := dk_79 (dk_at dksX2_layPairings_4 12 rfl rfl)
theorem dX2_layPairings_106 : decode cX2_layPairings 106 = .ok (.iinc 3 1, 3) := dk_132 3 1 (dk_at dksX2_layPairings_4 13 rfl rfl)
theorem dX2_layPairings_109 : decode cX2_layPairings 109 = .ok (.goto (-31), 3) := dk_167 255 225 (dk_at dksX2_layPairings_4 16 rfl rfl)
theorem dX2_layPairings_112 : decode cX2_layPairings 112 = .ok (.aload_n 0, 1) := dk_42 (dk_at dksX2_layPairings_4 19 rfl rfl)
theorem dX2_layPairings_113 : decode cX2_layPairings 113 = .ok (.dup, 1) := dk_89 (dk_at dksX2_layPairings_4 20 rfl rfl)
theorem dX2_layPairings_114 : decode cX2_layPairings 114 = .ok (.getfield 253, 3) := dk_180 0 253 (dk_at dksX2_layPairings_4 21 rfl rfl)
theorem dX2_layPairings_117 : decode cX2_layPairings 117 = .ok (.iconst 1, 1) := dk_4 (dk_at dksX2_layPairings_5 0 rfl rfl)
theorem dX2_layPairings_118 : decode cX2_layPairings 118 = .ok (.iadd, 1) := dk_96 (dk_at dksX2_layPairings_5 1 rfl rfl)
theorem dX2_layPairings_119 : decode cX2_layPairings 119 = .ok (.putfield 253, 3) := dk_181 0 253 (dk_at dksX2_layPairings_5 2 rfl rfl)
theorem dX2_layPairings_122 : decode cX2_layPairings 122 = .ok (.iinc 2 1, 3) := dk_132 2 1 (dk_at dksX2_layPairings_5 5 rfl rfl)
theorem dX2_layPairings_125 : decode cX2_layPairings 125 = .ok (.goto (-75), 3) := dk_167 255 181 (dk_at dksX2_layPairings_5 8 rfl rfl)
theorem dX2_layPairings_128 : decode cX2_layPairings 128 = .ok (.return_, 1) := dk_177 (dk_at dksX2_layPairings_5 11 rfl rfl)
abbrev cX2_layTrial : ByteArray := prog_12_method_63_code
def yX2_layTrial : MethodName := ⟨RX2, "layTrial", "(II)Z"⟩
def dkwX2_layTrial_8 : List UInt8 := [167, 0, 4, 3, 172]
abbrev dktX2_layTrial_8 : List UInt8 := dkwX2_layTrial_8 ++ []
def dkwX2_layTrial_7 : List UInt8 := [21, 6, 79, 29, 4, 21, 8, 120, 128, 62, 132, 6, 1, 167, 255, 90, 21, 5, 154, 0, 7, 4]
abbrev dktX2_layTrial_7 : List UInt8 := dkwX2_layTrial_7 ++ dktX2_layTrial_8
def dkwX2_layTrial_6 : List UInt8 := [172, 21, 8, 21, 6, 164, 0, 28, 42, 180, 0, 59, 21, 6, 21, 8, 79, 42, 180, 0, 59, 21, 8]
abbrev dktX2_layTrial_6 : List UInt8 := dkwX2_layTrial_6 ++ dktX2_layTrial_7
def dkwX2_layTrial_5 : List UInt8 := [154, 0, 7, 4, 167, 0, 4, 3, 100, 54, 7, 167, 255, 211, 21, 8, 42, 180, 0, 68, 161, 0, 5, 3]
abbrev dktX2_layTrial_5 : List UInt8 := dkwX2_layTrial_5 ++ dktX2_layTrial_6
def dkwX2_layTrial_4 : List UInt8 := [162, 0, 37, 132, 8, 1, 21, 7, 21, 8, 42, 180, 0, 68, 162, 0, 16, 29, 21, 8, 184, 0, 93]
abbrev dktX2_layTrial_4 : List UInt8 := dkwX2_layTrial_4 ++ dktX2_layTrial_5
def dkwX2_layTrial_3 : List UInt8 := [42, 180, 0, 59, 21, 6, 16, 247, 79, 21, 6, 54, 8, 21, 7, 158, 0, 46, 21, 8, 42, 180, 0, 68]
abbrev dktX2_layTrial_3 : List UInt8 := dkwX2_layTrial_3 ++ dktX2_layTrial_4
def dkwX2_layTrial_2 : List UInt8 := [21, 4, 4, 164, 0, 11, 21, 4, 16, 6, 108, 167, 0, 4, 4, 54, 4, 29, 4, 21, 6, 120, 128, 62]
abbrev dktX2_layTrial_2 : List UInt8 := dkwX2_layTrial_2 ++ dktX2_layTrial_3
def dkwX2_layTrial_1 : List UInt8 := [184, 0, 93, 153, 0, 6, 167, 0, 145, 21, 5, 21, 4, 108, 54, 7, 21, 5, 21, 4, 112, 54, 5]
abbrev dktX2_layTrial_1 : List UInt8 := dkwX2_layTrial_1 ++ dktX2_layTrial_2
def dkwX2_layTrial_0 : List UInt8 := [3, 62, 28, 54, 4, 27, 54, 5, 3, 54, 6, 21, 6, 42, 180, 0, 68, 162, 0, 163, 29, 21, 6]
abbrev dktX2_layTrial_0 : List UInt8 := dkwX2_layTrial_0 ++ dktX2_layTrial_1
theorem dksX2_layTrial_0 : cX2_layTrial.data.toList.drop 0 = dktX2_layTrial_0 := by decide +kernel
theorem dksX2_layTrial_1 : cX2_layTrial.data.toList.drop 23 = dktX2_layTrial_1 := dk_seg dksX2_layTrial_0 23 rfl rfl
theorem dksX2_layTrial_2 : cX2_layTrial.data.toList.drop 46 = dktX2_layTrial_2 := dk_seg dksX2_layTrial_1 23 rfl rfl
theorem dksX2_layTrial_3 : cX2_layTrial.data.toList.drop 70 = dktX2_layTrial_3 := dk_seg dksX2_layTrial_2 24 rfl rfl
theorem dksX2_layTrial_4 : cX2_layTrial.data.toList.drop 94 = dktX2_layTrial_4 := dk_seg dksX2_layTrial_3 24 rfl rfl
theorem dksX2_layTrial_5 : cX2_layTrial.data.toList.drop 117 = dktX2_layTrial_5 := dk_seg dksX2_layTrial_4 23 rfl rfl
theorem dksX2_layTrial_6 : cX2_layTrial.data.toList.drop 141 = dktX2_layTrial_6 := dk_seg dksX2_layTrial_5 24 rfl rfl
theorem dksX2_layTrial_7 : cX2_layTrial.data.toList.drop 164 = dktX2_layTrial_7 := dk_seg dksX2_layTrial_6 23 rfl rfl
theorem dksX2_layTrial_8 : cX2_layTrial.data.toList.drop 186 = dktX2_layTrial_8 := dk_seg dksX2_layTrial_7 22 rfl rfl
theorem dX2_layTrial_0 : decode cX2_layTrial 0 = .ok (.iconst 0, 1) := dk_3 (dk_at dksX2_layTrial_0 0 rfl rfl)
theorem dX2_layTrial_1 : decode cX2_layTrial 1 = .ok (.istore_n 3, 1) := dk_62 (dk_at dksX2_layTrial_0 1 rfl rfl)
theorem dX2_layTrial_2 : decode cX2_layTrial 2 = .ok (.iload_n 2, 1) := dk_28 (dk_at dksX2_layTrial_0 2 rfl rfl)
theorem dX2_layTrial_3 : decode cX2_layTrial 3 = .ok (.istore 4, 2) := dk_54 4 (dk_at dksX2_layTrial_0 3 rfl rfl)
theorem dX2_layTrial_5 : decode cX2_layTrial 5 = .ok (.iload_n 1, 1) := dk_27 (dk_at dksX2_layTrial_0 5 rfl rfl)
theorem dX2_layTrial_6 : decode cX2_layTrial 6 = .ok (.istore 5, 2) := dk_54 5 (dk_at dksX2_layTrial_0 6 rfl rfl)
theorem dX2_layTrial_8 : decode cX2_layTrial 8 = .ok (.iconst 0, 1) := dk_3 (dk_at dksX2_layTrial_0 8 rfl rfl)
theorem dX2_layTrial_9 : decode cX2_layTrial 9 = .ok (.istore 6, 2) := dk_54 6 (dk_at dksX2_layTrial_0 9 rfl rfl)
theorem dX2_layTrial_11 : decode cX2_layTrial 11 = .ok (.iload 6, 2) := dk_21 6 (dk_at dksX2_layTrial_0 11 rfl rfl)
theorem dX2_layTrial_13 : decode cX2_layTrial 13 = .ok (.aload_n 0, 1) := dk_42 (dk_at dksX2_layTrial_0 13 rfl rfl)
theorem dX2_layTrial_14 : decode cX2_layTrial 14 = .ok (.getfield 68, 3) := dk_180 0 68 (dk_at dksX2_layTrial_0 14 rfl rfl)
theorem dX2_layTrial_17 : decode cX2_layTrial 17 = .ok (.if_icmp .ge 163, 3) := dk_162 0 163 (dk_at dksX2_layTrial_0 17 rfl rfl)
theorem dX2_layTrial_20 : decode cX2_layTrial 20 = .ok (.iload_n 3, 1) := dk_29 (dk_at dksX2_layTrial_0 20 rfl rfl)
theorem dX2_layTrial_21 : decode cX2_layTrial 21 = .ok (.iload 6, 2) := dk_21 6 (dk_at dksX2_layTrial_0 21 rfl rfl)
theorem dX2_layTrial_23 : decode cX2_layTrial 23 = .ok (.invokestatic 93, 3) := dk_184 0 93 (dk_at dksX2_layTrial_1 0 rfl rfl)
theorem dX2_layTrial_26 : decode cX2_layTrial 26 = .ok (.ifCond .eq 6, 3) := dk_153 0 6 (dk_at dksX2_layTrial_1 3 rfl rfl)
theorem dX2_layTrial_29 : decode cX2_layTrial 29 = .ok (.goto 145, 3) := dk_167 0 145 (dk_at dksX2_layTrial_1 6 rfl rfl)
theorem dX2_layTrial_32 : decode cX2_layTrial 32 = .ok (.iload 5, 2) := dk_21 5 (dk_at dksX2_layTrial_1 9 rfl rfl)
theorem dX2_layTrial_34 : decode cX2_layTrial 34 = .ok (.iload 4, 2) := dk_21 4 (dk_at dksX2_layTrial_1 11 rfl rfl)
theorem dX2_layTrial_36 : decode cX2_layTrial 36 = .ok (.idiv, 1) := dk_108 (dk_at dksX2_layTrial_1 13 rfl rfl)
theorem dX2_layTrial_37 : decode cX2_layTrial 37 = .ok (.istore 7, 2) := dk_54 7 (dk_at dksX2_layTrial_1 14 rfl rfl)
theorem dX2_layTrial_39 : decode cX2_layTrial 39 = .ok (.iload 5, 2) := dk_21 5 (dk_at dksX2_layTrial_1 16 rfl rfl)
theorem dX2_layTrial_41 : decode cX2_layTrial 41 = .ok (.iload 4, 2) := dk_21 4 (dk_at dksX2_layTrial_1 18 rfl rfl)
theorem dX2_layTrial_43 : decode cX2_layTrial 43 = .ok (.irem, 1) := dk_112 (dk_at dksX2_layTrial_1 20 rfl rfl)
theorem dX2_layTrial_44 : decode cX2_layTrial 44 = .ok (.istore 5, 2) := dk_54 5 (dk_at dksX2_layTrial_1 21 rfl rfl)
theorem dX2_layTrial_46 : decode cX2_layTrial 46 = .ok (.iload 4, 2) := dk_21 4 (dk_at dksX2_layTrial_2 0 rfl rfl)
theorem dX2_layTrial_48 : decode cX2_layTrial 48 = .ok (.iconst 1, 1) := dk_4 (dk_at dksX2_layTrial_2 2 rfl rfl)
theorem dX2_layTrial_49 : decode cX2_layTrial 49 = .ok (.if_icmp .le 11, 3) := dk_164 0 11 (dk_at dksX2_layTrial_2 3 rfl rfl)
theorem dX2_layTrial_52 : decode cX2_layTrial 52 = .ok (.iload 4, 2) := dk_21 4 (dk_at dksX2_layTrial_2 6 rfl rfl)
theorem dX2_layTrial_54 : decode cX2_layTrial 54 = .ok (.bipush 6, 2) := dk_16 6 (dk_at dksX2_layTrial_2 8 rfl rfl)
theorem dX2_layTrial_56 : decode cX2_layTrial 56 = .ok (.idiv, 1) := dk_108 (dk_at dksX2_layTrial_2 10 rfl rfl)
theorem dX2_layTrial_57 : decode cX2_layTrial 57 = .ok (.goto 4, 3) := dk_167 0 4 (dk_at dksX2_layTrial_2 11 rfl rfl)
theorem dX2_layTrial_60 : decode cX2_layTrial 60 = .ok (.iconst 1, 1) := dk_4 (dk_at dksX2_layTrial_2 14 rfl rfl)
theorem dX2_layTrial_61 : decode cX2_layTrial 61 = .ok (.istore 4, 2) := dk_54 4 (dk_at dksX2_layTrial_2 15 rfl rfl)
theorem dX2_layTrial_63 : decode cX2_layTrial 63 = .ok (.iload_n 3, 1) := dk_29 (dk_at dksX2_layTrial_2 17 rfl rfl)
theorem dX2_layTrial_64 : decode cX2_layTrial 64 = .ok (.iconst 1, 1) := dk_4 (dk_at dksX2_layTrial_2 18 rfl rfl)
theorem dX2_layTrial_65 : decode cX2_layTrial 65 = .ok (.iload 6, 2) := dk_21 6 (dk_at dksX2_layTrial_2 19 rfl rfl)
theorem dX2_layTrial_67 : decode cX2_layTrial 67 = .ok (.ishl, 1) := dk_120 (dk_at dksX2_layTrial_2 21 rfl rfl)
theorem dX2_layTrial_68 : decode cX2_layTrial 68 = .ok (.ior, 1) := dk_128 (dk_at dksX2_layTrial_2 22 rfl rfl)
theorem dX2_layTrial_69 : decode cX2_layTrial 69 = .ok (.istore_n 3, 1) := dk_62 (dk_at dksX2_layTrial_2 23 rfl rfl)
theorem dX2_layTrial_70 : decode cX2_layTrial 70 = .ok (.aload_n 0, 1) := dk_42 (dk_at dksX2_layTrial_3 0 rfl rfl)
theorem dX2_layTrial_71 : decode cX2_layTrial 71 = .ok (.getfield 59, 3) := dk_180 0 59 (dk_at dksX2_layTrial_3 1 rfl rfl)
theorem dX2_layTrial_74 : decode cX2_layTrial 74 = .ok (.iload 6, 2) := dk_21 6 (dk_at dksX2_layTrial_3 4 rfl rfl)
theorem dX2_layTrial_76 : decode cX2_layTrial 76 = .ok (.bipush (-9), 2) := dk_16 247 (dk_at dksX2_layTrial_3 6 rfl rfl)
theorem dX2_layTrial_78 : decode cX2_layTrial 78 = .ok (.iastore, 1) := dk_79 (dk_at dksX2_layTrial_3 8 rfl rfl)
theorem dX2_layTrial_79 : decode cX2_layTrial 79 = .ok (.iload 6, 2) := dk_21 6 (dk_at dksX2_layTrial_3 9 rfl rfl)
theorem dX2_layTrial_81 : decode cX2_layTrial 81 = .ok (.istore 8, 2) := dk_54 8 (dk_at dksX2_layTrial_3 11 rfl rfl)
theorem dX2_layTrial_83 : decode cX2_layTrial 83 = .ok (.iload 7, 2) := dk_21 7 (dk_at dksX2_layTrial_3 13 rfl rfl)
theorem dX2_layTrial_85 : decode cX2_layTrial 85 = .ok (.ifCond .le 46, 3) := dk_158 0 46 (dk_at dksX2_layTrial_3 15 rfl rfl)
theorem dX2_layTrial_88 : decode cX2_layTrial 88 = .ok (.iload 8, 2) := dk_21 8 (dk_at dksX2_layTrial_3 18 rfl rfl)
theorem dX2_layTrial_90 : decode cX2_layTrial 90 = .ok (.aload_n 0, 1) := dk_42 (dk_at dksX2_layTrial_3 20 rfl rfl)
theorem dX2_layTrial_91 : decode cX2_layTrial 91 = .ok (.getfield 68, 3) := dk_180 0 68 (dk_at dksX2_layTrial_3 21 rfl rfl)
theorem dX2_layTrial_94 : decode cX2_layTrial 94 = .ok (.if_icmp .ge 37, 3) := dk_162 0 37 (dk_at dksX2_layTrial_4 0 rfl rfl)
theorem dX2_layTrial_97 : decode cX2_layTrial 97 = .ok (.iinc 8 1, 3) := dk_132 8 1 (dk_at dksX2_layTrial_4 3 rfl rfl)
theorem dX2_layTrial_100 : decode cX2_layTrial 100 = .ok (.iload 7, 2) := dk_21 7 (dk_at dksX2_layTrial_4 6 rfl rfl)
theorem dX2_layTrial_102 : decode cX2_layTrial 102 = .ok (.iload 8, 2) := dk_21 8 (dk_at dksX2_layTrial_4 8 rfl rfl)
theorem dX2_layTrial_104 : decode cX2_layTrial 104 = .ok (.aload_n 0, 1) := dk_42 (dk_at dksX2_layTrial_4 10 rfl rfl)
theorem dX2_layTrial_105 : decode cX2_layTrial 105 = .ok (.getfield 68, 3) := dk_180 0 68 (dk_at dksX2_layTrial_4 11 rfl rfl)
theorem dX2_layTrial_108 : decode cX2_layTrial 108 = .ok (.if_icmp .ge 16, 3) := dk_162 0 16 (dk_at dksX2_layTrial_4 14 rfl rfl)
theorem dX2_layTrial_111 : decode cX2_layTrial 111 = .ok (.iload_n 3, 1) := dk_29 (dk_at dksX2_layTrial_4 17 rfl rfl)
theorem dX2_layTrial_112 : decode cX2_layTrial 112 = .ok (.iload 8, 2) := dk_21 8 (dk_at dksX2_layTrial_4 18 rfl rfl)
theorem dX2_layTrial_114 : decode cX2_layTrial 114 = .ok (.invokestatic 93, 3) := dk_184 0 93 (dk_at dksX2_layTrial_4 20 rfl rfl)
theorem dX2_layTrial_117 : decode cX2_layTrial 117 = .ok (.ifCond .ne 7, 3) := dk_154 0 7 (dk_at dksX2_layTrial_5 0 rfl rfl)
theorem dX2_layTrial_120 : decode cX2_layTrial 120 = .ok (.iconst 1, 1) := dk_4 (dk_at dksX2_layTrial_5 3 rfl rfl)
theorem dX2_layTrial_121 : decode cX2_layTrial 121 = .ok (.goto 4, 3) := dk_167 0 4 (dk_at dksX2_layTrial_5 4 rfl rfl)
theorem dX2_layTrial_124 : decode cX2_layTrial 124 = .ok (.iconst 0, 1) := dk_3 (dk_at dksX2_layTrial_5 7 rfl rfl)
theorem dX2_layTrial_125 : decode cX2_layTrial 125 = .ok (.isub, 1) := dk_100 (dk_at dksX2_layTrial_5 8 rfl rfl)
theorem dX2_layTrial_126 : decode cX2_layTrial 126 = .ok (.istore 7, 2) := dk_54 7 (dk_at dksX2_layTrial_5 9 rfl rfl)
theorem dX2_layTrial_128 : decode cX2_layTrial 128 = .ok (.goto (-45), 3) := dk_167 255 211 (dk_at dksX2_layTrial_5 11 rfl rfl)
theorem dX2_layTrial_131 : decode cX2_layTrial 131 = .ok (.iload 8, 2) := dk_21 8 (dk_at dksX2_layTrial_5 14 rfl rfl)
theorem dX2_layTrial_133 : decode cX2_layTrial 133 = .ok (.aload_n 0, 1) := dk_42 (dk_at dksX2_layTrial_5 16 rfl rfl)
theorem dX2_layTrial_134 : decode cX2_layTrial 134 = .ok (.getfield 68, 3) := dk_180 0 68 (dk_at dksX2_layTrial_5 17 rfl rfl)
theorem dX2_layTrial_137 : decode cX2_layTrial 137 = .ok (.if_icmp .lt 5, 3) := dk_161 0 5 (dk_at dksX2_layTrial_5 20 rfl rfl)
theorem dX2_layTrial_140 : decode cX2_layTrial 140 = .ok (.iconst 0, 1) := dk_3 (dk_at dksX2_layTrial_5 23 rfl rfl)
theorem dX2_layTrial_141 : decode cX2_layTrial 141 = .ok (.ireturn, 1) := dk_172 (dk_at dksX2_layTrial_6 0 rfl rfl)
theorem dX2_layTrial_142 : decode cX2_layTrial 142 = .ok (.iload 8, 2) := dk_21 8 (dk_at dksX2_layTrial_6 1 rfl rfl)
theorem dX2_layTrial_144 : decode cX2_layTrial 144 = .ok (.iload 6, 2) := dk_21 6 (dk_at dksX2_layTrial_6 3 rfl rfl)
theorem dX2_layTrial_146 : decode cX2_layTrial 146 = .ok (.if_icmp .le 28, 3) := dk_164 0 28 (dk_at dksX2_layTrial_6 5 rfl rfl)
theorem dX2_layTrial_149 : decode cX2_layTrial 149 = .ok (.aload_n 0, 1) := dk_42 (dk_at dksX2_layTrial_6 8 rfl rfl)
theorem dX2_layTrial_150 : decode cX2_layTrial 150 = .ok (.getfield 59, 3) := dk_180 0 59 (dk_at dksX2_layTrial_6 9 rfl rfl)
theorem dX2_layTrial_153 : decode cX2_layTrial 153 = .ok (.iload 6, 2) := dk_21 6 (dk_at dksX2_layTrial_6 12 rfl rfl)
theorem dX2_layTrial_155 : decode cX2_layTrial 155 = .ok (.iload 8, 2) := dk_21 8 (dk_at dksX2_layTrial_6 14 rfl rfl)
theorem dX2_layTrial_157 : decode cX2_layTrial 157 = .ok (.iastore, 1) := dk_79 (dk_at dksX2_layTrial_6 16 rfl rfl)
theorem dX2_layTrial_158 : decode cX2_layTrial 158 = .ok (.aload_n 0, 1) := dk_42 (dk_at dksX2_layTrial_6 17 rfl rfl)
theorem dX2_layTrial_159 : decode cX2_layTrial 159 = .ok (.getfield 59, 3) := dk_180 0 59 (dk_at dksX2_layTrial_6 18 rfl rfl)
theorem dX2_layTrial_162 : decode cX2_layTrial 162 = .ok (.iload 8, 2) := dk_21 8 (dk_at dksX2_layTrial_6 21 rfl rfl)
theorem dX2_layTrial_164 : decode cX2_layTrial 164 = .ok (.iload 6, 2) := dk_21 6 (dk_at dksX2_layTrial_7 0 rfl rfl)
theorem dX2_layTrial_166 : decode cX2_layTrial 166 = .ok (.iastore, 1) := dk_79 (dk_at dksX2_layTrial_7 2 rfl rfl)
theorem dX2_layTrial_167 : decode cX2_layTrial 167 = .ok (.iload_n 3, 1) := dk_29 (dk_at dksX2_layTrial_7 3 rfl rfl)
theorem dX2_layTrial_168 : decode cX2_layTrial 168 = .ok (.iconst 1, 1) := dk_4 (dk_at dksX2_layTrial_7 4 rfl rfl)
theorem dX2_layTrial_169 : decode cX2_layTrial 169 = .ok (.iload 8, 2) := dk_21 8 (dk_at dksX2_layTrial_7 5 rfl rfl)
theorem dX2_layTrial_171 : decode cX2_layTrial 171 = .ok (.ishl, 1) := dk_120 (dk_at dksX2_layTrial_7 7 rfl rfl)
theorem dX2_layTrial_172 : decode cX2_layTrial 172 = .ok (.ior, 1) := dk_128 (dk_at dksX2_layTrial_7 8 rfl rfl)
theorem dX2_layTrial_173 : decode cX2_layTrial 173 = .ok (.istore_n 3, 1) := dk_62 (dk_at dksX2_layTrial_7 9 rfl rfl)
theorem dX2_layTrial_174 : decode cX2_layTrial 174 = .ok (.iinc 6 1, 3) := dk_132 6 1 (dk_at dksX2_layTrial_7 10 rfl rfl)
theorem dX2_layTrial_177 : decode cX2_layTrial 177 = .ok (.goto (-166), 3) := dk_167 255 90 (dk_at dksX2_layTrial_7 13 rfl rfl)
theorem dX2_layTrial_180 : decode cX2_layTrial 180 = .ok (.iload 5, 2) := dk_21 5 (dk_at dksX2_layTrial_7 16 rfl rfl)
theorem dX2_layTrial_182 : decode cX2_layTrial 182 = .ok (.ifCond .ne 7, 3) := dk_154 0 7 (dk_at dksX2_layTrial_7 18 rfl rfl)
theorem dX2_layTrial_185 : decode cX2_layTrial 185 = .ok (.iconst 1, 1) := dk_4 (dk_at dksX2_layTrial_7 21 rfl rfl)
theorem dX2_layTrial_186 : decode cX2_layTrial 186 = .ok (.goto 4, 3) := dk_167 0 4 (dk_at dksX2_layTrial_8 0 rfl rfl)
theorem dX2_layTrial_189 : decode cX2_layTrial 189 = .ok (.iconst 0, 1) := dk_3 (dk_at dksX2_layTrial_8 3 rfl rfl)
theorem dX2_layTrial_190 : decode cX2_layTrial 190 = .ok (.ireturn, 1) := dk_172 (dk_at dksX2_layTrial_8 4 rfl rfl)
abbrev cX2_takePairing : ByteArray := prog_12_method_65_code
def yX2_takePairing : MethodName := ⟨RX2, "takePairing", "(I)V"⟩
def dkwX2_takePairing_1 : List UInt8 := [96, 46, 79, 132, 2, 1, 167, 255, 228, 177]
abbrev dktX2_takePairing_1 : List UInt8 := dkwX2_takePairing_1 ++ []
def dkwX2_takePairing_0 : List UInt8 := [3, 61, 28, 42, 180, 0, 68, 162, 0, 26, 42, 180, 0, 19, 28, 42, 180, 0, 52, 16, 6, 27, 104, 28]
abbrev dktX2_takePairing_0 : List UInt8 := dkwX2_takePairing_0 ++ dktX2_takePairing_1
theorem dksX2_takePairing_0 : cX2_takePairing.data.toList.drop 0 = dktX2_takePairing_0 := by decide +kernel
theorem dksX2_takePairing_1 : cX2_takePairing.data.toList.drop 24 = dktX2_takePairing_1 := dk_seg dksX2_takePairing_0 24 rfl rfl
theorem dX2_takePairing_0 : decode cX2_takePairing 0 = .ok (.iconst 0, 1) := dk_3 (dk_at dksX2_takePairing_0 0 rfl rfl)
theorem dX2_takePairing_1 : decode cX2_takePairing 1 = .ok (.istore_n 2, 1) := dk_61 (dk_at dksX2_takePairing_0 1 rfl rfl)
theorem dX2_takePairing_2 : decode cX2_takePairing 2 = .ok (.iload_n 2, 1) := dk_28 (dk_at dksX2_takePairing_0 2 rfl rfl)
theorem dX2_takePairing_3 : decode cX2_takePairing 3 = .ok (.aload_n 0, 1) := dk_42 (dk_at dksX2_takePairing_0 3 rfl rfl)
theorem dX2_takePairing_4 : decode cX2_takePairing 4 = .ok (.getfield 68, 3) := dk_180 0 68 (dk_at dksX2_takePairing_0 4 rfl rfl)
theorem dX2_takePairing_7 : decode cX2_takePairing 7 = .ok (.if_icmp .ge 26, 3) := dk_162 0 26 (dk_at dksX2_takePairing_0 7 rfl rfl)
theorem dX2_takePairing_10 : decode cX2_takePairing 10 = .ok (.aload_n 0, 1) := dk_42 (dk_at dksX2_takePairing_0 10 rfl rfl)
theorem dX2_takePairing_11 : decode cX2_takePairing 11 = .ok (.getfield 19, 3) := dk_180 0 19 (dk_at dksX2_takePairing_0 11 rfl rfl)
theorem dX2_takePairing_14 : decode cX2_takePairing 14 = .ok (.iload_n 2, 1) := dk_28 (dk_at dksX2_takePairing_0 14 rfl rfl)
theorem dX2_takePairing_15 : decode cX2_takePairing 15 = .ok (.aload_n 0, 1) := dk_42 (dk_at dksX2_takePairing_0 15 rfl rfl)
theorem dX2_takePairing_16 : decode cX2_takePairing 16 = .ok (.getfield 52, 3) := dk_180 0 52 (dk_at dksX2_takePairing_0 16 rfl rfl)
theorem dX2_takePairing_19 : decode cX2_takePairing 19 = .ok (.bipush 6, 2) := dk_16 6 (dk_at dksX2_takePairing_0 19 rfl rfl)
theorem dX2_takePairing_21 : decode cX2_takePairing 21 = .ok (.iload_n 1, 1) := dk_27 (dk_at dksX2_takePairing_0 21 rfl rfl)
theorem dX2_takePairing_22 : decode cX2_takePairing 22 = .ok (.imul, 1) := dk_104 (dk_at dksX2_takePairing_0 22 rfl rfl)
theorem dX2_takePairing_23 : decode cX2_takePairing 23 = .ok (.iload_n 2, 1) := dk_28 (dk_at dksX2_takePairing_0 23 rfl rfl)
theorem dX2_takePairing_24 : decode cX2_takePairing 24 = .ok (.iadd, 1) := dk_96 (dk_at dksX2_takePairing_1 0 rfl rfl)
theorem dX2_takePairing_25 : decode cX2_takePairing 25 = .ok (.iaload, 1) := dk_46 (dk_at dksX2_takePairing_1 1 rfl rfl)
theorem dX2_takePairing_26 : decode cX2_takePairing 26 = .ok (.iastore, 1) := dk_79 (dk_at dksX2_takePairing_1 2 rfl rfl)
theorem dX2_takePairing_27 : decode cX2_takePairing 27 = .ok (.iinc 2 1, 3) := dk_132 2 1 (dk_at dksX2_takePairing_1 3 rfl rfl)
theorem dX2_takePairing_30 : decode cX2_takePairing 30 = .ok (.goto (-28), 3) := dk_167 255 228 (dk_at dksX2_takePairing_1 6 rfl rfl)
theorem dX2_takePairing_33 : decode cX2_takePairing 33 = .ok (.return_, 1) := dk_177 (dk_at dksX2_takePairing_1 9 rfl rfl)
abbrev cX2_bestPairing : ByteArray := prog_12_method_67_code
def yX2_bestPairing : MethodName := ⟨RX2, "bestPairing", "(II)I"⟩
def dkwX2_bestPairing_7 : List UInt8 := [172]
abbrev dktX2_bestPairing_7 : List UInt8 := dkwX2_bestPairing_7 ++ []
def dkwX2_bestPairing_6 : List UInt8 := [167, 255, 181, 28, 156, 0, 8, 21, 5, 167, 0, 15, 42, 180, 0, 52, 16, 6, 21, 4, 104, 28, 96, 46]
abbrev dktX2_bestPairing_6 : List UInt8 := dkwX2_bestPairing_6 ++ dktX2_bestPairing_7
def dkwX2_bestPairing_5 : List UInt8 := [155, 0, 10, 21, 7, 21, 5, 162, 0, 8, 21, 7, 167, 0, 5, 21, 5, 54, 5, 132, 6, 1]
abbrev dktX2_bestPairing_5 : List UInt8 := dkwX2_bestPairing_5 ++ dktX2_bestPairing_6
def dkwX2_bestPairing_4 : List UInt8 := [21, 5, 155, 0, 10, 21, 7, 21, 5, 162, 0, 8, 21, 6, 167, 0, 5, 21, 4, 54, 4, 21, 5]
abbrev dktX2_bestPairing_4 : List UInt8 := dkwX2_bestPairing_4 ++ dktX2_bestPairing_5
def dkwX2_bestPairing_3 : List UInt8 := [162, 0, 72, 42, 21, 6, 182, 1, 8, 42, 27, 182, 0, 172, 42, 182, 0, 226, 54, 7, 42, 182, 0, 184]
abbrev dktX2_bestPairing_3 : List UInt8 := dkwX2_bestPairing_3 ++ dktX2_bestPairing_4
def dkwX2_bestPairing_2 : List UInt8 := [182, 1, 5, 3, 54, 4, 2, 54, 5, 42, 182, 0, 178, 3, 54, 6, 21, 6, 42, 180, 0, 253]
abbrev dktX2_bestPairing_2 : List UInt8 := dkwX2_bestPairing_2 ++ dktX2_bestPairing_3
def dkwX2_bestPairing_1 : List UInt8 := [3, 16, 99, 184, 0, 217, 167, 0, 4, 2, 62, 29, 156, 0, 9, 42, 29, 182, 0, 128, 172, 42]
abbrev dktX2_bestPairing_1 : List UInt8 := dkwX2_bestPairing_1 ++ dktX2_bestPairing_2
def dkwX2_bestPairing_0 : List UInt8 := [42, 3, 181, 0, 65, 28, 133, 20, 1, 3, 42, 180, 0, 68, 4, 100, 133, 184, 0, 71, 153, 0, 13, 27]
abbrev dktX2_bestPairing_0 : List UInt8 := dkwX2_bestPairing_0 ++ dktX2_bestPairing_1
theorem dksX2_bestPairing_0 : cX2_bestPairing.data.toList.drop 0 = dktX2_bestPairing_0 := by decide +kernel
theorem dksX2_bestPairing_1 : cX2_bestPairing.data.toList.drop 24 = dktX2_bestPairing_1 := dk_seg dksX2_bestPairing_0 24 rfl rfl
theorem dksX2_bestPairing_2 : cX2_bestPairing.data.toList.drop 46 = dktX2_bestPairing_2 := dk_seg dksX2_bestPairing_1 22 rfl rfl
theorem dksX2_bestPairing_3 : cX2_bestPairing.data.toList.drop 68 = dktX2_bestPairing_3 := dk_seg dksX2_bestPairing_2 22 rfl rfl
theorem dksX2_bestPairing_4 : cX2_bestPairing.data.toList.drop 92 = dktX2_bestPairing_4 := dk_seg dksX2_bestPairing_3 24 rfl rfl
theorem dksX2_bestPairing_5 : cX2_bestPairing.data.toList.drop 115 = dktX2_bestPairing_5 := dk_seg dksX2_bestPairing_4 23 rfl rfl
theorem dksX2_bestPairing_6 : cX2_bestPairing.data.toList.drop 137 = dktX2_bestPairing_6 := dk_seg dksX2_bestPairing_5 22 rfl rfl
theorem dksX2_bestPairing_7 : cX2_bestPairing.data.toList.drop 161 = dktX2_bestPairing_7 := dk_seg dksX2_bestPairing_6 24 rfl rfl
theorem dX2_bestPairing_0 : decode cX2_bestPairing 0 = .ok (.aload_n 0, 1) := dk_42 (dk_at dksX2_bestPairing_0 0 rfl rfl)
theorem dX2_bestPairing_1 : decode cX2_bestPairing 1 = .ok (.iconst 0, 1) := dk_3 (dk_at dksX2_bestPairing_0 1 rfl rfl)
theorem dX2_bestPairing_2 : decode cX2_bestPairing 2 = .ok (.putfield 65, 3) := dk_181 0 65 (dk_at dksX2_bestPairing_0 2 rfl rfl)
theorem dX2_bestPairing_5 : decode cX2_bestPairing 5 = .ok (.iload_n 2, 1) := dk_28 (dk_at dksX2_bestPairing_0 5 rfl rfl)
theorem dX2_bestPairing_6 : decode cX2_bestPairing 6 = .ok (.i2l, 1) := dk_133 (dk_at dksX2_bestPairing_0 6 rfl rfl)
theorem dX2_bestPairing_7 : decode cX2_bestPairing 7 = .ok (.ldc2_w 259, 3) := dk_20 1 3 (dk_at dksX2_bestPairing_0 7 rfl rfl)
theorem dX2_bestPairing_10 : decode cX2_bestPairing 10 = .ok (.aload_n 0, 1) := dk_42 (dk_at dksX2_bestPairing_0 10 rfl rfl)
theorem dX2_bestPairing_11 : decode cX2_bestPairing 11 = .ok (.getfield 68, 3) := dk_180 0 68 (dk_at dksX2_bestPairing_0 11 rfl rfl)
theorem dX2_bestPairing_14 : decode cX2_bestPairing 14 = .ok (.iconst 1, 1) := dk_4 (dk_at dksX2_bestPairing_0 14 rfl rfl)
theorem dX2_bestPairing_15 : decode cX2_bestPairing 15 = .ok (.isub, 1) := dk_100 (dk_at dksX2_bestPairing_0 15 rfl rfl)
theorem dX2_bestPairing_16 : decode cX2_bestPairing 16 = .ok (.i2l, 1) := dk_133 (dk_at dksX2_bestPairing_0 16 rfl rfl)
theorem dX2_bestPairing_17 : decode cX2_bestPairing 17 = .ok (.invokestatic 71, 3) := dk_184 0 71 (dk_at dksX2_bestPairing_0 17 rfl rfl)
theorem dX2_bestPairing_20 : decode cX2_bestPairing 20 = .ok (.ifCond .eq 13, 3) := dk_153 0 13 (dk_at dksX2_bestPairing_0 20 rfl rfl)
theorem dX2_bestPairing_23 : decode cX2_bestPairing 23 = .ok (.iload_n 1, 1) := dk_27 (dk_at dksX2_bestPairing_0 23 rfl rfl)
theorem dX2_bestPairing_24 : decode cX2_bestPairing 24 = .ok (.iconst 0, 1) := dk_3 (dk_at dksX2_bestPairing_1 0 rfl rfl)
theorem dX2_bestPairing_25 : decode cX2_bestPairing 25 = .ok (.bipush 99, 2) := dk_16 99 (dk_at dksX2_bestPairing_1 1 rfl rfl)
theorem dX2_bestPairing_27 : decode cX2_bestPairing 27 = .ok (.invokestatic 217, 3) := dk_184 0 217 (dk_at dksX2_bestPairing_1 3 rfl rfl)
theorem dX2_bestPairing_30 : decode cX2_bestPairing 30 = .ok (.goto 4, 3) := dk_167 0 4 (dk_at dksX2_bestPairing_1 6 rfl rfl)
theorem dX2_bestPairing_33 : decode cX2_bestPairing 33 = .ok (.iconst (-1), 1) := dk_2 (dk_at dksX2_bestPairing_1 9 rfl rfl)
theorem dX2_bestPairing_34 : decode cX2_bestPairing 34 = .ok (.istore_n 3, 1) := dk_62 (dk_at dksX2_bestPairing_1 10 rfl rfl)
theorem dX2_bestPairing_35 : decode cX2_bestPairing 35 = .ok (.iload_n 3, 1) := dk_29 (dk_at dksX2_bestPairing_1 11 rfl rfl)
theorem dX2_bestPairing_36 : decode cX2_bestPairing 36 = .ok (.ifCond .ge 9, 3) := dk_156 0 9 (dk_at dksX2_bestPairing_1 12 rfl rfl)
theorem dX2_bestPairing_39 : decode cX2_bestPairing 39 = .ok (.aload_n 0, 1) := dk_42 (dk_at dksX2_bestPairing_1 15 rfl rfl)
theorem dX2_bestPairing_40 : decode cX2_bestPairing 40 = .ok (.iload_n 3, 1) := dk_29 (dk_at dksX2_bestPairing_1 16 rfl rfl)
theorem dX2_bestPairing_41 : decode cX2_bestPairing 41 = .ok (.invokevirtual 128, 3) := dk_182 0 128 (dk_at dksX2_bestPairing_1 17 rfl rfl)
theorem dX2_bestPairing_44 : decode cX2_bestPairing 44 = .ok (.ireturn, 1) := dk_172 (dk_at dksX2_bestPairing_1 20 rfl rfl)
theorem dX2_bestPairing_45 : decode cX2_bestPairing 45 = .ok (.aload_n 0, 1) := dk_42 (dk_at dksX2_bestPairing_1 21 rfl rfl)
theorem dX2_bestPairing_46 : decode cX2_bestPairing 46 = .ok (.invokevirtual 261, 3) := dk_182 1 5 (dk_at dksX2_bestPairing_2 0 rfl rfl)
theorem dX2_bestPairing_49 : decode cX2_bestPairing 49 = .ok (.iconst 0, 1) := dk_3 (dk_at dksX2_bestPairing_2 3 rfl rfl)
theorem dX2_bestPairing_50 : decode cX2_bestPairing 50 = .ok (.istore 4, 2) := dk_54 4 (dk_at dksX2_bestPairing_2 4 rfl rfl)
theorem dX2_bestPairing_52 : decode cX2_bestPairing 52 = .ok (.iconst (-1), 1) := dk_2 (dk_at dksX2_bestPairing_2 6 rfl rfl)
theorem dX2_bestPairing_53 : decode cX2_bestPairing 53 = .ok (.istore 5, 2) := dk_54 5 (dk_at dksX2_bestPairing_2 7 rfl rfl)
theorem dX2_bestPairing_55 : decode cX2_bestPairing 55 = .ok (.aload_n 0, 1) := dk_42 (dk_at dksX2_bestPairing_2 9 rfl rfl)
theorem dX2_bestPairing_56 : decode cX2_bestPairing 56 = .ok (.invokevirtual 178, 3) := dk_182 0 178 (dk_at dksX2_bestPairing_2 10 rfl rfl)
theorem dX2_bestPairing_59 : decode cX2_bestPairing 59 = .ok (.iconst 0, 1) := dk_3 (dk_at dksX2_bestPairing_2 13 rfl rfl)
theorem dX2_bestPairing_60 : decode cX2_bestPairing 60 = .ok (.istore 6, 2) := dk_54 6 (dk_at dksX2_bestPairing_2 14 rfl rfl)
theorem dX2_bestPairing_62 : decode cX2_bestPairing 62 = .ok (.iload 6, 2) := dk_21 6 (dk_at dksX2_bestPairing_2 16 rfl rfl)
theorem dX2_bestPairing_64 : decode cX2_bestPairing 64 = .ok (.aload_n 0, 1) := dk_42 (dk_at dksX2_bestPairing_2 18 rfl rfl)
theorem dX2_bestPairing_65 : decode cX2_bestPairing 65 = .ok (.getfield 253, 3) := dk_180 0 253 (dk_at dksX2_bestPairing_2 19 rfl rfl)
theorem dX2_bestPairing_68 : decode cX2_bestPairing 68 = .ok (.if_icmp .ge 72, 3) := dk_162 0 72 (dk_at dksX2_bestPairing_3 0 rfl rfl)
theorem dX2_bestPairing_71 : decode cX2_bestPairing 71 = .ok (.aload_n 0, 1) := dk_42 (dk_at dksX2_bestPairing_3 3 rfl rfl)
theorem dX2_bestPairing_72 : decode cX2_bestPairing 72 = .ok (.iload 6, 2) := dk_21 6 (dk_at dksX2_bestPairing_3 4 rfl rfl)
theorem dX2_bestPairing_74 : decode cX2_bestPairing 74 = .ok (.invokevirtual 264, 3) := dk_182 1 8 (dk_at dksX2_bestPairing_3 6 rfl rfl)
theorem dX2_bestPairing_77 : decode cX2_bestPairing 77 = .ok (.aload_n 0, 1) := dk_42 (dk_at dksX2_bestPairing_3 9 rfl rfl)
theorem dX2_bestPairing_78 : decode cX2_bestPairing 78 = .ok (.iload_n 1, 1) := dk_27 (dk_at dksX2_bestPairing_3 10 rfl rfl)
theorem dX2_bestPairing_79 : decode cX2_bestPairing 79 = .ok (.invokevirtual 172, 3) := dk_182 0 172 (dk_at dksX2_bestPairing_3 11 rfl rfl)
theorem dX2_bestPairing_82 : decode cX2_bestPairing 82 = .ok (.aload_n 0, 1) := dk_42 (dk_at dksX2_bestPairing_3 14 rfl rfl)
theorem dX2_bestPairing_83 : decode cX2_bestPairing 83 = .ok (.invokevirtual 226, 3) := dk_182 0 226 (dk_at dksX2_bestPairing_3 15 rfl rfl)
theorem dX2_bestPairing_86 : decode cX2_bestPairing 86 = .ok (.istore 7, 2) := dk_54 7 (dk_at dksX2_bestPairing_3 18 rfl rfl)
theorem dX2_bestPairing_88 : decode cX2_bestPairing 88 = .ok (.aload_n 0, 1) := dk_42 (dk_at dksX2_bestPairing_3 20 rfl rfl)
theorem dX2_bestPairing_89 : decode cX2_bestPairing 89 = .ok (.invokevirtual 184, 3) := dk_182 0 184 (dk_at dksX2_bestPairing_3 21 rfl rfl)
theorem dX2_bestPairing_92 : decode cX2_bestPairing 92 = .ok (.iload 5, 2) := dk_21 5 (dk_at dksX2_bestPairing_4 0 rfl rfl)
theorem dX2_bestPairing_94 : decode cX2_bestPairing 94 = .ok (.ifCond .lt 10, 3) := dk_155 0 10 (dk_at dksX2_bestPairing_4 2 rfl rfl)
theorem dX2_bestPairing_97 : decode cX2_bestPairing 97 = .ok (.iload 7, 2) := dk_21 7 (dk_at dksX2_bestPairing_4 5 rfl rfl)
theorem dX2_bestPairing_99 : decode cX2_bestPairing 99 = .ok (.iload 5, 2) := dk_21 5 (dk_at dksX2_bestPairing_4 7 rfl rfl)
theorem dX2_bestPairing_101 : decode cX2_bestPairing 101 = .ok (.if_icmp .ge 8, 3) := dk_162 0 8 (dk_at dksX2_bestPairing_4 9 rfl rfl)
theorem dX2_bestPairing_104 : decode cX2_bestPairing 104 = .ok (.iload 6, 2) := dk_21 6 (dk_at dksX2_bestPairing_4 12 rfl rfl)
theorem dX2_bestPairing_106 : decode cX2_bestPairing 106 = .ok (.goto 5, 3) := dk_167 0 5 (dk_at dksX2_bestPairing_4 14 rfl rfl)
theorem dX2_bestPairing_109 : decode cX2_bestPairing 109 = .ok (.iload 4, 2) := dk_21 4 (dk_at dksX2_bestPairing_4 17 rfl rfl)
theorem dX2_bestPairing_111 : decode cX2_bestPairing 111 = .ok (.istore 4, 2) := dk_54 4 (dk_at dksX2_bestPairing_4 19 rfl rfl)
theorem dX2_bestPairing_113 : decode cX2_bestPairing 113 = .ok (.iload 5, 2) := dk_21 5 (dk_at dksX2_bestPairing_4 21 rfl rfl)
theorem dX2_bestPairing_115 : decode cX2_bestPairing 115 = .ok (.ifCond .lt 10, 3) := dk_155 0 10 (dk_at dksX2_bestPairing_5 0 rfl rfl)
theorem dX2_bestPairing_118 : decode cX2_bestPairing 118 = .ok (.iload 7, 2) := dk_21 7 (dk_at dksX2_bestPairing_5 3 rfl rfl)
theorem dX2_bestPairing_120 : decode cX2_bestPairing 120 = .ok (.iload 5, 2) := dk_21 5 (dk_at dksX2_bestPairing_5 5 rfl rfl)
theorem dX2_bestPairing_122 : decode cX2_bestPairing 122 = .ok (.if_icmp .ge 8, 3) := dk_162 0 8 (dk_at dksX2_bestPairing_5 7 rfl rfl)
theorem dX2_bestPairing_125 : decode cX2_bestPairing 125 = .ok (.iload 7, 2) := dk_21 7 (dk_at dksX2_bestPairing_5 10 rfl rfl)
theorem dX2_bestPairing_127 : decode cX2_bestPairing 127 = .ok (.goto 5, 3) := dk_167 0 5 (dk_at dksX2_bestPairing_5 12 rfl rfl)
theorem dX2_bestPairing_130 : decode cX2_bestPairing 130 = .ok (.iload 5, 2) := dk_21 5 (dk_at dksX2_bestPairing_5 15 rfl rfl)
theorem dX2_bestPairing_132 : decode cX2_bestPairing 132 = .ok (.istore 5, 2) := dk_54 5 (dk_at dksX2_bestPairing_5 17 rfl rfl)
theorem dX2_bestPairing_134 : decode cX2_bestPairing 134 = .ok (.iinc 6 1, 3) := dk_132 6 1 (dk_at dksX2_bestPairing_5 19 rfl rfl)
theorem dX2_bestPairing_137 : decode cX2_bestPairing 137 = .ok (.goto (-75), 3) := dk_167 255 181 (dk_at dksX2_bestPairing_6 0 rfl rfl)
theorem dX2_bestPairing_140 : decode cX2_bestPairing 140 = .ok (.iload_n 2, 1) := dk_28 (dk_at dksX2_bestPairing_6 3 rfl rfl)
theorem dX2_bestPairing_141 : decode cX2_bestPairing 141 = .ok (.ifCond .ge 8, 3) := dk_156 0 8 (dk_at dksX2_bestPairing_6 4 rfl rfl)
theorem dX2_bestPairing_144 : decode cX2_bestPairing 144 = .ok (.iload 5, 2) := dk_21 5 (dk_at dksX2_bestPairing_6 7 rfl rfl)
theorem dX2_bestPairing_146 : decode cX2_bestPairing 146 = .ok (.goto 15, 3) := dk_167 0 15 (dk_at dksX2_bestPairing_6 9 rfl rfl)
theorem dX2_bestPairing_149 : decode cX2_bestPairing 149 = .ok (.aload_n 0, 1) := dk_42 (dk_at dksX2_bestPairing_6 12 rfl rfl)
theorem dX2_bestPairing_150 : decode cX2_bestPairing 150 = .ok (.getfield 52, 3) := dk_180 0 52 (dk_at dksX2_bestPairing_6 13 rfl rfl)
theorem dX2_bestPairing_153 : decode cX2_bestPairing 153 = .ok (.bipush 6, 2) := dk_16 6 (dk_at dksX2_bestPairing_6 16 rfl rfl)
theorem dX2_bestPairing_155 : decode cX2_bestPairing 155 = .ok (.iload 4, 2) := dk_21 4 (dk_at dksX2_bestPairing_6 18 rfl rfl)
theorem dX2_bestPairing_157 : decode cX2_bestPairing 157 = .ok (.imul, 1) := dk_104 (dk_at dksX2_bestPairing_6 20 rfl rfl)
theorem dX2_bestPairing_158 : decode cX2_bestPairing 158 = .ok (.iload_n 2, 1) := dk_28 (dk_at dksX2_bestPairing_6 21 rfl rfl)
theorem dX2_bestPairing_159 : decode cX2_bestPairing 159 = .ok (.iadd, 1) := dk_96 (dk_at dksX2_bestPairing_6 22 rfl rfl)
theorem dX2_bestPairing_160 : decode cX2_bestPairing 160 = .ok (.iaload, 1) := dk_46 (dk_at dksX2_bestPairing_6 23 rfl rfl)
theorem dX2_bestPairing_161 : decode cX2_bestPairing 161 = .ok (.ireturn, 1) := dk_172 (dk_at dksX2_bestPairing_7 0 rfl rfl)
abbrev cX2_soonest : ByteArray := prog_12_method_68_code
def yX2_soonest : MethodName := ⟨RX2, "soonest", "(II)I"⟩
def dkwX2_soonest_1 : List UInt8 := [42, 27, 28, 182, 0, 125, 42, 27, 28, 182, 0, 235, 172]
abbrev dktX2_soonest_1 : List UInt8 := dkwX2_soonest_1 ++ []
def dkwX2_soonest_0 : List UInt8 := [42, 3, 181, 0, 65, 42, 27, 28, 182, 0, 164, 154, 0, 9, 42, 2, 182, 0, 128, 172, 42, 182, 0, 178]
abbrev dktX2_soonest_0 : List UInt8 := dkwX2_soonest_0 ++ dktX2_soonest_1
theorem dksX2_soonest_0 : cX2_soonest.data.toList.drop 0 = dktX2_soonest_0 := by decide +kernel
theorem dksX2_soonest_1 : cX2_soonest.data.toList.drop 24 = dktX2_soonest_1 := dk_seg dksX2_soonest_0 24 rfl rfl
theorem dX2_soonest_0 : decode cX2_soonest 0 = .ok (.aload_n 0, 1) := dk_42 (dk_at dksX2_soonest_0 0 rfl rfl)
theorem dX2_soonest_1 : decode cX2_soonest 1 = .ok (.iconst 0, 1) := dk_3 (dk_at dksX2_soonest_0 1 rfl rfl)
theorem dX2_soonest_2 : decode cX2_soonest 2 = .ok (.putfield 65, 3) := dk_181 0 65 (dk_at dksX2_soonest_0 2 rfl rfl)
theorem dX2_soonest_5 : decode cX2_soonest 5 = .ok (.aload_n 0, 1) := dk_42 (dk_at dksX2_soonest_0 5 rfl rfl)
theorem dX2_soonest_6 : decode cX2_soonest 6 = .ok (.iload_n 1, 1) := dk_27 (dk_at dksX2_soonest_0 6 rfl rfl)
theorem dX2_soonest_7 : decode cX2_soonest 7 = .ok (.iload_n 2, 1) := dk_28 (dk_at dksX2_soonest_0 7 rfl rfl)
theorem dX2_soonest_8 : decode cX2_soonest 8 = .ok (.invokevirtual 164, 3) := dk_182 0 164 (dk_at dksX2_soonest_0 8 rfl rfl)
theorem dX2_soonest_11 : decode cX2_soonest 11 = .ok (.ifCond .ne 9, 3) := dk_154 0 9 (dk_at dksX2_soonest_0 11 rfl rfl)
theorem dX2_soonest_14 : decode cX2_soonest 14 = .ok (.aload_n 0, 1) := dk_42 (dk_at dksX2_soonest_0 14 rfl rfl)
theorem dX2_soonest_15 : decode cX2_soonest 15 = .ok (.iconst (-1), 1) := dk_2 (dk_at dksX2_soonest_0 15 rfl rfl)
theorem dX2_soonest_16 : decode cX2_soonest 16 = .ok (.invokevirtual 128, 3) := dk_182 0 128 (dk_at dksX2_soonest_0 16 rfl rfl)
theorem dX2_soonest_19 : decode cX2_soonest 19 = .ok (.ireturn, 1) := dk_172 (dk_at dksX2_soonest_0 19 rfl rfl)
theorem dX2_soonest_20 : decode cX2_soonest 20 = .ok (.aload_n 0, 1) := dk_42 (dk_at dksX2_soonest_0 20 rfl rfl)
theorem dX2_soonest_21 : decode cX2_soonest 21 = .ok (.invokevirtual 178, 3) := dk_182 0 178 (dk_at dksX2_soonest_0 21 rfl rfl)
theorem dX2_soonest_24 : decode cX2_soonest 24 = .ok (.aload_n 0, 1) := dk_42 (dk_at dksX2_soonest_1 0 rfl rfl)
theorem dX2_soonest_25 : decode cX2_soonest 25 = .ok (.iload_n 1, 1) := dk_27 (dk_at dksX2_soonest_1 1 rfl rfl)
theorem dX2_soonest_26 : decode cX2_soonest 26 = .ok (.iload_n 2, 1) := dk_28 (dk_at dksX2_soonest_1 2 rfl rfl)
theorem dX2_soonest_27 : decode cX2_soonest 27 = .ok (.invokevirtual 125, 3) := dk_182 0 125 (dk_at dksX2_soonest_1 3 rfl rfl)
theorem dX2_soonest_30 : decode cX2_soonest 30 = .ok (.aload_n 0, 1) := dk_42 (dk_at dksX2_soonest_1 6 rfl rfl)
theorem dX2_soonest_31 : decode cX2_soonest 31 = .ok (.iload_n 1, 1) := dk_27 (dk_at dksX2_soonest_1 7 rfl rfl)
theorem dX2_soonest_32 : decode cX2_soonest 32 = .ok (.iload_n 2, 1) := dk_28 (dk_at dksX2_soonest_1 8 rfl rfl)
theorem dX2_soonest_33 : decode cX2_soonest 33 = .ok (.invokevirtual 235, 3) := dk_182 0 235 (dk_at dksX2_soonest_1 9 rfl rfl)
theorem dX2_soonest_36 : decode cX2_soonest 36 = .ok (.ireturn, 1) := dk_172 (dk_at dksX2_soonest_1 12 rfl rfl)
abbrev cX2_mateFor : ByteArray := prog_12_method_70_code
def yX2_mateFor : MethodName := ⟨RX2, "mateFor", "(II)I"⟩
def dkwX2_mateFor_4 : List UInt8 := [167, 255, 204, 28, 154, 0, 11, 42, 27, 182, 1, 11, 167, 0, 5, 21, 4, 172]
abbrev dktX2_mateFor_4 : List UInt8 := dkwX2_mateFor_4 ++ []
def dkwX2_mateFor_3 : List UInt8 := [21, 5, 27, 182, 0, 239, 153, 0, 10, 4, 21, 5, 120, 167, 0, 4, 3, 128, 54, 4, 132, 5, 1]
abbrev dktX2_mateFor_3 : List UInt8 := dkwX2_mateFor_3 ++ dktX2_mateFor_4
def dkwX2_mateFor_2 : List UInt8 := [162, 0, 49, 21, 4, 21, 5, 27, 159, 0, 31, 42, 180, 0, 19, 21, 5, 46, 27, 159, 0, 20, 42]
abbrev dktX2_mateFor_2 : List UInt8 := dkwX2_mateFor_2 ++ dktX2_mateFor_3
def dkwX2_mateFor_1 : List UInt8 := [29, 156, 0, 9, 42, 29, 182, 0, 128, 172, 3, 54, 4, 3, 54, 5, 21, 5, 42, 180, 0, 68]
abbrev dktX2_mateFor_1 : List UInt8 := dkwX2_mateFor_1 ++ dktX2_mateFor_2
def dkwX2_mateFor_0 : List UInt8 := [42, 3, 181, 0, 65, 42, 27, 182, 0, 75, 153, 0, 7, 3, 167, 0, 4, 2, 28, 4, 184, 0, 211, 62]
abbrev dktX2_mateFor_0 : List UInt8 := dkwX2_mateFor_0 ++ dktX2_mateFor_1
theorem dksX2_mateFor_0 : cX2_mateFor.data.toList.drop 0 = dktX2_mateFor_0 := by decide +kernel
theorem dksX2_mateFor_1 : cX2_mateFor.data.toList.drop 24 = dktX2_mateFor_1 := dk_seg dksX2_mateFor_0 24 rfl rfl
theorem dksX2_mateFor_2 : cX2_mateFor.data.toList.drop 46 = dktX2_mateFor_2 := dk_seg dksX2_mateFor_1 22 rfl rfl
theorem dksX2_mateFor_3 : cX2_mateFor.data.toList.drop 69 = dktX2_mateFor_3 := dk_seg dksX2_mateFor_2 23 rfl rfl
theorem dksX2_mateFor_4 : cX2_mateFor.data.toList.drop 92 = dktX2_mateFor_4 := dk_seg dksX2_mateFor_3 23 rfl rfl
theorem dX2_mateFor_0 : decode cX2_mateFor 0 = .ok (.aload_n 0, 1) := dk_42 (dk_at dksX2_mateFor_0 0 rfl rfl)
theorem dX2_mateFor_1 : decode cX2_mateFor 1 = .ok (.iconst 0, 1) := dk_3 (dk_at dksX2_mateFor_0 1 rfl rfl)
theorem dX2_mateFor_2 : decode cX2_mateFor 2 = .ok (.putfield 65, 3) := dk_181 0 65 (dk_at dksX2_mateFor_0 2 rfl rfl)
theorem dX2_mateFor_5 : decode cX2_mateFor 5 = .ok (.aload_n 0, 1) := dk_42 (dk_at dksX2_mateFor_0 5 rfl rfl)
theorem dX2_mateFor_6 : decode cX2_mateFor 6 = .ok (.iload_n 1, 1) := dk_27 (dk_at dksX2_mateFor_0 6 rfl rfl)
theorem dX2_mateFor_7 : decode cX2_mateFor 7 = .ok (.invokevirtual 75, 3) := dk_182 0 75 (dk_at dksX2_mateFor_0 7 rfl rfl)
theorem dX2_mateFor_10 : decode cX2_mateFor 10 = .ok (.ifCond .eq 7, 3) := dk_153 0 7 (dk_at dksX2_mateFor_0 10 rfl rfl)
theorem dX2_mateFor_13 : decode cX2_mateFor 13 = .ok (.iconst 0, 1) := dk_3 (dk_at dksX2_mateFor_0 13 rfl rfl)
theorem dX2_mateFor_14 : decode cX2_mateFor 14 = .ok (.goto 4, 3) := dk_167 0 4 (dk_at dksX2_mateFor_0 14 rfl rfl)
theorem dX2_mateFor_17 : decode cX2_mateFor 17 = .ok (.iconst (-1), 1) := dk_2 (dk_at dksX2_mateFor_0 17 rfl rfl)
theorem dX2_mateFor_18 : decode cX2_mateFor 18 = .ok (.iload_n 2, 1) := dk_28 (dk_at dksX2_mateFor_0 18 rfl rfl)
theorem dX2_mateFor_19 : decode cX2_mateFor 19 = .ok (.iconst 1, 1) := dk_4 (dk_at dksX2_mateFor_0 19 rfl rfl)
theorem dX2_mateFor_20 : decode cX2_mateFor 20 = .ok (.invokestatic 211, 3) := dk_184 0 211 (dk_at dksX2_mateFor_0 20 rfl rfl)
theorem dX2_mateFor_23 : decode cX2_mateFor 23 = .ok (.istore_n 3, 1) := dk_62 (dk_at dksX2_mateFor_0 23 rfl rfl)
theorem dX2_mateFor_24 : decode cX2_mateFor 24 = .ok (.iload_n 3, 1) := dk_29 (dk_at dksX2_mateFor_1 0 rfl rfl)
theorem dX2_mateFor_25 : decode cX2_mateFor 25 = .ok (.ifCond .ge 9, 3) := dk_156 0 9 (dk_at dksX2_mateFor_1 1 rfl rfl)
theorem dX2_mateFor_28 : decode cX2_mateFor 28 = .ok (.aload_n 0, 1) := dk_42 (dk_at dksX2_mateFor_1 4 rfl rfl)
theorem dX2_mateFor_29 : decode cX2_mateFor 29 = .ok (.iload_n 3, 1) := dk_29 (dk_at dksX2_mateFor_1 5 rfl rfl)
theorem dX2_mateFor_30 : decode cX2_mateFor 30 = .ok (.invokevirtual 128, 3) := dk_182 0 128 (dk_at dksX2_mateFor_1 6 rfl rfl)
theorem dX2_mateFor_33 : decode cX2_mateFor 33 = .ok (.ireturn, 1) := dk_172 (dk_at dksX2_mateFor_1 9 rfl rfl)
theorem dX2_mateFor_34 : decode cX2_mateFor 34 = .ok (.iconst 0, 1) := dk_3 (dk_at dksX2_mateFor_1 10 rfl rfl)
theorem dX2_mateFor_35 : decode cX2_mateFor 35 = .ok (.istore 4, 2) := dk_54 4 (dk_at dksX2_mateFor_1 11 rfl rfl)
theorem dX2_mateFor_37 : decode cX2_mateFor 37 = .ok (.iconst 0, 1) := dk_3 (dk_at dksX2_mateFor_1 13 rfl rfl)
theorem dX2_mateFor_38 : decode cX2_mateFor 38 = .ok (.istore 5, 2) := dk_54 5 (dk_at dksX2_mateFor_1 14 rfl rfl)
theorem dX2_mateFor_40 : decode cX2_mateFor 40 = .ok (.iload 5, 2) := dk_21 5 (dk_at dksX2_mateFor_1 16 rfl rfl)
theorem dX2_mateFor_42 : decode cX2_mateFor 42 = .ok (.aload_n 0, 1) := dk_42 (dk_at dksX2_mateFor_1 18 rfl rfl)
theorem dX2_mateFor_43 : decode cX2_mateFor 43 = .ok (.getfield 68, 3) := dk_180 0 68 (dk_at dksX2_mateFor_1 19 rfl rfl)
theorem dX2_mateFor_46 : decode cX2_mateFor 46 = .ok (.if_icmp .ge 49, 3) := dk_162 0 49 (dk_at dksX2_mateFor_2 0 rfl rfl)
theorem dX2_mateFor_49 : decode cX2_mateFor 49 = .ok (.iload 4, 2) := dk_21 4 (dk_at dksX2_mateFor_2 3 rfl rfl)
theorem dX2_mateFor_51 : decode cX2_mateFor 51 = .ok (.iload 5, 2) := dk_21 5 (dk_at dksX2_mateFor_2 5 rfl rfl)
theorem dX2_mateFor_53 : decode cX2_mateFor 53 = .ok (.iload_n 1, 1) := dk_27 (dk_at dksX2_mateFor_2 7 rfl rfl)
theorem dX2_mateFor_54 : decode cX2_mateFor 54 = .ok (.if_icmp .eq 31, 3) := dk_159 0 31 (dk_at dksX2_mateFor_2 8 rfl rfl)
theorem dX2_mateFor_57 : decode cX2_mateFor 57 = .ok (.aload_n 0, 1) := dk_42 (dk_at dksX2_mateFor_2 11 rfl rfl)
theorem dX2_mateFor_58 : decode cX2_mateFor 58 = .ok (.getfield 19, 3) := dk_180 0 19 (dk_at dksX2_mateFor_2 12 rfl rfl)
theorem dX2_mateFor_61 : decode cX2_mateFor 61 = .ok (.iload 5, 2) := dk_21 5 (dk_at dksX2_mateFor_2 15 rfl rfl)
theorem dX2_mateFor_63 : decode cX2_mateFor 63 = .ok (.iaload, 1) := dk_46 (dk_at dksX2_mateFor_2 17 rfl rfl)
theorem dX2_mateFor_64 : decode cX2_mateFor 64 = .ok (.iload_n 1, 1) := dk_27 (dk_at dksX2_mateFor_2 18 rfl rfl)
theorem dX2_mateFor_65 : decode cX2_mateFor 65 = .ok (.if_icmp .eq 20, 3) := dk_159 0 20 (dk_at dksX2_mateFor_2 19 rfl rfl)
theorem dX2_mateFor_68 : decode cX2_mateFor 68 = .ok (.aload_n 0, 1) := dk_42 (dk_at dksX2_mateFor_2 22 rfl rfl)
theorem dX2_mateFor_69 : decode cX2_mateFor 69 = .ok (.iload 5, 2) := dk_21 5 (dk_at dksX2_mateFor_3 0 rfl rfl)
theorem dX2_mateFor_71 : decode cX2_mateFor 71 = .ok (.iload_n 1, 1) := dk_27 (dk_at dksX2_mateFor_3 2 rfl rfl)
theorem dX2_mateFor_72 : decode cX2_mateFor 72 = .ok (.invokevirtual 239, 3) := dk_182 0 239 (dk_at dksX2_mateFor_3 3 rfl rfl)
theorem dX2_mateFor_75 : decode cX2_mateFor 75 = .ok (.ifCond .eq 10, 3) := dk_153 0 10 (dk_at dksX2_mateFor_3 6 rfl rfl)
theorem dX2_mateFor_78 : decode cX2_mateFor 78 = .ok (.iconst 1, 1) := dk_4 (dk_at dksX2_mateFor_3 9 rfl rfl)
theorem dX2_mateFor_79 : decode cX2_mateFor 79 = .ok (.iload 5, 2) := dk_21 5 (dk_at dksX2_mateFor_3 10 rfl rfl)
theorem dX2_mateFor_81 : decode cX2_mateFor 81 = .ok (.ishl, 1) := dk_120 (dk_at dksX2_mateFor_3 12 rfl rfl)
theorem dX2_mateFor_82 : decode cX2_mateFor 82 = .ok (.goto 4, 3) := dk_167 0 4 (dk_at dksX2_mateFor_3 13 rfl rfl)
theorem dX2_mateFor_85 : decode cX2_mateFor 85 = .ok (.iconst 0, 1) := dk_3 (dk_at dksX2_mateFor_3 16 rfl rfl)
theorem dX2_mateFor_86 : decode cX2_mateFor 86 = .ok (.ior, 1) := dk_128 (dk_at dksX2_mateFor_3 17 rfl rfl)
theorem dX2_mateFor_87 : decode cX2_mateFor 87 = .ok (.istore 4, 2) := dk_54 4 (dk_at dksX2_mateFor_3 18 rfl rfl)
theorem dX2_mateFor_89 : decode cX2_mateFor 89 = .ok (.iinc 5 1, 3) := dk_132 5 1 (dk_at dksX2_mateFor_3 20 rfl rfl)
theorem dX2_mateFor_92 : decode cX2_mateFor 92 = .ok (.goto (-52), 3) := dk_167 255 204 (dk_at dksX2_mateFor_4 0 rfl rfl)
theorem dX2_mateFor_95 : decode cX2_mateFor 95 = .ok (.iload_n 2, 1) := dk_28 (dk_at dksX2_mateFor_4 3 rfl rfl)
theorem dX2_mateFor_96 : decode cX2_mateFor 96 = .ok (.ifCond .ne 11, 3) := dk_154 0 11 (dk_at dksX2_mateFor_4 4 rfl rfl)
theorem dX2_mateFor_99 : decode cX2_mateFor 99 = .ok (.aload_n 0, 1) := dk_42 (dk_at dksX2_mateFor_4 7 rfl rfl)
theorem dX2_mateFor_100 : decode cX2_mateFor 100 = .ok (.iload_n 1, 1) := dk_27 (dk_at dksX2_mateFor_4 8 rfl rfl)
theorem dX2_mateFor_101 : decode cX2_mateFor 101 = .ok (.invokevirtual 267, 3) := dk_182 1 11 (dk_at dksX2_mateFor_4 9 rfl rfl)
theorem dX2_mateFor_104 : decode cX2_mateFor 104 = .ok (.goto 5, 3) := dk_167 0 5 (dk_at dksX2_mateFor_4 12 rfl rfl)
theorem dX2_mateFor_107 : decode cX2_mateFor 107 = .ok (.iload 4, 2) := dk_21 4 (dk_at dksX2_mateFor_4 15 rfl rfl)
theorem dX2_mateFor_109 : decode cX2_mateFor 109 = .ok (.ireturn, 1) := dk_172 (dk_at dksX2_mateFor_4 17 rfl rfl)
abbrev cX2_mostLiked : ByteArray := prog_12_method_69_code
def yX2_mostLiked : MethodName := ⟨RX2, "mostLiked", "(I)I"⟩
def dkwX2_mostLiked_2 : List UInt8 := [167, 255, 215, 28, 172]
abbrev dktX2_mostLiked_2 : List UInt8 := dkwX2_mostLiked_2 ++ []
def dkwX2_mostLiked_1 : List UInt8 := [29, 182, 0, 90, 42, 27, 28, 182, 0, 90, 164, 0, 7, 29, 167, 0, 4, 28, 61, 132, 3, 1]
abbrev dktX2_mostLiked_1 : List UInt8 := dkwX2_mostLiked_1 ++ dktX2_mostLiked_2
def dkwX2_mostLiked_0 : List UInt8 := [16, 247, 61, 3, 62, 29, 42, 180, 0, 68, 162, 0, 39, 29, 27, 159, 0, 26, 28, 155, 0, 18, 42, 27]
abbrev dktX2_mostLiked_0 : List UInt8 := dkwX2_mostLiked_0 ++ dktX2_mostLiked_1
theorem dksX2_mostLiked_0 : cX2_mostLiked.data.toList.drop 0 = dktX2_mostLiked_0 := by decide +kernel
theorem dksX2_mostLiked_1 : cX2_mostLiked.data.toList.drop 24 = dktX2_mostLiked_1 := dk_seg dksX2_mostLiked_0 24 rfl rfl
theorem dksX2_mostLiked_2 : cX2_mostLiked.data.toList.drop 46 = dktX2_mostLiked_2 := dk_seg dksX2_mostLiked_1 22 rfl rfl
theorem dX2_mostLiked_0 : decode cX2_mostLiked 0 = .ok (.bipush (-9), 2) := dk_16 247 (dk_at dksX2_mostLiked_0 0 rfl rfl)
theorem dX2_mostLiked_2 : decode cX2_mostLiked 2 = .ok (.istore_n 2, 1) := dk_61 (dk_at dksX2_mostLiked_0 2 rfl rfl)
theorem dX2_mostLiked_3 : decode cX2_mostLiked 3 = .ok (.iconst 0, 1) := dk_3 (dk_at dksX2_mostLiked_0 3 rfl rfl)
theorem dX2_mostLiked_4 : decode cX2_mostLiked 4 = .ok (.istore_n 3, 1) := dk_62 (dk_at dksX2_mostLiked_0 4 rfl rfl)
theorem dX2_mostLiked_5 : decode cX2_mostLiked 5 = .ok (.iload_n 3, 1) := dk_29 (dk_at dksX2_mostLiked_0 5 rfl rfl)
theorem dX2_mostLiked_6 : decode cX2_mostLiked 6 = .ok (.aload_n 0, 1) := dk_42 (dk_at dksX2_mostLiked_0 6 rfl rfl)
theorem dX2_mostLiked_7 : decode cX2_mostLiked 7 = .ok (.getfield 68, 3) := dk_180 0 68 (dk_at dksX2_mostLiked_0 7 rfl rfl)
theorem dX2_mostLiked_10 : decode cX2_mostLiked 10 = .ok (.if_icmp .ge 39, 3) := dk_162 0 39 (dk_at dksX2_mostLiked_0 10 rfl rfl)
theorem dX2_mostLiked_13 : decode cX2_mostLiked 13 = .ok (.iload_n 3, 1) := dk_29 (dk_at dksX2_mostLiked_0 13 rfl rfl)
theorem dX2_mostLiked_14 : decode cX2_mostLiked 14 = .ok (.iload_n 1, 1) := dk_27 (dk_at dksX2_mostLiked_0 14 rfl rfl)
theorem dX2_mostLiked_15 : decode cX2_mostLiked 15 = .ok (.if_icmp .eq 26, 3) := dk_159 0 26 (dk_at dksX2_mostLiked_0 15 rfl rfl)
theorem dX2_mostLiked_18 : decode cX2_mostLiked 18 = .ok (.iload_n 2, 1) := dk_28 (dk_at dksX2_mostLiked_0 18 rfl rfl)
theorem dX2_mostLiked_19 : decode cX2_mostLiked 19 = .ok (.ifCond .lt 18, 3) := dk_155 0 18 (dk_at dksX2_mostLiked_0 19 rfl rfl)
theorem dX2_mostLiked_22 : decode cX2_mostLiked 22 = .ok (.aload_n 0, 1) := dk_42 (dk_at dksX2_mostLiked_0 22 rfl rfl)
theorem dX2_mostLiked_23 : decode cX2_mostLiked 23 = .ok (.iload_n 1, 1) := dk_27 (dk_at dksX2_mostLiked_0 23 rfl rfl)
theorem dX2_mostLiked_24 : decode cX2_mostLiked 24 = .ok (.iload_n 3, 1) := dk_29 (dk_at dksX2_mostLiked_1 0 rfl rfl)
theorem dX2_mostLiked_25 : decode cX2_mostLiked 25 = .ok (.invokevirtual 90, 3) := dk_182 0 90 (dk_at dksX2_mostLiked_1 1 rfl rfl)
theorem dX2_mostLiked_28 : decode cX2_mostLiked 28 = .ok (.aload_n 0, 1) := dk_42 (dk_at dksX2_mostLiked_1 4 rfl rfl)
theorem dX2_mostLiked_29 : decode cX2_mostLiked 29 = .ok (.iload_n 1, 1) := dk_27 (dk_at dksX2_mostLiked_1 5 rfl rfl)
theorem dX2_mostLiked_30 : decode cX2_mostLiked 30 = .ok (.iload_n 2, 1) := dk_28 (dk_at dksX2_mostLiked_1 6 rfl rfl)
theorem dX2_mostLiked_31 : decode cX2_mostLiked 31 = .ok (.invokevirtual 90, 3) := dk_182 0 90 (dk_at dksX2_mostLiked_1 7 rfl rfl)
theorem dX2_mostLiked_34 : decode cX2_mostLiked 34 = .ok (.if_icmp .le 7, 3) := dk_164 0 7 (dk_at dksX2_mostLiked_1 10 rfl rfl)
theorem dX2_mostLiked_37 : decode cX2_mostLiked 37 = .ok (.iload_n 3, 1) := dk_29 (dk_at dksX2_mostLiked_1 13 rfl rfl)
theorem dX2_mostLiked_38 : decode cX2_mostLiked 38 = .ok (.goto 4, 3) := dk_167 0 4 (dk_at dksX2_mostLiked_1 14 rfl rfl)
theorem dX2_mostLiked_41 : decode cX2_mostLiked 41 = .ok (.iload_n 2, 1) := dk_28 (dk_at dksX2_mostLiked_1 17 rfl rfl)
theorem dX2_mostLiked_42 : decode cX2_mostLiked 42 = .ok (.istore_n 2, 1) := dk_61 (dk_at dksX2_mostLiked_1 18 rfl rfl)
theorem dX2_mostLiked_43 : decode cX2_mostLiked 43 = .ok (.iinc 3 1, 3) := dk_132 3 1 (dk_at dksX2_mostLiked_1 19 rfl rfl)
theorem dX2_mostLiked_46 : decode cX2_mostLiked 46 = .ok (.goto (-41), 3) := dk_167 255 215 (dk_at dksX2_mostLiked_2 0 rfl rfl)
theorem dX2_mostLiked_49 : decode cX2_mostLiked 49 = .ok (.iload_n 2, 1) := dk_28 (dk_at dksX2_mostLiked_2 3 rfl rfl)
theorem dX2_mostLiked_50 : decode cX2_mostLiked 50 = .ok (.ireturn, 1) := dk_172 (dk_at dksX2_mostLiked_2 4 rfl rfl)
abbrev cX2_hoursFor : ByteArray := prog_12_method_71_code
def yX2_hoursFor : MethodName := ⟨RX2, "hoursFor", "(II)I"⟩
def dkwX2_hoursFor_7 : List UInt8 := [42, 182, 0, 184, 28, 154, 0, 8, 21, 4, 167, 0, 5, 21, 5, 172]
abbrev dktX2_hoursFor_7 : List UInt8 := dkwX2_hoursFor_7 ++ []
def dkwX2_hoursFor_6 : List UInt8 := [21, 4, 54, 4, 21, 8, 153, 0, 8, 21, 7, 167, 0, 5, 21, 5, 54, 5, 132, 6, 1, 167, 255, 144]
abbrev dktX2_hoursFor_6 : List UInt8 := dkwX2_hoursFor_6 ++ dktX2_hoursFor_7
def dkwX2_hoursFor_5 : List UInt8 := [184, 0, 83, 162, 0, 7, 4, 167, 0, 4, 3, 54, 8, 21, 8, 153, 0, 8, 21, 6, 167, 0, 5]
abbrev dktX2_hoursFor_5 : List UInt8 := dkwX2_hoursFor_5 ++ dktX2_hoursFor_6
def dkwX2_hoursFor_4 : List UInt8 := [155, 0, 30, 21, 7, 21, 5, 161, 0, 23, 21, 7, 21, 5, 160, 0, 20, 21, 6, 184, 0, 83, 21, 4]
abbrev dktX2_hoursFor_4 : List UInt8 := dkwX2_hoursFor_4 ++ dktX2_hoursFor_5
def dkwX2_hoursFor_3 : List UInt8 := [21, 6, 79, 42, 27, 42, 180, 0, 19, 27, 46, 182, 0, 235, 54, 7, 21, 7, 155, 0, 39, 21, 4]
abbrev dktX2_hoursFor_3 : List UInt8 := dkwX2_hoursFor_3 ++ dktX2_hoursFor_4
def dkwX2_hoursFor_2 : List UInt8 := [54, 6, 21, 6, 16, 32, 162, 0, 111, 42, 180, 0, 19, 27, 46, 155, 0, 102, 42, 180, 0, 16, 27]
abbrev dktX2_hoursFor_2 : List UInt8 := dkwX2_hoursFor_2 ++ dktX2_hoursFor_3
def dkwX2_hoursFor_1 : List UInt8 := [29, 156, 0, 9, 42, 29, 182, 0, 128, 172, 16, 247, 54, 4, 16, 247, 54, 5, 42, 182, 0, 178, 3]
abbrev dktX2_hoursFor_1 : List UInt8 := dkwX2_hoursFor_1 ++ dktX2_hoursFor_2
def dkwX2_hoursFor_0 : List UInt8 := [42, 3, 181, 0, 65, 42, 27, 182, 0, 75, 153, 0, 7, 3, 167, 0, 4, 2, 28, 4, 184, 0, 211, 62]
abbrev dktX2_hoursFor_0 : List UInt8 := dkwX2_hoursFor_0 ++ dktX2_hoursFor_1
theorem dksX2_hoursFor_0 : cX2_hoursFor.data.toList.drop 0 = dktX2_hoursFor_0 := by decide +kernel
theorem dksX2_hoursFor_1 : cX2_hoursFor.data.toList.drop 24 = dktX2_hoursFor_1 := dk_seg dksX2_hoursFor_0 24 rfl rfl
theorem dksX2_hoursFor_2 : cX2_hoursFor.data.toList.drop 47 = dktX2_hoursFor_2 := dk_seg dksX2_hoursFor_1 23 rfl rfl
theorem dksX2_hoursFor_3 : cX2_hoursFor.data.toList.drop 70 = dktX2_hoursFor_3 := dk_seg dksX2_hoursFor_2 23 rfl rfl
theorem dksX2_hoursFor_4 : cX2_hoursFor.data.toList.drop 93 = dktX2_hoursFor_4 := dk_seg dksX2_hoursFor_3 23 rfl rfl
theorem dksX2_hoursFor_5 : cX2_hoursFor.data.toList.drop 117 = dktX2_hoursFor_5 := dk_seg dksX2_hoursFor_4 24 rfl rfl
theorem dksX2_hoursFor_6 : cX2_hoursFor.data.toList.drop 140 = dktX2_hoursFor_6 := dk_seg dksX2_hoursFor_5 23 rfl rfl
theorem dksX2_hoursFor_7 : cX2_hoursFor.data.toList.drop 164 = dktX2_hoursFor_7 := dk_seg dksX2_hoursFor_6 24 rfl rfl
theorem dX2_hoursFor_0 : decode cX2_hoursFor 0 = .ok (.aload_n 0, 1) := dk_42 (dk_at dksX2_hoursFor_0 0 rfl rfl)
theorem dX2_hoursFor_1 : decode cX2_hoursFor 1 = .ok (.iconst 0, 1) := dk_3 (dk_at dksX2_hoursFor_0 1 rfl rfl)
theorem dX2_hoursFor_2 : decode cX2_hoursFor 2 = .ok (.putfield 65, 3) := dk_181 0 65 (dk_at dksX2_hoursFor_0 2 rfl rfl)
theorem dX2_hoursFor_5 : decode cX2_hoursFor 5 = .ok (.aload_n 0, 1) := dk_42 (dk_at dksX2_hoursFor_0 5 rfl rfl)
theorem dX2_hoursFor_6 : decode cX2_hoursFor 6 = .ok (.iload_n 1, 1) := dk_27 (dk_at dksX2_hoursFor_0 6 rfl rfl)
theorem dX2_hoursFor_7 : decode cX2_hoursFor 7 = .ok (.invokevirtual 75, 3) := dk_182 0 75 (dk_at dksX2_hoursFor_0 7 rfl rfl)
theorem dX2_hoursFor_10 : decode cX2_hoursFor 10 = .ok (.ifCond .eq 7, 3) := dk_153 0 7 (dk_at dksX2_hoursFor_0 10 rfl rfl)
theorem dX2_hoursFor_13 : decode cX2_hoursFor 13 = .ok (.iconst 0, 1) := dk_3 (dk_at dksX2_hoursFor_0 13 rfl rfl)
theorem dX2_hoursFor_14 : decode cX2_hoursFor 14 = .ok (.goto 4, 3) := dk_167 0 4 (dk_at dksX2_hoursFor_0 14 rfl rfl)
theorem dX2_hoursFor_17 : decode cX2_hoursFor 17 = .ok (.iconst (-1), 1) := dk_2 (dk_at dksX2_hoursFor_0 17 rfl rfl)
theorem dX2_hoursFor_18 : decode cX2_hoursFor 18 = .ok (.iload_n 2, 1) := dk_28 (dk_at dksX2_hoursFor_0 18 rfl rfl)
theorem dX2_hoursFor_19 : decode cX2_hoursFor 19 = .ok (.iconst 1, 1) := dk_4 (dk_at dksX2_hoursFor_0 19 rfl rfl)
theorem dX2_hoursFor_20 : decode cX2_hoursFor 20 = .ok (.invokestatic 211, 3) := dk_184 0 211 (dk_at dksX2_hoursFor_0 20 rfl rfl)
theorem dX2_hoursFor_23 : decode cX2_hoursFor 23 = .ok (.istore_n 3, 1) := dk_62 (dk_at dksX2_hoursFor_0 23 rfl rfl)
theorem dX2_hoursFor_24 : decode cX2_hoursFor 24 = .ok (.iload_n 3, 1) := dk_29 (dk_at dksX2_hoursFor_1 0 rfl rfl)
theorem dX2_hoursFor_25 : decode cX2_hoursFor 25 = .ok (.ifCond .ge 9, 3) := dk_156 0 9 (dk_at dksX2_hoursFor_1 1 rfl rfl)
theorem dX2_hoursFor_28 : decode cX2_hoursFor 28 = .ok (.aload_n 0, 1) := dk_42 (dk_at dksX2_hoursFor_1 4 rfl rfl)
theorem dX2_hoursFor_29 : decode cX2_hoursFor 29 = .ok (.iload_n 3, 1) := dk_29 (dk_at dksX2_hoursFor_1 5 rfl rfl)
theorem dX2_hoursFor_30 : decode cX2_hoursFor 30 = .ok (.invokevirtual 128, 3) := dk_182 0 128 (dk_at dksX2_hoursFor_1 6 rfl rfl)
theorem dX2_hoursFor_33 : decode cX2_hoursFor 33 = .ok (.ireturn, 1) := dk_172 (dk_at dksX2_hoursFor_1 9 rfl rfl)
theorem dX2_hoursFor_34 : decode cX2_hoursFor 34 = .ok (.bipush (-9), 2) := dk_16 247 (dk_at dksX2_hoursFor_1 10 rfl rfl)
theorem dX2_hoursFor_36 : decode cX2_hoursFor 36 = .ok (.istore 4, 2) := dk_54 4 (dk_at dksX2_hoursFor_1 12 rfl rfl)
theorem dX2_hoursFor_38 : decode cX2_hoursFor 38 = .ok (.bipush (-9), 2) := dk_16 247 (dk_at dksX2_hoursFor_1 14 rfl rfl)
theorem dX2_hoursFor_40 : decode cX2_hoursFor 40 = .ok (.istore 5, 2) := dk_54 5 (dk_at dksX2_hoursFor_1 16 rfl rfl)
theorem dX2_hoursFor_42 : decode cX2_hoursFor 42 = .ok (.aload_n 0, 1) := dk_42 (dk_at dksX2_hoursFor_1 18 rfl rfl)
theorem dX2_hoursFor_43 : decode cX2_hoursFor 43 = .ok (.invokevirtual 178, 3) := dk_182 0 178 (dk_at dksX2_hoursFor_1 19 rfl rfl)
theorem dX2_hoursFor_46 : decode cX2_hoursFor 46 = .ok (.iconst 0, 1) := dk_3 (dk_at dksX2_hoursFor_1 22 rfl rfl)
theorem dX2_hoursFor_47 : decode cX2_hoursFor 47 = .ok (.istore 6, 2) := dk_54 6 (dk_at dksX2_hoursFor_2 0 rfl rfl)
theorem dX2_hoursFor_49 : decode cX2_hoursFor 49 = .ok (.iload 6, 2) := dk_21 6 (dk_at dksX2_hoursFor_2 2 rfl rfl)
theorem dX2_hoursFor_51 : decode cX2_hoursFor 51 = .ok (.bipush 32, 2) := dk_16 32 (dk_at dksX2_hoursFor_2 4 rfl rfl)
theorem dX2_hoursFor_53 : decode cX2_hoursFor 53 = .ok (.if_icmp .ge 111, 3) := dk_162 0 111 (dk_at dksX2_hoursFor_2 6 rfl rfl)
theorem dX2_hoursFor_56 : decode cX2_hoursFor 56 = .ok (.aload_n 0, 1) := dk_42 (dk_at dksX2_hoursFor_2 9 rfl rfl)
theorem dX2_hoursFor_57 : decode cX2_hoursFor 57 = .ok (.getfield 19, 3) := dk_180 0 19 (dk_at dksX2_hoursFor_2 10 rfl rfl)
theorem dX2_hoursFor_60 : decode cX2_hoursFor 60 = .ok (.iload_n 1, 1) := dk_27 (dk_at dksX2_hoursFor_2 13 rfl rfl)
theorem dX2_hoursFor_61 : decode cX2_hoursFor 61 = .ok (.iaload, 1) := dk_46 (dk_at dksX2_hoursFor_2 14 rfl rfl)
theorem dX2_hoursFor_62 : decode cX2_hoursFor 62 = .ok (.ifCond .lt 102, 3) := dk_155 0 102 (dk_at dksX2_hoursFor_2 15 rfl rfl)
theorem dX2_hoursFor_65 : decode cX2_hoursFor 65 = .ok (.aload_n 0, 1) := dk_42 (dk_at dksX2_hoursFor_2 18 rfl rfl)
theorem dX2_hoursFor_66 : decode cX2_hoursFor 66 = .ok (.getfield 16, 3) := dk_180 0 16 (dk_at dksX2_hoursFor_2 19 rfl rfl)
theorem dX2_hoursFor_69 : decode cX2_hoursFor 69 = .ok (.iload_n 1, 1) := dk_27 (dk_at dksX2_hoursFor_2 22 rfl rfl)
theorem dX2_hoursFor_70 : decode cX2_hoursFor 70 = .ok (.iload 6, 2) := dk_21 6 (dk_at dksX2_hoursFor_3 0 rfl rfl)
theorem dX2_hoursFor_72 : decode cX2_hoursFor 72 = .ok (.iastore, 1) := dk_79 (dk_at dksX2_hoursFor_3 2 rfl rfl)
theorem dX2_hoursFor_73 : decode cX2_hoursFor 73 = .ok (.aload_n 0, 1) := dk_42 (dk_at dksX2_hoursFor_3 3 rfl rfl)
theorem dX2_hoursFor_74 : decode cX2_hoursFor 74 = .ok (.iload_n 1, 1) := dk_27 (dk_at dksX2_hoursFor_3 4 rfl rfl)
theorem dX2_hoursFor_75 : decode cX2_hoursFor 75 = .ok (.aload_n 0, 1) := dk_42 (dk_at dksX2_hoursFor_3 5 rfl rfl)
theorem dX2_hoursFor_76 : decode cX2_hoursFor 76 = .ok (.getfield 19, 3) := dk_180 0 19 (dk_at dksX2_hoursFor_3 6 rfl rfl)
theorem dX2_hoursFor_79 : decode cX2_hoursFor 79 = .ok (.iload_n 1, 1) := dk_27 (dk_at dksX2_hoursFor_3 9 rfl rfl)
theorem dX2_hoursFor_80 : decode cX2_hoursFor 80 = .ok (.iaload, 1) := dk_46 (dk_at dksX2_hoursFor_3 10 rfl rfl)
theorem dX2_hoursFor_81 : decode cX2_hoursFor 81 = .ok (.invokevirtual 235, 3) := dk_182 0 235 (dk_at dksX2_hoursFor_3 11 rfl rfl)
theorem dX2_hoursFor_84 : decode cX2_hoursFor 84 = .ok (.istore 7, 2) := dk_54 7 (dk_at dksX2_hoursFor_3 14 rfl rfl)
theorem dX2_hoursFor_86 : decode cX2_hoursFor 86 = .ok (.iload 7, 2) := dk_21 7 (dk_at dksX2_hoursFor_3 16 rfl rfl)
theorem dX2_hoursFor_88 : decode cX2_hoursFor 88 = .ok (.ifCond .lt 39, 3) := dk_155 0 39 (dk_at dksX2_hoursFor_3 18 rfl rfl)
theorem dX2_hoursFor_91 : decode cX2_hoursFor 91 = .ok (.iload 4, 2) := dk_21 4 (dk_at dksX2_hoursFor_3 21 rfl rfl)
theorem dX2_hoursFor_93 : decode cX2_hoursFor 93 = .ok (.ifCond .lt 30, 3) := dk_155 0 30 (dk_at dksX2_hoursFor_4 0 rfl rfl)
theorem dX2_hoursFor_96 : decode cX2_hoursFor 96 = .ok (.iload 7, 2) := dk_21 7 (dk_at dksX2_hoursFor_4 3 rfl rfl)
theorem dX2_hoursFor_98 : decode cX2_hoursFor 98 = .ok (.iload 5, 2) := dk_21 5 (dk_at dksX2_hoursFor_4 5 rfl rfl)
theorem dX2_hoursFor_100 : decode cX2_hoursFor 100 = .ok (.if_icmp .lt 23, 3) := dk_161 0 23 (dk_at dksX2_hoursFor_4 7 rfl rfl)
theorem dX2_hoursFor_103 : decode cX2_hoursFor 103 = .ok (.iload 7, 2) := dk_21 7 (dk_at dksX2_hoursFor_4 10 rfl rfl)
theorem dX2_hoursFor_105 : decode cX2_hoursFor 105 = .ok (.iload 5, 2) := dk_21 5 (dk_at dksX2_hoursFor_4 12 rfl rfl)
theorem dX2_hoursFor_107 : decode cX2_hoursFor 107 = .ok (.if_icmp .ne 20, 3) := dk_160 0 20 (dk_at dksX2_hoursFor_4 14 rfl rfl)
theorem dX2_hoursFor_110 : decode cX2_hoursFor 110 = .ok (.iload 6, 2) := dk_21 6 (dk_at dksX2_hoursFor_4 17 rfl rfl)
theorem dX2_hoursFor_112 : decode cX2_hoursFor 112 = .ok (.invokestatic 83, 3) := dk_184 0 83 (dk_at dksX2_hoursFor_4 19 rfl rfl)
theorem dX2_hoursFor_115 : decode cX2_hoursFor 115 = .ok (.iload 4, 2) := dk_21 4 (dk_at dksX2_hoursFor_4 22 rfl rfl)
theorem dX2_hoursFor_117 : decode cX2_hoursFor 117 = .ok (.invokestatic 83, 3) := dk_184 0 83 (dk_at dksX2_hoursFor_5 0 rfl rfl)
theorem dX2_hoursFor_120 : decode cX2_hoursFor 120 = .ok (.if_icmp .ge 7, 3) := dk_162 0 7 (dk_at dksX2_hoursFor_5 3 rfl rfl)
theorem dX2_hoursFor_123 : decode cX2_hoursFor 123 = .ok (.iconst 1, 1) := dk_4 (dk_at dksX2_hoursFor_5 6 rfl rfl)
theorem dX2_hoursFor_124 : decode cX2_hoursFor 124 = .ok (.goto 4, 3) := dk_167 0 4 (dk_at dksX2_hoursFor_5 7 rfl rfl)
theorem dX2_hoursFor_127 : decode cX2_hoursFor 127 = .ok (.iconst 0, 1) := dk_3 (dk_at dksX2_hoursFor_5 10 rfl rfl)
theorem dX2_hoursFor_128 : decode cX2_hoursFor 128 = .ok (.istore 8, 2) := dk_54 8 (dk_at dksX2_hoursFor_5 11 rfl rfl)
theorem dX2_hoursFor_130 : decode cX2_hoursFor 130 = .ok (.iload 8, 2) := dk_21 8 (dk_at dksX2_hoursFor_5 13 rfl rfl)
theorem dX2_hoursFor_132 : decode cX2_hoursFor 132 = .ok (.ifCond .eq 8, 3) := dk_153 0 8 (dk_at dksX2_hoursFor_5 15 rfl rfl)
theorem dX2_hoursFor_135 : decode cX2_hoursFor 135 = .ok (.iload 6, 2) := dk_21 6 (dk_at dksX2_hoursFor_5 18 rfl rfl)
theorem dX2_hoursFor_137 : decode cX2_hoursFor 137 = .ok (.goto 5, 3) := dk_167 0 5 (dk_at dksX2_hoursFor_5 20 rfl rfl)
theorem dX2_hoursFor_140 : decode cX2_hoursFor 140 = .ok (.iload 4, 2) := dk_21 4 (dk_at dksX2_hoursFor_6 0 rfl rfl)
theorem dX2_hoursFor_142 : decode cX2_hoursFor 142 = .ok (.istore 4, 2) := dk_54 4 (dk_at dksX2_hoursFor_6 2 rfl rfl)
theorem dX2_hoursFor_144 : decode cX2_hoursFor 144 = .ok (.iload 8, 2) := dk_21 8 (dk_at dksX2_hoursFor_6 4 rfl rfl)
theorem dX2_hoursFor_146 : decode cX2_hoursFor 146 = .ok (.ifCond .eq 8, 3) := dk_153 0 8 (dk_at dksX2_hoursFor_6 6 rfl rfl)
theorem dX2_hoursFor_149 : decode cX2_hoursFor 149 = .ok (.iload 7, 2) := dk_21 7 (dk_at dksX2_hoursFor_6 9 rfl rfl)
theorem dX2_hoursFor_151 : decode cX2_hoursFor 151 = .ok (.goto 5, 3) := dk_167 0 5 (dk_at dksX2_hoursFor_6 11 rfl rfl)
theorem dX2_hoursFor_154 : decode cX2_hoursFor 154 = .ok (.iload 5, 2) := dk_21 5 (dk_at dksX2_hoursFor_6 14 rfl rfl)
theorem dX2_hoursFor_156 : decode cX2_hoursFor 156 = .ok (.istore 5, 2) := dk_54 5 (dk_at dksX2_hoursFor_6 16 rfl rfl)
theorem dX2_hoursFor_158 : decode cX2_hoursFor 158 = .ok (.iinc 6 1, 3) := dk_132 6 1 (dk_at dksX2_hoursFor_6 18 rfl rfl)
theorem dX2_hoursFor_161 : decode cX2_hoursFor 161 = .ok (.goto (-112), 3) := dk_167 255 144 (dk_at dksX2_hoursFor_6 21 rfl rfl)
theorem dX2_hoursFor_164 : decode cX2_hoursFor 164 = .ok (.aload_n 0, 1) := dk_42 (dk_at dksX2_hoursFor_7 0 rfl rfl)
theorem dX2_hoursFor_165 : decode cX2_hoursFor 165 = .ok (.invokevirtual 184, 3) := dk_182 0 184 (dk_at dksX2_hoursFor_7 1 rfl rfl)
theorem dX2_hoursFor_168 : decode cX2_hoursFor 168 = .ok (.iload_n 2, 1) := dk_28 (dk_at dksX2_hoursFor_7 4 rfl rfl)
theorem dX2_hoursFor_169 : decode cX2_hoursFor 169 = .ok (.ifCond .ne 8, 3) := dk_154 0 8 (dk_at dksX2_hoursFor_7 5 rfl rfl)
theorem dX2_hoursFor_172 : decode cX2_hoursFor 172 = .ok (.iload 4, 2) := dk_21 4 (dk_at dksX2_hoursFor_7 8 rfl rfl)
theorem dX2_hoursFor_174 : decode cX2_hoursFor 174 = .ok (.goto 5, 3) := dk_167 0 5 (dk_at dksX2_hoursFor_7 10 rfl rfl)
theorem dX2_hoursFor_177 : decode cX2_hoursFor 177 = .ok (.iload 5, 2) := dk_21 5 (dk_at dksX2_hoursFor_7 13 rfl rfl)
theorem dX2_hoursFor_179 : decode cX2_hoursFor 179 = .ok (.ireturn, 1) := dk_172 (dk_at dksX2_hoursFor_7 15 rfl rfl)
abbrev cX2_swap : ByteArray := prog_12_method_73_code
def yX2_swap : MethodName := ⟨RX2, "swap", "()I"⟩
def dkwX2_swap_5 : List UInt8 := [164, 0, 8, 21, 7, 167, 0, 4, 28, 61, 132, 4, 1, 167, 255, 158, 132, 3, 1, 167, 255, 139, 27, 172]
abbrev dktX2_swap_5 : List UInt8 := dkwX2_swap_5 ++ []
def dkwX2_swap_4 : List UInt8 := [182, 0, 184, 21, 7, 28, 164, 0, 13, 16, 10, 29, 104, 21, 4, 96, 167, 0, 4, 27, 60, 21, 7, 28]
abbrev dktX2_swap_4 : List UInt8 := dkwX2_swap_4 ++ dktX2_swap_5
def dkwX2_swap_3 : List UInt8 := [42, 29, 21, 6, 182, 0, 125, 42, 21, 4, 21, 5, 182, 0, 125, 42, 182, 1, 14, 54, 7, 42]
abbrev dktX2_swap_3 : List UInt8 := dkwX2_swap_3 ++ dktX2_swap_4
def dkwX2_swap_2 : List UInt8 := [54, 5, 42, 180, 0, 19, 21, 4, 46, 54, 6, 21, 5, 29, 164, 0, 66, 21, 6, 21, 4, 164, 0, 59]
abbrev dktX2_swap_2 : List UInt8 := dkwX2_swap_2 ++ dktX2_swap_3
def dkwX2_swap_1 : List UInt8 := [162, 0, 115, 29, 4, 96, 54, 4, 21, 4, 42, 180, 0, 68, 162, 0, 95, 42, 180, 0, 19, 29, 46]
abbrev dktX2_swap_1 : List UInt8 := dkwX2_swap_1 ++ dktX2_swap_2
def dkwX2_swap_0 : List UInt8 := [42, 3, 181, 0, 65, 16, 247, 60, 42, 182, 1, 14, 61, 42, 182, 0, 178, 3, 62, 29, 42, 180, 0, 68]
abbrev dktX2_swap_0 : List UInt8 := dkwX2_swap_0 ++ dktX2_swap_1
theorem dksX2_swap_0 : cX2_swap.data.toList.drop 0 = dktX2_swap_0 := by decide +kernel
theorem dksX2_swap_1 : cX2_swap.data.toList.drop 24 = dktX2_swap_1 := dk_seg dksX2_swap_0 24 rfl rfl
theorem dksX2_swap_2 : cX2_swap.data.toList.drop 47 = dktX2_swap_2 := dk_seg dksX2_swap_1 23 rfl rfl
theorem dksX2_swap_3 : cX2_swap.data.toList.drop 71 = dktX2_swap_3 := dk_seg dksX2_swap_2 24 rfl rfl
theorem dksX2_swap_4 : cX2_swap.data.toList.drop 93 = dktX2_swap_4 := dk_seg dksX2_swap_3 22 rfl rfl
theorem dksX2_swap_5 : cX2_swap.data.toList.drop 117 = dktX2_swap_5 := dk_seg dksX2_swap_4 24 rfl rfl
theorem dX2_swap_0 : decode cX2_swap 0 = .ok (.aload_n 0, 1) := dk_42 (dk_at dksX2_swap_0 0 rfl rfl)
theorem dX2_swap_1 : decode cX2_swap 1 = .ok (.iconst 0, 1) := dk_3 (dk_at dksX2_swap_0 1 rfl rfl)
theorem dX2_swap_2 : decode cX2_swap 2 = .ok (.putfield 65, 3) := dk_181 0 65 (dk_at dksX2_swap_0 2 rfl rfl)
theorem dX2_swap_5 : decode cX2_swap 5 = .ok (.bipush (-9), 2) := dk_16 247 (dk_at dksX2_swap_0 5 rfl rfl)
theorem dX2_swap_7 : decode cX2_swap 7 = .ok (.istore_n 1, 1) := dk_60 (dk_at dksX2_swap_0 7 rfl rfl)
theorem dX2_swap_8 : decode cX2_swap 8 = .ok (.aload_n 0, 1) := dk_42 (dk_at dksX2_swap_0 8 rfl rfl)
theorem dX2_swap_9 : decode cX2_swap 9 = .ok (.invokevirtual 270, 3) := dk_182 1 14 (dk_at dksX2_swap_0 9 rfl rfl)
theorem dX2_swap_12 : decode cX2_swap 12 = .ok (.istore_n 2, 1) := dk_61 (dk_at dksX2_swap_0 12 rfl rfl)
theorem dX2_swap_13 : decode cX2_swap 13 = .ok (.aload_n 0, 1) := dk_42 (dk_at dksX2_swap_0 13 rfl rfl)
theorem dX2_swap_14 : decode cX2_swap 14 = .ok (.invokevirtual 178, 3) := dk_182 0 178 (dk_at dksX2_swap_0 14 rfl rfl)
theorem dX2_swap_17 : decode cX2_swap 17 = .ok (.iconst 0, 1) := dk_3 (dk_at dksX2_swap_0 17 rfl rfl)
theorem dX2_swap_18 : decode cX2_swap 18 = .ok (.istore_n 3, 1) := dk_62 (dk_at dksX2_swap_0 18 rfl rfl)
theorem dX2_swap_19 : decode cX2_swap 19 = .ok (.iload_n 3, 1) := dk_29 (dk_at dksX2_swap_0 19 rfl rfl)
theorem dX2_swap_20 : decode cX2_swap 20 = .ok (.aload_n 0, 1) := dk_42 (dk_at dksX2_swap_0 20 rfl rfl)
theorem dX2_swap_21 : decode cX2_swap 21 = .ok (.getfield 68, 3) := dk_180 0 68 (dk_at dksX2_swap_0 21 rfl rfl)
theorem dX2_swap_24 : decode cX2_swap 24 = .ok (.if_icmp .ge 115, 3) := dk_162 0 115 (dk_at dksX2_swap_1 0 rfl rfl)
theorem dX2_swap_27 : decode cX2_swap 27 = .ok (.iload_n 3, 1) := dk_29 (dk_at dksX2_swap_1 3 rfl rfl)
theorem dX2_swap_28 : decode cX2_swap 28 = .ok (.iconst 1, 1) := dk_4 (dk_at dksX2_swap_1 4 rfl rfl)
theorem dX2_swap_29 : decode cX2_swap 29 = .ok (.iadd, 1) := dk_96 (dk_at dksX2_swap_1 5 rfl rfl)
theorem dX2_swap_30 : decode cX2_swap 30 = .ok (.istore 4, 2) := dk_54 4 (dk_at dksX2_swap_1 6 rfl rfl)
theorem dX2_swap_32 : decode cX2_swap 32 = .ok (.iload 4, 2) := dk_21 4 (dk_at dksX2_swap_1 8 rfl rfl)
theorem dX2_swap_34 : decode cX2_swap 34 = .ok (.aload_n 0, 1) := dk_42 (dk_at dksX2_swap_1 10 rfl rfl)
theorem dX2_swap_35 : decode cX2_swap 35 = .ok (.getfield 68, 3) := dk_180 0 68 (dk_at dksX2_swap_1 11 rfl rfl)
theorem dX2_swap_38 : decode cX2_swap 38 = .ok (.if_icmp .ge 95, 3) := dk_162 0 95 (dk_at dksX2_swap_1 14 rfl rfl)
theorem dX2_swap_41 : decode cX2_swap 41 = .ok (.aload_n 0, 1) := dk_42 (dk_at dksX2_swap_1 17 rfl rfl)
theorem dX2_swap_42 : decode cX2_swap 42 = .ok (.getfield 19, 3) := dk_180 0 19 (dk_at dksX2_swap_1 18 rfl rfl)
theorem dX2_swap_45 : decode cX2_swap 45 = .ok (.iload_n 3, 1) := dk_29 (dk_at dksX2_swap_1 21 rfl rfl)
theorem dX2_swap_46 : decode cX2_swap 46 = .ok (.iaload, 1) := dk_46 (dk_at dksX2_swap_1 22 rfl rfl)
theorem dX2_swap_47 : decode cX2_swap 47 = .ok (.istore 5, 2) := dk_54 5 (dk_at dksX2_swap_2 0 rfl rfl)
theorem dX2_swap_49 : decode cX2_swap 49 = .ok (.aload_n 0, 1) := dk_42 (dk_at dksX2_swap_2 2 rfl rfl)
theorem dX2_swap_50 : decode cX2_swap 50 = .ok (.getfield 19, 3) := dk_180 0 19 (dk_at dksX2_swap_2 3 rfl rfl)
theorem dX2_swap_53 : decode cX2_swap 53 = .ok (.iload 4, 2) := dk_21 4 (dk_at dksX2_swap_2 6 rfl rfl)
theorem dX2_swap_55 : decode cX2_swap 55 = .ok (.iaload, 1) := dk_46 (dk_at dksX2_swap_2 8 rfl rfl)
theorem dX2_swap_56 : decode cX2_swap 56 = .ok (.istore 6, 2) := dk_54 6 (dk_at dksX2_swap_2 9 rfl rfl)
theorem dX2_swap_58 : decode cX2_swap 58 = .ok (.iload 5, 2) := dk_21 5 (dk_at dksX2_swap_2 11 rfl rfl)
theorem dX2_swap_60 : decode cX2_swap 60 = .ok (.iload_n 3, 1) := dk_29 (dk_at dksX2_swap_2 13 rfl rfl)
theorem dX2_swap_61 : decode cX2_swap 61 = .ok (.if_icmp .le 66, 3) := dk_164 0 66 (dk_at dksX2_swap_2 14 rfl rfl)
theorem dX2_swap_64 : decode cX2_swap 64 = .ok (.iload 6, 2) := dk_21 6 (dk_at dksX2_swap_2 17 rfl rfl)
theorem dX2_swap_66 : decode cX2_swap 66 = .ok (.iload 4, 2) := dk_21 4 (dk_at dksX2_swap_2 19 rfl rfl)
theorem dX2_swap_68 : decode cX2_swap 68 = .ok (.if_icmp .le 59, 3) := dk_164 0 59 (dk_at dksX2_swap_2 21 rfl rfl)
theorem dX2_swap_71 : decode cX2_swap 71 = .ok (.aload_n 0, 1) := dk_42 (dk_at dksX2_swap_3 0 rfl rfl)
theorem dX2_swap_72 : decode cX2_swap 72 = .ok (.iload_n 3, 1) := dk_29 (dk_at dksX2_swap_3 1 rfl rfl)
theorem dX2_swap_73 : decode cX2_swap 73 = .ok (.iload 6, 2) := dk_21 6 (dk_at dksX2_swap_3 2 rfl rfl)
theorem dX2_swap_75 : decode cX2_swap 75 = .ok (.invokevirtual 125, 3) := dk_182 0 125 (dk_at dksX2_swap_3 4 rfl rfl)
theorem dX2_swap_78 : decode cX2_swap 78 = .ok (.aload_n 0, 1) := dk_42 (dk_at dksX2_swap_3 7 rfl rfl)
theorem dX2_swap_79 : decode cX2_swap 79 = .ok (.iload 4, 2) := dk_21 4 (dk_at dksX2_swap_3 8 rfl rfl)
theorem dX2_swap_81 : decode cX2_swap 81 = .ok (.iload 5, 2) := dk_21 5 (dk_at dksX2_swap_3 10 rfl rfl)
theorem dX2_swap_83 : decode cX2_swap 83 = .ok (.invokevirtual 125, 3) := dk_182 0 125 (dk_at dksX2_swap_3 12 rfl rfl)
theorem dX2_swap_86 : decode cX2_swap 86 = .ok (.aload_n 0, 1) := dk_42 (dk_at dksX2_swap_3 15 rfl rfl)
theorem dX2_swap_87 : decode cX2_swap 87 = .ok (.invokevirtual 270, 3) := dk_182 1 14 (dk_at dksX2_swap_3 16 rfl rfl)
theorem dX2_swap_90 : decode cX2_swap 90 = .ok (.istore 7, 2) := dk_54 7 (dk_at dksX2_swap_3 19 rfl rfl)
theorem dX2_swap_92 : decode cX2_swap 92 = .ok (.aload_n 0, 1) := dk_42 (dk_at dksX2_swap_3 21 rfl rfl)
theorem dX2_swap_93 : decode cX2_swap 93 = .ok (.invokevirtual 184, 3) := dk_182 0 184 (dk_at dksX2_swap_4 0 rfl rfl)
theorem dX2_swap_96 : decode cX2_swap 96 = .ok (.iload 7, 2) := dk_21 7 (dk_at dksX2_swap_4 3 rfl rfl)
theorem dX2_swap_98 : decode cX2_swap 98 = .ok (.iload_n 2, 1) := dk_28 (dk_at dksX2_swap_4 5 rfl rfl)
theorem dX2_swap_99 : decode cX2_swap 99 = .ok (.if_icmp .le 13, 3) := dk_164 0 13 (dk_at dksX2_swap_4 6 rfl rfl)
theorem dX2_swap_102 : decode cX2_swap 102 = .ok (.bipush 10, 2) := dk_16 10 (dk_at dksX2_swap_4 9 rfl rfl)
theorem dX2_swap_104 : decode cX2_swap 104 = .ok (.iload_n 3, 1) := dk_29 (dk_at dksX2_swap_4 11 rfl rfl)
theorem dX2_swap_105 : decode cX2_swap 105 = .ok (.imul, 1) := dk_104 (dk_at dksX2_swap_4 12 rfl rfl)
theorem dX2_swap_106 : decode cX2_swap 106 = .ok (.iload 4, 2) := dk_21 4 (dk_at dksX2_swap_4 13 rfl rfl)
theorem dX2_swap_108 : decode cX2_swap 108 = .ok (.iadd, 1) := dk_96 (dk_at dksX2_swap_4 15 rfl rfl)
theorem dX2_swap_109 : decode cX2_swap 109 = .ok (.goto 4, 3) := dk_167 0 4 (dk_at dksX2_swap_4 16 rfl rfl)
theorem dX2_swap_112 : decode cX2_swap 112 = .ok (.iload_n 1, 1) := dk_27 (dk_at dksX2_swap_4 19 rfl rfl)
theorem dX2_swap_113 : decode cX2_swap 113 = .ok (.istore_n 1, 1) := dk_60 (dk_at dksX2_swap_4 20 rfl rfl)
theorem dX2_swap_114 : decode cX2_swap 114 = .ok (.iload 7, 2) := dk_21 7 (dk_at dksX2_swap_4 21 rfl rfl)
theorem dX2_swap_116 : decode cX2_swap 116 = .ok (.iload_n 2, 1) := dk_28 (dk_at dksX2_swap_4 23 rfl rfl)
theorem dX2_swap_117 : decode cX2_swap 117 = .ok (.if_icmp .le 8, 3) := dk_164 0 8 (dk_at dksX2_swap_5 0 rfl rfl)
theorem dX2_swap_120 : decode cX2_swap 120 = .ok (.iload 7, 2) := dk_21 7 (dk_at dksX2_swap_5 3 rfl rfl)
theorem dX2_swap_122 : decode cX2_swap 122 = .ok (.goto 4, 3) := dk_167 0 4 (dk_at dksX2_swap_5 5 rfl rfl)
theorem dX2_swap_125 : decode cX2_swap 125 = .ok (.iload_n 2, 1) := dk_28 (dk_at dksX2_swap_5 8 rfl rfl)
theorem dX2_swap_126 : decode cX2_swap 126 = .ok (.istore_n 2, 1) := dk_61 (dk_at dksX2_swap_5 9 rfl rfl)
theorem dX2_swap_127 : decode cX2_swap 127 = .ok (.iinc 4 1, 3) := dk_132 4 1 (dk_at dksX2_swap_5 10 rfl rfl)
theorem dX2_swap_130 : decode cX2_swap 130 = .ok (.goto (-98), 3) := dk_167 255 158 (dk_at dksX2_swap_5 13 rfl rfl)
theorem dX2_swap_133 : decode cX2_swap 133 = .ok (.iinc 3 1, 3) := dk_132 3 1 (dk_at dksX2_swap_5 16 rfl rfl)
theorem dX2_swap_136 : decode cX2_swap 136 = .ok (.goto (-117), 3) := dk_167 255 139 (dk_at dksX2_swap_5 19 rfl rfl)
theorem dX2_swap_139 : decode cX2_swap 139 = .ok (.iload_n 1, 1) := dk_27 (dk_at dksX2_swap_5 22 rfl rfl)
theorem dX2_swap_140 : decode cX2_swap 140 = .ok (.ireturn, 1) := dk_172 (dk_at dksX2_swap_5 23 rfl rfl)
abbrev cX2_allLikes : ByteArray := prog_12_method_72_code
def yX2_allLikes : MethodName := ⟨RX2, "allLikes", "()I"⟩
def dkwX2_allLikes_1 : List UInt8 := [167, 0, 14, 42, 28, 42, 180, 0, 19, 28, 46, 182, 0, 90, 96, 60, 132, 2, 1, 167, 255, 218, 27, 172]
abbrev dktX2_allLikes_1 : List UInt8 := dkwX2_allLikes_1 ++ []
def dkwX2_allLikes_0 : List UInt8 := [3, 60, 3, 61, 28, 42, 180, 0, 68, 162, 0, 36, 27, 42, 180, 0, 19, 28, 46, 156, 0, 7, 3]
abbrev dktX2_allLikes_0 : List UInt8 := dkwX2_allLikes_0 ++ dktX2_allLikes_1
theorem dksX2_allLikes_0 : cX2_allLikes.data.toList.drop 0 = dktX2_allLikes_0 := by decide +kernel
theorem dksX2_allLikes_1 : cX2_allLikes.data.toList.drop 23 = dktX2_allLikes_1 := dk_seg dksX2_allLikes_0 23 rfl rfl
theorem dX2_allLikes_0 : decode cX2_allLikes 0 = .ok (.iconst 0, 1) := dk_3 (dk_at dksX2_allLikes_0 0 rfl rfl)
theorem dX2_allLikes_1 : decode cX2_allLikes 1 = .ok (.istore_n 1, 1) := dk_60 (dk_at dksX2_allLikes_0 1 rfl rfl)
theorem dX2_allLikes_2 : decode cX2_allLikes 2 = .ok (.iconst 0, 1) := dk_3 (dk_at dksX2_allLikes_0 2 rfl rfl)
theorem dX2_allLikes_3 : decode cX2_allLikes 3 = .ok (.istore_n 2, 1) := dk_61 (dk_at dksX2_allLikes_0 3 rfl rfl)
theorem dX2_allLikes_4 : decode cX2_allLikes 4 = .ok (.iload_n 2, 1) := dk_28 (dk_at dksX2_allLikes_0 4 rfl rfl)
theorem dX2_allLikes_5 : decode cX2_allLikes 5 = .ok (.aload_n 0, 1) := dk_42 (dk_at dksX2_allLikes_0 5 rfl rfl)
theorem dX2_allLikes_6 : decode cX2_allLikes 6 = .ok (.getfield 68, 3) := dk_180 0 68 (dk_at dksX2_allLikes_0 6 rfl rfl)
theorem dX2_allLikes_9 : decode cX2_allLikes 9 = .ok (.if_icmp .ge 36, 3) := dk_162 0 36 (dk_at dksX2_allLikes_0 9 rfl rfl)
theorem dX2_allLikes_12 : decode cX2_allLikes 12 = .ok (.iload_n 1, 1) := dk_27 (dk_at dksX2_allLikes_0 12 rfl rfl)
theorem dX2_allLikes_13 : decode cX2_allLikes 13 = .ok (.aload_n 0, 1) := dk_42 (dk_at dksX2_allLikes_0 13 rfl rfl)
theorem dX2_allLikes_14 : decode cX2_allLikes 14 = .ok (.getfield 19, 3) := dk_180 0 19 (dk_at dksX2_allLikes_0 14 rfl rfl)
theorem dX2_allLikes_17 : decode cX2_allLikes 17 = .ok (.iload_n 2, 1) := dk_28 (dk_at dksX2_allLikes_0 17 rfl rfl)
theorem dX2_allLikes_18 : decode cX2_allLikes 18 = .ok (.iaload, 1) := dk_46 (dk_at dksX2_allLikes_0 18 rfl rfl)
theorem dX2_allLikes_19 : decode cX2_allLikes 19 = .ok (.ifCond .ge 7, 3) := dk_156 0 7 (dk_at dksX2_allLikes_0 19 rfl rfl)
theorem dX2_allLikes_22 : decode cX2_allLikes 22 = .ok (.iconst 0, 1) := dk_3 (dk_at dksX2_allLikes_0 22 rfl rfl)
theorem dX2_allLikes_23 : decode cX2_allLikes 23 = .ok (.goto 14, 3) := dk_167 0 14 (dk_at dksX2_allLikes_1 0 rfl rfl)
theorem dX2_allLikes_26 : decode cX2_allLikes 26 = .ok (.aload_n 0, 1) := dk_42 (dk_at dksX2_allLikes_1 3 rfl rfl)
theorem dX2_allLikes_27 : decode cX2_allLikes 27 = .ok (.iload_n 2, 1) := dk_28 (dk_at dksX2_allLikes_1 4 rfl rfl)
theorem dX2_allLikes_28 : decode cX2_allLikes 28 = .ok (.aload_n 0, 1) := dk_42 (dk_at dksX2_allLikes_1 5 rfl rfl)
theorem dX2_allLikes_29 : decode cX2_allLikes 29 = .ok (.getfield 19, 3) := dk_180 0 19 (dk_at dksX2_allLikes_1 6 rfl rfl)
theorem dX2_allLikes_32 : decode cX2_allLikes 32 = .ok (.iload_n 2, 1) := dk_28 (dk_at dksX2_allLikes_1 9 rfl rfl)
theorem dX2_allLikes_33 : decode cX2_allLikes 33 = .ok (.iaload, 1) := dk_46 (dk_at dksX2_allLikes_1 10 rfl rfl)
theorem dX2_allLikes_34 : decode cX2_allLikes 34 = .ok (.invokevirtual 90, 3) := dk_182 0 90 (dk_at dksX2_allLikes_1 11 rfl rfl)
theorem dX2_allLikes_37 : decode cX2_allLikes 37 = .ok (.iadd, 1) := dk_96 (dk_at dksX2_allLikes_1 14 rfl rfl)
theorem dX2_allLikes_38 : decode cX2_allLikes 38 = .ok (.istore_n 1, 1) := dk_60 (dk_at dksX2_allLikes_1 15 rfl rfl)
theorem dX2_allLikes_39 : decode cX2_allLikes 39 = .ok (.iinc 2 1, 3) := dk_132 2 1 (dk_at dksX2_allLikes_1 16 rfl rfl)
theorem dX2_allLikes_42 : decode cX2_allLikes 42 = .ok (.goto (-38), 3) := dk_167 255 218 (dk_at dksX2_allLikes_1 19 rfl rfl)
theorem dX2_allLikes_45 : decode cX2_allLikes 45 = .ok (.iload_n 1, 1) := dk_27 (dk_at dksX2_allLikes_1 22 rfl rfl)
theorem dX2_allLikes_46 : decode cX2_allLikes 46 = .ok (.ireturn, 1) := dk_172 (dk_at dksX2_allLikes_1 23 rfl rfl)
abbrev cX2_glad : ByteArray := prog_12_method_74_code
def yX2_glad : MethodName := ⟨RX2, "glad", "(I)I"⟩
def dkwX2_glad_2 : List UInt8 := [172]
abbrev dktX2_glad_2 : List UInt8 := dkwX2_glad_2 ++ []
def dkwX2_glad_1 : List UInt8 := [46, 156, 0, 8, 16, 247, 167, 0, 18, 42, 27, 42, 180, 0, 19, 27, 46, 182, 0, 90, 17, 3, 232, 96]
abbrev dktX2_glad_1 : List UInt8 := dkwX2_glad_1 ++ dktX2_glad_2
def dkwX2_glad_0 : List UInt8 := [42, 3, 181, 0, 65, 42, 27, 182, 0, 75, 154, 0, 9, 42, 2, 182, 0, 128, 172, 42, 180, 0, 19, 27]
abbrev dktX2_glad_0 : List UInt8 := dkwX2_glad_0 ++ dktX2_glad_1
theorem dksX2_glad_0 : cX2_glad.data.toList.drop 0 = dktX2_glad_0 := by decide +kernel
theorem dksX2_glad_1 : cX2_glad.data.toList.drop 24 = dktX2_glad_1 := dk_seg dksX2_glad_0 24 rfl rfl
theorem dksX2_glad_2 : cX2_glad.data.toList.drop 48 = dktX2_glad_2 := dk_seg dksX2_glad_1 24 rfl rfl
theorem dX2_glad_0 : decode cX2_glad 0 = .ok (.aload_n 0, 1) := dk_42 (dk_at dksX2_glad_0 0 rfl rfl)
theorem dX2_glad_1 : decode cX2_glad 1 = .ok (.iconst 0, 1) := dk_3 (dk_at dksX2_glad_0 1 rfl rfl)
theorem dX2_glad_2 : decode cX2_glad 2 = .ok (.putfield 65, 3) := dk_181 0 65 (dk_at dksX2_glad_0 2 rfl rfl)
theorem dX2_glad_5 : decode cX2_glad 5 = .ok (.aload_n 0, 1) := dk_42 (dk_at dksX2_glad_0 5 rfl rfl)
theorem dX2_glad_6 : decode cX2_glad 6 = .ok (.iload_n 1, 1) := dk_27 (dk_at dksX2_glad_0 6 rfl rfl)
theorem dX2_glad_7 : decode cX2_glad 7 = .ok (.invokevirtual 75, 3) := dk_182 0 75 (dk_at dksX2_glad_0 7 rfl rfl)
theorem dX2_glad_10 : decode cX2_glad 10 = .ok (.ifCond .ne 9, 3) := dk_154 0 9 (dk_at dksX2_glad_0 10 rfl rfl)
theorem dX2_glad_13 : decode cX2_glad 13 = .ok (.aload_n 0, 1) := dk_42 (dk_at dksX2_glad_0 13 rfl rfl)
theorem dX2_glad_14 : decode cX2_glad 14 = .ok (.iconst (-1), 1) := dk_2 (dk_at dksX2_glad_0 14 rfl rfl)
theorem dX2_glad_15 : decode cX2_glad 15 = .ok (.invokevirtual 128, 3) := dk_182 0 128 (dk_at dksX2_glad_0 15 rfl rfl)
theorem dX2_glad_18 : decode cX2_glad 18 = .ok (.ireturn, 1) := dk_172 (dk_at dksX2_glad_0 18 rfl rfl)
theorem dX2_glad_19 : decode cX2_glad 19 = .ok (.aload_n 0, 1) := dk_42 (dk_at dksX2_glad_0 19 rfl rfl)
theorem dX2_glad_20 : decode cX2_glad 20 = .ok (.getfield 19, 3) := dk_180 0 19 (dk_at dksX2_glad_0 20 rfl rfl)
theorem dX2_glad_23 : decode cX2_glad 23 = .ok (.iload_n 1, 1) := dk_27 (dk_at dksX2_glad_0 23 rfl rfl)
theorem dX2_glad_24 : decode cX2_glad 24 = .ok (.iaload, 1) := dk_46 (dk_at dksX2_glad_1 0 rfl rfl)
theorem dX2_glad_25 : decode cX2_glad 25 = .ok (.ifCond .ge 8, 3) := dk_156 0 8 (dk_at dksX2_glad_1 1 rfl rfl)
theorem dX2_glad_28 : decode cX2_glad 28 = .ok (.bipush (-9), 2) := dk_16 247 (dk_at dksX2_glad_1 4 rfl rfl)
theorem dX2_glad_30 : decode cX2_glad 30 = .ok (.goto 18, 3) := dk_167 0 18 (dk_at dksX2_glad_1 6 rfl rfl)
theorem dX2_glad_33 : decode cX2_glad 33 = .ok (.aload_n 0, 1) := dk_42 (dk_at dksX2_glad_1 9 rfl rfl)
theorem dX2_glad_34 : decode cX2_glad 34 = .ok (.iload_n 1, 1) := dk_27 (dk_at dksX2_glad_1 10 rfl rfl)
theorem dX2_glad_35 : decode cX2_glad 35 = .ok (.aload_n 0, 1) := dk_42 (dk_at dksX2_glad_1 11 rfl rfl)
theorem dX2_glad_36 : decode cX2_glad 36 = .ok (.getfield 19, 3) := dk_180 0 19 (dk_at dksX2_glad_1 12 rfl rfl)
theorem dX2_glad_39 : decode cX2_glad 39 = .ok (.iload_n 1, 1) := dk_27 (dk_at dksX2_glad_1 15 rfl rfl)
theorem dX2_glad_40 : decode cX2_glad 40 = .ok (.iaload, 1) := dk_46 (dk_at dksX2_glad_1 16 rfl rfl)
theorem dX2_glad_41 : decode cX2_glad 41 = .ok (.invokevirtual 90, 3) := dk_182 0 90 (dk_at dksX2_glad_1 17 rfl rfl)
theorem dX2_glad_44 : decode cX2_glad 44 = .ok (.sipush 1000, 3) := dk_17 3 232 (dk_at dksX2_glad_1 20 rfl rfl)
theorem dX2_glad_47 : decode cX2_glad 47 = .ok (.iadd, 1) := dk_96 (dk_at dksX2_glad_1 23 rfl rfl)
theorem dX2_glad_48 : decode cX2_glad 48 = .ok (.ireturn, 1) := dk_172 (dk_at dksX2_glad_2 0 rfl rfl)
abbrev cX2_who : ByteArray := prog_12_method_76_code
def yX2_who : MethodName := ⟨RX2, "who", "(III)I"⟩
def dkwX2_who_10 : List UInt8 := [21, 6, 167, 0, 5, 21, 7, 172]
abbrev dktX2_who_10 : List UInt8 := dkwX2_who_10 ++ []
def dkwX2_who_9 : List UInt8 := [54, 7, 132, 8, 1, 167, 255, 97, 29, 5, 162, 0, 8, 21, 5, 167, 0, 15, 29, 5, 160, 0, 8]
abbrev dktX2_who_9 : List UInt8 := dkwX2_who_9 ++ dktX2_who_10
def dkwX2_who_8 : List UInt8 := [167, 0, 4, 3, 96, 54, 6, 21, 9, 153, 0, 13, 21, 7, 156, 0, 8, 21, 8, 167, 0, 5, 21, 7]
abbrev dktX2_who_8 : List UInt8 := dkwX2_who_8 ++ dktX2_who_9
def dkwX2_who_7 : List UInt8 := [162, 0, 10, 4, 21, 8, 120, 167, 0, 4, 3, 128, 54, 5, 21, 6, 21, 9, 153, 0, 7, 4]
abbrev dktX2_who_7 : List UInt8 := dkwX2_who_7 ++ dktX2_who_8
def dkwX2_who_6 : List UInt8 := [180, 0, 16, 27, 46, 79, 42, 27, 28, 182, 1, 20, 54, 9, 21, 5, 21, 9, 153, 0, 15, 29, 5]
abbrev dktX2_who_6 : List UInt8 := dkwX2_who_6 ++ dktX2_who_7
def dkwX2_who_5 : List UInt8 := [180, 0, 13, 27, 46, 79, 42, 180, 0, 16, 27, 29, 4, 164, 0, 8, 21, 8, 167, 0, 9, 42]
abbrev dktX2_who_5 : List UInt8 := dkwX2_who_5 ++ dktX2_who_6
def dkwX2_who_4 : List UInt8 := [42, 180, 0, 7, 27, 46, 79, 42, 180, 0, 13, 27, 29, 4, 160, 0, 8, 21, 8, 167, 0, 9, 42]
abbrev dktX2_who_4 : List UInt8 := dkwX2_who_4 ++ dktX2_who_5
def dkwX2_who_3 : List UInt8 := [16, 10, 167, 0, 5, 16, 32, 162, 0, 139, 42, 180, 0, 7, 27, 29, 154, 0, 8, 21, 8, 167, 0, 9]
abbrev dktX2_who_3 : List UInt8 := dkwX2_who_3 ++ dktX2_who_4
def dkwX2_who_2 : List UInt8 := [42, 182, 0, 178, 3, 54, 8, 21, 8, 29, 154, 0, 8, 16, 6, 167, 0, 15, 29, 4, 160, 0, 8]
abbrev dktX2_who_2 : List UInt8 := dkwX2_who_2 ++ dktX2_who_3
def dkwX2_who_1 : List UInt8 := [54, 4, 21, 4, 156, 0, 10, 42, 21, 4, 182, 0, 128, 172, 3, 54, 5, 3, 54, 6, 16, 247, 54, 7]
abbrev dktX2_who_1 : List UInt8 := dkwX2_who_1 ++ dktX2_who_2
def dkwX2_who_0 : List UInt8 := [42, 3, 181, 0, 65, 42, 27, 28, 182, 0, 164, 153, 0, 7, 3, 167, 0, 4, 2, 29, 6, 184, 0, 211]
abbrev dktX2_who_0 : List UInt8 := dkwX2_who_0 ++ dktX2_who_1
theorem dksX2_who_0 : cX2_who.data.toList.drop 0 = dktX2_who_0 := by decide +kernel
theorem dksX2_who_1 : cX2_who.data.toList.drop 24 = dktX2_who_1 := dk_seg dksX2_who_0 24 rfl rfl
theorem dksX2_who_2 : cX2_who.data.toList.drop 48 = dktX2_who_2 := dk_seg dksX2_who_1 24 rfl rfl
theorem dksX2_who_3 : cX2_who.data.toList.drop 71 = dktX2_who_3 := dk_seg dksX2_who_2 23 rfl rfl
theorem dksX2_who_4 : cX2_who.data.toList.drop 95 = dktX2_who_4 := dk_seg dksX2_who_3 24 rfl rfl
theorem dksX2_who_5 : cX2_who.data.toList.drop 118 = dktX2_who_5 := dk_seg dksX2_who_4 23 rfl rfl
theorem dksX2_who_6 : cX2_who.data.toList.drop 140 = dktX2_who_6 := dk_seg dksX2_who_5 22 rfl rfl
theorem dksX2_who_7 : cX2_who.data.toList.drop 163 = dktX2_who_7 := dk_seg dksX2_who_6 23 rfl rfl
theorem dksX2_who_8 : cX2_who.data.toList.drop 185 = dktX2_who_8 := dk_seg dksX2_who_7 22 rfl rfl
theorem dksX2_who_9 : cX2_who.data.toList.drop 209 = dktX2_who_9 := dk_seg dksX2_who_8 24 rfl rfl
theorem dksX2_who_10 : cX2_who.data.toList.drop 232 = dktX2_who_10 := dk_seg dksX2_who_9 23 rfl rfl
theorem dX2_who_0 : decode cX2_who 0 = .ok (.aload_n 0, 1) := dk_42 (dk_at dksX2_who_0 0 rfl rfl)
theorem dX2_who_1 : decode cX2_who 1 = .ok (.iconst 0, 1) := dk_3 (dk_at dksX2_who_0 1 rfl rfl)
theorem dX2_who_2 : decode cX2_who 2 = .ok (.putfield 65, 3) := dk_181 0 65 (dk_at dksX2_who_0 2 rfl rfl)
theorem dX2_who_5 : decode cX2_who 5 = .ok (.aload_n 0, 1) := dk_42 (dk_at dksX2_who_0 5 rfl rfl)
theorem dX2_who_6 : decode cX2_who 6 = .ok (.iload_n 1, 1) := dk_27 (dk_at dksX2_who_0 6 rfl rfl)
theorem dX2_who_7 : decode cX2_who 7 = .ok (.iload_n 2, 1) := dk_28 (dk_at dksX2_who_0 7 rfl rfl)
theorem dX2_who_8 : decode cX2_who 8 = .ok (.invokevirtual 164, 3) := dk_182 0 164 (dk_at dksX2_who_0 8 rfl rfl)
theorem dX2_who_11 : decode cX2_who 11 = .ok (.ifCond .eq 7, 3) := dk_153 0 7 (dk_at dksX2_who_0 11 rfl rfl)
theorem dX2_who_14 : decode cX2_who 14 = .ok (.iconst 0, 1) := dk_3 (dk_at dksX2_who_0 14 rfl rfl)
theorem dX2_who_15 : decode cX2_who 15 = .ok (.goto 4, 3) := dk_167 0 4 (dk_at dksX2_who_0 15 rfl rfl)
theorem dX2_who_18 : decode cX2_who 18 = .ok (.iconst (-1), 1) := dk_2 (dk_at dksX2_who_0 18 rfl rfl)
theorem dX2_who_19 : decode cX2_who 19 = .ok (.iload_n 3, 1) := dk_29 (dk_at dksX2_who_0 19 rfl rfl)
theorem dX2_who_20 : decode cX2_who 20 = .ok (.iconst 3, 1) := dk_6 (dk_at dksX2_who_0 20 rfl rfl)
theorem dX2_who_21 : decode cX2_who 21 = .ok (.invokestatic 211, 3) := dk_184 0 211 (dk_at dksX2_who_0 21 rfl rfl)
theorem dX2_who_24 : decode cX2_who 24 = .ok (.istore 4, 2) := dk_54 4 (dk_at dksX2_who_1 0 rfl rfl)
theorem dX2_who_26 : decode cX2_who 26 = .ok (.iload 4, 2) := dk_21 4 (dk_at dksX2_who_1 2 rfl rfl)
theorem dX2_who_28 : decode cX2_who 28 = .ok (.ifCond .ge 10, 3) := dk_156 0 10 (dk_at dksX2_who_1 4 rfl rfl)
theorem dX2_who_31 : decode cX2_who 31 = .ok (.aload_n 0, 1) := dk_42 (dk_at dksX2_who_1 7 rfl rfl)
theorem dX2_who_32 : decode cX2_who 32 = .ok (.iload 4, 2) := dk_21 4 (dk_at dksX2_who_1 8 rfl rfl)
theorem dX2_who_34 : decode cX2_who 34 = .ok (.invokevirtual 128, 3) := dk_182 0 128 (dk_at dksX2_who_1 10 rfl rfl)
theorem dX2_who_37 : decode cX2_who 37 = .ok (.ireturn, 1) := dk_172 (dk_at dksX2_who_1 13 rfl rfl)
theorem dX2_who_38 : decode cX2_who 38 = .ok (.iconst 0, 1) := dk_3 (dk_at dksX2_who_1 14 rfl rfl)
theorem dX2_who_39 : decode cX2_who 39 = .ok (.istore 5, 2) := dk_54 5 (dk_at dksX2_who_1 15 rfl rfl)
theorem dX2_who_41 : decode cX2_who 41 = .ok (.iconst 0, 1) := dk_3 (dk_at dksX2_who_1 17 rfl rfl)
theorem dX2_who_42 : decode cX2_who 42 = .ok (.istore 6, 2) := dk_54 6 (dk_at dksX2_who_1 18 rfl rfl)
theorem dX2_who_44 : decode cX2_who 44 = .ok (.bipush (-9), 2) := dk_16 247 (dk_at dksX2_who_1 20 rfl rfl)
theorem dX2_who_46 : decode cX2_who 46 = .ok (.istore 7, 2) := dk_54 7 (dk_at dksX2_who_1 22 rfl rfl)
theorem dX2_who_48 : decode cX2_who 48 = .ok (.aload_n 0, 1) := dk_42 (dk_at dksX2_who_2 0 rfl rfl)
theorem dX2_who_49 : decode cX2_who 49 = .ok (.invokevirtual 178, 3) := dk_182 0 178 (dk_at dksX2_who_2 1 rfl rfl)
theorem dX2_who_52 : decode cX2_who 52 = .ok (.iconst 0, 1) := dk_3 (dk_at dksX2_who_2 4 rfl rfl)
theorem dX2_who_53 : decode cX2_who 53 = .ok (.istore 8, 2) := dk_54 8 (dk_at dksX2_who_2 5 rfl rfl)
theorem dX2_who_55 : decode cX2_who 55 = .ok (.iload 8, 2) := dk_21 8 (dk_at dksX2_who_2 7 rfl rfl)
theorem dX2_who_57 : decode cX2_who 57 = .ok (.iload_n 3, 1) := dk_29 (dk_at dksX2_who_2 9 rfl rfl)
theorem dX2_who_58 : decode cX2_who 58 = .ok (.ifCond .ne 8, 3) := dk_154 0 8 (dk_at dksX2_who_2 10 rfl rfl)
theorem dX2_who_61 : decode cX2_who 61 = .ok (.bipush 6, 2) := dk_16 6 (dk_at dksX2_who_2 13 rfl rfl)
theorem dX2_who_63 : decode cX2_who 63 = .ok (.goto 15, 3) := dk_167 0 15 (dk_at dksX2_who_2 15 rfl rfl)
theorem dX2_who_66 : decode cX2_who 66 = .ok (.iload_n 3, 1) := dk_29 (dk_at dksX2_who_2 18 rfl rfl)
theorem dX2_who_67 : decode cX2_who 67 = .ok (.iconst 1, 1) := dk_4 (dk_at dksX2_who_2 19 rfl rfl)
theorem dX2_who_68 : decode cX2_who 68 = .ok (.if_icmp .ne 8, 3) := dk_160 0 8 (dk_at dksX2_who_2 20 rfl rfl)
theorem dX2_who_71 : decode cX2_who 71 = .ok (.bipush 10, 2) := dk_16 10 (dk_at dksX2_who_3 0 rfl rfl)
theorem dX2_who_73 : decode cX2_who 73 = .ok (.goto 5, 3) := dk_167 0 5 (dk_at dksX2_who_3 2 rfl rfl)
theorem dX2_who_76 : decode cX2_who 76 = .ok (.bipush 32, 2) := dk_16 32 (dk_at dksX2_who_3 5 rfl rfl)
theorem dX2_who_78 : decode cX2_who 78 = .ok (.if_icmp .ge 139, 3) := dk_162 0 139 (dk_at dksX2_who_3 7 rfl rfl)
theorem dX2_who_81 : decode cX2_who 81 = .ok (.aload_n 0, 1) := dk_42 (dk_at dksX2_who_3 10 rfl rfl)
theorem dX2_who_82 : decode cX2_who 82 = .ok (.getfield 7, 3) := dk_180 0 7 (dk_at dksX2_who_3 11 rfl rfl)
theorem dX2_who_85 : decode cX2_who 85 = .ok (.iload_n 1, 1) := dk_27 (dk_at dksX2_who_3 14 rfl rfl)
theorem dX2_who_86 : decode cX2_who 86 = .ok (.iload_n 3, 1) := dk_29 (dk_at dksX2_who_3 15 rfl rfl)
theorem dX2_who_87 : decode cX2_who 87 = .ok (.ifCond .ne 8, 3) := dk_154 0 8 (dk_at dksX2_who_3 16 rfl rfl)
theorem dX2_who_90 : decode cX2_who 90 = .ok (.iload 8, 2) := dk_21 8 (dk_at dksX2_who_3 19 rfl rfl)
theorem dX2_who_92 : decode cX2_who 92 = .ok (.goto 9, 3) := dk_167 0 9 (dk_at dksX2_who_3 21 rfl rfl)
theorem dX2_who_95 : decode cX2_who 95 = .ok (.aload_n 0, 1) := dk_42 (dk_at dksX2_who_4 0 rfl rfl)
theorem dX2_who_96 : decode cX2_who 96 = .ok (.getfield 7, 3) := dk_180 0 7 (dk_at dksX2_who_4 1 rfl rfl)
theorem dX2_who_99 : decode cX2_who 99 = .ok (.iload_n 1, 1) := dk_27 (dk_at dksX2_who_4 4 rfl rfl)
theorem dX2_who_100 : decode cX2_who 100 = .ok (.iaload, 1) := dk_46 (dk_at dksX2_who_4 5 rfl rfl)
theorem dX2_who_101 : decode cX2_who 101 = .ok (.iastore, 1) := dk_79 (dk_at dksX2_who_4 6 rfl rfl)
theorem dX2_who_102 : decode cX2_who 102 = .ok (.aload_n 0, 1) := dk_42 (dk_at dksX2_who_4 7 rfl rfl)
theorem dX2_who_103 : decode cX2_who 103 = .ok (.getfield 13, 3) := dk_180 0 13 (dk_at dksX2_who_4 8 rfl rfl)
theorem dX2_who_106 : decode cX2_who 106 = .ok (.iload_n 1, 1) := dk_27 (dk_at dksX2_who_4 11 rfl rfl)
theorem dX2_who_107 : decode cX2_who 107 = .ok (.iload_n 3, 1) := dk_29 (dk_at dksX2_who_4 12 rfl rfl)
theorem dX2_who_108 : decode cX2_who 108 = .ok (.iconst 1, 1) := dk_4 (dk_at dksX2_who_4 13 rfl rfl)
theorem dX2_who_109 : decode cX2_who 109 = .ok (.if_icmp .ne 8, 3) := dk_160 0 8 (dk_at dksX2_who_4 14 rfl rfl)
theorem dX2_who_112 : decode cX2_who 112 = .ok (.iload 8, 2) := dk_21 8 (dk_at dksX2_who_4 17 rfl rfl)
theorem dX2_who_114 : decode cX2_who 114 = .ok (.goto 9, 3) := dk_167 0 9 (dk_at dksX2_who_4 19 rfl rfl)
theorem dX2_who_117 : decode cX2_who 117 = .ok (.aload_n 0, 1) := dk_42 (dk_at dksX2_who_4 22 rfl rfl)
theorem dX2_who_118 : decode cX2_who 118 = .ok (.getfield 13, 3) := dk_180 0 13 (dk_at dksX2_who_5 0 rfl rfl)
theorem dX2_who_121 : decode cX2_who 121 = .ok (.iload_n 1, 1) := dk_27 (dk_at dksX2_who_5 3 rfl rfl)
theorem dX2_who_122 : decode cX2_who 122 = .ok (.iaload, 1) := dk_46 (dk_at dksX2_who_5 4 rfl rfl)
theorem dX2_who_123 : decode cX2_who 123 = .ok (.iastore, 1) := dk_79 (dk_at dksX2_who_5 5 rfl rfl)
theorem dX2_who_124 : decode cX2_who 124 = .ok (.aload_n 0, 1) := dk_42 (dk_at dksX2_who_5 6 rfl rfl)
theorem dX2_who_125 : decode cX2_who 125 = .ok (.getfield 16, 3) := dk_180 0 16 (dk_at dksX2_who_5 7 rfl rfl)
theorem dX2_who_128 : decode cX2_who 128 = .ok (.iload_n 1, 1) := dk_27 (dk_at dksX2_who_5 10 rfl rfl)
theorem dX2_who_129 : decode cX2_who 129 = .ok (.iload_n 3, 1) := dk_29 (dk_at dksX2_who_5 11 rfl rfl)
theorem dX2_who_130 : decode cX2_who 130 = .ok (.iconst 1, 1) := dk_4 (dk_at dksX2_who_5 12 rfl rfl)
theorem dX2_who_131 : decode cX2_who 131 = .ok (.if_icmp .le 8, 3) := dk_164 0 8 (dk_at dksX2_who_5 13 rfl rfl)
theorem dX2_who_134 : decode cX2_who 134 = .ok (.iload 8, 2) := dk_21 8 (dk_at dksX2_who_5 16 rfl rfl)
theorem dX2_who_136 : decode cX2_who 136 = .ok (.goto 9, 3) := dk_167 0 9 (dk_at dksX2_who_5 18 rfl rfl)
theorem dX2_who_139 : decode cX2_who 139 = .ok (.aload_n 0, 1) := dk_42 (dk_at dksX2_who_5 21 rfl rfl)
theorem dX2_who_140 : decode cX2_who 140 = .ok (.getfield 16, 3) := dk_180 0 16 (dk_at dksX2_who_6 0 rfl rfl)
theorem dX2_who_143 : decode cX2_who 143 = .ok (.iload_n 1, 1) := dk_27 (dk_at dksX2_who_6 3 rfl rfl)
theorem dX2_who_144 : decode cX2_who 144 = .ok (.iaload, 1) := dk_46 (dk_at dksX2_who_6 4 rfl rfl)
theorem dX2_who_145 : decode cX2_who 145 = .ok (.iastore, 1) := dk_79 (dk_at dksX2_who_6 5 rfl rfl)
theorem dX2_who_146 : decode cX2_who 146 = .ok (.aload_n 0, 1) := dk_42 (dk_at dksX2_who_6 6 rfl rfl)
theorem dX2_who_147 : decode cX2_who 147 = .ok (.iload_n 1, 1) := dk_27 (dk_at dksX2_who_6 7 rfl rfl)
theorem dX2_who_148 : decode cX2_who 148 = .ok (.iload_n 2, 1) := dk_28 (dk_at dksX2_who_6 8 rfl rfl)
theorem dX2_who_149 : decode cX2_who 149 = .ok (.invokevirtual 276, 3) := dk_182 1 20 (dk_at dksX2_who_6 9 rfl rfl)
theorem dX2_who_152 : decode cX2_who 152 = .ok (.istore 9, 2) := dk_54 9 (dk_at dksX2_who_6 12 rfl rfl)
theorem dX2_who_154 : decode cX2_who 154 = .ok (.iload 5, 2) := dk_21 5 (dk_at dksX2_who_6 14 rfl rfl)
theorem dX2_who_156 : decode cX2_who 156 = .ok (.iload 9, 2) := dk_21 9 (dk_at dksX2_who_6 16 rfl rfl)
theorem dX2_who_158 : decode cX2_who 158 = .ok (.ifCond .eq 15, 3) := dk_153 0 15 (dk_at dksX2_who_6 18 rfl rfl)
theorem dX2_who_161 : decode cX2_who 161 = .ok (.iload_n 3, 1) := dk_29 (dk_at dksX2_who_6 21 rfl rfl)
theorem dX2_who_162 : decode cX2_who 162 = .ok (.iconst 2, 1) := dk_5 (dk_at dksX2_who_6 22 rfl rfl)
theorem dX2_who_163 : decode cX2_who 163 = .ok (.if_icmp .ge 10, 3) := dk_162 0 10 (dk_at dksX2_who_7 0 rfl rfl)
theorem dX2_who_166 : decode cX2_who 166 = .ok (.iconst 1, 1) := dk_4 (dk_at dksX2_who_7 3 rfl rfl)
theorem dX2_who_167 : decode cX2_who 167 = .ok (.iload 8, 2) := dk_21 8 (dk_at dksX2_who_7 4 rfl rfl)
theorem dX2_who_169 : decode cX2_who 169 = .ok (.ishl, 1) := dk_120 (dk_at dksX2_who_7 6 rfl rfl)
theorem dX2_who_170 : decode cX2_who 170 = .ok (.goto 4, 3) := dk_167 0 4 (dk_at dksX2_who_7 7 rfl rfl)
theorem dX2_who_173 : decode cX2_who 173 = .ok (.iconst 0, 1) := dk_3 (dk_at dksX2_who_7 10 rfl rfl)
theorem dX2_who_174 : decode cX2_who 174 = .ok (.ior, 1) := dk_128 (dk_at dksX2_who_7 11 rfl rfl)
theorem dX2_who_175 : decode cX2_who 175 = .ok (.istore 5, 2) := dk_54 5 (dk_at dksX2_who_7 12 rfl rfl)
theorem dX2_who_177 : decode cX2_who 177 = .ok (.iload 6, 2) := dk_21 6 (dk_at dksX2_who_7 14 rfl rfl)
theorem dX2_who_179 : decode cX2_who 179 = .ok (.iload 9, 2) := dk_21 9 (dk_at dksX2_who_7 16 rfl rfl)
theorem dX2_who_181 : decode cX2_who 181 = .ok (.ifCond .eq 7, 3) := dk_153 0 7 (dk_at dksX2_who_7 18 rfl rfl)
theorem dX2_who_184 : decode cX2_who 184 = .ok (.iconst 1, 1) := dk_4 (dk_at dksX2_who_7 21 rfl rfl)
theorem dX2_who_185 : decode cX2_who 185 = .ok (.goto 4, 3) := dk_167 0 4 (dk_at dksX2_who_8 0 rfl rfl)
theorem dX2_who_188 : decode cX2_who 188 = .ok (.iconst 0, 1) := dk_3 (dk_at dksX2_who_8 3 rfl rfl)
theorem dX2_who_189 : decode cX2_who 189 = .ok (.iadd, 1) := dk_96 (dk_at dksX2_who_8 4 rfl rfl)
theorem dX2_who_190 : decode cX2_who 190 = .ok (.istore 6, 2) := dk_54 6 (dk_at dksX2_who_8 5 rfl rfl)
theorem dX2_who_192 : decode cX2_who 192 = .ok (.iload 9, 2) := dk_21 9 (dk_at dksX2_who_8 7 rfl rfl)
theorem dX2_who_194 : decode cX2_who 194 = .ok (.ifCond .eq 13, 3) := dk_153 0 13 (dk_at dksX2_who_8 9 rfl rfl)
theorem dX2_who_197 : decode cX2_who 197 = .ok (.iload 7, 2) := dk_21 7 (dk_at dksX2_who_8 12 rfl rfl)
theorem dX2_who_199 : decode cX2_who 199 = .ok (.ifCond .ge 8, 3) := dk_156 0 8 (dk_at dksX2_who_8 14 rfl rfl)
theorem dX2_who_202 : decode cX2_who 202 = .ok (.iload 8, 2) := dk_21 8 (dk_at dksX2_who_8 17 rfl rfl)
theorem dX2_who_204 : decode cX2_who 204 = .ok (.goto 5, 3) := dk_167 0 5 (dk_at dksX2_who_8 19 rfl rfl)
theorem dX2_who_207 : decode cX2_who 207 = .ok (.iload 7, 2) := dk_21 7 (dk_at dksX2_who_8 22 rfl rfl)
theorem dX2_who_209 : decode cX2_who 209 = .ok (.istore 7, 2) := dk_54 7 (dk_at dksX2_who_9 0 rfl rfl)
theorem dX2_who_211 : decode cX2_who 211 = .ok (.iinc 8 1, 3) := dk_132 8 1 (dk_at dksX2_who_9 2 rfl rfl)
theorem dX2_who_214 : decode cX2_who 214 = .ok (.goto (-159), 3) := dk_167 255 97 (dk_at dksX2_who_9 5 rfl rfl)
theorem dX2_who_217 : decode cX2_who 217 = .ok (.iload_n 3, 1) := dk_29 (dk_at dksX2_who_9 8 rfl rfl)
theorem dX2_who_218 : decode cX2_who 218 = .ok (.iconst 2, 1) := dk_5 (dk_at dksX2_who_9 9 rfl rfl)
theorem dX2_who_219 : decode cX2_who 219 = .ok (.if_icmp .ge 8, 3) := dk_162 0 8 (dk_at dksX2_who_9 10 rfl rfl)
theorem dX2_who_222 : decode cX2_who 222 = .ok (.iload 5, 2) := dk_21 5 (dk_at dksX2_who_9 13 rfl rfl)
theorem dX2_who_224 : decode cX2_who 224 = .ok (.goto 15, 3) := dk_167 0 15 (dk_at dksX2_who_9 15 rfl rfl)
theorem dX2_who_227 : decode cX2_who 227 = .ok (.iload_n 3, 1) := dk_29 (dk_at dksX2_who_9 18 rfl rfl)
theorem dX2_who_228 : decode cX2_who 228 = .ok (.iconst 2, 1) := dk_5 (dk_at dksX2_who_9 19 rfl rfl)
theorem dX2_who_229 : decode cX2_who 229 = .ok (.if_icmp .ne 8, 3) := dk_160 0 8 (dk_at dksX2_who_9 20 rfl rfl)
theorem dX2_who_232 : decode cX2_who 232 = .ok (.iload 6, 2) := dk_21 6 (dk_at dksX2_who_10 0 rfl rfl)
theorem dX2_who_234 : decode cX2_who 234 = .ok (.goto 5, 3) := dk_167 0 5 (dk_at dksX2_who_10 2 rfl rfl)
theorem dX2_who_237 : decode cX2_who 237 = .ok (.iload 7, 2) := dk_21 7 (dk_at dksX2_who_10 5 rfl rfl)
theorem dX2_who_239 : decode cX2_who 239 = .ok (.ireturn, 1) := dk_172 (dk_at dksX2_who_10 7 rfl rfl)
abbrev cX2_isRow : ByteArray := prog_12_method_75_code
def yX2_isRow : MethodName := ⟨RX2, "isRow", "(II)Z"⟩
def dkwX2_isRow_2 : List UInt8 := [167, 0, 4, 3, 62, 132, 4, 1, 167, 255, 205, 42, 182, 0, 184, 29, 172]
abbrev dktX2_isRow_2 : List UInt8 := dkwX2_isRow_2 ++ []
def dkwX2_isRow_1 : List UInt8 := [16, 247, 16, 247, 182, 0, 117, 42, 27, 28, 182, 0, 79, 42, 180, 0, 62, 21, 4, 46, 160, 0, 7, 4]
abbrev dktX2_isRow_1 : List UInt8 := dkwX2_isRow_1 ++ dktX2_isRow_2
def dkwX2_isRow_0 : List UInt8 := [4, 62, 3, 54, 4, 21, 4, 42, 180, 1, 17, 162, 0, 48, 29, 153, 0, 44, 21, 4, 158, 0, 11, 42]
abbrev dktX2_isRow_0 : List UInt8 := dkwX2_isRow_0 ++ dktX2_isRow_1
theorem dksX2_isRow_0 : cX2_isRow.data.toList.drop 0 = dktX2_isRow_0 := by decide +kernel
theorem dksX2_isRow_1 : cX2_isRow.data.toList.drop 24 = dktX2_isRow_1 := dk_seg dksX2_isRow_0 24 rfl rfl
theorem dksX2_isRow_2 : cX2_isRow.data.toList.drop 48 = dktX2_isRow_2 := dk_seg dksX2_isRow_1 24 rfl rfl
theorem dX2_isRow_0 : decode cX2_isRow 0 = .ok (.iconst 1, 1) := dk_4 (dk_at dksX2_isRow_0 0 rfl rfl)
theorem dX2_isRow_1 : decode cX2_isRow 1 = .ok (.istore_n 3, 1) := dk_62 (dk_at dksX2_isRow_0 1 rfl rfl)
theorem dX2_isRow_2 : decode cX2_isRow 2 = .ok (.iconst 0, 1) := dk_3 (dk_at dksX2_isRow_0 2 rfl rfl)
theorem dX2_isRow_3 : decode cX2_isRow 3 = .ok (.istore 4, 2) := dk_54 4 (dk_at dksX2_isRow_0 3 rfl rfl)
theorem dX2_isRow_5 : decode cX2_isRow 5 = .ok (.iload 4, 2) := dk_21 4 (dk_at dksX2_isRow_0 5 rfl rfl)
theorem dX2_isRow_7 : decode cX2_isRow 7 = .ok (.aload_n 0, 1) := dk_42 (dk_at dksX2_isRow_0 7 rfl rfl)
theorem dX2_isRow_8 : decode cX2_isRow 8 = .ok (.getfield 273, 3) := dk_180 1 17 (dk_at dksX2_isRow_0 8 rfl rfl)
theorem dX2_isRow_11 : decode cX2_isRow 11 = .ok (.if_icmp .ge 48, 3) := dk_162 0 48 (dk_at dksX2_isRow_0 11 rfl rfl)
theorem dX2_isRow_14 : decode cX2_isRow 14 = .ok (.iload_n 3, 1) := dk_29 (dk_at dksX2_isRow_0 14 rfl rfl)
theorem dX2_isRow_15 : decode cX2_isRow 15 = .ok (.ifCond .eq 44, 3) := dk_153 0 44 (dk_at dksX2_isRow_0 15 rfl rfl)
theorem dX2_isRow_18 : decode cX2_isRow 18 = .ok (.iload 4, 2) := dk_21 4 (dk_at dksX2_isRow_0 18 rfl rfl)
theorem dX2_isRow_20 : decode cX2_isRow 20 = .ok (.ifCond .le 11, 3) := dk_158 0 11 (dk_at dksX2_isRow_0 20 rfl rfl)
theorem dX2_isRow_23 : decode cX2_isRow 23 = .ok (.aload_n 0, 1) := dk_42 (dk_at dksX2_isRow_0 23 rfl rfl)
theorem dX2_isRow_24 : decode cX2_isRow 24 = .ok (.bipush (-9), 2) := dk_16 247 (dk_at dksX2_isRow_1 0 rfl rfl)
theorem dX2_isRow_26 : decode cX2_isRow 26 = .ok (.bipush (-9), 2) := dk_16 247 (dk_at dksX2_isRow_1 2 rfl rfl)
theorem dX2_isRow_28 : decode cX2_isRow 28 = .ok (.invokevirtual 117, 3) := dk_182 0 117 (dk_at dksX2_isRow_1 4 rfl rfl)
theorem dX2_isRow_31 : decode cX2_isRow 31 = .ok (.aload_n 0, 1) := dk_42 (dk_at dksX2_isRow_1 7 rfl rfl)
theorem dX2_isRow_32 : decode cX2_isRow 32 = .ok (.iload_n 1, 1) := dk_27 (dk_at dksX2_isRow_1 8 rfl rfl)
theorem dX2_isRow_33 : decode cX2_isRow 33 = .ok (.iload_n 2, 1) := dk_28 (dk_at dksX2_isRow_1 9 rfl rfl)
theorem dX2_isRow_34 : decode cX2_isRow 34 = .ok (.invokevirtual 79, 3) := dk_182 0 79 (dk_at dksX2_isRow_1 10 rfl rfl)
theorem dX2_isRow_37 : decode cX2_isRow 37 = .ok (.aload_n 0, 1) := dk_42 (dk_at dksX2_isRow_1 13 rfl rfl)
theorem dX2_isRow_38 : decode cX2_isRow 38 = .ok (.getfield 62, 3) := dk_180 0 62 (dk_at dksX2_isRow_1 14 rfl rfl)
theorem dX2_isRow_41 : decode cX2_isRow 41 = .ok (.iload 4, 2) := dk_21 4 (dk_at dksX2_isRow_1 17 rfl rfl)
theorem dX2_isRow_43 : decode cX2_isRow 43 = .ok (.iaload, 1) := dk_46 (dk_at dksX2_isRow_1 19 rfl rfl)
theorem dX2_isRow_44 : decode cX2_isRow 44 = .ok (.if_icmp .ne 7, 3) := dk_160 0 7 (dk_at dksX2_isRow_1 20 rfl rfl)
theorem dX2_isRow_47 : decode cX2_isRow 47 = .ok (.iconst 1, 1) := dk_4 (dk_at dksX2_isRow_1 23 rfl rfl)
theorem dX2_isRow_48 : decode cX2_isRow 48 = .ok (.goto 4, 3) := dk_167 0 4 (dk_at dksX2_isRow_2 0 rfl rfl)
theorem dX2_isRow_51 : decode cX2_isRow 51 = .ok (.iconst 0, 1) := dk_3 (dk_at dksX2_isRow_2 3 rfl rfl)
theorem dX2_isRow_52 : decode cX2_isRow 52 = .ok (.istore_n 3, 1) := dk_62 (dk_at dksX2_isRow_2 4 rfl rfl)
theorem dX2_isRow_53 : decode cX2_isRow 53 = .ok (.iinc 4 1, 3) := dk_132 4 1 (dk_at dksX2_isRow_2 5 rfl rfl)
theorem dX2_isRow_56 : decode cX2_isRow 56 = .ok (.goto (-51), 3) := dk_167 255 205 (dk_at dksX2_isRow_2 8 rfl rfl)
theorem dX2_isRow_59 : decode cX2_isRow 59 = .ok (.aload_n 0, 1) := dk_42 (dk_at dksX2_isRow_2 11 rfl rfl)
theorem dX2_isRow_60 : decode cX2_isRow 60 = .ok (.invokevirtual 184, 3) := dk_182 0 184 (dk_at dksX2_isRow_2 12 rfl rfl)
theorem dX2_isRow_63 : decode cX2_isRow 63 = .ok (.iload_n 3, 1) := dk_29 (dk_at dksX2_isRow_2 15 rfl rfl)
theorem dX2_isRow_64 : decode cX2_isRow 64 = .ok (.ireturn, 1) := dk_172 (dk_at dksX2_isRow_2 16 rfl rfl)
abbrev cX2_ways : ByteArray := prog_12_method_78_code
def yX2_ways : MethodName := ⟨RX2, "ways", "(II)I"⟩
def dkwX2_ways_4 : List UInt8 := [104, 21, 6, 96, 172, 132, 4, 1, 167, 255, 184, 16, 247, 172]
abbrev dktX2_ways_4 : List UInt8 := dkwX2_ways_4 ++ []
def dkwX2_ways_3 : List UInt8 := [4, 21, 6, 100, 21, 5, 184, 1, 23, 29, 21, 6, 21, 5, 184, 1, 23, 163, 0, 12, 16, 10, 21, 5]
abbrev dktX2_ways_3 : List UInt8 := dkwX2_ways_3 ++ dktX2_ways_4
def dkwX2_ways_2 : List UInt8 := [54, 6, 29, 4, 21, 5, 100, 21, 6, 184, 1, 23, 29, 21, 5, 21, 6, 184, 1, 23, 163, 0, 33, 29]
abbrev dktX2_ways_2 : List UInt8 := dkwX2_ways_2 ++ dktX2_ways_3
def dkwX2_ways_1 : List UInt8 := [182, 0, 79, 62, 3, 54, 4, 21, 4, 7, 162, 0, 72, 21, 4, 5, 108, 54, 5, 21, 4, 5, 112]
abbrev dktX2_ways_1 : List UInt8 := dkwX2_ways_1 ++ dktX2_ways_2
def dkwX2_ways_0 : List UInt8 := [42, 3, 181, 0, 65, 42, 27, 28, 182, 0, 164, 154, 0, 9, 42, 2, 182, 0, 128, 172, 42, 27, 28]
abbrev dktX2_ways_0 : List UInt8 := dkwX2_ways_0 ++ dktX2_ways_1
theorem dksX2_ways_0 : cX2_ways.data.toList.drop 0 = dktX2_ways_0 := by decide +kernel
theorem dksX2_ways_1 : cX2_ways.data.toList.drop 23 = dktX2_ways_1 := dk_seg dksX2_ways_0 23 rfl rfl
theorem dksX2_ways_2 : cX2_ways.data.toList.drop 46 = dktX2_ways_2 := dk_seg dksX2_ways_1 23 rfl rfl
theorem dksX2_ways_3 : cX2_ways.data.toList.drop 70 = dktX2_ways_3 := dk_seg dksX2_ways_2 24 rfl rfl
theorem dksX2_ways_4 : cX2_ways.data.toList.drop 94 = dktX2_ways_4 := dk_seg dksX2_ways_3 24 rfl rfl
theorem dX2_ways_0 : decode cX2_ways 0 = .ok (.aload_n 0, 1) := dk_42 (dk_at dksX2_ways_0 0 rfl rfl)
theorem dX2_ways_1 : decode cX2_ways 1 = .ok (.iconst 0, 1) := dk_3 (dk_at dksX2_ways_0 1 rfl rfl)
theorem dX2_ways_2 : decode cX2_ways 2 = .ok (.putfield 65, 3) := dk_181 0 65 (dk_at dksX2_ways_0 2 rfl rfl)
theorem dX2_ways_5 : decode cX2_ways 5 = .ok (.aload_n 0, 1) := dk_42 (dk_at dksX2_ways_0 5 rfl rfl)
theorem dX2_ways_6 : decode cX2_ways 6 = .ok (.iload_n 1, 1) := dk_27 (dk_at dksX2_ways_0 6 rfl rfl)
theorem dX2_ways_7 : decode cX2_ways 7 = .ok (.iload_n 2, 1) := dk_28 (dk_at dksX2_ways_0 7 rfl rfl)
theorem dX2_ways_8 : decode cX2_ways 8 = .ok (.invokevirtual 164, 3) := dk_182 0 164 (dk_at dksX2_ways_0 8 rfl rfl)
theorem dX2_ways_11 : decode cX2_ways 11 = .ok (.ifCond .ne 9, 3) := dk_154 0 9 (dk_at dksX2_ways_0 11 rfl rfl)
theorem dX2_ways_14 : decode cX2_ways 14 = .ok (.aload_n 0, 1) := dk_42 (dk_at dksX2_ways_0 14 rfl rfl)
theorem dX2_ways_15 : decode cX2_ways 15 = .ok (.iconst (-1), 1) := dk_2 (dk_at dksX2_ways_0 15 rfl rfl)
theorem dX2_ways_16 : decode cX2_ways 16 = .ok (.invokevirtual 128, 3) := dk_182 0 128 (dk_at dksX2_ways_0 16 rfl rfl)
theorem dX2_ways_19 : decode cX2_ways 19 = .ok (.ireturn, 1) := dk_172 (dk_at dksX2_ways_0 19 rfl rfl)
theorem dX2_ways_20 : decode cX2_ways 20 = .ok (.aload_n 0, 1) := dk_42 (dk_at dksX2_ways_0 20 rfl rfl)
theorem dX2_ways_21 : decode cX2_ways 21 = .ok (.iload_n 1, 1) := dk_27 (dk_at dksX2_ways_0 21 rfl rfl)
theorem dX2_ways_22 : decode cX2_ways 22 = .ok (.iload_n 2, 1) := dk_28 (dk_at dksX2_ways_0 22 rfl rfl)
theorem dX2_ways_23 : decode cX2_ways 23 = .ok (.invokevirtual 79, 3) := dk_182 0 79 (dk_at dksX2_ways_1 0 rfl rfl)
theorem dX2_ways_26 : decode cX2_ways 26 = .ok (.istore_n 3, 1) := dk_62 (dk_at dksX2_ways_1 3 rfl rfl)
theorem dX2_ways_27 : decode cX2_ways 27 = .ok (.iconst 0, 1) := dk_3 (dk_at dksX2_ways_1 4 rfl rfl)
theorem dX2_ways_28 : decode cX2_ways 28 = .ok (.istore 4, 2) := dk_54 4 (dk_at dksX2_ways_1 5 rfl rfl)
theorem dX2_ways_30 : decode cX2_ways 30 = .ok (.iload 4, 2) := dk_21 4 (dk_at dksX2_ways_1 7 rfl rfl)
theorem dX2_ways_32 : decode cX2_ways 32 = .ok (.iconst 4, 1) := dk_7 (dk_at dksX2_ways_1 9 rfl rfl)
theorem dX2_ways_33 : decode cX2_ways 33 = .ok (.if_icmp .ge 72, 3) := dk_162 0 72 (dk_at dksX2_ways_1 10 rfl rfl)
theorem dX2_ways_36 : decode cX2_ways 36 = .ok (.iload 4, 2) := dk_21 4 (dk_at dksX2_ways_1 13 rfl rfl)
theorem dX2_ways_38 : decode cX2_ways 38 = .ok (.iconst 2, 1) := dk_5 (dk_at dksX2_ways_1 15 rfl rfl)
theorem dX2_ways_39 : decode cX2_ways 39 = .ok (.idiv, 1) := dk_108 (dk_at dksX2_ways_1 16 rfl rfl)
theorem dX2_ways_40 : decode cX2_ways 40 = .ok (.istore 5, 2) := dk_54 5 (dk_at dksX2_ways_1 17 rfl rfl)
theorem dX2_ways_42 : decode cX2_ways 42 = .ok (.iload 4, 2) := dk_21 4 (dk_at dksX2_ways_1 19 rfl rfl)
theorem dX2_ways_44 : decode cX2_ways 44 = .ok (.iconst 2, 1) := dk_5 (dk_at dksX2_ways_1 21 rfl rfl)
theorem dX2_ways_45 : decode cX2_ways 45 = .ok (.irem, 1) := dk_112 (dk_at dksX2_ways_1 22 rfl rfl)
theorem dX2_ways_46 : decode cX2_ways 46 = .ok (.istore 6, 2) := dk_54 6 (dk_at dksX2_ways_2 0 rfl rfl)
theorem dX2_ways_48 : decode cX2_ways 48 = .ok (.iload_n 3, 1) := dk_29 (dk_at dksX2_ways_2 2 rfl rfl)
theorem dX2_ways_49 : decode cX2_ways 49 = .ok (.iconst 1, 1) := dk_4 (dk_at dksX2_ways_2 3 rfl rfl)
theorem dX2_ways_50 : decode cX2_ways 50 = .ok (.iload 5, 2) := dk_21 5 (dk_at dksX2_ways_2 4 rfl rfl)
theorem dX2_ways_52 : decode cX2_ways 52 = .ok (.isub, 1) := dk_100 (dk_at dksX2_ways_2 6 rfl rfl)
theorem dX2_ways_53 : decode cX2_ways 53 = .ok (.iload 6, 2) := dk_21 6 (dk_at dksX2_ways_2 7 rfl rfl)
theorem dX2_ways_55 : decode cX2_ways 55 = .ok (.invokestatic 279, 3) := dk_184 1 23 (dk_at dksX2_ways_2 9 rfl rfl)
theorem dX2_ways_58 : decode cX2_ways 58 = .ok (.iload_n 3, 1) := dk_29 (dk_at dksX2_ways_2 12 rfl rfl)
theorem dX2_ways_59 : decode cX2_ways 59 = .ok (.iload 5, 2) := dk_21 5 (dk_at dksX2_ways_2 13 rfl rfl)
theorem dX2_ways_61 : decode cX2_ways 61 = .ok (.iload 6, 2) := dk_21 6 (dk_at dksX2_ways_2 15 rfl rfl)
theorem dX2_ways_63 : decode cX2_ways 63 = .ok (.invokestatic 279, 3) := dk_184 1 23 (dk_at dksX2_ways_2 17 rfl rfl)
theorem dX2_ways_66 : decode cX2_ways 66 = .ok (.if_icmp .gt 33, 3) := dk_163 0 33 (dk_at dksX2_ways_2 20 rfl rfl)
theorem dX2_ways_69 : decode cX2_ways 69 = .ok (.iload_n 3, 1) := dk_29 (dk_at dksX2_ways_2 23 rfl rfl)
theorem dX2_ways_70 : decode cX2_ways 70 = .ok (.iconst 1, 1) := dk_4 (dk_at dksX2_ways_3 0 rfl rfl)
theorem dX2_ways_71 : decode cX2_ways 71 = .ok (.iload 6, 2) := dk_21 6 (dk_at dksX2_ways_3 1 rfl rfl)
theorem dX2_ways_73 : decode cX2_ways 73 = .ok (.isub, 1) := dk_100 (dk_at dksX2_ways_3 3 rfl rfl)
theorem dX2_ways_74 : decode cX2_ways 74 = .ok (.iload 5, 2) := dk_21 5 (dk_at dksX2_ways_3 4 rfl rfl)
theorem dX2_ways_76 : decode cX2_ways 76 = .ok (.invokestatic 279, 3) := dk_184 1 23 (dk_at dksX2_ways_3 6 rfl rfl)
theorem dX2_ways_79 : decode cX2_ways 79 = .ok (.iload_n 3, 1) := dk_29 (dk_at dksX2_ways_3 9 rfl rfl)
theorem dX2_ways_80 : decode cX2_ways 80 = .ok (.iload 6, 2) := dk_21 6 (dk_at dksX2_ways_3 10 rfl rfl)
theorem dX2_ways_82 : decode cX2_ways 82 = .ok (.iload 5, 2) := dk_21 5 (dk_at dksX2_ways_3 12 rfl rfl)
theorem dX2_ways_84 : decode cX2_ways 84 = .ok (.invokestatic 279, 3) := dk_184 1 23 (dk_at dksX2_ways_3 14 rfl rfl)
theorem dX2_ways_87 : decode cX2_ways 87 = .ok (.if_icmp .gt 12, 3) := dk_163 0 12 (dk_at dksX2_ways_3 17 rfl rfl)
theorem dX2_ways_90 : decode cX2_ways 90 = .ok (.bipush 10, 2) := dk_16 10 (dk_at dksX2_ways_3 20 rfl rfl)
theorem dX2_ways_92 : decode cX2_ways 92 = .ok (.iload 5, 2) := dk_21 5 (dk_at dksX2_ways_3 22 rfl rfl)
theorem dX2_ways_94 : decode cX2_ways 94 = .ok (.imul, 1) := dk_104 (dk_at dksX2_ways_4 0 rfl rfl)
theorem dX2_ways_95 : decode cX2_ways 95 = .ok (.iload 6, 2) := dk_21 6 (dk_at dksX2_ways_4 1 rfl rfl)
theorem dX2_ways_97 : decode cX2_ways 97 = .ok (.iadd, 1) := dk_96 (dk_at dksX2_ways_4 3 rfl rfl)
theorem dX2_ways_98 : decode cX2_ways 98 = .ok (.ireturn, 1) := dk_172 (dk_at dksX2_ways_4 4 rfl rfl)
theorem dX2_ways_99 : decode cX2_ways 99 = .ok (.iinc 4 1, 3) := dk_132 4 1 (dk_at dksX2_ways_4 5 rfl rfl)
theorem dX2_ways_102 : decode cX2_ways 102 = .ok (.goto (-72), 3) := dk_167 255 184 (dk_at dksX2_ways_4 8 rfl rfl)
theorem dX2_ways_105 : decode cX2_ways 105 = .ok (.bipush (-9), 2) := dk_16 247 (dk_at dksX2_ways_4 11 rfl rfl)
theorem dX2_ways_107 : decode cX2_ways 107 = .ok (.ireturn, 1) := dk_172 (dk_at dksX2_ways_4 13 rfl rfl)
abbrev cX2_hasBy : ByteArray := prog_12_method_77_code
def yX2_hasBy : MethodName := ⟨RX2, "hasBy", "(III)I"⟩
def dkwX2_hasBy_1 : List UInt8 := [16, 8, 167, 0, 4, 3, 96, 27, 28, 164, 0, 7, 8, 167, 0, 4, 3, 100, 172]
abbrev dktX2_hasBy_1 : List UInt8 := dkwX2_hasBy_1 ++ []
def dkwX2_hasBy_0 : List UInt8 := [26, 16, 10, 27, 28, 96, 104, 100, 16, 99, 184, 0, 103, 62, 16, 20, 29, 100, 27, 28, 162, 0, 8]
abbrev dktX2_hasBy_0 : List UInt8 := dkwX2_hasBy_0 ++ dktX2_hasBy_1
theorem dksX2_hasBy_0 : cX2_hasBy.data.toList.drop 0 = dktX2_hasBy_0 := by decide +kernel
theorem dksX2_hasBy_1 : cX2_hasBy.data.toList.drop 23 = dktX2_hasBy_1 := dk_seg dksX2_hasBy_0 23 rfl rfl
theorem dX2_hasBy_0 : decode cX2_hasBy 0 = .ok (.iload_n 0, 1) := dk_26 (dk_at dksX2_hasBy_0 0 rfl rfl)
theorem dX2_hasBy_1 : decode cX2_hasBy 1 = .ok (.bipush 10, 2) := dk_16 10 (dk_at dksX2_hasBy_0 1 rfl rfl)
theorem dX2_hasBy_3 : decode cX2_hasBy 3 = .ok (.iload_n 1, 1) := dk_27 (dk_at dksX2_hasBy_0 3 rfl rfl)
theorem dX2_hasBy_4 : decode cX2_hasBy 4 = .ok (.iload_n 2, 1) := dk_28 (dk_at dksX2_hasBy_0 4 rfl rfl)
theorem dX2_hasBy_5 : decode cX2_hasBy 5 = .ok (.iadd, 1) := dk_96 (dk_at dksX2_hasBy_0 5 rfl rfl)
theorem dX2_hasBy_6 : decode cX2_hasBy 6 = .ok (.imul, 1) := dk_104 (dk_at dksX2_hasBy_0 6 rfl rfl)
theorem dX2_hasBy_7 : decode cX2_hasBy 7 = .ok (.isub, 1) := dk_100 (dk_at dksX2_hasBy_0 7 rfl rfl)
theorem dX2_hasBy_8 : decode cX2_hasBy 8 = .ok (.bipush 99, 2) := dk_16 99 (dk_at dksX2_hasBy_0 8 rfl rfl)
theorem dX2_hasBy_10 : decode cX2_hasBy 10 = .ok (.invokestatic 103, 3) := dk_184 0 103 (dk_at dksX2_hasBy_0 10 rfl rfl)
theorem dX2_hasBy_13 : decode cX2_hasBy 13 = .ok (.istore_n 3, 1) := dk_62 (dk_at dksX2_hasBy_0 13 rfl rfl)
theorem dX2_hasBy_14 : decode cX2_hasBy 14 = .ok (.bipush 20, 2) := dk_16 20 (dk_at dksX2_hasBy_0 14 rfl rfl)
theorem dX2_hasBy_16 : decode cX2_hasBy 16 = .ok (.iload_n 3, 1) := dk_29 (dk_at dksX2_hasBy_0 16 rfl rfl)
theorem dX2_hasBy_17 : decode cX2_hasBy 17 = .ok (.isub, 1) := dk_100 (dk_at dksX2_hasBy_0 17 rfl rfl)
theorem dX2_hasBy_18 : decode cX2_hasBy 18 = .ok (.iload_n 1, 1) := dk_27 (dk_at dksX2_hasBy_0 18 rfl rfl)
theorem dX2_hasBy_19 : decode cX2_hasBy 19 = .ok (.iload_n 2, 1) := dk_28 (dk_at dksX2_hasBy_0 19 rfl rfl)
theorem dX2_hasBy_20 : decode cX2_hasBy 20 = .ok (.if_icmp .ge 8, 3) := dk_162 0 8 (dk_at dksX2_hasBy_0 20 rfl rfl)
theorem dX2_hasBy_23 : decode cX2_hasBy 23 = .ok (.bipush 8, 2) := dk_16 8 (dk_at dksX2_hasBy_1 0 rfl rfl)
theorem dX2_hasBy_25 : decode cX2_hasBy 25 = .ok (.goto 4, 3) := dk_167 0 4 (dk_at dksX2_hasBy_1 2 rfl rfl)
theorem dX2_hasBy_28 : decode cX2_hasBy 28 = .ok (.iconst 0, 1) := dk_3 (dk_at dksX2_hasBy_1 5 rfl rfl)
theorem dX2_hasBy_29 : decode cX2_hasBy 29 = .ok (.iadd, 1) := dk_96 (dk_at dksX2_hasBy_1 6 rfl rfl)
theorem dX2_hasBy_30 : decode cX2_hasBy 30 = .ok (.iload_n 1, 1) := dk_27 (dk_at dksX2_hasBy_1 7 rfl rfl)
theorem dX2_hasBy_31 : decode cX2_hasBy 31 = .ok (.iload_n 2, 1) := dk_28 (dk_at dksX2_hasBy_1 8 rfl rfl)
theorem dX2_hasBy_32 : decode cX2_hasBy 32 = .ok (.if_icmp .le 7, 3) := dk_164 0 7 (dk_at dksX2_hasBy_1 9 rfl rfl)
theorem dX2_hasBy_35 : decode cX2_hasBy 35 = .ok (.iconst 5, 1) := dk_8 (dk_at dksX2_hasBy_1 12 rfl rfl)
theorem dX2_hasBy_36 : decode cX2_hasBy 36 = .ok (.goto 4, 3) := dk_167 0 4 (dk_at dksX2_hasBy_1 13 rfl rfl)
theorem dX2_hasBy_39 : decode cX2_hasBy 39 = .ok (.iconst 0, 1) := dk_3 (dk_at dksX2_hasBy_1 16 rfl rfl)
theorem dX2_hasBy_40 : decode cX2_hasBy 40 = .ok (.isub, 1) := dk_100 (dk_at dksX2_hasBy_1 17 rfl rfl)
theorem dX2_hasBy_41 : decode cX2_hasBy 41 = .ok (.ireturn, 1) := dk_172 (dk_at dksX2_hasBy_1 18 rfl rfl)
abbrev cX2_away : ByteArray := prog_12_method_81_code
def yX2_away : MethodName := ⟨RX2, "away", "(IIIIII)J"⟩
def dkwX2_away_10 : List UInt8 := [167, 255, 154, 22, 8, 22, 10, 21, 6, 184, 1, 32, 173]
abbrev dktX2_away_10 : List UInt8 := dkwX2_away_10 ++ []
def dkwX2_away_9 : List UInt8 := [28, 182, 0, 79, 29, 163, 0, 8, 22, 13, 167, 0, 4, 9, 97, 55, 8, 42, 182, 0, 184, 132, 12, 1]
abbrev dktX2_away_9 : List UInt8 := dkwX2_away_9 ++ dktX2_away_10
def dkwX2_away_8 : List UInt8 := [153, 0, 7, 27, 167, 0, 5, 16, 247, 16, 247, 182, 0, 117, 132, 15, 1, 167, 255, 200, 22, 8, 42, 27]
abbrev dktX2_away_8 : List UInt8 := dkwX2_away_8 ++ dktX2_away_9
def dkwX2_away_7 : List UInt8 := [153, 0, 7, 10, 167, 0, 8, 21, 5, 4, 100, 133, 105, 55, 13, 42, 21, 12, 21, 15, 184, 0, 93]
abbrev dktX2_away_7 : List UInt8 := dkwX2_away_7 ++ dktX2_away_8
def dkwX2_away_6 : List UInt8 := [10, 55, 13, 3, 54, 15, 21, 15, 21, 4, 162, 0, 55, 22, 13, 21, 12, 21, 15, 184, 0, 93]
abbrev dktX2_away_6 : List UInt8 := dkwX2_away_6 ++ dktX2_away_7
def dkwX2_away_5 : List UInt8 := [55, 10, 132, 12, 1, 167, 255, 238, 42, 182, 0, 178, 3, 54, 12, 21, 12, 4, 21, 4, 120, 162, 0, 99]
abbrev dktX2_away_5 : List UInt8 := dkwX2_away_5 ++ dktX2_away_6
def dkwX2_away_4 : List UInt8 := [173, 9, 55, 8, 10, 55, 10, 3, 54, 12, 21, 12, 21, 4, 162, 0, 17, 22, 10, 21, 5, 133, 105]
abbrev dktX2_away_4 : List UInt8 := dkwX2_away_4 ++ dktX2_away_5
def dkwX2_away_3 : List UInt8 := [21, 6, 4, 184, 0, 211, 54, 7, 21, 7, 156, 0, 15, 20, 1, 30, 42, 21, 7, 182, 0, 128, 133, 101]
abbrev dktX2_away_3 : List UInt8 := dkwX2_away_3 ++ dktX2_away_4
def dkwX2_away_2 : List UInt8 := [163, 0, 17, 21, 4, 16, 8, 163, 0, 10, 21, 5, 16, 20, 164, 0, 7, 16, 250, 54, 7, 21, 7]
abbrev dktX2_away_2 : List UInt8 := dkwX2_away_2 ++ dktX2_away_3
def dkwX2_away_1 : List UInt8 := [155, 0, 14, 21, 4, 155, 0, 9, 21, 5, 5, 162, 0, 10, 16, 252, 54, 7, 167, 0, 27, 29, 16, 99]
abbrev dktX2_away_1 : List UInt8 := dkwX2_away_1 ++ dktX2_away_2
def dkwX2_away_0 : List UInt8 := [42, 3, 181, 0, 65, 3, 54, 7, 42, 27, 28, 182, 0, 164, 154, 0, 9, 2, 54, 7, 167, 0, 49, 29]
abbrev dktX2_away_0 : List UInt8 := dkwX2_away_0 ++ dktX2_away_1
theorem dksX2_away_0 : cX2_away.data.toList.drop 0 = dktX2_away_0 := by decide +kernel
theorem dksX2_away_1 : cX2_away.data.toList.drop 24 = dktX2_away_1 := dk_seg dksX2_away_0 24 rfl rfl
theorem dksX2_away_2 : cX2_away.data.toList.drop 48 = dktX2_away_2 := dk_seg dksX2_away_1 24 rfl rfl
theorem dksX2_away_3 : cX2_away.data.toList.drop 71 = dktX2_away_3 := dk_seg dksX2_away_2 23 rfl rfl
theorem dksX2_away_4 : cX2_away.data.toList.drop 95 = dktX2_away_4 := dk_seg dksX2_away_3 24 rfl rfl
theorem dksX2_away_5 : cX2_away.data.toList.drop 118 = dktX2_away_5 := dk_seg dksX2_away_4 23 rfl rfl
theorem dksX2_away_6 : cX2_away.data.toList.drop 142 = dktX2_away_6 := dk_seg dksX2_away_5 24 rfl rfl
theorem dksX2_away_7 : cX2_away.data.toList.drop 164 = dktX2_away_7 := dk_seg dksX2_away_6 22 rfl rfl
theorem dksX2_away_8 : cX2_away.data.toList.drop 187 = dktX2_away_8 := dk_seg dksX2_away_7 23 rfl rfl
theorem dksX2_away_9 : cX2_away.data.toList.drop 211 = dktX2_away_9 := dk_seg dksX2_away_8 24 rfl rfl
theorem dksX2_away_10 : cX2_away.data.toList.drop 235 = dktX2_away_10 := dk_seg dksX2_away_9 24 rfl rfl
theorem dX2_away_0 : decode cX2_away 0 = .ok (.aload_n 0, 1) := dk_42 (dk_at dksX2_away_0 0 rfl rfl)
theorem dX2_away_1 : decode cX2_away 1 = .ok (.iconst 0, 1) := dk_3 (dk_at dksX2_away_0 1 rfl rfl)
theorem dX2_away_2 : decode cX2_away 2 = .ok (.putfield 65, 3) := dk_181 0 65 (dk_at dksX2_away_0 2 rfl rfl)
theorem dX2_away_5 : decode cX2_away 5 = .ok (.iconst 0, 1) := dk_3 (dk_at dksX2_away_0 5 rfl rfl)
theorem dX2_away_6 : decode cX2_away 6 = .ok (.istore 7, 2) := dk_54 7 (dk_at dksX2_away_0 6 rfl rfl)
theorem dX2_away_8 : decode cX2_away 8 = .ok (.aload_n 0, 1) := dk_42 (dk_at dksX2_away_0 8 rfl rfl)
theorem dX2_away_9 : decode cX2_away 9 = .ok (.iload_n 1, 1) := dk_27 (dk_at dksX2_away_0 9 rfl rfl)
theorem dX2_away_10 : decode cX2_away 10 = .ok (.iload_n 2, 1) := dk_28 (dk_at dksX2_away_0 10 rfl rfl)
theorem dX2_away_11 : decode cX2_away 11 = .ok (.invokevirtual 164, 3) := dk_182 0 164 (dk_at dksX2_away_0 11 rfl rfl)
theorem dX2_away_14 : decode cX2_away 14 = .ok (.ifCond .ne 9, 3) := dk_154 0 9 (dk_at dksX2_away_0 14 rfl rfl)
theorem dX2_away_17 : decode cX2_away 17 = .ok (.iconst (-1), 1) := dk_2 (dk_at dksX2_away_0 17 rfl rfl)
theorem dX2_away_18 : decode cX2_away 18 = .ok (.istore 7, 2) := dk_54 7 (dk_at dksX2_away_0 18 rfl rfl)
theorem dX2_away_20 : decode cX2_away 20 = .ok (.goto 49, 3) := dk_167 0 49 (dk_at dksX2_away_0 20 rfl rfl)
theorem dX2_away_23 : decode cX2_away 23 = .ok (.iload_n 3, 1) := dk_29 (dk_at dksX2_away_0 23 rfl rfl)
theorem dX2_away_24 : decode cX2_away 24 = .ok (.ifCond .lt 14, 3) := dk_155 0 14 (dk_at dksX2_away_1 0 rfl rfl)
theorem dX2_away_27 : decode cX2_away 27 = .ok (.iload 4, 2) := dk_21 4 (dk_at dksX2_away_1 3 rfl rfl)
theorem dX2_away_29 : decode cX2_away 29 = .ok (.ifCond .lt 9, 3) := dk_155 0 9 (dk_at dksX2_away_1 5 rfl rfl)
theorem dX2_away_32 : decode cX2_away 32 = .ok (.iload 5, 2) := dk_21 5 (dk_at dksX2_away_1 8 rfl rfl)
theorem dX2_away_34 : decode cX2_away 34 = .ok (.iconst 2, 1) := dk_5 (dk_at dksX2_away_1 10 rfl rfl)
theorem dX2_away_35 : decode cX2_away 35 = .ok (.if_icmp .ge 10, 3) := dk_162 0 10 (dk_at dksX2_away_1 11 rfl rfl)
theorem dX2_away_38 : decode cX2_away 38 = .ok (.bipush (-4), 2) := dk_16 252 (dk_at dksX2_away_1 14 rfl rfl)
theorem dX2_away_40 : decode cX2_away 40 = .ok (.istore 7, 2) := dk_54 7 (dk_at dksX2_away_1 16 rfl rfl)
theorem dX2_away_42 : decode cX2_away 42 = .ok (.goto 27, 3) := dk_167 0 27 (dk_at dksX2_away_1 18 rfl rfl)
theorem dX2_away_45 : decode cX2_away 45 = .ok (.iload_n 3, 1) := dk_29 (dk_at dksX2_away_1 21 rfl rfl)
theorem dX2_away_46 : decode cX2_away 46 = .ok (.bipush 99, 2) := dk_16 99 (dk_at dksX2_away_1 22 rfl rfl)
theorem dX2_away_48 : decode cX2_away 48 = .ok (.if_icmp .gt 17, 3) := dk_163 0 17 (dk_at dksX2_away_2 0 rfl rfl)
theorem dX2_away_51 : decode cX2_away 51 = .ok (.iload 4, 2) := dk_21 4 (dk_at dksX2_away_2 3 rfl rfl)
theorem dX2_away_53 : decode cX2_away 53 = .ok (.bipush 8, 2) := dk_16 8 (dk_at dksX2_away_2 5 rfl rfl)
theorem dX2_away_55 : decode cX2_away 55 = .ok (.if_icmp .gt 10, 3) := dk_163 0 10 (dk_at dksX2_away_2 7 rfl rfl)
theorem dX2_away_58 : decode cX2_away 58 = .ok (.iload 5, 2) := dk_21 5 (dk_at dksX2_away_2 10 rfl rfl)
theorem dX2_away_60 : decode cX2_away 60 = .ok (.bipush 20, 2) := dk_16 20 (dk_at dksX2_away_2 12 rfl rfl)
theorem dX2_away_62 : decode cX2_away 62 = .ok (.if_icmp .le 7, 3) := dk_164 0 7 (dk_at dksX2_away_2 14 rfl rfl)
theorem dX2_away_65 : decode cX2_away 65 = .ok (.bipush (-6), 2) := dk_16 250 (dk_at dksX2_away_2 17 rfl rfl)
theorem dX2_away_67 : decode cX2_away 67 = .ok (.istore 7, 2) := dk_54 7 (dk_at dksX2_away_2 19 rfl rfl)
theorem dX2_away_69 : decode cX2_away 69 = .ok (.iload 7, 2) := dk_21 7 (dk_at dksX2_away_2 21 rfl rfl)
theorem dX2_away_71 : decode cX2_away 71 = .ok (.iload 6, 2) := dk_21 6 (dk_at dksX2_away_3 0 rfl rfl)
theorem dX2_away_73 : decode cX2_away 73 = .ok (.iconst 1, 1) := dk_4 (dk_at dksX2_away_3 2 rfl rfl)
theorem dX2_away_74 : decode cX2_away 74 = .ok (.invokestatic 211, 3) := dk_184 0 211 (dk_at dksX2_away_3 3 rfl rfl)
theorem dX2_away_77 : decode cX2_away 77 = .ok (.istore 7, 2) := dk_54 7 (dk_at dksX2_away_3 6 rfl rfl)
theorem dX2_away_79 : decode cX2_away 79 = .ok (.iload 7, 2) := dk_21 7 (dk_at dksX2_away_3 8 rfl rfl)
theorem dX2_away_81 : decode cX2_away 81 = .ok (.ifCond .ge 15, 3) := dk_156 0 15 (dk_at dksX2_away_3 10 rfl rfl)
theorem dX2_away_84 : decode cX2_away 84 = .ok (.ldc2_w 286, 3) := dk_20 1 30 (dk_at dksX2_away_3 13 rfl rfl)
theorem dX2_away_87 : decode cX2_away 87 = .ok (.aload_n 0, 1) := dk_42 (dk_at dksX2_away_3 16 rfl rfl)
theorem dX2_away_88 : decode cX2_away 88 = .ok (.iload 7, 2) := dk_21 7 (dk_at dksX2_away_3 17 rfl rfl)
theorem dX2_away_90 : decode cX2_away 90 = .ok (.invokevirtual 128, 3) := dk_182 0 128 (dk_at dksX2_away_3 19 rfl rfl)
theorem dX2_away_93 : decode cX2_away 93 = .ok (.i2l, 1) := dk_133 (dk_at dksX2_away_3 22 rfl rfl)
theorem dX2_away_94 : decode cX2_away 94 = .ok (.lsub, 1) := dk_101 (dk_at dksX2_away_3 23 rfl rfl)
theorem dX2_away_95 : decode cX2_away 95 = .ok (.lreturn, 1) := dk_173 (dk_at dksX2_away_4 0 rfl rfl)
theorem dX2_away_96 : decode cX2_away 96 = .ok (.lconst 0, 1) := dk_9 (dk_at dksX2_away_4 1 rfl rfl)
theorem dX2_away_97 : decode cX2_away 97 = .ok (.lstore 8, 2) := dk_55 8 (dk_at dksX2_away_4 2 rfl rfl)
theorem dX2_away_99 : decode cX2_away 99 = .ok (.lconst 1, 1) := dk_10 (dk_at dksX2_away_4 4 rfl rfl)
theorem dX2_away_100 : decode cX2_away 100 = .ok (.lstore 10, 2) := dk_55 10 (dk_at dksX2_away_4 5 rfl rfl)
theorem dX2_away_102 : decode cX2_away 102 = .ok (.iconst 0, 1) := dk_3 (dk_at dksX2_away_4 7 rfl rfl)
theorem dX2_away_103 : decode cX2_away 103 = .ok (.istore 12, 2) := dk_54 12 (dk_at dksX2_away_4 8 rfl rfl)
theorem dX2_away_105 : decode cX2_away 105 = .ok (.iload 12, 2) := dk_21 12 (dk_at dksX2_away_4 10 rfl rfl)
theorem dX2_away_107 : decode cX2_away 107 = .ok (.iload 4, 2) := dk_21 4 (dk_at dksX2_away_4 12 rfl rfl)
theorem dX2_away_109 : decode cX2_away 109 = .ok (.if_icmp .ge 17, 3) := dk_162 0 17 (dk_at dksX2_away_4 14 rfl rfl)
theorem dX2_away_112 : decode cX2_away 112 = .ok (.lload 10, 2) := dk_22 10 (dk_at dksX2_away_4 17 rfl rfl)
theorem dX2_away_114 : decode cX2_away 114 = .ok (.iload 5, 2) := dk_21 5 (dk_at dksX2_away_4 19 rfl rfl)
theorem dX2_away_116 : decode cX2_away 116 = .ok (.i2l, 1) := dk_133 (dk_at dksX2_away_4 21 rfl rfl)
theorem dX2_away_117 : decode cX2_away 117 = .ok (.lmul, 1) := dk_105 (dk_at dksX2_away_4 22 rfl rfl)
theorem dX2_away_118 : decode cX2_away 118 = .ok (.lstore 10, 2) := dk_55 10 (dk_at dksX2_away_5 0 rfl rfl)
theorem dX2_away_120 : decode cX2_away 120 = .ok (.iinc 12 1, 3) := dk_132 12 1 (dk_at dksX2_away_5 2 rfl rfl)
theorem dX2_away_123 : decode cX2_away 123 = .ok (.goto (-18), 3) := dk_167 255 238 (dk_at dksX2_away_5 5 rfl rfl)
theorem dX2_away_126 : decode cX2_away 126 = .ok (.aload_n 0, 1) := dk_42 (dk_at dksX2_away_5 8 rfl rfl)
theorem dX2_away_127 : decode cX2_away 127 = .ok (.invokevirtual 178, 3) := dk_182 0 178 (dk_at dksX2_away_5 9 rfl rfl)
theorem dX2_away_130 : decode cX2_away 130 = .ok (.iconst 0, 1) := dk_3 (dk_at dksX2_away_5 12 rfl rfl)
theorem dX2_away_131 : decode cX2_away 131 = .ok (.istore 12, 2) := dk_54 12 (dk_at dksX2_away_5 13 rfl rfl)
theorem dX2_away_133 : decode cX2_away 133 = .ok (.iload 12, 2) := dk_21 12 (dk_at dksX2_away_5 15 rfl rfl)
theorem dX2_away_135 : decode cX2_away 135 = .ok (.iconst 1, 1) := dk_4 (dk_at dksX2_away_5 17 rfl rfl)
theorem dX2_away_136 : decode cX2_away 136 = .ok (.iload 4, 2) := dk_21 4 (dk_at dksX2_away_5 18 rfl rfl)
theorem dX2_away_138 : decode cX2_away 138 = .ok (.ishl, 1) := dk_120 (dk_at dksX2_away_5 20 rfl rfl)
theorem dX2_away_139 : decode cX2_away 139 = .ok (.if_icmp .ge 99, 3) := dk_162 0 99 (dk_at dksX2_away_5 21 rfl rfl)
theorem dX2_away_142 : decode cX2_away 142 = .ok (.lconst 1, 1) := dk_10 (dk_at dksX2_away_6 0 rfl rfl)
theorem dX2_away_143 : decode cX2_away 143 = .ok (.lstore 13, 2) := dk_55 13 (dk_at dksX2_away_6 1 rfl rfl)
theorem dX2_away_145 : decode cX2_away 145 = .ok (.iconst 0, 1) := dk_3 (dk_at dksX2_away_6 3 rfl rfl)
theorem dX2_away_146 : decode cX2_away 146 = .ok (.istore 15, 2) := dk_54 15 (dk_at dksX2_away_6 4 rfl rfl)
theorem dX2_away_148 : decode cX2_away 148 = .ok (.iload 15, 2) := dk_21 15 (dk_at dksX2_away_6 6 rfl rfl)
theorem dX2_away_150 : decode cX2_away 150 = .ok (.iload 4, 2) := dk_21 4 (dk_at dksX2_away_6 8 rfl rfl)
theorem dX2_away_152 : decode cX2_away 152 = .ok (.if_icmp .ge 55, 3) := dk_162 0 55 (dk_at dksX2_away_6 10 rfl rfl)
theorem dX2_away_155 : decode cX2_away 155 = .ok (.lload 13, 2) := dk_22 13 (dk_at dksX2_away_6 13 rfl rfl)
theorem dX2_away_157 : decode cX2_away 157 = .ok (.iload 12, 2) := dk_21 12 (dk_at dksX2_away_6 15 rfl rfl)
theorem dX2_away_159 : decode cX2_away 159 = .ok (.iload 15, 2) := dk_21 15 (dk_at dksX2_away_6 17 rfl rfl)
theorem dX2_away_161 : decode cX2_away 161 = .ok (.invokestatic 93, 3) := dk_184 0 93 (dk_at dksX2_away_6 19 rfl rfl)
theorem dX2_away_164 : decode cX2_away 164 = .ok (.ifCond .eq 7, 3) := dk_153 0 7 (dk_at dksX2_away_7 0 rfl rfl)
theorem dX2_away_167 : decode cX2_away 167 = .ok (.lconst 1, 1) := dk_10 (dk_at dksX2_away_7 3 rfl rfl)
theorem dX2_away_168 : decode cX2_away 168 = .ok (.goto 8, 3) := dk_167 0 8 (dk_at dksX2_away_7 4 rfl rfl)
theorem dX2_away_171 : decode cX2_away 171 = .ok (.iload 5, 2) := dk_21 5 (dk_at dksX2_away_7 7 rfl rfl)
theorem dX2_away_173 : decode cX2_away 173 = .ok (.iconst 1, 1) := dk_4 (dk_at dksX2_away_7 9 rfl rfl)
theorem dX2_away_174 : decode cX2_away 174 = .ok (.isub, 1) := dk_100 (dk_at dksX2_away_7 10 rfl rfl)
theorem dX2_away_175 : decode cX2_away 175 = .ok (.i2l, 1) := dk_133 (dk_at dksX2_away_7 11 rfl rfl)
theorem dX2_away_176 : decode cX2_away 176 = .ok (.lmul, 1) := dk_105 (dk_at dksX2_away_7 12 rfl rfl)
theorem dX2_away_177 : decode cX2_away 177 = .ok (.lstore 13, 2) := dk_55 13 (dk_at dksX2_away_7 13 rfl rfl)
theorem dX2_away_179 : decode cX2_away 179 = .ok (.aload_n 0, 1) := dk_42 (dk_at dksX2_away_7 15 rfl rfl)
theorem dX2_away_180 : decode cX2_away 180 = .ok (.iload 12, 2) := dk_21 12 (dk_at dksX2_away_7 16 rfl rfl)
theorem dX2_away_182 : decode cX2_away 182 = .ok (.iload 15, 2) := dk_21 15 (dk_at dksX2_away_7 18 rfl rfl)
theorem dX2_away_184 : decode cX2_away 184 = .ok (.invokestatic 93, 3) := dk_184 0 93 (dk_at dksX2_away_7 20 rfl rfl)
theorem dX2_away_187 : decode cX2_away 187 = .ok (.ifCond .eq 7, 3) := dk_153 0 7 (dk_at dksX2_away_8 0 rfl rfl)
theorem dX2_away_190 : decode cX2_away 190 = .ok (.iload_n 1, 1) := dk_27 (dk_at dksX2_away_8 3 rfl rfl)
theorem dX2_away_191 : decode cX2_away 191 = .ok (.goto 5, 3) := dk_167 0 5 (dk_at dksX2_away_8 4 rfl rfl)
theorem dX2_away_194 : decode cX2_away 194 = .ok (.bipush (-9), 2) := dk_16 247 (dk_at dksX2_away_8 7 rfl rfl)
theorem dX2_away_196 : decode cX2_away 196 = .ok (.bipush (-9), 2) := dk_16 247 (dk_at dksX2_away_8 9 rfl rfl)
theorem dX2_away_198 : decode cX2_away 198 = .ok (.invokevirtual 117, 3) := dk_182 0 117 (dk_at dksX2_away_8 11 rfl rfl)
theorem dX2_away_201 : decode cX2_away 201 = .ok (.iinc 15 1, 3) := dk_132 15 1 (dk_at dksX2_away_8 14 rfl rfl)
theorem dX2_away_204 : decode cX2_away 204 = .ok (.goto (-56), 3) := dk_167 255 200 (dk_at dksX2_away_8 17 rfl rfl)
theorem dX2_away_207 : decode cX2_away 207 = .ok (.lload 8, 2) := dk_22 8 (dk_at dksX2_away_8 20 rfl rfl)
theorem dX2_away_209 : decode cX2_away 209 = .ok (.aload_n 0, 1) := dk_42 (dk_at dksX2_away_8 22 rfl rfl)
theorem dX2_away_210 : decode cX2_away 210 = .ok (.iload_n 1, 1) := dk_27 (dk_at dksX2_away_8 23 rfl rfl)
theorem dX2_away_211 : decode cX2_away 211 = .ok (.iload_n 2, 1) := dk_28 (dk_at dksX2_away_9 0 rfl rfl)
theorem dX2_away_212 : decode cX2_away 212 = .ok (.invokevirtual 79, 3) := dk_182 0 79 (dk_at dksX2_away_9 1 rfl rfl)
theorem dX2_away_215 : decode cX2_away 215 = .ok (.iload_n 3, 1) := dk_29 (dk_at dksX2_away_9 4 rfl rfl)
theorem dX2_away_216 : decode cX2_away 216 = .ok (.if_icmp .gt 8, 3) := dk_163 0 8 (dk_at dksX2_away_9 5 rfl rfl)
theorem dX2_away_219 : decode cX2_away 219 = .ok (.lload 13, 2) := dk_22 13 (dk_at dksX2_away_9 8 rfl rfl)
theorem dX2_away_221 : decode cX2_away 221 = .ok (.goto 4, 3) := dk_167 0 4 (dk_at dksX2_away_9 10 rfl rfl)
theorem dX2_away_224 : decode cX2_away 224 = .ok (.lconst 0, 1) := dk_9 (dk_at dksX2_away_9 13 rfl rfl)
theorem dX2_away_225 : decode cX2_away 225 = .ok (.ladd, 1) := dk_97 (dk_at dksX2_away_9 14 rfl rfl)
theorem dX2_away_226 : decode cX2_away 226 = .ok (.lstore 8, 2) := dk_55 8 (dk_at dksX2_away_9 15 rfl rfl)
theorem dX2_away_228 : decode cX2_away 228 = .ok (.aload_n 0, 1) := dk_42 (dk_at dksX2_away_9 17 rfl rfl)
theorem dX2_away_229 : decode cX2_away 229 = .ok (.invokevirtual 184, 3) := dk_182 0 184 (dk_at dksX2_away_9 18 rfl rfl)
theorem dX2_away_232 : decode cX2_away 232 = .ok (.iinc 12 1, 3) := dk_132 12 1 (dk_at dksX2_away_9 21 rfl rfl)
theorem dX2_away_235 : decode cX2_away 235 = .ok (.goto (-102), 3) := dk_167 255 154 (dk_at dksX2_away_10 0 rfl rfl)
theorem dX2_away_238 : decode cX2_away 238 = .ok (.lload 8, 2) := dk_22 8 (dk_at dksX2_away_10 3 rfl rfl)
theorem dX2_away_240 : decode cX2_away 240 = .ok (.lload 10, 2) := dk_22 10 (dk_at dksX2_away_10 5 rfl rfl)
theorem dX2_away_242 : decode cX2_away 242 = .ok (.iload 6, 2) := dk_21 6 (dk_at dksX2_away_10 7 rfl rfl)
theorem dX2_away_244 : decode cX2_away 244 = .ok (.invokestatic 288, 3) := dk_184 1 32 (dk_at dksX2_away_10 9 rfl rfl)
theorem dX2_away_247 : decode cX2_away 247 = .ok (.lreturn, 1) := dk_173 (dk_at dksX2_away_10 12 rfl rfl)
abbrev cX2_partOf : ByteArray := prog_12_method_80_code
def yX2_partOf : MethodName := ⟨RX2, "partOf", "(JJI)J"⟩
def dkwX2_partOf_1 : List UInt8 := [22, 5, 109, 167, 0, 7, 32, 22, 5, 109, 173]
abbrev dktX2_partOf_1 : List UInt8 := dkwX2_partOf_1 ++ []
def dkwX2_partOf_0 : List UInt8 := [30, 9, 148, 154, 0, 7, 21, 4, 133, 173, 30, 32, 184, 1, 26, 55, 5, 21, 4, 154, 0, 10, 30]
abbrev dktX2_partOf_0 : List UInt8 := dkwX2_partOf_0 ++ dktX2_partOf_1
theorem dksX2_partOf_0 : cX2_partOf.data.toList.drop 0 = dktX2_partOf_0 := by decide +kernel
theorem dksX2_partOf_1 : cX2_partOf.data.toList.drop 23 = dktX2_partOf_1 := dk_seg dksX2_partOf_0 23 rfl rfl
theorem dX2_partOf_0 : decode cX2_partOf 0 = .ok (.lload_n 0, 1) := dk_30 (dk_at dksX2_partOf_0 0 rfl rfl)
theorem dX2_partOf_1 : decode cX2_partOf 1 = .ok (.lconst 0, 1) := dk_9 (dk_at dksX2_partOf_0 1 rfl rfl)
theorem dX2_partOf_2 : decode cX2_partOf 2 = .ok (.lcmp, 1) := dk_148 (dk_at dksX2_partOf_0 2 rfl rfl)
theorem dX2_partOf_3 : decode cX2_partOf 3 = .ok (.ifCond .ne 7, 3) := dk_154 0 7 (dk_at dksX2_partOf_0 3 rfl rfl)
theorem dX2_partOf_6 : decode cX2_partOf 6 = .ok (.iload 4, 2) := dk_21 4 (dk_at dksX2_partOf_0 6 rfl rfl)
theorem dX2_partOf_8 : decode cX2_partOf 8 = .ok (.i2l, 1) := dk_133 (dk_at dksX2_partOf_0 8 rfl rfl)
theorem dX2_partOf_9 : decode cX2_partOf 9 = .ok (.lreturn, 1) := dk_173 (dk_at dksX2_partOf_0 9 rfl rfl)
theorem dX2_partOf_10 : decode cX2_partOf 10 = .ok (.lload_n 0, 1) := dk_30 (dk_at dksX2_partOf_0 10 rfl rfl)
theorem dX2_partOf_11 : decode cX2_partOf 11 = .ok (.lload_n 2, 1) := dk_32 (dk_at dksX2_partOf_0 11 rfl rfl)
theorem dX2_partOf_12 : decode cX2_partOf 12 = .ok (.invokestatic 282, 3) := dk_184 1 26 (dk_at dksX2_partOf_0 12 rfl rfl)
theorem dX2_partOf_15 : decode cX2_partOf 15 = .ok (.lstore 5, 2) := dk_55 5 (dk_at dksX2_partOf_0 15 rfl rfl)
theorem dX2_partOf_17 : decode cX2_partOf 17 = .ok (.iload 4, 2) := dk_21 4 (dk_at dksX2_partOf_0 17 rfl rfl)
theorem dX2_partOf_19 : decode cX2_partOf 19 = .ok (.ifCond .ne 10, 3) := dk_154 0 10 (dk_at dksX2_partOf_0 19 rfl rfl)
theorem dX2_partOf_22 : decode cX2_partOf 22 = .ok (.lload_n 0, 1) := dk_30 (dk_at dksX2_partOf_0 22 rfl rfl)
theorem dX2_partOf_23 : decode cX2_partOf 23 = .ok (.lload 5, 2) := dk_22 5 (dk_at dksX2_partOf_1 0 rfl rfl)
theorem dX2_partOf_25 : decode cX2_partOf 25 = .ok (.ldiv, 1) := dk_109 (dk_at dksX2_partOf_1 2 rfl rfl)
theorem dX2_partOf_26 : decode cX2_partOf 26 = .ok (.goto 7, 3) := dk_167 0 7 (dk_at dksX2_partOf_1 3 rfl rfl)
theorem dX2_partOf_29 : decode cX2_partOf 29 = .ok (.lload_n 2, 1) := dk_32 (dk_at dksX2_partOf_1 6 rfl rfl)
theorem dX2_partOf_30 : decode cX2_partOf 30 = .ok (.lload 5, 2) := dk_22 5 (dk_at dksX2_partOf_1 7 rfl rfl)
theorem dX2_partOf_32 : decode cX2_partOf 32 = .ok (.ldiv, 1) := dk_109 (dk_at dksX2_partOf_1 9 rfl rfl)
theorem dX2_partOf_33 : decode cX2_partOf 33 = .ok (.lreturn, 1) := dk_173 (dk_at dksX2_partOf_1 10 rfl rfl)
abbrev cX2_divisor : ByteArray := prog_12_method_79_code
def yX2_divisor : MethodName := ⟨RX2, "divisor", "(JJ)J"⟩
def dkwX2_divisor_1 : List UInt8 := [22, 8, 55, 6, 167, 255, 234, 22, 4, 173]
abbrev dktX2_divisor_1 : List UInt8 := dkwX2_divisor_1 ++ []
def dkwX2_divisor_0 : List UInt8 := [30, 55, 4, 32, 55, 6, 22, 6, 9, 148, 153, 0, 21, 22, 4, 22, 6, 113, 55, 8, 22, 6, 55, 4]
abbrev dktX2_divisor_0 : List UInt8 := dkwX2_divisor_0 ++ dktX2_divisor_1
theorem dksX2_divisor_0 : cX2_divisor.data.toList.drop 0 = dktX2_divisor_0 := by decide +kernel
theorem dksX2_divisor_1 : cX2_divisor.data.toList.drop 24 = dktX2_divisor_1 := dk_seg dksX2_divisor_0 24 rfl rfl
theorem dX2_divisor_0 : decode cX2_divisor 0 = .ok (.lload_n 0, 1) := dk_30 (dk_at dksX2_divisor_0 0 rfl rfl)
theorem dX2_divisor_1 : decode cX2_divisor 1 = .ok (.lstore 4, 2) := dk_55 4 (dk_at dksX2_divisor_0 1 rfl rfl)
theorem dX2_divisor_3 : decode cX2_divisor 3 = .ok (.lload_n 2, 1) := dk_32 (dk_at dksX2_divisor_0 3 rfl rfl)
theorem dX2_divisor_4 : decode cX2_divisor 4 = .ok (.lstore 6, 2) := dk_55 6 (dk_at dksX2_divisor_0 4 rfl rfl)
theorem dX2_divisor_6 : decode cX2_divisor 6 = .ok (.lload 6, 2) := dk_22 6 (dk_at dksX2_divisor_0 6 rfl rfl)
theorem dX2_divisor_8 : decode cX2_divisor 8 = .ok (.lconst 0, 1) := dk_9 (dk_at dksX2_divisor_0 8 rfl rfl)
theorem dX2_divisor_9 : decode cX2_divisor 9 = .ok (.lcmp, 1) := dk_148 (dk_at dksX2_divisor_0 9 rfl rfl)
theorem dX2_divisor_10 : decode cX2_divisor 10 = .ok (.ifCond .eq 21, 3) := dk_153 0 21 (dk_at dksX2_divisor_0 10 rfl rfl)
theorem dX2_divisor_13 : decode cX2_divisor 13 = .ok (.lload 4, 2) := dk_22 4 (dk_at dksX2_divisor_0 13 rfl rfl)
theorem dX2_divisor_15 : decode cX2_divisor 15 = .ok (.lload 6, 2) := dk_22 6 (dk_at dksX2_divisor_0 15 rfl rfl)
theorem dX2_divisor_17 : decode cX2_divisor 17 = .ok (.lrem, 1) := dk_113 (dk_at dksX2_divisor_0 17 rfl rfl)
theorem dX2_divisor_18 : decode cX2_divisor 18 = .ok (.lstore 8, 2) := dk_55 8 (dk_at dksX2_divisor_0 18 rfl rfl)
theorem dX2_divisor_20 : decode cX2_divisor 20 = .ok (.lload 6, 2) := dk_22 6 (dk_at dksX2_divisor_0 20 rfl rfl)
theorem dX2_divisor_22 : decode cX2_divisor 22 = .ok (.lstore 4, 2) := dk_55 4 (dk_at dksX2_divisor_0 22 rfl rfl)
theorem dX2_divisor_24 : decode cX2_divisor 24 = .ok (.lload 8, 2) := dk_22 8 (dk_at dksX2_divisor_1 0 rfl rfl)
theorem dX2_divisor_26 : decode cX2_divisor 26 = .ok (.lstore 6, 2) := dk_55 6 (dk_at dksX2_divisor_1 2 rfl rfl)
theorem dX2_divisor_28 : decode cX2_divisor 28 = .ok (.goto (-22), 3) := dk_167 255 234 (dk_at dksX2_divisor_1 4 rfl rfl)
theorem dX2_divisor_31 : decode cX2_divisor 31 = .ok (.lload 4, 2) := dk_22 4 (dk_at dksX2_divisor_1 7 rfl rfl)
theorem dX2_divisor_33 : decode cX2_divisor 33 = .ok (.lreturn, 1) := dk_173 (dk_at dksX2_divisor_1 9 rfl rfl)
abbrev cX2_fullest : ByteArray := prog_12_method_83_code
def yX2_fullest : MethodName := ⟨RX2, "fullest", "(I)I"⟩
def dkwX2_fullest_2 : List UInt8 := [28, 61, 132, 3, 1, 167, 255, 229, 27, 154, 0, 7, 28, 167, 0, 8, 42, 28, 182, 1, 36, 172]
abbrev dktX2_fullest_2 : List UInt8 := dkwX2_fullest_2 ++ []
def dkwX2_fullest_1 : List UInt8 := [4, 62, 29, 8, 162, 0, 28, 42, 29, 182, 1, 36, 42, 28, 182, 1, 36, 164, 0, 7, 29, 167, 0, 4]
abbrev dktX2_fullest_1 : List UInt8 := dkwX2_fullest_1 ++ dktX2_fullest_2
def dkwX2_fullest_0 : List UInt8 := [42, 3, 181, 0, 65, 27, 133, 9, 10, 184, 0, 71, 154, 0, 10, 42, 16, 254, 182, 0, 128, 172, 3, 61]
abbrev dktX2_fullest_0 : List UInt8 := dkwX2_fullest_0 ++ dktX2_fullest_1
theorem dksX2_fullest_0 : cX2_fullest.data.toList.drop 0 = dktX2_fullest_0 := by decide +kernel
theorem dksX2_fullest_1 : cX2_fullest.data.toList.drop 24 = dktX2_fullest_1 := dk_seg dksX2_fullest_0 24 rfl rfl
theorem dksX2_fullest_2 : cX2_fullest.data.toList.drop 48 = dktX2_fullest_2 := dk_seg dksX2_fullest_1 24 rfl rfl
theorem dX2_fullest_0 : decode cX2_fullest 0 = .ok (.aload_n 0, 1) := dk_42 (dk_at dksX2_fullest_0 0 rfl rfl)
theorem dX2_fullest_1 : decode cX2_fullest 1 = .ok (.iconst 0, 1) := dk_3 (dk_at dksX2_fullest_0 1 rfl rfl)
theorem dX2_fullest_2 : decode cX2_fullest 2 = .ok (.putfield 65, 3) := dk_181 0 65 (dk_at dksX2_fullest_0 2 rfl rfl)
theorem dX2_fullest_5 : decode cX2_fullest 5 = .ok (.iload_n 1, 1) := dk_27 (dk_at dksX2_fullest_0 5 rfl rfl)
theorem dX2_fullest_6 : decode cX2_fullest 6 = .ok (.i2l, 1) := dk_133 (dk_at dksX2_fullest_0 6 rfl rfl)
theorem dX2_fullest_7 : decode cX2_fullest 7 = .ok (.lconst 0, 1) := dk_9 (dk_at dksX2_fullest_0 7 rfl rfl)
theorem dX2_fullest_8 : decode cX2_fullest 8 = .ok (.lconst 1, 1) := dk_10 (dk_at dksX2_fullest_0 8 rfl rfl)
theorem dX2_fullest_9 : decode cX2_fullest 9 = .ok (.invokestatic 71, 3) := dk_184 0 71 (dk_at dksX2_fullest_0 9 rfl rfl)
theorem dX2_fullest_12 : decode cX2_fullest 12 = .ok (.ifCond .ne 10, 3) := dk_154 0 10 (dk_at dksX2_fullest_0 12 rfl rfl)
theorem dX2_fullest_15 : decode cX2_fullest 15 = .ok (.aload_n 0, 1) := dk_42 (dk_at dksX2_fullest_0 15 rfl rfl)
theorem dX2_fullest_16 : decode cX2_fullest 16 = .ok (.bipush (-2), 2) := dk_16 254 (dk_at dksX2_fullest_0 16 rfl rfl)
theorem dX2_fullest_18 : decode cX2_fullest 18 = .ok (.invokevirtual 128, 3) := dk_182 0 128 (dk_at dksX2_fullest_0 18 rfl rfl)
theorem dX2_fullest_21 : decode cX2_fullest 21 = .ok (.ireturn, 1) := dk_172 (dk_at dksX2_fullest_0 21 rfl rfl)
theorem dX2_fullest_22 : decode cX2_fullest 22 = .ok (.iconst 0, 1) := dk_3 (dk_at dksX2_fullest_0 22 rfl rfl)
theorem dX2_fullest_23 : decode cX2_fullest 23 = .ok (.istore_n 2, 1) := dk_61 (dk_at dksX2_fullest_0 23 rfl rfl)
theorem dX2_fullest_24 : decode cX2_fullest 24 = .ok (.iconst 1, 1) := dk_4 (dk_at dksX2_fullest_1 0 rfl rfl)
theorem dX2_fullest_25 : decode cX2_fullest 25 = .ok (.istore_n 3, 1) := dk_62 (dk_at dksX2_fullest_1 1 rfl rfl)
theorem dX2_fullest_26 : decode cX2_fullest 26 = .ok (.iload_n 3, 1) := dk_29 (dk_at dksX2_fullest_1 2 rfl rfl)
theorem dX2_fullest_27 : decode cX2_fullest 27 = .ok (.iconst 5, 1) := dk_8 (dk_at dksX2_fullest_1 3 rfl rfl)
theorem dX2_fullest_28 : decode cX2_fullest 28 = .ok (.if_icmp .ge 28, 3) := dk_162 0 28 (dk_at dksX2_fullest_1 4 rfl rfl)
theorem dX2_fullest_31 : decode cX2_fullest 31 = .ok (.aload_n 0, 1) := dk_42 (dk_at dksX2_fullest_1 7 rfl rfl)
theorem dX2_fullest_32 : decode cX2_fullest 32 = .ok (.iload_n 3, 1) := dk_29 (dk_at dksX2_fullest_1 8 rfl rfl)
theorem dX2_fullest_33 : decode cX2_fullest 33 = .ok (.invokevirtual 292, 3) := dk_182 1 36 (dk_at dksX2_fullest_1 9 rfl rfl)
theorem dX2_fullest_36 : decode cX2_fullest 36 = .ok (.aload_n 0, 1) := dk_42 (dk_at dksX2_fullest_1 12 rfl rfl)
theorem dX2_fullest_37 : decode cX2_fullest 37 = .ok (.iload_n 2, 1) := dk_28 (dk_at dksX2_fullest_1 13 rfl rfl)
theorem dX2_fullest_38 : decode cX2_fullest 38 = .ok (.invokevirtual 292, 3) := dk_182 1 36 (dk_at dksX2_fullest_1 14 rfl rfl)
theorem dX2_fullest_41 : decode cX2_fullest 41 = .ok (.if_icmp .le 7, 3) := dk_164 0 7 (dk_at dksX2_fullest_1 17 rfl rfl)
theorem dX2_fullest_44 : decode cX2_fullest 44 = .ok (.iload_n 3, 1) := dk_29 (dk_at dksX2_fullest_1 20 rfl rfl)
theorem dX2_fullest_45 : decode cX2_fullest 45 = .ok (.goto 4, 3) := dk_167 0 4 (dk_at dksX2_fullest_1 21 rfl rfl)
theorem dX2_fullest_48 : decode cX2_fullest 48 = .ok (.iload_n 2, 1) := dk_28 (dk_at dksX2_fullest_2 0 rfl rfl)
theorem dX2_fullest_49 : decode cX2_fullest 49 = .ok (.istore_n 2, 1) := dk_61 (dk_at dksX2_fullest_2 1 rfl rfl)
theorem dX2_fullest_50 : decode cX2_fullest 50 = .ok (.iinc 3 1, 3) := dk_132 3 1 (dk_at dksX2_fullest_2 2 rfl rfl)
theorem dX2_fullest_53 : decode cX2_fullest 53 = .ok (.goto (-27), 3) := dk_167 255 229 (dk_at dksX2_fullest_2 5 rfl rfl)
theorem dX2_fullest_56 : decode cX2_fullest 56 = .ok (.iload_n 1, 1) := dk_27 (dk_at dksX2_fullest_2 8 rfl rfl)
theorem dX2_fullest_57 : decode cX2_fullest 57 = .ok (.ifCond .ne 7, 3) := dk_154 0 7 (dk_at dksX2_fullest_2 9 rfl rfl)
theorem dX2_fullest_60 : decode cX2_fullest 60 = .ok (.iload_n 2, 1) := dk_28 (dk_at dksX2_fullest_2 12 rfl rfl)
theorem dX2_fullest_61 : decode cX2_fullest 61 = .ok (.goto 8, 3) := dk_167 0 8 (dk_at dksX2_fullest_2 13 rfl rfl)
theorem dX2_fullest_64 : decode cX2_fullest 64 = .ok (.aload_n 0, 1) := dk_42 (dk_at dksX2_fullest_2 16 rfl rfl)
theorem dX2_fullest_65 : decode cX2_fullest 65 = .ok (.iload_n 2, 1) := dk_28 (dk_at dksX2_fullest_2 17 rfl rfl)
theorem dX2_fullest_66 : decode cX2_fullest 66 = .ok (.invokevirtual 292, 3) := dk_182 1 36 (dk_at dksX2_fullest_2 18 rfl rfl)
theorem dX2_fullest_69 : decode cX2_fullest 69 = .ok (.ireturn, 1) := dk_172 (dk_at dksX2_fullest_2 21 rfl rfl)
abbrev cX2_comingAt : ByteArray := prog_12_method_82_code
def yX2_comingAt : MethodName := ⟨RX2, "comingAt", "(I)I"⟩
def dkwX2_comingAt_1 : List UInt8 := [153, 0, 7, 4, 167, 0, 4, 3, 96, 61, 132, 3, 1, 167, 255, 224, 28, 172]
abbrev dktX2_comingAt_1 : List UInt8 := dkwX2_comingAt_1 ++ []
def dkwX2_comingAt_0 : List UInt8 := [3, 61, 3, 62, 29, 42, 180, 0, 68, 162, 0, 30, 28, 42, 180, 0, 16, 29, 46, 27, 184, 0, 93]
abbrev dktX2_comingAt_0 : List UInt8 := dkwX2_comingAt_0 ++ dktX2_comingAt_1
theorem dksX2_comingAt_0 : cX2_comingAt.data.toList.drop 0 = dktX2_comingAt_0 := by decide +kernel
theorem dksX2_comingAt_1 : cX2_comingAt.data.toList.drop 23 = dktX2_comingAt_1 := dk_seg dksX2_comingAt_0 23 rfl rfl
theorem dX2_comingAt_0 : decode cX2_comingAt 0 = .ok (.iconst 0, 1) := dk_3 (dk_at dksX2_comingAt_0 0 rfl rfl)
theorem dX2_comingAt_1 : decode cX2_comingAt 1 = .ok (.istore_n 2, 1) := dk_61 (dk_at dksX2_comingAt_0 1 rfl rfl)
theorem dX2_comingAt_2 : decode cX2_comingAt 2 = .ok (.iconst 0, 1) := dk_3 (dk_at dksX2_comingAt_0 2 rfl rfl)
theorem dX2_comingAt_3 : decode cX2_comingAt 3 = .ok (.istore_n 3, 1) := dk_62 (dk_at dksX2_comingAt_0 3 rfl rfl)
theorem dX2_comingAt_4 : decode cX2_comingAt 4 = .ok (.iload_n 3, 1) := dk_29 (dk_at dksX2_comingAt_0 4 rfl rfl)
theorem dX2_comingAt_5 : decode cX2_comingAt 5 = .ok (.aload_n 0, 1) := dk_42 (dk_at dksX2_comingAt_0 5 rfl rfl)
theorem dX2_comingAt_6 : decode cX2_comingAt 6 = .ok (.getfield 68, 3) := dk_180 0 68 (dk_at dksX2_comingAt_0 6 rfl rfl)
theorem dX2_comingAt_9 : decode cX2_comingAt 9 = .ok (.if_icmp .ge 30, 3) := dk_162 0 30 (dk_at dksX2_comingAt_0 9 rfl rfl)
theorem dX2_comingAt_12 : decode cX2_comingAt 12 = .ok (.iload_n 2, 1) := dk_28 (dk_at dksX2_comingAt_0 12 rfl rfl)
theorem dX2_comingAt_13 : decode cX2_comingAt 13 = .ok (.aload_n 0, 1) := dk_42 (dk_at dksX2_comingAt_0 13 rfl rfl)
theorem dX2_comingAt_14 : decode cX2_comingAt 14 = .ok (.getfield 16, 3) := dk_180 0 16 (dk_at dksX2_comingAt_0 14 rfl rfl)
theorem dX2_comingAt_17 : decode cX2_comingAt 17 = .ok (.iload_n 3, 1) := dk_29 (dk_at dksX2_comingAt_0 17 rfl rfl)
theorem dX2_comingAt_18 : decode cX2_comingAt 18 = .ok (.iaload, 1) := dk_46 (dk_at dksX2_comingAt_0 18 rfl rfl)
theorem dX2_comingAt_19 : decode cX2_comingAt 19 = .ok (.iload_n 1, 1) := dk_27 (dk_at dksX2_comingAt_0 19 rfl rfl)
theorem dX2_comingAt_20 : decode cX2_comingAt 20 = .ok (.invokestatic 93, 3) := dk_184 0 93 (dk_at dksX2_comingAt_0 20 rfl rfl)
theorem dX2_comingAt_23 : decode cX2_comingAt 23 = .ok (.ifCond .eq 7, 3) := dk_153 0 7 (dk_at dksX2_comingAt_1 0 rfl rfl)
theorem dX2_comingAt_26 : decode cX2_comingAt 26 = .ok (.iconst 1, 1) := dk_4 (dk_at dksX2_comingAt_1 3 rfl rfl)
theorem dX2_comingAt_27 : decode cX2_comingAt 27 = .ok (.goto 4, 3) := dk_167 0 4 (dk_at dksX2_comingAt_1 4 rfl rfl)
theorem dX2_comingAt_30 : decode cX2_comingAt 30 = .ok (.iconst 0, 1) := dk_3 (dk_at dksX2_comingAt_1 7 rfl rfl)
theorem dX2_comingAt_31 : decode cX2_comingAt 31 = .ok (.iadd, 1) := dk_96 (dk_at dksX2_comingAt_1 8 rfl rfl)
theorem dX2_comingAt_32 : decode cX2_comingAt 32 = .ok (.istore_n 2, 1) := dk_61 (dk_at dksX2_comingAt_1 9 rfl rfl)
theorem dX2_comingAt_33 : decode cX2_comingAt 33 = .ok (.iinc 3 1, 3) := dk_132 3 1 (dk_at dksX2_comingAt_1 10 rfl rfl)
theorem dX2_comingAt_36 : decode cX2_comingAt 36 = .ok (.goto (-32), 3) := dk_167 255 224 (dk_at dksX2_comingAt_1 13 rfl rfl)
theorem dX2_comingAt_39 : decode cX2_comingAt 39 = .ok (.iload_n 2, 1) := dk_28 (dk_at dksX2_comingAt_1 16 rfl rfl)
theorem dX2_comingAt_40 : decode cX2_comingAt 40 = .ok (.ireturn, 1) := dk_172 (dk_at dksX2_comingAt_1 17 rfl rfl)
abbrev cX2_charmer : ByteArray := prog_12_method_84_code
def yX2_charmer : MethodName := ⟨RX2, "charmer", "()I"⟩
def dkwX2_charmer_2 : List UInt8 := [172]
abbrev dktX2_charmer_2 : List UInt8 := dkwX2_charmer_2 ++ []
def dkwX2_charmer_1 : List UInt8 := [182, 0, 87, 42, 27, 182, 0, 87, 164, 0, 7, 28, 167, 0, 4, 27, 60, 132, 2, 1, 167, 255, 222, 27]
abbrev dktX2_charmer_1 : List UInt8 := dkwX2_charmer_1 ++ dktX2_charmer_2
def dkwX2_charmer_0 : List UInt8 := [42, 3, 181, 0, 65, 16, 247, 60, 3, 61, 28, 42, 180, 0, 68, 162, 0, 32, 27, 155, 0, 16, 42, 28]
abbrev dktX2_charmer_0 : List UInt8 := dkwX2_charmer_0 ++ dktX2_charmer_1
theorem dksX2_charmer_0 : cX2_charmer.data.toList.drop 0 = dktX2_charmer_0 := by decide +kernel
theorem dksX2_charmer_1 : cX2_charmer.data.toList.drop 24 = dktX2_charmer_1 := dk_seg dksX2_charmer_0 24 rfl rfl
theorem dksX2_charmer_2 : cX2_charmer.data.toList.drop 48 = dktX2_charmer_2 := dk_seg dksX2_charmer_1 24 rfl rfl
theorem dX2_charmer_0 : decode cX2_charmer 0 = .ok (.aload_n 0, 1) := dk_42 (dk_at dksX2_charmer_0 0 rfl rfl)
theorem dX2_charmer_1 : decode cX2_charmer 1 = .ok (.iconst 0, 1) := dk_3 (dk_at dksX2_charmer_0 1 rfl rfl)
theorem dX2_charmer_2 : decode cX2_charmer 2 = .ok (.putfield 65, 3) := dk_181 0 65 (dk_at dksX2_charmer_0 2 rfl rfl)
theorem dX2_charmer_5 : decode cX2_charmer 5 = .ok (.bipush (-9), 2) := dk_16 247 (dk_at dksX2_charmer_0 5 rfl rfl)
theorem dX2_charmer_7 : decode cX2_charmer 7 = .ok (.istore_n 1, 1) := dk_60 (dk_at dksX2_charmer_0 7 rfl rfl)
theorem dX2_charmer_8 : decode cX2_charmer 8 = .ok (.iconst 0, 1) := dk_3 (dk_at dksX2_charmer_0 8 rfl rfl)
theorem dX2_charmer_9 : decode cX2_charmer 9 = .ok (.istore_n 2, 1) := dk_61 (dk_at dksX2_charmer_0 9 rfl rfl)
theorem dX2_charmer_10 : decode cX2_charmer 10 = .ok (.iload_n 2, 1) := dk_28 (dk_at dksX2_charmer_0 10 rfl rfl)
theorem dX2_charmer_11 : decode cX2_charmer 11 = .ok (.aload_n 0, 1) := dk_42 (dk_at dksX2_charmer_0 11 rfl rfl)
theorem dX2_charmer_12 : decode cX2_charmer 12 = .ok (.getfield 68, 3) := dk_180 0 68 (dk_at dksX2_charmer_0 12 rfl rfl)
theorem dX2_charmer_15 : decode cX2_charmer 15 = .ok (.if_icmp .ge 32, 3) := dk_162 0 32 (dk_at dksX2_charmer_0 15 rfl rfl)
theorem dX2_charmer_18 : decode cX2_charmer 18 = .ok (.iload_n 1, 1) := dk_27 (dk_at dksX2_charmer_0 18 rfl rfl)
theorem dX2_charmer_19 : decode cX2_charmer 19 = .ok (.ifCond .lt 16, 3) := dk_155 0 16 (dk_at dksX2_charmer_0 19 rfl rfl)
theorem dX2_charmer_22 : decode cX2_charmer 22 = .ok (.aload_n 0, 1) := dk_42 (dk_at dksX2_charmer_0 22 rfl rfl)
theorem dX2_charmer_23 : decode cX2_charmer 23 = .ok (.iload_n 2, 1) := dk_28 (dk_at dksX2_charmer_0 23 rfl rfl)
theorem dX2_charmer_24 : decode cX2_charmer 24 = .ok (.invokevirtual 87, 3) := dk_182 0 87 (dk_at dksX2_charmer_1 0 rfl rfl)
theorem dX2_charmer_27 : decode cX2_charmer 27 = .ok (.aload_n 0, 1) := dk_42 (dk_at dksX2_charmer_1 3 rfl rfl)
theorem dX2_charmer_28 : decode cX2_charmer 28 = .ok (.iload_n 1, 1) := dk_27 (dk_at dksX2_charmer_1 4 rfl rfl)
theorem dX2_charmer_29 : decode cX2_charmer 29 = .ok (.invokevirtual 87, 3) := dk_182 0 87 (dk_at dksX2_charmer_1 5 rfl rfl)
theorem dX2_charmer_32 : decode cX2_charmer 32 = .ok (.if_icmp .le 7, 3) := dk_164 0 7 (dk_at dksX2_charmer_1 8 rfl rfl)
theorem dX2_charmer_35 : decode cX2_charmer 35 = .ok (.iload_n 2, 1) := dk_28 (dk_at dksX2_charmer_1 11 rfl rfl)
theorem dX2_charmer_36 : decode cX2_charmer 36 = .ok (.goto 4, 3) := dk_167 0 4 (dk_at dksX2_charmer_1 12 rfl rfl)
theorem dX2_charmer_39 : decode cX2_charmer 39 = .ok (.iload_n 1, 1) := dk_27 (dk_at dksX2_charmer_1 15 rfl rfl)
theorem dX2_charmer_40 : decode cX2_charmer 40 = .ok (.istore_n 1, 1) := dk_60 (dk_at dksX2_charmer_1 16 rfl rfl)
theorem dX2_charmer_41 : decode cX2_charmer 41 = .ok (.iinc 2 1, 3) := dk_132 2 1 (dk_at dksX2_charmer_1 17 rfl rfl)
theorem dX2_charmer_44 : decode cX2_charmer 44 = .ok (.goto (-34), 3) := dk_167 255 222 (dk_at dksX2_charmer_1 20 rfl rfl)
theorem dX2_charmer_47 : decode cX2_charmer 47 = .ok (.iload_n 1, 1) := dk_27 (dk_at dksX2_charmer_1 23 rfl rfl)
theorem dX2_charmer_48 : decode cX2_charmer 48 = .ok (.ireturn, 1) := dk_172 (dk_at dksX2_charmer_2 0 rfl rfl)
abbrev cX2_friends : ByteArray := prog_12_method_85_code
def yX2_friends : MethodName := ⟨RX2, "friends", "()I"⟩
def dkwX2_friends_3 : List UInt8 := [27, 172]
abbrev dktX2_friends_3 : List UInt8 := dkwX2_friends_3 ++ []
def dkwX2_friends_2 : List UInt8 := [16, 60, 161, 0, 7, 4, 167, 0, 4, 3, 96, 60, 132, 3, 1, 167, 255, 215, 132, 2, 1, 167, 255, 197]
abbrev dktX2_friends_2 : List UInt8 := dkwX2_friends_2 ++ dktX2_friends_3
def dkwX2_friends_1 : List UInt8 := [180, 0, 68, 162, 0, 39, 27, 42, 28, 29, 182, 0, 90, 16, 60, 161, 0, 18, 42, 29, 28, 182, 0, 90]
abbrev dktX2_friends_1 : List UInt8 := dkwX2_friends_1 ++ dktX2_friends_2
def dkwX2_friends_0 : List UInt8 := [42, 3, 181, 0, 65, 3, 60, 3, 61, 28, 42, 180, 0, 68, 162, 0, 57, 28, 4, 96, 62, 29, 42]
abbrev dktX2_friends_0 : List UInt8 := dkwX2_friends_0 ++ dktX2_friends_1
theorem dksX2_friends_0 : cX2_friends.data.toList.drop 0 = dktX2_friends_0 := by decide +kernel
theorem dksX2_friends_1 : cX2_friends.data.toList.drop 23 = dktX2_friends_1 := dk_seg dksX2_friends_0 23 rfl rfl
theorem dksX2_friends_2 : cX2_friends.data.toList.drop 47 = dktX2_friends_2 := dk_seg dksX2_friends_1 24 rfl rfl
theorem dksX2_friends_3 : cX2_friends.data.toList.drop 71 = dktX2_friends_3 := dk_seg dksX2_friends_2 24 rfl rfl
theorem dX2_friends_0 : decode cX2_friends 0 = .ok (.aload_n 0, 1) := dk_42 (dk_at dksX2_friends_0 0 rfl rfl)
theorem dX2_friends_1 : decode cX2_friends 1 = .ok (.iconst 0, 1) := dk_3 (dk_at dksX2_friends_0 1 rfl rfl)
theorem dX2_friends_2 : decode cX2_friends 2 = .ok (.putfield 65, 3) := dk_181 0 65 (dk_at dksX2_friends_0 2 rfl rfl)
theorem dX2_friends_5 : decode cX2_friends 5 = .ok (.iconst 0, 1) := dk_3 (dk_at dksX2_friends_0 5 rfl rfl)
theorem dX2_friends_6 : decode cX2_friends 6 = .ok (.istore_n 1, 1) := dk_60 (dk_at dksX2_friends_0 6 rfl rfl)
theorem dX2_friends_7 : decode cX2_friends 7 = .ok (.iconst 0, 1) := dk_3 (dk_at dksX2_friends_0 7 rfl rfl)
theorem dX2_friends_8 : decode cX2_friends 8 = .ok (.istore_n 2, 1) := dk_61 (dk_at dksX2_friends_0 8 rfl rfl)
theorem dX2_friends_9 : decode cX2_friends 9 = .ok (.iload_n 2, 1) := dk_28 (dk_at dksX2_friends_0 9 rfl rfl)
theorem dX2_friends_10 : decode cX2_friends 10 = .ok (.aload_n 0, 1) := dk_42 (dk_at dksX2_friends_0 10 rfl rfl)
theorem dX2_friends_11 : decode cX2_friends 11 = .ok (.getfield 68, 3) := dk_180 0 68 (dk_at dksX2_friends_0 11 rfl rfl)
theorem dX2_friends_14 : decode cX2_friends 14 = .ok (.if_icmp .ge 57, 3) := dk_162 0 57 (dk_at dksX2_friends_0 14 rfl rfl)
theorem dX2_friends_17 : decode cX2_friends 17 = .ok (.iload_n 2, 1) := dk_28 (dk_at dksX2_friends_0 17 rfl rfl)
theorem dX2_friends_18 : decode cX2_friends 18 = .ok (.iconst 1, 1) := dk_4 (dk_at dksX2_friends_0 18 rfl rfl)
theorem dX2_friends_19 : decode cX2_friends 19 = .ok (.iadd, 1) := dk_96 (dk_at dksX2_friends_0 19 rfl rfl)
theorem dX2_friends_20 : decode cX2_friends 20 = .ok (.istore_n 3, 1) := dk_62 (dk_at dksX2_friends_0 20 rfl rfl)
theorem dX2_friends_21 : decode cX2_friends 21 = .ok (.iload_n 3, 1) := dk_29 (dk_at dksX2_friends_0 21 rfl rfl)
theorem dX2_friends_22 : decode cX2_friends 22 = .ok (.aload_n 0, 1) := dk_42 (dk_at dksX2_friends_0 22 rfl rfl)
theorem dX2_friends_23 : decode cX2_friends 23 = .ok (.getfield 68, 3) := dk_180 0 68 (dk_at dksX2_friends_1 0 rfl rfl)
theorem dX2_friends_26 : decode cX2_friends 26 = .ok (.if_icmp .ge 39, 3) := dk_162 0 39 (dk_at dksX2_friends_1 3 rfl rfl)
theorem dX2_friends_29 : decode cX2_friends 29 = .ok (.iload_n 1, 1) := dk_27 (dk_at dksX2_friends_1 6 rfl rfl)
theorem dX2_friends_30 : decode cX2_friends 30 = .ok (.aload_n 0, 1) := dk_42 (dk_at dksX2_friends_1 7 rfl rfl)
theorem dX2_friends_31 : decode cX2_friends 31 = .ok (.iload_n 2, 1) := dk_28 (dk_at dksX2_friends_1 8 rfl rfl)
theorem dX2_friends_32 : decode cX2_friends 32 = .ok (.iload_n 3, 1) := dk_29 (dk_at dksX2_friends_1 9 rfl rfl)
theorem dX2_friends_33 : decode cX2_friends 33 = .ok (.invokevirtual 90, 3) := dk_182 0 90 (dk_at dksX2_friends_1 10 rfl rfl)
theorem dX2_friends_36 : decode cX2_friends 36 = .ok (.bipush 60, 2) := dk_16 60 (dk_at dksX2_friends_1 13 rfl rfl)
theorem dX2_friends_38 : decode cX2_friends 38 = .ok (.if_icmp .lt 18, 3) := dk_161 0 18 (dk_at dksX2_friends_1 15 rfl rfl)
theorem dX2_friends_41 : decode cX2_friends 41 = .ok (.aload_n 0, 1) := dk_42 (dk_at dksX2_friends_1 18 rfl rfl)
theorem dX2_friends_42 : decode cX2_friends 42 = .ok (.iload_n 3, 1) := dk_29 (dk_at dksX2_friends_1 19 rfl rfl)
theorem dX2_friends_43 : decode cX2_friends 43 = .ok (.iload_n 2, 1) := dk_28 (dk_at dksX2_friends_1 20 rfl rfl)
theorem dX2_friends_44 : decode cX2_friends 44 = .ok (.invokevirtual 90, 3) := dk_182 0 90 (dk_at dksX2_friends_1 21 rfl rfl)
theorem dX2_friends_47 : decode cX2_friends 47 = .ok (.bipush 60, 2) := dk_16 60 (dk_at dksX2_friends_2 0 rfl rfl)
theorem dX2_friends_49 : decode cX2_friends 49 = .ok (.if_icmp .lt 7, 3) := dk_161 0 7 (dk_at dksX2_friends_2 2 rfl rfl)
theorem dX2_friends_52 : decode cX2_friends 52 = .ok (.iconst 1, 1) := dk_4 (dk_at dksX2_friends_2 5 rfl rfl)
theorem dX2_friends_53 : decode cX2_friends 53 = .ok (.goto 4, 3) := dk_167 0 4 (dk_at dksX2_friends_2 6 rfl rfl)
theorem dX2_friends_56 : decode cX2_friends 56 = .ok (.iconst 0, 1) := dk_3 (dk_at dksX2_friends_2 9 rfl rfl)
theorem dX2_friends_57 : decode cX2_friends 57 = .ok (.iadd, 1) := dk_96 (dk_at dksX2_friends_2 10 rfl rfl)
theorem dX2_friends_58 : decode cX2_friends 58 = .ok (.istore_n 1, 1) := dk_60 (dk_at dksX2_friends_2 11 rfl rfl)
theorem dX2_friends_59 : decode cX2_friends 59 = .ok (.iinc 3 1, 3) := dk_132 3 1 (dk_at dksX2_friends_2 12 rfl rfl)
theorem dX2_friends_62 : decode cX2_friends 62 = .ok (.goto (-41), 3) := dk_167 255 215 (dk_at dksX2_friends_2 15 rfl rfl)
theorem dX2_friends_65 : decode cX2_friends 65 = .ok (.iinc 2 1, 3) := dk_132 2 1 (dk_at dksX2_friends_2 18 rfl rfl)
theorem dX2_friends_68 : decode cX2_friends 68 = .ok (.goto (-59), 3) := dk_167 255 197 (dk_at dksX2_friends_2 21 rfl rfl)
theorem dX2_friends_71 : decode cX2_friends 71 = .ok (.iload_n 1, 1) := dk_27 (dk_at dksX2_friends_3 0 rfl rfl)
theorem dX2_friends_72 : decode cX2_friends 72 = .ok (.ireturn, 1) := dk_172 (dk_at dksX2_friends_3 1 rfl rfl)
abbrev cX2_chain : ByteArray := prog_12_method_86_code
def yX2_chain : MethodName := ⟨RX2, "chain", "(I)I"⟩
def dkwX2_chain_2 : List UInt8 := [167, 255, 232, 28, 184, 0, 83, 172]
abbrev dktX2_chain_2 : List UInt8 := dkwX2_chain_2 ++ []
def dkwX2_chain_1 : List UInt8 := [155, 0, 26, 28, 29, 184, 0, 93, 154, 0, 18, 28, 4, 29, 120, 128, 61, 42, 29, 182, 1, 11, 62]
abbrev dktX2_chain_1 : List UInt8 := dkwX2_chain_1 ++ dktX2_chain_2
def dkwX2_chain_0 : List UInt8 := [42, 3, 181, 0, 65, 42, 27, 182, 0, 75, 154, 0, 9, 42, 2, 182, 0, 128, 172, 3, 61, 27, 62, 29]
abbrev dktX2_chain_0 : List UInt8 := dkwX2_chain_0 ++ dktX2_chain_1
theorem dksX2_chain_0 : cX2_chain.data.toList.drop 0 = dktX2_chain_0 := by decide +kernel
theorem dksX2_chain_1 : cX2_chain.data.toList.drop 24 = dktX2_chain_1 := dk_seg dksX2_chain_0 24 rfl rfl
theorem dksX2_chain_2 : cX2_chain.data.toList.drop 47 = dktX2_chain_2 := dk_seg dksX2_chain_1 23 rfl rfl
theorem dX2_chain_0 : decode cX2_chain 0 = .ok (.aload_n 0, 1) := dk_42 (dk_at dksX2_chain_0 0 rfl rfl)
theorem dX2_chain_1 : decode cX2_chain 1 = .ok (.iconst 0, 1) := dk_3 (dk_at dksX2_chain_0 1 rfl rfl)
theorem dX2_chain_2 : decode cX2_chain 2 = .ok (.putfield 65, 3) := dk_181 0 65 (dk_at dksX2_chain_0 2 rfl rfl)
theorem dX2_chain_5 : decode cX2_chain 5 = .ok (.aload_n 0, 1) := dk_42 (dk_at dksX2_chain_0 5 rfl rfl)
theorem dX2_chain_6 : decode cX2_chain 6 = .ok (.iload_n 1, 1) := dk_27 (dk_at dksX2_chain_0 6 rfl rfl)
theorem dX2_chain_7 : decode cX2_chain 7 = .ok (.invokevirtual 75, 3) := dk_182 0 75 (dk_at dksX2_chain_0 7 rfl rfl)
theorem dX2_chain_10 : decode cX2_chain 10 = .ok (.ifCond .ne 9, 3) := dk_154 0 9 (dk_at dksX2_chain_0 10 rfl rfl)
theorem dX2_chain_13 : decode cX2_chain 13 = .ok (.aload_n 0, 1) := dk_42 (dk_at dksX2_chain_0 13 rfl rfl)
theorem dX2_chain_14 : decode cX2_chain 14 = .ok (.iconst (-1), 1) := dk_2 (dk_at dksX2_chain_0 14 rfl rfl)
theorem dX2_chain_15 : decode cX2_chain 15 = .ok (.invokevirtual 128, 3) := dk_182 0 128 (dk_at dksX2_chain_0 15 rfl rfl)
theorem dX2_chain_18 : decode cX2_chain 18 = .ok (.ireturn, 1) := dk_172 (dk_at dksX2_chain_0 18 rfl rfl)
theorem dX2_chain_19 : decode cX2_chain 19 = .ok (.iconst 0, 1) := dk_3 (dk_at dksX2_chain_0 19 rfl rfl)
theorem dX2_chain_20 : decode cX2_chain 20 = .ok (.istore_n 2, 1) := dk_61 (dk_at dksX2_chain_0 20 rfl rfl)
theorem dX2_chain_21 : decode cX2_chain 21 = .ok (.iload_n 1, 1) := dk_27 (dk_at dksX2_chain_0 21 rfl rfl)
theorem dX2_chain_22 : decode cX2_chain 22 = .ok (.istore_n 3, 1) := dk_62 (dk_at dksX2_chain_0 22 rfl rfl)
theorem dX2_chain_23 : decode cX2_chain 23 = .ok (.iload_n 3, 1) := dk_29 (dk_at dksX2_chain_0 23 rfl rfl)
theorem dX2_chain_24 : decode cX2_chain 24 = .ok (.ifCond .lt 26, 3) := dk_155 0 26 (dk_at dksX2_chain_1 0 rfl rfl)
theorem dX2_chain_27 : decode cX2_chain 27 = .ok (.iload_n 2, 1) := dk_28 (dk_at dksX2_chain_1 3 rfl rfl)
theorem dX2_chain_28 : decode cX2_chain 28 = .ok (.iload_n 3, 1) := dk_29 (dk_at dksX2_chain_1 4 rfl rfl)
theorem dX2_chain_29 : decode cX2_chain 29 = .ok (.invokestatic 93, 3) := dk_184 0 93 (dk_at dksX2_chain_1 5 rfl rfl)
theorem dX2_chain_32 : decode cX2_chain 32 = .ok (.ifCond .ne 18, 3) := dk_154 0 18 (dk_at dksX2_chain_1 8 rfl rfl)
theorem dX2_chain_35 : decode cX2_chain 35 = .ok (.iload_n 2, 1) := dk_28 (dk_at dksX2_chain_1 11 rfl rfl)
theorem dX2_chain_36 : decode cX2_chain 36 = .ok (.iconst 1, 1) := dk_4 (dk_at dksX2_chain_1 12 rfl rfl)
theorem dX2_chain_37 : decode cX2_chain 37 = .ok (.iload_n 3, 1) := dk_29 (dk_at dksX2_chain_1 13 rfl rfl)
theorem dX2_chain_38 : decode cX2_chain 38 = .ok (.ishl, 1) := dk_120 (dk_at dksX2_chain_1 14 rfl rfl)
theorem dX2_chain_39 : decode cX2_chain 39 = .ok (.ior, 1) := dk_128 (dk_at dksX2_chain_1 15 rfl rfl)
theorem dX2_chain_40 : decode cX2_chain 40 = .ok (.istore_n 2, 1) := dk_61 (dk_at dksX2_chain_1 16 rfl rfl)
theorem dX2_chain_41 : decode cX2_chain 41 = .ok (.aload_n 0, 1) := dk_42 (dk_at dksX2_chain_1 17 rfl rfl)
theorem dX2_chain_42 : decode cX2_chain 42 = .ok (.iload_n 3, 1) := dk_29 (dk_at dksX2_chain_1 18 rfl rfl)
theorem dX2_chain_43 : decode cX2_chain 43 = .ok (.invokevirtual 267, 3) := dk_182 1 11 (dk_at dksX2_chain_1 19 rfl rfl)
theorem dX2_chain_46 : decode cX2_chain 46 = .ok (.istore_n 3, 1) := dk_62 (dk_at dksX2_chain_1 22 rfl rfl)
theorem dX2_chain_47 : decode cX2_chain 47 = .ok (.goto (-24), 3) := dk_167 255 232 (dk_at dksX2_chain_2 0 rfl rfl)
theorem dX2_chain_50 : decode cX2_chain 50 = .ok (.iload_n 2, 1) := dk_28 (dk_at dksX2_chain_2 3 rfl rfl)
theorem dX2_chain_51 : decode cX2_chain 51 = .ok (.invokestatic 83, 3) := dk_184 0 83 (dk_at dksX2_chain_2 4 rfl rfl)
theorem dX2_chain_54 : decode cX2_chain 54 = .ok (.ireturn, 1) := dk_172 (dk_at dksX2_chain_2 7 rfl rfl)
abbrev cX2_lonely : ByteArray := prog_12_method_87_code
def yX2_lonely : MethodName := ⟨RX2, "lonely", "()I"⟩
def dkwX2_lonely_4 : List UInt8 := [167, 255, 172, 27, 172]
abbrev dktX2_lonely_4 : List UInt8 := dkwX2_lonely_4 ++ []
def dkwX2_lonely_3 : List UInt8 := [62, 132, 4, 1, 167, 255, 218, 27, 29, 153, 0, 9, 4, 28, 120, 167, 0, 4, 3, 128, 60, 132, 2, 1]
abbrev dktX2_lonely_3 : List UInt8 := dkwX2_lonely_3 ++ dktX2_lonely_4
def dkwX2_lonely_2 : List UInt8 := [153, 0, 23, 21, 4, 28, 159, 0, 13, 42, 21, 4, 28, 182, 0, 239, 154, 0, 7, 4, 167, 0, 4, 3]
abbrev dktX2_lonely_2 : List UInt8 := dkwX2_lonely_2 ++ dktX2_lonely_3
def dkwX2_lonely_1 : List UInt8 := [156, 0, 7, 4, 167, 0, 4, 3, 62, 3, 54, 4, 21, 4, 42, 180, 0, 68, 162, 0, 35, 29]
abbrev dktX2_lonely_1 : List UInt8 := dkwX2_lonely_1 ++ dktX2_lonely_2
def dkwX2_lonely_0 : List UInt8 := [42, 3, 181, 0, 65, 3, 60, 3, 61, 28, 42, 180, 0, 68, 162, 0, 82, 42, 180, 0, 19, 28, 46]
abbrev dktX2_lonely_0 : List UInt8 := dkwX2_lonely_0 ++ dktX2_lonely_1
theorem dksX2_lonely_0 : cX2_lonely.data.toList.drop 0 = dktX2_lonely_0 := by decide +kernel
theorem dksX2_lonely_1 : cX2_lonely.data.toList.drop 23 = dktX2_lonely_1 := dk_seg dksX2_lonely_0 23 rfl rfl
theorem dksX2_lonely_2 : cX2_lonely.data.toList.drop 45 = dktX2_lonely_2 := dk_seg dksX2_lonely_1 22 rfl rfl
theorem dksX2_lonely_3 : cX2_lonely.data.toList.drop 69 = dktX2_lonely_3 := dk_seg dksX2_lonely_2 24 rfl rfl
theorem dksX2_lonely_4 : cX2_lonely.data.toList.drop 93 = dktX2_lonely_4 := dk_seg dksX2_lonely_3 24 rfl rfl
theorem dX2_lonely_0 : decode cX2_lonely 0 = .ok (.aload_n 0, 1) := dk_42 (dk_at dksX2_lonely_0 0 rfl rfl)
theorem dX2_lonely_1 : decode cX2_lonely 1 = .ok (.iconst 0, 1) := dk_3 (dk_at dksX2_lonely_0 1 rfl rfl)
theorem dX2_lonely_2 : decode cX2_lonely 2 = .ok (.putfield 65, 3) := dk_181 0 65 (dk_at dksX2_lonely_0 2 rfl rfl)
theorem dX2_lonely_5 : decode cX2_lonely 5 = .ok (.iconst 0, 1) := dk_3 (dk_at dksX2_lonely_0 5 rfl rfl)
theorem dX2_lonely_6 : decode cX2_lonely 6 = .ok (.istore_n 1, 1) := dk_60 (dk_at dksX2_lonely_0 6 rfl rfl)
theorem dX2_lonely_7 : decode cX2_lonely 7 = .ok (.iconst 0, 1) := dk_3 (dk_at dksX2_lonely_0 7 rfl rfl)
theorem dX2_lonely_8 : decode cX2_lonely 8 = .ok (.istore_n 2, 1) := dk_61 (dk_at dksX2_lonely_0 8 rfl rfl)
theorem dX2_lonely_9 : decode cX2_lonely 9 = .ok (.iload_n 2, 1) := dk_28 (dk_at dksX2_lonely_0 9 rfl rfl)
theorem dX2_lonely_10 : decode cX2_lonely 10 = .ok (.aload_n 0, 1) := dk_42 (dk_at dksX2_lonely_0 10 rfl rfl)
theorem dX2_lonely_11 : decode cX2_lonely 11 = .ok (.getfield 68, 3) := dk_180 0 68 (dk_at dksX2_lonely_0 11 rfl rfl)
theorem dX2_lonely_14 : decode cX2_lonely 14 = .ok (.if_icmp .ge 82, 3) := dk_162 0 82 (dk_at dksX2_lonely_0 14 rfl rfl)
theorem dX2_lonely_17 : decode cX2_lonely 17 = .ok (.aload_n 0, 1) := dk_42 (dk_at dksX2_lonely_0 17 rfl rfl)
theorem dX2_lonely_18 : decode cX2_lonely 18 = .ok (.getfield 19, 3) := dk_180 0 19 (dk_at dksX2_lonely_0 18 rfl rfl)
theorem dX2_lonely_21 : decode cX2_lonely 21 = .ok (.iload_n 2, 1) := dk_28 (dk_at dksX2_lonely_0 21 rfl rfl)
theorem dX2_lonely_22 : decode cX2_lonely 22 = .ok (.iaload, 1) := dk_46 (dk_at dksX2_lonely_0 22 rfl rfl)
theorem dX2_lonely_23 : decode cX2_lonely 23 = .ok (.ifCond .ge 7, 3) := dk_156 0 7 (dk_at dksX2_lonely_1 0 rfl rfl)
theorem dX2_lonely_26 : decode cX2_lonely 26 = .ok (.iconst 1, 1) := dk_4 (dk_at dksX2_lonely_1 3 rfl rfl)
theorem dX2_lonely_27 : decode cX2_lonely 27 = .ok (.goto 4, 3) := dk_167 0 4 (dk_at dksX2_lonely_1 4 rfl rfl)
theorem dX2_lonely_30 : decode cX2_lonely 30 = .ok (.iconst 0, 1) := dk_3 (dk_at dksX2_lonely_1 7 rfl rfl)
theorem dX2_lonely_31 : decode cX2_lonely 31 = .ok (.istore_n 3, 1) := dk_62 (dk_at dksX2_lonely_1 8 rfl rfl)
theorem dX2_lonely_32 : decode cX2_lonely 32 = .ok (.iconst 0, 1) := dk_3 (dk_at dksX2_lonely_1 9 rfl rfl)
theorem dX2_lonely_33 : decode cX2_lonely 33 = .ok (.istore 4, 2) := dk_54 4 (dk_at dksX2_lonely_1 10 rfl rfl)
theorem dX2_lonely_35 : decode cX2_lonely 35 = .ok (.iload 4, 2) := dk_21 4 (dk_at dksX2_lonely_1 12 rfl rfl)
theorem dX2_lonely_37 : decode cX2_lonely 37 = .ok (.aload_n 0, 1) := dk_42 (dk_at dksX2_lonely_1 14 rfl rfl)
theorem dX2_lonely_38 : decode cX2_lonely 38 = .ok (.getfield 68, 3) := dk_180 0 68 (dk_at dksX2_lonely_1 15 rfl rfl)
theorem dX2_lonely_41 : decode cX2_lonely 41 = .ok (.if_icmp .ge 35, 3) := dk_162 0 35 (dk_at dksX2_lonely_1 18 rfl rfl)
theorem dX2_lonely_44 : decode cX2_lonely 44 = .ok (.iload_n 3, 1) := dk_29 (dk_at dksX2_lonely_1 21 rfl rfl)
theorem dX2_lonely_45 : decode cX2_lonely 45 = .ok (.ifCond .eq 23, 3) := dk_153 0 23 (dk_at dksX2_lonely_2 0 rfl rfl)
theorem dX2_lonely_48 : decode cX2_lonely 48 = .ok (.iload 4, 2) := dk_21 4 (dk_at dksX2_lonely_2 3 rfl rfl)
theorem dX2_lonely_50 : decode cX2_lonely 50 = .ok (.iload_n 2, 1) := dk_28 (dk_at dksX2_lonely_2 5 rfl rfl)
theorem dX2_lonely_51 : decode cX2_lonely 51 = .ok (.if_icmp .eq 13, 3) := dk_159 0 13 (dk_at dksX2_lonely_2 6 rfl rfl)
theorem dX2_lonely_54 : decode cX2_lonely 54 = .ok (.aload_n 0, 1) := dk_42 (dk_at dksX2_lonely_2 9 rfl rfl)
theorem dX2_lonely_55 : decode cX2_lonely 55 = .ok (.iload 4, 2) := dk_21 4 (dk_at dksX2_lonely_2 10 rfl rfl)
theorem dX2_lonely_57 : decode cX2_lonely 57 = .ok (.iload_n 2, 1) := dk_28 (dk_at dksX2_lonely_2 12 rfl rfl)
theorem dX2_lonely_58 : decode cX2_lonely 58 = .ok (.invokevirtual 239, 3) := dk_182 0 239 (dk_at dksX2_lonely_2 13 rfl rfl)
theorem dX2_lonely_61 : decode cX2_lonely 61 = .ok (.ifCond .ne 7, 3) := dk_154 0 7 (dk_at dksX2_lonely_2 16 rfl rfl)
theorem dX2_lonely_64 : decode cX2_lonely 64 = .ok (.iconst 1, 1) := dk_4 (dk_at dksX2_lonely_2 19 rfl rfl)
theorem dX2_lonely_65 : decode cX2_lonely 65 = .ok (.goto 4, 3) := dk_167 0 4 (dk_at dksX2_lonely_2 20 rfl rfl)
theorem dX2_lonely_68 : decode cX2_lonely 68 = .ok (.iconst 0, 1) := dk_3 (dk_at dksX2_lonely_2 23 rfl rfl)
theorem dX2_lonely_69 : decode cX2_lonely 69 = .ok (.istore_n 3, 1) := dk_62 (dk_at dksX2_lonely_3 0 rfl rfl)
theorem dX2_lonely_70 : decode cX2_lonely 70 = .ok (.iinc 4 1, 3) := dk_132 4 1 (dk_at dksX2_lonely_3 1 rfl rfl)
theorem dX2_lonely_73 : decode cX2_lonely 73 = .ok (.goto (-38), 3) := dk_167 255 218 (dk_at dksX2_lonely_3 4 rfl rfl)
theorem dX2_lonely_76 : decode cX2_lonely 76 = .ok (.iload_n 1, 1) := dk_27 (dk_at dksX2_lonely_3 7 rfl rfl)
theorem dX2_lonely_77 : decode cX2_lonely 77 = .ok (.iload_n 3, 1) := dk_29 (dk_at dksX2_lonely_3 8 rfl rfl)
theorem dX2_lonely_78 : decode cX2_lonely 78 = .ok (.ifCond .eq 9, 3) := dk_153 0 9 (dk_at dksX2_lonely_3 9 rfl rfl)
theorem dX2_lonely_81 : decode cX2_lonely 81 = .ok (.iconst 1, 1) := dk_4 (dk_at dksX2_lonely_3 12 rfl rfl)
theorem dX2_lonely_82 : decode cX2_lonely 82 = .ok (.iload_n 2, 1) := dk_28 (dk_at dksX2_lonely_3 13 rfl rfl)
theorem dX2_lonely_83 : decode cX2_lonely 83 = .ok (.ishl, 1) := dk_120 (dk_at dksX2_lonely_3 14 rfl rfl)
theorem dX2_lonely_84 : decode cX2_lonely 84 = .ok (.goto 4, 3) := dk_167 0 4 (dk_at dksX2_lonely_3 15 rfl rfl)
theorem dX2_lonely_87 : decode cX2_lonely 87 = .ok (.iconst 0, 1) := dk_3 (dk_at dksX2_lonely_3 18 rfl rfl)
theorem dX2_lonely_88 : decode cX2_lonely 88 = .ok (.ior, 1) := dk_128 (dk_at dksX2_lonely_3 19 rfl rfl)
theorem dX2_lonely_89 : decode cX2_lonely 89 = .ok (.istore_n 1, 1) := dk_60 (dk_at dksX2_lonely_3 20 rfl rfl)
theorem dX2_lonely_90 : decode cX2_lonely 90 = .ok (.iinc 2 1, 3) := dk_132 2 1 (dk_at dksX2_lonely_3 21 rfl rfl)
theorem dX2_lonely_93 : decode cX2_lonely 93 = .ok (.goto (-84), 3) := dk_167 255 172 (dk_at dksX2_lonely_4 0 rfl rfl)
theorem dX2_lonely_96 : decode cX2_lonely 96 = .ok (.iload_n 1, 1) := dk_27 (dk_at dksX2_lonely_4 3 rfl rfl)
theorem dX2_lonely_97 : decode cX2_lonely 97 = .ok (.ireturn, 1) := dk_172 (dk_at dksX2_lonely_4 4 rfl rfl)
abbrev cX2_spread : ByteArray := prog_12_method_88_code
def yX2_spread : MethodName := ⟨RX2, "spread", "()I"⟩
def dkwX2_spread_3 : List UInt8 := [132, 4, 1, 167, 255, 205, 132, 3, 1, 167, 255, 186, 27, 28, 100, 172]
abbrev dktX2_spread_3 : List UInt8 := dkwX2_spread_3 ++ []
def dkwX2_spread_2 : List UInt8 := [21, 5, 167, 0, 4, 27, 60, 28, 155, 0, 9, 21, 5, 28, 162, 0, 8, 21, 5, 167, 0, 4, 28, 61]
abbrev dktX2_spread_2 : List UInt8 := dkwX2_spread_2 ++ dktX2_spread_3
def dkwX2_spread_1 : List UInt8 := [21, 4, 42, 180, 0, 68, 162, 0, 48, 42, 29, 21, 4, 182, 0, 79, 54, 5, 21, 5, 27, 164, 0, 8]
abbrev dktX2_spread_1 : List UInt8 := dkwX2_spread_1 ++ dktX2_spread_2
def dkwX2_spread_0 : List UInt8 := [42, 3, 181, 0, 65, 2, 60, 2, 61, 3, 62, 29, 42, 180, 0, 68, 162, 0, 68, 29, 4, 96, 54, 4]
abbrev dktX2_spread_0 : List UInt8 := dkwX2_spread_0 ++ dktX2_spread_1
theorem dksX2_spread_0 : cX2_spread.data.toList.drop 0 = dktX2_spread_0 := by decide +kernel
theorem dksX2_spread_1 : cX2_spread.data.toList.drop 24 = dktX2_spread_1 := dk_seg dksX2_spread_0 24 rfl rfl
theorem dksX2_spread_2 : cX2_spread.data.toList.drop 48 = dktX2_spread_2 := dk_seg dksX2_spread_1 24 rfl rfl
theorem dksX2_spread_3 : cX2_spread.data.toList.drop 72 = dktX2_spread_3 := dk_seg dksX2_spread_2 24 rfl rfl
theorem dX2_spread_0 : decode cX2_spread 0 = .ok (.aload_n 0, 1) := dk_42 (dk_at dksX2_spread_0 0 rfl rfl)
theorem dX2_spread_1 : decode cX2_spread 1 = .ok (.iconst 0, 1) := dk_3 (dk_at dksX2_spread_0 1 rfl rfl)
theorem dX2_spread_2 : decode cX2_spread 2 = .ok (.putfield 65, 3) := dk_181 0 65 (dk_at dksX2_spread_0 2 rfl rfl)
theorem dX2_spread_5 : decode cX2_spread 5 = .ok (.iconst (-1), 1) := dk_2 (dk_at dksX2_spread_0 5 rfl rfl)
theorem dX2_spread_6 : decode cX2_spread 6 = .ok (.istore_n 1, 1) := dk_60 (dk_at dksX2_spread_0 6 rfl rfl)
theorem dX2_spread_7 : decode cX2_spread 7 = .ok (.iconst (-1), 1) := dk_2 (dk_at dksX2_spread_0 7 rfl rfl)
theorem dX2_spread_8 : decode cX2_spread 8 = .ok (.istore_n 2, 1) := dk_61 (dk_at dksX2_spread_0 8 rfl rfl)
theorem dX2_spread_9 : decode cX2_spread 9 = .ok (.iconst 0, 1) := dk_3 (dk_at dksX2_spread_0 9 rfl rfl)
theorem dX2_spread_10 : decode cX2_spread 10 = .ok (.istore_n 3, 1) := dk_62 (dk_at dksX2_spread_0 10 rfl rfl)
theorem dX2_spread_11 : decode cX2_spread 11 = .ok (.iload_n 3, 1) := dk_29 (dk_at dksX2_spread_0 11 rfl rfl)
theorem dX2_spread_12 : decode cX2_spread 12 = .ok (.aload_n 0, 1) := dk_42 (dk_at dksX2_spread_0 12 rfl rfl)
theorem dX2_spread_13 : decode cX2_spread 13 = .ok (.getfield 68, 3) := dk_180 0 68 (dk_at dksX2_spread_0 13 rfl rfl)
theorem dX2_spread_16 : decode cX2_spread 16 = .ok (.if_icmp .ge 68, 3) := dk_162 0 68 (dk_at dksX2_spread_0 16 rfl rfl)
theorem dX2_spread_19 : decode cX2_spread 19 = .ok (.iload_n 3, 1) := dk_29 (dk_at dksX2_spread_0 19 rfl rfl)
theorem dX2_spread_20 : decode cX2_spread 20 = .ok (.iconst 1, 1) := dk_4 (dk_at dksX2_spread_0 20 rfl rfl)
theorem dX2_spread_21 : decode cX2_spread 21 = .ok (.iadd, 1) := dk_96 (dk_at dksX2_spread_0 21 rfl rfl)
theorem dX2_spread_22 : decode cX2_spread 22 = .ok (.istore 4, 2) := dk_54 4 (dk_at dksX2_spread_0 22 rfl rfl)
theorem dX2_spread_24 : decode cX2_spread 24 = .ok (.iload 4, 2) := dk_21 4 (dk_at dksX2_spread_1 0 rfl rfl)
theorem dX2_spread_26 : decode cX2_spread 26 = .ok (.aload_n 0, 1) := dk_42 (dk_at dksX2_spread_1 2 rfl rfl)
theorem dX2_spread_27 : decode cX2_spread 27 = .ok (.getfield 68, 3) := dk_180 0 68 (dk_at dksX2_spread_1 3 rfl rfl)
theorem dX2_spread_30 : decode cX2_spread 30 = .ok (.if_icmp .ge 48, 3) := dk_162 0 48 (dk_at dksX2_spread_1 6 rfl rfl)
theorem dX2_spread_33 : decode cX2_spread 33 = .ok (.aload_n 0, 1) := dk_42 (dk_at dksX2_spread_1 9 rfl rfl)
theorem dX2_spread_34 : decode cX2_spread 34 = .ok (.iload_n 3, 1) := dk_29 (dk_at dksX2_spread_1 10 rfl rfl)
theorem dX2_spread_35 : decode cX2_spread 35 = .ok (.iload 4, 2) := dk_21 4 (dk_at dksX2_spread_1 11 rfl rfl)
theorem dX2_spread_37 : decode cX2_spread 37 = .ok (.invokevirtual 79, 3) := dk_182 0 79 (dk_at dksX2_spread_1 13 rfl rfl)
theorem dX2_spread_40 : decode cX2_spread 40 = .ok (.istore 5, 2) := dk_54 5 (dk_at dksX2_spread_1 16 rfl rfl)
theorem dX2_spread_42 : decode cX2_spread 42 = .ok (.iload 5, 2) := dk_21 5 (dk_at dksX2_spread_1 18 rfl rfl)
theorem dX2_spread_44 : decode cX2_spread 44 = .ok (.iload_n 1, 1) := dk_27 (dk_at dksX2_spread_1 20 rfl rfl)
theorem dX2_spread_45 : decode cX2_spread 45 = .ok (.if_icmp .le 8, 3) := dk_164 0 8 (dk_at dksX2_spread_1 21 rfl rfl)
theorem dX2_spread_48 : decode cX2_spread 48 = .ok (.iload 5, 2) := dk_21 5 (dk_at dksX2_spread_2 0 rfl rfl)
theorem dX2_spread_50 : decode cX2_spread 50 = .ok (.goto 4, 3) := dk_167 0 4 (dk_at dksX2_spread_2 2 rfl rfl)
theorem dX2_spread_53 : decode cX2_spread 53 = .ok (.iload_n 1, 1) := dk_27 (dk_at dksX2_spread_2 5 rfl rfl)
theorem dX2_spread_54 : decode cX2_spread 54 = .ok (.istore_n 1, 1) := dk_60 (dk_at dksX2_spread_2 6 rfl rfl)
theorem dX2_spread_55 : decode cX2_spread 55 = .ok (.iload_n 2, 1) := dk_28 (dk_at dksX2_spread_2 7 rfl rfl)
theorem dX2_spread_56 : decode cX2_spread 56 = .ok (.ifCond .lt 9, 3) := dk_155 0 9 (dk_at dksX2_spread_2 8 rfl rfl)
theorem dX2_spread_59 : decode cX2_spread 59 = .ok (.iload 5, 2) := dk_21 5 (dk_at dksX2_spread_2 11 rfl rfl)
theorem dX2_spread_61 : decode cX2_spread 61 = .ok (.iload_n 2, 1) := dk_28 (dk_at dksX2_spread_2 13 rfl rfl)
theorem dX2_spread_62 : decode cX2_spread 62 = .ok (.if_icmp .ge 8, 3) := dk_162 0 8 (dk_at dksX2_spread_2 14 rfl rfl)
theorem dX2_spread_65 : decode cX2_spread 65 = .ok (.iload 5, 2) := dk_21 5 (dk_at dksX2_spread_2 17 rfl rfl)
theorem dX2_spread_67 : decode cX2_spread 67 = .ok (.goto 4, 3) := dk_167 0 4 (dk_at dksX2_spread_2 19 rfl rfl)
theorem dX2_spread_70 : decode cX2_spread 70 = .ok (.iload_n 2, 1) := dk_28 (dk_at dksX2_spread_2 22 rfl rfl)
theorem dX2_spread_71 : decode cX2_spread 71 = .ok (.istore_n 2, 1) := dk_61 (dk_at dksX2_spread_2 23 rfl rfl)
theorem dX2_spread_72 : decode cX2_spread 72 = .ok (.iinc 4 1, 3) := dk_132 4 1 (dk_at dksX2_spread_3 0 rfl rfl)
theorem dX2_spread_75 : decode cX2_spread 75 = .ok (.goto (-51), 3) := dk_167 255 205 (dk_at dksX2_spread_3 3 rfl rfl)
theorem dX2_spread_78 : decode cX2_spread 78 = .ok (.iinc 3 1, 3) := dk_132 3 1 (dk_at dksX2_spread_3 6 rfl rfl)
theorem dX2_spread_81 : decode cX2_spread 81 = .ok (.goto (-70), 3) := dk_167 255 186 (dk_at dksX2_spread_3 9 rfl rfl)
theorem dX2_spread_84 : decode cX2_spread 84 = .ok (.iload_n 1, 1) := dk_27 (dk_at dksX2_spread_3 12 rfl rfl)
theorem dX2_spread_85 : decode cX2_spread 85 = .ok (.iload_n 2, 1) := dk_28 (dk_at dksX2_spread_3 13 rfl rfl)
theorem dX2_spread_86 : decode cX2_spread 86 = .ok (.isub, 1) := dk_100 (dk_at dksX2_spread_3 14 rfl rfl)
theorem dX2_spread_87 : decode cX2_spread 87 = .ok (.ireturn, 1) := dk_172 (dk_at dksX2_spread_3 15 rfl rfl)
abbrev cX2_mean : ByteArray := prog_12_method_89_code
def yX2_mean : MethodName := ⟨RX2, "mean", "(I)J"⟩
def dkwX2_mean_2 : List UInt8 := [182, 0, 128, 133, 101, 173]
abbrev dktX2_mean_2 : List UInt8 := dkwX2_mean_2 ++ []
def dkwX2_mean_1 : List UInt8 := [42, 180, 0, 68, 4, 100, 104, 5, 108, 133, 27, 184, 1, 32, 167, 0, 14, 20, 1, 30, 42, 16, 254]
abbrev dktX2_mean_1 : List UInt8 := dkwX2_mean_1 ++ dktX2_mean_2
def dkwX2_mean_0 : List UInt8 := [42, 3, 181, 0, 65, 27, 133, 9, 10, 184, 0, 71, 153, 0, 29, 42, 182, 0, 226, 133, 42, 180, 0, 68]
abbrev dktX2_mean_0 : List UInt8 := dkwX2_mean_0 ++ dktX2_mean_1
theorem dksX2_mean_0 : cX2_mean.data.toList.drop 0 = dktX2_mean_0 := by decide +kernel
theorem dksX2_mean_1 : cX2_mean.data.toList.drop 24 = dktX2_mean_1 := dk_seg dksX2_mean_0 24 rfl rfl
theorem dksX2_mean_2 : cX2_mean.data.toList.drop 47 = dktX2_mean_2 := dk_seg dksX2_mean_1 23 rfl rfl
theorem dX2_mean_0 : decode cX2_mean 0 = .ok (.aload_n 0, 1) := dk_42 (dk_at dksX2_mean_0 0 rfl rfl)
theorem dX2_mean_1 : decode cX2_mean 1 = .ok (.iconst 0, 1) := dk_3 (dk_at dksX2_mean_0 1 rfl rfl)
theorem dX2_mean_2 : decode cX2_mean 2 = .ok (.putfield 65, 3) := dk_181 0 65 (dk_at dksX2_mean_0 2 rfl rfl)
theorem dX2_mean_5 : decode cX2_mean 5 = .ok (.iload_n 1, 1) := dk_27 (dk_at dksX2_mean_0 5 rfl rfl)
theorem dX2_mean_6 : decode cX2_mean 6 = .ok (.i2l, 1) := dk_133 (dk_at dksX2_mean_0 6 rfl rfl)
theorem dX2_mean_7 : decode cX2_mean 7 = .ok (.lconst 0, 1) := dk_9 (dk_at dksX2_mean_0 7 rfl rfl)
theorem dX2_mean_8 : decode cX2_mean 8 = .ok (.lconst 1, 1) := dk_10 (dk_at dksX2_mean_0 8 rfl rfl)
theorem dX2_mean_9 : decode cX2_mean 9 = .ok (.invokestatic 71, 3) := dk_184 0 71 (dk_at dksX2_mean_0 9 rfl rfl)
theorem dX2_mean_12 : decode cX2_mean 12 = .ok (.ifCond .eq 29, 3) := dk_153 0 29 (dk_at dksX2_mean_0 12 rfl rfl)
theorem dX2_mean_15 : decode cX2_mean 15 = .ok (.aload_n 0, 1) := dk_42 (dk_at dksX2_mean_0 15 rfl rfl)
theorem dX2_mean_16 : decode cX2_mean 16 = .ok (.invokevirtual 226, 3) := dk_182 0 226 (dk_at dksX2_mean_0 16 rfl rfl)
theorem dX2_mean_19 : decode cX2_mean 19 = .ok (.i2l, 1) := dk_133 (dk_at dksX2_mean_0 19 rfl rfl)
theorem dX2_mean_20 : decode cX2_mean 20 = .ok (.aload_n 0, 1) := dk_42 (dk_at dksX2_mean_0 20 rfl rfl)
theorem dX2_mean_21 : decode cX2_mean 21 = .ok (.getfield 68, 3) := dk_180 0 68 (dk_at dksX2_mean_0 21 rfl rfl)
theorem dX2_mean_24 : decode cX2_mean 24 = .ok (.aload_n 0, 1) := dk_42 (dk_at dksX2_mean_1 0 rfl rfl)
theorem dX2_mean_25 : decode cX2_mean 25 = .ok (.getfield 68, 3) := dk_180 0 68 (dk_at dksX2_mean_1 1 rfl rfl)
theorem dX2_mean_28 : decode cX2_mean 28 = .ok (.iconst 1, 1) := dk_4 (dk_at dksX2_mean_1 4 rfl rfl)
theorem dX2_mean_29 : decode cX2_mean 29 = .ok (.isub, 1) := dk_100 (dk_at dksX2_mean_1 5 rfl rfl)
theorem dX2_mean_30 : decode cX2_mean 30 = .ok (.imul, 1) := dk_104 (dk_at dksX2_mean_1 6 rfl rfl)
theorem dX2_mean_31 : decode cX2_mean 31 = .ok (.iconst 2, 1) := dk_5 (dk_at dksX2_mean_1 7 rfl rfl)
theorem dX2_mean_32 : decode cX2_mean 32 = .ok (.idiv, 1) := dk_108 (dk_at dksX2_mean_1 8 rfl rfl)
theorem dX2_mean_33 : decode cX2_mean 33 = .ok (.i2l, 1) := dk_133 (dk_at dksX2_mean_1 9 rfl rfl)
theorem dX2_mean_34 : decode cX2_mean 34 = .ok (.iload_n 1, 1) := dk_27 (dk_at dksX2_mean_1 10 rfl rfl)
theorem dX2_mean_35 : decode cX2_mean 35 = .ok (.invokestatic 288, 3) := dk_184 1 32 (dk_at dksX2_mean_1 11 rfl rfl)
theorem dX2_mean_38 : decode cX2_mean 38 = .ok (.goto 14, 3) := dk_167 0 14 (dk_at dksX2_mean_1 14 rfl rfl)
theorem dX2_mean_41 : decode cX2_mean 41 = .ok (.ldc2_w 286, 3) := dk_20 1 30 (dk_at dksX2_mean_1 17 rfl rfl)
theorem dX2_mean_44 : decode cX2_mean 44 = .ok (.aload_n 0, 1) := dk_42 (dk_at dksX2_mean_1 20 rfl rfl)
theorem dX2_mean_45 : decode cX2_mean 45 = .ok (.bipush (-2), 2) := dk_16 254 (dk_at dksX2_mean_1 21 rfl rfl)
theorem dX2_mean_47 : decode cX2_mean 47 = .ok (.invokevirtual 128, 3) := dk_182 0 128 (dk_at dksX2_mean_2 0 rfl rfl)
theorem dX2_mean_50 : decode cX2_mean 50 = .ok (.i2l, 1) := dk_133 (dk_at dksX2_mean_2 3 rfl rfl)
theorem dX2_mean_51 : decode cX2_mean 51 = .ok (.lsub, 1) := dk_101 (dk_at dksX2_mean_2 4 rfl rfl)
theorem dX2_mean_52 : decode cX2_mean 52 = .ok (.lreturn, 1) := dk_173 (dk_at dksX2_mean_2 5 rfl rfl)
abbrev cX2_enemy : ByteArray := prog_12_method_90_code
def yX2_enemy : MethodName := ⟨RX2, "enemy", "(I)I"⟩
def dkwX2_enemy_2 : List UInt8 := [27, 28, 182, 0, 79, 164, 0, 7, 29, 167, 0, 4, 28, 61, 132, 3, 1, 167, 255, 215, 28, 172]
abbrev dktX2_enemy_2 : List UInt8 := dkwX2_enemy_2 ++ []
def dkwX2_enemy_1 : List UInt8 := [29, 42, 180, 0, 68, 162, 0, 39, 29, 27, 159, 0, 26, 28, 155, 0, 18, 42, 27, 29, 182, 0, 79, 42]
abbrev dktX2_enemy_1 : List UInt8 := dkwX2_enemy_1 ++ dktX2_enemy_2
def dkwX2_enemy_0 : List UInt8 := [42, 3, 181, 0, 65, 42, 27, 182, 0, 75, 154, 0, 9, 42, 2, 182, 0, 128, 172, 16, 247, 61, 3, 62]
abbrev dktX2_enemy_0 : List UInt8 := dkwX2_enemy_0 ++ dktX2_enemy_1
theorem dksX2_enemy_0 : cX2_enemy.data.toList.drop 0 = dktX2_enemy_0 := by decide +kernel
theorem dksX2_enemy_1 : cX2_enemy.data.toList.drop 24 = dktX2_enemy_1 := dk_seg dksX2_enemy_0 24 rfl rfl
theorem dksX2_enemy_2 : cX2_enemy.data.toList.drop 48 = dktX2_enemy_2 := dk_seg dksX2_enemy_1 24 rfl rfl
theorem dX2_enemy_0 : decode cX2_enemy 0 = .ok (.aload_n 0, 1) := dk_42 (dk_at dksX2_enemy_0 0 rfl rfl)
theorem dX2_enemy_1 : decode cX2_enemy 1 = .ok (.iconst 0, 1) := dk_3 (dk_at dksX2_enemy_0 1 rfl rfl)
theorem dX2_enemy_2 : decode cX2_enemy 2 = .ok (.putfield 65, 3) := dk_181 0 65 (dk_at dksX2_enemy_0 2 rfl rfl)
theorem dX2_enemy_5 : decode cX2_enemy 5 = .ok (.aload_n 0, 1) := dk_42 (dk_at dksX2_enemy_0 5 rfl rfl)
theorem dX2_enemy_6 : decode cX2_enemy 6 = .ok (.iload_n 1, 1) := dk_27 (dk_at dksX2_enemy_0 6 rfl rfl)
theorem dX2_enemy_7 : decode cX2_enemy 7 = .ok (.invokevirtual 75, 3) := dk_182 0 75 (dk_at dksX2_enemy_0 7 rfl rfl)
theorem dX2_enemy_10 : decode cX2_enemy 10 = .ok (.ifCond .ne 9, 3) := dk_154 0 9 (dk_at dksX2_enemy_0 10 rfl rfl)
theorem dX2_enemy_13 : decode cX2_enemy 13 = .ok (.aload_n 0, 1) := dk_42 (dk_at dksX2_enemy_0 13 rfl rfl)
theorem dX2_enemy_14 : decode cX2_enemy 14 = .ok (.iconst (-1), 1) := dk_2 (dk_at dksX2_enemy_0 14 rfl rfl)
theorem dX2_enemy_15 : decode cX2_enemy 15 = .ok (.invokevirtual 128, 3) := dk_182 0 128 (dk_at dksX2_enemy_0 15 rfl rfl)
theorem dX2_enemy_18 : decode cX2_enemy 18 = .ok (.ireturn, 1) := dk_172 (dk_at dksX2_enemy_0 18 rfl rfl)
theorem dX2_enemy_19 : decode cX2_enemy 19 = .ok (.bipush (-9), 2) := dk_16 247 (dk_at dksX2_enemy_0 19 rfl rfl)
theorem dX2_enemy_21 : decode cX2_enemy 21 = .ok (.istore_n 2, 1) := dk_61 (dk_at dksX2_enemy_0 21 rfl rfl)
theorem dX2_enemy_22 : decode cX2_enemy 22 = .ok (.iconst 0, 1) := dk_3 (dk_at dksX2_enemy_0 22 rfl rfl)
theorem dX2_enemy_23 : decode cX2_enemy 23 = .ok (.istore_n 3, 1) := dk_62 (dk_at dksX2_enemy_0 23 rfl rfl)
theorem dX2_enemy_24 : decode cX2_enemy 24 = .ok (.iload_n 3, 1) := dk_29 (dk_at dksX2_enemy_1 0 rfl rfl)
theorem dX2_enemy_25 : decode cX2_enemy 25 = .ok (.aload_n 0, 1) := dk_42 (dk_at dksX2_enemy_1 1 rfl rfl)
theorem dX2_enemy_26 : decode cX2_enemy 26 = .ok (.getfield 68, 3) := dk_180 0 68 (dk_at dksX2_enemy_1 2 rfl rfl)
theorem dX2_enemy_29 : decode cX2_enemy 29 = .ok (.if_icmp .ge 39, 3) := dk_162 0 39 (dk_at dksX2_enemy_1 5 rfl rfl)
theorem dX2_enemy_32 : decode cX2_enemy 32 = .ok (.iload_n 3, 1) := dk_29 (dk_at dksX2_enemy_1 8 rfl rfl)
theorem dX2_enemy_33 : decode cX2_enemy 33 = .ok (.iload_n 1, 1) := dk_27 (dk_at dksX2_enemy_1 9 rfl rfl)
theorem dX2_enemy_34 : decode cX2_enemy 34 = .ok (.if_icmp .eq 26, 3) := dk_159 0 26 (dk_at dksX2_enemy_1 10 rfl rfl)
theorem dX2_enemy_37 : decode cX2_enemy 37 = .ok (.iload_n 2, 1) := dk_28 (dk_at dksX2_enemy_1 13 rfl rfl)
theorem dX2_enemy_38 : decode cX2_enemy 38 = .ok (.ifCond .lt 18, 3) := dk_155 0 18 (dk_at dksX2_enemy_1 14 rfl rfl)
theorem dX2_enemy_41 : decode cX2_enemy 41 = .ok (.aload_n 0, 1) := dk_42 (dk_at dksX2_enemy_1 17 rfl rfl)
theorem dX2_enemy_42 : decode cX2_enemy 42 = .ok (.iload_n 1, 1) := dk_27 (dk_at dksX2_enemy_1 18 rfl rfl)
theorem dX2_enemy_43 : decode cX2_enemy 43 = .ok (.iload_n 3, 1) := dk_29 (dk_at dksX2_enemy_1 19 rfl rfl)
theorem dX2_enemy_44 : decode cX2_enemy 44 = .ok (.invokevirtual 79, 3) := dk_182 0 79 (dk_at dksX2_enemy_1 20 rfl rfl)
theorem dX2_enemy_47 : decode cX2_enemy 47 = .ok (.aload_n 0, 1) := dk_42 (dk_at dksX2_enemy_1 23 rfl rfl)
theorem dX2_enemy_48 : decode cX2_enemy 48 = .ok (.iload_n 1, 1) := dk_27 (dk_at dksX2_enemy_2 0 rfl rfl)
theorem dX2_enemy_49 : decode cX2_enemy 49 = .ok (.iload_n 2, 1) := dk_28 (dk_at dksX2_enemy_2 1 rfl rfl)
theorem dX2_enemy_50 : decode cX2_enemy 50 = .ok (.invokevirtual 79, 3) := dk_182 0 79 (dk_at dksX2_enemy_2 2 rfl rfl)
theorem dX2_enemy_53 : decode cX2_enemy 53 = .ok (.if_icmp .le 7, 3) := dk_164 0 7 (dk_at dksX2_enemy_2 5 rfl rfl)
theorem dX2_enemy_56 : decode cX2_enemy 56 = .ok (.iload_n 3, 1) := dk_29 (dk_at dksX2_enemy_2 8 rfl rfl)
theorem dX2_enemy_57 : decode cX2_enemy 57 = .ok (.goto 4, 3) := dk_167 0 4 (dk_at dksX2_enemy_2 9 rfl rfl)
theorem dX2_enemy_60 : decode cX2_enemy 60 = .ok (.iload_n 2, 1) := dk_28 (dk_at dksX2_enemy_2 12 rfl rfl)
theorem dX2_enemy_61 : decode cX2_enemy 61 = .ok (.istore_n 2, 1) := dk_61 (dk_at dksX2_enemy_2 13 rfl rfl)
theorem dX2_enemy_62 : decode cX2_enemy 62 = .ok (.iinc 3 1, 3) := dk_132 3 1 (dk_at dksX2_enemy_2 14 rfl rfl)
theorem dX2_enemy_65 : decode cX2_enemy 65 = .ok (.goto (-41), 3) := dk_167 255 215 (dk_at dksX2_enemy_2 17 rfl rfl)
theorem dX2_enemy_68 : decode cX2_enemy 68 = .ok (.iload_n 2, 1) := dk_28 (dk_at dksX2_enemy_2 20 rfl rfl)
theorem dX2_enemy_69 : decode cX2_enemy 69 = .ok (.ireturn, 1) := dk_172 (dk_at dksX2_enemy_2 21 rfl rfl)
abbrev cX2_peace : ByteArray := prog_12_method_92_code
def yX2_peace : MethodName := ⟨RX2, "peace", "()I"⟩
def dkwX2_peace_2 : List UInt8 := [132, 2, 1, 167, 255, 221, 42, 182, 0, 184, 27, 172]
abbrev dktX2_peace_2 : List UInt8 := dkwX2_peace_2 ++ []
def dkwX2_peace_1 : List UInt8 := [42, 182, 1, 39, 153, 0, 7, 28, 167, 0, 5, 16, 247, 60, 42, 16, 247, 16, 247, 182, 0, 117]
abbrev dktX2_peace_1 : List UInt8 := dkwX2_peace_1 ++ dktX2_peace_2
def dkwX2_peace_0 : List UInt8 := [42, 3, 181, 0, 65, 16, 247, 60, 42, 182, 0, 178, 3, 61, 28, 16, 99, 163, 0, 35, 27, 156, 0, 31]
abbrev dktX2_peace_0 : List UInt8 := dkwX2_peace_0 ++ dktX2_peace_1
theorem dksX2_peace_0 : cX2_peace.data.toList.drop 0 = dktX2_peace_0 := by decide +kernel
theorem dksX2_peace_1 : cX2_peace.data.toList.drop 24 = dktX2_peace_1 := dk_seg dksX2_peace_0 24 rfl rfl
theorem dksX2_peace_2 : cX2_peace.data.toList.drop 46 = dktX2_peace_2 := dk_seg dksX2_peace_1 22 rfl rfl
theorem dX2_peace_0 : decode cX2_peace 0 = .ok (.aload_n 0, 1) := dk_42 (dk_at dksX2_peace_0 0 rfl rfl)
theorem dX2_peace_1 : decode cX2_peace 1 = .ok (.iconst 0, 1) := dk_3 (dk_at dksX2_peace_0 1 rfl rfl)
theorem dX2_peace_2 : decode cX2_peace 2 = .ok (.putfield 65, 3) := dk_181 0 65 (dk_at dksX2_peace_0 2 rfl rfl)
theorem dX2_peace_5 : decode cX2_peace 5 = .ok (.bipush (-9), 2) := dk_16 247 (dk_at dksX2_peace_0 5 rfl rfl)
theorem dX2_peace_7 : decode cX2_peace 7 = .ok (.istore_n 1, 1) := dk_60 (dk_at dksX2_peace_0 7 rfl rfl)
theorem dX2_peace_8 : decode cX2_peace 8 = .ok (.aload_n 0, 1) := dk_42 (dk_at dksX2_peace_0 8 rfl rfl)
theorem dX2_peace_9 : decode cX2_peace 9 = .ok (.invokevirtual 178, 3) := dk_182 0 178 (dk_at dksX2_peace_0 9 rfl rfl)
theorem dX2_peace_12 : decode cX2_peace 12 = .ok (.iconst 0, 1) := dk_3 (dk_at dksX2_peace_0 12 rfl rfl)
theorem dX2_peace_13 : decode cX2_peace 13 = .ok (.istore_n 2, 1) := dk_61 (dk_at dksX2_peace_0 13 rfl rfl)
theorem dX2_peace_14 : decode cX2_peace 14 = .ok (.iload_n 2, 1) := dk_28 (dk_at dksX2_peace_0 14 rfl rfl)
theorem dX2_peace_15 : decode cX2_peace 15 = .ok (.bipush 99, 2) := dk_16 99 (dk_at dksX2_peace_0 15 rfl rfl)
theorem dX2_peace_17 : decode cX2_peace 17 = .ok (.if_icmp .gt 35, 3) := dk_163 0 35 (dk_at dksX2_peace_0 17 rfl rfl)
theorem dX2_peace_20 : decode cX2_peace 20 = .ok (.iload_n 1, 1) := dk_27 (dk_at dksX2_peace_0 20 rfl rfl)
theorem dX2_peace_21 : decode cX2_peace 21 = .ok (.ifCond .ge 31, 3) := dk_156 0 31 (dk_at dksX2_peace_0 21 rfl rfl)
theorem dX2_peace_24 : decode cX2_peace 24 = .ok (.aload_n 0, 1) := dk_42 (dk_at dksX2_peace_1 0 rfl rfl)
theorem dX2_peace_25 : decode cX2_peace 25 = .ok (.invokevirtual 295, 3) := dk_182 1 39 (dk_at dksX2_peace_1 1 rfl rfl)
theorem dX2_peace_28 : decode cX2_peace 28 = .ok (.ifCond .eq 7, 3) := dk_153 0 7 (dk_at dksX2_peace_1 4 rfl rfl)
theorem dX2_peace_31 : decode cX2_peace 31 = .ok (.iload_n 2, 1) := dk_28 (dk_at dksX2_peace_1 7 rfl rfl)
theorem dX2_peace_32 : decode cX2_peace 32 = .ok (.goto 5, 3) := dk_167 0 5 (dk_at dksX2_peace_1 8 rfl rfl)
theorem dX2_peace_35 : decode cX2_peace 35 = .ok (.bipush (-9), 2) := dk_16 247 (dk_at dksX2_peace_1 11 rfl rfl)
theorem dX2_peace_37 : decode cX2_peace 37 = .ok (.istore_n 1, 1) := dk_60 (dk_at dksX2_peace_1 13 rfl rfl)
theorem dX2_peace_38 : decode cX2_peace 38 = .ok (.aload_n 0, 1) := dk_42 (dk_at dksX2_peace_1 14 rfl rfl)
theorem dX2_peace_39 : decode cX2_peace 39 = .ok (.bipush (-9), 2) := dk_16 247 (dk_at dksX2_peace_1 15 rfl rfl)
theorem dX2_peace_41 : decode cX2_peace 41 = .ok (.bipush (-9), 2) := dk_16 247 (dk_at dksX2_peace_1 17 rfl rfl)
theorem dX2_peace_43 : decode cX2_peace 43 = .ok (.invokevirtual 117, 3) := dk_182 0 117 (dk_at dksX2_peace_1 19 rfl rfl)
theorem dX2_peace_46 : decode cX2_peace 46 = .ok (.iinc 2 1, 3) := dk_132 2 1 (dk_at dksX2_peace_2 0 rfl rfl)
theorem dX2_peace_49 : decode cX2_peace 49 = .ok (.goto (-35), 3) := dk_167 255 221 (dk_at dksX2_peace_2 3 rfl rfl)
theorem dX2_peace_52 : decode cX2_peace 52 = .ok (.aload_n 0, 1) := dk_42 (dk_at dksX2_peace_2 6 rfl rfl)
theorem dX2_peace_53 : decode cX2_peace 53 = .ok (.invokevirtual 184, 3) := dk_182 0 184 (dk_at dksX2_peace_2 7 rfl rfl)
theorem dX2_peace_56 : decode cX2_peace 56 = .ok (.iload_n 1, 1) := dk_27 (dk_at dksX2_peace_2 10 rfl rfl)
theorem dX2_peace_57 : decode cX2_peace 57 = .ok (.ireturn, 1) := dk_172 (dk_at dksX2_peace_2 11 rfl rfl)
abbrev cX2_isPeace : ByteArray := prog_12_method_91_code
def yX2_isPeace : MethodName := ⟨RX2, "isPeace", "()Z"⟩
def dkwX2_isPeace_2 : List UInt8 := [132, 2, 1, 167, 255, 212, 27, 172]
abbrev dktX2_isPeace_2 : List UInt8 := dkwX2_isPeace_2 ++ []
def dkwX2_isPeace_1 : List UInt8 := [155, 0, 17, 42, 28, 42, 180, 0, 19, 28, 46, 182, 0, 79, 154, 0, 7, 4, 167, 0, 4, 3, 60]
abbrev dktX2_isPeace_1 : List UInt8 := dkwX2_isPeace_1 ++ dktX2_isPeace_2
def dkwX2_isPeace_0 : List UInt8 := [4, 60, 3, 61, 28, 42, 180, 0, 68, 162, 0, 42, 27, 153, 0, 30, 42, 180, 0, 19, 28, 46]
abbrev dktX2_isPeace_0 : List UInt8 := dkwX2_isPeace_0 ++ dktX2_isPeace_1
theorem dksX2_isPeace_0 : cX2_isPeace.data.toList.drop 0 = dktX2_isPeace_0 := by decide +kernel
theorem dksX2_isPeace_1 : cX2_isPeace.data.toList.drop 22 = dktX2_isPeace_1 := dk_seg dksX2_isPeace_0 22 rfl rfl
theorem dksX2_isPeace_2 : cX2_isPeace.data.toList.drop 45 = dktX2_isPeace_2 := dk_seg dksX2_isPeace_1 23 rfl rfl
theorem dX2_isPeace_0 : decode cX2_isPeace 0 = .ok (.iconst 1, 1) := dk_4 (dk_at dksX2_isPeace_0 0 rfl rfl)
theorem dX2_isPeace_1 : decode cX2_isPeace 1 = .ok (.istore_n 1, 1) := dk_60 (dk_at dksX2_isPeace_0 1 rfl rfl)
theorem dX2_isPeace_2 : decode cX2_isPeace 2 = .ok (.iconst 0, 1) := dk_3 (dk_at dksX2_isPeace_0 2 rfl rfl)
theorem dX2_isPeace_3 : decode cX2_isPeace 3 = .ok (.istore_n 2, 1) := dk_61 (dk_at dksX2_isPeace_0 3 rfl rfl)
theorem dX2_isPeace_4 : decode cX2_isPeace 4 = .ok (.iload_n 2, 1) := dk_28 (dk_at dksX2_isPeace_0 4 rfl rfl)
theorem dX2_isPeace_5 : decode cX2_isPeace 5 = .ok (.aload_n 0, 1) := dk_42 (dk_at dksX2_isPeace_0 5 rfl rfl)
theorem dX2_isPeace_6 : decode cX2_isPeace 6 = .ok (.getfield 68, 3) := dk_180 0 68 (dk_at dksX2_isPeace_0 6 rfl rfl)
theorem dX2_isPeace_9 : decode cX2_isPeace 9 = .ok (.if_icmp .ge 42, 3) := dk_162 0 42 (dk_at dksX2_isPeace_0 9 rfl rfl)
theorem dX2_isPeace_12 : decode cX2_isPeace 12 = .ok (.iload_n 1, 1) := dk_27 (dk_at dksX2_isPeace_0 12 rfl rfl)
theorem dX2_isPeace_13 : decode cX2_isPeace 13 = .ok (.ifCond .eq 30, 3) := dk_153 0 30 (dk_at dksX2_isPeace_0 13 rfl rfl)
theorem dX2_isPeace_16 : decode cX2_isPeace 16 = .ok (.aload_n 0, 1) := dk_42 (dk_at dksX2_isPeace_0 16 rfl rfl)
theorem dX2_isPeace_17 : decode cX2_isPeace 17 = .ok (.getfield 19, 3) := dk_180 0 19 (dk_at dksX2_isPeace_0 17 rfl rfl)
theorem dX2_isPeace_20 : decode cX2_isPeace 20 = .ok (.iload_n 2, 1) := dk_28 (dk_at dksX2_isPeace_0 20 rfl rfl)
theorem dX2_isPeace_21 : decode cX2_isPeace 21 = .ok (.iaload, 1) := dk_46 (dk_at dksX2_isPeace_0 21 rfl rfl)
theorem dX2_isPeace_22 : decode cX2_isPeace 22 = .ok (.ifCond .lt 17, 3) := dk_155 0 17 (dk_at dksX2_isPeace_1 0 rfl rfl)
theorem dX2_isPeace_25 : decode cX2_isPeace 25 = .ok (.aload_n 0, 1) := dk_42 (dk_at dksX2_isPeace_1 3 rfl rfl)
theorem dX2_isPeace_26 : decode cX2_isPeace 26 = .ok (.iload_n 2, 1) := dk_28 (dk_at dksX2_isPeace_1 4 rfl rfl)
theorem dX2_isPeace_27 : decode cX2_isPeace 27 = .ok (.aload_n 0, 1) := dk_42 (dk_at dksX2_isPeace_1 5 rfl rfl)
theorem dX2_isPeace_28 : decode cX2_isPeace 28 = .ok (.getfield 19, 3) := dk_180 0 19 (dk_at dksX2_isPeace_1 6 rfl rfl)
theorem dX2_isPeace_31 : decode cX2_isPeace 31 = .ok (.iload_n 2, 1) := dk_28 (dk_at dksX2_isPeace_1 9 rfl rfl)
theorem dX2_isPeace_32 : decode cX2_isPeace 32 = .ok (.iaload, 1) := dk_46 (dk_at dksX2_isPeace_1 10 rfl rfl)
theorem dX2_isPeace_33 : decode cX2_isPeace 33 = .ok (.invokevirtual 79, 3) := dk_182 0 79 (dk_at dksX2_isPeace_1 11 rfl rfl)
theorem dX2_isPeace_36 : decode cX2_isPeace 36 = .ok (.ifCond .ne 7, 3) := dk_154 0 7 (dk_at dksX2_isPeace_1 14 rfl rfl)
theorem dX2_isPeace_39 : decode cX2_isPeace 39 = .ok (.iconst 1, 1) := dk_4 (dk_at dksX2_isPeace_1 17 rfl rfl)
theorem dX2_isPeace_40 : decode cX2_isPeace 40 = .ok (.goto 4, 3) := dk_167 0 4 (dk_at dksX2_isPeace_1 18 rfl rfl)
theorem dX2_isPeace_43 : decode cX2_isPeace 43 = .ok (.iconst 0, 1) := dk_3 (dk_at dksX2_isPeace_1 21 rfl rfl)
theorem dX2_isPeace_44 : decode cX2_isPeace 44 = .ok (.istore_n 1, 1) := dk_60 (dk_at dksX2_isPeace_1 22 rfl rfl)
theorem dX2_isPeace_45 : decode cX2_isPeace 45 = .ok (.iinc 2 1, 3) := dk_132 2 1 (dk_at dksX2_isPeace_2 0 rfl rfl)
theorem dX2_isPeace_48 : decode cX2_isPeace 48 = .ok (.goto (-44), 3) := dk_167 255 212 (dk_at dksX2_isPeace_2 3 rfl rfl)
theorem dX2_isPeace_51 : decode cX2_isPeace 51 = .ok (.iload_n 1, 1) := dk_27 (dk_at dksX2_isPeace_2 6 rfl rfl)
theorem dX2_isPeace_52 : decode cX2_isPeace 52 = .ok (.ireturn, 1) := dk_172 (dk_at dksX2_isPeace_2 7 rfl rfl)
abbrev cX2_helps : ByteArray := prog_12_method_93_code
def yX2_helps : MethodName := ⟨RX2, "helps", "(III)I"⟩
def dkwX2_helps_5 : List UInt8 := [54, 6, 42, 182, 0, 184, 21, 5, 21, 6, 100, 172]
abbrev dktX2_helps_5 : List UInt8 := dkwX2_helps_5 ++ []
def dkwX2_helps_4 : List UInt8 := [27, 92, 46, 4, 28, 120, 128, 79, 42, 29, 182, 0, 172, 42, 27, 42, 180, 0, 19, 27, 46, 182, 0, 79]
abbrev dktX2_helps_4 : List UInt8 := dkwX2_helps_4 ++ dktX2_helps_5
def dkwX2_helps_3 : List UInt8 := [182, 0, 172, 42, 27, 42, 180, 0, 19, 27, 46, 182, 0, 79, 54, 5, 42, 182, 0, 184, 42, 180, 0, 16]
abbrev dktX2_helps_3 : List UInt8 := dkwX2_helps_3 ++ dktX2_helps_4
def dkwX2_helps_2 : List UInt8 := [21, 4, 182, 0, 128, 100, 172, 42, 180, 0, 19, 27, 46, 156, 0, 5, 3, 172, 42, 182, 0, 178, 42, 29]
abbrev dktX2_helps_2 : List UInt8 := dkwX2_helps_2 ++ dktX2_helps_3
def dkwX2_helps_1 : List UInt8 := [153, 0, 13, 29, 3, 16, 99, 184, 0, 217, 167, 0, 4, 2, 54, 4, 21, 4, 156, 0, 13, 18, 238, 42]
abbrev dktX2_helps_1 : List UInt8 := dkwX2_helps_1 ++ dktX2_helps_2
def dkwX2_helps_0 : List UInt8 := [42, 3, 181, 0, 65, 42, 27, 182, 0, 75, 153, 0, 25, 28, 133, 9, 20, 1, 43, 184, 0, 71]
abbrev dktX2_helps_0 : List UInt8 := dkwX2_helps_0 ++ dktX2_helps_1
theorem dksX2_helps_0 : cX2_helps.data.toList.drop 0 = dktX2_helps_0 := by decide +kernel
theorem dksX2_helps_1 : cX2_helps.data.toList.drop 22 = dktX2_helps_1 := dk_seg dksX2_helps_0 22 rfl rfl
theorem dksX2_helps_2 : cX2_helps.data.toList.drop 46 = dktX2_helps_2 := dk_seg dksX2_helps_1 24 rfl rfl
theorem dksX2_helps_3 : cX2_helps.data.toList.drop 70 = dktX2_helps_3 := dk_seg dksX2_helps_2 24 rfl rfl
theorem dksX2_helps_4 : cX2_helps.data.toList.drop 94 = dktX2_helps_4 := dk_seg dksX2_helps_3 24 rfl rfl
theorem dksX2_helps_5 : cX2_helps.data.toList.drop 118 = dktX2_helps_5 := dk_seg dksX2_helps_4 24 rfl rfl
theorem dX2_helps_0 : decode cX2_helps 0 = .ok (.aload_n 0, 1) := dk_42 (dk_at dksX2_helps_0 0 rfl rfl)
theorem dX2_helps_1 : decode cX2_helps 1 = .ok (.iconst 0, 1) := dk_3 (dk_at dksX2_helps_0 1 rfl rfl)
theorem dX2_helps_2 : decode cX2_helps 2 = .ok (.putfield 65, 3) := dk_181 0 65 (dk_at dksX2_helps_0 2 rfl rfl)
theorem dX2_helps_5 : decode cX2_helps 5 = .ok (.aload_n 0, 1) := dk_42 (dk_at dksX2_helps_0 5 rfl rfl)
theorem dX2_helps_6 : decode cX2_helps 6 = .ok (.iload_n 1, 1) := dk_27 (dk_at dksX2_helps_0 6 rfl rfl)
theorem dX2_helps_7 : decode cX2_helps 7 = .ok (.invokevirtual 75, 3) := dk_182 0 75 (dk_at dksX2_helps_0 7 rfl rfl)
theorem dX2_helps_10 : decode cX2_helps 10 = .ok (.ifCond .eq 25, 3) := dk_153 0 25 (dk_at dksX2_helps_0 10 rfl rfl)
theorem dX2_helps_13 : decode cX2_helps 13 = .ok (.iload_n 2, 1) := dk_28 (dk_at dksX2_helps_0 13 rfl rfl)
theorem dX2_helps_14 : decode cX2_helps 14 = .ok (.i2l, 1) := dk_133 (dk_at dksX2_helps_0 14 rfl rfl)
theorem dX2_helps_15 : decode cX2_helps 15 = .ok (.lconst 0, 1) := dk_9 (dk_at dksX2_helps_0 15 rfl rfl)
theorem dX2_helps_16 : decode cX2_helps 16 = .ok (.ldc2_w 299, 3) := dk_20 1 43 (dk_at dksX2_helps_0 16 rfl rfl)
theorem dX2_helps_19 : decode cX2_helps 19 = .ok (.invokestatic 71, 3) := dk_184 0 71 (dk_at dksX2_helps_0 19 rfl rfl)
theorem dX2_helps_22 : decode cX2_helps 22 = .ok (.ifCond .eq 13, 3) := dk_153 0 13 (dk_at dksX2_helps_1 0 rfl rfl)
theorem dX2_helps_25 : decode cX2_helps 25 = .ok (.iload_n 3, 1) := dk_29 (dk_at dksX2_helps_1 3 rfl rfl)
theorem dX2_helps_26 : decode cX2_helps 26 = .ok (.iconst 0, 1) := dk_3 (dk_at dksX2_helps_1 4 rfl rfl)
theorem dX2_helps_27 : decode cX2_helps 27 = .ok (.bipush 99, 2) := dk_16 99 (dk_at dksX2_helps_1 5 rfl rfl)
theorem dX2_helps_29 : decode cX2_helps 29 = .ok (.invokestatic 217, 3) := dk_184 0 217 (dk_at dksX2_helps_1 7 rfl rfl)
theorem dX2_helps_32 : decode cX2_helps 32 = .ok (.goto 4, 3) := dk_167 0 4 (dk_at dksX2_helps_1 10 rfl rfl)
theorem dX2_helps_35 : decode cX2_helps 35 = .ok (.iconst (-1), 1) := dk_2 (dk_at dksX2_helps_1 13 rfl rfl)
theorem dX2_helps_36 : decode cX2_helps 36 = .ok (.istore 4, 2) := dk_54 4 (dk_at dksX2_helps_1 14 rfl rfl)
theorem dX2_helps_38 : decode cX2_helps 38 = .ok (.iload 4, 2) := dk_21 4 (dk_at dksX2_helps_1 16 rfl rfl)
theorem dX2_helps_40 : decode cX2_helps 40 = .ok (.ifCond .ge 13, 3) := dk_156 0 13 (dk_at dksX2_helps_1 18 rfl rfl)
theorem dX2_helps_43 : decode cX2_helps 43 = .ok (.ldc 238, 2) := dk_18 238 (dk_at dksX2_helps_1 21 rfl rfl)
theorem dX2_helps_45 : decode cX2_helps 45 = .ok (.aload_n 0, 1) := dk_42 (dk_at dksX2_helps_1 23 rfl rfl)
theorem dX2_helps_46 : decode cX2_helps 46 = .ok (.iload 4, 2) := dk_21 4 (dk_at dksX2_helps_2 0 rfl rfl)
theorem dX2_helps_48 : decode cX2_helps 48 = .ok (.invokevirtual 128, 3) := dk_182 0 128 (dk_at dksX2_helps_2 2 rfl rfl)
theorem dX2_helps_51 : decode cX2_helps 51 = .ok (.isub, 1) := dk_100 (dk_at dksX2_helps_2 5 rfl rfl)
theorem dX2_helps_52 : decode cX2_helps 52 = .ok (.ireturn, 1) := dk_172 (dk_at dksX2_helps_2 6 rfl rfl)
theorem dX2_helps_53 : decode cX2_helps 53 = .ok (.aload_n 0, 1) := dk_42 (dk_at dksX2_helps_2 7 rfl rfl)
theorem dX2_helps_54 : decode cX2_helps 54 = .ok (.getfield 19, 3) := dk_180 0 19 (dk_at dksX2_helps_2 8 rfl rfl)
theorem dX2_helps_57 : decode cX2_helps 57 = .ok (.iload_n 1, 1) := dk_27 (dk_at dksX2_helps_2 11 rfl rfl)
theorem dX2_helps_58 : decode cX2_helps 58 = .ok (.iaload, 1) := dk_46 (dk_at dksX2_helps_2 12 rfl rfl)
theorem dX2_helps_59 : decode cX2_helps 59 = .ok (.ifCond .ge 5, 3) := dk_156 0 5 (dk_at dksX2_helps_2 13 rfl rfl)
theorem dX2_helps_62 : decode cX2_helps 62 = .ok (.iconst 0, 1) := dk_3 (dk_at dksX2_helps_2 16 rfl rfl)
theorem dX2_helps_63 : decode cX2_helps 63 = .ok (.ireturn, 1) := dk_172 (dk_at dksX2_helps_2 17 rfl rfl)
theorem dX2_helps_64 : decode cX2_helps 64 = .ok (.aload_n 0, 1) := dk_42 (dk_at dksX2_helps_2 18 rfl rfl)
theorem dX2_helps_65 : decode cX2_helps 65 = .ok (.invokevirtual 178, 3) := dk_182 0 178 (dk_at dksX2_helps_2 19 rfl rfl)
theorem dX2_helps_68 : decode cX2_helps 68 = .ok (.aload_n 0, 1) := dk_42 (dk_at dksX2_helps_2 22 rfl rfl)
theorem dX2_helps_69 : decode cX2_helps 69 = .ok (.iload_n 3, 1) := dk_29 (dk_at dksX2_helps_2 23 rfl rfl)
theorem dX2_helps_70 : decode cX2_helps 70 = .ok (.invokevirtual 172, 3) := dk_182 0 172 (dk_at dksX2_helps_3 0 rfl rfl)
theorem dX2_helps_73 : decode cX2_helps 73 = .ok (.aload_n 0, 1) := dk_42 (dk_at dksX2_helps_3 3 rfl rfl)
theorem dX2_helps_74 : decode cX2_helps 74 = .ok (.iload_n 1, 1) := dk_27 (dk_at dksX2_helps_3 4 rfl rfl)
theorem dX2_helps_75 : decode cX2_helps 75 = .ok (.aload_n 0, 1) := dk_42 (dk_at dksX2_helps_3 5 rfl rfl)
theorem dX2_helps_76 : decode cX2_helps 76 = .ok (.getfield 19, 3) := dk_180 0 19 (dk_at dksX2_helps_3 6 rfl rfl)
theorem dX2_helps_79 : decode cX2_helps 79 = .ok (.iload_n 1, 1) := dk_27 (dk_at dksX2_helps_3 9 rfl rfl)
theorem dX2_helps_80 : decode cX2_helps 80 = .ok (.iaload, 1) := dk_46 (dk_at dksX2_helps_3 10 rfl rfl)
theorem dX2_helps_81 : decode cX2_helps 81 = .ok (.invokevirtual 79, 3) := dk_182 0 79 (dk_at dksX2_helps_3 11 rfl rfl)
theorem dX2_helps_84 : decode cX2_helps 84 = .ok (.istore 5, 2) := dk_54 5 (dk_at dksX2_helps_3 14 rfl rfl)
theorem dX2_helps_86 : decode cX2_helps 86 = .ok (.aload_n 0, 1) := dk_42 (dk_at dksX2_helps_3 16 rfl rfl)
theorem dX2_helps_87 : decode cX2_helps 87 = .ok (.invokevirtual 184, 3) := dk_182 0 184 (dk_at dksX2_helps_3 17 rfl rfl)
theorem dX2_helps_90 : decode cX2_helps 90 = .ok (.aload_n 0, 1) := dk_42 (dk_at dksX2_helps_3 20 rfl rfl)
theorem dX2_helps_91 : decode cX2_helps 91 = .ok (.getfield 16, 3) := dk_180 0 16 (dk_at dksX2_helps_3 21 rfl rfl)
theorem dX2_helps_94 : decode cX2_helps 94 = .ok (.iload_n 1, 1) := dk_27 (dk_at dksX2_helps_4 0 rfl rfl)
theorem dX2_helps_95 : decode cX2_helps 95 = .ok (.dup2, 1) := dk_92 (dk_at dksX2_helps_4 1 rfl rfl)
theorem dX2_helps_96 : decode cX2_helps 96 = .ok (.iaload, 1) := dk_46 (dk_at dksX2_helps_4 2 rfl rfl)
theorem dX2_helps_97 : decode cX2_helps 97 = .ok (.iconst 1, 1) := dk_4 (dk_at dksX2_helps_4 3 rfl rfl)
theorem dX2_helps_98 : decode cX2_helps 98 = .ok (.iload_n 2, 1) := dk_28 (dk_at dksX2_helps_4 4 rfl rfl)
theorem dX2_helps_99 : decode cX2_helps 99 = .ok (.ishl, 1) := dk_120 (dk_at dksX2_helps_4 5 rfl rfl)
theorem dX2_helps_100 : decode cX2_helps 100 = .ok (.ior, 1) := dk_128 (dk_at dksX2_helps_4 6 rfl rfl)
theorem dX2_helps_101 : decode cX2_helps 101 = .ok (.iastore, 1) := dk_79 (dk_at dksX2_helps_4 7 rfl rfl)
theorem dX2_helps_102 : decode cX2_helps 102 = .ok (.aload_n 0, 1) := dk_42 (dk_at dksX2_helps_4 8 rfl rfl)
theorem dX2_helps_103 : decode cX2_helps 103 = .ok (.iload_n 3, 1) := dk_29 (dk_at dksX2_helps_4 9 rfl rfl)
theorem dX2_helps_104 : decode cX2_helps 104 = .ok (.invokevirtual 172, 3) := dk_182 0 172 (dk_at dksX2_helps_4 10 rfl rfl)
theorem dX2_helps_107 : decode cX2_helps 107 = .ok (.aload_n 0, 1) := dk_42 (dk_at dksX2_helps_4 13 rfl rfl)
theorem dX2_helps_108 : decode cX2_helps 108 = .ok (.iload_n 1, 1) := dk_27 (dk_at dksX2_helps_4 14 rfl rfl)
theorem dX2_helps_109 : decode cX2_helps 109 = .ok (.aload_n 0, 1) := dk_42 (dk_at dksX2_helps_4 15 rfl rfl)
theorem dX2_helps_110 : decode cX2_helps 110 = .ok (.getfield 19, 3) := dk_180 0 19 (dk_at dksX2_helps_4 16 rfl rfl)
theorem dX2_helps_113 : decode cX2_helps 113 = .ok (.iload_n 1, 1) := dk_27 (dk_at dksX2_helps_4 19 rfl rfl)
theorem dX2_helps_114 : decode cX2_helps 114 = .ok (.iaload, 1) := dk_46 (dk_at dksX2_helps_4 20 rfl rfl)
theorem dX2_helps_115 : decode cX2_helps 115 = .ok (.invokevirtual 79, 3) := dk_182 0 79 (dk_at dksX2_helps_4 21 rfl rfl)
theorem dX2_helps_118 : decode cX2_helps 118 = .ok (.istore 6, 2) := dk_54 6 (dk_at dksX2_helps_5 0 rfl rfl)
theorem dX2_helps_120 : decode cX2_helps 120 = .ok (.aload_n 0, 1) := dk_42 (dk_at dksX2_helps_5 2 rfl rfl)
theorem dX2_helps_121 : decode cX2_helps 121 = .ok (.invokevirtual 184, 3) := dk_182 0 184 (dk_at dksX2_helps_5 3 rfl rfl)
theorem dX2_helps_124 : decode cX2_helps 124 = .ok (.iload 5, 2) := dk_21 5 (dk_at dksX2_helps_5 6 rfl rfl)
theorem dX2_helps_126 : decode cX2_helps 126 = .ok (.iload 6, 2) := dk_21 6 (dk_at dksX2_helps_5 8 rfl rfl)
theorem dX2_helps_128 : decode cX2_helps 128 = .ok (.isub, 1) := dk_100 (dk_at dksX2_helps_5 10 rfl rfl)
theorem dX2_helps_129 : decode cX2_helps 129 = .ok (.ireturn, 1) := dk_172 (dk_at dksX2_helps_5 11 rfl rfl)
abbrev cX2_doubled : ByteArray := prog_12_method_94_code
def yX2_doubled : MethodName := ⟨RX2, "doubled", "()I"⟩
def dkwX2_doubled_3 : List UInt8 := [155, 0, 9, 21, 4, 28, 162, 0, 8, 21, 4, 167, 0, 4, 28, 61, 132, 3, 1, 167, 255, 182, 27, 172]
abbrev dktX2_doubled_3 : List UInt8 := dkwX2_doubled_3 ++ []
def dkwX2_doubled_2 : List UInt8 := [54, 4, 42, 182, 0, 184, 28, 155, 0, 9, 21, 4, 28, 162, 0, 7, 29, 167, 0, 4, 27, 60, 28]
abbrev dktX2_doubled_2 : List UInt8 := dkwX2_doubled_2 ++ dktX2_doubled_3
def dkwX2_doubled_1 : List UInt8 := [21, 4, 16, 9, 162, 0, 16, 42, 16, 247, 29, 182, 0, 117, 132, 4, 1, 167, 255, 239, 42, 182, 0, 226]
abbrev dktX2_doubled_1 : List UInt8 := dkwX2_doubled_1 ++ dktX2_doubled_2
def dkwX2_doubled_0 : List UInt8 := [42, 3, 181, 0, 65, 3, 60, 2, 61, 42, 182, 0, 178, 3, 62, 29, 8, 162, 0, 75, 3, 54, 4]
abbrev dktX2_doubled_0 : List UInt8 := dkwX2_doubled_0 ++ dktX2_doubled_1
theorem dksX2_doubled_0 : cX2_doubled.data.toList.drop 0 = dktX2_doubled_0 := by decide +kernel
theorem dksX2_doubled_1 : cX2_doubled.data.toList.drop 23 = dktX2_doubled_1 := dk_seg dksX2_doubled_0 23 rfl rfl
theorem dksX2_doubled_2 : cX2_doubled.data.toList.drop 47 = dktX2_doubled_2 := dk_seg dksX2_doubled_1 24 rfl rfl
theorem dksX2_doubled_3 : cX2_doubled.data.toList.drop 70 = dktX2_doubled_3 := dk_seg dksX2_doubled_2 23 rfl rfl
theorem dX2_doubled_0 : decode cX2_doubled 0 = .ok (.aload_n 0, 1) := dk_42 (dk_at dksX2_doubled_0 0 rfl rfl)
theorem dX2_doubled_1 : decode cX2_doubled 1 = .ok (.iconst 0, 1) := dk_3 (dk_at dksX2_doubled_0 1 rfl rfl)
theorem dX2_doubled_2 : decode cX2_doubled 2 = .ok (.putfield 65, 3) := dk_181 0 65 (dk_at dksX2_doubled_0 2 rfl rfl)
theorem dX2_doubled_5 : decode cX2_doubled 5 = .ok (.iconst 0, 1) := dk_3 (dk_at dksX2_doubled_0 5 rfl rfl)
theorem dX2_doubled_6 : decode cX2_doubled 6 = .ok (.istore_n 1, 1) := dk_60 (dk_at dksX2_doubled_0 6 rfl rfl)
theorem dX2_doubled_7 : decode cX2_doubled 7 = .ok (.iconst (-1), 1) := dk_2 (dk_at dksX2_doubled_0 7 rfl rfl)
theorem dX2_doubled_8 : decode cX2_doubled 8 = .ok (.istore_n 2, 1) := dk_61 (dk_at dksX2_doubled_0 8 rfl rfl)
theorem dX2_doubled_9 : decode cX2_doubled 9 = .ok (.aload_n 0, 1) := dk_42 (dk_at dksX2_doubled_0 9 rfl rfl)
theorem dX2_doubled_10 : decode cX2_doubled 10 = .ok (.invokevirtual 178, 3) := dk_182 0 178 (dk_at dksX2_doubled_0 10 rfl rfl)
theorem dX2_doubled_13 : decode cX2_doubled 13 = .ok (.iconst 0, 1) := dk_3 (dk_at dksX2_doubled_0 13 rfl rfl)
theorem dX2_doubled_14 : decode cX2_doubled 14 = .ok (.istore_n 3, 1) := dk_62 (dk_at dksX2_doubled_0 14 rfl rfl)
theorem dX2_doubled_15 : decode cX2_doubled 15 = .ok (.iload_n 3, 1) := dk_29 (dk_at dksX2_doubled_0 15 rfl rfl)
theorem dX2_doubled_16 : decode cX2_doubled 16 = .ok (.iconst 5, 1) := dk_8 (dk_at dksX2_doubled_0 16 rfl rfl)
theorem dX2_doubled_17 : decode cX2_doubled 17 = .ok (.if_icmp .ge 75, 3) := dk_162 0 75 (dk_at dksX2_doubled_0 17 rfl rfl)
theorem dX2_doubled_20 : decode cX2_doubled 20 = .ok (.iconst 0, 1) := dk_3 (dk_at dksX2_doubled_0 20 rfl rfl)
theorem dX2_doubled_21 : decode cX2_doubled 21 = .ok (.istore 4, 2) := dk_54 4 (dk_at dksX2_doubled_0 21 rfl rfl)
theorem dX2_doubled_23 : decode cX2_doubled 23 = .ok (.iload 4, 2) := dk_21 4 (dk_at dksX2_doubled_1 0 rfl rfl)
theorem dX2_doubled_25 : decode cX2_doubled 25 = .ok (.bipush 9, 2) := dk_16 9 (dk_at dksX2_doubled_1 2 rfl rfl)
theorem dX2_doubled_27 : decode cX2_doubled 27 = .ok (.if_icmp .ge 16, 3) := dk_162 0 16 (dk_at dksX2_doubled_1 4 rfl rfl)
theorem dX2_doubled_30 : decode cX2_doubled 30 = .ok (.aload_n 0, 1) := dk_42 (dk_at dksX2_doubled_1 7 rfl rfl)
theorem dX2_doubled_31 : decode cX2_doubled 31 = .ok (.bipush (-9), 2) := dk_16 247 (dk_at dksX2_doubled_1 8 rfl rfl)
theorem dX2_doubled_33 : decode cX2_doubled 33 = .ok (.iload_n 3, 1) := dk_29 (dk_at dksX2_doubled_1 10 rfl rfl)
theorem dX2_doubled_34 : decode cX2_doubled 34 = .ok (.invokevirtual 117, 3) := dk_182 0 117 (dk_at dksX2_doubled_1 11 rfl rfl)
theorem dX2_doubled_37 : decode cX2_doubled 37 = .ok (.iinc 4 1, 3) := dk_132 4 1 (dk_at dksX2_doubled_1 14 rfl rfl)
theorem dX2_doubled_40 : decode cX2_doubled 40 = .ok (.goto (-17), 3) := dk_167 255 239 (dk_at dksX2_doubled_1 17 rfl rfl)
theorem dX2_doubled_43 : decode cX2_doubled 43 = .ok (.aload_n 0, 1) := dk_42 (dk_at dksX2_doubled_1 20 rfl rfl)
theorem dX2_doubled_44 : decode cX2_doubled 44 = .ok (.invokevirtual 226, 3) := dk_182 0 226 (dk_at dksX2_doubled_1 21 rfl rfl)
theorem dX2_doubled_47 : decode cX2_doubled 47 = .ok (.istore 4, 2) := dk_54 4 (dk_at dksX2_doubled_2 0 rfl rfl)
theorem dX2_doubled_49 : decode cX2_doubled 49 = .ok (.aload_n 0, 1) := dk_42 (dk_at dksX2_doubled_2 2 rfl rfl)
theorem dX2_doubled_50 : decode cX2_doubled 50 = .ok (.invokevirtual 184, 3) := dk_182 0 184 (dk_at dksX2_doubled_2 3 rfl rfl)
theorem dX2_doubled_53 : decode cX2_doubled 53 = .ok (.iload_n 2, 1) := dk_28 (dk_at dksX2_doubled_2 6 rfl rfl)
theorem dX2_doubled_54 : decode cX2_doubled 54 = .ok (.ifCond .lt 9, 3) := dk_155 0 9 (dk_at dksX2_doubled_2 7 rfl rfl)
theorem dX2_doubled_57 : decode cX2_doubled 57 = .ok (.iload 4, 2) := dk_21 4 (dk_at dksX2_doubled_2 10 rfl rfl)
theorem dX2_doubled_59 : decode cX2_doubled 59 = .ok (.iload_n 2, 1) := dk_28 (dk_at dksX2_doubled_2 12 rfl rfl)
theorem dX2_doubled_60 : decode cX2_doubled 60 = .ok (.if_icmp .ge 7, 3) := dk_162 0 7 (dk_at dksX2_doubled_2 13 rfl rfl)
theorem dX2_doubled_63 : decode cX2_doubled 63 = .ok (.iload_n 3, 1) := dk_29 (dk_at dksX2_doubled_2 16 rfl rfl)
theorem dX2_doubled_64 : decode cX2_doubled 64 = .ok (.goto 4, 3) := dk_167 0 4 (dk_at dksX2_doubled_2 17 rfl rfl)
theorem dX2_doubled_67 : decode cX2_doubled 67 = .ok (.iload_n 1, 1) := dk_27 (dk_at dksX2_doubled_2 20 rfl rfl)
theorem dX2_doubled_68 : decode cX2_doubled 68 = .ok (.istore_n 1, 1) := dk_60 (dk_at dksX2_doubled_2 21 rfl rfl)
theorem dX2_doubled_69 : decode cX2_doubled 69 = .ok (.iload_n 2, 1) := dk_28 (dk_at dksX2_doubled_2 22 rfl rfl)
theorem dX2_doubled_70 : decode cX2_doubled 70 = .ok (.ifCond .lt 9, 3) := dk_155 0 9 (dk_at dksX2_doubled_3 0 rfl rfl)
theorem dX2_doubled_73 : decode cX2_doubled 73 = .ok (.iload 4, 2) := dk_21 4 (dk_at dksX2_doubled_3 3 rfl rfl)
theorem dX2_doubled_75 : decode cX2_doubled 75 = .ok (.iload_n 2, 1) := dk_28 (dk_at dksX2_doubled_3 5 rfl rfl)
theorem dX2_doubled_76 : decode cX2_doubled 76 = .ok (.if_icmp .ge 8, 3) := dk_162 0 8 (dk_at dksX2_doubled_3 6 rfl rfl)
theorem dX2_doubled_79 : decode cX2_doubled 79 = .ok (.iload 4, 2) := dk_21 4 (dk_at dksX2_doubled_3 9 rfl rfl)
theorem dX2_doubled_81 : decode cX2_doubled 81 = .ok (.goto 4, 3) := dk_167 0 4 (dk_at dksX2_doubled_3 11 rfl rfl)
theorem dX2_doubled_84 : decode cX2_doubled 84 = .ok (.iload_n 2, 1) := dk_28 (dk_at dksX2_doubled_3 14 rfl rfl)
theorem dX2_doubled_85 : decode cX2_doubled 85 = .ok (.istore_n 2, 1) := dk_61 (dk_at dksX2_doubled_3 15 rfl rfl)
theorem dX2_doubled_86 : decode cX2_doubled 86 = .ok (.iinc 3 1, 3) := dk_132 3 1 (dk_at dksX2_doubled_3 16 rfl rfl)
theorem dX2_doubled_89 : decode cX2_doubled 89 = .ok (.goto (-74), 3) := dk_167 255 182 (dk_at dksX2_doubled_3 19 rfl rfl)
theorem dX2_doubled_92 : decode cX2_doubled 92 = .ok (.iload_n 1, 1) := dk_27 (dk_at dksX2_doubled_3 22 rfl rfl)
theorem dX2_doubled_93 : decode cX2_doubled 93 = .ok (.ireturn, 1) := dk_172 (dk_at dksX2_doubled_3 23 rfl rfl)
abbrev cX2_row : ByteArray := prog_12_method_95_code
def yX2_row : MethodName := ⟨RX2, "row", "(I)I"⟩
def dkwX2_row_2 : List UInt8 := [79, 42, 89, 180, 1, 17, 4, 96, 181, 1, 17, 42, 180, 1, 17, 172]
abbrev dktX2_row_2 : List UInt8 := dkwX2_row_2 ++ []
def dkwX2_row_1 : List UInt8 := [180, 1, 17, 16, 12, 160, 0, 10, 42, 16, 250, 182, 0, 128, 172, 42, 180, 0, 62, 42, 180, 1, 17, 27]
abbrev dktX2_row_1 : List UInt8 := dkwX2_row_1 ++ dktX2_row_2
def dkwX2_row_0 : List UInt8 := [42, 3, 181, 0, 65, 27, 156, 0, 10, 42, 16, 252, 182, 0, 128, 172, 27, 16, 99, 163, 0, 12, 42]
abbrev dktX2_row_0 : List UInt8 := dkwX2_row_0 ++ dktX2_row_1
theorem dksX2_row_0 : cX2_row.data.toList.drop 0 = dktX2_row_0 := by decide +kernel
theorem dksX2_row_1 : cX2_row.data.toList.drop 23 = dktX2_row_1 := dk_seg dksX2_row_0 23 rfl rfl
theorem dksX2_row_2 : cX2_row.data.toList.drop 47 = dktX2_row_2 := dk_seg dksX2_row_1 24 rfl rfl
theorem dX2_row_0 : decode cX2_row 0 = .ok (.aload_n 0, 1) := dk_42 (dk_at dksX2_row_0 0 rfl rfl)
theorem dX2_row_1 : decode cX2_row 1 = .ok (.iconst 0, 1) := dk_3 (dk_at dksX2_row_0 1 rfl rfl)
theorem dX2_row_2 : decode cX2_row 2 = .ok (.putfield 65, 3) := dk_181 0 65 (dk_at dksX2_row_0 2 rfl rfl)
theorem dX2_row_5 : decode cX2_row 5 = .ok (.iload_n 1, 1) := dk_27 (dk_at dksX2_row_0 5 rfl rfl)
theorem dX2_row_6 : decode cX2_row 6 = .ok (.ifCond .ge 10, 3) := dk_156 0 10 (dk_at dksX2_row_0 6 rfl rfl)
theorem dX2_row_9 : decode cX2_row 9 = .ok (.aload_n 0, 1) := dk_42 (dk_at dksX2_row_0 9 rfl rfl)
theorem dX2_row_10 : decode cX2_row 10 = .ok (.bipush (-4), 2) := dk_16 252 (dk_at dksX2_row_0 10 rfl rfl)
theorem dX2_row_12 : decode cX2_row 12 = .ok (.invokevirtual 128, 3) := dk_182 0 128 (dk_at dksX2_row_0 12 rfl rfl)
theorem dX2_row_15 : decode cX2_row 15 = .ok (.ireturn, 1) := dk_172 (dk_at dksX2_row_0 15 rfl rfl)
theorem dX2_row_16 : decode cX2_row 16 = .ok (.iload_n 1, 1) := dk_27 (dk_at dksX2_row_0 16 rfl rfl)
theorem dX2_row_17 : decode cX2_row 17 = .ok (.bipush 99, 2) := dk_16 99 (dk_at dksX2_row_0 17 rfl rfl)
theorem dX2_row_19 : decode cX2_row 19 = .ok (.if_icmp .gt 12, 3) := dk_163 0 12 (dk_at dksX2_row_0 19 rfl rfl)
theorem dX2_row_22 : decode cX2_row 22 = .ok (.aload_n 0, 1) := dk_42 (dk_at dksX2_row_0 22 rfl rfl)
theorem dX2_row_23 : decode cX2_row 23 = .ok (.getfield 273, 3) := dk_180 1 17 (dk_at dksX2_row_1 0 rfl rfl)
theorem dX2_row_26 : decode cX2_row 26 = .ok (.bipush 12, 2) := dk_16 12 (dk_at dksX2_row_1 3 rfl rfl)
theorem dX2_row_28 : decode cX2_row 28 = .ok (.if_icmp .ne 10, 3) := dk_160 0 10 (dk_at dksX2_row_1 5 rfl rfl)
theorem dX2_row_31 : decode cX2_row 31 = .ok (.aload_n 0, 1) := dk_42 (dk_at dksX2_row_1 8 rfl rfl)
theorem dX2_row_32 : decode cX2_row 32 = .ok (.bipush (-6), 2) := dk_16 250 (dk_at dksX2_row_1 9 rfl rfl)
theorem dX2_row_34 : decode cX2_row 34 = .ok (.invokevirtual 128, 3) := dk_182 0 128 (dk_at dksX2_row_1 11 rfl rfl)
theorem dX2_row_37 : decode cX2_row 37 = .ok (.ireturn, 1) := dk_172 (dk_at dksX2_row_1 14 rfl rfl)
theorem dX2_row_38 : decode cX2_row 38 = .ok (.aload_n 0, 1) := dk_42 (dk_at dksX2_row_1 15 rfl rfl)
theorem dX2_row_39 : decode cX2_row 39 = .ok (.getfield 62, 3) := dk_180 0 62 (dk_at dksX2_row_1 16 rfl rfl)
theorem dX2_row_42 : decode cX2_row 42 = .ok (.aload_n 0, 1) := dk_42 (dk_at dksX2_row_1 19 rfl rfl)
theorem dX2_row_43 : decode cX2_row 43 = .ok (.getfield 273, 3) := dk_180 1 17 (dk_at dksX2_row_1 20 rfl rfl)
theorem dX2_row_46 : decode cX2_row 46 = .ok (.iload_n 1, 1) := dk_27 (dk_at dksX2_row_1 23 rfl rfl)
theorem dX2_row_47 : decode cX2_row 47 = .ok (.iastore, 1) := dk_79 (dk_at dksX2_row_2 0 rfl rfl)
theorem dX2_row_48 : decode cX2_row 48 = .ok (.aload_n 0, 1) := dk_42 (dk_at dksX2_row_2 1 rfl rfl)
theorem dX2_row_49 : decode cX2_row 49 = .ok (.dup, 1) := dk_89 (dk_at dksX2_row_2 2 rfl rfl)
theorem dX2_row_50 : decode cX2_row 50 = .ok (.getfield 273, 3) := dk_180 1 17 (dk_at dksX2_row_2 3 rfl rfl)
theorem dX2_row_53 : decode cX2_row 53 = .ok (.iconst 1, 1) := dk_4 (dk_at dksX2_row_2 6 rfl rfl)
theorem dX2_row_54 : decode cX2_row 54 = .ok (.iadd, 1) := dk_96 (dk_at dksX2_row_2 7 rfl rfl)
theorem dX2_row_55 : decode cX2_row 55 = .ok (.putfield 273, 3) := dk_181 1 17 (dk_at dksX2_row_2 8 rfl rfl)
theorem dX2_row_58 : decode cX2_row 58 = .ok (.aload_n 0, 1) := dk_42 (dk_at dksX2_row_2 11 rfl rfl)
theorem dX2_row_59 : decode cX2_row 59 = .ok (.getfield 273, 3) := dk_180 1 17 (dk_at dksX2_row_2 12 rfl rfl)
theorem dX2_row_62 : decode cX2_row 62 = .ok (.ireturn, 1) := dk_172 (dk_at dksX2_row_2 15 rfl rfl)
abbrev cX2_judge : ByteArray := prog_12_method_96_code
def yX2_judge : MethodName := ⟨RX2, "judge", "(I)I"⟩
def dkwX2_judge_3 : List UInt8 := [132, 3, 1, 167, 255, 214, 16, 247, 172]
abbrev dktX2_judge_3 : List UInt8 := dkwX2_judge_3 ++ []
def dkwX2_judge_2 : List UInt8 := [29, 46, 29, 27, 160, 0, 7, 3, 167, 0, 9, 42, 27, 29, 182, 0, 79, 159, 0, 5, 29, 172]
abbrev dktX2_judge_2 : List UInt8 := dkwX2_judge_2 ++ dktX2_judge_3
def dkwX2_judge_1 : List UInt8 := [42, 3, 181, 1, 17, 3, 62, 29, 28, 162, 0, 43, 29, 42, 180, 0, 68, 162, 0, 27, 42, 180, 0, 62]
abbrev dktX2_judge_1 : List UInt8 := dkwX2_judge_1 ++ dktX2_judge_2
def dkwX2_judge_0 : List UInt8 := [42, 3, 181, 0, 65, 42, 27, 182, 0, 75, 154, 0, 9, 42, 2, 182, 0, 128, 172, 42, 180, 1, 17, 61]
abbrev dktX2_judge_0 : List UInt8 := dkwX2_judge_0 ++ dktX2_judge_1
theorem dksX2_judge_0 : cX2_judge.data.toList.drop 0 = dktX2_judge_0 := by decide +kernel
theorem dksX2_judge_1 : cX2_judge.data.toList.drop 24 = dktX2_judge_1 := dk_seg dksX2_judge_0 24 rfl rfl
theorem dksX2_judge_2 : cX2_judge.data.toList.drop 48 = dktX2_judge_2 := dk_seg dksX2_judge_1 24 rfl rfl
theorem dksX2_judge_3 : cX2_judge.data.toList.drop 70 = dktX2_judge_3 := dk_seg dksX2_judge_2 22 rfl rfl
theorem dX2_judge_0 : decode cX2_judge 0 = .ok (.aload_n 0, 1) := dk_42 (dk_at dksX2_judge_0 0 rfl rfl)
theorem dX2_judge_1 : decode cX2_judge 1 = .ok (.iconst 0, 1) := dk_3 (dk_at dksX2_judge_0 1 rfl rfl)
theorem dX2_judge_2 : decode cX2_judge 2 = .ok (.putfield 65, 3) := dk_181 0 65 (dk_at dksX2_judge_0 2 rfl rfl)
theorem dX2_judge_5 : decode cX2_judge 5 = .ok (.aload_n 0, 1) := dk_42 (dk_at dksX2_judge_0 5 rfl rfl)
theorem dX2_judge_6 : decode cX2_judge 6 = .ok (.iload_n 1, 1) := dk_27 (dk_at dksX2_judge_0 6 rfl rfl)
theorem dX2_judge_7 : decode cX2_judge 7 = .ok (.invokevirtual 75, 3) := dk_182 0 75 (dk_at dksX2_judge_0 7 rfl rfl)
theorem dX2_judge_10 : decode cX2_judge 10 = .ok (.ifCond .ne 9, 3) := dk_154 0 9 (dk_at dksX2_judge_0 10 rfl rfl)
theorem dX2_judge_13 : decode cX2_judge 13 = .ok (.aload_n 0, 1) := dk_42 (dk_at dksX2_judge_0 13 rfl rfl)
theorem dX2_judge_14 : decode cX2_judge 14 = .ok (.iconst (-1), 1) := dk_2 (dk_at dksX2_judge_0 14 rfl rfl)
theorem dX2_judge_15 : decode cX2_judge 15 = .ok (.invokevirtual 128, 3) := dk_182 0 128 (dk_at dksX2_judge_0 15 rfl rfl)
theorem dX2_judge_18 : decode cX2_judge 18 = .ok (.ireturn, 1) := dk_172 (dk_at dksX2_judge_0 18 rfl rfl)
theorem dX2_judge_19 : decode cX2_judge 19 = .ok (.aload_n 0, 1) := dk_42 (dk_at dksX2_judge_0 19 rfl rfl)
theorem dX2_judge_20 : decode cX2_judge 20 = .ok (.getfield 273, 3) := dk_180 1 17 (dk_at dksX2_judge_0 20 rfl rfl)
theorem dX2_judge_23 : decode cX2_judge 23 = .ok (.istore_n 2, 1) := dk_61 (dk_at dksX2_judge_0 23 rfl rfl)
theorem dX2_judge_24 : decode cX2_judge 24 = .ok (.aload_n 0, 1) := dk_42 (dk_at dksX2_judge_1 0 rfl rfl)
theorem dX2_judge_25 : decode cX2_judge 25 = .ok (.iconst 0, 1) := dk_3 (dk_at dksX2_judge_1 1 rfl rfl)
theorem dX2_judge_26 : decode cX2_judge 26 = .ok (.putfield 273, 3) := dk_181 1 17 (dk_at dksX2_judge_1 2 rfl rfl)
theorem dX2_judge_29 : decode cX2_judge 29 = .ok (.iconst 0, 1) := dk_3 (dk_at dksX2_judge_1 5 rfl rfl)
theorem dX2_judge_30 : decode cX2_judge 30 = .ok (.istore_n 3, 1) := dk_62 (dk_at dksX2_judge_1 6 rfl rfl)
theorem dX2_judge_31 : decode cX2_judge 31 = .ok (.iload_n 3, 1) := dk_29 (dk_at dksX2_judge_1 7 rfl rfl)
theorem dX2_judge_32 : decode cX2_judge 32 = .ok (.iload_n 2, 1) := dk_28 (dk_at dksX2_judge_1 8 rfl rfl)
theorem dX2_judge_33 : decode cX2_judge 33 = .ok (.if_icmp .ge 43, 3) := dk_162 0 43 (dk_at dksX2_judge_1 9 rfl rfl)
theorem dX2_judge_36 : decode cX2_judge 36 = .ok (.iload_n 3, 1) := dk_29 (dk_at dksX2_judge_1 12 rfl rfl)
theorem dX2_judge_37 : decode cX2_judge 37 = .ok (.aload_n 0, 1) := dk_42 (dk_at dksX2_judge_1 13 rfl rfl)
theorem dX2_judge_38 : decode cX2_judge 38 = .ok (.getfield 68, 3) := dk_180 0 68 (dk_at dksX2_judge_1 14 rfl rfl)
theorem dX2_judge_41 : decode cX2_judge 41 = .ok (.if_icmp .ge 27, 3) := dk_162 0 27 (dk_at dksX2_judge_1 17 rfl rfl)
theorem dX2_judge_44 : decode cX2_judge 44 = .ok (.aload_n 0, 1) := dk_42 (dk_at dksX2_judge_1 20 rfl rfl)
theorem dX2_judge_45 : decode cX2_judge 45 = .ok (.getfield 62, 3) := dk_180 0 62 (dk_at dksX2_judge_1 21 rfl rfl)
theorem dX2_judge_48 : decode cX2_judge 48 = .ok (.iload_n 3, 1) := dk_29 (dk_at dksX2_judge_2 0 rfl rfl)
theorem dX2_judge_49 : decode cX2_judge 49 = .ok (.iaload, 1) := dk_46 (dk_at dksX2_judge_2 1 rfl rfl)
theorem dX2_judge_50 : decode cX2_judge 50 = .ok (.iload_n 3, 1) := dk_29 (dk_at dksX2_judge_2 2 rfl rfl)
theorem dX2_judge_51 : decode cX2_judge 51 = .ok (.iload_n 1, 1) := dk_27 (dk_at dksX2_judge_2 3 rfl rfl)
theorem dX2_judge_52 : decode cX2_judge 52 = .ok (.if_icmp .ne 7, 3) := dk_160 0 7 (dk_at dksX2_judge_2 4 rfl rfl)
theorem dX2_judge_55 : decode cX2_judge 55 = .ok (.iconst 0, 1) := dk_3 (dk_at dksX2_judge_2 7 rfl rfl)
theorem dX2_judge_56 : decode cX2_judge 56 = .ok (.goto 9, 3) := dk_167 0 9 (dk_at dksX2_judge_2 8 rfl rfl)
theorem dX2_judge_59 : decode cX2_judge 59 = .ok (.aload_n 0, 1) := dk_42 (dk_at dksX2_judge_2 11 rfl rfl)
theorem dX2_judge_60 : decode cX2_judge 60 = .ok (.iload_n 1, 1) := dk_27 (dk_at dksX2_judge_2 12 rfl rfl)
theorem dX2_judge_61 : decode cX2_judge 61 = .ok (.iload_n 3, 1) := dk_29 (dk_at dksX2_judge_2 13 rfl rfl)
theorem dX2_judge_62 : decode cX2_judge 62 = .ok (.invokevirtual 79, 3) := dk_182 0 79 (dk_at dksX2_judge_2 14 rfl rfl)
theorem dX2_judge_65 : decode cX2_judge 65 = .ok (.if_icmp .eq 5, 3) := dk_159 0 5 (dk_at dksX2_judge_2 17 rfl rfl)
theorem dX2_judge_68 : decode cX2_judge 68 = .ok (.iload_n 3, 1) := dk_29 (dk_at dksX2_judge_2 20 rfl rfl)
theorem dX2_judge_69 : decode cX2_judge 69 = .ok (.ireturn, 1) := dk_172 (dk_at dksX2_judge_2 21 rfl rfl)
theorem dX2_judge_70 : decode cX2_judge 70 = .ok (.iinc 3 1, 3) := dk_132 3 1 (dk_at dksX2_judge_3 0 rfl rfl)
theorem dX2_judge_73 : decode cX2_judge 73 = .ok (.goto (-42), 3) := dk_167 255 214 (dk_at dksX2_judge_3 3 rfl rfl)
theorem dX2_judge_76 : decode cX2_judge 76 = .ok (.bipush (-9), 2) := dk_16 247 (dk_at dksX2_judge_3 6 rfl rfl)
theorem dX2_judge_78 : decode cX2_judge 78 = .ok (.ireturn, 1) := dk_172 (dk_at dksX2_judge_3 8 rfl rfl)
abbrev cX2_clear : ByteArray := prog_12_method_97_code
def yX2_clear : MethodName := ⟨RX2, "clear", "()I"⟩
def dkwX2_clear_0 : List UInt8 := [42, 3, 181, 0, 65, 42, 180, 1, 17, 60, 42, 3, 181, 1, 17, 27, 172]
abbrev dktX2_clear_0 : List UInt8 := dkwX2_clear_0 ++ []
theorem dksX2_clear_0 : cX2_clear.data.toList.drop 0 = dktX2_clear_0 := by decide +kernel
theorem dX2_clear_0 : decode cX2_clear 0 = .ok (.aload_n 0, 1) := dk_42 (dk_at dksX2_clear_0 0 rfl rfl)
theorem dX2_clear_1 : decode cX2_clear 1 = .ok (.iconst 0, 1) := dk_3 (dk_at dksX2_clear_0 1 rfl rfl)
theorem dX2_clear_2 : decode cX2_clear 2 = .ok (.putfield 65, 3) := dk_181 0 65 (dk_at dksX2_clear_0 2 rfl rfl)
theorem dX2_clear_5 : decode cX2_clear 5 = .ok (.aload_n 0, 1) := dk_42 (dk_at dksX2_clear_0 5 rfl rfl)
theorem dX2_clear_6 : decode cX2_clear 6 = .ok (.getfield 273, 3) := dk_180 1 17 (dk_at dksX2_clear_0 6 rfl rfl)
theorem dX2_clear_9 : decode cX2_clear 9 = .ok (.istore_n 1, 1) := dk_60 (dk_at dksX2_clear_0 9 rfl rfl)
theorem dX2_clear_10 : decode cX2_clear 10 = .ok (.aload_n 0, 1) := dk_42 (dk_at dksX2_clear_0 10 rfl rfl)
theorem dX2_clear_11 : decode cX2_clear 11 = .ok (.iconst 0, 1) := dk_3 (dk_at dksX2_clear_0 11 rfl rfl)
theorem dX2_clear_12 : decode cX2_clear 12 = .ok (.putfield 273, 3) := dk_181 1 17 (dk_at dksX2_clear_0 12 rfl rfl)
theorem dX2_clear_15 : decode cX2_clear 15 = .ok (.iload_n 1, 1) := dk_27 (dk_at dksX2_clear_0 15 rfl rfl)
theorem dX2_clear_16 : decode cX2_clear 16 = .ok (.ireturn, 1) := dk_172 (dk_at dksX2_clear_0 16 rfl rfl)
abbrev cX2_lots : ByteArray := prog_12_method_99_code
def yX2_lots : MethodName := ⟨RX2, "lots", "(III)I"⟩
def dkwX2_lots_6 : List UInt8 := [167, 0, 7, 42, 182, 0, 229, 96, 54, 5, 42, 182, 0, 184, 132, 6, 1, 167, 255, 145, 21, 5, 172]
abbrev dktX2_lots_6 : List UInt8 := dkwX2_lots_6 ++ []
def dkwX2_lots_5 : List UInt8 := [16, 247, 16, 247, 182, 0, 117, 132, 7, 1, 167, 255, 191, 21, 5, 29, 154, 0, 10, 42, 182, 0, 226]
abbrev dktX2_lots_5 : List UInt8 := dkwX2_lots_5 ++ dktX2_lots_6
def dkwX2_lots_4 : List UInt8 := [159, 0, 23, 42, 180, 0, 19, 21, 8, 46, 21, 9, 159, 0, 11, 42, 21, 8, 21, 9, 182, 0, 125, 42]
abbrev dktX2_lots_4 : List UInt8 := dkwX2_lots_4 ++ dktX2_lots_5
def dkwX2_lots_3 : List UInt8 := [180, 0, 68, 182, 1, 51, 54, 8, 42, 42, 180, 0, 68, 182, 1, 51, 54, 9, 21, 8, 21, 9]
abbrev dktX2_lots_3 : List UInt8 := dkwX2_lots_3 ++ dktX2_lots_4
def dkwX2_lots_2 : List UInt8 := [27, 162, 0, 111, 42, 180, 0, 68, 158, 0, 104, 3, 54, 7, 21, 7, 16, 30, 162, 0, 64, 42, 42]
abbrev dktX2_lots_2 : List UInt8 := dkwX2_lots_2 ++ dktX2_lots_3
def dkwX2_lots_1 : List UInt8 := [42, 21, 4, 182, 0, 128, 172, 42, 28, 181, 1, 45, 3, 54, 5, 42, 182, 0, 178, 3, 54, 6, 21, 6]
abbrev dktX2_lots_1 : List UInt8 := dkwX2_lots_1 ++ dktX2_lots_2
def dkwX2_lots_0 : List UInt8 := [42, 3, 181, 0, 65, 27, 4, 16, 20, 184, 0, 217, 29, 4, 184, 0, 211, 54, 4, 21, 4, 156, 0, 10]
abbrev dktX2_lots_0 : List UInt8 := dkwX2_lots_0 ++ dktX2_lots_1
theorem dksX2_lots_0 : cX2_lots.data.toList.drop 0 = dktX2_lots_0 := by decide +kernel
theorem dksX2_lots_1 : cX2_lots.data.toList.drop 24 = dktX2_lots_1 := dk_seg dksX2_lots_0 24 rfl rfl
theorem dksX2_lots_2 : cX2_lots.data.toList.drop 48 = dktX2_lots_2 := dk_seg dksX2_lots_1 24 rfl rfl
theorem dksX2_lots_3 : cX2_lots.data.toList.drop 71 = dktX2_lots_3 := dk_seg dksX2_lots_2 23 rfl rfl
theorem dksX2_lots_4 : cX2_lots.data.toList.drop 93 = dktX2_lots_4 := dk_seg dksX2_lots_3 22 rfl rfl
theorem dksX2_lots_5 : cX2_lots.data.toList.drop 117 = dktX2_lots_5 := dk_seg dksX2_lots_4 24 rfl rfl
theorem dksX2_lots_6 : cX2_lots.data.toList.drop 140 = dktX2_lots_6 := dk_seg dksX2_lots_5 23 rfl rfl
theorem dX2_lots_0 : decode cX2_lots 0 = .ok (.aload_n 0, 1) := dk_42 (dk_at dksX2_lots_0 0 rfl rfl)
theorem dX2_lots_1 : decode cX2_lots 1 = .ok (.iconst 0, 1) := dk_3 (dk_at dksX2_lots_0 1 rfl rfl)
theorem dX2_lots_2 : decode cX2_lots 2 = .ok (.putfield 65, 3) := dk_181 0 65 (dk_at dksX2_lots_0 2 rfl rfl)
theorem dX2_lots_5 : decode cX2_lots 5 = .ok (.iload_n 1, 1) := dk_27 (dk_at dksX2_lots_0 5 rfl rfl)
theorem dX2_lots_6 : decode cX2_lots 6 = .ok (.iconst 1, 1) := dk_4 (dk_at dksX2_lots_0 6 rfl rfl)
theorem dX2_lots_7 : decode cX2_lots 7 = .ok (.bipush 20, 2) := dk_16 20 (dk_at dksX2_lots_0 7 rfl rfl)
theorem dX2_lots_9 : decode cX2_lots 9 = .ok (.invokestatic 217, 3) := dk_184 0 217 (dk_at dksX2_lots_0 9 rfl rfl)
theorem dX2_lots_12 : decode cX2_lots 12 = .ok (.iload_n 3, 1) := dk_29 (dk_at dksX2_lots_0 12 rfl rfl)
theorem dX2_lots_13 : decode cX2_lots 13 = .ok (.iconst 1, 1) := dk_4 (dk_at dksX2_lots_0 13 rfl rfl)
theorem dX2_lots_14 : decode cX2_lots 14 = .ok (.invokestatic 211, 3) := dk_184 0 211 (dk_at dksX2_lots_0 14 rfl rfl)
theorem dX2_lots_17 : decode cX2_lots 17 = .ok (.istore 4, 2) := dk_54 4 (dk_at dksX2_lots_0 17 rfl rfl)
theorem dX2_lots_19 : decode cX2_lots 19 = .ok (.iload 4, 2) := dk_21 4 (dk_at dksX2_lots_0 19 rfl rfl)
theorem dX2_lots_21 : decode cX2_lots 21 = .ok (.ifCond .ge 10, 3) := dk_156 0 10 (dk_at dksX2_lots_0 21 rfl rfl)
theorem dX2_lots_24 : decode cX2_lots 24 = .ok (.aload_n 0, 1) := dk_42 (dk_at dksX2_lots_1 0 rfl rfl)
theorem dX2_lots_25 : decode cX2_lots 25 = .ok (.iload 4, 2) := dk_21 4 (dk_at dksX2_lots_1 1 rfl rfl)
theorem dX2_lots_27 : decode cX2_lots 27 = .ok (.invokevirtual 128, 3) := dk_182 0 128 (dk_at dksX2_lots_1 3 rfl rfl)
theorem dX2_lots_30 : decode cX2_lots 30 = .ok (.ireturn, 1) := dk_172 (dk_at dksX2_lots_1 6 rfl rfl)
theorem dX2_lots_31 : decode cX2_lots 31 = .ok (.aload_n 0, 1) := dk_42 (dk_at dksX2_lots_1 7 rfl rfl)
theorem dX2_lots_32 : decode cX2_lots 32 = .ok (.iload_n 2, 1) := dk_28 (dk_at dksX2_lots_1 8 rfl rfl)
theorem dX2_lots_33 : decode cX2_lots 33 = .ok (.putfield 301, 3) := dk_181 1 45 (dk_at dksX2_lots_1 9 rfl rfl)
theorem dX2_lots_36 : decode cX2_lots 36 = .ok (.iconst 0, 1) := dk_3 (dk_at dksX2_lots_1 12 rfl rfl)
theorem dX2_lots_37 : decode cX2_lots 37 = .ok (.istore 5, 2) := dk_54 5 (dk_at dksX2_lots_1 13 rfl rfl)
theorem dX2_lots_39 : decode cX2_lots 39 = .ok (.aload_n 0, 1) := dk_42 (dk_at dksX2_lots_1 15 rfl rfl)
theorem dX2_lots_40 : decode cX2_lots 40 = .ok (.invokevirtual 178, 3) := dk_182 0 178 (dk_at dksX2_lots_1 16 rfl rfl)
theorem dX2_lots_43 : decode cX2_lots 43 = .ok (.iconst 0, 1) := dk_3 (dk_at dksX2_lots_1 19 rfl rfl)
theorem dX2_lots_44 : decode cX2_lots 44 = .ok (.istore 6, 2) := dk_54 6 (dk_at dksX2_lots_1 20 rfl rfl)
theorem dX2_lots_46 : decode cX2_lots 46 = .ok (.iload 6, 2) := dk_21 6 (dk_at dksX2_lots_1 22 rfl rfl)
theorem dX2_lots_48 : decode cX2_lots 48 = .ok (.iload_n 1, 1) := dk_27 (dk_at dksX2_lots_2 0 rfl rfl)
theorem dX2_lots_49 : decode cX2_lots 49 = .ok (.if_icmp .ge 111, 3) := dk_162 0 111 (dk_at dksX2_lots_2 1 rfl rfl)
theorem dX2_lots_52 : decode cX2_lots 52 = .ok (.aload_n 0, 1) := dk_42 (dk_at dksX2_lots_2 4 rfl rfl)
theorem dX2_lots_53 : decode cX2_lots 53 = .ok (.getfield 68, 3) := dk_180 0 68 (dk_at dksX2_lots_2 5 rfl rfl)
theorem dX2_lots_56 : decode cX2_lots 56 = .ok (.ifCond .le 104, 3) := dk_158 0 104 (dk_at dksX2_lots_2 8 rfl rfl)
theorem dX2_lots_59 : decode cX2_lots 59 = .ok (.iconst 0, 1) := dk_3 (dk_at dksX2_lots_2 11 rfl rfl)
theorem dX2_lots_60 : decode cX2_lots 60 = .ok (.istore 7, 2) := dk_54 7 (dk_at dksX2_lots_2 12 rfl rfl)
theorem dX2_lots_62 : decode cX2_lots 62 = .ok (.iload 7, 2) := dk_21 7 (dk_at dksX2_lots_2 14 rfl rfl)
theorem dX2_lots_64 : decode cX2_lots 64 = .ok (.bipush 30, 2) := dk_16 30 (dk_at dksX2_lots_2 16 rfl rfl)
theorem dX2_lots_66 : decode cX2_lots 66 = .ok (.if_icmp .ge 64, 3) := dk_162 0 64 (dk_at dksX2_lots_2 18 rfl rfl)
theorem dX2_lots_69 : decode cX2_lots 69 = .ok (.aload_n 0, 1) := dk_42 (dk_at dksX2_lots_2 21 rfl rfl)
theorem dX2_lots_70 : decode cX2_lots 70 = .ok (.aload_n 0, 1) := dk_42 (dk_at dksX2_lots_2 22 rfl rfl)
theorem dX2_lots_71 : decode cX2_lots 71 = .ok (.getfield 68, 3) := dk_180 0 68 (dk_at dksX2_lots_3 0 rfl rfl)
theorem dX2_lots_74 : decode cX2_lots 74 = .ok (.invokevirtual 307, 3) := dk_182 1 51 (dk_at dksX2_lots_3 3 rfl rfl)
theorem dX2_lots_77 : decode cX2_lots 77 = .ok (.istore 8, 2) := dk_54 8 (dk_at dksX2_lots_3 6 rfl rfl)
theorem dX2_lots_79 : decode cX2_lots 79 = .ok (.aload_n 0, 1) := dk_42 (dk_at dksX2_lots_3 8 rfl rfl)
theorem dX2_lots_80 : decode cX2_lots 80 = .ok (.aload_n 0, 1) := dk_42 (dk_at dksX2_lots_3 9 rfl rfl)
theorem dX2_lots_81 : decode cX2_lots 81 = .ok (.getfield 68, 3) := dk_180 0 68 (dk_at dksX2_lots_3 10 rfl rfl)
theorem dX2_lots_84 : decode cX2_lots 84 = .ok (.invokevirtual 307, 3) := dk_182 1 51 (dk_at dksX2_lots_3 13 rfl rfl)
theorem dX2_lots_87 : decode cX2_lots 87 = .ok (.istore 9, 2) := dk_54 9 (dk_at dksX2_lots_3 16 rfl rfl)
theorem dX2_lots_89 : decode cX2_lots 89 = .ok (.iload 8, 2) := dk_21 8 (dk_at dksX2_lots_3 18 rfl rfl)
theorem dX2_lots_91 : decode cX2_lots 91 = .ok (.iload 9, 2) := dk_21 9 (dk_at dksX2_lots_3 20 rfl rfl)
theorem dX2_lots_93 : decode cX2_lots 93 = .ok (.if_icmp .eq 23, 3) := dk_159 0 23 (dk_at dksX2_lots_4 0 rfl rfl)
theorem dX2_lots_96 : decode cX2_lots 96 = .ok (.aload_n 0, 1) := dk_42 (dk_at dksX2_lots_4 3 rfl rfl)
theorem dX2_lots_97 : decode cX2_lots 97 = .ok (.getfield 19, 3) := dk_180 0 19 (dk_at dksX2_lots_4 4 rfl rfl)
theorem dX2_lots_100 : decode cX2_lots 100 = .ok (.iload 8, 2) := dk_21 8 (dk_at dksX2_lots_4 7 rfl rfl)
theorem dX2_lots_102 : decode cX2_lots 102 = .ok (.iaload, 1) := dk_46 (dk_at dksX2_lots_4 9 rfl rfl)
theorem dX2_lots_103 : decode cX2_lots 103 = .ok (.iload 9, 2) := dk_21 9 (dk_at dksX2_lots_4 10 rfl rfl)
theorem dX2_lots_105 : decode cX2_lots 105 = .ok (.if_icmp .eq 11, 3) := dk_159 0 11 (dk_at dksX2_lots_4 12 rfl rfl)
theorem dX2_lots_108 : decode cX2_lots 108 = .ok (.aload_n 0, 1) := dk_42 (dk_at dksX2_lots_4 15 rfl rfl)
theorem dX2_lots_109 : decode cX2_lots 109 = .ok (.iload 8, 2) := dk_21 8 (dk_at dksX2_lots_4 16 rfl rfl)
theorem dX2_lots_111 : decode cX2_lots 111 = .ok (.iload 9, 2) := dk_21 9 (dk_at dksX2_lots_4 18 rfl rfl)
theorem dX2_lots_113 : decode cX2_lots 113 = .ok (.invokevirtual 125, 3) := dk_182 0 125 (dk_at dksX2_lots_4 20 rfl rfl)
theorem dX2_lots_116 : decode cX2_lots 116 = .ok (.aload_n 0, 1) := dk_42 (dk_at dksX2_lots_4 23 rfl rfl)
theorem dX2_lots_117 : decode cX2_lots 117 = .ok (.bipush (-9), 2) := dk_16 247 (dk_at dksX2_lots_5 0 rfl rfl)
theorem dX2_lots_119 : decode cX2_lots 119 = .ok (.bipush (-9), 2) := dk_16 247 (dk_at dksX2_lots_5 2 rfl rfl)
theorem dX2_lots_121 : decode cX2_lots 121 = .ok (.invokevirtual 117, 3) := dk_182 0 117 (dk_at dksX2_lots_5 4 rfl rfl)
theorem dX2_lots_124 : decode cX2_lots 124 = .ok (.iinc 7 1, 3) := dk_132 7 1 (dk_at dksX2_lots_5 7 rfl rfl)
theorem dX2_lots_127 : decode cX2_lots 127 = .ok (.goto (-65), 3) := dk_167 255 191 (dk_at dksX2_lots_5 10 rfl rfl)
theorem dX2_lots_130 : decode cX2_lots 130 = .ok (.iload 5, 2) := dk_21 5 (dk_at dksX2_lots_5 13 rfl rfl)
theorem dX2_lots_132 : decode cX2_lots 132 = .ok (.iload_n 3, 1) := dk_29 (dk_at dksX2_lots_5 15 rfl rfl)
theorem dX2_lots_133 : decode cX2_lots 133 = .ok (.ifCond .ne 10, 3) := dk_154 0 10 (dk_at dksX2_lots_5 16 rfl rfl)
theorem dX2_lots_136 : decode cX2_lots 136 = .ok (.aload_n 0, 1) := dk_42 (dk_at dksX2_lots_5 19 rfl rfl)
theorem dX2_lots_137 : decode cX2_lots 137 = .ok (.invokevirtual 226, 3) := dk_182 0 226 (dk_at dksX2_lots_5 20 rfl rfl)
theorem dX2_lots_140 : decode cX2_lots 140 = .ok (.goto 7, 3) := dk_167 0 7 (dk_at dksX2_lots_6 0 rfl rfl)
theorem dX2_lots_143 : decode cX2_lots 143 = .ok (.aload_n 0, 1) := dk_42 (dk_at dksX2_lots_6 3 rfl rfl)
theorem dX2_lots_144 : decode cX2_lots 144 = .ok (.invokevirtual 229, 3) := dk_182 0 229 (dk_at dksX2_lots_6 4 rfl rfl)
theorem dX2_lots_147 : decode cX2_lots 147 = .ok (.iadd, 1) := dk_96 (dk_at dksX2_lots_6 7 rfl rfl)
theorem dX2_lots_148 : decode cX2_lots 148 = .ok (.istore 5, 2) := dk_54 5 (dk_at dksX2_lots_6 8 rfl rfl)
theorem dX2_lots_150 : decode cX2_lots 150 = .ok (.aload_n 0, 1) := dk_42 (dk_at dksX2_lots_6 10 rfl rfl)
theorem dX2_lots_151 : decode cX2_lots 151 = .ok (.invokevirtual 184, 3) := dk_182 0 184 (dk_at dksX2_lots_6 11 rfl rfl)
theorem dX2_lots_154 : decode cX2_lots 154 = .ok (.iinc 6 1, 3) := dk_132 6 1 (dk_at dksX2_lots_6 14 rfl rfl)
theorem dX2_lots_157 : decode cX2_lots 157 = .ok (.goto (-111), 3) := dk_167 255 145 (dk_at dksX2_lots_6 17 rfl rfl)
theorem dX2_lots_160 : decode cX2_lots 160 = .ok (.iload 5, 2) := dk_21 5 (dk_at dksX2_lots_6 20 rfl rfl)
theorem dX2_lots_162 : decode cX2_lots 162 = .ok (.ireturn, 1) := dk_172 (dk_at dksX2_lots_6 22 rfl rfl)
abbrev cX2_drawBelow : ByteArray := prog_12_method_98_code
def yX2_drawBelow : MethodName := ⟨RX2, "drawBelow", "(I)I"⟩
def dkwX2_drawBelow_1 : List UInt8 := [19, 1, 50, 108, 27, 112, 172]
abbrev dktX2_drawBelow_1 : List UInt8 := dkwX2_drawBelow_1 ++ []
def dkwX2_drawBelow_0 : List UInt8 := [42, 42, 180, 1, 45, 19, 1, 48, 104, 17, 48, 57, 96, 181, 1, 45, 42, 180, 1, 45, 19, 1, 49, 126]
abbrev dktX2_drawBelow_0 : List UInt8 := dkwX2_drawBelow_0 ++ dktX2_drawBelow_1
theorem dksX2_drawBelow_0 : cX2_drawBelow.data.toList.drop 0 = dktX2_drawBelow_0 := by decide +kernel
theorem dksX2_drawBelow_1 : cX2_drawBelow.data.toList.drop 24 = dktX2_drawBelow_1 := dk_seg dksX2_drawBelow_0 24 rfl rfl
theorem dX2_drawBelow_0 : decode cX2_drawBelow 0 = .ok (.aload_n 0, 1) := dk_42 (dk_at dksX2_drawBelow_0 0 rfl rfl)
theorem dX2_drawBelow_1 : decode cX2_drawBelow 1 = .ok (.aload_n 0, 1) := dk_42 (dk_at dksX2_drawBelow_0 1 rfl rfl)
theorem dX2_drawBelow_2 : decode cX2_drawBelow 2 = .ok (.getfield 301, 3) := dk_180 1 45 (dk_at dksX2_drawBelow_0 2 rfl rfl)
theorem dX2_drawBelow_5 : decode cX2_drawBelow 5 = .ok (.ldc_w 304, 3) := dk_19 1 48 (dk_at dksX2_drawBelow_0 5 rfl rfl)
theorem dX2_drawBelow_8 : decode cX2_drawBelow 8 = .ok (.imul, 1) := dk_104 (dk_at dksX2_drawBelow_0 8 rfl rfl)
theorem dX2_drawBelow_9 : decode cX2_drawBelow 9 = .ok (.sipush 12345, 3) := dk_17 48 57 (dk_at dksX2_drawBelow_0 9 rfl rfl)
theorem dX2_drawBelow_12 : decode cX2_drawBelow 12 = .ok (.iadd, 1) := dk_96 (dk_at dksX2_drawBelow_0 12 rfl rfl)
theorem dX2_drawBelow_13 : decode cX2_drawBelow 13 = .ok (.putfield 301, 3) := dk_181 1 45 (dk_at dksX2_drawBelow_0 13 rfl rfl)
theorem dX2_drawBelow_16 : decode cX2_drawBelow 16 = .ok (.aload_n 0, 1) := dk_42 (dk_at dksX2_drawBelow_0 16 rfl rfl)
theorem dX2_drawBelow_17 : decode cX2_drawBelow 17 = .ok (.getfield 301, 3) := dk_180 1 45 (dk_at dksX2_drawBelow_0 17 rfl rfl)
theorem dX2_drawBelow_20 : decode cX2_drawBelow 20 = .ok (.ldc_w 305, 3) := dk_19 1 49 (dk_at dksX2_drawBelow_0 20 rfl rfl)
theorem dX2_drawBelow_23 : decode cX2_drawBelow 23 = .ok (.iand, 1) := dk_126 (dk_at dksX2_drawBelow_0 23 rfl rfl)
theorem dX2_drawBelow_24 : decode cX2_drawBelow 24 = .ok (.ldc_w 306, 3) := dk_19 1 50 (dk_at dksX2_drawBelow_1 0 rfl rfl)
theorem dX2_drawBelow_27 : decode cX2_drawBelow 27 = .ok (.idiv, 1) := dk_108 (dk_at dksX2_drawBelow_1 3 rfl rfl)
theorem dX2_drawBelow_28 : decode cX2_drawBelow 28 = .ok (.iload_n 1, 1) := dk_27 (dk_at dksX2_drawBelow_1 4 rfl rfl)
theorem dX2_drawBelow_29 : decode cX2_drawBelow 29 = .ok (.irem, 1) := dk_112 (dk_at dksX2_drawBelow_1 5 rfl rfl)
theorem dX2_drawBelow_30 : decode cX2_drawBelow 30 = .ok (.ireturn, 1) := dk_172 (dk_at dksX2_drawBelow_1 6 rfl rfl)
abbrev cX2_count : ByteArray := prog_12_method_100_code
def yX2_count : MethodName := ⟨RX2, "count", "(I)I"⟩
def dkwX2_count_5 : List UInt8 := [20, 1, 56, 184, 0, 71, 153, 0, 15, 42, 180, 0, 25, 27, 16, 10, 100, 46, 167, 0, 5, 16, 247, 172]
abbrev dktX2_count_5 : List UInt8 := dkwX2_count_5 ++ []
def dkwX2_count_4 : List UInt8 := [28, 172, 42, 180, 0, 131, 172, 42, 180, 1, 17, 172, 42, 180, 0, 187, 172, 27, 133, 20, 1, 54]
abbrev dktX2_count_4 : List UInt8 := dkwX2_count_4 ++ dktX2_count_5
def dkwX2_count_3 : List UInt8 := [180, 0, 68, 162, 0, 21, 28, 42, 180, 0, 16, 29, 46, 184, 0, 83, 96, 61, 132, 3, 1, 167, 255, 233]
abbrev dktX2_count_3 : List UInt8 := dkwX2_count_3 ++ dktX2_count_4
def dkwX2_count_2 : List UInt8 := [42, 180, 0, 68, 172, 42, 180, 0, 106, 172, 42, 182, 0, 223, 172, 42, 182, 0, 226, 172, 3, 62, 29, 42]
abbrev dktX2_count_2 : List UInt8 := dkwX2_count_2 ++ dktX2_count_3
def dkwX2_count_1 : List UInt8 := [170, 0, 0, 0, 0, 0, 0, 113, 0, 0, 0, 0, 0, 0, 0, 7, 0, 0, 0, 48, 0, 0, 0, 53, 0, 0, 0, 58, 0, 0, 0, 63, 0, 0, 0, 68, 0, 0, 0, 98, 0, 0, 0, 103, 0, 0, 0, 108]
abbrev dktX2_count_1 : List UInt8 := dkwX2_count_1 ++ dktX2_count_2
def dkwX2_count_0 : List UInt8 := [42, 3, 181, 0, 65, 3, 61, 27]
abbrev dktX2_count_0 : List UInt8 := dkwX2_count_0 ++ dktX2_count_1
theorem dksX2_count_0 : cX2_count.data.toList.drop 0 = dktX2_count_0 := by decide +kernel
theorem dksX2_count_1 : cX2_count.data.toList.drop 8 = dktX2_count_1 := dk_seg dksX2_count_0 8 rfl rfl
theorem dksX2_count_2 : cX2_count.data.toList.drop 56 = dktX2_count_2 := dk_seg dksX2_count_1 48 rfl rfl
theorem dksX2_count_3 : cX2_count.data.toList.drop 80 = dktX2_count_3 := dk_seg dksX2_count_2 24 rfl rfl
theorem dksX2_count_4 : cX2_count.data.toList.drop 104 = dktX2_count_4 := dk_seg dksX2_count_3 24 rfl rfl
theorem dksX2_count_5 : cX2_count.data.toList.drop 126 = dktX2_count_5 := dk_seg dksX2_count_4 22 rfl rfl
theorem dX2_count_0 : decode cX2_count 0 = .ok (.aload_n 0, 1) := dk_42 (dk_at dksX2_count_0 0 rfl rfl)
theorem dX2_count_1 : decode cX2_count 1 = .ok (.iconst 0, 1) := dk_3 (dk_at dksX2_count_0 1 rfl rfl)
theorem dX2_count_2 : decode cX2_count 2 = .ok (.putfield 65, 3) := dk_181 0 65 (dk_at dksX2_count_0 2 rfl rfl)
theorem dX2_count_5 : decode cX2_count 5 = .ok (.iconst 0, 1) := dk_3 (dk_at dksX2_count_0 5 rfl rfl)
theorem dX2_count_6 : decode cX2_count 6 = .ok (.istore_n 2, 1) := dk_61 (dk_at dksX2_count_0 6 rfl rfl)
theorem dX2_count_7 : decode cX2_count 7 = .ok (.iload_n 1, 1) := dk_27 (dk_at dksX2_count_0 7 rfl rfl)
theorem dX2_count_8 : decode cX2_count 8 = .ok (.tableswitch 113 0 7 #[48, 53, 58, 63, 68, 98, 103, 108], 48) := by decide +kernel
theorem dX2_count_56 : decode cX2_count 56 = .ok (.aload_n 0, 1) := dk_42 (dk_at dksX2_count_2 0 rfl rfl)
theorem dX2_count_57 : decode cX2_count 57 = .ok (.getfield 68, 3) := dk_180 0 68 (dk_at dksX2_count_2 1 rfl rfl)
theorem dX2_count_60 : decode cX2_count 60 = .ok (.ireturn, 1) := dk_172 (dk_at dksX2_count_2 4 rfl rfl)
theorem dX2_count_61 : decode cX2_count 61 = .ok (.aload_n 0, 1) := dk_42 (dk_at dksX2_count_2 5 rfl rfl)
theorem dX2_count_62 : decode cX2_count 62 = .ok (.getfield 106, 3) := dk_180 0 106 (dk_at dksX2_count_2 6 rfl rfl)
theorem dX2_count_65 : decode cX2_count 65 = .ok (.ireturn, 1) := dk_172 (dk_at dksX2_count_2 9 rfl rfl)
theorem dX2_count_66 : decode cX2_count 66 = .ok (.aload_n 0, 1) := dk_42 (dk_at dksX2_count_2 10 rfl rfl)
theorem dX2_count_67 : decode cX2_count 67 = .ok (.invokevirtual 223, 3) := dk_182 0 223 (dk_at dksX2_count_2 11 rfl rfl)
theorem dX2_count_70 : decode cX2_count 70 = .ok (.ireturn, 1) := dk_172 (dk_at dksX2_count_2 14 rfl rfl)
theorem dX2_count_71 : decode cX2_count 71 = .ok (.aload_n 0, 1) := dk_42 (dk_at dksX2_count_2 15 rfl rfl)
theorem dX2_count_72 : decode cX2_count 72 = .ok (.invokevirtual 226, 3) := dk_182 0 226 (dk_at dksX2_count_2 16 rfl rfl)
theorem dX2_count_75 : decode cX2_count 75 = .ok (.ireturn, 1) := dk_172 (dk_at dksX2_count_2 19 rfl rfl)
theorem dX2_count_76 : decode cX2_count 76 = .ok (.iconst 0, 1) := dk_3 (dk_at dksX2_count_2 20 rfl rfl)
theorem dX2_count_77 : decode cX2_count 77 = .ok (.istore_n 3, 1) := dk_62 (dk_at dksX2_count_2 21 rfl rfl)
theorem dX2_count_78 : decode cX2_count 78 = .ok (.iload_n 3, 1) := dk_29 (dk_at dksX2_count_2 22 rfl rfl)
theorem dX2_count_79 : decode cX2_count 79 = .ok (.aload_n 0, 1) := dk_42 (dk_at dksX2_count_2 23 rfl rfl)
theorem dX2_count_80 : decode cX2_count 80 = .ok (.getfield 68, 3) := dk_180 0 68 (dk_at dksX2_count_3 0 rfl rfl)
theorem dX2_count_83 : decode cX2_count 83 = .ok (.if_icmp .ge 21, 3) := dk_162 0 21 (dk_at dksX2_count_3 3 rfl rfl)
theorem dX2_count_86 : decode cX2_count 86 = .ok (.iload_n 2, 1) := dk_28 (dk_at dksX2_count_3 6 rfl rfl)
theorem dX2_count_87 : decode cX2_count 87 = .ok (.aload_n 0, 1) := dk_42 (dk_at dksX2_count_3 7 rfl rfl)
theorem dX2_count_88 : decode cX2_count 88 = .ok (.getfield 16, 3) := dk_180 0 16 (dk_at dksX2_count_3 8 rfl rfl)
theorem dX2_count_91 : decode cX2_count 91 = .ok (.iload_n 3, 1) := dk_29 (dk_at dksX2_count_3 11 rfl rfl)
theorem dX2_count_92 : decode cX2_count 92 = .ok (.iaload, 1) := dk_46 (dk_at dksX2_count_3 12 rfl rfl)
theorem dX2_count_93 : decode cX2_count 93 = .ok (.invokestatic 83, 3) := dk_184 0 83 (dk_at dksX2_count_3 13 rfl rfl)
theorem dX2_count_96 : decode cX2_count 96 = .ok (.iadd, 1) := dk_96 (dk_at dksX2_count_3 16 rfl rfl)
theorem dX2_count_97 : decode cX2_count 97 = .ok (.istore_n 2, 1) := dk_61 (dk_at dksX2_count_3 17 rfl rfl)
theorem dX2_count_98 : decode cX2_count 98 = .ok (.iinc 3 1, 3) := dk_132 3 1 (dk_at dksX2_count_3 18 rfl rfl)
theorem dX2_count_101 : decode cX2_count 101 = .ok (.goto (-23), 3) := dk_167 255 233 (dk_at dksX2_count_3 21 rfl rfl)
theorem dX2_count_104 : decode cX2_count 104 = .ok (.iload_n 2, 1) := dk_28 (dk_at dksX2_count_4 0 rfl rfl)
theorem dX2_count_105 : decode cX2_count 105 = .ok (.ireturn, 1) := dk_172 (dk_at dksX2_count_4 1 rfl rfl)
theorem dX2_count_106 : decode cX2_count 106 = .ok (.aload_n 0, 1) := dk_42 (dk_at dksX2_count_4 2 rfl rfl)
theorem dX2_count_107 : decode cX2_count 107 = .ok (.getfield 131, 3) := dk_180 0 131 (dk_at dksX2_count_4 3 rfl rfl)
theorem dX2_count_110 : decode cX2_count 110 = .ok (.ireturn, 1) := dk_172 (dk_at dksX2_count_4 6 rfl rfl)
theorem dX2_count_111 : decode cX2_count 111 = .ok (.aload_n 0, 1) := dk_42 (dk_at dksX2_count_4 7 rfl rfl)
theorem dX2_count_112 : decode cX2_count 112 = .ok (.getfield 273, 3) := dk_180 1 17 (dk_at dksX2_count_4 8 rfl rfl)
theorem dX2_count_115 : decode cX2_count 115 = .ok (.ireturn, 1) := dk_172 (dk_at dksX2_count_4 11 rfl rfl)
theorem dX2_count_116 : decode cX2_count 116 = .ok (.aload_n 0, 1) := dk_42 (dk_at dksX2_count_4 12 rfl rfl)
theorem dX2_count_117 : decode cX2_count 117 = .ok (.getfield 187, 3) := dk_180 0 187 (dk_at dksX2_count_4 13 rfl rfl)
theorem dX2_count_120 : decode cX2_count 120 = .ok (.ireturn, 1) := dk_172 (dk_at dksX2_count_4 16 rfl rfl)
theorem dX2_count_121 : decode cX2_count 121 = .ok (.iload_n 1, 1) := dk_27 (dk_at dksX2_count_4 17 rfl rfl)
theorem dX2_count_122 : decode cX2_count 122 = .ok (.i2l, 1) := dk_133 (dk_at dksX2_count_4 18 rfl rfl)
theorem dX2_count_123 : decode cX2_count 123 = .ok (.ldc2_w 310, 3) := dk_20 1 54 (dk_at dksX2_count_4 19 rfl rfl)
theorem dX2_count_126 : decode cX2_count 126 = .ok (.ldc2_w 312, 3) := dk_20 1 56 (dk_at dksX2_count_5 0 rfl rfl)
theorem dX2_count_129 : decode cX2_count 129 = .ok (.invokestatic 71, 3) := dk_184 0 71 (dk_at dksX2_count_5 3 rfl rfl)
theorem dX2_count_132 : decode cX2_count 132 = .ok (.ifCond .eq 15, 3) := dk_153 0 15 (dk_at dksX2_count_5 6 rfl rfl)
theorem dX2_count_135 : decode cX2_count 135 = .ok (.aload_n 0, 1) := dk_42 (dk_at dksX2_count_5 9 rfl rfl)
theorem dX2_count_136 : decode cX2_count 136 = .ok (.getfield 25, 3) := dk_180 0 25 (dk_at dksX2_count_5 10 rfl rfl)
theorem dX2_count_139 : decode cX2_count 139 = .ok (.iload_n 1, 1) := dk_27 (dk_at dksX2_count_5 13 rfl rfl)
theorem dX2_count_140 : decode cX2_count 140 = .ok (.bipush 10, 2) := dk_16 10 (dk_at dksX2_count_5 14 rfl rfl)
theorem dX2_count_142 : decode cX2_count 142 = .ok (.isub, 1) := dk_100 (dk_at dksX2_count_5 16 rfl rfl)
theorem dX2_count_143 : decode cX2_count 143 = .ok (.iaload, 1) := dk_46 (dk_at dksX2_count_5 17 rfl rfl)
theorem dX2_count_144 : decode cX2_count 144 = .ok (.goto 5, 3) := dk_167 0 5 (dk_at dksX2_count_5 18 rfl rfl)
theorem dX2_count_147 : decode cX2_count 147 = .ok (.bipush (-9), 2) := dk_16 247 (dk_at dksX2_count_5 21 rfl rfl)
theorem dX2_count_149 : decode cX2_count 149 = .ok (.ireturn, 1) := dk_172 (dk_at dksX2_count_5 23 rfl rfl)
theorem q87 : (Jvm.Cond.initialized "PrayerMatsFaceModel") ∈ lw_all := lw_g (lw_at lw_m1 6 rfl) rfl
theorem q317 : (Jvm.Cond.selects "PrayerMatsFaceModel" ({ cls := "java/lang/Object", name := "getClass", desc := "()Ljava/lang/Class;" } : Jvm.MethodName) ({ cls := "java/lang/Object", name := "getClass", desc := "()Ljava/lang/Class;" } : Jvm.MethodName)) ∈ lw_all := lw_g (lw_at lw_m1 236 rfl) rfl
theorem q1004 : (Jvm.Cond.instantiable "PrayerMatsFaceModel" (33 : Nat)) ∈ lw_all := lw_g (lw_at lw_m4 203 rfl) rfl
theorem q1006 : (Jvm.Cond.instanceMethod ({ cls := "PrayerMatsFaceModel", name := "<init>", desc := "()V" } : Jvm.MethodName)) ∈ lw_all := lw_g (lw_at lw_m4 205 rfl) rfl
theorem q1007 : (Jvm.Cond.code ({ cls := "PrayerMatsFaceModel", name := "<init>", desc := "()V" } : Jvm.MethodName) prog_12_method_1_code (1 : Nat) (Option.none : Option Jvm.ClassFile.FieldType)) ∈ lw_all := lw_g (lw_at lw_m4 206 rfl) rfl
theorem q1008 : (Jvm.Cond.methodLink "PrayerMatsFaceModel" (1 : Nat) ({ cls := "java/lang/Object", name := "<init>", desc := "()V" } : Jvm.MethodName)) ∈ lw_all := lw_g (lw_at lw_m4 207 rfl) rfl
theorem q1009 : (Jvm.Cond.fieldLink "PrayerMatsFaceModel" (68 : Nat) "PrayerMatsFaceModel" "people" "I") ∈ lw_all := lw_g (lw_at lw_m4 208 rfl) rfl
theorem q1010 : (Jvm.Cond.fieldLink "PrayerMatsFaceModel" (7 : Nat) "PrayerMatsFaceModel" "kinds" "[I") ∈ lw_all := lw_g (lw_at lw_m4 209 rfl) rfl
theorem q1011 : (Jvm.Cond.fieldLink "PrayerMatsFaceModel" (13 : Nat) "PrayerMatsFaceModel" "figures" "[I") ∈ lw_all := lw_g (lw_at lw_m4 210 rfl) rfl
theorem q1012 : (Jvm.Cond.fieldLink "PrayerMatsFaceModel" (16 : Nat) "PrayerMatsFaceModel" "hours0" "[I") ∈ lw_all := lw_g (lw_at lw_m4 211 rfl) rfl
theorem q1013 : (Jvm.Cond.fieldLink "PrayerMatsFaceModel" (19 : Nat) "PrayerMatsFaceModel" "mates" "[I") ∈ lw_all := lw_g (lw_at lw_m4 212 rfl) rfl
theorem q1014 : (Jvm.Cond.fieldLink "PrayerMatsFaceModel" (22 : Nat) "PrayerMatsFaceModel" "quarrel" "[I") ∈ lw_all := lw_g (lw_at lw_m4 213 rfl) rfl
theorem q1015 : (Jvm.Cond.fieldLink "PrayerMatsFaceModel" (106 : Nat) "PrayerMatsFaceModel" "today" "I") ∈ lw_all := lw_g (lw_at lw_m4 214 rfl) rfl
theorem q1016 : (Jvm.Cond.fieldLink "PrayerMatsFaceModel" (65 : Nat) "PrayerMatsFaceModel" "thrown" "I") ∈ lw_all := lw_g (lw_at lw_m4 215 rfl) rfl
theorem q1017 : (Jvm.Cond.fieldLink "PrayerMatsFaceModel" (25 : Nat) "PrayerMatsFaceModel" "refusals" "[I") ∈ lw_all := lw_g (lw_at lw_m4 216 rfl) rfl
theorem q1018 : (Jvm.Cond.fieldLink "PrayerMatsFaceModel" (28 : Nat) "PrayerMatsFaceModel" "letters" "[I") ∈ lw_all := lw_g (lw_at lw_m4 217 rfl) rfl
theorem q1019 : (Jvm.Cond.fieldLink "PrayerMatsFaceModel" (131 : Nat) "PrayerMatsFaceModel" "letterMany" "I") ∈ lw_all := lw_g (lw_at lw_m4 218 rfl) rfl
theorem q1020 : (Jvm.Cond.fieldLink "PrayerMatsFaceModel" (134 : Nat) "PrayerMatsFaceModel" "at" "I") ∈ lw_all := lw_g (lw_at lw_m4 219 rfl) rfl
theorem q1021 : (Jvm.Cond.fieldLink "PrayerMatsFaceModel" (137 : Nat) "PrayerMatsFaceModel" "isBad" "Z") ∈ lw_all := lw_g (lw_at lw_m4 220 rfl) rfl
theorem q1022 : (Jvm.Cond.fieldLink "PrayerMatsFaceModel" (152 : Nat) "PrayerMatsFaceModel" "statements" "I") ∈ lw_all := lw_g (lw_at lw_m4 221 rfl) rfl
theorem q1023 : (Jvm.Cond.fieldLink "PrayerMatsFaceModel" (31 : Nat) "PrayerMatsFaceModel" "placeIn" "[I") ∈ lw_all := lw_g (lw_at lw_m4 222 rfl) rfl
theorem q1024 : (Jvm.Cond.fieldLink "PrayerMatsFaceModel" (34 : Nat) "PrayerMatsFaceModel" "letterOf" "[I") ∈ lw_all := lw_g (lw_at lw_m4 223 rfl) rfl
theorem q1025 : (Jvm.Cond.fieldLink "PrayerMatsFaceModel" (37 : Nat) "PrayerMatsFaceModel" "told" "[I") ∈ lw_all := lw_g (lw_at lw_m4 224 rfl) rfl
theorem q1026 : (Jvm.Cond.fieldLink "PrayerMatsFaceModel" (40 : Nat) "PrayerMatsFaceModel" "kept" "[I") ∈ lw_all := lw_g (lw_at lw_m4 225 rfl) rfl
theorem q1027 : (Jvm.Cond.fieldLink "PrayerMatsFaceModel" (43 : Nat) "PrayerMatsFaceModel" "imaged" "[I") ∈ lw_all := lw_g (lw_at lw_m4 226 rfl) rfl
theorem q1028 : (Jvm.Cond.fieldLink "PrayerMatsFaceModel" (206 : Nat) "PrayerMatsFaceModel" "hasImage" "Z") ∈ lw_all := lw_g (lw_at lw_m4 227 rfl) rfl
theorem q1029 : (Jvm.Cond.fieldLink "PrayerMatsFaceModel" (196 : Nat) "PrayerMatsFaceModel" "place0" "I") ∈ lw_all := lw_g (lw_at lw_m4 228 rfl) rfl
theorem q1030 : (Jvm.Cond.fieldLink "PrayerMatsFaceModel" (190 : Nat) "PrayerMatsFaceModel" "isTaking" "Z") ∈ lw_all := lw_g (lw_at lw_m4 229 rfl) rfl
theorem q1031 : (Jvm.Cond.fieldLink "PrayerMatsFaceModel" (193 : Nat) "PrayerMatsFaceModel" "keptIn" "[I") ∈ lw_all := lw_g (lw_at lw_m4 230 rfl) rfl
theorem q1032 : (Jvm.Cond.fieldLink "PrayerMatsFaceModel" (46 : Nat) "PrayerMatsFaceModel" "turns0" "[I") ∈ lw_all := lw_g (lw_at lw_m4 231 rfl) rfl
theorem q1033 : (Jvm.Cond.fieldLink "PrayerMatsFaceModel" (49 : Nat) "PrayerMatsFaceModel" "turnOf" "[I") ∈ lw_all := lw_g (lw_at lw_m4 232 rfl) rfl
theorem q1034 : (Jvm.Cond.fieldLink "PrayerMatsFaceModel" (187 : Nat) "PrayerMatsFaceModel" "turned" "I") ∈ lw_all := lw_g (lw_at lw_m4 233 rfl) rfl
theorem q1035 : (Jvm.Cond.fieldLink "PrayerMatsFaceModel" (52 : Nat) "PrayerMatsFaceModel" "paired" "[I") ∈ lw_all := lw_g (lw_at lw_m4 234 rfl) rfl
theorem q1036 : (Jvm.Cond.fieldLink "PrayerMatsFaceModel" (253 : Nat) "PrayerMatsFaceModel" "pairedMany" "I") ∈ lw_all := lw_g (lw_at lw_m4 235 rfl) rfl
theorem q1037 : (Jvm.Cond.fieldLink "PrayerMatsFaceModel" (55 : Nat) "PrayerMatsFaceModel" "pairedFor" "I") ∈ lw_all := lw_g (lw_at lw_m4 236 rfl) rfl
theorem q1038 : (Jvm.Cond.fieldLink "PrayerMatsFaceModel" (59 : Nat) "PrayerMatsFaceModel" "trial" "[I") ∈ lw_all := lw_g (lw_at lw_m4 237 rfl) rfl
theorem q1039 : (Jvm.Cond.fieldLink "PrayerMatsFaceModel" (62 : Nat) "PrayerMatsFaceModel" "row" "[I") ∈ lw_all := lw_g (lw_at lw_m4 238 rfl) rfl
theorem q1040 : (Jvm.Cond.fieldLink "PrayerMatsFaceModel" (273 : Nat) "PrayerMatsFaceModel" "rowMany" "I") ∈ lw_all := lw_g (lw_at lw_m4 239 rfl) rfl
theorem q1041 : (Jvm.Cond.fieldLink "PrayerMatsFaceModel" (301 : Nat) "PrayerMatsFaceModel" "seed" "I") ∈ lw_all := lw_g (lw_at lw_m5 0 rfl) rfl
theorem q1042 : (Jvm.Cond.lays "PrayerMatsFaceModel" "PrayerMatsFaceModel" "people" "I") ∈ lw_all := lw_g (lw_at lw_m5 1 rfl) rfl
theorem q1043 : (Jvm.Cond.soleField "PrayerMatsFaceModel" "people") ∈ lw_all := lw_g (lw_at lw_m5 2 rfl) rfl
theorem q1044 : (Jvm.Cond.laysFinal "PrayerMatsFaceModel" "PrayerMatsFaceModel" "kinds" "[I") ∈ lw_all := lw_g (lw_at lw_m5 3 rfl) rfl
theorem q1045 : (Jvm.Cond.soleField "PrayerMatsFaceModel" "kinds") ∈ lw_all := lw_g (lw_at lw_m5 4 rfl) rfl
theorem q1046 : (Jvm.Cond.laysFinal "PrayerMatsFaceModel" "PrayerMatsFaceModel" "figures" "[I") ∈ lw_all := lw_g (lw_at lw_m5 5 rfl) rfl
theorem q1047 : (Jvm.Cond.soleField "PrayerMatsFaceModel" "figures") ∈ lw_all := lw_g (lw_at lw_m5 6 rfl) rfl
theorem q1048 : (Jvm.Cond.laysFinal "PrayerMatsFaceModel" "PrayerMatsFaceModel" "hours0" "[I") ∈ lw_all := lw_g (lw_at lw_m5 7 rfl) rfl
theorem q1049 : (Jvm.Cond.soleField "PrayerMatsFaceModel" "hours0") ∈ lw_all := lw_g (lw_at lw_m5 8 rfl) rfl
theorem q1050 : (Jvm.Cond.laysFinal "PrayerMatsFaceModel" "PrayerMatsFaceModel" "mates" "[I") ∈ lw_all := lw_g (lw_at lw_m5 9 rfl) rfl
theorem q1051 : (Jvm.Cond.soleField "PrayerMatsFaceModel" "mates") ∈ lw_all := lw_g (lw_at lw_m5 10 rfl) rfl
theorem q1052 : (Jvm.Cond.laysFinal "PrayerMatsFaceModel" "PrayerMatsFaceModel" "quarrel" "[I") ∈ lw_all := lw_g (lw_at lw_m5 11 rfl) rfl
theorem q1053 : (Jvm.Cond.soleField "PrayerMatsFaceModel" "quarrel") ∈ lw_all := lw_g (lw_at lw_m5 12 rfl) rfl
theorem q1054 : (Jvm.Cond.lays "PrayerMatsFaceModel" "PrayerMatsFaceModel" "today" "I") ∈ lw_all := lw_g (lw_at lw_m5 13 rfl) rfl
theorem q1055 : (Jvm.Cond.soleField "PrayerMatsFaceModel" "today") ∈ lw_all := lw_g (lw_at lw_m5 14 rfl) rfl
theorem q1056 : (Jvm.Cond.lays "PrayerMatsFaceModel" "PrayerMatsFaceModel" "thrown" "I") ∈ lw_all := lw_g (lw_at lw_m5 15 rfl) rfl
theorem q1057 : (Jvm.Cond.soleField "PrayerMatsFaceModel" "thrown") ∈ lw_all := lw_g (lw_at lw_m5 16 rfl) rfl
theorem q1058 : (Jvm.Cond.laysFinal "PrayerMatsFaceModel" "PrayerMatsFaceModel" "refusals" "[I") ∈ lw_all := lw_g (lw_at lw_m5 17 rfl) rfl
theorem q1059 : (Jvm.Cond.soleField "PrayerMatsFaceModel" "refusals") ∈ lw_all := lw_g (lw_at lw_m5 18 rfl) rfl
theorem q1060 : (Jvm.Cond.laysFinal "PrayerMatsFaceModel" "PrayerMatsFaceModel" "letters" "[I") ∈ lw_all := lw_g (lw_at lw_m5 19 rfl) rfl
theorem q1061 : (Jvm.Cond.soleField "PrayerMatsFaceModel" "letters") ∈ lw_all := lw_g (lw_at lw_m5 20 rfl) rfl
theorem q1062 : (Jvm.Cond.lays "PrayerMatsFaceModel" "PrayerMatsFaceModel" "letterMany" "I") ∈ lw_all := lw_g (lw_at lw_m5 21 rfl) rfl
theorem q1063 : (Jvm.Cond.soleField "PrayerMatsFaceModel" "letterMany") ∈ lw_all := lw_g (lw_at lw_m5 22 rfl) rfl
theorem q1064 : (Jvm.Cond.lays "PrayerMatsFaceModel" "PrayerMatsFaceModel" "at" "I") ∈ lw_all := lw_g (lw_at lw_m5 23 rfl) rfl
theorem q1065 : (Jvm.Cond.soleField "PrayerMatsFaceModel" "at") ∈ lw_all := lw_g (lw_at lw_m5 24 rfl) rfl
theorem q1066 : (Jvm.Cond.lays "PrayerMatsFaceModel" "PrayerMatsFaceModel" "isBad" "Z") ∈ lw_all := lw_g (lw_at lw_m5 25 rfl) rfl
theorem q1067 : (Jvm.Cond.soleField "PrayerMatsFaceModel" "isBad") ∈ lw_all := lw_g (lw_at lw_m5 26 rfl) rfl
theorem q1068 : (Jvm.Cond.lays "PrayerMatsFaceModel" "PrayerMatsFaceModel" "statements" "I") ∈ lw_all := lw_g (lw_at lw_m5 27 rfl) rfl
theorem q1069 : (Jvm.Cond.soleField "PrayerMatsFaceModel" "statements") ∈ lw_all := lw_g (lw_at lw_m5 28 rfl) rfl
theorem q1070 : (Jvm.Cond.laysFinal "PrayerMatsFaceModel" "PrayerMatsFaceModel" "placeIn" "[I") ∈ lw_all := lw_g (lw_at lw_m5 29 rfl) rfl
theorem q1071 : (Jvm.Cond.soleField "PrayerMatsFaceModel" "placeIn") ∈ lw_all := lw_g (lw_at lw_m5 30 rfl) rfl
theorem q1072 : (Jvm.Cond.laysFinal "PrayerMatsFaceModel" "PrayerMatsFaceModel" "letterOf" "[I") ∈ lw_all := lw_g (lw_at lw_m5 31 rfl) rfl
theorem q1073 : (Jvm.Cond.soleField "PrayerMatsFaceModel" "letterOf") ∈ lw_all := lw_g (lw_at lw_m5 32 rfl) rfl
theorem q1074 : (Jvm.Cond.laysFinal "PrayerMatsFaceModel" "PrayerMatsFaceModel" "told" "[I") ∈ lw_all := lw_g (lw_at lw_m5 33 rfl) rfl
theorem q1075 : (Jvm.Cond.soleField "PrayerMatsFaceModel" "told") ∈ lw_all := lw_g (lw_at lw_m5 34 rfl) rfl
theorem q1076 : (Jvm.Cond.laysFinal "PrayerMatsFaceModel" "PrayerMatsFaceModel" "kept" "[I") ∈ lw_all := lw_g (lw_at lw_m5 35 rfl) rfl
theorem q1077 : (Jvm.Cond.soleField "PrayerMatsFaceModel" "kept") ∈ lw_all := lw_g (lw_at lw_m5 36 rfl) rfl
theorem q1078 : (Jvm.Cond.laysFinal "PrayerMatsFaceModel" "PrayerMatsFaceModel" "imaged" "[I") ∈ lw_all := lw_g (lw_at lw_m5 37 rfl) rfl
theorem q1079 : (Jvm.Cond.soleField "PrayerMatsFaceModel" "imaged") ∈ lw_all := lw_g (lw_at lw_m5 38 rfl) rfl
theorem q1080 : (Jvm.Cond.lays "PrayerMatsFaceModel" "PrayerMatsFaceModel" "hasImage" "Z") ∈ lw_all := lw_g (lw_at lw_m5 39 rfl) rfl
theorem q1081 : (Jvm.Cond.soleField "PrayerMatsFaceModel" "hasImage") ∈ lw_all := lw_g (lw_at lw_m5 40 rfl) rfl
theorem q1082 : (Jvm.Cond.lays "PrayerMatsFaceModel" "PrayerMatsFaceModel" "place0" "I") ∈ lw_all := lw_g (lw_at lw_m5 41 rfl) rfl
theorem q1083 : (Jvm.Cond.soleField "PrayerMatsFaceModel" "place0") ∈ lw_all := lw_g (lw_at lw_m5 42 rfl) rfl
theorem q1084 : (Jvm.Cond.lays "PrayerMatsFaceModel" "PrayerMatsFaceModel" "isTaking" "Z") ∈ lw_all := lw_g (lw_at lw_m5 43 rfl) rfl
theorem q1085 : (Jvm.Cond.soleField "PrayerMatsFaceModel" "isTaking") ∈ lw_all := lw_g (lw_at lw_m5 44 rfl) rfl
theorem q1086 : (Jvm.Cond.lays "PrayerMatsFaceModel" "PrayerMatsFaceModel" "keptIn" "[I") ∈ lw_all := lw_g (lw_at lw_m5 45 rfl) rfl
theorem q1087 : (Jvm.Cond.soleField "PrayerMatsFaceModel" "keptIn") ∈ lw_all := lw_g (lw_at lw_m5 46 rfl) rfl
theorem q1088 : (Jvm.Cond.laysFinal "PrayerMatsFaceModel" "PrayerMatsFaceModel" "turns0" "[I") ∈ lw_all := lw_g (lw_at lw_m5 47 rfl) rfl
theorem q1089 : (Jvm.Cond.soleField "PrayerMatsFaceModel" "turns0") ∈ lw_all := lw_g (lw_at lw_m5 48 rfl) rfl
theorem q1090 : (Jvm.Cond.laysFinal "PrayerMatsFaceModel" "PrayerMatsFaceModel" "turnOf" "[I") ∈ lw_all := lw_g (lw_at lw_m5 49 rfl) rfl
theorem q1091 : (Jvm.Cond.soleField "PrayerMatsFaceModel" "turnOf") ∈ lw_all := lw_g (lw_at lw_m5 50 rfl) rfl
theorem q1092 : (Jvm.Cond.lays "PrayerMatsFaceModel" "PrayerMatsFaceModel" "turned" "I") ∈ lw_all := lw_g (lw_at lw_m5 51 rfl) rfl
theorem q1093 : (Jvm.Cond.soleField "PrayerMatsFaceModel" "turned") ∈ lw_all := lw_g (lw_at lw_m5 52 rfl) rfl
theorem q1094 : (Jvm.Cond.laysFinal "PrayerMatsFaceModel" "PrayerMatsFaceModel" "paired" "[I") ∈ lw_all := lw_g (lw_at lw_m5 53 rfl) rfl
theorem q1095 : (Jvm.Cond.soleField "PrayerMatsFaceModel" "paired") ∈ lw_all := lw_g (lw_at lw_m5 54 rfl) rfl
theorem q1096 : (Jvm.Cond.lays "PrayerMatsFaceModel" "PrayerMatsFaceModel" "pairedMany" "I") ∈ lw_all := lw_g (lw_at lw_m5 55 rfl) rfl
theorem q1097 : (Jvm.Cond.soleField "PrayerMatsFaceModel" "pairedMany") ∈ lw_all := lw_g (lw_at lw_m5 56 rfl) rfl
theorem q1098 : (Jvm.Cond.lays "PrayerMatsFaceModel" "PrayerMatsFaceModel" "pairedFor" "I") ∈ lw_all := lw_g (lw_at lw_m5 57 rfl) rfl
theorem q1099 : (Jvm.Cond.soleField "PrayerMatsFaceModel" "pairedFor") ∈ lw_all := lw_g (lw_at lw_m5 58 rfl) rfl
theorem q1100 : (Jvm.Cond.laysFinal "PrayerMatsFaceModel" "PrayerMatsFaceModel" "trial" "[I") ∈ lw_all := lw_g (lw_at lw_m5 59 rfl) rfl
theorem q1101 : (Jvm.Cond.soleField "PrayerMatsFaceModel" "trial") ∈ lw_all := lw_g (lw_at lw_m5 60 rfl) rfl
theorem q1102 : (Jvm.Cond.laysFinal "PrayerMatsFaceModel" "PrayerMatsFaceModel" "row" "[I") ∈ lw_all := lw_g (lw_at lw_m5 61 rfl) rfl
theorem q1103 : (Jvm.Cond.soleField "PrayerMatsFaceModel" "row") ∈ lw_all := lw_g (lw_at lw_m5 62 rfl) rfl
theorem q1104 : (Jvm.Cond.lays "PrayerMatsFaceModel" "PrayerMatsFaceModel" "rowMany" "I") ∈ lw_all := lw_g (lw_at lw_m5 63 rfl) rfl
theorem q1105 : (Jvm.Cond.soleField "PrayerMatsFaceModel" "rowMany") ∈ lw_all := lw_g (lw_at lw_m5 64 rfl) rfl
theorem q1106 : (Jvm.Cond.lays "PrayerMatsFaceModel" "PrayerMatsFaceModel" "seed" "I") ∈ lw_all := lw_g (lw_at lw_m5 65 rfl) rfl
theorem q1107 : (Jvm.Cond.soleField "PrayerMatsFaceModel" "seed") ∈ lw_all := lw_g (lw_at lw_m5 66 rfl) rfl
theorem q1108 : (Jvm.Cond.superclass "PrayerMatsFaceModel" "java/lang/Object") ∈ lw_all := lw_g (lw_at lw_m5 67 rfl) rfl
theorem q1110 : (Jvm.Cond.instanceMethod ({ cls := "PrayerMatsFaceModel", name := "feed", desc := "(I)I" } : Jvm.MethodName)) ∈ lw_all := lw_g (lw_at lw_m5 69 rfl) rfl
theorem q1111 : (Jvm.Cond.selects "PrayerMatsFaceModel" ({ cls := "PrayerMatsFaceModel", name := "feed", desc := "(I)I" } : Jvm.MethodName) ({ cls := "PrayerMatsFaceModel", name := "feed", desc := "(I)I" } : Jvm.MethodName)) ∈ lw_all := lw_g (lw_at lw_m5 70 rfl) rfl
theorem q1112 : (Jvm.Cond.code ({ cls := "PrayerMatsFaceModel", name := "feed", desc := "(I)I" } : Jvm.MethodName) prog_12_method_28_code (2 : Nat) (Option.some Jvm.ClassFile.FieldType.int)) ∈ lw_all := lw_g (lw_at lw_m5 71 rfl) rfl
theorem q1113 : (Jvm.Cond.methodLink "PrayerMatsFaceModel" (128 : Nat) ({ cls := "PrayerMatsFaceModel", name := "refuse", desc := "(I)I" } : Jvm.MethodName)) ∈ lw_all := lw_g (lw_at lw_m5 72 rfl) rfl
theorem q1114 : (Jvm.Cond.privateMethod ({ cls := "PrayerMatsFaceModel", name := "refuse", desc := "(I)I" } : Jvm.MethodName)) ∈ lw_tbl := lw_at lw_m5 73 rfl
theorem q1115 : (Jvm.Cond.instanceMethod ({ cls := "PrayerMatsFaceModel", name := "refuse", desc := "(I)I" } : Jvm.MethodName)) ∈ lw_all := lw_g (lw_at lw_m5 74 rfl) rfl
theorem q1116 : (Jvm.Cond.code ({ cls := "PrayerMatsFaceModel", name := "refuse", desc := "(I)I" } : Jvm.MethodName) prog_12_method_4_code (2 : Nat) (Option.some Jvm.ClassFile.FieldType.int)) ∈ lw_all := lw_g (lw_at lw_m5 75 rfl) rfl
theorem q1118 : (Jvm.Cond.instanceMethod ({ cls := "PrayerMatsFaceModel", name := "quarter", desc := "()I" } : Jvm.MethodName)) ∈ lw_all := lw_g (lw_at lw_m5 77 rfl) rfl
theorem q1119 : (Jvm.Cond.selects "PrayerMatsFaceModel" ({ cls := "PrayerMatsFaceModel", name := "quarter", desc := "()I" } : Jvm.MethodName) ({ cls := "PrayerMatsFaceModel", name := "quarter", desc := "()I" } : Jvm.MethodName)) ∈ lw_all := lw_g (lw_at lw_m5 78 rfl) rfl
theorem q1120 : (Jvm.Cond.code ({ cls := "PrayerMatsFaceModel", name := "quarter", desc := "()I" } : Jvm.MethodName) prog_12_method_36_code (2 : Nat) (Option.some Jvm.ClassFile.FieldType.int)) ∈ lw_all := lw_g (lw_at lw_m5 79 rfl) rfl
theorem q1121 : (Jvm.Cond.methodLink "PrayerMatsFaceModel" (175 : Nat) ({ cls := "PrayerMatsFaceModel", name := "readStatement", desc := "()V" } : Jvm.MethodName)) ∈ lw_all := lw_g (lw_at lw_m5 80 rfl) rfl
theorem q1122 : (Jvm.Cond.privateMethod ({ cls := "PrayerMatsFaceModel", name := "readStatement", desc := "()V" } : Jvm.MethodName)) ∈ lw_tbl := lw_at lw_m5 81 rfl
theorem q1123 : (Jvm.Cond.instanceMethod ({ cls := "PrayerMatsFaceModel", name := "readStatement", desc := "()V" } : Jvm.MethodName)) ∈ lw_all := lw_g (lw_at lw_m5 82 rfl) rfl
theorem q1124 : (Jvm.Cond.code ({ cls := "PrayerMatsFaceModel", name := "readStatement", desc := "()V" } : Jvm.MethodName) prog_12_method_33_code (3 : Nat) (Option.none : Option Jvm.ClassFile.FieldType)) ∈ lw_all := lw_g (lw_at lw_m5 83 rfl) rfl
theorem q1125 : (Jvm.Cond.methodLink "PrayerMatsFaceModel" (141 : Nat) ({ cls := "PrayerMatsFaceModel", name := "here", desc := "()I" } : Jvm.MethodName)) ∈ lw_all := lw_g (lw_at lw_m5 84 rfl) rfl
theorem q1126 : (Jvm.Cond.privateMethod ({ cls := "PrayerMatsFaceModel", name := "here", desc := "()I" } : Jvm.MethodName)) ∈ lw_tbl := lw_at lw_m5 85 rfl
theorem q1127 : (Jvm.Cond.instanceMethod ({ cls := "PrayerMatsFaceModel", name := "here", desc := "()I" } : Jvm.MethodName)) ∈ lw_all := lw_g (lw_at lw_m5 86 rfl) rfl
theorem q1128 : (Jvm.Cond.code ({ cls := "PrayerMatsFaceModel", name := "here", desc := "()I" } : Jvm.MethodName) prog_12_method_29_code (1 : Nat) (Option.some Jvm.ClassFile.FieldType.int)) ∈ lw_all := lw_g (lw_at lw_m5 87 rfl) rfl
theorem q1129 : (Jvm.Cond.methodLink "PrayerMatsFaceModel" (155 : Nat) ({ cls := "PrayerMatsFaceModel", name := "isLetter", desc := "(I)Z" } : Jvm.MethodName)) ∈ lw_all := lw_g (lw_at lw_m5 88 rfl) rfl
theorem q1130 : (Jvm.Cond.static ({ cls := "PrayerMatsFaceModel", name := "isLetter", desc := "(I)Z" } : Jvm.MethodName)) ∈ lw_all := lw_g (lw_at lw_m5 89 rfl) rfl
theorem q1131 : (Jvm.Cond.code ({ cls := "PrayerMatsFaceModel", name := "isLetter", desc := "(I)Z" } : Jvm.MethodName) prog_12_method_31_code (1 : Nat) (Option.some Jvm.ClassFile.FieldType.boolean)) ∈ lw_all := lw_g (lw_at lw_m5 90 rfl) rfl
theorem q1132 : (Jvm.Cond.methodLink "PrayerMatsFaceModel" (158 : Nat) ({ cls := "PrayerMatsFaceModel", name := "readNumbers", desc := "(II)V" } : Jvm.MethodName)) ∈ lw_all := lw_g (lw_at lw_m5 91 rfl) rfl
theorem q1133 : (Jvm.Cond.privateMethod ({ cls := "PrayerMatsFaceModel", name := "readNumbers", desc := "(II)V" } : Jvm.MethodName)) ∈ lw_tbl := lw_at lw_m5 92 rfl
theorem q1134 : (Jvm.Cond.instanceMethod ({ cls := "PrayerMatsFaceModel", name := "readNumbers", desc := "(II)V" } : Jvm.MethodName)) ∈ lw_all := lw_g (lw_at lw_m5 93 rfl) rfl
theorem q1135 : (Jvm.Cond.code ({ cls := "PrayerMatsFaceModel", name := "readNumbers", desc := "(II)V" } : Jvm.MethodName) prog_12_method_32_code (3 : Nat) (Option.none : Option Jvm.ClassFile.FieldType)) ∈ lw_all := lw_g (lw_at lw_m5 94 rfl) rfl
theorem q1136 : (Jvm.Cond.methodLink "PrayerMatsFaceModel" (149 : Nat) ({ cls := "PrayerMatsFaceModel", name := "readDigits", desc := "(I)I" } : Jvm.MethodName)) ∈ lw_all := lw_g (lw_at lw_m5 95 rfl) rfl
theorem q1137 : (Jvm.Cond.privateMethod ({ cls := "PrayerMatsFaceModel", name := "readDigits", desc := "(I)I" } : Jvm.MethodName)) ∈ lw_tbl := lw_at lw_m5 96 rfl
theorem q1138 : (Jvm.Cond.instanceMethod ({ cls := "PrayerMatsFaceModel", name := "readDigits", desc := "(I)I" } : Jvm.MethodName)) ∈ lw_all := lw_g (lw_at lw_m5 97 rfl) rfl
theorem q1139 : (Jvm.Cond.code ({ cls := "PrayerMatsFaceModel", name := "readDigits", desc := "(I)I" } : Jvm.MethodName) prog_12_method_30_code (4 : Nat) (Option.some Jvm.ClassFile.FieldType.int)) ∈ lw_all := lw_g (lw_at lw_m5 98 rfl) rfl
theorem q1140 : (Jvm.Cond.constantLong "PrayerMatsFaceModel" (145 : Nat) (48 : Int64)) ∈ lw_all := lw_g (lw_at lw_m5 99 rfl) rfl
theorem q1141 : (Jvm.Cond.constantLong "PrayerMatsFaceModel" (147 : Nat) (57 : Int64)) ∈ lw_all := lw_g (lw_at lw_m5 100 rfl) rfl
theorem q1142 : (Jvm.Cond.methodLink "PrayerMatsFaceModel" (71 : Nat) ({ cls := "PrayerMatsFaceModel", name := "in", desc := "(JJJ)Z" } : Jvm.MethodName)) ∈ lw_all := lw_g (lw_at lw_m5 101 rfl) rfl
theorem q1143 : (Jvm.Cond.static ({ cls := "PrayerMatsFaceModel", name := "in", desc := "(JJJ)Z" } : Jvm.MethodName)) ∈ lw_all := lw_g (lw_at lw_m5 102 rfl) rfl
theorem q1144 : (Jvm.Cond.code ({ cls := "PrayerMatsFaceModel", name := "in", desc := "(JJJ)Z" } : Jvm.MethodName) prog_12_method_3_code (6 : Nat) (Option.some Jvm.ClassFile.FieldType.boolean)) ∈ lw_all := lw_g (lw_at lw_m5 103 rfl) rfl
theorem q1145 : (Jvm.Cond.methodLink "PrayerMatsFaceModel" (178 : Nat) ({ cls := "PrayerMatsFaceModel", name := "think", desc := "()V" } : Jvm.MethodName)) ∈ lw_all := lw_g (lw_at lw_m5 104 rfl) rfl
theorem q1146 : (Jvm.Cond.privateMethod ({ cls := "PrayerMatsFaceModel", name := "think", desc := "()V" } : Jvm.MethodName)) ∈ lw_tbl := lw_at lw_m5 105 rfl
theorem q1147 : (Jvm.Cond.instanceMethod ({ cls := "PrayerMatsFaceModel", name := "think", desc := "()V" } : Jvm.MethodName)) ∈ lw_all := lw_g (lw_at lw_m5 106 rfl) rfl
theorem q1148 : (Jvm.Cond.code ({ cls := "PrayerMatsFaceModel", name := "think", desc := "()V" } : Jvm.MethodName) prog_12_method_39_code (1 : Nat) (Option.none : Option Jvm.ClassFile.FieldType)) ∈ lw_all := lw_g (lw_at lw_m5 107 rfl) rfl
theorem q1149 : (Jvm.Cond.methodLink "PrayerMatsFaceModel" (202 : Nat) ({ cls := "PrayerMatsFaceModel", name := "carryAll", desc := "([IZ)V" } : Jvm.MethodName)) ∈ lw_all := lw_g (lw_at lw_m5 108 rfl) rfl
theorem q1150 : (Jvm.Cond.privateMethod ({ cls := "PrayerMatsFaceModel", name := "carryAll", desc := "([IZ)V" } : Jvm.MethodName)) ∈ lw_tbl := lw_at lw_m5 109 rfl
theorem q1151 : (Jvm.Cond.instanceMethod ({ cls := "PrayerMatsFaceModel", name := "carryAll", desc := "([IZ)V" } : Jvm.MethodName)) ∈ lw_all := lw_g (lw_at lw_m5 110 rfl) rfl
theorem q1152 : (Jvm.Cond.code ({ cls := "PrayerMatsFaceModel", name := "carryAll", desc := "([IZ)V" } : Jvm.MethodName) prog_12_method_38_code (4 : Nat) (Option.none : Option Jvm.ClassFile.FieldType)) ∈ lw_all := lw_g (lw_at lw_m5 111 rfl) rfl
theorem q1153 : (Jvm.Cond.methodLink "PrayerMatsFaceModel" (199 : Nat) ({ cls := "PrayerMatsFaceModel", name := "carry", desc := "(I)I" } : Jvm.MethodName)) ∈ lw_all := lw_g (lw_at lw_m5 112 rfl) rfl
theorem q1154 : (Jvm.Cond.privateMethod ({ cls := "PrayerMatsFaceModel", name := "carry", desc := "(I)I" } : Jvm.MethodName)) ∈ lw_tbl := lw_at lw_m5 113 rfl
theorem q1155 : (Jvm.Cond.instanceMethod ({ cls := "PrayerMatsFaceModel", name := "carry", desc := "(I)I" } : Jvm.MethodName)) ∈ lw_all := lw_g (lw_at lw_m5 114 rfl) rfl
theorem q1156 : (Jvm.Cond.code ({ cls := "PrayerMatsFaceModel", name := "carry", desc := "(I)I" } : Jvm.MethodName) prog_12_method_37_code (2 : Nat) (Option.some Jvm.ClassFile.FieldType.int)) ∈ lw_all := lw_g (lw_at lw_m5 115 rfl) rfl
theorem q1157 : (Jvm.Cond.methodLink "PrayerMatsFaceModel" (181 : Nat) ({ cls := "PrayerMatsFaceModel", name := "comesTold", desc := "(I)Z" } : Jvm.MethodName)) ∈ lw_all := lw_g (lw_at lw_m5 116 rfl) rfl
theorem q1158 : (Jvm.Cond.privateMethod ({ cls := "PrayerMatsFaceModel", name := "comesTold", desc := "(I)Z" } : Jvm.MethodName)) ∈ lw_tbl := lw_at lw_m5 117 rfl
theorem q1159 : (Jvm.Cond.instanceMethod ({ cls := "PrayerMatsFaceModel", name := "comesTold", desc := "(I)Z" } : Jvm.MethodName)) ∈ lw_all := lw_g (lw_at lw_m5 118 rfl) rfl
theorem q1160 : (Jvm.Cond.code ({ cls := "PrayerMatsFaceModel", name := "comesTold", desc := "(I)Z" } : Jvm.MethodName) prog_12_method_35_code (6 : Nat) (Option.some Jvm.ClassFile.FieldType.boolean)) ∈ lw_all := lw_g (lw_at lw_m5 119 rfl) rfl
theorem q1161 : (Jvm.Cond.methodLink "PrayerMatsFaceModel" (161 : Nat) ({ cls := "PrayerMatsFaceModel", name := "oneComes", desc := "(III)V" } : Jvm.MethodName)) ∈ lw_all := lw_g (lw_at lw_m5 120 rfl) rfl
theorem q1162 : (Jvm.Cond.privateMethod ({ cls := "PrayerMatsFaceModel", name := "oneComes", desc := "(III)V" } : Jvm.MethodName)) ∈ lw_tbl := lw_at lw_m5 121 rfl
theorem q1163 : (Jvm.Cond.instanceMethod ({ cls := "PrayerMatsFaceModel", name := "oneComes", desc := "(III)V" } : Jvm.MethodName)) ∈ lw_all := lw_g (lw_at lw_m5 122 rfl) rfl
theorem q1164 : (Jvm.Cond.code ({ cls := "PrayerMatsFaceModel", name := "oneComes", desc := "(III)V" } : Jvm.MethodName) prog_12_method_34_code (5 : Nat) (Option.none : Option Jvm.ClassFile.FieldType)) ∈ lw_all := lw_g (lw_at lw_m5 123 rfl) rfl
theorem q1165 : (Jvm.Cond.methodLink "PrayerMatsFaceModel" (113 : Nat) ({ cls := "PrayerMatsFaceModel", name := "setQuarrel", desc := "(III)V" } : Jvm.MethodName)) ∈ lw_all := lw_g (lw_at lw_m5 124 rfl) rfl
theorem q1166 : (Jvm.Cond.privateMethod ({ cls := "PrayerMatsFaceModel", name := "setQuarrel", desc := "(III)V" } : Jvm.MethodName)) ∈ lw_tbl := lw_at lw_m5 125 rfl
theorem q1167 : (Jvm.Cond.instanceMethod ({ cls := "PrayerMatsFaceModel", name := "setQuarrel", desc := "(III)V" } : Jvm.MethodName)) ∈ lw_all := lw_g (lw_at lw_m5 126 rfl) rfl
theorem q1168 : (Jvm.Cond.code ({ cls := "PrayerMatsFaceModel", name := "setQuarrel", desc := "(III)V" } : Jvm.MethodName) prog_12_method_16_code (4 : Nat) (Option.none : Option Jvm.ClassFile.FieldType)) ∈ lw_all := lw_g (lw_at lw_m5 127 rfl) rfl
theorem q1169 : (Jvm.Cond.methodLink "PrayerMatsFaceModel" (75 : Nat) ({ cls := "PrayerMatsFaceModel", name := "isOne", desc := "(I)Z" } : Jvm.MethodName)) ∈ lw_all := lw_g (lw_at lw_m5 128 rfl) rfl
theorem q1170 : (Jvm.Cond.privateMethod ({ cls := "PrayerMatsFaceModel", name := "isOne", desc := "(I)Z" } : Jvm.MethodName)) ∈ lw_tbl := lw_at lw_m5 129 rfl
theorem q1171 : (Jvm.Cond.instanceMethod ({ cls := "PrayerMatsFaceModel", name := "isOne", desc := "(I)Z" } : Jvm.MethodName)) ∈ lw_all := lw_g (lw_at lw_m5 130 rfl) rfl
theorem q1172 : (Jvm.Cond.code ({ cls := "PrayerMatsFaceModel", name := "isOne", desc := "(I)Z" } : Jvm.MethodName) prog_12_method_5_code (2 : Nat) (Option.some Jvm.ClassFile.FieldType.boolean)) ∈ lw_all := lw_g (lw_at lw_m5 131 rfl) rfl
theorem q1173 : (Jvm.Cond.methodLink "PrayerMatsFaceModel" (164 : Nat) ({ cls := "PrayerMatsFaceModel", name := "areTwo", desc := "(II)Z" } : Jvm.MethodName)) ∈ lw_all := lw_g (lw_at lw_m5 132 rfl) rfl
theorem q1174 : (Jvm.Cond.privateMethod ({ cls := "PrayerMatsFaceModel", name := "areTwo", desc := "(II)Z" } : Jvm.MethodName)) ∈ lw_tbl := lw_at lw_m5 133 rfl
theorem q1175 : (Jvm.Cond.instanceMethod ({ cls := "PrayerMatsFaceModel", name := "areTwo", desc := "(II)Z" } : Jvm.MethodName)) ∈ lw_all := lw_g (lw_at lw_m5 134 rfl) rfl
theorem q1176 : (Jvm.Cond.code ({ cls := "PrayerMatsFaceModel", name := "areTwo", desc := "(II)Z" } : Jvm.MethodName) prog_12_method_6_code (3 : Nat) (Option.some Jvm.ClassFile.FieldType.boolean)) ∈ lw_all := lw_g (lw_at lw_m5 135 rfl) rfl
theorem q1177 : (Jvm.Cond.methodLink "PrayerMatsFaceModel" (167 : Nat) ({ cls := "PrayerMatsFaceModel", name := "joinOrNot", desc := "(II)V" } : Jvm.MethodName)) ∈ lw_all := lw_g (lw_at lw_m5 136 rfl) rfl
theorem q1178 : (Jvm.Cond.privateMethod ({ cls := "PrayerMatsFaceModel", name := "joinOrNot", desc := "(II)V" } : Jvm.MethodName)) ∈ lw_tbl := lw_at lw_m5 137 rfl
theorem q1179 : (Jvm.Cond.instanceMethod ({ cls := "PrayerMatsFaceModel", name := "joinOrNot", desc := "(II)V" } : Jvm.MethodName)) ∈ lw_all := lw_g (lw_at lw_m5 138 rfl) rfl
theorem q1180 : (Jvm.Cond.code ({ cls := "PrayerMatsFaceModel", name := "joinOrNot", desc := "(II)V" } : Jvm.MethodName) prog_12_method_26_code (3 : Nat) (Option.none : Option Jvm.ClassFile.FieldType)) ∈ lw_all := lw_g (lw_at lw_m5 139 rfl) rfl
theorem q1181 : (Jvm.Cond.methodLink "PrayerMatsFaceModel" (121 : Nat) ({ cls := "PrayerMatsFaceModel", name := "leaveMat", desc := "(I)V" } : Jvm.MethodName)) ∈ lw_all := lw_g (lw_at lw_m5 140 rfl) rfl
theorem q1182 : (Jvm.Cond.privateMethod ({ cls := "PrayerMatsFaceModel", name := "leaveMat", desc := "(I)V" } : Jvm.MethodName)) ∈ lw_tbl := lw_at lw_m5 141 rfl
theorem q1183 : (Jvm.Cond.instanceMethod ({ cls := "PrayerMatsFaceModel", name := "leaveMat", desc := "(I)V" } : Jvm.MethodName)) ∈ lw_all := lw_g (lw_at lw_m5 142 rfl) rfl
theorem q1184 : (Jvm.Cond.code ({ cls := "PrayerMatsFaceModel", name := "leaveMat", desc := "(I)V" } : Jvm.MethodName) prog_12_method_24_code (2 : Nat) (Option.none : Option Jvm.ClassFile.FieldType)) ∈ lw_all := lw_g (lw_at lw_m5 143 rfl) rfl
theorem q1185 : (Jvm.Cond.methodLink "PrayerMatsFaceModel" (125 : Nat) ({ cls := "PrayerMatsFaceModel", name := "join", desc := "(II)V" } : Jvm.MethodName)) ∈ lw_all := lw_g (lw_at lw_m5 144 rfl) rfl
theorem q1186 : (Jvm.Cond.privateMethod ({ cls := "PrayerMatsFaceModel", name := "join", desc := "(II)V" } : Jvm.MethodName)) ∈ lw_tbl := lw_at lw_m5 145 rfl
theorem q1187 : (Jvm.Cond.instanceMethod ({ cls := "PrayerMatsFaceModel", name := "join", desc := "(II)V" } : Jvm.MethodName)) ∈ lw_all := lw_g (lw_at lw_m5 146 rfl) rfl
theorem q1188 : (Jvm.Cond.code ({ cls := "PrayerMatsFaceModel", name := "join", desc := "(II)V" } : Jvm.MethodName) prog_12_method_25_code (3 : Nat) (Option.none : Option Jvm.ClassFile.FieldType)) ∈ lw_all := lw_g (lw_at lw_m5 147 rfl) rfl
theorem q1189 : (Jvm.Cond.constantLong "PrayerMatsFaceModel" (170 : Nat) (60 : Int64)) ∈ lw_all := lw_g (lw_at lw_m5 148 rfl) rfl
theorem q1190 : (Jvm.Cond.methodLink "PrayerMatsFaceModel" (172 : Nat) ({ cls := "PrayerMatsFaceModel", name := "goDays", desc := "(I)V" } : Jvm.MethodName)) ∈ lw_all := lw_g (lw_at lw_m5 149 rfl) rfl
theorem q1191 : (Jvm.Cond.privateMethod ({ cls := "PrayerMatsFaceModel", name := "goDays", desc := "(I)V" } : Jvm.MethodName)) ∈ lw_tbl := lw_at lw_m5 150 rfl
theorem q1192 : (Jvm.Cond.instanceMethod ({ cls := "PrayerMatsFaceModel", name := "goDays", desc := "(I)V" } : Jvm.MethodName)) ∈ lw_all := lw_g (lw_at lw_m5 151 rfl) rfl
theorem q1193 : (Jvm.Cond.code ({ cls := "PrayerMatsFaceModel", name := "goDays", desc := "(I)V" } : Jvm.MethodName) prog_12_method_21_code (3 : Nat) (Option.none : Option Jvm.ClassFile.FieldType)) ∈ lw_all := lw_g (lw_at lw_m5 152 rfl) rfl
theorem q1194 : (Jvm.Cond.methodLink "PrayerMatsFaceModel" (117 : Nat) ({ cls := "PrayerMatsFaceModel", name := "dayBy", desc := "(II)V" } : Jvm.MethodName)) ∈ lw_all := lw_g (lw_at lw_m5 153 rfl) rfl
theorem q1195 : (Jvm.Cond.privateMethod ({ cls := "PrayerMatsFaceModel", name := "dayBy", desc := "(II)V" } : Jvm.MethodName)) ∈ lw_tbl := lw_at lw_m5 154 rfl
theorem q1196 : (Jvm.Cond.instanceMethod ({ cls := "PrayerMatsFaceModel", name := "dayBy", desc := "(II)V" } : Jvm.MethodName)) ∈ lw_all := lw_g (lw_at lw_m5 155 rfl) rfl
theorem q1197 : (Jvm.Cond.code ({ cls := "PrayerMatsFaceModel", name := "dayBy", desc := "(II)V" } : Jvm.MethodName) prog_12_method_20_code (8 : Nat) (Option.none : Option Jvm.ClassFile.FieldType)) ∈ lw_all := lw_g (lw_at lw_m5 156 rfl) rfl
theorem q1198 : (Jvm.Cond.methodLink "PrayerMatsFaceModel" (109 : Nat) ({ cls := "PrayerMatsFaceModel", name := "behindHour", desc := "(IIIII)I" } : Jvm.MethodName)) ∈ lw_all := lw_g (lw_at lw_m5 157 rfl) rfl
theorem q1199 : (Jvm.Cond.privateMethod ({ cls := "PrayerMatsFaceModel", name := "behindHour", desc := "(IIIII)I" } : Jvm.MethodName)) ∈ lw_tbl := lw_at lw_m5 158 rfl
theorem q1200 : (Jvm.Cond.instanceMethod ({ cls := "PrayerMatsFaceModel", name := "behindHour", desc := "(IIIII)I" } : Jvm.MethodName)) ∈ lw_all := lw_g (lw_at lw_m5 159 rfl) rfl
theorem q1201 : (Jvm.Cond.code ({ cls := "PrayerMatsFaceModel", name := "behindHour", desc := "(IIIII)I" } : Jvm.MethodName) prog_12_method_19_code (9 : Nat) (Option.some Jvm.ClassFile.FieldType.int)) ∈ lw_all := lw_g (lw_at lw_m5 160 rfl) rfl
theorem q1202 : (Jvm.Cond.methodLink "PrayerMatsFaceModel" (93 : Nat) ({ cls := "PrayerMatsFaceModel", name := "hasBit", desc := "(II)Z" } : Jvm.MethodName)) ∈ lw_all := lw_g (lw_at lw_m5 161 rfl) rfl
theorem q1203 : (Jvm.Cond.static ({ cls := "PrayerMatsFaceModel", name := "hasBit", desc := "(II)Z" } : Jvm.MethodName)) ∈ lw_all := lw_g (lw_at lw_m5 162 rfl) rfl
theorem q1204 : (Jvm.Cond.code ({ cls := "PrayerMatsFaceModel", name := "hasBit", desc := "(II)Z" } : Jvm.MethodName) prog_12_method_9_code (2 : Nat) (Option.some Jvm.ClassFile.FieldType.boolean)) ∈ lw_all := lw_g (lw_at lw_m5 163 rfl) rfl
theorem q1205 : (Jvm.Cond.methodLink "PrayerMatsFaceModel" (79 : Nat) ({ cls := "PrayerMatsFaceModel", name := "quarrelOf", desc := "(II)I" } : Jvm.MethodName)) ∈ lw_all := lw_g (lw_at lw_m5 164 rfl) rfl
theorem q1206 : (Jvm.Cond.privateMethod ({ cls := "PrayerMatsFaceModel", name := "quarrelOf", desc := "(II)I" } : Jvm.MethodName)) ∈ lw_tbl := lw_at lw_m5 165 rfl
theorem q1207 : (Jvm.Cond.instanceMethod ({ cls := "PrayerMatsFaceModel", name := "quarrelOf", desc := "(II)I" } : Jvm.MethodName)) ∈ lw_all := lw_g (lw_at lw_m5 166 rfl) rfl
theorem q1208 : (Jvm.Cond.code ({ cls := "PrayerMatsFaceModel", name := "quarrelOf", desc := "(II)I" } : Jvm.MethodName) prog_12_method_15_code (3 : Nat) (Option.some Jvm.ClassFile.FieldType.int)) ∈ lw_all := lw_g (lw_at lw_m5 167 rfl) rfl
theorem q1209 : (Jvm.Cond.methodLink "PrayerMatsFaceModel" (97 : Nat) ({ cls := "PrayerMatsFaceModel", name := "softOf", desc := "(I)I" } : Jvm.MethodName)) ∈ lw_all := lw_g (lw_at lw_m5 168 rfl) rfl
theorem q1210 : (Jvm.Cond.privateMethod ({ cls := "PrayerMatsFaceModel", name := "softOf", desc := "(I)I" } : Jvm.MethodName)) ∈ lw_tbl := lw_at lw_m5 169 rfl
theorem q1211 : (Jvm.Cond.instanceMethod ({ cls := "PrayerMatsFaceModel", name := "softOf", desc := "(I)I" } : Jvm.MethodName)) ∈ lw_all := lw_g (lw_at lw_m5 170 rfl) rfl
theorem q1212 : (Jvm.Cond.code ({ cls := "PrayerMatsFaceModel", name := "softOf", desc := "(I)I" } : Jvm.MethodName) prog_12_method_12_code (2 : Nat) (Option.some Jvm.ClassFile.FieldType.int)) ∈ lw_all := lw_g (lw_at lw_m5 171 rfl) rfl
theorem q1213 : (Jvm.Cond.methodLink "PrayerMatsFaceModel" (100 : Nat) ({ cls := "PrayerMatsFaceModel", name := "soreOf", desc := "(I)I" } : Jvm.MethodName)) ∈ lw_all := lw_g (lw_at lw_m5 172 rfl) rfl
theorem q1214 : (Jvm.Cond.privateMethod ({ cls := "PrayerMatsFaceModel", name := "soreOf", desc := "(I)I" } : Jvm.MethodName)) ∈ lw_tbl := lw_at lw_m5 173 rfl
theorem q1215 : (Jvm.Cond.instanceMethod ({ cls := "PrayerMatsFaceModel", name := "soreOf", desc := "(I)I" } : Jvm.MethodName)) ∈ lw_all := lw_g (lw_at lw_m5 174 rfl) rfl
theorem q1216 : (Jvm.Cond.code ({ cls := "PrayerMatsFaceModel", name := "soreOf", desc := "(I)I" } : Jvm.MethodName) prog_12_method_13_code (2 : Nat) (Option.some Jvm.ClassFile.FieldType.int)) ∈ lw_all := lw_g (lw_at lw_m5 175 rfl) rfl
theorem q1217 : (Jvm.Cond.methodLink "PrayerMatsFaceModel" (103 : Nat) ({ cls := "PrayerMatsFaceModel", name := "held", desc := "(II)I" } : Jvm.MethodName)) ∈ lw_all := lw_g (lw_at lw_m5 176 rfl) rfl
theorem q1218 : (Jvm.Cond.static ({ cls := "PrayerMatsFaceModel", name := "held", desc := "(II)I" } : Jvm.MethodName)) ∈ lw_all := lw_g (lw_at lw_m5 177 rfl) rfl
theorem q1219 : (Jvm.Cond.code ({ cls := "PrayerMatsFaceModel", name := "held", desc := "(II)I" } : Jvm.MethodName) prog_12_method_11_code (2 : Nat) (Option.some Jvm.ClassFile.FieldType.int)) ∈ lw_all := lw_g (lw_at lw_m5 178 rfl) rfl
theorem q1220 : (Jvm.Cond.methodLink "PrayerMatsFaceModel" (184 : Nat) ({ cls := "PrayerMatsFaceModel", name := "again", desc := "()V" } : Jvm.MethodName)) ∈ lw_all := lw_g (lw_at lw_m5 179 rfl) rfl
theorem q1221 : (Jvm.Cond.privateMethod ({ cls := "PrayerMatsFaceModel", name := "again", desc := "()V" } : Jvm.MethodName)) ∈ lw_tbl := lw_at lw_m5 180 rfl
theorem q1222 : (Jvm.Cond.instanceMethod ({ cls := "PrayerMatsFaceModel", name := "again", desc := "()V" } : Jvm.MethodName)) ∈ lw_all := lw_g (lw_at lw_m5 181 rfl) rfl
theorem q1223 : (Jvm.Cond.code ({ cls := "PrayerMatsFaceModel", name := "again", desc := "()V" } : Jvm.MethodName) prog_12_method_40_code (1 : Nat) (Option.none : Option Jvm.ClassFile.FieldType)) ∈ lw_all := lw_g (lw_at lw_m5 182 rfl) rfl
theorem q1225 : (Jvm.Cond.instanceMethod ({ cls := "PrayerMatsFaceModel", name := "image", desc := "()I" } : Jvm.MethodName)) ∈ lw_all := lw_g (lw_at lw_m5 184 rfl) rfl
theorem q1226 : (Jvm.Cond.selects "PrayerMatsFaceModel" ({ cls := "PrayerMatsFaceModel", name := "image", desc := "()I" } : Jvm.MethodName) ({ cls := "PrayerMatsFaceModel", name := "image", desc := "()I" } : Jvm.MethodName)) ∈ lw_all := lw_g (lw_at lw_m5 185 rfl) rfl
theorem q1227 : (Jvm.Cond.code ({ cls := "PrayerMatsFaceModel", name := "image", desc := "()I" } : Jvm.MethodName) prog_12_method_41_code (1 : Nat) (Option.some Jvm.ClassFile.FieldType.int)) ∈ lw_all := lw_g (lw_at lw_m5 186 rfl) rfl
theorem q1229 : (Jvm.Cond.instanceMethod ({ cls := "PrayerMatsFaceModel", name := "restore", desc := "()I" } : Jvm.MethodName)) ∈ lw_all := lw_g (lw_at lw_m5 188 rfl) rfl
theorem q1230 : (Jvm.Cond.selects "PrayerMatsFaceModel" ({ cls := "PrayerMatsFaceModel", name := "restore", desc := "()I" } : Jvm.MethodName) ({ cls := "PrayerMatsFaceModel", name := "restore", desc := "()I" } : Jvm.MethodName)) ∈ lw_all := lw_g (lw_at lw_m5 189 rfl) rfl
theorem q1231 : (Jvm.Cond.code ({ cls := "PrayerMatsFaceModel", name := "restore", desc := "()I" } : Jvm.MethodName) prog_12_method_42_code (1 : Nat) (Option.some Jvm.ClassFile.FieldType.int)) ∈ lw_all := lw_g (lw_at lw_m5 190 rfl) rfl
theorem q1233 : (Jvm.Cond.instanceMethod ({ cls := "PrayerMatsFaceModel", name := "back", desc := "()I" } : Jvm.MethodName)) ∈ lw_all := lw_g (lw_at lw_m5 192 rfl) rfl
theorem q1234 : (Jvm.Cond.selects "PrayerMatsFaceModel" ({ cls := "PrayerMatsFaceModel", name := "back", desc := "()I" } : Jvm.MethodName) ({ cls := "PrayerMatsFaceModel", name := "back", desc := "()I" } : Jvm.MethodName)) ∈ lw_all := lw_g (lw_at lw_m5 193 rfl) rfl
theorem q1235 : (Jvm.Cond.code ({ cls := "PrayerMatsFaceModel", name := "back", desc := "()I" } : Jvm.MethodName) prog_12_method_44_code (2 : Nat) (Option.some Jvm.ClassFile.FieldType.int)) ∈ lw_all := lw_g (lw_at lw_m5 194 rfl) rfl
theorem q1237 : (Jvm.Cond.instanceMethod ({ cls := "PrayerMatsFaceModel", name := "personOf", desc := "(II)I" } : Jvm.MethodName)) ∈ lw_all := lw_g (lw_at lw_m5 196 rfl) rfl
theorem q1238 : (Jvm.Cond.selects "PrayerMatsFaceModel" ({ cls := "PrayerMatsFaceModel", name := "personOf", desc := "(II)I" } : Jvm.MethodName) ({ cls := "PrayerMatsFaceModel", name := "personOf", desc := "(II)I" } : Jvm.MethodName)) ∈ lw_all := lw_g (lw_at lw_m5 197 rfl) rfl
theorem q1239 : (Jvm.Cond.code ({ cls := "PrayerMatsFaceModel", name := "personOf", desc := "(II)I" } : Jvm.MethodName) prog_12_method_45_code (3 : Nat) (Option.some Jvm.ClassFile.FieldType.int)) ∈ lw_all := lw_g (lw_at lw_m5 198 rfl) rfl
theorem q1240 : (Jvm.Cond.constantLong "PrayerMatsFaceModel" (209 : Nat) (6 : Int64)) ∈ lw_all := lw_g (lw_at lw_m5 199 rfl) rfl
theorem q1241 : (Jvm.Cond.methodLink "PrayerMatsFaceModel" (87 : Nat) ({ cls := "PrayerMatsFaceModel", name := "charmOf", desc := "(I)I" } : Jvm.MethodName)) ∈ lw_all := lw_g (lw_at lw_m5 200 rfl) rfl
theorem q1242 : (Jvm.Cond.privateMethod ({ cls := "PrayerMatsFaceModel", name := "charmOf", desc := "(I)I" } : Jvm.MethodName)) ∈ lw_tbl := lw_at lw_m5 201 rfl
theorem q1243 : (Jvm.Cond.instanceMethod ({ cls := "PrayerMatsFaceModel", name := "charmOf", desc := "(I)I" } : Jvm.MethodName)) ∈ lw_all := lw_g (lw_at lw_m5 202 rfl) rfl
theorem q1244 : (Jvm.Cond.code ({ cls := "PrayerMatsFaceModel", name := "charmOf", desc := "(I)I" } : Jvm.MethodName) prog_12_method_14_code (2 : Nat) (Option.some Jvm.ClassFile.FieldType.int)) ∈ lw_all := lw_g (lw_at lw_m5 203 rfl) rfl
theorem q1246 : (Jvm.Cond.instanceMethod ({ cls := "PrayerMatsFaceModel", name := "between", desc := "(III)I" } : Jvm.MethodName)) ∈ lw_all := lw_g (lw_at lw_m5 205 rfl) rfl
theorem q1247 : (Jvm.Cond.selects "PrayerMatsFaceModel" ({ cls := "PrayerMatsFaceModel", name := "between", desc := "(III)I" } : Jvm.MethodName) ({ cls := "PrayerMatsFaceModel", name := "between", desc := "(III)I" } : Jvm.MethodName)) ∈ lw_all := lw_g (lw_at lw_m5 206 rfl) rfl
theorem q1248 : (Jvm.Cond.code ({ cls := "PrayerMatsFaceModel", name := "between", desc := "(III)I" } : Jvm.MethodName) prog_12_method_46_code (5 : Nat) (Option.some Jvm.ClassFile.FieldType.int)) ∈ lw_all := lw_g (lw_at lw_m5 207 rfl) rfl
theorem q1249 : (Jvm.Cond.methodLink "PrayerMatsFaceModel" (211 : Nat) ({ cls := "PrayerMatsFaceModel", name := "wrongBit", desc := "(III)I" } : Jvm.MethodName)) ∈ lw_all := lw_g (lw_at lw_m5 208 rfl) rfl
theorem q1250 : (Jvm.Cond.static ({ cls := "PrayerMatsFaceModel", name := "wrongBit", desc := "(III)I" } : Jvm.MethodName)) ∈ lw_all := lw_g (lw_at lw_m5 209 rfl) rfl
theorem q1251 : (Jvm.Cond.code ({ cls := "PrayerMatsFaceModel", name := "wrongBit", desc := "(III)I" } : Jvm.MethodName) prog_12_method_8_code (3 : Nat) (Option.some Jvm.ClassFile.FieldType.int)) ∈ lw_all := lw_g (lw_at lw_m5 210 rfl) rfl
theorem q1252 : (Jvm.Cond.methodLink "PrayerMatsFaceModel" (90 : Nat) ({ cls := "PrayerMatsFaceModel", name := "likesOf", desc := "(II)I" } : Jvm.MethodName)) ∈ lw_all := lw_g (lw_at lw_m5 211 rfl) rfl
theorem q1253 : (Jvm.Cond.privateMethod ({ cls := "PrayerMatsFaceModel", name := "likesOf", desc := "(II)I" } : Jvm.MethodName)) ∈ lw_tbl := lw_at lw_m5 212 rfl
theorem q1254 : (Jvm.Cond.instanceMethod ({ cls := "PrayerMatsFaceModel", name := "likesOf", desc := "(II)I" } : Jvm.MethodName)) ∈ lw_all := lw_g (lw_at lw_m5 213 rfl) rfl
theorem q1255 : (Jvm.Cond.code ({ cls := "PrayerMatsFaceModel", name := "likesOf", desc := "(II)I" } : Jvm.MethodName) prog_12_method_17_code (3 : Nat) (Option.some Jvm.ClassFile.FieldType.int)) ∈ lw_all := lw_g (lw_at lw_m5 214 rfl) rfl
theorem q1256 : (Jvm.Cond.methodLink "PrayerMatsFaceModel" (83 : Nat) ({ cls := "PrayerMatsFaceModel", name := "onesOf", desc := "(I)I" } : Jvm.MethodName)) ∈ lw_all := lw_g (lw_at lw_m5 215 rfl) rfl
theorem q1257 : (Jvm.Cond.static ({ cls := "PrayerMatsFaceModel", name := "onesOf", desc := "(I)I" } : Jvm.MethodName)) ∈ lw_all := lw_g (lw_at lw_m5 216 rfl) rfl
theorem q1258 : (Jvm.Cond.code ({ cls := "PrayerMatsFaceModel", name := "onesOf", desc := "(I)I" } : Jvm.MethodName) prog_12_method_10_code (3 : Nat) (Option.some Jvm.ClassFile.FieldType.int)) ∈ lw_all := lw_g (lw_at lw_m5 217 rfl) rfl
theorem q1260 : (Jvm.Cond.instanceMethod ({ cls := "PrayerMatsFaceModel", name := "person", desc := "(III)I" } : Jvm.MethodName)) ∈ lw_all := lw_g (lw_at lw_m5 219 rfl) rfl
theorem q1261 : (Jvm.Cond.selects "PrayerMatsFaceModel" ({ cls := "PrayerMatsFaceModel", name := "person", desc := "(III)I" } : Jvm.MethodName) ({ cls := "PrayerMatsFaceModel", name := "person", desc := "(III)I" } : Jvm.MethodName)) ∈ lw_all := lw_g (lw_at lw_m5 220 rfl) rfl
theorem q1262 : (Jvm.Cond.code ({ cls := "PrayerMatsFaceModel", name := "person", desc := "(III)I" } : Jvm.MethodName) prog_12_method_47_code (5 : Nat) (Option.some Jvm.ClassFile.FieldType.int)) ∈ lw_all := lw_g (lw_at lw_m5 221 rfl) rfl
theorem q1263 : (Jvm.Cond.constantLong "PrayerMatsFaceModel" (215 : Nat) (5 : Int64)) ∈ lw_all := lw_g (lw_at lw_m5 222 rfl) rfl
theorem q1265 : (Jvm.Cond.instanceMethod ({ cls := "PrayerMatsFaceModel", name := "comes", desc := "(II)I" } : Jvm.MethodName)) ∈ lw_all := lw_g (lw_at lw_m5 224 rfl) rfl
theorem q1266 : (Jvm.Cond.selects "PrayerMatsFaceModel" ({ cls := "PrayerMatsFaceModel", name := "comes", desc := "(II)I" } : Jvm.MethodName) ({ cls := "PrayerMatsFaceModel", name := "comes", desc := "(II)I" } : Jvm.MethodName)) ∈ lw_all := lw_g (lw_at lw_m5 225 rfl) rfl
theorem q1267 : (Jvm.Cond.code ({ cls := "PrayerMatsFaceModel", name := "comes", desc := "(II)I" } : Jvm.MethodName) prog_12_method_48_code (5 : Nat) (Option.some Jvm.ClassFile.FieldType.int)) ∈ lw_all := lw_g (lw_at lw_m5 226 rfl) rfl
theorem q1268 : (Jvm.Cond.methodLink "PrayerMatsFaceModel" (217 : Nat) ({ cls := "PrayerMatsFaceModel", name := "wrongNumber", desc := "(III)I" } : Jvm.MethodName)) ∈ lw_all := lw_g (lw_at lw_m5 227 rfl) rfl
theorem q1269 : (Jvm.Cond.static ({ cls := "PrayerMatsFaceModel", name := "wrongNumber", desc := "(III)I" } : Jvm.MethodName)) ∈ lw_all := lw_g (lw_at lw_m5 228 rfl) rfl
theorem q1270 : (Jvm.Cond.code ({ cls := "PrayerMatsFaceModel", name := "wrongNumber", desc := "(III)I" } : Jvm.MethodName) prog_12_method_7_code (3 : Nat) (Option.some Jvm.ClassFile.FieldType.int)) ∈ lw_all := lw_g (lw_at lw_m5 229 rfl) rfl
theorem q1271 : (Jvm.Cond.methodLink "PrayerMatsFaceModel" (220 : Nat) ({ cls := "PrayerMatsFaceModel", name := "keepTurn", desc := "()V" } : Jvm.MethodName)) ∈ lw_all := lw_g (lw_at lw_m5 230 rfl) rfl
theorem q1272 : (Jvm.Cond.privateMethod ({ cls := "PrayerMatsFaceModel", name := "keepTurn", desc := "()V" } : Jvm.MethodName)) ∈ lw_tbl := lw_at lw_m5 231 rfl
theorem q1273 : (Jvm.Cond.instanceMethod ({ cls := "PrayerMatsFaceModel", name := "keepTurn", desc := "()V" } : Jvm.MethodName)) ∈ lw_all := lw_g (lw_at lw_m5 232 rfl) rfl
theorem q1274 : (Jvm.Cond.code ({ cls := "PrayerMatsFaceModel", name := "keepTurn", desc := "()V" } : Jvm.MethodName) prog_12_method_43_code (2 : Nat) (Option.none : Option Jvm.ClassFile.FieldType)) ∈ lw_all := lw_g (lw_at lw_m5 233 rfl) rfl
theorem q1276 : (Jvm.Cond.instanceMethod ({ cls := "PrayerMatsFaceModel", name := "quarrels", desc := "(III)I" } : Jvm.MethodName)) ∈ lw_all := lw_g (lw_at lw_m5 235 rfl) rfl
theorem q1277 : (Jvm.Cond.selects "PrayerMatsFaceModel" ({ cls := "PrayerMatsFaceModel", name := "quarrels", desc := "(III)I" } : Jvm.MethodName) ({ cls := "PrayerMatsFaceModel", name := "quarrels", desc := "(III)I" } : Jvm.MethodName)) ∈ lw_all := lw_g (lw_at lw_m5 236 rfl) rfl
theorem q1278 : (Jvm.Cond.code ({ cls := "PrayerMatsFaceModel", name := "quarrels", desc := "(III)I" } : Jvm.MethodName) prog_12_method_49_code (6 : Nat) (Option.some Jvm.ClassFile.FieldType.int)) ∈ lw_all := lw_g (lw_at lw_m5 237 rfl) rfl
theorem q1280 : (Jvm.Cond.instanceMethod ({ cls := "PrayerMatsFaceModel", name := "joins", desc := "(II)I" } : Jvm.MethodName)) ∈ lw_all := lw_g (lw_at lw_m5 239 rfl) rfl
theorem q1281 : (Jvm.Cond.selects "PrayerMatsFaceModel" ({ cls := "PrayerMatsFaceModel", name := "joins", desc := "(II)I" } : Jvm.MethodName) ({ cls := "PrayerMatsFaceModel", name := "joins", desc := "(II)I" } : Jvm.MethodName)) ∈ lw_all := lw_g (lw_at lw_m6 0 rfl) rfl
theorem q1282 : (Jvm.Cond.code ({ cls := "PrayerMatsFaceModel", name := "joins", desc := "(II)I" } : Jvm.MethodName) prog_12_method_50_code (3 : Nat) (Option.some Jvm.ClassFile.FieldType.int)) ∈ lw_all := lw_g (lw_at lw_m6 1 rfl) rfl
theorem q1283 : (Jvm.Cond.methodLink "PrayerMatsFaceModel" (223 : Nat) ({ cls := "PrayerMatsFaceModel", name := "matsOf", desc := "()I" } : Jvm.MethodName)) ∈ lw_all := lw_g (lw_at lw_m6 2 rfl) rfl
theorem q1284 : (Jvm.Cond.privateMethod ({ cls := "PrayerMatsFaceModel", name := "matsOf", desc := "()I" } : Jvm.MethodName)) ∈ lw_tbl := lw_at lw_m6 3 rfl
theorem q1285 : (Jvm.Cond.instanceMethod ({ cls := "PrayerMatsFaceModel", name := "matsOf", desc := "()I" } : Jvm.MethodName)) ∈ lw_all := lw_g (lw_at lw_m6 4 rfl) rfl
theorem q1286 : (Jvm.Cond.code ({ cls := "PrayerMatsFaceModel", name := "matsOf", desc := "()I" } : Jvm.MethodName) prog_12_method_27_code (3 : Nat) (Option.some Jvm.ClassFile.FieldType.int)) ∈ lw_all := lw_g (lw_at lw_m6 5 rfl) rfl
theorem q1288 : (Jvm.Cond.instanceMethod ({ cls := "PrayerMatsFaceModel", name := "days", desc := "(I)I" } : Jvm.MethodName)) ∈ lw_all := lw_g (lw_at lw_m6 7 rfl) rfl
theorem q1289 : (Jvm.Cond.selects "PrayerMatsFaceModel" ({ cls := "PrayerMatsFaceModel", name := "days", desc := "(I)I" } : Jvm.MethodName) ({ cls := "PrayerMatsFaceModel", name := "days", desc := "(I)I" } : Jvm.MethodName)) ∈ lw_all := lw_g (lw_at lw_m6 8 rfl) rfl
theorem q1290 : (Jvm.Cond.code ({ cls := "PrayerMatsFaceModel", name := "days", desc := "(I)I" } : Jvm.MethodName) prog_12_method_51_code (3 : Nat) (Option.some Jvm.ClassFile.FieldType.int)) ∈ lw_all := lw_g (lw_at lw_m6 9 rfl) rfl
theorem q1291 : (Jvm.Cond.methodLink "PrayerMatsFaceModel" (226 : Nat) ({ cls := "PrayerMatsFaceModel", name := "allOf", desc := "()I" } : Jvm.MethodName)) ∈ lw_all := lw_g (lw_at lw_m6 10 rfl) rfl
theorem q1292 : (Jvm.Cond.privateMethod ({ cls := "PrayerMatsFaceModel", name := "allOf", desc := "()I" } : Jvm.MethodName)) ∈ lw_tbl := lw_at lw_m6 11 rfl
theorem q1293 : (Jvm.Cond.instanceMethod ({ cls := "PrayerMatsFaceModel", name := "allOf", desc := "()I" } : Jvm.MethodName)) ∈ lw_all := lw_g (lw_at lw_m6 12 rfl) rfl
theorem q1294 : (Jvm.Cond.code ({ cls := "PrayerMatsFaceModel", name := "allOf", desc := "()I" } : Jvm.MethodName) prog_12_method_22_code (4 : Nat) (Option.some Jvm.ClassFile.FieldType.int)) ∈ lw_all := lw_g (lw_at lw_m6 13 rfl) rfl
theorem q1296 : (Jvm.Cond.instanceMethod ({ cls := "PrayerMatsFaceModel", name := "behind", desc := "(III)I" } : Jvm.MethodName)) ∈ lw_all := lw_g (lw_at lw_m6 15 rfl) rfl
theorem q1297 : (Jvm.Cond.selects "PrayerMatsFaceModel" ({ cls := "PrayerMatsFaceModel", name := "behind", desc := "(III)I" } : Jvm.MethodName) ({ cls := "PrayerMatsFaceModel", name := "behind", desc := "(III)I" } : Jvm.MethodName)) ∈ lw_all := lw_g (lw_at lw_m6 16 rfl) rfl
theorem q1298 : (Jvm.Cond.code ({ cls := "PrayerMatsFaceModel", name := "behind", desc := "(III)I" } : Jvm.MethodName) prog_12_method_52_code (6 : Nat) (Option.some Jvm.ClassFile.FieldType.int)) ∈ lw_all := lw_g (lw_at lw_m6 17 rfl) rfl
theorem q1300 : (Jvm.Cond.instanceMethod ({ cls := "PrayerMatsFaceModel", name := "all", desc := "(II)I" } : Jvm.MethodName)) ∈ lw_all := lw_g (lw_at lw_m6 19 rfl) rfl
theorem q1301 : (Jvm.Cond.selects "PrayerMatsFaceModel" ({ cls := "PrayerMatsFaceModel", name := "all", desc := "(II)I" } : Jvm.MethodName) ({ cls := "PrayerMatsFaceModel", name := "all", desc := "(II)I" } : Jvm.MethodName)) ∈ lw_all := lw_g (lw_at lw_m6 20 rfl) rfl
theorem q1302 : (Jvm.Cond.code ({ cls := "PrayerMatsFaceModel", name := "all", desc := "(II)I" } : Jvm.MethodName) prog_12_method_54_code (5 : Nat) (Option.some Jvm.ClassFile.FieldType.int)) ∈ lw_all := lw_g (lw_at lw_m6 21 rfl) rfl
theorem q1303 : (Jvm.Cond.methodLink "PrayerMatsFaceModel" (229 : Nat) ({ cls := "PrayerMatsFaceModel", name := "zerosOf", desc := "()I" } : Jvm.MethodName)) ∈ lw_all := lw_g (lw_at lw_m6 22 rfl) rfl
theorem q1304 : (Jvm.Cond.privateMethod ({ cls := "PrayerMatsFaceModel", name := "zerosOf", desc := "()I" } : Jvm.MethodName)) ∈ lw_tbl := lw_at lw_m6 23 rfl
theorem q1305 : (Jvm.Cond.instanceMethod ({ cls := "PrayerMatsFaceModel", name := "zerosOf", desc := "()I" } : Jvm.MethodName)) ∈ lw_all := lw_g (lw_at lw_m6 24 rfl) rfl
theorem q1306 : (Jvm.Cond.code ({ cls := "PrayerMatsFaceModel", name := "zerosOf", desc := "()I" } : Jvm.MethodName) prog_12_method_23_code (4 : Nat) (Option.some Jvm.ClassFile.FieldType.int)) ∈ lw_all := lw_g (lw_at lw_m6 25 rfl) rfl
theorem q1307 : (Jvm.Cond.methodLink "PrayerMatsFaceModel" (232 : Nat) ({ cls := "PrayerMatsFaceModel", name := "worstTwo", desc := "()I" } : Jvm.MethodName)) ∈ lw_all := lw_g (lw_at lw_m6 26 rfl) rfl
theorem q1308 : (Jvm.Cond.privateMethod ({ cls := "PrayerMatsFaceModel", name := "worstTwo", desc := "()I" } : Jvm.MethodName)) ∈ lw_tbl := lw_at lw_m6 27 rfl
theorem q1309 : (Jvm.Cond.instanceMethod ({ cls := "PrayerMatsFaceModel", name := "worstTwo", desc := "()I" } : Jvm.MethodName)) ∈ lw_all := lw_g (lw_at lw_m6 28 rfl) rfl
theorem q1310 : (Jvm.Cond.code ({ cls := "PrayerMatsFaceModel", name := "worstTwo", desc := "()I" } : Jvm.MethodName) prog_12_method_53_code (5 : Nat) (Option.some Jvm.ClassFile.FieldType.int)) ∈ lw_all := lw_g (lw_at lw_m6 29 rfl) rfl
theorem q1312 : (Jvm.Cond.instanceMethod ({ cls := "PrayerMatsFaceModel", name := "mended", desc := "(II)I" } : Jvm.MethodName)) ∈ lw_all := lw_g (lw_at lw_m6 31 rfl) rfl
theorem q1313 : (Jvm.Cond.selects "PrayerMatsFaceModel" ({ cls := "PrayerMatsFaceModel", name := "mended", desc := "(II)I" } : Jvm.MethodName) ({ cls := "PrayerMatsFaceModel", name := "mended", desc := "(II)I" } : Jvm.MethodName)) ∈ lw_all := lw_g (lw_at lw_m6 32 rfl) rfl
theorem q1314 : (Jvm.Cond.code ({ cls := "PrayerMatsFaceModel", name := "mended", desc := "(II)I" } : Jvm.MethodName) prog_12_method_56_code (3 : Nat) (Option.some Jvm.ClassFile.FieldType.int)) ∈ lw_all := lw_g (lw_at lw_m6 33 rfl) rfl
theorem q1315 : (Jvm.Cond.methodLink "PrayerMatsFaceModel" (235 : Nat) ({ cls := "PrayerMatsFaceModel", name := "zeroIn", desc := "(II)I" } : Jvm.MethodName)) ∈ lw_all := lw_g (lw_at lw_m6 34 rfl) rfl
theorem q1316 : (Jvm.Cond.privateMethod ({ cls := "PrayerMatsFaceModel", name := "zeroIn", desc := "(II)I" } : Jvm.MethodName)) ∈ lw_tbl := lw_at lw_m6 35 rfl
theorem q1317 : (Jvm.Cond.instanceMethod ({ cls := "PrayerMatsFaceModel", name := "zeroIn", desc := "(II)I" } : Jvm.MethodName)) ∈ lw_all := lw_g (lw_at lw_m6 36 rfl) rfl
theorem q1318 : (Jvm.Cond.code ({ cls := "PrayerMatsFaceModel", name := "zeroIn", desc := "(II)I" } : Jvm.MethodName) prog_12_method_55_code (5 : Nat) (Option.some Jvm.ClassFile.FieldType.int)) ∈ lw_all := lw_g (lw_at lw_m6 37 rfl) rfl
theorem q1320 : (Jvm.Cond.instanceMethod ({ cls := "PrayerMatsFaceModel", name := "never", desc := "()I" } : Jvm.MethodName)) ∈ lw_all := lw_g (lw_at lw_m6 39 rfl) rfl
theorem q1321 : (Jvm.Cond.selects "PrayerMatsFaceModel" ({ cls := "PrayerMatsFaceModel", name := "never", desc := "()I" } : Jvm.MethodName) ({ cls := "PrayerMatsFaceModel", name := "never", desc := "()I" } : Jvm.MethodName)) ∈ lw_all := lw_g (lw_at lw_m6 40 rfl) rfl
theorem q1322 : (Jvm.Cond.code ({ cls := "PrayerMatsFaceModel", name := "never", desc := "()I" } : Jvm.MethodName) prog_12_method_57_code (3 : Nat) (Option.some Jvm.ClassFile.FieldType.int)) ∈ lw_all := lw_g (lw_at lw_m6 41 rfl) rfl
theorem q1324 : (Jvm.Cond.instanceMethod ({ cls := "PrayerMatsFaceModel", name := "turn", desc := "(II)I" } : Jvm.MethodName)) ∈ lw_all := lw_g (lw_at lw_m6 43 rfl) rfl
theorem q1325 : (Jvm.Cond.selects "PrayerMatsFaceModel" ({ cls := "PrayerMatsFaceModel", name := "turn", desc := "(II)I" } : Jvm.MethodName) ({ cls := "PrayerMatsFaceModel", name := "turn", desc := "(II)I" } : Jvm.MethodName)) ∈ lw_all := lw_g (lw_at lw_m6 44 rfl) rfl
theorem q1326 : (Jvm.Cond.code ({ cls := "PrayerMatsFaceModel", name := "turn", desc := "(II)I" } : Jvm.MethodName) prog_12_method_58_code (4 : Nat) (Option.some Jvm.ClassFile.FieldType.int)) ∈ lw_all := lw_g (lw_at lw_m6 45 rfl) rfl
theorem q1327 : (Jvm.Cond.constant "PrayerMatsFaceModel" (238 : Nat) (1000000000 : Int32)) ∈ lw_all := lw_g (lw_at lw_m6 46 rfl) rfl
theorem q1329 : (Jvm.Cond.instanceMethod ({ cls := "PrayerMatsFaceModel", name := "leaves", desc := "(I)I" } : Jvm.MethodName)) ∈ lw_all := lw_g (lw_at lw_m6 48 rfl) rfl
theorem q1330 : (Jvm.Cond.selects "PrayerMatsFaceModel" ({ cls := "PrayerMatsFaceModel", name := "leaves", desc := "(I)I" } : Jvm.MethodName) ({ cls := "PrayerMatsFaceModel", name := "leaves", desc := "(I)I" } : Jvm.MethodName)) ∈ lw_all := lw_g (lw_at lw_m6 49 rfl) rfl
theorem q1331 : (Jvm.Cond.code ({ cls := "PrayerMatsFaceModel", name := "leaves", desc := "(I)I" } : Jvm.MethodName) prog_12_method_62_code (5 : Nat) (Option.some Jvm.ClassFile.FieldType.int)) ∈ lw_all := lw_g (lw_at lw_m6 50 rfl) rfl
theorem q1332 : (Jvm.Cond.constantLong "PrayerMatsFaceModel" (245 : Nat) (2 : Int64)) ∈ lw_all := lw_g (lw_at lw_m6 51 rfl) rfl
theorem q1333 : (Jvm.Cond.methodLink "PrayerMatsFaceModel" (242 : Nat) ({ cls := "PrayerMatsFaceModel", name := "wouldLeave", desc := "(II)Z" } : Jvm.MethodName)) ∈ lw_all := lw_g (lw_at lw_m6 52 rfl) rfl
theorem q1334 : (Jvm.Cond.privateMethod ({ cls := "PrayerMatsFaceModel", name := "wouldLeave", desc := "(II)Z" } : Jvm.MethodName)) ∈ lw_tbl := lw_at lw_m6 53 rfl
theorem q1335 : (Jvm.Cond.instanceMethod ({ cls := "PrayerMatsFaceModel", name := "wouldLeave", desc := "(II)Z" } : Jvm.MethodName)) ∈ lw_all := lw_g (lw_at lw_m6 54 rfl) rfl
theorem q1336 : (Jvm.Cond.code ({ cls := "PrayerMatsFaceModel", name := "wouldLeave", desc := "(II)Z" } : Jvm.MethodName) prog_12_method_59_code (3 : Nat) (Option.some Jvm.ClassFile.FieldType.boolean)) ∈ lw_all := lw_g (lw_at lw_m6 55 rfl) rfl
theorem q1337 : (Jvm.Cond.methodLink "PrayerMatsFaceModel" (239 : Nat) ({ cls := "PrayerMatsFaceModel", name := "ratherThanMate", desc := "(II)Z" } : Jvm.MethodName)) ∈ lw_all := lw_g (lw_at lw_m6 56 rfl) rfl
theorem q1338 : (Jvm.Cond.privateMethod ({ cls := "PrayerMatsFaceModel", name := "ratherThanMate", desc := "(II)Z" } : Jvm.MethodName)) ∈ lw_tbl := lw_at lw_m6 57 rfl
theorem q1339 : (Jvm.Cond.instanceMethod ({ cls := "PrayerMatsFaceModel", name := "ratherThanMate", desc := "(II)Z" } : Jvm.MethodName)) ∈ lw_all := lw_g (lw_at lw_m6 58 rfl) rfl
theorem q1340 : (Jvm.Cond.code ({ cls := "PrayerMatsFaceModel", name := "ratherThanMate", desc := "(II)Z" } : Jvm.MethodName) prog_12_method_18_code (3 : Nat) (Option.some Jvm.ClassFile.FieldType.boolean)) ∈ lw_all := lw_g (lw_at lw_m6 59 rfl) rfl
theorem q1341 : (Jvm.Cond.methodLink "PrayerMatsFaceModel" (247 : Nat) ({ cls := "PrayerMatsFaceModel", name := "leavingTwos", desc := "()I" } : Jvm.MethodName)) ∈ lw_all := lw_g (lw_at lw_m6 60 rfl) rfl
theorem q1342 : (Jvm.Cond.privateMethod ({ cls := "PrayerMatsFaceModel", name := "leavingTwos", desc := "()I" } : Jvm.MethodName)) ∈ lw_tbl := lw_at lw_m6 61 rfl
theorem q1343 : (Jvm.Cond.instanceMethod ({ cls := "PrayerMatsFaceModel", name := "leavingTwos", desc := "()I" } : Jvm.MethodName)) ∈ lw_all := lw_g (lw_at lw_m6 62 rfl) rfl
theorem q1344 : (Jvm.Cond.code ({ cls := "PrayerMatsFaceModel", name := "leavingTwos", desc := "()I" } : Jvm.MethodName) prog_12_method_61_code (4 : Nat) (Option.some Jvm.ClassFile.FieldType.int)) ∈ lw_all := lw_g (lw_at lw_m6 63 rfl) rfl
theorem q1345 : (Jvm.Cond.methodLink "PrayerMatsFaceModel" (250 : Nat) ({ cls := "PrayerMatsFaceModel", name := "ridBits", desc := "()I" } : Jvm.MethodName)) ∈ lw_all := lw_g (lw_at lw_m6 64 rfl) rfl
theorem q1346 : (Jvm.Cond.privateMethod ({ cls := "PrayerMatsFaceModel", name := "ridBits", desc := "()I" } : Jvm.MethodName)) ∈ lw_tbl := lw_at lw_m6 65 rfl
theorem q1347 : (Jvm.Cond.instanceMethod ({ cls := "PrayerMatsFaceModel", name := "ridBits", desc := "()I" } : Jvm.MethodName)) ∈ lw_all := lw_g (lw_at lw_m6 66 rfl) rfl
theorem q1348 : (Jvm.Cond.code ({ cls := "PrayerMatsFaceModel", name := "ridBits", desc := "()I" } : Jvm.MethodName) prog_12_method_60_code (3 : Nat) (Option.some Jvm.ClassFile.FieldType.int)) ∈ lw_all := lw_g (lw_at lw_m6 67 rfl) rfl
theorem q1350 : (Jvm.Cond.instanceMethod ({ cls := "PrayerMatsFaceModel", name := "pairings", desc := "(I)I" } : Jvm.MethodName)) ∈ lw_all := lw_g (lw_at lw_m6 69 rfl) rfl
theorem q1351 : (Jvm.Cond.selects "PrayerMatsFaceModel" ({ cls := "PrayerMatsFaceModel", name := "pairings", desc := "(I)I" } : Jvm.MethodName) ({ cls := "PrayerMatsFaceModel", name := "pairings", desc := "(I)I" } : Jvm.MethodName)) ∈ lw_all := lw_g (lw_at lw_m6 70 rfl) rfl
theorem q1352 : (Jvm.Cond.code ({ cls := "PrayerMatsFaceModel", name := "pairings", desc := "(I)I" } : Jvm.MethodName) prog_12_method_66_code (6 : Nat) (Option.some Jvm.ClassFile.FieldType.int)) ∈ lw_all := lw_g (lw_at lw_m6 71 rfl) rfl
theorem q1353 : (Jvm.Cond.constantLong "PrayerMatsFaceModel" (259 : Nat) (-1 : Int64)) ∈ lw_all := lw_g (lw_at lw_m6 72 rfl) rfl
theorem q1354 : (Jvm.Cond.methodLink "PrayerMatsFaceModel" (261 : Nat) ({ cls := "PrayerMatsFaceModel", name := "layPairings", desc := "()V" } : Jvm.MethodName)) ∈ lw_all := lw_g (lw_at lw_m6 73 rfl) rfl
theorem q1355 : (Jvm.Cond.privateMethod ({ cls := "PrayerMatsFaceModel", name := "layPairings", desc := "()V" } : Jvm.MethodName)) ∈ lw_tbl := lw_at lw_m6 74 rfl
theorem q1356 : (Jvm.Cond.instanceMethod ({ cls := "PrayerMatsFaceModel", name := "layPairings", desc := "()V" } : Jvm.MethodName)) ∈ lw_all := lw_g (lw_at lw_m6 75 rfl) rfl
theorem q1357 : (Jvm.Cond.code ({ cls := "PrayerMatsFaceModel", name := "layPairings", desc := "()V" } : Jvm.MethodName) prog_12_method_64_code (4 : Nat) (Option.none : Option Jvm.ClassFile.FieldType)) ∈ lw_all := lw_g (lw_at lw_m6 76 rfl) rfl
theorem q1358 : (Jvm.Cond.methodLink "PrayerMatsFaceModel" (256 : Nat) ({ cls := "PrayerMatsFaceModel", name := "layTrial", desc := "(II)Z" } : Jvm.MethodName)) ∈ lw_all := lw_g (lw_at lw_m6 77 rfl) rfl
theorem q1359 : (Jvm.Cond.privateMethod ({ cls := "PrayerMatsFaceModel", name := "layTrial", desc := "(II)Z" } : Jvm.MethodName)) ∈ lw_tbl := lw_at lw_m6 78 rfl
theorem q1360 : (Jvm.Cond.instanceMethod ({ cls := "PrayerMatsFaceModel", name := "layTrial", desc := "(II)Z" } : Jvm.MethodName)) ∈ lw_all := lw_g (lw_at lw_m6 79 rfl) rfl
theorem q1361 : (Jvm.Cond.code ({ cls := "PrayerMatsFaceModel", name := "layTrial", desc := "(II)Z" } : Jvm.MethodName) prog_12_method_63_code (9 : Nat) (Option.some Jvm.ClassFile.FieldType.boolean)) ∈ lw_all := lw_g (lw_at lw_m6 80 rfl) rfl
theorem q1362 : (Jvm.Cond.methodLink "PrayerMatsFaceModel" (264 : Nat) ({ cls := "PrayerMatsFaceModel", name := "takePairing", desc := "(I)V" } : Jvm.MethodName)) ∈ lw_all := lw_g (lw_at lw_m6 81 rfl) rfl
theorem q1363 : (Jvm.Cond.privateMethod ({ cls := "PrayerMatsFaceModel", name := "takePairing", desc := "(I)V" } : Jvm.MethodName)) ∈ lw_tbl := lw_at lw_m6 82 rfl
theorem q1364 : (Jvm.Cond.instanceMethod ({ cls := "PrayerMatsFaceModel", name := "takePairing", desc := "(I)V" } : Jvm.MethodName)) ∈ lw_all := lw_g (lw_at lw_m6 83 rfl) rfl
theorem q1365 : (Jvm.Cond.code ({ cls := "PrayerMatsFaceModel", name := "takePairing", desc := "(I)V" } : Jvm.MethodName) prog_12_method_65_code (3 : Nat) (Option.none : Option Jvm.ClassFile.FieldType)) ∈ lw_all := lw_g (lw_at lw_m6 84 rfl) rfl
theorem q1367 : (Jvm.Cond.instanceMethod ({ cls := "PrayerMatsFaceModel", name := "bestPairing", desc := "(II)I" } : Jvm.MethodName)) ∈ lw_all := lw_g (lw_at lw_m6 86 rfl) rfl
theorem q1368 : (Jvm.Cond.selects "PrayerMatsFaceModel" ({ cls := "PrayerMatsFaceModel", name := "bestPairing", desc := "(II)I" } : Jvm.MethodName) ({ cls := "PrayerMatsFaceModel", name := "bestPairing", desc := "(II)I" } : Jvm.MethodName)) ∈ lw_all := lw_g (lw_at lw_m6 87 rfl) rfl
theorem q1369 : (Jvm.Cond.code ({ cls := "PrayerMatsFaceModel", name := "bestPairing", desc := "(II)I" } : Jvm.MethodName) prog_12_method_67_code (8 : Nat) (Option.some Jvm.ClassFile.FieldType.int)) ∈ lw_all := lw_g (lw_at lw_m6 88 rfl) rfl
theorem q1371 : (Jvm.Cond.instanceMethod ({ cls := "PrayerMatsFaceModel", name := "soonest", desc := "(II)I" } : Jvm.MethodName)) ∈ lw_all := lw_g (lw_at lw_m6 90 rfl) rfl
theorem q1372 : (Jvm.Cond.selects "PrayerMatsFaceModel" ({ cls := "PrayerMatsFaceModel", name := "soonest", desc := "(II)I" } : Jvm.MethodName) ({ cls := "PrayerMatsFaceModel", name := "soonest", desc := "(II)I" } : Jvm.MethodName)) ∈ lw_all := lw_g (lw_at lw_m6 91 rfl) rfl
theorem q1373 : (Jvm.Cond.code ({ cls := "PrayerMatsFaceModel", name := "soonest", desc := "(II)I" } : Jvm.MethodName) prog_12_method_68_code (3 : Nat) (Option.some Jvm.ClassFile.FieldType.int)) ∈ lw_all := lw_g (lw_at lw_m6 92 rfl) rfl
theorem q1375 : (Jvm.Cond.instanceMethod ({ cls := "PrayerMatsFaceModel", name := "mateFor", desc := "(II)I" } : Jvm.MethodName)) ∈ lw_all := lw_g (lw_at lw_m6 94 rfl) rfl
theorem q1376 : (Jvm.Cond.selects "PrayerMatsFaceModel" ({ cls := "PrayerMatsFaceModel", name := "mateFor", desc := "(II)I" } : Jvm.MethodName) ({ cls := "PrayerMatsFaceModel", name := "mateFor", desc := "(II)I" } : Jvm.MethodName)) ∈ lw_all := lw_g (lw_at lw_m6 95 rfl) rfl
theorem q1377 : (Jvm.Cond.code ({ cls := "PrayerMatsFaceModel", name := "mateFor", desc := "(II)I" } : Jvm.MethodName) prog_12_method_70_code (6 : Nat) (Option.some Jvm.ClassFile.FieldType.int)) ∈ lw_all := lw_g (lw_at lw_m6 96 rfl) rfl
theorem q1378 : (Jvm.Cond.methodLink "PrayerMatsFaceModel" (267 : Nat) ({ cls := "PrayerMatsFaceModel", name := "mostLiked", desc := "(I)I" } : Jvm.MethodName)) ∈ lw_all := lw_g (lw_at lw_m6 97 rfl) rfl
theorem q1379 : (Jvm.Cond.privateMethod ({ cls := "PrayerMatsFaceModel", name := "mostLiked", desc := "(I)I" } : Jvm.MethodName)) ∈ lw_tbl := lw_at lw_m6 98 rfl
theorem q1380 : (Jvm.Cond.instanceMethod ({ cls := "PrayerMatsFaceModel", name := "mostLiked", desc := "(I)I" } : Jvm.MethodName)) ∈ lw_all := lw_g (lw_at lw_m6 99 rfl) rfl
theorem q1381 : (Jvm.Cond.code ({ cls := "PrayerMatsFaceModel", name := "mostLiked", desc := "(I)I" } : Jvm.MethodName) prog_12_method_69_code (4 : Nat) (Option.some Jvm.ClassFile.FieldType.int)) ∈ lw_all := lw_g (lw_at lw_m6 100 rfl) rfl
theorem q1383 : (Jvm.Cond.instanceMethod ({ cls := "PrayerMatsFaceModel", name := "hoursFor", desc := "(II)I" } : Jvm.MethodName)) ∈ lw_all := lw_g (lw_at lw_m6 102 rfl) rfl
theorem q1384 : (Jvm.Cond.selects "PrayerMatsFaceModel" ({ cls := "PrayerMatsFaceModel", name := "hoursFor", desc := "(II)I" } : Jvm.MethodName) ({ cls := "PrayerMatsFaceModel", name := "hoursFor", desc := "(II)I" } : Jvm.MethodName)) ∈ lw_all := lw_g (lw_at lw_m6 103 rfl) rfl
theorem q1385 : (Jvm.Cond.code ({ cls := "PrayerMatsFaceModel", name := "hoursFor", desc := "(II)I" } : Jvm.MethodName) prog_12_method_71_code (9 : Nat) (Option.some Jvm.ClassFile.FieldType.int)) ∈ lw_all := lw_g (lw_at lw_m6 104 rfl) rfl
theorem q1387 : (Jvm.Cond.instanceMethod ({ cls := "PrayerMatsFaceModel", name := "swap", desc := "()I" } : Jvm.MethodName)) ∈ lw_all := lw_g (lw_at lw_m6 106 rfl) rfl
theorem q1388 : (Jvm.Cond.selects "PrayerMatsFaceModel" ({ cls := "PrayerMatsFaceModel", name := "swap", desc := "()I" } : Jvm.MethodName) ({ cls := "PrayerMatsFaceModel", name := "swap", desc := "()I" } : Jvm.MethodName)) ∈ lw_all := lw_g (lw_at lw_m6 107 rfl) rfl
theorem q1389 : (Jvm.Cond.code ({ cls := "PrayerMatsFaceModel", name := "swap", desc := "()I" } : Jvm.MethodName) prog_12_method_73_code (8 : Nat) (Option.some Jvm.ClassFile.FieldType.int)) ∈ lw_all := lw_g (lw_at lw_m6 108 rfl) rfl
theorem q1390 : (Jvm.Cond.methodLink "PrayerMatsFaceModel" (270 : Nat) ({ cls := "PrayerMatsFaceModel", name := "allLikes", desc := "()I" } : Jvm.MethodName)) ∈ lw_all := lw_g (lw_at lw_m6 109 rfl) rfl
theorem q1391 : (Jvm.Cond.privateMethod ({ cls := "PrayerMatsFaceModel", name := "allLikes", desc := "()I" } : Jvm.MethodName)) ∈ lw_tbl := lw_at lw_m6 110 rfl
theorem q1392 : (Jvm.Cond.instanceMethod ({ cls := "PrayerMatsFaceModel", name := "allLikes", desc := "()I" } : Jvm.MethodName)) ∈ lw_all := lw_g (lw_at lw_m6 111 rfl) rfl
theorem q1393 : (Jvm.Cond.code ({ cls := "PrayerMatsFaceModel", name := "allLikes", desc := "()I" } : Jvm.MethodName) prog_12_method_72_code (3 : Nat) (Option.some Jvm.ClassFile.FieldType.int)) ∈ lw_all := lw_g (lw_at lw_m6 112 rfl) rfl
theorem q1395 : (Jvm.Cond.instanceMethod ({ cls := "PrayerMatsFaceModel", name := "glad", desc := "(I)I" } : Jvm.MethodName)) ∈ lw_all := lw_g (lw_at lw_m6 114 rfl) rfl
theorem q1396 : (Jvm.Cond.selects "PrayerMatsFaceModel" ({ cls := "PrayerMatsFaceModel", name := "glad", desc := "(I)I" } : Jvm.MethodName) ({ cls := "PrayerMatsFaceModel", name := "glad", desc := "(I)I" } : Jvm.MethodName)) ∈ lw_all := lw_g (lw_at lw_m6 115 rfl) rfl
theorem q1397 : (Jvm.Cond.code ({ cls := "PrayerMatsFaceModel", name := "glad", desc := "(I)I" } : Jvm.MethodName) prog_12_method_74_code (2 : Nat) (Option.some Jvm.ClassFile.FieldType.int)) ∈ lw_all := lw_g (lw_at lw_m6 116 rfl) rfl
theorem q1399 : (Jvm.Cond.instanceMethod ({ cls := "PrayerMatsFaceModel", name := "who", desc := "(III)I" } : Jvm.MethodName)) ∈ lw_all := lw_g (lw_at lw_m6 118 rfl) rfl
theorem q1400 : (Jvm.Cond.selects "PrayerMatsFaceModel" ({ cls := "PrayerMatsFaceModel", name := "who", desc := "(III)I" } : Jvm.MethodName) ({ cls := "PrayerMatsFaceModel", name := "who", desc := "(III)I" } : Jvm.MethodName)) ∈ lw_all := lw_g (lw_at lw_m6 119 rfl) rfl
theorem q1401 : (Jvm.Cond.code ({ cls := "PrayerMatsFaceModel", name := "who", desc := "(III)I" } : Jvm.MethodName) prog_12_method_76_code (10 : Nat) (Option.some Jvm.ClassFile.FieldType.int)) ∈ lw_all := lw_g (lw_at lw_m6 120 rfl) rfl
theorem q1402 : (Jvm.Cond.methodLink "PrayerMatsFaceModel" (276 : Nat) ({ cls := "PrayerMatsFaceModel", name := "isRow", desc := "(II)Z" } : Jvm.MethodName)) ∈ lw_all := lw_g (lw_at lw_m6 121 rfl) rfl
theorem q1403 : (Jvm.Cond.privateMethod ({ cls := "PrayerMatsFaceModel", name := "isRow", desc := "(II)Z" } : Jvm.MethodName)) ∈ lw_tbl := lw_at lw_m6 122 rfl
theorem q1404 : (Jvm.Cond.instanceMethod ({ cls := "PrayerMatsFaceModel", name := "isRow", desc := "(II)Z" } : Jvm.MethodName)) ∈ lw_all := lw_g (lw_at lw_m6 123 rfl) rfl
theorem q1405 : (Jvm.Cond.code ({ cls := "PrayerMatsFaceModel", name := "isRow", desc := "(II)Z" } : Jvm.MethodName) prog_12_method_75_code (5 : Nat) (Option.some Jvm.ClassFile.FieldType.boolean)) ∈ lw_all := lw_g (lw_at lw_m6 124 rfl) rfl
theorem q1407 : (Jvm.Cond.instanceMethod ({ cls := "PrayerMatsFaceModel", name := "ways", desc := "(II)I" } : Jvm.MethodName)) ∈ lw_all := lw_g (lw_at lw_m6 126 rfl) rfl
theorem q1408 : (Jvm.Cond.selects "PrayerMatsFaceModel" ({ cls := "PrayerMatsFaceModel", name := "ways", desc := "(II)I" } : Jvm.MethodName) ({ cls := "PrayerMatsFaceModel", name := "ways", desc := "(II)I" } : Jvm.MethodName)) ∈ lw_all := lw_g (lw_at lw_m6 127 rfl) rfl
theorem q1409 : (Jvm.Cond.code ({ cls := "PrayerMatsFaceModel", name := "ways", desc := "(II)I" } : Jvm.MethodName) prog_12_method_78_code (7 : Nat) (Option.some Jvm.ClassFile.FieldType.int)) ∈ lw_all := lw_g (lw_at lw_m6 128 rfl) rfl
theorem q1410 : (Jvm.Cond.methodLink "PrayerMatsFaceModel" (279 : Nat) ({ cls := "PrayerMatsFaceModel", name := "hasBy", desc := "(III)I" } : Jvm.MethodName)) ∈ lw_all := lw_g (lw_at lw_m6 129 rfl) rfl
theorem q1411 : (Jvm.Cond.static ({ cls := "PrayerMatsFaceModel", name := "hasBy", desc := "(III)I" } : Jvm.MethodName)) ∈ lw_all := lw_g (lw_at lw_m6 130 rfl) rfl
theorem q1412 : (Jvm.Cond.code ({ cls := "PrayerMatsFaceModel", name := "hasBy", desc := "(III)I" } : Jvm.MethodName) prog_12_method_77_code (4 : Nat) (Option.some Jvm.ClassFile.FieldType.int)) ∈ lw_all := lw_g (lw_at lw_m6 131 rfl) rfl
theorem q1414 : (Jvm.Cond.instanceMethod ({ cls := "PrayerMatsFaceModel", name := "away", desc := "(IIIIII)J" } : Jvm.MethodName)) ∈ lw_all := lw_g (lw_at lw_m6 133 rfl) rfl
theorem q1415 : (Jvm.Cond.selects "PrayerMatsFaceModel" ({ cls := "PrayerMatsFaceModel", name := "away", desc := "(IIIIII)J" } : Jvm.MethodName) ({ cls := "PrayerMatsFaceModel", name := "away", desc := "(IIIIII)J" } : Jvm.MethodName)) ∈ lw_all := lw_g (lw_at lw_m6 134 rfl) rfl
theorem q1416 : (Jvm.Cond.code ({ cls := "PrayerMatsFaceModel", name := "away", desc := "(IIIIII)J" } : Jvm.MethodName) prog_12_method_81_code (16 : Nat) (Option.some Jvm.ClassFile.FieldType.long)) ∈ lw_all := lw_g (lw_at lw_m6 135 rfl) rfl
theorem q1417 : (Jvm.Cond.constantLong "PrayerMatsFaceModel" (286 : Nat) (4000000000000000000 : Int64)) ∈ lw_all := lw_g (lw_at lw_m6 136 rfl) rfl
theorem q1418 : (Jvm.Cond.methodLink "PrayerMatsFaceModel" (288 : Nat) ({ cls := "PrayerMatsFaceModel", name := "partOf", desc := "(JJI)J" } : Jvm.MethodName)) ∈ lw_all := lw_g (lw_at lw_m6 137 rfl) rfl
theorem q1419 : (Jvm.Cond.static ({ cls := "PrayerMatsFaceModel", name := "partOf", desc := "(JJI)J" } : Jvm.MethodName)) ∈ lw_all := lw_g (lw_at lw_m6 138 rfl) rfl
theorem q1420 : (Jvm.Cond.code ({ cls := "PrayerMatsFaceModel", name := "partOf", desc := "(JJI)J" } : Jvm.MethodName) prog_12_method_80_code (7 : Nat) (Option.some Jvm.ClassFile.FieldType.long)) ∈ lw_all := lw_g (lw_at lw_m6 139 rfl) rfl
theorem q1421 : (Jvm.Cond.methodLink "PrayerMatsFaceModel" (282 : Nat) ({ cls := "PrayerMatsFaceModel", name := "divisor", desc := "(JJ)J" } : Jvm.MethodName)) ∈ lw_all := lw_g (lw_at lw_m6 140 rfl) rfl
theorem q1422 : (Jvm.Cond.static ({ cls := "PrayerMatsFaceModel", name := "divisor", desc := "(JJ)J" } : Jvm.MethodName)) ∈ lw_all := lw_g (lw_at lw_m6 141 rfl) rfl
theorem q1423 : (Jvm.Cond.code ({ cls := "PrayerMatsFaceModel", name := "divisor", desc := "(JJ)J" } : Jvm.MethodName) prog_12_method_79_code (10 : Nat) (Option.some Jvm.ClassFile.FieldType.long)) ∈ lw_all := lw_g (lw_at lw_m6 142 rfl) rfl
theorem q1425 : (Jvm.Cond.instanceMethod ({ cls := "PrayerMatsFaceModel", name := "fullest", desc := "(I)I" } : Jvm.MethodName)) ∈ lw_all := lw_g (lw_at lw_m6 144 rfl) rfl
theorem q1426 : (Jvm.Cond.selects "PrayerMatsFaceModel" ({ cls := "PrayerMatsFaceModel", name := "fullest", desc := "(I)I" } : Jvm.MethodName) ({ cls := "PrayerMatsFaceModel", name := "fullest", desc := "(I)I" } : Jvm.MethodName)) ∈ lw_all := lw_g (lw_at lw_m6 145 rfl) rfl
theorem q1427 : (Jvm.Cond.code ({ cls := "PrayerMatsFaceModel", name := "fullest", desc := "(I)I" } : Jvm.MethodName) prog_12_method_83_code (4 : Nat) (Option.some Jvm.ClassFile.FieldType.int)) ∈ lw_all := lw_g (lw_at lw_m6 146 rfl) rfl
theorem q1428 : (Jvm.Cond.methodLink "PrayerMatsFaceModel" (292 : Nat) ({ cls := "PrayerMatsFaceModel", name := "comingAt", desc := "(I)I" } : Jvm.MethodName)) ∈ lw_all := lw_g (lw_at lw_m6 147 rfl) rfl
theorem q1429 : (Jvm.Cond.privateMethod ({ cls := "PrayerMatsFaceModel", name := "comingAt", desc := "(I)I" } : Jvm.MethodName)) ∈ lw_tbl := lw_at lw_m6 148 rfl
theorem q1430 : (Jvm.Cond.instanceMethod ({ cls := "PrayerMatsFaceModel", name := "comingAt", desc := "(I)I" } : Jvm.MethodName)) ∈ lw_all := lw_g (lw_at lw_m6 149 rfl) rfl
theorem q1431 : (Jvm.Cond.code ({ cls := "PrayerMatsFaceModel", name := "comingAt", desc := "(I)I" } : Jvm.MethodName) prog_12_method_82_code (4 : Nat) (Option.some Jvm.ClassFile.FieldType.int)) ∈ lw_all := lw_g (lw_at lw_m6 150 rfl) rfl
theorem q1433 : (Jvm.Cond.instanceMethod ({ cls := "PrayerMatsFaceModel", name := "charmer", desc := "()I" } : Jvm.MethodName)) ∈ lw_all := lw_g (lw_at lw_m6 152 rfl) rfl
theorem q1434 : (Jvm.Cond.selects "PrayerMatsFaceModel" ({ cls := "PrayerMatsFaceModel", name := "charmer", desc := "()I" } : Jvm.MethodName) ({ cls := "PrayerMatsFaceModel", name := "charmer", desc := "()I" } : Jvm.MethodName)) ∈ lw_all := lw_g (lw_at lw_m6 153 rfl) rfl
theorem q1435 : (Jvm.Cond.code ({ cls := "PrayerMatsFaceModel", name := "charmer", desc := "()I" } : Jvm.MethodName) prog_12_method_84_code (3 : Nat) (Option.some Jvm.ClassFile.FieldType.int)) ∈ lw_all := lw_g (lw_at lw_m6 154 rfl) rfl
theorem q1437 : (Jvm.Cond.instanceMethod ({ cls := "PrayerMatsFaceModel", name := "friends", desc := "()I" } : Jvm.MethodName)) ∈ lw_all := lw_g (lw_at lw_m6 156 rfl) rfl
theorem q1438 : (Jvm.Cond.selects "PrayerMatsFaceModel" ({ cls := "PrayerMatsFaceModel", name := "friends", desc := "()I" } : Jvm.MethodName) ({ cls := "PrayerMatsFaceModel", name := "friends", desc := "()I" } : Jvm.MethodName)) ∈ lw_all := lw_g (lw_at lw_m6 157 rfl) rfl
theorem q1439 : (Jvm.Cond.code ({ cls := "PrayerMatsFaceModel", name := "friends", desc := "()I" } : Jvm.MethodName) prog_12_method_85_code (4 : Nat) (Option.some Jvm.ClassFile.FieldType.int)) ∈ lw_all := lw_g (lw_at lw_m6 158 rfl) rfl
theorem q1441 : (Jvm.Cond.instanceMethod ({ cls := "PrayerMatsFaceModel", name := "chain", desc := "(I)I" } : Jvm.MethodName)) ∈ lw_all := lw_g (lw_at lw_m6 160 rfl) rfl
theorem q1442 : (Jvm.Cond.selects "PrayerMatsFaceModel" ({ cls := "PrayerMatsFaceModel", name := "chain", desc := "(I)I" } : Jvm.MethodName) ({ cls := "PrayerMatsFaceModel", name := "chain", desc := "(I)I" } : Jvm.MethodName)) ∈ lw_all := lw_g (lw_at lw_m6 161 rfl) rfl
theorem q1443 : (Jvm.Cond.code ({ cls := "PrayerMatsFaceModel", name := "chain", desc := "(I)I" } : Jvm.MethodName) prog_12_method_86_code (4 : Nat) (Option.some Jvm.ClassFile.FieldType.int)) ∈ lw_all := lw_g (lw_at lw_m6 162 rfl) rfl
theorem q1445 : (Jvm.Cond.instanceMethod ({ cls := "PrayerMatsFaceModel", name := "lonely", desc := "()I" } : Jvm.MethodName)) ∈ lw_all := lw_g (lw_at lw_m6 164 rfl) rfl
theorem q1446 : (Jvm.Cond.selects "PrayerMatsFaceModel" ({ cls := "PrayerMatsFaceModel", name := "lonely", desc := "()I" } : Jvm.MethodName) ({ cls := "PrayerMatsFaceModel", name := "lonely", desc := "()I" } : Jvm.MethodName)) ∈ lw_all := lw_g (lw_at lw_m6 165 rfl) rfl
theorem q1447 : (Jvm.Cond.code ({ cls := "PrayerMatsFaceModel", name := "lonely", desc := "()I" } : Jvm.MethodName) prog_12_method_87_code (5 : Nat) (Option.some Jvm.ClassFile.FieldType.int)) ∈ lw_all := lw_g (lw_at lw_m6 166 rfl) rfl
theorem q1449 : (Jvm.Cond.instanceMethod ({ cls := "PrayerMatsFaceModel", name := "spread", desc := "()I" } : Jvm.MethodName)) ∈ lw_all := lw_g (lw_at lw_m6 168 rfl) rfl
theorem q1450 : (Jvm.Cond.selects "PrayerMatsFaceModel" ({ cls := "PrayerMatsFaceModel", name := "spread", desc := "()I" } : Jvm.MethodName) ({ cls := "PrayerMatsFaceModel", name := "spread", desc := "()I" } : Jvm.MethodName)) ∈ lw_all := lw_g (lw_at lw_m6 169 rfl) rfl
theorem q1451 : (Jvm.Cond.code ({ cls := "PrayerMatsFaceModel", name := "spread", desc := "()I" } : Jvm.MethodName) prog_12_method_88_code (6 : Nat) (Option.some Jvm.ClassFile.FieldType.int)) ∈ lw_all := lw_g (lw_at lw_m6 170 rfl) rfl
theorem q1453 : (Jvm.Cond.instanceMethod ({ cls := "PrayerMatsFaceModel", name := "mean", desc := "(I)J" } : Jvm.MethodName)) ∈ lw_all := lw_g (lw_at lw_m6 172 rfl) rfl
theorem q1454 : (Jvm.Cond.selects "PrayerMatsFaceModel" ({ cls := "PrayerMatsFaceModel", name := "mean", desc := "(I)J" } : Jvm.MethodName) ({ cls := "PrayerMatsFaceModel", name := "mean", desc := "(I)J" } : Jvm.MethodName)) ∈ lw_all := lw_g (lw_at lw_m6 173 rfl) rfl
theorem q1455 : (Jvm.Cond.code ({ cls := "PrayerMatsFaceModel", name := "mean", desc := "(I)J" } : Jvm.MethodName) prog_12_method_89_code (2 : Nat) (Option.some Jvm.ClassFile.FieldType.long)) ∈ lw_all := lw_g (lw_at lw_m6 174 rfl) rfl
theorem q1457 : (Jvm.Cond.instanceMethod ({ cls := "PrayerMatsFaceModel", name := "enemy", desc := "(I)I" } : Jvm.MethodName)) ∈ lw_all := lw_g (lw_at lw_m6 176 rfl) rfl
theorem q1458 : (Jvm.Cond.selects "PrayerMatsFaceModel" ({ cls := "PrayerMatsFaceModel", name := "enemy", desc := "(I)I" } : Jvm.MethodName) ({ cls := "PrayerMatsFaceModel", name := "enemy", desc := "(I)I" } : Jvm.MethodName)) ∈ lw_all := lw_g (lw_at lw_m6 177 rfl) rfl
theorem q1459 : (Jvm.Cond.code ({ cls := "PrayerMatsFaceModel", name := "enemy", desc := "(I)I" } : Jvm.MethodName) prog_12_method_90_code (4 : Nat) (Option.some Jvm.ClassFile.FieldType.int)) ∈ lw_all := lw_g (lw_at lw_m6 178 rfl) rfl
theorem q1461 : (Jvm.Cond.instanceMethod ({ cls := "PrayerMatsFaceModel", name := "peace", desc := "()I" } : Jvm.MethodName)) ∈ lw_all := lw_g (lw_at lw_m6 180 rfl) rfl
theorem q1462 : (Jvm.Cond.selects "PrayerMatsFaceModel" ({ cls := "PrayerMatsFaceModel", name := "peace", desc := "()I" } : Jvm.MethodName) ({ cls := "PrayerMatsFaceModel", name := "peace", desc := "()I" } : Jvm.MethodName)) ∈ lw_all := lw_g (lw_at lw_m6 181 rfl) rfl
theorem q1463 : (Jvm.Cond.code ({ cls := "PrayerMatsFaceModel", name := "peace", desc := "()I" } : Jvm.MethodName) prog_12_method_92_code (3 : Nat) (Option.some Jvm.ClassFile.FieldType.int)) ∈ lw_all := lw_g (lw_at lw_m6 182 rfl) rfl
theorem q1464 : (Jvm.Cond.methodLink "PrayerMatsFaceModel" (295 : Nat) ({ cls := "PrayerMatsFaceModel", name := "isPeace", desc := "()Z" } : Jvm.MethodName)) ∈ lw_all := lw_g (lw_at lw_m6 183 rfl) rfl
theorem q1465 : (Jvm.Cond.privateMethod ({ cls := "PrayerMatsFaceModel", name := "isPeace", desc := "()Z" } : Jvm.MethodName)) ∈ lw_tbl := lw_at lw_m6 184 rfl
theorem q1466 : (Jvm.Cond.instanceMethod ({ cls := "PrayerMatsFaceModel", name := "isPeace", desc := "()Z" } : Jvm.MethodName)) ∈ lw_all := lw_g (lw_at lw_m6 185 rfl) rfl
theorem q1467 : (Jvm.Cond.code ({ cls := "PrayerMatsFaceModel", name := "isPeace", desc := "()Z" } : Jvm.MethodName) prog_12_method_91_code (3 : Nat) (Option.some Jvm.ClassFile.FieldType.boolean)) ∈ lw_all := lw_g (lw_at lw_m6 186 rfl) rfl
theorem q1469 : (Jvm.Cond.instanceMethod ({ cls := "PrayerMatsFaceModel", name := "helps", desc := "(III)I" } : Jvm.MethodName)) ∈ lw_all := lw_g (lw_at lw_m6 188 rfl) rfl
theorem q1470 : (Jvm.Cond.selects "PrayerMatsFaceModel" ({ cls := "PrayerMatsFaceModel", name := "helps", desc := "(III)I" } : Jvm.MethodName) ({ cls := "PrayerMatsFaceModel", name := "helps", desc := "(III)I" } : Jvm.MethodName)) ∈ lw_all := lw_g (lw_at lw_m6 189 rfl) rfl
theorem q1471 : (Jvm.Cond.code ({ cls := "PrayerMatsFaceModel", name := "helps", desc := "(III)I" } : Jvm.MethodName) prog_12_method_93_code (7 : Nat) (Option.some Jvm.ClassFile.FieldType.int)) ∈ lw_all := lw_g (lw_at lw_m6 190 rfl) rfl
theorem q1472 : (Jvm.Cond.constantLong "PrayerMatsFaceModel" (299 : Nat) (4 : Int64)) ∈ lw_all := lw_g (lw_at lw_m6 191 rfl) rfl
theorem q1474 : (Jvm.Cond.instanceMethod ({ cls := "PrayerMatsFaceModel", name := "doubled", desc := "()I" } : Jvm.MethodName)) ∈ lw_all := lw_g (lw_at lw_m6 193 rfl) rfl
theorem q1475 : (Jvm.Cond.selects "PrayerMatsFaceModel" ({ cls := "PrayerMatsFaceModel", name := "doubled", desc := "()I" } : Jvm.MethodName) ({ cls := "PrayerMatsFaceModel", name := "doubled", desc := "()I" } : Jvm.MethodName)) ∈ lw_all := lw_g (lw_at lw_m6 194 rfl) rfl
theorem q1476 : (Jvm.Cond.code ({ cls := "PrayerMatsFaceModel", name := "doubled", desc := "()I" } : Jvm.MethodName) prog_12_method_94_code (5 : Nat) (Option.some Jvm.ClassFile.FieldType.int)) ∈ lw_all := lw_g (lw_at lw_m6 195 rfl) rfl
theorem q1478 : (Jvm.Cond.instanceMethod ({ cls := "PrayerMatsFaceModel", name := "row", desc := "(I)I" } : Jvm.MethodName)) ∈ lw_all := lw_g (lw_at lw_m6 197 rfl) rfl
theorem q1479 : (Jvm.Cond.selects "PrayerMatsFaceModel" ({ cls := "PrayerMatsFaceModel", name := "row", desc := "(I)I" } : Jvm.MethodName) ({ cls := "PrayerMatsFaceModel", name := "row", desc := "(I)I" } : Jvm.MethodName)) ∈ lw_all := lw_g (lw_at lw_m6 198 rfl) rfl
theorem q1480 : (Jvm.Cond.code ({ cls := "PrayerMatsFaceModel", name := "row", desc := "(I)I" } : Jvm.MethodName) prog_12_method_95_code (2 : Nat) (Option.some Jvm.ClassFile.FieldType.int)) ∈ lw_all := lw_g (lw_at lw_m6 199 rfl) rfl
theorem q1482 : (Jvm.Cond.instanceMethod ({ cls := "PrayerMatsFaceModel", name := "judge", desc := "(I)I" } : Jvm.MethodName)) ∈ lw_all := lw_g (lw_at lw_m6 201 rfl) rfl
theorem q1483 : (Jvm.Cond.selects "PrayerMatsFaceModel" ({ cls := "PrayerMatsFaceModel", name := "judge", desc := "(I)I" } : Jvm.MethodName) ({ cls := "PrayerMatsFaceModel", name := "judge", desc := "(I)I" } : Jvm.MethodName)) ∈ lw_all := lw_g (lw_at lw_m6 202 rfl) rfl
theorem q1484 : (Jvm.Cond.code ({ cls := "PrayerMatsFaceModel", name := "judge", desc := "(I)I" } : Jvm.MethodName) prog_12_method_96_code (4 : Nat) (Option.some Jvm.ClassFile.FieldType.int)) ∈ lw_all := lw_g (lw_at lw_m6 203 rfl) rfl
theorem q1486 : (Jvm.Cond.instanceMethod ({ cls := "PrayerMatsFaceModel", name := "clear", desc := "()I" } : Jvm.MethodName)) ∈ lw_all := lw_g (lw_at lw_m6 205 rfl) rfl
theorem q1487 : (Jvm.Cond.selects "PrayerMatsFaceModel" ({ cls := "PrayerMatsFaceModel", name := "clear", desc := "()I" } : Jvm.MethodName) ({ cls := "PrayerMatsFaceModel", name := "clear", desc := "()I" } : Jvm.MethodName)) ∈ lw_all := lw_g (lw_at lw_m6 206 rfl) rfl
theorem q1488 : (Jvm.Cond.code ({ cls := "PrayerMatsFaceModel", name := "clear", desc := "()I" } : Jvm.MethodName) prog_12_method_97_code (2 : Nat) (Option.some Jvm.ClassFile.FieldType.int)) ∈ lw_all := lw_g (lw_at lw_m6 207 rfl) rfl
theorem q1490 : (Jvm.Cond.instanceMethod ({ cls := "PrayerMatsFaceModel", name := "lots", desc := "(III)I" } : Jvm.MethodName)) ∈ lw_all := lw_g (lw_at lw_m6 209 rfl) rfl
theorem q1491 : (Jvm.Cond.selects "PrayerMatsFaceModel" ({ cls := "PrayerMatsFaceModel", name := "lots", desc := "(III)I" } : Jvm.MethodName) ({ cls := "PrayerMatsFaceModel", name := "lots", desc := "(III)I" } : Jvm.MethodName)) ∈ lw_all := lw_g (lw_at lw_m6 210 rfl) rfl
theorem q1492 : (Jvm.Cond.code ({ cls := "PrayerMatsFaceModel", name := "lots", desc := "(III)I" } : Jvm.MethodName) prog_12_method_99_code (10 : Nat) (Option.some Jvm.ClassFile.FieldType.int)) ∈ lw_all := lw_g (lw_at lw_m6 211 rfl) rfl
theorem q1493 : (Jvm.Cond.methodLink "PrayerMatsFaceModel" (307 : Nat) ({ cls := "PrayerMatsFaceModel", name := "drawBelow", desc := "(I)I" } : Jvm.MethodName)) ∈ lw_all := lw_g (lw_at lw_m6 212 rfl) rfl
theorem q1494 : (Jvm.Cond.privateMethod ({ cls := "PrayerMatsFaceModel", name := "drawBelow", desc := "(I)I" } : Jvm.MethodName)) ∈ lw_tbl := lw_at lw_m6 213 rfl
theorem q1495 : (Jvm.Cond.instanceMethod ({ cls := "PrayerMatsFaceModel", name := "drawBelow", desc := "(I)I" } : Jvm.MethodName)) ∈ lw_all := lw_g (lw_at lw_m6 214 rfl) rfl
theorem q1496 : (Jvm.Cond.code ({ cls := "PrayerMatsFaceModel", name := "drawBelow", desc := "(I)I" } : Jvm.MethodName) prog_12_method_98_code (2 : Nat) (Option.some Jvm.ClassFile.FieldType.int)) ∈ lw_all := lw_g (lw_at lw_m6 215 rfl) rfl
theorem q1497 : (Jvm.Cond.constant "PrayerMatsFaceModel" (304 : Nat) (1103515245 : Int32)) ∈ lw_all := lw_g (lw_at lw_m6 216 rfl) rfl
theorem q1498 : (Jvm.Cond.constant "PrayerMatsFaceModel" (305 : Nat) (2147483647 : Int32)) ∈ lw_all := lw_g (lw_at lw_m6 217 rfl) rfl
theorem q1499 : (Jvm.Cond.constant "PrayerMatsFaceModel" (306 : Nat) (65536 : Int32)) ∈ lw_all := lw_g (lw_at lw_m6 218 rfl) rfl
theorem q1501 : (Jvm.Cond.instanceMethod ({ cls := "PrayerMatsFaceModel", name := "count", desc := "(I)I" } : Jvm.MethodName)) ∈ lw_all := lw_g (lw_at lw_m6 220 rfl) rfl
theorem q1502 : (Jvm.Cond.selects "PrayerMatsFaceModel" ({ cls := "PrayerMatsFaceModel", name := "count", desc := "(I)I" } : Jvm.MethodName) ({ cls := "PrayerMatsFaceModel", name := "count", desc := "(I)I" } : Jvm.MethodName)) ∈ lw_all := lw_g (lw_at lw_m6 221 rfl) rfl
theorem q1503 : (Jvm.Cond.code ({ cls := "PrayerMatsFaceModel", name := "count", desc := "(I)I" } : Jvm.MethodName) prog_12_method_100_code (4 : Nat) (Option.some Jvm.ClassFile.FieldType.int)) ∈ lw_all := lw_g (lw_at lw_m6 222 rfl) rfl
theorem q1504 : (Jvm.Cond.constantLong "PrayerMatsFaceModel" (310 : Nat) (11 : Int64)) ∈ lw_all := lw_g (lw_at lw_m6 223 rfl) rfl
theorem q1505 : (Jvm.Cond.constantLong "PrayerMatsFaceModel" (312 : Nat) (16 : Int64)) ∈ lw_all := lw_g (lw_at lw_m6 224 rfl) rfl
theorem q1520 : (Jvm.Cond.castable "PrayerMatsFaceModel" "java/lang/Object") ∈ lw_tbl := lw_at lw_m6 239 rfl
theorem in_X2 : ∀ w ∈ wsX20, w ∈ lw_all := lw_in wsX20 [1042, 1044, 1046, 1048, 1050, 1052, 1054, 1056, 1058, 1060, 1062, 1064, 1066, 1068, 1070, 1072, 1074, 1076, 1078, 1080, 1082, 1084, 1086, 1088, 1090, 1092, 1094, 1096, 1098, 1100, 1102, 1104, 1106] (by decide +kernel) (by decide +kernel)
