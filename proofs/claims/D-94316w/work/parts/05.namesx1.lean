/-! NeverUnseen -/
set_option maxRecDepth 100000
def RX1 : String := "NeverUnseen"
def TX1 : u_T := fun k => match k with
  | 0 => ("NeverUnseen", "tape", "[B", true)
  | 1 => ("NeverUnseen", "taped", "I", false)
  | 2 => ("NeverUnseen", "reader", "LNeverUnseen$Reader;", true)
  | 3 => ("NeverUnseen", "valley", "LNeverUnseen$Valley;", false)
  | 4 => ("NeverUnseen", "trouble", "I", false)
  | 5 => ("NeverUnseen", "fault", "I", false)
  | 6 => ("NeverUnseen", "where", "I", false)
  | 7 => ("NeverUnseen", "byDay", "LNeverUnseen$Sight;", true)
  | 8 => ("NeverUnseen", "byNight", "LNeverUnseen$Sight;", true)
  | 9 => ("NeverUnseen", "other", "LNeverUnseen$Sight;", true)
  | 10 => ("NeverUnseen", "now", "[I", true)
  | 11 => ("NeverUnseen", "trial", "[I", true)
  | 12 => ("NeverUnseen", "plan", "[I", true)
  | 13 => ("NeverUnseen", "step", "I", false)
  | 14 => ("NeverUnseen", "seed", "I", false)
  | 15 => ("NeverUnseen", "judgedWhy", "I", false)
  | 16 => ("NeverUnseen", "movers", "[I", true)
  | 17 => ("NeverUnseen", "from", "[I", true)
  | 18 => ("NeverUnseen", "to", "[I", true)
  | 19 => ("NeverUnseen", "moverMany", "I", false)
  | 20 => ("NeverUnseen", "states", "I", false)
  | 21 => ("NeverUnseen", "lawfulIn", "[Z", true)
  | 22 => ("NeverUnseen", "reached", "[Z", true)
  | 23 => ("NeverUnseen", "home", "[Z", true)
  | 24 => ("NeverUnseen", "path", "[I", true)
  | 25 => ("NeverUnseen", "pathLong", "I", false)
  | 26 => ("NeverUnseen", "looked", "[Z", true)
  | 27 => ("NeverUnseen", "next", "[Z", true)
  | _ => ("NeverUnseen", "fewest", "I", false)
def tyX1 : Nat → FieldType := fun k => match k with
  | 0 => .array .byte
  | 1 => .int
  | 2 => .object "NeverUnseen$Reader"
  | 3 => .object "NeverUnseen$Valley"
  | 4 => .int
  | 5 => .int
  | 6 => .int
  | 7 => .object "NeverUnseen$Sight"
  | 8 => .object "NeverUnseen$Sight"
  | 9 => .object "NeverUnseen$Sight"
  | 10 => .array .int
  | 11 => .array .int
  | 12 => .array .int
  | 13 => .int
  | 14 => .int
  | 15 => .int
  | 16 => .array .int
  | 17 => .array .int
  | 18 => .array .int
  | 19 => .int
  | 20 => .int
  | 21 => .array .boolean
  | 22 => .array .boolean
  | 23 => .array .boolean
  | 24 => .array .int
  | 25 => .int
  | 26 => .array .boolean
  | 27 => .array .boolean
  | _ => .int
abbrev wsX10 : List Cond := u_ws RX1 TX1 29
set_option maxRecDepth 100000 in
theorem nmX1 : ∀ a, a < 29 → ∀ b, b < 29 → a ≠ b → (TX1 a).2.1 ≠ (TX1 b).2.1 := by decide +kernel
set_option maxRecDepth 100000 in
theorem tyX1_ok : ∀ k, k < 29 → parseFieldDescriptor (TX1 k).2.2.1 = some (tyX1 k) := by decide +kernel
abbrev cX1_init : ByteArray := prog_1_method_5_code
def yX1_init : MethodName := ⟨RX1, "<init>", "()V"⟩
def dkwX1_init_7 : List UInt8 := [188, 4, 181, 0, 78, 177]
abbrev dktX1_init_7 : List UInt8 := dkwX1_init_7 ++ []
def dkwX1_init_6 : List UInt8 := [17, 0, 155, 188, 10, 181, 0, 68, 42, 2, 181, 0, 71, 42, 18, 74, 188, 4, 181, 0, 75, 42, 18, 74]
abbrev dktX1_init_6 : List UInt8 := dkwX1_init_6 ++ dktX1_init_7
def dkwX1_init_5 : List UInt8 := [188, 4, 181, 0, 58, 42, 17, 121, 24, 188, 4, 181, 0, 62, 42, 17, 121, 24, 188, 4, 181, 0, 65, 42]
abbrev dktX1_init_5 : List UInt8 := dkwX1_init_5 ++ dktX1_init_6
def dkwX1_init_4 : List UInt8 := [188, 10, 181, 0, 49, 42, 6, 188, 10, 181, 0, 52, 42, 6, 188, 10, 181, 0, 55, 42, 17, 121, 24]
abbrev dktX1_init_4 : List UInt8 := dkwX1_init_4 ++ dktX1_init_5
def dkwX1_init_3 : List UInt8 := [188, 10, 181, 0, 39, 42, 8, 188, 10, 181, 0, 43, 42, 17, 1, 244, 188, 10, 181, 0, 46, 42, 6]
abbrev dktX1_init_3 : List UInt8 := dkwX1_init_3 ++ dktX1_init_4
def dkwX1_init_2 : List UInt8 := [187, 0, 26, 89, 183, 0, 28, 181, 0, 33, 42, 187, 0, 26, 89, 183, 0, 28, 181, 0, 36, 42, 8]
abbrev dktX1_init_2 : List UInt8 := dkwX1_init_2 ++ dktX1_init_3
def dkwX1_init_1 : List UInt8 := [183, 0, 15, 181, 0, 18, 42, 2, 181, 0, 22, 42, 187, 0, 26, 89, 183, 0, 28, 181, 0, 29, 42]
abbrev dktX1_init_1 : List UInt8 := dkwX1_init_1 ++ dktX1_init_2
def dkwX1_init_0 : List UInt8 := [42, 183, 0, 1, 42, 17, 3, 132, 188, 8, 181, 0, 9, 42, 187, 0, 13, 89, 42, 180, 0, 9]
abbrev dktX1_init_0 : List UInt8 := dkwX1_init_0 ++ dktX1_init_1
theorem dksX1_init_0 : cX1_init.data.toList.drop 0 = dktX1_init_0 := by decide +kernel
theorem dksX1_init_1 : cX1_init.data.toList.drop 22 = dktX1_init_1 := dk_seg dksX1_init_0 22 rfl rfl
theorem dksX1_init_2 : cX1_init.data.toList.drop 45 = dktX1_init_2 := dk_seg dksX1_init_1 23 rfl rfl
theorem dksX1_init_3 : cX1_init.data.toList.drop 68 = dktX1_init_3 := dk_seg dksX1_init_2 23 rfl rfl
theorem dksX1_init_4 : cX1_init.data.toList.drop 91 = dktX1_init_4 := dk_seg dksX1_init_3 23 rfl rfl
theorem dksX1_init_5 : cX1_init.data.toList.drop 114 = dktX1_init_5 := dk_seg dksX1_init_4 23 rfl rfl
theorem dksX1_init_6 : cX1_init.data.toList.drop 138 = dktX1_init_6 := dk_seg dksX1_init_5 24 rfl rfl
theorem dksX1_init_7 : cX1_init.data.toList.drop 162 = dktX1_init_7 := dk_seg dksX1_init_6 24 rfl rfl
theorem dX1_init_0 : decode cX1_init 0 = .ok (.aload_n 0, 1) := dk_42 (dk_at dksX1_init_0 0 rfl rfl)
theorem dX1_init_1 : decode cX1_init 1 = .ok (.invokespecial 1, 3) := dk_183 0 1 (dk_at dksX1_init_0 1 rfl rfl)
theorem dX1_init_4 : decode cX1_init 4 = .ok (.aload_n 0, 1) := dk_42 (dk_at dksX1_init_0 4 rfl rfl)
theorem dX1_init_5 : decode cX1_init 5 = .ok (.sipush 900, 3) := dk_17 3 132 (dk_at dksX1_init_0 5 rfl rfl)
theorem dX1_init_8 : decode cX1_init 8 = .ok (.newarray .byte, 2) := dk_188_8 (dk_at dksX1_init_0 8 rfl rfl)
theorem dX1_init_10 : decode cX1_init 10 = .ok (.putfield 9, 3) := dk_181 0 9 (dk_at dksX1_init_0 10 rfl rfl)
theorem dX1_init_13 : decode cX1_init 13 = .ok (.aload_n 0, 1) := dk_42 (dk_at dksX1_init_0 13 rfl rfl)
theorem dX1_init_14 : decode cX1_init 14 = .ok (.new 13, 3) := dk_187 0 13 (dk_at dksX1_init_0 14 rfl rfl)
theorem dX1_init_17 : decode cX1_init 17 = .ok (.dup, 1) := dk_89 (dk_at dksX1_init_0 17 rfl rfl)
theorem dX1_init_18 : decode cX1_init 18 = .ok (.aload_n 0, 1) := dk_42 (dk_at dksX1_init_0 18 rfl rfl)
theorem dX1_init_19 : decode cX1_init 19 = .ok (.getfield 9, 3) := dk_180 0 9 (dk_at dksX1_init_0 19 rfl rfl)
theorem dX1_init_22 : decode cX1_init 22 = .ok (.invokespecial 15, 3) := dk_183 0 15 (dk_at dksX1_init_1 0 rfl rfl)
theorem dX1_init_25 : decode cX1_init 25 = .ok (.putfield 18, 3) := dk_181 0 18 (dk_at dksX1_init_1 3 rfl rfl)
theorem dX1_init_28 : decode cX1_init 28 = .ok (.aload_n 0, 1) := dk_42 (dk_at dksX1_init_1 6 rfl rfl)
theorem dX1_init_29 : decode cX1_init 29 = .ok (.iconst (-1), 1) := dk_2 (dk_at dksX1_init_1 7 rfl rfl)
theorem dX1_init_30 : decode cX1_init 30 = .ok (.putfield 22, 3) := dk_181 0 22 (dk_at dksX1_init_1 8 rfl rfl)
theorem dX1_init_33 : decode cX1_init 33 = .ok (.aload_n 0, 1) := dk_42 (dk_at dksX1_init_1 11 rfl rfl)
theorem dX1_init_34 : decode cX1_init 34 = .ok (.new 26, 3) := dk_187 0 26 (dk_at dksX1_init_1 12 rfl rfl)
theorem dX1_init_37 : decode cX1_init 37 = .ok (.dup, 1) := dk_89 (dk_at dksX1_init_1 15 rfl rfl)
theorem dX1_init_38 : decode cX1_init 38 = .ok (.invokespecial 28, 3) := dk_183 0 28 (dk_at dksX1_init_1 16 rfl rfl)
theorem dX1_init_41 : decode cX1_init 41 = .ok (.putfield 29, 3) := dk_181 0 29 (dk_at dksX1_init_1 19 rfl rfl)
theorem dX1_init_44 : decode cX1_init 44 = .ok (.aload_n 0, 1) := dk_42 (dk_at dksX1_init_1 22 rfl rfl)
theorem dX1_init_45 : decode cX1_init 45 = .ok (.new 26, 3) := dk_187 0 26 (dk_at dksX1_init_2 0 rfl rfl)
theorem dX1_init_48 : decode cX1_init 48 = .ok (.dup, 1) := dk_89 (dk_at dksX1_init_2 3 rfl rfl)
theorem dX1_init_49 : decode cX1_init 49 = .ok (.invokespecial 28, 3) := dk_183 0 28 (dk_at dksX1_init_2 4 rfl rfl)
theorem dX1_init_52 : decode cX1_init 52 = .ok (.putfield 33, 3) := dk_181 0 33 (dk_at dksX1_init_2 7 rfl rfl)
theorem dX1_init_55 : decode cX1_init 55 = .ok (.aload_n 0, 1) := dk_42 (dk_at dksX1_init_2 10 rfl rfl)
theorem dX1_init_56 : decode cX1_init 56 = .ok (.new 26, 3) := dk_187 0 26 (dk_at dksX1_init_2 11 rfl rfl)
theorem dX1_init_59 : decode cX1_init 59 = .ok (.dup, 1) := dk_89 (dk_at dksX1_init_2 14 rfl rfl)
theorem dX1_init_60 : decode cX1_init 60 = .ok (.invokespecial 28, 3) := dk_183 0 28 (dk_at dksX1_init_2 15 rfl rfl)
theorem dX1_init_63 : decode cX1_init 63 = .ok (.putfield 36, 3) := dk_181 0 36 (dk_at dksX1_init_2 18 rfl rfl)
theorem dX1_init_66 : decode cX1_init 66 = .ok (.aload_n 0, 1) := dk_42 (dk_at dksX1_init_2 21 rfl rfl)
theorem dX1_init_67 : decode cX1_init 67 = .ok (.iconst 5, 1) := dk_8 (dk_at dksX1_init_2 22 rfl rfl)
theorem dX1_init_68 : decode cX1_init 68 = .ok (.newarray .int, 2) := dk_188_10 (dk_at dksX1_init_3 0 rfl rfl)
theorem dX1_init_70 : decode cX1_init 70 = .ok (.putfield 39, 3) := dk_181 0 39 (dk_at dksX1_init_3 2 rfl rfl)
theorem dX1_init_73 : decode cX1_init 73 = .ok (.aload_n 0, 1) := dk_42 (dk_at dksX1_init_3 5 rfl rfl)
theorem dX1_init_74 : decode cX1_init 74 = .ok (.iconst 5, 1) := dk_8 (dk_at dksX1_init_3 6 rfl rfl)
theorem dX1_init_75 : decode cX1_init 75 = .ok (.newarray .int, 2) := dk_188_10 (dk_at dksX1_init_3 7 rfl rfl)
theorem dX1_init_77 : decode cX1_init 77 = .ok (.putfield 43, 3) := dk_181 0 43 (dk_at dksX1_init_3 9 rfl rfl)
theorem dX1_init_80 : decode cX1_init 80 = .ok (.aload_n 0, 1) := dk_42 (dk_at dksX1_init_3 12 rfl rfl)
theorem dX1_init_81 : decode cX1_init 81 = .ok (.sipush 500, 3) := dk_17 1 244 (dk_at dksX1_init_3 13 rfl rfl)
theorem dX1_init_84 : decode cX1_init 84 = .ok (.newarray .int, 2) := dk_188_10 (dk_at dksX1_init_3 16 rfl rfl)
theorem dX1_init_86 : decode cX1_init 86 = .ok (.putfield 46, 3) := dk_181 0 46 (dk_at dksX1_init_3 18 rfl rfl)
theorem dX1_init_89 : decode cX1_init 89 = .ok (.aload_n 0, 1) := dk_42 (dk_at dksX1_init_3 21 rfl rfl)
theorem dX1_init_90 : decode cX1_init 90 = .ok (.iconst 3, 1) := dk_6 (dk_at dksX1_init_3 22 rfl rfl)
theorem dX1_init_91 : decode cX1_init 91 = .ok (.newarray .int, 2) := dk_188_10 (dk_at dksX1_init_4 0 rfl rfl)
theorem dX1_init_93 : decode cX1_init 93 = .ok (.putfield 49, 3) := dk_181 0 49 (dk_at dksX1_init_4 2 rfl rfl)
theorem dX1_init_96 : decode cX1_init 96 = .ok (.aload_n 0, 1) := dk_42 (dk_at dksX1_init_4 5 rfl rfl)
theorem dX1_init_97 : decode cX1_init 97 = .ok (.iconst 3, 1) := dk_6 (dk_at dksX1_init_4 6 rfl rfl)
theorem dX1_init_98 : decode cX1_init 98 = .ok (.newarray .int, 2) := dk_188_10 (dk_at dksX1_init_4 7 rfl rfl)
theorem dX1_init_100 : decode cX1_init 100 = .ok (.putfield 52, 3) := dk_181 0 52 (dk_at dksX1_init_4 9 rfl rfl)
theorem dX1_init_103 : decode cX1_init 103 = .ok (.aload_n 0, 1) := dk_42 (dk_at dksX1_init_4 12 rfl rfl)
theorem dX1_init_104 : decode cX1_init 104 = .ok (.iconst 3, 1) := dk_6 (dk_at dksX1_init_4 13 rfl rfl)
theorem dX1_init_105 : decode cX1_init 105 = .ok (.newarray .int, 2) := dk_188_10 (dk_at dksX1_init_4 14 rfl rfl)
theorem dX1_init_107 : decode cX1_init 107 = .ok (.putfield 55, 3) := dk_181 0 55 (dk_at dksX1_init_4 16 rfl rfl)
theorem dX1_init_110 : decode cX1_init 110 = .ok (.aload_n 0, 1) := dk_42 (dk_at dksX1_init_4 19 rfl rfl)
theorem dX1_init_111 : decode cX1_init 111 = .ok (.sipush 31000, 3) := dk_17 121 24 (dk_at dksX1_init_4 20 rfl rfl)
theorem dX1_init_114 : decode cX1_init 114 = .ok (.newarray .boolean, 2) := dk_188_4 (dk_at dksX1_init_5 0 rfl rfl)
theorem dX1_init_116 : decode cX1_init 116 = .ok (.putfield 58, 3) := dk_181 0 58 (dk_at dksX1_init_5 2 rfl rfl)
theorem dX1_init_119 : decode cX1_init 119 = .ok (.aload_n 0, 1) := dk_42 (dk_at dksX1_init_5 5 rfl rfl)
theorem dX1_init_120 : decode cX1_init 120 = .ok (.sipush 31000, 3) := dk_17 121 24 (dk_at dksX1_init_5 6 rfl rfl)
theorem dX1_init_123 : decode cX1_init 123 = .ok (.newarray .boolean, 2) := dk_188_4 (dk_at dksX1_init_5 9 rfl rfl)
theorem dX1_init_125 : decode cX1_init 125 = .ok (.putfield 62, 3) := dk_181 0 62 (dk_at dksX1_init_5 11 rfl rfl)
theorem dX1_init_128 : decode cX1_init 128 = .ok (.aload_n 0, 1) := dk_42 (dk_at dksX1_init_5 14 rfl rfl)
theorem dX1_init_129 : decode cX1_init 129 = .ok (.sipush 31000, 3) := dk_17 121 24 (dk_at dksX1_init_5 15 rfl rfl)
theorem dX1_init_132 : decode cX1_init 132 = .ok (.newarray .boolean, 2) := dk_188_4 (dk_at dksX1_init_5 18 rfl rfl)
theorem dX1_init_134 : decode cX1_init 134 = .ok (.putfield 65, 3) := dk_181 0 65 (dk_at dksX1_init_5 20 rfl rfl)
theorem dX1_init_137 : decode cX1_init 137 = .ok (.aload_n 0, 1) := dk_42 (dk_at dksX1_init_5 23 rfl rfl)
theorem dX1_init_138 : decode cX1_init 138 = .ok (.sipush 155, 3) := dk_17 0 155 (dk_at dksX1_init_6 0 rfl rfl)
theorem dX1_init_141 : decode cX1_init 141 = .ok (.newarray .int, 2) := dk_188_10 (dk_at dksX1_init_6 3 rfl rfl)
theorem dX1_init_143 : decode cX1_init 143 = .ok (.putfield 68, 3) := dk_181 0 68 (dk_at dksX1_init_6 5 rfl rfl)
theorem dX1_init_146 : decode cX1_init 146 = .ok (.aload_n 0, 1) := dk_42 (dk_at dksX1_init_6 8 rfl rfl)
theorem dX1_init_147 : decode cX1_init 147 = .ok (.iconst (-1), 1) := dk_2 (dk_at dksX1_init_6 9 rfl rfl)
theorem dX1_init_148 : decode cX1_init 148 = .ok (.putfield 71, 3) := dk_181 0 71 (dk_at dksX1_init_6 10 rfl rfl)
theorem dX1_init_151 : decode cX1_init 151 = .ok (.aload_n 0, 1) := dk_42 (dk_at dksX1_init_6 13 rfl rfl)
theorem dX1_init_152 : decode cX1_init 152 = .ok (.ldc 74, 2) := dk_18 74 (dk_at dksX1_init_6 14 rfl rfl)
theorem dX1_init_154 : decode cX1_init 154 = .ok (.newarray .boolean, 2) := dk_188_4 (dk_at dksX1_init_6 16 rfl rfl)
theorem dX1_init_156 : decode cX1_init 156 = .ok (.putfield 75, 3) := dk_181 0 75 (dk_at dksX1_init_6 18 rfl rfl)
theorem dX1_init_159 : decode cX1_init 159 = .ok (.aload_n 0, 1) := dk_42 (dk_at dksX1_init_6 21 rfl rfl)
theorem dX1_init_160 : decode cX1_init 160 = .ok (.ldc 74, 2) := dk_18 74 (dk_at dksX1_init_6 22 rfl rfl)
theorem dX1_init_162 : decode cX1_init 162 = .ok (.newarray .boolean, 2) := dk_188_4 (dk_at dksX1_init_7 0 rfl rfl)
theorem dX1_init_164 : decode cX1_init 164 = .ok (.putfield 78, 3) := dk_181 0 78 (dk_at dksX1_init_7 2 rfl rfl)
theorem dX1_init_167 : decode cX1_init 167 = .ok (.return_, 1) := dk_177 (dk_at dksX1_init_7 5 rfl rfl)
abbrev cX1_feed : ByteArray := prog_1_method_9_code
def yX1_feed : MethodName := ⟨RX1, "feed", "(IIIII)I"⟩
def dkwX1_feed_2 : List UInt8 := [172]
abbrev dktX1_feed_2 : List UInt8 := dkwX1_feed_2 ++ []
def dkwX1_feed_1 : List UInt8 := [182, 0, 90, 42, 29, 182, 0, 90, 42, 21, 4, 182, 0, 90, 42, 21, 5, 182, 0, 90, 42, 180, 0, 87]
abbrev dktX1_feed_1 : List UInt8 := dkwX1_feed_1 ++ dktX1_feed_2
def dkwX1_feed_0 : List UInt8 := [42, 180, 0, 87, 16, 20, 96, 17, 3, 132, 164, 0, 5, 2, 172, 42, 27, 182, 0, 90, 42, 28]
abbrev dktX1_feed_0 : List UInt8 := dkwX1_feed_0 ++ dktX1_feed_1
theorem dksX1_feed_0 : cX1_feed.data.toList.drop 0 = dktX1_feed_0 := by decide +kernel
theorem dksX1_feed_1 : cX1_feed.data.toList.drop 22 = dktX1_feed_1 := dk_seg dksX1_feed_0 22 rfl rfl
theorem dksX1_feed_2 : cX1_feed.data.toList.drop 46 = dktX1_feed_2 := dk_seg dksX1_feed_1 24 rfl rfl
theorem dX1_feed_0 : decode cX1_feed 0 = .ok (.aload_n 0, 1) := dk_42 (dk_at dksX1_feed_0 0 rfl rfl)
theorem dX1_feed_1 : decode cX1_feed 1 = .ok (.getfield 87, 3) := dk_180 0 87 (dk_at dksX1_feed_0 1 rfl rfl)
theorem dX1_feed_4 : decode cX1_feed 4 = .ok (.bipush 20, 2) := dk_16 20 (dk_at dksX1_feed_0 4 rfl rfl)
theorem dX1_feed_6 : decode cX1_feed 6 = .ok (.iadd, 1) := dk_96 (dk_at dksX1_feed_0 6 rfl rfl)
theorem dX1_feed_7 : decode cX1_feed 7 = .ok (.sipush 900, 3) := dk_17 3 132 (dk_at dksX1_feed_0 7 rfl rfl)
theorem dX1_feed_10 : decode cX1_feed 10 = .ok (.if_icmp .le 5, 3) := dk_164 0 5 (dk_at dksX1_feed_0 10 rfl rfl)
theorem dX1_feed_13 : decode cX1_feed 13 = .ok (.iconst (-1), 1) := dk_2 (dk_at dksX1_feed_0 13 rfl rfl)
theorem dX1_feed_14 : decode cX1_feed 14 = .ok (.ireturn, 1) := dk_172 (dk_at dksX1_feed_0 14 rfl rfl)
theorem dX1_feed_15 : decode cX1_feed 15 = .ok (.aload_n 0, 1) := dk_42 (dk_at dksX1_feed_0 15 rfl rfl)
theorem dX1_feed_16 : decode cX1_feed 16 = .ok (.iload_n 1, 1) := dk_27 (dk_at dksX1_feed_0 16 rfl rfl)
theorem dX1_feed_17 : decode cX1_feed 17 = .ok (.invokevirtual 90, 3) := dk_182 0 90 (dk_at dksX1_feed_0 17 rfl rfl)
theorem dX1_feed_20 : decode cX1_feed 20 = .ok (.aload_n 0, 1) := dk_42 (dk_at dksX1_feed_0 20 rfl rfl)
theorem dX1_feed_21 : decode cX1_feed 21 = .ok (.iload_n 2, 1) := dk_28 (dk_at dksX1_feed_0 21 rfl rfl)
theorem dX1_feed_22 : decode cX1_feed 22 = .ok (.invokevirtual 90, 3) := dk_182 0 90 (dk_at dksX1_feed_1 0 rfl rfl)
theorem dX1_feed_25 : decode cX1_feed 25 = .ok (.aload_n 0, 1) := dk_42 (dk_at dksX1_feed_1 3 rfl rfl)
theorem dX1_feed_26 : decode cX1_feed 26 = .ok (.iload_n 3, 1) := dk_29 (dk_at dksX1_feed_1 4 rfl rfl)
theorem dX1_feed_27 : decode cX1_feed 27 = .ok (.invokevirtual 90, 3) := dk_182 0 90 (dk_at dksX1_feed_1 5 rfl rfl)
theorem dX1_feed_30 : decode cX1_feed 30 = .ok (.aload_n 0, 1) := dk_42 (dk_at dksX1_feed_1 8 rfl rfl)
theorem dX1_feed_31 : decode cX1_feed 31 = .ok (.iload 4, 2) := dk_21 4 (dk_at dksX1_feed_1 9 rfl rfl)
theorem dX1_feed_33 : decode cX1_feed 33 = .ok (.invokevirtual 90, 3) := dk_182 0 90 (dk_at dksX1_feed_1 11 rfl rfl)
theorem dX1_feed_36 : decode cX1_feed 36 = .ok (.aload_n 0, 1) := dk_42 (dk_at dksX1_feed_1 14 rfl rfl)
theorem dX1_feed_37 : decode cX1_feed 37 = .ok (.iload 5, 2) := dk_21 5 (dk_at dksX1_feed_1 15 rfl rfl)
theorem dX1_feed_39 : decode cX1_feed 39 = .ok (.invokevirtual 90, 3) := dk_182 0 90 (dk_at dksX1_feed_1 17 rfl rfl)
theorem dX1_feed_42 : decode cX1_feed 42 = .ok (.aload_n 0, 1) := dk_42 (dk_at dksX1_feed_1 20 rfl rfl)
theorem dX1_feed_43 : decode cX1_feed 43 = .ok (.getfield 87, 3) := dk_180 0 87 (dk_at dksX1_feed_1 21 rfl rfl)
theorem dX1_feed_46 : decode cX1_feed 46 = .ok (.ireturn, 1) := dk_172 (dk_at dksX1_feed_2 0 rfl rfl)
abbrev cX1_bytes : ByteArray := prog_1_method_10_code
def yX1_bytes : MethodName := ⟨RX1, "bytes", "(I)V"⟩
def dkwX1_bytes_1 : List UInt8 := [180, 0, 87, 4, 96, 181, 0, 87, 132, 2, 248, 167, 255, 226, 177]
abbrev dktX1_bytes_1 : List UInt8 := dkwX1_bytes_1 ++ []
def dkwX1_bytes_0 : List UInt8 := [16, 24, 61, 28, 155, 0, 32, 42, 180, 0, 9, 42, 180, 0, 87, 27, 28, 122, 145, 84, 42, 89]
abbrev dktX1_bytes_0 : List UInt8 := dkwX1_bytes_0 ++ dktX1_bytes_1
theorem dksX1_bytes_0 : cX1_bytes.data.toList.drop 0 = dktX1_bytes_0 := by decide +kernel
theorem dksX1_bytes_1 : cX1_bytes.data.toList.drop 22 = dktX1_bytes_1 := dk_seg dksX1_bytes_0 22 rfl rfl
theorem dX1_bytes_0 : decode cX1_bytes 0 = .ok (.bipush 24, 2) := dk_16 24 (dk_at dksX1_bytes_0 0 rfl rfl)
theorem dX1_bytes_2 : decode cX1_bytes 2 = .ok (.istore_n 2, 1) := dk_61 (dk_at dksX1_bytes_0 2 rfl rfl)
theorem dX1_bytes_3 : decode cX1_bytes 3 = .ok (.iload_n 2, 1) := dk_28 (dk_at dksX1_bytes_0 3 rfl rfl)
theorem dX1_bytes_4 : decode cX1_bytes 4 = .ok (.ifCond .lt 32, 3) := dk_155 0 32 (dk_at dksX1_bytes_0 4 rfl rfl)
theorem dX1_bytes_7 : decode cX1_bytes 7 = .ok (.aload_n 0, 1) := dk_42 (dk_at dksX1_bytes_0 7 rfl rfl)
theorem dX1_bytes_8 : decode cX1_bytes 8 = .ok (.getfield 9, 3) := dk_180 0 9 (dk_at dksX1_bytes_0 8 rfl rfl)
theorem dX1_bytes_11 : decode cX1_bytes 11 = .ok (.aload_n 0, 1) := dk_42 (dk_at dksX1_bytes_0 11 rfl rfl)
theorem dX1_bytes_12 : decode cX1_bytes 12 = .ok (.getfield 87, 3) := dk_180 0 87 (dk_at dksX1_bytes_0 12 rfl rfl)
theorem dX1_bytes_15 : decode cX1_bytes 15 = .ok (.iload_n 1, 1) := dk_27 (dk_at dksX1_bytes_0 15 rfl rfl)
theorem dX1_bytes_16 : decode cX1_bytes 16 = .ok (.iload_n 2, 1) := dk_28 (dk_at dksX1_bytes_0 16 rfl rfl)
theorem dX1_bytes_17 : decode cX1_bytes 17 = .ok (.ishr, 1) := dk_122 (dk_at dksX1_bytes_0 17 rfl rfl)
theorem dX1_bytes_18 : decode cX1_bytes 18 = .ok (.i2b, 1) := dk_145 (dk_at dksX1_bytes_0 18 rfl rfl)
theorem dX1_bytes_19 : decode cX1_bytes 19 = .ok (.bastore, 1) := dk_84 (dk_at dksX1_bytes_0 19 rfl rfl)
theorem dX1_bytes_20 : decode cX1_bytes 20 = .ok (.aload_n 0, 1) := dk_42 (dk_at dksX1_bytes_0 20 rfl rfl)
theorem dX1_bytes_21 : decode cX1_bytes 21 = .ok (.dup, 1) := dk_89 (dk_at dksX1_bytes_0 21 rfl rfl)
theorem dX1_bytes_22 : decode cX1_bytes 22 = .ok (.getfield 87, 3) := dk_180 0 87 (dk_at dksX1_bytes_1 0 rfl rfl)
theorem dX1_bytes_25 : decode cX1_bytes 25 = .ok (.iconst 1, 1) := dk_4 (dk_at dksX1_bytes_1 3 rfl rfl)
theorem dX1_bytes_26 : decode cX1_bytes 26 = .ok (.iadd, 1) := dk_96 (dk_at dksX1_bytes_1 4 rfl rfl)
theorem dX1_bytes_27 : decode cX1_bytes 27 = .ok (.putfield 87, 3) := dk_181 0 87 (dk_at dksX1_bytes_1 5 rfl rfl)
theorem dX1_bytes_30 : decode cX1_bytes 30 = .ok (.iinc 2 (-8), 3) := dk_132 2 248 (dk_at dksX1_bytes_1 8 rfl rfl)
theorem dX1_bytes_33 : decode cX1_bytes 33 = .ok (.goto (-30), 3) := dk_167 255 226 (dk_at dksX1_bytes_1 11 rfl rfl)
theorem dX1_bytes_36 : decode cX1_bytes 36 = .ok (.return_, 1) := dk_177 (dk_at dksX1_bytes_1 14 rfl rfl)
abbrev cX1_valley : ByteArray := prog_1_method_11_code
def yX1_valley : MethodName := ⟨RX1, "valley", "(I)I"⟩
def dkwX1_valley_7 : List UInt8 := [182, 0, 147, 42, 180, 0, 109, 180, 0, 137, 172]
abbrev dktX1_valley_7 : List UInt8 := dkwX1_valley_7 ++ []
def dkwX1_valley_6 : List UInt8 := [180, 0, 39, 28, 42, 180, 0, 109, 180, 0, 140, 28, 50, 180, 0, 144, 79, 132, 2, 1, 167, 255, 224, 42]
abbrev dktX1_valley_6 : List UInt8 := dkwX1_valley_6 ++ dktX1_valley_7
def dkwX1_valley_5 : List UInt8 := [181, 0, 134, 42, 2, 181, 0, 71, 3, 61, 28, 42, 180, 0, 109, 180, 0, 137, 162, 0, 27, 42]
abbrev dktX1_valley_5 : List UInt8 := dkwX1_valley_5 ++ dktX1_valley_6
def dkwX1_valley_4 : List UInt8 := [180, 0, 109, 42, 180, 0, 109, 180, 0, 128, 3, 3, 182, 0, 124, 42, 3, 181, 0, 131, 42, 3]
abbrev dktX1_valley_4 : List UInt8 := dkwX1_valley_4 ++ dktX1_valley_5
def dkwX1_valley_3 : List UInt8 := [180, 0, 29, 42, 180, 0, 109, 42, 180, 0, 109, 180, 0, 119, 3, 3, 182, 0, 124, 42, 180, 0, 33, 42]
abbrev dktX1_valley_3 : List UInt8 := dkwX1_valley_3 ++ dktX1_valley_4
def dkwX1_valley_2 : List UInt8 := [42, 44, 180, 0, 115, 181, 0, 102, 42, 44, 180, 0, 116, 181, 0, 22, 42, 7, 182, 0, 98, 172, 42]
abbrev dktX1_valley_2 : List UInt8 := dkwX1_valley_2 ++ dktX1_valley_3
def dkwX1_valley_1 : List UInt8 := [181, 0, 87, 42, 3, 181, 0, 102, 42, 42, 180, 0, 18, 27, 182, 0, 105, 181, 0, 109, 167, 0, 26, 77]
abbrev dktX1_valley_1 : List UInt8 := dkwX1_valley_1 ++ dktX1_valley_2
def dkwX1_valley_0 : List UInt8 := [42, 182, 0, 84, 27, 3, 42, 180, 0, 87, 184, 0, 94, 154, 0, 9, 42, 5, 182, 0, 98, 172, 42, 3]
abbrev dktX1_valley_0 : List UInt8 := dkwX1_valley_0 ++ dktX1_valley_1
theorem dksX1_valley_0 : cX1_valley.data.toList.drop 0 = dktX1_valley_0 := by decide +kernel
theorem dksX1_valley_1 : cX1_valley.data.toList.drop 24 = dktX1_valley_1 := dk_seg dksX1_valley_0 24 rfl rfl
theorem dksX1_valley_2 : cX1_valley.data.toList.drop 48 = dktX1_valley_2 := dk_seg dksX1_valley_1 24 rfl rfl
theorem dksX1_valley_3 : cX1_valley.data.toList.drop 71 = dktX1_valley_3 := dk_seg dksX1_valley_2 23 rfl rfl
theorem dksX1_valley_4 : cX1_valley.data.toList.drop 95 = dktX1_valley_4 := dk_seg dksX1_valley_3 24 rfl rfl
theorem dksX1_valley_5 : cX1_valley.data.toList.drop 117 = dktX1_valley_5 := dk_seg dksX1_valley_4 22 rfl rfl
theorem dksX1_valley_6 : cX1_valley.data.toList.drop 139 = dktX1_valley_6 := dk_seg dksX1_valley_5 22 rfl rfl
theorem dksX1_valley_7 : cX1_valley.data.toList.drop 163 = dktX1_valley_7 := dk_seg dksX1_valley_6 24 rfl rfl
theorem dX1_valley_0 : decode cX1_valley 0 = .ok (.aload_n 0, 1) := dk_42 (dk_at dksX1_valley_0 0 rfl rfl)
theorem dX1_valley_1 : decode cX1_valley 1 = .ok (.invokevirtual 84, 3) := dk_182 0 84 (dk_at dksX1_valley_0 1 rfl rfl)
theorem dX1_valley_4 : decode cX1_valley 4 = .ok (.iload_n 1, 1) := dk_27 (dk_at dksX1_valley_0 4 rfl rfl)
theorem dX1_valley_5 : decode cX1_valley 5 = .ok (.iconst 0, 1) := dk_3 (dk_at dksX1_valley_0 5 rfl rfl)
theorem dX1_valley_6 : decode cX1_valley 6 = .ok (.aload_n 0, 1) := dk_42 (dk_at dksX1_valley_0 6 rfl rfl)
theorem dX1_valley_7 : decode cX1_valley 7 = .ok (.getfield 87, 3) := dk_180 0 87 (dk_at dksX1_valley_0 7 rfl rfl)
theorem dX1_valley_10 : decode cX1_valley 10 = .ok (.invokestatic 94, 3) := dk_184 0 94 (dk_at dksX1_valley_0 10 rfl rfl)
theorem dX1_valley_13 : decode cX1_valley 13 = .ok (.ifCond .ne 9, 3) := dk_154 0 9 (dk_at dksX1_valley_0 13 rfl rfl)
theorem dX1_valley_16 : decode cX1_valley 16 = .ok (.aload_n 0, 1) := dk_42 (dk_at dksX1_valley_0 16 rfl rfl)
theorem dX1_valley_17 : decode cX1_valley 17 = .ok (.iconst 2, 1) := dk_5 (dk_at dksX1_valley_0 17 rfl rfl)
theorem dX1_valley_18 : decode cX1_valley 18 = .ok (.invokevirtual 98, 3) := dk_182 0 98 (dk_at dksX1_valley_0 18 rfl rfl)
theorem dX1_valley_21 : decode cX1_valley 21 = .ok (.ireturn, 1) := dk_172 (dk_at dksX1_valley_0 21 rfl rfl)
theorem dX1_valley_22 : decode cX1_valley 22 = .ok (.aload_n 0, 1) := dk_42 (dk_at dksX1_valley_0 22 rfl rfl)
theorem dX1_valley_23 : decode cX1_valley 23 = .ok (.iconst 0, 1) := dk_3 (dk_at dksX1_valley_0 23 rfl rfl)
theorem dX1_valley_24 : decode cX1_valley 24 = .ok (.putfield 87, 3) := dk_181 0 87 (dk_at dksX1_valley_1 0 rfl rfl)
theorem dX1_valley_27 : decode cX1_valley 27 = .ok (.aload_n 0, 1) := dk_42 (dk_at dksX1_valley_1 3 rfl rfl)
theorem dX1_valley_28 : decode cX1_valley 28 = .ok (.iconst 0, 1) := dk_3 (dk_at dksX1_valley_1 4 rfl rfl)
theorem dX1_valley_29 : decode cX1_valley 29 = .ok (.putfield 102, 3) := dk_181 0 102 (dk_at dksX1_valley_1 5 rfl rfl)
theorem dX1_valley_32 : decode cX1_valley 32 = .ok (.aload_n 0, 1) := dk_42 (dk_at dksX1_valley_1 8 rfl rfl)
theorem dX1_valley_33 : decode cX1_valley 33 = .ok (.aload_n 0, 1) := dk_42 (dk_at dksX1_valley_1 9 rfl rfl)
theorem dX1_valley_34 : decode cX1_valley 34 = .ok (.getfield 18, 3) := dk_180 0 18 (dk_at dksX1_valley_1 10 rfl rfl)
theorem dX1_valley_37 : decode cX1_valley 37 = .ok (.iload_n 1, 1) := dk_27 (dk_at dksX1_valley_1 13 rfl rfl)
theorem dX1_valley_38 : decode cX1_valley 38 = .ok (.invokevirtual 105, 3) := dk_182 0 105 (dk_at dksX1_valley_1 14 rfl rfl)
theorem dX1_valley_41 : decode cX1_valley 41 = .ok (.putfield 109, 3) := dk_181 0 109 (dk_at dksX1_valley_1 17 rfl rfl)
theorem dX1_valley_44 : decode cX1_valley 44 = .ok (.goto 26, 3) := dk_167 0 26 (dk_at dksX1_valley_1 20 rfl rfl)
theorem dX1_valley_47 : decode cX1_valley 47 = .ok (.astore_n 2, 1) := dk_77 (dk_at dksX1_valley_1 23 rfl rfl)
theorem dX1_valley_48 : decode cX1_valley 48 = .ok (.aload_n 0, 1) := dk_42 (dk_at dksX1_valley_2 0 rfl rfl)
theorem dX1_valley_49 : decode cX1_valley 49 = .ok (.aload_n 2, 1) := dk_44 (dk_at dksX1_valley_2 1 rfl rfl)
theorem dX1_valley_50 : decode cX1_valley 50 = .ok (.getfield 115, 3) := dk_180 0 115 (dk_at dksX1_valley_2 2 rfl rfl)
theorem dX1_valley_53 : decode cX1_valley 53 = .ok (.putfield 102, 3) := dk_181 0 102 (dk_at dksX1_valley_2 5 rfl rfl)
theorem dX1_valley_56 : decode cX1_valley 56 = .ok (.aload_n 0, 1) := dk_42 (dk_at dksX1_valley_2 8 rfl rfl)
theorem dX1_valley_57 : decode cX1_valley 57 = .ok (.aload_n 2, 1) := dk_44 (dk_at dksX1_valley_2 9 rfl rfl)
theorem dX1_valley_58 : decode cX1_valley 58 = .ok (.getfield 116, 3) := dk_180 0 116 (dk_at dksX1_valley_2 10 rfl rfl)
theorem dX1_valley_61 : decode cX1_valley 61 = .ok (.putfield 22, 3) := dk_181 0 22 (dk_at dksX1_valley_2 13 rfl rfl)
theorem dX1_valley_64 : decode cX1_valley 64 = .ok (.aload_n 0, 1) := dk_42 (dk_at dksX1_valley_2 16 rfl rfl)
theorem dX1_valley_65 : decode cX1_valley 65 = .ok (.iconst 4, 1) := dk_7 (dk_at dksX1_valley_2 17 rfl rfl)
theorem dX1_valley_66 : decode cX1_valley 66 = .ok (.invokevirtual 98, 3) := dk_182 0 98 (dk_at dksX1_valley_2 18 rfl rfl)
theorem dX1_valley_69 : decode cX1_valley 69 = .ok (.ireturn, 1) := dk_172 (dk_at dksX1_valley_2 21 rfl rfl)
theorem dX1_valley_70 : decode cX1_valley 70 = .ok (.aload_n 0, 1) := dk_42 (dk_at dksX1_valley_2 22 rfl rfl)
theorem dX1_valley_71 : decode cX1_valley 71 = .ok (.getfield 29, 3) := dk_180 0 29 (dk_at dksX1_valley_3 0 rfl rfl)
theorem dX1_valley_74 : decode cX1_valley 74 = .ok (.aload_n 0, 1) := dk_42 (dk_at dksX1_valley_3 3 rfl rfl)
theorem dX1_valley_75 : decode cX1_valley 75 = .ok (.getfield 109, 3) := dk_180 0 109 (dk_at dksX1_valley_3 4 rfl rfl)
theorem dX1_valley_78 : decode cX1_valley 78 = .ok (.aload_n 0, 1) := dk_42 (dk_at dksX1_valley_3 7 rfl rfl)
theorem dX1_valley_79 : decode cX1_valley 79 = .ok (.getfield 109, 3) := dk_180 0 109 (dk_at dksX1_valley_3 8 rfl rfl)
theorem dX1_valley_82 : decode cX1_valley 82 = .ok (.getfield 119, 3) := dk_180 0 119 (dk_at dksX1_valley_3 11 rfl rfl)
theorem dX1_valley_85 : decode cX1_valley 85 = .ok (.iconst 0, 1) := dk_3 (dk_at dksX1_valley_3 14 rfl rfl)
theorem dX1_valley_86 : decode cX1_valley 86 = .ok (.iconst 0, 1) := dk_3 (dk_at dksX1_valley_3 15 rfl rfl)
theorem dX1_valley_87 : decode cX1_valley 87 = .ok (.invokevirtual 124, 3) := dk_182 0 124 (dk_at dksX1_valley_3 16 rfl rfl)
theorem dX1_valley_90 : decode cX1_valley 90 = .ok (.aload_n 0, 1) := dk_42 (dk_at dksX1_valley_3 19 rfl rfl)
theorem dX1_valley_91 : decode cX1_valley 91 = .ok (.getfield 33, 3) := dk_180 0 33 (dk_at dksX1_valley_3 20 rfl rfl)
theorem dX1_valley_94 : decode cX1_valley 94 = .ok (.aload_n 0, 1) := dk_42 (dk_at dksX1_valley_3 23 rfl rfl)
theorem dX1_valley_95 : decode cX1_valley 95 = .ok (.getfield 109, 3) := dk_180 0 109 (dk_at dksX1_valley_4 0 rfl rfl)
theorem dX1_valley_98 : decode cX1_valley 98 = .ok (.aload_n 0, 1) := dk_42 (dk_at dksX1_valley_4 3 rfl rfl)
theorem dX1_valley_99 : decode cX1_valley 99 = .ok (.getfield 109, 3) := dk_180 0 109 (dk_at dksX1_valley_4 4 rfl rfl)
theorem dX1_valley_102 : decode cX1_valley 102 = .ok (.getfield 128, 3) := dk_180 0 128 (dk_at dksX1_valley_4 7 rfl rfl)
theorem dX1_valley_105 : decode cX1_valley 105 = .ok (.iconst 0, 1) := dk_3 (dk_at dksX1_valley_4 10 rfl rfl)
theorem dX1_valley_106 : decode cX1_valley 106 = .ok (.iconst 0, 1) := dk_3 (dk_at dksX1_valley_4 11 rfl rfl)
theorem dX1_valley_107 : decode cX1_valley 107 = .ok (.invokevirtual 124, 3) := dk_182 0 124 (dk_at dksX1_valley_4 12 rfl rfl)
theorem dX1_valley_110 : decode cX1_valley 110 = .ok (.aload_n 0, 1) := dk_42 (dk_at dksX1_valley_4 15 rfl rfl)
theorem dX1_valley_111 : decode cX1_valley 111 = .ok (.iconst 0, 1) := dk_3 (dk_at dksX1_valley_4 16 rfl rfl)
theorem dX1_valley_112 : decode cX1_valley 112 = .ok (.putfield 131, 3) := dk_181 0 131 (dk_at dksX1_valley_4 17 rfl rfl)
theorem dX1_valley_115 : decode cX1_valley 115 = .ok (.aload_n 0, 1) := dk_42 (dk_at dksX1_valley_4 20 rfl rfl)
theorem dX1_valley_116 : decode cX1_valley 116 = .ok (.iconst 0, 1) := dk_3 (dk_at dksX1_valley_4 21 rfl rfl)
theorem dX1_valley_117 : decode cX1_valley 117 = .ok (.putfield 134, 3) := dk_181 0 134 (dk_at dksX1_valley_5 0 rfl rfl)
theorem dX1_valley_120 : decode cX1_valley 120 = .ok (.aload_n 0, 1) := dk_42 (dk_at dksX1_valley_5 3 rfl rfl)
theorem dX1_valley_121 : decode cX1_valley 121 = .ok (.iconst (-1), 1) := dk_2 (dk_at dksX1_valley_5 4 rfl rfl)
theorem dX1_valley_122 : decode cX1_valley 122 = .ok (.putfield 71, 3) := dk_181 0 71 (dk_at dksX1_valley_5 5 rfl rfl)
theorem dX1_valley_125 : decode cX1_valley 125 = .ok (.iconst 0, 1) := dk_3 (dk_at dksX1_valley_5 8 rfl rfl)
theorem dX1_valley_126 : decode cX1_valley 126 = .ok (.istore_n 2, 1) := dk_61 (dk_at dksX1_valley_5 9 rfl rfl)
theorem dX1_valley_127 : decode cX1_valley 127 = .ok (.iload_n 2, 1) := dk_28 (dk_at dksX1_valley_5 10 rfl rfl)
theorem dX1_valley_128 : decode cX1_valley 128 = .ok (.aload_n 0, 1) := dk_42 (dk_at dksX1_valley_5 11 rfl rfl)
theorem dX1_valley_129 : decode cX1_valley 129 = .ok (.getfield 109, 3) := dk_180 0 109 (dk_at dksX1_valley_5 12 rfl rfl)
theorem dX1_valley_132 : decode cX1_valley 132 = .ok (.getfield 137, 3) := dk_180 0 137 (dk_at dksX1_valley_5 15 rfl rfl)
theorem dX1_valley_135 : decode cX1_valley 135 = .ok (.if_icmp .ge 27, 3) := dk_162 0 27 (dk_at dksX1_valley_5 18 rfl rfl)
theorem dX1_valley_138 : decode cX1_valley 138 = .ok (.aload_n 0, 1) := dk_42 (dk_at dksX1_valley_5 21 rfl rfl)
theorem dX1_valley_139 : decode cX1_valley 139 = .ok (.getfield 39, 3) := dk_180 0 39 (dk_at dksX1_valley_6 0 rfl rfl)
theorem dX1_valley_142 : decode cX1_valley 142 = .ok (.iload_n 2, 1) := dk_28 (dk_at dksX1_valley_6 3 rfl rfl)
theorem dX1_valley_143 : decode cX1_valley 143 = .ok (.aload_n 0, 1) := dk_42 (dk_at dksX1_valley_6 4 rfl rfl)
theorem dX1_valley_144 : decode cX1_valley 144 = .ok (.getfield 109, 3) := dk_180 0 109 (dk_at dksX1_valley_6 5 rfl rfl)
theorem dX1_valley_147 : decode cX1_valley 147 = .ok (.getfield 140, 3) := dk_180 0 140 (dk_at dksX1_valley_6 8 rfl rfl)
theorem dX1_valley_150 : decode cX1_valley 150 = .ok (.iload_n 2, 1) := dk_28 (dk_at dksX1_valley_6 11 rfl rfl)
theorem dX1_valley_151 : decode cX1_valley 151 = .ok (.aaload, 1) := dk_50 (dk_at dksX1_valley_6 12 rfl rfl)
theorem dX1_valley_152 : decode cX1_valley 152 = .ok (.getfield 144, 3) := dk_180 0 144 (dk_at dksX1_valley_6 13 rfl rfl)
theorem dX1_valley_155 : decode cX1_valley 155 = .ok (.iastore, 1) := dk_79 (dk_at dksX1_valley_6 16 rfl rfl)
theorem dX1_valley_156 : decode cX1_valley 156 = .ok (.iinc 2 1, 3) := dk_132 2 1 (dk_at dksX1_valley_6 17 rfl rfl)
theorem dX1_valley_159 : decode cX1_valley 159 = .ok (.goto (-32), 3) := dk_167 255 224 (dk_at dksX1_valley_6 20 rfl rfl)
theorem dX1_valley_162 : decode cX1_valley 162 = .ok (.aload_n 0, 1) := dk_42 (dk_at dksX1_valley_6 23 rfl rfl)
theorem dX1_valley_163 : decode cX1_valley 163 = .ok (.invokevirtual 147, 3) := dk_182 0 147 (dk_at dksX1_valley_7 0 rfl rfl)
theorem dX1_valley_166 : decode cX1_valley 166 = .ok (.aload_n 0, 1) := dk_42 (dk_at dksX1_valley_7 3 rfl rfl)
theorem dX1_valley_167 : decode cX1_valley 167 = .ok (.getfield 109, 3) := dk_180 0 109 (dk_at dksX1_valley_7 4 rfl rfl)
theorem dX1_valley_170 : decode cX1_valley 170 = .ok (.getfield 137, 3) := dk_180 0 137 (dk_at dksX1_valley_7 7 rfl rfl)
theorem dX1_valley_173 : decode cX1_valley 173 = .ok (.ireturn, 1) := dk_172 (dk_at dksX1_valley_7 10 rfl rfl)
abbrev cX1_anew : ByteArray := prog_1_method_6_code
def yX1_anew : MethodName := ⟨RX1, "anew", "()V"⟩
def dkwX1_anew_0 : List UInt8 := [42, 3, 181, 0, 81, 42, 2, 181, 0, 22, 177]
abbrev dktX1_anew_0 : List UInt8 := dkwX1_anew_0 ++ []
theorem dksX1_anew_0 : cX1_anew.data.toList.drop 0 = dktX1_anew_0 := by decide +kernel
theorem dX1_anew_0 : decode cX1_anew 0 = .ok (.aload_n 0, 1) := dk_42 (dk_at dksX1_anew_0 0 rfl rfl)
theorem dX1_anew_1 : decode cX1_anew 1 = .ok (.iconst 0, 1) := dk_3 (dk_at dksX1_anew_0 1 rfl rfl)
theorem dX1_anew_2 : decode cX1_anew 2 = .ok (.putfield 81, 3) := dk_181 0 81 (dk_at dksX1_anew_0 2 rfl rfl)
theorem dX1_anew_5 : decode cX1_anew 5 = .ok (.aload_n 0, 1) := dk_42 (dk_at dksX1_anew_0 5 rfl rfl)
theorem dX1_anew_6 : decode cX1_anew 6 = .ok (.iconst (-1), 1) := dk_2 (dk_at dksX1_anew_0 6 rfl rfl)
theorem dX1_anew_7 : decode cX1_anew 7 = .ok (.putfield 22, 3) := dk_181 0 22 (dk_at dksX1_anew_0 7 rfl rfl)
theorem dX1_anew_10 : decode cX1_anew 10 = .ok (.return_, 1) := dk_177 (dk_at dksX1_anew_0 10 rfl rfl)
abbrev cX1_in : ByteArray := prog_1_method_1_code
def yX1_in : MethodName := ⟨RX1, "in", "(III)Z"⟩
def dkwX1_in_0 : List UInt8 := [26, 27, 161, 0, 12, 26, 28, 163, 0, 7, 4, 167, 0, 4, 3, 172]
abbrev dktX1_in_0 : List UInt8 := dkwX1_in_0 ++ []
theorem dksX1_in_0 : cX1_in.data.toList.drop 0 = dktX1_in_0 := by decide +kernel
theorem dX1_in_0 : decode cX1_in 0 = .ok (.iload_n 0, 1) := dk_26 (dk_at dksX1_in_0 0 rfl rfl)
theorem dX1_in_1 : decode cX1_in 1 = .ok (.iload_n 1, 1) := dk_27 (dk_at dksX1_in_0 1 rfl rfl)
theorem dX1_in_2 : decode cX1_in 2 = .ok (.if_icmp .lt 12, 3) := dk_161 0 12 (dk_at dksX1_in_0 2 rfl rfl)
theorem dX1_in_5 : decode cX1_in 5 = .ok (.iload_n 0, 1) := dk_26 (dk_at dksX1_in_0 5 rfl rfl)
theorem dX1_in_6 : decode cX1_in 6 = .ok (.iload_n 2, 1) := dk_28 (dk_at dksX1_in_0 6 rfl rfl)
theorem dX1_in_7 : decode cX1_in 7 = .ok (.if_icmp .gt 7, 3) := dk_163 0 7 (dk_at dksX1_in_0 7 rfl rfl)
theorem dX1_in_10 : decode cX1_in 10 = .ok (.iconst 1, 1) := dk_4 (dk_at dksX1_in_0 10 rfl rfl)
theorem dX1_in_11 : decode cX1_in 11 = .ok (.goto 4, 3) := dk_167 0 4 (dk_at dksX1_in_0 11 rfl rfl)
theorem dX1_in_14 : decode cX1_in 14 = .ok (.iconst 0, 1) := dk_3 (dk_at dksX1_in_0 14 rfl rfl)
theorem dX1_in_15 : decode cX1_in 15 = .ok (.ireturn, 1) := dk_172 (dk_at dksX1_in_0 15 rfl rfl)
abbrev cX1_no : ByteArray := prog_1_method_7_code
def yX1_no : MethodName := ⟨RX1, "no", "(I)I"⟩
def dkwX1_no_0 : List UInt8 := [42, 27, 181, 0, 81, 2, 172]
abbrev dktX1_no_0 : List UInt8 := dkwX1_no_0 ++ []
theorem dksX1_no_0 : cX1_no.data.toList.drop 0 = dktX1_no_0 := by decide +kernel
theorem dX1_no_0 : decode cX1_no 0 = .ok (.aload_n 0, 1) := dk_42 (dk_at dksX1_no_0 0 rfl rfl)
theorem dX1_no_1 : decode cX1_no 1 = .ok (.iload_n 1, 1) := dk_27 (dk_at dksX1_no_0 1 rfl rfl)
theorem dX1_no_2 : decode cX1_no 2 = .ok (.putfield 81, 3) := dk_181 0 81 (dk_at dksX1_no_0 2 rfl rfl)
theorem dX1_no_5 : decode cX1_no 5 = .ok (.iconst (-1), 1) := dk_2 (dk_at dksX1_no_0 5 rfl rfl)
theorem dX1_no_6 : decode cX1_no 6 = .ok (.ireturn, 1) := dk_172 (dk_at dksX1_no_0 6 rfl rfl)
abbrev cX1_lies : ByteArray := prog_1_method_2_code
def yX1_lies : MethodName := ⟨RX1, "lies", "(II)Z"⟩
def dkwX1_lies_0 : List UInt8 := [26, 27, 122, 4, 126, 4, 160, 0, 7, 4, 167, 0, 4, 3, 172]
abbrev dktX1_lies_0 : List UInt8 := dkwX1_lies_0 ++ []
theorem dksX1_lies_0 : cX1_lies.data.toList.drop 0 = dktX1_lies_0 := by decide +kernel
theorem dX1_lies_0 : decode cX1_lies 0 = .ok (.iload_n 0, 1) := dk_26 (dk_at dksX1_lies_0 0 rfl rfl)
theorem dX1_lies_1 : decode cX1_lies 1 = .ok (.iload_n 1, 1) := dk_27 (dk_at dksX1_lies_0 1 rfl rfl)
theorem dX1_lies_2 : decode cX1_lies 2 = .ok (.ishr, 1) := dk_122 (dk_at dksX1_lies_0 2 rfl rfl)
theorem dX1_lies_3 : decode cX1_lies 3 = .ok (.iconst 1, 1) := dk_4 (dk_at dksX1_lies_0 3 rfl rfl)
theorem dX1_lies_4 : decode cX1_lies 4 = .ok (.iand, 1) := dk_126 (dk_at dksX1_lies_0 4 rfl rfl)
theorem dX1_lies_5 : decode cX1_lies 5 = .ok (.iconst 1, 1) := dk_4 (dk_at dksX1_lies_0 5 rfl rfl)
theorem dX1_lies_6 : decode cX1_lies 6 = .ok (.if_icmp .ne 7, 3) := dk_160 0 7 (dk_at dksX1_lies_0 6 rfl rfl)
theorem dX1_lies_9 : decode cX1_lies 9 = .ok (.iconst 1, 1) := dk_4 (dk_at dksX1_lies_0 9 rfl rfl)
theorem dX1_lies_10 : decode cX1_lies 10 = .ok (.goto 4, 3) := dk_167 0 4 (dk_at dksX1_lies_0 10 rfl rfl)
theorem dX1_lies_13 : decode cX1_lies 13 = .ok (.iconst 0, 1) := dk_3 (dk_at dksX1_lies_0 13 rfl rfl)
theorem dX1_lies_14 : decode cX1_lies 14 = .ok (.ireturn, 1) := dk_172 (dk_at dksX1_lies_0 14 rfl rfl)
abbrev cX1_without : ByteArray := prog_1_method_4_code
def yX1_without : MethodName := ⟨RX1, "without", "(I)I"⟩
def dkwX1_without_0 : List UInt8 := [26, 156, 0, 8, 26, 116, 167, 0, 4, 26, 172]
abbrev dktX1_without_0 : List UInt8 := dkwX1_without_0 ++ []
theorem dksX1_without_0 : cX1_without.data.toList.drop 0 = dktX1_without_0 := by decide +kernel
theorem dX1_without_0 : decode cX1_without 0 = .ok (.iload_n 0, 1) := dk_26 (dk_at dksX1_without_0 0 rfl rfl)
theorem dX1_without_1 : decode cX1_without 1 = .ok (.ifCond .ge 8, 3) := dk_156 0 8 (dk_at dksX1_without_0 1 rfl rfl)
theorem dX1_without_4 : decode cX1_without 4 = .ok (.iload_n 0, 1) := dk_26 (dk_at dksX1_without_0 4 rfl rfl)
theorem dX1_without_5 : decode cX1_without 5 = .ok (.ineg, 1) := dk_116 (dk_at dksX1_without_0 5 rfl rfl)
theorem dX1_without_6 : decode cX1_without 6 = .ok (.goto 4, 3) := dk_167 0 4 (dk_at dksX1_without_0 6 rfl rfl)
theorem dX1_without_9 : decode cX1_without 9 = .ok (.iload_n 0, 1) := dk_26 (dk_at dksX1_without_0 9 rfl rfl)
theorem dX1_without_10 : decode cX1_without 10 = .ok (.ireturn, 1) := dk_172 (dk_at dksX1_without_0 10 rfl rfl)
abbrev cX1_asTold : ByteArray := prog_1_method_12_code
def yX1_asTold : MethodName := ⟨RX1, "asTold", "()V"⟩
def dkwX1_asTold_2 : List UInt8 := [132, 2, 1, 167, 255, 224, 132, 1, 1, 167, 255, 205, 177]
abbrev dktX1_asTold_2 : List UInt8 := dkwX1_asTold_2 ++ []
def dkwX1_asTold_1 : List UInt8 := [180, 0, 46, 16, 100, 27, 104, 28, 96, 42, 180, 0, 109, 180, 0, 140, 27, 50, 180, 0, 144, 79]
abbrev dktX1_asTold_1 : List UInt8 := dkwX1_asTold_1 ++ dktX1_asTold_2
def dkwX1_asTold_0 : List UInt8 := [3, 60, 27, 42, 180, 0, 109, 180, 0, 137, 162, 0, 46, 3, 61, 28, 16, 100, 162, 0, 32, 42]
abbrev dktX1_asTold_0 : List UInt8 := dkwX1_asTold_0 ++ dktX1_asTold_1
theorem dksX1_asTold_0 : cX1_asTold.data.toList.drop 0 = dktX1_asTold_0 := by decide +kernel
theorem dksX1_asTold_1 : cX1_asTold.data.toList.drop 22 = dktX1_asTold_1 := dk_seg dksX1_asTold_0 22 rfl rfl
theorem dksX1_asTold_2 : cX1_asTold.data.toList.drop 44 = dktX1_asTold_2 := dk_seg dksX1_asTold_1 22 rfl rfl
theorem dX1_asTold_0 : decode cX1_asTold 0 = .ok (.iconst 0, 1) := dk_3 (dk_at dksX1_asTold_0 0 rfl rfl)
theorem dX1_asTold_1 : decode cX1_asTold 1 = .ok (.istore_n 1, 1) := dk_60 (dk_at dksX1_asTold_0 1 rfl rfl)
theorem dX1_asTold_2 : decode cX1_asTold 2 = .ok (.iload_n 1, 1) := dk_27 (dk_at dksX1_asTold_0 2 rfl rfl)
theorem dX1_asTold_3 : decode cX1_asTold 3 = .ok (.aload_n 0, 1) := dk_42 (dk_at dksX1_asTold_0 3 rfl rfl)
theorem dX1_asTold_4 : decode cX1_asTold 4 = .ok (.getfield 109, 3) := dk_180 0 109 (dk_at dksX1_asTold_0 4 rfl rfl)
theorem dX1_asTold_7 : decode cX1_asTold 7 = .ok (.getfield 137, 3) := dk_180 0 137 (dk_at dksX1_asTold_0 7 rfl rfl)
theorem dX1_asTold_10 : decode cX1_asTold 10 = .ok (.if_icmp .ge 46, 3) := dk_162 0 46 (dk_at dksX1_asTold_0 10 rfl rfl)
theorem dX1_asTold_13 : decode cX1_asTold 13 = .ok (.iconst 0, 1) := dk_3 (dk_at dksX1_asTold_0 13 rfl rfl)
theorem dX1_asTold_14 : decode cX1_asTold 14 = .ok (.istore_n 2, 1) := dk_61 (dk_at dksX1_asTold_0 14 rfl rfl)
theorem dX1_asTold_15 : decode cX1_asTold 15 = .ok (.iload_n 2, 1) := dk_28 (dk_at dksX1_asTold_0 15 rfl rfl)
theorem dX1_asTold_16 : decode cX1_asTold 16 = .ok (.bipush 100, 2) := dk_16 100 (dk_at dksX1_asTold_0 16 rfl rfl)
theorem dX1_asTold_18 : decode cX1_asTold 18 = .ok (.if_icmp .ge 32, 3) := dk_162 0 32 (dk_at dksX1_asTold_0 18 rfl rfl)
theorem dX1_asTold_21 : decode cX1_asTold 21 = .ok (.aload_n 0, 1) := dk_42 (dk_at dksX1_asTold_0 21 rfl rfl)
theorem dX1_asTold_22 : decode cX1_asTold 22 = .ok (.getfield 46, 3) := dk_180 0 46 (dk_at dksX1_asTold_1 0 rfl rfl)
theorem dX1_asTold_25 : decode cX1_asTold 25 = .ok (.bipush 100, 2) := dk_16 100 (dk_at dksX1_asTold_1 3 rfl rfl)
theorem dX1_asTold_27 : decode cX1_asTold 27 = .ok (.iload_n 1, 1) := dk_27 (dk_at dksX1_asTold_1 5 rfl rfl)
theorem dX1_asTold_28 : decode cX1_asTold 28 = .ok (.imul, 1) := dk_104 (dk_at dksX1_asTold_1 6 rfl rfl)
theorem dX1_asTold_29 : decode cX1_asTold 29 = .ok (.iload_n 2, 1) := dk_28 (dk_at dksX1_asTold_1 7 rfl rfl)
theorem dX1_asTold_30 : decode cX1_asTold 30 = .ok (.iadd, 1) := dk_96 (dk_at dksX1_asTold_1 8 rfl rfl)
theorem dX1_asTold_31 : decode cX1_asTold 31 = .ok (.aload_n 0, 1) := dk_42 (dk_at dksX1_asTold_1 9 rfl rfl)
theorem dX1_asTold_32 : decode cX1_asTold 32 = .ok (.getfield 109, 3) := dk_180 0 109 (dk_at dksX1_asTold_1 10 rfl rfl)
theorem dX1_asTold_35 : decode cX1_asTold 35 = .ok (.getfield 140, 3) := dk_180 0 140 (dk_at dksX1_asTold_1 13 rfl rfl)
theorem dX1_asTold_38 : decode cX1_asTold 38 = .ok (.iload_n 1, 1) := dk_27 (dk_at dksX1_asTold_1 16 rfl rfl)
theorem dX1_asTold_39 : decode cX1_asTold 39 = .ok (.aaload, 1) := dk_50 (dk_at dksX1_asTold_1 17 rfl rfl)
theorem dX1_asTold_40 : decode cX1_asTold 40 = .ok (.getfield 144, 3) := dk_180 0 144 (dk_at dksX1_asTold_1 18 rfl rfl)
theorem dX1_asTold_43 : decode cX1_asTold 43 = .ok (.iastore, 1) := dk_79 (dk_at dksX1_asTold_1 21 rfl rfl)
theorem dX1_asTold_44 : decode cX1_asTold 44 = .ok (.iinc 2 1, 3) := dk_132 2 1 (dk_at dksX1_asTold_2 0 rfl rfl)
theorem dX1_asTold_47 : decode cX1_asTold 47 = .ok (.goto (-32), 3) := dk_167 255 224 (dk_at dksX1_asTold_2 3 rfl rfl)
theorem dX1_asTold_50 : decode cX1_asTold 50 = .ok (.iinc 1 1, 3) := dk_132 1 1 (dk_at dksX1_asTold_2 6 rfl rfl)
theorem dX1_asTold_53 : decode cX1_asTold 53 = .ok (.goto (-51), 3) := dk_167 255 205 (dk_at dksX1_asTold_2 9 rfl rfl)
theorem dX1_asTold_56 : decode cX1_asTold 56 = .ok (.return_, 1) := dk_177 (dk_at dksX1_asTold_2 12 rfl rfl)
abbrev cX1_fault : ByteArray := prog_1_method_13_code
def yX1_fault : MethodName := ⟨RX1, "fault", "()I"⟩
theorem dX1_fault_0 : decode cX1_fault 0 = .ok (.aload_n 0, 1) := by decide +kernel
theorem dX1_fault_1 : decode cX1_fault 1 = .ok (.getfield 102, 3) := by decide +kernel
theorem dX1_fault_4 : decode cX1_fault 4 = .ok (.ireturn, 1) := by decide +kernel
abbrev cX1_where : ByteArray := prog_1_method_14_code
def yX1_where : MethodName := ⟨RX1, "where", "()I"⟩
def dkwX1_where_0 : List UInt8 := [42, 180, 0, 81, 7, 160, 0, 10, 42, 180, 0, 22, 167, 0, 4, 2, 172]
abbrev dktX1_where_0 : List UInt8 := dkwX1_where_0 ++ []
theorem dksX1_where_0 : cX1_where.data.toList.drop 0 = dktX1_where_0 := by decide +kernel
theorem dX1_where_0 : decode cX1_where 0 = .ok (.aload_n 0, 1) := dk_42 (dk_at dksX1_where_0 0 rfl rfl)
theorem dX1_where_1 : decode cX1_where 1 = .ok (.getfield 81, 3) := dk_180 0 81 (dk_at dksX1_where_0 1 rfl rfl)
theorem dX1_where_4 : decode cX1_where 4 = .ok (.iconst 4, 1) := dk_7 (dk_at dksX1_where_0 4 rfl rfl)
theorem dX1_where_5 : decode cX1_where 5 = .ok (.if_icmp .ne 10, 3) := dk_160 0 10 (dk_at dksX1_where_0 5 rfl rfl)
theorem dX1_where_8 : decode cX1_where 8 = .ok (.aload_n 0, 1) := dk_42 (dk_at dksX1_where_0 8 rfl rfl)
theorem dX1_where_9 : decode cX1_where 9 = .ok (.getfield 22, 3) := dk_180 0 22 (dk_at dksX1_where_0 9 rfl rfl)
theorem dX1_where_12 : decode cX1_where 12 = .ok (.goto 4, 3) := dk_167 0 4 (dk_at dksX1_where_0 12 rfl rfl)
theorem dX1_where_15 : decode cX1_where 15 = .ok (.iconst (-1), 1) := dk_2 (dk_at dksX1_where_0 15 rfl rfl)
theorem dX1_where_16 : decode cX1_where 16 = .ok (.ireturn, 1) := dk_172 (dk_at dksX1_where_0 16 rfl rfl)
abbrev cX1_plain : ByteArray := prog_1_method_21_code
def yX1_plain : MethodName := ⟨RX1, "plain", "(III)I"⟩
def dkwX1_plain_2 : List UInt8 := [27, 46, 28, 122, 4, 126, 167, 0, 8, 42, 5, 182, 0, 98, 172]
abbrev dktX1_plain_2 : List UInt8 := dkwX1_plain_2 ++ []
def dkwX1_plain_1 : List UInt8 := [160, 0, 9, 42, 4, 182, 0, 98, 172, 29, 184, 0, 156, 153, 0, 20, 42, 29, 182, 0, 166, 180, 0, 170]
abbrev dktX1_plain_1 : List UInt8 := dkwX1_plain_1 ++ dktX1_plain_2
def dkwX1_plain_0 : List UInt8 := [42, 182, 0, 84, 42, 27, 182, 0, 163, 153, 0, 16, 42, 28, 182, 0, 163, 153, 0, 8, 27, 28]
abbrev dktX1_plain_0 : List UInt8 := dkwX1_plain_0 ++ dktX1_plain_1
theorem dksX1_plain_0 : cX1_plain.data.toList.drop 0 = dktX1_plain_0 := by decide +kernel
theorem dksX1_plain_1 : cX1_plain.data.toList.drop 22 = dktX1_plain_1 := dk_seg dksX1_plain_0 22 rfl rfl
theorem dksX1_plain_2 : cX1_plain.data.toList.drop 46 = dktX1_plain_2 := dk_seg dksX1_plain_1 24 rfl rfl
theorem dX1_plain_0 : decode cX1_plain 0 = .ok (.aload_n 0, 1) := dk_42 (dk_at dksX1_plain_0 0 rfl rfl)
theorem dX1_plain_1 : decode cX1_plain 1 = .ok (.invokevirtual 84, 3) := dk_182 0 84 (dk_at dksX1_plain_0 1 rfl rfl)
theorem dX1_plain_4 : decode cX1_plain 4 = .ok (.aload_n 0, 1) := dk_42 (dk_at dksX1_plain_0 4 rfl rfl)
theorem dX1_plain_5 : decode cX1_plain 5 = .ok (.iload_n 1, 1) := dk_27 (dk_at dksX1_plain_0 5 rfl rfl)
theorem dX1_plain_6 : decode cX1_plain 6 = .ok (.invokevirtual 163, 3) := dk_182 0 163 (dk_at dksX1_plain_0 6 rfl rfl)
theorem dX1_plain_9 : decode cX1_plain 9 = .ok (.ifCond .eq 16, 3) := dk_153 0 16 (dk_at dksX1_plain_0 9 rfl rfl)
theorem dX1_plain_12 : decode cX1_plain 12 = .ok (.aload_n 0, 1) := dk_42 (dk_at dksX1_plain_0 12 rfl rfl)
theorem dX1_plain_13 : decode cX1_plain 13 = .ok (.iload_n 2, 1) := dk_28 (dk_at dksX1_plain_0 13 rfl rfl)
theorem dX1_plain_14 : decode cX1_plain 14 = .ok (.invokevirtual 163, 3) := dk_182 0 163 (dk_at dksX1_plain_0 14 rfl rfl)
theorem dX1_plain_17 : decode cX1_plain 17 = .ok (.ifCond .eq 8, 3) := dk_153 0 8 (dk_at dksX1_plain_0 17 rfl rfl)
theorem dX1_plain_20 : decode cX1_plain 20 = .ok (.iload_n 1, 1) := dk_27 (dk_at dksX1_plain_0 20 rfl rfl)
theorem dX1_plain_21 : decode cX1_plain 21 = .ok (.iload_n 2, 1) := dk_28 (dk_at dksX1_plain_0 21 rfl rfl)
theorem dX1_plain_22 : decode cX1_plain 22 = .ok (.if_icmp .ne 9, 3) := dk_160 0 9 (dk_at dksX1_plain_1 0 rfl rfl)
theorem dX1_plain_25 : decode cX1_plain 25 = .ok (.aload_n 0, 1) := dk_42 (dk_at dksX1_plain_1 3 rfl rfl)
theorem dX1_plain_26 : decode cX1_plain 26 = .ok (.iconst 1, 1) := dk_4 (dk_at dksX1_plain_1 4 rfl rfl)
theorem dX1_plain_27 : decode cX1_plain 27 = .ok (.invokevirtual 98, 3) := dk_182 0 98 (dk_at dksX1_plain_1 5 rfl rfl)
theorem dX1_plain_30 : decode cX1_plain 30 = .ok (.ireturn, 1) := dk_172 (dk_at dksX1_plain_1 8 rfl rfl)
theorem dX1_plain_31 : decode cX1_plain 31 = .ok (.iload_n 3, 1) := dk_29 (dk_at dksX1_plain_1 9 rfl rfl)
theorem dX1_plain_32 : decode cX1_plain 32 = .ok (.invokestatic 156, 3) := dk_184 0 156 (dk_at dksX1_plain_1 10 rfl rfl)
theorem dX1_plain_35 : decode cX1_plain 35 = .ok (.ifCond .eq 20, 3) := dk_153 0 20 (dk_at dksX1_plain_1 13 rfl rfl)
theorem dX1_plain_38 : decode cX1_plain 38 = .ok (.aload_n 0, 1) := dk_42 (dk_at dksX1_plain_1 16 rfl rfl)
theorem dX1_plain_39 : decode cX1_plain 39 = .ok (.iload_n 3, 1) := dk_29 (dk_at dksX1_plain_1 17 rfl rfl)
theorem dX1_plain_40 : decode cX1_plain 40 = .ok (.invokevirtual 166, 3) := dk_182 0 166 (dk_at dksX1_plain_1 18 rfl rfl)
theorem dX1_plain_43 : decode cX1_plain 43 = .ok (.getfield 170, 3) := dk_180 0 170 (dk_at dksX1_plain_1 21 rfl rfl)
theorem dX1_plain_46 : decode cX1_plain 46 = .ok (.iload_n 1, 1) := dk_27 (dk_at dksX1_plain_2 0 rfl rfl)
theorem dX1_plain_47 : decode cX1_plain 47 = .ok (.iaload, 1) := dk_46 (dk_at dksX1_plain_2 1 rfl rfl)
theorem dX1_plain_48 : decode cX1_plain 48 = .ok (.iload_n 2, 1) := dk_28 (dk_at dksX1_plain_2 2 rfl rfl)
theorem dX1_plain_49 : decode cX1_plain 49 = .ok (.ishr, 1) := dk_122 (dk_at dksX1_plain_2 3 rfl rfl)
theorem dX1_plain_50 : decode cX1_plain 50 = .ok (.iconst 1, 1) := dk_4 (dk_at dksX1_plain_2 4 rfl rfl)
theorem dX1_plain_51 : decode cX1_plain 51 = .ok (.iand, 1) := dk_126 (dk_at dksX1_plain_2 5 rfl rfl)
theorem dX1_plain_52 : decode cX1_plain 52 = .ok (.goto 8, 3) := dk_167 0 8 (dk_at dksX1_plain_2 6 rfl rfl)
theorem dX1_plain_55 : decode cX1_plain 55 = .ok (.aload_n 0, 1) := dk_42 (dk_at dksX1_plain_2 9 rfl rfl)
theorem dX1_plain_56 : decode cX1_plain 56 = .ok (.iconst 2, 1) := dk_5 (dk_at dksX1_plain_2 10 rfl rfl)
theorem dX1_plain_57 : decode cX1_plain 57 = .ok (.invokevirtual 98, 3) := dk_182 0 98 (dk_at dksX1_plain_2 11 rfl rfl)
theorem dX1_plain_60 : decode cX1_plain 60 = .ok (.ireturn, 1) := dk_172 (dk_at dksX1_plain_2 14 rfl rfl)
abbrev cX1_isPlace : ByteArray := prog_1_method_15_code
def yX1_isPlace : MethodName := ⟨RX1, "isPlace", "(I)Z"⟩
def dkwX1_isPlace_1 : List UInt8 := [4, 167, 0, 4, 3, 172]
abbrev dktX1_isPlace_1 : List UInt8 := dkwX1_isPlace_1 ++ []
def dkwX1_isPlace_0 : List UInt8 := [42, 180, 0, 109, 198, 0, 24, 27, 3, 42, 180, 0, 109, 180, 0, 150, 4, 100, 184, 0, 94, 153, 0, 7]
abbrev dktX1_isPlace_0 : List UInt8 := dkwX1_isPlace_0 ++ dktX1_isPlace_1
theorem dksX1_isPlace_0 : cX1_isPlace.data.toList.drop 0 = dktX1_isPlace_0 := by decide +kernel
theorem dksX1_isPlace_1 : cX1_isPlace.data.toList.drop 24 = dktX1_isPlace_1 := dk_seg dksX1_isPlace_0 24 rfl rfl
theorem dX1_isPlace_0 : decode cX1_isPlace 0 = .ok (.aload_n 0, 1) := dk_42 (dk_at dksX1_isPlace_0 0 rfl rfl)
theorem dX1_isPlace_1 : decode cX1_isPlace 1 = .ok (.getfield 109, 3) := dk_180 0 109 (dk_at dksX1_isPlace_0 1 rfl rfl)
theorem dX1_isPlace_4 : decode cX1_isPlace 4 = .ok (.ifnull 24, 3) := dk_198 0 24 (dk_at dksX1_isPlace_0 4 rfl rfl)
theorem dX1_isPlace_7 : decode cX1_isPlace 7 = .ok (.iload_n 1, 1) := dk_27 (dk_at dksX1_isPlace_0 7 rfl rfl)
theorem dX1_isPlace_8 : decode cX1_isPlace 8 = .ok (.iconst 0, 1) := dk_3 (dk_at dksX1_isPlace_0 8 rfl rfl)
theorem dX1_isPlace_9 : decode cX1_isPlace 9 = .ok (.aload_n 0, 1) := dk_42 (dk_at dksX1_isPlace_0 9 rfl rfl)
theorem dX1_isPlace_10 : decode cX1_isPlace 10 = .ok (.getfield 109, 3) := dk_180 0 109 (dk_at dksX1_isPlace_0 10 rfl rfl)
theorem dX1_isPlace_13 : decode cX1_isPlace 13 = .ok (.getfield 150, 3) := dk_180 0 150 (dk_at dksX1_isPlace_0 13 rfl rfl)
theorem dX1_isPlace_16 : decode cX1_isPlace 16 = .ok (.iconst 1, 1) := dk_4 (dk_at dksX1_isPlace_0 16 rfl rfl)
theorem dX1_isPlace_17 : decode cX1_isPlace 17 = .ok (.isub, 1) := dk_100 (dk_at dksX1_isPlace_0 17 rfl rfl)
theorem dX1_isPlace_18 : decode cX1_isPlace 18 = .ok (.invokestatic 94, 3) := dk_184 0 94 (dk_at dksX1_isPlace_0 18 rfl rfl)
theorem dX1_isPlace_21 : decode cX1_isPlace 21 = .ok (.ifCond .eq 7, 3) := dk_153 0 7 (dk_at dksX1_isPlace_0 21 rfl rfl)
theorem dX1_isPlace_24 : decode cX1_isPlace 24 = .ok (.iconst 1, 1) := dk_4 (dk_at dksX1_isPlace_1 0 rfl rfl)
theorem dX1_isPlace_25 : decode cX1_isPlace 25 = .ok (.goto 4, 3) := dk_167 0 4 (dk_at dksX1_isPlace_1 1 rfl rfl)
theorem dX1_isPlace_28 : decode cX1_isPlace 28 = .ok (.iconst 0, 1) := dk_3 (dk_at dksX1_isPlace_1 4 rfl rfl)
theorem dX1_isPlace_29 : decode cX1_isPlace 29 = .ok (.ireturn, 1) := dk_172 (dk_at dksX1_isPlace_1 5 rfl rfl)
abbrev cX1_isStep : ByteArray := prog_1_method_18_code
def yX1_isStep : MethodName := ⟨RX1, "isStep", "(I)Z"⟩
def dkwX1_isStep_0 : List UInt8 := [26, 3, 17, 0, 199, 184, 0, 94, 172]
abbrev dktX1_isStep_0 : List UInt8 := dkwX1_isStep_0 ++ []
theorem dksX1_isStep_0 : cX1_isStep.data.toList.drop 0 = dktX1_isStep_0 := by decide +kernel
theorem dX1_isStep_0 : decode cX1_isStep 0 = .ok (.iload_n 0, 1) := dk_26 (dk_at dksX1_isStep_0 0 rfl rfl)
theorem dX1_isStep_1 : decode cX1_isStep 1 = .ok (.iconst 0, 1) := dk_3 (dk_at dksX1_isStep_0 1 rfl rfl)
theorem dX1_isStep_2 : decode cX1_isStep 2 = .ok (.sipush 199, 3) := dk_17 0 199 (dk_at dksX1_isStep_0 2 rfl rfl)
theorem dX1_isStep_5 : decode cX1_isStep 5 = .ok (.invokestatic 94, 3) := dk_184 0 94 (dk_at dksX1_isStep_0 5 rfl rfl)
theorem dX1_isStep_8 : decode cX1_isStep 8 = .ok (.ireturn, 1) := dk_172 (dk_at dksX1_isStep_0 8 rfl rfl)
abbrev cX1_sight : ByteArray := prog_1_method_20_code
def yX1_sight : MethodName := ⟨RX1, "sight", "(I)LNeverUnseen$Sight;"⟩
def dkwX1_sight_0 : List UInt8 := [42, 180, 0, 109, 27, 182, 0, 160, 153, 0, 10, 42, 180, 0, 33, 167, 0, 7, 42, 180, 0, 29, 176]
abbrev dktX1_sight_0 : List UInt8 := dkwX1_sight_0 ++ []
theorem dksX1_sight_0 : cX1_sight.data.toList.drop 0 = dktX1_sight_0 := by decide +kernel
theorem dX1_sight_0 : decode cX1_sight 0 = .ok (.aload_n 0, 1) := dk_42 (dk_at dksX1_sight_0 0 rfl rfl)
theorem dX1_sight_1 : decode cX1_sight 1 = .ok (.getfield 109, 3) := dk_180 0 109 (dk_at dksX1_sight_0 1 rfl rfl)
theorem dX1_sight_4 : decode cX1_sight 4 = .ok (.iload_n 1, 1) := dk_27 (dk_at dksX1_sight_0 4 rfl rfl)
theorem dX1_sight_5 : decode cX1_sight 5 = .ok (.invokevirtual 160, 3) := dk_182 0 160 (dk_at dksX1_sight_0 5 rfl rfl)
theorem dX1_sight_8 : decode cX1_sight 8 = .ok (.ifCond .eq 10, 3) := dk_153 0 10 (dk_at dksX1_sight_0 8 rfl rfl)
theorem dX1_sight_11 : decode cX1_sight 11 = .ok (.aload_n 0, 1) := dk_42 (dk_at dksX1_sight_0 11 rfl rfl)
theorem dX1_sight_12 : decode cX1_sight 12 = .ok (.getfield 33, 3) := dk_180 0 33 (dk_at dksX1_sight_0 12 rfl rfl)
theorem dX1_sight_15 : decode cX1_sight 15 = .ok (.goto 7, 3) := dk_167 0 7 (dk_at dksX1_sight_0 15 rfl rfl)
theorem dX1_sight_18 : decode cX1_sight 18 = .ok (.aload_n 0, 1) := dk_42 (dk_at dksX1_sight_0 18 rfl rfl)
theorem dX1_sight_19 : decode cX1_sight 19 = .ok (.getfield 29, 3) := dk_180 0 29 (dk_at dksX1_sight_0 19 rfl rfl)
theorem dX1_sight_22 : decode cX1_sight 22 = .ok (.areturn, 1) := dk_176 (dk_at dksX1_sight_0 22 rfl rfl)
abbrev cX1_sees : ByteArray := prog_1_method_22_code
def yX1_sees : MethodName := ⟨RX1, "sees", "(II)I"⟩
def dkwX1_sees_1 : List UInt8 := [153, 0, 15, 42, 28, 182, 0, 166, 27, 182, 0, 173, 167, 0, 8, 42, 5, 182, 0, 98, 172]
abbrev dktX1_sees_1 : List UInt8 := dkwX1_sees_1 ++ []
def dkwX1_sees_0 : List UInt8 := [42, 182, 0, 84, 42, 27, 182, 0, 163, 154, 0, 9, 42, 4, 182, 0, 98, 172, 28, 184, 0, 156]
abbrev dktX1_sees_0 : List UInt8 := dkwX1_sees_0 ++ dktX1_sees_1
theorem dksX1_sees_0 : cX1_sees.data.toList.drop 0 = dktX1_sees_0 := by decide +kernel
theorem dksX1_sees_1 : cX1_sees.data.toList.drop 22 = dktX1_sees_1 := dk_seg dksX1_sees_0 22 rfl rfl
theorem dX1_sees_0 : decode cX1_sees 0 = .ok (.aload_n 0, 1) := dk_42 (dk_at dksX1_sees_0 0 rfl rfl)
theorem dX1_sees_1 : decode cX1_sees 1 = .ok (.invokevirtual 84, 3) := dk_182 0 84 (dk_at dksX1_sees_0 1 rfl rfl)
theorem dX1_sees_4 : decode cX1_sees 4 = .ok (.aload_n 0, 1) := dk_42 (dk_at dksX1_sees_0 4 rfl rfl)
theorem dX1_sees_5 : decode cX1_sees 5 = .ok (.iload_n 1, 1) := dk_27 (dk_at dksX1_sees_0 5 rfl rfl)
theorem dX1_sees_6 : decode cX1_sees 6 = .ok (.invokevirtual 163, 3) := dk_182 0 163 (dk_at dksX1_sees_0 6 rfl rfl)
theorem dX1_sees_9 : decode cX1_sees 9 = .ok (.ifCond .ne 9, 3) := dk_154 0 9 (dk_at dksX1_sees_0 9 rfl rfl)
theorem dX1_sees_12 : decode cX1_sees 12 = .ok (.aload_n 0, 1) := dk_42 (dk_at dksX1_sees_0 12 rfl rfl)
theorem dX1_sees_13 : decode cX1_sees 13 = .ok (.iconst 1, 1) := dk_4 (dk_at dksX1_sees_0 13 rfl rfl)
theorem dX1_sees_14 : decode cX1_sees 14 = .ok (.invokevirtual 98, 3) := dk_182 0 98 (dk_at dksX1_sees_0 14 rfl rfl)
theorem dX1_sees_17 : decode cX1_sees 17 = .ok (.ireturn, 1) := dk_172 (dk_at dksX1_sees_0 17 rfl rfl)
theorem dX1_sees_18 : decode cX1_sees 18 = .ok (.iload_n 2, 1) := dk_28 (dk_at dksX1_sees_0 18 rfl rfl)
theorem dX1_sees_19 : decode cX1_sees 19 = .ok (.invokestatic 156, 3) := dk_184 0 156 (dk_at dksX1_sees_0 19 rfl rfl)
theorem dX1_sees_22 : decode cX1_sees 22 = .ok (.ifCond .eq 15, 3) := dk_153 0 15 (dk_at dksX1_sees_1 0 rfl rfl)
theorem dX1_sees_25 : decode cX1_sees 25 = .ok (.aload_n 0, 1) := dk_42 (dk_at dksX1_sees_1 3 rfl rfl)
theorem dX1_sees_26 : decode cX1_sees 26 = .ok (.iload_n 2, 1) := dk_28 (dk_at dksX1_sees_1 4 rfl rfl)
theorem dX1_sees_27 : decode cX1_sees 27 = .ok (.invokevirtual 166, 3) := dk_182 0 166 (dk_at dksX1_sees_1 5 rfl rfl)
theorem dX1_sees_30 : decode cX1_sees 30 = .ok (.iload_n 1, 1) := dk_27 (dk_at dksX1_sees_1 8 rfl rfl)
theorem dX1_sees_31 : decode cX1_sees 31 = .ok (.invokevirtual 173, 3) := dk_182 0 173 (dk_at dksX1_sees_1 9 rfl rfl)
theorem dX1_sees_34 : decode cX1_sees 34 = .ok (.goto 8, 3) := dk_167 0 8 (dk_at dksX1_sees_1 12 rfl rfl)
theorem dX1_sees_37 : decode cX1_sees 37 = .ok (.aload_n 0, 1) := dk_42 (dk_at dksX1_sees_1 15 rfl rfl)
theorem dX1_sees_38 : decode cX1_sees 38 = .ok (.iconst 2, 1) := dk_5 (dk_at dksX1_sees_1 16 rfl rfl)
theorem dX1_sees_39 : decode cX1_sees 39 = .ok (.invokevirtual 98, 3) := dk_182 0 98 (dk_at dksX1_sees_1 17 rfl rfl)
theorem dX1_sees_42 : decode cX1_sees 42 = .ok (.ireturn, 1) := dk_172 (dk_at dksX1_sees_1 20 rfl rfl)
abbrev cX1_middle : ByteArray := prog_1_method_23_code
def yX1_middle : MethodName := ⟨RX1, "middle", "(I)I"⟩
def dkwX1_middle_2 : List UInt8 := [182, 0, 166, 21, 4, 182, 0, 173, 126, 62, 132, 4, 1, 167, 255, 228, 29, 172]
abbrev dktX1_middle_2 : List UInt8 := dkwX1_middle_2 ++ []
def dkwX1_middle_1 : List UInt8 := [182, 0, 179, 62, 3, 54, 4, 21, 4, 42, 180, 0, 109, 180, 0, 150, 162, 0, 22, 29, 42, 27]
abbrev dktX1_middle_1 : List UInt8 := dkwX1_middle_1 ++ dktX1_middle_2
def dkwX1_middle_0 : List UInt8 := [42, 182, 0, 84, 42, 27, 182, 0, 176, 61, 28, 153, 0, 9, 42, 28, 182, 0, 98, 172, 42, 180, 0, 109]
abbrev dktX1_middle_0 : List UInt8 := dkwX1_middle_0 ++ dktX1_middle_1
theorem dksX1_middle_0 : cX1_middle.data.toList.drop 0 = dktX1_middle_0 := by decide +kernel
theorem dksX1_middle_1 : cX1_middle.data.toList.drop 24 = dktX1_middle_1 := dk_seg dksX1_middle_0 24 rfl rfl
theorem dksX1_middle_2 : cX1_middle.data.toList.drop 46 = dktX1_middle_2 := dk_seg dksX1_middle_1 22 rfl rfl
theorem dX1_middle_0 : decode cX1_middle 0 = .ok (.aload_n 0, 1) := dk_42 (dk_at dksX1_middle_0 0 rfl rfl)
theorem dX1_middle_1 : decode cX1_middle 1 = .ok (.invokevirtual 84, 3) := dk_182 0 84 (dk_at dksX1_middle_0 1 rfl rfl)
theorem dX1_middle_4 : decode cX1_middle 4 = .ok (.aload_n 0, 1) := dk_42 (dk_at dksX1_middle_0 4 rfl rfl)
theorem dX1_middle_5 : decode cX1_middle 5 = .ok (.iload_n 1, 1) := dk_27 (dk_at dksX1_middle_0 5 rfl rfl)
theorem dX1_middle_6 : decode cX1_middle 6 = .ok (.invokevirtual 176, 3) := dk_182 0 176 (dk_at dksX1_middle_0 6 rfl rfl)
theorem dX1_middle_9 : decode cX1_middle 9 = .ok (.istore_n 2, 1) := dk_61 (dk_at dksX1_middle_0 9 rfl rfl)
theorem dX1_middle_10 : decode cX1_middle 10 = .ok (.iload_n 2, 1) := dk_28 (dk_at dksX1_middle_0 10 rfl rfl)
theorem dX1_middle_11 : decode cX1_middle 11 = .ok (.ifCond .eq 9, 3) := dk_153 0 9 (dk_at dksX1_middle_0 11 rfl rfl)
theorem dX1_middle_14 : decode cX1_middle 14 = .ok (.aload_n 0, 1) := dk_42 (dk_at dksX1_middle_0 14 rfl rfl)
theorem dX1_middle_15 : decode cX1_middle 15 = .ok (.iload_n 2, 1) := dk_28 (dk_at dksX1_middle_0 15 rfl rfl)
theorem dX1_middle_16 : decode cX1_middle 16 = .ok (.invokevirtual 98, 3) := dk_182 0 98 (dk_at dksX1_middle_0 16 rfl rfl)
theorem dX1_middle_19 : decode cX1_middle 19 = .ok (.ireturn, 1) := dk_172 (dk_at dksX1_middle_0 19 rfl rfl)
theorem dX1_middle_20 : decode cX1_middle 20 = .ok (.aload_n 0, 1) := dk_42 (dk_at dksX1_middle_0 20 rfl rfl)
theorem dX1_middle_21 : decode cX1_middle 21 = .ok (.getfield 109, 3) := dk_180 0 109 (dk_at dksX1_middle_0 21 rfl rfl)
theorem dX1_middle_24 : decode cX1_middle 24 = .ok (.invokevirtual 179, 3) := dk_182 0 179 (dk_at dksX1_middle_1 0 rfl rfl)
theorem dX1_middle_27 : decode cX1_middle 27 = .ok (.istore_n 3, 1) := dk_62 (dk_at dksX1_middle_1 3 rfl rfl)
theorem dX1_middle_28 : decode cX1_middle 28 = .ok (.iconst 0, 1) := dk_3 (dk_at dksX1_middle_1 4 rfl rfl)
theorem dX1_middle_29 : decode cX1_middle 29 = .ok (.istore 4, 2) := dk_54 4 (dk_at dksX1_middle_1 5 rfl rfl)
theorem dX1_middle_31 : decode cX1_middle 31 = .ok (.iload 4, 2) := dk_21 4 (dk_at dksX1_middle_1 7 rfl rfl)
theorem dX1_middle_33 : decode cX1_middle 33 = .ok (.aload_n 0, 1) := dk_42 (dk_at dksX1_middle_1 9 rfl rfl)
theorem dX1_middle_34 : decode cX1_middle 34 = .ok (.getfield 109, 3) := dk_180 0 109 (dk_at dksX1_middle_1 10 rfl rfl)
theorem dX1_middle_37 : decode cX1_middle 37 = .ok (.getfield 150, 3) := dk_180 0 150 (dk_at dksX1_middle_1 13 rfl rfl)
theorem dX1_middle_40 : decode cX1_middle 40 = .ok (.if_icmp .ge 22, 3) := dk_162 0 22 (dk_at dksX1_middle_1 16 rfl rfl)
theorem dX1_middle_43 : decode cX1_middle 43 = .ok (.iload_n 3, 1) := dk_29 (dk_at dksX1_middle_1 19 rfl rfl)
theorem dX1_middle_44 : decode cX1_middle 44 = .ok (.aload_n 0, 1) := dk_42 (dk_at dksX1_middle_1 20 rfl rfl)
theorem dX1_middle_45 : decode cX1_middle 45 = .ok (.iload_n 1, 1) := dk_27 (dk_at dksX1_middle_1 21 rfl rfl)
theorem dX1_middle_46 : decode cX1_middle 46 = .ok (.invokevirtual 166, 3) := dk_182 0 166 (dk_at dksX1_middle_2 0 rfl rfl)
theorem dX1_middle_49 : decode cX1_middle 49 = .ok (.iload 4, 2) := dk_21 4 (dk_at dksX1_middle_2 3 rfl rfl)
theorem dX1_middle_51 : decode cX1_middle 51 = .ok (.invokevirtual 173, 3) := dk_182 0 173 (dk_at dksX1_middle_2 5 rfl rfl)
theorem dX1_middle_54 : decode cX1_middle 54 = .ok (.iand, 1) := dk_126 (dk_at dksX1_middle_2 8 rfl rfl)
theorem dX1_middle_55 : decode cX1_middle 55 = .ok (.istore_n 3, 1) := dk_62 (dk_at dksX1_middle_2 9 rfl rfl)
theorem dX1_middle_56 : decode cX1_middle 56 = .ok (.iinc 4 1, 3) := dk_132 4 1 (dk_at dksX1_middle_2 10 rfl rfl)
theorem dX1_middle_59 : decode cX1_middle 59 = .ok (.goto (-28), 3) := dk_167 255 228 (dk_at dksX1_middle_2 13 rfl rfl)
theorem dX1_middle_62 : decode cX1_middle 62 = .ok (.iload_n 3, 1) := dk_29 (dk_at dksX1_middle_2 16 rfl rfl)
theorem dX1_middle_63 : decode cX1_middle 63 = .ok (.ireturn, 1) := dk_172 (dk_at dksX1_middle_2 17 rfl rfl)
abbrev cX1_stepWhy : ByteArray := prog_1_method_19_code
def yX1_stepWhy : MethodName := ⟨RX1, "stepWhy", "(I)I"⟩
def dkwX1_stepWhy_0 : List UInt8 := [42, 180, 0, 109, 199, 0, 7, 4, 167, 0, 15, 27, 184, 0, 156, 153, 0, 7, 3, 167, 0, 4, 5, 172]
abbrev dktX1_stepWhy_0 : List UInt8 := dkwX1_stepWhy_0 ++ []
theorem dksX1_stepWhy_0 : cX1_stepWhy.data.toList.drop 0 = dktX1_stepWhy_0 := by decide +kernel
theorem dX1_stepWhy_0 : decode cX1_stepWhy 0 = .ok (.aload_n 0, 1) := dk_42 (dk_at dksX1_stepWhy_0 0 rfl rfl)
theorem dX1_stepWhy_1 : decode cX1_stepWhy 1 = .ok (.getfield 109, 3) := dk_180 0 109 (dk_at dksX1_stepWhy_0 1 rfl rfl)
theorem dX1_stepWhy_4 : decode cX1_stepWhy 4 = .ok (.ifnonnull 7, 3) := dk_199 0 7 (dk_at dksX1_stepWhy_0 4 rfl rfl)
theorem dX1_stepWhy_7 : decode cX1_stepWhy 7 = .ok (.iconst 1, 1) := dk_4 (dk_at dksX1_stepWhy_0 7 rfl rfl)
theorem dX1_stepWhy_8 : decode cX1_stepWhy 8 = .ok (.goto 15, 3) := dk_167 0 15 (dk_at dksX1_stepWhy_0 8 rfl rfl)
theorem dX1_stepWhy_11 : decode cX1_stepWhy 11 = .ok (.iload_n 1, 1) := dk_27 (dk_at dksX1_stepWhy_0 11 rfl rfl)
theorem dX1_stepWhy_12 : decode cX1_stepWhy 12 = .ok (.invokestatic 156, 3) := dk_184 0 156 (dk_at dksX1_stepWhy_0 12 rfl rfl)
theorem dX1_stepWhy_15 : decode cX1_stepWhy 15 = .ok (.ifCond .eq 7, 3) := dk_153 0 7 (dk_at dksX1_stepWhy_0 15 rfl rfl)
theorem dX1_stepWhy_18 : decode cX1_stepWhy 18 = .ok (.iconst 0, 1) := dk_3 (dk_at dksX1_stepWhy_0 18 rfl rfl)
theorem dX1_stepWhy_19 : decode cX1_stepWhy 19 = .ok (.goto 4, 3) := dk_167 0 4 (dk_at dksX1_stepWhy_0 19 rfl rfl)
theorem dX1_stepWhy_22 : decode cX1_stepWhy 22 = .ok (.iconst 2, 1) := dk_5 (dk_at dksX1_stepWhy_0 22 rfl rfl)
theorem dX1_stepWhy_23 : decode cX1_stepWhy 23 = .ok (.ireturn, 1) := dk_172 (dk_at dksX1_stepWhy_0 23 rfl rfl)
abbrev cX1_eyes : ByteArray := prog_1_method_24_code
def yX1_eyes : MethodName := ⟨RX1, "eyes", "(II)I"⟩
def dkwX1_eyes_2 : List UInt8 := [167, 0, 8, 42, 5, 182, 0, 98, 172]
abbrev dktX1_eyes_2 : List UInt8 := dkwX1_eyes_2 ++ []
def dkwX1_eyes_1 : List UInt8 := [153, 0, 27, 42, 180, 0, 109, 180, 0, 140, 27, 50, 28, 182, 0, 186, 153, 0, 7, 4, 167, 0, 12, 3]
abbrev dktX1_eyes_1 : List UInt8 := dkwX1_eyes_1 ++ dktX1_eyes_2
def dkwX1_eyes_0 : List UInt8 := [42, 182, 0, 84, 42, 27, 182, 0, 183, 154, 0, 9, 42, 4, 182, 0, 98, 172, 28, 184, 0, 156]
abbrev dktX1_eyes_0 : List UInt8 := dkwX1_eyes_0 ++ dktX1_eyes_1
theorem dksX1_eyes_0 : cX1_eyes.data.toList.drop 0 = dktX1_eyes_0 := by decide +kernel
theorem dksX1_eyes_1 : cX1_eyes.data.toList.drop 22 = dktX1_eyes_1 := dk_seg dksX1_eyes_0 22 rfl rfl
theorem dksX1_eyes_2 : cX1_eyes.data.toList.drop 46 = dktX1_eyes_2 := dk_seg dksX1_eyes_1 24 rfl rfl
theorem dX1_eyes_0 : decode cX1_eyes 0 = .ok (.aload_n 0, 1) := dk_42 (dk_at dksX1_eyes_0 0 rfl rfl)
theorem dX1_eyes_1 : decode cX1_eyes 1 = .ok (.invokevirtual 84, 3) := dk_182 0 84 (dk_at dksX1_eyes_0 1 rfl rfl)
theorem dX1_eyes_4 : decode cX1_eyes 4 = .ok (.aload_n 0, 1) := dk_42 (dk_at dksX1_eyes_0 4 rfl rfl)
theorem dX1_eyes_5 : decode cX1_eyes 5 = .ok (.iload_n 1, 1) := dk_27 (dk_at dksX1_eyes_0 5 rfl rfl)
theorem dX1_eyes_6 : decode cX1_eyes 6 = .ok (.invokevirtual 183, 3) := dk_182 0 183 (dk_at dksX1_eyes_0 6 rfl rfl)
theorem dX1_eyes_9 : decode cX1_eyes 9 = .ok (.ifCond .ne 9, 3) := dk_154 0 9 (dk_at dksX1_eyes_0 9 rfl rfl)
theorem dX1_eyes_12 : decode cX1_eyes 12 = .ok (.aload_n 0, 1) := dk_42 (dk_at dksX1_eyes_0 12 rfl rfl)
theorem dX1_eyes_13 : decode cX1_eyes 13 = .ok (.iconst 1, 1) := dk_4 (dk_at dksX1_eyes_0 13 rfl rfl)
theorem dX1_eyes_14 : decode cX1_eyes 14 = .ok (.invokevirtual 98, 3) := dk_182 0 98 (dk_at dksX1_eyes_0 14 rfl rfl)
theorem dX1_eyes_17 : decode cX1_eyes 17 = .ok (.ireturn, 1) := dk_172 (dk_at dksX1_eyes_0 17 rfl rfl)
theorem dX1_eyes_18 : decode cX1_eyes 18 = .ok (.iload_n 2, 1) := dk_28 (dk_at dksX1_eyes_0 18 rfl rfl)
theorem dX1_eyes_19 : decode cX1_eyes 19 = .ok (.invokestatic 156, 3) := dk_184 0 156 (dk_at dksX1_eyes_0 19 rfl rfl)
theorem dX1_eyes_22 : decode cX1_eyes 22 = .ok (.ifCond .eq 27, 3) := dk_153 0 27 (dk_at dksX1_eyes_1 0 rfl rfl)
theorem dX1_eyes_25 : decode cX1_eyes 25 = .ok (.aload_n 0, 1) := dk_42 (dk_at dksX1_eyes_1 3 rfl rfl)
theorem dX1_eyes_26 : decode cX1_eyes 26 = .ok (.getfield 109, 3) := dk_180 0 109 (dk_at dksX1_eyes_1 4 rfl rfl)
theorem dX1_eyes_29 : decode cX1_eyes 29 = .ok (.getfield 140, 3) := dk_180 0 140 (dk_at dksX1_eyes_1 7 rfl rfl)
theorem dX1_eyes_32 : decode cX1_eyes 32 = .ok (.iload_n 1, 1) := dk_27 (dk_at dksX1_eyes_1 10 rfl rfl)
theorem dX1_eyes_33 : decode cX1_eyes 33 = .ok (.aaload, 1) := dk_50 (dk_at dksX1_eyes_1 11 rfl rfl)
theorem dX1_eyes_34 : decode cX1_eyes 34 = .ok (.iload_n 2, 1) := dk_28 (dk_at dksX1_eyes_1 12 rfl rfl)
theorem dX1_eyes_35 : decode cX1_eyes 35 = .ok (.invokevirtual 186, 3) := dk_182 0 186 (dk_at dksX1_eyes_1 13 rfl rfl)
theorem dX1_eyes_38 : decode cX1_eyes 38 = .ok (.ifCond .eq 7, 3) := dk_153 0 7 (dk_at dksX1_eyes_1 16 rfl rfl)
theorem dX1_eyes_41 : decode cX1_eyes 41 = .ok (.iconst 1, 1) := dk_4 (dk_at dksX1_eyes_1 19 rfl rfl)
theorem dX1_eyes_42 : decode cX1_eyes 42 = .ok (.goto 12, 3) := dk_167 0 12 (dk_at dksX1_eyes_1 20 rfl rfl)
theorem dX1_eyes_45 : decode cX1_eyes 45 = .ok (.iconst 0, 1) := dk_3 (dk_at dksX1_eyes_1 23 rfl rfl)
theorem dX1_eyes_46 : decode cX1_eyes 46 = .ok (.goto 8, 3) := dk_167 0 8 (dk_at dksX1_eyes_2 0 rfl rfl)
theorem dX1_eyes_49 : decode cX1_eyes 49 = .ok (.aload_n 0, 1) := dk_42 (dk_at dksX1_eyes_2 3 rfl rfl)
theorem dX1_eyes_50 : decode cX1_eyes 50 = .ok (.iconst 2, 1) := dk_5 (dk_at dksX1_eyes_2 4 rfl rfl)
theorem dX1_eyes_51 : decode cX1_eyes 51 = .ok (.invokevirtual 98, 3) := dk_182 0 98 (dk_at dksX1_eyes_2 5 rfl rfl)
theorem dX1_eyes_54 : decode cX1_eyes 54 = .ok (.ireturn, 1) := dk_172 (dk_at dksX1_eyes_2 8 rfl rfl)
abbrev cX1_isPerson : ByteArray := prog_1_method_16_code
def yX1_isPerson : MethodName := ⟨RX1, "isPerson", "(I)Z"⟩
def dkwX1_isPerson_1 : List UInt8 := [4, 167, 0, 4, 3, 172]
abbrev dktX1_isPerson_1 : List UInt8 := dkwX1_isPerson_1 ++ []
def dkwX1_isPerson_0 : List UInt8 := [42, 180, 0, 109, 198, 0, 24, 27, 3, 42, 180, 0, 109, 180, 0, 137, 4, 100, 184, 0, 94, 153, 0, 7]
abbrev dktX1_isPerson_0 : List UInt8 := dkwX1_isPerson_0 ++ dktX1_isPerson_1
theorem dksX1_isPerson_0 : cX1_isPerson.data.toList.drop 0 = dktX1_isPerson_0 := by decide +kernel
theorem dksX1_isPerson_1 : cX1_isPerson.data.toList.drop 24 = dktX1_isPerson_1 := dk_seg dksX1_isPerson_0 24 rfl rfl
theorem dX1_isPerson_0 : decode cX1_isPerson 0 = .ok (.aload_n 0, 1) := dk_42 (dk_at dksX1_isPerson_0 0 rfl rfl)
theorem dX1_isPerson_1 : decode cX1_isPerson 1 = .ok (.getfield 109, 3) := dk_180 0 109 (dk_at dksX1_isPerson_0 1 rfl rfl)
theorem dX1_isPerson_4 : decode cX1_isPerson 4 = .ok (.ifnull 24, 3) := dk_198 0 24 (dk_at dksX1_isPerson_0 4 rfl rfl)
theorem dX1_isPerson_7 : decode cX1_isPerson 7 = .ok (.iload_n 1, 1) := dk_27 (dk_at dksX1_isPerson_0 7 rfl rfl)
theorem dX1_isPerson_8 : decode cX1_isPerson 8 = .ok (.iconst 0, 1) := dk_3 (dk_at dksX1_isPerson_0 8 rfl rfl)
theorem dX1_isPerson_9 : decode cX1_isPerson 9 = .ok (.aload_n 0, 1) := dk_42 (dk_at dksX1_isPerson_0 9 rfl rfl)
theorem dX1_isPerson_10 : decode cX1_isPerson 10 = .ok (.getfield 109, 3) := dk_180 0 109 (dk_at dksX1_isPerson_0 10 rfl rfl)
theorem dX1_isPerson_13 : decode cX1_isPerson 13 = .ok (.getfield 137, 3) := dk_180 0 137 (dk_at dksX1_isPerson_0 13 rfl rfl)
theorem dX1_isPerson_16 : decode cX1_isPerson 16 = .ok (.iconst 1, 1) := dk_4 (dk_at dksX1_isPerson_0 16 rfl rfl)
theorem dX1_isPerson_17 : decode cX1_isPerson 17 = .ok (.isub, 1) := dk_100 (dk_at dksX1_isPerson_0 17 rfl rfl)
theorem dX1_isPerson_18 : decode cX1_isPerson 18 = .ok (.invokestatic 94, 3) := dk_184 0 94 (dk_at dksX1_isPerson_0 18 rfl rfl)
theorem dX1_isPerson_21 : decode cX1_isPerson 21 = .ok (.ifCond .eq 7, 3) := dk_153 0 7 (dk_at dksX1_isPerson_0 21 rfl rfl)
theorem dX1_isPerson_24 : decode cX1_isPerson 24 = .ok (.iconst 1, 1) := dk_4 (dk_at dksX1_isPerson_1 0 rfl rfl)
theorem dX1_isPerson_25 : decode cX1_isPerson 25 = .ok (.goto 4, 3) := dk_167 0 4 (dk_at dksX1_isPerson_1 1 rfl rfl)
theorem dX1_isPerson_28 : decode cX1_isPerson 28 = .ok (.iconst 0, 1) := dk_3 (dk_at dksX1_isPerson_1 4 rfl rfl)
theorem dX1_isPerson_29 : decode cX1_isPerson 29 = .ok (.ireturn, 1) := dk_172 (dk_at dksX1_isPerson_1 5 rfl rfl)
abbrev cX1_put : ByteArray := prog_1_method_30_code
def yX1_put : MethodName := ⟨RX1, "put", "(II)Z"⟩
def dkwX1_put_1 : List UInt8 := [182, 0, 218, 154, 0, 5, 3, 172, 42, 180, 0, 39, 27, 28, 79, 4, 172]
abbrev dktX1_put_1 : List UInt8 := dkwX1_put_1 ++ []
def dkwX1_put_0 : List UInt8 := [42, 42, 27, 182, 0, 183, 153, 0, 15, 42, 28, 182, 0, 163, 153, 0, 7, 3, 167, 0, 4, 4]
abbrev dktX1_put_0 : List UInt8 := dkwX1_put_0 ++ dktX1_put_1
theorem dksX1_put_0 : cX1_put.data.toList.drop 0 = dktX1_put_0 := by decide +kernel
theorem dksX1_put_1 : cX1_put.data.toList.drop 22 = dktX1_put_1 := dk_seg dksX1_put_0 22 rfl rfl
theorem dX1_put_0 : decode cX1_put 0 = .ok (.aload_n 0, 1) := dk_42 (dk_at dksX1_put_0 0 rfl rfl)
theorem dX1_put_1 : decode cX1_put 1 = .ok (.aload_n 0, 1) := dk_42 (dk_at dksX1_put_0 1 rfl rfl)
theorem dX1_put_2 : decode cX1_put 2 = .ok (.iload_n 1, 1) := dk_27 (dk_at dksX1_put_0 2 rfl rfl)
theorem dX1_put_3 : decode cX1_put 3 = .ok (.invokevirtual 183, 3) := dk_182 0 183 (dk_at dksX1_put_0 3 rfl rfl)
theorem dX1_put_6 : decode cX1_put 6 = .ok (.ifCond .eq 15, 3) := dk_153 0 15 (dk_at dksX1_put_0 6 rfl rfl)
theorem dX1_put_9 : decode cX1_put 9 = .ok (.aload_n 0, 1) := dk_42 (dk_at dksX1_put_0 9 rfl rfl)
theorem dX1_put_10 : decode cX1_put 10 = .ok (.iload_n 2, 1) := dk_28 (dk_at dksX1_put_0 10 rfl rfl)
theorem dX1_put_11 : decode cX1_put 11 = .ok (.invokevirtual 163, 3) := dk_182 0 163 (dk_at dksX1_put_0 11 rfl rfl)
theorem dX1_put_14 : decode cX1_put 14 = .ok (.ifCond .eq 7, 3) := dk_153 0 7 (dk_at dksX1_put_0 14 rfl rfl)
theorem dX1_put_17 : decode cX1_put 17 = .ok (.iconst 0, 1) := dk_3 (dk_at dksX1_put_0 17 rfl rfl)
theorem dX1_put_18 : decode cX1_put 18 = .ok (.goto 4, 3) := dk_167 0 4 (dk_at dksX1_put_0 18 rfl rfl)
theorem dX1_put_21 : decode cX1_put 21 = .ok (.iconst 1, 1) := dk_4 (dk_at dksX1_put_0 21 rfl rfl)
theorem dX1_put_22 : decode cX1_put 22 = .ok (.invokevirtual 218, 3) := dk_182 0 218 (dk_at dksX1_put_1 0 rfl rfl)
theorem dX1_put_25 : decode cX1_put 25 = .ok (.ifCond .ne 5, 3) := dk_154 0 5 (dk_at dksX1_put_1 3 rfl rfl)
theorem dX1_put_28 : decode cX1_put 28 = .ok (.iconst 0, 1) := dk_3 (dk_at dksX1_put_1 6 rfl rfl)
theorem dX1_put_29 : decode cX1_put 29 = .ok (.ireturn, 1) := dk_172 (dk_at dksX1_put_1 7 rfl rfl)
theorem dX1_put_30 : decode cX1_put 30 = .ok (.aload_n 0, 1) := dk_42 (dk_at dksX1_put_1 8 rfl rfl)
theorem dX1_put_31 : decode cX1_put 31 = .ok (.getfield 39, 3) := dk_180 0 39 (dk_at dksX1_put_1 9 rfl rfl)
theorem dX1_put_34 : decode cX1_put 34 = .ok (.iload_n 1, 1) := dk_27 (dk_at dksX1_put_1 12 rfl rfl)
theorem dX1_put_35 : decode cX1_put 35 = .ok (.iload_n 2, 1) := dk_28 (dk_at dksX1_put_1 13 rfl rfl)
theorem dX1_put_36 : decode cX1_put 36 = .ok (.iastore, 1) := dk_79 (dk_at dksX1_put_1 14 rfl rfl)
theorem dX1_put_37 : decode cX1_put 37 = .ok (.iconst 1, 1) := dk_4 (dk_at dksX1_put_1 15 rfl rfl)
theorem dX1_put_38 : decode cX1_put 38 = .ok (.ireturn, 1) := dk_172 (dk_at dksX1_put_1 16 rfl rfl)
abbrev cX1_yes : ByteArray := prog_1_method_8_code
def yX1_yes : MethodName := ⟨RX1, "yes", "(I)Z"⟩
def dkwX1_yes_0 : List UInt8 := [42, 182, 0, 84, 42, 27, 181, 0, 81, 27, 154, 0, 7, 4, 167, 0, 4, 3, 172]
abbrev dktX1_yes_0 : List UInt8 := dkwX1_yes_0 ++ []
theorem dksX1_yes_0 : cX1_yes.data.toList.drop 0 = dktX1_yes_0 := by decide +kernel
theorem dX1_yes_0 : decode cX1_yes 0 = .ok (.aload_n 0, 1) := dk_42 (dk_at dksX1_yes_0 0 rfl rfl)
theorem dX1_yes_1 : decode cX1_yes 1 = .ok (.invokevirtual 84, 3) := dk_182 0 84 (dk_at dksX1_yes_0 1 rfl rfl)
theorem dX1_yes_4 : decode cX1_yes 4 = .ok (.aload_n 0, 1) := dk_42 (dk_at dksX1_yes_0 4 rfl rfl)
theorem dX1_yes_5 : decode cX1_yes 5 = .ok (.iload_n 1, 1) := dk_27 (dk_at dksX1_yes_0 5 rfl rfl)
theorem dX1_yes_6 : decode cX1_yes 6 = .ok (.putfield 81, 3) := dk_181 0 81 (dk_at dksX1_yes_0 6 rfl rfl)
theorem dX1_yes_9 : decode cX1_yes 9 = .ok (.iload_n 1, 1) := dk_27 (dk_at dksX1_yes_0 9 rfl rfl)
theorem dX1_yes_10 : decode cX1_yes 10 = .ok (.ifCond .ne 7, 3) := dk_154 0 7 (dk_at dksX1_yes_0 10 rfl rfl)
theorem dX1_yes_13 : decode cX1_yes 13 = .ok (.iconst 1, 1) := dk_4 (dk_at dksX1_yes_0 13 rfl rfl)
theorem dX1_yes_14 : decode cX1_yes 14 = .ok (.goto 4, 3) := dk_167 0 4 (dk_at dksX1_yes_0 14 rfl rfl)
theorem dX1_yes_17 : decode cX1_yes 17 = .ok (.iconst 0, 1) := dk_3 (dk_at dksX1_yes_0 17 rfl rfl)
theorem dX1_yes_18 : decode cX1_yes 18 = .ok (.ireturn, 1) := dk_172 (dk_at dksX1_yes_0 18 rfl rfl)
abbrev cX1_time : ByteArray := prog_1_method_31_code
def yX1_time : MethodName := ⟨RX1, "time", "(I)Z"⟩
def dkwX1_time_1 : List UInt8 := [167, 0, 4, 5, 182, 0, 218, 154, 0, 5, 3, 172, 42, 27, 181, 0, 131, 4, 172]
abbrev dktX1_time_1 : List UInt8 := dkwX1_time_1 ++ []
def dkwX1_time_0 : List UInt8 := [42, 42, 180, 0, 109, 199, 0, 7, 4, 167, 0, 18, 27, 3, 16, 99, 184, 0, 94, 153, 0, 7, 3]
abbrev dktX1_time_0 : List UInt8 := dkwX1_time_0 ++ dktX1_time_1
theorem dksX1_time_0 : cX1_time.data.toList.drop 0 = dktX1_time_0 := by decide +kernel
theorem dksX1_time_1 : cX1_time.data.toList.drop 23 = dktX1_time_1 := dk_seg dksX1_time_0 23 rfl rfl
theorem dX1_time_0 : decode cX1_time 0 = .ok (.aload_n 0, 1) := dk_42 (dk_at dksX1_time_0 0 rfl rfl)
theorem dX1_time_1 : decode cX1_time 1 = .ok (.aload_n 0, 1) := dk_42 (dk_at dksX1_time_0 1 rfl rfl)
theorem dX1_time_2 : decode cX1_time 2 = .ok (.getfield 109, 3) := dk_180 0 109 (dk_at dksX1_time_0 2 rfl rfl)
theorem dX1_time_5 : decode cX1_time 5 = .ok (.ifnonnull 7, 3) := dk_199 0 7 (dk_at dksX1_time_0 5 rfl rfl)
theorem dX1_time_8 : decode cX1_time 8 = .ok (.iconst 1, 1) := dk_4 (dk_at dksX1_time_0 8 rfl rfl)
theorem dX1_time_9 : decode cX1_time 9 = .ok (.goto 18, 3) := dk_167 0 18 (dk_at dksX1_time_0 9 rfl rfl)
theorem dX1_time_12 : decode cX1_time 12 = .ok (.iload_n 1, 1) := dk_27 (dk_at dksX1_time_0 12 rfl rfl)
theorem dX1_time_13 : decode cX1_time 13 = .ok (.iconst 0, 1) := dk_3 (dk_at dksX1_time_0 13 rfl rfl)
theorem dX1_time_14 : decode cX1_time 14 = .ok (.bipush 99, 2) := dk_16 99 (dk_at dksX1_time_0 14 rfl rfl)
theorem dX1_time_16 : decode cX1_time 16 = .ok (.invokestatic 94, 3) := dk_184 0 94 (dk_at dksX1_time_0 16 rfl rfl)
theorem dX1_time_19 : decode cX1_time 19 = .ok (.ifCond .eq 7, 3) := dk_153 0 7 (dk_at dksX1_time_0 19 rfl rfl)
theorem dX1_time_22 : decode cX1_time 22 = .ok (.iconst 0, 1) := dk_3 (dk_at dksX1_time_0 22 rfl rfl)
theorem dX1_time_23 : decode cX1_time 23 = .ok (.goto 4, 3) := dk_167 0 4 (dk_at dksX1_time_1 0 rfl rfl)
theorem dX1_time_26 : decode cX1_time 26 = .ok (.iconst 2, 1) := dk_5 (dk_at dksX1_time_1 3 rfl rfl)
theorem dX1_time_27 : decode cX1_time 27 = .ok (.invokevirtual 218, 3) := dk_182 0 218 (dk_at dksX1_time_1 4 rfl rfl)
theorem dX1_time_30 : decode cX1_time 30 = .ok (.ifCond .ne 5, 3) := dk_154 0 5 (dk_at dksX1_time_1 7 rfl rfl)
theorem dX1_time_33 : decode cX1_time 33 = .ok (.iconst 0, 1) := dk_3 (dk_at dksX1_time_1 10 rfl rfl)
theorem dX1_time_34 : decode cX1_time 34 = .ok (.ireturn, 1) := dk_172 (dk_at dksX1_time_1 11 rfl rfl)
theorem dX1_time_35 : decode cX1_time 35 = .ok (.aload_n 0, 1) := dk_42 (dk_at dksX1_time_1 12 rfl rfl)
theorem dX1_time_36 : decode cX1_time 36 = .ok (.iload_n 1, 1) := dk_27 (dk_at dksX1_time_1 13 rfl rfl)
theorem dX1_time_37 : decode cX1_time 37 = .ok (.putfield 131, 3) := dk_181 0 131 (dk_at dksX1_time_1 14 rfl rfl)
theorem dX1_time_40 : decode cX1_time 40 = .ok (.iconst 1, 1) := dk_4 (dk_at dksX1_time_1 17 rfl rfl)
theorem dX1_time_41 : decode cX1_time 41 = .ok (.ireturn, 1) := dk_172 (dk_at dksX1_time_1 18 rfl rfl)
abbrev cX1_at : ByteArray := prog_1_method_32_code
def yX1_at : MethodName := ⟨RX1, "at", "(I)I"⟩
def dkwX1_at_1 : List UInt8 := [182, 0, 98, 172]
abbrev dktX1_at_1 : List UInt8 := dkwX1_at_1 ++ []
def dkwX1_at_0 : List UInt8 := [42, 182, 0, 84, 42, 27, 182, 0, 183, 153, 0, 12, 42, 180, 0, 39, 27, 46, 167, 0, 8, 42, 4]
abbrev dktX1_at_0 : List UInt8 := dkwX1_at_0 ++ dktX1_at_1
theorem dksX1_at_0 : cX1_at.data.toList.drop 0 = dktX1_at_0 := by decide +kernel
theorem dksX1_at_1 : cX1_at.data.toList.drop 23 = dktX1_at_1 := dk_seg dksX1_at_0 23 rfl rfl
theorem dX1_at_0 : decode cX1_at 0 = .ok (.aload_n 0, 1) := dk_42 (dk_at dksX1_at_0 0 rfl rfl)
theorem dX1_at_1 : decode cX1_at 1 = .ok (.invokevirtual 84, 3) := dk_182 0 84 (dk_at dksX1_at_0 1 rfl rfl)
theorem dX1_at_4 : decode cX1_at 4 = .ok (.aload_n 0, 1) := dk_42 (dk_at dksX1_at_0 4 rfl rfl)
theorem dX1_at_5 : decode cX1_at 5 = .ok (.iload_n 1, 1) := dk_27 (dk_at dksX1_at_0 5 rfl rfl)
theorem dX1_at_6 : decode cX1_at 6 = .ok (.invokevirtual 183, 3) := dk_182 0 183 (dk_at dksX1_at_0 6 rfl rfl)
theorem dX1_at_9 : decode cX1_at 9 = .ok (.ifCond .eq 12, 3) := dk_153 0 12 (dk_at dksX1_at_0 9 rfl rfl)
theorem dX1_at_12 : decode cX1_at 12 = .ok (.aload_n 0, 1) := dk_42 (dk_at dksX1_at_0 12 rfl rfl)
theorem dX1_at_13 : decode cX1_at 13 = .ok (.getfield 39, 3) := dk_180 0 39 (dk_at dksX1_at_0 13 rfl rfl)
theorem dX1_at_16 : decode cX1_at 16 = .ok (.iload_n 1, 1) := dk_27 (dk_at dksX1_at_0 16 rfl rfl)
theorem dX1_at_17 : decode cX1_at 17 = .ok (.iaload, 1) := dk_46 (dk_at dksX1_at_0 17 rfl rfl)
theorem dX1_at_18 : decode cX1_at 18 = .ok (.goto 8, 3) := dk_167 0 8 (dk_at dksX1_at_0 18 rfl rfl)
theorem dX1_at_21 : decode cX1_at 21 = .ok (.aload_n 0, 1) := dk_42 (dk_at dksX1_at_0 21 rfl rfl)
theorem dX1_at_22 : decode cX1_at 22 = .ok (.iconst 1, 1) := dk_4 (dk_at dksX1_at_0 22 rfl rfl)
theorem dX1_at_23 : decode cX1_at 23 = .ok (.invokevirtual 98, 3) := dk_182 0 98 (dk_at dksX1_at_1 0 rfl rfl)
theorem dX1_at_26 : decode cX1_at 26 = .ok (.ireturn, 1) := dk_172 (dk_at dksX1_at_1 3 rfl rfl)
abbrev cX1_unseen : ByteArray := prog_1_method_33_code
def yX1_unseen : MethodName := ⟨RX1, "unseen", "()I"⟩
def dkwX1_unseen_1 : List UInt8 := [42, 42, 180, 0, 131, 3, 182, 0, 210, 42, 42, 180, 0, 131, 182, 0, 166, 182, 0, 206, 172]
abbrev dktX1_unseen_1 : List UInt8 := dkwX1_unseen_1 ++ []
def dkwX1_unseen_0 : List UInt8 := [42, 182, 0, 84, 42, 180, 0, 109, 199, 0, 11, 42, 4, 182, 0, 98, 167, 0, 28, 42, 42, 180, 0, 39]
abbrev dktX1_unseen_0 : List UInt8 := dkwX1_unseen_0 ++ dktX1_unseen_1
theorem dksX1_unseen_0 : cX1_unseen.data.toList.drop 0 = dktX1_unseen_0 := by decide +kernel
theorem dksX1_unseen_1 : cX1_unseen.data.toList.drop 24 = dktX1_unseen_1 := dk_seg dksX1_unseen_0 24 rfl rfl
theorem dX1_unseen_0 : decode cX1_unseen 0 = .ok (.aload_n 0, 1) := dk_42 (dk_at dksX1_unseen_0 0 rfl rfl)
theorem dX1_unseen_1 : decode cX1_unseen 1 = .ok (.invokevirtual 84, 3) := dk_182 0 84 (dk_at dksX1_unseen_0 1 rfl rfl)
theorem dX1_unseen_4 : decode cX1_unseen 4 = .ok (.aload_n 0, 1) := dk_42 (dk_at dksX1_unseen_0 4 rfl rfl)
theorem dX1_unseen_5 : decode cX1_unseen 5 = .ok (.getfield 109, 3) := dk_180 0 109 (dk_at dksX1_unseen_0 5 rfl rfl)
theorem dX1_unseen_8 : decode cX1_unseen 8 = .ok (.ifnonnull 11, 3) := dk_199 0 11 (dk_at dksX1_unseen_0 8 rfl rfl)
theorem dX1_unseen_11 : decode cX1_unseen 11 = .ok (.aload_n 0, 1) := dk_42 (dk_at dksX1_unseen_0 11 rfl rfl)
theorem dX1_unseen_12 : decode cX1_unseen 12 = .ok (.iconst 1, 1) := dk_4 (dk_at dksX1_unseen_0 12 rfl rfl)
theorem dX1_unseen_13 : decode cX1_unseen 13 = .ok (.invokevirtual 98, 3) := dk_182 0 98 (dk_at dksX1_unseen_0 13 rfl rfl)
theorem dX1_unseen_16 : decode cX1_unseen 16 = .ok (.goto 28, 3) := dk_167 0 28 (dk_at dksX1_unseen_0 16 rfl rfl)
theorem dX1_unseen_19 : decode cX1_unseen 19 = .ok (.aload_n 0, 1) := dk_42 (dk_at dksX1_unseen_0 19 rfl rfl)
theorem dX1_unseen_20 : decode cX1_unseen 20 = .ok (.aload_n 0, 1) := dk_42 (dk_at dksX1_unseen_0 20 rfl rfl)
theorem dX1_unseen_21 : decode cX1_unseen 21 = .ok (.getfield 39, 3) := dk_180 0 39 (dk_at dksX1_unseen_0 21 rfl rfl)
theorem dX1_unseen_24 : decode cX1_unseen 24 = .ok (.aload_n 0, 1) := dk_42 (dk_at dksX1_unseen_1 0 rfl rfl)
theorem dX1_unseen_25 : decode cX1_unseen 25 = .ok (.aload_n 0, 1) := dk_42 (dk_at dksX1_unseen_1 1 rfl rfl)
theorem dX1_unseen_26 : decode cX1_unseen 26 = .ok (.getfield 131, 3) := dk_180 0 131 (dk_at dksX1_unseen_1 2 rfl rfl)
theorem dX1_unseen_29 : decode cX1_unseen 29 = .ok (.iconst 0, 1) := dk_3 (dk_at dksX1_unseen_1 5 rfl rfl)
theorem dX1_unseen_30 : decode cX1_unseen 30 = .ok (.invokevirtual 210, 3) := dk_182 0 210 (dk_at dksX1_unseen_1 6 rfl rfl)
theorem dX1_unseen_33 : decode cX1_unseen 33 = .ok (.aload_n 0, 1) := dk_42 (dk_at dksX1_unseen_1 9 rfl rfl)
theorem dX1_unseen_34 : decode cX1_unseen 34 = .ok (.aload_n 0, 1) := dk_42 (dk_at dksX1_unseen_1 10 rfl rfl)
theorem dX1_unseen_35 : decode cX1_unseen 35 = .ok (.getfield 131, 3) := dk_180 0 131 (dk_at dksX1_unseen_1 11 rfl rfl)
theorem dX1_unseen_38 : decode cX1_unseen 38 = .ok (.invokevirtual 166, 3) := dk_182 0 166 (dk_at dksX1_unseen_1 14 rfl rfl)
theorem dX1_unseen_41 : decode cX1_unseen 41 = .ok (.invokevirtual 206, 3) := dk_182 0 206 (dk_at dksX1_unseen_1 17 rfl rfl)
theorem dX1_unseen_44 : decode cX1_unseen 44 = .ok (.ireturn, 1) := dk_172 (dk_at dksX1_unseen_1 20 rfl rfl)
abbrev cX1_watching : ByteArray := prog_1_method_25_code
def yX1_watching : MethodName := ⟨RX1, "watching", "(II)I"⟩
def dkwX1_watching_2 : List UInt8 := [167, 0, 4, 3, 128, 62, 132, 4, 1, 167, 255, 204, 29, 172]
abbrev dktX1_watching_2 : List UInt8 := dkwX1_watching_2 ++ []
def dkwX1_watching_1 : List UInt8 := [154, 0, 27, 42, 180, 0, 109, 180, 0, 140, 21, 4, 50, 27, 182, 0, 186, 153, 0, 10, 4, 21, 4, 120]
abbrev dktX1_watching_1 : List UInt8 := dkwX1_watching_1 ++ dktX1_watching_2
def dkwX1_watching_0 : List UInt8 := [3, 62, 3, 54, 4, 21, 4, 42, 180, 0, 109, 180, 0, 137, 162, 0, 46, 29, 28, 21, 4, 184, 0, 189]
abbrev dktX1_watching_0 : List UInt8 := dkwX1_watching_0 ++ dktX1_watching_1
theorem dksX1_watching_0 : cX1_watching.data.toList.drop 0 = dktX1_watching_0 := by decide +kernel
theorem dksX1_watching_1 : cX1_watching.data.toList.drop 24 = dktX1_watching_1 := dk_seg dksX1_watching_0 24 rfl rfl
theorem dksX1_watching_2 : cX1_watching.data.toList.drop 48 = dktX1_watching_2 := dk_seg dksX1_watching_1 24 rfl rfl
theorem dX1_watching_0 : decode cX1_watching 0 = .ok (.iconst 0, 1) := dk_3 (dk_at dksX1_watching_0 0 rfl rfl)
theorem dX1_watching_1 : decode cX1_watching 1 = .ok (.istore_n 3, 1) := dk_62 (dk_at dksX1_watching_0 1 rfl rfl)
theorem dX1_watching_2 : decode cX1_watching 2 = .ok (.iconst 0, 1) := dk_3 (dk_at dksX1_watching_0 2 rfl rfl)
theorem dX1_watching_3 : decode cX1_watching 3 = .ok (.istore 4, 2) := dk_54 4 (dk_at dksX1_watching_0 3 rfl rfl)
theorem dX1_watching_5 : decode cX1_watching 5 = .ok (.iload 4, 2) := dk_21 4 (dk_at dksX1_watching_0 5 rfl rfl)
theorem dX1_watching_7 : decode cX1_watching 7 = .ok (.aload_n 0, 1) := dk_42 (dk_at dksX1_watching_0 7 rfl rfl)
theorem dX1_watching_8 : decode cX1_watching 8 = .ok (.getfield 109, 3) := dk_180 0 109 (dk_at dksX1_watching_0 8 rfl rfl)
theorem dX1_watching_11 : decode cX1_watching 11 = .ok (.getfield 137, 3) := dk_180 0 137 (dk_at dksX1_watching_0 11 rfl rfl)
theorem dX1_watching_14 : decode cX1_watching 14 = .ok (.if_icmp .ge 46, 3) := dk_162 0 46 (dk_at dksX1_watching_0 14 rfl rfl)
theorem dX1_watching_17 : decode cX1_watching 17 = .ok (.iload_n 3, 1) := dk_29 (dk_at dksX1_watching_0 17 rfl rfl)
theorem dX1_watching_18 : decode cX1_watching 18 = .ok (.iload_n 2, 1) := dk_28 (dk_at dksX1_watching_0 18 rfl rfl)
theorem dX1_watching_19 : decode cX1_watching 19 = .ok (.iload 4, 2) := dk_21 4 (dk_at dksX1_watching_0 19 rfl rfl)
theorem dX1_watching_21 : decode cX1_watching 21 = .ok (.invokestatic 189, 3) := dk_184 0 189 (dk_at dksX1_watching_0 21 rfl rfl)
theorem dX1_watching_24 : decode cX1_watching 24 = .ok (.ifCond .ne 27, 3) := dk_154 0 27 (dk_at dksX1_watching_1 0 rfl rfl)
theorem dX1_watching_27 : decode cX1_watching 27 = .ok (.aload_n 0, 1) := dk_42 (dk_at dksX1_watching_1 3 rfl rfl)
theorem dX1_watching_28 : decode cX1_watching 28 = .ok (.getfield 109, 3) := dk_180 0 109 (dk_at dksX1_watching_1 4 rfl rfl)
theorem dX1_watching_31 : decode cX1_watching 31 = .ok (.getfield 140, 3) := dk_180 0 140 (dk_at dksX1_watching_1 7 rfl rfl)
theorem dX1_watching_34 : decode cX1_watching 34 = .ok (.iload 4, 2) := dk_21 4 (dk_at dksX1_watching_1 10 rfl rfl)
theorem dX1_watching_36 : decode cX1_watching 36 = .ok (.aaload, 1) := dk_50 (dk_at dksX1_watching_1 12 rfl rfl)
theorem dX1_watching_37 : decode cX1_watching 37 = .ok (.iload_n 1, 1) := dk_27 (dk_at dksX1_watching_1 13 rfl rfl)
theorem dX1_watching_38 : decode cX1_watching 38 = .ok (.invokevirtual 186, 3) := dk_182 0 186 (dk_at dksX1_watching_1 14 rfl rfl)
theorem dX1_watching_41 : decode cX1_watching 41 = .ok (.ifCond .eq 10, 3) := dk_153 0 10 (dk_at dksX1_watching_1 17 rfl rfl)
theorem dX1_watching_44 : decode cX1_watching 44 = .ok (.iconst 1, 1) := dk_4 (dk_at dksX1_watching_1 20 rfl rfl)
theorem dX1_watching_45 : decode cX1_watching 45 = .ok (.iload 4, 2) := dk_21 4 (dk_at dksX1_watching_1 21 rfl rfl)
theorem dX1_watching_47 : decode cX1_watching 47 = .ok (.ishl, 1) := dk_120 (dk_at dksX1_watching_1 23 rfl rfl)
theorem dX1_watching_48 : decode cX1_watching 48 = .ok (.goto 4, 3) := dk_167 0 4 (dk_at dksX1_watching_2 0 rfl rfl)
theorem dX1_watching_51 : decode cX1_watching 51 = .ok (.iconst 0, 1) := dk_3 (dk_at dksX1_watching_2 3 rfl rfl)
theorem dX1_watching_52 : decode cX1_watching 52 = .ok (.ior, 1) := dk_128 (dk_at dksX1_watching_2 4 rfl rfl)
theorem dX1_watching_53 : decode cX1_watching 53 = .ok (.istore_n 3, 1) := dk_62 (dk_at dksX1_watching_2 5 rfl rfl)
theorem dX1_watching_54 : decode cX1_watching 54 = .ok (.iinc 4 1, 3) := dk_132 4 1 (dk_at dksX1_watching_2 6 rfl rfl)
theorem dX1_watching_57 : decode cX1_watching 57 = .ok (.goto (-52), 3) := dk_167 255 204 (dk_at dksX1_watching_2 9 rfl rfl)
theorem dX1_watching_60 : decode cX1_watching 60 = .ok (.iload_n 3, 1) := dk_29 (dk_at dksX1_watching_2 12 rfl rfl)
theorem dX1_watching_61 : decode cX1_watching 61 = .ok (.ireturn, 1) := dk_172 (dk_at dksX1_watching_2 13 rfl rfl)
abbrev cX1_unseenAt : ByteArray := prog_1_method_27_code
def yX1_unseenAt : MethodName := ⟨RX1, "unseenAt", "([IILNeverUnseen$Sight;)I"⟩
def dkwX1_unseenAt_2 : List UInt8 := [167, 255, 216, 21, 4, 172]
abbrev dktX1_unseenAt_2 : List UInt8 := dkwX1_unseenAt_2 ++ []
def dkwX1_unseenAt_1 : List UInt8 := [28, 45, 182, 0, 193, 154, 0, 10, 4, 21, 5, 120, 167, 0, 4, 3, 128, 54, 4, 132, 5, 1]
abbrev dktX1_unseenAt_1 : List UInt8 := dkwX1_unseenAt_1 ++ dktX1_unseenAt_2
def dkwX1_unseenAt_0 : List UInt8 := [3, 54, 4, 3, 54, 5, 21, 5, 42, 180, 0, 109, 180, 0, 137, 162, 0, 34, 21, 4, 42, 43, 21, 5]
abbrev dktX1_unseenAt_0 : List UInt8 := dkwX1_unseenAt_0 ++ dktX1_unseenAt_1
theorem dksX1_unseenAt_0 : cX1_unseenAt.data.toList.drop 0 = dktX1_unseenAt_0 := by decide +kernel
theorem dksX1_unseenAt_1 : cX1_unseenAt.data.toList.drop 24 = dktX1_unseenAt_1 := dk_seg dksX1_unseenAt_0 24 rfl rfl
theorem dksX1_unseenAt_2 : cX1_unseenAt.data.toList.drop 46 = dktX1_unseenAt_2 := dk_seg dksX1_unseenAt_1 22 rfl rfl
theorem dX1_unseenAt_0 : decode cX1_unseenAt 0 = .ok (.iconst 0, 1) := dk_3 (dk_at dksX1_unseenAt_0 0 rfl rfl)
theorem dX1_unseenAt_1 : decode cX1_unseenAt 1 = .ok (.istore 4, 2) := dk_54 4 (dk_at dksX1_unseenAt_0 1 rfl rfl)
theorem dX1_unseenAt_3 : decode cX1_unseenAt 3 = .ok (.iconst 0, 1) := dk_3 (dk_at dksX1_unseenAt_0 3 rfl rfl)
theorem dX1_unseenAt_4 : decode cX1_unseenAt 4 = .ok (.istore 5, 2) := dk_54 5 (dk_at dksX1_unseenAt_0 4 rfl rfl)
theorem dX1_unseenAt_6 : decode cX1_unseenAt 6 = .ok (.iload 5, 2) := dk_21 5 (dk_at dksX1_unseenAt_0 6 rfl rfl)
theorem dX1_unseenAt_8 : decode cX1_unseenAt 8 = .ok (.aload_n 0, 1) := dk_42 (dk_at dksX1_unseenAt_0 8 rfl rfl)
theorem dX1_unseenAt_9 : decode cX1_unseenAt 9 = .ok (.getfield 109, 3) := dk_180 0 109 (dk_at dksX1_unseenAt_0 9 rfl rfl)
theorem dX1_unseenAt_12 : decode cX1_unseenAt 12 = .ok (.getfield 137, 3) := dk_180 0 137 (dk_at dksX1_unseenAt_0 12 rfl rfl)
theorem dX1_unseenAt_15 : decode cX1_unseenAt 15 = .ok (.if_icmp .ge 34, 3) := dk_162 0 34 (dk_at dksX1_unseenAt_0 15 rfl rfl)
theorem dX1_unseenAt_18 : decode cX1_unseenAt 18 = .ok (.iload 4, 2) := dk_21 4 (dk_at dksX1_unseenAt_0 18 rfl rfl)
theorem dX1_unseenAt_20 : decode cX1_unseenAt 20 = .ok (.aload_n 0, 1) := dk_42 (dk_at dksX1_unseenAt_0 20 rfl rfl)
theorem dX1_unseenAt_21 : decode cX1_unseenAt 21 = .ok (.aload_n 1, 1) := dk_43 (dk_at dksX1_unseenAt_0 21 rfl rfl)
theorem dX1_unseenAt_22 : decode cX1_unseenAt 22 = .ok (.iload 5, 2) := dk_21 5 (dk_at dksX1_unseenAt_0 22 rfl rfl)
theorem dX1_unseenAt_24 : decode cX1_unseenAt 24 = .ok (.iload_n 2, 1) := dk_28 (dk_at dksX1_unseenAt_1 0 rfl rfl)
theorem dX1_unseenAt_25 : decode cX1_unseenAt 25 = .ok (.aload_n 3, 1) := dk_45 (dk_at dksX1_unseenAt_1 1 rfl rfl)
theorem dX1_unseenAt_26 : decode cX1_unseenAt 26 = .ok (.invokevirtual 193, 3) := dk_182 0 193 (dk_at dksX1_unseenAt_1 2 rfl rfl)
theorem dX1_unseenAt_29 : decode cX1_unseenAt 29 = .ok (.ifCond .ne 10, 3) := dk_154 0 10 (dk_at dksX1_unseenAt_1 5 rfl rfl)
theorem dX1_unseenAt_32 : decode cX1_unseenAt 32 = .ok (.iconst 1, 1) := dk_4 (dk_at dksX1_unseenAt_1 8 rfl rfl)
theorem dX1_unseenAt_33 : decode cX1_unseenAt 33 = .ok (.iload 5, 2) := dk_21 5 (dk_at dksX1_unseenAt_1 9 rfl rfl)
theorem dX1_unseenAt_35 : decode cX1_unseenAt 35 = .ok (.ishl, 1) := dk_120 (dk_at dksX1_unseenAt_1 11 rfl rfl)
theorem dX1_unseenAt_36 : decode cX1_unseenAt 36 = .ok (.goto 4, 3) := dk_167 0 4 (dk_at dksX1_unseenAt_1 12 rfl rfl)
theorem dX1_unseenAt_39 : decode cX1_unseenAt 39 = .ok (.iconst 0, 1) := dk_3 (dk_at dksX1_unseenAt_1 15 rfl rfl)
theorem dX1_unseenAt_40 : decode cX1_unseenAt 40 = .ok (.ior, 1) := dk_128 (dk_at dksX1_unseenAt_1 16 rfl rfl)
theorem dX1_unseenAt_41 : decode cX1_unseenAt 41 = .ok (.istore 4, 2) := dk_54 4 (dk_at dksX1_unseenAt_1 17 rfl rfl)
theorem dX1_unseenAt_43 : decode cX1_unseenAt 43 = .ok (.iinc 5 1, 3) := dk_132 5 1 (dk_at dksX1_unseenAt_1 19 rfl rfl)
theorem dX1_unseenAt_46 : decode cX1_unseenAt 46 = .ok (.goto (-40), 3) := dk_167 255 216 (dk_at dksX1_unseenAt_2 0 rfl rfl)
theorem dX1_unseenAt_49 : decode cX1_unseenAt 49 = .ok (.iload 4, 2) := dk_21 4 (dk_at dksX1_unseenAt_2 3 rfl rfl)
theorem dX1_unseenAt_51 : decode cX1_unseenAt 51 = .ok (.ireturn, 1) := dk_172 (dk_at dksX1_unseenAt_2 5 rfl rfl)
abbrev cX1_watchersOf : ByteArray := prog_1_method_26_code
def yX1_watchersOf : MethodName := ⟨RX1, "watchersOf", "([IIILNeverUnseen$Sight;)I"⟩
def dkwX1_watchersOf_3 : List UInt8 := [21, 5, 172]
abbrev dktX1_watchersOf_3 : List UInt8 := dkwX1_watchersOf_3 ++ []
def dkwX1_watchersOf_2 : List UInt8 := [184, 0, 189, 153, 0, 10, 4, 21, 6, 120, 167, 0, 4, 3, 128, 54, 5, 132, 6, 1, 167, 255, 195]
abbrev dktX1_watchersOf_2 : List UInt8 := dkwX1_watchersOf_2 ++ dktX1_watchersOf_3
def dkwX1_watchersOf_1 : List UInt8 := [159, 0, 37, 29, 21, 6, 184, 0, 189, 153, 0, 28, 25, 4, 43, 21, 6, 46, 182, 0, 173, 43, 28, 46]
abbrev dktX1_watchersOf_1 : List UInt8 := dkwX1_watchersOf_1 ++ dktX1_watchersOf_2
def dkwX1_watchersOf_0 : List UInt8 := [3, 54, 5, 3, 54, 6, 21, 6, 42, 180, 0, 109, 180, 0, 137, 162, 0, 55, 21, 5, 21, 6, 28]
abbrev dktX1_watchersOf_0 : List UInt8 := dkwX1_watchersOf_0 ++ dktX1_watchersOf_1
theorem dksX1_watchersOf_0 : cX1_watchersOf.data.toList.drop 0 = dktX1_watchersOf_0 := by decide +kernel
theorem dksX1_watchersOf_1 : cX1_watchersOf.data.toList.drop 23 = dktX1_watchersOf_1 := dk_seg dksX1_watchersOf_0 23 rfl rfl
theorem dksX1_watchersOf_2 : cX1_watchersOf.data.toList.drop 47 = dktX1_watchersOf_2 := dk_seg dksX1_watchersOf_1 24 rfl rfl
theorem dksX1_watchersOf_3 : cX1_watchersOf.data.toList.drop 70 = dktX1_watchersOf_3 := dk_seg dksX1_watchersOf_2 23 rfl rfl
theorem dX1_watchersOf_0 : decode cX1_watchersOf 0 = .ok (.iconst 0, 1) := dk_3 (dk_at dksX1_watchersOf_0 0 rfl rfl)
theorem dX1_watchersOf_1 : decode cX1_watchersOf 1 = .ok (.istore 5, 2) := dk_54 5 (dk_at dksX1_watchersOf_0 1 rfl rfl)
theorem dX1_watchersOf_3 : decode cX1_watchersOf 3 = .ok (.iconst 0, 1) := dk_3 (dk_at dksX1_watchersOf_0 3 rfl rfl)
theorem dX1_watchersOf_4 : decode cX1_watchersOf 4 = .ok (.istore 6, 2) := dk_54 6 (dk_at dksX1_watchersOf_0 4 rfl rfl)
theorem dX1_watchersOf_6 : decode cX1_watchersOf 6 = .ok (.iload 6, 2) := dk_21 6 (dk_at dksX1_watchersOf_0 6 rfl rfl)
theorem dX1_watchersOf_8 : decode cX1_watchersOf 8 = .ok (.aload_n 0, 1) := dk_42 (dk_at dksX1_watchersOf_0 8 rfl rfl)
theorem dX1_watchersOf_9 : decode cX1_watchersOf 9 = .ok (.getfield 109, 3) := dk_180 0 109 (dk_at dksX1_watchersOf_0 9 rfl rfl)
theorem dX1_watchersOf_12 : decode cX1_watchersOf 12 = .ok (.getfield 137, 3) := dk_180 0 137 (dk_at dksX1_watchersOf_0 12 rfl rfl)
theorem dX1_watchersOf_15 : decode cX1_watchersOf 15 = .ok (.if_icmp .ge 55, 3) := dk_162 0 55 (dk_at dksX1_watchersOf_0 15 rfl rfl)
theorem dX1_watchersOf_18 : decode cX1_watchersOf 18 = .ok (.iload 5, 2) := dk_21 5 (dk_at dksX1_watchersOf_0 18 rfl rfl)
theorem dX1_watchersOf_20 : decode cX1_watchersOf 20 = .ok (.iload 6, 2) := dk_21 6 (dk_at dksX1_watchersOf_0 20 rfl rfl)
theorem dX1_watchersOf_22 : decode cX1_watchersOf 22 = .ok (.iload_n 2, 1) := dk_28 (dk_at dksX1_watchersOf_0 22 rfl rfl)
theorem dX1_watchersOf_23 : decode cX1_watchersOf 23 = .ok (.if_icmp .eq 37, 3) := dk_159 0 37 (dk_at dksX1_watchersOf_1 0 rfl rfl)
theorem dX1_watchersOf_26 : decode cX1_watchersOf 26 = .ok (.iload_n 3, 1) := dk_29 (dk_at dksX1_watchersOf_1 3 rfl rfl)
theorem dX1_watchersOf_27 : decode cX1_watchersOf 27 = .ok (.iload 6, 2) := dk_21 6 (dk_at dksX1_watchersOf_1 4 rfl rfl)
theorem dX1_watchersOf_29 : decode cX1_watchersOf 29 = .ok (.invokestatic 189, 3) := dk_184 0 189 (dk_at dksX1_watchersOf_1 6 rfl rfl)
theorem dX1_watchersOf_32 : decode cX1_watchersOf 32 = .ok (.ifCond .eq 28, 3) := dk_153 0 28 (dk_at dksX1_watchersOf_1 9 rfl rfl)
theorem dX1_watchersOf_35 : decode cX1_watchersOf 35 = .ok (.aload 4, 2) := dk_25 4 (dk_at dksX1_watchersOf_1 12 rfl rfl)
theorem dX1_watchersOf_37 : decode cX1_watchersOf 37 = .ok (.aload_n 1, 1) := dk_43 (dk_at dksX1_watchersOf_1 14 rfl rfl)
theorem dX1_watchersOf_38 : decode cX1_watchersOf 38 = .ok (.iload 6, 2) := dk_21 6 (dk_at dksX1_watchersOf_1 15 rfl rfl)
theorem dX1_watchersOf_40 : decode cX1_watchersOf 40 = .ok (.iaload, 1) := dk_46 (dk_at dksX1_watchersOf_1 17 rfl rfl)
theorem dX1_watchersOf_41 : decode cX1_watchersOf 41 = .ok (.invokevirtual 173, 3) := dk_182 0 173 (dk_at dksX1_watchersOf_1 18 rfl rfl)
theorem dX1_watchersOf_44 : decode cX1_watchersOf 44 = .ok (.aload_n 1, 1) := dk_43 (dk_at dksX1_watchersOf_1 21 rfl rfl)
theorem dX1_watchersOf_45 : decode cX1_watchersOf 45 = .ok (.iload_n 2, 1) := dk_28 (dk_at dksX1_watchersOf_1 22 rfl rfl)
theorem dX1_watchersOf_46 : decode cX1_watchersOf 46 = .ok (.iaload, 1) := dk_46 (dk_at dksX1_watchersOf_1 23 rfl rfl)
theorem dX1_watchersOf_47 : decode cX1_watchersOf 47 = .ok (.invokestatic 189, 3) := dk_184 0 189 (dk_at dksX1_watchersOf_2 0 rfl rfl)
theorem dX1_watchersOf_50 : decode cX1_watchersOf 50 = .ok (.ifCond .eq 10, 3) := dk_153 0 10 (dk_at dksX1_watchersOf_2 3 rfl rfl)
theorem dX1_watchersOf_53 : decode cX1_watchersOf 53 = .ok (.iconst 1, 1) := dk_4 (dk_at dksX1_watchersOf_2 6 rfl rfl)
theorem dX1_watchersOf_54 : decode cX1_watchersOf 54 = .ok (.iload 6, 2) := dk_21 6 (dk_at dksX1_watchersOf_2 7 rfl rfl)
theorem dX1_watchersOf_56 : decode cX1_watchersOf 56 = .ok (.ishl, 1) := dk_120 (dk_at dksX1_watchersOf_2 9 rfl rfl)
theorem dX1_watchersOf_57 : decode cX1_watchersOf 57 = .ok (.goto 4, 3) := dk_167 0 4 (dk_at dksX1_watchersOf_2 10 rfl rfl)
theorem dX1_watchersOf_60 : decode cX1_watchersOf 60 = .ok (.iconst 0, 1) := dk_3 (dk_at dksX1_watchersOf_2 13 rfl rfl)
theorem dX1_watchersOf_61 : decode cX1_watchersOf 61 = .ok (.ior, 1) := dk_128 (dk_at dksX1_watchersOf_2 14 rfl rfl)
theorem dX1_watchersOf_62 : decode cX1_watchersOf 62 = .ok (.istore 5, 2) := dk_54 5 (dk_at dksX1_watchersOf_2 15 rfl rfl)
theorem dX1_watchersOf_64 : decode cX1_watchersOf 64 = .ok (.iinc 6 1, 3) := dk_132 6 1 (dk_at dksX1_watchersOf_2 17 rfl rfl)
theorem dX1_watchersOf_67 : decode cX1_watchersOf 67 = .ok (.goto (-61), 3) := dk_167 255 195 (dk_at dksX1_watchersOf_2 20 rfl rfl)
theorem dX1_watchersOf_70 : decode cX1_watchersOf 70 = .ok (.iload 5, 2) := dk_21 5 (dk_at dksX1_watchersOf_3 0 rfl rfl)
theorem dX1_watchersOf_72 : decode cX1_watchersOf 72 = .ok (.ireturn, 1) := dk_172 (dk_at dksX1_watchersOf_3 2 rfl rfl)
abbrev cX1_lawful : ByteArray := prog_1_method_34_code
def yX1_lawful : MethodName := ⟨RX1, "lawful", "()I"⟩
def dkwX1_lawful_1 : List UInt8 := [42, 180, 0, 131, 182, 0, 221, 153, 0, 7, 4, 167, 0, 4, 3, 172]
abbrev dktX1_lawful_1 : List UInt8 := dkwX1_lawful_1 ++ []
def dkwX1_lawful_0 : List UInt8 := [42, 182, 0, 84, 42, 180, 0, 109, 199, 0, 11, 42, 4, 182, 0, 98, 167, 0, 23, 42, 42, 180, 0, 39]
abbrev dktX1_lawful_0 : List UInt8 := dkwX1_lawful_0 ++ dktX1_lawful_1
theorem dksX1_lawful_0 : cX1_lawful.data.toList.drop 0 = dktX1_lawful_0 := by decide +kernel
theorem dksX1_lawful_1 : cX1_lawful.data.toList.drop 24 = dktX1_lawful_1 := dk_seg dksX1_lawful_0 24 rfl rfl
theorem dX1_lawful_0 : decode cX1_lawful 0 = .ok (.aload_n 0, 1) := dk_42 (dk_at dksX1_lawful_0 0 rfl rfl)
theorem dX1_lawful_1 : decode cX1_lawful 1 = .ok (.invokevirtual 84, 3) := dk_182 0 84 (dk_at dksX1_lawful_0 1 rfl rfl)
theorem dX1_lawful_4 : decode cX1_lawful 4 = .ok (.aload_n 0, 1) := dk_42 (dk_at dksX1_lawful_0 4 rfl rfl)
theorem dX1_lawful_5 : decode cX1_lawful 5 = .ok (.getfield 109, 3) := dk_180 0 109 (dk_at dksX1_lawful_0 5 rfl rfl)
theorem dX1_lawful_8 : decode cX1_lawful 8 = .ok (.ifnonnull 11, 3) := dk_199 0 11 (dk_at dksX1_lawful_0 8 rfl rfl)
theorem dX1_lawful_11 : decode cX1_lawful 11 = .ok (.aload_n 0, 1) := dk_42 (dk_at dksX1_lawful_0 11 rfl rfl)
theorem dX1_lawful_12 : decode cX1_lawful 12 = .ok (.iconst 1, 1) := dk_4 (dk_at dksX1_lawful_0 12 rfl rfl)
theorem dX1_lawful_13 : decode cX1_lawful 13 = .ok (.invokevirtual 98, 3) := dk_182 0 98 (dk_at dksX1_lawful_0 13 rfl rfl)
theorem dX1_lawful_16 : decode cX1_lawful 16 = .ok (.goto 23, 3) := dk_167 0 23 (dk_at dksX1_lawful_0 16 rfl rfl)
theorem dX1_lawful_19 : decode cX1_lawful 19 = .ok (.aload_n 0, 1) := dk_42 (dk_at dksX1_lawful_0 19 rfl rfl)
theorem dX1_lawful_20 : decode cX1_lawful 20 = .ok (.aload_n 0, 1) := dk_42 (dk_at dksX1_lawful_0 20 rfl rfl)
theorem dX1_lawful_21 : decode cX1_lawful 21 = .ok (.getfield 39, 3) := dk_180 0 39 (dk_at dksX1_lawful_0 21 rfl rfl)
theorem dX1_lawful_24 : decode cX1_lawful 24 = .ok (.aload_n 0, 1) := dk_42 (dk_at dksX1_lawful_1 0 rfl rfl)
theorem dX1_lawful_25 : decode cX1_lawful 25 = .ok (.getfield 131, 3) := dk_180 0 131 (dk_at dksX1_lawful_1 1 rfl rfl)
theorem dX1_lawful_28 : decode cX1_lawful 28 = .ok (.invokevirtual 221, 3) := dk_182 0 221 (dk_at dksX1_lawful_1 4 rfl rfl)
theorem dX1_lawful_31 : decode cX1_lawful 31 = .ok (.ifCond .eq 7, 3) := dk_153 0 7 (dk_at dksX1_lawful_1 7 rfl rfl)
theorem dX1_lawful_34 : decode cX1_lawful 34 = .ok (.iconst 1, 1) := dk_4 (dk_at dksX1_lawful_1 10 rfl rfl)
theorem dX1_lawful_35 : decode cX1_lawful 35 = .ok (.goto 4, 3) := dk_167 0 4 (dk_at dksX1_lawful_1 11 rfl rfl)
theorem dX1_lawful_38 : decode cX1_lawful 38 = .ok (.iconst 0, 1) := dk_3 (dk_at dksX1_lawful_1 14 rfl rfl)
theorem dX1_lawful_39 : decode cX1_lawful 39 = .ok (.ireturn, 1) := dk_172 (dk_at dksX1_lawful_1 15 rfl rfl)
abbrev cX1_isLawfulAt : ByteArray := prog_1_method_29_code
def yX1_isLawfulAt : MethodName := ⟨RX1, "isLawfulAt", "([II)Z"⟩
def dkwX1_isLawfulAt_0 : List UInt8 := [42, 43, 42, 28, 3, 182, 0, 210, 42, 28, 182, 0, 166, 182, 0, 214, 172]
abbrev dktX1_isLawfulAt_0 : List UInt8 := dkwX1_isLawfulAt_0 ++ []
theorem dksX1_isLawfulAt_0 : cX1_isLawfulAt.data.toList.drop 0 = dktX1_isLawfulAt_0 := by decide +kernel
theorem dX1_isLawfulAt_0 : decode cX1_isLawfulAt 0 = .ok (.aload_n 0, 1) := dk_42 (dk_at dksX1_isLawfulAt_0 0 rfl rfl)
theorem dX1_isLawfulAt_1 : decode cX1_isLawfulAt 1 = .ok (.aload_n 1, 1) := dk_43 (dk_at dksX1_isLawfulAt_0 1 rfl rfl)
theorem dX1_isLawfulAt_2 : decode cX1_isLawfulAt 2 = .ok (.aload_n 0, 1) := dk_42 (dk_at dksX1_isLawfulAt_0 2 rfl rfl)
theorem dX1_isLawfulAt_3 : decode cX1_isLawfulAt 3 = .ok (.iload_n 2, 1) := dk_28 (dk_at dksX1_isLawfulAt_0 3 rfl rfl)
theorem dX1_isLawfulAt_4 : decode cX1_isLawfulAt 4 = .ok (.iconst 0, 1) := dk_3 (dk_at dksX1_isLawfulAt_0 4 rfl rfl)
theorem dX1_isLawfulAt_5 : decode cX1_isLawfulAt 5 = .ok (.invokevirtual 210, 3) := dk_182 0 210 (dk_at dksX1_isLawfulAt_0 5 rfl rfl)
theorem dX1_isLawfulAt_8 : decode cX1_isLawfulAt 8 = .ok (.aload_n 0, 1) := dk_42 (dk_at dksX1_isLawfulAt_0 8 rfl rfl)
theorem dX1_isLawfulAt_9 : decode cX1_isLawfulAt 9 = .ok (.iload_n 2, 1) := dk_28 (dk_at dksX1_isLawfulAt_0 9 rfl rfl)
theorem dX1_isLawfulAt_10 : decode cX1_isLawfulAt 10 = .ok (.invokevirtual 166, 3) := dk_182 0 166 (dk_at dksX1_isLawfulAt_0 10 rfl rfl)
theorem dX1_isLawfulAt_13 : decode cX1_isLawfulAt 13 = .ok (.invokevirtual 214, 3) := dk_182 0 214 (dk_at dksX1_isLawfulAt_0 13 rfl rfl)
theorem dX1_isLawfulAt_16 : decode cX1_isLawfulAt 16 = .ok (.ireturn, 1) := dk_172 (dk_at dksX1_isLawfulAt_0 16 rfl rfl)
abbrev cX1_isLawful : ByteArray := prog_1_method_28_code
def yX1_isLawful : MethodName := ⟨RX1, "isLawful", "([IILNeverUnseen$Sight;)Z"⟩
def dkwX1_isLawful_4 : List UInt8 := [182, 0, 206, 154, 0, 7, 4, 167, 0, 4, 3, 172]
abbrev dktX1_isLawful_4 : List UInt8 := dkwX1_isLawful_4 ++ []
def dkwX1_isLawful_3 : List UInt8 := [4, 167, 0, 4, 3, 54, 4, 132, 5, 1, 167, 255, 180, 21, 4, 153, 0, 17, 42, 43, 28, 45]
abbrev dktX1_isLawful_3 : List UInt8 := dkwX1_isLawful_3 ++ dktX1_isLawful_4
def dkwX1_isLawful_2 : List UInt8 := [46, 54, 7, 21, 6, 21, 7, 159, 0, 21, 45, 21, 6, 182, 0, 173, 21, 7, 184, 0, 189, 153, 0, 7]
abbrev dktX1_isLawful_2 : List UInt8 := dkwX1_isLawful_2 ++ dktX1_isLawful_3
def dkwX1_isLawful_1 : List UInt8 := [42, 180, 0, 109, 180, 0, 200, 21, 5, 46, 46, 54, 6, 43, 42, 180, 0, 109, 180, 0, 203, 21, 5, 46]
abbrev dktX1_isLawful_1 : List UInt8 := dkwX1_isLawful_1 ++ dktX1_isLawful_2
def dkwX1_isLawful_0 : List UInt8 := [4, 54, 4, 3, 54, 5, 21, 5, 42, 180, 0, 109, 180, 0, 197, 162, 0, 70, 21, 4, 153, 0, 65, 43]
abbrev dktX1_isLawful_0 : List UInt8 := dkwX1_isLawful_0 ++ dktX1_isLawful_1
theorem dksX1_isLawful_0 : cX1_isLawful.data.toList.drop 0 = dktX1_isLawful_0 := by decide +kernel
theorem dksX1_isLawful_1 : cX1_isLawful.data.toList.drop 24 = dktX1_isLawful_1 := dk_seg dksX1_isLawful_0 24 rfl rfl
theorem dksX1_isLawful_2 : cX1_isLawful.data.toList.drop 48 = dktX1_isLawful_2 := dk_seg dksX1_isLawful_1 24 rfl rfl
theorem dksX1_isLawful_3 : cX1_isLawful.data.toList.drop 72 = dktX1_isLawful_3 := dk_seg dksX1_isLawful_2 24 rfl rfl
theorem dksX1_isLawful_4 : cX1_isLawful.data.toList.drop 94 = dktX1_isLawful_4 := dk_seg dksX1_isLawful_3 22 rfl rfl
theorem dX1_isLawful_0 : decode cX1_isLawful 0 = .ok (.iconst 1, 1) := dk_4 (dk_at dksX1_isLawful_0 0 rfl rfl)
theorem dX1_isLawful_1 : decode cX1_isLawful 1 = .ok (.istore 4, 2) := dk_54 4 (dk_at dksX1_isLawful_0 1 rfl rfl)
theorem dX1_isLawful_3 : decode cX1_isLawful 3 = .ok (.iconst 0, 1) := dk_3 (dk_at dksX1_isLawful_0 3 rfl rfl)
theorem dX1_isLawful_4 : decode cX1_isLawful 4 = .ok (.istore 5, 2) := dk_54 5 (dk_at dksX1_isLawful_0 4 rfl rfl)
theorem dX1_isLawful_6 : decode cX1_isLawful 6 = .ok (.iload 5, 2) := dk_21 5 (dk_at dksX1_isLawful_0 6 rfl rfl)
theorem dX1_isLawful_8 : decode cX1_isLawful 8 = .ok (.aload_n 0, 1) := dk_42 (dk_at dksX1_isLawful_0 8 rfl rfl)
theorem dX1_isLawful_9 : decode cX1_isLawful 9 = .ok (.getfield 109, 3) := dk_180 0 109 (dk_at dksX1_isLawful_0 9 rfl rfl)
theorem dX1_isLawful_12 : decode cX1_isLawful 12 = .ok (.getfield 197, 3) := dk_180 0 197 (dk_at dksX1_isLawful_0 12 rfl rfl)
theorem dX1_isLawful_15 : decode cX1_isLawful 15 = .ok (.if_icmp .ge 70, 3) := dk_162 0 70 (dk_at dksX1_isLawful_0 15 rfl rfl)
theorem dX1_isLawful_18 : decode cX1_isLawful 18 = .ok (.iload 4, 2) := dk_21 4 (dk_at dksX1_isLawful_0 18 rfl rfl)
theorem dX1_isLawful_20 : decode cX1_isLawful 20 = .ok (.ifCond .eq 65, 3) := dk_153 0 65 (dk_at dksX1_isLawful_0 20 rfl rfl)
theorem dX1_isLawful_23 : decode cX1_isLawful 23 = .ok (.aload_n 1, 1) := dk_43 (dk_at dksX1_isLawful_0 23 rfl rfl)
theorem dX1_isLawful_24 : decode cX1_isLawful 24 = .ok (.aload_n 0, 1) := dk_42 (dk_at dksX1_isLawful_1 0 rfl rfl)
theorem dX1_isLawful_25 : decode cX1_isLawful 25 = .ok (.getfield 109, 3) := dk_180 0 109 (dk_at dksX1_isLawful_1 1 rfl rfl)
theorem dX1_isLawful_28 : decode cX1_isLawful 28 = .ok (.getfield 200, 3) := dk_180 0 200 (dk_at dksX1_isLawful_1 4 rfl rfl)
theorem dX1_isLawful_31 : decode cX1_isLawful 31 = .ok (.iload 5, 2) := dk_21 5 (dk_at dksX1_isLawful_1 7 rfl rfl)
theorem dX1_isLawful_33 : decode cX1_isLawful 33 = .ok (.iaload, 1) := dk_46 (dk_at dksX1_isLawful_1 9 rfl rfl)
theorem dX1_isLawful_34 : decode cX1_isLawful 34 = .ok (.iaload, 1) := dk_46 (dk_at dksX1_isLawful_1 10 rfl rfl)
theorem dX1_isLawful_35 : decode cX1_isLawful 35 = .ok (.istore 6, 2) := dk_54 6 (dk_at dksX1_isLawful_1 11 rfl rfl)
theorem dX1_isLawful_37 : decode cX1_isLawful 37 = .ok (.aload_n 1, 1) := dk_43 (dk_at dksX1_isLawful_1 13 rfl rfl)
theorem dX1_isLawful_38 : decode cX1_isLawful 38 = .ok (.aload_n 0, 1) := dk_42 (dk_at dksX1_isLawful_1 14 rfl rfl)
theorem dX1_isLawful_39 : decode cX1_isLawful 39 = .ok (.getfield 109, 3) := dk_180 0 109 (dk_at dksX1_isLawful_1 15 rfl rfl)
theorem dX1_isLawful_42 : decode cX1_isLawful 42 = .ok (.getfield 203, 3) := dk_180 0 203 (dk_at dksX1_isLawful_1 18 rfl rfl)
theorem dX1_isLawful_45 : decode cX1_isLawful 45 = .ok (.iload 5, 2) := dk_21 5 (dk_at dksX1_isLawful_1 21 rfl rfl)
theorem dX1_isLawful_47 : decode cX1_isLawful 47 = .ok (.iaload, 1) := dk_46 (dk_at dksX1_isLawful_1 23 rfl rfl)
theorem dX1_isLawful_48 : decode cX1_isLawful 48 = .ok (.iaload, 1) := dk_46 (dk_at dksX1_isLawful_2 0 rfl rfl)
theorem dX1_isLawful_49 : decode cX1_isLawful 49 = .ok (.istore 7, 2) := dk_54 7 (dk_at dksX1_isLawful_2 1 rfl rfl)
theorem dX1_isLawful_51 : decode cX1_isLawful 51 = .ok (.iload 6, 2) := dk_21 6 (dk_at dksX1_isLawful_2 3 rfl rfl)
theorem dX1_isLawful_53 : decode cX1_isLawful 53 = .ok (.iload 7, 2) := dk_21 7 (dk_at dksX1_isLawful_2 5 rfl rfl)
theorem dX1_isLawful_55 : decode cX1_isLawful 55 = .ok (.if_icmp .eq 21, 3) := dk_159 0 21 (dk_at dksX1_isLawful_2 7 rfl rfl)
theorem dX1_isLawful_58 : decode cX1_isLawful 58 = .ok (.aload_n 3, 1) := dk_45 (dk_at dksX1_isLawful_2 10 rfl rfl)
theorem dX1_isLawful_59 : decode cX1_isLawful 59 = .ok (.iload 6, 2) := dk_21 6 (dk_at dksX1_isLawful_2 11 rfl rfl)
theorem dX1_isLawful_61 : decode cX1_isLawful 61 = .ok (.invokevirtual 173, 3) := dk_182 0 173 (dk_at dksX1_isLawful_2 13 rfl rfl)
theorem dX1_isLawful_64 : decode cX1_isLawful 64 = .ok (.iload 7, 2) := dk_21 7 (dk_at dksX1_isLawful_2 16 rfl rfl)
theorem dX1_isLawful_66 : decode cX1_isLawful 66 = .ok (.invokestatic 189, 3) := dk_184 0 189 (dk_at dksX1_isLawful_2 18 rfl rfl)
theorem dX1_isLawful_69 : decode cX1_isLawful 69 = .ok (.ifCond .eq 7, 3) := dk_153 0 7 (dk_at dksX1_isLawful_2 21 rfl rfl)
theorem dX1_isLawful_72 : decode cX1_isLawful 72 = .ok (.iconst 1, 1) := dk_4 (dk_at dksX1_isLawful_3 0 rfl rfl)
theorem dX1_isLawful_73 : decode cX1_isLawful 73 = .ok (.goto 4, 3) := dk_167 0 4 (dk_at dksX1_isLawful_3 1 rfl rfl)
theorem dX1_isLawful_76 : decode cX1_isLawful 76 = .ok (.iconst 0, 1) := dk_3 (dk_at dksX1_isLawful_3 4 rfl rfl)
theorem dX1_isLawful_77 : decode cX1_isLawful 77 = .ok (.istore 4, 2) := dk_54 4 (dk_at dksX1_isLawful_3 5 rfl rfl)
theorem dX1_isLawful_79 : decode cX1_isLawful 79 = .ok (.iinc 5 1, 3) := dk_132 5 1 (dk_at dksX1_isLawful_3 7 rfl rfl)
theorem dX1_isLawful_82 : decode cX1_isLawful 82 = .ok (.goto (-76), 3) := dk_167 255 180 (dk_at dksX1_isLawful_3 10 rfl rfl)
theorem dX1_isLawful_85 : decode cX1_isLawful 85 = .ok (.iload 4, 2) := dk_21 4 (dk_at dksX1_isLawful_3 13 rfl rfl)
theorem dX1_isLawful_87 : decode cX1_isLawful 87 = .ok (.ifCond .eq 17, 3) := dk_153 0 17 (dk_at dksX1_isLawful_3 15 rfl rfl)
theorem dX1_isLawful_90 : decode cX1_isLawful 90 = .ok (.aload_n 0, 1) := dk_42 (dk_at dksX1_isLawful_3 18 rfl rfl)
theorem dX1_isLawful_91 : decode cX1_isLawful 91 = .ok (.aload_n 1, 1) := dk_43 (dk_at dksX1_isLawful_3 19 rfl rfl)
theorem dX1_isLawful_92 : decode cX1_isLawful 92 = .ok (.iload_n 2, 1) := dk_28 (dk_at dksX1_isLawful_3 20 rfl rfl)
theorem dX1_isLawful_93 : decode cX1_isLawful 93 = .ok (.aload_n 3, 1) := dk_45 (dk_at dksX1_isLawful_3 21 rfl rfl)
theorem dX1_isLawful_94 : decode cX1_isLawful 94 = .ok (.invokevirtual 206, 3) := dk_182 0 206 (dk_at dksX1_isLawful_4 0 rfl rfl)
theorem dX1_isLawful_97 : decode cX1_isLawful 97 = .ok (.ifCond .ne 7, 3) := dk_154 0 7 (dk_at dksX1_isLawful_4 3 rfl rfl)
theorem dX1_isLawful_100 : decode cX1_isLawful 100 = .ok (.iconst 1, 1) := dk_4 (dk_at dksX1_isLawful_4 6 rfl rfl)
theorem dX1_isLawful_101 : decode cX1_isLawful 101 = .ok (.goto 4, 3) := dk_167 0 4 (dk_at dksX1_isLawful_4 7 rfl rfl)
theorem dX1_isLawful_104 : decode cX1_isLawful 104 = .ok (.iconst 0, 1) := dk_3 (dk_at dksX1_isLawful_4 10 rfl rfl)
theorem dX1_isLawful_105 : decode cX1_isLawful 105 = .ok (.ireturn, 1) := dk_172 (dk_at dksX1_isLawful_4 11 rfl rfl)
abbrev cX1_by : ByteArray := prog_1_method_35_code
def yX1_by : MethodName := ⟨RX1, "by", "(I)I"⟩
def dkwX1_by_1 : List UInt8 := [182, 0, 210, 42, 42, 180, 0, 131, 182, 0, 166, 182, 0, 193, 167, 0, 8, 42, 4, 182, 0, 98, 172]
abbrev dktX1_by_1 : List UInt8 := dkwX1_by_1 ++ []
def dkwX1_by_0 : List UInt8 := [42, 182, 0, 84, 42, 27, 182, 0, 183, 153, 0, 32, 42, 42, 180, 0, 39, 27, 42, 42, 180, 0, 131, 3]
abbrev dktX1_by_0 : List UInt8 := dkwX1_by_0 ++ dktX1_by_1
theorem dksX1_by_0 : cX1_by.data.toList.drop 0 = dktX1_by_0 := by decide +kernel
theorem dksX1_by_1 : cX1_by.data.toList.drop 24 = dktX1_by_1 := dk_seg dksX1_by_0 24 rfl rfl
theorem dX1_by_0 : decode cX1_by 0 = .ok (.aload_n 0, 1) := dk_42 (dk_at dksX1_by_0 0 rfl rfl)
theorem dX1_by_1 : decode cX1_by 1 = .ok (.invokevirtual 84, 3) := dk_182 0 84 (dk_at dksX1_by_0 1 rfl rfl)
theorem dX1_by_4 : decode cX1_by 4 = .ok (.aload_n 0, 1) := dk_42 (dk_at dksX1_by_0 4 rfl rfl)
theorem dX1_by_5 : decode cX1_by 5 = .ok (.iload_n 1, 1) := dk_27 (dk_at dksX1_by_0 5 rfl rfl)
theorem dX1_by_6 : decode cX1_by 6 = .ok (.invokevirtual 183, 3) := dk_182 0 183 (dk_at dksX1_by_0 6 rfl rfl)
theorem dX1_by_9 : decode cX1_by 9 = .ok (.ifCond .eq 32, 3) := dk_153 0 32 (dk_at dksX1_by_0 9 rfl rfl)
theorem dX1_by_12 : decode cX1_by 12 = .ok (.aload_n 0, 1) := dk_42 (dk_at dksX1_by_0 12 rfl rfl)
theorem dX1_by_13 : decode cX1_by 13 = .ok (.aload_n 0, 1) := dk_42 (dk_at dksX1_by_0 13 rfl rfl)
theorem dX1_by_14 : decode cX1_by 14 = .ok (.getfield 39, 3) := dk_180 0 39 (dk_at dksX1_by_0 14 rfl rfl)
theorem dX1_by_17 : decode cX1_by 17 = .ok (.iload_n 1, 1) := dk_27 (dk_at dksX1_by_0 17 rfl rfl)
theorem dX1_by_18 : decode cX1_by 18 = .ok (.aload_n 0, 1) := dk_42 (dk_at dksX1_by_0 18 rfl rfl)
theorem dX1_by_19 : decode cX1_by 19 = .ok (.aload_n 0, 1) := dk_42 (dk_at dksX1_by_0 19 rfl rfl)
theorem dX1_by_20 : decode cX1_by 20 = .ok (.getfield 131, 3) := dk_180 0 131 (dk_at dksX1_by_0 20 rfl rfl)
theorem dX1_by_23 : decode cX1_by 23 = .ok (.iconst 0, 1) := dk_3 (dk_at dksX1_by_0 23 rfl rfl)
theorem dX1_by_24 : decode cX1_by 24 = .ok (.invokevirtual 210, 3) := dk_182 0 210 (dk_at dksX1_by_1 0 rfl rfl)
theorem dX1_by_27 : decode cX1_by 27 = .ok (.aload_n 0, 1) := dk_42 (dk_at dksX1_by_1 3 rfl rfl)
theorem dX1_by_28 : decode cX1_by 28 = .ok (.aload_n 0, 1) := dk_42 (dk_at dksX1_by_1 4 rfl rfl)
theorem dX1_by_29 : decode cX1_by 29 = .ok (.getfield 131, 3) := dk_180 0 131 (dk_at dksX1_by_1 5 rfl rfl)
theorem dX1_by_32 : decode cX1_by 32 = .ok (.invokevirtual 166, 3) := dk_182 0 166 (dk_at dksX1_by_1 8 rfl rfl)
theorem dX1_by_35 : decode cX1_by 35 = .ok (.invokevirtual 193, 3) := dk_182 0 193 (dk_at dksX1_by_1 11 rfl rfl)
theorem dX1_by_38 : decode cX1_by 38 = .ok (.goto 8, 3) := dk_167 0 8 (dk_at dksX1_by_1 14 rfl rfl)
theorem dX1_by_41 : decode cX1_by 41 = .ok (.aload_n 0, 1) := dk_42 (dk_at dksX1_by_1 17 rfl rfl)
theorem dX1_by_42 : decode cX1_by 42 = .ok (.iconst 1, 1) := dk_4 (dk_at dksX1_by_1 18 rfl rfl)
theorem dX1_by_43 : decode cX1_by 43 = .ok (.invokevirtual 98, 3) := dk_182 0 98 (dk_at dksX1_by_1 19 rfl rfl)
theorem dX1_by_46 : decode cX1_by 46 = .ok (.ireturn, 1) := dk_172 (dk_at dksX1_by_1 22 rfl rfl)
abbrev cX1_move : ByteArray := prog_1_method_36_code
def yX1_move : MethodName := ⟨RX1, "move", "(III)Z"⟩
def dkwX1_move_3 : List UInt8 := [27, 104, 21, 5, 96, 29, 79, 132, 5, 1, 167, 255, 233, 4, 172]
abbrev dktX1_move_3 : List UInt8 := dkwX1_move_3 ++ []
def dkwX1_move_2 : List UInt8 := [182, 0, 218, 154, 0, 5, 3, 172, 28, 54, 5, 21, 5, 16, 100, 162, 0, 22, 42, 180, 0, 46, 16, 100]
abbrev dktX1_move_2 : List UInt8 := dkwX1_move_2 ++ dktX1_move_3
def dkwX1_move_1 : List UInt8 := [180, 0, 109, 180, 0, 225, 4, 100, 184, 0, 94, 153, 0, 7, 3, 167, 0, 4, 5, 54, 4, 42, 21, 4]
abbrev dktX1_move_1 : List UInt8 := dkwX1_move_1 ++ dktX1_move_2
def dkwX1_move_0 : List UInt8 := [42, 27, 182, 0, 183, 153, 0, 11, 42, 29, 182, 0, 163, 154, 0, 7, 4, 167, 0, 25, 28, 3, 42]
abbrev dktX1_move_0 : List UInt8 := dkwX1_move_0 ++ dktX1_move_1
theorem dksX1_move_0 : cX1_move.data.toList.drop 0 = dktX1_move_0 := by decide +kernel
theorem dksX1_move_1 : cX1_move.data.toList.drop 23 = dktX1_move_1 := dk_seg dksX1_move_0 23 rfl rfl
theorem dksX1_move_2 : cX1_move.data.toList.drop 47 = dktX1_move_2 := dk_seg dksX1_move_1 24 rfl rfl
theorem dksX1_move_3 : cX1_move.data.toList.drop 71 = dktX1_move_3 := dk_seg dksX1_move_2 24 rfl rfl
theorem dX1_move_0 : decode cX1_move 0 = .ok (.aload_n 0, 1) := dk_42 (dk_at dksX1_move_0 0 rfl rfl)
theorem dX1_move_1 : decode cX1_move 1 = .ok (.iload_n 1, 1) := dk_27 (dk_at dksX1_move_0 1 rfl rfl)
theorem dX1_move_2 : decode cX1_move 2 = .ok (.invokevirtual 183, 3) := dk_182 0 183 (dk_at dksX1_move_0 2 rfl rfl)
theorem dX1_move_5 : decode cX1_move 5 = .ok (.ifCond .eq 11, 3) := dk_153 0 11 (dk_at dksX1_move_0 5 rfl rfl)
theorem dX1_move_8 : decode cX1_move 8 = .ok (.aload_n 0, 1) := dk_42 (dk_at dksX1_move_0 8 rfl rfl)
theorem dX1_move_9 : decode cX1_move 9 = .ok (.iload_n 3, 1) := dk_29 (dk_at dksX1_move_0 9 rfl rfl)
theorem dX1_move_10 : decode cX1_move 10 = .ok (.invokevirtual 163, 3) := dk_182 0 163 (dk_at dksX1_move_0 10 rfl rfl)
theorem dX1_move_13 : decode cX1_move 13 = .ok (.ifCond .ne 7, 3) := dk_154 0 7 (dk_at dksX1_move_0 13 rfl rfl)
theorem dX1_move_16 : decode cX1_move 16 = .ok (.iconst 1, 1) := dk_4 (dk_at dksX1_move_0 16 rfl rfl)
theorem dX1_move_17 : decode cX1_move 17 = .ok (.goto 25, 3) := dk_167 0 25 (dk_at dksX1_move_0 17 rfl rfl)
theorem dX1_move_20 : decode cX1_move 20 = .ok (.iload_n 2, 1) := dk_28 (dk_at dksX1_move_0 20 rfl rfl)
theorem dX1_move_21 : decode cX1_move 21 = .ok (.iconst 0, 1) := dk_3 (dk_at dksX1_move_0 21 rfl rfl)
theorem dX1_move_22 : decode cX1_move 22 = .ok (.aload_n 0, 1) := dk_42 (dk_at dksX1_move_0 22 rfl rfl)
theorem dX1_move_23 : decode cX1_move 23 = .ok (.getfield 109, 3) := dk_180 0 109 (dk_at dksX1_move_1 0 rfl rfl)
theorem dX1_move_26 : decode cX1_move 26 = .ok (.getfield 225, 3) := dk_180 0 225 (dk_at dksX1_move_1 3 rfl rfl)
theorem dX1_move_29 : decode cX1_move 29 = .ok (.iconst 1, 1) := dk_4 (dk_at dksX1_move_1 6 rfl rfl)
theorem dX1_move_30 : decode cX1_move 30 = .ok (.isub, 1) := dk_100 (dk_at dksX1_move_1 7 rfl rfl)
theorem dX1_move_31 : decode cX1_move 31 = .ok (.invokestatic 94, 3) := dk_184 0 94 (dk_at dksX1_move_1 8 rfl rfl)
theorem dX1_move_34 : decode cX1_move 34 = .ok (.ifCond .eq 7, 3) := dk_153 0 7 (dk_at dksX1_move_1 11 rfl rfl)
theorem dX1_move_37 : decode cX1_move 37 = .ok (.iconst 0, 1) := dk_3 (dk_at dksX1_move_1 14 rfl rfl)
theorem dX1_move_38 : decode cX1_move 38 = .ok (.goto 4, 3) := dk_167 0 4 (dk_at dksX1_move_1 15 rfl rfl)
theorem dX1_move_41 : decode cX1_move 41 = .ok (.iconst 2, 1) := dk_5 (dk_at dksX1_move_1 18 rfl rfl)
theorem dX1_move_42 : decode cX1_move 42 = .ok (.istore 4, 2) := dk_54 4 (dk_at dksX1_move_1 19 rfl rfl)
theorem dX1_move_44 : decode cX1_move 44 = .ok (.aload_n 0, 1) := dk_42 (dk_at dksX1_move_1 21 rfl rfl)
theorem dX1_move_45 : decode cX1_move 45 = .ok (.iload 4, 2) := dk_21 4 (dk_at dksX1_move_1 22 rfl rfl)
theorem dX1_move_47 : decode cX1_move 47 = .ok (.invokevirtual 218, 3) := dk_182 0 218 (dk_at dksX1_move_2 0 rfl rfl)
theorem dX1_move_50 : decode cX1_move 50 = .ok (.ifCond .ne 5, 3) := dk_154 0 5 (dk_at dksX1_move_2 3 rfl rfl)
theorem dX1_move_53 : decode cX1_move 53 = .ok (.iconst 0, 1) := dk_3 (dk_at dksX1_move_2 6 rfl rfl)
theorem dX1_move_54 : decode cX1_move 54 = .ok (.ireturn, 1) := dk_172 (dk_at dksX1_move_2 7 rfl rfl)
theorem dX1_move_55 : decode cX1_move 55 = .ok (.iload_n 2, 1) := dk_28 (dk_at dksX1_move_2 8 rfl rfl)
theorem dX1_move_56 : decode cX1_move 56 = .ok (.istore 5, 2) := dk_54 5 (dk_at dksX1_move_2 9 rfl rfl)
theorem dX1_move_58 : decode cX1_move 58 = .ok (.iload 5, 2) := dk_21 5 (dk_at dksX1_move_2 11 rfl rfl)
theorem dX1_move_60 : decode cX1_move 60 = .ok (.bipush 100, 2) := dk_16 100 (dk_at dksX1_move_2 13 rfl rfl)
theorem dX1_move_62 : decode cX1_move 62 = .ok (.if_icmp .ge 22, 3) := dk_162 0 22 (dk_at dksX1_move_2 15 rfl rfl)
theorem dX1_move_65 : decode cX1_move 65 = .ok (.aload_n 0, 1) := dk_42 (dk_at dksX1_move_2 18 rfl rfl)
theorem dX1_move_66 : decode cX1_move 66 = .ok (.getfield 46, 3) := dk_180 0 46 (dk_at dksX1_move_2 19 rfl rfl)
theorem dX1_move_69 : decode cX1_move 69 = .ok (.bipush 100, 2) := dk_16 100 (dk_at dksX1_move_2 22 rfl rfl)
theorem dX1_move_71 : decode cX1_move 71 = .ok (.iload_n 1, 1) := dk_27 (dk_at dksX1_move_3 0 rfl rfl)
theorem dX1_move_72 : decode cX1_move 72 = .ok (.imul, 1) := dk_104 (dk_at dksX1_move_3 1 rfl rfl)
theorem dX1_move_73 : decode cX1_move 73 = .ok (.iload 5, 2) := dk_21 5 (dk_at dksX1_move_3 2 rfl rfl)
theorem dX1_move_75 : decode cX1_move 75 = .ok (.iadd, 1) := dk_96 (dk_at dksX1_move_3 4 rfl rfl)
theorem dX1_move_76 : decode cX1_move 76 = .ok (.iload_n 3, 1) := dk_29 (dk_at dksX1_move_3 5 rfl rfl)
theorem dX1_move_77 : decode cX1_move 77 = .ok (.iastore, 1) := dk_79 (dk_at dksX1_move_3 6 rfl rfl)
theorem dX1_move_78 : decode cX1_move 78 = .ok (.iinc 5 1, 3) := dk_132 5 1 (dk_at dksX1_move_3 7 rfl rfl)
theorem dX1_move_81 : decode cX1_move 81 = .ok (.goto (-23), 3) := dk_167 255 233 (dk_at dksX1_move_3 10 rfl rfl)
theorem dX1_move_84 : decode cX1_move 84 = .ok (.iconst 1, 1) := dk_4 (dk_at dksX1_move_3 13 rfl rfl)
theorem dX1_move_85 : decode cX1_move 85 = .ok (.ireturn, 1) := dk_172 (dk_at dksX1_move_3 14 rfl rfl)
abbrev cX1_planned : ByteArray := prog_1_method_37_code
def yX1_planned : MethodName := ⟨RX1, "planned", "(II)I"⟩
def dkwX1_planned_2 : List UInt8 := [167, 0, 8, 42, 5, 182, 0, 98, 172]
abbrev dktX1_planned_2 : List UInt8 := dkwX1_planned_2 ++ []
def dkwX1_planned_1 : List UInt8 := [180, 0, 225, 4, 100, 184, 0, 94, 153, 0, 17, 42, 180, 0, 46, 16, 100, 27, 104, 28, 96, 46]
abbrev dktX1_planned_1 : List UInt8 := dkwX1_planned_1 ++ dktX1_planned_2
def dkwX1_planned_0 : List UInt8 := [42, 182, 0, 84, 42, 27, 182, 0, 183, 154, 0, 9, 42, 4, 182, 0, 98, 172, 28, 3, 42, 180, 0, 109]
abbrev dktX1_planned_0 : List UInt8 := dkwX1_planned_0 ++ dktX1_planned_1
theorem dksX1_planned_0 : cX1_planned.data.toList.drop 0 = dktX1_planned_0 := by decide +kernel
theorem dksX1_planned_1 : cX1_planned.data.toList.drop 24 = dktX1_planned_1 := dk_seg dksX1_planned_0 24 rfl rfl
theorem dksX1_planned_2 : cX1_planned.data.toList.drop 46 = dktX1_planned_2 := dk_seg dksX1_planned_1 22 rfl rfl
theorem dX1_planned_0 : decode cX1_planned 0 = .ok (.aload_n 0, 1) := dk_42 (dk_at dksX1_planned_0 0 rfl rfl)
theorem dX1_planned_1 : decode cX1_planned 1 = .ok (.invokevirtual 84, 3) := dk_182 0 84 (dk_at dksX1_planned_0 1 rfl rfl)
theorem dX1_planned_4 : decode cX1_planned 4 = .ok (.aload_n 0, 1) := dk_42 (dk_at dksX1_planned_0 4 rfl rfl)
theorem dX1_planned_5 : decode cX1_planned 5 = .ok (.iload_n 1, 1) := dk_27 (dk_at dksX1_planned_0 5 rfl rfl)
theorem dX1_planned_6 : decode cX1_planned 6 = .ok (.invokevirtual 183, 3) := dk_182 0 183 (dk_at dksX1_planned_0 6 rfl rfl)
theorem dX1_planned_9 : decode cX1_planned 9 = .ok (.ifCond .ne 9, 3) := dk_154 0 9 (dk_at dksX1_planned_0 9 rfl rfl)
theorem dX1_planned_12 : decode cX1_planned 12 = .ok (.aload_n 0, 1) := dk_42 (dk_at dksX1_planned_0 12 rfl rfl)
theorem dX1_planned_13 : decode cX1_planned 13 = .ok (.iconst 1, 1) := dk_4 (dk_at dksX1_planned_0 13 rfl rfl)
theorem dX1_planned_14 : decode cX1_planned 14 = .ok (.invokevirtual 98, 3) := dk_182 0 98 (dk_at dksX1_planned_0 14 rfl rfl)
theorem dX1_planned_17 : decode cX1_planned 17 = .ok (.ireturn, 1) := dk_172 (dk_at dksX1_planned_0 17 rfl rfl)
theorem dX1_planned_18 : decode cX1_planned 18 = .ok (.iload_n 2, 1) := dk_28 (dk_at dksX1_planned_0 18 rfl rfl)
theorem dX1_planned_19 : decode cX1_planned 19 = .ok (.iconst 0, 1) := dk_3 (dk_at dksX1_planned_0 19 rfl rfl)
theorem dX1_planned_20 : decode cX1_planned 20 = .ok (.aload_n 0, 1) := dk_42 (dk_at dksX1_planned_0 20 rfl rfl)
theorem dX1_planned_21 : decode cX1_planned 21 = .ok (.getfield 109, 3) := dk_180 0 109 (dk_at dksX1_planned_0 21 rfl rfl)
theorem dX1_planned_24 : decode cX1_planned 24 = .ok (.getfield 225, 3) := dk_180 0 225 (dk_at dksX1_planned_1 0 rfl rfl)
theorem dX1_planned_27 : decode cX1_planned 27 = .ok (.iconst 1, 1) := dk_4 (dk_at dksX1_planned_1 3 rfl rfl)
theorem dX1_planned_28 : decode cX1_planned 28 = .ok (.isub, 1) := dk_100 (dk_at dksX1_planned_1 4 rfl rfl)
theorem dX1_planned_29 : decode cX1_planned 29 = .ok (.invokestatic 94, 3) := dk_184 0 94 (dk_at dksX1_planned_1 5 rfl rfl)
theorem dX1_planned_32 : decode cX1_planned 32 = .ok (.ifCond .eq 17, 3) := dk_153 0 17 (dk_at dksX1_planned_1 8 rfl rfl)
theorem dX1_planned_35 : decode cX1_planned 35 = .ok (.aload_n 0, 1) := dk_42 (dk_at dksX1_planned_1 11 rfl rfl)
theorem dX1_planned_36 : decode cX1_planned 36 = .ok (.getfield 46, 3) := dk_180 0 46 (dk_at dksX1_planned_1 12 rfl rfl)
theorem dX1_planned_39 : decode cX1_planned 39 = .ok (.bipush 100, 2) := dk_16 100 (dk_at dksX1_planned_1 15 rfl rfl)
theorem dX1_planned_41 : decode cX1_planned 41 = .ok (.iload_n 1, 1) := dk_27 (dk_at dksX1_planned_1 17 rfl rfl)
theorem dX1_planned_42 : decode cX1_planned 42 = .ok (.imul, 1) := dk_104 (dk_at dksX1_planned_1 18 rfl rfl)
theorem dX1_planned_43 : decode cX1_planned 43 = .ok (.iload_n 2, 1) := dk_28 (dk_at dksX1_planned_1 19 rfl rfl)
theorem dX1_planned_44 : decode cX1_planned 44 = .ok (.iadd, 1) := dk_96 (dk_at dksX1_planned_1 20 rfl rfl)
theorem dX1_planned_45 : decode cX1_planned 45 = .ok (.iaload, 1) := dk_46 (dk_at dksX1_planned_1 21 rfl rfl)
theorem dX1_planned_46 : decode cX1_planned 46 = .ok (.goto 8, 3) := dk_167 0 8 (dk_at dksX1_planned_2 0 rfl rfl)
theorem dX1_planned_49 : decode cX1_planned 49 = .ok (.aload_n 0, 1) := dk_42 (dk_at dksX1_planned_2 3 rfl rfl)
theorem dX1_planned_50 : decode cX1_planned 50 = .ok (.iconst 2, 1) := dk_5 (dk_at dksX1_planned_2 4 rfl rfl)
theorem dX1_planned_51 : decode cX1_planned 51 = .ok (.invokevirtual 98, 3) := dk_182 0 98 (dk_at dksX1_planned_2 5 rfl rfl)
theorem dX1_planned_54 : decode cX1_planned 54 = .ok (.ireturn, 1) := dk_172 (dk_at dksX1_planned_2 8 rfl rfl)
abbrev cX1_judge : ByteArray := prog_1_method_41_code
def yX1_judge : MethodName := ⟨RX1, "judge", "()I"⟩
def dkwX1_judge_0 : List UInt8 := [42, 182, 0, 84, 42, 180, 0, 109, 199, 0, 11, 42, 4, 182, 0, 98, 167, 0, 7, 42, 182, 1, 11, 172]
abbrev dktX1_judge_0 : List UInt8 := dkwX1_judge_0 ++ []
theorem dksX1_judge_0 : cX1_judge.data.toList.drop 0 = dktX1_judge_0 := by decide +kernel
theorem dX1_judge_0 : decode cX1_judge 0 = .ok (.aload_n 0, 1) := dk_42 (dk_at dksX1_judge_0 0 rfl rfl)
theorem dX1_judge_1 : decode cX1_judge 1 = .ok (.invokevirtual 84, 3) := dk_182 0 84 (dk_at dksX1_judge_0 1 rfl rfl)
theorem dX1_judge_4 : decode cX1_judge 4 = .ok (.aload_n 0, 1) := dk_42 (dk_at dksX1_judge_0 4 rfl rfl)
theorem dX1_judge_5 : decode cX1_judge 5 = .ok (.getfield 109, 3) := dk_180 0 109 (dk_at dksX1_judge_0 5 rfl rfl)
theorem dX1_judge_8 : decode cX1_judge 8 = .ok (.ifnonnull 11, 3) := dk_199 0 11 (dk_at dksX1_judge_0 8 rfl rfl)
theorem dX1_judge_11 : decode cX1_judge 11 = .ok (.aload_n 0, 1) := dk_42 (dk_at dksX1_judge_0 11 rfl rfl)
theorem dX1_judge_12 : decode cX1_judge 12 = .ok (.iconst 1, 1) := dk_4 (dk_at dksX1_judge_0 12 rfl rfl)
theorem dX1_judge_13 : decode cX1_judge 13 = .ok (.invokevirtual 98, 3) := dk_182 0 98 (dk_at dksX1_judge_0 13 rfl rfl)
theorem dX1_judge_16 : decode cX1_judge 16 = .ok (.goto 7, 3) := dk_167 0 7 (dk_at dksX1_judge_0 16 rfl rfl)
theorem dX1_judge_19 : decode cX1_judge 19 = .ok (.aload_n 0, 1) := dk_42 (dk_at dksX1_judge_0 19 rfl rfl)
theorem dX1_judge_20 : decode cX1_judge 20 = .ok (.invokevirtual 267, 3) := dk_182 1 11 (dk_at dksX1_judge_0 20 rfl rfl)
theorem dX1_judge_23 : decode cX1_judge 23 = .ok (.ireturn, 1) := dk_172 (dk_at dksX1_judge_0 23 rfl rfl)
abbrev cX1_judged : ByteArray := prog_1_method_40_code
def yX1_judged : MethodName := ⟨RX1, "judged", "()I"⟩
def dkwX1_judged_6 : List UInt8 := [181, 0, 253, 16, 254, 172]
abbrev dktX1_judged_6 : List UInt8 := dkwX1_judged_6 ++ []
def dkwX1_judged_5 : List UInt8 := [182, 1, 7, 154, 0, 11, 42, 180, 0, 109, 180, 0, 225, 172, 132, 1, 1, 167, 255, 218, 42, 3]
abbrev dktX1_judged_5 : List UInt8 := dkwX1_judged_5 ++ dktX1_judged_6
def dkwX1_judged_4 : List UInt8 := [60, 27, 42, 180, 0, 109, 180, 0, 153, 162, 0, 33, 42, 42, 180, 0, 109, 180, 1, 3, 27, 50]
abbrev dktX1_judged_4 : List UInt8 := dkwX1_judged_4 ++ dktX1_judged_5
def dkwX1_judged_3 : List UInt8 := [180, 0, 43, 27, 182, 0, 221, 154, 0, 5, 27, 172, 132, 1, 1, 167, 255, 172, 42, 6, 181, 0, 253, 3]
abbrev dktX1_judged_3 : List UInt8 := dkwX1_judged_3 ++ dktX1_judged_4
def dkwX1_judged_2 : List UInt8 := [180, 0, 43, 28, 42, 180, 0, 46, 16, 100, 28, 104, 27, 96, 46, 79, 132, 2, 1, 167, 255, 225, 42, 42]
abbrev dktX1_judged_2 : List UInt8 := dkwX1_judged_2 ++ dktX1_judged_3
def dkwX1_judged_1 : List UInt8 := [154, 0, 5, 27, 172, 42, 5, 181, 0, 253, 3, 61, 28, 42, 180, 0, 109, 180, 0, 137, 162, 0, 26, 42]
abbrev dktX1_judged_1 : List UInt8 := dkwX1_judged_1 ++ dktX1_judged_2
def dkwX1_judged_0 : List UInt8 := [3, 60, 27, 42, 180, 0, 109, 180, 0, 225, 162, 0, 79, 42, 4, 181, 0, 253, 42, 27, 182, 1, 0]
abbrev dktX1_judged_0 : List UInt8 := dkwX1_judged_0 ++ dktX1_judged_1
theorem dksX1_judged_0 : cX1_judged.data.toList.drop 0 = dktX1_judged_0 := by decide +kernel
theorem dksX1_judged_1 : cX1_judged.data.toList.drop 23 = dktX1_judged_1 := dk_seg dksX1_judged_0 23 rfl rfl
theorem dksX1_judged_2 : cX1_judged.data.toList.drop 47 = dktX1_judged_2 := dk_seg dksX1_judged_1 24 rfl rfl
theorem dksX1_judged_3 : cX1_judged.data.toList.drop 71 = dktX1_judged_3 := dk_seg dksX1_judged_2 24 rfl rfl
theorem dksX1_judged_4 : cX1_judged.data.toList.drop 95 = dktX1_judged_4 := dk_seg dksX1_judged_3 24 rfl rfl
theorem dksX1_judged_5 : cX1_judged.data.toList.drop 117 = dktX1_judged_5 := dk_seg dksX1_judged_4 22 rfl rfl
theorem dksX1_judged_6 : cX1_judged.data.toList.drop 139 = dktX1_judged_6 := dk_seg dksX1_judged_5 22 rfl rfl
theorem dX1_judged_0 : decode cX1_judged 0 = .ok (.iconst 0, 1) := dk_3 (dk_at dksX1_judged_0 0 rfl rfl)
theorem dX1_judged_1 : decode cX1_judged 1 = .ok (.istore_n 1, 1) := dk_60 (dk_at dksX1_judged_0 1 rfl rfl)
theorem dX1_judged_2 : decode cX1_judged 2 = .ok (.iload_n 1, 1) := dk_27 (dk_at dksX1_judged_0 2 rfl rfl)
theorem dX1_judged_3 : decode cX1_judged 3 = .ok (.aload_n 0, 1) := dk_42 (dk_at dksX1_judged_0 3 rfl rfl)
theorem dX1_judged_4 : decode cX1_judged 4 = .ok (.getfield 109, 3) := dk_180 0 109 (dk_at dksX1_judged_0 4 rfl rfl)
theorem dX1_judged_7 : decode cX1_judged 7 = .ok (.getfield 225, 3) := dk_180 0 225 (dk_at dksX1_judged_0 7 rfl rfl)
theorem dX1_judged_10 : decode cX1_judged 10 = .ok (.if_icmp .ge 79, 3) := dk_162 0 79 (dk_at dksX1_judged_0 10 rfl rfl)
theorem dX1_judged_13 : decode cX1_judged 13 = .ok (.aload_n 0, 1) := dk_42 (dk_at dksX1_judged_0 13 rfl rfl)
theorem dX1_judged_14 : decode cX1_judged 14 = .ok (.iconst 1, 1) := dk_4 (dk_at dksX1_judged_0 14 rfl rfl)
theorem dX1_judged_15 : decode cX1_judged 15 = .ok (.putfield 253, 3) := dk_181 0 253 (dk_at dksX1_judged_0 15 rfl rfl)
theorem dX1_judged_18 : decode cX1_judged 18 = .ok (.aload_n 0, 1) := dk_42 (dk_at dksX1_judged_0 18 rfl rfl)
theorem dX1_judged_19 : decode cX1_judged 19 = .ok (.iload_n 1, 1) := dk_27 (dk_at dksX1_judged_0 19 rfl rfl)
theorem dX1_judged_20 : decode cX1_judged 20 = .ok (.invokevirtual 256, 3) := dk_182 1 0 (dk_at dksX1_judged_0 20 rfl rfl)
theorem dX1_judged_23 : decode cX1_judged 23 = .ok (.ifCond .ne 5, 3) := dk_154 0 5 (dk_at dksX1_judged_1 0 rfl rfl)
theorem dX1_judged_26 : decode cX1_judged 26 = .ok (.iload_n 1, 1) := dk_27 (dk_at dksX1_judged_1 3 rfl rfl)
theorem dX1_judged_27 : decode cX1_judged 27 = .ok (.ireturn, 1) := dk_172 (dk_at dksX1_judged_1 4 rfl rfl)
theorem dX1_judged_28 : decode cX1_judged 28 = .ok (.aload_n 0, 1) := dk_42 (dk_at dksX1_judged_1 5 rfl rfl)
theorem dX1_judged_29 : decode cX1_judged 29 = .ok (.iconst 2, 1) := dk_5 (dk_at dksX1_judged_1 6 rfl rfl)
theorem dX1_judged_30 : decode cX1_judged 30 = .ok (.putfield 253, 3) := dk_181 0 253 (dk_at dksX1_judged_1 7 rfl rfl)
theorem dX1_judged_33 : decode cX1_judged 33 = .ok (.iconst 0, 1) := dk_3 (dk_at dksX1_judged_1 10 rfl rfl)
theorem dX1_judged_34 : decode cX1_judged 34 = .ok (.istore_n 2, 1) := dk_61 (dk_at dksX1_judged_1 11 rfl rfl)
theorem dX1_judged_35 : decode cX1_judged 35 = .ok (.iload_n 2, 1) := dk_28 (dk_at dksX1_judged_1 12 rfl rfl)
theorem dX1_judged_36 : decode cX1_judged 36 = .ok (.aload_n 0, 1) := dk_42 (dk_at dksX1_judged_1 13 rfl rfl)
theorem dX1_judged_37 : decode cX1_judged 37 = .ok (.getfield 109, 3) := dk_180 0 109 (dk_at dksX1_judged_1 14 rfl rfl)
theorem dX1_judged_40 : decode cX1_judged 40 = .ok (.getfield 137, 3) := dk_180 0 137 (dk_at dksX1_judged_1 17 rfl rfl)
theorem dX1_judged_43 : decode cX1_judged 43 = .ok (.if_icmp .ge 26, 3) := dk_162 0 26 (dk_at dksX1_judged_1 20 rfl rfl)
theorem dX1_judged_46 : decode cX1_judged 46 = .ok (.aload_n 0, 1) := dk_42 (dk_at dksX1_judged_1 23 rfl rfl)
theorem dX1_judged_47 : decode cX1_judged 47 = .ok (.getfield 43, 3) := dk_180 0 43 (dk_at dksX1_judged_2 0 rfl rfl)
theorem dX1_judged_50 : decode cX1_judged 50 = .ok (.iload_n 2, 1) := dk_28 (dk_at dksX1_judged_2 3 rfl rfl)
theorem dX1_judged_51 : decode cX1_judged 51 = .ok (.aload_n 0, 1) := dk_42 (dk_at dksX1_judged_2 4 rfl rfl)
theorem dX1_judged_52 : decode cX1_judged 52 = .ok (.getfield 46, 3) := dk_180 0 46 (dk_at dksX1_judged_2 5 rfl rfl)
theorem dX1_judged_55 : decode cX1_judged 55 = .ok (.bipush 100, 2) := dk_16 100 (dk_at dksX1_judged_2 8 rfl rfl)
theorem dX1_judged_57 : decode cX1_judged 57 = .ok (.iload_n 2, 1) := dk_28 (dk_at dksX1_judged_2 10 rfl rfl)
theorem dX1_judged_58 : decode cX1_judged 58 = .ok (.imul, 1) := dk_104 (dk_at dksX1_judged_2 11 rfl rfl)
theorem dX1_judged_59 : decode cX1_judged 59 = .ok (.iload_n 1, 1) := dk_27 (dk_at dksX1_judged_2 12 rfl rfl)
theorem dX1_judged_60 : decode cX1_judged 60 = .ok (.iadd, 1) := dk_96 (dk_at dksX1_judged_2 13 rfl rfl)
theorem dX1_judged_61 : decode cX1_judged 61 = .ok (.iaload, 1) := dk_46 (dk_at dksX1_judged_2 14 rfl rfl)
theorem dX1_judged_62 : decode cX1_judged 62 = .ok (.iastore, 1) := dk_79 (dk_at dksX1_judged_2 15 rfl rfl)
theorem dX1_judged_63 : decode cX1_judged 63 = .ok (.iinc 2 1, 3) := dk_132 2 1 (dk_at dksX1_judged_2 16 rfl rfl)
theorem dX1_judged_66 : decode cX1_judged 66 = .ok (.goto (-31), 3) := dk_167 255 225 (dk_at dksX1_judged_2 19 rfl rfl)
theorem dX1_judged_69 : decode cX1_judged 69 = .ok (.aload_n 0, 1) := dk_42 (dk_at dksX1_judged_2 22 rfl rfl)
theorem dX1_judged_70 : decode cX1_judged 70 = .ok (.aload_n 0, 1) := dk_42 (dk_at dksX1_judged_2 23 rfl rfl)
theorem dX1_judged_71 : decode cX1_judged 71 = .ok (.getfield 43, 3) := dk_180 0 43 (dk_at dksX1_judged_3 0 rfl rfl)
theorem dX1_judged_74 : decode cX1_judged 74 = .ok (.iload_n 1, 1) := dk_27 (dk_at dksX1_judged_3 3 rfl rfl)
theorem dX1_judged_75 : decode cX1_judged 75 = .ok (.invokevirtual 221, 3) := dk_182 0 221 (dk_at dksX1_judged_3 4 rfl rfl)
theorem dX1_judged_78 : decode cX1_judged 78 = .ok (.ifCond .ne 5, 3) := dk_154 0 5 (dk_at dksX1_judged_3 7 rfl rfl)
theorem dX1_judged_81 : decode cX1_judged 81 = .ok (.iload_n 1, 1) := dk_27 (dk_at dksX1_judged_3 10 rfl rfl)
theorem dX1_judged_82 : decode cX1_judged 82 = .ok (.ireturn, 1) := dk_172 (dk_at dksX1_judged_3 11 rfl rfl)
theorem dX1_judged_83 : decode cX1_judged 83 = .ok (.iinc 1 1, 3) := dk_132 1 1 (dk_at dksX1_judged_3 12 rfl rfl)
theorem dX1_judged_86 : decode cX1_judged 86 = .ok (.goto (-84), 3) := dk_167 255 172 (dk_at dksX1_judged_3 15 rfl rfl)
theorem dX1_judged_89 : decode cX1_judged 89 = .ok (.aload_n 0, 1) := dk_42 (dk_at dksX1_judged_3 18 rfl rfl)
theorem dX1_judged_90 : decode cX1_judged 90 = .ok (.iconst 3, 1) := dk_6 (dk_at dksX1_judged_3 19 rfl rfl)
theorem dX1_judged_91 : decode cX1_judged 91 = .ok (.putfield 253, 3) := dk_181 0 253 (dk_at dksX1_judged_3 20 rfl rfl)
theorem dX1_judged_94 : decode cX1_judged 94 = .ok (.iconst 0, 1) := dk_3 (dk_at dksX1_judged_3 23 rfl rfl)
theorem dX1_judged_95 : decode cX1_judged 95 = .ok (.istore_n 1, 1) := dk_60 (dk_at dksX1_judged_4 0 rfl rfl)
theorem dX1_judged_96 : decode cX1_judged 96 = .ok (.iload_n 1, 1) := dk_27 (dk_at dksX1_judged_4 1 rfl rfl)
theorem dX1_judged_97 : decode cX1_judged 97 = .ok (.aload_n 0, 1) := dk_42 (dk_at dksX1_judged_4 2 rfl rfl)
theorem dX1_judged_98 : decode cX1_judged 98 = .ok (.getfield 109, 3) := dk_180 0 109 (dk_at dksX1_judged_4 3 rfl rfl)
theorem dX1_judged_101 : decode cX1_judged 101 = .ok (.getfield 153, 3) := dk_180 0 153 (dk_at dksX1_judged_4 6 rfl rfl)
theorem dX1_judged_104 : decode cX1_judged 104 = .ok (.if_icmp .ge 33, 3) := dk_162 0 33 (dk_at dksX1_judged_4 9 rfl rfl)
theorem dX1_judged_107 : decode cX1_judged 107 = .ok (.aload_n 0, 1) := dk_42 (dk_at dksX1_judged_4 12 rfl rfl)
theorem dX1_judged_108 : decode cX1_judged 108 = .ok (.aload_n 0, 1) := dk_42 (dk_at dksX1_judged_4 13 rfl rfl)
theorem dX1_judged_109 : decode cX1_judged 109 = .ok (.getfield 109, 3) := dk_180 0 109 (dk_at dksX1_judged_4 14 rfl rfl)
theorem dX1_judged_112 : decode cX1_judged 112 = .ok (.getfield 259, 3) := dk_180 1 3 (dk_at dksX1_judged_4 17 rfl rfl)
theorem dX1_judged_115 : decode cX1_judged 115 = .ok (.iload_n 1, 1) := dk_27 (dk_at dksX1_judged_4 20 rfl rfl)
theorem dX1_judged_116 : decode cX1_judged 116 = .ok (.aaload, 1) := dk_50 (dk_at dksX1_judged_4 21 rfl rfl)
theorem dX1_judged_117 : decode cX1_judged 117 = .ok (.invokevirtual 263, 3) := dk_182 1 7 (dk_at dksX1_judged_5 0 rfl rfl)
theorem dX1_judged_120 : decode cX1_judged 120 = .ok (.ifCond .ne 11, 3) := dk_154 0 11 (dk_at dksX1_judged_5 3 rfl rfl)
theorem dX1_judged_123 : decode cX1_judged 123 = .ok (.aload_n 0, 1) := dk_42 (dk_at dksX1_judged_5 6 rfl rfl)
theorem dX1_judged_124 : decode cX1_judged 124 = .ok (.getfield 109, 3) := dk_180 0 109 (dk_at dksX1_judged_5 7 rfl rfl)
theorem dX1_judged_127 : decode cX1_judged 127 = .ok (.getfield 225, 3) := dk_180 0 225 (dk_at dksX1_judged_5 10 rfl rfl)
theorem dX1_judged_130 : decode cX1_judged 130 = .ok (.ireturn, 1) := dk_172 (dk_at dksX1_judged_5 13 rfl rfl)
theorem dX1_judged_131 : decode cX1_judged 131 = .ok (.iinc 1 1, 3) := dk_132 1 1 (dk_at dksX1_judged_5 14 rfl rfl)
theorem dX1_judged_134 : decode cX1_judged 134 = .ok (.goto (-38), 3) := dk_167 255 218 (dk_at dksX1_judged_5 17 rfl rfl)
theorem dX1_judged_137 : decode cX1_judged 137 = .ok (.aload_n 0, 1) := dk_42 (dk_at dksX1_judged_5 20 rfl rfl)
theorem dX1_judged_138 : decode cX1_judged 138 = .ok (.iconst 0, 1) := dk_3 (dk_at dksX1_judged_5 21 rfl rfl)
theorem dX1_judged_139 : decode cX1_judged 139 = .ok (.putfield 253, 3) := dk_181 0 253 (dk_at dksX1_judged_6 0 rfl rfl)
theorem dX1_judged_142 : decode cX1_judged 142 = .ok (.bipush (-2), 2) := dk_16 254 (dk_at dksX1_judged_6 3 rfl rfl)
theorem dX1_judged_144 : decode cX1_judged 144 = .ok (.ireturn, 1) := dk_172 (dk_at dksX1_judged_6 5 rfl rfl)
abbrev cX1_areWays : ByteArray := prog_1_method_38_code
def yX1_areWays : MethodName := ⟨RX1, "areWays", "(I)Z"⟩
def dkwX1_areWays_3 : List UInt8 := [182, 0, 228, 153, 0, 7, 4, 167, 0, 4, 3, 61, 132, 3, 1, 167, 255, 175, 28, 172]
abbrev dktX1_areWays_3 : List UInt8 := dkwX1_areWays_3 ++ []
def dkwX1_areWays_2 : List UInt8 := [54, 4, 28, 153, 0, 30, 42, 180, 0, 109, 21, 4, 42, 180, 0, 46, 16, 100, 29, 104, 27, 96, 46]
abbrev dktX1_areWays_2 : List UInt8 := dkwX1_areWays_2 ++ dktX1_areWays_3
def dkwX1_areWays_1 : List UInt8 := [180, 0, 140, 29, 50, 180, 0, 144, 167, 0, 16, 42, 180, 0, 46, 16, 100, 29, 104, 27, 96, 4, 100, 46]
abbrev dktX1_areWays_1 : List UInt8 := dkwX1_areWays_1 ++ dktX1_areWays_2
def dkwX1_areWays_0 : List UInt8 := [4, 61, 3, 62, 29, 42, 180, 0, 109, 180, 0, 137, 162, 0, 76, 27, 154, 0, 18, 42, 180, 0, 109]
abbrev dktX1_areWays_0 : List UInt8 := dkwX1_areWays_0 ++ dktX1_areWays_1
theorem dksX1_areWays_0 : cX1_areWays.data.toList.drop 0 = dktX1_areWays_0 := by decide +kernel
theorem dksX1_areWays_1 : cX1_areWays.data.toList.drop 23 = dktX1_areWays_1 := dk_seg dksX1_areWays_0 23 rfl rfl
theorem dksX1_areWays_2 : cX1_areWays.data.toList.drop 47 = dktX1_areWays_2 := dk_seg dksX1_areWays_1 24 rfl rfl
theorem dksX1_areWays_3 : cX1_areWays.data.toList.drop 70 = dktX1_areWays_3 := dk_seg dksX1_areWays_2 23 rfl rfl
theorem dX1_areWays_0 : decode cX1_areWays 0 = .ok (.iconst 1, 1) := dk_4 (dk_at dksX1_areWays_0 0 rfl rfl)
theorem dX1_areWays_1 : decode cX1_areWays 1 = .ok (.istore_n 2, 1) := dk_61 (dk_at dksX1_areWays_0 1 rfl rfl)
theorem dX1_areWays_2 : decode cX1_areWays 2 = .ok (.iconst 0, 1) := dk_3 (dk_at dksX1_areWays_0 2 rfl rfl)
theorem dX1_areWays_3 : decode cX1_areWays 3 = .ok (.istore_n 3, 1) := dk_62 (dk_at dksX1_areWays_0 3 rfl rfl)
theorem dX1_areWays_4 : decode cX1_areWays 4 = .ok (.iload_n 3, 1) := dk_29 (dk_at dksX1_areWays_0 4 rfl rfl)
theorem dX1_areWays_5 : decode cX1_areWays 5 = .ok (.aload_n 0, 1) := dk_42 (dk_at dksX1_areWays_0 5 rfl rfl)
theorem dX1_areWays_6 : decode cX1_areWays 6 = .ok (.getfield 109, 3) := dk_180 0 109 (dk_at dksX1_areWays_0 6 rfl rfl)
theorem dX1_areWays_9 : decode cX1_areWays 9 = .ok (.getfield 137, 3) := dk_180 0 137 (dk_at dksX1_areWays_0 9 rfl rfl)
theorem dX1_areWays_12 : decode cX1_areWays 12 = .ok (.if_icmp .ge 76, 3) := dk_162 0 76 (dk_at dksX1_areWays_0 12 rfl rfl)
theorem dX1_areWays_15 : decode cX1_areWays 15 = .ok (.iload_n 1, 1) := dk_27 (dk_at dksX1_areWays_0 15 rfl rfl)
theorem dX1_areWays_16 : decode cX1_areWays 16 = .ok (.ifCond .ne 18, 3) := dk_154 0 18 (dk_at dksX1_areWays_0 16 rfl rfl)
theorem dX1_areWays_19 : decode cX1_areWays 19 = .ok (.aload_n 0, 1) := dk_42 (dk_at dksX1_areWays_0 19 rfl rfl)
theorem dX1_areWays_20 : decode cX1_areWays 20 = .ok (.getfield 109, 3) := dk_180 0 109 (dk_at dksX1_areWays_0 20 rfl rfl)
theorem dX1_areWays_23 : decode cX1_areWays 23 = .ok (.getfield 140, 3) := dk_180 0 140 (dk_at dksX1_areWays_1 0 rfl rfl)
theorem dX1_areWays_26 : decode cX1_areWays 26 = .ok (.iload_n 3, 1) := dk_29 (dk_at dksX1_areWays_1 3 rfl rfl)
theorem dX1_areWays_27 : decode cX1_areWays 27 = .ok (.aaload, 1) := dk_50 (dk_at dksX1_areWays_1 4 rfl rfl)
theorem dX1_areWays_28 : decode cX1_areWays 28 = .ok (.getfield 144, 3) := dk_180 0 144 (dk_at dksX1_areWays_1 5 rfl rfl)
theorem dX1_areWays_31 : decode cX1_areWays 31 = .ok (.goto 16, 3) := dk_167 0 16 (dk_at dksX1_areWays_1 8 rfl rfl)
theorem dX1_areWays_34 : decode cX1_areWays 34 = .ok (.aload_n 0, 1) := dk_42 (dk_at dksX1_areWays_1 11 rfl rfl)
theorem dX1_areWays_35 : decode cX1_areWays 35 = .ok (.getfield 46, 3) := dk_180 0 46 (dk_at dksX1_areWays_1 12 rfl rfl)
theorem dX1_areWays_38 : decode cX1_areWays 38 = .ok (.bipush 100, 2) := dk_16 100 (dk_at dksX1_areWays_1 15 rfl rfl)
theorem dX1_areWays_40 : decode cX1_areWays 40 = .ok (.iload_n 3, 1) := dk_29 (dk_at dksX1_areWays_1 17 rfl rfl)
theorem dX1_areWays_41 : decode cX1_areWays 41 = .ok (.imul, 1) := dk_104 (dk_at dksX1_areWays_1 18 rfl rfl)
theorem dX1_areWays_42 : decode cX1_areWays 42 = .ok (.iload_n 1, 1) := dk_27 (dk_at dksX1_areWays_1 19 rfl rfl)
theorem dX1_areWays_43 : decode cX1_areWays 43 = .ok (.iadd, 1) := dk_96 (dk_at dksX1_areWays_1 20 rfl rfl)
theorem dX1_areWays_44 : decode cX1_areWays 44 = .ok (.iconst 1, 1) := dk_4 (dk_at dksX1_areWays_1 21 rfl rfl)
theorem dX1_areWays_45 : decode cX1_areWays 45 = .ok (.isub, 1) := dk_100 (dk_at dksX1_areWays_1 22 rfl rfl)
theorem dX1_areWays_46 : decode cX1_areWays 46 = .ok (.iaload, 1) := dk_46 (dk_at dksX1_areWays_1 23 rfl rfl)
theorem dX1_areWays_47 : decode cX1_areWays 47 = .ok (.istore 4, 2) := dk_54 4 (dk_at dksX1_areWays_2 0 rfl rfl)
theorem dX1_areWays_49 : decode cX1_areWays 49 = .ok (.iload_n 2, 1) := dk_28 (dk_at dksX1_areWays_2 2 rfl rfl)
theorem dX1_areWays_50 : decode cX1_areWays 50 = .ok (.ifCond .eq 30, 3) := dk_153 0 30 (dk_at dksX1_areWays_2 3 rfl rfl)
theorem dX1_areWays_53 : decode cX1_areWays 53 = .ok (.aload_n 0, 1) := dk_42 (dk_at dksX1_areWays_2 6 rfl rfl)
theorem dX1_areWays_54 : decode cX1_areWays 54 = .ok (.getfield 109, 3) := dk_180 0 109 (dk_at dksX1_areWays_2 7 rfl rfl)
theorem dX1_areWays_57 : decode cX1_areWays 57 = .ok (.iload 4, 2) := dk_21 4 (dk_at dksX1_areWays_2 10 rfl rfl)
theorem dX1_areWays_59 : decode cX1_areWays 59 = .ok (.aload_n 0, 1) := dk_42 (dk_at dksX1_areWays_2 12 rfl rfl)
theorem dX1_areWays_60 : decode cX1_areWays 60 = .ok (.getfield 46, 3) := dk_180 0 46 (dk_at dksX1_areWays_2 13 rfl rfl)
theorem dX1_areWays_63 : decode cX1_areWays 63 = .ok (.bipush 100, 2) := dk_16 100 (dk_at dksX1_areWays_2 16 rfl rfl)
theorem dX1_areWays_65 : decode cX1_areWays 65 = .ok (.iload_n 3, 1) := dk_29 (dk_at dksX1_areWays_2 18 rfl rfl)
theorem dX1_areWays_66 : decode cX1_areWays 66 = .ok (.imul, 1) := dk_104 (dk_at dksX1_areWays_2 19 rfl rfl)
theorem dX1_areWays_67 : decode cX1_areWays 67 = .ok (.iload_n 1, 1) := dk_27 (dk_at dksX1_areWays_2 20 rfl rfl)
theorem dX1_areWays_68 : decode cX1_areWays 68 = .ok (.iadd, 1) := dk_96 (dk_at dksX1_areWays_2 21 rfl rfl)
theorem dX1_areWays_69 : decode cX1_areWays 69 = .ok (.iaload, 1) := dk_46 (dk_at dksX1_areWays_2 22 rfl rfl)
theorem dX1_areWays_70 : decode cX1_areWays 70 = .ok (.invokevirtual 228, 3) := dk_182 0 228 (dk_at dksX1_areWays_3 0 rfl rfl)
theorem dX1_areWays_73 : decode cX1_areWays 73 = .ok (.ifCond .eq 7, 3) := dk_153 0 7 (dk_at dksX1_areWays_3 3 rfl rfl)
theorem dX1_areWays_76 : decode cX1_areWays 76 = .ok (.iconst 1, 1) := dk_4 (dk_at dksX1_areWays_3 6 rfl rfl)
theorem dX1_areWays_77 : decode cX1_areWays 77 = .ok (.goto 4, 3) := dk_167 0 4 (dk_at dksX1_areWays_3 7 rfl rfl)
theorem dX1_areWays_80 : decode cX1_areWays 80 = .ok (.iconst 0, 1) := dk_3 (dk_at dksX1_areWays_3 10 rfl rfl)
theorem dX1_areWays_81 : decode cX1_areWays 81 = .ok (.istore_n 2, 1) := dk_61 (dk_at dksX1_areWays_3 11 rfl rfl)
theorem dX1_areWays_82 : decode cX1_areWays 82 = .ok (.iinc 3 1, 3) := dk_132 3 1 (dk_at dksX1_areWays_3 12 rfl rfl)
theorem dX1_areWays_85 : decode cX1_areWays 85 = .ok (.goto (-81), 3) := dk_167 255 175 (dk_at dksX1_areWays_3 15 rfl rfl)
theorem dX1_areWays_88 : decode cX1_areWays 88 = .ok (.iload_n 2, 1) := dk_28 (dk_at dksX1_areWays_3 18 rfl rfl)
theorem dX1_areWays_89 : decode cX1_areWays 89 = .ok (.ireturn, 1) := dk_172 (dk_at dksX1_areWays_3 19 rfl rfl)
abbrev cX1_isDone : ByteArray := prog_1_method_39_code
def yX1_isDone : MethodName := ⟨RX1, "isDone", "(LNeverUnseen$Errand;)Z"⟩
def dkwX1_isDone_3 : List UInt8 := [62, 132, 4, 1, 167, 255, 193, 29, 43, 180, 0, 250, 161, 0, 7, 4, 167, 0, 4, 3, 172]
abbrev dktX1_isDone_3 : List UInt8 := dkwX1_isDone_3 ++ []
def dkwX1_isDone_2 : List UInt8 := [21, 4, 96, 46, 43, 180, 0, 244, 160, 0, 9, 28, 4, 96, 167, 0, 4, 3, 61, 29, 28, 184, 0, 245]
abbrev dktX1_isDone_2 : List UInt8 := dkwX1_isDone_2 ++ dktX1_isDone_3
def dkwX1_isDone_1 : List UInt8 := [180, 0, 109, 180, 0, 225, 162, 0, 48, 42, 180, 0, 46, 16, 100, 43, 180, 0, 237, 180, 0, 241, 104]
abbrev dktX1_isDone_1 : List UInt8 := dkwX1_isDone_1 ++ dktX1_isDone_2
def dkwX1_isDone_0 : List UInt8 := [3, 61, 3, 62, 43, 180, 0, 231, 54, 4, 21, 4, 43, 180, 0, 235, 162, 0, 60, 21, 4, 42]
abbrev dktX1_isDone_0 : List UInt8 := dkwX1_isDone_0 ++ dktX1_isDone_1
theorem dksX1_isDone_0 : cX1_isDone.data.toList.drop 0 = dktX1_isDone_0 := by decide +kernel
theorem dksX1_isDone_1 : cX1_isDone.data.toList.drop 22 = dktX1_isDone_1 := dk_seg dksX1_isDone_0 22 rfl rfl
theorem dksX1_isDone_2 : cX1_isDone.data.toList.drop 45 = dktX1_isDone_2 := dk_seg dksX1_isDone_1 23 rfl rfl
theorem dksX1_isDone_3 : cX1_isDone.data.toList.drop 69 = dktX1_isDone_3 := dk_seg dksX1_isDone_2 24 rfl rfl
theorem dX1_isDone_0 : decode cX1_isDone 0 = .ok (.iconst 0, 1) := dk_3 (dk_at dksX1_isDone_0 0 rfl rfl)
theorem dX1_isDone_1 : decode cX1_isDone 1 = .ok (.istore_n 2, 1) := dk_61 (dk_at dksX1_isDone_0 1 rfl rfl)
theorem dX1_isDone_2 : decode cX1_isDone 2 = .ok (.iconst 0, 1) := dk_3 (dk_at dksX1_isDone_0 2 rfl rfl)
theorem dX1_isDone_3 : decode cX1_isDone 3 = .ok (.istore_n 3, 1) := dk_62 (dk_at dksX1_isDone_0 3 rfl rfl)
theorem dX1_isDone_4 : decode cX1_isDone 4 = .ok (.aload_n 1, 1) := dk_43 (dk_at dksX1_isDone_0 4 rfl rfl)
theorem dX1_isDone_5 : decode cX1_isDone 5 = .ok (.getfield 231, 3) := dk_180 0 231 (dk_at dksX1_isDone_0 5 rfl rfl)
theorem dX1_isDone_8 : decode cX1_isDone 8 = .ok (.istore 4, 2) := dk_54 4 (dk_at dksX1_isDone_0 8 rfl rfl)
theorem dX1_isDone_10 : decode cX1_isDone 10 = .ok (.iload 4, 2) := dk_21 4 (dk_at dksX1_isDone_0 10 rfl rfl)
theorem dX1_isDone_12 : decode cX1_isDone 12 = .ok (.aload_n 1, 1) := dk_43 (dk_at dksX1_isDone_0 12 rfl rfl)
theorem dX1_isDone_13 : decode cX1_isDone 13 = .ok (.getfield 235, 3) := dk_180 0 235 (dk_at dksX1_isDone_0 13 rfl rfl)
theorem dX1_isDone_16 : decode cX1_isDone 16 = .ok (.if_icmp .ge 60, 3) := dk_162 0 60 (dk_at dksX1_isDone_0 16 rfl rfl)
theorem dX1_isDone_19 : decode cX1_isDone 19 = .ok (.iload 4, 2) := dk_21 4 (dk_at dksX1_isDone_0 19 rfl rfl)
theorem dX1_isDone_21 : decode cX1_isDone 21 = .ok (.aload_n 0, 1) := dk_42 (dk_at dksX1_isDone_0 21 rfl rfl)
theorem dX1_isDone_22 : decode cX1_isDone 22 = .ok (.getfield 109, 3) := dk_180 0 109 (dk_at dksX1_isDone_1 0 rfl rfl)
theorem dX1_isDone_25 : decode cX1_isDone 25 = .ok (.getfield 225, 3) := dk_180 0 225 (dk_at dksX1_isDone_1 3 rfl rfl)
theorem dX1_isDone_28 : decode cX1_isDone 28 = .ok (.if_icmp .ge 48, 3) := dk_162 0 48 (dk_at dksX1_isDone_1 6 rfl rfl)
theorem dX1_isDone_31 : decode cX1_isDone 31 = .ok (.aload_n 0, 1) := dk_42 (dk_at dksX1_isDone_1 9 rfl rfl)
theorem dX1_isDone_32 : decode cX1_isDone 32 = .ok (.getfield 46, 3) := dk_180 0 46 (dk_at dksX1_isDone_1 10 rfl rfl)
theorem dX1_isDone_35 : decode cX1_isDone 35 = .ok (.bipush 100, 2) := dk_16 100 (dk_at dksX1_isDone_1 13 rfl rfl)
theorem dX1_isDone_37 : decode cX1_isDone 37 = .ok (.aload_n 1, 1) := dk_43 (dk_at dksX1_isDone_1 15 rfl rfl)
theorem dX1_isDone_38 : decode cX1_isDone 38 = .ok (.getfield 237, 3) := dk_180 0 237 (dk_at dksX1_isDone_1 16 rfl rfl)
theorem dX1_isDone_41 : decode cX1_isDone 41 = .ok (.getfield 241, 3) := dk_180 0 241 (dk_at dksX1_isDone_1 19 rfl rfl)
theorem dX1_isDone_44 : decode cX1_isDone 44 = .ok (.imul, 1) := dk_104 (dk_at dksX1_isDone_1 22 rfl rfl)
theorem dX1_isDone_45 : decode cX1_isDone 45 = .ok (.iload 4, 2) := dk_21 4 (dk_at dksX1_isDone_2 0 rfl rfl)
theorem dX1_isDone_47 : decode cX1_isDone 47 = .ok (.iadd, 1) := dk_96 (dk_at dksX1_isDone_2 2 rfl rfl)
theorem dX1_isDone_48 : decode cX1_isDone 48 = .ok (.iaload, 1) := dk_46 (dk_at dksX1_isDone_2 3 rfl rfl)
theorem dX1_isDone_49 : decode cX1_isDone 49 = .ok (.aload_n 1, 1) := dk_43 (dk_at dksX1_isDone_2 4 rfl rfl)
theorem dX1_isDone_50 : decode cX1_isDone 50 = .ok (.getfield 244, 3) := dk_180 0 244 (dk_at dksX1_isDone_2 5 rfl rfl)
theorem dX1_isDone_53 : decode cX1_isDone 53 = .ok (.if_icmp .ne 9, 3) := dk_160 0 9 (dk_at dksX1_isDone_2 8 rfl rfl)
theorem dX1_isDone_56 : decode cX1_isDone 56 = .ok (.iload_n 2, 1) := dk_28 (dk_at dksX1_isDone_2 11 rfl rfl)
theorem dX1_isDone_57 : decode cX1_isDone 57 = .ok (.iconst 1, 1) := dk_4 (dk_at dksX1_isDone_2 12 rfl rfl)
theorem dX1_isDone_58 : decode cX1_isDone 58 = .ok (.iadd, 1) := dk_96 (dk_at dksX1_isDone_2 13 rfl rfl)
theorem dX1_isDone_59 : decode cX1_isDone 59 = .ok (.goto 4, 3) := dk_167 0 4 (dk_at dksX1_isDone_2 14 rfl rfl)
theorem dX1_isDone_62 : decode cX1_isDone 62 = .ok (.iconst 0, 1) := dk_3 (dk_at dksX1_isDone_2 17 rfl rfl)
theorem dX1_isDone_63 : decode cX1_isDone 63 = .ok (.istore_n 2, 1) := dk_61 (dk_at dksX1_isDone_2 18 rfl rfl)
theorem dX1_isDone_64 : decode cX1_isDone 64 = .ok (.iload_n 3, 1) := dk_29 (dk_at dksX1_isDone_2 19 rfl rfl)
theorem dX1_isDone_65 : decode cX1_isDone 65 = .ok (.iload_n 2, 1) := dk_28 (dk_at dksX1_isDone_2 20 rfl rfl)
theorem dX1_isDone_66 : decode cX1_isDone 66 = .ok (.invokestatic 245, 3) := dk_184 0 245 (dk_at dksX1_isDone_2 21 rfl rfl)
theorem dX1_isDone_69 : decode cX1_isDone 69 = .ok (.istore_n 3, 1) := dk_62 (dk_at dksX1_isDone_3 0 rfl rfl)
theorem dX1_isDone_70 : decode cX1_isDone 70 = .ok (.iinc 4 1, 3) := dk_132 4 1 (dk_at dksX1_isDone_3 1 rfl rfl)
theorem dX1_isDone_73 : decode cX1_isDone 73 = .ok (.goto (-63), 3) := dk_167 255 193 (dk_at dksX1_isDone_3 4 rfl rfl)
theorem dX1_isDone_76 : decode cX1_isDone 76 = .ok (.iload_n 3, 1) := dk_29 (dk_at dksX1_isDone_3 7 rfl rfl)
theorem dX1_isDone_77 : decode cX1_isDone 77 = .ok (.aload_n 1, 1) := dk_43 (dk_at dksX1_isDone_3 8 rfl rfl)
theorem dX1_isDone_78 : decode cX1_isDone 78 = .ok (.getfield 250, 3) := dk_180 0 250 (dk_at dksX1_isDone_3 9 rfl rfl)
theorem dX1_isDone_81 : decode cX1_isDone 81 = .ok (.if_icmp .lt 7, 3) := dk_161 0 7 (dk_at dksX1_isDone_3 12 rfl rfl)
theorem dX1_isDone_84 : decode cX1_isDone 84 = .ok (.iconst 1, 1) := dk_4 (dk_at dksX1_isDone_3 15 rfl rfl)
theorem dX1_isDone_85 : decode cX1_isDone 85 = .ok (.goto 4, 3) := dk_167 0 4 (dk_at dksX1_isDone_3 16 rfl rfl)
theorem dX1_isDone_88 : decode cX1_isDone 88 = .ok (.iconst 0, 1) := dk_3 (dk_at dksX1_isDone_3 19 rfl rfl)
theorem dX1_isDone_89 : decode cX1_isDone 89 = .ok (.ireturn, 1) := dk_172 (dk_at dksX1_isDone_3 20 rfl rfl)
abbrev cX1_why : ByteArray := prog_1_method_42_code
def yX1_why : MethodName := ⟨RX1, "why", "()I"⟩
def dkwX1_why_1 : List UInt8 := [16, 254, 160, 0, 7, 3, 167, 0, 7, 42, 180, 0, 253, 172]
abbrev dktX1_why_1 : List UInt8 := dkwX1_why_1 ++ []
def dkwX1_why_0 : List UInt8 := [42, 182, 0, 84, 42, 180, 0, 109, 199, 0, 9, 42, 4, 182, 0, 98, 172, 42, 182, 1, 11, 60, 27]
abbrev dktX1_why_0 : List UInt8 := dkwX1_why_0 ++ dktX1_why_1
theorem dksX1_why_0 : cX1_why.data.toList.drop 0 = dktX1_why_0 := by decide +kernel
theorem dksX1_why_1 : cX1_why.data.toList.drop 23 = dktX1_why_1 := dk_seg dksX1_why_0 23 rfl rfl
theorem dX1_why_0 : decode cX1_why 0 = .ok (.aload_n 0, 1) := dk_42 (dk_at dksX1_why_0 0 rfl rfl)
theorem dX1_why_1 : decode cX1_why 1 = .ok (.invokevirtual 84, 3) := dk_182 0 84 (dk_at dksX1_why_0 1 rfl rfl)
theorem dX1_why_4 : decode cX1_why 4 = .ok (.aload_n 0, 1) := dk_42 (dk_at dksX1_why_0 4 rfl rfl)
theorem dX1_why_5 : decode cX1_why 5 = .ok (.getfield 109, 3) := dk_180 0 109 (dk_at dksX1_why_0 5 rfl rfl)
theorem dX1_why_8 : decode cX1_why 8 = .ok (.ifnonnull 9, 3) := dk_199 0 9 (dk_at dksX1_why_0 8 rfl rfl)
theorem dX1_why_11 : decode cX1_why 11 = .ok (.aload_n 0, 1) := dk_42 (dk_at dksX1_why_0 11 rfl rfl)
theorem dX1_why_12 : decode cX1_why 12 = .ok (.iconst 1, 1) := dk_4 (dk_at dksX1_why_0 12 rfl rfl)
theorem dX1_why_13 : decode cX1_why 13 = .ok (.invokevirtual 98, 3) := dk_182 0 98 (dk_at dksX1_why_0 13 rfl rfl)
theorem dX1_why_16 : decode cX1_why 16 = .ok (.ireturn, 1) := dk_172 (dk_at dksX1_why_0 16 rfl rfl)
theorem dX1_why_17 : decode cX1_why 17 = .ok (.aload_n 0, 1) := dk_42 (dk_at dksX1_why_0 17 rfl rfl)
theorem dX1_why_18 : decode cX1_why 18 = .ok (.invokevirtual 267, 3) := dk_182 1 11 (dk_at dksX1_why_0 18 rfl rfl)
theorem dX1_why_21 : decode cX1_why 21 = .ok (.istore_n 1, 1) := dk_60 (dk_at dksX1_why_0 21 rfl rfl)
theorem dX1_why_22 : decode cX1_why 22 = .ok (.iload_n 1, 1) := dk_27 (dk_at dksX1_why_0 22 rfl rfl)
theorem dX1_why_23 : decode cX1_why 23 = .ok (.bipush (-2), 2) := dk_16 254 (dk_at dksX1_why_1 0 rfl rfl)
theorem dX1_why_25 : decode cX1_why 25 = .ok (.if_icmp .ne 7, 3) := dk_160 0 7 (dk_at dksX1_why_1 2 rfl rfl)
theorem dX1_why_28 : decode cX1_why 28 = .ok (.iconst 0, 1) := dk_3 (dk_at dksX1_why_1 5 rfl rfl)
theorem dX1_why_29 : decode cX1_why 29 = .ok (.goto 7, 3) := dk_167 0 7 (dk_at dksX1_why_1 6 rfl rfl)
theorem dX1_why_32 : decode cX1_why 32 = .ok (.aload_n 0, 1) := dk_42 (dk_at dksX1_why_1 9 rfl rfl)
theorem dX1_why_33 : decode cX1_why 33 = .ok (.getfield 253, 3) := dk_180 0 253 (dk_at dksX1_why_1 10 rfl rfl)
theorem dX1_why_36 : decode cX1_why 36 = .ok (.ireturn, 1) := dk_172 (dk_at dksX1_why_1 13 rfl rfl)
abbrev cX1_done : ByteArray := prog_1_method_43_code
def yX1_done : MethodName := ⟨RX1, "done", "(I)I"⟩
def dkwX1_done_1 : List UInt8 := [182, 1, 7, 153, 0, 7, 4, 167, 0, 12, 3, 167, 0, 8, 42, 4, 182, 0, 98, 172]
abbrev dktX1_done_1 : List UInt8 := dkwX1_done_1 ++ []
def dkwX1_done_0 : List UInt8 := [42, 182, 0, 84, 42, 27, 182, 1, 14, 153, 0, 27, 42, 42, 180, 0, 109, 180, 1, 3, 27, 50]
abbrev dktX1_done_0 : List UInt8 := dkwX1_done_0 ++ dktX1_done_1
theorem dksX1_done_0 : cX1_done.data.toList.drop 0 = dktX1_done_0 := by decide +kernel
theorem dksX1_done_1 : cX1_done.data.toList.drop 22 = dktX1_done_1 := dk_seg dksX1_done_0 22 rfl rfl
theorem dX1_done_0 : decode cX1_done 0 = .ok (.aload_n 0, 1) := dk_42 (dk_at dksX1_done_0 0 rfl rfl)
theorem dX1_done_1 : decode cX1_done 1 = .ok (.invokevirtual 84, 3) := dk_182 0 84 (dk_at dksX1_done_0 1 rfl rfl)
theorem dX1_done_4 : decode cX1_done 4 = .ok (.aload_n 0, 1) := dk_42 (dk_at dksX1_done_0 4 rfl rfl)
theorem dX1_done_5 : decode cX1_done 5 = .ok (.iload_n 1, 1) := dk_27 (dk_at dksX1_done_0 5 rfl rfl)
theorem dX1_done_6 : decode cX1_done 6 = .ok (.invokevirtual 270, 3) := dk_182 1 14 (dk_at dksX1_done_0 6 rfl rfl)
theorem dX1_done_9 : decode cX1_done 9 = .ok (.ifCond .eq 27, 3) := dk_153 0 27 (dk_at dksX1_done_0 9 rfl rfl)
theorem dX1_done_12 : decode cX1_done 12 = .ok (.aload_n 0, 1) := dk_42 (dk_at dksX1_done_0 12 rfl rfl)
theorem dX1_done_13 : decode cX1_done 13 = .ok (.aload_n 0, 1) := dk_42 (dk_at dksX1_done_0 13 rfl rfl)
theorem dX1_done_14 : decode cX1_done 14 = .ok (.getfield 109, 3) := dk_180 0 109 (dk_at dksX1_done_0 14 rfl rfl)
theorem dX1_done_17 : decode cX1_done 17 = .ok (.getfield 259, 3) := dk_180 1 3 (dk_at dksX1_done_0 17 rfl rfl)
theorem dX1_done_20 : decode cX1_done 20 = .ok (.iload_n 1, 1) := dk_27 (dk_at dksX1_done_0 20 rfl rfl)
theorem dX1_done_21 : decode cX1_done 21 = .ok (.aaload, 1) := dk_50 (dk_at dksX1_done_0 21 rfl rfl)
theorem dX1_done_22 : decode cX1_done 22 = .ok (.invokevirtual 263, 3) := dk_182 1 7 (dk_at dksX1_done_1 0 rfl rfl)
theorem dX1_done_25 : decode cX1_done 25 = .ok (.ifCond .eq 7, 3) := dk_153 0 7 (dk_at dksX1_done_1 3 rfl rfl)
theorem dX1_done_28 : decode cX1_done 28 = .ok (.iconst 1, 1) := dk_4 (dk_at dksX1_done_1 6 rfl rfl)
theorem dX1_done_29 : decode cX1_done 29 = .ok (.goto 12, 3) := dk_167 0 12 (dk_at dksX1_done_1 7 rfl rfl)
theorem dX1_done_32 : decode cX1_done 32 = .ok (.iconst 0, 1) := dk_3 (dk_at dksX1_done_1 10 rfl rfl)
theorem dX1_done_33 : decode cX1_done 33 = .ok (.goto 8, 3) := dk_167 0 8 (dk_at dksX1_done_1 11 rfl rfl)
theorem dX1_done_36 : decode cX1_done 36 = .ok (.aload_n 0, 1) := dk_42 (dk_at dksX1_done_1 14 rfl rfl)
theorem dX1_done_37 : decode cX1_done 37 = .ok (.iconst 1, 1) := dk_4 (dk_at dksX1_done_1 15 rfl rfl)
theorem dX1_done_38 : decode cX1_done 38 = .ok (.invokevirtual 98, 3) := dk_182 0 98 (dk_at dksX1_done_1 16 rfl rfl)
theorem dX1_done_41 : decode cX1_done 41 = .ok (.ireturn, 1) := dk_172 (dk_at dksX1_done_1 19 rfl rfl)
abbrev cX1_isErrand : ByteArray := prog_1_method_17_code
def yX1_isErrand : MethodName := ⟨RX1, "isErrand", "(I)Z"⟩
def dkwX1_isErrand_1 : List UInt8 := [4, 167, 0, 4, 3, 172]
abbrev dktX1_isErrand_1 : List UInt8 := dkwX1_isErrand_1 ++ []
def dkwX1_isErrand_0 : List UInt8 := [42, 180, 0, 109, 198, 0, 24, 27, 3, 42, 180, 0, 109, 180, 0, 153, 4, 100, 184, 0, 94, 153, 0, 7]
abbrev dktX1_isErrand_0 : List UInt8 := dkwX1_isErrand_0 ++ dktX1_isErrand_1
theorem dksX1_isErrand_0 : cX1_isErrand.data.toList.drop 0 = dktX1_isErrand_0 := by decide +kernel
theorem dksX1_isErrand_1 : cX1_isErrand.data.toList.drop 24 = dktX1_isErrand_1 := dk_seg dksX1_isErrand_0 24 rfl rfl
theorem dX1_isErrand_0 : decode cX1_isErrand 0 = .ok (.aload_n 0, 1) := dk_42 (dk_at dksX1_isErrand_0 0 rfl rfl)
theorem dX1_isErrand_1 : decode cX1_isErrand 1 = .ok (.getfield 109, 3) := dk_180 0 109 (dk_at dksX1_isErrand_0 1 rfl rfl)
theorem dX1_isErrand_4 : decode cX1_isErrand 4 = .ok (.ifnull 24, 3) := dk_198 0 24 (dk_at dksX1_isErrand_0 4 rfl rfl)
theorem dX1_isErrand_7 : decode cX1_isErrand 7 = .ok (.iload_n 1, 1) := dk_27 (dk_at dksX1_isErrand_0 7 rfl rfl)
theorem dX1_isErrand_8 : decode cX1_isErrand 8 = .ok (.iconst 0, 1) := dk_3 (dk_at dksX1_isErrand_0 8 rfl rfl)
theorem dX1_isErrand_9 : decode cX1_isErrand 9 = .ok (.aload_n 0, 1) := dk_42 (dk_at dksX1_isErrand_0 9 rfl rfl)
theorem dX1_isErrand_10 : decode cX1_isErrand 10 = .ok (.getfield 109, 3) := dk_180 0 109 (dk_at dksX1_isErrand_0 10 rfl rfl)
theorem dX1_isErrand_13 : decode cX1_isErrand 13 = .ok (.getfield 153, 3) := dk_180 0 153 (dk_at dksX1_isErrand_0 13 rfl rfl)
theorem dX1_isErrand_16 : decode cX1_isErrand 16 = .ok (.iconst 1, 1) := dk_4 (dk_at dksX1_isErrand_0 16 rfl rfl)
theorem dX1_isErrand_17 : decode cX1_isErrand 17 = .ok (.isub, 1) := dk_100 (dk_at dksX1_isErrand_0 17 rfl rfl)
theorem dX1_isErrand_18 : decode cX1_isErrand 18 = .ok (.invokestatic 94, 3) := dk_184 0 94 (dk_at dksX1_isErrand_0 18 rfl rfl)
theorem dX1_isErrand_21 : decode cX1_isErrand 21 = .ok (.ifCond .eq 7, 3) := dk_153 0 7 (dk_at dksX1_isErrand_0 21 rfl rfl)
theorem dX1_isErrand_24 : decode cX1_isErrand 24 = .ok (.iconst 1, 1) := dk_4 (dk_at dksX1_isErrand_1 0 rfl rfl)
theorem dX1_isErrand_25 : decode cX1_isErrand 25 = .ok (.goto 4, 3) := dk_167 0 4 (dk_at dksX1_isErrand_1 1 rfl rfl)
theorem dX1_isErrand_28 : decode cX1_isErrand 28 = .ok (.iconst 0, 1) := dk_3 (dk_at dksX1_isErrand_1 4 rfl rfl)
theorem dX1_isErrand_29 : decode cX1_isErrand 29 = .ok (.ireturn, 1) := dk_172 (dk_at dksX1_isErrand_1 5 rfl rfl)
abbrev cX1_forget : ByteArray := prog_1_method_44_code
def yX1_forget : MethodName := ⟨RX1, "forget", "()Z"⟩
def dkwX1_forget_1 : List UInt8 := [182, 0, 147, 4, 172]
abbrev dktX1_forget_1 : List UInt8 := dkwX1_forget_1 ++ []
def dkwX1_forget_0 : List UInt8 := [42, 42, 180, 0, 109, 199, 0, 7, 4, 167, 0, 4, 3, 182, 0, 218, 154, 0, 5, 3, 172, 42]
abbrev dktX1_forget_0 : List UInt8 := dkwX1_forget_0 ++ dktX1_forget_1
theorem dksX1_forget_0 : cX1_forget.data.toList.drop 0 = dktX1_forget_0 := by decide +kernel
theorem dksX1_forget_1 : cX1_forget.data.toList.drop 22 = dktX1_forget_1 := dk_seg dksX1_forget_0 22 rfl rfl
theorem dX1_forget_0 : decode cX1_forget 0 = .ok (.aload_n 0, 1) := dk_42 (dk_at dksX1_forget_0 0 rfl rfl)
theorem dX1_forget_1 : decode cX1_forget 1 = .ok (.aload_n 0, 1) := dk_42 (dk_at dksX1_forget_0 1 rfl rfl)
theorem dX1_forget_2 : decode cX1_forget 2 = .ok (.getfield 109, 3) := dk_180 0 109 (dk_at dksX1_forget_0 2 rfl rfl)
theorem dX1_forget_5 : decode cX1_forget 5 = .ok (.ifnonnull 7, 3) := dk_199 0 7 (dk_at dksX1_forget_0 5 rfl rfl)
theorem dX1_forget_8 : decode cX1_forget 8 = .ok (.iconst 1, 1) := dk_4 (dk_at dksX1_forget_0 8 rfl rfl)
theorem dX1_forget_9 : decode cX1_forget 9 = .ok (.goto 4, 3) := dk_167 0 4 (dk_at dksX1_forget_0 9 rfl rfl)
theorem dX1_forget_12 : decode cX1_forget 12 = .ok (.iconst 0, 1) := dk_3 (dk_at dksX1_forget_0 12 rfl rfl)
theorem dX1_forget_13 : decode cX1_forget 13 = .ok (.invokevirtual 218, 3) := dk_182 0 218 (dk_at dksX1_forget_0 13 rfl rfl)
theorem dX1_forget_16 : decode cX1_forget 16 = .ok (.ifCond .ne 5, 3) := dk_154 0 5 (dk_at dksX1_forget_0 16 rfl rfl)
theorem dX1_forget_19 : decode cX1_forget 19 = .ok (.iconst 0, 1) := dk_3 (dk_at dksX1_forget_0 19 rfl rfl)
theorem dX1_forget_20 : decode cX1_forget 20 = .ok (.ireturn, 1) := dk_172 (dk_at dksX1_forget_0 20 rfl rfl)
theorem dX1_forget_21 : decode cX1_forget 21 = .ok (.aload_n 0, 1) := dk_42 (dk_at dksX1_forget_0 21 rfl rfl)
theorem dX1_forget_22 : decode cX1_forget 22 = .ok (.invokevirtual 147, 3) := dk_182 0 147 (dk_at dksX1_forget_1 0 rfl rfl)
theorem dX1_forget_25 : decode cX1_forget 25 = .ok (.iconst 1, 1) := dk_4 (dk_at dksX1_forget_1 3 rfl rfl)
theorem dX1_forget_26 : decode cX1_forget 26 = .ok (.ireturn, 1) := dk_172 (dk_at dksX1_forget_1 4 rfl rfl)
abbrev cX1_posts : ByteArray := prog_1_method_48_code
def yX1_posts : MethodName := ⟨RX1, "posts", "(II)I"⟩
def dkwX1_posts_2 : List UInt8 := [184, 1, 17, 172]
abbrev dktX1_posts_2 : List UInt8 := dkwX1_posts_2 ++ []
def dkwX1_posts_1 : List UInt8 := [28, 182, 0, 166, 182, 1, 27, 54, 4, 21, 4, 16, 254, 160, 0, 8, 16, 254, 167, 0, 8, 21, 4]
abbrev dktX1_posts_1 : List UInt8 := dkwX1_posts_1 ++ dktX1_posts_2
def dkwX1_posts_0 : List UInt8 := [42, 182, 0, 84, 42, 27, 28, 182, 1, 24, 62, 29, 153, 0, 9, 42, 29, 182, 0, 98, 172, 42, 27, 42]
abbrev dktX1_posts_0 : List UInt8 := dkwX1_posts_0 ++ dktX1_posts_1
theorem dksX1_posts_0 : cX1_posts.data.toList.drop 0 = dktX1_posts_0 := by decide +kernel
theorem dksX1_posts_1 : cX1_posts.data.toList.drop 24 = dktX1_posts_1 := dk_seg dksX1_posts_0 24 rfl rfl
theorem dksX1_posts_2 : cX1_posts.data.toList.drop 47 = dktX1_posts_2 := dk_seg dksX1_posts_1 23 rfl rfl
theorem dX1_posts_0 : decode cX1_posts 0 = .ok (.aload_n 0, 1) := dk_42 (dk_at dksX1_posts_0 0 rfl rfl)
theorem dX1_posts_1 : decode cX1_posts 1 = .ok (.invokevirtual 84, 3) := dk_182 0 84 (dk_at dksX1_posts_0 1 rfl rfl)
theorem dX1_posts_4 : decode cX1_posts 4 = .ok (.aload_n 0, 1) := dk_42 (dk_at dksX1_posts_0 4 rfl rfl)
theorem dX1_posts_5 : decode cX1_posts 5 = .ok (.iload_n 1, 1) := dk_27 (dk_at dksX1_posts_0 5 rfl rfl)
theorem dX1_posts_6 : decode cX1_posts 6 = .ok (.iload_n 2, 1) := dk_28 (dk_at dksX1_posts_0 6 rfl rfl)
theorem dX1_posts_7 : decode cX1_posts 7 = .ok (.invokevirtual 280, 3) := dk_182 1 24 (dk_at dksX1_posts_0 7 rfl rfl)
theorem dX1_posts_10 : decode cX1_posts 10 = .ok (.istore_n 3, 1) := dk_62 (dk_at dksX1_posts_0 10 rfl rfl)
theorem dX1_posts_11 : decode cX1_posts 11 = .ok (.iload_n 3, 1) := dk_29 (dk_at dksX1_posts_0 11 rfl rfl)
theorem dX1_posts_12 : decode cX1_posts 12 = .ok (.ifCond .eq 9, 3) := dk_153 0 9 (dk_at dksX1_posts_0 12 rfl rfl)
theorem dX1_posts_15 : decode cX1_posts 15 = .ok (.aload_n 0, 1) := dk_42 (dk_at dksX1_posts_0 15 rfl rfl)
theorem dX1_posts_16 : decode cX1_posts 16 = .ok (.iload_n 3, 1) := dk_29 (dk_at dksX1_posts_0 16 rfl rfl)
theorem dX1_posts_17 : decode cX1_posts 17 = .ok (.invokevirtual 98, 3) := dk_182 0 98 (dk_at dksX1_posts_0 17 rfl rfl)
theorem dX1_posts_20 : decode cX1_posts 20 = .ok (.ireturn, 1) := dk_172 (dk_at dksX1_posts_0 20 rfl rfl)
theorem dX1_posts_21 : decode cX1_posts 21 = .ok (.aload_n 0, 1) := dk_42 (dk_at dksX1_posts_0 21 rfl rfl)
theorem dX1_posts_22 : decode cX1_posts 22 = .ok (.iload_n 1, 1) := dk_27 (dk_at dksX1_posts_0 22 rfl rfl)
theorem dX1_posts_23 : decode cX1_posts 23 = .ok (.aload_n 0, 1) := dk_42 (dk_at dksX1_posts_0 23 rfl rfl)
theorem dX1_posts_24 : decode cX1_posts 24 = .ok (.iload_n 2, 1) := dk_28 (dk_at dksX1_posts_1 0 rfl rfl)
theorem dX1_posts_25 : decode cX1_posts 25 = .ok (.invokevirtual 166, 3) := dk_182 0 166 (dk_at dksX1_posts_1 1 rfl rfl)
theorem dX1_posts_28 : decode cX1_posts 28 = .ok (.invokevirtual 283, 3) := dk_182 1 27 (dk_at dksX1_posts_1 4 rfl rfl)
theorem dX1_posts_31 : decode cX1_posts 31 = .ok (.istore 4, 2) := dk_54 4 (dk_at dksX1_posts_1 7 rfl rfl)
theorem dX1_posts_33 : decode cX1_posts 33 = .ok (.iload 4, 2) := dk_21 4 (dk_at dksX1_posts_1 9 rfl rfl)
theorem dX1_posts_35 : decode cX1_posts 35 = .ok (.bipush (-2), 2) := dk_16 254 (dk_at dksX1_posts_1 11 rfl rfl)
theorem dX1_posts_37 : decode cX1_posts 37 = .ok (.if_icmp .ne 8, 3) := dk_160 0 8 (dk_at dksX1_posts_1 13 rfl rfl)
theorem dX1_posts_40 : decode cX1_posts 40 = .ok (.bipush (-2), 2) := dk_16 254 (dk_at dksX1_posts_1 16 rfl rfl)
theorem dX1_posts_42 : decode cX1_posts 42 = .ok (.goto 8, 3) := dk_167 0 8 (dk_at dksX1_posts_1 18 rfl rfl)
theorem dX1_posts_45 : decode cX1_posts 45 = .ok (.iload 4, 2) := dk_21 4 (dk_at dksX1_posts_1 21 rfl rfl)
theorem dX1_posts_47 : decode cX1_posts 47 = .ok (.invokestatic 273, 3) := dk_184 1 17 (dk_at dksX1_posts_2 0 rfl rfl)
theorem dX1_posts_50 : decode cX1_posts 50 = .ok (.ireturn, 1) := dk_172 (dk_at dksX1_posts_2 3 rfl rfl)
abbrev cX1_postsWhy : ByteArray := prog_1_method_47_code
def yX1_postsWhy : MethodName := ⟨RX1, "postsWhy", "(II)I"⟩
def dkwX1_postsWhy_1 : List UInt8 := [153, 0, 14, 28, 184, 0, 156, 153, 0, 7, 3, 167, 0, 4, 5, 172]
abbrev dktX1_postsWhy_1 : List UInt8 := dkwX1_postsWhy_1 ++ []
def dkwX1_postsWhy_0 : List UInt8 := [42, 180, 0, 109, 199, 0, 7, 4, 167, 0, 30, 27, 3, 42, 180, 0, 109, 182, 0, 179, 184, 0, 94]
abbrev dktX1_postsWhy_0 : List UInt8 := dkwX1_postsWhy_0 ++ dktX1_postsWhy_1
theorem dksX1_postsWhy_0 : cX1_postsWhy.data.toList.drop 0 = dktX1_postsWhy_0 := by decide +kernel
theorem dksX1_postsWhy_1 : cX1_postsWhy.data.toList.drop 23 = dktX1_postsWhy_1 := dk_seg dksX1_postsWhy_0 23 rfl rfl
theorem dX1_postsWhy_0 : decode cX1_postsWhy 0 = .ok (.aload_n 0, 1) := dk_42 (dk_at dksX1_postsWhy_0 0 rfl rfl)
theorem dX1_postsWhy_1 : decode cX1_postsWhy 1 = .ok (.getfield 109, 3) := dk_180 0 109 (dk_at dksX1_postsWhy_0 1 rfl rfl)
theorem dX1_postsWhy_4 : decode cX1_postsWhy 4 = .ok (.ifnonnull 7, 3) := dk_199 0 7 (dk_at dksX1_postsWhy_0 4 rfl rfl)
theorem dX1_postsWhy_7 : decode cX1_postsWhy 7 = .ok (.iconst 1, 1) := dk_4 (dk_at dksX1_postsWhy_0 7 rfl rfl)
theorem dX1_postsWhy_8 : decode cX1_postsWhy 8 = .ok (.goto 30, 3) := dk_167 0 30 (dk_at dksX1_postsWhy_0 8 rfl rfl)
theorem dX1_postsWhy_11 : decode cX1_postsWhy 11 = .ok (.iload_n 1, 1) := dk_27 (dk_at dksX1_postsWhy_0 11 rfl rfl)
theorem dX1_postsWhy_12 : decode cX1_postsWhy 12 = .ok (.iconst 0, 1) := dk_3 (dk_at dksX1_postsWhy_0 12 rfl rfl)
theorem dX1_postsWhy_13 : decode cX1_postsWhy 13 = .ok (.aload_n 0, 1) := dk_42 (dk_at dksX1_postsWhy_0 13 rfl rfl)
theorem dX1_postsWhy_14 : decode cX1_postsWhy 14 = .ok (.getfield 109, 3) := dk_180 0 109 (dk_at dksX1_postsWhy_0 14 rfl rfl)
theorem dX1_postsWhy_17 : decode cX1_postsWhy 17 = .ok (.invokevirtual 179, 3) := dk_182 0 179 (dk_at dksX1_postsWhy_0 17 rfl rfl)
theorem dX1_postsWhy_20 : decode cX1_postsWhy 20 = .ok (.invokestatic 94, 3) := dk_184 0 94 (dk_at dksX1_postsWhy_0 20 rfl rfl)
theorem dX1_postsWhy_23 : decode cX1_postsWhy 23 = .ok (.ifCond .eq 14, 3) := dk_153 0 14 (dk_at dksX1_postsWhy_1 0 rfl rfl)
theorem dX1_postsWhy_26 : decode cX1_postsWhy 26 = .ok (.iload_n 2, 1) := dk_28 (dk_at dksX1_postsWhy_1 3 rfl rfl)
theorem dX1_postsWhy_27 : decode cX1_postsWhy 27 = .ok (.invokestatic 156, 3) := dk_184 0 156 (dk_at dksX1_postsWhy_1 4 rfl rfl)
theorem dX1_postsWhy_30 : decode cX1_postsWhy 30 = .ok (.ifCond .eq 7, 3) := dk_153 0 7 (dk_at dksX1_postsWhy_1 7 rfl rfl)
theorem dX1_postsWhy_33 : decode cX1_postsWhy 33 = .ok (.iconst 0, 1) := dk_3 (dk_at dksX1_postsWhy_1 10 rfl rfl)
theorem dX1_postsWhy_34 : decode cX1_postsWhy 34 = .ok (.goto 4, 3) := dk_167 0 4 (dk_at dksX1_postsWhy_1 11 rfl rfl)
theorem dX1_postsWhy_37 : decode cX1_postsWhy 37 = .ok (.iconst 2, 1) := dk_5 (dk_at dksX1_postsWhy_1 14 rfl rfl)
theorem dX1_postsWhy_38 : decode cX1_postsWhy 38 = .ok (.ireturn, 1) := dk_172 (dk_at dksX1_postsWhy_1 15 rfl rfl)
abbrev cX1_postsFor : ByteArray := prog_1_method_46_code
def yX1_postsFor : MethodName := ⟨RX1, "postsFor", "(ILNeverUnseen$Sight;)I"⟩
def dkwX1_postsFor_2 : List UInt8 := [21, 4, 62, 132, 4, 1, 167, 255, 209, 29, 172]
abbrev dktX1_postsFor_2 : List UInt8 := dkwX1_postsFor_2 ++ []
def dkwX1_postsFor_1 : List UInt8 := [21, 4, 184, 1, 17, 29, 184, 1, 17, 162, 0, 17, 42, 21, 4, 27, 44, 182, 1, 20, 153, 0, 6]
abbrev dktX1_postsFor_1 : List UInt8 := dkwX1_postsFor_1 ++ dktX1_postsFor_2
def dkwX1_postsFor_0 : List UInt8 := [16, 254, 62, 3, 54, 4, 21, 4, 42, 180, 0, 109, 182, 0, 179, 163, 0, 41, 29, 16, 254, 159, 0, 15]
abbrev dktX1_postsFor_0 : List UInt8 := dkwX1_postsFor_0 ++ dktX1_postsFor_1
theorem dksX1_postsFor_0 : cX1_postsFor.data.toList.drop 0 = dktX1_postsFor_0 := by decide +kernel
theorem dksX1_postsFor_1 : cX1_postsFor.data.toList.drop 24 = dktX1_postsFor_1 := dk_seg dksX1_postsFor_0 24 rfl rfl
theorem dksX1_postsFor_2 : cX1_postsFor.data.toList.drop 47 = dktX1_postsFor_2 := dk_seg dksX1_postsFor_1 23 rfl rfl
theorem dX1_postsFor_0 : decode cX1_postsFor 0 = .ok (.bipush (-2), 2) := dk_16 254 (dk_at dksX1_postsFor_0 0 rfl rfl)
theorem dX1_postsFor_2 : decode cX1_postsFor 2 = .ok (.istore_n 3, 1) := dk_62 (dk_at dksX1_postsFor_0 2 rfl rfl)
theorem dX1_postsFor_3 : decode cX1_postsFor 3 = .ok (.iconst 0, 1) := dk_3 (dk_at dksX1_postsFor_0 3 rfl rfl)
theorem dX1_postsFor_4 : decode cX1_postsFor 4 = .ok (.istore 4, 2) := dk_54 4 (dk_at dksX1_postsFor_0 4 rfl rfl)
theorem dX1_postsFor_6 : decode cX1_postsFor 6 = .ok (.iload 4, 2) := dk_21 4 (dk_at dksX1_postsFor_0 6 rfl rfl)
theorem dX1_postsFor_8 : decode cX1_postsFor 8 = .ok (.aload_n 0, 1) := dk_42 (dk_at dksX1_postsFor_0 8 rfl rfl)
theorem dX1_postsFor_9 : decode cX1_postsFor 9 = .ok (.getfield 109, 3) := dk_180 0 109 (dk_at dksX1_postsFor_0 9 rfl rfl)
theorem dX1_postsFor_12 : decode cX1_postsFor 12 = .ok (.invokevirtual 179, 3) := dk_182 0 179 (dk_at dksX1_postsFor_0 12 rfl rfl)
theorem dX1_postsFor_15 : decode cX1_postsFor 15 = .ok (.if_icmp .gt 41, 3) := dk_163 0 41 (dk_at dksX1_postsFor_0 15 rfl rfl)
theorem dX1_postsFor_18 : decode cX1_postsFor 18 = .ok (.iload_n 3, 1) := dk_29 (dk_at dksX1_postsFor_0 18 rfl rfl)
theorem dX1_postsFor_19 : decode cX1_postsFor 19 = .ok (.bipush (-2), 2) := dk_16 254 (dk_at dksX1_postsFor_0 19 rfl rfl)
theorem dX1_postsFor_21 : decode cX1_postsFor 21 = .ok (.if_icmp .eq 15, 3) := dk_159 0 15 (dk_at dksX1_postsFor_0 21 rfl rfl)
theorem dX1_postsFor_24 : decode cX1_postsFor 24 = .ok (.iload 4, 2) := dk_21 4 (dk_at dksX1_postsFor_1 0 rfl rfl)
theorem dX1_postsFor_26 : decode cX1_postsFor 26 = .ok (.invokestatic 273, 3) := dk_184 1 17 (dk_at dksX1_postsFor_1 2 rfl rfl)
theorem dX1_postsFor_29 : decode cX1_postsFor 29 = .ok (.iload_n 3, 1) := dk_29 (dk_at dksX1_postsFor_1 5 rfl rfl)
theorem dX1_postsFor_30 : decode cX1_postsFor 30 = .ok (.invokestatic 273, 3) := dk_184 1 17 (dk_at dksX1_postsFor_1 6 rfl rfl)
theorem dX1_postsFor_33 : decode cX1_postsFor 33 = .ok (.if_icmp .ge 17, 3) := dk_162 0 17 (dk_at dksX1_postsFor_1 9 rfl rfl)
theorem dX1_postsFor_36 : decode cX1_postsFor 36 = .ok (.aload_n 0, 1) := dk_42 (dk_at dksX1_postsFor_1 12 rfl rfl)
theorem dX1_postsFor_37 : decode cX1_postsFor 37 = .ok (.iload 4, 2) := dk_21 4 (dk_at dksX1_postsFor_1 13 rfl rfl)
theorem dX1_postsFor_39 : decode cX1_postsFor 39 = .ok (.iload_n 1, 1) := dk_27 (dk_at dksX1_postsFor_1 15 rfl rfl)
theorem dX1_postsFor_40 : decode cX1_postsFor 40 = .ok (.aload_n 2, 1) := dk_44 (dk_at dksX1_postsFor_1 16 rfl rfl)
theorem dX1_postsFor_41 : decode cX1_postsFor 41 = .ok (.invokevirtual 276, 3) := dk_182 1 20 (dk_at dksX1_postsFor_1 17 rfl rfl)
theorem dX1_postsFor_44 : decode cX1_postsFor 44 = .ok (.ifCond .eq 6, 3) := dk_153 0 6 (dk_at dksX1_postsFor_1 20 rfl rfl)
theorem dX1_postsFor_47 : decode cX1_postsFor 47 = .ok (.iload 4, 2) := dk_21 4 (dk_at dksX1_postsFor_2 0 rfl rfl)
theorem dX1_postsFor_49 : decode cX1_postsFor 49 = .ok (.istore_n 3, 1) := dk_62 (dk_at dksX1_postsFor_2 2 rfl rfl)
theorem dX1_postsFor_50 : decode cX1_postsFor 50 = .ok (.iinc 4 1, 3) := dk_132 4 1 (dk_at dksX1_postsFor_2 3 rfl rfl)
theorem dX1_postsFor_53 : decode cX1_postsFor 53 = .ok (.goto (-47), 3) := dk_167 255 209 (dk_at dksX1_postsFor_2 6 rfl rfl)
theorem dX1_postsFor_56 : decode cX1_postsFor 56 = .ok (.iload_n 3, 1) := dk_29 (dk_at dksX1_postsFor_2 9 rfl rfl)
theorem dX1_postsFor_57 : decode cX1_postsFor 57 = .ok (.ireturn, 1) := dk_172 (dk_at dksX1_postsFor_2 10 rfl rfl)
abbrev cX1_ones : ByteArray := prog_1_method_3_code
def yX1_ones : MethodName := ⟨RX1, "ones", "(I)I"⟩
def dkwX1_ones_0 : List UInt8 := [3, 60, 26, 61, 28, 153, 0, 15, 132, 1, 1, 28, 28, 4, 100, 126, 61, 167, 255, 243, 27, 172]
abbrev dktX1_ones_0 : List UInt8 := dkwX1_ones_0 ++ []
theorem dksX1_ones_0 : cX1_ones.data.toList.drop 0 = dktX1_ones_0 := by decide +kernel
theorem dX1_ones_0 : decode cX1_ones 0 = .ok (.iconst 0, 1) := dk_3 (dk_at dksX1_ones_0 0 rfl rfl)
theorem dX1_ones_1 : decode cX1_ones 1 = .ok (.istore_n 1, 1) := dk_60 (dk_at dksX1_ones_0 1 rfl rfl)
theorem dX1_ones_2 : decode cX1_ones 2 = .ok (.iload_n 0, 1) := dk_26 (dk_at dksX1_ones_0 2 rfl rfl)
theorem dX1_ones_3 : decode cX1_ones 3 = .ok (.istore_n 2, 1) := dk_61 (dk_at dksX1_ones_0 3 rfl rfl)
theorem dX1_ones_4 : decode cX1_ones 4 = .ok (.iload_n 2, 1) := dk_28 (dk_at dksX1_ones_0 4 rfl rfl)
theorem dX1_ones_5 : decode cX1_ones 5 = .ok (.ifCond .eq 15, 3) := dk_153 0 15 (dk_at dksX1_ones_0 5 rfl rfl)
theorem dX1_ones_8 : decode cX1_ones 8 = .ok (.iinc 1 1, 3) := dk_132 1 1 (dk_at dksX1_ones_0 8 rfl rfl)
theorem dX1_ones_11 : decode cX1_ones 11 = .ok (.iload_n 2, 1) := dk_28 (dk_at dksX1_ones_0 11 rfl rfl)
theorem dX1_ones_12 : decode cX1_ones 12 = .ok (.iload_n 2, 1) := dk_28 (dk_at dksX1_ones_0 12 rfl rfl)
theorem dX1_ones_13 : decode cX1_ones 13 = .ok (.iconst 1, 1) := dk_4 (dk_at dksX1_ones_0 13 rfl rfl)
theorem dX1_ones_14 : decode cX1_ones 14 = .ok (.isub, 1) := dk_100 (dk_at dksX1_ones_0 14 rfl rfl)
theorem dX1_ones_15 : decode cX1_ones 15 = .ok (.iand, 1) := dk_126 (dk_at dksX1_ones_0 15 rfl rfl)
theorem dX1_ones_16 : decode cX1_ones 16 = .ok (.istore_n 2, 1) := dk_61 (dk_at dksX1_ones_0 16 rfl rfl)
theorem dX1_ones_17 : decode cX1_ones 17 = .ok (.goto (-13), 3) := dk_167 255 243 (dk_at dksX1_ones_0 17 rfl rfl)
theorem dX1_ones_20 : decode cX1_ones 20 = .ok (.iload_n 1, 1) := dk_27 (dk_at dksX1_ones_0 20 rfl rfl)
theorem dX1_ones_21 : decode cX1_ones 21 = .ok (.ireturn, 1) := dk_172 (dk_at dksX1_ones_0 21 rfl rfl)
abbrev cX1_hold : ByteArray := prog_1_method_45_code
def yX1_hold : MethodName := ⟨RX1, "hold", "(IILNeverUnseen$Sight;)Z"⟩
def dkwX1_hold_4 : List UInt8 := [154, 0, 7, 4, 167, 0, 4, 3, 172]
abbrev dktX1_hold_4 : List UInt8 := dkwX1_hold_4 ++ []
def dkwX1_hold_3 : List UInt8 := [167, 0, 4, 3, 54, 5, 132, 6, 1, 167, 255, 188, 21, 5, 153, 0, 16, 28, 21, 4, 2, 130, 126]
abbrev dktX1_hold_3 : List UInt8 := dkwX1_hold_3 ++ dktX1_hold_4
def dkwX1_hold_2 : List UInt8 := [153, 0, 25, 45, 21, 6, 182, 0, 173, 27, 126, 4, 21, 6, 120, 2, 130, 126, 153, 0, 7, 4]
abbrev dktX1_hold_2 : List UInt8 := dkwX1_hold_2 ++ dktX1_hold_3
def dkwX1_hold_1 : List UInt8 := [184, 0, 189, 154, 0, 6, 167, 0, 44, 21, 4, 45, 21, 6, 182, 0, 173, 128, 54, 4, 21, 5]
abbrev dktX1_hold_1 : List UInt8 := dkwX1_hold_1 ++ dktX1_hold_2
def dkwX1_hold_0 : List UInt8 := [3, 54, 4, 4, 54, 5, 3, 54, 6, 21, 6, 42, 180, 0, 109, 180, 0, 150, 162, 0, 62, 27, 21, 6]
abbrev dktX1_hold_0 : List UInt8 := dkwX1_hold_0 ++ dktX1_hold_1
theorem dksX1_hold_0 : cX1_hold.data.toList.drop 0 = dktX1_hold_0 := by decide +kernel
theorem dksX1_hold_1 : cX1_hold.data.toList.drop 24 = dktX1_hold_1 := dk_seg dksX1_hold_0 24 rfl rfl
theorem dksX1_hold_2 : cX1_hold.data.toList.drop 46 = dktX1_hold_2 := dk_seg dksX1_hold_1 22 rfl rfl
theorem dksX1_hold_3 : cX1_hold.data.toList.drop 68 = dktX1_hold_3 := dk_seg dksX1_hold_2 22 rfl rfl
theorem dksX1_hold_4 : cX1_hold.data.toList.drop 91 = dktX1_hold_4 := dk_seg dksX1_hold_3 23 rfl rfl
theorem dX1_hold_0 : decode cX1_hold 0 = .ok (.iconst 0, 1) := dk_3 (dk_at dksX1_hold_0 0 rfl rfl)
theorem dX1_hold_1 : decode cX1_hold 1 = .ok (.istore 4, 2) := dk_54 4 (dk_at dksX1_hold_0 1 rfl rfl)
theorem dX1_hold_3 : decode cX1_hold 3 = .ok (.iconst 1, 1) := dk_4 (dk_at dksX1_hold_0 3 rfl rfl)
theorem dX1_hold_4 : decode cX1_hold 4 = .ok (.istore 5, 2) := dk_54 5 (dk_at dksX1_hold_0 4 rfl rfl)
theorem dX1_hold_6 : decode cX1_hold 6 = .ok (.iconst 0, 1) := dk_3 (dk_at dksX1_hold_0 6 rfl rfl)
theorem dX1_hold_7 : decode cX1_hold 7 = .ok (.istore 6, 2) := dk_54 6 (dk_at dksX1_hold_0 7 rfl rfl)
theorem dX1_hold_9 : decode cX1_hold 9 = .ok (.iload 6, 2) := dk_21 6 (dk_at dksX1_hold_0 9 rfl rfl)
theorem dX1_hold_11 : decode cX1_hold 11 = .ok (.aload_n 0, 1) := dk_42 (dk_at dksX1_hold_0 11 rfl rfl)
theorem dX1_hold_12 : decode cX1_hold 12 = .ok (.getfield 109, 3) := dk_180 0 109 (dk_at dksX1_hold_0 12 rfl rfl)
theorem dX1_hold_15 : decode cX1_hold 15 = .ok (.getfield 150, 3) := dk_180 0 150 (dk_at dksX1_hold_0 15 rfl rfl)
theorem dX1_hold_18 : decode cX1_hold 18 = .ok (.if_icmp .ge 62, 3) := dk_162 0 62 (dk_at dksX1_hold_0 18 rfl rfl)
theorem dX1_hold_21 : decode cX1_hold 21 = .ok (.iload_n 1, 1) := dk_27 (dk_at dksX1_hold_0 21 rfl rfl)
theorem dX1_hold_22 : decode cX1_hold 22 = .ok (.iload 6, 2) := dk_21 6 (dk_at dksX1_hold_0 22 rfl rfl)
theorem dX1_hold_24 : decode cX1_hold 24 = .ok (.invokestatic 189, 3) := dk_184 0 189 (dk_at dksX1_hold_1 0 rfl rfl)
theorem dX1_hold_27 : decode cX1_hold 27 = .ok (.ifCond .ne 6, 3) := dk_154 0 6 (dk_at dksX1_hold_1 3 rfl rfl)
theorem dX1_hold_30 : decode cX1_hold 30 = .ok (.goto 44, 3) := dk_167 0 44 (dk_at dksX1_hold_1 6 rfl rfl)
theorem dX1_hold_33 : decode cX1_hold 33 = .ok (.iload 4, 2) := dk_21 4 (dk_at dksX1_hold_1 9 rfl rfl)
theorem dX1_hold_35 : decode cX1_hold 35 = .ok (.aload_n 3, 1) := dk_45 (dk_at dksX1_hold_1 11 rfl rfl)
theorem dX1_hold_36 : decode cX1_hold 36 = .ok (.iload 6, 2) := dk_21 6 (dk_at dksX1_hold_1 12 rfl rfl)
theorem dX1_hold_38 : decode cX1_hold 38 = .ok (.invokevirtual 173, 3) := dk_182 0 173 (dk_at dksX1_hold_1 14 rfl rfl)
theorem dX1_hold_41 : decode cX1_hold 41 = .ok (.ior, 1) := dk_128 (dk_at dksX1_hold_1 17 rfl rfl)
theorem dX1_hold_42 : decode cX1_hold 42 = .ok (.istore 4, 2) := dk_54 4 (dk_at dksX1_hold_1 18 rfl rfl)
theorem dX1_hold_44 : decode cX1_hold 44 = .ok (.iload 5, 2) := dk_21 5 (dk_at dksX1_hold_1 20 rfl rfl)
theorem dX1_hold_46 : decode cX1_hold 46 = .ok (.ifCond .eq 25, 3) := dk_153 0 25 (dk_at dksX1_hold_2 0 rfl rfl)
theorem dX1_hold_49 : decode cX1_hold 49 = .ok (.aload_n 3, 1) := dk_45 (dk_at dksX1_hold_2 3 rfl rfl)
theorem dX1_hold_50 : decode cX1_hold 50 = .ok (.iload 6, 2) := dk_21 6 (dk_at dksX1_hold_2 4 rfl rfl)
theorem dX1_hold_52 : decode cX1_hold 52 = .ok (.invokevirtual 173, 3) := dk_182 0 173 (dk_at dksX1_hold_2 6 rfl rfl)
theorem dX1_hold_55 : decode cX1_hold 55 = .ok (.iload_n 1, 1) := dk_27 (dk_at dksX1_hold_2 9 rfl rfl)
theorem dX1_hold_56 : decode cX1_hold 56 = .ok (.iand, 1) := dk_126 (dk_at dksX1_hold_2 10 rfl rfl)
theorem dX1_hold_57 : decode cX1_hold 57 = .ok (.iconst 1, 1) := dk_4 (dk_at dksX1_hold_2 11 rfl rfl)
theorem dX1_hold_58 : decode cX1_hold 58 = .ok (.iload 6, 2) := dk_21 6 (dk_at dksX1_hold_2 12 rfl rfl)
theorem dX1_hold_60 : decode cX1_hold 60 = .ok (.ishl, 1) := dk_120 (dk_at dksX1_hold_2 14 rfl rfl)
theorem dX1_hold_61 : decode cX1_hold 61 = .ok (.iconst (-1), 1) := dk_2 (dk_at dksX1_hold_2 15 rfl rfl)
theorem dX1_hold_62 : decode cX1_hold 62 = .ok (.ixor, 1) := dk_130 (dk_at dksX1_hold_2 16 rfl rfl)
theorem dX1_hold_63 : decode cX1_hold 63 = .ok (.iand, 1) := dk_126 (dk_at dksX1_hold_2 17 rfl rfl)
theorem dX1_hold_64 : decode cX1_hold 64 = .ok (.ifCond .eq 7, 3) := dk_153 0 7 (dk_at dksX1_hold_2 18 rfl rfl)
theorem dX1_hold_67 : decode cX1_hold 67 = .ok (.iconst 1, 1) := dk_4 (dk_at dksX1_hold_2 21 rfl rfl)
theorem dX1_hold_68 : decode cX1_hold 68 = .ok (.goto 4, 3) := dk_167 0 4 (dk_at dksX1_hold_3 0 rfl rfl)
theorem dX1_hold_71 : decode cX1_hold 71 = .ok (.iconst 0, 1) := dk_3 (dk_at dksX1_hold_3 3 rfl rfl)
theorem dX1_hold_72 : decode cX1_hold 72 = .ok (.istore 5, 2) := dk_54 5 (dk_at dksX1_hold_3 4 rfl rfl)
theorem dX1_hold_74 : decode cX1_hold 74 = .ok (.iinc 6 1, 3) := dk_132 6 1 (dk_at dksX1_hold_3 6 rfl rfl)
theorem dX1_hold_77 : decode cX1_hold 77 = .ok (.goto (-68), 3) := dk_167 255 188 (dk_at dksX1_hold_3 9 rfl rfl)
theorem dX1_hold_80 : decode cX1_hold 80 = .ok (.iload 5, 2) := dk_21 5 (dk_at dksX1_hold_3 12 rfl rfl)
theorem dX1_hold_82 : decode cX1_hold 82 = .ok (.ifCond .eq 16, 3) := dk_153 0 16 (dk_at dksX1_hold_3 14 rfl rfl)
theorem dX1_hold_85 : decode cX1_hold 85 = .ok (.iload_n 2, 1) := dk_28 (dk_at dksX1_hold_3 17 rfl rfl)
theorem dX1_hold_86 : decode cX1_hold 86 = .ok (.iload 4, 2) := dk_21 4 (dk_at dksX1_hold_3 18 rfl rfl)
theorem dX1_hold_88 : decode cX1_hold 88 = .ok (.iconst (-1), 1) := dk_2 (dk_at dksX1_hold_3 20 rfl rfl)
theorem dX1_hold_89 : decode cX1_hold 89 = .ok (.ixor, 1) := dk_130 (dk_at dksX1_hold_3 21 rfl rfl)
theorem dX1_hold_90 : decode cX1_hold 90 = .ok (.iand, 1) := dk_126 (dk_at dksX1_hold_3 22 rfl rfl)
theorem dX1_hold_91 : decode cX1_hold 91 = .ok (.ifCond .ne 7, 3) := dk_154 0 7 (dk_at dksX1_hold_4 0 rfl rfl)
theorem dX1_hold_94 : decode cX1_hold 94 = .ok (.iconst 1, 1) := dk_4 (dk_at dksX1_hold_4 3 rfl rfl)
theorem dX1_hold_95 : decode cX1_hold 95 = .ok (.goto 4, 3) := dk_167 0 4 (dk_at dksX1_hold_4 4 rfl rfl)
theorem dX1_hold_98 : decode cX1_hold 98 = .ok (.iconst 0, 1) := dk_3 (dk_at dksX1_hold_4 7 rfl rfl)
theorem dX1_hold_99 : decode cX1_hold 99 = .ok (.ireturn, 1) := dk_172 (dk_at dksX1_hold_4 8 rfl rfl)
abbrev cX1_postsAt : ByteArray := prog_1_method_49_code
def yX1_postsAt : MethodName := ⟨RX1, "postsAt", "(II)I"⟩
def dkwX1_postsAt_1 : List UInt8 := [27, 42, 28, 182, 0, 166, 182, 1, 27, 172]
abbrev dktX1_postsAt_1 : List UInt8 := dkwX1_postsAt_1 ++ []
def dkwX1_postsAt_0 : List UInt8 := [42, 182, 0, 84, 42, 27, 28, 182, 1, 24, 62, 29, 153, 0, 11, 42, 29, 182, 0, 98, 167, 0, 13, 42]
abbrev dktX1_postsAt_0 : List UInt8 := dkwX1_postsAt_0 ++ dktX1_postsAt_1
theorem dksX1_postsAt_0 : cX1_postsAt.data.toList.drop 0 = dktX1_postsAt_0 := by decide +kernel
theorem dksX1_postsAt_1 : cX1_postsAt.data.toList.drop 24 = dktX1_postsAt_1 := dk_seg dksX1_postsAt_0 24 rfl rfl
theorem dX1_postsAt_0 : decode cX1_postsAt 0 = .ok (.aload_n 0, 1) := dk_42 (dk_at dksX1_postsAt_0 0 rfl rfl)
theorem dX1_postsAt_1 : decode cX1_postsAt 1 = .ok (.invokevirtual 84, 3) := dk_182 0 84 (dk_at dksX1_postsAt_0 1 rfl rfl)
theorem dX1_postsAt_4 : decode cX1_postsAt 4 = .ok (.aload_n 0, 1) := dk_42 (dk_at dksX1_postsAt_0 4 rfl rfl)
theorem dX1_postsAt_5 : decode cX1_postsAt 5 = .ok (.iload_n 1, 1) := dk_27 (dk_at dksX1_postsAt_0 5 rfl rfl)
theorem dX1_postsAt_6 : decode cX1_postsAt 6 = .ok (.iload_n 2, 1) := dk_28 (dk_at dksX1_postsAt_0 6 rfl rfl)
theorem dX1_postsAt_7 : decode cX1_postsAt 7 = .ok (.invokevirtual 280, 3) := dk_182 1 24 (dk_at dksX1_postsAt_0 7 rfl rfl)
theorem dX1_postsAt_10 : decode cX1_postsAt 10 = .ok (.istore_n 3, 1) := dk_62 (dk_at dksX1_postsAt_0 10 rfl rfl)
theorem dX1_postsAt_11 : decode cX1_postsAt 11 = .ok (.iload_n 3, 1) := dk_29 (dk_at dksX1_postsAt_0 11 rfl rfl)
theorem dX1_postsAt_12 : decode cX1_postsAt 12 = .ok (.ifCond .eq 11, 3) := dk_153 0 11 (dk_at dksX1_postsAt_0 12 rfl rfl)
theorem dX1_postsAt_15 : decode cX1_postsAt 15 = .ok (.aload_n 0, 1) := dk_42 (dk_at dksX1_postsAt_0 15 rfl rfl)
theorem dX1_postsAt_16 : decode cX1_postsAt 16 = .ok (.iload_n 3, 1) := dk_29 (dk_at dksX1_postsAt_0 16 rfl rfl)
theorem dX1_postsAt_17 : decode cX1_postsAt 17 = .ok (.invokevirtual 98, 3) := dk_182 0 98 (dk_at dksX1_postsAt_0 17 rfl rfl)
theorem dX1_postsAt_20 : decode cX1_postsAt 20 = .ok (.goto 13, 3) := dk_167 0 13 (dk_at dksX1_postsAt_0 20 rfl rfl)
theorem dX1_postsAt_23 : decode cX1_postsAt 23 = .ok (.aload_n 0, 1) := dk_42 (dk_at dksX1_postsAt_0 23 rfl rfl)
theorem dX1_postsAt_24 : decode cX1_postsAt 24 = .ok (.iload_n 1, 1) := dk_27 (dk_at dksX1_postsAt_1 0 rfl rfl)
theorem dX1_postsAt_25 : decode cX1_postsAt 25 = .ok (.aload_n 0, 1) := dk_42 (dk_at dksX1_postsAt_1 1 rfl rfl)
theorem dX1_postsAt_26 : decode cX1_postsAt 26 = .ok (.iload_n 2, 1) := dk_28 (dk_at dksX1_postsAt_1 2 rfl rfl)
theorem dX1_postsAt_27 : decode cX1_postsAt 27 = .ok (.invokevirtual 166, 3) := dk_182 0 166 (dk_at dksX1_postsAt_1 3 rfl rfl)
theorem dX1_postsAt_30 : decode cX1_postsAt 30 = .ok (.invokevirtual 283, 3) := dk_182 1 27 (dk_at dksX1_postsAt_1 6 rfl rfl)
theorem dX1_postsAt_33 : decode cX1_postsAt 33 = .ok (.ireturn, 1) := dk_172 (dk_at dksX1_postsAt_1 9 rfl rfl)
abbrev cX1_go : ByteArray := prog_1_method_64_code
def yX1_go : MethodName := ⟨RX1, "go", "(II)I"⟩
def dkwX1_go_4 : List UInt8 := [164, 0, 6, 16, 254, 172, 42, 21, 4, 21, 5, 182, 1, 79, 21, 5, 172]
abbrev dktX1_go_4 : List UInt8 := dkwX1_go_4 ++ []
def dkwX1_go_3 : List UInt8 := [17, 3, 232, 21, 5, 104, 21, 4, 96, 51, 154, 0, 9, 132, 5, 1, 167, 255, 229, 21, 5, 16, 30]
abbrev dktX1_go_3 : List UInt8 := dkwX1_go_3 ++ dktX1_go_4
def dkwX1_go_2 : List UInt8 := [182, 1, 73, 42, 28, 182, 1, 76, 54, 4, 3, 54, 5, 21, 5, 16, 30, 163, 0, 26, 42, 180, 0, 62]
abbrev dktX1_go_2 : List UInt8 := dkwX1_go_2 ++ dktX1_go_3
def dkwX1_go_1 : List UInt8 := [172, 42, 27, 6, 182, 1, 67, 62, 29, 153, 0, 9, 42, 29, 182, 0, 98, 172, 42, 27, 182, 1, 70, 42]
abbrev dktX1_go_1 : List UInt8 := dkwX1_go_1 ++ dktX1_go_2
def dkwX1_go_0 : List UInt8 := [42, 182, 0, 84, 42, 180, 0, 109, 198, 0, 11, 42, 28, 182, 0, 163, 154, 0, 9, 42, 4, 182, 0, 98]
abbrev dktX1_go_0 : List UInt8 := dkwX1_go_0 ++ dktX1_go_1
theorem dksX1_go_0 : cX1_go.data.toList.drop 0 = dktX1_go_0 := by decide +kernel
theorem dksX1_go_1 : cX1_go.data.toList.drop 24 = dktX1_go_1 := dk_seg dksX1_go_0 24 rfl rfl
theorem dksX1_go_2 : cX1_go.data.toList.drop 48 = dktX1_go_2 := dk_seg dksX1_go_1 24 rfl rfl
theorem dksX1_go_3 : cX1_go.data.toList.drop 72 = dktX1_go_3 := dk_seg dksX1_go_2 24 rfl rfl
theorem dksX1_go_4 : cX1_go.data.toList.drop 95 = dktX1_go_4 := dk_seg dksX1_go_3 23 rfl rfl
theorem dX1_go_0 : decode cX1_go 0 = .ok (.aload_n 0, 1) := dk_42 (dk_at dksX1_go_0 0 rfl rfl)
theorem dX1_go_1 : decode cX1_go 1 = .ok (.invokevirtual 84, 3) := dk_182 0 84 (dk_at dksX1_go_0 1 rfl rfl)
theorem dX1_go_4 : decode cX1_go 4 = .ok (.aload_n 0, 1) := dk_42 (dk_at dksX1_go_0 4 rfl rfl)
theorem dX1_go_5 : decode cX1_go 5 = .ok (.getfield 109, 3) := dk_180 0 109 (dk_at dksX1_go_0 5 rfl rfl)
theorem dX1_go_8 : decode cX1_go 8 = .ok (.ifnull 11, 3) := dk_198 0 11 (dk_at dksX1_go_0 8 rfl rfl)
theorem dX1_go_11 : decode cX1_go 11 = .ok (.aload_n 0, 1) := dk_42 (dk_at dksX1_go_0 11 rfl rfl)
theorem dX1_go_12 : decode cX1_go 12 = .ok (.iload_n 2, 1) := dk_28 (dk_at dksX1_go_0 12 rfl rfl)
theorem dX1_go_13 : decode cX1_go 13 = .ok (.invokevirtual 163, 3) := dk_182 0 163 (dk_at dksX1_go_0 13 rfl rfl)
theorem dX1_go_16 : decode cX1_go 16 = .ok (.ifCond .ne 9, 3) := dk_154 0 9 (dk_at dksX1_go_0 16 rfl rfl)
theorem dX1_go_19 : decode cX1_go 19 = .ok (.aload_n 0, 1) := dk_42 (dk_at dksX1_go_0 19 rfl rfl)
theorem dX1_go_20 : decode cX1_go 20 = .ok (.iconst 1, 1) := dk_4 (dk_at dksX1_go_0 20 rfl rfl)
theorem dX1_go_21 : decode cX1_go 21 = .ok (.invokevirtual 98, 3) := dk_182 0 98 (dk_at dksX1_go_0 21 rfl rfl)
theorem dX1_go_24 : decode cX1_go 24 = .ok (.ireturn, 1) := dk_172 (dk_at dksX1_go_1 0 rfl rfl)
theorem dX1_go_25 : decode cX1_go 25 = .ok (.aload_n 0, 1) := dk_42 (dk_at dksX1_go_1 1 rfl rfl)
theorem dX1_go_26 : decode cX1_go 26 = .ok (.iload_n 1, 1) := dk_27 (dk_at dksX1_go_1 2 rfl rfl)
theorem dX1_go_27 : decode cX1_go 27 = .ok (.iconst 3, 1) := dk_6 (dk_at dksX1_go_1 3 rfl rfl)
theorem dX1_go_28 : decode cX1_go 28 = .ok (.invokevirtual 323, 3) := dk_182 1 67 (dk_at dksX1_go_1 4 rfl rfl)
theorem dX1_go_31 : decode cX1_go 31 = .ok (.istore_n 3, 1) := dk_62 (dk_at dksX1_go_1 7 rfl rfl)
theorem dX1_go_32 : decode cX1_go 32 = .ok (.iload_n 3, 1) := dk_29 (dk_at dksX1_go_1 8 rfl rfl)
theorem dX1_go_33 : decode cX1_go 33 = .ok (.ifCond .eq 9, 3) := dk_153 0 9 (dk_at dksX1_go_1 9 rfl rfl)
theorem dX1_go_36 : decode cX1_go 36 = .ok (.aload_n 0, 1) := dk_42 (dk_at dksX1_go_1 12 rfl rfl)
theorem dX1_go_37 : decode cX1_go 37 = .ok (.iload_n 3, 1) := dk_29 (dk_at dksX1_go_1 13 rfl rfl)
theorem dX1_go_38 : decode cX1_go 38 = .ok (.invokevirtual 98, 3) := dk_182 0 98 (dk_at dksX1_go_1 14 rfl rfl)
theorem dX1_go_41 : decode cX1_go 41 = .ok (.ireturn, 1) := dk_172 (dk_at dksX1_go_1 17 rfl rfl)
theorem dX1_go_42 : decode cX1_go 42 = .ok (.aload_n 0, 1) := dk_42 (dk_at dksX1_go_1 18 rfl rfl)
theorem dX1_go_43 : decode cX1_go 43 = .ok (.iload_n 1, 1) := dk_27 (dk_at dksX1_go_1 19 rfl rfl)
theorem dX1_go_44 : decode cX1_go 44 = .ok (.invokevirtual 326, 3) := dk_182 1 70 (dk_at dksX1_go_1 20 rfl rfl)
theorem dX1_go_47 : decode cX1_go 47 = .ok (.aload_n 0, 1) := dk_42 (dk_at dksX1_go_1 23 rfl rfl)
theorem dX1_go_48 : decode cX1_go 48 = .ok (.invokevirtual 329, 3) := dk_182 1 73 (dk_at dksX1_go_2 0 rfl rfl)
theorem dX1_go_51 : decode cX1_go 51 = .ok (.aload_n 0, 1) := dk_42 (dk_at dksX1_go_2 3 rfl rfl)
theorem dX1_go_52 : decode cX1_go 52 = .ok (.iload_n 2, 1) := dk_28 (dk_at dksX1_go_2 4 rfl rfl)
theorem dX1_go_53 : decode cX1_go 53 = .ok (.invokevirtual 332, 3) := dk_182 1 76 (dk_at dksX1_go_2 5 rfl rfl)
theorem dX1_go_56 : decode cX1_go 56 = .ok (.istore 4, 2) := dk_54 4 (dk_at dksX1_go_2 8 rfl rfl)
theorem dX1_go_58 : decode cX1_go 58 = .ok (.iconst 0, 1) := dk_3 (dk_at dksX1_go_2 10 rfl rfl)
theorem dX1_go_59 : decode cX1_go 59 = .ok (.istore 5, 2) := dk_54 5 (dk_at dksX1_go_2 11 rfl rfl)
theorem dX1_go_61 : decode cX1_go 61 = .ok (.iload 5, 2) := dk_21 5 (dk_at dksX1_go_2 13 rfl rfl)
theorem dX1_go_63 : decode cX1_go 63 = .ok (.bipush 30, 2) := dk_16 30 (dk_at dksX1_go_2 15 rfl rfl)
theorem dX1_go_65 : decode cX1_go 65 = .ok (.if_icmp .gt 26, 3) := dk_163 0 26 (dk_at dksX1_go_2 17 rfl rfl)
theorem dX1_go_68 : decode cX1_go 68 = .ok (.aload_n 0, 1) := dk_42 (dk_at dksX1_go_2 20 rfl rfl)
theorem dX1_go_69 : decode cX1_go 69 = .ok (.getfield 62, 3) := dk_180 0 62 (dk_at dksX1_go_2 21 rfl rfl)
theorem dX1_go_72 : decode cX1_go 72 = .ok (.sipush 1000, 3) := dk_17 3 232 (dk_at dksX1_go_3 0 rfl rfl)
theorem dX1_go_75 : decode cX1_go 75 = .ok (.iload 5, 2) := dk_21 5 (dk_at dksX1_go_3 3 rfl rfl)
theorem dX1_go_77 : decode cX1_go 77 = .ok (.imul, 1) := dk_104 (dk_at dksX1_go_3 5 rfl rfl)
theorem dX1_go_78 : decode cX1_go 78 = .ok (.iload 4, 2) := dk_21 4 (dk_at dksX1_go_3 6 rfl rfl)
theorem dX1_go_80 : decode cX1_go 80 = .ok (.iadd, 1) := dk_96 (dk_at dksX1_go_3 8 rfl rfl)
theorem dX1_go_81 : decode cX1_go 81 = .ok (.baload, 1) := dk_51 (dk_at dksX1_go_3 9 rfl rfl)
theorem dX1_go_82 : decode cX1_go 82 = .ok (.ifCond .ne 9, 3) := dk_154 0 9 (dk_at dksX1_go_3 10 rfl rfl)
theorem dX1_go_85 : decode cX1_go 85 = .ok (.iinc 5 1, 3) := dk_132 5 1 (dk_at dksX1_go_3 13 rfl rfl)
theorem dX1_go_88 : decode cX1_go 88 = .ok (.goto (-27), 3) := dk_167 255 229 (dk_at dksX1_go_3 16 rfl rfl)
theorem dX1_go_91 : decode cX1_go 91 = .ok (.iload 5, 2) := dk_21 5 (dk_at dksX1_go_3 19 rfl rfl)
theorem dX1_go_93 : decode cX1_go 93 = .ok (.bipush 30, 2) := dk_16 30 (dk_at dksX1_go_3 21 rfl rfl)
theorem dX1_go_95 : decode cX1_go 95 = .ok (.if_icmp .le 6, 3) := dk_164 0 6 (dk_at dksX1_go_4 0 rfl rfl)
theorem dX1_go_98 : decode cX1_go 98 = .ok (.bipush (-2), 2) := dk_16 254 (dk_at dksX1_go_4 3 rfl rfl)
theorem dX1_go_100 : decode cX1_go 100 = .ok (.ireturn, 1) := dk_172 (dk_at dksX1_go_4 5 rfl rfl)
theorem dX1_go_101 : decode cX1_go 101 = .ok (.aload_n 0, 1) := dk_42 (dk_at dksX1_go_4 6 rfl rfl)
theorem dX1_go_102 : decode cX1_go 102 = .ok (.iload 4, 2) := dk_21 4 (dk_at dksX1_go_4 7 rfl rfl)
theorem dX1_go_104 : decode cX1_go 104 = .ok (.iload 5, 2) := dk_21 5 (dk_at dksX1_go_4 9 rfl rfl)
theorem dX1_go_106 : decode cX1_go 106 = .ok (.invokevirtual 335, 3) := dk_182 1 79 (dk_at dksX1_go_4 11 rfl rfl)
theorem dX1_go_109 : decode cX1_go 109 = .ok (.iload 5, 2) := dk_21 5 (dk_at dksX1_go_4 14 rfl rfl)
theorem dX1_go_111 : decode cX1_go 111 = .ok (.ireturn, 1) := dk_172 (dk_at dksX1_go_4 16 rfl rfl)
abbrev cX1_peopleWhy : ByteArray := prog_1_method_60_code
def yX1_peopleWhy : MethodName := ⟨RX1, "peopleWhy", "(II)I"⟩
def dkwX1_peopleWhy_1 : List UInt8 := [184, 0, 94, 153, 0, 15, 27, 184, 1, 17, 28, 163, 0, 7, 3, 167, 0, 4, 5, 172]
abbrev dktX1_peopleWhy_1 : List UInt8 := dkwX1_peopleWhy_1 ++ []
def dkwX1_peopleWhy_0 : List UInt8 := [42, 180, 0, 109, 199, 0, 7, 4, 167, 0, 35, 27, 4, 4, 42, 180, 0, 109, 180, 0, 137, 120, 4, 100]
abbrev dktX1_peopleWhy_0 : List UInt8 := dkwX1_peopleWhy_0 ++ dktX1_peopleWhy_1
theorem dksX1_peopleWhy_0 : cX1_peopleWhy.data.toList.drop 0 = dktX1_peopleWhy_0 := by decide +kernel
theorem dksX1_peopleWhy_1 : cX1_peopleWhy.data.toList.drop 24 = dktX1_peopleWhy_1 := dk_seg dksX1_peopleWhy_0 24 rfl rfl
theorem dX1_peopleWhy_0 : decode cX1_peopleWhy 0 = .ok (.aload_n 0, 1) := dk_42 (dk_at dksX1_peopleWhy_0 0 rfl rfl)
theorem dX1_peopleWhy_1 : decode cX1_peopleWhy 1 = .ok (.getfield 109, 3) := dk_180 0 109 (dk_at dksX1_peopleWhy_0 1 rfl rfl)
theorem dX1_peopleWhy_4 : decode cX1_peopleWhy 4 = .ok (.ifnonnull 7, 3) := dk_199 0 7 (dk_at dksX1_peopleWhy_0 4 rfl rfl)
theorem dX1_peopleWhy_7 : decode cX1_peopleWhy 7 = .ok (.iconst 1, 1) := dk_4 (dk_at dksX1_peopleWhy_0 7 rfl rfl)
theorem dX1_peopleWhy_8 : decode cX1_peopleWhy 8 = .ok (.goto 35, 3) := dk_167 0 35 (dk_at dksX1_peopleWhy_0 8 rfl rfl)
theorem dX1_peopleWhy_11 : decode cX1_peopleWhy 11 = .ok (.iload_n 1, 1) := dk_27 (dk_at dksX1_peopleWhy_0 11 rfl rfl)
theorem dX1_peopleWhy_12 : decode cX1_peopleWhy 12 = .ok (.iconst 1, 1) := dk_4 (dk_at dksX1_peopleWhy_0 12 rfl rfl)
theorem dX1_peopleWhy_13 : decode cX1_peopleWhy 13 = .ok (.iconst 1, 1) := dk_4 (dk_at dksX1_peopleWhy_0 13 rfl rfl)
theorem dX1_peopleWhy_14 : decode cX1_peopleWhy 14 = .ok (.aload_n 0, 1) := dk_42 (dk_at dksX1_peopleWhy_0 14 rfl rfl)
theorem dX1_peopleWhy_15 : decode cX1_peopleWhy 15 = .ok (.getfield 109, 3) := dk_180 0 109 (dk_at dksX1_peopleWhy_0 15 rfl rfl)
theorem dX1_peopleWhy_18 : decode cX1_peopleWhy 18 = .ok (.getfield 137, 3) := dk_180 0 137 (dk_at dksX1_peopleWhy_0 18 rfl rfl)
theorem dX1_peopleWhy_21 : decode cX1_peopleWhy 21 = .ok (.ishl, 1) := dk_120 (dk_at dksX1_peopleWhy_0 21 rfl rfl)
theorem dX1_peopleWhy_22 : decode cX1_peopleWhy 22 = .ok (.iconst 1, 1) := dk_4 (dk_at dksX1_peopleWhy_0 22 rfl rfl)
theorem dX1_peopleWhy_23 : decode cX1_peopleWhy 23 = .ok (.isub, 1) := dk_100 (dk_at dksX1_peopleWhy_0 23 rfl rfl)
theorem dX1_peopleWhy_24 : decode cX1_peopleWhy 24 = .ok (.invokestatic 94, 3) := dk_184 0 94 (dk_at dksX1_peopleWhy_1 0 rfl rfl)
theorem dX1_peopleWhy_27 : decode cX1_peopleWhy 27 = .ok (.ifCond .eq 15, 3) := dk_153 0 15 (dk_at dksX1_peopleWhy_1 3 rfl rfl)
theorem dX1_peopleWhy_30 : decode cX1_peopleWhy 30 = .ok (.iload_n 1, 1) := dk_27 (dk_at dksX1_peopleWhy_1 6 rfl rfl)
theorem dX1_peopleWhy_31 : decode cX1_peopleWhy 31 = .ok (.invokestatic 273, 3) := dk_184 1 17 (dk_at dksX1_peopleWhy_1 7 rfl rfl)
theorem dX1_peopleWhy_34 : decode cX1_peopleWhy 34 = .ok (.iload_n 2, 1) := dk_28 (dk_at dksX1_peopleWhy_1 10 rfl rfl)
theorem dX1_peopleWhy_35 : decode cX1_peopleWhy 35 = .ok (.if_icmp .gt 7, 3) := dk_163 0 7 (dk_at dksX1_peopleWhy_1 11 rfl rfl)
theorem dX1_peopleWhy_38 : decode cX1_peopleWhy 38 = .ok (.iconst 0, 1) := dk_3 (dk_at dksX1_peopleWhy_1 14 rfl rfl)
theorem dX1_peopleWhy_39 : decode cX1_peopleWhy 39 = .ok (.goto 4, 3) := dk_167 0 4 (dk_at dksX1_peopleWhy_1 15 rfl rfl)
theorem dX1_peopleWhy_42 : decode cX1_peopleWhy 42 = .ok (.iconst 2, 1) := dk_5 (dk_at dksX1_peopleWhy_1 18 rfl rfl)
theorem dX1_peopleWhy_43 : decode cX1_peopleWhy 43 = .ok (.ireturn, 1) := dk_172 (dk_at dksX1_peopleWhy_1 19 rfl rfl)
abbrev cX1_choose : ByteArray := prog_1_method_53_code
def yX1_choose : MethodName := ⟨RX1, "choose", "(I)V"⟩
def dkwX1_choose_3 : List UInt8 := [132, 2, 1, 167, 255, 195, 177]
abbrev dktX1_choose_3 : List UInt8 := dkwX1_choose_3 ++ []
def dkwX1_choose_2 : List UInt8 := [180, 1, 31, 4, 96, 181, 1, 31, 42, 89, 180, 1, 34, 42, 180, 0, 109, 180, 0, 150, 104, 181, 1, 34]
abbrev dktX1_choose_2 : List UInt8 := dkwX1_choose_2 ++ dktX1_choose_3
def dkwX1_choose_1 : List UInt8 := [28, 184, 0, 189, 154, 0, 6, 167, 0, 39, 42, 180, 0, 49, 42, 180, 1, 31, 28, 79, 42, 89]
abbrev dktX1_choose_1 : List UInt8 := dkwX1_choose_1 ++ dktX1_choose_2
def dkwX1_choose_0 : List UInt8 := [42, 3, 181, 1, 31, 42, 4, 181, 1, 34, 3, 61, 28, 42, 180, 0, 109, 180, 0, 137, 162, 0, 56, 27]
abbrev dktX1_choose_0 : List UInt8 := dkwX1_choose_0 ++ dktX1_choose_1
theorem dksX1_choose_0 : cX1_choose.data.toList.drop 0 = dktX1_choose_0 := by decide +kernel
theorem dksX1_choose_1 : cX1_choose.data.toList.drop 24 = dktX1_choose_1 := dk_seg dksX1_choose_0 24 rfl rfl
theorem dksX1_choose_2 : cX1_choose.data.toList.drop 46 = dktX1_choose_2 := dk_seg dksX1_choose_1 22 rfl rfl
theorem dksX1_choose_3 : cX1_choose.data.toList.drop 70 = dktX1_choose_3 := dk_seg dksX1_choose_2 24 rfl rfl
theorem dX1_choose_0 : decode cX1_choose 0 = .ok (.aload_n 0, 1) := dk_42 (dk_at dksX1_choose_0 0 rfl rfl)
theorem dX1_choose_1 : decode cX1_choose 1 = .ok (.iconst 0, 1) := dk_3 (dk_at dksX1_choose_0 1 rfl rfl)
theorem dX1_choose_2 : decode cX1_choose 2 = .ok (.putfield 287, 3) := dk_181 1 31 (dk_at dksX1_choose_0 2 rfl rfl)
theorem dX1_choose_5 : decode cX1_choose 5 = .ok (.aload_n 0, 1) := dk_42 (dk_at dksX1_choose_0 5 rfl rfl)
theorem dX1_choose_6 : decode cX1_choose 6 = .ok (.iconst 1, 1) := dk_4 (dk_at dksX1_choose_0 6 rfl rfl)
theorem dX1_choose_7 : decode cX1_choose 7 = .ok (.putfield 290, 3) := dk_181 1 34 (dk_at dksX1_choose_0 7 rfl rfl)
theorem dX1_choose_10 : decode cX1_choose 10 = .ok (.iconst 0, 1) := dk_3 (dk_at dksX1_choose_0 10 rfl rfl)
theorem dX1_choose_11 : decode cX1_choose 11 = .ok (.istore_n 2, 1) := dk_61 (dk_at dksX1_choose_0 11 rfl rfl)
theorem dX1_choose_12 : decode cX1_choose 12 = .ok (.iload_n 2, 1) := dk_28 (dk_at dksX1_choose_0 12 rfl rfl)
theorem dX1_choose_13 : decode cX1_choose 13 = .ok (.aload_n 0, 1) := dk_42 (dk_at dksX1_choose_0 13 rfl rfl)
theorem dX1_choose_14 : decode cX1_choose 14 = .ok (.getfield 109, 3) := dk_180 0 109 (dk_at dksX1_choose_0 14 rfl rfl)
theorem dX1_choose_17 : decode cX1_choose 17 = .ok (.getfield 137, 3) := dk_180 0 137 (dk_at dksX1_choose_0 17 rfl rfl)
theorem dX1_choose_20 : decode cX1_choose 20 = .ok (.if_icmp .ge 56, 3) := dk_162 0 56 (dk_at dksX1_choose_0 20 rfl rfl)
theorem dX1_choose_23 : decode cX1_choose 23 = .ok (.iload_n 1, 1) := dk_27 (dk_at dksX1_choose_0 23 rfl rfl)
theorem dX1_choose_24 : decode cX1_choose 24 = .ok (.iload_n 2, 1) := dk_28 (dk_at dksX1_choose_1 0 rfl rfl)
theorem dX1_choose_25 : decode cX1_choose 25 = .ok (.invokestatic 189, 3) := dk_184 0 189 (dk_at dksX1_choose_1 1 rfl rfl)
theorem dX1_choose_28 : decode cX1_choose 28 = .ok (.ifCond .ne 6, 3) := dk_154 0 6 (dk_at dksX1_choose_1 4 rfl rfl)
theorem dX1_choose_31 : decode cX1_choose 31 = .ok (.goto 39, 3) := dk_167 0 39 (dk_at dksX1_choose_1 7 rfl rfl)
theorem dX1_choose_34 : decode cX1_choose 34 = .ok (.aload_n 0, 1) := dk_42 (dk_at dksX1_choose_1 10 rfl rfl)
theorem dX1_choose_35 : decode cX1_choose 35 = .ok (.getfield 49, 3) := dk_180 0 49 (dk_at dksX1_choose_1 11 rfl rfl)
theorem dX1_choose_38 : decode cX1_choose 38 = .ok (.aload_n 0, 1) := dk_42 (dk_at dksX1_choose_1 14 rfl rfl)
theorem dX1_choose_39 : decode cX1_choose 39 = .ok (.getfield 287, 3) := dk_180 1 31 (dk_at dksX1_choose_1 15 rfl rfl)
theorem dX1_choose_42 : decode cX1_choose 42 = .ok (.iload_n 2, 1) := dk_28 (dk_at dksX1_choose_1 18 rfl rfl)
theorem dX1_choose_43 : decode cX1_choose 43 = .ok (.iastore, 1) := dk_79 (dk_at dksX1_choose_1 19 rfl rfl)
theorem dX1_choose_44 : decode cX1_choose 44 = .ok (.aload_n 0, 1) := dk_42 (dk_at dksX1_choose_1 20 rfl rfl)
theorem dX1_choose_45 : decode cX1_choose 45 = .ok (.dup, 1) := dk_89 (dk_at dksX1_choose_1 21 rfl rfl)
theorem dX1_choose_46 : decode cX1_choose 46 = .ok (.getfield 287, 3) := dk_180 1 31 (dk_at dksX1_choose_2 0 rfl rfl)
theorem dX1_choose_49 : decode cX1_choose 49 = .ok (.iconst 1, 1) := dk_4 (dk_at dksX1_choose_2 3 rfl rfl)
theorem dX1_choose_50 : decode cX1_choose 50 = .ok (.iadd, 1) := dk_96 (dk_at dksX1_choose_2 4 rfl rfl)
theorem dX1_choose_51 : decode cX1_choose 51 = .ok (.putfield 287, 3) := dk_181 1 31 (dk_at dksX1_choose_2 5 rfl rfl)
theorem dX1_choose_54 : decode cX1_choose 54 = .ok (.aload_n 0, 1) := dk_42 (dk_at dksX1_choose_2 8 rfl rfl)
theorem dX1_choose_55 : decode cX1_choose 55 = .ok (.dup, 1) := dk_89 (dk_at dksX1_choose_2 9 rfl rfl)
theorem dX1_choose_56 : decode cX1_choose 56 = .ok (.getfield 290, 3) := dk_180 1 34 (dk_at dksX1_choose_2 10 rfl rfl)
theorem dX1_choose_59 : decode cX1_choose 59 = .ok (.aload_n 0, 1) := dk_42 (dk_at dksX1_choose_2 13 rfl rfl)
theorem dX1_choose_60 : decode cX1_choose 60 = .ok (.getfield 109, 3) := dk_180 0 109 (dk_at dksX1_choose_2 14 rfl rfl)
theorem dX1_choose_63 : decode cX1_choose 63 = .ok (.getfield 150, 3) := dk_180 0 150 (dk_at dksX1_choose_2 17 rfl rfl)
theorem dX1_choose_66 : decode cX1_choose 66 = .ok (.imul, 1) := dk_104 (dk_at dksX1_choose_2 20 rfl rfl)
theorem dX1_choose_67 : decode cX1_choose 67 = .ok (.putfield 290, 3) := dk_181 1 34 (dk_at dksX1_choose_2 21 rfl rfl)
theorem dX1_choose_70 : decode cX1_choose 70 = .ok (.iinc 2 1, 3) := dk_132 2 1 (dk_at dksX1_choose_3 0 rfl rfl)
theorem dX1_choose_73 : decode cX1_choose 73 = .ok (.goto (-61), 3) := dk_167 255 195 (dk_at dksX1_choose_3 3 rfl rfl)
theorem dX1_choose_76 : decode cX1_choose 76 = .ok (.return_, 1) := dk_177 (dk_at dksX1_choose_3 6 rfl rfl)
abbrev cX1_reach : ByteArray := prog_1_method_57_code
def yX1_reach : MethodName := ⟨RX1, "reach", "()V"⟩
def dkwX1_reach_6 : List UInt8 := [132, 3, 1, 167, 255, 221, 132, 2, 1, 167, 255, 207, 177]
abbrev dktX1_reach_6 : List UInt8 := dkwX1_reach_6 ++ []
def dkwX1_reach_5 : List UInt8 := [42, 180, 0, 62, 17, 3, 232, 28, 104, 29, 96, 51, 154, 0, 6, 167, 0, 9, 42, 29, 28, 182, 1, 55]
abbrev dktX1_reach_5 : List UInt8 := dkwX1_reach_5 ++ dktX1_reach_6
def dkwX1_reach_4 : List UInt8 := [132, 2, 1, 167, 255, 166, 3, 61, 28, 16, 30, 162, 0, 49, 3, 62, 29, 42, 180, 1, 34, 162, 0, 33]
abbrev dktX1_reach_4 : List UInt8 := dkwX1_reach_4 ++ dktX1_reach_5
def dkwX1_reach_3 : List UInt8 := [96, 28, 154, 0, 12, 29, 27, 160, 0, 7, 4, 167, 0, 4, 3, 84, 132, 3, 1, 167, 255, 180]
abbrev dktX1_reach_3 : List UInt8 := dkwX1_reach_3 ++ dktX1_reach_4
def dkwX1_reach_2 : List UInt8 := [28, 96, 182, 0, 221, 153, 0, 7, 4, 167, 0, 4, 3, 84, 42, 180, 0, 62, 17, 3, 232, 28, 104, 29]
abbrev dktX1_reach_2 : List UInt8 := dkwX1_reach_2 ++ dktX1_reach_3
def dkwX1_reach_1 : List UInt8 := [180, 0, 58, 17, 3, 232, 28, 104, 29, 96, 28, 153, 0, 21, 42, 42, 29, 182, 1, 51, 42, 180, 0, 131]
abbrev dktX1_reach_1 : List UInt8 := dkwX1_reach_1 ++ dktX1_reach_2
def dkwX1_reach_0 : List UInt8 := [42, 182, 1, 48, 60, 3, 61, 28, 16, 30, 163, 0, 90, 3, 62, 29, 42, 180, 1, 34, 162, 0, 74, 42]
abbrev dktX1_reach_0 : List UInt8 := dkwX1_reach_0 ++ dktX1_reach_1
theorem dksX1_reach_0 : cX1_reach.data.toList.drop 0 = dktX1_reach_0 := by decide +kernel
theorem dksX1_reach_1 : cX1_reach.data.toList.drop 24 = dktX1_reach_1 := dk_seg dksX1_reach_0 24 rfl rfl
theorem dksX1_reach_2 : cX1_reach.data.toList.drop 48 = dktX1_reach_2 := dk_seg dksX1_reach_1 24 rfl rfl
theorem dksX1_reach_3 : cX1_reach.data.toList.drop 72 = dktX1_reach_3 := dk_seg dksX1_reach_2 24 rfl rfl
theorem dksX1_reach_4 : cX1_reach.data.toList.drop 94 = dktX1_reach_4 := dk_seg dksX1_reach_3 22 rfl rfl
theorem dksX1_reach_5 : cX1_reach.data.toList.drop 118 = dktX1_reach_5 := dk_seg dksX1_reach_4 24 rfl rfl
theorem dksX1_reach_6 : cX1_reach.data.toList.drop 142 = dktX1_reach_6 := dk_seg dksX1_reach_5 24 rfl rfl
theorem dX1_reach_0 : decode cX1_reach 0 = .ok (.aload_n 0, 1) := dk_42 (dk_at dksX1_reach_0 0 rfl rfl)
theorem dX1_reach_1 : decode cX1_reach 1 = .ok (.invokevirtual 304, 3) := dk_182 1 48 (dk_at dksX1_reach_0 1 rfl rfl)
theorem dX1_reach_4 : decode cX1_reach 4 = .ok (.istore_n 1, 1) := dk_60 (dk_at dksX1_reach_0 4 rfl rfl)
theorem dX1_reach_5 : decode cX1_reach 5 = .ok (.iconst 0, 1) := dk_3 (dk_at dksX1_reach_0 5 rfl rfl)
theorem dX1_reach_6 : decode cX1_reach 6 = .ok (.istore_n 2, 1) := dk_61 (dk_at dksX1_reach_0 6 rfl rfl)
theorem dX1_reach_7 : decode cX1_reach 7 = .ok (.iload_n 2, 1) := dk_28 (dk_at dksX1_reach_0 7 rfl rfl)
theorem dX1_reach_8 : decode cX1_reach 8 = .ok (.bipush 30, 2) := dk_16 30 (dk_at dksX1_reach_0 8 rfl rfl)
theorem dX1_reach_10 : decode cX1_reach 10 = .ok (.if_icmp .gt 90, 3) := dk_163 0 90 (dk_at dksX1_reach_0 10 rfl rfl)
theorem dX1_reach_13 : decode cX1_reach 13 = .ok (.iconst 0, 1) := dk_3 (dk_at dksX1_reach_0 13 rfl rfl)
theorem dX1_reach_14 : decode cX1_reach 14 = .ok (.istore_n 3, 1) := dk_62 (dk_at dksX1_reach_0 14 rfl rfl)
theorem dX1_reach_15 : decode cX1_reach 15 = .ok (.iload_n 3, 1) := dk_29 (dk_at dksX1_reach_0 15 rfl rfl)
theorem dX1_reach_16 : decode cX1_reach 16 = .ok (.aload_n 0, 1) := dk_42 (dk_at dksX1_reach_0 16 rfl rfl)
theorem dX1_reach_17 : decode cX1_reach 17 = .ok (.getfield 290, 3) := dk_180 1 34 (dk_at dksX1_reach_0 17 rfl rfl)
theorem dX1_reach_20 : decode cX1_reach 20 = .ok (.if_icmp .ge 74, 3) := dk_162 0 74 (dk_at dksX1_reach_0 20 rfl rfl)
theorem dX1_reach_23 : decode cX1_reach 23 = .ok (.aload_n 0, 1) := dk_42 (dk_at dksX1_reach_0 23 rfl rfl)
theorem dX1_reach_24 : decode cX1_reach 24 = .ok (.getfield 58, 3) := dk_180 0 58 (dk_at dksX1_reach_1 0 rfl rfl)
theorem dX1_reach_27 : decode cX1_reach 27 = .ok (.sipush 1000, 3) := dk_17 3 232 (dk_at dksX1_reach_1 3 rfl rfl)
theorem dX1_reach_30 : decode cX1_reach 30 = .ok (.iload_n 2, 1) := dk_28 (dk_at dksX1_reach_1 6 rfl rfl)
theorem dX1_reach_31 : decode cX1_reach 31 = .ok (.imul, 1) := dk_104 (dk_at dksX1_reach_1 7 rfl rfl)
theorem dX1_reach_32 : decode cX1_reach 32 = .ok (.iload_n 3, 1) := dk_29 (dk_at dksX1_reach_1 8 rfl rfl)
theorem dX1_reach_33 : decode cX1_reach 33 = .ok (.iadd, 1) := dk_96 (dk_at dksX1_reach_1 9 rfl rfl)
theorem dX1_reach_34 : decode cX1_reach 34 = .ok (.iload_n 2, 1) := dk_28 (dk_at dksX1_reach_1 10 rfl rfl)
theorem dX1_reach_35 : decode cX1_reach 35 = .ok (.ifCond .eq 21, 3) := dk_153 0 21 (dk_at dksX1_reach_1 11 rfl rfl)
theorem dX1_reach_38 : decode cX1_reach 38 = .ok (.aload_n 0, 1) := dk_42 (dk_at dksX1_reach_1 14 rfl rfl)
theorem dX1_reach_39 : decode cX1_reach 39 = .ok (.aload_n 0, 1) := dk_42 (dk_at dksX1_reach_1 15 rfl rfl)
theorem dX1_reach_40 : decode cX1_reach 40 = .ok (.iload_n 3, 1) := dk_29 (dk_at dksX1_reach_1 16 rfl rfl)
theorem dX1_reach_41 : decode cX1_reach 41 = .ok (.invokevirtual 307, 3) := dk_182 1 51 (dk_at dksX1_reach_1 17 rfl rfl)
theorem dX1_reach_44 : decode cX1_reach 44 = .ok (.aload_n 0, 1) := dk_42 (dk_at dksX1_reach_1 20 rfl rfl)
theorem dX1_reach_45 : decode cX1_reach 45 = .ok (.getfield 131, 3) := dk_180 0 131 (dk_at dksX1_reach_1 21 rfl rfl)
theorem dX1_reach_48 : decode cX1_reach 48 = .ok (.iload_n 2, 1) := dk_28 (dk_at dksX1_reach_2 0 rfl rfl)
theorem dX1_reach_49 : decode cX1_reach 49 = .ok (.iadd, 1) := dk_96 (dk_at dksX1_reach_2 1 rfl rfl)
theorem dX1_reach_50 : decode cX1_reach 50 = .ok (.invokevirtual 221, 3) := dk_182 0 221 (dk_at dksX1_reach_2 2 rfl rfl)
theorem dX1_reach_53 : decode cX1_reach 53 = .ok (.ifCond .eq 7, 3) := dk_153 0 7 (dk_at dksX1_reach_2 5 rfl rfl)
theorem dX1_reach_56 : decode cX1_reach 56 = .ok (.iconst 1, 1) := dk_4 (dk_at dksX1_reach_2 8 rfl rfl)
theorem dX1_reach_57 : decode cX1_reach 57 = .ok (.goto 4, 3) := dk_167 0 4 (dk_at dksX1_reach_2 9 rfl rfl)
theorem dX1_reach_60 : decode cX1_reach 60 = .ok (.iconst 0, 1) := dk_3 (dk_at dksX1_reach_2 12 rfl rfl)
theorem dX1_reach_61 : decode cX1_reach 61 = .ok (.bastore, 1) := dk_84 (dk_at dksX1_reach_2 13 rfl rfl)
theorem dX1_reach_62 : decode cX1_reach 62 = .ok (.aload_n 0, 1) := dk_42 (dk_at dksX1_reach_2 14 rfl rfl)
theorem dX1_reach_63 : decode cX1_reach 63 = .ok (.getfield 62, 3) := dk_180 0 62 (dk_at dksX1_reach_2 15 rfl rfl)
theorem dX1_reach_66 : decode cX1_reach 66 = .ok (.sipush 1000, 3) := dk_17 3 232 (dk_at dksX1_reach_2 18 rfl rfl)
theorem dX1_reach_69 : decode cX1_reach 69 = .ok (.iload_n 2, 1) := dk_28 (dk_at dksX1_reach_2 21 rfl rfl)
theorem dX1_reach_70 : decode cX1_reach 70 = .ok (.imul, 1) := dk_104 (dk_at dksX1_reach_2 22 rfl rfl)
theorem dX1_reach_71 : decode cX1_reach 71 = .ok (.iload_n 3, 1) := dk_29 (dk_at dksX1_reach_2 23 rfl rfl)
theorem dX1_reach_72 : decode cX1_reach 72 = .ok (.iadd, 1) := dk_96 (dk_at dksX1_reach_3 0 rfl rfl)
theorem dX1_reach_73 : decode cX1_reach 73 = .ok (.iload_n 2, 1) := dk_28 (dk_at dksX1_reach_3 1 rfl rfl)
theorem dX1_reach_74 : decode cX1_reach 74 = .ok (.ifCond .ne 12, 3) := dk_154 0 12 (dk_at dksX1_reach_3 2 rfl rfl)
theorem dX1_reach_77 : decode cX1_reach 77 = .ok (.iload_n 3, 1) := dk_29 (dk_at dksX1_reach_3 5 rfl rfl)
theorem dX1_reach_78 : decode cX1_reach 78 = .ok (.iload_n 1, 1) := dk_27 (dk_at dksX1_reach_3 6 rfl rfl)
theorem dX1_reach_79 : decode cX1_reach 79 = .ok (.if_icmp .ne 7, 3) := dk_160 0 7 (dk_at dksX1_reach_3 7 rfl rfl)
theorem dX1_reach_82 : decode cX1_reach 82 = .ok (.iconst 1, 1) := dk_4 (dk_at dksX1_reach_3 10 rfl rfl)
theorem dX1_reach_83 : decode cX1_reach 83 = .ok (.goto 4, 3) := dk_167 0 4 (dk_at dksX1_reach_3 11 rfl rfl)
theorem dX1_reach_86 : decode cX1_reach 86 = .ok (.iconst 0, 1) := dk_3 (dk_at dksX1_reach_3 14 rfl rfl)
theorem dX1_reach_87 : decode cX1_reach 87 = .ok (.bastore, 1) := dk_84 (dk_at dksX1_reach_3 15 rfl rfl)
theorem dX1_reach_88 : decode cX1_reach 88 = .ok (.iinc 3 1, 3) := dk_132 3 1 (dk_at dksX1_reach_3 16 rfl rfl)
theorem dX1_reach_91 : decode cX1_reach 91 = .ok (.goto (-76), 3) := dk_167 255 180 (dk_at dksX1_reach_3 19 rfl rfl)
theorem dX1_reach_94 : decode cX1_reach 94 = .ok (.iinc 2 1, 3) := dk_132 2 1 (dk_at dksX1_reach_4 0 rfl rfl)
theorem dX1_reach_97 : decode cX1_reach 97 = .ok (.goto (-90), 3) := dk_167 255 166 (dk_at dksX1_reach_4 3 rfl rfl)
theorem dX1_reach_100 : decode cX1_reach 100 = .ok (.iconst 0, 1) := dk_3 (dk_at dksX1_reach_4 6 rfl rfl)
theorem dX1_reach_101 : decode cX1_reach 101 = .ok (.istore_n 2, 1) := dk_61 (dk_at dksX1_reach_4 7 rfl rfl)
theorem dX1_reach_102 : decode cX1_reach 102 = .ok (.iload_n 2, 1) := dk_28 (dk_at dksX1_reach_4 8 rfl rfl)
theorem dX1_reach_103 : decode cX1_reach 103 = .ok (.bipush 30, 2) := dk_16 30 (dk_at dksX1_reach_4 9 rfl rfl)
theorem dX1_reach_105 : decode cX1_reach 105 = .ok (.if_icmp .ge 49, 3) := dk_162 0 49 (dk_at dksX1_reach_4 11 rfl rfl)
theorem dX1_reach_108 : decode cX1_reach 108 = .ok (.iconst 0, 1) := dk_3 (dk_at dksX1_reach_4 14 rfl rfl)
theorem dX1_reach_109 : decode cX1_reach 109 = .ok (.istore_n 3, 1) := dk_62 (dk_at dksX1_reach_4 15 rfl rfl)
theorem dX1_reach_110 : decode cX1_reach 110 = .ok (.iload_n 3, 1) := dk_29 (dk_at dksX1_reach_4 16 rfl rfl)
theorem dX1_reach_111 : decode cX1_reach 111 = .ok (.aload_n 0, 1) := dk_42 (dk_at dksX1_reach_4 17 rfl rfl)
theorem dX1_reach_112 : decode cX1_reach 112 = .ok (.getfield 290, 3) := dk_180 1 34 (dk_at dksX1_reach_4 18 rfl rfl)
theorem dX1_reach_115 : decode cX1_reach 115 = .ok (.if_icmp .ge 33, 3) := dk_162 0 33 (dk_at dksX1_reach_4 21 rfl rfl)
theorem dX1_reach_118 : decode cX1_reach 118 = .ok (.aload_n 0, 1) := dk_42 (dk_at dksX1_reach_5 0 rfl rfl)
theorem dX1_reach_119 : decode cX1_reach 119 = .ok (.getfield 62, 3) := dk_180 0 62 (dk_at dksX1_reach_5 1 rfl rfl)
theorem dX1_reach_122 : decode cX1_reach 122 = .ok (.sipush 1000, 3) := dk_17 3 232 (dk_at dksX1_reach_5 4 rfl rfl)
theorem dX1_reach_125 : decode cX1_reach 125 = .ok (.iload_n 2, 1) := dk_28 (dk_at dksX1_reach_5 7 rfl rfl)
theorem dX1_reach_126 : decode cX1_reach 126 = .ok (.imul, 1) := dk_104 (dk_at dksX1_reach_5 8 rfl rfl)
theorem dX1_reach_127 : decode cX1_reach 127 = .ok (.iload_n 3, 1) := dk_29 (dk_at dksX1_reach_5 9 rfl rfl)
theorem dX1_reach_128 : decode cX1_reach 128 = .ok (.iadd, 1) := dk_96 (dk_at dksX1_reach_5 10 rfl rfl)
theorem dX1_reach_129 : decode cX1_reach 129 = .ok (.baload, 1) := dk_51 (dk_at dksX1_reach_5 11 rfl rfl)
theorem dX1_reach_130 : decode cX1_reach 130 = .ok (.ifCond .ne 6, 3) := dk_154 0 6 (dk_at dksX1_reach_5 12 rfl rfl)
theorem dX1_reach_133 : decode cX1_reach 133 = .ok (.goto 9, 3) := dk_167 0 9 (dk_at dksX1_reach_5 15 rfl rfl)
theorem dX1_reach_136 : decode cX1_reach 136 = .ok (.aload_n 0, 1) := dk_42 (dk_at dksX1_reach_5 18 rfl rfl)
theorem dX1_reach_137 : decode cX1_reach 137 = .ok (.iload_n 3, 1) := dk_29 (dk_at dksX1_reach_5 19 rfl rfl)
theorem dX1_reach_138 : decode cX1_reach 138 = .ok (.iload_n 2, 1) := dk_28 (dk_at dksX1_reach_5 20 rfl rfl)
theorem dX1_reach_139 : decode cX1_reach 139 = .ok (.invokevirtual 311, 3) := dk_182 1 55 (dk_at dksX1_reach_5 21 rfl rfl)
theorem dX1_reach_142 : decode cX1_reach 142 = .ok (.iinc 3 1, 3) := dk_132 3 1 (dk_at dksX1_reach_6 0 rfl rfl)
theorem dX1_reach_145 : decode cX1_reach 145 = .ok (.goto (-35), 3) := dk_167 255 221 (dk_at dksX1_reach_6 3 rfl rfl)
theorem dX1_reach_148 : decode cX1_reach 148 = .ok (.iinc 2 1, 3) := dk_132 2 1 (dk_at dksX1_reach_6 6 rfl rfl)
theorem dX1_reach_151 : decode cX1_reach 151 = .ok (.goto (-49), 3) := dk_167 255 207 (dk_at dksX1_reach_6 9 rfl rfl)
theorem dX1_reach_154 : decode cX1_reach 154 = .ok (.return_, 1) := dk_177 (dk_at dksX1_reach_6 12 rfl rfl)
abbrev cX1_nowState : ByteArray := prog_1_method_54_code
def yX1_nowState : MethodName := ⟨RX1, "nowState", "()I"⟩
def dkwX1_nowState_1 : List UInt8 := [46, 46, 79, 132, 1, 1, 167, 255, 228, 42, 42, 180, 0, 52, 182, 1, 37, 172]
abbrev dktX1_nowState_1 : List UInt8 := dkwX1_nowState_1 ++ []
def dkwX1_nowState_0 : List UInt8 := [3, 60, 27, 42, 180, 1, 31, 162, 0, 26, 42, 180, 0, 52, 27, 42, 180, 0, 39, 42, 180, 0, 49, 27]
abbrev dktX1_nowState_0 : List UInt8 := dkwX1_nowState_0 ++ dktX1_nowState_1
theorem dksX1_nowState_0 : cX1_nowState.data.toList.drop 0 = dktX1_nowState_0 := by decide +kernel
theorem dksX1_nowState_1 : cX1_nowState.data.toList.drop 24 = dktX1_nowState_1 := dk_seg dksX1_nowState_0 24 rfl rfl
theorem dX1_nowState_0 : decode cX1_nowState 0 = .ok (.iconst 0, 1) := dk_3 (dk_at dksX1_nowState_0 0 rfl rfl)
theorem dX1_nowState_1 : decode cX1_nowState 1 = .ok (.istore_n 1, 1) := dk_60 (dk_at dksX1_nowState_0 1 rfl rfl)
theorem dX1_nowState_2 : decode cX1_nowState 2 = .ok (.iload_n 1, 1) := dk_27 (dk_at dksX1_nowState_0 2 rfl rfl)
theorem dX1_nowState_3 : decode cX1_nowState 3 = .ok (.aload_n 0, 1) := dk_42 (dk_at dksX1_nowState_0 3 rfl rfl)
theorem dX1_nowState_4 : decode cX1_nowState 4 = .ok (.getfield 287, 3) := dk_180 1 31 (dk_at dksX1_nowState_0 4 rfl rfl)
theorem dX1_nowState_7 : decode cX1_nowState 7 = .ok (.if_icmp .ge 26, 3) := dk_162 0 26 (dk_at dksX1_nowState_0 7 rfl rfl)
theorem dX1_nowState_10 : decode cX1_nowState 10 = .ok (.aload_n 0, 1) := dk_42 (dk_at dksX1_nowState_0 10 rfl rfl)
theorem dX1_nowState_11 : decode cX1_nowState 11 = .ok (.getfield 52, 3) := dk_180 0 52 (dk_at dksX1_nowState_0 11 rfl rfl)
theorem dX1_nowState_14 : decode cX1_nowState 14 = .ok (.iload_n 1, 1) := dk_27 (dk_at dksX1_nowState_0 14 rfl rfl)
theorem dX1_nowState_15 : decode cX1_nowState 15 = .ok (.aload_n 0, 1) := dk_42 (dk_at dksX1_nowState_0 15 rfl rfl)
theorem dX1_nowState_16 : decode cX1_nowState 16 = .ok (.getfield 39, 3) := dk_180 0 39 (dk_at dksX1_nowState_0 16 rfl rfl)
theorem dX1_nowState_19 : decode cX1_nowState 19 = .ok (.aload_n 0, 1) := dk_42 (dk_at dksX1_nowState_0 19 rfl rfl)
theorem dX1_nowState_20 : decode cX1_nowState 20 = .ok (.getfield 49, 3) := dk_180 0 49 (dk_at dksX1_nowState_0 20 rfl rfl)
theorem dX1_nowState_23 : decode cX1_nowState 23 = .ok (.iload_n 1, 1) := dk_27 (dk_at dksX1_nowState_0 23 rfl rfl)
theorem dX1_nowState_24 : decode cX1_nowState 24 = .ok (.iaload, 1) := dk_46 (dk_at dksX1_nowState_1 0 rfl rfl)
theorem dX1_nowState_25 : decode cX1_nowState 25 = .ok (.iaload, 1) := dk_46 (dk_at dksX1_nowState_1 1 rfl rfl)
theorem dX1_nowState_26 : decode cX1_nowState 26 = .ok (.iastore, 1) := dk_79 (dk_at dksX1_nowState_1 2 rfl rfl)
theorem dX1_nowState_27 : decode cX1_nowState 27 = .ok (.iinc 1 1, 3) := dk_132 1 1 (dk_at dksX1_nowState_1 3 rfl rfl)
theorem dX1_nowState_30 : decode cX1_nowState 30 = .ok (.goto (-28), 3) := dk_167 255 228 (dk_at dksX1_nowState_1 6 rfl rfl)
theorem dX1_nowState_33 : decode cX1_nowState 33 = .ok (.aload_n 0, 1) := dk_42 (dk_at dksX1_nowState_1 9 rfl rfl)
theorem dX1_nowState_34 : decode cX1_nowState 34 = .ok (.aload_n 0, 1) := dk_42 (dk_at dksX1_nowState_1 10 rfl rfl)
theorem dX1_nowState_35 : decode cX1_nowState 35 = .ok (.getfield 52, 3) := dk_180 0 52 (dk_at dksX1_nowState_1 11 rfl rfl)
theorem dX1_nowState_38 : decode cX1_nowState 38 = .ok (.invokevirtual 293, 3) := dk_182 1 37 (dk_at dksX1_nowState_1 14 rfl rfl)
theorem dX1_nowState_41 : decode cX1_nowState 41 = .ok (.ireturn, 1) := dk_172 (dk_at dksX1_nowState_1 17 rfl rfl)
abbrev cX1_stateOf : ByteArray := prog_1_method_50_code
def yX1_stateOf : MethodName := ⟨RX1, "stateOf", "([I)I"⟩
def dkwX1_stateOf_1 : List UInt8 := [96, 61, 132, 3, 1, 167, 255, 231, 28, 172]
abbrev dktX1_stateOf_1 : List UInt8 := dkwX1_stateOf_1 ++ []
def dkwX1_stateOf_0 : List UInt8 := [3, 61, 3, 62, 29, 42, 180, 1, 31, 162, 0, 23, 28, 42, 180, 0, 109, 180, 0, 150, 104, 43, 29, 46]
abbrev dktX1_stateOf_0 : List UInt8 := dkwX1_stateOf_0 ++ dktX1_stateOf_1
theorem dksX1_stateOf_0 : cX1_stateOf.data.toList.drop 0 = dktX1_stateOf_0 := by decide +kernel
theorem dksX1_stateOf_1 : cX1_stateOf.data.toList.drop 24 = dktX1_stateOf_1 := dk_seg dksX1_stateOf_0 24 rfl rfl
theorem dX1_stateOf_0 : decode cX1_stateOf 0 = .ok (.iconst 0, 1) := dk_3 (dk_at dksX1_stateOf_0 0 rfl rfl)
theorem dX1_stateOf_1 : decode cX1_stateOf 1 = .ok (.istore_n 2, 1) := dk_61 (dk_at dksX1_stateOf_0 1 rfl rfl)
theorem dX1_stateOf_2 : decode cX1_stateOf 2 = .ok (.iconst 0, 1) := dk_3 (dk_at dksX1_stateOf_0 2 rfl rfl)
theorem dX1_stateOf_3 : decode cX1_stateOf 3 = .ok (.istore_n 3, 1) := dk_62 (dk_at dksX1_stateOf_0 3 rfl rfl)
theorem dX1_stateOf_4 : decode cX1_stateOf 4 = .ok (.iload_n 3, 1) := dk_29 (dk_at dksX1_stateOf_0 4 rfl rfl)
theorem dX1_stateOf_5 : decode cX1_stateOf 5 = .ok (.aload_n 0, 1) := dk_42 (dk_at dksX1_stateOf_0 5 rfl rfl)
theorem dX1_stateOf_6 : decode cX1_stateOf 6 = .ok (.getfield 287, 3) := dk_180 1 31 (dk_at dksX1_stateOf_0 6 rfl rfl)
theorem dX1_stateOf_9 : decode cX1_stateOf 9 = .ok (.if_icmp .ge 23, 3) := dk_162 0 23 (dk_at dksX1_stateOf_0 9 rfl rfl)
theorem dX1_stateOf_12 : decode cX1_stateOf 12 = .ok (.iload_n 2, 1) := dk_28 (dk_at dksX1_stateOf_0 12 rfl rfl)
theorem dX1_stateOf_13 : decode cX1_stateOf 13 = .ok (.aload_n 0, 1) := dk_42 (dk_at dksX1_stateOf_0 13 rfl rfl)
theorem dX1_stateOf_14 : decode cX1_stateOf 14 = .ok (.getfield 109, 3) := dk_180 0 109 (dk_at dksX1_stateOf_0 14 rfl rfl)
theorem dX1_stateOf_17 : decode cX1_stateOf 17 = .ok (.getfield 150, 3) := dk_180 0 150 (dk_at dksX1_stateOf_0 17 rfl rfl)
theorem dX1_stateOf_20 : decode cX1_stateOf 20 = .ok (.imul, 1) := dk_104 (dk_at dksX1_stateOf_0 20 rfl rfl)
theorem dX1_stateOf_21 : decode cX1_stateOf 21 = .ok (.aload_n 1, 1) := dk_43 (dk_at dksX1_stateOf_0 21 rfl rfl)
theorem dX1_stateOf_22 : decode cX1_stateOf 22 = .ok (.iload_n 3, 1) := dk_29 (dk_at dksX1_stateOf_0 22 rfl rfl)
theorem dX1_stateOf_23 : decode cX1_stateOf 23 = .ok (.iaload, 1) := dk_46 (dk_at dksX1_stateOf_0 23 rfl rfl)
theorem dX1_stateOf_24 : decode cX1_stateOf 24 = .ok (.iadd, 1) := dk_96 (dk_at dksX1_stateOf_1 0 rfl rfl)
theorem dX1_stateOf_25 : decode cX1_stateOf 25 = .ok (.istore_n 2, 1) := dk_61 (dk_at dksX1_stateOf_1 1 rfl rfl)
theorem dX1_stateOf_26 : decode cX1_stateOf 26 = .ok (.iinc 3 1, 3) := dk_132 3 1 (dk_at dksX1_stateOf_1 2 rfl rfl)
theorem dX1_stateOf_29 : decode cX1_stateOf 29 = .ok (.goto (-25), 3) := dk_167 255 231 (dk_at dksX1_stateOf_1 5 rfl rfl)
theorem dX1_stateOf_32 : decode cX1_stateOf 32 = .ok (.iload_n 2, 1) := dk_28 (dk_at dksX1_stateOf_1 8 rfl rfl)
theorem dX1_stateOf_33 : decode cX1_stateOf 33 = .ok (.ireturn, 1) := dk_172 (dk_at dksX1_stateOf_1 9 rfl rfl)
abbrev cX1_allIn : ByteArray := prog_1_method_52_code
def yX1_allIn : MethodName := ⟨RX1, "allIn", "(I)[I"⟩
def dkwX1_allIn_3 : List UInt8 := [108, 61, 132, 3, 255, 167, 255, 219, 42, 180, 0, 43, 176]
abbrev dktX1_allIn_3 : List UInt8 := dkwX1_allIn_3 ++ []
def dkwX1_allIn_2 : List UInt8 := [42, 180, 0, 49, 29, 46, 28, 42, 180, 0, 109, 180, 0, 150, 112, 79, 28, 42, 180, 0, 109, 180, 0, 150]
abbrev dktX1_allIn_2 : List UInt8 := dkwX1_allIn_2 ++ dktX1_allIn_3
def dkwX1_allIn_1 : List UInt8 := [79, 132, 2, 1, 167, 255, 230, 27, 61, 42, 180, 1, 31, 4, 100, 62, 29, 155, 0, 39, 42, 180, 0, 43]
abbrev dktX1_allIn_1 : List UInt8 := dkwX1_allIn_1 ++ dktX1_allIn_2
def dkwX1_allIn_0 : List UInt8 := [3, 61, 28, 42, 180, 0, 109, 180, 0, 137, 162, 0, 21, 42, 180, 0, 43, 28, 42, 180, 0, 39, 28, 46]
abbrev dktX1_allIn_0 : List UInt8 := dkwX1_allIn_0 ++ dktX1_allIn_1
theorem dksX1_allIn_0 : cX1_allIn.data.toList.drop 0 = dktX1_allIn_0 := by decide +kernel
theorem dksX1_allIn_1 : cX1_allIn.data.toList.drop 24 = dktX1_allIn_1 := dk_seg dksX1_allIn_0 24 rfl rfl
theorem dksX1_allIn_2 : cX1_allIn.data.toList.drop 48 = dktX1_allIn_2 := dk_seg dksX1_allIn_1 24 rfl rfl
theorem dksX1_allIn_3 : cX1_allIn.data.toList.drop 72 = dktX1_allIn_3 := dk_seg dksX1_allIn_2 24 rfl rfl
theorem dX1_allIn_0 : decode cX1_allIn 0 = .ok (.iconst 0, 1) := dk_3 (dk_at dksX1_allIn_0 0 rfl rfl)
theorem dX1_allIn_1 : decode cX1_allIn 1 = .ok (.istore_n 2, 1) := dk_61 (dk_at dksX1_allIn_0 1 rfl rfl)
theorem dX1_allIn_2 : decode cX1_allIn 2 = .ok (.iload_n 2, 1) := dk_28 (dk_at dksX1_allIn_0 2 rfl rfl)
theorem dX1_allIn_3 : decode cX1_allIn 3 = .ok (.aload_n 0, 1) := dk_42 (dk_at dksX1_allIn_0 3 rfl rfl)
theorem dX1_allIn_4 : decode cX1_allIn 4 = .ok (.getfield 109, 3) := dk_180 0 109 (dk_at dksX1_allIn_0 4 rfl rfl)
theorem dX1_allIn_7 : decode cX1_allIn 7 = .ok (.getfield 137, 3) := dk_180 0 137 (dk_at dksX1_allIn_0 7 rfl rfl)
theorem dX1_allIn_10 : decode cX1_allIn 10 = .ok (.if_icmp .ge 21, 3) := dk_162 0 21 (dk_at dksX1_allIn_0 10 rfl rfl)
theorem dX1_allIn_13 : decode cX1_allIn 13 = .ok (.aload_n 0, 1) := dk_42 (dk_at dksX1_allIn_0 13 rfl rfl)
theorem dX1_allIn_14 : decode cX1_allIn 14 = .ok (.getfield 43, 3) := dk_180 0 43 (dk_at dksX1_allIn_0 14 rfl rfl)
theorem dX1_allIn_17 : decode cX1_allIn 17 = .ok (.iload_n 2, 1) := dk_28 (dk_at dksX1_allIn_0 17 rfl rfl)
theorem dX1_allIn_18 : decode cX1_allIn 18 = .ok (.aload_n 0, 1) := dk_42 (dk_at dksX1_allIn_0 18 rfl rfl)
theorem dX1_allIn_19 : decode cX1_allIn 19 = .ok (.getfield 39, 3) := dk_180 0 39 (dk_at dksX1_allIn_0 19 rfl rfl)
theorem dX1_allIn_22 : decode cX1_allIn 22 = .ok (.iload_n 2, 1) := dk_28 (dk_at dksX1_allIn_0 22 rfl rfl)
theorem dX1_allIn_23 : decode cX1_allIn 23 = .ok (.iaload, 1) := dk_46 (dk_at dksX1_allIn_0 23 rfl rfl)
theorem dX1_allIn_24 : decode cX1_allIn 24 = .ok (.iastore, 1) := dk_79 (dk_at dksX1_allIn_1 0 rfl rfl)
theorem dX1_allIn_25 : decode cX1_allIn 25 = .ok (.iinc 2 1, 3) := dk_132 2 1 (dk_at dksX1_allIn_1 1 rfl rfl)
theorem dX1_allIn_28 : decode cX1_allIn 28 = .ok (.goto (-26), 3) := dk_167 255 230 (dk_at dksX1_allIn_1 4 rfl rfl)
theorem dX1_allIn_31 : decode cX1_allIn 31 = .ok (.iload_n 1, 1) := dk_27 (dk_at dksX1_allIn_1 7 rfl rfl)
theorem dX1_allIn_32 : decode cX1_allIn 32 = .ok (.istore_n 2, 1) := dk_61 (dk_at dksX1_allIn_1 8 rfl rfl)
theorem dX1_allIn_33 : decode cX1_allIn 33 = .ok (.aload_n 0, 1) := dk_42 (dk_at dksX1_allIn_1 9 rfl rfl)
theorem dX1_allIn_34 : decode cX1_allIn 34 = .ok (.getfield 287, 3) := dk_180 1 31 (dk_at dksX1_allIn_1 10 rfl rfl)
theorem dX1_allIn_37 : decode cX1_allIn 37 = .ok (.iconst 1, 1) := dk_4 (dk_at dksX1_allIn_1 13 rfl rfl)
theorem dX1_allIn_38 : decode cX1_allIn 38 = .ok (.isub, 1) := dk_100 (dk_at dksX1_allIn_1 14 rfl rfl)
theorem dX1_allIn_39 : decode cX1_allIn 39 = .ok (.istore_n 3, 1) := dk_62 (dk_at dksX1_allIn_1 15 rfl rfl)
theorem dX1_allIn_40 : decode cX1_allIn 40 = .ok (.iload_n 3, 1) := dk_29 (dk_at dksX1_allIn_1 16 rfl rfl)
theorem dX1_allIn_41 : decode cX1_allIn 41 = .ok (.ifCond .lt 39, 3) := dk_155 0 39 (dk_at dksX1_allIn_1 17 rfl rfl)
theorem dX1_allIn_44 : decode cX1_allIn 44 = .ok (.aload_n 0, 1) := dk_42 (dk_at dksX1_allIn_1 20 rfl rfl)
theorem dX1_allIn_45 : decode cX1_allIn 45 = .ok (.getfield 43, 3) := dk_180 0 43 (dk_at dksX1_allIn_1 21 rfl rfl)
theorem dX1_allIn_48 : decode cX1_allIn 48 = .ok (.aload_n 0, 1) := dk_42 (dk_at dksX1_allIn_2 0 rfl rfl)
theorem dX1_allIn_49 : decode cX1_allIn 49 = .ok (.getfield 49, 3) := dk_180 0 49 (dk_at dksX1_allIn_2 1 rfl rfl)
theorem dX1_allIn_52 : decode cX1_allIn 52 = .ok (.iload_n 3, 1) := dk_29 (dk_at dksX1_allIn_2 4 rfl rfl)
theorem dX1_allIn_53 : decode cX1_allIn 53 = .ok (.iaload, 1) := dk_46 (dk_at dksX1_allIn_2 5 rfl rfl)
theorem dX1_allIn_54 : decode cX1_allIn 54 = .ok (.iload_n 2, 1) := dk_28 (dk_at dksX1_allIn_2 6 rfl rfl)
theorem dX1_allIn_55 : decode cX1_allIn 55 = .ok (.aload_n 0, 1) := dk_42 (dk_at dksX1_allIn_2 7 rfl rfl)
theorem dX1_allIn_56 : decode cX1_allIn 56 = .ok (.getfield 109, 3) := dk_180 0 109 (dk_at dksX1_allIn_2 8 rfl rfl)
theorem dX1_allIn_59 : decode cX1_allIn 59 = .ok (.getfield 150, 3) := dk_180 0 150 (dk_at dksX1_allIn_2 11 rfl rfl)
theorem dX1_allIn_62 : decode cX1_allIn 62 = .ok (.irem, 1) := dk_112 (dk_at dksX1_allIn_2 14 rfl rfl)
theorem dX1_allIn_63 : decode cX1_allIn 63 = .ok (.iastore, 1) := dk_79 (dk_at dksX1_allIn_2 15 rfl rfl)
theorem dX1_allIn_64 : decode cX1_allIn 64 = .ok (.iload_n 2, 1) := dk_28 (dk_at dksX1_allIn_2 16 rfl rfl)
theorem dX1_allIn_65 : decode cX1_allIn 65 = .ok (.aload_n 0, 1) := dk_42 (dk_at dksX1_allIn_2 17 rfl rfl)
theorem dX1_allIn_66 : decode cX1_allIn 66 = .ok (.getfield 109, 3) := dk_180 0 109 (dk_at dksX1_allIn_2 18 rfl rfl)
theorem dX1_allIn_69 : decode cX1_allIn 69 = .ok (.getfield 150, 3) := dk_180 0 150 (dk_at dksX1_allIn_2 21 rfl rfl)
theorem dX1_allIn_72 : decode cX1_allIn 72 = .ok (.idiv, 1) := dk_108 (dk_at dksX1_allIn_3 0 rfl rfl)
theorem dX1_allIn_73 : decode cX1_allIn 73 = .ok (.istore_n 2, 1) := dk_61 (dk_at dksX1_allIn_3 1 rfl rfl)
theorem dX1_allIn_74 : decode cX1_allIn 74 = .ok (.iinc 3 (-1), 3) := dk_132 3 255 (dk_at dksX1_allIn_3 2 rfl rfl)
theorem dX1_allIn_77 : decode cX1_allIn 77 = .ok (.goto (-37), 3) := dk_167 255 219 (dk_at dksX1_allIn_3 5 rfl rfl)
theorem dX1_allIn_80 : decode cX1_allIn 80 = .ok (.aload_n 0, 1) := dk_42 (dk_at dksX1_allIn_3 8 rfl rfl)
theorem dX1_allIn_81 : decode cX1_allIn 81 = .ok (.getfield 43, 3) := dk_180 0 43 (dk_at dksX1_allIn_3 9 rfl rfl)
theorem dX1_allIn_84 : decode cX1_allIn 84 = .ok (.areturn, 1) := dk_176 (dk_at dksX1_allIn_3 12 rfl rfl)
abbrev cX1_spread : ByteArray := prog_1_method_58_code
def yX1_spread : MethodName := ⟨RX1, "spread", "(II)V"⟩
def dkwX1_spread_0 : List UInt8 := [42, 27, 42, 180, 0, 52, 182, 1, 41, 42, 3, 3, 28, 182, 1, 59, 177]
abbrev dktX1_spread_0 : List UInt8 := dkwX1_spread_0 ++ []
theorem dksX1_spread_0 : cX1_spread.data.toList.drop 0 = dktX1_spread_0 := by decide +kernel
theorem dX1_spread_0 : decode cX1_spread 0 = .ok (.aload_n 0, 1) := dk_42 (dk_at dksX1_spread_0 0 rfl rfl)
theorem dX1_spread_1 : decode cX1_spread 1 = .ok (.iload_n 1, 1) := dk_27 (dk_at dksX1_spread_0 1 rfl rfl)
theorem dX1_spread_2 : decode cX1_spread 2 = .ok (.aload_n 0, 1) := dk_42 (dk_at dksX1_spread_0 2 rfl rfl)
theorem dX1_spread_3 : decode cX1_spread 3 = .ok (.getfield 52, 3) := dk_180 0 52 (dk_at dksX1_spread_0 3 rfl rfl)
theorem dX1_spread_6 : decode cX1_spread 6 = .ok (.invokevirtual 297, 3) := dk_182 1 41 (dk_at dksX1_spread_0 6 rfl rfl)
theorem dX1_spread_9 : decode cX1_spread 9 = .ok (.aload_n 0, 1) := dk_42 (dk_at dksX1_spread_0 9 rfl rfl)
theorem dX1_spread_10 : decode cX1_spread 10 = .ok (.iconst 0, 1) := dk_3 (dk_at dksX1_spread_0 10 rfl rfl)
theorem dX1_spread_11 : decode cX1_spread 11 = .ok (.iconst 0, 1) := dk_3 (dk_at dksX1_spread_0 11 rfl rfl)
theorem dX1_spread_12 : decode cX1_spread 12 = .ok (.iload_n 2, 1) := dk_28 (dk_at dksX1_spread_0 12 rfl rfl)
theorem dX1_spread_13 : decode cX1_spread 13 = .ok (.invokevirtual 315, 3) := dk_182 1 59 (dk_at dksX1_spread_0 13 rfl rfl)
theorem dX1_spread_16 : decode cX1_spread 16 = .ok (.return_, 1) := dk_177 (dk_at dksX1_spread_0 16 rfl rfl)
abbrev cX1_places : ByteArray := prog_1_method_51_code
def yX1_places : MethodName := ⟨RX1, "places", "(I[I)V"⟩
def dkwX1_places_1 : List UInt8 := [180, 0, 150, 112, 79, 29, 42, 180, 0, 109, 180, 0, 150, 108, 62, 132, 4, 255, 167, 255, 225, 177]
abbrev dktX1_places_1 : List UInt8 := dkwX1_places_1 ++ []
def dkwX1_places_0 : List UInt8 := [27, 62, 42, 180, 1, 31, 4, 100, 54, 4, 21, 4, 155, 0, 32, 44, 21, 4, 29, 42, 180, 0, 109]
abbrev dktX1_places_0 : List UInt8 := dkwX1_places_0 ++ dktX1_places_1
theorem dksX1_places_0 : cX1_places.data.toList.drop 0 = dktX1_places_0 := by decide +kernel
theorem dksX1_places_1 : cX1_places.data.toList.drop 23 = dktX1_places_1 := dk_seg dksX1_places_0 23 rfl rfl
theorem dX1_places_0 : decode cX1_places 0 = .ok (.iload_n 1, 1) := dk_27 (dk_at dksX1_places_0 0 rfl rfl)
theorem dX1_places_1 : decode cX1_places 1 = .ok (.istore_n 3, 1) := dk_62 (dk_at dksX1_places_0 1 rfl rfl)
theorem dX1_places_2 : decode cX1_places 2 = .ok (.aload_n 0, 1) := dk_42 (dk_at dksX1_places_0 2 rfl rfl)
theorem dX1_places_3 : decode cX1_places 3 = .ok (.getfield 287, 3) := dk_180 1 31 (dk_at dksX1_places_0 3 rfl rfl)
theorem dX1_places_6 : decode cX1_places 6 = .ok (.iconst 1, 1) := dk_4 (dk_at dksX1_places_0 6 rfl rfl)
theorem dX1_places_7 : decode cX1_places 7 = .ok (.isub, 1) := dk_100 (dk_at dksX1_places_0 7 rfl rfl)
theorem dX1_places_8 : decode cX1_places 8 = .ok (.istore 4, 2) := dk_54 4 (dk_at dksX1_places_0 8 rfl rfl)
theorem dX1_places_10 : decode cX1_places 10 = .ok (.iload 4, 2) := dk_21 4 (dk_at dksX1_places_0 10 rfl rfl)
theorem dX1_places_12 : decode cX1_places 12 = .ok (.ifCond .lt 32, 3) := dk_155 0 32 (dk_at dksX1_places_0 12 rfl rfl)
theorem dX1_places_15 : decode cX1_places 15 = .ok (.aload_n 2, 1) := dk_44 (dk_at dksX1_places_0 15 rfl rfl)
theorem dX1_places_16 : decode cX1_places 16 = .ok (.iload 4, 2) := dk_21 4 (dk_at dksX1_places_0 16 rfl rfl)
theorem dX1_places_18 : decode cX1_places 18 = .ok (.iload_n 3, 1) := dk_29 (dk_at dksX1_places_0 18 rfl rfl)
theorem dX1_places_19 : decode cX1_places 19 = .ok (.aload_n 0, 1) := dk_42 (dk_at dksX1_places_0 19 rfl rfl)
theorem dX1_places_20 : decode cX1_places 20 = .ok (.getfield 109, 3) := dk_180 0 109 (dk_at dksX1_places_0 20 rfl rfl)
theorem dX1_places_23 : decode cX1_places 23 = .ok (.getfield 150, 3) := dk_180 0 150 (dk_at dksX1_places_1 0 rfl rfl)
theorem dX1_places_26 : decode cX1_places 26 = .ok (.irem, 1) := dk_112 (dk_at dksX1_places_1 3 rfl rfl)
theorem dX1_places_27 : decode cX1_places 27 = .ok (.iastore, 1) := dk_79 (dk_at dksX1_places_1 4 rfl rfl)
theorem dX1_places_28 : decode cX1_places 28 = .ok (.iload_n 3, 1) := dk_29 (dk_at dksX1_places_1 5 rfl rfl)
theorem dX1_places_29 : decode cX1_places 29 = .ok (.aload_n 0, 1) := dk_42 (dk_at dksX1_places_1 6 rfl rfl)
theorem dX1_places_30 : decode cX1_places 30 = .ok (.getfield 109, 3) := dk_180 0 109 (dk_at dksX1_places_1 7 rfl rfl)
theorem dX1_places_33 : decode cX1_places 33 = .ok (.getfield 150, 3) := dk_180 0 150 (dk_at dksX1_places_1 10 rfl rfl)
theorem dX1_places_36 : decode cX1_places 36 = .ok (.idiv, 1) := dk_108 (dk_at dksX1_places_1 13 rfl rfl)
theorem dX1_places_37 : decode cX1_places 37 = .ok (.istore_n 3, 1) := dk_62 (dk_at dksX1_places_1 14 rfl rfl)
theorem dX1_places_38 : decode cX1_places 38 = .ok (.iinc 4 (-1), 3) := dk_132 4 255 (dk_at dksX1_places_1 15 rfl rfl)
theorem dX1_places_41 : decode cX1_places 41 = .ok (.goto (-31), 3) := dk_167 255 225 (dk_at dksX1_places_1 18 rfl rfl)
theorem dX1_places_44 : decode cX1_places 44 = .ok (.return_, 1) := dk_177 (dk_at dksX1_places_1 21 rfl rfl)
abbrev cX1_goesOn : ByteArray := prog_1_method_59_code
def yX1_goesOn : MethodName := ⟨RX1, "goesOn", "(III)V"⟩
def dkwX1_goesOn_5 : List UInt8 := [132, 4, 1, 167, 255, 203, 177]
abbrev dktX1_goesOn_5 : List UInt8 := dkwX1_goesOn_5 ++ []
def dkwX1_goesOn_4 : List UInt8 := [153, 0, 23, 42, 27, 4, 96, 28, 42, 180, 0, 109, 180, 0, 150, 104, 21, 4, 96, 29, 182, 1, 59]
abbrev dktX1_goesOn_4 : List UInt8 := dkwX1_goesOn_4 ++ dktX1_goesOn_5
def dkwX1_goesOn_3 : List UInt8 := [180, 0, 109, 180, 0, 150, 162, 0, 47, 42, 180, 0, 109, 42, 180, 0, 52, 27, 46, 21, 4, 182, 0, 228]
abbrev dktX1_goesOn_3 : List UInt8 := dkwX1_goesOn_3 ++ dktX1_goesOn_4
def dkwX1_goesOn_2 : List UInt8 := [4, 96, 104, 28, 96, 51, 153, 0, 7, 4, 167, 0, 4, 3, 84, 177, 3, 54, 4, 21, 4, 42]
abbrev dktX1_goesOn_2 : List UInt8 := dkwX1_goesOn_2 ++ dktX1_goesOn_3
def dkwX1_goesOn_1 : List UInt8 := [180, 0, 62, 17, 3, 232, 29, 4, 96, 104, 28, 96, 51, 154, 0, 20, 42, 180, 0, 58, 17, 3, 232, 29]
abbrev dktX1_goesOn_1 : List UInt8 := dkwX1_goesOn_1 ++ dktX1_goesOn_2
def dkwX1_goesOn_0 : List UInt8 := [27, 42, 180, 1, 31, 160, 0, 57, 42, 180, 0, 62, 17, 3, 232, 29, 4, 96, 104, 28, 96, 42]
abbrev dktX1_goesOn_0 : List UInt8 := dkwX1_goesOn_0 ++ dktX1_goesOn_1
theorem dksX1_goesOn_0 : cX1_goesOn.data.toList.drop 0 = dktX1_goesOn_0 := by decide +kernel
theorem dksX1_goesOn_1 : cX1_goesOn.data.toList.drop 22 = dktX1_goesOn_1 := dk_seg dksX1_goesOn_0 22 rfl rfl
theorem dksX1_goesOn_2 : cX1_goesOn.data.toList.drop 46 = dktX1_goesOn_2 := dk_seg dksX1_goesOn_1 24 rfl rfl
theorem dksX1_goesOn_3 : cX1_goesOn.data.toList.drop 68 = dktX1_goesOn_3 := dk_seg dksX1_goesOn_2 22 rfl rfl
theorem dksX1_goesOn_4 : cX1_goesOn.data.toList.drop 92 = dktX1_goesOn_4 := dk_seg dksX1_goesOn_3 24 rfl rfl
theorem dksX1_goesOn_5 : cX1_goesOn.data.toList.drop 115 = dktX1_goesOn_5 := dk_seg dksX1_goesOn_4 23 rfl rfl
theorem dX1_goesOn_0 : decode cX1_goesOn 0 = .ok (.iload_n 1, 1) := dk_27 (dk_at dksX1_goesOn_0 0 rfl rfl)
theorem dX1_goesOn_1 : decode cX1_goesOn 1 = .ok (.aload_n 0, 1) := dk_42 (dk_at dksX1_goesOn_0 1 rfl rfl)
theorem dX1_goesOn_2 : decode cX1_goesOn 2 = .ok (.getfield 287, 3) := dk_180 1 31 (dk_at dksX1_goesOn_0 2 rfl rfl)
theorem dX1_goesOn_5 : decode cX1_goesOn 5 = .ok (.if_icmp .ne 57, 3) := dk_160 0 57 (dk_at dksX1_goesOn_0 5 rfl rfl)
theorem dX1_goesOn_8 : decode cX1_goesOn 8 = .ok (.aload_n 0, 1) := dk_42 (dk_at dksX1_goesOn_0 8 rfl rfl)
theorem dX1_goesOn_9 : decode cX1_goesOn 9 = .ok (.getfield 62, 3) := dk_180 0 62 (dk_at dksX1_goesOn_0 9 rfl rfl)
theorem dX1_goesOn_12 : decode cX1_goesOn 12 = .ok (.sipush 1000, 3) := dk_17 3 232 (dk_at dksX1_goesOn_0 12 rfl rfl)
theorem dX1_goesOn_15 : decode cX1_goesOn 15 = .ok (.iload_n 3, 1) := dk_29 (dk_at dksX1_goesOn_0 15 rfl rfl)
theorem dX1_goesOn_16 : decode cX1_goesOn 16 = .ok (.iconst 1, 1) := dk_4 (dk_at dksX1_goesOn_0 16 rfl rfl)
theorem dX1_goesOn_17 : decode cX1_goesOn 17 = .ok (.iadd, 1) := dk_96 (dk_at dksX1_goesOn_0 17 rfl rfl)
theorem dX1_goesOn_18 : decode cX1_goesOn 18 = .ok (.imul, 1) := dk_104 (dk_at dksX1_goesOn_0 18 rfl rfl)
theorem dX1_goesOn_19 : decode cX1_goesOn 19 = .ok (.iload_n 2, 1) := dk_28 (dk_at dksX1_goesOn_0 19 rfl rfl)
theorem dX1_goesOn_20 : decode cX1_goesOn 20 = .ok (.iadd, 1) := dk_96 (dk_at dksX1_goesOn_0 20 rfl rfl)
theorem dX1_goesOn_21 : decode cX1_goesOn 21 = .ok (.aload_n 0, 1) := dk_42 (dk_at dksX1_goesOn_0 21 rfl rfl)
theorem dX1_goesOn_22 : decode cX1_goesOn 22 = .ok (.getfield 62, 3) := dk_180 0 62 (dk_at dksX1_goesOn_1 0 rfl rfl)
theorem dX1_goesOn_25 : decode cX1_goesOn 25 = .ok (.sipush 1000, 3) := dk_17 3 232 (dk_at dksX1_goesOn_1 3 rfl rfl)
theorem dX1_goesOn_28 : decode cX1_goesOn 28 = .ok (.iload_n 3, 1) := dk_29 (dk_at dksX1_goesOn_1 6 rfl rfl)
theorem dX1_goesOn_29 : decode cX1_goesOn 29 = .ok (.iconst 1, 1) := dk_4 (dk_at dksX1_goesOn_1 7 rfl rfl)
theorem dX1_goesOn_30 : decode cX1_goesOn 30 = .ok (.iadd, 1) := dk_96 (dk_at dksX1_goesOn_1 8 rfl rfl)
theorem dX1_goesOn_31 : decode cX1_goesOn 31 = .ok (.imul, 1) := dk_104 (dk_at dksX1_goesOn_1 9 rfl rfl)
theorem dX1_goesOn_32 : decode cX1_goesOn 32 = .ok (.iload_n 2, 1) := dk_28 (dk_at dksX1_goesOn_1 10 rfl rfl)
theorem dX1_goesOn_33 : decode cX1_goesOn 33 = .ok (.iadd, 1) := dk_96 (dk_at dksX1_goesOn_1 11 rfl rfl)
theorem dX1_goesOn_34 : decode cX1_goesOn 34 = .ok (.baload, 1) := dk_51 (dk_at dksX1_goesOn_1 12 rfl rfl)
theorem dX1_goesOn_35 : decode cX1_goesOn 35 = .ok (.ifCond .ne 20, 3) := dk_154 0 20 (dk_at dksX1_goesOn_1 13 rfl rfl)
theorem dX1_goesOn_38 : decode cX1_goesOn 38 = .ok (.aload_n 0, 1) := dk_42 (dk_at dksX1_goesOn_1 16 rfl rfl)
theorem dX1_goesOn_39 : decode cX1_goesOn 39 = .ok (.getfield 58, 3) := dk_180 0 58 (dk_at dksX1_goesOn_1 17 rfl rfl)
theorem dX1_goesOn_42 : decode cX1_goesOn 42 = .ok (.sipush 1000, 3) := dk_17 3 232 (dk_at dksX1_goesOn_1 20 rfl rfl)
theorem dX1_goesOn_45 : decode cX1_goesOn 45 = .ok (.iload_n 3, 1) := dk_29 (dk_at dksX1_goesOn_1 23 rfl rfl)
theorem dX1_goesOn_46 : decode cX1_goesOn 46 = .ok (.iconst 1, 1) := dk_4 (dk_at dksX1_goesOn_2 0 rfl rfl)
theorem dX1_goesOn_47 : decode cX1_goesOn 47 = .ok (.iadd, 1) := dk_96 (dk_at dksX1_goesOn_2 1 rfl rfl)
theorem dX1_goesOn_48 : decode cX1_goesOn 48 = .ok (.imul, 1) := dk_104 (dk_at dksX1_goesOn_2 2 rfl rfl)
theorem dX1_goesOn_49 : decode cX1_goesOn 49 = .ok (.iload_n 2, 1) := dk_28 (dk_at dksX1_goesOn_2 3 rfl rfl)
theorem dX1_goesOn_50 : decode cX1_goesOn 50 = .ok (.iadd, 1) := dk_96 (dk_at dksX1_goesOn_2 4 rfl rfl)
theorem dX1_goesOn_51 : decode cX1_goesOn 51 = .ok (.baload, 1) := dk_51 (dk_at dksX1_goesOn_2 5 rfl rfl)
theorem dX1_goesOn_52 : decode cX1_goesOn 52 = .ok (.ifCond .eq 7, 3) := dk_153 0 7 (dk_at dksX1_goesOn_2 6 rfl rfl)
theorem dX1_goesOn_55 : decode cX1_goesOn 55 = .ok (.iconst 1, 1) := dk_4 (dk_at dksX1_goesOn_2 9 rfl rfl)
theorem dX1_goesOn_56 : decode cX1_goesOn 56 = .ok (.goto 4, 3) := dk_167 0 4 (dk_at dksX1_goesOn_2 10 rfl rfl)
theorem dX1_goesOn_59 : decode cX1_goesOn 59 = .ok (.iconst 0, 1) := dk_3 (dk_at dksX1_goesOn_2 13 rfl rfl)
theorem dX1_goesOn_60 : decode cX1_goesOn 60 = .ok (.bastore, 1) := dk_84 (dk_at dksX1_goesOn_2 14 rfl rfl)
theorem dX1_goesOn_61 : decode cX1_goesOn 61 = .ok (.return_, 1) := dk_177 (dk_at dksX1_goesOn_2 15 rfl rfl)
theorem dX1_goesOn_62 : decode cX1_goesOn 62 = .ok (.iconst 0, 1) := dk_3 (dk_at dksX1_goesOn_2 16 rfl rfl)
theorem dX1_goesOn_63 : decode cX1_goesOn 63 = .ok (.istore 4, 2) := dk_54 4 (dk_at dksX1_goesOn_2 17 rfl rfl)
theorem dX1_goesOn_65 : decode cX1_goesOn 65 = .ok (.iload 4, 2) := dk_21 4 (dk_at dksX1_goesOn_2 19 rfl rfl)
theorem dX1_goesOn_67 : decode cX1_goesOn 67 = .ok (.aload_n 0, 1) := dk_42 (dk_at dksX1_goesOn_2 21 rfl rfl)
theorem dX1_goesOn_68 : decode cX1_goesOn 68 = .ok (.getfield 109, 3) := dk_180 0 109 (dk_at dksX1_goesOn_3 0 rfl rfl)
theorem dX1_goesOn_71 : decode cX1_goesOn 71 = .ok (.getfield 150, 3) := dk_180 0 150 (dk_at dksX1_goesOn_3 3 rfl rfl)
theorem dX1_goesOn_74 : decode cX1_goesOn 74 = .ok (.if_icmp .ge 47, 3) := dk_162 0 47 (dk_at dksX1_goesOn_3 6 rfl rfl)
theorem dX1_goesOn_77 : decode cX1_goesOn 77 = .ok (.aload_n 0, 1) := dk_42 (dk_at dksX1_goesOn_3 9 rfl rfl)
theorem dX1_goesOn_78 : decode cX1_goesOn 78 = .ok (.getfield 109, 3) := dk_180 0 109 (dk_at dksX1_goesOn_3 10 rfl rfl)
theorem dX1_goesOn_81 : decode cX1_goesOn 81 = .ok (.aload_n 0, 1) := dk_42 (dk_at dksX1_goesOn_3 13 rfl rfl)
theorem dX1_goesOn_82 : decode cX1_goesOn 82 = .ok (.getfield 52, 3) := dk_180 0 52 (dk_at dksX1_goesOn_3 14 rfl rfl)
theorem dX1_goesOn_85 : decode cX1_goesOn 85 = .ok (.iload_n 1, 1) := dk_27 (dk_at dksX1_goesOn_3 17 rfl rfl)
theorem dX1_goesOn_86 : decode cX1_goesOn 86 = .ok (.iaload, 1) := dk_46 (dk_at dksX1_goesOn_3 18 rfl rfl)
theorem dX1_goesOn_87 : decode cX1_goesOn 87 = .ok (.iload 4, 2) := dk_21 4 (dk_at dksX1_goesOn_3 19 rfl rfl)
theorem dX1_goesOn_89 : decode cX1_goesOn 89 = .ok (.invokevirtual 228, 3) := dk_182 0 228 (dk_at dksX1_goesOn_3 21 rfl rfl)
theorem dX1_goesOn_92 : decode cX1_goesOn 92 = .ok (.ifCond .eq 23, 3) := dk_153 0 23 (dk_at dksX1_goesOn_4 0 rfl rfl)
theorem dX1_goesOn_95 : decode cX1_goesOn 95 = .ok (.aload_n 0, 1) := dk_42 (dk_at dksX1_goesOn_4 3 rfl rfl)
theorem dX1_goesOn_96 : decode cX1_goesOn 96 = .ok (.iload_n 1, 1) := dk_27 (dk_at dksX1_goesOn_4 4 rfl rfl)
theorem dX1_goesOn_97 : decode cX1_goesOn 97 = .ok (.iconst 1, 1) := dk_4 (dk_at dksX1_goesOn_4 5 rfl rfl)
theorem dX1_goesOn_98 : decode cX1_goesOn 98 = .ok (.iadd, 1) := dk_96 (dk_at dksX1_goesOn_4 6 rfl rfl)
theorem dX1_goesOn_99 : decode cX1_goesOn 99 = .ok (.iload_n 2, 1) := dk_28 (dk_at dksX1_goesOn_4 7 rfl rfl)
theorem dX1_goesOn_100 : decode cX1_goesOn 100 = .ok (.aload_n 0, 1) := dk_42 (dk_at dksX1_goesOn_4 8 rfl rfl)
theorem dX1_goesOn_101 : decode cX1_goesOn 101 = .ok (.getfield 109, 3) := dk_180 0 109 (dk_at dksX1_goesOn_4 9 rfl rfl)
theorem dX1_goesOn_104 : decode cX1_goesOn 104 = .ok (.getfield 150, 3) := dk_180 0 150 (dk_at dksX1_goesOn_4 12 rfl rfl)
theorem dX1_goesOn_107 : decode cX1_goesOn 107 = .ok (.imul, 1) := dk_104 (dk_at dksX1_goesOn_4 15 rfl rfl)
theorem dX1_goesOn_108 : decode cX1_goesOn 108 = .ok (.iload 4, 2) := dk_21 4 (dk_at dksX1_goesOn_4 16 rfl rfl)
theorem dX1_goesOn_110 : decode cX1_goesOn 110 = .ok (.iadd, 1) := dk_96 (dk_at dksX1_goesOn_4 18 rfl rfl)
theorem dX1_goesOn_111 : decode cX1_goesOn 111 = .ok (.iload_n 3, 1) := dk_29 (dk_at dksX1_goesOn_4 19 rfl rfl)
theorem dX1_goesOn_112 : decode cX1_goesOn 112 = .ok (.invokevirtual 315, 3) := dk_182 1 59 (dk_at dksX1_goesOn_4 20 rfl rfl)
theorem dX1_goesOn_115 : decode cX1_goesOn 115 = .ok (.iinc 4 1, 3) := dk_132 4 1 (dk_at dksX1_goesOn_5 0 rfl rfl)
theorem dX1_goesOn_118 : decode cX1_goesOn 118 = .ok (.goto (-53), 3) := dk_167 255 203 (dk_at dksX1_goesOn_5 3 rfl rfl)
theorem dX1_goesOn_121 : decode cX1_goesOn 121 = .ok (.return_, 1) := dk_177 (dk_at dksX1_goesOn_5 6 rfl rfl)
abbrev cX1_allAt : ByteArray := prog_1_method_61_code
def yX1_allAt : MethodName := ⟨RX1, "allAt", "(I)I"⟩
def dkwX1_allAt_1 : List UInt8 := [42, 180, 0, 55, 182, 1, 37, 172]
abbrev dktX1_allAt_1 : List UInt8 := dkwX1_allAt_1 ++ []
def dkwX1_allAt_0 : List UInt8 := [3, 61, 28, 42, 180, 1, 31, 162, 0, 16, 42, 180, 0, 55, 28, 27, 79, 132, 2, 1, 167, 255, 238, 42]
abbrev dktX1_allAt_0 : List UInt8 := dkwX1_allAt_0 ++ dktX1_allAt_1
theorem dksX1_allAt_0 : cX1_allAt.data.toList.drop 0 = dktX1_allAt_0 := by decide +kernel
theorem dksX1_allAt_1 : cX1_allAt.data.toList.drop 24 = dktX1_allAt_1 := dk_seg dksX1_allAt_0 24 rfl rfl
theorem dX1_allAt_0 : decode cX1_allAt 0 = .ok (.iconst 0, 1) := dk_3 (dk_at dksX1_allAt_0 0 rfl rfl)
theorem dX1_allAt_1 : decode cX1_allAt 1 = .ok (.istore_n 2, 1) := dk_61 (dk_at dksX1_allAt_0 1 rfl rfl)
theorem dX1_allAt_2 : decode cX1_allAt 2 = .ok (.iload_n 2, 1) := dk_28 (dk_at dksX1_allAt_0 2 rfl rfl)
theorem dX1_allAt_3 : decode cX1_allAt 3 = .ok (.aload_n 0, 1) := dk_42 (dk_at dksX1_allAt_0 3 rfl rfl)
theorem dX1_allAt_4 : decode cX1_allAt 4 = .ok (.getfield 287, 3) := dk_180 1 31 (dk_at dksX1_allAt_0 4 rfl rfl)
theorem dX1_allAt_7 : decode cX1_allAt 7 = .ok (.if_icmp .ge 16, 3) := dk_162 0 16 (dk_at dksX1_allAt_0 7 rfl rfl)
theorem dX1_allAt_10 : decode cX1_allAt 10 = .ok (.aload_n 0, 1) := dk_42 (dk_at dksX1_allAt_0 10 rfl rfl)
theorem dX1_allAt_11 : decode cX1_allAt 11 = .ok (.getfield 55, 3) := dk_180 0 55 (dk_at dksX1_allAt_0 11 rfl rfl)
theorem dX1_allAt_14 : decode cX1_allAt 14 = .ok (.iload_n 2, 1) := dk_28 (dk_at dksX1_allAt_0 14 rfl rfl)
theorem dX1_allAt_15 : decode cX1_allAt 15 = .ok (.iload_n 1, 1) := dk_27 (dk_at dksX1_allAt_0 15 rfl rfl)
theorem dX1_allAt_16 : decode cX1_allAt 16 = .ok (.iastore, 1) := dk_79 (dk_at dksX1_allAt_0 16 rfl rfl)
theorem dX1_allAt_17 : decode cX1_allAt 17 = .ok (.iinc 2 1, 3) := dk_132 2 1 (dk_at dksX1_allAt_0 17 rfl rfl)
theorem dX1_allAt_20 : decode cX1_allAt 20 = .ok (.goto (-18), 3) := dk_167 255 238 (dk_at dksX1_allAt_0 20 rfl rfl)
theorem dX1_allAt_23 : decode cX1_allAt 23 = .ok (.aload_n 0, 1) := dk_42 (dk_at dksX1_allAt_0 23 rfl rfl)
theorem dX1_allAt_24 : decode cX1_allAt 24 = .ok (.aload_n 0, 1) := dk_42 (dk_at dksX1_allAt_1 0 rfl rfl)
theorem dX1_allAt_25 : decode cX1_allAt 25 = .ok (.getfield 55, 3) := dk_180 0 55 (dk_at dksX1_allAt_1 1 rfl rfl)
theorem dX1_allAt_28 : decode cX1_allAt 28 = .ok (.invokevirtual 293, 3) := dk_182 1 37 (dk_at dksX1_allAt_1 4 rfl rfl)
theorem dX1_allAt_31 : decode cX1_allAt 31 = .ok (.ireturn, 1) := dk_172 (dk_at dksX1_allAt_1 7 rfl rfl)
abbrev cX1_laysPath : ByteArray := prog_1_method_62_code
def yX1_laysPath : MethodName := ⟨RX1, "laysPath", "(II)V"⟩
def dkwX1_laysPath_10 : List UInt8 := [167, 255, 176, 42, 28, 181, 0, 71, 177]
abbrev dktX1_laysPath_10 : List UInt8 := dkwX1_laysPath_10 ++ []
def dkwX1_laysPath_9 : List UInt8 := [21, 4, 28, 160, 0, 7, 29, 167, 0, 11, 42, 3, 3, 21, 4, 182, 1, 63, 62, 132, 4, 1]
abbrev dktX1_laysPath_9 : List UInt8 := dkwX1_laysPath_9 ++ dktX1_laysPath_10
def dkwX1_laysPath_8 : List UInt8 := [180, 0, 49, 21, 5, 46, 104, 21, 4, 96, 42, 180, 0, 52, 21, 5, 46, 79, 132, 5, 1, 167, 255, 219]
abbrev dktX1_laysPath_8 : List UInt8 := dkwX1_laysPath_8 ++ dktX1_laysPath_9
def dkwX1_laysPath_7 : List UInt8 := [182, 1, 41, 3, 54, 5, 21, 5, 42, 180, 1, 31, 162, 0, 34, 42, 180, 0, 68, 16, 31, 42]
abbrev dktX1_laysPath_7 : List UInt8 := dkwX1_laysPath_7 ++ dktX1_laysPath_8
def dkwX1_laysPath_6 : List UInt8 := [167, 255, 237, 42, 182, 1, 48, 62, 3, 54, 4, 21, 4, 28, 163, 0, 80, 42, 29, 42, 180, 0, 52]
abbrev dktX1_laysPath_6 : List UInt8 := dkwX1_laysPath_6 ++ dktX1_laysPath_7
def dkwX1_laysPath_5 : List UInt8 := [167, 255, 145, 3, 62, 29, 42, 180, 0, 68, 190, 162, 0, 16, 42, 180, 0, 68, 29, 2, 79, 132, 3, 1]
abbrev dktX1_laysPath_5 : List UInt8 := dkwX1_laysPath_5 ++ dktX1_laysPath_6
def dkwX1_laysPath_4 : List UInt8 := [104, 21, 4, 96, 51, 153, 0, 7, 4, 167, 0, 4, 3, 84, 132, 4, 1, 167, 255, 158, 132, 3, 255]
abbrev dktX1_laysPath_4 : List UInt8 := dkwX1_laysPath_4 ++ dktX1_laysPath_5
def dkwX1_laysPath_3 : List UInt8 := [180, 0, 65, 17, 3, 232, 29, 104, 21, 4, 96, 21, 5, 153, 0, 23, 42, 180, 0, 58, 17, 3, 232, 29]
abbrev dktX1_laysPath_3 : List UInt8 := dkwX1_laysPath_3 ++ dktX1_laysPath_4
def dkwX1_laysPath_2 : List UInt8 := [167, 0, 19, 42, 3, 3, 29, 182, 1, 63, 2, 159, 0, 7, 4, 167, 0, 4, 3, 54, 5, 42]
abbrev dktX1_laysPath_2 : List UInt8 := dkwX1_laysPath_2 ++ dktX1_laysPath_3
def dkwX1_laysPath_1 : List UInt8 := [180, 0, 52, 182, 1, 41, 29, 28, 160, 0, 17, 21, 4, 27, 160, 0, 7, 4, 167, 0, 23, 3]
abbrev dktX1_laysPath_1 : List UInt8 := dkwX1_laysPath_1 ++ dktX1_laysPath_2
def dkwX1_laysPath_0 : List UInt8 := [28, 62, 29, 155, 0, 113, 3, 54, 4, 21, 4, 42, 180, 1, 34, 162, 0, 95, 42, 21, 4, 42]
abbrev dktX1_laysPath_0 : List UInt8 := dkwX1_laysPath_0 ++ dktX1_laysPath_1
theorem dksX1_laysPath_0 : cX1_laysPath.data.toList.drop 0 = dktX1_laysPath_0 := by decide +kernel
theorem dksX1_laysPath_1 : cX1_laysPath.data.toList.drop 22 = dktX1_laysPath_1 := dk_seg dksX1_laysPath_0 22 rfl rfl
theorem dksX1_laysPath_2 : cX1_laysPath.data.toList.drop 44 = dktX1_laysPath_2 := dk_seg dksX1_laysPath_1 22 rfl rfl
theorem dksX1_laysPath_3 : cX1_laysPath.data.toList.drop 66 = dktX1_laysPath_3 := dk_seg dksX1_laysPath_2 22 rfl rfl
theorem dksX1_laysPath_4 : cX1_laysPath.data.toList.drop 90 = dktX1_laysPath_4 := dk_seg dksX1_laysPath_3 24 rfl rfl
theorem dksX1_laysPath_5 : cX1_laysPath.data.toList.drop 113 = dktX1_laysPath_5 := dk_seg dksX1_laysPath_4 23 rfl rfl
theorem dksX1_laysPath_6 : cX1_laysPath.data.toList.drop 137 = dktX1_laysPath_6 := dk_seg dksX1_laysPath_5 24 rfl rfl
theorem dksX1_laysPath_7 : cX1_laysPath.data.toList.drop 160 = dktX1_laysPath_7 := dk_seg dksX1_laysPath_6 23 rfl rfl
theorem dksX1_laysPath_8 : cX1_laysPath.data.toList.drop 182 = dktX1_laysPath_8 := dk_seg dksX1_laysPath_7 22 rfl rfl
theorem dksX1_laysPath_9 : cX1_laysPath.data.toList.drop 206 = dktX1_laysPath_9 := dk_seg dksX1_laysPath_8 24 rfl rfl
theorem dksX1_laysPath_10 : cX1_laysPath.data.toList.drop 228 = dktX1_laysPath_10 := dk_seg dksX1_laysPath_9 22 rfl rfl
theorem dX1_laysPath_0 : decode cX1_laysPath 0 = .ok (.iload_n 2, 1) := dk_28 (dk_at dksX1_laysPath_0 0 rfl rfl)
theorem dX1_laysPath_1 : decode cX1_laysPath 1 = .ok (.istore_n 3, 1) := dk_62 (dk_at dksX1_laysPath_0 1 rfl rfl)
theorem dX1_laysPath_2 : decode cX1_laysPath 2 = .ok (.iload_n 3, 1) := dk_29 (dk_at dksX1_laysPath_0 2 rfl rfl)
theorem dX1_laysPath_3 : decode cX1_laysPath 3 = .ok (.ifCond .lt 113, 3) := dk_155 0 113 (dk_at dksX1_laysPath_0 3 rfl rfl)
theorem dX1_laysPath_6 : decode cX1_laysPath 6 = .ok (.iconst 0, 1) := dk_3 (dk_at dksX1_laysPath_0 6 rfl rfl)
theorem dX1_laysPath_7 : decode cX1_laysPath 7 = .ok (.istore 4, 2) := dk_54 4 (dk_at dksX1_laysPath_0 7 rfl rfl)
theorem dX1_laysPath_9 : decode cX1_laysPath 9 = .ok (.iload 4, 2) := dk_21 4 (dk_at dksX1_laysPath_0 9 rfl rfl)
theorem dX1_laysPath_11 : decode cX1_laysPath 11 = .ok (.aload_n 0, 1) := dk_42 (dk_at dksX1_laysPath_0 11 rfl rfl)
theorem dX1_laysPath_12 : decode cX1_laysPath 12 = .ok (.getfield 290, 3) := dk_180 1 34 (dk_at dksX1_laysPath_0 12 rfl rfl)
theorem dX1_laysPath_15 : decode cX1_laysPath 15 = .ok (.if_icmp .ge 95, 3) := dk_162 0 95 (dk_at dksX1_laysPath_0 15 rfl rfl)
theorem dX1_laysPath_18 : decode cX1_laysPath 18 = .ok (.aload_n 0, 1) := dk_42 (dk_at dksX1_laysPath_0 18 rfl rfl)
theorem dX1_laysPath_19 : decode cX1_laysPath 19 = .ok (.iload 4, 2) := dk_21 4 (dk_at dksX1_laysPath_0 19 rfl rfl)
theorem dX1_laysPath_21 : decode cX1_laysPath 21 = .ok (.aload_n 0, 1) := dk_42 (dk_at dksX1_laysPath_0 21 rfl rfl)
theorem dX1_laysPath_22 : decode cX1_laysPath 22 = .ok (.getfield 52, 3) := dk_180 0 52 (dk_at dksX1_laysPath_1 0 rfl rfl)
theorem dX1_laysPath_25 : decode cX1_laysPath 25 = .ok (.invokevirtual 297, 3) := dk_182 1 41 (dk_at dksX1_laysPath_1 3 rfl rfl)
theorem dX1_laysPath_28 : decode cX1_laysPath 28 = .ok (.iload_n 3, 1) := dk_29 (dk_at dksX1_laysPath_1 6 rfl rfl)
theorem dX1_laysPath_29 : decode cX1_laysPath 29 = .ok (.iload_n 2, 1) := dk_28 (dk_at dksX1_laysPath_1 7 rfl rfl)
theorem dX1_laysPath_30 : decode cX1_laysPath 30 = .ok (.if_icmp .ne 17, 3) := dk_160 0 17 (dk_at dksX1_laysPath_1 8 rfl rfl)
theorem dX1_laysPath_33 : decode cX1_laysPath 33 = .ok (.iload 4, 2) := dk_21 4 (dk_at dksX1_laysPath_1 11 rfl rfl)
theorem dX1_laysPath_35 : decode cX1_laysPath 35 = .ok (.iload_n 1, 1) := dk_27 (dk_at dksX1_laysPath_1 13 rfl rfl)
theorem dX1_laysPath_36 : decode cX1_laysPath 36 = .ok (.if_icmp .ne 7, 3) := dk_160 0 7 (dk_at dksX1_laysPath_1 14 rfl rfl)
theorem dX1_laysPath_39 : decode cX1_laysPath 39 = .ok (.iconst 1, 1) := dk_4 (dk_at dksX1_laysPath_1 17 rfl rfl)
theorem dX1_laysPath_40 : decode cX1_laysPath 40 = .ok (.goto 23, 3) := dk_167 0 23 (dk_at dksX1_laysPath_1 18 rfl rfl)
theorem dX1_laysPath_43 : decode cX1_laysPath 43 = .ok (.iconst 0, 1) := dk_3 (dk_at dksX1_laysPath_1 21 rfl rfl)
theorem dX1_laysPath_44 : decode cX1_laysPath 44 = .ok (.goto 19, 3) := dk_167 0 19 (dk_at dksX1_laysPath_2 0 rfl rfl)
theorem dX1_laysPath_47 : decode cX1_laysPath 47 = .ok (.aload_n 0, 1) := dk_42 (dk_at dksX1_laysPath_2 3 rfl rfl)
theorem dX1_laysPath_48 : decode cX1_laysPath 48 = .ok (.iconst 0, 1) := dk_3 (dk_at dksX1_laysPath_2 4 rfl rfl)
theorem dX1_laysPath_49 : decode cX1_laysPath 49 = .ok (.iconst 0, 1) := dk_3 (dk_at dksX1_laysPath_2 5 rfl rfl)
theorem dX1_laysPath_50 : decode cX1_laysPath 50 = .ok (.iload_n 3, 1) := dk_29 (dk_at dksX1_laysPath_2 6 rfl rfl)
theorem dX1_laysPath_51 : decode cX1_laysPath 51 = .ok (.invokevirtual 319, 3) := dk_182 1 63 (dk_at dksX1_laysPath_2 7 rfl rfl)
theorem dX1_laysPath_54 : decode cX1_laysPath 54 = .ok (.iconst (-1), 1) := dk_2 (dk_at dksX1_laysPath_2 10 rfl rfl)
theorem dX1_laysPath_55 : decode cX1_laysPath 55 = .ok (.if_icmp .eq 7, 3) := dk_159 0 7 (dk_at dksX1_laysPath_2 11 rfl rfl)
theorem dX1_laysPath_58 : decode cX1_laysPath 58 = .ok (.iconst 1, 1) := dk_4 (dk_at dksX1_laysPath_2 14 rfl rfl)
theorem dX1_laysPath_59 : decode cX1_laysPath 59 = .ok (.goto 4, 3) := dk_167 0 4 (dk_at dksX1_laysPath_2 15 rfl rfl)
theorem dX1_laysPath_62 : decode cX1_laysPath 62 = .ok (.iconst 0, 1) := dk_3 (dk_at dksX1_laysPath_2 18 rfl rfl)
theorem dX1_laysPath_63 : decode cX1_laysPath 63 = .ok (.istore 5, 2) := dk_54 5 (dk_at dksX1_laysPath_2 19 rfl rfl)
theorem dX1_laysPath_65 : decode cX1_laysPath 65 = .ok (.aload_n 0, 1) := dk_42 (dk_at dksX1_laysPath_2 21 rfl rfl)
theorem dX1_laysPath_66 : decode cX1_laysPath 66 = .ok (.getfield 65, 3) := dk_180 0 65 (dk_at dksX1_laysPath_3 0 rfl rfl)
theorem dX1_laysPath_69 : decode cX1_laysPath 69 = .ok (.sipush 1000, 3) := dk_17 3 232 (dk_at dksX1_laysPath_3 3 rfl rfl)
theorem dX1_laysPath_72 : decode cX1_laysPath 72 = .ok (.iload_n 3, 1) := dk_29 (dk_at dksX1_laysPath_3 6 rfl rfl)
theorem dX1_laysPath_73 : decode cX1_laysPath 73 = .ok (.imul, 1) := dk_104 (dk_at dksX1_laysPath_3 7 rfl rfl)
theorem dX1_laysPath_74 : decode cX1_laysPath 74 = .ok (.iload 4, 2) := dk_21 4 (dk_at dksX1_laysPath_3 8 rfl rfl)
theorem dX1_laysPath_76 : decode cX1_laysPath 76 = .ok (.iadd, 1) := dk_96 (dk_at dksX1_laysPath_3 10 rfl rfl)
theorem dX1_laysPath_77 : decode cX1_laysPath 77 = .ok (.iload 5, 2) := dk_21 5 (dk_at dksX1_laysPath_3 11 rfl rfl)
theorem dX1_laysPath_79 : decode cX1_laysPath 79 = .ok (.ifCond .eq 23, 3) := dk_153 0 23 (dk_at dksX1_laysPath_3 13 rfl rfl)
theorem dX1_laysPath_82 : decode cX1_laysPath 82 = .ok (.aload_n 0, 1) := dk_42 (dk_at dksX1_laysPath_3 16 rfl rfl)
theorem dX1_laysPath_83 : decode cX1_laysPath 83 = .ok (.getfield 58, 3) := dk_180 0 58 (dk_at dksX1_laysPath_3 17 rfl rfl)
theorem dX1_laysPath_86 : decode cX1_laysPath 86 = .ok (.sipush 1000, 3) := dk_17 3 232 (dk_at dksX1_laysPath_3 20 rfl rfl)
theorem dX1_laysPath_89 : decode cX1_laysPath 89 = .ok (.iload_n 3, 1) := dk_29 (dk_at dksX1_laysPath_3 23 rfl rfl)
theorem dX1_laysPath_90 : decode cX1_laysPath 90 = .ok (.imul, 1) := dk_104 (dk_at dksX1_laysPath_4 0 rfl rfl)
theorem dX1_laysPath_91 : decode cX1_laysPath 91 = .ok (.iload 4, 2) := dk_21 4 (dk_at dksX1_laysPath_4 1 rfl rfl)
theorem dX1_laysPath_93 : decode cX1_laysPath 93 = .ok (.iadd, 1) := dk_96 (dk_at dksX1_laysPath_4 3 rfl rfl)
theorem dX1_laysPath_94 : decode cX1_laysPath 94 = .ok (.baload, 1) := dk_51 (dk_at dksX1_laysPath_4 4 rfl rfl)
theorem dX1_laysPath_95 : decode cX1_laysPath 95 = .ok (.ifCond .eq 7, 3) := dk_153 0 7 (dk_at dksX1_laysPath_4 5 rfl rfl)
theorem dX1_laysPath_98 : decode cX1_laysPath 98 = .ok (.iconst 1, 1) := dk_4 (dk_at dksX1_laysPath_4 8 rfl rfl)
theorem dX1_laysPath_99 : decode cX1_laysPath 99 = .ok (.goto 4, 3) := dk_167 0 4 (dk_at dksX1_laysPath_4 9 rfl rfl)
theorem dX1_laysPath_102 : decode cX1_laysPath 102 = .ok (.iconst 0, 1) := dk_3 (dk_at dksX1_laysPath_4 12 rfl rfl)
theorem dX1_laysPath_103 : decode cX1_laysPath 103 = .ok (.bastore, 1) := dk_84 (dk_at dksX1_laysPath_4 13 rfl rfl)
theorem dX1_laysPath_104 : decode cX1_laysPath 104 = .ok (.iinc 4 1, 3) := dk_132 4 1 (dk_at dksX1_laysPath_4 14 rfl rfl)
theorem dX1_laysPath_107 : decode cX1_laysPath 107 = .ok (.goto (-98), 3) := dk_167 255 158 (dk_at dksX1_laysPath_4 17 rfl rfl)
theorem dX1_laysPath_110 : decode cX1_laysPath 110 = .ok (.iinc 3 (-1), 3) := dk_132 3 255 (dk_at dksX1_laysPath_4 20 rfl rfl)
theorem dX1_laysPath_113 : decode cX1_laysPath 113 = .ok (.goto (-111), 3) := dk_167 255 145 (dk_at dksX1_laysPath_5 0 rfl rfl)
theorem dX1_laysPath_116 : decode cX1_laysPath 116 = .ok (.iconst 0, 1) := dk_3 (dk_at dksX1_laysPath_5 3 rfl rfl)
theorem dX1_laysPath_117 : decode cX1_laysPath 117 = .ok (.istore_n 3, 1) := dk_62 (dk_at dksX1_laysPath_5 4 rfl rfl)
theorem dX1_laysPath_118 : decode cX1_laysPath 118 = .ok (.iload_n 3, 1) := dk_29 (dk_at dksX1_laysPath_5 5 rfl rfl)
theorem dX1_laysPath_119 : decode cX1_laysPath 119 = .ok (.aload_n 0, 1) := dk_42 (dk_at dksX1_laysPath_5 6 rfl rfl)
theorem dX1_laysPath_120 : decode cX1_laysPath 120 = .ok (.getfield 68, 3) := dk_180 0 68 (dk_at dksX1_laysPath_5 7 rfl rfl)
theorem dX1_laysPath_123 : decode cX1_laysPath 123 = .ok (.arraylength, 1) := dk_190 (dk_at dksX1_laysPath_5 10 rfl rfl)
theorem dX1_laysPath_124 : decode cX1_laysPath 124 = .ok (.if_icmp .ge 16, 3) := dk_162 0 16 (dk_at dksX1_laysPath_5 11 rfl rfl)
theorem dX1_laysPath_127 : decode cX1_laysPath 127 = .ok (.aload_n 0, 1) := dk_42 (dk_at dksX1_laysPath_5 14 rfl rfl)
theorem dX1_laysPath_128 : decode cX1_laysPath 128 = .ok (.getfield 68, 3) := dk_180 0 68 (dk_at dksX1_laysPath_5 15 rfl rfl)
theorem dX1_laysPath_131 : decode cX1_laysPath 131 = .ok (.iload_n 3, 1) := dk_29 (dk_at dksX1_laysPath_5 18 rfl rfl)
theorem dX1_laysPath_132 : decode cX1_laysPath 132 = .ok (.iconst (-1), 1) := dk_2 (dk_at dksX1_laysPath_5 19 rfl rfl)
theorem dX1_laysPath_133 : decode cX1_laysPath 133 = .ok (.iastore, 1) := dk_79 (dk_at dksX1_laysPath_5 20 rfl rfl)
theorem dX1_laysPath_134 : decode cX1_laysPath 134 = .ok (.iinc 3 1, 3) := dk_132 3 1 (dk_at dksX1_laysPath_5 21 rfl rfl)
theorem dX1_laysPath_137 : decode cX1_laysPath 137 = .ok (.goto (-19), 3) := dk_167 255 237 (dk_at dksX1_laysPath_6 0 rfl rfl)
theorem dX1_laysPath_140 : decode cX1_laysPath 140 = .ok (.aload_n 0, 1) := dk_42 (dk_at dksX1_laysPath_6 3 rfl rfl)
theorem dX1_laysPath_141 : decode cX1_laysPath 141 = .ok (.invokevirtual 304, 3) := dk_182 1 48 (dk_at dksX1_laysPath_6 4 rfl rfl)
theorem dX1_laysPath_144 : decode cX1_laysPath 144 = .ok (.istore_n 3, 1) := dk_62 (dk_at dksX1_laysPath_6 7 rfl rfl)
theorem dX1_laysPath_145 : decode cX1_laysPath 145 = .ok (.iconst 0, 1) := dk_3 (dk_at dksX1_laysPath_6 8 rfl rfl)
theorem dX1_laysPath_146 : decode cX1_laysPath 146 = .ok (.istore 4, 2) := dk_54 4 (dk_at dksX1_laysPath_6 9 rfl rfl)
theorem dX1_laysPath_148 : decode cX1_laysPath 148 = .ok (.iload 4, 2) := dk_21 4 (dk_at dksX1_laysPath_6 11 rfl rfl)
theorem dX1_laysPath_150 : decode cX1_laysPath 150 = .ok (.iload_n 2, 1) := dk_28 (dk_at dksX1_laysPath_6 13 rfl rfl)
theorem dX1_laysPath_151 : decode cX1_laysPath 151 = .ok (.if_icmp .gt 80, 3) := dk_163 0 80 (dk_at dksX1_laysPath_6 14 rfl rfl)
theorem dX1_laysPath_154 : decode cX1_laysPath 154 = .ok (.aload_n 0, 1) := dk_42 (dk_at dksX1_laysPath_6 17 rfl rfl)
theorem dX1_laysPath_155 : decode cX1_laysPath 155 = .ok (.iload_n 3, 1) := dk_29 (dk_at dksX1_laysPath_6 18 rfl rfl)
theorem dX1_laysPath_156 : decode cX1_laysPath 156 = .ok (.aload_n 0, 1) := dk_42 (dk_at dksX1_laysPath_6 19 rfl rfl)
theorem dX1_laysPath_157 : decode cX1_laysPath 157 = .ok (.getfield 52, 3) := dk_180 0 52 (dk_at dksX1_laysPath_6 20 rfl rfl)
theorem dX1_laysPath_160 : decode cX1_laysPath 160 = .ok (.invokevirtual 297, 3) := dk_182 1 41 (dk_at dksX1_laysPath_7 0 rfl rfl)
theorem dX1_laysPath_163 : decode cX1_laysPath 163 = .ok (.iconst 0, 1) := dk_3 (dk_at dksX1_laysPath_7 3 rfl rfl)
theorem dX1_laysPath_164 : decode cX1_laysPath 164 = .ok (.istore 5, 2) := dk_54 5 (dk_at dksX1_laysPath_7 4 rfl rfl)
theorem dX1_laysPath_166 : decode cX1_laysPath 166 = .ok (.iload 5, 2) := dk_21 5 (dk_at dksX1_laysPath_7 6 rfl rfl)
theorem dX1_laysPath_168 : decode cX1_laysPath 168 = .ok (.aload_n 0, 1) := dk_42 (dk_at dksX1_laysPath_7 8 rfl rfl)
theorem dX1_laysPath_169 : decode cX1_laysPath 169 = .ok (.getfield 287, 3) := dk_180 1 31 (dk_at dksX1_laysPath_7 9 rfl rfl)
theorem dX1_laysPath_172 : decode cX1_laysPath 172 = .ok (.if_icmp .ge 34, 3) := dk_162 0 34 (dk_at dksX1_laysPath_7 12 rfl rfl)
theorem dX1_laysPath_175 : decode cX1_laysPath 175 = .ok (.aload_n 0, 1) := dk_42 (dk_at dksX1_laysPath_7 15 rfl rfl)
theorem dX1_laysPath_176 : decode cX1_laysPath 176 = .ok (.getfield 68, 3) := dk_180 0 68 (dk_at dksX1_laysPath_7 16 rfl rfl)
theorem dX1_laysPath_179 : decode cX1_laysPath 179 = .ok (.bipush 31, 2) := dk_16 31 (dk_at dksX1_laysPath_7 19 rfl rfl)
theorem dX1_laysPath_181 : decode cX1_laysPath 181 = .ok (.aload_n 0, 1) := dk_42 (dk_at dksX1_laysPath_7 21 rfl rfl)
theorem dX1_laysPath_182 : decode cX1_laysPath 182 = .ok (.getfield 49, 3) := dk_180 0 49 (dk_at dksX1_laysPath_8 0 rfl rfl)
theorem dX1_laysPath_185 : decode cX1_laysPath 185 = .ok (.iload 5, 2) := dk_21 5 (dk_at dksX1_laysPath_8 3 rfl rfl)
theorem dX1_laysPath_187 : decode cX1_laysPath 187 = .ok (.iaload, 1) := dk_46 (dk_at dksX1_laysPath_8 5 rfl rfl)
theorem dX1_laysPath_188 : decode cX1_laysPath 188 = .ok (.imul, 1) := dk_104 (dk_at dksX1_laysPath_8 6 rfl rfl)
theorem dX1_laysPath_189 : decode cX1_laysPath 189 = .ok (.iload 4, 2) := dk_21 4 (dk_at dksX1_laysPath_8 7 rfl rfl)
theorem dX1_laysPath_191 : decode cX1_laysPath 191 = .ok (.iadd, 1) := dk_96 (dk_at dksX1_laysPath_8 9 rfl rfl)
theorem dX1_laysPath_192 : decode cX1_laysPath 192 = .ok (.aload_n 0, 1) := dk_42 (dk_at dksX1_laysPath_8 10 rfl rfl)
theorem dX1_laysPath_193 : decode cX1_laysPath 193 = .ok (.getfield 52, 3) := dk_180 0 52 (dk_at dksX1_laysPath_8 11 rfl rfl)
theorem dX1_laysPath_196 : decode cX1_laysPath 196 = .ok (.iload 5, 2) := dk_21 5 (dk_at dksX1_laysPath_8 14 rfl rfl)
theorem dX1_laysPath_198 : decode cX1_laysPath 198 = .ok (.iaload, 1) := dk_46 (dk_at dksX1_laysPath_8 16 rfl rfl)
theorem dX1_laysPath_199 : decode cX1_laysPath 199 = .ok (.iastore, 1) := dk_79 (dk_at dksX1_laysPath_8 17 rfl rfl)
theorem dX1_laysPath_200 : decode cX1_laysPath 200 = .ok (.iinc 5 1, 3) := dk_132 5 1 (dk_at dksX1_laysPath_8 18 rfl rfl)
theorem dX1_laysPath_203 : decode cX1_laysPath 203 = .ok (.goto (-37), 3) := dk_167 255 219 (dk_at dksX1_laysPath_8 21 rfl rfl)
theorem dX1_laysPath_206 : decode cX1_laysPath 206 = .ok (.iload 4, 2) := dk_21 4 (dk_at dksX1_laysPath_9 0 rfl rfl)
theorem dX1_laysPath_208 : decode cX1_laysPath 208 = .ok (.iload_n 2, 1) := dk_28 (dk_at dksX1_laysPath_9 2 rfl rfl)
theorem dX1_laysPath_209 : decode cX1_laysPath 209 = .ok (.if_icmp .ne 7, 3) := dk_160 0 7 (dk_at dksX1_laysPath_9 3 rfl rfl)
theorem dX1_laysPath_212 : decode cX1_laysPath 212 = .ok (.iload_n 3, 1) := dk_29 (dk_at dksX1_laysPath_9 6 rfl rfl)
theorem dX1_laysPath_213 : decode cX1_laysPath 213 = .ok (.goto 11, 3) := dk_167 0 11 (dk_at dksX1_laysPath_9 7 rfl rfl)
theorem dX1_laysPath_216 : decode cX1_laysPath 216 = .ok (.aload_n 0, 1) := dk_42 (dk_at dksX1_laysPath_9 10 rfl rfl)
theorem dX1_laysPath_217 : decode cX1_laysPath 217 = .ok (.iconst 0, 1) := dk_3 (dk_at dksX1_laysPath_9 11 rfl rfl)
theorem dX1_laysPath_218 : decode cX1_laysPath 218 = .ok (.iconst 0, 1) := dk_3 (dk_at dksX1_laysPath_9 12 rfl rfl)
theorem dX1_laysPath_219 : decode cX1_laysPath 219 = .ok (.iload 4, 2) := dk_21 4 (dk_at dksX1_laysPath_9 13 rfl rfl)
theorem dX1_laysPath_221 : decode cX1_laysPath 221 = .ok (.invokevirtual 319, 3) := dk_182 1 63 (dk_at dksX1_laysPath_9 15 rfl rfl)
theorem dX1_laysPath_224 : decode cX1_laysPath 224 = .ok (.istore_n 3, 1) := dk_62 (dk_at dksX1_laysPath_9 18 rfl rfl)
theorem dX1_laysPath_225 : decode cX1_laysPath 225 = .ok (.iinc 4 1, 3) := dk_132 4 1 (dk_at dksX1_laysPath_9 19 rfl rfl)
theorem dX1_laysPath_228 : decode cX1_laysPath 228 = .ok (.goto (-80), 3) := dk_167 255 176 (dk_at dksX1_laysPath_10 0 rfl rfl)
theorem dX1_laysPath_231 : decode cX1_laysPath 231 = .ok (.aload_n 0, 1) := dk_42 (dk_at dksX1_laysPath_10 3 rfl rfl)
theorem dX1_laysPath_232 : decode cX1_laysPath 232 = .ok (.iload_n 2, 1) := dk_28 (dk_at dksX1_laysPath_10 4 rfl rfl)
theorem dX1_laysPath_233 : decode cX1_laysPath 233 = .ok (.putfield 71, 3) := dk_181 0 71 (dk_at dksX1_laysPath_10 5 rfl rfl)
theorem dX1_laysPath_236 : decode cX1_laysPath 236 = .ok (.return_, 1) := dk_177 (dk_at dksX1_laysPath_10 8 rfl rfl)
abbrev cX1_firstHome : ByteArray := prog_1_method_63_code
def yX1_firstHome : MethodName := ⟨RX1, "firstHome", "(III)I"⟩
def dkwX1_firstHome_4 : List UInt8 := [54, 4, 132, 5, 1, 167, 255, 195, 21, 4, 172]
abbrev dktX1_firstHome_4 : List UInt8 := dkwX1_firstHome_4 ++ []
def dkwX1_firstHome_3 : List UInt8 := [153, 0, 25, 42, 27, 4, 96, 28, 42, 180, 0, 109, 180, 0, 150, 104, 21, 5, 96, 29, 182, 1, 63]
abbrev dktX1_firstHome_3 : List UInt8 := dkwX1_firstHome_3 ++ dktX1_firstHome_4
def dkwX1_firstHome_2 : List UInt8 := [162, 0, 55, 21, 4, 2, 160, 0, 49, 42, 180, 0, 109, 42, 180, 0, 52, 27, 46, 21, 5, 182, 0, 228]
abbrev dktX1_firstHome_2 : List UInt8 := dkwX1_firstHome_2 ++ dktX1_firstHome_3
def dkwX1_firstHome_1 : List UInt8 := [153, 0, 7, 28, 167, 0, 4, 2, 172, 2, 54, 4, 3, 54, 5, 21, 5, 42, 180, 0, 109, 180, 0, 150]
abbrev dktX1_firstHome_1 : List UInt8 := dkwX1_firstHome_1 ++ dktX1_firstHome_2
def dkwX1_firstHome_0 : List UInt8 := [27, 42, 180, 1, 31, 160, 0, 26, 42, 180, 0, 65, 17, 3, 232, 29, 4, 96, 104, 28, 96, 51]
abbrev dktX1_firstHome_0 : List UInt8 := dkwX1_firstHome_0 ++ dktX1_firstHome_1
theorem dksX1_firstHome_0 : cX1_firstHome.data.toList.drop 0 = dktX1_firstHome_0 := by decide +kernel
theorem dksX1_firstHome_1 : cX1_firstHome.data.toList.drop 22 = dktX1_firstHome_1 := dk_seg dksX1_firstHome_0 22 rfl rfl
theorem dksX1_firstHome_2 : cX1_firstHome.data.toList.drop 46 = dktX1_firstHome_2 := dk_seg dksX1_firstHome_1 24 rfl rfl
theorem dksX1_firstHome_3 : cX1_firstHome.data.toList.drop 70 = dktX1_firstHome_3 := dk_seg dksX1_firstHome_2 24 rfl rfl
theorem dksX1_firstHome_4 : cX1_firstHome.data.toList.drop 93 = dktX1_firstHome_4 := dk_seg dksX1_firstHome_3 23 rfl rfl
theorem dX1_firstHome_0 : decode cX1_firstHome 0 = .ok (.iload_n 1, 1) := dk_27 (dk_at dksX1_firstHome_0 0 rfl rfl)
theorem dX1_firstHome_1 : decode cX1_firstHome 1 = .ok (.aload_n 0, 1) := dk_42 (dk_at dksX1_firstHome_0 1 rfl rfl)
theorem dX1_firstHome_2 : decode cX1_firstHome 2 = .ok (.getfield 287, 3) := dk_180 1 31 (dk_at dksX1_firstHome_0 2 rfl rfl)
theorem dX1_firstHome_5 : decode cX1_firstHome 5 = .ok (.if_icmp .ne 26, 3) := dk_160 0 26 (dk_at dksX1_firstHome_0 5 rfl rfl)
theorem dX1_firstHome_8 : decode cX1_firstHome 8 = .ok (.aload_n 0, 1) := dk_42 (dk_at dksX1_firstHome_0 8 rfl rfl)
theorem dX1_firstHome_9 : decode cX1_firstHome 9 = .ok (.getfield 65, 3) := dk_180 0 65 (dk_at dksX1_firstHome_0 9 rfl rfl)
theorem dX1_firstHome_12 : decode cX1_firstHome 12 = .ok (.sipush 1000, 3) := dk_17 3 232 (dk_at dksX1_firstHome_0 12 rfl rfl)
theorem dX1_firstHome_15 : decode cX1_firstHome 15 = .ok (.iload_n 3, 1) := dk_29 (dk_at dksX1_firstHome_0 15 rfl rfl)
theorem dX1_firstHome_16 : decode cX1_firstHome 16 = .ok (.iconst 1, 1) := dk_4 (dk_at dksX1_firstHome_0 16 rfl rfl)
theorem dX1_firstHome_17 : decode cX1_firstHome 17 = .ok (.iadd, 1) := dk_96 (dk_at dksX1_firstHome_0 17 rfl rfl)
theorem dX1_firstHome_18 : decode cX1_firstHome 18 = .ok (.imul, 1) := dk_104 (dk_at dksX1_firstHome_0 18 rfl rfl)
theorem dX1_firstHome_19 : decode cX1_firstHome 19 = .ok (.iload_n 2, 1) := dk_28 (dk_at dksX1_firstHome_0 19 rfl rfl)
theorem dX1_firstHome_20 : decode cX1_firstHome 20 = .ok (.iadd, 1) := dk_96 (dk_at dksX1_firstHome_0 20 rfl rfl)
theorem dX1_firstHome_21 : decode cX1_firstHome 21 = .ok (.baload, 1) := dk_51 (dk_at dksX1_firstHome_0 21 rfl rfl)
theorem dX1_firstHome_22 : decode cX1_firstHome 22 = .ok (.ifCond .eq 7, 3) := dk_153 0 7 (dk_at dksX1_firstHome_1 0 rfl rfl)
theorem dX1_firstHome_25 : decode cX1_firstHome 25 = .ok (.iload_n 2, 1) := dk_28 (dk_at dksX1_firstHome_1 3 rfl rfl)
theorem dX1_firstHome_26 : decode cX1_firstHome 26 = .ok (.goto 4, 3) := dk_167 0 4 (dk_at dksX1_firstHome_1 4 rfl rfl)
theorem dX1_firstHome_29 : decode cX1_firstHome 29 = .ok (.iconst (-1), 1) := dk_2 (dk_at dksX1_firstHome_1 7 rfl rfl)
theorem dX1_firstHome_30 : decode cX1_firstHome 30 = .ok (.ireturn, 1) := dk_172 (dk_at dksX1_firstHome_1 8 rfl rfl)
theorem dX1_firstHome_31 : decode cX1_firstHome 31 = .ok (.iconst (-1), 1) := dk_2 (dk_at dksX1_firstHome_1 9 rfl rfl)
theorem dX1_firstHome_32 : decode cX1_firstHome 32 = .ok (.istore 4, 2) := dk_54 4 (dk_at dksX1_firstHome_1 10 rfl rfl)
theorem dX1_firstHome_34 : decode cX1_firstHome 34 = .ok (.iconst 0, 1) := dk_3 (dk_at dksX1_firstHome_1 12 rfl rfl)
theorem dX1_firstHome_35 : decode cX1_firstHome 35 = .ok (.istore 5, 2) := dk_54 5 (dk_at dksX1_firstHome_1 13 rfl rfl)
theorem dX1_firstHome_37 : decode cX1_firstHome 37 = .ok (.iload 5, 2) := dk_21 5 (dk_at dksX1_firstHome_1 15 rfl rfl)
theorem dX1_firstHome_39 : decode cX1_firstHome 39 = .ok (.aload_n 0, 1) := dk_42 (dk_at dksX1_firstHome_1 17 rfl rfl)
theorem dX1_firstHome_40 : decode cX1_firstHome 40 = .ok (.getfield 109, 3) := dk_180 0 109 (dk_at dksX1_firstHome_1 18 rfl rfl)
theorem dX1_firstHome_43 : decode cX1_firstHome 43 = .ok (.getfield 150, 3) := dk_180 0 150 (dk_at dksX1_firstHome_1 21 rfl rfl)
theorem dX1_firstHome_46 : decode cX1_firstHome 46 = .ok (.if_icmp .ge 55, 3) := dk_162 0 55 (dk_at dksX1_firstHome_2 0 rfl rfl)
theorem dX1_firstHome_49 : decode cX1_firstHome 49 = .ok (.iload 4, 2) := dk_21 4 (dk_at dksX1_firstHome_2 3 rfl rfl)
theorem dX1_firstHome_51 : decode cX1_firstHome 51 = .ok (.iconst (-1), 1) := dk_2 (dk_at dksX1_firstHome_2 5 rfl rfl)
theorem dX1_firstHome_52 : decode cX1_firstHome 52 = .ok (.if_icmp .ne 49, 3) := dk_160 0 49 (dk_at dksX1_firstHome_2 6 rfl rfl)
theorem dX1_firstHome_55 : decode cX1_firstHome 55 = .ok (.aload_n 0, 1) := dk_42 (dk_at dksX1_firstHome_2 9 rfl rfl)
theorem dX1_firstHome_56 : decode cX1_firstHome 56 = .ok (.getfield 109, 3) := dk_180 0 109 (dk_at dksX1_firstHome_2 10 rfl rfl)
theorem dX1_firstHome_59 : decode cX1_firstHome 59 = .ok (.aload_n 0, 1) := dk_42 (dk_at dksX1_firstHome_2 13 rfl rfl)
theorem dX1_firstHome_60 : decode cX1_firstHome 60 = .ok (.getfield 52, 3) := dk_180 0 52 (dk_at dksX1_firstHome_2 14 rfl rfl)
theorem dX1_firstHome_63 : decode cX1_firstHome 63 = .ok (.iload_n 1, 1) := dk_27 (dk_at dksX1_firstHome_2 17 rfl rfl)
theorem dX1_firstHome_64 : decode cX1_firstHome 64 = .ok (.iaload, 1) := dk_46 (dk_at dksX1_firstHome_2 18 rfl rfl)
theorem dX1_firstHome_65 : decode cX1_firstHome 65 = .ok (.iload 5, 2) := dk_21 5 (dk_at dksX1_firstHome_2 19 rfl rfl)
theorem dX1_firstHome_67 : decode cX1_firstHome 67 = .ok (.invokevirtual 228, 3) := dk_182 0 228 (dk_at dksX1_firstHome_2 21 rfl rfl)
theorem dX1_firstHome_70 : decode cX1_firstHome 70 = .ok (.ifCond .eq 25, 3) := dk_153 0 25 (dk_at dksX1_firstHome_3 0 rfl rfl)
theorem dX1_firstHome_73 : decode cX1_firstHome 73 = .ok (.aload_n 0, 1) := dk_42 (dk_at dksX1_firstHome_3 3 rfl rfl)
theorem dX1_firstHome_74 : decode cX1_firstHome 74 = .ok (.iload_n 1, 1) := dk_27 (dk_at dksX1_firstHome_3 4 rfl rfl)
theorem dX1_firstHome_75 : decode cX1_firstHome 75 = .ok (.iconst 1, 1) := dk_4 (dk_at dksX1_firstHome_3 5 rfl rfl)
theorem dX1_firstHome_76 : decode cX1_firstHome 76 = .ok (.iadd, 1) := dk_96 (dk_at dksX1_firstHome_3 6 rfl rfl)
theorem dX1_firstHome_77 : decode cX1_firstHome 77 = .ok (.iload_n 2, 1) := dk_28 (dk_at dksX1_firstHome_3 7 rfl rfl)
theorem dX1_firstHome_78 : decode cX1_firstHome 78 = .ok (.aload_n 0, 1) := dk_42 (dk_at dksX1_firstHome_3 8 rfl rfl)
theorem dX1_firstHome_79 : decode cX1_firstHome 79 = .ok (.getfield 109, 3) := dk_180 0 109 (dk_at dksX1_firstHome_3 9 rfl rfl)
theorem dX1_firstHome_82 : decode cX1_firstHome 82 = .ok (.getfield 150, 3) := dk_180 0 150 (dk_at dksX1_firstHome_3 12 rfl rfl)
theorem dX1_firstHome_85 : decode cX1_firstHome 85 = .ok (.imul, 1) := dk_104 (dk_at dksX1_firstHome_3 15 rfl rfl)
theorem dX1_firstHome_86 : decode cX1_firstHome 86 = .ok (.iload 5, 2) := dk_21 5 (dk_at dksX1_firstHome_3 16 rfl rfl)
theorem dX1_firstHome_88 : decode cX1_firstHome 88 = .ok (.iadd, 1) := dk_96 (dk_at dksX1_firstHome_3 18 rfl rfl)
theorem dX1_firstHome_89 : decode cX1_firstHome 89 = .ok (.iload_n 3, 1) := dk_29 (dk_at dksX1_firstHome_3 19 rfl rfl)
theorem dX1_firstHome_90 : decode cX1_firstHome 90 = .ok (.invokevirtual 319, 3) := dk_182 1 63 (dk_at dksX1_firstHome_3 20 rfl rfl)
theorem dX1_firstHome_93 : decode cX1_firstHome 93 = .ok (.istore 4, 2) := dk_54 4 (dk_at dksX1_firstHome_4 0 rfl rfl)
theorem dX1_firstHome_95 : decode cX1_firstHome 95 = .ok (.iinc 5 1, 3) := dk_132 5 1 (dk_at dksX1_firstHome_4 2 rfl rfl)
theorem dX1_firstHome_98 : decode cX1_firstHome 98 = .ok (.goto (-61), 3) := dk_167 255 195 (dk_at dksX1_firstHome_4 5 rfl rfl)
theorem dX1_firstHome_101 : decode cX1_firstHome 101 = .ok (.iload 4, 2) := dk_21 4 (dk_at dksX1_firstHome_4 8 rfl rfl)
theorem dX1_firstHome_103 : decode cX1_firstHome 103 = .ok (.ireturn, 1) := dk_172 (dk_at dksX1_firstHome_4 10 rfl rfl)
abbrev cX1_path : ByteArray := prog_1_method_65_code
def yX1_path : MethodName := ⟨RX1, "path", "(II)I"⟩
def dkwX1_path_1 : List UInt8 := [16, 31, 27, 104, 28, 96, 46, 167, 0, 4, 2, 172]
abbrev dktX1_path_1 : List UInt8 := dkwX1_path_1 ++ []
def dkwX1_path_0 : List UInt8 := [42, 27, 182, 0, 183, 153, 0, 29, 28, 3, 42, 180, 0, 71, 184, 0, 94, 153, 0, 17, 42, 180, 0, 68]
abbrev dktX1_path_0 : List UInt8 := dkwX1_path_0 ++ dktX1_path_1
theorem dksX1_path_0 : cX1_path.data.toList.drop 0 = dktX1_path_0 := by decide +kernel
theorem dksX1_path_1 : cX1_path.data.toList.drop 24 = dktX1_path_1 := dk_seg dksX1_path_0 24 rfl rfl
theorem dX1_path_0 : decode cX1_path 0 = .ok (.aload_n 0, 1) := dk_42 (dk_at dksX1_path_0 0 rfl rfl)
theorem dX1_path_1 : decode cX1_path 1 = .ok (.iload_n 1, 1) := dk_27 (dk_at dksX1_path_0 1 rfl rfl)
theorem dX1_path_2 : decode cX1_path 2 = .ok (.invokevirtual 183, 3) := dk_182 0 183 (dk_at dksX1_path_0 2 rfl rfl)
theorem dX1_path_5 : decode cX1_path 5 = .ok (.ifCond .eq 29, 3) := dk_153 0 29 (dk_at dksX1_path_0 5 rfl rfl)
theorem dX1_path_8 : decode cX1_path 8 = .ok (.iload_n 2, 1) := dk_28 (dk_at dksX1_path_0 8 rfl rfl)
theorem dX1_path_9 : decode cX1_path 9 = .ok (.iconst 0, 1) := dk_3 (dk_at dksX1_path_0 9 rfl rfl)
theorem dX1_path_10 : decode cX1_path 10 = .ok (.aload_n 0, 1) := dk_42 (dk_at dksX1_path_0 10 rfl rfl)
theorem dX1_path_11 : decode cX1_path 11 = .ok (.getfield 71, 3) := dk_180 0 71 (dk_at dksX1_path_0 11 rfl rfl)
theorem dX1_path_14 : decode cX1_path 14 = .ok (.invokestatic 94, 3) := dk_184 0 94 (dk_at dksX1_path_0 14 rfl rfl)
theorem dX1_path_17 : decode cX1_path 17 = .ok (.ifCond .eq 17, 3) := dk_153 0 17 (dk_at dksX1_path_0 17 rfl rfl)
theorem dX1_path_20 : decode cX1_path 20 = .ok (.aload_n 0, 1) := dk_42 (dk_at dksX1_path_0 20 rfl rfl)
theorem dX1_path_21 : decode cX1_path 21 = .ok (.getfield 68, 3) := dk_180 0 68 (dk_at dksX1_path_0 21 rfl rfl)
theorem dX1_path_24 : decode cX1_path 24 = .ok (.bipush 31, 2) := dk_16 31 (dk_at dksX1_path_1 0 rfl rfl)
theorem dX1_path_26 : decode cX1_path 26 = .ok (.iload_n 1, 1) := dk_27 (dk_at dksX1_path_1 2 rfl rfl)
theorem dX1_path_27 : decode cX1_path 27 = .ok (.imul, 1) := dk_104 (dk_at dksX1_path_1 3 rfl rfl)
theorem dX1_path_28 : decode cX1_path 28 = .ok (.iload_n 2, 1) := dk_28 (dk_at dksX1_path_1 4 rfl rfl)
theorem dX1_path_29 : decode cX1_path 29 = .ok (.iadd, 1) := dk_96 (dk_at dksX1_path_1 5 rfl rfl)
theorem dX1_path_30 : decode cX1_path 30 = .ok (.iaload, 1) := dk_46 (dk_at dksX1_path_1 6 rfl rfl)
theorem dX1_path_31 : decode cX1_path 31 = .ok (.goto 4, 3) := dk_167 0 4 (dk_at dksX1_path_1 7 rfl rfl)
theorem dX1_path_34 : decode cX1_path 34 = .ok (.iconst (-1), 1) := dk_2 (dk_at dksX1_path_1 10 rfl rfl)
theorem dX1_path_35 : decode cX1_path 35 = .ok (.ireturn, 1) := dk_172 (dk_at dksX1_path_1 11 rfl rfl)
abbrev cX1_doing : ByteArray := prog_1_method_67_code
def yX1_doing : MethodName := ⟨RX1, "doing", "(II)I"⟩
def dkwX1_doing_9 : List UInt8 := [132, 5, 1, 167, 255, 117, 16, 254, 172]
abbrev dktX1_doing_9 : List UInt8 := dkwX1_doing_9 ++ []
def dkwX1_doing_8 : List UInt8 := [21, 6, 45, 180, 0, 250, 4, 100, 182, 1, 82, 153, 0, 6, 21, 7, 172, 132, 8, 1, 167, 255, 186]
abbrev dktX1_doing_8 : List UInt8 := dkwX1_doing_8 ++ dktX1_doing_9
def dkwX1_doing_7 : List UInt8 := [21, 8, 182, 1, 51, 45, 180, 0, 237, 180, 0, 241, 46, 45, 180, 0, 244, 160, 0, 23, 42, 21, 8]
abbrev dktX1_doing_7 : List UInt8 := dkwX1_doing_7 ++ dktX1_doing_8
def dkwX1_doing_6 : List UInt8 := [180, 1, 34, 162, 0, 67, 42, 180, 0, 62, 17, 3, 232, 21, 5, 104, 21, 8, 96, 51, 153, 0, 44, 42]
abbrev dktX1_doing_6 : List UInt8 := dkwX1_doing_6 ++ dktX1_doing_7
def dkwX1_doing_5 : List UInt8 := [162, 0, 94, 21, 7, 42, 180, 0, 109, 180, 0, 225, 161, 0, 6, 167, 0, 79, 3, 54, 8, 21, 8, 42]
abbrev dktX1_doing_5 : List UInt8 := dkwX1_doing_5 ++ dktX1_doing_6
def dkwX1_doing_4 : List UInt8 := [180, 0, 250, 96, 4, 100, 54, 7, 21, 6, 45, 180, 0, 231, 161, 0, 103, 21, 7, 45, 180, 0, 235]
abbrev dktX1_doing_4 : List UInt8 := dkwX1_doing_4 ++ dktX1_doing_5
def dkwX1_doing_3 : List UInt8 := [3, 54, 5, 21, 5, 16, 30, 163, 0, 138, 42, 180, 0, 131, 21, 5, 96, 54, 6, 21, 6, 45]
abbrev dktX1_doing_3 : List UInt8 := dkwX1_doing_3 ++ dktX1_doing_4
def dkwX1_doing_2 : List UInt8 := [180, 0, 241, 184, 0, 189, 154, 0, 9, 42, 5, 182, 0, 98, 172, 42, 28, 182, 1, 70, 42, 182, 1, 73]
abbrev dktX1_doing_2 : List UInt8 := dkwX1_doing_2 ++ dktX1_doing_3
def dkwX1_doing_1 : List UInt8 := [180, 1, 3, 27, 50, 78, 42, 28, 6, 182, 1, 67, 54, 4, 21, 4, 154, 0, 17, 28, 45, 180, 0, 237]
abbrev dktX1_doing_1 : List UInt8 := dkwX1_doing_1 ++ dktX1_doing_2
def dkwX1_doing_0 : List UInt8 := [42, 182, 0, 84, 42, 27, 182, 1, 14, 154, 0, 9, 42, 4, 182, 0, 98, 172, 42, 180, 0, 109]
abbrev dktX1_doing_0 : List UInt8 := dkwX1_doing_0 ++ dktX1_doing_1
theorem dksX1_doing_0 : cX1_doing.data.toList.drop 0 = dktX1_doing_0 := by decide +kernel
theorem dksX1_doing_1 : cX1_doing.data.toList.drop 22 = dktX1_doing_1 := dk_seg dksX1_doing_0 22 rfl rfl
theorem dksX1_doing_2 : cX1_doing.data.toList.drop 46 = dktX1_doing_2 := dk_seg dksX1_doing_1 24 rfl rfl
theorem dksX1_doing_3 : cX1_doing.data.toList.drop 70 = dktX1_doing_3 := dk_seg dksX1_doing_2 24 rfl rfl
theorem dksX1_doing_4 : cX1_doing.data.toList.drop 92 = dktX1_doing_4 := dk_seg dksX1_doing_3 22 rfl rfl
theorem dksX1_doing_5 : cX1_doing.data.toList.drop 115 = dktX1_doing_5 := dk_seg dksX1_doing_4 23 rfl rfl
theorem dksX1_doing_6 : cX1_doing.data.toList.drop 139 = dktX1_doing_6 := dk_seg dksX1_doing_5 24 rfl rfl
theorem dksX1_doing_7 : cX1_doing.data.toList.drop 163 = dktX1_doing_7 := dk_seg dksX1_doing_6 24 rfl rfl
theorem dksX1_doing_8 : cX1_doing.data.toList.drop 186 = dktX1_doing_8 := dk_seg dksX1_doing_7 23 rfl rfl
theorem dksX1_doing_9 : cX1_doing.data.toList.drop 209 = dktX1_doing_9 := dk_seg dksX1_doing_8 23 rfl rfl
theorem dX1_doing_0 : decode cX1_doing 0 = .ok (.aload_n 0, 1) := dk_42 (dk_at dksX1_doing_0 0 rfl rfl)
theorem dX1_doing_1 : decode cX1_doing 1 = .ok (.invokevirtual 84, 3) := dk_182 0 84 (dk_at dksX1_doing_0 1 rfl rfl)
theorem dX1_doing_4 : decode cX1_doing 4 = .ok (.aload_n 0, 1) := dk_42 (dk_at dksX1_doing_0 4 rfl rfl)
theorem dX1_doing_5 : decode cX1_doing 5 = .ok (.iload_n 1, 1) := dk_27 (dk_at dksX1_doing_0 5 rfl rfl)
theorem dX1_doing_6 : decode cX1_doing 6 = .ok (.invokevirtual 270, 3) := dk_182 1 14 (dk_at dksX1_doing_0 6 rfl rfl)
theorem dX1_doing_9 : decode cX1_doing 9 = .ok (.ifCond .ne 9, 3) := dk_154 0 9 (dk_at dksX1_doing_0 9 rfl rfl)
theorem dX1_doing_12 : decode cX1_doing 12 = .ok (.aload_n 0, 1) := dk_42 (dk_at dksX1_doing_0 12 rfl rfl)
theorem dX1_doing_13 : decode cX1_doing 13 = .ok (.iconst 1, 1) := dk_4 (dk_at dksX1_doing_0 13 rfl rfl)
theorem dX1_doing_14 : decode cX1_doing 14 = .ok (.invokevirtual 98, 3) := dk_182 0 98 (dk_at dksX1_doing_0 14 rfl rfl)
theorem dX1_doing_17 : decode cX1_doing 17 = .ok (.ireturn, 1) := dk_172 (dk_at dksX1_doing_0 17 rfl rfl)
theorem dX1_doing_18 : decode cX1_doing 18 = .ok (.aload_n 0, 1) := dk_42 (dk_at dksX1_doing_0 18 rfl rfl)
theorem dX1_doing_19 : decode cX1_doing 19 = .ok (.getfield 109, 3) := dk_180 0 109 (dk_at dksX1_doing_0 19 rfl rfl)
theorem dX1_doing_22 : decode cX1_doing 22 = .ok (.getfield 259, 3) := dk_180 1 3 (dk_at dksX1_doing_1 0 rfl rfl)
theorem dX1_doing_25 : decode cX1_doing 25 = .ok (.iload_n 1, 1) := dk_27 (dk_at dksX1_doing_1 3 rfl rfl)
theorem dX1_doing_26 : decode cX1_doing 26 = .ok (.aaload, 1) := dk_50 (dk_at dksX1_doing_1 4 rfl rfl)
theorem dX1_doing_27 : decode cX1_doing 27 = .ok (.astore_n 3, 1) := dk_78 (dk_at dksX1_doing_1 5 rfl rfl)
theorem dX1_doing_28 : decode cX1_doing 28 = .ok (.aload_n 0, 1) := dk_42 (dk_at dksX1_doing_1 6 rfl rfl)
theorem dX1_doing_29 : decode cX1_doing 29 = .ok (.iload_n 2, 1) := dk_28 (dk_at dksX1_doing_1 7 rfl rfl)
theorem dX1_doing_30 : decode cX1_doing 30 = .ok (.iconst 3, 1) := dk_6 (dk_at dksX1_doing_1 8 rfl rfl)
theorem dX1_doing_31 : decode cX1_doing 31 = .ok (.invokevirtual 323, 3) := dk_182 1 67 (dk_at dksX1_doing_1 9 rfl rfl)
theorem dX1_doing_34 : decode cX1_doing 34 = .ok (.istore 4, 2) := dk_54 4 (dk_at dksX1_doing_1 12 rfl rfl)
theorem dX1_doing_36 : decode cX1_doing 36 = .ok (.iload 4, 2) := dk_21 4 (dk_at dksX1_doing_1 14 rfl rfl)
theorem dX1_doing_38 : decode cX1_doing 38 = .ok (.ifCond .ne 17, 3) := dk_154 0 17 (dk_at dksX1_doing_1 16 rfl rfl)
theorem dX1_doing_41 : decode cX1_doing 41 = .ok (.iload_n 2, 1) := dk_28 (dk_at dksX1_doing_1 19 rfl rfl)
theorem dX1_doing_42 : decode cX1_doing 42 = .ok (.aload_n 3, 1) := dk_45 (dk_at dksX1_doing_1 20 rfl rfl)
theorem dX1_doing_43 : decode cX1_doing 43 = .ok (.getfield 237, 3) := dk_180 0 237 (dk_at dksX1_doing_1 21 rfl rfl)
theorem dX1_doing_46 : decode cX1_doing 46 = .ok (.getfield 241, 3) := dk_180 0 241 (dk_at dksX1_doing_2 0 rfl rfl)
theorem dX1_doing_49 : decode cX1_doing 49 = .ok (.invokestatic 189, 3) := dk_184 0 189 (dk_at dksX1_doing_2 3 rfl rfl)
theorem dX1_doing_52 : decode cX1_doing 52 = .ok (.ifCond .ne 9, 3) := dk_154 0 9 (dk_at dksX1_doing_2 6 rfl rfl)
theorem dX1_doing_55 : decode cX1_doing 55 = .ok (.aload_n 0, 1) := dk_42 (dk_at dksX1_doing_2 9 rfl rfl)
theorem dX1_doing_56 : decode cX1_doing 56 = .ok (.iconst 2, 1) := dk_5 (dk_at dksX1_doing_2 10 rfl rfl)
theorem dX1_doing_57 : decode cX1_doing 57 = .ok (.invokevirtual 98, 3) := dk_182 0 98 (dk_at dksX1_doing_2 11 rfl rfl)
theorem dX1_doing_60 : decode cX1_doing 60 = .ok (.ireturn, 1) := dk_172 (dk_at dksX1_doing_2 14 rfl rfl)
theorem dX1_doing_61 : decode cX1_doing 61 = .ok (.aload_n 0, 1) := dk_42 (dk_at dksX1_doing_2 15 rfl rfl)
theorem dX1_doing_62 : decode cX1_doing 62 = .ok (.iload_n 2, 1) := dk_28 (dk_at dksX1_doing_2 16 rfl rfl)
theorem dX1_doing_63 : decode cX1_doing 63 = .ok (.invokevirtual 326, 3) := dk_182 1 70 (dk_at dksX1_doing_2 17 rfl rfl)
theorem dX1_doing_66 : decode cX1_doing 66 = .ok (.aload_n 0, 1) := dk_42 (dk_at dksX1_doing_2 20 rfl rfl)
theorem dX1_doing_67 : decode cX1_doing 67 = .ok (.invokevirtual 329, 3) := dk_182 1 73 (dk_at dksX1_doing_2 21 rfl rfl)
theorem dX1_doing_70 : decode cX1_doing 70 = .ok (.iconst 0, 1) := dk_3 (dk_at dksX1_doing_3 0 rfl rfl)
theorem dX1_doing_71 : decode cX1_doing 71 = .ok (.istore 5, 2) := dk_54 5 (dk_at dksX1_doing_3 1 rfl rfl)
theorem dX1_doing_73 : decode cX1_doing 73 = .ok (.iload 5, 2) := dk_21 5 (dk_at dksX1_doing_3 3 rfl rfl)
theorem dX1_doing_75 : decode cX1_doing 75 = .ok (.bipush 30, 2) := dk_16 30 (dk_at dksX1_doing_3 5 rfl rfl)
theorem dX1_doing_77 : decode cX1_doing 77 = .ok (.if_icmp .gt 138, 3) := dk_163 0 138 (dk_at dksX1_doing_3 7 rfl rfl)
theorem dX1_doing_80 : decode cX1_doing 80 = .ok (.aload_n 0, 1) := dk_42 (dk_at dksX1_doing_3 10 rfl rfl)
theorem dX1_doing_81 : decode cX1_doing 81 = .ok (.getfield 131, 3) := dk_180 0 131 (dk_at dksX1_doing_3 11 rfl rfl)
theorem dX1_doing_84 : decode cX1_doing 84 = .ok (.iload 5, 2) := dk_21 5 (dk_at dksX1_doing_3 14 rfl rfl)
theorem dX1_doing_86 : decode cX1_doing 86 = .ok (.iadd, 1) := dk_96 (dk_at dksX1_doing_3 16 rfl rfl)
theorem dX1_doing_87 : decode cX1_doing 87 = .ok (.istore 6, 2) := dk_54 6 (dk_at dksX1_doing_3 17 rfl rfl)
theorem dX1_doing_89 : decode cX1_doing 89 = .ok (.iload 6, 2) := dk_21 6 (dk_at dksX1_doing_3 19 rfl rfl)
theorem dX1_doing_91 : decode cX1_doing 91 = .ok (.aload_n 3, 1) := dk_45 (dk_at dksX1_doing_3 21 rfl rfl)
theorem dX1_doing_92 : decode cX1_doing 92 = .ok (.getfield 250, 3) := dk_180 0 250 (dk_at dksX1_doing_4 0 rfl rfl)
theorem dX1_doing_95 : decode cX1_doing 95 = .ok (.iadd, 1) := dk_96 (dk_at dksX1_doing_4 3 rfl rfl)
theorem dX1_doing_96 : decode cX1_doing 96 = .ok (.iconst 1, 1) := dk_4 (dk_at dksX1_doing_4 4 rfl rfl)
theorem dX1_doing_97 : decode cX1_doing 97 = .ok (.isub, 1) := dk_100 (dk_at dksX1_doing_4 5 rfl rfl)
theorem dX1_doing_98 : decode cX1_doing 98 = .ok (.istore 7, 2) := dk_54 7 (dk_at dksX1_doing_4 6 rfl rfl)
theorem dX1_doing_100 : decode cX1_doing 100 = .ok (.iload 6, 2) := dk_21 6 (dk_at dksX1_doing_4 8 rfl rfl)
theorem dX1_doing_102 : decode cX1_doing 102 = .ok (.aload_n 3, 1) := dk_45 (dk_at dksX1_doing_4 10 rfl rfl)
theorem dX1_doing_103 : decode cX1_doing 103 = .ok (.getfield 231, 3) := dk_180 0 231 (dk_at dksX1_doing_4 11 rfl rfl)
theorem dX1_doing_106 : decode cX1_doing 106 = .ok (.if_icmp .lt 103, 3) := dk_161 0 103 (dk_at dksX1_doing_4 14 rfl rfl)
theorem dX1_doing_109 : decode cX1_doing 109 = .ok (.iload 7, 2) := dk_21 7 (dk_at dksX1_doing_4 17 rfl rfl)
theorem dX1_doing_111 : decode cX1_doing 111 = .ok (.aload_n 3, 1) := dk_45 (dk_at dksX1_doing_4 19 rfl rfl)
theorem dX1_doing_112 : decode cX1_doing 112 = .ok (.getfield 235, 3) := dk_180 0 235 (dk_at dksX1_doing_4 20 rfl rfl)
theorem dX1_doing_115 : decode cX1_doing 115 = .ok (.if_icmp .ge 94, 3) := dk_162 0 94 (dk_at dksX1_doing_5 0 rfl rfl)
theorem dX1_doing_118 : decode cX1_doing 118 = .ok (.iload 7, 2) := dk_21 7 (dk_at dksX1_doing_5 3 rfl rfl)
theorem dX1_doing_120 : decode cX1_doing 120 = .ok (.aload_n 0, 1) := dk_42 (dk_at dksX1_doing_5 5 rfl rfl)
theorem dX1_doing_121 : decode cX1_doing 121 = .ok (.getfield 109, 3) := dk_180 0 109 (dk_at dksX1_doing_5 6 rfl rfl)
theorem dX1_doing_124 : decode cX1_doing 124 = .ok (.getfield 225, 3) := dk_180 0 225 (dk_at dksX1_doing_5 9 rfl rfl)
theorem dX1_doing_127 : decode cX1_doing 127 = .ok (.if_icmp .lt 6, 3) := dk_161 0 6 (dk_at dksX1_doing_5 12 rfl rfl)
theorem dX1_doing_130 : decode cX1_doing 130 = .ok (.goto 79, 3) := dk_167 0 79 (dk_at dksX1_doing_5 15 rfl rfl)
theorem dX1_doing_133 : decode cX1_doing 133 = .ok (.iconst 0, 1) := dk_3 (dk_at dksX1_doing_5 18 rfl rfl)
theorem dX1_doing_134 : decode cX1_doing 134 = .ok (.istore 8, 2) := dk_54 8 (dk_at dksX1_doing_5 19 rfl rfl)
theorem dX1_doing_136 : decode cX1_doing 136 = .ok (.iload 8, 2) := dk_21 8 (dk_at dksX1_doing_5 21 rfl rfl)
theorem dX1_doing_138 : decode cX1_doing 138 = .ok (.aload_n 0, 1) := dk_42 (dk_at dksX1_doing_5 23 rfl rfl)
theorem dX1_doing_139 : decode cX1_doing 139 = .ok (.getfield 290, 3) := dk_180 1 34 (dk_at dksX1_doing_6 0 rfl rfl)
theorem dX1_doing_142 : decode cX1_doing 142 = .ok (.if_icmp .ge 67, 3) := dk_162 0 67 (dk_at dksX1_doing_6 3 rfl rfl)
theorem dX1_doing_145 : decode cX1_doing 145 = .ok (.aload_n 0, 1) := dk_42 (dk_at dksX1_doing_6 6 rfl rfl)
theorem dX1_doing_146 : decode cX1_doing 146 = .ok (.getfield 62, 3) := dk_180 0 62 (dk_at dksX1_doing_6 7 rfl rfl)
theorem dX1_doing_149 : decode cX1_doing 149 = .ok (.sipush 1000, 3) := dk_17 3 232 (dk_at dksX1_doing_6 10 rfl rfl)
theorem dX1_doing_152 : decode cX1_doing 152 = .ok (.iload 5, 2) := dk_21 5 (dk_at dksX1_doing_6 13 rfl rfl)
theorem dX1_doing_154 : decode cX1_doing 154 = .ok (.imul, 1) := dk_104 (dk_at dksX1_doing_6 15 rfl rfl)
theorem dX1_doing_155 : decode cX1_doing 155 = .ok (.iload 8, 2) := dk_21 8 (dk_at dksX1_doing_6 16 rfl rfl)
theorem dX1_doing_157 : decode cX1_doing 157 = .ok (.iadd, 1) := dk_96 (dk_at dksX1_doing_6 18 rfl rfl)
theorem dX1_doing_158 : decode cX1_doing 158 = .ok (.baload, 1) := dk_51 (dk_at dksX1_doing_6 19 rfl rfl)
theorem dX1_doing_159 : decode cX1_doing 159 = .ok (.ifCond .eq 44, 3) := dk_153 0 44 (dk_at dksX1_doing_6 20 rfl rfl)
theorem dX1_doing_162 : decode cX1_doing 162 = .ok (.aload_n 0, 1) := dk_42 (dk_at dksX1_doing_6 23 rfl rfl)
theorem dX1_doing_163 : decode cX1_doing 163 = .ok (.iload 8, 2) := dk_21 8 (dk_at dksX1_doing_7 0 rfl rfl)
theorem dX1_doing_165 : decode cX1_doing 165 = .ok (.invokevirtual 307, 3) := dk_182 1 51 (dk_at dksX1_doing_7 2 rfl rfl)
theorem dX1_doing_168 : decode cX1_doing 168 = .ok (.aload_n 3, 1) := dk_45 (dk_at dksX1_doing_7 5 rfl rfl)
theorem dX1_doing_169 : decode cX1_doing 169 = .ok (.getfield 237, 3) := dk_180 0 237 (dk_at dksX1_doing_7 6 rfl rfl)
theorem dX1_doing_172 : decode cX1_doing 172 = .ok (.getfield 241, 3) := dk_180 0 241 (dk_at dksX1_doing_7 9 rfl rfl)
theorem dX1_doing_175 : decode cX1_doing 175 = .ok (.iaload, 1) := dk_46 (dk_at dksX1_doing_7 12 rfl rfl)
theorem dX1_doing_176 : decode cX1_doing 176 = .ok (.aload_n 3, 1) := dk_45 (dk_at dksX1_doing_7 13 rfl rfl)
theorem dX1_doing_177 : decode cX1_doing 177 = .ok (.getfield 244, 3) := dk_180 0 244 (dk_at dksX1_doing_7 14 rfl rfl)
theorem dX1_doing_180 : decode cX1_doing 180 = .ok (.if_icmp .ne 23, 3) := dk_160 0 23 (dk_at dksX1_doing_7 17 rfl rfl)
theorem dX1_doing_183 : decode cX1_doing 183 = .ok (.aload_n 0, 1) := dk_42 (dk_at dksX1_doing_7 20 rfl rfl)
theorem dX1_doing_184 : decode cX1_doing 184 = .ok (.iload 8, 2) := dk_21 8 (dk_at dksX1_doing_7 21 rfl rfl)
theorem dX1_doing_186 : decode cX1_doing 186 = .ok (.iload 6, 2) := dk_21 6 (dk_at dksX1_doing_8 0 rfl rfl)
theorem dX1_doing_188 : decode cX1_doing 188 = .ok (.aload_n 3, 1) := dk_45 (dk_at dksX1_doing_8 2 rfl rfl)
theorem dX1_doing_189 : decode cX1_doing 189 = .ok (.getfield 250, 3) := dk_180 0 250 (dk_at dksX1_doing_8 3 rfl rfl)
theorem dX1_doing_192 : decode cX1_doing 192 = .ok (.iconst 1, 1) := dk_4 (dk_at dksX1_doing_8 6 rfl rfl)
theorem dX1_doing_193 : decode cX1_doing 193 = .ok (.isub, 1) := dk_100 (dk_at dksX1_doing_8 7 rfl rfl)
theorem dX1_doing_194 : decode cX1_doing 194 = .ok (.invokevirtual 338, 3) := dk_182 1 82 (dk_at dksX1_doing_8 8 rfl rfl)
theorem dX1_doing_197 : decode cX1_doing 197 = .ok (.ifCond .eq 6, 3) := dk_153 0 6 (dk_at dksX1_doing_8 11 rfl rfl)
theorem dX1_doing_200 : decode cX1_doing 200 = .ok (.iload 7, 2) := dk_21 7 (dk_at dksX1_doing_8 14 rfl rfl)
theorem dX1_doing_202 : decode cX1_doing 202 = .ok (.ireturn, 1) := dk_172 (dk_at dksX1_doing_8 16 rfl rfl)
theorem dX1_doing_203 : decode cX1_doing 203 = .ok (.iinc 8 1, 3) := dk_132 8 1 (dk_at dksX1_doing_8 17 rfl rfl)
theorem dX1_doing_206 : decode cX1_doing 206 = .ok (.goto (-70), 3) := dk_167 255 186 (dk_at dksX1_doing_8 20 rfl rfl)
theorem dX1_doing_209 : decode cX1_doing 209 = .ok (.iinc 5 1, 3) := dk_132 5 1 (dk_at dksX1_doing_9 0 rfl rfl)
theorem dX1_doing_212 : decode cX1_doing 212 = .ok (.goto (-139), 3) := dk_167 255 117 (dk_at dksX1_doing_9 3 rfl rfl)
theorem dX1_doing_215 : decode cX1_doing 215 = .ok (.bipush (-2), 2) := dk_16 254 (dk_at dksX1_doing_9 6 rfl rfl)
theorem dX1_doing_217 : decode cX1_doing 217 = .ok (.ireturn, 1) := dk_172 (dk_at dksX1_doing_9 8 rfl rfl)
abbrev cX1_mayStay : ByteArray := prog_1_method_66_code
def yX1_mayStay : MethodName := ⟨RX1, "mayStay", "(III)Z"⟩
def dkwX1_mayStay_1 : List UInt8 := [21, 5, 96, 182, 0, 221, 54, 4, 132, 5, 1, 167, 255, 227, 21, 4, 172]
abbrev dktX1_mayStay_1 : List UInt8 := dkwX1_mayStay_1 ++ []
def dkwX1_mayStay_0 : List UInt8 := [4, 54, 4, 4, 54, 5, 21, 5, 29, 163, 0, 29, 21, 4, 153, 0, 24, 42, 42, 27, 182, 1, 51, 28]
abbrev dktX1_mayStay_0 : List UInt8 := dkwX1_mayStay_0 ++ dktX1_mayStay_1
theorem dksX1_mayStay_0 : cX1_mayStay.data.toList.drop 0 = dktX1_mayStay_0 := by decide +kernel
theorem dksX1_mayStay_1 : cX1_mayStay.data.toList.drop 24 = dktX1_mayStay_1 := dk_seg dksX1_mayStay_0 24 rfl rfl
theorem dX1_mayStay_0 : decode cX1_mayStay 0 = .ok (.iconst 1, 1) := dk_4 (dk_at dksX1_mayStay_0 0 rfl rfl)
theorem dX1_mayStay_1 : decode cX1_mayStay 1 = .ok (.istore 4, 2) := dk_54 4 (dk_at dksX1_mayStay_0 1 rfl rfl)
theorem dX1_mayStay_3 : decode cX1_mayStay 3 = .ok (.iconst 1, 1) := dk_4 (dk_at dksX1_mayStay_0 3 rfl rfl)
theorem dX1_mayStay_4 : decode cX1_mayStay 4 = .ok (.istore 5, 2) := dk_54 5 (dk_at dksX1_mayStay_0 4 rfl rfl)
theorem dX1_mayStay_6 : decode cX1_mayStay 6 = .ok (.iload 5, 2) := dk_21 5 (dk_at dksX1_mayStay_0 6 rfl rfl)
theorem dX1_mayStay_8 : decode cX1_mayStay 8 = .ok (.iload_n 3, 1) := dk_29 (dk_at dksX1_mayStay_0 8 rfl rfl)
theorem dX1_mayStay_9 : decode cX1_mayStay 9 = .ok (.if_icmp .gt 29, 3) := dk_163 0 29 (dk_at dksX1_mayStay_0 9 rfl rfl)
theorem dX1_mayStay_12 : decode cX1_mayStay 12 = .ok (.iload 4, 2) := dk_21 4 (dk_at dksX1_mayStay_0 12 rfl rfl)
theorem dX1_mayStay_14 : decode cX1_mayStay 14 = .ok (.ifCond .eq 24, 3) := dk_153 0 24 (dk_at dksX1_mayStay_0 14 rfl rfl)
theorem dX1_mayStay_17 : decode cX1_mayStay 17 = .ok (.aload_n 0, 1) := dk_42 (dk_at dksX1_mayStay_0 17 rfl rfl)
theorem dX1_mayStay_18 : decode cX1_mayStay 18 = .ok (.aload_n 0, 1) := dk_42 (dk_at dksX1_mayStay_0 18 rfl rfl)
theorem dX1_mayStay_19 : decode cX1_mayStay 19 = .ok (.iload_n 1, 1) := dk_27 (dk_at dksX1_mayStay_0 19 rfl rfl)
theorem dX1_mayStay_20 : decode cX1_mayStay 20 = .ok (.invokevirtual 307, 3) := dk_182 1 51 (dk_at dksX1_mayStay_0 20 rfl rfl)
theorem dX1_mayStay_23 : decode cX1_mayStay 23 = .ok (.iload_n 2, 1) := dk_28 (dk_at dksX1_mayStay_0 23 rfl rfl)
theorem dX1_mayStay_24 : decode cX1_mayStay 24 = .ok (.iload 5, 2) := dk_21 5 (dk_at dksX1_mayStay_1 0 rfl rfl)
theorem dX1_mayStay_26 : decode cX1_mayStay 26 = .ok (.iadd, 1) := dk_96 (dk_at dksX1_mayStay_1 2 rfl rfl)
theorem dX1_mayStay_27 : decode cX1_mayStay 27 = .ok (.invokevirtual 221, 3) := dk_182 0 221 (dk_at dksX1_mayStay_1 3 rfl rfl)
theorem dX1_mayStay_30 : decode cX1_mayStay 30 = .ok (.istore 4, 2) := dk_54 4 (dk_at dksX1_mayStay_1 6 rfl rfl)
theorem dX1_mayStay_32 : decode cX1_mayStay 32 = .ok (.iinc 5 1, 3) := dk_132 5 1 (dk_at dksX1_mayStay_1 8 rfl rfl)
theorem dX1_mayStay_35 : decode cX1_mayStay 35 = .ok (.goto (-29), 3) := dk_167 255 227 (dk_at dksX1_mayStay_1 11 rfl rfl)
theorem dX1_mayStay_38 : decode cX1_mayStay 38 = .ok (.iload 4, 2) := dk_21 4 (dk_at dksX1_mayStay_1 14 rfl rfl)
theorem dX1_mayStay_40 : decode cX1_mayStay 40 = .ok (.ireturn, 1) := dk_172 (dk_at dksX1_mayStay_1 16 rfl rfl)
abbrev cX1_find : ByteArray := prog_1_method_72_code
def yX1_find : MethodName := ⟨RX1, "find", "(II)I"⟩
def dkwX1_find_7 : List UInt8 := [16, 254, 172]
abbrev dktX1_find_7 : List UInt8 := dkwX1_find_7 ++ []
def dkwX1_find_6 : List UInt8 := [180, 0, 131, 21, 4, 96, 182, 1, 104, 167, 255, 215, 21, 4, 16, 12, 163, 0, 8, 21, 4, 167, 0, 5]
abbrev dktX1_find_6 : List UInt8 := dkwX1_find_6 ++ dktX1_find_7
def dkwX1_find_5 : List UInt8 := [180, 0, 75, 28, 182, 1, 100, 154, 0, 28, 132, 4, 1, 21, 4, 16, 12, 163, 255, 230, 42, 28, 42]
abbrev dktX1_find_5 : List UInt8 := dkwX1_find_5 ++ dktX1_find_6
def dkwX1_find_4 : List UInt8 := [180, 0, 131, 182, 1, 91, 28, 126, 96, 4, 84, 3, 54, 4, 21, 4, 16, 12, 163, 0, 40, 42, 42]
abbrev dktX1_find_4 : List UInt8 := dkwX1_find_4 ++ dktX1_find_5
def dkwX1_find_3 : List UInt8 := [132, 4, 1, 167, 255, 232, 42, 180, 0, 75, 17, 4, 0, 42, 182, 1, 48, 104, 42, 42, 182, 1, 48, 42]
abbrev dktX1_find_3 : List UInt8 := dkwX1_find_3 ++ dktX1_find_4
def dkwX1_find_2 : List UInt8 := [54, 4, 21, 4, 17, 4, 0, 42, 180, 1, 34, 104, 162, 0, 17, 42, 180, 0, 75, 21, 4, 3, 84]
abbrev dktX1_find_2 : List UInt8 := dkwX1_find_2 ++ dktX1_find_3
def dkwX1_find_1 : List UInt8 := [184, 0, 94, 154, 0, 5, 5, 62, 29, 153, 0, 9, 42, 29, 182, 0, 98, 172, 42, 27, 182, 1, 70, 3]
abbrev dktX1_find_1 : List UInt8 := dkwX1_find_1 ++ dktX1_find_2
def dkwX1_find_0 : List UInt8 := [42, 182, 0, 84, 42, 27, 5, 182, 1, 67, 62, 29, 154, 0, 20, 28, 4, 42, 180, 0, 109, 182, 0, 179]
abbrev dktX1_find_0 : List UInt8 := dkwX1_find_0 ++ dktX1_find_1
theorem dksX1_find_0 : cX1_find.data.toList.drop 0 = dktX1_find_0 := by decide +kernel
theorem dksX1_find_1 : cX1_find.data.toList.drop 24 = dktX1_find_1 := dk_seg dksX1_find_0 24 rfl rfl
theorem dksX1_find_2 : cX1_find.data.toList.drop 48 = dktX1_find_2 := dk_seg dksX1_find_1 24 rfl rfl
theorem dksX1_find_3 : cX1_find.data.toList.drop 71 = dktX1_find_3 := dk_seg dksX1_find_2 23 rfl rfl
theorem dksX1_find_4 : cX1_find.data.toList.drop 95 = dktX1_find_4 := dk_seg dksX1_find_3 24 rfl rfl
theorem dksX1_find_5 : cX1_find.data.toList.drop 118 = dktX1_find_5 := dk_seg dksX1_find_4 23 rfl rfl
theorem dksX1_find_6 : cX1_find.data.toList.drop 141 = dktX1_find_6 := dk_seg dksX1_find_5 23 rfl rfl
theorem dksX1_find_7 : cX1_find.data.toList.drop 165 = dktX1_find_7 := dk_seg dksX1_find_6 24 rfl rfl
theorem dX1_find_0 : decode cX1_find 0 = .ok (.aload_n 0, 1) := dk_42 (dk_at dksX1_find_0 0 rfl rfl)
theorem dX1_find_1 : decode cX1_find 1 = .ok (.invokevirtual 84, 3) := dk_182 0 84 (dk_at dksX1_find_0 1 rfl rfl)
theorem dX1_find_4 : decode cX1_find 4 = .ok (.aload_n 0, 1) := dk_42 (dk_at dksX1_find_0 4 rfl rfl)
theorem dX1_find_5 : decode cX1_find 5 = .ok (.iload_n 1, 1) := dk_27 (dk_at dksX1_find_0 5 rfl rfl)
theorem dX1_find_6 : decode cX1_find 6 = .ok (.iconst 2, 1) := dk_5 (dk_at dksX1_find_0 6 rfl rfl)
theorem dX1_find_7 : decode cX1_find 7 = .ok (.invokevirtual 323, 3) := dk_182 1 67 (dk_at dksX1_find_0 7 rfl rfl)
theorem dX1_find_10 : decode cX1_find 10 = .ok (.istore_n 3, 1) := dk_62 (dk_at dksX1_find_0 10 rfl rfl)
theorem dX1_find_11 : decode cX1_find 11 = .ok (.iload_n 3, 1) := dk_29 (dk_at dksX1_find_0 11 rfl rfl)
theorem dX1_find_12 : decode cX1_find 12 = .ok (.ifCond .ne 20, 3) := dk_154 0 20 (dk_at dksX1_find_0 12 rfl rfl)
theorem dX1_find_15 : decode cX1_find 15 = .ok (.iload_n 2, 1) := dk_28 (dk_at dksX1_find_0 15 rfl rfl)
theorem dX1_find_16 : decode cX1_find 16 = .ok (.iconst 1, 1) := dk_4 (dk_at dksX1_find_0 16 rfl rfl)
theorem dX1_find_17 : decode cX1_find 17 = .ok (.aload_n 0, 1) := dk_42 (dk_at dksX1_find_0 17 rfl rfl)
theorem dX1_find_18 : decode cX1_find 18 = .ok (.getfield 109, 3) := dk_180 0 109 (dk_at dksX1_find_0 18 rfl rfl)
theorem dX1_find_21 : decode cX1_find 21 = .ok (.invokevirtual 179, 3) := dk_182 0 179 (dk_at dksX1_find_0 21 rfl rfl)
theorem dX1_find_24 : decode cX1_find 24 = .ok (.invokestatic 94, 3) := dk_184 0 94 (dk_at dksX1_find_1 0 rfl rfl)
theorem dX1_find_27 : decode cX1_find 27 = .ok (.ifCond .ne 5, 3) := dk_154 0 5 (dk_at dksX1_find_1 3 rfl rfl)
theorem dX1_find_30 : decode cX1_find 30 = .ok (.iconst 2, 1) := dk_5 (dk_at dksX1_find_1 6 rfl rfl)
theorem dX1_find_31 : decode cX1_find 31 = .ok (.istore_n 3, 1) := dk_62 (dk_at dksX1_find_1 7 rfl rfl)
theorem dX1_find_32 : decode cX1_find 32 = .ok (.iload_n 3, 1) := dk_29 (dk_at dksX1_find_1 8 rfl rfl)
theorem dX1_find_33 : decode cX1_find 33 = .ok (.ifCond .eq 9, 3) := dk_153 0 9 (dk_at dksX1_find_1 9 rfl rfl)
theorem dX1_find_36 : decode cX1_find 36 = .ok (.aload_n 0, 1) := dk_42 (dk_at dksX1_find_1 12 rfl rfl)
theorem dX1_find_37 : decode cX1_find 37 = .ok (.iload_n 3, 1) := dk_29 (dk_at dksX1_find_1 13 rfl rfl)
theorem dX1_find_38 : decode cX1_find 38 = .ok (.invokevirtual 98, 3) := dk_182 0 98 (dk_at dksX1_find_1 14 rfl rfl)
theorem dX1_find_41 : decode cX1_find 41 = .ok (.ireturn, 1) := dk_172 (dk_at dksX1_find_1 17 rfl rfl)
theorem dX1_find_42 : decode cX1_find 42 = .ok (.aload_n 0, 1) := dk_42 (dk_at dksX1_find_1 18 rfl rfl)
theorem dX1_find_43 : decode cX1_find 43 = .ok (.iload_n 1, 1) := dk_27 (dk_at dksX1_find_1 19 rfl rfl)
theorem dX1_find_44 : decode cX1_find 44 = .ok (.invokevirtual 326, 3) := dk_182 1 70 (dk_at dksX1_find_1 20 rfl rfl)
theorem dX1_find_47 : decode cX1_find 47 = .ok (.iconst 0, 1) := dk_3 (dk_at dksX1_find_1 23 rfl rfl)
theorem dX1_find_48 : decode cX1_find 48 = .ok (.istore 4, 2) := dk_54 4 (dk_at dksX1_find_2 0 rfl rfl)
theorem dX1_find_50 : decode cX1_find 50 = .ok (.iload 4, 2) := dk_21 4 (dk_at dksX1_find_2 2 rfl rfl)
theorem dX1_find_52 : decode cX1_find 52 = .ok (.sipush 1024, 3) := dk_17 4 0 (dk_at dksX1_find_2 4 rfl rfl)
theorem dX1_find_55 : decode cX1_find 55 = .ok (.aload_n 0, 1) := dk_42 (dk_at dksX1_find_2 7 rfl rfl)
theorem dX1_find_56 : decode cX1_find 56 = .ok (.getfield 290, 3) := dk_180 1 34 (dk_at dksX1_find_2 8 rfl rfl)
theorem dX1_find_59 : decode cX1_find 59 = .ok (.imul, 1) := dk_104 (dk_at dksX1_find_2 11 rfl rfl)
theorem dX1_find_60 : decode cX1_find 60 = .ok (.if_icmp .ge 17, 3) := dk_162 0 17 (dk_at dksX1_find_2 12 rfl rfl)
theorem dX1_find_63 : decode cX1_find 63 = .ok (.aload_n 0, 1) := dk_42 (dk_at dksX1_find_2 15 rfl rfl)
theorem dX1_find_64 : decode cX1_find 64 = .ok (.getfield 75, 3) := dk_180 0 75 (dk_at dksX1_find_2 16 rfl rfl)
theorem dX1_find_67 : decode cX1_find 67 = .ok (.iload 4, 2) := dk_21 4 (dk_at dksX1_find_2 19 rfl rfl)
theorem dX1_find_69 : decode cX1_find 69 = .ok (.iconst 0, 1) := dk_3 (dk_at dksX1_find_2 21 rfl rfl)
theorem dX1_find_70 : decode cX1_find 70 = .ok (.bastore, 1) := dk_84 (dk_at dksX1_find_2 22 rfl rfl)
theorem dX1_find_71 : decode cX1_find 71 = .ok (.iinc 4 1, 3) := dk_132 4 1 (dk_at dksX1_find_3 0 rfl rfl)
theorem dX1_find_74 : decode cX1_find 74 = .ok (.goto (-24), 3) := dk_167 255 232 (dk_at dksX1_find_3 3 rfl rfl)
theorem dX1_find_77 : decode cX1_find 77 = .ok (.aload_n 0, 1) := dk_42 (dk_at dksX1_find_3 6 rfl rfl)
theorem dX1_find_78 : decode cX1_find 78 = .ok (.getfield 75, 3) := dk_180 0 75 (dk_at dksX1_find_3 7 rfl rfl)
theorem dX1_find_81 : decode cX1_find 81 = .ok (.sipush 1024, 3) := dk_17 4 0 (dk_at dksX1_find_3 10 rfl rfl)
theorem dX1_find_84 : decode cX1_find 84 = .ok (.aload_n 0, 1) := dk_42 (dk_at dksX1_find_3 13 rfl rfl)
theorem dX1_find_85 : decode cX1_find 85 = .ok (.invokevirtual 304, 3) := dk_182 1 48 (dk_at dksX1_find_3 14 rfl rfl)
theorem dX1_find_88 : decode cX1_find 88 = .ok (.imul, 1) := dk_104 (dk_at dksX1_find_3 17 rfl rfl)
theorem dX1_find_89 : decode cX1_find 89 = .ok (.aload_n 0, 1) := dk_42 (dk_at dksX1_find_3 18 rfl rfl)
theorem dX1_find_90 : decode cX1_find 90 = .ok (.aload_n 0, 1) := dk_42 (dk_at dksX1_find_3 19 rfl rfl)
theorem dX1_find_91 : decode cX1_find 91 = .ok (.invokevirtual 304, 3) := dk_182 1 48 (dk_at dksX1_find_3 20 rfl rfl)
theorem dX1_find_94 : decode cX1_find 94 = .ok (.aload_n 0, 1) := dk_42 (dk_at dksX1_find_3 23 rfl rfl)
theorem dX1_find_95 : decode cX1_find 95 = .ok (.getfield 131, 3) := dk_180 0 131 (dk_at dksX1_find_4 0 rfl rfl)
theorem dX1_find_98 : decode cX1_find 98 = .ok (.invokevirtual 347, 3) := dk_182 1 91 (dk_at dksX1_find_4 3 rfl rfl)
theorem dX1_find_101 : decode cX1_find 101 = .ok (.iload_n 2, 1) := dk_28 (dk_at dksX1_find_4 6 rfl rfl)
theorem dX1_find_102 : decode cX1_find 102 = .ok (.iand, 1) := dk_126 (dk_at dksX1_find_4 7 rfl rfl)
theorem dX1_find_103 : decode cX1_find 103 = .ok (.iadd, 1) := dk_96 (dk_at dksX1_find_4 8 rfl rfl)
theorem dX1_find_104 : decode cX1_find 104 = .ok (.iconst 1, 1) := dk_4 (dk_at dksX1_find_4 9 rfl rfl)
theorem dX1_find_105 : decode cX1_find 105 = .ok (.bastore, 1) := dk_84 (dk_at dksX1_find_4 10 rfl rfl)
theorem dX1_find_106 : decode cX1_find 106 = .ok (.iconst 0, 1) := dk_3 (dk_at dksX1_find_4 11 rfl rfl)
theorem dX1_find_107 : decode cX1_find 107 = .ok (.istore 4, 2) := dk_54 4 (dk_at dksX1_find_4 12 rfl rfl)
theorem dX1_find_109 : decode cX1_find 109 = .ok (.iload 4, 2) := dk_21 4 (dk_at dksX1_find_4 14 rfl rfl)
theorem dX1_find_111 : decode cX1_find 111 = .ok (.bipush 12, 2) := dk_16 12 (dk_at dksX1_find_4 16 rfl rfl)
theorem dX1_find_113 : decode cX1_find 113 = .ok (.if_icmp .gt 40, 3) := dk_163 0 40 (dk_at dksX1_find_4 18 rfl rfl)
theorem dX1_find_116 : decode cX1_find 116 = .ok (.aload_n 0, 1) := dk_42 (dk_at dksX1_find_4 21 rfl rfl)
theorem dX1_find_117 : decode cX1_find 117 = .ok (.aload_n 0, 1) := dk_42 (dk_at dksX1_find_4 22 rfl rfl)
theorem dX1_find_118 : decode cX1_find 118 = .ok (.getfield 75, 3) := dk_180 0 75 (dk_at dksX1_find_5 0 rfl rfl)
theorem dX1_find_121 : decode cX1_find 121 = .ok (.iload_n 2, 1) := dk_28 (dk_at dksX1_find_5 3 rfl rfl)
theorem dX1_find_122 : decode cX1_find 122 = .ok (.invokevirtual 356, 3) := dk_182 1 100 (dk_at dksX1_find_5 4 rfl rfl)
theorem dX1_find_125 : decode cX1_find 125 = .ok (.ifCond .ne 28, 3) := dk_154 0 28 (dk_at dksX1_find_5 7 rfl rfl)
theorem dX1_find_128 : decode cX1_find 128 = .ok (.iinc 4 1, 3) := dk_132 4 1 (dk_at dksX1_find_5 10 rfl rfl)
theorem dX1_find_131 : decode cX1_find 131 = .ok (.iload 4, 2) := dk_21 4 (dk_at dksX1_find_5 13 rfl rfl)
theorem dX1_find_133 : decode cX1_find 133 = .ok (.bipush 12, 2) := dk_16 12 (dk_at dksX1_find_5 15 rfl rfl)
theorem dX1_find_135 : decode cX1_find 135 = .ok (.if_icmp .gt (-26), 3) := dk_163 255 230 (dk_at dksX1_find_5 17 rfl rfl)
theorem dX1_find_138 : decode cX1_find 138 = .ok (.aload_n 0, 1) := dk_42 (dk_at dksX1_find_5 20 rfl rfl)
theorem dX1_find_139 : decode cX1_find 139 = .ok (.iload_n 2, 1) := dk_28 (dk_at dksX1_find_5 21 rfl rfl)
theorem dX1_find_140 : decode cX1_find 140 = .ok (.aload_n 0, 1) := dk_42 (dk_at dksX1_find_5 22 rfl rfl)
theorem dX1_find_141 : decode cX1_find 141 = .ok (.getfield 131, 3) := dk_180 0 131 (dk_at dksX1_find_6 0 rfl rfl)
theorem dX1_find_144 : decode cX1_find 144 = .ok (.iload 4, 2) := dk_21 4 (dk_at dksX1_find_6 3 rfl rfl)
theorem dX1_find_146 : decode cX1_find 146 = .ok (.iadd, 1) := dk_96 (dk_at dksX1_find_6 5 rfl rfl)
theorem dX1_find_147 : decode cX1_find 147 = .ok (.invokevirtual 360, 3) := dk_182 1 104 (dk_at dksX1_find_6 6 rfl rfl)
theorem dX1_find_150 : decode cX1_find 150 = .ok (.goto (-41), 3) := dk_167 255 215 (dk_at dksX1_find_6 9 rfl rfl)
theorem dX1_find_153 : decode cX1_find 153 = .ok (.iload 4, 2) := dk_21 4 (dk_at dksX1_find_6 12 rfl rfl)
theorem dX1_find_155 : decode cX1_find 155 = .ok (.bipush 12, 2) := dk_16 12 (dk_at dksX1_find_6 14 rfl rfl)
theorem dX1_find_157 : decode cX1_find 157 = .ok (.if_icmp .gt 8, 3) := dk_163 0 8 (dk_at dksX1_find_6 16 rfl rfl)
theorem dX1_find_160 : decode cX1_find 160 = .ok (.iload 4, 2) := dk_21 4 (dk_at dksX1_find_6 19 rfl rfl)
theorem dX1_find_162 : decode cX1_find 162 = .ok (.goto 5, 3) := dk_167 0 5 (dk_at dksX1_find_6 21 rfl rfl)
theorem dX1_find_165 : decode cX1_find 165 = .ok (.bipush (-2), 2) := dk_16 254 (dk_at dksX1_find_7 0 rfl rfl)
theorem dX1_find_167 : decode cX1_find 167 = .ok (.ireturn, 1) := dk_172 (dk_at dksX1_find_7 2 rfl rfl)
abbrev cX1_lookedAt : ByteArray := prog_1_method_68_code
def yX1_lookedAt : MethodName := ⟨RX1, "lookedAt", "(II)I"⟩
def dkwX1_lookedAt_3 : List UInt8 := [167, 255, 207, 29, 172]
abbrev dktX1_lookedAt_3 : List UInt8 := dkwX1_lookedAt_3 ++ []
def dkwX1_lookedAt_2 : List UInt8 := [28, 182, 0, 166, 42, 180, 0, 55, 21, 5, 46, 182, 0, 173, 167, 0, 4, 3, 128, 62, 132, 5, 1]
abbrev dktX1_lookedAt_2 : List UInt8 := dkwX1_lookedAt_2 ++ dktX1_lookedAt_3
def dkwX1_lookedAt_1 : List UInt8 := [42, 180, 1, 31, 162, 0, 46, 29, 21, 4, 42, 180, 0, 49, 21, 5, 46, 184, 0, 189, 153, 0, 21, 42]
abbrev dktX1_lookedAt_1 : List UInt8 := dkwX1_lookedAt_1 ++ dktX1_lookedAt_2
def dkwX1_lookedAt_0 : List UInt8 := [3, 62, 42, 28, 3, 182, 0, 210, 54, 4, 42, 27, 42, 180, 0, 55, 182, 1, 41, 3, 54, 5, 21, 5]
abbrev dktX1_lookedAt_0 : List UInt8 := dkwX1_lookedAt_0 ++ dktX1_lookedAt_1
theorem dksX1_lookedAt_0 : cX1_lookedAt.data.toList.drop 0 = dktX1_lookedAt_0 := by decide +kernel
theorem dksX1_lookedAt_1 : cX1_lookedAt.data.toList.drop 24 = dktX1_lookedAt_1 := dk_seg dksX1_lookedAt_0 24 rfl rfl
theorem dksX1_lookedAt_2 : cX1_lookedAt.data.toList.drop 48 = dktX1_lookedAt_2 := dk_seg dksX1_lookedAt_1 24 rfl rfl
theorem dksX1_lookedAt_3 : cX1_lookedAt.data.toList.drop 71 = dktX1_lookedAt_3 := dk_seg dksX1_lookedAt_2 23 rfl rfl
theorem dX1_lookedAt_0 : decode cX1_lookedAt 0 = .ok (.iconst 0, 1) := dk_3 (dk_at dksX1_lookedAt_0 0 rfl rfl)
theorem dX1_lookedAt_1 : decode cX1_lookedAt 1 = .ok (.istore_n 3, 1) := dk_62 (dk_at dksX1_lookedAt_0 1 rfl rfl)
theorem dX1_lookedAt_2 : decode cX1_lookedAt 2 = .ok (.aload_n 0, 1) := dk_42 (dk_at dksX1_lookedAt_0 2 rfl rfl)
theorem dX1_lookedAt_3 : decode cX1_lookedAt 3 = .ok (.iload_n 2, 1) := dk_28 (dk_at dksX1_lookedAt_0 3 rfl rfl)
theorem dX1_lookedAt_4 : decode cX1_lookedAt 4 = .ok (.iconst 0, 1) := dk_3 (dk_at dksX1_lookedAt_0 4 rfl rfl)
theorem dX1_lookedAt_5 : decode cX1_lookedAt 5 = .ok (.invokevirtual 210, 3) := dk_182 0 210 (dk_at dksX1_lookedAt_0 5 rfl rfl)
theorem dX1_lookedAt_8 : decode cX1_lookedAt 8 = .ok (.istore 4, 2) := dk_54 4 (dk_at dksX1_lookedAt_0 8 rfl rfl)
theorem dX1_lookedAt_10 : decode cX1_lookedAt 10 = .ok (.aload_n 0, 1) := dk_42 (dk_at dksX1_lookedAt_0 10 rfl rfl)
theorem dX1_lookedAt_11 : decode cX1_lookedAt 11 = .ok (.iload_n 1, 1) := dk_27 (dk_at dksX1_lookedAt_0 11 rfl rfl)
theorem dX1_lookedAt_12 : decode cX1_lookedAt 12 = .ok (.aload_n 0, 1) := dk_42 (dk_at dksX1_lookedAt_0 12 rfl rfl)
theorem dX1_lookedAt_13 : decode cX1_lookedAt 13 = .ok (.getfield 55, 3) := dk_180 0 55 (dk_at dksX1_lookedAt_0 13 rfl rfl)
theorem dX1_lookedAt_16 : decode cX1_lookedAt 16 = .ok (.invokevirtual 297, 3) := dk_182 1 41 (dk_at dksX1_lookedAt_0 16 rfl rfl)
theorem dX1_lookedAt_19 : decode cX1_lookedAt 19 = .ok (.iconst 0, 1) := dk_3 (dk_at dksX1_lookedAt_0 19 rfl rfl)
theorem dX1_lookedAt_20 : decode cX1_lookedAt 20 = .ok (.istore 5, 2) := dk_54 5 (dk_at dksX1_lookedAt_0 20 rfl rfl)
theorem dX1_lookedAt_22 : decode cX1_lookedAt 22 = .ok (.iload 5, 2) := dk_21 5 (dk_at dksX1_lookedAt_0 22 rfl rfl)
theorem dX1_lookedAt_24 : decode cX1_lookedAt 24 = .ok (.aload_n 0, 1) := dk_42 (dk_at dksX1_lookedAt_1 0 rfl rfl)
theorem dX1_lookedAt_25 : decode cX1_lookedAt 25 = .ok (.getfield 287, 3) := dk_180 1 31 (dk_at dksX1_lookedAt_1 1 rfl rfl)
theorem dX1_lookedAt_28 : decode cX1_lookedAt 28 = .ok (.if_icmp .ge 46, 3) := dk_162 0 46 (dk_at dksX1_lookedAt_1 4 rfl rfl)
theorem dX1_lookedAt_31 : decode cX1_lookedAt 31 = .ok (.iload_n 3, 1) := dk_29 (dk_at dksX1_lookedAt_1 7 rfl rfl)
theorem dX1_lookedAt_32 : decode cX1_lookedAt 32 = .ok (.iload 4, 2) := dk_21 4 (dk_at dksX1_lookedAt_1 8 rfl rfl)
theorem dX1_lookedAt_34 : decode cX1_lookedAt 34 = .ok (.aload_n 0, 1) := dk_42 (dk_at dksX1_lookedAt_1 10 rfl rfl)
theorem dX1_lookedAt_35 : decode cX1_lookedAt 35 = .ok (.getfield 49, 3) := dk_180 0 49 (dk_at dksX1_lookedAt_1 11 rfl rfl)
theorem dX1_lookedAt_38 : decode cX1_lookedAt 38 = .ok (.iload 5, 2) := dk_21 5 (dk_at dksX1_lookedAt_1 14 rfl rfl)
theorem dX1_lookedAt_40 : decode cX1_lookedAt 40 = .ok (.iaload, 1) := dk_46 (dk_at dksX1_lookedAt_1 16 rfl rfl)
theorem dX1_lookedAt_41 : decode cX1_lookedAt 41 = .ok (.invokestatic 189, 3) := dk_184 0 189 (dk_at dksX1_lookedAt_1 17 rfl rfl)
theorem dX1_lookedAt_44 : decode cX1_lookedAt 44 = .ok (.ifCond .eq 21, 3) := dk_153 0 21 (dk_at dksX1_lookedAt_1 20 rfl rfl)
theorem dX1_lookedAt_47 : decode cX1_lookedAt 47 = .ok (.aload_n 0, 1) := dk_42 (dk_at dksX1_lookedAt_1 23 rfl rfl)
theorem dX1_lookedAt_48 : decode cX1_lookedAt 48 = .ok (.iload_n 2, 1) := dk_28 (dk_at dksX1_lookedAt_2 0 rfl rfl)
theorem dX1_lookedAt_49 : decode cX1_lookedAt 49 = .ok (.invokevirtual 166, 3) := dk_182 0 166 (dk_at dksX1_lookedAt_2 1 rfl rfl)
theorem dX1_lookedAt_52 : decode cX1_lookedAt 52 = .ok (.aload_n 0, 1) := dk_42 (dk_at dksX1_lookedAt_2 4 rfl rfl)
theorem dX1_lookedAt_53 : decode cX1_lookedAt 53 = .ok (.getfield 55, 3) := dk_180 0 55 (dk_at dksX1_lookedAt_2 5 rfl rfl)
theorem dX1_lookedAt_56 : decode cX1_lookedAt 56 = .ok (.iload 5, 2) := dk_21 5 (dk_at dksX1_lookedAt_2 8 rfl rfl)
theorem dX1_lookedAt_58 : decode cX1_lookedAt 58 = .ok (.iaload, 1) := dk_46 (dk_at dksX1_lookedAt_2 10 rfl rfl)
theorem dX1_lookedAt_59 : decode cX1_lookedAt 59 = .ok (.invokevirtual 173, 3) := dk_182 0 173 (dk_at dksX1_lookedAt_2 11 rfl rfl)
theorem dX1_lookedAt_62 : decode cX1_lookedAt 62 = .ok (.goto 4, 3) := dk_167 0 4 (dk_at dksX1_lookedAt_2 14 rfl rfl)
theorem dX1_lookedAt_65 : decode cX1_lookedAt 65 = .ok (.iconst 0, 1) := dk_3 (dk_at dksX1_lookedAt_2 17 rfl rfl)
theorem dX1_lookedAt_66 : decode cX1_lookedAt 66 = .ok (.ior, 1) := dk_128 (dk_at dksX1_lookedAt_2 18 rfl rfl)
theorem dX1_lookedAt_67 : decode cX1_lookedAt 67 = .ok (.istore_n 3, 1) := dk_62 (dk_at dksX1_lookedAt_2 19 rfl rfl)
theorem dX1_lookedAt_68 : decode cX1_lookedAt 68 = .ok (.iinc 5 1, 3) := dk_132 5 1 (dk_at dksX1_lookedAt_2 20 rfl rfl)
theorem dX1_lookedAt_71 : decode cX1_lookedAt 71 = .ok (.goto (-49), 3) := dk_167 255 207 (dk_at dksX1_lookedAt_3 0 rfl rfl)
theorem dX1_lookedAt_74 : decode cX1_lookedAt 74 = .ok (.iload_n 3, 1) := dk_29 (dk_at dksX1_lookedAt_3 3 rfl rfl)
theorem dX1_lookedAt_75 : decode cX1_lookedAt 75 = .ok (.ireturn, 1) := dk_172 (dk_at dksX1_lookedAt_3 4 rfl rfl)
abbrev cX1_isFound : ByteArray := prog_1_method_69_code
def yX1_isFound : MethodName := ⟨RX1, "isFound", "([ZI)Z"⟩
def dkwX1_isFound_1 : List UInt8 := [104, 28, 96, 51, 153, 0, 7, 4, 167, 0, 4, 3, 62, 132, 4, 1, 167, 255, 221, 29, 172]
abbrev dktX1_isFound_1 : List UInt8 := dkwX1_isFound_1 ++ []
def dkwX1_isFound_0 : List UInt8 := [3, 62, 3, 54, 4, 21, 4, 42, 180, 1, 34, 162, 0, 32, 29, 154, 0, 16, 43, 17, 4, 0, 21, 4]
abbrev dktX1_isFound_0 : List UInt8 := dkwX1_isFound_0 ++ dktX1_isFound_1
theorem dksX1_isFound_0 : cX1_isFound.data.toList.drop 0 = dktX1_isFound_0 := by decide +kernel
theorem dksX1_isFound_1 : cX1_isFound.data.toList.drop 24 = dktX1_isFound_1 := dk_seg dksX1_isFound_0 24 rfl rfl
theorem dX1_isFound_0 : decode cX1_isFound 0 = .ok (.iconst 0, 1) := dk_3 (dk_at dksX1_isFound_0 0 rfl rfl)
theorem dX1_isFound_1 : decode cX1_isFound 1 = .ok (.istore_n 3, 1) := dk_62 (dk_at dksX1_isFound_0 1 rfl rfl)
theorem dX1_isFound_2 : decode cX1_isFound 2 = .ok (.iconst 0, 1) := dk_3 (dk_at dksX1_isFound_0 2 rfl rfl)
theorem dX1_isFound_3 : decode cX1_isFound 3 = .ok (.istore 4, 2) := dk_54 4 (dk_at dksX1_isFound_0 3 rfl rfl)
theorem dX1_isFound_5 : decode cX1_isFound 5 = .ok (.iload 4, 2) := dk_21 4 (dk_at dksX1_isFound_0 5 rfl rfl)
theorem dX1_isFound_7 : decode cX1_isFound 7 = .ok (.aload_n 0, 1) := dk_42 (dk_at dksX1_isFound_0 7 rfl rfl)
theorem dX1_isFound_8 : decode cX1_isFound 8 = .ok (.getfield 290, 3) := dk_180 1 34 (dk_at dksX1_isFound_0 8 rfl rfl)
theorem dX1_isFound_11 : decode cX1_isFound 11 = .ok (.if_icmp .ge 32, 3) := dk_162 0 32 (dk_at dksX1_isFound_0 11 rfl rfl)
theorem dX1_isFound_14 : decode cX1_isFound 14 = .ok (.iload_n 3, 1) := dk_29 (dk_at dksX1_isFound_0 14 rfl rfl)
theorem dX1_isFound_15 : decode cX1_isFound 15 = .ok (.ifCond .ne 16, 3) := dk_154 0 16 (dk_at dksX1_isFound_0 15 rfl rfl)
theorem dX1_isFound_18 : decode cX1_isFound 18 = .ok (.aload_n 1, 1) := dk_43 (dk_at dksX1_isFound_0 18 rfl rfl)
theorem dX1_isFound_19 : decode cX1_isFound 19 = .ok (.sipush 1024, 3) := dk_17 4 0 (dk_at dksX1_isFound_0 19 rfl rfl)
theorem dX1_isFound_22 : decode cX1_isFound 22 = .ok (.iload 4, 2) := dk_21 4 (dk_at dksX1_isFound_0 22 rfl rfl)
theorem dX1_isFound_24 : decode cX1_isFound 24 = .ok (.imul, 1) := dk_104 (dk_at dksX1_isFound_1 0 rfl rfl)
theorem dX1_isFound_25 : decode cX1_isFound 25 = .ok (.iload_n 2, 1) := dk_28 (dk_at dksX1_isFound_1 1 rfl rfl)
theorem dX1_isFound_26 : decode cX1_isFound 26 = .ok (.iadd, 1) := dk_96 (dk_at dksX1_isFound_1 2 rfl rfl)
theorem dX1_isFound_27 : decode cX1_isFound 27 = .ok (.baload, 1) := dk_51 (dk_at dksX1_isFound_1 3 rfl rfl)
theorem dX1_isFound_28 : decode cX1_isFound 28 = .ok (.ifCond .eq 7, 3) := dk_153 0 7 (dk_at dksX1_isFound_1 4 rfl rfl)
theorem dX1_isFound_31 : decode cX1_isFound 31 = .ok (.iconst 1, 1) := dk_4 (dk_at dksX1_isFound_1 7 rfl rfl)
theorem dX1_isFound_32 : decode cX1_isFound 32 = .ok (.goto 4, 3) := dk_167 0 4 (dk_at dksX1_isFound_1 8 rfl rfl)
theorem dX1_isFound_35 : decode cX1_isFound 35 = .ok (.iconst 0, 1) := dk_3 (dk_at dksX1_isFound_1 11 rfl rfl)
theorem dX1_isFound_36 : decode cX1_isFound 36 = .ok (.istore_n 3, 1) := dk_62 (dk_at dksX1_isFound_1 12 rfl rfl)
theorem dX1_isFound_37 : decode cX1_isFound 37 = .ok (.iinc 4 1, 3) := dk_132 4 1 (dk_at dksX1_isFound_1 13 rfl rfl)
theorem dX1_isFound_40 : decode cX1_isFound 40 = .ok (.goto (-35), 3) := dk_167 255 221 (dk_at dksX1_isFound_1 16 rfl rfl)
theorem dX1_isFound_43 : decode cX1_isFound 43 = .ok (.iload_n 3, 1) := dk_29 (dk_at dksX1_isFound_1 19 rfl rfl)
theorem dX1_isFound_44 : decode cX1_isFound 44 = .ok (.ireturn, 1) := dk_172 (dk_at dksX1_isFound_1 20 rfl rfl)
abbrev cX1_further : ByteArray := prog_1_method_71_code
def yX1_further : MethodName := ⟨RX1, "further", "(II)V"⟩
def dkwX1_further_8 : List UInt8 := [177]
abbrev dktX1_further_8 : List UInt8 := dkwX1_further_8 ++ []
def dkwX1_further_7 : List UInt8 := [167, 255, 120, 42, 180, 0, 78, 3, 42, 180, 0, 75, 3, 17, 4, 0, 42, 180, 1, 34, 104, 184, 1, 94]
abbrev dktX1_further_7 : List UInt8 := dkwX1_further_7 ++ dktX1_further_8
def dkwX1_further_6 : List UInt8 := [132, 6, 1, 167, 255, 211, 42, 29, 21, 4, 4, 96, 182, 1, 88, 54, 4, 167, 255, 157, 132, 3, 1]
abbrev dktX1_further_6 : List UInt8 := dkwX1_further_6 ++ dktX1_further_7
def dkwX1_further_5 : List UInt8 := [96, 51, 153, 0, 21, 42, 180, 0, 78, 17, 4, 0, 21, 4, 104, 21, 6, 21, 5, 128, 96, 4, 84]
abbrev dktX1_further_5 : List UInt8 := dkwX1_further_5 ++ dktX1_further_6
def dkwX1_further_4 : List UInt8 := [54, 5, 3, 54, 6, 21, 6, 17, 4, 0, 162, 0, 43, 42, 180, 0, 75, 17, 4, 0, 29, 104, 21, 6]
abbrev dktX1_further_4 : List UInt8 := dkwX1_further_4 ++ dktX1_further_5
def dkwX1_further_3 : List UInt8 := [21, 4, 182, 1, 51, 28, 182, 0, 221, 154, 0, 6, 167, 0, 65, 42, 21, 4, 28, 182, 1, 91, 27, 126]
abbrev dktX1_further_3 : List UInt8 := dkwX1_further_3 ++ dktX1_further_4
def dkwX1_further_2 : List UInt8 := [182, 1, 88, 167, 0, 7, 42, 180, 1, 34, 54, 4, 21, 4, 42, 180, 1, 34, 162, 0, 96, 42, 42]
abbrev dktX1_further_2 : List UInt8 := dkwX1_further_2 ++ dktX1_further_3
def dkwX1_further_1 : List UInt8 := [167, 255, 234, 3, 62, 29, 42, 180, 1, 34, 162, 0, 134, 42, 29, 182, 1, 85, 153, 0, 12, 42, 29, 3]
abbrev dktX1_further_1 : List UInt8 := dkwX1_further_1 ++ dktX1_further_2
def dkwX1_further_0 : List UInt8 := [3, 62, 29, 17, 4, 0, 42, 180, 1, 34, 104, 162, 0, 16, 42, 180, 0, 78, 29, 3, 84, 132, 3, 1]
abbrev dktX1_further_0 : List UInt8 := dkwX1_further_0 ++ dktX1_further_1
theorem dksX1_further_0 : cX1_further.data.toList.drop 0 = dktX1_further_0 := by decide +kernel
theorem dksX1_further_1 : cX1_further.data.toList.drop 24 = dktX1_further_1 := dk_seg dksX1_further_0 24 rfl rfl
theorem dksX1_further_2 : cX1_further.data.toList.drop 48 = dktX1_further_2 := dk_seg dksX1_further_1 24 rfl rfl
theorem dksX1_further_3 : cX1_further.data.toList.drop 71 = dktX1_further_3 := dk_seg dksX1_further_2 23 rfl rfl
theorem dksX1_further_4 : cX1_further.data.toList.drop 95 = dktX1_further_4 := dk_seg dksX1_further_3 24 rfl rfl
theorem dksX1_further_5 : cX1_further.data.toList.drop 119 = dktX1_further_5 := dk_seg dksX1_further_4 24 rfl rfl
theorem dksX1_further_6 : cX1_further.data.toList.drop 142 = dktX1_further_6 := dk_seg dksX1_further_5 23 rfl rfl
theorem dksX1_further_7 : cX1_further.data.toList.drop 165 = dktX1_further_7 := dk_seg dksX1_further_6 23 rfl rfl
theorem dksX1_further_8 : cX1_further.data.toList.drop 189 = dktX1_further_8 := dk_seg dksX1_further_7 24 rfl rfl
theorem dX1_further_0 : decode cX1_further 0 = .ok (.iconst 0, 1) := dk_3 (dk_at dksX1_further_0 0 rfl rfl)
theorem dX1_further_1 : decode cX1_further 1 = .ok (.istore_n 3, 1) := dk_62 (dk_at dksX1_further_0 1 rfl rfl)
theorem dX1_further_2 : decode cX1_further 2 = .ok (.iload_n 3, 1) := dk_29 (dk_at dksX1_further_0 2 rfl rfl)
theorem dX1_further_3 : decode cX1_further 3 = .ok (.sipush 1024, 3) := dk_17 4 0 (dk_at dksX1_further_0 3 rfl rfl)
theorem dX1_further_6 : decode cX1_further 6 = .ok (.aload_n 0, 1) := dk_42 (dk_at dksX1_further_0 6 rfl rfl)
theorem dX1_further_7 : decode cX1_further 7 = .ok (.getfield 290, 3) := dk_180 1 34 (dk_at dksX1_further_0 7 rfl rfl)
theorem dX1_further_10 : decode cX1_further 10 = .ok (.imul, 1) := dk_104 (dk_at dksX1_further_0 10 rfl rfl)
theorem dX1_further_11 : decode cX1_further 11 = .ok (.if_icmp .ge 16, 3) := dk_162 0 16 (dk_at dksX1_further_0 11 rfl rfl)
theorem dX1_further_14 : decode cX1_further 14 = .ok (.aload_n 0, 1) := dk_42 (dk_at dksX1_further_0 14 rfl rfl)
theorem dX1_further_15 : decode cX1_further 15 = .ok (.getfield 78, 3) := dk_180 0 78 (dk_at dksX1_further_0 15 rfl rfl)
theorem dX1_further_18 : decode cX1_further 18 = .ok (.iload_n 3, 1) := dk_29 (dk_at dksX1_further_0 18 rfl rfl)
theorem dX1_further_19 : decode cX1_further 19 = .ok (.iconst 0, 1) := dk_3 (dk_at dksX1_further_0 19 rfl rfl)
theorem dX1_further_20 : decode cX1_further 20 = .ok (.bastore, 1) := dk_84 (dk_at dksX1_further_0 20 rfl rfl)
theorem dX1_further_21 : decode cX1_further 21 = .ok (.iinc 3 1, 3) := dk_132 3 1 (dk_at dksX1_further_0 21 rfl rfl)
theorem dX1_further_24 : decode cX1_further 24 = .ok (.goto (-22), 3) := dk_167 255 234 (dk_at dksX1_further_1 0 rfl rfl)
theorem dX1_further_27 : decode cX1_further 27 = .ok (.iconst 0, 1) := dk_3 (dk_at dksX1_further_1 3 rfl rfl)
theorem dX1_further_28 : decode cX1_further 28 = .ok (.istore_n 3, 1) := dk_62 (dk_at dksX1_further_1 4 rfl rfl)
theorem dX1_further_29 : decode cX1_further 29 = .ok (.iload_n 3, 1) := dk_29 (dk_at dksX1_further_1 5 rfl rfl)
theorem dX1_further_30 : decode cX1_further 30 = .ok (.aload_n 0, 1) := dk_42 (dk_at dksX1_further_1 6 rfl rfl)
theorem dX1_further_31 : decode cX1_further 31 = .ok (.getfield 290, 3) := dk_180 1 34 (dk_at dksX1_further_1 7 rfl rfl)
theorem dX1_further_34 : decode cX1_further 34 = .ok (.if_icmp .ge 134, 3) := dk_162 0 134 (dk_at dksX1_further_1 10 rfl rfl)
theorem dX1_further_37 : decode cX1_further 37 = .ok (.aload_n 0, 1) := dk_42 (dk_at dksX1_further_1 13 rfl rfl)
theorem dX1_further_38 : decode cX1_further 38 = .ok (.iload_n 3, 1) := dk_29 (dk_at dksX1_further_1 14 rfl rfl)
theorem dX1_further_39 : decode cX1_further 39 = .ok (.invokevirtual 341, 3) := dk_182 1 85 (dk_at dksX1_further_1 15 rfl rfl)
theorem dX1_further_42 : decode cX1_further 42 = .ok (.ifCond .eq 12, 3) := dk_153 0 12 (dk_at dksX1_further_1 18 rfl rfl)
theorem dX1_further_45 : decode cX1_further 45 = .ok (.aload_n 0, 1) := dk_42 (dk_at dksX1_further_1 21 rfl rfl)
theorem dX1_further_46 : decode cX1_further 46 = .ok (.iload_n 3, 1) := dk_29 (dk_at dksX1_further_1 22 rfl rfl)
theorem dX1_further_47 : decode cX1_further 47 = .ok (.iconst 0, 1) := dk_3 (dk_at dksX1_further_1 23 rfl rfl)
theorem dX1_further_48 : decode cX1_further 48 = .ok (.invokevirtual 344, 3) := dk_182 1 88 (dk_at dksX1_further_2 0 rfl rfl)
theorem dX1_further_51 : decode cX1_further 51 = .ok (.goto 7, 3) := dk_167 0 7 (dk_at dksX1_further_2 3 rfl rfl)
theorem dX1_further_54 : decode cX1_further 54 = .ok (.aload_n 0, 1) := dk_42 (dk_at dksX1_further_2 6 rfl rfl)
theorem dX1_further_55 : decode cX1_further 55 = .ok (.getfield 290, 3) := dk_180 1 34 (dk_at dksX1_further_2 7 rfl rfl)
theorem dX1_further_58 : decode cX1_further 58 = .ok (.istore 4, 2) := dk_54 4 (dk_at dksX1_further_2 10 rfl rfl)
theorem dX1_further_60 : decode cX1_further 60 = .ok (.iload 4, 2) := dk_21 4 (dk_at dksX1_further_2 12 rfl rfl)
theorem dX1_further_62 : decode cX1_further 62 = .ok (.aload_n 0, 1) := dk_42 (dk_at dksX1_further_2 14 rfl rfl)
theorem dX1_further_63 : decode cX1_further 63 = .ok (.getfield 290, 3) := dk_180 1 34 (dk_at dksX1_further_2 15 rfl rfl)
theorem dX1_further_66 : decode cX1_further 66 = .ok (.if_icmp .ge 96, 3) := dk_162 0 96 (dk_at dksX1_further_2 18 rfl rfl)
theorem dX1_further_69 : decode cX1_further 69 = .ok (.aload_n 0, 1) := dk_42 (dk_at dksX1_further_2 21 rfl rfl)
theorem dX1_further_70 : decode cX1_further 70 = .ok (.aload_n 0, 1) := dk_42 (dk_at dksX1_further_2 22 rfl rfl)
theorem dX1_further_71 : decode cX1_further 71 = .ok (.iload 4, 2) := dk_21 4 (dk_at dksX1_further_3 0 rfl rfl)
theorem dX1_further_73 : decode cX1_further 73 = .ok (.invokevirtual 307, 3) := dk_182 1 51 (dk_at dksX1_further_3 2 rfl rfl)
theorem dX1_further_76 : decode cX1_further 76 = .ok (.iload_n 2, 1) := dk_28 (dk_at dksX1_further_3 5 rfl rfl)
theorem dX1_further_77 : decode cX1_further 77 = .ok (.invokevirtual 221, 3) := dk_182 0 221 (dk_at dksX1_further_3 6 rfl rfl)
theorem dX1_further_80 : decode cX1_further 80 = .ok (.ifCond .ne 6, 3) := dk_154 0 6 (dk_at dksX1_further_3 9 rfl rfl)
theorem dX1_further_83 : decode cX1_further 83 = .ok (.goto 65, 3) := dk_167 0 65 (dk_at dksX1_further_3 12 rfl rfl)
theorem dX1_further_86 : decode cX1_further 86 = .ok (.aload_n 0, 1) := dk_42 (dk_at dksX1_further_3 15 rfl rfl)
theorem dX1_further_87 : decode cX1_further 87 = .ok (.iload 4, 2) := dk_21 4 (dk_at dksX1_further_3 16 rfl rfl)
theorem dX1_further_89 : decode cX1_further 89 = .ok (.iload_n 2, 1) := dk_28 (dk_at dksX1_further_3 18 rfl rfl)
theorem dX1_further_90 : decode cX1_further 90 = .ok (.invokevirtual 347, 3) := dk_182 1 91 (dk_at dksX1_further_3 19 rfl rfl)
theorem dX1_further_93 : decode cX1_further 93 = .ok (.iload_n 1, 1) := dk_27 (dk_at dksX1_further_3 22 rfl rfl)
theorem dX1_further_94 : decode cX1_further 94 = .ok (.iand, 1) := dk_126 (dk_at dksX1_further_3 23 rfl rfl)
theorem dX1_further_95 : decode cX1_further 95 = .ok (.istore 5, 2) := dk_54 5 (dk_at dksX1_further_4 0 rfl rfl)
theorem dX1_further_97 : decode cX1_further 97 = .ok (.iconst 0, 1) := dk_3 (dk_at dksX1_further_4 2 rfl rfl)
theorem dX1_further_98 : decode cX1_further 98 = .ok (.istore 6, 2) := dk_54 6 (dk_at dksX1_further_4 3 rfl rfl)
theorem dX1_further_100 : decode cX1_further 100 = .ok (.iload 6, 2) := dk_21 6 (dk_at dksX1_further_4 5 rfl rfl)
theorem dX1_further_102 : decode cX1_further 102 = .ok (.sipush 1024, 3) := dk_17 4 0 (dk_at dksX1_further_4 7 rfl rfl)
theorem dX1_further_105 : decode cX1_further 105 = .ok (.if_icmp .ge 43, 3) := dk_162 0 43 (dk_at dksX1_further_4 10 rfl rfl)
theorem dX1_further_108 : decode cX1_further 108 = .ok (.aload_n 0, 1) := dk_42 (dk_at dksX1_further_4 13 rfl rfl)
theorem dX1_further_109 : decode cX1_further 109 = .ok (.getfield 75, 3) := dk_180 0 75 (dk_at dksX1_further_4 14 rfl rfl)
theorem dX1_further_112 : decode cX1_further 112 = .ok (.sipush 1024, 3) := dk_17 4 0 (dk_at dksX1_further_4 17 rfl rfl)
theorem dX1_further_115 : decode cX1_further 115 = .ok (.iload_n 3, 1) := dk_29 (dk_at dksX1_further_4 20 rfl rfl)
theorem dX1_further_116 : decode cX1_further 116 = .ok (.imul, 1) := dk_104 (dk_at dksX1_further_4 21 rfl rfl)
theorem dX1_further_117 : decode cX1_further 117 = .ok (.iload 6, 2) := dk_21 6 (dk_at dksX1_further_4 22 rfl rfl)
theorem dX1_further_119 : decode cX1_further 119 = .ok (.iadd, 1) := dk_96 (dk_at dksX1_further_5 0 rfl rfl)
theorem dX1_further_120 : decode cX1_further 120 = .ok (.baload, 1) := dk_51 (dk_at dksX1_further_5 1 rfl rfl)
theorem dX1_further_121 : decode cX1_further 121 = .ok (.ifCond .eq 21, 3) := dk_153 0 21 (dk_at dksX1_further_5 2 rfl rfl)
theorem dX1_further_124 : decode cX1_further 124 = .ok (.aload_n 0, 1) := dk_42 (dk_at dksX1_further_5 5 rfl rfl)
theorem dX1_further_125 : decode cX1_further 125 = .ok (.getfield 78, 3) := dk_180 0 78 (dk_at dksX1_further_5 6 rfl rfl)
theorem dX1_further_128 : decode cX1_further 128 = .ok (.sipush 1024, 3) := dk_17 4 0 (dk_at dksX1_further_5 9 rfl rfl)
theorem dX1_further_131 : decode cX1_further 131 = .ok (.iload 4, 2) := dk_21 4 (dk_at dksX1_further_5 12 rfl rfl)
theorem dX1_further_133 : decode cX1_further 133 = .ok (.imul, 1) := dk_104 (dk_at dksX1_further_5 14 rfl rfl)
theorem dX1_further_134 : decode cX1_further 134 = .ok (.iload 6, 2) := dk_21 6 (dk_at dksX1_further_5 15 rfl rfl)
theorem dX1_further_136 : decode cX1_further 136 = .ok (.iload 5, 2) := dk_21 5 (dk_at dksX1_further_5 17 rfl rfl)
theorem dX1_further_138 : decode cX1_further 138 = .ok (.ior, 1) := dk_128 (dk_at dksX1_further_5 19 rfl rfl)
theorem dX1_further_139 : decode cX1_further 139 = .ok (.iadd, 1) := dk_96 (dk_at dksX1_further_5 20 rfl rfl)
theorem dX1_further_140 : decode cX1_further 140 = .ok (.iconst 1, 1) := dk_4 (dk_at dksX1_further_5 21 rfl rfl)
theorem dX1_further_141 : decode cX1_further 141 = .ok (.bastore, 1) := dk_84 (dk_at dksX1_further_5 22 rfl rfl)
theorem dX1_further_142 : decode cX1_further 142 = .ok (.iinc 6 1, 3) := dk_132 6 1 (dk_at dksX1_further_6 0 rfl rfl)
theorem dX1_further_145 : decode cX1_further 145 = .ok (.goto (-45), 3) := dk_167 255 211 (dk_at dksX1_further_6 3 rfl rfl)
theorem dX1_further_148 : decode cX1_further 148 = .ok (.aload_n 0, 1) := dk_42 (dk_at dksX1_further_6 6 rfl rfl)
theorem dX1_further_149 : decode cX1_further 149 = .ok (.iload_n 3, 1) := dk_29 (dk_at dksX1_further_6 7 rfl rfl)
theorem dX1_further_150 : decode cX1_further 150 = .ok (.iload 4, 2) := dk_21 4 (dk_at dksX1_further_6 8 rfl rfl)
theorem dX1_further_152 : decode cX1_further 152 = .ok (.iconst 1, 1) := dk_4 (dk_at dksX1_further_6 10 rfl rfl)
theorem dX1_further_153 : decode cX1_further 153 = .ok (.iadd, 1) := dk_96 (dk_at dksX1_further_6 11 rfl rfl)
theorem dX1_further_154 : decode cX1_further 154 = .ok (.invokevirtual 344, 3) := dk_182 1 88 (dk_at dksX1_further_6 12 rfl rfl)
theorem dX1_further_157 : decode cX1_further 157 = .ok (.istore 4, 2) := dk_54 4 (dk_at dksX1_further_6 15 rfl rfl)
theorem dX1_further_159 : decode cX1_further 159 = .ok (.goto (-99), 3) := dk_167 255 157 (dk_at dksX1_further_6 17 rfl rfl)
theorem dX1_further_162 : decode cX1_further 162 = .ok (.iinc 3 1, 3) := dk_132 3 1 (dk_at dksX1_further_6 20 rfl rfl)
theorem dX1_further_165 : decode cX1_further 165 = .ok (.goto (-136), 3) := dk_167 255 120 (dk_at dksX1_further_7 0 rfl rfl)
theorem dX1_further_168 : decode cX1_further 168 = .ok (.aload_n 0, 1) := dk_42 (dk_at dksX1_further_7 3 rfl rfl)
theorem dX1_further_169 : decode cX1_further 169 = .ok (.getfield 78, 3) := dk_180 0 78 (dk_at dksX1_further_7 4 rfl rfl)
theorem dX1_further_172 : decode cX1_further 172 = .ok (.iconst 0, 1) := dk_3 (dk_at dksX1_further_7 7 rfl rfl)
theorem dX1_further_173 : decode cX1_further 173 = .ok (.aload_n 0, 1) := dk_42 (dk_at dksX1_further_7 8 rfl rfl)
theorem dX1_further_174 : decode cX1_further 174 = .ok (.getfield 75, 3) := dk_180 0 75 (dk_at dksX1_further_7 9 rfl rfl)
theorem dX1_further_177 : decode cX1_further 177 = .ok (.iconst 0, 1) := dk_3 (dk_at dksX1_further_7 12 rfl rfl)
theorem dX1_further_178 : decode cX1_further 178 = .ok (.sipush 1024, 3) := dk_17 4 0 (dk_at dksX1_further_7 13 rfl rfl)
theorem dX1_further_181 : decode cX1_further 181 = .ok (.aload_n 0, 1) := dk_42 (dk_at dksX1_further_7 16 rfl rfl)
theorem dX1_further_182 : decode cX1_further 182 = .ok (.getfield 290, 3) := dk_180 1 34 (dk_at dksX1_further_7 17 rfl rfl)
theorem dX1_further_185 : decode cX1_further 185 = .ok (.imul, 1) := dk_104 (dk_at dksX1_further_7 20 rfl rfl)
theorem dX1_further_186 : decode cX1_further 186 = .ok (.invokestatic 350, 3) := dk_184 1 94 (dk_at dksX1_further_7 21 rfl rfl)
theorem dX1_further_189 : decode cX1_further 189 = .ok (.return_, 1) := dk_177 (dk_at dksX1_further_8 0 rfl rfl)
abbrev cX1_isAny : ByteArray := prog_1_method_70_code
def yX1_isAny : MethodName := ⟨RX1, "isAny", "(I)Z"⟩
def dkwX1_isAny_1 : List UInt8 := [29, 96, 51, 61, 132, 3, 1, 167, 255, 229, 28, 172]
abbrev dktX1_isAny_1 : List UInt8 := dkwX1_isAny_1 ++ []
def dkwX1_isAny_0 : List UInt8 := [3, 61, 3, 62, 29, 17, 4, 0, 162, 0, 26, 28, 154, 0, 22, 42, 180, 0, 75, 17, 4, 0, 27, 104]
abbrev dktX1_isAny_0 : List UInt8 := dkwX1_isAny_0 ++ dktX1_isAny_1
theorem dksX1_isAny_0 : cX1_isAny.data.toList.drop 0 = dktX1_isAny_0 := by decide +kernel
theorem dksX1_isAny_1 : cX1_isAny.data.toList.drop 24 = dktX1_isAny_1 := dk_seg dksX1_isAny_0 24 rfl rfl
theorem dX1_isAny_0 : decode cX1_isAny 0 = .ok (.iconst 0, 1) := dk_3 (dk_at dksX1_isAny_0 0 rfl rfl)
theorem dX1_isAny_1 : decode cX1_isAny 1 = .ok (.istore_n 2, 1) := dk_61 (dk_at dksX1_isAny_0 1 rfl rfl)
theorem dX1_isAny_2 : decode cX1_isAny 2 = .ok (.iconst 0, 1) := dk_3 (dk_at dksX1_isAny_0 2 rfl rfl)
theorem dX1_isAny_3 : decode cX1_isAny 3 = .ok (.istore_n 3, 1) := dk_62 (dk_at dksX1_isAny_0 3 rfl rfl)
theorem dX1_isAny_4 : decode cX1_isAny 4 = .ok (.iload_n 3, 1) := dk_29 (dk_at dksX1_isAny_0 4 rfl rfl)
theorem dX1_isAny_5 : decode cX1_isAny 5 = .ok (.sipush 1024, 3) := dk_17 4 0 (dk_at dksX1_isAny_0 5 rfl rfl)
theorem dX1_isAny_8 : decode cX1_isAny 8 = .ok (.if_icmp .ge 26, 3) := dk_162 0 26 (dk_at dksX1_isAny_0 8 rfl rfl)
theorem dX1_isAny_11 : decode cX1_isAny 11 = .ok (.iload_n 2, 1) := dk_28 (dk_at dksX1_isAny_0 11 rfl rfl)
theorem dX1_isAny_12 : decode cX1_isAny 12 = .ok (.ifCond .ne 22, 3) := dk_154 0 22 (dk_at dksX1_isAny_0 12 rfl rfl)
theorem dX1_isAny_15 : decode cX1_isAny 15 = .ok (.aload_n 0, 1) := dk_42 (dk_at dksX1_isAny_0 15 rfl rfl)
theorem dX1_isAny_16 : decode cX1_isAny 16 = .ok (.getfield 75, 3) := dk_180 0 75 (dk_at dksX1_isAny_0 16 rfl rfl)
theorem dX1_isAny_19 : decode cX1_isAny 19 = .ok (.sipush 1024, 3) := dk_17 4 0 (dk_at dksX1_isAny_0 19 rfl rfl)
theorem dX1_isAny_22 : decode cX1_isAny 22 = .ok (.iload_n 1, 1) := dk_27 (dk_at dksX1_isAny_0 22 rfl rfl)
theorem dX1_isAny_23 : decode cX1_isAny 23 = .ok (.imul, 1) := dk_104 (dk_at dksX1_isAny_0 23 rfl rfl)
theorem dX1_isAny_24 : decode cX1_isAny 24 = .ok (.iload_n 3, 1) := dk_29 (dk_at dksX1_isAny_1 0 rfl rfl)
theorem dX1_isAny_25 : decode cX1_isAny 25 = .ok (.iadd, 1) := dk_96 (dk_at dksX1_isAny_1 1 rfl rfl)
theorem dX1_isAny_26 : decode cX1_isAny 26 = .ok (.baload, 1) := dk_51 (dk_at dksX1_isAny_1 2 rfl rfl)
theorem dX1_isAny_27 : decode cX1_isAny 27 = .ok (.istore_n 2, 1) := dk_61 (dk_at dksX1_isAny_1 3 rfl rfl)
theorem dX1_isAny_28 : decode cX1_isAny 28 = .ok (.iinc 3 1, 3) := dk_132 3 1 (dk_at dksX1_isAny_1 4 rfl rfl)
theorem dX1_isAny_31 : decode cX1_isAny 31 = .ok (.goto (-27), 3) := dk_167 255 229 (dk_at dksX1_isAny_1 7 rfl rfl)
theorem dX1_isAny_34 : decode cX1_isAny 34 = .ok (.iload_n 2, 1) := dk_28 (dk_at dksX1_isAny_1 10 rfl rfl)
theorem dX1_isAny_35 : decode cX1_isAny 35 = .ok (.ireturn, 1) := dk_172 (dk_at dksX1_isAny_1 11 rfl rfl)
abbrev cX1_nextFrom : ByteArray := prog_1_method_56_code
def yX1_nextFrom : MethodName := ⟨RX1, "nextFrom", "(II)I"⟩
def dkwX1_nextFrom_1 : List UInt8 := [167, 255, 236, 29, 172]
abbrev dktX1_nextFrom_1 : List UInt8 := dkwX1_nextFrom_1 ++ []
def dkwX1_nextFrom_0 : List UInt8 := [28, 62, 29, 42, 180, 1, 34, 162, 0, 18, 42, 27, 29, 182, 1, 45, 154, 0, 9, 132, 3, 1]
abbrev dktX1_nextFrom_0 : List UInt8 := dkwX1_nextFrom_0 ++ dktX1_nextFrom_1
theorem dksX1_nextFrom_0 : cX1_nextFrom.data.toList.drop 0 = dktX1_nextFrom_0 := by decide +kernel
theorem dksX1_nextFrom_1 : cX1_nextFrom.data.toList.drop 22 = dktX1_nextFrom_1 := dk_seg dksX1_nextFrom_0 22 rfl rfl
theorem dX1_nextFrom_0 : decode cX1_nextFrom 0 = .ok (.iload_n 2, 1) := dk_28 (dk_at dksX1_nextFrom_0 0 rfl rfl)
theorem dX1_nextFrom_1 : decode cX1_nextFrom 1 = .ok (.istore_n 3, 1) := dk_62 (dk_at dksX1_nextFrom_0 1 rfl rfl)
theorem dX1_nextFrom_2 : decode cX1_nextFrom 2 = .ok (.iload_n 3, 1) := dk_29 (dk_at dksX1_nextFrom_0 2 rfl rfl)
theorem dX1_nextFrom_3 : decode cX1_nextFrom 3 = .ok (.aload_n 0, 1) := dk_42 (dk_at dksX1_nextFrom_0 3 rfl rfl)
theorem dX1_nextFrom_4 : decode cX1_nextFrom 4 = .ok (.getfield 290, 3) := dk_180 1 34 (dk_at dksX1_nextFrom_0 4 rfl rfl)
theorem dX1_nextFrom_7 : decode cX1_nextFrom 7 = .ok (.if_icmp .ge 18, 3) := dk_162 0 18 (dk_at dksX1_nextFrom_0 7 rfl rfl)
theorem dX1_nextFrom_10 : decode cX1_nextFrom 10 = .ok (.aload_n 0, 1) := dk_42 (dk_at dksX1_nextFrom_0 10 rfl rfl)
theorem dX1_nextFrom_11 : decode cX1_nextFrom 11 = .ok (.iload_n 1, 1) := dk_27 (dk_at dksX1_nextFrom_0 11 rfl rfl)
theorem dX1_nextFrom_12 : decode cX1_nextFrom 12 = .ok (.iload_n 3, 1) := dk_29 (dk_at dksX1_nextFrom_0 12 rfl rfl)
theorem dX1_nextFrom_13 : decode cX1_nextFrom 13 = .ok (.invokevirtual 301, 3) := dk_182 1 45 (dk_at dksX1_nextFrom_0 13 rfl rfl)
theorem dX1_nextFrom_16 : decode cX1_nextFrom 16 = .ok (.ifCond .ne 9, 3) := dk_154 0 9 (dk_at dksX1_nextFrom_0 16 rfl rfl)
theorem dX1_nextFrom_19 : decode cX1_nextFrom 19 = .ok (.iinc 3 1, 3) := dk_132 3 1 (dk_at dksX1_nextFrom_0 19 rfl rfl)
theorem dX1_nextFrom_22 : decode cX1_nextFrom 22 = .ok (.goto (-20), 3) := dk_167 255 236 (dk_at dksX1_nextFrom_1 0 rfl rfl)
theorem dX1_nextFrom_25 : decode cX1_nextFrom 25 = .ok (.iload_n 3, 1) := dk_29 (dk_at dksX1_nextFrom_1 3 rfl rfl)
theorem dX1_nextFrom_26 : decode cX1_nextFrom 26 = .ok (.ireturn, 1) := dk_172 (dk_at dksX1_nextFrom_1 4 rfl rfl)
abbrev cX1_leads : ByteArray := prog_1_method_55_code
def yX1_leads : MethodName := ⟨RX1, "leads", "(II)Z"⟩
def dkwX1_leads_3 : List UInt8 := [167, 255, 210, 29, 172]
abbrev dktX1_leads_3 : List UInt8 := dkwX1_leads_3 ++ []
def dkwX1_leads_2 : List UInt8 := [42, 180, 0, 55, 21, 4, 46, 182, 0, 228, 153, 0, 7, 4, 167, 0, 4, 3, 62, 132, 4, 1]
abbrev dktX1_leads_2 : List UInt8 := dkwX1_leads_2 ++ dktX1_leads_3
def dkwX1_leads_1 : List UInt8 := [21, 4, 42, 180, 1, 31, 162, 0, 43, 29, 153, 0, 31, 42, 180, 0, 109, 42, 180, 0, 52, 21, 4, 46]
abbrev dktX1_leads_1 : List UInt8 := dkwX1_leads_1 ++ dktX1_leads_2
def dkwX1_leads_0 : List UInt8 := [42, 27, 42, 180, 0, 52, 182, 1, 41, 42, 28, 42, 180, 0, 55, 182, 1, 41, 4, 62, 3, 54, 4]
abbrev dktX1_leads_0 : List UInt8 := dkwX1_leads_0 ++ dktX1_leads_1
theorem dksX1_leads_0 : cX1_leads.data.toList.drop 0 = dktX1_leads_0 := by decide +kernel
theorem dksX1_leads_1 : cX1_leads.data.toList.drop 23 = dktX1_leads_1 := dk_seg dksX1_leads_0 23 rfl rfl
theorem dksX1_leads_2 : cX1_leads.data.toList.drop 47 = dktX1_leads_2 := dk_seg dksX1_leads_1 24 rfl rfl
theorem dksX1_leads_3 : cX1_leads.data.toList.drop 69 = dktX1_leads_3 := dk_seg dksX1_leads_2 22 rfl rfl
theorem dX1_leads_0 : decode cX1_leads 0 = .ok (.aload_n 0, 1) := dk_42 (dk_at dksX1_leads_0 0 rfl rfl)
theorem dX1_leads_1 : decode cX1_leads 1 = .ok (.iload_n 1, 1) := dk_27 (dk_at dksX1_leads_0 1 rfl rfl)
theorem dX1_leads_2 : decode cX1_leads 2 = .ok (.aload_n 0, 1) := dk_42 (dk_at dksX1_leads_0 2 rfl rfl)
theorem dX1_leads_3 : decode cX1_leads 3 = .ok (.getfield 52, 3) := dk_180 0 52 (dk_at dksX1_leads_0 3 rfl rfl)
theorem dX1_leads_6 : decode cX1_leads 6 = .ok (.invokevirtual 297, 3) := dk_182 1 41 (dk_at dksX1_leads_0 6 rfl rfl)
theorem dX1_leads_9 : decode cX1_leads 9 = .ok (.aload_n 0, 1) := dk_42 (dk_at dksX1_leads_0 9 rfl rfl)
theorem dX1_leads_10 : decode cX1_leads 10 = .ok (.iload_n 2, 1) := dk_28 (dk_at dksX1_leads_0 10 rfl rfl)
theorem dX1_leads_11 : decode cX1_leads 11 = .ok (.aload_n 0, 1) := dk_42 (dk_at dksX1_leads_0 11 rfl rfl)
theorem dX1_leads_12 : decode cX1_leads 12 = .ok (.getfield 55, 3) := dk_180 0 55 (dk_at dksX1_leads_0 12 rfl rfl)
theorem dX1_leads_15 : decode cX1_leads 15 = .ok (.invokevirtual 297, 3) := dk_182 1 41 (dk_at dksX1_leads_0 15 rfl rfl)
theorem dX1_leads_18 : decode cX1_leads 18 = .ok (.iconst 1, 1) := dk_4 (dk_at dksX1_leads_0 18 rfl rfl)
theorem dX1_leads_19 : decode cX1_leads 19 = .ok (.istore_n 3, 1) := dk_62 (dk_at dksX1_leads_0 19 rfl rfl)
theorem dX1_leads_20 : decode cX1_leads 20 = .ok (.iconst 0, 1) := dk_3 (dk_at dksX1_leads_0 20 rfl rfl)
theorem dX1_leads_21 : decode cX1_leads 21 = .ok (.istore 4, 2) := dk_54 4 (dk_at dksX1_leads_0 21 rfl rfl)
theorem dX1_leads_23 : decode cX1_leads 23 = .ok (.iload 4, 2) := dk_21 4 (dk_at dksX1_leads_1 0 rfl rfl)
theorem dX1_leads_25 : decode cX1_leads 25 = .ok (.aload_n 0, 1) := dk_42 (dk_at dksX1_leads_1 2 rfl rfl)
theorem dX1_leads_26 : decode cX1_leads 26 = .ok (.getfield 287, 3) := dk_180 1 31 (dk_at dksX1_leads_1 3 rfl rfl)
theorem dX1_leads_29 : decode cX1_leads 29 = .ok (.if_icmp .ge 43, 3) := dk_162 0 43 (dk_at dksX1_leads_1 6 rfl rfl)
theorem dX1_leads_32 : decode cX1_leads 32 = .ok (.iload_n 3, 1) := dk_29 (dk_at dksX1_leads_1 9 rfl rfl)
theorem dX1_leads_33 : decode cX1_leads 33 = .ok (.ifCond .eq 31, 3) := dk_153 0 31 (dk_at dksX1_leads_1 10 rfl rfl)
theorem dX1_leads_36 : decode cX1_leads 36 = .ok (.aload_n 0, 1) := dk_42 (dk_at dksX1_leads_1 13 rfl rfl)
theorem dX1_leads_37 : decode cX1_leads 37 = .ok (.getfield 109, 3) := dk_180 0 109 (dk_at dksX1_leads_1 14 rfl rfl)
theorem dX1_leads_40 : decode cX1_leads 40 = .ok (.aload_n 0, 1) := dk_42 (dk_at dksX1_leads_1 17 rfl rfl)
theorem dX1_leads_41 : decode cX1_leads 41 = .ok (.getfield 52, 3) := dk_180 0 52 (dk_at dksX1_leads_1 18 rfl rfl)
theorem dX1_leads_44 : decode cX1_leads 44 = .ok (.iload 4, 2) := dk_21 4 (dk_at dksX1_leads_1 21 rfl rfl)
theorem dX1_leads_46 : decode cX1_leads 46 = .ok (.iaload, 1) := dk_46 (dk_at dksX1_leads_1 23 rfl rfl)
theorem dX1_leads_47 : decode cX1_leads 47 = .ok (.aload_n 0, 1) := dk_42 (dk_at dksX1_leads_2 0 rfl rfl)
theorem dX1_leads_48 : decode cX1_leads 48 = .ok (.getfield 55, 3) := dk_180 0 55 (dk_at dksX1_leads_2 1 rfl rfl)
theorem dX1_leads_51 : decode cX1_leads 51 = .ok (.iload 4, 2) := dk_21 4 (dk_at dksX1_leads_2 4 rfl rfl)
theorem dX1_leads_53 : decode cX1_leads 53 = .ok (.iaload, 1) := dk_46 (dk_at dksX1_leads_2 6 rfl rfl)
theorem dX1_leads_54 : decode cX1_leads 54 = .ok (.invokevirtual 228, 3) := dk_182 0 228 (dk_at dksX1_leads_2 7 rfl rfl)
theorem dX1_leads_57 : decode cX1_leads 57 = .ok (.ifCond .eq 7, 3) := dk_153 0 7 (dk_at dksX1_leads_2 10 rfl rfl)
theorem dX1_leads_60 : decode cX1_leads 60 = .ok (.iconst 1, 1) := dk_4 (dk_at dksX1_leads_2 13 rfl rfl)
theorem dX1_leads_61 : decode cX1_leads 61 = .ok (.goto 4, 3) := dk_167 0 4 (dk_at dksX1_leads_2 14 rfl rfl)
theorem dX1_leads_64 : decode cX1_leads 64 = .ok (.iconst 0, 1) := dk_3 (dk_at dksX1_leads_2 17 rfl rfl)
theorem dX1_leads_65 : decode cX1_leads 65 = .ok (.istore_n 3, 1) := dk_62 (dk_at dksX1_leads_2 18 rfl rfl)
theorem dX1_leads_66 : decode cX1_leads 66 = .ok (.iinc 4 1, 3) := dk_132 4 1 (dk_at dksX1_leads_2 19 rfl rfl)
theorem dX1_leads_69 : decode cX1_leads 69 = .ok (.goto (-46), 3) := dk_167 255 210 (dk_at dksX1_leads_3 0 rfl rfl)
theorem dX1_leads_72 : decode cX1_leads 72 = .ok (.iload_n 3, 1) := dk_29 (dk_at dksX1_leads_3 3 rfl rfl)
theorem dX1_leads_73 : decode cX1_leads 73 = .ok (.ireturn, 1) := dk_172 (dk_at dksX1_leads_3 4 rfl rfl)
abbrev cX1_sleepers : ByteArray := prog_1_method_73_code
def yX1_sleepers : MethodName := ⟨RX1, "sleepers", "(I)I"⟩
def dkwX1_sleepers_3 : List UInt8 := [182, 0, 166, 182, 0, 214, 153, 0, 6, 21, 4, 62, 132, 4, 1, 167, 255, 195, 29, 172]
abbrev dktX1_sleepers_3 : List UInt8 := dkwX1_sleepers_3 ++ []
def dkwX1_sleepers_2 : List UInt8 := [184, 1, 17, 29, 184, 1, 17, 164, 0, 29, 42, 42, 180, 0, 39, 42, 27, 21, 4, 182, 0, 210, 42, 27]
abbrev dktX1_sleepers_2 : List UInt8 := dkwX1_sleepers_2 ++ dktX1_sleepers_3
def dkwX1_sleepers_1 : List UInt8 := [54, 4, 21, 4, 4, 42, 180, 0, 109, 180, 0, 137, 120, 162, 0, 53, 29, 16, 254, 159, 0, 15, 21, 4]
abbrev dktX1_sleepers_1 : List UInt8 := dkwX1_sleepers_1 ++ dktX1_sleepers_2
def dkwX1_sleepers_0 : List UInt8 := [42, 182, 0, 84, 42, 27, 182, 0, 176, 61, 28, 153, 0, 9, 42, 28, 182, 0, 98, 172, 16, 254, 62, 3]
abbrev dktX1_sleepers_0 : List UInt8 := dkwX1_sleepers_0 ++ dktX1_sleepers_1
theorem dksX1_sleepers_0 : cX1_sleepers.data.toList.drop 0 = dktX1_sleepers_0 := by decide +kernel
theorem dksX1_sleepers_1 : cX1_sleepers.data.toList.drop 24 = dktX1_sleepers_1 := dk_seg dksX1_sleepers_0 24 rfl rfl
theorem dksX1_sleepers_2 : cX1_sleepers.data.toList.drop 48 = dktX1_sleepers_2 := dk_seg dksX1_sleepers_1 24 rfl rfl
theorem dksX1_sleepers_3 : cX1_sleepers.data.toList.drop 72 = dktX1_sleepers_3 := dk_seg dksX1_sleepers_2 24 rfl rfl
theorem dX1_sleepers_0 : decode cX1_sleepers 0 = .ok (.aload_n 0, 1) := dk_42 (dk_at dksX1_sleepers_0 0 rfl rfl)
theorem dX1_sleepers_1 : decode cX1_sleepers 1 = .ok (.invokevirtual 84, 3) := dk_182 0 84 (dk_at dksX1_sleepers_0 1 rfl rfl)
theorem dX1_sleepers_4 : decode cX1_sleepers 4 = .ok (.aload_n 0, 1) := dk_42 (dk_at dksX1_sleepers_0 4 rfl rfl)
theorem dX1_sleepers_5 : decode cX1_sleepers 5 = .ok (.iload_n 1, 1) := dk_27 (dk_at dksX1_sleepers_0 5 rfl rfl)
theorem dX1_sleepers_6 : decode cX1_sleepers 6 = .ok (.invokevirtual 176, 3) := dk_182 0 176 (dk_at dksX1_sleepers_0 6 rfl rfl)
theorem dX1_sleepers_9 : decode cX1_sleepers 9 = .ok (.istore_n 2, 1) := dk_61 (dk_at dksX1_sleepers_0 9 rfl rfl)
theorem dX1_sleepers_10 : decode cX1_sleepers 10 = .ok (.iload_n 2, 1) := dk_28 (dk_at dksX1_sleepers_0 10 rfl rfl)
theorem dX1_sleepers_11 : decode cX1_sleepers 11 = .ok (.ifCond .eq 9, 3) := dk_153 0 9 (dk_at dksX1_sleepers_0 11 rfl rfl)
theorem dX1_sleepers_14 : decode cX1_sleepers 14 = .ok (.aload_n 0, 1) := dk_42 (dk_at dksX1_sleepers_0 14 rfl rfl)
theorem dX1_sleepers_15 : decode cX1_sleepers 15 = .ok (.iload_n 2, 1) := dk_28 (dk_at dksX1_sleepers_0 15 rfl rfl)
theorem dX1_sleepers_16 : decode cX1_sleepers 16 = .ok (.invokevirtual 98, 3) := dk_182 0 98 (dk_at dksX1_sleepers_0 16 rfl rfl)
theorem dX1_sleepers_19 : decode cX1_sleepers 19 = .ok (.ireturn, 1) := dk_172 (dk_at dksX1_sleepers_0 19 rfl rfl)
theorem dX1_sleepers_20 : decode cX1_sleepers 20 = .ok (.bipush (-2), 2) := dk_16 254 (dk_at dksX1_sleepers_0 20 rfl rfl)
theorem dX1_sleepers_22 : decode cX1_sleepers 22 = .ok (.istore_n 3, 1) := dk_62 (dk_at dksX1_sleepers_0 22 rfl rfl)
theorem dX1_sleepers_23 : decode cX1_sleepers 23 = .ok (.iconst 0, 1) := dk_3 (dk_at dksX1_sleepers_0 23 rfl rfl)
theorem dX1_sleepers_24 : decode cX1_sleepers 24 = .ok (.istore 4, 2) := dk_54 4 (dk_at dksX1_sleepers_1 0 rfl rfl)
theorem dX1_sleepers_26 : decode cX1_sleepers 26 = .ok (.iload 4, 2) := dk_21 4 (dk_at dksX1_sleepers_1 2 rfl rfl)
theorem dX1_sleepers_28 : decode cX1_sleepers 28 = .ok (.iconst 1, 1) := dk_4 (dk_at dksX1_sleepers_1 4 rfl rfl)
theorem dX1_sleepers_29 : decode cX1_sleepers 29 = .ok (.aload_n 0, 1) := dk_42 (dk_at dksX1_sleepers_1 5 rfl rfl)
theorem dX1_sleepers_30 : decode cX1_sleepers 30 = .ok (.getfield 109, 3) := dk_180 0 109 (dk_at dksX1_sleepers_1 6 rfl rfl)
theorem dX1_sleepers_33 : decode cX1_sleepers 33 = .ok (.getfield 137, 3) := dk_180 0 137 (dk_at dksX1_sleepers_1 9 rfl rfl)
theorem dX1_sleepers_36 : decode cX1_sleepers 36 = .ok (.ishl, 1) := dk_120 (dk_at dksX1_sleepers_1 12 rfl rfl)
theorem dX1_sleepers_37 : decode cX1_sleepers 37 = .ok (.if_icmp .ge 53, 3) := dk_162 0 53 (dk_at dksX1_sleepers_1 13 rfl rfl)
theorem dX1_sleepers_40 : decode cX1_sleepers 40 = .ok (.iload_n 3, 1) := dk_29 (dk_at dksX1_sleepers_1 16 rfl rfl)
theorem dX1_sleepers_41 : decode cX1_sleepers 41 = .ok (.bipush (-2), 2) := dk_16 254 (dk_at dksX1_sleepers_1 17 rfl rfl)
theorem dX1_sleepers_43 : decode cX1_sleepers 43 = .ok (.if_icmp .eq 15, 3) := dk_159 0 15 (dk_at dksX1_sleepers_1 19 rfl rfl)
theorem dX1_sleepers_46 : decode cX1_sleepers 46 = .ok (.iload 4, 2) := dk_21 4 (dk_at dksX1_sleepers_1 22 rfl rfl)
theorem dX1_sleepers_48 : decode cX1_sleepers 48 = .ok (.invokestatic 273, 3) := dk_184 1 17 (dk_at dksX1_sleepers_2 0 rfl rfl)
theorem dX1_sleepers_51 : decode cX1_sleepers 51 = .ok (.iload_n 3, 1) := dk_29 (dk_at dksX1_sleepers_2 3 rfl rfl)
theorem dX1_sleepers_52 : decode cX1_sleepers 52 = .ok (.invokestatic 273, 3) := dk_184 1 17 (dk_at dksX1_sleepers_2 4 rfl rfl)
theorem dX1_sleepers_55 : decode cX1_sleepers 55 = .ok (.if_icmp .le 29, 3) := dk_164 0 29 (dk_at dksX1_sleepers_2 7 rfl rfl)
theorem dX1_sleepers_58 : decode cX1_sleepers 58 = .ok (.aload_n 0, 1) := dk_42 (dk_at dksX1_sleepers_2 10 rfl rfl)
theorem dX1_sleepers_59 : decode cX1_sleepers 59 = .ok (.aload_n 0, 1) := dk_42 (dk_at dksX1_sleepers_2 11 rfl rfl)
theorem dX1_sleepers_60 : decode cX1_sleepers 60 = .ok (.getfield 39, 3) := dk_180 0 39 (dk_at dksX1_sleepers_2 12 rfl rfl)
theorem dX1_sleepers_63 : decode cX1_sleepers 63 = .ok (.aload_n 0, 1) := dk_42 (dk_at dksX1_sleepers_2 15 rfl rfl)
theorem dX1_sleepers_64 : decode cX1_sleepers 64 = .ok (.iload_n 1, 1) := dk_27 (dk_at dksX1_sleepers_2 16 rfl rfl)
theorem dX1_sleepers_65 : decode cX1_sleepers 65 = .ok (.iload 4, 2) := dk_21 4 (dk_at dksX1_sleepers_2 17 rfl rfl)
theorem dX1_sleepers_67 : decode cX1_sleepers 67 = .ok (.invokevirtual 210, 3) := dk_182 0 210 (dk_at dksX1_sleepers_2 19 rfl rfl)
theorem dX1_sleepers_70 : decode cX1_sleepers 70 = .ok (.aload_n 0, 1) := dk_42 (dk_at dksX1_sleepers_2 22 rfl rfl)
theorem dX1_sleepers_71 : decode cX1_sleepers 71 = .ok (.iload_n 1, 1) := dk_27 (dk_at dksX1_sleepers_2 23 rfl rfl)
theorem dX1_sleepers_72 : decode cX1_sleepers 72 = .ok (.invokevirtual 166, 3) := dk_182 0 166 (dk_at dksX1_sleepers_3 0 rfl rfl)
theorem dX1_sleepers_75 : decode cX1_sleepers 75 = .ok (.invokevirtual 214, 3) := dk_182 0 214 (dk_at dksX1_sleepers_3 3 rfl rfl)
theorem dX1_sleepers_78 : decode cX1_sleepers 78 = .ok (.ifCond .eq 6, 3) := dk_153 0 6 (dk_at dksX1_sleepers_3 6 rfl rfl)
theorem dX1_sleepers_81 : decode cX1_sleepers 81 = .ok (.iload 4, 2) := dk_21 4 (dk_at dksX1_sleepers_3 9 rfl rfl)
theorem dX1_sleepers_83 : decode cX1_sleepers 83 = .ok (.istore_n 3, 1) := dk_62 (dk_at dksX1_sleepers_3 11 rfl rfl)
theorem dX1_sleepers_84 : decode cX1_sleepers 84 = .ok (.iinc 4 1, 3) := dk_132 4 1 (dk_at dksX1_sleepers_3 12 rfl rfl)
theorem dX1_sleepers_87 : decode cX1_sleepers 87 = .ok (.goto (-61), 3) := dk_167 255 195 (dk_at dksX1_sleepers_3 15 rfl rfl)
theorem dX1_sleepers_90 : decode cX1_sleepers 90 = .ok (.iload_n 3, 1) := dk_29 (dk_at dksX1_sleepers_3 18 rfl rfl)
theorem dX1_sleepers_91 : decode cX1_sleepers 91 = .ok (.ireturn, 1) := dk_172 (dk_at dksX1_sleepers_3 19 rfl rfl)
abbrev cX1_alone : ByteArray := prog_1_method_75_code
def yX1_alone : MethodName := ⟨RX1, "alone", "(I)I"⟩
def dkwX1_alone_3 : List UInt8 := [132, 3, 1, 167, 255, 206, 28, 172]
abbrev dktX1_alone_3 : List UInt8 := dkwX1_alone_3 ++ []
def dkwX1_alone_2 : List UInt8 := [29, 184, 1, 17, 28, 162, 0, 17, 42, 27, 29, 182, 1, 107, 153, 0, 8, 29, 184, 1, 17, 61]
abbrev dktX1_alone_2 : List UInt8 := dkwX1_alone_2 ++ dktX1_alone_3
def dkwX1_alone_1 : List UInt8 := [42, 180, 0, 109, 182, 0, 179, 163, 0, 45, 29, 184, 1, 17, 5, 163, 0, 31, 28, 16, 254, 159, 0, 11]
abbrev dktX1_alone_1 : List UInt8 := dkwX1_alone_1 ++ dktX1_alone_2
def dkwX1_alone_0 : List UInt8 := [42, 182, 0, 84, 42, 27, 182, 0, 163, 154, 0, 9, 42, 4, 182, 0, 98, 172, 16, 254, 61, 3, 62, 29]
abbrev dktX1_alone_0 : List UInt8 := dkwX1_alone_0 ++ dktX1_alone_1
theorem dksX1_alone_0 : cX1_alone.data.toList.drop 0 = dktX1_alone_0 := by decide +kernel
theorem dksX1_alone_1 : cX1_alone.data.toList.drop 24 = dktX1_alone_1 := dk_seg dksX1_alone_0 24 rfl rfl
theorem dksX1_alone_2 : cX1_alone.data.toList.drop 48 = dktX1_alone_2 := dk_seg dksX1_alone_1 24 rfl rfl
theorem dksX1_alone_3 : cX1_alone.data.toList.drop 70 = dktX1_alone_3 := dk_seg dksX1_alone_2 22 rfl rfl
theorem dX1_alone_0 : decode cX1_alone 0 = .ok (.aload_n 0, 1) := dk_42 (dk_at dksX1_alone_0 0 rfl rfl)
theorem dX1_alone_1 : decode cX1_alone 1 = .ok (.invokevirtual 84, 3) := dk_182 0 84 (dk_at dksX1_alone_0 1 rfl rfl)
theorem dX1_alone_4 : decode cX1_alone 4 = .ok (.aload_n 0, 1) := dk_42 (dk_at dksX1_alone_0 4 rfl rfl)
theorem dX1_alone_5 : decode cX1_alone 5 = .ok (.iload_n 1, 1) := dk_27 (dk_at dksX1_alone_0 5 rfl rfl)
theorem dX1_alone_6 : decode cX1_alone 6 = .ok (.invokevirtual 163, 3) := dk_182 0 163 (dk_at dksX1_alone_0 6 rfl rfl)
theorem dX1_alone_9 : decode cX1_alone 9 = .ok (.ifCond .ne 9, 3) := dk_154 0 9 (dk_at dksX1_alone_0 9 rfl rfl)
theorem dX1_alone_12 : decode cX1_alone 12 = .ok (.aload_n 0, 1) := dk_42 (dk_at dksX1_alone_0 12 rfl rfl)
theorem dX1_alone_13 : decode cX1_alone 13 = .ok (.iconst 1, 1) := dk_4 (dk_at dksX1_alone_0 13 rfl rfl)
theorem dX1_alone_14 : decode cX1_alone 14 = .ok (.invokevirtual 98, 3) := dk_182 0 98 (dk_at dksX1_alone_0 14 rfl rfl)
theorem dX1_alone_17 : decode cX1_alone 17 = .ok (.ireturn, 1) := dk_172 (dk_at dksX1_alone_0 17 rfl rfl)
theorem dX1_alone_18 : decode cX1_alone 18 = .ok (.bipush (-2), 2) := dk_16 254 (dk_at dksX1_alone_0 18 rfl rfl)
theorem dX1_alone_20 : decode cX1_alone 20 = .ok (.istore_n 2, 1) := dk_61 (dk_at dksX1_alone_0 20 rfl rfl)
theorem dX1_alone_21 : decode cX1_alone 21 = .ok (.iconst 0, 1) := dk_3 (dk_at dksX1_alone_0 21 rfl rfl)
theorem dX1_alone_22 : decode cX1_alone 22 = .ok (.istore_n 3, 1) := dk_62 (dk_at dksX1_alone_0 22 rfl rfl)
theorem dX1_alone_23 : decode cX1_alone 23 = .ok (.iload_n 3, 1) := dk_29 (dk_at dksX1_alone_0 23 rfl rfl)
theorem dX1_alone_24 : decode cX1_alone 24 = .ok (.aload_n 0, 1) := dk_42 (dk_at dksX1_alone_1 0 rfl rfl)
theorem dX1_alone_25 : decode cX1_alone 25 = .ok (.getfield 109, 3) := dk_180 0 109 (dk_at dksX1_alone_1 1 rfl rfl)
theorem dX1_alone_28 : decode cX1_alone 28 = .ok (.invokevirtual 179, 3) := dk_182 0 179 (dk_at dksX1_alone_1 4 rfl rfl)
theorem dX1_alone_31 : decode cX1_alone 31 = .ok (.if_icmp .gt 45, 3) := dk_163 0 45 (dk_at dksX1_alone_1 7 rfl rfl)
theorem dX1_alone_34 : decode cX1_alone 34 = .ok (.iload_n 3, 1) := dk_29 (dk_at dksX1_alone_1 10 rfl rfl)
theorem dX1_alone_35 : decode cX1_alone 35 = .ok (.invokestatic 273, 3) := dk_184 1 17 (dk_at dksX1_alone_1 11 rfl rfl)
theorem dX1_alone_38 : decode cX1_alone 38 = .ok (.iconst 2, 1) := dk_5 (dk_at dksX1_alone_1 14 rfl rfl)
theorem dX1_alone_39 : decode cX1_alone 39 = .ok (.if_icmp .gt 31, 3) := dk_163 0 31 (dk_at dksX1_alone_1 15 rfl rfl)
theorem dX1_alone_42 : decode cX1_alone 42 = .ok (.iload_n 2, 1) := dk_28 (dk_at dksX1_alone_1 18 rfl rfl)
theorem dX1_alone_43 : decode cX1_alone 43 = .ok (.bipush (-2), 2) := dk_16 254 (dk_at dksX1_alone_1 19 rfl rfl)
theorem dX1_alone_45 : decode cX1_alone 45 = .ok (.if_icmp .eq 11, 3) := dk_159 0 11 (dk_at dksX1_alone_1 21 rfl rfl)
theorem dX1_alone_48 : decode cX1_alone 48 = .ok (.iload_n 3, 1) := dk_29 (dk_at dksX1_alone_2 0 rfl rfl)
theorem dX1_alone_49 : decode cX1_alone 49 = .ok (.invokestatic 273, 3) := dk_184 1 17 (dk_at dksX1_alone_2 1 rfl rfl)
theorem dX1_alone_52 : decode cX1_alone 52 = .ok (.iload_n 2, 1) := dk_28 (dk_at dksX1_alone_2 4 rfl rfl)
theorem dX1_alone_53 : decode cX1_alone 53 = .ok (.if_icmp .ge 17, 3) := dk_162 0 17 (dk_at dksX1_alone_2 5 rfl rfl)
theorem dX1_alone_56 : decode cX1_alone 56 = .ok (.aload_n 0, 1) := dk_42 (dk_at dksX1_alone_2 8 rfl rfl)
theorem dX1_alone_57 : decode cX1_alone 57 = .ok (.iload_n 1, 1) := dk_27 (dk_at dksX1_alone_2 9 rfl rfl)
theorem dX1_alone_58 : decode cX1_alone 58 = .ok (.iload_n 3, 1) := dk_29 (dk_at dksX1_alone_2 10 rfl rfl)
theorem dX1_alone_59 : decode cX1_alone 59 = .ok (.invokevirtual 363, 3) := dk_182 1 107 (dk_at dksX1_alone_2 11 rfl rfl)
theorem dX1_alone_62 : decode cX1_alone 62 = .ok (.ifCond .eq 8, 3) := dk_153 0 8 (dk_at dksX1_alone_2 14 rfl rfl)
theorem dX1_alone_65 : decode cX1_alone 65 = .ok (.iload_n 3, 1) := dk_29 (dk_at dksX1_alone_2 17 rfl rfl)
theorem dX1_alone_66 : decode cX1_alone 66 = .ok (.invokestatic 273, 3) := dk_184 1 17 (dk_at dksX1_alone_2 18 rfl rfl)
theorem dX1_alone_69 : decode cX1_alone 69 = .ok (.istore_n 2, 1) := dk_61 (dk_at dksX1_alone_2 21 rfl rfl)
theorem dX1_alone_70 : decode cX1_alone 70 = .ok (.iinc 3 1, 3) := dk_132 3 1 (dk_at dksX1_alone_3 0 rfl rfl)
theorem dX1_alone_73 : decode cX1_alone 73 = .ok (.goto (-50), 3) := dk_167 255 206 (dk_at dksX1_alone_3 3 rfl rfl)
theorem dX1_alone_76 : decode cX1_alone 76 = .ok (.iload_n 2, 1) := dk_28 (dk_at dksX1_alone_3 6 rfl rfl)
theorem dX1_alone_77 : decode cX1_alone 77 = .ok (.ireturn, 1) := dk_172 (dk_at dksX1_alone_3 7 rfl rfl)
abbrev cX1_doFor : ByteArray := prog_1_method_74_code
def yX1_doFor : MethodName := ⟨RX1, "doFor", "(II)Z"⟩
def dkwX1_doFor_2 : List UInt8 := [167, 255, 215, 29, 172]
abbrev dktX1_doFor_2 : List UInt8 := dkwX1_doFor_2 ++ []
def dkwX1_doFor_1 : List UInt8 := [182, 0, 166, 180, 0, 170, 27, 46, 28, 126, 153, 0, 7, 4, 167, 0, 4, 3, 62, 132, 4, 1]
abbrev dktX1_doFor_1 : List UInt8 := dkwX1_doFor_1 ++ dktX1_doFor_2
def dkwX1_doFor_0 : List UInt8 := [4, 62, 3, 54, 4, 21, 4, 42, 180, 0, 109, 180, 0, 225, 162, 0, 35, 29, 153, 0, 23, 42, 21, 4]
abbrev dktX1_doFor_0 : List UInt8 := dkwX1_doFor_0 ++ dktX1_doFor_1
theorem dksX1_doFor_0 : cX1_doFor.data.toList.drop 0 = dktX1_doFor_0 := by decide +kernel
theorem dksX1_doFor_1 : cX1_doFor.data.toList.drop 24 = dktX1_doFor_1 := dk_seg dksX1_doFor_0 24 rfl rfl
theorem dksX1_doFor_2 : cX1_doFor.data.toList.drop 46 = dktX1_doFor_2 := dk_seg dksX1_doFor_1 22 rfl rfl
theorem dX1_doFor_0 : decode cX1_doFor 0 = .ok (.iconst 1, 1) := dk_4 (dk_at dksX1_doFor_0 0 rfl rfl)
theorem dX1_doFor_1 : decode cX1_doFor 1 = .ok (.istore_n 3, 1) := dk_62 (dk_at dksX1_doFor_0 1 rfl rfl)
theorem dX1_doFor_2 : decode cX1_doFor 2 = .ok (.iconst 0, 1) := dk_3 (dk_at dksX1_doFor_0 2 rfl rfl)
theorem dX1_doFor_3 : decode cX1_doFor 3 = .ok (.istore 4, 2) := dk_54 4 (dk_at dksX1_doFor_0 3 rfl rfl)
theorem dX1_doFor_5 : decode cX1_doFor 5 = .ok (.iload 4, 2) := dk_21 4 (dk_at dksX1_doFor_0 5 rfl rfl)
theorem dX1_doFor_7 : decode cX1_doFor 7 = .ok (.aload_n 0, 1) := dk_42 (dk_at dksX1_doFor_0 7 rfl rfl)
theorem dX1_doFor_8 : decode cX1_doFor 8 = .ok (.getfield 109, 3) := dk_180 0 109 (dk_at dksX1_doFor_0 8 rfl rfl)
theorem dX1_doFor_11 : decode cX1_doFor 11 = .ok (.getfield 225, 3) := dk_180 0 225 (dk_at dksX1_doFor_0 11 rfl rfl)
theorem dX1_doFor_14 : decode cX1_doFor 14 = .ok (.if_icmp .ge 35, 3) := dk_162 0 35 (dk_at dksX1_doFor_0 14 rfl rfl)
theorem dX1_doFor_17 : decode cX1_doFor 17 = .ok (.iload_n 3, 1) := dk_29 (dk_at dksX1_doFor_0 17 rfl rfl)
theorem dX1_doFor_18 : decode cX1_doFor 18 = .ok (.ifCond .eq 23, 3) := dk_153 0 23 (dk_at dksX1_doFor_0 18 rfl rfl)
theorem dX1_doFor_21 : decode cX1_doFor 21 = .ok (.aload_n 0, 1) := dk_42 (dk_at dksX1_doFor_0 21 rfl rfl)
theorem dX1_doFor_22 : decode cX1_doFor 22 = .ok (.iload 4, 2) := dk_21 4 (dk_at dksX1_doFor_0 22 rfl rfl)
theorem dX1_doFor_24 : decode cX1_doFor 24 = .ok (.invokevirtual 166, 3) := dk_182 0 166 (dk_at dksX1_doFor_1 0 rfl rfl)
theorem dX1_doFor_27 : decode cX1_doFor 27 = .ok (.getfield 170, 3) := dk_180 0 170 (dk_at dksX1_doFor_1 3 rfl rfl)
theorem dX1_doFor_30 : decode cX1_doFor 30 = .ok (.iload_n 1, 1) := dk_27 (dk_at dksX1_doFor_1 6 rfl rfl)
theorem dX1_doFor_31 : decode cX1_doFor 31 = .ok (.iaload, 1) := dk_46 (dk_at dksX1_doFor_1 7 rfl rfl)
theorem dX1_doFor_32 : decode cX1_doFor 32 = .ok (.iload_n 2, 1) := dk_28 (dk_at dksX1_doFor_1 8 rfl rfl)
theorem dX1_doFor_33 : decode cX1_doFor 33 = .ok (.iand, 1) := dk_126 (dk_at dksX1_doFor_1 9 rfl rfl)
theorem dX1_doFor_34 : decode cX1_doFor 34 = .ok (.ifCond .eq 7, 3) := dk_153 0 7 (dk_at dksX1_doFor_1 10 rfl rfl)
theorem dX1_doFor_37 : decode cX1_doFor 37 = .ok (.iconst 1, 1) := dk_4 (dk_at dksX1_doFor_1 13 rfl rfl)
theorem dX1_doFor_38 : decode cX1_doFor 38 = .ok (.goto 4, 3) := dk_167 0 4 (dk_at dksX1_doFor_1 14 rfl rfl)
theorem dX1_doFor_41 : decode cX1_doFor 41 = .ok (.iconst 0, 1) := dk_3 (dk_at dksX1_doFor_1 17 rfl rfl)
theorem dX1_doFor_42 : decode cX1_doFor 42 = .ok (.istore_n 3, 1) := dk_62 (dk_at dksX1_doFor_1 18 rfl rfl)
theorem dX1_doFor_43 : decode cX1_doFor 43 = .ok (.iinc 4 1, 3) := dk_132 4 1 (dk_at dksX1_doFor_1 19 rfl rfl)
theorem dX1_doFor_46 : decode cX1_doFor 46 = .ok (.goto (-41), 3) := dk_167 255 215 (dk_at dksX1_doFor_2 0 rfl rfl)
theorem dX1_doFor_49 : decode cX1_doFor 49 = .ok (.iload_n 3, 1) := dk_29 (dk_at dksX1_doFor_2 3 rfl rfl)
theorem dX1_doFor_50 : decode cX1_doFor 50 = .ok (.ireturn, 1) := dk_172 (dk_at dksX1_doFor_2 4 rfl rfl)
abbrev cX1_glass : ByteArray := prog_1_method_76_code
def yX1_glass : MethodName := ⟨RX1, "glass", "(I)I"⟩
def dkwX1_glass_2 : List UInt8 := [167, 0, 4, 3, 128, 61, 132, 3, 1, 167, 255, 221, 28, 172]
abbrev dktX1_glass_2 : List UInt8 := dkwX1_glass_2 ++ []
def dkwX1_glass_1 : List UInt8 := [180, 0, 109, 180, 0, 150, 162, 0, 30, 28, 42, 27, 4, 29, 120, 182, 1, 107, 153, 0, 9, 4, 29, 120]
abbrev dktX1_glass_1 : List UInt8 := dkwX1_glass_1 ++ dktX1_glass_2
def dkwX1_glass_0 : List UInt8 := [42, 182, 0, 84, 42, 27, 182, 0, 163, 154, 0, 9, 42, 4, 182, 0, 98, 172, 3, 61, 3, 62, 29, 42]
abbrev dktX1_glass_0 : List UInt8 := dkwX1_glass_0 ++ dktX1_glass_1
theorem dksX1_glass_0 : cX1_glass.data.toList.drop 0 = dktX1_glass_0 := by decide +kernel
theorem dksX1_glass_1 : cX1_glass.data.toList.drop 24 = dktX1_glass_1 := dk_seg dksX1_glass_0 24 rfl rfl
theorem dksX1_glass_2 : cX1_glass.data.toList.drop 48 = dktX1_glass_2 := dk_seg dksX1_glass_1 24 rfl rfl
theorem dX1_glass_0 : decode cX1_glass 0 = .ok (.aload_n 0, 1) := dk_42 (dk_at dksX1_glass_0 0 rfl rfl)
theorem dX1_glass_1 : decode cX1_glass 1 = .ok (.invokevirtual 84, 3) := dk_182 0 84 (dk_at dksX1_glass_0 1 rfl rfl)
theorem dX1_glass_4 : decode cX1_glass 4 = .ok (.aload_n 0, 1) := dk_42 (dk_at dksX1_glass_0 4 rfl rfl)
theorem dX1_glass_5 : decode cX1_glass 5 = .ok (.iload_n 1, 1) := dk_27 (dk_at dksX1_glass_0 5 rfl rfl)
theorem dX1_glass_6 : decode cX1_glass 6 = .ok (.invokevirtual 163, 3) := dk_182 0 163 (dk_at dksX1_glass_0 6 rfl rfl)
theorem dX1_glass_9 : decode cX1_glass 9 = .ok (.ifCond .ne 9, 3) := dk_154 0 9 (dk_at dksX1_glass_0 9 rfl rfl)
theorem dX1_glass_12 : decode cX1_glass 12 = .ok (.aload_n 0, 1) := dk_42 (dk_at dksX1_glass_0 12 rfl rfl)
theorem dX1_glass_13 : decode cX1_glass 13 = .ok (.iconst 1, 1) := dk_4 (dk_at dksX1_glass_0 13 rfl rfl)
theorem dX1_glass_14 : decode cX1_glass 14 = .ok (.invokevirtual 98, 3) := dk_182 0 98 (dk_at dksX1_glass_0 14 rfl rfl)
theorem dX1_glass_17 : decode cX1_glass 17 = .ok (.ireturn, 1) := dk_172 (dk_at dksX1_glass_0 17 rfl rfl)
theorem dX1_glass_18 : decode cX1_glass 18 = .ok (.iconst 0, 1) := dk_3 (dk_at dksX1_glass_0 18 rfl rfl)
theorem dX1_glass_19 : decode cX1_glass 19 = .ok (.istore_n 2, 1) := dk_61 (dk_at dksX1_glass_0 19 rfl rfl)
theorem dX1_glass_20 : decode cX1_glass 20 = .ok (.iconst 0, 1) := dk_3 (dk_at dksX1_glass_0 20 rfl rfl)
theorem dX1_glass_21 : decode cX1_glass 21 = .ok (.istore_n 3, 1) := dk_62 (dk_at dksX1_glass_0 21 rfl rfl)
theorem dX1_glass_22 : decode cX1_glass 22 = .ok (.iload_n 3, 1) := dk_29 (dk_at dksX1_glass_0 22 rfl rfl)
theorem dX1_glass_23 : decode cX1_glass 23 = .ok (.aload_n 0, 1) := dk_42 (dk_at dksX1_glass_0 23 rfl rfl)
theorem dX1_glass_24 : decode cX1_glass 24 = .ok (.getfield 109, 3) := dk_180 0 109 (dk_at dksX1_glass_1 0 rfl rfl)
theorem dX1_glass_27 : decode cX1_glass 27 = .ok (.getfield 150, 3) := dk_180 0 150 (dk_at dksX1_glass_1 3 rfl rfl)
theorem dX1_glass_30 : decode cX1_glass 30 = .ok (.if_icmp .ge 30, 3) := dk_162 0 30 (dk_at dksX1_glass_1 6 rfl rfl)
theorem dX1_glass_33 : decode cX1_glass 33 = .ok (.iload_n 2, 1) := dk_28 (dk_at dksX1_glass_1 9 rfl rfl)
theorem dX1_glass_34 : decode cX1_glass 34 = .ok (.aload_n 0, 1) := dk_42 (dk_at dksX1_glass_1 10 rfl rfl)
theorem dX1_glass_35 : decode cX1_glass 35 = .ok (.iload_n 1, 1) := dk_27 (dk_at dksX1_glass_1 11 rfl rfl)
theorem dX1_glass_36 : decode cX1_glass 36 = .ok (.iconst 1, 1) := dk_4 (dk_at dksX1_glass_1 12 rfl rfl)
theorem dX1_glass_37 : decode cX1_glass 37 = .ok (.iload_n 3, 1) := dk_29 (dk_at dksX1_glass_1 13 rfl rfl)
theorem dX1_glass_38 : decode cX1_glass 38 = .ok (.ishl, 1) := dk_120 (dk_at dksX1_glass_1 14 rfl rfl)
theorem dX1_glass_39 : decode cX1_glass 39 = .ok (.invokevirtual 363, 3) := dk_182 1 107 (dk_at dksX1_glass_1 15 rfl rfl)
theorem dX1_glass_42 : decode cX1_glass 42 = .ok (.ifCond .eq 9, 3) := dk_153 0 9 (dk_at dksX1_glass_1 18 rfl rfl)
theorem dX1_glass_45 : decode cX1_glass 45 = .ok (.iconst 1, 1) := dk_4 (dk_at dksX1_glass_1 21 rfl rfl)
theorem dX1_glass_46 : decode cX1_glass 46 = .ok (.iload_n 3, 1) := dk_29 (dk_at dksX1_glass_1 22 rfl rfl)
theorem dX1_glass_47 : decode cX1_glass 47 = .ok (.ishl, 1) := dk_120 (dk_at dksX1_glass_1 23 rfl rfl)
theorem dX1_glass_48 : decode cX1_glass 48 = .ok (.goto 4, 3) := dk_167 0 4 (dk_at dksX1_glass_2 0 rfl rfl)
theorem dX1_glass_51 : decode cX1_glass 51 = .ok (.iconst 0, 1) := dk_3 (dk_at dksX1_glass_2 3 rfl rfl)
theorem dX1_glass_52 : decode cX1_glass 52 = .ok (.ior, 1) := dk_128 (dk_at dksX1_glass_2 4 rfl rfl)
theorem dX1_glass_53 : decode cX1_glass 53 = .ok (.istore_n 2, 1) := dk_61 (dk_at dksX1_glass_2 5 rfl rfl)
theorem dX1_glass_54 : decode cX1_glass 54 = .ok (.iinc 3 1, 3) := dk_132 3 1 (dk_at dksX1_glass_2 6 rfl rfl)
theorem dX1_glass_57 : decode cX1_glass 57 = .ok (.goto (-35), 3) := dk_167 255 221 (dk_at dksX1_glass_2 9 rfl rfl)
theorem dX1_glass_60 : decode cX1_glass 60 = .ok (.iload_n 2, 1) := dk_28 (dk_at dksX1_glass_2 12 rfl rfl)
theorem dX1_glass_61 : decode cX1_glass 61 = .ok (.ireturn, 1) := dk_172 (dk_at dksX1_glass_2 13 rfl rfl)
abbrev cX1_pairs : ByteArray := prog_1_method_77_code
def yX1_pairs : MethodName := ⟨RX1, "pairs", "(I)I"⟩
def dkwX1_pairs_1 : List UInt8 := [182, 0, 166, 42, 180, 0, 109, 180, 0, 150, 182, 1, 110, 172]
abbrev dktX1_pairs_1 : List UInt8 := dkwX1_pairs_1 ++ []
def dkwX1_pairs_0 : List UInt8 := [42, 182, 0, 84, 42, 27, 182, 0, 176, 61, 28, 153, 0, 11, 42, 28, 182, 0, 98, 167, 0, 18, 42, 27]
abbrev dktX1_pairs_0 : List UInt8 := dkwX1_pairs_0 ++ dktX1_pairs_1
theorem dksX1_pairs_0 : cX1_pairs.data.toList.drop 0 = dktX1_pairs_0 := by decide +kernel
theorem dksX1_pairs_1 : cX1_pairs.data.toList.drop 24 = dktX1_pairs_1 := dk_seg dksX1_pairs_0 24 rfl rfl
theorem dX1_pairs_0 : decode cX1_pairs 0 = .ok (.aload_n 0, 1) := dk_42 (dk_at dksX1_pairs_0 0 rfl rfl)
theorem dX1_pairs_1 : decode cX1_pairs 1 = .ok (.invokevirtual 84, 3) := dk_182 0 84 (dk_at dksX1_pairs_0 1 rfl rfl)
theorem dX1_pairs_4 : decode cX1_pairs 4 = .ok (.aload_n 0, 1) := dk_42 (dk_at dksX1_pairs_0 4 rfl rfl)
theorem dX1_pairs_5 : decode cX1_pairs 5 = .ok (.iload_n 1, 1) := dk_27 (dk_at dksX1_pairs_0 5 rfl rfl)
theorem dX1_pairs_6 : decode cX1_pairs 6 = .ok (.invokevirtual 176, 3) := dk_182 0 176 (dk_at dksX1_pairs_0 6 rfl rfl)
theorem dX1_pairs_9 : decode cX1_pairs 9 = .ok (.istore_n 2, 1) := dk_61 (dk_at dksX1_pairs_0 9 rfl rfl)
theorem dX1_pairs_10 : decode cX1_pairs 10 = .ok (.iload_n 2, 1) := dk_28 (dk_at dksX1_pairs_0 10 rfl rfl)
theorem dX1_pairs_11 : decode cX1_pairs 11 = .ok (.ifCond .eq 11, 3) := dk_153 0 11 (dk_at dksX1_pairs_0 11 rfl rfl)
theorem dX1_pairs_14 : decode cX1_pairs 14 = .ok (.aload_n 0, 1) := dk_42 (dk_at dksX1_pairs_0 14 rfl rfl)
theorem dX1_pairs_15 : decode cX1_pairs 15 = .ok (.iload_n 2, 1) := dk_28 (dk_at dksX1_pairs_0 15 rfl rfl)
theorem dX1_pairs_16 : decode cX1_pairs 16 = .ok (.invokevirtual 98, 3) := dk_182 0 98 (dk_at dksX1_pairs_0 16 rfl rfl)
theorem dX1_pairs_19 : decode cX1_pairs 19 = .ok (.goto 18, 3) := dk_167 0 18 (dk_at dksX1_pairs_0 19 rfl rfl)
theorem dX1_pairs_22 : decode cX1_pairs 22 = .ok (.aload_n 0, 1) := dk_42 (dk_at dksX1_pairs_0 22 rfl rfl)
theorem dX1_pairs_23 : decode cX1_pairs 23 = .ok (.iload_n 1, 1) := dk_27 (dk_at dksX1_pairs_0 23 rfl rfl)
theorem dX1_pairs_24 : decode cX1_pairs 24 = .ok (.invokevirtual 166, 3) := dk_182 0 166 (dk_at dksX1_pairs_1 0 rfl rfl)
theorem dX1_pairs_27 : decode cX1_pairs 27 = .ok (.aload_n 0, 1) := dk_42 (dk_at dksX1_pairs_1 3 rfl rfl)
theorem dX1_pairs_28 : decode cX1_pairs 28 = .ok (.getfield 109, 3) := dk_180 0 109 (dk_at dksX1_pairs_1 4 rfl rfl)
theorem dX1_pairs_31 : decode cX1_pairs 31 = .ok (.getfield 150, 3) := dk_180 0 150 (dk_at dksX1_pairs_1 7 rfl rfl)
theorem dX1_pairs_34 : decode cX1_pairs 34 = .ok (.invokevirtual 366, 3) := dk_182 1 110 (dk_at dksX1_pairs_1 10 rfl rfl)
theorem dX1_pairs_37 : decode cX1_pairs 37 = .ok (.ireturn, 1) := dk_172 (dk_at dksX1_pairs_1 13 rfl rfl)
abbrev cX1_window : ByteArray := prog_1_method_81_code
def yX1_window : MethodName := ⟨RX1, "window", "(I)I"⟩
def dkwX1_window_1 : List UInt8 := [182, 1, 125, 172]
abbrev dktX1_window_1 : List UInt8 := dkwX1_window_1 ++ []
def dkwX1_window_0 : List UInt8 := [42, 182, 0, 84, 42, 27, 182, 1, 122, 61, 28, 153, 0, 11, 42, 28, 182, 0, 98, 167, 0, 8, 42, 27]
abbrev dktX1_window_0 : List UInt8 := dkwX1_window_0 ++ dktX1_window_1
theorem dksX1_window_0 : cX1_window.data.toList.drop 0 = dktX1_window_0 := by decide +kernel
theorem dksX1_window_1 : cX1_window.data.toList.drop 24 = dktX1_window_1 := dk_seg dksX1_window_0 24 rfl rfl
theorem dX1_window_0 : decode cX1_window 0 = .ok (.aload_n 0, 1) := dk_42 (dk_at dksX1_window_0 0 rfl rfl)
theorem dX1_window_1 : decode cX1_window 1 = .ok (.invokevirtual 84, 3) := dk_182 0 84 (dk_at dksX1_window_0 1 rfl rfl)
theorem dX1_window_4 : decode cX1_window 4 = .ok (.aload_n 0, 1) := dk_42 (dk_at dksX1_window_0 4 rfl rfl)
theorem dX1_window_5 : decode cX1_window 5 = .ok (.iload_n 1, 1) := dk_27 (dk_at dksX1_window_0 5 rfl rfl)
theorem dX1_window_6 : decode cX1_window 6 = .ok (.invokevirtual 378, 3) := dk_182 1 122 (dk_at dksX1_window_0 6 rfl rfl)
theorem dX1_window_9 : decode cX1_window 9 = .ok (.istore_n 2, 1) := dk_61 (dk_at dksX1_window_0 9 rfl rfl)
theorem dX1_window_10 : decode cX1_window 10 = .ok (.iload_n 2, 1) := dk_28 (dk_at dksX1_window_0 10 rfl rfl)
theorem dX1_window_11 : decode cX1_window 11 = .ok (.ifCond .eq 11, 3) := dk_153 0 11 (dk_at dksX1_window_0 11 rfl rfl)
theorem dX1_window_14 : decode cX1_window 14 = .ok (.aload_n 0, 1) := dk_42 (dk_at dksX1_window_0 14 rfl rfl)
theorem dX1_window_15 : decode cX1_window 15 = .ok (.iload_n 2, 1) := dk_28 (dk_at dksX1_window_0 15 rfl rfl)
theorem dX1_window_16 : decode cX1_window 16 = .ok (.invokevirtual 98, 3) := dk_182 0 98 (dk_at dksX1_window_0 16 rfl rfl)
theorem dX1_window_19 : decode cX1_window 19 = .ok (.goto 8, 3) := dk_167 0 8 (dk_at dksX1_window_0 19 rfl rfl)
theorem dX1_window_22 : decode cX1_window 22 = .ok (.aload_n 0, 1) := dk_42 (dk_at dksX1_window_0 22 rfl rfl)
theorem dX1_window_23 : decode cX1_window 23 = .ok (.iload_n 1, 1) := dk_27 (dk_at dksX1_window_0 23 rfl rfl)
theorem dX1_window_24 : decode cX1_window 24 = .ok (.invokevirtual 381, 3) := dk_182 1 125 (dk_at dksX1_window_1 0 rfl rfl)
theorem dX1_window_27 : decode cX1_window 27 = .ok (.ireturn, 1) := dk_172 (dk_at dksX1_window_1 3 rfl rfl)
abbrev cX1_windowWhy : ByteArray := prog_1_method_80_code
def yX1_windowWhy : MethodName := ⟨RX1, "windowWhy", "(I)I"⟩
def dkwX1_windowWhy_1 : List UInt8 := [16, 6, 167, 0, 4, 3, 172]
abbrev dktX1_windowWhy_1 : List UInt8 := dkwX1_windowWhy_1 ++ []
def dkwX1_windowWhy_0 : List UInt8 := [42, 27, 182, 0, 176, 61, 28, 153, 0, 7, 28, 167, 0, 19, 42, 180, 0, 109, 180, 1, 116, 154, 0, 8]
abbrev dktX1_windowWhy_0 : List UInt8 := dkwX1_windowWhy_0 ++ dktX1_windowWhy_1
theorem dksX1_windowWhy_0 : cX1_windowWhy.data.toList.drop 0 = dktX1_windowWhy_0 := by decide +kernel
theorem dksX1_windowWhy_1 : cX1_windowWhy.data.toList.drop 24 = dktX1_windowWhy_1 := dk_seg dksX1_windowWhy_0 24 rfl rfl
theorem dX1_windowWhy_0 : decode cX1_windowWhy 0 = .ok (.aload_n 0, 1) := dk_42 (dk_at dksX1_windowWhy_0 0 rfl rfl)
theorem dX1_windowWhy_1 : decode cX1_windowWhy 1 = .ok (.iload_n 1, 1) := dk_27 (dk_at dksX1_windowWhy_0 1 rfl rfl)
theorem dX1_windowWhy_2 : decode cX1_windowWhy 2 = .ok (.invokevirtual 176, 3) := dk_182 0 176 (dk_at dksX1_windowWhy_0 2 rfl rfl)
theorem dX1_windowWhy_5 : decode cX1_windowWhy 5 = .ok (.istore_n 2, 1) := dk_61 (dk_at dksX1_windowWhy_0 5 rfl rfl)
theorem dX1_windowWhy_6 : decode cX1_windowWhy 6 = .ok (.iload_n 2, 1) := dk_28 (dk_at dksX1_windowWhy_0 6 rfl rfl)
theorem dX1_windowWhy_7 : decode cX1_windowWhy 7 = .ok (.ifCond .eq 7, 3) := dk_153 0 7 (dk_at dksX1_windowWhy_0 7 rfl rfl)
theorem dX1_windowWhy_10 : decode cX1_windowWhy 10 = .ok (.iload_n 2, 1) := dk_28 (dk_at dksX1_windowWhy_0 10 rfl rfl)
theorem dX1_windowWhy_11 : decode cX1_windowWhy 11 = .ok (.goto 19, 3) := dk_167 0 19 (dk_at dksX1_windowWhy_0 11 rfl rfl)
theorem dX1_windowWhy_14 : decode cX1_windowWhy 14 = .ok (.aload_n 0, 1) := dk_42 (dk_at dksX1_windowWhy_0 14 rfl rfl)
theorem dX1_windowWhy_15 : decode cX1_windowWhy 15 = .ok (.getfield 109, 3) := dk_180 0 109 (dk_at dksX1_windowWhy_0 15 rfl rfl)
theorem dX1_windowWhy_18 : decode cX1_windowWhy 18 = .ok (.getfield 372, 3) := dk_180 1 116 (dk_at dksX1_windowWhy_0 18 rfl rfl)
theorem dX1_windowWhy_21 : decode cX1_windowWhy 21 = .ok (.ifCond .ne 8, 3) := dk_154 0 8 (dk_at dksX1_windowWhy_0 21 rfl rfl)
theorem dX1_windowWhy_24 : decode cX1_windowWhy 24 = .ok (.bipush 6, 2) := dk_16 6 (dk_at dksX1_windowWhy_1 0 rfl rfl)
theorem dX1_windowWhy_26 : decode cX1_windowWhy 26 = .ok (.goto 4, 3) := dk_167 0 4 (dk_at dksX1_windowWhy_1 2 rfl rfl)
theorem dX1_windowWhy_29 : decode cX1_windowWhy 29 = .ok (.iconst 0, 1) := dk_3 (dk_at dksX1_windowWhy_1 5 rfl rfl)
theorem dX1_windowWhy_30 : decode cX1_windowWhy 30 = .ok (.ireturn, 1) := dk_172 (dk_at dksX1_windowWhy_1 6 rfl rfl)
abbrev cX1_bestWindow : ByteArray := prog_1_method_79_code
def yX1_bestWindow : MethodName := ⟨RX1, "bestWindow", "(I)I"⟩
def dkwX1_bestWindow_1 : List UInt8 := [4, 28, 120, 27, 182, 1, 119, 164, 0, 5, 29, 61, 132, 3, 1, 167, 255, 221, 28, 172]
abbrev dktX1_bestWindow_1 : List UInt8 := dkwX1_bestWindow_1 ++ []
def dkwX1_bestWindow_0 : List UInt8 := [3, 61, 4, 62, 29, 42, 180, 0, 109, 180, 1, 116, 162, 0, 30, 42, 4, 29, 120, 27, 182, 1, 119, 42]
abbrev dktX1_bestWindow_0 : List UInt8 := dkwX1_bestWindow_0 ++ dktX1_bestWindow_1
theorem dksX1_bestWindow_0 : cX1_bestWindow.data.toList.drop 0 = dktX1_bestWindow_0 := by decide +kernel
theorem dksX1_bestWindow_1 : cX1_bestWindow.data.toList.drop 24 = dktX1_bestWindow_1 := dk_seg dksX1_bestWindow_0 24 rfl rfl
theorem dX1_bestWindow_0 : decode cX1_bestWindow 0 = .ok (.iconst 0, 1) := dk_3 (dk_at dksX1_bestWindow_0 0 rfl rfl)
theorem dX1_bestWindow_1 : decode cX1_bestWindow 1 = .ok (.istore_n 2, 1) := dk_61 (dk_at dksX1_bestWindow_0 1 rfl rfl)
theorem dX1_bestWindow_2 : decode cX1_bestWindow 2 = .ok (.iconst 1, 1) := dk_4 (dk_at dksX1_bestWindow_0 2 rfl rfl)
theorem dX1_bestWindow_3 : decode cX1_bestWindow 3 = .ok (.istore_n 3, 1) := dk_62 (dk_at dksX1_bestWindow_0 3 rfl rfl)
theorem dX1_bestWindow_4 : decode cX1_bestWindow 4 = .ok (.iload_n 3, 1) := dk_29 (dk_at dksX1_bestWindow_0 4 rfl rfl)
theorem dX1_bestWindow_5 : decode cX1_bestWindow 5 = .ok (.aload_n 0, 1) := dk_42 (dk_at dksX1_bestWindow_0 5 rfl rfl)
theorem dX1_bestWindow_6 : decode cX1_bestWindow 6 = .ok (.getfield 109, 3) := dk_180 0 109 (dk_at dksX1_bestWindow_0 6 rfl rfl)
theorem dX1_bestWindow_9 : decode cX1_bestWindow 9 = .ok (.getfield 372, 3) := dk_180 1 116 (dk_at dksX1_bestWindow_0 9 rfl rfl)
theorem dX1_bestWindow_12 : decode cX1_bestWindow 12 = .ok (.if_icmp .ge 30, 3) := dk_162 0 30 (dk_at dksX1_bestWindow_0 12 rfl rfl)
theorem dX1_bestWindow_15 : decode cX1_bestWindow 15 = .ok (.aload_n 0, 1) := dk_42 (dk_at dksX1_bestWindow_0 15 rfl rfl)
theorem dX1_bestWindow_16 : decode cX1_bestWindow 16 = .ok (.iconst 1, 1) := dk_4 (dk_at dksX1_bestWindow_0 16 rfl rfl)
theorem dX1_bestWindow_17 : decode cX1_bestWindow 17 = .ok (.iload_n 3, 1) := dk_29 (dk_at dksX1_bestWindow_0 17 rfl rfl)
theorem dX1_bestWindow_18 : decode cX1_bestWindow 18 = .ok (.ishl, 1) := dk_120 (dk_at dksX1_bestWindow_0 18 rfl rfl)
theorem dX1_bestWindow_19 : decode cX1_bestWindow 19 = .ok (.iload_n 1, 1) := dk_27 (dk_at dksX1_bestWindow_0 19 rfl rfl)
theorem dX1_bestWindow_20 : decode cX1_bestWindow 20 = .ok (.invokevirtual 375, 3) := dk_182 1 119 (dk_at dksX1_bestWindow_0 20 rfl rfl)
theorem dX1_bestWindow_23 : decode cX1_bestWindow 23 = .ok (.aload_n 0, 1) := dk_42 (dk_at dksX1_bestWindow_0 23 rfl rfl)
theorem dX1_bestWindow_24 : decode cX1_bestWindow 24 = .ok (.iconst 1, 1) := dk_4 (dk_at dksX1_bestWindow_1 0 rfl rfl)
theorem dX1_bestWindow_25 : decode cX1_bestWindow 25 = .ok (.iload_n 2, 1) := dk_28 (dk_at dksX1_bestWindow_1 1 rfl rfl)
theorem dX1_bestWindow_26 : decode cX1_bestWindow 26 = .ok (.ishl, 1) := dk_120 (dk_at dksX1_bestWindow_1 2 rfl rfl)
theorem dX1_bestWindow_27 : decode cX1_bestWindow 27 = .ok (.iload_n 1, 1) := dk_27 (dk_at dksX1_bestWindow_1 3 rfl rfl)
theorem dX1_bestWindow_28 : decode cX1_bestWindow 28 = .ok (.invokevirtual 375, 3) := dk_182 1 119 (dk_at dksX1_bestWindow_1 4 rfl rfl)
theorem dX1_bestWindow_31 : decode cX1_bestWindow 31 = .ok (.if_icmp .le 5, 3) := dk_164 0 5 (dk_at dksX1_bestWindow_1 7 rfl rfl)
theorem dX1_bestWindow_34 : decode cX1_bestWindow 34 = .ok (.iload_n 3, 1) := dk_29 (dk_at dksX1_bestWindow_1 10 rfl rfl)
theorem dX1_bestWindow_35 : decode cX1_bestWindow 35 = .ok (.istore_n 2, 1) := dk_61 (dk_at dksX1_bestWindow_1 11 rfl rfl)
theorem dX1_bestWindow_36 : decode cX1_bestWindow 36 = .ok (.iinc 3 1, 3) := dk_132 3 1 (dk_at dksX1_bestWindow_1 12 rfl rfl)
theorem dX1_bestWindow_39 : decode cX1_bestWindow 39 = .ok (.goto (-35), 3) := dk_167 255 221 (dk_at dksX1_bestWindow_1 15 rfl rfl)
theorem dX1_bestWindow_42 : decode cX1_bestWindow 42 = .ok (.iload_n 2, 1) := dk_28 (dk_at dksX1_bestWindow_1 18 rfl rfl)
theorem dX1_bestWindow_43 : decode cX1_bestWindow 43 = .ok (.ireturn, 1) := dk_172 (dk_at dksX1_bestWindow_1 19 rfl rfl)
abbrev cX1_pairsWith : ByteArray := prog_1_method_78_code
def yX1_pairsWith : MethodName := ⟨RX1, "pairsWith", "(II)I"⟩
def dkwX1_pairsWith_1 : List UInt8 := [180, 0, 36, 42, 180, 0, 109, 180, 0, 150, 182, 1, 110, 172]
abbrev dktX1_pairsWith_1 : List UInt8 := dkwX1_pairsWith_1 ++ []
def dkwX1_pairsWith_0 : List UInt8 := [42, 180, 0, 36, 42, 180, 0, 109, 42, 180, 0, 109, 28, 182, 1, 113, 27, 3, 182, 0, 124, 42]
abbrev dktX1_pairsWith_0 : List UInt8 := dkwX1_pairsWith_0 ++ dktX1_pairsWith_1
theorem dksX1_pairsWith_0 : cX1_pairsWith.data.toList.drop 0 = dktX1_pairsWith_0 := by decide +kernel
theorem dksX1_pairsWith_1 : cX1_pairsWith.data.toList.drop 22 = dktX1_pairsWith_1 := dk_seg dksX1_pairsWith_0 22 rfl rfl
theorem dX1_pairsWith_0 : decode cX1_pairsWith 0 = .ok (.aload_n 0, 1) := dk_42 (dk_at dksX1_pairsWith_0 0 rfl rfl)
theorem dX1_pairsWith_1 : decode cX1_pairsWith 1 = .ok (.getfield 36, 3) := dk_180 0 36 (dk_at dksX1_pairsWith_0 1 rfl rfl)
theorem dX1_pairsWith_4 : decode cX1_pairsWith 4 = .ok (.aload_n 0, 1) := dk_42 (dk_at dksX1_pairsWith_0 4 rfl rfl)
theorem dX1_pairsWith_5 : decode cX1_pairsWith 5 = .ok (.getfield 109, 3) := dk_180 0 109 (dk_at dksX1_pairsWith_0 5 rfl rfl)
theorem dX1_pairsWith_8 : decode cX1_pairsWith 8 = .ok (.aload_n 0, 1) := dk_42 (dk_at dksX1_pairsWith_0 8 rfl rfl)
theorem dX1_pairsWith_9 : decode cX1_pairsWith 9 = .ok (.getfield 109, 3) := dk_180 0 109 (dk_at dksX1_pairsWith_0 9 rfl rfl)
theorem dX1_pairsWith_12 : decode cX1_pairsWith 12 = .ok (.iload_n 2, 1) := dk_28 (dk_at dksX1_pairsWith_0 12 rfl rfl)
theorem dX1_pairsWith_13 : decode cX1_pairsWith 13 = .ok (.invokevirtual 369, 3) := dk_182 1 113 (dk_at dksX1_pairsWith_0 13 rfl rfl)
theorem dX1_pairsWith_16 : decode cX1_pairsWith 16 = .ok (.iload_n 1, 1) := dk_27 (dk_at dksX1_pairsWith_0 16 rfl rfl)
theorem dX1_pairsWith_17 : decode cX1_pairsWith 17 = .ok (.iconst 0, 1) := dk_3 (dk_at dksX1_pairsWith_0 17 rfl rfl)
theorem dX1_pairsWith_18 : decode cX1_pairsWith 18 = .ok (.invokevirtual 124, 3) := dk_182 0 124 (dk_at dksX1_pairsWith_0 18 rfl rfl)
theorem dX1_pairsWith_21 : decode cX1_pairsWith 21 = .ok (.aload_n 0, 1) := dk_42 (dk_at dksX1_pairsWith_0 21 rfl rfl)
theorem dX1_pairsWith_22 : decode cX1_pairsWith 22 = .ok (.getfield 36, 3) := dk_180 0 36 (dk_at dksX1_pairsWith_1 0 rfl rfl)
theorem dX1_pairsWith_25 : decode cX1_pairsWith 25 = .ok (.aload_n 0, 1) := dk_42 (dk_at dksX1_pairsWith_1 3 rfl rfl)
theorem dX1_pairsWith_26 : decode cX1_pairsWith 26 = .ok (.getfield 109, 3) := dk_180 0 109 (dk_at dksX1_pairsWith_1 4 rfl rfl)
theorem dX1_pairsWith_29 : decode cX1_pairsWith 29 = .ok (.getfield 150, 3) := dk_180 0 150 (dk_at dksX1_pairsWith_1 7 rfl rfl)
theorem dX1_pairsWith_32 : decode cX1_pairsWith 32 = .ok (.invokevirtual 366, 3) := dk_182 1 110 (dk_at dksX1_pairsWith_1 10 rfl rfl)
theorem dX1_pairsWith_35 : decode cX1_pairsWith 35 = .ok (.ireturn, 1) := dk_172 (dk_at dksX1_pairsWith_1 13 rfl rfl)
abbrev cX1_frees : ByteArray := prog_1_method_82_code
def yX1_frees : MethodName := ⟨RX1, "frees", "(I)I"⟩
def dkwX1_frees_2 : List UInt8 := [182, 1, 110, 100, 172]
abbrev dktX1_frees_2 : List UInt8 := dkwX1_frees_2 ++ []
def dkwX1_frees_1 : List UInt8 := [42, 27, 182, 1, 125, 120, 27, 182, 1, 119, 42, 27, 182, 0, 166, 42, 180, 0, 109, 180, 0, 150]
abbrev dktX1_frees_1 : List UInt8 := dkwX1_frees_1 ++ dktX1_frees_2
def dkwX1_frees_0 : List UInt8 := [42, 182, 0, 84, 42, 27, 182, 1, 122, 61, 28, 153, 0, 11, 42, 28, 182, 0, 98, 167, 0, 31, 42, 4]
abbrev dktX1_frees_0 : List UInt8 := dkwX1_frees_0 ++ dktX1_frees_1
theorem dksX1_frees_0 : cX1_frees.data.toList.drop 0 = dktX1_frees_0 := by decide +kernel
theorem dksX1_frees_1 : cX1_frees.data.toList.drop 24 = dktX1_frees_1 := dk_seg dksX1_frees_0 24 rfl rfl
theorem dksX1_frees_2 : cX1_frees.data.toList.drop 46 = dktX1_frees_2 := dk_seg dksX1_frees_1 22 rfl rfl
theorem dX1_frees_0 : decode cX1_frees 0 = .ok (.aload_n 0, 1) := dk_42 (dk_at dksX1_frees_0 0 rfl rfl)
theorem dX1_frees_1 : decode cX1_frees 1 = .ok (.invokevirtual 84, 3) := dk_182 0 84 (dk_at dksX1_frees_0 1 rfl rfl)
theorem dX1_frees_4 : decode cX1_frees 4 = .ok (.aload_n 0, 1) := dk_42 (dk_at dksX1_frees_0 4 rfl rfl)
theorem dX1_frees_5 : decode cX1_frees 5 = .ok (.iload_n 1, 1) := dk_27 (dk_at dksX1_frees_0 5 rfl rfl)
theorem dX1_frees_6 : decode cX1_frees 6 = .ok (.invokevirtual 378, 3) := dk_182 1 122 (dk_at dksX1_frees_0 6 rfl rfl)
theorem dX1_frees_9 : decode cX1_frees 9 = .ok (.istore_n 2, 1) := dk_61 (dk_at dksX1_frees_0 9 rfl rfl)
theorem dX1_frees_10 : decode cX1_frees 10 = .ok (.iload_n 2, 1) := dk_28 (dk_at dksX1_frees_0 10 rfl rfl)
theorem dX1_frees_11 : decode cX1_frees 11 = .ok (.ifCond .eq 11, 3) := dk_153 0 11 (dk_at dksX1_frees_0 11 rfl rfl)
theorem dX1_frees_14 : decode cX1_frees 14 = .ok (.aload_n 0, 1) := dk_42 (dk_at dksX1_frees_0 14 rfl rfl)
theorem dX1_frees_15 : decode cX1_frees 15 = .ok (.iload_n 2, 1) := dk_28 (dk_at dksX1_frees_0 15 rfl rfl)
theorem dX1_frees_16 : decode cX1_frees 16 = .ok (.invokevirtual 98, 3) := dk_182 0 98 (dk_at dksX1_frees_0 16 rfl rfl)
theorem dX1_frees_19 : decode cX1_frees 19 = .ok (.goto 31, 3) := dk_167 0 31 (dk_at dksX1_frees_0 19 rfl rfl)
theorem dX1_frees_22 : decode cX1_frees 22 = .ok (.aload_n 0, 1) := dk_42 (dk_at dksX1_frees_0 22 rfl rfl)
theorem dX1_frees_23 : decode cX1_frees 23 = .ok (.iconst 1, 1) := dk_4 (dk_at dksX1_frees_0 23 rfl rfl)
theorem dX1_frees_24 : decode cX1_frees 24 = .ok (.aload_n 0, 1) := dk_42 (dk_at dksX1_frees_1 0 rfl rfl)
theorem dX1_frees_25 : decode cX1_frees 25 = .ok (.iload_n 1, 1) := dk_27 (dk_at dksX1_frees_1 1 rfl rfl)
theorem dX1_frees_26 : decode cX1_frees 26 = .ok (.invokevirtual 381, 3) := dk_182 1 125 (dk_at dksX1_frees_1 2 rfl rfl)
theorem dX1_frees_29 : decode cX1_frees 29 = .ok (.ishl, 1) := dk_120 (dk_at dksX1_frees_1 5 rfl rfl)
theorem dX1_frees_30 : decode cX1_frees 30 = .ok (.iload_n 1, 1) := dk_27 (dk_at dksX1_frees_1 6 rfl rfl)
theorem dX1_frees_31 : decode cX1_frees 31 = .ok (.invokevirtual 375, 3) := dk_182 1 119 (dk_at dksX1_frees_1 7 rfl rfl)
theorem dX1_frees_34 : decode cX1_frees 34 = .ok (.aload_n 0, 1) := dk_42 (dk_at dksX1_frees_1 10 rfl rfl)
theorem dX1_frees_35 : decode cX1_frees 35 = .ok (.iload_n 1, 1) := dk_27 (dk_at dksX1_frees_1 11 rfl rfl)
theorem dX1_frees_36 : decode cX1_frees 36 = .ok (.invokevirtual 166, 3) := dk_182 0 166 (dk_at dksX1_frees_1 12 rfl rfl)
theorem dX1_frees_39 : decode cX1_frees 39 = .ok (.aload_n 0, 1) := dk_42 (dk_at dksX1_frees_1 15 rfl rfl)
theorem dX1_frees_40 : decode cX1_frees 40 = .ok (.getfield 109, 3) := dk_180 0 109 (dk_at dksX1_frees_1 16 rfl rfl)
theorem dX1_frees_43 : decode cX1_frees 43 = .ok (.getfield 150, 3) := dk_180 0 150 (dk_at dksX1_frees_1 19 rfl rfl)
theorem dX1_frees_46 : decode cX1_frees 46 = .ok (.invokevirtual 366, 3) := dk_182 1 110 (dk_at dksX1_frees_2 0 rfl rfl)
theorem dX1_frees_49 : decode cX1_frees 49 = .ok (.isub, 1) := dk_100 (dk_at dksX1_frees_2 3 rfl rfl)
theorem dX1_frees_50 : decode cX1_frees 50 = .ok (.ireturn, 1) := dk_172 (dk_at dksX1_frees_2 4 rfl rfl)
abbrev cX1_tower : ByteArray := prog_1_method_84_code
def yX1_tower : MethodName := ⟨RX1, "tower", "(II)I"⟩
def dkwX1_tower_4 : List UInt8 := [167, 0, 4, 29, 62, 132, 4, 1, 167, 255, 200, 29, 172]
abbrev dktX1_tower_4 : List UInt8 := dkwX1_tower_4 ++ []
def dkwX1_tower_3 : List UInt8 := [182, 1, 134, 42, 29, 42, 180, 0, 109, 28, 182, 1, 113, 27, 96, 182, 1, 134, 164, 0, 8, 21, 4]
abbrev dktX1_tower_3 : List UInt8 := dkwX1_tower_3 ++ dktX1_tower_4
def dkwX1_tower_2 : List UInt8 := [180, 0, 109, 180, 0, 150, 162, 0, 50, 42, 21, 4, 42, 180, 0, 109, 28, 182, 1, 113, 27, 96]
abbrev dktX1_tower_2 : List UInt8 := dkwX1_tower_2 ++ dktX1_tower_3
def dkwX1_tower_1 : List UInt8 := [153, 0, 10, 28, 184, 0, 156, 154, 0, 9, 42, 5, 182, 0, 98, 172, 3, 62, 4, 54, 4, 21, 4, 42]
abbrev dktX1_tower_1 : List UInt8 := dkwX1_tower_1 ++ dktX1_tower_2
def dkwX1_tower_0 : List UInt8 := [42, 182, 0, 84, 42, 180, 0, 109, 199, 0, 9, 42, 4, 182, 0, 98, 172, 27, 3, 16, 19, 184, 0, 94]
abbrev dktX1_tower_0 : List UInt8 := dkwX1_tower_0 ++ dktX1_tower_1
theorem dksX1_tower_0 : cX1_tower.data.toList.drop 0 = dktX1_tower_0 := by decide +kernel
theorem dksX1_tower_1 : cX1_tower.data.toList.drop 24 = dktX1_tower_1 := dk_seg dksX1_tower_0 24 rfl rfl
theorem dksX1_tower_2 : cX1_tower.data.toList.drop 48 = dktX1_tower_2 := dk_seg dksX1_tower_1 24 rfl rfl
theorem dksX1_tower_3 : cX1_tower.data.toList.drop 70 = dktX1_tower_3 := dk_seg dksX1_tower_2 22 rfl rfl
theorem dksX1_tower_4 : cX1_tower.data.toList.drop 93 = dktX1_tower_4 := dk_seg dksX1_tower_3 23 rfl rfl
theorem dX1_tower_0 : decode cX1_tower 0 = .ok (.aload_n 0, 1) := dk_42 (dk_at dksX1_tower_0 0 rfl rfl)
theorem dX1_tower_1 : decode cX1_tower 1 = .ok (.invokevirtual 84, 3) := dk_182 0 84 (dk_at dksX1_tower_0 1 rfl rfl)
theorem dX1_tower_4 : decode cX1_tower 4 = .ok (.aload_n 0, 1) := dk_42 (dk_at dksX1_tower_0 4 rfl rfl)
theorem dX1_tower_5 : decode cX1_tower 5 = .ok (.getfield 109, 3) := dk_180 0 109 (dk_at dksX1_tower_0 5 rfl rfl)
theorem dX1_tower_8 : decode cX1_tower 8 = .ok (.ifnonnull 9, 3) := dk_199 0 9 (dk_at dksX1_tower_0 8 rfl rfl)
theorem dX1_tower_11 : decode cX1_tower 11 = .ok (.aload_n 0, 1) := dk_42 (dk_at dksX1_tower_0 11 rfl rfl)
theorem dX1_tower_12 : decode cX1_tower 12 = .ok (.iconst 1, 1) := dk_4 (dk_at dksX1_tower_0 12 rfl rfl)
theorem dX1_tower_13 : decode cX1_tower 13 = .ok (.invokevirtual 98, 3) := dk_182 0 98 (dk_at dksX1_tower_0 13 rfl rfl)
theorem dX1_tower_16 : decode cX1_tower 16 = .ok (.ireturn, 1) := dk_172 (dk_at dksX1_tower_0 16 rfl rfl)
theorem dX1_tower_17 : decode cX1_tower 17 = .ok (.iload_n 1, 1) := dk_27 (dk_at dksX1_tower_0 17 rfl rfl)
theorem dX1_tower_18 : decode cX1_tower 18 = .ok (.iconst 0, 1) := dk_3 (dk_at dksX1_tower_0 18 rfl rfl)
theorem dX1_tower_19 : decode cX1_tower 19 = .ok (.bipush 19, 2) := dk_16 19 (dk_at dksX1_tower_0 19 rfl rfl)
theorem dX1_tower_21 : decode cX1_tower 21 = .ok (.invokestatic 94, 3) := dk_184 0 94 (dk_at dksX1_tower_0 21 rfl rfl)
theorem dX1_tower_24 : decode cX1_tower 24 = .ok (.ifCond .eq 10, 3) := dk_153 0 10 (dk_at dksX1_tower_1 0 rfl rfl)
theorem dX1_tower_27 : decode cX1_tower 27 = .ok (.iload_n 2, 1) := dk_28 (dk_at dksX1_tower_1 3 rfl rfl)
theorem dX1_tower_28 : decode cX1_tower 28 = .ok (.invokestatic 156, 3) := dk_184 0 156 (dk_at dksX1_tower_1 4 rfl rfl)
theorem dX1_tower_31 : decode cX1_tower 31 = .ok (.ifCond .ne 9, 3) := dk_154 0 9 (dk_at dksX1_tower_1 7 rfl rfl)
theorem dX1_tower_34 : decode cX1_tower 34 = .ok (.aload_n 0, 1) := dk_42 (dk_at dksX1_tower_1 10 rfl rfl)
theorem dX1_tower_35 : decode cX1_tower 35 = .ok (.iconst 2, 1) := dk_5 (dk_at dksX1_tower_1 11 rfl rfl)
theorem dX1_tower_36 : decode cX1_tower 36 = .ok (.invokevirtual 98, 3) := dk_182 0 98 (dk_at dksX1_tower_1 12 rfl rfl)
theorem dX1_tower_39 : decode cX1_tower 39 = .ok (.ireturn, 1) := dk_172 (dk_at dksX1_tower_1 15 rfl rfl)
theorem dX1_tower_40 : decode cX1_tower 40 = .ok (.iconst 0, 1) := dk_3 (dk_at dksX1_tower_1 16 rfl rfl)
theorem dX1_tower_41 : decode cX1_tower 41 = .ok (.istore_n 3, 1) := dk_62 (dk_at dksX1_tower_1 17 rfl rfl)
theorem dX1_tower_42 : decode cX1_tower 42 = .ok (.iconst 1, 1) := dk_4 (dk_at dksX1_tower_1 18 rfl rfl)
theorem dX1_tower_43 : decode cX1_tower 43 = .ok (.istore 4, 2) := dk_54 4 (dk_at dksX1_tower_1 19 rfl rfl)
theorem dX1_tower_45 : decode cX1_tower 45 = .ok (.iload 4, 2) := dk_21 4 (dk_at dksX1_tower_1 21 rfl rfl)
theorem dX1_tower_47 : decode cX1_tower 47 = .ok (.aload_n 0, 1) := dk_42 (dk_at dksX1_tower_1 23 rfl rfl)
theorem dX1_tower_48 : decode cX1_tower 48 = .ok (.getfield 109, 3) := dk_180 0 109 (dk_at dksX1_tower_2 0 rfl rfl)
theorem dX1_tower_51 : decode cX1_tower 51 = .ok (.getfield 150, 3) := dk_180 0 150 (dk_at dksX1_tower_2 3 rfl rfl)
theorem dX1_tower_54 : decode cX1_tower 54 = .ok (.if_icmp .ge 50, 3) := dk_162 0 50 (dk_at dksX1_tower_2 6 rfl rfl)
theorem dX1_tower_57 : decode cX1_tower 57 = .ok (.aload_n 0, 1) := dk_42 (dk_at dksX1_tower_2 9 rfl rfl)
theorem dX1_tower_58 : decode cX1_tower 58 = .ok (.iload 4, 2) := dk_21 4 (dk_at dksX1_tower_2 10 rfl rfl)
theorem dX1_tower_60 : decode cX1_tower 60 = .ok (.aload_n 0, 1) := dk_42 (dk_at dksX1_tower_2 12 rfl rfl)
theorem dX1_tower_61 : decode cX1_tower 61 = .ok (.getfield 109, 3) := dk_180 0 109 (dk_at dksX1_tower_2 13 rfl rfl)
theorem dX1_tower_64 : decode cX1_tower 64 = .ok (.iload_n 2, 1) := dk_28 (dk_at dksX1_tower_2 16 rfl rfl)
theorem dX1_tower_65 : decode cX1_tower 65 = .ok (.invokevirtual 369, 3) := dk_182 1 113 (dk_at dksX1_tower_2 17 rfl rfl)
theorem dX1_tower_68 : decode cX1_tower 68 = .ok (.iload_n 1, 1) := dk_27 (dk_at dksX1_tower_2 20 rfl rfl)
theorem dX1_tower_69 : decode cX1_tower 69 = .ok (.iadd, 1) := dk_96 (dk_at dksX1_tower_2 21 rfl rfl)
theorem dX1_tower_70 : decode cX1_tower 70 = .ok (.invokevirtual 390, 3) := dk_182 1 134 (dk_at dksX1_tower_3 0 rfl rfl)
theorem dX1_tower_73 : decode cX1_tower 73 = .ok (.aload_n 0, 1) := dk_42 (dk_at dksX1_tower_3 3 rfl rfl)
theorem dX1_tower_74 : decode cX1_tower 74 = .ok (.iload_n 3, 1) := dk_29 (dk_at dksX1_tower_3 4 rfl rfl)
theorem dX1_tower_75 : decode cX1_tower 75 = .ok (.aload_n 0, 1) := dk_42 (dk_at dksX1_tower_3 5 rfl rfl)
theorem dX1_tower_76 : decode cX1_tower 76 = .ok (.getfield 109, 3) := dk_180 0 109 (dk_at dksX1_tower_3 6 rfl rfl)
theorem dX1_tower_79 : decode cX1_tower 79 = .ok (.iload_n 2, 1) := dk_28 (dk_at dksX1_tower_3 9 rfl rfl)
theorem dX1_tower_80 : decode cX1_tower 80 = .ok (.invokevirtual 369, 3) := dk_182 1 113 (dk_at dksX1_tower_3 10 rfl rfl)
theorem dX1_tower_83 : decode cX1_tower 83 = .ok (.iload_n 1, 1) := dk_27 (dk_at dksX1_tower_3 13 rfl rfl)
theorem dX1_tower_84 : decode cX1_tower 84 = .ok (.iadd, 1) := dk_96 (dk_at dksX1_tower_3 14 rfl rfl)
theorem dX1_tower_85 : decode cX1_tower 85 = .ok (.invokevirtual 390, 3) := dk_182 1 134 (dk_at dksX1_tower_3 15 rfl rfl)
theorem dX1_tower_88 : decode cX1_tower 88 = .ok (.if_icmp .le 8, 3) := dk_164 0 8 (dk_at dksX1_tower_3 18 rfl rfl)
theorem dX1_tower_91 : decode cX1_tower 91 = .ok (.iload 4, 2) := dk_21 4 (dk_at dksX1_tower_3 21 rfl rfl)
theorem dX1_tower_93 : decode cX1_tower 93 = .ok (.goto 4, 3) := dk_167 0 4 (dk_at dksX1_tower_4 0 rfl rfl)
theorem dX1_tower_96 : decode cX1_tower 96 = .ok (.iload_n 3, 1) := dk_29 (dk_at dksX1_tower_4 3 rfl rfl)
theorem dX1_tower_97 : decode cX1_tower 97 = .ok (.istore_n 3, 1) := dk_62 (dk_at dksX1_tower_4 4 rfl rfl)
theorem dX1_tower_98 : decode cX1_tower 98 = .ok (.iinc 4 1, 3) := dk_132 4 1 (dk_at dksX1_tower_4 5 rfl rfl)
theorem dX1_tower_101 : decode cX1_tower 101 = .ok (.goto (-56), 3) := dk_167 255 200 (dk_at dksX1_tower_4 8 rfl rfl)
theorem dX1_tower_104 : decode cX1_tower 104 = .ok (.iload_n 3, 1) := dk_29 (dk_at dksX1_tower_4 11 rfl rfl)
theorem dX1_tower_105 : decode cX1_tower 105 = .ok (.ireturn, 1) := dk_172 (dk_at dksX1_tower_4 12 rfl rfl)
abbrev cX1_plainFrom : ByteArray := prog_1_method_83_code
def yX1_plainFrom : MethodName := ⟨RX1, "plainFrom", "(II)I"⟩
def dkwX1_plainFrom_2 : List UInt8 := [182, 1, 131, 154, 0, 7, 4, 167, 0, 4, 3, 96, 62, 132, 4, 1, 167, 255, 199, 29, 172]
abbrev dktX1_plainFrom_2 : List UInt8 := dkwX1_plainFrom_2 ++ []
def dkwX1_plainFrom_1 : List UInt8 := [42, 180, 0, 109, 27, 21, 4, 182, 1, 128, 28, 163, 0, 21, 42, 180, 0, 109, 27, 21, 4, 3]
abbrev dktX1_plainFrom_1 : List UInt8 := dkwX1_plainFrom_1 ++ dktX1_plainFrom_2
def dkwX1_plainFrom_0 : List UInt8 := [3, 62, 3, 54, 4, 21, 4, 42, 180, 0, 109, 180, 0, 150, 162, 0, 51, 29, 21, 4, 27, 159, 0, 35]
abbrev dktX1_plainFrom_0 : List UInt8 := dkwX1_plainFrom_0 ++ dktX1_plainFrom_1
theorem dksX1_plainFrom_0 : cX1_plainFrom.data.toList.drop 0 = dktX1_plainFrom_0 := by decide +kernel
theorem dksX1_plainFrom_1 : cX1_plainFrom.data.toList.drop 24 = dktX1_plainFrom_1 := dk_seg dksX1_plainFrom_0 24 rfl rfl
theorem dksX1_plainFrom_2 : cX1_plainFrom.data.toList.drop 46 = dktX1_plainFrom_2 := dk_seg dksX1_plainFrom_1 22 rfl rfl
theorem dX1_plainFrom_0 : decode cX1_plainFrom 0 = .ok (.iconst 0, 1) := dk_3 (dk_at dksX1_plainFrom_0 0 rfl rfl)
theorem dX1_plainFrom_1 : decode cX1_plainFrom 1 = .ok (.istore_n 3, 1) := dk_62 (dk_at dksX1_plainFrom_0 1 rfl rfl)
theorem dX1_plainFrom_2 : decode cX1_plainFrom 2 = .ok (.iconst 0, 1) := dk_3 (dk_at dksX1_plainFrom_0 2 rfl rfl)
theorem dX1_plainFrom_3 : decode cX1_plainFrom 3 = .ok (.istore 4, 2) := dk_54 4 (dk_at dksX1_plainFrom_0 3 rfl rfl)
theorem dX1_plainFrom_5 : decode cX1_plainFrom 5 = .ok (.iload 4, 2) := dk_21 4 (dk_at dksX1_plainFrom_0 5 rfl rfl)
theorem dX1_plainFrom_7 : decode cX1_plainFrom 7 = .ok (.aload_n 0, 1) := dk_42 (dk_at dksX1_plainFrom_0 7 rfl rfl)
theorem dX1_plainFrom_8 : decode cX1_plainFrom 8 = .ok (.getfield 109, 3) := dk_180 0 109 (dk_at dksX1_plainFrom_0 8 rfl rfl)
theorem dX1_plainFrom_11 : decode cX1_plainFrom 11 = .ok (.getfield 150, 3) := dk_180 0 150 (dk_at dksX1_plainFrom_0 11 rfl rfl)
theorem dX1_plainFrom_14 : decode cX1_plainFrom 14 = .ok (.if_icmp .ge 51, 3) := dk_162 0 51 (dk_at dksX1_plainFrom_0 14 rfl rfl)
theorem dX1_plainFrom_17 : decode cX1_plainFrom 17 = .ok (.iload_n 3, 1) := dk_29 (dk_at dksX1_plainFrom_0 17 rfl rfl)
theorem dX1_plainFrom_18 : decode cX1_plainFrom 18 = .ok (.iload 4, 2) := dk_21 4 (dk_at dksX1_plainFrom_0 18 rfl rfl)
theorem dX1_plainFrom_20 : decode cX1_plainFrom 20 = .ok (.iload_n 1, 1) := dk_27 (dk_at dksX1_plainFrom_0 20 rfl rfl)
theorem dX1_plainFrom_21 : decode cX1_plainFrom 21 = .ok (.if_icmp .eq 35, 3) := dk_159 0 35 (dk_at dksX1_plainFrom_0 21 rfl rfl)
theorem dX1_plainFrom_24 : decode cX1_plainFrom 24 = .ok (.aload_n 0, 1) := dk_42 (dk_at dksX1_plainFrom_1 0 rfl rfl)
theorem dX1_plainFrom_25 : decode cX1_plainFrom 25 = .ok (.getfield 109, 3) := dk_180 0 109 (dk_at dksX1_plainFrom_1 1 rfl rfl)
theorem dX1_plainFrom_28 : decode cX1_plainFrom 28 = .ok (.iload_n 1, 1) := dk_27 (dk_at dksX1_plainFrom_1 4 rfl rfl)
theorem dX1_plainFrom_29 : decode cX1_plainFrom 29 = .ok (.iload 4, 2) := dk_21 4 (dk_at dksX1_plainFrom_1 5 rfl rfl)
theorem dX1_plainFrom_31 : decode cX1_plainFrom 31 = .ok (.invokevirtual 384, 3) := dk_182 1 128 (dk_at dksX1_plainFrom_1 7 rfl rfl)
theorem dX1_plainFrom_34 : decode cX1_plainFrom 34 = .ok (.iload_n 2, 1) := dk_28 (dk_at dksX1_plainFrom_1 10 rfl rfl)
theorem dX1_plainFrom_35 : decode cX1_plainFrom 35 = .ok (.if_icmp .gt 21, 3) := dk_163 0 21 (dk_at dksX1_plainFrom_1 11 rfl rfl)
theorem dX1_plainFrom_38 : decode cX1_plainFrom 38 = .ok (.aload_n 0, 1) := dk_42 (dk_at dksX1_plainFrom_1 14 rfl rfl)
theorem dX1_plainFrom_39 : decode cX1_plainFrom 39 = .ok (.getfield 109, 3) := dk_180 0 109 (dk_at dksX1_plainFrom_1 15 rfl rfl)
theorem dX1_plainFrom_42 : decode cX1_plainFrom 42 = .ok (.iload_n 1, 1) := dk_27 (dk_at dksX1_plainFrom_1 18 rfl rfl)
theorem dX1_plainFrom_43 : decode cX1_plainFrom 43 = .ok (.iload 4, 2) := dk_21 4 (dk_at dksX1_plainFrom_1 19 rfl rfl)
theorem dX1_plainFrom_45 : decode cX1_plainFrom 45 = .ok (.iconst 0, 1) := dk_3 (dk_at dksX1_plainFrom_1 21 rfl rfl)
theorem dX1_plainFrom_46 : decode cX1_plainFrom 46 = .ok (.invokevirtual 387, 3) := dk_182 1 131 (dk_at dksX1_plainFrom_2 0 rfl rfl)
theorem dX1_plainFrom_49 : decode cX1_plainFrom 49 = .ok (.ifCond .ne 7, 3) := dk_154 0 7 (dk_at dksX1_plainFrom_2 3 rfl rfl)
theorem dX1_plainFrom_52 : decode cX1_plainFrom 52 = .ok (.iconst 1, 1) := dk_4 (dk_at dksX1_plainFrom_2 6 rfl rfl)
theorem dX1_plainFrom_53 : decode cX1_plainFrom 53 = .ok (.goto 4, 3) := dk_167 0 4 (dk_at dksX1_plainFrom_2 7 rfl rfl)
theorem dX1_plainFrom_56 : decode cX1_plainFrom 56 = .ok (.iconst 0, 1) := dk_3 (dk_at dksX1_plainFrom_2 10 rfl rfl)
theorem dX1_plainFrom_57 : decode cX1_plainFrom 57 = .ok (.iadd, 1) := dk_96 (dk_at dksX1_plainFrom_2 11 rfl rfl)
theorem dX1_plainFrom_58 : decode cX1_plainFrom 58 = .ok (.istore_n 3, 1) := dk_62 (dk_at dksX1_plainFrom_2 12 rfl rfl)
theorem dX1_plainFrom_59 : decode cX1_plainFrom 59 = .ok (.iinc 4 1, 3) := dk_132 4 1 (dk_at dksX1_plainFrom_2 13 rfl rfl)
theorem dX1_plainFrom_62 : decode cX1_plainFrom 62 = .ok (.goto (-57), 3) := dk_167 255 199 (dk_at dksX1_plainFrom_2 16 rfl rfl)
theorem dX1_plainFrom_65 : decode cX1_plainFrom 65 = .ok (.iload_n 3, 1) := dk_29 (dk_at dksX1_plainFrom_2 19 rfl rfl)
theorem dX1_plainFrom_66 : decode cX1_plainFrom 66 = .ok (.ireturn, 1) := dk_172 (dk_at dksX1_plainFrom_2 20 rfl rfl)
abbrev cX1_made : ByteArray := prog_1_method_87_code
def yX1_made : MethodName := ⟨RX1, "made", "(II)I"⟩
def dkwX1_made_1 : List UInt8 := [27, 28, 182, 1, 146, 172]
abbrev dktX1_made_1 : List UInt8 := dkwX1_made_1 ++ []
def dkwX1_made_0 : List UInt8 := [42, 182, 0, 84, 42, 27, 28, 182, 1, 143, 62, 29, 153, 0, 11, 42, 29, 182, 0, 98, 167, 0, 9, 42]
abbrev dktX1_made_0 : List UInt8 := dkwX1_made_0 ++ dktX1_made_1
theorem dksX1_made_0 : cX1_made.data.toList.drop 0 = dktX1_made_0 := by decide +kernel
theorem dksX1_made_1 : cX1_made.data.toList.drop 24 = dktX1_made_1 := dk_seg dksX1_made_0 24 rfl rfl
theorem dX1_made_0 : decode cX1_made 0 = .ok (.aload_n 0, 1) := dk_42 (dk_at dksX1_made_0 0 rfl rfl)
theorem dX1_made_1 : decode cX1_made 1 = .ok (.invokevirtual 84, 3) := dk_182 0 84 (dk_at dksX1_made_0 1 rfl rfl)
theorem dX1_made_4 : decode cX1_made 4 = .ok (.aload_n 0, 1) := dk_42 (dk_at dksX1_made_0 4 rfl rfl)
theorem dX1_made_5 : decode cX1_made 5 = .ok (.iload_n 1, 1) := dk_27 (dk_at dksX1_made_0 5 rfl rfl)
theorem dX1_made_6 : decode cX1_made 6 = .ok (.iload_n 2, 1) := dk_28 (dk_at dksX1_made_0 6 rfl rfl)
theorem dX1_made_7 : decode cX1_made 7 = .ok (.invokevirtual 399, 3) := dk_182 1 143 (dk_at dksX1_made_0 7 rfl rfl)
theorem dX1_made_10 : decode cX1_made 10 = .ok (.istore_n 3, 1) := dk_62 (dk_at dksX1_made_0 10 rfl rfl)
theorem dX1_made_11 : decode cX1_made 11 = .ok (.iload_n 3, 1) := dk_29 (dk_at dksX1_made_0 11 rfl rfl)
theorem dX1_made_12 : decode cX1_made 12 = .ok (.ifCond .eq 11, 3) := dk_153 0 11 (dk_at dksX1_made_0 12 rfl rfl)
theorem dX1_made_15 : decode cX1_made 15 = .ok (.aload_n 0, 1) := dk_42 (dk_at dksX1_made_0 15 rfl rfl)
theorem dX1_made_16 : decode cX1_made 16 = .ok (.iload_n 3, 1) := dk_29 (dk_at dksX1_made_0 16 rfl rfl)
theorem dX1_made_17 : decode cX1_made 17 = .ok (.invokevirtual 98, 3) := dk_182 0 98 (dk_at dksX1_made_0 17 rfl rfl)
theorem dX1_made_20 : decode cX1_made 20 = .ok (.goto 9, 3) := dk_167 0 9 (dk_at dksX1_made_0 20 rfl rfl)
theorem dX1_made_23 : decode cX1_made 23 = .ok (.aload_n 0, 1) := dk_42 (dk_at dksX1_made_0 23 rfl rfl)
theorem dX1_made_24 : decode cX1_made 24 = .ok (.iload_n 1, 1) := dk_27 (dk_at dksX1_made_1 0 rfl rfl)
theorem dX1_made_25 : decode cX1_made 25 = .ok (.iload_n 2, 1) := dk_28 (dk_at dksX1_made_1 1 rfl rfl)
theorem dX1_made_26 : decode cX1_made 26 = .ok (.invokevirtual 402, 3) := dk_182 1 146 (dk_at dksX1_made_1 2 rfl rfl)
theorem dX1_made_29 : decode cX1_made 29 = .ok (.ireturn, 1) := dk_172 (dk_at dksX1_made_1 5 rfl rfl)
abbrev cX1_madeWhy : ByteArray := prog_1_method_86_code
def yX1_madeWhy : MethodName := ⟨RX1, "madeWhy", "(II)I"⟩
def dkwX1_madeWhy_1 : List UInt8 := [184, 0, 94, 153, 0, 14, 28, 184, 0, 156, 153, 0, 7, 3, 167, 0, 4, 5, 172]
abbrev dktX1_madeWhy_1 : List UInt8 := dkwX1_madeWhy_1 ++ []
def dkwX1_madeWhy_0 : List UInt8 := [42, 180, 0, 109, 199, 0, 7, 4, 167, 0, 34, 27, 3, 6, 42, 180, 0, 109, 180, 1, 116, 184, 1, 140]
abbrev dktX1_madeWhy_0 : List UInt8 := dkwX1_madeWhy_0 ++ dktX1_madeWhy_1
theorem dksX1_madeWhy_0 : cX1_madeWhy.data.toList.drop 0 = dktX1_madeWhy_0 := by decide +kernel
theorem dksX1_madeWhy_1 : cX1_madeWhy.data.toList.drop 24 = dktX1_madeWhy_1 := dk_seg dksX1_madeWhy_0 24 rfl rfl
theorem dX1_madeWhy_0 : decode cX1_madeWhy 0 = .ok (.aload_n 0, 1) := dk_42 (dk_at dksX1_madeWhy_0 0 rfl rfl)
theorem dX1_madeWhy_1 : decode cX1_madeWhy 1 = .ok (.getfield 109, 3) := dk_180 0 109 (dk_at dksX1_madeWhy_0 1 rfl rfl)
theorem dX1_madeWhy_4 : decode cX1_madeWhy 4 = .ok (.ifnonnull 7, 3) := dk_199 0 7 (dk_at dksX1_madeWhy_0 4 rfl rfl)
theorem dX1_madeWhy_7 : decode cX1_madeWhy 7 = .ok (.iconst 1, 1) := dk_4 (dk_at dksX1_madeWhy_0 7 rfl rfl)
theorem dX1_madeWhy_8 : decode cX1_madeWhy 8 = .ok (.goto 34, 3) := dk_167 0 34 (dk_at dksX1_madeWhy_0 8 rfl rfl)
theorem dX1_madeWhy_11 : decode cX1_madeWhy 11 = .ok (.iload_n 1, 1) := dk_27 (dk_at dksX1_madeWhy_0 11 rfl rfl)
theorem dX1_madeWhy_12 : decode cX1_madeWhy 12 = .ok (.iconst 0, 1) := dk_3 (dk_at dksX1_madeWhy_0 12 rfl rfl)
theorem dX1_madeWhy_13 : decode cX1_madeWhy 13 = .ok (.iconst 3, 1) := dk_6 (dk_at dksX1_madeWhy_0 13 rfl rfl)
theorem dX1_madeWhy_14 : decode cX1_madeWhy 14 = .ok (.aload_n 0, 1) := dk_42 (dk_at dksX1_madeWhy_0 14 rfl rfl)
theorem dX1_madeWhy_15 : decode cX1_madeWhy 15 = .ok (.getfield 109, 3) := dk_180 0 109 (dk_at dksX1_madeWhy_0 15 rfl rfl)
theorem dX1_madeWhy_18 : decode cX1_madeWhy 18 = .ok (.getfield 372, 3) := dk_180 1 116 (dk_at dksX1_madeWhy_0 18 rfl rfl)
theorem dX1_madeWhy_21 : decode cX1_madeWhy 21 = .ok (.invokestatic 396, 3) := dk_184 1 140 (dk_at dksX1_madeWhy_0 21 rfl rfl)
theorem dX1_madeWhy_24 : decode cX1_madeWhy 24 = .ok (.invokestatic 94, 3) := dk_184 0 94 (dk_at dksX1_madeWhy_1 0 rfl rfl)
theorem dX1_madeWhy_27 : decode cX1_madeWhy 27 = .ok (.ifCond .eq 14, 3) := dk_153 0 14 (dk_at dksX1_madeWhy_1 3 rfl rfl)
theorem dX1_madeWhy_30 : decode cX1_madeWhy 30 = .ok (.iload_n 2, 1) := dk_28 (dk_at dksX1_madeWhy_1 6 rfl rfl)
theorem dX1_madeWhy_31 : decode cX1_madeWhy 31 = .ok (.invokestatic 156, 3) := dk_184 0 156 (dk_at dksX1_madeWhy_1 7 rfl rfl)
theorem dX1_madeWhy_34 : decode cX1_madeWhy 34 = .ok (.ifCond .eq 7, 3) := dk_153 0 7 (dk_at dksX1_madeWhy_1 10 rfl rfl)
theorem dX1_madeWhy_37 : decode cX1_madeWhy 37 = .ok (.iconst 0, 1) := dk_3 (dk_at dksX1_madeWhy_1 13 rfl rfl)
theorem dX1_madeWhy_38 : decode cX1_madeWhy 38 = .ok (.goto 4, 3) := dk_167 0 4 (dk_at dksX1_madeWhy_1 14 rfl rfl)
theorem dX1_madeWhy_41 : decode cX1_madeWhy 41 = .ok (.iconst 2, 1) := dk_5 (dk_at dksX1_madeWhy_1 17 rfl rfl)
theorem dX1_madeWhy_42 : decode cX1_madeWhy 42 = .ok (.ireturn, 1) := dk_172 (dk_at dksX1_madeWhy_1 18 rfl rfl)
abbrev cX1_bestWalls : ByteArray := prog_1_method_85_code
def yX1_bestWalls : MethodName := ⟨RX1, "bestWalls", "(II)I"⟩
def dkwX1_bestWalls_5 : List UInt8 := [181, 1, 137, 132, 4, 1, 167, 255, 148, 29, 172]
abbrev dktX1_bestWalls_5 : List UInt8 := dkwX1_bestWalls_5 ++ []
def dkwX1_bestWalls_4 : List UInt8 := [184, 1, 17, 42, 180, 1, 137, 161, 0, 6, 167, 0, 15, 21, 4, 62, 42, 21, 5, 184, 1, 17]
abbrev dktX1_bestWalls_4 : List UInt8 := dkwX1_bestWalls_4 ++ dktX1_bestWalls_5
def dkwX1_bestWalls_3 : List UInt8 := [180, 0, 36, 182, 1, 27, 54, 5, 21, 5, 16, 254, 159, 0, 36, 29, 16, 254, 159, 0, 18, 21, 5]
abbrev dktX1_bestWalls_3 : List UInt8 := dkwX1_bestWalls_3 ++ dktX1_bestWalls_4
def dkwX1_bestWalls_2 : List UInt8 := [180, 0, 109, 28, 182, 1, 113, 21, 4, 3, 182, 0, 124, 42, 42, 180, 0, 109, 182, 0, 179, 42]
abbrev dktX1_bestWalls_2 : List UInt8 := dkwX1_bestWalls_2 ++ dktX1_bestWalls_3
def dkwX1_bestWalls_1 : List UInt8 := [162, 0, 100, 21, 4, 184, 1, 17, 27, 159, 0, 6, 167, 0, 82, 42, 180, 0, 36, 42, 180, 0, 109, 42]
abbrev dktX1_bestWalls_1 : List UInt8 := dkwX1_bestWalls_1 ++ dktX1_bestWalls_2
def dkwX1_bestWalls_0 : List UInt8 := [16, 254, 62, 42, 16, 254, 181, 1, 137, 3, 54, 4, 21, 4, 4, 42, 180, 0, 109, 180, 1, 116, 120]
abbrev dktX1_bestWalls_0 : List UInt8 := dkwX1_bestWalls_0 ++ dktX1_bestWalls_1
theorem dksX1_bestWalls_0 : cX1_bestWalls.data.toList.drop 0 = dktX1_bestWalls_0 := by decide +kernel
theorem dksX1_bestWalls_1 : cX1_bestWalls.data.toList.drop 23 = dktX1_bestWalls_1 := dk_seg dksX1_bestWalls_0 23 rfl rfl
theorem dksX1_bestWalls_2 : cX1_bestWalls.data.toList.drop 47 = dktX1_bestWalls_2 := dk_seg dksX1_bestWalls_1 24 rfl rfl
theorem dksX1_bestWalls_3 : cX1_bestWalls.data.toList.drop 69 = dktX1_bestWalls_3 := dk_seg dksX1_bestWalls_2 22 rfl rfl
theorem dksX1_bestWalls_4 : cX1_bestWalls.data.toList.drop 92 = dktX1_bestWalls_4 := dk_seg dksX1_bestWalls_3 23 rfl rfl
theorem dksX1_bestWalls_5 : cX1_bestWalls.data.toList.drop 114 = dktX1_bestWalls_5 := dk_seg dksX1_bestWalls_4 22 rfl rfl
theorem dX1_bestWalls_0 : decode cX1_bestWalls 0 = .ok (.bipush (-2), 2) := dk_16 254 (dk_at dksX1_bestWalls_0 0 rfl rfl)
theorem dX1_bestWalls_2 : decode cX1_bestWalls 2 = .ok (.istore_n 3, 1) := dk_62 (dk_at dksX1_bestWalls_0 2 rfl rfl)
theorem dX1_bestWalls_3 : decode cX1_bestWalls 3 = .ok (.aload_n 0, 1) := dk_42 (dk_at dksX1_bestWalls_0 3 rfl rfl)
theorem dX1_bestWalls_4 : decode cX1_bestWalls 4 = .ok (.bipush (-2), 2) := dk_16 254 (dk_at dksX1_bestWalls_0 4 rfl rfl)
theorem dX1_bestWalls_6 : decode cX1_bestWalls 6 = .ok (.putfield 393, 3) := dk_181 1 137 (dk_at dksX1_bestWalls_0 6 rfl rfl)
theorem dX1_bestWalls_9 : decode cX1_bestWalls 9 = .ok (.iconst 0, 1) := dk_3 (dk_at dksX1_bestWalls_0 9 rfl rfl)
theorem dX1_bestWalls_10 : decode cX1_bestWalls 10 = .ok (.istore 4, 2) := dk_54 4 (dk_at dksX1_bestWalls_0 10 rfl rfl)
theorem dX1_bestWalls_12 : decode cX1_bestWalls 12 = .ok (.iload 4, 2) := dk_21 4 (dk_at dksX1_bestWalls_0 12 rfl rfl)
theorem dX1_bestWalls_14 : decode cX1_bestWalls 14 = .ok (.iconst 1, 1) := dk_4 (dk_at dksX1_bestWalls_0 14 rfl rfl)
theorem dX1_bestWalls_15 : decode cX1_bestWalls 15 = .ok (.aload_n 0, 1) := dk_42 (dk_at dksX1_bestWalls_0 15 rfl rfl)
theorem dX1_bestWalls_16 : decode cX1_bestWalls 16 = .ok (.getfield 109, 3) := dk_180 0 109 (dk_at dksX1_bestWalls_0 16 rfl rfl)
theorem dX1_bestWalls_19 : decode cX1_bestWalls 19 = .ok (.getfield 372, 3) := dk_180 1 116 (dk_at dksX1_bestWalls_0 19 rfl rfl)
theorem dX1_bestWalls_22 : decode cX1_bestWalls 22 = .ok (.ishl, 1) := dk_120 (dk_at dksX1_bestWalls_0 22 rfl rfl)
theorem dX1_bestWalls_23 : decode cX1_bestWalls 23 = .ok (.if_icmp .ge 100, 3) := dk_162 0 100 (dk_at dksX1_bestWalls_1 0 rfl rfl)
theorem dX1_bestWalls_26 : decode cX1_bestWalls 26 = .ok (.iload 4, 2) := dk_21 4 (dk_at dksX1_bestWalls_1 3 rfl rfl)
theorem dX1_bestWalls_28 : decode cX1_bestWalls 28 = .ok (.invokestatic 273, 3) := dk_184 1 17 (dk_at dksX1_bestWalls_1 5 rfl rfl)
theorem dX1_bestWalls_31 : decode cX1_bestWalls 31 = .ok (.iload_n 1, 1) := dk_27 (dk_at dksX1_bestWalls_1 8 rfl rfl)
theorem dX1_bestWalls_32 : decode cX1_bestWalls 32 = .ok (.if_icmp .eq 6, 3) := dk_159 0 6 (dk_at dksX1_bestWalls_1 9 rfl rfl)
theorem dX1_bestWalls_35 : decode cX1_bestWalls 35 = .ok (.goto 82, 3) := dk_167 0 82 (dk_at dksX1_bestWalls_1 12 rfl rfl)
theorem dX1_bestWalls_38 : decode cX1_bestWalls 38 = .ok (.aload_n 0, 1) := dk_42 (dk_at dksX1_bestWalls_1 15 rfl rfl)
theorem dX1_bestWalls_39 : decode cX1_bestWalls 39 = .ok (.getfield 36, 3) := dk_180 0 36 (dk_at dksX1_bestWalls_1 16 rfl rfl)
theorem dX1_bestWalls_42 : decode cX1_bestWalls 42 = .ok (.aload_n 0, 1) := dk_42 (dk_at dksX1_bestWalls_1 19 rfl rfl)
theorem dX1_bestWalls_43 : decode cX1_bestWalls 43 = .ok (.getfield 109, 3) := dk_180 0 109 (dk_at dksX1_bestWalls_1 20 rfl rfl)
theorem dX1_bestWalls_46 : decode cX1_bestWalls 46 = .ok (.aload_n 0, 1) := dk_42 (dk_at dksX1_bestWalls_1 23 rfl rfl)
theorem dX1_bestWalls_47 : decode cX1_bestWalls 47 = .ok (.getfield 109, 3) := dk_180 0 109 (dk_at dksX1_bestWalls_2 0 rfl rfl)
theorem dX1_bestWalls_50 : decode cX1_bestWalls 50 = .ok (.iload_n 2, 1) := dk_28 (dk_at dksX1_bestWalls_2 3 rfl rfl)
theorem dX1_bestWalls_51 : decode cX1_bestWalls 51 = .ok (.invokevirtual 369, 3) := dk_182 1 113 (dk_at dksX1_bestWalls_2 4 rfl rfl)
theorem dX1_bestWalls_54 : decode cX1_bestWalls 54 = .ok (.iload 4, 2) := dk_21 4 (dk_at dksX1_bestWalls_2 7 rfl rfl)
theorem dX1_bestWalls_56 : decode cX1_bestWalls 56 = .ok (.iconst 0, 1) := dk_3 (dk_at dksX1_bestWalls_2 9 rfl rfl)
theorem dX1_bestWalls_57 : decode cX1_bestWalls 57 = .ok (.invokevirtual 124, 3) := dk_182 0 124 (dk_at dksX1_bestWalls_2 10 rfl rfl)
theorem dX1_bestWalls_60 : decode cX1_bestWalls 60 = .ok (.aload_n 0, 1) := dk_42 (dk_at dksX1_bestWalls_2 13 rfl rfl)
theorem dX1_bestWalls_61 : decode cX1_bestWalls 61 = .ok (.aload_n 0, 1) := dk_42 (dk_at dksX1_bestWalls_2 14 rfl rfl)
theorem dX1_bestWalls_62 : decode cX1_bestWalls 62 = .ok (.getfield 109, 3) := dk_180 0 109 (dk_at dksX1_bestWalls_2 15 rfl rfl)
theorem dX1_bestWalls_65 : decode cX1_bestWalls 65 = .ok (.invokevirtual 179, 3) := dk_182 0 179 (dk_at dksX1_bestWalls_2 18 rfl rfl)
theorem dX1_bestWalls_68 : decode cX1_bestWalls 68 = .ok (.aload_n 0, 1) := dk_42 (dk_at dksX1_bestWalls_2 21 rfl rfl)
theorem dX1_bestWalls_69 : decode cX1_bestWalls 69 = .ok (.getfield 36, 3) := dk_180 0 36 (dk_at dksX1_bestWalls_3 0 rfl rfl)
theorem dX1_bestWalls_72 : decode cX1_bestWalls 72 = .ok (.invokevirtual 283, 3) := dk_182 1 27 (dk_at dksX1_bestWalls_3 3 rfl rfl)
theorem dX1_bestWalls_75 : decode cX1_bestWalls 75 = .ok (.istore 5, 2) := dk_54 5 (dk_at dksX1_bestWalls_3 6 rfl rfl)
theorem dX1_bestWalls_77 : decode cX1_bestWalls 77 = .ok (.iload 5, 2) := dk_21 5 (dk_at dksX1_bestWalls_3 8 rfl rfl)
theorem dX1_bestWalls_79 : decode cX1_bestWalls 79 = .ok (.bipush (-2), 2) := dk_16 254 (dk_at dksX1_bestWalls_3 10 rfl rfl)
theorem dX1_bestWalls_81 : decode cX1_bestWalls 81 = .ok (.if_icmp .eq 36, 3) := dk_159 0 36 (dk_at dksX1_bestWalls_3 12 rfl rfl)
theorem dX1_bestWalls_84 : decode cX1_bestWalls 84 = .ok (.iload_n 3, 1) := dk_29 (dk_at dksX1_bestWalls_3 15 rfl rfl)
theorem dX1_bestWalls_85 : decode cX1_bestWalls 85 = .ok (.bipush (-2), 2) := dk_16 254 (dk_at dksX1_bestWalls_3 16 rfl rfl)
theorem dX1_bestWalls_87 : decode cX1_bestWalls 87 = .ok (.if_icmp .eq 18, 3) := dk_159 0 18 (dk_at dksX1_bestWalls_3 18 rfl rfl)
theorem dX1_bestWalls_90 : decode cX1_bestWalls 90 = .ok (.iload 5, 2) := dk_21 5 (dk_at dksX1_bestWalls_3 21 rfl rfl)
theorem dX1_bestWalls_92 : decode cX1_bestWalls 92 = .ok (.invokestatic 273, 3) := dk_184 1 17 (dk_at dksX1_bestWalls_4 0 rfl rfl)
theorem dX1_bestWalls_95 : decode cX1_bestWalls 95 = .ok (.aload_n 0, 1) := dk_42 (dk_at dksX1_bestWalls_4 3 rfl rfl)
theorem dX1_bestWalls_96 : decode cX1_bestWalls 96 = .ok (.getfield 393, 3) := dk_180 1 137 (dk_at dksX1_bestWalls_4 4 rfl rfl)
theorem dX1_bestWalls_99 : decode cX1_bestWalls 99 = .ok (.if_icmp .lt 6, 3) := dk_161 0 6 (dk_at dksX1_bestWalls_4 7 rfl rfl)
theorem dX1_bestWalls_102 : decode cX1_bestWalls 102 = .ok (.goto 15, 3) := dk_167 0 15 (dk_at dksX1_bestWalls_4 10 rfl rfl)
theorem dX1_bestWalls_105 : decode cX1_bestWalls 105 = .ok (.iload 4, 2) := dk_21 4 (dk_at dksX1_bestWalls_4 13 rfl rfl)
theorem dX1_bestWalls_107 : decode cX1_bestWalls 107 = .ok (.istore_n 3, 1) := dk_62 (dk_at dksX1_bestWalls_4 15 rfl rfl)
theorem dX1_bestWalls_108 : decode cX1_bestWalls 108 = .ok (.aload_n 0, 1) := dk_42 (dk_at dksX1_bestWalls_4 16 rfl rfl)
theorem dX1_bestWalls_109 : decode cX1_bestWalls 109 = .ok (.iload 5, 2) := dk_21 5 (dk_at dksX1_bestWalls_4 17 rfl rfl)
theorem dX1_bestWalls_111 : decode cX1_bestWalls 111 = .ok (.invokestatic 273, 3) := dk_184 1 17 (dk_at dksX1_bestWalls_4 19 rfl rfl)
theorem dX1_bestWalls_114 : decode cX1_bestWalls 114 = .ok (.putfield 393, 3) := dk_181 1 137 (dk_at dksX1_bestWalls_5 0 rfl rfl)
theorem dX1_bestWalls_117 : decode cX1_bestWalls 117 = .ok (.iinc 4 1, 3) := dk_132 4 1 (dk_at dksX1_bestWalls_5 3 rfl rfl)
theorem dX1_bestWalls_120 : decode cX1_bestWalls 120 = .ok (.goto (-108), 3) := dk_167 255 148 (dk_at dksX1_bestWalls_5 6 rfl rfl)
theorem dX1_bestWalls_123 : decode cX1_bestWalls 123 = .ok (.iload_n 3, 1) := dk_29 (dk_at dksX1_bestWalls_5 9 rfl rfl)
theorem dX1_bestWalls_124 : decode cX1_bestWalls 124 = .ok (.ireturn, 1) := dk_172 (dk_at dksX1_bestWalls_5 10 rfl rfl)
abbrev cX1_needs : ByteArray := prog_1_method_88_code
def yX1_needs : MethodName := ⟨RX1, "needs", "(II)I"⟩
def dkwX1_needs_1 : List UInt8 := [182, 1, 146, 16, 254, 160, 0, 8, 16, 254, 167, 0, 7, 42, 180, 1, 137, 172]
abbrev dktX1_needs_1 : List UInt8 := dkwX1_needs_1 ++ []
def dkwX1_needs_0 : List UInt8 := [42, 182, 0, 84, 42, 27, 28, 182, 1, 143, 62, 29, 153, 0, 9, 42, 29, 182, 0, 98, 172, 42, 27, 28]
abbrev dktX1_needs_0 : List UInt8 := dkwX1_needs_0 ++ dktX1_needs_1
theorem dksX1_needs_0 : cX1_needs.data.toList.drop 0 = dktX1_needs_0 := by decide +kernel
theorem dksX1_needs_1 : cX1_needs.data.toList.drop 24 = dktX1_needs_1 := dk_seg dksX1_needs_0 24 rfl rfl
theorem dX1_needs_0 : decode cX1_needs 0 = .ok (.aload_n 0, 1) := dk_42 (dk_at dksX1_needs_0 0 rfl rfl)
theorem dX1_needs_1 : decode cX1_needs 1 = .ok (.invokevirtual 84, 3) := dk_182 0 84 (dk_at dksX1_needs_0 1 rfl rfl)
theorem dX1_needs_4 : decode cX1_needs 4 = .ok (.aload_n 0, 1) := dk_42 (dk_at dksX1_needs_0 4 rfl rfl)
theorem dX1_needs_5 : decode cX1_needs 5 = .ok (.iload_n 1, 1) := dk_27 (dk_at dksX1_needs_0 5 rfl rfl)
theorem dX1_needs_6 : decode cX1_needs 6 = .ok (.iload_n 2, 1) := dk_28 (dk_at dksX1_needs_0 6 rfl rfl)
theorem dX1_needs_7 : decode cX1_needs 7 = .ok (.invokevirtual 399, 3) := dk_182 1 143 (dk_at dksX1_needs_0 7 rfl rfl)
theorem dX1_needs_10 : decode cX1_needs 10 = .ok (.istore_n 3, 1) := dk_62 (dk_at dksX1_needs_0 10 rfl rfl)
theorem dX1_needs_11 : decode cX1_needs 11 = .ok (.iload_n 3, 1) := dk_29 (dk_at dksX1_needs_0 11 rfl rfl)
theorem dX1_needs_12 : decode cX1_needs 12 = .ok (.ifCond .eq 9, 3) := dk_153 0 9 (dk_at dksX1_needs_0 12 rfl rfl)
theorem dX1_needs_15 : decode cX1_needs 15 = .ok (.aload_n 0, 1) := dk_42 (dk_at dksX1_needs_0 15 rfl rfl)
theorem dX1_needs_16 : decode cX1_needs 16 = .ok (.iload_n 3, 1) := dk_29 (dk_at dksX1_needs_0 16 rfl rfl)
theorem dX1_needs_17 : decode cX1_needs 17 = .ok (.invokevirtual 98, 3) := dk_182 0 98 (dk_at dksX1_needs_0 17 rfl rfl)
theorem dX1_needs_20 : decode cX1_needs 20 = .ok (.ireturn, 1) := dk_172 (dk_at dksX1_needs_0 20 rfl rfl)
theorem dX1_needs_21 : decode cX1_needs 21 = .ok (.aload_n 0, 1) := dk_42 (dk_at dksX1_needs_0 21 rfl rfl)
theorem dX1_needs_22 : decode cX1_needs 22 = .ok (.iload_n 1, 1) := dk_27 (dk_at dksX1_needs_0 22 rfl rfl)
theorem dX1_needs_23 : decode cX1_needs 23 = .ok (.iload_n 2, 1) := dk_28 (dk_at dksX1_needs_0 23 rfl rfl)
theorem dX1_needs_24 : decode cX1_needs 24 = .ok (.invokevirtual 402, 3) := dk_182 1 146 (dk_at dksX1_needs_1 0 rfl rfl)
theorem dX1_needs_27 : decode cX1_needs 27 = .ok (.bipush (-2), 2) := dk_16 254 (dk_at dksX1_needs_1 3 rfl rfl)
theorem dX1_needs_29 : decode cX1_needs 29 = .ok (.if_icmp .ne 8, 3) := dk_160 0 8 (dk_at dksX1_needs_1 5 rfl rfl)
theorem dX1_needs_32 : decode cX1_needs 32 = .ok (.bipush (-2), 2) := dk_16 254 (dk_at dksX1_needs_1 8 rfl rfl)
theorem dX1_needs_34 : decode cX1_needs 34 = .ok (.goto 7, 3) := dk_167 0 7 (dk_at dksX1_needs_1 10 rfl rfl)
theorem dX1_needs_37 : decode cX1_needs 37 = .ok (.aload_n 0, 1) := dk_42 (dk_at dksX1_needs_1 13 rfl rfl)
theorem dX1_needs_38 : decode cX1_needs 38 = .ok (.getfield 393, 3) := dk_180 1 137 (dk_at dksX1_needs_1 14 rfl rfl)
theorem dX1_needs_41 : decode cX1_needs 41 = .ok (.ireturn, 1) := dk_172 (dk_at dksX1_needs_1 17 rfl rfl)
abbrev cX1_fog : ByteArray := prog_1_method_90_code
def yX1_fog : MethodName := ⟨RX1, "fog", "()J"⟩
def dkwX1_fog_5 : List UInt8 := [132, 3, 1, 167, 255, 157, 31, 173]
abbrev dktX1_fog_5 : List UInt8 := dkwX1_fog_5 ++ []
def dkwX1_fog_4 : List UInt8 := [132, 6, 1, 167, 255, 199, 31, 42, 29, 182, 1, 158, 153, 0, 8, 22, 4, 167, 0, 4, 9, 97, 64]
abbrev dktX1_fog_4 : List UInt8 := dkwX1_fog_4 ++ dktX1_fog_5
def dkwX1_fog_3 : List UInt8 := [21, 6, 46, 133, 167, 0, 17, 16, 100, 42, 180, 0, 109, 180, 1, 155, 21, 6, 46, 100, 133, 105, 55, 4]
abbrev dktX1_fog_3 : List UInt8 := dkwX1_fog_3 ++ dktX1_fog_4
def dkwX1_fog_2 : List UInt8 := [180, 1, 149, 162, 0, 51, 22, 4, 29, 21, 6, 184, 0, 189, 153, 0, 17, 42, 180, 0, 109, 180, 1, 155]
abbrev dktX1_fog_2 : List UInt8 := dkwX1_fog_2 ++ dktX1_fog_3
def dkwX1_fog_1 : List UInt8 := [42, 180, 0, 109, 180, 1, 149, 120, 162, 0, 92, 10, 55, 4, 3, 54, 6, 21, 6, 42, 180, 0, 109]
abbrev dktX1_fog_1 : List UInt8 := dkwX1_fog_1 ++ dktX1_fog_2
def dkwX1_fog_0 : List UInt8 := [42, 182, 0, 84, 42, 180, 0, 109, 199, 0, 10, 42, 4, 182, 0, 98, 133, 173, 9, 64, 3, 62, 29, 4]
abbrev dktX1_fog_0 : List UInt8 := dkwX1_fog_0 ++ dktX1_fog_1
theorem dksX1_fog_0 : cX1_fog.data.toList.drop 0 = dktX1_fog_0 := by decide +kernel
theorem dksX1_fog_1 : cX1_fog.data.toList.drop 24 = dktX1_fog_1 := dk_seg dksX1_fog_0 24 rfl rfl
theorem dksX1_fog_2 : cX1_fog.data.toList.drop 47 = dktX1_fog_2 := dk_seg dksX1_fog_1 23 rfl rfl
theorem dksX1_fog_3 : cX1_fog.data.toList.drop 71 = dktX1_fog_3 := dk_seg dksX1_fog_2 24 rfl rfl
theorem dksX1_fog_4 : cX1_fog.data.toList.drop 95 = dktX1_fog_4 := dk_seg dksX1_fog_3 24 rfl rfl
theorem dksX1_fog_5 : cX1_fog.data.toList.drop 118 = dktX1_fog_5 := dk_seg dksX1_fog_4 23 rfl rfl
theorem dX1_fog_0 : decode cX1_fog 0 = .ok (.aload_n 0, 1) := dk_42 (dk_at dksX1_fog_0 0 rfl rfl)
theorem dX1_fog_1 : decode cX1_fog 1 = .ok (.invokevirtual 84, 3) := dk_182 0 84 (dk_at dksX1_fog_0 1 rfl rfl)
theorem dX1_fog_4 : decode cX1_fog 4 = .ok (.aload_n 0, 1) := dk_42 (dk_at dksX1_fog_0 4 rfl rfl)
theorem dX1_fog_5 : decode cX1_fog 5 = .ok (.getfield 109, 3) := dk_180 0 109 (dk_at dksX1_fog_0 5 rfl rfl)
theorem dX1_fog_8 : decode cX1_fog 8 = .ok (.ifnonnull 10, 3) := dk_199 0 10 (dk_at dksX1_fog_0 8 rfl rfl)
theorem dX1_fog_11 : decode cX1_fog 11 = .ok (.aload_n 0, 1) := dk_42 (dk_at dksX1_fog_0 11 rfl rfl)
theorem dX1_fog_12 : decode cX1_fog 12 = .ok (.iconst 1, 1) := dk_4 (dk_at dksX1_fog_0 12 rfl rfl)
theorem dX1_fog_13 : decode cX1_fog 13 = .ok (.invokevirtual 98, 3) := dk_182 0 98 (dk_at dksX1_fog_0 13 rfl rfl)
theorem dX1_fog_16 : decode cX1_fog 16 = .ok (.i2l, 1) := dk_133 (dk_at dksX1_fog_0 16 rfl rfl)
theorem dX1_fog_17 : decode cX1_fog 17 = .ok (.lreturn, 1) := dk_173 (dk_at dksX1_fog_0 17 rfl rfl)
theorem dX1_fog_18 : decode cX1_fog 18 = .ok (.lconst 0, 1) := dk_9 (dk_at dksX1_fog_0 18 rfl rfl)
theorem dX1_fog_19 : decode cX1_fog 19 = .ok (.lstore_n 1, 1) := dk_64 (dk_at dksX1_fog_0 19 rfl rfl)
theorem dX1_fog_20 : decode cX1_fog 20 = .ok (.iconst 0, 1) := dk_3 (dk_at dksX1_fog_0 20 rfl rfl)
theorem dX1_fog_21 : decode cX1_fog 21 = .ok (.istore_n 3, 1) := dk_62 (dk_at dksX1_fog_0 21 rfl rfl)
theorem dX1_fog_22 : decode cX1_fog 22 = .ok (.iload_n 3, 1) := dk_29 (dk_at dksX1_fog_0 22 rfl rfl)
theorem dX1_fog_23 : decode cX1_fog 23 = .ok (.iconst 1, 1) := dk_4 (dk_at dksX1_fog_0 23 rfl rfl)
theorem dX1_fog_24 : decode cX1_fog 24 = .ok (.aload_n 0, 1) := dk_42 (dk_at dksX1_fog_1 0 rfl rfl)
theorem dX1_fog_25 : decode cX1_fog 25 = .ok (.getfield 109, 3) := dk_180 0 109 (dk_at dksX1_fog_1 1 rfl rfl)
theorem dX1_fog_28 : decode cX1_fog 28 = .ok (.getfield 405, 3) := dk_180 1 149 (dk_at dksX1_fog_1 4 rfl rfl)
theorem dX1_fog_31 : decode cX1_fog 31 = .ok (.ishl, 1) := dk_120 (dk_at dksX1_fog_1 7 rfl rfl)
theorem dX1_fog_32 : decode cX1_fog 32 = .ok (.if_icmp .ge 92, 3) := dk_162 0 92 (dk_at dksX1_fog_1 8 rfl rfl)
theorem dX1_fog_35 : decode cX1_fog 35 = .ok (.lconst 1, 1) := dk_10 (dk_at dksX1_fog_1 11 rfl rfl)
theorem dX1_fog_36 : decode cX1_fog 36 = .ok (.lstore 4, 2) := dk_55 4 (dk_at dksX1_fog_1 12 rfl rfl)
theorem dX1_fog_38 : decode cX1_fog 38 = .ok (.iconst 0, 1) := dk_3 (dk_at dksX1_fog_1 14 rfl rfl)
theorem dX1_fog_39 : decode cX1_fog 39 = .ok (.istore 6, 2) := dk_54 6 (dk_at dksX1_fog_1 15 rfl rfl)
theorem dX1_fog_41 : decode cX1_fog 41 = .ok (.iload 6, 2) := dk_21 6 (dk_at dksX1_fog_1 17 rfl rfl)
theorem dX1_fog_43 : decode cX1_fog 43 = .ok (.aload_n 0, 1) := dk_42 (dk_at dksX1_fog_1 19 rfl rfl)
theorem dX1_fog_44 : decode cX1_fog 44 = .ok (.getfield 109, 3) := dk_180 0 109 (dk_at dksX1_fog_1 20 rfl rfl)
theorem dX1_fog_47 : decode cX1_fog 47 = .ok (.getfield 405, 3) := dk_180 1 149 (dk_at dksX1_fog_2 0 rfl rfl)
theorem dX1_fog_50 : decode cX1_fog 50 = .ok (.if_icmp .ge 51, 3) := dk_162 0 51 (dk_at dksX1_fog_2 3 rfl rfl)
theorem dX1_fog_53 : decode cX1_fog 53 = .ok (.lload 4, 2) := dk_22 4 (dk_at dksX1_fog_2 6 rfl rfl)
theorem dX1_fog_55 : decode cX1_fog 55 = .ok (.iload_n 3, 1) := dk_29 (dk_at dksX1_fog_2 8 rfl rfl)
theorem dX1_fog_56 : decode cX1_fog 56 = .ok (.iload 6, 2) := dk_21 6 (dk_at dksX1_fog_2 9 rfl rfl)
theorem dX1_fog_58 : decode cX1_fog 58 = .ok (.invokestatic 189, 3) := dk_184 0 189 (dk_at dksX1_fog_2 11 rfl rfl)
theorem dX1_fog_61 : decode cX1_fog 61 = .ok (.ifCond .eq 17, 3) := dk_153 0 17 (dk_at dksX1_fog_2 14 rfl rfl)
theorem dX1_fog_64 : decode cX1_fog 64 = .ok (.aload_n 0, 1) := dk_42 (dk_at dksX1_fog_2 17 rfl rfl)
theorem dX1_fog_65 : decode cX1_fog 65 = .ok (.getfield 109, 3) := dk_180 0 109 (dk_at dksX1_fog_2 18 rfl rfl)
theorem dX1_fog_68 : decode cX1_fog 68 = .ok (.getfield 411, 3) := dk_180 1 155 (dk_at dksX1_fog_2 21 rfl rfl)
theorem dX1_fog_71 : decode cX1_fog 71 = .ok (.iload 6, 2) := dk_21 6 (dk_at dksX1_fog_3 0 rfl rfl)
theorem dX1_fog_73 : decode cX1_fog 73 = .ok (.iaload, 1) := dk_46 (dk_at dksX1_fog_3 2 rfl rfl)
theorem dX1_fog_74 : decode cX1_fog 74 = .ok (.i2l, 1) := dk_133 (dk_at dksX1_fog_3 3 rfl rfl)
theorem dX1_fog_75 : decode cX1_fog 75 = .ok (.goto 17, 3) := dk_167 0 17 (dk_at dksX1_fog_3 4 rfl rfl)
theorem dX1_fog_78 : decode cX1_fog 78 = .ok (.bipush 100, 2) := dk_16 100 (dk_at dksX1_fog_3 7 rfl rfl)
theorem dX1_fog_80 : decode cX1_fog 80 = .ok (.aload_n 0, 1) := dk_42 (dk_at dksX1_fog_3 9 rfl rfl)
theorem dX1_fog_81 : decode cX1_fog 81 = .ok (.getfield 109, 3) := dk_180 0 109 (dk_at dksX1_fog_3 10 rfl rfl)
theorem dX1_fog_84 : decode cX1_fog 84 = .ok (.getfield 411, 3) := dk_180 1 155 (dk_at dksX1_fog_3 13 rfl rfl)
theorem dX1_fog_87 : decode cX1_fog 87 = .ok (.iload 6, 2) := dk_21 6 (dk_at dksX1_fog_3 16 rfl rfl)
theorem dX1_fog_89 : decode cX1_fog 89 = .ok (.iaload, 1) := dk_46 (dk_at dksX1_fog_3 18 rfl rfl)
theorem dX1_fog_90 : decode cX1_fog 90 = .ok (.isub, 1) := dk_100 (dk_at dksX1_fog_3 19 rfl rfl)
theorem dX1_fog_91 : decode cX1_fog 91 = .ok (.i2l, 1) := dk_133 (dk_at dksX1_fog_3 20 rfl rfl)
theorem dX1_fog_92 : decode cX1_fog 92 = .ok (.lmul, 1) := dk_105 (dk_at dksX1_fog_3 21 rfl rfl)
theorem dX1_fog_93 : decode cX1_fog 93 = .ok (.lstore 4, 2) := dk_55 4 (dk_at dksX1_fog_3 22 rfl rfl)
theorem dX1_fog_95 : decode cX1_fog 95 = .ok (.iinc 6 1, 3) := dk_132 6 1 (dk_at dksX1_fog_4 0 rfl rfl)
theorem dX1_fog_98 : decode cX1_fog 98 = .ok (.goto (-57), 3) := dk_167 255 199 (dk_at dksX1_fog_4 3 rfl rfl)
theorem dX1_fog_101 : decode cX1_fog 101 = .ok (.lload_n 1, 1) := dk_31 (dk_at dksX1_fog_4 6 rfl rfl)
theorem dX1_fog_102 : decode cX1_fog 102 = .ok (.aload_n 0, 1) := dk_42 (dk_at dksX1_fog_4 7 rfl rfl)
theorem dX1_fog_103 : decode cX1_fog 103 = .ok (.iload_n 3, 1) := dk_29 (dk_at dksX1_fog_4 8 rfl rfl)
theorem dX1_fog_104 : decode cX1_fog 104 = .ok (.invokevirtual 414, 3) := dk_182 1 158 (dk_at dksX1_fog_4 9 rfl rfl)
theorem dX1_fog_107 : decode cX1_fog 107 = .ok (.ifCond .eq 8, 3) := dk_153 0 8 (dk_at dksX1_fog_4 12 rfl rfl)
theorem dX1_fog_110 : decode cX1_fog 110 = .ok (.lload 4, 2) := dk_22 4 (dk_at dksX1_fog_4 15 rfl rfl)
theorem dX1_fog_112 : decode cX1_fog 112 = .ok (.goto 4, 3) := dk_167 0 4 (dk_at dksX1_fog_4 17 rfl rfl)
theorem dX1_fog_115 : decode cX1_fog 115 = .ok (.lconst 0, 1) := dk_9 (dk_at dksX1_fog_4 20 rfl rfl)
theorem dX1_fog_116 : decode cX1_fog 116 = .ok (.ladd, 1) := dk_97 (dk_at dksX1_fog_4 21 rfl rfl)
theorem dX1_fog_117 : decode cX1_fog 117 = .ok (.lstore_n 1, 1) := dk_64 (dk_at dksX1_fog_4 22 rfl rfl)
theorem dX1_fog_118 : decode cX1_fog 118 = .ok (.iinc 3 1, 3) := dk_132 3 1 (dk_at dksX1_fog_5 0 rfl rfl)
theorem dX1_fog_121 : decode cX1_fog 121 = .ok (.goto (-99), 3) := dk_167 255 157 (dk_at dksX1_fog_5 3 rfl rfl)
theorem dX1_fog_124 : decode cX1_fog 124 = .ok (.lload_n 1, 1) := dk_31 (dk_at dksX1_fog_5 6 rfl rfl)
theorem dX1_fog_125 : decode cX1_fog 125 = .ok (.lreturn, 1) := dk_173 (dk_at dksX1_fog_5 7 rfl rfl)
abbrev cX1_isLawfulIn : ByteArray := prog_1_method_89_code
def yX1_isLawfulIn : MethodName := ⟨RX1, "isLawfulIn", "(I)Z"⟩
def dkwX1_isLawfulIn_3 : List UInt8 := [42, 180, 0, 39, 42, 42, 180, 0, 131, 3, 182, 0, 210, 42, 180, 0, 36, 182, 0, 214, 172]
abbrev dktX1_isLawfulIn_3 : List UInt8 := dkwX1_isLawfulIn_3 ++ []
def dkwX1_isLawfulIn_2 : List UInt8 := [180, 0, 36, 42, 180, 0, 109, 42, 180, 0, 109, 42, 180, 0, 131, 182, 1, 113, 3, 28, 182, 0, 124, 42]
abbrev dktX1_isLawfulIn_2 : List UInt8 := dkwX1_isLawfulIn_2 ++ dktX1_isLawfulIn_3
def dkwX1_isLawfulIn_1 : List UInt8 := [4, 42, 180, 0, 109, 180, 1, 152, 29, 46, 120, 167, 0, 4, 3, 128, 61, 132, 3, 1, 167, 255, 216, 42]
abbrev dktX1_isLawfulIn_1 : List UInt8 := dkwX1_isLawfulIn_1 ++ dktX1_isLawfulIn_2
def dkwX1_isLawfulIn_0 : List UInt8 := [3, 61, 3, 62, 29, 42, 180, 0, 109, 180, 1, 149, 162, 0, 35, 28, 27, 29, 184, 0, 189, 153, 0, 17]
abbrev dktX1_isLawfulIn_0 : List UInt8 := dkwX1_isLawfulIn_0 ++ dktX1_isLawfulIn_1
theorem dksX1_isLawfulIn_0 : cX1_isLawfulIn.data.toList.drop 0 = dktX1_isLawfulIn_0 := by decide +kernel
theorem dksX1_isLawfulIn_1 : cX1_isLawfulIn.data.toList.drop 24 = dktX1_isLawfulIn_1 := dk_seg dksX1_isLawfulIn_0 24 rfl rfl
theorem dksX1_isLawfulIn_2 : cX1_isLawfulIn.data.toList.drop 48 = dktX1_isLawfulIn_2 := dk_seg dksX1_isLawfulIn_1 24 rfl rfl
theorem dksX1_isLawfulIn_3 : cX1_isLawfulIn.data.toList.drop 72 = dktX1_isLawfulIn_3 := dk_seg dksX1_isLawfulIn_2 24 rfl rfl
theorem dX1_isLawfulIn_0 : decode cX1_isLawfulIn 0 = .ok (.iconst 0, 1) := dk_3 (dk_at dksX1_isLawfulIn_0 0 rfl rfl)
theorem dX1_isLawfulIn_1 : decode cX1_isLawfulIn 1 = .ok (.istore_n 2, 1) := dk_61 (dk_at dksX1_isLawfulIn_0 1 rfl rfl)
theorem dX1_isLawfulIn_2 : decode cX1_isLawfulIn 2 = .ok (.iconst 0, 1) := dk_3 (dk_at dksX1_isLawfulIn_0 2 rfl rfl)
theorem dX1_isLawfulIn_3 : decode cX1_isLawfulIn 3 = .ok (.istore_n 3, 1) := dk_62 (dk_at dksX1_isLawfulIn_0 3 rfl rfl)
theorem dX1_isLawfulIn_4 : decode cX1_isLawfulIn 4 = .ok (.iload_n 3, 1) := dk_29 (dk_at dksX1_isLawfulIn_0 4 rfl rfl)
theorem dX1_isLawfulIn_5 : decode cX1_isLawfulIn 5 = .ok (.aload_n 0, 1) := dk_42 (dk_at dksX1_isLawfulIn_0 5 rfl rfl)
theorem dX1_isLawfulIn_6 : decode cX1_isLawfulIn 6 = .ok (.getfield 109, 3) := dk_180 0 109 (dk_at dksX1_isLawfulIn_0 6 rfl rfl)
theorem dX1_isLawfulIn_9 : decode cX1_isLawfulIn 9 = .ok (.getfield 405, 3) := dk_180 1 149 (dk_at dksX1_isLawfulIn_0 9 rfl rfl)
theorem dX1_isLawfulIn_12 : decode cX1_isLawfulIn 12 = .ok (.if_icmp .ge 35, 3) := dk_162 0 35 (dk_at dksX1_isLawfulIn_0 12 rfl rfl)
theorem dX1_isLawfulIn_15 : decode cX1_isLawfulIn 15 = .ok (.iload_n 2, 1) := dk_28 (dk_at dksX1_isLawfulIn_0 15 rfl rfl)
theorem dX1_isLawfulIn_16 : decode cX1_isLawfulIn 16 = .ok (.iload_n 1, 1) := dk_27 (dk_at dksX1_isLawfulIn_0 16 rfl rfl)
theorem dX1_isLawfulIn_17 : decode cX1_isLawfulIn 17 = .ok (.iload_n 3, 1) := dk_29 (dk_at dksX1_isLawfulIn_0 17 rfl rfl)
theorem dX1_isLawfulIn_18 : decode cX1_isLawfulIn 18 = .ok (.invokestatic 189, 3) := dk_184 0 189 (dk_at dksX1_isLawfulIn_0 18 rfl rfl)
theorem dX1_isLawfulIn_21 : decode cX1_isLawfulIn 21 = .ok (.ifCond .eq 17, 3) := dk_153 0 17 (dk_at dksX1_isLawfulIn_0 21 rfl rfl)
theorem dX1_isLawfulIn_24 : decode cX1_isLawfulIn 24 = .ok (.iconst 1, 1) := dk_4 (dk_at dksX1_isLawfulIn_1 0 rfl rfl)
theorem dX1_isLawfulIn_25 : decode cX1_isLawfulIn 25 = .ok (.aload_n 0, 1) := dk_42 (dk_at dksX1_isLawfulIn_1 1 rfl rfl)
theorem dX1_isLawfulIn_26 : decode cX1_isLawfulIn 26 = .ok (.getfield 109, 3) := dk_180 0 109 (dk_at dksX1_isLawfulIn_1 2 rfl rfl)
theorem dX1_isLawfulIn_29 : decode cX1_isLawfulIn 29 = .ok (.getfield 408, 3) := dk_180 1 152 (dk_at dksX1_isLawfulIn_1 5 rfl rfl)
theorem dX1_isLawfulIn_32 : decode cX1_isLawfulIn 32 = .ok (.iload_n 3, 1) := dk_29 (dk_at dksX1_isLawfulIn_1 8 rfl rfl)
theorem dX1_isLawfulIn_33 : decode cX1_isLawfulIn 33 = .ok (.iaload, 1) := dk_46 (dk_at dksX1_isLawfulIn_1 9 rfl rfl)
theorem dX1_isLawfulIn_34 : decode cX1_isLawfulIn 34 = .ok (.ishl, 1) := dk_120 (dk_at dksX1_isLawfulIn_1 10 rfl rfl)
theorem dX1_isLawfulIn_35 : decode cX1_isLawfulIn 35 = .ok (.goto 4, 3) := dk_167 0 4 (dk_at dksX1_isLawfulIn_1 11 rfl rfl)
theorem dX1_isLawfulIn_38 : decode cX1_isLawfulIn 38 = .ok (.iconst 0, 1) := dk_3 (dk_at dksX1_isLawfulIn_1 14 rfl rfl)
theorem dX1_isLawfulIn_39 : decode cX1_isLawfulIn 39 = .ok (.ior, 1) := dk_128 (dk_at dksX1_isLawfulIn_1 15 rfl rfl)
theorem dX1_isLawfulIn_40 : decode cX1_isLawfulIn 40 = .ok (.istore_n 2, 1) := dk_61 (dk_at dksX1_isLawfulIn_1 16 rfl rfl)
theorem dX1_isLawfulIn_41 : decode cX1_isLawfulIn 41 = .ok (.iinc 3 1, 3) := dk_132 3 1 (dk_at dksX1_isLawfulIn_1 17 rfl rfl)
theorem dX1_isLawfulIn_44 : decode cX1_isLawfulIn 44 = .ok (.goto (-40), 3) := dk_167 255 216 (dk_at dksX1_isLawfulIn_1 20 rfl rfl)
theorem dX1_isLawfulIn_47 : decode cX1_isLawfulIn 47 = .ok (.aload_n 0, 1) := dk_42 (dk_at dksX1_isLawfulIn_1 23 rfl rfl)
theorem dX1_isLawfulIn_48 : decode cX1_isLawfulIn 48 = .ok (.getfield 36, 3) := dk_180 0 36 (dk_at dksX1_isLawfulIn_2 0 rfl rfl)
theorem dX1_isLawfulIn_51 : decode cX1_isLawfulIn 51 = .ok (.aload_n 0, 1) := dk_42 (dk_at dksX1_isLawfulIn_2 3 rfl rfl)
theorem dX1_isLawfulIn_52 : decode cX1_isLawfulIn 52 = .ok (.getfield 109, 3) := dk_180 0 109 (dk_at dksX1_isLawfulIn_2 4 rfl rfl)
theorem dX1_isLawfulIn_55 : decode cX1_isLawfulIn 55 = .ok (.aload_n 0, 1) := dk_42 (dk_at dksX1_isLawfulIn_2 7 rfl rfl)
theorem dX1_isLawfulIn_56 : decode cX1_isLawfulIn 56 = .ok (.getfield 109, 3) := dk_180 0 109 (dk_at dksX1_isLawfulIn_2 8 rfl rfl)
theorem dX1_isLawfulIn_59 : decode cX1_isLawfulIn 59 = .ok (.aload_n 0, 1) := dk_42 (dk_at dksX1_isLawfulIn_2 11 rfl rfl)
theorem dX1_isLawfulIn_60 : decode cX1_isLawfulIn 60 = .ok (.getfield 131, 3) := dk_180 0 131 (dk_at dksX1_isLawfulIn_2 12 rfl rfl)
theorem dX1_isLawfulIn_63 : decode cX1_isLawfulIn 63 = .ok (.invokevirtual 369, 3) := dk_182 1 113 (dk_at dksX1_isLawfulIn_2 15 rfl rfl)
theorem dX1_isLawfulIn_66 : decode cX1_isLawfulIn 66 = .ok (.iconst 0, 1) := dk_3 (dk_at dksX1_isLawfulIn_2 18 rfl rfl)
theorem dX1_isLawfulIn_67 : decode cX1_isLawfulIn 67 = .ok (.iload_n 2, 1) := dk_28 (dk_at dksX1_isLawfulIn_2 19 rfl rfl)
theorem dX1_isLawfulIn_68 : decode cX1_isLawfulIn 68 = .ok (.invokevirtual 124, 3) := dk_182 0 124 (dk_at dksX1_isLawfulIn_2 20 rfl rfl)
theorem dX1_isLawfulIn_71 : decode cX1_isLawfulIn 71 = .ok (.aload_n 0, 1) := dk_42 (dk_at dksX1_isLawfulIn_2 23 rfl rfl)
theorem dX1_isLawfulIn_72 : decode cX1_isLawfulIn 72 = .ok (.aload_n 0, 1) := dk_42 (dk_at dksX1_isLawfulIn_3 0 rfl rfl)
theorem dX1_isLawfulIn_73 : decode cX1_isLawfulIn 73 = .ok (.getfield 39, 3) := dk_180 0 39 (dk_at dksX1_isLawfulIn_3 1 rfl rfl)
theorem dX1_isLawfulIn_76 : decode cX1_isLawfulIn 76 = .ok (.aload_n 0, 1) := dk_42 (dk_at dksX1_isLawfulIn_3 4 rfl rfl)
theorem dX1_isLawfulIn_77 : decode cX1_isLawfulIn 77 = .ok (.aload_n 0, 1) := dk_42 (dk_at dksX1_isLawfulIn_3 5 rfl rfl)
theorem dX1_isLawfulIn_78 : decode cX1_isLawfulIn 78 = .ok (.getfield 131, 3) := dk_180 0 131 (dk_at dksX1_isLawfulIn_3 6 rfl rfl)
theorem dX1_isLawfulIn_81 : decode cX1_isLawfulIn 81 = .ok (.iconst 0, 1) := dk_3 (dk_at dksX1_isLawfulIn_3 9 rfl rfl)
theorem dX1_isLawfulIn_82 : decode cX1_isLawfulIn 82 = .ok (.invokevirtual 210, 3) := dk_182 0 210 (dk_at dksX1_isLawfulIn_3 10 rfl rfl)
theorem dX1_isLawfulIn_85 : decode cX1_isLawfulIn 85 = .ok (.aload_n 0, 1) := dk_42 (dk_at dksX1_isLawfulIn_3 13 rfl rfl)
theorem dX1_isLawfulIn_86 : decode cX1_isLawfulIn 86 = .ok (.getfield 36, 3) := dk_180 0 36 (dk_at dksX1_isLawfulIn_3 14 rfl rfl)
theorem dX1_isLawfulIn_89 : decode cX1_isLawfulIn 89 = .ok (.invokevirtual 214, 3) := dk_182 0 214 (dk_at dksX1_isLawfulIn_3 17 rfl rfl)
theorem dX1_isLawfulIn_92 : decode cX1_isLawfulIn 92 = .ok (.ireturn, 1) := dk_172 (dk_at dksX1_isLawfulIn_3 20 rfl rfl)
abbrev cX1_ready : ByteArray := prog_1_method_91_code
def yX1_ready : MethodName := ⟨RX1, "ready", "()I"⟩
def dkwX1_ready_2 : List UInt8 := [167, 0, 4, 3, 128, 60, 132, 2, 1, 167, 255, 222, 27, 172]
abbrev dktX1_ready_2 : List UInt8 := dkwX1_ready_2 ++ []
def dkwX1_ready_1 : List UInt8 := [180, 0, 109, 180, 1, 149, 162, 0, 29, 27, 42, 4, 28, 120, 182, 1, 158, 153, 0, 9, 4, 28, 120]
abbrev dktX1_ready_1 : List UInt8 := dkwX1_ready_1 ++ dktX1_ready_2
def dkwX1_ready_0 : List UInt8 := [42, 182, 0, 84, 42, 180, 0, 109, 199, 0, 9, 42, 4, 182, 0, 98, 172, 3, 60, 3, 61, 28, 42]
abbrev dktX1_ready_0 : List UInt8 := dkwX1_ready_0 ++ dktX1_ready_1
theorem dksX1_ready_0 : cX1_ready.data.toList.drop 0 = dktX1_ready_0 := by decide +kernel
theorem dksX1_ready_1 : cX1_ready.data.toList.drop 23 = dktX1_ready_1 := dk_seg dksX1_ready_0 23 rfl rfl
theorem dksX1_ready_2 : cX1_ready.data.toList.drop 46 = dktX1_ready_2 := dk_seg dksX1_ready_1 23 rfl rfl
theorem dX1_ready_0 : decode cX1_ready 0 = .ok (.aload_n 0, 1) := dk_42 (dk_at dksX1_ready_0 0 rfl rfl)
theorem dX1_ready_1 : decode cX1_ready 1 = .ok (.invokevirtual 84, 3) := dk_182 0 84 (dk_at dksX1_ready_0 1 rfl rfl)
theorem dX1_ready_4 : decode cX1_ready 4 = .ok (.aload_n 0, 1) := dk_42 (dk_at dksX1_ready_0 4 rfl rfl)
theorem dX1_ready_5 : decode cX1_ready 5 = .ok (.getfield 109, 3) := dk_180 0 109 (dk_at dksX1_ready_0 5 rfl rfl)
theorem dX1_ready_8 : decode cX1_ready 8 = .ok (.ifnonnull 9, 3) := dk_199 0 9 (dk_at dksX1_ready_0 8 rfl rfl)
theorem dX1_ready_11 : decode cX1_ready 11 = .ok (.aload_n 0, 1) := dk_42 (dk_at dksX1_ready_0 11 rfl rfl)
theorem dX1_ready_12 : decode cX1_ready 12 = .ok (.iconst 1, 1) := dk_4 (dk_at dksX1_ready_0 12 rfl rfl)
theorem dX1_ready_13 : decode cX1_ready 13 = .ok (.invokevirtual 98, 3) := dk_182 0 98 (dk_at dksX1_ready_0 13 rfl rfl)
theorem dX1_ready_16 : decode cX1_ready 16 = .ok (.ireturn, 1) := dk_172 (dk_at dksX1_ready_0 16 rfl rfl)
theorem dX1_ready_17 : decode cX1_ready 17 = .ok (.iconst 0, 1) := dk_3 (dk_at dksX1_ready_0 17 rfl rfl)
theorem dX1_ready_18 : decode cX1_ready 18 = .ok (.istore_n 1, 1) := dk_60 (dk_at dksX1_ready_0 18 rfl rfl)
theorem dX1_ready_19 : decode cX1_ready 19 = .ok (.iconst 0, 1) := dk_3 (dk_at dksX1_ready_0 19 rfl rfl)
theorem dX1_ready_20 : decode cX1_ready 20 = .ok (.istore_n 2, 1) := dk_61 (dk_at dksX1_ready_0 20 rfl rfl)
theorem dX1_ready_21 : decode cX1_ready 21 = .ok (.iload_n 2, 1) := dk_28 (dk_at dksX1_ready_0 21 rfl rfl)
theorem dX1_ready_22 : decode cX1_ready 22 = .ok (.aload_n 0, 1) := dk_42 (dk_at dksX1_ready_0 22 rfl rfl)
theorem dX1_ready_23 : decode cX1_ready 23 = .ok (.getfield 109, 3) := dk_180 0 109 (dk_at dksX1_ready_1 0 rfl rfl)
theorem dX1_ready_26 : decode cX1_ready 26 = .ok (.getfield 405, 3) := dk_180 1 149 (dk_at dksX1_ready_1 3 rfl rfl)
theorem dX1_ready_29 : decode cX1_ready 29 = .ok (.if_icmp .ge 29, 3) := dk_162 0 29 (dk_at dksX1_ready_1 6 rfl rfl)
theorem dX1_ready_32 : decode cX1_ready 32 = .ok (.iload_n 1, 1) := dk_27 (dk_at dksX1_ready_1 9 rfl rfl)
theorem dX1_ready_33 : decode cX1_ready 33 = .ok (.aload_n 0, 1) := dk_42 (dk_at dksX1_ready_1 10 rfl rfl)
theorem dX1_ready_34 : decode cX1_ready 34 = .ok (.iconst 1, 1) := dk_4 (dk_at dksX1_ready_1 11 rfl rfl)
theorem dX1_ready_35 : decode cX1_ready 35 = .ok (.iload_n 2, 1) := dk_28 (dk_at dksX1_ready_1 12 rfl rfl)
theorem dX1_ready_36 : decode cX1_ready 36 = .ok (.ishl, 1) := dk_120 (dk_at dksX1_ready_1 13 rfl rfl)
theorem dX1_ready_37 : decode cX1_ready 37 = .ok (.invokevirtual 414, 3) := dk_182 1 158 (dk_at dksX1_ready_1 14 rfl rfl)
theorem dX1_ready_40 : decode cX1_ready 40 = .ok (.ifCond .eq 9, 3) := dk_153 0 9 (dk_at dksX1_ready_1 17 rfl rfl)
theorem dX1_ready_43 : decode cX1_ready 43 = .ok (.iconst 1, 1) := dk_4 (dk_at dksX1_ready_1 20 rfl rfl)
theorem dX1_ready_44 : decode cX1_ready 44 = .ok (.iload_n 2, 1) := dk_28 (dk_at dksX1_ready_1 21 rfl rfl)
theorem dX1_ready_45 : decode cX1_ready 45 = .ok (.ishl, 1) := dk_120 (dk_at dksX1_ready_1 22 rfl rfl)
theorem dX1_ready_46 : decode cX1_ready 46 = .ok (.goto 4, 3) := dk_167 0 4 (dk_at dksX1_ready_2 0 rfl rfl)
theorem dX1_ready_49 : decode cX1_ready 49 = .ok (.iconst 0, 1) := dk_3 (dk_at dksX1_ready_2 3 rfl rfl)
theorem dX1_ready_50 : decode cX1_ready 50 = .ok (.ior, 1) := dk_128 (dk_at dksX1_ready_2 4 rfl rfl)
theorem dX1_ready_51 : decode cX1_ready 51 = .ok (.istore_n 1, 1) := dk_60 (dk_at dksX1_ready_2 5 rfl rfl)
theorem dX1_ready_52 : decode cX1_ready 52 = .ok (.iinc 2 1, 3) := dk_132 2 1 (dk_at dksX1_ready_2 6 rfl rfl)
theorem dX1_ready_55 : decode cX1_ready 55 = .ok (.goto (-34), 3) := dk_167 255 222 (dk_at dksX1_ready_2 9 rfl rfl)
theorem dX1_ready_58 : decode cX1_ready 58 = .ok (.iload_n 1, 1) := dk_27 (dk_at dksX1_ready_2 12 rfl rfl)
theorem dX1_ready_59 : decode cX1_ready 59 = .ok (.ireturn, 1) := dk_172 (dk_at dksX1_ready_2 13 rfl rfl)
abbrev cX1_seed : ByteArray := prog_1_method_92_code
def yX1_seed : MethodName := ⟨RX1, "seed", "(I)Z"⟩
def dkwX1_seed_1 : List UInt8 := [167, 0, 4, 5, 182, 0, 218, 154, 0, 5, 3, 172, 42, 27, 181, 0, 134, 4, 172]
abbrev dktX1_seed_1 : List UInt8 := dkwX1_seed_1 ++ []
def dkwX1_seed_0 : List UInt8 := [42, 42, 180, 0, 109, 199, 0, 7, 4, 167, 0, 19, 27, 3, 19, 1, 161, 184, 0, 94, 153, 0, 7, 3]
abbrev dktX1_seed_0 : List UInt8 := dkwX1_seed_0 ++ dktX1_seed_1
theorem dksX1_seed_0 : cX1_seed.data.toList.drop 0 = dktX1_seed_0 := by decide +kernel
theorem dksX1_seed_1 : cX1_seed.data.toList.drop 24 = dktX1_seed_1 := dk_seg dksX1_seed_0 24 rfl rfl
theorem dX1_seed_0 : decode cX1_seed 0 = .ok (.aload_n 0, 1) := dk_42 (dk_at dksX1_seed_0 0 rfl rfl)
theorem dX1_seed_1 : decode cX1_seed 1 = .ok (.aload_n 0, 1) := dk_42 (dk_at dksX1_seed_0 1 rfl rfl)
theorem dX1_seed_2 : decode cX1_seed 2 = .ok (.getfield 109, 3) := dk_180 0 109 (dk_at dksX1_seed_0 2 rfl rfl)
theorem dX1_seed_5 : decode cX1_seed 5 = .ok (.ifnonnull 7, 3) := dk_199 0 7 (dk_at dksX1_seed_0 5 rfl rfl)
theorem dX1_seed_8 : decode cX1_seed 8 = .ok (.iconst 1, 1) := dk_4 (dk_at dksX1_seed_0 8 rfl rfl)
theorem dX1_seed_9 : decode cX1_seed 9 = .ok (.goto 19, 3) := dk_167 0 19 (dk_at dksX1_seed_0 9 rfl rfl)
theorem dX1_seed_12 : decode cX1_seed 12 = .ok (.iload_n 1, 1) := dk_27 (dk_at dksX1_seed_0 12 rfl rfl)
theorem dX1_seed_13 : decode cX1_seed 13 = .ok (.iconst 0, 1) := dk_3 (dk_at dksX1_seed_0 13 rfl rfl)
theorem dX1_seed_14 : decode cX1_seed 14 = .ok (.ldc_w 417, 3) := dk_19 1 161 (dk_at dksX1_seed_0 14 rfl rfl)
theorem dX1_seed_17 : decode cX1_seed 17 = .ok (.invokestatic 94, 3) := dk_184 0 94 (dk_at dksX1_seed_0 17 rfl rfl)
theorem dX1_seed_20 : decode cX1_seed 20 = .ok (.ifCond .eq 7, 3) := dk_153 0 7 (dk_at dksX1_seed_0 20 rfl rfl)
theorem dX1_seed_23 : decode cX1_seed 23 = .ok (.iconst 0, 1) := dk_3 (dk_at dksX1_seed_0 23 rfl rfl)
theorem dX1_seed_24 : decode cX1_seed 24 = .ok (.goto 4, 3) := dk_167 0 4 (dk_at dksX1_seed_1 0 rfl rfl)
theorem dX1_seed_27 : decode cX1_seed 27 = .ok (.iconst 2, 1) := dk_5 (dk_at dksX1_seed_1 3 rfl rfl)
theorem dX1_seed_28 : decode cX1_seed 28 = .ok (.invokevirtual 218, 3) := dk_182 0 218 (dk_at dksX1_seed_1 4 rfl rfl)
theorem dX1_seed_31 : decode cX1_seed 31 = .ok (.ifCond .ne 5, 3) := dk_154 0 5 (dk_at dksX1_seed_1 7 rfl rfl)
theorem dX1_seed_34 : decode cX1_seed 34 = .ok (.iconst 0, 1) := dk_3 (dk_at dksX1_seed_1 10 rfl rfl)
theorem dX1_seed_35 : decode cX1_seed 35 = .ok (.ireturn, 1) := dk_172 (dk_at dksX1_seed_1 11 rfl rfl)
theorem dX1_seed_36 : decode cX1_seed 36 = .ok (.aload_n 0, 1) := dk_42 (dk_at dksX1_seed_1 12 rfl rfl)
theorem dX1_seed_37 : decode cX1_seed 37 = .ok (.iload_n 1, 1) := dk_27 (dk_at dksX1_seed_1 13 rfl rfl)
theorem dX1_seed_38 : decode cX1_seed 38 = .ok (.putfield 134, 3) := dk_181 0 134 (dk_at dksX1_seed_1 14 rfl rfl)
theorem dX1_seed_41 : decode cX1_seed 41 = .ok (.iconst 1, 1) := dk_4 (dk_at dksX1_seed_1 17 rfl rfl)
theorem dX1_seed_42 : decode cX1_seed 42 = .ok (.ireturn, 1) := dk_172 (dk_at dksX1_seed_1 18 rfl rfl)
abbrev cX1_drift : ByteArray := prog_1_method_94_code
def yX1_drift : MethodName := ⟨RX1, "drift", "()I"⟩
def dkwX1_drift_7 : List UInt8 := [29, 79, 132, 2, 1, 167, 255, 144, 27, 172]
abbrev dktX1_drift_7 : List UInt8 := dkwX1_drift_7 ++ []
def dkwX1_drift_6 : List UInt8 := [180, 0, 39, 42, 180, 0, 131, 182, 0, 221, 153, 0, 9, 132, 1, 1, 167, 0, 10, 42, 180, 0, 39, 28]
abbrev dktX1_drift_6 : List UInt8 := dkwX1_drift_6 ++ dktX1_drift_7
def dkwX1_drift_5 : List UInt8 := [21, 4, 154, 0, 6, 167, 0, 44, 42, 180, 0, 39, 28, 42, 29, 21, 4, 182, 1, 171, 79, 42, 42]
abbrev dktX1_drift_5 : List UInt8 := dkwX1_drift_5 ++ dktX1_drift_6
def dkwX1_drift_4 : List UInt8 := [180, 0, 134, 4, 42, 180, 0, 109, 180, 1, 162, 29, 50, 180, 1, 165, 184, 1, 17, 96, 112, 54, 4]
abbrev dktX1_drift_4 : List UInt8 := dkwX1_drift_4 ++ dktX1_drift_5
def dkwX1_drift_3 : List UInt8 := [180, 0, 134, 104, 16, 74, 96, 19, 1, 170, 112, 181, 0, 134, 42, 180, 0, 39, 28, 46, 62, 42]
abbrev dktX1_drift_3 : List UInt8 := dkwX1_drift_3 ++ dktX1_drift_4
def dkwX1_drift_2 : List UInt8 := [112, 181, 0, 131, 3, 60, 3, 61, 28, 42, 180, 0, 109, 180, 0, 137, 162, 0, 107, 42, 16, 75, 42]
abbrev dktX1_drift_2 : List UInt8 := dkwX1_drift_2 ++ dktX1_drift_3
def dkwX1_drift_1 : List UInt8 := [180, 0, 131, 182, 0, 221, 154, 0, 9, 42, 8, 182, 0, 98, 172, 42, 42, 180, 0, 131, 4, 96, 16, 100]
abbrev dktX1_drift_1 : List UInt8 := dkwX1_drift_1 ++ dktX1_drift_2
def dkwX1_drift_0 : List UInt8 := [42, 182, 0, 84, 42, 180, 0, 109, 199, 0, 9, 42, 4, 182, 0, 98, 172, 42, 42, 180, 0, 39, 42]
abbrev dktX1_drift_0 : List UInt8 := dkwX1_drift_0 ++ dktX1_drift_1
theorem dksX1_drift_0 : cX1_drift.data.toList.drop 0 = dktX1_drift_0 := by decide +kernel
theorem dksX1_drift_1 : cX1_drift.data.toList.drop 23 = dktX1_drift_1 := dk_seg dksX1_drift_0 23 rfl rfl
theorem dksX1_drift_2 : cX1_drift.data.toList.drop 47 = dktX1_drift_2 := dk_seg dksX1_drift_1 24 rfl rfl
theorem dksX1_drift_3 : cX1_drift.data.toList.drop 70 = dktX1_drift_3 := dk_seg dksX1_drift_2 23 rfl rfl
theorem dksX1_drift_4 : cX1_drift.data.toList.drop 92 = dktX1_drift_4 := dk_seg dksX1_drift_3 22 rfl rfl
theorem dksX1_drift_5 : cX1_drift.data.toList.drop 115 = dktX1_drift_5 := dk_seg dksX1_drift_4 23 rfl rfl
theorem dksX1_drift_6 : cX1_drift.data.toList.drop 138 = dktX1_drift_6 := dk_seg dksX1_drift_5 23 rfl rfl
theorem dksX1_drift_7 : cX1_drift.data.toList.drop 162 = dktX1_drift_7 := dk_seg dksX1_drift_6 24 rfl rfl
theorem dX1_drift_0 : decode cX1_drift 0 = .ok (.aload_n 0, 1) := dk_42 (dk_at dksX1_drift_0 0 rfl rfl)
theorem dX1_drift_1 : decode cX1_drift 1 = .ok (.invokevirtual 84, 3) := dk_182 0 84 (dk_at dksX1_drift_0 1 rfl rfl)
theorem dX1_drift_4 : decode cX1_drift 4 = .ok (.aload_n 0, 1) := dk_42 (dk_at dksX1_drift_0 4 rfl rfl)
theorem dX1_drift_5 : decode cX1_drift 5 = .ok (.getfield 109, 3) := dk_180 0 109 (dk_at dksX1_drift_0 5 rfl rfl)
theorem dX1_drift_8 : decode cX1_drift 8 = .ok (.ifnonnull 9, 3) := dk_199 0 9 (dk_at dksX1_drift_0 8 rfl rfl)
theorem dX1_drift_11 : decode cX1_drift 11 = .ok (.aload_n 0, 1) := dk_42 (dk_at dksX1_drift_0 11 rfl rfl)
theorem dX1_drift_12 : decode cX1_drift 12 = .ok (.iconst 1, 1) := dk_4 (dk_at dksX1_drift_0 12 rfl rfl)
theorem dX1_drift_13 : decode cX1_drift 13 = .ok (.invokevirtual 98, 3) := dk_182 0 98 (dk_at dksX1_drift_0 13 rfl rfl)
theorem dX1_drift_16 : decode cX1_drift 16 = .ok (.ireturn, 1) := dk_172 (dk_at dksX1_drift_0 16 rfl rfl)
theorem dX1_drift_17 : decode cX1_drift 17 = .ok (.aload_n 0, 1) := dk_42 (dk_at dksX1_drift_0 17 rfl rfl)
theorem dX1_drift_18 : decode cX1_drift 18 = .ok (.aload_n 0, 1) := dk_42 (dk_at dksX1_drift_0 18 rfl rfl)
theorem dX1_drift_19 : decode cX1_drift 19 = .ok (.getfield 39, 3) := dk_180 0 39 (dk_at dksX1_drift_0 19 rfl rfl)
theorem dX1_drift_22 : decode cX1_drift 22 = .ok (.aload_n 0, 1) := dk_42 (dk_at dksX1_drift_0 22 rfl rfl)
theorem dX1_drift_23 : decode cX1_drift 23 = .ok (.getfield 131, 3) := dk_180 0 131 (dk_at dksX1_drift_1 0 rfl rfl)
theorem dX1_drift_26 : decode cX1_drift 26 = .ok (.invokevirtual 221, 3) := dk_182 0 221 (dk_at dksX1_drift_1 3 rfl rfl)
theorem dX1_drift_29 : decode cX1_drift 29 = .ok (.ifCond .ne 9, 3) := dk_154 0 9 (dk_at dksX1_drift_1 6 rfl rfl)
theorem dX1_drift_32 : decode cX1_drift 32 = .ok (.aload_n 0, 1) := dk_42 (dk_at dksX1_drift_1 9 rfl rfl)
theorem dX1_drift_33 : decode cX1_drift 33 = .ok (.iconst 5, 1) := dk_8 (dk_at dksX1_drift_1 10 rfl rfl)
theorem dX1_drift_34 : decode cX1_drift 34 = .ok (.invokevirtual 98, 3) := dk_182 0 98 (dk_at dksX1_drift_1 11 rfl rfl)
theorem dX1_drift_37 : decode cX1_drift 37 = .ok (.ireturn, 1) := dk_172 (dk_at dksX1_drift_1 14 rfl rfl)
theorem dX1_drift_38 : decode cX1_drift 38 = .ok (.aload_n 0, 1) := dk_42 (dk_at dksX1_drift_1 15 rfl rfl)
theorem dX1_drift_39 : decode cX1_drift 39 = .ok (.aload_n 0, 1) := dk_42 (dk_at dksX1_drift_1 16 rfl rfl)
theorem dX1_drift_40 : decode cX1_drift 40 = .ok (.getfield 131, 3) := dk_180 0 131 (dk_at dksX1_drift_1 17 rfl rfl)
theorem dX1_drift_43 : decode cX1_drift 43 = .ok (.iconst 1, 1) := dk_4 (dk_at dksX1_drift_1 20 rfl rfl)
theorem dX1_drift_44 : decode cX1_drift 44 = .ok (.iadd, 1) := dk_96 (dk_at dksX1_drift_1 21 rfl rfl)
theorem dX1_drift_45 : decode cX1_drift 45 = .ok (.bipush 100, 2) := dk_16 100 (dk_at dksX1_drift_1 22 rfl rfl)
theorem dX1_drift_47 : decode cX1_drift 47 = .ok (.irem, 1) := dk_112 (dk_at dksX1_drift_2 0 rfl rfl)
theorem dX1_drift_48 : decode cX1_drift 48 = .ok (.putfield 131, 3) := dk_181 0 131 (dk_at dksX1_drift_2 1 rfl rfl)
theorem dX1_drift_51 : decode cX1_drift 51 = .ok (.iconst 0, 1) := dk_3 (dk_at dksX1_drift_2 4 rfl rfl)
theorem dX1_drift_52 : decode cX1_drift 52 = .ok (.istore_n 1, 1) := dk_60 (dk_at dksX1_drift_2 5 rfl rfl)
theorem dX1_drift_53 : decode cX1_drift 53 = .ok (.iconst 0, 1) := dk_3 (dk_at dksX1_drift_2 6 rfl rfl)
theorem dX1_drift_54 : decode cX1_drift 54 = .ok (.istore_n 2, 1) := dk_61 (dk_at dksX1_drift_2 7 rfl rfl)
theorem dX1_drift_55 : decode cX1_drift 55 = .ok (.iload_n 2, 1) := dk_28 (dk_at dksX1_drift_2 8 rfl rfl)
theorem dX1_drift_56 : decode cX1_drift 56 = .ok (.aload_n 0, 1) := dk_42 (dk_at dksX1_drift_2 9 rfl rfl)
theorem dX1_drift_57 : decode cX1_drift 57 = .ok (.getfield 109, 3) := dk_180 0 109 (dk_at dksX1_drift_2 10 rfl rfl)
theorem dX1_drift_60 : decode cX1_drift 60 = .ok (.getfield 137, 3) := dk_180 0 137 (dk_at dksX1_drift_2 13 rfl rfl)
theorem dX1_drift_63 : decode cX1_drift 63 = .ok (.if_icmp .ge 107, 3) := dk_162 0 107 (dk_at dksX1_drift_2 16 rfl rfl)
theorem dX1_drift_66 : decode cX1_drift 66 = .ok (.aload_n 0, 1) := dk_42 (dk_at dksX1_drift_2 19 rfl rfl)
theorem dX1_drift_67 : decode cX1_drift 67 = .ok (.bipush 75, 2) := dk_16 75 (dk_at dksX1_drift_2 20 rfl rfl)
theorem dX1_drift_69 : decode cX1_drift 69 = .ok (.aload_n 0, 1) := dk_42 (dk_at dksX1_drift_2 22 rfl rfl)
theorem dX1_drift_70 : decode cX1_drift 70 = .ok (.getfield 134, 3) := dk_180 0 134 (dk_at dksX1_drift_3 0 rfl rfl)
theorem dX1_drift_73 : decode cX1_drift 73 = .ok (.imul, 1) := dk_104 (dk_at dksX1_drift_3 3 rfl rfl)
theorem dX1_drift_74 : decode cX1_drift 74 = .ok (.bipush 74, 2) := dk_16 74 (dk_at dksX1_drift_3 4 rfl rfl)
theorem dX1_drift_76 : decode cX1_drift 76 = .ok (.iadd, 1) := dk_96 (dk_at dksX1_drift_3 6 rfl rfl)
theorem dX1_drift_77 : decode cX1_drift 77 = .ok (.ldc_w 426, 3) := dk_19 1 170 (dk_at dksX1_drift_3 7 rfl rfl)
theorem dX1_drift_80 : decode cX1_drift 80 = .ok (.irem, 1) := dk_112 (dk_at dksX1_drift_3 10 rfl rfl)
theorem dX1_drift_81 : decode cX1_drift 81 = .ok (.putfield 134, 3) := dk_181 0 134 (dk_at dksX1_drift_3 11 rfl rfl)
theorem dX1_drift_84 : decode cX1_drift 84 = .ok (.aload_n 0, 1) := dk_42 (dk_at dksX1_drift_3 14 rfl rfl)
theorem dX1_drift_85 : decode cX1_drift 85 = .ok (.getfield 39, 3) := dk_180 0 39 (dk_at dksX1_drift_3 15 rfl rfl)
theorem dX1_drift_88 : decode cX1_drift 88 = .ok (.iload_n 2, 1) := dk_28 (dk_at dksX1_drift_3 18 rfl rfl)
theorem dX1_drift_89 : decode cX1_drift 89 = .ok (.iaload, 1) := dk_46 (dk_at dksX1_drift_3 19 rfl rfl)
theorem dX1_drift_90 : decode cX1_drift 90 = .ok (.istore_n 3, 1) := dk_62 (dk_at dksX1_drift_3 20 rfl rfl)
theorem dX1_drift_91 : decode cX1_drift 91 = .ok (.aload_n 0, 1) := dk_42 (dk_at dksX1_drift_3 21 rfl rfl)
theorem dX1_drift_92 : decode cX1_drift 92 = .ok (.getfield 134, 3) := dk_180 0 134 (dk_at dksX1_drift_4 0 rfl rfl)
theorem dX1_drift_95 : decode cX1_drift 95 = .ok (.iconst 1, 1) := dk_4 (dk_at dksX1_drift_4 3 rfl rfl)
theorem dX1_drift_96 : decode cX1_drift 96 = .ok (.aload_n 0, 1) := dk_42 (dk_at dksX1_drift_4 4 rfl rfl)
theorem dX1_drift_97 : decode cX1_drift 97 = .ok (.getfield 109, 3) := dk_180 0 109 (dk_at dksX1_drift_4 5 rfl rfl)
theorem dX1_drift_100 : decode cX1_drift 100 = .ok (.getfield 418, 3) := dk_180 1 162 (dk_at dksX1_drift_4 8 rfl rfl)
theorem dX1_drift_103 : decode cX1_drift 103 = .ok (.iload_n 3, 1) := dk_29 (dk_at dksX1_drift_4 11 rfl rfl)
theorem dX1_drift_104 : decode cX1_drift 104 = .ok (.aaload, 1) := dk_50 (dk_at dksX1_drift_4 12 rfl rfl)
theorem dX1_drift_105 : decode cX1_drift 105 = .ok (.getfield 421, 3) := dk_180 1 165 (dk_at dksX1_drift_4 13 rfl rfl)
theorem dX1_drift_108 : decode cX1_drift 108 = .ok (.invokestatic 273, 3) := dk_184 1 17 (dk_at dksX1_drift_4 16 rfl rfl)
theorem dX1_drift_111 : decode cX1_drift 111 = .ok (.iadd, 1) := dk_96 (dk_at dksX1_drift_4 19 rfl rfl)
theorem dX1_drift_112 : decode cX1_drift 112 = .ok (.irem, 1) := dk_112 (dk_at dksX1_drift_4 20 rfl rfl)
theorem dX1_drift_113 : decode cX1_drift 113 = .ok (.istore 4, 2) := dk_54 4 (dk_at dksX1_drift_4 21 rfl rfl)
theorem dX1_drift_115 : decode cX1_drift 115 = .ok (.iload 4, 2) := dk_21 4 (dk_at dksX1_drift_5 0 rfl rfl)
theorem dX1_drift_117 : decode cX1_drift 117 = .ok (.ifCond .ne 6, 3) := dk_154 0 6 (dk_at dksX1_drift_5 2 rfl rfl)
theorem dX1_drift_120 : decode cX1_drift 120 = .ok (.goto 44, 3) := dk_167 0 44 (dk_at dksX1_drift_5 5 rfl rfl)
theorem dX1_drift_123 : decode cX1_drift 123 = .ok (.aload_n 0, 1) := dk_42 (dk_at dksX1_drift_5 8 rfl rfl)
theorem dX1_drift_124 : decode cX1_drift 124 = .ok (.getfield 39, 3) := dk_180 0 39 (dk_at dksX1_drift_5 9 rfl rfl)
theorem dX1_drift_127 : decode cX1_drift 127 = .ok (.iload_n 2, 1) := dk_28 (dk_at dksX1_drift_5 12 rfl rfl)
theorem dX1_drift_128 : decode cX1_drift 128 = .ok (.aload_n 0, 1) := dk_42 (dk_at dksX1_drift_5 13 rfl rfl)
theorem dX1_drift_129 : decode cX1_drift 129 = .ok (.iload_n 3, 1) := dk_29 (dk_at dksX1_drift_5 14 rfl rfl)
theorem dX1_drift_130 : decode cX1_drift 130 = .ok (.iload 4, 2) := dk_21 4 (dk_at dksX1_drift_5 15 rfl rfl)
theorem dX1_drift_132 : decode cX1_drift 132 = .ok (.invokevirtual 427, 3) := dk_182 1 171 (dk_at dksX1_drift_5 17 rfl rfl)
theorem dX1_drift_135 : decode cX1_drift 135 = .ok (.iastore, 1) := dk_79 (dk_at dksX1_drift_5 20 rfl rfl)
theorem dX1_drift_136 : decode cX1_drift 136 = .ok (.aload_n 0, 1) := dk_42 (dk_at dksX1_drift_5 21 rfl rfl)
theorem dX1_drift_137 : decode cX1_drift 137 = .ok (.aload_n 0, 1) := dk_42 (dk_at dksX1_drift_5 22 rfl rfl)
theorem dX1_drift_138 : decode cX1_drift 138 = .ok (.getfield 39, 3) := dk_180 0 39 (dk_at dksX1_drift_6 0 rfl rfl)
theorem dX1_drift_141 : decode cX1_drift 141 = .ok (.aload_n 0, 1) := dk_42 (dk_at dksX1_drift_6 3 rfl rfl)
theorem dX1_drift_142 : decode cX1_drift 142 = .ok (.getfield 131, 3) := dk_180 0 131 (dk_at dksX1_drift_6 4 rfl rfl)
theorem dX1_drift_145 : decode cX1_drift 145 = .ok (.invokevirtual 221, 3) := dk_182 0 221 (dk_at dksX1_drift_6 7 rfl rfl)
theorem dX1_drift_148 : decode cX1_drift 148 = .ok (.ifCond .eq 9, 3) := dk_153 0 9 (dk_at dksX1_drift_6 10 rfl rfl)
theorem dX1_drift_151 : decode cX1_drift 151 = .ok (.iinc 1 1, 3) := dk_132 1 1 (dk_at dksX1_drift_6 13 rfl rfl)
theorem dX1_drift_154 : decode cX1_drift 154 = .ok (.goto 10, 3) := dk_167 0 10 (dk_at dksX1_drift_6 16 rfl rfl)
theorem dX1_drift_157 : decode cX1_drift 157 = .ok (.aload_n 0, 1) := dk_42 (dk_at dksX1_drift_6 19 rfl rfl)
theorem dX1_drift_158 : decode cX1_drift 158 = .ok (.getfield 39, 3) := dk_180 0 39 (dk_at dksX1_drift_6 20 rfl rfl)
theorem dX1_drift_161 : decode cX1_drift 161 = .ok (.iload_n 2, 1) := dk_28 (dk_at dksX1_drift_6 23 rfl rfl)
theorem dX1_drift_162 : decode cX1_drift 162 = .ok (.iload_n 3, 1) := dk_29 (dk_at dksX1_drift_7 0 rfl rfl)
theorem dX1_drift_163 : decode cX1_drift 163 = .ok (.iastore, 1) := dk_79 (dk_at dksX1_drift_7 1 rfl rfl)
theorem dX1_drift_164 : decode cX1_drift 164 = .ok (.iinc 2 1, 3) := dk_132 2 1 (dk_at dksX1_drift_7 2 rfl rfl)
theorem dX1_drift_167 : decode cX1_drift 167 = .ok (.goto (-112), 3) := dk_167 255 144 (dk_at dksX1_drift_7 5 rfl rfl)
theorem dX1_drift_170 : decode cX1_drift 170 = .ok (.iload_n 1, 1) := dk_27 (dk_at dksX1_drift_7 8 rfl rfl)
theorem dX1_drift_171 : decode cX1_drift 171 = .ok (.ireturn, 1) := dk_172 (dk_at dksX1_drift_7 9 rfl rfl)
abbrev cX1_neighbour : ByteArray := prog_1_method_93_code
def yX1_neighbour : MethodName := ⟨RX1, "neighbour", "(II)I"⟩
def dkwX1_neighbour_1 : List UInt8 := [180, 1, 165, 21, 4, 184, 0, 189, 153, 0, 7, 4, 167, 0, 4, 3, 96, 62, 167, 255, 220, 21, 4, 172]
abbrev dktX1_neighbour_1 : List UInt8 := dkwX1_neighbour_1 ++ []
def dkwX1_neighbour_0 : List UInt8 := [3, 62, 2, 54, 4, 29, 28, 162, 0, 37, 132, 4, 1, 29, 42, 180, 0, 109, 180, 1, 162, 27, 50]
abbrev dktX1_neighbour_0 : List UInt8 := dkwX1_neighbour_0 ++ dktX1_neighbour_1
theorem dksX1_neighbour_0 : cX1_neighbour.data.toList.drop 0 = dktX1_neighbour_0 := by decide +kernel
theorem dksX1_neighbour_1 : cX1_neighbour.data.toList.drop 23 = dktX1_neighbour_1 := dk_seg dksX1_neighbour_0 23 rfl rfl
theorem dX1_neighbour_0 : decode cX1_neighbour 0 = .ok (.iconst 0, 1) := dk_3 (dk_at dksX1_neighbour_0 0 rfl rfl)
theorem dX1_neighbour_1 : decode cX1_neighbour 1 = .ok (.istore_n 3, 1) := dk_62 (dk_at dksX1_neighbour_0 1 rfl rfl)
theorem dX1_neighbour_2 : decode cX1_neighbour 2 = .ok (.iconst (-1), 1) := dk_2 (dk_at dksX1_neighbour_0 2 rfl rfl)
theorem dX1_neighbour_3 : decode cX1_neighbour 3 = .ok (.istore 4, 2) := dk_54 4 (dk_at dksX1_neighbour_0 3 rfl rfl)
theorem dX1_neighbour_5 : decode cX1_neighbour 5 = .ok (.iload_n 3, 1) := dk_29 (dk_at dksX1_neighbour_0 5 rfl rfl)
theorem dX1_neighbour_6 : decode cX1_neighbour 6 = .ok (.iload_n 2, 1) := dk_28 (dk_at dksX1_neighbour_0 6 rfl rfl)
theorem dX1_neighbour_7 : decode cX1_neighbour 7 = .ok (.if_icmp .ge 37, 3) := dk_162 0 37 (dk_at dksX1_neighbour_0 7 rfl rfl)
theorem dX1_neighbour_10 : decode cX1_neighbour 10 = .ok (.iinc 4 1, 3) := dk_132 4 1 (dk_at dksX1_neighbour_0 10 rfl rfl)
theorem dX1_neighbour_13 : decode cX1_neighbour 13 = .ok (.iload_n 3, 1) := dk_29 (dk_at dksX1_neighbour_0 13 rfl rfl)
theorem dX1_neighbour_14 : decode cX1_neighbour 14 = .ok (.aload_n 0, 1) := dk_42 (dk_at dksX1_neighbour_0 14 rfl rfl)
theorem dX1_neighbour_15 : decode cX1_neighbour 15 = .ok (.getfield 109, 3) := dk_180 0 109 (dk_at dksX1_neighbour_0 15 rfl rfl)
theorem dX1_neighbour_18 : decode cX1_neighbour 18 = .ok (.getfield 418, 3) := dk_180 1 162 (dk_at dksX1_neighbour_0 18 rfl rfl)
theorem dX1_neighbour_21 : decode cX1_neighbour 21 = .ok (.iload_n 1, 1) := dk_27 (dk_at dksX1_neighbour_0 21 rfl rfl)
theorem dX1_neighbour_22 : decode cX1_neighbour 22 = .ok (.aaload, 1) := dk_50 (dk_at dksX1_neighbour_0 22 rfl rfl)
theorem dX1_neighbour_23 : decode cX1_neighbour 23 = .ok (.getfield 421, 3) := dk_180 1 165 (dk_at dksX1_neighbour_1 0 rfl rfl)
theorem dX1_neighbour_26 : decode cX1_neighbour 26 = .ok (.iload 4, 2) := dk_21 4 (dk_at dksX1_neighbour_1 3 rfl rfl)
theorem dX1_neighbour_28 : decode cX1_neighbour 28 = .ok (.invokestatic 189, 3) := dk_184 0 189 (dk_at dksX1_neighbour_1 5 rfl rfl)
theorem dX1_neighbour_31 : decode cX1_neighbour 31 = .ok (.ifCond .eq 7, 3) := dk_153 0 7 (dk_at dksX1_neighbour_1 8 rfl rfl)
theorem dX1_neighbour_34 : decode cX1_neighbour 34 = .ok (.iconst 1, 1) := dk_4 (dk_at dksX1_neighbour_1 11 rfl rfl)
theorem dX1_neighbour_35 : decode cX1_neighbour 35 = .ok (.goto 4, 3) := dk_167 0 4 (dk_at dksX1_neighbour_1 12 rfl rfl)
theorem dX1_neighbour_38 : decode cX1_neighbour 38 = .ok (.iconst 0, 1) := dk_3 (dk_at dksX1_neighbour_1 15 rfl rfl)
theorem dX1_neighbour_39 : decode cX1_neighbour 39 = .ok (.iadd, 1) := dk_96 (dk_at dksX1_neighbour_1 16 rfl rfl)
theorem dX1_neighbour_40 : decode cX1_neighbour 40 = .ok (.istore_n 3, 1) := dk_62 (dk_at dksX1_neighbour_1 17 rfl rfl)
theorem dX1_neighbour_41 : decode cX1_neighbour 41 = .ok (.goto (-36), 3) := dk_167 255 220 (dk_at dksX1_neighbour_1 18 rfl rfl)
theorem dX1_neighbour_44 : decode cX1_neighbour 44 = .ok (.iload 4, 2) := dk_21 4 (dk_at dksX1_neighbour_1 21 rfl rfl)
theorem dX1_neighbour_46 : decode cX1_neighbour 46 = .ok (.ireturn, 1) := dk_172 (dk_at dksX1_neighbour_1 23 rfl rfl)
abbrev cX1_image : ByteArray := prog_1_method_95_code
def yX1_image : MethodName := ⟨RX1, "image", "()J"⟩
def dkwX1_image_3 : List UInt8 := [173]
abbrev dktX1_image_3 : List UInt8 := dkwX1_image_3 ++ []
def dkwX1_image_2 : List UInt8 := [162, 0, 23, 20, 1, 176, 31, 105, 42, 180, 0, 39, 29, 46, 133, 97, 64, 132, 3, 1, 167, 255, 228, 31]
abbrev dktX1_image_2 : List UInt8 := dkwX1_image_2 ++ dktX1_image_3
def dkwX1_image_1 : List UInt8 := [180, 0, 134, 133, 105, 42, 180, 0, 131, 133, 97, 64, 3, 62, 29, 42, 180, 0, 109, 180, 0, 137]
abbrev dktX1_image_1 : List UInt8 := dkwX1_image_1 ++ dktX1_image_2
def dkwX1_image_0 : List UInt8 := [42, 182, 0, 84, 42, 180, 0, 109, 199, 0, 10, 42, 4, 182, 0, 98, 133, 173, 20, 1, 174, 42]
abbrev dktX1_image_0 : List UInt8 := dkwX1_image_0 ++ dktX1_image_1
theorem dksX1_image_0 : cX1_image.data.toList.drop 0 = dktX1_image_0 := by decide +kernel
theorem dksX1_image_1 : cX1_image.data.toList.drop 22 = dktX1_image_1 := dk_seg dksX1_image_0 22 rfl rfl
theorem dksX1_image_2 : cX1_image.data.toList.drop 44 = dktX1_image_2 := dk_seg dksX1_image_1 22 rfl rfl
theorem dksX1_image_3 : cX1_image.data.toList.drop 68 = dktX1_image_3 := dk_seg dksX1_image_2 24 rfl rfl
theorem dX1_image_0 : decode cX1_image 0 = .ok (.aload_n 0, 1) := dk_42 (dk_at dksX1_image_0 0 rfl rfl)
theorem dX1_image_1 : decode cX1_image 1 = .ok (.invokevirtual 84, 3) := dk_182 0 84 (dk_at dksX1_image_0 1 rfl rfl)
theorem dX1_image_4 : decode cX1_image 4 = .ok (.aload_n 0, 1) := dk_42 (dk_at dksX1_image_0 4 rfl rfl)
theorem dX1_image_5 : decode cX1_image 5 = .ok (.getfield 109, 3) := dk_180 0 109 (dk_at dksX1_image_0 5 rfl rfl)
theorem dX1_image_8 : decode cX1_image 8 = .ok (.ifnonnull 10, 3) := dk_199 0 10 (dk_at dksX1_image_0 8 rfl rfl)
theorem dX1_image_11 : decode cX1_image 11 = .ok (.aload_n 0, 1) := dk_42 (dk_at dksX1_image_0 11 rfl rfl)
theorem dX1_image_12 : decode cX1_image 12 = .ok (.iconst 1, 1) := dk_4 (dk_at dksX1_image_0 12 rfl rfl)
theorem dX1_image_13 : decode cX1_image 13 = .ok (.invokevirtual 98, 3) := dk_182 0 98 (dk_at dksX1_image_0 13 rfl rfl)
theorem dX1_image_16 : decode cX1_image 16 = .ok (.i2l, 1) := dk_133 (dk_at dksX1_image_0 16 rfl rfl)
theorem dX1_image_17 : decode cX1_image 17 = .ok (.lreturn, 1) := dk_173 (dk_at dksX1_image_0 17 rfl rfl)
theorem dX1_image_18 : decode cX1_image 18 = .ok (.ldc2_w 430, 3) := dk_20 1 174 (dk_at dksX1_image_0 18 rfl rfl)
theorem dX1_image_21 : decode cX1_image 21 = .ok (.aload_n 0, 1) := dk_42 (dk_at dksX1_image_0 21 rfl rfl)
theorem dX1_image_22 : decode cX1_image 22 = .ok (.getfield 134, 3) := dk_180 0 134 (dk_at dksX1_image_1 0 rfl rfl)
theorem dX1_image_25 : decode cX1_image 25 = .ok (.i2l, 1) := dk_133 (dk_at dksX1_image_1 3 rfl rfl)
theorem dX1_image_26 : decode cX1_image 26 = .ok (.lmul, 1) := dk_105 (dk_at dksX1_image_1 4 rfl rfl)
theorem dX1_image_27 : decode cX1_image 27 = .ok (.aload_n 0, 1) := dk_42 (dk_at dksX1_image_1 5 rfl rfl)
theorem dX1_image_28 : decode cX1_image 28 = .ok (.getfield 131, 3) := dk_180 0 131 (dk_at dksX1_image_1 6 rfl rfl)
theorem dX1_image_31 : decode cX1_image 31 = .ok (.i2l, 1) := dk_133 (dk_at dksX1_image_1 9 rfl rfl)
theorem dX1_image_32 : decode cX1_image 32 = .ok (.ladd, 1) := dk_97 (dk_at dksX1_image_1 10 rfl rfl)
theorem dX1_image_33 : decode cX1_image 33 = .ok (.lstore_n 1, 1) := dk_64 (dk_at dksX1_image_1 11 rfl rfl)
theorem dX1_image_34 : decode cX1_image 34 = .ok (.iconst 0, 1) := dk_3 (dk_at dksX1_image_1 12 rfl rfl)
theorem dX1_image_35 : decode cX1_image 35 = .ok (.istore_n 3, 1) := dk_62 (dk_at dksX1_image_1 13 rfl rfl)
theorem dX1_image_36 : decode cX1_image 36 = .ok (.iload_n 3, 1) := dk_29 (dk_at dksX1_image_1 14 rfl rfl)
theorem dX1_image_37 : decode cX1_image 37 = .ok (.aload_n 0, 1) := dk_42 (dk_at dksX1_image_1 15 rfl rfl)
theorem dX1_image_38 : decode cX1_image 38 = .ok (.getfield 109, 3) := dk_180 0 109 (dk_at dksX1_image_1 16 rfl rfl)
theorem dX1_image_41 : decode cX1_image 41 = .ok (.getfield 137, 3) := dk_180 0 137 (dk_at dksX1_image_1 19 rfl rfl)
theorem dX1_image_44 : decode cX1_image 44 = .ok (.if_icmp .ge 23, 3) := dk_162 0 23 (dk_at dksX1_image_2 0 rfl rfl)
theorem dX1_image_47 : decode cX1_image 47 = .ok (.ldc2_w 432, 3) := dk_20 1 176 (dk_at dksX1_image_2 3 rfl rfl)
theorem dX1_image_50 : decode cX1_image 50 = .ok (.lload_n 1, 1) := dk_31 (dk_at dksX1_image_2 6 rfl rfl)
theorem dX1_image_51 : decode cX1_image 51 = .ok (.lmul, 1) := dk_105 (dk_at dksX1_image_2 7 rfl rfl)
theorem dX1_image_52 : decode cX1_image 52 = .ok (.aload_n 0, 1) := dk_42 (dk_at dksX1_image_2 8 rfl rfl)
theorem dX1_image_53 : decode cX1_image 53 = .ok (.getfield 39, 3) := dk_180 0 39 (dk_at dksX1_image_2 9 rfl rfl)
theorem dX1_image_56 : decode cX1_image 56 = .ok (.iload_n 3, 1) := dk_29 (dk_at dksX1_image_2 12 rfl rfl)
theorem dX1_image_57 : decode cX1_image 57 = .ok (.iaload, 1) := dk_46 (dk_at dksX1_image_2 13 rfl rfl)
theorem dX1_image_58 : decode cX1_image 58 = .ok (.i2l, 1) := dk_133 (dk_at dksX1_image_2 14 rfl rfl)
theorem dX1_image_59 : decode cX1_image 59 = .ok (.ladd, 1) := dk_97 (dk_at dksX1_image_2 15 rfl rfl)
theorem dX1_image_60 : decode cX1_image 60 = .ok (.lstore_n 1, 1) := dk_64 (dk_at dksX1_image_2 16 rfl rfl)
theorem dX1_image_61 : decode cX1_image 61 = .ok (.iinc 3 1, 3) := dk_132 3 1 (dk_at dksX1_image_2 17 rfl rfl)
theorem dX1_image_64 : decode cX1_image 64 = .ok (.goto (-28), 3) := dk_167 255 228 (dk_at dksX1_image_2 20 rfl rfl)
theorem dX1_image_67 : decode cX1_image 67 = .ok (.lload_n 1, 1) := dk_31 (dk_at dksX1_image_2 23 rfl rfl)
theorem dX1_image_68 : decode cX1_image 68 = .ok (.lreturn, 1) := dk_173 (dk_at dksX1_image_3 0 rfl rfl)
abbrev cX1_restore : ByteArray := prog_1_method_96_code
def yX1_restore : MethodName := ⟨RX1, "restore", "(J)Z"⟩
def dkwX1_restore_7 : List UInt8 := [180, 0, 39, 3, 42, 180, 0, 109, 180, 0, 137, 184, 1, 94, 4, 172]
abbrev dktX1_restore_7 : List UInt8 := dkwX1_restore_7 ++ []
def dkwX1_restore_6 : List UInt8 := [20, 1, 174, 113, 136, 181, 0, 131, 42, 33, 20, 1, 174, 109, 136, 181, 0, 134, 42, 180, 0, 43, 3, 42]
abbrev dktX1_restore_6 : List UInt8 := dkwX1_restore_6 ++ dktX1_restore_7
def dkwX1_restore_5 : List UInt8 := [20, 1, 178, 148, 156, 0, 7, 3, 167, 0, 4, 5, 182, 0, 218, 154, 0, 5, 3, 172, 42, 33]
abbrev dktX1_restore_5 : List UInt8 := dkwX1_restore_5 ++ dktX1_restore_6
def dkwX1_restore_4 : List UInt8 := [167, 0, 4, 3, 54, 5, 132, 6, 255, 167, 255, 200, 42, 21, 5, 153, 0, 19, 33, 20, 1, 174, 109]
abbrev dktX1_restore_4 : List UInt8 := dkwX1_restore_4 ++ dktX1_restore_5
def dkwX1_restore_3 : List UInt8 := [21, 5, 153, 0, 24, 42, 180, 0, 43, 21, 6, 46, 42, 180, 0, 109, 180, 0, 150, 162, 0, 7, 4]
abbrev dktX1_restore_3 : List UInt8 := dkwX1_restore_3 ++ dktX1_restore_4
def dkwX1_restore_2 : List UInt8 := [21, 6, 155, 0, 57, 42, 180, 0, 43, 21, 6, 33, 20, 1, 176, 113, 136, 79, 33, 20, 1, 176, 109, 66]
abbrev dktX1_restore_2 : List UInt8 := dkwX1_restore_2 ++ dktX1_restore_3
def dkwX1_restore_1 : List UInt8 := [182, 0, 218, 154, 0, 5, 3, 172, 31, 66, 4, 54, 5, 42, 180, 0, 109, 180, 0, 137, 4, 100, 54, 6]
abbrev dktX1_restore_1 : List UInt8 := dkwX1_restore_1 ++ dktX1_restore_2
def dkwX1_restore_0 : List UInt8 := [42, 42, 180, 0, 109, 199, 0, 7, 4, 167, 0, 14, 31, 9, 148, 156, 0, 7, 5, 167, 0, 4, 3]
abbrev dktX1_restore_0 : List UInt8 := dkwX1_restore_0 ++ dktX1_restore_1
theorem dksX1_restore_0 : cX1_restore.data.toList.drop 0 = dktX1_restore_0 := by decide +kernel
theorem dksX1_restore_1 : cX1_restore.data.toList.drop 23 = dktX1_restore_1 := dk_seg dksX1_restore_0 23 rfl rfl
theorem dksX1_restore_2 : cX1_restore.data.toList.drop 47 = dktX1_restore_2 := dk_seg dksX1_restore_1 24 rfl rfl
theorem dksX1_restore_3 : cX1_restore.data.toList.drop 71 = dktX1_restore_3 := dk_seg dksX1_restore_2 24 rfl rfl
theorem dksX1_restore_4 : cX1_restore.data.toList.drop 94 = dktX1_restore_4 := dk_seg dksX1_restore_3 23 rfl rfl
theorem dksX1_restore_5 : cX1_restore.data.toList.drop 117 = dktX1_restore_5 := dk_seg dksX1_restore_4 23 rfl rfl
theorem dksX1_restore_6 : cX1_restore.data.toList.drop 139 = dktX1_restore_6 := dk_seg dksX1_restore_5 22 rfl rfl
theorem dksX1_restore_7 : cX1_restore.data.toList.drop 163 = dktX1_restore_7 := dk_seg dksX1_restore_6 24 rfl rfl
theorem dX1_restore_0 : decode cX1_restore 0 = .ok (.aload_n 0, 1) := dk_42 (dk_at dksX1_restore_0 0 rfl rfl)
theorem dX1_restore_1 : decode cX1_restore 1 = .ok (.aload_n 0, 1) := dk_42 (dk_at dksX1_restore_0 1 rfl rfl)
theorem dX1_restore_2 : decode cX1_restore 2 = .ok (.getfield 109, 3) := dk_180 0 109 (dk_at dksX1_restore_0 2 rfl rfl)
theorem dX1_restore_5 : decode cX1_restore 5 = .ok (.ifnonnull 7, 3) := dk_199 0 7 (dk_at dksX1_restore_0 5 rfl rfl)
theorem dX1_restore_8 : decode cX1_restore 8 = .ok (.iconst 1, 1) := dk_4 (dk_at dksX1_restore_0 8 rfl rfl)
theorem dX1_restore_9 : decode cX1_restore 9 = .ok (.goto 14, 3) := dk_167 0 14 (dk_at dksX1_restore_0 9 rfl rfl)
theorem dX1_restore_12 : decode cX1_restore 12 = .ok (.lload_n 1, 1) := dk_31 (dk_at dksX1_restore_0 12 rfl rfl)
theorem dX1_restore_13 : decode cX1_restore 13 = .ok (.lconst 0, 1) := dk_9 (dk_at dksX1_restore_0 13 rfl rfl)
theorem dX1_restore_14 : decode cX1_restore 14 = .ok (.lcmp, 1) := dk_148 (dk_at dksX1_restore_0 14 rfl rfl)
theorem dX1_restore_15 : decode cX1_restore 15 = .ok (.ifCond .ge 7, 3) := dk_156 0 7 (dk_at dksX1_restore_0 15 rfl rfl)
theorem dX1_restore_18 : decode cX1_restore 18 = .ok (.iconst 2, 1) := dk_5 (dk_at dksX1_restore_0 18 rfl rfl)
theorem dX1_restore_19 : decode cX1_restore 19 = .ok (.goto 4, 3) := dk_167 0 4 (dk_at dksX1_restore_0 19 rfl rfl)
theorem dX1_restore_22 : decode cX1_restore 22 = .ok (.iconst 0, 1) := dk_3 (dk_at dksX1_restore_0 22 rfl rfl)
theorem dX1_restore_23 : decode cX1_restore 23 = .ok (.invokevirtual 218, 3) := dk_182 0 218 (dk_at dksX1_restore_1 0 rfl rfl)
theorem dX1_restore_26 : decode cX1_restore 26 = .ok (.ifCond .ne 5, 3) := dk_154 0 5 (dk_at dksX1_restore_1 3 rfl rfl)
theorem dX1_restore_29 : decode cX1_restore 29 = .ok (.iconst 0, 1) := dk_3 (dk_at dksX1_restore_1 6 rfl rfl)
theorem dX1_restore_30 : decode cX1_restore 30 = .ok (.ireturn, 1) := dk_172 (dk_at dksX1_restore_1 7 rfl rfl)
theorem dX1_restore_31 : decode cX1_restore 31 = .ok (.lload_n 1, 1) := dk_31 (dk_at dksX1_restore_1 8 rfl rfl)
theorem dX1_restore_32 : decode cX1_restore 32 = .ok (.lstore_n 3, 1) := dk_66 (dk_at dksX1_restore_1 9 rfl rfl)
theorem dX1_restore_33 : decode cX1_restore 33 = .ok (.iconst 1, 1) := dk_4 (dk_at dksX1_restore_1 10 rfl rfl)
theorem dX1_restore_34 : decode cX1_restore 34 = .ok (.istore 5, 2) := dk_54 5 (dk_at dksX1_restore_1 11 rfl rfl)
theorem dX1_restore_36 : decode cX1_restore 36 = .ok (.aload_n 0, 1) := dk_42 (dk_at dksX1_restore_1 13 rfl rfl)
theorem dX1_restore_37 : decode cX1_restore 37 = .ok (.getfield 109, 3) := dk_180 0 109 (dk_at dksX1_restore_1 14 rfl rfl)
theorem dX1_restore_40 : decode cX1_restore 40 = .ok (.getfield 137, 3) := dk_180 0 137 (dk_at dksX1_restore_1 17 rfl rfl)
theorem dX1_restore_43 : decode cX1_restore 43 = .ok (.iconst 1, 1) := dk_4 (dk_at dksX1_restore_1 20 rfl rfl)
theorem dX1_restore_44 : decode cX1_restore 44 = .ok (.isub, 1) := dk_100 (dk_at dksX1_restore_1 21 rfl rfl)
theorem dX1_restore_45 : decode cX1_restore 45 = .ok (.istore 6, 2) := dk_54 6 (dk_at dksX1_restore_1 22 rfl rfl)
theorem dX1_restore_47 : decode cX1_restore 47 = .ok (.iload 6, 2) := dk_21 6 (dk_at dksX1_restore_2 0 rfl rfl)
theorem dX1_restore_49 : decode cX1_restore 49 = .ok (.ifCond .lt 57, 3) := dk_155 0 57 (dk_at dksX1_restore_2 2 rfl rfl)
theorem dX1_restore_52 : decode cX1_restore 52 = .ok (.aload_n 0, 1) := dk_42 (dk_at dksX1_restore_2 5 rfl rfl)
theorem dX1_restore_53 : decode cX1_restore 53 = .ok (.getfield 43, 3) := dk_180 0 43 (dk_at dksX1_restore_2 6 rfl rfl)
theorem dX1_restore_56 : decode cX1_restore 56 = .ok (.iload 6, 2) := dk_21 6 (dk_at dksX1_restore_2 9 rfl rfl)
theorem dX1_restore_58 : decode cX1_restore 58 = .ok (.lload_n 3, 1) := dk_33 (dk_at dksX1_restore_2 11 rfl rfl)
theorem dX1_restore_59 : decode cX1_restore 59 = .ok (.ldc2_w 432, 3) := dk_20 1 176 (dk_at dksX1_restore_2 12 rfl rfl)
theorem dX1_restore_62 : decode cX1_restore 62 = .ok (.lrem, 1) := dk_113 (dk_at dksX1_restore_2 15 rfl rfl)
theorem dX1_restore_63 : decode cX1_restore 63 = .ok (.l2i, 1) := dk_136 (dk_at dksX1_restore_2 16 rfl rfl)
theorem dX1_restore_64 : decode cX1_restore 64 = .ok (.iastore, 1) := dk_79 (dk_at dksX1_restore_2 17 rfl rfl)
theorem dX1_restore_65 : decode cX1_restore 65 = .ok (.lload_n 3, 1) := dk_33 (dk_at dksX1_restore_2 18 rfl rfl)
theorem dX1_restore_66 : decode cX1_restore 66 = .ok (.ldc2_w 432, 3) := dk_20 1 176 (dk_at dksX1_restore_2 19 rfl rfl)
theorem dX1_restore_69 : decode cX1_restore 69 = .ok (.ldiv, 1) := dk_109 (dk_at dksX1_restore_2 22 rfl rfl)
theorem dX1_restore_70 : decode cX1_restore 70 = .ok (.lstore_n 3, 1) := dk_66 (dk_at dksX1_restore_2 23 rfl rfl)
theorem dX1_restore_71 : decode cX1_restore 71 = .ok (.iload 5, 2) := dk_21 5 (dk_at dksX1_restore_3 0 rfl rfl)
theorem dX1_restore_73 : decode cX1_restore 73 = .ok (.ifCond .eq 24, 3) := dk_153 0 24 (dk_at dksX1_restore_3 2 rfl rfl)
theorem dX1_restore_76 : decode cX1_restore 76 = .ok (.aload_n 0, 1) := dk_42 (dk_at dksX1_restore_3 5 rfl rfl)
theorem dX1_restore_77 : decode cX1_restore 77 = .ok (.getfield 43, 3) := dk_180 0 43 (dk_at dksX1_restore_3 6 rfl rfl)
theorem dX1_restore_80 : decode cX1_restore 80 = .ok (.iload 6, 2) := dk_21 6 (dk_at dksX1_restore_3 9 rfl rfl)
theorem dX1_restore_82 : decode cX1_restore 82 = .ok (.iaload, 1) := dk_46 (dk_at dksX1_restore_3 11 rfl rfl)
theorem dX1_restore_83 : decode cX1_restore 83 = .ok (.aload_n 0, 1) := dk_42 (dk_at dksX1_restore_3 12 rfl rfl)
theorem dX1_restore_84 : decode cX1_restore 84 = .ok (.getfield 109, 3) := dk_180 0 109 (dk_at dksX1_restore_3 13 rfl rfl)
theorem dX1_restore_87 : decode cX1_restore 87 = .ok (.getfield 150, 3) := dk_180 0 150 (dk_at dksX1_restore_3 16 rfl rfl)
theorem dX1_restore_90 : decode cX1_restore 90 = .ok (.if_icmp .ge 7, 3) := dk_162 0 7 (dk_at dksX1_restore_3 19 rfl rfl)
theorem dX1_restore_93 : decode cX1_restore 93 = .ok (.iconst 1, 1) := dk_4 (dk_at dksX1_restore_3 22 rfl rfl)
theorem dX1_restore_94 : decode cX1_restore 94 = .ok (.goto 4, 3) := dk_167 0 4 (dk_at dksX1_restore_4 0 rfl rfl)
theorem dX1_restore_97 : decode cX1_restore 97 = .ok (.iconst 0, 1) := dk_3 (dk_at dksX1_restore_4 3 rfl rfl)
theorem dX1_restore_98 : decode cX1_restore 98 = .ok (.istore 5, 2) := dk_54 5 (dk_at dksX1_restore_4 4 rfl rfl)
theorem dX1_restore_100 : decode cX1_restore 100 = .ok (.iinc 6 (-1), 3) := dk_132 6 255 (dk_at dksX1_restore_4 6 rfl rfl)
theorem dX1_restore_103 : decode cX1_restore 103 = .ok (.goto (-56), 3) := dk_167 255 200 (dk_at dksX1_restore_4 9 rfl rfl)
theorem dX1_restore_106 : decode cX1_restore 106 = .ok (.aload_n 0, 1) := dk_42 (dk_at dksX1_restore_4 12 rfl rfl)
theorem dX1_restore_107 : decode cX1_restore 107 = .ok (.iload 5, 2) := dk_21 5 (dk_at dksX1_restore_4 13 rfl rfl)
theorem dX1_restore_109 : decode cX1_restore 109 = .ok (.ifCond .eq 19, 3) := dk_153 0 19 (dk_at dksX1_restore_4 15 rfl rfl)
theorem dX1_restore_112 : decode cX1_restore 112 = .ok (.lload_n 3, 1) := dk_33 (dk_at dksX1_restore_4 18 rfl rfl)
theorem dX1_restore_113 : decode cX1_restore 113 = .ok (.ldc2_w 430, 3) := dk_20 1 174 (dk_at dksX1_restore_4 19 rfl rfl)
theorem dX1_restore_116 : decode cX1_restore 116 = .ok (.ldiv, 1) := dk_109 (dk_at dksX1_restore_4 22 rfl rfl)
theorem dX1_restore_117 : decode cX1_restore 117 = .ok (.ldc2_w 434, 3) := dk_20 1 178 (dk_at dksX1_restore_5 0 rfl rfl)
theorem dX1_restore_120 : decode cX1_restore 120 = .ok (.lcmp, 1) := dk_148 (dk_at dksX1_restore_5 3 rfl rfl)
theorem dX1_restore_121 : decode cX1_restore 121 = .ok (.ifCond .ge 7, 3) := dk_156 0 7 (dk_at dksX1_restore_5 4 rfl rfl)
theorem dX1_restore_124 : decode cX1_restore 124 = .ok (.iconst 0, 1) := dk_3 (dk_at dksX1_restore_5 7 rfl rfl)
theorem dX1_restore_125 : decode cX1_restore 125 = .ok (.goto 4, 3) := dk_167 0 4 (dk_at dksX1_restore_5 8 rfl rfl)
theorem dX1_restore_128 : decode cX1_restore 128 = .ok (.iconst 2, 1) := dk_5 (dk_at dksX1_restore_5 11 rfl rfl)
theorem dX1_restore_129 : decode cX1_restore 129 = .ok (.invokevirtual 218, 3) := dk_182 0 218 (dk_at dksX1_restore_5 12 rfl rfl)
theorem dX1_restore_132 : decode cX1_restore 132 = .ok (.ifCond .ne 5, 3) := dk_154 0 5 (dk_at dksX1_restore_5 15 rfl rfl)
theorem dX1_restore_135 : decode cX1_restore 135 = .ok (.iconst 0, 1) := dk_3 (dk_at dksX1_restore_5 18 rfl rfl)
theorem dX1_restore_136 : decode cX1_restore 136 = .ok (.ireturn, 1) := dk_172 (dk_at dksX1_restore_5 19 rfl rfl)
theorem dX1_restore_137 : decode cX1_restore 137 = .ok (.aload_n 0, 1) := dk_42 (dk_at dksX1_restore_5 20 rfl rfl)
theorem dX1_restore_138 : decode cX1_restore 138 = .ok (.lload_n 3, 1) := dk_33 (dk_at dksX1_restore_5 21 rfl rfl)
theorem dX1_restore_139 : decode cX1_restore 139 = .ok (.ldc2_w 430, 3) := dk_20 1 174 (dk_at dksX1_restore_6 0 rfl rfl)
theorem dX1_restore_142 : decode cX1_restore 142 = .ok (.lrem, 1) := dk_113 (dk_at dksX1_restore_6 3 rfl rfl)
theorem dX1_restore_143 : decode cX1_restore 143 = .ok (.l2i, 1) := dk_136 (dk_at dksX1_restore_6 4 rfl rfl)
theorem dX1_restore_144 : decode cX1_restore 144 = .ok (.putfield 131, 3) := dk_181 0 131 (dk_at dksX1_restore_6 5 rfl rfl)
theorem dX1_restore_147 : decode cX1_restore 147 = .ok (.aload_n 0, 1) := dk_42 (dk_at dksX1_restore_6 8 rfl rfl)
theorem dX1_restore_148 : decode cX1_restore 148 = .ok (.lload_n 3, 1) := dk_33 (dk_at dksX1_restore_6 9 rfl rfl)
theorem dX1_restore_149 : decode cX1_restore 149 = .ok (.ldc2_w 430, 3) := dk_20 1 174 (dk_at dksX1_restore_6 10 rfl rfl)
theorem dX1_restore_152 : decode cX1_restore 152 = .ok (.ldiv, 1) := dk_109 (dk_at dksX1_restore_6 13 rfl rfl)
theorem dX1_restore_153 : decode cX1_restore 153 = .ok (.l2i, 1) := dk_136 (dk_at dksX1_restore_6 14 rfl rfl)
theorem dX1_restore_154 : decode cX1_restore 154 = .ok (.putfield 134, 3) := dk_181 0 134 (dk_at dksX1_restore_6 15 rfl rfl)
theorem dX1_restore_157 : decode cX1_restore 157 = .ok (.aload_n 0, 1) := dk_42 (dk_at dksX1_restore_6 18 rfl rfl)
theorem dX1_restore_158 : decode cX1_restore 158 = .ok (.getfield 43, 3) := dk_180 0 43 (dk_at dksX1_restore_6 19 rfl rfl)
theorem dX1_restore_161 : decode cX1_restore 161 = .ok (.iconst 0, 1) := dk_3 (dk_at dksX1_restore_6 22 rfl rfl)
theorem dX1_restore_162 : decode cX1_restore 162 = .ok (.aload_n 0, 1) := dk_42 (dk_at dksX1_restore_6 23 rfl rfl)
theorem dX1_restore_163 : decode cX1_restore 163 = .ok (.getfield 39, 3) := dk_180 0 39 (dk_at dksX1_restore_7 0 rfl rfl)
theorem dX1_restore_166 : decode cX1_restore 166 = .ok (.iconst 0, 1) := dk_3 (dk_at dksX1_restore_7 3 rfl rfl)
theorem dX1_restore_167 : decode cX1_restore 167 = .ok (.aload_n 0, 1) := dk_42 (dk_at dksX1_restore_7 4 rfl rfl)
theorem dX1_restore_168 : decode cX1_restore 168 = .ok (.getfield 109, 3) := dk_180 0 109 (dk_at dksX1_restore_7 5 rfl rfl)
theorem dX1_restore_171 : decode cX1_restore 171 = .ok (.getfield 137, 3) := dk_180 0 137 (dk_at dksX1_restore_7 8 rfl rfl)
theorem dX1_restore_174 : decode cX1_restore 174 = .ok (.invokestatic 350, 3) := dk_184 1 94 (dk_at dksX1_restore_7 11 rfl rfl)
theorem dX1_restore_177 : decode cX1_restore 177 = .ok (.iconst 1, 1) := dk_4 (dk_at dksX1_restore_7 14 rfl rfl)
theorem dX1_restore_178 : decode cX1_restore 178 = .ok (.ireturn, 1) := dk_172 (dk_at dksX1_restore_7 15 rfl rfl)
abbrev cX1_size : ByteArray := prog_1_method_98_code
def yX1_size : MethodName := ⟨RX1, "size", "(I)I"⟩
def dkwX1_size_6 : List UInt8 := [42, 180, 0, 131, 172, 42, 180, 0, 134, 172, 2, 172]
abbrev dktX1_size_6 : List UInt8 := dkwX1_size_6 ++ []
def dkwX1_size_5 : List UInt8 := [42, 180, 0, 109, 180, 0, 153, 172, 42, 180, 0, 109, 180, 1, 149, 172, 42, 180, 0, 109, 180, 0, 225, 172]
abbrev dktX1_size_5 : List UInt8 := dkwX1_size_5 ++ dktX1_size_6
def dkwX1_size_4 : List UInt8 := [42, 180, 0, 109, 180, 1, 186, 172, 42, 180, 0, 109, 180, 0, 137, 172, 42, 180, 0, 109, 180, 0, 197, 172]
abbrev dktX1_size_4 : List UInt8 := dkwX1_size_4 ++ dktX1_size_5
def dkwX1_size_3 : List UInt8 := [42, 180, 0, 109, 180, 0, 150, 172, 42, 180, 0, 109, 180, 1, 116, 172, 42, 180, 0, 109, 180, 1, 183, 172]
abbrev dktX1_size_3 : List UInt8 := dkwX1_size_3 ++ dktX1_size_4
def dkwX1_size_2 : List UInt8 := [170, 0, 0, 0, 139, 0, 0, 0, 0, 0, 0, 0, 10, 0, 0, 0, 57, 0, 0, 0, 65, 0, 0, 0, 73, 0, 0, 0, 81, 0, 0, 0, 89, 0, 0, 0, 97, 0, 0, 0, 105, 0, 0, 0, 113, 0, 0, 0, 121, 0, 0, 0, 129, 0, 0, 0, 134]
abbrev dktX1_size_2 : List UInt8 := dkwX1_size_2 ++ dktX1_size_3
def dkwX1_size_1 : List UInt8 := [184, 0, 94, 153, 0, 7, 3, 167, 0, 4, 2, 172, 27]
abbrev dktX1_size_1 : List UInt8 := dkwX1_size_1 ++ dktX1_size_2
def dkwX1_size_0 : List UInt8 := [27, 16, 11, 160, 0, 8, 42, 180, 0, 87, 172, 42, 180, 0, 109, 199, 0, 19, 27, 3, 16, 10]
abbrev dktX1_size_0 : List UInt8 := dkwX1_size_0 ++ dktX1_size_1
theorem dksX1_size_0 : cX1_size.data.toList.drop 0 = dktX1_size_0 := by decide +kernel
theorem dksX1_size_1 : cX1_size.data.toList.drop 22 = dktX1_size_1 := dk_seg dksX1_size_0 22 rfl rfl
theorem dksX1_size_2 : cX1_size.data.toList.drop 35 = dktX1_size_2 := dk_seg dksX1_size_1 13 rfl rfl
theorem dksX1_size_3 : cX1_size.data.toList.drop 92 = dktX1_size_3 := dk_seg dksX1_size_2 57 rfl rfl
theorem dksX1_size_4 : cX1_size.data.toList.drop 116 = dktX1_size_4 := dk_seg dksX1_size_3 24 rfl rfl
theorem dksX1_size_5 : cX1_size.data.toList.drop 140 = dktX1_size_5 := dk_seg dksX1_size_4 24 rfl rfl
theorem dksX1_size_6 : cX1_size.data.toList.drop 164 = dktX1_size_6 := dk_seg dksX1_size_5 24 rfl rfl
theorem dX1_size_0 : decode cX1_size 0 = .ok (.iload_n 1, 1) := dk_27 (dk_at dksX1_size_0 0 rfl rfl)
theorem dX1_size_1 : decode cX1_size 1 = .ok (.bipush 11, 2) := dk_16 11 (dk_at dksX1_size_0 1 rfl rfl)
theorem dX1_size_3 : decode cX1_size 3 = .ok (.if_icmp .ne 8, 3) := dk_160 0 8 (dk_at dksX1_size_0 3 rfl rfl)
theorem dX1_size_6 : decode cX1_size 6 = .ok (.aload_n 0, 1) := dk_42 (dk_at dksX1_size_0 6 rfl rfl)
theorem dX1_size_7 : decode cX1_size 7 = .ok (.getfield 87, 3) := dk_180 0 87 (dk_at dksX1_size_0 7 rfl rfl)
theorem dX1_size_10 : decode cX1_size 10 = .ok (.ireturn, 1) := dk_172 (dk_at dksX1_size_0 10 rfl rfl)
theorem dX1_size_11 : decode cX1_size 11 = .ok (.aload_n 0, 1) := dk_42 (dk_at dksX1_size_0 11 rfl rfl)
theorem dX1_size_12 : decode cX1_size 12 = .ok (.getfield 109, 3) := dk_180 0 109 (dk_at dksX1_size_0 12 rfl rfl)
theorem dX1_size_15 : decode cX1_size 15 = .ok (.ifnonnull 19, 3) := dk_199 0 19 (dk_at dksX1_size_0 15 rfl rfl)
theorem dX1_size_18 : decode cX1_size 18 = .ok (.iload_n 1, 1) := dk_27 (dk_at dksX1_size_0 18 rfl rfl)
theorem dX1_size_19 : decode cX1_size 19 = .ok (.iconst 0, 1) := dk_3 (dk_at dksX1_size_0 19 rfl rfl)
theorem dX1_size_20 : decode cX1_size 20 = .ok (.bipush 10, 2) := dk_16 10 (dk_at dksX1_size_0 20 rfl rfl)
theorem dX1_size_22 : decode cX1_size 22 = .ok (.invokestatic 94, 3) := dk_184 0 94 (dk_at dksX1_size_1 0 rfl rfl)
theorem dX1_size_25 : decode cX1_size 25 = .ok (.ifCond .eq 7, 3) := dk_153 0 7 (dk_at dksX1_size_1 3 rfl rfl)
theorem dX1_size_28 : decode cX1_size 28 = .ok (.iconst 0, 1) := dk_3 (dk_at dksX1_size_1 6 rfl rfl)
theorem dX1_size_29 : decode cX1_size 29 = .ok (.goto 4, 3) := dk_167 0 4 (dk_at dksX1_size_1 7 rfl rfl)
theorem dX1_size_32 : decode cX1_size 32 = .ok (.iconst (-1), 1) := dk_2 (dk_at dksX1_size_1 10 rfl rfl)
theorem dX1_size_33 : decode cX1_size 33 = .ok (.ireturn, 1) := dk_172 (dk_at dksX1_size_1 11 rfl rfl)
theorem dX1_size_34 : decode cX1_size 34 = .ok (.iload_n 1, 1) := dk_27 (dk_at dksX1_size_1 12 rfl rfl)
theorem dX1_size_35 : decode cX1_size 35 = .ok (.tableswitch 139 0 10 #[57, 65, 73, 81, 89, 97, 105, 113, 121, 129, 134], 57) := by decide +kernel
theorem dX1_size_92 : decode cX1_size 92 = .ok (.aload_n 0, 1) := dk_42 (dk_at dksX1_size_3 0 rfl rfl)
theorem dX1_size_93 : decode cX1_size 93 = .ok (.getfield 109, 3) := dk_180 0 109 (dk_at dksX1_size_3 1 rfl rfl)
theorem dX1_size_96 : decode cX1_size 96 = .ok (.getfield 150, 3) := dk_180 0 150 (dk_at dksX1_size_3 4 rfl rfl)
theorem dX1_size_99 : decode cX1_size 99 = .ok (.ireturn, 1) := dk_172 (dk_at dksX1_size_3 7 rfl rfl)
theorem dX1_size_100 : decode cX1_size 100 = .ok (.aload_n 0, 1) := dk_42 (dk_at dksX1_size_3 8 rfl rfl)
theorem dX1_size_101 : decode cX1_size 101 = .ok (.getfield 109, 3) := dk_180 0 109 (dk_at dksX1_size_3 9 rfl rfl)
theorem dX1_size_104 : decode cX1_size 104 = .ok (.getfield 372, 3) := dk_180 1 116 (dk_at dksX1_size_3 12 rfl rfl)
theorem dX1_size_107 : decode cX1_size 107 = .ok (.ireturn, 1) := dk_172 (dk_at dksX1_size_3 15 rfl rfl)
theorem dX1_size_108 : decode cX1_size 108 = .ok (.aload_n 0, 1) := dk_42 (dk_at dksX1_size_3 16 rfl rfl)
theorem dX1_size_109 : decode cX1_size 109 = .ok (.getfield 109, 3) := dk_180 0 109 (dk_at dksX1_size_3 17 rfl rfl)
theorem dX1_size_112 : decode cX1_size 112 = .ok (.getfield 439, 3) := dk_180 1 183 (dk_at dksX1_size_3 20 rfl rfl)
theorem dX1_size_115 : decode cX1_size 115 = .ok (.ireturn, 1) := dk_172 (dk_at dksX1_size_3 23 rfl rfl)
theorem dX1_size_116 : decode cX1_size 116 = .ok (.aload_n 0, 1) := dk_42 (dk_at dksX1_size_4 0 rfl rfl)
theorem dX1_size_117 : decode cX1_size 117 = .ok (.getfield 109, 3) := dk_180 0 109 (dk_at dksX1_size_4 1 rfl rfl)
theorem dX1_size_120 : decode cX1_size 120 = .ok (.getfield 442, 3) := dk_180 1 186 (dk_at dksX1_size_4 4 rfl rfl)
theorem dX1_size_123 : decode cX1_size 123 = .ok (.ireturn, 1) := dk_172 (dk_at dksX1_size_4 7 rfl rfl)
theorem dX1_size_124 : decode cX1_size 124 = .ok (.aload_n 0, 1) := dk_42 (dk_at dksX1_size_4 8 rfl rfl)
theorem dX1_size_125 : decode cX1_size 125 = .ok (.getfield 109, 3) := dk_180 0 109 (dk_at dksX1_size_4 9 rfl rfl)
theorem dX1_size_128 : decode cX1_size 128 = .ok (.getfield 137, 3) := dk_180 0 137 (dk_at dksX1_size_4 12 rfl rfl)
theorem dX1_size_131 : decode cX1_size 131 = .ok (.ireturn, 1) := dk_172 (dk_at dksX1_size_4 15 rfl rfl)
theorem dX1_size_132 : decode cX1_size 132 = .ok (.aload_n 0, 1) := dk_42 (dk_at dksX1_size_4 16 rfl rfl)
theorem dX1_size_133 : decode cX1_size 133 = .ok (.getfield 109, 3) := dk_180 0 109 (dk_at dksX1_size_4 17 rfl rfl)
theorem dX1_size_136 : decode cX1_size 136 = .ok (.getfield 197, 3) := dk_180 0 197 (dk_at dksX1_size_4 20 rfl rfl)
theorem dX1_size_139 : decode cX1_size 139 = .ok (.ireturn, 1) := dk_172 (dk_at dksX1_size_4 23 rfl rfl)
theorem dX1_size_140 : decode cX1_size 140 = .ok (.aload_n 0, 1) := dk_42 (dk_at dksX1_size_5 0 rfl rfl)
theorem dX1_size_141 : decode cX1_size 141 = .ok (.getfield 109, 3) := dk_180 0 109 (dk_at dksX1_size_5 1 rfl rfl)
theorem dX1_size_144 : decode cX1_size 144 = .ok (.getfield 153, 3) := dk_180 0 153 (dk_at dksX1_size_5 4 rfl rfl)
theorem dX1_size_147 : decode cX1_size 147 = .ok (.ireturn, 1) := dk_172 (dk_at dksX1_size_5 7 rfl rfl)
theorem dX1_size_148 : decode cX1_size 148 = .ok (.aload_n 0, 1) := dk_42 (dk_at dksX1_size_5 8 rfl rfl)
theorem dX1_size_149 : decode cX1_size 149 = .ok (.getfield 109, 3) := dk_180 0 109 (dk_at dksX1_size_5 9 rfl rfl)
theorem dX1_size_152 : decode cX1_size 152 = .ok (.getfield 405, 3) := dk_180 1 149 (dk_at dksX1_size_5 12 rfl rfl)
theorem dX1_size_155 : decode cX1_size 155 = .ok (.ireturn, 1) := dk_172 (dk_at dksX1_size_5 15 rfl rfl)
theorem dX1_size_156 : decode cX1_size 156 = .ok (.aload_n 0, 1) := dk_42 (dk_at dksX1_size_5 16 rfl rfl)
theorem dX1_size_157 : decode cX1_size 157 = .ok (.getfield 109, 3) := dk_180 0 109 (dk_at dksX1_size_5 17 rfl rfl)
theorem dX1_size_160 : decode cX1_size 160 = .ok (.getfield 225, 3) := dk_180 0 225 (dk_at dksX1_size_5 20 rfl rfl)
theorem dX1_size_163 : decode cX1_size 163 = .ok (.ireturn, 1) := dk_172 (dk_at dksX1_size_5 23 rfl rfl)
theorem dX1_size_164 : decode cX1_size 164 = .ok (.aload_n 0, 1) := dk_42 (dk_at dksX1_size_6 0 rfl rfl)
theorem dX1_size_165 : decode cX1_size 165 = .ok (.getfield 131, 3) := dk_180 0 131 (dk_at dksX1_size_6 1 rfl rfl)
theorem dX1_size_168 : decode cX1_size 168 = .ok (.ireturn, 1) := dk_172 (dk_at dksX1_size_6 4 rfl rfl)
theorem dX1_size_169 : decode cX1_size 169 = .ok (.aload_n 0, 1) := dk_42 (dk_at dksX1_size_6 5 rfl rfl)
theorem dX1_size_170 : decode cX1_size 170 = .ok (.getfield 134, 3) := dk_180 0 134 (dk_at dksX1_size_6 6 rfl rfl)
theorem dX1_size_173 : decode cX1_size 173 = .ok (.ireturn, 1) := dk_172 (dk_at dksX1_size_6 9 rfl rfl)
theorem dX1_size_174 : decode cX1_size 174 = .ok (.iconst (-1), 1) := dk_2 (dk_at dksX1_size_6 10 rfl rfl)
theorem dX1_size_175 : decode cX1_size 175 = .ok (.ireturn, 1) := dk_172 (dk_at dksX1_size_6 11 rfl rfl)
abbrev cX1_trouble : ByteArray := prog_1_method_99_code
def yX1_trouble : MethodName := ⟨RX1, "trouble", "()I"⟩
theorem dX1_trouble_0 : decode cX1_trouble 0 = .ok (.aload_n 0, 1) := by decide +kernel
theorem dX1_trouble_1 : decode cX1_trouble 1 = .ok (.getfield 81, 3) := by decide +kernel
theorem dX1_trouble_4 : decode cX1_trouble 4 = .ok (.ireturn, 1) := by decide +kernel
abbrev cX1_led : ByteArray := prog_1_method_97_code
def yX1_led : MethodName := ⟨RX1, "led", "(I)I"⟩
def dkwX1_led_3 : List UInt8 := [132, 3, 1, 132, 4, 1, 167, 255, 224, 187, 1, 180, 89, 183, 1, 182, 191]
abbrev dktX1_led_3 : List UInt8 := dkwX1_led_3 ++ []
def dkwX1_led_2 : List UInt8 := [162, 0, 32, 28, 21, 4, 184, 0, 189, 154, 0, 6, 167, 0, 14, 29, 27, 160, 0, 6, 21, 4, 172]
abbrev dktX1_led_2 : List UInt8 := dkwX1_led_2 ++ dktX1_led_3
def dkwX1_led_1 : List UInt8 := [182, 0, 210, 42, 42, 180, 0, 131, 182, 0, 166, 182, 0, 206, 61, 3, 62, 3, 54, 4, 21, 4, 8]
abbrev dktX1_led_1 : List UInt8 := dkwX1_led_1 ++ dktX1_led_2
def dkwX1_led_0 : List UInt8 := [42, 180, 0, 109, 199, 0, 7, 3, 167, 0, 28, 42, 42, 180, 0, 39, 42, 42, 180, 0, 131, 3]
abbrev dktX1_led_0 : List UInt8 := dkwX1_led_0 ++ dktX1_led_1
theorem dksX1_led_0 : cX1_led.data.toList.drop 0 = dktX1_led_0 := by decide +kernel
theorem dksX1_led_1 : cX1_led.data.toList.drop 22 = dktX1_led_1 := dk_seg dksX1_led_0 22 rfl rfl
theorem dksX1_led_2 : cX1_led.data.toList.drop 45 = dktX1_led_2 := dk_seg dksX1_led_1 23 rfl rfl
theorem dksX1_led_3 : cX1_led.data.toList.drop 68 = dktX1_led_3 := dk_seg dksX1_led_2 23 rfl rfl
theorem dX1_led_0 : decode cX1_led 0 = .ok (.aload_n 0, 1) := dk_42 (dk_at dksX1_led_0 0 rfl rfl)
theorem dX1_led_1 : decode cX1_led 1 = .ok (.getfield 109, 3) := dk_180 0 109 (dk_at dksX1_led_0 1 rfl rfl)
theorem dX1_led_4 : decode cX1_led 4 = .ok (.ifnonnull 7, 3) := dk_199 0 7 (dk_at dksX1_led_0 4 rfl rfl)
theorem dX1_led_7 : decode cX1_led 7 = .ok (.iconst 0, 1) := dk_3 (dk_at dksX1_led_0 7 rfl rfl)
theorem dX1_led_8 : decode cX1_led 8 = .ok (.goto 28, 3) := dk_167 0 28 (dk_at dksX1_led_0 8 rfl rfl)
theorem dX1_led_11 : decode cX1_led 11 = .ok (.aload_n 0, 1) := dk_42 (dk_at dksX1_led_0 11 rfl rfl)
theorem dX1_led_12 : decode cX1_led 12 = .ok (.aload_n 0, 1) := dk_42 (dk_at dksX1_led_0 12 rfl rfl)
theorem dX1_led_13 : decode cX1_led 13 = .ok (.getfield 39, 3) := dk_180 0 39 (dk_at dksX1_led_0 13 rfl rfl)
theorem dX1_led_16 : decode cX1_led 16 = .ok (.aload_n 0, 1) := dk_42 (dk_at dksX1_led_0 16 rfl rfl)
theorem dX1_led_17 : decode cX1_led 17 = .ok (.aload_n 0, 1) := dk_42 (dk_at dksX1_led_0 17 rfl rfl)
theorem dX1_led_18 : decode cX1_led 18 = .ok (.getfield 131, 3) := dk_180 0 131 (dk_at dksX1_led_0 18 rfl rfl)
theorem dX1_led_21 : decode cX1_led 21 = .ok (.iconst 0, 1) := dk_3 (dk_at dksX1_led_0 21 rfl rfl)
theorem dX1_led_22 : decode cX1_led 22 = .ok (.invokevirtual 210, 3) := dk_182 0 210 (dk_at dksX1_led_1 0 rfl rfl)
theorem dX1_led_25 : decode cX1_led 25 = .ok (.aload_n 0, 1) := dk_42 (dk_at dksX1_led_1 3 rfl rfl)
theorem dX1_led_26 : decode cX1_led 26 = .ok (.aload_n 0, 1) := dk_42 (dk_at dksX1_led_1 4 rfl rfl)
theorem dX1_led_27 : decode cX1_led 27 = .ok (.getfield 131, 3) := dk_180 0 131 (dk_at dksX1_led_1 5 rfl rfl)
theorem dX1_led_30 : decode cX1_led 30 = .ok (.invokevirtual 166, 3) := dk_182 0 166 (dk_at dksX1_led_1 8 rfl rfl)
theorem dX1_led_33 : decode cX1_led 33 = .ok (.invokevirtual 206, 3) := dk_182 0 206 (dk_at dksX1_led_1 11 rfl rfl)
theorem dX1_led_36 : decode cX1_led 36 = .ok (.istore_n 2, 1) := dk_61 (dk_at dksX1_led_1 14 rfl rfl)
theorem dX1_led_37 : decode cX1_led 37 = .ok (.iconst 0, 1) := dk_3 (dk_at dksX1_led_1 15 rfl rfl)
theorem dX1_led_38 : decode cX1_led 38 = .ok (.istore_n 3, 1) := dk_62 (dk_at dksX1_led_1 16 rfl rfl)
theorem dX1_led_39 : decode cX1_led 39 = .ok (.iconst 0, 1) := dk_3 (dk_at dksX1_led_1 17 rfl rfl)
theorem dX1_led_40 : decode cX1_led 40 = .ok (.istore 4, 2) := dk_54 4 (dk_at dksX1_led_1 18 rfl rfl)
theorem dX1_led_42 : decode cX1_led 42 = .ok (.iload 4, 2) := dk_21 4 (dk_at dksX1_led_1 20 rfl rfl)
theorem dX1_led_44 : decode cX1_led 44 = .ok (.iconst 5, 1) := dk_8 (dk_at dksX1_led_1 22 rfl rfl)
theorem dX1_led_45 : decode cX1_led 45 = .ok (.if_icmp .ge 32, 3) := dk_162 0 32 (dk_at dksX1_led_2 0 rfl rfl)
theorem dX1_led_48 : decode cX1_led 48 = .ok (.iload_n 2, 1) := dk_28 (dk_at dksX1_led_2 3 rfl rfl)
theorem dX1_led_49 : decode cX1_led 49 = .ok (.iload 4, 2) := dk_21 4 (dk_at dksX1_led_2 4 rfl rfl)
theorem dX1_led_51 : decode cX1_led 51 = .ok (.invokestatic 189, 3) := dk_184 0 189 (dk_at dksX1_led_2 6 rfl rfl)
theorem dX1_led_54 : decode cX1_led 54 = .ok (.ifCond .ne 6, 3) := dk_154 0 6 (dk_at dksX1_led_2 9 rfl rfl)
theorem dX1_led_57 : decode cX1_led 57 = .ok (.goto 14, 3) := dk_167 0 14 (dk_at dksX1_led_2 12 rfl rfl)
theorem dX1_led_60 : decode cX1_led 60 = .ok (.iload_n 3, 1) := dk_29 (dk_at dksX1_led_2 15 rfl rfl)
theorem dX1_led_61 : decode cX1_led 61 = .ok (.iload_n 1, 1) := dk_27 (dk_at dksX1_led_2 16 rfl rfl)
theorem dX1_led_62 : decode cX1_led 62 = .ok (.if_icmp .ne 6, 3) := dk_160 0 6 (dk_at dksX1_led_2 17 rfl rfl)
theorem dX1_led_65 : decode cX1_led 65 = .ok (.iload 4, 2) := dk_21 4 (dk_at dksX1_led_2 20 rfl rfl)
theorem dX1_led_67 : decode cX1_led 67 = .ok (.ireturn, 1) := dk_172 (dk_at dksX1_led_2 22 rfl rfl)
theorem dX1_led_68 : decode cX1_led 68 = .ok (.iinc 3 1, 3) := dk_132 3 1 (dk_at dksX1_led_3 0 rfl rfl)
theorem dX1_led_71 : decode cX1_led 71 = .ok (.iinc 4 1, 3) := dk_132 4 1 (dk_at dksX1_led_3 3 rfl rfl)
theorem dX1_led_74 : decode cX1_led 74 = .ok (.goto (-32), 3) := dk_167 255 224 (dk_at dksX1_led_3 6 rfl rfl)
theorem dX1_led_77 : decode cX1_led 77 = .ok (.new 436, 3) := dk_187 1 180 (dk_at dksX1_led_3 9 rfl rfl)
theorem dX1_led_80 : decode cX1_led 80 = .ok (.dup, 1) := dk_89 (dk_at dksX1_led_3 12 rfl rfl)
theorem dX1_led_81 : decode cX1_led 81 = .ok (.invokespecial 438, 3) := dk_183 1 182 (dk_at dksX1_led_3 13 rfl rfl)
theorem dX1_led_84 : decode cX1_led 84 = .ok (.athrow, 1) := dk_191 (dk_at dksX1_led_3 16 rfl rfl)
theorem q152 : (Jvm.Cond.initialized "NeverUnseen") ∈ lw_all := lw_g (lw_at lw_m1 1 rfl) rfl
theorem q178 : (Jvm.Cond.instantiable "NeverUnseen" (29 : Nat)) ∈ lw_all := lw_g (lw_at lw_m1 27 rfl) rfl
theorem q180 : (Jvm.Cond.instanceMethod ({ cls := "NeverUnseen", name := "<init>", desc := "()V" } : Jvm.MethodName)) ∈ lw_all := lw_g (lw_at lw_m1 29 rfl) rfl
theorem q181 : (Jvm.Cond.code ({ cls := "NeverUnseen", name := "<init>", desc := "()V" } : Jvm.MethodName) prog_1_method_5_code (1 : Nat) (Option.none : Option Jvm.ClassFile.FieldType)) ∈ lw_all := lw_g (lw_at lw_m1 30 rfl) rfl
theorem q182 : (Jvm.Cond.methodLink "NeverUnseen" (1 : Nat) ({ cls := "java/lang/Object", name := "<init>", desc := "()V" } : Jvm.MethodName)) ∈ lw_all := lw_g (lw_at lw_m1 31 rfl) rfl
theorem q185 : (Jvm.Cond.classLink "NeverUnseen" (13 : Nat) "NeverUnseen$Reader") ∈ lw_all := lw_g (lw_at lw_m1 34 rfl) rfl
theorem q187 : (Jvm.Cond.methodLink "NeverUnseen" (15 : Nat) ({ cls := "NeverUnseen$Reader", name := "<init>", desc := "([B)V" } : Jvm.MethodName)) ∈ lw_all := lw_g (lw_at lw_m1 36 rfl) rfl
theorem q244 : (Jvm.Cond.fieldLink "NeverUnseen" (115 : Nat) "NeverUnseen$Refused" "fault" "I") ∈ lw_all := lw_g (lw_at lw_m1 93 rfl) rfl
theorem q246 : (Jvm.Cond.fieldLink "NeverUnseen" (116 : Nat) "NeverUnseen$Refused" "place" "I") ∈ lw_all := lw_g (lw_at lw_m1 95 rfl) rfl
theorem q297 : (Jvm.Cond.classLink "NeverUnseen" (26 : Nat) "NeverUnseen$Sight") ∈ lw_all := lw_g (lw_at lw_m1 146 rfl) rfl
theorem q299 : (Jvm.Cond.methodLinkNest "NeverUnseen" (28 : Nat) ({ cls := "NeverUnseen$Sight", name := "<init>", desc := "()V" } : Jvm.MethodName) "NeverUnseen") ∈ lw_tbl := lw_at lw_m1 148 rfl
theorem q304 : (Jvm.Cond.fieldLink "NeverUnseen" (170 : Nat) "NeverUnseen$Sight" "plain" "[I") ∈ lw_all := lw_g (lw_at lw_m1 153 rfl) rfl
theorem q312 : (Jvm.Cond.constant "NeverUnseen" (74 : Nat) (102400 : Int32)) ∈ lw_all := lw_g (lw_at lw_m1 161 rfl) rfl
theorem q313 : (Jvm.Cond.fieldLink "NeverUnseen" (9 : Nat) "NeverUnseen" "tape" "[B") ∈ lw_all := lw_g (lw_at lw_m1 162 rfl) rfl
theorem q314 : (Jvm.Cond.fieldLink "NeverUnseen" (87 : Nat) "NeverUnseen" "taped" "I") ∈ lw_all := lw_g (lw_at lw_m1 163 rfl) rfl
theorem q315 : (Jvm.Cond.fieldLink "NeverUnseen" (18 : Nat) "NeverUnseen" "reader" "LNeverUnseen$Reader;") ∈ lw_all := lw_g (lw_at lw_m1 164 rfl) rfl
theorem q316 : (Jvm.Cond.fieldLink "NeverUnseen" (109 : Nat) "NeverUnseen" "valley" "LNeverUnseen$Valley;") ∈ lw_all := lw_g (lw_at lw_m1 165 rfl) rfl
theorem q317 : (Jvm.Cond.fieldLink "NeverUnseen" (81 : Nat) "NeverUnseen" "trouble" "I") ∈ lw_all := lw_g (lw_at lw_m1 166 rfl) rfl
theorem q318 : (Jvm.Cond.fieldLink "NeverUnseen" (102 : Nat) "NeverUnseen" "fault" "I") ∈ lw_all := lw_g (lw_at lw_m1 167 rfl) rfl
theorem q319 : (Jvm.Cond.fieldLink "NeverUnseen" (22 : Nat) "NeverUnseen" "where" "I") ∈ lw_all := lw_g (lw_at lw_m1 168 rfl) rfl
theorem q320 : (Jvm.Cond.fieldLink "NeverUnseen" (29 : Nat) "NeverUnseen" "byDay" "LNeverUnseen$Sight;") ∈ lw_all := lw_g (lw_at lw_m1 169 rfl) rfl
theorem q321 : (Jvm.Cond.fieldLink "NeverUnseen" (33 : Nat) "NeverUnseen" "byNight" "LNeverUnseen$Sight;") ∈ lw_all := lw_g (lw_at lw_m1 170 rfl) rfl
theorem q322 : (Jvm.Cond.fieldLink "NeverUnseen" (36 : Nat) "NeverUnseen" "other" "LNeverUnseen$Sight;") ∈ lw_all := lw_g (lw_at lw_m1 171 rfl) rfl
theorem q323 : (Jvm.Cond.fieldLink "NeverUnseen" (39 : Nat) "NeverUnseen" "now" "[I") ∈ lw_all := lw_g (lw_at lw_m1 172 rfl) rfl
theorem q324 : (Jvm.Cond.fieldLink "NeverUnseen" (43 : Nat) "NeverUnseen" "trial" "[I") ∈ lw_all := lw_g (lw_at lw_m1 173 rfl) rfl
theorem q325 : (Jvm.Cond.fieldLink "NeverUnseen" (46 : Nat) "NeverUnseen" "plan" "[I") ∈ lw_all := lw_g (lw_at lw_m1 174 rfl) rfl
theorem q326 : (Jvm.Cond.fieldLink "NeverUnseen" (131 : Nat) "NeverUnseen" "step" "I") ∈ lw_all := lw_g (lw_at lw_m1 175 rfl) rfl
theorem q327 : (Jvm.Cond.fieldLink "NeverUnseen" (134 : Nat) "NeverUnseen" "seed" "I") ∈ lw_all := lw_g (lw_at lw_m1 176 rfl) rfl
theorem q328 : (Jvm.Cond.fieldLink "NeverUnseen" (253 : Nat) "NeverUnseen" "judgedWhy" "I") ∈ lw_all := lw_g (lw_at lw_m1 177 rfl) rfl
theorem q329 : (Jvm.Cond.fieldLink "NeverUnseen" (49 : Nat) "NeverUnseen" "movers" "[I") ∈ lw_all := lw_g (lw_at lw_m1 178 rfl) rfl
theorem q330 : (Jvm.Cond.fieldLink "NeverUnseen" (52 : Nat) "NeverUnseen" "from" "[I") ∈ lw_all := lw_g (lw_at lw_m1 179 rfl) rfl
theorem q331 : (Jvm.Cond.fieldLink "NeverUnseen" (55 : Nat) "NeverUnseen" "to" "[I") ∈ lw_all := lw_g (lw_at lw_m1 180 rfl) rfl
theorem q332 : (Jvm.Cond.fieldLink "NeverUnseen" (287 : Nat) "NeverUnseen" "moverMany" "I") ∈ lw_all := lw_g (lw_at lw_m1 181 rfl) rfl
theorem q333 : (Jvm.Cond.fieldLink "NeverUnseen" (290 : Nat) "NeverUnseen" "states" "I") ∈ lw_all := lw_g (lw_at lw_m1 182 rfl) rfl
theorem q334 : (Jvm.Cond.fieldLink "NeverUnseen" (58 : Nat) "NeverUnseen" "lawfulIn" "[Z") ∈ lw_all := lw_g (lw_at lw_m1 183 rfl) rfl
theorem q335 : (Jvm.Cond.fieldLink "NeverUnseen" (62 : Nat) "NeverUnseen" "reached" "[Z") ∈ lw_all := lw_g (lw_at lw_m1 184 rfl) rfl
theorem q336 : (Jvm.Cond.fieldLink "NeverUnseen" (65 : Nat) "NeverUnseen" "home" "[Z") ∈ lw_all := lw_g (lw_at lw_m1 185 rfl) rfl
theorem q337 : (Jvm.Cond.fieldLink "NeverUnseen" (68 : Nat) "NeverUnseen" "path" "[I") ∈ lw_all := lw_g (lw_at lw_m1 186 rfl) rfl
theorem q338 : (Jvm.Cond.fieldLink "NeverUnseen" (71 : Nat) "NeverUnseen" "pathLong" "I") ∈ lw_all := lw_g (lw_at lw_m1 187 rfl) rfl
theorem q339 : (Jvm.Cond.fieldLink "NeverUnseen" (75 : Nat) "NeverUnseen" "looked" "[Z") ∈ lw_all := lw_g (lw_at lw_m1 188 rfl) rfl
theorem q340 : (Jvm.Cond.fieldLink "NeverUnseen" (78 : Nat) "NeverUnseen" "next" "[Z") ∈ lw_all := lw_g (lw_at lw_m1 189 rfl) rfl
theorem q341 : (Jvm.Cond.fieldLink "NeverUnseen" (393 : Nat) "NeverUnseen" "fewest" "I") ∈ lw_all := lw_g (lw_at lw_m1 190 rfl) rfl
theorem q342 : (Jvm.Cond.laysFinal "NeverUnseen" "NeverUnseen" "tape" "[B") ∈ lw_all := lw_g (lw_at lw_m1 191 rfl) rfl
theorem q343 : (Jvm.Cond.soleField "NeverUnseen" "tape") ∈ lw_all := lw_g (lw_at lw_m1 192 rfl) rfl
theorem q344 : (Jvm.Cond.lays "NeverUnseen" "NeverUnseen" "taped" "I") ∈ lw_all := lw_g (lw_at lw_m1 193 rfl) rfl
theorem q345 : (Jvm.Cond.soleField "NeverUnseen" "taped") ∈ lw_all := lw_g (lw_at lw_m1 194 rfl) rfl
theorem q346 : (Jvm.Cond.laysFinal "NeverUnseen" "NeverUnseen" "reader" "LNeverUnseen$Reader;") ∈ lw_all := lw_g (lw_at lw_m1 195 rfl) rfl
theorem q347 : (Jvm.Cond.soleField "NeverUnseen" "reader") ∈ lw_all := lw_g (lw_at lw_m1 196 rfl) rfl
theorem q348 : (Jvm.Cond.lays "NeverUnseen" "NeverUnseen" "valley" "LNeverUnseen$Valley;") ∈ lw_all := lw_g (lw_at lw_m1 197 rfl) rfl
theorem q349 : (Jvm.Cond.soleField "NeverUnseen" "valley") ∈ lw_all := lw_g (lw_at lw_m1 198 rfl) rfl
theorem q350 : (Jvm.Cond.lays "NeverUnseen" "NeverUnseen" "trouble" "I") ∈ lw_all := lw_g (lw_at lw_m1 199 rfl) rfl
theorem q351 : (Jvm.Cond.soleField "NeverUnseen" "trouble") ∈ lw_all := lw_g (lw_at lw_m1 200 rfl) rfl
theorem q352 : (Jvm.Cond.lays "NeverUnseen" "NeverUnseen" "fault" "I") ∈ lw_all := lw_g (lw_at lw_m1 201 rfl) rfl
theorem q353 : (Jvm.Cond.soleField "NeverUnseen" "fault") ∈ lw_all := lw_g (lw_at lw_m1 202 rfl) rfl
theorem q354 : (Jvm.Cond.lays "NeverUnseen" "NeverUnseen" "where" "I") ∈ lw_all := lw_g (lw_at lw_m1 203 rfl) rfl
theorem q355 : (Jvm.Cond.soleField "NeverUnseen" "where") ∈ lw_all := lw_g (lw_at lw_m1 204 rfl) rfl
theorem q356 : (Jvm.Cond.laysFinal "NeverUnseen" "NeverUnseen" "byDay" "LNeverUnseen$Sight;") ∈ lw_all := lw_g (lw_at lw_m1 205 rfl) rfl
theorem q357 : (Jvm.Cond.soleField "NeverUnseen" "byDay") ∈ lw_all := lw_g (lw_at lw_m1 206 rfl) rfl
theorem q358 : (Jvm.Cond.laysFinal "NeverUnseen" "NeverUnseen" "byNight" "LNeverUnseen$Sight;") ∈ lw_all := lw_g (lw_at lw_m1 207 rfl) rfl
theorem q359 : (Jvm.Cond.soleField "NeverUnseen" "byNight") ∈ lw_all := lw_g (lw_at lw_m1 208 rfl) rfl
theorem q360 : (Jvm.Cond.laysFinal "NeverUnseen" "NeverUnseen" "other" "LNeverUnseen$Sight;") ∈ lw_all := lw_g (lw_at lw_m1 209 rfl) rfl
theorem q361 : (Jvm.Cond.soleField "NeverUnseen" "other") ∈ lw_all := lw_g (lw_at lw_m1 210 rfl) rfl
theorem q362 : (Jvm.Cond.laysFinal "NeverUnseen" "NeverUnseen" "now" "[I") ∈ lw_all := lw_g (lw_at lw_m1 211 rfl) rfl
theorem q363 : (Jvm.Cond.soleField "NeverUnseen" "now") ∈ lw_all := lw_g (lw_at lw_m1 212 rfl) rfl
theorem q364 : (Jvm.Cond.laysFinal "NeverUnseen" "NeverUnseen" "trial" "[I") ∈ lw_all := lw_g (lw_at lw_m1 213 rfl) rfl
theorem q365 : (Jvm.Cond.soleField "NeverUnseen" "trial") ∈ lw_all := lw_g (lw_at lw_m1 214 rfl) rfl
theorem q366 : (Jvm.Cond.laysFinal "NeverUnseen" "NeverUnseen" "plan" "[I") ∈ lw_all := lw_g (lw_at lw_m1 215 rfl) rfl
theorem q367 : (Jvm.Cond.soleField "NeverUnseen" "plan") ∈ lw_all := lw_g (lw_at lw_m1 216 rfl) rfl
theorem q368 : (Jvm.Cond.lays "NeverUnseen" "NeverUnseen" "step" "I") ∈ lw_all := lw_g (lw_at lw_m1 217 rfl) rfl
theorem q369 : (Jvm.Cond.soleField "NeverUnseen" "step") ∈ lw_all := lw_g (lw_at lw_m1 218 rfl) rfl
theorem q370 : (Jvm.Cond.lays "NeverUnseen" "NeverUnseen" "seed" "I") ∈ lw_all := lw_g (lw_at lw_m1 219 rfl) rfl
theorem q371 : (Jvm.Cond.soleField "NeverUnseen" "seed") ∈ lw_all := lw_g (lw_at lw_m1 220 rfl) rfl
theorem q372 : (Jvm.Cond.lays "NeverUnseen" "NeverUnseen" "judgedWhy" "I") ∈ lw_all := lw_g (lw_at lw_m1 221 rfl) rfl
theorem q373 : (Jvm.Cond.soleField "NeverUnseen" "judgedWhy") ∈ lw_all := lw_g (lw_at lw_m1 222 rfl) rfl
theorem q374 : (Jvm.Cond.laysFinal "NeverUnseen" "NeverUnseen" "movers" "[I") ∈ lw_all := lw_g (lw_at lw_m1 223 rfl) rfl
theorem q375 : (Jvm.Cond.soleField "NeverUnseen" "movers") ∈ lw_all := lw_g (lw_at lw_m1 224 rfl) rfl
theorem q376 : (Jvm.Cond.laysFinal "NeverUnseen" "NeverUnseen" "from" "[I") ∈ lw_all := lw_g (lw_at lw_m1 225 rfl) rfl
theorem q377 : (Jvm.Cond.soleField "NeverUnseen" "from") ∈ lw_all := lw_g (lw_at lw_m1 226 rfl) rfl
theorem q378 : (Jvm.Cond.laysFinal "NeverUnseen" "NeverUnseen" "to" "[I") ∈ lw_all := lw_g (lw_at lw_m1 227 rfl) rfl
theorem q379 : (Jvm.Cond.soleField "NeverUnseen" "to") ∈ lw_all := lw_g (lw_at lw_m1 228 rfl) rfl
theorem q380 : (Jvm.Cond.lays "NeverUnseen" "NeverUnseen" "moverMany" "I") ∈ lw_all := lw_g (lw_at lw_m1 229 rfl) rfl
theorem q381 : (Jvm.Cond.soleField "NeverUnseen" "moverMany") ∈ lw_all := lw_g (lw_at lw_m1 230 rfl) rfl
theorem q382 : (Jvm.Cond.lays "NeverUnseen" "NeverUnseen" "states" "I") ∈ lw_all := lw_g (lw_at lw_m1 231 rfl) rfl
theorem q383 : (Jvm.Cond.soleField "NeverUnseen" "states") ∈ lw_all := lw_g (lw_at lw_m1 232 rfl) rfl
theorem q384 : (Jvm.Cond.laysFinal "NeverUnseen" "NeverUnseen" "lawfulIn" "[Z") ∈ lw_all := lw_g (lw_at lw_m1 233 rfl) rfl
theorem q385 : (Jvm.Cond.soleField "NeverUnseen" "lawfulIn") ∈ lw_all := lw_g (lw_at lw_m1 234 rfl) rfl
theorem q386 : (Jvm.Cond.laysFinal "NeverUnseen" "NeverUnseen" "reached" "[Z") ∈ lw_all := lw_g (lw_at lw_m1 235 rfl) rfl
theorem q387 : (Jvm.Cond.soleField "NeverUnseen" "reached") ∈ lw_all := lw_g (lw_at lw_m1 236 rfl) rfl
theorem q388 : (Jvm.Cond.laysFinal "NeverUnseen" "NeverUnseen" "home" "[Z") ∈ lw_all := lw_g (lw_at lw_m1 237 rfl) rfl
theorem q389 : (Jvm.Cond.soleField "NeverUnseen" "home") ∈ lw_all := lw_g (lw_at lw_m1 238 rfl) rfl
theorem q390 : (Jvm.Cond.laysFinal "NeverUnseen" "NeverUnseen" "path" "[I") ∈ lw_all := lw_g (lw_at lw_m1 239 rfl) rfl
theorem q391 : (Jvm.Cond.soleField "NeverUnseen" "path") ∈ lw_all := lw_g (lw_at lw_m2 0 rfl) rfl
theorem q392 : (Jvm.Cond.lays "NeverUnseen" "NeverUnseen" "pathLong" "I") ∈ lw_all := lw_g (lw_at lw_m2 1 rfl) rfl
theorem q393 : (Jvm.Cond.soleField "NeverUnseen" "pathLong") ∈ lw_all := lw_g (lw_at lw_m2 2 rfl) rfl
theorem q394 : (Jvm.Cond.laysFinal "NeverUnseen" "NeverUnseen" "looked" "[Z") ∈ lw_all := lw_g (lw_at lw_m2 3 rfl) rfl
theorem q395 : (Jvm.Cond.soleField "NeverUnseen" "looked") ∈ lw_all := lw_g (lw_at lw_m2 4 rfl) rfl
theorem q396 : (Jvm.Cond.laysFinal "NeverUnseen" "NeverUnseen" "next" "[Z") ∈ lw_all := lw_g (lw_at lw_m2 5 rfl) rfl
theorem q397 : (Jvm.Cond.soleField "NeverUnseen" "next") ∈ lw_all := lw_g (lw_at lw_m2 6 rfl) rfl
theorem q398 : (Jvm.Cond.lays "NeverUnseen" "NeverUnseen" "fewest" "I") ∈ lw_all := lw_g (lw_at lw_m2 7 rfl) rfl
theorem q399 : (Jvm.Cond.soleField "NeverUnseen" "fewest") ∈ lw_all := lw_g (lw_at lw_m2 8 rfl) rfl
theorem q400 : (Jvm.Cond.superclass "NeverUnseen" "java/lang/Object") ∈ lw_all := lw_g (lw_at lw_m2 9 rfl) rfl
theorem q403 : (Jvm.Cond.instanceMethod ({ cls := "NeverUnseen", name := "feed", desc := "(IIIII)I" } : Jvm.MethodName)) ∈ lw_all := lw_g (lw_at lw_m2 12 rfl) rfl
theorem q404 : (Jvm.Cond.selects "NeverUnseen" ({ cls := "NeverUnseen", name := "feed", desc := "(IIIII)I" } : Jvm.MethodName) ({ cls := "NeverUnseen", name := "feed", desc := "(IIIII)I" } : Jvm.MethodName)) ∈ lw_all := lw_g (lw_at lw_m2 13 rfl) rfl
theorem q405 : (Jvm.Cond.code ({ cls := "NeverUnseen", name := "feed", desc := "(IIIII)I" } : Jvm.MethodName) prog_1_method_9_code (6 : Nat) (Option.some Jvm.ClassFile.FieldType.int)) ∈ lw_all := lw_g (lw_at lw_m2 14 rfl) rfl
theorem q406 : (Jvm.Cond.methodLink "NeverUnseen" (90 : Nat) ({ cls := "NeverUnseen", name := "bytes", desc := "(I)V" } : Jvm.MethodName)) ∈ lw_all := lw_g (lw_at lw_m2 15 rfl) rfl
theorem q407 : (Jvm.Cond.privateMethod ({ cls := "NeverUnseen", name := "bytes", desc := "(I)V" } : Jvm.MethodName)) ∈ lw_tbl := lw_at lw_m2 16 rfl
theorem q408 : (Jvm.Cond.instanceMethod ({ cls := "NeverUnseen", name := "bytes", desc := "(I)V" } : Jvm.MethodName)) ∈ lw_all := lw_g (lw_at lw_m2 17 rfl) rfl
theorem q409 : (Jvm.Cond.code ({ cls := "NeverUnseen", name := "bytes", desc := "(I)V" } : Jvm.MethodName) prog_1_method_10_code (3 : Nat) (Option.none : Option Jvm.ClassFile.FieldType)) ∈ lw_all := lw_g (lw_at lw_m2 18 rfl) rfl
theorem q411 : (Jvm.Cond.instanceMethod ({ cls := "NeverUnseen", name := "valley", desc := "(I)I" } : Jvm.MethodName)) ∈ lw_all := lw_g (lw_at lw_m2 20 rfl) rfl
theorem q412 : (Jvm.Cond.selects "NeverUnseen" ({ cls := "NeverUnseen", name := "valley", desc := "(I)I" } : Jvm.MethodName) ({ cls := "NeverUnseen", name := "valley", desc := "(I)I" } : Jvm.MethodName)) ∈ lw_all := lw_g (lw_at lw_m2 21 rfl) rfl
theorem q413 : (Jvm.Cond.codeWith ({ cls := "NeverUnseen", name := "valley", desc := "(I)I" } : Jvm.MethodName) prog_1_method_11_code (3 : Nat) (Option.some Jvm.ClassFile.FieldType.int) [((32 : Nat), (44 : Nat), (47 : Nat), (113 : Nat))]) ∈ lw_all := lw_g (lw_at lw_m2 22 rfl) rfl
theorem q414 : (Jvm.Cond.classLink "NeverUnseen" (113 : Nat) "NeverUnseen$Refused") ∈ lw_all := lw_g (lw_at lw_m2 23 rfl) rfl
theorem q415 : (Jvm.Cond.methodLink "NeverUnseen" (84 : Nat) ({ cls := "NeverUnseen", name := "anew", desc := "()V" } : Jvm.MethodName)) ∈ lw_all := lw_g (lw_at lw_m2 24 rfl) rfl
theorem q416 : (Jvm.Cond.privateMethod ({ cls := "NeverUnseen", name := "anew", desc := "()V" } : Jvm.MethodName)) ∈ lw_tbl := lw_at lw_m2 25 rfl
theorem q417 : (Jvm.Cond.instanceMethod ({ cls := "NeverUnseen", name := "anew", desc := "()V" } : Jvm.MethodName)) ∈ lw_all := lw_g (lw_at lw_m2 26 rfl) rfl
theorem q418 : (Jvm.Cond.code ({ cls := "NeverUnseen", name := "anew", desc := "()V" } : Jvm.MethodName) prog_1_method_6_code (1 : Nat) (Option.none : Option Jvm.ClassFile.FieldType)) ∈ lw_all := lw_g (lw_at lw_m2 27 rfl) rfl
theorem q419 : (Jvm.Cond.methodLink "NeverUnseen" (94 : Nat) ({ cls := "NeverUnseen", name := "in", desc := "(III)Z" } : Jvm.MethodName)) ∈ lw_all := lw_g (lw_at lw_m2 28 rfl) rfl
theorem q420 : (Jvm.Cond.static ({ cls := "NeverUnseen", name := "in", desc := "(III)Z" } : Jvm.MethodName)) ∈ lw_all := lw_g (lw_at lw_m2 29 rfl) rfl
theorem q421 : (Jvm.Cond.code ({ cls := "NeverUnseen", name := "in", desc := "(III)Z" } : Jvm.MethodName) prog_1_method_1_code (3 : Nat) (Option.some Jvm.ClassFile.FieldType.boolean)) ∈ lw_all := lw_g (lw_at lw_m2 30 rfl) rfl
theorem q422 : (Jvm.Cond.methodLink "NeverUnseen" (98 : Nat) ({ cls := "NeverUnseen", name := "no", desc := "(I)I" } : Jvm.MethodName)) ∈ lw_all := lw_g (lw_at lw_m2 31 rfl) rfl
theorem q423 : (Jvm.Cond.privateMethod ({ cls := "NeverUnseen", name := "no", desc := "(I)I" } : Jvm.MethodName)) ∈ lw_tbl := lw_at lw_m2 32 rfl
theorem q424 : (Jvm.Cond.instanceMethod ({ cls := "NeverUnseen", name := "no", desc := "(I)I" } : Jvm.MethodName)) ∈ lw_all := lw_g (lw_at lw_m2 33 rfl) rfl
theorem q425 : (Jvm.Cond.code ({ cls := "NeverUnseen", name := "no", desc := "(I)I" } : Jvm.MethodName) prog_1_method_7_code (2 : Nat) (Option.some Jvm.ClassFile.FieldType.int)) ∈ lw_all := lw_g (lw_at lw_m2 34 rfl) rfl
theorem q426 : (Jvm.Cond.methodLink "NeverUnseen" (105 : Nat) ({ cls := "NeverUnseen$Reader", name := "read", desc := "(I)LNeverUnseen$Valley;" } : Jvm.MethodName)) ∈ lw_all := lw_g (lw_at lw_m2 35 rfl) rfl
theorem q444 : (Jvm.Cond.fieldLink "NeverUnseen" (418 : Nat) "NeverUnseen$Valley" "places" "[LNeverUnseen$Place;") ∈ lw_all := lw_g (lw_at lw_m2 53 rfl) rfl
theorem q446 : (Jvm.Cond.fieldLink "NeverUnseen" (140 : Nat) "NeverUnseen$Valley" "people" "[LNeverUnseen$Person;") ∈ lw_all := lw_g (lw_at lw_m2 55 rfl) rfl
theorem q450 : (Jvm.Cond.fieldLink "NeverUnseen" (259 : Nat) "NeverUnseen$Valley" "errands" "[LNeverUnseen$Errand;") ∈ lw_all := lw_g (lw_at lw_m2 59 rfl) rfl
theorem q460 : (Jvm.Cond.fieldLink "NeverUnseen" (200 : Nat) "NeverUnseen$Valley" "pairOne" "[I") ∈ lw_all := lw_g (lw_at lw_m2 69 rfl) rfl
theorem q463 : (Jvm.Cond.fieldLink "NeverUnseen" (203 : Nat) "NeverUnseen$Valley" "pairOther" "[I") ∈ lw_all := lw_g (lw_at lw_m2 72 rfl) rfl
theorem q466 : (Jvm.Cond.fieldLink "NeverUnseen" (408 : Nat) "NeverUnseen$Valley" "fogs" "[I") ∈ lw_all := lw_g (lw_at lw_m2 75 rfl) rfl
theorem q469 : (Jvm.Cond.fieldLink "NeverUnseen" (411 : Nat) "NeverUnseen$Valley" "chances" "[I") ∈ lw_all := lw_g (lw_at lw_m2 78 rfl) rfl
theorem q472 : (Jvm.Cond.fieldLink "NeverUnseen" (150 : Nat) "NeverUnseen$Valley" "placeMany" "I") ∈ lw_all := lw_g (lw_at lw_m2 81 rfl) rfl
theorem q475 : (Jvm.Cond.fieldLink "NeverUnseen" (137 : Nat) "NeverUnseen$Valley" "personMany" "I") ∈ lw_all := lw_g (lw_at lw_m2 84 rfl) rfl
theorem q477 : (Jvm.Cond.fieldLink "NeverUnseen" (153 : Nat) "NeverUnseen$Valley" "errandMany" "I") ∈ lw_all := lw_g (lw_at lw_m2 86 rfl) rfl
theorem q481 : (Jvm.Cond.fieldLink "NeverUnseen" (372 : Nat) "NeverUnseen$Valley" "wallMany" "I") ∈ lw_all := lw_g (lw_at lw_m2 90 rfl) rfl
theorem q483 : (Jvm.Cond.fieldLink "NeverUnseen" (439 : Nat) "NeverUnseen$Valley" "wayMany" "I") ∈ lw_all := lw_g (lw_at lw_m2 92 rfl) rfl
theorem q486 : (Jvm.Cond.fieldLink "NeverUnseen" (442 : Nat) "NeverUnseen$Valley" "mirrorMany" "I") ∈ lw_all := lw_g (lw_at lw_m2 95 rfl) rfl
theorem q488 : (Jvm.Cond.fieldLink "NeverUnseen" (197 : Nat) "NeverUnseen$Valley" "pairMany" "I") ∈ lw_all := lw_g (lw_at lw_m2 97 rfl) rfl
theorem q490 : (Jvm.Cond.fieldLink "NeverUnseen" (405 : Nat) "NeverUnseen$Valley" "fogMany" "I") ∈ lw_all := lw_g (lw_at lw_m2 99 rfl) rfl
theorem q492 : (Jvm.Cond.fieldLink "NeverUnseen" (119 : Nat) "NeverUnseen$Valley" "day" "I") ∈ lw_all := lw_g (lw_at lw_m2 101 rfl) rfl
theorem q495 : (Jvm.Cond.fieldLink "NeverUnseen" (128 : Nat) "NeverUnseen$Valley" "night" "I") ∈ lw_all := lw_g (lw_at lw_m2 104 rfl) rfl
theorem q502 : (Jvm.Cond.fieldLink "NeverUnseen" (225 : Nat) "NeverUnseen$Valley" "steps" "I") ∈ lw_all := lw_g (lw_at lw_m2 111 rfl) rfl
theorem q797 : (Jvm.Cond.fieldLink "NeverUnseen" (421 : Nat) "NeverUnseen$Place" "ways" "I") ∈ lw_all := lw_g (lw_at lw_m3 166 rfl) rfl
theorem q804 : (Jvm.Cond.fieldLink "NeverUnseen" (241 : Nat) "NeverUnseen$Person" "number" "I") ∈ lw_all := lw_g (lw_at lw_m3 173 rfl) rfl
theorem q838 : (Jvm.Cond.static ({ cls := "NeverUnseen", name := "lies", desc := "(II)Z" } : Jvm.MethodName)) ∈ lw_all := lw_g (lw_at lw_m3 207 rfl) rfl
theorem q839 : (Jvm.Cond.code ({ cls := "NeverUnseen", name := "lies", desc := "(II)Z" } : Jvm.MethodName) prog_1_method_2_code (2 : Nat) (Option.some Jvm.ClassFile.FieldType.boolean)) ∈ lw_all := lw_g (lw_at lw_m3 208 rfl) rfl
theorem q866 : (Jvm.Cond.fieldLink "NeverUnseen" (144 : Nat) "NeverUnseen$Person" "place" "I") ∈ lw_all := lw_g (lw_at lw_m3 235 rfl) rfl
theorem q930 : (Jvm.Cond.fieldLink "NeverUnseen" (237 : Nat) "NeverUnseen$Errand" "who" "LNeverUnseen$Person;") ∈ lw_all := lw_g (lw_at lw_m4 59 rfl) rfl
theorem q932 : (Jvm.Cond.fieldLink "NeverUnseen" (244 : Nat) "NeverUnseen$Errand" "place" "I") ∈ lw_all := lw_g (lw_at lw_m4 61 rfl) rfl
theorem q934 : (Jvm.Cond.fieldLink "NeverUnseen" (231 : Nat) "NeverUnseen$Errand" "from" "I") ∈ lw_all := lw_g (lw_at lw_m4 63 rfl) rfl
theorem q936 : (Jvm.Cond.fieldLink "NeverUnseen" (235 : Nat) "NeverUnseen$Errand" "to" "I") ∈ lw_all := lw_g (lw_at lw_m4 65 rfl) rfl
theorem q938 : (Jvm.Cond.fieldLink "NeverUnseen" (250 : Nat) "NeverUnseen$Errand" "takes" "I") ∈ lw_all := lw_g (lw_at lw_m4 67 rfl) rfl
theorem q956 : (Jvm.Cond.methodLink "NeverUnseen" (124 : Nat) ({ cls := "NeverUnseen$Sight", name := "look", desc := "(LNeverUnseen$Valley;III)V" } : Jvm.MethodName)) ∈ lw_all := lw_g (lw_at lw_m4 85 rfl) rfl
theorem q966 : (Jvm.Cond.static ({ cls := "NeverUnseen", name := "without", desc := "(I)I" } : Jvm.MethodName)) ∈ lw_all := lw_g (lw_at lw_m4 95 rfl) rfl
theorem q967 : (Jvm.Cond.code ({ cls := "NeverUnseen", name := "without", desc := "(I)I" } : Jvm.MethodName) prog_1_method_4_code (1 : Nat) (Option.some Jvm.ClassFile.FieldType.int)) ∈ lw_all := lw_g (lw_at lw_m4 96 rfl) rfl
theorem q972 : (Jvm.Cond.methodLink "NeverUnseen" (147 : Nat) ({ cls := "NeverUnseen", name := "asTold", desc := "()V" } : Jvm.MethodName)) ∈ lw_all := lw_g (lw_at lw_m4 101 rfl) rfl
theorem q973 : (Jvm.Cond.privateMethod ({ cls := "NeverUnseen", name := "asTold", desc := "()V" } : Jvm.MethodName)) ∈ lw_tbl := lw_at lw_m4 102 rfl
theorem q974 : (Jvm.Cond.instanceMethod ({ cls := "NeverUnseen", name := "asTold", desc := "()V" } : Jvm.MethodName)) ∈ lw_all := lw_g (lw_at lw_m4 103 rfl) rfl
theorem q975 : (Jvm.Cond.code ({ cls := "NeverUnseen", name := "asTold", desc := "()V" } : Jvm.MethodName) prog_1_method_12_code (3 : Nat) (Option.none : Option Jvm.ClassFile.FieldType)) ∈ lw_all := lw_g (lw_at lw_m4 104 rfl) rfl
theorem q977 : (Jvm.Cond.instanceMethod ({ cls := "NeverUnseen", name := "fault", desc := "()I" } : Jvm.MethodName)) ∈ lw_all := lw_g (lw_at lw_m4 106 rfl) rfl
theorem q978 : (Jvm.Cond.selects "NeverUnseen" ({ cls := "NeverUnseen", name := "fault", desc := "()I" } : Jvm.MethodName) ({ cls := "NeverUnseen", name := "fault", desc := "()I" } : Jvm.MethodName)) ∈ lw_all := lw_g (lw_at lw_m4 107 rfl) rfl
theorem q979 : (Jvm.Cond.code ({ cls := "NeverUnseen", name := "fault", desc := "()I" } : Jvm.MethodName) prog_1_method_13_code (1 : Nat) (Option.some Jvm.ClassFile.FieldType.int)) ∈ lw_all := lw_g (lw_at lw_m4 108 rfl) rfl
theorem q981 : (Jvm.Cond.instanceMethod ({ cls := "NeverUnseen", name := "where", desc := "()I" } : Jvm.MethodName)) ∈ lw_all := lw_g (lw_at lw_m4 110 rfl) rfl
theorem q982 : (Jvm.Cond.selects "NeverUnseen" ({ cls := "NeverUnseen", name := "where", desc := "()I" } : Jvm.MethodName) ({ cls := "NeverUnseen", name := "where", desc := "()I" } : Jvm.MethodName)) ∈ lw_all := lw_g (lw_at lw_m4 111 rfl) rfl
theorem q983 : (Jvm.Cond.code ({ cls := "NeverUnseen", name := "where", desc := "()I" } : Jvm.MethodName) prog_1_method_14_code (1 : Nat) (Option.some Jvm.ClassFile.FieldType.int)) ∈ lw_all := lw_g (lw_at lw_m4 112 rfl) rfl
theorem q985 : (Jvm.Cond.instanceMethod ({ cls := "NeverUnseen", name := "plain", desc := "(III)I" } : Jvm.MethodName)) ∈ lw_all := lw_g (lw_at lw_m4 114 rfl) rfl
theorem q986 : (Jvm.Cond.selects "NeverUnseen" ({ cls := "NeverUnseen", name := "plain", desc := "(III)I" } : Jvm.MethodName) ({ cls := "NeverUnseen", name := "plain", desc := "(III)I" } : Jvm.MethodName)) ∈ lw_all := lw_g (lw_at lw_m4 115 rfl) rfl
theorem q987 : (Jvm.Cond.code ({ cls := "NeverUnseen", name := "plain", desc := "(III)I" } : Jvm.MethodName) prog_1_method_21_code (4 : Nat) (Option.some Jvm.ClassFile.FieldType.int)) ∈ lw_all := lw_g (lw_at lw_m4 116 rfl) rfl
theorem q988 : (Jvm.Cond.methodLink "NeverUnseen" (163 : Nat) ({ cls := "NeverUnseen", name := "isPlace", desc := "(I)Z" } : Jvm.MethodName)) ∈ lw_all := lw_g (lw_at lw_m4 117 rfl) rfl
theorem q989 : (Jvm.Cond.privateMethod ({ cls := "NeverUnseen", name := "isPlace", desc := "(I)Z" } : Jvm.MethodName)) ∈ lw_tbl := lw_at lw_m4 118 rfl
theorem q990 : (Jvm.Cond.instanceMethod ({ cls := "NeverUnseen", name := "isPlace", desc := "(I)Z" } : Jvm.MethodName)) ∈ lw_all := lw_g (lw_at lw_m4 119 rfl) rfl
theorem q991 : (Jvm.Cond.code ({ cls := "NeverUnseen", name := "isPlace", desc := "(I)Z" } : Jvm.MethodName) prog_1_method_15_code (2 : Nat) (Option.some Jvm.ClassFile.FieldType.boolean)) ∈ lw_all := lw_g (lw_at lw_m4 120 rfl) rfl
theorem q992 : (Jvm.Cond.methodLink "NeverUnseen" (156 : Nat) ({ cls := "NeverUnseen", name := "isStep", desc := "(I)Z" } : Jvm.MethodName)) ∈ lw_all := lw_g (lw_at lw_m4 121 rfl) rfl
theorem q993 : (Jvm.Cond.static ({ cls := "NeverUnseen", name := "isStep", desc := "(I)Z" } : Jvm.MethodName)) ∈ lw_all := lw_g (lw_at lw_m4 122 rfl) rfl
theorem q994 : (Jvm.Cond.code ({ cls := "NeverUnseen", name := "isStep", desc := "(I)Z" } : Jvm.MethodName) prog_1_method_18_code (1 : Nat) (Option.some Jvm.ClassFile.FieldType.boolean)) ∈ lw_all := lw_g (lw_at lw_m4 123 rfl) rfl
theorem q995 : (Jvm.Cond.methodLink "NeverUnseen" (166 : Nat) ({ cls := "NeverUnseen", name := "sight", desc := "(I)LNeverUnseen$Sight;" } : Jvm.MethodName)) ∈ lw_all := lw_g (lw_at lw_m4 124 rfl) rfl
theorem q996 : (Jvm.Cond.privateMethod ({ cls := "NeverUnseen", name := "sight", desc := "(I)LNeverUnseen$Sight;" } : Jvm.MethodName)) ∈ lw_tbl := lw_at lw_m4 125 rfl
theorem q997 : (Jvm.Cond.instanceMethod ({ cls := "NeverUnseen", name := "sight", desc := "(I)LNeverUnseen$Sight;" } : Jvm.MethodName)) ∈ lw_all := lw_g (lw_at lw_m4 126 rfl) rfl
theorem q998 : (Jvm.Cond.code ({ cls := "NeverUnseen", name := "sight", desc := "(I)LNeverUnseen$Sight;" } : Jvm.MethodName) prog_1_method_20_code (2 : Nat) (Option.some (Jvm.ClassFile.FieldType.object "NeverUnseen$Sight"))) ∈ lw_all := lw_g (lw_at lw_m4 127 rfl) rfl
theorem q999 : (Jvm.Cond.methodLink "NeverUnseen" (160 : Nat) ({ cls := "NeverUnseen$Valley", name := "isNight", desc := "(I)Z" } : Jvm.MethodName)) ∈ lw_all := lw_g (lw_at lw_m4 128 rfl) rfl
theorem q1005 : (Jvm.Cond.instanceMethod ({ cls := "NeverUnseen", name := "sees", desc := "(II)I" } : Jvm.MethodName)) ∈ lw_all := lw_g (lw_at lw_m4 134 rfl) rfl
theorem q1006 : (Jvm.Cond.selects "NeverUnseen" ({ cls := "NeverUnseen", name := "sees", desc := "(II)I" } : Jvm.MethodName) ({ cls := "NeverUnseen", name := "sees", desc := "(II)I" } : Jvm.MethodName)) ∈ lw_all := lw_g (lw_at lw_m4 135 rfl) rfl
theorem q1007 : (Jvm.Cond.code ({ cls := "NeverUnseen", name := "sees", desc := "(II)I" } : Jvm.MethodName) prog_1_method_22_code (3 : Nat) (Option.some Jvm.ClassFile.FieldType.int)) ∈ lw_all := lw_g (lw_at lw_m4 136 rfl) rfl
theorem q1008 : (Jvm.Cond.methodLink "NeverUnseen" (173 : Nat) ({ cls := "NeverUnseen$Sight", name := "sees", desc := "(I)I" } : Jvm.MethodName)) ∈ lw_all := lw_g (lw_at lw_m4 137 rfl) rfl
theorem q1013 : (Jvm.Cond.instanceMethod ({ cls := "NeverUnseen", name := "middle", desc := "(I)I" } : Jvm.MethodName)) ∈ lw_all := lw_g (lw_at lw_m4 142 rfl) rfl
theorem q1014 : (Jvm.Cond.selects "NeverUnseen" ({ cls := "NeverUnseen", name := "middle", desc := "(I)I" } : Jvm.MethodName) ({ cls := "NeverUnseen", name := "middle", desc := "(I)I" } : Jvm.MethodName)) ∈ lw_all := lw_g (lw_at lw_m4 143 rfl) rfl
theorem q1015 : (Jvm.Cond.code ({ cls := "NeverUnseen", name := "middle", desc := "(I)I" } : Jvm.MethodName) prog_1_method_23_code (5 : Nat) (Option.some Jvm.ClassFile.FieldType.int)) ∈ lw_all := lw_g (lw_at lw_m4 144 rfl) rfl
theorem q1016 : (Jvm.Cond.methodLink "NeverUnseen" (176 : Nat) ({ cls := "NeverUnseen", name := "stepWhy", desc := "(I)I" } : Jvm.MethodName)) ∈ lw_all := lw_g (lw_at lw_m4 145 rfl) rfl
theorem q1017 : (Jvm.Cond.privateMethod ({ cls := "NeverUnseen", name := "stepWhy", desc := "(I)I" } : Jvm.MethodName)) ∈ lw_tbl := lw_at lw_m4 146 rfl
theorem q1018 : (Jvm.Cond.instanceMethod ({ cls := "NeverUnseen", name := "stepWhy", desc := "(I)I" } : Jvm.MethodName)) ∈ lw_all := lw_g (lw_at lw_m4 147 rfl) rfl
theorem q1019 : (Jvm.Cond.code ({ cls := "NeverUnseen", name := "stepWhy", desc := "(I)I" } : Jvm.MethodName) prog_1_method_19_code (2 : Nat) (Option.some Jvm.ClassFile.FieldType.int)) ∈ lw_all := lw_g (lw_at lw_m4 148 rfl) rfl
theorem q1020 : (Jvm.Cond.methodLink "NeverUnseen" (179 : Nat) ({ cls := "NeverUnseen$Valley", name := "all", desc := "()I" } : Jvm.MethodName)) ∈ lw_all := lw_g (lw_at lw_m4 149 rfl) rfl
theorem q1025 : (Jvm.Cond.instanceMethod ({ cls := "NeverUnseen", name := "eyes", desc := "(II)I" } : Jvm.MethodName)) ∈ lw_all := lw_g (lw_at lw_m4 154 rfl) rfl
theorem q1026 : (Jvm.Cond.selects "NeverUnseen" ({ cls := "NeverUnseen", name := "eyes", desc := "(II)I" } : Jvm.MethodName) ({ cls := "NeverUnseen", name := "eyes", desc := "(II)I" } : Jvm.MethodName)) ∈ lw_all := lw_g (lw_at lw_m4 155 rfl) rfl
theorem q1027 : (Jvm.Cond.code ({ cls := "NeverUnseen", name := "eyes", desc := "(II)I" } : Jvm.MethodName) prog_1_method_24_code (3 : Nat) (Option.some Jvm.ClassFile.FieldType.int)) ∈ lw_all := lw_g (lw_at lw_m4 156 rfl) rfl
theorem q1028 : (Jvm.Cond.methodLink "NeverUnseen" (183 : Nat) ({ cls := "NeverUnseen", name := "isPerson", desc := "(I)Z" } : Jvm.MethodName)) ∈ lw_all := lw_g (lw_at lw_m4 157 rfl) rfl
theorem q1029 : (Jvm.Cond.privateMethod ({ cls := "NeverUnseen", name := "isPerson", desc := "(I)Z" } : Jvm.MethodName)) ∈ lw_tbl := lw_at lw_m4 158 rfl
theorem q1030 : (Jvm.Cond.instanceMethod ({ cls := "NeverUnseen", name := "isPerson", desc := "(I)Z" } : Jvm.MethodName)) ∈ lw_all := lw_g (lw_at lw_m4 159 rfl) rfl
theorem q1031 : (Jvm.Cond.code ({ cls := "NeverUnseen", name := "isPerson", desc := "(I)Z" } : Jvm.MethodName) prog_1_method_16_code (2 : Nat) (Option.some Jvm.ClassFile.FieldType.boolean)) ∈ lw_all := lw_g (lw_at lw_m4 160 rfl) rfl
theorem q1032 : (Jvm.Cond.methodLink "NeverUnseen" (186 : Nat) ({ cls := "NeverUnseen$Person", name := "watches", desc := "(I)Z" } : Jvm.MethodName)) ∈ lw_all := lw_g (lw_at lw_m4 161 rfl) rfl
theorem q1060 : (Jvm.Cond.instanceMethod ({ cls := "NeverUnseen", name := "put", desc := "(II)Z" } : Jvm.MethodName)) ∈ lw_all := lw_g (lw_at lw_m4 189 rfl) rfl
theorem q1061 : (Jvm.Cond.selects "NeverUnseen" ({ cls := "NeverUnseen", name := "put", desc := "(II)Z" } : Jvm.MethodName) ({ cls := "NeverUnseen", name := "put", desc := "(II)Z" } : Jvm.MethodName)) ∈ lw_all := lw_g (lw_at lw_m4 190 rfl) rfl
theorem q1062 : (Jvm.Cond.code ({ cls := "NeverUnseen", name := "put", desc := "(II)Z" } : Jvm.MethodName) prog_1_method_30_code (3 : Nat) (Option.some Jvm.ClassFile.FieldType.boolean)) ∈ lw_all := lw_g (lw_at lw_m4 191 rfl) rfl
theorem q1063 : (Jvm.Cond.methodLink "NeverUnseen" (218 : Nat) ({ cls := "NeverUnseen", name := "yes", desc := "(I)Z" } : Jvm.MethodName)) ∈ lw_all := lw_g (lw_at lw_m4 192 rfl) rfl
theorem q1064 : (Jvm.Cond.privateMethod ({ cls := "NeverUnseen", name := "yes", desc := "(I)Z" } : Jvm.MethodName)) ∈ lw_tbl := lw_at lw_m4 193 rfl
theorem q1065 : (Jvm.Cond.instanceMethod ({ cls := "NeverUnseen", name := "yes", desc := "(I)Z" } : Jvm.MethodName)) ∈ lw_all := lw_g (lw_at lw_m4 194 rfl) rfl
theorem q1066 : (Jvm.Cond.code ({ cls := "NeverUnseen", name := "yes", desc := "(I)Z" } : Jvm.MethodName) prog_1_method_8_code (2 : Nat) (Option.some Jvm.ClassFile.FieldType.boolean)) ∈ lw_all := lw_g (lw_at lw_m4 195 rfl) rfl
theorem q1068 : (Jvm.Cond.instanceMethod ({ cls := "NeverUnseen", name := "time", desc := "(I)Z" } : Jvm.MethodName)) ∈ lw_all := lw_g (lw_at lw_m4 197 rfl) rfl
theorem q1069 : (Jvm.Cond.selects "NeverUnseen" ({ cls := "NeverUnseen", name := "time", desc := "(I)Z" } : Jvm.MethodName) ({ cls := "NeverUnseen", name := "time", desc := "(I)Z" } : Jvm.MethodName)) ∈ lw_all := lw_g (lw_at lw_m4 198 rfl) rfl
theorem q1070 : (Jvm.Cond.code ({ cls := "NeverUnseen", name := "time", desc := "(I)Z" } : Jvm.MethodName) prog_1_method_31_code (2 : Nat) (Option.some Jvm.ClassFile.FieldType.boolean)) ∈ lw_all := lw_g (lw_at lw_m4 199 rfl) rfl
theorem q1072 : (Jvm.Cond.instanceMethod ({ cls := "NeverUnseen", name := "at", desc := "(I)I" } : Jvm.MethodName)) ∈ lw_all := lw_g (lw_at lw_m4 201 rfl) rfl
theorem q1073 : (Jvm.Cond.selects "NeverUnseen" ({ cls := "NeverUnseen", name := "at", desc := "(I)I" } : Jvm.MethodName) ({ cls := "NeverUnseen", name := "at", desc := "(I)I" } : Jvm.MethodName)) ∈ lw_all := lw_g (lw_at lw_m4 202 rfl) rfl
theorem q1074 : (Jvm.Cond.code ({ cls := "NeverUnseen", name := "at", desc := "(I)I" } : Jvm.MethodName) prog_1_method_32_code (2 : Nat) (Option.some Jvm.ClassFile.FieldType.int)) ∈ lw_all := lw_g (lw_at lw_m4 203 rfl) rfl
theorem q1076 : (Jvm.Cond.instanceMethod ({ cls := "NeverUnseen", name := "unseen", desc := "()I" } : Jvm.MethodName)) ∈ lw_all := lw_g (lw_at lw_m4 205 rfl) rfl
theorem q1077 : (Jvm.Cond.selects "NeverUnseen" ({ cls := "NeverUnseen", name := "unseen", desc := "()I" } : Jvm.MethodName) ({ cls := "NeverUnseen", name := "unseen", desc := "()I" } : Jvm.MethodName)) ∈ lw_all := lw_g (lw_at lw_m4 206 rfl) rfl
theorem q1078 : (Jvm.Cond.code ({ cls := "NeverUnseen", name := "unseen", desc := "()I" } : Jvm.MethodName) prog_1_method_33_code (1 : Nat) (Option.some Jvm.ClassFile.FieldType.int)) ∈ lw_all := lw_g (lw_at lw_m4 207 rfl) rfl
theorem q1079 : (Jvm.Cond.methodLink "NeverUnseen" (210 : Nat) ({ cls := "NeverUnseen", name := "watching", desc := "(II)I" } : Jvm.MethodName)) ∈ lw_all := lw_g (lw_at lw_m4 208 rfl) rfl
theorem q1080 : (Jvm.Cond.privateMethod ({ cls := "NeverUnseen", name := "watching", desc := "(II)I" } : Jvm.MethodName)) ∈ lw_tbl := lw_at lw_m4 209 rfl
theorem q1081 : (Jvm.Cond.instanceMethod ({ cls := "NeverUnseen", name := "watching", desc := "(II)I" } : Jvm.MethodName)) ∈ lw_all := lw_g (lw_at lw_m4 210 rfl) rfl
theorem q1082 : (Jvm.Cond.code ({ cls := "NeverUnseen", name := "watching", desc := "(II)I" } : Jvm.MethodName) prog_1_method_25_code (5 : Nat) (Option.some Jvm.ClassFile.FieldType.int)) ∈ lw_all := lw_g (lw_at lw_m4 211 rfl) rfl
theorem q1083 : (Jvm.Cond.methodLink "NeverUnseen" (189 : Nat) ({ cls := "NeverUnseen", name := "lies", desc := "(II)Z" } : Jvm.MethodName)) ∈ lw_all := lw_g (lw_at lw_m4 212 rfl) rfl
theorem q1084 : (Jvm.Cond.methodLink "NeverUnseen" (206 : Nat) ({ cls := "NeverUnseen", name := "unseenAt", desc := "([IILNeverUnseen$Sight;)I" } : Jvm.MethodName)) ∈ lw_all := lw_g (lw_at lw_m4 213 rfl) rfl
theorem q1085 : (Jvm.Cond.privateMethod ({ cls := "NeverUnseen", name := "unseenAt", desc := "([IILNeverUnseen$Sight;)I" } : Jvm.MethodName)) ∈ lw_tbl := lw_at lw_m4 214 rfl
theorem q1086 : (Jvm.Cond.instanceMethod ({ cls := "NeverUnseen", name := "unseenAt", desc := "([IILNeverUnseen$Sight;)I" } : Jvm.MethodName)) ∈ lw_all := lw_g (lw_at lw_m4 215 rfl) rfl
theorem q1087 : (Jvm.Cond.code ({ cls := "NeverUnseen", name := "unseenAt", desc := "([IILNeverUnseen$Sight;)I" } : Jvm.MethodName) prog_1_method_27_code (6 : Nat) (Option.some Jvm.ClassFile.FieldType.int)) ∈ lw_all := lw_g (lw_at lw_m4 216 rfl) rfl
theorem q1088 : (Jvm.Cond.methodLink "NeverUnseen" (193 : Nat) ({ cls := "NeverUnseen", name := "watchersOf", desc := "([IIILNeverUnseen$Sight;)I" } : Jvm.MethodName)) ∈ lw_all := lw_g (lw_at lw_m4 217 rfl) rfl
theorem q1089 : (Jvm.Cond.privateMethod ({ cls := "NeverUnseen", name := "watchersOf", desc := "([IIILNeverUnseen$Sight;)I" } : Jvm.MethodName)) ∈ lw_tbl := lw_at lw_m4 218 rfl
theorem q1090 : (Jvm.Cond.instanceMethod ({ cls := "NeverUnseen", name := "watchersOf", desc := "([IIILNeverUnseen$Sight;)I" } : Jvm.MethodName)) ∈ lw_all := lw_g (lw_at lw_m4 219 rfl) rfl
theorem q1091 : (Jvm.Cond.code ({ cls := "NeverUnseen", name := "watchersOf", desc := "([IIILNeverUnseen$Sight;)I" } : Jvm.MethodName) prog_1_method_26_code (7 : Nat) (Option.some Jvm.ClassFile.FieldType.int)) ∈ lw_all := lw_g (lw_at lw_m4 220 rfl) rfl
theorem q1093 : (Jvm.Cond.instanceMethod ({ cls := "NeverUnseen", name := "lawful", desc := "()I" } : Jvm.MethodName)) ∈ lw_all := lw_g (lw_at lw_m4 222 rfl) rfl
theorem q1094 : (Jvm.Cond.selects "NeverUnseen" ({ cls := "NeverUnseen", name := "lawful", desc := "()I" } : Jvm.MethodName) ({ cls := "NeverUnseen", name := "lawful", desc := "()I" } : Jvm.MethodName)) ∈ lw_all := lw_g (lw_at lw_m4 223 rfl) rfl
theorem q1095 : (Jvm.Cond.code ({ cls := "NeverUnseen", name := "lawful", desc := "()I" } : Jvm.MethodName) prog_1_method_34_code (1 : Nat) (Option.some Jvm.ClassFile.FieldType.int)) ∈ lw_all := lw_g (lw_at lw_m4 224 rfl) rfl
theorem q1096 : (Jvm.Cond.methodLink "NeverUnseen" (221 : Nat) ({ cls := "NeverUnseen", name := "isLawfulAt", desc := "([II)Z" } : Jvm.MethodName)) ∈ lw_all := lw_g (lw_at lw_m4 225 rfl) rfl
theorem q1097 : (Jvm.Cond.privateMethod ({ cls := "NeverUnseen", name := "isLawfulAt", desc := "([II)Z" } : Jvm.MethodName)) ∈ lw_tbl := lw_at lw_m4 226 rfl
theorem q1098 : (Jvm.Cond.instanceMethod ({ cls := "NeverUnseen", name := "isLawfulAt", desc := "([II)Z" } : Jvm.MethodName)) ∈ lw_all := lw_g (lw_at lw_m4 227 rfl) rfl
theorem q1099 : (Jvm.Cond.code ({ cls := "NeverUnseen", name := "isLawfulAt", desc := "([II)Z" } : Jvm.MethodName) prog_1_method_29_code (3 : Nat) (Option.some Jvm.ClassFile.FieldType.boolean)) ∈ lw_all := lw_g (lw_at lw_m4 228 rfl) rfl
theorem q1100 : (Jvm.Cond.methodLink "NeverUnseen" (214 : Nat) ({ cls := "NeverUnseen", name := "isLawful", desc := "([IILNeverUnseen$Sight;)Z" } : Jvm.MethodName)) ∈ lw_all := lw_g (lw_at lw_m4 229 rfl) rfl
theorem q1101 : (Jvm.Cond.privateMethod ({ cls := "NeverUnseen", name := "isLawful", desc := "([IILNeverUnseen$Sight;)Z" } : Jvm.MethodName)) ∈ lw_tbl := lw_at lw_m4 230 rfl
theorem q1102 : (Jvm.Cond.instanceMethod ({ cls := "NeverUnseen", name := "isLawful", desc := "([IILNeverUnseen$Sight;)Z" } : Jvm.MethodName)) ∈ lw_all := lw_g (lw_at lw_m4 231 rfl) rfl
theorem q1103 : (Jvm.Cond.code ({ cls := "NeverUnseen", name := "isLawful", desc := "([IILNeverUnseen$Sight;)Z" } : Jvm.MethodName) prog_1_method_28_code (8 : Nat) (Option.some Jvm.ClassFile.FieldType.boolean)) ∈ lw_all := lw_g (lw_at lw_m4 232 rfl) rfl
theorem q1105 : (Jvm.Cond.instanceMethod ({ cls := "NeverUnseen", name := "by", desc := "(I)I" } : Jvm.MethodName)) ∈ lw_all := lw_g (lw_at lw_m4 234 rfl) rfl
theorem q1106 : (Jvm.Cond.selects "NeverUnseen" ({ cls := "NeverUnseen", name := "by", desc := "(I)I" } : Jvm.MethodName) ({ cls := "NeverUnseen", name := "by", desc := "(I)I" } : Jvm.MethodName)) ∈ lw_all := lw_g (lw_at lw_m4 235 rfl) rfl
theorem q1107 : (Jvm.Cond.code ({ cls := "NeverUnseen", name := "by", desc := "(I)I" } : Jvm.MethodName) prog_1_method_35_code (2 : Nat) (Option.some Jvm.ClassFile.FieldType.int)) ∈ lw_all := lw_g (lw_at lw_m4 236 rfl) rfl
theorem q1109 : (Jvm.Cond.instanceMethod ({ cls := "NeverUnseen", name := "move", desc := "(III)Z" } : Jvm.MethodName)) ∈ lw_all := lw_g (lw_at lw_m4 238 rfl) rfl
theorem q1110 : (Jvm.Cond.selects "NeverUnseen" ({ cls := "NeverUnseen", name := "move", desc := "(III)Z" } : Jvm.MethodName) ({ cls := "NeverUnseen", name := "move", desc := "(III)Z" } : Jvm.MethodName)) ∈ lw_all := lw_g (lw_at lw_m4 239 rfl) rfl
theorem q1111 : (Jvm.Cond.code ({ cls := "NeverUnseen", name := "move", desc := "(III)Z" } : Jvm.MethodName) prog_1_method_36_code (6 : Nat) (Option.some Jvm.ClassFile.FieldType.boolean)) ∈ lw_all := lw_g (lw_at lw_m5 0 rfl) rfl
theorem q1113 : (Jvm.Cond.instanceMethod ({ cls := "NeverUnseen", name := "planned", desc := "(II)I" } : Jvm.MethodName)) ∈ lw_all := lw_g (lw_at lw_m5 2 rfl) rfl
theorem q1114 : (Jvm.Cond.selects "NeverUnseen" ({ cls := "NeverUnseen", name := "planned", desc := "(II)I" } : Jvm.MethodName) ({ cls := "NeverUnseen", name := "planned", desc := "(II)I" } : Jvm.MethodName)) ∈ lw_all := lw_g (lw_at lw_m5 3 rfl) rfl
theorem q1115 : (Jvm.Cond.code ({ cls := "NeverUnseen", name := "planned", desc := "(II)I" } : Jvm.MethodName) prog_1_method_37_code (3 : Nat) (Option.some Jvm.ClassFile.FieldType.int)) ∈ lw_all := lw_g (lw_at lw_m5 4 rfl) rfl
theorem q1117 : (Jvm.Cond.instanceMethod ({ cls := "NeverUnseen", name := "judge", desc := "()I" } : Jvm.MethodName)) ∈ lw_all := lw_g (lw_at lw_m5 6 rfl) rfl
theorem q1118 : (Jvm.Cond.selects "NeverUnseen" ({ cls := "NeverUnseen", name := "judge", desc := "()I" } : Jvm.MethodName) ({ cls := "NeverUnseen", name := "judge", desc := "()I" } : Jvm.MethodName)) ∈ lw_all := lw_g (lw_at lw_m5 7 rfl) rfl
theorem q1119 : (Jvm.Cond.code ({ cls := "NeverUnseen", name := "judge", desc := "()I" } : Jvm.MethodName) prog_1_method_41_code (1 : Nat) (Option.some Jvm.ClassFile.FieldType.int)) ∈ lw_all := lw_g (lw_at lw_m5 8 rfl) rfl
theorem q1120 : (Jvm.Cond.methodLink "NeverUnseen" (267 : Nat) ({ cls := "NeverUnseen", name := "judged", desc := "()I" } : Jvm.MethodName)) ∈ lw_all := lw_g (lw_at lw_m5 9 rfl) rfl
theorem q1121 : (Jvm.Cond.privateMethod ({ cls := "NeverUnseen", name := "judged", desc := "()I" } : Jvm.MethodName)) ∈ lw_tbl := lw_at lw_m5 10 rfl
theorem q1122 : (Jvm.Cond.instanceMethod ({ cls := "NeverUnseen", name := "judged", desc := "()I" } : Jvm.MethodName)) ∈ lw_all := lw_g (lw_at lw_m5 11 rfl) rfl
theorem q1123 : (Jvm.Cond.code ({ cls := "NeverUnseen", name := "judged", desc := "()I" } : Jvm.MethodName) prog_1_method_40_code (3 : Nat) (Option.some Jvm.ClassFile.FieldType.int)) ∈ lw_all := lw_g (lw_at lw_m5 12 rfl) rfl
theorem q1124 : (Jvm.Cond.methodLink "NeverUnseen" (256 : Nat) ({ cls := "NeverUnseen", name := "areWays", desc := "(I)Z" } : Jvm.MethodName)) ∈ lw_all := lw_g (lw_at lw_m5 13 rfl) rfl
theorem q1125 : (Jvm.Cond.privateMethod ({ cls := "NeverUnseen", name := "areWays", desc := "(I)Z" } : Jvm.MethodName)) ∈ lw_tbl := lw_at lw_m5 14 rfl
theorem q1126 : (Jvm.Cond.instanceMethod ({ cls := "NeverUnseen", name := "areWays", desc := "(I)Z" } : Jvm.MethodName)) ∈ lw_all := lw_g (lw_at lw_m5 15 rfl) rfl
theorem q1127 : (Jvm.Cond.code ({ cls := "NeverUnseen", name := "areWays", desc := "(I)Z" } : Jvm.MethodName) prog_1_method_38_code (5 : Nat) (Option.some Jvm.ClassFile.FieldType.boolean)) ∈ lw_all := lw_g (lw_at lw_m5 16 rfl) rfl
theorem q1128 : (Jvm.Cond.methodLink "NeverUnseen" (228 : Nat) ({ cls := "NeverUnseen$Valley", name := "areLinked", desc := "(II)Z" } : Jvm.MethodName)) ∈ lw_all := lw_g (lw_at lw_m5 17 rfl) rfl
theorem q1129 : (Jvm.Cond.methodLink "NeverUnseen" (263 : Nat) ({ cls := "NeverUnseen", name := "isDone", desc := "(LNeverUnseen$Errand;)Z" } : Jvm.MethodName)) ∈ lw_all := lw_g (lw_at lw_m5 18 rfl) rfl
theorem q1130 : (Jvm.Cond.privateMethod ({ cls := "NeverUnseen", name := "isDone", desc := "(LNeverUnseen$Errand;)Z" } : Jvm.MethodName)) ∈ lw_tbl := lw_at lw_m5 19 rfl
theorem q1131 : (Jvm.Cond.instanceMethod ({ cls := "NeverUnseen", name := "isDone", desc := "(LNeverUnseen$Errand;)Z" } : Jvm.MethodName)) ∈ lw_all := lw_g (lw_at lw_m5 20 rfl) rfl
theorem q1132 : (Jvm.Cond.code ({ cls := "NeverUnseen", name := "isDone", desc := "(LNeverUnseen$Errand;)Z" } : Jvm.MethodName) prog_1_method_39_code (5 : Nat) (Option.some Jvm.ClassFile.FieldType.boolean)) ∈ lw_all := lw_g (lw_at lw_m5 21 rfl) rfl
theorem q1133 : (Jvm.Cond.methodLink "NeverUnseen" (245 : Nat) ({ cls := "java/lang/Math", name := "max", desc := "(II)I" } : Jvm.MethodName)) ∈ lw_all := lw_g (lw_at lw_m5 22 rfl) rfl
theorem q1135 : (Jvm.Cond.instanceMethod ({ cls := "NeverUnseen", name := "why", desc := "()I" } : Jvm.MethodName)) ∈ lw_all := lw_g (lw_at lw_m5 24 rfl) rfl
theorem q1136 : (Jvm.Cond.selects "NeverUnseen" ({ cls := "NeverUnseen", name := "why", desc := "()I" } : Jvm.MethodName) ({ cls := "NeverUnseen", name := "why", desc := "()I" } : Jvm.MethodName)) ∈ lw_all := lw_g (lw_at lw_m5 25 rfl) rfl
theorem q1137 : (Jvm.Cond.code ({ cls := "NeverUnseen", name := "why", desc := "()I" } : Jvm.MethodName) prog_1_method_42_code (2 : Nat) (Option.some Jvm.ClassFile.FieldType.int)) ∈ lw_all := lw_g (lw_at lw_m5 26 rfl) rfl
theorem q1139 : (Jvm.Cond.instanceMethod ({ cls := "NeverUnseen", name := "done", desc := "(I)I" } : Jvm.MethodName)) ∈ lw_all := lw_g (lw_at lw_m5 28 rfl) rfl
theorem q1140 : (Jvm.Cond.selects "NeverUnseen" ({ cls := "NeverUnseen", name := "done", desc := "(I)I" } : Jvm.MethodName) ({ cls := "NeverUnseen", name := "done", desc := "(I)I" } : Jvm.MethodName)) ∈ lw_all := lw_g (lw_at lw_m5 29 rfl) rfl
theorem q1141 : (Jvm.Cond.code ({ cls := "NeverUnseen", name := "done", desc := "(I)I" } : Jvm.MethodName) prog_1_method_43_code (2 : Nat) (Option.some Jvm.ClassFile.FieldType.int)) ∈ lw_all := lw_g (lw_at lw_m5 30 rfl) rfl
theorem q1142 : (Jvm.Cond.methodLink "NeverUnseen" (270 : Nat) ({ cls := "NeverUnseen", name := "isErrand", desc := "(I)Z" } : Jvm.MethodName)) ∈ lw_all := lw_g (lw_at lw_m5 31 rfl) rfl
theorem q1143 : (Jvm.Cond.privateMethod ({ cls := "NeverUnseen", name := "isErrand", desc := "(I)Z" } : Jvm.MethodName)) ∈ lw_tbl := lw_at lw_m5 32 rfl
theorem q1144 : (Jvm.Cond.instanceMethod ({ cls := "NeverUnseen", name := "isErrand", desc := "(I)Z" } : Jvm.MethodName)) ∈ lw_all := lw_g (lw_at lw_m5 33 rfl) rfl
theorem q1145 : (Jvm.Cond.code ({ cls := "NeverUnseen", name := "isErrand", desc := "(I)Z" } : Jvm.MethodName) prog_1_method_17_code (2 : Nat) (Option.some Jvm.ClassFile.FieldType.boolean)) ∈ lw_all := lw_g (lw_at lw_m5 34 rfl) rfl
theorem q1147 : (Jvm.Cond.instanceMethod ({ cls := "NeverUnseen", name := "forget", desc := "()Z" } : Jvm.MethodName)) ∈ lw_all := lw_g (lw_at lw_m5 36 rfl) rfl
theorem q1148 : (Jvm.Cond.selects "NeverUnseen" ({ cls := "NeverUnseen", name := "forget", desc := "()Z" } : Jvm.MethodName) ({ cls := "NeverUnseen", name := "forget", desc := "()Z" } : Jvm.MethodName)) ∈ lw_all := lw_g (lw_at lw_m5 37 rfl) rfl
theorem q1149 : (Jvm.Cond.code ({ cls := "NeverUnseen", name := "forget", desc := "()Z" } : Jvm.MethodName) prog_1_method_44_code (1 : Nat) (Option.some Jvm.ClassFile.FieldType.boolean)) ∈ lw_all := lw_g (lw_at lw_m5 38 rfl) rfl
theorem q1151 : (Jvm.Cond.instanceMethod ({ cls := "NeverUnseen", name := "posts", desc := "(II)I" } : Jvm.MethodName)) ∈ lw_all := lw_g (lw_at lw_m5 40 rfl) rfl
theorem q1152 : (Jvm.Cond.selects "NeverUnseen" ({ cls := "NeverUnseen", name := "posts", desc := "(II)I" } : Jvm.MethodName) ({ cls := "NeverUnseen", name := "posts", desc := "(II)I" } : Jvm.MethodName)) ∈ lw_all := lw_g (lw_at lw_m5 41 rfl) rfl
theorem q1153 : (Jvm.Cond.code ({ cls := "NeverUnseen", name := "posts", desc := "(II)I" } : Jvm.MethodName) prog_1_method_48_code (5 : Nat) (Option.some Jvm.ClassFile.FieldType.int)) ∈ lw_all := lw_g (lw_at lw_m5 42 rfl) rfl
theorem q1154 : (Jvm.Cond.methodLink "NeverUnseen" (280 : Nat) ({ cls := "NeverUnseen", name := "postsWhy", desc := "(II)I" } : Jvm.MethodName)) ∈ lw_all := lw_g (lw_at lw_m5 43 rfl) rfl
theorem q1155 : (Jvm.Cond.privateMethod ({ cls := "NeverUnseen", name := "postsWhy", desc := "(II)I" } : Jvm.MethodName)) ∈ lw_tbl := lw_at lw_m5 44 rfl
theorem q1156 : (Jvm.Cond.instanceMethod ({ cls := "NeverUnseen", name := "postsWhy", desc := "(II)I" } : Jvm.MethodName)) ∈ lw_all := lw_g (lw_at lw_m5 45 rfl) rfl
theorem q1157 : (Jvm.Cond.code ({ cls := "NeverUnseen", name := "postsWhy", desc := "(II)I" } : Jvm.MethodName) prog_1_method_47_code (3 : Nat) (Option.some Jvm.ClassFile.FieldType.int)) ∈ lw_all := lw_g (lw_at lw_m5 46 rfl) rfl
theorem q1158 : (Jvm.Cond.methodLink "NeverUnseen" (283 : Nat) ({ cls := "NeverUnseen", name := "postsFor", desc := "(ILNeverUnseen$Sight;)I" } : Jvm.MethodName)) ∈ lw_all := lw_g (lw_at lw_m5 47 rfl) rfl
theorem q1159 : (Jvm.Cond.privateMethod ({ cls := "NeverUnseen", name := "postsFor", desc := "(ILNeverUnseen$Sight;)I" } : Jvm.MethodName)) ∈ lw_tbl := lw_at lw_m5 48 rfl
theorem q1160 : (Jvm.Cond.instanceMethod ({ cls := "NeverUnseen", name := "postsFor", desc := "(ILNeverUnseen$Sight;)I" } : Jvm.MethodName)) ∈ lw_all := lw_g (lw_at lw_m5 49 rfl) rfl
theorem q1161 : (Jvm.Cond.code ({ cls := "NeverUnseen", name := "postsFor", desc := "(ILNeverUnseen$Sight;)I" } : Jvm.MethodName) prog_1_method_46_code (5 : Nat) (Option.some Jvm.ClassFile.FieldType.int)) ∈ lw_all := lw_g (lw_at lw_m5 50 rfl) rfl
theorem q1162 : (Jvm.Cond.methodLink "NeverUnseen" (273 : Nat) ({ cls := "NeverUnseen", name := "ones", desc := "(I)I" } : Jvm.MethodName)) ∈ lw_all := lw_g (lw_at lw_m5 51 rfl) rfl
theorem q1163 : (Jvm.Cond.static ({ cls := "NeverUnseen", name := "ones", desc := "(I)I" } : Jvm.MethodName)) ∈ lw_all := lw_g (lw_at lw_m5 52 rfl) rfl
theorem q1164 : (Jvm.Cond.code ({ cls := "NeverUnseen", name := "ones", desc := "(I)I" } : Jvm.MethodName) prog_1_method_3_code (3 : Nat) (Option.some Jvm.ClassFile.FieldType.int)) ∈ lw_all := lw_g (lw_at lw_m5 53 rfl) rfl
theorem q1165 : (Jvm.Cond.methodLink "NeverUnseen" (276 : Nat) ({ cls := "NeverUnseen", name := "hold", desc := "(IILNeverUnseen$Sight;)Z" } : Jvm.MethodName)) ∈ lw_all := lw_g (lw_at lw_m5 54 rfl) rfl
theorem q1166 : (Jvm.Cond.privateMethod ({ cls := "NeverUnseen", name := "hold", desc := "(IILNeverUnseen$Sight;)Z" } : Jvm.MethodName)) ∈ lw_tbl := lw_at lw_m5 55 rfl
theorem q1167 : (Jvm.Cond.instanceMethod ({ cls := "NeverUnseen", name := "hold", desc := "(IILNeverUnseen$Sight;)Z" } : Jvm.MethodName)) ∈ lw_all := lw_g (lw_at lw_m5 56 rfl) rfl
theorem q1168 : (Jvm.Cond.code ({ cls := "NeverUnseen", name := "hold", desc := "(IILNeverUnseen$Sight;)Z" } : Jvm.MethodName) prog_1_method_45_code (7 : Nat) (Option.some Jvm.ClassFile.FieldType.boolean)) ∈ lw_all := lw_g (lw_at lw_m5 57 rfl) rfl
theorem q1170 : (Jvm.Cond.instanceMethod ({ cls := "NeverUnseen", name := "postsAt", desc := "(II)I" } : Jvm.MethodName)) ∈ lw_all := lw_g (lw_at lw_m5 59 rfl) rfl
theorem q1171 : (Jvm.Cond.selects "NeverUnseen" ({ cls := "NeverUnseen", name := "postsAt", desc := "(II)I" } : Jvm.MethodName) ({ cls := "NeverUnseen", name := "postsAt", desc := "(II)I" } : Jvm.MethodName)) ∈ lw_all := lw_g (lw_at lw_m5 60 rfl) rfl
theorem q1172 : (Jvm.Cond.code ({ cls := "NeverUnseen", name := "postsAt", desc := "(II)I" } : Jvm.MethodName) prog_1_method_49_code (4 : Nat) (Option.some Jvm.ClassFile.FieldType.int)) ∈ lw_all := lw_g (lw_at lw_m5 61 rfl) rfl
theorem q1174 : (Jvm.Cond.instanceMethod ({ cls := "NeverUnseen", name := "go", desc := "(II)I" } : Jvm.MethodName)) ∈ lw_all := lw_g (lw_at lw_m5 63 rfl) rfl
theorem q1175 : (Jvm.Cond.selects "NeverUnseen" ({ cls := "NeverUnseen", name := "go", desc := "(II)I" } : Jvm.MethodName) ({ cls := "NeverUnseen", name := "go", desc := "(II)I" } : Jvm.MethodName)) ∈ lw_all := lw_g (lw_at lw_m5 64 rfl) rfl
theorem q1176 : (Jvm.Cond.code ({ cls := "NeverUnseen", name := "go", desc := "(II)I" } : Jvm.MethodName) prog_1_method_64_code (6 : Nat) (Option.some Jvm.ClassFile.FieldType.int)) ∈ lw_all := lw_g (lw_at lw_m5 65 rfl) rfl
theorem q1177 : (Jvm.Cond.methodLink "NeverUnseen" (323 : Nat) ({ cls := "NeverUnseen", name := "peopleWhy", desc := "(II)I" } : Jvm.MethodName)) ∈ lw_all := lw_g (lw_at lw_m5 66 rfl) rfl
theorem q1178 : (Jvm.Cond.privateMethod ({ cls := "NeverUnseen", name := "peopleWhy", desc := "(II)I" } : Jvm.MethodName)) ∈ lw_tbl := lw_at lw_m5 67 rfl
theorem q1179 : (Jvm.Cond.instanceMethod ({ cls := "NeverUnseen", name := "peopleWhy", desc := "(II)I" } : Jvm.MethodName)) ∈ lw_all := lw_g (lw_at lw_m5 68 rfl) rfl
theorem q1180 : (Jvm.Cond.code ({ cls := "NeverUnseen", name := "peopleWhy", desc := "(II)I" } : Jvm.MethodName) prog_1_method_60_code (3 : Nat) (Option.some Jvm.ClassFile.FieldType.int)) ∈ lw_all := lw_g (lw_at lw_m5 69 rfl) rfl
theorem q1181 : (Jvm.Cond.methodLink "NeverUnseen" (326 : Nat) ({ cls := "NeverUnseen", name := "choose", desc := "(I)V" } : Jvm.MethodName)) ∈ lw_all := lw_g (lw_at lw_m5 70 rfl) rfl
theorem q1182 : (Jvm.Cond.privateMethod ({ cls := "NeverUnseen", name := "choose", desc := "(I)V" } : Jvm.MethodName)) ∈ lw_tbl := lw_at lw_m5 71 rfl
theorem q1183 : (Jvm.Cond.instanceMethod ({ cls := "NeverUnseen", name := "choose", desc := "(I)V" } : Jvm.MethodName)) ∈ lw_all := lw_g (lw_at lw_m5 72 rfl) rfl
theorem q1184 : (Jvm.Cond.code ({ cls := "NeverUnseen", name := "choose", desc := "(I)V" } : Jvm.MethodName) prog_1_method_53_code (3 : Nat) (Option.none : Option Jvm.ClassFile.FieldType)) ∈ lw_all := lw_g (lw_at lw_m5 73 rfl) rfl
theorem q1185 : (Jvm.Cond.methodLink "NeverUnseen" (329 : Nat) ({ cls := "NeverUnseen", name := "reach", desc := "()V" } : Jvm.MethodName)) ∈ lw_all := lw_g (lw_at lw_m5 74 rfl) rfl
theorem q1186 : (Jvm.Cond.privateMethod ({ cls := "NeverUnseen", name := "reach", desc := "()V" } : Jvm.MethodName)) ∈ lw_tbl := lw_at lw_m5 75 rfl
theorem q1187 : (Jvm.Cond.instanceMethod ({ cls := "NeverUnseen", name := "reach", desc := "()V" } : Jvm.MethodName)) ∈ lw_all := lw_g (lw_at lw_m5 76 rfl) rfl
theorem q1188 : (Jvm.Cond.code ({ cls := "NeverUnseen", name := "reach", desc := "()V" } : Jvm.MethodName) prog_1_method_57_code (4 : Nat) (Option.none : Option Jvm.ClassFile.FieldType)) ∈ lw_all := lw_g (lw_at lw_m5 77 rfl) rfl
theorem q1189 : (Jvm.Cond.methodLink "NeverUnseen" (304 : Nat) ({ cls := "NeverUnseen", name := "nowState", desc := "()I" } : Jvm.MethodName)) ∈ lw_all := lw_g (lw_at lw_m5 78 rfl) rfl
theorem q1190 : (Jvm.Cond.privateMethod ({ cls := "NeverUnseen", name := "nowState", desc := "()I" } : Jvm.MethodName)) ∈ lw_tbl := lw_at lw_m5 79 rfl
theorem q1191 : (Jvm.Cond.instanceMethod ({ cls := "NeverUnseen", name := "nowState", desc := "()I" } : Jvm.MethodName)) ∈ lw_all := lw_g (lw_at lw_m5 80 rfl) rfl
theorem q1192 : (Jvm.Cond.code ({ cls := "NeverUnseen", name := "nowState", desc := "()I" } : Jvm.MethodName) prog_1_method_54_code (2 : Nat) (Option.some Jvm.ClassFile.FieldType.int)) ∈ lw_all := lw_g (lw_at lw_m5 81 rfl) rfl
theorem q1193 : (Jvm.Cond.methodLink "NeverUnseen" (293 : Nat) ({ cls := "NeverUnseen", name := "stateOf", desc := "([I)I" } : Jvm.MethodName)) ∈ lw_all := lw_g (lw_at lw_m5 82 rfl) rfl
theorem q1194 : (Jvm.Cond.privateMethod ({ cls := "NeverUnseen", name := "stateOf", desc := "([I)I" } : Jvm.MethodName)) ∈ lw_tbl := lw_at lw_m5 83 rfl
theorem q1195 : (Jvm.Cond.instanceMethod ({ cls := "NeverUnseen", name := "stateOf", desc := "([I)I" } : Jvm.MethodName)) ∈ lw_all := lw_g (lw_at lw_m5 84 rfl) rfl
theorem q1196 : (Jvm.Cond.code ({ cls := "NeverUnseen", name := "stateOf", desc := "([I)I" } : Jvm.MethodName) prog_1_method_50_code (4 : Nat) (Option.some Jvm.ClassFile.FieldType.int)) ∈ lw_all := lw_g (lw_at lw_m5 85 rfl) rfl
theorem q1197 : (Jvm.Cond.methodLink "NeverUnseen" (307 : Nat) ({ cls := "NeverUnseen", name := "allIn", desc := "(I)[I" } : Jvm.MethodName)) ∈ lw_all := lw_g (lw_at lw_m5 86 rfl) rfl
theorem q1198 : (Jvm.Cond.privateMethod ({ cls := "NeverUnseen", name := "allIn", desc := "(I)[I" } : Jvm.MethodName)) ∈ lw_tbl := lw_at lw_m5 87 rfl
theorem q1199 : (Jvm.Cond.instanceMethod ({ cls := "NeverUnseen", name := "allIn", desc := "(I)[I" } : Jvm.MethodName)) ∈ lw_all := lw_g (lw_at lw_m5 88 rfl) rfl
theorem q1200 : (Jvm.Cond.code ({ cls := "NeverUnseen", name := "allIn", desc := "(I)[I" } : Jvm.MethodName) prog_1_method_52_code (4 : Nat) (Option.some (Jvm.ClassFile.FieldType.array Jvm.ClassFile.FieldType.int))) ∈ lw_all := lw_g (lw_at lw_m5 89 rfl) rfl
theorem q1201 : (Jvm.Cond.methodLink "NeverUnseen" (311 : Nat) ({ cls := "NeverUnseen", name := "spread", desc := "(II)V" } : Jvm.MethodName)) ∈ lw_all := lw_g (lw_at lw_m5 90 rfl) rfl
theorem q1202 : (Jvm.Cond.privateMethod ({ cls := "NeverUnseen", name := "spread", desc := "(II)V" } : Jvm.MethodName)) ∈ lw_tbl := lw_at lw_m5 91 rfl
theorem q1203 : (Jvm.Cond.instanceMethod ({ cls := "NeverUnseen", name := "spread", desc := "(II)V" } : Jvm.MethodName)) ∈ lw_all := lw_g (lw_at lw_m5 92 rfl) rfl
theorem q1204 : (Jvm.Cond.code ({ cls := "NeverUnseen", name := "spread", desc := "(II)V" } : Jvm.MethodName) prog_1_method_58_code (3 : Nat) (Option.none : Option Jvm.ClassFile.FieldType)) ∈ lw_all := lw_g (lw_at lw_m5 93 rfl) rfl
theorem q1205 : (Jvm.Cond.methodLink "NeverUnseen" (297 : Nat) ({ cls := "NeverUnseen", name := "places", desc := "(I[I)V" } : Jvm.MethodName)) ∈ lw_all := lw_g (lw_at lw_m5 94 rfl) rfl
theorem q1206 : (Jvm.Cond.privateMethod ({ cls := "NeverUnseen", name := "places", desc := "(I[I)V" } : Jvm.MethodName)) ∈ lw_tbl := lw_at lw_m5 95 rfl
theorem q1207 : (Jvm.Cond.instanceMethod ({ cls := "NeverUnseen", name := "places", desc := "(I[I)V" } : Jvm.MethodName)) ∈ lw_all := lw_g (lw_at lw_m5 96 rfl) rfl
theorem q1208 : (Jvm.Cond.code ({ cls := "NeverUnseen", name := "places", desc := "(I[I)V" } : Jvm.MethodName) prog_1_method_51_code (5 : Nat) (Option.none : Option Jvm.ClassFile.FieldType)) ∈ lw_all := lw_g (lw_at lw_m5 97 rfl) rfl
theorem q1209 : (Jvm.Cond.methodLink "NeverUnseen" (315 : Nat) ({ cls := "NeverUnseen", name := "goesOn", desc := "(III)V" } : Jvm.MethodName)) ∈ lw_all := lw_g (lw_at lw_m5 98 rfl) rfl
theorem q1210 : (Jvm.Cond.privateMethod ({ cls := "NeverUnseen", name := "goesOn", desc := "(III)V" } : Jvm.MethodName)) ∈ lw_tbl := lw_at lw_m5 99 rfl
theorem q1211 : (Jvm.Cond.instanceMethod ({ cls := "NeverUnseen", name := "goesOn", desc := "(III)V" } : Jvm.MethodName)) ∈ lw_all := lw_g (lw_at lw_m5 100 rfl) rfl
theorem q1212 : (Jvm.Cond.code ({ cls := "NeverUnseen", name := "goesOn", desc := "(III)V" } : Jvm.MethodName) prog_1_method_59_code (5 : Nat) (Option.none : Option Jvm.ClassFile.FieldType)) ∈ lw_all := lw_g (lw_at lw_m5 101 rfl) rfl
theorem q1213 : (Jvm.Cond.methodLink "NeverUnseen" (332 : Nat) ({ cls := "NeverUnseen", name := "allAt", desc := "(I)I" } : Jvm.MethodName)) ∈ lw_all := lw_g (lw_at lw_m5 102 rfl) rfl
theorem q1214 : (Jvm.Cond.privateMethod ({ cls := "NeverUnseen", name := "allAt", desc := "(I)I" } : Jvm.MethodName)) ∈ lw_tbl := lw_at lw_m5 103 rfl
theorem q1215 : (Jvm.Cond.instanceMethod ({ cls := "NeverUnseen", name := "allAt", desc := "(I)I" } : Jvm.MethodName)) ∈ lw_all := lw_g (lw_at lw_m5 104 rfl) rfl
theorem q1216 : (Jvm.Cond.code ({ cls := "NeverUnseen", name := "allAt", desc := "(I)I" } : Jvm.MethodName) prog_1_method_61_code (3 : Nat) (Option.some Jvm.ClassFile.FieldType.int)) ∈ lw_all := lw_g (lw_at lw_m5 105 rfl) rfl
theorem q1217 : (Jvm.Cond.methodLink "NeverUnseen" (335 : Nat) ({ cls := "NeverUnseen", name := "laysPath", desc := "(II)V" } : Jvm.MethodName)) ∈ lw_all := lw_g (lw_at lw_m5 106 rfl) rfl
theorem q1218 : (Jvm.Cond.privateMethod ({ cls := "NeverUnseen", name := "laysPath", desc := "(II)V" } : Jvm.MethodName)) ∈ lw_tbl := lw_at lw_m5 107 rfl
theorem q1219 : (Jvm.Cond.instanceMethod ({ cls := "NeverUnseen", name := "laysPath", desc := "(II)V" } : Jvm.MethodName)) ∈ lw_all := lw_g (lw_at lw_m5 108 rfl) rfl
theorem q1220 : (Jvm.Cond.code ({ cls := "NeverUnseen", name := "laysPath", desc := "(II)V" } : Jvm.MethodName) prog_1_method_62_code (6 : Nat) (Option.none : Option Jvm.ClassFile.FieldType)) ∈ lw_all := lw_g (lw_at lw_m5 109 rfl) rfl
theorem q1221 : (Jvm.Cond.methodLink "NeverUnseen" (319 : Nat) ({ cls := "NeverUnseen", name := "firstHome", desc := "(III)I" } : Jvm.MethodName)) ∈ lw_all := lw_g (lw_at lw_m5 110 rfl) rfl
theorem q1222 : (Jvm.Cond.privateMethod ({ cls := "NeverUnseen", name := "firstHome", desc := "(III)I" } : Jvm.MethodName)) ∈ lw_tbl := lw_at lw_m5 111 rfl
theorem q1223 : (Jvm.Cond.instanceMethod ({ cls := "NeverUnseen", name := "firstHome", desc := "(III)I" } : Jvm.MethodName)) ∈ lw_all := lw_g (lw_at lw_m5 112 rfl) rfl
theorem q1224 : (Jvm.Cond.code ({ cls := "NeverUnseen", name := "firstHome", desc := "(III)I" } : Jvm.MethodName) prog_1_method_63_code (6 : Nat) (Option.some Jvm.ClassFile.FieldType.int)) ∈ lw_all := lw_g (lw_at lw_m5 113 rfl) rfl
theorem q1226 : (Jvm.Cond.instanceMethod ({ cls := "NeverUnseen", name := "path", desc := "(II)I" } : Jvm.MethodName)) ∈ lw_all := lw_g (lw_at lw_m5 115 rfl) rfl
theorem q1227 : (Jvm.Cond.selects "NeverUnseen" ({ cls := "NeverUnseen", name := "path", desc := "(II)I" } : Jvm.MethodName) ({ cls := "NeverUnseen", name := "path", desc := "(II)I" } : Jvm.MethodName)) ∈ lw_all := lw_g (lw_at lw_m5 116 rfl) rfl
theorem q1228 : (Jvm.Cond.code ({ cls := "NeverUnseen", name := "path", desc := "(II)I" } : Jvm.MethodName) prog_1_method_65_code (3 : Nat) (Option.some Jvm.ClassFile.FieldType.int)) ∈ lw_all := lw_g (lw_at lw_m5 117 rfl) rfl
theorem q1230 : (Jvm.Cond.instanceMethod ({ cls := "NeverUnseen", name := "doing", desc := "(II)I" } : Jvm.MethodName)) ∈ lw_all := lw_g (lw_at lw_m5 119 rfl) rfl
theorem q1231 : (Jvm.Cond.selects "NeverUnseen" ({ cls := "NeverUnseen", name := "doing", desc := "(II)I" } : Jvm.MethodName) ({ cls := "NeverUnseen", name := "doing", desc := "(II)I" } : Jvm.MethodName)) ∈ lw_all := lw_g (lw_at lw_m5 120 rfl) rfl
theorem q1232 : (Jvm.Cond.code ({ cls := "NeverUnseen", name := "doing", desc := "(II)I" } : Jvm.MethodName) prog_1_method_67_code (9 : Nat) (Option.some Jvm.ClassFile.FieldType.int)) ∈ lw_all := lw_g (lw_at lw_m5 121 rfl) rfl
theorem q1233 : (Jvm.Cond.methodLink "NeverUnseen" (338 : Nat) ({ cls := "NeverUnseen", name := "mayStay", desc := "(III)Z" } : Jvm.MethodName)) ∈ lw_all := lw_g (lw_at lw_m5 122 rfl) rfl
theorem q1234 : (Jvm.Cond.privateMethod ({ cls := "NeverUnseen", name := "mayStay", desc := "(III)Z" } : Jvm.MethodName)) ∈ lw_tbl := lw_at lw_m5 123 rfl
theorem q1235 : (Jvm.Cond.instanceMethod ({ cls := "NeverUnseen", name := "mayStay", desc := "(III)Z" } : Jvm.MethodName)) ∈ lw_all := lw_g (lw_at lw_m5 124 rfl) rfl
theorem q1236 : (Jvm.Cond.code ({ cls := "NeverUnseen", name := "mayStay", desc := "(III)Z" } : Jvm.MethodName) prog_1_method_66_code (6 : Nat) (Option.some Jvm.ClassFile.FieldType.boolean)) ∈ lw_all := lw_g (lw_at lw_m5 125 rfl) rfl
theorem q1238 : (Jvm.Cond.instanceMethod ({ cls := "NeverUnseen", name := "find", desc := "(II)I" } : Jvm.MethodName)) ∈ lw_all := lw_g (lw_at lw_m5 127 rfl) rfl
theorem q1239 : (Jvm.Cond.selects "NeverUnseen" ({ cls := "NeverUnseen", name := "find", desc := "(II)I" } : Jvm.MethodName) ({ cls := "NeverUnseen", name := "find", desc := "(II)I" } : Jvm.MethodName)) ∈ lw_all := lw_g (lw_at lw_m5 128 rfl) rfl
theorem q1240 : (Jvm.Cond.code ({ cls := "NeverUnseen", name := "find", desc := "(II)I" } : Jvm.MethodName) prog_1_method_72_code (5 : Nat) (Option.some Jvm.ClassFile.FieldType.int)) ∈ lw_all := lw_g (lw_at lw_m5 129 rfl) rfl
theorem q1241 : (Jvm.Cond.methodLink "NeverUnseen" (347 : Nat) ({ cls := "NeverUnseen", name := "lookedAt", desc := "(II)I" } : Jvm.MethodName)) ∈ lw_all := lw_g (lw_at lw_m5 130 rfl) rfl
theorem q1242 : (Jvm.Cond.privateMethod ({ cls := "NeverUnseen", name := "lookedAt", desc := "(II)I" } : Jvm.MethodName)) ∈ lw_tbl := lw_at lw_m5 131 rfl
theorem q1243 : (Jvm.Cond.instanceMethod ({ cls := "NeverUnseen", name := "lookedAt", desc := "(II)I" } : Jvm.MethodName)) ∈ lw_all := lw_g (lw_at lw_m5 132 rfl) rfl
theorem q1244 : (Jvm.Cond.code ({ cls := "NeverUnseen", name := "lookedAt", desc := "(II)I" } : Jvm.MethodName) prog_1_method_68_code (6 : Nat) (Option.some Jvm.ClassFile.FieldType.int)) ∈ lw_all := lw_g (lw_at lw_m5 133 rfl) rfl
theorem q1245 : (Jvm.Cond.methodLink "NeverUnseen" (356 : Nat) ({ cls := "NeverUnseen", name := "isFound", desc := "([ZI)Z" } : Jvm.MethodName)) ∈ lw_all := lw_g (lw_at lw_m5 134 rfl) rfl
theorem q1246 : (Jvm.Cond.privateMethod ({ cls := "NeverUnseen", name := "isFound", desc := "([ZI)Z" } : Jvm.MethodName)) ∈ lw_tbl := lw_at lw_m5 135 rfl
theorem q1247 : (Jvm.Cond.instanceMethod ({ cls := "NeverUnseen", name := "isFound", desc := "([ZI)Z" } : Jvm.MethodName)) ∈ lw_all := lw_g (lw_at lw_m5 136 rfl) rfl
theorem q1248 : (Jvm.Cond.code ({ cls := "NeverUnseen", name := "isFound", desc := "([ZI)Z" } : Jvm.MethodName) prog_1_method_69_code (5 : Nat) (Option.some Jvm.ClassFile.FieldType.boolean)) ∈ lw_all := lw_g (lw_at lw_m5 137 rfl) rfl
theorem q1249 : (Jvm.Cond.methodLink "NeverUnseen" (360 : Nat) ({ cls := "NeverUnseen", name := "further", desc := "(II)V" } : Jvm.MethodName)) ∈ lw_all := lw_g (lw_at lw_m5 138 rfl) rfl
theorem q1250 : (Jvm.Cond.privateMethod ({ cls := "NeverUnseen", name := "further", desc := "(II)V" } : Jvm.MethodName)) ∈ lw_tbl := lw_at lw_m5 139 rfl
theorem q1251 : (Jvm.Cond.instanceMethod ({ cls := "NeverUnseen", name := "further", desc := "(II)V" } : Jvm.MethodName)) ∈ lw_all := lw_g (lw_at lw_m5 140 rfl) rfl
theorem q1252 : (Jvm.Cond.code ({ cls := "NeverUnseen", name := "further", desc := "(II)V" } : Jvm.MethodName) prog_1_method_71_code (7 : Nat) (Option.none : Option Jvm.ClassFile.FieldType)) ∈ lw_all := lw_g (lw_at lw_m5 141 rfl) rfl
theorem q1253 : (Jvm.Cond.methodLink "NeverUnseen" (341 : Nat) ({ cls := "NeverUnseen", name := "isAny", desc := "(I)Z" } : Jvm.MethodName)) ∈ lw_all := lw_g (lw_at lw_m5 142 rfl) rfl
theorem q1254 : (Jvm.Cond.privateMethod ({ cls := "NeverUnseen", name := "isAny", desc := "(I)Z" } : Jvm.MethodName)) ∈ lw_tbl := lw_at lw_m5 143 rfl
theorem q1255 : (Jvm.Cond.instanceMethod ({ cls := "NeverUnseen", name := "isAny", desc := "(I)Z" } : Jvm.MethodName)) ∈ lw_all := lw_g (lw_at lw_m5 144 rfl) rfl
theorem q1256 : (Jvm.Cond.code ({ cls := "NeverUnseen", name := "isAny", desc := "(I)Z" } : Jvm.MethodName) prog_1_method_70_code (4 : Nat) (Option.some Jvm.ClassFile.FieldType.boolean)) ∈ lw_all := lw_g (lw_at lw_m5 145 rfl) rfl
theorem q1257 : (Jvm.Cond.methodLink "NeverUnseen" (344 : Nat) ({ cls := "NeverUnseen", name := "nextFrom", desc := "(II)I" } : Jvm.MethodName)) ∈ lw_all := lw_g (lw_at lw_m5 146 rfl) rfl
theorem q1258 : (Jvm.Cond.privateMethod ({ cls := "NeverUnseen", name := "nextFrom", desc := "(II)I" } : Jvm.MethodName)) ∈ lw_tbl := lw_at lw_m5 147 rfl
theorem q1259 : (Jvm.Cond.instanceMethod ({ cls := "NeverUnseen", name := "nextFrom", desc := "(II)I" } : Jvm.MethodName)) ∈ lw_all := lw_g (lw_at lw_m5 148 rfl) rfl
theorem q1260 : (Jvm.Cond.code ({ cls := "NeverUnseen", name := "nextFrom", desc := "(II)I" } : Jvm.MethodName) prog_1_method_56_code (4 : Nat) (Option.some Jvm.ClassFile.FieldType.int)) ∈ lw_all := lw_g (lw_at lw_m5 149 rfl) rfl
theorem q1261 : (Jvm.Cond.methodLink "NeverUnseen" (301 : Nat) ({ cls := "NeverUnseen", name := "leads", desc := "(II)Z" } : Jvm.MethodName)) ∈ lw_all := lw_g (lw_at lw_m5 150 rfl) rfl
theorem q1262 : (Jvm.Cond.privateMethod ({ cls := "NeverUnseen", name := "leads", desc := "(II)Z" } : Jvm.MethodName)) ∈ lw_tbl := lw_at lw_m5 151 rfl
theorem q1263 : (Jvm.Cond.instanceMethod ({ cls := "NeverUnseen", name := "leads", desc := "(II)Z" } : Jvm.MethodName)) ∈ lw_all := lw_g (lw_at lw_m5 152 rfl) rfl
theorem q1264 : (Jvm.Cond.code ({ cls := "NeverUnseen", name := "leads", desc := "(II)Z" } : Jvm.MethodName) prog_1_method_55_code (5 : Nat) (Option.some Jvm.ClassFile.FieldType.boolean)) ∈ lw_all := lw_g (lw_at lw_m5 153 rfl) rfl
theorem q1265 : (Jvm.Cond.methodLink "NeverUnseen" (350 : Nat) ({ cls := "java/lang/System", name := "arraycopy", desc := "(Ljava/lang/Object;ILjava/lang/Object;II)V" } : Jvm.MethodName)) ∈ lw_all := lw_g (lw_at lw_m5 154 rfl) rfl
theorem q1269 : (Jvm.Cond.instanceMethod ({ cls := "NeverUnseen", name := "sleepers", desc := "(I)I" } : Jvm.MethodName)) ∈ lw_all := lw_g (lw_at lw_m5 158 rfl) rfl
theorem q1270 : (Jvm.Cond.selects "NeverUnseen" ({ cls := "NeverUnseen", name := "sleepers", desc := "(I)I" } : Jvm.MethodName) ({ cls := "NeverUnseen", name := "sleepers", desc := "(I)I" } : Jvm.MethodName)) ∈ lw_all := lw_g (lw_at lw_m5 159 rfl) rfl
theorem q1271 : (Jvm.Cond.code ({ cls := "NeverUnseen", name := "sleepers", desc := "(I)I" } : Jvm.MethodName) prog_1_method_73_code (5 : Nat) (Option.some Jvm.ClassFile.FieldType.int)) ∈ lw_all := lw_g (lw_at lw_m5 160 rfl) rfl
theorem q1273 : (Jvm.Cond.instanceMethod ({ cls := "NeverUnseen", name := "alone", desc := "(I)I" } : Jvm.MethodName)) ∈ lw_all := lw_g (lw_at lw_m5 162 rfl) rfl
theorem q1274 : (Jvm.Cond.selects "NeverUnseen" ({ cls := "NeverUnseen", name := "alone", desc := "(I)I" } : Jvm.MethodName) ({ cls := "NeverUnseen", name := "alone", desc := "(I)I" } : Jvm.MethodName)) ∈ lw_all := lw_g (lw_at lw_m5 163 rfl) rfl
theorem q1275 : (Jvm.Cond.code ({ cls := "NeverUnseen", name := "alone", desc := "(I)I" } : Jvm.MethodName) prog_1_method_75_code (4 : Nat) (Option.some Jvm.ClassFile.FieldType.int)) ∈ lw_all := lw_g (lw_at lw_m5 164 rfl) rfl
theorem q1276 : (Jvm.Cond.methodLink "NeverUnseen" (363 : Nat) ({ cls := "NeverUnseen", name := "doFor", desc := "(II)Z" } : Jvm.MethodName)) ∈ lw_all := lw_g (lw_at lw_m5 165 rfl) rfl
theorem q1277 : (Jvm.Cond.privateMethod ({ cls := "NeverUnseen", name := "doFor", desc := "(II)Z" } : Jvm.MethodName)) ∈ lw_tbl := lw_at lw_m5 166 rfl
theorem q1278 : (Jvm.Cond.instanceMethod ({ cls := "NeverUnseen", name := "doFor", desc := "(II)Z" } : Jvm.MethodName)) ∈ lw_all := lw_g (lw_at lw_m5 167 rfl) rfl
theorem q1279 : (Jvm.Cond.code ({ cls := "NeverUnseen", name := "doFor", desc := "(II)Z" } : Jvm.MethodName) prog_1_method_74_code (5 : Nat) (Option.some Jvm.ClassFile.FieldType.boolean)) ∈ lw_all := lw_g (lw_at lw_m5 168 rfl) rfl
theorem q1281 : (Jvm.Cond.instanceMethod ({ cls := "NeverUnseen", name := "glass", desc := "(I)I" } : Jvm.MethodName)) ∈ lw_all := lw_g (lw_at lw_m5 170 rfl) rfl
theorem q1282 : (Jvm.Cond.selects "NeverUnseen" ({ cls := "NeverUnseen", name := "glass", desc := "(I)I" } : Jvm.MethodName) ({ cls := "NeverUnseen", name := "glass", desc := "(I)I" } : Jvm.MethodName)) ∈ lw_all := lw_g (lw_at lw_m5 171 rfl) rfl
theorem q1283 : (Jvm.Cond.code ({ cls := "NeverUnseen", name := "glass", desc := "(I)I" } : Jvm.MethodName) prog_1_method_76_code (4 : Nat) (Option.some Jvm.ClassFile.FieldType.int)) ∈ lw_all := lw_g (lw_at lw_m5 172 rfl) rfl
theorem q1285 : (Jvm.Cond.instanceMethod ({ cls := "NeverUnseen", name := "pairs", desc := "(I)I" } : Jvm.MethodName)) ∈ lw_all := lw_g (lw_at lw_m5 174 rfl) rfl
theorem q1286 : (Jvm.Cond.selects "NeverUnseen" ({ cls := "NeverUnseen", name := "pairs", desc := "(I)I" } : Jvm.MethodName) ({ cls := "NeverUnseen", name := "pairs", desc := "(I)I" } : Jvm.MethodName)) ∈ lw_all := lw_g (lw_at lw_m5 175 rfl) rfl
theorem q1287 : (Jvm.Cond.code ({ cls := "NeverUnseen", name := "pairs", desc := "(I)I" } : Jvm.MethodName) prog_1_method_77_code (3 : Nat) (Option.some Jvm.ClassFile.FieldType.int)) ∈ lw_all := lw_g (lw_at lw_m5 176 rfl) rfl
theorem q1288 : (Jvm.Cond.methodLink "NeverUnseen" (366 : Nat) ({ cls := "NeverUnseen$Sight", name := "pairs", desc := "(I)I" } : Jvm.MethodName)) ∈ lw_all := lw_g (lw_at lw_m5 177 rfl) rfl
theorem q1294 : (Jvm.Cond.instanceMethod ({ cls := "NeverUnseen", name := "window", desc := "(I)I" } : Jvm.MethodName)) ∈ lw_all := lw_g (lw_at lw_m5 183 rfl) rfl
theorem q1295 : (Jvm.Cond.selects "NeverUnseen" ({ cls := "NeverUnseen", name := "window", desc := "(I)I" } : Jvm.MethodName) ({ cls := "NeverUnseen", name := "window", desc := "(I)I" } : Jvm.MethodName)) ∈ lw_all := lw_g (lw_at lw_m5 184 rfl) rfl
theorem q1296 : (Jvm.Cond.code ({ cls := "NeverUnseen", name := "window", desc := "(I)I" } : Jvm.MethodName) prog_1_method_81_code (3 : Nat) (Option.some Jvm.ClassFile.FieldType.int)) ∈ lw_all := lw_g (lw_at lw_m5 185 rfl) rfl
theorem q1297 : (Jvm.Cond.methodLink "NeverUnseen" (378 : Nat) ({ cls := "NeverUnseen", name := "windowWhy", desc := "(I)I" } : Jvm.MethodName)) ∈ lw_all := lw_g (lw_at lw_m5 186 rfl) rfl
theorem q1298 : (Jvm.Cond.privateMethod ({ cls := "NeverUnseen", name := "windowWhy", desc := "(I)I" } : Jvm.MethodName)) ∈ lw_tbl := lw_at lw_m5 187 rfl
theorem q1299 : (Jvm.Cond.instanceMethod ({ cls := "NeverUnseen", name := "windowWhy", desc := "(I)I" } : Jvm.MethodName)) ∈ lw_all := lw_g (lw_at lw_m5 188 rfl) rfl
theorem q1300 : (Jvm.Cond.code ({ cls := "NeverUnseen", name := "windowWhy", desc := "(I)I" } : Jvm.MethodName) prog_1_method_80_code (3 : Nat) (Option.some Jvm.ClassFile.FieldType.int)) ∈ lw_all := lw_g (lw_at lw_m5 189 rfl) rfl
theorem q1301 : (Jvm.Cond.methodLink "NeverUnseen" (381 : Nat) ({ cls := "NeverUnseen", name := "bestWindow", desc := "(I)I" } : Jvm.MethodName)) ∈ lw_all := lw_g (lw_at lw_m5 190 rfl) rfl
theorem q1302 : (Jvm.Cond.privateMethod ({ cls := "NeverUnseen", name := "bestWindow", desc := "(I)I" } : Jvm.MethodName)) ∈ lw_tbl := lw_at lw_m5 191 rfl
theorem q1303 : (Jvm.Cond.instanceMethod ({ cls := "NeverUnseen", name := "bestWindow", desc := "(I)I" } : Jvm.MethodName)) ∈ lw_all := lw_g (lw_at lw_m5 192 rfl) rfl
theorem q1304 : (Jvm.Cond.code ({ cls := "NeverUnseen", name := "bestWindow", desc := "(I)I" } : Jvm.MethodName) prog_1_method_79_code (4 : Nat) (Option.some Jvm.ClassFile.FieldType.int)) ∈ lw_all := lw_g (lw_at lw_m5 193 rfl) rfl
theorem q1305 : (Jvm.Cond.methodLink "NeverUnseen" (375 : Nat) ({ cls := "NeverUnseen", name := "pairsWith", desc := "(II)I" } : Jvm.MethodName)) ∈ lw_all := lw_g (lw_at lw_m5 194 rfl) rfl
theorem q1306 : (Jvm.Cond.privateMethod ({ cls := "NeverUnseen", name := "pairsWith", desc := "(II)I" } : Jvm.MethodName)) ∈ lw_tbl := lw_at lw_m5 195 rfl
theorem q1307 : (Jvm.Cond.instanceMethod ({ cls := "NeverUnseen", name := "pairsWith", desc := "(II)I" } : Jvm.MethodName)) ∈ lw_all := lw_g (lw_at lw_m5 196 rfl) rfl
theorem q1308 : (Jvm.Cond.code ({ cls := "NeverUnseen", name := "pairsWith", desc := "(II)I" } : Jvm.MethodName) prog_1_method_78_code (3 : Nat) (Option.some Jvm.ClassFile.FieldType.int)) ∈ lw_all := lw_g (lw_at lw_m5 197 rfl) rfl
theorem q1309 : (Jvm.Cond.methodLink "NeverUnseen" (369 : Nat) ({ cls := "NeverUnseen$Valley", name := "range", desc := "(I)I" } : Jvm.MethodName)) ∈ lw_all := lw_g (lw_at lw_m5 198 rfl) rfl
theorem q1315 : (Jvm.Cond.instanceMethod ({ cls := "NeverUnseen", name := "frees", desc := "(I)I" } : Jvm.MethodName)) ∈ lw_all := lw_g (lw_at lw_m5 204 rfl) rfl
theorem q1316 : (Jvm.Cond.selects "NeverUnseen" ({ cls := "NeverUnseen", name := "frees", desc := "(I)I" } : Jvm.MethodName) ({ cls := "NeverUnseen", name := "frees", desc := "(I)I" } : Jvm.MethodName)) ∈ lw_all := lw_g (lw_at lw_m5 205 rfl) rfl
theorem q1317 : (Jvm.Cond.code ({ cls := "NeverUnseen", name := "frees", desc := "(I)I" } : Jvm.MethodName) prog_1_method_82_code (3 : Nat) (Option.some Jvm.ClassFile.FieldType.int)) ∈ lw_all := lw_g (lw_at lw_m5 206 rfl) rfl
theorem q1319 : (Jvm.Cond.instanceMethod ({ cls := "NeverUnseen", name := "tower", desc := "(II)I" } : Jvm.MethodName)) ∈ lw_all := lw_g (lw_at lw_m5 208 rfl) rfl
theorem q1320 : (Jvm.Cond.selects "NeverUnseen" ({ cls := "NeverUnseen", name := "tower", desc := "(II)I" } : Jvm.MethodName) ({ cls := "NeverUnseen", name := "tower", desc := "(II)I" } : Jvm.MethodName)) ∈ lw_all := lw_g (lw_at lw_m5 209 rfl) rfl
theorem q1321 : (Jvm.Cond.code ({ cls := "NeverUnseen", name := "tower", desc := "(II)I" } : Jvm.MethodName) prog_1_method_84_code (5 : Nat) (Option.some Jvm.ClassFile.FieldType.int)) ∈ lw_all := lw_g (lw_at lw_m5 210 rfl) rfl
theorem q1322 : (Jvm.Cond.methodLink "NeverUnseen" (390 : Nat) ({ cls := "NeverUnseen", name := "plainFrom", desc := "(II)I" } : Jvm.MethodName)) ∈ lw_all := lw_g (lw_at lw_m5 211 rfl) rfl
theorem q1323 : (Jvm.Cond.privateMethod ({ cls := "NeverUnseen", name := "plainFrom", desc := "(II)I" } : Jvm.MethodName)) ∈ lw_tbl := lw_at lw_m5 212 rfl
theorem q1324 : (Jvm.Cond.instanceMethod ({ cls := "NeverUnseen", name := "plainFrom", desc := "(II)I" } : Jvm.MethodName)) ∈ lw_all := lw_g (lw_at lw_m5 213 rfl) rfl
theorem q1325 : (Jvm.Cond.code ({ cls := "NeverUnseen", name := "plainFrom", desc := "(II)I" } : Jvm.MethodName) prog_1_method_83_code (5 : Nat) (Option.some Jvm.ClassFile.FieldType.int)) ∈ lw_all := lw_g (lw_at lw_m5 214 rfl) rfl
theorem q1326 : (Jvm.Cond.methodLink "NeverUnseen" (384 : Nat) ({ cls := "NeverUnseen$Valley", name := "far", desc := "(II)I" } : Jvm.MethodName)) ∈ lw_all := lw_g (lw_at lw_m5 215 rfl) rfl
theorem q1327 : (Jvm.Cond.methodLink "NeverUnseen" (387 : Nat) ({ cls := "NeverUnseen$Valley", name := "isWalled", desc := "(III)Z" } : Jvm.MethodName)) ∈ lw_all := lw_g (lw_at lw_m5 216 rfl) rfl
theorem q1329 : (Jvm.Cond.instanceMethod ({ cls := "NeverUnseen", name := "made", desc := "(II)I" } : Jvm.MethodName)) ∈ lw_all := lw_g (lw_at lw_m5 218 rfl) rfl
theorem q1330 : (Jvm.Cond.selects "NeverUnseen" ({ cls := "NeverUnseen", name := "made", desc := "(II)I" } : Jvm.MethodName) ({ cls := "NeverUnseen", name := "made", desc := "(II)I" } : Jvm.MethodName)) ∈ lw_all := lw_g (lw_at lw_m5 219 rfl) rfl
theorem q1331 : (Jvm.Cond.code ({ cls := "NeverUnseen", name := "made", desc := "(II)I" } : Jvm.MethodName) prog_1_method_87_code (4 : Nat) (Option.some Jvm.ClassFile.FieldType.int)) ∈ lw_all := lw_g (lw_at lw_m5 220 rfl) rfl
theorem q1332 : (Jvm.Cond.methodLink "NeverUnseen" (399 : Nat) ({ cls := "NeverUnseen", name := "madeWhy", desc := "(II)I" } : Jvm.MethodName)) ∈ lw_all := lw_g (lw_at lw_m5 221 rfl) rfl
theorem q1333 : (Jvm.Cond.privateMethod ({ cls := "NeverUnseen", name := "madeWhy", desc := "(II)I" } : Jvm.MethodName)) ∈ lw_tbl := lw_at lw_m5 222 rfl
theorem q1334 : (Jvm.Cond.instanceMethod ({ cls := "NeverUnseen", name := "madeWhy", desc := "(II)I" } : Jvm.MethodName)) ∈ lw_all := lw_g (lw_at lw_m5 223 rfl) rfl
theorem q1335 : (Jvm.Cond.code ({ cls := "NeverUnseen", name := "madeWhy", desc := "(II)I" } : Jvm.MethodName) prog_1_method_86_code (3 : Nat) (Option.some Jvm.ClassFile.FieldType.int)) ∈ lw_all := lw_g (lw_at lw_m5 224 rfl) rfl
theorem q1336 : (Jvm.Cond.methodLink "NeverUnseen" (396 : Nat) ({ cls := "java/lang/Math", name := "min", desc := "(II)I" } : Jvm.MethodName)) ∈ lw_all := lw_g (lw_at lw_m5 225 rfl) rfl
theorem q1339 : (Jvm.Cond.methodLink "NeverUnseen" (402 : Nat) ({ cls := "NeverUnseen", name := "bestWalls", desc := "(II)I" } : Jvm.MethodName)) ∈ lw_all := lw_g (lw_at lw_m5 228 rfl) rfl
theorem q1340 : (Jvm.Cond.privateMethod ({ cls := "NeverUnseen", name := "bestWalls", desc := "(II)I" } : Jvm.MethodName)) ∈ lw_tbl := lw_at lw_m5 229 rfl
theorem q1341 : (Jvm.Cond.instanceMethod ({ cls := "NeverUnseen", name := "bestWalls", desc := "(II)I" } : Jvm.MethodName)) ∈ lw_all := lw_g (lw_at lw_m5 230 rfl) rfl
theorem q1342 : (Jvm.Cond.code ({ cls := "NeverUnseen", name := "bestWalls", desc := "(II)I" } : Jvm.MethodName) prog_1_method_85_code (6 : Nat) (Option.some Jvm.ClassFile.FieldType.int)) ∈ lw_all := lw_g (lw_at lw_m5 231 rfl) rfl
theorem q1344 : (Jvm.Cond.instanceMethod ({ cls := "NeverUnseen", name := "needs", desc := "(II)I" } : Jvm.MethodName)) ∈ lw_all := lw_g (lw_at lw_m5 233 rfl) rfl
theorem q1345 : (Jvm.Cond.selects "NeverUnseen" ({ cls := "NeverUnseen", name := "needs", desc := "(II)I" } : Jvm.MethodName) ({ cls := "NeverUnseen", name := "needs", desc := "(II)I" } : Jvm.MethodName)) ∈ lw_all := lw_g (lw_at lw_m5 234 rfl) rfl
theorem q1346 : (Jvm.Cond.code ({ cls := "NeverUnseen", name := "needs", desc := "(II)I" } : Jvm.MethodName) prog_1_method_88_code (4 : Nat) (Option.some Jvm.ClassFile.FieldType.int)) ∈ lw_all := lw_g (lw_at lw_m5 235 rfl) rfl
theorem q1348 : (Jvm.Cond.instanceMethod ({ cls := "NeverUnseen", name := "fog", desc := "()J" } : Jvm.MethodName)) ∈ lw_all := lw_g (lw_at lw_m5 237 rfl) rfl
theorem q1349 : (Jvm.Cond.selects "NeverUnseen" ({ cls := "NeverUnseen", name := "fog", desc := "()J" } : Jvm.MethodName) ({ cls := "NeverUnseen", name := "fog", desc := "()J" } : Jvm.MethodName)) ∈ lw_all := lw_g (lw_at lw_m5 238 rfl) rfl
theorem q1350 : (Jvm.Cond.code ({ cls := "NeverUnseen", name := "fog", desc := "()J" } : Jvm.MethodName) prog_1_method_90_code (7 : Nat) (Option.some Jvm.ClassFile.FieldType.long)) ∈ lw_all := lw_g (lw_at lw_m5 239 rfl) rfl
theorem q1351 : (Jvm.Cond.methodLink "NeverUnseen" (414 : Nat) ({ cls := "NeverUnseen", name := "isLawfulIn", desc := "(I)Z" } : Jvm.MethodName)) ∈ lw_all := lw_g (lw_at lw_m6 0 rfl) rfl
theorem q1352 : (Jvm.Cond.privateMethod ({ cls := "NeverUnseen", name := "isLawfulIn", desc := "(I)Z" } : Jvm.MethodName)) ∈ lw_tbl := lw_at lw_m6 1 rfl
theorem q1353 : (Jvm.Cond.instanceMethod ({ cls := "NeverUnseen", name := "isLawfulIn", desc := "(I)Z" } : Jvm.MethodName)) ∈ lw_all := lw_g (lw_at lw_m6 2 rfl) rfl
theorem q1354 : (Jvm.Cond.code ({ cls := "NeverUnseen", name := "isLawfulIn", desc := "(I)Z" } : Jvm.MethodName) prog_1_method_89_code (4 : Nat) (Option.some Jvm.ClassFile.FieldType.boolean)) ∈ lw_all := lw_g (lw_at lw_m6 3 rfl) rfl
theorem q1356 : (Jvm.Cond.instanceMethod ({ cls := "NeverUnseen", name := "ready", desc := "()I" } : Jvm.MethodName)) ∈ lw_all := lw_g (lw_at lw_m6 5 rfl) rfl
theorem q1357 : (Jvm.Cond.selects "NeverUnseen" ({ cls := "NeverUnseen", name := "ready", desc := "()I" } : Jvm.MethodName) ({ cls := "NeverUnseen", name := "ready", desc := "()I" } : Jvm.MethodName)) ∈ lw_all := lw_g (lw_at lw_m6 6 rfl) rfl
theorem q1358 : (Jvm.Cond.code ({ cls := "NeverUnseen", name := "ready", desc := "()I" } : Jvm.MethodName) prog_1_method_91_code (3 : Nat) (Option.some Jvm.ClassFile.FieldType.int)) ∈ lw_all := lw_g (lw_at lw_m6 7 rfl) rfl
theorem q1360 : (Jvm.Cond.instanceMethod ({ cls := "NeverUnseen", name := "seed", desc := "(I)Z" } : Jvm.MethodName)) ∈ lw_all := lw_g (lw_at lw_m6 9 rfl) rfl
theorem q1361 : (Jvm.Cond.selects "NeverUnseen" ({ cls := "NeverUnseen", name := "seed", desc := "(I)Z" } : Jvm.MethodName) ({ cls := "NeverUnseen", name := "seed", desc := "(I)Z" } : Jvm.MethodName)) ∈ lw_all := lw_g (lw_at lw_m6 10 rfl) rfl
theorem q1362 : (Jvm.Cond.code ({ cls := "NeverUnseen", name := "seed", desc := "(I)Z" } : Jvm.MethodName) prog_1_method_92_code (2 : Nat) (Option.some Jvm.ClassFile.FieldType.boolean)) ∈ lw_all := lw_g (lw_at lw_m6 11 rfl) rfl
theorem q1363 : (Jvm.Cond.constant "NeverUnseen" (417 : Nat) (65536 : Int32)) ∈ lw_all := lw_g (lw_at lw_m6 12 rfl) rfl
theorem q1365 : (Jvm.Cond.instanceMethod ({ cls := "NeverUnseen", name := "drift", desc := "()I" } : Jvm.MethodName)) ∈ lw_all := lw_g (lw_at lw_m6 14 rfl) rfl
theorem q1366 : (Jvm.Cond.selects "NeverUnseen" ({ cls := "NeverUnseen", name := "drift", desc := "()I" } : Jvm.MethodName) ({ cls := "NeverUnseen", name := "drift", desc := "()I" } : Jvm.MethodName)) ∈ lw_all := lw_g (lw_at lw_m6 15 rfl) rfl
theorem q1367 : (Jvm.Cond.code ({ cls := "NeverUnseen", name := "drift", desc := "()I" } : Jvm.MethodName) prog_1_method_94_code (5 : Nat) (Option.some Jvm.ClassFile.FieldType.int)) ∈ lw_all := lw_g (lw_at lw_m6 16 rfl) rfl
theorem q1368 : (Jvm.Cond.constant "NeverUnseen" (426 : Nat) (65537 : Int32)) ∈ lw_all := lw_g (lw_at lw_m6 17 rfl) rfl
theorem q1369 : (Jvm.Cond.methodLink "NeverUnseen" (427 : Nat) ({ cls := "NeverUnseen", name := "neighbour", desc := "(II)I" } : Jvm.MethodName)) ∈ lw_all := lw_g (lw_at lw_m6 18 rfl) rfl
theorem q1370 : (Jvm.Cond.privateMethod ({ cls := "NeverUnseen", name := "neighbour", desc := "(II)I" } : Jvm.MethodName)) ∈ lw_tbl := lw_at lw_m6 19 rfl
theorem q1371 : (Jvm.Cond.instanceMethod ({ cls := "NeverUnseen", name := "neighbour", desc := "(II)I" } : Jvm.MethodName)) ∈ lw_all := lw_g (lw_at lw_m6 20 rfl) rfl
theorem q1372 : (Jvm.Cond.code ({ cls := "NeverUnseen", name := "neighbour", desc := "(II)I" } : Jvm.MethodName) prog_1_method_93_code (5 : Nat) (Option.some Jvm.ClassFile.FieldType.int)) ∈ lw_all := lw_g (lw_at lw_m6 21 rfl) rfl
theorem q1374 : (Jvm.Cond.instanceMethod ({ cls := "NeverUnseen", name := "image", desc := "()J" } : Jvm.MethodName)) ∈ lw_all := lw_g (lw_at lw_m6 23 rfl) rfl
theorem q1375 : (Jvm.Cond.selects "NeverUnseen" ({ cls := "NeverUnseen", name := "image", desc := "()J" } : Jvm.MethodName) ({ cls := "NeverUnseen", name := "image", desc := "()J" } : Jvm.MethodName)) ∈ lw_all := lw_g (lw_at lw_m6 24 rfl) rfl
theorem q1376 : (Jvm.Cond.code ({ cls := "NeverUnseen", name := "image", desc := "()J" } : Jvm.MethodName) prog_1_method_95_code (4 : Nat) (Option.some Jvm.ClassFile.FieldType.long)) ∈ lw_all := lw_g (lw_at lw_m6 25 rfl) rfl
theorem q1377 : (Jvm.Cond.constantLong "NeverUnseen" (430 : Nat) (100 : Int64)) ∈ lw_all := lw_g (lw_at lw_m6 26 rfl) rfl
theorem q1378 : (Jvm.Cond.constantLong "NeverUnseen" (432 : Nat) (10 : Int64)) ∈ lw_all := lw_g (lw_at lw_m6 27 rfl) rfl
theorem q1380 : (Jvm.Cond.instanceMethod ({ cls := "NeverUnseen", name := "restore", desc := "(J)Z" } : Jvm.MethodName)) ∈ lw_all := lw_g (lw_at lw_m6 29 rfl) rfl
theorem q1381 : (Jvm.Cond.selects "NeverUnseen" ({ cls := "NeverUnseen", name := "restore", desc := "(J)Z" } : Jvm.MethodName) ({ cls := "NeverUnseen", name := "restore", desc := "(J)Z" } : Jvm.MethodName)) ∈ lw_all := lw_g (lw_at lw_m6 30 rfl) rfl
theorem q1382 : (Jvm.Cond.code ({ cls := "NeverUnseen", name := "restore", desc := "(J)Z" } : Jvm.MethodName) prog_1_method_96_code (7 : Nat) (Option.some Jvm.ClassFile.FieldType.boolean)) ∈ lw_all := lw_g (lw_at lw_m6 31 rfl) rfl
theorem q1383 : (Jvm.Cond.constantLong "NeverUnseen" (434 : Nat) (65537 : Int64)) ∈ lw_all := lw_g (lw_at lw_m6 32 rfl) rfl
theorem q1385 : (Jvm.Cond.instanceMethod ({ cls := "NeverUnseen", name := "size", desc := "(I)I" } : Jvm.MethodName)) ∈ lw_all := lw_g (lw_at lw_m6 34 rfl) rfl
theorem q1386 : (Jvm.Cond.selects "NeverUnseen" ({ cls := "NeverUnseen", name := "size", desc := "(I)I" } : Jvm.MethodName) ({ cls := "NeverUnseen", name := "size", desc := "(I)I" } : Jvm.MethodName)) ∈ lw_all := lw_g (lw_at lw_m6 35 rfl) rfl
theorem q1387 : (Jvm.Cond.code ({ cls := "NeverUnseen", name := "size", desc := "(I)I" } : Jvm.MethodName) prog_1_method_98_code (2 : Nat) (Option.some Jvm.ClassFile.FieldType.int)) ∈ lw_all := lw_g (lw_at lw_m6 36 rfl) rfl
theorem q1389 : (Jvm.Cond.instanceMethod ({ cls := "NeverUnseen", name := "trouble", desc := "()I" } : Jvm.MethodName)) ∈ lw_all := lw_g (lw_at lw_m6 38 rfl) rfl
theorem q1390 : (Jvm.Cond.selects "NeverUnseen" ({ cls := "NeverUnseen", name := "trouble", desc := "()I" } : Jvm.MethodName) ({ cls := "NeverUnseen", name := "trouble", desc := "()I" } : Jvm.MethodName)) ∈ lw_all := lw_g (lw_at lw_m6 39 rfl) rfl
theorem q1391 : (Jvm.Cond.code ({ cls := "NeverUnseen", name := "trouble", desc := "()I" } : Jvm.MethodName) prog_1_method_99_code (1 : Nat) (Option.some Jvm.ClassFile.FieldType.int)) ∈ lw_all := lw_g (lw_at lw_m6 40 rfl) rfl
theorem q1397 : (Jvm.Cond.instanceMethod ({ cls := "NeverUnseen", name := "led", desc := "(I)I" } : Jvm.MethodName)) ∈ lw_all := lw_g (lw_at lw_m6 46 rfl) rfl
theorem q1398 : (Jvm.Cond.selects "NeverUnseen" ({ cls := "NeverUnseen", name := "led", desc := "(I)I" } : Jvm.MethodName) ({ cls := "NeverUnseen", name := "led", desc := "(I)I" } : Jvm.MethodName)) ∈ lw_all := lw_g (lw_at lw_m6 47 rfl) rfl
theorem q1399 : (Jvm.Cond.code ({ cls := "NeverUnseen", name := "led", desc := "(I)I" } : Jvm.MethodName) prog_1_method_97_code (5 : Nat) (Option.some Jvm.ClassFile.FieldType.int)) ∈ lw_all := lw_g (lw_at lw_m6 48 rfl) rfl
theorem q1400 : (Jvm.Cond.classLink "NeverUnseen" (436 : Nat) "java/util/NoSuchElementException") ∈ lw_all := lw_g (lw_at lw_m6 49 rfl) rfl
theorem q1409 : (Jvm.Cond.methodLink "NeverUnseen" (438 : Nat) ({ cls := "java/util/NoSuchElementException", name := "<init>", desc := "()V" } : Jvm.MethodName)) ∈ lw_all := lw_g (lw_at lw_m6 58 rfl) rfl
theorem q2264 : (Jvm.Cond.castable "NeverUnseen" "java/lang/Object") ∈ lw_tbl := lw_at lw_m9 193 rfl
theorem in_X1 : ∀ w ∈ wsX10, w ∈ lw_all := lw_in wsX10 [342, 344, 346, 348, 350, 352, 354, 356, 358, 360, 362, 364, 366, 368, 370, 372, 374, 376, 378, 380, 382, 384, 386, 388, 390, 392, 394, 396, 398] (by decide +kernel) (by decide +kernel)
