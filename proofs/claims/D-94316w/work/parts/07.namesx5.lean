/-! NeverUnseenModel -/
set_option maxRecDepth 100000
def RX5 : String := "NeverUnseenModel"
def TX5 : u_T := fun k => match k with
  | 0 => ("NeverUnseenModel", "thrown", "I", false)
  | 1 => ("NeverUnseenModel", "trouble", "I", false)
  | 2 => ("NeverUnseenModel", "where", "I", false)
  | 3 => ("NeverUnseenModel", "valley", "LNeverUnseenModel$Valley;", false)
  | 4 => ("NeverUnseenModel", "read", "LNeverUnseenModel$Valley;", false)
  | 5 => ("NeverUnseenModel", "tape", "[B", true)
  | 6 => ("NeverUnseenModel", "taped", "I", false)
  | 7 => ("NeverUnseenModel", "size", "I", false)
  | 8 => ("NeverUnseenModel", "spot", "I", false)
  | 9 => ("NeverUnseenModel", "sort", "I", false)
  | 10 => ("NeverUnseenModel", "place", "I", false)
  | 11 => ("NeverUnseenModel", "sign", "I", false)
  | 12 => ("NeverUnseenModel", "number", "I", false)
  | 13 => ("NeverUnseenModel", "fault", "I", false)
  | 14 => ("NeverUnseenModel", "wrongAt", "I", false)
  | 15 => ("NeverUnseenModel", "word", "J", false)
  | 16 => ("NeverUnseenModel", "firstRead", "I", false)
  | 17 => ("NeverUnseenModel", "opened", "I", false)
  | 18 => ("NeverUnseenModel", "misty", "I", false)
  | 19 => ("NeverUnseenModel", "at", "[I", true)
  | 20 => ("NeverUnseenModel", "tried", "[I", true)
  | 21 => ("NeverUnseenModel", "now", "I", false)
  | 22 => ("NeverUnseenModel", "seed", "I", false)
  | 23 => ("NeverUnseenModel", "plan", "[I", true)
  | 24 => ("NeverUnseenModel", "judgedWhy", "I", false)
  | 25 => ("NeverUnseenModel", "view", "[I", true)
  | 26 => ("NeverUnseenModel", "mover", "[I", true)
  | 27 => ("NeverUnseenModel", "movers", "I", false)
  | 28 => ("NeverUnseenModel", "ten", "I", false)
  | 29 => ("NeverUnseenModel", "can", "[Z", true)
  | 30 => ("NeverUnseenModel", "goal", "[Z", true)
  | 31 => ("NeverUnseenModel", "next", "[I", true)
  | 32 => ("NeverUnseenModel", "pathSteps", "I", false)
  | 33 => ("NeverUnseenModel", "pathMovers", "I", false)
  | 34 => ("NeverUnseenModel", "path", "[I", true)
  | 35 => ("NeverUnseenModel", "looked", "[Z", true)
  | 36 => ("NeverUnseenModel", "looks", "[Z", true)
  | _ => ("NeverUnseenModel", "leastPosts", "I", false)
def tyX5 : Nat → FieldType := fun k => match k with
  | 0 => .int
  | 1 => .int
  | 2 => .int
  | 3 => .object "NeverUnseenModel$Valley"
  | 4 => .object "NeverUnseenModel$Valley"
  | 5 => .array .byte
  | 6 => .int
  | 7 => .int
  | 8 => .int
  | 9 => .int
  | 10 => .int
  | 11 => .int
  | 12 => .int
  | 13 => .int
  | 14 => .int
  | 15 => .long
  | 16 => .int
  | 17 => .int
  | 18 => .int
  | 19 => .array .int
  | 20 => .array .int
  | 21 => .int
  | 22 => .int
  | 23 => .array .int
  | 24 => .int
  | 25 => .array .int
  | 26 => .array .int
  | 27 => .int
  | 28 => .int
  | 29 => .array .boolean
  | 30 => .array .boolean
  | 31 => .array .int
  | 32 => .int
  | 33 => .int
  | 34 => .array .int
  | 35 => .array .boolean
  | 36 => .array .boolean
  | _ => .int
abbrev wsX50 : List Cond := u_ws RX5 TX5 38
set_option maxRecDepth 100000 in
theorem nmX5 : ∀ a, a < 38 → ∀ b, b < 38 → a ≠ b → (TX5 a).2.1 ≠ (TX5 b).2.1 := by decide +kernel
set_option maxRecDepth 100000 in
theorem tyX5_ok : ∀ k, k < 38 → parseFieldDescriptor (TX5 k).2.2.1 = some (tyX5 k) := by decide +kernel
abbrev cX5_init : ByteArray := prog_15_method_1_code
def yX5_init : MethodName := ⟨RX5, "<init>", "()V"⟩
def dkwX5_init_4 : List UInt8 := [188, 10, 181, 0, 46, 42, 18, 49, 188, 4, 181, 0, 50, 42, 18, 49, 188, 4, 181, 0, 53, 177]
abbrev dktX5_init_4 : List UInt8 := dkwX5_init_4 ++ []
def dkwX5_init_3 : List UInt8 := [188, 4, 181, 0, 37, 42, 17, 3, 232, 188, 10, 181, 0, 40, 42, 2, 181, 0, 43, 42, 17, 0, 155]
abbrev dktX5_init_3 : List UInt8 := dkwX5_init_3 ++ dktX5_init_4
def dkwX5_init_2 : List UInt8 := [181, 0, 27, 42, 6, 188, 10, 181, 0, 30, 42, 17, 121, 24, 188, 4, 181, 0, 33, 42, 17, 121, 24]
abbrev dktX5_init_2 : List UInt8 := dkwX5_init_2 ++ dktX5_init_3
def dkwX5_init_1 : List UInt8 := [181, 0, 17, 42, 8, 188, 10, 181, 0, 21, 42, 17, 1, 244, 188, 10, 181, 0, 24, 42, 16, 10, 188, 10]
abbrev dktX5_init_1 : List UInt8 := dkwX5_init_1 ++ dktX5_init_2
def dkwX5_init_0 : List UInt8 := [42, 183, 0, 3, 42, 2, 181, 0, 9, 42, 17, 3, 132, 188, 8, 181, 0, 13, 42, 8, 188, 10]
abbrev dktX5_init_0 : List UInt8 := dkwX5_init_0 ++ dktX5_init_1
theorem dksX5_init_0 : cX5_init.data.toList.drop 0 = dktX5_init_0 := by decide +kernel
theorem dksX5_init_1 : cX5_init.data.toList.drop 22 = dktX5_init_1 := dk_seg dksX5_init_0 22 rfl rfl
theorem dksX5_init_2 : cX5_init.data.toList.drop 46 = dktX5_init_2 := dk_seg dksX5_init_1 24 rfl rfl
theorem dksX5_init_3 : cX5_init.data.toList.drop 69 = dktX5_init_3 := dk_seg dksX5_init_2 23 rfl rfl
theorem dksX5_init_4 : cX5_init.data.toList.drop 92 = dktX5_init_4 := dk_seg dksX5_init_3 23 rfl rfl
theorem dX5_init_0 : decode cX5_init 0 = .ok (.aload_n 0, 1) := dk_42 (dk_at dksX5_init_0 0 rfl rfl)
theorem dX5_init_1 : decode cX5_init 1 = .ok (.invokespecial 3, 3) := dk_183 0 3 (dk_at dksX5_init_0 1 rfl rfl)
theorem dX5_init_4 : decode cX5_init 4 = .ok (.aload_n 0, 1) := dk_42 (dk_at dksX5_init_0 4 rfl rfl)
theorem dX5_init_5 : decode cX5_init 5 = .ok (.iconst (-1), 1) := dk_2 (dk_at dksX5_init_0 5 rfl rfl)
theorem dX5_init_6 : decode cX5_init 6 = .ok (.putfield 9, 3) := dk_181 0 9 (dk_at dksX5_init_0 6 rfl rfl)
theorem dX5_init_9 : decode cX5_init 9 = .ok (.aload_n 0, 1) := dk_42 (dk_at dksX5_init_0 9 rfl rfl)
theorem dX5_init_10 : decode cX5_init 10 = .ok (.sipush 900, 3) := dk_17 3 132 (dk_at dksX5_init_0 10 rfl rfl)
theorem dX5_init_13 : decode cX5_init 13 = .ok (.newarray .byte, 2) := dk_188_8 (dk_at dksX5_init_0 13 rfl rfl)
theorem dX5_init_15 : decode cX5_init 15 = .ok (.putfield 13, 3) := dk_181 0 13 (dk_at dksX5_init_0 15 rfl rfl)
theorem dX5_init_18 : decode cX5_init 18 = .ok (.aload_n 0, 1) := dk_42 (dk_at dksX5_init_0 18 rfl rfl)
theorem dX5_init_19 : decode cX5_init 19 = .ok (.iconst 5, 1) := dk_8 (dk_at dksX5_init_0 19 rfl rfl)
theorem dX5_init_20 : decode cX5_init 20 = .ok (.newarray .int, 2) := dk_188_10 (dk_at dksX5_init_0 20 rfl rfl)
theorem dX5_init_22 : decode cX5_init 22 = .ok (.putfield 17, 3) := dk_181 0 17 (dk_at dksX5_init_1 0 rfl rfl)
theorem dX5_init_25 : decode cX5_init 25 = .ok (.aload_n 0, 1) := dk_42 (dk_at dksX5_init_1 3 rfl rfl)
theorem dX5_init_26 : decode cX5_init 26 = .ok (.iconst 5, 1) := dk_8 (dk_at dksX5_init_1 4 rfl rfl)
theorem dX5_init_27 : decode cX5_init 27 = .ok (.newarray .int, 2) := dk_188_10 (dk_at dksX5_init_1 5 rfl rfl)
theorem dX5_init_29 : decode cX5_init 29 = .ok (.putfield 21, 3) := dk_181 0 21 (dk_at dksX5_init_1 7 rfl rfl)
theorem dX5_init_32 : decode cX5_init 32 = .ok (.aload_n 0, 1) := dk_42 (dk_at dksX5_init_1 10 rfl rfl)
theorem dX5_init_33 : decode cX5_init 33 = .ok (.sipush 500, 3) := dk_17 1 244 (dk_at dksX5_init_1 11 rfl rfl)
theorem dX5_init_36 : decode cX5_init 36 = .ok (.newarray .int, 2) := dk_188_10 (dk_at dksX5_init_1 14 rfl rfl)
theorem dX5_init_38 : decode cX5_init 38 = .ok (.putfield 24, 3) := dk_181 0 24 (dk_at dksX5_init_1 16 rfl rfl)
theorem dX5_init_41 : decode cX5_init 41 = .ok (.aload_n 0, 1) := dk_42 (dk_at dksX5_init_1 19 rfl rfl)
theorem dX5_init_42 : decode cX5_init 42 = .ok (.bipush 10, 2) := dk_16 10 (dk_at dksX5_init_1 20 rfl rfl)
theorem dX5_init_44 : decode cX5_init 44 = .ok (.newarray .int, 2) := dk_188_10 (dk_at dksX5_init_1 22 rfl rfl)
theorem dX5_init_46 : decode cX5_init 46 = .ok (.putfield 27, 3) := dk_181 0 27 (dk_at dksX5_init_2 0 rfl rfl)
theorem dX5_init_49 : decode cX5_init 49 = .ok (.aload_n 0, 1) := dk_42 (dk_at dksX5_init_2 3 rfl rfl)
theorem dX5_init_50 : decode cX5_init 50 = .ok (.iconst 3, 1) := dk_6 (dk_at dksX5_init_2 4 rfl rfl)
theorem dX5_init_51 : decode cX5_init 51 = .ok (.newarray .int, 2) := dk_188_10 (dk_at dksX5_init_2 5 rfl rfl)
theorem dX5_init_53 : decode cX5_init 53 = .ok (.putfield 30, 3) := dk_181 0 30 (dk_at dksX5_init_2 7 rfl rfl)
theorem dX5_init_56 : decode cX5_init 56 = .ok (.aload_n 0, 1) := dk_42 (dk_at dksX5_init_2 10 rfl rfl)
theorem dX5_init_57 : decode cX5_init 57 = .ok (.sipush 31000, 3) := dk_17 121 24 (dk_at dksX5_init_2 11 rfl rfl)
theorem dX5_init_60 : decode cX5_init 60 = .ok (.newarray .boolean, 2) := dk_188_4 (dk_at dksX5_init_2 14 rfl rfl)
theorem dX5_init_62 : decode cX5_init 62 = .ok (.putfield 33, 3) := dk_181 0 33 (dk_at dksX5_init_2 16 rfl rfl)
theorem dX5_init_65 : decode cX5_init 65 = .ok (.aload_n 0, 1) := dk_42 (dk_at dksX5_init_2 19 rfl rfl)
theorem dX5_init_66 : decode cX5_init 66 = .ok (.sipush 31000, 3) := dk_17 121 24 (dk_at dksX5_init_2 20 rfl rfl)
theorem dX5_init_69 : decode cX5_init 69 = .ok (.newarray .boolean, 2) := dk_188_4 (dk_at dksX5_init_3 0 rfl rfl)
theorem dX5_init_71 : decode cX5_init 71 = .ok (.putfield 37, 3) := dk_181 0 37 (dk_at dksX5_init_3 2 rfl rfl)
theorem dX5_init_74 : decode cX5_init 74 = .ok (.aload_n 0, 1) := dk_42 (dk_at dksX5_init_3 5 rfl rfl)
theorem dX5_init_75 : decode cX5_init 75 = .ok (.sipush 1000, 3) := dk_17 3 232 (dk_at dksX5_init_3 6 rfl rfl)
theorem dX5_init_78 : decode cX5_init 78 = .ok (.newarray .int, 2) := dk_188_10 (dk_at dksX5_init_3 9 rfl rfl)
theorem dX5_init_80 : decode cX5_init 80 = .ok (.putfield 40, 3) := dk_181 0 40 (dk_at dksX5_init_3 11 rfl rfl)
theorem dX5_init_83 : decode cX5_init 83 = .ok (.aload_n 0, 1) := dk_42 (dk_at dksX5_init_3 14 rfl rfl)
theorem dX5_init_84 : decode cX5_init 84 = .ok (.iconst (-1), 1) := dk_2 (dk_at dksX5_init_3 15 rfl rfl)
theorem dX5_init_85 : decode cX5_init 85 = .ok (.putfield 43, 3) := dk_181 0 43 (dk_at dksX5_init_3 16 rfl rfl)
theorem dX5_init_88 : decode cX5_init 88 = .ok (.aload_n 0, 1) := dk_42 (dk_at dksX5_init_3 19 rfl rfl)
theorem dX5_init_89 : decode cX5_init 89 = .ok (.sipush 155, 3) := dk_17 0 155 (dk_at dksX5_init_3 20 rfl rfl)
theorem dX5_init_92 : decode cX5_init 92 = .ok (.newarray .int, 2) := dk_188_10 (dk_at dksX5_init_4 0 rfl rfl)
theorem dX5_init_94 : decode cX5_init 94 = .ok (.putfield 46, 3) := dk_181 0 46 (dk_at dksX5_init_4 2 rfl rfl)
theorem dX5_init_97 : decode cX5_init 97 = .ok (.aload_n 0, 1) := dk_42 (dk_at dksX5_init_4 5 rfl rfl)
theorem dX5_init_98 : decode cX5_init 98 = .ok (.ldc 49, 2) := dk_18 49 (dk_at dksX5_init_4 6 rfl rfl)
theorem dX5_init_100 : decode cX5_init 100 = .ok (.newarray .boolean, 2) := dk_188_4 (dk_at dksX5_init_4 8 rfl rfl)
theorem dX5_init_102 : decode cX5_init 102 = .ok (.putfield 50, 3) := dk_181 0 50 (dk_at dksX5_init_4 10 rfl rfl)
theorem dX5_init_105 : decode cX5_init 105 = .ok (.aload_n 0, 1) := dk_42 (dk_at dksX5_init_4 13 rfl rfl)
theorem dX5_init_106 : decode cX5_init 106 = .ok (.ldc 49, 2) := dk_18 49 (dk_at dksX5_init_4 14 rfl rfl)
theorem dX5_init_108 : decode cX5_init 108 = .ok (.newarray .boolean, 2) := dk_188_4 (dk_at dksX5_init_4 16 rfl rfl)
theorem dX5_init_110 : decode cX5_init 110 = .ok (.putfield 53, 3) := dk_181 0 53 (dk_at dksX5_init_4 18 rfl rfl)
theorem dX5_init_113 : decode cX5_init 113 = .ok (.return_, 1) := dk_177 (dk_at dksX5_init_4 21 rfl rfl)
abbrev cX5_thrown : ByteArray := prog_15_method_2_code
def yX5_thrown : MethodName := ⟨RX5, "thrown", "()I"⟩
theorem dX5_thrown_0 : decode cX5_thrown 0 = .ok (.aload_n 0, 1) := by decide +kernel
theorem dX5_thrown_1 : decode cX5_thrown 1 = .ok (.getfield 56, 3) := by decide +kernel
theorem dX5_thrown_4 : decode cX5_thrown 4 = .ok (.ireturn, 1) := by decide +kernel
abbrev cX5_feed : ByteArray := prog_15_method_41_code
def yX5_feed : MethodName := ⟨RX5, "feed", "(IIIII)I"⟩
def dkwX5_feed_5 : List UInt8 := [180, 1, 117, 172]
abbrev dktX5_feed_5 : List UInt8 := dkwX5_feed_5 ++ []
def dkwX5_feed_4 : List UInt8 := [112, 104, 100, 122, 145, 84, 42, 89, 180, 1, 117, 4, 96, 181, 1, 117, 132, 6, 1, 167, 255, 165, 42]
abbrev dktX5_feed_4 : List UInt8 := dkwX5_feed_4 ++ dktX5_feed_5
def dkwX5_feed_3 : List UInt8 := [167, 0, 5, 21, 5, 54, 7, 42, 180, 0, 13, 42, 180, 1, 117, 21, 7, 16, 24, 16, 8, 21, 6, 7]
abbrev dktX5_feed_3 : List UInt8 := dkwX5_feed_3 ++ dktX5_feed_4
def dkwX5_feed_2 : List UInt8 := [28, 167, 0, 28, 21, 6, 16, 12, 162, 0, 7, 29, 167, 0, 17, 21, 6, 16, 16, 162, 0, 8, 21, 4]
abbrev dktX5_feed_2 : List UInt8 := dkwX5_feed_2 ++ dktX5_feed_3
def dkwX5_feed_1 : List UInt8 := [21, 6, 16, 20, 162, 0, 90, 21, 6, 7, 162, 0, 7, 27, 167, 0, 39, 21, 6, 16, 8, 162, 0, 7]
abbrev dktX5_feed_1 : List UInt8 := dkwX5_feed_1 ++ dktX5_feed_2
def dkwX5_feed_0 : List UInt8 := [42, 3, 181, 0, 56, 42, 180, 1, 117, 16, 20, 96, 17, 3, 132, 164, 0, 5, 2, 172, 3, 54, 6]
abbrev dktX5_feed_0 : List UInt8 := dkwX5_feed_0 ++ dktX5_feed_1
theorem dksX5_feed_0 : cX5_feed.data.toList.drop 0 = dktX5_feed_0 := by decide +kernel
theorem dksX5_feed_1 : cX5_feed.data.toList.drop 23 = dktX5_feed_1 := dk_seg dksX5_feed_0 23 rfl rfl
theorem dksX5_feed_2 : cX5_feed.data.toList.drop 47 = dktX5_feed_2 := dk_seg dksX5_feed_1 24 rfl rfl
theorem dksX5_feed_3 : cX5_feed.data.toList.drop 71 = dktX5_feed_3 := dk_seg dksX5_feed_2 24 rfl rfl
theorem dksX5_feed_4 : cX5_feed.data.toList.drop 95 = dktX5_feed_4 := dk_seg dksX5_feed_3 24 rfl rfl
theorem dksX5_feed_5 : cX5_feed.data.toList.drop 118 = dktX5_feed_5 := dk_seg dksX5_feed_4 23 rfl rfl
theorem dX5_feed_0 : decode cX5_feed 0 = .ok (.aload_n 0, 1) := dk_42 (dk_at dksX5_feed_0 0 rfl rfl)
theorem dX5_feed_1 : decode cX5_feed 1 = .ok (.iconst 0, 1) := dk_3 (dk_at dksX5_feed_0 1 rfl rfl)
theorem dX5_feed_2 : decode cX5_feed 2 = .ok (.putfield 56, 3) := dk_181 0 56 (dk_at dksX5_feed_0 2 rfl rfl)
theorem dX5_feed_5 : decode cX5_feed 5 = .ok (.aload_n 0, 1) := dk_42 (dk_at dksX5_feed_0 5 rfl rfl)
theorem dX5_feed_6 : decode cX5_feed 6 = .ok (.getfield 373, 3) := dk_180 1 117 (dk_at dksX5_feed_0 6 rfl rfl)
theorem dX5_feed_9 : decode cX5_feed 9 = .ok (.bipush 20, 2) := dk_16 20 (dk_at dksX5_feed_0 9 rfl rfl)
theorem dX5_feed_11 : decode cX5_feed 11 = .ok (.iadd, 1) := dk_96 (dk_at dksX5_feed_0 11 rfl rfl)
theorem dX5_feed_12 : decode cX5_feed 12 = .ok (.sipush 900, 3) := dk_17 3 132 (dk_at dksX5_feed_0 12 rfl rfl)
theorem dX5_feed_15 : decode cX5_feed 15 = .ok (.if_icmp .le 5, 3) := dk_164 0 5 (dk_at dksX5_feed_0 15 rfl rfl)
theorem dX5_feed_18 : decode cX5_feed 18 = .ok (.iconst (-1), 1) := dk_2 (dk_at dksX5_feed_0 18 rfl rfl)
theorem dX5_feed_19 : decode cX5_feed 19 = .ok (.ireturn, 1) := dk_172 (dk_at dksX5_feed_0 19 rfl rfl)
theorem dX5_feed_20 : decode cX5_feed 20 = .ok (.iconst 0, 1) := dk_3 (dk_at dksX5_feed_0 20 rfl rfl)
theorem dX5_feed_21 : decode cX5_feed 21 = .ok (.istore 6, 2) := dk_54 6 (dk_at dksX5_feed_0 21 rfl rfl)
theorem dX5_feed_23 : decode cX5_feed 23 = .ok (.iload 6, 2) := dk_21 6 (dk_at dksX5_feed_1 0 rfl rfl)
theorem dX5_feed_25 : decode cX5_feed 25 = .ok (.bipush 20, 2) := dk_16 20 (dk_at dksX5_feed_1 2 rfl rfl)
theorem dX5_feed_27 : decode cX5_feed 27 = .ok (.if_icmp .ge 90, 3) := dk_162 0 90 (dk_at dksX5_feed_1 4 rfl rfl)
theorem dX5_feed_30 : decode cX5_feed 30 = .ok (.iload 6, 2) := dk_21 6 (dk_at dksX5_feed_1 7 rfl rfl)
theorem dX5_feed_32 : decode cX5_feed 32 = .ok (.iconst 4, 1) := dk_7 (dk_at dksX5_feed_1 9 rfl rfl)
theorem dX5_feed_33 : decode cX5_feed 33 = .ok (.if_icmp .ge 7, 3) := dk_162 0 7 (dk_at dksX5_feed_1 10 rfl rfl)
theorem dX5_feed_36 : decode cX5_feed 36 = .ok (.iload_n 1, 1) := dk_27 (dk_at dksX5_feed_1 13 rfl rfl)
theorem dX5_feed_37 : decode cX5_feed 37 = .ok (.goto 39, 3) := dk_167 0 39 (dk_at dksX5_feed_1 14 rfl rfl)
theorem dX5_feed_40 : decode cX5_feed 40 = .ok (.iload 6, 2) := dk_21 6 (dk_at dksX5_feed_1 17 rfl rfl)
theorem dX5_feed_42 : decode cX5_feed 42 = .ok (.bipush 8, 2) := dk_16 8 (dk_at dksX5_feed_1 19 rfl rfl)
theorem dX5_feed_44 : decode cX5_feed 44 = .ok (.if_icmp .ge 7, 3) := dk_162 0 7 (dk_at dksX5_feed_1 21 rfl rfl)
theorem dX5_feed_47 : decode cX5_feed 47 = .ok (.iload_n 2, 1) := dk_28 (dk_at dksX5_feed_2 0 rfl rfl)
theorem dX5_feed_48 : decode cX5_feed 48 = .ok (.goto 28, 3) := dk_167 0 28 (dk_at dksX5_feed_2 1 rfl rfl)
theorem dX5_feed_51 : decode cX5_feed 51 = .ok (.iload 6, 2) := dk_21 6 (dk_at dksX5_feed_2 4 rfl rfl)
theorem dX5_feed_53 : decode cX5_feed 53 = .ok (.bipush 12, 2) := dk_16 12 (dk_at dksX5_feed_2 6 rfl rfl)
theorem dX5_feed_55 : decode cX5_feed 55 = .ok (.if_icmp .ge 7, 3) := dk_162 0 7 (dk_at dksX5_feed_2 8 rfl rfl)
theorem dX5_feed_58 : decode cX5_feed 58 = .ok (.iload_n 3, 1) := dk_29 (dk_at dksX5_feed_2 11 rfl rfl)
theorem dX5_feed_59 : decode cX5_feed 59 = .ok (.goto 17, 3) := dk_167 0 17 (dk_at dksX5_feed_2 12 rfl rfl)
theorem dX5_feed_62 : decode cX5_feed 62 = .ok (.iload 6, 2) := dk_21 6 (dk_at dksX5_feed_2 15 rfl rfl)
theorem dX5_feed_64 : decode cX5_feed 64 = .ok (.bipush 16, 2) := dk_16 16 (dk_at dksX5_feed_2 17 rfl rfl)
theorem dX5_feed_66 : decode cX5_feed 66 = .ok (.if_icmp .ge 8, 3) := dk_162 0 8 (dk_at dksX5_feed_2 19 rfl rfl)
theorem dX5_feed_69 : decode cX5_feed 69 = .ok (.iload 4, 2) := dk_21 4 (dk_at dksX5_feed_2 22 rfl rfl)
theorem dX5_feed_71 : decode cX5_feed 71 = .ok (.goto 5, 3) := dk_167 0 5 (dk_at dksX5_feed_3 0 rfl rfl)
theorem dX5_feed_74 : decode cX5_feed 74 = .ok (.iload 5, 2) := dk_21 5 (dk_at dksX5_feed_3 3 rfl rfl)
theorem dX5_feed_76 : decode cX5_feed 76 = .ok (.istore 7, 2) := dk_54 7 (dk_at dksX5_feed_3 5 rfl rfl)
theorem dX5_feed_78 : decode cX5_feed 78 = .ok (.aload_n 0, 1) := dk_42 (dk_at dksX5_feed_3 7 rfl rfl)
theorem dX5_feed_79 : decode cX5_feed 79 = .ok (.getfield 13, 3) := dk_180 0 13 (dk_at dksX5_feed_3 8 rfl rfl)
theorem dX5_feed_82 : decode cX5_feed 82 = .ok (.aload_n 0, 1) := dk_42 (dk_at dksX5_feed_3 11 rfl rfl)
theorem dX5_feed_83 : decode cX5_feed 83 = .ok (.getfield 373, 3) := dk_180 1 117 (dk_at dksX5_feed_3 12 rfl rfl)
theorem dX5_feed_86 : decode cX5_feed 86 = .ok (.iload 7, 2) := dk_21 7 (dk_at dksX5_feed_3 15 rfl rfl)
theorem dX5_feed_88 : decode cX5_feed 88 = .ok (.bipush 24, 2) := dk_16 24 (dk_at dksX5_feed_3 17 rfl rfl)
theorem dX5_feed_90 : decode cX5_feed 90 = .ok (.bipush 8, 2) := dk_16 8 (dk_at dksX5_feed_3 19 rfl rfl)
theorem dX5_feed_92 : decode cX5_feed 92 = .ok (.iload 6, 2) := dk_21 6 (dk_at dksX5_feed_3 21 rfl rfl)
theorem dX5_feed_94 : decode cX5_feed 94 = .ok (.iconst 4, 1) := dk_7 (dk_at dksX5_feed_3 23 rfl rfl)
theorem dX5_feed_95 : decode cX5_feed 95 = .ok (.irem, 1) := dk_112 (dk_at dksX5_feed_4 0 rfl rfl)
theorem dX5_feed_96 : decode cX5_feed 96 = .ok (.imul, 1) := dk_104 (dk_at dksX5_feed_4 1 rfl rfl)
theorem dX5_feed_97 : decode cX5_feed 97 = .ok (.isub, 1) := dk_100 (dk_at dksX5_feed_4 2 rfl rfl)
theorem dX5_feed_98 : decode cX5_feed 98 = .ok (.ishr, 1) := dk_122 (dk_at dksX5_feed_4 3 rfl rfl)
theorem dX5_feed_99 : decode cX5_feed 99 = .ok (.i2b, 1) := dk_145 (dk_at dksX5_feed_4 4 rfl rfl)
theorem dX5_feed_100 : decode cX5_feed 100 = .ok (.bastore, 1) := dk_84 (dk_at dksX5_feed_4 5 rfl rfl)
theorem dX5_feed_101 : decode cX5_feed 101 = .ok (.aload_n 0, 1) := dk_42 (dk_at dksX5_feed_4 6 rfl rfl)
theorem dX5_feed_102 : decode cX5_feed 102 = .ok (.dup, 1) := dk_89 (dk_at dksX5_feed_4 7 rfl rfl)
theorem dX5_feed_103 : decode cX5_feed 103 = .ok (.getfield 373, 3) := dk_180 1 117 (dk_at dksX5_feed_4 8 rfl rfl)
theorem dX5_feed_106 : decode cX5_feed 106 = .ok (.iconst 1, 1) := dk_4 (dk_at dksX5_feed_4 11 rfl rfl)
theorem dX5_feed_107 : decode cX5_feed 107 = .ok (.iadd, 1) := dk_96 (dk_at dksX5_feed_4 12 rfl rfl)
theorem dX5_feed_108 : decode cX5_feed 108 = .ok (.putfield 373, 3) := dk_181 1 117 (dk_at dksX5_feed_4 13 rfl rfl)
theorem dX5_feed_111 : decode cX5_feed 111 = .ok (.iinc 6 1, 3) := dk_132 6 1 (dk_at dksX5_feed_4 16 rfl rfl)
theorem dX5_feed_114 : decode cX5_feed 114 = .ok (.goto (-91), 3) := dk_167 255 165 (dk_at dksX5_feed_4 19 rfl rfl)
theorem dX5_feed_117 : decode cX5_feed 117 = .ok (.aload_n 0, 1) := dk_42 (dk_at dksX5_feed_4 22 rfl rfl)
theorem dX5_feed_118 : decode cX5_feed 118 = .ok (.getfield 373, 3) := dk_180 1 117 (dk_at dksX5_feed_5 0 rfl rfl)
theorem dX5_feed_121 : decode cX5_feed 121 = .ok (.ireturn, 1) := dk_172 (dk_at dksX5_feed_5 3 rfl rfl)
abbrev cX5_valley : ByteArray := prog_15_method_42_code
def yX5_valley : MethodName := ⟨RX5, "valley", "(I)I"⟩
def dkwX5_valley_7 : List UInt8 := [182, 0, 66, 172]
abbrev dktX5_valley_7 : List UInt8 := dkwX5_valley_7 ++ []
def dkwX5_valley_6 : List UInt8 := [28, 46, 79, 132, 2, 1, 167, 255, 227, 42, 182, 1, 136, 42, 42, 180, 1, 124, 180, 0, 221, 3]
abbrev dktX5_valley_6 : List UInt8 := dkwX5_valley_6 ++ dktX5_valley_7
def dkwX5_valley_5 : List UInt8 := [61, 28, 42, 180, 1, 124, 180, 0, 221, 162, 0, 24, 42, 180, 0, 17, 28, 42, 180, 1, 124, 180, 1, 67]
abbrev dktX5_valley_5 : List UInt8 := dkwX5_valley_5 ++ dktX5_valley_6
def dkwX5_valley_4 : List UInt8 := [181, 1, 124, 42, 3, 181, 1, 127, 42, 3, 181, 1, 130, 42, 2, 181, 0, 43, 42, 3, 181, 1, 133, 3]
abbrev dktX5_valley_4 : List UInt8 := dkwX5_valley_4 ++ dktX5_valley_5
def dkwX5_valley_3 : List UInt8 := [158, 0, 18, 42, 7, 181, 0, 59, 42, 42, 180, 0, 117, 181, 0, 9, 2, 172, 42, 42, 180, 0, 173]
abbrev dktX5_valley_3 : List UInt8 := dkwX5_valley_3 ++ dktX5_valley_4
def dkwX5_valley_2 : List UInt8 := [183, 1, 120, 181, 0, 173, 42, 3, 181, 0, 85, 42, 182, 0, 128, 42, 182, 1, 121, 42, 180, 0, 114]
abbrev dktX5_valley_2 : List UInt8 := dkwX5_valley_2 ++ dktX5_valley_3
def dkwX5_valley_1 : List UInt8 := [27, 181, 0, 70, 42, 3, 181, 1, 117, 42, 3, 181, 0, 88, 42, 3, 181, 0, 114, 42, 187, 0, 178, 89]
abbrev dktX5_valley_1 : List UInt8 := dkwX5_valley_1 ++ dktX5_valley_2
def dkwX5_valley_0 : List UInt8 := [42, 3, 181, 0, 56, 27, 155, 0, 11, 27, 42, 180, 1, 117, 164, 0, 9, 42, 5, 182, 0, 62, 172, 42]
abbrev dktX5_valley_0 : List UInt8 := dkwX5_valley_0 ++ dktX5_valley_1
theorem dksX5_valley_0 : cX5_valley.data.toList.drop 0 = dktX5_valley_0 := by decide +kernel
theorem dksX5_valley_1 : cX5_valley.data.toList.drop 24 = dktX5_valley_1 := dk_seg dksX5_valley_0 24 rfl rfl
theorem dksX5_valley_2 : cX5_valley.data.toList.drop 48 = dktX5_valley_2 := dk_seg dksX5_valley_1 24 rfl rfl
theorem dksX5_valley_3 : cX5_valley.data.toList.drop 71 = dktX5_valley_3 := dk_seg dksX5_valley_2 23 rfl rfl
theorem dksX5_valley_4 : cX5_valley.data.toList.drop 94 = dktX5_valley_4 := dk_seg dksX5_valley_3 23 rfl rfl
theorem dksX5_valley_5 : cX5_valley.data.toList.drop 118 = dktX5_valley_5 := dk_seg dksX5_valley_4 24 rfl rfl
theorem dksX5_valley_6 : cX5_valley.data.toList.drop 142 = dktX5_valley_6 := dk_seg dksX5_valley_5 24 rfl rfl
theorem dksX5_valley_7 : cX5_valley.data.toList.drop 164 = dktX5_valley_7 := dk_seg dksX5_valley_6 22 rfl rfl
theorem dX5_valley_0 : decode cX5_valley 0 = .ok (.aload_n 0, 1) := dk_42 (dk_at dksX5_valley_0 0 rfl rfl)
theorem dX5_valley_1 : decode cX5_valley 1 = .ok (.iconst 0, 1) := dk_3 (dk_at dksX5_valley_0 1 rfl rfl)
theorem dX5_valley_2 : decode cX5_valley 2 = .ok (.putfield 56, 3) := dk_181 0 56 (dk_at dksX5_valley_0 2 rfl rfl)
theorem dX5_valley_5 : decode cX5_valley 5 = .ok (.iload_n 1, 1) := dk_27 (dk_at dksX5_valley_0 5 rfl rfl)
theorem dX5_valley_6 : decode cX5_valley 6 = .ok (.ifCond .lt 11, 3) := dk_155 0 11 (dk_at dksX5_valley_0 6 rfl rfl)
theorem dX5_valley_9 : decode cX5_valley 9 = .ok (.iload_n 1, 1) := dk_27 (dk_at dksX5_valley_0 9 rfl rfl)
theorem dX5_valley_10 : decode cX5_valley 10 = .ok (.aload_n 0, 1) := dk_42 (dk_at dksX5_valley_0 10 rfl rfl)
theorem dX5_valley_11 : decode cX5_valley 11 = .ok (.getfield 373, 3) := dk_180 1 117 (dk_at dksX5_valley_0 11 rfl rfl)
theorem dX5_valley_14 : decode cX5_valley 14 = .ok (.if_icmp .le 9, 3) := dk_164 0 9 (dk_at dksX5_valley_0 14 rfl rfl)
theorem dX5_valley_17 : decode cX5_valley 17 = .ok (.aload_n 0, 1) := dk_42 (dk_at dksX5_valley_0 17 rfl rfl)
theorem dX5_valley_18 : decode cX5_valley 18 = .ok (.iconst 2, 1) := dk_5 (dk_at dksX5_valley_0 18 rfl rfl)
theorem dX5_valley_19 : decode cX5_valley 19 = .ok (.invokevirtual 62, 3) := dk_182 0 62 (dk_at dksX5_valley_0 19 rfl rfl)
theorem dX5_valley_22 : decode cX5_valley 22 = .ok (.ireturn, 1) := dk_172 (dk_at dksX5_valley_0 22 rfl rfl)
theorem dX5_valley_23 : decode cX5_valley 23 = .ok (.aload_n 0, 1) := dk_42 (dk_at dksX5_valley_0 23 rfl rfl)
theorem dX5_valley_24 : decode cX5_valley 24 = .ok (.iload_n 1, 1) := dk_27 (dk_at dksX5_valley_1 0 rfl rfl)
theorem dX5_valley_25 : decode cX5_valley 25 = .ok (.putfield 70, 3) := dk_181 0 70 (dk_at dksX5_valley_1 1 rfl rfl)
theorem dX5_valley_28 : decode cX5_valley 28 = .ok (.aload_n 0, 1) := dk_42 (dk_at dksX5_valley_1 4 rfl rfl)
theorem dX5_valley_29 : decode cX5_valley 29 = .ok (.iconst 0, 1) := dk_3 (dk_at dksX5_valley_1 5 rfl rfl)
theorem dX5_valley_30 : decode cX5_valley 30 = .ok (.putfield 373, 3) := dk_181 1 117 (dk_at dksX5_valley_1 6 rfl rfl)
theorem dX5_valley_33 : decode cX5_valley 33 = .ok (.aload_n 0, 1) := dk_42 (dk_at dksX5_valley_1 9 rfl rfl)
theorem dX5_valley_34 : decode cX5_valley 34 = .ok (.iconst 0, 1) := dk_3 (dk_at dksX5_valley_1 10 rfl rfl)
theorem dX5_valley_35 : decode cX5_valley 35 = .ok (.putfield 88, 3) := dk_181 0 88 (dk_at dksX5_valley_1 11 rfl rfl)
theorem dX5_valley_38 : decode cX5_valley 38 = .ok (.aload_n 0, 1) := dk_42 (dk_at dksX5_valley_1 14 rfl rfl)
theorem dX5_valley_39 : decode cX5_valley 39 = .ok (.iconst 0, 1) := dk_3 (dk_at dksX5_valley_1 15 rfl rfl)
theorem dX5_valley_40 : decode cX5_valley 40 = .ok (.putfield 114, 3) := dk_181 0 114 (dk_at dksX5_valley_1 16 rfl rfl)
theorem dX5_valley_43 : decode cX5_valley 43 = .ok (.aload_n 0, 1) := dk_42 (dk_at dksX5_valley_1 19 rfl rfl)
theorem dX5_valley_44 : decode cX5_valley 44 = .ok (.new 178, 3) := dk_187 0 178 (dk_at dksX5_valley_1 20 rfl rfl)
theorem dX5_valley_47 : decode cX5_valley 47 = .ok (.dup, 1) := dk_89 (dk_at dksX5_valley_1 23 rfl rfl)
theorem dX5_valley_48 : decode cX5_valley 48 = .ok (.invokespecial 376, 3) := dk_183 1 120 (dk_at dksX5_valley_2 0 rfl rfl)
theorem dX5_valley_51 : decode cX5_valley 51 = .ok (.putfield 173, 3) := dk_181 0 173 (dk_at dksX5_valley_2 3 rfl rfl)
theorem dX5_valley_54 : decode cX5_valley 54 = .ok (.aload_n 0, 1) := dk_42 (dk_at dksX5_valley_2 6 rfl rfl)
theorem dX5_valley_55 : decode cX5_valley 55 = .ok (.iconst 0, 1) := dk_3 (dk_at dksX5_valley_2 7 rfl rfl)
theorem dX5_valley_56 : decode cX5_valley 56 = .ok (.putfield 85, 3) := dk_181 0 85 (dk_at dksX5_valley_2 8 rfl rfl)
theorem dX5_valley_59 : decode cX5_valley 59 = .ok (.aload_n 0, 1) := dk_42 (dk_at dksX5_valley_2 11 rfl rfl)
theorem dX5_valley_60 : decode cX5_valley 60 = .ok (.invokevirtual 128, 3) := dk_182 0 128 (dk_at dksX5_valley_2 12 rfl rfl)
theorem dX5_valley_63 : decode cX5_valley 63 = .ok (.aload_n 0, 1) := dk_42 (dk_at dksX5_valley_2 15 rfl rfl)
theorem dX5_valley_64 : decode cX5_valley 64 = .ok (.invokevirtual 377, 3) := dk_182 1 121 (dk_at dksX5_valley_2 16 rfl rfl)
theorem dX5_valley_67 : decode cX5_valley 67 = .ok (.aload_n 0, 1) := dk_42 (dk_at dksX5_valley_2 19 rfl rfl)
theorem dX5_valley_68 : decode cX5_valley 68 = .ok (.getfield 114, 3) := dk_180 0 114 (dk_at dksX5_valley_2 20 rfl rfl)
theorem dX5_valley_71 : decode cX5_valley 71 = .ok (.ifCond .le 18, 3) := dk_158 0 18 (dk_at dksX5_valley_3 0 rfl rfl)
theorem dX5_valley_74 : decode cX5_valley 74 = .ok (.aload_n 0, 1) := dk_42 (dk_at dksX5_valley_3 3 rfl rfl)
theorem dX5_valley_75 : decode cX5_valley 75 = .ok (.iconst 4, 1) := dk_7 (dk_at dksX5_valley_3 4 rfl rfl)
theorem dX5_valley_76 : decode cX5_valley 76 = .ok (.putfield 59, 3) := dk_181 0 59 (dk_at dksX5_valley_3 5 rfl rfl)
theorem dX5_valley_79 : decode cX5_valley 79 = .ok (.aload_n 0, 1) := dk_42 (dk_at dksX5_valley_3 8 rfl rfl)
theorem dX5_valley_80 : decode cX5_valley 80 = .ok (.aload_n 0, 1) := dk_42 (dk_at dksX5_valley_3 9 rfl rfl)
theorem dX5_valley_81 : decode cX5_valley 81 = .ok (.getfield 117, 3) := dk_180 0 117 (dk_at dksX5_valley_3 10 rfl rfl)
theorem dX5_valley_84 : decode cX5_valley 84 = .ok (.putfield 9, 3) := dk_181 0 9 (dk_at dksX5_valley_3 13 rfl rfl)
theorem dX5_valley_87 : decode cX5_valley 87 = .ok (.iconst (-1), 1) := dk_2 (dk_at dksX5_valley_3 16 rfl rfl)
theorem dX5_valley_88 : decode cX5_valley 88 = .ok (.ireturn, 1) := dk_172 (dk_at dksX5_valley_3 17 rfl rfl)
theorem dX5_valley_89 : decode cX5_valley 89 = .ok (.aload_n 0, 1) := dk_42 (dk_at dksX5_valley_3 18 rfl rfl)
theorem dX5_valley_90 : decode cX5_valley 90 = .ok (.aload_n 0, 1) := dk_42 (dk_at dksX5_valley_3 19 rfl rfl)
theorem dX5_valley_91 : decode cX5_valley 91 = .ok (.getfield 173, 3) := dk_180 0 173 (dk_at dksX5_valley_3 20 rfl rfl)
theorem dX5_valley_94 : decode cX5_valley 94 = .ok (.putfield 380, 3) := dk_181 1 124 (dk_at dksX5_valley_4 0 rfl rfl)
theorem dX5_valley_97 : decode cX5_valley 97 = .ok (.aload_n 0, 1) := dk_42 (dk_at dksX5_valley_4 3 rfl rfl)
theorem dX5_valley_98 : decode cX5_valley 98 = .ok (.iconst 0, 1) := dk_3 (dk_at dksX5_valley_4 4 rfl rfl)
theorem dX5_valley_99 : decode cX5_valley 99 = .ok (.putfield 383, 3) := dk_181 1 127 (dk_at dksX5_valley_4 5 rfl rfl)
theorem dX5_valley_102 : decode cX5_valley 102 = .ok (.aload_n 0, 1) := dk_42 (dk_at dksX5_valley_4 8 rfl rfl)
theorem dX5_valley_103 : decode cX5_valley 103 = .ok (.iconst 0, 1) := dk_3 (dk_at dksX5_valley_4 9 rfl rfl)
theorem dX5_valley_104 : decode cX5_valley 104 = .ok (.putfield 386, 3) := dk_181 1 130 (dk_at dksX5_valley_4 10 rfl rfl)
theorem dX5_valley_107 : decode cX5_valley 107 = .ok (.aload_n 0, 1) := dk_42 (dk_at dksX5_valley_4 13 rfl rfl)
theorem dX5_valley_108 : decode cX5_valley 108 = .ok (.iconst (-1), 1) := dk_2 (dk_at dksX5_valley_4 14 rfl rfl)
theorem dX5_valley_109 : decode cX5_valley 109 = .ok (.putfield 43, 3) := dk_181 0 43 (dk_at dksX5_valley_4 15 rfl rfl)
theorem dX5_valley_112 : decode cX5_valley 112 = .ok (.aload_n 0, 1) := dk_42 (dk_at dksX5_valley_4 18 rfl rfl)
theorem dX5_valley_113 : decode cX5_valley 113 = .ok (.iconst 0, 1) := dk_3 (dk_at dksX5_valley_4 19 rfl rfl)
theorem dX5_valley_114 : decode cX5_valley 114 = .ok (.putfield 389, 3) := dk_181 1 133 (dk_at dksX5_valley_4 20 rfl rfl)
theorem dX5_valley_117 : decode cX5_valley 117 = .ok (.iconst 0, 1) := dk_3 (dk_at dksX5_valley_4 23 rfl rfl)
theorem dX5_valley_118 : decode cX5_valley 118 = .ok (.istore_n 2, 1) := dk_61 (dk_at dksX5_valley_5 0 rfl rfl)
theorem dX5_valley_119 : decode cX5_valley 119 = .ok (.iload_n 2, 1) := dk_28 (dk_at dksX5_valley_5 1 rfl rfl)
theorem dX5_valley_120 : decode cX5_valley 120 = .ok (.aload_n 0, 1) := dk_42 (dk_at dksX5_valley_5 2 rfl rfl)
theorem dX5_valley_121 : decode cX5_valley 121 = .ok (.getfield 380, 3) := dk_180 1 124 (dk_at dksX5_valley_5 3 rfl rfl)
theorem dX5_valley_124 : decode cX5_valley 124 = .ok (.getfield 221, 3) := dk_180 0 221 (dk_at dksX5_valley_5 6 rfl rfl)
theorem dX5_valley_127 : decode cX5_valley 127 = .ok (.if_icmp .ge 24, 3) := dk_162 0 24 (dk_at dksX5_valley_5 9 rfl rfl)
theorem dX5_valley_130 : decode cX5_valley 130 = .ok (.aload_n 0, 1) := dk_42 (dk_at dksX5_valley_5 12 rfl rfl)
theorem dX5_valley_131 : decode cX5_valley 131 = .ok (.getfield 17, 3) := dk_180 0 17 (dk_at dksX5_valley_5 13 rfl rfl)
theorem dX5_valley_134 : decode cX5_valley 134 = .ok (.iload_n 2, 1) := dk_28 (dk_at dksX5_valley_5 16 rfl rfl)
theorem dX5_valley_135 : decode cX5_valley 135 = .ok (.aload_n 0, 1) := dk_42 (dk_at dksX5_valley_5 17 rfl rfl)
theorem dX5_valley_136 : decode cX5_valley 136 = .ok (.getfield 380, 3) := dk_180 1 124 (dk_at dksX5_valley_5 18 rfl rfl)
theorem dX5_valley_139 : decode cX5_valley 139 = .ok (.getfield 323, 3) := dk_180 1 67 (dk_at dksX5_valley_5 21 rfl rfl)
theorem dX5_valley_142 : decode cX5_valley 142 = .ok (.iload_n 2, 1) := dk_28 (dk_at dksX5_valley_6 0 rfl rfl)
theorem dX5_valley_143 : decode cX5_valley 143 = .ok (.iaload, 1) := dk_46 (dk_at dksX5_valley_6 1 rfl rfl)
theorem dX5_valley_144 : decode cX5_valley 144 = .ok (.iastore, 1) := dk_79 (dk_at dksX5_valley_6 2 rfl rfl)
theorem dX5_valley_145 : decode cX5_valley 145 = .ok (.iinc 2 1, 3) := dk_132 2 1 (dk_at dksX5_valley_6 3 rfl rfl)
theorem dX5_valley_148 : decode cX5_valley 148 = .ok (.goto (-29), 3) := dk_167 255 227 (dk_at dksX5_valley_6 6 rfl rfl)
theorem dX5_valley_151 : decode cX5_valley 151 = .ok (.aload_n 0, 1) := dk_42 (dk_at dksX5_valley_6 9 rfl rfl)
theorem dX5_valley_152 : decode cX5_valley 152 = .ok (.invokevirtual 392, 3) := dk_182 1 136 (dk_at dksX5_valley_6 10 rfl rfl)
theorem dX5_valley_155 : decode cX5_valley 155 = .ok (.aload_n 0, 1) := dk_42 (dk_at dksX5_valley_6 13 rfl rfl)
theorem dX5_valley_156 : decode cX5_valley 156 = .ok (.aload_n 0, 1) := dk_42 (dk_at dksX5_valley_6 14 rfl rfl)
theorem dX5_valley_157 : decode cX5_valley 157 = .ok (.getfield 380, 3) := dk_180 1 124 (dk_at dksX5_valley_6 15 rfl rfl)
theorem dX5_valley_160 : decode cX5_valley 160 = .ok (.getfield 221, 3) := dk_180 0 221 (dk_at dksX5_valley_6 18 rfl rfl)
theorem dX5_valley_163 : decode cX5_valley 163 = .ok (.iconst 0, 1) := dk_3 (dk_at dksX5_valley_6 21 rfl rfl)
theorem dX5_valley_164 : decode cX5_valley 164 = .ok (.invokevirtual 66, 3) := dk_182 0 66 (dk_at dksX5_valley_7 0 rfl rfl)
theorem dX5_valley_167 : decode cX5_valley 167 = .ok (.ireturn, 1) := dk_172 (dk_at dksX5_valley_7 3 rfl rfl)
abbrev cX5_refused : ByteArray := prog_15_method_3_code
def yX5_refused : MethodName := ⟨RX5, "refused", "(I)I"⟩
def dkwX5_refused_0 : List UInt8 := [42, 27, 181, 0, 59, 42, 2, 181, 0, 9, 2, 172]
abbrev dktX5_refused_0 : List UInt8 := dkwX5_refused_0 ++ []
theorem dksX5_refused_0 : cX5_refused.data.toList.drop 0 = dktX5_refused_0 := by decide +kernel
theorem dX5_refused_0 : decode cX5_refused 0 = .ok (.aload_n 0, 1) := dk_42 (dk_at dksX5_refused_0 0 rfl rfl)
theorem dX5_refused_1 : decode cX5_refused 1 = .ok (.iload_n 1, 1) := dk_27 (dk_at dksX5_refused_0 1 rfl rfl)
theorem dX5_refused_2 : decode cX5_refused 2 = .ok (.putfield 59, 3) := dk_181 0 59 (dk_at dksX5_refused_0 2 rfl rfl)
theorem dX5_refused_5 : decode cX5_refused 5 = .ok (.aload_n 0, 1) := dk_42 (dk_at dksX5_refused_0 5 rfl rfl)
theorem dX5_refused_6 : decode cX5_refused 6 = .ok (.iconst (-1), 1) := dk_2 (dk_at dksX5_refused_0 6 rfl rfl)
theorem dX5_refused_7 : decode cX5_refused 7 = .ok (.putfield 9, 3) := dk_181 0 9 (dk_at dksX5_refused_0 7 rfl rfl)
theorem dX5_refused_10 : decode cX5_refused 10 = .ok (.iconst (-1), 1) := dk_2 (dk_at dksX5_refused_0 10 rfl rfl)
theorem dX5_refused_11 : decode cX5_refused 11 = .ok (.ireturn, 1) := dk_172 (dk_at dksX5_refused_0 11 rfl rfl)
abbrev cX5_goesOn : ByteArray := prog_15_method_14_code
def yX5_goesOn : MethodName := ⟨RX5, "goesOn", "()V"⟩
def dkwX5_goesOn_12 : List UInt8 := [181, 0, 88, 177]
abbrev dktX5_goesOn_12 : List UInt8 := dkwX5_goesOn_12 ++ []
def dkwX5_goesOn_11 : List UInt8 := [16, 44, 160, 0, 23, 42, 7, 181, 0, 85, 42, 27, 181, 0, 97, 42, 89, 180, 0, 88, 4, 96]
abbrev dktX5_goesOn_11 : List UInt8 := dkwX5_goesOn_11 ++ dktX5_goesOn_12
def dkwX5_goesOn_10 : List UInt8 := [167, 255, 201, 28, 6, 163, 0, 43, 42, 6, 181, 0, 85, 167, 0, 35, 27, 16, 59, 159, 0, 9, 27]
abbrev dktX5_goesOn_10 : List UInt8 := dkwX5_goesOn_10 ++ dktX5_goesOn_11
def dkwX5_goesOn_9 : List UInt8 := [182, 0, 91, 96, 16, 48, 100, 181, 0, 111, 132, 2, 1, 42, 89, 180, 0, 88, 4, 96, 181, 0, 88]
abbrev dktX5_goesOn_9 : List UInt8 := dkwX5_goesOn_9 ++ dktX5_goesOn_10
def dkwX5_goesOn_8 : List UInt8 := [184, 0, 108, 153, 0, 47, 28, 6, 162, 0, 26, 42, 16, 10, 42, 180, 0, 111, 104, 42, 42, 180, 0, 88]
abbrev dktX5_goesOn_8 : List UInt8 := dkwX5_goesOn_8 ++ dktX5_goesOn_9
def dkwX5_goesOn_7 : List UInt8 := [167, 0, 118, 27, 184, 0, 108, 153, 0, 79, 42, 3, 181, 0, 111, 42, 42, 180, 0, 88, 182, 0, 91]
abbrev dktX5_goesOn_7 : List UInt8 := dkwX5_goesOn_7 ++ dktX5_goesOn_8
def dkwX5_goesOn_6 : List UInt8 := [180, 0, 88, 4, 96, 181, 0, 88, 167, 255, 196, 28, 16, 8, 163, 0, 126, 42, 5, 181, 0, 85]
abbrev dktX5_goesOn_6 : List UInt8 := dkwX5_goesOn_6 ++ dktX5_goesOn_7
def dkwX5_goesOn_5 : List UInt8 := [42, 42, 180, 0, 88, 182, 0, 91, 16, 97, 100, 4, 96, 133, 97, 181, 0, 104, 132, 2, 1, 42, 89]
abbrev dktX5_goesOn_5 : List UInt8 := dkwX5_goesOn_5 ++ dktX5_goesOn_6
def dkwX5_goesOn_4 : List UInt8 := [182, 0, 91, 184, 0, 100, 153, 0, 52, 28, 16, 8, 162, 0, 30, 42, 20, 0, 79, 42, 180, 0, 104, 105]
abbrev dktX5_goesOn_4 : List UInt8 := dkwX5_goesOn_4 ++ dktX5_goesOn_5
def dkwX5_goesOn_3 : List UInt8 := [181, 0, 85, 167, 0, 207, 27, 184, 0, 100, 153, 0, 85, 42, 9, 181, 0, 104, 42, 42, 180, 0, 88]
abbrev dktX5_goesOn_3 : List UInt8 := dkwX5_goesOn_3 ++ dktX5_goesOn_4
def dkwX5_goesOn_2 : List UInt8 := [42, 3, 181, 0, 97, 42, 42, 180, 0, 88, 182, 0, 91, 60, 3, 61, 27, 2, 160, 0, 11, 42, 4]
abbrev dktX5_goesOn_2 : List UInt8 := dkwX5_goesOn_2 ++ dktX5_goesOn_3
def dkwX5_goesOn_1 : List UInt8 := [180, 0, 88, 4, 96, 181, 0, 88, 167, 255, 233, 42, 42, 180, 0, 88, 181, 0, 94, 42, 3, 181, 0, 85]
abbrev dktX5_goesOn_1 : List UInt8 := dkwX5_goesOn_1 ++ dktX5_goesOn_2
def dkwX5_goesOn_0 : List UInt8 := [42, 180, 0, 85, 8, 160, 0, 4, 177, 42, 42, 180, 0, 88, 182, 0, 91, 16, 32, 160, 0, 16, 42, 89]
abbrev dktX5_goesOn_0 : List UInt8 := dkwX5_goesOn_0 ++ dktX5_goesOn_1
theorem dksX5_goesOn_0 : cX5_goesOn.data.toList.drop 0 = dktX5_goesOn_0 := by decide +kernel
theorem dksX5_goesOn_1 : cX5_goesOn.data.toList.drop 24 = dktX5_goesOn_1 := dk_seg dksX5_goesOn_0 24 rfl rfl
theorem dksX5_goesOn_2 : cX5_goesOn.data.toList.drop 48 = dktX5_goesOn_2 := dk_seg dksX5_goesOn_1 24 rfl rfl
theorem dksX5_goesOn_3 : cX5_goesOn.data.toList.drop 71 = dktX5_goesOn_3 := dk_seg dksX5_goesOn_2 23 rfl rfl
theorem dksX5_goesOn_4 : cX5_goesOn.data.toList.drop 94 = dktX5_goesOn_4 := dk_seg dksX5_goesOn_3 23 rfl rfl
theorem dksX5_goesOn_5 : cX5_goesOn.data.toList.drop 118 = dktX5_goesOn_5 := dk_seg dksX5_goesOn_4 24 rfl rfl
theorem dksX5_goesOn_6 : cX5_goesOn.data.toList.drop 141 = dktX5_goesOn_6 := dk_seg dksX5_goesOn_5 23 rfl rfl
theorem dksX5_goesOn_7 : cX5_goesOn.data.toList.drop 163 = dktX5_goesOn_7 := dk_seg dksX5_goesOn_6 22 rfl rfl
theorem dksX5_goesOn_8 : cX5_goesOn.data.toList.drop 186 = dktX5_goesOn_8 := dk_seg dksX5_goesOn_7 23 rfl rfl
theorem dksX5_goesOn_9 : cX5_goesOn.data.toList.drop 210 = dktX5_goesOn_9 := dk_seg dksX5_goesOn_8 24 rfl rfl
theorem dksX5_goesOn_10 : cX5_goesOn.data.toList.drop 233 = dktX5_goesOn_10 := dk_seg dksX5_goesOn_9 23 rfl rfl
theorem dksX5_goesOn_11 : cX5_goesOn.data.toList.drop 256 = dktX5_goesOn_11 := dk_seg dksX5_goesOn_10 23 rfl rfl
theorem dksX5_goesOn_12 : cX5_goesOn.data.toList.drop 278 = dktX5_goesOn_12 := dk_seg dksX5_goesOn_11 22 rfl rfl
theorem dX5_goesOn_0 : decode cX5_goesOn 0 = .ok (.aload_n 0, 1) := dk_42 (dk_at dksX5_goesOn_0 0 rfl rfl)
theorem dX5_goesOn_1 : decode cX5_goesOn 1 = .ok (.getfield 85, 3) := dk_180 0 85 (dk_at dksX5_goesOn_0 1 rfl rfl)
theorem dX5_goesOn_4 : decode cX5_goesOn 4 = .ok (.iconst 5, 1) := dk_8 (dk_at dksX5_goesOn_0 4 rfl rfl)
theorem dX5_goesOn_5 : decode cX5_goesOn 5 = .ok (.if_icmp .ne 4, 3) := dk_160 0 4 (dk_at dksX5_goesOn_0 5 rfl rfl)
theorem dX5_goesOn_8 : decode cX5_goesOn 8 = .ok (.return_, 1) := dk_177 (dk_at dksX5_goesOn_0 8 rfl rfl)
theorem dX5_goesOn_9 : decode cX5_goesOn 9 = .ok (.aload_n 0, 1) := dk_42 (dk_at dksX5_goesOn_0 9 rfl rfl)
theorem dX5_goesOn_10 : decode cX5_goesOn 10 = .ok (.aload_n 0, 1) := dk_42 (dk_at dksX5_goesOn_0 10 rfl rfl)
theorem dX5_goesOn_11 : decode cX5_goesOn 11 = .ok (.getfield 88, 3) := dk_180 0 88 (dk_at dksX5_goesOn_0 11 rfl rfl)
theorem dX5_goesOn_14 : decode cX5_goesOn 14 = .ok (.invokevirtual 91, 3) := dk_182 0 91 (dk_at dksX5_goesOn_0 14 rfl rfl)
theorem dX5_goesOn_17 : decode cX5_goesOn 17 = .ok (.bipush 32, 2) := dk_16 32 (dk_at dksX5_goesOn_0 17 rfl rfl)
theorem dX5_goesOn_19 : decode cX5_goesOn 19 = .ok (.if_icmp .ne 16, 3) := dk_160 0 16 (dk_at dksX5_goesOn_0 19 rfl rfl)
theorem dX5_goesOn_22 : decode cX5_goesOn 22 = .ok (.aload_n 0, 1) := dk_42 (dk_at dksX5_goesOn_0 22 rfl rfl)
theorem dX5_goesOn_23 : decode cX5_goesOn 23 = .ok (.dup, 1) := dk_89 (dk_at dksX5_goesOn_0 23 rfl rfl)
theorem dX5_goesOn_24 : decode cX5_goesOn 24 = .ok (.getfield 88, 3) := dk_180 0 88 (dk_at dksX5_goesOn_1 0 rfl rfl)
theorem dX5_goesOn_27 : decode cX5_goesOn 27 = .ok (.iconst 1, 1) := dk_4 (dk_at dksX5_goesOn_1 3 rfl rfl)
theorem dX5_goesOn_28 : decode cX5_goesOn 28 = .ok (.iadd, 1) := dk_96 (dk_at dksX5_goesOn_1 4 rfl rfl)
theorem dX5_goesOn_29 : decode cX5_goesOn 29 = .ok (.putfield 88, 3) := dk_181 0 88 (dk_at dksX5_goesOn_1 5 rfl rfl)
theorem dX5_goesOn_32 : decode cX5_goesOn 32 = .ok (.goto (-23), 3) := dk_167 255 233 (dk_at dksX5_goesOn_1 8 rfl rfl)
theorem dX5_goesOn_35 : decode cX5_goesOn 35 = .ok (.aload_n 0, 1) := dk_42 (dk_at dksX5_goesOn_1 11 rfl rfl)
theorem dX5_goesOn_36 : decode cX5_goesOn 36 = .ok (.aload_n 0, 1) := dk_42 (dk_at dksX5_goesOn_1 12 rfl rfl)
theorem dX5_goesOn_37 : decode cX5_goesOn 37 = .ok (.getfield 88, 3) := dk_180 0 88 (dk_at dksX5_goesOn_1 13 rfl rfl)
theorem dX5_goesOn_40 : decode cX5_goesOn 40 = .ok (.putfield 94, 3) := dk_181 0 94 (dk_at dksX5_goesOn_1 16 rfl rfl)
theorem dX5_goesOn_43 : decode cX5_goesOn 43 = .ok (.aload_n 0, 1) := dk_42 (dk_at dksX5_goesOn_1 19 rfl rfl)
theorem dX5_goesOn_44 : decode cX5_goesOn 44 = .ok (.iconst 0, 1) := dk_3 (dk_at dksX5_goesOn_1 20 rfl rfl)
theorem dX5_goesOn_45 : decode cX5_goesOn 45 = .ok (.putfield 85, 3) := dk_181 0 85 (dk_at dksX5_goesOn_1 21 rfl rfl)
theorem dX5_goesOn_48 : decode cX5_goesOn 48 = .ok (.aload_n 0, 1) := dk_42 (dk_at dksX5_goesOn_2 0 rfl rfl)
theorem dX5_goesOn_49 : decode cX5_goesOn 49 = .ok (.iconst 0, 1) := dk_3 (dk_at dksX5_goesOn_2 1 rfl rfl)
theorem dX5_goesOn_50 : decode cX5_goesOn 50 = .ok (.putfield 97, 3) := dk_181 0 97 (dk_at dksX5_goesOn_2 2 rfl rfl)
theorem dX5_goesOn_53 : decode cX5_goesOn 53 = .ok (.aload_n 0, 1) := dk_42 (dk_at dksX5_goesOn_2 5 rfl rfl)
theorem dX5_goesOn_54 : decode cX5_goesOn 54 = .ok (.aload_n 0, 1) := dk_42 (dk_at dksX5_goesOn_2 6 rfl rfl)
theorem dX5_goesOn_55 : decode cX5_goesOn 55 = .ok (.getfield 88, 3) := dk_180 0 88 (dk_at dksX5_goesOn_2 7 rfl rfl)
theorem dX5_goesOn_58 : decode cX5_goesOn 58 = .ok (.invokevirtual 91, 3) := dk_182 0 91 (dk_at dksX5_goesOn_2 10 rfl rfl)
theorem dX5_goesOn_61 : decode cX5_goesOn 61 = .ok (.istore_n 1, 1) := dk_60 (dk_at dksX5_goesOn_2 13 rfl rfl)
theorem dX5_goesOn_62 : decode cX5_goesOn 62 = .ok (.iconst 0, 1) := dk_3 (dk_at dksX5_goesOn_2 14 rfl rfl)
theorem dX5_goesOn_63 : decode cX5_goesOn 63 = .ok (.istore_n 2, 1) := dk_61 (dk_at dksX5_goesOn_2 15 rfl rfl)
theorem dX5_goesOn_64 : decode cX5_goesOn 64 = .ok (.iload_n 1, 1) := dk_27 (dk_at dksX5_goesOn_2 16 rfl rfl)
theorem dX5_goesOn_65 : decode cX5_goesOn 65 = .ok (.iconst (-1), 1) := dk_2 (dk_at dksX5_goesOn_2 17 rfl rfl)
theorem dX5_goesOn_66 : decode cX5_goesOn 66 = .ok (.if_icmp .ne 11, 3) := dk_160 0 11 (dk_at dksX5_goesOn_2 18 rfl rfl)
theorem dX5_goesOn_69 : decode cX5_goesOn 69 = .ok (.aload_n 0, 1) := dk_42 (dk_at dksX5_goesOn_2 21 rfl rfl)
theorem dX5_goesOn_70 : decode cX5_goesOn 70 = .ok (.iconst 1, 1) := dk_4 (dk_at dksX5_goesOn_2 22 rfl rfl)
theorem dX5_goesOn_71 : decode cX5_goesOn 71 = .ok (.putfield 85, 3) := dk_181 0 85 (dk_at dksX5_goesOn_3 0 rfl rfl)
theorem dX5_goesOn_74 : decode cX5_goesOn 74 = .ok (.goto 207, 3) := dk_167 0 207 (dk_at dksX5_goesOn_3 3 rfl rfl)
theorem dX5_goesOn_77 : decode cX5_goesOn 77 = .ok (.iload_n 1, 1) := dk_27 (dk_at dksX5_goesOn_3 6 rfl rfl)
theorem dX5_goesOn_78 : decode cX5_goesOn 78 = .ok (.invokestatic 100, 3) := dk_184 0 100 (dk_at dksX5_goesOn_3 7 rfl rfl)
theorem dX5_goesOn_81 : decode cX5_goesOn 81 = .ok (.ifCond .eq 85, 3) := dk_153 0 85 (dk_at dksX5_goesOn_3 10 rfl rfl)
theorem dX5_goesOn_84 : decode cX5_goesOn 84 = .ok (.aload_n 0, 1) := dk_42 (dk_at dksX5_goesOn_3 13 rfl rfl)
theorem dX5_goesOn_85 : decode cX5_goesOn 85 = .ok (.lconst 0, 1) := dk_9 (dk_at dksX5_goesOn_3 14 rfl rfl)
theorem dX5_goesOn_86 : decode cX5_goesOn 86 = .ok (.putfield 104, 3) := dk_181 0 104 (dk_at dksX5_goesOn_3 15 rfl rfl)
theorem dX5_goesOn_89 : decode cX5_goesOn 89 = .ok (.aload_n 0, 1) := dk_42 (dk_at dksX5_goesOn_3 18 rfl rfl)
theorem dX5_goesOn_90 : decode cX5_goesOn 90 = .ok (.aload_n 0, 1) := dk_42 (dk_at dksX5_goesOn_3 19 rfl rfl)
theorem dX5_goesOn_91 : decode cX5_goesOn 91 = .ok (.getfield 88, 3) := dk_180 0 88 (dk_at dksX5_goesOn_3 20 rfl rfl)
theorem dX5_goesOn_94 : decode cX5_goesOn 94 = .ok (.invokevirtual 91, 3) := dk_182 0 91 (dk_at dksX5_goesOn_4 0 rfl rfl)
theorem dX5_goesOn_97 : decode cX5_goesOn 97 = .ok (.invokestatic 100, 3) := dk_184 0 100 (dk_at dksX5_goesOn_4 3 rfl rfl)
theorem dX5_goesOn_100 : decode cX5_goesOn 100 = .ok (.ifCond .eq 52, 3) := dk_153 0 52 (dk_at dksX5_goesOn_4 6 rfl rfl)
theorem dX5_goesOn_103 : decode cX5_goesOn 103 = .ok (.iload_n 2, 1) := dk_28 (dk_at dksX5_goesOn_4 9 rfl rfl)
theorem dX5_goesOn_104 : decode cX5_goesOn 104 = .ok (.bipush 8, 2) := dk_16 8 (dk_at dksX5_goesOn_4 10 rfl rfl)
theorem dX5_goesOn_106 : decode cX5_goesOn 106 = .ok (.if_icmp .ge 30, 3) := dk_162 0 30 (dk_at dksX5_goesOn_4 12 rfl rfl)
theorem dX5_goesOn_109 : decode cX5_goesOn 109 = .ok (.aload_n 0, 1) := dk_42 (dk_at dksX5_goesOn_4 15 rfl rfl)
theorem dX5_goesOn_110 : decode cX5_goesOn 110 = .ok (.ldc2_w 79, 3) := dk_20 0 79 (dk_at dksX5_goesOn_4 16 rfl rfl)
theorem dX5_goesOn_113 : decode cX5_goesOn 113 = .ok (.aload_n 0, 1) := dk_42 (dk_at dksX5_goesOn_4 19 rfl rfl)
theorem dX5_goesOn_114 : decode cX5_goesOn 114 = .ok (.getfield 104, 3) := dk_180 0 104 (dk_at dksX5_goesOn_4 20 rfl rfl)
theorem dX5_goesOn_117 : decode cX5_goesOn 117 = .ok (.lmul, 1) := dk_105 (dk_at dksX5_goesOn_4 23 rfl rfl)
theorem dX5_goesOn_118 : decode cX5_goesOn 118 = .ok (.aload_n 0, 1) := dk_42 (dk_at dksX5_goesOn_5 0 rfl rfl)
theorem dX5_goesOn_119 : decode cX5_goesOn 119 = .ok (.aload_n 0, 1) := dk_42 (dk_at dksX5_goesOn_5 1 rfl rfl)
theorem dX5_goesOn_120 : decode cX5_goesOn 120 = .ok (.getfield 88, 3) := dk_180 0 88 (dk_at dksX5_goesOn_5 2 rfl rfl)
theorem dX5_goesOn_123 : decode cX5_goesOn 123 = .ok (.invokevirtual 91, 3) := dk_182 0 91 (dk_at dksX5_goesOn_5 5 rfl rfl)
theorem dX5_goesOn_126 : decode cX5_goesOn 126 = .ok (.bipush 97, 2) := dk_16 97 (dk_at dksX5_goesOn_5 8 rfl rfl)
theorem dX5_goesOn_128 : decode cX5_goesOn 128 = .ok (.isub, 1) := dk_100 (dk_at dksX5_goesOn_5 10 rfl rfl)
theorem dX5_goesOn_129 : decode cX5_goesOn 129 = .ok (.iconst 1, 1) := dk_4 (dk_at dksX5_goesOn_5 11 rfl rfl)
theorem dX5_goesOn_130 : decode cX5_goesOn 130 = .ok (.iadd, 1) := dk_96 (dk_at dksX5_goesOn_5 12 rfl rfl)
theorem dX5_goesOn_131 : decode cX5_goesOn 131 = .ok (.i2l, 1) := dk_133 (dk_at dksX5_goesOn_5 13 rfl rfl)
theorem dX5_goesOn_132 : decode cX5_goesOn 132 = .ok (.ladd, 1) := dk_97 (dk_at dksX5_goesOn_5 14 rfl rfl)
theorem dX5_goesOn_133 : decode cX5_goesOn 133 = .ok (.putfield 104, 3) := dk_181 0 104 (dk_at dksX5_goesOn_5 15 rfl rfl)
theorem dX5_goesOn_136 : decode cX5_goesOn 136 = .ok (.iinc 2 1, 3) := dk_132 2 1 (dk_at dksX5_goesOn_5 18 rfl rfl)
theorem dX5_goesOn_139 : decode cX5_goesOn 139 = .ok (.aload_n 0, 1) := dk_42 (dk_at dksX5_goesOn_5 21 rfl rfl)
theorem dX5_goesOn_140 : decode cX5_goesOn 140 = .ok (.dup, 1) := dk_89 (dk_at dksX5_goesOn_5 22 rfl rfl)
theorem dX5_goesOn_141 : decode cX5_goesOn 141 = .ok (.getfield 88, 3) := dk_180 0 88 (dk_at dksX5_goesOn_6 0 rfl rfl)
theorem dX5_goesOn_144 : decode cX5_goesOn 144 = .ok (.iconst 1, 1) := dk_4 (dk_at dksX5_goesOn_6 3 rfl rfl)
theorem dX5_goesOn_145 : decode cX5_goesOn 145 = .ok (.iadd, 1) := dk_96 (dk_at dksX5_goesOn_6 4 rfl rfl)
theorem dX5_goesOn_146 : decode cX5_goesOn 146 = .ok (.putfield 88, 3) := dk_181 0 88 (dk_at dksX5_goesOn_6 5 rfl rfl)
theorem dX5_goesOn_149 : decode cX5_goesOn 149 = .ok (.goto (-60), 3) := dk_167 255 196 (dk_at dksX5_goesOn_6 8 rfl rfl)
theorem dX5_goesOn_152 : decode cX5_goesOn 152 = .ok (.iload_n 2, 1) := dk_28 (dk_at dksX5_goesOn_6 11 rfl rfl)
theorem dX5_goesOn_153 : decode cX5_goesOn 153 = .ok (.bipush 8, 2) := dk_16 8 (dk_at dksX5_goesOn_6 12 rfl rfl)
theorem dX5_goesOn_155 : decode cX5_goesOn 155 = .ok (.if_icmp .gt 126, 3) := dk_163 0 126 (dk_at dksX5_goesOn_6 14 rfl rfl)
theorem dX5_goesOn_158 : decode cX5_goesOn 158 = .ok (.aload_n 0, 1) := dk_42 (dk_at dksX5_goesOn_6 17 rfl rfl)
theorem dX5_goesOn_159 : decode cX5_goesOn 159 = .ok (.iconst 2, 1) := dk_5 (dk_at dksX5_goesOn_6 18 rfl rfl)
theorem dX5_goesOn_160 : decode cX5_goesOn 160 = .ok (.putfield 85, 3) := dk_181 0 85 (dk_at dksX5_goesOn_6 19 rfl rfl)
theorem dX5_goesOn_163 : decode cX5_goesOn 163 = .ok (.goto 118, 3) := dk_167 0 118 (dk_at dksX5_goesOn_7 0 rfl rfl)
theorem dX5_goesOn_166 : decode cX5_goesOn 166 = .ok (.iload_n 1, 1) := dk_27 (dk_at dksX5_goesOn_7 3 rfl rfl)
theorem dX5_goesOn_167 : decode cX5_goesOn 167 = .ok (.invokestatic 108, 3) := dk_184 0 108 (dk_at dksX5_goesOn_7 4 rfl rfl)
theorem dX5_goesOn_170 : decode cX5_goesOn 170 = .ok (.ifCond .eq 79, 3) := dk_153 0 79 (dk_at dksX5_goesOn_7 7 rfl rfl)
theorem dX5_goesOn_173 : decode cX5_goesOn 173 = .ok (.aload_n 0, 1) := dk_42 (dk_at dksX5_goesOn_7 10 rfl rfl)
theorem dX5_goesOn_174 : decode cX5_goesOn 174 = .ok (.iconst 0, 1) := dk_3 (dk_at dksX5_goesOn_7 11 rfl rfl)
theorem dX5_goesOn_175 : decode cX5_goesOn 175 = .ok (.putfield 111, 3) := dk_181 0 111 (dk_at dksX5_goesOn_7 12 rfl rfl)
theorem dX5_goesOn_178 : decode cX5_goesOn 178 = .ok (.aload_n 0, 1) := dk_42 (dk_at dksX5_goesOn_7 15 rfl rfl)
theorem dX5_goesOn_179 : decode cX5_goesOn 179 = .ok (.aload_n 0, 1) := dk_42 (dk_at dksX5_goesOn_7 16 rfl rfl)
theorem dX5_goesOn_180 : decode cX5_goesOn 180 = .ok (.getfield 88, 3) := dk_180 0 88 (dk_at dksX5_goesOn_7 17 rfl rfl)
theorem dX5_goesOn_183 : decode cX5_goesOn 183 = .ok (.invokevirtual 91, 3) := dk_182 0 91 (dk_at dksX5_goesOn_7 20 rfl rfl)
theorem dX5_goesOn_186 : decode cX5_goesOn 186 = .ok (.invokestatic 108, 3) := dk_184 0 108 (dk_at dksX5_goesOn_8 0 rfl rfl)
theorem dX5_goesOn_189 : decode cX5_goesOn 189 = .ok (.ifCond .eq 47, 3) := dk_153 0 47 (dk_at dksX5_goesOn_8 3 rfl rfl)
theorem dX5_goesOn_192 : decode cX5_goesOn 192 = .ok (.iload_n 2, 1) := dk_28 (dk_at dksX5_goesOn_8 6 rfl rfl)
theorem dX5_goesOn_193 : decode cX5_goesOn 193 = .ok (.iconst 3, 1) := dk_6 (dk_at dksX5_goesOn_8 7 rfl rfl)
theorem dX5_goesOn_194 : decode cX5_goesOn 194 = .ok (.if_icmp .ge 26, 3) := dk_162 0 26 (dk_at dksX5_goesOn_8 8 rfl rfl)
theorem dX5_goesOn_197 : decode cX5_goesOn 197 = .ok (.aload_n 0, 1) := dk_42 (dk_at dksX5_goesOn_8 11 rfl rfl)
theorem dX5_goesOn_198 : decode cX5_goesOn 198 = .ok (.bipush 10, 2) := dk_16 10 (dk_at dksX5_goesOn_8 12 rfl rfl)
theorem dX5_goesOn_200 : decode cX5_goesOn 200 = .ok (.aload_n 0, 1) := dk_42 (dk_at dksX5_goesOn_8 14 rfl rfl)
theorem dX5_goesOn_201 : decode cX5_goesOn 201 = .ok (.getfield 111, 3) := dk_180 0 111 (dk_at dksX5_goesOn_8 15 rfl rfl)
theorem dX5_goesOn_204 : decode cX5_goesOn 204 = .ok (.imul, 1) := dk_104 (dk_at dksX5_goesOn_8 18 rfl rfl)
theorem dX5_goesOn_205 : decode cX5_goesOn 205 = .ok (.aload_n 0, 1) := dk_42 (dk_at dksX5_goesOn_8 19 rfl rfl)
theorem dX5_goesOn_206 : decode cX5_goesOn 206 = .ok (.aload_n 0, 1) := dk_42 (dk_at dksX5_goesOn_8 20 rfl rfl)
theorem dX5_goesOn_207 : decode cX5_goesOn 207 = .ok (.getfield 88, 3) := dk_180 0 88 (dk_at dksX5_goesOn_8 21 rfl rfl)
theorem dX5_goesOn_210 : decode cX5_goesOn 210 = .ok (.invokevirtual 91, 3) := dk_182 0 91 (dk_at dksX5_goesOn_9 0 rfl rfl)
theorem dX5_goesOn_213 : decode cX5_goesOn 213 = .ok (.iadd, 1) := dk_96 (dk_at dksX5_goesOn_9 3 rfl rfl)
theorem dX5_goesOn_214 : decode cX5_goesOn 214 = .ok (.bipush 48, 2) := dk_16 48 (dk_at dksX5_goesOn_9 4 rfl rfl)
theorem dX5_goesOn_216 : decode cX5_goesOn 216 = .ok (.isub, 1) := dk_100 (dk_at dksX5_goesOn_9 6 rfl rfl)
theorem dX5_goesOn_217 : decode cX5_goesOn 217 = .ok (.putfield 111, 3) := dk_181 0 111 (dk_at dksX5_goesOn_9 7 rfl rfl)
theorem dX5_goesOn_220 : decode cX5_goesOn 220 = .ok (.iinc 2 1, 3) := dk_132 2 1 (dk_at dksX5_goesOn_9 10 rfl rfl)
theorem dX5_goesOn_223 : decode cX5_goesOn 223 = .ok (.aload_n 0, 1) := dk_42 (dk_at dksX5_goesOn_9 13 rfl rfl)
theorem dX5_goesOn_224 : decode cX5_goesOn 224 = .ok (.dup, 1) := dk_89 (dk_at dksX5_goesOn_9 14 rfl rfl)
theorem dX5_goesOn_225 : decode cX5_goesOn 225 = .ok (.getfield 88, 3) := dk_180 0 88 (dk_at dksX5_goesOn_9 15 rfl rfl)
theorem dX5_goesOn_228 : decode cX5_goesOn 228 = .ok (.iconst 1, 1) := dk_4 (dk_at dksX5_goesOn_9 18 rfl rfl)
theorem dX5_goesOn_229 : decode cX5_goesOn 229 = .ok (.iadd, 1) := dk_96 (dk_at dksX5_goesOn_9 19 rfl rfl)
theorem dX5_goesOn_230 : decode cX5_goesOn 230 = .ok (.putfield 88, 3) := dk_181 0 88 (dk_at dksX5_goesOn_9 20 rfl rfl)
theorem dX5_goesOn_233 : decode cX5_goesOn 233 = .ok (.goto (-55), 3) := dk_167 255 201 (dk_at dksX5_goesOn_10 0 rfl rfl)
theorem dX5_goesOn_236 : decode cX5_goesOn 236 = .ok (.iload_n 2, 1) := dk_28 (dk_at dksX5_goesOn_10 3 rfl rfl)
theorem dX5_goesOn_237 : decode cX5_goesOn 237 = .ok (.iconst 3, 1) := dk_6 (dk_at dksX5_goesOn_10 4 rfl rfl)
theorem dX5_goesOn_238 : decode cX5_goesOn 238 = .ok (.if_icmp .gt 43, 3) := dk_163 0 43 (dk_at dksX5_goesOn_10 5 rfl rfl)
theorem dX5_goesOn_241 : decode cX5_goesOn 241 = .ok (.aload_n 0, 1) := dk_42 (dk_at dksX5_goesOn_10 8 rfl rfl)
theorem dX5_goesOn_242 : decode cX5_goesOn 242 = .ok (.iconst 3, 1) := dk_6 (dk_at dksX5_goesOn_10 9 rfl rfl)
theorem dX5_goesOn_243 : decode cX5_goesOn 243 = .ok (.putfield 85, 3) := dk_181 0 85 (dk_at dksX5_goesOn_10 10 rfl rfl)
theorem dX5_goesOn_246 : decode cX5_goesOn 246 = .ok (.goto 35, 3) := dk_167 0 35 (dk_at dksX5_goesOn_10 13 rfl rfl)
theorem dX5_goesOn_249 : decode cX5_goesOn 249 = .ok (.iload_n 1, 1) := dk_27 (dk_at dksX5_goesOn_10 16 rfl rfl)
theorem dX5_goesOn_250 : decode cX5_goesOn 250 = .ok (.bipush 59, 2) := dk_16 59 (dk_at dksX5_goesOn_10 17 rfl rfl)
theorem dX5_goesOn_252 : decode cX5_goesOn 252 = .ok (.if_icmp .eq 9, 3) := dk_159 0 9 (dk_at dksX5_goesOn_10 19 rfl rfl)
theorem dX5_goesOn_255 : decode cX5_goesOn 255 = .ok (.iload_n 1, 1) := dk_27 (dk_at dksX5_goesOn_10 22 rfl rfl)
theorem dX5_goesOn_256 : decode cX5_goesOn 256 = .ok (.bipush 44, 2) := dk_16 44 (dk_at dksX5_goesOn_11 0 rfl rfl)
theorem dX5_goesOn_258 : decode cX5_goesOn 258 = .ok (.if_icmp .ne 23, 3) := dk_160 0 23 (dk_at dksX5_goesOn_11 2 rfl rfl)
theorem dX5_goesOn_261 : decode cX5_goesOn 261 = .ok (.aload_n 0, 1) := dk_42 (dk_at dksX5_goesOn_11 5 rfl rfl)
theorem dX5_goesOn_262 : decode cX5_goesOn 262 = .ok (.iconst 4, 1) := dk_7 (dk_at dksX5_goesOn_11 6 rfl rfl)
theorem dX5_goesOn_263 : decode cX5_goesOn 263 = .ok (.putfield 85, 3) := dk_181 0 85 (dk_at dksX5_goesOn_11 7 rfl rfl)
theorem dX5_goesOn_266 : decode cX5_goesOn 266 = .ok (.aload_n 0, 1) := dk_42 (dk_at dksX5_goesOn_11 10 rfl rfl)
theorem dX5_goesOn_267 : decode cX5_goesOn 267 = .ok (.iload_n 1, 1) := dk_27 (dk_at dksX5_goesOn_11 11 rfl rfl)
theorem dX5_goesOn_268 : decode cX5_goesOn 268 = .ok (.putfield 97, 3) := dk_181 0 97 (dk_at dksX5_goesOn_11 12 rfl rfl)
theorem dX5_goesOn_271 : decode cX5_goesOn 271 = .ok (.aload_n 0, 1) := dk_42 (dk_at dksX5_goesOn_11 15 rfl rfl)
theorem dX5_goesOn_272 : decode cX5_goesOn 272 = .ok (.dup, 1) := dk_89 (dk_at dksX5_goesOn_11 16 rfl rfl)
theorem dX5_goesOn_273 : decode cX5_goesOn 273 = .ok (.getfield 88, 3) := dk_180 0 88 (dk_at dksX5_goesOn_11 17 rfl rfl)
theorem dX5_goesOn_276 : decode cX5_goesOn 276 = .ok (.iconst 1, 1) := dk_4 (dk_at dksX5_goesOn_11 20 rfl rfl)
theorem dX5_goesOn_277 : decode cX5_goesOn 277 = .ok (.iadd, 1) := dk_96 (dk_at dksX5_goesOn_11 21 rfl rfl)
theorem dX5_goesOn_278 : decode cX5_goesOn 278 = .ok (.putfield 88, 3) := dk_181 0 88 (dk_at dksX5_goesOn_12 0 rfl rfl)
theorem dX5_goesOn_281 : decode cX5_goesOn 281 = .ok (.return_, 1) := dk_177 (dk_at dksX5_goesOn_12 3 rfl rfl)
abbrev cX5_byteAt : ByteArray := prog_15_method_10_code
def yX5_byteAt : MethodName := ⟨RX5, "byteAt", "(I)I"⟩
def dkwX5_byteAt_0 : List UInt8 := [27, 42, 180, 0, 70, 162, 0, 16, 42, 180, 0, 13, 27, 51, 17, 0, 255, 126, 167, 0, 4, 2, 172]
abbrev dktX5_byteAt_0 : List UInt8 := dkwX5_byteAt_0 ++ []
theorem dksX5_byteAt_0 : cX5_byteAt.data.toList.drop 0 = dktX5_byteAt_0 := by decide +kernel
theorem dX5_byteAt_0 : decode cX5_byteAt 0 = .ok (.iload_n 1, 1) := dk_27 (dk_at dksX5_byteAt_0 0 rfl rfl)
theorem dX5_byteAt_1 : decode cX5_byteAt 1 = .ok (.aload_n 0, 1) := dk_42 (dk_at dksX5_byteAt_0 1 rfl rfl)
theorem dX5_byteAt_2 : decode cX5_byteAt 2 = .ok (.getfield 70, 3) := dk_180 0 70 (dk_at dksX5_byteAt_0 2 rfl rfl)
theorem dX5_byteAt_5 : decode cX5_byteAt 5 = .ok (.if_icmp .ge 16, 3) := dk_162 0 16 (dk_at dksX5_byteAt_0 5 rfl rfl)
theorem dX5_byteAt_8 : decode cX5_byteAt 8 = .ok (.aload_n 0, 1) := dk_42 (dk_at dksX5_byteAt_0 8 rfl rfl)
theorem dX5_byteAt_9 : decode cX5_byteAt 9 = .ok (.getfield 13, 3) := dk_180 0 13 (dk_at dksX5_byteAt_0 9 rfl rfl)
theorem dX5_byteAt_12 : decode cX5_byteAt 12 = .ok (.iload_n 1, 1) := dk_27 (dk_at dksX5_byteAt_0 12 rfl rfl)
theorem dX5_byteAt_13 : decode cX5_byteAt 13 = .ok (.baload, 1) := dk_51 (dk_at dksX5_byteAt_0 13 rfl rfl)
theorem dX5_byteAt_14 : decode cX5_byteAt 14 = .ok (.sipush 255, 3) := dk_17 0 255 (dk_at dksX5_byteAt_0 14 rfl rfl)
theorem dX5_byteAt_17 : decode cX5_byteAt 17 = .ok (.iand, 1) := dk_126 (dk_at dksX5_byteAt_0 17 rfl rfl)
theorem dX5_byteAt_18 : decode cX5_byteAt 18 = .ok (.goto 4, 3) := dk_167 0 4 (dk_at dksX5_byteAt_0 18 rfl rfl)
theorem dX5_byteAt_21 : decode cX5_byteAt 21 = .ok (.iconst (-1), 1) := dk_2 (dk_at dksX5_byteAt_0 21 rfl rfl)
theorem dX5_byteAt_22 : decode cX5_byteAt 22 = .ok (.ireturn, 1) := dk_172 (dk_at dksX5_byteAt_0 22 rfl rfl)
abbrev cX5_isLetter : ByteArray := prog_15_method_11_code
def yX5_isLetter : MethodName := ⟨RX5, "isLetter", "(I)Z"⟩
def dkwX5_isLetter_0 : List UInt8 := [26, 16, 97, 161, 0, 13, 26, 16, 122, 163, 0, 7, 4, 167, 0, 4, 3, 172]
abbrev dktX5_isLetter_0 : List UInt8 := dkwX5_isLetter_0 ++ []
theorem dksX5_isLetter_0 : cX5_isLetter.data.toList.drop 0 = dktX5_isLetter_0 := by decide +kernel
theorem dX5_isLetter_0 : decode cX5_isLetter 0 = .ok (.iload_n 0, 1) := dk_26 (dk_at dksX5_isLetter_0 0 rfl rfl)
theorem dX5_isLetter_1 : decode cX5_isLetter 1 = .ok (.bipush 97, 2) := dk_16 97 (dk_at dksX5_isLetter_0 1 rfl rfl)
theorem dX5_isLetter_3 : decode cX5_isLetter 3 = .ok (.if_icmp .lt 13, 3) := dk_161 0 13 (dk_at dksX5_isLetter_0 3 rfl rfl)
theorem dX5_isLetter_6 : decode cX5_isLetter 6 = .ok (.iload_n 0, 1) := dk_26 (dk_at dksX5_isLetter_0 6 rfl rfl)
theorem dX5_isLetter_7 : decode cX5_isLetter 7 = .ok (.bipush 122, 2) := dk_16 122 (dk_at dksX5_isLetter_0 7 rfl rfl)
theorem dX5_isLetter_9 : decode cX5_isLetter 9 = .ok (.if_icmp .gt 7, 3) := dk_163 0 7 (dk_at dksX5_isLetter_0 9 rfl rfl)
theorem dX5_isLetter_12 : decode cX5_isLetter 12 = .ok (.iconst 1, 1) := dk_4 (dk_at dksX5_isLetter_0 12 rfl rfl)
theorem dX5_isLetter_13 : decode cX5_isLetter 13 = .ok (.goto 4, 3) := dk_167 0 4 (dk_at dksX5_isLetter_0 13 rfl rfl)
theorem dX5_isLetter_16 : decode cX5_isLetter 16 = .ok (.iconst 0, 1) := dk_3 (dk_at dksX5_isLetter_0 16 rfl rfl)
theorem dX5_isLetter_17 : decode cX5_isLetter 17 = .ok (.ireturn, 1) := dk_172 (dk_at dksX5_isLetter_0 17 rfl rfl)
abbrev cX5_isDigit : ByteArray := prog_15_method_12_code
def yX5_isDigit : MethodName := ⟨RX5, "isDigit", "(I)Z"⟩
def dkwX5_isDigit_0 : List UInt8 := [26, 16, 48, 161, 0, 13, 26, 16, 57, 163, 0, 7, 4, 167, 0, 4, 3, 172]
abbrev dktX5_isDigit_0 : List UInt8 := dkwX5_isDigit_0 ++ []
theorem dksX5_isDigit_0 : cX5_isDigit.data.toList.drop 0 = dktX5_isDigit_0 := by decide +kernel
theorem dX5_isDigit_0 : decode cX5_isDigit 0 = .ok (.iload_n 0, 1) := dk_26 (dk_at dksX5_isDigit_0 0 rfl rfl)
theorem dX5_isDigit_1 : decode cX5_isDigit 1 = .ok (.bipush 48, 2) := dk_16 48 (dk_at dksX5_isDigit_0 1 rfl rfl)
theorem dX5_isDigit_3 : decode cX5_isDigit 3 = .ok (.if_icmp .lt 13, 3) := dk_161 0 13 (dk_at dksX5_isDigit_0 3 rfl rfl)
theorem dX5_isDigit_6 : decode cX5_isDigit 6 = .ok (.iload_n 0, 1) := dk_26 (dk_at dksX5_isDigit_0 6 rfl rfl)
theorem dX5_isDigit_7 : decode cX5_isDigit 7 = .ok (.bipush 57, 2) := dk_16 57 (dk_at dksX5_isDigit_0 7 rfl rfl)
theorem dX5_isDigit_9 : decode cX5_isDigit 9 = .ok (.if_icmp .gt 7, 3) := dk_163 0 7 (dk_at dksX5_isDigit_0 9 rfl rfl)
theorem dX5_isDigit_12 : decode cX5_isDigit 12 = .ok (.iconst 1, 1) := dk_4 (dk_at dksX5_isDigit_0 12 rfl rfl)
theorem dX5_isDigit_13 : decode cX5_isDigit 13 = .ok (.goto 4, 3) := dk_167 0 4 (dk_at dksX5_isDigit_0 13 rfl rfl)
theorem dX5_isDigit_16 : decode cX5_isDigit 16 = .ok (.iconst 0, 1) := dk_3 (dk_at dksX5_isDigit_0 16 rfl rfl)
theorem dX5_isDigit_17 : decode cX5_isDigit 17 = .ok (.ireturn, 1) := dk_172 (dk_at dksX5_isDigit_0 17 rfl rfl)
abbrev cX5_readValley : ByteArray := prog_15_method_29_code
def yX5_readValley : MethodName := ⟨RX5, "readValley", "()V"⟩
def dkwX5_readValley_2 : List UInt8 := [180, 0, 218, 153, 0, 13, 42, 180, 0, 173, 180, 0, 221, 154, 0, 9, 42, 16, 6, 182, 0, 131, 177]
abbrev dktX5_readValley_2 : List UInt8 := dkwX5_readValley_2 ++ []
def dkwX5_readValley_1 : List UInt8 := [4, 159, 0, 8, 42, 4, 182, 0, 131, 42, 180, 0, 173, 180, 0, 214, 153, 0, 23, 42, 180, 0, 173]
abbrev dktX5_readValley_1 : List UInt8 := dkwX5_readValley_1 ++ dktX5_readValley_2
def dkwX5_readValley_0 : List UInt8 := [4, 60, 27, 153, 0, 17, 42, 182, 0, 208, 42, 16, 59, 182, 0, 211, 60, 167, 255, 241, 42, 180, 0, 85]
abbrev dktX5_readValley_0 : List UInt8 := dkwX5_readValley_0 ++ dktX5_readValley_1
theorem dksX5_readValley_0 : cX5_readValley.data.toList.drop 0 = dktX5_readValley_0 := by decide +kernel
theorem dksX5_readValley_1 : cX5_readValley.data.toList.drop 24 = dktX5_readValley_1 := dk_seg dksX5_readValley_0 24 rfl rfl
theorem dksX5_readValley_2 : cX5_readValley.data.toList.drop 47 = dktX5_readValley_2 := dk_seg dksX5_readValley_1 23 rfl rfl
theorem dX5_readValley_0 : decode cX5_readValley 0 = .ok (.iconst 1, 1) := dk_4 (dk_at dksX5_readValley_0 0 rfl rfl)
theorem dX5_readValley_1 : decode cX5_readValley 1 = .ok (.istore_n 1, 1) := dk_60 (dk_at dksX5_readValley_0 1 rfl rfl)
theorem dX5_readValley_2 : decode cX5_readValley 2 = .ok (.iload_n 1, 1) := dk_27 (dk_at dksX5_readValley_0 2 rfl rfl)
theorem dX5_readValley_3 : decode cX5_readValley 3 = .ok (.ifCond .eq 17, 3) := dk_153 0 17 (dk_at dksX5_readValley_0 3 rfl rfl)
theorem dX5_readValley_6 : decode cX5_readValley 6 = .ok (.aload_n 0, 1) := dk_42 (dk_at dksX5_readValley_0 6 rfl rfl)
theorem dX5_readValley_7 : decode cX5_readValley 7 = .ok (.invokevirtual 208, 3) := dk_182 0 208 (dk_at dksX5_readValley_0 7 rfl rfl)
theorem dX5_readValley_10 : decode cX5_readValley 10 = .ok (.aload_n 0, 1) := dk_42 (dk_at dksX5_readValley_0 10 rfl rfl)
theorem dX5_readValley_11 : decode cX5_readValley 11 = .ok (.bipush 59, 2) := dk_16 59 (dk_at dksX5_readValley_0 11 rfl rfl)
theorem dX5_readValley_13 : decode cX5_readValley 13 = .ok (.invokevirtual 211, 3) := dk_182 0 211 (dk_at dksX5_readValley_0 13 rfl rfl)
theorem dX5_readValley_16 : decode cX5_readValley 16 = .ok (.istore_n 1, 1) := dk_60 (dk_at dksX5_readValley_0 16 rfl rfl)
theorem dX5_readValley_17 : decode cX5_readValley 17 = .ok (.goto (-15), 3) := dk_167 255 241 (dk_at dksX5_readValley_0 17 rfl rfl)
theorem dX5_readValley_20 : decode cX5_readValley 20 = .ok (.aload_n 0, 1) := dk_42 (dk_at dksX5_readValley_0 20 rfl rfl)
theorem dX5_readValley_21 : decode cX5_readValley 21 = .ok (.getfield 85, 3) := dk_180 0 85 (dk_at dksX5_readValley_0 21 rfl rfl)
theorem dX5_readValley_24 : decode cX5_readValley 24 = .ok (.iconst 1, 1) := dk_4 (dk_at dksX5_readValley_1 0 rfl rfl)
theorem dX5_readValley_25 : decode cX5_readValley 25 = .ok (.if_icmp .eq 8, 3) := dk_159 0 8 (dk_at dksX5_readValley_1 1 rfl rfl)
theorem dX5_readValley_28 : decode cX5_readValley 28 = .ok (.aload_n 0, 1) := dk_42 (dk_at dksX5_readValley_1 4 rfl rfl)
theorem dX5_readValley_29 : decode cX5_readValley 29 = .ok (.iconst 1, 1) := dk_4 (dk_at dksX5_readValley_1 5 rfl rfl)
theorem dX5_readValley_30 : decode cX5_readValley 30 = .ok (.invokevirtual 131, 3) := dk_182 0 131 (dk_at dksX5_readValley_1 6 rfl rfl)
theorem dX5_readValley_33 : decode cX5_readValley 33 = .ok (.aload_n 0, 1) := dk_42 (dk_at dksX5_readValley_1 9 rfl rfl)
theorem dX5_readValley_34 : decode cX5_readValley 34 = .ok (.getfield 173, 3) := dk_180 0 173 (dk_at dksX5_readValley_1 10 rfl rfl)
theorem dX5_readValley_37 : decode cX5_readValley 37 = .ok (.getfield 214, 3) := dk_180 0 214 (dk_at dksX5_readValley_1 13 rfl rfl)
theorem dX5_readValley_40 : decode cX5_readValley 40 = .ok (.ifCond .eq 23, 3) := dk_153 0 23 (dk_at dksX5_readValley_1 16 rfl rfl)
theorem dX5_readValley_43 : decode cX5_readValley 43 = .ok (.aload_n 0, 1) := dk_42 (dk_at dksX5_readValley_1 19 rfl rfl)
theorem dX5_readValley_44 : decode cX5_readValley 44 = .ok (.getfield 173, 3) := dk_180 0 173 (dk_at dksX5_readValley_1 20 rfl rfl)
theorem dX5_readValley_47 : decode cX5_readValley 47 = .ok (.getfield 218, 3) := dk_180 0 218 (dk_at dksX5_readValley_2 0 rfl rfl)
theorem dX5_readValley_50 : decode cX5_readValley 50 = .ok (.ifCond .eq 13, 3) := dk_153 0 13 (dk_at dksX5_readValley_2 3 rfl rfl)
theorem dX5_readValley_53 : decode cX5_readValley 53 = .ok (.aload_n 0, 1) := dk_42 (dk_at dksX5_readValley_2 6 rfl rfl)
theorem dX5_readValley_54 : decode cX5_readValley 54 = .ok (.getfield 173, 3) := dk_180 0 173 (dk_at dksX5_readValley_2 7 rfl rfl)
theorem dX5_readValley_57 : decode cX5_readValley 57 = .ok (.getfield 221, 3) := dk_180 0 221 (dk_at dksX5_readValley_2 10 rfl rfl)
theorem dX5_readValley_60 : decode cX5_readValley 60 = .ok (.ifCond .ne 9, 3) := dk_154 0 9 (dk_at dksX5_readValley_2 13 rfl rfl)
theorem dX5_readValley_63 : decode cX5_readValley 63 = .ok (.aload_n 0, 1) := dk_42 (dk_at dksX5_readValley_2 16 rfl rfl)
theorem dX5_readValley_64 : decode cX5_readValley 64 = .ok (.bipush 6, 2) := dk_16 6 (dk_at dksX5_readValley_2 17 rfl rfl)
theorem dX5_readValley_66 : decode cX5_readValley 66 = .ok (.invokevirtual 131, 3) := dk_182 0 131 (dk_at dksX5_readValley_2 19 rfl rfl)
theorem dX5_readValley_69 : decode cX5_readValley 69 = .ok (.return_, 1) := dk_177 (dk_at dksX5_readValley_2 22 rfl rfl)
abbrev cX5_readLine : ByteArray := prog_15_method_30_code
def yX5_readLine : MethodName := ⟨RX5, "readLine", "()V"⟩
def dkwX5_readLine_6 : List UInt8 := [42, 182, 0, 248, 167, 0, 8, 42, 4, 182, 0, 131, 177]
abbrev dktX5_readLine_6 : List UInt8 := dkwX5_readLine_6 ++ []
def dkwX5_readLine_5 : List UInt8 := [18, 165, 182, 0, 124, 153, 0, 10, 42, 182, 0, 245, 167, 0, 24, 42, 18, 167, 182, 0, 124, 153, 0, 10]
abbrev dktX5_readLine_5 : List UInt8 := dkwX5_readLine_5 ++ dktX5_readLine_6
def dkwX5_readLine_4 : List UInt8 := [182, 0, 239, 167, 0, 56, 42, 18, 163, 182, 0, 124, 153, 0, 10, 42, 182, 0, 242, 167, 0, 40, 42]
abbrev dktX5_readLine_4 : List UInt8 := dkwX5_readLine_4 ++ dktX5_readLine_5
def dkwX5_readLine_3 : List UInt8 := [182, 0, 124, 153, 0, 10, 42, 182, 0, 236, 167, 0, 72, 42, 18, 155, 182, 0, 124, 153, 0, 10, 42]
abbrev dktX5_readLine_3 : List UInt8 := dkwX5_readLine_3 ++ dktX5_readLine_4
def dkwX5_readLine_2 : List UInt8 := [167, 0, 104, 42, 18, 151, 182, 0, 124, 153, 0, 10, 42, 182, 0, 233, 167, 0, 88, 42, 18, 153]
abbrev dktX5_readLine_2 : List UInt8 := dkwX5_readLine_2 ++ dktX5_readLine_3
def dkwX5_readLine_1 : List UInt8 := [153, 0, 10, 42, 182, 0, 227, 167, 0, 120, 42, 18, 149, 182, 0, 124, 153, 0, 10, 42, 182, 0, 230]
abbrev dktX5_readLine_1 : List UInt8 := dkwX5_readLine_1 ++ dktX5_readLine_2
def dkwX5_readLine_0 : List UInt8 := [42, 18, 146, 182, 0, 124, 153, 0, 10, 42, 182, 0, 224, 167, 0, 136, 42, 18, 148, 182, 0, 124]
abbrev dktX5_readLine_0 : List UInt8 := dkwX5_readLine_0 ++ dktX5_readLine_1
theorem dksX5_readLine_0 : cX5_readLine.data.toList.drop 0 = dktX5_readLine_0 := by decide +kernel
theorem dksX5_readLine_1 : cX5_readLine.data.toList.drop 22 = dktX5_readLine_1 := dk_seg dksX5_readLine_0 22 rfl rfl
theorem dksX5_readLine_2 : cX5_readLine.data.toList.drop 45 = dktX5_readLine_2 := dk_seg dksX5_readLine_1 23 rfl rfl
theorem dksX5_readLine_3 : cX5_readLine.data.toList.drop 67 = dktX5_readLine_3 := dk_seg dksX5_readLine_2 22 rfl rfl
theorem dksX5_readLine_4 : cX5_readLine.data.toList.drop 90 = dktX5_readLine_4 := dk_seg dksX5_readLine_3 23 rfl rfl
theorem dksX5_readLine_5 : cX5_readLine.data.toList.drop 113 = dktX5_readLine_5 := dk_seg dksX5_readLine_4 23 rfl rfl
theorem dksX5_readLine_6 : cX5_readLine.data.toList.drop 137 = dktX5_readLine_6 := dk_seg dksX5_readLine_5 24 rfl rfl
theorem dX5_readLine_0 : decode cX5_readLine 0 = .ok (.aload_n 0, 1) := dk_42 (dk_at dksX5_readLine_0 0 rfl rfl)
theorem dX5_readLine_1 : decode cX5_readLine 1 = .ok (.ldc 146, 2) := dk_18 146 (dk_at dksX5_readLine_0 1 rfl rfl)
theorem dX5_readLine_3 : decode cX5_readLine 3 = .ok (.invokevirtual 124, 3) := dk_182 0 124 (dk_at dksX5_readLine_0 3 rfl rfl)
theorem dX5_readLine_6 : decode cX5_readLine 6 = .ok (.ifCond .eq 10, 3) := dk_153 0 10 (dk_at dksX5_readLine_0 6 rfl rfl)
theorem dX5_readLine_9 : decode cX5_readLine 9 = .ok (.aload_n 0, 1) := dk_42 (dk_at dksX5_readLine_0 9 rfl rfl)
theorem dX5_readLine_10 : decode cX5_readLine 10 = .ok (.invokevirtual 224, 3) := dk_182 0 224 (dk_at dksX5_readLine_0 10 rfl rfl)
theorem dX5_readLine_13 : decode cX5_readLine 13 = .ok (.goto 136, 3) := dk_167 0 136 (dk_at dksX5_readLine_0 13 rfl rfl)
theorem dX5_readLine_16 : decode cX5_readLine 16 = .ok (.aload_n 0, 1) := dk_42 (dk_at dksX5_readLine_0 16 rfl rfl)
theorem dX5_readLine_17 : decode cX5_readLine 17 = .ok (.ldc 148, 2) := dk_18 148 (dk_at dksX5_readLine_0 17 rfl rfl)
theorem dX5_readLine_19 : decode cX5_readLine 19 = .ok (.invokevirtual 124, 3) := dk_182 0 124 (dk_at dksX5_readLine_0 19 rfl rfl)
theorem dX5_readLine_22 : decode cX5_readLine 22 = .ok (.ifCond .eq 10, 3) := dk_153 0 10 (dk_at dksX5_readLine_1 0 rfl rfl)
theorem dX5_readLine_25 : decode cX5_readLine 25 = .ok (.aload_n 0, 1) := dk_42 (dk_at dksX5_readLine_1 3 rfl rfl)
theorem dX5_readLine_26 : decode cX5_readLine 26 = .ok (.invokevirtual 227, 3) := dk_182 0 227 (dk_at dksX5_readLine_1 4 rfl rfl)
theorem dX5_readLine_29 : decode cX5_readLine 29 = .ok (.goto 120, 3) := dk_167 0 120 (dk_at dksX5_readLine_1 7 rfl rfl)
theorem dX5_readLine_32 : decode cX5_readLine 32 = .ok (.aload_n 0, 1) := dk_42 (dk_at dksX5_readLine_1 10 rfl rfl)
theorem dX5_readLine_33 : decode cX5_readLine 33 = .ok (.ldc 149, 2) := dk_18 149 (dk_at dksX5_readLine_1 11 rfl rfl)
theorem dX5_readLine_35 : decode cX5_readLine 35 = .ok (.invokevirtual 124, 3) := dk_182 0 124 (dk_at dksX5_readLine_1 13 rfl rfl)
theorem dX5_readLine_38 : decode cX5_readLine 38 = .ok (.ifCond .eq 10, 3) := dk_153 0 10 (dk_at dksX5_readLine_1 16 rfl rfl)
theorem dX5_readLine_41 : decode cX5_readLine 41 = .ok (.aload_n 0, 1) := dk_42 (dk_at dksX5_readLine_1 19 rfl rfl)
theorem dX5_readLine_42 : decode cX5_readLine 42 = .ok (.invokevirtual 230, 3) := dk_182 0 230 (dk_at dksX5_readLine_1 20 rfl rfl)
theorem dX5_readLine_45 : decode cX5_readLine 45 = .ok (.goto 104, 3) := dk_167 0 104 (dk_at dksX5_readLine_2 0 rfl rfl)
theorem dX5_readLine_48 : decode cX5_readLine 48 = .ok (.aload_n 0, 1) := dk_42 (dk_at dksX5_readLine_2 3 rfl rfl)
theorem dX5_readLine_49 : decode cX5_readLine 49 = .ok (.ldc 151, 2) := dk_18 151 (dk_at dksX5_readLine_2 4 rfl rfl)
theorem dX5_readLine_51 : decode cX5_readLine 51 = .ok (.invokevirtual 124, 3) := dk_182 0 124 (dk_at dksX5_readLine_2 6 rfl rfl)
theorem dX5_readLine_54 : decode cX5_readLine 54 = .ok (.ifCond .eq 10, 3) := dk_153 0 10 (dk_at dksX5_readLine_2 9 rfl rfl)
theorem dX5_readLine_57 : decode cX5_readLine 57 = .ok (.aload_n 0, 1) := dk_42 (dk_at dksX5_readLine_2 12 rfl rfl)
theorem dX5_readLine_58 : decode cX5_readLine 58 = .ok (.invokevirtual 233, 3) := dk_182 0 233 (dk_at dksX5_readLine_2 13 rfl rfl)
theorem dX5_readLine_61 : decode cX5_readLine 61 = .ok (.goto 88, 3) := dk_167 0 88 (dk_at dksX5_readLine_2 16 rfl rfl)
theorem dX5_readLine_64 : decode cX5_readLine 64 = .ok (.aload_n 0, 1) := dk_42 (dk_at dksX5_readLine_2 19 rfl rfl)
theorem dX5_readLine_65 : decode cX5_readLine 65 = .ok (.ldc 153, 2) := dk_18 153 (dk_at dksX5_readLine_2 20 rfl rfl)
theorem dX5_readLine_67 : decode cX5_readLine 67 = .ok (.invokevirtual 124, 3) := dk_182 0 124 (dk_at dksX5_readLine_3 0 rfl rfl)
theorem dX5_readLine_70 : decode cX5_readLine 70 = .ok (.ifCond .eq 10, 3) := dk_153 0 10 (dk_at dksX5_readLine_3 3 rfl rfl)
theorem dX5_readLine_73 : decode cX5_readLine 73 = .ok (.aload_n 0, 1) := dk_42 (dk_at dksX5_readLine_3 6 rfl rfl)
theorem dX5_readLine_74 : decode cX5_readLine 74 = .ok (.invokevirtual 236, 3) := dk_182 0 236 (dk_at dksX5_readLine_3 7 rfl rfl)
theorem dX5_readLine_77 : decode cX5_readLine 77 = .ok (.goto 72, 3) := dk_167 0 72 (dk_at dksX5_readLine_3 10 rfl rfl)
theorem dX5_readLine_80 : decode cX5_readLine 80 = .ok (.aload_n 0, 1) := dk_42 (dk_at dksX5_readLine_3 13 rfl rfl)
theorem dX5_readLine_81 : decode cX5_readLine 81 = .ok (.ldc 155, 2) := dk_18 155 (dk_at dksX5_readLine_3 14 rfl rfl)
theorem dX5_readLine_83 : decode cX5_readLine 83 = .ok (.invokevirtual 124, 3) := dk_182 0 124 (dk_at dksX5_readLine_3 16 rfl rfl)
theorem dX5_readLine_86 : decode cX5_readLine 86 = .ok (.ifCond .eq 10, 3) := dk_153 0 10 (dk_at dksX5_readLine_3 19 rfl rfl)
theorem dX5_readLine_89 : decode cX5_readLine 89 = .ok (.aload_n 0, 1) := dk_42 (dk_at dksX5_readLine_3 22 rfl rfl)
theorem dX5_readLine_90 : decode cX5_readLine 90 = .ok (.invokevirtual 239, 3) := dk_182 0 239 (dk_at dksX5_readLine_4 0 rfl rfl)
theorem dX5_readLine_93 : decode cX5_readLine 93 = .ok (.goto 56, 3) := dk_167 0 56 (dk_at dksX5_readLine_4 3 rfl rfl)
theorem dX5_readLine_96 : decode cX5_readLine 96 = .ok (.aload_n 0, 1) := dk_42 (dk_at dksX5_readLine_4 6 rfl rfl)
theorem dX5_readLine_97 : decode cX5_readLine 97 = .ok (.ldc 163, 2) := dk_18 163 (dk_at dksX5_readLine_4 7 rfl rfl)
theorem dX5_readLine_99 : decode cX5_readLine 99 = .ok (.invokevirtual 124, 3) := dk_182 0 124 (dk_at dksX5_readLine_4 9 rfl rfl)
theorem dX5_readLine_102 : decode cX5_readLine 102 = .ok (.ifCond .eq 10, 3) := dk_153 0 10 (dk_at dksX5_readLine_4 12 rfl rfl)
theorem dX5_readLine_105 : decode cX5_readLine 105 = .ok (.aload_n 0, 1) := dk_42 (dk_at dksX5_readLine_4 15 rfl rfl)
theorem dX5_readLine_106 : decode cX5_readLine 106 = .ok (.invokevirtual 242, 3) := dk_182 0 242 (dk_at dksX5_readLine_4 16 rfl rfl)
theorem dX5_readLine_109 : decode cX5_readLine 109 = .ok (.goto 40, 3) := dk_167 0 40 (dk_at dksX5_readLine_4 19 rfl rfl)
theorem dX5_readLine_112 : decode cX5_readLine 112 = .ok (.aload_n 0, 1) := dk_42 (dk_at dksX5_readLine_4 22 rfl rfl)
theorem dX5_readLine_113 : decode cX5_readLine 113 = .ok (.ldc 165, 2) := dk_18 165 (dk_at dksX5_readLine_5 0 rfl rfl)
theorem dX5_readLine_115 : decode cX5_readLine 115 = .ok (.invokevirtual 124, 3) := dk_182 0 124 (dk_at dksX5_readLine_5 2 rfl rfl)
theorem dX5_readLine_118 : decode cX5_readLine 118 = .ok (.ifCond .eq 10, 3) := dk_153 0 10 (dk_at dksX5_readLine_5 5 rfl rfl)
theorem dX5_readLine_121 : decode cX5_readLine 121 = .ok (.aload_n 0, 1) := dk_42 (dk_at dksX5_readLine_5 8 rfl rfl)
theorem dX5_readLine_122 : decode cX5_readLine 122 = .ok (.invokevirtual 245, 3) := dk_182 0 245 (dk_at dksX5_readLine_5 9 rfl rfl)
theorem dX5_readLine_125 : decode cX5_readLine 125 = .ok (.goto 24, 3) := dk_167 0 24 (dk_at dksX5_readLine_5 12 rfl rfl)
theorem dX5_readLine_128 : decode cX5_readLine 128 = .ok (.aload_n 0, 1) := dk_42 (dk_at dksX5_readLine_5 15 rfl rfl)
theorem dX5_readLine_129 : decode cX5_readLine 129 = .ok (.ldc 167, 2) := dk_18 167 (dk_at dksX5_readLine_5 16 rfl rfl)
theorem dX5_readLine_131 : decode cX5_readLine 131 = .ok (.invokevirtual 124, 3) := dk_182 0 124 (dk_at dksX5_readLine_5 18 rfl rfl)
theorem dX5_readLine_134 : decode cX5_readLine 134 = .ok (.ifCond .eq 10, 3) := dk_153 0 10 (dk_at dksX5_readLine_5 21 rfl rfl)
theorem dX5_readLine_137 : decode cX5_readLine 137 = .ok (.aload_n 0, 1) := dk_42 (dk_at dksX5_readLine_6 0 rfl rfl)
theorem dX5_readLine_138 : decode cX5_readLine 138 = .ok (.invokevirtual 248, 3) := dk_182 0 248 (dk_at dksX5_readLine_6 1 rfl rfl)
theorem dX5_readLine_141 : decode cX5_readLine 141 = .ok (.goto 8, 3) := dk_167 0 8 (dk_at dksX5_readLine_6 4 rfl rfl)
theorem dX5_readLine_144 : decode cX5_readLine 144 = .ok (.aload_n 0, 1) := dk_42 (dk_at dksX5_readLine_6 7 rfl rfl)
theorem dX5_readLine_145 : decode cX5_readLine 145 = .ok (.iconst 1, 1) := dk_4 (dk_at dksX5_readLine_6 8 rfl rfl)
theorem dX5_readLine_146 : decode cX5_readLine 146 = .ok (.invokevirtual 131, 3) := dk_182 0 131 (dk_at dksX5_readLine_6 9 rfl rfl)
theorem dX5_readLine_149 : decode cX5_readLine 149 = .ok (.return_, 1) := dk_177 (dk_at dksX5_readLine_6 12 rfl rfl)
abbrev cX5_isWord : ByteArray := prog_15_method_16_code
def yX5_isWord : MethodName := ⟨RX5, "isWord", "(Ljava/lang/String;)Z"⟩
def dkwX5_isWord_1 : List UInt8 := [3, 172]
abbrev dktX5_isWord_1 : List UInt8 := dkwX5_isWord_1 ++ []
def dkwX5_isWord_0 : List UInt8 := [42, 180, 0, 85, 5, 160, 0, 19, 42, 180, 0, 104, 43, 184, 0, 120, 148, 154, 0, 7, 4, 167, 0, 4]
abbrev dktX5_isWord_0 : List UInt8 := dkwX5_isWord_0 ++ dktX5_isWord_1
theorem dksX5_isWord_0 : cX5_isWord.data.toList.drop 0 = dktX5_isWord_0 := by decide +kernel
theorem dksX5_isWord_1 : cX5_isWord.data.toList.drop 24 = dktX5_isWord_1 := dk_seg dksX5_isWord_0 24 rfl rfl
theorem dX5_isWord_0 : decode cX5_isWord 0 = .ok (.aload_n 0, 1) := dk_42 (dk_at dksX5_isWord_0 0 rfl rfl)
theorem dX5_isWord_1 : decode cX5_isWord 1 = .ok (.getfield 85, 3) := dk_180 0 85 (dk_at dksX5_isWord_0 1 rfl rfl)
theorem dX5_isWord_4 : decode cX5_isWord 4 = .ok (.iconst 2, 1) := dk_5 (dk_at dksX5_isWord_0 4 rfl rfl)
theorem dX5_isWord_5 : decode cX5_isWord 5 = .ok (.if_icmp .ne 19, 3) := dk_160 0 19 (dk_at dksX5_isWord_0 5 rfl rfl)
theorem dX5_isWord_8 : decode cX5_isWord 8 = .ok (.aload_n 0, 1) := dk_42 (dk_at dksX5_isWord_0 8 rfl rfl)
theorem dX5_isWord_9 : decode cX5_isWord 9 = .ok (.getfield 104, 3) := dk_180 0 104 (dk_at dksX5_isWord_0 9 rfl rfl)
theorem dX5_isWord_12 : decode cX5_isWord 12 = .ok (.aload_n 1, 1) := dk_43 (dk_at dksX5_isWord_0 12 rfl rfl)
theorem dX5_isWord_13 : decode cX5_isWord 13 = .ok (.invokestatic 120, 3) := dk_184 0 120 (dk_at dksX5_isWord_0 13 rfl rfl)
theorem dX5_isWord_16 : decode cX5_isWord 16 = .ok (.lcmp, 1) := dk_148 (dk_at dksX5_isWord_0 16 rfl rfl)
theorem dX5_isWord_17 : decode cX5_isWord 17 = .ok (.ifCond .ne 7, 3) := dk_154 0 7 (dk_at dksX5_isWord_0 17 rfl rfl)
theorem dX5_isWord_20 : decode cX5_isWord 20 = .ok (.iconst 1, 1) := dk_4 (dk_at dksX5_isWord_0 20 rfl rfl)
theorem dX5_isWord_21 : decode cX5_isWord 21 = .ok (.goto 4, 3) := dk_167 0 4 (dk_at dksX5_isWord_0 21 rfl rfl)
theorem dX5_isWord_24 : decode cX5_isWord 24 = .ok (.iconst 0, 1) := dk_3 (dk_at dksX5_isWord_1 0 rfl rfl)
theorem dX5_isWord_25 : decode cX5_isWord 25 = .ok (.ireturn, 1) := dk_172 (dk_at dksX5_isWord_1 1 rfl rfl)
abbrev cX5_wordOf : ByteArray := prog_15_method_13_code
def yX5_wordOf : MethodName := ⟨RX5, "wordOf", "(Ljava/lang/String;)J"⟩
def dkwX5_wordOf_1 : List UInt8 := [100, 4, 96, 133, 97, 64, 132, 3, 1, 167, 255, 227, 31, 173]
abbrev dktX5_wordOf_1 : List UInt8 := dkwX5_wordOf_1 ++ []
def dkwX5_wordOf_0 : List UInt8 := [9, 64, 3, 62, 29, 42, 182, 0, 73, 162, 0, 27, 20, 0, 79, 31, 105, 42, 29, 182, 0, 81, 16, 97]
abbrev dktX5_wordOf_0 : List UInt8 := dkwX5_wordOf_0 ++ dktX5_wordOf_1
theorem dksX5_wordOf_0 : cX5_wordOf.data.toList.drop 0 = dktX5_wordOf_0 := by decide +kernel
theorem dksX5_wordOf_1 : cX5_wordOf.data.toList.drop 24 = dktX5_wordOf_1 := dk_seg dksX5_wordOf_0 24 rfl rfl
theorem dX5_wordOf_0 : decode cX5_wordOf 0 = .ok (.lconst 0, 1) := dk_9 (dk_at dksX5_wordOf_0 0 rfl rfl)
theorem dX5_wordOf_1 : decode cX5_wordOf 1 = .ok (.lstore_n 1, 1) := dk_64 (dk_at dksX5_wordOf_0 1 rfl rfl)
theorem dX5_wordOf_2 : decode cX5_wordOf 2 = .ok (.iconst 0, 1) := dk_3 (dk_at dksX5_wordOf_0 2 rfl rfl)
theorem dX5_wordOf_3 : decode cX5_wordOf 3 = .ok (.istore_n 3, 1) := dk_62 (dk_at dksX5_wordOf_0 3 rfl rfl)
theorem dX5_wordOf_4 : decode cX5_wordOf 4 = .ok (.iload_n 3, 1) := dk_29 (dk_at dksX5_wordOf_0 4 rfl rfl)
theorem dX5_wordOf_5 : decode cX5_wordOf 5 = .ok (.aload_n 0, 1) := dk_42 (dk_at dksX5_wordOf_0 5 rfl rfl)
theorem dX5_wordOf_6 : decode cX5_wordOf 6 = .ok (.invokevirtual 73, 3) := dk_182 0 73 (dk_at dksX5_wordOf_0 6 rfl rfl)
theorem dX5_wordOf_9 : decode cX5_wordOf 9 = .ok (.if_icmp .ge 27, 3) := dk_162 0 27 (dk_at dksX5_wordOf_0 9 rfl rfl)
theorem dX5_wordOf_12 : decode cX5_wordOf 12 = .ok (.ldc2_w 79, 3) := dk_20 0 79 (dk_at dksX5_wordOf_0 12 rfl rfl)
theorem dX5_wordOf_15 : decode cX5_wordOf 15 = .ok (.lload_n 1, 1) := dk_31 (dk_at dksX5_wordOf_0 15 rfl rfl)
theorem dX5_wordOf_16 : decode cX5_wordOf 16 = .ok (.lmul, 1) := dk_105 (dk_at dksX5_wordOf_0 16 rfl rfl)
theorem dX5_wordOf_17 : decode cX5_wordOf 17 = .ok (.aload_n 0, 1) := dk_42 (dk_at dksX5_wordOf_0 17 rfl rfl)
theorem dX5_wordOf_18 : decode cX5_wordOf 18 = .ok (.iload_n 3, 1) := dk_29 (dk_at dksX5_wordOf_0 18 rfl rfl)
theorem dX5_wordOf_19 : decode cX5_wordOf 19 = .ok (.invokevirtual 81, 3) := dk_182 0 81 (dk_at dksX5_wordOf_0 19 rfl rfl)
theorem dX5_wordOf_22 : decode cX5_wordOf 22 = .ok (.bipush 97, 2) := dk_16 97 (dk_at dksX5_wordOf_0 22 rfl rfl)
theorem dX5_wordOf_24 : decode cX5_wordOf 24 = .ok (.isub, 1) := dk_100 (dk_at dksX5_wordOf_1 0 rfl rfl)
theorem dX5_wordOf_25 : decode cX5_wordOf 25 = .ok (.iconst 1, 1) := dk_4 (dk_at dksX5_wordOf_1 1 rfl rfl)
theorem dX5_wordOf_26 : decode cX5_wordOf 26 = .ok (.iadd, 1) := dk_96 (dk_at dksX5_wordOf_1 2 rfl rfl)
theorem dX5_wordOf_27 : decode cX5_wordOf 27 = .ok (.i2l, 1) := dk_133 (dk_at dksX5_wordOf_1 3 rfl rfl)
theorem dX5_wordOf_28 : decode cX5_wordOf 28 = .ok (.ladd, 1) := dk_97 (dk_at dksX5_wordOf_1 4 rfl rfl)
theorem dX5_wordOf_29 : decode cX5_wordOf 29 = .ok (.lstore_n 1, 1) := dk_64 (dk_at dksX5_wordOf_1 5 rfl rfl)
theorem dX5_wordOf_30 : decode cX5_wordOf 30 = .ok (.iinc 3 1, 3) := dk_132 3 1 (dk_at dksX5_wordOf_1 6 rfl rfl)
theorem dX5_wordOf_33 : decode cX5_wordOf 33 = .ok (.goto (-29), 3) := dk_167 255 227 (dk_at dksX5_wordOf_1 9 rfl rfl)
theorem dX5_wordOf_36 : decode cX5_wordOf 36 = .ok (.lload_n 1, 1) := dk_31 (dk_at dksX5_wordOf_1 12 rfl rfl)
theorem dX5_wordOf_37 : decode cX5_wordOf 37 = .ok (.lreturn, 1) := dk_173 (dk_at dksX5_wordOf_1 13 rfl rfl)
abbrev cX5_readLaw : ByteArray := prog_15_method_31_code
def yX5_readLaw : MethodName := ⟨RX5, "readLaw", "()V"⟩
def dkwX5_readLaw_5 : List UInt8 := [42, 180, 0, 173, 4, 181, 0, 214, 177]
abbrev dktX5_readLaw_5 : List UInt8 := dkwX5_readLaw_5 ++ []
def dkwX5_readLaw_4 : List UInt8 := [180, 0, 173, 42, 19, 1, 15, 4, 16, 99, 182, 0, 253, 181, 1, 17, 42, 180, 0, 85, 8, 159, 0, 11]
abbrev dktX5_readLaw_4 : List UInt8 := dkwX5_readLaw_4 ++ dktX5_readLaw_5
def dkwX5_readLaw_3 : List UInt8 := [180, 0, 173, 42, 19, 1, 11, 42, 180, 0, 173, 180, 1, 9, 16, 99, 182, 0, 253, 181, 1, 13, 42]
abbrev dktX5_readLaw_3 : List UInt8 := dkwX5_readLaw_3 ++ dktX5_readLaw_4
def dkwX5_readLaw_2 : List UInt8 := [182, 0, 253, 181, 1, 5, 42, 180, 0, 173, 42, 19, 1, 7, 3, 16, 99, 182, 0, 253, 181, 1, 9, 42]
abbrev dktX5_readLaw_2 : List UInt8 := dkwX5_readLaw_2 ++ dktX5_readLaw_3
def dkwX5_readLaw_1 : List UInt8 := [18, 251, 3, 16, 19, 182, 0, 253, 181, 1, 1, 42, 180, 0, 173, 42, 19, 1, 3, 3, 16, 19]
abbrev dktX5_readLaw_1 : List UInt8 := dkwX5_readLaw_1 ++ dktX5_readLaw_2
def dkwX5_readLaw_0 : List UInt8 := [42, 180, 0, 173, 180, 0, 214, 153, 0, 8, 42, 6, 182, 0, 131, 42, 182, 0, 128, 42, 180, 0, 173, 42]
abbrev dktX5_readLaw_0 : List UInt8 := dkwX5_readLaw_0 ++ dktX5_readLaw_1
theorem dksX5_readLaw_0 : cX5_readLaw.data.toList.drop 0 = dktX5_readLaw_0 := by decide +kernel
theorem dksX5_readLaw_1 : cX5_readLaw.data.toList.drop 24 = dktX5_readLaw_1 := dk_seg dksX5_readLaw_0 24 rfl rfl
theorem dksX5_readLaw_2 : cX5_readLaw.data.toList.drop 46 = dktX5_readLaw_2 := dk_seg dksX5_readLaw_1 22 rfl rfl
theorem dksX5_readLaw_3 : cX5_readLaw.data.toList.drop 70 = dktX5_readLaw_3 := dk_seg dksX5_readLaw_2 24 rfl rfl
theorem dksX5_readLaw_4 : cX5_readLaw.data.toList.drop 93 = dktX5_readLaw_4 := dk_seg dksX5_readLaw_3 23 rfl rfl
theorem dksX5_readLaw_5 : cX5_readLaw.data.toList.drop 117 = dktX5_readLaw_5 := dk_seg dksX5_readLaw_4 24 rfl rfl
theorem dX5_readLaw_0 : decode cX5_readLaw 0 = .ok (.aload_n 0, 1) := dk_42 (dk_at dksX5_readLaw_0 0 rfl rfl)
theorem dX5_readLaw_1 : decode cX5_readLaw 1 = .ok (.getfield 173, 3) := dk_180 0 173 (dk_at dksX5_readLaw_0 1 rfl rfl)
theorem dX5_readLaw_4 : decode cX5_readLaw 4 = .ok (.getfield 214, 3) := dk_180 0 214 (dk_at dksX5_readLaw_0 4 rfl rfl)
theorem dX5_readLaw_7 : decode cX5_readLaw 7 = .ok (.ifCond .eq 8, 3) := dk_153 0 8 (dk_at dksX5_readLaw_0 7 rfl rfl)
theorem dX5_readLaw_10 : decode cX5_readLaw 10 = .ok (.aload_n 0, 1) := dk_42 (dk_at dksX5_readLaw_0 10 rfl rfl)
theorem dX5_readLaw_11 : decode cX5_readLaw 11 = .ok (.iconst 3, 1) := dk_6 (dk_at dksX5_readLaw_0 11 rfl rfl)
theorem dX5_readLaw_12 : decode cX5_readLaw 12 = .ok (.invokevirtual 131, 3) := dk_182 0 131 (dk_at dksX5_readLaw_0 12 rfl rfl)
theorem dX5_readLaw_15 : decode cX5_readLaw 15 = .ok (.aload_n 0, 1) := dk_42 (dk_at dksX5_readLaw_0 15 rfl rfl)
theorem dX5_readLaw_16 : decode cX5_readLaw 16 = .ok (.invokevirtual 128, 3) := dk_182 0 128 (dk_at dksX5_readLaw_0 16 rfl rfl)
theorem dX5_readLaw_19 : decode cX5_readLaw 19 = .ok (.aload_n 0, 1) := dk_42 (dk_at dksX5_readLaw_0 19 rfl rfl)
theorem dX5_readLaw_20 : decode cX5_readLaw 20 = .ok (.getfield 173, 3) := dk_180 0 173 (dk_at dksX5_readLaw_0 20 rfl rfl)
theorem dX5_readLaw_23 : decode cX5_readLaw 23 = .ok (.aload_n 0, 1) := dk_42 (dk_at dksX5_readLaw_0 23 rfl rfl)
theorem dX5_readLaw_24 : decode cX5_readLaw 24 = .ok (.ldc 251, 2) := dk_18 251 (dk_at dksX5_readLaw_1 0 rfl rfl)
theorem dX5_readLaw_26 : decode cX5_readLaw 26 = .ok (.iconst 0, 1) := dk_3 (dk_at dksX5_readLaw_1 2 rfl rfl)
theorem dX5_readLaw_27 : decode cX5_readLaw 27 = .ok (.bipush 19, 2) := dk_16 19 (dk_at dksX5_readLaw_1 3 rfl rfl)
theorem dX5_readLaw_29 : decode cX5_readLaw 29 = .ok (.invokevirtual 253, 3) := dk_182 0 253 (dk_at dksX5_readLaw_1 5 rfl rfl)
theorem dX5_readLaw_32 : decode cX5_readLaw 32 = .ok (.putfield 257, 3) := dk_181 1 1 (dk_at dksX5_readLaw_1 8 rfl rfl)
theorem dX5_readLaw_35 : decode cX5_readLaw 35 = .ok (.aload_n 0, 1) := dk_42 (dk_at dksX5_readLaw_1 11 rfl rfl)
theorem dX5_readLaw_36 : decode cX5_readLaw 36 = .ok (.getfield 173, 3) := dk_180 0 173 (dk_at dksX5_readLaw_1 12 rfl rfl)
theorem dX5_readLaw_39 : decode cX5_readLaw 39 = .ok (.aload_n 0, 1) := dk_42 (dk_at dksX5_readLaw_1 15 rfl rfl)
theorem dX5_readLaw_40 : decode cX5_readLaw 40 = .ok (.ldc_w 259, 3) := dk_19 1 3 (dk_at dksX5_readLaw_1 16 rfl rfl)
theorem dX5_readLaw_43 : decode cX5_readLaw 43 = .ok (.iconst 0, 1) := dk_3 (dk_at dksX5_readLaw_1 19 rfl rfl)
theorem dX5_readLaw_44 : decode cX5_readLaw 44 = .ok (.bipush 19, 2) := dk_16 19 (dk_at dksX5_readLaw_1 20 rfl rfl)
theorem dX5_readLaw_46 : decode cX5_readLaw 46 = .ok (.invokevirtual 253, 3) := dk_182 0 253 (dk_at dksX5_readLaw_2 0 rfl rfl)
theorem dX5_readLaw_49 : decode cX5_readLaw 49 = .ok (.putfield 261, 3) := dk_181 1 5 (dk_at dksX5_readLaw_2 3 rfl rfl)
theorem dX5_readLaw_52 : decode cX5_readLaw 52 = .ok (.aload_n 0, 1) := dk_42 (dk_at dksX5_readLaw_2 6 rfl rfl)
theorem dX5_readLaw_53 : decode cX5_readLaw 53 = .ok (.getfield 173, 3) := dk_180 0 173 (dk_at dksX5_readLaw_2 7 rfl rfl)
theorem dX5_readLaw_56 : decode cX5_readLaw 56 = .ok (.aload_n 0, 1) := dk_42 (dk_at dksX5_readLaw_2 10 rfl rfl)
theorem dX5_readLaw_57 : decode cX5_readLaw 57 = .ok (.ldc_w 263, 3) := dk_19 1 7 (dk_at dksX5_readLaw_2 11 rfl rfl)
theorem dX5_readLaw_60 : decode cX5_readLaw 60 = .ok (.iconst 0, 1) := dk_3 (dk_at dksX5_readLaw_2 14 rfl rfl)
theorem dX5_readLaw_61 : decode cX5_readLaw 61 = .ok (.bipush 99, 2) := dk_16 99 (dk_at dksX5_readLaw_2 15 rfl rfl)
theorem dX5_readLaw_63 : decode cX5_readLaw 63 = .ok (.invokevirtual 253, 3) := dk_182 0 253 (dk_at dksX5_readLaw_2 17 rfl rfl)
theorem dX5_readLaw_66 : decode cX5_readLaw 66 = .ok (.putfield 265, 3) := dk_181 1 9 (dk_at dksX5_readLaw_2 20 rfl rfl)
theorem dX5_readLaw_69 : decode cX5_readLaw 69 = .ok (.aload_n 0, 1) := dk_42 (dk_at dksX5_readLaw_2 23 rfl rfl)
theorem dX5_readLaw_70 : decode cX5_readLaw 70 = .ok (.getfield 173, 3) := dk_180 0 173 (dk_at dksX5_readLaw_3 0 rfl rfl)
theorem dX5_readLaw_73 : decode cX5_readLaw 73 = .ok (.aload_n 0, 1) := dk_42 (dk_at dksX5_readLaw_3 3 rfl rfl)
theorem dX5_readLaw_74 : decode cX5_readLaw 74 = .ok (.ldc_w 267, 3) := dk_19 1 11 (dk_at dksX5_readLaw_3 4 rfl rfl)
theorem dX5_readLaw_77 : decode cX5_readLaw 77 = .ok (.aload_n 0, 1) := dk_42 (dk_at dksX5_readLaw_3 7 rfl rfl)
theorem dX5_readLaw_78 : decode cX5_readLaw 78 = .ok (.getfield 173, 3) := dk_180 0 173 (dk_at dksX5_readLaw_3 8 rfl rfl)
theorem dX5_readLaw_81 : decode cX5_readLaw 81 = .ok (.getfield 265, 3) := dk_180 1 9 (dk_at dksX5_readLaw_3 11 rfl rfl)
theorem dX5_readLaw_84 : decode cX5_readLaw 84 = .ok (.bipush 99, 2) := dk_16 99 (dk_at dksX5_readLaw_3 14 rfl rfl)
theorem dX5_readLaw_86 : decode cX5_readLaw 86 = .ok (.invokevirtual 253, 3) := dk_182 0 253 (dk_at dksX5_readLaw_3 16 rfl rfl)
theorem dX5_readLaw_89 : decode cX5_readLaw 89 = .ok (.putfield 269, 3) := dk_181 1 13 (dk_at dksX5_readLaw_3 19 rfl rfl)
theorem dX5_readLaw_92 : decode cX5_readLaw 92 = .ok (.aload_n 0, 1) := dk_42 (dk_at dksX5_readLaw_3 22 rfl rfl)
theorem dX5_readLaw_93 : decode cX5_readLaw 93 = .ok (.getfield 173, 3) := dk_180 0 173 (dk_at dksX5_readLaw_4 0 rfl rfl)
theorem dX5_readLaw_96 : decode cX5_readLaw 96 = .ok (.aload_n 0, 1) := dk_42 (dk_at dksX5_readLaw_4 3 rfl rfl)
theorem dX5_readLaw_97 : decode cX5_readLaw 97 = .ok (.ldc_w 271, 3) := dk_19 1 15 (dk_at dksX5_readLaw_4 4 rfl rfl)
theorem dX5_readLaw_100 : decode cX5_readLaw 100 = .ok (.iconst 1, 1) := dk_4 (dk_at dksX5_readLaw_4 7 rfl rfl)
theorem dX5_readLaw_101 : decode cX5_readLaw 101 = .ok (.bipush 99, 2) := dk_16 99 (dk_at dksX5_readLaw_4 8 rfl rfl)
theorem dX5_readLaw_103 : decode cX5_readLaw 103 = .ok (.invokevirtual 253, 3) := dk_182 0 253 (dk_at dksX5_readLaw_4 10 rfl rfl)
theorem dX5_readLaw_106 : decode cX5_readLaw 106 = .ok (.putfield 273, 3) := dk_181 1 17 (dk_at dksX5_readLaw_4 13 rfl rfl)
theorem dX5_readLaw_109 : decode cX5_readLaw 109 = .ok (.aload_n 0, 1) := dk_42 (dk_at dksX5_readLaw_4 16 rfl rfl)
theorem dX5_readLaw_110 : decode cX5_readLaw 110 = .ok (.getfield 85, 3) := dk_180 0 85 (dk_at dksX5_readLaw_4 17 rfl rfl)
theorem dX5_readLaw_113 : decode cX5_readLaw 113 = .ok (.iconst 5, 1) := dk_8 (dk_at dksX5_readLaw_4 20 rfl rfl)
theorem dX5_readLaw_114 : decode cX5_readLaw 114 = .ok (.if_icmp .eq 11, 3) := dk_159 0 11 (dk_at dksX5_readLaw_4 21 rfl rfl)
theorem dX5_readLaw_117 : decode cX5_readLaw 117 = .ok (.aload_n 0, 1) := dk_42 (dk_at dksX5_readLaw_5 0 rfl rfl)
theorem dX5_readLaw_118 : decode cX5_readLaw 118 = .ok (.getfield 173, 3) := dk_180 0 173 (dk_at dksX5_readLaw_5 1 rfl rfl)
theorem dX5_readLaw_121 : decode cX5_readLaw 121 = .ok (.iconst 1, 1) := dk_4 (dk_at dksX5_readLaw_5 4 rfl rfl)
theorem dX5_readLaw_122 : decode cX5_readLaw 122 = .ok (.putfield 214, 3) := dk_181 0 214 (dk_at dksX5_readLaw_5 5 rfl rfl)
theorem dX5_readLaw_125 : decode cX5_readLaw 125 = .ok (.return_, 1) := dk_177 (dk_at dksX5_readLaw_5 8 rfl rfl)
abbrev cX5_wrong : ByteArray := prog_15_method_15_code
def yX5_wrong : MethodName := ⟨RX5, "wrong", "(I)V"⟩
def dkwX5_wrong_1 : List UInt8 := [181, 0, 85, 177]
abbrev dktX5_wrong_1 : List UInt8 := dkwX5_wrong_1 ++ []
def dkwX5_wrong_0 : List UInt8 := [42, 180, 0, 85, 8, 160, 0, 4, 177, 42, 27, 181, 0, 114, 42, 42, 180, 0, 94, 181, 0, 117, 42, 8]
abbrev dktX5_wrong_0 : List UInt8 := dkwX5_wrong_0 ++ dktX5_wrong_1
theorem dksX5_wrong_0 : cX5_wrong.data.toList.drop 0 = dktX5_wrong_0 := by decide +kernel
theorem dksX5_wrong_1 : cX5_wrong.data.toList.drop 24 = dktX5_wrong_1 := dk_seg dksX5_wrong_0 24 rfl rfl
theorem dX5_wrong_0 : decode cX5_wrong 0 = .ok (.aload_n 0, 1) := dk_42 (dk_at dksX5_wrong_0 0 rfl rfl)
theorem dX5_wrong_1 : decode cX5_wrong 1 = .ok (.getfield 85, 3) := dk_180 0 85 (dk_at dksX5_wrong_0 1 rfl rfl)
theorem dX5_wrong_4 : decode cX5_wrong 4 = .ok (.iconst 5, 1) := dk_8 (dk_at dksX5_wrong_0 4 rfl rfl)
theorem dX5_wrong_5 : decode cX5_wrong 5 = .ok (.if_icmp .ne 4, 3) := dk_160 0 4 (dk_at dksX5_wrong_0 5 rfl rfl)
theorem dX5_wrong_8 : decode cX5_wrong 8 = .ok (.return_, 1) := dk_177 (dk_at dksX5_wrong_0 8 rfl rfl)
theorem dX5_wrong_9 : decode cX5_wrong 9 = .ok (.aload_n 0, 1) := dk_42 (dk_at dksX5_wrong_0 9 rfl rfl)
theorem dX5_wrong_10 : decode cX5_wrong 10 = .ok (.iload_n 1, 1) := dk_27 (dk_at dksX5_wrong_0 10 rfl rfl)
theorem dX5_wrong_11 : decode cX5_wrong 11 = .ok (.putfield 114, 3) := dk_181 0 114 (dk_at dksX5_wrong_0 11 rfl rfl)
theorem dX5_wrong_14 : decode cX5_wrong 14 = .ok (.aload_n 0, 1) := dk_42 (dk_at dksX5_wrong_0 14 rfl rfl)
theorem dX5_wrong_15 : decode cX5_wrong 15 = .ok (.aload_n 0, 1) := dk_42 (dk_at dksX5_wrong_0 15 rfl rfl)
theorem dX5_wrong_16 : decode cX5_wrong 16 = .ok (.getfield 94, 3) := dk_180 0 94 (dk_at dksX5_wrong_0 16 rfl rfl)
theorem dX5_wrong_19 : decode cX5_wrong 19 = .ok (.putfield 117, 3) := dk_181 0 117 (dk_at dksX5_wrong_0 19 rfl rfl)
theorem dX5_wrong_22 : decode cX5_wrong 22 = .ok (.aload_n 0, 1) := dk_42 (dk_at dksX5_wrong_0 22 rfl rfl)
theorem dX5_wrong_23 : decode cX5_wrong 23 = .ok (.iconst 5, 1) := dk_8 (dk_at dksX5_wrong_0 23 rfl rfl)
theorem dX5_wrong_24 : decode cX5_wrong 24 = .ok (.putfield 85, 3) := dk_181 0 85 (dk_at dksX5_wrong_1 0 rfl rfl)
theorem dX5_wrong_27 : decode cX5_wrong 27 = .ok (.return_, 1) := dk_177 (dk_at dksX5_wrong_1 3 rfl rfl)
abbrev cX5_readPart : ByteArray := prog_15_method_22_code
def yX5_readPart : MethodName := ⟨RX5, "readPart", "(Ljava/lang/String;II)I"⟩
def dkwX5_readPart_0 : List UInt8 := [42, 43, 182, 0, 139, 42, 28, 29, 182, 0, 143, 172]
abbrev dktX5_readPart_0 : List UInt8 := dkwX5_readPart_0 ++ []
theorem dksX5_readPart_0 : cX5_readPart.data.toList.drop 0 = dktX5_readPart_0 := by decide +kernel
theorem dX5_readPart_0 : decode cX5_readPart 0 = .ok (.aload_n 0, 1) := dk_42 (dk_at dksX5_readPart_0 0 rfl rfl)
theorem dX5_readPart_1 : decode cX5_readPart 1 = .ok (.aload_n 1, 1) := dk_43 (dk_at dksX5_readPart_0 1 rfl rfl)
theorem dX5_readPart_2 : decode cX5_readPart 2 = .ok (.invokevirtual 139, 3) := dk_182 0 139 (dk_at dksX5_readPart_0 2 rfl rfl)
theorem dX5_readPart_5 : decode cX5_readPart 5 = .ok (.aload_n 0, 1) := dk_42 (dk_at dksX5_readPart_0 5 rfl rfl)
theorem dX5_readPart_6 : decode cX5_readPart 6 = .ok (.iload_n 2, 1) := dk_28 (dk_at dksX5_readPart_0 6 rfl rfl)
theorem dX5_readPart_7 : decode cX5_readPart 7 = .ok (.iload_n 3, 1) := dk_29 (dk_at dksX5_readPart_0 7 rfl rfl)
theorem dX5_readPart_8 : decode cX5_readPart 8 = .ok (.invokevirtual 143, 3) := dk_182 0 143 (dk_at dksX5_readPart_0 8 rfl rfl)
theorem dX5_readPart_11 : decode cX5_readPart 11 = .ok (.ireturn, 1) := dk_172 (dk_at dksX5_readPart_0 11 rfl rfl)
abbrev cX5_must : ByteArray := prog_15_method_19_code
def yX5_must : MethodName := ⟨RX5, "must", "(Ljava/lang/String;)V"⟩
def dkwX5_must_0 : List UInt8 := [42, 43, 182, 0, 124, 154, 0, 8, 42, 4, 182, 0, 131, 42, 182, 0, 128, 177]
abbrev dktX5_must_0 : List UInt8 := dkwX5_must_0 ++ []
theorem dksX5_must_0 : cX5_must.data.toList.drop 0 = dktX5_must_0 := by decide +kernel
theorem dX5_must_0 : decode cX5_must 0 = .ok (.aload_n 0, 1) := dk_42 (dk_at dksX5_must_0 0 rfl rfl)
theorem dX5_must_1 : decode cX5_must 1 = .ok (.aload_n 1, 1) := dk_43 (dk_at dksX5_must_0 1 rfl rfl)
theorem dX5_must_2 : decode cX5_must 2 = .ok (.invokevirtual 124, 3) := dk_182 0 124 (dk_at dksX5_must_0 2 rfl rfl)
theorem dX5_must_5 : decode cX5_must 5 = .ok (.ifCond .ne 8, 3) := dk_154 0 8 (dk_at dksX5_must_0 5 rfl rfl)
theorem dX5_must_8 : decode cX5_must 8 = .ok (.aload_n 0, 1) := dk_42 (dk_at dksX5_must_0 8 rfl rfl)
theorem dX5_must_9 : decode cX5_must 9 = .ok (.iconst 1, 1) := dk_4 (dk_at dksX5_must_0 9 rfl rfl)
theorem dX5_must_10 : decode cX5_must 10 = .ok (.invokevirtual 131, 3) := dk_182 0 131 (dk_at dksX5_must_0 10 rfl rfl)
theorem dX5_must_13 : decode cX5_must 13 = .ok (.aload_n 0, 1) := dk_42 (dk_at dksX5_must_0 13 rfl rfl)
theorem dX5_must_14 : decode cX5_must 14 = .ok (.invokevirtual 128, 3) := dk_182 0 128 (dk_at dksX5_must_0 14 rfl rfl)
theorem dX5_must_17 : decode cX5_must 17 = .ok (.return_, 1) := dk_177 (dk_at dksX5_must_0 17 rfl rfl)
abbrev cX5_readWhole : ByteArray := prog_15_method_21_code
def yX5_readWhole : MethodName := ⟨RX5, "readWhole", "(II)I"⟩
def dkwX5_readWhole_1 : List UInt8 := [184, 0, 135, 154, 0, 8, 42, 7, 182, 0, 131, 42, 180, 0, 111, 62, 42, 182, 0, 128, 29, 172]
abbrev dktX5_readWhole_1 : List UInt8 := dkwX5_readWhole_1 ++ []
def dkwX5_readWhole_0 : List UInt8 := [42, 180, 0, 85, 6, 159, 0, 11, 42, 4, 182, 0, 131, 167, 0, 20, 42, 180, 0, 111, 27, 28]
abbrev dktX5_readWhole_0 : List UInt8 := dkwX5_readWhole_0 ++ dktX5_readWhole_1
theorem dksX5_readWhole_0 : cX5_readWhole.data.toList.drop 0 = dktX5_readWhole_0 := by decide +kernel
theorem dksX5_readWhole_1 : cX5_readWhole.data.toList.drop 22 = dktX5_readWhole_1 := dk_seg dksX5_readWhole_0 22 rfl rfl
theorem dX5_readWhole_0 : decode cX5_readWhole 0 = .ok (.aload_n 0, 1) := dk_42 (dk_at dksX5_readWhole_0 0 rfl rfl)
theorem dX5_readWhole_1 : decode cX5_readWhole 1 = .ok (.getfield 85, 3) := dk_180 0 85 (dk_at dksX5_readWhole_0 1 rfl rfl)
theorem dX5_readWhole_4 : decode cX5_readWhole 4 = .ok (.iconst 3, 1) := dk_6 (dk_at dksX5_readWhole_0 4 rfl rfl)
theorem dX5_readWhole_5 : decode cX5_readWhole 5 = .ok (.if_icmp .eq 11, 3) := dk_159 0 11 (dk_at dksX5_readWhole_0 5 rfl rfl)
theorem dX5_readWhole_8 : decode cX5_readWhole 8 = .ok (.aload_n 0, 1) := dk_42 (dk_at dksX5_readWhole_0 8 rfl rfl)
theorem dX5_readWhole_9 : decode cX5_readWhole 9 = .ok (.iconst 1, 1) := dk_4 (dk_at dksX5_readWhole_0 9 rfl rfl)
theorem dX5_readWhole_10 : decode cX5_readWhole 10 = .ok (.invokevirtual 131, 3) := dk_182 0 131 (dk_at dksX5_readWhole_0 10 rfl rfl)
theorem dX5_readWhole_13 : decode cX5_readWhole 13 = .ok (.goto 20, 3) := dk_167 0 20 (dk_at dksX5_readWhole_0 13 rfl rfl)
theorem dX5_readWhole_16 : decode cX5_readWhole 16 = .ok (.aload_n 0, 1) := dk_42 (dk_at dksX5_readWhole_0 16 rfl rfl)
theorem dX5_readWhole_17 : decode cX5_readWhole 17 = .ok (.getfield 111, 3) := dk_180 0 111 (dk_at dksX5_readWhole_0 17 rfl rfl)
theorem dX5_readWhole_20 : decode cX5_readWhole 20 = .ok (.iload_n 1, 1) := dk_27 (dk_at dksX5_readWhole_0 20 rfl rfl)
theorem dX5_readWhole_21 : decode cX5_readWhole 21 = .ok (.iload_n 2, 1) := dk_28 (dk_at dksX5_readWhole_0 21 rfl rfl)
theorem dX5_readWhole_22 : decode cX5_readWhole 22 = .ok (.invokestatic 135, 3) := dk_184 0 135 (dk_at dksX5_readWhole_1 0 rfl rfl)
theorem dX5_readWhole_25 : decode cX5_readWhole 25 = .ok (.ifCond .ne 8, 3) := dk_154 0 8 (dk_at dksX5_readWhole_1 3 rfl rfl)
theorem dX5_readWhole_28 : decode cX5_readWhole 28 = .ok (.aload_n 0, 1) := dk_42 (dk_at dksX5_readWhole_1 6 rfl rfl)
theorem dX5_readWhole_29 : decode cX5_readWhole 29 = .ok (.iconst 4, 1) := dk_7 (dk_at dksX5_readWhole_1 7 rfl rfl)
theorem dX5_readWhole_30 : decode cX5_readWhole 30 = .ok (.invokevirtual 131, 3) := dk_182 0 131 (dk_at dksX5_readWhole_1 8 rfl rfl)
theorem dX5_readWhole_33 : decode cX5_readWhole 33 = .ok (.aload_n 0, 1) := dk_42 (dk_at dksX5_readWhole_1 11 rfl rfl)
theorem dX5_readWhole_34 : decode cX5_readWhole 34 = .ok (.getfield 111, 3) := dk_180 0 111 (dk_at dksX5_readWhole_1 12 rfl rfl)
theorem dX5_readWhole_37 : decode cX5_readWhole 37 = .ok (.istore_n 3, 1) := dk_62 (dk_at dksX5_readWhole_1 15 rfl rfl)
theorem dX5_readWhole_38 : decode cX5_readWhole 38 = .ok (.aload_n 0, 1) := dk_42 (dk_at dksX5_readWhole_1 16 rfl rfl)
theorem dX5_readWhole_39 : decode cX5_readWhole 39 = .ok (.invokevirtual 128, 3) := dk_182 0 128 (dk_at dksX5_readWhole_1 17 rfl rfl)
theorem dX5_readWhole_42 : decode cX5_readWhole 42 = .ok (.iload_n 3, 1) := dk_29 (dk_at dksX5_readWhole_1 20 rfl rfl)
theorem dX5_readWhole_43 : decode cX5_readWhole 43 = .ok (.ireturn, 1) := dk_172 (dk_at dksX5_readWhole_1 21 rfl rfl)
abbrev cX5_in : ByteArray := prog_15_method_7_code
def yX5_in : MethodName := ⟨RX5, "in", "(III)Z"⟩
def dkwX5_in_0 : List UInt8 := [26, 27, 161, 0, 12, 26, 28, 163, 0, 7, 4, 167, 0, 4, 3, 172]
abbrev dktX5_in_0 : List UInt8 := dkwX5_in_0 ++ []
theorem dksX5_in_0 : cX5_in.data.toList.drop 0 = dktX5_in_0 := by decide +kernel
theorem dX5_in_0 : decode cX5_in 0 = .ok (.iload_n 0, 1) := dk_26 (dk_at dksX5_in_0 0 rfl rfl)
theorem dX5_in_1 : decode cX5_in 1 = .ok (.iload_n 1, 1) := dk_27 (dk_at dksX5_in_0 1 rfl rfl)
theorem dX5_in_2 : decode cX5_in 2 = .ok (.if_icmp .lt 12, 3) := dk_161 0 12 (dk_at dksX5_in_0 2 rfl rfl)
theorem dX5_in_5 : decode cX5_in 5 = .ok (.iload_n 0, 1) := dk_26 (dk_at dksX5_in_0 5 rfl rfl)
theorem dX5_in_6 : decode cX5_in 6 = .ok (.iload_n 2, 1) := dk_28 (dk_at dksX5_in_0 6 rfl rfl)
theorem dX5_in_7 : decode cX5_in 7 = .ok (.if_icmp .gt 7, 3) := dk_163 0 7 (dk_at dksX5_in_0 7 rfl rfl)
theorem dX5_in_10 : decode cX5_in 10 = .ok (.iconst 1, 1) := dk_4 (dk_at dksX5_in_0 10 rfl rfl)
theorem dX5_in_11 : decode cX5_in 11 = .ok (.goto 4, 3) := dk_167 0 4 (dk_at dksX5_in_0 11 rfl rfl)
theorem dX5_in_14 : decode cX5_in 14 = .ok (.iconst 0, 1) := dk_3 (dk_at dksX5_in_0 14 rfl rfl)
theorem dX5_in_15 : decode cX5_in 15 = .ok (.ireturn, 1) := dk_172 (dk_at dksX5_in_0 15 rfl rfl)
abbrev cX5_readPlace : ByteArray := prog_15_method_32_code
def yX5_readPlace : MethodName := ⟨RX5, "readPlace", "()V"⟩
def dkwX5_readPlace_4 : List UInt8 := [180, 0, 173, 89, 180, 0, 218, 4, 96, 181, 0, 218, 177]
abbrev dktX5_readPlace_4 : List UInt8 := dkwX5_readPlace_4 ++ []
def dkwX5_readPlace_3 : List UInt8 := [180, 0, 218, 27, 79, 42, 180, 0, 173, 180, 1, 30, 42, 180, 0, 173, 180, 0, 218, 28, 79, 42]
abbrev dktX5_readPlace_3 : List UInt8 := dkwX5_readPlace_3 ++ dktX5_readPlace_4
def dkwX5_readPlace_2 : List UInt8 := [182, 0, 143, 61, 42, 180, 0, 85, 8, 160, 0, 4, 177, 42, 180, 0, 173, 180, 1, 27, 42, 180, 0, 173]
abbrev dktX5_readPlace_2 : List UInt8 := dkwX5_readPlace_2 ++ dktX5_readPlace_3
def dkwX5_readPlace_1 : List UInt8 := [182, 1, 23, 42, 19, 1, 26, 3, 16, 19, 182, 0, 253, 60, 42, 16, 44, 182, 0, 205, 42, 3, 16, 19]
abbrev dktX5_readPlace_1 : List UInt8 := dkwX5_readPlace_1 ++ dktX5_readPlace_2
def dkwX5_readPlace_0 : List UInt8 := [42, 42, 180, 0, 173, 180, 0, 218, 16, 10, 182, 1, 19, 42, 3, 42, 180, 0, 173, 180, 0, 218]
abbrev dktX5_readPlace_0 : List UInt8 := dkwX5_readPlace_0 ++ dktX5_readPlace_1
theorem dksX5_readPlace_0 : cX5_readPlace.data.toList.drop 0 = dktX5_readPlace_0 := by decide +kernel
theorem dksX5_readPlace_1 : cX5_readPlace.data.toList.drop 22 = dktX5_readPlace_1 := dk_seg dksX5_readPlace_0 22 rfl rfl
theorem dksX5_readPlace_2 : cX5_readPlace.data.toList.drop 46 = dktX5_readPlace_2 := dk_seg dksX5_readPlace_1 24 rfl rfl
theorem dksX5_readPlace_3 : cX5_readPlace.data.toList.drop 70 = dktX5_readPlace_3 := dk_seg dksX5_readPlace_2 24 rfl rfl
theorem dksX5_readPlace_4 : cX5_readPlace.data.toList.drop 92 = dktX5_readPlace_4 := dk_seg dksX5_readPlace_3 22 rfl rfl
theorem dX5_readPlace_0 : decode cX5_readPlace 0 = .ok (.aload_n 0, 1) := dk_42 (dk_at dksX5_readPlace_0 0 rfl rfl)
theorem dX5_readPlace_1 : decode cX5_readPlace 1 = .ok (.aload_n 0, 1) := dk_42 (dk_at dksX5_readPlace_0 1 rfl rfl)
theorem dX5_readPlace_2 : decode cX5_readPlace 2 = .ok (.getfield 173, 3) := dk_180 0 173 (dk_at dksX5_readPlace_0 2 rfl rfl)
theorem dX5_readPlace_5 : decode cX5_readPlace 5 = .ok (.getfield 218, 3) := dk_180 0 218 (dk_at dksX5_readPlace_0 5 rfl rfl)
theorem dX5_readPlace_8 : decode cX5_readPlace 8 = .ok (.bipush 10, 2) := dk_16 10 (dk_at dksX5_readPlace_0 8 rfl rfl)
theorem dX5_readPlace_10 : decode cX5_readPlace 10 = .ok (.invokevirtual 275, 3) := dk_182 1 19 (dk_at dksX5_readPlace_0 10 rfl rfl)
theorem dX5_readPlace_13 : decode cX5_readPlace 13 = .ok (.aload_n 0, 1) := dk_42 (dk_at dksX5_readPlace_0 13 rfl rfl)
theorem dX5_readPlace_14 : decode cX5_readPlace 14 = .ok (.iconst 0, 1) := dk_3 (dk_at dksX5_readPlace_0 14 rfl rfl)
theorem dX5_readPlace_15 : decode cX5_readPlace 15 = .ok (.aload_n 0, 1) := dk_42 (dk_at dksX5_readPlace_0 15 rfl rfl)
theorem dX5_readPlace_16 : decode cX5_readPlace 16 = .ok (.getfield 173, 3) := dk_180 0 173 (dk_at dksX5_readPlace_0 16 rfl rfl)
theorem dX5_readPlace_19 : decode cX5_readPlace 19 = .ok (.getfield 218, 3) := dk_180 0 218 (dk_at dksX5_readPlace_0 19 rfl rfl)
theorem dX5_readPlace_22 : decode cX5_readPlace 22 = .ok (.invokevirtual 279, 3) := dk_182 1 23 (dk_at dksX5_readPlace_1 0 rfl rfl)
theorem dX5_readPlace_25 : decode cX5_readPlace 25 = .ok (.aload_n 0, 1) := dk_42 (dk_at dksX5_readPlace_1 3 rfl rfl)
theorem dX5_readPlace_26 : decode cX5_readPlace 26 = .ok (.ldc_w 282, 3) := dk_19 1 26 (dk_at dksX5_readPlace_1 4 rfl rfl)
theorem dX5_readPlace_29 : decode cX5_readPlace 29 = .ok (.iconst 0, 1) := dk_3 (dk_at dksX5_readPlace_1 7 rfl rfl)
theorem dX5_readPlace_30 : decode cX5_readPlace 30 = .ok (.bipush 19, 2) := dk_16 19 (dk_at dksX5_readPlace_1 8 rfl rfl)
theorem dX5_readPlace_32 : decode cX5_readPlace 32 = .ok (.invokevirtual 253, 3) := dk_182 0 253 (dk_at dksX5_readPlace_1 10 rfl rfl)
theorem dX5_readPlace_35 : decode cX5_readPlace 35 = .ok (.istore_n 1, 1) := dk_60 (dk_at dksX5_readPlace_1 13 rfl rfl)
theorem dX5_readPlace_36 : decode cX5_readPlace 36 = .ok (.aload_n 0, 1) := dk_42 (dk_at dksX5_readPlace_1 14 rfl rfl)
theorem dX5_readPlace_37 : decode cX5_readPlace 37 = .ok (.bipush 44, 2) := dk_16 44 (dk_at dksX5_readPlace_1 15 rfl rfl)
theorem dX5_readPlace_39 : decode cX5_readPlace 39 = .ok (.invokevirtual 205, 3) := dk_182 0 205 (dk_at dksX5_readPlace_1 17 rfl rfl)
theorem dX5_readPlace_42 : decode cX5_readPlace 42 = .ok (.aload_n 0, 1) := dk_42 (dk_at dksX5_readPlace_1 20 rfl rfl)
theorem dX5_readPlace_43 : decode cX5_readPlace 43 = .ok (.iconst 0, 1) := dk_3 (dk_at dksX5_readPlace_1 21 rfl rfl)
theorem dX5_readPlace_44 : decode cX5_readPlace 44 = .ok (.bipush 19, 2) := dk_16 19 (dk_at dksX5_readPlace_1 22 rfl rfl)
theorem dX5_readPlace_46 : decode cX5_readPlace 46 = .ok (.invokevirtual 143, 3) := dk_182 0 143 (dk_at dksX5_readPlace_2 0 rfl rfl)
theorem dX5_readPlace_49 : decode cX5_readPlace 49 = .ok (.istore_n 2, 1) := dk_61 (dk_at dksX5_readPlace_2 3 rfl rfl)
theorem dX5_readPlace_50 : decode cX5_readPlace 50 = .ok (.aload_n 0, 1) := dk_42 (dk_at dksX5_readPlace_2 4 rfl rfl)
theorem dX5_readPlace_51 : decode cX5_readPlace 51 = .ok (.getfield 85, 3) := dk_180 0 85 (dk_at dksX5_readPlace_2 5 rfl rfl)
theorem dX5_readPlace_54 : decode cX5_readPlace 54 = .ok (.iconst 5, 1) := dk_8 (dk_at dksX5_readPlace_2 8 rfl rfl)
theorem dX5_readPlace_55 : decode cX5_readPlace 55 = .ok (.if_icmp .ne 4, 3) := dk_160 0 4 (dk_at dksX5_readPlace_2 9 rfl rfl)
theorem dX5_readPlace_58 : decode cX5_readPlace 58 = .ok (.return_, 1) := dk_177 (dk_at dksX5_readPlace_2 12 rfl rfl)
theorem dX5_readPlace_59 : decode cX5_readPlace 59 = .ok (.aload_n 0, 1) := dk_42 (dk_at dksX5_readPlace_2 13 rfl rfl)
theorem dX5_readPlace_60 : decode cX5_readPlace 60 = .ok (.getfield 173, 3) := dk_180 0 173 (dk_at dksX5_readPlace_2 14 rfl rfl)
theorem dX5_readPlace_63 : decode cX5_readPlace 63 = .ok (.getfield 283, 3) := dk_180 1 27 (dk_at dksX5_readPlace_2 17 rfl rfl)
theorem dX5_readPlace_66 : decode cX5_readPlace 66 = .ok (.aload_n 0, 1) := dk_42 (dk_at dksX5_readPlace_2 20 rfl rfl)
theorem dX5_readPlace_67 : decode cX5_readPlace 67 = .ok (.getfield 173, 3) := dk_180 0 173 (dk_at dksX5_readPlace_2 21 rfl rfl)
theorem dX5_readPlace_70 : decode cX5_readPlace 70 = .ok (.getfield 218, 3) := dk_180 0 218 (dk_at dksX5_readPlace_3 0 rfl rfl)
theorem dX5_readPlace_73 : decode cX5_readPlace 73 = .ok (.iload_n 1, 1) := dk_27 (dk_at dksX5_readPlace_3 3 rfl rfl)
theorem dX5_readPlace_74 : decode cX5_readPlace 74 = .ok (.iastore, 1) := dk_79 (dk_at dksX5_readPlace_3 4 rfl rfl)
theorem dX5_readPlace_75 : decode cX5_readPlace 75 = .ok (.aload_n 0, 1) := dk_42 (dk_at dksX5_readPlace_3 5 rfl rfl)
theorem dX5_readPlace_76 : decode cX5_readPlace 76 = .ok (.getfield 173, 3) := dk_180 0 173 (dk_at dksX5_readPlace_3 6 rfl rfl)
theorem dX5_readPlace_79 : decode cX5_readPlace 79 = .ok (.getfield 286, 3) := dk_180 1 30 (dk_at dksX5_readPlace_3 9 rfl rfl)
theorem dX5_readPlace_82 : decode cX5_readPlace 82 = .ok (.aload_n 0, 1) := dk_42 (dk_at dksX5_readPlace_3 12 rfl rfl)
theorem dX5_readPlace_83 : decode cX5_readPlace 83 = .ok (.getfield 173, 3) := dk_180 0 173 (dk_at dksX5_readPlace_3 13 rfl rfl)
theorem dX5_readPlace_86 : decode cX5_readPlace 86 = .ok (.getfield 218, 3) := dk_180 0 218 (dk_at dksX5_readPlace_3 16 rfl rfl)
theorem dX5_readPlace_89 : decode cX5_readPlace 89 = .ok (.iload_n 2, 1) := dk_28 (dk_at dksX5_readPlace_3 19 rfl rfl)
theorem dX5_readPlace_90 : decode cX5_readPlace 90 = .ok (.iastore, 1) := dk_79 (dk_at dksX5_readPlace_3 20 rfl rfl)
theorem dX5_readPlace_91 : decode cX5_readPlace 91 = .ok (.aload_n 0, 1) := dk_42 (dk_at dksX5_readPlace_3 21 rfl rfl)
theorem dX5_readPlace_92 : decode cX5_readPlace 92 = .ok (.getfield 173, 3) := dk_180 0 173 (dk_at dksX5_readPlace_4 0 rfl rfl)
theorem dX5_readPlace_95 : decode cX5_readPlace 95 = .ok (.dup, 1) := dk_89 (dk_at dksX5_readPlace_4 3 rfl rfl)
theorem dX5_readPlace_96 : decode cX5_readPlace 96 = .ok (.getfield 218, 3) := dk_180 0 218 (dk_at dksX5_readPlace_4 4 rfl rfl)
theorem dX5_readPlace_99 : decode cX5_readPlace 99 = .ok (.iconst 1, 1) := dk_4 (dk_at dksX5_readPlace_4 7 rfl rfl)
theorem dX5_readPlace_100 : decode cX5_readPlace 100 = .ok (.iadd, 1) := dk_96 (dk_at dksX5_readPlace_4 8 rfl rfl)
theorem dX5_readPlace_101 : decode cX5_readPlace 101 = .ok (.putfield 218, 3) := dk_181 0 218 (dk_at dksX5_readPlace_4 9 rfl rfl)
theorem dX5_readPlace_104 : decode cX5_readPlace 104 = .ok (.return_, 1) := dk_177 (dk_at dksX5_readPlace_4 12 rfl rfl)
abbrev cX5_begins : ByteArray := prog_15_method_24_code
def yX5_begins : MethodName := ⟨RX5, "begins", "(II)V"⟩
def dkwX5_begins_0 : List UInt8 := [27, 28, 160, 0, 8, 42, 8, 182, 0, 131, 42, 182, 0, 128, 177]
abbrev dktX5_begins_0 : List UInt8 := dkwX5_begins_0 ++ []
theorem dksX5_begins_0 : cX5_begins.data.toList.drop 0 = dktX5_begins_0 := by decide +kernel
theorem dX5_begins_0 : decode cX5_begins 0 = .ok (.iload_n 1, 1) := dk_27 (dk_at dksX5_begins_0 0 rfl rfl)
theorem dX5_begins_1 : decode cX5_begins 1 = .ok (.iload_n 2, 1) := dk_28 (dk_at dksX5_begins_0 1 rfl rfl)
theorem dX5_begins_2 : decode cX5_begins 2 = .ok (.if_icmp .ne 8, 3) := dk_160 0 8 (dk_at dksX5_begins_0 2 rfl rfl)
theorem dX5_begins_5 : decode cX5_begins 5 = .ok (.aload_n 0, 1) := dk_42 (dk_at dksX5_begins_0 5 rfl rfl)
theorem dX5_begins_6 : decode cX5_begins 6 = .ok (.iconst 5, 1) := dk_8 (dk_at dksX5_begins_0 6 rfl rfl)
theorem dX5_begins_7 : decode cX5_begins 7 = .ok (.invokevirtual 131, 3) := dk_182 0 131 (dk_at dksX5_begins_0 7 rfl rfl)
theorem dX5_begins_10 : decode cX5_begins 10 = .ok (.aload_n 0, 1) := dk_42 (dk_at dksX5_begins_0 10 rfl rfl)
theorem dX5_begins_11 : decode cX5_begins 11 = .ok (.invokevirtual 128, 3) := dk_182 0 128 (dk_at dksX5_begins_0 11 rfl rfl)
theorem dX5_begins_14 : decode cX5_begins 14 = .ok (.return_, 1) := dk_177 (dk_at dksX5_begins_0 14 rfl rfl)
abbrev cX5_readFresh : ByteArray := prog_15_method_25_code
def yX5_readFresh : MethodName := ⟨RX5, "readFresh", "(II)V"⟩
def dkwX5_readFresh_4 : List UInt8 := [180, 0, 173, 89, 180, 0, 187, 4, 96, 181, 0, 187, 42, 182, 0, 128, 177]
abbrev dktX5_readFresh_4 : List UInt8 := dkwX5_readFresh_4 ++ []
def dkwX5_readFresh_3 : List UInt8 := [180, 0, 187, 27, 79, 42, 180, 0, 173, 180, 0, 193, 42, 180, 0, 173, 180, 0, 187, 28, 79, 42]
abbrev dktX5_readFresh_3 : List UInt8 := dkwX5_readFresh_3 ++ dktX5_readFresh_4
def dkwX5_readFresh_2 : List UInt8 := [42, 180, 0, 173, 180, 0, 187, 42, 180, 0, 104, 80, 42, 180, 0, 173, 180, 0, 190, 42, 180, 0, 173]
abbrev dktX5_readFresh_2 : List UInt8 := dkwX5_readFresh_2 ++ dktX5_readFresh_3
def dkwX5_readFresh_1 : List UInt8 := [159, 0, 8, 42, 6, 182, 0, 131, 42, 180, 0, 85, 8, 160, 0, 4, 177, 42, 180, 0, 173, 180, 0, 183]
abbrev dktX5_readFresh_1 : List UInt8 := dkwX5_readFresh_1 ++ dktX5_readFresh_2
def dkwX5_readFresh_0 : List UInt8 := [42, 182, 0, 169, 154, 0, 8, 42, 4, 182, 0, 131, 42, 180, 0, 173, 42, 180, 0, 104, 182, 0, 177, 2]
abbrev dktX5_readFresh_0 : List UInt8 := dkwX5_readFresh_0 ++ dktX5_readFresh_1
theorem dksX5_readFresh_0 : cX5_readFresh.data.toList.drop 0 = dktX5_readFresh_0 := by decide +kernel
theorem dksX5_readFresh_1 : cX5_readFresh.data.toList.drop 24 = dktX5_readFresh_1 := dk_seg dksX5_readFresh_0 24 rfl rfl
theorem dksX5_readFresh_2 : cX5_readFresh.data.toList.drop 48 = dktX5_readFresh_2 := dk_seg dksX5_readFresh_1 24 rfl rfl
theorem dksX5_readFresh_3 : cX5_readFresh.data.toList.drop 71 = dktX5_readFresh_3 := dk_seg dksX5_readFresh_2 23 rfl rfl
theorem dksX5_readFresh_4 : cX5_readFresh.data.toList.drop 93 = dktX5_readFresh_4 := dk_seg dksX5_readFresh_3 22 rfl rfl
theorem dX5_readFresh_0 : decode cX5_readFresh 0 = .ok (.aload_n 0, 1) := dk_42 (dk_at dksX5_readFresh_0 0 rfl rfl)
theorem dX5_readFresh_1 : decode cX5_readFresh 1 = .ok (.invokevirtual 169, 3) := dk_182 0 169 (dk_at dksX5_readFresh_0 1 rfl rfl)
theorem dX5_readFresh_4 : decode cX5_readFresh 4 = .ok (.ifCond .ne 8, 3) := dk_154 0 8 (dk_at dksX5_readFresh_0 4 rfl rfl)
theorem dX5_readFresh_7 : decode cX5_readFresh 7 = .ok (.aload_n 0, 1) := dk_42 (dk_at dksX5_readFresh_0 7 rfl rfl)
theorem dX5_readFresh_8 : decode cX5_readFresh 8 = .ok (.iconst 1, 1) := dk_4 (dk_at dksX5_readFresh_0 8 rfl rfl)
theorem dX5_readFresh_9 : decode cX5_readFresh 9 = .ok (.invokevirtual 131, 3) := dk_182 0 131 (dk_at dksX5_readFresh_0 9 rfl rfl)
theorem dX5_readFresh_12 : decode cX5_readFresh 12 = .ok (.aload_n 0, 1) := dk_42 (dk_at dksX5_readFresh_0 12 rfl rfl)
theorem dX5_readFresh_13 : decode cX5_readFresh 13 = .ok (.getfield 173, 3) := dk_180 0 173 (dk_at dksX5_readFresh_0 13 rfl rfl)
theorem dX5_readFresh_16 : decode cX5_readFresh 16 = .ok (.aload_n 0, 1) := dk_42 (dk_at dksX5_readFresh_0 16 rfl rfl)
theorem dX5_readFresh_17 : decode cX5_readFresh 17 = .ok (.getfield 104, 3) := dk_180 0 104 (dk_at dksX5_readFresh_0 17 rfl rfl)
theorem dX5_readFresh_20 : decode cX5_readFresh 20 = .ok (.invokevirtual 177, 3) := dk_182 0 177 (dk_at dksX5_readFresh_0 20 rfl rfl)
theorem dX5_readFresh_23 : decode cX5_readFresh 23 = .ok (.iconst (-1), 1) := dk_2 (dk_at dksX5_readFresh_0 23 rfl rfl)
theorem dX5_readFresh_24 : decode cX5_readFresh 24 = .ok (.if_icmp .eq 8, 3) := dk_159 0 8 (dk_at dksX5_readFresh_1 0 rfl rfl)
theorem dX5_readFresh_27 : decode cX5_readFresh 27 = .ok (.aload_n 0, 1) := dk_42 (dk_at dksX5_readFresh_1 3 rfl rfl)
theorem dX5_readFresh_28 : decode cX5_readFresh 28 = .ok (.iconst 3, 1) := dk_6 (dk_at dksX5_readFresh_1 4 rfl rfl)
theorem dX5_readFresh_29 : decode cX5_readFresh 29 = .ok (.invokevirtual 131, 3) := dk_182 0 131 (dk_at dksX5_readFresh_1 5 rfl rfl)
theorem dX5_readFresh_32 : decode cX5_readFresh 32 = .ok (.aload_n 0, 1) := dk_42 (dk_at dksX5_readFresh_1 8 rfl rfl)
theorem dX5_readFresh_33 : decode cX5_readFresh 33 = .ok (.getfield 85, 3) := dk_180 0 85 (dk_at dksX5_readFresh_1 9 rfl rfl)
theorem dX5_readFresh_36 : decode cX5_readFresh 36 = .ok (.iconst 5, 1) := dk_8 (dk_at dksX5_readFresh_1 12 rfl rfl)
theorem dX5_readFresh_37 : decode cX5_readFresh 37 = .ok (.if_icmp .ne 4, 3) := dk_160 0 4 (dk_at dksX5_readFresh_1 13 rfl rfl)
theorem dX5_readFresh_40 : decode cX5_readFresh 40 = .ok (.return_, 1) := dk_177 (dk_at dksX5_readFresh_1 16 rfl rfl)
theorem dX5_readFresh_41 : decode cX5_readFresh 41 = .ok (.aload_n 0, 1) := dk_42 (dk_at dksX5_readFresh_1 17 rfl rfl)
theorem dX5_readFresh_42 : decode cX5_readFresh 42 = .ok (.getfield 173, 3) := dk_180 0 173 (dk_at dksX5_readFresh_1 18 rfl rfl)
theorem dX5_readFresh_45 : decode cX5_readFresh 45 = .ok (.getfield 183, 3) := dk_180 0 183 (dk_at dksX5_readFresh_1 21 rfl rfl)
theorem dX5_readFresh_48 : decode cX5_readFresh 48 = .ok (.aload_n 0, 1) := dk_42 (dk_at dksX5_readFresh_2 0 rfl rfl)
theorem dX5_readFresh_49 : decode cX5_readFresh 49 = .ok (.getfield 173, 3) := dk_180 0 173 (dk_at dksX5_readFresh_2 1 rfl rfl)
theorem dX5_readFresh_52 : decode cX5_readFresh 52 = .ok (.getfield 187, 3) := dk_180 0 187 (dk_at dksX5_readFresh_2 4 rfl rfl)
theorem dX5_readFresh_55 : decode cX5_readFresh 55 = .ok (.aload_n 0, 1) := dk_42 (dk_at dksX5_readFresh_2 7 rfl rfl)
theorem dX5_readFresh_56 : decode cX5_readFresh 56 = .ok (.getfield 104, 3) := dk_180 0 104 (dk_at dksX5_readFresh_2 8 rfl rfl)
theorem dX5_readFresh_59 : decode cX5_readFresh 59 = .ok (.lastore, 1) := dk_80 (dk_at dksX5_readFresh_2 11 rfl rfl)
theorem dX5_readFresh_60 : decode cX5_readFresh 60 = .ok (.aload_n 0, 1) := dk_42 (dk_at dksX5_readFresh_2 12 rfl rfl)
theorem dX5_readFresh_61 : decode cX5_readFresh 61 = .ok (.getfield 173, 3) := dk_180 0 173 (dk_at dksX5_readFresh_2 13 rfl rfl)
theorem dX5_readFresh_64 : decode cX5_readFresh 64 = .ok (.getfield 190, 3) := dk_180 0 190 (dk_at dksX5_readFresh_2 16 rfl rfl)
theorem dX5_readFresh_67 : decode cX5_readFresh 67 = .ok (.aload_n 0, 1) := dk_42 (dk_at dksX5_readFresh_2 19 rfl rfl)
theorem dX5_readFresh_68 : decode cX5_readFresh 68 = .ok (.getfield 173, 3) := dk_180 0 173 (dk_at dksX5_readFresh_2 20 rfl rfl)
theorem dX5_readFresh_71 : decode cX5_readFresh 71 = .ok (.getfield 187, 3) := dk_180 0 187 (dk_at dksX5_readFresh_3 0 rfl rfl)
theorem dX5_readFresh_74 : decode cX5_readFresh 74 = .ok (.iload_n 1, 1) := dk_27 (dk_at dksX5_readFresh_3 3 rfl rfl)
theorem dX5_readFresh_75 : decode cX5_readFresh 75 = .ok (.iastore, 1) := dk_79 (dk_at dksX5_readFresh_3 4 rfl rfl)
theorem dX5_readFresh_76 : decode cX5_readFresh 76 = .ok (.aload_n 0, 1) := dk_42 (dk_at dksX5_readFresh_3 5 rfl rfl)
theorem dX5_readFresh_77 : decode cX5_readFresh 77 = .ok (.getfield 173, 3) := dk_180 0 173 (dk_at dksX5_readFresh_3 6 rfl rfl)
theorem dX5_readFresh_80 : decode cX5_readFresh 80 = .ok (.getfield 193, 3) := dk_180 0 193 (dk_at dksX5_readFresh_3 9 rfl rfl)
theorem dX5_readFresh_83 : decode cX5_readFresh 83 = .ok (.aload_n 0, 1) := dk_42 (dk_at dksX5_readFresh_3 12 rfl rfl)
theorem dX5_readFresh_84 : decode cX5_readFresh 84 = .ok (.getfield 173, 3) := dk_180 0 173 (dk_at dksX5_readFresh_3 13 rfl rfl)
theorem dX5_readFresh_87 : decode cX5_readFresh 87 = .ok (.getfield 187, 3) := dk_180 0 187 (dk_at dksX5_readFresh_3 16 rfl rfl)
theorem dX5_readFresh_90 : decode cX5_readFresh 90 = .ok (.iload_n 2, 1) := dk_28 (dk_at dksX5_readFresh_3 19 rfl rfl)
theorem dX5_readFresh_91 : decode cX5_readFresh 91 = .ok (.iastore, 1) := dk_79 (dk_at dksX5_readFresh_3 20 rfl rfl)
theorem dX5_readFresh_92 : decode cX5_readFresh 92 = .ok (.aload_n 0, 1) := dk_42 (dk_at dksX5_readFresh_3 21 rfl rfl)
theorem dX5_readFresh_93 : decode cX5_readFresh 93 = .ok (.getfield 173, 3) := dk_180 0 173 (dk_at dksX5_readFresh_4 0 rfl rfl)
theorem dX5_readFresh_96 : decode cX5_readFresh 96 = .ok (.dup, 1) := dk_89 (dk_at dksX5_readFresh_4 3 rfl rfl)
theorem dX5_readFresh_97 : decode cX5_readFresh 97 = .ok (.getfield 187, 3) := dk_180 0 187 (dk_at dksX5_readFresh_4 4 rfl rfl)
theorem dX5_readFresh_100 : decode cX5_readFresh 100 = .ok (.iconst 1, 1) := dk_4 (dk_at dksX5_readFresh_4 7 rfl rfl)
theorem dX5_readFresh_101 : decode cX5_readFresh 101 = .ok (.iadd, 1) := dk_96 (dk_at dksX5_readFresh_4 8 rfl rfl)
theorem dX5_readFresh_102 : decode cX5_readFresh 102 = .ok (.putfield 187, 3) := dk_181 0 187 (dk_at dksX5_readFresh_4 9 rfl rfl)
theorem dX5_readFresh_105 : decode cX5_readFresh 105 = .ok (.aload_n 0, 1) := dk_42 (dk_at dksX5_readFresh_4 12 rfl rfl)
theorem dX5_readFresh_106 : decode cX5_readFresh 106 = .ok (.invokevirtual 128, 3) := dk_182 0 128 (dk_at dksX5_readFresh_4 13 rfl rfl)
theorem dX5_readFresh_109 : decode cX5_readFresh 109 = .ok (.return_, 1) := dk_177 (dk_at dksX5_readFresh_4 16 rfl rfl)
abbrev cX5_isName : ByteArray := prog_15_method_23_code
def yX5_isName : MethodName := ⟨RX5, "isName", "()Z"⟩
def dkwX5_isName_5 : List UInt8 := [4, 167, 0, 4, 3, 172]
abbrev dktX5_isName_5 : List UInt8 := dkwX5_isName_5 ++ []
def dkwX5_isName_4 : List UInt8 := [182, 0, 124, 154, 0, 25, 42, 18, 165, 182, 0, 124, 154, 0, 16, 42, 18, 167, 182, 0, 124, 154, 0, 7]
abbrev dktX5_isName_4 : List UInt8 := dkwX5_isName_4 ++ dktX5_isName_5
def dkwX5_isName_3 : List UInt8 := [154, 0, 52, 42, 18, 159, 182, 0, 124, 154, 0, 43, 42, 18, 161, 182, 0, 124, 154, 0, 34, 42, 18, 163]
abbrev dktX5_isName_3 : List UInt8 := dkwX5_isName_3 ++ dktX5_isName_4
def dkwX5_isName_2 : List UInt8 := [182, 0, 124, 154, 0, 12, 42, 18, 155, 182, 0, 124, 153, 0, 5, 3, 172, 42, 18, 157, 182, 0, 124]
abbrev dktX5_isName_2 : List UInt8 := dkwX5_isName_2 ++ dktX5_isName_3
def dkwX5_isName_1 : List UInt8 := [154, 0, 39, 42, 18, 149, 182, 0, 124, 154, 0, 30, 42, 18, 151, 182, 0, 124, 154, 0, 21, 42, 18, 153]
abbrev dktX5_isName_1 : List UInt8 := dkwX5_isName_1 ++ dktX5_isName_2
def dkwX5_isName_0 : List UInt8 := [42, 180, 0, 85, 5, 160, 0, 57, 42, 18, 146, 182, 0, 124, 154, 0, 48, 42, 18, 148, 182, 0, 124]
abbrev dktX5_isName_0 : List UInt8 := dkwX5_isName_0 ++ dktX5_isName_1
theorem dksX5_isName_0 : cX5_isName.data.toList.drop 0 = dktX5_isName_0 := by decide +kernel
theorem dksX5_isName_1 : cX5_isName.data.toList.drop 23 = dktX5_isName_1 := dk_seg dksX5_isName_0 23 rfl rfl
theorem dksX5_isName_2 : cX5_isName.data.toList.drop 47 = dktX5_isName_2 := dk_seg dksX5_isName_1 24 rfl rfl
theorem dksX5_isName_3 : cX5_isName.data.toList.drop 70 = dktX5_isName_3 := dk_seg dksX5_isName_2 23 rfl rfl
theorem dksX5_isName_4 : cX5_isName.data.toList.drop 94 = dktX5_isName_4 := dk_seg dksX5_isName_3 24 rfl rfl
theorem dksX5_isName_5 : cX5_isName.data.toList.drop 118 = dktX5_isName_5 := dk_seg dksX5_isName_4 24 rfl rfl
theorem dX5_isName_0 : decode cX5_isName 0 = .ok (.aload_n 0, 1) := dk_42 (dk_at dksX5_isName_0 0 rfl rfl)
theorem dX5_isName_1 : decode cX5_isName 1 = .ok (.getfield 85, 3) := dk_180 0 85 (dk_at dksX5_isName_0 1 rfl rfl)
theorem dX5_isName_4 : decode cX5_isName 4 = .ok (.iconst 2, 1) := dk_5 (dk_at dksX5_isName_0 4 rfl rfl)
theorem dX5_isName_5 : decode cX5_isName 5 = .ok (.if_icmp .ne 57, 3) := dk_160 0 57 (dk_at dksX5_isName_0 5 rfl rfl)
theorem dX5_isName_8 : decode cX5_isName 8 = .ok (.aload_n 0, 1) := dk_42 (dk_at dksX5_isName_0 8 rfl rfl)
theorem dX5_isName_9 : decode cX5_isName 9 = .ok (.ldc 146, 2) := dk_18 146 (dk_at dksX5_isName_0 9 rfl rfl)
theorem dX5_isName_11 : decode cX5_isName 11 = .ok (.invokevirtual 124, 3) := dk_182 0 124 (dk_at dksX5_isName_0 11 rfl rfl)
theorem dX5_isName_14 : decode cX5_isName 14 = .ok (.ifCond .ne 48, 3) := dk_154 0 48 (dk_at dksX5_isName_0 14 rfl rfl)
theorem dX5_isName_17 : decode cX5_isName 17 = .ok (.aload_n 0, 1) := dk_42 (dk_at dksX5_isName_0 17 rfl rfl)
theorem dX5_isName_18 : decode cX5_isName 18 = .ok (.ldc 148, 2) := dk_18 148 (dk_at dksX5_isName_0 18 rfl rfl)
theorem dX5_isName_20 : decode cX5_isName 20 = .ok (.invokevirtual 124, 3) := dk_182 0 124 (dk_at dksX5_isName_0 20 rfl rfl)
theorem dX5_isName_23 : decode cX5_isName 23 = .ok (.ifCond .ne 39, 3) := dk_154 0 39 (dk_at dksX5_isName_1 0 rfl rfl)
theorem dX5_isName_26 : decode cX5_isName 26 = .ok (.aload_n 0, 1) := dk_42 (dk_at dksX5_isName_1 3 rfl rfl)
theorem dX5_isName_27 : decode cX5_isName 27 = .ok (.ldc 149, 2) := dk_18 149 (dk_at dksX5_isName_1 4 rfl rfl)
theorem dX5_isName_29 : decode cX5_isName 29 = .ok (.invokevirtual 124, 3) := dk_182 0 124 (dk_at dksX5_isName_1 6 rfl rfl)
theorem dX5_isName_32 : decode cX5_isName 32 = .ok (.ifCond .ne 30, 3) := dk_154 0 30 (dk_at dksX5_isName_1 9 rfl rfl)
theorem dX5_isName_35 : decode cX5_isName 35 = .ok (.aload_n 0, 1) := dk_42 (dk_at dksX5_isName_1 12 rfl rfl)
theorem dX5_isName_36 : decode cX5_isName 36 = .ok (.ldc 151, 2) := dk_18 151 (dk_at dksX5_isName_1 13 rfl rfl)
theorem dX5_isName_38 : decode cX5_isName 38 = .ok (.invokevirtual 124, 3) := dk_182 0 124 (dk_at dksX5_isName_1 15 rfl rfl)
theorem dX5_isName_41 : decode cX5_isName 41 = .ok (.ifCond .ne 21, 3) := dk_154 0 21 (dk_at dksX5_isName_1 18 rfl rfl)
theorem dX5_isName_44 : decode cX5_isName 44 = .ok (.aload_n 0, 1) := dk_42 (dk_at dksX5_isName_1 21 rfl rfl)
theorem dX5_isName_45 : decode cX5_isName 45 = .ok (.ldc 153, 2) := dk_18 153 (dk_at dksX5_isName_1 22 rfl rfl)
theorem dX5_isName_47 : decode cX5_isName 47 = .ok (.invokevirtual 124, 3) := dk_182 0 124 (dk_at dksX5_isName_2 0 rfl rfl)
theorem dX5_isName_50 : decode cX5_isName 50 = .ok (.ifCond .ne 12, 3) := dk_154 0 12 (dk_at dksX5_isName_2 3 rfl rfl)
theorem dX5_isName_53 : decode cX5_isName 53 = .ok (.aload_n 0, 1) := dk_42 (dk_at dksX5_isName_2 6 rfl rfl)
theorem dX5_isName_54 : decode cX5_isName 54 = .ok (.ldc 155, 2) := dk_18 155 (dk_at dksX5_isName_2 7 rfl rfl)
theorem dX5_isName_56 : decode cX5_isName 56 = .ok (.invokevirtual 124, 3) := dk_182 0 124 (dk_at dksX5_isName_2 9 rfl rfl)
theorem dX5_isName_59 : decode cX5_isName 59 = .ok (.ifCond .eq 5, 3) := dk_153 0 5 (dk_at dksX5_isName_2 12 rfl rfl)
theorem dX5_isName_62 : decode cX5_isName 62 = .ok (.iconst 0, 1) := dk_3 (dk_at dksX5_isName_2 15 rfl rfl)
theorem dX5_isName_63 : decode cX5_isName 63 = .ok (.ireturn, 1) := dk_172 (dk_at dksX5_isName_2 16 rfl rfl)
theorem dX5_isName_64 : decode cX5_isName 64 = .ok (.aload_n 0, 1) := dk_42 (dk_at dksX5_isName_2 17 rfl rfl)
theorem dX5_isName_65 : decode cX5_isName 65 = .ok (.ldc 157, 2) := dk_18 157 (dk_at dksX5_isName_2 18 rfl rfl)
theorem dX5_isName_67 : decode cX5_isName 67 = .ok (.invokevirtual 124, 3) := dk_182 0 124 (dk_at dksX5_isName_2 20 rfl rfl)
theorem dX5_isName_70 : decode cX5_isName 70 = .ok (.ifCond .ne 52, 3) := dk_154 0 52 (dk_at dksX5_isName_3 0 rfl rfl)
theorem dX5_isName_73 : decode cX5_isName 73 = .ok (.aload_n 0, 1) := dk_42 (dk_at dksX5_isName_3 3 rfl rfl)
theorem dX5_isName_74 : decode cX5_isName 74 = .ok (.ldc 159, 2) := dk_18 159 (dk_at dksX5_isName_3 4 rfl rfl)
theorem dX5_isName_76 : decode cX5_isName 76 = .ok (.invokevirtual 124, 3) := dk_182 0 124 (dk_at dksX5_isName_3 6 rfl rfl)
theorem dX5_isName_79 : decode cX5_isName 79 = .ok (.ifCond .ne 43, 3) := dk_154 0 43 (dk_at dksX5_isName_3 9 rfl rfl)
theorem dX5_isName_82 : decode cX5_isName 82 = .ok (.aload_n 0, 1) := dk_42 (dk_at dksX5_isName_3 12 rfl rfl)
theorem dX5_isName_83 : decode cX5_isName 83 = .ok (.ldc 161, 2) := dk_18 161 (dk_at dksX5_isName_3 13 rfl rfl)
theorem dX5_isName_85 : decode cX5_isName 85 = .ok (.invokevirtual 124, 3) := dk_182 0 124 (dk_at dksX5_isName_3 15 rfl rfl)
theorem dX5_isName_88 : decode cX5_isName 88 = .ok (.ifCond .ne 34, 3) := dk_154 0 34 (dk_at dksX5_isName_3 18 rfl rfl)
theorem dX5_isName_91 : decode cX5_isName 91 = .ok (.aload_n 0, 1) := dk_42 (dk_at dksX5_isName_3 21 rfl rfl)
theorem dX5_isName_92 : decode cX5_isName 92 = .ok (.ldc 163, 2) := dk_18 163 (dk_at dksX5_isName_3 22 rfl rfl)
theorem dX5_isName_94 : decode cX5_isName 94 = .ok (.invokevirtual 124, 3) := dk_182 0 124 (dk_at dksX5_isName_4 0 rfl rfl)
theorem dX5_isName_97 : decode cX5_isName 97 = .ok (.ifCond .ne 25, 3) := dk_154 0 25 (dk_at dksX5_isName_4 3 rfl rfl)
theorem dX5_isName_100 : decode cX5_isName 100 = .ok (.aload_n 0, 1) := dk_42 (dk_at dksX5_isName_4 6 rfl rfl)
theorem dX5_isName_101 : decode cX5_isName 101 = .ok (.ldc 165, 2) := dk_18 165 (dk_at dksX5_isName_4 7 rfl rfl)
theorem dX5_isName_103 : decode cX5_isName 103 = .ok (.invokevirtual 124, 3) := dk_182 0 124 (dk_at dksX5_isName_4 9 rfl rfl)
theorem dX5_isName_106 : decode cX5_isName 106 = .ok (.ifCond .ne 16, 3) := dk_154 0 16 (dk_at dksX5_isName_4 12 rfl rfl)
theorem dX5_isName_109 : decode cX5_isName 109 = .ok (.aload_n 0, 1) := dk_42 (dk_at dksX5_isName_4 15 rfl rfl)
theorem dX5_isName_110 : decode cX5_isName 110 = .ok (.ldc 167, 2) := dk_18 167 (dk_at dksX5_isName_4 16 rfl rfl)
theorem dX5_isName_112 : decode cX5_isName 112 = .ok (.invokevirtual 124, 3) := dk_182 0 124 (dk_at dksX5_isName_4 18 rfl rfl)
theorem dX5_isName_115 : decode cX5_isName 115 = .ok (.ifCond .ne 7, 3) := dk_154 0 7 (dk_at dksX5_isName_4 21 rfl rfl)
theorem dX5_isName_118 : decode cX5_isName 118 = .ok (.iconst 1, 1) := dk_4 (dk_at dksX5_isName_5 0 rfl rfl)
theorem dX5_isName_119 : decode cX5_isName 119 = .ok (.goto 4, 3) := dk_167 0 4 (dk_at dksX5_isName_5 1 rfl rfl)
theorem dX5_isName_122 : decode cX5_isName 122 = .ok (.iconst 0, 1) := dk_3 (dk_at dksX5_isName_5 4 rfl rfl)
theorem dX5_isName_123 : decode cX5_isName 123 = .ok (.ireturn, 1) := dk_172 (dk_at dksX5_isName_5 5 rfl rfl)
abbrev cX5_needsSign : ByteArray := prog_15_method_20_code
def yX5_needsSign : MethodName := ⟨RX5, "needsSign", "(I)V"⟩
def dkwX5_needsSign_1 : List UInt8 := [182, 0, 128, 177]
abbrev dktX5_needsSign_1 : List UInt8 := dkwX5_needsSign_1 ++ []
def dkwX5_needsSign_0 : List UInt8 := [42, 180, 0, 85, 7, 160, 0, 11, 42, 180, 0, 97, 27, 159, 0, 8, 42, 4, 182, 0, 131, 42]
abbrev dktX5_needsSign_0 : List UInt8 := dkwX5_needsSign_0 ++ dktX5_needsSign_1
theorem dksX5_needsSign_0 : cX5_needsSign.data.toList.drop 0 = dktX5_needsSign_0 := by decide +kernel
theorem dksX5_needsSign_1 : cX5_needsSign.data.toList.drop 22 = dktX5_needsSign_1 := dk_seg dksX5_needsSign_0 22 rfl rfl
theorem dX5_needsSign_0 : decode cX5_needsSign 0 = .ok (.aload_n 0, 1) := dk_42 (dk_at dksX5_needsSign_0 0 rfl rfl)
theorem dX5_needsSign_1 : decode cX5_needsSign 1 = .ok (.getfield 85, 3) := dk_180 0 85 (dk_at dksX5_needsSign_0 1 rfl rfl)
theorem dX5_needsSign_4 : decode cX5_needsSign 4 = .ok (.iconst 4, 1) := dk_7 (dk_at dksX5_needsSign_0 4 rfl rfl)
theorem dX5_needsSign_5 : decode cX5_needsSign 5 = .ok (.if_icmp .ne 11, 3) := dk_160 0 11 (dk_at dksX5_needsSign_0 5 rfl rfl)
theorem dX5_needsSign_8 : decode cX5_needsSign 8 = .ok (.aload_n 0, 1) := dk_42 (dk_at dksX5_needsSign_0 8 rfl rfl)
theorem dX5_needsSign_9 : decode cX5_needsSign 9 = .ok (.getfield 97, 3) := dk_180 0 97 (dk_at dksX5_needsSign_0 9 rfl rfl)
theorem dX5_needsSign_12 : decode cX5_needsSign 12 = .ok (.iload_n 1, 1) := dk_27 (dk_at dksX5_needsSign_0 12 rfl rfl)
theorem dX5_needsSign_13 : decode cX5_needsSign 13 = .ok (.if_icmp .eq 8, 3) := dk_159 0 8 (dk_at dksX5_needsSign_0 13 rfl rfl)
theorem dX5_needsSign_16 : decode cX5_needsSign 16 = .ok (.aload_n 0, 1) := dk_42 (dk_at dksX5_needsSign_0 16 rfl rfl)
theorem dX5_needsSign_17 : decode cX5_needsSign 17 = .ok (.iconst 1, 1) := dk_4 (dk_at dksX5_needsSign_0 17 rfl rfl)
theorem dX5_needsSign_18 : decode cX5_needsSign 18 = .ok (.invokevirtual 131, 3) := dk_182 0 131 (dk_at dksX5_needsSign_0 18 rfl rfl)
theorem dX5_needsSign_21 : decode cX5_needsSign 21 = .ok (.aload_n 0, 1) := dk_42 (dk_at dksX5_needsSign_0 21 rfl rfl)
theorem dX5_needsSign_22 : decode cX5_needsSign 22 = .ok (.invokevirtual 128, 3) := dk_182 0 128 (dk_at dksX5_needsSign_1 0 rfl rfl)
theorem dX5_needsSign_25 : decode cX5_needsSign 25 = .ok (.return_, 1) := dk_177 (dk_at dksX5_needsSign_1 3 rfl rfl)
abbrev cX5_readWall : ByteArray := prog_15_method_33_code
def yX5_readWall : MethodName := ⟨RX5, "readWall", "()V"⟩
def dkwX5_readWall_4 : List UInt8 := [96, 181, 1, 33, 177]
abbrev dktX5_readWall_4 : List UInt8 := dkwX5_readWall_4 ++ []
def dkwX5_readWall_3 : List UInt8 := [180, 0, 173, 180, 1, 39, 42, 180, 0, 173, 180, 1, 33, 27, 79, 42, 180, 0, 173, 89, 180, 1, 33, 4]
abbrev dktX5_readWall_3 : List UInt8 := dkwX5_readWall_3 ++ dktX5_readWall_4
def dkwX5_readWall_2 : List UInt8 := [160, 0, 4, 177, 42, 180, 0, 173, 180, 1, 36, 42, 180, 0, 173, 180, 1, 33, 42, 180, 0, 202, 79, 42]
abbrev dktX5_readWall_2 : List UInt8 := dkwX5_readWall_2 ++ dktX5_readWall_3
def dkwX5_readWall_1 : List UInt8 := [180, 0, 173, 180, 1, 39, 42, 180, 0, 173, 180, 1, 33, 182, 1, 42, 60, 42, 180, 0, 85, 8]
abbrev dktX5_readWall_1 : List UInt8 := dkwX5_readWall_1 ++ dktX5_readWall_2
def dkwX5_readWall_0 : List UInt8 := [42, 42, 180, 0, 173, 180, 1, 33, 16, 10, 182, 1, 19, 42, 3, 42, 180, 0, 173, 180, 1, 36, 42]
abbrev dktX5_readWall_0 : List UInt8 := dkwX5_readWall_0 ++ dktX5_readWall_1
theorem dksX5_readWall_0 : cX5_readWall.data.toList.drop 0 = dktX5_readWall_0 := by decide +kernel
theorem dksX5_readWall_1 : cX5_readWall.data.toList.drop 23 = dktX5_readWall_1 := dk_seg dksX5_readWall_0 23 rfl rfl
theorem dksX5_readWall_2 : cX5_readWall.data.toList.drop 45 = dktX5_readWall_2 := dk_seg dksX5_readWall_1 22 rfl rfl
theorem dksX5_readWall_3 : cX5_readWall.data.toList.drop 69 = dktX5_readWall_3 := dk_seg dksX5_readWall_2 24 rfl rfl
theorem dksX5_readWall_4 : cX5_readWall.data.toList.drop 93 = dktX5_readWall_4 := dk_seg dksX5_readWall_3 24 rfl rfl
theorem dX5_readWall_0 : decode cX5_readWall 0 = .ok (.aload_n 0, 1) := dk_42 (dk_at dksX5_readWall_0 0 rfl rfl)
theorem dX5_readWall_1 : decode cX5_readWall 1 = .ok (.aload_n 0, 1) := dk_42 (dk_at dksX5_readWall_0 1 rfl rfl)
theorem dX5_readWall_2 : decode cX5_readWall 2 = .ok (.getfield 173, 3) := dk_180 0 173 (dk_at dksX5_readWall_0 2 rfl rfl)
theorem dX5_readWall_5 : decode cX5_readWall 5 = .ok (.getfield 289, 3) := dk_180 1 33 (dk_at dksX5_readWall_0 5 rfl rfl)
theorem dX5_readWall_8 : decode cX5_readWall 8 = .ok (.bipush 10, 2) := dk_16 10 (dk_at dksX5_readWall_0 8 rfl rfl)
theorem dX5_readWall_10 : decode cX5_readWall 10 = .ok (.invokevirtual 275, 3) := dk_182 1 19 (dk_at dksX5_readWall_0 10 rfl rfl)
theorem dX5_readWall_13 : decode cX5_readWall 13 = .ok (.aload_n 0, 1) := dk_42 (dk_at dksX5_readWall_0 13 rfl rfl)
theorem dX5_readWall_14 : decode cX5_readWall 14 = .ok (.iconst 0, 1) := dk_3 (dk_at dksX5_readWall_0 14 rfl rfl)
theorem dX5_readWall_15 : decode cX5_readWall 15 = .ok (.aload_n 0, 1) := dk_42 (dk_at dksX5_readWall_0 15 rfl rfl)
theorem dX5_readWall_16 : decode cX5_readWall 16 = .ok (.getfield 173, 3) := dk_180 0 173 (dk_at dksX5_readWall_0 16 rfl rfl)
theorem dX5_readWall_19 : decode cX5_readWall 19 = .ok (.getfield 292, 3) := dk_180 1 36 (dk_at dksX5_readWall_0 19 rfl rfl)
theorem dX5_readWall_22 : decode cX5_readWall 22 = .ok (.aload_n 0, 1) := dk_42 (dk_at dksX5_readWall_0 22 rfl rfl)
theorem dX5_readWall_23 : decode cX5_readWall 23 = .ok (.getfield 173, 3) := dk_180 0 173 (dk_at dksX5_readWall_1 0 rfl rfl)
theorem dX5_readWall_26 : decode cX5_readWall 26 = .ok (.getfield 295, 3) := dk_180 1 39 (dk_at dksX5_readWall_1 3 rfl rfl)
theorem dX5_readWall_29 : decode cX5_readWall 29 = .ok (.aload_n 0, 1) := dk_42 (dk_at dksX5_readWall_1 6 rfl rfl)
theorem dX5_readWall_30 : decode cX5_readWall 30 = .ok (.getfield 173, 3) := dk_180 0 173 (dk_at dksX5_readWall_1 7 rfl rfl)
theorem dX5_readWall_33 : decode cX5_readWall 33 = .ok (.getfield 289, 3) := dk_180 1 33 (dk_at dksX5_readWall_1 10 rfl rfl)
theorem dX5_readWall_36 : decode cX5_readWall 36 = .ok (.invokevirtual 298, 3) := dk_182 1 42 (dk_at dksX5_readWall_1 13 rfl rfl)
theorem dX5_readWall_39 : decode cX5_readWall 39 = .ok (.istore_n 1, 1) := dk_60 (dk_at dksX5_readWall_1 16 rfl rfl)
theorem dX5_readWall_40 : decode cX5_readWall 40 = .ok (.aload_n 0, 1) := dk_42 (dk_at dksX5_readWall_1 17 rfl rfl)
theorem dX5_readWall_41 : decode cX5_readWall 41 = .ok (.getfield 85, 3) := dk_180 0 85 (dk_at dksX5_readWall_1 18 rfl rfl)
theorem dX5_readWall_44 : decode cX5_readWall 44 = .ok (.iconst 5, 1) := dk_8 (dk_at dksX5_readWall_1 21 rfl rfl)
theorem dX5_readWall_45 : decode cX5_readWall 45 = .ok (.if_icmp .ne 4, 3) := dk_160 0 4 (dk_at dksX5_readWall_2 0 rfl rfl)
theorem dX5_readWall_48 : decode cX5_readWall 48 = .ok (.return_, 1) := dk_177 (dk_at dksX5_readWall_2 3 rfl rfl)
theorem dX5_readWall_49 : decode cX5_readWall 49 = .ok (.aload_n 0, 1) := dk_42 (dk_at dksX5_readWall_2 4 rfl rfl)
theorem dX5_readWall_50 : decode cX5_readWall 50 = .ok (.getfield 173, 3) := dk_180 0 173 (dk_at dksX5_readWall_2 5 rfl rfl)
theorem dX5_readWall_53 : decode cX5_readWall 53 = .ok (.getfield 292, 3) := dk_180 1 36 (dk_at dksX5_readWall_2 8 rfl rfl)
theorem dX5_readWall_56 : decode cX5_readWall 56 = .ok (.aload_n 0, 1) := dk_42 (dk_at dksX5_readWall_2 11 rfl rfl)
theorem dX5_readWall_57 : decode cX5_readWall 57 = .ok (.getfield 173, 3) := dk_180 0 173 (dk_at dksX5_readWall_2 12 rfl rfl)
theorem dX5_readWall_60 : decode cX5_readWall 60 = .ok (.getfield 289, 3) := dk_180 1 33 (dk_at dksX5_readWall_2 15 rfl rfl)
theorem dX5_readWall_63 : decode cX5_readWall 63 = .ok (.aload_n 0, 1) := dk_42 (dk_at dksX5_readWall_2 18 rfl rfl)
theorem dX5_readWall_64 : decode cX5_readWall 64 = .ok (.getfield 202, 3) := dk_180 0 202 (dk_at dksX5_readWall_2 19 rfl rfl)
theorem dX5_readWall_67 : decode cX5_readWall 67 = .ok (.iastore, 1) := dk_79 (dk_at dksX5_readWall_2 22 rfl rfl)
theorem dX5_readWall_68 : decode cX5_readWall 68 = .ok (.aload_n 0, 1) := dk_42 (dk_at dksX5_readWall_2 23 rfl rfl)
theorem dX5_readWall_69 : decode cX5_readWall 69 = .ok (.getfield 173, 3) := dk_180 0 173 (dk_at dksX5_readWall_3 0 rfl rfl)
theorem dX5_readWall_72 : decode cX5_readWall 72 = .ok (.getfield 295, 3) := dk_180 1 39 (dk_at dksX5_readWall_3 3 rfl rfl)
theorem dX5_readWall_75 : decode cX5_readWall 75 = .ok (.aload_n 0, 1) := dk_42 (dk_at dksX5_readWall_3 6 rfl rfl)
theorem dX5_readWall_76 : decode cX5_readWall 76 = .ok (.getfield 173, 3) := dk_180 0 173 (dk_at dksX5_readWall_3 7 rfl rfl)
theorem dX5_readWall_79 : decode cX5_readWall 79 = .ok (.getfield 289, 3) := dk_180 1 33 (dk_at dksX5_readWall_3 10 rfl rfl)
theorem dX5_readWall_82 : decode cX5_readWall 82 = .ok (.iload_n 1, 1) := dk_27 (dk_at dksX5_readWall_3 13 rfl rfl)
theorem dX5_readWall_83 : decode cX5_readWall 83 = .ok (.iastore, 1) := dk_79 (dk_at dksX5_readWall_3 14 rfl rfl)
theorem dX5_readWall_84 : decode cX5_readWall 84 = .ok (.aload_n 0, 1) := dk_42 (dk_at dksX5_readWall_3 15 rfl rfl)
theorem dX5_readWall_85 : decode cX5_readWall 85 = .ok (.getfield 173, 3) := dk_180 0 173 (dk_at dksX5_readWall_3 16 rfl rfl)
theorem dX5_readWall_88 : decode cX5_readWall 88 = .ok (.dup, 1) := dk_89 (dk_at dksX5_readWall_3 19 rfl rfl)
theorem dX5_readWall_89 : decode cX5_readWall 89 = .ok (.getfield 289, 3) := dk_180 1 33 (dk_at dksX5_readWall_3 20 rfl rfl)
theorem dX5_readWall_92 : decode cX5_readWall 92 = .ok (.iconst 1, 1) := dk_4 (dk_at dksX5_readWall_3 23 rfl rfl)
theorem dX5_readWall_93 : decode cX5_readWall 93 = .ok (.iadd, 1) := dk_96 (dk_at dksX5_readWall_4 0 rfl rfl)
theorem dX5_readWall_94 : decode cX5_readWall 94 = .ok (.putfield 289, 3) := dk_181 1 33 (dk_at dksX5_readWall_4 1 rfl rfl)
theorem dX5_readWall_97 : decode cX5_readWall 97 = .ok (.return_, 1) := dk_177 (dk_at dksX5_readWall_4 4 rfl rfl)
abbrev cX5_readTwo : ByteArray := prog_15_method_28_code
def yX5_readTwo : MethodName := ⟨RX5, "readTwo", "(I[I[II)I"⟩
def dkwX5_readTwo_5 : List UInt8 := [182, 0, 128, 21, 5, 172]
abbrev dktX5_readTwo_5 : List UInt8 := dkwX5_readTwo_5 ++ []
def dkwX5_readTwo_4 : List UInt8 := [167, 0, 4, 3, 54, 6, 132, 7, 1, 167, 255, 194, 21, 6, 153, 0, 8, 42, 6, 182, 0, 131, 42]
abbrev dktX5_readTwo_4 : List UInt8 := dkwX5_readTwo_4 ++ dktX5_readTwo_5
def dkwX5_readTwo_3 : List UInt8 := [159, 0, 23, 44, 21, 7, 46, 21, 5, 160, 0, 18, 45, 21, 7, 46, 42, 180, 0, 202, 160, 0, 7, 4]
abbrev dktX5_readTwo_3 : List UInt8 := dkwX5_readTwo_3 ++ dktX5_readTwo_4
def dkwX5_readTwo_2 : List UInt8 := [21, 6, 154, 0, 43, 44, 21, 7, 46, 42, 180, 0, 202, 160, 0, 12, 45, 21, 7, 46, 21, 5]
abbrev dktX5_readTwo_2 : List UInt8 := dkwX5_readTwo_2 ++ dktX5_readTwo_3
def dkwX5_readTwo_1 : List UInt8 := [42, 180, 0, 202, 160, 0, 7, 4, 167, 0, 4, 3, 54, 6, 3, 54, 7, 21, 7, 21, 4, 162, 0, 61]
abbrev dktX5_readTwo_1 : List UInt8 := dkwX5_readTwo_1 ++ dktX5_readTwo_2
def dkwX5_readTwo_0 : List UInt8 := [42, 42, 27, 182, 0, 199, 181, 0, 202, 42, 16, 44, 182, 0, 205, 42, 27, 182, 0, 196, 54, 5, 21, 5]
abbrev dktX5_readTwo_0 : List UInt8 := dkwX5_readTwo_0 ++ dktX5_readTwo_1
theorem dksX5_readTwo_0 : cX5_readTwo.data.toList.drop 0 = dktX5_readTwo_0 := by decide +kernel
theorem dksX5_readTwo_1 : cX5_readTwo.data.toList.drop 24 = dktX5_readTwo_1 := dk_seg dksX5_readTwo_0 24 rfl rfl
theorem dksX5_readTwo_2 : cX5_readTwo.data.toList.drop 48 = dktX5_readTwo_2 := dk_seg dksX5_readTwo_1 24 rfl rfl
theorem dksX5_readTwo_3 : cX5_readTwo.data.toList.drop 70 = dktX5_readTwo_3 := dk_seg dksX5_readTwo_2 22 rfl rfl
theorem dksX5_readTwo_4 : cX5_readTwo.data.toList.drop 94 = dktX5_readTwo_4 := dk_seg dksX5_readTwo_3 24 rfl rfl
theorem dksX5_readTwo_5 : cX5_readTwo.data.toList.drop 117 = dktX5_readTwo_5 := dk_seg dksX5_readTwo_4 23 rfl rfl
theorem dX5_readTwo_0 : decode cX5_readTwo 0 = .ok (.aload_n 0, 1) := dk_42 (dk_at dksX5_readTwo_0 0 rfl rfl)
theorem dX5_readTwo_1 : decode cX5_readTwo 1 = .ok (.aload_n 0, 1) := dk_42 (dk_at dksX5_readTwo_0 1 rfl rfl)
theorem dX5_readTwo_2 : decode cX5_readTwo 2 = .ok (.iload_n 1, 1) := dk_27 (dk_at dksX5_readTwo_0 2 rfl rfl)
theorem dX5_readTwo_3 : decode cX5_readTwo 3 = .ok (.invokevirtual 199, 3) := dk_182 0 199 (dk_at dksX5_readTwo_0 3 rfl rfl)
theorem dX5_readTwo_6 : decode cX5_readTwo 6 = .ok (.putfield 202, 3) := dk_181 0 202 (dk_at dksX5_readTwo_0 6 rfl rfl)
theorem dX5_readTwo_9 : decode cX5_readTwo 9 = .ok (.aload_n 0, 1) := dk_42 (dk_at dksX5_readTwo_0 9 rfl rfl)
theorem dX5_readTwo_10 : decode cX5_readTwo 10 = .ok (.bipush 44, 2) := dk_16 44 (dk_at dksX5_readTwo_0 10 rfl rfl)
theorem dX5_readTwo_12 : decode cX5_readTwo 12 = .ok (.invokevirtual 205, 3) := dk_182 0 205 (dk_at dksX5_readTwo_0 12 rfl rfl)
theorem dX5_readTwo_15 : decode cX5_readTwo 15 = .ok (.aload_n 0, 1) := dk_42 (dk_at dksX5_readTwo_0 15 rfl rfl)
theorem dX5_readTwo_16 : decode cX5_readTwo 16 = .ok (.iload_n 1, 1) := dk_27 (dk_at dksX5_readTwo_0 16 rfl rfl)
theorem dX5_readTwo_17 : decode cX5_readTwo 17 = .ok (.invokevirtual 196, 3) := dk_182 0 196 (dk_at dksX5_readTwo_0 17 rfl rfl)
theorem dX5_readTwo_20 : decode cX5_readTwo 20 = .ok (.istore 5, 2) := dk_54 5 (dk_at dksX5_readTwo_0 20 rfl rfl)
theorem dX5_readTwo_22 : decode cX5_readTwo 22 = .ok (.iload 5, 2) := dk_21 5 (dk_at dksX5_readTwo_0 22 rfl rfl)
theorem dX5_readTwo_24 : decode cX5_readTwo 24 = .ok (.aload_n 0, 1) := dk_42 (dk_at dksX5_readTwo_1 0 rfl rfl)
theorem dX5_readTwo_25 : decode cX5_readTwo 25 = .ok (.getfield 202, 3) := dk_180 0 202 (dk_at dksX5_readTwo_1 1 rfl rfl)
theorem dX5_readTwo_28 : decode cX5_readTwo 28 = .ok (.if_icmp .ne 7, 3) := dk_160 0 7 (dk_at dksX5_readTwo_1 4 rfl rfl)
theorem dX5_readTwo_31 : decode cX5_readTwo 31 = .ok (.iconst 1, 1) := dk_4 (dk_at dksX5_readTwo_1 7 rfl rfl)
theorem dX5_readTwo_32 : decode cX5_readTwo 32 = .ok (.goto 4, 3) := dk_167 0 4 (dk_at dksX5_readTwo_1 8 rfl rfl)
theorem dX5_readTwo_35 : decode cX5_readTwo 35 = .ok (.iconst 0, 1) := dk_3 (dk_at dksX5_readTwo_1 11 rfl rfl)
theorem dX5_readTwo_36 : decode cX5_readTwo 36 = .ok (.istore 6, 2) := dk_54 6 (dk_at dksX5_readTwo_1 12 rfl rfl)
theorem dX5_readTwo_38 : decode cX5_readTwo 38 = .ok (.iconst 0, 1) := dk_3 (dk_at dksX5_readTwo_1 14 rfl rfl)
theorem dX5_readTwo_39 : decode cX5_readTwo 39 = .ok (.istore 7, 2) := dk_54 7 (dk_at dksX5_readTwo_1 15 rfl rfl)
theorem dX5_readTwo_41 : decode cX5_readTwo 41 = .ok (.iload 7, 2) := dk_21 7 (dk_at dksX5_readTwo_1 17 rfl rfl)
theorem dX5_readTwo_43 : decode cX5_readTwo 43 = .ok (.iload 4, 2) := dk_21 4 (dk_at dksX5_readTwo_1 19 rfl rfl)
theorem dX5_readTwo_45 : decode cX5_readTwo 45 = .ok (.if_icmp .ge 61, 3) := dk_162 0 61 (dk_at dksX5_readTwo_1 21 rfl rfl)
theorem dX5_readTwo_48 : decode cX5_readTwo 48 = .ok (.iload 6, 2) := dk_21 6 (dk_at dksX5_readTwo_2 0 rfl rfl)
theorem dX5_readTwo_50 : decode cX5_readTwo 50 = .ok (.ifCond .ne 43, 3) := dk_154 0 43 (dk_at dksX5_readTwo_2 2 rfl rfl)
theorem dX5_readTwo_53 : decode cX5_readTwo 53 = .ok (.aload_n 2, 1) := dk_44 (dk_at dksX5_readTwo_2 5 rfl rfl)
theorem dX5_readTwo_54 : decode cX5_readTwo 54 = .ok (.iload 7, 2) := dk_21 7 (dk_at dksX5_readTwo_2 6 rfl rfl)
theorem dX5_readTwo_56 : decode cX5_readTwo 56 = .ok (.iaload, 1) := dk_46 (dk_at dksX5_readTwo_2 8 rfl rfl)
theorem dX5_readTwo_57 : decode cX5_readTwo 57 = .ok (.aload_n 0, 1) := dk_42 (dk_at dksX5_readTwo_2 9 rfl rfl)
theorem dX5_readTwo_58 : decode cX5_readTwo 58 = .ok (.getfield 202, 3) := dk_180 0 202 (dk_at dksX5_readTwo_2 10 rfl rfl)
theorem dX5_readTwo_61 : decode cX5_readTwo 61 = .ok (.if_icmp .ne 12, 3) := dk_160 0 12 (dk_at dksX5_readTwo_2 13 rfl rfl)
theorem dX5_readTwo_64 : decode cX5_readTwo 64 = .ok (.aload_n 3, 1) := dk_45 (dk_at dksX5_readTwo_2 16 rfl rfl)
theorem dX5_readTwo_65 : decode cX5_readTwo 65 = .ok (.iload 7, 2) := dk_21 7 (dk_at dksX5_readTwo_2 17 rfl rfl)
theorem dX5_readTwo_67 : decode cX5_readTwo 67 = .ok (.iaload, 1) := dk_46 (dk_at dksX5_readTwo_2 19 rfl rfl)
theorem dX5_readTwo_68 : decode cX5_readTwo 68 = .ok (.iload 5, 2) := dk_21 5 (dk_at dksX5_readTwo_2 20 rfl rfl)
theorem dX5_readTwo_70 : decode cX5_readTwo 70 = .ok (.if_icmp .eq 23, 3) := dk_159 0 23 (dk_at dksX5_readTwo_3 0 rfl rfl)
theorem dX5_readTwo_73 : decode cX5_readTwo 73 = .ok (.aload_n 2, 1) := dk_44 (dk_at dksX5_readTwo_3 3 rfl rfl)
theorem dX5_readTwo_74 : decode cX5_readTwo 74 = .ok (.iload 7, 2) := dk_21 7 (dk_at dksX5_readTwo_3 4 rfl rfl)
theorem dX5_readTwo_76 : decode cX5_readTwo 76 = .ok (.iaload, 1) := dk_46 (dk_at dksX5_readTwo_3 6 rfl rfl)
theorem dX5_readTwo_77 : decode cX5_readTwo 77 = .ok (.iload 5, 2) := dk_21 5 (dk_at dksX5_readTwo_3 7 rfl rfl)
theorem dX5_readTwo_79 : decode cX5_readTwo 79 = .ok (.if_icmp .ne 18, 3) := dk_160 0 18 (dk_at dksX5_readTwo_3 9 rfl rfl)
theorem dX5_readTwo_82 : decode cX5_readTwo 82 = .ok (.aload_n 3, 1) := dk_45 (dk_at dksX5_readTwo_3 12 rfl rfl)
theorem dX5_readTwo_83 : decode cX5_readTwo 83 = .ok (.iload 7, 2) := dk_21 7 (dk_at dksX5_readTwo_3 13 rfl rfl)
theorem dX5_readTwo_85 : decode cX5_readTwo 85 = .ok (.iaload, 1) := dk_46 (dk_at dksX5_readTwo_3 15 rfl rfl)
theorem dX5_readTwo_86 : decode cX5_readTwo 86 = .ok (.aload_n 0, 1) := dk_42 (dk_at dksX5_readTwo_3 16 rfl rfl)
theorem dX5_readTwo_87 : decode cX5_readTwo 87 = .ok (.getfield 202, 3) := dk_180 0 202 (dk_at dksX5_readTwo_3 17 rfl rfl)
theorem dX5_readTwo_90 : decode cX5_readTwo 90 = .ok (.if_icmp .ne 7, 3) := dk_160 0 7 (dk_at dksX5_readTwo_3 20 rfl rfl)
theorem dX5_readTwo_93 : decode cX5_readTwo 93 = .ok (.iconst 1, 1) := dk_4 (dk_at dksX5_readTwo_3 23 rfl rfl)
theorem dX5_readTwo_94 : decode cX5_readTwo 94 = .ok (.goto 4, 3) := dk_167 0 4 (dk_at dksX5_readTwo_4 0 rfl rfl)
theorem dX5_readTwo_97 : decode cX5_readTwo 97 = .ok (.iconst 0, 1) := dk_3 (dk_at dksX5_readTwo_4 3 rfl rfl)
theorem dX5_readTwo_98 : decode cX5_readTwo 98 = .ok (.istore 6, 2) := dk_54 6 (dk_at dksX5_readTwo_4 4 rfl rfl)
theorem dX5_readTwo_100 : decode cX5_readTwo 100 = .ok (.iinc 7 1, 3) := dk_132 7 1 (dk_at dksX5_readTwo_4 6 rfl rfl)
theorem dX5_readTwo_103 : decode cX5_readTwo 103 = .ok (.goto (-62), 3) := dk_167 255 194 (dk_at dksX5_readTwo_4 9 rfl rfl)
theorem dX5_readTwo_106 : decode cX5_readTwo 106 = .ok (.iload 6, 2) := dk_21 6 (dk_at dksX5_readTwo_4 12 rfl rfl)
theorem dX5_readTwo_108 : decode cX5_readTwo 108 = .ok (.ifCond .eq 8, 3) := dk_153 0 8 (dk_at dksX5_readTwo_4 14 rfl rfl)
theorem dX5_readTwo_111 : decode cX5_readTwo 111 = .ok (.aload_n 0, 1) := dk_42 (dk_at dksX5_readTwo_4 17 rfl rfl)
theorem dX5_readTwo_112 : decode cX5_readTwo 112 = .ok (.iconst 3, 1) := dk_6 (dk_at dksX5_readTwo_4 18 rfl rfl)
theorem dX5_readTwo_113 : decode cX5_readTwo 113 = .ok (.invokevirtual 131, 3) := dk_182 0 131 (dk_at dksX5_readTwo_4 19 rfl rfl)
theorem dX5_readTwo_116 : decode cX5_readTwo 116 = .ok (.aload_n 0, 1) := dk_42 (dk_at dksX5_readTwo_4 22 rfl rfl)
theorem dX5_readTwo_117 : decode cX5_readTwo 117 = .ok (.invokevirtual 128, 3) := dk_182 0 128 (dk_at dksX5_readTwo_5 0 rfl rfl)
theorem dX5_readTwo_120 : decode cX5_readTwo 120 = .ok (.iload 5, 2) := dk_21 5 (dk_at dksX5_readTwo_5 3 rfl rfl)
theorem dX5_readTwo_122 : decode cX5_readTwo 122 = .ok (.ireturn, 1) := dk_172 (dk_at dksX5_readTwo_5 5 rfl rfl)
abbrev cX5_readKnown : ByteArray := prog_15_method_27_code
def yX5_readKnown : MethodName := ⟨RX5, "readKnown", "(I)I"⟩
def dkwX5_readKnown_0 : List UInt8 := [42, 27, 182, 0, 196, 61, 42, 182, 0, 128, 28, 172]
abbrev dktX5_readKnown_0 : List UInt8 := dkwX5_readKnown_0 ++ []
theorem dksX5_readKnown_0 : cX5_readKnown.data.toList.drop 0 = dktX5_readKnown_0 := by decide +kernel
theorem dX5_readKnown_0 : decode cX5_readKnown 0 = .ok (.aload_n 0, 1) := dk_42 (dk_at dksX5_readKnown_0 0 rfl rfl)
theorem dX5_readKnown_1 : decode cX5_readKnown 1 = .ok (.iload_n 1, 1) := dk_27 (dk_at dksX5_readKnown_0 1 rfl rfl)
theorem dX5_readKnown_2 : decode cX5_readKnown 2 = .ok (.invokevirtual 196, 3) := dk_182 0 196 (dk_at dksX5_readKnown_0 2 rfl rfl)
theorem dX5_readKnown_5 : decode cX5_readKnown 5 = .ok (.istore_n 2, 1) := dk_61 (dk_at dksX5_readKnown_0 5 rfl rfl)
theorem dX5_readKnown_6 : decode cX5_readKnown 6 = .ok (.aload_n 0, 1) := dk_42 (dk_at dksX5_readKnown_0 6 rfl rfl)
theorem dX5_readKnown_7 : decode cX5_readKnown 7 = .ok (.invokevirtual 128, 3) := dk_182 0 128 (dk_at dksX5_readKnown_0 7 rfl rfl)
theorem dX5_readKnown_10 : decode cX5_readKnown 10 = .ok (.iload_n 2, 1) := dk_28 (dk_at dksX5_readKnown_0 10 rfl rfl)
theorem dX5_readKnown_11 : decode cX5_readKnown 11 = .ok (.ireturn, 1) := dk_172 (dk_at dksX5_readKnown_0 11 rfl rfl)
abbrev cX5_known : ByteArray := prog_15_method_26_code
def yX5_known : MethodName := ⟨RX5, "known", "(I)I"⟩
def dkwX5_known_2 : List UInt8 := [180, 0, 85, 8, 160, 0, 7, 3, 167, 0, 12, 42, 180, 0, 173, 180, 0, 193, 28, 46, 172]
abbrev dktX5_known_2 : List UInt8 := dkwX5_known_2 ++ []
def dkwX5_known_1 : List UInt8 := [28, 2, 159, 0, 16, 42, 180, 0, 173, 180, 0, 190, 28, 46, 27, 159, 0, 8, 42, 5, 182, 0, 131, 42]
abbrev dktX5_known_1 : List UInt8 := dkwX5_known_1 ++ dktX5_known_2
def dkwX5_known_0 : List UInt8 := [42, 182, 0, 169, 154, 0, 8, 42, 4, 182, 0, 131, 42, 180, 0, 173, 42, 180, 0, 104, 182, 0, 177, 61]
abbrev dktX5_known_0 : List UInt8 := dkwX5_known_0 ++ dktX5_known_1
theorem dksX5_known_0 : cX5_known.data.toList.drop 0 = dktX5_known_0 := by decide +kernel
theorem dksX5_known_1 : cX5_known.data.toList.drop 24 = dktX5_known_1 := dk_seg dksX5_known_0 24 rfl rfl
theorem dksX5_known_2 : cX5_known.data.toList.drop 48 = dktX5_known_2 := dk_seg dksX5_known_1 24 rfl rfl
theorem dX5_known_0 : decode cX5_known 0 = .ok (.aload_n 0, 1) := dk_42 (dk_at dksX5_known_0 0 rfl rfl)
theorem dX5_known_1 : decode cX5_known 1 = .ok (.invokevirtual 169, 3) := dk_182 0 169 (dk_at dksX5_known_0 1 rfl rfl)
theorem dX5_known_4 : decode cX5_known 4 = .ok (.ifCond .ne 8, 3) := dk_154 0 8 (dk_at dksX5_known_0 4 rfl rfl)
theorem dX5_known_7 : decode cX5_known 7 = .ok (.aload_n 0, 1) := dk_42 (dk_at dksX5_known_0 7 rfl rfl)
theorem dX5_known_8 : decode cX5_known 8 = .ok (.iconst 1, 1) := dk_4 (dk_at dksX5_known_0 8 rfl rfl)
theorem dX5_known_9 : decode cX5_known 9 = .ok (.invokevirtual 131, 3) := dk_182 0 131 (dk_at dksX5_known_0 9 rfl rfl)
theorem dX5_known_12 : decode cX5_known 12 = .ok (.aload_n 0, 1) := dk_42 (dk_at dksX5_known_0 12 rfl rfl)
theorem dX5_known_13 : decode cX5_known 13 = .ok (.getfield 173, 3) := dk_180 0 173 (dk_at dksX5_known_0 13 rfl rfl)
theorem dX5_known_16 : decode cX5_known 16 = .ok (.aload_n 0, 1) := dk_42 (dk_at dksX5_known_0 16 rfl rfl)
theorem dX5_known_17 : decode cX5_known 17 = .ok (.getfield 104, 3) := dk_180 0 104 (dk_at dksX5_known_0 17 rfl rfl)
theorem dX5_known_20 : decode cX5_known 20 = .ok (.invokevirtual 177, 3) := dk_182 0 177 (dk_at dksX5_known_0 20 rfl rfl)
theorem dX5_known_23 : decode cX5_known 23 = .ok (.istore_n 2, 1) := dk_61 (dk_at dksX5_known_0 23 rfl rfl)
theorem dX5_known_24 : decode cX5_known 24 = .ok (.iload_n 2, 1) := dk_28 (dk_at dksX5_known_1 0 rfl rfl)
theorem dX5_known_25 : decode cX5_known 25 = .ok (.iconst (-1), 1) := dk_2 (dk_at dksX5_known_1 1 rfl rfl)
theorem dX5_known_26 : decode cX5_known 26 = .ok (.if_icmp .eq 16, 3) := dk_159 0 16 (dk_at dksX5_known_1 2 rfl rfl)
theorem dX5_known_29 : decode cX5_known 29 = .ok (.aload_n 0, 1) := dk_42 (dk_at dksX5_known_1 5 rfl rfl)
theorem dX5_known_30 : decode cX5_known 30 = .ok (.getfield 173, 3) := dk_180 0 173 (dk_at dksX5_known_1 6 rfl rfl)
theorem dX5_known_33 : decode cX5_known 33 = .ok (.getfield 190, 3) := dk_180 0 190 (dk_at dksX5_known_1 9 rfl rfl)
theorem dX5_known_36 : decode cX5_known 36 = .ok (.iload_n 2, 1) := dk_28 (dk_at dksX5_known_1 12 rfl rfl)
theorem dX5_known_37 : decode cX5_known 37 = .ok (.iaload, 1) := dk_46 (dk_at dksX5_known_1 13 rfl rfl)
theorem dX5_known_38 : decode cX5_known 38 = .ok (.iload_n 1, 1) := dk_27 (dk_at dksX5_known_1 14 rfl rfl)
theorem dX5_known_39 : decode cX5_known 39 = .ok (.if_icmp .eq 8, 3) := dk_159 0 8 (dk_at dksX5_known_1 15 rfl rfl)
theorem dX5_known_42 : decode cX5_known 42 = .ok (.aload_n 0, 1) := dk_42 (dk_at dksX5_known_1 18 rfl rfl)
theorem dX5_known_43 : decode cX5_known 43 = .ok (.iconst 2, 1) := dk_5 (dk_at dksX5_known_1 19 rfl rfl)
theorem dX5_known_44 : decode cX5_known 44 = .ok (.invokevirtual 131, 3) := dk_182 0 131 (dk_at dksX5_known_1 20 rfl rfl)
theorem dX5_known_47 : decode cX5_known 47 = .ok (.aload_n 0, 1) := dk_42 (dk_at dksX5_known_1 23 rfl rfl)
theorem dX5_known_48 : decode cX5_known 48 = .ok (.getfield 85, 3) := dk_180 0 85 (dk_at dksX5_known_2 0 rfl rfl)
theorem dX5_known_51 : decode cX5_known 51 = .ok (.iconst 5, 1) := dk_8 (dk_at dksX5_known_2 3 rfl rfl)
theorem dX5_known_52 : decode cX5_known 52 = .ok (.if_icmp .ne 7, 3) := dk_160 0 7 (dk_at dksX5_known_2 4 rfl rfl)
theorem dX5_known_55 : decode cX5_known 55 = .ok (.iconst 0, 1) := dk_3 (dk_at dksX5_known_2 7 rfl rfl)
theorem dX5_known_56 : decode cX5_known 56 = .ok (.goto 12, 3) := dk_167 0 12 (dk_at dksX5_known_2 8 rfl rfl)
theorem dX5_known_59 : decode cX5_known 59 = .ok (.aload_n 0, 1) := dk_42 (dk_at dksX5_known_2 11 rfl rfl)
theorem dX5_known_60 : decode cX5_known 60 = .ok (.getfield 173, 3) := dk_180 0 173 (dk_at dksX5_known_2 12 rfl rfl)
theorem dX5_known_63 : decode cX5_known 63 = .ok (.getfield 193, 3) := dk_180 0 193 (dk_at dksX5_known_2 15 rfl rfl)
theorem dX5_known_66 : decode cX5_known 66 = .ok (.iload_n 2, 1) := dk_28 (dk_at dksX5_known_2 18 rfl rfl)
theorem dX5_known_67 : decode cX5_known 67 = .ok (.iaload, 1) := dk_46 (dk_at dksX5_known_2 19 rfl rfl)
theorem dX5_known_68 : decode cX5_known 68 = .ok (.ireturn, 1) := dk_172 (dk_at dksX5_known_2 20 rfl rfl)
abbrev cX5_readWay : ByteArray := prog_15_method_34_code
def yX5_readWay : MethodName := ⟨RX5, "readWay", "()V"⟩
def dkwX5_readWay_4 : List UInt8 := [96, 181, 1, 46, 177]
abbrev dktX5_readWay_4 : List UInt8 := dkwX5_readWay_4 ++ []
def dkwX5_readWay_3 : List UInt8 := [180, 0, 173, 180, 1, 52, 42, 180, 0, 173, 180, 1, 46, 27, 79, 42, 180, 0, 173, 89, 180, 1, 46, 4]
abbrev dktX5_readWay_3 : List UInt8 := dkwX5_readWay_3 ++ dktX5_readWay_4
def dkwX5_readWay_2 : List UInt8 := [160, 0, 4, 177, 42, 180, 0, 173, 180, 1, 49, 42, 180, 0, 173, 180, 1, 46, 42, 180, 0, 202, 79, 42]
abbrev dktX5_readWay_2 : List UInt8 := dkwX5_readWay_2 ++ dktX5_readWay_3
def dkwX5_readWay_1 : List UInt8 := [180, 0, 173, 180, 1, 52, 42, 180, 0, 173, 180, 1, 46, 182, 1, 42, 60, 42, 180, 0, 85, 8]
abbrev dktX5_readWay_1 : List UInt8 := dkwX5_readWay_1 ++ dktX5_readWay_2
def dkwX5_readWay_0 : List UInt8 := [42, 42, 180, 0, 173, 180, 1, 46, 16, 16, 182, 1, 19, 42, 3, 42, 180, 0, 173, 180, 1, 49, 42]
abbrev dktX5_readWay_0 : List UInt8 := dkwX5_readWay_0 ++ dktX5_readWay_1
theorem dksX5_readWay_0 : cX5_readWay.data.toList.drop 0 = dktX5_readWay_0 := by decide +kernel
theorem dksX5_readWay_1 : cX5_readWay.data.toList.drop 23 = dktX5_readWay_1 := dk_seg dksX5_readWay_0 23 rfl rfl
theorem dksX5_readWay_2 : cX5_readWay.data.toList.drop 45 = dktX5_readWay_2 := dk_seg dksX5_readWay_1 22 rfl rfl
theorem dksX5_readWay_3 : cX5_readWay.data.toList.drop 69 = dktX5_readWay_3 := dk_seg dksX5_readWay_2 24 rfl rfl
theorem dksX5_readWay_4 : cX5_readWay.data.toList.drop 93 = dktX5_readWay_4 := dk_seg dksX5_readWay_3 24 rfl rfl
theorem dX5_readWay_0 : decode cX5_readWay 0 = .ok (.aload_n 0, 1) := dk_42 (dk_at dksX5_readWay_0 0 rfl rfl)
theorem dX5_readWay_1 : decode cX5_readWay 1 = .ok (.aload_n 0, 1) := dk_42 (dk_at dksX5_readWay_0 1 rfl rfl)
theorem dX5_readWay_2 : decode cX5_readWay 2 = .ok (.getfield 173, 3) := dk_180 0 173 (dk_at dksX5_readWay_0 2 rfl rfl)
theorem dX5_readWay_5 : decode cX5_readWay 5 = .ok (.getfield 302, 3) := dk_180 1 46 (dk_at dksX5_readWay_0 5 rfl rfl)
theorem dX5_readWay_8 : decode cX5_readWay 8 = .ok (.bipush 16, 2) := dk_16 16 (dk_at dksX5_readWay_0 8 rfl rfl)
theorem dX5_readWay_10 : decode cX5_readWay 10 = .ok (.invokevirtual 275, 3) := dk_182 1 19 (dk_at dksX5_readWay_0 10 rfl rfl)
theorem dX5_readWay_13 : decode cX5_readWay 13 = .ok (.aload_n 0, 1) := dk_42 (dk_at dksX5_readWay_0 13 rfl rfl)
theorem dX5_readWay_14 : decode cX5_readWay 14 = .ok (.iconst 0, 1) := dk_3 (dk_at dksX5_readWay_0 14 rfl rfl)
theorem dX5_readWay_15 : decode cX5_readWay 15 = .ok (.aload_n 0, 1) := dk_42 (dk_at dksX5_readWay_0 15 rfl rfl)
theorem dX5_readWay_16 : decode cX5_readWay 16 = .ok (.getfield 173, 3) := dk_180 0 173 (dk_at dksX5_readWay_0 16 rfl rfl)
theorem dX5_readWay_19 : decode cX5_readWay 19 = .ok (.getfield 305, 3) := dk_180 1 49 (dk_at dksX5_readWay_0 19 rfl rfl)
theorem dX5_readWay_22 : decode cX5_readWay 22 = .ok (.aload_n 0, 1) := dk_42 (dk_at dksX5_readWay_0 22 rfl rfl)
theorem dX5_readWay_23 : decode cX5_readWay 23 = .ok (.getfield 173, 3) := dk_180 0 173 (dk_at dksX5_readWay_1 0 rfl rfl)
theorem dX5_readWay_26 : decode cX5_readWay 26 = .ok (.getfield 308, 3) := dk_180 1 52 (dk_at dksX5_readWay_1 3 rfl rfl)
theorem dX5_readWay_29 : decode cX5_readWay 29 = .ok (.aload_n 0, 1) := dk_42 (dk_at dksX5_readWay_1 6 rfl rfl)
theorem dX5_readWay_30 : decode cX5_readWay 30 = .ok (.getfield 173, 3) := dk_180 0 173 (dk_at dksX5_readWay_1 7 rfl rfl)
theorem dX5_readWay_33 : decode cX5_readWay 33 = .ok (.getfield 302, 3) := dk_180 1 46 (dk_at dksX5_readWay_1 10 rfl rfl)
theorem dX5_readWay_36 : decode cX5_readWay 36 = .ok (.invokevirtual 298, 3) := dk_182 1 42 (dk_at dksX5_readWay_1 13 rfl rfl)
theorem dX5_readWay_39 : decode cX5_readWay 39 = .ok (.istore_n 1, 1) := dk_60 (dk_at dksX5_readWay_1 16 rfl rfl)
theorem dX5_readWay_40 : decode cX5_readWay 40 = .ok (.aload_n 0, 1) := dk_42 (dk_at dksX5_readWay_1 17 rfl rfl)
theorem dX5_readWay_41 : decode cX5_readWay 41 = .ok (.getfield 85, 3) := dk_180 0 85 (dk_at dksX5_readWay_1 18 rfl rfl)
theorem dX5_readWay_44 : decode cX5_readWay 44 = .ok (.iconst 5, 1) := dk_8 (dk_at dksX5_readWay_1 21 rfl rfl)
theorem dX5_readWay_45 : decode cX5_readWay 45 = .ok (.if_icmp .ne 4, 3) := dk_160 0 4 (dk_at dksX5_readWay_2 0 rfl rfl)
theorem dX5_readWay_48 : decode cX5_readWay 48 = .ok (.return_, 1) := dk_177 (dk_at dksX5_readWay_2 3 rfl rfl)
theorem dX5_readWay_49 : decode cX5_readWay 49 = .ok (.aload_n 0, 1) := dk_42 (dk_at dksX5_readWay_2 4 rfl rfl)
theorem dX5_readWay_50 : decode cX5_readWay 50 = .ok (.getfield 173, 3) := dk_180 0 173 (dk_at dksX5_readWay_2 5 rfl rfl)
theorem dX5_readWay_53 : decode cX5_readWay 53 = .ok (.getfield 305, 3) := dk_180 1 49 (dk_at dksX5_readWay_2 8 rfl rfl)
theorem dX5_readWay_56 : decode cX5_readWay 56 = .ok (.aload_n 0, 1) := dk_42 (dk_at dksX5_readWay_2 11 rfl rfl)
theorem dX5_readWay_57 : decode cX5_readWay 57 = .ok (.getfield 173, 3) := dk_180 0 173 (dk_at dksX5_readWay_2 12 rfl rfl)
theorem dX5_readWay_60 : decode cX5_readWay 60 = .ok (.getfield 302, 3) := dk_180 1 46 (dk_at dksX5_readWay_2 15 rfl rfl)
theorem dX5_readWay_63 : decode cX5_readWay 63 = .ok (.aload_n 0, 1) := dk_42 (dk_at dksX5_readWay_2 18 rfl rfl)
theorem dX5_readWay_64 : decode cX5_readWay 64 = .ok (.getfield 202, 3) := dk_180 0 202 (dk_at dksX5_readWay_2 19 rfl rfl)
theorem dX5_readWay_67 : decode cX5_readWay 67 = .ok (.iastore, 1) := dk_79 (dk_at dksX5_readWay_2 22 rfl rfl)
theorem dX5_readWay_68 : decode cX5_readWay 68 = .ok (.aload_n 0, 1) := dk_42 (dk_at dksX5_readWay_2 23 rfl rfl)
theorem dX5_readWay_69 : decode cX5_readWay 69 = .ok (.getfield 173, 3) := dk_180 0 173 (dk_at dksX5_readWay_3 0 rfl rfl)
theorem dX5_readWay_72 : decode cX5_readWay 72 = .ok (.getfield 308, 3) := dk_180 1 52 (dk_at dksX5_readWay_3 3 rfl rfl)
theorem dX5_readWay_75 : decode cX5_readWay 75 = .ok (.aload_n 0, 1) := dk_42 (dk_at dksX5_readWay_3 6 rfl rfl)
theorem dX5_readWay_76 : decode cX5_readWay 76 = .ok (.getfield 173, 3) := dk_180 0 173 (dk_at dksX5_readWay_3 7 rfl rfl)
theorem dX5_readWay_79 : decode cX5_readWay 79 = .ok (.getfield 302, 3) := dk_180 1 46 (dk_at dksX5_readWay_3 10 rfl rfl)
theorem dX5_readWay_82 : decode cX5_readWay 82 = .ok (.iload_n 1, 1) := dk_27 (dk_at dksX5_readWay_3 13 rfl rfl)
theorem dX5_readWay_83 : decode cX5_readWay 83 = .ok (.iastore, 1) := dk_79 (dk_at dksX5_readWay_3 14 rfl rfl)
theorem dX5_readWay_84 : decode cX5_readWay 84 = .ok (.aload_n 0, 1) := dk_42 (dk_at dksX5_readWay_3 15 rfl rfl)
theorem dX5_readWay_85 : decode cX5_readWay 85 = .ok (.getfield 173, 3) := dk_180 0 173 (dk_at dksX5_readWay_3 16 rfl rfl)
theorem dX5_readWay_88 : decode cX5_readWay 88 = .ok (.dup, 1) := dk_89 (dk_at dksX5_readWay_3 19 rfl rfl)
theorem dX5_readWay_89 : decode cX5_readWay 89 = .ok (.getfield 302, 3) := dk_180 1 46 (dk_at dksX5_readWay_3 20 rfl rfl)
theorem dX5_readWay_92 : decode cX5_readWay 92 = .ok (.iconst 1, 1) := dk_4 (dk_at dksX5_readWay_3 23 rfl rfl)
theorem dX5_readWay_93 : decode cX5_readWay 93 = .ok (.iadd, 1) := dk_96 (dk_at dksX5_readWay_4 0 rfl rfl)
theorem dX5_readWay_94 : decode cX5_readWay 94 = .ok (.putfield 302, 3) := dk_181 1 46 (dk_at dksX5_readWay_4 1 rfl rfl)
theorem dX5_readWay_97 : decode cX5_readWay 97 = .ok (.return_, 1) := dk_177 (dk_at dksX5_readWay_4 4 rfl rfl)
abbrev cX5_readMirror : ByteArray := prog_15_method_36_code
def yX5_readMirror : MethodName := ⟨RX5, "readMirror", "()V"⟩
def dkwX5_readMirror_2 : List UInt8 := [180, 0, 173, 180, 1, 55, 27, 79, 42, 180, 0, 173, 89, 180, 1, 55, 4, 96, 181, 1, 55, 177]
abbrev dktX5_readMirror_2 : List UInt8 := dkwX5_readMirror_2 ++ []
def dkwX5_readMirror_1 : List UInt8 := [180, 1, 55, 182, 1, 60, 60, 42, 180, 0, 85, 8, 160, 0, 4, 177, 42, 180, 0, 173, 180, 1, 58, 42]
abbrev dktX5_readMirror_1 : List UInt8 := dkwX5_readMirror_1 ++ dktX5_readMirror_2
def dkwX5_readMirror_0 : List UInt8 := [42, 42, 180, 0, 173, 180, 1, 55, 7, 182, 1, 19, 42, 42, 180, 0, 173, 180, 1, 58, 42, 180, 0, 173]
abbrev dktX5_readMirror_0 : List UInt8 := dkwX5_readMirror_0 ++ dktX5_readMirror_1
theorem dksX5_readMirror_0 : cX5_readMirror.data.toList.drop 0 = dktX5_readMirror_0 := by decide +kernel
theorem dksX5_readMirror_1 : cX5_readMirror.data.toList.drop 24 = dktX5_readMirror_1 := dk_seg dksX5_readMirror_0 24 rfl rfl
theorem dksX5_readMirror_2 : cX5_readMirror.data.toList.drop 48 = dktX5_readMirror_2 := dk_seg dksX5_readMirror_1 24 rfl rfl
theorem dX5_readMirror_0 : decode cX5_readMirror 0 = .ok (.aload_n 0, 1) := dk_42 (dk_at dksX5_readMirror_0 0 rfl rfl)
theorem dX5_readMirror_1 : decode cX5_readMirror 1 = .ok (.aload_n 0, 1) := dk_42 (dk_at dksX5_readMirror_0 1 rfl rfl)
theorem dX5_readMirror_2 : decode cX5_readMirror 2 = .ok (.getfield 173, 3) := dk_180 0 173 (dk_at dksX5_readMirror_0 2 rfl rfl)
theorem dX5_readMirror_5 : decode cX5_readMirror 5 = .ok (.getfield 311, 3) := dk_180 1 55 (dk_at dksX5_readMirror_0 5 rfl rfl)
theorem dX5_readMirror_8 : decode cX5_readMirror 8 = .ok (.iconst 4, 1) := dk_7 (dk_at dksX5_readMirror_0 8 rfl rfl)
theorem dX5_readMirror_9 : decode cX5_readMirror 9 = .ok (.invokevirtual 275, 3) := dk_182 1 19 (dk_at dksX5_readMirror_0 9 rfl rfl)
theorem dX5_readMirror_12 : decode cX5_readMirror 12 = .ok (.aload_n 0, 1) := dk_42 (dk_at dksX5_readMirror_0 12 rfl rfl)
theorem dX5_readMirror_13 : decode cX5_readMirror 13 = .ok (.aload_n 0, 1) := dk_42 (dk_at dksX5_readMirror_0 13 rfl rfl)
theorem dX5_readMirror_14 : decode cX5_readMirror 14 = .ok (.getfield 173, 3) := dk_180 0 173 (dk_at dksX5_readMirror_0 14 rfl rfl)
theorem dX5_readMirror_17 : decode cX5_readMirror 17 = .ok (.getfield 314, 3) := dk_180 1 58 (dk_at dksX5_readMirror_0 17 rfl rfl)
theorem dX5_readMirror_20 : decode cX5_readMirror 20 = .ok (.aload_n 0, 1) := dk_42 (dk_at dksX5_readMirror_0 20 rfl rfl)
theorem dX5_readMirror_21 : decode cX5_readMirror 21 = .ok (.getfield 173, 3) := dk_180 0 173 (dk_at dksX5_readMirror_0 21 rfl rfl)
theorem dX5_readMirror_24 : decode cX5_readMirror 24 = .ok (.getfield 311, 3) := dk_180 1 55 (dk_at dksX5_readMirror_1 0 rfl rfl)
theorem dX5_readMirror_27 : decode cX5_readMirror 27 = .ok (.invokevirtual 316, 3) := dk_182 1 60 (dk_at dksX5_readMirror_1 3 rfl rfl)
theorem dX5_readMirror_30 : decode cX5_readMirror 30 = .ok (.istore_n 1, 1) := dk_60 (dk_at dksX5_readMirror_1 6 rfl rfl)
theorem dX5_readMirror_31 : decode cX5_readMirror 31 = .ok (.aload_n 0, 1) := dk_42 (dk_at dksX5_readMirror_1 7 rfl rfl)
theorem dX5_readMirror_32 : decode cX5_readMirror 32 = .ok (.getfield 85, 3) := dk_180 0 85 (dk_at dksX5_readMirror_1 8 rfl rfl)
theorem dX5_readMirror_35 : decode cX5_readMirror 35 = .ok (.iconst 5, 1) := dk_8 (dk_at dksX5_readMirror_1 11 rfl rfl)
theorem dX5_readMirror_36 : decode cX5_readMirror 36 = .ok (.if_icmp .ne 4, 3) := dk_160 0 4 (dk_at dksX5_readMirror_1 12 rfl rfl)
theorem dX5_readMirror_39 : decode cX5_readMirror 39 = .ok (.return_, 1) := dk_177 (dk_at dksX5_readMirror_1 15 rfl rfl)
theorem dX5_readMirror_40 : decode cX5_readMirror 40 = .ok (.aload_n 0, 1) := dk_42 (dk_at dksX5_readMirror_1 16 rfl rfl)
theorem dX5_readMirror_41 : decode cX5_readMirror 41 = .ok (.getfield 173, 3) := dk_180 0 173 (dk_at dksX5_readMirror_1 17 rfl rfl)
theorem dX5_readMirror_44 : decode cX5_readMirror 44 = .ok (.getfield 314, 3) := dk_180 1 58 (dk_at dksX5_readMirror_1 20 rfl rfl)
theorem dX5_readMirror_47 : decode cX5_readMirror 47 = .ok (.aload_n 0, 1) := dk_42 (dk_at dksX5_readMirror_1 23 rfl rfl)
theorem dX5_readMirror_48 : decode cX5_readMirror 48 = .ok (.getfield 173, 3) := dk_180 0 173 (dk_at dksX5_readMirror_2 0 rfl rfl)
theorem dX5_readMirror_51 : decode cX5_readMirror 51 = .ok (.getfield 311, 3) := dk_180 1 55 (dk_at dksX5_readMirror_2 3 rfl rfl)
theorem dX5_readMirror_54 : decode cX5_readMirror 54 = .ok (.iload_n 1, 1) := dk_27 (dk_at dksX5_readMirror_2 6 rfl rfl)
theorem dX5_readMirror_55 : decode cX5_readMirror 55 = .ok (.iastore, 1) := dk_79 (dk_at dksX5_readMirror_2 7 rfl rfl)
theorem dX5_readMirror_56 : decode cX5_readMirror 56 = .ok (.aload_n 0, 1) := dk_42 (dk_at dksX5_readMirror_2 8 rfl rfl)
theorem dX5_readMirror_57 : decode cX5_readMirror 57 = .ok (.getfield 173, 3) := dk_180 0 173 (dk_at dksX5_readMirror_2 9 rfl rfl)
theorem dX5_readMirror_60 : decode cX5_readMirror 60 = .ok (.dup, 1) := dk_89 (dk_at dksX5_readMirror_2 12 rfl rfl)
theorem dX5_readMirror_61 : decode cX5_readMirror 61 = .ok (.getfield 311, 3) := dk_180 1 55 (dk_at dksX5_readMirror_2 13 rfl rfl)
theorem dX5_readMirror_64 : decode cX5_readMirror 64 = .ok (.iconst 1, 1) := dk_4 (dk_at dksX5_readMirror_2 16 rfl rfl)
theorem dX5_readMirror_65 : decode cX5_readMirror 65 = .ok (.iadd, 1) := dk_96 (dk_at dksX5_readMirror_2 17 rfl rfl)
theorem dX5_readMirror_66 : decode cX5_readMirror 66 = .ok (.putfield 311, 3) := dk_181 1 55 (dk_at dksX5_readMirror_2 18 rfl rfl)
theorem dX5_readMirror_69 : decode cX5_readMirror 69 = .ok (.return_, 1) := dk_177 (dk_at dksX5_readMirror_2 21 rfl rfl)
abbrev cX5_readOther : ByteArray := prog_15_method_35_code
def yX5_readOther : MethodName := ⟨RX5, "readOther", "([II)I"⟩
def dkwX5_readOther_1 : List UInt8 := [21, 4, 46, 29, 160, 0, 8, 42, 6, 182, 0, 131, 132, 4, 1, 167, 255, 226, 42, 182, 0, 128, 29, 172]
abbrev dktX5_readOther_1 : List UInt8 := dkwX5_readOther_1 ++ []
def dkwX5_readOther_0 : List UInt8 := [42, 3, 182, 0, 196, 62, 3, 54, 4, 21, 4, 28, 162, 0, 30, 42, 180, 0, 85, 8, 159, 0, 16, 43]
abbrev dktX5_readOther_0 : List UInt8 := dkwX5_readOther_0 ++ dktX5_readOther_1
theorem dksX5_readOther_0 : cX5_readOther.data.toList.drop 0 = dktX5_readOther_0 := by decide +kernel
theorem dksX5_readOther_1 : cX5_readOther.data.toList.drop 24 = dktX5_readOther_1 := dk_seg dksX5_readOther_0 24 rfl rfl
theorem dX5_readOther_0 : decode cX5_readOther 0 = .ok (.aload_n 0, 1) := dk_42 (dk_at dksX5_readOther_0 0 rfl rfl)
theorem dX5_readOther_1 : decode cX5_readOther 1 = .ok (.iconst 0, 1) := dk_3 (dk_at dksX5_readOther_0 1 rfl rfl)
theorem dX5_readOther_2 : decode cX5_readOther 2 = .ok (.invokevirtual 196, 3) := dk_182 0 196 (dk_at dksX5_readOther_0 2 rfl rfl)
theorem dX5_readOther_5 : decode cX5_readOther 5 = .ok (.istore_n 3, 1) := dk_62 (dk_at dksX5_readOther_0 5 rfl rfl)
theorem dX5_readOther_6 : decode cX5_readOther 6 = .ok (.iconst 0, 1) := dk_3 (dk_at dksX5_readOther_0 6 rfl rfl)
theorem dX5_readOther_7 : decode cX5_readOther 7 = .ok (.istore 4, 2) := dk_54 4 (dk_at dksX5_readOther_0 7 rfl rfl)
theorem dX5_readOther_9 : decode cX5_readOther 9 = .ok (.iload 4, 2) := dk_21 4 (dk_at dksX5_readOther_0 9 rfl rfl)
theorem dX5_readOther_11 : decode cX5_readOther 11 = .ok (.iload_n 2, 1) := dk_28 (dk_at dksX5_readOther_0 11 rfl rfl)
theorem dX5_readOther_12 : decode cX5_readOther 12 = .ok (.if_icmp .ge 30, 3) := dk_162 0 30 (dk_at dksX5_readOther_0 12 rfl rfl)
theorem dX5_readOther_15 : decode cX5_readOther 15 = .ok (.aload_n 0, 1) := dk_42 (dk_at dksX5_readOther_0 15 rfl rfl)
theorem dX5_readOther_16 : decode cX5_readOther 16 = .ok (.getfield 85, 3) := dk_180 0 85 (dk_at dksX5_readOther_0 16 rfl rfl)
theorem dX5_readOther_19 : decode cX5_readOther 19 = .ok (.iconst 5, 1) := dk_8 (dk_at dksX5_readOther_0 19 rfl rfl)
theorem dX5_readOther_20 : decode cX5_readOther 20 = .ok (.if_icmp .eq 16, 3) := dk_159 0 16 (dk_at dksX5_readOther_0 20 rfl rfl)
theorem dX5_readOther_23 : decode cX5_readOther 23 = .ok (.aload_n 1, 1) := dk_43 (dk_at dksX5_readOther_0 23 rfl rfl)
theorem dX5_readOther_24 : decode cX5_readOther 24 = .ok (.iload 4, 2) := dk_21 4 (dk_at dksX5_readOther_1 0 rfl rfl)
theorem dX5_readOther_26 : decode cX5_readOther 26 = .ok (.iaload, 1) := dk_46 (dk_at dksX5_readOther_1 2 rfl rfl)
theorem dX5_readOther_27 : decode cX5_readOther 27 = .ok (.iload_n 3, 1) := dk_29 (dk_at dksX5_readOther_1 3 rfl rfl)
theorem dX5_readOther_28 : decode cX5_readOther 28 = .ok (.if_icmp .ne 8, 3) := dk_160 0 8 (dk_at dksX5_readOther_1 4 rfl rfl)
theorem dX5_readOther_31 : decode cX5_readOther 31 = .ok (.aload_n 0, 1) := dk_42 (dk_at dksX5_readOther_1 7 rfl rfl)
theorem dX5_readOther_32 : decode cX5_readOther 32 = .ok (.iconst 3, 1) := dk_6 (dk_at dksX5_readOther_1 8 rfl rfl)
theorem dX5_readOther_33 : decode cX5_readOther 33 = .ok (.invokevirtual 131, 3) := dk_182 0 131 (dk_at dksX5_readOther_1 9 rfl rfl)
theorem dX5_readOther_36 : decode cX5_readOther 36 = .ok (.iinc 4 1, 3) := dk_132 4 1 (dk_at dksX5_readOther_1 12 rfl rfl)
theorem dX5_readOther_39 : decode cX5_readOther 39 = .ok (.goto (-30), 3) := dk_167 255 226 (dk_at dksX5_readOther_1 15 rfl rfl)
theorem dX5_readOther_42 : decode cX5_readOther 42 = .ok (.aload_n 0, 1) := dk_42 (dk_at dksX5_readOther_1 18 rfl rfl)
theorem dX5_readOther_43 : decode cX5_readOther 43 = .ok (.invokevirtual 128, 3) := dk_182 0 128 (dk_at dksX5_readOther_1 19 rfl rfl)
theorem dX5_readOther_46 : decode cX5_readOther 46 = .ok (.iload_n 3, 1) := dk_29 (dk_at dksX5_readOther_1 22 rfl rfl)
theorem dX5_readOther_47 : decode cX5_readOther 47 = .ok (.ireturn, 1) := dk_172 (dk_at dksX5_readOther_1 23 rfl rfl)
abbrev cX5_readPerson : ByteArray := prog_15_method_37_code
def yX5_readPerson : MethodName := ⟨RX5, "readPerson", "()V"⟩
def dkwX5_readPerson_9 : List UInt8 := [180, 0, 221, 4, 96, 181, 0, 221, 177]
abbrev dktX5_readPerson_9 : List UInt8 := dkwX5_readPerson_9 ++ []
def dkwX5_readPerson_8 : List UInt8 := [79, 42, 180, 0, 173, 180, 1, 76, 42, 180, 0, 173, 180, 0, 221, 21, 6, 79, 42, 180, 0, 173, 89]
abbrev dktX5_readPerson_8 : List UInt8 := dkwX5_readPerson_8 ++ dktX5_readPerson_9
def dkwX5_readPerson_7 : List UInt8 := [180, 0, 173, 180, 0, 221, 29, 79, 42, 180, 0, 173, 180, 1, 74, 42, 180, 0, 173, 180, 0, 221, 21, 5]
abbrev dktX5_readPerson_7 : List UInt8 := dkwX5_readPerson_7 ++ dktX5_readPerson_8
def dkwX5_readPerson_6 : List UInt8 := [42, 180, 0, 173, 180, 1, 69, 42, 180, 0, 173, 180, 0, 221, 28, 84, 42, 180, 0, 173, 180, 1, 72, 42]
abbrev dktX5_readPerson_6 : List UInt8 := dkwX5_readPerson_6 ++ dktX5_readPerson_7
def dkwX5_readPerson_5 : List UInt8 := [180, 0, 85, 8, 160, 0, 4, 177, 42, 180, 0, 173, 180, 1, 67, 42, 180, 0, 173, 180, 0, 221, 27, 79]
abbrev dktX5_readPerson_5 : List UInt8 := dkwX5_readPerson_5 ++ dktX5_readPerson_6
def dkwX5_readPerson_4 : List UInt8 := [153, 0, 19, 42, 19, 1, 11, 21, 5, 4, 96, 16, 99, 182, 0, 253, 167, 0, 4, 3, 54, 6, 42]
abbrev dktX5_readPerson_4 : List UInt8 := dkwX5_readPerson_4 ++ dktX5_readPerson_5
def dkwX5_readPerson_3 : List UInt8 := [54, 4, 21, 4, 153, 0, 13, 42, 3, 16, 99, 182, 0, 143, 167, 0, 4, 3, 54, 5, 21, 4]
abbrev dktX5_readPerson_3 : List UInt8 := dkwX5_readPerson_3 ++ dktX5_readPerson_4
def dkwX5_readPerson_2 : List UInt8 := [182, 1, 64, 153, 0, 13, 42, 5, 16, 9, 182, 0, 143, 167, 0, 4, 3, 62, 42, 18, 161, 182, 1, 64]
abbrev dktX5_readPerson_2 : List UInt8 := dkwX5_readPerson_2 ++ dktX5_readPerson_3
def dkwX5_readPerson_1 : List UInt8 := [42, 19, 1, 26, 182, 0, 139, 42, 3, 182, 0, 199, 60, 42, 18, 157, 182, 1, 64, 61, 42, 18, 159]
abbrev dktX5_readPerson_1 : List UInt8 := dkwX5_readPerson_1 ++ dktX5_readPerson_2
def dkwX5_readPerson_0 : List UInt8 := [42, 42, 180, 0, 173, 180, 0, 221, 8, 182, 1, 19, 42, 4, 42, 180, 0, 173, 180, 0, 221, 182, 1, 23]
abbrev dktX5_readPerson_0 : List UInt8 := dkwX5_readPerson_0 ++ dktX5_readPerson_1
theorem dksX5_readPerson_0 : cX5_readPerson.data.toList.drop 0 = dktX5_readPerson_0 := by decide +kernel
theorem dksX5_readPerson_1 : cX5_readPerson.data.toList.drop 24 = dktX5_readPerson_1 := dk_seg dksX5_readPerson_0 24 rfl rfl
theorem dksX5_readPerson_2 : cX5_readPerson.data.toList.drop 47 = dktX5_readPerson_2 := dk_seg dksX5_readPerson_1 23 rfl rfl
theorem dksX5_readPerson_3 : cX5_readPerson.data.toList.drop 71 = dktX5_readPerson_3 := dk_seg dksX5_readPerson_2 24 rfl rfl
theorem dksX5_readPerson_4 : cX5_readPerson.data.toList.drop 93 = dktX5_readPerson_4 := dk_seg dksX5_readPerson_3 22 rfl rfl
theorem dksX5_readPerson_5 : cX5_readPerson.data.toList.drop 116 = dktX5_readPerson_5 := dk_seg dksX5_readPerson_4 23 rfl rfl
theorem dksX5_readPerson_6 : cX5_readPerson.data.toList.drop 140 = dktX5_readPerson_6 := dk_seg dksX5_readPerson_5 24 rfl rfl
theorem dksX5_readPerson_7 : cX5_readPerson.data.toList.drop 164 = dktX5_readPerson_7 := dk_seg dksX5_readPerson_6 24 rfl rfl
theorem dksX5_readPerson_8 : cX5_readPerson.data.toList.drop 188 = dktX5_readPerson_8 := dk_seg dksX5_readPerson_7 24 rfl rfl
theorem dksX5_readPerson_9 : cX5_readPerson.data.toList.drop 211 = dktX5_readPerson_9 := dk_seg dksX5_readPerson_8 23 rfl rfl
theorem dX5_readPerson_0 : decode cX5_readPerson 0 = .ok (.aload_n 0, 1) := dk_42 (dk_at dksX5_readPerson_0 0 rfl rfl)
theorem dX5_readPerson_1 : decode cX5_readPerson 1 = .ok (.aload_n 0, 1) := dk_42 (dk_at dksX5_readPerson_0 1 rfl rfl)
theorem dX5_readPerson_2 : decode cX5_readPerson 2 = .ok (.getfield 173, 3) := dk_180 0 173 (dk_at dksX5_readPerson_0 2 rfl rfl)
theorem dX5_readPerson_5 : decode cX5_readPerson 5 = .ok (.getfield 221, 3) := dk_180 0 221 (dk_at dksX5_readPerson_0 5 rfl rfl)
theorem dX5_readPerson_8 : decode cX5_readPerson 8 = .ok (.iconst 5, 1) := dk_8 (dk_at dksX5_readPerson_0 8 rfl rfl)
theorem dX5_readPerson_9 : decode cX5_readPerson 9 = .ok (.invokevirtual 275, 3) := dk_182 1 19 (dk_at dksX5_readPerson_0 9 rfl rfl)
theorem dX5_readPerson_12 : decode cX5_readPerson 12 = .ok (.aload_n 0, 1) := dk_42 (dk_at dksX5_readPerson_0 12 rfl rfl)
theorem dX5_readPerson_13 : decode cX5_readPerson 13 = .ok (.iconst 1, 1) := dk_4 (dk_at dksX5_readPerson_0 13 rfl rfl)
theorem dX5_readPerson_14 : decode cX5_readPerson 14 = .ok (.aload_n 0, 1) := dk_42 (dk_at dksX5_readPerson_0 14 rfl rfl)
theorem dX5_readPerson_15 : decode cX5_readPerson 15 = .ok (.getfield 173, 3) := dk_180 0 173 (dk_at dksX5_readPerson_0 15 rfl rfl)
theorem dX5_readPerson_18 : decode cX5_readPerson 18 = .ok (.getfield 221, 3) := dk_180 0 221 (dk_at dksX5_readPerson_0 18 rfl rfl)
theorem dX5_readPerson_21 : decode cX5_readPerson 21 = .ok (.invokevirtual 279, 3) := dk_182 1 23 (dk_at dksX5_readPerson_0 21 rfl rfl)
theorem dX5_readPerson_24 : decode cX5_readPerson 24 = .ok (.aload_n 0, 1) := dk_42 (dk_at dksX5_readPerson_1 0 rfl rfl)
theorem dX5_readPerson_25 : decode cX5_readPerson 25 = .ok (.ldc_w 282, 3) := dk_19 1 26 (dk_at dksX5_readPerson_1 1 rfl rfl)
theorem dX5_readPerson_28 : decode cX5_readPerson 28 = .ok (.invokevirtual 139, 3) := dk_182 0 139 (dk_at dksX5_readPerson_1 4 rfl rfl)
theorem dX5_readPerson_31 : decode cX5_readPerson 31 = .ok (.aload_n 0, 1) := dk_42 (dk_at dksX5_readPerson_1 7 rfl rfl)
theorem dX5_readPerson_32 : decode cX5_readPerson 32 = .ok (.iconst 0, 1) := dk_3 (dk_at dksX5_readPerson_1 8 rfl rfl)
theorem dX5_readPerson_33 : decode cX5_readPerson 33 = .ok (.invokevirtual 199, 3) := dk_182 0 199 (dk_at dksX5_readPerson_1 9 rfl rfl)
theorem dX5_readPerson_36 : decode cX5_readPerson 36 = .ok (.istore_n 1, 1) := dk_60 (dk_at dksX5_readPerson_1 12 rfl rfl)
theorem dX5_readPerson_37 : decode cX5_readPerson 37 = .ok (.aload_n 0, 1) := dk_42 (dk_at dksX5_readPerson_1 13 rfl rfl)
theorem dX5_readPerson_38 : decode cX5_readPerson 38 = .ok (.ldc 157, 2) := dk_18 157 (dk_at dksX5_readPerson_1 14 rfl rfl)
theorem dX5_readPerson_40 : decode cX5_readPerson 40 = .ok (.invokevirtual 320, 3) := dk_182 1 64 (dk_at dksX5_readPerson_1 16 rfl rfl)
theorem dX5_readPerson_43 : decode cX5_readPerson 43 = .ok (.istore_n 2, 1) := dk_61 (dk_at dksX5_readPerson_1 19 rfl rfl)
theorem dX5_readPerson_44 : decode cX5_readPerson 44 = .ok (.aload_n 0, 1) := dk_42 (dk_at dksX5_readPerson_1 20 rfl rfl)
theorem dX5_readPerson_45 : decode cX5_readPerson 45 = .ok (.ldc 159, 2) := dk_18 159 (dk_at dksX5_readPerson_1 21 rfl rfl)
theorem dX5_readPerson_47 : decode cX5_readPerson 47 = .ok (.invokevirtual 320, 3) := dk_182 1 64 (dk_at dksX5_readPerson_2 0 rfl rfl)
theorem dX5_readPerson_50 : decode cX5_readPerson 50 = .ok (.ifCond .eq 13, 3) := dk_153 0 13 (dk_at dksX5_readPerson_2 3 rfl rfl)
theorem dX5_readPerson_53 : decode cX5_readPerson 53 = .ok (.aload_n 0, 1) := dk_42 (dk_at dksX5_readPerson_2 6 rfl rfl)
theorem dX5_readPerson_54 : decode cX5_readPerson 54 = .ok (.iconst 2, 1) := dk_5 (dk_at dksX5_readPerson_2 7 rfl rfl)
theorem dX5_readPerson_55 : decode cX5_readPerson 55 = .ok (.bipush 9, 2) := dk_16 9 (dk_at dksX5_readPerson_2 8 rfl rfl)
theorem dX5_readPerson_57 : decode cX5_readPerson 57 = .ok (.invokevirtual 143, 3) := dk_182 0 143 (dk_at dksX5_readPerson_2 10 rfl rfl)
theorem dX5_readPerson_60 : decode cX5_readPerson 60 = .ok (.goto 4, 3) := dk_167 0 4 (dk_at dksX5_readPerson_2 13 rfl rfl)
theorem dX5_readPerson_63 : decode cX5_readPerson 63 = .ok (.iconst 0, 1) := dk_3 (dk_at dksX5_readPerson_2 16 rfl rfl)
theorem dX5_readPerson_64 : decode cX5_readPerson 64 = .ok (.istore_n 3, 1) := dk_62 (dk_at dksX5_readPerson_2 17 rfl rfl)
theorem dX5_readPerson_65 : decode cX5_readPerson 65 = .ok (.aload_n 0, 1) := dk_42 (dk_at dksX5_readPerson_2 18 rfl rfl)
theorem dX5_readPerson_66 : decode cX5_readPerson 66 = .ok (.ldc 161, 2) := dk_18 161 (dk_at dksX5_readPerson_2 19 rfl rfl)
theorem dX5_readPerson_68 : decode cX5_readPerson 68 = .ok (.invokevirtual 320, 3) := dk_182 1 64 (dk_at dksX5_readPerson_2 21 rfl rfl)
theorem dX5_readPerson_71 : decode cX5_readPerson 71 = .ok (.istore 4, 2) := dk_54 4 (dk_at dksX5_readPerson_3 0 rfl rfl)
theorem dX5_readPerson_73 : decode cX5_readPerson 73 = .ok (.iload 4, 2) := dk_21 4 (dk_at dksX5_readPerson_3 2 rfl rfl)
theorem dX5_readPerson_75 : decode cX5_readPerson 75 = .ok (.ifCond .eq 13, 3) := dk_153 0 13 (dk_at dksX5_readPerson_3 4 rfl rfl)
theorem dX5_readPerson_78 : decode cX5_readPerson 78 = .ok (.aload_n 0, 1) := dk_42 (dk_at dksX5_readPerson_3 7 rfl rfl)
theorem dX5_readPerson_79 : decode cX5_readPerson 79 = .ok (.iconst 0, 1) := dk_3 (dk_at dksX5_readPerson_3 8 rfl rfl)
theorem dX5_readPerson_80 : decode cX5_readPerson 80 = .ok (.bipush 99, 2) := dk_16 99 (dk_at dksX5_readPerson_3 9 rfl rfl)
theorem dX5_readPerson_82 : decode cX5_readPerson 82 = .ok (.invokevirtual 143, 3) := dk_182 0 143 (dk_at dksX5_readPerson_3 11 rfl rfl)
theorem dX5_readPerson_85 : decode cX5_readPerson 85 = .ok (.goto 4, 3) := dk_167 0 4 (dk_at dksX5_readPerson_3 14 rfl rfl)
theorem dX5_readPerson_88 : decode cX5_readPerson 88 = .ok (.iconst 0, 1) := dk_3 (dk_at dksX5_readPerson_3 17 rfl rfl)
theorem dX5_readPerson_89 : decode cX5_readPerson 89 = .ok (.istore 5, 2) := dk_54 5 (dk_at dksX5_readPerson_3 18 rfl rfl)
theorem dX5_readPerson_91 : decode cX5_readPerson 91 = .ok (.iload 4, 2) := dk_21 4 (dk_at dksX5_readPerson_3 20 rfl rfl)
theorem dX5_readPerson_93 : decode cX5_readPerson 93 = .ok (.ifCond .eq 19, 3) := dk_153 0 19 (dk_at dksX5_readPerson_4 0 rfl rfl)
theorem dX5_readPerson_96 : decode cX5_readPerson 96 = .ok (.aload_n 0, 1) := dk_42 (dk_at dksX5_readPerson_4 3 rfl rfl)
theorem dX5_readPerson_97 : decode cX5_readPerson 97 = .ok (.ldc_w 267, 3) := dk_19 1 11 (dk_at dksX5_readPerson_4 4 rfl rfl)
theorem dX5_readPerson_100 : decode cX5_readPerson 100 = .ok (.iload 5, 2) := dk_21 5 (dk_at dksX5_readPerson_4 7 rfl rfl)
theorem dX5_readPerson_102 : decode cX5_readPerson 102 = .ok (.iconst 1, 1) := dk_4 (dk_at dksX5_readPerson_4 9 rfl rfl)
theorem dX5_readPerson_103 : decode cX5_readPerson 103 = .ok (.iadd, 1) := dk_96 (dk_at dksX5_readPerson_4 10 rfl rfl)
theorem dX5_readPerson_104 : decode cX5_readPerson 104 = .ok (.bipush 99, 2) := dk_16 99 (dk_at dksX5_readPerson_4 11 rfl rfl)
theorem dX5_readPerson_106 : decode cX5_readPerson 106 = .ok (.invokevirtual 253, 3) := dk_182 0 253 (dk_at dksX5_readPerson_4 13 rfl rfl)
theorem dX5_readPerson_109 : decode cX5_readPerson 109 = .ok (.goto 4, 3) := dk_167 0 4 (dk_at dksX5_readPerson_4 16 rfl rfl)
theorem dX5_readPerson_112 : decode cX5_readPerson 112 = .ok (.iconst 0, 1) := dk_3 (dk_at dksX5_readPerson_4 19 rfl rfl)
theorem dX5_readPerson_113 : decode cX5_readPerson 113 = .ok (.istore 6, 2) := dk_54 6 (dk_at dksX5_readPerson_4 20 rfl rfl)
theorem dX5_readPerson_115 : decode cX5_readPerson 115 = .ok (.aload_n 0, 1) := dk_42 (dk_at dksX5_readPerson_4 22 rfl rfl)
theorem dX5_readPerson_116 : decode cX5_readPerson 116 = .ok (.getfield 85, 3) := dk_180 0 85 (dk_at dksX5_readPerson_5 0 rfl rfl)
theorem dX5_readPerson_119 : decode cX5_readPerson 119 = .ok (.iconst 5, 1) := dk_8 (dk_at dksX5_readPerson_5 3 rfl rfl)
theorem dX5_readPerson_120 : decode cX5_readPerson 120 = .ok (.if_icmp .ne 4, 3) := dk_160 0 4 (dk_at dksX5_readPerson_5 4 rfl rfl)
theorem dX5_readPerson_123 : decode cX5_readPerson 123 = .ok (.return_, 1) := dk_177 (dk_at dksX5_readPerson_5 7 rfl rfl)
theorem dX5_readPerson_124 : decode cX5_readPerson 124 = .ok (.aload_n 0, 1) := dk_42 (dk_at dksX5_readPerson_5 8 rfl rfl)
theorem dX5_readPerson_125 : decode cX5_readPerson 125 = .ok (.getfield 173, 3) := dk_180 0 173 (dk_at dksX5_readPerson_5 9 rfl rfl)
theorem dX5_readPerson_128 : decode cX5_readPerson 128 = .ok (.getfield 323, 3) := dk_180 1 67 (dk_at dksX5_readPerson_5 12 rfl rfl)
theorem dX5_readPerson_131 : decode cX5_readPerson 131 = .ok (.aload_n 0, 1) := dk_42 (dk_at dksX5_readPerson_5 15 rfl rfl)
theorem dX5_readPerson_132 : decode cX5_readPerson 132 = .ok (.getfield 173, 3) := dk_180 0 173 (dk_at dksX5_readPerson_5 16 rfl rfl)
theorem dX5_readPerson_135 : decode cX5_readPerson 135 = .ok (.getfield 221, 3) := dk_180 0 221 (dk_at dksX5_readPerson_5 19 rfl rfl)
theorem dX5_readPerson_138 : decode cX5_readPerson 138 = .ok (.iload_n 1, 1) := dk_27 (dk_at dksX5_readPerson_5 22 rfl rfl)
theorem dX5_readPerson_139 : decode cX5_readPerson 139 = .ok (.iastore, 1) := dk_79 (dk_at dksX5_readPerson_5 23 rfl rfl)
theorem dX5_readPerson_140 : decode cX5_readPerson 140 = .ok (.aload_n 0, 1) := dk_42 (dk_at dksX5_readPerson_6 0 rfl rfl)
theorem dX5_readPerson_141 : decode cX5_readPerson 141 = .ok (.getfield 173, 3) := dk_180 0 173 (dk_at dksX5_readPerson_6 1 rfl rfl)
theorem dX5_readPerson_144 : decode cX5_readPerson 144 = .ok (.getfield 325, 3) := dk_180 1 69 (dk_at dksX5_readPerson_6 4 rfl rfl)
theorem dX5_readPerson_147 : decode cX5_readPerson 147 = .ok (.aload_n 0, 1) := dk_42 (dk_at dksX5_readPerson_6 7 rfl rfl)
theorem dX5_readPerson_148 : decode cX5_readPerson 148 = .ok (.getfield 173, 3) := dk_180 0 173 (dk_at dksX5_readPerson_6 8 rfl rfl)
theorem dX5_readPerson_151 : decode cX5_readPerson 151 = .ok (.getfield 221, 3) := dk_180 0 221 (dk_at dksX5_readPerson_6 11 rfl rfl)
theorem dX5_readPerson_154 : decode cX5_readPerson 154 = .ok (.iload_n 2, 1) := dk_28 (dk_at dksX5_readPerson_6 14 rfl rfl)
theorem dX5_readPerson_155 : decode cX5_readPerson 155 = .ok (.bastore, 1) := dk_84 (dk_at dksX5_readPerson_6 15 rfl rfl)
theorem dX5_readPerson_156 : decode cX5_readPerson 156 = .ok (.aload_n 0, 1) := dk_42 (dk_at dksX5_readPerson_6 16 rfl rfl)
theorem dX5_readPerson_157 : decode cX5_readPerson 157 = .ok (.getfield 173, 3) := dk_180 0 173 (dk_at dksX5_readPerson_6 17 rfl rfl)
theorem dX5_readPerson_160 : decode cX5_readPerson 160 = .ok (.getfield 328, 3) := dk_180 1 72 (dk_at dksX5_readPerson_6 20 rfl rfl)
theorem dX5_readPerson_163 : decode cX5_readPerson 163 = .ok (.aload_n 0, 1) := dk_42 (dk_at dksX5_readPerson_6 23 rfl rfl)
theorem dX5_readPerson_164 : decode cX5_readPerson 164 = .ok (.getfield 173, 3) := dk_180 0 173 (dk_at dksX5_readPerson_7 0 rfl rfl)
theorem dX5_readPerson_167 : decode cX5_readPerson 167 = .ok (.getfield 221, 3) := dk_180 0 221 (dk_at dksX5_readPerson_7 3 rfl rfl)
theorem dX5_readPerson_170 : decode cX5_readPerson 170 = .ok (.iload_n 3, 1) := dk_29 (dk_at dksX5_readPerson_7 6 rfl rfl)
theorem dX5_readPerson_171 : decode cX5_readPerson 171 = .ok (.iastore, 1) := dk_79 (dk_at dksX5_readPerson_7 7 rfl rfl)
theorem dX5_readPerson_172 : decode cX5_readPerson 172 = .ok (.aload_n 0, 1) := dk_42 (dk_at dksX5_readPerson_7 8 rfl rfl)
theorem dX5_readPerson_173 : decode cX5_readPerson 173 = .ok (.getfield 173, 3) := dk_180 0 173 (dk_at dksX5_readPerson_7 9 rfl rfl)
theorem dX5_readPerson_176 : decode cX5_readPerson 176 = .ok (.getfield 330, 3) := dk_180 1 74 (dk_at dksX5_readPerson_7 12 rfl rfl)
theorem dX5_readPerson_179 : decode cX5_readPerson 179 = .ok (.aload_n 0, 1) := dk_42 (dk_at dksX5_readPerson_7 15 rfl rfl)
theorem dX5_readPerson_180 : decode cX5_readPerson 180 = .ok (.getfield 173, 3) := dk_180 0 173 (dk_at dksX5_readPerson_7 16 rfl rfl)
theorem dX5_readPerson_183 : decode cX5_readPerson 183 = .ok (.getfield 221, 3) := dk_180 0 221 (dk_at dksX5_readPerson_7 19 rfl rfl)
theorem dX5_readPerson_186 : decode cX5_readPerson 186 = .ok (.iload 5, 2) := dk_21 5 (dk_at dksX5_readPerson_7 22 rfl rfl)
theorem dX5_readPerson_188 : decode cX5_readPerson 188 = .ok (.iastore, 1) := dk_79 (dk_at dksX5_readPerson_8 0 rfl rfl)
theorem dX5_readPerson_189 : decode cX5_readPerson 189 = .ok (.aload_n 0, 1) := dk_42 (dk_at dksX5_readPerson_8 1 rfl rfl)
theorem dX5_readPerson_190 : decode cX5_readPerson 190 = .ok (.getfield 173, 3) := dk_180 0 173 (dk_at dksX5_readPerson_8 2 rfl rfl)
theorem dX5_readPerson_193 : decode cX5_readPerson 193 = .ok (.getfield 332, 3) := dk_180 1 76 (dk_at dksX5_readPerson_8 5 rfl rfl)
theorem dX5_readPerson_196 : decode cX5_readPerson 196 = .ok (.aload_n 0, 1) := dk_42 (dk_at dksX5_readPerson_8 8 rfl rfl)
theorem dX5_readPerson_197 : decode cX5_readPerson 197 = .ok (.getfield 173, 3) := dk_180 0 173 (dk_at dksX5_readPerson_8 9 rfl rfl)
theorem dX5_readPerson_200 : decode cX5_readPerson 200 = .ok (.getfield 221, 3) := dk_180 0 221 (dk_at dksX5_readPerson_8 12 rfl rfl)
theorem dX5_readPerson_203 : decode cX5_readPerson 203 = .ok (.iload 6, 2) := dk_21 6 (dk_at dksX5_readPerson_8 15 rfl rfl)
theorem dX5_readPerson_205 : decode cX5_readPerson 205 = .ok (.iastore, 1) := dk_79 (dk_at dksX5_readPerson_8 17 rfl rfl)
theorem dX5_readPerson_206 : decode cX5_readPerson 206 = .ok (.aload_n 0, 1) := dk_42 (dk_at dksX5_readPerson_8 18 rfl rfl)
theorem dX5_readPerson_207 : decode cX5_readPerson 207 = .ok (.getfield 173, 3) := dk_180 0 173 (dk_at dksX5_readPerson_8 19 rfl rfl)
theorem dX5_readPerson_210 : decode cX5_readPerson 210 = .ok (.dup, 1) := dk_89 (dk_at dksX5_readPerson_8 22 rfl rfl)
theorem dX5_readPerson_211 : decode cX5_readPerson 211 = .ok (.getfield 221, 3) := dk_180 0 221 (dk_at dksX5_readPerson_9 0 rfl rfl)
theorem dX5_readPerson_214 : decode cX5_readPerson 214 = .ok (.iconst 1, 1) := dk_4 (dk_at dksX5_readPerson_9 3 rfl rfl)
theorem dX5_readPerson_215 : decode cX5_readPerson 215 = .ok (.iadd, 1) := dk_96 (dk_at dksX5_readPerson_9 4 rfl rfl)
theorem dX5_readPerson_216 : decode cX5_readPerson 216 = .ok (.putfield 221, 3) := dk_181 0 221 (dk_at dksX5_readPerson_9 5 rfl rfl)
theorem dX5_readPerson_219 : decode cX5_readPerson 219 = .ok (.return_, 1) := dk_177 (dk_at dksX5_readPerson_9 8 rfl rfl)
abbrev cX5_eatsWord : ByteArray := prog_15_method_17_code
def yX5_eatsWord : MethodName := ⟨RX5, "eatsWord", "(Ljava/lang/String;)Z"⟩
def dkwX5_eatsWord_0 : List UInt8 := [42, 43, 182, 0, 124, 61, 28, 153, 0, 7, 42, 182, 0, 128, 28, 172]
abbrev dktX5_eatsWord_0 : List UInt8 := dkwX5_eatsWord_0 ++ []
theorem dksX5_eatsWord_0 : cX5_eatsWord.data.toList.drop 0 = dktX5_eatsWord_0 := by decide +kernel
theorem dX5_eatsWord_0 : decode cX5_eatsWord 0 = .ok (.aload_n 0, 1) := dk_42 (dk_at dksX5_eatsWord_0 0 rfl rfl)
theorem dX5_eatsWord_1 : decode cX5_eatsWord 1 = .ok (.aload_n 1, 1) := dk_43 (dk_at dksX5_eatsWord_0 1 rfl rfl)
theorem dX5_eatsWord_2 : decode cX5_eatsWord 2 = .ok (.invokevirtual 124, 3) := dk_182 0 124 (dk_at dksX5_eatsWord_0 2 rfl rfl)
theorem dX5_eatsWord_5 : decode cX5_eatsWord 5 = .ok (.istore_n 2, 1) := dk_61 (dk_at dksX5_eatsWord_0 5 rfl rfl)
theorem dX5_eatsWord_6 : decode cX5_eatsWord 6 = .ok (.iload_n 2, 1) := dk_28 (dk_at dksX5_eatsWord_0 6 rfl rfl)
theorem dX5_eatsWord_7 : decode cX5_eatsWord 7 = .ok (.ifCond .eq 7, 3) := dk_153 0 7 (dk_at dksX5_eatsWord_0 7 rfl rfl)
theorem dX5_eatsWord_10 : decode cX5_eatsWord 10 = .ok (.aload_n 0, 1) := dk_42 (dk_at dksX5_eatsWord_0 10 rfl rfl)
theorem dX5_eatsWord_11 : decode cX5_eatsWord 11 = .ok (.invokevirtual 128, 3) := dk_182 0 128 (dk_at dksX5_eatsWord_0 11 rfl rfl)
theorem dX5_eatsWord_14 : decode cX5_eatsWord 14 = .ok (.iload_n 2, 1) := dk_28 (dk_at dksX5_eatsWord_0 14 rfl rfl)
theorem dX5_eatsWord_15 : decode cX5_eatsWord 15 = .ok (.ireturn, 1) := dk_172 (dk_at dksX5_eatsWord_0 15 rfl rfl)
abbrev cX5_readPair : ByteArray := prog_15_method_38_code
def yX5_readPair : MethodName := ⟨RX5, "readPair", "()V"⟩
def dkwX5_readPair_4 : List UInt8 := [96, 181, 1, 79, 177]
abbrev dktX5_readPair_4 : List UInt8 := dkwX5_readPair_4 ++ []
def dkwX5_readPair_3 : List UInt8 := [180, 0, 173, 180, 1, 85, 42, 180, 0, 173, 180, 1, 79, 27, 79, 42, 180, 0, 173, 89, 180, 1, 79, 4]
abbrev dktX5_readPair_3 : List UInt8 := dkwX5_readPair_3 ++ dktX5_readPair_4
def dkwX5_readPair_2 : List UInt8 := [160, 0, 4, 177, 42, 180, 0, 173, 180, 1, 82, 42, 180, 0, 173, 180, 1, 79, 42, 180, 0, 202, 79, 42]
abbrev dktX5_readPair_2 : List UInt8 := dkwX5_readPair_2 ++ dktX5_readPair_3
def dkwX5_readPair_1 : List UInt8 := [180, 0, 173, 180, 1, 85, 42, 180, 0, 173, 180, 1, 79, 182, 1, 42, 60, 42, 180, 0, 85, 8]
abbrev dktX5_readPair_1 : List UInt8 := dkwX5_readPair_1 ++ dktX5_readPair_2
def dkwX5_readPair_0 : List UInt8 := [42, 42, 180, 0, 173, 180, 1, 79, 6, 182, 1, 19, 42, 4, 42, 180, 0, 173, 180, 1, 82, 42]
abbrev dktX5_readPair_0 : List UInt8 := dkwX5_readPair_0 ++ dktX5_readPair_1
theorem dksX5_readPair_0 : cX5_readPair.data.toList.drop 0 = dktX5_readPair_0 := by decide +kernel
theorem dksX5_readPair_1 : cX5_readPair.data.toList.drop 22 = dktX5_readPair_1 := dk_seg dksX5_readPair_0 22 rfl rfl
theorem dksX5_readPair_2 : cX5_readPair.data.toList.drop 44 = dktX5_readPair_2 := dk_seg dksX5_readPair_1 22 rfl rfl
theorem dksX5_readPair_3 : cX5_readPair.data.toList.drop 68 = dktX5_readPair_3 := dk_seg dksX5_readPair_2 24 rfl rfl
theorem dksX5_readPair_4 : cX5_readPair.data.toList.drop 92 = dktX5_readPair_4 := dk_seg dksX5_readPair_3 24 rfl rfl
theorem dX5_readPair_0 : decode cX5_readPair 0 = .ok (.aload_n 0, 1) := dk_42 (dk_at dksX5_readPair_0 0 rfl rfl)
theorem dX5_readPair_1 : decode cX5_readPair 1 = .ok (.aload_n 0, 1) := dk_42 (dk_at dksX5_readPair_0 1 rfl rfl)
theorem dX5_readPair_2 : decode cX5_readPair 2 = .ok (.getfield 173, 3) := dk_180 0 173 (dk_at dksX5_readPair_0 2 rfl rfl)
theorem dX5_readPair_5 : decode cX5_readPair 5 = .ok (.getfield 335, 3) := dk_180 1 79 (dk_at dksX5_readPair_0 5 rfl rfl)
theorem dX5_readPair_8 : decode cX5_readPair 8 = .ok (.iconst 3, 1) := dk_6 (dk_at dksX5_readPair_0 8 rfl rfl)
theorem dX5_readPair_9 : decode cX5_readPair 9 = .ok (.invokevirtual 275, 3) := dk_182 1 19 (dk_at dksX5_readPair_0 9 rfl rfl)
theorem dX5_readPair_12 : decode cX5_readPair 12 = .ok (.aload_n 0, 1) := dk_42 (dk_at dksX5_readPair_0 12 rfl rfl)
theorem dX5_readPair_13 : decode cX5_readPair 13 = .ok (.iconst 1, 1) := dk_4 (dk_at dksX5_readPair_0 13 rfl rfl)
theorem dX5_readPair_14 : decode cX5_readPair 14 = .ok (.aload_n 0, 1) := dk_42 (dk_at dksX5_readPair_0 14 rfl rfl)
theorem dX5_readPair_15 : decode cX5_readPair 15 = .ok (.getfield 173, 3) := dk_180 0 173 (dk_at dksX5_readPair_0 15 rfl rfl)
theorem dX5_readPair_18 : decode cX5_readPair 18 = .ok (.getfield 338, 3) := dk_180 1 82 (dk_at dksX5_readPair_0 18 rfl rfl)
theorem dX5_readPair_21 : decode cX5_readPair 21 = .ok (.aload_n 0, 1) := dk_42 (dk_at dksX5_readPair_0 21 rfl rfl)
theorem dX5_readPair_22 : decode cX5_readPair 22 = .ok (.getfield 173, 3) := dk_180 0 173 (dk_at dksX5_readPair_1 0 rfl rfl)
theorem dX5_readPair_25 : decode cX5_readPair 25 = .ok (.getfield 341, 3) := dk_180 1 85 (dk_at dksX5_readPair_1 3 rfl rfl)
theorem dX5_readPair_28 : decode cX5_readPair 28 = .ok (.aload_n 0, 1) := dk_42 (dk_at dksX5_readPair_1 6 rfl rfl)
theorem dX5_readPair_29 : decode cX5_readPair 29 = .ok (.getfield 173, 3) := dk_180 0 173 (dk_at dksX5_readPair_1 7 rfl rfl)
theorem dX5_readPair_32 : decode cX5_readPair 32 = .ok (.getfield 335, 3) := dk_180 1 79 (dk_at dksX5_readPair_1 10 rfl rfl)
theorem dX5_readPair_35 : decode cX5_readPair 35 = .ok (.invokevirtual 298, 3) := dk_182 1 42 (dk_at dksX5_readPair_1 13 rfl rfl)
theorem dX5_readPair_38 : decode cX5_readPair 38 = .ok (.istore_n 1, 1) := dk_60 (dk_at dksX5_readPair_1 16 rfl rfl)
theorem dX5_readPair_39 : decode cX5_readPair 39 = .ok (.aload_n 0, 1) := dk_42 (dk_at dksX5_readPair_1 17 rfl rfl)
theorem dX5_readPair_40 : decode cX5_readPair 40 = .ok (.getfield 85, 3) := dk_180 0 85 (dk_at dksX5_readPair_1 18 rfl rfl)
theorem dX5_readPair_43 : decode cX5_readPair 43 = .ok (.iconst 5, 1) := dk_8 (dk_at dksX5_readPair_1 21 rfl rfl)
theorem dX5_readPair_44 : decode cX5_readPair 44 = .ok (.if_icmp .ne 4, 3) := dk_160 0 4 (dk_at dksX5_readPair_2 0 rfl rfl)
theorem dX5_readPair_47 : decode cX5_readPair 47 = .ok (.return_, 1) := dk_177 (dk_at dksX5_readPair_2 3 rfl rfl)
theorem dX5_readPair_48 : decode cX5_readPair 48 = .ok (.aload_n 0, 1) := dk_42 (dk_at dksX5_readPair_2 4 rfl rfl)
theorem dX5_readPair_49 : decode cX5_readPair 49 = .ok (.getfield 173, 3) := dk_180 0 173 (dk_at dksX5_readPair_2 5 rfl rfl)
theorem dX5_readPair_52 : decode cX5_readPair 52 = .ok (.getfield 338, 3) := dk_180 1 82 (dk_at dksX5_readPair_2 8 rfl rfl)
theorem dX5_readPair_55 : decode cX5_readPair 55 = .ok (.aload_n 0, 1) := dk_42 (dk_at dksX5_readPair_2 11 rfl rfl)
theorem dX5_readPair_56 : decode cX5_readPair 56 = .ok (.getfield 173, 3) := dk_180 0 173 (dk_at dksX5_readPair_2 12 rfl rfl)
theorem dX5_readPair_59 : decode cX5_readPair 59 = .ok (.getfield 335, 3) := dk_180 1 79 (dk_at dksX5_readPair_2 15 rfl rfl)
theorem dX5_readPair_62 : decode cX5_readPair 62 = .ok (.aload_n 0, 1) := dk_42 (dk_at dksX5_readPair_2 18 rfl rfl)
theorem dX5_readPair_63 : decode cX5_readPair 63 = .ok (.getfield 202, 3) := dk_180 0 202 (dk_at dksX5_readPair_2 19 rfl rfl)
theorem dX5_readPair_66 : decode cX5_readPair 66 = .ok (.iastore, 1) := dk_79 (dk_at dksX5_readPair_2 22 rfl rfl)
theorem dX5_readPair_67 : decode cX5_readPair 67 = .ok (.aload_n 0, 1) := dk_42 (dk_at dksX5_readPair_2 23 rfl rfl)
theorem dX5_readPair_68 : decode cX5_readPair 68 = .ok (.getfield 173, 3) := dk_180 0 173 (dk_at dksX5_readPair_3 0 rfl rfl)
theorem dX5_readPair_71 : decode cX5_readPair 71 = .ok (.getfield 341, 3) := dk_180 1 85 (dk_at dksX5_readPair_3 3 rfl rfl)
theorem dX5_readPair_74 : decode cX5_readPair 74 = .ok (.aload_n 0, 1) := dk_42 (dk_at dksX5_readPair_3 6 rfl rfl)
theorem dX5_readPair_75 : decode cX5_readPair 75 = .ok (.getfield 173, 3) := dk_180 0 173 (dk_at dksX5_readPair_3 7 rfl rfl)
theorem dX5_readPair_78 : decode cX5_readPair 78 = .ok (.getfield 335, 3) := dk_180 1 79 (dk_at dksX5_readPair_3 10 rfl rfl)
theorem dX5_readPair_81 : decode cX5_readPair 81 = .ok (.iload_n 1, 1) := dk_27 (dk_at dksX5_readPair_3 13 rfl rfl)
theorem dX5_readPair_82 : decode cX5_readPair 82 = .ok (.iastore, 1) := dk_79 (dk_at dksX5_readPair_3 14 rfl rfl)
theorem dX5_readPair_83 : decode cX5_readPair 83 = .ok (.aload_n 0, 1) := dk_42 (dk_at dksX5_readPair_3 15 rfl rfl)
theorem dX5_readPair_84 : decode cX5_readPair 84 = .ok (.getfield 173, 3) := dk_180 0 173 (dk_at dksX5_readPair_3 16 rfl rfl)
theorem dX5_readPair_87 : decode cX5_readPair 87 = .ok (.dup, 1) := dk_89 (dk_at dksX5_readPair_3 19 rfl rfl)
theorem dX5_readPair_88 : decode cX5_readPair 88 = .ok (.getfield 335, 3) := dk_180 1 79 (dk_at dksX5_readPair_3 20 rfl rfl)
theorem dX5_readPair_91 : decode cX5_readPair 91 = .ok (.iconst 1, 1) := dk_4 (dk_at dksX5_readPair_3 23 rfl rfl)
theorem dX5_readPair_92 : decode cX5_readPair 92 = .ok (.iadd, 1) := dk_96 (dk_at dksX5_readPair_4 0 rfl rfl)
theorem dX5_readPair_93 : decode cX5_readPair 93 = .ok (.putfield 335, 3) := dk_181 1 79 (dk_at dksX5_readPair_4 1 rfl rfl)
theorem dX5_readPair_96 : decode cX5_readPair 96 = .ok (.return_, 1) := dk_177 (dk_at dksX5_readPair_4 4 rfl rfl)
abbrev cX5_readErrand : ByteArray := prog_15_method_39_code
def yX5_readErrand : MethodName := ⟨RX5, "readErrand", "()V"⟩
def dkwX5_readErrand_7 : List UInt8 := [89, 180, 1, 88, 4, 96, 181, 1, 88, 177]
abbrev dktX5_readErrand_7 : List UInt8 := dkwX5_readErrand_7 ++ []
def dkwX5_readErrand_6 : List UInt8 := [21, 4, 79, 42, 180, 0, 173, 180, 1, 105, 42, 180, 0, 173, 180, 1, 88, 21, 5, 79, 42, 180, 0, 173]
abbrev dktX5_readErrand_6 : List UInt8 := dkwX5_readErrand_6 ++ dktX5_readErrand_7
def dkwX5_readErrand_5 : List UInt8 := [42, 180, 0, 173, 180, 1, 88, 29, 79, 42, 180, 0, 173, 180, 1, 102, 42, 180, 0, 173, 180, 1, 88]
abbrev dktX5_readErrand_5 : List UInt8 := dkwX5_readErrand_5 ++ dktX5_readErrand_6
def dkwX5_readErrand_4 : List UInt8 := [79, 42, 180, 0, 173, 180, 1, 96, 42, 180, 0, 173, 180, 1, 88, 28, 79, 42, 180, 0, 173, 180, 1, 99]
abbrev dktX5_readErrand_4 : List UInt8 := dkwX5_readErrand_4 ++ dktX5_readErrand_5
def dkwX5_readErrand_3 : List UInt8 := [42, 180, 0, 85, 8, 160, 0, 4, 177, 42, 180, 0, 173, 180, 1, 93, 42, 180, 0, 173, 180, 1, 88, 27]
abbrev dktX5_readErrand_3 : List UInt8 := dkwX5_readErrand_3 ++ dktX5_readErrand_4
def dkwX5_readErrand_2 : List UInt8 := [29, 4, 96, 16, 99, 182, 0, 253, 54, 4, 42, 19, 1, 91, 4, 21, 4, 29, 100, 182, 0, 253, 54, 5]
abbrev dktX5_readErrand_2 : List UInt8 := dkwX5_readErrand_2 ++ dktX5_readErrand_3
def dkwX5_readErrand_1 : List UInt8 := [182, 0, 139, 42, 3, 182, 0, 199, 61, 42, 19, 1, 7, 3, 16, 99, 182, 0, 253, 62, 42, 19, 1, 11]
abbrev dktX5_readErrand_1 : List UInt8 := dkwX5_readErrand_1 ++ dktX5_readErrand_2
def dkwX5_readErrand_0 : List UInt8 := [42, 42, 180, 0, 173, 180, 1, 88, 8, 182, 1, 19, 42, 4, 182, 0, 199, 60, 42, 19, 1, 26]
abbrev dktX5_readErrand_0 : List UInt8 := dkwX5_readErrand_0 ++ dktX5_readErrand_1
theorem dksX5_readErrand_0 : cX5_readErrand.data.toList.drop 0 = dktX5_readErrand_0 := by decide +kernel
theorem dksX5_readErrand_1 : cX5_readErrand.data.toList.drop 22 = dktX5_readErrand_1 := dk_seg dksX5_readErrand_0 22 rfl rfl
theorem dksX5_readErrand_2 : cX5_readErrand.data.toList.drop 46 = dktX5_readErrand_2 := dk_seg dksX5_readErrand_1 24 rfl rfl
theorem dksX5_readErrand_3 : cX5_readErrand.data.toList.drop 70 = dktX5_readErrand_3 := dk_seg dksX5_readErrand_2 24 rfl rfl
theorem dksX5_readErrand_4 : cX5_readErrand.data.toList.drop 94 = dktX5_readErrand_4 := dk_seg dksX5_readErrand_3 24 rfl rfl
theorem dksX5_readErrand_5 : cX5_readErrand.data.toList.drop 118 = dktX5_readErrand_5 := dk_seg dksX5_readErrand_4 24 rfl rfl
theorem dksX5_readErrand_6 : cX5_readErrand.data.toList.drop 141 = dktX5_readErrand_6 := dk_seg dksX5_readErrand_5 23 rfl rfl
theorem dksX5_readErrand_7 : cX5_readErrand.data.toList.drop 165 = dktX5_readErrand_7 := dk_seg dksX5_readErrand_6 24 rfl rfl
theorem dX5_readErrand_0 : decode cX5_readErrand 0 = .ok (.aload_n 0, 1) := dk_42 (dk_at dksX5_readErrand_0 0 rfl rfl)
theorem dX5_readErrand_1 : decode cX5_readErrand 1 = .ok (.aload_n 0, 1) := dk_42 (dk_at dksX5_readErrand_0 1 rfl rfl)
theorem dX5_readErrand_2 : decode cX5_readErrand 2 = .ok (.getfield 173, 3) := dk_180 0 173 (dk_at dksX5_readErrand_0 2 rfl rfl)
theorem dX5_readErrand_5 : decode cX5_readErrand 5 = .ok (.getfield 344, 3) := dk_180 1 88 (dk_at dksX5_readErrand_0 5 rfl rfl)
theorem dX5_readErrand_8 : decode cX5_readErrand 8 = .ok (.iconst 5, 1) := dk_8 (dk_at dksX5_readErrand_0 8 rfl rfl)
theorem dX5_readErrand_9 : decode cX5_readErrand 9 = .ok (.invokevirtual 275, 3) := dk_182 1 19 (dk_at dksX5_readErrand_0 9 rfl rfl)
theorem dX5_readErrand_12 : decode cX5_readErrand 12 = .ok (.aload_n 0, 1) := dk_42 (dk_at dksX5_readErrand_0 12 rfl rfl)
theorem dX5_readErrand_13 : decode cX5_readErrand 13 = .ok (.iconst 1, 1) := dk_4 (dk_at dksX5_readErrand_0 13 rfl rfl)
theorem dX5_readErrand_14 : decode cX5_readErrand 14 = .ok (.invokevirtual 199, 3) := dk_182 0 199 (dk_at dksX5_readErrand_0 14 rfl rfl)
theorem dX5_readErrand_17 : decode cX5_readErrand 17 = .ok (.istore_n 1, 1) := dk_60 (dk_at dksX5_readErrand_0 17 rfl rfl)
theorem dX5_readErrand_18 : decode cX5_readErrand 18 = .ok (.aload_n 0, 1) := dk_42 (dk_at dksX5_readErrand_0 18 rfl rfl)
theorem dX5_readErrand_19 : decode cX5_readErrand 19 = .ok (.ldc_w 282, 3) := dk_19 1 26 (dk_at dksX5_readErrand_0 19 rfl rfl)
theorem dX5_readErrand_22 : decode cX5_readErrand 22 = .ok (.invokevirtual 139, 3) := dk_182 0 139 (dk_at dksX5_readErrand_1 0 rfl rfl)
theorem dX5_readErrand_25 : decode cX5_readErrand 25 = .ok (.aload_n 0, 1) := dk_42 (dk_at dksX5_readErrand_1 3 rfl rfl)
theorem dX5_readErrand_26 : decode cX5_readErrand 26 = .ok (.iconst 0, 1) := dk_3 (dk_at dksX5_readErrand_1 4 rfl rfl)
theorem dX5_readErrand_27 : decode cX5_readErrand 27 = .ok (.invokevirtual 199, 3) := dk_182 0 199 (dk_at dksX5_readErrand_1 5 rfl rfl)
theorem dX5_readErrand_30 : decode cX5_readErrand 30 = .ok (.istore_n 2, 1) := dk_61 (dk_at dksX5_readErrand_1 8 rfl rfl)
theorem dX5_readErrand_31 : decode cX5_readErrand 31 = .ok (.aload_n 0, 1) := dk_42 (dk_at dksX5_readErrand_1 9 rfl rfl)
theorem dX5_readErrand_32 : decode cX5_readErrand 32 = .ok (.ldc_w 263, 3) := dk_19 1 7 (dk_at dksX5_readErrand_1 10 rfl rfl)
theorem dX5_readErrand_35 : decode cX5_readErrand 35 = .ok (.iconst 0, 1) := dk_3 (dk_at dksX5_readErrand_1 13 rfl rfl)
theorem dX5_readErrand_36 : decode cX5_readErrand 36 = .ok (.bipush 99, 2) := dk_16 99 (dk_at dksX5_readErrand_1 14 rfl rfl)
theorem dX5_readErrand_38 : decode cX5_readErrand 38 = .ok (.invokevirtual 253, 3) := dk_182 0 253 (dk_at dksX5_readErrand_1 16 rfl rfl)
theorem dX5_readErrand_41 : decode cX5_readErrand 41 = .ok (.istore_n 3, 1) := dk_62 (dk_at dksX5_readErrand_1 19 rfl rfl)
theorem dX5_readErrand_42 : decode cX5_readErrand 42 = .ok (.aload_n 0, 1) := dk_42 (dk_at dksX5_readErrand_1 20 rfl rfl)
theorem dX5_readErrand_43 : decode cX5_readErrand 43 = .ok (.ldc_w 267, 3) := dk_19 1 11 (dk_at dksX5_readErrand_1 21 rfl rfl)
theorem dX5_readErrand_46 : decode cX5_readErrand 46 = .ok (.iload_n 3, 1) := dk_29 (dk_at dksX5_readErrand_2 0 rfl rfl)
theorem dX5_readErrand_47 : decode cX5_readErrand 47 = .ok (.iconst 1, 1) := dk_4 (dk_at dksX5_readErrand_2 1 rfl rfl)
theorem dX5_readErrand_48 : decode cX5_readErrand 48 = .ok (.iadd, 1) := dk_96 (dk_at dksX5_readErrand_2 2 rfl rfl)
theorem dX5_readErrand_49 : decode cX5_readErrand 49 = .ok (.bipush 99, 2) := dk_16 99 (dk_at dksX5_readErrand_2 3 rfl rfl)
theorem dX5_readErrand_51 : decode cX5_readErrand 51 = .ok (.invokevirtual 253, 3) := dk_182 0 253 (dk_at dksX5_readErrand_2 5 rfl rfl)
theorem dX5_readErrand_54 : decode cX5_readErrand 54 = .ok (.istore 4, 2) := dk_54 4 (dk_at dksX5_readErrand_2 8 rfl rfl)
theorem dX5_readErrand_56 : decode cX5_readErrand 56 = .ok (.aload_n 0, 1) := dk_42 (dk_at dksX5_readErrand_2 10 rfl rfl)
theorem dX5_readErrand_57 : decode cX5_readErrand 57 = .ok (.ldc_w 347, 3) := dk_19 1 91 (dk_at dksX5_readErrand_2 11 rfl rfl)
theorem dX5_readErrand_60 : decode cX5_readErrand 60 = .ok (.iconst 1, 1) := dk_4 (dk_at dksX5_readErrand_2 14 rfl rfl)
theorem dX5_readErrand_61 : decode cX5_readErrand 61 = .ok (.iload 4, 2) := dk_21 4 (dk_at dksX5_readErrand_2 15 rfl rfl)
theorem dX5_readErrand_63 : decode cX5_readErrand 63 = .ok (.iload_n 3, 1) := dk_29 (dk_at dksX5_readErrand_2 17 rfl rfl)
theorem dX5_readErrand_64 : decode cX5_readErrand 64 = .ok (.isub, 1) := dk_100 (dk_at dksX5_readErrand_2 18 rfl rfl)
theorem dX5_readErrand_65 : decode cX5_readErrand 65 = .ok (.invokevirtual 253, 3) := dk_182 0 253 (dk_at dksX5_readErrand_2 19 rfl rfl)
theorem dX5_readErrand_68 : decode cX5_readErrand 68 = .ok (.istore 5, 2) := dk_54 5 (dk_at dksX5_readErrand_2 22 rfl rfl)
theorem dX5_readErrand_70 : decode cX5_readErrand 70 = .ok (.aload_n 0, 1) := dk_42 (dk_at dksX5_readErrand_3 0 rfl rfl)
theorem dX5_readErrand_71 : decode cX5_readErrand 71 = .ok (.getfield 85, 3) := dk_180 0 85 (dk_at dksX5_readErrand_3 1 rfl rfl)
theorem dX5_readErrand_74 : decode cX5_readErrand 74 = .ok (.iconst 5, 1) := dk_8 (dk_at dksX5_readErrand_3 4 rfl rfl)
theorem dX5_readErrand_75 : decode cX5_readErrand 75 = .ok (.if_icmp .ne 4, 3) := dk_160 0 4 (dk_at dksX5_readErrand_3 5 rfl rfl)
theorem dX5_readErrand_78 : decode cX5_readErrand 78 = .ok (.return_, 1) := dk_177 (dk_at dksX5_readErrand_3 8 rfl rfl)
theorem dX5_readErrand_79 : decode cX5_readErrand 79 = .ok (.aload_n 0, 1) := dk_42 (dk_at dksX5_readErrand_3 9 rfl rfl)
theorem dX5_readErrand_80 : decode cX5_readErrand 80 = .ok (.getfield 173, 3) := dk_180 0 173 (dk_at dksX5_readErrand_3 10 rfl rfl)
theorem dX5_readErrand_83 : decode cX5_readErrand 83 = .ok (.getfield 349, 3) := dk_180 1 93 (dk_at dksX5_readErrand_3 13 rfl rfl)
theorem dX5_readErrand_86 : decode cX5_readErrand 86 = .ok (.aload_n 0, 1) := dk_42 (dk_at dksX5_readErrand_3 16 rfl rfl)
theorem dX5_readErrand_87 : decode cX5_readErrand 87 = .ok (.getfield 173, 3) := dk_180 0 173 (dk_at dksX5_readErrand_3 17 rfl rfl)
theorem dX5_readErrand_90 : decode cX5_readErrand 90 = .ok (.getfield 344, 3) := dk_180 1 88 (dk_at dksX5_readErrand_3 20 rfl rfl)
theorem dX5_readErrand_93 : decode cX5_readErrand 93 = .ok (.iload_n 1, 1) := dk_27 (dk_at dksX5_readErrand_3 23 rfl rfl)
theorem dX5_readErrand_94 : decode cX5_readErrand 94 = .ok (.iastore, 1) := dk_79 (dk_at dksX5_readErrand_4 0 rfl rfl)
theorem dX5_readErrand_95 : decode cX5_readErrand 95 = .ok (.aload_n 0, 1) := dk_42 (dk_at dksX5_readErrand_4 1 rfl rfl)
theorem dX5_readErrand_96 : decode cX5_readErrand 96 = .ok (.getfield 173, 3) := dk_180 0 173 (dk_at dksX5_readErrand_4 2 rfl rfl)
theorem dX5_readErrand_99 : decode cX5_readErrand 99 = .ok (.getfield 352, 3) := dk_180 1 96 (dk_at dksX5_readErrand_4 5 rfl rfl)
theorem dX5_readErrand_102 : decode cX5_readErrand 102 = .ok (.aload_n 0, 1) := dk_42 (dk_at dksX5_readErrand_4 8 rfl rfl)
theorem dX5_readErrand_103 : decode cX5_readErrand 103 = .ok (.getfield 173, 3) := dk_180 0 173 (dk_at dksX5_readErrand_4 9 rfl rfl)
theorem dX5_readErrand_106 : decode cX5_readErrand 106 = .ok (.getfield 344, 3) := dk_180 1 88 (dk_at dksX5_readErrand_4 12 rfl rfl)
theorem dX5_readErrand_109 : decode cX5_readErrand 109 = .ok (.iload_n 2, 1) := dk_28 (dk_at dksX5_readErrand_4 15 rfl rfl)
theorem dX5_readErrand_110 : decode cX5_readErrand 110 = .ok (.iastore, 1) := dk_79 (dk_at dksX5_readErrand_4 16 rfl rfl)
theorem dX5_readErrand_111 : decode cX5_readErrand 111 = .ok (.aload_n 0, 1) := dk_42 (dk_at dksX5_readErrand_4 17 rfl rfl)
theorem dX5_readErrand_112 : decode cX5_readErrand 112 = .ok (.getfield 173, 3) := dk_180 0 173 (dk_at dksX5_readErrand_4 18 rfl rfl)
theorem dX5_readErrand_115 : decode cX5_readErrand 115 = .ok (.getfield 355, 3) := dk_180 1 99 (dk_at dksX5_readErrand_4 21 rfl rfl)
theorem dX5_readErrand_118 : decode cX5_readErrand 118 = .ok (.aload_n 0, 1) := dk_42 (dk_at dksX5_readErrand_5 0 rfl rfl)
theorem dX5_readErrand_119 : decode cX5_readErrand 119 = .ok (.getfield 173, 3) := dk_180 0 173 (dk_at dksX5_readErrand_5 1 rfl rfl)
theorem dX5_readErrand_122 : decode cX5_readErrand 122 = .ok (.getfield 344, 3) := dk_180 1 88 (dk_at dksX5_readErrand_5 4 rfl rfl)
theorem dX5_readErrand_125 : decode cX5_readErrand 125 = .ok (.iload_n 3, 1) := dk_29 (dk_at dksX5_readErrand_5 7 rfl rfl)
theorem dX5_readErrand_126 : decode cX5_readErrand 126 = .ok (.iastore, 1) := dk_79 (dk_at dksX5_readErrand_5 8 rfl rfl)
theorem dX5_readErrand_127 : decode cX5_readErrand 127 = .ok (.aload_n 0, 1) := dk_42 (dk_at dksX5_readErrand_5 9 rfl rfl)
theorem dX5_readErrand_128 : decode cX5_readErrand 128 = .ok (.getfield 173, 3) := dk_180 0 173 (dk_at dksX5_readErrand_5 10 rfl rfl)
theorem dX5_readErrand_131 : decode cX5_readErrand 131 = .ok (.getfield 358, 3) := dk_180 1 102 (dk_at dksX5_readErrand_5 13 rfl rfl)
theorem dX5_readErrand_134 : decode cX5_readErrand 134 = .ok (.aload_n 0, 1) := dk_42 (dk_at dksX5_readErrand_5 16 rfl rfl)
theorem dX5_readErrand_135 : decode cX5_readErrand 135 = .ok (.getfield 173, 3) := dk_180 0 173 (dk_at dksX5_readErrand_5 17 rfl rfl)
theorem dX5_readErrand_138 : decode cX5_readErrand 138 = .ok (.getfield 344, 3) := dk_180 1 88 (dk_at dksX5_readErrand_5 20 rfl rfl)
theorem dX5_readErrand_141 : decode cX5_readErrand 141 = .ok (.iload 4, 2) := dk_21 4 (dk_at dksX5_readErrand_6 0 rfl rfl)
theorem dX5_readErrand_143 : decode cX5_readErrand 143 = .ok (.iastore, 1) := dk_79 (dk_at dksX5_readErrand_6 2 rfl rfl)
theorem dX5_readErrand_144 : decode cX5_readErrand 144 = .ok (.aload_n 0, 1) := dk_42 (dk_at dksX5_readErrand_6 3 rfl rfl)
theorem dX5_readErrand_145 : decode cX5_readErrand 145 = .ok (.getfield 173, 3) := dk_180 0 173 (dk_at dksX5_readErrand_6 4 rfl rfl)
theorem dX5_readErrand_148 : decode cX5_readErrand 148 = .ok (.getfield 361, 3) := dk_180 1 105 (dk_at dksX5_readErrand_6 7 rfl rfl)
theorem dX5_readErrand_151 : decode cX5_readErrand 151 = .ok (.aload_n 0, 1) := dk_42 (dk_at dksX5_readErrand_6 10 rfl rfl)
theorem dX5_readErrand_152 : decode cX5_readErrand 152 = .ok (.getfield 173, 3) := dk_180 0 173 (dk_at dksX5_readErrand_6 11 rfl rfl)
theorem dX5_readErrand_155 : decode cX5_readErrand 155 = .ok (.getfield 344, 3) := dk_180 1 88 (dk_at dksX5_readErrand_6 14 rfl rfl)
theorem dX5_readErrand_158 : decode cX5_readErrand 158 = .ok (.iload 5, 2) := dk_21 5 (dk_at dksX5_readErrand_6 17 rfl rfl)
theorem dX5_readErrand_160 : decode cX5_readErrand 160 = .ok (.iastore, 1) := dk_79 (dk_at dksX5_readErrand_6 19 rfl rfl)
theorem dX5_readErrand_161 : decode cX5_readErrand 161 = .ok (.aload_n 0, 1) := dk_42 (dk_at dksX5_readErrand_6 20 rfl rfl)
theorem dX5_readErrand_162 : decode cX5_readErrand 162 = .ok (.getfield 173, 3) := dk_180 0 173 (dk_at dksX5_readErrand_6 21 rfl rfl)
theorem dX5_readErrand_165 : decode cX5_readErrand 165 = .ok (.dup, 1) := dk_89 (dk_at dksX5_readErrand_7 0 rfl rfl)
theorem dX5_readErrand_166 : decode cX5_readErrand 166 = .ok (.getfield 344, 3) := dk_180 1 88 (dk_at dksX5_readErrand_7 1 rfl rfl)
theorem dX5_readErrand_169 : decode cX5_readErrand 169 = .ok (.iconst 1, 1) := dk_4 (dk_at dksX5_readErrand_7 4 rfl rfl)
theorem dX5_readErrand_170 : decode cX5_readErrand 170 = .ok (.iadd, 1) := dk_96 (dk_at dksX5_readErrand_7 5 rfl rfl)
theorem dX5_readErrand_171 : decode cX5_readErrand 171 = .ok (.putfield 344, 3) := dk_181 1 88 (dk_at dksX5_readErrand_7 6 rfl rfl)
theorem dX5_readErrand_174 : decode cX5_readErrand 174 = .ok (.return_, 1) := dk_177 (dk_at dksX5_readErrand_7 9 rfl rfl)
abbrev cX5_readFog : ByteArray := prog_15_method_40_code
def yX5_readFog : MethodName := ⟨RX5, "readFog", "()V"⟩
def dkwX5_readFog_4 : List UInt8 := [181, 1, 107, 177]
abbrev dktX5_readFog_4 : List UInt8 := dkwX5_readFog_4 ++ []
def dkwX5_readFog_3 : List UInt8 := [180, 1, 115, 42, 180, 0, 173, 180, 1, 107, 28, 79, 42, 180, 0, 173, 89, 180, 1, 107, 4, 96]
abbrev dktX5_readFog_3 : List UInt8 := dkwX5_readFog_3 ++ dktX5_readFog_4
def dkwX5_readFog_2 : List UInt8 := [160, 0, 4, 177, 42, 180, 0, 173, 180, 1, 110, 42, 180, 0, 173, 180, 1, 107, 27, 79, 42, 180, 0, 173]
abbrev dktX5_readFog_2 : List UInt8 := dkwX5_readFog_2 ++ dktX5_readFog_3
def dkwX5_readFog_1 : List UInt8 := [180, 1, 107, 182, 1, 60, 60, 42, 19, 1, 113, 4, 16, 99, 182, 0, 253, 61, 42, 180, 0, 85, 8]
abbrev dktX5_readFog_1 : List UInt8 := dkwX5_readFog_1 ++ dktX5_readFog_2
def dkwX5_readFog_0 : List UInt8 := [42, 42, 180, 0, 173, 180, 1, 107, 7, 182, 1, 19, 42, 42, 180, 0, 173, 180, 1, 110, 42, 180, 0, 173]
abbrev dktX5_readFog_0 : List UInt8 := dkwX5_readFog_0 ++ dktX5_readFog_1
theorem dksX5_readFog_0 : cX5_readFog.data.toList.drop 0 = dktX5_readFog_0 := by decide +kernel
theorem dksX5_readFog_1 : cX5_readFog.data.toList.drop 24 = dktX5_readFog_1 := dk_seg dksX5_readFog_0 24 rfl rfl
theorem dksX5_readFog_2 : cX5_readFog.data.toList.drop 47 = dktX5_readFog_2 := dk_seg dksX5_readFog_1 23 rfl rfl
theorem dksX5_readFog_3 : cX5_readFog.data.toList.drop 71 = dktX5_readFog_3 := dk_seg dksX5_readFog_2 24 rfl rfl
theorem dksX5_readFog_4 : cX5_readFog.data.toList.drop 93 = dktX5_readFog_4 := dk_seg dksX5_readFog_3 22 rfl rfl
theorem dX5_readFog_0 : decode cX5_readFog 0 = .ok (.aload_n 0, 1) := dk_42 (dk_at dksX5_readFog_0 0 rfl rfl)
theorem dX5_readFog_1 : decode cX5_readFog 1 = .ok (.aload_n 0, 1) := dk_42 (dk_at dksX5_readFog_0 1 rfl rfl)
theorem dX5_readFog_2 : decode cX5_readFog 2 = .ok (.getfield 173, 3) := dk_180 0 173 (dk_at dksX5_readFog_0 2 rfl rfl)
theorem dX5_readFog_5 : decode cX5_readFog 5 = .ok (.getfield 363, 3) := dk_180 1 107 (dk_at dksX5_readFog_0 5 rfl rfl)
theorem dX5_readFog_8 : decode cX5_readFog 8 = .ok (.iconst 4, 1) := dk_7 (dk_at dksX5_readFog_0 8 rfl rfl)
theorem dX5_readFog_9 : decode cX5_readFog 9 = .ok (.invokevirtual 275, 3) := dk_182 1 19 (dk_at dksX5_readFog_0 9 rfl rfl)
theorem dX5_readFog_12 : decode cX5_readFog 12 = .ok (.aload_n 0, 1) := dk_42 (dk_at dksX5_readFog_0 12 rfl rfl)
theorem dX5_readFog_13 : decode cX5_readFog 13 = .ok (.aload_n 0, 1) := dk_42 (dk_at dksX5_readFog_0 13 rfl rfl)
theorem dX5_readFog_14 : decode cX5_readFog 14 = .ok (.getfield 173, 3) := dk_180 0 173 (dk_at dksX5_readFog_0 14 rfl rfl)
theorem dX5_readFog_17 : decode cX5_readFog 17 = .ok (.getfield 366, 3) := dk_180 1 110 (dk_at dksX5_readFog_0 17 rfl rfl)
theorem dX5_readFog_20 : decode cX5_readFog 20 = .ok (.aload_n 0, 1) := dk_42 (dk_at dksX5_readFog_0 20 rfl rfl)
theorem dX5_readFog_21 : decode cX5_readFog 21 = .ok (.getfield 173, 3) := dk_180 0 173 (dk_at dksX5_readFog_0 21 rfl rfl)
theorem dX5_readFog_24 : decode cX5_readFog 24 = .ok (.getfield 363, 3) := dk_180 1 107 (dk_at dksX5_readFog_1 0 rfl rfl)
theorem dX5_readFog_27 : decode cX5_readFog 27 = .ok (.invokevirtual 316, 3) := dk_182 1 60 (dk_at dksX5_readFog_1 3 rfl rfl)
theorem dX5_readFog_30 : decode cX5_readFog 30 = .ok (.istore_n 1, 1) := dk_60 (dk_at dksX5_readFog_1 6 rfl rfl)
theorem dX5_readFog_31 : decode cX5_readFog 31 = .ok (.aload_n 0, 1) := dk_42 (dk_at dksX5_readFog_1 7 rfl rfl)
theorem dX5_readFog_32 : decode cX5_readFog 32 = .ok (.ldc_w 369, 3) := dk_19 1 113 (dk_at dksX5_readFog_1 8 rfl rfl)
theorem dX5_readFog_35 : decode cX5_readFog 35 = .ok (.iconst 1, 1) := dk_4 (dk_at dksX5_readFog_1 11 rfl rfl)
theorem dX5_readFog_36 : decode cX5_readFog 36 = .ok (.bipush 99, 2) := dk_16 99 (dk_at dksX5_readFog_1 12 rfl rfl)
theorem dX5_readFog_38 : decode cX5_readFog 38 = .ok (.invokevirtual 253, 3) := dk_182 0 253 (dk_at dksX5_readFog_1 14 rfl rfl)
theorem dX5_readFog_41 : decode cX5_readFog 41 = .ok (.istore_n 2, 1) := dk_61 (dk_at dksX5_readFog_1 17 rfl rfl)
theorem dX5_readFog_42 : decode cX5_readFog 42 = .ok (.aload_n 0, 1) := dk_42 (dk_at dksX5_readFog_1 18 rfl rfl)
theorem dX5_readFog_43 : decode cX5_readFog 43 = .ok (.getfield 85, 3) := dk_180 0 85 (dk_at dksX5_readFog_1 19 rfl rfl)
theorem dX5_readFog_46 : decode cX5_readFog 46 = .ok (.iconst 5, 1) := dk_8 (dk_at dksX5_readFog_1 22 rfl rfl)
theorem dX5_readFog_47 : decode cX5_readFog 47 = .ok (.if_icmp .ne 4, 3) := dk_160 0 4 (dk_at dksX5_readFog_2 0 rfl rfl)
theorem dX5_readFog_50 : decode cX5_readFog 50 = .ok (.return_, 1) := dk_177 (dk_at dksX5_readFog_2 3 rfl rfl)
theorem dX5_readFog_51 : decode cX5_readFog 51 = .ok (.aload_n 0, 1) := dk_42 (dk_at dksX5_readFog_2 4 rfl rfl)
theorem dX5_readFog_52 : decode cX5_readFog 52 = .ok (.getfield 173, 3) := dk_180 0 173 (dk_at dksX5_readFog_2 5 rfl rfl)
theorem dX5_readFog_55 : decode cX5_readFog 55 = .ok (.getfield 366, 3) := dk_180 1 110 (dk_at dksX5_readFog_2 8 rfl rfl)
theorem dX5_readFog_58 : decode cX5_readFog 58 = .ok (.aload_n 0, 1) := dk_42 (dk_at dksX5_readFog_2 11 rfl rfl)
theorem dX5_readFog_59 : decode cX5_readFog 59 = .ok (.getfield 173, 3) := dk_180 0 173 (dk_at dksX5_readFog_2 12 rfl rfl)
theorem dX5_readFog_62 : decode cX5_readFog 62 = .ok (.getfield 363, 3) := dk_180 1 107 (dk_at dksX5_readFog_2 15 rfl rfl)
theorem dX5_readFog_65 : decode cX5_readFog 65 = .ok (.iload_n 1, 1) := dk_27 (dk_at dksX5_readFog_2 18 rfl rfl)
theorem dX5_readFog_66 : decode cX5_readFog 66 = .ok (.iastore, 1) := dk_79 (dk_at dksX5_readFog_2 19 rfl rfl)
theorem dX5_readFog_67 : decode cX5_readFog 67 = .ok (.aload_n 0, 1) := dk_42 (dk_at dksX5_readFog_2 20 rfl rfl)
theorem dX5_readFog_68 : decode cX5_readFog 68 = .ok (.getfield 173, 3) := dk_180 0 173 (dk_at dksX5_readFog_2 21 rfl rfl)
theorem dX5_readFog_71 : decode cX5_readFog 71 = .ok (.getfield 371, 3) := dk_180 1 115 (dk_at dksX5_readFog_3 0 rfl rfl)
theorem dX5_readFog_74 : decode cX5_readFog 74 = .ok (.aload_n 0, 1) := dk_42 (dk_at dksX5_readFog_3 3 rfl rfl)
theorem dX5_readFog_75 : decode cX5_readFog 75 = .ok (.getfield 173, 3) := dk_180 0 173 (dk_at dksX5_readFog_3 4 rfl rfl)
theorem dX5_readFog_78 : decode cX5_readFog 78 = .ok (.getfield 363, 3) := dk_180 1 107 (dk_at dksX5_readFog_3 7 rfl rfl)
theorem dX5_readFog_81 : decode cX5_readFog 81 = .ok (.iload_n 2, 1) := dk_28 (dk_at dksX5_readFog_3 10 rfl rfl)
theorem dX5_readFog_82 : decode cX5_readFog 82 = .ok (.iastore, 1) := dk_79 (dk_at dksX5_readFog_3 11 rfl rfl)
theorem dX5_readFog_83 : decode cX5_readFog 83 = .ok (.aload_n 0, 1) := dk_42 (dk_at dksX5_readFog_3 12 rfl rfl)
theorem dX5_readFog_84 : decode cX5_readFog 84 = .ok (.getfield 173, 3) := dk_180 0 173 (dk_at dksX5_readFog_3 13 rfl rfl)
theorem dX5_readFog_87 : decode cX5_readFog 87 = .ok (.dup, 1) := dk_89 (dk_at dksX5_readFog_3 16 rfl rfl)
theorem dX5_readFog_88 : decode cX5_readFog 88 = .ok (.getfield 363, 3) := dk_180 1 107 (dk_at dksX5_readFog_3 17 rfl rfl)
theorem dX5_readFog_91 : decode cX5_readFog 91 = .ok (.iconst 1, 1) := dk_4 (dk_at dksX5_readFog_3 20 rfl rfl)
theorem dX5_readFog_92 : decode cX5_readFog 92 = .ok (.iadd, 1) := dk_96 (dk_at dksX5_readFog_3 21 rfl rfl)
theorem dX5_readFog_93 : decode cX5_readFog 93 = .ok (.putfield 363, 3) := dk_181 1 107 (dk_at dksX5_readFog_4 0 rfl rfl)
theorem dX5_readFog_96 : decode cX5_readFog 96 = .ok (.return_, 1) := dk_177 (dk_at dksX5_readFog_4 3 rfl rfl)
abbrev cX5_eatsSign : ByteArray := prog_15_method_18_code
def yX5_eatsSign : MethodName := ⟨RX5, "eatsSign", "(I)Z"⟩
def dkwX5_eatsSign_1 : List UInt8 := [153, 0, 7, 42, 182, 0, 128, 28, 172]
abbrev dktX5_eatsSign_1 : List UInt8 := dkwX5_eatsSign_1 ++ []
def dkwX5_eatsSign_0 : List UInt8 := [42, 180, 0, 85, 7, 160, 0, 15, 42, 180, 0, 97, 27, 160, 0, 7, 4, 167, 0, 4, 3, 61, 28]
abbrev dktX5_eatsSign_0 : List UInt8 := dkwX5_eatsSign_0 ++ dktX5_eatsSign_1
theorem dksX5_eatsSign_0 : cX5_eatsSign.data.toList.drop 0 = dktX5_eatsSign_0 := by decide +kernel
theorem dksX5_eatsSign_1 : cX5_eatsSign.data.toList.drop 23 = dktX5_eatsSign_1 := dk_seg dksX5_eatsSign_0 23 rfl rfl
theorem dX5_eatsSign_0 : decode cX5_eatsSign 0 = .ok (.aload_n 0, 1) := dk_42 (dk_at dksX5_eatsSign_0 0 rfl rfl)
theorem dX5_eatsSign_1 : decode cX5_eatsSign 1 = .ok (.getfield 85, 3) := dk_180 0 85 (dk_at dksX5_eatsSign_0 1 rfl rfl)
theorem dX5_eatsSign_4 : decode cX5_eatsSign 4 = .ok (.iconst 4, 1) := dk_7 (dk_at dksX5_eatsSign_0 4 rfl rfl)
theorem dX5_eatsSign_5 : decode cX5_eatsSign 5 = .ok (.if_icmp .ne 15, 3) := dk_160 0 15 (dk_at dksX5_eatsSign_0 5 rfl rfl)
theorem dX5_eatsSign_8 : decode cX5_eatsSign 8 = .ok (.aload_n 0, 1) := dk_42 (dk_at dksX5_eatsSign_0 8 rfl rfl)
theorem dX5_eatsSign_9 : decode cX5_eatsSign 9 = .ok (.getfield 97, 3) := dk_180 0 97 (dk_at dksX5_eatsSign_0 9 rfl rfl)
theorem dX5_eatsSign_12 : decode cX5_eatsSign 12 = .ok (.iload_n 1, 1) := dk_27 (dk_at dksX5_eatsSign_0 12 rfl rfl)
theorem dX5_eatsSign_13 : decode cX5_eatsSign 13 = .ok (.if_icmp .ne 7, 3) := dk_160 0 7 (dk_at dksX5_eatsSign_0 13 rfl rfl)
theorem dX5_eatsSign_16 : decode cX5_eatsSign 16 = .ok (.iconst 1, 1) := dk_4 (dk_at dksX5_eatsSign_0 16 rfl rfl)
theorem dX5_eatsSign_17 : decode cX5_eatsSign 17 = .ok (.goto 4, 3) := dk_167 0 4 (dk_at dksX5_eatsSign_0 17 rfl rfl)
theorem dX5_eatsSign_20 : decode cX5_eatsSign 20 = .ok (.iconst 0, 1) := dk_3 (dk_at dksX5_eatsSign_0 20 rfl rfl)
theorem dX5_eatsSign_21 : decode cX5_eatsSign 21 = .ok (.istore_n 2, 1) := dk_61 (dk_at dksX5_eatsSign_0 21 rfl rfl)
theorem dX5_eatsSign_22 : decode cX5_eatsSign 22 = .ok (.iload_n 2, 1) := dk_28 (dk_at dksX5_eatsSign_0 22 rfl rfl)
theorem dX5_eatsSign_23 : decode cX5_eatsSign 23 = .ok (.ifCond .eq 7, 3) := dk_153 0 7 (dk_at dksX5_eatsSign_1 0 rfl rfl)
theorem dX5_eatsSign_26 : decode cX5_eatsSign 26 = .ok (.aload_n 0, 1) := dk_42 (dk_at dksX5_eatsSign_1 3 rfl rfl)
theorem dX5_eatsSign_27 : decode cX5_eatsSign 27 = .ok (.invokevirtual 128, 3) := dk_182 0 128 (dk_at dksX5_eatsSign_1 4 rfl rfl)
theorem dX5_eatsSign_30 : decode cX5_eatsSign 30 = .ok (.iload_n 2, 1) := dk_28 (dk_at dksX5_eatsSign_1 7 rfl rfl)
theorem dX5_eatsSign_31 : decode cX5_eatsSign 31 = .ok (.ireturn, 1) := dk_172 (dk_at dksX5_eatsSign_1 8 rfl rfl)
abbrev cX5_forgets : ByteArray := prog_15_method_67_code
def yX5_forgets : MethodName := ⟨RX5, "forgets", "()V"⟩
def dkwX5_forgets_2 : List UInt8 := [167, 255, 227, 132, 1, 1, 167, 255, 208, 177]
abbrev dktX5_forgets_2 : List UInt8 := dkwX5_forgets_2 ++ []
def dkwX5_forgets_1 : List UInt8 := [180, 0, 24, 16, 100, 27, 104, 28, 96, 42, 180, 1, 124, 180, 1, 67, 27, 46, 79, 132, 2, 1]
abbrev dktX5_forgets_1 : List UInt8 := dkwX5_forgets_1 ++ dktX5_forgets_2
def dkwX5_forgets_0 : List UInt8 := [3, 60, 27, 42, 180, 1, 124, 180, 0, 221, 162, 0, 43, 3, 61, 28, 16, 100, 162, 0, 29, 42]
abbrev dktX5_forgets_0 : List UInt8 := dkwX5_forgets_0 ++ dktX5_forgets_1
theorem dksX5_forgets_0 : cX5_forgets.data.toList.drop 0 = dktX5_forgets_0 := by decide +kernel
theorem dksX5_forgets_1 : cX5_forgets.data.toList.drop 22 = dktX5_forgets_1 := dk_seg dksX5_forgets_0 22 rfl rfl
theorem dksX5_forgets_2 : cX5_forgets.data.toList.drop 44 = dktX5_forgets_2 := dk_seg dksX5_forgets_1 22 rfl rfl
theorem dX5_forgets_0 : decode cX5_forgets 0 = .ok (.iconst 0, 1) := dk_3 (dk_at dksX5_forgets_0 0 rfl rfl)
theorem dX5_forgets_1 : decode cX5_forgets 1 = .ok (.istore_n 1, 1) := dk_60 (dk_at dksX5_forgets_0 1 rfl rfl)
theorem dX5_forgets_2 : decode cX5_forgets 2 = .ok (.iload_n 1, 1) := dk_27 (dk_at dksX5_forgets_0 2 rfl rfl)
theorem dX5_forgets_3 : decode cX5_forgets 3 = .ok (.aload_n 0, 1) := dk_42 (dk_at dksX5_forgets_0 3 rfl rfl)
theorem dX5_forgets_4 : decode cX5_forgets 4 = .ok (.getfield 380, 3) := dk_180 1 124 (dk_at dksX5_forgets_0 4 rfl rfl)
theorem dX5_forgets_7 : decode cX5_forgets 7 = .ok (.getfield 221, 3) := dk_180 0 221 (dk_at dksX5_forgets_0 7 rfl rfl)
theorem dX5_forgets_10 : decode cX5_forgets 10 = .ok (.if_icmp .ge 43, 3) := dk_162 0 43 (dk_at dksX5_forgets_0 10 rfl rfl)
theorem dX5_forgets_13 : decode cX5_forgets 13 = .ok (.iconst 0, 1) := dk_3 (dk_at dksX5_forgets_0 13 rfl rfl)
theorem dX5_forgets_14 : decode cX5_forgets 14 = .ok (.istore_n 2, 1) := dk_61 (dk_at dksX5_forgets_0 14 rfl rfl)
theorem dX5_forgets_15 : decode cX5_forgets 15 = .ok (.iload_n 2, 1) := dk_28 (dk_at dksX5_forgets_0 15 rfl rfl)
theorem dX5_forgets_16 : decode cX5_forgets 16 = .ok (.bipush 100, 2) := dk_16 100 (dk_at dksX5_forgets_0 16 rfl rfl)
theorem dX5_forgets_18 : decode cX5_forgets 18 = .ok (.if_icmp .ge 29, 3) := dk_162 0 29 (dk_at dksX5_forgets_0 18 rfl rfl)
theorem dX5_forgets_21 : decode cX5_forgets 21 = .ok (.aload_n 0, 1) := dk_42 (dk_at dksX5_forgets_0 21 rfl rfl)
theorem dX5_forgets_22 : decode cX5_forgets 22 = .ok (.getfield 24, 3) := dk_180 0 24 (dk_at dksX5_forgets_1 0 rfl rfl)
theorem dX5_forgets_25 : decode cX5_forgets 25 = .ok (.bipush 100, 2) := dk_16 100 (dk_at dksX5_forgets_1 3 rfl rfl)
theorem dX5_forgets_27 : decode cX5_forgets 27 = .ok (.iload_n 1, 1) := dk_27 (dk_at dksX5_forgets_1 5 rfl rfl)
theorem dX5_forgets_28 : decode cX5_forgets 28 = .ok (.imul, 1) := dk_104 (dk_at dksX5_forgets_1 6 rfl rfl)
theorem dX5_forgets_29 : decode cX5_forgets 29 = .ok (.iload_n 2, 1) := dk_28 (dk_at dksX5_forgets_1 7 rfl rfl)
theorem dX5_forgets_30 : decode cX5_forgets 30 = .ok (.iadd, 1) := dk_96 (dk_at dksX5_forgets_1 8 rfl rfl)
theorem dX5_forgets_31 : decode cX5_forgets 31 = .ok (.aload_n 0, 1) := dk_42 (dk_at dksX5_forgets_1 9 rfl rfl)
theorem dX5_forgets_32 : decode cX5_forgets 32 = .ok (.getfield 380, 3) := dk_180 1 124 (dk_at dksX5_forgets_1 10 rfl rfl)
theorem dX5_forgets_35 : decode cX5_forgets 35 = .ok (.getfield 323, 3) := dk_180 1 67 (dk_at dksX5_forgets_1 13 rfl rfl)
theorem dX5_forgets_38 : decode cX5_forgets 38 = .ok (.iload_n 1, 1) := dk_27 (dk_at dksX5_forgets_1 16 rfl rfl)
theorem dX5_forgets_39 : decode cX5_forgets 39 = .ok (.iaload, 1) := dk_46 (dk_at dksX5_forgets_1 17 rfl rfl)
theorem dX5_forgets_40 : decode cX5_forgets 40 = .ok (.iastore, 1) := dk_79 (dk_at dksX5_forgets_1 18 rfl rfl)
theorem dX5_forgets_41 : decode cX5_forgets 41 = .ok (.iinc 2 1, 3) := dk_132 2 1 (dk_at dksX5_forgets_1 19 rfl rfl)
theorem dX5_forgets_44 : decode cX5_forgets 44 = .ok (.goto (-29), 3) := dk_167 255 227 (dk_at dksX5_forgets_2 0 rfl rfl)
theorem dX5_forgets_47 : decode cX5_forgets 47 = .ok (.iinc 1 1, 3) := dk_132 1 1 (dk_at dksX5_forgets_2 3 rfl rfl)
theorem dX5_forgets_50 : decode cX5_forgets 50 = .ok (.goto (-48), 3) := dk_167 255 208 (dk_at dksX5_forgets_2 6 rfl rfl)
theorem dX5_forgets_53 : decode cX5_forgets 53 = .ok (.return_, 1) := dk_177 (dk_at dksX5_forgets_2 9 rfl rfl)
abbrev cX5_told : ByteArray := prog_15_method_5_code
def yX5_told : MethodName := ⟨RX5, "told", "(II)I"⟩
def dkwX5_told_0 : List UInt8 := [28, 158, 0, 9, 42, 28, 182, 0, 62, 172, 42, 3, 181, 0, 59, 42, 2, 181, 0, 9, 27, 172]
abbrev dktX5_told_0 : List UInt8 := dkwX5_told_0 ++ []
theorem dksX5_told_0 : cX5_told.data.toList.drop 0 = dktX5_told_0 := by decide +kernel
theorem dX5_told_0 : decode cX5_told 0 = .ok (.iload_n 2, 1) := dk_28 (dk_at dksX5_told_0 0 rfl rfl)
theorem dX5_told_1 : decode cX5_told 1 = .ok (.ifCond .le 9, 3) := dk_158 0 9 (dk_at dksX5_told_0 1 rfl rfl)
theorem dX5_told_4 : decode cX5_told 4 = .ok (.aload_n 0, 1) := dk_42 (dk_at dksX5_told_0 4 rfl rfl)
theorem dX5_told_5 : decode cX5_told 5 = .ok (.iload_n 2, 1) := dk_28 (dk_at dksX5_told_0 5 rfl rfl)
theorem dX5_told_6 : decode cX5_told 6 = .ok (.invokevirtual 62, 3) := dk_182 0 62 (dk_at dksX5_told_0 6 rfl rfl)
theorem dX5_told_9 : decode cX5_told 9 = .ok (.ireturn, 1) := dk_172 (dk_at dksX5_told_0 9 rfl rfl)
theorem dX5_told_10 : decode cX5_told 10 = .ok (.aload_n 0, 1) := dk_42 (dk_at dksX5_told_0 10 rfl rfl)
theorem dX5_told_11 : decode cX5_told 11 = .ok (.iconst 0, 1) := dk_3 (dk_at dksX5_told_0 11 rfl rfl)
theorem dX5_told_12 : decode cX5_told 12 = .ok (.putfield 59, 3) := dk_181 0 59 (dk_at dksX5_told_0 12 rfl rfl)
theorem dX5_told_15 : decode cX5_told 15 = .ok (.aload_n 0, 1) := dk_42 (dk_at dksX5_told_0 15 rfl rfl)
theorem dX5_told_16 : decode cX5_told 16 = .ok (.iconst (-1), 1) := dk_2 (dk_at dksX5_told_0 16 rfl rfl)
theorem dX5_told_17 : decode cX5_told 17 = .ok (.putfield 9, 3) := dk_181 0 9 (dk_at dksX5_told_0 17 rfl rfl)
theorem dX5_told_20 : decode cX5_told 20 = .ok (.iload_n 1, 1) := dk_27 (dk_at dksX5_told_0 20 rfl rfl)
theorem dX5_told_21 : decode cX5_told 21 = .ok (.ireturn, 1) := dk_172 (dk_at dksX5_told_0 21 rfl rfl)
abbrev cX5_fault : ByteArray := prog_15_method_43_code
def yX5_fault : MethodName := ⟨RX5, "fault", "()I"⟩
def dkwX5_fault_0 : List UInt8 := [42, 3, 181, 0, 56, 42, 180, 0, 114, 172]
abbrev dktX5_fault_0 : List UInt8 := dkwX5_fault_0 ++ []
theorem dksX5_fault_0 : cX5_fault.data.toList.drop 0 = dktX5_fault_0 := by decide +kernel
theorem dX5_fault_0 : decode cX5_fault 0 = .ok (.aload_n 0, 1) := dk_42 (dk_at dksX5_fault_0 0 rfl rfl)
theorem dX5_fault_1 : decode cX5_fault 1 = .ok (.iconst 0, 1) := dk_3 (dk_at dksX5_fault_0 1 rfl rfl)
theorem dX5_fault_2 : decode cX5_fault 2 = .ok (.putfield 56, 3) := dk_181 0 56 (dk_at dksX5_fault_0 2 rfl rfl)
theorem dX5_fault_5 : decode cX5_fault 5 = .ok (.aload_n 0, 1) := dk_42 (dk_at dksX5_fault_0 5 rfl rfl)
theorem dX5_fault_6 : decode cX5_fault 6 = .ok (.getfield 114, 3) := dk_180 0 114 (dk_at dksX5_fault_0 6 rfl rfl)
theorem dX5_fault_9 : decode cX5_fault 9 = .ok (.ireturn, 1) := dk_172 (dk_at dksX5_fault_0 9 rfl rfl)
abbrev cX5_where : ByteArray := prog_15_method_44_code
def yX5_where : MethodName := ⟨RX5, "where", "()I"⟩
def dkwX5_where_0 : List UInt8 := [42, 3, 181, 0, 56, 42, 180, 0, 9, 172]
abbrev dktX5_where_0 : List UInt8 := dkwX5_where_0 ++ []
theorem dksX5_where_0 : cX5_where.data.toList.drop 0 = dktX5_where_0 := by decide +kernel
theorem dX5_where_0 : decode cX5_where 0 = .ok (.aload_n 0, 1) := dk_42 (dk_at dksX5_where_0 0 rfl rfl)
theorem dX5_where_1 : decode cX5_where 1 = .ok (.iconst 0, 1) := dk_3 (dk_at dksX5_where_0 1 rfl rfl)
theorem dX5_where_2 : decode cX5_where 2 = .ok (.putfield 56, 3) := dk_181 0 56 (dk_at dksX5_where_0 2 rfl rfl)
theorem dX5_where_5 : decode cX5_where 5 = .ok (.aload_n 0, 1) := dk_42 (dk_at dksX5_where_0 5 rfl rfl)
theorem dX5_where_6 : decode cX5_where 6 = .ok (.getfield 9, 3) := dk_180 0 9 (dk_at dksX5_where_0 6 rfl rfl)
theorem dX5_where_9 : decode cX5_where 9 = .ok (.ireturn, 1) := dk_172 (dk_at dksX5_where_0 9 rfl rfl)
abbrev cX5_plain : ByteArray := prog_15_method_52_code
def yX5_plain : MethodName := ⟨RX5, "plain", "(III)I"⟩
def dkwX5_plain_3 : List UInt8 := [182, 0, 62, 172]
abbrev dktX5_plain_3 : List UInt8 := dkwX5_plain_3 ++ []
def dkwX5_plain_2 : List UInt8 := [182, 1, 149, 182, 1, 152, 153, 0, 7, 4, 167, 0, 4, 3, 3, 182, 0, 66, 167, 0, 8, 42, 5]
abbrev dktX5_plain_2 : List UInt8 := dkwX5_plain_2 ++ dktX5_plain_3
def dkwX5_plain_1 : List UInt8 := [160, 0, 9, 42, 4, 182, 0, 62, 172, 29, 184, 1, 155, 153, 0, 30, 42, 42, 27, 28, 42, 29]
abbrev dktX5_plain_1 : List UInt8 := dkwX5_plain_1 ++ dktX5_plain_2
def dkwX5_plain_0 : List UInt8 := [42, 3, 181, 0, 56, 42, 27, 182, 1, 158, 153, 0, 16, 42, 28, 182, 1, 158, 153, 0, 8, 27, 28]
abbrev dktX5_plain_0 : List UInt8 := dkwX5_plain_0 ++ dktX5_plain_1
theorem dksX5_plain_0 : cX5_plain.data.toList.drop 0 = dktX5_plain_0 := by decide +kernel
theorem dksX5_plain_1 : cX5_plain.data.toList.drop 23 = dktX5_plain_1 := dk_seg dksX5_plain_0 23 rfl rfl
theorem dksX5_plain_2 : cX5_plain.data.toList.drop 45 = dktX5_plain_2 := dk_seg dksX5_plain_1 22 rfl rfl
theorem dksX5_plain_3 : cX5_plain.data.toList.drop 68 = dktX5_plain_3 := dk_seg dksX5_plain_2 23 rfl rfl
theorem dX5_plain_0 : decode cX5_plain 0 = .ok (.aload_n 0, 1) := dk_42 (dk_at dksX5_plain_0 0 rfl rfl)
theorem dX5_plain_1 : decode cX5_plain 1 = .ok (.iconst 0, 1) := dk_3 (dk_at dksX5_plain_0 1 rfl rfl)
theorem dX5_plain_2 : decode cX5_plain 2 = .ok (.putfield 56, 3) := dk_181 0 56 (dk_at dksX5_plain_0 2 rfl rfl)
theorem dX5_plain_5 : decode cX5_plain 5 = .ok (.aload_n 0, 1) := dk_42 (dk_at dksX5_plain_0 5 rfl rfl)
theorem dX5_plain_6 : decode cX5_plain 6 = .ok (.iload_n 1, 1) := dk_27 (dk_at dksX5_plain_0 6 rfl rfl)
theorem dX5_plain_7 : decode cX5_plain 7 = .ok (.invokevirtual 414, 3) := dk_182 1 158 (dk_at dksX5_plain_0 7 rfl rfl)
theorem dX5_plain_10 : decode cX5_plain 10 = .ok (.ifCond .eq 16, 3) := dk_153 0 16 (dk_at dksX5_plain_0 10 rfl rfl)
theorem dX5_plain_13 : decode cX5_plain 13 = .ok (.aload_n 0, 1) := dk_42 (dk_at dksX5_plain_0 13 rfl rfl)
theorem dX5_plain_14 : decode cX5_plain 14 = .ok (.iload_n 2, 1) := dk_28 (dk_at dksX5_plain_0 14 rfl rfl)
theorem dX5_plain_15 : decode cX5_plain 15 = .ok (.invokevirtual 414, 3) := dk_182 1 158 (dk_at dksX5_plain_0 15 rfl rfl)
theorem dX5_plain_18 : decode cX5_plain 18 = .ok (.ifCond .eq 8, 3) := dk_153 0 8 (dk_at dksX5_plain_0 18 rfl rfl)
theorem dX5_plain_21 : decode cX5_plain 21 = .ok (.iload_n 1, 1) := dk_27 (dk_at dksX5_plain_0 21 rfl rfl)
theorem dX5_plain_22 : decode cX5_plain 22 = .ok (.iload_n 2, 1) := dk_28 (dk_at dksX5_plain_0 22 rfl rfl)
theorem dX5_plain_23 : decode cX5_plain 23 = .ok (.if_icmp .ne 9, 3) := dk_160 0 9 (dk_at dksX5_plain_1 0 rfl rfl)
theorem dX5_plain_26 : decode cX5_plain 26 = .ok (.aload_n 0, 1) := dk_42 (dk_at dksX5_plain_1 3 rfl rfl)
theorem dX5_plain_27 : decode cX5_plain 27 = .ok (.iconst 1, 1) := dk_4 (dk_at dksX5_plain_1 4 rfl rfl)
theorem dX5_plain_28 : decode cX5_plain 28 = .ok (.invokevirtual 62, 3) := dk_182 0 62 (dk_at dksX5_plain_1 5 rfl rfl)
theorem dX5_plain_31 : decode cX5_plain 31 = .ok (.ireturn, 1) := dk_172 (dk_at dksX5_plain_1 8 rfl rfl)
theorem dX5_plain_32 : decode cX5_plain 32 = .ok (.iload_n 3, 1) := dk_29 (dk_at dksX5_plain_1 9 rfl rfl)
theorem dX5_plain_33 : decode cX5_plain 33 = .ok (.invokestatic 411, 3) := dk_184 1 155 (dk_at dksX5_plain_1 10 rfl rfl)
theorem dX5_plain_36 : decode cX5_plain 36 = .ok (.ifCond .eq 30, 3) := dk_153 0 30 (dk_at dksX5_plain_1 13 rfl rfl)
theorem dX5_plain_39 : decode cX5_plain 39 = .ok (.aload_n 0, 1) := dk_42 (dk_at dksX5_plain_1 16 rfl rfl)
theorem dX5_plain_40 : decode cX5_plain 40 = .ok (.aload_n 0, 1) := dk_42 (dk_at dksX5_plain_1 17 rfl rfl)
theorem dX5_plain_41 : decode cX5_plain 41 = .ok (.iload_n 1, 1) := dk_27 (dk_at dksX5_plain_1 18 rfl rfl)
theorem dX5_plain_42 : decode cX5_plain 42 = .ok (.iload_n 2, 1) := dk_28 (dk_at dksX5_plain_1 19 rfl rfl)
theorem dX5_plain_43 : decode cX5_plain 43 = .ok (.aload_n 0, 1) := dk_42 (dk_at dksX5_plain_1 20 rfl rfl)
theorem dX5_plain_44 : decode cX5_plain 44 = .ok (.iload_n 3, 1) := dk_29 (dk_at dksX5_plain_1 21 rfl rfl)
theorem dX5_plain_45 : decode cX5_plain 45 = .ok (.invokevirtual 405, 3) := dk_182 1 149 (dk_at dksX5_plain_2 0 rfl rfl)
theorem dX5_plain_48 : decode cX5_plain 48 = .ok (.invokevirtual 408, 3) := dk_182 1 152 (dk_at dksX5_plain_2 3 rfl rfl)
theorem dX5_plain_51 : decode cX5_plain 51 = .ok (.ifCond .eq 7, 3) := dk_153 0 7 (dk_at dksX5_plain_2 6 rfl rfl)
theorem dX5_plain_54 : decode cX5_plain 54 = .ok (.iconst 1, 1) := dk_4 (dk_at dksX5_plain_2 9 rfl rfl)
theorem dX5_plain_55 : decode cX5_plain 55 = .ok (.goto 4, 3) := dk_167 0 4 (dk_at dksX5_plain_2 10 rfl rfl)
theorem dX5_plain_58 : decode cX5_plain 58 = .ok (.iconst 0, 1) := dk_3 (dk_at dksX5_plain_2 13 rfl rfl)
theorem dX5_plain_59 : decode cX5_plain 59 = .ok (.iconst 0, 1) := dk_3 (dk_at dksX5_plain_2 14 rfl rfl)
theorem dX5_plain_60 : decode cX5_plain 60 = .ok (.invokevirtual 66, 3) := dk_182 0 66 (dk_at dksX5_plain_2 15 rfl rfl)
theorem dX5_plain_63 : decode cX5_plain 63 = .ok (.goto 8, 3) := dk_167 0 8 (dk_at dksX5_plain_2 18 rfl rfl)
theorem dX5_plain_66 : decode cX5_plain 66 = .ok (.aload_n 0, 1) := dk_42 (dk_at dksX5_plain_2 21 rfl rfl)
theorem dX5_plain_67 : decode cX5_plain 67 = .ok (.iconst 2, 1) := dk_5 (dk_at dksX5_plain_2 22 rfl rfl)
theorem dX5_plain_68 : decode cX5_plain 68 = .ok (.invokevirtual 62, 3) := dk_182 0 62 (dk_at dksX5_plain_3 0 rfl rfl)
theorem dX5_plain_71 : decode cX5_plain 71 = .ok (.ireturn, 1) := dk_172 (dk_at dksX5_plain_3 3 rfl rfl)
abbrev cX5_isPlace : ByteArray := prog_15_method_45_code
def yX5_isPlace : MethodName := ⟨RX5, "isPlace", "(I)Z"⟩
def dkwX5_isPlace_1 : List UInt8 := [167, 0, 4, 3, 172]
abbrev dktX5_isPlace_1 : List UInt8 := dkwX5_isPlace_1 ++ []
def dkwX5_isPlace_0 : List UInt8 := [42, 180, 1, 124, 198, 0, 22, 27, 155, 0, 18, 27, 42, 180, 1, 124, 180, 0, 218, 162, 0, 7, 4]
abbrev dktX5_isPlace_0 : List UInt8 := dkwX5_isPlace_0 ++ dktX5_isPlace_1
theorem dksX5_isPlace_0 : cX5_isPlace.data.toList.drop 0 = dktX5_isPlace_0 := by decide +kernel
theorem dksX5_isPlace_1 : cX5_isPlace.data.toList.drop 23 = dktX5_isPlace_1 := dk_seg dksX5_isPlace_0 23 rfl rfl
theorem dX5_isPlace_0 : decode cX5_isPlace 0 = .ok (.aload_n 0, 1) := dk_42 (dk_at dksX5_isPlace_0 0 rfl rfl)
theorem dX5_isPlace_1 : decode cX5_isPlace 1 = .ok (.getfield 380, 3) := dk_180 1 124 (dk_at dksX5_isPlace_0 1 rfl rfl)
theorem dX5_isPlace_4 : decode cX5_isPlace 4 = .ok (.ifnull 22, 3) := dk_198 0 22 (dk_at dksX5_isPlace_0 4 rfl rfl)
theorem dX5_isPlace_7 : decode cX5_isPlace 7 = .ok (.iload_n 1, 1) := dk_27 (dk_at dksX5_isPlace_0 7 rfl rfl)
theorem dX5_isPlace_8 : decode cX5_isPlace 8 = .ok (.ifCond .lt 18, 3) := dk_155 0 18 (dk_at dksX5_isPlace_0 8 rfl rfl)
theorem dX5_isPlace_11 : decode cX5_isPlace 11 = .ok (.iload_n 1, 1) := dk_27 (dk_at dksX5_isPlace_0 11 rfl rfl)
theorem dX5_isPlace_12 : decode cX5_isPlace 12 = .ok (.aload_n 0, 1) := dk_42 (dk_at dksX5_isPlace_0 12 rfl rfl)
theorem dX5_isPlace_13 : decode cX5_isPlace 13 = .ok (.getfield 380, 3) := dk_180 1 124 (dk_at dksX5_isPlace_0 13 rfl rfl)
theorem dX5_isPlace_16 : decode cX5_isPlace 16 = .ok (.getfield 218, 3) := dk_180 0 218 (dk_at dksX5_isPlace_0 16 rfl rfl)
theorem dX5_isPlace_19 : decode cX5_isPlace 19 = .ok (.if_icmp .ge 7, 3) := dk_162 0 7 (dk_at dksX5_isPlace_0 19 rfl rfl)
theorem dX5_isPlace_22 : decode cX5_isPlace 22 = .ok (.iconst 1, 1) := dk_4 (dk_at dksX5_isPlace_0 22 rfl rfl)
theorem dX5_isPlace_23 : decode cX5_isPlace 23 = .ok (.goto 4, 3) := dk_167 0 4 (dk_at dksX5_isPlace_1 0 rfl rfl)
theorem dX5_isPlace_26 : decode cX5_isPlace 26 = .ok (.iconst 0, 1) := dk_3 (dk_at dksX5_isPlace_1 3 rfl rfl)
theorem dX5_isPlace_27 : decode cX5_isPlace 27 = .ok (.ireturn, 1) := dk_172 (dk_at dksX5_isPlace_1 4 rfl rfl)
abbrev cX5_isStep : ByteArray := prog_15_method_47_code
def yX5_isStep : MethodName := ⟨RX5, "isStep", "(I)Z"⟩
def dkwX5_isStep_0 : List UInt8 := [26, 3, 17, 0, 199, 184, 0, 135, 172]
abbrev dktX5_isStep_0 : List UInt8 := dkwX5_isStep_0 ++ []
theorem dksX5_isStep_0 : cX5_isStep.data.toList.drop 0 = dktX5_isStep_0 := by decide +kernel
theorem dX5_isStep_0 : decode cX5_isStep 0 = .ok (.iload_n 0, 1) := dk_26 (dk_at dksX5_isStep_0 0 rfl rfl)
theorem dX5_isStep_1 : decode cX5_isStep 1 = .ok (.iconst 0, 1) := dk_3 (dk_at dksX5_isStep_0 1 rfl rfl)
theorem dX5_isStep_2 : decode cX5_isStep 2 = .ok (.sipush 199, 3) := dk_17 0 199 (dk_at dksX5_isStep_0 2 rfl rfl)
theorem dX5_isStep_5 : decode cX5_isStep 5 = .ok (.invokestatic 135, 3) := dk_184 0 135 (dk_at dksX5_isStep_0 5 rfl rfl)
theorem dX5_isStep_8 : decode cX5_isStep 8 = .ok (.ireturn, 1) := dk_172 (dk_at dksX5_isStep_0 8 rfl rfl)
abbrev cX5_rangeIn : ByteArray := prog_15_method_48_code
def yX5_rangeIn : MethodName := ⟨RX5, "rangeIn", "(I)I"⟩
def dkwX5_rangeIn_1 : List UInt8 := [180, 1, 124, 180, 1, 5, 167, 0, 10, 42, 180, 1, 124, 180, 1, 1, 172]
abbrev dktX5_rangeIn_1 : List UInt8 := dkwX5_rangeIn_1 ++ []
def dkwX5_rangeIn_0 : List UInt8 := [27, 42, 180, 1, 124, 180, 1, 9, 161, 0, 24, 27, 42, 180, 1, 124, 180, 1, 13, 162, 0, 13, 42]
abbrev dktX5_rangeIn_0 : List UInt8 := dkwX5_rangeIn_0 ++ dktX5_rangeIn_1
theorem dksX5_rangeIn_0 : cX5_rangeIn.data.toList.drop 0 = dktX5_rangeIn_0 := by decide +kernel
theorem dksX5_rangeIn_1 : cX5_rangeIn.data.toList.drop 23 = dktX5_rangeIn_1 := dk_seg dksX5_rangeIn_0 23 rfl rfl
theorem dX5_rangeIn_0 : decode cX5_rangeIn 0 = .ok (.iload_n 1, 1) := dk_27 (dk_at dksX5_rangeIn_0 0 rfl rfl)
theorem dX5_rangeIn_1 : decode cX5_rangeIn 1 = .ok (.aload_n 0, 1) := dk_42 (dk_at dksX5_rangeIn_0 1 rfl rfl)
theorem dX5_rangeIn_2 : decode cX5_rangeIn 2 = .ok (.getfield 380, 3) := dk_180 1 124 (dk_at dksX5_rangeIn_0 2 rfl rfl)
theorem dX5_rangeIn_5 : decode cX5_rangeIn 5 = .ok (.getfield 265, 3) := dk_180 1 9 (dk_at dksX5_rangeIn_0 5 rfl rfl)
theorem dX5_rangeIn_8 : decode cX5_rangeIn 8 = .ok (.if_icmp .lt 24, 3) := dk_161 0 24 (dk_at dksX5_rangeIn_0 8 rfl rfl)
theorem dX5_rangeIn_11 : decode cX5_rangeIn 11 = .ok (.iload_n 1, 1) := dk_27 (dk_at dksX5_rangeIn_0 11 rfl rfl)
theorem dX5_rangeIn_12 : decode cX5_rangeIn 12 = .ok (.aload_n 0, 1) := dk_42 (dk_at dksX5_rangeIn_0 12 rfl rfl)
theorem dX5_rangeIn_13 : decode cX5_rangeIn 13 = .ok (.getfield 380, 3) := dk_180 1 124 (dk_at dksX5_rangeIn_0 13 rfl rfl)
theorem dX5_rangeIn_16 : decode cX5_rangeIn 16 = .ok (.getfield 269, 3) := dk_180 1 13 (dk_at dksX5_rangeIn_0 16 rfl rfl)
theorem dX5_rangeIn_19 : decode cX5_rangeIn 19 = .ok (.if_icmp .ge 13, 3) := dk_162 0 13 (dk_at dksX5_rangeIn_0 19 rfl rfl)
theorem dX5_rangeIn_22 : decode cX5_rangeIn 22 = .ok (.aload_n 0, 1) := dk_42 (dk_at dksX5_rangeIn_0 22 rfl rfl)
theorem dX5_rangeIn_23 : decode cX5_rangeIn 23 = .ok (.getfield 380, 3) := dk_180 1 124 (dk_at dksX5_rangeIn_1 0 rfl rfl)
theorem dX5_rangeIn_26 : decode cX5_rangeIn 26 = .ok (.getfield 261, 3) := dk_180 1 5 (dk_at dksX5_rangeIn_1 3 rfl rfl)
theorem dX5_rangeIn_29 : decode cX5_rangeIn 29 = .ok (.goto 10, 3) := dk_167 0 10 (dk_at dksX5_rangeIn_1 6 rfl rfl)
theorem dX5_rangeIn_32 : decode cX5_rangeIn 32 = .ok (.aload_n 0, 1) := dk_42 (dk_at dksX5_rangeIn_1 9 rfl rfl)
theorem dX5_rangeIn_33 : decode cX5_rangeIn 33 = .ok (.getfield 380, 3) := dk_180 1 124 (dk_at dksX5_rangeIn_1 10 rfl rfl)
theorem dX5_rangeIn_36 : decode cX5_rangeIn 36 = .ok (.getfield 257, 3) := dk_180 1 1 (dk_at dksX5_rangeIn_1 13 rfl rfl)
theorem dX5_rangeIn_39 : decode cX5_rangeIn 39 = .ok (.ireturn, 1) := dk_172 (dk_at dksX5_rangeIn_1 16 rfl rfl)
abbrev cX5_isPlain : ByteArray := prog_15_method_49_code
def yX5_isPlain : MethodName := ⟨RX5, "isPlain", "(III)Z"⟩
def dkwX5_isPlain_8 : List UInt8 := [3, 172, 132, 6, 1, 167, 255, 159, 4, 172]
abbrev dktX5_isPlain_8 : List UInt8 := dkwX5_isPlain_8 ++ []
def dkwX5_isPlain_7 : List UInt8 := [4, 167, 0, 4, 3, 54, 7, 21, 7, 153, 0, 17, 42, 180, 1, 146, 21, 6, 184, 1, 142, 154, 0, 5]
abbrev dktX5_isPlain_7 : List UInt8 := dkwX5_isPlain_7 ++ dktX5_isPlain_8
def dkwX5_isPlain_6 : List UInt8 := [180, 1, 36, 21, 6, 46, 28, 160, 0, 21, 42, 180, 1, 124, 180, 1, 39, 21, 6, 46, 27, 160, 0, 7]
abbrev dktX5_isPlain_6 : List UInt8 := dkwX5_isPlain_6 ++ dktX5_isPlain_7
def dkwX5_isPlain_5 : List UInt8 := [46, 27, 160, 0, 17, 42, 180, 1, 124, 180, 1, 39, 21, 6, 46, 28, 159, 0, 31, 42, 180, 1, 124]
abbrev dktX5_isPlain_5 : List UInt8 := dkwX5_isPlain_5 ++ dktX5_isPlain_6
def dkwX5_isPlain_4 : List UInt8 := [3, 54, 6, 21, 6, 42, 180, 1, 124, 180, 1, 33, 162, 0, 91, 42, 180, 1, 124, 180, 1, 36, 21, 6]
abbrev dktX5_isPlain_4 : List UInt8 := dkwX5_isPlain_4 ++ dktX5_isPlain_5
def dkwX5_isPlain_3 : List UInt8 := [21, 4, 29, 116, 29, 184, 0, 135, 153, 0, 14, 21, 5, 29, 116, 29, 184, 0, 135, 154, 0, 5, 3, 172]
abbrev dktX5_isPlain_3 : List UInt8 := dkwX5_isPlain_3 ++ dktX5_isPlain_4
def dkwX5_isPlain_2 : List UInt8 := [54, 4, 42, 180, 1, 124, 180, 1, 30, 27, 46, 42, 180, 1, 124, 180, 1, 30, 28, 46, 100, 54, 5]
abbrev dktX5_isPlain_2 : List UInt8 := dkwX5_isPlain_2 ++ dktX5_isPlain_3
def dkwX5_isPlain_1 : List UInt8 := [153, 0, 5, 3, 172, 42, 180, 1, 124, 180, 1, 27, 27, 46, 42, 180, 1, 124, 180, 1, 27, 28, 46, 100]
abbrev dktX5_isPlain_1 : List UInt8 := dkwX5_isPlain_1 ++ dktX5_isPlain_2
def dkwX5_isPlain_0 : List UInt8 := [27, 28, 159, 0, 25, 42, 180, 1, 139, 27, 184, 1, 142, 154, 0, 14, 42, 180, 1, 139, 28, 184, 1, 142]
abbrev dktX5_isPlain_0 : List UInt8 := dkwX5_isPlain_0 ++ dktX5_isPlain_1
theorem dksX5_isPlain_0 : cX5_isPlain.data.toList.drop 0 = dktX5_isPlain_0 := by decide +kernel
theorem dksX5_isPlain_1 : cX5_isPlain.data.toList.drop 24 = dktX5_isPlain_1 := dk_seg dksX5_isPlain_0 24 rfl rfl
theorem dksX5_isPlain_2 : cX5_isPlain.data.toList.drop 48 = dktX5_isPlain_2 := dk_seg dksX5_isPlain_1 24 rfl rfl
theorem dksX5_isPlain_3 : cX5_isPlain.data.toList.drop 71 = dktX5_isPlain_3 := dk_seg dksX5_isPlain_2 23 rfl rfl
theorem dksX5_isPlain_4 : cX5_isPlain.data.toList.drop 95 = dktX5_isPlain_4 := dk_seg dksX5_isPlain_3 24 rfl rfl
theorem dksX5_isPlain_5 : cX5_isPlain.data.toList.drop 119 = dktX5_isPlain_5 := dk_seg dksX5_isPlain_4 24 rfl rfl
theorem dksX5_isPlain_6 : cX5_isPlain.data.toList.drop 142 = dktX5_isPlain_6 := dk_seg dksX5_isPlain_5 23 rfl rfl
theorem dksX5_isPlain_7 : cX5_isPlain.data.toList.drop 166 = dktX5_isPlain_7 := dk_seg dksX5_isPlain_6 24 rfl rfl
theorem dksX5_isPlain_8 : cX5_isPlain.data.toList.drop 190 = dktX5_isPlain_8 := dk_seg dksX5_isPlain_7 24 rfl rfl
theorem dX5_isPlain_0 : decode cX5_isPlain 0 = .ok (.iload_n 1, 1) := dk_27 (dk_at dksX5_isPlain_0 0 rfl rfl)
theorem dX5_isPlain_1 : decode cX5_isPlain 1 = .ok (.iload_n 2, 1) := dk_28 (dk_at dksX5_isPlain_0 1 rfl rfl)
theorem dX5_isPlain_2 : decode cX5_isPlain 2 = .ok (.if_icmp .eq 25, 3) := dk_159 0 25 (dk_at dksX5_isPlain_0 2 rfl rfl)
theorem dX5_isPlain_5 : decode cX5_isPlain 5 = .ok (.aload_n 0, 1) := dk_42 (dk_at dksX5_isPlain_0 5 rfl rfl)
theorem dX5_isPlain_6 : decode cX5_isPlain 6 = .ok (.getfield 395, 3) := dk_180 1 139 (dk_at dksX5_isPlain_0 6 rfl rfl)
theorem dX5_isPlain_9 : decode cX5_isPlain 9 = .ok (.iload_n 1, 1) := dk_27 (dk_at dksX5_isPlain_0 9 rfl rfl)
theorem dX5_isPlain_10 : decode cX5_isPlain 10 = .ok (.invokestatic 398, 3) := dk_184 1 142 (dk_at dksX5_isPlain_0 10 rfl rfl)
theorem dX5_isPlain_13 : decode cX5_isPlain 13 = .ok (.ifCond .ne 14, 3) := dk_154 0 14 (dk_at dksX5_isPlain_0 13 rfl rfl)
theorem dX5_isPlain_16 : decode cX5_isPlain 16 = .ok (.aload_n 0, 1) := dk_42 (dk_at dksX5_isPlain_0 16 rfl rfl)
theorem dX5_isPlain_17 : decode cX5_isPlain 17 = .ok (.getfield 395, 3) := dk_180 1 139 (dk_at dksX5_isPlain_0 17 rfl rfl)
theorem dX5_isPlain_20 : decode cX5_isPlain 20 = .ok (.iload_n 2, 1) := dk_28 (dk_at dksX5_isPlain_0 20 rfl rfl)
theorem dX5_isPlain_21 : decode cX5_isPlain 21 = .ok (.invokestatic 398, 3) := dk_184 1 142 (dk_at dksX5_isPlain_0 21 rfl rfl)
theorem dX5_isPlain_24 : decode cX5_isPlain 24 = .ok (.ifCond .eq 5, 3) := dk_153 0 5 (dk_at dksX5_isPlain_1 0 rfl rfl)
theorem dX5_isPlain_27 : decode cX5_isPlain 27 = .ok (.iconst 0, 1) := dk_3 (dk_at dksX5_isPlain_1 3 rfl rfl)
theorem dX5_isPlain_28 : decode cX5_isPlain 28 = .ok (.ireturn, 1) := dk_172 (dk_at dksX5_isPlain_1 4 rfl rfl)
theorem dX5_isPlain_29 : decode cX5_isPlain 29 = .ok (.aload_n 0, 1) := dk_42 (dk_at dksX5_isPlain_1 5 rfl rfl)
theorem dX5_isPlain_30 : decode cX5_isPlain 30 = .ok (.getfield 380, 3) := dk_180 1 124 (dk_at dksX5_isPlain_1 6 rfl rfl)
theorem dX5_isPlain_33 : decode cX5_isPlain 33 = .ok (.getfield 283, 3) := dk_180 1 27 (dk_at dksX5_isPlain_1 9 rfl rfl)
theorem dX5_isPlain_36 : decode cX5_isPlain 36 = .ok (.iload_n 1, 1) := dk_27 (dk_at dksX5_isPlain_1 12 rfl rfl)
theorem dX5_isPlain_37 : decode cX5_isPlain 37 = .ok (.iaload, 1) := dk_46 (dk_at dksX5_isPlain_1 13 rfl rfl)
theorem dX5_isPlain_38 : decode cX5_isPlain 38 = .ok (.aload_n 0, 1) := dk_42 (dk_at dksX5_isPlain_1 14 rfl rfl)
theorem dX5_isPlain_39 : decode cX5_isPlain 39 = .ok (.getfield 380, 3) := dk_180 1 124 (dk_at dksX5_isPlain_1 15 rfl rfl)
theorem dX5_isPlain_42 : decode cX5_isPlain 42 = .ok (.getfield 283, 3) := dk_180 1 27 (dk_at dksX5_isPlain_1 18 rfl rfl)
theorem dX5_isPlain_45 : decode cX5_isPlain 45 = .ok (.iload_n 2, 1) := dk_28 (dk_at dksX5_isPlain_1 21 rfl rfl)
theorem dX5_isPlain_46 : decode cX5_isPlain 46 = .ok (.iaload, 1) := dk_46 (dk_at dksX5_isPlain_1 22 rfl rfl)
theorem dX5_isPlain_47 : decode cX5_isPlain 47 = .ok (.isub, 1) := dk_100 (dk_at dksX5_isPlain_1 23 rfl rfl)
theorem dX5_isPlain_48 : decode cX5_isPlain 48 = .ok (.istore 4, 2) := dk_54 4 (dk_at dksX5_isPlain_2 0 rfl rfl)
theorem dX5_isPlain_50 : decode cX5_isPlain 50 = .ok (.aload_n 0, 1) := dk_42 (dk_at dksX5_isPlain_2 2 rfl rfl)
theorem dX5_isPlain_51 : decode cX5_isPlain 51 = .ok (.getfield 380, 3) := dk_180 1 124 (dk_at dksX5_isPlain_2 3 rfl rfl)
theorem dX5_isPlain_54 : decode cX5_isPlain 54 = .ok (.getfield 286, 3) := dk_180 1 30 (dk_at dksX5_isPlain_2 6 rfl rfl)
theorem dX5_isPlain_57 : decode cX5_isPlain 57 = .ok (.iload_n 1, 1) := dk_27 (dk_at dksX5_isPlain_2 9 rfl rfl)
theorem dX5_isPlain_58 : decode cX5_isPlain 58 = .ok (.iaload, 1) := dk_46 (dk_at dksX5_isPlain_2 10 rfl rfl)
theorem dX5_isPlain_59 : decode cX5_isPlain 59 = .ok (.aload_n 0, 1) := dk_42 (dk_at dksX5_isPlain_2 11 rfl rfl)
theorem dX5_isPlain_60 : decode cX5_isPlain 60 = .ok (.getfield 380, 3) := dk_180 1 124 (dk_at dksX5_isPlain_2 12 rfl rfl)
theorem dX5_isPlain_63 : decode cX5_isPlain 63 = .ok (.getfield 286, 3) := dk_180 1 30 (dk_at dksX5_isPlain_2 15 rfl rfl)
theorem dX5_isPlain_66 : decode cX5_isPlain 66 = .ok (.iload_n 2, 1) := dk_28 (dk_at dksX5_isPlain_2 18 rfl rfl)
theorem dX5_isPlain_67 : decode cX5_isPlain 67 = .ok (.iaload, 1) := dk_46 (dk_at dksX5_isPlain_2 19 rfl rfl)
theorem dX5_isPlain_68 : decode cX5_isPlain 68 = .ok (.isub, 1) := dk_100 (dk_at dksX5_isPlain_2 20 rfl rfl)
theorem dX5_isPlain_69 : decode cX5_isPlain 69 = .ok (.istore 5, 2) := dk_54 5 (dk_at dksX5_isPlain_2 21 rfl rfl)
theorem dX5_isPlain_71 : decode cX5_isPlain 71 = .ok (.iload 4, 2) := dk_21 4 (dk_at dksX5_isPlain_3 0 rfl rfl)
theorem dX5_isPlain_73 : decode cX5_isPlain 73 = .ok (.iload_n 3, 1) := dk_29 (dk_at dksX5_isPlain_3 2 rfl rfl)
theorem dX5_isPlain_74 : decode cX5_isPlain 74 = .ok (.ineg, 1) := dk_116 (dk_at dksX5_isPlain_3 3 rfl rfl)
theorem dX5_isPlain_75 : decode cX5_isPlain 75 = .ok (.iload_n 3, 1) := dk_29 (dk_at dksX5_isPlain_3 4 rfl rfl)
theorem dX5_isPlain_76 : decode cX5_isPlain 76 = .ok (.invokestatic 135, 3) := dk_184 0 135 (dk_at dksX5_isPlain_3 5 rfl rfl)
theorem dX5_isPlain_79 : decode cX5_isPlain 79 = .ok (.ifCond .eq 14, 3) := dk_153 0 14 (dk_at dksX5_isPlain_3 8 rfl rfl)
theorem dX5_isPlain_82 : decode cX5_isPlain 82 = .ok (.iload 5, 2) := dk_21 5 (dk_at dksX5_isPlain_3 11 rfl rfl)
theorem dX5_isPlain_84 : decode cX5_isPlain 84 = .ok (.iload_n 3, 1) := dk_29 (dk_at dksX5_isPlain_3 13 rfl rfl)
theorem dX5_isPlain_85 : decode cX5_isPlain 85 = .ok (.ineg, 1) := dk_116 (dk_at dksX5_isPlain_3 14 rfl rfl)
theorem dX5_isPlain_86 : decode cX5_isPlain 86 = .ok (.iload_n 3, 1) := dk_29 (dk_at dksX5_isPlain_3 15 rfl rfl)
theorem dX5_isPlain_87 : decode cX5_isPlain 87 = .ok (.invokestatic 135, 3) := dk_184 0 135 (dk_at dksX5_isPlain_3 16 rfl rfl)
theorem dX5_isPlain_90 : decode cX5_isPlain 90 = .ok (.ifCond .ne 5, 3) := dk_154 0 5 (dk_at dksX5_isPlain_3 19 rfl rfl)
theorem dX5_isPlain_93 : decode cX5_isPlain 93 = .ok (.iconst 0, 1) := dk_3 (dk_at dksX5_isPlain_3 22 rfl rfl)
theorem dX5_isPlain_94 : decode cX5_isPlain 94 = .ok (.ireturn, 1) := dk_172 (dk_at dksX5_isPlain_3 23 rfl rfl)
theorem dX5_isPlain_95 : decode cX5_isPlain 95 = .ok (.iconst 0, 1) := dk_3 (dk_at dksX5_isPlain_4 0 rfl rfl)
theorem dX5_isPlain_96 : decode cX5_isPlain 96 = .ok (.istore 6, 2) := dk_54 6 (dk_at dksX5_isPlain_4 1 rfl rfl)
theorem dX5_isPlain_98 : decode cX5_isPlain 98 = .ok (.iload 6, 2) := dk_21 6 (dk_at dksX5_isPlain_4 3 rfl rfl)
theorem dX5_isPlain_100 : decode cX5_isPlain 100 = .ok (.aload_n 0, 1) := dk_42 (dk_at dksX5_isPlain_4 5 rfl rfl)
theorem dX5_isPlain_101 : decode cX5_isPlain 101 = .ok (.getfield 380, 3) := dk_180 1 124 (dk_at dksX5_isPlain_4 6 rfl rfl)
theorem dX5_isPlain_104 : decode cX5_isPlain 104 = .ok (.getfield 289, 3) := dk_180 1 33 (dk_at dksX5_isPlain_4 9 rfl rfl)
theorem dX5_isPlain_107 : decode cX5_isPlain 107 = .ok (.if_icmp .ge 91, 3) := dk_162 0 91 (dk_at dksX5_isPlain_4 12 rfl rfl)
theorem dX5_isPlain_110 : decode cX5_isPlain 110 = .ok (.aload_n 0, 1) := dk_42 (dk_at dksX5_isPlain_4 15 rfl rfl)
theorem dX5_isPlain_111 : decode cX5_isPlain 111 = .ok (.getfield 380, 3) := dk_180 1 124 (dk_at dksX5_isPlain_4 16 rfl rfl)
theorem dX5_isPlain_114 : decode cX5_isPlain 114 = .ok (.getfield 292, 3) := dk_180 1 36 (dk_at dksX5_isPlain_4 19 rfl rfl)
theorem dX5_isPlain_117 : decode cX5_isPlain 117 = .ok (.iload 6, 2) := dk_21 6 (dk_at dksX5_isPlain_4 22 rfl rfl)
theorem dX5_isPlain_119 : decode cX5_isPlain 119 = .ok (.iaload, 1) := dk_46 (dk_at dksX5_isPlain_5 0 rfl rfl)
theorem dX5_isPlain_120 : decode cX5_isPlain 120 = .ok (.iload_n 1, 1) := dk_27 (dk_at dksX5_isPlain_5 1 rfl rfl)
theorem dX5_isPlain_121 : decode cX5_isPlain 121 = .ok (.if_icmp .ne 17, 3) := dk_160 0 17 (dk_at dksX5_isPlain_5 2 rfl rfl)
theorem dX5_isPlain_124 : decode cX5_isPlain 124 = .ok (.aload_n 0, 1) := dk_42 (dk_at dksX5_isPlain_5 5 rfl rfl)
theorem dX5_isPlain_125 : decode cX5_isPlain 125 = .ok (.getfield 380, 3) := dk_180 1 124 (dk_at dksX5_isPlain_5 6 rfl rfl)
theorem dX5_isPlain_128 : decode cX5_isPlain 128 = .ok (.getfield 295, 3) := dk_180 1 39 (dk_at dksX5_isPlain_5 9 rfl rfl)
theorem dX5_isPlain_131 : decode cX5_isPlain 131 = .ok (.iload 6, 2) := dk_21 6 (dk_at dksX5_isPlain_5 12 rfl rfl)
theorem dX5_isPlain_133 : decode cX5_isPlain 133 = .ok (.iaload, 1) := dk_46 (dk_at dksX5_isPlain_5 14 rfl rfl)
theorem dX5_isPlain_134 : decode cX5_isPlain 134 = .ok (.iload_n 2, 1) := dk_28 (dk_at dksX5_isPlain_5 15 rfl rfl)
theorem dX5_isPlain_135 : decode cX5_isPlain 135 = .ok (.if_icmp .eq 31, 3) := dk_159 0 31 (dk_at dksX5_isPlain_5 16 rfl rfl)
theorem dX5_isPlain_138 : decode cX5_isPlain 138 = .ok (.aload_n 0, 1) := dk_42 (dk_at dksX5_isPlain_5 19 rfl rfl)
theorem dX5_isPlain_139 : decode cX5_isPlain 139 = .ok (.getfield 380, 3) := dk_180 1 124 (dk_at dksX5_isPlain_5 20 rfl rfl)
theorem dX5_isPlain_142 : decode cX5_isPlain 142 = .ok (.getfield 292, 3) := dk_180 1 36 (dk_at dksX5_isPlain_6 0 rfl rfl)
theorem dX5_isPlain_145 : decode cX5_isPlain 145 = .ok (.iload 6, 2) := dk_21 6 (dk_at dksX5_isPlain_6 3 rfl rfl)
theorem dX5_isPlain_147 : decode cX5_isPlain 147 = .ok (.iaload, 1) := dk_46 (dk_at dksX5_isPlain_6 5 rfl rfl)
theorem dX5_isPlain_148 : decode cX5_isPlain 148 = .ok (.iload_n 2, 1) := dk_28 (dk_at dksX5_isPlain_6 6 rfl rfl)
theorem dX5_isPlain_149 : decode cX5_isPlain 149 = .ok (.if_icmp .ne 21, 3) := dk_160 0 21 (dk_at dksX5_isPlain_6 7 rfl rfl)
theorem dX5_isPlain_152 : decode cX5_isPlain 152 = .ok (.aload_n 0, 1) := dk_42 (dk_at dksX5_isPlain_6 10 rfl rfl)
theorem dX5_isPlain_153 : decode cX5_isPlain 153 = .ok (.getfield 380, 3) := dk_180 1 124 (dk_at dksX5_isPlain_6 11 rfl rfl)
theorem dX5_isPlain_156 : decode cX5_isPlain 156 = .ok (.getfield 295, 3) := dk_180 1 39 (dk_at dksX5_isPlain_6 14 rfl rfl)
theorem dX5_isPlain_159 : decode cX5_isPlain 159 = .ok (.iload 6, 2) := dk_21 6 (dk_at dksX5_isPlain_6 17 rfl rfl)
theorem dX5_isPlain_161 : decode cX5_isPlain 161 = .ok (.iaload, 1) := dk_46 (dk_at dksX5_isPlain_6 19 rfl rfl)
theorem dX5_isPlain_162 : decode cX5_isPlain 162 = .ok (.iload_n 1, 1) := dk_27 (dk_at dksX5_isPlain_6 20 rfl rfl)
theorem dX5_isPlain_163 : decode cX5_isPlain 163 = .ok (.if_icmp .ne 7, 3) := dk_160 0 7 (dk_at dksX5_isPlain_6 21 rfl rfl)
theorem dX5_isPlain_166 : decode cX5_isPlain 166 = .ok (.iconst 1, 1) := dk_4 (dk_at dksX5_isPlain_7 0 rfl rfl)
theorem dX5_isPlain_167 : decode cX5_isPlain 167 = .ok (.goto 4, 3) := dk_167 0 4 (dk_at dksX5_isPlain_7 1 rfl rfl)
theorem dX5_isPlain_170 : decode cX5_isPlain 170 = .ok (.iconst 0, 1) := dk_3 (dk_at dksX5_isPlain_7 4 rfl rfl)
theorem dX5_isPlain_171 : decode cX5_isPlain 171 = .ok (.istore 7, 2) := dk_54 7 (dk_at dksX5_isPlain_7 5 rfl rfl)
theorem dX5_isPlain_173 : decode cX5_isPlain 173 = .ok (.iload 7, 2) := dk_21 7 (dk_at dksX5_isPlain_7 7 rfl rfl)
theorem dX5_isPlain_175 : decode cX5_isPlain 175 = .ok (.ifCond .eq 17, 3) := dk_153 0 17 (dk_at dksX5_isPlain_7 9 rfl rfl)
theorem dX5_isPlain_178 : decode cX5_isPlain 178 = .ok (.aload_n 0, 1) := dk_42 (dk_at dksX5_isPlain_7 12 rfl rfl)
theorem dX5_isPlain_179 : decode cX5_isPlain 179 = .ok (.getfield 402, 3) := dk_180 1 146 (dk_at dksX5_isPlain_7 13 rfl rfl)
theorem dX5_isPlain_182 : decode cX5_isPlain 182 = .ok (.iload 6, 2) := dk_21 6 (dk_at dksX5_isPlain_7 16 rfl rfl)
theorem dX5_isPlain_184 : decode cX5_isPlain 184 = .ok (.invokestatic 398, 3) := dk_184 1 142 (dk_at dksX5_isPlain_7 18 rfl rfl)
theorem dX5_isPlain_187 : decode cX5_isPlain 187 = .ok (.ifCond .ne 5, 3) := dk_154 0 5 (dk_at dksX5_isPlain_7 21 rfl rfl)
theorem dX5_isPlain_190 : decode cX5_isPlain 190 = .ok (.iconst 0, 1) := dk_3 (dk_at dksX5_isPlain_8 0 rfl rfl)
theorem dX5_isPlain_191 : decode cX5_isPlain 191 = .ok (.ireturn, 1) := dk_172 (dk_at dksX5_isPlain_8 1 rfl rfl)
theorem dX5_isPlain_192 : decode cX5_isPlain 192 = .ok (.iinc 6 1, 3) := dk_132 6 1 (dk_at dksX5_isPlain_8 2 rfl rfl)
theorem dX5_isPlain_195 : decode cX5_isPlain 195 = .ok (.goto (-97), 3) := dk_167 255 159 (dk_at dksX5_isPlain_8 5 rfl rfl)
theorem dX5_isPlain_198 : decode cX5_isPlain 198 = .ok (.iconst 1, 1) := dk_4 (dk_at dksX5_isPlain_8 8 rfl rfl)
theorem dX5_isPlain_199 : decode cX5_isPlain 199 = .ok (.ireturn, 1) := dk_172 (dk_at dksX5_isPlain_8 9 rfl rfl)
abbrev cX5_has : ByteArray := prog_15_method_8_code
def yX5_has : MethodName := ⟨RX5, "has", "(II)Z"⟩
def dkwX5_has_0 : List UInt8 := [26, 27, 122, 4, 126, 4, 160, 0, 7, 4, 167, 0, 4, 3, 172]
abbrev dktX5_has_0 : List UInt8 := dkwX5_has_0 ++ []
theorem dksX5_has_0 : cX5_has.data.toList.drop 0 = dktX5_has_0 := by decide +kernel
theorem dX5_has_0 : decode cX5_has 0 = .ok (.iload_n 0, 1) := dk_26 (dk_at dksX5_has_0 0 rfl rfl)
theorem dX5_has_1 : decode cX5_has 1 = .ok (.iload_n 1, 1) := dk_27 (dk_at dksX5_has_0 1 rfl rfl)
theorem dX5_has_2 : decode cX5_has 2 = .ok (.ishr, 1) := dk_122 (dk_at dksX5_has_0 2 rfl rfl)
theorem dX5_has_3 : decode cX5_has 3 = .ok (.iconst 1, 1) := dk_4 (dk_at dksX5_has_0 3 rfl rfl)
theorem dX5_has_4 : decode cX5_has 4 = .ok (.iand, 1) := dk_126 (dk_at dksX5_has_0 4 rfl rfl)
theorem dX5_has_5 : decode cX5_has 5 = .ok (.iconst 1, 1) := dk_4 (dk_at dksX5_has_0 5 rfl rfl)
theorem dX5_has_6 : decode cX5_has 6 = .ok (.if_icmp .ne 7, 3) := dk_160 0 7 (dk_at dksX5_has_0 6 rfl rfl)
theorem dX5_has_9 : decode cX5_has 9 = .ok (.iconst 1, 1) := dk_4 (dk_at dksX5_has_0 9 rfl rfl)
theorem dX5_has_10 : decode cX5_has 10 = .ok (.goto 4, 3) := dk_167 0 4 (dk_at dksX5_has_0 10 rfl rfl)
theorem dX5_has_13 : decode cX5_has 13 = .ok (.iconst 0, 1) := dk_3 (dk_at dksX5_has_0 13 rfl rfl)
theorem dX5_has_14 : decode cX5_has 14 = .ok (.ireturn, 1) := dk_172 (dk_at dksX5_has_0 14 rfl rfl)
abbrev cX5_sees : ByteArray := prog_15_method_53_code
def yX5_sees : MethodName := ⟨RX5, "sees", "(II)I"⟩
def dkwX5_sees_1 : List UInt8 := [153, 0, 17, 42, 42, 27, 28, 182, 1, 161, 3, 182, 0, 66, 167, 0, 8, 42, 5, 182, 0, 62, 172]
abbrev dktX5_sees_1 : List UInt8 := dkwX5_sees_1 ++ []
def dkwX5_sees_0 : List UInt8 := [42, 3, 181, 0, 56, 42, 27, 182, 1, 158, 154, 0, 9, 42, 4, 182, 0, 62, 172, 28, 184, 1, 155]
abbrev dktX5_sees_0 : List UInt8 := dkwX5_sees_0 ++ dktX5_sees_1
theorem dksX5_sees_0 : cX5_sees.data.toList.drop 0 = dktX5_sees_0 := by decide +kernel
theorem dksX5_sees_1 : cX5_sees.data.toList.drop 23 = dktX5_sees_1 := dk_seg dksX5_sees_0 23 rfl rfl
theorem dX5_sees_0 : decode cX5_sees 0 = .ok (.aload_n 0, 1) := dk_42 (dk_at dksX5_sees_0 0 rfl rfl)
theorem dX5_sees_1 : decode cX5_sees 1 = .ok (.iconst 0, 1) := dk_3 (dk_at dksX5_sees_0 1 rfl rfl)
theorem dX5_sees_2 : decode cX5_sees 2 = .ok (.putfield 56, 3) := dk_181 0 56 (dk_at dksX5_sees_0 2 rfl rfl)
theorem dX5_sees_5 : decode cX5_sees 5 = .ok (.aload_n 0, 1) := dk_42 (dk_at dksX5_sees_0 5 rfl rfl)
theorem dX5_sees_6 : decode cX5_sees 6 = .ok (.iload_n 1, 1) := dk_27 (dk_at dksX5_sees_0 6 rfl rfl)
theorem dX5_sees_7 : decode cX5_sees 7 = .ok (.invokevirtual 414, 3) := dk_182 1 158 (dk_at dksX5_sees_0 7 rfl rfl)
theorem dX5_sees_10 : decode cX5_sees 10 = .ok (.ifCond .ne 9, 3) := dk_154 0 9 (dk_at dksX5_sees_0 10 rfl rfl)
theorem dX5_sees_13 : decode cX5_sees 13 = .ok (.aload_n 0, 1) := dk_42 (dk_at dksX5_sees_0 13 rfl rfl)
theorem dX5_sees_14 : decode cX5_sees 14 = .ok (.iconst 1, 1) := dk_4 (dk_at dksX5_sees_0 14 rfl rfl)
theorem dX5_sees_15 : decode cX5_sees 15 = .ok (.invokevirtual 62, 3) := dk_182 0 62 (dk_at dksX5_sees_0 15 rfl rfl)
theorem dX5_sees_18 : decode cX5_sees 18 = .ok (.ireturn, 1) := dk_172 (dk_at dksX5_sees_0 18 rfl rfl)
theorem dX5_sees_19 : decode cX5_sees 19 = .ok (.iload_n 2, 1) := dk_28 (dk_at dksX5_sees_0 19 rfl rfl)
theorem dX5_sees_20 : decode cX5_sees 20 = .ok (.invokestatic 411, 3) := dk_184 1 155 (dk_at dksX5_sees_0 20 rfl rfl)
theorem dX5_sees_23 : decode cX5_sees 23 = .ok (.ifCond .eq 17, 3) := dk_153 0 17 (dk_at dksX5_sees_1 0 rfl rfl)
theorem dX5_sees_26 : decode cX5_sees 26 = .ok (.aload_n 0, 1) := dk_42 (dk_at dksX5_sees_1 3 rfl rfl)
theorem dX5_sees_27 : decode cX5_sees 27 = .ok (.aload_n 0, 1) := dk_42 (dk_at dksX5_sees_1 4 rfl rfl)
theorem dX5_sees_28 : decode cX5_sees 28 = .ok (.iload_n 1, 1) := dk_27 (dk_at dksX5_sees_1 5 rfl rfl)
theorem dX5_sees_29 : decode cX5_sees 29 = .ok (.iload_n 2, 1) := dk_28 (dk_at dksX5_sees_1 6 rfl rfl)
theorem dX5_sees_30 : decode cX5_sees 30 = .ok (.invokevirtual 417, 3) := dk_182 1 161 (dk_at dksX5_sees_1 7 rfl rfl)
theorem dX5_sees_33 : decode cX5_sees 33 = .ok (.iconst 0, 1) := dk_3 (dk_at dksX5_sees_1 10 rfl rfl)
theorem dX5_sees_34 : decode cX5_sees 34 = .ok (.invokevirtual 66, 3) := dk_182 0 66 (dk_at dksX5_sees_1 11 rfl rfl)
theorem dX5_sees_37 : decode cX5_sees 37 = .ok (.goto 8, 3) := dk_167 0 8 (dk_at dksX5_sees_1 14 rfl rfl)
theorem dX5_sees_40 : decode cX5_sees 40 = .ok (.aload_n 0, 1) := dk_42 (dk_at dksX5_sees_1 17 rfl rfl)
theorem dX5_sees_41 : decode cX5_sees 41 = .ok (.iconst 2, 1) := dk_5 (dk_at dksX5_sees_1 18 rfl rfl)
theorem dX5_sees_42 : decode cX5_sees 42 = .ok (.invokevirtual 62, 3) := dk_182 0 62 (dk_at dksX5_sees_1 19 rfl rfl)
theorem dX5_sees_45 : decode cX5_sees 45 = .ok (.ireturn, 1) := dk_172 (dk_at dksX5_sees_1 22 rfl rfl)
abbrev cX5_seenFrom : ByteArray := prog_15_method_50_code
def yX5_seenFrom : MethodName := ⟨RX5, "seenFrom", "(II)I"⟩
def dkwX5_seenFrom_5 : List UInt8 := [167, 255, 187, 132, 5, 1, 167, 255, 146, 21, 4, 172]
abbrev dktX5_seenFrom_5 : List UInt8 := dkwX5_seenFrom_5 ++ []
def dkwX5_seenFrom_4 : List UInt8 := [21, 6, 46, 21, 5, 29, 182, 1, 152, 153, 0, 12, 21, 4, 4, 21, 5, 120, 128, 54, 4, 132, 6, 1]
abbrev dktX5_seenFrom_4 : List UInt8 := dkwX5_seenFrom_4 ++ dktX5_seenFrom_5
def dkwX5_seenFrom_3 : List UInt8 := [180, 1, 124, 180, 1, 58, 21, 6, 46, 29, 182, 1, 152, 153, 0, 32, 42, 42, 180, 1, 124, 180, 1, 58]
abbrev dktX5_seenFrom_3 : List UInt8 := dkwX5_seenFrom_3 ++ dktX5_seenFrom_4
def dkwX5_seenFrom_2 : List UInt8 := [54, 6, 21, 6, 42, 180, 1, 124, 180, 1, 55, 162, 0, 63, 27, 21, 5, 159, 0, 51, 42, 27, 42]
abbrev dktX5_seenFrom_2 : List UInt8 := dkwX5_seenFrom_2 ++ dktX5_seenFrom_3
def dkwX5_seenFrom_1 : List UInt8 := [162, 0, 104, 42, 27, 21, 5, 29, 182, 1, 152, 153, 0, 12, 21, 4, 4, 21, 5, 120, 128, 54, 4, 3]
abbrev dktX5_seenFrom_1 : List UInt8 := dkwX5_seenFrom_1 ++ dktX5_seenFrom_2
def dkwX5_seenFrom_0 : List UInt8 := [42, 28, 182, 1, 149, 62, 4, 27, 120, 54, 4, 3, 54, 5, 21, 5, 42, 180, 1, 124, 180, 0, 218]
abbrev dktX5_seenFrom_0 : List UInt8 := dkwX5_seenFrom_0 ++ dktX5_seenFrom_1
theorem dksX5_seenFrom_0 : cX5_seenFrom.data.toList.drop 0 = dktX5_seenFrom_0 := by decide +kernel
theorem dksX5_seenFrom_1 : cX5_seenFrom.data.toList.drop 23 = dktX5_seenFrom_1 := dk_seg dksX5_seenFrom_0 23 rfl rfl
theorem dksX5_seenFrom_2 : cX5_seenFrom.data.toList.drop 47 = dktX5_seenFrom_2 := dk_seg dksX5_seenFrom_1 24 rfl rfl
theorem dksX5_seenFrom_3 : cX5_seenFrom.data.toList.drop 70 = dktX5_seenFrom_3 := dk_seg dksX5_seenFrom_2 23 rfl rfl
theorem dksX5_seenFrom_4 : cX5_seenFrom.data.toList.drop 94 = dktX5_seenFrom_4 := dk_seg dksX5_seenFrom_3 24 rfl rfl
theorem dksX5_seenFrom_5 : cX5_seenFrom.data.toList.drop 118 = dktX5_seenFrom_5 := dk_seg dksX5_seenFrom_4 24 rfl rfl
theorem dX5_seenFrom_0 : decode cX5_seenFrom 0 = .ok (.aload_n 0, 1) := dk_42 (dk_at dksX5_seenFrom_0 0 rfl rfl)
theorem dX5_seenFrom_1 : decode cX5_seenFrom 1 = .ok (.iload_n 2, 1) := dk_28 (dk_at dksX5_seenFrom_0 1 rfl rfl)
theorem dX5_seenFrom_2 : decode cX5_seenFrom 2 = .ok (.invokevirtual 405, 3) := dk_182 1 149 (dk_at dksX5_seenFrom_0 2 rfl rfl)
theorem dX5_seenFrom_5 : decode cX5_seenFrom 5 = .ok (.istore_n 3, 1) := dk_62 (dk_at dksX5_seenFrom_0 5 rfl rfl)
theorem dX5_seenFrom_6 : decode cX5_seenFrom 6 = .ok (.iconst 1, 1) := dk_4 (dk_at dksX5_seenFrom_0 6 rfl rfl)
theorem dX5_seenFrom_7 : decode cX5_seenFrom 7 = .ok (.iload_n 1, 1) := dk_27 (dk_at dksX5_seenFrom_0 7 rfl rfl)
theorem dX5_seenFrom_8 : decode cX5_seenFrom 8 = .ok (.ishl, 1) := dk_120 (dk_at dksX5_seenFrom_0 8 rfl rfl)
theorem dX5_seenFrom_9 : decode cX5_seenFrom 9 = .ok (.istore 4, 2) := dk_54 4 (dk_at dksX5_seenFrom_0 9 rfl rfl)
theorem dX5_seenFrom_11 : decode cX5_seenFrom 11 = .ok (.iconst 0, 1) := dk_3 (dk_at dksX5_seenFrom_0 11 rfl rfl)
theorem dX5_seenFrom_12 : decode cX5_seenFrom 12 = .ok (.istore 5, 2) := dk_54 5 (dk_at dksX5_seenFrom_0 12 rfl rfl)
theorem dX5_seenFrom_14 : decode cX5_seenFrom 14 = .ok (.iload 5, 2) := dk_21 5 (dk_at dksX5_seenFrom_0 14 rfl rfl)
theorem dX5_seenFrom_16 : decode cX5_seenFrom 16 = .ok (.aload_n 0, 1) := dk_42 (dk_at dksX5_seenFrom_0 16 rfl rfl)
theorem dX5_seenFrom_17 : decode cX5_seenFrom 17 = .ok (.getfield 380, 3) := dk_180 1 124 (dk_at dksX5_seenFrom_0 17 rfl rfl)
theorem dX5_seenFrom_20 : decode cX5_seenFrom 20 = .ok (.getfield 218, 3) := dk_180 0 218 (dk_at dksX5_seenFrom_0 20 rfl rfl)
theorem dX5_seenFrom_23 : decode cX5_seenFrom 23 = .ok (.if_icmp .ge 104, 3) := dk_162 0 104 (dk_at dksX5_seenFrom_1 0 rfl rfl)
theorem dX5_seenFrom_26 : decode cX5_seenFrom 26 = .ok (.aload_n 0, 1) := dk_42 (dk_at dksX5_seenFrom_1 3 rfl rfl)
theorem dX5_seenFrom_27 : decode cX5_seenFrom 27 = .ok (.iload_n 1, 1) := dk_27 (dk_at dksX5_seenFrom_1 4 rfl rfl)
theorem dX5_seenFrom_28 : decode cX5_seenFrom 28 = .ok (.iload 5, 2) := dk_21 5 (dk_at dksX5_seenFrom_1 5 rfl rfl)
theorem dX5_seenFrom_30 : decode cX5_seenFrom 30 = .ok (.iload_n 3, 1) := dk_29 (dk_at dksX5_seenFrom_1 7 rfl rfl)
theorem dX5_seenFrom_31 : decode cX5_seenFrom 31 = .ok (.invokevirtual 408, 3) := dk_182 1 152 (dk_at dksX5_seenFrom_1 8 rfl rfl)
theorem dX5_seenFrom_34 : decode cX5_seenFrom 34 = .ok (.ifCond .eq 12, 3) := dk_153 0 12 (dk_at dksX5_seenFrom_1 11 rfl rfl)
theorem dX5_seenFrom_37 : decode cX5_seenFrom 37 = .ok (.iload 4, 2) := dk_21 4 (dk_at dksX5_seenFrom_1 14 rfl rfl)
theorem dX5_seenFrom_39 : decode cX5_seenFrom 39 = .ok (.iconst 1, 1) := dk_4 (dk_at dksX5_seenFrom_1 16 rfl rfl)
theorem dX5_seenFrom_40 : decode cX5_seenFrom 40 = .ok (.iload 5, 2) := dk_21 5 (dk_at dksX5_seenFrom_1 17 rfl rfl)
theorem dX5_seenFrom_42 : decode cX5_seenFrom 42 = .ok (.ishl, 1) := dk_120 (dk_at dksX5_seenFrom_1 19 rfl rfl)
theorem dX5_seenFrom_43 : decode cX5_seenFrom 43 = .ok (.ior, 1) := dk_128 (dk_at dksX5_seenFrom_1 20 rfl rfl)
theorem dX5_seenFrom_44 : decode cX5_seenFrom 44 = .ok (.istore 4, 2) := dk_54 4 (dk_at dksX5_seenFrom_1 21 rfl rfl)
theorem dX5_seenFrom_46 : decode cX5_seenFrom 46 = .ok (.iconst 0, 1) := dk_3 (dk_at dksX5_seenFrom_1 23 rfl rfl)
theorem dX5_seenFrom_47 : decode cX5_seenFrom 47 = .ok (.istore 6, 2) := dk_54 6 (dk_at dksX5_seenFrom_2 0 rfl rfl)
theorem dX5_seenFrom_49 : decode cX5_seenFrom 49 = .ok (.iload 6, 2) := dk_21 6 (dk_at dksX5_seenFrom_2 2 rfl rfl)
theorem dX5_seenFrom_51 : decode cX5_seenFrom 51 = .ok (.aload_n 0, 1) := dk_42 (dk_at dksX5_seenFrom_2 4 rfl rfl)
theorem dX5_seenFrom_52 : decode cX5_seenFrom 52 = .ok (.getfield 380, 3) := dk_180 1 124 (dk_at dksX5_seenFrom_2 5 rfl rfl)
theorem dX5_seenFrom_55 : decode cX5_seenFrom 55 = .ok (.getfield 311, 3) := dk_180 1 55 (dk_at dksX5_seenFrom_2 8 rfl rfl)
theorem dX5_seenFrom_58 : decode cX5_seenFrom 58 = .ok (.if_icmp .ge 63, 3) := dk_162 0 63 (dk_at dksX5_seenFrom_2 11 rfl rfl)
theorem dX5_seenFrom_61 : decode cX5_seenFrom 61 = .ok (.iload_n 1, 1) := dk_27 (dk_at dksX5_seenFrom_2 14 rfl rfl)
theorem dX5_seenFrom_62 : decode cX5_seenFrom 62 = .ok (.iload 5, 2) := dk_21 5 (dk_at dksX5_seenFrom_2 15 rfl rfl)
theorem dX5_seenFrom_64 : decode cX5_seenFrom 64 = .ok (.if_icmp .eq 51, 3) := dk_159 0 51 (dk_at dksX5_seenFrom_2 17 rfl rfl)
theorem dX5_seenFrom_67 : decode cX5_seenFrom 67 = .ok (.aload_n 0, 1) := dk_42 (dk_at dksX5_seenFrom_2 20 rfl rfl)
theorem dX5_seenFrom_68 : decode cX5_seenFrom 68 = .ok (.iload_n 1, 1) := dk_27 (dk_at dksX5_seenFrom_2 21 rfl rfl)
theorem dX5_seenFrom_69 : decode cX5_seenFrom 69 = .ok (.aload_n 0, 1) := dk_42 (dk_at dksX5_seenFrom_2 22 rfl rfl)
theorem dX5_seenFrom_70 : decode cX5_seenFrom 70 = .ok (.getfield 380, 3) := dk_180 1 124 (dk_at dksX5_seenFrom_3 0 rfl rfl)
theorem dX5_seenFrom_73 : decode cX5_seenFrom 73 = .ok (.getfield 314, 3) := dk_180 1 58 (dk_at dksX5_seenFrom_3 3 rfl rfl)
theorem dX5_seenFrom_76 : decode cX5_seenFrom 76 = .ok (.iload 6, 2) := dk_21 6 (dk_at dksX5_seenFrom_3 6 rfl rfl)
theorem dX5_seenFrom_78 : decode cX5_seenFrom 78 = .ok (.iaload, 1) := dk_46 (dk_at dksX5_seenFrom_3 8 rfl rfl)
theorem dX5_seenFrom_79 : decode cX5_seenFrom 79 = .ok (.iload_n 3, 1) := dk_29 (dk_at dksX5_seenFrom_3 9 rfl rfl)
theorem dX5_seenFrom_80 : decode cX5_seenFrom 80 = .ok (.invokevirtual 408, 3) := dk_182 1 152 (dk_at dksX5_seenFrom_3 10 rfl rfl)
theorem dX5_seenFrom_83 : decode cX5_seenFrom 83 = .ok (.ifCond .eq 32, 3) := dk_153 0 32 (dk_at dksX5_seenFrom_3 13 rfl rfl)
theorem dX5_seenFrom_86 : decode cX5_seenFrom 86 = .ok (.aload_n 0, 1) := dk_42 (dk_at dksX5_seenFrom_3 16 rfl rfl)
theorem dX5_seenFrom_87 : decode cX5_seenFrom 87 = .ok (.aload_n 0, 1) := dk_42 (dk_at dksX5_seenFrom_3 17 rfl rfl)
theorem dX5_seenFrom_88 : decode cX5_seenFrom 88 = .ok (.getfield 380, 3) := dk_180 1 124 (dk_at dksX5_seenFrom_3 18 rfl rfl)
theorem dX5_seenFrom_91 : decode cX5_seenFrom 91 = .ok (.getfield 314, 3) := dk_180 1 58 (dk_at dksX5_seenFrom_3 21 rfl rfl)
theorem dX5_seenFrom_94 : decode cX5_seenFrom 94 = .ok (.iload 6, 2) := dk_21 6 (dk_at dksX5_seenFrom_4 0 rfl rfl)
theorem dX5_seenFrom_96 : decode cX5_seenFrom 96 = .ok (.iaload, 1) := dk_46 (dk_at dksX5_seenFrom_4 2 rfl rfl)
theorem dX5_seenFrom_97 : decode cX5_seenFrom 97 = .ok (.iload 5, 2) := dk_21 5 (dk_at dksX5_seenFrom_4 3 rfl rfl)
theorem dX5_seenFrom_99 : decode cX5_seenFrom 99 = .ok (.iload_n 3, 1) := dk_29 (dk_at dksX5_seenFrom_4 5 rfl rfl)
theorem dX5_seenFrom_100 : decode cX5_seenFrom 100 = .ok (.invokevirtual 408, 3) := dk_182 1 152 (dk_at dksX5_seenFrom_4 6 rfl rfl)
theorem dX5_seenFrom_103 : decode cX5_seenFrom 103 = .ok (.ifCond .eq 12, 3) := dk_153 0 12 (dk_at dksX5_seenFrom_4 9 rfl rfl)
theorem dX5_seenFrom_106 : decode cX5_seenFrom 106 = .ok (.iload 4, 2) := dk_21 4 (dk_at dksX5_seenFrom_4 12 rfl rfl)
theorem dX5_seenFrom_108 : decode cX5_seenFrom 108 = .ok (.iconst 1, 1) := dk_4 (dk_at dksX5_seenFrom_4 14 rfl rfl)
theorem dX5_seenFrom_109 : decode cX5_seenFrom 109 = .ok (.iload 5, 2) := dk_21 5 (dk_at dksX5_seenFrom_4 15 rfl rfl)
theorem dX5_seenFrom_111 : decode cX5_seenFrom 111 = .ok (.ishl, 1) := dk_120 (dk_at dksX5_seenFrom_4 17 rfl rfl)
theorem dX5_seenFrom_112 : decode cX5_seenFrom 112 = .ok (.ior, 1) := dk_128 (dk_at dksX5_seenFrom_4 18 rfl rfl)
theorem dX5_seenFrom_113 : decode cX5_seenFrom 113 = .ok (.istore 4, 2) := dk_54 4 (dk_at dksX5_seenFrom_4 19 rfl rfl)
theorem dX5_seenFrom_115 : decode cX5_seenFrom 115 = .ok (.iinc 6 1, 3) := dk_132 6 1 (dk_at dksX5_seenFrom_4 21 rfl rfl)
theorem dX5_seenFrom_118 : decode cX5_seenFrom 118 = .ok (.goto (-69), 3) := dk_167 255 187 (dk_at dksX5_seenFrom_5 0 rfl rfl)
theorem dX5_seenFrom_121 : decode cX5_seenFrom 121 = .ok (.iinc 5 1, 3) := dk_132 5 1 (dk_at dksX5_seenFrom_5 3 rfl rfl)
theorem dX5_seenFrom_124 : decode cX5_seenFrom 124 = .ok (.goto (-110), 3) := dk_167 255 146 (dk_at dksX5_seenFrom_5 6 rfl rfl)
theorem dX5_seenFrom_127 : decode cX5_seenFrom 127 = .ok (.iload 4, 2) := dk_21 4 (dk_at dksX5_seenFrom_5 9 rfl rfl)
theorem dX5_seenFrom_129 : decode cX5_seenFrom 129 = .ok (.ireturn, 1) := dk_172 (dk_at dksX5_seenFrom_5 11 rfl rfl)
abbrev cX5_middle : ByteArray := prog_15_method_54_code
def yX5_middle : MethodName := ⟨RX5, "middle", "(I)I"⟩
def dkwX5_middle_3 : List UInt8 := [182, 0, 66, 172]
abbrev dktX5_middle_3 : List UInt8 := dkwX5_middle_3 ++ []
def dkwX5_middle_2 : List UInt8 := [162, 0, 19, 29, 42, 21, 4, 27, 182, 1, 161, 126, 62, 132, 4, 1, 167, 255, 231, 42, 29, 3]
abbrev dktX5_middle_2 : List UInt8 := dkwX5_middle_2 ++ dktX5_middle_3
def dkwX5_middle_1 : List UInt8 := [180, 1, 124, 180, 0, 218, 120, 4, 100, 62, 3, 54, 4, 21, 4, 42, 180, 1, 124, 180, 0, 218]
abbrev dktX5_middle_1 : List UInt8 := dkwX5_middle_1 ++ dktX5_middle_2
def dkwX5_middle_0 : List UInt8 := [42, 3, 181, 0, 56, 42, 27, 182, 1, 164, 61, 28, 158, 0, 9, 42, 28, 182, 0, 62, 172, 4, 42]
abbrev dktX5_middle_0 : List UInt8 := dkwX5_middle_0 ++ dktX5_middle_1
theorem dksX5_middle_0 : cX5_middle.data.toList.drop 0 = dktX5_middle_0 := by decide +kernel
theorem dksX5_middle_1 : cX5_middle.data.toList.drop 23 = dktX5_middle_1 := dk_seg dksX5_middle_0 23 rfl rfl
theorem dksX5_middle_2 : cX5_middle.data.toList.drop 45 = dktX5_middle_2 := dk_seg dksX5_middle_1 22 rfl rfl
theorem dksX5_middle_3 : cX5_middle.data.toList.drop 67 = dktX5_middle_3 := dk_seg dksX5_middle_2 22 rfl rfl
theorem dX5_middle_0 : decode cX5_middle 0 = .ok (.aload_n 0, 1) := dk_42 (dk_at dksX5_middle_0 0 rfl rfl)
theorem dX5_middle_1 : decode cX5_middle 1 = .ok (.iconst 0, 1) := dk_3 (dk_at dksX5_middle_0 1 rfl rfl)
theorem dX5_middle_2 : decode cX5_middle 2 = .ok (.putfield 56, 3) := dk_181 0 56 (dk_at dksX5_middle_0 2 rfl rfl)
theorem dX5_middle_5 : decode cX5_middle 5 = .ok (.aload_n 0, 1) := dk_42 (dk_at dksX5_middle_0 5 rfl rfl)
theorem dX5_middle_6 : decode cX5_middle 6 = .ok (.iload_n 1, 1) := dk_27 (dk_at dksX5_middle_0 6 rfl rfl)
theorem dX5_middle_7 : decode cX5_middle 7 = .ok (.invokevirtual 420, 3) := dk_182 1 164 (dk_at dksX5_middle_0 7 rfl rfl)
theorem dX5_middle_10 : decode cX5_middle 10 = .ok (.istore_n 2, 1) := dk_61 (dk_at dksX5_middle_0 10 rfl rfl)
theorem dX5_middle_11 : decode cX5_middle 11 = .ok (.iload_n 2, 1) := dk_28 (dk_at dksX5_middle_0 11 rfl rfl)
theorem dX5_middle_12 : decode cX5_middle 12 = .ok (.ifCond .le 9, 3) := dk_158 0 9 (dk_at dksX5_middle_0 12 rfl rfl)
theorem dX5_middle_15 : decode cX5_middle 15 = .ok (.aload_n 0, 1) := dk_42 (dk_at dksX5_middle_0 15 rfl rfl)
theorem dX5_middle_16 : decode cX5_middle 16 = .ok (.iload_n 2, 1) := dk_28 (dk_at dksX5_middle_0 16 rfl rfl)
theorem dX5_middle_17 : decode cX5_middle 17 = .ok (.invokevirtual 62, 3) := dk_182 0 62 (dk_at dksX5_middle_0 17 rfl rfl)
theorem dX5_middle_20 : decode cX5_middle 20 = .ok (.ireturn, 1) := dk_172 (dk_at dksX5_middle_0 20 rfl rfl)
theorem dX5_middle_21 : decode cX5_middle 21 = .ok (.iconst 1, 1) := dk_4 (dk_at dksX5_middle_0 21 rfl rfl)
theorem dX5_middle_22 : decode cX5_middle 22 = .ok (.aload_n 0, 1) := dk_42 (dk_at dksX5_middle_0 22 rfl rfl)
theorem dX5_middle_23 : decode cX5_middle 23 = .ok (.getfield 380, 3) := dk_180 1 124 (dk_at dksX5_middle_1 0 rfl rfl)
theorem dX5_middle_26 : decode cX5_middle 26 = .ok (.getfield 218, 3) := dk_180 0 218 (dk_at dksX5_middle_1 3 rfl rfl)
theorem dX5_middle_29 : decode cX5_middle 29 = .ok (.ishl, 1) := dk_120 (dk_at dksX5_middle_1 6 rfl rfl)
theorem dX5_middle_30 : decode cX5_middle 30 = .ok (.iconst 1, 1) := dk_4 (dk_at dksX5_middle_1 7 rfl rfl)
theorem dX5_middle_31 : decode cX5_middle 31 = .ok (.isub, 1) := dk_100 (dk_at dksX5_middle_1 8 rfl rfl)
theorem dX5_middle_32 : decode cX5_middle 32 = .ok (.istore_n 3, 1) := dk_62 (dk_at dksX5_middle_1 9 rfl rfl)
theorem dX5_middle_33 : decode cX5_middle 33 = .ok (.iconst 0, 1) := dk_3 (dk_at dksX5_middle_1 10 rfl rfl)
theorem dX5_middle_34 : decode cX5_middle 34 = .ok (.istore 4, 2) := dk_54 4 (dk_at dksX5_middle_1 11 rfl rfl)
theorem dX5_middle_36 : decode cX5_middle 36 = .ok (.iload 4, 2) := dk_21 4 (dk_at dksX5_middle_1 13 rfl rfl)
theorem dX5_middle_38 : decode cX5_middle 38 = .ok (.aload_n 0, 1) := dk_42 (dk_at dksX5_middle_1 15 rfl rfl)
theorem dX5_middle_39 : decode cX5_middle 39 = .ok (.getfield 380, 3) := dk_180 1 124 (dk_at dksX5_middle_1 16 rfl rfl)
theorem dX5_middle_42 : decode cX5_middle 42 = .ok (.getfield 218, 3) := dk_180 0 218 (dk_at dksX5_middle_1 19 rfl rfl)
theorem dX5_middle_45 : decode cX5_middle 45 = .ok (.if_icmp .ge 19, 3) := dk_162 0 19 (dk_at dksX5_middle_2 0 rfl rfl)
theorem dX5_middle_48 : decode cX5_middle 48 = .ok (.iload_n 3, 1) := dk_29 (dk_at dksX5_middle_2 3 rfl rfl)
theorem dX5_middle_49 : decode cX5_middle 49 = .ok (.aload_n 0, 1) := dk_42 (dk_at dksX5_middle_2 4 rfl rfl)
theorem dX5_middle_50 : decode cX5_middle 50 = .ok (.iload 4, 2) := dk_21 4 (dk_at dksX5_middle_2 5 rfl rfl)
theorem dX5_middle_52 : decode cX5_middle 52 = .ok (.iload_n 1, 1) := dk_27 (dk_at dksX5_middle_2 7 rfl rfl)
theorem dX5_middle_53 : decode cX5_middle 53 = .ok (.invokevirtual 417, 3) := dk_182 1 161 (dk_at dksX5_middle_2 8 rfl rfl)
theorem dX5_middle_56 : decode cX5_middle 56 = .ok (.iand, 1) := dk_126 (dk_at dksX5_middle_2 11 rfl rfl)
theorem dX5_middle_57 : decode cX5_middle 57 = .ok (.istore_n 3, 1) := dk_62 (dk_at dksX5_middle_2 12 rfl rfl)
theorem dX5_middle_58 : decode cX5_middle 58 = .ok (.iinc 4 1, 3) := dk_132 4 1 (dk_at dksX5_middle_2 13 rfl rfl)
theorem dX5_middle_61 : decode cX5_middle 61 = .ok (.goto (-25), 3) := dk_167 255 231 (dk_at dksX5_middle_2 16 rfl rfl)
theorem dX5_middle_64 : decode cX5_middle 64 = .ok (.aload_n 0, 1) := dk_42 (dk_at dksX5_middle_2 19 rfl rfl)
theorem dX5_middle_65 : decode cX5_middle 65 = .ok (.iload_n 3, 1) := dk_29 (dk_at dksX5_middle_2 20 rfl rfl)
theorem dX5_middle_66 : decode cX5_middle 66 = .ok (.iconst 0, 1) := dk_3 (dk_at dksX5_middle_2 21 rfl rfl)
theorem dX5_middle_67 : decode cX5_middle 67 = .ok (.invokevirtual 66, 3) := dk_182 0 66 (dk_at dksX5_middle_3 0 rfl rfl)
theorem dX5_middle_70 : decode cX5_middle 70 = .ok (.ireturn, 1) := dk_172 (dk_at dksX5_middle_3 3 rfl rfl)
abbrev cX5_refusesSteps : ByteArray := prog_15_method_51_code
def yX5_refusesSteps : MethodName := ⟨RX5, "refusesSteps", "(I)I"⟩
def dkwX5_refusesSteps_0 : List UInt8 := [42, 180, 1, 124, 199, 0, 7, 4, 167, 0, 15, 27, 184, 1, 155, 153, 0, 7, 3, 167, 0, 4, 5, 172]
abbrev dktX5_refusesSteps_0 : List UInt8 := dkwX5_refusesSteps_0 ++ []
theorem dksX5_refusesSteps_0 : cX5_refusesSteps.data.toList.drop 0 = dktX5_refusesSteps_0 := by decide +kernel
theorem dX5_refusesSteps_0 : decode cX5_refusesSteps 0 = .ok (.aload_n 0, 1) := dk_42 (dk_at dksX5_refusesSteps_0 0 rfl rfl)
theorem dX5_refusesSteps_1 : decode cX5_refusesSteps 1 = .ok (.getfield 380, 3) := dk_180 1 124 (dk_at dksX5_refusesSteps_0 1 rfl rfl)
theorem dX5_refusesSteps_4 : decode cX5_refusesSteps 4 = .ok (.ifnonnull 7, 3) := dk_199 0 7 (dk_at dksX5_refusesSteps_0 4 rfl rfl)
theorem dX5_refusesSteps_7 : decode cX5_refusesSteps 7 = .ok (.iconst 1, 1) := dk_4 (dk_at dksX5_refusesSteps_0 7 rfl rfl)
theorem dX5_refusesSteps_8 : decode cX5_refusesSteps 8 = .ok (.goto 15, 3) := dk_167 0 15 (dk_at dksX5_refusesSteps_0 8 rfl rfl)
theorem dX5_refusesSteps_11 : decode cX5_refusesSteps 11 = .ok (.iload_n 1, 1) := dk_27 (dk_at dksX5_refusesSteps_0 11 rfl rfl)
theorem dX5_refusesSteps_12 : decode cX5_refusesSteps 12 = .ok (.invokestatic 411, 3) := dk_184 1 155 (dk_at dksX5_refusesSteps_0 12 rfl rfl)
theorem dX5_refusesSteps_15 : decode cX5_refusesSteps 15 = .ok (.ifCond .eq 7, 3) := dk_153 0 7 (dk_at dksX5_refusesSteps_0 15 rfl rfl)
theorem dX5_refusesSteps_18 : decode cX5_refusesSteps 18 = .ok (.iconst 0, 1) := dk_3 (dk_at dksX5_refusesSteps_0 18 rfl rfl)
theorem dX5_refusesSteps_19 : decode cX5_refusesSteps 19 = .ok (.goto 4, 3) := dk_167 0 4 (dk_at dksX5_refusesSteps_0 19 rfl rfl)
theorem dX5_refusesSteps_22 : decode cX5_refusesSteps 22 = .ok (.iconst 2, 1) := dk_5 (dk_at dksX5_refusesSteps_0 22 rfl rfl)
theorem dX5_refusesSteps_23 : decode cX5_refusesSteps 23 = .ok (.ireturn, 1) := dk_172 (dk_at dksX5_refusesSteps_0 23 rfl rfl)
abbrev cX5_eyes : ByteArray := prog_15_method_56_code
def yX5_eyes : MethodName := ⟨RX5, "eyes", "(II)I"⟩
def dkwX5_eyes_2 : List UInt8 := [167, 0, 8, 42, 5, 182, 0, 62, 172]
abbrev dktX5_eyes_2 : List UInt8 := dkwX5_eyes_2 ++ []
def dkwX5_eyes_1 : List UInt8 := [153, 0, 25, 42, 42, 27, 28, 182, 1, 170, 153, 0, 7, 4, 167, 0, 4, 3, 3, 182, 0, 66]
abbrev dktX5_eyes_1 : List UInt8 := dkwX5_eyes_1 ++ dktX5_eyes_2
def dkwX5_eyes_0 : List UInt8 := [42, 3, 181, 0, 56, 42, 27, 182, 1, 167, 154, 0, 9, 42, 4, 182, 0, 62, 172, 28, 184, 1, 155]
abbrev dktX5_eyes_0 : List UInt8 := dkwX5_eyes_0 ++ dktX5_eyes_1
theorem dksX5_eyes_0 : cX5_eyes.data.toList.drop 0 = dktX5_eyes_0 := by decide +kernel
theorem dksX5_eyes_1 : cX5_eyes.data.toList.drop 23 = dktX5_eyes_1 := dk_seg dksX5_eyes_0 23 rfl rfl
theorem dksX5_eyes_2 : cX5_eyes.data.toList.drop 45 = dktX5_eyes_2 := dk_seg dksX5_eyes_1 22 rfl rfl
theorem dX5_eyes_0 : decode cX5_eyes 0 = .ok (.aload_n 0, 1) := dk_42 (dk_at dksX5_eyes_0 0 rfl rfl)
theorem dX5_eyes_1 : decode cX5_eyes 1 = .ok (.iconst 0, 1) := dk_3 (dk_at dksX5_eyes_0 1 rfl rfl)
theorem dX5_eyes_2 : decode cX5_eyes 2 = .ok (.putfield 56, 3) := dk_181 0 56 (dk_at dksX5_eyes_0 2 rfl rfl)
theorem dX5_eyes_5 : decode cX5_eyes 5 = .ok (.aload_n 0, 1) := dk_42 (dk_at dksX5_eyes_0 5 rfl rfl)
theorem dX5_eyes_6 : decode cX5_eyes 6 = .ok (.iload_n 1, 1) := dk_27 (dk_at dksX5_eyes_0 6 rfl rfl)
theorem dX5_eyes_7 : decode cX5_eyes 7 = .ok (.invokevirtual 423, 3) := dk_182 1 167 (dk_at dksX5_eyes_0 7 rfl rfl)
theorem dX5_eyes_10 : decode cX5_eyes 10 = .ok (.ifCond .ne 9, 3) := dk_154 0 9 (dk_at dksX5_eyes_0 10 rfl rfl)
theorem dX5_eyes_13 : decode cX5_eyes 13 = .ok (.aload_n 0, 1) := dk_42 (dk_at dksX5_eyes_0 13 rfl rfl)
theorem dX5_eyes_14 : decode cX5_eyes 14 = .ok (.iconst 1, 1) := dk_4 (dk_at dksX5_eyes_0 14 rfl rfl)
theorem dX5_eyes_15 : decode cX5_eyes 15 = .ok (.invokevirtual 62, 3) := dk_182 0 62 (dk_at dksX5_eyes_0 15 rfl rfl)
theorem dX5_eyes_18 : decode cX5_eyes 18 = .ok (.ireturn, 1) := dk_172 (dk_at dksX5_eyes_0 18 rfl rfl)
theorem dX5_eyes_19 : decode cX5_eyes 19 = .ok (.iload_n 2, 1) := dk_28 (dk_at dksX5_eyes_0 19 rfl rfl)
theorem dX5_eyes_20 : decode cX5_eyes 20 = .ok (.invokestatic 411, 3) := dk_184 1 155 (dk_at dksX5_eyes_0 20 rfl rfl)
theorem dX5_eyes_23 : decode cX5_eyes 23 = .ok (.ifCond .eq 25, 3) := dk_153 0 25 (dk_at dksX5_eyes_1 0 rfl rfl)
theorem dX5_eyes_26 : decode cX5_eyes 26 = .ok (.aload_n 0, 1) := dk_42 (dk_at dksX5_eyes_1 3 rfl rfl)
theorem dX5_eyes_27 : decode cX5_eyes 27 = .ok (.aload_n 0, 1) := dk_42 (dk_at dksX5_eyes_1 4 rfl rfl)
theorem dX5_eyes_28 : decode cX5_eyes 28 = .ok (.iload_n 1, 1) := dk_27 (dk_at dksX5_eyes_1 5 rfl rfl)
theorem dX5_eyes_29 : decode cX5_eyes 29 = .ok (.iload_n 2, 1) := dk_28 (dk_at dksX5_eyes_1 6 rfl rfl)
theorem dX5_eyes_30 : decode cX5_eyes 30 = .ok (.invokevirtual 426, 3) := dk_182 1 170 (dk_at dksX5_eyes_1 7 rfl rfl)
theorem dX5_eyes_33 : decode cX5_eyes 33 = .ok (.ifCond .eq 7, 3) := dk_153 0 7 (dk_at dksX5_eyes_1 10 rfl rfl)
theorem dX5_eyes_36 : decode cX5_eyes 36 = .ok (.iconst 1, 1) := dk_4 (dk_at dksX5_eyes_1 13 rfl rfl)
theorem dX5_eyes_37 : decode cX5_eyes 37 = .ok (.goto 4, 3) := dk_167 0 4 (dk_at dksX5_eyes_1 14 rfl rfl)
theorem dX5_eyes_40 : decode cX5_eyes 40 = .ok (.iconst 0, 1) := dk_3 (dk_at dksX5_eyes_1 17 rfl rfl)
theorem dX5_eyes_41 : decode cX5_eyes 41 = .ok (.iconst 0, 1) := dk_3 (dk_at dksX5_eyes_1 18 rfl rfl)
theorem dX5_eyes_42 : decode cX5_eyes 42 = .ok (.invokevirtual 66, 3) := dk_182 0 66 (dk_at dksX5_eyes_1 19 rfl rfl)
theorem dX5_eyes_45 : decode cX5_eyes 45 = .ok (.goto 8, 3) := dk_167 0 8 (dk_at dksX5_eyes_2 0 rfl rfl)
theorem dX5_eyes_48 : decode cX5_eyes 48 = .ok (.aload_n 0, 1) := dk_42 (dk_at dksX5_eyes_2 3 rfl rfl)
theorem dX5_eyes_49 : decode cX5_eyes 49 = .ok (.iconst 2, 1) := dk_5 (dk_at dksX5_eyes_2 4 rfl rfl)
theorem dX5_eyes_50 : decode cX5_eyes 50 = .ok (.invokevirtual 62, 3) := dk_182 0 62 (dk_at dksX5_eyes_2 5 rfl rfl)
theorem dX5_eyes_53 : decode cX5_eyes 53 = .ok (.ireturn, 1) := dk_172 (dk_at dksX5_eyes_2 8 rfl rfl)
abbrev cX5_isPerson : ByteArray := prog_15_method_46_code
def yX5_isPerson : MethodName := ⟨RX5, "isPerson", "(I)Z"⟩
def dkwX5_isPerson_1 : List UInt8 := [167, 0, 4, 3, 172]
abbrev dktX5_isPerson_1 : List UInt8 := dkwX5_isPerson_1 ++ []
def dkwX5_isPerson_0 : List UInt8 := [42, 180, 1, 124, 198, 0, 22, 27, 155, 0, 18, 27, 42, 180, 1, 124, 180, 0, 221, 162, 0, 7, 4]
abbrev dktX5_isPerson_0 : List UInt8 := dkwX5_isPerson_0 ++ dktX5_isPerson_1
theorem dksX5_isPerson_0 : cX5_isPerson.data.toList.drop 0 = dktX5_isPerson_0 := by decide +kernel
theorem dksX5_isPerson_1 : cX5_isPerson.data.toList.drop 23 = dktX5_isPerson_1 := dk_seg dksX5_isPerson_0 23 rfl rfl
theorem dX5_isPerson_0 : decode cX5_isPerson 0 = .ok (.aload_n 0, 1) := dk_42 (dk_at dksX5_isPerson_0 0 rfl rfl)
theorem dX5_isPerson_1 : decode cX5_isPerson 1 = .ok (.getfield 380, 3) := dk_180 1 124 (dk_at dksX5_isPerson_0 1 rfl rfl)
theorem dX5_isPerson_4 : decode cX5_isPerson 4 = .ok (.ifnull 22, 3) := dk_198 0 22 (dk_at dksX5_isPerson_0 4 rfl rfl)
theorem dX5_isPerson_7 : decode cX5_isPerson 7 = .ok (.iload_n 1, 1) := dk_27 (dk_at dksX5_isPerson_0 7 rfl rfl)
theorem dX5_isPerson_8 : decode cX5_isPerson 8 = .ok (.ifCond .lt 18, 3) := dk_155 0 18 (dk_at dksX5_isPerson_0 8 rfl rfl)
theorem dX5_isPerson_11 : decode cX5_isPerson 11 = .ok (.iload_n 1, 1) := dk_27 (dk_at dksX5_isPerson_0 11 rfl rfl)
theorem dX5_isPerson_12 : decode cX5_isPerson 12 = .ok (.aload_n 0, 1) := dk_42 (dk_at dksX5_isPerson_0 12 rfl rfl)
theorem dX5_isPerson_13 : decode cX5_isPerson 13 = .ok (.getfield 380, 3) := dk_180 1 124 (dk_at dksX5_isPerson_0 13 rfl rfl)
theorem dX5_isPerson_16 : decode cX5_isPerson 16 = .ok (.getfield 221, 3) := dk_180 0 221 (dk_at dksX5_isPerson_0 16 rfl rfl)
theorem dX5_isPerson_19 : decode cX5_isPerson 19 = .ok (.if_icmp .ge 7, 3) := dk_162 0 7 (dk_at dksX5_isPerson_0 19 rfl rfl)
theorem dX5_isPerson_22 : decode cX5_isPerson 22 = .ok (.iconst 1, 1) := dk_4 (dk_at dksX5_isPerson_0 22 rfl rfl)
theorem dX5_isPerson_23 : decode cX5_isPerson 23 = .ok (.goto 4, 3) := dk_167 0 4 (dk_at dksX5_isPerson_1 0 rfl rfl)
theorem dX5_isPerson_26 : decode cX5_isPerson 26 = .ok (.iconst 0, 1) := dk_3 (dk_at dksX5_isPerson_1 3 rfl rfl)
theorem dX5_isPerson_27 : decode cX5_isPerson 27 = .ok (.ireturn, 1) := dk_172 (dk_at dksX5_isPerson_1 4 rfl rfl)
abbrev cX5_hasEyes : ByteArray := prog_15_method_55_code
def yX5_hasEyes : MethodName := ⟨RX5, "hasEyes", "(II)Z"⟩
def dkwX5_hasEyes_3 : List UInt8 := [180, 1, 69, 27, 51, 154, 0, 16, 29, 154, 0, 12, 21, 4, 154, 0, 7, 4, 167, 0, 4, 3, 172]
abbrev dktX5_hasEyes_3 : List UInt8 := dkwX5_hasEyes_3 ++ []
def dkwX5_hasEyes_2 : List UInt8 := [42, 180, 1, 124, 180, 1, 72, 27, 46, 112, 154, 0, 7, 4, 167, 0, 4, 3, 54, 4, 42, 180, 1, 124]
abbrev dktX5_hasEyes_2 : List UInt8 := dkwX5_hasEyes_2 ++ dktX5_hasEyes_3
def dkwX5_hasEyes_1 : List UInt8 := [162, 0, 7, 4, 167, 0, 4, 3, 62, 42, 180, 1, 124, 180, 1, 72, 27, 46, 158, 0, 23, 28, 4, 96]
abbrev dktX5_hasEyes_1 : List UInt8 := dkwX5_hasEyes_1 ++ dktX5_hasEyes_2
def dkwX5_hasEyes_0 : List UInt8 := [28, 42, 180, 1, 124, 180, 1, 74, 27, 46, 161, 0, 20, 28, 42, 180, 1, 124, 180, 1, 76, 27, 46]
abbrev dktX5_hasEyes_0 : List UInt8 := dkwX5_hasEyes_0 ++ dktX5_hasEyes_1
theorem dksX5_hasEyes_0 : cX5_hasEyes.data.toList.drop 0 = dktX5_hasEyes_0 := by decide +kernel
theorem dksX5_hasEyes_1 : cX5_hasEyes.data.toList.drop 23 = dktX5_hasEyes_1 := dk_seg dksX5_hasEyes_0 23 rfl rfl
theorem dksX5_hasEyes_2 : cX5_hasEyes.data.toList.drop 47 = dktX5_hasEyes_2 := dk_seg dksX5_hasEyes_1 24 rfl rfl
theorem dksX5_hasEyes_3 : cX5_hasEyes.data.toList.drop 71 = dktX5_hasEyes_3 := dk_seg dksX5_hasEyes_2 24 rfl rfl
theorem dX5_hasEyes_0 : decode cX5_hasEyes 0 = .ok (.iload_n 2, 1) := dk_28 (dk_at dksX5_hasEyes_0 0 rfl rfl)
theorem dX5_hasEyes_1 : decode cX5_hasEyes 1 = .ok (.aload_n 0, 1) := dk_42 (dk_at dksX5_hasEyes_0 1 rfl rfl)
theorem dX5_hasEyes_2 : decode cX5_hasEyes 2 = .ok (.getfield 380, 3) := dk_180 1 124 (dk_at dksX5_hasEyes_0 2 rfl rfl)
theorem dX5_hasEyes_5 : decode cX5_hasEyes 5 = .ok (.getfield 330, 3) := dk_180 1 74 (dk_at dksX5_hasEyes_0 5 rfl rfl)
theorem dX5_hasEyes_8 : decode cX5_hasEyes 8 = .ok (.iload_n 1, 1) := dk_27 (dk_at dksX5_hasEyes_0 8 rfl rfl)
theorem dX5_hasEyes_9 : decode cX5_hasEyes 9 = .ok (.iaload, 1) := dk_46 (dk_at dksX5_hasEyes_0 9 rfl rfl)
theorem dX5_hasEyes_10 : decode cX5_hasEyes 10 = .ok (.if_icmp .lt 20, 3) := dk_161 0 20 (dk_at dksX5_hasEyes_0 10 rfl rfl)
theorem dX5_hasEyes_13 : decode cX5_hasEyes 13 = .ok (.iload_n 2, 1) := dk_28 (dk_at dksX5_hasEyes_0 13 rfl rfl)
theorem dX5_hasEyes_14 : decode cX5_hasEyes 14 = .ok (.aload_n 0, 1) := dk_42 (dk_at dksX5_hasEyes_0 14 rfl rfl)
theorem dX5_hasEyes_15 : decode cX5_hasEyes 15 = .ok (.getfield 380, 3) := dk_180 1 124 (dk_at dksX5_hasEyes_0 15 rfl rfl)
theorem dX5_hasEyes_18 : decode cX5_hasEyes 18 = .ok (.getfield 332, 3) := dk_180 1 76 (dk_at dksX5_hasEyes_0 18 rfl rfl)
theorem dX5_hasEyes_21 : decode cX5_hasEyes 21 = .ok (.iload_n 1, 1) := dk_27 (dk_at dksX5_hasEyes_0 21 rfl rfl)
theorem dX5_hasEyes_22 : decode cX5_hasEyes 22 = .ok (.iaload, 1) := dk_46 (dk_at dksX5_hasEyes_0 22 rfl rfl)
theorem dX5_hasEyes_23 : decode cX5_hasEyes 23 = .ok (.if_icmp .ge 7, 3) := dk_162 0 7 (dk_at dksX5_hasEyes_1 0 rfl rfl)
theorem dX5_hasEyes_26 : decode cX5_hasEyes 26 = .ok (.iconst 1, 1) := dk_4 (dk_at dksX5_hasEyes_1 3 rfl rfl)
theorem dX5_hasEyes_27 : decode cX5_hasEyes 27 = .ok (.goto 4, 3) := dk_167 0 4 (dk_at dksX5_hasEyes_1 4 rfl rfl)
theorem dX5_hasEyes_30 : decode cX5_hasEyes 30 = .ok (.iconst 0, 1) := dk_3 (dk_at dksX5_hasEyes_1 7 rfl rfl)
theorem dX5_hasEyes_31 : decode cX5_hasEyes 31 = .ok (.istore_n 3, 1) := dk_62 (dk_at dksX5_hasEyes_1 8 rfl rfl)
theorem dX5_hasEyes_32 : decode cX5_hasEyes 32 = .ok (.aload_n 0, 1) := dk_42 (dk_at dksX5_hasEyes_1 9 rfl rfl)
theorem dX5_hasEyes_33 : decode cX5_hasEyes 33 = .ok (.getfield 380, 3) := dk_180 1 124 (dk_at dksX5_hasEyes_1 10 rfl rfl)
theorem dX5_hasEyes_36 : decode cX5_hasEyes 36 = .ok (.getfield 328, 3) := dk_180 1 72 (dk_at dksX5_hasEyes_1 13 rfl rfl)
theorem dX5_hasEyes_39 : decode cX5_hasEyes 39 = .ok (.iload_n 1, 1) := dk_27 (dk_at dksX5_hasEyes_1 16 rfl rfl)
theorem dX5_hasEyes_40 : decode cX5_hasEyes 40 = .ok (.iaload, 1) := dk_46 (dk_at dksX5_hasEyes_1 17 rfl rfl)
theorem dX5_hasEyes_41 : decode cX5_hasEyes 41 = .ok (.ifCond .le 23, 3) := dk_158 0 23 (dk_at dksX5_hasEyes_1 18 rfl rfl)
theorem dX5_hasEyes_44 : decode cX5_hasEyes 44 = .ok (.iload_n 2, 1) := dk_28 (dk_at dksX5_hasEyes_1 21 rfl rfl)
theorem dX5_hasEyes_45 : decode cX5_hasEyes 45 = .ok (.iconst 1, 1) := dk_4 (dk_at dksX5_hasEyes_1 22 rfl rfl)
theorem dX5_hasEyes_46 : decode cX5_hasEyes 46 = .ok (.iadd, 1) := dk_96 (dk_at dksX5_hasEyes_1 23 rfl rfl)
theorem dX5_hasEyes_47 : decode cX5_hasEyes 47 = .ok (.aload_n 0, 1) := dk_42 (dk_at dksX5_hasEyes_2 0 rfl rfl)
theorem dX5_hasEyes_48 : decode cX5_hasEyes 48 = .ok (.getfield 380, 3) := dk_180 1 124 (dk_at dksX5_hasEyes_2 1 rfl rfl)
theorem dX5_hasEyes_51 : decode cX5_hasEyes 51 = .ok (.getfield 328, 3) := dk_180 1 72 (dk_at dksX5_hasEyes_2 4 rfl rfl)
theorem dX5_hasEyes_54 : decode cX5_hasEyes 54 = .ok (.iload_n 1, 1) := dk_27 (dk_at dksX5_hasEyes_2 7 rfl rfl)
theorem dX5_hasEyes_55 : decode cX5_hasEyes 55 = .ok (.iaload, 1) := dk_46 (dk_at dksX5_hasEyes_2 8 rfl rfl)
theorem dX5_hasEyes_56 : decode cX5_hasEyes 56 = .ok (.irem, 1) := dk_112 (dk_at dksX5_hasEyes_2 9 rfl rfl)
theorem dX5_hasEyes_57 : decode cX5_hasEyes 57 = .ok (.ifCond .ne 7, 3) := dk_154 0 7 (dk_at dksX5_hasEyes_2 10 rfl rfl)
theorem dX5_hasEyes_60 : decode cX5_hasEyes 60 = .ok (.iconst 1, 1) := dk_4 (dk_at dksX5_hasEyes_2 13 rfl rfl)
theorem dX5_hasEyes_61 : decode cX5_hasEyes 61 = .ok (.goto 4, 3) := dk_167 0 4 (dk_at dksX5_hasEyes_2 14 rfl rfl)
theorem dX5_hasEyes_64 : decode cX5_hasEyes 64 = .ok (.iconst 0, 1) := dk_3 (dk_at dksX5_hasEyes_2 17 rfl rfl)
theorem dX5_hasEyes_65 : decode cX5_hasEyes 65 = .ok (.istore 4, 2) := dk_54 4 (dk_at dksX5_hasEyes_2 18 rfl rfl)
theorem dX5_hasEyes_67 : decode cX5_hasEyes 67 = .ok (.aload_n 0, 1) := dk_42 (dk_at dksX5_hasEyes_2 20 rfl rfl)
theorem dX5_hasEyes_68 : decode cX5_hasEyes 68 = .ok (.getfield 380, 3) := dk_180 1 124 (dk_at dksX5_hasEyes_2 21 rfl rfl)
theorem dX5_hasEyes_71 : decode cX5_hasEyes 71 = .ok (.getfield 325, 3) := dk_180 1 69 (dk_at dksX5_hasEyes_3 0 rfl rfl)
theorem dX5_hasEyes_74 : decode cX5_hasEyes 74 = .ok (.iload_n 1, 1) := dk_27 (dk_at dksX5_hasEyes_3 3 rfl rfl)
theorem dX5_hasEyes_75 : decode cX5_hasEyes 75 = .ok (.baload, 1) := dk_51 (dk_at dksX5_hasEyes_3 4 rfl rfl)
theorem dX5_hasEyes_76 : decode cX5_hasEyes 76 = .ok (.ifCond .ne 16, 3) := dk_154 0 16 (dk_at dksX5_hasEyes_3 5 rfl rfl)
theorem dX5_hasEyes_79 : decode cX5_hasEyes 79 = .ok (.iload_n 3, 1) := dk_29 (dk_at dksX5_hasEyes_3 8 rfl rfl)
theorem dX5_hasEyes_80 : decode cX5_hasEyes 80 = .ok (.ifCond .ne 12, 3) := dk_154 0 12 (dk_at dksX5_hasEyes_3 9 rfl rfl)
theorem dX5_hasEyes_83 : decode cX5_hasEyes 83 = .ok (.iload 4, 2) := dk_21 4 (dk_at dksX5_hasEyes_3 12 rfl rfl)
theorem dX5_hasEyes_85 : decode cX5_hasEyes 85 = .ok (.ifCond .ne 7, 3) := dk_154 0 7 (dk_at dksX5_hasEyes_3 14 rfl rfl)
theorem dX5_hasEyes_88 : decode cX5_hasEyes 88 = .ok (.iconst 1, 1) := dk_4 (dk_at dksX5_hasEyes_3 17 rfl rfl)
theorem dX5_hasEyes_89 : decode cX5_hasEyes 89 = .ok (.goto 4, 3) := dk_167 0 4 (dk_at dksX5_hasEyes_3 18 rfl rfl)
theorem dX5_hasEyes_92 : decode cX5_hasEyes 92 = .ok (.iconst 0, 1) := dk_3 (dk_at dksX5_hasEyes_3 21 rfl rfl)
theorem dX5_hasEyes_93 : decode cX5_hasEyes 93 = .ok (.ireturn, 1) := dk_172 (dk_at dksX5_hasEyes_3 22 rfl rfl)
abbrev cX5_put : ByteArray := prog_15_method_60_code
def yX5_put : MethodName := ⟨RX5, "put", "(II)Z"⟩
def dkwX5_put_1 : List UInt8 := [182, 1, 181, 172, 42, 180, 0, 17, 27, 28, 79, 42, 182, 1, 184, 172]
abbrev dktX5_put_1 : List UInt8 := dkwX5_put_1 ++ []
def dkwX5_put_0 : List UInt8 := [42, 3, 181, 0, 56, 42, 27, 182, 1, 167, 153, 0, 11, 42, 28, 182, 1, 158, 154, 0, 9, 42, 4]
abbrev dktX5_put_0 : List UInt8 := dkwX5_put_0 ++ dktX5_put_1
theorem dksX5_put_0 : cX5_put.data.toList.drop 0 = dktX5_put_0 := by decide +kernel
theorem dksX5_put_1 : cX5_put.data.toList.drop 23 = dktX5_put_1 := dk_seg dksX5_put_0 23 rfl rfl
theorem dX5_put_0 : decode cX5_put 0 = .ok (.aload_n 0, 1) := dk_42 (dk_at dksX5_put_0 0 rfl rfl)
theorem dX5_put_1 : decode cX5_put 1 = .ok (.iconst 0, 1) := dk_3 (dk_at dksX5_put_0 1 rfl rfl)
theorem dX5_put_2 : decode cX5_put 2 = .ok (.putfield 56, 3) := dk_181 0 56 (dk_at dksX5_put_0 2 rfl rfl)
theorem dX5_put_5 : decode cX5_put 5 = .ok (.aload_n 0, 1) := dk_42 (dk_at dksX5_put_0 5 rfl rfl)
theorem dX5_put_6 : decode cX5_put 6 = .ok (.iload_n 1, 1) := dk_27 (dk_at dksX5_put_0 6 rfl rfl)
theorem dX5_put_7 : decode cX5_put 7 = .ok (.invokevirtual 423, 3) := dk_182 1 167 (dk_at dksX5_put_0 7 rfl rfl)
theorem dX5_put_10 : decode cX5_put 10 = .ok (.ifCond .eq 11, 3) := dk_153 0 11 (dk_at dksX5_put_0 10 rfl rfl)
theorem dX5_put_13 : decode cX5_put 13 = .ok (.aload_n 0, 1) := dk_42 (dk_at dksX5_put_0 13 rfl rfl)
theorem dX5_put_14 : decode cX5_put 14 = .ok (.iload_n 2, 1) := dk_28 (dk_at dksX5_put_0 14 rfl rfl)
theorem dX5_put_15 : decode cX5_put 15 = .ok (.invokevirtual 414, 3) := dk_182 1 158 (dk_at dksX5_put_0 15 rfl rfl)
theorem dX5_put_18 : decode cX5_put 18 = .ok (.ifCond .ne 9, 3) := dk_154 0 9 (dk_at dksX5_put_0 18 rfl rfl)
theorem dX5_put_21 : decode cX5_put 21 = .ok (.aload_n 0, 1) := dk_42 (dk_at dksX5_put_0 21 rfl rfl)
theorem dX5_put_22 : decode cX5_put 22 = .ok (.iconst 1, 1) := dk_4 (dk_at dksX5_put_0 22 rfl rfl)
theorem dX5_put_23 : decode cX5_put 23 = .ok (.invokevirtual 437, 3) := dk_182 1 181 (dk_at dksX5_put_1 0 rfl rfl)
theorem dX5_put_26 : decode cX5_put 26 = .ok (.ireturn, 1) := dk_172 (dk_at dksX5_put_1 3 rfl rfl)
theorem dX5_put_27 : decode cX5_put 27 = .ok (.aload_n 0, 1) := dk_42 (dk_at dksX5_put_1 4 rfl rfl)
theorem dX5_put_28 : decode cX5_put 28 = .ok (.getfield 17, 3) := dk_180 0 17 (dk_at dksX5_put_1 5 rfl rfl)
theorem dX5_put_31 : decode cX5_put 31 = .ok (.iload_n 1, 1) := dk_27 (dk_at dksX5_put_1 8 rfl rfl)
theorem dX5_put_32 : decode cX5_put 32 = .ok (.iload_n 2, 1) := dk_28 (dk_at dksX5_put_1 9 rfl rfl)
theorem dX5_put_33 : decode cX5_put 33 = .ok (.iastore, 1) := dk_79 (dk_at dksX5_put_1 10 rfl rfl)
theorem dX5_put_34 : decode cX5_put 34 = .ok (.aload_n 0, 1) := dk_42 (dk_at dksX5_put_1 11 rfl rfl)
theorem dX5_put_35 : decode cX5_put 35 = .ok (.invokevirtual 440, 3) := dk_182 1 184 (dk_at dksX5_put_1 12 rfl rfl)
theorem dX5_put_38 : decode cX5_put 38 = .ok (.ireturn, 1) := dk_172 (dk_at dksX5_put_1 15 rfl rfl)
abbrev cX5_denied : ByteArray := prog_15_method_4_code
def yX5_denied : MethodName := ⟨RX5, "denied", "(I)Z"⟩
def dkwX5_denied_0 : List UInt8 := [42, 27, 182, 0, 62, 87, 3, 172]
abbrev dktX5_denied_0 : List UInt8 := dkwX5_denied_0 ++ []
theorem dksX5_denied_0 : cX5_denied.data.toList.drop 0 = dktX5_denied_0 := by decide +kernel
theorem dX5_denied_0 : decode cX5_denied 0 = .ok (.aload_n 0, 1) := dk_42 (dk_at dksX5_denied_0 0 rfl rfl)
theorem dX5_denied_1 : decode cX5_denied 1 = .ok (.iload_n 1, 1) := dk_27 (dk_at dksX5_denied_0 1 rfl rfl)
theorem dX5_denied_2 : decode cX5_denied 2 = .ok (.invokevirtual 62, 3) := dk_182 0 62 (dk_at dksX5_denied_0 2 rfl rfl)
theorem dX5_denied_5 : decode cX5_denied 5 = .ok (.pop, 1) := dk_87 (dk_at dksX5_denied_0 5 rfl rfl)
theorem dX5_denied_6 : decode cX5_denied 6 = .ok (.iconst 0, 1) := dk_3 (dk_at dksX5_denied_0 6 rfl rfl)
theorem dX5_denied_7 : decode cX5_denied 7 = .ok (.ireturn, 1) := dk_172 (dk_at dksX5_denied_0 7 rfl rfl)
abbrev cX5_granted : ByteArray := prog_15_method_6_code
def yX5_granted : MethodName := ⟨RX5, "granted", "()Z"⟩
def dkwX5_granted_0 : List UInt8 := [42, 3, 3, 182, 0, 66, 87, 4, 172]
abbrev dktX5_granted_0 : List UInt8 := dkwX5_granted_0 ++ []
theorem dksX5_granted_0 : cX5_granted.data.toList.drop 0 = dktX5_granted_0 := by decide +kernel
theorem dX5_granted_0 : decode cX5_granted 0 = .ok (.aload_n 0, 1) := dk_42 (dk_at dksX5_granted_0 0 rfl rfl)
theorem dX5_granted_1 : decode cX5_granted 1 = .ok (.iconst 0, 1) := dk_3 (dk_at dksX5_granted_0 1 rfl rfl)
theorem dX5_granted_2 : decode cX5_granted 2 = .ok (.iconst 0, 1) := dk_3 (dk_at dksX5_granted_0 2 rfl rfl)
theorem dX5_granted_3 : decode cX5_granted 3 = .ok (.invokevirtual 66, 3) := dk_182 0 66 (dk_at dksX5_granted_0 3 rfl rfl)
theorem dX5_granted_6 : decode cX5_granted 6 = .ok (.pop, 1) := dk_87 (dk_at dksX5_granted_0 6 rfl rfl)
theorem dX5_granted_7 : decode cX5_granted 7 = .ok (.iconst 1, 1) := dk_4 (dk_at dksX5_granted_0 7 rfl rfl)
theorem dX5_granted_8 : decode cX5_granted 8 = .ok (.ireturn, 1) := dk_172 (dk_at dksX5_granted_0 8 rfl rfl)
abbrev cX5_time : ByteArray := prog_15_method_61_code
def yX5_time : MethodName := ⟨RX5, "time", "(I)Z"⟩
def dkwX5_time_1 : List UInt8 := [184, 0, 135, 154, 0, 9, 42, 5, 182, 1, 181, 172, 42, 27, 181, 1, 127, 42, 182, 1, 184, 172]
abbrev dktX5_time_1 : List UInt8 := dkwX5_time_1 ++ []
def dkwX5_time_0 : List UInt8 := [42, 3, 181, 0, 56, 42, 180, 1, 124, 199, 0, 9, 42, 4, 182, 1, 181, 172, 27, 3, 16, 99]
abbrev dktX5_time_0 : List UInt8 := dkwX5_time_0 ++ dktX5_time_1
theorem dksX5_time_0 : cX5_time.data.toList.drop 0 = dktX5_time_0 := by decide +kernel
theorem dksX5_time_1 : cX5_time.data.toList.drop 22 = dktX5_time_1 := dk_seg dksX5_time_0 22 rfl rfl
theorem dX5_time_0 : decode cX5_time 0 = .ok (.aload_n 0, 1) := dk_42 (dk_at dksX5_time_0 0 rfl rfl)
theorem dX5_time_1 : decode cX5_time 1 = .ok (.iconst 0, 1) := dk_3 (dk_at dksX5_time_0 1 rfl rfl)
theorem dX5_time_2 : decode cX5_time 2 = .ok (.putfield 56, 3) := dk_181 0 56 (dk_at dksX5_time_0 2 rfl rfl)
theorem dX5_time_5 : decode cX5_time 5 = .ok (.aload_n 0, 1) := dk_42 (dk_at dksX5_time_0 5 rfl rfl)
theorem dX5_time_6 : decode cX5_time 6 = .ok (.getfield 380, 3) := dk_180 1 124 (dk_at dksX5_time_0 6 rfl rfl)
theorem dX5_time_9 : decode cX5_time 9 = .ok (.ifnonnull 9, 3) := dk_199 0 9 (dk_at dksX5_time_0 9 rfl rfl)
theorem dX5_time_12 : decode cX5_time 12 = .ok (.aload_n 0, 1) := dk_42 (dk_at dksX5_time_0 12 rfl rfl)
theorem dX5_time_13 : decode cX5_time 13 = .ok (.iconst 1, 1) := dk_4 (dk_at dksX5_time_0 13 rfl rfl)
theorem dX5_time_14 : decode cX5_time 14 = .ok (.invokevirtual 437, 3) := dk_182 1 181 (dk_at dksX5_time_0 14 rfl rfl)
theorem dX5_time_17 : decode cX5_time 17 = .ok (.ireturn, 1) := dk_172 (dk_at dksX5_time_0 17 rfl rfl)
theorem dX5_time_18 : decode cX5_time 18 = .ok (.iload_n 1, 1) := dk_27 (dk_at dksX5_time_0 18 rfl rfl)
theorem dX5_time_19 : decode cX5_time 19 = .ok (.iconst 0, 1) := dk_3 (dk_at dksX5_time_0 19 rfl rfl)
theorem dX5_time_20 : decode cX5_time 20 = .ok (.bipush 99, 2) := dk_16 99 (dk_at dksX5_time_0 20 rfl rfl)
theorem dX5_time_22 : decode cX5_time 22 = .ok (.invokestatic 135, 3) := dk_184 0 135 (dk_at dksX5_time_1 0 rfl rfl)
theorem dX5_time_25 : decode cX5_time 25 = .ok (.ifCond .ne 9, 3) := dk_154 0 9 (dk_at dksX5_time_1 3 rfl rfl)
theorem dX5_time_28 : decode cX5_time 28 = .ok (.aload_n 0, 1) := dk_42 (dk_at dksX5_time_1 6 rfl rfl)
theorem dX5_time_29 : decode cX5_time 29 = .ok (.iconst 2, 1) := dk_5 (dk_at dksX5_time_1 7 rfl rfl)
theorem dX5_time_30 : decode cX5_time 30 = .ok (.invokevirtual 437, 3) := dk_182 1 181 (dk_at dksX5_time_1 8 rfl rfl)
theorem dX5_time_33 : decode cX5_time 33 = .ok (.ireturn, 1) := dk_172 (dk_at dksX5_time_1 11 rfl rfl)
theorem dX5_time_34 : decode cX5_time 34 = .ok (.aload_n 0, 1) := dk_42 (dk_at dksX5_time_1 12 rfl rfl)
theorem dX5_time_35 : decode cX5_time 35 = .ok (.iload_n 1, 1) := dk_27 (dk_at dksX5_time_1 13 rfl rfl)
theorem dX5_time_36 : decode cX5_time 36 = .ok (.putfield 383, 3) := dk_181 1 127 (dk_at dksX5_time_1 14 rfl rfl)
theorem dX5_time_39 : decode cX5_time 39 = .ok (.aload_n 0, 1) := dk_42 (dk_at dksX5_time_1 17 rfl rfl)
theorem dX5_time_40 : decode cX5_time 40 = .ok (.invokevirtual 440, 3) := dk_182 1 184 (dk_at dksX5_time_1 18 rfl rfl)
theorem dX5_time_43 : decode cX5_time 43 = .ok (.ireturn, 1) := dk_172 (dk_at dksX5_time_1 21 rfl rfl)
abbrev cX5_at : ByteArray := prog_15_method_62_code
def yX5_at : MethodName := ⟨RX5, "at", "(I)I"⟩
def dkwX5_at_1 : List UInt8 := [167, 0, 8, 42, 4, 182, 0, 62, 172]
abbrev dktX5_at_1 : List UInt8 := dkwX5_at_1 ++ []
def dkwX5_at_0 : List UInt8 := [42, 3, 181, 0, 56, 42, 27, 182, 1, 167, 153, 0, 17, 42, 42, 180, 0, 17, 27, 46, 3, 182, 0, 66]
abbrev dktX5_at_0 : List UInt8 := dkwX5_at_0 ++ dktX5_at_1
theorem dksX5_at_0 : cX5_at.data.toList.drop 0 = dktX5_at_0 := by decide +kernel
theorem dksX5_at_1 : cX5_at.data.toList.drop 24 = dktX5_at_1 := dk_seg dksX5_at_0 24 rfl rfl
theorem dX5_at_0 : decode cX5_at 0 = .ok (.aload_n 0, 1) := dk_42 (dk_at dksX5_at_0 0 rfl rfl)
theorem dX5_at_1 : decode cX5_at 1 = .ok (.iconst 0, 1) := dk_3 (dk_at dksX5_at_0 1 rfl rfl)
theorem dX5_at_2 : decode cX5_at 2 = .ok (.putfield 56, 3) := dk_181 0 56 (dk_at dksX5_at_0 2 rfl rfl)
theorem dX5_at_5 : decode cX5_at 5 = .ok (.aload_n 0, 1) := dk_42 (dk_at dksX5_at_0 5 rfl rfl)
theorem dX5_at_6 : decode cX5_at 6 = .ok (.iload_n 1, 1) := dk_27 (dk_at dksX5_at_0 6 rfl rfl)
theorem dX5_at_7 : decode cX5_at 7 = .ok (.invokevirtual 423, 3) := dk_182 1 167 (dk_at dksX5_at_0 7 rfl rfl)
theorem dX5_at_10 : decode cX5_at 10 = .ok (.ifCond .eq 17, 3) := dk_153 0 17 (dk_at dksX5_at_0 10 rfl rfl)
theorem dX5_at_13 : decode cX5_at 13 = .ok (.aload_n 0, 1) := dk_42 (dk_at dksX5_at_0 13 rfl rfl)
theorem dX5_at_14 : decode cX5_at 14 = .ok (.aload_n 0, 1) := dk_42 (dk_at dksX5_at_0 14 rfl rfl)
theorem dX5_at_15 : decode cX5_at 15 = .ok (.getfield 17, 3) := dk_180 0 17 (dk_at dksX5_at_0 15 rfl rfl)
theorem dX5_at_18 : decode cX5_at 18 = .ok (.iload_n 1, 1) := dk_27 (dk_at dksX5_at_0 18 rfl rfl)
theorem dX5_at_19 : decode cX5_at 19 = .ok (.iaload, 1) := dk_46 (dk_at dksX5_at_0 19 rfl rfl)
theorem dX5_at_20 : decode cX5_at 20 = .ok (.iconst 0, 1) := dk_3 (dk_at dksX5_at_0 20 rfl rfl)
theorem dX5_at_21 : decode cX5_at 21 = .ok (.invokevirtual 66, 3) := dk_182 0 66 (dk_at dksX5_at_0 21 rfl rfl)
theorem dX5_at_24 : decode cX5_at 24 = .ok (.goto 8, 3) := dk_167 0 8 (dk_at dksX5_at_1 0 rfl rfl)
theorem dX5_at_27 : decode cX5_at 27 = .ok (.aload_n 0, 1) := dk_42 (dk_at dksX5_at_1 3 rfl rfl)
theorem dX5_at_28 : decode cX5_at 28 = .ok (.iconst 1, 1) := dk_4 (dk_at dksX5_at_1 4 rfl rfl)
theorem dX5_at_29 : decode cX5_at 29 = .ok (.invokevirtual 62, 3) := dk_182 0 62 (dk_at dksX5_at_1 5 rfl rfl)
theorem dX5_at_32 : decode cX5_at 32 = .ok (.ireturn, 1) := dk_172 (dk_at dksX5_at_1 8 rfl rfl)
abbrev cX5_unseen : ByteArray := prog_15_method_64_code
def yX5_unseen : MethodName := ⟨RX5, "unseen", "()I"⟩
def dkwX5_unseen_1 : List UInt8 := [182, 1, 187, 3, 182, 0, 66, 172]
abbrev dktX5_unseen_1 : List UInt8 := dkwX5_unseen_1 ++ []
def dkwX5_unseen_0 : List UInt8 := [42, 3, 181, 0, 56, 42, 180, 1, 124, 199, 0, 11, 42, 4, 182, 0, 62, 167, 0, 12, 42, 42]
abbrev dktX5_unseen_0 : List UInt8 := dkwX5_unseen_0 ++ dktX5_unseen_1
theorem dksX5_unseen_0 : cX5_unseen.data.toList.drop 0 = dktX5_unseen_0 := by decide +kernel
theorem dksX5_unseen_1 : cX5_unseen.data.toList.drop 22 = dktX5_unseen_1 := dk_seg dksX5_unseen_0 22 rfl rfl
theorem dX5_unseen_0 : decode cX5_unseen 0 = .ok (.aload_n 0, 1) := dk_42 (dk_at dksX5_unseen_0 0 rfl rfl)
theorem dX5_unseen_1 : decode cX5_unseen 1 = .ok (.iconst 0, 1) := dk_3 (dk_at dksX5_unseen_0 1 rfl rfl)
theorem dX5_unseen_2 : decode cX5_unseen 2 = .ok (.putfield 56, 3) := dk_181 0 56 (dk_at dksX5_unseen_0 2 rfl rfl)
theorem dX5_unseen_5 : decode cX5_unseen 5 = .ok (.aload_n 0, 1) := dk_42 (dk_at dksX5_unseen_0 5 rfl rfl)
theorem dX5_unseen_6 : decode cX5_unseen 6 = .ok (.getfield 380, 3) := dk_180 1 124 (dk_at dksX5_unseen_0 6 rfl rfl)
theorem dX5_unseen_9 : decode cX5_unseen 9 = .ok (.ifnonnull 11, 3) := dk_199 0 11 (dk_at dksX5_unseen_0 9 rfl rfl)
theorem dX5_unseen_12 : decode cX5_unseen 12 = .ok (.aload_n 0, 1) := dk_42 (dk_at dksX5_unseen_0 12 rfl rfl)
theorem dX5_unseen_13 : decode cX5_unseen 13 = .ok (.iconst 1, 1) := dk_4 (dk_at dksX5_unseen_0 13 rfl rfl)
theorem dX5_unseen_14 : decode cX5_unseen 14 = .ok (.invokevirtual 62, 3) := dk_182 0 62 (dk_at dksX5_unseen_0 14 rfl rfl)
theorem dX5_unseen_17 : decode cX5_unseen 17 = .ok (.goto 12, 3) := dk_167 0 12 (dk_at dksX5_unseen_0 17 rfl rfl)
theorem dX5_unseen_20 : decode cX5_unseen 20 = .ok (.aload_n 0, 1) := dk_42 (dk_at dksX5_unseen_0 20 rfl rfl)
theorem dX5_unseen_21 : decode cX5_unseen 21 = .ok (.aload_n 0, 1) := dk_42 (dk_at dksX5_unseen_0 21 rfl rfl)
theorem dX5_unseen_22 : decode cX5_unseen 22 = .ok (.invokevirtual 443, 3) := dk_182 1 187 (dk_at dksX5_unseen_1 0 rfl rfl)
theorem dX5_unseen_25 : decode cX5_unseen 25 = .ok (.iconst 0, 1) := dk_3 (dk_at dksX5_unseen_1 3 rfl rfl)
theorem dX5_unseen_26 : decode cX5_unseen 26 = .ok (.invokevirtual 66, 3) := dk_182 0 66 (dk_at dksX5_unseen_1 4 rfl rfl)
theorem dX5_unseen_29 : decode cX5_unseen 29 = .ok (.ireturn, 1) := dk_172 (dk_at dksX5_unseen_1 7 rfl rfl)
abbrev cX5_unseenNow : ByteArray := prog_15_method_63_code
def yX5_unseenNow : MethodName := ⟨RX5, "unseenNow", "()I"⟩
def dkwX5_unseenNow_2 : List UInt8 := [167, 255, 215, 27, 172]
abbrev dktX5_unseenNow_2 : List UInt8 := dkwX5_unseenNow_2 ++ []
def dkwX5_unseenNow_1 : List UInt8 := [180, 1, 127, 3, 182, 1, 173, 154, 0, 9, 4, 28, 120, 167, 0, 4, 3, 128, 60, 132, 2, 1]
abbrev dktX5_unseenNow_1 : List UInt8 := dkwX5_unseenNow_1 ++ dktX5_unseenNow_2
def dkwX5_unseenNow_0 : List UInt8 := [3, 60, 3, 61, 28, 42, 180, 1, 124, 180, 0, 221, 162, 0, 36, 27, 42, 42, 180, 0, 17, 28, 42]
abbrev dktX5_unseenNow_0 : List UInt8 := dkwX5_unseenNow_0 ++ dktX5_unseenNow_1
theorem dksX5_unseenNow_0 : cX5_unseenNow.data.toList.drop 0 = dktX5_unseenNow_0 := by decide +kernel
theorem dksX5_unseenNow_1 : cX5_unseenNow.data.toList.drop 23 = dktX5_unseenNow_1 := dk_seg dksX5_unseenNow_0 23 rfl rfl
theorem dksX5_unseenNow_2 : cX5_unseenNow.data.toList.drop 45 = dktX5_unseenNow_2 := dk_seg dksX5_unseenNow_1 22 rfl rfl
theorem dX5_unseenNow_0 : decode cX5_unseenNow 0 = .ok (.iconst 0, 1) := dk_3 (dk_at dksX5_unseenNow_0 0 rfl rfl)
theorem dX5_unseenNow_1 : decode cX5_unseenNow 1 = .ok (.istore_n 1, 1) := dk_60 (dk_at dksX5_unseenNow_0 1 rfl rfl)
theorem dX5_unseenNow_2 : decode cX5_unseenNow 2 = .ok (.iconst 0, 1) := dk_3 (dk_at dksX5_unseenNow_0 2 rfl rfl)
theorem dX5_unseenNow_3 : decode cX5_unseenNow 3 = .ok (.istore_n 2, 1) := dk_61 (dk_at dksX5_unseenNow_0 3 rfl rfl)
theorem dX5_unseenNow_4 : decode cX5_unseenNow 4 = .ok (.iload_n 2, 1) := dk_28 (dk_at dksX5_unseenNow_0 4 rfl rfl)
theorem dX5_unseenNow_5 : decode cX5_unseenNow 5 = .ok (.aload_n 0, 1) := dk_42 (dk_at dksX5_unseenNow_0 5 rfl rfl)
theorem dX5_unseenNow_6 : decode cX5_unseenNow 6 = .ok (.getfield 380, 3) := dk_180 1 124 (dk_at dksX5_unseenNow_0 6 rfl rfl)
theorem dX5_unseenNow_9 : decode cX5_unseenNow 9 = .ok (.getfield 221, 3) := dk_180 0 221 (dk_at dksX5_unseenNow_0 9 rfl rfl)
theorem dX5_unseenNow_12 : decode cX5_unseenNow 12 = .ok (.if_icmp .ge 36, 3) := dk_162 0 36 (dk_at dksX5_unseenNow_0 12 rfl rfl)
theorem dX5_unseenNow_15 : decode cX5_unseenNow 15 = .ok (.iload_n 1, 1) := dk_27 (dk_at dksX5_unseenNow_0 15 rfl rfl)
theorem dX5_unseenNow_16 : decode cX5_unseenNow 16 = .ok (.aload_n 0, 1) := dk_42 (dk_at dksX5_unseenNow_0 16 rfl rfl)
theorem dX5_unseenNow_17 : decode cX5_unseenNow 17 = .ok (.aload_n 0, 1) := dk_42 (dk_at dksX5_unseenNow_0 17 rfl rfl)
theorem dX5_unseenNow_18 : decode cX5_unseenNow 18 = .ok (.getfield 17, 3) := dk_180 0 17 (dk_at dksX5_unseenNow_0 18 rfl rfl)
theorem dX5_unseenNow_21 : decode cX5_unseenNow 21 = .ok (.iload_n 2, 1) := dk_28 (dk_at dksX5_unseenNow_0 21 rfl rfl)
theorem dX5_unseenNow_22 : decode cX5_unseenNow 22 = .ok (.aload_n 0, 1) := dk_42 (dk_at dksX5_unseenNow_0 22 rfl rfl)
theorem dX5_unseenNow_23 : decode cX5_unseenNow 23 = .ok (.getfield 383, 3) := dk_180 1 127 (dk_at dksX5_unseenNow_1 0 rfl rfl)
theorem dX5_unseenNow_26 : decode cX5_unseenNow 26 = .ok (.iconst 0, 1) := dk_3 (dk_at dksX5_unseenNow_1 3 rfl rfl)
theorem dX5_unseenNow_27 : decode cX5_unseenNow 27 = .ok (.invokevirtual 429, 3) := dk_182 1 173 (dk_at dksX5_unseenNow_1 4 rfl rfl)
theorem dX5_unseenNow_30 : decode cX5_unseenNow 30 = .ok (.ifCond .ne 9, 3) := dk_154 0 9 (dk_at dksX5_unseenNow_1 7 rfl rfl)
theorem dX5_unseenNow_33 : decode cX5_unseenNow 33 = .ok (.iconst 1, 1) := dk_4 (dk_at dksX5_unseenNow_1 10 rfl rfl)
theorem dX5_unseenNow_34 : decode cX5_unseenNow 34 = .ok (.iload_n 2, 1) := dk_28 (dk_at dksX5_unseenNow_1 11 rfl rfl)
theorem dX5_unseenNow_35 : decode cX5_unseenNow 35 = .ok (.ishl, 1) := dk_120 (dk_at dksX5_unseenNow_1 12 rfl rfl)
theorem dX5_unseenNow_36 : decode cX5_unseenNow 36 = .ok (.goto 4, 3) := dk_167 0 4 (dk_at dksX5_unseenNow_1 13 rfl rfl)
theorem dX5_unseenNow_39 : decode cX5_unseenNow 39 = .ok (.iconst 0, 1) := dk_3 (dk_at dksX5_unseenNow_1 16 rfl rfl)
theorem dX5_unseenNow_40 : decode cX5_unseenNow 40 = .ok (.ior, 1) := dk_128 (dk_at dksX5_unseenNow_1 17 rfl rfl)
theorem dX5_unseenNow_41 : decode cX5_unseenNow 41 = .ok (.istore_n 1, 1) := dk_60 (dk_at dksX5_unseenNow_1 18 rfl rfl)
theorem dX5_unseenNow_42 : decode cX5_unseenNow 42 = .ok (.iinc 2 1, 3) := dk_132 2 1 (dk_at dksX5_unseenNow_1 19 rfl rfl)
theorem dX5_unseenNow_45 : decode cX5_unseenNow 45 = .ok (.goto (-41), 3) := dk_167 255 215 (dk_at dksX5_unseenNow_2 0 rfl rfl)
theorem dX5_unseenNow_48 : decode cX5_unseenNow 48 = .ok (.iload_n 1, 1) := dk_27 (dk_at dksX5_unseenNow_2 3 rfl rfl)
theorem dX5_unseenNow_49 : decode cX5_unseenNow 49 = .ok (.ireturn, 1) := dk_172 (dk_at dksX5_unseenNow_2 4 rfl rfl)
abbrev cX5_seeing : ByteArray := prog_15_method_57_code
def yX5_seeing : MethodName := ⟨RX5, "seeing", "([IIII)I"⟩
def dkwX5_seeing_3 : List UInt8 := [21, 7, 120, 128, 54, 5, 132, 7, 1, 167, 255, 194, 21, 5, 172]
abbrev dktX5_seeing_3 : List UInt8 := dkwX5_seeing_3 ++ []
def dkwX5_seeing_2 : List UInt8 := [21, 7, 29, 182, 1, 170, 153, 0, 24, 21, 6, 43, 21, 7, 46, 184, 1, 142, 153, 0, 12, 21, 5, 4]
abbrev dktX5_seeing_2 : List UInt8 := dkwX5_seeing_2 ++ dktX5_seeing_3
def dkwX5_seeing_1 : List UInt8 := [180, 0, 221, 162, 0, 56, 21, 7, 28, 159, 0, 44, 21, 4, 21, 7, 184, 1, 142, 154, 0, 34, 42]
abbrev dktX5_seeing_1 : List UInt8 := dkwX5_seeing_1 ++ dktX5_seeing_2
def dkwX5_seeing_0 : List UInt8 := [3, 54, 5, 42, 43, 28, 46, 29, 182, 1, 161, 54, 6, 3, 54, 7, 21, 7, 42, 180, 1, 124]
abbrev dktX5_seeing_0 : List UInt8 := dkwX5_seeing_0 ++ dktX5_seeing_1
theorem dksX5_seeing_0 : cX5_seeing.data.toList.drop 0 = dktX5_seeing_0 := by decide +kernel
theorem dksX5_seeing_1 : cX5_seeing.data.toList.drop 22 = dktX5_seeing_1 := dk_seg dksX5_seeing_0 22 rfl rfl
theorem dksX5_seeing_2 : cX5_seeing.data.toList.drop 45 = dktX5_seeing_2 := dk_seg dksX5_seeing_1 23 rfl rfl
theorem dksX5_seeing_3 : cX5_seeing.data.toList.drop 69 = dktX5_seeing_3 := dk_seg dksX5_seeing_2 24 rfl rfl
theorem dX5_seeing_0 : decode cX5_seeing 0 = .ok (.iconst 0, 1) := dk_3 (dk_at dksX5_seeing_0 0 rfl rfl)
theorem dX5_seeing_1 : decode cX5_seeing 1 = .ok (.istore 5, 2) := dk_54 5 (dk_at dksX5_seeing_0 1 rfl rfl)
theorem dX5_seeing_3 : decode cX5_seeing 3 = .ok (.aload_n 0, 1) := dk_42 (dk_at dksX5_seeing_0 3 rfl rfl)
theorem dX5_seeing_4 : decode cX5_seeing 4 = .ok (.aload_n 1, 1) := dk_43 (dk_at dksX5_seeing_0 4 rfl rfl)
theorem dX5_seeing_5 : decode cX5_seeing 5 = .ok (.iload_n 2, 1) := dk_28 (dk_at dksX5_seeing_0 5 rfl rfl)
theorem dX5_seeing_6 : decode cX5_seeing 6 = .ok (.iaload, 1) := dk_46 (dk_at dksX5_seeing_0 6 rfl rfl)
theorem dX5_seeing_7 : decode cX5_seeing 7 = .ok (.iload_n 3, 1) := dk_29 (dk_at dksX5_seeing_0 7 rfl rfl)
theorem dX5_seeing_8 : decode cX5_seeing 8 = .ok (.invokevirtual 417, 3) := dk_182 1 161 (dk_at dksX5_seeing_0 8 rfl rfl)
theorem dX5_seeing_11 : decode cX5_seeing 11 = .ok (.istore 6, 2) := dk_54 6 (dk_at dksX5_seeing_0 11 rfl rfl)
theorem dX5_seeing_13 : decode cX5_seeing 13 = .ok (.iconst 0, 1) := dk_3 (dk_at dksX5_seeing_0 13 rfl rfl)
theorem dX5_seeing_14 : decode cX5_seeing 14 = .ok (.istore 7, 2) := dk_54 7 (dk_at dksX5_seeing_0 14 rfl rfl)
theorem dX5_seeing_16 : decode cX5_seeing 16 = .ok (.iload 7, 2) := dk_21 7 (dk_at dksX5_seeing_0 16 rfl rfl)
theorem dX5_seeing_18 : decode cX5_seeing 18 = .ok (.aload_n 0, 1) := dk_42 (dk_at dksX5_seeing_0 18 rfl rfl)
theorem dX5_seeing_19 : decode cX5_seeing 19 = .ok (.getfield 380, 3) := dk_180 1 124 (dk_at dksX5_seeing_0 19 rfl rfl)
theorem dX5_seeing_22 : decode cX5_seeing 22 = .ok (.getfield 221, 3) := dk_180 0 221 (dk_at dksX5_seeing_1 0 rfl rfl)
theorem dX5_seeing_25 : decode cX5_seeing 25 = .ok (.if_icmp .ge 56, 3) := dk_162 0 56 (dk_at dksX5_seeing_1 3 rfl rfl)
theorem dX5_seeing_28 : decode cX5_seeing 28 = .ok (.iload 7, 2) := dk_21 7 (dk_at dksX5_seeing_1 6 rfl rfl)
theorem dX5_seeing_30 : decode cX5_seeing 30 = .ok (.iload_n 2, 1) := dk_28 (dk_at dksX5_seeing_1 8 rfl rfl)
theorem dX5_seeing_31 : decode cX5_seeing 31 = .ok (.if_icmp .eq 44, 3) := dk_159 0 44 (dk_at dksX5_seeing_1 9 rfl rfl)
theorem dX5_seeing_34 : decode cX5_seeing 34 = .ok (.iload 4, 2) := dk_21 4 (dk_at dksX5_seeing_1 12 rfl rfl)
theorem dX5_seeing_36 : decode cX5_seeing 36 = .ok (.iload 7, 2) := dk_21 7 (dk_at dksX5_seeing_1 14 rfl rfl)
theorem dX5_seeing_38 : decode cX5_seeing 38 = .ok (.invokestatic 398, 3) := dk_184 1 142 (dk_at dksX5_seeing_1 16 rfl rfl)
theorem dX5_seeing_41 : decode cX5_seeing 41 = .ok (.ifCond .ne 34, 3) := dk_154 0 34 (dk_at dksX5_seeing_1 19 rfl rfl)
theorem dX5_seeing_44 : decode cX5_seeing 44 = .ok (.aload_n 0, 1) := dk_42 (dk_at dksX5_seeing_1 22 rfl rfl)
theorem dX5_seeing_45 : decode cX5_seeing 45 = .ok (.iload 7, 2) := dk_21 7 (dk_at dksX5_seeing_2 0 rfl rfl)
theorem dX5_seeing_47 : decode cX5_seeing 47 = .ok (.iload_n 3, 1) := dk_29 (dk_at dksX5_seeing_2 2 rfl rfl)
theorem dX5_seeing_48 : decode cX5_seeing 48 = .ok (.invokevirtual 426, 3) := dk_182 1 170 (dk_at dksX5_seeing_2 3 rfl rfl)
theorem dX5_seeing_51 : decode cX5_seeing 51 = .ok (.ifCond .eq 24, 3) := dk_153 0 24 (dk_at dksX5_seeing_2 6 rfl rfl)
theorem dX5_seeing_54 : decode cX5_seeing 54 = .ok (.iload 6, 2) := dk_21 6 (dk_at dksX5_seeing_2 9 rfl rfl)
theorem dX5_seeing_56 : decode cX5_seeing 56 = .ok (.aload_n 1, 1) := dk_43 (dk_at dksX5_seeing_2 11 rfl rfl)
theorem dX5_seeing_57 : decode cX5_seeing 57 = .ok (.iload 7, 2) := dk_21 7 (dk_at dksX5_seeing_2 12 rfl rfl)
theorem dX5_seeing_59 : decode cX5_seeing 59 = .ok (.iaload, 1) := dk_46 (dk_at dksX5_seeing_2 14 rfl rfl)
theorem dX5_seeing_60 : decode cX5_seeing 60 = .ok (.invokestatic 398, 3) := dk_184 1 142 (dk_at dksX5_seeing_2 15 rfl rfl)
theorem dX5_seeing_63 : decode cX5_seeing 63 = .ok (.ifCond .eq 12, 3) := dk_153 0 12 (dk_at dksX5_seeing_2 18 rfl rfl)
theorem dX5_seeing_66 : decode cX5_seeing 66 = .ok (.iload 5, 2) := dk_21 5 (dk_at dksX5_seeing_2 21 rfl rfl)
theorem dX5_seeing_68 : decode cX5_seeing 68 = .ok (.iconst 1, 1) := dk_4 (dk_at dksX5_seeing_2 23 rfl rfl)
theorem dX5_seeing_69 : decode cX5_seeing 69 = .ok (.iload 7, 2) := dk_21 7 (dk_at dksX5_seeing_3 0 rfl rfl)
theorem dX5_seeing_71 : decode cX5_seeing 71 = .ok (.ishl, 1) := dk_120 (dk_at dksX5_seeing_3 2 rfl rfl)
theorem dX5_seeing_72 : decode cX5_seeing 72 = .ok (.ior, 1) := dk_128 (dk_at dksX5_seeing_3 3 rfl rfl)
theorem dX5_seeing_73 : decode cX5_seeing 73 = .ok (.istore 5, 2) := dk_54 5 (dk_at dksX5_seeing_3 4 rfl rfl)
theorem dX5_seeing_75 : decode cX5_seeing 75 = .ok (.iinc 7 1, 3) := dk_132 7 1 (dk_at dksX5_seeing_3 6 rfl rfl)
theorem dX5_seeing_78 : decode cX5_seeing 78 = .ok (.goto (-62), 3) := dk_167 255 194 (dk_at dksX5_seeing_3 9 rfl rfl)
theorem dX5_seeing_81 : decode cX5_seeing 81 = .ok (.iload 5, 2) := dk_21 5 (dk_at dksX5_seeing_3 12 rfl rfl)
theorem dX5_seeing_83 : decode cX5_seeing 83 = .ok (.ireturn, 1) := dk_172 (dk_at dksX5_seeing_3 14 rfl rfl)
abbrev cX5_lawful : ByteArray := prog_15_method_65_code
def yX5_lawful : MethodName := ⟨RX5, "lawful", "()I"⟩
def dkwX5_lawful_1 : List UInt8 := [182, 1, 190, 153, 0, 7, 4, 167, 0, 4, 3, 3, 182, 0, 66, 172]
abbrev dktX5_lawful_1 : List UInt8 := dkwX5_lawful_1 ++ []
def dkwX5_lawful_0 : List UInt8 := [42, 3, 181, 0, 56, 42, 180, 1, 124, 199, 0, 11, 42, 4, 182, 0, 62, 167, 0, 20, 42, 42]
abbrev dktX5_lawful_0 : List UInt8 := dkwX5_lawful_0 ++ dktX5_lawful_1
theorem dksX5_lawful_0 : cX5_lawful.data.toList.drop 0 = dktX5_lawful_0 := by decide +kernel
theorem dksX5_lawful_1 : cX5_lawful.data.toList.drop 22 = dktX5_lawful_1 := dk_seg dksX5_lawful_0 22 rfl rfl
theorem dX5_lawful_0 : decode cX5_lawful 0 = .ok (.aload_n 0, 1) := dk_42 (dk_at dksX5_lawful_0 0 rfl rfl)
theorem dX5_lawful_1 : decode cX5_lawful 1 = .ok (.iconst 0, 1) := dk_3 (dk_at dksX5_lawful_0 1 rfl rfl)
theorem dX5_lawful_2 : decode cX5_lawful 2 = .ok (.putfield 56, 3) := dk_181 0 56 (dk_at dksX5_lawful_0 2 rfl rfl)
theorem dX5_lawful_5 : decode cX5_lawful 5 = .ok (.aload_n 0, 1) := dk_42 (dk_at dksX5_lawful_0 5 rfl rfl)
theorem dX5_lawful_6 : decode cX5_lawful 6 = .ok (.getfield 380, 3) := dk_180 1 124 (dk_at dksX5_lawful_0 6 rfl rfl)
theorem dX5_lawful_9 : decode cX5_lawful 9 = .ok (.ifnonnull 11, 3) := dk_199 0 11 (dk_at dksX5_lawful_0 9 rfl rfl)
theorem dX5_lawful_12 : decode cX5_lawful 12 = .ok (.aload_n 0, 1) := dk_42 (dk_at dksX5_lawful_0 12 rfl rfl)
theorem dX5_lawful_13 : decode cX5_lawful 13 = .ok (.iconst 1, 1) := dk_4 (dk_at dksX5_lawful_0 13 rfl rfl)
theorem dX5_lawful_14 : decode cX5_lawful 14 = .ok (.invokevirtual 62, 3) := dk_182 0 62 (dk_at dksX5_lawful_0 14 rfl rfl)
theorem dX5_lawful_17 : decode cX5_lawful 17 = .ok (.goto 20, 3) := dk_167 0 20 (dk_at dksX5_lawful_0 17 rfl rfl)
theorem dX5_lawful_20 : decode cX5_lawful 20 = .ok (.aload_n 0, 1) := dk_42 (dk_at dksX5_lawful_0 20 rfl rfl)
theorem dX5_lawful_21 : decode cX5_lawful 21 = .ok (.aload_n 0, 1) := dk_42 (dk_at dksX5_lawful_0 21 rfl rfl)
theorem dX5_lawful_22 : decode cX5_lawful 22 = .ok (.invokevirtual 446, 3) := dk_182 1 190 (dk_at dksX5_lawful_1 0 rfl rfl)
theorem dX5_lawful_25 : decode cX5_lawful 25 = .ok (.ifCond .eq 7, 3) := dk_153 0 7 (dk_at dksX5_lawful_1 3 rfl rfl)
theorem dX5_lawful_28 : decode cX5_lawful 28 = .ok (.iconst 1, 1) := dk_4 (dk_at dksX5_lawful_1 6 rfl rfl)
theorem dX5_lawful_29 : decode cX5_lawful 29 = .ok (.goto 4, 3) := dk_167 0 4 (dk_at dksX5_lawful_1 7 rfl rfl)
theorem dX5_lawful_32 : decode cX5_lawful 32 = .ok (.iconst 0, 1) := dk_3 (dk_at dksX5_lawful_1 10 rfl rfl)
theorem dX5_lawful_33 : decode cX5_lawful 33 = .ok (.iconst 0, 1) := dk_3 (dk_at dksX5_lawful_1 11 rfl rfl)
theorem dX5_lawful_34 : decode cX5_lawful 34 = .ok (.invokevirtual 66, 3) := dk_182 0 66 (dk_at dksX5_lawful_1 12 rfl rfl)
theorem dX5_lawful_37 : decode cX5_lawful 37 = .ok (.ireturn, 1) := dk_172 (dk_at dksX5_lawful_1 15 rfl rfl)
abbrev cX5_isLawfulNow : ByteArray := prog_15_method_59_code
def yX5_isLawfulNow : MethodName := ⟨RX5, "isLawfulNow", "()Z"⟩
def dkwX5_isLawfulNow_0 : List UInt8 := [42, 42, 180, 0, 17, 42, 180, 1, 127, 3, 182, 1, 177, 172]
abbrev dktX5_isLawfulNow_0 : List UInt8 := dkwX5_isLawfulNow_0 ++ []
theorem dksX5_isLawfulNow_0 : cX5_isLawfulNow.data.toList.drop 0 = dktX5_isLawfulNow_0 := by decide +kernel
theorem dX5_isLawfulNow_0 : decode cX5_isLawfulNow 0 = .ok (.aload_n 0, 1) := dk_42 (dk_at dksX5_isLawfulNow_0 0 rfl rfl)
theorem dX5_isLawfulNow_1 : decode cX5_isLawfulNow 1 = .ok (.aload_n 0, 1) := dk_42 (dk_at dksX5_isLawfulNow_0 1 rfl rfl)
theorem dX5_isLawfulNow_2 : decode cX5_isLawfulNow 2 = .ok (.getfield 17, 3) := dk_180 0 17 (dk_at dksX5_isLawfulNow_0 2 rfl rfl)
theorem dX5_isLawfulNow_5 : decode cX5_isLawfulNow 5 = .ok (.aload_n 0, 1) := dk_42 (dk_at dksX5_isLawfulNow_0 5 rfl rfl)
theorem dX5_isLawfulNow_6 : decode cX5_isLawfulNow 6 = .ok (.getfield 383, 3) := dk_180 1 127 (dk_at dksX5_isLawfulNow_0 6 rfl rfl)
theorem dX5_isLawfulNow_9 : decode cX5_isLawfulNow 9 = .ok (.iconst 0, 1) := dk_3 (dk_at dksX5_isLawfulNow_0 9 rfl rfl)
theorem dX5_isLawfulNow_10 : decode cX5_isLawfulNow 10 = .ok (.invokevirtual 433, 3) := dk_182 1 177 (dk_at dksX5_isLawfulNow_0 10 rfl rfl)
theorem dX5_isLawfulNow_13 : decode cX5_isLawfulNow 13 = .ok (.ireturn, 1) := dk_172 (dk_at dksX5_isLawfulNow_0 13 rfl rfl)
abbrev cX5_isLawful : ByteArray := prog_15_method_58_code
def yX5_isLawful : MethodName := ⟨RX5, "isLawful", "([III)Z"⟩
def dkwX5_isLawful_4 : List UInt8 := [21, 6, 184, 1, 142, 154, 0, 5, 3, 172, 132, 4, 1, 167, 255, 189, 4, 172]
abbrev dktX5_isLawful_4 : List UInt8 := dkwX5_isLawful_4 ++ []
def dkwX5_isLawful_3 : List UInt8 := [180, 1, 85, 21, 4, 46, 46, 54, 6, 21, 5, 21, 6, 159, 0, 18, 42, 21, 5, 28, 182, 1, 161]
abbrev dktX5_isLawful_3 : List UInt8 := dkwX5_isLawful_3 ++ dktX5_isLawful_4
def dkwX5_isLawful_2 : List UInt8 := [162, 0, 61, 43, 42, 180, 1, 124, 180, 1, 82, 21, 4, 46, 46, 54, 5, 43, 42, 180, 1, 124]
abbrev dktX5_isLawful_2 : List UInt8 := dkwX5_isLawful_2 ++ dktX5_isLawful_3
def dkwX5_isLawful_1 : List UInt8 := [154, 0, 5, 3, 172, 132, 4, 1, 167, 255, 227, 3, 54, 4, 21, 4, 42, 180, 1, 124, 180, 1, 79]
abbrev dktX5_isLawful_1 : List UInt8 := dkwX5_isLawful_1 ++ dktX5_isLawful_2
def dkwX5_isLawful_0 : List UInt8 := [3, 54, 4, 21, 4, 42, 180, 1, 124, 180, 0, 221, 162, 0, 23, 42, 43, 21, 4, 28, 29, 182, 1, 173]
abbrev dktX5_isLawful_0 : List UInt8 := dkwX5_isLawful_0 ++ dktX5_isLawful_1
theorem dksX5_isLawful_0 : cX5_isLawful.data.toList.drop 0 = dktX5_isLawful_0 := by decide +kernel
theorem dksX5_isLawful_1 : cX5_isLawful.data.toList.drop 24 = dktX5_isLawful_1 := dk_seg dksX5_isLawful_0 24 rfl rfl
theorem dksX5_isLawful_2 : cX5_isLawful.data.toList.drop 47 = dktX5_isLawful_2 := dk_seg dksX5_isLawful_1 23 rfl rfl
theorem dksX5_isLawful_3 : cX5_isLawful.data.toList.drop 69 = dktX5_isLawful_3 := dk_seg dksX5_isLawful_2 22 rfl rfl
theorem dksX5_isLawful_4 : cX5_isLawful.data.toList.drop 92 = dktX5_isLawful_4 := dk_seg dksX5_isLawful_3 23 rfl rfl
theorem dX5_isLawful_0 : decode cX5_isLawful 0 = .ok (.iconst 0, 1) := dk_3 (dk_at dksX5_isLawful_0 0 rfl rfl)
theorem dX5_isLawful_1 : decode cX5_isLawful 1 = .ok (.istore 4, 2) := dk_54 4 (dk_at dksX5_isLawful_0 1 rfl rfl)
theorem dX5_isLawful_3 : decode cX5_isLawful 3 = .ok (.iload 4, 2) := dk_21 4 (dk_at dksX5_isLawful_0 3 rfl rfl)
theorem dX5_isLawful_5 : decode cX5_isLawful 5 = .ok (.aload_n 0, 1) := dk_42 (dk_at dksX5_isLawful_0 5 rfl rfl)
theorem dX5_isLawful_6 : decode cX5_isLawful 6 = .ok (.getfield 380, 3) := dk_180 1 124 (dk_at dksX5_isLawful_0 6 rfl rfl)
theorem dX5_isLawful_9 : decode cX5_isLawful 9 = .ok (.getfield 221, 3) := dk_180 0 221 (dk_at dksX5_isLawful_0 9 rfl rfl)
theorem dX5_isLawful_12 : decode cX5_isLawful 12 = .ok (.if_icmp .ge 23, 3) := dk_162 0 23 (dk_at dksX5_isLawful_0 12 rfl rfl)
theorem dX5_isLawful_15 : decode cX5_isLawful 15 = .ok (.aload_n 0, 1) := dk_42 (dk_at dksX5_isLawful_0 15 rfl rfl)
theorem dX5_isLawful_16 : decode cX5_isLawful 16 = .ok (.aload_n 1, 1) := dk_43 (dk_at dksX5_isLawful_0 16 rfl rfl)
theorem dX5_isLawful_17 : decode cX5_isLawful 17 = .ok (.iload 4, 2) := dk_21 4 (dk_at dksX5_isLawful_0 17 rfl rfl)
theorem dX5_isLawful_19 : decode cX5_isLawful 19 = .ok (.iload_n 2, 1) := dk_28 (dk_at dksX5_isLawful_0 19 rfl rfl)
theorem dX5_isLawful_20 : decode cX5_isLawful 20 = .ok (.iload_n 3, 1) := dk_29 (dk_at dksX5_isLawful_0 20 rfl rfl)
theorem dX5_isLawful_21 : decode cX5_isLawful 21 = .ok (.invokevirtual 429, 3) := dk_182 1 173 (dk_at dksX5_isLawful_0 21 rfl rfl)
theorem dX5_isLawful_24 : decode cX5_isLawful 24 = .ok (.ifCond .ne 5, 3) := dk_154 0 5 (dk_at dksX5_isLawful_1 0 rfl rfl)
theorem dX5_isLawful_27 : decode cX5_isLawful 27 = .ok (.iconst 0, 1) := dk_3 (dk_at dksX5_isLawful_1 3 rfl rfl)
theorem dX5_isLawful_28 : decode cX5_isLawful 28 = .ok (.ireturn, 1) := dk_172 (dk_at dksX5_isLawful_1 4 rfl rfl)
theorem dX5_isLawful_29 : decode cX5_isLawful 29 = .ok (.iinc 4 1, 3) := dk_132 4 1 (dk_at dksX5_isLawful_1 5 rfl rfl)
theorem dX5_isLawful_32 : decode cX5_isLawful 32 = .ok (.goto (-29), 3) := dk_167 255 227 (dk_at dksX5_isLawful_1 8 rfl rfl)
theorem dX5_isLawful_35 : decode cX5_isLawful 35 = .ok (.iconst 0, 1) := dk_3 (dk_at dksX5_isLawful_1 11 rfl rfl)
theorem dX5_isLawful_36 : decode cX5_isLawful 36 = .ok (.istore 4, 2) := dk_54 4 (dk_at dksX5_isLawful_1 12 rfl rfl)
theorem dX5_isLawful_38 : decode cX5_isLawful 38 = .ok (.iload 4, 2) := dk_21 4 (dk_at dksX5_isLawful_1 14 rfl rfl)
theorem dX5_isLawful_40 : decode cX5_isLawful 40 = .ok (.aload_n 0, 1) := dk_42 (dk_at dksX5_isLawful_1 16 rfl rfl)
theorem dX5_isLawful_41 : decode cX5_isLawful 41 = .ok (.getfield 380, 3) := dk_180 1 124 (dk_at dksX5_isLawful_1 17 rfl rfl)
theorem dX5_isLawful_44 : decode cX5_isLawful 44 = .ok (.getfield 335, 3) := dk_180 1 79 (dk_at dksX5_isLawful_1 20 rfl rfl)
theorem dX5_isLawful_47 : decode cX5_isLawful 47 = .ok (.if_icmp .ge 61, 3) := dk_162 0 61 (dk_at dksX5_isLawful_2 0 rfl rfl)
theorem dX5_isLawful_50 : decode cX5_isLawful 50 = .ok (.aload_n 1, 1) := dk_43 (dk_at dksX5_isLawful_2 3 rfl rfl)
theorem dX5_isLawful_51 : decode cX5_isLawful 51 = .ok (.aload_n 0, 1) := dk_42 (dk_at dksX5_isLawful_2 4 rfl rfl)
theorem dX5_isLawful_52 : decode cX5_isLawful 52 = .ok (.getfield 380, 3) := dk_180 1 124 (dk_at dksX5_isLawful_2 5 rfl rfl)
theorem dX5_isLawful_55 : decode cX5_isLawful 55 = .ok (.getfield 338, 3) := dk_180 1 82 (dk_at dksX5_isLawful_2 8 rfl rfl)
theorem dX5_isLawful_58 : decode cX5_isLawful 58 = .ok (.iload 4, 2) := dk_21 4 (dk_at dksX5_isLawful_2 11 rfl rfl)
theorem dX5_isLawful_60 : decode cX5_isLawful 60 = .ok (.iaload, 1) := dk_46 (dk_at dksX5_isLawful_2 13 rfl rfl)
theorem dX5_isLawful_61 : decode cX5_isLawful 61 = .ok (.iaload, 1) := dk_46 (dk_at dksX5_isLawful_2 14 rfl rfl)
theorem dX5_isLawful_62 : decode cX5_isLawful 62 = .ok (.istore 5, 2) := dk_54 5 (dk_at dksX5_isLawful_2 15 rfl rfl)
theorem dX5_isLawful_64 : decode cX5_isLawful 64 = .ok (.aload_n 1, 1) := dk_43 (dk_at dksX5_isLawful_2 17 rfl rfl)
theorem dX5_isLawful_65 : decode cX5_isLawful 65 = .ok (.aload_n 0, 1) := dk_42 (dk_at dksX5_isLawful_2 18 rfl rfl)
theorem dX5_isLawful_66 : decode cX5_isLawful 66 = .ok (.getfield 380, 3) := dk_180 1 124 (dk_at dksX5_isLawful_2 19 rfl rfl)
theorem dX5_isLawful_69 : decode cX5_isLawful 69 = .ok (.getfield 341, 3) := dk_180 1 85 (dk_at dksX5_isLawful_3 0 rfl rfl)
theorem dX5_isLawful_72 : decode cX5_isLawful 72 = .ok (.iload 4, 2) := dk_21 4 (dk_at dksX5_isLawful_3 3 rfl rfl)
theorem dX5_isLawful_74 : decode cX5_isLawful 74 = .ok (.iaload, 1) := dk_46 (dk_at dksX5_isLawful_3 5 rfl rfl)
theorem dX5_isLawful_75 : decode cX5_isLawful 75 = .ok (.iaload, 1) := dk_46 (dk_at dksX5_isLawful_3 6 rfl rfl)
theorem dX5_isLawful_76 : decode cX5_isLawful 76 = .ok (.istore 6, 2) := dk_54 6 (dk_at dksX5_isLawful_3 7 rfl rfl)
theorem dX5_isLawful_78 : decode cX5_isLawful 78 = .ok (.iload 5, 2) := dk_21 5 (dk_at dksX5_isLawful_3 9 rfl rfl)
theorem dX5_isLawful_80 : decode cX5_isLawful 80 = .ok (.iload 6, 2) := dk_21 6 (dk_at dksX5_isLawful_3 11 rfl rfl)
theorem dX5_isLawful_82 : decode cX5_isLawful 82 = .ok (.if_icmp .eq 18, 3) := dk_159 0 18 (dk_at dksX5_isLawful_3 13 rfl rfl)
theorem dX5_isLawful_85 : decode cX5_isLawful 85 = .ok (.aload_n 0, 1) := dk_42 (dk_at dksX5_isLawful_3 16 rfl rfl)
theorem dX5_isLawful_86 : decode cX5_isLawful 86 = .ok (.iload 5, 2) := dk_21 5 (dk_at dksX5_isLawful_3 17 rfl rfl)
theorem dX5_isLawful_88 : decode cX5_isLawful 88 = .ok (.iload_n 2, 1) := dk_28 (dk_at dksX5_isLawful_3 19 rfl rfl)
theorem dX5_isLawful_89 : decode cX5_isLawful 89 = .ok (.invokevirtual 417, 3) := dk_182 1 161 (dk_at dksX5_isLawful_3 20 rfl rfl)
theorem dX5_isLawful_92 : decode cX5_isLawful 92 = .ok (.iload 6, 2) := dk_21 6 (dk_at dksX5_isLawful_4 0 rfl rfl)
theorem dX5_isLawful_94 : decode cX5_isLawful 94 = .ok (.invokestatic 398, 3) := dk_184 1 142 (dk_at dksX5_isLawful_4 2 rfl rfl)
theorem dX5_isLawful_97 : decode cX5_isLawful 97 = .ok (.ifCond .ne 5, 3) := dk_154 0 5 (dk_at dksX5_isLawful_4 5 rfl rfl)
theorem dX5_isLawful_100 : decode cX5_isLawful 100 = .ok (.iconst 0, 1) := dk_3 (dk_at dksX5_isLawful_4 8 rfl rfl)
theorem dX5_isLawful_101 : decode cX5_isLawful 101 = .ok (.ireturn, 1) := dk_172 (dk_at dksX5_isLawful_4 9 rfl rfl)
theorem dX5_isLawful_102 : decode cX5_isLawful 102 = .ok (.iinc 4 1, 3) := dk_132 4 1 (dk_at dksX5_isLawful_4 10 rfl rfl)
theorem dX5_isLawful_105 : decode cX5_isLawful 105 = .ok (.goto (-67), 3) := dk_167 255 189 (dk_at dksX5_isLawful_4 13 rfl rfl)
theorem dX5_isLawful_108 : decode cX5_isLawful 108 = .ok (.iconst 1, 1) := dk_4 (dk_at dksX5_isLawful_4 16 rfl rfl)
theorem dX5_isLawful_109 : decode cX5_isLawful 109 = .ok (.ireturn, 1) := dk_172 (dk_at dksX5_isLawful_4 17 rfl rfl)
abbrev cX5_by : ByteArray := prog_15_method_66_code
def yX5_by : MethodName := ⟨RX5, "by", "(I)I"⟩
def dkwX5_by_1 : List UInt8 := [3, 182, 1, 173, 3, 182, 0, 66, 167, 0, 8, 42, 4, 182, 0, 62, 172]
abbrev dktX5_by_1 : List UInt8 := dkwX5_by_1 ++ []
def dkwX5_by_0 : List UInt8 := [42, 3, 181, 0, 56, 42, 27, 182, 1, 167, 153, 0, 25, 42, 42, 42, 180, 0, 17, 27, 42, 180, 1, 127]
abbrev dktX5_by_0 : List UInt8 := dkwX5_by_0 ++ dktX5_by_1
theorem dksX5_by_0 : cX5_by.data.toList.drop 0 = dktX5_by_0 := by decide +kernel
theorem dksX5_by_1 : cX5_by.data.toList.drop 24 = dktX5_by_1 := dk_seg dksX5_by_0 24 rfl rfl
theorem dX5_by_0 : decode cX5_by 0 = .ok (.aload_n 0, 1) := dk_42 (dk_at dksX5_by_0 0 rfl rfl)
theorem dX5_by_1 : decode cX5_by 1 = .ok (.iconst 0, 1) := dk_3 (dk_at dksX5_by_0 1 rfl rfl)
theorem dX5_by_2 : decode cX5_by 2 = .ok (.putfield 56, 3) := dk_181 0 56 (dk_at dksX5_by_0 2 rfl rfl)
theorem dX5_by_5 : decode cX5_by 5 = .ok (.aload_n 0, 1) := dk_42 (dk_at dksX5_by_0 5 rfl rfl)
theorem dX5_by_6 : decode cX5_by 6 = .ok (.iload_n 1, 1) := dk_27 (dk_at dksX5_by_0 6 rfl rfl)
theorem dX5_by_7 : decode cX5_by 7 = .ok (.invokevirtual 423, 3) := dk_182 1 167 (dk_at dksX5_by_0 7 rfl rfl)
theorem dX5_by_10 : decode cX5_by 10 = .ok (.ifCond .eq 25, 3) := dk_153 0 25 (dk_at dksX5_by_0 10 rfl rfl)
theorem dX5_by_13 : decode cX5_by 13 = .ok (.aload_n 0, 1) := dk_42 (dk_at dksX5_by_0 13 rfl rfl)
theorem dX5_by_14 : decode cX5_by 14 = .ok (.aload_n 0, 1) := dk_42 (dk_at dksX5_by_0 14 rfl rfl)
theorem dX5_by_15 : decode cX5_by 15 = .ok (.aload_n 0, 1) := dk_42 (dk_at dksX5_by_0 15 rfl rfl)
theorem dX5_by_16 : decode cX5_by 16 = .ok (.getfield 17, 3) := dk_180 0 17 (dk_at dksX5_by_0 16 rfl rfl)
theorem dX5_by_19 : decode cX5_by 19 = .ok (.iload_n 1, 1) := dk_27 (dk_at dksX5_by_0 19 rfl rfl)
theorem dX5_by_20 : decode cX5_by 20 = .ok (.aload_n 0, 1) := dk_42 (dk_at dksX5_by_0 20 rfl rfl)
theorem dX5_by_21 : decode cX5_by 21 = .ok (.getfield 383, 3) := dk_180 1 127 (dk_at dksX5_by_0 21 rfl rfl)
theorem dX5_by_24 : decode cX5_by 24 = .ok (.iconst 0, 1) := dk_3 (dk_at dksX5_by_1 0 rfl rfl)
theorem dX5_by_25 : decode cX5_by 25 = .ok (.invokevirtual 429, 3) := dk_182 1 173 (dk_at dksX5_by_1 1 rfl rfl)
theorem dX5_by_28 : decode cX5_by 28 = .ok (.iconst 0, 1) := dk_3 (dk_at dksX5_by_1 4 rfl rfl)
theorem dX5_by_29 : decode cX5_by 29 = .ok (.invokevirtual 66, 3) := dk_182 0 66 (dk_at dksX5_by_1 5 rfl rfl)
theorem dX5_by_32 : decode cX5_by 32 = .ok (.goto 8, 3) := dk_167 0 8 (dk_at dksX5_by_1 8 rfl rfl)
theorem dX5_by_35 : decode cX5_by 35 = .ok (.aload_n 0, 1) := dk_42 (dk_at dksX5_by_1 11 rfl rfl)
theorem dX5_by_36 : decode cX5_by 36 = .ok (.iconst 1, 1) := dk_4 (dk_at dksX5_by_1 12 rfl rfl)
theorem dX5_by_37 : decode cX5_by 37 = .ok (.invokevirtual 62, 3) := dk_182 0 62 (dk_at dksX5_by_1 13 rfl rfl)
theorem dX5_by_40 : decode cX5_by 40 = .ok (.ireturn, 1) := dk_172 (dk_at dksX5_by_1 16 rfl rfl)
abbrev cX5_move : ByteArray := prog_15_method_68_code
def yX5_move : MethodName := ⟨RX5, "move", "(III)Z"⟩
def dkwX5_move_3 : List UInt8 := [96, 29, 79, 132, 4, 1, 167, 255, 233, 42, 182, 1, 184, 172]
abbrev dktX5_move_3 : List UInt8 := dkwX5_move_3 ++ []
def dkwX5_move_2 : List UInt8 := [182, 1, 181, 172, 28, 54, 4, 21, 4, 16, 100, 162, 0, 22, 42, 180, 0, 24, 16, 100, 27, 104, 21, 4]
abbrev dktX5_move_2 : List UInt8 := dkwX5_move_2 ++ dktX5_move_3
def dkwX5_move_1 : List UInt8 := [182, 1, 181, 172, 28, 3, 42, 180, 1, 124, 180, 1, 17, 4, 100, 184, 0, 135, 154, 0, 9, 42, 5]
abbrev dktX5_move_1 : List UInt8 := dkwX5_move_1 ++ dktX5_move_2
def dkwX5_move_0 : List UInt8 := [42, 3, 181, 0, 56, 42, 27, 182, 1, 167, 153, 0, 11, 42, 29, 182, 1, 158, 154, 0, 9, 42, 4]
abbrev dktX5_move_0 : List UInt8 := dkwX5_move_0 ++ dktX5_move_1
theorem dksX5_move_0 : cX5_move.data.toList.drop 0 = dktX5_move_0 := by decide +kernel
theorem dksX5_move_1 : cX5_move.data.toList.drop 23 = dktX5_move_1 := dk_seg dksX5_move_0 23 rfl rfl
theorem dksX5_move_2 : cX5_move.data.toList.drop 46 = dktX5_move_2 := dk_seg dksX5_move_1 23 rfl rfl
theorem dksX5_move_3 : cX5_move.data.toList.drop 70 = dktX5_move_3 := dk_seg dksX5_move_2 24 rfl rfl
theorem dX5_move_0 : decode cX5_move 0 = .ok (.aload_n 0, 1) := dk_42 (dk_at dksX5_move_0 0 rfl rfl)
theorem dX5_move_1 : decode cX5_move 1 = .ok (.iconst 0, 1) := dk_3 (dk_at dksX5_move_0 1 rfl rfl)
theorem dX5_move_2 : decode cX5_move 2 = .ok (.putfield 56, 3) := dk_181 0 56 (dk_at dksX5_move_0 2 rfl rfl)
theorem dX5_move_5 : decode cX5_move 5 = .ok (.aload_n 0, 1) := dk_42 (dk_at dksX5_move_0 5 rfl rfl)
theorem dX5_move_6 : decode cX5_move 6 = .ok (.iload_n 1, 1) := dk_27 (dk_at dksX5_move_0 6 rfl rfl)
theorem dX5_move_7 : decode cX5_move 7 = .ok (.invokevirtual 423, 3) := dk_182 1 167 (dk_at dksX5_move_0 7 rfl rfl)
theorem dX5_move_10 : decode cX5_move 10 = .ok (.ifCond .eq 11, 3) := dk_153 0 11 (dk_at dksX5_move_0 10 rfl rfl)
theorem dX5_move_13 : decode cX5_move 13 = .ok (.aload_n 0, 1) := dk_42 (dk_at dksX5_move_0 13 rfl rfl)
theorem dX5_move_14 : decode cX5_move 14 = .ok (.iload_n 3, 1) := dk_29 (dk_at dksX5_move_0 14 rfl rfl)
theorem dX5_move_15 : decode cX5_move 15 = .ok (.invokevirtual 414, 3) := dk_182 1 158 (dk_at dksX5_move_0 15 rfl rfl)
theorem dX5_move_18 : decode cX5_move 18 = .ok (.ifCond .ne 9, 3) := dk_154 0 9 (dk_at dksX5_move_0 18 rfl rfl)
theorem dX5_move_21 : decode cX5_move 21 = .ok (.aload_n 0, 1) := dk_42 (dk_at dksX5_move_0 21 rfl rfl)
theorem dX5_move_22 : decode cX5_move 22 = .ok (.iconst 1, 1) := dk_4 (dk_at dksX5_move_0 22 rfl rfl)
theorem dX5_move_23 : decode cX5_move 23 = .ok (.invokevirtual 437, 3) := dk_182 1 181 (dk_at dksX5_move_1 0 rfl rfl)
theorem dX5_move_26 : decode cX5_move 26 = .ok (.ireturn, 1) := dk_172 (dk_at dksX5_move_1 3 rfl rfl)
theorem dX5_move_27 : decode cX5_move 27 = .ok (.iload_n 2, 1) := dk_28 (dk_at dksX5_move_1 4 rfl rfl)
theorem dX5_move_28 : decode cX5_move 28 = .ok (.iconst 0, 1) := dk_3 (dk_at dksX5_move_1 5 rfl rfl)
theorem dX5_move_29 : decode cX5_move 29 = .ok (.aload_n 0, 1) := dk_42 (dk_at dksX5_move_1 6 rfl rfl)
theorem dX5_move_30 : decode cX5_move 30 = .ok (.getfield 380, 3) := dk_180 1 124 (dk_at dksX5_move_1 7 rfl rfl)
theorem dX5_move_33 : decode cX5_move 33 = .ok (.getfield 273, 3) := dk_180 1 17 (dk_at dksX5_move_1 10 rfl rfl)
theorem dX5_move_36 : decode cX5_move 36 = .ok (.iconst 1, 1) := dk_4 (dk_at dksX5_move_1 13 rfl rfl)
theorem dX5_move_37 : decode cX5_move 37 = .ok (.isub, 1) := dk_100 (dk_at dksX5_move_1 14 rfl rfl)
theorem dX5_move_38 : decode cX5_move 38 = .ok (.invokestatic 135, 3) := dk_184 0 135 (dk_at dksX5_move_1 15 rfl rfl)
theorem dX5_move_41 : decode cX5_move 41 = .ok (.ifCond .ne 9, 3) := dk_154 0 9 (dk_at dksX5_move_1 18 rfl rfl)
theorem dX5_move_44 : decode cX5_move 44 = .ok (.aload_n 0, 1) := dk_42 (dk_at dksX5_move_1 21 rfl rfl)
theorem dX5_move_45 : decode cX5_move 45 = .ok (.iconst 2, 1) := dk_5 (dk_at dksX5_move_1 22 rfl rfl)
theorem dX5_move_46 : decode cX5_move 46 = .ok (.invokevirtual 437, 3) := dk_182 1 181 (dk_at dksX5_move_2 0 rfl rfl)
theorem dX5_move_49 : decode cX5_move 49 = .ok (.ireturn, 1) := dk_172 (dk_at dksX5_move_2 3 rfl rfl)
theorem dX5_move_50 : decode cX5_move 50 = .ok (.iload_n 2, 1) := dk_28 (dk_at dksX5_move_2 4 rfl rfl)
theorem dX5_move_51 : decode cX5_move 51 = .ok (.istore 4, 2) := dk_54 4 (dk_at dksX5_move_2 5 rfl rfl)
theorem dX5_move_53 : decode cX5_move 53 = .ok (.iload 4, 2) := dk_21 4 (dk_at dksX5_move_2 7 rfl rfl)
theorem dX5_move_55 : decode cX5_move 55 = .ok (.bipush 100, 2) := dk_16 100 (dk_at dksX5_move_2 9 rfl rfl)
theorem dX5_move_57 : decode cX5_move 57 = .ok (.if_icmp .ge 22, 3) := dk_162 0 22 (dk_at dksX5_move_2 11 rfl rfl)
theorem dX5_move_60 : decode cX5_move 60 = .ok (.aload_n 0, 1) := dk_42 (dk_at dksX5_move_2 14 rfl rfl)
theorem dX5_move_61 : decode cX5_move 61 = .ok (.getfield 24, 3) := dk_180 0 24 (dk_at dksX5_move_2 15 rfl rfl)
theorem dX5_move_64 : decode cX5_move 64 = .ok (.bipush 100, 2) := dk_16 100 (dk_at dksX5_move_2 18 rfl rfl)
theorem dX5_move_66 : decode cX5_move 66 = .ok (.iload_n 1, 1) := dk_27 (dk_at dksX5_move_2 20 rfl rfl)
theorem dX5_move_67 : decode cX5_move 67 = .ok (.imul, 1) := dk_104 (dk_at dksX5_move_2 21 rfl rfl)
theorem dX5_move_68 : decode cX5_move 68 = .ok (.iload 4, 2) := dk_21 4 (dk_at dksX5_move_2 22 rfl rfl)
theorem dX5_move_70 : decode cX5_move 70 = .ok (.iadd, 1) := dk_96 (dk_at dksX5_move_3 0 rfl rfl)
theorem dX5_move_71 : decode cX5_move 71 = .ok (.iload_n 3, 1) := dk_29 (dk_at dksX5_move_3 1 rfl rfl)
theorem dX5_move_72 : decode cX5_move 72 = .ok (.iastore, 1) := dk_79 (dk_at dksX5_move_3 2 rfl rfl)
theorem dX5_move_73 : decode cX5_move 73 = .ok (.iinc 4 1, 3) := dk_132 4 1 (dk_at dksX5_move_3 3 rfl rfl)
theorem dX5_move_76 : decode cX5_move 76 = .ok (.goto (-23), 3) := dk_167 255 233 (dk_at dksX5_move_3 6 rfl rfl)
theorem dX5_move_79 : decode cX5_move 79 = .ok (.aload_n 0, 1) := dk_42 (dk_at dksX5_move_3 9 rfl rfl)
theorem dX5_move_80 : decode cX5_move 80 = .ok (.invokevirtual 440, 3) := dk_182 1 184 (dk_at dksX5_move_3 10 rfl rfl)
theorem dX5_move_83 : decode cX5_move 83 = .ok (.ireturn, 1) := dk_172 (dk_at dksX5_move_3 13 rfl rfl)
abbrev cX5_planned : ByteArray := prog_15_method_69_code
def yX5_planned : MethodName := ⟨RX5, "planned", "(II)I"⟩
def dkwX5_planned_2 : List UInt8 := [96, 46, 3, 182, 0, 66, 167, 0, 8, 42, 5, 182, 0, 62, 172]
abbrev dktX5_planned_2 : List UInt8 := dkwX5_planned_2 ++ []
def dkwX5_planned_1 : List UInt8 := [180, 1, 124, 180, 1, 17, 4, 100, 184, 0, 135, 153, 0, 22, 42, 42, 180, 0, 24, 16, 100, 27, 104, 28]
abbrev dktX5_planned_1 : List UInt8 := dkwX5_planned_1 ++ dktX5_planned_2
def dkwX5_planned_0 : List UInt8 := [42, 3, 181, 0, 56, 42, 27, 182, 1, 167, 154, 0, 9, 42, 4, 182, 0, 62, 172, 28, 3, 42]
abbrev dktX5_planned_0 : List UInt8 := dkwX5_planned_0 ++ dktX5_planned_1
theorem dksX5_planned_0 : cX5_planned.data.toList.drop 0 = dktX5_planned_0 := by decide +kernel
theorem dksX5_planned_1 : cX5_planned.data.toList.drop 22 = dktX5_planned_1 := dk_seg dksX5_planned_0 22 rfl rfl
theorem dksX5_planned_2 : cX5_planned.data.toList.drop 46 = dktX5_planned_2 := dk_seg dksX5_planned_1 24 rfl rfl
theorem dX5_planned_0 : decode cX5_planned 0 = .ok (.aload_n 0, 1) := dk_42 (dk_at dksX5_planned_0 0 rfl rfl)
theorem dX5_planned_1 : decode cX5_planned 1 = .ok (.iconst 0, 1) := dk_3 (dk_at dksX5_planned_0 1 rfl rfl)
theorem dX5_planned_2 : decode cX5_planned 2 = .ok (.putfield 56, 3) := dk_181 0 56 (dk_at dksX5_planned_0 2 rfl rfl)
theorem dX5_planned_5 : decode cX5_planned 5 = .ok (.aload_n 0, 1) := dk_42 (dk_at dksX5_planned_0 5 rfl rfl)
theorem dX5_planned_6 : decode cX5_planned 6 = .ok (.iload_n 1, 1) := dk_27 (dk_at dksX5_planned_0 6 rfl rfl)
theorem dX5_planned_7 : decode cX5_planned 7 = .ok (.invokevirtual 423, 3) := dk_182 1 167 (dk_at dksX5_planned_0 7 rfl rfl)
theorem dX5_planned_10 : decode cX5_planned 10 = .ok (.ifCond .ne 9, 3) := dk_154 0 9 (dk_at dksX5_planned_0 10 rfl rfl)
theorem dX5_planned_13 : decode cX5_planned 13 = .ok (.aload_n 0, 1) := dk_42 (dk_at dksX5_planned_0 13 rfl rfl)
theorem dX5_planned_14 : decode cX5_planned 14 = .ok (.iconst 1, 1) := dk_4 (dk_at dksX5_planned_0 14 rfl rfl)
theorem dX5_planned_15 : decode cX5_planned 15 = .ok (.invokevirtual 62, 3) := dk_182 0 62 (dk_at dksX5_planned_0 15 rfl rfl)
theorem dX5_planned_18 : decode cX5_planned 18 = .ok (.ireturn, 1) := dk_172 (dk_at dksX5_planned_0 18 rfl rfl)
theorem dX5_planned_19 : decode cX5_planned 19 = .ok (.iload_n 2, 1) := dk_28 (dk_at dksX5_planned_0 19 rfl rfl)
theorem dX5_planned_20 : decode cX5_planned 20 = .ok (.iconst 0, 1) := dk_3 (dk_at dksX5_planned_0 20 rfl rfl)
theorem dX5_planned_21 : decode cX5_planned 21 = .ok (.aload_n 0, 1) := dk_42 (dk_at dksX5_planned_0 21 rfl rfl)
theorem dX5_planned_22 : decode cX5_planned 22 = .ok (.getfield 380, 3) := dk_180 1 124 (dk_at dksX5_planned_1 0 rfl rfl)
theorem dX5_planned_25 : decode cX5_planned 25 = .ok (.getfield 273, 3) := dk_180 1 17 (dk_at dksX5_planned_1 3 rfl rfl)
theorem dX5_planned_28 : decode cX5_planned 28 = .ok (.iconst 1, 1) := dk_4 (dk_at dksX5_planned_1 6 rfl rfl)
theorem dX5_planned_29 : decode cX5_planned 29 = .ok (.isub, 1) := dk_100 (dk_at dksX5_planned_1 7 rfl rfl)
theorem dX5_planned_30 : decode cX5_planned 30 = .ok (.invokestatic 135, 3) := dk_184 0 135 (dk_at dksX5_planned_1 8 rfl rfl)
theorem dX5_planned_33 : decode cX5_planned 33 = .ok (.ifCond .eq 22, 3) := dk_153 0 22 (dk_at dksX5_planned_1 11 rfl rfl)
theorem dX5_planned_36 : decode cX5_planned 36 = .ok (.aload_n 0, 1) := dk_42 (dk_at dksX5_planned_1 14 rfl rfl)
theorem dX5_planned_37 : decode cX5_planned 37 = .ok (.aload_n 0, 1) := dk_42 (dk_at dksX5_planned_1 15 rfl rfl)
theorem dX5_planned_38 : decode cX5_planned 38 = .ok (.getfield 24, 3) := dk_180 0 24 (dk_at dksX5_planned_1 16 rfl rfl)
theorem dX5_planned_41 : decode cX5_planned 41 = .ok (.bipush 100, 2) := dk_16 100 (dk_at dksX5_planned_1 19 rfl rfl)
theorem dX5_planned_43 : decode cX5_planned 43 = .ok (.iload_n 1, 1) := dk_27 (dk_at dksX5_planned_1 21 rfl rfl)
theorem dX5_planned_44 : decode cX5_planned 44 = .ok (.imul, 1) := dk_104 (dk_at dksX5_planned_1 22 rfl rfl)
theorem dX5_planned_45 : decode cX5_planned 45 = .ok (.iload_n 2, 1) := dk_28 (dk_at dksX5_planned_1 23 rfl rfl)
theorem dX5_planned_46 : decode cX5_planned 46 = .ok (.iadd, 1) := dk_96 (dk_at dksX5_planned_2 0 rfl rfl)
theorem dX5_planned_47 : decode cX5_planned 47 = .ok (.iaload, 1) := dk_46 (dk_at dksX5_planned_2 1 rfl rfl)
theorem dX5_planned_48 : decode cX5_planned 48 = .ok (.iconst 0, 1) := dk_3 (dk_at dksX5_planned_2 2 rfl rfl)
theorem dX5_planned_49 : decode cX5_planned 49 = .ok (.invokevirtual 66, 3) := dk_182 0 66 (dk_at dksX5_planned_2 3 rfl rfl)
theorem dX5_planned_52 : decode cX5_planned 52 = .ok (.goto 8, 3) := dk_167 0 8 (dk_at dksX5_planned_2 6 rfl rfl)
theorem dX5_planned_55 : decode cX5_planned 55 = .ok (.aload_n 0, 1) := dk_42 (dk_at dksX5_planned_2 9 rfl rfl)
theorem dX5_planned_56 : decode cX5_planned 56 = .ok (.iconst 2, 1) := dk_5 (dk_at dksX5_planned_2 10 rfl rfl)
theorem dX5_planned_57 : decode cX5_planned 57 = .ok (.invokevirtual 62, 3) := dk_182 0 62 (dk_at dksX5_planned_2 11 rfl rfl)
theorem dX5_planned_60 : decode cX5_planned 60 = .ok (.ireturn, 1) := dk_172 (dk_at dksX5_planned_2 14 rfl rfl)
abbrev cX5_judge : ByteArray := prog_15_method_72_code
def yX5_judge : MethodName := ⟨RX5, "judge", "()I"⟩
def dkwX5_judge_1 : List UInt8 := [182, 1, 202, 3, 182, 0, 66, 172]
abbrev dktX5_judge_1 : List UInt8 := dkwX5_judge_1 ++ []
def dkwX5_judge_0 : List UInt8 := [42, 3, 181, 0, 56, 42, 180, 1, 124, 199, 0, 11, 42, 4, 182, 0, 62, 167, 0, 12, 42, 42]
abbrev dktX5_judge_0 : List UInt8 := dkwX5_judge_0 ++ dktX5_judge_1
theorem dksX5_judge_0 : cX5_judge.data.toList.drop 0 = dktX5_judge_0 := by decide +kernel
theorem dksX5_judge_1 : cX5_judge.data.toList.drop 22 = dktX5_judge_1 := dk_seg dksX5_judge_0 22 rfl rfl
theorem dX5_judge_0 : decode cX5_judge 0 = .ok (.aload_n 0, 1) := dk_42 (dk_at dksX5_judge_0 0 rfl rfl)
theorem dX5_judge_1 : decode cX5_judge 1 = .ok (.iconst 0, 1) := dk_3 (dk_at dksX5_judge_0 1 rfl rfl)
theorem dX5_judge_2 : decode cX5_judge 2 = .ok (.putfield 56, 3) := dk_181 0 56 (dk_at dksX5_judge_0 2 rfl rfl)
theorem dX5_judge_5 : decode cX5_judge 5 = .ok (.aload_n 0, 1) := dk_42 (dk_at dksX5_judge_0 5 rfl rfl)
theorem dX5_judge_6 : decode cX5_judge 6 = .ok (.getfield 380, 3) := dk_180 1 124 (dk_at dksX5_judge_0 6 rfl rfl)
theorem dX5_judge_9 : decode cX5_judge 9 = .ok (.ifnonnull 11, 3) := dk_199 0 11 (dk_at dksX5_judge_0 9 rfl rfl)
theorem dX5_judge_12 : decode cX5_judge 12 = .ok (.aload_n 0, 1) := dk_42 (dk_at dksX5_judge_0 12 rfl rfl)
theorem dX5_judge_13 : decode cX5_judge 13 = .ok (.iconst 1, 1) := dk_4 (dk_at dksX5_judge_0 13 rfl rfl)
theorem dX5_judge_14 : decode cX5_judge 14 = .ok (.invokevirtual 62, 3) := dk_182 0 62 (dk_at dksX5_judge_0 14 rfl rfl)
theorem dX5_judge_17 : decode cX5_judge 17 = .ok (.goto 12, 3) := dk_167 0 12 (dk_at dksX5_judge_0 17 rfl rfl)
theorem dX5_judge_20 : decode cX5_judge 20 = .ok (.aload_n 0, 1) := dk_42 (dk_at dksX5_judge_0 20 rfl rfl)
theorem dX5_judge_21 : decode cX5_judge 21 = .ok (.aload_n 0, 1) := dk_42 (dk_at dksX5_judge_0 21 rfl rfl)
theorem dX5_judge_22 : decode cX5_judge 22 = .ok (.invokevirtual 458, 3) := dk_182 1 202 (dk_at dksX5_judge_1 0 rfl rfl)
theorem dX5_judge_25 : decode cX5_judge 25 = .ok (.iconst 0, 1) := dk_3 (dk_at dksX5_judge_1 3 rfl rfl)
theorem dX5_judge_26 : decode cX5_judge 26 = .ok (.invokevirtual 66, 3) := dk_182 0 66 (dk_at dksX5_judge_1 4 rfl rfl)
theorem dX5_judge_29 : decode cX5_judge 29 = .ok (.ireturn, 1) := dk_172 (dk_at dksX5_judge_1 7 rfl rfl)
abbrev cX5_judged : ByteArray := prog_15_method_71_code
def yX5_judged : MethodName := ⟨RX5, "judged", "()I"⟩
def dkwX5_judged_9 : List UInt8 := [167, 255, 218, 16, 254, 172]
abbrev dktX5_judged_9 : List UInt8 := dkwX5_judged_9 ++ []
def dkwX5_judged_8 : List UInt8 := [153, 0, 6, 167, 0, 16, 42, 6, 181, 1, 196, 42, 180, 1, 124, 180, 1, 17, 172, 132, 1, 1]
abbrev dktX5_judged_8 : List UInt8 := dkwX5_judged_8 ++ dktX5_judged_9
def dkwX5_judged_7 : List UInt8 := [132, 1, 1, 167, 255, 92, 3, 60, 27, 42, 180, 1, 124, 180, 1, 88, 162, 0, 33, 42, 27, 182, 1, 199]
abbrev dktX5_judged_7 : List UInt8 := dkwX5_judged_7 ++ dktX5_judged_8
def dkwX5_judged_6 : List UInt8 := [182, 1, 177, 153, 0, 7, 3, 167, 0, 4, 5, 181, 1, 196, 42, 180, 1, 196, 158, 0, 5, 27, 172]
abbrev dktX5_judged_6 : List UInt8 := dkwX5_judged_6 ++ dktX5_judged_7
def dkwX5_judged_5 : List UInt8 := [3, 61, 132, 3, 1, 167, 255, 152, 42, 28, 153, 0, 7, 4, 167, 0, 21, 42, 42, 180, 0, 21, 27, 3]
abbrev dktX5_judged_5 : List UInt8 := dkwX5_judged_5 ++ dktX5_judged_6
def dkwX5_judged_4 : List UInt8 := [180, 1, 124, 21, 4, 182, 1, 193, 42, 180, 0, 21, 29, 46, 184, 1, 142, 154, 0, 7, 4, 167, 0, 4]
abbrev dktX5_judged_4 : List UInt8 := dkwX5_judged_4 ++ dktX5_judged_5
def dkwX5_judged_3 : List UInt8 := [96, 4, 100, 46, 54, 4, 28, 154, 0, 35, 21, 4, 42, 180, 0, 21, 29, 46, 159, 0, 28, 42]
abbrev dktX5_judged_3 : List UInt8 := dkwX5_judged_3 ++ dktX5_judged_4
def dkwX5_judged_2 : List UInt8 := [154, 0, 15, 42, 180, 1, 124, 180, 1, 67, 29, 46, 167, 0, 16, 42, 180, 0, 24, 16, 100, 29, 104, 27]
abbrev dktX5_judged_2 : List UInt8 := dkwX5_judged_2 ++ dktX5_judged_3
def dkwX5_judged_1 : List UInt8 := [180, 0, 221, 162, 0, 99, 42, 180, 0, 21, 29, 42, 180, 0, 24, 16, 100, 29, 104, 27, 96, 46, 79, 27]
abbrev dktX5_judged_1 : List UInt8 := dkwX5_judged_1 ++ dktX5_judged_2
def dkwX5_judged_0 : List UInt8 := [3, 60, 27, 42, 180, 1, 124, 180, 1, 17, 162, 0, 159, 3, 61, 3, 62, 29, 42, 180, 1, 124]
abbrev dktX5_judged_0 : List UInt8 := dkwX5_judged_0 ++ dktX5_judged_1
theorem dksX5_judged_0 : cX5_judged.data.toList.drop 0 = dktX5_judged_0 := by decide +kernel
theorem dksX5_judged_1 : cX5_judged.data.toList.drop 22 = dktX5_judged_1 := dk_seg dksX5_judged_0 22 rfl rfl
theorem dksX5_judged_2 : cX5_judged.data.toList.drop 46 = dktX5_judged_2 := dk_seg dksX5_judged_1 24 rfl rfl
theorem dksX5_judged_3 : cX5_judged.data.toList.drop 70 = dktX5_judged_3 := dk_seg dksX5_judged_2 24 rfl rfl
theorem dksX5_judged_4 : cX5_judged.data.toList.drop 92 = dktX5_judged_4 := dk_seg dksX5_judged_3 22 rfl rfl
theorem dksX5_judged_5 : cX5_judged.data.toList.drop 116 = dktX5_judged_5 := dk_seg dksX5_judged_4 24 rfl rfl
theorem dksX5_judged_6 : cX5_judged.data.toList.drop 140 = dktX5_judged_6 := dk_seg dksX5_judged_5 24 rfl rfl
theorem dksX5_judged_7 : cX5_judged.data.toList.drop 163 = dktX5_judged_7 := dk_seg dksX5_judged_6 23 rfl rfl
theorem dksX5_judged_8 : cX5_judged.data.toList.drop 187 = dktX5_judged_8 := dk_seg dksX5_judged_7 24 rfl rfl
theorem dksX5_judged_9 : cX5_judged.data.toList.drop 209 = dktX5_judged_9 := dk_seg dksX5_judged_8 22 rfl rfl
theorem dX5_judged_0 : decode cX5_judged 0 = .ok (.iconst 0, 1) := dk_3 (dk_at dksX5_judged_0 0 rfl rfl)
theorem dX5_judged_1 : decode cX5_judged 1 = .ok (.istore_n 1, 1) := dk_60 (dk_at dksX5_judged_0 1 rfl rfl)
theorem dX5_judged_2 : decode cX5_judged 2 = .ok (.iload_n 1, 1) := dk_27 (dk_at dksX5_judged_0 2 rfl rfl)
theorem dX5_judged_3 : decode cX5_judged 3 = .ok (.aload_n 0, 1) := dk_42 (dk_at dksX5_judged_0 3 rfl rfl)
theorem dX5_judged_4 : decode cX5_judged 4 = .ok (.getfield 380, 3) := dk_180 1 124 (dk_at dksX5_judged_0 4 rfl rfl)
theorem dX5_judged_7 : decode cX5_judged 7 = .ok (.getfield 273, 3) := dk_180 1 17 (dk_at dksX5_judged_0 7 rfl rfl)
theorem dX5_judged_10 : decode cX5_judged 10 = .ok (.if_icmp .ge 159, 3) := dk_162 0 159 (dk_at dksX5_judged_0 10 rfl rfl)
theorem dX5_judged_13 : decode cX5_judged 13 = .ok (.iconst 0, 1) := dk_3 (dk_at dksX5_judged_0 13 rfl rfl)
theorem dX5_judged_14 : decode cX5_judged 14 = .ok (.istore_n 2, 1) := dk_61 (dk_at dksX5_judged_0 14 rfl rfl)
theorem dX5_judged_15 : decode cX5_judged 15 = .ok (.iconst 0, 1) := dk_3 (dk_at dksX5_judged_0 15 rfl rfl)
theorem dX5_judged_16 : decode cX5_judged 16 = .ok (.istore_n 3, 1) := dk_62 (dk_at dksX5_judged_0 16 rfl rfl)
theorem dX5_judged_17 : decode cX5_judged 17 = .ok (.iload_n 3, 1) := dk_29 (dk_at dksX5_judged_0 17 rfl rfl)
theorem dX5_judged_18 : decode cX5_judged 18 = .ok (.aload_n 0, 1) := dk_42 (dk_at dksX5_judged_0 18 rfl rfl)
theorem dX5_judged_19 : decode cX5_judged 19 = .ok (.getfield 380, 3) := dk_180 1 124 (dk_at dksX5_judged_0 19 rfl rfl)
theorem dX5_judged_22 : decode cX5_judged 22 = .ok (.getfield 221, 3) := dk_180 0 221 (dk_at dksX5_judged_1 0 rfl rfl)
theorem dX5_judged_25 : decode cX5_judged 25 = .ok (.if_icmp .ge 99, 3) := dk_162 0 99 (dk_at dksX5_judged_1 3 rfl rfl)
theorem dX5_judged_28 : decode cX5_judged 28 = .ok (.aload_n 0, 1) := dk_42 (dk_at dksX5_judged_1 6 rfl rfl)
theorem dX5_judged_29 : decode cX5_judged 29 = .ok (.getfield 21, 3) := dk_180 0 21 (dk_at dksX5_judged_1 7 rfl rfl)
theorem dX5_judged_32 : decode cX5_judged 32 = .ok (.iload_n 3, 1) := dk_29 (dk_at dksX5_judged_1 10 rfl rfl)
theorem dX5_judged_33 : decode cX5_judged 33 = .ok (.aload_n 0, 1) := dk_42 (dk_at dksX5_judged_1 11 rfl rfl)
theorem dX5_judged_34 : decode cX5_judged 34 = .ok (.getfield 24, 3) := dk_180 0 24 (dk_at dksX5_judged_1 12 rfl rfl)
theorem dX5_judged_37 : decode cX5_judged 37 = .ok (.bipush 100, 2) := dk_16 100 (dk_at dksX5_judged_1 15 rfl rfl)
theorem dX5_judged_39 : decode cX5_judged 39 = .ok (.iload_n 3, 1) := dk_29 (dk_at dksX5_judged_1 17 rfl rfl)
theorem dX5_judged_40 : decode cX5_judged 40 = .ok (.imul, 1) := dk_104 (dk_at dksX5_judged_1 18 rfl rfl)
theorem dX5_judged_41 : decode cX5_judged 41 = .ok (.iload_n 1, 1) := dk_27 (dk_at dksX5_judged_1 19 rfl rfl)
theorem dX5_judged_42 : decode cX5_judged 42 = .ok (.iadd, 1) := dk_96 (dk_at dksX5_judged_1 20 rfl rfl)
theorem dX5_judged_43 : decode cX5_judged 43 = .ok (.iaload, 1) := dk_46 (dk_at dksX5_judged_1 21 rfl rfl)
theorem dX5_judged_44 : decode cX5_judged 44 = .ok (.iastore, 1) := dk_79 (dk_at dksX5_judged_1 22 rfl rfl)
theorem dX5_judged_45 : decode cX5_judged 45 = .ok (.iload_n 1, 1) := dk_27 (dk_at dksX5_judged_1 23 rfl rfl)
theorem dX5_judged_46 : decode cX5_judged 46 = .ok (.ifCond .ne 15, 3) := dk_154 0 15 (dk_at dksX5_judged_2 0 rfl rfl)
theorem dX5_judged_49 : decode cX5_judged 49 = .ok (.aload_n 0, 1) := dk_42 (dk_at dksX5_judged_2 3 rfl rfl)
theorem dX5_judged_50 : decode cX5_judged 50 = .ok (.getfield 380, 3) := dk_180 1 124 (dk_at dksX5_judged_2 4 rfl rfl)
theorem dX5_judged_53 : decode cX5_judged 53 = .ok (.getfield 323, 3) := dk_180 1 67 (dk_at dksX5_judged_2 7 rfl rfl)
theorem dX5_judged_56 : decode cX5_judged 56 = .ok (.iload_n 3, 1) := dk_29 (dk_at dksX5_judged_2 10 rfl rfl)
theorem dX5_judged_57 : decode cX5_judged 57 = .ok (.iaload, 1) := dk_46 (dk_at dksX5_judged_2 11 rfl rfl)
theorem dX5_judged_58 : decode cX5_judged 58 = .ok (.goto 16, 3) := dk_167 0 16 (dk_at dksX5_judged_2 12 rfl rfl)
theorem dX5_judged_61 : decode cX5_judged 61 = .ok (.aload_n 0, 1) := dk_42 (dk_at dksX5_judged_2 15 rfl rfl)
theorem dX5_judged_62 : decode cX5_judged 62 = .ok (.getfield 24, 3) := dk_180 0 24 (dk_at dksX5_judged_2 16 rfl rfl)
theorem dX5_judged_65 : decode cX5_judged 65 = .ok (.bipush 100, 2) := dk_16 100 (dk_at dksX5_judged_2 19 rfl rfl)
theorem dX5_judged_67 : decode cX5_judged 67 = .ok (.iload_n 3, 1) := dk_29 (dk_at dksX5_judged_2 21 rfl rfl)
theorem dX5_judged_68 : decode cX5_judged 68 = .ok (.imul, 1) := dk_104 (dk_at dksX5_judged_2 22 rfl rfl)
theorem dX5_judged_69 : decode cX5_judged 69 = .ok (.iload_n 1, 1) := dk_27 (dk_at dksX5_judged_2 23 rfl rfl)
theorem dX5_judged_70 : decode cX5_judged 70 = .ok (.iadd, 1) := dk_96 (dk_at dksX5_judged_3 0 rfl rfl)
theorem dX5_judged_71 : decode cX5_judged 71 = .ok (.iconst 1, 1) := dk_4 (dk_at dksX5_judged_3 1 rfl rfl)
theorem dX5_judged_72 : decode cX5_judged 72 = .ok (.isub, 1) := dk_100 (dk_at dksX5_judged_3 2 rfl rfl)
theorem dX5_judged_73 : decode cX5_judged 73 = .ok (.iaload, 1) := dk_46 (dk_at dksX5_judged_3 3 rfl rfl)
theorem dX5_judged_74 : decode cX5_judged 74 = .ok (.istore 4, 2) := dk_54 4 (dk_at dksX5_judged_3 4 rfl rfl)
theorem dX5_judged_76 : decode cX5_judged 76 = .ok (.iload_n 2, 1) := dk_28 (dk_at dksX5_judged_3 6 rfl rfl)
theorem dX5_judged_77 : decode cX5_judged 77 = .ok (.ifCond .ne 35, 3) := dk_154 0 35 (dk_at dksX5_judged_3 7 rfl rfl)
theorem dX5_judged_80 : decode cX5_judged 80 = .ok (.iload 4, 2) := dk_21 4 (dk_at dksX5_judged_3 10 rfl rfl)
theorem dX5_judged_82 : decode cX5_judged 82 = .ok (.aload_n 0, 1) := dk_42 (dk_at dksX5_judged_3 12 rfl rfl)
theorem dX5_judged_83 : decode cX5_judged 83 = .ok (.getfield 21, 3) := dk_180 0 21 (dk_at dksX5_judged_3 13 rfl rfl)
theorem dX5_judged_86 : decode cX5_judged 86 = .ok (.iload_n 3, 1) := dk_29 (dk_at dksX5_judged_3 16 rfl rfl)
theorem dX5_judged_87 : decode cX5_judged 87 = .ok (.iaload, 1) := dk_46 (dk_at dksX5_judged_3 17 rfl rfl)
theorem dX5_judged_88 : decode cX5_judged 88 = .ok (.if_icmp .eq 28, 3) := dk_159 0 28 (dk_at dksX5_judged_3 18 rfl rfl)
theorem dX5_judged_91 : decode cX5_judged 91 = .ok (.aload_n 0, 1) := dk_42 (dk_at dksX5_judged_3 21 rfl rfl)
theorem dX5_judged_92 : decode cX5_judged 92 = .ok (.getfield 380, 3) := dk_180 1 124 (dk_at dksX5_judged_4 0 rfl rfl)
theorem dX5_judged_95 : decode cX5_judged 95 = .ok (.iload 4, 2) := dk_21 4 (dk_at dksX5_judged_4 3 rfl rfl)
theorem dX5_judged_97 : decode cX5_judged 97 = .ok (.invokevirtual 449, 3) := dk_182 1 193 (dk_at dksX5_judged_4 5 rfl rfl)
theorem dX5_judged_100 : decode cX5_judged 100 = .ok (.aload_n 0, 1) := dk_42 (dk_at dksX5_judged_4 8 rfl rfl)
theorem dX5_judged_101 : decode cX5_judged 101 = .ok (.getfield 21, 3) := dk_180 0 21 (dk_at dksX5_judged_4 9 rfl rfl)
theorem dX5_judged_104 : decode cX5_judged 104 = .ok (.iload_n 3, 1) := dk_29 (dk_at dksX5_judged_4 12 rfl rfl)
theorem dX5_judged_105 : decode cX5_judged 105 = .ok (.iaload, 1) := dk_46 (dk_at dksX5_judged_4 13 rfl rfl)
theorem dX5_judged_106 : decode cX5_judged 106 = .ok (.invokestatic 398, 3) := dk_184 1 142 (dk_at dksX5_judged_4 14 rfl rfl)
theorem dX5_judged_109 : decode cX5_judged 109 = .ok (.ifCond .ne 7, 3) := dk_154 0 7 (dk_at dksX5_judged_4 17 rfl rfl)
theorem dX5_judged_112 : decode cX5_judged 112 = .ok (.iconst 1, 1) := dk_4 (dk_at dksX5_judged_4 20 rfl rfl)
theorem dX5_judged_113 : decode cX5_judged 113 = .ok (.goto 4, 3) := dk_167 0 4 (dk_at dksX5_judged_4 21 rfl rfl)
theorem dX5_judged_116 : decode cX5_judged 116 = .ok (.iconst 0, 1) := dk_3 (dk_at dksX5_judged_5 0 rfl rfl)
theorem dX5_judged_117 : decode cX5_judged 117 = .ok (.istore_n 2, 1) := dk_61 (dk_at dksX5_judged_5 1 rfl rfl)
theorem dX5_judged_118 : decode cX5_judged 118 = .ok (.iinc 3 1, 3) := dk_132 3 1 (dk_at dksX5_judged_5 2 rfl rfl)
theorem dX5_judged_121 : decode cX5_judged 121 = .ok (.goto (-104), 3) := dk_167 255 152 (dk_at dksX5_judged_5 5 rfl rfl)
theorem dX5_judged_124 : decode cX5_judged 124 = .ok (.aload_n 0, 1) := dk_42 (dk_at dksX5_judged_5 8 rfl rfl)
theorem dX5_judged_125 : decode cX5_judged 125 = .ok (.iload_n 2, 1) := dk_28 (dk_at dksX5_judged_5 9 rfl rfl)
theorem dX5_judged_126 : decode cX5_judged 126 = .ok (.ifCond .eq 7, 3) := dk_153 0 7 (dk_at dksX5_judged_5 10 rfl rfl)
theorem dX5_judged_129 : decode cX5_judged 129 = .ok (.iconst 1, 1) := dk_4 (dk_at dksX5_judged_5 13 rfl rfl)
theorem dX5_judged_130 : decode cX5_judged 130 = .ok (.goto 21, 3) := dk_167 0 21 (dk_at dksX5_judged_5 14 rfl rfl)
theorem dX5_judged_133 : decode cX5_judged 133 = .ok (.aload_n 0, 1) := dk_42 (dk_at dksX5_judged_5 17 rfl rfl)
theorem dX5_judged_134 : decode cX5_judged 134 = .ok (.aload_n 0, 1) := dk_42 (dk_at dksX5_judged_5 18 rfl rfl)
theorem dX5_judged_135 : decode cX5_judged 135 = .ok (.getfield 21, 3) := dk_180 0 21 (dk_at dksX5_judged_5 19 rfl rfl)
theorem dX5_judged_138 : decode cX5_judged 138 = .ok (.iload_n 1, 1) := dk_27 (dk_at dksX5_judged_5 22 rfl rfl)
theorem dX5_judged_139 : decode cX5_judged 139 = .ok (.iconst 0, 1) := dk_3 (dk_at dksX5_judged_5 23 rfl rfl)
theorem dX5_judged_140 : decode cX5_judged 140 = .ok (.invokevirtual 433, 3) := dk_182 1 177 (dk_at dksX5_judged_6 0 rfl rfl)
theorem dX5_judged_143 : decode cX5_judged 143 = .ok (.ifCond .eq 7, 3) := dk_153 0 7 (dk_at dksX5_judged_6 3 rfl rfl)
theorem dX5_judged_146 : decode cX5_judged 146 = .ok (.iconst 0, 1) := dk_3 (dk_at dksX5_judged_6 6 rfl rfl)
theorem dX5_judged_147 : decode cX5_judged 147 = .ok (.goto 4, 3) := dk_167 0 4 (dk_at dksX5_judged_6 7 rfl rfl)
theorem dX5_judged_150 : decode cX5_judged 150 = .ok (.iconst 2, 1) := dk_5 (dk_at dksX5_judged_6 10 rfl rfl)
theorem dX5_judged_151 : decode cX5_judged 151 = .ok (.putfield 452, 3) := dk_181 1 196 (dk_at dksX5_judged_6 11 rfl rfl)
theorem dX5_judged_154 : decode cX5_judged 154 = .ok (.aload_n 0, 1) := dk_42 (dk_at dksX5_judged_6 14 rfl rfl)
theorem dX5_judged_155 : decode cX5_judged 155 = .ok (.getfield 452, 3) := dk_180 1 196 (dk_at dksX5_judged_6 15 rfl rfl)
theorem dX5_judged_158 : decode cX5_judged 158 = .ok (.ifCond .le 5, 3) := dk_158 0 5 (dk_at dksX5_judged_6 18 rfl rfl)
theorem dX5_judged_161 : decode cX5_judged 161 = .ok (.iload_n 1, 1) := dk_27 (dk_at dksX5_judged_6 21 rfl rfl)
theorem dX5_judged_162 : decode cX5_judged 162 = .ok (.ireturn, 1) := dk_172 (dk_at dksX5_judged_6 22 rfl rfl)
theorem dX5_judged_163 : decode cX5_judged 163 = .ok (.iinc 1 1, 3) := dk_132 1 1 (dk_at dksX5_judged_7 0 rfl rfl)
theorem dX5_judged_166 : decode cX5_judged 166 = .ok (.goto (-164), 3) := dk_167 255 92 (dk_at dksX5_judged_7 3 rfl rfl)
theorem dX5_judged_169 : decode cX5_judged 169 = .ok (.iconst 0, 1) := dk_3 (dk_at dksX5_judged_7 6 rfl rfl)
theorem dX5_judged_170 : decode cX5_judged 170 = .ok (.istore_n 1, 1) := dk_60 (dk_at dksX5_judged_7 7 rfl rfl)
theorem dX5_judged_171 : decode cX5_judged 171 = .ok (.iload_n 1, 1) := dk_27 (dk_at dksX5_judged_7 8 rfl rfl)
theorem dX5_judged_172 : decode cX5_judged 172 = .ok (.aload_n 0, 1) := dk_42 (dk_at dksX5_judged_7 9 rfl rfl)
theorem dX5_judged_173 : decode cX5_judged 173 = .ok (.getfield 380, 3) := dk_180 1 124 (dk_at dksX5_judged_7 10 rfl rfl)
theorem dX5_judged_176 : decode cX5_judged 176 = .ok (.getfield 344, 3) := dk_180 1 88 (dk_at dksX5_judged_7 13 rfl rfl)
theorem dX5_judged_179 : decode cX5_judged 179 = .ok (.if_icmp .ge 33, 3) := dk_162 0 33 (dk_at dksX5_judged_7 16 rfl rfl)
theorem dX5_judged_182 : decode cX5_judged 182 = .ok (.aload_n 0, 1) := dk_42 (dk_at dksX5_judged_7 19 rfl rfl)
theorem dX5_judged_183 : decode cX5_judged 183 = .ok (.iload_n 1, 1) := dk_27 (dk_at dksX5_judged_7 20 rfl rfl)
theorem dX5_judged_184 : decode cX5_judged 184 = .ok (.invokevirtual 455, 3) := dk_182 1 199 (dk_at dksX5_judged_7 21 rfl rfl)
theorem dX5_judged_187 : decode cX5_judged 187 = .ok (.ifCond .eq 6, 3) := dk_153 0 6 (dk_at dksX5_judged_8 0 rfl rfl)
theorem dX5_judged_190 : decode cX5_judged 190 = .ok (.goto 16, 3) := dk_167 0 16 (dk_at dksX5_judged_8 3 rfl rfl)
theorem dX5_judged_193 : decode cX5_judged 193 = .ok (.aload_n 0, 1) := dk_42 (dk_at dksX5_judged_8 6 rfl rfl)
theorem dX5_judged_194 : decode cX5_judged 194 = .ok (.iconst 3, 1) := dk_6 (dk_at dksX5_judged_8 7 rfl rfl)
theorem dX5_judged_195 : decode cX5_judged 195 = .ok (.putfield 452, 3) := dk_181 1 196 (dk_at dksX5_judged_8 8 rfl rfl)
theorem dX5_judged_198 : decode cX5_judged 198 = .ok (.aload_n 0, 1) := dk_42 (dk_at dksX5_judged_8 11 rfl rfl)
theorem dX5_judged_199 : decode cX5_judged 199 = .ok (.getfield 380, 3) := dk_180 1 124 (dk_at dksX5_judged_8 12 rfl rfl)
theorem dX5_judged_202 : decode cX5_judged 202 = .ok (.getfield 273, 3) := dk_180 1 17 (dk_at dksX5_judged_8 15 rfl rfl)
theorem dX5_judged_205 : decode cX5_judged 205 = .ok (.ireturn, 1) := dk_172 (dk_at dksX5_judged_8 18 rfl rfl)
theorem dX5_judged_206 : decode cX5_judged 206 = .ok (.iinc 1 1, 3) := dk_132 1 1 (dk_at dksX5_judged_8 19 rfl rfl)
theorem dX5_judged_209 : decode cX5_judged 209 = .ok (.goto (-38), 3) := dk_167 255 218 (dk_at dksX5_judged_9 0 rfl rfl)
theorem dX5_judged_212 : decode cX5_judged 212 = .ok (.bipush (-2), 2) := dk_16 254 (dk_at dksX5_judged_9 3 rfl rfl)
theorem dX5_judged_214 : decode cX5_judged 214 = .ok (.ireturn, 1) := dk_172 (dk_at dksX5_judged_9 5 rfl rfl)
abbrev cX5_isPlanDone : ByteArray := prog_15_method_70_code
def yX5_isPlanDone : MethodName := ⟨RX5, "isPlanDone", "(I)Z"⟩
def dkwX5_isPlanDone_4 : List UInt8 := [167, 255, 175, 3, 172]
abbrev dktX5_isPlanDone_4 : List UInt8 := dkwX5_isPlanDone_4 ++ []
def dkwX5_isPlanDone_3 : List UInt8 := [167, 0, 4, 3, 61, 28, 42, 180, 1, 124, 180, 1, 105, 27, 46, 160, 0, 5, 4, 172, 132, 3, 1]
abbrev dktX5_isPlanDone_3 : List UInt8 := dkwX5_isPlanDone_3 ++ dktX5_isPlanDone_4
def dkwX5_isPlanDone_2 : List UInt8 := [180, 1, 93, 27, 46, 104, 29, 96, 46, 42, 180, 1, 124, 180, 1, 96, 27, 46, 160, 0, 9, 28, 4, 96]
abbrev dktX5_isPlanDone_2 : List UInt8 := dkwX5_isPlanDone_2 ++ dktX5_isPlanDone_3
def dkwX5_isPlanDone_1 : List UInt8 := [162, 0, 74, 29, 42, 180, 1, 124, 180, 1, 17, 162, 0, 63, 42, 180, 0, 24, 16, 100, 42, 180, 1, 124]
abbrev dktX5_isPlanDone_1 : List UInt8 := dkwX5_isPlanDone_1 ++ dktX5_isPlanDone_2
def dkwX5_isPlanDone_0 : List UInt8 := [3, 61, 42, 180, 1, 124, 180, 1, 99, 27, 46, 62, 29, 42, 180, 1, 124, 180, 1, 102, 27, 46]
abbrev dktX5_isPlanDone_0 : List UInt8 := dkwX5_isPlanDone_0 ++ dktX5_isPlanDone_1
theorem dksX5_isPlanDone_0 : cX5_isPlanDone.data.toList.drop 0 = dktX5_isPlanDone_0 := by decide +kernel
theorem dksX5_isPlanDone_1 : cX5_isPlanDone.data.toList.drop 22 = dktX5_isPlanDone_1 := dk_seg dksX5_isPlanDone_0 22 rfl rfl
theorem dksX5_isPlanDone_2 : cX5_isPlanDone.data.toList.drop 46 = dktX5_isPlanDone_2 := dk_seg dksX5_isPlanDone_1 24 rfl rfl
theorem dksX5_isPlanDone_3 : cX5_isPlanDone.data.toList.drop 70 = dktX5_isPlanDone_3 := dk_seg dksX5_isPlanDone_2 24 rfl rfl
theorem dksX5_isPlanDone_4 : cX5_isPlanDone.data.toList.drop 93 = dktX5_isPlanDone_4 := dk_seg dksX5_isPlanDone_3 23 rfl rfl
theorem dX5_isPlanDone_0 : decode cX5_isPlanDone 0 = .ok (.iconst 0, 1) := dk_3 (dk_at dksX5_isPlanDone_0 0 rfl rfl)
theorem dX5_isPlanDone_1 : decode cX5_isPlanDone 1 = .ok (.istore_n 2, 1) := dk_61 (dk_at dksX5_isPlanDone_0 1 rfl rfl)
theorem dX5_isPlanDone_2 : decode cX5_isPlanDone 2 = .ok (.aload_n 0, 1) := dk_42 (dk_at dksX5_isPlanDone_0 2 rfl rfl)
theorem dX5_isPlanDone_3 : decode cX5_isPlanDone 3 = .ok (.getfield 380, 3) := dk_180 1 124 (dk_at dksX5_isPlanDone_0 3 rfl rfl)
theorem dX5_isPlanDone_6 : decode cX5_isPlanDone 6 = .ok (.getfield 355, 3) := dk_180 1 99 (dk_at dksX5_isPlanDone_0 6 rfl rfl)
theorem dX5_isPlanDone_9 : decode cX5_isPlanDone 9 = .ok (.iload_n 1, 1) := dk_27 (dk_at dksX5_isPlanDone_0 9 rfl rfl)
theorem dX5_isPlanDone_10 : decode cX5_isPlanDone 10 = .ok (.iaload, 1) := dk_46 (dk_at dksX5_isPlanDone_0 10 rfl rfl)
theorem dX5_isPlanDone_11 : decode cX5_isPlanDone 11 = .ok (.istore_n 3, 1) := dk_62 (dk_at dksX5_isPlanDone_0 11 rfl rfl)
theorem dX5_isPlanDone_12 : decode cX5_isPlanDone 12 = .ok (.iload_n 3, 1) := dk_29 (dk_at dksX5_isPlanDone_0 12 rfl rfl)
theorem dX5_isPlanDone_13 : decode cX5_isPlanDone 13 = .ok (.aload_n 0, 1) := dk_42 (dk_at dksX5_isPlanDone_0 13 rfl rfl)
theorem dX5_isPlanDone_14 : decode cX5_isPlanDone 14 = .ok (.getfield 380, 3) := dk_180 1 124 (dk_at dksX5_isPlanDone_0 14 rfl rfl)
theorem dX5_isPlanDone_17 : decode cX5_isPlanDone 17 = .ok (.getfield 358, 3) := dk_180 1 102 (dk_at dksX5_isPlanDone_0 17 rfl rfl)
theorem dX5_isPlanDone_20 : decode cX5_isPlanDone 20 = .ok (.iload_n 1, 1) := dk_27 (dk_at dksX5_isPlanDone_0 20 rfl rfl)
theorem dX5_isPlanDone_21 : decode cX5_isPlanDone 21 = .ok (.iaload, 1) := dk_46 (dk_at dksX5_isPlanDone_0 21 rfl rfl)
theorem dX5_isPlanDone_22 : decode cX5_isPlanDone 22 = .ok (.if_icmp .ge 74, 3) := dk_162 0 74 (dk_at dksX5_isPlanDone_1 0 rfl rfl)
theorem dX5_isPlanDone_25 : decode cX5_isPlanDone 25 = .ok (.iload_n 3, 1) := dk_29 (dk_at dksX5_isPlanDone_1 3 rfl rfl)
theorem dX5_isPlanDone_26 : decode cX5_isPlanDone 26 = .ok (.aload_n 0, 1) := dk_42 (dk_at dksX5_isPlanDone_1 4 rfl rfl)
theorem dX5_isPlanDone_27 : decode cX5_isPlanDone 27 = .ok (.getfield 380, 3) := dk_180 1 124 (dk_at dksX5_isPlanDone_1 5 rfl rfl)
theorem dX5_isPlanDone_30 : decode cX5_isPlanDone 30 = .ok (.getfield 273, 3) := dk_180 1 17 (dk_at dksX5_isPlanDone_1 8 rfl rfl)
theorem dX5_isPlanDone_33 : decode cX5_isPlanDone 33 = .ok (.if_icmp .ge 63, 3) := dk_162 0 63 (dk_at dksX5_isPlanDone_1 11 rfl rfl)
theorem dX5_isPlanDone_36 : decode cX5_isPlanDone 36 = .ok (.aload_n 0, 1) := dk_42 (dk_at dksX5_isPlanDone_1 14 rfl rfl)
theorem dX5_isPlanDone_37 : decode cX5_isPlanDone 37 = .ok (.getfield 24, 3) := dk_180 0 24 (dk_at dksX5_isPlanDone_1 15 rfl rfl)
theorem dX5_isPlanDone_40 : decode cX5_isPlanDone 40 = .ok (.bipush 100, 2) := dk_16 100 (dk_at dksX5_isPlanDone_1 18 rfl rfl)
theorem dX5_isPlanDone_42 : decode cX5_isPlanDone 42 = .ok (.aload_n 0, 1) := dk_42 (dk_at dksX5_isPlanDone_1 20 rfl rfl)
theorem dX5_isPlanDone_43 : decode cX5_isPlanDone 43 = .ok (.getfield 380, 3) := dk_180 1 124 (dk_at dksX5_isPlanDone_1 21 rfl rfl)
theorem dX5_isPlanDone_46 : decode cX5_isPlanDone 46 = .ok (.getfield 349, 3) := dk_180 1 93 (dk_at dksX5_isPlanDone_2 0 rfl rfl)
theorem dX5_isPlanDone_49 : decode cX5_isPlanDone 49 = .ok (.iload_n 1, 1) := dk_27 (dk_at dksX5_isPlanDone_2 3 rfl rfl)
theorem dX5_isPlanDone_50 : decode cX5_isPlanDone 50 = .ok (.iaload, 1) := dk_46 (dk_at dksX5_isPlanDone_2 4 rfl rfl)
theorem dX5_isPlanDone_51 : decode cX5_isPlanDone 51 = .ok (.imul, 1) := dk_104 (dk_at dksX5_isPlanDone_2 5 rfl rfl)
theorem dX5_isPlanDone_52 : decode cX5_isPlanDone 52 = .ok (.iload_n 3, 1) := dk_29 (dk_at dksX5_isPlanDone_2 6 rfl rfl)
theorem dX5_isPlanDone_53 : decode cX5_isPlanDone 53 = .ok (.iadd, 1) := dk_96 (dk_at dksX5_isPlanDone_2 7 rfl rfl)
theorem dX5_isPlanDone_54 : decode cX5_isPlanDone 54 = .ok (.iaload, 1) := dk_46 (dk_at dksX5_isPlanDone_2 8 rfl rfl)
theorem dX5_isPlanDone_55 : decode cX5_isPlanDone 55 = .ok (.aload_n 0, 1) := dk_42 (dk_at dksX5_isPlanDone_2 9 rfl rfl)
theorem dX5_isPlanDone_56 : decode cX5_isPlanDone 56 = .ok (.getfield 380, 3) := dk_180 1 124 (dk_at dksX5_isPlanDone_2 10 rfl rfl)
theorem dX5_isPlanDone_59 : decode cX5_isPlanDone 59 = .ok (.getfield 352, 3) := dk_180 1 96 (dk_at dksX5_isPlanDone_2 13 rfl rfl)
theorem dX5_isPlanDone_62 : decode cX5_isPlanDone 62 = .ok (.iload_n 1, 1) := dk_27 (dk_at dksX5_isPlanDone_2 16 rfl rfl)
theorem dX5_isPlanDone_63 : decode cX5_isPlanDone 63 = .ok (.iaload, 1) := dk_46 (dk_at dksX5_isPlanDone_2 17 rfl rfl)
theorem dX5_isPlanDone_64 : decode cX5_isPlanDone 64 = .ok (.if_icmp .ne 9, 3) := dk_160 0 9 (dk_at dksX5_isPlanDone_2 18 rfl rfl)
theorem dX5_isPlanDone_67 : decode cX5_isPlanDone 67 = .ok (.iload_n 2, 1) := dk_28 (dk_at dksX5_isPlanDone_2 21 rfl rfl)
theorem dX5_isPlanDone_68 : decode cX5_isPlanDone 68 = .ok (.iconst 1, 1) := dk_4 (dk_at dksX5_isPlanDone_2 22 rfl rfl)
theorem dX5_isPlanDone_69 : decode cX5_isPlanDone 69 = .ok (.iadd, 1) := dk_96 (dk_at dksX5_isPlanDone_2 23 rfl rfl)
theorem dX5_isPlanDone_70 : decode cX5_isPlanDone 70 = .ok (.goto 4, 3) := dk_167 0 4 (dk_at dksX5_isPlanDone_3 0 rfl rfl)
theorem dX5_isPlanDone_73 : decode cX5_isPlanDone 73 = .ok (.iconst 0, 1) := dk_3 (dk_at dksX5_isPlanDone_3 3 rfl rfl)
theorem dX5_isPlanDone_74 : decode cX5_isPlanDone 74 = .ok (.istore_n 2, 1) := dk_61 (dk_at dksX5_isPlanDone_3 4 rfl rfl)
theorem dX5_isPlanDone_75 : decode cX5_isPlanDone 75 = .ok (.iload_n 2, 1) := dk_28 (dk_at dksX5_isPlanDone_3 5 rfl rfl)
theorem dX5_isPlanDone_76 : decode cX5_isPlanDone 76 = .ok (.aload_n 0, 1) := dk_42 (dk_at dksX5_isPlanDone_3 6 rfl rfl)
theorem dX5_isPlanDone_77 : decode cX5_isPlanDone 77 = .ok (.getfield 380, 3) := dk_180 1 124 (dk_at dksX5_isPlanDone_3 7 rfl rfl)
theorem dX5_isPlanDone_80 : decode cX5_isPlanDone 80 = .ok (.getfield 361, 3) := dk_180 1 105 (dk_at dksX5_isPlanDone_3 10 rfl rfl)
theorem dX5_isPlanDone_83 : decode cX5_isPlanDone 83 = .ok (.iload_n 1, 1) := dk_27 (dk_at dksX5_isPlanDone_3 13 rfl rfl)
theorem dX5_isPlanDone_84 : decode cX5_isPlanDone 84 = .ok (.iaload, 1) := dk_46 (dk_at dksX5_isPlanDone_3 14 rfl rfl)
theorem dX5_isPlanDone_85 : decode cX5_isPlanDone 85 = .ok (.if_icmp .ne 5, 3) := dk_160 0 5 (dk_at dksX5_isPlanDone_3 15 rfl rfl)
theorem dX5_isPlanDone_88 : decode cX5_isPlanDone 88 = .ok (.iconst 1, 1) := dk_4 (dk_at dksX5_isPlanDone_3 18 rfl rfl)
theorem dX5_isPlanDone_89 : decode cX5_isPlanDone 89 = .ok (.ireturn, 1) := dk_172 (dk_at dksX5_isPlanDone_3 19 rfl rfl)
theorem dX5_isPlanDone_90 : decode cX5_isPlanDone 90 = .ok (.iinc 3 1, 3) := dk_132 3 1 (dk_at dksX5_isPlanDone_3 20 rfl rfl)
theorem dX5_isPlanDone_93 : decode cX5_isPlanDone 93 = .ok (.goto (-81), 3) := dk_167 255 175 (dk_at dksX5_isPlanDone_4 0 rfl rfl)
theorem dX5_isPlanDone_96 : decode cX5_isPlanDone 96 = .ok (.iconst 0, 1) := dk_3 (dk_at dksX5_isPlanDone_4 3 rfl rfl)
theorem dX5_isPlanDone_97 : decode cX5_isPlanDone 97 = .ok (.ireturn, 1) := dk_172 (dk_at dksX5_isPlanDone_4 4 rfl rfl)
abbrev cX5_why : ByteArray := prog_15_method_73_code
def yX5_why : MethodName := ⟨RX5, "why", "()I"⟩
def dkwX5_why_1 : List UInt8 := [42, 180, 1, 196, 3, 182, 0, 66, 172]
abbrev dktX5_why_1 : List UInt8 := dkwX5_why_1 ++ []
def dkwX5_why_0 : List UInt8 := [42, 3, 181, 0, 56, 42, 180, 1, 124, 199, 0, 9, 42, 4, 182, 0, 62, 172, 42, 182, 1, 202, 87, 42]
abbrev dktX5_why_0 : List UInt8 := dkwX5_why_0 ++ dktX5_why_1
theorem dksX5_why_0 : cX5_why.data.toList.drop 0 = dktX5_why_0 := by decide +kernel
theorem dksX5_why_1 : cX5_why.data.toList.drop 24 = dktX5_why_1 := dk_seg dksX5_why_0 24 rfl rfl
theorem dX5_why_0 : decode cX5_why 0 = .ok (.aload_n 0, 1) := dk_42 (dk_at dksX5_why_0 0 rfl rfl)
theorem dX5_why_1 : decode cX5_why 1 = .ok (.iconst 0, 1) := dk_3 (dk_at dksX5_why_0 1 rfl rfl)
theorem dX5_why_2 : decode cX5_why 2 = .ok (.putfield 56, 3) := dk_181 0 56 (dk_at dksX5_why_0 2 rfl rfl)
theorem dX5_why_5 : decode cX5_why 5 = .ok (.aload_n 0, 1) := dk_42 (dk_at dksX5_why_0 5 rfl rfl)
theorem dX5_why_6 : decode cX5_why 6 = .ok (.getfield 380, 3) := dk_180 1 124 (dk_at dksX5_why_0 6 rfl rfl)
theorem dX5_why_9 : decode cX5_why 9 = .ok (.ifnonnull 9, 3) := dk_199 0 9 (dk_at dksX5_why_0 9 rfl rfl)
theorem dX5_why_12 : decode cX5_why 12 = .ok (.aload_n 0, 1) := dk_42 (dk_at dksX5_why_0 12 rfl rfl)
theorem dX5_why_13 : decode cX5_why 13 = .ok (.iconst 1, 1) := dk_4 (dk_at dksX5_why_0 13 rfl rfl)
theorem dX5_why_14 : decode cX5_why 14 = .ok (.invokevirtual 62, 3) := dk_182 0 62 (dk_at dksX5_why_0 14 rfl rfl)
theorem dX5_why_17 : decode cX5_why 17 = .ok (.ireturn, 1) := dk_172 (dk_at dksX5_why_0 17 rfl rfl)
theorem dX5_why_18 : decode cX5_why 18 = .ok (.aload_n 0, 1) := dk_42 (dk_at dksX5_why_0 18 rfl rfl)
theorem dX5_why_19 : decode cX5_why 19 = .ok (.invokevirtual 458, 3) := dk_182 1 202 (dk_at dksX5_why_0 19 rfl rfl)
theorem dX5_why_22 : decode cX5_why 22 = .ok (.pop, 1) := dk_87 (dk_at dksX5_why_0 22 rfl rfl)
theorem dX5_why_23 : decode cX5_why 23 = .ok (.aload_n 0, 1) := dk_42 (dk_at dksX5_why_0 23 rfl rfl)
theorem dX5_why_24 : decode cX5_why 24 = .ok (.aload_n 0, 1) := dk_42 (dk_at dksX5_why_1 0 rfl rfl)
theorem dX5_why_25 : decode cX5_why 25 = .ok (.getfield 452, 3) := dk_180 1 196 (dk_at dksX5_why_1 1 rfl rfl)
theorem dX5_why_28 : decode cX5_why 28 = .ok (.iconst 0, 1) := dk_3 (dk_at dksX5_why_1 4 rfl rfl)
theorem dX5_why_29 : decode cX5_why 29 = .ok (.invokevirtual 66, 3) := dk_182 0 66 (dk_at dksX5_why_1 5 rfl rfl)
theorem dX5_why_32 : decode cX5_why 32 = .ok (.ireturn, 1) := dk_172 (dk_at dksX5_why_1 8 rfl rfl)
abbrev cX5_done : ByteArray := prog_15_method_74_code
def yX5_done : MethodName := ⟨RX5, "done", "(I)I"⟩
def dkwX5_done_2 : List UInt8 := [182, 0, 66, 172]
abbrev dktX5_done_2 : List UInt8 := dkwX5_done_2 ++ []
def dkwX5_done_1 : List UInt8 := [161, 0, 9, 42, 4, 182, 0, 62, 172, 42, 42, 27, 182, 1, 199, 153, 0, 7, 4, 167, 0, 4, 3, 3]
abbrev dktX5_done_1 : List UInt8 := dkwX5_done_1 ++ dktX5_done_2
def dkwX5_done_0 : List UInt8 := [42, 3, 181, 0, 56, 42, 180, 1, 124, 198, 0, 18, 27, 155, 0, 14, 27, 42, 180, 1, 124, 180, 1, 88]
abbrev dktX5_done_0 : List UInt8 := dkwX5_done_0 ++ dktX5_done_1
theorem dksX5_done_0 : cX5_done.data.toList.drop 0 = dktX5_done_0 := by decide +kernel
theorem dksX5_done_1 : cX5_done.data.toList.drop 24 = dktX5_done_1 := dk_seg dksX5_done_0 24 rfl rfl
theorem dksX5_done_2 : cX5_done.data.toList.drop 48 = dktX5_done_2 := dk_seg dksX5_done_1 24 rfl rfl
theorem dX5_done_0 : decode cX5_done 0 = .ok (.aload_n 0, 1) := dk_42 (dk_at dksX5_done_0 0 rfl rfl)
theorem dX5_done_1 : decode cX5_done 1 = .ok (.iconst 0, 1) := dk_3 (dk_at dksX5_done_0 1 rfl rfl)
theorem dX5_done_2 : decode cX5_done 2 = .ok (.putfield 56, 3) := dk_181 0 56 (dk_at dksX5_done_0 2 rfl rfl)
theorem dX5_done_5 : decode cX5_done 5 = .ok (.aload_n 0, 1) := dk_42 (dk_at dksX5_done_0 5 rfl rfl)
theorem dX5_done_6 : decode cX5_done 6 = .ok (.getfield 380, 3) := dk_180 1 124 (dk_at dksX5_done_0 6 rfl rfl)
theorem dX5_done_9 : decode cX5_done 9 = .ok (.ifnull 18, 3) := dk_198 0 18 (dk_at dksX5_done_0 9 rfl rfl)
theorem dX5_done_12 : decode cX5_done 12 = .ok (.iload_n 1, 1) := dk_27 (dk_at dksX5_done_0 12 rfl rfl)
theorem dX5_done_13 : decode cX5_done 13 = .ok (.ifCond .lt 14, 3) := dk_155 0 14 (dk_at dksX5_done_0 13 rfl rfl)
theorem dX5_done_16 : decode cX5_done 16 = .ok (.iload_n 1, 1) := dk_27 (dk_at dksX5_done_0 16 rfl rfl)
theorem dX5_done_17 : decode cX5_done 17 = .ok (.aload_n 0, 1) := dk_42 (dk_at dksX5_done_0 17 rfl rfl)
theorem dX5_done_18 : decode cX5_done 18 = .ok (.getfield 380, 3) := dk_180 1 124 (dk_at dksX5_done_0 18 rfl rfl)
theorem dX5_done_21 : decode cX5_done 21 = .ok (.getfield 344, 3) := dk_180 1 88 (dk_at dksX5_done_0 21 rfl rfl)
theorem dX5_done_24 : decode cX5_done 24 = .ok (.if_icmp .lt 9, 3) := dk_161 0 9 (dk_at dksX5_done_1 0 rfl rfl)
theorem dX5_done_27 : decode cX5_done 27 = .ok (.aload_n 0, 1) := dk_42 (dk_at dksX5_done_1 3 rfl rfl)
theorem dX5_done_28 : decode cX5_done 28 = .ok (.iconst 1, 1) := dk_4 (dk_at dksX5_done_1 4 rfl rfl)
theorem dX5_done_29 : decode cX5_done 29 = .ok (.invokevirtual 62, 3) := dk_182 0 62 (dk_at dksX5_done_1 5 rfl rfl)
theorem dX5_done_32 : decode cX5_done 32 = .ok (.ireturn, 1) := dk_172 (dk_at dksX5_done_1 8 rfl rfl)
theorem dX5_done_33 : decode cX5_done 33 = .ok (.aload_n 0, 1) := dk_42 (dk_at dksX5_done_1 9 rfl rfl)
theorem dX5_done_34 : decode cX5_done 34 = .ok (.aload_n 0, 1) := dk_42 (dk_at dksX5_done_1 10 rfl rfl)
theorem dX5_done_35 : decode cX5_done 35 = .ok (.iload_n 1, 1) := dk_27 (dk_at dksX5_done_1 11 rfl rfl)
theorem dX5_done_36 : decode cX5_done 36 = .ok (.invokevirtual 455, 3) := dk_182 1 199 (dk_at dksX5_done_1 12 rfl rfl)
theorem dX5_done_39 : decode cX5_done 39 = .ok (.ifCond .eq 7, 3) := dk_153 0 7 (dk_at dksX5_done_1 15 rfl rfl)
theorem dX5_done_42 : decode cX5_done 42 = .ok (.iconst 1, 1) := dk_4 (dk_at dksX5_done_1 18 rfl rfl)
theorem dX5_done_43 : decode cX5_done 43 = .ok (.goto 4, 3) := dk_167 0 4 (dk_at dksX5_done_1 19 rfl rfl)
theorem dX5_done_46 : decode cX5_done 46 = .ok (.iconst 0, 1) := dk_3 (dk_at dksX5_done_1 22 rfl rfl)
theorem dX5_done_47 : decode cX5_done 47 = .ok (.iconst 0, 1) := dk_3 (dk_at dksX5_done_1 23 rfl rfl)
theorem dX5_done_48 : decode cX5_done 48 = .ok (.invokevirtual 66, 3) := dk_182 0 66 (dk_at dksX5_done_2 0 rfl rfl)
theorem dX5_done_51 : decode cX5_done 51 = .ok (.ireturn, 1) := dk_172 (dk_at dksX5_done_2 3 rfl rfl)
abbrev cX5_forget : ByteArray := prog_15_method_75_code
def yX5_forget : MethodName := ⟨RX5, "forget", "()Z"⟩
def dkwX5_forget_1 : List UInt8 := [182, 1, 184, 172]
abbrev dktX5_forget_1 : List UInt8 := dkwX5_forget_1 ++ []
def dkwX5_forget_0 : List UInt8 := [42, 3, 181, 0, 56, 42, 180, 1, 124, 199, 0, 9, 42, 4, 182, 1, 181, 172, 42, 182, 1, 136, 42]
abbrev dktX5_forget_0 : List UInt8 := dkwX5_forget_0 ++ dktX5_forget_1
theorem dksX5_forget_0 : cX5_forget.data.toList.drop 0 = dktX5_forget_0 := by decide +kernel
theorem dksX5_forget_1 : cX5_forget.data.toList.drop 23 = dktX5_forget_1 := dk_seg dksX5_forget_0 23 rfl rfl
theorem dX5_forget_0 : decode cX5_forget 0 = .ok (.aload_n 0, 1) := dk_42 (dk_at dksX5_forget_0 0 rfl rfl)
theorem dX5_forget_1 : decode cX5_forget 1 = .ok (.iconst 0, 1) := dk_3 (dk_at dksX5_forget_0 1 rfl rfl)
theorem dX5_forget_2 : decode cX5_forget 2 = .ok (.putfield 56, 3) := dk_181 0 56 (dk_at dksX5_forget_0 2 rfl rfl)
theorem dX5_forget_5 : decode cX5_forget 5 = .ok (.aload_n 0, 1) := dk_42 (dk_at dksX5_forget_0 5 rfl rfl)
theorem dX5_forget_6 : decode cX5_forget 6 = .ok (.getfield 380, 3) := dk_180 1 124 (dk_at dksX5_forget_0 6 rfl rfl)
theorem dX5_forget_9 : decode cX5_forget 9 = .ok (.ifnonnull 9, 3) := dk_199 0 9 (dk_at dksX5_forget_0 9 rfl rfl)
theorem dX5_forget_12 : decode cX5_forget 12 = .ok (.aload_n 0, 1) := dk_42 (dk_at dksX5_forget_0 12 rfl rfl)
theorem dX5_forget_13 : decode cX5_forget 13 = .ok (.iconst 1, 1) := dk_4 (dk_at dksX5_forget_0 13 rfl rfl)
theorem dX5_forget_14 : decode cX5_forget 14 = .ok (.invokevirtual 437, 3) := dk_182 1 181 (dk_at dksX5_forget_0 14 rfl rfl)
theorem dX5_forget_17 : decode cX5_forget 17 = .ok (.ireturn, 1) := dk_172 (dk_at dksX5_forget_0 17 rfl rfl)
theorem dX5_forget_18 : decode cX5_forget 18 = .ok (.aload_n 0, 1) := dk_42 (dk_at dksX5_forget_0 18 rfl rfl)
theorem dX5_forget_19 : decode cX5_forget 19 = .ok (.invokevirtual 392, 3) := dk_182 1 136 (dk_at dksX5_forget_0 19 rfl rfl)
theorem dX5_forget_22 : decode cX5_forget 22 = .ok (.aload_n 0, 1) := dk_42 (dk_at dksX5_forget_0 22 rfl rfl)
theorem dX5_forget_23 : decode cX5_forget 23 = .ok (.invokevirtual 440, 3) := dk_182 1 184 (dk_at dksX5_forget_1 0 rfl rfl)
theorem dX5_forget_26 : decode cX5_forget 26 = .ok (.ireturn, 1) := dk_172 (dk_at dksX5_forget_1 3 rfl rfl)
abbrev cX5_posts : ByteArray := prog_15_method_78_code
def yX5_posts : MethodName := ⟨RX5, "posts", "(II)I"⟩
def dkwX5_posts_2 : List UInt8 := [3, 182, 0, 66, 172]
abbrev dktX5_posts_2 : List UInt8 := dkwX5_posts_2 ++ []
def dkwX5_posts_1 : List UInt8 := [28, 182, 1, 211, 54, 4, 42, 21, 4, 16, 254, 160, 0, 8, 16, 254, 167, 0, 8, 21, 4, 184, 1, 205]
abbrev dktX5_posts_1 : List UInt8 := dkwX5_posts_1 ++ dktX5_posts_2
def dkwX5_posts_0 : List UInt8 := [42, 3, 181, 0, 56, 42, 27, 28, 182, 1, 208, 62, 29, 158, 0, 9, 42, 29, 182, 0, 62, 172, 42, 27]
abbrev dktX5_posts_0 : List UInt8 := dkwX5_posts_0 ++ dktX5_posts_1
theorem dksX5_posts_0 : cX5_posts.data.toList.drop 0 = dktX5_posts_0 := by decide +kernel
theorem dksX5_posts_1 : cX5_posts.data.toList.drop 24 = dktX5_posts_1 := dk_seg dksX5_posts_0 24 rfl rfl
theorem dksX5_posts_2 : cX5_posts.data.toList.drop 48 = dktX5_posts_2 := dk_seg dksX5_posts_1 24 rfl rfl
theorem dX5_posts_0 : decode cX5_posts 0 = .ok (.aload_n 0, 1) := dk_42 (dk_at dksX5_posts_0 0 rfl rfl)
theorem dX5_posts_1 : decode cX5_posts 1 = .ok (.iconst 0, 1) := dk_3 (dk_at dksX5_posts_0 1 rfl rfl)
theorem dX5_posts_2 : decode cX5_posts 2 = .ok (.putfield 56, 3) := dk_181 0 56 (dk_at dksX5_posts_0 2 rfl rfl)
theorem dX5_posts_5 : decode cX5_posts 5 = .ok (.aload_n 0, 1) := dk_42 (dk_at dksX5_posts_0 5 rfl rfl)
theorem dX5_posts_6 : decode cX5_posts 6 = .ok (.iload_n 1, 1) := dk_27 (dk_at dksX5_posts_0 6 rfl rfl)
theorem dX5_posts_7 : decode cX5_posts 7 = .ok (.iload_n 2, 1) := dk_28 (dk_at dksX5_posts_0 7 rfl rfl)
theorem dX5_posts_8 : decode cX5_posts 8 = .ok (.invokevirtual 464, 3) := dk_182 1 208 (dk_at dksX5_posts_0 8 rfl rfl)
theorem dX5_posts_11 : decode cX5_posts 11 = .ok (.istore_n 3, 1) := dk_62 (dk_at dksX5_posts_0 11 rfl rfl)
theorem dX5_posts_12 : decode cX5_posts 12 = .ok (.iload_n 3, 1) := dk_29 (dk_at dksX5_posts_0 12 rfl rfl)
theorem dX5_posts_13 : decode cX5_posts 13 = .ok (.ifCond .le 9, 3) := dk_158 0 9 (dk_at dksX5_posts_0 13 rfl rfl)
theorem dX5_posts_16 : decode cX5_posts 16 = .ok (.aload_n 0, 1) := dk_42 (dk_at dksX5_posts_0 16 rfl rfl)
theorem dX5_posts_17 : decode cX5_posts 17 = .ok (.iload_n 3, 1) := dk_29 (dk_at dksX5_posts_0 17 rfl rfl)
theorem dX5_posts_18 : decode cX5_posts 18 = .ok (.invokevirtual 62, 3) := dk_182 0 62 (dk_at dksX5_posts_0 18 rfl rfl)
theorem dX5_posts_21 : decode cX5_posts 21 = .ok (.ireturn, 1) := dk_172 (dk_at dksX5_posts_0 21 rfl rfl)
theorem dX5_posts_22 : decode cX5_posts 22 = .ok (.aload_n 0, 1) := dk_42 (dk_at dksX5_posts_0 22 rfl rfl)
theorem dX5_posts_23 : decode cX5_posts 23 = .ok (.iload_n 1, 1) := dk_27 (dk_at dksX5_posts_0 23 rfl rfl)
theorem dX5_posts_24 : decode cX5_posts 24 = .ok (.iload_n 2, 1) := dk_28 (dk_at dksX5_posts_1 0 rfl rfl)
theorem dX5_posts_25 : decode cX5_posts 25 = .ok (.invokevirtual 467, 3) := dk_182 1 211 (dk_at dksX5_posts_1 1 rfl rfl)
theorem dX5_posts_28 : decode cX5_posts 28 = .ok (.istore 4, 2) := dk_54 4 (dk_at dksX5_posts_1 4 rfl rfl)
theorem dX5_posts_30 : decode cX5_posts 30 = .ok (.aload_n 0, 1) := dk_42 (dk_at dksX5_posts_1 6 rfl rfl)
theorem dX5_posts_31 : decode cX5_posts 31 = .ok (.iload 4, 2) := dk_21 4 (dk_at dksX5_posts_1 7 rfl rfl)
theorem dX5_posts_33 : decode cX5_posts 33 = .ok (.bipush (-2), 2) := dk_16 254 (dk_at dksX5_posts_1 9 rfl rfl)
theorem dX5_posts_35 : decode cX5_posts 35 = .ok (.if_icmp .ne 8, 3) := dk_160 0 8 (dk_at dksX5_posts_1 11 rfl rfl)
theorem dX5_posts_38 : decode cX5_posts 38 = .ok (.bipush (-2), 2) := dk_16 254 (dk_at dksX5_posts_1 14 rfl rfl)
theorem dX5_posts_40 : decode cX5_posts 40 = .ok (.goto 8, 3) := dk_167 0 8 (dk_at dksX5_posts_1 16 rfl rfl)
theorem dX5_posts_43 : decode cX5_posts 43 = .ok (.iload 4, 2) := dk_21 4 (dk_at dksX5_posts_1 19 rfl rfl)
theorem dX5_posts_45 : decode cX5_posts 45 = .ok (.invokestatic 461, 3) := dk_184 1 205 (dk_at dksX5_posts_1 21 rfl rfl)
theorem dX5_posts_48 : decode cX5_posts 48 = .ok (.iconst 0, 1) := dk_3 (dk_at dksX5_posts_2 0 rfl rfl)
theorem dX5_posts_49 : decode cX5_posts 49 = .ok (.invokevirtual 66, 3) := dk_182 0 66 (dk_at dksX5_posts_2 1 rfl rfl)
theorem dX5_posts_52 : decode cX5_posts 52 = .ok (.ireturn, 1) := dk_172 (dk_at dksX5_posts_2 4 rfl rfl)
abbrev cX5_refusesPosts : ByteArray := prog_15_method_77_code
def yX5_refusesPosts : MethodName := ⟨RX5, "refusesPosts", "(II)I"⟩
def dkwX5_refusesPosts_1 : List UInt8 := [120, 162, 0, 10, 28, 184, 1, 155, 154, 0, 7, 5, 167, 0, 4, 3, 172]
abbrev dktX5_refusesPosts_1 : List UInt8 := dkwX5_refusesPosts_1 ++ []
def dkwX5_refusesPosts_0 : List UInt8 := [42, 180, 1, 124, 199, 0, 7, 4, 167, 0, 32, 27, 155, 0, 23, 27, 4, 42, 180, 1, 124, 180, 0, 218]
abbrev dktX5_refusesPosts_0 : List UInt8 := dkwX5_refusesPosts_0 ++ dktX5_refusesPosts_1
theorem dksX5_refusesPosts_0 : cX5_refusesPosts.data.toList.drop 0 = dktX5_refusesPosts_0 := by decide +kernel
theorem dksX5_refusesPosts_1 : cX5_refusesPosts.data.toList.drop 24 = dktX5_refusesPosts_1 := dk_seg dksX5_refusesPosts_0 24 rfl rfl
theorem dX5_refusesPosts_0 : decode cX5_refusesPosts 0 = .ok (.aload_n 0, 1) := dk_42 (dk_at dksX5_refusesPosts_0 0 rfl rfl)
theorem dX5_refusesPosts_1 : decode cX5_refusesPosts 1 = .ok (.getfield 380, 3) := dk_180 1 124 (dk_at dksX5_refusesPosts_0 1 rfl rfl)
theorem dX5_refusesPosts_4 : decode cX5_refusesPosts 4 = .ok (.ifnonnull 7, 3) := dk_199 0 7 (dk_at dksX5_refusesPosts_0 4 rfl rfl)
theorem dX5_refusesPosts_7 : decode cX5_refusesPosts 7 = .ok (.iconst 1, 1) := dk_4 (dk_at dksX5_refusesPosts_0 7 rfl rfl)
theorem dX5_refusesPosts_8 : decode cX5_refusesPosts 8 = .ok (.goto 32, 3) := dk_167 0 32 (dk_at dksX5_refusesPosts_0 8 rfl rfl)
theorem dX5_refusesPosts_11 : decode cX5_refusesPosts 11 = .ok (.iload_n 1, 1) := dk_27 (dk_at dksX5_refusesPosts_0 11 rfl rfl)
theorem dX5_refusesPosts_12 : decode cX5_refusesPosts 12 = .ok (.ifCond .lt 23, 3) := dk_155 0 23 (dk_at dksX5_refusesPosts_0 12 rfl rfl)
theorem dX5_refusesPosts_15 : decode cX5_refusesPosts 15 = .ok (.iload_n 1, 1) := dk_27 (dk_at dksX5_refusesPosts_0 15 rfl rfl)
theorem dX5_refusesPosts_16 : decode cX5_refusesPosts 16 = .ok (.iconst 1, 1) := dk_4 (dk_at dksX5_refusesPosts_0 16 rfl rfl)
theorem dX5_refusesPosts_17 : decode cX5_refusesPosts 17 = .ok (.aload_n 0, 1) := dk_42 (dk_at dksX5_refusesPosts_0 17 rfl rfl)
theorem dX5_refusesPosts_18 : decode cX5_refusesPosts 18 = .ok (.getfield 380, 3) := dk_180 1 124 (dk_at dksX5_refusesPosts_0 18 rfl rfl)
theorem dX5_refusesPosts_21 : decode cX5_refusesPosts 21 = .ok (.getfield 218, 3) := dk_180 0 218 (dk_at dksX5_refusesPosts_0 21 rfl rfl)
theorem dX5_refusesPosts_24 : decode cX5_refusesPosts 24 = .ok (.ishl, 1) := dk_120 (dk_at dksX5_refusesPosts_1 0 rfl rfl)
theorem dX5_refusesPosts_25 : decode cX5_refusesPosts 25 = .ok (.if_icmp .ge 10, 3) := dk_162 0 10 (dk_at dksX5_refusesPosts_1 1 rfl rfl)
theorem dX5_refusesPosts_28 : decode cX5_refusesPosts 28 = .ok (.iload_n 2, 1) := dk_28 (dk_at dksX5_refusesPosts_1 4 rfl rfl)
theorem dX5_refusesPosts_29 : decode cX5_refusesPosts 29 = .ok (.invokestatic 411, 3) := dk_184 1 155 (dk_at dksX5_refusesPosts_1 5 rfl rfl)
theorem dX5_refusesPosts_32 : decode cX5_refusesPosts 32 = .ok (.ifCond .ne 7, 3) := dk_154 0 7 (dk_at dksX5_refusesPosts_1 8 rfl rfl)
theorem dX5_refusesPosts_35 : decode cX5_refusesPosts 35 = .ok (.iconst 2, 1) := dk_5 (dk_at dksX5_refusesPosts_1 11 rfl rfl)
theorem dX5_refusesPosts_36 : decode cX5_refusesPosts 36 = .ok (.goto 4, 3) := dk_167 0 4 (dk_at dksX5_refusesPosts_1 12 rfl rfl)
theorem dX5_refusesPosts_39 : decode cX5_refusesPosts 39 = .ok (.iconst 0, 1) := dk_3 (dk_at dksX5_refusesPosts_1 15 rfl rfl)
theorem dX5_refusesPosts_40 : decode cX5_refusesPosts 40 = .ok (.ireturn, 1) := dk_172 (dk_at dksX5_refusesPosts_1 16 rfl rfl)
abbrev cX5_postsFor : ByteArray := prog_15_method_76_code
def yX5_postsFor : MethodName := ⟨RX5, "postsFor", "(II)I"⟩
def dkwX5_postsFor_7 : List UInt8 := [62, 132, 4, 1, 167, 255, 125, 29, 172]
abbrev dktX5_postsFor_7 : List UInt8 := dkwX5_postsFor_7 ++ []
def dkwX5_postsFor_6 : List UInt8 := [167, 255, 197, 27, 21, 5, 2, 130, 126, 154, 0, 16, 21, 4, 21, 6, 2, 130, 126, 154, 0, 6, 21, 4]
abbrev dktX5_postsFor_6 : List UInt8 := dkwX5_postsFor_6 ++ dktX5_postsFor_7
def dkwX5_postsFor_5 : List UInt8 := [21, 6, 42, 180, 0, 27, 21, 7, 46, 4, 21, 7, 120, 2, 130, 126, 128, 54, 6, 132, 7, 1]
abbrev dktX5_postsFor_5 : List UInt8 := dkwX5_postsFor_5 ++ dktX5_postsFor_6
def dkwX5_postsFor_4 : List UInt8 := [21, 7, 184, 1, 142, 154, 0, 6, 167, 0, 34, 21, 5, 42, 180, 0, 27, 21, 7, 46, 128, 54, 5]
abbrev dktX5_postsFor_4 : List UInt8 := dkwX5_postsFor_4 ++ dktX5_postsFor_5
def dkwX5_postsFor_3 : List UInt8 := [3, 54, 5, 3, 54, 6, 3, 54, 7, 21, 7, 42, 180, 1, 124, 180, 0, 218, 162, 0, 53, 21, 4]
abbrev dktX5_postsFor_3 : List UInt8 := dkwX5_postsFor_3 ++ dktX5_postsFor_4
def dkwX5_postsFor_2 : List UInt8 := [162, 0, 123, 29, 16, 254, 159, 0, 18, 21, 4, 184, 1, 205, 29, 184, 1, 205, 161, 0, 6, 167, 0, 96]
abbrev dktX5_postsFor_2 : List UInt8 := dkwX5_postsFor_2 ++ dktX5_postsFor_3
def dkwX5_postsFor_1 : List UInt8 := [79, 132, 3, 1, 167, 255, 230, 16, 254, 62, 3, 54, 4, 21, 4, 4, 42, 180, 1, 124, 180, 0, 218, 120]
abbrev dktX5_postsFor_1 : List UInt8 := dkwX5_postsFor_1 ++ dktX5_postsFor_2
def dkwX5_postsFor_0 : List UInt8 := [3, 62, 29, 42, 180, 1, 124, 180, 0, 218, 162, 0, 21, 42, 180, 0, 27, 29, 42, 29, 28, 182, 1, 161]
abbrev dktX5_postsFor_0 : List UInt8 := dkwX5_postsFor_0 ++ dktX5_postsFor_1
theorem dksX5_postsFor_0 : cX5_postsFor.data.toList.drop 0 = dktX5_postsFor_0 := by decide +kernel
theorem dksX5_postsFor_1 : cX5_postsFor.data.toList.drop 24 = dktX5_postsFor_1 := dk_seg dksX5_postsFor_0 24 rfl rfl
theorem dksX5_postsFor_2 : cX5_postsFor.data.toList.drop 48 = dktX5_postsFor_2 := dk_seg dksX5_postsFor_1 24 rfl rfl
theorem dksX5_postsFor_3 : cX5_postsFor.data.toList.drop 72 = dktX5_postsFor_3 := dk_seg dksX5_postsFor_2 24 rfl rfl
theorem dksX5_postsFor_4 : cX5_postsFor.data.toList.drop 95 = dktX5_postsFor_4 := dk_seg dksX5_postsFor_3 23 rfl rfl
theorem dksX5_postsFor_5 : cX5_postsFor.data.toList.drop 118 = dktX5_postsFor_5 := dk_seg dksX5_postsFor_4 23 rfl rfl
theorem dksX5_postsFor_6 : cX5_postsFor.data.toList.drop 140 = dktX5_postsFor_6 := dk_seg dksX5_postsFor_5 22 rfl rfl
theorem dksX5_postsFor_7 : cX5_postsFor.data.toList.drop 164 = dktX5_postsFor_7 := dk_seg dksX5_postsFor_6 24 rfl rfl
theorem dX5_postsFor_0 : decode cX5_postsFor 0 = .ok (.iconst 0, 1) := dk_3 (dk_at dksX5_postsFor_0 0 rfl rfl)
theorem dX5_postsFor_1 : decode cX5_postsFor 1 = .ok (.istore_n 3, 1) := dk_62 (dk_at dksX5_postsFor_0 1 rfl rfl)
theorem dX5_postsFor_2 : decode cX5_postsFor 2 = .ok (.iload_n 3, 1) := dk_29 (dk_at dksX5_postsFor_0 2 rfl rfl)
theorem dX5_postsFor_3 : decode cX5_postsFor 3 = .ok (.aload_n 0, 1) := dk_42 (dk_at dksX5_postsFor_0 3 rfl rfl)
theorem dX5_postsFor_4 : decode cX5_postsFor 4 = .ok (.getfield 380, 3) := dk_180 1 124 (dk_at dksX5_postsFor_0 4 rfl rfl)
theorem dX5_postsFor_7 : decode cX5_postsFor 7 = .ok (.getfield 218, 3) := dk_180 0 218 (dk_at dksX5_postsFor_0 7 rfl rfl)
theorem dX5_postsFor_10 : decode cX5_postsFor 10 = .ok (.if_icmp .ge 21, 3) := dk_162 0 21 (dk_at dksX5_postsFor_0 10 rfl rfl)
theorem dX5_postsFor_13 : decode cX5_postsFor 13 = .ok (.aload_n 0, 1) := dk_42 (dk_at dksX5_postsFor_0 13 rfl rfl)
theorem dX5_postsFor_14 : decode cX5_postsFor 14 = .ok (.getfield 27, 3) := dk_180 0 27 (dk_at dksX5_postsFor_0 14 rfl rfl)
theorem dX5_postsFor_17 : decode cX5_postsFor 17 = .ok (.iload_n 3, 1) := dk_29 (dk_at dksX5_postsFor_0 17 rfl rfl)
theorem dX5_postsFor_18 : decode cX5_postsFor 18 = .ok (.aload_n 0, 1) := dk_42 (dk_at dksX5_postsFor_0 18 rfl rfl)
theorem dX5_postsFor_19 : decode cX5_postsFor 19 = .ok (.iload_n 3, 1) := dk_29 (dk_at dksX5_postsFor_0 19 rfl rfl)
theorem dX5_postsFor_20 : decode cX5_postsFor 20 = .ok (.iload_n 2, 1) := dk_28 (dk_at dksX5_postsFor_0 20 rfl rfl)
theorem dX5_postsFor_21 : decode cX5_postsFor 21 = .ok (.invokevirtual 417, 3) := dk_182 1 161 (dk_at dksX5_postsFor_0 21 rfl rfl)
theorem dX5_postsFor_24 : decode cX5_postsFor 24 = .ok (.iastore, 1) := dk_79 (dk_at dksX5_postsFor_1 0 rfl rfl)
theorem dX5_postsFor_25 : decode cX5_postsFor 25 = .ok (.iinc 3 1, 3) := dk_132 3 1 (dk_at dksX5_postsFor_1 1 rfl rfl)
theorem dX5_postsFor_28 : decode cX5_postsFor 28 = .ok (.goto (-26), 3) := dk_167 255 230 (dk_at dksX5_postsFor_1 4 rfl rfl)
theorem dX5_postsFor_31 : decode cX5_postsFor 31 = .ok (.bipush (-2), 2) := dk_16 254 (dk_at dksX5_postsFor_1 7 rfl rfl)
theorem dX5_postsFor_33 : decode cX5_postsFor 33 = .ok (.istore_n 3, 1) := dk_62 (dk_at dksX5_postsFor_1 9 rfl rfl)
theorem dX5_postsFor_34 : decode cX5_postsFor 34 = .ok (.iconst 0, 1) := dk_3 (dk_at dksX5_postsFor_1 10 rfl rfl)
theorem dX5_postsFor_35 : decode cX5_postsFor 35 = .ok (.istore 4, 2) := dk_54 4 (dk_at dksX5_postsFor_1 11 rfl rfl)
theorem dX5_postsFor_37 : decode cX5_postsFor 37 = .ok (.iload 4, 2) := dk_21 4 (dk_at dksX5_postsFor_1 13 rfl rfl)
theorem dX5_postsFor_39 : decode cX5_postsFor 39 = .ok (.iconst 1, 1) := dk_4 (dk_at dksX5_postsFor_1 15 rfl rfl)
theorem dX5_postsFor_40 : decode cX5_postsFor 40 = .ok (.aload_n 0, 1) := dk_42 (dk_at dksX5_postsFor_1 16 rfl rfl)
theorem dX5_postsFor_41 : decode cX5_postsFor 41 = .ok (.getfield 380, 3) := dk_180 1 124 (dk_at dksX5_postsFor_1 17 rfl rfl)
theorem dX5_postsFor_44 : decode cX5_postsFor 44 = .ok (.getfield 218, 3) := dk_180 0 218 (dk_at dksX5_postsFor_1 20 rfl rfl)
theorem dX5_postsFor_47 : decode cX5_postsFor 47 = .ok (.ishl, 1) := dk_120 (dk_at dksX5_postsFor_1 23 rfl rfl)
theorem dX5_postsFor_48 : decode cX5_postsFor 48 = .ok (.if_icmp .ge 123, 3) := dk_162 0 123 (dk_at dksX5_postsFor_2 0 rfl rfl)
theorem dX5_postsFor_51 : decode cX5_postsFor 51 = .ok (.iload_n 3, 1) := dk_29 (dk_at dksX5_postsFor_2 3 rfl rfl)
theorem dX5_postsFor_52 : decode cX5_postsFor 52 = .ok (.bipush (-2), 2) := dk_16 254 (dk_at dksX5_postsFor_2 4 rfl rfl)
theorem dX5_postsFor_54 : decode cX5_postsFor 54 = .ok (.if_icmp .eq 18, 3) := dk_159 0 18 (dk_at dksX5_postsFor_2 6 rfl rfl)
theorem dX5_postsFor_57 : decode cX5_postsFor 57 = .ok (.iload 4, 2) := dk_21 4 (dk_at dksX5_postsFor_2 9 rfl rfl)
theorem dX5_postsFor_59 : decode cX5_postsFor 59 = .ok (.invokestatic 461, 3) := dk_184 1 205 (dk_at dksX5_postsFor_2 11 rfl rfl)
theorem dX5_postsFor_62 : decode cX5_postsFor 62 = .ok (.iload_n 3, 1) := dk_29 (dk_at dksX5_postsFor_2 14 rfl rfl)
theorem dX5_postsFor_63 : decode cX5_postsFor 63 = .ok (.invokestatic 461, 3) := dk_184 1 205 (dk_at dksX5_postsFor_2 15 rfl rfl)
theorem dX5_postsFor_66 : decode cX5_postsFor 66 = .ok (.if_icmp .lt 6, 3) := dk_161 0 6 (dk_at dksX5_postsFor_2 18 rfl rfl)
theorem dX5_postsFor_69 : decode cX5_postsFor 69 = .ok (.goto 96, 3) := dk_167 0 96 (dk_at dksX5_postsFor_2 21 rfl rfl)
theorem dX5_postsFor_72 : decode cX5_postsFor 72 = .ok (.iconst 0, 1) := dk_3 (dk_at dksX5_postsFor_3 0 rfl rfl)
theorem dX5_postsFor_73 : decode cX5_postsFor 73 = .ok (.istore 5, 2) := dk_54 5 (dk_at dksX5_postsFor_3 1 rfl rfl)
theorem dX5_postsFor_75 : decode cX5_postsFor 75 = .ok (.iconst 0, 1) := dk_3 (dk_at dksX5_postsFor_3 3 rfl rfl)
theorem dX5_postsFor_76 : decode cX5_postsFor 76 = .ok (.istore 6, 2) := dk_54 6 (dk_at dksX5_postsFor_3 4 rfl rfl)
theorem dX5_postsFor_78 : decode cX5_postsFor 78 = .ok (.iconst 0, 1) := dk_3 (dk_at dksX5_postsFor_3 6 rfl rfl)
theorem dX5_postsFor_79 : decode cX5_postsFor 79 = .ok (.istore 7, 2) := dk_54 7 (dk_at dksX5_postsFor_3 7 rfl rfl)
theorem dX5_postsFor_81 : decode cX5_postsFor 81 = .ok (.iload 7, 2) := dk_21 7 (dk_at dksX5_postsFor_3 9 rfl rfl)
theorem dX5_postsFor_83 : decode cX5_postsFor 83 = .ok (.aload_n 0, 1) := dk_42 (dk_at dksX5_postsFor_3 11 rfl rfl)
theorem dX5_postsFor_84 : decode cX5_postsFor 84 = .ok (.getfield 380, 3) := dk_180 1 124 (dk_at dksX5_postsFor_3 12 rfl rfl)
theorem dX5_postsFor_87 : decode cX5_postsFor 87 = .ok (.getfield 218, 3) := dk_180 0 218 (dk_at dksX5_postsFor_3 15 rfl rfl)
theorem dX5_postsFor_90 : decode cX5_postsFor 90 = .ok (.if_icmp .ge 53, 3) := dk_162 0 53 (dk_at dksX5_postsFor_3 18 rfl rfl)
theorem dX5_postsFor_93 : decode cX5_postsFor 93 = .ok (.iload 4, 2) := dk_21 4 (dk_at dksX5_postsFor_3 21 rfl rfl)
theorem dX5_postsFor_95 : decode cX5_postsFor 95 = .ok (.iload 7, 2) := dk_21 7 (dk_at dksX5_postsFor_4 0 rfl rfl)
theorem dX5_postsFor_97 : decode cX5_postsFor 97 = .ok (.invokestatic 398, 3) := dk_184 1 142 (dk_at dksX5_postsFor_4 2 rfl rfl)
theorem dX5_postsFor_100 : decode cX5_postsFor 100 = .ok (.ifCond .ne 6, 3) := dk_154 0 6 (dk_at dksX5_postsFor_4 5 rfl rfl)
theorem dX5_postsFor_103 : decode cX5_postsFor 103 = .ok (.goto 34, 3) := dk_167 0 34 (dk_at dksX5_postsFor_4 8 rfl rfl)
theorem dX5_postsFor_106 : decode cX5_postsFor 106 = .ok (.iload 5, 2) := dk_21 5 (dk_at dksX5_postsFor_4 11 rfl rfl)
theorem dX5_postsFor_108 : decode cX5_postsFor 108 = .ok (.aload_n 0, 1) := dk_42 (dk_at dksX5_postsFor_4 13 rfl rfl)
theorem dX5_postsFor_109 : decode cX5_postsFor 109 = .ok (.getfield 27, 3) := dk_180 0 27 (dk_at dksX5_postsFor_4 14 rfl rfl)
theorem dX5_postsFor_112 : decode cX5_postsFor 112 = .ok (.iload 7, 2) := dk_21 7 (dk_at dksX5_postsFor_4 17 rfl rfl)
theorem dX5_postsFor_114 : decode cX5_postsFor 114 = .ok (.iaload, 1) := dk_46 (dk_at dksX5_postsFor_4 19 rfl rfl)
theorem dX5_postsFor_115 : decode cX5_postsFor 115 = .ok (.ior, 1) := dk_128 (dk_at dksX5_postsFor_4 20 rfl rfl)
theorem dX5_postsFor_116 : decode cX5_postsFor 116 = .ok (.istore 5, 2) := dk_54 5 (dk_at dksX5_postsFor_4 21 rfl rfl)
theorem dX5_postsFor_118 : decode cX5_postsFor 118 = .ok (.iload 6, 2) := dk_21 6 (dk_at dksX5_postsFor_5 0 rfl rfl)
theorem dX5_postsFor_120 : decode cX5_postsFor 120 = .ok (.aload_n 0, 1) := dk_42 (dk_at dksX5_postsFor_5 2 rfl rfl)
theorem dX5_postsFor_121 : decode cX5_postsFor 121 = .ok (.getfield 27, 3) := dk_180 0 27 (dk_at dksX5_postsFor_5 3 rfl rfl)
theorem dX5_postsFor_124 : decode cX5_postsFor 124 = .ok (.iload 7, 2) := dk_21 7 (dk_at dksX5_postsFor_5 6 rfl rfl)
theorem dX5_postsFor_126 : decode cX5_postsFor 126 = .ok (.iaload, 1) := dk_46 (dk_at dksX5_postsFor_5 8 rfl rfl)
theorem dX5_postsFor_127 : decode cX5_postsFor 127 = .ok (.iconst 1, 1) := dk_4 (dk_at dksX5_postsFor_5 9 rfl rfl)
theorem dX5_postsFor_128 : decode cX5_postsFor 128 = .ok (.iload 7, 2) := dk_21 7 (dk_at dksX5_postsFor_5 10 rfl rfl)
theorem dX5_postsFor_130 : decode cX5_postsFor 130 = .ok (.ishl, 1) := dk_120 (dk_at dksX5_postsFor_5 12 rfl rfl)
theorem dX5_postsFor_131 : decode cX5_postsFor 131 = .ok (.iconst (-1), 1) := dk_2 (dk_at dksX5_postsFor_5 13 rfl rfl)
theorem dX5_postsFor_132 : decode cX5_postsFor 132 = .ok (.ixor, 1) := dk_130 (dk_at dksX5_postsFor_5 14 rfl rfl)
theorem dX5_postsFor_133 : decode cX5_postsFor 133 = .ok (.iand, 1) := dk_126 (dk_at dksX5_postsFor_5 15 rfl rfl)
theorem dX5_postsFor_134 : decode cX5_postsFor 134 = .ok (.ior, 1) := dk_128 (dk_at dksX5_postsFor_5 16 rfl rfl)
theorem dX5_postsFor_135 : decode cX5_postsFor 135 = .ok (.istore 6, 2) := dk_54 6 (dk_at dksX5_postsFor_5 17 rfl rfl)
theorem dX5_postsFor_137 : decode cX5_postsFor 137 = .ok (.iinc 7 1, 3) := dk_132 7 1 (dk_at dksX5_postsFor_5 19 rfl rfl)
theorem dX5_postsFor_140 : decode cX5_postsFor 140 = .ok (.goto (-59), 3) := dk_167 255 197 (dk_at dksX5_postsFor_6 0 rfl rfl)
theorem dX5_postsFor_143 : decode cX5_postsFor 143 = .ok (.iload_n 1, 1) := dk_27 (dk_at dksX5_postsFor_6 3 rfl rfl)
theorem dX5_postsFor_144 : decode cX5_postsFor 144 = .ok (.iload 5, 2) := dk_21 5 (dk_at dksX5_postsFor_6 4 rfl rfl)
theorem dX5_postsFor_146 : decode cX5_postsFor 146 = .ok (.iconst (-1), 1) := dk_2 (dk_at dksX5_postsFor_6 6 rfl rfl)
theorem dX5_postsFor_147 : decode cX5_postsFor 147 = .ok (.ixor, 1) := dk_130 (dk_at dksX5_postsFor_6 7 rfl rfl)
theorem dX5_postsFor_148 : decode cX5_postsFor 148 = .ok (.iand, 1) := dk_126 (dk_at dksX5_postsFor_6 8 rfl rfl)
theorem dX5_postsFor_149 : decode cX5_postsFor 149 = .ok (.ifCond .ne 16, 3) := dk_154 0 16 (dk_at dksX5_postsFor_6 9 rfl rfl)
theorem dX5_postsFor_152 : decode cX5_postsFor 152 = .ok (.iload 4, 2) := dk_21 4 (dk_at dksX5_postsFor_6 12 rfl rfl)
theorem dX5_postsFor_154 : decode cX5_postsFor 154 = .ok (.iload 6, 2) := dk_21 6 (dk_at dksX5_postsFor_6 14 rfl rfl)
theorem dX5_postsFor_156 : decode cX5_postsFor 156 = .ok (.iconst (-1), 1) := dk_2 (dk_at dksX5_postsFor_6 16 rfl rfl)
theorem dX5_postsFor_157 : decode cX5_postsFor 157 = .ok (.ixor, 1) := dk_130 (dk_at dksX5_postsFor_6 17 rfl rfl)
theorem dX5_postsFor_158 : decode cX5_postsFor 158 = .ok (.iand, 1) := dk_126 (dk_at dksX5_postsFor_6 18 rfl rfl)
theorem dX5_postsFor_159 : decode cX5_postsFor 159 = .ok (.ifCond .ne 6, 3) := dk_154 0 6 (dk_at dksX5_postsFor_6 19 rfl rfl)
theorem dX5_postsFor_162 : decode cX5_postsFor 162 = .ok (.iload 4, 2) := dk_21 4 (dk_at dksX5_postsFor_6 22 rfl rfl)
theorem dX5_postsFor_164 : decode cX5_postsFor 164 = .ok (.istore_n 3, 1) := dk_62 (dk_at dksX5_postsFor_7 0 rfl rfl)
theorem dX5_postsFor_165 : decode cX5_postsFor 165 = .ok (.iinc 4 1, 3) := dk_132 4 1 (dk_at dksX5_postsFor_7 1 rfl rfl)
theorem dX5_postsFor_168 : decode cX5_postsFor 168 = .ok (.goto (-131), 3) := dk_167 255 125 (dk_at dksX5_postsFor_7 4 rfl rfl)
theorem dX5_postsFor_171 : decode cX5_postsFor 171 = .ok (.iload_n 3, 1) := dk_29 (dk_at dksX5_postsFor_7 7 rfl rfl)
theorem dX5_postsFor_172 : decode cX5_postsFor 172 = .ok (.ireturn, 1) := dk_172 (dk_at dksX5_postsFor_7 8 rfl rfl)
abbrev cX5_bits : ByteArray := prog_15_method_9_code
def yX5_bits : MethodName := ⟨RX5, "bits", "(I)I"⟩
def dkwX5_bits_0 : List UInt8 := [3, 60, 26, 61, 28, 153, 0, 15, 132, 1, 1, 28, 28, 4, 100, 126, 61, 167, 255, 243, 27, 172]
abbrev dktX5_bits_0 : List UInt8 := dkwX5_bits_0 ++ []
theorem dksX5_bits_0 : cX5_bits.data.toList.drop 0 = dktX5_bits_0 := by decide +kernel
theorem dX5_bits_0 : decode cX5_bits 0 = .ok (.iconst 0, 1) := dk_3 (dk_at dksX5_bits_0 0 rfl rfl)
theorem dX5_bits_1 : decode cX5_bits 1 = .ok (.istore_n 1, 1) := dk_60 (dk_at dksX5_bits_0 1 rfl rfl)
theorem dX5_bits_2 : decode cX5_bits 2 = .ok (.iload_n 0, 1) := dk_26 (dk_at dksX5_bits_0 2 rfl rfl)
theorem dX5_bits_3 : decode cX5_bits 3 = .ok (.istore_n 2, 1) := dk_61 (dk_at dksX5_bits_0 3 rfl rfl)
theorem dX5_bits_4 : decode cX5_bits 4 = .ok (.iload_n 2, 1) := dk_28 (dk_at dksX5_bits_0 4 rfl rfl)
theorem dX5_bits_5 : decode cX5_bits 5 = .ok (.ifCond .eq 15, 3) := dk_153 0 15 (dk_at dksX5_bits_0 5 rfl rfl)
theorem dX5_bits_8 : decode cX5_bits 8 = .ok (.iinc 1 1, 3) := dk_132 1 1 (dk_at dksX5_bits_0 8 rfl rfl)
theorem dX5_bits_11 : decode cX5_bits 11 = .ok (.iload_n 2, 1) := dk_28 (dk_at dksX5_bits_0 11 rfl rfl)
theorem dX5_bits_12 : decode cX5_bits 12 = .ok (.iload_n 2, 1) := dk_28 (dk_at dksX5_bits_0 12 rfl rfl)
theorem dX5_bits_13 : decode cX5_bits 13 = .ok (.iconst 1, 1) := dk_4 (dk_at dksX5_bits_0 13 rfl rfl)
theorem dX5_bits_14 : decode cX5_bits 14 = .ok (.isub, 1) := dk_100 (dk_at dksX5_bits_0 14 rfl rfl)
theorem dX5_bits_15 : decode cX5_bits 15 = .ok (.iand, 1) := dk_126 (dk_at dksX5_bits_0 15 rfl rfl)
theorem dX5_bits_16 : decode cX5_bits 16 = .ok (.istore_n 2, 1) := dk_61 (dk_at dksX5_bits_0 16 rfl rfl)
theorem dX5_bits_17 : decode cX5_bits 17 = .ok (.goto (-13), 3) := dk_167 255 243 (dk_at dksX5_bits_0 17 rfl rfl)
theorem dX5_bits_20 : decode cX5_bits 20 = .ok (.iload_n 1, 1) := dk_27 (dk_at dksX5_bits_0 20 rfl rfl)
theorem dX5_bits_21 : decode cX5_bits 21 = .ok (.ireturn, 1) := dk_172 (dk_at dksX5_bits_0 21 rfl rfl)
abbrev cX5_postsAt : ByteArray := prog_15_method_79_code
def yX5_postsAt : MethodName := ⟨RX5, "postsAt", "(II)I"⟩
def dkwX5_postsAt_1 : List UInt8 := [42, 42, 27, 28, 182, 1, 211, 3, 182, 0, 66, 172]
abbrev dktX5_postsAt_1 : List UInt8 := dkwX5_postsAt_1 ++ []
def dkwX5_postsAt_0 : List UInt8 := [42, 3, 181, 0, 56, 42, 27, 28, 182, 1, 208, 62, 29, 158, 0, 11, 42, 29, 182, 0, 62, 167, 0, 14]
abbrev dktX5_postsAt_0 : List UInt8 := dkwX5_postsAt_0 ++ dktX5_postsAt_1
theorem dksX5_postsAt_0 : cX5_postsAt.data.toList.drop 0 = dktX5_postsAt_0 := by decide +kernel
theorem dksX5_postsAt_1 : cX5_postsAt.data.toList.drop 24 = dktX5_postsAt_1 := dk_seg dksX5_postsAt_0 24 rfl rfl
theorem dX5_postsAt_0 : decode cX5_postsAt 0 = .ok (.aload_n 0, 1) := dk_42 (dk_at dksX5_postsAt_0 0 rfl rfl)
theorem dX5_postsAt_1 : decode cX5_postsAt 1 = .ok (.iconst 0, 1) := dk_3 (dk_at dksX5_postsAt_0 1 rfl rfl)
theorem dX5_postsAt_2 : decode cX5_postsAt 2 = .ok (.putfield 56, 3) := dk_181 0 56 (dk_at dksX5_postsAt_0 2 rfl rfl)
theorem dX5_postsAt_5 : decode cX5_postsAt 5 = .ok (.aload_n 0, 1) := dk_42 (dk_at dksX5_postsAt_0 5 rfl rfl)
theorem dX5_postsAt_6 : decode cX5_postsAt 6 = .ok (.iload_n 1, 1) := dk_27 (dk_at dksX5_postsAt_0 6 rfl rfl)
theorem dX5_postsAt_7 : decode cX5_postsAt 7 = .ok (.iload_n 2, 1) := dk_28 (dk_at dksX5_postsAt_0 7 rfl rfl)
theorem dX5_postsAt_8 : decode cX5_postsAt 8 = .ok (.invokevirtual 464, 3) := dk_182 1 208 (dk_at dksX5_postsAt_0 8 rfl rfl)
theorem dX5_postsAt_11 : decode cX5_postsAt 11 = .ok (.istore_n 3, 1) := dk_62 (dk_at dksX5_postsAt_0 11 rfl rfl)
theorem dX5_postsAt_12 : decode cX5_postsAt 12 = .ok (.iload_n 3, 1) := dk_29 (dk_at dksX5_postsAt_0 12 rfl rfl)
theorem dX5_postsAt_13 : decode cX5_postsAt 13 = .ok (.ifCond .le 11, 3) := dk_158 0 11 (dk_at dksX5_postsAt_0 13 rfl rfl)
theorem dX5_postsAt_16 : decode cX5_postsAt 16 = .ok (.aload_n 0, 1) := dk_42 (dk_at dksX5_postsAt_0 16 rfl rfl)
theorem dX5_postsAt_17 : decode cX5_postsAt 17 = .ok (.iload_n 3, 1) := dk_29 (dk_at dksX5_postsAt_0 17 rfl rfl)
theorem dX5_postsAt_18 : decode cX5_postsAt 18 = .ok (.invokevirtual 62, 3) := dk_182 0 62 (dk_at dksX5_postsAt_0 18 rfl rfl)
theorem dX5_postsAt_21 : decode cX5_postsAt 21 = .ok (.goto 14, 3) := dk_167 0 14 (dk_at dksX5_postsAt_0 21 rfl rfl)
theorem dX5_postsAt_24 : decode cX5_postsAt 24 = .ok (.aload_n 0, 1) := dk_42 (dk_at dksX5_postsAt_1 0 rfl rfl)
theorem dX5_postsAt_25 : decode cX5_postsAt 25 = .ok (.aload_n 0, 1) := dk_42 (dk_at dksX5_postsAt_1 1 rfl rfl)
theorem dX5_postsAt_26 : decode cX5_postsAt 26 = .ok (.iload_n 1, 1) := dk_27 (dk_at dksX5_postsAt_1 2 rfl rfl)
theorem dX5_postsAt_27 : decode cX5_postsAt 27 = .ok (.iload_n 2, 1) := dk_28 (dk_at dksX5_postsAt_1 3 rfl rfl)
theorem dX5_postsAt_28 : decode cX5_postsAt 28 = .ok (.invokevirtual 467, 3) := dk_182 1 211 (dk_at dksX5_postsAt_1 4 rfl rfl)
theorem dX5_postsAt_31 : decode cX5_postsAt 31 = .ok (.iconst 0, 1) := dk_3 (dk_at dksX5_postsAt_1 7 rfl rfl)
theorem dX5_postsAt_32 : decode cX5_postsAt 32 = .ok (.invokevirtual 66, 3) := dk_182 0 66 (dk_at dksX5_postsAt_1 8 rfl rfl)
theorem dX5_postsAt_35 : decode cX5_postsAt 35 = .ok (.ireturn, 1) := dk_172 (dk_at dksX5_postsAt_1 11 rfl rfl)
abbrev cX5_go : ByteArray := prog_15_method_93_code
def yX5_go : MethodName := ⟨RX5, "go", "(II)I"⟩
def dkwX5_go_5 : List UInt8 := [172]
abbrev dktX5_go_5 : List UInt8 := dkwX5_go_5 ++ []
def dkwX5_go_4 : List UInt8 := [16, 30, 162, 0, 9, 42, 21, 4, 182, 2, 1, 132, 4, 1, 167, 255, 201, 42, 16, 254, 3, 182, 0, 66]
abbrev dktX5_go_4 : List UInt8 := dkwX5_go_4 ++ dktX5_go_5
def dkwX5_go_3 : List UInt8 := [96, 51, 153, 0, 19, 42, 27, 29, 21, 4, 182, 1, 253, 42, 21, 4, 3, 182, 0, 66, 172, 21, 4]
abbrev dktX5_go_3 : List UInt8 := dkwX5_go_3 ++ dktX5_go_4
def dkwX5_go_2 : List UInt8 := [182, 1, 250, 3, 54, 4, 21, 4, 16, 30, 163, 0, 54, 42, 180, 0, 33, 17, 3, 232, 21, 4, 104, 29]
abbrev dktX5_go_2 : List UInt8 := dkwX5_go_2 ++ dktX5_go_3
def dkwX5_go_1 : List UInt8 := [182, 1, 241, 154, 0, 9, 42, 5, 182, 0, 62, 172, 42, 27, 182, 1, 244, 42, 28, 182, 1, 247, 62, 42]
abbrev dktX5_go_1 : List UInt8 := dkwX5_go_1 ++ dktX5_go_2
def dkwX5_go_0 : List UInt8 := [42, 3, 181, 0, 56, 42, 28, 182, 1, 158, 154, 0, 9, 42, 4, 182, 0, 62, 172, 42, 27, 6]
abbrev dktX5_go_0 : List UInt8 := dkwX5_go_0 ++ dktX5_go_1
theorem dksX5_go_0 : cX5_go.data.toList.drop 0 = dktX5_go_0 := by decide +kernel
theorem dksX5_go_1 : cX5_go.data.toList.drop 22 = dktX5_go_1 := dk_seg dksX5_go_0 22 rfl rfl
theorem dksX5_go_2 : cX5_go.data.toList.drop 46 = dktX5_go_2 := dk_seg dksX5_go_1 24 rfl rfl
theorem dksX5_go_3 : cX5_go.data.toList.drop 70 = dktX5_go_3 := dk_seg dksX5_go_2 24 rfl rfl
theorem dksX5_go_4 : cX5_go.data.toList.drop 93 = dktX5_go_4 := dk_seg dksX5_go_3 23 rfl rfl
theorem dksX5_go_5 : cX5_go.data.toList.drop 117 = dktX5_go_5 := dk_seg dksX5_go_4 24 rfl rfl
theorem dX5_go_0 : decode cX5_go 0 = .ok (.aload_n 0, 1) := dk_42 (dk_at dksX5_go_0 0 rfl rfl)
theorem dX5_go_1 : decode cX5_go 1 = .ok (.iconst 0, 1) := dk_3 (dk_at dksX5_go_0 1 rfl rfl)
theorem dX5_go_2 : decode cX5_go 2 = .ok (.putfield 56, 3) := dk_181 0 56 (dk_at dksX5_go_0 2 rfl rfl)
theorem dX5_go_5 : decode cX5_go 5 = .ok (.aload_n 0, 1) := dk_42 (dk_at dksX5_go_0 5 rfl rfl)
theorem dX5_go_6 : decode cX5_go 6 = .ok (.iload_n 2, 1) := dk_28 (dk_at dksX5_go_0 6 rfl rfl)
theorem dX5_go_7 : decode cX5_go 7 = .ok (.invokevirtual 414, 3) := dk_182 1 158 (dk_at dksX5_go_0 7 rfl rfl)
theorem dX5_go_10 : decode cX5_go 10 = .ok (.ifCond .ne 9, 3) := dk_154 0 9 (dk_at dksX5_go_0 10 rfl rfl)
theorem dX5_go_13 : decode cX5_go 13 = .ok (.aload_n 0, 1) := dk_42 (dk_at dksX5_go_0 13 rfl rfl)
theorem dX5_go_14 : decode cX5_go 14 = .ok (.iconst 1, 1) := dk_4 (dk_at dksX5_go_0 14 rfl rfl)
theorem dX5_go_15 : decode cX5_go 15 = .ok (.invokevirtual 62, 3) := dk_182 0 62 (dk_at dksX5_go_0 15 rfl rfl)
theorem dX5_go_18 : decode cX5_go 18 = .ok (.ireturn, 1) := dk_172 (dk_at dksX5_go_0 18 rfl rfl)
theorem dX5_go_19 : decode cX5_go 19 = .ok (.aload_n 0, 1) := dk_42 (dk_at dksX5_go_0 19 rfl rfl)
theorem dX5_go_20 : decode cX5_go 20 = .ok (.iload_n 1, 1) := dk_27 (dk_at dksX5_go_0 20 rfl rfl)
theorem dX5_go_21 : decode cX5_go 21 = .ok (.iconst 3, 1) := dk_6 (dk_at dksX5_go_0 21 rfl rfl)
theorem dX5_go_22 : decode cX5_go 22 = .ok (.invokevirtual 497, 3) := dk_182 1 241 (dk_at dksX5_go_1 0 rfl rfl)
theorem dX5_go_25 : decode cX5_go 25 = .ok (.ifCond .ne 9, 3) := dk_154 0 9 (dk_at dksX5_go_1 3 rfl rfl)
theorem dX5_go_28 : decode cX5_go 28 = .ok (.aload_n 0, 1) := dk_42 (dk_at dksX5_go_1 6 rfl rfl)
theorem dX5_go_29 : decode cX5_go 29 = .ok (.iconst 2, 1) := dk_5 (dk_at dksX5_go_1 7 rfl rfl)
theorem dX5_go_30 : decode cX5_go 30 = .ok (.invokevirtual 62, 3) := dk_182 0 62 (dk_at dksX5_go_1 8 rfl rfl)
theorem dX5_go_33 : decode cX5_go 33 = .ok (.ireturn, 1) := dk_172 (dk_at dksX5_go_1 11 rfl rfl)
theorem dX5_go_34 : decode cX5_go 34 = .ok (.aload_n 0, 1) := dk_42 (dk_at dksX5_go_1 12 rfl rfl)
theorem dX5_go_35 : decode cX5_go 35 = .ok (.iload_n 1, 1) := dk_27 (dk_at dksX5_go_1 13 rfl rfl)
theorem dX5_go_36 : decode cX5_go 36 = .ok (.invokevirtual 500, 3) := dk_182 1 244 (dk_at dksX5_go_1 14 rfl rfl)
theorem dX5_go_39 : decode cX5_go 39 = .ok (.aload_n 0, 1) := dk_42 (dk_at dksX5_go_1 17 rfl rfl)
theorem dX5_go_40 : decode cX5_go 40 = .ok (.iload_n 2, 1) := dk_28 (dk_at dksX5_go_1 18 rfl rfl)
theorem dX5_go_41 : decode cX5_go 41 = .ok (.invokevirtual 503, 3) := dk_182 1 247 (dk_at dksX5_go_1 19 rfl rfl)
theorem dX5_go_44 : decode cX5_go 44 = .ok (.istore_n 3, 1) := dk_62 (dk_at dksX5_go_1 22 rfl rfl)
theorem dX5_go_45 : decode cX5_go 45 = .ok (.aload_n 0, 1) := dk_42 (dk_at dksX5_go_1 23 rfl rfl)
theorem dX5_go_46 : decode cX5_go 46 = .ok (.invokevirtual 506, 3) := dk_182 1 250 (dk_at dksX5_go_2 0 rfl rfl)
theorem dX5_go_49 : decode cX5_go 49 = .ok (.iconst 0, 1) := dk_3 (dk_at dksX5_go_2 3 rfl rfl)
theorem dX5_go_50 : decode cX5_go 50 = .ok (.istore 4, 2) := dk_54 4 (dk_at dksX5_go_2 4 rfl rfl)
theorem dX5_go_52 : decode cX5_go 52 = .ok (.iload 4, 2) := dk_21 4 (dk_at dksX5_go_2 6 rfl rfl)
theorem dX5_go_54 : decode cX5_go 54 = .ok (.bipush 30, 2) := dk_16 30 (dk_at dksX5_go_2 8 rfl rfl)
theorem dX5_go_56 : decode cX5_go 56 = .ok (.if_icmp .gt 54, 3) := dk_163 0 54 (dk_at dksX5_go_2 10 rfl rfl)
theorem dX5_go_59 : decode cX5_go 59 = .ok (.aload_n 0, 1) := dk_42 (dk_at dksX5_go_2 13 rfl rfl)
theorem dX5_go_60 : decode cX5_go 60 = .ok (.getfield 33, 3) := dk_180 0 33 (dk_at dksX5_go_2 14 rfl rfl)
theorem dX5_go_63 : decode cX5_go 63 = .ok (.sipush 1000, 3) := dk_17 3 232 (dk_at dksX5_go_2 17 rfl rfl)
theorem dX5_go_66 : decode cX5_go 66 = .ok (.iload 4, 2) := dk_21 4 (dk_at dksX5_go_2 20 rfl rfl)
theorem dX5_go_68 : decode cX5_go 68 = .ok (.imul, 1) := dk_104 (dk_at dksX5_go_2 22 rfl rfl)
theorem dX5_go_69 : decode cX5_go 69 = .ok (.iload_n 3, 1) := dk_29 (dk_at dksX5_go_2 23 rfl rfl)
theorem dX5_go_70 : decode cX5_go 70 = .ok (.iadd, 1) := dk_96 (dk_at dksX5_go_3 0 rfl rfl)
theorem dX5_go_71 : decode cX5_go 71 = .ok (.baload, 1) := dk_51 (dk_at dksX5_go_3 1 rfl rfl)
theorem dX5_go_72 : decode cX5_go 72 = .ok (.ifCond .eq 19, 3) := dk_153 0 19 (dk_at dksX5_go_3 2 rfl rfl)
theorem dX5_go_75 : decode cX5_go 75 = .ok (.aload_n 0, 1) := dk_42 (dk_at dksX5_go_3 5 rfl rfl)
theorem dX5_go_76 : decode cX5_go 76 = .ok (.iload_n 1, 1) := dk_27 (dk_at dksX5_go_3 6 rfl rfl)
theorem dX5_go_77 : decode cX5_go 77 = .ok (.iload_n 3, 1) := dk_29 (dk_at dksX5_go_3 7 rfl rfl)
theorem dX5_go_78 : decode cX5_go 78 = .ok (.iload 4, 2) := dk_21 4 (dk_at dksX5_go_3 8 rfl rfl)
theorem dX5_go_80 : decode cX5_go 80 = .ok (.invokevirtual 509, 3) := dk_182 1 253 (dk_at dksX5_go_3 10 rfl rfl)
theorem dX5_go_83 : decode cX5_go 83 = .ok (.aload_n 0, 1) := dk_42 (dk_at dksX5_go_3 13 rfl rfl)
theorem dX5_go_84 : decode cX5_go 84 = .ok (.iload 4, 2) := dk_21 4 (dk_at dksX5_go_3 14 rfl rfl)
theorem dX5_go_86 : decode cX5_go 86 = .ok (.iconst 0, 1) := dk_3 (dk_at dksX5_go_3 16 rfl rfl)
theorem dX5_go_87 : decode cX5_go 87 = .ok (.invokevirtual 66, 3) := dk_182 0 66 (dk_at dksX5_go_3 17 rfl rfl)
theorem dX5_go_90 : decode cX5_go 90 = .ok (.ireturn, 1) := dk_172 (dk_at dksX5_go_3 20 rfl rfl)
theorem dX5_go_91 : decode cX5_go 91 = .ok (.iload 4, 2) := dk_21 4 (dk_at dksX5_go_3 21 rfl rfl)
theorem dX5_go_93 : decode cX5_go 93 = .ok (.bipush 30, 2) := dk_16 30 (dk_at dksX5_go_4 0 rfl rfl)
theorem dX5_go_95 : decode cX5_go 95 = .ok (.if_icmp .ge 9, 3) := dk_162 0 9 (dk_at dksX5_go_4 2 rfl rfl)
theorem dX5_go_98 : decode cX5_go 98 = .ok (.aload_n 0, 1) := dk_42 (dk_at dksX5_go_4 5 rfl rfl)
theorem dX5_go_99 : decode cX5_go 99 = .ok (.iload 4, 2) := dk_21 4 (dk_at dksX5_go_4 6 rfl rfl)
theorem dX5_go_101 : decode cX5_go 101 = .ok (.invokevirtual 513, 3) := dk_182 2 1 (dk_at dksX5_go_4 8 rfl rfl)
theorem dX5_go_104 : decode cX5_go 104 = .ok (.iinc 4 1, 3) := dk_132 4 1 (dk_at dksX5_go_4 11 rfl rfl)
theorem dX5_go_107 : decode cX5_go 107 = .ok (.goto (-55), 3) := dk_167 255 201 (dk_at dksX5_go_4 14 rfl rfl)
theorem dX5_go_110 : decode cX5_go 110 = .ok (.aload_n 0, 1) := dk_42 (dk_at dksX5_go_4 17 rfl rfl)
theorem dX5_go_111 : decode cX5_go 111 = .ok (.bipush (-2), 2) := dk_16 254 (dk_at dksX5_go_4 18 rfl rfl)
theorem dX5_go_113 : decode cX5_go 113 = .ok (.iconst 0, 1) := dk_3 (dk_at dksX5_go_4 20 rfl rfl)
theorem dX5_go_114 : decode cX5_go 114 = .ok (.invokevirtual 66, 3) := dk_182 0 66 (dk_at dksX5_go_4 21 rfl rfl)
theorem dX5_go_117 : decode cX5_go 117 = .ok (.ireturn, 1) := dk_172 (dk_at dksX5_go_5 0 rfl rfl)
abbrev cX5_isMovers : ByteArray := prog_15_method_81_code
def yX5_isMovers : MethodName := ⟨RX5, "isMovers", "(II)Z"⟩
def dkwX5_isMovers_1 : List UInt8 := [27, 184, 1, 205, 28, 163, 0, 7, 4, 167, 0, 4, 3, 172]
abbrev dktX5_isMovers_1 : List UInt8 := dkwX5_isMovers_1 ++ []
def dkwX5_isMovers_0 : List UInt8 := [42, 180, 1, 124, 198, 0, 32, 27, 158, 0, 28, 27, 4, 42, 180, 1, 124, 180, 0, 221, 120, 162, 0, 15]
abbrev dktX5_isMovers_0 : List UInt8 := dkwX5_isMovers_0 ++ dktX5_isMovers_1
theorem dksX5_isMovers_0 : cX5_isMovers.data.toList.drop 0 = dktX5_isMovers_0 := by decide +kernel
theorem dksX5_isMovers_1 : cX5_isMovers.data.toList.drop 24 = dktX5_isMovers_1 := dk_seg dksX5_isMovers_0 24 rfl rfl
theorem dX5_isMovers_0 : decode cX5_isMovers 0 = .ok (.aload_n 0, 1) := dk_42 (dk_at dksX5_isMovers_0 0 rfl rfl)
theorem dX5_isMovers_1 : decode cX5_isMovers 1 = .ok (.getfield 380, 3) := dk_180 1 124 (dk_at dksX5_isMovers_0 1 rfl rfl)
theorem dX5_isMovers_4 : decode cX5_isMovers 4 = .ok (.ifnull 32, 3) := dk_198 0 32 (dk_at dksX5_isMovers_0 4 rfl rfl)
theorem dX5_isMovers_7 : decode cX5_isMovers 7 = .ok (.iload_n 1, 1) := dk_27 (dk_at dksX5_isMovers_0 7 rfl rfl)
theorem dX5_isMovers_8 : decode cX5_isMovers 8 = .ok (.ifCond .le 28, 3) := dk_158 0 28 (dk_at dksX5_isMovers_0 8 rfl rfl)
theorem dX5_isMovers_11 : decode cX5_isMovers 11 = .ok (.iload_n 1, 1) := dk_27 (dk_at dksX5_isMovers_0 11 rfl rfl)
theorem dX5_isMovers_12 : decode cX5_isMovers 12 = .ok (.iconst 1, 1) := dk_4 (dk_at dksX5_isMovers_0 12 rfl rfl)
theorem dX5_isMovers_13 : decode cX5_isMovers 13 = .ok (.aload_n 0, 1) := dk_42 (dk_at dksX5_isMovers_0 13 rfl rfl)
theorem dX5_isMovers_14 : decode cX5_isMovers 14 = .ok (.getfield 380, 3) := dk_180 1 124 (dk_at dksX5_isMovers_0 14 rfl rfl)
theorem dX5_isMovers_17 : decode cX5_isMovers 17 = .ok (.getfield 221, 3) := dk_180 0 221 (dk_at dksX5_isMovers_0 17 rfl rfl)
theorem dX5_isMovers_20 : decode cX5_isMovers 20 = .ok (.ishl, 1) := dk_120 (dk_at dksX5_isMovers_0 20 rfl rfl)
theorem dX5_isMovers_21 : decode cX5_isMovers 21 = .ok (.if_icmp .ge 15, 3) := dk_162 0 15 (dk_at dksX5_isMovers_0 21 rfl rfl)
theorem dX5_isMovers_24 : decode cX5_isMovers 24 = .ok (.iload_n 1, 1) := dk_27 (dk_at dksX5_isMovers_1 0 rfl rfl)
theorem dX5_isMovers_25 : decode cX5_isMovers 25 = .ok (.invokestatic 461, 3) := dk_184 1 205 (dk_at dksX5_isMovers_1 1 rfl rfl)
theorem dX5_isMovers_28 : decode cX5_isMovers 28 = .ok (.iload_n 2, 1) := dk_28 (dk_at dksX5_isMovers_1 4 rfl rfl)
theorem dX5_isMovers_29 : decode cX5_isMovers 29 = .ok (.if_icmp .gt 7, 3) := dk_163 0 7 (dk_at dksX5_isMovers_1 5 rfl rfl)
theorem dX5_isMovers_32 : decode cX5_isMovers 32 = .ok (.iconst 1, 1) := dk_4 (dk_at dksX5_isMovers_1 8 rfl rfl)
theorem dX5_isMovers_33 : decode cX5_isMovers 33 = .ok (.goto 4, 3) := dk_167 0 4 (dk_at dksX5_isMovers_1 9 rfl rfl)
theorem dX5_isMovers_36 : decode cX5_isMovers 36 = .ok (.iconst 0, 1) := dk_3 (dk_at dksX5_isMovers_1 12 rfl rfl)
theorem dX5_isMovers_37 : decode cX5_isMovers 37 = .ok (.ireturn, 1) := dk_172 (dk_at dksX5_isMovers_1 13 rfl rfl)
abbrev cX5_takesMovers : ByteArray := prog_15_method_80_code
def yX5_takesMovers : MethodName := ⟨RX5, "takesMovers", "(I)V"⟩
def dkwX5_takesMovers_3 : List UInt8 := [167, 255, 200, 177]
abbrev dktX5_takesMovers_3 : List UInt8 := dkwX5_takesMovers_3 ++ []
def dkwX5_takesMovers_2 : List UInt8 := [180, 1, 214, 4, 96, 181, 1, 214, 42, 89, 180, 1, 217, 16, 10, 104, 181, 1, 217, 132, 2, 1]
abbrev dktX5_takesMovers_2 : List UInt8 := dkwX5_takesMovers_2 ++ dktX5_takesMovers_3
def dkwX5_takesMovers_1 : List UInt8 := [28, 184, 1, 142, 154, 0, 6, 167, 0, 34, 42, 180, 0, 30, 42, 180, 1, 214, 28, 79, 42, 89]
abbrev dktX5_takesMovers_1 : List UInt8 := dkwX5_takesMovers_1 ++ dktX5_takesMovers_2
def dkwX5_takesMovers_0 : List UInt8 := [42, 3, 181, 1, 214, 42, 4, 181, 1, 217, 3, 61, 28, 42, 180, 1, 124, 180, 0, 221, 162, 0, 51, 27]
abbrev dktX5_takesMovers_0 : List UInt8 := dkwX5_takesMovers_0 ++ dktX5_takesMovers_1
theorem dksX5_takesMovers_0 : cX5_takesMovers.data.toList.drop 0 = dktX5_takesMovers_0 := by decide +kernel
theorem dksX5_takesMovers_1 : cX5_takesMovers.data.toList.drop 24 = dktX5_takesMovers_1 := dk_seg dksX5_takesMovers_0 24 rfl rfl
theorem dksX5_takesMovers_2 : cX5_takesMovers.data.toList.drop 46 = dktX5_takesMovers_2 := dk_seg dksX5_takesMovers_1 22 rfl rfl
theorem dksX5_takesMovers_3 : cX5_takesMovers.data.toList.drop 68 = dktX5_takesMovers_3 := dk_seg dksX5_takesMovers_2 22 rfl rfl
theorem dX5_takesMovers_0 : decode cX5_takesMovers 0 = .ok (.aload_n 0, 1) := dk_42 (dk_at dksX5_takesMovers_0 0 rfl rfl)
theorem dX5_takesMovers_1 : decode cX5_takesMovers 1 = .ok (.iconst 0, 1) := dk_3 (dk_at dksX5_takesMovers_0 1 rfl rfl)
theorem dX5_takesMovers_2 : decode cX5_takesMovers 2 = .ok (.putfield 470, 3) := dk_181 1 214 (dk_at dksX5_takesMovers_0 2 rfl rfl)
theorem dX5_takesMovers_5 : decode cX5_takesMovers 5 = .ok (.aload_n 0, 1) := dk_42 (dk_at dksX5_takesMovers_0 5 rfl rfl)
theorem dX5_takesMovers_6 : decode cX5_takesMovers 6 = .ok (.iconst 1, 1) := dk_4 (dk_at dksX5_takesMovers_0 6 rfl rfl)
theorem dX5_takesMovers_7 : decode cX5_takesMovers 7 = .ok (.putfield 473, 3) := dk_181 1 217 (dk_at dksX5_takesMovers_0 7 rfl rfl)
theorem dX5_takesMovers_10 : decode cX5_takesMovers 10 = .ok (.iconst 0, 1) := dk_3 (dk_at dksX5_takesMovers_0 10 rfl rfl)
theorem dX5_takesMovers_11 : decode cX5_takesMovers 11 = .ok (.istore_n 2, 1) := dk_61 (dk_at dksX5_takesMovers_0 11 rfl rfl)
theorem dX5_takesMovers_12 : decode cX5_takesMovers 12 = .ok (.iload_n 2, 1) := dk_28 (dk_at dksX5_takesMovers_0 12 rfl rfl)
theorem dX5_takesMovers_13 : decode cX5_takesMovers 13 = .ok (.aload_n 0, 1) := dk_42 (dk_at dksX5_takesMovers_0 13 rfl rfl)
theorem dX5_takesMovers_14 : decode cX5_takesMovers 14 = .ok (.getfield 380, 3) := dk_180 1 124 (dk_at dksX5_takesMovers_0 14 rfl rfl)
theorem dX5_takesMovers_17 : decode cX5_takesMovers 17 = .ok (.getfield 221, 3) := dk_180 0 221 (dk_at dksX5_takesMovers_0 17 rfl rfl)
theorem dX5_takesMovers_20 : decode cX5_takesMovers 20 = .ok (.if_icmp .ge 51, 3) := dk_162 0 51 (dk_at dksX5_takesMovers_0 20 rfl rfl)
theorem dX5_takesMovers_23 : decode cX5_takesMovers 23 = .ok (.iload_n 1, 1) := dk_27 (dk_at dksX5_takesMovers_0 23 rfl rfl)
theorem dX5_takesMovers_24 : decode cX5_takesMovers 24 = .ok (.iload_n 2, 1) := dk_28 (dk_at dksX5_takesMovers_1 0 rfl rfl)
theorem dX5_takesMovers_25 : decode cX5_takesMovers 25 = .ok (.invokestatic 398, 3) := dk_184 1 142 (dk_at dksX5_takesMovers_1 1 rfl rfl)
theorem dX5_takesMovers_28 : decode cX5_takesMovers 28 = .ok (.ifCond .ne 6, 3) := dk_154 0 6 (dk_at dksX5_takesMovers_1 4 rfl rfl)
theorem dX5_takesMovers_31 : decode cX5_takesMovers 31 = .ok (.goto 34, 3) := dk_167 0 34 (dk_at dksX5_takesMovers_1 7 rfl rfl)
theorem dX5_takesMovers_34 : decode cX5_takesMovers 34 = .ok (.aload_n 0, 1) := dk_42 (dk_at dksX5_takesMovers_1 10 rfl rfl)
theorem dX5_takesMovers_35 : decode cX5_takesMovers 35 = .ok (.getfield 30, 3) := dk_180 0 30 (dk_at dksX5_takesMovers_1 11 rfl rfl)
theorem dX5_takesMovers_38 : decode cX5_takesMovers 38 = .ok (.aload_n 0, 1) := dk_42 (dk_at dksX5_takesMovers_1 14 rfl rfl)
theorem dX5_takesMovers_39 : decode cX5_takesMovers 39 = .ok (.getfield 470, 3) := dk_180 1 214 (dk_at dksX5_takesMovers_1 15 rfl rfl)
theorem dX5_takesMovers_42 : decode cX5_takesMovers 42 = .ok (.iload_n 2, 1) := dk_28 (dk_at dksX5_takesMovers_1 18 rfl rfl)
theorem dX5_takesMovers_43 : decode cX5_takesMovers 43 = .ok (.iastore, 1) := dk_79 (dk_at dksX5_takesMovers_1 19 rfl rfl)
theorem dX5_takesMovers_44 : decode cX5_takesMovers 44 = .ok (.aload_n 0, 1) := dk_42 (dk_at dksX5_takesMovers_1 20 rfl rfl)
theorem dX5_takesMovers_45 : decode cX5_takesMovers 45 = .ok (.dup, 1) := dk_89 (dk_at dksX5_takesMovers_1 21 rfl rfl)
theorem dX5_takesMovers_46 : decode cX5_takesMovers 46 = .ok (.getfield 470, 3) := dk_180 1 214 (dk_at dksX5_takesMovers_2 0 rfl rfl)
theorem dX5_takesMovers_49 : decode cX5_takesMovers 49 = .ok (.iconst 1, 1) := dk_4 (dk_at dksX5_takesMovers_2 3 rfl rfl)
theorem dX5_takesMovers_50 : decode cX5_takesMovers 50 = .ok (.iadd, 1) := dk_96 (dk_at dksX5_takesMovers_2 4 rfl rfl)
theorem dX5_takesMovers_51 : decode cX5_takesMovers 51 = .ok (.putfield 470, 3) := dk_181 1 214 (dk_at dksX5_takesMovers_2 5 rfl rfl)
theorem dX5_takesMovers_54 : decode cX5_takesMovers 54 = .ok (.aload_n 0, 1) := dk_42 (dk_at dksX5_takesMovers_2 8 rfl rfl)
theorem dX5_takesMovers_55 : decode cX5_takesMovers 55 = .ok (.dup, 1) := dk_89 (dk_at dksX5_takesMovers_2 9 rfl rfl)
theorem dX5_takesMovers_56 : decode cX5_takesMovers 56 = .ok (.getfield 473, 3) := dk_180 1 217 (dk_at dksX5_takesMovers_2 10 rfl rfl)
theorem dX5_takesMovers_59 : decode cX5_takesMovers 59 = .ok (.bipush 10, 2) := dk_16 10 (dk_at dksX5_takesMovers_2 13 rfl rfl)
theorem dX5_takesMovers_61 : decode cX5_takesMovers 61 = .ok (.imul, 1) := dk_104 (dk_at dksX5_takesMovers_2 15 rfl rfl)
theorem dX5_takesMovers_62 : decode cX5_takesMovers 62 = .ok (.putfield 473, 3) := dk_181 1 217 (dk_at dksX5_takesMovers_2 16 rfl rfl)
theorem dX5_takesMovers_65 : decode cX5_takesMovers 65 = .ok (.iinc 2 1, 3) := dk_132 2 1 (dk_at dksX5_takesMovers_2 19 rfl rfl)
theorem dX5_takesMovers_68 : decode cX5_takesMovers 68 = .ok (.goto (-56), 3) := dk_167 255 200 (dk_at dksX5_takesMovers_3 0 rfl rfl)
theorem dX5_takesMovers_71 : decode cX5_takesMovers 71 = .ok (.return_, 1) := dk_177 (dk_at dksX5_takesMovers_3 3 rfl rfl)
abbrev cX5_allAt : ByteArray := prog_15_method_90_code
def yX5_allAt : MethodName := ⟨RX5, "allAt", "(I)I"⟩
def dkwX5_allAt_1 : List UInt8 := [167, 255, 238, 28, 172]
abbrev dktX5_allAt_1 : List UInt8 := dkwX5_allAt_1 ++ []
def dkwX5_allAt_0 : List UInt8 := [3, 61, 3, 62, 29, 42, 180, 1, 214, 162, 0, 16, 16, 10, 28, 104, 27, 96, 61, 132, 3, 1]
abbrev dktX5_allAt_0 : List UInt8 := dkwX5_allAt_0 ++ dktX5_allAt_1
theorem dksX5_allAt_0 : cX5_allAt.data.toList.drop 0 = dktX5_allAt_0 := by decide +kernel
theorem dksX5_allAt_1 : cX5_allAt.data.toList.drop 22 = dktX5_allAt_1 := dk_seg dksX5_allAt_0 22 rfl rfl
theorem dX5_allAt_0 : decode cX5_allAt 0 = .ok (.iconst 0, 1) := dk_3 (dk_at dksX5_allAt_0 0 rfl rfl)
theorem dX5_allAt_1 : decode cX5_allAt 1 = .ok (.istore_n 2, 1) := dk_61 (dk_at dksX5_allAt_0 1 rfl rfl)
theorem dX5_allAt_2 : decode cX5_allAt 2 = .ok (.iconst 0, 1) := dk_3 (dk_at dksX5_allAt_0 2 rfl rfl)
theorem dX5_allAt_3 : decode cX5_allAt 3 = .ok (.istore_n 3, 1) := dk_62 (dk_at dksX5_allAt_0 3 rfl rfl)
theorem dX5_allAt_4 : decode cX5_allAt 4 = .ok (.iload_n 3, 1) := dk_29 (dk_at dksX5_allAt_0 4 rfl rfl)
theorem dX5_allAt_5 : decode cX5_allAt 5 = .ok (.aload_n 0, 1) := dk_42 (dk_at dksX5_allAt_0 5 rfl rfl)
theorem dX5_allAt_6 : decode cX5_allAt 6 = .ok (.getfield 470, 3) := dk_180 1 214 (dk_at dksX5_allAt_0 6 rfl rfl)
theorem dX5_allAt_9 : decode cX5_allAt 9 = .ok (.if_icmp .ge 16, 3) := dk_162 0 16 (dk_at dksX5_allAt_0 9 rfl rfl)
theorem dX5_allAt_12 : decode cX5_allAt 12 = .ok (.bipush 10, 2) := dk_16 10 (dk_at dksX5_allAt_0 12 rfl rfl)
theorem dX5_allAt_14 : decode cX5_allAt 14 = .ok (.iload_n 2, 1) := dk_28 (dk_at dksX5_allAt_0 14 rfl rfl)
theorem dX5_allAt_15 : decode cX5_allAt 15 = .ok (.imul, 1) := dk_104 (dk_at dksX5_allAt_0 15 rfl rfl)
theorem dX5_allAt_16 : decode cX5_allAt 16 = .ok (.iload_n 1, 1) := dk_27 (dk_at dksX5_allAt_0 16 rfl rfl)
theorem dX5_allAt_17 : decode cX5_allAt 17 = .ok (.iadd, 1) := dk_96 (dk_at dksX5_allAt_0 17 rfl rfl)
theorem dX5_allAt_18 : decode cX5_allAt 18 = .ok (.istore_n 2, 1) := dk_61 (dk_at dksX5_allAt_0 18 rfl rfl)
theorem dX5_allAt_19 : decode cX5_allAt 19 = .ok (.iinc 3 1, 3) := dk_132 3 1 (dk_at dksX5_allAt_0 19 rfl rfl)
theorem dX5_allAt_22 : decode cX5_allAt 22 = .ok (.goto (-18), 3) := dk_167 255 238 (dk_at dksX5_allAt_1 0 rfl rfl)
theorem dX5_allAt_25 : decode cX5_allAt 25 = .ok (.iload_n 2, 1) := dk_28 (dk_at dksX5_allAt_1 3 rfl rfl)
theorem dX5_allAt_26 : decode cX5_allAt 26 = .ok (.ireturn, 1) := dk_172 (dk_at dksX5_allAt_1 4 rfl rfl)
abbrev cX5_sets : ByteArray := prog_15_method_89_code
def yX5_sets : MethodName := ⟨RX5, "sets", "()V"⟩
def dkwX5_sets_1 : List UInt8 := [180, 0, 33, 42, 182, 1, 235, 4, 84, 177]
abbrev dktX5_sets_1 : List UInt8 := dkwX5_sets_1 ++ []
def dkwX5_sets_0 : List UInt8 := [3, 60, 27, 42, 180, 1, 217, 162, 0, 16, 42, 180, 0, 33, 27, 3, 84, 132, 1, 1, 167, 255, 238, 42]
abbrev dktX5_sets_0 : List UInt8 := dkwX5_sets_0 ++ dktX5_sets_1
theorem dksX5_sets_0 : cX5_sets.data.toList.drop 0 = dktX5_sets_0 := by decide +kernel
theorem dksX5_sets_1 : cX5_sets.data.toList.drop 24 = dktX5_sets_1 := dk_seg dksX5_sets_0 24 rfl rfl
theorem dX5_sets_0 : decode cX5_sets 0 = .ok (.iconst 0, 1) := dk_3 (dk_at dksX5_sets_0 0 rfl rfl)
theorem dX5_sets_1 : decode cX5_sets 1 = .ok (.istore_n 1, 1) := dk_60 (dk_at dksX5_sets_0 1 rfl rfl)
theorem dX5_sets_2 : decode cX5_sets 2 = .ok (.iload_n 1, 1) := dk_27 (dk_at dksX5_sets_0 2 rfl rfl)
theorem dX5_sets_3 : decode cX5_sets 3 = .ok (.aload_n 0, 1) := dk_42 (dk_at dksX5_sets_0 3 rfl rfl)
theorem dX5_sets_4 : decode cX5_sets 4 = .ok (.getfield 473, 3) := dk_180 1 217 (dk_at dksX5_sets_0 4 rfl rfl)
theorem dX5_sets_7 : decode cX5_sets 7 = .ok (.if_icmp .ge 16, 3) := dk_162 0 16 (dk_at dksX5_sets_0 7 rfl rfl)
theorem dX5_sets_10 : decode cX5_sets 10 = .ok (.aload_n 0, 1) := dk_42 (dk_at dksX5_sets_0 10 rfl rfl)
theorem dX5_sets_11 : decode cX5_sets 11 = .ok (.getfield 33, 3) := dk_180 0 33 (dk_at dksX5_sets_0 11 rfl rfl)
theorem dX5_sets_14 : decode cX5_sets 14 = .ok (.iload_n 1, 1) := dk_27 (dk_at dksX5_sets_0 14 rfl rfl)
theorem dX5_sets_15 : decode cX5_sets 15 = .ok (.iconst 0, 1) := dk_3 (dk_at dksX5_sets_0 15 rfl rfl)
theorem dX5_sets_16 : decode cX5_sets 16 = .ok (.bastore, 1) := dk_84 (dk_at dksX5_sets_0 16 rfl rfl)
theorem dX5_sets_17 : decode cX5_sets 17 = .ok (.iinc 1 1, 3) := dk_132 1 1 (dk_at dksX5_sets_0 17 rfl rfl)
theorem dX5_sets_20 : decode cX5_sets 20 = .ok (.goto (-18), 3) := dk_167 255 238 (dk_at dksX5_sets_0 20 rfl rfl)
theorem dX5_sets_23 : decode cX5_sets 23 = .ok (.aload_n 0, 1) := dk_42 (dk_at dksX5_sets_0 23 rfl rfl)
theorem dX5_sets_24 : decode cX5_sets 24 = .ok (.getfield 33, 3) := dk_180 0 33 (dk_at dksX5_sets_1 0 rfl rfl)
theorem dX5_sets_27 : decode cX5_sets 27 = .ok (.aload_n 0, 1) := dk_42 (dk_at dksX5_sets_1 3 rfl rfl)
theorem dX5_sets_28 : decode cX5_sets 28 = .ok (.invokevirtual 491, 3) := dk_182 1 235 (dk_at dksX5_sets_1 4 rfl rfl)
theorem dX5_sets_31 : decode cX5_sets 31 = .ok (.iconst 1, 1) := dk_4 (dk_at dksX5_sets_1 7 rfl rfl)
theorem dX5_sets_32 : decode cX5_sets 32 = .ok (.bastore, 1) := dk_84 (dk_at dksX5_sets_1 8 rfl rfl)
theorem dX5_sets_33 : decode cX5_sets 33 = .ok (.return_, 1) := dk_177 (dk_at dksX5_sets_1 9 rfl rfl)
abbrev cX5_stateNow : ByteArray := prog_15_method_83_code
def yX5_stateNow : MethodName := ⟨RX5, "stateNow", "()I"⟩
def dkwX5_stateNow_1 : List UInt8 := [28, 46, 46, 96, 60, 132, 2, 1, 167, 255, 228, 27, 172]
abbrev dktX5_stateNow_1 : List UInt8 := dkwX5_stateNow_1 ++ []
def dkwX5_stateNow_0 : List UInt8 := [3, 60, 3, 61, 28, 42, 180, 1, 214, 162, 0, 26, 16, 10, 27, 104, 42, 180, 0, 17, 42, 180, 0, 30]
abbrev dktX5_stateNow_0 : List UInt8 := dkwX5_stateNow_0 ++ dktX5_stateNow_1
theorem dksX5_stateNow_0 : cX5_stateNow.data.toList.drop 0 = dktX5_stateNow_0 := by decide +kernel
theorem dksX5_stateNow_1 : cX5_stateNow.data.toList.drop 24 = dktX5_stateNow_1 := dk_seg dksX5_stateNow_0 24 rfl rfl
theorem dX5_stateNow_0 : decode cX5_stateNow 0 = .ok (.iconst 0, 1) := dk_3 (dk_at dksX5_stateNow_0 0 rfl rfl)
theorem dX5_stateNow_1 : decode cX5_stateNow 1 = .ok (.istore_n 1, 1) := dk_60 (dk_at dksX5_stateNow_0 1 rfl rfl)
theorem dX5_stateNow_2 : decode cX5_stateNow 2 = .ok (.iconst 0, 1) := dk_3 (dk_at dksX5_stateNow_0 2 rfl rfl)
theorem dX5_stateNow_3 : decode cX5_stateNow 3 = .ok (.istore_n 2, 1) := dk_61 (dk_at dksX5_stateNow_0 3 rfl rfl)
theorem dX5_stateNow_4 : decode cX5_stateNow 4 = .ok (.iload_n 2, 1) := dk_28 (dk_at dksX5_stateNow_0 4 rfl rfl)
theorem dX5_stateNow_5 : decode cX5_stateNow 5 = .ok (.aload_n 0, 1) := dk_42 (dk_at dksX5_stateNow_0 5 rfl rfl)
theorem dX5_stateNow_6 : decode cX5_stateNow 6 = .ok (.getfield 470, 3) := dk_180 1 214 (dk_at dksX5_stateNow_0 6 rfl rfl)
theorem dX5_stateNow_9 : decode cX5_stateNow 9 = .ok (.if_icmp .ge 26, 3) := dk_162 0 26 (dk_at dksX5_stateNow_0 9 rfl rfl)
theorem dX5_stateNow_12 : decode cX5_stateNow 12 = .ok (.bipush 10, 2) := dk_16 10 (dk_at dksX5_stateNow_0 12 rfl rfl)
theorem dX5_stateNow_14 : decode cX5_stateNow 14 = .ok (.iload_n 1, 1) := dk_27 (dk_at dksX5_stateNow_0 14 rfl rfl)
theorem dX5_stateNow_15 : decode cX5_stateNow 15 = .ok (.imul, 1) := dk_104 (dk_at dksX5_stateNow_0 15 rfl rfl)
theorem dX5_stateNow_16 : decode cX5_stateNow 16 = .ok (.aload_n 0, 1) := dk_42 (dk_at dksX5_stateNow_0 16 rfl rfl)
theorem dX5_stateNow_17 : decode cX5_stateNow 17 = .ok (.getfield 17, 3) := dk_180 0 17 (dk_at dksX5_stateNow_0 17 rfl rfl)
theorem dX5_stateNow_20 : decode cX5_stateNow 20 = .ok (.aload_n 0, 1) := dk_42 (dk_at dksX5_stateNow_0 20 rfl rfl)
theorem dX5_stateNow_21 : decode cX5_stateNow 21 = .ok (.getfield 30, 3) := dk_180 0 30 (dk_at dksX5_stateNow_0 21 rfl rfl)
theorem dX5_stateNow_24 : decode cX5_stateNow 24 = .ok (.iload_n 2, 1) := dk_28 (dk_at dksX5_stateNow_1 0 rfl rfl)
theorem dX5_stateNow_25 : decode cX5_stateNow 25 = .ok (.iaload, 1) := dk_46 (dk_at dksX5_stateNow_1 1 rfl rfl)
theorem dX5_stateNow_26 : decode cX5_stateNow 26 = .ok (.iaload, 1) := dk_46 (dk_at dksX5_stateNow_1 2 rfl rfl)
theorem dX5_stateNow_27 : decode cX5_stateNow 27 = .ok (.iadd, 1) := dk_96 (dk_at dksX5_stateNow_1 3 rfl rfl)
theorem dX5_stateNow_28 : decode cX5_stateNow 28 = .ok (.istore_n 1, 1) := dk_60 (dk_at dksX5_stateNow_1 4 rfl rfl)
theorem dX5_stateNow_29 : decode cX5_stateNow 29 = .ok (.iinc 2 1, 3) := dk_132 2 1 (dk_at dksX5_stateNow_1 5 rfl rfl)
theorem dX5_stateNow_32 : decode cX5_stateNow 32 = .ok (.goto (-28), 3) := dk_167 255 228 (dk_at dksX5_stateNow_1 8 rfl rfl)
theorem dX5_stateNow_35 : decode cX5_stateNow 35 = .ok (.iload_n 1, 1) := dk_27 (dk_at dksX5_stateNow_1 11 rfl rfl)
theorem dX5_stateNow_36 : decode cX5_stateNow 36 = .ok (.ireturn, 1) := dk_172 (dk_at dksX5_stateNow_1 12 rfl rfl)
abbrev cX5_keepsPath : ByteArray := prog_15_method_92_code
def yX5_keepsPath : MethodName := ⟨RX5, "keepsPath", "(III)V"⟩
def dkwX5_keepsPath_6 : List UInt8 := [181, 0, 43, 42, 27, 181, 1, 133, 177]
abbrev dktX5_keepsPath_6 : List UInt8 := dkwX5_keepsPath_6 ++ []
def dkwX5_keepsPath_5 : List UInt8 := [180, 0, 40, 21, 7, 46, 54, 4, 132, 7, 255, 167, 255, 215, 132, 5, 1, 167, 255, 137, 42, 29]
abbrev dktX5_keepsPath_5 : List UInt8 := dkwX5_keepsPath_5 ++ dktX5_keepsPath_6
def dkwX5_keepsPath_4 : List UInt8 := [180, 0, 37, 17, 3, 232, 21, 5, 4, 96, 104, 42, 180, 0, 40, 21, 7, 46, 96, 51, 153, 0, 12, 42]
abbrev dktX5_keepsPath_4 : List UInt8 := dkwX5_keepsPath_4 ++ dktX5_keepsPath_5
def dkwX5_keepsPath_3 : List UInt8 := [167, 0, 61, 42, 21, 4, 182, 1, 229, 54, 6, 21, 6, 4, 100, 54, 7, 21, 7, 155, 0, 42, 42]
abbrev dktX5_keepsPath_3 : List UInt8 := dkwX5_keepsPath_3 ++ dktX5_keepsPath_4
def dkwX5_keepsPath_2 : List UInt8 := [96, 42, 21, 4, 21, 6, 182, 1, 220, 79, 132, 6, 1, 167, 255, 219, 21, 5, 29, 160, 0, 6]
abbrev dktX5_keepsPath_2 : List UInt8 := dkwX5_keepsPath_2 ++ dktX5_keepsPath_3
def dkwX5_keepsPath_1 : List UInt8 := [21, 6, 42, 180, 1, 214, 162, 0, 34, 42, 180, 0, 46, 8, 21, 5, 104, 42, 180, 0, 30, 21, 6, 46]
abbrev dktX5_keepsPath_1 : List UInt8 := dkwX5_keepsPath_1 ++ dktX5_keepsPath_2
def dkwX5_keepsPath_0 : List UInt8 := [42, 28, 29, 182, 1, 238, 42, 182, 1, 235, 54, 4, 3, 54, 5, 21, 5, 29, 163, 0, 119, 3, 54, 6]
abbrev dktX5_keepsPath_0 : List UInt8 := dkwX5_keepsPath_0 ++ dktX5_keepsPath_1
theorem dksX5_keepsPath_0 : cX5_keepsPath.data.toList.drop 0 = dktX5_keepsPath_0 := by decide +kernel
theorem dksX5_keepsPath_1 : cX5_keepsPath.data.toList.drop 24 = dktX5_keepsPath_1 := dk_seg dksX5_keepsPath_0 24 rfl rfl
theorem dksX5_keepsPath_2 : cX5_keepsPath.data.toList.drop 48 = dktX5_keepsPath_2 := dk_seg dksX5_keepsPath_1 24 rfl rfl
theorem dksX5_keepsPath_3 : cX5_keepsPath.data.toList.drop 70 = dktX5_keepsPath_3 := dk_seg dksX5_keepsPath_2 22 rfl rfl
theorem dksX5_keepsPath_4 : cX5_keepsPath.data.toList.drop 93 = dktX5_keepsPath_4 := dk_seg dksX5_keepsPath_3 23 rfl rfl
theorem dksX5_keepsPath_5 : cX5_keepsPath.data.toList.drop 117 = dktX5_keepsPath_5 := dk_seg dksX5_keepsPath_4 24 rfl rfl
theorem dksX5_keepsPath_6 : cX5_keepsPath.data.toList.drop 139 = dktX5_keepsPath_6 := dk_seg dksX5_keepsPath_5 22 rfl rfl
theorem dX5_keepsPath_0 : decode cX5_keepsPath 0 = .ok (.aload_n 0, 1) := dk_42 (dk_at dksX5_keepsPath_0 0 rfl rfl)
theorem dX5_keepsPath_1 : decode cX5_keepsPath 1 = .ok (.iload_n 2, 1) := dk_28 (dk_at dksX5_keepsPath_0 1 rfl rfl)
theorem dX5_keepsPath_2 : decode cX5_keepsPath 2 = .ok (.iload_n 3, 1) := dk_29 (dk_at dksX5_keepsPath_0 2 rfl rfl)
theorem dX5_keepsPath_3 : decode cX5_keepsPath 3 = .ok (.invokevirtual 494, 3) := dk_182 1 238 (dk_at dksX5_keepsPath_0 3 rfl rfl)
theorem dX5_keepsPath_6 : decode cX5_keepsPath 6 = .ok (.aload_n 0, 1) := dk_42 (dk_at dksX5_keepsPath_0 6 rfl rfl)
theorem dX5_keepsPath_7 : decode cX5_keepsPath 7 = .ok (.invokevirtual 491, 3) := dk_182 1 235 (dk_at dksX5_keepsPath_0 7 rfl rfl)
theorem dX5_keepsPath_10 : decode cX5_keepsPath 10 = .ok (.istore 4, 2) := dk_54 4 (dk_at dksX5_keepsPath_0 10 rfl rfl)
theorem dX5_keepsPath_12 : decode cX5_keepsPath 12 = .ok (.iconst 0, 1) := dk_3 (dk_at dksX5_keepsPath_0 12 rfl rfl)
theorem dX5_keepsPath_13 : decode cX5_keepsPath 13 = .ok (.istore 5, 2) := dk_54 5 (dk_at dksX5_keepsPath_0 13 rfl rfl)
theorem dX5_keepsPath_15 : decode cX5_keepsPath 15 = .ok (.iload 5, 2) := dk_21 5 (dk_at dksX5_keepsPath_0 15 rfl rfl)
theorem dX5_keepsPath_17 : decode cX5_keepsPath 17 = .ok (.iload_n 3, 1) := dk_29 (dk_at dksX5_keepsPath_0 17 rfl rfl)
theorem dX5_keepsPath_18 : decode cX5_keepsPath 18 = .ok (.if_icmp .gt 119, 3) := dk_163 0 119 (dk_at dksX5_keepsPath_0 18 rfl rfl)
theorem dX5_keepsPath_21 : decode cX5_keepsPath 21 = .ok (.iconst 0, 1) := dk_3 (dk_at dksX5_keepsPath_0 21 rfl rfl)
theorem dX5_keepsPath_22 : decode cX5_keepsPath 22 = .ok (.istore 6, 2) := dk_54 6 (dk_at dksX5_keepsPath_0 22 rfl rfl)
theorem dX5_keepsPath_24 : decode cX5_keepsPath 24 = .ok (.iload 6, 2) := dk_21 6 (dk_at dksX5_keepsPath_1 0 rfl rfl)
theorem dX5_keepsPath_26 : decode cX5_keepsPath 26 = .ok (.aload_n 0, 1) := dk_42 (dk_at dksX5_keepsPath_1 2 rfl rfl)
theorem dX5_keepsPath_27 : decode cX5_keepsPath 27 = .ok (.getfield 470, 3) := dk_180 1 214 (dk_at dksX5_keepsPath_1 3 rfl rfl)
theorem dX5_keepsPath_30 : decode cX5_keepsPath 30 = .ok (.if_icmp .ge 34, 3) := dk_162 0 34 (dk_at dksX5_keepsPath_1 6 rfl rfl)
theorem dX5_keepsPath_33 : decode cX5_keepsPath 33 = .ok (.aload_n 0, 1) := dk_42 (dk_at dksX5_keepsPath_1 9 rfl rfl)
theorem dX5_keepsPath_34 : decode cX5_keepsPath 34 = .ok (.getfield 46, 3) := dk_180 0 46 (dk_at dksX5_keepsPath_1 10 rfl rfl)
theorem dX5_keepsPath_37 : decode cX5_keepsPath 37 = .ok (.iconst 5, 1) := dk_8 (dk_at dksX5_keepsPath_1 13 rfl rfl)
theorem dX5_keepsPath_38 : decode cX5_keepsPath 38 = .ok (.iload 5, 2) := dk_21 5 (dk_at dksX5_keepsPath_1 14 rfl rfl)
theorem dX5_keepsPath_40 : decode cX5_keepsPath 40 = .ok (.imul, 1) := dk_104 (dk_at dksX5_keepsPath_1 16 rfl rfl)
theorem dX5_keepsPath_41 : decode cX5_keepsPath 41 = .ok (.aload_n 0, 1) := dk_42 (dk_at dksX5_keepsPath_1 17 rfl rfl)
theorem dX5_keepsPath_42 : decode cX5_keepsPath 42 = .ok (.getfield 30, 3) := dk_180 0 30 (dk_at dksX5_keepsPath_1 18 rfl rfl)
theorem dX5_keepsPath_45 : decode cX5_keepsPath 45 = .ok (.iload 6, 2) := dk_21 6 (dk_at dksX5_keepsPath_1 21 rfl rfl)
theorem dX5_keepsPath_47 : decode cX5_keepsPath 47 = .ok (.iaload, 1) := dk_46 (dk_at dksX5_keepsPath_1 23 rfl rfl)
theorem dX5_keepsPath_48 : decode cX5_keepsPath 48 = .ok (.iadd, 1) := dk_96 (dk_at dksX5_keepsPath_2 0 rfl rfl)
theorem dX5_keepsPath_49 : decode cX5_keepsPath 49 = .ok (.aload_n 0, 1) := dk_42 (dk_at dksX5_keepsPath_2 1 rfl rfl)
theorem dX5_keepsPath_50 : decode cX5_keepsPath 50 = .ok (.iload 4, 2) := dk_21 4 (dk_at dksX5_keepsPath_2 2 rfl rfl)
theorem dX5_keepsPath_52 : decode cX5_keepsPath 52 = .ok (.iload 6, 2) := dk_21 6 (dk_at dksX5_keepsPath_2 4 rfl rfl)
theorem dX5_keepsPath_54 : decode cX5_keepsPath 54 = .ok (.invokevirtual 476, 3) := dk_182 1 220 (dk_at dksX5_keepsPath_2 6 rfl rfl)
theorem dX5_keepsPath_57 : decode cX5_keepsPath 57 = .ok (.iastore, 1) := dk_79 (dk_at dksX5_keepsPath_2 9 rfl rfl)
theorem dX5_keepsPath_58 : decode cX5_keepsPath 58 = .ok (.iinc 6 1, 3) := dk_132 6 1 (dk_at dksX5_keepsPath_2 10 rfl rfl)
theorem dX5_keepsPath_61 : decode cX5_keepsPath 61 = .ok (.goto (-37), 3) := dk_167 255 219 (dk_at dksX5_keepsPath_2 13 rfl rfl)
theorem dX5_keepsPath_64 : decode cX5_keepsPath 64 = .ok (.iload 5, 2) := dk_21 5 (dk_at dksX5_keepsPath_2 16 rfl rfl)
theorem dX5_keepsPath_66 : decode cX5_keepsPath 66 = .ok (.iload_n 3, 1) := dk_29 (dk_at dksX5_keepsPath_2 18 rfl rfl)
theorem dX5_keepsPath_67 : decode cX5_keepsPath 67 = .ok (.if_icmp .ne 6, 3) := dk_160 0 6 (dk_at dksX5_keepsPath_2 19 rfl rfl)
theorem dX5_keepsPath_70 : decode cX5_keepsPath 70 = .ok (.goto 61, 3) := dk_167 0 61 (dk_at dksX5_keepsPath_3 0 rfl rfl)
theorem dX5_keepsPath_73 : decode cX5_keepsPath 73 = .ok (.aload_n 0, 1) := dk_42 (dk_at dksX5_keepsPath_3 3 rfl rfl)
theorem dX5_keepsPath_74 : decode cX5_keepsPath 74 = .ok (.iload 4, 2) := dk_21 4 (dk_at dksX5_keepsPath_3 4 rfl rfl)
theorem dX5_keepsPath_76 : decode cX5_keepsPath 76 = .ok (.invokevirtual 485, 3) := dk_182 1 229 (dk_at dksX5_keepsPath_3 6 rfl rfl)
theorem dX5_keepsPath_79 : decode cX5_keepsPath 79 = .ok (.istore 6, 2) := dk_54 6 (dk_at dksX5_keepsPath_3 9 rfl rfl)
theorem dX5_keepsPath_81 : decode cX5_keepsPath 81 = .ok (.iload 6, 2) := dk_21 6 (dk_at dksX5_keepsPath_3 11 rfl rfl)
theorem dX5_keepsPath_83 : decode cX5_keepsPath 83 = .ok (.iconst 1, 1) := dk_4 (dk_at dksX5_keepsPath_3 13 rfl rfl)
theorem dX5_keepsPath_84 : decode cX5_keepsPath 84 = .ok (.isub, 1) := dk_100 (dk_at dksX5_keepsPath_3 14 rfl rfl)
theorem dX5_keepsPath_85 : decode cX5_keepsPath 85 = .ok (.istore 7, 2) := dk_54 7 (dk_at dksX5_keepsPath_3 15 rfl rfl)
theorem dX5_keepsPath_87 : decode cX5_keepsPath 87 = .ok (.iload 7, 2) := dk_21 7 (dk_at dksX5_keepsPath_3 17 rfl rfl)
theorem dX5_keepsPath_89 : decode cX5_keepsPath 89 = .ok (.ifCond .lt 42, 3) := dk_155 0 42 (dk_at dksX5_keepsPath_3 19 rfl rfl)
theorem dX5_keepsPath_92 : decode cX5_keepsPath 92 = .ok (.aload_n 0, 1) := dk_42 (dk_at dksX5_keepsPath_3 22 rfl rfl)
theorem dX5_keepsPath_93 : decode cX5_keepsPath 93 = .ok (.getfield 37, 3) := dk_180 0 37 (dk_at dksX5_keepsPath_4 0 rfl rfl)
theorem dX5_keepsPath_96 : decode cX5_keepsPath 96 = .ok (.sipush 1000, 3) := dk_17 3 232 (dk_at dksX5_keepsPath_4 3 rfl rfl)
theorem dX5_keepsPath_99 : decode cX5_keepsPath 99 = .ok (.iload 5, 2) := dk_21 5 (dk_at dksX5_keepsPath_4 6 rfl rfl)
theorem dX5_keepsPath_101 : decode cX5_keepsPath 101 = .ok (.iconst 1, 1) := dk_4 (dk_at dksX5_keepsPath_4 8 rfl rfl)
theorem dX5_keepsPath_102 : decode cX5_keepsPath 102 = .ok (.iadd, 1) := dk_96 (dk_at dksX5_keepsPath_4 9 rfl rfl)
theorem dX5_keepsPath_103 : decode cX5_keepsPath 103 = .ok (.imul, 1) := dk_104 (dk_at dksX5_keepsPath_4 10 rfl rfl)
theorem dX5_keepsPath_104 : decode cX5_keepsPath 104 = .ok (.aload_n 0, 1) := dk_42 (dk_at dksX5_keepsPath_4 11 rfl rfl)
theorem dX5_keepsPath_105 : decode cX5_keepsPath 105 = .ok (.getfield 40, 3) := dk_180 0 40 (dk_at dksX5_keepsPath_4 12 rfl rfl)
theorem dX5_keepsPath_108 : decode cX5_keepsPath 108 = .ok (.iload 7, 2) := dk_21 7 (dk_at dksX5_keepsPath_4 15 rfl rfl)
theorem dX5_keepsPath_110 : decode cX5_keepsPath 110 = .ok (.iaload, 1) := dk_46 (dk_at dksX5_keepsPath_4 17 rfl rfl)
theorem dX5_keepsPath_111 : decode cX5_keepsPath 111 = .ok (.iadd, 1) := dk_96 (dk_at dksX5_keepsPath_4 18 rfl rfl)
theorem dX5_keepsPath_112 : decode cX5_keepsPath 112 = .ok (.baload, 1) := dk_51 (dk_at dksX5_keepsPath_4 19 rfl rfl)
theorem dX5_keepsPath_113 : decode cX5_keepsPath 113 = .ok (.ifCond .eq 12, 3) := dk_153 0 12 (dk_at dksX5_keepsPath_4 20 rfl rfl)
theorem dX5_keepsPath_116 : decode cX5_keepsPath 116 = .ok (.aload_n 0, 1) := dk_42 (dk_at dksX5_keepsPath_4 23 rfl rfl)
theorem dX5_keepsPath_117 : decode cX5_keepsPath 117 = .ok (.getfield 40, 3) := dk_180 0 40 (dk_at dksX5_keepsPath_5 0 rfl rfl)
theorem dX5_keepsPath_120 : decode cX5_keepsPath 120 = .ok (.iload 7, 2) := dk_21 7 (dk_at dksX5_keepsPath_5 3 rfl rfl)
theorem dX5_keepsPath_122 : decode cX5_keepsPath 122 = .ok (.iaload, 1) := dk_46 (dk_at dksX5_keepsPath_5 5 rfl rfl)
theorem dX5_keepsPath_123 : decode cX5_keepsPath 123 = .ok (.istore 4, 2) := dk_54 4 (dk_at dksX5_keepsPath_5 6 rfl rfl)
theorem dX5_keepsPath_125 : decode cX5_keepsPath 125 = .ok (.iinc 7 (-1), 3) := dk_132 7 255 (dk_at dksX5_keepsPath_5 8 rfl rfl)
theorem dX5_keepsPath_128 : decode cX5_keepsPath 128 = .ok (.goto (-41), 3) := dk_167 255 215 (dk_at dksX5_keepsPath_5 11 rfl rfl)
theorem dX5_keepsPath_131 : decode cX5_keepsPath 131 = .ok (.iinc 5 1, 3) := dk_132 5 1 (dk_at dksX5_keepsPath_5 14 rfl rfl)
theorem dX5_keepsPath_134 : decode cX5_keepsPath 134 = .ok (.goto (-119), 3) := dk_167 255 137 (dk_at dksX5_keepsPath_5 17 rfl rfl)
theorem dX5_keepsPath_137 : decode cX5_keepsPath 137 = .ok (.aload_n 0, 1) := dk_42 (dk_at dksX5_keepsPath_5 20 rfl rfl)
theorem dX5_keepsPath_138 : decode cX5_keepsPath 138 = .ok (.iload_n 3, 1) := dk_29 (dk_at dksX5_keepsPath_5 21 rfl rfl)
theorem dX5_keepsPath_139 : decode cX5_keepsPath 139 = .ok (.putfield 43, 3) := dk_181 0 43 (dk_at dksX5_keepsPath_6 0 rfl rfl)
theorem dX5_keepsPath_142 : decode cX5_keepsPath 142 = .ok (.aload_n 0, 1) := dk_42 (dk_at dksX5_keepsPath_6 3 rfl rfl)
theorem dX5_keepsPath_143 : decode cX5_keepsPath 143 = .ok (.iload_n 1, 1) := dk_27 (dk_at dksX5_keepsPath_6 4 rfl rfl)
theorem dX5_keepsPath_144 : decode cX5_keepsPath 144 = .ok (.putfield 389, 3) := dk_181 1 133 (dk_at dksX5_keepsPath_6 5 rfl rfl)
theorem dX5_keepsPath_147 : decode cX5_keepsPath 147 = .ok (.return_, 1) := dk_177 (dk_at dksX5_keepsPath_6 8 rfl rfl)
abbrev cX5_traces : ByteArray := prog_15_method_91_code
def yX5_traces : MethodName := ⟨RX5, "traces", "(II)V"⟩
def dkwX5_traces_7 : List UInt8 := [167, 255, 164, 132, 3, 255, 167, 255, 151, 177]
abbrev dktX5_traces_7 : List UInt8 := dkwX5_traces_7 ++ []
def dkwX5_traces_6 : List UInt8 := [180, 0, 37, 17, 3, 232, 29, 104, 21, 4, 96, 4, 84, 132, 6, 1, 167, 255, 209, 132, 4, 1]
abbrev dktX5_traces_6 : List UInt8 := dkwX5_traces_6 ++ dktX5_traces_7
def dkwX5_traces_5 : List UInt8 := [42, 180, 0, 37, 17, 3, 232, 29, 4, 96, 104, 42, 180, 0, 40, 21, 6, 46, 96, 51, 153, 0, 17, 42]
abbrev dktX5_traces_5 : List UInt8 := dkwX5_traces_5 ++ dktX5_traces_6
def dkwX5_traces_4 : List UInt8 := [154, 0, 6, 167, 0, 64, 42, 21, 4, 182, 1, 229, 54, 5, 3, 54, 6, 21, 6, 21, 5, 162, 0, 46]
abbrev dktX5_traces_4 : List UInt8 := dkwX5_traces_4 ++ dktX5_traces_5
def dkwX5_traces_3 : List UInt8 := [21, 4, 42, 180, 1, 217, 162, 0, 89, 42, 180, 0, 33, 17, 3, 232, 29, 104, 21, 4, 96, 51]
abbrev dktX5_traces_3 : List UInt8 := dkwX5_traces_3 ++ dktX5_traces_4
def dkwX5_traces_2 : List UInt8 := [84, 132, 4, 1, 167, 255, 215, 132, 3, 1, 167, 255, 201, 28, 4, 100, 62, 29, 155, 0, 107, 3, 54, 4]
abbrev dktX5_traces_2 : List UInt8 := dkwX5_traces_2 ++ dktX5_traces_3
def dkwX5_traces_1 : List UInt8 := [17, 3, 232, 29, 104, 21, 4, 96, 29, 28, 160, 0, 13, 21, 4, 27, 160, 0, 7, 4, 167, 0, 4, 3]
abbrev dktX5_traces_1 : List UInt8 := dkwX5_traces_1 ++ dktX5_traces_2
def dkwX5_traces_0 : List UInt8 := [3, 62, 29, 28, 163, 0, 56, 3, 54, 4, 21, 4, 42, 180, 1, 217, 162, 0, 38, 42, 180, 0, 37]
abbrev dktX5_traces_0 : List UInt8 := dkwX5_traces_0 ++ dktX5_traces_1
theorem dksX5_traces_0 : cX5_traces.data.toList.drop 0 = dktX5_traces_0 := by decide +kernel
theorem dksX5_traces_1 : cX5_traces.data.toList.drop 23 = dktX5_traces_1 := dk_seg dksX5_traces_0 23 rfl rfl
theorem dksX5_traces_2 : cX5_traces.data.toList.drop 47 = dktX5_traces_2 := dk_seg dksX5_traces_1 24 rfl rfl
theorem dksX5_traces_3 : cX5_traces.data.toList.drop 71 = dktX5_traces_3 := dk_seg dksX5_traces_2 24 rfl rfl
theorem dksX5_traces_4 : cX5_traces.data.toList.drop 93 = dktX5_traces_4 := dk_seg dksX5_traces_3 22 rfl rfl
theorem dksX5_traces_5 : cX5_traces.data.toList.drop 117 = dktX5_traces_5 := dk_seg dksX5_traces_4 24 rfl rfl
theorem dksX5_traces_6 : cX5_traces.data.toList.drop 141 = dktX5_traces_6 := dk_seg dksX5_traces_5 24 rfl rfl
theorem dksX5_traces_7 : cX5_traces.data.toList.drop 163 = dktX5_traces_7 := dk_seg dksX5_traces_6 22 rfl rfl
theorem dX5_traces_0 : decode cX5_traces 0 = .ok (.iconst 0, 1) := dk_3 (dk_at dksX5_traces_0 0 rfl rfl)
theorem dX5_traces_1 : decode cX5_traces 1 = .ok (.istore_n 3, 1) := dk_62 (dk_at dksX5_traces_0 1 rfl rfl)
theorem dX5_traces_2 : decode cX5_traces 2 = .ok (.iload_n 3, 1) := dk_29 (dk_at dksX5_traces_0 2 rfl rfl)
theorem dX5_traces_3 : decode cX5_traces 3 = .ok (.iload_n 2, 1) := dk_28 (dk_at dksX5_traces_0 3 rfl rfl)
theorem dX5_traces_4 : decode cX5_traces 4 = .ok (.if_icmp .gt 56, 3) := dk_163 0 56 (dk_at dksX5_traces_0 4 rfl rfl)
theorem dX5_traces_7 : decode cX5_traces 7 = .ok (.iconst 0, 1) := dk_3 (dk_at dksX5_traces_0 7 rfl rfl)
theorem dX5_traces_8 : decode cX5_traces 8 = .ok (.istore 4, 2) := dk_54 4 (dk_at dksX5_traces_0 8 rfl rfl)
theorem dX5_traces_10 : decode cX5_traces 10 = .ok (.iload 4, 2) := dk_21 4 (dk_at dksX5_traces_0 10 rfl rfl)
theorem dX5_traces_12 : decode cX5_traces 12 = .ok (.aload_n 0, 1) := dk_42 (dk_at dksX5_traces_0 12 rfl rfl)
theorem dX5_traces_13 : decode cX5_traces 13 = .ok (.getfield 473, 3) := dk_180 1 217 (dk_at dksX5_traces_0 13 rfl rfl)
theorem dX5_traces_16 : decode cX5_traces 16 = .ok (.if_icmp .ge 38, 3) := dk_162 0 38 (dk_at dksX5_traces_0 16 rfl rfl)
theorem dX5_traces_19 : decode cX5_traces 19 = .ok (.aload_n 0, 1) := dk_42 (dk_at dksX5_traces_0 19 rfl rfl)
theorem dX5_traces_20 : decode cX5_traces 20 = .ok (.getfield 37, 3) := dk_180 0 37 (dk_at dksX5_traces_0 20 rfl rfl)
theorem dX5_traces_23 : decode cX5_traces 23 = .ok (.sipush 1000, 3) := dk_17 3 232 (dk_at dksX5_traces_1 0 rfl rfl)
theorem dX5_traces_26 : decode cX5_traces 26 = .ok (.iload_n 3, 1) := dk_29 (dk_at dksX5_traces_1 3 rfl rfl)
theorem dX5_traces_27 : decode cX5_traces 27 = .ok (.imul, 1) := dk_104 (dk_at dksX5_traces_1 4 rfl rfl)
theorem dX5_traces_28 : decode cX5_traces 28 = .ok (.iload 4, 2) := dk_21 4 (dk_at dksX5_traces_1 5 rfl rfl)
theorem dX5_traces_30 : decode cX5_traces 30 = .ok (.iadd, 1) := dk_96 (dk_at dksX5_traces_1 7 rfl rfl)
theorem dX5_traces_31 : decode cX5_traces 31 = .ok (.iload_n 3, 1) := dk_29 (dk_at dksX5_traces_1 8 rfl rfl)
theorem dX5_traces_32 : decode cX5_traces 32 = .ok (.iload_n 2, 1) := dk_28 (dk_at dksX5_traces_1 9 rfl rfl)
theorem dX5_traces_33 : decode cX5_traces 33 = .ok (.if_icmp .ne 13, 3) := dk_160 0 13 (dk_at dksX5_traces_1 10 rfl rfl)
theorem dX5_traces_36 : decode cX5_traces 36 = .ok (.iload 4, 2) := dk_21 4 (dk_at dksX5_traces_1 13 rfl rfl)
theorem dX5_traces_38 : decode cX5_traces 38 = .ok (.iload_n 1, 1) := dk_27 (dk_at dksX5_traces_1 15 rfl rfl)
theorem dX5_traces_39 : decode cX5_traces 39 = .ok (.if_icmp .ne 7, 3) := dk_160 0 7 (dk_at dksX5_traces_1 16 rfl rfl)
theorem dX5_traces_42 : decode cX5_traces 42 = .ok (.iconst 1, 1) := dk_4 (dk_at dksX5_traces_1 19 rfl rfl)
theorem dX5_traces_43 : decode cX5_traces 43 = .ok (.goto 4, 3) := dk_167 0 4 (dk_at dksX5_traces_1 20 rfl rfl)
theorem dX5_traces_46 : decode cX5_traces 46 = .ok (.iconst 0, 1) := dk_3 (dk_at dksX5_traces_1 23 rfl rfl)
theorem dX5_traces_47 : decode cX5_traces 47 = .ok (.bastore, 1) := dk_84 (dk_at dksX5_traces_2 0 rfl rfl)
theorem dX5_traces_48 : decode cX5_traces 48 = .ok (.iinc 4 1, 3) := dk_132 4 1 (dk_at dksX5_traces_2 1 rfl rfl)
theorem dX5_traces_51 : decode cX5_traces 51 = .ok (.goto (-41), 3) := dk_167 255 215 (dk_at dksX5_traces_2 4 rfl rfl)
theorem dX5_traces_54 : decode cX5_traces 54 = .ok (.iinc 3 1, 3) := dk_132 3 1 (dk_at dksX5_traces_2 7 rfl rfl)
theorem dX5_traces_57 : decode cX5_traces 57 = .ok (.goto (-55), 3) := dk_167 255 201 (dk_at dksX5_traces_2 10 rfl rfl)
theorem dX5_traces_60 : decode cX5_traces 60 = .ok (.iload_n 2, 1) := dk_28 (dk_at dksX5_traces_2 13 rfl rfl)
theorem dX5_traces_61 : decode cX5_traces 61 = .ok (.iconst 1, 1) := dk_4 (dk_at dksX5_traces_2 14 rfl rfl)
theorem dX5_traces_62 : decode cX5_traces 62 = .ok (.isub, 1) := dk_100 (dk_at dksX5_traces_2 15 rfl rfl)
theorem dX5_traces_63 : decode cX5_traces 63 = .ok (.istore_n 3, 1) := dk_62 (dk_at dksX5_traces_2 16 rfl rfl)
theorem dX5_traces_64 : decode cX5_traces 64 = .ok (.iload_n 3, 1) := dk_29 (dk_at dksX5_traces_2 17 rfl rfl)
theorem dX5_traces_65 : decode cX5_traces 65 = .ok (.ifCond .lt 107, 3) := dk_155 0 107 (dk_at dksX5_traces_2 18 rfl rfl)
theorem dX5_traces_68 : decode cX5_traces 68 = .ok (.iconst 0, 1) := dk_3 (dk_at dksX5_traces_2 21 rfl rfl)
theorem dX5_traces_69 : decode cX5_traces 69 = .ok (.istore 4, 2) := dk_54 4 (dk_at dksX5_traces_2 22 rfl rfl)
theorem dX5_traces_71 : decode cX5_traces 71 = .ok (.iload 4, 2) := dk_21 4 (dk_at dksX5_traces_3 0 rfl rfl)
theorem dX5_traces_73 : decode cX5_traces 73 = .ok (.aload_n 0, 1) := dk_42 (dk_at dksX5_traces_3 2 rfl rfl)
theorem dX5_traces_74 : decode cX5_traces 74 = .ok (.getfield 473, 3) := dk_180 1 217 (dk_at dksX5_traces_3 3 rfl rfl)
theorem dX5_traces_77 : decode cX5_traces 77 = .ok (.if_icmp .ge 89, 3) := dk_162 0 89 (dk_at dksX5_traces_3 6 rfl rfl)
theorem dX5_traces_80 : decode cX5_traces 80 = .ok (.aload_n 0, 1) := dk_42 (dk_at dksX5_traces_3 9 rfl rfl)
theorem dX5_traces_81 : decode cX5_traces 81 = .ok (.getfield 33, 3) := dk_180 0 33 (dk_at dksX5_traces_3 10 rfl rfl)
theorem dX5_traces_84 : decode cX5_traces 84 = .ok (.sipush 1000, 3) := dk_17 3 232 (dk_at dksX5_traces_3 13 rfl rfl)
theorem dX5_traces_87 : decode cX5_traces 87 = .ok (.iload_n 3, 1) := dk_29 (dk_at dksX5_traces_3 16 rfl rfl)
theorem dX5_traces_88 : decode cX5_traces 88 = .ok (.imul, 1) := dk_104 (dk_at dksX5_traces_3 17 rfl rfl)
theorem dX5_traces_89 : decode cX5_traces 89 = .ok (.iload 4, 2) := dk_21 4 (dk_at dksX5_traces_3 18 rfl rfl)
theorem dX5_traces_91 : decode cX5_traces 91 = .ok (.iadd, 1) := dk_96 (dk_at dksX5_traces_3 20 rfl rfl)
theorem dX5_traces_92 : decode cX5_traces 92 = .ok (.baload, 1) := dk_51 (dk_at dksX5_traces_3 21 rfl rfl)
theorem dX5_traces_93 : decode cX5_traces 93 = .ok (.ifCond .ne 6, 3) := dk_154 0 6 (dk_at dksX5_traces_4 0 rfl rfl)
theorem dX5_traces_96 : decode cX5_traces 96 = .ok (.goto 64, 3) := dk_167 0 64 (dk_at dksX5_traces_4 3 rfl rfl)
theorem dX5_traces_99 : decode cX5_traces 99 = .ok (.aload_n 0, 1) := dk_42 (dk_at dksX5_traces_4 6 rfl rfl)
theorem dX5_traces_100 : decode cX5_traces 100 = .ok (.iload 4, 2) := dk_21 4 (dk_at dksX5_traces_4 7 rfl rfl)
theorem dX5_traces_102 : decode cX5_traces 102 = .ok (.invokevirtual 485, 3) := dk_182 1 229 (dk_at dksX5_traces_4 9 rfl rfl)
theorem dX5_traces_105 : decode cX5_traces 105 = .ok (.istore 5, 2) := dk_54 5 (dk_at dksX5_traces_4 12 rfl rfl)
theorem dX5_traces_107 : decode cX5_traces 107 = .ok (.iconst 0, 1) := dk_3 (dk_at dksX5_traces_4 14 rfl rfl)
theorem dX5_traces_108 : decode cX5_traces 108 = .ok (.istore 6, 2) := dk_54 6 (dk_at dksX5_traces_4 15 rfl rfl)
theorem dX5_traces_110 : decode cX5_traces 110 = .ok (.iload 6, 2) := dk_21 6 (dk_at dksX5_traces_4 17 rfl rfl)
theorem dX5_traces_112 : decode cX5_traces 112 = .ok (.iload 5, 2) := dk_21 5 (dk_at dksX5_traces_4 19 rfl rfl)
theorem dX5_traces_114 : decode cX5_traces 114 = .ok (.if_icmp .ge 46, 3) := dk_162 0 46 (dk_at dksX5_traces_4 21 rfl rfl)
theorem dX5_traces_117 : decode cX5_traces 117 = .ok (.aload_n 0, 1) := dk_42 (dk_at dksX5_traces_5 0 rfl rfl)
theorem dX5_traces_118 : decode cX5_traces 118 = .ok (.getfield 37, 3) := dk_180 0 37 (dk_at dksX5_traces_5 1 rfl rfl)
theorem dX5_traces_121 : decode cX5_traces 121 = .ok (.sipush 1000, 3) := dk_17 3 232 (dk_at dksX5_traces_5 4 rfl rfl)
theorem dX5_traces_124 : decode cX5_traces 124 = .ok (.iload_n 3, 1) := dk_29 (dk_at dksX5_traces_5 7 rfl rfl)
theorem dX5_traces_125 : decode cX5_traces 125 = .ok (.iconst 1, 1) := dk_4 (dk_at dksX5_traces_5 8 rfl rfl)
theorem dX5_traces_126 : decode cX5_traces 126 = .ok (.iadd, 1) := dk_96 (dk_at dksX5_traces_5 9 rfl rfl)
theorem dX5_traces_127 : decode cX5_traces 127 = .ok (.imul, 1) := dk_104 (dk_at dksX5_traces_5 10 rfl rfl)
theorem dX5_traces_128 : decode cX5_traces 128 = .ok (.aload_n 0, 1) := dk_42 (dk_at dksX5_traces_5 11 rfl rfl)
theorem dX5_traces_129 : decode cX5_traces 129 = .ok (.getfield 40, 3) := dk_180 0 40 (dk_at dksX5_traces_5 12 rfl rfl)
theorem dX5_traces_132 : decode cX5_traces 132 = .ok (.iload 6, 2) := dk_21 6 (dk_at dksX5_traces_5 15 rfl rfl)
theorem dX5_traces_134 : decode cX5_traces 134 = .ok (.iaload, 1) := dk_46 (dk_at dksX5_traces_5 17 rfl rfl)
theorem dX5_traces_135 : decode cX5_traces 135 = .ok (.iadd, 1) := dk_96 (dk_at dksX5_traces_5 18 rfl rfl)
theorem dX5_traces_136 : decode cX5_traces 136 = .ok (.baload, 1) := dk_51 (dk_at dksX5_traces_5 19 rfl rfl)
theorem dX5_traces_137 : decode cX5_traces 137 = .ok (.ifCond .eq 17, 3) := dk_153 0 17 (dk_at dksX5_traces_5 20 rfl rfl)
theorem dX5_traces_140 : decode cX5_traces 140 = .ok (.aload_n 0, 1) := dk_42 (dk_at dksX5_traces_5 23 rfl rfl)
theorem dX5_traces_141 : decode cX5_traces 141 = .ok (.getfield 37, 3) := dk_180 0 37 (dk_at dksX5_traces_6 0 rfl rfl)
theorem dX5_traces_144 : decode cX5_traces 144 = .ok (.sipush 1000, 3) := dk_17 3 232 (dk_at dksX5_traces_6 3 rfl rfl)
theorem dX5_traces_147 : decode cX5_traces 147 = .ok (.iload_n 3, 1) := dk_29 (dk_at dksX5_traces_6 6 rfl rfl)
theorem dX5_traces_148 : decode cX5_traces 148 = .ok (.imul, 1) := dk_104 (dk_at dksX5_traces_6 7 rfl rfl)
theorem dX5_traces_149 : decode cX5_traces 149 = .ok (.iload 4, 2) := dk_21 4 (dk_at dksX5_traces_6 8 rfl rfl)
theorem dX5_traces_151 : decode cX5_traces 151 = .ok (.iadd, 1) := dk_96 (dk_at dksX5_traces_6 10 rfl rfl)
theorem dX5_traces_152 : decode cX5_traces 152 = .ok (.iconst 1, 1) := dk_4 (dk_at dksX5_traces_6 11 rfl rfl)
theorem dX5_traces_153 : decode cX5_traces 153 = .ok (.bastore, 1) := dk_84 (dk_at dksX5_traces_6 12 rfl rfl)
theorem dX5_traces_154 : decode cX5_traces 154 = .ok (.iinc 6 1, 3) := dk_132 6 1 (dk_at dksX5_traces_6 13 rfl rfl)
theorem dX5_traces_157 : decode cX5_traces 157 = .ok (.goto (-47), 3) := dk_167 255 209 (dk_at dksX5_traces_6 16 rfl rfl)
theorem dX5_traces_160 : decode cX5_traces 160 = .ok (.iinc 4 1, 3) := dk_132 4 1 (dk_at dksX5_traces_6 19 rfl rfl)
theorem dX5_traces_163 : decode cX5_traces 163 = .ok (.goto (-92), 3) := dk_167 255 164 (dk_at dksX5_traces_7 0 rfl rfl)
theorem dX5_traces_166 : decode cX5_traces 166 = .ok (.iinc 3 (-1), 3) := dk_132 3 255 (dk_at dksX5_traces_7 3 rfl rfl)
theorem dX5_traces_169 : decode cX5_traces 169 = .ok (.goto (-105), 3) := dk_167 255 151 (dk_at dksX5_traces_7 6 rfl rfl)
theorem dX5_traces_172 : decode cX5_traces 172 = .ok (.return_, 1) := dk_177 (dk_at dksX5_traces_7 9 rfl rfl)
abbrev cX5_leads : ByteArray := prog_15_method_87_code
def yX5_leads : MethodName := ⟨RX5, "leads", "(I)I"⟩
def dkwX5_leads_2 : List UInt8 := [167, 255, 215, 28, 172]
abbrev dktX5_leads_2 : List UInt8 := dkwX5_leads_2 ++ []
def dkwX5_leads_1 : List UInt8 := [182, 1, 226, 154, 0, 6, 167, 0, 13, 42, 180, 0, 40, 28, 29, 79, 132, 2, 1, 132, 3, 1]
abbrev dktX5_leads_1 : List UInt8 := dkwX5_leads_1 ++ dktX5_leads_2
def dkwX5_leads_0 : List UInt8 := [3, 61, 3, 62, 29, 42, 180, 1, 217, 162, 0, 39, 42, 29, 182, 1, 223, 153, 0, 25, 42, 27, 29]
abbrev dktX5_leads_0 : List UInt8 := dkwX5_leads_0 ++ dktX5_leads_1
theorem dksX5_leads_0 : cX5_leads.data.toList.drop 0 = dktX5_leads_0 := by decide +kernel
theorem dksX5_leads_1 : cX5_leads.data.toList.drop 23 = dktX5_leads_1 := dk_seg dksX5_leads_0 23 rfl rfl
theorem dksX5_leads_2 : cX5_leads.data.toList.drop 45 = dktX5_leads_2 := dk_seg dksX5_leads_1 22 rfl rfl
theorem dX5_leads_0 : decode cX5_leads 0 = .ok (.iconst 0, 1) := dk_3 (dk_at dksX5_leads_0 0 rfl rfl)
theorem dX5_leads_1 : decode cX5_leads 1 = .ok (.istore_n 2, 1) := dk_61 (dk_at dksX5_leads_0 1 rfl rfl)
theorem dX5_leads_2 : decode cX5_leads 2 = .ok (.iconst 0, 1) := dk_3 (dk_at dksX5_leads_0 2 rfl rfl)
theorem dX5_leads_3 : decode cX5_leads 3 = .ok (.istore_n 3, 1) := dk_62 (dk_at dksX5_leads_0 3 rfl rfl)
theorem dX5_leads_4 : decode cX5_leads 4 = .ok (.iload_n 3, 1) := dk_29 (dk_at dksX5_leads_0 4 rfl rfl)
theorem dX5_leads_5 : decode cX5_leads 5 = .ok (.aload_n 0, 1) := dk_42 (dk_at dksX5_leads_0 5 rfl rfl)
theorem dX5_leads_6 : decode cX5_leads 6 = .ok (.getfield 473, 3) := dk_180 1 217 (dk_at dksX5_leads_0 6 rfl rfl)
theorem dX5_leads_9 : decode cX5_leads 9 = .ok (.if_icmp .ge 39, 3) := dk_162 0 39 (dk_at dksX5_leads_0 9 rfl rfl)
theorem dX5_leads_12 : decode cX5_leads 12 = .ok (.aload_n 0, 1) := dk_42 (dk_at dksX5_leads_0 12 rfl rfl)
theorem dX5_leads_13 : decode cX5_leads 13 = .ok (.iload_n 3, 1) := dk_29 (dk_at dksX5_leads_0 13 rfl rfl)
theorem dX5_leads_14 : decode cX5_leads 14 = .ok (.invokevirtual 479, 3) := dk_182 1 223 (dk_at dksX5_leads_0 14 rfl rfl)
theorem dX5_leads_17 : decode cX5_leads 17 = .ok (.ifCond .eq 25, 3) := dk_153 0 25 (dk_at dksX5_leads_0 17 rfl rfl)
theorem dX5_leads_20 : decode cX5_leads 20 = .ok (.aload_n 0, 1) := dk_42 (dk_at dksX5_leads_0 20 rfl rfl)
theorem dX5_leads_21 : decode cX5_leads 21 = .ok (.iload_n 1, 1) := dk_27 (dk_at dksX5_leads_0 21 rfl rfl)
theorem dX5_leads_22 : decode cX5_leads 22 = .ok (.iload_n 3, 1) := dk_29 (dk_at dksX5_leads_0 22 rfl rfl)
theorem dX5_leads_23 : decode cX5_leads 23 = .ok (.invokevirtual 482, 3) := dk_182 1 226 (dk_at dksX5_leads_1 0 rfl rfl)
theorem dX5_leads_26 : decode cX5_leads 26 = .ok (.ifCond .ne 6, 3) := dk_154 0 6 (dk_at dksX5_leads_1 3 rfl rfl)
theorem dX5_leads_29 : decode cX5_leads 29 = .ok (.goto 13, 3) := dk_167 0 13 (dk_at dksX5_leads_1 6 rfl rfl)
theorem dX5_leads_32 : decode cX5_leads 32 = .ok (.aload_n 0, 1) := dk_42 (dk_at dksX5_leads_1 9 rfl rfl)
theorem dX5_leads_33 : decode cX5_leads 33 = .ok (.getfield 40, 3) := dk_180 0 40 (dk_at dksX5_leads_1 10 rfl rfl)
theorem dX5_leads_36 : decode cX5_leads 36 = .ok (.iload_n 2, 1) := dk_28 (dk_at dksX5_leads_1 13 rfl rfl)
theorem dX5_leads_37 : decode cX5_leads 37 = .ok (.iload_n 3, 1) := dk_29 (dk_at dksX5_leads_1 14 rfl rfl)
theorem dX5_leads_38 : decode cX5_leads 38 = .ok (.iastore, 1) := dk_79 (dk_at dksX5_leads_1 15 rfl rfl)
theorem dX5_leads_39 : decode cX5_leads 39 = .ok (.iinc 2 1, 3) := dk_132 2 1 (dk_at dksX5_leads_1 16 rfl rfl)
theorem dX5_leads_42 : decode cX5_leads 42 = .ok (.iinc 3 1, 3) := dk_132 3 1 (dk_at dksX5_leads_1 19 rfl rfl)
theorem dX5_leads_45 : decode cX5_leads 45 = .ok (.goto (-41), 3) := dk_167 255 215 (dk_at dksX5_leads_2 0 rfl rfl)
theorem dX5_leads_48 : decode cX5_leads 48 = .ok (.iload_n 2, 1) := dk_28 (dk_at dksX5_leads_2 3 rfl rfl)
theorem dX5_leads_49 : decode cX5_leads 49 = .ok (.ireturn, 1) := dk_172 (dk_at dksX5_leads_2 4 rfl rfl)
abbrev cX5_isState : ByteArray := prog_15_method_84_code
def yX5_isState : MethodName := ⟨RX5, "isState", "(I)Z"⟩
def dkwX5_isState_1 : List UInt8 := [161, 0, 5, 3, 172, 132, 2, 1, 167, 255, 227, 4, 172]
abbrev dktX5_isState_1 : List UInt8 := dkwX5_isState_1 ++ []
def dkwX5_isState_0 : List UInt8 := [3, 61, 28, 42, 180, 1, 214, 162, 0, 27, 42, 27, 28, 182, 1, 220, 42, 180, 1, 124, 180, 0, 218]
abbrev dktX5_isState_0 : List UInt8 := dkwX5_isState_0 ++ dktX5_isState_1
theorem dksX5_isState_0 : cX5_isState.data.toList.drop 0 = dktX5_isState_0 := by decide +kernel
theorem dksX5_isState_1 : cX5_isState.data.toList.drop 23 = dktX5_isState_1 := dk_seg dksX5_isState_0 23 rfl rfl
theorem dX5_isState_0 : decode cX5_isState 0 = .ok (.iconst 0, 1) := dk_3 (dk_at dksX5_isState_0 0 rfl rfl)
theorem dX5_isState_1 : decode cX5_isState 1 = .ok (.istore_n 2, 1) := dk_61 (dk_at dksX5_isState_0 1 rfl rfl)
theorem dX5_isState_2 : decode cX5_isState 2 = .ok (.iload_n 2, 1) := dk_28 (dk_at dksX5_isState_0 2 rfl rfl)
theorem dX5_isState_3 : decode cX5_isState 3 = .ok (.aload_n 0, 1) := dk_42 (dk_at dksX5_isState_0 3 rfl rfl)
theorem dX5_isState_4 : decode cX5_isState 4 = .ok (.getfield 470, 3) := dk_180 1 214 (dk_at dksX5_isState_0 4 rfl rfl)
theorem dX5_isState_7 : decode cX5_isState 7 = .ok (.if_icmp .ge 27, 3) := dk_162 0 27 (dk_at dksX5_isState_0 7 rfl rfl)
theorem dX5_isState_10 : decode cX5_isState 10 = .ok (.aload_n 0, 1) := dk_42 (dk_at dksX5_isState_0 10 rfl rfl)
theorem dX5_isState_11 : decode cX5_isState 11 = .ok (.iload_n 1, 1) := dk_27 (dk_at dksX5_isState_0 11 rfl rfl)
theorem dX5_isState_12 : decode cX5_isState 12 = .ok (.iload_n 2, 1) := dk_28 (dk_at dksX5_isState_0 12 rfl rfl)
theorem dX5_isState_13 : decode cX5_isState 13 = .ok (.invokevirtual 476, 3) := dk_182 1 220 (dk_at dksX5_isState_0 13 rfl rfl)
theorem dX5_isState_16 : decode cX5_isState 16 = .ok (.aload_n 0, 1) := dk_42 (dk_at dksX5_isState_0 16 rfl rfl)
theorem dX5_isState_17 : decode cX5_isState 17 = .ok (.getfield 380, 3) := dk_180 1 124 (dk_at dksX5_isState_0 17 rfl rfl)
theorem dX5_isState_20 : decode cX5_isState 20 = .ok (.getfield 218, 3) := dk_180 0 218 (dk_at dksX5_isState_0 20 rfl rfl)
theorem dX5_isState_23 : decode cX5_isState 23 = .ok (.if_icmp .lt 5, 3) := dk_161 0 5 (dk_at dksX5_isState_1 0 rfl rfl)
theorem dX5_isState_26 : decode cX5_isState 26 = .ok (.iconst 0, 1) := dk_3 (dk_at dksX5_isState_1 3 rfl rfl)
theorem dX5_isState_27 : decode cX5_isState 27 = .ok (.ireturn, 1) := dk_172 (dk_at dksX5_isState_1 4 rfl rfl)
theorem dX5_isState_28 : decode cX5_isState 28 = .ok (.iinc 2 1, 3) := dk_132 2 1 (dk_at dksX5_isState_1 5 rfl rfl)
theorem dX5_isState_31 : decode cX5_isState 31 = .ok (.goto (-29), 3) := dk_167 255 227 (dk_at dksX5_isState_1 8 rfl rfl)
theorem dX5_isState_34 : decode cX5_isState 34 = .ok (.iconst 1, 1) := dk_4 (dk_at dksX5_isState_1 11 rfl rfl)
theorem dX5_isState_35 : decode cX5_isState 35 = .ok (.ireturn, 1) := dk_172 (dk_at dksX5_isState_1 12 rfl rfl)
abbrev cX5_placeIn : ByteArray := prog_15_method_82_code
def yX5_placeIn : MethodName := ⟨RX5, "placeIn", "(II)I"⟩
def dkwX5_placeIn_1 : List UInt8 := [167, 255, 242, 29, 16, 10, 112, 172]
abbrev dktX5_placeIn_1 : List UInt8 := dkwX5_placeIn_1 ++ []
def dkwX5_placeIn_0 : List UInt8 := [27, 62, 42, 180, 1, 214, 4, 100, 54, 4, 21, 4, 28, 164, 0, 14, 29, 16, 10, 108, 62, 132, 4, 255]
abbrev dktX5_placeIn_0 : List UInt8 := dkwX5_placeIn_0 ++ dktX5_placeIn_1
theorem dksX5_placeIn_0 : cX5_placeIn.data.toList.drop 0 = dktX5_placeIn_0 := by decide +kernel
theorem dksX5_placeIn_1 : cX5_placeIn.data.toList.drop 24 = dktX5_placeIn_1 := dk_seg dksX5_placeIn_0 24 rfl rfl
theorem dX5_placeIn_0 : decode cX5_placeIn 0 = .ok (.iload_n 1, 1) := dk_27 (dk_at dksX5_placeIn_0 0 rfl rfl)
theorem dX5_placeIn_1 : decode cX5_placeIn 1 = .ok (.istore_n 3, 1) := dk_62 (dk_at dksX5_placeIn_0 1 rfl rfl)
theorem dX5_placeIn_2 : decode cX5_placeIn 2 = .ok (.aload_n 0, 1) := dk_42 (dk_at dksX5_placeIn_0 2 rfl rfl)
theorem dX5_placeIn_3 : decode cX5_placeIn 3 = .ok (.getfield 470, 3) := dk_180 1 214 (dk_at dksX5_placeIn_0 3 rfl rfl)
theorem dX5_placeIn_6 : decode cX5_placeIn 6 = .ok (.iconst 1, 1) := dk_4 (dk_at dksX5_placeIn_0 6 rfl rfl)
theorem dX5_placeIn_7 : decode cX5_placeIn 7 = .ok (.isub, 1) := dk_100 (dk_at dksX5_placeIn_0 7 rfl rfl)
theorem dX5_placeIn_8 : decode cX5_placeIn 8 = .ok (.istore 4, 2) := dk_54 4 (dk_at dksX5_placeIn_0 8 rfl rfl)
theorem dX5_placeIn_10 : decode cX5_placeIn 10 = .ok (.iload 4, 2) := dk_21 4 (dk_at dksX5_placeIn_0 10 rfl rfl)
theorem dX5_placeIn_12 : decode cX5_placeIn 12 = .ok (.iload_n 2, 1) := dk_28 (dk_at dksX5_placeIn_0 12 rfl rfl)
theorem dX5_placeIn_13 : decode cX5_placeIn 13 = .ok (.if_icmp .le 14, 3) := dk_164 0 14 (dk_at dksX5_placeIn_0 13 rfl rfl)
theorem dX5_placeIn_16 : decode cX5_placeIn 16 = .ok (.iload_n 3, 1) := dk_29 (dk_at dksX5_placeIn_0 16 rfl rfl)
theorem dX5_placeIn_17 : decode cX5_placeIn 17 = .ok (.bipush 10, 2) := dk_16 10 (dk_at dksX5_placeIn_0 17 rfl rfl)
theorem dX5_placeIn_19 : decode cX5_placeIn 19 = .ok (.idiv, 1) := dk_108 (dk_at dksX5_placeIn_0 19 rfl rfl)
theorem dX5_placeIn_20 : decode cX5_placeIn 20 = .ok (.istore_n 3, 1) := dk_62 (dk_at dksX5_placeIn_0 20 rfl rfl)
theorem dX5_placeIn_21 : decode cX5_placeIn 21 = .ok (.iinc 4 (-1), 3) := dk_132 4 255 (dk_at dksX5_placeIn_0 21 rfl rfl)
theorem dX5_placeIn_24 : decode cX5_placeIn 24 = .ok (.goto (-14), 3) := dk_167 255 242 (dk_at dksX5_placeIn_1 0 rfl rfl)
theorem dX5_placeIn_27 : decode cX5_placeIn 27 = .ok (.iload_n 3, 1) := dk_29 (dk_at dksX5_placeIn_1 3 rfl rfl)
theorem dX5_placeIn_28 : decode cX5_placeIn 28 = .ok (.bipush 10, 2) := dk_16 10 (dk_at dksX5_placeIn_1 4 rfl rfl)
theorem dX5_placeIn_30 : decode cX5_placeIn 30 = .ok (.irem, 1) := dk_112 (dk_at dksX5_placeIn_1 6 rfl rfl)
theorem dX5_placeIn_31 : decode cX5_placeIn 31 = .ok (.ireturn, 1) := dk_172 (dk_at dksX5_placeIn_1 7 rfl rfl)
abbrev cX5_isStepTo : ByteArray := prog_15_method_86_code
def yX5_isStepTo : MethodName := ⟨RX5, "isStepTo", "(II)Z"⟩
def dkwX5_isStepTo_2 : List UInt8 := [154, 0, 5, 3, 172, 132, 3, 1, 167, 255, 203, 4, 172]
abbrev dktX5_isStepTo_2 : List UInt8 := dkwX5_isStepTo_2 ++ []
def dkwX5_isStepTo_1 : List UInt8 := [54, 5, 21, 4, 21, 5, 159, 0, 22, 42, 180, 1, 124, 21, 4, 182, 1, 193, 21, 5, 184, 1, 142]
abbrev dktX5_isStepTo_1 : List UInt8 := dkwX5_isStepTo_1 ++ dktX5_isStepTo_2
def dkwX5_isStepTo_0 : List UInt8 := [3, 62, 29, 42, 180, 1, 214, 162, 0, 51, 42, 27, 29, 182, 1, 220, 54, 4, 42, 28, 29, 182, 1, 220]
abbrev dktX5_isStepTo_0 : List UInt8 := dkwX5_isStepTo_0 ++ dktX5_isStepTo_1
theorem dksX5_isStepTo_0 : cX5_isStepTo.data.toList.drop 0 = dktX5_isStepTo_0 := by decide +kernel
theorem dksX5_isStepTo_1 : cX5_isStepTo.data.toList.drop 24 = dktX5_isStepTo_1 := dk_seg dksX5_isStepTo_0 24 rfl rfl
theorem dksX5_isStepTo_2 : cX5_isStepTo.data.toList.drop 47 = dktX5_isStepTo_2 := dk_seg dksX5_isStepTo_1 23 rfl rfl
theorem dX5_isStepTo_0 : decode cX5_isStepTo 0 = .ok (.iconst 0, 1) := dk_3 (dk_at dksX5_isStepTo_0 0 rfl rfl)
theorem dX5_isStepTo_1 : decode cX5_isStepTo 1 = .ok (.istore_n 3, 1) := dk_62 (dk_at dksX5_isStepTo_0 1 rfl rfl)
theorem dX5_isStepTo_2 : decode cX5_isStepTo 2 = .ok (.iload_n 3, 1) := dk_29 (dk_at dksX5_isStepTo_0 2 rfl rfl)
theorem dX5_isStepTo_3 : decode cX5_isStepTo 3 = .ok (.aload_n 0, 1) := dk_42 (dk_at dksX5_isStepTo_0 3 rfl rfl)
theorem dX5_isStepTo_4 : decode cX5_isStepTo 4 = .ok (.getfield 470, 3) := dk_180 1 214 (dk_at dksX5_isStepTo_0 4 rfl rfl)
theorem dX5_isStepTo_7 : decode cX5_isStepTo 7 = .ok (.if_icmp .ge 51, 3) := dk_162 0 51 (dk_at dksX5_isStepTo_0 7 rfl rfl)
theorem dX5_isStepTo_10 : decode cX5_isStepTo 10 = .ok (.aload_n 0, 1) := dk_42 (dk_at dksX5_isStepTo_0 10 rfl rfl)
theorem dX5_isStepTo_11 : decode cX5_isStepTo 11 = .ok (.iload_n 1, 1) := dk_27 (dk_at dksX5_isStepTo_0 11 rfl rfl)
theorem dX5_isStepTo_12 : decode cX5_isStepTo 12 = .ok (.iload_n 3, 1) := dk_29 (dk_at dksX5_isStepTo_0 12 rfl rfl)
theorem dX5_isStepTo_13 : decode cX5_isStepTo 13 = .ok (.invokevirtual 476, 3) := dk_182 1 220 (dk_at dksX5_isStepTo_0 13 rfl rfl)
theorem dX5_isStepTo_16 : decode cX5_isStepTo 16 = .ok (.istore 4, 2) := dk_54 4 (dk_at dksX5_isStepTo_0 16 rfl rfl)
theorem dX5_isStepTo_18 : decode cX5_isStepTo 18 = .ok (.aload_n 0, 1) := dk_42 (dk_at dksX5_isStepTo_0 18 rfl rfl)
theorem dX5_isStepTo_19 : decode cX5_isStepTo 19 = .ok (.iload_n 2, 1) := dk_28 (dk_at dksX5_isStepTo_0 19 rfl rfl)
theorem dX5_isStepTo_20 : decode cX5_isStepTo 20 = .ok (.iload_n 3, 1) := dk_29 (dk_at dksX5_isStepTo_0 20 rfl rfl)
theorem dX5_isStepTo_21 : decode cX5_isStepTo 21 = .ok (.invokevirtual 476, 3) := dk_182 1 220 (dk_at dksX5_isStepTo_0 21 rfl rfl)
theorem dX5_isStepTo_24 : decode cX5_isStepTo 24 = .ok (.istore 5, 2) := dk_54 5 (dk_at dksX5_isStepTo_1 0 rfl rfl)
theorem dX5_isStepTo_26 : decode cX5_isStepTo 26 = .ok (.iload 4, 2) := dk_21 4 (dk_at dksX5_isStepTo_1 2 rfl rfl)
theorem dX5_isStepTo_28 : decode cX5_isStepTo 28 = .ok (.iload 5, 2) := dk_21 5 (dk_at dksX5_isStepTo_1 4 rfl rfl)
theorem dX5_isStepTo_30 : decode cX5_isStepTo 30 = .ok (.if_icmp .eq 22, 3) := dk_159 0 22 (dk_at dksX5_isStepTo_1 6 rfl rfl)
theorem dX5_isStepTo_33 : decode cX5_isStepTo 33 = .ok (.aload_n 0, 1) := dk_42 (dk_at dksX5_isStepTo_1 9 rfl rfl)
theorem dX5_isStepTo_34 : decode cX5_isStepTo 34 = .ok (.getfield 380, 3) := dk_180 1 124 (dk_at dksX5_isStepTo_1 10 rfl rfl)
theorem dX5_isStepTo_37 : decode cX5_isStepTo 37 = .ok (.iload 4, 2) := dk_21 4 (dk_at dksX5_isStepTo_1 13 rfl rfl)
theorem dX5_isStepTo_39 : decode cX5_isStepTo 39 = .ok (.invokevirtual 449, 3) := dk_182 1 193 (dk_at dksX5_isStepTo_1 15 rfl rfl)
theorem dX5_isStepTo_42 : decode cX5_isStepTo 42 = .ok (.iload 5, 2) := dk_21 5 (dk_at dksX5_isStepTo_1 18 rfl rfl)
theorem dX5_isStepTo_44 : decode cX5_isStepTo 44 = .ok (.invokestatic 398, 3) := dk_184 1 142 (dk_at dksX5_isStepTo_1 20 rfl rfl)
theorem dX5_isStepTo_47 : decode cX5_isStepTo 47 = .ok (.ifCond .ne 5, 3) := dk_154 0 5 (dk_at dksX5_isStepTo_2 0 rfl rfl)
theorem dX5_isStepTo_50 : decode cX5_isStepTo 50 = .ok (.iconst 0, 1) := dk_3 (dk_at dksX5_isStepTo_2 3 rfl rfl)
theorem dX5_isStepTo_51 : decode cX5_isStepTo 51 = .ok (.ireturn, 1) := dk_172 (dk_at dksX5_isStepTo_2 4 rfl rfl)
theorem dX5_isStepTo_52 : decode cX5_isStepTo 52 = .ok (.iinc 3 1, 3) := dk_132 3 1 (dk_at dksX5_isStepTo_2 5 rfl rfl)
theorem dX5_isStepTo_55 : decode cX5_isStepTo 55 = .ok (.goto (-53), 3) := dk_167 255 203 (dk_at dksX5_isStepTo_2 8 rfl rfl)
theorem dX5_isStepTo_58 : decode cX5_isStepTo 58 = .ok (.iconst 1, 1) := dk_4 (dk_at dksX5_isStepTo_2 11 rfl rfl)
theorem dX5_isStepTo_59 : decode cX5_isStepTo 59 = .ok (.ireturn, 1) := dk_172 (dk_at dksX5_isStepTo_2 12 rfl rfl)
abbrev cX5_spreads : ByteArray := prog_15_method_88_code
def yX5_spreads : MethodName := ⟨RX5, "spreads", "(I)V"⟩
def dkwX5_spreads_7 : List UInt8 := [132, 2, 1, 167, 255, 197, 177]
abbrev dktX5_spreads_7 : List UInt8 := dkwX5_spreads_7 ++ []
def dkwX5_spreads_6 : List UInt8 := [4, 96, 182, 1, 232, 154, 0, 18, 42, 180, 0, 33, 17, 3, 232, 27, 4, 96, 104, 28, 96, 3, 84]
abbrev dktX5_spreads_6 : List UInt8 := dkwX5_spreads_6 ++ dktX5_spreads_7
def dkwX5_spreads_5 : List UInt8 := [180, 0, 33, 17, 3, 232, 27, 4, 96, 104, 28, 96, 51, 153, 0, 34, 42, 28, 42, 180, 1, 127, 27, 96]
abbrev dktX5_spreads_5 : List UInt8 := dkwX5_spreads_5 ++ dktX5_spreads_6
def dkwX5_spreads_4 : List UInt8 := [132, 4, 1, 167, 255, 226, 132, 2, 1, 167, 255, 185, 3, 61, 28, 42, 180, 1, 217, 162, 0, 57, 42]
abbrev dktX5_spreads_4 : List UInt8 := dkwX5_spreads_4 ++ dktX5_spreads_5
def dkwX5_spreads_3 : List UInt8 := [162, 0, 30, 42, 180, 0, 33, 17, 3, 232, 27, 4, 96, 104, 42, 180, 0, 40, 21, 4, 46, 96, 4, 84]
abbrev dktX5_spreads_3 : List UInt8 := dkwX5_spreads_3 ++ dktX5_spreads_4
def dkwX5_spreads_2 : List UInt8 := [27, 104, 28, 96, 51, 154, 0, 6, 167, 0, 45, 42, 28, 182, 1, 229, 62, 3, 54, 4, 21, 4, 29]
abbrev dktX5_spreads_2 : List UInt8 := dkwX5_spreads_2 ++ dktX5_spreads_3
def dkwX5_spreads_1 : List UInt8 := [84, 132, 2, 1, 167, 255, 230, 3, 61, 28, 42, 180, 1, 217, 162, 0, 69, 42, 180, 0, 33, 17, 3, 232]
abbrev dktX5_spreads_1 : List UInt8 := dkwX5_spreads_1 ++ dktX5_spreads_2
def dkwX5_spreads_0 : List UInt8 := [3, 61, 28, 42, 180, 1, 217, 162, 0, 24, 42, 180, 0, 33, 17, 3, 232, 27, 4, 96, 104, 28, 96, 3]
abbrev dktX5_spreads_0 : List UInt8 := dkwX5_spreads_0 ++ dktX5_spreads_1
theorem dksX5_spreads_0 : cX5_spreads.data.toList.drop 0 = dktX5_spreads_0 := by decide +kernel
theorem dksX5_spreads_1 : cX5_spreads.data.toList.drop 24 = dktX5_spreads_1 := dk_seg dksX5_spreads_0 24 rfl rfl
theorem dksX5_spreads_2 : cX5_spreads.data.toList.drop 48 = dktX5_spreads_2 := dk_seg dksX5_spreads_1 24 rfl rfl
theorem dksX5_spreads_3 : cX5_spreads.data.toList.drop 71 = dktX5_spreads_3 := dk_seg dksX5_spreads_2 23 rfl rfl
theorem dksX5_spreads_4 : cX5_spreads.data.toList.drop 95 = dktX5_spreads_4 := dk_seg dksX5_spreads_3 24 rfl rfl
theorem dksX5_spreads_5 : cX5_spreads.data.toList.drop 118 = dktX5_spreads_5 := dk_seg dksX5_spreads_4 23 rfl rfl
theorem dksX5_spreads_6 : cX5_spreads.data.toList.drop 142 = dktX5_spreads_6 := dk_seg dksX5_spreads_5 24 rfl rfl
theorem dksX5_spreads_7 : cX5_spreads.data.toList.drop 165 = dktX5_spreads_7 := dk_seg dksX5_spreads_6 23 rfl rfl
theorem dX5_spreads_0 : decode cX5_spreads 0 = .ok (.iconst 0, 1) := dk_3 (dk_at dksX5_spreads_0 0 rfl rfl)
theorem dX5_spreads_1 : decode cX5_spreads 1 = .ok (.istore_n 2, 1) := dk_61 (dk_at dksX5_spreads_0 1 rfl rfl)
theorem dX5_spreads_2 : decode cX5_spreads 2 = .ok (.iload_n 2, 1) := dk_28 (dk_at dksX5_spreads_0 2 rfl rfl)
theorem dX5_spreads_3 : decode cX5_spreads 3 = .ok (.aload_n 0, 1) := dk_42 (dk_at dksX5_spreads_0 3 rfl rfl)
theorem dX5_spreads_4 : decode cX5_spreads 4 = .ok (.getfield 473, 3) := dk_180 1 217 (dk_at dksX5_spreads_0 4 rfl rfl)
theorem dX5_spreads_7 : decode cX5_spreads 7 = .ok (.if_icmp .ge 24, 3) := dk_162 0 24 (dk_at dksX5_spreads_0 7 rfl rfl)
theorem dX5_spreads_10 : decode cX5_spreads 10 = .ok (.aload_n 0, 1) := dk_42 (dk_at dksX5_spreads_0 10 rfl rfl)
theorem dX5_spreads_11 : decode cX5_spreads 11 = .ok (.getfield 33, 3) := dk_180 0 33 (dk_at dksX5_spreads_0 11 rfl rfl)
theorem dX5_spreads_14 : decode cX5_spreads 14 = .ok (.sipush 1000, 3) := dk_17 3 232 (dk_at dksX5_spreads_0 14 rfl rfl)
theorem dX5_spreads_17 : decode cX5_spreads 17 = .ok (.iload_n 1, 1) := dk_27 (dk_at dksX5_spreads_0 17 rfl rfl)
theorem dX5_spreads_18 : decode cX5_spreads 18 = .ok (.iconst 1, 1) := dk_4 (dk_at dksX5_spreads_0 18 rfl rfl)
theorem dX5_spreads_19 : decode cX5_spreads 19 = .ok (.iadd, 1) := dk_96 (dk_at dksX5_spreads_0 19 rfl rfl)
theorem dX5_spreads_20 : decode cX5_spreads 20 = .ok (.imul, 1) := dk_104 (dk_at dksX5_spreads_0 20 rfl rfl)
theorem dX5_spreads_21 : decode cX5_spreads 21 = .ok (.iload_n 2, 1) := dk_28 (dk_at dksX5_spreads_0 21 rfl rfl)
theorem dX5_spreads_22 : decode cX5_spreads 22 = .ok (.iadd, 1) := dk_96 (dk_at dksX5_spreads_0 22 rfl rfl)
theorem dX5_spreads_23 : decode cX5_spreads 23 = .ok (.iconst 0, 1) := dk_3 (dk_at dksX5_spreads_0 23 rfl rfl)
theorem dX5_spreads_24 : decode cX5_spreads 24 = .ok (.bastore, 1) := dk_84 (dk_at dksX5_spreads_1 0 rfl rfl)
theorem dX5_spreads_25 : decode cX5_spreads 25 = .ok (.iinc 2 1, 3) := dk_132 2 1 (dk_at dksX5_spreads_1 1 rfl rfl)
theorem dX5_spreads_28 : decode cX5_spreads 28 = .ok (.goto (-26), 3) := dk_167 255 230 (dk_at dksX5_spreads_1 4 rfl rfl)
theorem dX5_spreads_31 : decode cX5_spreads 31 = .ok (.iconst 0, 1) := dk_3 (dk_at dksX5_spreads_1 7 rfl rfl)
theorem dX5_spreads_32 : decode cX5_spreads 32 = .ok (.istore_n 2, 1) := dk_61 (dk_at dksX5_spreads_1 8 rfl rfl)
theorem dX5_spreads_33 : decode cX5_spreads 33 = .ok (.iload_n 2, 1) := dk_28 (dk_at dksX5_spreads_1 9 rfl rfl)
theorem dX5_spreads_34 : decode cX5_spreads 34 = .ok (.aload_n 0, 1) := dk_42 (dk_at dksX5_spreads_1 10 rfl rfl)
theorem dX5_spreads_35 : decode cX5_spreads 35 = .ok (.getfield 473, 3) := dk_180 1 217 (dk_at dksX5_spreads_1 11 rfl rfl)
theorem dX5_spreads_38 : decode cX5_spreads 38 = .ok (.if_icmp .ge 69, 3) := dk_162 0 69 (dk_at dksX5_spreads_1 14 rfl rfl)
theorem dX5_spreads_41 : decode cX5_spreads 41 = .ok (.aload_n 0, 1) := dk_42 (dk_at dksX5_spreads_1 17 rfl rfl)
theorem dX5_spreads_42 : decode cX5_spreads 42 = .ok (.getfield 33, 3) := dk_180 0 33 (dk_at dksX5_spreads_1 18 rfl rfl)
theorem dX5_spreads_45 : decode cX5_spreads 45 = .ok (.sipush 1000, 3) := dk_17 3 232 (dk_at dksX5_spreads_1 21 rfl rfl)
theorem dX5_spreads_48 : decode cX5_spreads 48 = .ok (.iload_n 1, 1) := dk_27 (dk_at dksX5_spreads_2 0 rfl rfl)
theorem dX5_spreads_49 : decode cX5_spreads 49 = .ok (.imul, 1) := dk_104 (dk_at dksX5_spreads_2 1 rfl rfl)
theorem dX5_spreads_50 : decode cX5_spreads 50 = .ok (.iload_n 2, 1) := dk_28 (dk_at dksX5_spreads_2 2 rfl rfl)
theorem dX5_spreads_51 : decode cX5_spreads 51 = .ok (.iadd, 1) := dk_96 (dk_at dksX5_spreads_2 3 rfl rfl)
theorem dX5_spreads_52 : decode cX5_spreads 52 = .ok (.baload, 1) := dk_51 (dk_at dksX5_spreads_2 4 rfl rfl)
theorem dX5_spreads_53 : decode cX5_spreads 53 = .ok (.ifCond .ne 6, 3) := dk_154 0 6 (dk_at dksX5_spreads_2 5 rfl rfl)
theorem dX5_spreads_56 : decode cX5_spreads 56 = .ok (.goto 45, 3) := dk_167 0 45 (dk_at dksX5_spreads_2 8 rfl rfl)
theorem dX5_spreads_59 : decode cX5_spreads 59 = .ok (.aload_n 0, 1) := dk_42 (dk_at dksX5_spreads_2 11 rfl rfl)
theorem dX5_spreads_60 : decode cX5_spreads 60 = .ok (.iload_n 2, 1) := dk_28 (dk_at dksX5_spreads_2 12 rfl rfl)
theorem dX5_spreads_61 : decode cX5_spreads 61 = .ok (.invokevirtual 485, 3) := dk_182 1 229 (dk_at dksX5_spreads_2 13 rfl rfl)
theorem dX5_spreads_64 : decode cX5_spreads 64 = .ok (.istore_n 3, 1) := dk_62 (dk_at dksX5_spreads_2 16 rfl rfl)
theorem dX5_spreads_65 : decode cX5_spreads 65 = .ok (.iconst 0, 1) := dk_3 (dk_at dksX5_spreads_2 17 rfl rfl)
theorem dX5_spreads_66 : decode cX5_spreads 66 = .ok (.istore 4, 2) := dk_54 4 (dk_at dksX5_spreads_2 18 rfl rfl)
theorem dX5_spreads_68 : decode cX5_spreads 68 = .ok (.iload 4, 2) := dk_21 4 (dk_at dksX5_spreads_2 20 rfl rfl)
theorem dX5_spreads_70 : decode cX5_spreads 70 = .ok (.iload_n 3, 1) := dk_29 (dk_at dksX5_spreads_2 22 rfl rfl)
theorem dX5_spreads_71 : decode cX5_spreads 71 = .ok (.if_icmp .ge 30, 3) := dk_162 0 30 (dk_at dksX5_spreads_3 0 rfl rfl)
theorem dX5_spreads_74 : decode cX5_spreads 74 = .ok (.aload_n 0, 1) := dk_42 (dk_at dksX5_spreads_3 3 rfl rfl)
theorem dX5_spreads_75 : decode cX5_spreads 75 = .ok (.getfield 33, 3) := dk_180 0 33 (dk_at dksX5_spreads_3 4 rfl rfl)
theorem dX5_spreads_78 : decode cX5_spreads 78 = .ok (.sipush 1000, 3) := dk_17 3 232 (dk_at dksX5_spreads_3 7 rfl rfl)
theorem dX5_spreads_81 : decode cX5_spreads 81 = .ok (.iload_n 1, 1) := dk_27 (dk_at dksX5_spreads_3 10 rfl rfl)
theorem dX5_spreads_82 : decode cX5_spreads 82 = .ok (.iconst 1, 1) := dk_4 (dk_at dksX5_spreads_3 11 rfl rfl)
theorem dX5_spreads_83 : decode cX5_spreads 83 = .ok (.iadd, 1) := dk_96 (dk_at dksX5_spreads_3 12 rfl rfl)
theorem dX5_spreads_84 : decode cX5_spreads 84 = .ok (.imul, 1) := dk_104 (dk_at dksX5_spreads_3 13 rfl rfl)
theorem dX5_spreads_85 : decode cX5_spreads 85 = .ok (.aload_n 0, 1) := dk_42 (dk_at dksX5_spreads_3 14 rfl rfl)
theorem dX5_spreads_86 : decode cX5_spreads 86 = .ok (.getfield 40, 3) := dk_180 0 40 (dk_at dksX5_spreads_3 15 rfl rfl)
theorem dX5_spreads_89 : decode cX5_spreads 89 = .ok (.iload 4, 2) := dk_21 4 (dk_at dksX5_spreads_3 18 rfl rfl)
theorem dX5_spreads_91 : decode cX5_spreads 91 = .ok (.iaload, 1) := dk_46 (dk_at dksX5_spreads_3 20 rfl rfl)
theorem dX5_spreads_92 : decode cX5_spreads 92 = .ok (.iadd, 1) := dk_96 (dk_at dksX5_spreads_3 21 rfl rfl)
theorem dX5_spreads_93 : decode cX5_spreads 93 = .ok (.iconst 1, 1) := dk_4 (dk_at dksX5_spreads_3 22 rfl rfl)
theorem dX5_spreads_94 : decode cX5_spreads 94 = .ok (.bastore, 1) := dk_84 (dk_at dksX5_spreads_3 23 rfl rfl)
theorem dX5_spreads_95 : decode cX5_spreads 95 = .ok (.iinc 4 1, 3) := dk_132 4 1 (dk_at dksX5_spreads_4 0 rfl rfl)
theorem dX5_spreads_98 : decode cX5_spreads 98 = .ok (.goto (-30), 3) := dk_167 255 226 (dk_at dksX5_spreads_4 3 rfl rfl)
theorem dX5_spreads_101 : decode cX5_spreads 101 = .ok (.iinc 2 1, 3) := dk_132 2 1 (dk_at dksX5_spreads_4 6 rfl rfl)
theorem dX5_spreads_104 : decode cX5_spreads 104 = .ok (.goto (-71), 3) := dk_167 255 185 (dk_at dksX5_spreads_4 9 rfl rfl)
theorem dX5_spreads_107 : decode cX5_spreads 107 = .ok (.iconst 0, 1) := dk_3 (dk_at dksX5_spreads_4 12 rfl rfl)
theorem dX5_spreads_108 : decode cX5_spreads 108 = .ok (.istore_n 2, 1) := dk_61 (dk_at dksX5_spreads_4 13 rfl rfl)
theorem dX5_spreads_109 : decode cX5_spreads 109 = .ok (.iload_n 2, 1) := dk_28 (dk_at dksX5_spreads_4 14 rfl rfl)
theorem dX5_spreads_110 : decode cX5_spreads 110 = .ok (.aload_n 0, 1) := dk_42 (dk_at dksX5_spreads_4 15 rfl rfl)
theorem dX5_spreads_111 : decode cX5_spreads 111 = .ok (.getfield 473, 3) := dk_180 1 217 (dk_at dksX5_spreads_4 16 rfl rfl)
theorem dX5_spreads_114 : decode cX5_spreads 114 = .ok (.if_icmp .ge 57, 3) := dk_162 0 57 (dk_at dksX5_spreads_4 19 rfl rfl)
theorem dX5_spreads_117 : decode cX5_spreads 117 = .ok (.aload_n 0, 1) := dk_42 (dk_at dksX5_spreads_4 22 rfl rfl)
theorem dX5_spreads_118 : decode cX5_spreads 118 = .ok (.getfield 33, 3) := dk_180 0 33 (dk_at dksX5_spreads_5 0 rfl rfl)
theorem dX5_spreads_121 : decode cX5_spreads 121 = .ok (.sipush 1000, 3) := dk_17 3 232 (dk_at dksX5_spreads_5 3 rfl rfl)
theorem dX5_spreads_124 : decode cX5_spreads 124 = .ok (.iload_n 1, 1) := dk_27 (dk_at dksX5_spreads_5 6 rfl rfl)
theorem dX5_spreads_125 : decode cX5_spreads 125 = .ok (.iconst 1, 1) := dk_4 (dk_at dksX5_spreads_5 7 rfl rfl)
theorem dX5_spreads_126 : decode cX5_spreads 126 = .ok (.iadd, 1) := dk_96 (dk_at dksX5_spreads_5 8 rfl rfl)
theorem dX5_spreads_127 : decode cX5_spreads 127 = .ok (.imul, 1) := dk_104 (dk_at dksX5_spreads_5 9 rfl rfl)
theorem dX5_spreads_128 : decode cX5_spreads 128 = .ok (.iload_n 2, 1) := dk_28 (dk_at dksX5_spreads_5 10 rfl rfl)
theorem dX5_spreads_129 : decode cX5_spreads 129 = .ok (.iadd, 1) := dk_96 (dk_at dksX5_spreads_5 11 rfl rfl)
theorem dX5_spreads_130 : decode cX5_spreads 130 = .ok (.baload, 1) := dk_51 (dk_at dksX5_spreads_5 12 rfl rfl)
theorem dX5_spreads_131 : decode cX5_spreads 131 = .ok (.ifCond .eq 34, 3) := dk_153 0 34 (dk_at dksX5_spreads_5 13 rfl rfl)
theorem dX5_spreads_134 : decode cX5_spreads 134 = .ok (.aload_n 0, 1) := dk_42 (dk_at dksX5_spreads_5 16 rfl rfl)
theorem dX5_spreads_135 : decode cX5_spreads 135 = .ok (.iload_n 2, 1) := dk_28 (dk_at dksX5_spreads_5 17 rfl rfl)
theorem dX5_spreads_136 : decode cX5_spreads 136 = .ok (.aload_n 0, 1) := dk_42 (dk_at dksX5_spreads_5 18 rfl rfl)
theorem dX5_spreads_137 : decode cX5_spreads 137 = .ok (.getfield 383, 3) := dk_180 1 127 (dk_at dksX5_spreads_5 19 rfl rfl)
theorem dX5_spreads_140 : decode cX5_spreads 140 = .ok (.iload_n 1, 1) := dk_27 (dk_at dksX5_spreads_5 22 rfl rfl)
theorem dX5_spreads_141 : decode cX5_spreads 141 = .ok (.iadd, 1) := dk_96 (dk_at dksX5_spreads_5 23 rfl rfl)
theorem dX5_spreads_142 : decode cX5_spreads 142 = .ok (.iconst 1, 1) := dk_4 (dk_at dksX5_spreads_6 0 rfl rfl)
theorem dX5_spreads_143 : decode cX5_spreads 143 = .ok (.iadd, 1) := dk_96 (dk_at dksX5_spreads_6 1 rfl rfl)
theorem dX5_spreads_144 : decode cX5_spreads 144 = .ok (.invokevirtual 488, 3) := dk_182 1 232 (dk_at dksX5_spreads_6 2 rfl rfl)
theorem dX5_spreads_147 : decode cX5_spreads 147 = .ok (.ifCond .ne 18, 3) := dk_154 0 18 (dk_at dksX5_spreads_6 5 rfl rfl)
theorem dX5_spreads_150 : decode cX5_spreads 150 = .ok (.aload_n 0, 1) := dk_42 (dk_at dksX5_spreads_6 8 rfl rfl)
theorem dX5_spreads_151 : decode cX5_spreads 151 = .ok (.getfield 33, 3) := dk_180 0 33 (dk_at dksX5_spreads_6 9 rfl rfl)
theorem dX5_spreads_154 : decode cX5_spreads 154 = .ok (.sipush 1000, 3) := dk_17 3 232 (dk_at dksX5_spreads_6 12 rfl rfl)
theorem dX5_spreads_157 : decode cX5_spreads 157 = .ok (.iload_n 1, 1) := dk_27 (dk_at dksX5_spreads_6 15 rfl rfl)
theorem dX5_spreads_158 : decode cX5_spreads 158 = .ok (.iconst 1, 1) := dk_4 (dk_at dksX5_spreads_6 16 rfl rfl)
theorem dX5_spreads_159 : decode cX5_spreads 159 = .ok (.iadd, 1) := dk_96 (dk_at dksX5_spreads_6 17 rfl rfl)
theorem dX5_spreads_160 : decode cX5_spreads 160 = .ok (.imul, 1) := dk_104 (dk_at dksX5_spreads_6 18 rfl rfl)
theorem dX5_spreads_161 : decode cX5_spreads 161 = .ok (.iload_n 2, 1) := dk_28 (dk_at dksX5_spreads_6 19 rfl rfl)
theorem dX5_spreads_162 : decode cX5_spreads 162 = .ok (.iadd, 1) := dk_96 (dk_at dksX5_spreads_6 20 rfl rfl)
theorem dX5_spreads_163 : decode cX5_spreads 163 = .ok (.iconst 0, 1) := dk_3 (dk_at dksX5_spreads_6 21 rfl rfl)
theorem dX5_spreads_164 : decode cX5_spreads 164 = .ok (.bastore, 1) := dk_84 (dk_at dksX5_spreads_6 22 rfl rfl)
theorem dX5_spreads_165 : decode cX5_spreads 165 = .ok (.iinc 2 1, 3) := dk_132 2 1 (dk_at dksX5_spreads_7 0 rfl rfl)
theorem dX5_spreads_168 : decode cX5_spreads 168 = .ok (.goto (-59), 3) := dk_167 255 197 (dk_at dksX5_spreads_7 3 rfl rfl)
theorem dX5_spreads_171 : decode cX5_spreads 171 = .ok (.return_, 1) := dk_177 (dk_at dksX5_spreads_7 6 rfl rfl)
abbrev cX5_isLawfulState : ByteArray := prog_15_method_85_code
def yX5_isLawfulState : MethodName := ⟨RX5, "isLawfulState", "(II)Z"⟩
def dkwX5_isLawfulState_3 : List UInt8 := [3, 182, 1, 177, 172]
abbrev dktX5_isLawfulState_3 : List UInt8 := dkwX5_isLawfulState_3 ++ []
def dkwX5_isLawfulState_2 : List UInt8 := [180, 0, 30, 29, 46, 42, 27, 29, 182, 1, 220, 79, 132, 3, 1, 167, 255, 228, 42, 42, 180, 0, 21, 28]
abbrev dktX5_isLawfulState_2 : List UInt8 := dkwX5_isLawfulState_2 ++ dktX5_isLawfulState_3
def dkwX5_isLawfulState_1 : List UInt8 := [79, 132, 3, 1, 167, 255, 230, 3, 62, 29, 42, 180, 1, 214, 162, 0, 26, 42, 180, 0, 21, 42]
abbrev dktX5_isLawfulState_1 : List UInt8 := dkwX5_isLawfulState_1 ++ dktX5_isLawfulState_2
def dkwX5_isLawfulState_0 : List UInt8 := [3, 62, 29, 42, 180, 1, 124, 180, 0, 221, 162, 0, 21, 42, 180, 0, 21, 29, 42, 180, 0, 17, 29, 46]
abbrev dktX5_isLawfulState_0 : List UInt8 := dkwX5_isLawfulState_0 ++ dktX5_isLawfulState_1
theorem dksX5_isLawfulState_0 : cX5_isLawfulState.data.toList.drop 0 = dktX5_isLawfulState_0 := by decide +kernel
theorem dksX5_isLawfulState_1 : cX5_isLawfulState.data.toList.drop 24 = dktX5_isLawfulState_1 := dk_seg dksX5_isLawfulState_0 24 rfl rfl
theorem dksX5_isLawfulState_2 : cX5_isLawfulState.data.toList.drop 46 = dktX5_isLawfulState_2 := dk_seg dksX5_isLawfulState_1 22 rfl rfl
theorem dksX5_isLawfulState_3 : cX5_isLawfulState.data.toList.drop 70 = dktX5_isLawfulState_3 := dk_seg dksX5_isLawfulState_2 24 rfl rfl
theorem dX5_isLawfulState_0 : decode cX5_isLawfulState 0 = .ok (.iconst 0, 1) := dk_3 (dk_at dksX5_isLawfulState_0 0 rfl rfl)
theorem dX5_isLawfulState_1 : decode cX5_isLawfulState 1 = .ok (.istore_n 3, 1) := dk_62 (dk_at dksX5_isLawfulState_0 1 rfl rfl)
theorem dX5_isLawfulState_2 : decode cX5_isLawfulState 2 = .ok (.iload_n 3, 1) := dk_29 (dk_at dksX5_isLawfulState_0 2 rfl rfl)
theorem dX5_isLawfulState_3 : decode cX5_isLawfulState 3 = .ok (.aload_n 0, 1) := dk_42 (dk_at dksX5_isLawfulState_0 3 rfl rfl)
theorem dX5_isLawfulState_4 : decode cX5_isLawfulState 4 = .ok (.getfield 380, 3) := dk_180 1 124 (dk_at dksX5_isLawfulState_0 4 rfl rfl)
theorem dX5_isLawfulState_7 : decode cX5_isLawfulState 7 = .ok (.getfield 221, 3) := dk_180 0 221 (dk_at dksX5_isLawfulState_0 7 rfl rfl)
theorem dX5_isLawfulState_10 : decode cX5_isLawfulState 10 = .ok (.if_icmp .ge 21, 3) := dk_162 0 21 (dk_at dksX5_isLawfulState_0 10 rfl rfl)
theorem dX5_isLawfulState_13 : decode cX5_isLawfulState 13 = .ok (.aload_n 0, 1) := dk_42 (dk_at dksX5_isLawfulState_0 13 rfl rfl)
theorem dX5_isLawfulState_14 : decode cX5_isLawfulState 14 = .ok (.getfield 21, 3) := dk_180 0 21 (dk_at dksX5_isLawfulState_0 14 rfl rfl)
theorem dX5_isLawfulState_17 : decode cX5_isLawfulState 17 = .ok (.iload_n 3, 1) := dk_29 (dk_at dksX5_isLawfulState_0 17 rfl rfl)
theorem dX5_isLawfulState_18 : decode cX5_isLawfulState 18 = .ok (.aload_n 0, 1) := dk_42 (dk_at dksX5_isLawfulState_0 18 rfl rfl)
theorem dX5_isLawfulState_19 : decode cX5_isLawfulState 19 = .ok (.getfield 17, 3) := dk_180 0 17 (dk_at dksX5_isLawfulState_0 19 rfl rfl)
theorem dX5_isLawfulState_22 : decode cX5_isLawfulState 22 = .ok (.iload_n 3, 1) := dk_29 (dk_at dksX5_isLawfulState_0 22 rfl rfl)
theorem dX5_isLawfulState_23 : decode cX5_isLawfulState 23 = .ok (.iaload, 1) := dk_46 (dk_at dksX5_isLawfulState_0 23 rfl rfl)
theorem dX5_isLawfulState_24 : decode cX5_isLawfulState 24 = .ok (.iastore, 1) := dk_79 (dk_at dksX5_isLawfulState_1 0 rfl rfl)
theorem dX5_isLawfulState_25 : decode cX5_isLawfulState 25 = .ok (.iinc 3 1, 3) := dk_132 3 1 (dk_at dksX5_isLawfulState_1 1 rfl rfl)
theorem dX5_isLawfulState_28 : decode cX5_isLawfulState 28 = .ok (.goto (-26), 3) := dk_167 255 230 (dk_at dksX5_isLawfulState_1 4 rfl rfl)
theorem dX5_isLawfulState_31 : decode cX5_isLawfulState 31 = .ok (.iconst 0, 1) := dk_3 (dk_at dksX5_isLawfulState_1 7 rfl rfl)
theorem dX5_isLawfulState_32 : decode cX5_isLawfulState 32 = .ok (.istore_n 3, 1) := dk_62 (dk_at dksX5_isLawfulState_1 8 rfl rfl)
theorem dX5_isLawfulState_33 : decode cX5_isLawfulState 33 = .ok (.iload_n 3, 1) := dk_29 (dk_at dksX5_isLawfulState_1 9 rfl rfl)
theorem dX5_isLawfulState_34 : decode cX5_isLawfulState 34 = .ok (.aload_n 0, 1) := dk_42 (dk_at dksX5_isLawfulState_1 10 rfl rfl)
theorem dX5_isLawfulState_35 : decode cX5_isLawfulState 35 = .ok (.getfield 470, 3) := dk_180 1 214 (dk_at dksX5_isLawfulState_1 11 rfl rfl)
theorem dX5_isLawfulState_38 : decode cX5_isLawfulState 38 = .ok (.if_icmp .ge 26, 3) := dk_162 0 26 (dk_at dksX5_isLawfulState_1 14 rfl rfl)
theorem dX5_isLawfulState_41 : decode cX5_isLawfulState 41 = .ok (.aload_n 0, 1) := dk_42 (dk_at dksX5_isLawfulState_1 17 rfl rfl)
theorem dX5_isLawfulState_42 : decode cX5_isLawfulState 42 = .ok (.getfield 21, 3) := dk_180 0 21 (dk_at dksX5_isLawfulState_1 18 rfl rfl)
theorem dX5_isLawfulState_45 : decode cX5_isLawfulState 45 = .ok (.aload_n 0, 1) := dk_42 (dk_at dksX5_isLawfulState_1 21 rfl rfl)
theorem dX5_isLawfulState_46 : decode cX5_isLawfulState 46 = .ok (.getfield 30, 3) := dk_180 0 30 (dk_at dksX5_isLawfulState_2 0 rfl rfl)
theorem dX5_isLawfulState_49 : decode cX5_isLawfulState 49 = .ok (.iload_n 3, 1) := dk_29 (dk_at dksX5_isLawfulState_2 3 rfl rfl)
theorem dX5_isLawfulState_50 : decode cX5_isLawfulState 50 = .ok (.iaload, 1) := dk_46 (dk_at dksX5_isLawfulState_2 4 rfl rfl)
theorem dX5_isLawfulState_51 : decode cX5_isLawfulState 51 = .ok (.aload_n 0, 1) := dk_42 (dk_at dksX5_isLawfulState_2 5 rfl rfl)
theorem dX5_isLawfulState_52 : decode cX5_isLawfulState 52 = .ok (.iload_n 1, 1) := dk_27 (dk_at dksX5_isLawfulState_2 6 rfl rfl)
theorem dX5_isLawfulState_53 : decode cX5_isLawfulState 53 = .ok (.iload_n 3, 1) := dk_29 (dk_at dksX5_isLawfulState_2 7 rfl rfl)
theorem dX5_isLawfulState_54 : decode cX5_isLawfulState 54 = .ok (.invokevirtual 476, 3) := dk_182 1 220 (dk_at dksX5_isLawfulState_2 8 rfl rfl)
theorem dX5_isLawfulState_57 : decode cX5_isLawfulState 57 = .ok (.iastore, 1) := dk_79 (dk_at dksX5_isLawfulState_2 11 rfl rfl)
theorem dX5_isLawfulState_58 : decode cX5_isLawfulState 58 = .ok (.iinc 3 1, 3) := dk_132 3 1 (dk_at dksX5_isLawfulState_2 12 rfl rfl)
theorem dX5_isLawfulState_61 : decode cX5_isLawfulState 61 = .ok (.goto (-28), 3) := dk_167 255 228 (dk_at dksX5_isLawfulState_2 15 rfl rfl)
theorem dX5_isLawfulState_64 : decode cX5_isLawfulState 64 = .ok (.aload_n 0, 1) := dk_42 (dk_at dksX5_isLawfulState_2 18 rfl rfl)
theorem dX5_isLawfulState_65 : decode cX5_isLawfulState 65 = .ok (.aload_n 0, 1) := dk_42 (dk_at dksX5_isLawfulState_2 19 rfl rfl)
theorem dX5_isLawfulState_66 : decode cX5_isLawfulState 66 = .ok (.getfield 21, 3) := dk_180 0 21 (dk_at dksX5_isLawfulState_2 20 rfl rfl)
theorem dX5_isLawfulState_69 : decode cX5_isLawfulState 69 = .ok (.iload_n 2, 1) := dk_28 (dk_at dksX5_isLawfulState_2 23 rfl rfl)
theorem dX5_isLawfulState_70 : decode cX5_isLawfulState 70 = .ok (.iconst 0, 1) := dk_3 (dk_at dksX5_isLawfulState_3 0 rfl rfl)
theorem dX5_isLawfulState_71 : decode cX5_isLawfulState 71 = .ok (.invokevirtual 433, 3) := dk_182 1 177 (dk_at dksX5_isLawfulState_3 1 rfl rfl)
theorem dX5_isLawfulState_74 : decode cX5_isLawfulState 74 = .ok (.ireturn, 1) := dk_172 (dk_at dksX5_isLawfulState_3 4 rfl rfl)
abbrev cX5_path : ByteArray := prog_15_method_94_code
def yX5_path : MethodName := ⟨RX5, "path", "(II)I"⟩
def dkwX5_path_2 : List UInt8 := [180, 0, 46, 8, 28, 104, 27, 96, 46, 172]
abbrev dktX5_path_2 : List UInt8 := dkwX5_path_2 ++ []
def dkwX5_path_1 : List UInt8 := [42, 180, 0, 43, 2, 159, 0, 15, 28, 3, 42, 180, 0, 43, 184, 0, 135, 154, 0, 5, 2, 172, 42]
abbrev dktX5_path_1 : List UInt8 := dkwX5_path_1 ++ dktX5_path_2
def dkwX5_path_0 : List UInt8 := [42, 3, 181, 0, 56, 42, 27, 182, 1, 167, 153, 0, 34, 42, 180, 1, 133, 27, 184, 1, 142, 153, 0, 23]
abbrev dktX5_path_0 : List UInt8 := dkwX5_path_0 ++ dktX5_path_1
theorem dksX5_path_0 : cX5_path.data.toList.drop 0 = dktX5_path_0 := by decide +kernel
theorem dksX5_path_1 : cX5_path.data.toList.drop 24 = dktX5_path_1 := dk_seg dksX5_path_0 24 rfl rfl
theorem dksX5_path_2 : cX5_path.data.toList.drop 47 = dktX5_path_2 := dk_seg dksX5_path_1 23 rfl rfl
theorem dX5_path_0 : decode cX5_path 0 = .ok (.aload_n 0, 1) := dk_42 (dk_at dksX5_path_0 0 rfl rfl)
theorem dX5_path_1 : decode cX5_path 1 = .ok (.iconst 0, 1) := dk_3 (dk_at dksX5_path_0 1 rfl rfl)
theorem dX5_path_2 : decode cX5_path 2 = .ok (.putfield 56, 3) := dk_181 0 56 (dk_at dksX5_path_0 2 rfl rfl)
theorem dX5_path_5 : decode cX5_path 5 = .ok (.aload_n 0, 1) := dk_42 (dk_at dksX5_path_0 5 rfl rfl)
theorem dX5_path_6 : decode cX5_path 6 = .ok (.iload_n 1, 1) := dk_27 (dk_at dksX5_path_0 6 rfl rfl)
theorem dX5_path_7 : decode cX5_path 7 = .ok (.invokevirtual 423, 3) := dk_182 1 167 (dk_at dksX5_path_0 7 rfl rfl)
theorem dX5_path_10 : decode cX5_path 10 = .ok (.ifCond .eq 34, 3) := dk_153 0 34 (dk_at dksX5_path_0 10 rfl rfl)
theorem dX5_path_13 : decode cX5_path 13 = .ok (.aload_n 0, 1) := dk_42 (dk_at dksX5_path_0 13 rfl rfl)
theorem dX5_path_14 : decode cX5_path 14 = .ok (.getfield 389, 3) := dk_180 1 133 (dk_at dksX5_path_0 14 rfl rfl)
theorem dX5_path_17 : decode cX5_path 17 = .ok (.iload_n 1, 1) := dk_27 (dk_at dksX5_path_0 17 rfl rfl)
theorem dX5_path_18 : decode cX5_path 18 = .ok (.invokestatic 398, 3) := dk_184 1 142 (dk_at dksX5_path_0 18 rfl rfl)
theorem dX5_path_21 : decode cX5_path 21 = .ok (.ifCond .eq 23, 3) := dk_153 0 23 (dk_at dksX5_path_0 21 rfl rfl)
theorem dX5_path_24 : decode cX5_path 24 = .ok (.aload_n 0, 1) := dk_42 (dk_at dksX5_path_1 0 rfl rfl)
theorem dX5_path_25 : decode cX5_path 25 = .ok (.getfield 43, 3) := dk_180 0 43 (dk_at dksX5_path_1 1 rfl rfl)
theorem dX5_path_28 : decode cX5_path 28 = .ok (.iconst (-1), 1) := dk_2 (dk_at dksX5_path_1 4 rfl rfl)
theorem dX5_path_29 : decode cX5_path 29 = .ok (.if_icmp .eq 15, 3) := dk_159 0 15 (dk_at dksX5_path_1 5 rfl rfl)
theorem dX5_path_32 : decode cX5_path 32 = .ok (.iload_n 2, 1) := dk_28 (dk_at dksX5_path_1 8 rfl rfl)
theorem dX5_path_33 : decode cX5_path 33 = .ok (.iconst 0, 1) := dk_3 (dk_at dksX5_path_1 9 rfl rfl)
theorem dX5_path_34 : decode cX5_path 34 = .ok (.aload_n 0, 1) := dk_42 (dk_at dksX5_path_1 10 rfl rfl)
theorem dX5_path_35 : decode cX5_path 35 = .ok (.getfield 43, 3) := dk_180 0 43 (dk_at dksX5_path_1 11 rfl rfl)
theorem dX5_path_38 : decode cX5_path 38 = .ok (.invokestatic 135, 3) := dk_184 0 135 (dk_at dksX5_path_1 14 rfl rfl)
theorem dX5_path_41 : decode cX5_path 41 = .ok (.ifCond .ne 5, 3) := dk_154 0 5 (dk_at dksX5_path_1 17 rfl rfl)
theorem dX5_path_44 : decode cX5_path 44 = .ok (.iconst (-1), 1) := dk_2 (dk_at dksX5_path_1 20 rfl rfl)
theorem dX5_path_45 : decode cX5_path 45 = .ok (.ireturn, 1) := dk_172 (dk_at dksX5_path_1 21 rfl rfl)
theorem dX5_path_46 : decode cX5_path 46 = .ok (.aload_n 0, 1) := dk_42 (dk_at dksX5_path_1 22 rfl rfl)
theorem dX5_path_47 : decode cX5_path 47 = .ok (.getfield 46, 3) := dk_180 0 46 (dk_at dksX5_path_2 0 rfl rfl)
theorem dX5_path_50 : decode cX5_path 50 = .ok (.iconst 5, 1) := dk_8 (dk_at dksX5_path_2 3 rfl rfl)
theorem dX5_path_51 : decode cX5_path 51 = .ok (.iload_n 2, 1) := dk_28 (dk_at dksX5_path_2 4 rfl rfl)
theorem dX5_path_52 : decode cX5_path 52 = .ok (.imul, 1) := dk_104 (dk_at dksX5_path_2 5 rfl rfl)
theorem dX5_path_53 : decode cX5_path 53 = .ok (.iload_n 1, 1) := dk_27 (dk_at dksX5_path_2 6 rfl rfl)
theorem dX5_path_54 : decode cX5_path 54 = .ok (.iadd, 1) := dk_96 (dk_at dksX5_path_2 7 rfl rfl)
theorem dX5_path_55 : decode cX5_path 55 = .ok (.iaload, 1) := dk_46 (dk_at dksX5_path_2 8 rfl rfl)
theorem dX5_path_56 : decode cX5_path 56 = .ok (.ireturn, 1) := dk_172 (dk_at dksX5_path_2 9 rfl rfl)
abbrev cX5_doing : ByteArray := prog_15_method_96_code
def yX5_doing : MethodName := ⟨RX5, "doing", "(II)I"⟩
def dkwX5_doing_12 : List UInt8 := [132, 5, 1, 167, 255, 69, 42, 16, 254, 3, 182, 0, 66, 172]
abbrev dktX5_doing_12 : List UInt8 := dkwX5_doing_12 ++ []
def dkwX5_doing_11 : List UInt8 := [3, 182, 0, 66, 172, 132, 8, 1, 167, 255, 176, 21, 5, 16, 30, 162, 0, 9, 42, 21, 5, 182, 2, 1]
abbrev dktX5_doing_11 : List UInt8 := dkwX5_doing_11 ++ dktX5_doing_12
def dkwX5_doing_10 : List UInt8 := [160, 0, 29, 42, 21, 8, 21, 5, 21, 6, 182, 2, 4, 153, 0, 16, 42, 42, 180, 1, 127, 21, 6, 96]
abbrev dktX5_doing_10 : List UInt8 := dkwX5_doing_10 ++ dktX5_doing_11
def dkwX5_doing_9 : List UInt8 := [21, 8, 96, 51, 153, 0, 49, 42, 21, 8, 21, 4, 182, 1, 220, 42, 180, 1, 124, 180, 1, 96, 27, 46]
abbrev dktX5_doing_9 : List UInt8 := dkwX5_doing_9 ++ dktX5_doing_10
def dkwX5_doing_8 : List UInt8 := [21, 8, 42, 180, 1, 217, 162, 0, 77, 21, 7, 153, 0, 72, 42, 180, 0, 33, 17, 3, 232, 21, 5, 104]
abbrev dktX5_doing_8 : List UInt8 := dkwX5_doing_8 ++ dktX5_doing_9
def dkwX5_doing_7 : List UInt8 := [21, 6, 96, 42, 180, 1, 124, 180, 1, 17, 162, 0, 7, 4, 167, 0, 4, 3, 54, 7, 3, 54, 8]
abbrev dktX5_doing_7 : List UInt8 := dkwX5_doing_7 ++ dktX5_doing_8
def dkwX5_doing_6 : List UInt8 := [42, 180, 1, 127, 21, 6, 96, 42, 180, 1, 124, 180, 1, 102, 27, 46, 162, 0, 24, 42, 180, 1, 127]
abbrev dktX5_doing_6 : List UInt8 := dkwX5_doing_6 ++ dktX5_doing_7
def dkwX5_doing_5 : List UInt8 := [96, 4, 100, 54, 6, 42, 180, 1, 127, 21, 5, 96, 42, 180, 1, 124, 180, 1, 99, 27, 46, 161, 0, 43]
abbrev dktX5_doing_5 : List UInt8 := dkwX5_doing_5 ++ dktX5_doing_6
def dkwX5_doing_4 : List UInt8 := [182, 1, 250, 3, 54, 5, 21, 5, 16, 30, 163, 0, 186, 21, 5, 42, 180, 1, 124, 180, 1, 105, 27, 46]
abbrev dktX5_doing_4 : List UInt8 := dkwX5_doing_4 ++ dktX5_doing_5
def dkwX5_doing_3 : List UInt8 := [182, 1, 244, 3, 54, 4, 42, 180, 0, 30, 21, 4, 46, 29, 159, 0, 9, 132, 4, 1, 167, 255, 242, 42]
abbrev dktX5_doing_3 : List UInt8 := dkwX5_doing_3 ++ dktX5_doing_4
def dkwX5_doing_2 : List UInt8 := [182, 1, 241, 153, 0, 11, 28, 29, 184, 1, 142, 154, 0, 9, 42, 5, 182, 0, 62, 172, 42, 28]
abbrev dktX5_doing_2 : List UInt8 := dkwX5_doing_2 ++ dktX5_doing_3
def dkwX5_doing_1 : List UInt8 := [161, 0, 9, 42, 4, 182, 0, 62, 172, 42, 180, 1, 124, 180, 1, 93, 27, 46, 62, 42, 28, 6]
abbrev dktX5_doing_1 : List UInt8 := dkwX5_doing_1 ++ dktX5_doing_2
def dkwX5_doing_0 : List UInt8 := [42, 3, 181, 0, 56, 42, 180, 1, 124, 198, 0, 18, 27, 155, 0, 14, 27, 42, 180, 1, 124, 180, 1, 88]
abbrev dktX5_doing_0 : List UInt8 := dkwX5_doing_0 ++ dktX5_doing_1
theorem dksX5_doing_0 : cX5_doing.data.toList.drop 0 = dktX5_doing_0 := by decide +kernel
theorem dksX5_doing_1 : cX5_doing.data.toList.drop 24 = dktX5_doing_1 := dk_seg dksX5_doing_0 24 rfl rfl
theorem dksX5_doing_2 : cX5_doing.data.toList.drop 46 = dktX5_doing_2 := dk_seg dksX5_doing_1 22 rfl rfl
theorem dksX5_doing_3 : cX5_doing.data.toList.drop 68 = dktX5_doing_3 := dk_seg dksX5_doing_2 22 rfl rfl
theorem dksX5_doing_4 : cX5_doing.data.toList.drop 92 = dktX5_doing_4 := dk_seg dksX5_doing_3 24 rfl rfl
theorem dksX5_doing_5 : cX5_doing.data.toList.drop 116 = dktX5_doing_5 := dk_seg dksX5_doing_4 24 rfl rfl
theorem dksX5_doing_6 : cX5_doing.data.toList.drop 140 = dktX5_doing_6 := dk_seg dksX5_doing_5 24 rfl rfl
theorem dksX5_doing_7 : cX5_doing.data.toList.drop 163 = dktX5_doing_7 := dk_seg dksX5_doing_6 23 rfl rfl
theorem dksX5_doing_8 : cX5_doing.data.toList.drop 186 = dktX5_doing_8 := dk_seg dksX5_doing_7 23 rfl rfl
theorem dksX5_doing_9 : cX5_doing.data.toList.drop 210 = dktX5_doing_9 := dk_seg dksX5_doing_8 24 rfl rfl
theorem dksX5_doing_10 : cX5_doing.data.toList.drop 234 = dktX5_doing_10 := dk_seg dksX5_doing_9 24 rfl rfl
theorem dksX5_doing_11 : cX5_doing.data.toList.drop 258 = dktX5_doing_11 := dk_seg dksX5_doing_10 24 rfl rfl
theorem dksX5_doing_12 : cX5_doing.data.toList.drop 282 = dktX5_doing_12 := dk_seg dksX5_doing_11 24 rfl rfl
theorem dX5_doing_0 : decode cX5_doing 0 = .ok (.aload_n 0, 1) := dk_42 (dk_at dksX5_doing_0 0 rfl rfl)
theorem dX5_doing_1 : decode cX5_doing 1 = .ok (.iconst 0, 1) := dk_3 (dk_at dksX5_doing_0 1 rfl rfl)
theorem dX5_doing_2 : decode cX5_doing 2 = .ok (.putfield 56, 3) := dk_181 0 56 (dk_at dksX5_doing_0 2 rfl rfl)
theorem dX5_doing_5 : decode cX5_doing 5 = .ok (.aload_n 0, 1) := dk_42 (dk_at dksX5_doing_0 5 rfl rfl)
theorem dX5_doing_6 : decode cX5_doing 6 = .ok (.getfield 380, 3) := dk_180 1 124 (dk_at dksX5_doing_0 6 rfl rfl)
theorem dX5_doing_9 : decode cX5_doing 9 = .ok (.ifnull 18, 3) := dk_198 0 18 (dk_at dksX5_doing_0 9 rfl rfl)
theorem dX5_doing_12 : decode cX5_doing 12 = .ok (.iload_n 1, 1) := dk_27 (dk_at dksX5_doing_0 12 rfl rfl)
theorem dX5_doing_13 : decode cX5_doing 13 = .ok (.ifCond .lt 14, 3) := dk_155 0 14 (dk_at dksX5_doing_0 13 rfl rfl)
theorem dX5_doing_16 : decode cX5_doing 16 = .ok (.iload_n 1, 1) := dk_27 (dk_at dksX5_doing_0 16 rfl rfl)
theorem dX5_doing_17 : decode cX5_doing 17 = .ok (.aload_n 0, 1) := dk_42 (dk_at dksX5_doing_0 17 rfl rfl)
theorem dX5_doing_18 : decode cX5_doing 18 = .ok (.getfield 380, 3) := dk_180 1 124 (dk_at dksX5_doing_0 18 rfl rfl)
theorem dX5_doing_21 : decode cX5_doing 21 = .ok (.getfield 344, 3) := dk_180 1 88 (dk_at dksX5_doing_0 21 rfl rfl)
theorem dX5_doing_24 : decode cX5_doing 24 = .ok (.if_icmp .lt 9, 3) := dk_161 0 9 (dk_at dksX5_doing_1 0 rfl rfl)
theorem dX5_doing_27 : decode cX5_doing 27 = .ok (.aload_n 0, 1) := dk_42 (dk_at dksX5_doing_1 3 rfl rfl)
theorem dX5_doing_28 : decode cX5_doing 28 = .ok (.iconst 1, 1) := dk_4 (dk_at dksX5_doing_1 4 rfl rfl)
theorem dX5_doing_29 : decode cX5_doing 29 = .ok (.invokevirtual 62, 3) := dk_182 0 62 (dk_at dksX5_doing_1 5 rfl rfl)
theorem dX5_doing_32 : decode cX5_doing 32 = .ok (.ireturn, 1) := dk_172 (dk_at dksX5_doing_1 8 rfl rfl)
theorem dX5_doing_33 : decode cX5_doing 33 = .ok (.aload_n 0, 1) := dk_42 (dk_at dksX5_doing_1 9 rfl rfl)
theorem dX5_doing_34 : decode cX5_doing 34 = .ok (.getfield 380, 3) := dk_180 1 124 (dk_at dksX5_doing_1 10 rfl rfl)
theorem dX5_doing_37 : decode cX5_doing 37 = .ok (.getfield 349, 3) := dk_180 1 93 (dk_at dksX5_doing_1 13 rfl rfl)
theorem dX5_doing_40 : decode cX5_doing 40 = .ok (.iload_n 1, 1) := dk_27 (dk_at dksX5_doing_1 16 rfl rfl)
theorem dX5_doing_41 : decode cX5_doing 41 = .ok (.iaload, 1) := dk_46 (dk_at dksX5_doing_1 17 rfl rfl)
theorem dX5_doing_42 : decode cX5_doing 42 = .ok (.istore_n 3, 1) := dk_62 (dk_at dksX5_doing_1 18 rfl rfl)
theorem dX5_doing_43 : decode cX5_doing 43 = .ok (.aload_n 0, 1) := dk_42 (dk_at dksX5_doing_1 19 rfl rfl)
theorem dX5_doing_44 : decode cX5_doing 44 = .ok (.iload_n 2, 1) := dk_28 (dk_at dksX5_doing_1 20 rfl rfl)
theorem dX5_doing_45 : decode cX5_doing 45 = .ok (.iconst 3, 1) := dk_6 (dk_at dksX5_doing_1 21 rfl rfl)
theorem dX5_doing_46 : decode cX5_doing 46 = .ok (.invokevirtual 497, 3) := dk_182 1 241 (dk_at dksX5_doing_2 0 rfl rfl)
theorem dX5_doing_49 : decode cX5_doing 49 = .ok (.ifCond .eq 11, 3) := dk_153 0 11 (dk_at dksX5_doing_2 3 rfl rfl)
theorem dX5_doing_52 : decode cX5_doing 52 = .ok (.iload_n 2, 1) := dk_28 (dk_at dksX5_doing_2 6 rfl rfl)
theorem dX5_doing_53 : decode cX5_doing 53 = .ok (.iload_n 3, 1) := dk_29 (dk_at dksX5_doing_2 7 rfl rfl)
theorem dX5_doing_54 : decode cX5_doing 54 = .ok (.invokestatic 398, 3) := dk_184 1 142 (dk_at dksX5_doing_2 8 rfl rfl)
theorem dX5_doing_57 : decode cX5_doing 57 = .ok (.ifCond .ne 9, 3) := dk_154 0 9 (dk_at dksX5_doing_2 11 rfl rfl)
theorem dX5_doing_60 : decode cX5_doing 60 = .ok (.aload_n 0, 1) := dk_42 (dk_at dksX5_doing_2 14 rfl rfl)
theorem dX5_doing_61 : decode cX5_doing 61 = .ok (.iconst 2, 1) := dk_5 (dk_at dksX5_doing_2 15 rfl rfl)
theorem dX5_doing_62 : decode cX5_doing 62 = .ok (.invokevirtual 62, 3) := dk_182 0 62 (dk_at dksX5_doing_2 16 rfl rfl)
theorem dX5_doing_65 : decode cX5_doing 65 = .ok (.ireturn, 1) := dk_172 (dk_at dksX5_doing_2 19 rfl rfl)
theorem dX5_doing_66 : decode cX5_doing 66 = .ok (.aload_n 0, 1) := dk_42 (dk_at dksX5_doing_2 20 rfl rfl)
theorem dX5_doing_67 : decode cX5_doing 67 = .ok (.iload_n 2, 1) := dk_28 (dk_at dksX5_doing_2 21 rfl rfl)
theorem dX5_doing_68 : decode cX5_doing 68 = .ok (.invokevirtual 500, 3) := dk_182 1 244 (dk_at dksX5_doing_3 0 rfl rfl)
theorem dX5_doing_71 : decode cX5_doing 71 = .ok (.iconst 0, 1) := dk_3 (dk_at dksX5_doing_3 3 rfl rfl)
theorem dX5_doing_72 : decode cX5_doing 72 = .ok (.istore 4, 2) := dk_54 4 (dk_at dksX5_doing_3 4 rfl rfl)
theorem dX5_doing_74 : decode cX5_doing 74 = .ok (.aload_n 0, 1) := dk_42 (dk_at dksX5_doing_3 6 rfl rfl)
theorem dX5_doing_75 : decode cX5_doing 75 = .ok (.getfield 30, 3) := dk_180 0 30 (dk_at dksX5_doing_3 7 rfl rfl)
theorem dX5_doing_78 : decode cX5_doing 78 = .ok (.iload 4, 2) := dk_21 4 (dk_at dksX5_doing_3 10 rfl rfl)
theorem dX5_doing_80 : decode cX5_doing 80 = .ok (.iaload, 1) := dk_46 (dk_at dksX5_doing_3 12 rfl rfl)
theorem dX5_doing_81 : decode cX5_doing 81 = .ok (.iload_n 3, 1) := dk_29 (dk_at dksX5_doing_3 13 rfl rfl)
theorem dX5_doing_82 : decode cX5_doing 82 = .ok (.if_icmp .eq 9, 3) := dk_159 0 9 (dk_at dksX5_doing_3 14 rfl rfl)
theorem dX5_doing_85 : decode cX5_doing 85 = .ok (.iinc 4 1, 3) := dk_132 4 1 (dk_at dksX5_doing_3 17 rfl rfl)
theorem dX5_doing_88 : decode cX5_doing 88 = .ok (.goto (-14), 3) := dk_167 255 242 (dk_at dksX5_doing_3 20 rfl rfl)
theorem dX5_doing_91 : decode cX5_doing 91 = .ok (.aload_n 0, 1) := dk_42 (dk_at dksX5_doing_3 23 rfl rfl)
theorem dX5_doing_92 : decode cX5_doing 92 = .ok (.invokevirtual 506, 3) := dk_182 1 250 (dk_at dksX5_doing_4 0 rfl rfl)
theorem dX5_doing_95 : decode cX5_doing 95 = .ok (.iconst 0, 1) := dk_3 (dk_at dksX5_doing_4 3 rfl rfl)
theorem dX5_doing_96 : decode cX5_doing 96 = .ok (.istore 5, 2) := dk_54 5 (dk_at dksX5_doing_4 4 rfl rfl)
theorem dX5_doing_98 : decode cX5_doing 98 = .ok (.iload 5, 2) := dk_21 5 (dk_at dksX5_doing_4 6 rfl rfl)
theorem dX5_doing_100 : decode cX5_doing 100 = .ok (.bipush 30, 2) := dk_16 30 (dk_at dksX5_doing_4 8 rfl rfl)
theorem dX5_doing_102 : decode cX5_doing 102 = .ok (.if_icmp .gt 186, 3) := dk_163 0 186 (dk_at dksX5_doing_4 10 rfl rfl)
theorem dX5_doing_105 : decode cX5_doing 105 = .ok (.iload 5, 2) := dk_21 5 (dk_at dksX5_doing_4 13 rfl rfl)
theorem dX5_doing_107 : decode cX5_doing 107 = .ok (.aload_n 0, 1) := dk_42 (dk_at dksX5_doing_4 15 rfl rfl)
theorem dX5_doing_108 : decode cX5_doing 108 = .ok (.getfield 380, 3) := dk_180 1 124 (dk_at dksX5_doing_4 16 rfl rfl)
theorem dX5_doing_111 : decode cX5_doing 111 = .ok (.getfield 361, 3) := dk_180 1 105 (dk_at dksX5_doing_4 19 rfl rfl)
theorem dX5_doing_114 : decode cX5_doing 114 = .ok (.iload_n 1, 1) := dk_27 (dk_at dksX5_doing_4 22 rfl rfl)
theorem dX5_doing_115 : decode cX5_doing 115 = .ok (.iaload, 1) := dk_46 (dk_at dksX5_doing_4 23 rfl rfl)
theorem dX5_doing_116 : decode cX5_doing 116 = .ok (.iadd, 1) := dk_96 (dk_at dksX5_doing_5 0 rfl rfl)
theorem dX5_doing_117 : decode cX5_doing 117 = .ok (.iconst 1, 1) := dk_4 (dk_at dksX5_doing_5 1 rfl rfl)
theorem dX5_doing_118 : decode cX5_doing 118 = .ok (.isub, 1) := dk_100 (dk_at dksX5_doing_5 2 rfl rfl)
theorem dX5_doing_119 : decode cX5_doing 119 = .ok (.istore 6, 2) := dk_54 6 (dk_at dksX5_doing_5 3 rfl rfl)
theorem dX5_doing_121 : decode cX5_doing 121 = .ok (.aload_n 0, 1) := dk_42 (dk_at dksX5_doing_5 5 rfl rfl)
theorem dX5_doing_122 : decode cX5_doing 122 = .ok (.getfield 383, 3) := dk_180 1 127 (dk_at dksX5_doing_5 6 rfl rfl)
theorem dX5_doing_125 : decode cX5_doing 125 = .ok (.iload 5, 2) := dk_21 5 (dk_at dksX5_doing_5 9 rfl rfl)
theorem dX5_doing_127 : decode cX5_doing 127 = .ok (.iadd, 1) := dk_96 (dk_at dksX5_doing_5 11 rfl rfl)
theorem dX5_doing_128 : decode cX5_doing 128 = .ok (.aload_n 0, 1) := dk_42 (dk_at dksX5_doing_5 12 rfl rfl)
theorem dX5_doing_129 : decode cX5_doing 129 = .ok (.getfield 380, 3) := dk_180 1 124 (dk_at dksX5_doing_5 13 rfl rfl)
theorem dX5_doing_132 : decode cX5_doing 132 = .ok (.getfield 355, 3) := dk_180 1 99 (dk_at dksX5_doing_5 16 rfl rfl)
theorem dX5_doing_135 : decode cX5_doing 135 = .ok (.iload_n 1, 1) := dk_27 (dk_at dksX5_doing_5 19 rfl rfl)
theorem dX5_doing_136 : decode cX5_doing 136 = .ok (.iaload, 1) := dk_46 (dk_at dksX5_doing_5 20 rfl rfl)
theorem dX5_doing_137 : decode cX5_doing 137 = .ok (.if_icmp .lt 43, 3) := dk_161 0 43 (dk_at dksX5_doing_5 21 rfl rfl)
theorem dX5_doing_140 : decode cX5_doing 140 = .ok (.aload_n 0, 1) := dk_42 (dk_at dksX5_doing_6 0 rfl rfl)
theorem dX5_doing_141 : decode cX5_doing 141 = .ok (.getfield 383, 3) := dk_180 1 127 (dk_at dksX5_doing_6 1 rfl rfl)
theorem dX5_doing_144 : decode cX5_doing 144 = .ok (.iload 6, 2) := dk_21 6 (dk_at dksX5_doing_6 4 rfl rfl)
theorem dX5_doing_146 : decode cX5_doing 146 = .ok (.iadd, 1) := dk_96 (dk_at dksX5_doing_6 6 rfl rfl)
theorem dX5_doing_147 : decode cX5_doing 147 = .ok (.aload_n 0, 1) := dk_42 (dk_at dksX5_doing_6 7 rfl rfl)
theorem dX5_doing_148 : decode cX5_doing 148 = .ok (.getfield 380, 3) := dk_180 1 124 (dk_at dksX5_doing_6 8 rfl rfl)
theorem dX5_doing_151 : decode cX5_doing 151 = .ok (.getfield 358, 3) := dk_180 1 102 (dk_at dksX5_doing_6 11 rfl rfl)
theorem dX5_doing_154 : decode cX5_doing 154 = .ok (.iload_n 1, 1) := dk_27 (dk_at dksX5_doing_6 14 rfl rfl)
theorem dX5_doing_155 : decode cX5_doing 155 = .ok (.iaload, 1) := dk_46 (dk_at dksX5_doing_6 15 rfl rfl)
theorem dX5_doing_156 : decode cX5_doing 156 = .ok (.if_icmp .ge 24, 3) := dk_162 0 24 (dk_at dksX5_doing_6 16 rfl rfl)
theorem dX5_doing_159 : decode cX5_doing 159 = .ok (.aload_n 0, 1) := dk_42 (dk_at dksX5_doing_6 19 rfl rfl)
theorem dX5_doing_160 : decode cX5_doing 160 = .ok (.getfield 383, 3) := dk_180 1 127 (dk_at dksX5_doing_6 20 rfl rfl)
theorem dX5_doing_163 : decode cX5_doing 163 = .ok (.iload 6, 2) := dk_21 6 (dk_at dksX5_doing_7 0 rfl rfl)
theorem dX5_doing_165 : decode cX5_doing 165 = .ok (.iadd, 1) := dk_96 (dk_at dksX5_doing_7 2 rfl rfl)
theorem dX5_doing_166 : decode cX5_doing 166 = .ok (.aload_n 0, 1) := dk_42 (dk_at dksX5_doing_7 3 rfl rfl)
theorem dX5_doing_167 : decode cX5_doing 167 = .ok (.getfield 380, 3) := dk_180 1 124 (dk_at dksX5_doing_7 4 rfl rfl)
theorem dX5_doing_170 : decode cX5_doing 170 = .ok (.getfield 273, 3) := dk_180 1 17 (dk_at dksX5_doing_7 7 rfl rfl)
theorem dX5_doing_173 : decode cX5_doing 173 = .ok (.if_icmp .ge 7, 3) := dk_162 0 7 (dk_at dksX5_doing_7 10 rfl rfl)
theorem dX5_doing_176 : decode cX5_doing 176 = .ok (.iconst 1, 1) := dk_4 (dk_at dksX5_doing_7 13 rfl rfl)
theorem dX5_doing_177 : decode cX5_doing 177 = .ok (.goto 4, 3) := dk_167 0 4 (dk_at dksX5_doing_7 14 rfl rfl)
theorem dX5_doing_180 : decode cX5_doing 180 = .ok (.iconst 0, 1) := dk_3 (dk_at dksX5_doing_7 17 rfl rfl)
theorem dX5_doing_181 : decode cX5_doing 181 = .ok (.istore 7, 2) := dk_54 7 (dk_at dksX5_doing_7 18 rfl rfl)
theorem dX5_doing_183 : decode cX5_doing 183 = .ok (.iconst 0, 1) := dk_3 (dk_at dksX5_doing_7 20 rfl rfl)
theorem dX5_doing_184 : decode cX5_doing 184 = .ok (.istore 8, 2) := dk_54 8 (dk_at dksX5_doing_7 21 rfl rfl)
theorem dX5_doing_186 : decode cX5_doing 186 = .ok (.iload 8, 2) := dk_21 8 (dk_at dksX5_doing_8 0 rfl rfl)
theorem dX5_doing_188 : decode cX5_doing 188 = .ok (.aload_n 0, 1) := dk_42 (dk_at dksX5_doing_8 2 rfl rfl)
theorem dX5_doing_189 : decode cX5_doing 189 = .ok (.getfield 473, 3) := dk_180 1 217 (dk_at dksX5_doing_8 3 rfl rfl)
theorem dX5_doing_192 : decode cX5_doing 192 = .ok (.if_icmp .ge 77, 3) := dk_162 0 77 (dk_at dksX5_doing_8 6 rfl rfl)
theorem dX5_doing_195 : decode cX5_doing 195 = .ok (.iload 7, 2) := dk_21 7 (dk_at dksX5_doing_8 9 rfl rfl)
theorem dX5_doing_197 : decode cX5_doing 197 = .ok (.ifCond .eq 72, 3) := dk_153 0 72 (dk_at dksX5_doing_8 11 rfl rfl)
theorem dX5_doing_200 : decode cX5_doing 200 = .ok (.aload_n 0, 1) := dk_42 (dk_at dksX5_doing_8 14 rfl rfl)
theorem dX5_doing_201 : decode cX5_doing 201 = .ok (.getfield 33, 3) := dk_180 0 33 (dk_at dksX5_doing_8 15 rfl rfl)
theorem dX5_doing_204 : decode cX5_doing 204 = .ok (.sipush 1000, 3) := dk_17 3 232 (dk_at dksX5_doing_8 18 rfl rfl)
theorem dX5_doing_207 : decode cX5_doing 207 = .ok (.iload 5, 2) := dk_21 5 (dk_at dksX5_doing_8 21 rfl rfl)
theorem dX5_doing_209 : decode cX5_doing 209 = .ok (.imul, 1) := dk_104 (dk_at dksX5_doing_8 23 rfl rfl)
theorem dX5_doing_210 : decode cX5_doing 210 = .ok (.iload 8, 2) := dk_21 8 (dk_at dksX5_doing_9 0 rfl rfl)
theorem dX5_doing_212 : decode cX5_doing 212 = .ok (.iadd, 1) := dk_96 (dk_at dksX5_doing_9 2 rfl rfl)
theorem dX5_doing_213 : decode cX5_doing 213 = .ok (.baload, 1) := dk_51 (dk_at dksX5_doing_9 3 rfl rfl)
theorem dX5_doing_214 : decode cX5_doing 214 = .ok (.ifCond .eq 49, 3) := dk_153 0 49 (dk_at dksX5_doing_9 4 rfl rfl)
theorem dX5_doing_217 : decode cX5_doing 217 = .ok (.aload_n 0, 1) := dk_42 (dk_at dksX5_doing_9 7 rfl rfl)
theorem dX5_doing_218 : decode cX5_doing 218 = .ok (.iload 8, 2) := dk_21 8 (dk_at dksX5_doing_9 8 rfl rfl)
theorem dX5_doing_220 : decode cX5_doing 220 = .ok (.iload 4, 2) := dk_21 4 (dk_at dksX5_doing_9 10 rfl rfl)
theorem dX5_doing_222 : decode cX5_doing 222 = .ok (.invokevirtual 476, 3) := dk_182 1 220 (dk_at dksX5_doing_9 12 rfl rfl)
theorem dX5_doing_225 : decode cX5_doing 225 = .ok (.aload_n 0, 1) := dk_42 (dk_at dksX5_doing_9 15 rfl rfl)
theorem dX5_doing_226 : decode cX5_doing 226 = .ok (.getfield 380, 3) := dk_180 1 124 (dk_at dksX5_doing_9 16 rfl rfl)
theorem dX5_doing_229 : decode cX5_doing 229 = .ok (.getfield 352, 3) := dk_180 1 96 (dk_at dksX5_doing_9 19 rfl rfl)
theorem dX5_doing_232 : decode cX5_doing 232 = .ok (.iload_n 1, 1) := dk_27 (dk_at dksX5_doing_9 22 rfl rfl)
theorem dX5_doing_233 : decode cX5_doing 233 = .ok (.iaload, 1) := dk_46 (dk_at dksX5_doing_9 23 rfl rfl)
theorem dX5_doing_234 : decode cX5_doing 234 = .ok (.if_icmp .ne 29, 3) := dk_160 0 29 (dk_at dksX5_doing_10 0 rfl rfl)
theorem dX5_doing_237 : decode cX5_doing 237 = .ok (.aload_n 0, 1) := dk_42 (dk_at dksX5_doing_10 3 rfl rfl)
theorem dX5_doing_238 : decode cX5_doing 238 = .ok (.iload 8, 2) := dk_21 8 (dk_at dksX5_doing_10 4 rfl rfl)
theorem dX5_doing_240 : decode cX5_doing 240 = .ok (.iload 5, 2) := dk_21 5 (dk_at dksX5_doing_10 6 rfl rfl)
theorem dX5_doing_242 : decode cX5_doing 242 = .ok (.iload 6, 2) := dk_21 6 (dk_at dksX5_doing_10 8 rfl rfl)
theorem dX5_doing_244 : decode cX5_doing 244 = .ok (.invokevirtual 516, 3) := dk_182 2 4 (dk_at dksX5_doing_10 10 rfl rfl)
theorem dX5_doing_247 : decode cX5_doing 247 = .ok (.ifCond .eq 16, 3) := dk_153 0 16 (dk_at dksX5_doing_10 13 rfl rfl)
theorem dX5_doing_250 : decode cX5_doing 250 = .ok (.aload_n 0, 1) := dk_42 (dk_at dksX5_doing_10 16 rfl rfl)
theorem dX5_doing_251 : decode cX5_doing 251 = .ok (.aload_n 0, 1) := dk_42 (dk_at dksX5_doing_10 17 rfl rfl)
theorem dX5_doing_252 : decode cX5_doing 252 = .ok (.getfield 383, 3) := dk_180 1 127 (dk_at dksX5_doing_10 18 rfl rfl)
theorem dX5_doing_255 : decode cX5_doing 255 = .ok (.iload 6, 2) := dk_21 6 (dk_at dksX5_doing_10 21 rfl rfl)
theorem dX5_doing_257 : decode cX5_doing 257 = .ok (.iadd, 1) := dk_96 (dk_at dksX5_doing_10 23 rfl rfl)
theorem dX5_doing_258 : decode cX5_doing 258 = .ok (.iconst 0, 1) := dk_3 (dk_at dksX5_doing_11 0 rfl rfl)
theorem dX5_doing_259 : decode cX5_doing 259 = .ok (.invokevirtual 66, 3) := dk_182 0 66 (dk_at dksX5_doing_11 1 rfl rfl)
theorem dX5_doing_262 : decode cX5_doing 262 = .ok (.ireturn, 1) := dk_172 (dk_at dksX5_doing_11 4 rfl rfl)
theorem dX5_doing_263 : decode cX5_doing 263 = .ok (.iinc 8 1, 3) := dk_132 8 1 (dk_at dksX5_doing_11 5 rfl rfl)
theorem dX5_doing_266 : decode cX5_doing 266 = .ok (.goto (-80), 3) := dk_167 255 176 (dk_at dksX5_doing_11 8 rfl rfl)
theorem dX5_doing_269 : decode cX5_doing 269 = .ok (.iload 5, 2) := dk_21 5 (dk_at dksX5_doing_11 11 rfl rfl)
theorem dX5_doing_271 : decode cX5_doing 271 = .ok (.bipush 30, 2) := dk_16 30 (dk_at dksX5_doing_11 13 rfl rfl)
theorem dX5_doing_273 : decode cX5_doing 273 = .ok (.if_icmp .ge 9, 3) := dk_162 0 9 (dk_at dksX5_doing_11 15 rfl rfl)
theorem dX5_doing_276 : decode cX5_doing 276 = .ok (.aload_n 0, 1) := dk_42 (dk_at dksX5_doing_11 18 rfl rfl)
theorem dX5_doing_277 : decode cX5_doing 277 = .ok (.iload 5, 2) := dk_21 5 (dk_at dksX5_doing_11 19 rfl rfl)
theorem dX5_doing_279 : decode cX5_doing 279 = .ok (.invokevirtual 513, 3) := dk_182 2 1 (dk_at dksX5_doing_11 21 rfl rfl)
theorem dX5_doing_282 : decode cX5_doing 282 = .ok (.iinc 5 1, 3) := dk_132 5 1 (dk_at dksX5_doing_12 0 rfl rfl)
theorem dX5_doing_285 : decode cX5_doing 285 = .ok (.goto (-187), 3) := dk_167 255 69 (dk_at dksX5_doing_12 3 rfl rfl)
theorem dX5_doing_288 : decode cX5_doing 288 = .ok (.aload_n 0, 1) := dk_42 (dk_at dksX5_doing_12 6 rfl rfl)
theorem dX5_doing_289 : decode cX5_doing 289 = .ok (.bipush (-2), 2) := dk_16 254 (dk_at dksX5_doing_12 7 rfl rfl)
theorem dX5_doing_291 : decode cX5_doing 291 = .ok (.iconst 0, 1) := dk_3 (dk_at dksX5_doing_12 9 rfl rfl)
theorem dX5_doing_292 : decode cX5_doing 292 = .ok (.invokevirtual 66, 3) := dk_182 0 66 (dk_at dksX5_doing_12 10 rfl rfl)
theorem dX5_doing_295 : decode cX5_doing 295 = .ok (.ireturn, 1) := dk_172 (dk_at dksX5_doing_12 13 rfl rfl)
abbrev cX5_stays : ByteArray := prog_15_method_95_code
def yX5_stays : MethodName := ⟨RX5, "stays", "(III)Z"⟩
def dkwX5_stays_1 : List UInt8 := [154, 0, 5, 3, 172, 132, 4, 1, 167, 255, 230, 4, 172]
abbrev dktX5_stays_1 : List UInt8 := dkwX5_stays_1 ++ []
def dkwX5_stays_0 : List UInt8 := [28, 4, 96, 54, 4, 21, 4, 29, 163, 0, 26, 42, 27, 42, 180, 1, 127, 21, 4, 96, 182, 1, 232]
abbrev dktX5_stays_0 : List UInt8 := dkwX5_stays_0 ++ dktX5_stays_1
theorem dksX5_stays_0 : cX5_stays.data.toList.drop 0 = dktX5_stays_0 := by decide +kernel
theorem dksX5_stays_1 : cX5_stays.data.toList.drop 23 = dktX5_stays_1 := dk_seg dksX5_stays_0 23 rfl rfl
theorem dX5_stays_0 : decode cX5_stays 0 = .ok (.iload_n 2, 1) := dk_28 (dk_at dksX5_stays_0 0 rfl rfl)
theorem dX5_stays_1 : decode cX5_stays 1 = .ok (.iconst 1, 1) := dk_4 (dk_at dksX5_stays_0 1 rfl rfl)
theorem dX5_stays_2 : decode cX5_stays 2 = .ok (.iadd, 1) := dk_96 (dk_at dksX5_stays_0 2 rfl rfl)
theorem dX5_stays_3 : decode cX5_stays 3 = .ok (.istore 4, 2) := dk_54 4 (dk_at dksX5_stays_0 3 rfl rfl)
theorem dX5_stays_5 : decode cX5_stays 5 = .ok (.iload 4, 2) := dk_21 4 (dk_at dksX5_stays_0 5 rfl rfl)
theorem dX5_stays_7 : decode cX5_stays 7 = .ok (.iload_n 3, 1) := dk_29 (dk_at dksX5_stays_0 7 rfl rfl)
theorem dX5_stays_8 : decode cX5_stays 8 = .ok (.if_icmp .gt 26, 3) := dk_163 0 26 (dk_at dksX5_stays_0 8 rfl rfl)
theorem dX5_stays_11 : decode cX5_stays 11 = .ok (.aload_n 0, 1) := dk_42 (dk_at dksX5_stays_0 11 rfl rfl)
theorem dX5_stays_12 : decode cX5_stays 12 = .ok (.iload_n 1, 1) := dk_27 (dk_at dksX5_stays_0 12 rfl rfl)
theorem dX5_stays_13 : decode cX5_stays 13 = .ok (.aload_n 0, 1) := dk_42 (dk_at dksX5_stays_0 13 rfl rfl)
theorem dX5_stays_14 : decode cX5_stays 14 = .ok (.getfield 383, 3) := dk_180 1 127 (dk_at dksX5_stays_0 14 rfl rfl)
theorem dX5_stays_17 : decode cX5_stays 17 = .ok (.iload 4, 2) := dk_21 4 (dk_at dksX5_stays_0 17 rfl rfl)
theorem dX5_stays_19 : decode cX5_stays 19 = .ok (.iadd, 1) := dk_96 (dk_at dksX5_stays_0 19 rfl rfl)
theorem dX5_stays_20 : decode cX5_stays 20 = .ok (.invokevirtual 488, 3) := dk_182 1 232 (dk_at dksX5_stays_0 20 rfl rfl)
theorem dX5_stays_23 : decode cX5_stays 23 = .ok (.ifCond .ne 5, 3) := dk_154 0 5 (dk_at dksX5_stays_1 0 rfl rfl)
theorem dX5_stays_26 : decode cX5_stays 26 = .ok (.iconst 0, 1) := dk_3 (dk_at dksX5_stays_1 3 rfl rfl)
theorem dX5_stays_27 : decode cX5_stays 27 = .ok (.ireturn, 1) := dk_172 (dk_at dksX5_stays_1 4 rfl rfl)
theorem dX5_stays_28 : decode cX5_stays 28 = .ok (.iinc 4 1, 3) := dk_132 4 1 (dk_at dksX5_stays_1 5 rfl rfl)
theorem dX5_stays_31 : decode cX5_stays 31 = .ok (.goto (-26), 3) := dk_167 255 230 (dk_at dksX5_stays_1 8 rfl rfl)
theorem dX5_stays_34 : decode cX5_stays 34 = .ok (.iconst 1, 1) := dk_4 (dk_at dksX5_stays_1 11 rfl rfl)
theorem dX5_stays_35 : decode cX5_stays 35 = .ok (.ireturn, 1) := dk_172 (dk_at dksX5_stays_1 12 rfl rfl)
abbrev cX5_find : ByteArray := prog_15_method_98_code
def yX5_find : MethodName := ⟨RX5, "find", "(II)I"⟩
def dkwX5_find_8 : List UInt8 := [16, 254, 3, 182, 0, 66, 172]
abbrev dktX5_find_8 : List UInt8 := dkwX5_find_8 ++ []
def dkwX5_find_7 : List UInt8 := [162, 0, 16, 42, 28, 42, 180, 1, 127, 29, 96, 4, 96, 182, 2, 10, 132, 3, 1, 167, 255, 187, 42]
abbrev dktX5_find_7 : List UInt8 := dkwX5_find_7 ++ dktX5_find_8
def dkwX5_find_6 : List UInt8 := [104, 28, 96, 51, 153, 0, 10, 42, 29, 3, 182, 0, 66, 172, 132, 4, 1, 167, 255, 221, 29, 16, 12]
abbrev dktX5_find_6 : List UInt8 := dkwX5_find_6 ++ dktX5_find_7
def dkwX5_find_5 : List UInt8 := [163, 0, 69, 3, 54, 4, 21, 4, 42, 180, 1, 217, 162, 0, 32, 42, 180, 0, 50, 17, 4, 0, 21, 4]
abbrev dktX5_find_5 : List UInt8 := dkwX5_find_5 ++ dktX5_find_6
def dkwX5_find_4 : List UInt8 := [42, 42, 182, 1, 235, 42, 180, 1, 127, 182, 2, 7, 28, 126, 96, 4, 84, 3, 62, 29, 16, 12]
abbrev dktX5_find_4 : List UInt8 := dkwX5_find_4 ++ dktX5_find_5
def dkwX5_find_3 : List UInt8 := [180, 0, 50, 29, 3, 84, 132, 3, 1, 167, 255, 234, 42, 180, 0, 50, 17, 4, 0, 42, 182, 1, 235, 104]
abbrev dktX5_find_3 : List UInt8 := dkwX5_find_3 ++ dktX5_find_4
def dkwX5_find_2 : List UInt8 := [182, 0, 62, 172, 42, 27, 182, 1, 244, 3, 62, 29, 42, 180, 1, 217, 17, 4, 0, 104, 162, 0, 16, 42]
abbrev dktX5_find_2 : List UInt8 := dkwX5_find_2 ++ dktX5_find_3
def dkwX5_find_1 : List UInt8 := [153, 0, 20, 28, 158, 0, 16, 28, 4, 42, 180, 1, 124, 180, 0, 218, 120, 161, 0, 9, 42, 5]
abbrev dktX5_find_1 : List UInt8 := dkwX5_find_1 ++ dktX5_find_2
def dkwX5_find_0 : List UInt8 := [42, 3, 181, 0, 56, 42, 180, 1, 124, 199, 0, 9, 42, 4, 182, 0, 62, 172, 42, 27, 5, 182, 1, 241]
abbrev dktX5_find_0 : List UInt8 := dkwX5_find_0 ++ dktX5_find_1
theorem dksX5_find_0 : cX5_find.data.toList.drop 0 = dktX5_find_0 := by decide +kernel
theorem dksX5_find_1 : cX5_find.data.toList.drop 24 = dktX5_find_1 := dk_seg dksX5_find_0 24 rfl rfl
theorem dksX5_find_2 : cX5_find.data.toList.drop 46 = dktX5_find_2 := dk_seg dksX5_find_1 22 rfl rfl
theorem dksX5_find_3 : cX5_find.data.toList.drop 70 = dktX5_find_3 := dk_seg dksX5_find_2 24 rfl rfl
theorem dksX5_find_4 : cX5_find.data.toList.drop 94 = dktX5_find_4 := dk_seg dksX5_find_3 24 rfl rfl
theorem dksX5_find_5 : cX5_find.data.toList.drop 116 = dktX5_find_5 := dk_seg dksX5_find_4 22 rfl rfl
theorem dksX5_find_6 : cX5_find.data.toList.drop 140 = dktX5_find_6 := dk_seg dksX5_find_5 24 rfl rfl
theorem dksX5_find_7 : cX5_find.data.toList.drop 163 = dktX5_find_7 := dk_seg dksX5_find_6 23 rfl rfl
theorem dksX5_find_8 : cX5_find.data.toList.drop 186 = dktX5_find_8 := dk_seg dksX5_find_7 23 rfl rfl
theorem dX5_find_0 : decode cX5_find 0 = .ok (.aload_n 0, 1) := dk_42 (dk_at dksX5_find_0 0 rfl rfl)
theorem dX5_find_1 : decode cX5_find 1 = .ok (.iconst 0, 1) := dk_3 (dk_at dksX5_find_0 1 rfl rfl)
theorem dX5_find_2 : decode cX5_find 2 = .ok (.putfield 56, 3) := dk_181 0 56 (dk_at dksX5_find_0 2 rfl rfl)
theorem dX5_find_5 : decode cX5_find 5 = .ok (.aload_n 0, 1) := dk_42 (dk_at dksX5_find_0 5 rfl rfl)
theorem dX5_find_6 : decode cX5_find 6 = .ok (.getfield 380, 3) := dk_180 1 124 (dk_at dksX5_find_0 6 rfl rfl)
theorem dX5_find_9 : decode cX5_find 9 = .ok (.ifnonnull 9, 3) := dk_199 0 9 (dk_at dksX5_find_0 9 rfl rfl)
theorem dX5_find_12 : decode cX5_find 12 = .ok (.aload_n 0, 1) := dk_42 (dk_at dksX5_find_0 12 rfl rfl)
theorem dX5_find_13 : decode cX5_find 13 = .ok (.iconst 1, 1) := dk_4 (dk_at dksX5_find_0 13 rfl rfl)
theorem dX5_find_14 : decode cX5_find 14 = .ok (.invokevirtual 62, 3) := dk_182 0 62 (dk_at dksX5_find_0 14 rfl rfl)
theorem dX5_find_17 : decode cX5_find 17 = .ok (.ireturn, 1) := dk_172 (dk_at dksX5_find_0 17 rfl rfl)
theorem dX5_find_18 : decode cX5_find 18 = .ok (.aload_n 0, 1) := dk_42 (dk_at dksX5_find_0 18 rfl rfl)
theorem dX5_find_19 : decode cX5_find 19 = .ok (.iload_n 1, 1) := dk_27 (dk_at dksX5_find_0 19 rfl rfl)
theorem dX5_find_20 : decode cX5_find 20 = .ok (.iconst 2, 1) := dk_5 (dk_at dksX5_find_0 20 rfl rfl)
theorem dX5_find_21 : decode cX5_find 21 = .ok (.invokevirtual 497, 3) := dk_182 1 241 (dk_at dksX5_find_0 21 rfl rfl)
theorem dX5_find_24 : decode cX5_find 24 = .ok (.ifCond .eq 20, 3) := dk_153 0 20 (dk_at dksX5_find_1 0 rfl rfl)
theorem dX5_find_27 : decode cX5_find 27 = .ok (.iload_n 2, 1) := dk_28 (dk_at dksX5_find_1 3 rfl rfl)
theorem dX5_find_28 : decode cX5_find 28 = .ok (.ifCond .le 16, 3) := dk_158 0 16 (dk_at dksX5_find_1 4 rfl rfl)
theorem dX5_find_31 : decode cX5_find 31 = .ok (.iload_n 2, 1) := dk_28 (dk_at dksX5_find_1 7 rfl rfl)
theorem dX5_find_32 : decode cX5_find 32 = .ok (.iconst 1, 1) := dk_4 (dk_at dksX5_find_1 8 rfl rfl)
theorem dX5_find_33 : decode cX5_find 33 = .ok (.aload_n 0, 1) := dk_42 (dk_at dksX5_find_1 9 rfl rfl)
theorem dX5_find_34 : decode cX5_find 34 = .ok (.getfield 380, 3) := dk_180 1 124 (dk_at dksX5_find_1 10 rfl rfl)
theorem dX5_find_37 : decode cX5_find 37 = .ok (.getfield 218, 3) := dk_180 0 218 (dk_at dksX5_find_1 13 rfl rfl)
theorem dX5_find_40 : decode cX5_find 40 = .ok (.ishl, 1) := dk_120 (dk_at dksX5_find_1 16 rfl rfl)
theorem dX5_find_41 : decode cX5_find 41 = .ok (.if_icmp .lt 9, 3) := dk_161 0 9 (dk_at dksX5_find_1 17 rfl rfl)
theorem dX5_find_44 : decode cX5_find 44 = .ok (.aload_n 0, 1) := dk_42 (dk_at dksX5_find_1 20 rfl rfl)
theorem dX5_find_45 : decode cX5_find 45 = .ok (.iconst 2, 1) := dk_5 (dk_at dksX5_find_1 21 rfl rfl)
theorem dX5_find_46 : decode cX5_find 46 = .ok (.invokevirtual 62, 3) := dk_182 0 62 (dk_at dksX5_find_2 0 rfl rfl)
theorem dX5_find_49 : decode cX5_find 49 = .ok (.ireturn, 1) := dk_172 (dk_at dksX5_find_2 3 rfl rfl)
theorem dX5_find_50 : decode cX5_find 50 = .ok (.aload_n 0, 1) := dk_42 (dk_at dksX5_find_2 4 rfl rfl)
theorem dX5_find_51 : decode cX5_find 51 = .ok (.iload_n 1, 1) := dk_27 (dk_at dksX5_find_2 5 rfl rfl)
theorem dX5_find_52 : decode cX5_find 52 = .ok (.invokevirtual 500, 3) := dk_182 1 244 (dk_at dksX5_find_2 6 rfl rfl)
theorem dX5_find_55 : decode cX5_find 55 = .ok (.iconst 0, 1) := dk_3 (dk_at dksX5_find_2 9 rfl rfl)
theorem dX5_find_56 : decode cX5_find 56 = .ok (.istore_n 3, 1) := dk_62 (dk_at dksX5_find_2 10 rfl rfl)
theorem dX5_find_57 : decode cX5_find 57 = .ok (.iload_n 3, 1) := dk_29 (dk_at dksX5_find_2 11 rfl rfl)
theorem dX5_find_58 : decode cX5_find 58 = .ok (.aload_n 0, 1) := dk_42 (dk_at dksX5_find_2 12 rfl rfl)
theorem dX5_find_59 : decode cX5_find 59 = .ok (.getfield 473, 3) := dk_180 1 217 (dk_at dksX5_find_2 13 rfl rfl)
theorem dX5_find_62 : decode cX5_find 62 = .ok (.sipush 1024, 3) := dk_17 4 0 (dk_at dksX5_find_2 16 rfl rfl)
theorem dX5_find_65 : decode cX5_find 65 = .ok (.imul, 1) := dk_104 (dk_at dksX5_find_2 19 rfl rfl)
theorem dX5_find_66 : decode cX5_find 66 = .ok (.if_icmp .ge 16, 3) := dk_162 0 16 (dk_at dksX5_find_2 20 rfl rfl)
theorem dX5_find_69 : decode cX5_find 69 = .ok (.aload_n 0, 1) := dk_42 (dk_at dksX5_find_2 23 rfl rfl)
theorem dX5_find_70 : decode cX5_find 70 = .ok (.getfield 50, 3) := dk_180 0 50 (dk_at dksX5_find_3 0 rfl rfl)
theorem dX5_find_73 : decode cX5_find 73 = .ok (.iload_n 3, 1) := dk_29 (dk_at dksX5_find_3 3 rfl rfl)
theorem dX5_find_74 : decode cX5_find 74 = .ok (.iconst 0, 1) := dk_3 (dk_at dksX5_find_3 4 rfl rfl)
theorem dX5_find_75 : decode cX5_find 75 = .ok (.bastore, 1) := dk_84 (dk_at dksX5_find_3 5 rfl rfl)
theorem dX5_find_76 : decode cX5_find 76 = .ok (.iinc 3 1, 3) := dk_132 3 1 (dk_at dksX5_find_3 6 rfl rfl)
theorem dX5_find_79 : decode cX5_find 79 = .ok (.goto (-22), 3) := dk_167 255 234 (dk_at dksX5_find_3 9 rfl rfl)
theorem dX5_find_82 : decode cX5_find 82 = .ok (.aload_n 0, 1) := dk_42 (dk_at dksX5_find_3 12 rfl rfl)
theorem dX5_find_83 : decode cX5_find 83 = .ok (.getfield 50, 3) := dk_180 0 50 (dk_at dksX5_find_3 13 rfl rfl)
theorem dX5_find_86 : decode cX5_find 86 = .ok (.sipush 1024, 3) := dk_17 4 0 (dk_at dksX5_find_3 16 rfl rfl)
theorem dX5_find_89 : decode cX5_find 89 = .ok (.aload_n 0, 1) := dk_42 (dk_at dksX5_find_3 19 rfl rfl)
theorem dX5_find_90 : decode cX5_find 90 = .ok (.invokevirtual 491, 3) := dk_182 1 235 (dk_at dksX5_find_3 20 rfl rfl)
theorem dX5_find_93 : decode cX5_find 93 = .ok (.imul, 1) := dk_104 (dk_at dksX5_find_3 23 rfl rfl)
theorem dX5_find_94 : decode cX5_find 94 = .ok (.aload_n 0, 1) := dk_42 (dk_at dksX5_find_4 0 rfl rfl)
theorem dX5_find_95 : decode cX5_find 95 = .ok (.aload_n 0, 1) := dk_42 (dk_at dksX5_find_4 1 rfl rfl)
theorem dX5_find_96 : decode cX5_find 96 = .ok (.invokevirtual 491, 3) := dk_182 1 235 (dk_at dksX5_find_4 2 rfl rfl)
theorem dX5_find_99 : decode cX5_find 99 = .ok (.aload_n 0, 1) := dk_42 (dk_at dksX5_find_4 5 rfl rfl)
theorem dX5_find_100 : decode cX5_find 100 = .ok (.getfield 383, 3) := dk_180 1 127 (dk_at dksX5_find_4 6 rfl rfl)
theorem dX5_find_103 : decode cX5_find 103 = .ok (.invokevirtual 519, 3) := dk_182 2 7 (dk_at dksX5_find_4 9 rfl rfl)
theorem dX5_find_106 : decode cX5_find 106 = .ok (.iload_n 2, 1) := dk_28 (dk_at dksX5_find_4 12 rfl rfl)
theorem dX5_find_107 : decode cX5_find 107 = .ok (.iand, 1) := dk_126 (dk_at dksX5_find_4 13 rfl rfl)
theorem dX5_find_108 : decode cX5_find 108 = .ok (.iadd, 1) := dk_96 (dk_at dksX5_find_4 14 rfl rfl)
theorem dX5_find_109 : decode cX5_find 109 = .ok (.iconst 1, 1) := dk_4 (dk_at dksX5_find_4 15 rfl rfl)
theorem dX5_find_110 : decode cX5_find 110 = .ok (.bastore, 1) := dk_84 (dk_at dksX5_find_4 16 rfl rfl)
theorem dX5_find_111 : decode cX5_find 111 = .ok (.iconst 0, 1) := dk_3 (dk_at dksX5_find_4 17 rfl rfl)
theorem dX5_find_112 : decode cX5_find 112 = .ok (.istore_n 3, 1) := dk_62 (dk_at dksX5_find_4 18 rfl rfl)
theorem dX5_find_113 : decode cX5_find 113 = .ok (.iload_n 3, 1) := dk_29 (dk_at dksX5_find_4 19 rfl rfl)
theorem dX5_find_114 : decode cX5_find 114 = .ok (.bipush 12, 2) := dk_16 12 (dk_at dksX5_find_4 20 rfl rfl)
theorem dX5_find_116 : decode cX5_find 116 = .ok (.if_icmp .gt 69, 3) := dk_163 0 69 (dk_at dksX5_find_5 0 rfl rfl)
theorem dX5_find_119 : decode cX5_find 119 = .ok (.iconst 0, 1) := dk_3 (dk_at dksX5_find_5 3 rfl rfl)
theorem dX5_find_120 : decode cX5_find 120 = .ok (.istore 4, 2) := dk_54 4 (dk_at dksX5_find_5 4 rfl rfl)
theorem dX5_find_122 : decode cX5_find 122 = .ok (.iload 4, 2) := dk_21 4 (dk_at dksX5_find_5 6 rfl rfl)
theorem dX5_find_124 : decode cX5_find 124 = .ok (.aload_n 0, 1) := dk_42 (dk_at dksX5_find_5 8 rfl rfl)
theorem dX5_find_125 : decode cX5_find 125 = .ok (.getfield 473, 3) := dk_180 1 217 (dk_at dksX5_find_5 9 rfl rfl)
theorem dX5_find_128 : decode cX5_find 128 = .ok (.if_icmp .ge 32, 3) := dk_162 0 32 (dk_at dksX5_find_5 12 rfl rfl)
theorem dX5_find_131 : decode cX5_find 131 = .ok (.aload_n 0, 1) := dk_42 (dk_at dksX5_find_5 15 rfl rfl)
theorem dX5_find_132 : decode cX5_find 132 = .ok (.getfield 50, 3) := dk_180 0 50 (dk_at dksX5_find_5 16 rfl rfl)
theorem dX5_find_135 : decode cX5_find 135 = .ok (.sipush 1024, 3) := dk_17 4 0 (dk_at dksX5_find_5 19 rfl rfl)
theorem dX5_find_138 : decode cX5_find 138 = .ok (.iload 4, 2) := dk_21 4 (dk_at dksX5_find_5 22 rfl rfl)
theorem dX5_find_140 : decode cX5_find 140 = .ok (.imul, 1) := dk_104 (dk_at dksX5_find_6 0 rfl rfl)
theorem dX5_find_141 : decode cX5_find 141 = .ok (.iload_n 2, 1) := dk_28 (dk_at dksX5_find_6 1 rfl rfl)
theorem dX5_find_142 : decode cX5_find 142 = .ok (.iadd, 1) := dk_96 (dk_at dksX5_find_6 2 rfl rfl)
theorem dX5_find_143 : decode cX5_find 143 = .ok (.baload, 1) := dk_51 (dk_at dksX5_find_6 3 rfl rfl)
theorem dX5_find_144 : decode cX5_find 144 = .ok (.ifCond .eq 10, 3) := dk_153 0 10 (dk_at dksX5_find_6 4 rfl rfl)
theorem dX5_find_147 : decode cX5_find 147 = .ok (.aload_n 0, 1) := dk_42 (dk_at dksX5_find_6 7 rfl rfl)
theorem dX5_find_148 : decode cX5_find 148 = .ok (.iload_n 3, 1) := dk_29 (dk_at dksX5_find_6 8 rfl rfl)
theorem dX5_find_149 : decode cX5_find 149 = .ok (.iconst 0, 1) := dk_3 (dk_at dksX5_find_6 9 rfl rfl)
theorem dX5_find_150 : decode cX5_find 150 = .ok (.invokevirtual 66, 3) := dk_182 0 66 (dk_at dksX5_find_6 10 rfl rfl)
theorem dX5_find_153 : decode cX5_find 153 = .ok (.ireturn, 1) := dk_172 (dk_at dksX5_find_6 13 rfl rfl)
theorem dX5_find_154 : decode cX5_find 154 = .ok (.iinc 4 1, 3) := dk_132 4 1 (dk_at dksX5_find_6 14 rfl rfl)
theorem dX5_find_157 : decode cX5_find 157 = .ok (.goto (-35), 3) := dk_167 255 221 (dk_at dksX5_find_6 17 rfl rfl)
theorem dX5_find_160 : decode cX5_find 160 = .ok (.iload_n 3, 1) := dk_29 (dk_at dksX5_find_6 20 rfl rfl)
theorem dX5_find_161 : decode cX5_find 161 = .ok (.bipush 12, 2) := dk_16 12 (dk_at dksX5_find_6 21 rfl rfl)
theorem dX5_find_163 : decode cX5_find 163 = .ok (.if_icmp .ge 16, 3) := dk_162 0 16 (dk_at dksX5_find_7 0 rfl rfl)
theorem dX5_find_166 : decode cX5_find 166 = .ok (.aload_n 0, 1) := dk_42 (dk_at dksX5_find_7 3 rfl rfl)
theorem dX5_find_167 : decode cX5_find 167 = .ok (.iload_n 2, 1) := dk_28 (dk_at dksX5_find_7 4 rfl rfl)
theorem dX5_find_168 : decode cX5_find 168 = .ok (.aload_n 0, 1) := dk_42 (dk_at dksX5_find_7 5 rfl rfl)
theorem dX5_find_169 : decode cX5_find 169 = .ok (.getfield 383, 3) := dk_180 1 127 (dk_at dksX5_find_7 6 rfl rfl)
theorem dX5_find_172 : decode cX5_find 172 = .ok (.iload_n 3, 1) := dk_29 (dk_at dksX5_find_7 9 rfl rfl)
theorem dX5_find_173 : decode cX5_find 173 = .ok (.iadd, 1) := dk_96 (dk_at dksX5_find_7 10 rfl rfl)
theorem dX5_find_174 : decode cX5_find 174 = .ok (.iconst 1, 1) := dk_4 (dk_at dksX5_find_7 11 rfl rfl)
theorem dX5_find_175 : decode cX5_find 175 = .ok (.iadd, 1) := dk_96 (dk_at dksX5_find_7 12 rfl rfl)
theorem dX5_find_176 : decode cX5_find 176 = .ok (.invokevirtual 522, 3) := dk_182 2 10 (dk_at dksX5_find_7 13 rfl rfl)
theorem dX5_find_179 : decode cX5_find 179 = .ok (.iinc 3 1, 3) := dk_132 3 1 (dk_at dksX5_find_7 16 rfl rfl)
theorem dX5_find_182 : decode cX5_find 182 = .ok (.goto (-69), 3) := dk_167 255 187 (dk_at dksX5_find_7 19 rfl rfl)
theorem dX5_find_185 : decode cX5_find 185 = .ok (.aload_n 0, 1) := dk_42 (dk_at dksX5_find_7 22 rfl rfl)
theorem dX5_find_186 : decode cX5_find 186 = .ok (.bipush (-2), 2) := dk_16 254 (dk_at dksX5_find_8 0 rfl rfl)
theorem dX5_find_188 : decode cX5_find 188 = .ok (.iconst 0, 1) := dk_3 (dk_at dksX5_find_8 2 rfl rfl)
theorem dX5_find_189 : decode cX5_find 189 = .ok (.invokevirtual 66, 3) := dk_182 0 66 (dk_at dksX5_find_8 3 rfl rfl)
theorem dX5_find_192 : decode cX5_find 192 = .ok (.ireturn, 1) := dk_172 (dk_at dksX5_find_8 6 rfl rfl)
abbrev cX5_seenBy : ByteArray := prog_15_method_97_code
def yX5_seenBy : MethodName := ⟨RX5, "seenBy", "(II)I"⟩
def dkwX5_seenBy_2 : List UInt8 := [132, 4, 1, 167, 255, 210, 29, 172]
abbrev dktX5_seenBy_2 : List UInt8 := dkwX5_seenBy_2 ++ []
def dkwX5_seenBy_1 : List UInt8 := [182, 1, 170, 153, 0, 18, 42, 42, 27, 21, 4, 182, 1, 220, 28, 182, 1, 161, 167, 0, 4, 3, 128, 62]
abbrev dktX5_seenBy_1 : List UInt8 := dkwX5_seenBy_1 ++ dktX5_seenBy_2
def dkwX5_seenBy_0 : List UInt8 := [3, 62, 3, 54, 4, 21, 4, 42, 180, 1, 214, 162, 0, 43, 29, 42, 42, 180, 0, 30, 21, 4, 46, 28]
abbrev dktX5_seenBy_0 : List UInt8 := dkwX5_seenBy_0 ++ dktX5_seenBy_1
theorem dksX5_seenBy_0 : cX5_seenBy.data.toList.drop 0 = dktX5_seenBy_0 := by decide +kernel
theorem dksX5_seenBy_1 : cX5_seenBy.data.toList.drop 24 = dktX5_seenBy_1 := dk_seg dksX5_seenBy_0 24 rfl rfl
theorem dksX5_seenBy_2 : cX5_seenBy.data.toList.drop 48 = dktX5_seenBy_2 := dk_seg dksX5_seenBy_1 24 rfl rfl
theorem dX5_seenBy_0 : decode cX5_seenBy 0 = .ok (.iconst 0, 1) := dk_3 (dk_at dksX5_seenBy_0 0 rfl rfl)
theorem dX5_seenBy_1 : decode cX5_seenBy 1 = .ok (.istore_n 3, 1) := dk_62 (dk_at dksX5_seenBy_0 1 rfl rfl)
theorem dX5_seenBy_2 : decode cX5_seenBy 2 = .ok (.iconst 0, 1) := dk_3 (dk_at dksX5_seenBy_0 2 rfl rfl)
theorem dX5_seenBy_3 : decode cX5_seenBy 3 = .ok (.istore 4, 2) := dk_54 4 (dk_at dksX5_seenBy_0 3 rfl rfl)
theorem dX5_seenBy_5 : decode cX5_seenBy 5 = .ok (.iload 4, 2) := dk_21 4 (dk_at dksX5_seenBy_0 5 rfl rfl)
theorem dX5_seenBy_7 : decode cX5_seenBy 7 = .ok (.aload_n 0, 1) := dk_42 (dk_at dksX5_seenBy_0 7 rfl rfl)
theorem dX5_seenBy_8 : decode cX5_seenBy 8 = .ok (.getfield 470, 3) := dk_180 1 214 (dk_at dksX5_seenBy_0 8 rfl rfl)
theorem dX5_seenBy_11 : decode cX5_seenBy 11 = .ok (.if_icmp .ge 43, 3) := dk_162 0 43 (dk_at dksX5_seenBy_0 11 rfl rfl)
theorem dX5_seenBy_14 : decode cX5_seenBy 14 = .ok (.iload_n 3, 1) := dk_29 (dk_at dksX5_seenBy_0 14 rfl rfl)
theorem dX5_seenBy_15 : decode cX5_seenBy 15 = .ok (.aload_n 0, 1) := dk_42 (dk_at dksX5_seenBy_0 15 rfl rfl)
theorem dX5_seenBy_16 : decode cX5_seenBy 16 = .ok (.aload_n 0, 1) := dk_42 (dk_at dksX5_seenBy_0 16 rfl rfl)
theorem dX5_seenBy_17 : decode cX5_seenBy 17 = .ok (.getfield 30, 3) := dk_180 0 30 (dk_at dksX5_seenBy_0 17 rfl rfl)
theorem dX5_seenBy_20 : decode cX5_seenBy 20 = .ok (.iload 4, 2) := dk_21 4 (dk_at dksX5_seenBy_0 20 rfl rfl)
theorem dX5_seenBy_22 : decode cX5_seenBy 22 = .ok (.iaload, 1) := dk_46 (dk_at dksX5_seenBy_0 22 rfl rfl)
theorem dX5_seenBy_23 : decode cX5_seenBy 23 = .ok (.iload_n 2, 1) := dk_28 (dk_at dksX5_seenBy_0 23 rfl rfl)
theorem dX5_seenBy_24 : decode cX5_seenBy 24 = .ok (.invokevirtual 426, 3) := dk_182 1 170 (dk_at dksX5_seenBy_1 0 rfl rfl)
theorem dX5_seenBy_27 : decode cX5_seenBy 27 = .ok (.ifCond .eq 18, 3) := dk_153 0 18 (dk_at dksX5_seenBy_1 3 rfl rfl)
theorem dX5_seenBy_30 : decode cX5_seenBy 30 = .ok (.aload_n 0, 1) := dk_42 (dk_at dksX5_seenBy_1 6 rfl rfl)
theorem dX5_seenBy_31 : decode cX5_seenBy 31 = .ok (.aload_n 0, 1) := dk_42 (dk_at dksX5_seenBy_1 7 rfl rfl)
theorem dX5_seenBy_32 : decode cX5_seenBy 32 = .ok (.iload_n 1, 1) := dk_27 (dk_at dksX5_seenBy_1 8 rfl rfl)
theorem dX5_seenBy_33 : decode cX5_seenBy 33 = .ok (.iload 4, 2) := dk_21 4 (dk_at dksX5_seenBy_1 9 rfl rfl)
theorem dX5_seenBy_35 : decode cX5_seenBy 35 = .ok (.invokevirtual 476, 3) := dk_182 1 220 (dk_at dksX5_seenBy_1 11 rfl rfl)
theorem dX5_seenBy_38 : decode cX5_seenBy 38 = .ok (.iload_n 2, 1) := dk_28 (dk_at dksX5_seenBy_1 14 rfl rfl)
theorem dX5_seenBy_39 : decode cX5_seenBy 39 = .ok (.invokevirtual 417, 3) := dk_182 1 161 (dk_at dksX5_seenBy_1 15 rfl rfl)
theorem dX5_seenBy_42 : decode cX5_seenBy 42 = .ok (.goto 4, 3) := dk_167 0 4 (dk_at dksX5_seenBy_1 18 rfl rfl)
theorem dX5_seenBy_45 : decode cX5_seenBy 45 = .ok (.iconst 0, 1) := dk_3 (dk_at dksX5_seenBy_1 21 rfl rfl)
theorem dX5_seenBy_46 : decode cX5_seenBy 46 = .ok (.ior, 1) := dk_128 (dk_at dksX5_seenBy_1 22 rfl rfl)
theorem dX5_seenBy_47 : decode cX5_seenBy 47 = .ok (.istore_n 3, 1) := dk_62 (dk_at dksX5_seenBy_1 23 rfl rfl)
theorem dX5_seenBy_48 : decode cX5_seenBy 48 = .ok (.iinc 4 1, 3) := dk_132 4 1 (dk_at dksX5_seenBy_2 0 rfl rfl)
theorem dX5_seenBy_51 : decode cX5_seenBy 51 = .ok (.goto (-46), 3) := dk_167 255 210 (dk_at dksX5_seenBy_2 3 rfl rfl)
theorem dX5_seenBy_54 : decode cX5_seenBy 54 = .ok (.iload_n 3, 1) := dk_29 (dk_at dksX5_seenBy_2 6 rfl rfl)
theorem dX5_seenBy_55 : decode cX5_seenBy 55 = .ok (.ireturn, 1) := dk_172 (dk_at dksX5_seenBy_2 7 rfl rfl)
abbrev cX5_looksOn : ByteArray := prog_15_method_99_code
def yX5_looksOn : MethodName := ⟨RX5, "looksOn", "(II)V"⟩
def dkwX5_looksOn_8 : List UInt8 := [180, 0, 53, 29, 51, 84, 132, 3, 1, 167, 255, 229, 177]
abbrev dktX5_looksOn_8 : List UInt8 := dkwX5_looksOn_8 ++ []
def dkwX5_looksOn_7 : List UInt8 := [167, 255, 122, 3, 62, 29, 42, 180, 1, 217, 17, 4, 0, 104, 162, 0, 21, 42, 180, 0, 50, 29, 42]
abbrev dktX5_looksOn_7 : List UInt8 := dkwX5_looksOn_7 ++ dktX5_looksOn_8
def dkwX5_looksOn_6 : List UInt8 := [21, 7, 21, 6, 128, 96, 4, 84, 132, 7, 1, 167, 255, 208, 132, 5, 1, 167, 255, 158, 132, 3, 1]
abbrev dktX5_looksOn_6 : List UInt8 := dkwX5_looksOn_6 ++ dktX5_looksOn_7
def dkwX5_looksOn_5 : List UInt8 := [104, 21, 7, 96, 51, 153, 0, 26, 42, 180, 0, 53, 17, 4, 0, 42, 180, 0, 40, 21, 5, 46, 104]
abbrev dktX5_looksOn_5 : List UInt8 := dkwX5_looksOn_5 ++ dktX5_looksOn_6
def dkwX5_looksOn_4 : List UInt8 := [182, 2, 7, 27, 126, 54, 6, 3, 54, 7, 21, 7, 27, 163, 0, 48, 42, 180, 0, 50, 17, 4, 0, 29]
abbrev dktX5_looksOn_4 : List UInt8 := dkwX5_looksOn_4 ++ dktX5_looksOn_5
def dkwX5_looksOn_3 : List UInt8 := [21, 5, 46, 28, 182, 1, 232, 154, 0, 6, 167, 0, 73, 42, 42, 180, 0, 40, 21, 5, 46, 28]
abbrev dktX5_looksOn_3 : List UInt8 := dkwX5_looksOn_3 ++ dktX5_looksOn_4
def dkwX5_looksOn_2 : List UInt8 := [182, 1, 229, 167, 0, 4, 3, 54, 4, 3, 54, 5, 21, 5, 21, 4, 162, 0, 97, 42, 42, 180, 0, 40]
abbrev dktX5_looksOn_2 : List UInt8 := dkwX5_looksOn_2 ++ dktX5_looksOn_3
def dkwX5_looksOn_1 : List UInt8 := [167, 255, 234, 3, 62, 29, 42, 180, 1, 217, 162, 0, 132, 42, 29, 182, 1, 223, 153, 0, 11, 42, 29]
abbrev dktX5_looksOn_1 : List UInt8 := dkwX5_looksOn_1 ++ dktX5_looksOn_2
def dkwX5_looksOn_0 : List UInt8 := [3, 62, 29, 42, 180, 1, 217, 17, 4, 0, 104, 162, 0, 16, 42, 180, 0, 53, 29, 3, 84, 132, 3, 1]
abbrev dktX5_looksOn_0 : List UInt8 := dkwX5_looksOn_0 ++ dktX5_looksOn_1
theorem dksX5_looksOn_0 : cX5_looksOn.data.toList.drop 0 = dktX5_looksOn_0 := by decide +kernel
theorem dksX5_looksOn_1 : cX5_looksOn.data.toList.drop 24 = dktX5_looksOn_1 := dk_seg dksX5_looksOn_0 24 rfl rfl
theorem dksX5_looksOn_2 : cX5_looksOn.data.toList.drop 47 = dktX5_looksOn_2 := dk_seg dksX5_looksOn_1 23 rfl rfl
theorem dksX5_looksOn_3 : cX5_looksOn.data.toList.drop 71 = dktX5_looksOn_3 := dk_seg dksX5_looksOn_2 24 rfl rfl
theorem dksX5_looksOn_4 : cX5_looksOn.data.toList.drop 93 = dktX5_looksOn_4 := dk_seg dksX5_looksOn_3 22 rfl rfl
theorem dksX5_looksOn_5 : cX5_looksOn.data.toList.drop 117 = dktX5_looksOn_5 := dk_seg dksX5_looksOn_4 24 rfl rfl
theorem dksX5_looksOn_6 : cX5_looksOn.data.toList.drop 140 = dktX5_looksOn_6 := dk_seg dksX5_looksOn_5 23 rfl rfl
theorem dksX5_looksOn_7 : cX5_looksOn.data.toList.drop 163 = dktX5_looksOn_7 := dk_seg dksX5_looksOn_6 23 rfl rfl
theorem dksX5_looksOn_8 : cX5_looksOn.data.toList.drop 186 = dktX5_looksOn_8 := dk_seg dksX5_looksOn_7 23 rfl rfl
theorem dX5_looksOn_0 : decode cX5_looksOn 0 = .ok (.iconst 0, 1) := dk_3 (dk_at dksX5_looksOn_0 0 rfl rfl)
theorem dX5_looksOn_1 : decode cX5_looksOn 1 = .ok (.istore_n 3, 1) := dk_62 (dk_at dksX5_looksOn_0 1 rfl rfl)
theorem dX5_looksOn_2 : decode cX5_looksOn 2 = .ok (.iload_n 3, 1) := dk_29 (dk_at dksX5_looksOn_0 2 rfl rfl)
theorem dX5_looksOn_3 : decode cX5_looksOn 3 = .ok (.aload_n 0, 1) := dk_42 (dk_at dksX5_looksOn_0 3 rfl rfl)
theorem dX5_looksOn_4 : decode cX5_looksOn 4 = .ok (.getfield 473, 3) := dk_180 1 217 (dk_at dksX5_looksOn_0 4 rfl rfl)
theorem dX5_looksOn_7 : decode cX5_looksOn 7 = .ok (.sipush 1024, 3) := dk_17 4 0 (dk_at dksX5_looksOn_0 7 rfl rfl)
theorem dX5_looksOn_10 : decode cX5_looksOn 10 = .ok (.imul, 1) := dk_104 (dk_at dksX5_looksOn_0 10 rfl rfl)
theorem dX5_looksOn_11 : decode cX5_looksOn 11 = .ok (.if_icmp .ge 16, 3) := dk_162 0 16 (dk_at dksX5_looksOn_0 11 rfl rfl)
theorem dX5_looksOn_14 : decode cX5_looksOn 14 = .ok (.aload_n 0, 1) := dk_42 (dk_at dksX5_looksOn_0 14 rfl rfl)
theorem dX5_looksOn_15 : decode cX5_looksOn 15 = .ok (.getfield 53, 3) := dk_180 0 53 (dk_at dksX5_looksOn_0 15 rfl rfl)
theorem dX5_looksOn_18 : decode cX5_looksOn 18 = .ok (.iload_n 3, 1) := dk_29 (dk_at dksX5_looksOn_0 18 rfl rfl)
theorem dX5_looksOn_19 : decode cX5_looksOn 19 = .ok (.iconst 0, 1) := dk_3 (dk_at dksX5_looksOn_0 19 rfl rfl)
theorem dX5_looksOn_20 : decode cX5_looksOn 20 = .ok (.bastore, 1) := dk_84 (dk_at dksX5_looksOn_0 20 rfl rfl)
theorem dX5_looksOn_21 : decode cX5_looksOn 21 = .ok (.iinc 3 1, 3) := dk_132 3 1 (dk_at dksX5_looksOn_0 21 rfl rfl)
theorem dX5_looksOn_24 : decode cX5_looksOn 24 = .ok (.goto (-22), 3) := dk_167 255 234 (dk_at dksX5_looksOn_1 0 rfl rfl)
theorem dX5_looksOn_27 : decode cX5_looksOn 27 = .ok (.iconst 0, 1) := dk_3 (dk_at dksX5_looksOn_1 3 rfl rfl)
theorem dX5_looksOn_28 : decode cX5_looksOn 28 = .ok (.istore_n 3, 1) := dk_62 (dk_at dksX5_looksOn_1 4 rfl rfl)
theorem dX5_looksOn_29 : decode cX5_looksOn 29 = .ok (.iload_n 3, 1) := dk_29 (dk_at dksX5_looksOn_1 5 rfl rfl)
theorem dX5_looksOn_30 : decode cX5_looksOn 30 = .ok (.aload_n 0, 1) := dk_42 (dk_at dksX5_looksOn_1 6 rfl rfl)
theorem dX5_looksOn_31 : decode cX5_looksOn 31 = .ok (.getfield 473, 3) := dk_180 1 217 (dk_at dksX5_looksOn_1 7 rfl rfl)
theorem dX5_looksOn_34 : decode cX5_looksOn 34 = .ok (.if_icmp .ge 132, 3) := dk_162 0 132 (dk_at dksX5_looksOn_1 10 rfl rfl)
theorem dX5_looksOn_37 : decode cX5_looksOn 37 = .ok (.aload_n 0, 1) := dk_42 (dk_at dksX5_looksOn_1 13 rfl rfl)
theorem dX5_looksOn_38 : decode cX5_looksOn 38 = .ok (.iload_n 3, 1) := dk_29 (dk_at dksX5_looksOn_1 14 rfl rfl)
theorem dX5_looksOn_39 : decode cX5_looksOn 39 = .ok (.invokevirtual 479, 3) := dk_182 1 223 (dk_at dksX5_looksOn_1 15 rfl rfl)
theorem dX5_looksOn_42 : decode cX5_looksOn 42 = .ok (.ifCond .eq 11, 3) := dk_153 0 11 (dk_at dksX5_looksOn_1 18 rfl rfl)
theorem dX5_looksOn_45 : decode cX5_looksOn 45 = .ok (.aload_n 0, 1) := dk_42 (dk_at dksX5_looksOn_1 21 rfl rfl)
theorem dX5_looksOn_46 : decode cX5_looksOn 46 = .ok (.iload_n 3, 1) := dk_29 (dk_at dksX5_looksOn_1 22 rfl rfl)
theorem dX5_looksOn_47 : decode cX5_looksOn 47 = .ok (.invokevirtual 485, 3) := dk_182 1 229 (dk_at dksX5_looksOn_2 0 rfl rfl)
theorem dX5_looksOn_50 : decode cX5_looksOn 50 = .ok (.goto 4, 3) := dk_167 0 4 (dk_at dksX5_looksOn_2 3 rfl rfl)
theorem dX5_looksOn_53 : decode cX5_looksOn 53 = .ok (.iconst 0, 1) := dk_3 (dk_at dksX5_looksOn_2 6 rfl rfl)
theorem dX5_looksOn_54 : decode cX5_looksOn 54 = .ok (.istore 4, 2) := dk_54 4 (dk_at dksX5_looksOn_2 7 rfl rfl)
theorem dX5_looksOn_56 : decode cX5_looksOn 56 = .ok (.iconst 0, 1) := dk_3 (dk_at dksX5_looksOn_2 9 rfl rfl)
theorem dX5_looksOn_57 : decode cX5_looksOn 57 = .ok (.istore 5, 2) := dk_54 5 (dk_at dksX5_looksOn_2 10 rfl rfl)
theorem dX5_looksOn_59 : decode cX5_looksOn 59 = .ok (.iload 5, 2) := dk_21 5 (dk_at dksX5_looksOn_2 12 rfl rfl)
theorem dX5_looksOn_61 : decode cX5_looksOn 61 = .ok (.iload 4, 2) := dk_21 4 (dk_at dksX5_looksOn_2 14 rfl rfl)
theorem dX5_looksOn_63 : decode cX5_looksOn 63 = .ok (.if_icmp .ge 97, 3) := dk_162 0 97 (dk_at dksX5_looksOn_2 16 rfl rfl)
theorem dX5_looksOn_66 : decode cX5_looksOn 66 = .ok (.aload_n 0, 1) := dk_42 (dk_at dksX5_looksOn_2 19 rfl rfl)
theorem dX5_looksOn_67 : decode cX5_looksOn 67 = .ok (.aload_n 0, 1) := dk_42 (dk_at dksX5_looksOn_2 20 rfl rfl)
theorem dX5_looksOn_68 : decode cX5_looksOn 68 = .ok (.getfield 40, 3) := dk_180 0 40 (dk_at dksX5_looksOn_2 21 rfl rfl)
theorem dX5_looksOn_71 : decode cX5_looksOn 71 = .ok (.iload 5, 2) := dk_21 5 (dk_at dksX5_looksOn_3 0 rfl rfl)
theorem dX5_looksOn_73 : decode cX5_looksOn 73 = .ok (.iaload, 1) := dk_46 (dk_at dksX5_looksOn_3 2 rfl rfl)
theorem dX5_looksOn_74 : decode cX5_looksOn 74 = .ok (.iload_n 2, 1) := dk_28 (dk_at dksX5_looksOn_3 3 rfl rfl)
theorem dX5_looksOn_75 : decode cX5_looksOn 75 = .ok (.invokevirtual 488, 3) := dk_182 1 232 (dk_at dksX5_looksOn_3 4 rfl rfl)
theorem dX5_looksOn_78 : decode cX5_looksOn 78 = .ok (.ifCond .ne 6, 3) := dk_154 0 6 (dk_at dksX5_looksOn_3 7 rfl rfl)
theorem dX5_looksOn_81 : decode cX5_looksOn 81 = .ok (.goto 73, 3) := dk_167 0 73 (dk_at dksX5_looksOn_3 10 rfl rfl)
theorem dX5_looksOn_84 : decode cX5_looksOn 84 = .ok (.aload_n 0, 1) := dk_42 (dk_at dksX5_looksOn_3 13 rfl rfl)
theorem dX5_looksOn_85 : decode cX5_looksOn 85 = .ok (.aload_n 0, 1) := dk_42 (dk_at dksX5_looksOn_3 14 rfl rfl)
theorem dX5_looksOn_86 : decode cX5_looksOn 86 = .ok (.getfield 40, 3) := dk_180 0 40 (dk_at dksX5_looksOn_3 15 rfl rfl)
theorem dX5_looksOn_89 : decode cX5_looksOn 89 = .ok (.iload 5, 2) := dk_21 5 (dk_at dksX5_looksOn_3 18 rfl rfl)
theorem dX5_looksOn_91 : decode cX5_looksOn 91 = .ok (.iaload, 1) := dk_46 (dk_at dksX5_looksOn_3 20 rfl rfl)
theorem dX5_looksOn_92 : decode cX5_looksOn 92 = .ok (.iload_n 2, 1) := dk_28 (dk_at dksX5_looksOn_3 21 rfl rfl)
theorem dX5_looksOn_93 : decode cX5_looksOn 93 = .ok (.invokevirtual 519, 3) := dk_182 2 7 (dk_at dksX5_looksOn_4 0 rfl rfl)
theorem dX5_looksOn_96 : decode cX5_looksOn 96 = .ok (.iload_n 1, 1) := dk_27 (dk_at dksX5_looksOn_4 3 rfl rfl)
theorem dX5_looksOn_97 : decode cX5_looksOn 97 = .ok (.iand, 1) := dk_126 (dk_at dksX5_looksOn_4 4 rfl rfl)
theorem dX5_looksOn_98 : decode cX5_looksOn 98 = .ok (.istore 6, 2) := dk_54 6 (dk_at dksX5_looksOn_4 5 rfl rfl)
theorem dX5_looksOn_100 : decode cX5_looksOn 100 = .ok (.iconst 0, 1) := dk_3 (dk_at dksX5_looksOn_4 7 rfl rfl)
theorem dX5_looksOn_101 : decode cX5_looksOn 101 = .ok (.istore 7, 2) := dk_54 7 (dk_at dksX5_looksOn_4 8 rfl rfl)
theorem dX5_looksOn_103 : decode cX5_looksOn 103 = .ok (.iload 7, 2) := dk_21 7 (dk_at dksX5_looksOn_4 10 rfl rfl)
theorem dX5_looksOn_105 : decode cX5_looksOn 105 = .ok (.iload_n 1, 1) := dk_27 (dk_at dksX5_looksOn_4 12 rfl rfl)
theorem dX5_looksOn_106 : decode cX5_looksOn 106 = .ok (.if_icmp .gt 48, 3) := dk_163 0 48 (dk_at dksX5_looksOn_4 13 rfl rfl)
theorem dX5_looksOn_109 : decode cX5_looksOn 109 = .ok (.aload_n 0, 1) := dk_42 (dk_at dksX5_looksOn_4 16 rfl rfl)
theorem dX5_looksOn_110 : decode cX5_looksOn 110 = .ok (.getfield 50, 3) := dk_180 0 50 (dk_at dksX5_looksOn_4 17 rfl rfl)
theorem dX5_looksOn_113 : decode cX5_looksOn 113 = .ok (.sipush 1024, 3) := dk_17 4 0 (dk_at dksX5_looksOn_4 20 rfl rfl)
theorem dX5_looksOn_116 : decode cX5_looksOn 116 = .ok (.iload_n 3, 1) := dk_29 (dk_at dksX5_looksOn_4 23 rfl rfl)
theorem dX5_looksOn_117 : decode cX5_looksOn 117 = .ok (.imul, 1) := dk_104 (dk_at dksX5_looksOn_5 0 rfl rfl)
theorem dX5_looksOn_118 : decode cX5_looksOn 118 = .ok (.iload 7, 2) := dk_21 7 (dk_at dksX5_looksOn_5 1 rfl rfl)
theorem dX5_looksOn_120 : decode cX5_looksOn 120 = .ok (.iadd, 1) := dk_96 (dk_at dksX5_looksOn_5 3 rfl rfl)
theorem dX5_looksOn_121 : decode cX5_looksOn 121 = .ok (.baload, 1) := dk_51 (dk_at dksX5_looksOn_5 4 rfl rfl)
theorem dX5_looksOn_122 : decode cX5_looksOn 122 = .ok (.ifCond .eq 26, 3) := dk_153 0 26 (dk_at dksX5_looksOn_5 5 rfl rfl)
theorem dX5_looksOn_125 : decode cX5_looksOn 125 = .ok (.aload_n 0, 1) := dk_42 (dk_at dksX5_looksOn_5 8 rfl rfl)
theorem dX5_looksOn_126 : decode cX5_looksOn 126 = .ok (.getfield 53, 3) := dk_180 0 53 (dk_at dksX5_looksOn_5 9 rfl rfl)
theorem dX5_looksOn_129 : decode cX5_looksOn 129 = .ok (.sipush 1024, 3) := dk_17 4 0 (dk_at dksX5_looksOn_5 12 rfl rfl)
theorem dX5_looksOn_132 : decode cX5_looksOn 132 = .ok (.aload_n 0, 1) := dk_42 (dk_at dksX5_looksOn_5 15 rfl rfl)
theorem dX5_looksOn_133 : decode cX5_looksOn 133 = .ok (.getfield 40, 3) := dk_180 0 40 (dk_at dksX5_looksOn_5 16 rfl rfl)
theorem dX5_looksOn_136 : decode cX5_looksOn 136 = .ok (.iload 5, 2) := dk_21 5 (dk_at dksX5_looksOn_5 19 rfl rfl)
theorem dX5_looksOn_138 : decode cX5_looksOn 138 = .ok (.iaload, 1) := dk_46 (dk_at dksX5_looksOn_5 21 rfl rfl)
theorem dX5_looksOn_139 : decode cX5_looksOn 139 = .ok (.imul, 1) := dk_104 (dk_at dksX5_looksOn_5 22 rfl rfl)
theorem dX5_looksOn_140 : decode cX5_looksOn 140 = .ok (.iload 7, 2) := dk_21 7 (dk_at dksX5_looksOn_6 0 rfl rfl)
theorem dX5_looksOn_142 : decode cX5_looksOn 142 = .ok (.iload 6, 2) := dk_21 6 (dk_at dksX5_looksOn_6 2 rfl rfl)
theorem dX5_looksOn_144 : decode cX5_looksOn 144 = .ok (.ior, 1) := dk_128 (dk_at dksX5_looksOn_6 4 rfl rfl)
theorem dX5_looksOn_145 : decode cX5_looksOn 145 = .ok (.iadd, 1) := dk_96 (dk_at dksX5_looksOn_6 5 rfl rfl)
theorem dX5_looksOn_146 : decode cX5_looksOn 146 = .ok (.iconst 1, 1) := dk_4 (dk_at dksX5_looksOn_6 6 rfl rfl)
theorem dX5_looksOn_147 : decode cX5_looksOn 147 = .ok (.bastore, 1) := dk_84 (dk_at dksX5_looksOn_6 7 rfl rfl)
theorem dX5_looksOn_148 : decode cX5_looksOn 148 = .ok (.iinc 7 1, 3) := dk_132 7 1 (dk_at dksX5_looksOn_6 8 rfl rfl)
theorem dX5_looksOn_151 : decode cX5_looksOn 151 = .ok (.goto (-48), 3) := dk_167 255 208 (dk_at dksX5_looksOn_6 11 rfl rfl)
theorem dX5_looksOn_154 : decode cX5_looksOn 154 = .ok (.iinc 5 1, 3) := dk_132 5 1 (dk_at dksX5_looksOn_6 14 rfl rfl)
theorem dX5_looksOn_157 : decode cX5_looksOn 157 = .ok (.goto (-98), 3) := dk_167 255 158 (dk_at dksX5_looksOn_6 17 rfl rfl)
theorem dX5_looksOn_160 : decode cX5_looksOn 160 = .ok (.iinc 3 1, 3) := dk_132 3 1 (dk_at dksX5_looksOn_6 20 rfl rfl)
theorem dX5_looksOn_163 : decode cX5_looksOn 163 = .ok (.goto (-134), 3) := dk_167 255 122 (dk_at dksX5_looksOn_7 0 rfl rfl)
theorem dX5_looksOn_166 : decode cX5_looksOn 166 = .ok (.iconst 0, 1) := dk_3 (dk_at dksX5_looksOn_7 3 rfl rfl)
theorem dX5_looksOn_167 : decode cX5_looksOn 167 = .ok (.istore_n 3, 1) := dk_62 (dk_at dksX5_looksOn_7 4 rfl rfl)
theorem dX5_looksOn_168 : decode cX5_looksOn 168 = .ok (.iload_n 3, 1) := dk_29 (dk_at dksX5_looksOn_7 5 rfl rfl)
theorem dX5_looksOn_169 : decode cX5_looksOn 169 = .ok (.aload_n 0, 1) := dk_42 (dk_at dksX5_looksOn_7 6 rfl rfl)
theorem dX5_looksOn_170 : decode cX5_looksOn 170 = .ok (.getfield 473, 3) := dk_180 1 217 (dk_at dksX5_looksOn_7 7 rfl rfl)
theorem dX5_looksOn_173 : decode cX5_looksOn 173 = .ok (.sipush 1024, 3) := dk_17 4 0 (dk_at dksX5_looksOn_7 10 rfl rfl)
theorem dX5_looksOn_176 : decode cX5_looksOn 176 = .ok (.imul, 1) := dk_104 (dk_at dksX5_looksOn_7 13 rfl rfl)
theorem dX5_looksOn_177 : decode cX5_looksOn 177 = .ok (.if_icmp .ge 21, 3) := dk_162 0 21 (dk_at dksX5_looksOn_7 14 rfl rfl)
theorem dX5_looksOn_180 : decode cX5_looksOn 180 = .ok (.aload_n 0, 1) := dk_42 (dk_at dksX5_looksOn_7 17 rfl rfl)
theorem dX5_looksOn_181 : decode cX5_looksOn 181 = .ok (.getfield 50, 3) := dk_180 0 50 (dk_at dksX5_looksOn_7 18 rfl rfl)
theorem dX5_looksOn_184 : decode cX5_looksOn 184 = .ok (.iload_n 3, 1) := dk_29 (dk_at dksX5_looksOn_7 21 rfl rfl)
theorem dX5_looksOn_185 : decode cX5_looksOn 185 = .ok (.aload_n 0, 1) := dk_42 (dk_at dksX5_looksOn_7 22 rfl rfl)
theorem dX5_looksOn_186 : decode cX5_looksOn 186 = .ok (.getfield 53, 3) := dk_180 0 53 (dk_at dksX5_looksOn_8 0 rfl rfl)
theorem dX5_looksOn_189 : decode cX5_looksOn 189 = .ok (.iload_n 3, 1) := dk_29 (dk_at dksX5_looksOn_8 3 rfl rfl)
theorem dX5_looksOn_190 : decode cX5_looksOn 190 = .ok (.baload, 1) := dk_51 (dk_at dksX5_looksOn_8 4 rfl rfl)
theorem dX5_looksOn_191 : decode cX5_looksOn 191 = .ok (.bastore, 1) := dk_84 (dk_at dksX5_looksOn_8 5 rfl rfl)
theorem dX5_looksOn_192 : decode cX5_looksOn 192 = .ok (.iinc 3 1, 3) := dk_132 3 1 (dk_at dksX5_looksOn_8 6 rfl rfl)
theorem dX5_looksOn_195 : decode cX5_looksOn 195 = .ok (.goto (-27), 3) := dk_167 255 229 (dk_at dksX5_looksOn_8 9 rfl rfl)
theorem dX5_looksOn_198 : decode cX5_looksOn 198 = .ok (.return_, 1) := dk_177 (dk_at dksX5_looksOn_8 12 rfl rfl)
abbrev cX5_sleepers : ByteArray := prog_15_method_100_code
def yX5_sleepers : MethodName := ⟨RX5, "sleepers", "(I)I"⟩
def dkwX5_sleepers_3 : List UInt8 := [184, 1, 205, 164, 0, 6, 21, 4, 62, 132, 4, 1, 167, 255, 201, 42, 29, 3, 182, 0, 66, 172]
abbrev dktX5_sleepers_3 : List UInt8 := dkwX5_sleepers_3 ++ []
def dkwX5_sleepers_2 : List UInt8 := [21, 4, 182, 1, 177, 154, 0, 6, 167, 0, 24, 29, 16, 254, 159, 0, 15, 21, 4, 184, 1, 205, 29]
abbrev dktX5_sleepers_2 : List UInt8 := dkwX5_sleepers_2 ++ dktX5_sleepers_3
def dkwX5_sleepers_1 : List UInt8 := [3, 54, 4, 21, 4, 4, 42, 180, 1, 124, 180, 0, 221, 120, 162, 0, 47, 42, 42, 180, 0, 17, 27]
abbrev dktX5_sleepers_1 : List UInt8 := dkwX5_sleepers_1 ++ dktX5_sleepers_2
def dkwX5_sleepers_0 : List UInt8 := [42, 3, 181, 0, 56, 42, 27, 182, 1, 164, 61, 28, 158, 0, 9, 42, 28, 182, 0, 62, 172, 16, 254, 62]
abbrev dktX5_sleepers_0 : List UInt8 := dkwX5_sleepers_0 ++ dktX5_sleepers_1
theorem dksX5_sleepers_0 : cX5_sleepers.data.toList.drop 0 = dktX5_sleepers_0 := by decide +kernel
theorem dksX5_sleepers_1 : cX5_sleepers.data.toList.drop 24 = dktX5_sleepers_1 := dk_seg dksX5_sleepers_0 24 rfl rfl
theorem dksX5_sleepers_2 : cX5_sleepers.data.toList.drop 47 = dktX5_sleepers_2 := dk_seg dksX5_sleepers_1 23 rfl rfl
theorem dksX5_sleepers_3 : cX5_sleepers.data.toList.drop 70 = dktX5_sleepers_3 := dk_seg dksX5_sleepers_2 23 rfl rfl
theorem dX5_sleepers_0 : decode cX5_sleepers 0 = .ok (.aload_n 0, 1) := dk_42 (dk_at dksX5_sleepers_0 0 rfl rfl)
theorem dX5_sleepers_1 : decode cX5_sleepers 1 = .ok (.iconst 0, 1) := dk_3 (dk_at dksX5_sleepers_0 1 rfl rfl)
theorem dX5_sleepers_2 : decode cX5_sleepers 2 = .ok (.putfield 56, 3) := dk_181 0 56 (dk_at dksX5_sleepers_0 2 rfl rfl)
theorem dX5_sleepers_5 : decode cX5_sleepers 5 = .ok (.aload_n 0, 1) := dk_42 (dk_at dksX5_sleepers_0 5 rfl rfl)
theorem dX5_sleepers_6 : decode cX5_sleepers 6 = .ok (.iload_n 1, 1) := dk_27 (dk_at dksX5_sleepers_0 6 rfl rfl)
theorem dX5_sleepers_7 : decode cX5_sleepers 7 = .ok (.invokevirtual 420, 3) := dk_182 1 164 (dk_at dksX5_sleepers_0 7 rfl rfl)
theorem dX5_sleepers_10 : decode cX5_sleepers 10 = .ok (.istore_n 2, 1) := dk_61 (dk_at dksX5_sleepers_0 10 rfl rfl)
theorem dX5_sleepers_11 : decode cX5_sleepers 11 = .ok (.iload_n 2, 1) := dk_28 (dk_at dksX5_sleepers_0 11 rfl rfl)
theorem dX5_sleepers_12 : decode cX5_sleepers 12 = .ok (.ifCond .le 9, 3) := dk_158 0 9 (dk_at dksX5_sleepers_0 12 rfl rfl)
theorem dX5_sleepers_15 : decode cX5_sleepers 15 = .ok (.aload_n 0, 1) := dk_42 (dk_at dksX5_sleepers_0 15 rfl rfl)
theorem dX5_sleepers_16 : decode cX5_sleepers 16 = .ok (.iload_n 2, 1) := dk_28 (dk_at dksX5_sleepers_0 16 rfl rfl)
theorem dX5_sleepers_17 : decode cX5_sleepers 17 = .ok (.invokevirtual 62, 3) := dk_182 0 62 (dk_at dksX5_sleepers_0 17 rfl rfl)
theorem dX5_sleepers_20 : decode cX5_sleepers 20 = .ok (.ireturn, 1) := dk_172 (dk_at dksX5_sleepers_0 20 rfl rfl)
theorem dX5_sleepers_21 : decode cX5_sleepers 21 = .ok (.bipush (-2), 2) := dk_16 254 (dk_at dksX5_sleepers_0 21 rfl rfl)
theorem dX5_sleepers_23 : decode cX5_sleepers 23 = .ok (.istore_n 3, 1) := dk_62 (dk_at dksX5_sleepers_0 23 rfl rfl)
theorem dX5_sleepers_24 : decode cX5_sleepers 24 = .ok (.iconst 0, 1) := dk_3 (dk_at dksX5_sleepers_1 0 rfl rfl)
theorem dX5_sleepers_25 : decode cX5_sleepers 25 = .ok (.istore 4, 2) := dk_54 4 (dk_at dksX5_sleepers_1 1 rfl rfl)
theorem dX5_sleepers_27 : decode cX5_sleepers 27 = .ok (.iload 4, 2) := dk_21 4 (dk_at dksX5_sleepers_1 3 rfl rfl)
theorem dX5_sleepers_29 : decode cX5_sleepers 29 = .ok (.iconst 1, 1) := dk_4 (dk_at dksX5_sleepers_1 5 rfl rfl)
theorem dX5_sleepers_30 : decode cX5_sleepers 30 = .ok (.aload_n 0, 1) := dk_42 (dk_at dksX5_sleepers_1 6 rfl rfl)
theorem dX5_sleepers_31 : decode cX5_sleepers 31 = .ok (.getfield 380, 3) := dk_180 1 124 (dk_at dksX5_sleepers_1 7 rfl rfl)
theorem dX5_sleepers_34 : decode cX5_sleepers 34 = .ok (.getfield 221, 3) := dk_180 0 221 (dk_at dksX5_sleepers_1 10 rfl rfl)
theorem dX5_sleepers_37 : decode cX5_sleepers 37 = .ok (.ishl, 1) := dk_120 (dk_at dksX5_sleepers_1 13 rfl rfl)
theorem dX5_sleepers_38 : decode cX5_sleepers 38 = .ok (.if_icmp .ge 47, 3) := dk_162 0 47 (dk_at dksX5_sleepers_1 14 rfl rfl)
theorem dX5_sleepers_41 : decode cX5_sleepers 41 = .ok (.aload_n 0, 1) := dk_42 (dk_at dksX5_sleepers_1 17 rfl rfl)
theorem dX5_sleepers_42 : decode cX5_sleepers 42 = .ok (.aload_n 0, 1) := dk_42 (dk_at dksX5_sleepers_1 18 rfl rfl)
theorem dX5_sleepers_43 : decode cX5_sleepers 43 = .ok (.getfield 17, 3) := dk_180 0 17 (dk_at dksX5_sleepers_1 19 rfl rfl)
theorem dX5_sleepers_46 : decode cX5_sleepers 46 = .ok (.iload_n 1, 1) := dk_27 (dk_at dksX5_sleepers_1 22 rfl rfl)
theorem dX5_sleepers_47 : decode cX5_sleepers 47 = .ok (.iload 4, 2) := dk_21 4 (dk_at dksX5_sleepers_2 0 rfl rfl)
theorem dX5_sleepers_49 : decode cX5_sleepers 49 = .ok (.invokevirtual 433, 3) := dk_182 1 177 (dk_at dksX5_sleepers_2 2 rfl rfl)
theorem dX5_sleepers_52 : decode cX5_sleepers 52 = .ok (.ifCond .ne 6, 3) := dk_154 0 6 (dk_at dksX5_sleepers_2 5 rfl rfl)
theorem dX5_sleepers_55 : decode cX5_sleepers 55 = .ok (.goto 24, 3) := dk_167 0 24 (dk_at dksX5_sleepers_2 8 rfl rfl)
theorem dX5_sleepers_58 : decode cX5_sleepers 58 = .ok (.iload_n 3, 1) := dk_29 (dk_at dksX5_sleepers_2 11 rfl rfl)
theorem dX5_sleepers_59 : decode cX5_sleepers 59 = .ok (.bipush (-2), 2) := dk_16 254 (dk_at dksX5_sleepers_2 12 rfl rfl)
theorem dX5_sleepers_61 : decode cX5_sleepers 61 = .ok (.if_icmp .eq 15, 3) := dk_159 0 15 (dk_at dksX5_sleepers_2 14 rfl rfl)
theorem dX5_sleepers_64 : decode cX5_sleepers 64 = .ok (.iload 4, 2) := dk_21 4 (dk_at dksX5_sleepers_2 17 rfl rfl)
theorem dX5_sleepers_66 : decode cX5_sleepers 66 = .ok (.invokestatic 461, 3) := dk_184 1 205 (dk_at dksX5_sleepers_2 19 rfl rfl)
theorem dX5_sleepers_69 : decode cX5_sleepers 69 = .ok (.iload_n 3, 1) := dk_29 (dk_at dksX5_sleepers_2 22 rfl rfl)
theorem dX5_sleepers_70 : decode cX5_sleepers 70 = .ok (.invokestatic 461, 3) := dk_184 1 205 (dk_at dksX5_sleepers_3 0 rfl rfl)
theorem dX5_sleepers_73 : decode cX5_sleepers 73 = .ok (.if_icmp .le 6, 3) := dk_164 0 6 (dk_at dksX5_sleepers_3 3 rfl rfl)
theorem dX5_sleepers_76 : decode cX5_sleepers 76 = .ok (.iload 4, 2) := dk_21 4 (dk_at dksX5_sleepers_3 6 rfl rfl)
theorem dX5_sleepers_78 : decode cX5_sleepers 78 = .ok (.istore_n 3, 1) := dk_62 (dk_at dksX5_sleepers_3 8 rfl rfl)
theorem dX5_sleepers_79 : decode cX5_sleepers 79 = .ok (.iinc 4 1, 3) := dk_132 4 1 (dk_at dksX5_sleepers_3 9 rfl rfl)
theorem dX5_sleepers_82 : decode cX5_sleepers 82 = .ok (.goto (-55), 3) := dk_167 255 201 (dk_at dksX5_sleepers_3 12 rfl rfl)
theorem dX5_sleepers_85 : decode cX5_sleepers 85 = .ok (.aload_n 0, 1) := dk_42 (dk_at dksX5_sleepers_3 15 rfl rfl)
theorem dX5_sleepers_86 : decode cX5_sleepers 86 = .ok (.iload_n 3, 1) := dk_29 (dk_at dksX5_sleepers_3 16 rfl rfl)
theorem dX5_sleepers_87 : decode cX5_sleepers 87 = .ok (.iconst 0, 1) := dk_3 (dk_at dksX5_sleepers_3 17 rfl rfl)
theorem dX5_sleepers_88 : decode cX5_sleepers 88 = .ok (.invokevirtual 66, 3) := dk_182 0 66 (dk_at dksX5_sleepers_3 18 rfl rfl)
theorem dX5_sleepers_91 : decode cX5_sleepers 91 = .ok (.ireturn, 1) := dk_172 (dk_at dksX5_sleepers_3 21 rfl rfl)
abbrev cX5_alone : ByteArray := prog_15_method_103_code
def yX5_alone : MethodName := ⟨RX5, "alone", "(I)I"⟩
def dkwX5_alone_3 : List UInt8 := [132, 3, 1, 167, 255, 231, 132, 2, 1, 167, 255, 212, 42, 16, 254, 3, 182, 0, 66, 172]
abbrev dktX5_alone_3 : List UInt8 := dkwX5_alone_3 ++ []
def dkwX5_alone_2 : List UInt8 := [62, 29, 28, 162, 0, 26, 42, 27, 28, 29, 182, 2, 13, 153, 0, 10, 42, 5, 3, 182, 0, 66, 172]
abbrev dktX5_alone_2 : List UInt8 := dkwX5_alone_2 ++ dktX5_alone_3
def dkwX5_alone_1 : List UInt8 := [153, 0, 10, 42, 4, 3, 182, 0, 66, 172, 3, 61, 28, 42, 180, 1, 124, 180, 0, 218, 162, 0, 39, 3]
abbrev dktX5_alone_1 : List UInt8 := dkwX5_alone_1 ++ dktX5_alone_2
def dkwX5_alone_0 : List UInt8 := [42, 3, 181, 0, 56, 42, 27, 182, 1, 158, 154, 0, 9, 42, 4, 182, 0, 62, 172, 42, 27, 182, 2, 16]
abbrev dktX5_alone_0 : List UInt8 := dkwX5_alone_0 ++ dktX5_alone_1
theorem dksX5_alone_0 : cX5_alone.data.toList.drop 0 = dktX5_alone_0 := by decide +kernel
theorem dksX5_alone_1 : cX5_alone.data.toList.drop 24 = dktX5_alone_1 := dk_seg dksX5_alone_0 24 rfl rfl
theorem dksX5_alone_2 : cX5_alone.data.toList.drop 48 = dktX5_alone_2 := dk_seg dksX5_alone_1 24 rfl rfl
theorem dksX5_alone_3 : cX5_alone.data.toList.drop 71 = dktX5_alone_3 := dk_seg dksX5_alone_2 23 rfl rfl
theorem dX5_alone_0 : decode cX5_alone 0 = .ok (.aload_n 0, 1) := dk_42 (dk_at dksX5_alone_0 0 rfl rfl)
theorem dX5_alone_1 : decode cX5_alone 1 = .ok (.iconst 0, 1) := dk_3 (dk_at dksX5_alone_0 1 rfl rfl)
theorem dX5_alone_2 : decode cX5_alone 2 = .ok (.putfield 56, 3) := dk_181 0 56 (dk_at dksX5_alone_0 2 rfl rfl)
theorem dX5_alone_5 : decode cX5_alone 5 = .ok (.aload_n 0, 1) := dk_42 (dk_at dksX5_alone_0 5 rfl rfl)
theorem dX5_alone_6 : decode cX5_alone 6 = .ok (.iload_n 1, 1) := dk_27 (dk_at dksX5_alone_0 6 rfl rfl)
theorem dX5_alone_7 : decode cX5_alone 7 = .ok (.invokevirtual 414, 3) := dk_182 1 158 (dk_at dksX5_alone_0 7 rfl rfl)
theorem dX5_alone_10 : decode cX5_alone 10 = .ok (.ifCond .ne 9, 3) := dk_154 0 9 (dk_at dksX5_alone_0 10 rfl rfl)
theorem dX5_alone_13 : decode cX5_alone 13 = .ok (.aload_n 0, 1) := dk_42 (dk_at dksX5_alone_0 13 rfl rfl)
theorem dX5_alone_14 : decode cX5_alone 14 = .ok (.iconst 1, 1) := dk_4 (dk_at dksX5_alone_0 14 rfl rfl)
theorem dX5_alone_15 : decode cX5_alone 15 = .ok (.invokevirtual 62, 3) := dk_182 0 62 (dk_at dksX5_alone_0 15 rfl rfl)
theorem dX5_alone_18 : decode cX5_alone 18 = .ok (.ireturn, 1) := dk_172 (dk_at dksX5_alone_0 18 rfl rfl)
theorem dX5_alone_19 : decode cX5_alone 19 = .ok (.aload_n 0, 1) := dk_42 (dk_at dksX5_alone_0 19 rfl rfl)
theorem dX5_alone_20 : decode cX5_alone 20 = .ok (.iload_n 1, 1) := dk_27 (dk_at dksX5_alone_0 20 rfl rfl)
theorem dX5_alone_21 : decode cX5_alone 21 = .ok (.invokevirtual 528, 3) := dk_182 2 16 (dk_at dksX5_alone_0 21 rfl rfl)
theorem dX5_alone_24 : decode cX5_alone 24 = .ok (.ifCond .eq 10, 3) := dk_153 0 10 (dk_at dksX5_alone_1 0 rfl rfl)
theorem dX5_alone_27 : decode cX5_alone 27 = .ok (.aload_n 0, 1) := dk_42 (dk_at dksX5_alone_1 3 rfl rfl)
theorem dX5_alone_28 : decode cX5_alone 28 = .ok (.iconst 1, 1) := dk_4 (dk_at dksX5_alone_1 4 rfl rfl)
theorem dX5_alone_29 : decode cX5_alone 29 = .ok (.iconst 0, 1) := dk_3 (dk_at dksX5_alone_1 5 rfl rfl)
theorem dX5_alone_30 : decode cX5_alone 30 = .ok (.invokevirtual 66, 3) := dk_182 0 66 (dk_at dksX5_alone_1 6 rfl rfl)
theorem dX5_alone_33 : decode cX5_alone 33 = .ok (.ireturn, 1) := dk_172 (dk_at dksX5_alone_1 9 rfl rfl)
theorem dX5_alone_34 : decode cX5_alone 34 = .ok (.iconst 0, 1) := dk_3 (dk_at dksX5_alone_1 10 rfl rfl)
theorem dX5_alone_35 : decode cX5_alone 35 = .ok (.istore_n 2, 1) := dk_61 (dk_at dksX5_alone_1 11 rfl rfl)
theorem dX5_alone_36 : decode cX5_alone 36 = .ok (.iload_n 2, 1) := dk_28 (dk_at dksX5_alone_1 12 rfl rfl)
theorem dX5_alone_37 : decode cX5_alone 37 = .ok (.aload_n 0, 1) := dk_42 (dk_at dksX5_alone_1 13 rfl rfl)
theorem dX5_alone_38 : decode cX5_alone 38 = .ok (.getfield 380, 3) := dk_180 1 124 (dk_at dksX5_alone_1 14 rfl rfl)
theorem dX5_alone_41 : decode cX5_alone 41 = .ok (.getfield 218, 3) := dk_180 0 218 (dk_at dksX5_alone_1 17 rfl rfl)
theorem dX5_alone_44 : decode cX5_alone 44 = .ok (.if_icmp .ge 39, 3) := dk_162 0 39 (dk_at dksX5_alone_1 20 rfl rfl)
theorem dX5_alone_47 : decode cX5_alone 47 = .ok (.iconst 0, 1) := dk_3 (dk_at dksX5_alone_1 23 rfl rfl)
theorem dX5_alone_48 : decode cX5_alone 48 = .ok (.istore_n 3, 1) := dk_62 (dk_at dksX5_alone_2 0 rfl rfl)
theorem dX5_alone_49 : decode cX5_alone 49 = .ok (.iload_n 3, 1) := dk_29 (dk_at dksX5_alone_2 1 rfl rfl)
theorem dX5_alone_50 : decode cX5_alone 50 = .ok (.iload_n 2, 1) := dk_28 (dk_at dksX5_alone_2 2 rfl rfl)
theorem dX5_alone_51 : decode cX5_alone 51 = .ok (.if_icmp .ge 26, 3) := dk_162 0 26 (dk_at dksX5_alone_2 3 rfl rfl)
theorem dX5_alone_54 : decode cX5_alone 54 = .ok (.aload_n 0, 1) := dk_42 (dk_at dksX5_alone_2 6 rfl rfl)
theorem dX5_alone_55 : decode cX5_alone 55 = .ok (.iload_n 1, 1) := dk_27 (dk_at dksX5_alone_2 7 rfl rfl)
theorem dX5_alone_56 : decode cX5_alone 56 = .ok (.iload_n 2, 1) := dk_28 (dk_at dksX5_alone_2 8 rfl rfl)
theorem dX5_alone_57 : decode cX5_alone 57 = .ok (.iload_n 3, 1) := dk_29 (dk_at dksX5_alone_2 9 rfl rfl)
theorem dX5_alone_58 : decode cX5_alone 58 = .ok (.invokevirtual 525, 3) := dk_182 2 13 (dk_at dksX5_alone_2 10 rfl rfl)
theorem dX5_alone_61 : decode cX5_alone 61 = .ok (.ifCond .eq 10, 3) := dk_153 0 10 (dk_at dksX5_alone_2 13 rfl rfl)
theorem dX5_alone_64 : decode cX5_alone 64 = .ok (.aload_n 0, 1) := dk_42 (dk_at dksX5_alone_2 16 rfl rfl)
theorem dX5_alone_65 : decode cX5_alone 65 = .ok (.iconst 2, 1) := dk_5 (dk_at dksX5_alone_2 17 rfl rfl)
theorem dX5_alone_66 : decode cX5_alone 66 = .ok (.iconst 0, 1) := dk_3 (dk_at dksX5_alone_2 18 rfl rfl)
theorem dX5_alone_67 : decode cX5_alone 67 = .ok (.invokevirtual 66, 3) := dk_182 0 66 (dk_at dksX5_alone_2 19 rfl rfl)
theorem dX5_alone_70 : decode cX5_alone 70 = .ok (.ireturn, 1) := dk_172 (dk_at dksX5_alone_2 22 rfl rfl)
theorem dX5_alone_71 : decode cX5_alone 71 = .ok (.iinc 3 1, 3) := dk_132 3 1 (dk_at dksX5_alone_3 0 rfl rfl)
theorem dX5_alone_74 : decode cX5_alone 74 = .ok (.goto (-25), 3) := dk_167 255 231 (dk_at dksX5_alone_3 3 rfl rfl)
theorem dX5_alone_77 : decode cX5_alone 77 = .ok (.iinc 2 1, 3) := dk_132 2 1 (dk_at dksX5_alone_3 6 rfl rfl)
theorem dX5_alone_80 : decode cX5_alone 80 = .ok (.goto (-44), 3) := dk_167 255 212 (dk_at dksX5_alone_3 9 rfl rfl)
theorem dX5_alone_83 : decode cX5_alone 83 = .ok (.aload_n 0, 1) := dk_42 (dk_at dksX5_alone_3 12 rfl rfl)
theorem dX5_alone_84 : decode cX5_alone 84 = .ok (.bipush (-2), 2) := dk_16 254 (dk_at dksX5_alone_3 13 rfl rfl)
theorem dX5_alone_86 : decode cX5_alone 86 = .ok (.iconst 0, 1) := dk_3 (dk_at dksX5_alone_3 15 rfl rfl)
theorem dX5_alone_87 : decode cX5_alone 87 = .ok (.invokevirtual 66, 3) := dk_182 0 66 (dk_at dksX5_alone_3 16 rfl rfl)
theorem dX5_alone_90 : decode cX5_alone 90 = .ok (.ireturn, 1) := dk_172 (dk_at dksX5_alone_3 19 rfl rfl)
abbrev cX5_glassOf : ByteArray := prog_15_method_102_code
def yX5_glassOf : MethodName := ⟨RX5, "glassOf", "(I)I"⟩
def dkwX5_glassOf_1 : List UInt8 := [29, 182, 2, 13, 153, 0, 9, 4, 29, 120, 167, 0, 4, 3, 128, 61, 132, 3, 1, 167, 255, 217, 28, 172]
abbrev dktX5_glassOf_1 : List UInt8 := dkwX5_glassOf_1 ++ []
def dkwX5_glassOf_0 : List UInt8 := [3, 61, 3, 62, 29, 42, 180, 1, 124, 180, 0, 218, 162, 0, 34, 28, 29, 27, 159, 0, 19, 42, 27, 29]
abbrev dktX5_glassOf_0 : List UInt8 := dkwX5_glassOf_0 ++ dktX5_glassOf_1
theorem dksX5_glassOf_0 : cX5_glassOf.data.toList.drop 0 = dktX5_glassOf_0 := by decide +kernel
theorem dksX5_glassOf_1 : cX5_glassOf.data.toList.drop 24 = dktX5_glassOf_1 := dk_seg dksX5_glassOf_0 24 rfl rfl
theorem dX5_glassOf_0 : decode cX5_glassOf 0 = .ok (.iconst 0, 1) := dk_3 (dk_at dksX5_glassOf_0 0 rfl rfl)
theorem dX5_glassOf_1 : decode cX5_glassOf 1 = .ok (.istore_n 2, 1) := dk_61 (dk_at dksX5_glassOf_0 1 rfl rfl)
theorem dX5_glassOf_2 : decode cX5_glassOf 2 = .ok (.iconst 0, 1) := dk_3 (dk_at dksX5_glassOf_0 2 rfl rfl)
theorem dX5_glassOf_3 : decode cX5_glassOf 3 = .ok (.istore_n 3, 1) := dk_62 (dk_at dksX5_glassOf_0 3 rfl rfl)
theorem dX5_glassOf_4 : decode cX5_glassOf 4 = .ok (.iload_n 3, 1) := dk_29 (dk_at dksX5_glassOf_0 4 rfl rfl)
theorem dX5_glassOf_5 : decode cX5_glassOf 5 = .ok (.aload_n 0, 1) := dk_42 (dk_at dksX5_glassOf_0 5 rfl rfl)
theorem dX5_glassOf_6 : decode cX5_glassOf 6 = .ok (.getfield 380, 3) := dk_180 1 124 (dk_at dksX5_glassOf_0 6 rfl rfl)
theorem dX5_glassOf_9 : decode cX5_glassOf 9 = .ok (.getfield 218, 3) := dk_180 0 218 (dk_at dksX5_glassOf_0 9 rfl rfl)
theorem dX5_glassOf_12 : decode cX5_glassOf 12 = .ok (.if_icmp .ge 34, 3) := dk_162 0 34 (dk_at dksX5_glassOf_0 12 rfl rfl)
theorem dX5_glassOf_15 : decode cX5_glassOf 15 = .ok (.iload_n 2, 1) := dk_28 (dk_at dksX5_glassOf_0 15 rfl rfl)
theorem dX5_glassOf_16 : decode cX5_glassOf 16 = .ok (.iload_n 3, 1) := dk_29 (dk_at dksX5_glassOf_0 16 rfl rfl)
theorem dX5_glassOf_17 : decode cX5_glassOf 17 = .ok (.iload_n 1, 1) := dk_27 (dk_at dksX5_glassOf_0 17 rfl rfl)
theorem dX5_glassOf_18 : decode cX5_glassOf 18 = .ok (.if_icmp .eq 19, 3) := dk_159 0 19 (dk_at dksX5_glassOf_0 18 rfl rfl)
theorem dX5_glassOf_21 : decode cX5_glassOf 21 = .ok (.aload_n 0, 1) := dk_42 (dk_at dksX5_glassOf_0 21 rfl rfl)
theorem dX5_glassOf_22 : decode cX5_glassOf 22 = .ok (.iload_n 1, 1) := dk_27 (dk_at dksX5_glassOf_0 22 rfl rfl)
theorem dX5_glassOf_23 : decode cX5_glassOf 23 = .ok (.iload_n 3, 1) := dk_29 (dk_at dksX5_glassOf_0 23 rfl rfl)
theorem dX5_glassOf_24 : decode cX5_glassOf 24 = .ok (.iload_n 3, 1) := dk_29 (dk_at dksX5_glassOf_1 0 rfl rfl)
theorem dX5_glassOf_25 : decode cX5_glassOf 25 = .ok (.invokevirtual 525, 3) := dk_182 2 13 (dk_at dksX5_glassOf_1 1 rfl rfl)
theorem dX5_glassOf_28 : decode cX5_glassOf 28 = .ok (.ifCond .eq 9, 3) := dk_153 0 9 (dk_at dksX5_glassOf_1 4 rfl rfl)
theorem dX5_glassOf_31 : decode cX5_glassOf 31 = .ok (.iconst 1, 1) := dk_4 (dk_at dksX5_glassOf_1 7 rfl rfl)
theorem dX5_glassOf_32 : decode cX5_glassOf 32 = .ok (.iload_n 3, 1) := dk_29 (dk_at dksX5_glassOf_1 8 rfl rfl)
theorem dX5_glassOf_33 : decode cX5_glassOf 33 = .ok (.ishl, 1) := dk_120 (dk_at dksX5_glassOf_1 9 rfl rfl)
theorem dX5_glassOf_34 : decode cX5_glassOf 34 = .ok (.goto 4, 3) := dk_167 0 4 (dk_at dksX5_glassOf_1 10 rfl rfl)
theorem dX5_glassOf_37 : decode cX5_glassOf 37 = .ok (.iconst 0, 1) := dk_3 (dk_at dksX5_glassOf_1 13 rfl rfl)
theorem dX5_glassOf_38 : decode cX5_glassOf 38 = .ok (.ior, 1) := dk_128 (dk_at dksX5_glassOf_1 14 rfl rfl)
theorem dX5_glassOf_39 : decode cX5_glassOf 39 = .ok (.istore_n 2, 1) := dk_61 (dk_at dksX5_glassOf_1 15 rfl rfl)
theorem dX5_glassOf_40 : decode cX5_glassOf 40 = .ok (.iinc 3 1, 3) := dk_132 3 1 (dk_at dksX5_glassOf_1 16 rfl rfl)
theorem dX5_glassOf_43 : decode cX5_glassOf 43 = .ok (.goto (-39), 3) := dk_167 255 217 (dk_at dksX5_glassOf_1 19 rfl rfl)
theorem dX5_glassOf_46 : decode cX5_glassOf 46 = .ok (.iload_n 2, 1) := dk_28 (dk_at dksX5_glassOf_1 22 rfl rfl)
theorem dX5_glassOf_47 : decode cX5_glassOf 47 = .ok (.ireturn, 1) := dk_172 (dk_at dksX5_glassOf_1 23 rfl rfl)
abbrev cX5_isKept : ByteArray := prog_15_method_101_code
def yX5_isKept : MethodName := ⟨RX5, "isKept", "(III)Z"⟩
def dkwX5_isKept_2 : List UInt8 := [132, 4, 1, 167, 255, 209, 4, 172]
abbrev dktX5_isKept_2 : List UInt8 := dkwX5_isKept_2 ++ []
def dkwX5_isKept_1 : List UInt8 := [182, 1, 152, 154, 0, 20, 42, 27, 29, 42, 21, 4, 182, 1, 149, 182, 1, 152, 154, 0, 5, 3, 172]
abbrev dktX5_isKept_1 : List UInt8 := dkwX5_isKept_1 ++ dktX5_isKept_2
def dkwX5_isKept_0 : List UInt8 := [3, 54, 4, 21, 4, 42, 180, 1, 124, 180, 1, 17, 162, 0, 41, 42, 27, 28, 42, 21, 4, 182, 1, 149]
abbrev dktX5_isKept_0 : List UInt8 := dkwX5_isKept_0 ++ dktX5_isKept_1
theorem dksX5_isKept_0 : cX5_isKept.data.toList.drop 0 = dktX5_isKept_0 := by decide +kernel
theorem dksX5_isKept_1 : cX5_isKept.data.toList.drop 24 = dktX5_isKept_1 := dk_seg dksX5_isKept_0 24 rfl rfl
theorem dksX5_isKept_2 : cX5_isKept.data.toList.drop 47 = dktX5_isKept_2 := dk_seg dksX5_isKept_1 23 rfl rfl
theorem dX5_isKept_0 : decode cX5_isKept 0 = .ok (.iconst 0, 1) := dk_3 (dk_at dksX5_isKept_0 0 rfl rfl)
theorem dX5_isKept_1 : decode cX5_isKept 1 = .ok (.istore 4, 2) := dk_54 4 (dk_at dksX5_isKept_0 1 rfl rfl)
theorem dX5_isKept_3 : decode cX5_isKept 3 = .ok (.iload 4, 2) := dk_21 4 (dk_at dksX5_isKept_0 3 rfl rfl)
theorem dX5_isKept_5 : decode cX5_isKept 5 = .ok (.aload_n 0, 1) := dk_42 (dk_at dksX5_isKept_0 5 rfl rfl)
theorem dX5_isKept_6 : decode cX5_isKept 6 = .ok (.getfield 380, 3) := dk_180 1 124 (dk_at dksX5_isKept_0 6 rfl rfl)
theorem dX5_isKept_9 : decode cX5_isKept 9 = .ok (.getfield 273, 3) := dk_180 1 17 (dk_at dksX5_isKept_0 9 rfl rfl)
theorem dX5_isKept_12 : decode cX5_isKept 12 = .ok (.if_icmp .ge 41, 3) := dk_162 0 41 (dk_at dksX5_isKept_0 12 rfl rfl)
theorem dX5_isKept_15 : decode cX5_isKept 15 = .ok (.aload_n 0, 1) := dk_42 (dk_at dksX5_isKept_0 15 rfl rfl)
theorem dX5_isKept_16 : decode cX5_isKept 16 = .ok (.iload_n 1, 1) := dk_27 (dk_at dksX5_isKept_0 16 rfl rfl)
theorem dX5_isKept_17 : decode cX5_isKept 17 = .ok (.iload_n 2, 1) := dk_28 (dk_at dksX5_isKept_0 17 rfl rfl)
theorem dX5_isKept_18 : decode cX5_isKept 18 = .ok (.aload_n 0, 1) := dk_42 (dk_at dksX5_isKept_0 18 rfl rfl)
theorem dX5_isKept_19 : decode cX5_isKept 19 = .ok (.iload 4, 2) := dk_21 4 (dk_at dksX5_isKept_0 19 rfl rfl)
theorem dX5_isKept_21 : decode cX5_isKept 21 = .ok (.invokevirtual 405, 3) := dk_182 1 149 (dk_at dksX5_isKept_0 21 rfl rfl)
theorem dX5_isKept_24 : decode cX5_isKept 24 = .ok (.invokevirtual 408, 3) := dk_182 1 152 (dk_at dksX5_isKept_1 0 rfl rfl)
theorem dX5_isKept_27 : decode cX5_isKept 27 = .ok (.ifCond .ne 20, 3) := dk_154 0 20 (dk_at dksX5_isKept_1 3 rfl rfl)
theorem dX5_isKept_30 : decode cX5_isKept 30 = .ok (.aload_n 0, 1) := dk_42 (dk_at dksX5_isKept_1 6 rfl rfl)
theorem dX5_isKept_31 : decode cX5_isKept 31 = .ok (.iload_n 1, 1) := dk_27 (dk_at dksX5_isKept_1 7 rfl rfl)
theorem dX5_isKept_32 : decode cX5_isKept 32 = .ok (.iload_n 3, 1) := dk_29 (dk_at dksX5_isKept_1 8 rfl rfl)
theorem dX5_isKept_33 : decode cX5_isKept 33 = .ok (.aload_n 0, 1) := dk_42 (dk_at dksX5_isKept_1 9 rfl rfl)
theorem dX5_isKept_34 : decode cX5_isKept 34 = .ok (.iload 4, 2) := dk_21 4 (dk_at dksX5_isKept_1 10 rfl rfl)
theorem dX5_isKept_36 : decode cX5_isKept 36 = .ok (.invokevirtual 405, 3) := dk_182 1 149 (dk_at dksX5_isKept_1 12 rfl rfl)
theorem dX5_isKept_39 : decode cX5_isKept 39 = .ok (.invokevirtual 408, 3) := dk_182 1 152 (dk_at dksX5_isKept_1 15 rfl rfl)
theorem dX5_isKept_42 : decode cX5_isKept 42 = .ok (.ifCond .ne 5, 3) := dk_154 0 5 (dk_at dksX5_isKept_1 18 rfl rfl)
theorem dX5_isKept_45 : decode cX5_isKept 45 = .ok (.iconst 0, 1) := dk_3 (dk_at dksX5_isKept_1 21 rfl rfl)
theorem dX5_isKept_46 : decode cX5_isKept 46 = .ok (.ireturn, 1) := dk_172 (dk_at dksX5_isKept_1 22 rfl rfl)
theorem dX5_isKept_47 : decode cX5_isKept 47 = .ok (.iinc 4 1, 3) := dk_132 4 1 (dk_at dksX5_isKept_2 0 rfl rfl)
theorem dX5_isKept_50 : decode cX5_isKept 50 = .ok (.goto (-47), 3) := dk_167 255 209 (dk_at dksX5_isKept_2 3 rfl rfl)
theorem dX5_isKept_53 : decode cX5_isKept 53 = .ok (.iconst 1, 1) := dk_4 (dk_at dksX5_isKept_2 6 rfl rfl)
theorem dX5_isKept_54 : decode cX5_isKept 54 = .ok (.ireturn, 1) := dk_172 (dk_at dksX5_isKept_2 7 rfl rfl)
abbrev cX5_glass : ByteArray := prog_15_method_104_code
def yX5_glass : MethodName := ⟨RX5, "glass", "(I)I"⟩
def dkwX5_glass_1 : List UInt8 := [167, 0, 8, 42, 4, 182, 0, 62, 172]
abbrev dktX5_glass_1 : List UInt8 := dkwX5_glass_1 ++ []
def dkwX5_glass_0 : List UInt8 := [42, 3, 181, 0, 56, 42, 27, 182, 1, 158, 153, 0, 16, 42, 42, 27, 182, 2, 16, 3, 182, 0, 66]
abbrev dktX5_glass_0 : List UInt8 := dkwX5_glass_0 ++ dktX5_glass_1
theorem dksX5_glass_0 : cX5_glass.data.toList.drop 0 = dktX5_glass_0 := by decide +kernel
theorem dksX5_glass_1 : cX5_glass.data.toList.drop 23 = dktX5_glass_1 := dk_seg dksX5_glass_0 23 rfl rfl
theorem dX5_glass_0 : decode cX5_glass 0 = .ok (.aload_n 0, 1) := dk_42 (dk_at dksX5_glass_0 0 rfl rfl)
theorem dX5_glass_1 : decode cX5_glass 1 = .ok (.iconst 0, 1) := dk_3 (dk_at dksX5_glass_0 1 rfl rfl)
theorem dX5_glass_2 : decode cX5_glass 2 = .ok (.putfield 56, 3) := dk_181 0 56 (dk_at dksX5_glass_0 2 rfl rfl)
theorem dX5_glass_5 : decode cX5_glass 5 = .ok (.aload_n 0, 1) := dk_42 (dk_at dksX5_glass_0 5 rfl rfl)
theorem dX5_glass_6 : decode cX5_glass 6 = .ok (.iload_n 1, 1) := dk_27 (dk_at dksX5_glass_0 6 rfl rfl)
theorem dX5_glass_7 : decode cX5_glass 7 = .ok (.invokevirtual 414, 3) := dk_182 1 158 (dk_at dksX5_glass_0 7 rfl rfl)
theorem dX5_glass_10 : decode cX5_glass 10 = .ok (.ifCond .eq 16, 3) := dk_153 0 16 (dk_at dksX5_glass_0 10 rfl rfl)
theorem dX5_glass_13 : decode cX5_glass 13 = .ok (.aload_n 0, 1) := dk_42 (dk_at dksX5_glass_0 13 rfl rfl)
theorem dX5_glass_14 : decode cX5_glass 14 = .ok (.aload_n 0, 1) := dk_42 (dk_at dksX5_glass_0 14 rfl rfl)
theorem dX5_glass_15 : decode cX5_glass 15 = .ok (.iload_n 1, 1) := dk_27 (dk_at dksX5_glass_0 15 rfl rfl)
theorem dX5_glass_16 : decode cX5_glass 16 = .ok (.invokevirtual 528, 3) := dk_182 2 16 (dk_at dksX5_glass_0 16 rfl rfl)
theorem dX5_glass_19 : decode cX5_glass 19 = .ok (.iconst 0, 1) := dk_3 (dk_at dksX5_glass_0 19 rfl rfl)
theorem dX5_glass_20 : decode cX5_glass 20 = .ok (.invokevirtual 66, 3) := dk_182 0 66 (dk_at dksX5_glass_0 20 rfl rfl)
theorem dX5_glass_23 : decode cX5_glass 23 = .ok (.goto 8, 3) := dk_167 0 8 (dk_at dksX5_glass_1 0 rfl rfl)
theorem dX5_glass_26 : decode cX5_glass 26 = .ok (.aload_n 0, 1) := dk_42 (dk_at dksX5_glass_1 3 rfl rfl)
theorem dX5_glass_27 : decode cX5_glass 27 = .ok (.iconst 1, 1) := dk_4 (dk_at dksX5_glass_1 4 rfl rfl)
theorem dX5_glass_28 : decode cX5_glass 28 = .ok (.invokevirtual 62, 3) := dk_182 0 62 (dk_at dksX5_glass_1 5 rfl rfl)
theorem dX5_glass_31 : decode cX5_glass 31 = .ok (.ireturn, 1) := dk_172 (dk_at dksX5_glass_1 8 rfl rfl)
abbrev cX5_pairs : ByteArray := prog_15_method_108_code
def yX5_pairs : MethodName := ⟨RX5, "pairs", "(I)I"⟩
def dkwX5_pairs_1 : List UInt8 := [42, 27, 182, 2, 19, 3, 182, 0, 66, 172]
abbrev dktX5_pairs_1 : List UInt8 := dkwX5_pairs_1 ++ []
def dkwX5_pairs_0 : List UInt8 := [42, 3, 181, 0, 56, 42, 27, 182, 1, 164, 61, 28, 158, 0, 11, 42, 28, 182, 0, 62, 167, 0, 13, 42]
abbrev dktX5_pairs_0 : List UInt8 := dkwX5_pairs_0 ++ dktX5_pairs_1
theorem dksX5_pairs_0 : cX5_pairs.data.toList.drop 0 = dktX5_pairs_0 := by decide +kernel
theorem dksX5_pairs_1 : cX5_pairs.data.toList.drop 24 = dktX5_pairs_1 := dk_seg dksX5_pairs_0 24 rfl rfl
theorem dX5_pairs_0 : decode cX5_pairs 0 = .ok (.aload_n 0, 1) := dk_42 (dk_at dksX5_pairs_0 0 rfl rfl)
theorem dX5_pairs_1 : decode cX5_pairs 1 = .ok (.iconst 0, 1) := dk_3 (dk_at dksX5_pairs_0 1 rfl rfl)
theorem dX5_pairs_2 : decode cX5_pairs 2 = .ok (.putfield 56, 3) := dk_181 0 56 (dk_at dksX5_pairs_0 2 rfl rfl)
theorem dX5_pairs_5 : decode cX5_pairs 5 = .ok (.aload_n 0, 1) := dk_42 (dk_at dksX5_pairs_0 5 rfl rfl)
theorem dX5_pairs_6 : decode cX5_pairs 6 = .ok (.iload_n 1, 1) := dk_27 (dk_at dksX5_pairs_0 6 rfl rfl)
theorem dX5_pairs_7 : decode cX5_pairs 7 = .ok (.invokevirtual 420, 3) := dk_182 1 164 (dk_at dksX5_pairs_0 7 rfl rfl)
theorem dX5_pairs_10 : decode cX5_pairs 10 = .ok (.istore_n 2, 1) := dk_61 (dk_at dksX5_pairs_0 10 rfl rfl)
theorem dX5_pairs_11 : decode cX5_pairs 11 = .ok (.iload_n 2, 1) := dk_28 (dk_at dksX5_pairs_0 11 rfl rfl)
theorem dX5_pairs_12 : decode cX5_pairs 12 = .ok (.ifCond .le 11, 3) := dk_158 0 11 (dk_at dksX5_pairs_0 12 rfl rfl)
theorem dX5_pairs_15 : decode cX5_pairs 15 = .ok (.aload_n 0, 1) := dk_42 (dk_at dksX5_pairs_0 15 rfl rfl)
theorem dX5_pairs_16 : decode cX5_pairs 16 = .ok (.iload_n 2, 1) := dk_28 (dk_at dksX5_pairs_0 16 rfl rfl)
theorem dX5_pairs_17 : decode cX5_pairs 17 = .ok (.invokevirtual 62, 3) := dk_182 0 62 (dk_at dksX5_pairs_0 17 rfl rfl)
theorem dX5_pairs_20 : decode cX5_pairs 20 = .ok (.goto 13, 3) := dk_167 0 13 (dk_at dksX5_pairs_0 20 rfl rfl)
theorem dX5_pairs_23 : decode cX5_pairs 23 = .ok (.aload_n 0, 1) := dk_42 (dk_at dksX5_pairs_0 23 rfl rfl)
theorem dX5_pairs_24 : decode cX5_pairs 24 = .ok (.aload_n 0, 1) := dk_42 (dk_at dksX5_pairs_1 0 rfl rfl)
theorem dX5_pairs_25 : decode cX5_pairs 25 = .ok (.iload_n 1, 1) := dk_27 (dk_at dksX5_pairs_1 1 rfl rfl)
theorem dX5_pairs_26 : decode cX5_pairs 26 = .ok (.invokevirtual 531, 3) := dk_182 2 19 (dk_at dksX5_pairs_1 2 rfl rfl)
theorem dX5_pairs_29 : decode cX5_pairs 29 = .ok (.iconst 0, 1) := dk_3 (dk_at dksX5_pairs_1 5 rfl rfl)
theorem dX5_pairs_30 : decode cX5_pairs 30 = .ok (.invokevirtual 66, 3) := dk_182 0 66 (dk_at dksX5_pairs_1 6 rfl rfl)
theorem dX5_pairs_33 : decode cX5_pairs 33 = .ok (.ireturn, 1) := dk_172 (dk_at dksX5_pairs_1 9 rfl rfl)
abbrev cX5_pairsIn : ByteArray := prog_15_method_105_code
def yX5_pairsIn : MethodName := ⟨RX5, "pairsIn", "(I)I"⟩
def dkwX5_pairsIn_1 : List UInt8 := [184, 1, 205, 4, 100, 96, 61, 132, 3, 1, 167, 255, 228, 28, 5, 108, 172]
abbrev dktX5_pairsIn_1 : List UInt8 := dkwX5_pairsIn_1 ++ []
def dkwX5_pairsIn_0 : List UInt8 := [3, 61, 3, 62, 29, 42, 180, 1, 124, 180, 0, 218, 162, 0, 23, 28, 42, 29, 27, 182, 1, 161]
abbrev dktX5_pairsIn_0 : List UInt8 := dkwX5_pairsIn_0 ++ dktX5_pairsIn_1
theorem dksX5_pairsIn_0 : cX5_pairsIn.data.toList.drop 0 = dktX5_pairsIn_0 := by decide +kernel
theorem dksX5_pairsIn_1 : cX5_pairsIn.data.toList.drop 22 = dktX5_pairsIn_1 := dk_seg dksX5_pairsIn_0 22 rfl rfl
theorem dX5_pairsIn_0 : decode cX5_pairsIn 0 = .ok (.iconst 0, 1) := dk_3 (dk_at dksX5_pairsIn_0 0 rfl rfl)
theorem dX5_pairsIn_1 : decode cX5_pairsIn 1 = .ok (.istore_n 2, 1) := dk_61 (dk_at dksX5_pairsIn_0 1 rfl rfl)
theorem dX5_pairsIn_2 : decode cX5_pairsIn 2 = .ok (.iconst 0, 1) := dk_3 (dk_at dksX5_pairsIn_0 2 rfl rfl)
theorem dX5_pairsIn_3 : decode cX5_pairsIn 3 = .ok (.istore_n 3, 1) := dk_62 (dk_at dksX5_pairsIn_0 3 rfl rfl)
theorem dX5_pairsIn_4 : decode cX5_pairsIn 4 = .ok (.iload_n 3, 1) := dk_29 (dk_at dksX5_pairsIn_0 4 rfl rfl)
theorem dX5_pairsIn_5 : decode cX5_pairsIn 5 = .ok (.aload_n 0, 1) := dk_42 (dk_at dksX5_pairsIn_0 5 rfl rfl)
theorem dX5_pairsIn_6 : decode cX5_pairsIn 6 = .ok (.getfield 380, 3) := dk_180 1 124 (dk_at dksX5_pairsIn_0 6 rfl rfl)
theorem dX5_pairsIn_9 : decode cX5_pairsIn 9 = .ok (.getfield 218, 3) := dk_180 0 218 (dk_at dksX5_pairsIn_0 9 rfl rfl)
theorem dX5_pairsIn_12 : decode cX5_pairsIn 12 = .ok (.if_icmp .ge 23, 3) := dk_162 0 23 (dk_at dksX5_pairsIn_0 12 rfl rfl)
theorem dX5_pairsIn_15 : decode cX5_pairsIn 15 = .ok (.iload_n 2, 1) := dk_28 (dk_at dksX5_pairsIn_0 15 rfl rfl)
theorem dX5_pairsIn_16 : decode cX5_pairsIn 16 = .ok (.aload_n 0, 1) := dk_42 (dk_at dksX5_pairsIn_0 16 rfl rfl)
theorem dX5_pairsIn_17 : decode cX5_pairsIn 17 = .ok (.iload_n 3, 1) := dk_29 (dk_at dksX5_pairsIn_0 17 rfl rfl)
theorem dX5_pairsIn_18 : decode cX5_pairsIn 18 = .ok (.iload_n 1, 1) := dk_27 (dk_at dksX5_pairsIn_0 18 rfl rfl)
theorem dX5_pairsIn_19 : decode cX5_pairsIn 19 = .ok (.invokevirtual 417, 3) := dk_182 1 161 (dk_at dksX5_pairsIn_0 19 rfl rfl)
theorem dX5_pairsIn_22 : decode cX5_pairsIn 22 = .ok (.invokestatic 461, 3) := dk_184 1 205 (dk_at dksX5_pairsIn_1 0 rfl rfl)
theorem dX5_pairsIn_25 : decode cX5_pairsIn 25 = .ok (.iconst 1, 1) := dk_4 (dk_at dksX5_pairsIn_1 3 rfl rfl)
theorem dX5_pairsIn_26 : decode cX5_pairsIn 26 = .ok (.isub, 1) := dk_100 (dk_at dksX5_pairsIn_1 4 rfl rfl)
theorem dX5_pairsIn_27 : decode cX5_pairsIn 27 = .ok (.iadd, 1) := dk_96 (dk_at dksX5_pairsIn_1 5 rfl rfl)
theorem dX5_pairsIn_28 : decode cX5_pairsIn 28 = .ok (.istore_n 2, 1) := dk_61 (dk_at dksX5_pairsIn_1 6 rfl rfl)
theorem dX5_pairsIn_29 : decode cX5_pairsIn 29 = .ok (.iinc 3 1, 3) := dk_132 3 1 (dk_at dksX5_pairsIn_1 7 rfl rfl)
theorem dX5_pairsIn_32 : decode cX5_pairsIn 32 = .ok (.goto (-28), 3) := dk_167 255 228 (dk_at dksX5_pairsIn_1 10 rfl rfl)
theorem dX5_pairsIn_35 : decode cX5_pairsIn 35 = .ok (.iload_n 2, 1) := dk_28 (dk_at dksX5_pairsIn_1 13 rfl rfl)
theorem dX5_pairsIn_36 : decode cX5_pairsIn 36 = .ok (.iconst 2, 1) := dk_5 (dk_at dksX5_pairsIn_1 14 rfl rfl)
theorem dX5_pairsIn_37 : decode cX5_pairsIn 37 = .ok (.idiv, 1) := dk_108 (dk_at dksX5_pairsIn_1 15 rfl rfl)
theorem dX5_pairsIn_38 : decode cX5_pairsIn 38 = .ok (.ireturn, 1) := dk_172 (dk_at dksX5_pairsIn_1 16 rfl rfl)
abbrev cX5_window : ByteArray := prog_15_method_110_code
def yX5_window : MethodName := ⟨RX5, "window", "(I)I"⟩
def dkwX5_window_1 : List UInt8 := [42, 27, 182, 2, 28, 3, 182, 0, 66, 172]
abbrev dktX5_window_1 : List UInt8 := dkwX5_window_1 ++ []
def dkwX5_window_0 : List UInt8 := [42, 3, 181, 0, 56, 42, 27, 182, 2, 25, 61, 28, 158, 0, 11, 42, 28, 182, 0, 62, 167, 0, 13, 42]
abbrev dktX5_window_0 : List UInt8 := dkwX5_window_0 ++ dktX5_window_1
theorem dksX5_window_0 : cX5_window.data.toList.drop 0 = dktX5_window_0 := by decide +kernel
theorem dksX5_window_1 : cX5_window.data.toList.drop 24 = dktX5_window_1 := dk_seg dksX5_window_0 24 rfl rfl
theorem dX5_window_0 : decode cX5_window 0 = .ok (.aload_n 0, 1) := dk_42 (dk_at dksX5_window_0 0 rfl rfl)
theorem dX5_window_1 : decode cX5_window 1 = .ok (.iconst 0, 1) := dk_3 (dk_at dksX5_window_0 1 rfl rfl)
theorem dX5_window_2 : decode cX5_window 2 = .ok (.putfield 56, 3) := dk_181 0 56 (dk_at dksX5_window_0 2 rfl rfl)
theorem dX5_window_5 : decode cX5_window 5 = .ok (.aload_n 0, 1) := dk_42 (dk_at dksX5_window_0 5 rfl rfl)
theorem dX5_window_6 : decode cX5_window 6 = .ok (.iload_n 1, 1) := dk_27 (dk_at dksX5_window_0 6 rfl rfl)
theorem dX5_window_7 : decode cX5_window 7 = .ok (.invokevirtual 537, 3) := dk_182 2 25 (dk_at dksX5_window_0 7 rfl rfl)
theorem dX5_window_10 : decode cX5_window 10 = .ok (.istore_n 2, 1) := dk_61 (dk_at dksX5_window_0 10 rfl rfl)
theorem dX5_window_11 : decode cX5_window 11 = .ok (.iload_n 2, 1) := dk_28 (dk_at dksX5_window_0 11 rfl rfl)
theorem dX5_window_12 : decode cX5_window 12 = .ok (.ifCond .le 11, 3) := dk_158 0 11 (dk_at dksX5_window_0 12 rfl rfl)
theorem dX5_window_15 : decode cX5_window 15 = .ok (.aload_n 0, 1) := dk_42 (dk_at dksX5_window_0 15 rfl rfl)
theorem dX5_window_16 : decode cX5_window 16 = .ok (.iload_n 2, 1) := dk_28 (dk_at dksX5_window_0 16 rfl rfl)
theorem dX5_window_17 : decode cX5_window 17 = .ok (.invokevirtual 62, 3) := dk_182 0 62 (dk_at dksX5_window_0 17 rfl rfl)
theorem dX5_window_20 : decode cX5_window 20 = .ok (.goto 13, 3) := dk_167 0 13 (dk_at dksX5_window_0 20 rfl rfl)
theorem dX5_window_23 : decode cX5_window 23 = .ok (.aload_n 0, 1) := dk_42 (dk_at dksX5_window_0 23 rfl rfl)
theorem dX5_window_24 : decode cX5_window 24 = .ok (.aload_n 0, 1) := dk_42 (dk_at dksX5_window_1 0 rfl rfl)
theorem dX5_window_25 : decode cX5_window 25 = .ok (.iload_n 1, 1) := dk_27 (dk_at dksX5_window_1 1 rfl rfl)
theorem dX5_window_26 : decode cX5_window 26 = .ok (.invokevirtual 540, 3) := dk_182 2 28 (dk_at dksX5_window_1 2 rfl rfl)
theorem dX5_window_29 : decode cX5_window 29 = .ok (.iconst 0, 1) := dk_3 (dk_at dksX5_window_1 5 rfl rfl)
theorem dX5_window_30 : decode cX5_window 30 = .ok (.invokevirtual 66, 3) := dk_182 0 66 (dk_at dksX5_window_1 6 rfl rfl)
theorem dX5_window_33 : decode cX5_window 33 = .ok (.ireturn, 1) := dk_172 (dk_at dksX5_window_1 9 rfl rfl)
abbrev cX5_refusesWindow : ByteArray := prog_15_method_109_code
def yX5_refusesWindow : MethodName := ⟨RX5, "refusesWindow", "(I)I"⟩
def dkwX5_refusesWindow_1 : List UInt8 := [167, 0, 4, 28, 172]
abbrev dktX5_refusesWindow_1 : List UInt8 := dkwX5_refusesWindow_1 ++ []
def dkwX5_refusesWindow_0 : List UInt8 := [42, 27, 182, 1, 164, 61, 28, 154, 0, 18, 42, 180, 1, 124, 180, 1, 33, 154, 0, 8, 16, 6]
abbrev dktX5_refusesWindow_0 : List UInt8 := dkwX5_refusesWindow_0 ++ dktX5_refusesWindow_1
theorem dksX5_refusesWindow_0 : cX5_refusesWindow.data.toList.drop 0 = dktX5_refusesWindow_0 := by decide +kernel
theorem dksX5_refusesWindow_1 : cX5_refusesWindow.data.toList.drop 22 = dktX5_refusesWindow_1 := dk_seg dksX5_refusesWindow_0 22 rfl rfl
theorem dX5_refusesWindow_0 : decode cX5_refusesWindow 0 = .ok (.aload_n 0, 1) := dk_42 (dk_at dksX5_refusesWindow_0 0 rfl rfl)
theorem dX5_refusesWindow_1 : decode cX5_refusesWindow 1 = .ok (.iload_n 1, 1) := dk_27 (dk_at dksX5_refusesWindow_0 1 rfl rfl)
theorem dX5_refusesWindow_2 : decode cX5_refusesWindow 2 = .ok (.invokevirtual 420, 3) := dk_182 1 164 (dk_at dksX5_refusesWindow_0 2 rfl rfl)
theorem dX5_refusesWindow_5 : decode cX5_refusesWindow 5 = .ok (.istore_n 2, 1) := dk_61 (dk_at dksX5_refusesWindow_0 5 rfl rfl)
theorem dX5_refusesWindow_6 : decode cX5_refusesWindow 6 = .ok (.iload_n 2, 1) := dk_28 (dk_at dksX5_refusesWindow_0 6 rfl rfl)
theorem dX5_refusesWindow_7 : decode cX5_refusesWindow 7 = .ok (.ifCond .ne 18, 3) := dk_154 0 18 (dk_at dksX5_refusesWindow_0 7 rfl rfl)
theorem dX5_refusesWindow_10 : decode cX5_refusesWindow 10 = .ok (.aload_n 0, 1) := dk_42 (dk_at dksX5_refusesWindow_0 10 rfl rfl)
theorem dX5_refusesWindow_11 : decode cX5_refusesWindow 11 = .ok (.getfield 380, 3) := dk_180 1 124 (dk_at dksX5_refusesWindow_0 11 rfl rfl)
theorem dX5_refusesWindow_14 : decode cX5_refusesWindow 14 = .ok (.getfield 289, 3) := dk_180 1 33 (dk_at dksX5_refusesWindow_0 14 rfl rfl)
theorem dX5_refusesWindow_17 : decode cX5_refusesWindow 17 = .ok (.ifCond .ne 8, 3) := dk_154 0 8 (dk_at dksX5_refusesWindow_0 17 rfl rfl)
theorem dX5_refusesWindow_20 : decode cX5_refusesWindow 20 = .ok (.bipush 6, 2) := dk_16 6 (dk_at dksX5_refusesWindow_0 20 rfl rfl)
theorem dX5_refusesWindow_22 : decode cX5_refusesWindow 22 = .ok (.goto 4, 3) := dk_167 0 4 (dk_at dksX5_refusesWindow_1 0 rfl rfl)
theorem dX5_refusesWindow_25 : decode cX5_refusesWindow 25 = .ok (.iload_n 2, 1) := dk_28 (dk_at dksX5_refusesWindow_1 3 rfl rfl)
theorem dX5_refusesWindow_26 : decode cX5_refusesWindow 26 = .ok (.ireturn, 1) := dk_172 (dk_at dksX5_refusesWindow_1 4 rfl rfl)
abbrev cX5_windowIn : ByteArray := prog_15_method_107_code
def yX5_windowIn : MethodName := ⟨RX5, "windowIn", "(I)I"⟩
def dkwX5_windowIn_1 : List UInt8 := [182, 2, 22, 164, 0, 5, 29, 61, 132, 3, 1, 167, 255, 225, 28, 172]
abbrev dktX5_windowIn_1 : List UInt8 := dkwX5_windowIn_1 ++ []
def dkwX5_windowIn_0 : List UInt8 := [3, 61, 4, 62, 29, 42, 180, 1, 124, 180, 1, 33, 162, 0, 26, 42, 29, 27, 182, 2, 22, 42, 28, 27]
abbrev dktX5_windowIn_0 : List UInt8 := dkwX5_windowIn_0 ++ dktX5_windowIn_1
theorem dksX5_windowIn_0 : cX5_windowIn.data.toList.drop 0 = dktX5_windowIn_0 := by decide +kernel
theorem dksX5_windowIn_1 : cX5_windowIn.data.toList.drop 24 = dktX5_windowIn_1 := dk_seg dksX5_windowIn_0 24 rfl rfl
theorem dX5_windowIn_0 : decode cX5_windowIn 0 = .ok (.iconst 0, 1) := dk_3 (dk_at dksX5_windowIn_0 0 rfl rfl)
theorem dX5_windowIn_1 : decode cX5_windowIn 1 = .ok (.istore_n 2, 1) := dk_61 (dk_at dksX5_windowIn_0 1 rfl rfl)
theorem dX5_windowIn_2 : decode cX5_windowIn 2 = .ok (.iconst 1, 1) := dk_4 (dk_at dksX5_windowIn_0 2 rfl rfl)
theorem dX5_windowIn_3 : decode cX5_windowIn 3 = .ok (.istore_n 3, 1) := dk_62 (dk_at dksX5_windowIn_0 3 rfl rfl)
theorem dX5_windowIn_4 : decode cX5_windowIn 4 = .ok (.iload_n 3, 1) := dk_29 (dk_at dksX5_windowIn_0 4 rfl rfl)
theorem dX5_windowIn_5 : decode cX5_windowIn 5 = .ok (.aload_n 0, 1) := dk_42 (dk_at dksX5_windowIn_0 5 rfl rfl)
theorem dX5_windowIn_6 : decode cX5_windowIn 6 = .ok (.getfield 380, 3) := dk_180 1 124 (dk_at dksX5_windowIn_0 6 rfl rfl)
theorem dX5_windowIn_9 : decode cX5_windowIn 9 = .ok (.getfield 289, 3) := dk_180 1 33 (dk_at dksX5_windowIn_0 9 rfl rfl)
theorem dX5_windowIn_12 : decode cX5_windowIn 12 = .ok (.if_icmp .ge 26, 3) := dk_162 0 26 (dk_at dksX5_windowIn_0 12 rfl rfl)
theorem dX5_windowIn_15 : decode cX5_windowIn 15 = .ok (.aload_n 0, 1) := dk_42 (dk_at dksX5_windowIn_0 15 rfl rfl)
theorem dX5_windowIn_16 : decode cX5_windowIn 16 = .ok (.iload_n 3, 1) := dk_29 (dk_at dksX5_windowIn_0 16 rfl rfl)
theorem dX5_windowIn_17 : decode cX5_windowIn 17 = .ok (.iload_n 1, 1) := dk_27 (dk_at dksX5_windowIn_0 17 rfl rfl)
theorem dX5_windowIn_18 : decode cX5_windowIn 18 = .ok (.invokevirtual 534, 3) := dk_182 2 22 (dk_at dksX5_windowIn_0 18 rfl rfl)
theorem dX5_windowIn_21 : decode cX5_windowIn 21 = .ok (.aload_n 0, 1) := dk_42 (dk_at dksX5_windowIn_0 21 rfl rfl)
theorem dX5_windowIn_22 : decode cX5_windowIn 22 = .ok (.iload_n 2, 1) := dk_28 (dk_at dksX5_windowIn_0 22 rfl rfl)
theorem dX5_windowIn_23 : decode cX5_windowIn 23 = .ok (.iload_n 1, 1) := dk_27 (dk_at dksX5_windowIn_0 23 rfl rfl)
theorem dX5_windowIn_24 : decode cX5_windowIn 24 = .ok (.invokevirtual 534, 3) := dk_182 2 22 (dk_at dksX5_windowIn_1 0 rfl rfl)
theorem dX5_windowIn_27 : decode cX5_windowIn 27 = .ok (.if_icmp .le 5, 3) := dk_164 0 5 (dk_at dksX5_windowIn_1 3 rfl rfl)
theorem dX5_windowIn_30 : decode cX5_windowIn 30 = .ok (.iload_n 3, 1) := dk_29 (dk_at dksX5_windowIn_1 6 rfl rfl)
theorem dX5_windowIn_31 : decode cX5_windowIn 31 = .ok (.istore_n 2, 1) := dk_61 (dk_at dksX5_windowIn_1 7 rfl rfl)
theorem dX5_windowIn_32 : decode cX5_windowIn 32 = .ok (.iinc 3 1, 3) := dk_132 3 1 (dk_at dksX5_windowIn_1 8 rfl rfl)
theorem dX5_windowIn_35 : decode cX5_windowIn 35 = .ok (.goto (-31), 3) := dk_167 255 225 (dk_at dksX5_windowIn_1 11 rfl rfl)
theorem dX5_windowIn_38 : decode cX5_windowIn 38 = .ok (.iload_n 2, 1) := dk_28 (dk_at dksX5_windowIn_1 14 rfl rfl)
theorem dX5_windowIn_39 : decode cX5_windowIn 39 = .ok (.ireturn, 1) := dk_172 (dk_at dksX5_windowIn_1 15 rfl rfl)
abbrev cX5_pairsWithout : ByteArray := prog_15_method_106_code
def yX5_pairsWithout : MethodName := ⟨RX5, "pairsWithout", "(II)I"⟩
def dkwX5_pairsWithout_0 : List UInt8 := [42, 4, 27, 120, 181, 1, 146, 42, 28, 182, 2, 19, 62, 42, 3, 181, 1, 146, 29, 172]
abbrev dktX5_pairsWithout_0 : List UInt8 := dkwX5_pairsWithout_0 ++ []
theorem dksX5_pairsWithout_0 : cX5_pairsWithout.data.toList.drop 0 = dktX5_pairsWithout_0 := by decide +kernel
theorem dX5_pairsWithout_0 : decode cX5_pairsWithout 0 = .ok (.aload_n 0, 1) := dk_42 (dk_at dksX5_pairsWithout_0 0 rfl rfl)
theorem dX5_pairsWithout_1 : decode cX5_pairsWithout 1 = .ok (.iconst 1, 1) := dk_4 (dk_at dksX5_pairsWithout_0 1 rfl rfl)
theorem dX5_pairsWithout_2 : decode cX5_pairsWithout 2 = .ok (.iload_n 1, 1) := dk_27 (dk_at dksX5_pairsWithout_0 2 rfl rfl)
theorem dX5_pairsWithout_3 : decode cX5_pairsWithout 3 = .ok (.ishl, 1) := dk_120 (dk_at dksX5_pairsWithout_0 3 rfl rfl)
theorem dX5_pairsWithout_4 : decode cX5_pairsWithout 4 = .ok (.putfield 402, 3) := dk_181 1 146 (dk_at dksX5_pairsWithout_0 4 rfl rfl)
theorem dX5_pairsWithout_7 : decode cX5_pairsWithout 7 = .ok (.aload_n 0, 1) := dk_42 (dk_at dksX5_pairsWithout_0 7 rfl rfl)
theorem dX5_pairsWithout_8 : decode cX5_pairsWithout 8 = .ok (.iload_n 2, 1) := dk_28 (dk_at dksX5_pairsWithout_0 8 rfl rfl)
theorem dX5_pairsWithout_9 : decode cX5_pairsWithout 9 = .ok (.invokevirtual 531, 3) := dk_182 2 19 (dk_at dksX5_pairsWithout_0 9 rfl rfl)
theorem dX5_pairsWithout_12 : decode cX5_pairsWithout 12 = .ok (.istore_n 3, 1) := dk_62 (dk_at dksX5_pairsWithout_0 12 rfl rfl)
theorem dX5_pairsWithout_13 : decode cX5_pairsWithout 13 = .ok (.aload_n 0, 1) := dk_42 (dk_at dksX5_pairsWithout_0 13 rfl rfl)
theorem dX5_pairsWithout_14 : decode cX5_pairsWithout 14 = .ok (.iconst 0, 1) := dk_3 (dk_at dksX5_pairsWithout_0 14 rfl rfl)
theorem dX5_pairsWithout_15 : decode cX5_pairsWithout 15 = .ok (.putfield 402, 3) := dk_181 1 146 (dk_at dksX5_pairsWithout_0 15 rfl rfl)
theorem dX5_pairsWithout_18 : decode cX5_pairsWithout 18 = .ok (.iload_n 3, 1) := dk_29 (dk_at dksX5_pairsWithout_0 18 rfl rfl)
theorem dX5_pairsWithout_19 : decode cX5_pairsWithout 19 = .ok (.ireturn, 1) := dk_172 (dk_at dksX5_pairsWithout_0 19 rfl rfl)
abbrev cX5_frees : ByteArray := prog_15_method_111_code
def yX5_frees : MethodName := ⟨RX5, "frees", "(I)I"⟩
def dkwX5_frees_1 : List UInt8 := [42, 42, 27, 182, 2, 28, 27, 182, 2, 22, 42, 27, 182, 2, 19, 100, 3, 182, 0, 66, 172]
abbrev dktX5_frees_1 : List UInt8 := dkwX5_frees_1 ++ []
def dkwX5_frees_0 : List UInt8 := [42, 3, 181, 0, 56, 42, 27, 182, 2, 25, 61, 28, 158, 0, 11, 42, 28, 182, 0, 62, 167, 0, 24, 42]
abbrev dktX5_frees_0 : List UInt8 := dkwX5_frees_0 ++ dktX5_frees_1
theorem dksX5_frees_0 : cX5_frees.data.toList.drop 0 = dktX5_frees_0 := by decide +kernel
theorem dksX5_frees_1 : cX5_frees.data.toList.drop 24 = dktX5_frees_1 := dk_seg dksX5_frees_0 24 rfl rfl
theorem dX5_frees_0 : decode cX5_frees 0 = .ok (.aload_n 0, 1) := dk_42 (dk_at dksX5_frees_0 0 rfl rfl)
theorem dX5_frees_1 : decode cX5_frees 1 = .ok (.iconst 0, 1) := dk_3 (dk_at dksX5_frees_0 1 rfl rfl)
theorem dX5_frees_2 : decode cX5_frees 2 = .ok (.putfield 56, 3) := dk_181 0 56 (dk_at dksX5_frees_0 2 rfl rfl)
theorem dX5_frees_5 : decode cX5_frees 5 = .ok (.aload_n 0, 1) := dk_42 (dk_at dksX5_frees_0 5 rfl rfl)
theorem dX5_frees_6 : decode cX5_frees 6 = .ok (.iload_n 1, 1) := dk_27 (dk_at dksX5_frees_0 6 rfl rfl)
theorem dX5_frees_7 : decode cX5_frees 7 = .ok (.invokevirtual 537, 3) := dk_182 2 25 (dk_at dksX5_frees_0 7 rfl rfl)
theorem dX5_frees_10 : decode cX5_frees 10 = .ok (.istore_n 2, 1) := dk_61 (dk_at dksX5_frees_0 10 rfl rfl)
theorem dX5_frees_11 : decode cX5_frees 11 = .ok (.iload_n 2, 1) := dk_28 (dk_at dksX5_frees_0 11 rfl rfl)
theorem dX5_frees_12 : decode cX5_frees 12 = .ok (.ifCond .le 11, 3) := dk_158 0 11 (dk_at dksX5_frees_0 12 rfl rfl)
theorem dX5_frees_15 : decode cX5_frees 15 = .ok (.aload_n 0, 1) := dk_42 (dk_at dksX5_frees_0 15 rfl rfl)
theorem dX5_frees_16 : decode cX5_frees 16 = .ok (.iload_n 2, 1) := dk_28 (dk_at dksX5_frees_0 16 rfl rfl)
theorem dX5_frees_17 : decode cX5_frees 17 = .ok (.invokevirtual 62, 3) := dk_182 0 62 (dk_at dksX5_frees_0 17 rfl rfl)
theorem dX5_frees_20 : decode cX5_frees 20 = .ok (.goto 24, 3) := dk_167 0 24 (dk_at dksX5_frees_0 20 rfl rfl)
theorem dX5_frees_23 : decode cX5_frees 23 = .ok (.aload_n 0, 1) := dk_42 (dk_at dksX5_frees_0 23 rfl rfl)
theorem dX5_frees_24 : decode cX5_frees 24 = .ok (.aload_n 0, 1) := dk_42 (dk_at dksX5_frees_1 0 rfl rfl)
theorem dX5_frees_25 : decode cX5_frees 25 = .ok (.aload_n 0, 1) := dk_42 (dk_at dksX5_frees_1 1 rfl rfl)
theorem dX5_frees_26 : decode cX5_frees 26 = .ok (.iload_n 1, 1) := dk_27 (dk_at dksX5_frees_1 2 rfl rfl)
theorem dX5_frees_27 : decode cX5_frees 27 = .ok (.invokevirtual 540, 3) := dk_182 2 28 (dk_at dksX5_frees_1 3 rfl rfl)
theorem dX5_frees_30 : decode cX5_frees 30 = .ok (.iload_n 1, 1) := dk_27 (dk_at dksX5_frees_1 6 rfl rfl)
theorem dX5_frees_31 : decode cX5_frees 31 = .ok (.invokevirtual 534, 3) := dk_182 2 22 (dk_at dksX5_frees_1 7 rfl rfl)
theorem dX5_frees_34 : decode cX5_frees 34 = .ok (.aload_n 0, 1) := dk_42 (dk_at dksX5_frees_1 10 rfl rfl)
theorem dX5_frees_35 : decode cX5_frees 35 = .ok (.iload_n 1, 1) := dk_27 (dk_at dksX5_frees_1 11 rfl rfl)
theorem dX5_frees_36 : decode cX5_frees 36 = .ok (.invokevirtual 531, 3) := dk_182 2 19 (dk_at dksX5_frees_1 12 rfl rfl)
theorem dX5_frees_39 : decode cX5_frees 39 = .ok (.isub, 1) := dk_100 (dk_at dksX5_frees_1 15 rfl rfl)
theorem dX5_frees_40 : decode cX5_frees 40 = .ok (.iconst 0, 1) := dk_3 (dk_at dksX5_frees_1 16 rfl rfl)
theorem dX5_frees_41 : decode cX5_frees 41 = .ok (.invokevirtual 66, 3) := dk_182 0 66 (dk_at dksX5_frees_1 17 rfl rfl)
theorem dX5_frees_44 : decode cX5_frees 44 = .ok (.ireturn, 1) := dk_172 (dk_at dksX5_frees_1 20 rfl rfl)
abbrev cX5_tower : ByteArray := prog_15_method_113_code
def yX5_tower : MethodName := ⟨RX5, "tower", "(II)I"⟩
def dkwX5_tower_4 : List UInt8 := [167, 255, 210, 42, 29, 3, 182, 0, 66, 172]
abbrev dktX5_tower_4 : List UInt8 := dkwX5_tower_4 ++ []
def dkwX5_tower_3 : List UInt8 := [182, 2, 31, 42, 29, 42, 28, 182, 1, 149, 27, 96, 182, 2, 31, 164, 0, 6, 21, 4, 62, 132, 4, 1]
abbrev dktX5_tower_3 : List UInt8 := dkwX5_tower_3 ++ dktX5_tower_4
def dkwX5_tower_2 : List UInt8 := [21, 4, 42, 180, 1, 124, 180, 0, 218, 162, 0, 40, 42, 21, 4, 42, 28, 182, 1, 149, 27, 96]
abbrev dktX5_tower_2 : List UInt8 := dkwX5_tower_2 ++ dktX5_tower_3
def dkwX5_tower_1 : List UInt8 := [184, 0, 135, 153, 0, 10, 28, 184, 1, 155, 154, 0, 9, 42, 5, 182, 0, 62, 172, 3, 62, 4, 54, 4]
abbrev dktX5_tower_1 : List UInt8 := dkwX5_tower_1 ++ dktX5_tower_2
def dkwX5_tower_0 : List UInt8 := [42, 3, 181, 0, 56, 42, 180, 1, 124, 199, 0, 9, 42, 4, 182, 0, 62, 172, 27, 3, 16, 19]
abbrev dktX5_tower_0 : List UInt8 := dkwX5_tower_0 ++ dktX5_tower_1
theorem dksX5_tower_0 : cX5_tower.data.toList.drop 0 = dktX5_tower_0 := by decide +kernel
theorem dksX5_tower_1 : cX5_tower.data.toList.drop 22 = dktX5_tower_1 := dk_seg dksX5_tower_0 22 rfl rfl
theorem dksX5_tower_2 : cX5_tower.data.toList.drop 46 = dktX5_tower_2 := dk_seg dksX5_tower_1 24 rfl rfl
theorem dksX5_tower_3 : cX5_tower.data.toList.drop 68 = dktX5_tower_3 := dk_seg dksX5_tower_2 22 rfl rfl
theorem dksX5_tower_4 : cX5_tower.data.toList.drop 92 = dktX5_tower_4 := dk_seg dksX5_tower_3 24 rfl rfl
theorem dX5_tower_0 : decode cX5_tower 0 = .ok (.aload_n 0, 1) := dk_42 (dk_at dksX5_tower_0 0 rfl rfl)
theorem dX5_tower_1 : decode cX5_tower 1 = .ok (.iconst 0, 1) := dk_3 (dk_at dksX5_tower_0 1 rfl rfl)
theorem dX5_tower_2 : decode cX5_tower 2 = .ok (.putfield 56, 3) := dk_181 0 56 (dk_at dksX5_tower_0 2 rfl rfl)
theorem dX5_tower_5 : decode cX5_tower 5 = .ok (.aload_n 0, 1) := dk_42 (dk_at dksX5_tower_0 5 rfl rfl)
theorem dX5_tower_6 : decode cX5_tower 6 = .ok (.getfield 380, 3) := dk_180 1 124 (dk_at dksX5_tower_0 6 rfl rfl)
theorem dX5_tower_9 : decode cX5_tower 9 = .ok (.ifnonnull 9, 3) := dk_199 0 9 (dk_at dksX5_tower_0 9 rfl rfl)
theorem dX5_tower_12 : decode cX5_tower 12 = .ok (.aload_n 0, 1) := dk_42 (dk_at dksX5_tower_0 12 rfl rfl)
theorem dX5_tower_13 : decode cX5_tower 13 = .ok (.iconst 1, 1) := dk_4 (dk_at dksX5_tower_0 13 rfl rfl)
theorem dX5_tower_14 : decode cX5_tower 14 = .ok (.invokevirtual 62, 3) := dk_182 0 62 (dk_at dksX5_tower_0 14 rfl rfl)
theorem dX5_tower_17 : decode cX5_tower 17 = .ok (.ireturn, 1) := dk_172 (dk_at dksX5_tower_0 17 rfl rfl)
theorem dX5_tower_18 : decode cX5_tower 18 = .ok (.iload_n 1, 1) := dk_27 (dk_at dksX5_tower_0 18 rfl rfl)
theorem dX5_tower_19 : decode cX5_tower 19 = .ok (.iconst 0, 1) := dk_3 (dk_at dksX5_tower_0 19 rfl rfl)
theorem dX5_tower_20 : decode cX5_tower 20 = .ok (.bipush 19, 2) := dk_16 19 (dk_at dksX5_tower_0 20 rfl rfl)
theorem dX5_tower_22 : decode cX5_tower 22 = .ok (.invokestatic 135, 3) := dk_184 0 135 (dk_at dksX5_tower_1 0 rfl rfl)
theorem dX5_tower_25 : decode cX5_tower 25 = .ok (.ifCond .eq 10, 3) := dk_153 0 10 (dk_at dksX5_tower_1 3 rfl rfl)
theorem dX5_tower_28 : decode cX5_tower 28 = .ok (.iload_n 2, 1) := dk_28 (dk_at dksX5_tower_1 6 rfl rfl)
theorem dX5_tower_29 : decode cX5_tower 29 = .ok (.invokestatic 411, 3) := dk_184 1 155 (dk_at dksX5_tower_1 7 rfl rfl)
theorem dX5_tower_32 : decode cX5_tower 32 = .ok (.ifCond .ne 9, 3) := dk_154 0 9 (dk_at dksX5_tower_1 10 rfl rfl)
theorem dX5_tower_35 : decode cX5_tower 35 = .ok (.aload_n 0, 1) := dk_42 (dk_at dksX5_tower_1 13 rfl rfl)
theorem dX5_tower_36 : decode cX5_tower 36 = .ok (.iconst 2, 1) := dk_5 (dk_at dksX5_tower_1 14 rfl rfl)
theorem dX5_tower_37 : decode cX5_tower 37 = .ok (.invokevirtual 62, 3) := dk_182 0 62 (dk_at dksX5_tower_1 15 rfl rfl)
theorem dX5_tower_40 : decode cX5_tower 40 = .ok (.ireturn, 1) := dk_172 (dk_at dksX5_tower_1 18 rfl rfl)
theorem dX5_tower_41 : decode cX5_tower 41 = .ok (.iconst 0, 1) := dk_3 (dk_at dksX5_tower_1 19 rfl rfl)
theorem dX5_tower_42 : decode cX5_tower 42 = .ok (.istore_n 3, 1) := dk_62 (dk_at dksX5_tower_1 20 rfl rfl)
theorem dX5_tower_43 : decode cX5_tower 43 = .ok (.iconst 1, 1) := dk_4 (dk_at dksX5_tower_1 21 rfl rfl)
theorem dX5_tower_44 : decode cX5_tower 44 = .ok (.istore 4, 2) := dk_54 4 (dk_at dksX5_tower_1 22 rfl rfl)
theorem dX5_tower_46 : decode cX5_tower 46 = .ok (.iload 4, 2) := dk_21 4 (dk_at dksX5_tower_2 0 rfl rfl)
theorem dX5_tower_48 : decode cX5_tower 48 = .ok (.aload_n 0, 1) := dk_42 (dk_at dksX5_tower_2 2 rfl rfl)
theorem dX5_tower_49 : decode cX5_tower 49 = .ok (.getfield 380, 3) := dk_180 1 124 (dk_at dksX5_tower_2 3 rfl rfl)
theorem dX5_tower_52 : decode cX5_tower 52 = .ok (.getfield 218, 3) := dk_180 0 218 (dk_at dksX5_tower_2 6 rfl rfl)
theorem dX5_tower_55 : decode cX5_tower 55 = .ok (.if_icmp .ge 40, 3) := dk_162 0 40 (dk_at dksX5_tower_2 9 rfl rfl)
theorem dX5_tower_58 : decode cX5_tower 58 = .ok (.aload_n 0, 1) := dk_42 (dk_at dksX5_tower_2 12 rfl rfl)
theorem dX5_tower_59 : decode cX5_tower 59 = .ok (.iload 4, 2) := dk_21 4 (dk_at dksX5_tower_2 13 rfl rfl)
theorem dX5_tower_61 : decode cX5_tower 61 = .ok (.aload_n 0, 1) := dk_42 (dk_at dksX5_tower_2 15 rfl rfl)
theorem dX5_tower_62 : decode cX5_tower 62 = .ok (.iload_n 2, 1) := dk_28 (dk_at dksX5_tower_2 16 rfl rfl)
theorem dX5_tower_63 : decode cX5_tower 63 = .ok (.invokevirtual 405, 3) := dk_182 1 149 (dk_at dksX5_tower_2 17 rfl rfl)
theorem dX5_tower_66 : decode cX5_tower 66 = .ok (.iload_n 1, 1) := dk_27 (dk_at dksX5_tower_2 20 rfl rfl)
theorem dX5_tower_67 : decode cX5_tower 67 = .ok (.iadd, 1) := dk_96 (dk_at dksX5_tower_2 21 rfl rfl)
theorem dX5_tower_68 : decode cX5_tower 68 = .ok (.invokevirtual 543, 3) := dk_182 2 31 (dk_at dksX5_tower_3 0 rfl rfl)
theorem dX5_tower_71 : decode cX5_tower 71 = .ok (.aload_n 0, 1) := dk_42 (dk_at dksX5_tower_3 3 rfl rfl)
theorem dX5_tower_72 : decode cX5_tower 72 = .ok (.iload_n 3, 1) := dk_29 (dk_at dksX5_tower_3 4 rfl rfl)
theorem dX5_tower_73 : decode cX5_tower 73 = .ok (.aload_n 0, 1) := dk_42 (dk_at dksX5_tower_3 5 rfl rfl)
theorem dX5_tower_74 : decode cX5_tower 74 = .ok (.iload_n 2, 1) := dk_28 (dk_at dksX5_tower_3 6 rfl rfl)
theorem dX5_tower_75 : decode cX5_tower 75 = .ok (.invokevirtual 405, 3) := dk_182 1 149 (dk_at dksX5_tower_3 7 rfl rfl)
theorem dX5_tower_78 : decode cX5_tower 78 = .ok (.iload_n 1, 1) := dk_27 (dk_at dksX5_tower_3 10 rfl rfl)
theorem dX5_tower_79 : decode cX5_tower 79 = .ok (.iadd, 1) := dk_96 (dk_at dksX5_tower_3 11 rfl rfl)
theorem dX5_tower_80 : decode cX5_tower 80 = .ok (.invokevirtual 543, 3) := dk_182 2 31 (dk_at dksX5_tower_3 12 rfl rfl)
theorem dX5_tower_83 : decode cX5_tower 83 = .ok (.if_icmp .le 6, 3) := dk_164 0 6 (dk_at dksX5_tower_3 15 rfl rfl)
theorem dX5_tower_86 : decode cX5_tower 86 = .ok (.iload 4, 2) := dk_21 4 (dk_at dksX5_tower_3 18 rfl rfl)
theorem dX5_tower_88 : decode cX5_tower 88 = .ok (.istore_n 3, 1) := dk_62 (dk_at dksX5_tower_3 20 rfl rfl)
theorem dX5_tower_89 : decode cX5_tower 89 = .ok (.iinc 4 1, 3) := dk_132 4 1 (dk_at dksX5_tower_3 21 rfl rfl)
theorem dX5_tower_92 : decode cX5_tower 92 = .ok (.goto (-46), 3) := dk_167 255 210 (dk_at dksX5_tower_4 0 rfl rfl)
theorem dX5_tower_95 : decode cX5_tower 95 = .ok (.aload_n 0, 1) := dk_42 (dk_at dksX5_tower_4 3 rfl rfl)
theorem dX5_tower_96 : decode cX5_tower 96 = .ok (.iload_n 3, 1) := dk_29 (dk_at dksX5_tower_4 4 rfl rfl)
theorem dX5_tower_97 : decode cX5_tower 97 = .ok (.iconst 0, 1) := dk_3 (dk_at dksX5_tower_4 5 rfl rfl)
theorem dX5_tower_98 : decode cX5_tower 98 = .ok (.invokevirtual 66, 3) := dk_182 0 66 (dk_at dksX5_tower_4 6 rfl rfl)
theorem dX5_tower_101 : decode cX5_tower 101 = .ok (.ireturn, 1) := dk_172 (dk_at dksX5_tower_4 9 rfl rfl)
abbrev cX5_plainTo : ByteArray := prog_15_method_112_code
def yX5_plainTo : MethodName := ⟨RX5, "plainTo", "(II)I"⟩
def dkwX5_plainTo_1 : List UInt8 := [182, 1, 152, 153, 0, 7, 4, 167, 0, 4, 3, 96, 62, 132, 4, 1, 167, 255, 222, 29, 172]
abbrev dktX5_plainTo_1 : List UInt8 := dkwX5_plainTo_1 ++ []
def dkwX5_plainTo_0 : List UInt8 := [3, 62, 3, 54, 4, 21, 4, 42, 180, 1, 124, 180, 0, 218, 162, 0, 28, 29, 42, 27, 21, 4, 28]
abbrev dktX5_plainTo_0 : List UInt8 := dkwX5_plainTo_0 ++ dktX5_plainTo_1
theorem dksX5_plainTo_0 : cX5_plainTo.data.toList.drop 0 = dktX5_plainTo_0 := by decide +kernel
theorem dksX5_plainTo_1 : cX5_plainTo.data.toList.drop 23 = dktX5_plainTo_1 := dk_seg dksX5_plainTo_0 23 rfl rfl
theorem dX5_plainTo_0 : decode cX5_plainTo 0 = .ok (.iconst 0, 1) := dk_3 (dk_at dksX5_plainTo_0 0 rfl rfl)
theorem dX5_plainTo_1 : decode cX5_plainTo 1 = .ok (.istore_n 3, 1) := dk_62 (dk_at dksX5_plainTo_0 1 rfl rfl)
theorem dX5_plainTo_2 : decode cX5_plainTo 2 = .ok (.iconst 0, 1) := dk_3 (dk_at dksX5_plainTo_0 2 rfl rfl)
theorem dX5_plainTo_3 : decode cX5_plainTo 3 = .ok (.istore 4, 2) := dk_54 4 (dk_at dksX5_plainTo_0 3 rfl rfl)
theorem dX5_plainTo_5 : decode cX5_plainTo 5 = .ok (.iload 4, 2) := dk_21 4 (dk_at dksX5_plainTo_0 5 rfl rfl)
theorem dX5_plainTo_7 : decode cX5_plainTo 7 = .ok (.aload_n 0, 1) := dk_42 (dk_at dksX5_plainTo_0 7 rfl rfl)
theorem dX5_plainTo_8 : decode cX5_plainTo 8 = .ok (.getfield 380, 3) := dk_180 1 124 (dk_at dksX5_plainTo_0 8 rfl rfl)
theorem dX5_plainTo_11 : decode cX5_plainTo 11 = .ok (.getfield 218, 3) := dk_180 0 218 (dk_at dksX5_plainTo_0 11 rfl rfl)
theorem dX5_plainTo_14 : decode cX5_plainTo 14 = .ok (.if_icmp .ge 28, 3) := dk_162 0 28 (dk_at dksX5_plainTo_0 14 rfl rfl)
theorem dX5_plainTo_17 : decode cX5_plainTo 17 = .ok (.iload_n 3, 1) := dk_29 (dk_at dksX5_plainTo_0 17 rfl rfl)
theorem dX5_plainTo_18 : decode cX5_plainTo 18 = .ok (.aload_n 0, 1) := dk_42 (dk_at dksX5_plainTo_0 18 rfl rfl)
theorem dX5_plainTo_19 : decode cX5_plainTo 19 = .ok (.iload_n 1, 1) := dk_27 (dk_at dksX5_plainTo_0 19 rfl rfl)
theorem dX5_plainTo_20 : decode cX5_plainTo 20 = .ok (.iload 4, 2) := dk_21 4 (dk_at dksX5_plainTo_0 20 rfl rfl)
theorem dX5_plainTo_22 : decode cX5_plainTo 22 = .ok (.iload_n 2, 1) := dk_28 (dk_at dksX5_plainTo_0 22 rfl rfl)
theorem dX5_plainTo_23 : decode cX5_plainTo 23 = .ok (.invokevirtual 408, 3) := dk_182 1 152 (dk_at dksX5_plainTo_1 0 rfl rfl)
theorem dX5_plainTo_26 : decode cX5_plainTo 26 = .ok (.ifCond .eq 7, 3) := dk_153 0 7 (dk_at dksX5_plainTo_1 3 rfl rfl)
theorem dX5_plainTo_29 : decode cX5_plainTo 29 = .ok (.iconst 1, 1) := dk_4 (dk_at dksX5_plainTo_1 6 rfl rfl)
theorem dX5_plainTo_30 : decode cX5_plainTo 30 = .ok (.goto 4, 3) := dk_167 0 4 (dk_at dksX5_plainTo_1 7 rfl rfl)
theorem dX5_plainTo_33 : decode cX5_plainTo 33 = .ok (.iconst 0, 1) := dk_3 (dk_at dksX5_plainTo_1 10 rfl rfl)
theorem dX5_plainTo_34 : decode cX5_plainTo 34 = .ok (.iadd, 1) := dk_96 (dk_at dksX5_plainTo_1 11 rfl rfl)
theorem dX5_plainTo_35 : decode cX5_plainTo 35 = .ok (.istore_n 3, 1) := dk_62 (dk_at dksX5_plainTo_1 12 rfl rfl)
theorem dX5_plainTo_36 : decode cX5_plainTo 36 = .ok (.iinc 4 1, 3) := dk_132 4 1 (dk_at dksX5_plainTo_1 13 rfl rfl)
theorem dX5_plainTo_39 : decode cX5_plainTo 39 = .ok (.goto (-34), 3) := dk_167 255 222 (dk_at dksX5_plainTo_1 16 rfl rfl)
theorem dX5_plainTo_42 : decode cX5_plainTo 42 = .ok (.iload_n 3, 1) := dk_29 (dk_at dksX5_plainTo_1 19 rfl rfl)
theorem dX5_plainTo_43 : decode cX5_plainTo 43 = .ok (.ireturn, 1) := dk_172 (dk_at dksX5_plainTo_1 20 rfl rfl)
abbrev cX5_made : ByteArray := prog_15_method_117_code
def yX5_made : MethodName := ⟨RX5, "made", "(II)I"⟩
def dkwX5_made_1 : List UInt8 := [42, 42, 27, 28, 182, 2, 43, 3, 182, 0, 66, 172]
abbrev dktX5_made_1 : List UInt8 := dkwX5_made_1 ++ []
def dkwX5_made_0 : List UInt8 := [42, 3, 181, 0, 56, 42, 27, 28, 182, 2, 40, 62, 29, 158, 0, 11, 42, 29, 182, 0, 62, 167, 0, 14]
abbrev dktX5_made_0 : List UInt8 := dkwX5_made_0 ++ dktX5_made_1
theorem dksX5_made_0 : cX5_made.data.toList.drop 0 = dktX5_made_0 := by decide +kernel
theorem dksX5_made_1 : cX5_made.data.toList.drop 24 = dktX5_made_1 := dk_seg dksX5_made_0 24 rfl rfl
theorem dX5_made_0 : decode cX5_made 0 = .ok (.aload_n 0, 1) := dk_42 (dk_at dksX5_made_0 0 rfl rfl)
theorem dX5_made_1 : decode cX5_made 1 = .ok (.iconst 0, 1) := dk_3 (dk_at dksX5_made_0 1 rfl rfl)
theorem dX5_made_2 : decode cX5_made 2 = .ok (.putfield 56, 3) := dk_181 0 56 (dk_at dksX5_made_0 2 rfl rfl)
theorem dX5_made_5 : decode cX5_made 5 = .ok (.aload_n 0, 1) := dk_42 (dk_at dksX5_made_0 5 rfl rfl)
theorem dX5_made_6 : decode cX5_made 6 = .ok (.iload_n 1, 1) := dk_27 (dk_at dksX5_made_0 6 rfl rfl)
theorem dX5_made_7 : decode cX5_made 7 = .ok (.iload_n 2, 1) := dk_28 (dk_at dksX5_made_0 7 rfl rfl)
theorem dX5_made_8 : decode cX5_made 8 = .ok (.invokevirtual 552, 3) := dk_182 2 40 (dk_at dksX5_made_0 8 rfl rfl)
theorem dX5_made_11 : decode cX5_made 11 = .ok (.istore_n 3, 1) := dk_62 (dk_at dksX5_made_0 11 rfl rfl)
theorem dX5_made_12 : decode cX5_made 12 = .ok (.iload_n 3, 1) := dk_29 (dk_at dksX5_made_0 12 rfl rfl)
theorem dX5_made_13 : decode cX5_made 13 = .ok (.ifCond .le 11, 3) := dk_158 0 11 (dk_at dksX5_made_0 13 rfl rfl)
theorem dX5_made_16 : decode cX5_made 16 = .ok (.aload_n 0, 1) := dk_42 (dk_at dksX5_made_0 16 rfl rfl)
theorem dX5_made_17 : decode cX5_made 17 = .ok (.iload_n 3, 1) := dk_29 (dk_at dksX5_made_0 17 rfl rfl)
theorem dX5_made_18 : decode cX5_made 18 = .ok (.invokevirtual 62, 3) := dk_182 0 62 (dk_at dksX5_made_0 18 rfl rfl)
theorem dX5_made_21 : decode cX5_made 21 = .ok (.goto 14, 3) := dk_167 0 14 (dk_at dksX5_made_0 21 rfl rfl)
theorem dX5_made_24 : decode cX5_made 24 = .ok (.aload_n 0, 1) := dk_42 (dk_at dksX5_made_1 0 rfl rfl)
theorem dX5_made_25 : decode cX5_made 25 = .ok (.aload_n 0, 1) := dk_42 (dk_at dksX5_made_1 1 rfl rfl)
theorem dX5_made_26 : decode cX5_made 26 = .ok (.iload_n 1, 1) := dk_27 (dk_at dksX5_made_1 2 rfl rfl)
theorem dX5_made_27 : decode cX5_made 27 = .ok (.iload_n 2, 1) := dk_28 (dk_at dksX5_made_1 3 rfl rfl)
theorem dX5_made_28 : decode cX5_made 28 = .ok (.invokevirtual 555, 3) := dk_182 2 43 (dk_at dksX5_made_1 4 rfl rfl)
theorem dX5_made_31 : decode cX5_made 31 = .ok (.iconst 0, 1) := dk_3 (dk_at dksX5_made_1 7 rfl rfl)
theorem dX5_made_32 : decode cX5_made 32 = .ok (.invokevirtual 66, 3) := dk_182 0 66 (dk_at dksX5_made_1 8 rfl rfl)
theorem dX5_made_35 : decode cX5_made 35 = .ok (.ireturn, 1) := dk_172 (dk_at dksX5_made_1 11 rfl rfl)
abbrev cX5_refusesMade : ByteArray := prog_15_method_115_code
def yX5_refusesMade : MethodName := ⟨RX5, "refusesMade", "(II)I"⟩
def dkwX5_refusesMade_2 : List UInt8 := [5, 167, 0, 4, 3, 172]
abbrev dktX5_refusesMade_2 : List UInt8 := dkwX5_refusesMade_2 ++ []
def dkwX5_refusesMade_1 : List UInt8 := [42, 180, 1, 124, 180, 1, 33, 167, 0, 4, 6, 184, 0, 135, 153, 0, 10, 28, 184, 1, 155, 154, 0, 7]
abbrev dktX5_refusesMade_1 : List UInt8 := dkwX5_refusesMade_1 ++ dktX5_refusesMade_2
def dkwX5_refusesMade_0 : List UInt8 := [42, 180, 1, 124, 199, 0, 7, 4, 167, 0, 45, 27, 3, 42, 180, 1, 124, 180, 1, 33, 6, 162, 0, 13]
abbrev dktX5_refusesMade_0 : List UInt8 := dkwX5_refusesMade_0 ++ dktX5_refusesMade_1
theorem dksX5_refusesMade_0 : cX5_refusesMade.data.toList.drop 0 = dktX5_refusesMade_0 := by decide +kernel
theorem dksX5_refusesMade_1 : cX5_refusesMade.data.toList.drop 24 = dktX5_refusesMade_1 := dk_seg dksX5_refusesMade_0 24 rfl rfl
theorem dksX5_refusesMade_2 : cX5_refusesMade.data.toList.drop 48 = dktX5_refusesMade_2 := dk_seg dksX5_refusesMade_1 24 rfl rfl
theorem dX5_refusesMade_0 : decode cX5_refusesMade 0 = .ok (.aload_n 0, 1) := dk_42 (dk_at dksX5_refusesMade_0 0 rfl rfl)
theorem dX5_refusesMade_1 : decode cX5_refusesMade 1 = .ok (.getfield 380, 3) := dk_180 1 124 (dk_at dksX5_refusesMade_0 1 rfl rfl)
theorem dX5_refusesMade_4 : decode cX5_refusesMade 4 = .ok (.ifnonnull 7, 3) := dk_199 0 7 (dk_at dksX5_refusesMade_0 4 rfl rfl)
theorem dX5_refusesMade_7 : decode cX5_refusesMade 7 = .ok (.iconst 1, 1) := dk_4 (dk_at dksX5_refusesMade_0 7 rfl rfl)
theorem dX5_refusesMade_8 : decode cX5_refusesMade 8 = .ok (.goto 45, 3) := dk_167 0 45 (dk_at dksX5_refusesMade_0 8 rfl rfl)
theorem dX5_refusesMade_11 : decode cX5_refusesMade 11 = .ok (.iload_n 1, 1) := dk_27 (dk_at dksX5_refusesMade_0 11 rfl rfl)
theorem dX5_refusesMade_12 : decode cX5_refusesMade 12 = .ok (.iconst 0, 1) := dk_3 (dk_at dksX5_refusesMade_0 12 rfl rfl)
theorem dX5_refusesMade_13 : decode cX5_refusesMade 13 = .ok (.aload_n 0, 1) := dk_42 (dk_at dksX5_refusesMade_0 13 rfl rfl)
theorem dX5_refusesMade_14 : decode cX5_refusesMade 14 = .ok (.getfield 380, 3) := dk_180 1 124 (dk_at dksX5_refusesMade_0 14 rfl rfl)
theorem dX5_refusesMade_17 : decode cX5_refusesMade 17 = .ok (.getfield 289, 3) := dk_180 1 33 (dk_at dksX5_refusesMade_0 17 rfl rfl)
theorem dX5_refusesMade_20 : decode cX5_refusesMade 20 = .ok (.iconst 3, 1) := dk_6 (dk_at dksX5_refusesMade_0 20 rfl rfl)
theorem dX5_refusesMade_21 : decode cX5_refusesMade 21 = .ok (.if_icmp .ge 13, 3) := dk_162 0 13 (dk_at dksX5_refusesMade_0 21 rfl rfl)
theorem dX5_refusesMade_24 : decode cX5_refusesMade 24 = .ok (.aload_n 0, 1) := dk_42 (dk_at dksX5_refusesMade_1 0 rfl rfl)
theorem dX5_refusesMade_25 : decode cX5_refusesMade 25 = .ok (.getfield 380, 3) := dk_180 1 124 (dk_at dksX5_refusesMade_1 1 rfl rfl)
theorem dX5_refusesMade_28 : decode cX5_refusesMade 28 = .ok (.getfield 289, 3) := dk_180 1 33 (dk_at dksX5_refusesMade_1 4 rfl rfl)
theorem dX5_refusesMade_31 : decode cX5_refusesMade 31 = .ok (.goto 4, 3) := dk_167 0 4 (dk_at dksX5_refusesMade_1 7 rfl rfl)
theorem dX5_refusesMade_34 : decode cX5_refusesMade 34 = .ok (.iconst 3, 1) := dk_6 (dk_at dksX5_refusesMade_1 10 rfl rfl)
theorem dX5_refusesMade_35 : decode cX5_refusesMade 35 = .ok (.invokestatic 135, 3) := dk_184 0 135 (dk_at dksX5_refusesMade_1 11 rfl rfl)
theorem dX5_refusesMade_38 : decode cX5_refusesMade 38 = .ok (.ifCond .eq 10, 3) := dk_153 0 10 (dk_at dksX5_refusesMade_1 14 rfl rfl)
theorem dX5_refusesMade_41 : decode cX5_refusesMade 41 = .ok (.iload_n 2, 1) := dk_28 (dk_at dksX5_refusesMade_1 17 rfl rfl)
theorem dX5_refusesMade_42 : decode cX5_refusesMade 42 = .ok (.invokestatic 411, 3) := dk_184 1 155 (dk_at dksX5_refusesMade_1 18 rfl rfl)
theorem dX5_refusesMade_45 : decode cX5_refusesMade 45 = .ok (.ifCond .ne 7, 3) := dk_154 0 7 (dk_at dksX5_refusesMade_1 21 rfl rfl)
theorem dX5_refusesMade_48 : decode cX5_refusesMade 48 = .ok (.iconst 2, 1) := dk_5 (dk_at dksX5_refusesMade_2 0 rfl rfl)
theorem dX5_refusesMade_49 : decode cX5_refusesMade 49 = .ok (.goto 4, 3) := dk_167 0 4 (dk_at dksX5_refusesMade_2 1 rfl rfl)
theorem dX5_refusesMade_52 : decode cX5_refusesMade 52 = .ok (.iconst 0, 1) := dk_3 (dk_at dksX5_refusesMade_2 4 rfl rfl)
theorem dX5_refusesMade_53 : decode cX5_refusesMade 53 = .ok (.ireturn, 1) := dk_172 (dk_at dksX5_refusesMade_2 5 rfl rfl)
abbrev cX5_madeOf : ByteArray := prog_15_method_116_code
def yX5_madeOf : MethodName := ⟨RX5, "madeOf", "(II)I"⟩
def dkwX5_madeOf_3 : List UInt8 := [167, 0, 12, 21, 4, 62, 42, 21, 5, 181, 2, 34, 132, 4, 1, 167, 255, 184, 29, 172]
abbrev dktX5_madeOf_3 : List UInt8 := dkwX5_madeOf_3 ++ []
def dkwX5_madeOf_2 : List UInt8 := [21, 5, 16, 254, 159, 0, 30, 29, 16, 254, 159, 0, 15, 21, 5, 42, 180, 2, 34, 161, 0, 6]
abbrev dktX5_madeOf_2 : List UInt8 := dkwX5_madeOf_2 ++ dktX5_madeOf_3
def dkwX5_madeOf_1 : List UInt8 := [162, 0, 64, 21, 4, 184, 1, 205, 27, 159, 0, 6, 167, 0, 46, 42, 21, 4, 28, 182, 2, 37, 54, 5]
abbrev dktX5_madeOf_1 : List UInt8 := dkwX5_madeOf_1 ++ dktX5_madeOf_2
def dkwX5_madeOf_0 : List UInt8 := [16, 254, 62, 42, 16, 254, 181, 2, 34, 3, 54, 4, 21, 4, 4, 42, 180, 1, 124, 180, 1, 33, 120]
abbrev dktX5_madeOf_0 : List UInt8 := dkwX5_madeOf_0 ++ dktX5_madeOf_1
theorem dksX5_madeOf_0 : cX5_madeOf.data.toList.drop 0 = dktX5_madeOf_0 := by decide +kernel
theorem dksX5_madeOf_1 : cX5_madeOf.data.toList.drop 23 = dktX5_madeOf_1 := dk_seg dksX5_madeOf_0 23 rfl rfl
theorem dksX5_madeOf_2 : cX5_madeOf.data.toList.drop 47 = dktX5_madeOf_2 := dk_seg dksX5_madeOf_1 24 rfl rfl
theorem dksX5_madeOf_3 : cX5_madeOf.data.toList.drop 69 = dktX5_madeOf_3 := dk_seg dksX5_madeOf_2 22 rfl rfl
theorem dX5_madeOf_0 : decode cX5_madeOf 0 = .ok (.bipush (-2), 2) := dk_16 254 (dk_at dksX5_madeOf_0 0 rfl rfl)
theorem dX5_madeOf_2 : decode cX5_madeOf 2 = .ok (.istore_n 3, 1) := dk_62 (dk_at dksX5_madeOf_0 2 rfl rfl)
theorem dX5_madeOf_3 : decode cX5_madeOf 3 = .ok (.aload_n 0, 1) := dk_42 (dk_at dksX5_madeOf_0 3 rfl rfl)
theorem dX5_madeOf_4 : decode cX5_madeOf 4 = .ok (.bipush (-2), 2) := dk_16 254 (dk_at dksX5_madeOf_0 4 rfl rfl)
theorem dX5_madeOf_6 : decode cX5_madeOf 6 = .ok (.putfield 546, 3) := dk_181 2 34 (dk_at dksX5_madeOf_0 6 rfl rfl)
theorem dX5_madeOf_9 : decode cX5_madeOf 9 = .ok (.iconst 0, 1) := dk_3 (dk_at dksX5_madeOf_0 9 rfl rfl)
theorem dX5_madeOf_10 : decode cX5_madeOf 10 = .ok (.istore 4, 2) := dk_54 4 (dk_at dksX5_madeOf_0 10 rfl rfl)
theorem dX5_madeOf_12 : decode cX5_madeOf 12 = .ok (.iload 4, 2) := dk_21 4 (dk_at dksX5_madeOf_0 12 rfl rfl)
theorem dX5_madeOf_14 : decode cX5_madeOf 14 = .ok (.iconst 1, 1) := dk_4 (dk_at dksX5_madeOf_0 14 rfl rfl)
theorem dX5_madeOf_15 : decode cX5_madeOf 15 = .ok (.aload_n 0, 1) := dk_42 (dk_at dksX5_madeOf_0 15 rfl rfl)
theorem dX5_madeOf_16 : decode cX5_madeOf 16 = .ok (.getfield 380, 3) := dk_180 1 124 (dk_at dksX5_madeOf_0 16 rfl rfl)
theorem dX5_madeOf_19 : decode cX5_madeOf 19 = .ok (.getfield 289, 3) := dk_180 1 33 (dk_at dksX5_madeOf_0 19 rfl rfl)
theorem dX5_madeOf_22 : decode cX5_madeOf 22 = .ok (.ishl, 1) := dk_120 (dk_at dksX5_madeOf_0 22 rfl rfl)
theorem dX5_madeOf_23 : decode cX5_madeOf 23 = .ok (.if_icmp .ge 64, 3) := dk_162 0 64 (dk_at dksX5_madeOf_1 0 rfl rfl)
theorem dX5_madeOf_26 : decode cX5_madeOf 26 = .ok (.iload 4, 2) := dk_21 4 (dk_at dksX5_madeOf_1 3 rfl rfl)
theorem dX5_madeOf_28 : decode cX5_madeOf 28 = .ok (.invokestatic 461, 3) := dk_184 1 205 (dk_at dksX5_madeOf_1 5 rfl rfl)
theorem dX5_madeOf_31 : decode cX5_madeOf 31 = .ok (.iload_n 1, 1) := dk_27 (dk_at dksX5_madeOf_1 8 rfl rfl)
theorem dX5_madeOf_32 : decode cX5_madeOf 32 = .ok (.if_icmp .eq 6, 3) := dk_159 0 6 (dk_at dksX5_madeOf_1 9 rfl rfl)
theorem dX5_madeOf_35 : decode cX5_madeOf 35 = .ok (.goto 46, 3) := dk_167 0 46 (dk_at dksX5_madeOf_1 12 rfl rfl)
theorem dX5_madeOf_38 : decode cX5_madeOf 38 = .ok (.aload_n 0, 1) := dk_42 (dk_at dksX5_madeOf_1 15 rfl rfl)
theorem dX5_madeOf_39 : decode cX5_madeOf 39 = .ok (.iload 4, 2) := dk_21 4 (dk_at dksX5_madeOf_1 16 rfl rfl)
theorem dX5_madeOf_41 : decode cX5_madeOf 41 = .ok (.iload_n 2, 1) := dk_28 (dk_at dksX5_madeOf_1 18 rfl rfl)
theorem dX5_madeOf_42 : decode cX5_madeOf 42 = .ok (.invokevirtual 549, 3) := dk_182 2 37 (dk_at dksX5_madeOf_1 19 rfl rfl)
theorem dX5_madeOf_45 : decode cX5_madeOf 45 = .ok (.istore 5, 2) := dk_54 5 (dk_at dksX5_madeOf_1 22 rfl rfl)
theorem dX5_madeOf_47 : decode cX5_madeOf 47 = .ok (.iload 5, 2) := dk_21 5 (dk_at dksX5_madeOf_2 0 rfl rfl)
theorem dX5_madeOf_49 : decode cX5_madeOf 49 = .ok (.bipush (-2), 2) := dk_16 254 (dk_at dksX5_madeOf_2 2 rfl rfl)
theorem dX5_madeOf_51 : decode cX5_madeOf 51 = .ok (.if_icmp .eq 30, 3) := dk_159 0 30 (dk_at dksX5_madeOf_2 4 rfl rfl)
theorem dX5_madeOf_54 : decode cX5_madeOf 54 = .ok (.iload_n 3, 1) := dk_29 (dk_at dksX5_madeOf_2 7 rfl rfl)
theorem dX5_madeOf_55 : decode cX5_madeOf 55 = .ok (.bipush (-2), 2) := dk_16 254 (dk_at dksX5_madeOf_2 8 rfl rfl)
theorem dX5_madeOf_57 : decode cX5_madeOf 57 = .ok (.if_icmp .eq 15, 3) := dk_159 0 15 (dk_at dksX5_madeOf_2 10 rfl rfl)
theorem dX5_madeOf_60 : decode cX5_madeOf 60 = .ok (.iload 5, 2) := dk_21 5 (dk_at dksX5_madeOf_2 13 rfl rfl)
theorem dX5_madeOf_62 : decode cX5_madeOf 62 = .ok (.aload_n 0, 1) := dk_42 (dk_at dksX5_madeOf_2 15 rfl rfl)
theorem dX5_madeOf_63 : decode cX5_madeOf 63 = .ok (.getfield 546, 3) := dk_180 2 34 (dk_at dksX5_madeOf_2 16 rfl rfl)
theorem dX5_madeOf_66 : decode cX5_madeOf 66 = .ok (.if_icmp .lt 6, 3) := dk_161 0 6 (dk_at dksX5_madeOf_2 19 rfl rfl)
theorem dX5_madeOf_69 : decode cX5_madeOf 69 = .ok (.goto 12, 3) := dk_167 0 12 (dk_at dksX5_madeOf_3 0 rfl rfl)
theorem dX5_madeOf_72 : decode cX5_madeOf 72 = .ok (.iload 4, 2) := dk_21 4 (dk_at dksX5_madeOf_3 3 rfl rfl)
theorem dX5_madeOf_74 : decode cX5_madeOf 74 = .ok (.istore_n 3, 1) := dk_62 (dk_at dksX5_madeOf_3 5 rfl rfl)
theorem dX5_madeOf_75 : decode cX5_madeOf 75 = .ok (.aload_n 0, 1) := dk_42 (dk_at dksX5_madeOf_3 6 rfl rfl)
theorem dX5_madeOf_76 : decode cX5_madeOf 76 = .ok (.iload 5, 2) := dk_21 5 (dk_at dksX5_madeOf_3 7 rfl rfl)
theorem dX5_madeOf_78 : decode cX5_madeOf 78 = .ok (.putfield 546, 3) := dk_181 2 34 (dk_at dksX5_madeOf_3 9 rfl rfl)
theorem dX5_madeOf_81 : decode cX5_madeOf 81 = .ok (.iinc 4 1, 3) := dk_132 4 1 (dk_at dksX5_madeOf_3 12 rfl rfl)
theorem dX5_madeOf_84 : decode cX5_madeOf 84 = .ok (.goto (-72), 3) := dk_167 255 184 (dk_at dksX5_madeOf_3 15 rfl rfl)
theorem dX5_madeOf_87 : decode cX5_madeOf 87 = .ok (.iload_n 3, 1) := dk_29 (dk_at dksX5_madeOf_3 18 rfl rfl)
theorem dX5_madeOf_88 : decode cX5_madeOf 88 = .ok (.ireturn, 1) := dk_172 (dk_at dksX5_madeOf_3 19 rfl rfl)
abbrev cX5_postsWithout : ByteArray := prog_15_method_114_code
def yX5_postsWithout : MethodName := ⟨RX5, "postsWithout", "(II)I"⟩
def dkwX5_postsWithout_1 : List UInt8 := [181, 1, 146, 29, 16, 254, 160, 0, 8, 16, 254, 167, 0, 7, 29, 184, 1, 205, 172]
abbrev dktX5_postsWithout_1 : List UInt8 := dkwX5_postsWithout_1 ++ []
def dkwX5_postsWithout_0 : List UInt8 := [42, 27, 181, 1, 146, 42, 4, 42, 180, 1, 124, 180, 0, 218, 120, 4, 100, 28, 182, 1, 211, 62, 42, 3]
abbrev dktX5_postsWithout_0 : List UInt8 := dkwX5_postsWithout_0 ++ dktX5_postsWithout_1
theorem dksX5_postsWithout_0 : cX5_postsWithout.data.toList.drop 0 = dktX5_postsWithout_0 := by decide +kernel
theorem dksX5_postsWithout_1 : cX5_postsWithout.data.toList.drop 24 = dktX5_postsWithout_1 := dk_seg dksX5_postsWithout_0 24 rfl rfl
theorem dX5_postsWithout_0 : decode cX5_postsWithout 0 = .ok (.aload_n 0, 1) := dk_42 (dk_at dksX5_postsWithout_0 0 rfl rfl)
theorem dX5_postsWithout_1 : decode cX5_postsWithout 1 = .ok (.iload_n 1, 1) := dk_27 (dk_at dksX5_postsWithout_0 1 rfl rfl)
theorem dX5_postsWithout_2 : decode cX5_postsWithout 2 = .ok (.putfield 402, 3) := dk_181 1 146 (dk_at dksX5_postsWithout_0 2 rfl rfl)
theorem dX5_postsWithout_5 : decode cX5_postsWithout 5 = .ok (.aload_n 0, 1) := dk_42 (dk_at dksX5_postsWithout_0 5 rfl rfl)
theorem dX5_postsWithout_6 : decode cX5_postsWithout 6 = .ok (.iconst 1, 1) := dk_4 (dk_at dksX5_postsWithout_0 6 rfl rfl)
theorem dX5_postsWithout_7 : decode cX5_postsWithout 7 = .ok (.aload_n 0, 1) := dk_42 (dk_at dksX5_postsWithout_0 7 rfl rfl)
theorem dX5_postsWithout_8 : decode cX5_postsWithout 8 = .ok (.getfield 380, 3) := dk_180 1 124 (dk_at dksX5_postsWithout_0 8 rfl rfl)
theorem dX5_postsWithout_11 : decode cX5_postsWithout 11 = .ok (.getfield 218, 3) := dk_180 0 218 (dk_at dksX5_postsWithout_0 11 rfl rfl)
theorem dX5_postsWithout_14 : decode cX5_postsWithout 14 = .ok (.ishl, 1) := dk_120 (dk_at dksX5_postsWithout_0 14 rfl rfl)
theorem dX5_postsWithout_15 : decode cX5_postsWithout 15 = .ok (.iconst 1, 1) := dk_4 (dk_at dksX5_postsWithout_0 15 rfl rfl)
theorem dX5_postsWithout_16 : decode cX5_postsWithout 16 = .ok (.isub, 1) := dk_100 (dk_at dksX5_postsWithout_0 16 rfl rfl)
theorem dX5_postsWithout_17 : decode cX5_postsWithout 17 = .ok (.iload_n 2, 1) := dk_28 (dk_at dksX5_postsWithout_0 17 rfl rfl)
theorem dX5_postsWithout_18 : decode cX5_postsWithout 18 = .ok (.invokevirtual 467, 3) := dk_182 1 211 (dk_at dksX5_postsWithout_0 18 rfl rfl)
theorem dX5_postsWithout_21 : decode cX5_postsWithout 21 = .ok (.istore_n 3, 1) := dk_62 (dk_at dksX5_postsWithout_0 21 rfl rfl)
theorem dX5_postsWithout_22 : decode cX5_postsWithout 22 = .ok (.aload_n 0, 1) := dk_42 (dk_at dksX5_postsWithout_0 22 rfl rfl)
theorem dX5_postsWithout_23 : decode cX5_postsWithout 23 = .ok (.iconst 0, 1) := dk_3 (dk_at dksX5_postsWithout_0 23 rfl rfl)
theorem dX5_postsWithout_24 : decode cX5_postsWithout 24 = .ok (.putfield 402, 3) := dk_181 1 146 (dk_at dksX5_postsWithout_1 0 rfl rfl)
theorem dX5_postsWithout_27 : decode cX5_postsWithout 27 = .ok (.iload_n 3, 1) := dk_29 (dk_at dksX5_postsWithout_1 3 rfl rfl)
theorem dX5_postsWithout_28 : decode cX5_postsWithout 28 = .ok (.bipush (-2), 2) := dk_16 254 (dk_at dksX5_postsWithout_1 4 rfl rfl)
theorem dX5_postsWithout_30 : decode cX5_postsWithout 30 = .ok (.if_icmp .ne 8, 3) := dk_160 0 8 (dk_at dksX5_postsWithout_1 6 rfl rfl)
theorem dX5_postsWithout_33 : decode cX5_postsWithout 33 = .ok (.bipush (-2), 2) := dk_16 254 (dk_at dksX5_postsWithout_1 9 rfl rfl)
theorem dX5_postsWithout_35 : decode cX5_postsWithout 35 = .ok (.goto 7, 3) := dk_167 0 7 (dk_at dksX5_postsWithout_1 11 rfl rfl)
theorem dX5_postsWithout_38 : decode cX5_postsWithout 38 = .ok (.iload_n 3, 1) := dk_29 (dk_at dksX5_postsWithout_1 14 rfl rfl)
theorem dX5_postsWithout_39 : decode cX5_postsWithout 39 = .ok (.invokestatic 461, 3) := dk_184 1 205 (dk_at dksX5_postsWithout_1 15 rfl rfl)
theorem dX5_postsWithout_42 : decode cX5_postsWithout 42 = .ok (.ireturn, 1) := dk_172 (dk_at dksX5_postsWithout_1 18 rfl rfl)
abbrev cX5_needs : ByteArray := prog_15_method_118_code
def yX5_needs : MethodName := ⟨RX5, "needs", "(II)I"⟩
def dkwX5_needs_1 : List UInt8 := [28, 182, 2, 43, 87, 42, 42, 180, 2, 34, 3, 182, 0, 66, 172]
abbrev dktX5_needs_1 : List UInt8 := dkwX5_needs_1 ++ []
def dkwX5_needs_0 : List UInt8 := [42, 3, 181, 0, 56, 42, 27, 28, 182, 2, 40, 62, 29, 158, 0, 9, 42, 29, 182, 0, 62, 172, 42, 27]
abbrev dktX5_needs_0 : List UInt8 := dkwX5_needs_0 ++ dktX5_needs_1
theorem dksX5_needs_0 : cX5_needs.data.toList.drop 0 = dktX5_needs_0 := by decide +kernel
theorem dksX5_needs_1 : cX5_needs.data.toList.drop 24 = dktX5_needs_1 := dk_seg dksX5_needs_0 24 rfl rfl
theorem dX5_needs_0 : decode cX5_needs 0 = .ok (.aload_n 0, 1) := dk_42 (dk_at dksX5_needs_0 0 rfl rfl)
theorem dX5_needs_1 : decode cX5_needs 1 = .ok (.iconst 0, 1) := dk_3 (dk_at dksX5_needs_0 1 rfl rfl)
theorem dX5_needs_2 : decode cX5_needs 2 = .ok (.putfield 56, 3) := dk_181 0 56 (dk_at dksX5_needs_0 2 rfl rfl)
theorem dX5_needs_5 : decode cX5_needs 5 = .ok (.aload_n 0, 1) := dk_42 (dk_at dksX5_needs_0 5 rfl rfl)
theorem dX5_needs_6 : decode cX5_needs 6 = .ok (.iload_n 1, 1) := dk_27 (dk_at dksX5_needs_0 6 rfl rfl)
theorem dX5_needs_7 : decode cX5_needs 7 = .ok (.iload_n 2, 1) := dk_28 (dk_at dksX5_needs_0 7 rfl rfl)
theorem dX5_needs_8 : decode cX5_needs 8 = .ok (.invokevirtual 552, 3) := dk_182 2 40 (dk_at dksX5_needs_0 8 rfl rfl)
theorem dX5_needs_11 : decode cX5_needs 11 = .ok (.istore_n 3, 1) := dk_62 (dk_at dksX5_needs_0 11 rfl rfl)
theorem dX5_needs_12 : decode cX5_needs 12 = .ok (.iload_n 3, 1) := dk_29 (dk_at dksX5_needs_0 12 rfl rfl)
theorem dX5_needs_13 : decode cX5_needs 13 = .ok (.ifCond .le 9, 3) := dk_158 0 9 (dk_at dksX5_needs_0 13 rfl rfl)
theorem dX5_needs_16 : decode cX5_needs 16 = .ok (.aload_n 0, 1) := dk_42 (dk_at dksX5_needs_0 16 rfl rfl)
theorem dX5_needs_17 : decode cX5_needs 17 = .ok (.iload_n 3, 1) := dk_29 (dk_at dksX5_needs_0 17 rfl rfl)
theorem dX5_needs_18 : decode cX5_needs 18 = .ok (.invokevirtual 62, 3) := dk_182 0 62 (dk_at dksX5_needs_0 18 rfl rfl)
theorem dX5_needs_21 : decode cX5_needs 21 = .ok (.ireturn, 1) := dk_172 (dk_at dksX5_needs_0 21 rfl rfl)
theorem dX5_needs_22 : decode cX5_needs 22 = .ok (.aload_n 0, 1) := dk_42 (dk_at dksX5_needs_0 22 rfl rfl)
theorem dX5_needs_23 : decode cX5_needs 23 = .ok (.iload_n 1, 1) := dk_27 (dk_at dksX5_needs_0 23 rfl rfl)
theorem dX5_needs_24 : decode cX5_needs 24 = .ok (.iload_n 2, 1) := dk_28 (dk_at dksX5_needs_1 0 rfl rfl)
theorem dX5_needs_25 : decode cX5_needs 25 = .ok (.invokevirtual 555, 3) := dk_182 2 43 (dk_at dksX5_needs_1 1 rfl rfl)
theorem dX5_needs_28 : decode cX5_needs 28 = .ok (.pop, 1) := dk_87 (dk_at dksX5_needs_1 4 rfl rfl)
theorem dX5_needs_29 : decode cX5_needs 29 = .ok (.aload_n 0, 1) := dk_42 (dk_at dksX5_needs_1 5 rfl rfl)
theorem dX5_needs_30 : decode cX5_needs 30 = .ok (.aload_n 0, 1) := dk_42 (dk_at dksX5_needs_1 6 rfl rfl)
theorem dX5_needs_31 : decode cX5_needs 31 = .ok (.getfield 546, 3) := dk_180 2 34 (dk_at dksX5_needs_1 7 rfl rfl)
theorem dX5_needs_34 : decode cX5_needs 34 = .ok (.iconst 0, 1) := dk_3 (dk_at dksX5_needs_1 10 rfl rfl)
theorem dX5_needs_35 : decode cX5_needs 35 = .ok (.invokevirtual 66, 3) := dk_182 0 66 (dk_at dksX5_needs_1 11 rfl rfl)
theorem dX5_needs_38 : decode cX5_needs 38 = .ok (.ireturn, 1) := dk_172 (dk_at dksX5_needs_1 14 rfl rfl)
abbrev cX5_fog : ByteArray := prog_15_method_120_code
def yX5_fog : MethodName := ⟨RX5, "fog", "()J"⟩
def dkwX5_fog_5 : List UInt8 := [132, 3, 1, 167, 255, 157, 42, 3, 3, 182, 0, 66, 87, 31, 173]
abbrev dktX5_fog_5 : List UInt8 := dkwX5_fog_5 ++ []
def dkwX5_fog_4 : List UInt8 := [132, 6, 1, 167, 255, 199, 31, 42, 29, 182, 2, 46, 153, 0, 8, 22, 4, 167, 0, 4, 9, 97, 64]
abbrev dktX5_fog_4 : List UInt8 := dkwX5_fog_4 ++ dktX5_fog_5
def dkwX5_fog_3 : List UInt8 := [21, 6, 46, 133, 167, 0, 17, 16, 100, 42, 180, 1, 124, 180, 1, 115, 21, 6, 46, 100, 133, 105, 55, 4]
abbrev dktX5_fog_3 : List UInt8 := dkwX5_fog_3 ++ dktX5_fog_4
def dkwX5_fog_2 : List UInt8 := [180, 1, 107, 162, 0, 51, 22, 4, 29, 21, 6, 184, 1, 142, 153, 0, 17, 42, 180, 1, 124, 180, 1, 115]
abbrev dktX5_fog_2 : List UInt8 := dkwX5_fog_2 ++ dktX5_fog_3
def dkwX5_fog_1 : List UInt8 := [4, 42, 180, 1, 124, 180, 1, 107, 120, 162, 0, 92, 10, 55, 4, 3, 54, 6, 21, 6, 42, 180, 1, 124]
abbrev dktX5_fog_1 : List UInt8 := dkwX5_fog_1 ++ dktX5_fog_2
def dkwX5_fog_0 : List UInt8 := [42, 3, 181, 0, 56, 42, 180, 1, 124, 199, 0, 10, 42, 4, 182, 0, 62, 133, 173, 9, 64, 3, 62, 29]
abbrev dktX5_fog_0 : List UInt8 := dkwX5_fog_0 ++ dktX5_fog_1
theorem dksX5_fog_0 : cX5_fog.data.toList.drop 0 = dktX5_fog_0 := by decide +kernel
theorem dksX5_fog_1 : cX5_fog.data.toList.drop 24 = dktX5_fog_1 := dk_seg dksX5_fog_0 24 rfl rfl
theorem dksX5_fog_2 : cX5_fog.data.toList.drop 48 = dktX5_fog_2 := dk_seg dksX5_fog_1 24 rfl rfl
theorem dksX5_fog_3 : cX5_fog.data.toList.drop 72 = dktX5_fog_3 := dk_seg dksX5_fog_2 24 rfl rfl
theorem dksX5_fog_4 : cX5_fog.data.toList.drop 96 = dktX5_fog_4 := dk_seg dksX5_fog_3 24 rfl rfl
theorem dksX5_fog_5 : cX5_fog.data.toList.drop 119 = dktX5_fog_5 := dk_seg dksX5_fog_4 23 rfl rfl
theorem dX5_fog_0 : decode cX5_fog 0 = .ok (.aload_n 0, 1) := dk_42 (dk_at dksX5_fog_0 0 rfl rfl)
theorem dX5_fog_1 : decode cX5_fog 1 = .ok (.iconst 0, 1) := dk_3 (dk_at dksX5_fog_0 1 rfl rfl)
theorem dX5_fog_2 : decode cX5_fog 2 = .ok (.putfield 56, 3) := dk_181 0 56 (dk_at dksX5_fog_0 2 rfl rfl)
theorem dX5_fog_5 : decode cX5_fog 5 = .ok (.aload_n 0, 1) := dk_42 (dk_at dksX5_fog_0 5 rfl rfl)
theorem dX5_fog_6 : decode cX5_fog 6 = .ok (.getfield 380, 3) := dk_180 1 124 (dk_at dksX5_fog_0 6 rfl rfl)
theorem dX5_fog_9 : decode cX5_fog 9 = .ok (.ifnonnull 10, 3) := dk_199 0 10 (dk_at dksX5_fog_0 9 rfl rfl)
theorem dX5_fog_12 : decode cX5_fog 12 = .ok (.aload_n 0, 1) := dk_42 (dk_at dksX5_fog_0 12 rfl rfl)
theorem dX5_fog_13 : decode cX5_fog 13 = .ok (.iconst 1, 1) := dk_4 (dk_at dksX5_fog_0 13 rfl rfl)
theorem dX5_fog_14 : decode cX5_fog 14 = .ok (.invokevirtual 62, 3) := dk_182 0 62 (dk_at dksX5_fog_0 14 rfl rfl)
theorem dX5_fog_17 : decode cX5_fog 17 = .ok (.i2l, 1) := dk_133 (dk_at dksX5_fog_0 17 rfl rfl)
theorem dX5_fog_18 : decode cX5_fog 18 = .ok (.lreturn, 1) := dk_173 (dk_at dksX5_fog_0 18 rfl rfl)
theorem dX5_fog_19 : decode cX5_fog 19 = .ok (.lconst 0, 1) := dk_9 (dk_at dksX5_fog_0 19 rfl rfl)
theorem dX5_fog_20 : decode cX5_fog 20 = .ok (.lstore_n 1, 1) := dk_64 (dk_at dksX5_fog_0 20 rfl rfl)
theorem dX5_fog_21 : decode cX5_fog 21 = .ok (.iconst 0, 1) := dk_3 (dk_at dksX5_fog_0 21 rfl rfl)
theorem dX5_fog_22 : decode cX5_fog 22 = .ok (.istore_n 3, 1) := dk_62 (dk_at dksX5_fog_0 22 rfl rfl)
theorem dX5_fog_23 : decode cX5_fog 23 = .ok (.iload_n 3, 1) := dk_29 (dk_at dksX5_fog_0 23 rfl rfl)
theorem dX5_fog_24 : decode cX5_fog 24 = .ok (.iconst 1, 1) := dk_4 (dk_at dksX5_fog_1 0 rfl rfl)
theorem dX5_fog_25 : decode cX5_fog 25 = .ok (.aload_n 0, 1) := dk_42 (dk_at dksX5_fog_1 1 rfl rfl)
theorem dX5_fog_26 : decode cX5_fog 26 = .ok (.getfield 380, 3) := dk_180 1 124 (dk_at dksX5_fog_1 2 rfl rfl)
theorem dX5_fog_29 : decode cX5_fog 29 = .ok (.getfield 363, 3) := dk_180 1 107 (dk_at dksX5_fog_1 5 rfl rfl)
theorem dX5_fog_32 : decode cX5_fog 32 = .ok (.ishl, 1) := dk_120 (dk_at dksX5_fog_1 8 rfl rfl)
theorem dX5_fog_33 : decode cX5_fog 33 = .ok (.if_icmp .ge 92, 3) := dk_162 0 92 (dk_at dksX5_fog_1 9 rfl rfl)
theorem dX5_fog_36 : decode cX5_fog 36 = .ok (.lconst 1, 1) := dk_10 (dk_at dksX5_fog_1 12 rfl rfl)
theorem dX5_fog_37 : decode cX5_fog 37 = .ok (.lstore 4, 2) := dk_55 4 (dk_at dksX5_fog_1 13 rfl rfl)
theorem dX5_fog_39 : decode cX5_fog 39 = .ok (.iconst 0, 1) := dk_3 (dk_at dksX5_fog_1 15 rfl rfl)
theorem dX5_fog_40 : decode cX5_fog 40 = .ok (.istore 6, 2) := dk_54 6 (dk_at dksX5_fog_1 16 rfl rfl)
theorem dX5_fog_42 : decode cX5_fog 42 = .ok (.iload 6, 2) := dk_21 6 (dk_at dksX5_fog_1 18 rfl rfl)
theorem dX5_fog_44 : decode cX5_fog 44 = .ok (.aload_n 0, 1) := dk_42 (dk_at dksX5_fog_1 20 rfl rfl)
theorem dX5_fog_45 : decode cX5_fog 45 = .ok (.getfield 380, 3) := dk_180 1 124 (dk_at dksX5_fog_1 21 rfl rfl)
theorem dX5_fog_48 : decode cX5_fog 48 = .ok (.getfield 363, 3) := dk_180 1 107 (dk_at dksX5_fog_2 0 rfl rfl)
theorem dX5_fog_51 : decode cX5_fog 51 = .ok (.if_icmp .ge 51, 3) := dk_162 0 51 (dk_at dksX5_fog_2 3 rfl rfl)
theorem dX5_fog_54 : decode cX5_fog 54 = .ok (.lload 4, 2) := dk_22 4 (dk_at dksX5_fog_2 6 rfl rfl)
theorem dX5_fog_56 : decode cX5_fog 56 = .ok (.iload_n 3, 1) := dk_29 (dk_at dksX5_fog_2 8 rfl rfl)
theorem dX5_fog_57 : decode cX5_fog 57 = .ok (.iload 6, 2) := dk_21 6 (dk_at dksX5_fog_2 9 rfl rfl)
theorem dX5_fog_59 : decode cX5_fog 59 = .ok (.invokestatic 398, 3) := dk_184 1 142 (dk_at dksX5_fog_2 11 rfl rfl)
theorem dX5_fog_62 : decode cX5_fog 62 = .ok (.ifCond .eq 17, 3) := dk_153 0 17 (dk_at dksX5_fog_2 14 rfl rfl)
theorem dX5_fog_65 : decode cX5_fog 65 = .ok (.aload_n 0, 1) := dk_42 (dk_at dksX5_fog_2 17 rfl rfl)
theorem dX5_fog_66 : decode cX5_fog 66 = .ok (.getfield 380, 3) := dk_180 1 124 (dk_at dksX5_fog_2 18 rfl rfl)
theorem dX5_fog_69 : decode cX5_fog 69 = .ok (.getfield 371, 3) := dk_180 1 115 (dk_at dksX5_fog_2 21 rfl rfl)
theorem dX5_fog_72 : decode cX5_fog 72 = .ok (.iload 6, 2) := dk_21 6 (dk_at dksX5_fog_3 0 rfl rfl)
theorem dX5_fog_74 : decode cX5_fog 74 = .ok (.iaload, 1) := dk_46 (dk_at dksX5_fog_3 2 rfl rfl)
theorem dX5_fog_75 : decode cX5_fog 75 = .ok (.i2l, 1) := dk_133 (dk_at dksX5_fog_3 3 rfl rfl)
theorem dX5_fog_76 : decode cX5_fog 76 = .ok (.goto 17, 3) := dk_167 0 17 (dk_at dksX5_fog_3 4 rfl rfl)
theorem dX5_fog_79 : decode cX5_fog 79 = .ok (.bipush 100, 2) := dk_16 100 (dk_at dksX5_fog_3 7 rfl rfl)
theorem dX5_fog_81 : decode cX5_fog 81 = .ok (.aload_n 0, 1) := dk_42 (dk_at dksX5_fog_3 9 rfl rfl)
theorem dX5_fog_82 : decode cX5_fog 82 = .ok (.getfield 380, 3) := dk_180 1 124 (dk_at dksX5_fog_3 10 rfl rfl)
theorem dX5_fog_85 : decode cX5_fog 85 = .ok (.getfield 371, 3) := dk_180 1 115 (dk_at dksX5_fog_3 13 rfl rfl)
theorem dX5_fog_88 : decode cX5_fog 88 = .ok (.iload 6, 2) := dk_21 6 (dk_at dksX5_fog_3 16 rfl rfl)
theorem dX5_fog_90 : decode cX5_fog 90 = .ok (.iaload, 1) := dk_46 (dk_at dksX5_fog_3 18 rfl rfl)
theorem dX5_fog_91 : decode cX5_fog 91 = .ok (.isub, 1) := dk_100 (dk_at dksX5_fog_3 19 rfl rfl)
theorem dX5_fog_92 : decode cX5_fog 92 = .ok (.i2l, 1) := dk_133 (dk_at dksX5_fog_3 20 rfl rfl)
theorem dX5_fog_93 : decode cX5_fog 93 = .ok (.lmul, 1) := dk_105 (dk_at dksX5_fog_3 21 rfl rfl)
theorem dX5_fog_94 : decode cX5_fog 94 = .ok (.lstore 4, 2) := dk_55 4 (dk_at dksX5_fog_3 22 rfl rfl)
theorem dX5_fog_96 : decode cX5_fog 96 = .ok (.iinc 6 1, 3) := dk_132 6 1 (dk_at dksX5_fog_4 0 rfl rfl)
theorem dX5_fog_99 : decode cX5_fog 99 = .ok (.goto (-57), 3) := dk_167 255 199 (dk_at dksX5_fog_4 3 rfl rfl)
theorem dX5_fog_102 : decode cX5_fog 102 = .ok (.lload_n 1, 1) := dk_31 (dk_at dksX5_fog_4 6 rfl rfl)
theorem dX5_fog_103 : decode cX5_fog 103 = .ok (.aload_n 0, 1) := dk_42 (dk_at dksX5_fog_4 7 rfl rfl)
theorem dX5_fog_104 : decode cX5_fog 104 = .ok (.iload_n 3, 1) := dk_29 (dk_at dksX5_fog_4 8 rfl rfl)
theorem dX5_fog_105 : decode cX5_fog 105 = .ok (.invokevirtual 558, 3) := dk_182 2 46 (dk_at dksX5_fog_4 9 rfl rfl)
theorem dX5_fog_108 : decode cX5_fog 108 = .ok (.ifCond .eq 8, 3) := dk_153 0 8 (dk_at dksX5_fog_4 12 rfl rfl)
theorem dX5_fog_111 : decode cX5_fog 111 = .ok (.lload 4, 2) := dk_22 4 (dk_at dksX5_fog_4 15 rfl rfl)
theorem dX5_fog_113 : decode cX5_fog 113 = .ok (.goto 4, 3) := dk_167 0 4 (dk_at dksX5_fog_4 17 rfl rfl)
theorem dX5_fog_116 : decode cX5_fog 116 = .ok (.lconst 0, 1) := dk_9 (dk_at dksX5_fog_4 20 rfl rfl)
theorem dX5_fog_117 : decode cX5_fog 117 = .ok (.ladd, 1) := dk_97 (dk_at dksX5_fog_4 21 rfl rfl)
theorem dX5_fog_118 : decode cX5_fog 118 = .ok (.lstore_n 1, 1) := dk_64 (dk_at dksX5_fog_4 22 rfl rfl)
theorem dX5_fog_119 : decode cX5_fog 119 = .ok (.iinc 3 1, 3) := dk_132 3 1 (dk_at dksX5_fog_5 0 rfl rfl)
theorem dX5_fog_122 : decode cX5_fog 122 = .ok (.goto (-99), 3) := dk_167 255 157 (dk_at dksX5_fog_5 3 rfl rfl)
theorem dX5_fog_125 : decode cX5_fog 125 = .ok (.aload_n 0, 1) := dk_42 (dk_at dksX5_fog_5 6 rfl rfl)
theorem dX5_fog_126 : decode cX5_fog 126 = .ok (.iconst 0, 1) := dk_3 (dk_at dksX5_fog_5 7 rfl rfl)
theorem dX5_fog_127 : decode cX5_fog 127 = .ok (.iconst 0, 1) := dk_3 (dk_at dksX5_fog_5 8 rfl rfl)
theorem dX5_fog_128 : decode cX5_fog 128 = .ok (.invokevirtual 66, 3) := dk_182 0 66 (dk_at dksX5_fog_5 9 rfl rfl)
theorem dX5_fog_131 : decode cX5_fog 131 = .ok (.pop, 1) := dk_87 (dk_at dksX5_fog_5 12 rfl rfl)
theorem dX5_fog_132 : decode cX5_fog 132 = .ok (.lload_n 1, 1) := dk_31 (dk_at dksX5_fog_5 13 rfl rfl)
theorem dX5_fog_133 : decode cX5_fog 133 = .ok (.lreturn, 1) := dk_173 (dk_at dksX5_fog_5 14 rfl rfl)
abbrev cX5_isLawfulIn : ByteArray := prog_15_method_119_code
def yX5_isLawfulIn : MethodName := ⟨RX5, "isLawfulIn", "(I)Z"⟩
def dkwX5_isLawfulIn_2 : List UInt8 := [132, 2, 1, 167, 255, 210, 42, 182, 1, 190, 61, 42, 3, 181, 1, 139, 28, 172]
abbrev dktX5_isLawfulIn_2 : List UInt8 := dkwX5_isLawfulIn_2 ++ []
def dkwX5_isLawfulIn_1 : List UInt8 := [153, 0, 17, 4, 42, 180, 1, 124, 180, 1, 110, 28, 46, 120, 167, 0, 4, 3, 128, 181, 1, 139]
abbrev dktX5_isLawfulIn_1 : List UInt8 := dkwX5_isLawfulIn_1 ++ dktX5_isLawfulIn_2
def dkwX5_isLawfulIn_0 : List UInt8 := [3, 61, 28, 42, 180, 1, 124, 180, 1, 107, 162, 0, 41, 42, 89, 180, 1, 139, 27, 28, 184, 1, 142]
abbrev dktX5_isLawfulIn_0 : List UInt8 := dkwX5_isLawfulIn_0 ++ dktX5_isLawfulIn_1
theorem dksX5_isLawfulIn_0 : cX5_isLawfulIn.data.toList.drop 0 = dktX5_isLawfulIn_0 := by decide +kernel
theorem dksX5_isLawfulIn_1 : cX5_isLawfulIn.data.toList.drop 23 = dktX5_isLawfulIn_1 := dk_seg dksX5_isLawfulIn_0 23 rfl rfl
theorem dksX5_isLawfulIn_2 : cX5_isLawfulIn.data.toList.drop 45 = dktX5_isLawfulIn_2 := dk_seg dksX5_isLawfulIn_1 22 rfl rfl
theorem dX5_isLawfulIn_0 : decode cX5_isLawfulIn 0 = .ok (.iconst 0, 1) := dk_3 (dk_at dksX5_isLawfulIn_0 0 rfl rfl)
theorem dX5_isLawfulIn_1 : decode cX5_isLawfulIn 1 = .ok (.istore_n 2, 1) := dk_61 (dk_at dksX5_isLawfulIn_0 1 rfl rfl)
theorem dX5_isLawfulIn_2 : decode cX5_isLawfulIn 2 = .ok (.iload_n 2, 1) := dk_28 (dk_at dksX5_isLawfulIn_0 2 rfl rfl)
theorem dX5_isLawfulIn_3 : decode cX5_isLawfulIn 3 = .ok (.aload_n 0, 1) := dk_42 (dk_at dksX5_isLawfulIn_0 3 rfl rfl)
theorem dX5_isLawfulIn_4 : decode cX5_isLawfulIn 4 = .ok (.getfield 380, 3) := dk_180 1 124 (dk_at dksX5_isLawfulIn_0 4 rfl rfl)
theorem dX5_isLawfulIn_7 : decode cX5_isLawfulIn 7 = .ok (.getfield 363, 3) := dk_180 1 107 (dk_at dksX5_isLawfulIn_0 7 rfl rfl)
theorem dX5_isLawfulIn_10 : decode cX5_isLawfulIn 10 = .ok (.if_icmp .ge 41, 3) := dk_162 0 41 (dk_at dksX5_isLawfulIn_0 10 rfl rfl)
theorem dX5_isLawfulIn_13 : decode cX5_isLawfulIn 13 = .ok (.aload_n 0, 1) := dk_42 (dk_at dksX5_isLawfulIn_0 13 rfl rfl)
theorem dX5_isLawfulIn_14 : decode cX5_isLawfulIn 14 = .ok (.dup, 1) := dk_89 (dk_at dksX5_isLawfulIn_0 14 rfl rfl)
theorem dX5_isLawfulIn_15 : decode cX5_isLawfulIn 15 = .ok (.getfield 395, 3) := dk_180 1 139 (dk_at dksX5_isLawfulIn_0 15 rfl rfl)
theorem dX5_isLawfulIn_18 : decode cX5_isLawfulIn 18 = .ok (.iload_n 1, 1) := dk_27 (dk_at dksX5_isLawfulIn_0 18 rfl rfl)
theorem dX5_isLawfulIn_19 : decode cX5_isLawfulIn 19 = .ok (.iload_n 2, 1) := dk_28 (dk_at dksX5_isLawfulIn_0 19 rfl rfl)
theorem dX5_isLawfulIn_20 : decode cX5_isLawfulIn 20 = .ok (.invokestatic 398, 3) := dk_184 1 142 (dk_at dksX5_isLawfulIn_0 20 rfl rfl)
theorem dX5_isLawfulIn_23 : decode cX5_isLawfulIn 23 = .ok (.ifCond .eq 17, 3) := dk_153 0 17 (dk_at dksX5_isLawfulIn_1 0 rfl rfl)
theorem dX5_isLawfulIn_26 : decode cX5_isLawfulIn 26 = .ok (.iconst 1, 1) := dk_4 (dk_at dksX5_isLawfulIn_1 3 rfl rfl)
theorem dX5_isLawfulIn_27 : decode cX5_isLawfulIn 27 = .ok (.aload_n 0, 1) := dk_42 (dk_at dksX5_isLawfulIn_1 4 rfl rfl)
theorem dX5_isLawfulIn_28 : decode cX5_isLawfulIn 28 = .ok (.getfield 380, 3) := dk_180 1 124 (dk_at dksX5_isLawfulIn_1 5 rfl rfl)
theorem dX5_isLawfulIn_31 : decode cX5_isLawfulIn 31 = .ok (.getfield 366, 3) := dk_180 1 110 (dk_at dksX5_isLawfulIn_1 8 rfl rfl)
theorem dX5_isLawfulIn_34 : decode cX5_isLawfulIn 34 = .ok (.iload_n 2, 1) := dk_28 (dk_at dksX5_isLawfulIn_1 11 rfl rfl)
theorem dX5_isLawfulIn_35 : decode cX5_isLawfulIn 35 = .ok (.iaload, 1) := dk_46 (dk_at dksX5_isLawfulIn_1 12 rfl rfl)
theorem dX5_isLawfulIn_36 : decode cX5_isLawfulIn 36 = .ok (.ishl, 1) := dk_120 (dk_at dksX5_isLawfulIn_1 13 rfl rfl)
theorem dX5_isLawfulIn_37 : decode cX5_isLawfulIn 37 = .ok (.goto 4, 3) := dk_167 0 4 (dk_at dksX5_isLawfulIn_1 14 rfl rfl)
theorem dX5_isLawfulIn_40 : decode cX5_isLawfulIn 40 = .ok (.iconst 0, 1) := dk_3 (dk_at dksX5_isLawfulIn_1 17 rfl rfl)
theorem dX5_isLawfulIn_41 : decode cX5_isLawfulIn 41 = .ok (.ior, 1) := dk_128 (dk_at dksX5_isLawfulIn_1 18 rfl rfl)
theorem dX5_isLawfulIn_42 : decode cX5_isLawfulIn 42 = .ok (.putfield 395, 3) := dk_181 1 139 (dk_at dksX5_isLawfulIn_1 19 rfl rfl)
theorem dX5_isLawfulIn_45 : decode cX5_isLawfulIn 45 = .ok (.iinc 2 1, 3) := dk_132 2 1 (dk_at dksX5_isLawfulIn_2 0 rfl rfl)
theorem dX5_isLawfulIn_48 : decode cX5_isLawfulIn 48 = .ok (.goto (-46), 3) := dk_167 255 210 (dk_at dksX5_isLawfulIn_2 3 rfl rfl)
theorem dX5_isLawfulIn_51 : decode cX5_isLawfulIn 51 = .ok (.aload_n 0, 1) := dk_42 (dk_at dksX5_isLawfulIn_2 6 rfl rfl)
theorem dX5_isLawfulIn_52 : decode cX5_isLawfulIn 52 = .ok (.invokevirtual 446, 3) := dk_182 1 190 (dk_at dksX5_isLawfulIn_2 7 rfl rfl)
theorem dX5_isLawfulIn_55 : decode cX5_isLawfulIn 55 = .ok (.istore_n 2, 1) := dk_61 (dk_at dksX5_isLawfulIn_2 10 rfl rfl)
theorem dX5_isLawfulIn_56 : decode cX5_isLawfulIn 56 = .ok (.aload_n 0, 1) := dk_42 (dk_at dksX5_isLawfulIn_2 11 rfl rfl)
theorem dX5_isLawfulIn_57 : decode cX5_isLawfulIn 57 = .ok (.iconst 0, 1) := dk_3 (dk_at dksX5_isLawfulIn_2 12 rfl rfl)
theorem dX5_isLawfulIn_58 : decode cX5_isLawfulIn 58 = .ok (.putfield 395, 3) := dk_181 1 139 (dk_at dksX5_isLawfulIn_2 13 rfl rfl)
theorem dX5_isLawfulIn_61 : decode cX5_isLawfulIn 61 = .ok (.iload_n 2, 1) := dk_28 (dk_at dksX5_isLawfulIn_2 16 rfl rfl)
theorem dX5_isLawfulIn_62 : decode cX5_isLawfulIn 62 = .ok (.ireturn, 1) := dk_172 (dk_at dksX5_isLawfulIn_2 17 rfl rfl)
abbrev cX5_ready : ByteArray := prog_15_method_121_code
def yX5_ready : MethodName := ⟨RX5, "ready", "()I"⟩
def dkwX5_ready_2 : List UInt8 := [167, 0, 4, 3, 128, 60, 132, 2, 1, 167, 255, 222, 42, 27, 3, 182, 0, 66, 172]
abbrev dktX5_ready_2 : List UInt8 := dkwX5_ready_2 ++ []
def dkwX5_ready_1 : List UInt8 := [180, 1, 124, 180, 1, 107, 162, 0, 29, 27, 42, 4, 28, 120, 182, 2, 46, 153, 0, 9, 4, 28, 120]
abbrev dktX5_ready_1 : List UInt8 := dkwX5_ready_1 ++ dktX5_ready_2
def dkwX5_ready_0 : List UInt8 := [42, 3, 181, 0, 56, 42, 180, 1, 124, 199, 0, 9, 42, 4, 182, 0, 62, 172, 3, 60, 3, 61, 28, 42]
abbrev dktX5_ready_0 : List UInt8 := dkwX5_ready_0 ++ dktX5_ready_1
theorem dksX5_ready_0 : cX5_ready.data.toList.drop 0 = dktX5_ready_0 := by decide +kernel
theorem dksX5_ready_1 : cX5_ready.data.toList.drop 24 = dktX5_ready_1 := dk_seg dksX5_ready_0 24 rfl rfl
theorem dksX5_ready_2 : cX5_ready.data.toList.drop 47 = dktX5_ready_2 := dk_seg dksX5_ready_1 23 rfl rfl
theorem dX5_ready_0 : decode cX5_ready 0 = .ok (.aload_n 0, 1) := dk_42 (dk_at dksX5_ready_0 0 rfl rfl)
theorem dX5_ready_1 : decode cX5_ready 1 = .ok (.iconst 0, 1) := dk_3 (dk_at dksX5_ready_0 1 rfl rfl)
theorem dX5_ready_2 : decode cX5_ready 2 = .ok (.putfield 56, 3) := dk_181 0 56 (dk_at dksX5_ready_0 2 rfl rfl)
theorem dX5_ready_5 : decode cX5_ready 5 = .ok (.aload_n 0, 1) := dk_42 (dk_at dksX5_ready_0 5 rfl rfl)
theorem dX5_ready_6 : decode cX5_ready 6 = .ok (.getfield 380, 3) := dk_180 1 124 (dk_at dksX5_ready_0 6 rfl rfl)
theorem dX5_ready_9 : decode cX5_ready 9 = .ok (.ifnonnull 9, 3) := dk_199 0 9 (dk_at dksX5_ready_0 9 rfl rfl)
theorem dX5_ready_12 : decode cX5_ready 12 = .ok (.aload_n 0, 1) := dk_42 (dk_at dksX5_ready_0 12 rfl rfl)
theorem dX5_ready_13 : decode cX5_ready 13 = .ok (.iconst 1, 1) := dk_4 (dk_at dksX5_ready_0 13 rfl rfl)
theorem dX5_ready_14 : decode cX5_ready 14 = .ok (.invokevirtual 62, 3) := dk_182 0 62 (dk_at dksX5_ready_0 14 rfl rfl)
theorem dX5_ready_17 : decode cX5_ready 17 = .ok (.ireturn, 1) := dk_172 (dk_at dksX5_ready_0 17 rfl rfl)
theorem dX5_ready_18 : decode cX5_ready 18 = .ok (.iconst 0, 1) := dk_3 (dk_at dksX5_ready_0 18 rfl rfl)
theorem dX5_ready_19 : decode cX5_ready 19 = .ok (.istore_n 1, 1) := dk_60 (dk_at dksX5_ready_0 19 rfl rfl)
theorem dX5_ready_20 : decode cX5_ready 20 = .ok (.iconst 0, 1) := dk_3 (dk_at dksX5_ready_0 20 rfl rfl)
theorem dX5_ready_21 : decode cX5_ready 21 = .ok (.istore_n 2, 1) := dk_61 (dk_at dksX5_ready_0 21 rfl rfl)
theorem dX5_ready_22 : decode cX5_ready 22 = .ok (.iload_n 2, 1) := dk_28 (dk_at dksX5_ready_0 22 rfl rfl)
theorem dX5_ready_23 : decode cX5_ready 23 = .ok (.aload_n 0, 1) := dk_42 (dk_at dksX5_ready_0 23 rfl rfl)
theorem dX5_ready_24 : decode cX5_ready 24 = .ok (.getfield 380, 3) := dk_180 1 124 (dk_at dksX5_ready_1 0 rfl rfl)
theorem dX5_ready_27 : decode cX5_ready 27 = .ok (.getfield 363, 3) := dk_180 1 107 (dk_at dksX5_ready_1 3 rfl rfl)
theorem dX5_ready_30 : decode cX5_ready 30 = .ok (.if_icmp .ge 29, 3) := dk_162 0 29 (dk_at dksX5_ready_1 6 rfl rfl)
theorem dX5_ready_33 : decode cX5_ready 33 = .ok (.iload_n 1, 1) := dk_27 (dk_at dksX5_ready_1 9 rfl rfl)
theorem dX5_ready_34 : decode cX5_ready 34 = .ok (.aload_n 0, 1) := dk_42 (dk_at dksX5_ready_1 10 rfl rfl)
theorem dX5_ready_35 : decode cX5_ready 35 = .ok (.iconst 1, 1) := dk_4 (dk_at dksX5_ready_1 11 rfl rfl)
theorem dX5_ready_36 : decode cX5_ready 36 = .ok (.iload_n 2, 1) := dk_28 (dk_at dksX5_ready_1 12 rfl rfl)
theorem dX5_ready_37 : decode cX5_ready 37 = .ok (.ishl, 1) := dk_120 (dk_at dksX5_ready_1 13 rfl rfl)
theorem dX5_ready_38 : decode cX5_ready 38 = .ok (.invokevirtual 558, 3) := dk_182 2 46 (dk_at dksX5_ready_1 14 rfl rfl)
theorem dX5_ready_41 : decode cX5_ready 41 = .ok (.ifCond .eq 9, 3) := dk_153 0 9 (dk_at dksX5_ready_1 17 rfl rfl)
theorem dX5_ready_44 : decode cX5_ready 44 = .ok (.iconst 1, 1) := dk_4 (dk_at dksX5_ready_1 20 rfl rfl)
theorem dX5_ready_45 : decode cX5_ready 45 = .ok (.iload_n 2, 1) := dk_28 (dk_at dksX5_ready_1 21 rfl rfl)
theorem dX5_ready_46 : decode cX5_ready 46 = .ok (.ishl, 1) := dk_120 (dk_at dksX5_ready_1 22 rfl rfl)
theorem dX5_ready_47 : decode cX5_ready 47 = .ok (.goto 4, 3) := dk_167 0 4 (dk_at dksX5_ready_2 0 rfl rfl)
theorem dX5_ready_50 : decode cX5_ready 50 = .ok (.iconst 0, 1) := dk_3 (dk_at dksX5_ready_2 3 rfl rfl)
theorem dX5_ready_51 : decode cX5_ready 51 = .ok (.ior, 1) := dk_128 (dk_at dksX5_ready_2 4 rfl rfl)
theorem dX5_ready_52 : decode cX5_ready 52 = .ok (.istore_n 1, 1) := dk_60 (dk_at dksX5_ready_2 5 rfl rfl)
theorem dX5_ready_53 : decode cX5_ready 53 = .ok (.iinc 2 1, 3) := dk_132 2 1 (dk_at dksX5_ready_2 6 rfl rfl)
theorem dX5_ready_56 : decode cX5_ready 56 = .ok (.goto (-34), 3) := dk_167 255 222 (dk_at dksX5_ready_2 9 rfl rfl)
theorem dX5_ready_59 : decode cX5_ready 59 = .ok (.aload_n 0, 1) := dk_42 (dk_at dksX5_ready_2 12 rfl rfl)
theorem dX5_ready_60 : decode cX5_ready 60 = .ok (.iload_n 1, 1) := dk_27 (dk_at dksX5_ready_2 13 rfl rfl)
theorem dX5_ready_61 : decode cX5_ready 61 = .ok (.iconst 0, 1) := dk_3 (dk_at dksX5_ready_2 14 rfl rfl)
theorem dX5_ready_62 : decode cX5_ready 62 = .ok (.invokevirtual 66, 3) := dk_182 0 66 (dk_at dksX5_ready_2 15 rfl rfl)
theorem dX5_ready_65 : decode cX5_ready 65 = .ok (.ireturn, 1) := dk_172 (dk_at dksX5_ready_2 18 rfl rfl)
abbrev cX5_seed : ByteArray := prog_15_method_122_code
def yX5_seed : MethodName := ⟨RX5, "seed", "(I)Z"⟩
def dkwX5_seed_1 : List UInt8 := [184, 0, 135, 154, 0, 9, 42, 5, 182, 1, 181, 172, 42, 27, 181, 1, 130, 42, 182, 1, 184, 172]
abbrev dktX5_seed_1 : List UInt8 := dkwX5_seed_1 ++ []
def dkwX5_seed_0 : List UInt8 := [42, 3, 181, 0, 56, 42, 180, 1, 124, 199, 0, 9, 42, 4, 182, 1, 181, 172, 27, 3, 19, 2, 49]
abbrev dktX5_seed_0 : List UInt8 := dkwX5_seed_0 ++ dktX5_seed_1
theorem dksX5_seed_0 : cX5_seed.data.toList.drop 0 = dktX5_seed_0 := by decide +kernel
theorem dksX5_seed_1 : cX5_seed.data.toList.drop 23 = dktX5_seed_1 := dk_seg dksX5_seed_0 23 rfl rfl
theorem dX5_seed_0 : decode cX5_seed 0 = .ok (.aload_n 0, 1) := dk_42 (dk_at dksX5_seed_0 0 rfl rfl)
theorem dX5_seed_1 : decode cX5_seed 1 = .ok (.iconst 0, 1) := dk_3 (dk_at dksX5_seed_0 1 rfl rfl)
theorem dX5_seed_2 : decode cX5_seed 2 = .ok (.putfield 56, 3) := dk_181 0 56 (dk_at dksX5_seed_0 2 rfl rfl)
theorem dX5_seed_5 : decode cX5_seed 5 = .ok (.aload_n 0, 1) := dk_42 (dk_at dksX5_seed_0 5 rfl rfl)
theorem dX5_seed_6 : decode cX5_seed 6 = .ok (.getfield 380, 3) := dk_180 1 124 (dk_at dksX5_seed_0 6 rfl rfl)
theorem dX5_seed_9 : decode cX5_seed 9 = .ok (.ifnonnull 9, 3) := dk_199 0 9 (dk_at dksX5_seed_0 9 rfl rfl)
theorem dX5_seed_12 : decode cX5_seed 12 = .ok (.aload_n 0, 1) := dk_42 (dk_at dksX5_seed_0 12 rfl rfl)
theorem dX5_seed_13 : decode cX5_seed 13 = .ok (.iconst 1, 1) := dk_4 (dk_at dksX5_seed_0 13 rfl rfl)
theorem dX5_seed_14 : decode cX5_seed 14 = .ok (.invokevirtual 437, 3) := dk_182 1 181 (dk_at dksX5_seed_0 14 rfl rfl)
theorem dX5_seed_17 : decode cX5_seed 17 = .ok (.ireturn, 1) := dk_172 (dk_at dksX5_seed_0 17 rfl rfl)
theorem dX5_seed_18 : decode cX5_seed 18 = .ok (.iload_n 1, 1) := dk_27 (dk_at dksX5_seed_0 18 rfl rfl)
theorem dX5_seed_19 : decode cX5_seed 19 = .ok (.iconst 0, 1) := dk_3 (dk_at dksX5_seed_0 19 rfl rfl)
theorem dX5_seed_20 : decode cX5_seed 20 = .ok (.ldc_w 561, 3) := dk_19 2 49 (dk_at dksX5_seed_0 20 rfl rfl)
theorem dX5_seed_23 : decode cX5_seed 23 = .ok (.invokestatic 135, 3) := dk_184 0 135 (dk_at dksX5_seed_1 0 rfl rfl)
theorem dX5_seed_26 : decode cX5_seed 26 = .ok (.ifCond .ne 9, 3) := dk_154 0 9 (dk_at dksX5_seed_1 3 rfl rfl)
theorem dX5_seed_29 : decode cX5_seed 29 = .ok (.aload_n 0, 1) := dk_42 (dk_at dksX5_seed_1 6 rfl rfl)
theorem dX5_seed_30 : decode cX5_seed 30 = .ok (.iconst 2, 1) := dk_5 (dk_at dksX5_seed_1 7 rfl rfl)
theorem dX5_seed_31 : decode cX5_seed 31 = .ok (.invokevirtual 437, 3) := dk_182 1 181 (dk_at dksX5_seed_1 8 rfl rfl)
theorem dX5_seed_34 : decode cX5_seed 34 = .ok (.ireturn, 1) := dk_172 (dk_at dksX5_seed_1 11 rfl rfl)
theorem dX5_seed_35 : decode cX5_seed 35 = .ok (.aload_n 0, 1) := dk_42 (dk_at dksX5_seed_1 12 rfl rfl)
theorem dX5_seed_36 : decode cX5_seed 36 = .ok (.iload_n 1, 1) := dk_27 (dk_at dksX5_seed_1 13 rfl rfl)
theorem dX5_seed_37 : decode cX5_seed 37 = .ok (.putfield 386, 3) := dk_181 1 130 (dk_at dksX5_seed_1 14 rfl rfl)
theorem dX5_seed_40 : decode cX5_seed 40 = .ok (.aload_n 0, 1) := dk_42 (dk_at dksX5_seed_1 17 rfl rfl)
theorem dX5_seed_41 : decode cX5_seed 41 = .ok (.invokevirtual 440, 3) := dk_182 1 184 (dk_at dksX5_seed_1 18 rfl rfl)
theorem dX5_seed_44 : decode cX5_seed 44 = .ok (.ireturn, 1) := dk_172 (dk_at dksX5_seed_1 21 rfl rfl)
abbrev cX5_drift : ByteArray := prog_15_method_124_code
def yX5_drift : MethodName := ⟨RX5, "drift", "()I"⟩
def dkwX5_drift_8 : List UInt8 := [27, 3, 182, 0, 66, 172]
abbrev dktX5_drift_8 : List UInt8 := dkwX5_drift_8 ++ []
def dkwX5_drift_7 : List UInt8 := [153, 0, 9, 132, 1, 1, 167, 0, 11, 42, 180, 0, 17, 28, 21, 7, 79, 132, 2, 1, 167, 255, 124, 42]
abbrev dktX5_drift_7 : List UInt8 := dkwX5_drift_7 ++ dktX5_drift_8
def dkwX5_drift_6 : List UInt8 := [167, 255, 243, 42, 180, 0, 17, 28, 46, 54, 7, 42, 180, 0, 17, 28, 21, 6, 79, 42, 182, 1, 190]
abbrev dktX5_drift_6 : List UInt8 := dkwX5_drift_6 ++ dktX5_drift_7
def dkwX5_drift_5 : List UInt8 := [132, 6, 1, 167, 255, 237, 3, 54, 6, 21, 5, 21, 6, 184, 1, 142, 154, 0, 9, 132, 6, 1]
abbrev dktX5_drift_5 : List UInt8 := dkwX5_drift_5 ++ dktX5_drift_6
def dkwX5_drift_4 : List UInt8 := [29, 54, 5, 4, 54, 6, 21, 6, 21, 4, 162, 0, 18, 21, 5, 21, 5, 4, 100, 126, 54, 5]
abbrev dktX5_drift_4 : List UInt8 := dkwX5_drift_4 ++ dktX5_drift_5
def dkwX5_drift_3 : List UInt8 := [182, 1, 193, 62, 42, 4, 29, 184, 1, 205, 96, 182, 2, 56, 54, 4, 21, 4, 154, 0, 6, 167, 0, 87]
abbrev dktX5_drift_3 : List UInt8 := dkwX5_drift_3 ++ dktX5_drift_4
def dkwX5_drift_2 : List UInt8 := [3, 61, 28, 42, 180, 1, 124, 180, 0, 221, 162, 0, 127, 42, 180, 1, 124, 42, 180, 0, 17, 28, 46]
abbrev dktX5_drift_2 : List UInt8 := dkwX5_drift_2 ++ dktX5_drift_3
def dkwX5_drift_1 : List UInt8 := [154, 0, 9, 42, 8, 182, 0, 62, 172, 42, 42, 180, 1, 127, 4, 96, 16, 100, 112, 181, 1, 127, 3, 60]
abbrev dktX5_drift_1 : List UInt8 := dkwX5_drift_1 ++ dktX5_drift_2
def dkwX5_drift_0 : List UInt8 := [42, 3, 181, 0, 56, 42, 180, 1, 124, 199, 0, 9, 42, 4, 182, 0, 62, 172, 42, 182, 1, 190]
abbrev dktX5_drift_0 : List UInt8 := dkwX5_drift_0 ++ dktX5_drift_1
theorem dksX5_drift_0 : cX5_drift.data.toList.drop 0 = dktX5_drift_0 := by decide +kernel
theorem dksX5_drift_1 : cX5_drift.data.toList.drop 22 = dktX5_drift_1 := dk_seg dksX5_drift_0 22 rfl rfl
theorem dksX5_drift_2 : cX5_drift.data.toList.drop 46 = dktX5_drift_2 := dk_seg dksX5_drift_1 24 rfl rfl
theorem dksX5_drift_3 : cX5_drift.data.toList.drop 69 = dktX5_drift_3 := dk_seg dksX5_drift_2 23 rfl rfl
theorem dksX5_drift_4 : cX5_drift.data.toList.drop 93 = dktX5_drift_4 := dk_seg dksX5_drift_3 24 rfl rfl
theorem dksX5_drift_5 : cX5_drift.data.toList.drop 115 = dktX5_drift_5 := dk_seg dksX5_drift_4 22 rfl rfl
theorem dksX5_drift_6 : cX5_drift.data.toList.drop 137 = dktX5_drift_6 := dk_seg dksX5_drift_5 22 rfl rfl
theorem dksX5_drift_7 : cX5_drift.data.toList.drop 160 = dktX5_drift_7 := dk_seg dksX5_drift_6 23 rfl rfl
theorem dksX5_drift_8 : cX5_drift.data.toList.drop 184 = dktX5_drift_8 := dk_seg dksX5_drift_7 24 rfl rfl
theorem dX5_drift_0 : decode cX5_drift 0 = .ok (.aload_n 0, 1) := dk_42 (dk_at dksX5_drift_0 0 rfl rfl)
theorem dX5_drift_1 : decode cX5_drift 1 = .ok (.iconst 0, 1) := dk_3 (dk_at dksX5_drift_0 1 rfl rfl)
theorem dX5_drift_2 : decode cX5_drift 2 = .ok (.putfield 56, 3) := dk_181 0 56 (dk_at dksX5_drift_0 2 rfl rfl)
theorem dX5_drift_5 : decode cX5_drift 5 = .ok (.aload_n 0, 1) := dk_42 (dk_at dksX5_drift_0 5 rfl rfl)
theorem dX5_drift_6 : decode cX5_drift 6 = .ok (.getfield 380, 3) := dk_180 1 124 (dk_at dksX5_drift_0 6 rfl rfl)
theorem dX5_drift_9 : decode cX5_drift 9 = .ok (.ifnonnull 9, 3) := dk_199 0 9 (dk_at dksX5_drift_0 9 rfl rfl)
theorem dX5_drift_12 : decode cX5_drift 12 = .ok (.aload_n 0, 1) := dk_42 (dk_at dksX5_drift_0 12 rfl rfl)
theorem dX5_drift_13 : decode cX5_drift 13 = .ok (.iconst 1, 1) := dk_4 (dk_at dksX5_drift_0 13 rfl rfl)
theorem dX5_drift_14 : decode cX5_drift 14 = .ok (.invokevirtual 62, 3) := dk_182 0 62 (dk_at dksX5_drift_0 14 rfl rfl)
theorem dX5_drift_17 : decode cX5_drift 17 = .ok (.ireturn, 1) := dk_172 (dk_at dksX5_drift_0 17 rfl rfl)
theorem dX5_drift_18 : decode cX5_drift 18 = .ok (.aload_n 0, 1) := dk_42 (dk_at dksX5_drift_0 18 rfl rfl)
theorem dX5_drift_19 : decode cX5_drift 19 = .ok (.invokevirtual 446, 3) := dk_182 1 190 (dk_at dksX5_drift_0 19 rfl rfl)
theorem dX5_drift_22 : decode cX5_drift 22 = .ok (.ifCond .ne 9, 3) := dk_154 0 9 (dk_at dksX5_drift_1 0 rfl rfl)
theorem dX5_drift_25 : decode cX5_drift 25 = .ok (.aload_n 0, 1) := dk_42 (dk_at dksX5_drift_1 3 rfl rfl)
theorem dX5_drift_26 : decode cX5_drift 26 = .ok (.iconst 5, 1) := dk_8 (dk_at dksX5_drift_1 4 rfl rfl)
theorem dX5_drift_27 : decode cX5_drift 27 = .ok (.invokevirtual 62, 3) := dk_182 0 62 (dk_at dksX5_drift_1 5 rfl rfl)
theorem dX5_drift_30 : decode cX5_drift 30 = .ok (.ireturn, 1) := dk_172 (dk_at dksX5_drift_1 8 rfl rfl)
theorem dX5_drift_31 : decode cX5_drift 31 = .ok (.aload_n 0, 1) := dk_42 (dk_at dksX5_drift_1 9 rfl rfl)
theorem dX5_drift_32 : decode cX5_drift 32 = .ok (.aload_n 0, 1) := dk_42 (dk_at dksX5_drift_1 10 rfl rfl)
theorem dX5_drift_33 : decode cX5_drift 33 = .ok (.getfield 383, 3) := dk_180 1 127 (dk_at dksX5_drift_1 11 rfl rfl)
theorem dX5_drift_36 : decode cX5_drift 36 = .ok (.iconst 1, 1) := dk_4 (dk_at dksX5_drift_1 14 rfl rfl)
theorem dX5_drift_37 : decode cX5_drift 37 = .ok (.iadd, 1) := dk_96 (dk_at dksX5_drift_1 15 rfl rfl)
theorem dX5_drift_38 : decode cX5_drift 38 = .ok (.bipush 100, 2) := dk_16 100 (dk_at dksX5_drift_1 16 rfl rfl)
theorem dX5_drift_40 : decode cX5_drift 40 = .ok (.irem, 1) := dk_112 (dk_at dksX5_drift_1 18 rfl rfl)
theorem dX5_drift_41 : decode cX5_drift 41 = .ok (.putfield 383, 3) := dk_181 1 127 (dk_at dksX5_drift_1 19 rfl rfl)
theorem dX5_drift_44 : decode cX5_drift 44 = .ok (.iconst 0, 1) := dk_3 (dk_at dksX5_drift_1 22 rfl rfl)
theorem dX5_drift_45 : decode cX5_drift 45 = .ok (.istore_n 1, 1) := dk_60 (dk_at dksX5_drift_1 23 rfl rfl)
theorem dX5_drift_46 : decode cX5_drift 46 = .ok (.iconst 0, 1) := dk_3 (dk_at dksX5_drift_2 0 rfl rfl)
theorem dX5_drift_47 : decode cX5_drift 47 = .ok (.istore_n 2, 1) := dk_61 (dk_at dksX5_drift_2 1 rfl rfl)
theorem dX5_drift_48 : decode cX5_drift 48 = .ok (.iload_n 2, 1) := dk_28 (dk_at dksX5_drift_2 2 rfl rfl)
theorem dX5_drift_49 : decode cX5_drift 49 = .ok (.aload_n 0, 1) := dk_42 (dk_at dksX5_drift_2 3 rfl rfl)
theorem dX5_drift_50 : decode cX5_drift 50 = .ok (.getfield 380, 3) := dk_180 1 124 (dk_at dksX5_drift_2 4 rfl rfl)
theorem dX5_drift_53 : decode cX5_drift 53 = .ok (.getfield 221, 3) := dk_180 0 221 (dk_at dksX5_drift_2 7 rfl rfl)
theorem dX5_drift_56 : decode cX5_drift 56 = .ok (.if_icmp .ge 127, 3) := dk_162 0 127 (dk_at dksX5_drift_2 10 rfl rfl)
theorem dX5_drift_59 : decode cX5_drift 59 = .ok (.aload_n 0, 1) := dk_42 (dk_at dksX5_drift_2 13 rfl rfl)
theorem dX5_drift_60 : decode cX5_drift 60 = .ok (.getfield 380, 3) := dk_180 1 124 (dk_at dksX5_drift_2 14 rfl rfl)
theorem dX5_drift_63 : decode cX5_drift 63 = .ok (.aload_n 0, 1) := dk_42 (dk_at dksX5_drift_2 17 rfl rfl)
theorem dX5_drift_64 : decode cX5_drift 64 = .ok (.getfield 17, 3) := dk_180 0 17 (dk_at dksX5_drift_2 18 rfl rfl)
theorem dX5_drift_67 : decode cX5_drift 67 = .ok (.iload_n 2, 1) := dk_28 (dk_at dksX5_drift_2 21 rfl rfl)
theorem dX5_drift_68 : decode cX5_drift 68 = .ok (.iaload, 1) := dk_46 (dk_at dksX5_drift_2 22 rfl rfl)
theorem dX5_drift_69 : decode cX5_drift 69 = .ok (.invokevirtual 449, 3) := dk_182 1 193 (dk_at dksX5_drift_3 0 rfl rfl)
theorem dX5_drift_72 : decode cX5_drift 72 = .ok (.istore_n 3, 1) := dk_62 (dk_at dksX5_drift_3 3 rfl rfl)
theorem dX5_drift_73 : decode cX5_drift 73 = .ok (.aload_n 0, 1) := dk_42 (dk_at dksX5_drift_3 4 rfl rfl)
theorem dX5_drift_74 : decode cX5_drift 74 = .ok (.iconst 1, 1) := dk_4 (dk_at dksX5_drift_3 5 rfl rfl)
theorem dX5_drift_75 : decode cX5_drift 75 = .ok (.iload_n 3, 1) := dk_29 (dk_at dksX5_drift_3 6 rfl rfl)
theorem dX5_drift_76 : decode cX5_drift 76 = .ok (.invokestatic 461, 3) := dk_184 1 205 (dk_at dksX5_drift_3 7 rfl rfl)
theorem dX5_drift_79 : decode cX5_drift 79 = .ok (.iadd, 1) := dk_96 (dk_at dksX5_drift_3 10 rfl rfl)
theorem dX5_drift_80 : decode cX5_drift 80 = .ok (.invokevirtual 568, 3) := dk_182 2 56 (dk_at dksX5_drift_3 11 rfl rfl)
theorem dX5_drift_83 : decode cX5_drift 83 = .ok (.istore 4, 2) := dk_54 4 (dk_at dksX5_drift_3 14 rfl rfl)
theorem dX5_drift_85 : decode cX5_drift 85 = .ok (.iload 4, 2) := dk_21 4 (dk_at dksX5_drift_3 16 rfl rfl)
theorem dX5_drift_87 : decode cX5_drift 87 = .ok (.ifCond .ne 6, 3) := dk_154 0 6 (dk_at dksX5_drift_3 18 rfl rfl)
theorem dX5_drift_90 : decode cX5_drift 90 = .ok (.goto 87, 3) := dk_167 0 87 (dk_at dksX5_drift_3 21 rfl rfl)
theorem dX5_drift_93 : decode cX5_drift 93 = .ok (.iload_n 3, 1) := dk_29 (dk_at dksX5_drift_4 0 rfl rfl)
theorem dX5_drift_94 : decode cX5_drift 94 = .ok (.istore 5, 2) := dk_54 5 (dk_at dksX5_drift_4 1 rfl rfl)
theorem dX5_drift_96 : decode cX5_drift 96 = .ok (.iconst 1, 1) := dk_4 (dk_at dksX5_drift_4 3 rfl rfl)
theorem dX5_drift_97 : decode cX5_drift 97 = .ok (.istore 6, 2) := dk_54 6 (dk_at dksX5_drift_4 4 rfl rfl)
theorem dX5_drift_99 : decode cX5_drift 99 = .ok (.iload 6, 2) := dk_21 6 (dk_at dksX5_drift_4 6 rfl rfl)
theorem dX5_drift_101 : decode cX5_drift 101 = .ok (.iload 4, 2) := dk_21 4 (dk_at dksX5_drift_4 8 rfl rfl)
theorem dX5_drift_103 : decode cX5_drift 103 = .ok (.if_icmp .ge 18, 3) := dk_162 0 18 (dk_at dksX5_drift_4 10 rfl rfl)
theorem dX5_drift_106 : decode cX5_drift 106 = .ok (.iload 5, 2) := dk_21 5 (dk_at dksX5_drift_4 13 rfl rfl)
theorem dX5_drift_108 : decode cX5_drift 108 = .ok (.iload 5, 2) := dk_21 5 (dk_at dksX5_drift_4 15 rfl rfl)
theorem dX5_drift_110 : decode cX5_drift 110 = .ok (.iconst 1, 1) := dk_4 (dk_at dksX5_drift_4 17 rfl rfl)
theorem dX5_drift_111 : decode cX5_drift 111 = .ok (.isub, 1) := dk_100 (dk_at dksX5_drift_4 18 rfl rfl)
theorem dX5_drift_112 : decode cX5_drift 112 = .ok (.iand, 1) := dk_126 (dk_at dksX5_drift_4 19 rfl rfl)
theorem dX5_drift_113 : decode cX5_drift 113 = .ok (.istore 5, 2) := dk_54 5 (dk_at dksX5_drift_4 20 rfl rfl)
theorem dX5_drift_115 : decode cX5_drift 115 = .ok (.iinc 6 1, 3) := dk_132 6 1 (dk_at dksX5_drift_5 0 rfl rfl)
theorem dX5_drift_118 : decode cX5_drift 118 = .ok (.goto (-19), 3) := dk_167 255 237 (dk_at dksX5_drift_5 3 rfl rfl)
theorem dX5_drift_121 : decode cX5_drift 121 = .ok (.iconst 0, 1) := dk_3 (dk_at dksX5_drift_5 6 rfl rfl)
theorem dX5_drift_122 : decode cX5_drift 122 = .ok (.istore 6, 2) := dk_54 6 (dk_at dksX5_drift_5 7 rfl rfl)
theorem dX5_drift_124 : decode cX5_drift 124 = .ok (.iload 5, 2) := dk_21 5 (dk_at dksX5_drift_5 9 rfl rfl)
theorem dX5_drift_126 : decode cX5_drift 126 = .ok (.iload 6, 2) := dk_21 6 (dk_at dksX5_drift_5 11 rfl rfl)
theorem dX5_drift_128 : decode cX5_drift 128 = .ok (.invokestatic 398, 3) := dk_184 1 142 (dk_at dksX5_drift_5 13 rfl rfl)
theorem dX5_drift_131 : decode cX5_drift 131 = .ok (.ifCond .ne 9, 3) := dk_154 0 9 (dk_at dksX5_drift_5 16 rfl rfl)
theorem dX5_drift_134 : decode cX5_drift 134 = .ok (.iinc 6 1, 3) := dk_132 6 1 (dk_at dksX5_drift_5 19 rfl rfl)
theorem dX5_drift_137 : decode cX5_drift 137 = .ok (.goto (-13), 3) := dk_167 255 243 (dk_at dksX5_drift_6 0 rfl rfl)
theorem dX5_drift_140 : decode cX5_drift 140 = .ok (.aload_n 0, 1) := dk_42 (dk_at dksX5_drift_6 3 rfl rfl)
theorem dX5_drift_141 : decode cX5_drift 141 = .ok (.getfield 17, 3) := dk_180 0 17 (dk_at dksX5_drift_6 4 rfl rfl)
theorem dX5_drift_144 : decode cX5_drift 144 = .ok (.iload_n 2, 1) := dk_28 (dk_at dksX5_drift_6 7 rfl rfl)
theorem dX5_drift_145 : decode cX5_drift 145 = .ok (.iaload, 1) := dk_46 (dk_at dksX5_drift_6 8 rfl rfl)
theorem dX5_drift_146 : decode cX5_drift 146 = .ok (.istore 7, 2) := dk_54 7 (dk_at dksX5_drift_6 9 rfl rfl)
theorem dX5_drift_148 : decode cX5_drift 148 = .ok (.aload_n 0, 1) := dk_42 (dk_at dksX5_drift_6 11 rfl rfl)
theorem dX5_drift_149 : decode cX5_drift 149 = .ok (.getfield 17, 3) := dk_180 0 17 (dk_at dksX5_drift_6 12 rfl rfl)
theorem dX5_drift_152 : decode cX5_drift 152 = .ok (.iload_n 2, 1) := dk_28 (dk_at dksX5_drift_6 15 rfl rfl)
theorem dX5_drift_153 : decode cX5_drift 153 = .ok (.iload 6, 2) := dk_21 6 (dk_at dksX5_drift_6 16 rfl rfl)
theorem dX5_drift_155 : decode cX5_drift 155 = .ok (.iastore, 1) := dk_79 (dk_at dksX5_drift_6 18 rfl rfl)
theorem dX5_drift_156 : decode cX5_drift 156 = .ok (.aload_n 0, 1) := dk_42 (dk_at dksX5_drift_6 19 rfl rfl)
theorem dX5_drift_157 : decode cX5_drift 157 = .ok (.invokevirtual 446, 3) := dk_182 1 190 (dk_at dksX5_drift_6 20 rfl rfl)
theorem dX5_drift_160 : decode cX5_drift 160 = .ok (.ifCond .eq 9, 3) := dk_153 0 9 (dk_at dksX5_drift_7 0 rfl rfl)
theorem dX5_drift_163 : decode cX5_drift 163 = .ok (.iinc 1 1, 3) := dk_132 1 1 (dk_at dksX5_drift_7 3 rfl rfl)
theorem dX5_drift_166 : decode cX5_drift 166 = .ok (.goto 11, 3) := dk_167 0 11 (dk_at dksX5_drift_7 6 rfl rfl)
theorem dX5_drift_169 : decode cX5_drift 169 = .ok (.aload_n 0, 1) := dk_42 (dk_at dksX5_drift_7 9 rfl rfl)
theorem dX5_drift_170 : decode cX5_drift 170 = .ok (.getfield 17, 3) := dk_180 0 17 (dk_at dksX5_drift_7 10 rfl rfl)
theorem dX5_drift_173 : decode cX5_drift 173 = .ok (.iload_n 2, 1) := dk_28 (dk_at dksX5_drift_7 13 rfl rfl)
theorem dX5_drift_174 : decode cX5_drift 174 = .ok (.iload 7, 2) := dk_21 7 (dk_at dksX5_drift_7 14 rfl rfl)
theorem dX5_drift_176 : decode cX5_drift 176 = .ok (.iastore, 1) := dk_79 (dk_at dksX5_drift_7 16 rfl rfl)
theorem dX5_drift_177 : decode cX5_drift 177 = .ok (.iinc 2 1, 3) := dk_132 2 1 (dk_at dksX5_drift_7 17 rfl rfl)
theorem dX5_drift_180 : decode cX5_drift 180 = .ok (.goto (-132), 3) := dk_167 255 124 (dk_at dksX5_drift_7 20 rfl rfl)
theorem dX5_drift_183 : decode cX5_drift 183 = .ok (.aload_n 0, 1) := dk_42 (dk_at dksX5_drift_7 23 rfl rfl)
theorem dX5_drift_184 : decode cX5_drift 184 = .ok (.iload_n 1, 1) := dk_27 (dk_at dksX5_drift_8 0 rfl rfl)
theorem dX5_drift_185 : decode cX5_drift 185 = .ok (.iconst 0, 1) := dk_3 (dk_at dksX5_drift_8 1 rfl rfl)
theorem dX5_drift_186 : decode cX5_drift 186 = .ok (.invokevirtual 66, 3) := dk_182 0 66 (dk_at dksX5_drift_8 2 rfl rfl)
theorem dX5_drift_189 : decode cX5_drift 189 = .ok (.ireturn, 1) := dk_172 (dk_at dksX5_drift_8 5 rfl rfl)
abbrev cX5_drawn : ByteArray := prog_15_method_123_code
def yX5_drawn : MethodName := ⟨RX5, "drawn", "(I)I"⟩
def dkwX5_drawn_1 : List UInt8 := [180, 1, 130, 27, 112, 172]
abbrev dktX5_drawn_1 : List UInt8 := dkwX5_drawn_1 ++ []
def dkwX5_drawn_0 : List UInt8 := [42, 20, 2, 50, 42, 180, 1, 130, 133, 105, 20, 2, 52, 97, 20, 2, 54, 113, 136, 181, 1, 130, 42]
abbrev dktX5_drawn_0 : List UInt8 := dkwX5_drawn_0 ++ dktX5_drawn_1
theorem dksX5_drawn_0 : cX5_drawn.data.toList.drop 0 = dktX5_drawn_0 := by decide +kernel
theorem dksX5_drawn_1 : cX5_drawn.data.toList.drop 23 = dktX5_drawn_1 := dk_seg dksX5_drawn_0 23 rfl rfl
theorem dX5_drawn_0 : decode cX5_drawn 0 = .ok (.aload_n 0, 1) := dk_42 (dk_at dksX5_drawn_0 0 rfl rfl)
theorem dX5_drawn_1 : decode cX5_drawn 1 = .ok (.ldc2_w 562, 3) := dk_20 2 50 (dk_at dksX5_drawn_0 1 rfl rfl)
theorem dX5_drawn_4 : decode cX5_drawn 4 = .ok (.aload_n 0, 1) := dk_42 (dk_at dksX5_drawn_0 4 rfl rfl)
theorem dX5_drawn_5 : decode cX5_drawn 5 = .ok (.getfield 386, 3) := dk_180 1 130 (dk_at dksX5_drawn_0 5 rfl rfl)
theorem dX5_drawn_8 : decode cX5_drawn 8 = .ok (.i2l, 1) := dk_133 (dk_at dksX5_drawn_0 8 rfl rfl)
theorem dX5_drawn_9 : decode cX5_drawn 9 = .ok (.lmul, 1) := dk_105 (dk_at dksX5_drawn_0 9 rfl rfl)
theorem dX5_drawn_10 : decode cX5_drawn 10 = .ok (.ldc2_w 564, 3) := dk_20 2 52 (dk_at dksX5_drawn_0 10 rfl rfl)
theorem dX5_drawn_13 : decode cX5_drawn 13 = .ok (.ladd, 1) := dk_97 (dk_at dksX5_drawn_0 13 rfl rfl)
theorem dX5_drawn_14 : decode cX5_drawn 14 = .ok (.ldc2_w 566, 3) := dk_20 2 54 (dk_at dksX5_drawn_0 14 rfl rfl)
theorem dX5_drawn_17 : decode cX5_drawn 17 = .ok (.lrem, 1) := dk_113 (dk_at dksX5_drawn_0 17 rfl rfl)
theorem dX5_drawn_18 : decode cX5_drawn 18 = .ok (.l2i, 1) := dk_136 (dk_at dksX5_drawn_0 18 rfl rfl)
theorem dX5_drawn_19 : decode cX5_drawn 19 = .ok (.putfield 386, 3) := dk_181 1 130 (dk_at dksX5_drawn_0 19 rfl rfl)
theorem dX5_drawn_22 : decode cX5_drawn 22 = .ok (.aload_n 0, 1) := dk_42 (dk_at dksX5_drawn_0 22 rfl rfl)
theorem dX5_drawn_23 : decode cX5_drawn 23 = .ok (.getfield 386, 3) := dk_180 1 130 (dk_at dksX5_drawn_1 0 rfl rfl)
theorem dX5_drawn_26 : decode cX5_drawn 26 = .ok (.iload_n 1, 1) := dk_27 (dk_at dksX5_drawn_1 3 rfl rfl)
theorem dX5_drawn_27 : decode cX5_drawn 27 = .ok (.irem, 1) := dk_112 (dk_at dksX5_drawn_1 4 rfl rfl)
theorem dX5_drawn_28 : decode cX5_drawn 28 = .ok (.ireturn, 1) := dk_172 (dk_at dksX5_drawn_1 5 rfl rfl)
abbrev cX5_image : ByteArray := prog_15_method_125_code
def yX5_image : MethodName := ⟨RX5, "image", "()J"⟩
def dkwX5_image_3 : List UInt8 := [167, 255, 228, 42, 3, 3, 182, 0, 66, 87, 31, 173]
abbrev dktX5_image_3 : List UInt8 := dkwX5_image_3 ++ []
def dkwX5_image_2 : List UInt8 := [180, 0, 221, 162, 0, 23, 20, 2, 61, 31, 105, 42, 180, 0, 17, 29, 46, 133, 97, 64, 132, 3, 1]
abbrev dktX5_image_2 : List UInt8 := dkwX5_image_2 ++ dktX5_image_3
def dkwX5_image_1 : List UInt8 := [180, 1, 130, 133, 105, 42, 180, 1, 127, 16, 100, 112, 133, 97, 64, 3, 62, 29, 42, 180, 1, 124]
abbrev dktX5_image_1 : List UInt8 := dkwX5_image_1 ++ dktX5_image_2
def dkwX5_image_0 : List UInt8 := [42, 3, 181, 0, 56, 42, 180, 1, 124, 199, 0, 10, 42, 4, 182, 0, 62, 133, 173, 20, 2, 59, 42]
abbrev dktX5_image_0 : List UInt8 := dkwX5_image_0 ++ dktX5_image_1
theorem dksX5_image_0 : cX5_image.data.toList.drop 0 = dktX5_image_0 := by decide +kernel
theorem dksX5_image_1 : cX5_image.data.toList.drop 23 = dktX5_image_1 := dk_seg dksX5_image_0 23 rfl rfl
theorem dksX5_image_2 : cX5_image.data.toList.drop 45 = dktX5_image_2 := dk_seg dksX5_image_1 22 rfl rfl
theorem dksX5_image_3 : cX5_image.data.toList.drop 68 = dktX5_image_3 := dk_seg dksX5_image_2 23 rfl rfl
theorem dX5_image_0 : decode cX5_image 0 = .ok (.aload_n 0, 1) := dk_42 (dk_at dksX5_image_0 0 rfl rfl)
theorem dX5_image_1 : decode cX5_image 1 = .ok (.iconst 0, 1) := dk_3 (dk_at dksX5_image_0 1 rfl rfl)
theorem dX5_image_2 : decode cX5_image 2 = .ok (.putfield 56, 3) := dk_181 0 56 (dk_at dksX5_image_0 2 rfl rfl)
theorem dX5_image_5 : decode cX5_image 5 = .ok (.aload_n 0, 1) := dk_42 (dk_at dksX5_image_0 5 rfl rfl)
theorem dX5_image_6 : decode cX5_image 6 = .ok (.getfield 380, 3) := dk_180 1 124 (dk_at dksX5_image_0 6 rfl rfl)
theorem dX5_image_9 : decode cX5_image 9 = .ok (.ifnonnull 10, 3) := dk_199 0 10 (dk_at dksX5_image_0 9 rfl rfl)
theorem dX5_image_12 : decode cX5_image 12 = .ok (.aload_n 0, 1) := dk_42 (dk_at dksX5_image_0 12 rfl rfl)
theorem dX5_image_13 : decode cX5_image 13 = .ok (.iconst 1, 1) := dk_4 (dk_at dksX5_image_0 13 rfl rfl)
theorem dX5_image_14 : decode cX5_image 14 = .ok (.invokevirtual 62, 3) := dk_182 0 62 (dk_at dksX5_image_0 14 rfl rfl)
theorem dX5_image_17 : decode cX5_image 17 = .ok (.i2l, 1) := dk_133 (dk_at dksX5_image_0 17 rfl rfl)
theorem dX5_image_18 : decode cX5_image 18 = .ok (.lreturn, 1) := dk_173 (dk_at dksX5_image_0 18 rfl rfl)
theorem dX5_image_19 : decode cX5_image 19 = .ok (.ldc2_w 571, 3) := dk_20 2 59 (dk_at dksX5_image_0 19 rfl rfl)
theorem dX5_image_22 : decode cX5_image 22 = .ok (.aload_n 0, 1) := dk_42 (dk_at dksX5_image_0 22 rfl rfl)
theorem dX5_image_23 : decode cX5_image 23 = .ok (.getfield 386, 3) := dk_180 1 130 (dk_at dksX5_image_1 0 rfl rfl)
theorem dX5_image_26 : decode cX5_image 26 = .ok (.i2l, 1) := dk_133 (dk_at dksX5_image_1 3 rfl rfl)
theorem dX5_image_27 : decode cX5_image 27 = .ok (.lmul, 1) := dk_105 (dk_at dksX5_image_1 4 rfl rfl)
theorem dX5_image_28 : decode cX5_image 28 = .ok (.aload_n 0, 1) := dk_42 (dk_at dksX5_image_1 5 rfl rfl)
theorem dX5_image_29 : decode cX5_image 29 = .ok (.getfield 383, 3) := dk_180 1 127 (dk_at dksX5_image_1 6 rfl rfl)
theorem dX5_image_32 : decode cX5_image 32 = .ok (.bipush 100, 2) := dk_16 100 (dk_at dksX5_image_1 9 rfl rfl)
theorem dX5_image_34 : decode cX5_image 34 = .ok (.irem, 1) := dk_112 (dk_at dksX5_image_1 11 rfl rfl)
theorem dX5_image_35 : decode cX5_image 35 = .ok (.i2l, 1) := dk_133 (dk_at dksX5_image_1 12 rfl rfl)
theorem dX5_image_36 : decode cX5_image 36 = .ok (.ladd, 1) := dk_97 (dk_at dksX5_image_1 13 rfl rfl)
theorem dX5_image_37 : decode cX5_image 37 = .ok (.lstore_n 1, 1) := dk_64 (dk_at dksX5_image_1 14 rfl rfl)
theorem dX5_image_38 : decode cX5_image 38 = .ok (.iconst 0, 1) := dk_3 (dk_at dksX5_image_1 15 rfl rfl)
theorem dX5_image_39 : decode cX5_image 39 = .ok (.istore_n 3, 1) := dk_62 (dk_at dksX5_image_1 16 rfl rfl)
theorem dX5_image_40 : decode cX5_image 40 = .ok (.iload_n 3, 1) := dk_29 (dk_at dksX5_image_1 17 rfl rfl)
theorem dX5_image_41 : decode cX5_image 41 = .ok (.aload_n 0, 1) := dk_42 (dk_at dksX5_image_1 18 rfl rfl)
theorem dX5_image_42 : decode cX5_image 42 = .ok (.getfield 380, 3) := dk_180 1 124 (dk_at dksX5_image_1 19 rfl rfl)
theorem dX5_image_45 : decode cX5_image 45 = .ok (.getfield 221, 3) := dk_180 0 221 (dk_at dksX5_image_2 0 rfl rfl)
theorem dX5_image_48 : decode cX5_image 48 = .ok (.if_icmp .ge 23, 3) := dk_162 0 23 (dk_at dksX5_image_2 3 rfl rfl)
theorem dX5_image_51 : decode cX5_image 51 = .ok (.ldc2_w 573, 3) := dk_20 2 61 (dk_at dksX5_image_2 6 rfl rfl)
theorem dX5_image_54 : decode cX5_image 54 = .ok (.lload_n 1, 1) := dk_31 (dk_at dksX5_image_2 9 rfl rfl)
theorem dX5_image_55 : decode cX5_image 55 = .ok (.lmul, 1) := dk_105 (dk_at dksX5_image_2 10 rfl rfl)
theorem dX5_image_56 : decode cX5_image 56 = .ok (.aload_n 0, 1) := dk_42 (dk_at dksX5_image_2 11 rfl rfl)
theorem dX5_image_57 : decode cX5_image 57 = .ok (.getfield 17, 3) := dk_180 0 17 (dk_at dksX5_image_2 12 rfl rfl)
theorem dX5_image_60 : decode cX5_image 60 = .ok (.iload_n 3, 1) := dk_29 (dk_at dksX5_image_2 15 rfl rfl)
theorem dX5_image_61 : decode cX5_image 61 = .ok (.iaload, 1) := dk_46 (dk_at dksX5_image_2 16 rfl rfl)
theorem dX5_image_62 : decode cX5_image 62 = .ok (.i2l, 1) := dk_133 (dk_at dksX5_image_2 17 rfl rfl)
theorem dX5_image_63 : decode cX5_image 63 = .ok (.ladd, 1) := dk_97 (dk_at dksX5_image_2 18 rfl rfl)
theorem dX5_image_64 : decode cX5_image 64 = .ok (.lstore_n 1, 1) := dk_64 (dk_at dksX5_image_2 19 rfl rfl)
theorem dX5_image_65 : decode cX5_image 65 = .ok (.iinc 3 1, 3) := dk_132 3 1 (dk_at dksX5_image_2 20 rfl rfl)
theorem dX5_image_68 : decode cX5_image 68 = .ok (.goto (-28), 3) := dk_167 255 228 (dk_at dksX5_image_3 0 rfl rfl)
theorem dX5_image_71 : decode cX5_image 71 = .ok (.aload_n 0, 1) := dk_42 (dk_at dksX5_image_3 3 rfl rfl)
theorem dX5_image_72 : decode cX5_image 72 = .ok (.iconst 0, 1) := dk_3 (dk_at dksX5_image_3 4 rfl rfl)
theorem dX5_image_73 : decode cX5_image 73 = .ok (.iconst 0, 1) := dk_3 (dk_at dksX5_image_3 5 rfl rfl)
theorem dX5_image_74 : decode cX5_image 74 = .ok (.invokevirtual 66, 3) := dk_182 0 66 (dk_at dksX5_image_3 6 rfl rfl)
theorem dX5_image_77 : decode cX5_image 77 = .ok (.pop, 1) := dk_87 (dk_at dksX5_image_3 9 rfl rfl)
theorem dX5_image_78 : decode cX5_image 78 = .ok (.lload_n 1, 1) := dk_31 (dk_at dksX5_image_3 10 rfl rfl)
theorem dX5_image_79 : decode cX5_image 79 = .ok (.lreturn, 1) := dk_173 (dk_at dksX5_image_3 11 rfl rfl)
abbrev cX5_restore : ByteArray := prog_15_method_126_code
def yX5_restore : MethodName := ⟨RX5, "restore", "(J)Z"⟩
def dkwX5_restore_7 : List UInt8 := [33, 20, 2, 59, 113, 136, 181, 1, 127, 42, 33, 20, 2, 59, 109, 136, 181, 1, 130, 42, 182, 1, 184, 172]
abbrev dktX5_restore_7 : List UInt8 := dkwX5_restore_7 ++ []
def dkwX5_restore_6 : List UInt8 := [162, 0, 23, 42, 180, 0, 17, 21, 6, 42, 180, 0, 21, 21, 6, 46, 79, 132, 6, 1, 167, 255, 227, 42]
abbrev dktX5_restore_6 : List UInt8 := dkwX5_restore_6 ++ dktX5_restore_7
def dkwX5_restore_5 : List UInt8 := [148, 155, 0, 9, 42, 5, 182, 1, 181, 172, 3, 54, 6, 21, 6, 42, 180, 1, 124, 180, 0, 221]
abbrev dktX5_restore_5 : List UInt8 := dkwX5_restore_5 ++ dktX5_restore_6
def dkwX5_restore_4 : List UInt8 := [20, 2, 61, 109, 66, 132, 6, 255, 167, 255, 200, 21, 5, 153, 0, 15, 33, 20, 2, 59, 109, 20, 2, 54]
abbrev dktX5_restore_4 : List UInt8 := dkwX5_restore_4 ++ dktX5_restore_5
def dkwX5_restore_3 : List UInt8 := [180, 0, 21, 21, 6, 46, 42, 180, 1, 124, 180, 0, 218, 162, 0, 7, 4, 167, 0, 4, 3, 54, 5, 33]
abbrev dktX5_restore_3 : List UInt8 := dkwX5_restore_3 ++ dktX5_restore_4
def dkwX5_restore_2 : List UInt8 := [155, 0, 57, 21, 5, 153, 0, 52, 42, 180, 0, 21, 21, 6, 33, 20, 2, 61, 113, 136, 79, 42]
abbrev dktX5_restore_2 : List UInt8 := dkwX5_restore_2 ++ dktX5_restore_3
def dkwX5_restore_1 : List UInt8 := [155, 0, 7, 4, 167, 0, 4, 3, 54, 5, 42, 180, 1, 124, 180, 0, 221, 4, 100, 54, 6, 21, 6]
abbrev dktX5_restore_1 : List UInt8 := dkwX5_restore_1 ++ dktX5_restore_2
def dkwX5_restore_0 : List UInt8 := [42, 3, 181, 0, 56, 42, 180, 1, 124, 199, 0, 9, 42, 4, 182, 1, 181, 172, 31, 66, 31, 9, 148]
abbrev dktX5_restore_0 : List UInt8 := dkwX5_restore_0 ++ dktX5_restore_1
theorem dksX5_restore_0 : cX5_restore.data.toList.drop 0 = dktX5_restore_0 := by decide +kernel
theorem dksX5_restore_1 : cX5_restore.data.toList.drop 23 = dktX5_restore_1 := dk_seg dksX5_restore_0 23 rfl rfl
theorem dksX5_restore_2 : cX5_restore.data.toList.drop 46 = dktX5_restore_2 := dk_seg dksX5_restore_1 23 rfl rfl
theorem dksX5_restore_3 : cX5_restore.data.toList.drop 68 = dktX5_restore_3 := dk_seg dksX5_restore_2 22 rfl rfl
theorem dksX5_restore_4 : cX5_restore.data.toList.drop 92 = dktX5_restore_4 := dk_seg dksX5_restore_3 24 rfl rfl
theorem dksX5_restore_5 : cX5_restore.data.toList.drop 116 = dktX5_restore_5 := dk_seg dksX5_restore_4 24 rfl rfl
theorem dksX5_restore_6 : cX5_restore.data.toList.drop 138 = dktX5_restore_6 := dk_seg dksX5_restore_5 22 rfl rfl
theorem dksX5_restore_7 : cX5_restore.data.toList.drop 162 = dktX5_restore_7 := dk_seg dksX5_restore_6 24 rfl rfl
theorem dX5_restore_0 : decode cX5_restore 0 = .ok (.aload_n 0, 1) := dk_42 (dk_at dksX5_restore_0 0 rfl rfl)
theorem dX5_restore_1 : decode cX5_restore 1 = .ok (.iconst 0, 1) := dk_3 (dk_at dksX5_restore_0 1 rfl rfl)
theorem dX5_restore_2 : decode cX5_restore 2 = .ok (.putfield 56, 3) := dk_181 0 56 (dk_at dksX5_restore_0 2 rfl rfl)
theorem dX5_restore_5 : decode cX5_restore 5 = .ok (.aload_n 0, 1) := dk_42 (dk_at dksX5_restore_0 5 rfl rfl)
theorem dX5_restore_6 : decode cX5_restore 6 = .ok (.getfield 380, 3) := dk_180 1 124 (dk_at dksX5_restore_0 6 rfl rfl)
theorem dX5_restore_9 : decode cX5_restore 9 = .ok (.ifnonnull 9, 3) := dk_199 0 9 (dk_at dksX5_restore_0 9 rfl rfl)
theorem dX5_restore_12 : decode cX5_restore 12 = .ok (.aload_n 0, 1) := dk_42 (dk_at dksX5_restore_0 12 rfl rfl)
theorem dX5_restore_13 : decode cX5_restore 13 = .ok (.iconst 1, 1) := dk_4 (dk_at dksX5_restore_0 13 rfl rfl)
theorem dX5_restore_14 : decode cX5_restore 14 = .ok (.invokevirtual 437, 3) := dk_182 1 181 (dk_at dksX5_restore_0 14 rfl rfl)
theorem dX5_restore_17 : decode cX5_restore 17 = .ok (.ireturn, 1) := dk_172 (dk_at dksX5_restore_0 17 rfl rfl)
theorem dX5_restore_18 : decode cX5_restore 18 = .ok (.lload_n 1, 1) := dk_31 (dk_at dksX5_restore_0 18 rfl rfl)
theorem dX5_restore_19 : decode cX5_restore 19 = .ok (.lstore_n 3, 1) := dk_66 (dk_at dksX5_restore_0 19 rfl rfl)
theorem dX5_restore_20 : decode cX5_restore 20 = .ok (.lload_n 1, 1) := dk_31 (dk_at dksX5_restore_0 20 rfl rfl)
theorem dX5_restore_21 : decode cX5_restore 21 = .ok (.lconst 0, 1) := dk_9 (dk_at dksX5_restore_0 21 rfl rfl)
theorem dX5_restore_22 : decode cX5_restore 22 = .ok (.lcmp, 1) := dk_148 (dk_at dksX5_restore_0 22 rfl rfl)
theorem dX5_restore_23 : decode cX5_restore 23 = .ok (.ifCond .lt 7, 3) := dk_155 0 7 (dk_at dksX5_restore_1 0 rfl rfl)
theorem dX5_restore_26 : decode cX5_restore 26 = .ok (.iconst 1, 1) := dk_4 (dk_at dksX5_restore_1 3 rfl rfl)
theorem dX5_restore_27 : decode cX5_restore 27 = .ok (.goto 4, 3) := dk_167 0 4 (dk_at dksX5_restore_1 4 rfl rfl)
theorem dX5_restore_30 : decode cX5_restore 30 = .ok (.iconst 0, 1) := dk_3 (dk_at dksX5_restore_1 7 rfl rfl)
theorem dX5_restore_31 : decode cX5_restore 31 = .ok (.istore 5, 2) := dk_54 5 (dk_at dksX5_restore_1 8 rfl rfl)
theorem dX5_restore_33 : decode cX5_restore 33 = .ok (.aload_n 0, 1) := dk_42 (dk_at dksX5_restore_1 10 rfl rfl)
theorem dX5_restore_34 : decode cX5_restore 34 = .ok (.getfield 380, 3) := dk_180 1 124 (dk_at dksX5_restore_1 11 rfl rfl)
theorem dX5_restore_37 : decode cX5_restore 37 = .ok (.getfield 221, 3) := dk_180 0 221 (dk_at dksX5_restore_1 14 rfl rfl)
theorem dX5_restore_40 : decode cX5_restore 40 = .ok (.iconst 1, 1) := dk_4 (dk_at dksX5_restore_1 17 rfl rfl)
theorem dX5_restore_41 : decode cX5_restore 41 = .ok (.isub, 1) := dk_100 (dk_at dksX5_restore_1 18 rfl rfl)
theorem dX5_restore_42 : decode cX5_restore 42 = .ok (.istore 6, 2) := dk_54 6 (dk_at dksX5_restore_1 19 rfl rfl)
theorem dX5_restore_44 : decode cX5_restore 44 = .ok (.iload 6, 2) := dk_21 6 (dk_at dksX5_restore_1 21 rfl rfl)
theorem dX5_restore_46 : decode cX5_restore 46 = .ok (.ifCond .lt 57, 3) := dk_155 0 57 (dk_at dksX5_restore_2 0 rfl rfl)
theorem dX5_restore_49 : decode cX5_restore 49 = .ok (.iload 5, 2) := dk_21 5 (dk_at dksX5_restore_2 3 rfl rfl)
theorem dX5_restore_51 : decode cX5_restore 51 = .ok (.ifCond .eq 52, 3) := dk_153 0 52 (dk_at dksX5_restore_2 5 rfl rfl)
theorem dX5_restore_54 : decode cX5_restore 54 = .ok (.aload_n 0, 1) := dk_42 (dk_at dksX5_restore_2 8 rfl rfl)
theorem dX5_restore_55 : decode cX5_restore 55 = .ok (.getfield 21, 3) := dk_180 0 21 (dk_at dksX5_restore_2 9 rfl rfl)
theorem dX5_restore_58 : decode cX5_restore 58 = .ok (.iload 6, 2) := dk_21 6 (dk_at dksX5_restore_2 12 rfl rfl)
theorem dX5_restore_60 : decode cX5_restore 60 = .ok (.lload_n 3, 1) := dk_33 (dk_at dksX5_restore_2 14 rfl rfl)
theorem dX5_restore_61 : decode cX5_restore 61 = .ok (.ldc2_w 573, 3) := dk_20 2 61 (dk_at dksX5_restore_2 15 rfl rfl)
theorem dX5_restore_64 : decode cX5_restore 64 = .ok (.lrem, 1) := dk_113 (dk_at dksX5_restore_2 18 rfl rfl)
theorem dX5_restore_65 : decode cX5_restore 65 = .ok (.l2i, 1) := dk_136 (dk_at dksX5_restore_2 19 rfl rfl)
theorem dX5_restore_66 : decode cX5_restore 66 = .ok (.iastore, 1) := dk_79 (dk_at dksX5_restore_2 20 rfl rfl)
theorem dX5_restore_67 : decode cX5_restore 67 = .ok (.aload_n 0, 1) := dk_42 (dk_at dksX5_restore_2 21 rfl rfl)
theorem dX5_restore_68 : decode cX5_restore 68 = .ok (.getfield 21, 3) := dk_180 0 21 (dk_at dksX5_restore_3 0 rfl rfl)
theorem dX5_restore_71 : decode cX5_restore 71 = .ok (.iload 6, 2) := dk_21 6 (dk_at dksX5_restore_3 3 rfl rfl)
theorem dX5_restore_73 : decode cX5_restore 73 = .ok (.iaload, 1) := dk_46 (dk_at dksX5_restore_3 5 rfl rfl)
theorem dX5_restore_74 : decode cX5_restore 74 = .ok (.aload_n 0, 1) := dk_42 (dk_at dksX5_restore_3 6 rfl rfl)
theorem dX5_restore_75 : decode cX5_restore 75 = .ok (.getfield 380, 3) := dk_180 1 124 (dk_at dksX5_restore_3 7 rfl rfl)
theorem dX5_restore_78 : decode cX5_restore 78 = .ok (.getfield 218, 3) := dk_180 0 218 (dk_at dksX5_restore_3 10 rfl rfl)
theorem dX5_restore_81 : decode cX5_restore 81 = .ok (.if_icmp .ge 7, 3) := dk_162 0 7 (dk_at dksX5_restore_3 13 rfl rfl)
theorem dX5_restore_84 : decode cX5_restore 84 = .ok (.iconst 1, 1) := dk_4 (dk_at dksX5_restore_3 16 rfl rfl)
theorem dX5_restore_85 : decode cX5_restore 85 = .ok (.goto 4, 3) := dk_167 0 4 (dk_at dksX5_restore_3 17 rfl rfl)
theorem dX5_restore_88 : decode cX5_restore 88 = .ok (.iconst 0, 1) := dk_3 (dk_at dksX5_restore_3 20 rfl rfl)
theorem dX5_restore_89 : decode cX5_restore 89 = .ok (.istore 5, 2) := dk_54 5 (dk_at dksX5_restore_3 21 rfl rfl)
theorem dX5_restore_91 : decode cX5_restore 91 = .ok (.lload_n 3, 1) := dk_33 (dk_at dksX5_restore_3 23 rfl rfl)
theorem dX5_restore_92 : decode cX5_restore 92 = .ok (.ldc2_w 573, 3) := dk_20 2 61 (dk_at dksX5_restore_4 0 rfl rfl)
theorem dX5_restore_95 : decode cX5_restore 95 = .ok (.ldiv, 1) := dk_109 (dk_at dksX5_restore_4 3 rfl rfl)
theorem dX5_restore_96 : decode cX5_restore 96 = .ok (.lstore_n 3, 1) := dk_66 (dk_at dksX5_restore_4 4 rfl rfl)
theorem dX5_restore_97 : decode cX5_restore 97 = .ok (.iinc 6 (-1), 3) := dk_132 6 255 (dk_at dksX5_restore_4 5 rfl rfl)
theorem dX5_restore_100 : decode cX5_restore 100 = .ok (.goto (-56), 3) := dk_167 255 200 (dk_at dksX5_restore_4 8 rfl rfl)
theorem dX5_restore_103 : decode cX5_restore 103 = .ok (.iload 5, 2) := dk_21 5 (dk_at dksX5_restore_4 11 rfl rfl)
theorem dX5_restore_105 : decode cX5_restore 105 = .ok (.ifCond .eq 15, 3) := dk_153 0 15 (dk_at dksX5_restore_4 13 rfl rfl)
theorem dX5_restore_108 : decode cX5_restore 108 = .ok (.lload_n 3, 1) := dk_33 (dk_at dksX5_restore_4 16 rfl rfl)
theorem dX5_restore_109 : decode cX5_restore 109 = .ok (.ldc2_w 571, 3) := dk_20 2 59 (dk_at dksX5_restore_4 17 rfl rfl)
theorem dX5_restore_112 : decode cX5_restore 112 = .ok (.ldiv, 1) := dk_109 (dk_at dksX5_restore_4 20 rfl rfl)
theorem dX5_restore_113 : decode cX5_restore 113 = .ok (.ldc2_w 566, 3) := dk_20 2 54 (dk_at dksX5_restore_4 21 rfl rfl)
theorem dX5_restore_116 : decode cX5_restore 116 = .ok (.lcmp, 1) := dk_148 (dk_at dksX5_restore_5 0 rfl rfl)
theorem dX5_restore_117 : decode cX5_restore 117 = .ok (.ifCond .lt 9, 3) := dk_155 0 9 (dk_at dksX5_restore_5 1 rfl rfl)
theorem dX5_restore_120 : decode cX5_restore 120 = .ok (.aload_n 0, 1) := dk_42 (dk_at dksX5_restore_5 4 rfl rfl)
theorem dX5_restore_121 : decode cX5_restore 121 = .ok (.iconst 2, 1) := dk_5 (dk_at dksX5_restore_5 5 rfl rfl)
theorem dX5_restore_122 : decode cX5_restore 122 = .ok (.invokevirtual 437, 3) := dk_182 1 181 (dk_at dksX5_restore_5 6 rfl rfl)
theorem dX5_restore_125 : decode cX5_restore 125 = .ok (.ireturn, 1) := dk_172 (dk_at dksX5_restore_5 9 rfl rfl)
theorem dX5_restore_126 : decode cX5_restore 126 = .ok (.iconst 0, 1) := dk_3 (dk_at dksX5_restore_5 10 rfl rfl)
theorem dX5_restore_127 : decode cX5_restore 127 = .ok (.istore 6, 2) := dk_54 6 (dk_at dksX5_restore_5 11 rfl rfl)
theorem dX5_restore_129 : decode cX5_restore 129 = .ok (.iload 6, 2) := dk_21 6 (dk_at dksX5_restore_5 13 rfl rfl)
theorem dX5_restore_131 : decode cX5_restore 131 = .ok (.aload_n 0, 1) := dk_42 (dk_at dksX5_restore_5 15 rfl rfl)
theorem dX5_restore_132 : decode cX5_restore 132 = .ok (.getfield 380, 3) := dk_180 1 124 (dk_at dksX5_restore_5 16 rfl rfl)
theorem dX5_restore_135 : decode cX5_restore 135 = .ok (.getfield 221, 3) := dk_180 0 221 (dk_at dksX5_restore_5 19 rfl rfl)
theorem dX5_restore_138 : decode cX5_restore 138 = .ok (.if_icmp .ge 23, 3) := dk_162 0 23 (dk_at dksX5_restore_6 0 rfl rfl)
theorem dX5_restore_141 : decode cX5_restore 141 = .ok (.aload_n 0, 1) := dk_42 (dk_at dksX5_restore_6 3 rfl rfl)
theorem dX5_restore_142 : decode cX5_restore 142 = .ok (.getfield 17, 3) := dk_180 0 17 (dk_at dksX5_restore_6 4 rfl rfl)
theorem dX5_restore_145 : decode cX5_restore 145 = .ok (.iload 6, 2) := dk_21 6 (dk_at dksX5_restore_6 7 rfl rfl)
theorem dX5_restore_147 : decode cX5_restore 147 = .ok (.aload_n 0, 1) := dk_42 (dk_at dksX5_restore_6 9 rfl rfl)
theorem dX5_restore_148 : decode cX5_restore 148 = .ok (.getfield 21, 3) := dk_180 0 21 (dk_at dksX5_restore_6 10 rfl rfl)
theorem dX5_restore_151 : decode cX5_restore 151 = .ok (.iload 6, 2) := dk_21 6 (dk_at dksX5_restore_6 13 rfl rfl)
theorem dX5_restore_153 : decode cX5_restore 153 = .ok (.iaload, 1) := dk_46 (dk_at dksX5_restore_6 15 rfl rfl)
theorem dX5_restore_154 : decode cX5_restore 154 = .ok (.iastore, 1) := dk_79 (dk_at dksX5_restore_6 16 rfl rfl)
theorem dX5_restore_155 : decode cX5_restore 155 = .ok (.iinc 6 1, 3) := dk_132 6 1 (dk_at dksX5_restore_6 17 rfl rfl)
theorem dX5_restore_158 : decode cX5_restore 158 = .ok (.goto (-29), 3) := dk_167 255 227 (dk_at dksX5_restore_6 20 rfl rfl)
theorem dX5_restore_161 : decode cX5_restore 161 = .ok (.aload_n 0, 1) := dk_42 (dk_at dksX5_restore_6 23 rfl rfl)
theorem dX5_restore_162 : decode cX5_restore 162 = .ok (.lload_n 3, 1) := dk_33 (dk_at dksX5_restore_7 0 rfl rfl)
theorem dX5_restore_163 : decode cX5_restore 163 = .ok (.ldc2_w 571, 3) := dk_20 2 59 (dk_at dksX5_restore_7 1 rfl rfl)
theorem dX5_restore_166 : decode cX5_restore 166 = .ok (.lrem, 1) := dk_113 (dk_at dksX5_restore_7 4 rfl rfl)
theorem dX5_restore_167 : decode cX5_restore 167 = .ok (.l2i, 1) := dk_136 (dk_at dksX5_restore_7 5 rfl rfl)
theorem dX5_restore_168 : decode cX5_restore 168 = .ok (.putfield 383, 3) := dk_181 1 127 (dk_at dksX5_restore_7 6 rfl rfl)
theorem dX5_restore_171 : decode cX5_restore 171 = .ok (.aload_n 0, 1) := dk_42 (dk_at dksX5_restore_7 9 rfl rfl)
theorem dX5_restore_172 : decode cX5_restore 172 = .ok (.lload_n 3, 1) := dk_33 (dk_at dksX5_restore_7 10 rfl rfl)
theorem dX5_restore_173 : decode cX5_restore 173 = .ok (.ldc2_w 571, 3) := dk_20 2 59 (dk_at dksX5_restore_7 11 rfl rfl)
theorem dX5_restore_176 : decode cX5_restore 176 = .ok (.ldiv, 1) := dk_109 (dk_at dksX5_restore_7 14 rfl rfl)
theorem dX5_restore_177 : decode cX5_restore 177 = .ok (.l2i, 1) := dk_136 (dk_at dksX5_restore_7 15 rfl rfl)
theorem dX5_restore_178 : decode cX5_restore 178 = .ok (.putfield 386, 3) := dk_181 1 130 (dk_at dksX5_restore_7 16 rfl rfl)
theorem dX5_restore_181 : decode cX5_restore 181 = .ok (.aload_n 0, 1) := dk_42 (dk_at dksX5_restore_7 19 rfl rfl)
theorem dX5_restore_182 : decode cX5_restore 182 = .ok (.invokevirtual 440, 3) := dk_182 1 184 (dk_at dksX5_restore_7 20 rfl rfl)
theorem dX5_restore_185 : decode cX5_restore 185 = .ok (.ireturn, 1) := dk_172 (dk_at dksX5_restore_7 23 rfl rfl)
abbrev cX5_led : ByteArray := prog_15_method_127_code
def yX5_led : MethodName := ⟨RX5, "led", "(I)I"⟩
def dkwX5_led_2 : List UInt8 := [132, 2, 1, 132, 3, 1, 167, 255, 211, 42, 4, 181, 0, 56, 3, 172]
abbrev dktX5_led_2 : List UInt8 := dkwX5_led_2 ++ []
def dkwX5_led_1 : List UInt8 := [162, 0, 33, 42, 182, 1, 187, 29, 184, 1, 142, 154, 0, 6, 167, 0, 13, 28, 27, 160, 0, 5, 29, 172]
abbrev dktX5_led_1 : List UInt8 := dkwX5_led_1 ++ dktX5_led_2
def dkwX5_led_0 : List UInt8 := [42, 3, 181, 0, 56, 3, 61, 3, 62, 42, 180, 1, 124, 198, 0, 44, 29, 42, 180, 1, 124, 180, 0, 221]
abbrev dktX5_led_0 : List UInt8 := dkwX5_led_0 ++ dktX5_led_1
theorem dksX5_led_0 : cX5_led.data.toList.drop 0 = dktX5_led_0 := by decide +kernel
theorem dksX5_led_1 : cX5_led.data.toList.drop 24 = dktX5_led_1 := dk_seg dksX5_led_0 24 rfl rfl
theorem dksX5_led_2 : cX5_led.data.toList.drop 48 = dktX5_led_2 := dk_seg dksX5_led_1 24 rfl rfl
theorem dX5_led_0 : decode cX5_led 0 = .ok (.aload_n 0, 1) := dk_42 (dk_at dksX5_led_0 0 rfl rfl)
theorem dX5_led_1 : decode cX5_led 1 = .ok (.iconst 0, 1) := dk_3 (dk_at dksX5_led_0 1 rfl rfl)
theorem dX5_led_2 : decode cX5_led 2 = .ok (.putfield 56, 3) := dk_181 0 56 (dk_at dksX5_led_0 2 rfl rfl)
theorem dX5_led_5 : decode cX5_led 5 = .ok (.iconst 0, 1) := dk_3 (dk_at dksX5_led_0 5 rfl rfl)
theorem dX5_led_6 : decode cX5_led 6 = .ok (.istore_n 2, 1) := dk_61 (dk_at dksX5_led_0 6 rfl rfl)
theorem dX5_led_7 : decode cX5_led 7 = .ok (.iconst 0, 1) := dk_3 (dk_at dksX5_led_0 7 rfl rfl)
theorem dX5_led_8 : decode cX5_led 8 = .ok (.istore_n 3, 1) := dk_62 (dk_at dksX5_led_0 8 rfl rfl)
theorem dX5_led_9 : decode cX5_led 9 = .ok (.aload_n 0, 1) := dk_42 (dk_at dksX5_led_0 9 rfl rfl)
theorem dX5_led_10 : decode cX5_led 10 = .ok (.getfield 380, 3) := dk_180 1 124 (dk_at dksX5_led_0 10 rfl rfl)
theorem dX5_led_13 : decode cX5_led 13 = .ok (.ifnull 44, 3) := dk_198 0 44 (dk_at dksX5_led_0 13 rfl rfl)
theorem dX5_led_16 : decode cX5_led 16 = .ok (.iload_n 3, 1) := dk_29 (dk_at dksX5_led_0 16 rfl rfl)
theorem dX5_led_17 : decode cX5_led 17 = .ok (.aload_n 0, 1) := dk_42 (dk_at dksX5_led_0 17 rfl rfl)
theorem dX5_led_18 : decode cX5_led 18 = .ok (.getfield 380, 3) := dk_180 1 124 (dk_at dksX5_led_0 18 rfl rfl)
theorem dX5_led_21 : decode cX5_led 21 = .ok (.getfield 221, 3) := dk_180 0 221 (dk_at dksX5_led_0 21 rfl rfl)
theorem dX5_led_24 : decode cX5_led 24 = .ok (.if_icmp .ge 33, 3) := dk_162 0 33 (dk_at dksX5_led_1 0 rfl rfl)
theorem dX5_led_27 : decode cX5_led 27 = .ok (.aload_n 0, 1) := dk_42 (dk_at dksX5_led_1 3 rfl rfl)
theorem dX5_led_28 : decode cX5_led 28 = .ok (.invokevirtual 443, 3) := dk_182 1 187 (dk_at dksX5_led_1 4 rfl rfl)
theorem dX5_led_31 : decode cX5_led 31 = .ok (.iload_n 3, 1) := dk_29 (dk_at dksX5_led_1 7 rfl rfl)
theorem dX5_led_32 : decode cX5_led 32 = .ok (.invokestatic 398, 3) := dk_184 1 142 (dk_at dksX5_led_1 8 rfl rfl)
theorem dX5_led_35 : decode cX5_led 35 = .ok (.ifCond .ne 6, 3) := dk_154 0 6 (dk_at dksX5_led_1 11 rfl rfl)
theorem dX5_led_38 : decode cX5_led 38 = .ok (.goto 13, 3) := dk_167 0 13 (dk_at dksX5_led_1 14 rfl rfl)
theorem dX5_led_41 : decode cX5_led 41 = .ok (.iload_n 2, 1) := dk_28 (dk_at dksX5_led_1 17 rfl rfl)
theorem dX5_led_42 : decode cX5_led 42 = .ok (.iload_n 1, 1) := dk_27 (dk_at dksX5_led_1 18 rfl rfl)
theorem dX5_led_43 : decode cX5_led 43 = .ok (.if_icmp .ne 5, 3) := dk_160 0 5 (dk_at dksX5_led_1 19 rfl rfl)
theorem dX5_led_46 : decode cX5_led 46 = .ok (.iload_n 3, 1) := dk_29 (dk_at dksX5_led_1 22 rfl rfl)
theorem dX5_led_47 : decode cX5_led 47 = .ok (.ireturn, 1) := dk_172 (dk_at dksX5_led_1 23 rfl rfl)
theorem dX5_led_48 : decode cX5_led 48 = .ok (.iinc 2 1, 3) := dk_132 2 1 (dk_at dksX5_led_2 0 rfl rfl)
theorem dX5_led_51 : decode cX5_led 51 = .ok (.iinc 3 1, 3) := dk_132 3 1 (dk_at dksX5_led_2 3 rfl rfl)
theorem dX5_led_54 : decode cX5_led 54 = .ok (.goto (-45), 3) := dk_167 255 211 (dk_at dksX5_led_2 6 rfl rfl)
theorem dX5_led_57 : decode cX5_led 57 = .ok (.aload_n 0, 1) := dk_42 (dk_at dksX5_led_2 9 rfl rfl)
theorem dX5_led_58 : decode cX5_led 58 = .ok (.iconst 1, 1) := dk_4 (dk_at dksX5_led_2 10 rfl rfl)
theorem dX5_led_59 : decode cX5_led 59 = .ok (.putfield 56, 3) := dk_181 0 56 (dk_at dksX5_led_2 11 rfl rfl)
theorem dX5_led_62 : decode cX5_led 62 = .ok (.iconst 0, 1) := dk_3 (dk_at dksX5_led_2 14 rfl rfl)
theorem dX5_led_63 : decode cX5_led 63 = .ok (.ireturn, 1) := dk_172 (dk_at dksX5_led_2 15 rfl rfl)
abbrev cX5_size : ByteArray := prog_15_method_128_code
def yX5_size : MethodName := ⟨RX5, "size", "(I)I"⟩
def dkwX5_size_6 : List UInt8 := [42, 180, 1, 127, 172, 42, 180, 1, 130, 172]
abbrev dktX5_size_6 : List UInt8 := dkwX5_size_6 ++ []
def dkwX5_size_5 : List UInt8 := [42, 180, 1, 124, 180, 1, 88, 172, 42, 180, 1, 124, 180, 1, 107, 172, 42, 180, 1, 124, 180, 1, 17, 172]
abbrev dktX5_size_5 : List UInt8 := dkwX5_size_5 ++ dktX5_size_6
def dkwX5_size_4 : List UInt8 := [42, 180, 1, 124, 180, 1, 55, 172, 42, 180, 1, 124, 180, 0, 221, 172, 42, 180, 1, 124, 180, 1, 79, 172]
abbrev dktX5_size_4 : List UInt8 := dkwX5_size_4 ++ dktX5_size_5
def dkwX5_size_3 : List UInt8 := [42, 180, 1, 124, 180, 0, 218, 172, 42, 180, 1, 124, 180, 1, 33, 172, 42, 180, 1, 124, 180, 1, 46, 172]
abbrev dktX5_size_3 : List UInt8 := dkwX5_size_3 ++ dktX5_size_4
def dkwX5_size_2 : List UInt8 := [170, 0, 0, 0, 0, 131, 0, 0, 0, 0, 0, 0, 0, 9, 0, 0, 0, 54, 0, 0, 0, 62, 0, 0, 0, 70, 0, 0, 0, 78, 0, 0, 0, 86, 0, 0, 0, 94, 0, 0, 0, 102, 0, 0, 0, 110, 0, 0, 0, 118, 0, 0, 0, 126]
abbrev dktX5_size_2 : List UInt8 := dkwX5_size_2 ++ dktX5_size_3
def dkwX5_size_1 : List UInt8 := [154, 0, 5, 2, 172, 42, 180, 1, 124, 199, 0, 5, 3, 172, 27]
abbrev dktX5_size_1 : List UInt8 := dkwX5_size_1 ++ dktX5_size_2
def dkwX5_size_0 : List UInt8 := [42, 3, 181, 0, 56, 27, 16, 11, 160, 0, 8, 42, 180, 1, 117, 172, 27, 3, 16, 10, 184, 0, 135]
abbrev dktX5_size_0 : List UInt8 := dkwX5_size_0 ++ dktX5_size_1
theorem dksX5_size_0 : cX5_size.data.toList.drop 0 = dktX5_size_0 := by decide +kernel
theorem dksX5_size_1 : cX5_size.data.toList.drop 23 = dktX5_size_1 := dk_seg dksX5_size_0 23 rfl rfl
theorem dksX5_size_2 : cX5_size.data.toList.drop 38 = dktX5_size_2 := dk_seg dksX5_size_1 15 rfl rfl
theorem dksX5_size_3 : cX5_size.data.toList.drop 92 = dktX5_size_3 := dk_seg dksX5_size_2 54 rfl rfl
theorem dksX5_size_4 : cX5_size.data.toList.drop 116 = dktX5_size_4 := dk_seg dksX5_size_3 24 rfl rfl
theorem dksX5_size_5 : cX5_size.data.toList.drop 140 = dktX5_size_5 := dk_seg dksX5_size_4 24 rfl rfl
theorem dksX5_size_6 : cX5_size.data.toList.drop 164 = dktX5_size_6 := dk_seg dksX5_size_5 24 rfl rfl
theorem dX5_size_0 : decode cX5_size 0 = .ok (.aload_n 0, 1) := dk_42 (dk_at dksX5_size_0 0 rfl rfl)
theorem dX5_size_1 : decode cX5_size 1 = .ok (.iconst 0, 1) := dk_3 (dk_at dksX5_size_0 1 rfl rfl)
theorem dX5_size_2 : decode cX5_size 2 = .ok (.putfield 56, 3) := dk_181 0 56 (dk_at dksX5_size_0 2 rfl rfl)
theorem dX5_size_5 : decode cX5_size 5 = .ok (.iload_n 1, 1) := dk_27 (dk_at dksX5_size_0 5 rfl rfl)
theorem dX5_size_6 : decode cX5_size 6 = .ok (.bipush 11, 2) := dk_16 11 (dk_at dksX5_size_0 6 rfl rfl)
theorem dX5_size_8 : decode cX5_size 8 = .ok (.if_icmp .ne 8, 3) := dk_160 0 8 (dk_at dksX5_size_0 8 rfl rfl)
theorem dX5_size_11 : decode cX5_size 11 = .ok (.aload_n 0, 1) := dk_42 (dk_at dksX5_size_0 11 rfl rfl)
theorem dX5_size_12 : decode cX5_size 12 = .ok (.getfield 373, 3) := dk_180 1 117 (dk_at dksX5_size_0 12 rfl rfl)
theorem dX5_size_15 : decode cX5_size 15 = .ok (.ireturn, 1) := dk_172 (dk_at dksX5_size_0 15 rfl rfl)
theorem dX5_size_16 : decode cX5_size 16 = .ok (.iload_n 1, 1) := dk_27 (dk_at dksX5_size_0 16 rfl rfl)
theorem dX5_size_17 : decode cX5_size 17 = .ok (.iconst 0, 1) := dk_3 (dk_at dksX5_size_0 17 rfl rfl)
theorem dX5_size_18 : decode cX5_size 18 = .ok (.bipush 10, 2) := dk_16 10 (dk_at dksX5_size_0 18 rfl rfl)
theorem dX5_size_20 : decode cX5_size 20 = .ok (.invokestatic 135, 3) := dk_184 0 135 (dk_at dksX5_size_0 20 rfl rfl)
theorem dX5_size_23 : decode cX5_size 23 = .ok (.ifCond .ne 5, 3) := dk_154 0 5 (dk_at dksX5_size_1 0 rfl rfl)
theorem dX5_size_26 : decode cX5_size 26 = .ok (.iconst (-1), 1) := dk_2 (dk_at dksX5_size_1 3 rfl rfl)
theorem dX5_size_27 : decode cX5_size 27 = .ok (.ireturn, 1) := dk_172 (dk_at dksX5_size_1 4 rfl rfl)
theorem dX5_size_28 : decode cX5_size 28 = .ok (.aload_n 0, 1) := dk_42 (dk_at dksX5_size_1 5 rfl rfl)
theorem dX5_size_29 : decode cX5_size 29 = .ok (.getfield 380, 3) := dk_180 1 124 (dk_at dksX5_size_1 6 rfl rfl)
theorem dX5_size_32 : decode cX5_size 32 = .ok (.ifnonnull 5, 3) := dk_199 0 5 (dk_at dksX5_size_1 9 rfl rfl)
theorem dX5_size_35 : decode cX5_size 35 = .ok (.iconst 0, 1) := dk_3 (dk_at dksX5_size_1 12 rfl rfl)
theorem dX5_size_36 : decode cX5_size 36 = .ok (.ireturn, 1) := dk_172 (dk_at dksX5_size_1 13 rfl rfl)
theorem dX5_size_37 : decode cX5_size 37 = .ok (.iload_n 1, 1) := dk_27 (dk_at dksX5_size_1 14 rfl rfl)
theorem dX5_size_38 : decode cX5_size 38 = .ok (.tableswitch 131 0 9 #[54, 62, 70, 78, 86, 94, 102, 110, 118, 126], 54) := by decide +kernel
theorem dX5_size_92 : decode cX5_size 92 = .ok (.aload_n 0, 1) := dk_42 (dk_at dksX5_size_3 0 rfl rfl)
theorem dX5_size_93 : decode cX5_size 93 = .ok (.getfield 380, 3) := dk_180 1 124 (dk_at dksX5_size_3 1 rfl rfl)
theorem dX5_size_96 : decode cX5_size 96 = .ok (.getfield 218, 3) := dk_180 0 218 (dk_at dksX5_size_3 4 rfl rfl)
theorem dX5_size_99 : decode cX5_size 99 = .ok (.ireturn, 1) := dk_172 (dk_at dksX5_size_3 7 rfl rfl)
theorem dX5_size_100 : decode cX5_size 100 = .ok (.aload_n 0, 1) := dk_42 (dk_at dksX5_size_3 8 rfl rfl)
theorem dX5_size_101 : decode cX5_size 101 = .ok (.getfield 380, 3) := dk_180 1 124 (dk_at dksX5_size_3 9 rfl rfl)
theorem dX5_size_104 : decode cX5_size 104 = .ok (.getfield 289, 3) := dk_180 1 33 (dk_at dksX5_size_3 12 rfl rfl)
theorem dX5_size_107 : decode cX5_size 107 = .ok (.ireturn, 1) := dk_172 (dk_at dksX5_size_3 15 rfl rfl)
theorem dX5_size_108 : decode cX5_size 108 = .ok (.aload_n 0, 1) := dk_42 (dk_at dksX5_size_3 16 rfl rfl)
theorem dX5_size_109 : decode cX5_size 109 = .ok (.getfield 380, 3) := dk_180 1 124 (dk_at dksX5_size_3 17 rfl rfl)
theorem dX5_size_112 : decode cX5_size 112 = .ok (.getfield 302, 3) := dk_180 1 46 (dk_at dksX5_size_3 20 rfl rfl)
theorem dX5_size_115 : decode cX5_size 115 = .ok (.ireturn, 1) := dk_172 (dk_at dksX5_size_3 23 rfl rfl)
theorem dX5_size_116 : decode cX5_size 116 = .ok (.aload_n 0, 1) := dk_42 (dk_at dksX5_size_4 0 rfl rfl)
theorem dX5_size_117 : decode cX5_size 117 = .ok (.getfield 380, 3) := dk_180 1 124 (dk_at dksX5_size_4 1 rfl rfl)
theorem dX5_size_120 : decode cX5_size 120 = .ok (.getfield 311, 3) := dk_180 1 55 (dk_at dksX5_size_4 4 rfl rfl)
theorem dX5_size_123 : decode cX5_size 123 = .ok (.ireturn, 1) := dk_172 (dk_at dksX5_size_4 7 rfl rfl)
theorem dX5_size_124 : decode cX5_size 124 = .ok (.aload_n 0, 1) := dk_42 (dk_at dksX5_size_4 8 rfl rfl)
theorem dX5_size_125 : decode cX5_size 125 = .ok (.getfield 380, 3) := dk_180 1 124 (dk_at dksX5_size_4 9 rfl rfl)
theorem dX5_size_128 : decode cX5_size 128 = .ok (.getfield 221, 3) := dk_180 0 221 (dk_at dksX5_size_4 12 rfl rfl)
theorem dX5_size_131 : decode cX5_size 131 = .ok (.ireturn, 1) := dk_172 (dk_at dksX5_size_4 15 rfl rfl)
theorem dX5_size_132 : decode cX5_size 132 = .ok (.aload_n 0, 1) := dk_42 (dk_at dksX5_size_4 16 rfl rfl)
theorem dX5_size_133 : decode cX5_size 133 = .ok (.getfield 380, 3) := dk_180 1 124 (dk_at dksX5_size_4 17 rfl rfl)
theorem dX5_size_136 : decode cX5_size 136 = .ok (.getfield 335, 3) := dk_180 1 79 (dk_at dksX5_size_4 20 rfl rfl)
theorem dX5_size_139 : decode cX5_size 139 = .ok (.ireturn, 1) := dk_172 (dk_at dksX5_size_4 23 rfl rfl)
theorem dX5_size_140 : decode cX5_size 140 = .ok (.aload_n 0, 1) := dk_42 (dk_at dksX5_size_5 0 rfl rfl)
theorem dX5_size_141 : decode cX5_size 141 = .ok (.getfield 380, 3) := dk_180 1 124 (dk_at dksX5_size_5 1 rfl rfl)
theorem dX5_size_144 : decode cX5_size 144 = .ok (.getfield 344, 3) := dk_180 1 88 (dk_at dksX5_size_5 4 rfl rfl)
theorem dX5_size_147 : decode cX5_size 147 = .ok (.ireturn, 1) := dk_172 (dk_at dksX5_size_5 7 rfl rfl)
theorem dX5_size_148 : decode cX5_size 148 = .ok (.aload_n 0, 1) := dk_42 (dk_at dksX5_size_5 8 rfl rfl)
theorem dX5_size_149 : decode cX5_size 149 = .ok (.getfield 380, 3) := dk_180 1 124 (dk_at dksX5_size_5 9 rfl rfl)
theorem dX5_size_152 : decode cX5_size 152 = .ok (.getfield 363, 3) := dk_180 1 107 (dk_at dksX5_size_5 12 rfl rfl)
theorem dX5_size_155 : decode cX5_size 155 = .ok (.ireturn, 1) := dk_172 (dk_at dksX5_size_5 15 rfl rfl)
theorem dX5_size_156 : decode cX5_size 156 = .ok (.aload_n 0, 1) := dk_42 (dk_at dksX5_size_5 16 rfl rfl)
theorem dX5_size_157 : decode cX5_size 157 = .ok (.getfield 380, 3) := dk_180 1 124 (dk_at dksX5_size_5 17 rfl rfl)
theorem dX5_size_160 : decode cX5_size 160 = .ok (.getfield 273, 3) := dk_180 1 17 (dk_at dksX5_size_5 20 rfl rfl)
theorem dX5_size_163 : decode cX5_size 163 = .ok (.ireturn, 1) := dk_172 (dk_at dksX5_size_5 23 rfl rfl)
theorem dX5_size_164 : decode cX5_size 164 = .ok (.aload_n 0, 1) := dk_42 (dk_at dksX5_size_6 0 rfl rfl)
theorem dX5_size_165 : decode cX5_size 165 = .ok (.getfield 383, 3) := dk_180 1 127 (dk_at dksX5_size_6 1 rfl rfl)
theorem dX5_size_168 : decode cX5_size 168 = .ok (.ireturn, 1) := dk_172 (dk_at dksX5_size_6 4 rfl rfl)
theorem dX5_size_169 : decode cX5_size 169 = .ok (.aload_n 0, 1) := dk_42 (dk_at dksX5_size_6 5 rfl rfl)
theorem dX5_size_170 : decode cX5_size 170 = .ok (.getfield 386, 3) := dk_180 1 130 (dk_at dksX5_size_6 6 rfl rfl)
theorem dX5_size_173 : decode cX5_size 173 = .ok (.ireturn, 1) := dk_172 (dk_at dksX5_size_6 9 rfl rfl)
abbrev cX5_trouble : ByteArray := prog_15_method_129_code
def yX5_trouble : MethodName := ⟨RX5, "trouble", "()I"⟩
def dkwX5_trouble_0 : List UInt8 := [42, 3, 181, 0, 56, 42, 180, 0, 59, 172]
abbrev dktX5_trouble_0 : List UInt8 := dkwX5_trouble_0 ++ []
theorem dksX5_trouble_0 : cX5_trouble.data.toList.drop 0 = dktX5_trouble_0 := by decide +kernel
theorem dX5_trouble_0 : decode cX5_trouble 0 = .ok (.aload_n 0, 1) := dk_42 (dk_at dksX5_trouble_0 0 rfl rfl)
theorem dX5_trouble_1 : decode cX5_trouble 1 = .ok (.iconst 0, 1) := dk_3 (dk_at dksX5_trouble_0 1 rfl rfl)
theorem dX5_trouble_2 : decode cX5_trouble 2 = .ok (.putfield 56, 3) := dk_181 0 56 (dk_at dksX5_trouble_0 2 rfl rfl)
theorem dX5_trouble_5 : decode cX5_trouble 5 = .ok (.aload_n 0, 1) := dk_42 (dk_at dksX5_trouble_0 5 rfl rfl)
theorem dX5_trouble_6 : decode cX5_trouble 6 = .ok (.getfield 59, 3) := dk_180 0 59 (dk_at dksX5_trouble_0 6 rfl rfl)
theorem dX5_trouble_9 : decode cX5_trouble 9 = .ok (.ireturn, 1) := dk_172 (dk_at dksX5_trouble_0 9 rfl rfl)
theorem q159 : (Jvm.Cond.initialized "NeverUnseenModel") ∈ lw_all := lw_g (lw_at lw_m1 8 rfl) rfl
theorem q1422 : (Jvm.Cond.instantiable "NeverUnseenModel" (38 : Nat)) ∈ lw_all := lw_g (lw_at lw_m6 71 rfl) rfl
theorem q1424 : (Jvm.Cond.instanceMethod ({ cls := "NeverUnseenModel", name := "<init>", desc := "()V" } : Jvm.MethodName)) ∈ lw_all := lw_g (lw_at lw_m6 73 rfl) rfl
theorem q1425 : (Jvm.Cond.code ({ cls := "NeverUnseenModel", name := "<init>", desc := "()V" } : Jvm.MethodName) prog_15_method_1_code (1 : Nat) (Option.none : Option Jvm.ClassFile.FieldType)) ∈ lw_all := lw_g (lw_at lw_m6 74 rfl) rfl
theorem q1426 : (Jvm.Cond.methodLink "NeverUnseenModel" (3 : Nat) ({ cls := "java/lang/Object", name := "<init>", desc := "()V" } : Jvm.MethodName)) ∈ lw_all := lw_g (lw_at lw_m6 75 rfl) rfl
theorem q1427 : (Jvm.Cond.constant "NeverUnseenModel" (49 : Nat) (102400 : Int32)) ∈ lw_all := lw_g (lw_at lw_m6 76 rfl) rfl
theorem q1428 : (Jvm.Cond.fieldLink "NeverUnseenModel" (56 : Nat) "NeverUnseenModel" "thrown" "I") ∈ lw_all := lw_g (lw_at lw_m6 77 rfl) rfl
theorem q1429 : (Jvm.Cond.fieldLink "NeverUnseenModel" (59 : Nat) "NeverUnseenModel" "trouble" "I") ∈ lw_all := lw_g (lw_at lw_m6 78 rfl) rfl
theorem q1430 : (Jvm.Cond.fieldLink "NeverUnseenModel" (9 : Nat) "NeverUnseenModel" "where" "I") ∈ lw_all := lw_g (lw_at lw_m6 79 rfl) rfl
theorem q1431 : (Jvm.Cond.fieldLink "NeverUnseenModel" (380 : Nat) "NeverUnseenModel" "valley" "LNeverUnseenModel$Valley;") ∈ lw_all := lw_g (lw_at lw_m6 80 rfl) rfl
theorem q1432 : (Jvm.Cond.fieldLink "NeverUnseenModel" (173 : Nat) "NeverUnseenModel" "read" "LNeverUnseenModel$Valley;") ∈ lw_all := lw_g (lw_at lw_m6 81 rfl) rfl
theorem q1433 : (Jvm.Cond.fieldLink "NeverUnseenModel" (13 : Nat) "NeverUnseenModel" "tape" "[B") ∈ lw_all := lw_g (lw_at lw_m6 82 rfl) rfl
theorem q1434 : (Jvm.Cond.fieldLink "NeverUnseenModel" (373 : Nat) "NeverUnseenModel" "taped" "I") ∈ lw_all := lw_g (lw_at lw_m6 83 rfl) rfl
theorem q1435 : (Jvm.Cond.fieldLink "NeverUnseenModel" (70 : Nat) "NeverUnseenModel" "size" "I") ∈ lw_all := lw_g (lw_at lw_m6 84 rfl) rfl
theorem q1436 : (Jvm.Cond.fieldLink "NeverUnseenModel" (88 : Nat) "NeverUnseenModel" "spot" "I") ∈ lw_all := lw_g (lw_at lw_m6 85 rfl) rfl
theorem q1437 : (Jvm.Cond.fieldLink "NeverUnseenModel" (85 : Nat) "NeverUnseenModel" "sort" "I") ∈ lw_all := lw_g (lw_at lw_m6 86 rfl) rfl
theorem q1438 : (Jvm.Cond.fieldLink "NeverUnseenModel" (94 : Nat) "NeverUnseenModel" "place" "I") ∈ lw_all := lw_g (lw_at lw_m6 87 rfl) rfl
theorem q1439 : (Jvm.Cond.fieldLink "NeverUnseenModel" (97 : Nat) "NeverUnseenModel" "sign" "I") ∈ lw_all := lw_g (lw_at lw_m6 88 rfl) rfl
theorem q1440 : (Jvm.Cond.fieldLink "NeverUnseenModel" (111 : Nat) "NeverUnseenModel" "number" "I") ∈ lw_all := lw_g (lw_at lw_m6 89 rfl) rfl
theorem q1441 : (Jvm.Cond.fieldLink "NeverUnseenModel" (114 : Nat) "NeverUnseenModel" "fault" "I") ∈ lw_all := lw_g (lw_at lw_m6 90 rfl) rfl
theorem q1442 : (Jvm.Cond.fieldLink "NeverUnseenModel" (117 : Nat) "NeverUnseenModel" "wrongAt" "I") ∈ lw_all := lw_g (lw_at lw_m6 91 rfl) rfl
theorem q1443 : (Jvm.Cond.fieldLink "NeverUnseenModel" (104 : Nat) "NeverUnseenModel" "word" "J") ∈ lw_all := lw_g (lw_at lw_m6 92 rfl) rfl
theorem q1444 : (Jvm.Cond.fieldLink "NeverUnseenModel" (202 : Nat) "NeverUnseenModel" "firstRead" "I") ∈ lw_all := lw_g (lw_at lw_m6 93 rfl) rfl
theorem q1445 : (Jvm.Cond.fieldLink "NeverUnseenModel" (402 : Nat) "NeverUnseenModel" "opened" "I") ∈ lw_all := lw_g (lw_at lw_m6 94 rfl) rfl
theorem q1446 : (Jvm.Cond.fieldLink "NeverUnseenModel" (395 : Nat) "NeverUnseenModel" "misty" "I") ∈ lw_all := lw_g (lw_at lw_m6 95 rfl) rfl
theorem q1447 : (Jvm.Cond.fieldLink "NeverUnseenModel" (17 : Nat) "NeverUnseenModel" "at" "[I") ∈ lw_all := lw_g (lw_at lw_m6 96 rfl) rfl
theorem q1448 : (Jvm.Cond.fieldLink "NeverUnseenModel" (21 : Nat) "NeverUnseenModel" "tried" "[I") ∈ lw_all := lw_g (lw_at lw_m6 97 rfl) rfl
theorem q1449 : (Jvm.Cond.fieldLink "NeverUnseenModel" (383 : Nat) "NeverUnseenModel" "now" "I") ∈ lw_all := lw_g (lw_at lw_m6 98 rfl) rfl
theorem q1450 : (Jvm.Cond.fieldLink "NeverUnseenModel" (386 : Nat) "NeverUnseenModel" "seed" "I") ∈ lw_all := lw_g (lw_at lw_m6 99 rfl) rfl
theorem q1451 : (Jvm.Cond.fieldLink "NeverUnseenModel" (24 : Nat) "NeverUnseenModel" "plan" "[I") ∈ lw_all := lw_g (lw_at lw_m6 100 rfl) rfl
theorem q1452 : (Jvm.Cond.fieldLink "NeverUnseenModel" (452 : Nat) "NeverUnseenModel" "judgedWhy" "I") ∈ lw_all := lw_g (lw_at lw_m6 101 rfl) rfl
theorem q1453 : (Jvm.Cond.fieldLink "NeverUnseenModel" (27 : Nat) "NeverUnseenModel" "view" "[I") ∈ lw_all := lw_g (lw_at lw_m6 102 rfl) rfl
theorem q1454 : (Jvm.Cond.fieldLink "NeverUnseenModel" (30 : Nat) "NeverUnseenModel" "mover" "[I") ∈ lw_all := lw_g (lw_at lw_m6 103 rfl) rfl
theorem q1455 : (Jvm.Cond.fieldLink "NeverUnseenModel" (470 : Nat) "NeverUnseenModel" "movers" "I") ∈ lw_all := lw_g (lw_at lw_m6 104 rfl) rfl
theorem q1456 : (Jvm.Cond.fieldLink "NeverUnseenModel" (473 : Nat) "NeverUnseenModel" "ten" "I") ∈ lw_all := lw_g (lw_at lw_m6 105 rfl) rfl
theorem q1457 : (Jvm.Cond.fieldLink "NeverUnseenModel" (33 : Nat) "NeverUnseenModel" "can" "[Z") ∈ lw_all := lw_g (lw_at lw_m6 106 rfl) rfl
theorem q1458 : (Jvm.Cond.fieldLink "NeverUnseenModel" (37 : Nat) "NeverUnseenModel" "goal" "[Z") ∈ lw_all := lw_g (lw_at lw_m6 107 rfl) rfl
theorem q1459 : (Jvm.Cond.fieldLink "NeverUnseenModel" (40 : Nat) "NeverUnseenModel" "next" "[I") ∈ lw_all := lw_g (lw_at lw_m6 108 rfl) rfl
theorem q1460 : (Jvm.Cond.fieldLink "NeverUnseenModel" (43 : Nat) "NeverUnseenModel" "pathSteps" "I") ∈ lw_all := lw_g (lw_at lw_m6 109 rfl) rfl
theorem q1461 : (Jvm.Cond.fieldLink "NeverUnseenModel" (389 : Nat) "NeverUnseenModel" "pathMovers" "I") ∈ lw_all := lw_g (lw_at lw_m6 110 rfl) rfl
theorem q1462 : (Jvm.Cond.fieldLink "NeverUnseenModel" (46 : Nat) "NeverUnseenModel" "path" "[I") ∈ lw_all := lw_g (lw_at lw_m6 111 rfl) rfl
theorem q1463 : (Jvm.Cond.fieldLink "NeverUnseenModel" (50 : Nat) "NeverUnseenModel" "looked" "[Z") ∈ lw_all := lw_g (lw_at lw_m6 112 rfl) rfl
theorem q1464 : (Jvm.Cond.fieldLink "NeverUnseenModel" (53 : Nat) "NeverUnseenModel" "looks" "[Z") ∈ lw_all := lw_g (lw_at lw_m6 113 rfl) rfl
theorem q1465 : (Jvm.Cond.fieldLink "NeverUnseenModel" (546 : Nat) "NeverUnseenModel" "leastPosts" "I") ∈ lw_all := lw_g (lw_at lw_m6 114 rfl) rfl
theorem q1466 : (Jvm.Cond.lays "NeverUnseenModel" "NeverUnseenModel" "thrown" "I") ∈ lw_all := lw_g (lw_at lw_m6 115 rfl) rfl
theorem q1467 : (Jvm.Cond.soleField "NeverUnseenModel" "thrown") ∈ lw_all := lw_g (lw_at lw_m6 116 rfl) rfl
theorem q1468 : (Jvm.Cond.lays "NeverUnseenModel" "NeverUnseenModel" "trouble" "I") ∈ lw_all := lw_g (lw_at lw_m6 117 rfl) rfl
theorem q1469 : (Jvm.Cond.soleField "NeverUnseenModel" "trouble") ∈ lw_all := lw_g (lw_at lw_m6 118 rfl) rfl
theorem q1470 : (Jvm.Cond.lays "NeverUnseenModel" "NeverUnseenModel" "where" "I") ∈ lw_all := lw_g (lw_at lw_m6 119 rfl) rfl
theorem q1471 : (Jvm.Cond.soleField "NeverUnseenModel" "where") ∈ lw_all := lw_g (lw_at lw_m6 120 rfl) rfl
theorem q1472 : (Jvm.Cond.lays "NeverUnseenModel" "NeverUnseenModel" "valley" "LNeverUnseenModel$Valley;") ∈ lw_all := lw_g (lw_at lw_m6 121 rfl) rfl
theorem q1473 : (Jvm.Cond.soleField "NeverUnseenModel" "valley") ∈ lw_all := lw_g (lw_at lw_m6 122 rfl) rfl
theorem q1474 : (Jvm.Cond.lays "NeverUnseenModel" "NeverUnseenModel" "read" "LNeverUnseenModel$Valley;") ∈ lw_all := lw_g (lw_at lw_m6 123 rfl) rfl
theorem q1475 : (Jvm.Cond.soleField "NeverUnseenModel" "read") ∈ lw_all := lw_g (lw_at lw_m6 124 rfl) rfl
theorem q1476 : (Jvm.Cond.laysFinal "NeverUnseenModel" "NeverUnseenModel" "tape" "[B") ∈ lw_all := lw_g (lw_at lw_m6 125 rfl) rfl
theorem q1477 : (Jvm.Cond.soleField "NeverUnseenModel" "tape") ∈ lw_all := lw_g (lw_at lw_m6 126 rfl) rfl
theorem q1478 : (Jvm.Cond.lays "NeverUnseenModel" "NeverUnseenModel" "taped" "I") ∈ lw_all := lw_g (lw_at lw_m6 127 rfl) rfl
theorem q1479 : (Jvm.Cond.soleField "NeverUnseenModel" "taped") ∈ lw_all := lw_g (lw_at lw_m6 128 rfl) rfl
theorem q1480 : (Jvm.Cond.lays "NeverUnseenModel" "NeverUnseenModel" "size" "I") ∈ lw_all := lw_g (lw_at lw_m6 129 rfl) rfl
theorem q1481 : (Jvm.Cond.soleField "NeverUnseenModel" "size") ∈ lw_all := lw_g (lw_at lw_m6 130 rfl) rfl
theorem q1482 : (Jvm.Cond.lays "NeverUnseenModel" "NeverUnseenModel" "spot" "I") ∈ lw_all := lw_g (lw_at lw_m6 131 rfl) rfl
theorem q1483 : (Jvm.Cond.soleField "NeverUnseenModel" "spot") ∈ lw_all := lw_g (lw_at lw_m6 132 rfl) rfl
theorem q1484 : (Jvm.Cond.lays "NeverUnseenModel" "NeverUnseenModel" "sort" "I") ∈ lw_all := lw_g (lw_at lw_m6 133 rfl) rfl
theorem q1485 : (Jvm.Cond.soleField "NeverUnseenModel" "sort") ∈ lw_all := lw_g (lw_at lw_m6 134 rfl) rfl
theorem q1486 : (Jvm.Cond.lays "NeverUnseenModel" "NeverUnseenModel" "place" "I") ∈ lw_all := lw_g (lw_at lw_m6 135 rfl) rfl
theorem q1487 : (Jvm.Cond.soleField "NeverUnseenModel" "place") ∈ lw_all := lw_g (lw_at lw_m6 136 rfl) rfl
theorem q1488 : (Jvm.Cond.lays "NeverUnseenModel" "NeverUnseenModel" "sign" "I") ∈ lw_all := lw_g (lw_at lw_m6 137 rfl) rfl
theorem q1489 : (Jvm.Cond.soleField "NeverUnseenModel" "sign") ∈ lw_all := lw_g (lw_at lw_m6 138 rfl) rfl
theorem q1490 : (Jvm.Cond.lays "NeverUnseenModel" "NeverUnseenModel" "number" "I") ∈ lw_all := lw_g (lw_at lw_m6 139 rfl) rfl
theorem q1491 : (Jvm.Cond.soleField "NeverUnseenModel" "number") ∈ lw_all := lw_g (lw_at lw_m6 140 rfl) rfl
theorem q1492 : (Jvm.Cond.lays "NeverUnseenModel" "NeverUnseenModel" "fault" "I") ∈ lw_all := lw_g (lw_at lw_m6 141 rfl) rfl
theorem q1493 : (Jvm.Cond.soleField "NeverUnseenModel" "fault") ∈ lw_all := lw_g (lw_at lw_m6 142 rfl) rfl
theorem q1494 : (Jvm.Cond.lays "NeverUnseenModel" "NeverUnseenModel" "wrongAt" "I") ∈ lw_all := lw_g (lw_at lw_m6 143 rfl) rfl
theorem q1495 : (Jvm.Cond.soleField "NeverUnseenModel" "wrongAt") ∈ lw_all := lw_g (lw_at lw_m6 144 rfl) rfl
theorem q1496 : (Jvm.Cond.lays "NeverUnseenModel" "NeverUnseenModel" "word" "J") ∈ lw_all := lw_g (lw_at lw_m6 145 rfl) rfl
theorem q1497 : (Jvm.Cond.soleField "NeverUnseenModel" "word") ∈ lw_all := lw_g (lw_at lw_m6 146 rfl) rfl
theorem q1498 : (Jvm.Cond.lays "NeverUnseenModel" "NeverUnseenModel" "firstRead" "I") ∈ lw_all := lw_g (lw_at lw_m6 147 rfl) rfl
theorem q1499 : (Jvm.Cond.soleField "NeverUnseenModel" "firstRead") ∈ lw_all := lw_g (lw_at lw_m6 148 rfl) rfl
theorem q1500 : (Jvm.Cond.lays "NeverUnseenModel" "NeverUnseenModel" "opened" "I") ∈ lw_all := lw_g (lw_at lw_m6 149 rfl) rfl
theorem q1501 : (Jvm.Cond.soleField "NeverUnseenModel" "opened") ∈ lw_all := lw_g (lw_at lw_m6 150 rfl) rfl
theorem q1502 : (Jvm.Cond.lays "NeverUnseenModel" "NeverUnseenModel" "misty" "I") ∈ lw_all := lw_g (lw_at lw_m6 151 rfl) rfl
theorem q1503 : (Jvm.Cond.soleField "NeverUnseenModel" "misty") ∈ lw_all := lw_g (lw_at lw_m6 152 rfl) rfl
theorem q1504 : (Jvm.Cond.laysFinal "NeverUnseenModel" "NeverUnseenModel" "at" "[I") ∈ lw_all := lw_g (lw_at lw_m6 153 rfl) rfl
theorem q1505 : (Jvm.Cond.soleField "NeverUnseenModel" "at") ∈ lw_all := lw_g (lw_at lw_m6 154 rfl) rfl
theorem q1506 : (Jvm.Cond.laysFinal "NeverUnseenModel" "NeverUnseenModel" "tried" "[I") ∈ lw_all := lw_g (lw_at lw_m6 155 rfl) rfl
theorem q1507 : (Jvm.Cond.soleField "NeverUnseenModel" "tried") ∈ lw_all := lw_g (lw_at lw_m6 156 rfl) rfl
theorem q1508 : (Jvm.Cond.lays "NeverUnseenModel" "NeverUnseenModel" "now" "I") ∈ lw_all := lw_g (lw_at lw_m6 157 rfl) rfl
theorem q1509 : (Jvm.Cond.soleField "NeverUnseenModel" "now") ∈ lw_all := lw_g (lw_at lw_m6 158 rfl) rfl
theorem q1510 : (Jvm.Cond.lays "NeverUnseenModel" "NeverUnseenModel" "seed" "I") ∈ lw_all := lw_g (lw_at lw_m6 159 rfl) rfl
theorem q1511 : (Jvm.Cond.soleField "NeverUnseenModel" "seed") ∈ lw_all := lw_g (lw_at lw_m6 160 rfl) rfl
theorem q1512 : (Jvm.Cond.laysFinal "NeverUnseenModel" "NeverUnseenModel" "plan" "[I") ∈ lw_all := lw_g (lw_at lw_m6 161 rfl) rfl
theorem q1513 : (Jvm.Cond.soleField "NeverUnseenModel" "plan") ∈ lw_all := lw_g (lw_at lw_m6 162 rfl) rfl
theorem q1514 : (Jvm.Cond.lays "NeverUnseenModel" "NeverUnseenModel" "judgedWhy" "I") ∈ lw_all := lw_g (lw_at lw_m6 163 rfl) rfl
theorem q1515 : (Jvm.Cond.soleField "NeverUnseenModel" "judgedWhy") ∈ lw_all := lw_g (lw_at lw_m6 164 rfl) rfl
theorem q1516 : (Jvm.Cond.laysFinal "NeverUnseenModel" "NeverUnseenModel" "view" "[I") ∈ lw_all := lw_g (lw_at lw_m6 165 rfl) rfl
theorem q1517 : (Jvm.Cond.soleField "NeverUnseenModel" "view") ∈ lw_all := lw_g (lw_at lw_m6 166 rfl) rfl
theorem q1518 : (Jvm.Cond.laysFinal "NeverUnseenModel" "NeverUnseenModel" "mover" "[I") ∈ lw_all := lw_g (lw_at lw_m6 167 rfl) rfl
theorem q1519 : (Jvm.Cond.soleField "NeverUnseenModel" "mover") ∈ lw_all := lw_g (lw_at lw_m6 168 rfl) rfl
theorem q1520 : (Jvm.Cond.lays "NeverUnseenModel" "NeverUnseenModel" "movers" "I") ∈ lw_all := lw_g (lw_at lw_m6 169 rfl) rfl
theorem q1521 : (Jvm.Cond.soleField "NeverUnseenModel" "movers") ∈ lw_all := lw_g (lw_at lw_m6 170 rfl) rfl
theorem q1522 : (Jvm.Cond.lays "NeverUnseenModel" "NeverUnseenModel" "ten" "I") ∈ lw_all := lw_g (lw_at lw_m6 171 rfl) rfl
theorem q1523 : (Jvm.Cond.soleField "NeverUnseenModel" "ten") ∈ lw_all := lw_g (lw_at lw_m6 172 rfl) rfl
theorem q1524 : (Jvm.Cond.laysFinal "NeverUnseenModel" "NeverUnseenModel" "can" "[Z") ∈ lw_all := lw_g (lw_at lw_m6 173 rfl) rfl
theorem q1525 : (Jvm.Cond.soleField "NeverUnseenModel" "can") ∈ lw_all := lw_g (lw_at lw_m6 174 rfl) rfl
theorem q1526 : (Jvm.Cond.laysFinal "NeverUnseenModel" "NeverUnseenModel" "goal" "[Z") ∈ lw_all := lw_g (lw_at lw_m6 175 rfl) rfl
theorem q1527 : (Jvm.Cond.soleField "NeverUnseenModel" "goal") ∈ lw_all := lw_g (lw_at lw_m6 176 rfl) rfl
theorem q1528 : (Jvm.Cond.laysFinal "NeverUnseenModel" "NeverUnseenModel" "next" "[I") ∈ lw_all := lw_g (lw_at lw_m6 177 rfl) rfl
theorem q1529 : (Jvm.Cond.soleField "NeverUnseenModel" "next") ∈ lw_all := lw_g (lw_at lw_m6 178 rfl) rfl
theorem q1530 : (Jvm.Cond.lays "NeverUnseenModel" "NeverUnseenModel" "pathSteps" "I") ∈ lw_all := lw_g (lw_at lw_m6 179 rfl) rfl
theorem q1531 : (Jvm.Cond.soleField "NeverUnseenModel" "pathSteps") ∈ lw_all := lw_g (lw_at lw_m6 180 rfl) rfl
theorem q1532 : (Jvm.Cond.lays "NeverUnseenModel" "NeverUnseenModel" "pathMovers" "I") ∈ lw_all := lw_g (lw_at lw_m6 181 rfl) rfl
theorem q1533 : (Jvm.Cond.soleField "NeverUnseenModel" "pathMovers") ∈ lw_all := lw_g (lw_at lw_m6 182 rfl) rfl
theorem q1534 : (Jvm.Cond.laysFinal "NeverUnseenModel" "NeverUnseenModel" "path" "[I") ∈ lw_all := lw_g (lw_at lw_m6 183 rfl) rfl
theorem q1535 : (Jvm.Cond.soleField "NeverUnseenModel" "path") ∈ lw_all := lw_g (lw_at lw_m6 184 rfl) rfl
theorem q1536 : (Jvm.Cond.laysFinal "NeverUnseenModel" "NeverUnseenModel" "looked" "[Z") ∈ lw_all := lw_g (lw_at lw_m6 185 rfl) rfl
theorem q1537 : (Jvm.Cond.soleField "NeverUnseenModel" "looked") ∈ lw_all := lw_g (lw_at lw_m6 186 rfl) rfl
theorem q1538 : (Jvm.Cond.laysFinal "NeverUnseenModel" "NeverUnseenModel" "looks" "[Z") ∈ lw_all := lw_g (lw_at lw_m6 187 rfl) rfl
theorem q1539 : (Jvm.Cond.soleField "NeverUnseenModel" "looks") ∈ lw_all := lw_g (lw_at lw_m6 188 rfl) rfl
theorem q1540 : (Jvm.Cond.lays "NeverUnseenModel" "NeverUnseenModel" "leastPosts" "I") ∈ lw_all := lw_g (lw_at lw_m6 189 rfl) rfl
theorem q1541 : (Jvm.Cond.soleField "NeverUnseenModel" "leastPosts") ∈ lw_all := lw_g (lw_at lw_m6 190 rfl) rfl
theorem q1542 : (Jvm.Cond.superclass "NeverUnseenModel" "java/lang/Object") ∈ lw_all := lw_g (lw_at lw_m6 191 rfl) rfl
theorem q1544 : (Jvm.Cond.instanceMethod ({ cls := "NeverUnseenModel", name := "thrown", desc := "()I" } : Jvm.MethodName)) ∈ lw_all := lw_g (lw_at lw_m6 193 rfl) rfl
theorem q1545 : (Jvm.Cond.selects "NeverUnseenModel" ({ cls := "NeverUnseenModel", name := "thrown", desc := "()I" } : Jvm.MethodName) ({ cls := "NeverUnseenModel", name := "thrown", desc := "()I" } : Jvm.MethodName)) ∈ lw_all := lw_g (lw_at lw_m6 194 rfl) rfl
theorem q1546 : (Jvm.Cond.code ({ cls := "NeverUnseenModel", name := "thrown", desc := "()I" } : Jvm.MethodName) prog_15_method_2_code (1 : Nat) (Option.some Jvm.ClassFile.FieldType.int)) ∈ lw_all := lw_g (lw_at lw_m6 195 rfl) rfl
theorem q1548 : (Jvm.Cond.instanceMethod ({ cls := "NeverUnseenModel", name := "feed", desc := "(IIIII)I" } : Jvm.MethodName)) ∈ lw_all := lw_g (lw_at lw_m6 197 rfl) rfl
theorem q1549 : (Jvm.Cond.selects "NeverUnseenModel" ({ cls := "NeverUnseenModel", name := "feed", desc := "(IIIII)I" } : Jvm.MethodName) ({ cls := "NeverUnseenModel", name := "feed", desc := "(IIIII)I" } : Jvm.MethodName)) ∈ lw_all := lw_g (lw_at lw_m6 198 rfl) rfl
theorem q1550 : (Jvm.Cond.code ({ cls := "NeverUnseenModel", name := "feed", desc := "(IIIII)I" } : Jvm.MethodName) prog_15_method_41_code (8 : Nat) (Option.some Jvm.ClassFile.FieldType.int)) ∈ lw_all := lw_g (lw_at lw_m6 199 rfl) rfl
theorem q1552 : (Jvm.Cond.instanceMethod ({ cls := "NeverUnseenModel", name := "valley", desc := "(I)I" } : Jvm.MethodName)) ∈ lw_all := lw_g (lw_at lw_m6 201 rfl) rfl
theorem q1553 : (Jvm.Cond.selects "NeverUnseenModel" ({ cls := "NeverUnseenModel", name := "valley", desc := "(I)I" } : Jvm.MethodName) ({ cls := "NeverUnseenModel", name := "valley", desc := "(I)I" } : Jvm.MethodName)) ∈ lw_all := lw_g (lw_at lw_m6 202 rfl) rfl
theorem q1554 : (Jvm.Cond.code ({ cls := "NeverUnseenModel", name := "valley", desc := "(I)I" } : Jvm.MethodName) prog_15_method_42_code (3 : Nat) (Option.some Jvm.ClassFile.FieldType.int)) ∈ lw_all := lw_g (lw_at lw_m6 203 rfl) rfl
theorem q1555 : (Jvm.Cond.methodLink "NeverUnseenModel" (62 : Nat) ({ cls := "NeverUnseenModel", name := "refused", desc := "(I)I" } : Jvm.MethodName)) ∈ lw_all := lw_g (lw_at lw_m6 204 rfl) rfl
theorem q1556 : (Jvm.Cond.privateMethod ({ cls := "NeverUnseenModel", name := "refused", desc := "(I)I" } : Jvm.MethodName)) ∈ lw_tbl := lw_at lw_m6 205 rfl
theorem q1557 : (Jvm.Cond.instanceMethod ({ cls := "NeverUnseenModel", name := "refused", desc := "(I)I" } : Jvm.MethodName)) ∈ lw_all := lw_g (lw_at lw_m6 206 rfl) rfl
theorem q1558 : (Jvm.Cond.code ({ cls := "NeverUnseenModel", name := "refused", desc := "(I)I" } : Jvm.MethodName) prog_15_method_3_code (2 : Nat) (Option.some Jvm.ClassFile.FieldType.int)) ∈ lw_all := lw_g (lw_at lw_m6 207 rfl) rfl
theorem q1559 : (Jvm.Cond.classLink "NeverUnseenModel" (178 : Nat) "NeverUnseenModel$Valley") ∈ lw_all := lw_g (lw_at lw_m6 208 rfl) rfl
theorem q1561 : (Jvm.Cond.methodLinkNest "NeverUnseenModel" (376 : Nat) ({ cls := "NeverUnseenModel$Valley", name := "<init>", desc := "()V" } : Jvm.MethodName) "NeverUnseenModel") ∈ lw_tbl := lw_at lw_m6 210 rfl
theorem q1565 : (Jvm.Cond.fieldLinkNest "NeverUnseenModel" (214 : Nat) "NeverUnseenModel$Valley" "hasLaw" "Z" "NeverUnseenModel") ∈ lw_tbl := lw_at lw_m6 214 rfl
theorem q1566 : (Jvm.Cond.fieldLinkNest "NeverUnseenModel" (257 : Nat) "NeverUnseenModel$Valley" "day" "I" "NeverUnseenModel") ∈ lw_tbl := lw_at lw_m6 215 rfl
theorem q1567 : (Jvm.Cond.fieldLinkNest "NeverUnseenModel" (261 : Nat) "NeverUnseenModel$Valley" "night" "I" "NeverUnseenModel") ∈ lw_tbl := lw_at lw_m6 216 rfl
theorem q1568 : (Jvm.Cond.fieldLinkNest "NeverUnseenModel" (265 : Nat) "NeverUnseenModel$Valley" "from" "I" "NeverUnseenModel") ∈ lw_tbl := lw_at lw_m6 217 rfl
theorem q1569 : (Jvm.Cond.fieldLinkNest "NeverUnseenModel" (269 : Nat) "NeverUnseenModel$Valley" "to" "I" "NeverUnseenModel") ∈ lw_tbl := lw_at lw_m6 218 rfl
theorem q1570 : (Jvm.Cond.fieldLinkNest "NeverUnseenModel" (273 : Nat) "NeverUnseenModel$Valley" "steps" "I" "NeverUnseenModel") ∈ lw_tbl := lw_at lw_m6 219 rfl
theorem q1571 : (Jvm.Cond.fieldLinkNest "NeverUnseenModel" (218 : Nat) "NeverUnseenModel$Valley" "places" "I" "NeverUnseenModel") ∈ lw_tbl := lw_at lw_m6 220 rfl
theorem q1572 : (Jvm.Cond.fieldLinkNest "NeverUnseenModel" (289 : Nat) "NeverUnseenModel$Valley" "walls" "I" "NeverUnseenModel") ∈ lw_tbl := lw_at lw_m6 221 rfl
theorem q1574 : (Jvm.Cond.fieldLinkNest "NeverUnseenModel" (302 : Nat) "NeverUnseenModel$Valley" "ways" "I" "NeverUnseenModel") ∈ lw_tbl := lw_at lw_m6 223 rfl
theorem q1575 : (Jvm.Cond.fieldLinkNest "NeverUnseenModel" (311 : Nat) "NeverUnseenModel$Valley" "mirrors" "I" "NeverUnseenModel") ∈ lw_tbl := lw_at lw_m6 224 rfl
theorem q1576 : (Jvm.Cond.fieldLinkNest "NeverUnseenModel" (221 : Nat) "NeverUnseenModel$Valley" "people" "I" "NeverUnseenModel") ∈ lw_tbl := lw_at lw_m6 225 rfl
theorem q1577 : (Jvm.Cond.fieldLinkNest "NeverUnseenModel" (335 : Nat) "NeverUnseenModel$Valley" "pairs" "I" "NeverUnseenModel") ∈ lw_tbl := lw_at lw_m6 226 rfl
theorem q1578 : (Jvm.Cond.fieldLinkNest "NeverUnseenModel" (344 : Nat) "NeverUnseenModel$Valley" "errands" "I" "NeverUnseenModel") ∈ lw_tbl := lw_at lw_m6 227 rfl
theorem q1579 : (Jvm.Cond.fieldLinkNest "NeverUnseenModel" (363 : Nat) "NeverUnseenModel$Valley" "fogs" "I" "NeverUnseenModel") ∈ lw_tbl := lw_at lw_m6 228 rfl
theorem q1581 : (Jvm.Cond.fieldLinkNest "NeverUnseenModel" (187 : Nat) "NeverUnseenModel$Valley" "names" "I" "NeverUnseenModel") ∈ lw_tbl := lw_at lw_m6 230 rfl
theorem q1583 : (Jvm.Cond.fieldLinkNest "NeverUnseenModel" (283 : Nat) "NeverUnseenModel$Valley" "x" "[I" "NeverUnseenModel") ∈ lw_tbl := lw_at lw_m6 232 rfl
theorem q1585 : (Jvm.Cond.fieldLinkNest "NeverUnseenModel" (286 : Nat) "NeverUnseenModel$Valley" "y" "[I" "NeverUnseenModel") ∈ lw_tbl := lw_at lw_m6 234 rfl
theorem q1587 : (Jvm.Cond.fieldLinkNest "NeverUnseenModel" (292 : Nat) "NeverUnseenModel$Valley" "wallA" "[I" "NeverUnseenModel") ∈ lw_tbl := lw_at lw_m6 236 rfl
theorem q1589 : (Jvm.Cond.fieldLinkNest "NeverUnseenModel" (295 : Nat) "NeverUnseenModel$Valley" "wallB" "[I" "NeverUnseenModel") ∈ lw_tbl := lw_at lw_m6 238 rfl
theorem q1591 : (Jvm.Cond.fieldLinkNest "NeverUnseenModel" (305 : Nat) "NeverUnseenModel$Valley" "wayA" "[I" "NeverUnseenModel") ∈ lw_tbl := lw_at lw_m7 0 rfl
theorem q1593 : (Jvm.Cond.fieldLinkNest "NeverUnseenModel" (308 : Nat) "NeverUnseenModel$Valley" "wayB" "[I" "NeverUnseenModel") ∈ lw_tbl := lw_at lw_m7 2 rfl
theorem q1595 : (Jvm.Cond.fieldLinkNest "NeverUnseenModel" (314 : Nat) "NeverUnseenModel$Valley" "mirror" "[I" "NeverUnseenModel") ∈ lw_tbl := lw_at lw_m7 4 rfl
theorem q1597 : (Jvm.Cond.fieldLinkNest "NeverUnseenModel" (323 : Nat) "NeverUnseenModel$Valley" "begins" "[I" "NeverUnseenModel") ∈ lw_tbl := lw_at lw_m7 6 rfl
theorem q1599 : (Jvm.Cond.fieldLinkNest "NeverUnseenModel" (328 : Nat) "NeverUnseenModel$Valley" "away" "[I" "NeverUnseenModel") ∈ lw_tbl := lw_at lw_m7 8 rfl
theorem q1601 : (Jvm.Cond.fieldLinkNest "NeverUnseenModel" (330 : Nat) "NeverUnseenModel$Valley" "sleeps" "[I" "NeverUnseenModel") ∈ lw_tbl := lw_at lw_m7 10 rfl
theorem q1603 : (Jvm.Cond.fieldLinkNest "NeverUnseenModel" (332 : Nat) "NeverUnseenModel$Valley" "wakes" "[I" "NeverUnseenModel") ∈ lw_tbl := lw_at lw_m7 12 rfl
theorem q1605 : (Jvm.Cond.fieldLinkNest "NeverUnseenModel" (338 : Nat) "NeverUnseenModel$Valley" "pairA" "[I" "NeverUnseenModel") ∈ lw_tbl := lw_at lw_m7 14 rfl
theorem q1607 : (Jvm.Cond.fieldLinkNest "NeverUnseenModel" (341 : Nat) "NeverUnseenModel$Valley" "pairB" "[I" "NeverUnseenModel") ∈ lw_tbl := lw_at lw_m7 16 rfl
theorem q1609 : (Jvm.Cond.fieldLinkNest "NeverUnseenModel" (325 : Nat) "NeverUnseenModel$Valley" "isBaby" "[Z" "NeverUnseenModel") ∈ lw_tbl := lw_at lw_m7 18 rfl
theorem q1611 : (Jvm.Cond.fieldLinkNest "NeverUnseenModel" (349 : Nat) "NeverUnseenModel$Valley" "whose" "[I" "NeverUnseenModel") ∈ lw_tbl := lw_at lw_m7 20 rfl
theorem q1613 : (Jvm.Cond.fieldLinkNest "NeverUnseenModel" (352 : Nat) "NeverUnseenModel$Valley" "whither" "[I" "NeverUnseenModel") ∈ lw_tbl := lw_at lw_m7 22 rfl
theorem q1615 : (Jvm.Cond.fieldLinkNest "NeverUnseenModel" (355 : Nat) "NeverUnseenModel$Valley" "since" "[I" "NeverUnseenModel") ∈ lw_tbl := lw_at lw_m7 24 rfl
theorem q1617 : (Jvm.Cond.fieldLinkNest "NeverUnseenModel" (358 : Nat) "NeverUnseenModel$Valley" "until" "[I" "NeverUnseenModel") ∈ lw_tbl := lw_at lw_m7 26 rfl
theorem q1619 : (Jvm.Cond.fieldLinkNest "NeverUnseenModel" (361 : Nat) "NeverUnseenModel$Valley" "takes" "[I" "NeverUnseenModel") ∈ lw_tbl := lw_at lw_m7 28 rfl
theorem q1621 : (Jvm.Cond.fieldLinkNest "NeverUnseenModel" (366 : Nat) "NeverUnseenModel$Valley" "fogAt" "[I" "NeverUnseenModel") ∈ lw_tbl := lw_at lw_m7 30 rfl
theorem q1623 : (Jvm.Cond.fieldLinkNest "NeverUnseenModel" (371 : Nat) "NeverUnseenModel$Valley" "chance" "[I" "NeverUnseenModel") ∈ lw_tbl := lw_at lw_m7 32 rfl
theorem q1625 : (Jvm.Cond.fieldLinkNest "NeverUnseenModel" (183 : Nat) "NeverUnseenModel$Valley" "name" "[J" "NeverUnseenModel") ∈ lw_tbl := lw_at lw_m7 34 rfl
theorem q1627 : (Jvm.Cond.fieldLinkNest "NeverUnseenModel" (190 : Nat) "NeverUnseenModel$Valley" "nameSort" "[I" "NeverUnseenModel") ∈ lw_tbl := lw_at lw_m7 36 rfl
theorem q1629 : (Jvm.Cond.fieldLinkNest "NeverUnseenModel" (193 : Nat) "NeverUnseenModel$Valley" "nameNumber" "[I" "NeverUnseenModel") ∈ lw_tbl := lw_at lw_m7 38 rfl
theorem q1710 : (Jvm.Cond.methodLink "NeverUnseenModel" (128 : Nat) ({ cls := "NeverUnseenModel", name := "goesOn", desc := "()V" } : Jvm.MethodName)) ∈ lw_all := lw_g (lw_at lw_m7 119 rfl) rfl
theorem q1711 : (Jvm.Cond.privateMethod ({ cls := "NeverUnseenModel", name := "goesOn", desc := "()V" } : Jvm.MethodName)) ∈ lw_tbl := lw_at lw_m7 120 rfl
theorem q1712 : (Jvm.Cond.instanceMethod ({ cls := "NeverUnseenModel", name := "goesOn", desc := "()V" } : Jvm.MethodName)) ∈ lw_all := lw_g (lw_at lw_m7 121 rfl) rfl
theorem q1713 : (Jvm.Cond.code ({ cls := "NeverUnseenModel", name := "goesOn", desc := "()V" } : Jvm.MethodName) prog_15_method_14_code (3 : Nat) (Option.none : Option Jvm.ClassFile.FieldType)) ∈ lw_all := lw_g (lw_at lw_m7 122 rfl) rfl
theorem q1714 : (Jvm.Cond.methodLink "NeverUnseenModel" (91 : Nat) ({ cls := "NeverUnseenModel", name := "byteAt", desc := "(I)I" } : Jvm.MethodName)) ∈ lw_all := lw_g (lw_at lw_m7 123 rfl) rfl
theorem q1715 : (Jvm.Cond.privateMethod ({ cls := "NeverUnseenModel", name := "byteAt", desc := "(I)I" } : Jvm.MethodName)) ∈ lw_tbl := lw_at lw_m7 124 rfl
theorem q1716 : (Jvm.Cond.instanceMethod ({ cls := "NeverUnseenModel", name := "byteAt", desc := "(I)I" } : Jvm.MethodName)) ∈ lw_all := lw_g (lw_at lw_m7 125 rfl) rfl
theorem q1717 : (Jvm.Cond.code ({ cls := "NeverUnseenModel", name := "byteAt", desc := "(I)I" } : Jvm.MethodName) prog_15_method_10_code (2 : Nat) (Option.some Jvm.ClassFile.FieldType.int)) ∈ lw_all := lw_g (lw_at lw_m7 126 rfl) rfl
theorem q1718 : (Jvm.Cond.methodLink "NeverUnseenModel" (100 : Nat) ({ cls := "NeverUnseenModel", name := "isLetter", desc := "(I)Z" } : Jvm.MethodName)) ∈ lw_all := lw_g (lw_at lw_m7 127 rfl) rfl
theorem q1719 : (Jvm.Cond.static ({ cls := "NeverUnseenModel", name := "isLetter", desc := "(I)Z" } : Jvm.MethodName)) ∈ lw_all := lw_g (lw_at lw_m7 128 rfl) rfl
theorem q1720 : (Jvm.Cond.code ({ cls := "NeverUnseenModel", name := "isLetter", desc := "(I)Z" } : Jvm.MethodName) prog_15_method_11_code (1 : Nat) (Option.some Jvm.ClassFile.FieldType.boolean)) ∈ lw_all := lw_g (lw_at lw_m7 129 rfl) rfl
theorem q1721 : (Jvm.Cond.constantLong "NeverUnseenModel" (79 : Nat) (32 : Int64)) ∈ lw_all := lw_g (lw_at lw_m7 130 rfl) rfl
theorem q1722 : (Jvm.Cond.methodLink "NeverUnseenModel" (108 : Nat) ({ cls := "NeverUnseenModel", name := "isDigit", desc := "(I)Z" } : Jvm.MethodName)) ∈ lw_all := lw_g (lw_at lw_m7 131 rfl) rfl
theorem q1723 : (Jvm.Cond.static ({ cls := "NeverUnseenModel", name := "isDigit", desc := "(I)Z" } : Jvm.MethodName)) ∈ lw_all := lw_g (lw_at lw_m7 132 rfl) rfl
theorem q1724 : (Jvm.Cond.code ({ cls := "NeverUnseenModel", name := "isDigit", desc := "(I)Z" } : Jvm.MethodName) prog_15_method_12_code (1 : Nat) (Option.some Jvm.ClassFile.FieldType.boolean)) ∈ lw_all := lw_g (lw_at lw_m7 133 rfl) rfl
theorem q1725 : (Jvm.Cond.methodLink "NeverUnseenModel" (377 : Nat) ({ cls := "NeverUnseenModel", name := "readValley", desc := "()V" } : Jvm.MethodName)) ∈ lw_all := lw_g (lw_at lw_m7 134 rfl) rfl
theorem q1726 : (Jvm.Cond.privateMethod ({ cls := "NeverUnseenModel", name := "readValley", desc := "()V" } : Jvm.MethodName)) ∈ lw_tbl := lw_at lw_m7 135 rfl
theorem q1727 : (Jvm.Cond.instanceMethod ({ cls := "NeverUnseenModel", name := "readValley", desc := "()V" } : Jvm.MethodName)) ∈ lw_all := lw_g (lw_at lw_m7 136 rfl) rfl
theorem q1728 : (Jvm.Cond.code ({ cls := "NeverUnseenModel", name := "readValley", desc := "()V" } : Jvm.MethodName) prog_15_method_29_code (2 : Nat) (Option.none : Option Jvm.ClassFile.FieldType)) ∈ lw_all := lw_g (lw_at lw_m7 137 rfl) rfl
theorem q1729 : (Jvm.Cond.methodLink "NeverUnseenModel" (208 : Nat) ({ cls := "NeverUnseenModel", name := "readLine", desc := "()V" } : Jvm.MethodName)) ∈ lw_all := lw_g (lw_at lw_m7 138 rfl) rfl
theorem q1730 : (Jvm.Cond.privateMethod ({ cls := "NeverUnseenModel", name := "readLine", desc := "()V" } : Jvm.MethodName)) ∈ lw_tbl := lw_at lw_m7 139 rfl
theorem q1731 : (Jvm.Cond.instanceMethod ({ cls := "NeverUnseenModel", name := "readLine", desc := "()V" } : Jvm.MethodName)) ∈ lw_all := lw_g (lw_at lw_m7 140 rfl) rfl
theorem q1732 : (Jvm.Cond.code ({ cls := "NeverUnseenModel", name := "readLine", desc := "()V" } : Jvm.MethodName) prog_15_method_30_code (1 : Nat) (Option.none : Option Jvm.ClassFile.FieldType)) ∈ lw_all := lw_g (lw_at lw_m7 141 rfl) rfl
theorem q1733 : (Jvm.Cond.stringRef "NeverUnseenModel" (146 : Nat) "law") ∈ lw_tbl := lw_at lw_m7 142 rfl
theorem q1734 : (Jvm.Cond.methodLink "NeverUnseenModel" (124 : Nat) ({ cls := "NeverUnseenModel", name := "isWord", desc := "(Ljava/lang/String;)Z" } : Jvm.MethodName)) ∈ lw_all := lw_g (lw_at lw_m7 143 rfl) rfl
theorem q1735 : (Jvm.Cond.privateMethod ({ cls := "NeverUnseenModel", name := "isWord", desc := "(Ljava/lang/String;)Z" } : Jvm.MethodName)) ∈ lw_tbl := lw_at lw_m7 144 rfl
theorem q1736 : (Jvm.Cond.instanceMethod ({ cls := "NeverUnseenModel", name := "isWord", desc := "(Ljava/lang/String;)Z" } : Jvm.MethodName)) ∈ lw_all := lw_g (lw_at lw_m7 145 rfl) rfl
theorem q1737 : (Jvm.Cond.code ({ cls := "NeverUnseenModel", name := "isWord", desc := "(Ljava/lang/String;)Z" } : Jvm.MethodName) prog_15_method_16_code (2 : Nat) (Option.some Jvm.ClassFile.FieldType.boolean)) ∈ lw_all := lw_g (lw_at lw_m7 146 rfl) rfl
theorem q1738 : (Jvm.Cond.methodLink "NeverUnseenModel" (120 : Nat) ({ cls := "NeverUnseenModel", name := "wordOf", desc := "(Ljava/lang/String;)J" } : Jvm.MethodName)) ∈ lw_all := lw_g (lw_at lw_m7 147 rfl) rfl
theorem q1739 : (Jvm.Cond.static ({ cls := "NeverUnseenModel", name := "wordOf", desc := "(Ljava/lang/String;)J" } : Jvm.MethodName)) ∈ lw_all := lw_g (lw_at lw_m7 148 rfl) rfl
theorem q1740 : (Jvm.Cond.code ({ cls := "NeverUnseenModel", name := "wordOf", desc := "(Ljava/lang/String;)J" } : Jvm.MethodName) prog_15_method_13_code (4 : Nat) (Option.some Jvm.ClassFile.FieldType.long)) ∈ lw_all := lw_g (lw_at lw_m7 149 rfl) rfl
theorem q1741 : (Jvm.Cond.methodLink "NeverUnseenModel" (73 : Nat) ({ cls := "java/lang/String", name := "length", desc := "()I" } : Jvm.MethodName)) ∈ lw_all := lw_g (lw_at lw_m7 150 rfl) rfl
theorem q1749 : (Jvm.Cond.methodLink "NeverUnseenModel" (81 : Nat) ({ cls := "java/lang/String", name := "charAt", desc := "(I)C" } : Jvm.MethodName)) ∈ lw_all := lw_g (lw_at lw_m7 158 rfl) rfl
theorem q1769 : (Jvm.Cond.methodLink "NeverUnseenModel" (224 : Nat) ({ cls := "NeverUnseenModel", name := "readLaw", desc := "()V" } : Jvm.MethodName)) ∈ lw_all := lw_g (lw_at lw_m7 178 rfl) rfl
theorem q1770 : (Jvm.Cond.privateMethod ({ cls := "NeverUnseenModel", name := "readLaw", desc := "()V" } : Jvm.MethodName)) ∈ lw_tbl := lw_at lw_m7 179 rfl
theorem q1771 : (Jvm.Cond.instanceMethod ({ cls := "NeverUnseenModel", name := "readLaw", desc := "()V" } : Jvm.MethodName)) ∈ lw_all := lw_g (lw_at lw_m7 180 rfl) rfl
theorem q1772 : (Jvm.Cond.code ({ cls := "NeverUnseenModel", name := "readLaw", desc := "()V" } : Jvm.MethodName) prog_15_method_31_code (1 : Nat) (Option.none : Option Jvm.ClassFile.FieldType)) ∈ lw_all := lw_g (lw_at lw_m7 181 rfl) rfl
theorem q1773 : (Jvm.Cond.methodLink "NeverUnseenModel" (131 : Nat) ({ cls := "NeverUnseenModel", name := "wrong", desc := "(I)V" } : Jvm.MethodName)) ∈ lw_all := lw_g (lw_at lw_m7 182 rfl) rfl
theorem q1774 : (Jvm.Cond.privateMethod ({ cls := "NeverUnseenModel", name := "wrong", desc := "(I)V" } : Jvm.MethodName)) ∈ lw_tbl := lw_at lw_m7 183 rfl
theorem q1775 : (Jvm.Cond.instanceMethod ({ cls := "NeverUnseenModel", name := "wrong", desc := "(I)V" } : Jvm.MethodName)) ∈ lw_all := lw_g (lw_at lw_m7 184 rfl) rfl
theorem q1776 : (Jvm.Cond.code ({ cls := "NeverUnseenModel", name := "wrong", desc := "(I)V" } : Jvm.MethodName) prog_15_method_15_code (2 : Nat) (Option.none : Option Jvm.ClassFile.FieldType)) ∈ lw_all := lw_g (lw_at lw_m7 185 rfl) rfl
theorem q1777 : (Jvm.Cond.stringRef "NeverUnseenModel" (251 : Nat) "day") ∈ lw_tbl := lw_at lw_m7 186 rfl
theorem q1778 : (Jvm.Cond.methodLink "NeverUnseenModel" (253 : Nat) ({ cls := "NeverUnseenModel", name := "readPart", desc := "(Ljava/lang/String;II)I" } : Jvm.MethodName)) ∈ lw_all := lw_g (lw_at lw_m7 187 rfl) rfl
theorem q1779 : (Jvm.Cond.privateMethod ({ cls := "NeverUnseenModel", name := "readPart", desc := "(Ljava/lang/String;II)I" } : Jvm.MethodName)) ∈ lw_tbl := lw_at lw_m7 188 rfl
theorem q1780 : (Jvm.Cond.instanceMethod ({ cls := "NeverUnseenModel", name := "readPart", desc := "(Ljava/lang/String;II)I" } : Jvm.MethodName)) ∈ lw_all := lw_g (lw_at lw_m7 189 rfl) rfl
theorem q1781 : (Jvm.Cond.code ({ cls := "NeverUnseenModel", name := "readPart", desc := "(Ljava/lang/String;II)I" } : Jvm.MethodName) prog_15_method_22_code (4 : Nat) (Option.some Jvm.ClassFile.FieldType.int)) ∈ lw_all := lw_g (lw_at lw_m7 190 rfl) rfl
theorem q1782 : (Jvm.Cond.methodLink "NeverUnseenModel" (139 : Nat) ({ cls := "NeverUnseenModel", name := "must", desc := "(Ljava/lang/String;)V" } : Jvm.MethodName)) ∈ lw_all := lw_g (lw_at lw_m7 191 rfl) rfl
theorem q1783 : (Jvm.Cond.privateMethod ({ cls := "NeverUnseenModel", name := "must", desc := "(Ljava/lang/String;)V" } : Jvm.MethodName)) ∈ lw_tbl := lw_at lw_m7 192 rfl
theorem q1784 : (Jvm.Cond.instanceMethod ({ cls := "NeverUnseenModel", name := "must", desc := "(Ljava/lang/String;)V" } : Jvm.MethodName)) ∈ lw_all := lw_g (lw_at lw_m7 193 rfl) rfl
theorem q1785 : (Jvm.Cond.code ({ cls := "NeverUnseenModel", name := "must", desc := "(Ljava/lang/String;)V" } : Jvm.MethodName) prog_15_method_19_code (2 : Nat) (Option.none : Option Jvm.ClassFile.FieldType)) ∈ lw_all := lw_g (lw_at lw_m7 194 rfl) rfl
theorem q1786 : (Jvm.Cond.methodLink "NeverUnseenModel" (143 : Nat) ({ cls := "NeverUnseenModel", name := "readWhole", desc := "(II)I" } : Jvm.MethodName)) ∈ lw_all := lw_g (lw_at lw_m7 195 rfl) rfl
theorem q1787 : (Jvm.Cond.privateMethod ({ cls := "NeverUnseenModel", name := "readWhole", desc := "(II)I" } : Jvm.MethodName)) ∈ lw_tbl := lw_at lw_m7 196 rfl
theorem q1788 : (Jvm.Cond.instanceMethod ({ cls := "NeverUnseenModel", name := "readWhole", desc := "(II)I" } : Jvm.MethodName)) ∈ lw_all := lw_g (lw_at lw_m7 197 rfl) rfl
theorem q1789 : (Jvm.Cond.code ({ cls := "NeverUnseenModel", name := "readWhole", desc := "(II)I" } : Jvm.MethodName) prog_15_method_21_code (4 : Nat) (Option.some Jvm.ClassFile.FieldType.int)) ∈ lw_all := lw_g (lw_at lw_m7 198 rfl) rfl
theorem q1790 : (Jvm.Cond.methodLink "NeverUnseenModel" (135 : Nat) ({ cls := "NeverUnseenModel", name := "in", desc := "(III)Z" } : Jvm.MethodName)) ∈ lw_all := lw_g (lw_at lw_m7 199 rfl) rfl
theorem q1791 : (Jvm.Cond.static ({ cls := "NeverUnseenModel", name := "in", desc := "(III)Z" } : Jvm.MethodName)) ∈ lw_all := lw_g (lw_at lw_m7 200 rfl) rfl
theorem q1792 : (Jvm.Cond.code ({ cls := "NeverUnseenModel", name := "in", desc := "(III)Z" } : Jvm.MethodName) prog_15_method_7_code (3 : Nat) (Option.some Jvm.ClassFile.FieldType.boolean)) ∈ lw_all := lw_g (lw_at lw_m7 201 rfl) rfl
theorem q1793 : (Jvm.Cond.stringRef "NeverUnseenModel" (259 : Nat) "night") ∈ lw_tbl := lw_at lw_m7 202 rfl
theorem q1794 : (Jvm.Cond.stringRef "NeverUnseenModel" (263 : Nat) "from") ∈ lw_tbl := lw_at lw_m7 203 rfl
theorem q1795 : (Jvm.Cond.stringRef "NeverUnseenModel" (267 : Nat) "to") ∈ lw_tbl := lw_at lw_m7 204 rfl
theorem q1796 : (Jvm.Cond.stringRef "NeverUnseenModel" (271 : Nat) "steps") ∈ lw_tbl := lw_at lw_m7 205 rfl
theorem q1797 : (Jvm.Cond.stringRef "NeverUnseenModel" (148 : Nat) "place") ∈ lw_tbl := lw_at lw_m7 206 rfl
theorem q1798 : (Jvm.Cond.methodLink "NeverUnseenModel" (227 : Nat) ({ cls := "NeverUnseenModel", name := "readPlace", desc := "()V" } : Jvm.MethodName)) ∈ lw_all := lw_g (lw_at lw_m7 207 rfl) rfl
theorem q1799 : (Jvm.Cond.privateMethod ({ cls := "NeverUnseenModel", name := "readPlace", desc := "()V" } : Jvm.MethodName)) ∈ lw_tbl := lw_at lw_m7 208 rfl
theorem q1800 : (Jvm.Cond.instanceMethod ({ cls := "NeverUnseenModel", name := "readPlace", desc := "()V" } : Jvm.MethodName)) ∈ lw_all := lw_g (lw_at lw_m7 209 rfl) rfl
theorem q1801 : (Jvm.Cond.code ({ cls := "NeverUnseenModel", name := "readPlace", desc := "()V" } : Jvm.MethodName) prog_15_method_32_code (3 : Nat) (Option.none : Option Jvm.ClassFile.FieldType)) ∈ lw_all := lw_g (lw_at lw_m7 210 rfl) rfl
theorem q1802 : (Jvm.Cond.methodLink "NeverUnseenModel" (275 : Nat) ({ cls := "NeverUnseenModel", name := "begins", desc := "(II)V" } : Jvm.MethodName)) ∈ lw_all := lw_g (lw_at lw_m7 211 rfl) rfl
theorem q1803 : (Jvm.Cond.privateMethod ({ cls := "NeverUnseenModel", name := "begins", desc := "(II)V" } : Jvm.MethodName)) ∈ lw_tbl := lw_at lw_m7 212 rfl
theorem q1804 : (Jvm.Cond.instanceMethod ({ cls := "NeverUnseenModel", name := "begins", desc := "(II)V" } : Jvm.MethodName)) ∈ lw_all := lw_g (lw_at lw_m7 213 rfl) rfl
theorem q1805 : (Jvm.Cond.code ({ cls := "NeverUnseenModel", name := "begins", desc := "(II)V" } : Jvm.MethodName) prog_15_method_24_code (3 : Nat) (Option.none : Option Jvm.ClassFile.FieldType)) ∈ lw_all := lw_g (lw_at lw_m7 214 rfl) rfl
theorem q1806 : (Jvm.Cond.methodLink "NeverUnseenModel" (279 : Nat) ({ cls := "NeverUnseenModel", name := "readFresh", desc := "(II)V" } : Jvm.MethodName)) ∈ lw_all := lw_g (lw_at lw_m7 215 rfl) rfl
theorem q1807 : (Jvm.Cond.privateMethod ({ cls := "NeverUnseenModel", name := "readFresh", desc := "(II)V" } : Jvm.MethodName)) ∈ lw_tbl := lw_at lw_m7 216 rfl
theorem q1808 : (Jvm.Cond.instanceMethod ({ cls := "NeverUnseenModel", name := "readFresh", desc := "(II)V" } : Jvm.MethodName)) ∈ lw_all := lw_g (lw_at lw_m7 217 rfl) rfl
theorem q1809 : (Jvm.Cond.code ({ cls := "NeverUnseenModel", name := "readFresh", desc := "(II)V" } : Jvm.MethodName) prog_15_method_25_code (3 : Nat) (Option.none : Option Jvm.ClassFile.FieldType)) ∈ lw_all := lw_g (lw_at lw_m7 218 rfl) rfl
theorem q1810 : (Jvm.Cond.methodLink "NeverUnseenModel" (169 : Nat) ({ cls := "NeverUnseenModel", name := "isName", desc := "()Z" } : Jvm.MethodName)) ∈ lw_all := lw_g (lw_at lw_m7 219 rfl) rfl
theorem q1811 : (Jvm.Cond.privateMethod ({ cls := "NeverUnseenModel", name := "isName", desc := "()Z" } : Jvm.MethodName)) ∈ lw_tbl := lw_at lw_m7 220 rfl
theorem q1812 : (Jvm.Cond.instanceMethod ({ cls := "NeverUnseenModel", name := "isName", desc := "()Z" } : Jvm.MethodName)) ∈ lw_all := lw_g (lw_at lw_m7 221 rfl) rfl
theorem q1813 : (Jvm.Cond.code ({ cls := "NeverUnseenModel", name := "isName", desc := "()Z" } : Jvm.MethodName) prog_15_method_23_code (1 : Nat) (Option.some Jvm.ClassFile.FieldType.boolean)) ∈ lw_all := lw_g (lw_at lw_m7 222 rfl) rfl
theorem q1814 : (Jvm.Cond.stringRef "NeverUnseenModel" (149 : Nat) "wall") ∈ lw_tbl := lw_at lw_m7 223 rfl
theorem q1815 : (Jvm.Cond.stringRef "NeverUnseenModel" (151 : Nat) "way") ∈ lw_tbl := lw_at lw_m7 224 rfl
theorem q1816 : (Jvm.Cond.stringRef "NeverUnseenModel" (153 : Nat) "mirror") ∈ lw_tbl := lw_at lw_m7 225 rfl
theorem q1817 : (Jvm.Cond.stringRef "NeverUnseenModel" (155 : Nat) "person") ∈ lw_tbl := lw_at lw_m7 226 rfl
theorem q1818 : (Jvm.Cond.stringRef "NeverUnseenModel" (157 : Nat) "baby") ∈ lw_tbl := lw_at lw_m7 227 rfl
theorem q1819 : (Jvm.Cond.stringRef "NeverUnseenModel" (159 : Nat) "away") ∈ lw_tbl := lw_at lw_m7 228 rfl
theorem q1820 : (Jvm.Cond.stringRef "NeverUnseenModel" (161 : Nat) "sleeps") ∈ lw_tbl := lw_at lw_m7 229 rfl
theorem q1821 : (Jvm.Cond.stringRef "NeverUnseenModel" (163 : Nat) "pair") ∈ lw_tbl := lw_at lw_m7 230 rfl
theorem q1822 : (Jvm.Cond.stringRef "NeverUnseenModel" (165 : Nat) "errand") ∈ lw_tbl := lw_at lw_m7 231 rfl
theorem q1823 : (Jvm.Cond.stringRef "NeverUnseenModel" (167 : Nat) "fog") ∈ lw_tbl := lw_at lw_m7 232 rfl
theorem q1824 : (Jvm.Cond.methodLink "NeverUnseenModel" (177 : Nat) ({ cls := "NeverUnseenModel$Valley", name := "find", desc := "(J)I" } : Jvm.MethodName)) ∈ lw_all := lw_g (lw_at lw_m7 233 rfl) rfl
theorem q1828 : (Jvm.Cond.stringRef "NeverUnseenModel" (282 : Nat) "at") ∈ lw_tbl := lw_at lw_m7 237 rfl
theorem q1829 : (Jvm.Cond.methodLink "NeverUnseenModel" (205 : Nat) ({ cls := "NeverUnseenModel", name := "needsSign", desc := "(I)V" } : Jvm.MethodName)) ∈ lw_all := lw_g (lw_at lw_m7 238 rfl) rfl
theorem q1830 : (Jvm.Cond.privateMethod ({ cls := "NeverUnseenModel", name := "needsSign", desc := "(I)V" } : Jvm.MethodName)) ∈ lw_tbl := lw_at lw_m7 239 rfl
theorem q1831 : (Jvm.Cond.instanceMethod ({ cls := "NeverUnseenModel", name := "needsSign", desc := "(I)V" } : Jvm.MethodName)) ∈ lw_all := lw_g (lw_at lw_m8 0 rfl) rfl
theorem q1832 : (Jvm.Cond.code ({ cls := "NeverUnseenModel", name := "needsSign", desc := "(I)V" } : Jvm.MethodName) prog_15_method_20_code (2 : Nat) (Option.none : Option Jvm.ClassFile.FieldType)) ∈ lw_all := lw_g (lw_at lw_m8 1 rfl) rfl
theorem q1833 : (Jvm.Cond.methodLink "NeverUnseenModel" (230 : Nat) ({ cls := "NeverUnseenModel", name := "readWall", desc := "()V" } : Jvm.MethodName)) ∈ lw_all := lw_g (lw_at lw_m8 2 rfl) rfl
theorem q1834 : (Jvm.Cond.privateMethod ({ cls := "NeverUnseenModel", name := "readWall", desc := "()V" } : Jvm.MethodName)) ∈ lw_tbl := lw_at lw_m8 3 rfl
theorem q1835 : (Jvm.Cond.instanceMethod ({ cls := "NeverUnseenModel", name := "readWall", desc := "()V" } : Jvm.MethodName)) ∈ lw_all := lw_g (lw_at lw_m8 4 rfl) rfl
theorem q1836 : (Jvm.Cond.code ({ cls := "NeverUnseenModel", name := "readWall", desc := "()V" } : Jvm.MethodName) prog_15_method_33_code (2 : Nat) (Option.none : Option Jvm.ClassFile.FieldType)) ∈ lw_all := lw_g (lw_at lw_m8 5 rfl) rfl
theorem q1837 : (Jvm.Cond.methodLink "NeverUnseenModel" (298 : Nat) ({ cls := "NeverUnseenModel", name := "readTwo", desc := "(I[I[II)I" } : Jvm.MethodName)) ∈ lw_all := lw_g (lw_at lw_m8 6 rfl) rfl
theorem q1838 : (Jvm.Cond.privateMethod ({ cls := "NeverUnseenModel", name := "readTwo", desc := "(I[I[II)I" } : Jvm.MethodName)) ∈ lw_tbl := lw_at lw_m8 7 rfl
theorem q1839 : (Jvm.Cond.instanceMethod ({ cls := "NeverUnseenModel", name := "readTwo", desc := "(I[I[II)I" } : Jvm.MethodName)) ∈ lw_all := lw_g (lw_at lw_m8 8 rfl) rfl
theorem q1840 : (Jvm.Cond.code ({ cls := "NeverUnseenModel", name := "readTwo", desc := "(I[I[II)I" } : Jvm.MethodName) prog_15_method_28_code (8 : Nat) (Option.some Jvm.ClassFile.FieldType.int)) ∈ lw_all := lw_g (lw_at lw_m8 9 rfl) rfl
theorem q1841 : (Jvm.Cond.methodLink "NeverUnseenModel" (199 : Nat) ({ cls := "NeverUnseenModel", name := "readKnown", desc := "(I)I" } : Jvm.MethodName)) ∈ lw_all := lw_g (lw_at lw_m8 10 rfl) rfl
theorem q1842 : (Jvm.Cond.privateMethod ({ cls := "NeverUnseenModel", name := "readKnown", desc := "(I)I" } : Jvm.MethodName)) ∈ lw_tbl := lw_at lw_m8 11 rfl
theorem q1843 : (Jvm.Cond.instanceMethod ({ cls := "NeverUnseenModel", name := "readKnown", desc := "(I)I" } : Jvm.MethodName)) ∈ lw_all := lw_g (lw_at lw_m8 12 rfl) rfl
theorem q1844 : (Jvm.Cond.code ({ cls := "NeverUnseenModel", name := "readKnown", desc := "(I)I" } : Jvm.MethodName) prog_15_method_27_code (3 : Nat) (Option.some Jvm.ClassFile.FieldType.int)) ∈ lw_all := lw_g (lw_at lw_m8 13 rfl) rfl
theorem q1845 : (Jvm.Cond.methodLink "NeverUnseenModel" (196 : Nat) ({ cls := "NeverUnseenModel", name := "known", desc := "(I)I" } : Jvm.MethodName)) ∈ lw_all := lw_g (lw_at lw_m8 14 rfl) rfl
theorem q1846 : (Jvm.Cond.privateMethod ({ cls := "NeverUnseenModel", name := "known", desc := "(I)I" } : Jvm.MethodName)) ∈ lw_tbl := lw_at lw_m8 15 rfl
theorem q1847 : (Jvm.Cond.instanceMethod ({ cls := "NeverUnseenModel", name := "known", desc := "(I)I" } : Jvm.MethodName)) ∈ lw_all := lw_g (lw_at lw_m8 16 rfl) rfl
theorem q1848 : (Jvm.Cond.code ({ cls := "NeverUnseenModel", name := "known", desc := "(I)I" } : Jvm.MethodName) prog_15_method_26_code (3 : Nat) (Option.some Jvm.ClassFile.FieldType.int)) ∈ lw_all := lw_g (lw_at lw_m8 17 rfl) rfl
theorem q1849 : (Jvm.Cond.methodLink "NeverUnseenModel" (233 : Nat) ({ cls := "NeverUnseenModel", name := "readWay", desc := "()V" } : Jvm.MethodName)) ∈ lw_all := lw_g (lw_at lw_m8 18 rfl) rfl
theorem q1850 : (Jvm.Cond.privateMethod ({ cls := "NeverUnseenModel", name := "readWay", desc := "()V" } : Jvm.MethodName)) ∈ lw_tbl := lw_at lw_m8 19 rfl
theorem q1851 : (Jvm.Cond.instanceMethod ({ cls := "NeverUnseenModel", name := "readWay", desc := "()V" } : Jvm.MethodName)) ∈ lw_all := lw_g (lw_at lw_m8 20 rfl) rfl
theorem q1852 : (Jvm.Cond.code ({ cls := "NeverUnseenModel", name := "readWay", desc := "()V" } : Jvm.MethodName) prog_15_method_34_code (2 : Nat) (Option.none : Option Jvm.ClassFile.FieldType)) ∈ lw_all := lw_g (lw_at lw_m8 21 rfl) rfl
theorem q1853 : (Jvm.Cond.methodLink "NeverUnseenModel" (236 : Nat) ({ cls := "NeverUnseenModel", name := "readMirror", desc := "()V" } : Jvm.MethodName)) ∈ lw_all := lw_g (lw_at lw_m8 22 rfl) rfl
theorem q1854 : (Jvm.Cond.privateMethod ({ cls := "NeverUnseenModel", name := "readMirror", desc := "()V" } : Jvm.MethodName)) ∈ lw_tbl := lw_at lw_m8 23 rfl
theorem q1855 : (Jvm.Cond.instanceMethod ({ cls := "NeverUnseenModel", name := "readMirror", desc := "()V" } : Jvm.MethodName)) ∈ lw_all := lw_g (lw_at lw_m8 24 rfl) rfl
theorem q1856 : (Jvm.Cond.code ({ cls := "NeverUnseenModel", name := "readMirror", desc := "()V" } : Jvm.MethodName) prog_15_method_36_code (2 : Nat) (Option.none : Option Jvm.ClassFile.FieldType)) ∈ lw_all := lw_g (lw_at lw_m8 25 rfl) rfl
theorem q1857 : (Jvm.Cond.methodLink "NeverUnseenModel" (316 : Nat) ({ cls := "NeverUnseenModel", name := "readOther", desc := "([II)I" } : Jvm.MethodName)) ∈ lw_all := lw_g (lw_at lw_m8 26 rfl) rfl
theorem q1858 : (Jvm.Cond.privateMethod ({ cls := "NeverUnseenModel", name := "readOther", desc := "([II)I" } : Jvm.MethodName)) ∈ lw_tbl := lw_at lw_m8 27 rfl
theorem q1859 : (Jvm.Cond.instanceMethod ({ cls := "NeverUnseenModel", name := "readOther", desc := "([II)I" } : Jvm.MethodName)) ∈ lw_all := lw_g (lw_at lw_m8 28 rfl) rfl
theorem q1860 : (Jvm.Cond.code ({ cls := "NeverUnseenModel", name := "readOther", desc := "([II)I" } : Jvm.MethodName) prog_15_method_35_code (5 : Nat) (Option.some Jvm.ClassFile.FieldType.int)) ∈ lw_all := lw_g (lw_at lw_m8 29 rfl) rfl
theorem q1861 : (Jvm.Cond.methodLink "NeverUnseenModel" (239 : Nat) ({ cls := "NeverUnseenModel", name := "readPerson", desc := "()V" } : Jvm.MethodName)) ∈ lw_all := lw_g (lw_at lw_m8 30 rfl) rfl
theorem q1862 : (Jvm.Cond.privateMethod ({ cls := "NeverUnseenModel", name := "readPerson", desc := "()V" } : Jvm.MethodName)) ∈ lw_tbl := lw_at lw_m8 31 rfl
theorem q1863 : (Jvm.Cond.instanceMethod ({ cls := "NeverUnseenModel", name := "readPerson", desc := "()V" } : Jvm.MethodName)) ∈ lw_all := lw_g (lw_at lw_m8 32 rfl) rfl
theorem q1864 : (Jvm.Cond.code ({ cls := "NeverUnseenModel", name := "readPerson", desc := "()V" } : Jvm.MethodName) prog_15_method_37_code (7 : Nat) (Option.none : Option Jvm.ClassFile.FieldType)) ∈ lw_all := lw_g (lw_at lw_m8 33 rfl) rfl
theorem q1865 : (Jvm.Cond.methodLink "NeverUnseenModel" (320 : Nat) ({ cls := "NeverUnseenModel", name := "eatsWord", desc := "(Ljava/lang/String;)Z" } : Jvm.MethodName)) ∈ lw_all := lw_g (lw_at lw_m8 34 rfl) rfl
theorem q1866 : (Jvm.Cond.privateMethod ({ cls := "NeverUnseenModel", name := "eatsWord", desc := "(Ljava/lang/String;)Z" } : Jvm.MethodName)) ∈ lw_tbl := lw_at lw_m8 35 rfl
theorem q1867 : (Jvm.Cond.instanceMethod ({ cls := "NeverUnseenModel", name := "eatsWord", desc := "(Ljava/lang/String;)Z" } : Jvm.MethodName)) ∈ lw_all := lw_g (lw_at lw_m8 36 rfl) rfl
theorem q1868 : (Jvm.Cond.code ({ cls := "NeverUnseenModel", name := "eatsWord", desc := "(Ljava/lang/String;)Z" } : Jvm.MethodName) prog_15_method_17_code (3 : Nat) (Option.some Jvm.ClassFile.FieldType.boolean)) ∈ lw_all := lw_g (lw_at lw_m8 37 rfl) rfl
theorem q1869 : (Jvm.Cond.methodLink "NeverUnseenModel" (242 : Nat) ({ cls := "NeverUnseenModel", name := "readPair", desc := "()V" } : Jvm.MethodName)) ∈ lw_all := lw_g (lw_at lw_m8 38 rfl) rfl
theorem q1870 : (Jvm.Cond.privateMethod ({ cls := "NeverUnseenModel", name := "readPair", desc := "()V" } : Jvm.MethodName)) ∈ lw_tbl := lw_at lw_m8 39 rfl
theorem q1871 : (Jvm.Cond.instanceMethod ({ cls := "NeverUnseenModel", name := "readPair", desc := "()V" } : Jvm.MethodName)) ∈ lw_all := lw_g (lw_at lw_m8 40 rfl) rfl
theorem q1872 : (Jvm.Cond.code ({ cls := "NeverUnseenModel", name := "readPair", desc := "()V" } : Jvm.MethodName) prog_15_method_38_code (2 : Nat) (Option.none : Option Jvm.ClassFile.FieldType)) ∈ lw_all := lw_g (lw_at lw_m8 41 rfl) rfl
theorem q1873 : (Jvm.Cond.methodLink "NeverUnseenModel" (245 : Nat) ({ cls := "NeverUnseenModel", name := "readErrand", desc := "()V" } : Jvm.MethodName)) ∈ lw_all := lw_g (lw_at lw_m8 42 rfl) rfl
theorem q1874 : (Jvm.Cond.privateMethod ({ cls := "NeverUnseenModel", name := "readErrand", desc := "()V" } : Jvm.MethodName)) ∈ lw_tbl := lw_at lw_m8 43 rfl
theorem q1875 : (Jvm.Cond.instanceMethod ({ cls := "NeverUnseenModel", name := "readErrand", desc := "()V" } : Jvm.MethodName)) ∈ lw_all := lw_g (lw_at lw_m8 44 rfl) rfl
theorem q1876 : (Jvm.Cond.code ({ cls := "NeverUnseenModel", name := "readErrand", desc := "()V" } : Jvm.MethodName) prog_15_method_39_code (6 : Nat) (Option.none : Option Jvm.ClassFile.FieldType)) ∈ lw_all := lw_g (lw_at lw_m8 45 rfl) rfl
theorem q1877 : (Jvm.Cond.stringRef "NeverUnseenModel" (347 : Nat) "takes") ∈ lw_tbl := lw_at lw_m8 46 rfl
theorem q1878 : (Jvm.Cond.methodLink "NeverUnseenModel" (248 : Nat) ({ cls := "NeverUnseenModel", name := "readFog", desc := "()V" } : Jvm.MethodName)) ∈ lw_all := lw_g (lw_at lw_m8 47 rfl) rfl
theorem q1879 : (Jvm.Cond.privateMethod ({ cls := "NeverUnseenModel", name := "readFog", desc := "()V" } : Jvm.MethodName)) ∈ lw_tbl := lw_at lw_m8 48 rfl
theorem q1880 : (Jvm.Cond.instanceMethod ({ cls := "NeverUnseenModel", name := "readFog", desc := "()V" } : Jvm.MethodName)) ∈ lw_all := lw_g (lw_at lw_m8 49 rfl) rfl
theorem q1881 : (Jvm.Cond.code ({ cls := "NeverUnseenModel", name := "readFog", desc := "()V" } : Jvm.MethodName) prog_15_method_40_code (3 : Nat) (Option.none : Option Jvm.ClassFile.FieldType)) ∈ lw_all := lw_g (lw_at lw_m8 50 rfl) rfl
theorem q1882 : (Jvm.Cond.stringRef "NeverUnseenModel" (369 : Nat) "chance") ∈ lw_tbl := lw_at lw_m8 51 rfl
theorem q1883 : (Jvm.Cond.methodLink "NeverUnseenModel" (211 : Nat) ({ cls := "NeverUnseenModel", name := "eatsSign", desc := "(I)Z" } : Jvm.MethodName)) ∈ lw_all := lw_g (lw_at lw_m8 52 rfl) rfl
theorem q1884 : (Jvm.Cond.privateMethod ({ cls := "NeverUnseenModel", name := "eatsSign", desc := "(I)Z" } : Jvm.MethodName)) ∈ lw_tbl := lw_at lw_m8 53 rfl
theorem q1885 : (Jvm.Cond.instanceMethod ({ cls := "NeverUnseenModel", name := "eatsSign", desc := "(I)Z" } : Jvm.MethodName)) ∈ lw_all := lw_g (lw_at lw_m8 54 rfl) rfl
theorem q1886 : (Jvm.Cond.code ({ cls := "NeverUnseenModel", name := "eatsSign", desc := "(I)Z" } : Jvm.MethodName) prog_15_method_18_code (3 : Nat) (Option.some Jvm.ClassFile.FieldType.boolean)) ∈ lw_all := lw_g (lw_at lw_m8 55 rfl) rfl
theorem q1887 : (Jvm.Cond.methodLink "NeverUnseenModel" (392 : Nat) ({ cls := "NeverUnseenModel", name := "forgets", desc := "()V" } : Jvm.MethodName)) ∈ lw_all := lw_g (lw_at lw_m8 56 rfl) rfl
theorem q1888 : (Jvm.Cond.privateMethod ({ cls := "NeverUnseenModel", name := "forgets", desc := "()V" } : Jvm.MethodName)) ∈ lw_tbl := lw_at lw_m8 57 rfl
theorem q1889 : (Jvm.Cond.instanceMethod ({ cls := "NeverUnseenModel", name := "forgets", desc := "()V" } : Jvm.MethodName)) ∈ lw_all := lw_g (lw_at lw_m8 58 rfl) rfl
theorem q1890 : (Jvm.Cond.code ({ cls := "NeverUnseenModel", name := "forgets", desc := "()V" } : Jvm.MethodName) prog_15_method_67_code (3 : Nat) (Option.none : Option Jvm.ClassFile.FieldType)) ∈ lw_all := lw_g (lw_at lw_m8 59 rfl) rfl
theorem q1891 : (Jvm.Cond.methodLink "NeverUnseenModel" (66 : Nat) ({ cls := "NeverUnseenModel", name := "told", desc := "(II)I" } : Jvm.MethodName)) ∈ lw_all := lw_g (lw_at lw_m8 60 rfl) rfl
theorem q1892 : (Jvm.Cond.privateMethod ({ cls := "NeverUnseenModel", name := "told", desc := "(II)I" } : Jvm.MethodName)) ∈ lw_tbl := lw_at lw_m8 61 rfl
theorem q1893 : (Jvm.Cond.instanceMethod ({ cls := "NeverUnseenModel", name := "told", desc := "(II)I" } : Jvm.MethodName)) ∈ lw_all := lw_g (lw_at lw_m8 62 rfl) rfl
theorem q1894 : (Jvm.Cond.code ({ cls := "NeverUnseenModel", name := "told", desc := "(II)I" } : Jvm.MethodName) prog_15_method_5_code (3 : Nat) (Option.some Jvm.ClassFile.FieldType.int)) ∈ lw_all := lw_g (lw_at lw_m8 63 rfl) rfl
theorem q1896 : (Jvm.Cond.instanceMethod ({ cls := "NeverUnseenModel", name := "fault", desc := "()I" } : Jvm.MethodName)) ∈ lw_all := lw_g (lw_at lw_m8 65 rfl) rfl
theorem q1897 : (Jvm.Cond.selects "NeverUnseenModel" ({ cls := "NeverUnseenModel", name := "fault", desc := "()I" } : Jvm.MethodName) ({ cls := "NeverUnseenModel", name := "fault", desc := "()I" } : Jvm.MethodName)) ∈ lw_all := lw_g (lw_at lw_m8 66 rfl) rfl
theorem q1898 : (Jvm.Cond.code ({ cls := "NeverUnseenModel", name := "fault", desc := "()I" } : Jvm.MethodName) prog_15_method_43_code (1 : Nat) (Option.some Jvm.ClassFile.FieldType.int)) ∈ lw_all := lw_g (lw_at lw_m8 67 rfl) rfl
theorem q1900 : (Jvm.Cond.instanceMethod ({ cls := "NeverUnseenModel", name := "where", desc := "()I" } : Jvm.MethodName)) ∈ lw_all := lw_g (lw_at lw_m8 69 rfl) rfl
theorem q1901 : (Jvm.Cond.selects "NeverUnseenModel" ({ cls := "NeverUnseenModel", name := "where", desc := "()I" } : Jvm.MethodName) ({ cls := "NeverUnseenModel", name := "where", desc := "()I" } : Jvm.MethodName)) ∈ lw_all := lw_g (lw_at lw_m8 70 rfl) rfl
theorem q1902 : (Jvm.Cond.code ({ cls := "NeverUnseenModel", name := "where", desc := "()I" } : Jvm.MethodName) prog_15_method_44_code (1 : Nat) (Option.some Jvm.ClassFile.FieldType.int)) ∈ lw_all := lw_g (lw_at lw_m8 71 rfl) rfl
theorem q1904 : (Jvm.Cond.instanceMethod ({ cls := "NeverUnseenModel", name := "plain", desc := "(III)I" } : Jvm.MethodName)) ∈ lw_all := lw_g (lw_at lw_m8 73 rfl) rfl
theorem q1905 : (Jvm.Cond.selects "NeverUnseenModel" ({ cls := "NeverUnseenModel", name := "plain", desc := "(III)I" } : Jvm.MethodName) ({ cls := "NeverUnseenModel", name := "plain", desc := "(III)I" } : Jvm.MethodName)) ∈ lw_all := lw_g (lw_at lw_m8 74 rfl) rfl
theorem q1906 : (Jvm.Cond.code ({ cls := "NeverUnseenModel", name := "plain", desc := "(III)I" } : Jvm.MethodName) prog_15_method_52_code (4 : Nat) (Option.some Jvm.ClassFile.FieldType.int)) ∈ lw_all := lw_g (lw_at lw_m8 75 rfl) rfl
theorem q1907 : (Jvm.Cond.methodLink "NeverUnseenModel" (414 : Nat) ({ cls := "NeverUnseenModel", name := "isPlace", desc := "(I)Z" } : Jvm.MethodName)) ∈ lw_all := lw_g (lw_at lw_m8 76 rfl) rfl
theorem q1908 : (Jvm.Cond.privateMethod ({ cls := "NeverUnseenModel", name := "isPlace", desc := "(I)Z" } : Jvm.MethodName)) ∈ lw_tbl := lw_at lw_m8 77 rfl
theorem q1909 : (Jvm.Cond.instanceMethod ({ cls := "NeverUnseenModel", name := "isPlace", desc := "(I)Z" } : Jvm.MethodName)) ∈ lw_all := lw_g (lw_at lw_m8 78 rfl) rfl
theorem q1910 : (Jvm.Cond.code ({ cls := "NeverUnseenModel", name := "isPlace", desc := "(I)Z" } : Jvm.MethodName) prog_15_method_45_code (2 : Nat) (Option.some Jvm.ClassFile.FieldType.boolean)) ∈ lw_all := lw_g (lw_at lw_m8 79 rfl) rfl
theorem q1911 : (Jvm.Cond.methodLink "NeverUnseenModel" (411 : Nat) ({ cls := "NeverUnseenModel", name := "isStep", desc := "(I)Z" } : Jvm.MethodName)) ∈ lw_all := lw_g (lw_at lw_m8 80 rfl) rfl
theorem q1912 : (Jvm.Cond.static ({ cls := "NeverUnseenModel", name := "isStep", desc := "(I)Z" } : Jvm.MethodName)) ∈ lw_all := lw_g (lw_at lw_m8 81 rfl) rfl
theorem q1913 : (Jvm.Cond.code ({ cls := "NeverUnseenModel", name := "isStep", desc := "(I)Z" } : Jvm.MethodName) prog_15_method_47_code (1 : Nat) (Option.some Jvm.ClassFile.FieldType.boolean)) ∈ lw_all := lw_g (lw_at lw_m8 82 rfl) rfl
theorem q1914 : (Jvm.Cond.methodLink "NeverUnseenModel" (405 : Nat) ({ cls := "NeverUnseenModel", name := "rangeIn", desc := "(I)I" } : Jvm.MethodName)) ∈ lw_all := lw_g (lw_at lw_m8 83 rfl) rfl
theorem q1915 : (Jvm.Cond.privateMethod ({ cls := "NeverUnseenModel", name := "rangeIn", desc := "(I)I" } : Jvm.MethodName)) ∈ lw_tbl := lw_at lw_m8 84 rfl
theorem q1916 : (Jvm.Cond.instanceMethod ({ cls := "NeverUnseenModel", name := "rangeIn", desc := "(I)I" } : Jvm.MethodName)) ∈ lw_all := lw_g (lw_at lw_m8 85 rfl) rfl
theorem q1917 : (Jvm.Cond.code ({ cls := "NeverUnseenModel", name := "rangeIn", desc := "(I)I" } : Jvm.MethodName) prog_15_method_48_code (2 : Nat) (Option.some Jvm.ClassFile.FieldType.int)) ∈ lw_all := lw_g (lw_at lw_m8 86 rfl) rfl
theorem q1918 : (Jvm.Cond.methodLink "NeverUnseenModel" (408 : Nat) ({ cls := "NeverUnseenModel", name := "isPlain", desc := "(III)Z" } : Jvm.MethodName)) ∈ lw_all := lw_g (lw_at lw_m8 87 rfl) rfl
theorem q1919 : (Jvm.Cond.privateMethod ({ cls := "NeverUnseenModel", name := "isPlain", desc := "(III)Z" } : Jvm.MethodName)) ∈ lw_tbl := lw_at lw_m8 88 rfl
theorem q1920 : (Jvm.Cond.instanceMethod ({ cls := "NeverUnseenModel", name := "isPlain", desc := "(III)Z" } : Jvm.MethodName)) ∈ lw_all := lw_g (lw_at lw_m8 89 rfl) rfl
theorem q1921 : (Jvm.Cond.code ({ cls := "NeverUnseenModel", name := "isPlain", desc := "(III)Z" } : Jvm.MethodName) prog_15_method_49_code (8 : Nat) (Option.some Jvm.ClassFile.FieldType.boolean)) ∈ lw_all := lw_g (lw_at lw_m8 90 rfl) rfl
theorem q1922 : (Jvm.Cond.methodLink "NeverUnseenModel" (398 : Nat) ({ cls := "NeverUnseenModel", name := "has", desc := "(II)Z" } : Jvm.MethodName)) ∈ lw_all := lw_g (lw_at lw_m8 91 rfl) rfl
theorem q1923 : (Jvm.Cond.static ({ cls := "NeverUnseenModel", name := "has", desc := "(II)Z" } : Jvm.MethodName)) ∈ lw_all := lw_g (lw_at lw_m8 92 rfl) rfl
theorem q1924 : (Jvm.Cond.code ({ cls := "NeverUnseenModel", name := "has", desc := "(II)Z" } : Jvm.MethodName) prog_15_method_8_code (2 : Nat) (Option.some Jvm.ClassFile.FieldType.boolean)) ∈ lw_all := lw_g (lw_at lw_m8 93 rfl) rfl
theorem q1926 : (Jvm.Cond.instanceMethod ({ cls := "NeverUnseenModel", name := "sees", desc := "(II)I" } : Jvm.MethodName)) ∈ lw_all := lw_g (lw_at lw_m8 95 rfl) rfl
theorem q1927 : (Jvm.Cond.selects "NeverUnseenModel" ({ cls := "NeverUnseenModel", name := "sees", desc := "(II)I" } : Jvm.MethodName) ({ cls := "NeverUnseenModel", name := "sees", desc := "(II)I" } : Jvm.MethodName)) ∈ lw_all := lw_g (lw_at lw_m8 96 rfl) rfl
theorem q1928 : (Jvm.Cond.code ({ cls := "NeverUnseenModel", name := "sees", desc := "(II)I" } : Jvm.MethodName) prog_15_method_53_code (3 : Nat) (Option.some Jvm.ClassFile.FieldType.int)) ∈ lw_all := lw_g (lw_at lw_m8 97 rfl) rfl
theorem q1929 : (Jvm.Cond.methodLink "NeverUnseenModel" (417 : Nat) ({ cls := "NeverUnseenModel", name := "seenFrom", desc := "(II)I" } : Jvm.MethodName)) ∈ lw_all := lw_g (lw_at lw_m8 98 rfl) rfl
theorem q1930 : (Jvm.Cond.privateMethod ({ cls := "NeverUnseenModel", name := "seenFrom", desc := "(II)I" } : Jvm.MethodName)) ∈ lw_tbl := lw_at lw_m8 99 rfl
theorem q1931 : (Jvm.Cond.instanceMethod ({ cls := "NeverUnseenModel", name := "seenFrom", desc := "(II)I" } : Jvm.MethodName)) ∈ lw_all := lw_g (lw_at lw_m8 100 rfl) rfl
theorem q1932 : (Jvm.Cond.code ({ cls := "NeverUnseenModel", name := "seenFrom", desc := "(II)I" } : Jvm.MethodName) prog_15_method_50_code (7 : Nat) (Option.some Jvm.ClassFile.FieldType.int)) ∈ lw_all := lw_g (lw_at lw_m8 101 rfl) rfl
theorem q1934 : (Jvm.Cond.instanceMethod ({ cls := "NeverUnseenModel", name := "middle", desc := "(I)I" } : Jvm.MethodName)) ∈ lw_all := lw_g (lw_at lw_m8 103 rfl) rfl
theorem q1935 : (Jvm.Cond.selects "NeverUnseenModel" ({ cls := "NeverUnseenModel", name := "middle", desc := "(I)I" } : Jvm.MethodName) ({ cls := "NeverUnseenModel", name := "middle", desc := "(I)I" } : Jvm.MethodName)) ∈ lw_all := lw_g (lw_at lw_m8 104 rfl) rfl
theorem q1936 : (Jvm.Cond.code ({ cls := "NeverUnseenModel", name := "middle", desc := "(I)I" } : Jvm.MethodName) prog_15_method_54_code (5 : Nat) (Option.some Jvm.ClassFile.FieldType.int)) ∈ lw_all := lw_g (lw_at lw_m8 105 rfl) rfl
theorem q1937 : (Jvm.Cond.methodLink "NeverUnseenModel" (420 : Nat) ({ cls := "NeverUnseenModel", name := "refusesSteps", desc := "(I)I" } : Jvm.MethodName)) ∈ lw_all := lw_g (lw_at lw_m8 106 rfl) rfl
theorem q1938 : (Jvm.Cond.privateMethod ({ cls := "NeverUnseenModel", name := "refusesSteps", desc := "(I)I" } : Jvm.MethodName)) ∈ lw_tbl := lw_at lw_m8 107 rfl
theorem q1939 : (Jvm.Cond.instanceMethod ({ cls := "NeverUnseenModel", name := "refusesSteps", desc := "(I)I" } : Jvm.MethodName)) ∈ lw_all := lw_g (lw_at lw_m8 108 rfl) rfl
theorem q1940 : (Jvm.Cond.code ({ cls := "NeverUnseenModel", name := "refusesSteps", desc := "(I)I" } : Jvm.MethodName) prog_15_method_51_code (2 : Nat) (Option.some Jvm.ClassFile.FieldType.int)) ∈ lw_all := lw_g (lw_at lw_m8 109 rfl) rfl
theorem q1942 : (Jvm.Cond.instanceMethod ({ cls := "NeverUnseenModel", name := "eyes", desc := "(II)I" } : Jvm.MethodName)) ∈ lw_all := lw_g (lw_at lw_m8 111 rfl) rfl
theorem q1943 : (Jvm.Cond.selects "NeverUnseenModel" ({ cls := "NeverUnseenModel", name := "eyes", desc := "(II)I" } : Jvm.MethodName) ({ cls := "NeverUnseenModel", name := "eyes", desc := "(II)I" } : Jvm.MethodName)) ∈ lw_all := lw_g (lw_at lw_m8 112 rfl) rfl
theorem q1944 : (Jvm.Cond.code ({ cls := "NeverUnseenModel", name := "eyes", desc := "(II)I" } : Jvm.MethodName) prog_15_method_56_code (3 : Nat) (Option.some Jvm.ClassFile.FieldType.int)) ∈ lw_all := lw_g (lw_at lw_m8 113 rfl) rfl
theorem q1945 : (Jvm.Cond.methodLink "NeverUnseenModel" (423 : Nat) ({ cls := "NeverUnseenModel", name := "isPerson", desc := "(I)Z" } : Jvm.MethodName)) ∈ lw_all := lw_g (lw_at lw_m8 114 rfl) rfl
theorem q1946 : (Jvm.Cond.privateMethod ({ cls := "NeverUnseenModel", name := "isPerson", desc := "(I)Z" } : Jvm.MethodName)) ∈ lw_tbl := lw_at lw_m8 115 rfl
theorem q1947 : (Jvm.Cond.instanceMethod ({ cls := "NeverUnseenModel", name := "isPerson", desc := "(I)Z" } : Jvm.MethodName)) ∈ lw_all := lw_g (lw_at lw_m8 116 rfl) rfl
theorem q1948 : (Jvm.Cond.code ({ cls := "NeverUnseenModel", name := "isPerson", desc := "(I)Z" } : Jvm.MethodName) prog_15_method_46_code (2 : Nat) (Option.some Jvm.ClassFile.FieldType.boolean)) ∈ lw_all := lw_g (lw_at lw_m8 117 rfl) rfl
theorem q1949 : (Jvm.Cond.methodLink "NeverUnseenModel" (426 : Nat) ({ cls := "NeverUnseenModel", name := "hasEyes", desc := "(II)Z" } : Jvm.MethodName)) ∈ lw_all := lw_g (lw_at lw_m8 118 rfl) rfl
theorem q1950 : (Jvm.Cond.privateMethod ({ cls := "NeverUnseenModel", name := "hasEyes", desc := "(II)Z" } : Jvm.MethodName)) ∈ lw_tbl := lw_at lw_m8 119 rfl
theorem q1951 : (Jvm.Cond.instanceMethod ({ cls := "NeverUnseenModel", name := "hasEyes", desc := "(II)Z" } : Jvm.MethodName)) ∈ lw_all := lw_g (lw_at lw_m8 120 rfl) rfl
theorem q1952 : (Jvm.Cond.code ({ cls := "NeverUnseenModel", name := "hasEyes", desc := "(II)Z" } : Jvm.MethodName) prog_15_method_55_code (5 : Nat) (Option.some Jvm.ClassFile.FieldType.boolean)) ∈ lw_all := lw_g (lw_at lw_m8 121 rfl) rfl
theorem q1954 : (Jvm.Cond.instanceMethod ({ cls := "NeverUnseenModel", name := "put", desc := "(II)Z" } : Jvm.MethodName)) ∈ lw_all := lw_g (lw_at lw_m8 123 rfl) rfl
theorem q1955 : (Jvm.Cond.selects "NeverUnseenModel" ({ cls := "NeverUnseenModel", name := "put", desc := "(II)Z" } : Jvm.MethodName) ({ cls := "NeverUnseenModel", name := "put", desc := "(II)Z" } : Jvm.MethodName)) ∈ lw_all := lw_g (lw_at lw_m8 124 rfl) rfl
theorem q1956 : (Jvm.Cond.code ({ cls := "NeverUnseenModel", name := "put", desc := "(II)Z" } : Jvm.MethodName) prog_15_method_60_code (3 : Nat) (Option.some Jvm.ClassFile.FieldType.boolean)) ∈ lw_all := lw_g (lw_at lw_m8 125 rfl) rfl
theorem q1957 : (Jvm.Cond.methodLink "NeverUnseenModel" (437 : Nat) ({ cls := "NeverUnseenModel", name := "denied", desc := "(I)Z" } : Jvm.MethodName)) ∈ lw_all := lw_g (lw_at lw_m8 126 rfl) rfl
theorem q1958 : (Jvm.Cond.privateMethod ({ cls := "NeverUnseenModel", name := "denied", desc := "(I)Z" } : Jvm.MethodName)) ∈ lw_tbl := lw_at lw_m8 127 rfl
theorem q1959 : (Jvm.Cond.instanceMethod ({ cls := "NeverUnseenModel", name := "denied", desc := "(I)Z" } : Jvm.MethodName)) ∈ lw_all := lw_g (lw_at lw_m8 128 rfl) rfl
theorem q1960 : (Jvm.Cond.code ({ cls := "NeverUnseenModel", name := "denied", desc := "(I)Z" } : Jvm.MethodName) prog_15_method_4_code (2 : Nat) (Option.some Jvm.ClassFile.FieldType.boolean)) ∈ lw_all := lw_g (lw_at lw_m8 129 rfl) rfl
theorem q1961 : (Jvm.Cond.methodLink "NeverUnseenModel" (440 : Nat) ({ cls := "NeverUnseenModel", name := "granted", desc := "()Z" } : Jvm.MethodName)) ∈ lw_all := lw_g (lw_at lw_m8 130 rfl) rfl
theorem q1962 : (Jvm.Cond.privateMethod ({ cls := "NeverUnseenModel", name := "granted", desc := "()Z" } : Jvm.MethodName)) ∈ lw_tbl := lw_at lw_m8 131 rfl
theorem q1963 : (Jvm.Cond.instanceMethod ({ cls := "NeverUnseenModel", name := "granted", desc := "()Z" } : Jvm.MethodName)) ∈ lw_all := lw_g (lw_at lw_m8 132 rfl) rfl
theorem q1964 : (Jvm.Cond.code ({ cls := "NeverUnseenModel", name := "granted", desc := "()Z" } : Jvm.MethodName) prog_15_method_6_code (1 : Nat) (Option.some Jvm.ClassFile.FieldType.boolean)) ∈ lw_all := lw_g (lw_at lw_m8 133 rfl) rfl
theorem q1966 : (Jvm.Cond.instanceMethod ({ cls := "NeverUnseenModel", name := "time", desc := "(I)Z" } : Jvm.MethodName)) ∈ lw_all := lw_g (lw_at lw_m8 135 rfl) rfl
theorem q1967 : (Jvm.Cond.selects "NeverUnseenModel" ({ cls := "NeverUnseenModel", name := "time", desc := "(I)Z" } : Jvm.MethodName) ({ cls := "NeverUnseenModel", name := "time", desc := "(I)Z" } : Jvm.MethodName)) ∈ lw_all := lw_g (lw_at lw_m8 136 rfl) rfl
theorem q1968 : (Jvm.Cond.code ({ cls := "NeverUnseenModel", name := "time", desc := "(I)Z" } : Jvm.MethodName) prog_15_method_61_code (2 : Nat) (Option.some Jvm.ClassFile.FieldType.boolean)) ∈ lw_all := lw_g (lw_at lw_m8 137 rfl) rfl
theorem q1970 : (Jvm.Cond.instanceMethod ({ cls := "NeverUnseenModel", name := "at", desc := "(I)I" } : Jvm.MethodName)) ∈ lw_all := lw_g (lw_at lw_m8 139 rfl) rfl
theorem q1971 : (Jvm.Cond.selects "NeverUnseenModel" ({ cls := "NeverUnseenModel", name := "at", desc := "(I)I" } : Jvm.MethodName) ({ cls := "NeverUnseenModel", name := "at", desc := "(I)I" } : Jvm.MethodName)) ∈ lw_all := lw_g (lw_at lw_m8 140 rfl) rfl
theorem q1972 : (Jvm.Cond.code ({ cls := "NeverUnseenModel", name := "at", desc := "(I)I" } : Jvm.MethodName) prog_15_method_62_code (2 : Nat) (Option.some Jvm.ClassFile.FieldType.int)) ∈ lw_all := lw_g (lw_at lw_m8 141 rfl) rfl
theorem q1974 : (Jvm.Cond.instanceMethod ({ cls := "NeverUnseenModel", name := "unseen", desc := "()I" } : Jvm.MethodName)) ∈ lw_all := lw_g (lw_at lw_m8 143 rfl) rfl
theorem q1975 : (Jvm.Cond.selects "NeverUnseenModel" ({ cls := "NeverUnseenModel", name := "unseen", desc := "()I" } : Jvm.MethodName) ({ cls := "NeverUnseenModel", name := "unseen", desc := "()I" } : Jvm.MethodName)) ∈ lw_all := lw_g (lw_at lw_m8 144 rfl) rfl
theorem q1976 : (Jvm.Cond.code ({ cls := "NeverUnseenModel", name := "unseen", desc := "()I" } : Jvm.MethodName) prog_15_method_64_code (1 : Nat) (Option.some Jvm.ClassFile.FieldType.int)) ∈ lw_all := lw_g (lw_at lw_m8 145 rfl) rfl
theorem q1977 : (Jvm.Cond.methodLink "NeverUnseenModel" (443 : Nat) ({ cls := "NeverUnseenModel", name := "unseenNow", desc := "()I" } : Jvm.MethodName)) ∈ lw_all := lw_g (lw_at lw_m8 146 rfl) rfl
theorem q1978 : (Jvm.Cond.privateMethod ({ cls := "NeverUnseenModel", name := "unseenNow", desc := "()I" } : Jvm.MethodName)) ∈ lw_tbl := lw_at lw_m8 147 rfl
theorem q1979 : (Jvm.Cond.instanceMethod ({ cls := "NeverUnseenModel", name := "unseenNow", desc := "()I" } : Jvm.MethodName)) ∈ lw_all := lw_g (lw_at lw_m8 148 rfl) rfl
theorem q1980 : (Jvm.Cond.code ({ cls := "NeverUnseenModel", name := "unseenNow", desc := "()I" } : Jvm.MethodName) prog_15_method_63_code (3 : Nat) (Option.some Jvm.ClassFile.FieldType.int)) ∈ lw_all := lw_g (lw_at lw_m8 149 rfl) rfl
theorem q1981 : (Jvm.Cond.methodLink "NeverUnseenModel" (429 : Nat) ({ cls := "NeverUnseenModel", name := "seeing", desc := "([IIII)I" } : Jvm.MethodName)) ∈ lw_all := lw_g (lw_at lw_m8 150 rfl) rfl
theorem q1982 : (Jvm.Cond.privateMethod ({ cls := "NeverUnseenModel", name := "seeing", desc := "([IIII)I" } : Jvm.MethodName)) ∈ lw_tbl := lw_at lw_m8 151 rfl
theorem q1983 : (Jvm.Cond.instanceMethod ({ cls := "NeverUnseenModel", name := "seeing", desc := "([IIII)I" } : Jvm.MethodName)) ∈ lw_all := lw_g (lw_at lw_m8 152 rfl) rfl
theorem q1984 : (Jvm.Cond.code ({ cls := "NeverUnseenModel", name := "seeing", desc := "([IIII)I" } : Jvm.MethodName) prog_15_method_57_code (8 : Nat) (Option.some Jvm.ClassFile.FieldType.int)) ∈ lw_all := lw_g (lw_at lw_m8 153 rfl) rfl
theorem q1986 : (Jvm.Cond.instanceMethod ({ cls := "NeverUnseenModel", name := "lawful", desc := "()I" } : Jvm.MethodName)) ∈ lw_all := lw_g (lw_at lw_m8 155 rfl) rfl
theorem q1987 : (Jvm.Cond.selects "NeverUnseenModel" ({ cls := "NeverUnseenModel", name := "lawful", desc := "()I" } : Jvm.MethodName) ({ cls := "NeverUnseenModel", name := "lawful", desc := "()I" } : Jvm.MethodName)) ∈ lw_all := lw_g (lw_at lw_m8 156 rfl) rfl
theorem q1988 : (Jvm.Cond.code ({ cls := "NeverUnseenModel", name := "lawful", desc := "()I" } : Jvm.MethodName) prog_15_method_65_code (1 : Nat) (Option.some Jvm.ClassFile.FieldType.int)) ∈ lw_all := lw_g (lw_at lw_m8 157 rfl) rfl
theorem q1989 : (Jvm.Cond.methodLink "NeverUnseenModel" (446 : Nat) ({ cls := "NeverUnseenModel", name := "isLawfulNow", desc := "()Z" } : Jvm.MethodName)) ∈ lw_all := lw_g (lw_at lw_m8 158 rfl) rfl
theorem q1990 : (Jvm.Cond.privateMethod ({ cls := "NeverUnseenModel", name := "isLawfulNow", desc := "()Z" } : Jvm.MethodName)) ∈ lw_tbl := lw_at lw_m8 159 rfl
theorem q1991 : (Jvm.Cond.instanceMethod ({ cls := "NeverUnseenModel", name := "isLawfulNow", desc := "()Z" } : Jvm.MethodName)) ∈ lw_all := lw_g (lw_at lw_m8 160 rfl) rfl
theorem q1992 : (Jvm.Cond.code ({ cls := "NeverUnseenModel", name := "isLawfulNow", desc := "()Z" } : Jvm.MethodName) prog_15_method_59_code (1 : Nat) (Option.some Jvm.ClassFile.FieldType.boolean)) ∈ lw_all := lw_g (lw_at lw_m8 161 rfl) rfl
theorem q1993 : (Jvm.Cond.methodLink "NeverUnseenModel" (433 : Nat) ({ cls := "NeverUnseenModel", name := "isLawful", desc := "([III)Z" } : Jvm.MethodName)) ∈ lw_all := lw_g (lw_at lw_m8 162 rfl) rfl
theorem q1994 : (Jvm.Cond.privateMethod ({ cls := "NeverUnseenModel", name := "isLawful", desc := "([III)Z" } : Jvm.MethodName)) ∈ lw_tbl := lw_at lw_m8 163 rfl
theorem q1995 : (Jvm.Cond.instanceMethod ({ cls := "NeverUnseenModel", name := "isLawful", desc := "([III)Z" } : Jvm.MethodName)) ∈ lw_all := lw_g (lw_at lw_m8 164 rfl) rfl
theorem q1996 : (Jvm.Cond.code ({ cls := "NeverUnseenModel", name := "isLawful", desc := "([III)Z" } : Jvm.MethodName) prog_15_method_58_code (7 : Nat) (Option.some Jvm.ClassFile.FieldType.boolean)) ∈ lw_all := lw_g (lw_at lw_m8 165 rfl) rfl
theorem q1998 : (Jvm.Cond.instanceMethod ({ cls := "NeverUnseenModel", name := "by", desc := "(I)I" } : Jvm.MethodName)) ∈ lw_all := lw_g (lw_at lw_m8 167 rfl) rfl
theorem q1999 : (Jvm.Cond.selects "NeverUnseenModel" ({ cls := "NeverUnseenModel", name := "by", desc := "(I)I" } : Jvm.MethodName) ({ cls := "NeverUnseenModel", name := "by", desc := "(I)I" } : Jvm.MethodName)) ∈ lw_all := lw_g (lw_at lw_m8 168 rfl) rfl
theorem q2000 : (Jvm.Cond.code ({ cls := "NeverUnseenModel", name := "by", desc := "(I)I" } : Jvm.MethodName) prog_15_method_66_code (2 : Nat) (Option.some Jvm.ClassFile.FieldType.int)) ∈ lw_all := lw_g (lw_at lw_m8 169 rfl) rfl
theorem q2002 : (Jvm.Cond.instanceMethod ({ cls := "NeverUnseenModel", name := "move", desc := "(III)Z" } : Jvm.MethodName)) ∈ lw_all := lw_g (lw_at lw_m8 171 rfl) rfl
theorem q2003 : (Jvm.Cond.selects "NeverUnseenModel" ({ cls := "NeverUnseenModel", name := "move", desc := "(III)Z" } : Jvm.MethodName) ({ cls := "NeverUnseenModel", name := "move", desc := "(III)Z" } : Jvm.MethodName)) ∈ lw_all := lw_g (lw_at lw_m8 172 rfl) rfl
theorem q2004 : (Jvm.Cond.code ({ cls := "NeverUnseenModel", name := "move", desc := "(III)Z" } : Jvm.MethodName) prog_15_method_68_code (5 : Nat) (Option.some Jvm.ClassFile.FieldType.boolean)) ∈ lw_all := lw_g (lw_at lw_m8 173 rfl) rfl
theorem q2006 : (Jvm.Cond.instanceMethod ({ cls := "NeverUnseenModel", name := "planned", desc := "(II)I" } : Jvm.MethodName)) ∈ lw_all := lw_g (lw_at lw_m8 175 rfl) rfl
theorem q2007 : (Jvm.Cond.selects "NeverUnseenModel" ({ cls := "NeverUnseenModel", name := "planned", desc := "(II)I" } : Jvm.MethodName) ({ cls := "NeverUnseenModel", name := "planned", desc := "(II)I" } : Jvm.MethodName)) ∈ lw_all := lw_g (lw_at lw_m8 176 rfl) rfl
theorem q2008 : (Jvm.Cond.code ({ cls := "NeverUnseenModel", name := "planned", desc := "(II)I" } : Jvm.MethodName) prog_15_method_69_code (3 : Nat) (Option.some Jvm.ClassFile.FieldType.int)) ∈ lw_all := lw_g (lw_at lw_m8 177 rfl) rfl
theorem q2010 : (Jvm.Cond.instanceMethod ({ cls := "NeverUnseenModel", name := "judge", desc := "()I" } : Jvm.MethodName)) ∈ lw_all := lw_g (lw_at lw_m8 179 rfl) rfl
theorem q2011 : (Jvm.Cond.selects "NeverUnseenModel" ({ cls := "NeverUnseenModel", name := "judge", desc := "()I" } : Jvm.MethodName) ({ cls := "NeverUnseenModel", name := "judge", desc := "()I" } : Jvm.MethodName)) ∈ lw_all := lw_g (lw_at lw_m8 180 rfl) rfl
theorem q2012 : (Jvm.Cond.code ({ cls := "NeverUnseenModel", name := "judge", desc := "()I" } : Jvm.MethodName) prog_15_method_72_code (1 : Nat) (Option.some Jvm.ClassFile.FieldType.int)) ∈ lw_all := lw_g (lw_at lw_m8 181 rfl) rfl
theorem q2013 : (Jvm.Cond.methodLink "NeverUnseenModel" (458 : Nat) ({ cls := "NeverUnseenModel", name := "judged", desc := "()I" } : Jvm.MethodName)) ∈ lw_all := lw_g (lw_at lw_m8 182 rfl) rfl
theorem q2014 : (Jvm.Cond.privateMethod ({ cls := "NeverUnseenModel", name := "judged", desc := "()I" } : Jvm.MethodName)) ∈ lw_tbl := lw_at lw_m8 183 rfl
theorem q2015 : (Jvm.Cond.instanceMethod ({ cls := "NeverUnseenModel", name := "judged", desc := "()I" } : Jvm.MethodName)) ∈ lw_all := lw_g (lw_at lw_m8 184 rfl) rfl
theorem q2016 : (Jvm.Cond.code ({ cls := "NeverUnseenModel", name := "judged", desc := "()I" } : Jvm.MethodName) prog_15_method_71_code (5 : Nat) (Option.some Jvm.ClassFile.FieldType.int)) ∈ lw_all := lw_g (lw_at lw_m8 185 rfl) rfl
theorem q2017 : (Jvm.Cond.methodLink "NeverUnseenModel" (449 : Nat) ({ cls := "NeverUnseenModel$Valley", name := "near", desc := "(I)I" } : Jvm.MethodName)) ∈ lw_all := lw_g (lw_at lw_m8 186 rfl) rfl
theorem q2021 : (Jvm.Cond.methodLink "NeverUnseenModel" (455 : Nat) ({ cls := "NeverUnseenModel", name := "isPlanDone", desc := "(I)Z" } : Jvm.MethodName)) ∈ lw_all := lw_g (lw_at lw_m8 190 rfl) rfl
theorem q2022 : (Jvm.Cond.privateMethod ({ cls := "NeverUnseenModel", name := "isPlanDone", desc := "(I)Z" } : Jvm.MethodName)) ∈ lw_tbl := lw_at lw_m8 191 rfl
theorem q2023 : (Jvm.Cond.instanceMethod ({ cls := "NeverUnseenModel", name := "isPlanDone", desc := "(I)Z" } : Jvm.MethodName)) ∈ lw_all := lw_g (lw_at lw_m8 192 rfl) rfl
theorem q2024 : (Jvm.Cond.code ({ cls := "NeverUnseenModel", name := "isPlanDone", desc := "(I)Z" } : Jvm.MethodName) prog_15_method_70_code (4 : Nat) (Option.some Jvm.ClassFile.FieldType.boolean)) ∈ lw_all := lw_g (lw_at lw_m8 193 rfl) rfl
theorem q2026 : (Jvm.Cond.instanceMethod ({ cls := "NeverUnseenModel", name := "why", desc := "()I" } : Jvm.MethodName)) ∈ lw_all := lw_g (lw_at lw_m8 195 rfl) rfl
theorem q2027 : (Jvm.Cond.selects "NeverUnseenModel" ({ cls := "NeverUnseenModel", name := "why", desc := "()I" } : Jvm.MethodName) ({ cls := "NeverUnseenModel", name := "why", desc := "()I" } : Jvm.MethodName)) ∈ lw_all := lw_g (lw_at lw_m8 196 rfl) rfl
theorem q2028 : (Jvm.Cond.code ({ cls := "NeverUnseenModel", name := "why", desc := "()I" } : Jvm.MethodName) prog_15_method_73_code (1 : Nat) (Option.some Jvm.ClassFile.FieldType.int)) ∈ lw_all := lw_g (lw_at lw_m8 197 rfl) rfl
theorem q2030 : (Jvm.Cond.instanceMethod ({ cls := "NeverUnseenModel", name := "done", desc := "(I)I" } : Jvm.MethodName)) ∈ lw_all := lw_g (lw_at lw_m8 199 rfl) rfl
theorem q2031 : (Jvm.Cond.selects "NeverUnseenModel" ({ cls := "NeverUnseenModel", name := "done", desc := "(I)I" } : Jvm.MethodName) ({ cls := "NeverUnseenModel", name := "done", desc := "(I)I" } : Jvm.MethodName)) ∈ lw_all := lw_g (lw_at lw_m8 200 rfl) rfl
theorem q2032 : (Jvm.Cond.code ({ cls := "NeverUnseenModel", name := "done", desc := "(I)I" } : Jvm.MethodName) prog_15_method_74_code (2 : Nat) (Option.some Jvm.ClassFile.FieldType.int)) ∈ lw_all := lw_g (lw_at lw_m8 201 rfl) rfl
theorem q2034 : (Jvm.Cond.instanceMethod ({ cls := "NeverUnseenModel", name := "forget", desc := "()Z" } : Jvm.MethodName)) ∈ lw_all := lw_g (lw_at lw_m8 203 rfl) rfl
theorem q2035 : (Jvm.Cond.selects "NeverUnseenModel" ({ cls := "NeverUnseenModel", name := "forget", desc := "()Z" } : Jvm.MethodName) ({ cls := "NeverUnseenModel", name := "forget", desc := "()Z" } : Jvm.MethodName)) ∈ lw_all := lw_g (lw_at lw_m8 204 rfl) rfl
theorem q2036 : (Jvm.Cond.code ({ cls := "NeverUnseenModel", name := "forget", desc := "()Z" } : Jvm.MethodName) prog_15_method_75_code (1 : Nat) (Option.some Jvm.ClassFile.FieldType.boolean)) ∈ lw_all := lw_g (lw_at lw_m8 205 rfl) rfl
theorem q2038 : (Jvm.Cond.instanceMethod ({ cls := "NeverUnseenModel", name := "posts", desc := "(II)I" } : Jvm.MethodName)) ∈ lw_all := lw_g (lw_at lw_m8 207 rfl) rfl
theorem q2039 : (Jvm.Cond.selects "NeverUnseenModel" ({ cls := "NeverUnseenModel", name := "posts", desc := "(II)I" } : Jvm.MethodName) ({ cls := "NeverUnseenModel", name := "posts", desc := "(II)I" } : Jvm.MethodName)) ∈ lw_all := lw_g (lw_at lw_m8 208 rfl) rfl
theorem q2040 : (Jvm.Cond.code ({ cls := "NeverUnseenModel", name := "posts", desc := "(II)I" } : Jvm.MethodName) prog_15_method_78_code (5 : Nat) (Option.some Jvm.ClassFile.FieldType.int)) ∈ lw_all := lw_g (lw_at lw_m8 209 rfl) rfl
theorem q2041 : (Jvm.Cond.methodLink "NeverUnseenModel" (464 : Nat) ({ cls := "NeverUnseenModel", name := "refusesPosts", desc := "(II)I" } : Jvm.MethodName)) ∈ lw_all := lw_g (lw_at lw_m8 210 rfl) rfl
theorem q2042 : (Jvm.Cond.privateMethod ({ cls := "NeverUnseenModel", name := "refusesPosts", desc := "(II)I" } : Jvm.MethodName)) ∈ lw_tbl := lw_at lw_m8 211 rfl
theorem q2043 : (Jvm.Cond.instanceMethod ({ cls := "NeverUnseenModel", name := "refusesPosts", desc := "(II)I" } : Jvm.MethodName)) ∈ lw_all := lw_g (lw_at lw_m8 212 rfl) rfl
theorem q2044 : (Jvm.Cond.code ({ cls := "NeverUnseenModel", name := "refusesPosts", desc := "(II)I" } : Jvm.MethodName) prog_15_method_77_code (3 : Nat) (Option.some Jvm.ClassFile.FieldType.int)) ∈ lw_all := lw_g (lw_at lw_m8 213 rfl) rfl
theorem q2045 : (Jvm.Cond.methodLink "NeverUnseenModel" (467 : Nat) ({ cls := "NeverUnseenModel", name := "postsFor", desc := "(II)I" } : Jvm.MethodName)) ∈ lw_all := lw_g (lw_at lw_m8 214 rfl) rfl
theorem q2046 : (Jvm.Cond.privateMethod ({ cls := "NeverUnseenModel", name := "postsFor", desc := "(II)I" } : Jvm.MethodName)) ∈ lw_tbl := lw_at lw_m8 215 rfl
theorem q2047 : (Jvm.Cond.instanceMethod ({ cls := "NeverUnseenModel", name := "postsFor", desc := "(II)I" } : Jvm.MethodName)) ∈ lw_all := lw_g (lw_at lw_m8 216 rfl) rfl
theorem q2048 : (Jvm.Cond.code ({ cls := "NeverUnseenModel", name := "postsFor", desc := "(II)I" } : Jvm.MethodName) prog_15_method_76_code (8 : Nat) (Option.some Jvm.ClassFile.FieldType.int)) ∈ lw_all := lw_g (lw_at lw_m8 217 rfl) rfl
theorem q2049 : (Jvm.Cond.methodLink "NeverUnseenModel" (461 : Nat) ({ cls := "NeverUnseenModel", name := "bits", desc := "(I)I" } : Jvm.MethodName)) ∈ lw_all := lw_g (lw_at lw_m8 218 rfl) rfl
theorem q2050 : (Jvm.Cond.static ({ cls := "NeverUnseenModel", name := "bits", desc := "(I)I" } : Jvm.MethodName)) ∈ lw_all := lw_g (lw_at lw_m8 219 rfl) rfl
theorem q2051 : (Jvm.Cond.code ({ cls := "NeverUnseenModel", name := "bits", desc := "(I)I" } : Jvm.MethodName) prog_15_method_9_code (3 : Nat) (Option.some Jvm.ClassFile.FieldType.int)) ∈ lw_all := lw_g (lw_at lw_m8 220 rfl) rfl
theorem q2053 : (Jvm.Cond.instanceMethod ({ cls := "NeverUnseenModel", name := "postsAt", desc := "(II)I" } : Jvm.MethodName)) ∈ lw_all := lw_g (lw_at lw_m8 222 rfl) rfl
theorem q2054 : (Jvm.Cond.selects "NeverUnseenModel" ({ cls := "NeverUnseenModel", name := "postsAt", desc := "(II)I" } : Jvm.MethodName) ({ cls := "NeverUnseenModel", name := "postsAt", desc := "(II)I" } : Jvm.MethodName)) ∈ lw_all := lw_g (lw_at lw_m8 223 rfl) rfl
theorem q2055 : (Jvm.Cond.code ({ cls := "NeverUnseenModel", name := "postsAt", desc := "(II)I" } : Jvm.MethodName) prog_15_method_79_code (4 : Nat) (Option.some Jvm.ClassFile.FieldType.int)) ∈ lw_all := lw_g (lw_at lw_m8 224 rfl) rfl
theorem q2057 : (Jvm.Cond.instanceMethod ({ cls := "NeverUnseenModel", name := "go", desc := "(II)I" } : Jvm.MethodName)) ∈ lw_all := lw_g (lw_at lw_m8 226 rfl) rfl
theorem q2058 : (Jvm.Cond.selects "NeverUnseenModel" ({ cls := "NeverUnseenModel", name := "go", desc := "(II)I" } : Jvm.MethodName) ({ cls := "NeverUnseenModel", name := "go", desc := "(II)I" } : Jvm.MethodName)) ∈ lw_all := lw_g (lw_at lw_m8 227 rfl) rfl
theorem q2059 : (Jvm.Cond.code ({ cls := "NeverUnseenModel", name := "go", desc := "(II)I" } : Jvm.MethodName) prog_15_method_93_code (5 : Nat) (Option.some Jvm.ClassFile.FieldType.int)) ∈ lw_all := lw_g (lw_at lw_m8 228 rfl) rfl
theorem q2060 : (Jvm.Cond.methodLink "NeverUnseenModel" (497 : Nat) ({ cls := "NeverUnseenModel", name := "isMovers", desc := "(II)Z" } : Jvm.MethodName)) ∈ lw_all := lw_g (lw_at lw_m8 229 rfl) rfl
theorem q2061 : (Jvm.Cond.privateMethod ({ cls := "NeverUnseenModel", name := "isMovers", desc := "(II)Z" } : Jvm.MethodName)) ∈ lw_tbl := lw_at lw_m8 230 rfl
theorem q2062 : (Jvm.Cond.instanceMethod ({ cls := "NeverUnseenModel", name := "isMovers", desc := "(II)Z" } : Jvm.MethodName)) ∈ lw_all := lw_g (lw_at lw_m8 231 rfl) rfl
theorem q2063 : (Jvm.Cond.code ({ cls := "NeverUnseenModel", name := "isMovers", desc := "(II)Z" } : Jvm.MethodName) prog_15_method_81_code (3 : Nat) (Option.some Jvm.ClassFile.FieldType.boolean)) ∈ lw_all := lw_g (lw_at lw_m8 232 rfl) rfl
theorem q2064 : (Jvm.Cond.methodLink "NeverUnseenModel" (500 : Nat) ({ cls := "NeverUnseenModel", name := "takesMovers", desc := "(I)V" } : Jvm.MethodName)) ∈ lw_all := lw_g (lw_at lw_m8 233 rfl) rfl
theorem q2065 : (Jvm.Cond.privateMethod ({ cls := "NeverUnseenModel", name := "takesMovers", desc := "(I)V" } : Jvm.MethodName)) ∈ lw_tbl := lw_at lw_m8 234 rfl
theorem q2066 : (Jvm.Cond.instanceMethod ({ cls := "NeverUnseenModel", name := "takesMovers", desc := "(I)V" } : Jvm.MethodName)) ∈ lw_all := lw_g (lw_at lw_m8 235 rfl) rfl
theorem q2067 : (Jvm.Cond.code ({ cls := "NeverUnseenModel", name := "takesMovers", desc := "(I)V" } : Jvm.MethodName) prog_15_method_80_code (3 : Nat) (Option.none : Option Jvm.ClassFile.FieldType)) ∈ lw_all := lw_g (lw_at lw_m8 236 rfl) rfl
theorem q2068 : (Jvm.Cond.methodLink "NeverUnseenModel" (503 : Nat) ({ cls := "NeverUnseenModel", name := "allAt", desc := "(I)I" } : Jvm.MethodName)) ∈ lw_all := lw_g (lw_at lw_m8 237 rfl) rfl
theorem q2069 : (Jvm.Cond.privateMethod ({ cls := "NeverUnseenModel", name := "allAt", desc := "(I)I" } : Jvm.MethodName)) ∈ lw_tbl := lw_at lw_m8 238 rfl
theorem q2070 : (Jvm.Cond.instanceMethod ({ cls := "NeverUnseenModel", name := "allAt", desc := "(I)I" } : Jvm.MethodName)) ∈ lw_all := lw_g (lw_at lw_m8 239 rfl) rfl
theorem q2071 : (Jvm.Cond.code ({ cls := "NeverUnseenModel", name := "allAt", desc := "(I)I" } : Jvm.MethodName) prog_15_method_90_code (4 : Nat) (Option.some Jvm.ClassFile.FieldType.int)) ∈ lw_all := lw_g (lw_at lw_m9 0 rfl) rfl
theorem q2072 : (Jvm.Cond.methodLink "NeverUnseenModel" (506 : Nat) ({ cls := "NeverUnseenModel", name := "sets", desc := "()V" } : Jvm.MethodName)) ∈ lw_all := lw_g (lw_at lw_m9 1 rfl) rfl
theorem q2073 : (Jvm.Cond.privateMethod ({ cls := "NeverUnseenModel", name := "sets", desc := "()V" } : Jvm.MethodName)) ∈ lw_tbl := lw_at lw_m9 2 rfl
theorem q2074 : (Jvm.Cond.instanceMethod ({ cls := "NeverUnseenModel", name := "sets", desc := "()V" } : Jvm.MethodName)) ∈ lw_all := lw_g (lw_at lw_m9 3 rfl) rfl
theorem q2075 : (Jvm.Cond.code ({ cls := "NeverUnseenModel", name := "sets", desc := "()V" } : Jvm.MethodName) prog_15_method_89_code (2 : Nat) (Option.none : Option Jvm.ClassFile.FieldType)) ∈ lw_all := lw_g (lw_at lw_m9 4 rfl) rfl
theorem q2076 : (Jvm.Cond.methodLink "NeverUnseenModel" (491 : Nat) ({ cls := "NeverUnseenModel", name := "stateNow", desc := "()I" } : Jvm.MethodName)) ∈ lw_all := lw_g (lw_at lw_m9 5 rfl) rfl
theorem q2077 : (Jvm.Cond.privateMethod ({ cls := "NeverUnseenModel", name := "stateNow", desc := "()I" } : Jvm.MethodName)) ∈ lw_tbl := lw_at lw_m9 6 rfl
theorem q2078 : (Jvm.Cond.instanceMethod ({ cls := "NeverUnseenModel", name := "stateNow", desc := "()I" } : Jvm.MethodName)) ∈ lw_all := lw_g (lw_at lw_m9 7 rfl) rfl
theorem q2079 : (Jvm.Cond.code ({ cls := "NeverUnseenModel", name := "stateNow", desc := "()I" } : Jvm.MethodName) prog_15_method_83_code (3 : Nat) (Option.some Jvm.ClassFile.FieldType.int)) ∈ lw_all := lw_g (lw_at lw_m9 8 rfl) rfl
theorem q2080 : (Jvm.Cond.methodLink "NeverUnseenModel" (509 : Nat) ({ cls := "NeverUnseenModel", name := "keepsPath", desc := "(III)V" } : Jvm.MethodName)) ∈ lw_all := lw_g (lw_at lw_m9 9 rfl) rfl
theorem q2081 : (Jvm.Cond.privateMethod ({ cls := "NeverUnseenModel", name := "keepsPath", desc := "(III)V" } : Jvm.MethodName)) ∈ lw_tbl := lw_at lw_m9 10 rfl
theorem q2082 : (Jvm.Cond.instanceMethod ({ cls := "NeverUnseenModel", name := "keepsPath", desc := "(III)V" } : Jvm.MethodName)) ∈ lw_all := lw_g (lw_at lw_m9 11 rfl) rfl
theorem q2083 : (Jvm.Cond.code ({ cls := "NeverUnseenModel", name := "keepsPath", desc := "(III)V" } : Jvm.MethodName) prog_15_method_92_code (8 : Nat) (Option.none : Option Jvm.ClassFile.FieldType)) ∈ lw_all := lw_g (lw_at lw_m9 12 rfl) rfl
theorem q2084 : (Jvm.Cond.methodLink "NeverUnseenModel" (494 : Nat) ({ cls := "NeverUnseenModel", name := "traces", desc := "(II)V" } : Jvm.MethodName)) ∈ lw_all := lw_g (lw_at lw_m9 13 rfl) rfl
theorem q2085 : (Jvm.Cond.privateMethod ({ cls := "NeverUnseenModel", name := "traces", desc := "(II)V" } : Jvm.MethodName)) ∈ lw_tbl := lw_at lw_m9 14 rfl
theorem q2086 : (Jvm.Cond.instanceMethod ({ cls := "NeverUnseenModel", name := "traces", desc := "(II)V" } : Jvm.MethodName)) ∈ lw_all := lw_g (lw_at lw_m9 15 rfl) rfl
theorem q2087 : (Jvm.Cond.code ({ cls := "NeverUnseenModel", name := "traces", desc := "(II)V" } : Jvm.MethodName) prog_15_method_91_code (7 : Nat) (Option.none : Option Jvm.ClassFile.FieldType)) ∈ lw_all := lw_g (lw_at lw_m9 16 rfl) rfl
theorem q2088 : (Jvm.Cond.methodLink "NeverUnseenModel" (485 : Nat) ({ cls := "NeverUnseenModel", name := "leads", desc := "(I)I" } : Jvm.MethodName)) ∈ lw_all := lw_g (lw_at lw_m9 17 rfl) rfl
theorem q2089 : (Jvm.Cond.privateMethod ({ cls := "NeverUnseenModel", name := "leads", desc := "(I)I" } : Jvm.MethodName)) ∈ lw_tbl := lw_at lw_m9 18 rfl
theorem q2090 : (Jvm.Cond.instanceMethod ({ cls := "NeverUnseenModel", name := "leads", desc := "(I)I" } : Jvm.MethodName)) ∈ lw_all := lw_g (lw_at lw_m9 19 rfl) rfl
theorem q2091 : (Jvm.Cond.code ({ cls := "NeverUnseenModel", name := "leads", desc := "(I)I" } : Jvm.MethodName) prog_15_method_87_code (4 : Nat) (Option.some Jvm.ClassFile.FieldType.int)) ∈ lw_all := lw_g (lw_at lw_m9 20 rfl) rfl
theorem q2092 : (Jvm.Cond.methodLink "NeverUnseenModel" (479 : Nat) ({ cls := "NeverUnseenModel", name := "isState", desc := "(I)Z" } : Jvm.MethodName)) ∈ lw_all := lw_g (lw_at lw_m9 21 rfl) rfl
theorem q2093 : (Jvm.Cond.privateMethod ({ cls := "NeverUnseenModel", name := "isState", desc := "(I)Z" } : Jvm.MethodName)) ∈ lw_tbl := lw_at lw_m9 22 rfl
theorem q2094 : (Jvm.Cond.instanceMethod ({ cls := "NeverUnseenModel", name := "isState", desc := "(I)Z" } : Jvm.MethodName)) ∈ lw_all := lw_g (lw_at lw_m9 23 rfl) rfl
theorem q2095 : (Jvm.Cond.code ({ cls := "NeverUnseenModel", name := "isState", desc := "(I)Z" } : Jvm.MethodName) prog_15_method_84_code (3 : Nat) (Option.some Jvm.ClassFile.FieldType.boolean)) ∈ lw_all := lw_g (lw_at lw_m9 24 rfl) rfl
theorem q2096 : (Jvm.Cond.methodLink "NeverUnseenModel" (476 : Nat) ({ cls := "NeverUnseenModel", name := "placeIn", desc := "(II)I" } : Jvm.MethodName)) ∈ lw_all := lw_g (lw_at lw_m9 25 rfl) rfl
theorem q2097 : (Jvm.Cond.privateMethod ({ cls := "NeverUnseenModel", name := "placeIn", desc := "(II)I" } : Jvm.MethodName)) ∈ lw_tbl := lw_at lw_m9 26 rfl
theorem q2098 : (Jvm.Cond.instanceMethod ({ cls := "NeverUnseenModel", name := "placeIn", desc := "(II)I" } : Jvm.MethodName)) ∈ lw_all := lw_g (lw_at lw_m9 27 rfl) rfl
theorem q2099 : (Jvm.Cond.code ({ cls := "NeverUnseenModel", name := "placeIn", desc := "(II)I" } : Jvm.MethodName) prog_15_method_82_code (5 : Nat) (Option.some Jvm.ClassFile.FieldType.int)) ∈ lw_all := lw_g (lw_at lw_m9 28 rfl) rfl
theorem q2100 : (Jvm.Cond.methodLink "NeverUnseenModel" (482 : Nat) ({ cls := "NeverUnseenModel", name := "isStepTo", desc := "(II)Z" } : Jvm.MethodName)) ∈ lw_all := lw_g (lw_at lw_m9 29 rfl) rfl
theorem q2101 : (Jvm.Cond.privateMethod ({ cls := "NeverUnseenModel", name := "isStepTo", desc := "(II)Z" } : Jvm.MethodName)) ∈ lw_tbl := lw_at lw_m9 30 rfl
theorem q2102 : (Jvm.Cond.instanceMethod ({ cls := "NeverUnseenModel", name := "isStepTo", desc := "(II)Z" } : Jvm.MethodName)) ∈ lw_all := lw_g (lw_at lw_m9 31 rfl) rfl
theorem q2103 : (Jvm.Cond.code ({ cls := "NeverUnseenModel", name := "isStepTo", desc := "(II)Z" } : Jvm.MethodName) prog_15_method_86_code (6 : Nat) (Option.some Jvm.ClassFile.FieldType.boolean)) ∈ lw_all := lw_g (lw_at lw_m9 32 rfl) rfl
theorem q2104 : (Jvm.Cond.methodLink "NeverUnseenModel" (513 : Nat) ({ cls := "NeverUnseenModel", name := "spreads", desc := "(I)V" } : Jvm.MethodName)) ∈ lw_all := lw_g (lw_at lw_m9 33 rfl) rfl
theorem q2105 : (Jvm.Cond.privateMethod ({ cls := "NeverUnseenModel", name := "spreads", desc := "(I)V" } : Jvm.MethodName)) ∈ lw_tbl := lw_at lw_m9 34 rfl
theorem q2106 : (Jvm.Cond.instanceMethod ({ cls := "NeverUnseenModel", name := "spreads", desc := "(I)V" } : Jvm.MethodName)) ∈ lw_all := lw_g (lw_at lw_m9 35 rfl) rfl
theorem q2107 : (Jvm.Cond.code ({ cls := "NeverUnseenModel", name := "spreads", desc := "(I)V" } : Jvm.MethodName) prog_15_method_88_code (5 : Nat) (Option.none : Option Jvm.ClassFile.FieldType)) ∈ lw_all := lw_g (lw_at lw_m9 36 rfl) rfl
theorem q2108 : (Jvm.Cond.methodLink "NeverUnseenModel" (488 : Nat) ({ cls := "NeverUnseenModel", name := "isLawfulState", desc := "(II)Z" } : Jvm.MethodName)) ∈ lw_all := lw_g (lw_at lw_m9 37 rfl) rfl
theorem q2109 : (Jvm.Cond.privateMethod ({ cls := "NeverUnseenModel", name := "isLawfulState", desc := "(II)Z" } : Jvm.MethodName)) ∈ lw_tbl := lw_at lw_m9 38 rfl
theorem q2110 : (Jvm.Cond.instanceMethod ({ cls := "NeverUnseenModel", name := "isLawfulState", desc := "(II)Z" } : Jvm.MethodName)) ∈ lw_all := lw_g (lw_at lw_m9 39 rfl) rfl
theorem q2111 : (Jvm.Cond.code ({ cls := "NeverUnseenModel", name := "isLawfulState", desc := "(II)Z" } : Jvm.MethodName) prog_15_method_85_code (4 : Nat) (Option.some Jvm.ClassFile.FieldType.boolean)) ∈ lw_all := lw_g (lw_at lw_m9 40 rfl) rfl
theorem q2113 : (Jvm.Cond.instanceMethod ({ cls := "NeverUnseenModel", name := "path", desc := "(II)I" } : Jvm.MethodName)) ∈ lw_all := lw_g (lw_at lw_m9 42 rfl) rfl
theorem q2114 : (Jvm.Cond.selects "NeverUnseenModel" ({ cls := "NeverUnseenModel", name := "path", desc := "(II)I" } : Jvm.MethodName) ({ cls := "NeverUnseenModel", name := "path", desc := "(II)I" } : Jvm.MethodName)) ∈ lw_all := lw_g (lw_at lw_m9 43 rfl) rfl
theorem q2115 : (Jvm.Cond.code ({ cls := "NeverUnseenModel", name := "path", desc := "(II)I" } : Jvm.MethodName) prog_15_method_94_code (3 : Nat) (Option.some Jvm.ClassFile.FieldType.int)) ∈ lw_all := lw_g (lw_at lw_m9 44 rfl) rfl
theorem q2117 : (Jvm.Cond.instanceMethod ({ cls := "NeverUnseenModel", name := "doing", desc := "(II)I" } : Jvm.MethodName)) ∈ lw_all := lw_g (lw_at lw_m9 46 rfl) rfl
theorem q2118 : (Jvm.Cond.selects "NeverUnseenModel" ({ cls := "NeverUnseenModel", name := "doing", desc := "(II)I" } : Jvm.MethodName) ({ cls := "NeverUnseenModel", name := "doing", desc := "(II)I" } : Jvm.MethodName)) ∈ lw_all := lw_g (lw_at lw_m9 47 rfl) rfl
theorem q2119 : (Jvm.Cond.code ({ cls := "NeverUnseenModel", name := "doing", desc := "(II)I" } : Jvm.MethodName) prog_15_method_96_code (9 : Nat) (Option.some Jvm.ClassFile.FieldType.int)) ∈ lw_all := lw_g (lw_at lw_m9 48 rfl) rfl
theorem q2120 : (Jvm.Cond.methodLink "NeverUnseenModel" (516 : Nat) ({ cls := "NeverUnseenModel", name := "stays", desc := "(III)Z" } : Jvm.MethodName)) ∈ lw_all := lw_g (lw_at lw_m9 49 rfl) rfl
theorem q2121 : (Jvm.Cond.privateMethod ({ cls := "NeverUnseenModel", name := "stays", desc := "(III)Z" } : Jvm.MethodName)) ∈ lw_tbl := lw_at lw_m9 50 rfl
theorem q2122 : (Jvm.Cond.instanceMethod ({ cls := "NeverUnseenModel", name := "stays", desc := "(III)Z" } : Jvm.MethodName)) ∈ lw_all := lw_g (lw_at lw_m9 51 rfl) rfl
theorem q2123 : (Jvm.Cond.code ({ cls := "NeverUnseenModel", name := "stays", desc := "(III)Z" } : Jvm.MethodName) prog_15_method_95_code (5 : Nat) (Option.some Jvm.ClassFile.FieldType.boolean)) ∈ lw_all := lw_g (lw_at lw_m9 52 rfl) rfl
theorem q2125 : (Jvm.Cond.instanceMethod ({ cls := "NeverUnseenModel", name := "find", desc := "(II)I" } : Jvm.MethodName)) ∈ lw_all := lw_g (lw_at lw_m9 54 rfl) rfl
theorem q2126 : (Jvm.Cond.selects "NeverUnseenModel" ({ cls := "NeverUnseenModel", name := "find", desc := "(II)I" } : Jvm.MethodName) ({ cls := "NeverUnseenModel", name := "find", desc := "(II)I" } : Jvm.MethodName)) ∈ lw_all := lw_g (lw_at lw_m9 55 rfl) rfl
theorem q2127 : (Jvm.Cond.code ({ cls := "NeverUnseenModel", name := "find", desc := "(II)I" } : Jvm.MethodName) prog_15_method_98_code (5 : Nat) (Option.some Jvm.ClassFile.FieldType.int)) ∈ lw_all := lw_g (lw_at lw_m9 56 rfl) rfl
theorem q2128 : (Jvm.Cond.methodLink "NeverUnseenModel" (519 : Nat) ({ cls := "NeverUnseenModel", name := "seenBy", desc := "(II)I" } : Jvm.MethodName)) ∈ lw_all := lw_g (lw_at lw_m9 57 rfl) rfl
theorem q2129 : (Jvm.Cond.privateMethod ({ cls := "NeverUnseenModel", name := "seenBy", desc := "(II)I" } : Jvm.MethodName)) ∈ lw_tbl := lw_at lw_m9 58 rfl
theorem q2130 : (Jvm.Cond.instanceMethod ({ cls := "NeverUnseenModel", name := "seenBy", desc := "(II)I" } : Jvm.MethodName)) ∈ lw_all := lw_g (lw_at lw_m9 59 rfl) rfl
theorem q2131 : (Jvm.Cond.code ({ cls := "NeverUnseenModel", name := "seenBy", desc := "(II)I" } : Jvm.MethodName) prog_15_method_97_code (5 : Nat) (Option.some Jvm.ClassFile.FieldType.int)) ∈ lw_all := lw_g (lw_at lw_m9 60 rfl) rfl
theorem q2132 : (Jvm.Cond.methodLink "NeverUnseenModel" (522 : Nat) ({ cls := "NeverUnseenModel", name := "looksOn", desc := "(II)V" } : Jvm.MethodName)) ∈ lw_all := lw_g (lw_at lw_m9 61 rfl) rfl
theorem q2133 : (Jvm.Cond.privateMethod ({ cls := "NeverUnseenModel", name := "looksOn", desc := "(II)V" } : Jvm.MethodName)) ∈ lw_tbl := lw_at lw_m9 62 rfl
theorem q2134 : (Jvm.Cond.instanceMethod ({ cls := "NeverUnseenModel", name := "looksOn", desc := "(II)V" } : Jvm.MethodName)) ∈ lw_all := lw_g (lw_at lw_m9 63 rfl) rfl
theorem q2135 : (Jvm.Cond.code ({ cls := "NeverUnseenModel", name := "looksOn", desc := "(II)V" } : Jvm.MethodName) prog_15_method_99_code (8 : Nat) (Option.none : Option Jvm.ClassFile.FieldType)) ∈ lw_all := lw_g (lw_at lw_m9 64 rfl) rfl
theorem q2137 : (Jvm.Cond.instanceMethod ({ cls := "NeverUnseenModel", name := "sleepers", desc := "(I)I" } : Jvm.MethodName)) ∈ lw_all := lw_g (lw_at lw_m9 66 rfl) rfl
theorem q2138 : (Jvm.Cond.selects "NeverUnseenModel" ({ cls := "NeverUnseenModel", name := "sleepers", desc := "(I)I" } : Jvm.MethodName) ({ cls := "NeverUnseenModel", name := "sleepers", desc := "(I)I" } : Jvm.MethodName)) ∈ lw_all := lw_g (lw_at lw_m9 67 rfl) rfl
theorem q2139 : (Jvm.Cond.code ({ cls := "NeverUnseenModel", name := "sleepers", desc := "(I)I" } : Jvm.MethodName) prog_15_method_100_code (5 : Nat) (Option.some Jvm.ClassFile.FieldType.int)) ∈ lw_all := lw_g (lw_at lw_m9 68 rfl) rfl
theorem q2141 : (Jvm.Cond.instanceMethod ({ cls := "NeverUnseenModel", name := "alone", desc := "(I)I" } : Jvm.MethodName)) ∈ lw_all := lw_g (lw_at lw_m9 70 rfl) rfl
theorem q2142 : (Jvm.Cond.selects "NeverUnseenModel" ({ cls := "NeverUnseenModel", name := "alone", desc := "(I)I" } : Jvm.MethodName) ({ cls := "NeverUnseenModel", name := "alone", desc := "(I)I" } : Jvm.MethodName)) ∈ lw_all := lw_g (lw_at lw_m9 71 rfl) rfl
theorem q2143 : (Jvm.Cond.code ({ cls := "NeverUnseenModel", name := "alone", desc := "(I)I" } : Jvm.MethodName) prog_15_method_103_code (4 : Nat) (Option.some Jvm.ClassFile.FieldType.int)) ∈ lw_all := lw_g (lw_at lw_m9 72 rfl) rfl
theorem q2144 : (Jvm.Cond.methodLink "NeverUnseenModel" (528 : Nat) ({ cls := "NeverUnseenModel", name := "glassOf", desc := "(I)I" } : Jvm.MethodName)) ∈ lw_all := lw_g (lw_at lw_m9 73 rfl) rfl
theorem q2145 : (Jvm.Cond.privateMethod ({ cls := "NeverUnseenModel", name := "glassOf", desc := "(I)I" } : Jvm.MethodName)) ∈ lw_tbl := lw_at lw_m9 74 rfl
theorem q2146 : (Jvm.Cond.instanceMethod ({ cls := "NeverUnseenModel", name := "glassOf", desc := "(I)I" } : Jvm.MethodName)) ∈ lw_all := lw_g (lw_at lw_m9 75 rfl) rfl
theorem q2147 : (Jvm.Cond.code ({ cls := "NeverUnseenModel", name := "glassOf", desc := "(I)I" } : Jvm.MethodName) prog_15_method_102_code (4 : Nat) (Option.some Jvm.ClassFile.FieldType.int)) ∈ lw_all := lw_g (lw_at lw_m9 76 rfl) rfl
theorem q2148 : (Jvm.Cond.methodLink "NeverUnseenModel" (525 : Nat) ({ cls := "NeverUnseenModel", name := "isKept", desc := "(III)Z" } : Jvm.MethodName)) ∈ lw_all := lw_g (lw_at lw_m9 77 rfl) rfl
theorem q2149 : (Jvm.Cond.privateMethod ({ cls := "NeverUnseenModel", name := "isKept", desc := "(III)Z" } : Jvm.MethodName)) ∈ lw_tbl := lw_at lw_m9 78 rfl
theorem q2150 : (Jvm.Cond.instanceMethod ({ cls := "NeverUnseenModel", name := "isKept", desc := "(III)Z" } : Jvm.MethodName)) ∈ lw_all := lw_g (lw_at lw_m9 79 rfl) rfl
theorem q2151 : (Jvm.Cond.code ({ cls := "NeverUnseenModel", name := "isKept", desc := "(III)Z" } : Jvm.MethodName) prog_15_method_101_code (5 : Nat) (Option.some Jvm.ClassFile.FieldType.boolean)) ∈ lw_all := lw_g (lw_at lw_m9 80 rfl) rfl
theorem q2153 : (Jvm.Cond.instanceMethod ({ cls := "NeverUnseenModel", name := "glass", desc := "(I)I" } : Jvm.MethodName)) ∈ lw_all := lw_g (lw_at lw_m9 82 rfl) rfl
theorem q2154 : (Jvm.Cond.selects "NeverUnseenModel" ({ cls := "NeverUnseenModel", name := "glass", desc := "(I)I" } : Jvm.MethodName) ({ cls := "NeverUnseenModel", name := "glass", desc := "(I)I" } : Jvm.MethodName)) ∈ lw_all := lw_g (lw_at lw_m9 83 rfl) rfl
theorem q2155 : (Jvm.Cond.code ({ cls := "NeverUnseenModel", name := "glass", desc := "(I)I" } : Jvm.MethodName) prog_15_method_104_code (2 : Nat) (Option.some Jvm.ClassFile.FieldType.int)) ∈ lw_all := lw_g (lw_at lw_m9 84 rfl) rfl
theorem q2157 : (Jvm.Cond.instanceMethod ({ cls := "NeverUnseenModel", name := "pairs", desc := "(I)I" } : Jvm.MethodName)) ∈ lw_all := lw_g (lw_at lw_m9 86 rfl) rfl
theorem q2158 : (Jvm.Cond.selects "NeverUnseenModel" ({ cls := "NeverUnseenModel", name := "pairs", desc := "(I)I" } : Jvm.MethodName) ({ cls := "NeverUnseenModel", name := "pairs", desc := "(I)I" } : Jvm.MethodName)) ∈ lw_all := lw_g (lw_at lw_m9 87 rfl) rfl
theorem q2159 : (Jvm.Cond.code ({ cls := "NeverUnseenModel", name := "pairs", desc := "(I)I" } : Jvm.MethodName) prog_15_method_108_code (3 : Nat) (Option.some Jvm.ClassFile.FieldType.int)) ∈ lw_all := lw_g (lw_at lw_m9 88 rfl) rfl
theorem q2160 : (Jvm.Cond.methodLink "NeverUnseenModel" (531 : Nat) ({ cls := "NeverUnseenModel", name := "pairsIn", desc := "(I)I" } : Jvm.MethodName)) ∈ lw_all := lw_g (lw_at lw_m9 89 rfl) rfl
theorem q2161 : (Jvm.Cond.privateMethod ({ cls := "NeverUnseenModel", name := "pairsIn", desc := "(I)I" } : Jvm.MethodName)) ∈ lw_tbl := lw_at lw_m9 90 rfl
theorem q2162 : (Jvm.Cond.instanceMethod ({ cls := "NeverUnseenModel", name := "pairsIn", desc := "(I)I" } : Jvm.MethodName)) ∈ lw_all := lw_g (lw_at lw_m9 91 rfl) rfl
theorem q2163 : (Jvm.Cond.code ({ cls := "NeverUnseenModel", name := "pairsIn", desc := "(I)I" } : Jvm.MethodName) prog_15_method_105_code (4 : Nat) (Option.some Jvm.ClassFile.FieldType.int)) ∈ lw_all := lw_g (lw_at lw_m9 92 rfl) rfl
theorem q2165 : (Jvm.Cond.instanceMethod ({ cls := "NeverUnseenModel", name := "window", desc := "(I)I" } : Jvm.MethodName)) ∈ lw_all := lw_g (lw_at lw_m9 94 rfl) rfl
theorem q2166 : (Jvm.Cond.selects "NeverUnseenModel" ({ cls := "NeverUnseenModel", name := "window", desc := "(I)I" } : Jvm.MethodName) ({ cls := "NeverUnseenModel", name := "window", desc := "(I)I" } : Jvm.MethodName)) ∈ lw_all := lw_g (lw_at lw_m9 95 rfl) rfl
theorem q2167 : (Jvm.Cond.code ({ cls := "NeverUnseenModel", name := "window", desc := "(I)I" } : Jvm.MethodName) prog_15_method_110_code (3 : Nat) (Option.some Jvm.ClassFile.FieldType.int)) ∈ lw_all := lw_g (lw_at lw_m9 96 rfl) rfl
theorem q2168 : (Jvm.Cond.methodLink "NeverUnseenModel" (537 : Nat) ({ cls := "NeverUnseenModel", name := "refusesWindow", desc := "(I)I" } : Jvm.MethodName)) ∈ lw_all := lw_g (lw_at lw_m9 97 rfl) rfl
theorem q2169 : (Jvm.Cond.privateMethod ({ cls := "NeverUnseenModel", name := "refusesWindow", desc := "(I)I" } : Jvm.MethodName)) ∈ lw_tbl := lw_at lw_m9 98 rfl
theorem q2170 : (Jvm.Cond.instanceMethod ({ cls := "NeverUnseenModel", name := "refusesWindow", desc := "(I)I" } : Jvm.MethodName)) ∈ lw_all := lw_g (lw_at lw_m9 99 rfl) rfl
theorem q2171 : (Jvm.Cond.code ({ cls := "NeverUnseenModel", name := "refusesWindow", desc := "(I)I" } : Jvm.MethodName) prog_15_method_109_code (3 : Nat) (Option.some Jvm.ClassFile.FieldType.int)) ∈ lw_all := lw_g (lw_at lw_m9 100 rfl) rfl
theorem q2172 : (Jvm.Cond.methodLink "NeverUnseenModel" (540 : Nat) ({ cls := "NeverUnseenModel", name := "windowIn", desc := "(I)I" } : Jvm.MethodName)) ∈ lw_all := lw_g (lw_at lw_m9 101 rfl) rfl
theorem q2173 : (Jvm.Cond.privateMethod ({ cls := "NeverUnseenModel", name := "windowIn", desc := "(I)I" } : Jvm.MethodName)) ∈ lw_tbl := lw_at lw_m9 102 rfl
theorem q2174 : (Jvm.Cond.instanceMethod ({ cls := "NeverUnseenModel", name := "windowIn", desc := "(I)I" } : Jvm.MethodName)) ∈ lw_all := lw_g (lw_at lw_m9 103 rfl) rfl
theorem q2175 : (Jvm.Cond.code ({ cls := "NeverUnseenModel", name := "windowIn", desc := "(I)I" } : Jvm.MethodName) prog_15_method_107_code (4 : Nat) (Option.some Jvm.ClassFile.FieldType.int)) ∈ lw_all := lw_g (lw_at lw_m9 104 rfl) rfl
theorem q2176 : (Jvm.Cond.methodLink "NeverUnseenModel" (534 : Nat) ({ cls := "NeverUnseenModel", name := "pairsWithout", desc := "(II)I" } : Jvm.MethodName)) ∈ lw_all := lw_g (lw_at lw_m9 105 rfl) rfl
theorem q2177 : (Jvm.Cond.privateMethod ({ cls := "NeverUnseenModel", name := "pairsWithout", desc := "(II)I" } : Jvm.MethodName)) ∈ lw_tbl := lw_at lw_m9 106 rfl
theorem q2178 : (Jvm.Cond.instanceMethod ({ cls := "NeverUnseenModel", name := "pairsWithout", desc := "(II)I" } : Jvm.MethodName)) ∈ lw_all := lw_g (lw_at lw_m9 107 rfl) rfl
theorem q2179 : (Jvm.Cond.code ({ cls := "NeverUnseenModel", name := "pairsWithout", desc := "(II)I" } : Jvm.MethodName) prog_15_method_106_code (4 : Nat) (Option.some Jvm.ClassFile.FieldType.int)) ∈ lw_all := lw_g (lw_at lw_m9 108 rfl) rfl
theorem q2181 : (Jvm.Cond.instanceMethod ({ cls := "NeverUnseenModel", name := "frees", desc := "(I)I" } : Jvm.MethodName)) ∈ lw_all := lw_g (lw_at lw_m9 110 rfl) rfl
theorem q2182 : (Jvm.Cond.selects "NeverUnseenModel" ({ cls := "NeverUnseenModel", name := "frees", desc := "(I)I" } : Jvm.MethodName) ({ cls := "NeverUnseenModel", name := "frees", desc := "(I)I" } : Jvm.MethodName)) ∈ lw_all := lw_g (lw_at lw_m9 111 rfl) rfl
theorem q2183 : (Jvm.Cond.code ({ cls := "NeverUnseenModel", name := "frees", desc := "(I)I" } : Jvm.MethodName) prog_15_method_111_code (3 : Nat) (Option.some Jvm.ClassFile.FieldType.int)) ∈ lw_all := lw_g (lw_at lw_m9 112 rfl) rfl
theorem q2185 : (Jvm.Cond.instanceMethod ({ cls := "NeverUnseenModel", name := "tower", desc := "(II)I" } : Jvm.MethodName)) ∈ lw_all := lw_g (lw_at lw_m9 114 rfl) rfl
theorem q2186 : (Jvm.Cond.selects "NeverUnseenModel" ({ cls := "NeverUnseenModel", name := "tower", desc := "(II)I" } : Jvm.MethodName) ({ cls := "NeverUnseenModel", name := "tower", desc := "(II)I" } : Jvm.MethodName)) ∈ lw_all := lw_g (lw_at lw_m9 115 rfl) rfl
theorem q2187 : (Jvm.Cond.code ({ cls := "NeverUnseenModel", name := "tower", desc := "(II)I" } : Jvm.MethodName) prog_15_method_113_code (5 : Nat) (Option.some Jvm.ClassFile.FieldType.int)) ∈ lw_all := lw_g (lw_at lw_m9 116 rfl) rfl
theorem q2188 : (Jvm.Cond.methodLink "NeverUnseenModel" (543 : Nat) ({ cls := "NeverUnseenModel", name := "plainTo", desc := "(II)I" } : Jvm.MethodName)) ∈ lw_all := lw_g (lw_at lw_m9 117 rfl) rfl
theorem q2189 : (Jvm.Cond.privateMethod ({ cls := "NeverUnseenModel", name := "plainTo", desc := "(II)I" } : Jvm.MethodName)) ∈ lw_tbl := lw_at lw_m9 118 rfl
theorem q2190 : (Jvm.Cond.instanceMethod ({ cls := "NeverUnseenModel", name := "plainTo", desc := "(II)I" } : Jvm.MethodName)) ∈ lw_all := lw_g (lw_at lw_m9 119 rfl) rfl
theorem q2191 : (Jvm.Cond.code ({ cls := "NeverUnseenModel", name := "plainTo", desc := "(II)I" } : Jvm.MethodName) prog_15_method_112_code (5 : Nat) (Option.some Jvm.ClassFile.FieldType.int)) ∈ lw_all := lw_g (lw_at lw_m9 120 rfl) rfl
theorem q2193 : (Jvm.Cond.instanceMethod ({ cls := "NeverUnseenModel", name := "made", desc := "(II)I" } : Jvm.MethodName)) ∈ lw_all := lw_g (lw_at lw_m9 122 rfl) rfl
theorem q2194 : (Jvm.Cond.selects "NeverUnseenModel" ({ cls := "NeverUnseenModel", name := "made", desc := "(II)I" } : Jvm.MethodName) ({ cls := "NeverUnseenModel", name := "made", desc := "(II)I" } : Jvm.MethodName)) ∈ lw_all := lw_g (lw_at lw_m9 123 rfl) rfl
theorem q2195 : (Jvm.Cond.code ({ cls := "NeverUnseenModel", name := "made", desc := "(II)I" } : Jvm.MethodName) prog_15_method_117_code (4 : Nat) (Option.some Jvm.ClassFile.FieldType.int)) ∈ lw_all := lw_g (lw_at lw_m9 124 rfl) rfl
theorem q2196 : (Jvm.Cond.methodLink "NeverUnseenModel" (552 : Nat) ({ cls := "NeverUnseenModel", name := "refusesMade", desc := "(II)I" } : Jvm.MethodName)) ∈ lw_all := lw_g (lw_at lw_m9 125 rfl) rfl
theorem q2197 : (Jvm.Cond.privateMethod ({ cls := "NeverUnseenModel", name := "refusesMade", desc := "(II)I" } : Jvm.MethodName)) ∈ lw_tbl := lw_at lw_m9 126 rfl
theorem q2198 : (Jvm.Cond.instanceMethod ({ cls := "NeverUnseenModel", name := "refusesMade", desc := "(II)I" } : Jvm.MethodName)) ∈ lw_all := lw_g (lw_at lw_m9 127 rfl) rfl
theorem q2199 : (Jvm.Cond.code ({ cls := "NeverUnseenModel", name := "refusesMade", desc := "(II)I" } : Jvm.MethodName) prog_15_method_115_code (3 : Nat) (Option.some Jvm.ClassFile.FieldType.int)) ∈ lw_all := lw_g (lw_at lw_m9 128 rfl) rfl
theorem q2200 : (Jvm.Cond.methodLink "NeverUnseenModel" (555 : Nat) ({ cls := "NeverUnseenModel", name := "madeOf", desc := "(II)I" } : Jvm.MethodName)) ∈ lw_all := lw_g (lw_at lw_m9 129 rfl) rfl
theorem q2201 : (Jvm.Cond.privateMethod ({ cls := "NeverUnseenModel", name := "madeOf", desc := "(II)I" } : Jvm.MethodName)) ∈ lw_tbl := lw_at lw_m9 130 rfl
theorem q2202 : (Jvm.Cond.instanceMethod ({ cls := "NeverUnseenModel", name := "madeOf", desc := "(II)I" } : Jvm.MethodName)) ∈ lw_all := lw_g (lw_at lw_m9 131 rfl) rfl
theorem q2203 : (Jvm.Cond.code ({ cls := "NeverUnseenModel", name := "madeOf", desc := "(II)I" } : Jvm.MethodName) prog_15_method_116_code (6 : Nat) (Option.some Jvm.ClassFile.FieldType.int)) ∈ lw_all := lw_g (lw_at lw_m9 132 rfl) rfl
theorem q2204 : (Jvm.Cond.methodLink "NeverUnseenModel" (549 : Nat) ({ cls := "NeverUnseenModel", name := "postsWithout", desc := "(II)I" } : Jvm.MethodName)) ∈ lw_all := lw_g (lw_at lw_m9 133 rfl) rfl
theorem q2205 : (Jvm.Cond.privateMethod ({ cls := "NeverUnseenModel", name := "postsWithout", desc := "(II)I" } : Jvm.MethodName)) ∈ lw_tbl := lw_at lw_m9 134 rfl
theorem q2206 : (Jvm.Cond.instanceMethod ({ cls := "NeverUnseenModel", name := "postsWithout", desc := "(II)I" } : Jvm.MethodName)) ∈ lw_all := lw_g (lw_at lw_m9 135 rfl) rfl
theorem q2207 : (Jvm.Cond.code ({ cls := "NeverUnseenModel", name := "postsWithout", desc := "(II)I" } : Jvm.MethodName) prog_15_method_114_code (4 : Nat) (Option.some Jvm.ClassFile.FieldType.int)) ∈ lw_all := lw_g (lw_at lw_m9 136 rfl) rfl
theorem q2209 : (Jvm.Cond.instanceMethod ({ cls := "NeverUnseenModel", name := "needs", desc := "(II)I" } : Jvm.MethodName)) ∈ lw_all := lw_g (lw_at lw_m9 138 rfl) rfl
theorem q2210 : (Jvm.Cond.selects "NeverUnseenModel" ({ cls := "NeverUnseenModel", name := "needs", desc := "(II)I" } : Jvm.MethodName) ({ cls := "NeverUnseenModel", name := "needs", desc := "(II)I" } : Jvm.MethodName)) ∈ lw_all := lw_g (lw_at lw_m9 139 rfl) rfl
theorem q2211 : (Jvm.Cond.code ({ cls := "NeverUnseenModel", name := "needs", desc := "(II)I" } : Jvm.MethodName) prog_15_method_118_code (4 : Nat) (Option.some Jvm.ClassFile.FieldType.int)) ∈ lw_all := lw_g (lw_at lw_m9 140 rfl) rfl
theorem q2213 : (Jvm.Cond.instanceMethod ({ cls := "NeverUnseenModel", name := "fog", desc := "()J" } : Jvm.MethodName)) ∈ lw_all := lw_g (lw_at lw_m9 142 rfl) rfl
theorem q2214 : (Jvm.Cond.selects "NeverUnseenModel" ({ cls := "NeverUnseenModel", name := "fog", desc := "()J" } : Jvm.MethodName) ({ cls := "NeverUnseenModel", name := "fog", desc := "()J" } : Jvm.MethodName)) ∈ lw_all := lw_g (lw_at lw_m9 143 rfl) rfl
theorem q2215 : (Jvm.Cond.code ({ cls := "NeverUnseenModel", name := "fog", desc := "()J" } : Jvm.MethodName) prog_15_method_120_code (7 : Nat) (Option.some Jvm.ClassFile.FieldType.long)) ∈ lw_all := lw_g (lw_at lw_m9 144 rfl) rfl
theorem q2216 : (Jvm.Cond.methodLink "NeverUnseenModel" (558 : Nat) ({ cls := "NeverUnseenModel", name := "isLawfulIn", desc := "(I)Z" } : Jvm.MethodName)) ∈ lw_all := lw_g (lw_at lw_m9 145 rfl) rfl
theorem q2217 : (Jvm.Cond.privateMethod ({ cls := "NeverUnseenModel", name := "isLawfulIn", desc := "(I)Z" } : Jvm.MethodName)) ∈ lw_tbl := lw_at lw_m9 146 rfl
theorem q2218 : (Jvm.Cond.instanceMethod ({ cls := "NeverUnseenModel", name := "isLawfulIn", desc := "(I)Z" } : Jvm.MethodName)) ∈ lw_all := lw_g (lw_at lw_m9 147 rfl) rfl
theorem q2219 : (Jvm.Cond.code ({ cls := "NeverUnseenModel", name := "isLawfulIn", desc := "(I)Z" } : Jvm.MethodName) prog_15_method_119_code (3 : Nat) (Option.some Jvm.ClassFile.FieldType.boolean)) ∈ lw_all := lw_g (lw_at lw_m9 148 rfl) rfl
theorem q2221 : (Jvm.Cond.instanceMethod ({ cls := "NeverUnseenModel", name := "ready", desc := "()I" } : Jvm.MethodName)) ∈ lw_all := lw_g (lw_at lw_m9 150 rfl) rfl
theorem q2222 : (Jvm.Cond.selects "NeverUnseenModel" ({ cls := "NeverUnseenModel", name := "ready", desc := "()I" } : Jvm.MethodName) ({ cls := "NeverUnseenModel", name := "ready", desc := "()I" } : Jvm.MethodName)) ∈ lw_all := lw_g (lw_at lw_m9 151 rfl) rfl
theorem q2223 : (Jvm.Cond.code ({ cls := "NeverUnseenModel", name := "ready", desc := "()I" } : Jvm.MethodName) prog_15_method_121_code (3 : Nat) (Option.some Jvm.ClassFile.FieldType.int)) ∈ lw_all := lw_g (lw_at lw_m9 152 rfl) rfl
theorem q2225 : (Jvm.Cond.instanceMethod ({ cls := "NeverUnseenModel", name := "seed", desc := "(I)Z" } : Jvm.MethodName)) ∈ lw_all := lw_g (lw_at lw_m9 154 rfl) rfl
theorem q2226 : (Jvm.Cond.selects "NeverUnseenModel" ({ cls := "NeverUnseenModel", name := "seed", desc := "(I)Z" } : Jvm.MethodName) ({ cls := "NeverUnseenModel", name := "seed", desc := "(I)Z" } : Jvm.MethodName)) ∈ lw_all := lw_g (lw_at lw_m9 155 rfl) rfl
theorem q2227 : (Jvm.Cond.code ({ cls := "NeverUnseenModel", name := "seed", desc := "(I)Z" } : Jvm.MethodName) prog_15_method_122_code (2 : Nat) (Option.some Jvm.ClassFile.FieldType.boolean)) ∈ lw_all := lw_g (lw_at lw_m9 156 rfl) rfl
theorem q2228 : (Jvm.Cond.constant "NeverUnseenModel" (561 : Nat) (65536 : Int32)) ∈ lw_all := lw_g (lw_at lw_m9 157 rfl) rfl
theorem q2230 : (Jvm.Cond.instanceMethod ({ cls := "NeverUnseenModel", name := "drift", desc := "()I" } : Jvm.MethodName)) ∈ lw_all := lw_g (lw_at lw_m9 159 rfl) rfl
theorem q2231 : (Jvm.Cond.selects "NeverUnseenModel" ({ cls := "NeverUnseenModel", name := "drift", desc := "()I" } : Jvm.MethodName) ({ cls := "NeverUnseenModel", name := "drift", desc := "()I" } : Jvm.MethodName)) ∈ lw_all := lw_g (lw_at lw_m9 160 rfl) rfl
theorem q2232 : (Jvm.Cond.code ({ cls := "NeverUnseenModel", name := "drift", desc := "()I" } : Jvm.MethodName) prog_15_method_124_code (8 : Nat) (Option.some Jvm.ClassFile.FieldType.int)) ∈ lw_all := lw_g (lw_at lw_m9 161 rfl) rfl
theorem q2233 : (Jvm.Cond.methodLink "NeverUnseenModel" (568 : Nat) ({ cls := "NeverUnseenModel", name := "drawn", desc := "(I)I" } : Jvm.MethodName)) ∈ lw_all := lw_g (lw_at lw_m9 162 rfl) rfl
theorem q2234 : (Jvm.Cond.privateMethod ({ cls := "NeverUnseenModel", name := "drawn", desc := "(I)I" } : Jvm.MethodName)) ∈ lw_tbl := lw_at lw_m9 163 rfl
theorem q2235 : (Jvm.Cond.instanceMethod ({ cls := "NeverUnseenModel", name := "drawn", desc := "(I)I" } : Jvm.MethodName)) ∈ lw_all := lw_g (lw_at lw_m9 164 rfl) rfl
theorem q2236 : (Jvm.Cond.code ({ cls := "NeverUnseenModel", name := "drawn", desc := "(I)I" } : Jvm.MethodName) prog_15_method_123_code (2 : Nat) (Option.some Jvm.ClassFile.FieldType.int)) ∈ lw_all := lw_g (lw_at lw_m9 165 rfl) rfl
theorem q2237 : (Jvm.Cond.constantLong "NeverUnseenModel" (562 : Nat) (75 : Int64)) ∈ lw_all := lw_g (lw_at lw_m9 166 rfl) rfl
theorem q2238 : (Jvm.Cond.constantLong "NeverUnseenModel" (564 : Nat) (74 : Int64)) ∈ lw_all := lw_g (lw_at lw_m9 167 rfl) rfl
theorem q2239 : (Jvm.Cond.constantLong "NeverUnseenModel" (566 : Nat) (65537 : Int64)) ∈ lw_all := lw_g (lw_at lw_m9 168 rfl) rfl
theorem q2241 : (Jvm.Cond.instanceMethod ({ cls := "NeverUnseenModel", name := "image", desc := "()J" } : Jvm.MethodName)) ∈ lw_all := lw_g (lw_at lw_m9 170 rfl) rfl
theorem q2242 : (Jvm.Cond.selects "NeverUnseenModel" ({ cls := "NeverUnseenModel", name := "image", desc := "()J" } : Jvm.MethodName) ({ cls := "NeverUnseenModel", name := "image", desc := "()J" } : Jvm.MethodName)) ∈ lw_all := lw_g (lw_at lw_m9 171 rfl) rfl
theorem q2243 : (Jvm.Cond.code ({ cls := "NeverUnseenModel", name := "image", desc := "()J" } : Jvm.MethodName) prog_15_method_125_code (4 : Nat) (Option.some Jvm.ClassFile.FieldType.long)) ∈ lw_all := lw_g (lw_at lw_m9 172 rfl) rfl
theorem q2244 : (Jvm.Cond.constantLong "NeverUnseenModel" (571 : Nat) (100 : Int64)) ∈ lw_all := lw_g (lw_at lw_m9 173 rfl) rfl
theorem q2245 : (Jvm.Cond.constantLong "NeverUnseenModel" (573 : Nat) (10 : Int64)) ∈ lw_all := lw_g (lw_at lw_m9 174 rfl) rfl
theorem q2247 : (Jvm.Cond.instanceMethod ({ cls := "NeverUnseenModel", name := "restore", desc := "(J)Z" } : Jvm.MethodName)) ∈ lw_all := lw_g (lw_at lw_m9 176 rfl) rfl
theorem q2248 : (Jvm.Cond.selects "NeverUnseenModel" ({ cls := "NeverUnseenModel", name := "restore", desc := "(J)Z" } : Jvm.MethodName) ({ cls := "NeverUnseenModel", name := "restore", desc := "(J)Z" } : Jvm.MethodName)) ∈ lw_all := lw_g (lw_at lw_m9 177 rfl) rfl
theorem q2249 : (Jvm.Cond.code ({ cls := "NeverUnseenModel", name := "restore", desc := "(J)Z" } : Jvm.MethodName) prog_15_method_126_code (7 : Nat) (Option.some Jvm.ClassFile.FieldType.boolean)) ∈ lw_all := lw_g (lw_at lw_m9 178 rfl) rfl
theorem q2251 : (Jvm.Cond.instanceMethod ({ cls := "NeverUnseenModel", name := "led", desc := "(I)I" } : Jvm.MethodName)) ∈ lw_all := lw_g (lw_at lw_m9 180 rfl) rfl
theorem q2252 : (Jvm.Cond.selects "NeverUnseenModel" ({ cls := "NeverUnseenModel", name := "led", desc := "(I)I" } : Jvm.MethodName) ({ cls := "NeverUnseenModel", name := "led", desc := "(I)I" } : Jvm.MethodName)) ∈ lw_all := lw_g (lw_at lw_m9 181 rfl) rfl
theorem q2253 : (Jvm.Cond.code ({ cls := "NeverUnseenModel", name := "led", desc := "(I)I" } : Jvm.MethodName) prog_15_method_127_code (4 : Nat) (Option.some Jvm.ClassFile.FieldType.int)) ∈ lw_all := lw_g (lw_at lw_m9 182 rfl) rfl
theorem q2255 : (Jvm.Cond.instanceMethod ({ cls := "NeverUnseenModel", name := "size", desc := "(I)I" } : Jvm.MethodName)) ∈ lw_all := lw_g (lw_at lw_m9 184 rfl) rfl
theorem q2256 : (Jvm.Cond.selects "NeverUnseenModel" ({ cls := "NeverUnseenModel", name := "size", desc := "(I)I" } : Jvm.MethodName) ({ cls := "NeverUnseenModel", name := "size", desc := "(I)I" } : Jvm.MethodName)) ∈ lw_all := lw_g (lw_at lw_m9 185 rfl) rfl
theorem q2257 : (Jvm.Cond.code ({ cls := "NeverUnseenModel", name := "size", desc := "(I)I" } : Jvm.MethodName) prog_15_method_128_code (2 : Nat) (Option.some Jvm.ClassFile.FieldType.int)) ∈ lw_all := lw_g (lw_at lw_m9 186 rfl) rfl
theorem q2259 : (Jvm.Cond.instanceMethod ({ cls := "NeverUnseenModel", name := "trouble", desc := "()I" } : Jvm.MethodName)) ∈ lw_all := lw_g (lw_at lw_m9 188 rfl) rfl
theorem q2260 : (Jvm.Cond.selects "NeverUnseenModel" ({ cls := "NeverUnseenModel", name := "trouble", desc := "()I" } : Jvm.MethodName) ({ cls := "NeverUnseenModel", name := "trouble", desc := "()I" } : Jvm.MethodName)) ∈ lw_all := lw_g (lw_at lw_m9 189 rfl) rfl
theorem q2261 : (Jvm.Cond.code ({ cls := "NeverUnseenModel", name := "trouble", desc := "()I" } : Jvm.MethodName) prog_15_method_129_code (1 : Nat) (Option.some Jvm.ClassFile.FieldType.int)) ∈ lw_all := lw_g (lw_at lw_m9 190 rfl) rfl
theorem q2268 : (Jvm.Cond.castable "NeverUnseenModel" "java/lang/Object") ∈ lw_tbl := lw_at lw_m9 197 rfl
theorem in_X5 : ∀ w ∈ wsX50, w ∈ lw_all := lw_in wsX50 [1466, 1468, 1470, 1472, 1474, 1476, 1478, 1480, 1482, 1484, 1486, 1488, 1490, 1492, 1494, 1496, 1498, 1500, 1502, 1504, 1506, 1508, 1510, 1512, 1514, 1516, 1518, 1520, 1522, 1524, 1526, 1528, 1530, 1532, 1534, 1536, 1538, 1540] (by decide +kernel) (by decide +kernel)
