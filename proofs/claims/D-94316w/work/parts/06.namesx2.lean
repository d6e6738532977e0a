/-! NeverUnseen$Reader -/
set_option maxRecDepth 100000
def RX2 : String := "NeverUnseen$Reader"
def TX2 : u_T := fun k => match k with
  | 0 => ("NeverUnseen$Reader", "wrong", "LNeverUnseen$Refused;", true)
  | 1 => ("NeverUnseen$Reader", "text", "[B", true)
  | 2 => ("NeverUnseen$Reader", "letters", "[C", true)
  | 3 => ("NeverUnseen$Reader", "size", "I", false)
  | 4 => ("NeverUnseen$Reader", "end", "I", false)
  | 5 => ("NeverUnseen$Reader", "token", "I", false)
  | 6 => ("NeverUnseen$Reader", "at", "I", false)
  | 7 => ("NeverUnseen$Reader", "whole", "I", false)
  | 8 => ("NeverUnseen$Reader", "word", "Ljava/lang/String;", false)
  | _ => ("NeverUnseen$Reader", "valley", "LNeverUnseen$Valley;", false)
def tyX2 : Nat → FieldType := fun k => match k with
  | 0 => .object "NeverUnseen$Refused"
  | 1 => .array .byte
  | 2 => .array .char
  | 3 => .int
  | 4 => .int
  | 5 => .int
  | 6 => .int
  | 7 => .int
  | 8 => .object "java/lang/String"
  | _ => .object "NeverUnseen$Valley"
abbrev wsX20 : List Cond := u_ws RX2 TX2 10
theorem nmX2 : ∀ a, a < 10 → ∀ b, b < 10 → a ≠ b → (TX2 a).2.1 ≠ (TX2 b).2.1 := by decide +kernel
theorem tyX2_ok : ∀ k, k < 10 → parseFieldDescriptor (TX2 k).2.2.1 = some (tyX2 k) := by decide +kernel
abbrev cX2_init : ByteArray := prog_9_method_1_code
def yX2_init : MethodName := ⟨RX2, "<init>", "([B)V"⟩
def dkwX2_init_1 : List UInt8 := [43, 181, 0, 22, 177]
abbrev dktX2_init_1 : List UInt8 := dkwX2_init_1 ++ []
def dkwX2_init_0 : List UInt8 := [42, 183, 0, 3, 42, 187, 0, 9, 89, 183, 0, 11, 181, 0, 12, 42, 16, 8, 188, 5, 181, 0, 18, 42]
abbrev dktX2_init_0 : List UInt8 := dkwX2_init_0 ++ dktX2_init_1
theorem dksX2_init_0 : cX2_init.data.toList.drop 0 = dktX2_init_0 := by decide +kernel
theorem dksX2_init_1 : cX2_init.data.toList.drop 24 = dktX2_init_1 := dk_seg dksX2_init_0 24 rfl rfl
theorem dX2_init_0 : decode cX2_init 0 = .ok (.aload_n 0, 1) := dk_42 (dk_at dksX2_init_0 0 rfl rfl)
theorem dX2_init_1 : decode cX2_init 1 = .ok (.invokespecial 3, 3) := dk_183 0 3 (dk_at dksX2_init_0 1 rfl rfl)
theorem dX2_init_4 : decode cX2_init 4 = .ok (.aload_n 0, 1) := dk_42 (dk_at dksX2_init_0 4 rfl rfl)
theorem dX2_init_5 : decode cX2_init 5 = .ok (.new 9, 3) := dk_187 0 9 (dk_at dksX2_init_0 5 rfl rfl)
theorem dX2_init_8 : decode cX2_init 8 = .ok (.dup, 1) := dk_89 (dk_at dksX2_init_0 8 rfl rfl)
theorem dX2_init_9 : decode cX2_init 9 = .ok (.invokespecial 11, 3) := dk_183 0 11 (dk_at dksX2_init_0 9 rfl rfl)
theorem dX2_init_12 : decode cX2_init 12 = .ok (.putfield 12, 3) := dk_181 0 12 (dk_at dksX2_init_0 12 rfl rfl)
theorem dX2_init_15 : decode cX2_init 15 = .ok (.aload_n 0, 1) := dk_42 (dk_at dksX2_init_0 15 rfl rfl)
theorem dX2_init_16 : decode cX2_init 16 = .ok (.bipush 8, 2) := dk_16 8 (dk_at dksX2_init_0 16 rfl rfl)
theorem dX2_init_18 : decode cX2_init 18 = .ok (.newarray .char, 2) := dk_188_5 (dk_at dksX2_init_0 18 rfl rfl)
theorem dX2_init_20 : decode cX2_init 20 = .ok (.putfield 18, 3) := dk_181 0 18 (dk_at dksX2_init_0 20 rfl rfl)
theorem dX2_init_23 : decode cX2_init 23 = .ok (.aload_n 0, 1) := dk_42 (dk_at dksX2_init_0 23 rfl rfl)
theorem dX2_init_24 : decode cX2_init 24 = .ok (.aload_n 1, 1) := dk_43 (dk_at dksX2_init_1 0 rfl rfl)
theorem dX2_init_25 : decode cX2_init 25 = .ok (.putfield 22, 3) := dk_181 0 22 (dk_at dksX2_init_1 1 rfl rfl)
theorem dX2_init_28 : decode cX2_init 28 = .ok (.return_, 1) := dk_177 (dk_at dksX2_init_1 4 rfl rfl)
abbrev cX2_read : ByteArray := prog_9_method_19_code
def yX2_read : MethodName := ⟨RX2, "read", "(I)LNeverUnseen$Valley;"⟩
def dkwX2_read_4 : List UInt8 := [16, 6, 182, 0, 85, 191, 42, 180, 0, 120, 176]
abbrev dktX2_read_4 : List UInt8 := dkwX2_read_4 ++ []
def dkwX2_read_3 : List UInt8 := [153, 0, 23, 42, 180, 0, 120, 180, 0, 156, 153, 0, 13, 42, 180, 0, 120, 180, 0, 159, 154, 0, 10, 42]
abbrev dktX2_read_3 : List UInt8 := dkwX2_read_3 ++ dktX2_read_4
def dkwX2_read_2 : List UInt8 := [167, 255, 239, 42, 180, 0, 47, 153, 0, 9, 42, 4, 182, 0, 85, 191, 42, 180, 0, 120, 180, 0, 153]
abbrev dktX2_read_2 : List UInt8 := dkwX2_read_2 ++ dktX2_read_3
def dkwX2_read_1 : List UInt8 := [182, 0, 79, 42, 182, 0, 150, 42, 180, 0, 47, 16, 59, 160, 0, 14, 42, 182, 0, 79, 42, 182, 0, 150]
abbrev dktX2_read_1 : List UInt8 := dkwX2_read_1 ++ dktX2_read_2
def dkwX2_read_0 : List UInt8 := [42, 27, 181, 0, 33, 42, 3, 181, 0, 40, 42, 187, 0, 125, 89, 183, 0, 149, 181, 0, 120, 42]
abbrev dktX2_read_0 : List UInt8 := dkwX2_read_0 ++ dktX2_read_1
theorem dksX2_read_0 : cX2_read.data.toList.drop 0 = dktX2_read_0 := by decide +kernel
theorem dksX2_read_1 : cX2_read.data.toList.drop 22 = dktX2_read_1 := dk_seg dksX2_read_0 22 rfl rfl
theorem dksX2_read_2 : cX2_read.data.toList.drop 46 = dktX2_read_2 := dk_seg dksX2_read_1 24 rfl rfl
theorem dksX2_read_3 : cX2_read.data.toList.drop 69 = dktX2_read_3 := dk_seg dksX2_read_2 23 rfl rfl
theorem dksX2_read_4 : cX2_read.data.toList.drop 93 = dktX2_read_4 := dk_seg dksX2_read_3 24 rfl rfl
theorem dX2_read_0 : decode cX2_read 0 = .ok (.aload_n 0, 1) := dk_42 (dk_at dksX2_read_0 0 rfl rfl)
theorem dX2_read_1 : decode cX2_read 1 = .ok (.iload_n 1, 1) := dk_27 (dk_at dksX2_read_0 1 rfl rfl)
theorem dX2_read_2 : decode cX2_read 2 = .ok (.putfield 33, 3) := dk_181 0 33 (dk_at dksX2_read_0 2 rfl rfl)
theorem dX2_read_5 : decode cX2_read 5 = .ok (.aload_n 0, 1) := dk_42 (dk_at dksX2_read_0 5 rfl rfl)
theorem dX2_read_6 : decode cX2_read 6 = .ok (.iconst 0, 1) := dk_3 (dk_at dksX2_read_0 6 rfl rfl)
theorem dX2_read_7 : decode cX2_read 7 = .ok (.putfield 40, 3) := dk_181 0 40 (dk_at dksX2_read_0 7 rfl rfl)
theorem dX2_read_10 : decode cX2_read 10 = .ok (.aload_n 0, 1) := dk_42 (dk_at dksX2_read_0 10 rfl rfl)
theorem dX2_read_11 : decode cX2_read 11 = .ok (.new 125, 3) := dk_187 0 125 (dk_at dksX2_read_0 11 rfl rfl)
theorem dX2_read_14 : decode cX2_read 14 = .ok (.dup, 1) := dk_89 (dk_at dksX2_read_0 14 rfl rfl)
theorem dX2_read_15 : decode cX2_read 15 = .ok (.invokespecial 149, 3) := dk_183 0 149 (dk_at dksX2_read_0 15 rfl rfl)
theorem dX2_read_18 : decode cX2_read 18 = .ok (.putfield 120, 3) := dk_181 0 120 (dk_at dksX2_read_0 18 rfl rfl)
theorem dX2_read_21 : decode cX2_read 21 = .ok (.aload_n 0, 1) := dk_42 (dk_at dksX2_read_0 21 rfl rfl)
theorem dX2_read_22 : decode cX2_read 22 = .ok (.invokevirtual 79, 3) := dk_182 0 79 (dk_at dksX2_read_1 0 rfl rfl)
theorem dX2_read_25 : decode cX2_read 25 = .ok (.aload_n 0, 1) := dk_42 (dk_at dksX2_read_1 3 rfl rfl)
theorem dX2_read_26 : decode cX2_read 26 = .ok (.invokevirtual 150, 3) := dk_182 0 150 (dk_at dksX2_read_1 4 rfl rfl)
theorem dX2_read_29 : decode cX2_read 29 = .ok (.aload_n 0, 1) := dk_42 (dk_at dksX2_read_1 7 rfl rfl)
theorem dX2_read_30 : decode cX2_read 30 = .ok (.getfield 47, 3) := dk_180 0 47 (dk_at dksX2_read_1 8 rfl rfl)
theorem dX2_read_33 : decode cX2_read 33 = .ok (.bipush 59, 2) := dk_16 59 (dk_at dksX2_read_1 11 rfl rfl)
theorem dX2_read_35 : decode cX2_read 35 = .ok (.if_icmp .ne 14, 3) := dk_160 0 14 (dk_at dksX2_read_1 13 rfl rfl)
theorem dX2_read_38 : decode cX2_read 38 = .ok (.aload_n 0, 1) := dk_42 (dk_at dksX2_read_1 16 rfl rfl)
theorem dX2_read_39 : decode cX2_read 39 = .ok (.invokevirtual 79, 3) := dk_182 0 79 (dk_at dksX2_read_1 17 rfl rfl)
theorem dX2_read_42 : decode cX2_read 42 = .ok (.aload_n 0, 1) := dk_42 (dk_at dksX2_read_1 20 rfl rfl)
theorem dX2_read_43 : decode cX2_read 43 = .ok (.invokevirtual 150, 3) := dk_182 0 150 (dk_at dksX2_read_1 21 rfl rfl)
theorem dX2_read_46 : decode cX2_read 46 = .ok (.goto (-17), 3) := dk_167 255 239 (dk_at dksX2_read_2 0 rfl rfl)
theorem dX2_read_49 : decode cX2_read 49 = .ok (.aload_n 0, 1) := dk_42 (dk_at dksX2_read_2 3 rfl rfl)
theorem dX2_read_50 : decode cX2_read 50 = .ok (.getfield 47, 3) := dk_180 0 47 (dk_at dksX2_read_2 4 rfl rfl)
theorem dX2_read_53 : decode cX2_read 53 = .ok (.ifCond .eq 9, 3) := dk_153 0 9 (dk_at dksX2_read_2 7 rfl rfl)
theorem dX2_read_56 : decode cX2_read 56 = .ok (.aload_n 0, 1) := dk_42 (dk_at dksX2_read_2 10 rfl rfl)
theorem dX2_read_57 : decode cX2_read 57 = .ok (.iconst 1, 1) := dk_4 (dk_at dksX2_read_2 11 rfl rfl)
theorem dX2_read_58 : decode cX2_read 58 = .ok (.invokevirtual 85, 3) := dk_182 0 85 (dk_at dksX2_read_2 12 rfl rfl)
theorem dX2_read_61 : decode cX2_read 61 = .ok (.athrow, 1) := dk_191 (dk_at dksX2_read_2 15 rfl rfl)
theorem dX2_read_62 : decode cX2_read 62 = .ok (.aload_n 0, 1) := dk_42 (dk_at dksX2_read_2 16 rfl rfl)
theorem dX2_read_63 : decode cX2_read 63 = .ok (.getfield 120, 3) := dk_180 0 120 (dk_at dksX2_read_2 17 rfl rfl)
theorem dX2_read_66 : decode cX2_read 66 = .ok (.getfield 153, 3) := dk_180 0 153 (dk_at dksX2_read_2 20 rfl rfl)
theorem dX2_read_69 : decode cX2_read 69 = .ok (.ifCond .eq 23, 3) := dk_153 0 23 (dk_at dksX2_read_3 0 rfl rfl)
theorem dX2_read_72 : decode cX2_read 72 = .ok (.aload_n 0, 1) := dk_42 (dk_at dksX2_read_3 3 rfl rfl)
theorem dX2_read_73 : decode cX2_read 73 = .ok (.getfield 120, 3) := dk_180 0 120 (dk_at dksX2_read_3 4 rfl rfl)
theorem dX2_read_76 : decode cX2_read 76 = .ok (.getfield 156, 3) := dk_180 0 156 (dk_at dksX2_read_3 7 rfl rfl)
theorem dX2_read_79 : decode cX2_read 79 = .ok (.ifCond .eq 13, 3) := dk_153 0 13 (dk_at dksX2_read_3 10 rfl rfl)
theorem dX2_read_82 : decode cX2_read 82 = .ok (.aload_n 0, 1) := dk_42 (dk_at dksX2_read_3 13 rfl rfl)
theorem dX2_read_83 : decode cX2_read 83 = .ok (.getfield 120, 3) := dk_180 0 120 (dk_at dksX2_read_3 14 rfl rfl)
theorem dX2_read_86 : decode cX2_read 86 = .ok (.getfield 159, 3) := dk_180 0 159 (dk_at dksX2_read_3 17 rfl rfl)
theorem dX2_read_89 : decode cX2_read 89 = .ok (.ifCond .ne 10, 3) := dk_154 0 10 (dk_at dksX2_read_3 20 rfl rfl)
theorem dX2_read_92 : decode cX2_read 92 = .ok (.aload_n 0, 1) := dk_42 (dk_at dksX2_read_3 23 rfl rfl)
theorem dX2_read_93 : decode cX2_read 93 = .ok (.bipush 6, 2) := dk_16 6 (dk_at dksX2_read_4 0 rfl rfl)
theorem dX2_read_95 : decode cX2_read 95 = .ok (.invokevirtual 85, 3) := dk_182 0 85 (dk_at dksX2_read_4 2 rfl rfl)
theorem dX2_read_98 : decode cX2_read 98 = .ok (.athrow, 1) := dk_191 (dk_at dksX2_read_4 5 rfl rfl)
theorem dX2_read_99 : decode cX2_read 99 = .ok (.aload_n 0, 1) := dk_42 (dk_at dksX2_read_4 6 rfl rfl)
theorem dX2_read_100 : decode cX2_read 100 = .ok (.getfield 120, 3) := dk_180 0 120 (dk_at dksX2_read_4 7 rfl rfl)
theorem dX2_read_103 : decode cX2_read 103 = .ok (.areturn, 1) := dk_176 (dk_at dksX2_read_4 10 rfl rfl)
abbrev cX2_next : ByteArray := prog_9_method_6_code
def yX2_next : MethodName := ⟨RX2, "next", "()V"⟩
def dkwX2_next_13 : List UInt8 := [181, 0, 47, 177]
abbrev dktX2_next_13 : List UInt8 := dkwX2_next_13 ++ []
def dkwX2_next_12 : List UInt8 := [181, 0, 47, 167, 0, 24, 42, 28, 16, 59, 159, 0, 9, 28, 16, 44, 160, 0, 7, 28, 167, 0, 4, 4]
abbrev dktX2_next_12 : List UInt8 := dkwX2_next_12 ++ dktX2_next_13
def dkwX2_next_11 : List UInt8 := [181, 0, 40, 167, 255, 199, 42, 42, 180, 0, 40, 27, 100, 6, 164, 0, 7, 4, 167, 0, 4, 6]
abbrev dktX2_next_11 : List UInt8 := dkwX2_next_11 ++ dktX2_next_12
def dkwX2_next_10 : List UInt8 := [42, 42, 180, 0, 40, 182, 0, 43, 96, 16, 48, 100, 181, 0, 68, 42, 89, 180, 0, 40, 4, 96]
abbrev dktX2_next_10 : List UInt8 := dkwX2_next_10 ++ dktX2_next_11
def dkwX2_next_9 : List UInt8 := [184, 0, 65, 153, 0, 49, 42, 180, 0, 40, 27, 100, 6, 162, 0, 26, 42, 16, 10, 42, 180, 0, 68, 104]
abbrev dktX2_next_9 : List UInt8 := dkwX2_next_9 ++ dktX2_next_10
def dkwX2_next_8 : List UInt8 := [184, 0, 65, 153, 0, 95, 42, 3, 181, 0, 68, 42, 27, 181, 0, 40, 42, 42, 180, 0, 40, 182, 0, 43]
abbrev dktX2_next_8 : List UInt8 := dkwX2_next_8 ++ dktX2_next_9
def dkwX2_next_7 : List UInt8 := [3, 42, 180, 0, 40, 27, 100, 183, 0, 56, 167, 0, 5, 18, 59, 181, 0, 61, 167, 0, 123, 28]
abbrev dktX2_next_7 : List UInt8 := dkwX2_next_7 ++ dktX2_next_8
def dkwX2_next_6 : List UInt8 := [167, 0, 4, 5, 181, 0, 47, 42, 42, 180, 0, 47, 5, 160, 0, 24, 187, 0, 54, 89, 42, 180, 0, 18]
abbrev dktX2_next_6 : List UInt8 := dkwX2_next_6 ++ dktX2_next_7
def dkwX2_next_5 : List UInt8 := [180, 0, 40, 4, 96, 181, 0, 40, 167, 255, 201, 42, 42, 180, 0, 40, 27, 100, 16, 8, 164, 0, 7, 4]
abbrev dktX2_next_5 : List UInt8 := dkwX2_next_5 ++ dktX2_next_6
def dkwX2_next_4 : List UInt8 := [42, 180, 0, 18, 42, 180, 0, 40, 27, 100, 42, 42, 180, 0, 40, 182, 0, 43, 146, 85, 42, 89]
abbrev dktX2_next_4 : List UInt8 := dkwX2_next_4 ++ dktX2_next_5
def dkwX2_next_3 : List UInt8 := [42, 180, 0, 40, 182, 0, 43, 184, 0, 50, 153, 0, 47, 42, 180, 0, 40, 27, 100, 16, 8, 162, 0, 23]
abbrev dktX2_next_3 : List UInt8 := dkwX2_next_3 ++ dktX2_next_4
def dkwX2_next_2 : List UInt8 := [181, 0, 47, 42, 27, 181, 0, 40, 167, 0, 251, 28, 184, 0, 50, 153, 0, 124, 42, 27, 181, 0, 40, 42]
abbrev dktX2_next_2 : List UInt8 := dkwX2_next_2 ++ dktX2_next_3
def dkwX2_next_1 : List UInt8 := [181, 0, 26, 42, 27, 4, 96, 181, 0, 40, 42, 27, 182, 0, 43, 61, 28, 2, 160, 0, 16, 42, 3]
abbrev dktX2_next_1 : List UInt8 := dkwX2_next_1 ++ dktX2_next_2
def dkwX2_next_0 : List UInt8 := [42, 180, 0, 40, 60, 42, 27, 182, 0, 43, 16, 32, 160, 0, 9, 132, 1, 1, 167, 255, 243, 42, 27]
abbrev dktX2_next_0 : List UInt8 := dkwX2_next_0 ++ dktX2_next_1
theorem dksX2_next_0 : cX2_next.data.toList.drop 0 = dktX2_next_0 := by decide +kernel
theorem dksX2_next_1 : cX2_next.data.toList.drop 23 = dktX2_next_1 := dk_seg dksX2_next_0 23 rfl rfl
theorem dksX2_next_2 : cX2_next.data.toList.drop 46 = dktX2_next_2 := dk_seg dksX2_next_1 23 rfl rfl
theorem dksX2_next_3 : cX2_next.data.toList.drop 70 = dktX2_next_3 := dk_seg dksX2_next_2 24 rfl rfl
theorem dksX2_next_4 : cX2_next.data.toList.drop 94 = dktX2_next_4 := dk_seg dksX2_next_3 24 rfl rfl
theorem dksX2_next_5 : cX2_next.data.toList.drop 116 = dktX2_next_5 := dk_seg dksX2_next_4 22 rfl rfl
theorem dksX2_next_6 : cX2_next.data.toList.drop 140 = dktX2_next_6 := dk_seg dksX2_next_5 24 rfl rfl
theorem dksX2_next_7 : cX2_next.data.toList.drop 164 = dktX2_next_7 := dk_seg dksX2_next_6 24 rfl rfl
theorem dksX2_next_8 : cX2_next.data.toList.drop 186 = dktX2_next_8 := dk_seg dksX2_next_7 22 rfl rfl
theorem dksX2_next_9 : cX2_next.data.toList.drop 210 = dktX2_next_9 := dk_seg dksX2_next_8 24 rfl rfl
theorem dksX2_next_10 : cX2_next.data.toList.drop 234 = dktX2_next_10 := dk_seg dksX2_next_9 24 rfl rfl
theorem dksX2_next_11 : cX2_next.data.toList.drop 256 = dktX2_next_11 := dk_seg dksX2_next_10 22 rfl rfl
theorem dksX2_next_12 : cX2_next.data.toList.drop 278 = dktX2_next_12 := dk_seg dksX2_next_11 22 rfl rfl
theorem dksX2_next_13 : cX2_next.data.toList.drop 302 = dktX2_next_13 := dk_seg dksX2_next_12 24 rfl rfl
theorem dX2_next_0 : decode cX2_next 0 = .ok (.aload_n 0, 1) := dk_42 (dk_at dksX2_next_0 0 rfl rfl)
theorem dX2_next_1 : decode cX2_next 1 = .ok (.getfield 40, 3) := dk_180 0 40 (dk_at dksX2_next_0 1 rfl rfl)
theorem dX2_next_4 : decode cX2_next 4 = .ok (.istore_n 1, 1) := dk_60 (dk_at dksX2_next_0 4 rfl rfl)
theorem dX2_next_5 : decode cX2_next 5 = .ok (.aload_n 0, 1) := dk_42 (dk_at dksX2_next_0 5 rfl rfl)
theorem dX2_next_6 : decode cX2_next 6 = .ok (.iload_n 1, 1) := dk_27 (dk_at dksX2_next_0 6 rfl rfl)
theorem dX2_next_7 : decode cX2_next 7 = .ok (.invokevirtual 43, 3) := dk_182 0 43 (dk_at dksX2_next_0 7 rfl rfl)
theorem dX2_next_10 : decode cX2_next 10 = .ok (.bipush 32, 2) := dk_16 32 (dk_at dksX2_next_0 10 rfl rfl)
theorem dX2_next_12 : decode cX2_next 12 = .ok (.if_icmp .ne 9, 3) := dk_160 0 9 (dk_at dksX2_next_0 12 rfl rfl)
theorem dX2_next_15 : decode cX2_next 15 = .ok (.iinc 1 1, 3) := dk_132 1 1 (dk_at dksX2_next_0 15 rfl rfl)
theorem dX2_next_18 : decode cX2_next 18 = .ok (.goto (-13), 3) := dk_167 255 243 (dk_at dksX2_next_0 18 rfl rfl)
theorem dX2_next_21 : decode cX2_next 21 = .ok (.aload_n 0, 1) := dk_42 (dk_at dksX2_next_0 21 rfl rfl)
theorem dX2_next_22 : decode cX2_next 22 = .ok (.iload_n 1, 1) := dk_27 (dk_at dksX2_next_0 22 rfl rfl)
theorem dX2_next_23 : decode cX2_next 23 = .ok (.putfield 26, 3) := dk_181 0 26 (dk_at dksX2_next_1 0 rfl rfl)
theorem dX2_next_26 : decode cX2_next 26 = .ok (.aload_n 0, 1) := dk_42 (dk_at dksX2_next_1 3 rfl rfl)
theorem dX2_next_27 : decode cX2_next 27 = .ok (.iload_n 1, 1) := dk_27 (dk_at dksX2_next_1 4 rfl rfl)
theorem dX2_next_28 : decode cX2_next 28 = .ok (.iconst 1, 1) := dk_4 (dk_at dksX2_next_1 5 rfl rfl)
theorem dX2_next_29 : decode cX2_next 29 = .ok (.iadd, 1) := dk_96 (dk_at dksX2_next_1 6 rfl rfl)
theorem dX2_next_30 : decode cX2_next 30 = .ok (.putfield 40, 3) := dk_181 0 40 (dk_at dksX2_next_1 7 rfl rfl)
theorem dX2_next_33 : decode cX2_next 33 = .ok (.aload_n 0, 1) := dk_42 (dk_at dksX2_next_1 10 rfl rfl)
theorem dX2_next_34 : decode cX2_next 34 = .ok (.iload_n 1, 1) := dk_27 (dk_at dksX2_next_1 11 rfl rfl)
theorem dX2_next_35 : decode cX2_next 35 = .ok (.invokevirtual 43, 3) := dk_182 0 43 (dk_at dksX2_next_1 12 rfl rfl)
theorem dX2_next_38 : decode cX2_next 38 = .ok (.istore_n 2, 1) := dk_61 (dk_at dksX2_next_1 15 rfl rfl)
theorem dX2_next_39 : decode cX2_next 39 = .ok (.iload_n 2, 1) := dk_28 (dk_at dksX2_next_1 16 rfl rfl)
theorem dX2_next_40 : decode cX2_next 40 = .ok (.iconst (-1), 1) := dk_2 (dk_at dksX2_next_1 17 rfl rfl)
theorem dX2_next_41 : decode cX2_next 41 = .ok (.if_icmp .ne 16, 3) := dk_160 0 16 (dk_at dksX2_next_1 18 rfl rfl)
theorem dX2_next_44 : decode cX2_next 44 = .ok (.aload_n 0, 1) := dk_42 (dk_at dksX2_next_1 21 rfl rfl)
theorem dX2_next_45 : decode cX2_next 45 = .ok (.iconst 0, 1) := dk_3 (dk_at dksX2_next_1 22 rfl rfl)
theorem dX2_next_46 : decode cX2_next 46 = .ok (.putfield 47, 3) := dk_181 0 47 (dk_at dksX2_next_2 0 rfl rfl)
theorem dX2_next_49 : decode cX2_next 49 = .ok (.aload_n 0, 1) := dk_42 (dk_at dksX2_next_2 3 rfl rfl)
theorem dX2_next_50 : decode cX2_next 50 = .ok (.iload_n 1, 1) := dk_27 (dk_at dksX2_next_2 4 rfl rfl)
theorem dX2_next_51 : decode cX2_next 51 = .ok (.putfield 40, 3) := dk_181 0 40 (dk_at dksX2_next_2 5 rfl rfl)
theorem dX2_next_54 : decode cX2_next 54 = .ok (.goto 251, 3) := dk_167 0 251 (dk_at dksX2_next_2 8 rfl rfl)
theorem dX2_next_57 : decode cX2_next 57 = .ok (.iload_n 2, 1) := dk_28 (dk_at dksX2_next_2 11 rfl rfl)
theorem dX2_next_58 : decode cX2_next 58 = .ok (.invokestatic 50, 3) := dk_184 0 50 (dk_at dksX2_next_2 12 rfl rfl)
theorem dX2_next_61 : decode cX2_next 61 = .ok (.ifCond .eq 124, 3) := dk_153 0 124 (dk_at dksX2_next_2 15 rfl rfl)
theorem dX2_next_64 : decode cX2_next 64 = .ok (.aload_n 0, 1) := dk_42 (dk_at dksX2_next_2 18 rfl rfl)
theorem dX2_next_65 : decode cX2_next 65 = .ok (.iload_n 1, 1) := dk_27 (dk_at dksX2_next_2 19 rfl rfl)
theorem dX2_next_66 : decode cX2_next 66 = .ok (.putfield 40, 3) := dk_181 0 40 (dk_at dksX2_next_2 20 rfl rfl)
theorem dX2_next_69 : decode cX2_next 69 = .ok (.aload_n 0, 1) := dk_42 (dk_at dksX2_next_2 23 rfl rfl)
theorem dX2_next_70 : decode cX2_next 70 = .ok (.aload_n 0, 1) := dk_42 (dk_at dksX2_next_3 0 rfl rfl)
theorem dX2_next_71 : decode cX2_next 71 = .ok (.getfield 40, 3) := dk_180 0 40 (dk_at dksX2_next_3 1 rfl rfl)
theorem dX2_next_74 : decode cX2_next 74 = .ok (.invokevirtual 43, 3) := dk_182 0 43 (dk_at dksX2_next_3 4 rfl rfl)
theorem dX2_next_77 : decode cX2_next 77 = .ok (.invokestatic 50, 3) := dk_184 0 50 (dk_at dksX2_next_3 7 rfl rfl)
theorem dX2_next_80 : decode cX2_next 80 = .ok (.ifCond .eq 47, 3) := dk_153 0 47 (dk_at dksX2_next_3 10 rfl rfl)
theorem dX2_next_83 : decode cX2_next 83 = .ok (.aload_n 0, 1) := dk_42 (dk_at dksX2_next_3 13 rfl rfl)
theorem dX2_next_84 : decode cX2_next 84 = .ok (.getfield 40, 3) := dk_180 0 40 (dk_at dksX2_next_3 14 rfl rfl)
theorem dX2_next_87 : decode cX2_next 87 = .ok (.iload_n 1, 1) := dk_27 (dk_at dksX2_next_3 17 rfl rfl)
theorem dX2_next_88 : decode cX2_next 88 = .ok (.isub, 1) := dk_100 (dk_at dksX2_next_3 18 rfl rfl)
theorem dX2_next_89 : decode cX2_next 89 = .ok (.bipush 8, 2) := dk_16 8 (dk_at dksX2_next_3 19 rfl rfl)
theorem dX2_next_91 : decode cX2_next 91 = .ok (.if_icmp .ge 23, 3) := dk_162 0 23 (dk_at dksX2_next_3 21 rfl rfl)
theorem dX2_next_94 : decode cX2_next 94 = .ok (.aload_n 0, 1) := dk_42 (dk_at dksX2_next_4 0 rfl rfl)
theorem dX2_next_95 : decode cX2_next 95 = .ok (.getfield 18, 3) := dk_180 0 18 (dk_at dksX2_next_4 1 rfl rfl)
theorem dX2_next_98 : decode cX2_next 98 = .ok (.aload_n 0, 1) := dk_42 (dk_at dksX2_next_4 4 rfl rfl)
theorem dX2_next_99 : decode cX2_next 99 = .ok (.getfield 40, 3) := dk_180 0 40 (dk_at dksX2_next_4 5 rfl rfl)
theorem dX2_next_102 : decode cX2_next 102 = .ok (.iload_n 1, 1) := dk_27 (dk_at dksX2_next_4 8 rfl rfl)
theorem dX2_next_103 : decode cX2_next 103 = .ok (.isub, 1) := dk_100 (dk_at dksX2_next_4 9 rfl rfl)
theorem dX2_next_104 : decode cX2_next 104 = .ok (.aload_n 0, 1) := dk_42 (dk_at dksX2_next_4 10 rfl rfl)
theorem dX2_next_105 : decode cX2_next 105 = .ok (.aload_n 0, 1) := dk_42 (dk_at dksX2_next_4 11 rfl rfl)
theorem dX2_next_106 : decode cX2_next 106 = .ok (.getfield 40, 3) := dk_180 0 40 (dk_at dksX2_next_4 12 rfl rfl)
theorem dX2_next_109 : decode cX2_next 109 = .ok (.invokevirtual 43, 3) := dk_182 0 43 (dk_at dksX2_next_4 15 rfl rfl)
theorem dX2_next_112 : decode cX2_next 112 = .ok (.i2c, 1) := dk_146 (dk_at dksX2_next_4 18 rfl rfl)
theorem dX2_next_113 : decode cX2_next 113 = .ok (.castore, 1) := dk_85 (dk_at dksX2_next_4 19 rfl rfl)
theorem dX2_next_114 : decode cX2_next 114 = .ok (.aload_n 0, 1) := dk_42 (dk_at dksX2_next_4 20 rfl rfl)
theorem dX2_next_115 : decode cX2_next 115 = .ok (.dup, 1) := dk_89 (dk_at dksX2_next_4 21 rfl rfl)
theorem dX2_next_116 : decode cX2_next 116 = .ok (.getfield 40, 3) := dk_180 0 40 (dk_at dksX2_next_5 0 rfl rfl)
theorem dX2_next_119 : decode cX2_next 119 = .ok (.iconst 1, 1) := dk_4 (dk_at dksX2_next_5 3 rfl rfl)
theorem dX2_next_120 : decode cX2_next 120 = .ok (.iadd, 1) := dk_96 (dk_at dksX2_next_5 4 rfl rfl)
theorem dX2_next_121 : decode cX2_next 121 = .ok (.putfield 40, 3) := dk_181 0 40 (dk_at dksX2_next_5 5 rfl rfl)
theorem dX2_next_124 : decode cX2_next 124 = .ok (.goto (-55), 3) := dk_167 255 201 (dk_at dksX2_next_5 8 rfl rfl)
theorem dX2_next_127 : decode cX2_next 127 = .ok (.aload_n 0, 1) := dk_42 (dk_at dksX2_next_5 11 rfl rfl)
theorem dX2_next_128 : decode cX2_next 128 = .ok (.aload_n 0, 1) := dk_42 (dk_at dksX2_next_5 12 rfl rfl)
theorem dX2_next_129 : decode cX2_next 129 = .ok (.getfield 40, 3) := dk_180 0 40 (dk_at dksX2_next_5 13 rfl rfl)
theorem dX2_next_132 : decode cX2_next 132 = .ok (.iload_n 1, 1) := dk_27 (dk_at dksX2_next_5 16 rfl rfl)
theorem dX2_next_133 : decode cX2_next 133 = .ok (.isub, 1) := dk_100 (dk_at dksX2_next_5 17 rfl rfl)
theorem dX2_next_134 : decode cX2_next 134 = .ok (.bipush 8, 2) := dk_16 8 (dk_at dksX2_next_5 18 rfl rfl)
theorem dX2_next_136 : decode cX2_next 136 = .ok (.if_icmp .le 7, 3) := dk_164 0 7 (dk_at dksX2_next_5 20 rfl rfl)
theorem dX2_next_139 : decode cX2_next 139 = .ok (.iconst 1, 1) := dk_4 (dk_at dksX2_next_5 23 rfl rfl)
theorem dX2_next_140 : decode cX2_next 140 = .ok (.goto 4, 3) := dk_167 0 4 (dk_at dksX2_next_6 0 rfl rfl)
theorem dX2_next_143 : decode cX2_next 143 = .ok (.iconst 2, 1) := dk_5 (dk_at dksX2_next_6 3 rfl rfl)
theorem dX2_next_144 : decode cX2_next 144 = .ok (.putfield 47, 3) := dk_181 0 47 (dk_at dksX2_next_6 4 rfl rfl)
theorem dX2_next_147 : decode cX2_next 147 = .ok (.aload_n 0, 1) := dk_42 (dk_at dksX2_next_6 7 rfl rfl)
theorem dX2_next_148 : decode cX2_next 148 = .ok (.aload_n 0, 1) := dk_42 (dk_at dksX2_next_6 8 rfl rfl)
theorem dX2_next_149 : decode cX2_next 149 = .ok (.getfield 47, 3) := dk_180 0 47 (dk_at dksX2_next_6 9 rfl rfl)
theorem dX2_next_152 : decode cX2_next 152 = .ok (.iconst 2, 1) := dk_5 (dk_at dksX2_next_6 12 rfl rfl)
theorem dX2_next_153 : decode cX2_next 153 = .ok (.if_icmp .ne 24, 3) := dk_160 0 24 (dk_at dksX2_next_6 13 rfl rfl)
theorem dX2_next_156 : decode cX2_next 156 = .ok (.new 54, 3) := dk_187 0 54 (dk_at dksX2_next_6 16 rfl rfl)
theorem dX2_next_159 : decode cX2_next 159 = .ok (.dup, 1) := dk_89 (dk_at dksX2_next_6 19 rfl rfl)
theorem dX2_next_160 : decode cX2_next 160 = .ok (.aload_n 0, 1) := dk_42 (dk_at dksX2_next_6 20 rfl rfl)
theorem dX2_next_161 : decode cX2_next 161 = .ok (.getfield 18, 3) := dk_180 0 18 (dk_at dksX2_next_6 21 rfl rfl)
theorem dX2_next_164 : decode cX2_next 164 = .ok (.iconst 0, 1) := dk_3 (dk_at dksX2_next_7 0 rfl rfl)
theorem dX2_next_165 : decode cX2_next 165 = .ok (.aload_n 0, 1) := dk_42 (dk_at dksX2_next_7 1 rfl rfl)
theorem dX2_next_166 : decode cX2_next 166 = .ok (.getfield 40, 3) := dk_180 0 40 (dk_at dksX2_next_7 2 rfl rfl)
theorem dX2_next_169 : decode cX2_next 169 = .ok (.iload_n 1, 1) := dk_27 (dk_at dksX2_next_7 5 rfl rfl)
theorem dX2_next_170 : decode cX2_next 170 = .ok (.isub, 1) := dk_100 (dk_at dksX2_next_7 6 rfl rfl)
theorem dX2_next_171 : decode cX2_next 171 = .ok (.invokespecial 56, 3) := dk_183 0 56 (dk_at dksX2_next_7 7 rfl rfl)
theorem dX2_next_174 : decode cX2_next 174 = .ok (.goto 5, 3) := dk_167 0 5 (dk_at dksX2_next_7 10 rfl rfl)
theorem dX2_next_177 : decode cX2_next 177 = .ok (.ldc 59, 2) := dk_18 59 (dk_at dksX2_next_7 13 rfl rfl)
theorem dX2_next_179 : decode cX2_next 179 = .ok (.putfield 61, 3) := dk_181 0 61 (dk_at dksX2_next_7 15 rfl rfl)
theorem dX2_next_182 : decode cX2_next 182 = .ok (.goto 123, 3) := dk_167 0 123 (dk_at dksX2_next_7 18 rfl rfl)
theorem dX2_next_185 : decode cX2_next 185 = .ok (.iload_n 2, 1) := dk_28 (dk_at dksX2_next_7 21 rfl rfl)
theorem dX2_next_186 : decode cX2_next 186 = .ok (.invokestatic 65, 3) := dk_184 0 65 (dk_at dksX2_next_8 0 rfl rfl)
theorem dX2_next_189 : decode cX2_next 189 = .ok (.ifCond .eq 95, 3) := dk_153 0 95 (dk_at dksX2_next_8 3 rfl rfl)
theorem dX2_next_192 : decode cX2_next 192 = .ok (.aload_n 0, 1) := dk_42 (dk_at dksX2_next_8 6 rfl rfl)
theorem dX2_next_193 : decode cX2_next 193 = .ok (.iconst 0, 1) := dk_3 (dk_at dksX2_next_8 7 rfl rfl)
theorem dX2_next_194 : decode cX2_next 194 = .ok (.putfield 68, 3) := dk_181 0 68 (dk_at dksX2_next_8 8 rfl rfl)
theorem dX2_next_197 : decode cX2_next 197 = .ok (.aload_n 0, 1) := dk_42 (dk_at dksX2_next_8 11 rfl rfl)
theorem dX2_next_198 : decode cX2_next 198 = .ok (.iload_n 1, 1) := dk_27 (dk_at dksX2_next_8 12 rfl rfl)
theorem dX2_next_199 : decode cX2_next 199 = .ok (.putfield 40, 3) := dk_181 0 40 (dk_at dksX2_next_8 13 rfl rfl)
theorem dX2_next_202 : decode cX2_next 202 = .ok (.aload_n 0, 1) := dk_42 (dk_at dksX2_next_8 16 rfl rfl)
theorem dX2_next_203 : decode cX2_next 203 = .ok (.aload_n 0, 1) := dk_42 (dk_at dksX2_next_8 17 rfl rfl)
theorem dX2_next_204 : decode cX2_next 204 = .ok (.getfield 40, 3) := dk_180 0 40 (dk_at dksX2_next_8 18 rfl rfl)
theorem dX2_next_207 : decode cX2_next 207 = .ok (.invokevirtual 43, 3) := dk_182 0 43 (dk_at dksX2_next_8 21 rfl rfl)
theorem dX2_next_210 : decode cX2_next 210 = .ok (.invokestatic 65, 3) := dk_184 0 65 (dk_at dksX2_next_9 0 rfl rfl)
theorem dX2_next_213 : decode cX2_next 213 = .ok (.ifCond .eq 49, 3) := dk_153 0 49 (dk_at dksX2_next_9 3 rfl rfl)
theorem dX2_next_216 : decode cX2_next 216 = .ok (.aload_n 0, 1) := dk_42 (dk_at dksX2_next_9 6 rfl rfl)
theorem dX2_next_217 : decode cX2_next 217 = .ok (.getfield 40, 3) := dk_180 0 40 (dk_at dksX2_next_9 7 rfl rfl)
theorem dX2_next_220 : decode cX2_next 220 = .ok (.iload_n 1, 1) := dk_27 (dk_at dksX2_next_9 10 rfl rfl)
theorem dX2_next_221 : decode cX2_next 221 = .ok (.isub, 1) := dk_100 (dk_at dksX2_next_9 11 rfl rfl)
theorem dX2_next_222 : decode cX2_next 222 = .ok (.iconst 3, 1) := dk_6 (dk_at dksX2_next_9 12 rfl rfl)
theorem dX2_next_223 : decode cX2_next 223 = .ok (.if_icmp .ge 26, 3) := dk_162 0 26 (dk_at dksX2_next_9 13 rfl rfl)
theorem dX2_next_226 : decode cX2_next 226 = .ok (.aload_n 0, 1) := dk_42 (dk_at dksX2_next_9 16 rfl rfl)
theorem dX2_next_227 : decode cX2_next 227 = .ok (.bipush 10, 2) := dk_16 10 (dk_at dksX2_next_9 17 rfl rfl)
theorem dX2_next_229 : decode cX2_next 229 = .ok (.aload_n 0, 1) := dk_42 (dk_at dksX2_next_9 19 rfl rfl)
theorem dX2_next_230 : decode cX2_next 230 = .ok (.getfield 68, 3) := dk_180 0 68 (dk_at dksX2_next_9 20 rfl rfl)
theorem dX2_next_233 : decode cX2_next 233 = .ok (.imul, 1) := dk_104 (dk_at dksX2_next_9 23 rfl rfl)
theorem dX2_next_234 : decode cX2_next 234 = .ok (.aload_n 0, 1) := dk_42 (dk_at dksX2_next_10 0 rfl rfl)
theorem dX2_next_235 : decode cX2_next 235 = .ok (.aload_n 0, 1) := dk_42 (dk_at dksX2_next_10 1 rfl rfl)
theorem dX2_next_236 : decode cX2_next 236 = .ok (.getfield 40, 3) := dk_180 0 40 (dk_at dksX2_next_10 2 rfl rfl)
theorem dX2_next_239 : decode cX2_next 239 = .ok (.invokevirtual 43, 3) := dk_182 0 43 (dk_at dksX2_next_10 5 rfl rfl)
theorem dX2_next_242 : decode cX2_next 242 = .ok (.iadd, 1) := dk_96 (dk_at dksX2_next_10 8 rfl rfl)
theorem dX2_next_243 : decode cX2_next 243 = .ok (.bipush 48, 2) := dk_16 48 (dk_at dksX2_next_10 9 rfl rfl)
theorem dX2_next_245 : decode cX2_next 245 = .ok (.isub, 1) := dk_100 (dk_at dksX2_next_10 11 rfl rfl)
theorem dX2_next_246 : decode cX2_next 246 = .ok (.putfield 68, 3) := dk_181 0 68 (dk_at dksX2_next_10 12 rfl rfl)
theorem dX2_next_249 : decode cX2_next 249 = .ok (.aload_n 0, 1) := dk_42 (dk_at dksX2_next_10 15 rfl rfl)
theorem dX2_next_250 : decode cX2_next 250 = .ok (.dup, 1) := dk_89 (dk_at dksX2_next_10 16 rfl rfl)
theorem dX2_next_251 : decode cX2_next 251 = .ok (.getfield 40, 3) := dk_180 0 40 (dk_at dksX2_next_10 17 rfl rfl)
theorem dX2_next_254 : decode cX2_next 254 = .ok (.iconst 1, 1) := dk_4 (dk_at dksX2_next_10 20 rfl rfl)
theorem dX2_next_255 : decode cX2_next 255 = .ok (.iadd, 1) := dk_96 (dk_at dksX2_next_10 21 rfl rfl)
theorem dX2_next_256 : decode cX2_next 256 = .ok (.putfield 40, 3) := dk_181 0 40 (dk_at dksX2_next_11 0 rfl rfl)
theorem dX2_next_259 : decode cX2_next 259 = .ok (.goto (-57), 3) := dk_167 255 199 (dk_at dksX2_next_11 3 rfl rfl)
theorem dX2_next_262 : decode cX2_next 262 = .ok (.aload_n 0, 1) := dk_42 (dk_at dksX2_next_11 6 rfl rfl)
theorem dX2_next_263 : decode cX2_next 263 = .ok (.aload_n 0, 1) := dk_42 (dk_at dksX2_next_11 7 rfl rfl)
theorem dX2_next_264 : decode cX2_next 264 = .ok (.getfield 40, 3) := dk_180 0 40 (dk_at dksX2_next_11 8 rfl rfl)
theorem dX2_next_267 : decode cX2_next 267 = .ok (.iload_n 1, 1) := dk_27 (dk_at dksX2_next_11 11 rfl rfl)
theorem dX2_next_268 : decode cX2_next 268 = .ok (.isub, 1) := dk_100 (dk_at dksX2_next_11 12 rfl rfl)
theorem dX2_next_269 : decode cX2_next 269 = .ok (.iconst 3, 1) := dk_6 (dk_at dksX2_next_11 13 rfl rfl)
theorem dX2_next_270 : decode cX2_next 270 = .ok (.if_icmp .le 7, 3) := dk_164 0 7 (dk_at dksX2_next_11 14 rfl rfl)
theorem dX2_next_273 : decode cX2_next 273 = .ok (.iconst 1, 1) := dk_4 (dk_at dksX2_next_11 17 rfl rfl)
theorem dX2_next_274 : decode cX2_next 274 = .ok (.goto 4, 3) := dk_167 0 4 (dk_at dksX2_next_11 18 rfl rfl)
theorem dX2_next_277 : decode cX2_next 277 = .ok (.iconst 3, 1) := dk_6 (dk_at dksX2_next_11 21 rfl rfl)
theorem dX2_next_278 : decode cX2_next 278 = .ok (.putfield 47, 3) := dk_181 0 47 (dk_at dksX2_next_12 0 rfl rfl)
theorem dX2_next_281 : decode cX2_next 281 = .ok (.goto 24, 3) := dk_167 0 24 (dk_at dksX2_next_12 3 rfl rfl)
theorem dX2_next_284 : decode cX2_next 284 = .ok (.aload_n 0, 1) := dk_42 (dk_at dksX2_next_12 6 rfl rfl)
theorem dX2_next_285 : decode cX2_next 285 = .ok (.iload_n 2, 1) := dk_28 (dk_at dksX2_next_12 7 rfl rfl)
theorem dX2_next_286 : decode cX2_next 286 = .ok (.bipush 59, 2) := dk_16 59 (dk_at dksX2_next_12 8 rfl rfl)
theorem dX2_next_288 : decode cX2_next 288 = .ok (.if_icmp .eq 9, 3) := dk_159 0 9 (dk_at dksX2_next_12 10 rfl rfl)
theorem dX2_next_291 : decode cX2_next 291 = .ok (.iload_n 2, 1) := dk_28 (dk_at dksX2_next_12 13 rfl rfl)
theorem dX2_next_292 : decode cX2_next 292 = .ok (.bipush 44, 2) := dk_16 44 (dk_at dksX2_next_12 14 rfl rfl)
theorem dX2_next_294 : decode cX2_next 294 = .ok (.if_icmp .ne 7, 3) := dk_160 0 7 (dk_at dksX2_next_12 16 rfl rfl)
theorem dX2_next_297 : decode cX2_next 297 = .ok (.iload_n 2, 1) := dk_28 (dk_at dksX2_next_12 19 rfl rfl)
theorem dX2_next_298 : decode cX2_next 298 = .ok (.goto 4, 3) := dk_167 0 4 (dk_at dksX2_next_12 20 rfl rfl)
theorem dX2_next_301 : decode cX2_next 301 = .ok (.iconst 1, 1) := dk_4 (dk_at dksX2_next_12 23 rfl rfl)
theorem dX2_next_302 : decode cX2_next 302 = .ok (.putfield 47, 3) := dk_181 0 47 (dk_at dksX2_next_13 0 rfl rfl)
theorem dX2_next_305 : decode cX2_next 305 = .ok (.return_, 1) := dk_177 (dk_at dksX2_next_13 3 rfl rfl)
abbrev cX2_see : ByteArray := prog_9_method_3_code
def yX2_see : MethodName := ⟨RX2, "see", "(I)I"⟩
def dkwX2_see_0 : List UInt8 := [27, 42, 180, 0, 33, 162, 0, 16, 42, 180, 0, 22, 27, 51, 17, 0, 255, 126, 167, 0, 4, 2, 172]
abbrev dktX2_see_0 : List UInt8 := dkwX2_see_0 ++ []
theorem dksX2_see_0 : cX2_see.data.toList.drop 0 = dktX2_see_0 := by decide +kernel
theorem dX2_see_0 : decode cX2_see 0 = .ok (.iload_n 1, 1) := dk_27 (dk_at dksX2_see_0 0 rfl rfl)
theorem dX2_see_1 : decode cX2_see 1 = .ok (.aload_n 0, 1) := dk_42 (dk_at dksX2_see_0 1 rfl rfl)
theorem dX2_see_2 : decode cX2_see 2 = .ok (.getfield 33, 3) := dk_180 0 33 (dk_at dksX2_see_0 2 rfl rfl)
theorem dX2_see_5 : decode cX2_see 5 = .ok (.if_icmp .ge 16, 3) := dk_162 0 16 (dk_at dksX2_see_0 5 rfl rfl)
theorem dX2_see_8 : decode cX2_see 8 = .ok (.aload_n 0, 1) := dk_42 (dk_at dksX2_see_0 8 rfl rfl)
theorem dX2_see_9 : decode cX2_see 9 = .ok (.getfield 22, 3) := dk_180 0 22 (dk_at dksX2_see_0 9 rfl rfl)
theorem dX2_see_12 : decode cX2_see 12 = .ok (.iload_n 1, 1) := dk_27 (dk_at dksX2_see_0 12 rfl rfl)
theorem dX2_see_13 : decode cX2_see 13 = .ok (.baload, 1) := dk_51 (dk_at dksX2_see_0 13 rfl rfl)
theorem dX2_see_14 : decode cX2_see 14 = .ok (.sipush 255, 3) := dk_17 0 255 (dk_at dksX2_see_0 14 rfl rfl)
theorem dX2_see_17 : decode cX2_see 17 = .ok (.iand, 1) := dk_126 (dk_at dksX2_see_0 17 rfl rfl)
theorem dX2_see_18 : decode cX2_see 18 = .ok (.goto 4, 3) := dk_167 0 4 (dk_at dksX2_see_0 18 rfl rfl)
theorem dX2_see_21 : decode cX2_see 21 = .ok (.iconst (-1), 1) := dk_2 (dk_at dksX2_see_0 21 rfl rfl)
theorem dX2_see_22 : decode cX2_see 22 = .ok (.ireturn, 1) := dk_172 (dk_at dksX2_see_0 22 rfl rfl)
abbrev cX2_isSmall : ByteArray := prog_9_method_4_code
def yX2_isSmall : MethodName := ⟨RX2, "isSmall", "(I)Z"⟩
def dkwX2_isSmall_0 : List UInt8 := [26, 16, 97, 16, 122, 184, 0, 36, 172]
abbrev dktX2_isSmall_0 : List UInt8 := dkwX2_isSmall_0 ++ []
theorem dksX2_isSmall_0 : cX2_isSmall.data.toList.drop 0 = dktX2_isSmall_0 := by decide +kernel
theorem dX2_isSmall_0 : decode cX2_isSmall 0 = .ok (.iload_n 0, 1) := dk_26 (dk_at dksX2_isSmall_0 0 rfl rfl)
theorem dX2_isSmall_1 : decode cX2_isSmall 1 = .ok (.bipush 97, 2) := dk_16 97 (dk_at dksX2_isSmall_0 1 rfl rfl)
theorem dX2_isSmall_3 : decode cX2_isSmall 3 = .ok (.bipush 122, 2) := dk_16 122 (dk_at dksX2_isSmall_0 3 rfl rfl)
theorem dX2_isSmall_5 : decode cX2_isSmall 5 = .ok (.invokestatic 36, 3) := dk_184 0 36 (dk_at dksX2_isSmall_0 5 rfl rfl)
theorem dX2_isSmall_8 : decode cX2_isSmall 8 = .ok (.ireturn, 1) := dk_172 (dk_at dksX2_isSmall_0 8 rfl rfl)
abbrev cX2_isDigit : ByteArray := prog_9_method_5_code
def yX2_isDigit : MethodName := ⟨RX2, "isDigit", "(I)Z"⟩
def dkwX2_isDigit_0 : List UInt8 := [26, 16, 48, 16, 57, 184, 0, 36, 172]
abbrev dktX2_isDigit_0 : List UInt8 := dkwX2_isDigit_0 ++ []
theorem dksX2_isDigit_0 : cX2_isDigit.data.toList.drop 0 = dktX2_isDigit_0 := by decide +kernel
theorem dX2_isDigit_0 : decode cX2_isDigit 0 = .ok (.iload_n 0, 1) := dk_26 (dk_at dksX2_isDigit_0 0 rfl rfl)
theorem dX2_isDigit_1 : decode cX2_isDigit 1 = .ok (.bipush 48, 2) := dk_16 48 (dk_at dksX2_isDigit_0 1 rfl rfl)
theorem dX2_isDigit_3 : decode cX2_isDigit 3 = .ok (.bipush 57, 2) := dk_16 57 (dk_at dksX2_isDigit_0 3 rfl rfl)
theorem dX2_isDigit_5 : decode cX2_isDigit 5 = .ok (.invokestatic 36, 3) := dk_184 0 36 (dk_at dksX2_isDigit_0 5 rfl rfl)
theorem dX2_isDigit_8 : decode cX2_isDigit 8 = .ok (.ireturn, 1) := dk_172 (dk_at dksX2_isDigit_0 8 rfl rfl)
abbrev cX2_line : ByteArray := prog_9_method_20_code
def yX2_line : MethodName := ⟨RX2, "line", "()V"⟩
def dkwX2_line_12 : List UInt8 := [167, 0, 23, 42, 182, 0, 177, 167, 0, 16, 42, 182, 0, 179, 167, 0, 9, 42, 4, 182, 0, 85, 191, 177]
abbrev dktX2_line_12 : List UInt8 := dkwX2_line_12 ++ []
def dkwX2_line_11 : List UInt8 := [182, 0, 169, 167, 0, 44, 42, 182, 0, 171, 167, 0, 37, 42, 182, 0, 173, 167, 0, 30, 42, 182, 0, 175]
abbrev dktX2_line_11 : List UInt8 := dkwX2_line_11 ++ dktX2_line_12
def dkwX2_line_10 : List UInt8 := [42, 182, 0, 162, 167, 0, 65, 42, 182, 0, 164, 167, 0, 58, 42, 182, 0, 167, 167, 0, 51, 42]
abbrev dktX2_line_10 : List UInt8 := dkwX2_line_10 ++ dktX2_line_11
def dkwX2_line_9 : List UInt8 := [170, 0, 0, 0, 112, 0, 0, 0, 0, 0, 0, 0, 8, 0, 0, 0, 49, 0, 0, 0, 56, 0, 0, 0, 63, 0, 0, 0, 70, 0, 0, 0, 77, 0, 0, 0, 84, 0, 0, 0, 91, 0, 0, 0, 98, 0, 0, 0, 105]
abbrev dktX2_line_9 : List UInt8 := dkwX2_line_9 ++ dktX2_line_10
def dkwX2_line_8 : List UInt8 := [182, 0, 71, 153, 0, 6, 16, 8, 61, 28]
abbrev dktX2_line_8 : List UInt8 := dkwX2_line_8 ++ dktX2_line_9
def dkwX2_line_7 : List UInt8 := [61, 167, 0, 30, 43, 18, 113, 182, 0, 71, 153, 0, 21, 16, 7, 61, 167, 0, 15, 43, 18, 115]
abbrev dktX2_line_7 : List UInt8 := dkwX2_line_7 ++ dktX2_line_8
def dkwX2_line_6 : List UInt8 := [18, 103, 182, 0, 71, 153, 0, 50, 8, 61, 167, 0, 45, 43, 18, 111, 182, 0, 71, 153, 0, 36, 16, 6]
abbrev dktX2_line_6 : List UInt8 := dkwX2_line_6 ++ dktX2_line_7
def dkwX2_line_5 : List UInt8 := [153, 0, 78, 6, 61, 167, 0, 73, 43, 18, 101, 182, 0, 71, 153, 0, 64, 7, 61, 167, 0, 59, 43]
abbrev dktX2_line_5 : List UInt8 := dkwX2_line_5 ++ dktX2_line_6
def dkwX2_line_4 : List UInt8 := [61, 167, 0, 101, 43, 18, 97, 182, 0, 71, 153, 0, 92, 5, 61, 167, 0, 87, 43, 18, 99, 182, 0, 71]
abbrev dktX2_line_4 : List UInt8 := dkwX2_line_4 ++ dktX2_line_5
def dkwX2_line_3 : List UInt8 := [43, 18, 93, 182, 0, 71, 153, 0, 120, 3, 61, 167, 0, 115, 43, 18, 95, 182, 0, 71, 153, 0, 106, 4]
abbrev dktX2_line_3 : List UInt8 := dkwX2_line_3 ++ dktX2_line_4
def dkwX2_line_2 : List UInt8 := [171, 0, 0, 0, 0, 0, 209, 0, 0, 0, 9, 178, 213, 58, 82, 0, 0, 0, 182, 191, 253, 107, 191, 0, 0, 0, 139, 196, 227, 155, 85, 0, 0, 0, 153, 0, 1, 140, 190, 0, 0, 0, 197, 0, 1, 161, 162, 0, 0, 0, 83, 0, 1, 202, 239, 0, 0, 0, 125, 0, 52, 98, 218, 0, 0, 0, 167, 0, 55, 145, 202, 0, 0, 0, 111, 6, 92, 217, 7, 0, 0, 0, 97]
abbrev dktX2_line_2 : List UInt8 := dkwX2_line_2 ++ dktX2_line_3
def dkwX2_line_1 : List UInt8 := [182, 0, 89]
abbrev dktX2_line_1 : List UInt8 := dkwX2_line_1 ++ dktX2_line_2
def dkwX2_line_0 : List UInt8 := [42, 180, 0, 47, 5, 159, 0, 9, 42, 4, 182, 0, 85, 191, 42, 180, 0, 61, 76, 2, 61, 43]
abbrev dktX2_line_0 : List UInt8 := dkwX2_line_0 ++ dktX2_line_1
theorem dksX2_line_0 : cX2_line.data.toList.drop 0 = dktX2_line_0 := by decide +kernel
theorem dksX2_line_1 : cX2_line.data.toList.drop 22 = dktX2_line_1 := dk_seg dksX2_line_0 22 rfl rfl
theorem dksX2_line_2 : cX2_line.data.toList.drop 25 = dktX2_line_2 := dk_seg dksX2_line_1 3 rfl rfl
theorem dksX2_line_3 : cX2_line.data.toList.drop 108 = dktX2_line_3 := dk_seg dksX2_line_2 83 rfl rfl
theorem dksX2_line_4 : cX2_line.data.toList.drop 132 = dktX2_line_4 := dk_seg dksX2_line_3 24 rfl rfl
theorem dksX2_line_5 : cX2_line.data.toList.drop 156 = dktX2_line_5 := dk_seg dksX2_line_4 24 rfl rfl
theorem dksX2_line_6 : cX2_line.data.toList.drop 179 = dktX2_line_6 := dk_seg dksX2_line_5 23 rfl rfl
theorem dksX2_line_7 : cX2_line.data.toList.drop 203 = dktX2_line_7 := dk_seg dksX2_line_6 24 rfl rfl
theorem dksX2_line_8 : cX2_line.data.toList.drop 225 = dktX2_line_8 := dk_seg dksX2_line_7 22 rfl rfl
theorem dksX2_line_9 : cX2_line.data.toList.drop 235 = dktX2_line_9 := dk_seg dksX2_line_8 10 rfl rfl
theorem dksX2_line_10 : cX2_line.data.toList.drop 284 = dktX2_line_10 := dk_seg dksX2_line_9 49 rfl rfl
theorem dksX2_line_11 : cX2_line.data.toList.drop 306 = dktX2_line_11 := dk_seg dksX2_line_10 22 rfl rfl
theorem dksX2_line_12 : cX2_line.data.toList.drop 330 = dktX2_line_12 := dk_seg dksX2_line_11 24 rfl rfl
theorem dX2_line_0 : decode cX2_line 0 = .ok (.aload_n 0, 1) := dk_42 (dk_at dksX2_line_0 0 rfl rfl)
theorem dX2_line_1 : decode cX2_line 1 = .ok (.getfield 47, 3) := dk_180 0 47 (dk_at dksX2_line_0 1 rfl rfl)
theorem dX2_line_4 : decode cX2_line 4 = .ok (.iconst 2, 1) := dk_5 (dk_at dksX2_line_0 4 rfl rfl)
theorem dX2_line_5 : decode cX2_line 5 = .ok (.if_icmp .eq 9, 3) := dk_159 0 9 (dk_at dksX2_line_0 5 rfl rfl)
theorem dX2_line_8 : decode cX2_line 8 = .ok (.aload_n 0, 1) := dk_42 (dk_at dksX2_line_0 8 rfl rfl)
theorem dX2_line_9 : decode cX2_line 9 = .ok (.iconst 1, 1) := dk_4 (dk_at dksX2_line_0 9 rfl rfl)
theorem dX2_line_10 : decode cX2_line 10 = .ok (.invokevirtual 85, 3) := dk_182 0 85 (dk_at dksX2_line_0 10 rfl rfl)
theorem dX2_line_13 : decode cX2_line 13 = .ok (.athrow, 1) := dk_191 (dk_at dksX2_line_0 13 rfl rfl)
theorem dX2_line_14 : decode cX2_line 14 = .ok (.aload_n 0, 1) := dk_42 (dk_at dksX2_line_0 14 rfl rfl)
theorem dX2_line_15 : decode cX2_line 15 = .ok (.getfield 61, 3) := dk_180 0 61 (dk_at dksX2_line_0 15 rfl rfl)
theorem dX2_line_18 : decode cX2_line 18 = .ok (.astore_n 1, 1) := dk_76 (dk_at dksX2_line_0 18 rfl rfl)
theorem dX2_line_19 : decode cX2_line 19 = .ok (.iconst (-1), 1) := dk_2 (dk_at dksX2_line_0 19 rfl rfl)
theorem dX2_line_20 : decode cX2_line 20 = .ok (.istore_n 2, 1) := dk_61 (dk_at dksX2_line_0 20 rfl rfl)
theorem dX2_line_21 : decode cX2_line 21 = .ok (.aload_n 1, 1) := dk_43 (dk_at dksX2_line_0 21 rfl rfl)
theorem dX2_line_22 : decode cX2_line 22 = .ok (.invokevirtual 89, 3) := dk_182 0 89 (dk_at dksX2_line_1 0 rfl rfl)
theorem dX2_line_25 : decode cX2_line 25 = .ok (.lookupswitch 209 #[(-1294648750, 182), (-1073910849, 139), (-991716523, 153), (101566, 197), (106914, 83), (117487, 125), (3433178, 167), (3641802, 111), (106748167, 97)], 83) := by decide +kernel
theorem dX2_line_108 : decode cX2_line 108 = .ok (.aload_n 1, 1) := dk_43 (dk_at dksX2_line_3 0 rfl rfl)
theorem dX2_line_109 : decode cX2_line 109 = .ok (.ldc 93, 2) := dk_18 93 (dk_at dksX2_line_3 1 rfl rfl)
theorem dX2_line_111 : decode cX2_line 111 = .ok (.invokevirtual 71, 3) := dk_182 0 71 (dk_at dksX2_line_3 3 rfl rfl)
theorem dX2_line_114 : decode cX2_line 114 = .ok (.ifCond .eq 120, 3) := dk_153 0 120 (dk_at dksX2_line_3 6 rfl rfl)
theorem dX2_line_117 : decode cX2_line 117 = .ok (.iconst 0, 1) := dk_3 (dk_at dksX2_line_3 9 rfl rfl)
theorem dX2_line_118 : decode cX2_line 118 = .ok (.istore_n 2, 1) := dk_61 (dk_at dksX2_line_3 10 rfl rfl)
theorem dX2_line_119 : decode cX2_line 119 = .ok (.goto 115, 3) := dk_167 0 115 (dk_at dksX2_line_3 11 rfl rfl)
theorem dX2_line_122 : decode cX2_line 122 = .ok (.aload_n 1, 1) := dk_43 (dk_at dksX2_line_3 14 rfl rfl)
theorem dX2_line_123 : decode cX2_line 123 = .ok (.ldc 95, 2) := dk_18 95 (dk_at dksX2_line_3 15 rfl rfl)
theorem dX2_line_125 : decode cX2_line 125 = .ok (.invokevirtual 71, 3) := dk_182 0 71 (dk_at dksX2_line_3 17 rfl rfl)
theorem dX2_line_128 : decode cX2_line 128 = .ok (.ifCond .eq 106, 3) := dk_153 0 106 (dk_at dksX2_line_3 20 rfl rfl)
theorem dX2_line_131 : decode cX2_line 131 = .ok (.iconst 1, 1) := dk_4 (dk_at dksX2_line_3 23 rfl rfl)
theorem dX2_line_132 : decode cX2_line 132 = .ok (.istore_n 2, 1) := dk_61 (dk_at dksX2_line_4 0 rfl rfl)
theorem dX2_line_133 : decode cX2_line 133 = .ok (.goto 101, 3) := dk_167 0 101 (dk_at dksX2_line_4 1 rfl rfl)
theorem dX2_line_136 : decode cX2_line 136 = .ok (.aload_n 1, 1) := dk_43 (dk_at dksX2_line_4 4 rfl rfl)
theorem dX2_line_137 : decode cX2_line 137 = .ok (.ldc 97, 2) := dk_18 97 (dk_at dksX2_line_4 5 rfl rfl)
theorem dX2_line_139 : decode cX2_line 139 = .ok (.invokevirtual 71, 3) := dk_182 0 71 (dk_at dksX2_line_4 7 rfl rfl)
theorem dX2_line_142 : decode cX2_line 142 = .ok (.ifCond .eq 92, 3) := dk_153 0 92 (dk_at dksX2_line_4 10 rfl rfl)
theorem dX2_line_145 : decode cX2_line 145 = .ok (.iconst 2, 1) := dk_5 (dk_at dksX2_line_4 13 rfl rfl)
theorem dX2_line_146 : decode cX2_line 146 = .ok (.istore_n 2, 1) := dk_61 (dk_at dksX2_line_4 14 rfl rfl)
theorem dX2_line_147 : decode cX2_line 147 = .ok (.goto 87, 3) := dk_167 0 87 (dk_at dksX2_line_4 15 rfl rfl)
theorem dX2_line_150 : decode cX2_line 150 = .ok (.aload_n 1, 1) := dk_43 (dk_at dksX2_line_4 18 rfl rfl)
theorem dX2_line_151 : decode cX2_line 151 = .ok (.ldc 99, 2) := dk_18 99 (dk_at dksX2_line_4 19 rfl rfl)
theorem dX2_line_153 : decode cX2_line 153 = .ok (.invokevirtual 71, 3) := dk_182 0 71 (dk_at dksX2_line_4 21 rfl rfl)
theorem dX2_line_156 : decode cX2_line 156 = .ok (.ifCond .eq 78, 3) := dk_153 0 78 (dk_at dksX2_line_5 0 rfl rfl)
theorem dX2_line_159 : decode cX2_line 159 = .ok (.iconst 3, 1) := dk_6 (dk_at dksX2_line_5 3 rfl rfl)
theorem dX2_line_160 : decode cX2_line 160 = .ok (.istore_n 2, 1) := dk_61 (dk_at dksX2_line_5 4 rfl rfl)
theorem dX2_line_161 : decode cX2_line 161 = .ok (.goto 73, 3) := dk_167 0 73 (dk_at dksX2_line_5 5 rfl rfl)
theorem dX2_line_164 : decode cX2_line 164 = .ok (.aload_n 1, 1) := dk_43 (dk_at dksX2_line_5 8 rfl rfl)
theorem dX2_line_165 : decode cX2_line 165 = .ok (.ldc 101, 2) := dk_18 101 (dk_at dksX2_line_5 9 rfl rfl)
theorem dX2_line_167 : decode cX2_line 167 = .ok (.invokevirtual 71, 3) := dk_182 0 71 (dk_at dksX2_line_5 11 rfl rfl)
theorem dX2_line_170 : decode cX2_line 170 = .ok (.ifCond .eq 64, 3) := dk_153 0 64 (dk_at dksX2_line_5 14 rfl rfl)
theorem dX2_line_173 : decode cX2_line 173 = .ok (.iconst 4, 1) := dk_7 (dk_at dksX2_line_5 17 rfl rfl)
theorem dX2_line_174 : decode cX2_line 174 = .ok (.istore_n 2, 1) := dk_61 (dk_at dksX2_line_5 18 rfl rfl)
theorem dX2_line_175 : decode cX2_line 175 = .ok (.goto 59, 3) := dk_167 0 59 (dk_at dksX2_line_5 19 rfl rfl)
theorem dX2_line_178 : decode cX2_line 178 = .ok (.aload_n 1, 1) := dk_43 (dk_at dksX2_line_5 22 rfl rfl)
theorem dX2_line_179 : decode cX2_line 179 = .ok (.ldc 103, 2) := dk_18 103 (dk_at dksX2_line_6 0 rfl rfl)
theorem dX2_line_181 : decode cX2_line 181 = .ok (.invokevirtual 71, 3) := dk_182 0 71 (dk_at dksX2_line_6 2 rfl rfl)
theorem dX2_line_184 : decode cX2_line 184 = .ok (.ifCond .eq 50, 3) := dk_153 0 50 (dk_at dksX2_line_6 5 rfl rfl)
theorem dX2_line_187 : decode cX2_line 187 = .ok (.iconst 5, 1) := dk_8 (dk_at dksX2_line_6 8 rfl rfl)
theorem dX2_line_188 : decode cX2_line 188 = .ok (.istore_n 2, 1) := dk_61 (dk_at dksX2_line_6 9 rfl rfl)
theorem dX2_line_189 : decode cX2_line 189 = .ok (.goto 45, 3) := dk_167 0 45 (dk_at dksX2_line_6 10 rfl rfl)
theorem dX2_line_192 : decode cX2_line 192 = .ok (.aload_n 1, 1) := dk_43 (dk_at dksX2_line_6 13 rfl rfl)
theorem dX2_line_193 : decode cX2_line 193 = .ok (.ldc 111, 2) := dk_18 111 (dk_at dksX2_line_6 14 rfl rfl)
theorem dX2_line_195 : decode cX2_line 195 = .ok (.invokevirtual 71, 3) := dk_182 0 71 (dk_at dksX2_line_6 16 rfl rfl)
theorem dX2_line_198 : decode cX2_line 198 = .ok (.ifCond .eq 36, 3) := dk_153 0 36 (dk_at dksX2_line_6 19 rfl rfl)
theorem dX2_line_201 : decode cX2_line 201 = .ok (.bipush 6, 2) := dk_16 6 (dk_at dksX2_line_6 22 rfl rfl)
theorem dX2_line_203 : decode cX2_line 203 = .ok (.istore_n 2, 1) := dk_61 (dk_at dksX2_line_7 0 rfl rfl)
theorem dX2_line_204 : decode cX2_line 204 = .ok (.goto 30, 3) := dk_167 0 30 (dk_at dksX2_line_7 1 rfl rfl)
theorem dX2_line_207 : decode cX2_line 207 = .ok (.aload_n 1, 1) := dk_43 (dk_at dksX2_line_7 4 rfl rfl)
theorem dX2_line_208 : decode cX2_line 208 = .ok (.ldc 113, 2) := dk_18 113 (dk_at dksX2_line_7 5 rfl rfl)
theorem dX2_line_210 : decode cX2_line 210 = .ok (.invokevirtual 71, 3) := dk_182 0 71 (dk_at dksX2_line_7 7 rfl rfl)
theorem dX2_line_213 : decode cX2_line 213 = .ok (.ifCond .eq 21, 3) := dk_153 0 21 (dk_at dksX2_line_7 10 rfl rfl)
theorem dX2_line_216 : decode cX2_line 216 = .ok (.bipush 7, 2) := dk_16 7 (dk_at dksX2_line_7 13 rfl rfl)
theorem dX2_line_218 : decode cX2_line 218 = .ok (.istore_n 2, 1) := dk_61 (dk_at dksX2_line_7 15 rfl rfl)
theorem dX2_line_219 : decode cX2_line 219 = .ok (.goto 15, 3) := dk_167 0 15 (dk_at dksX2_line_7 16 rfl rfl)
theorem dX2_line_222 : decode cX2_line 222 = .ok (.aload_n 1, 1) := dk_43 (dk_at dksX2_line_7 19 rfl rfl)
theorem dX2_line_223 : decode cX2_line 223 = .ok (.ldc 115, 2) := dk_18 115 (dk_at dksX2_line_7 20 rfl rfl)
theorem dX2_line_225 : decode cX2_line 225 = .ok (.invokevirtual 71, 3) := dk_182 0 71 (dk_at dksX2_line_8 0 rfl rfl)
theorem dX2_line_228 : decode cX2_line 228 = .ok (.ifCond .eq 6, 3) := dk_153 0 6 (dk_at dksX2_line_8 3 rfl rfl)
theorem dX2_line_231 : decode cX2_line 231 = .ok (.bipush 8, 2) := dk_16 8 (dk_at dksX2_line_8 6 rfl rfl)
theorem dX2_line_233 : decode cX2_line 233 = .ok (.istore_n 2, 1) := dk_61 (dk_at dksX2_line_8 8 rfl rfl)
theorem dX2_line_234 : decode cX2_line 234 = .ok (.iload_n 2, 1) := dk_28 (dk_at dksX2_line_8 9 rfl rfl)
theorem dX2_line_235 : decode cX2_line 235 = .ok (.tableswitch 112 0 8 #[49, 56, 63, 70, 77, 84, 91, 98, 105], 49) := by decide +kernel
theorem dX2_line_284 : decode cX2_line 284 = .ok (.aload_n 0, 1) := dk_42 (dk_at dksX2_line_10 0 rfl rfl)
theorem dX2_line_285 : decode cX2_line 285 = .ok (.invokevirtual 162, 3) := dk_182 0 162 (dk_at dksX2_line_10 1 rfl rfl)
theorem dX2_line_288 : decode cX2_line 288 = .ok (.goto 65, 3) := dk_167 0 65 (dk_at dksX2_line_10 4 rfl rfl)
theorem dX2_line_291 : decode cX2_line 291 = .ok (.aload_n 0, 1) := dk_42 (dk_at dksX2_line_10 7 rfl rfl)
theorem dX2_line_292 : decode cX2_line 292 = .ok (.invokevirtual 164, 3) := dk_182 0 164 (dk_at dksX2_line_10 8 rfl rfl)
theorem dX2_line_295 : decode cX2_line 295 = .ok (.goto 58, 3) := dk_167 0 58 (dk_at dksX2_line_10 11 rfl rfl)
theorem dX2_line_298 : decode cX2_line 298 = .ok (.aload_n 0, 1) := dk_42 (dk_at dksX2_line_10 14 rfl rfl)
theorem dX2_line_299 : decode cX2_line 299 = .ok (.invokevirtual 167, 3) := dk_182 0 167 (dk_at dksX2_line_10 15 rfl rfl)
theorem dX2_line_302 : decode cX2_line 302 = .ok (.goto 51, 3) := dk_167 0 51 (dk_at dksX2_line_10 18 rfl rfl)
theorem dX2_line_305 : decode cX2_line 305 = .ok (.aload_n 0, 1) := dk_42 (dk_at dksX2_line_10 21 rfl rfl)
theorem dX2_line_306 : decode cX2_line 306 = .ok (.invokevirtual 169, 3) := dk_182 0 169 (dk_at dksX2_line_11 0 rfl rfl)
theorem dX2_line_309 : decode cX2_line 309 = .ok (.goto 44, 3) := dk_167 0 44 (dk_at dksX2_line_11 3 rfl rfl)
theorem dX2_line_312 : decode cX2_line 312 = .ok (.aload_n 0, 1) := dk_42 (dk_at dksX2_line_11 6 rfl rfl)
theorem dX2_line_313 : decode cX2_line 313 = .ok (.invokevirtual 171, 3) := dk_182 0 171 (dk_at dksX2_line_11 7 rfl rfl)
theorem dX2_line_316 : decode cX2_line 316 = .ok (.goto 37, 3) := dk_167 0 37 (dk_at dksX2_line_11 10 rfl rfl)
theorem dX2_line_319 : decode cX2_line 319 = .ok (.aload_n 0, 1) := dk_42 (dk_at dksX2_line_11 13 rfl rfl)
theorem dX2_line_320 : decode cX2_line 320 = .ok (.invokevirtual 173, 3) := dk_182 0 173 (dk_at dksX2_line_11 14 rfl rfl)
theorem dX2_line_323 : decode cX2_line 323 = .ok (.goto 30, 3) := dk_167 0 30 (dk_at dksX2_line_11 17 rfl rfl)
theorem dX2_line_326 : decode cX2_line 326 = .ok (.aload_n 0, 1) := dk_42 (dk_at dksX2_line_11 20 rfl rfl)
theorem dX2_line_327 : decode cX2_line 327 = .ok (.invokevirtual 175, 3) := dk_182 0 175 (dk_at dksX2_line_11 21 rfl rfl)
theorem dX2_line_330 : decode cX2_line 330 = .ok (.goto 23, 3) := dk_167 0 23 (dk_at dksX2_line_12 0 rfl rfl)
theorem dX2_line_333 : decode cX2_line 333 = .ok (.aload_n 0, 1) := dk_42 (dk_at dksX2_line_12 3 rfl rfl)
theorem dX2_line_334 : decode cX2_line 334 = .ok (.invokevirtual 177, 3) := dk_182 0 177 (dk_at dksX2_line_12 4 rfl rfl)
theorem dX2_line_337 : decode cX2_line 337 = .ok (.goto 16, 3) := dk_167 0 16 (dk_at dksX2_line_12 7 rfl rfl)
theorem dX2_line_340 : decode cX2_line 340 = .ok (.aload_n 0, 1) := dk_42 (dk_at dksX2_line_12 10 rfl rfl)
theorem dX2_line_341 : decode cX2_line 341 = .ok (.invokevirtual 179, 3) := dk_182 0 179 (dk_at dksX2_line_12 11 rfl rfl)
theorem dX2_line_344 : decode cX2_line 344 = .ok (.goto 9, 3) := dk_167 0 9 (dk_at dksX2_line_12 14 rfl rfl)
theorem dX2_line_347 : decode cX2_line 347 = .ok (.aload_n 0, 1) := dk_42 (dk_at dksX2_line_12 17 rfl rfl)
theorem dX2_line_348 : decode cX2_line 348 = .ok (.iconst 1, 1) := dk_4 (dk_at dksX2_line_12 18 rfl rfl)
theorem dX2_line_349 : decode cX2_line 349 = .ok (.invokevirtual 85, 3) := dk_182 0 85 (dk_at dksX2_line_12 19 rfl rfl)
theorem dX2_line_352 : decode cX2_line 352 = .ok (.athrow, 1) := dk_191 (dk_at dksX2_line_12 22 rfl rfl)
theorem dX2_line_353 : decode cX2_line 353 = .ok (.return_, 1) := dk_177 (dk_at dksX2_line_12 23 rfl rfl)
abbrev cX2_fail : ByteArray := prog_9_method_2_code
def yX2_fail : MethodName := ⟨RX2, "fail", "(I)LNeverUnseen$Refused;"⟩
def dkwX2_fail_0 : List UInt8 := [42, 180, 0, 12, 27, 42, 180, 0, 26, 182, 0, 30, 176]
abbrev dktX2_fail_0 : List UInt8 := dkwX2_fail_0 ++ []
theorem dksX2_fail_0 : cX2_fail.data.toList.drop 0 = dktX2_fail_0 := by decide +kernel
theorem dX2_fail_0 : decode cX2_fail 0 = .ok (.aload_n 0, 1) := dk_42 (dk_at dksX2_fail_0 0 rfl rfl)
theorem dX2_fail_1 : decode cX2_fail 1 = .ok (.getfield 12, 3) := dk_180 0 12 (dk_at dksX2_fail_0 1 rfl rfl)
theorem dX2_fail_4 : decode cX2_fail 4 = .ok (.iload_n 1, 1) := dk_27 (dk_at dksX2_fail_0 4 rfl rfl)
theorem dX2_fail_5 : decode cX2_fail 5 = .ok (.aload_n 0, 1) := dk_42 (dk_at dksX2_fail_0 5 rfl rfl)
theorem dX2_fail_6 : decode cX2_fail 6 = .ok (.getfield 26, 3) := dk_180 0 26 (dk_at dksX2_fail_0 6 rfl rfl)
theorem dX2_fail_9 : decode cX2_fail 9 = .ok (.invokevirtual 30, 3) := dk_182 0 30 (dk_at dksX2_fail_0 9 rfl rfl)
theorem dX2_fail_12 : decode cX2_fail 12 = .ok (.areturn, 1) := dk_176 (dk_at dksX2_fail_0 12 rfl rfl)
abbrev cX2_law : ByteArray := prog_9_method_21_code
def yX2_law : MethodName := ⟨RX2, "law", "()V"⟩
def dkwX2_law_4 : List UInt8 := [180, 0, 120, 42, 18, 205, 4, 16, 99, 182, 0, 187, 181, 0, 153, 177]
abbrev dktX2_law_4 : List UInt8 := dkwX2_law_4 ++ []
def dkwX2_law_3 : List UInt8 := [180, 0, 120, 42, 18, 201, 42, 180, 0, 120, 180, 0, 199, 16, 99, 182, 0, 187, 181, 0, 203, 42]
abbrev dktX2_law_3 : List UInt8 := dkwX2_law_3 ++ dktX2_law_4
def dkwX2_law_2 : List UInt8 := [182, 0, 187, 181, 0, 195, 42, 180, 0, 120, 42, 18, 197, 3, 16, 99, 182, 0, 187, 181, 0, 199, 42]
abbrev dktX2_law_2 : List UInt8 := dkwX2_law_2 ++ dktX2_law_3
def dkwX2_law_1 : List UInt8 := [42, 18, 185, 3, 16, 19, 182, 0, 187, 181, 0, 191, 42, 180, 0, 120, 42, 18, 193, 3, 16, 19]
abbrev dktX2_law_1 : List UInt8 := dkwX2_law_1 ++ dktX2_law_2
def dkwX2_law_0 : List UInt8 := [42, 42, 180, 0, 120, 180, 0, 153, 154, 0, 7, 4, 167, 0, 4, 3, 6, 182, 0, 181, 42, 180, 0, 120]
abbrev dktX2_law_0 : List UInt8 := dkwX2_law_0 ++ dktX2_law_1
theorem dksX2_law_0 : cX2_law.data.toList.drop 0 = dktX2_law_0 := by decide +kernel
theorem dksX2_law_1 : cX2_law.data.toList.drop 24 = dktX2_law_1 := dk_seg dksX2_law_0 24 rfl rfl
theorem dksX2_law_2 : cX2_law.data.toList.drop 46 = dktX2_law_2 := dk_seg dksX2_law_1 22 rfl rfl
theorem dksX2_law_3 : cX2_law.data.toList.drop 69 = dktX2_law_3 := dk_seg dksX2_law_2 23 rfl rfl
theorem dksX2_law_4 : cX2_law.data.toList.drop 91 = dktX2_law_4 := dk_seg dksX2_law_3 22 rfl rfl
theorem dX2_law_0 : decode cX2_law 0 = .ok (.aload_n 0, 1) := dk_42 (dk_at dksX2_law_0 0 rfl rfl)
theorem dX2_law_1 : decode cX2_law 1 = .ok (.aload_n 0, 1) := dk_42 (dk_at dksX2_law_0 1 rfl rfl)
theorem dX2_law_2 : decode cX2_law 2 = .ok (.getfield 120, 3) := dk_180 0 120 (dk_at dksX2_law_0 2 rfl rfl)
theorem dX2_law_5 : decode cX2_law 5 = .ok (.getfield 153, 3) := dk_180 0 153 (dk_at dksX2_law_0 5 rfl rfl)
theorem dX2_law_8 : decode cX2_law 8 = .ok (.ifCond .ne 7, 3) := dk_154 0 7 (dk_at dksX2_law_0 8 rfl rfl)
theorem dX2_law_11 : decode cX2_law 11 = .ok (.iconst 1, 1) := dk_4 (dk_at dksX2_law_0 11 rfl rfl)
theorem dX2_law_12 : decode cX2_law 12 = .ok (.goto 4, 3) := dk_167 0 4 (dk_at dksX2_law_0 12 rfl rfl)
theorem dX2_law_15 : decode cX2_law 15 = .ok (.iconst 0, 1) := dk_3 (dk_at dksX2_law_0 15 rfl rfl)
theorem dX2_law_16 : decode cX2_law 16 = .ok (.iconst 3, 1) := dk_6 (dk_at dksX2_law_0 16 rfl rfl)
theorem dX2_law_17 : decode cX2_law 17 = .ok (.invokevirtual 181, 3) := dk_182 0 181 (dk_at dksX2_law_0 17 rfl rfl)
theorem dX2_law_20 : decode cX2_law 20 = .ok (.aload_n 0, 1) := dk_42 (dk_at dksX2_law_0 20 rfl rfl)
theorem dX2_law_21 : decode cX2_law 21 = .ok (.getfield 120, 3) := dk_180 0 120 (dk_at dksX2_law_0 21 rfl rfl)
theorem dX2_law_24 : decode cX2_law 24 = .ok (.aload_n 0, 1) := dk_42 (dk_at dksX2_law_1 0 rfl rfl)
theorem dX2_law_25 : decode cX2_law 25 = .ok (.ldc 185, 2) := dk_18 185 (dk_at dksX2_law_1 1 rfl rfl)
theorem dX2_law_27 : decode cX2_law 27 = .ok (.iconst 0, 1) := dk_3 (dk_at dksX2_law_1 3 rfl rfl)
theorem dX2_law_28 : decode cX2_law 28 = .ok (.bipush 19, 2) := dk_16 19 (dk_at dksX2_law_1 4 rfl rfl)
theorem dX2_law_30 : decode cX2_law 30 = .ok (.invokevirtual 187, 3) := dk_182 0 187 (dk_at dksX2_law_1 6 rfl rfl)
theorem dX2_law_33 : decode cX2_law 33 = .ok (.putfield 191, 3) := dk_181 0 191 (dk_at dksX2_law_1 9 rfl rfl)
theorem dX2_law_36 : decode cX2_law 36 = .ok (.aload_n 0, 1) := dk_42 (dk_at dksX2_law_1 12 rfl rfl)
theorem dX2_law_37 : decode cX2_law 37 = .ok (.getfield 120, 3) := dk_180 0 120 (dk_at dksX2_law_1 13 rfl rfl)
theorem dX2_law_40 : decode cX2_law 40 = .ok (.aload_n 0, 1) := dk_42 (dk_at dksX2_law_1 16 rfl rfl)
theorem dX2_law_41 : decode cX2_law 41 = .ok (.ldc 193, 2) := dk_18 193 (dk_at dksX2_law_1 17 rfl rfl)
theorem dX2_law_43 : decode cX2_law 43 = .ok (.iconst 0, 1) := dk_3 (dk_at dksX2_law_1 19 rfl rfl)
theorem dX2_law_44 : decode cX2_law 44 = .ok (.bipush 19, 2) := dk_16 19 (dk_at dksX2_law_1 20 rfl rfl)
theorem dX2_law_46 : decode cX2_law 46 = .ok (.invokevirtual 187, 3) := dk_182 0 187 (dk_at dksX2_law_2 0 rfl rfl)
theorem dX2_law_49 : decode cX2_law 49 = .ok (.putfield 195, 3) := dk_181 0 195 (dk_at dksX2_law_2 3 rfl rfl)
theorem dX2_law_52 : decode cX2_law 52 = .ok (.aload_n 0, 1) := dk_42 (dk_at dksX2_law_2 6 rfl rfl)
theorem dX2_law_53 : decode cX2_law 53 = .ok (.getfield 120, 3) := dk_180 0 120 (dk_at dksX2_law_2 7 rfl rfl)
theorem dX2_law_56 : decode cX2_law 56 = .ok (.aload_n 0, 1) := dk_42 (dk_at dksX2_law_2 10 rfl rfl)
theorem dX2_law_57 : decode cX2_law 57 = .ok (.ldc 197, 2) := dk_18 197 (dk_at dksX2_law_2 11 rfl rfl)
theorem dX2_law_59 : decode cX2_law 59 = .ok (.iconst 0, 1) := dk_3 (dk_at dksX2_law_2 13 rfl rfl)
theorem dX2_law_60 : decode cX2_law 60 = .ok (.bipush 99, 2) := dk_16 99 (dk_at dksX2_law_2 14 rfl rfl)
theorem dX2_law_62 : decode cX2_law 62 = .ok (.invokevirtual 187, 3) := dk_182 0 187 (dk_at dksX2_law_2 16 rfl rfl)
theorem dX2_law_65 : decode cX2_law 65 = .ok (.putfield 199, 3) := dk_181 0 199 (dk_at dksX2_law_2 19 rfl rfl)
theorem dX2_law_68 : decode cX2_law 68 = .ok (.aload_n 0, 1) := dk_42 (dk_at dksX2_law_2 22 rfl rfl)
theorem dX2_law_69 : decode cX2_law 69 = .ok (.getfield 120, 3) := dk_180 0 120 (dk_at dksX2_law_3 0 rfl rfl)
theorem dX2_law_72 : decode cX2_law 72 = .ok (.aload_n 0, 1) := dk_42 (dk_at dksX2_law_3 3 rfl rfl)
theorem dX2_law_73 : decode cX2_law 73 = .ok (.ldc 201, 2) := dk_18 201 (dk_at dksX2_law_3 4 rfl rfl)
theorem dX2_law_75 : decode cX2_law 75 = .ok (.aload_n 0, 1) := dk_42 (dk_at dksX2_law_3 6 rfl rfl)
theorem dX2_law_76 : decode cX2_law 76 = .ok (.getfield 120, 3) := dk_180 0 120 (dk_at dksX2_law_3 7 rfl rfl)
theorem dX2_law_79 : decode cX2_law 79 = .ok (.getfield 199, 3) := dk_180 0 199 (dk_at dksX2_law_3 10 rfl rfl)
theorem dX2_law_82 : decode cX2_law 82 = .ok (.bipush 99, 2) := dk_16 99 (dk_at dksX2_law_3 13 rfl rfl)
theorem dX2_law_84 : decode cX2_law 84 = .ok (.invokevirtual 187, 3) := dk_182 0 187 (dk_at dksX2_law_3 15 rfl rfl)
theorem dX2_law_87 : decode cX2_law 87 = .ok (.putfield 203, 3) := dk_181 0 203 (dk_at dksX2_law_3 18 rfl rfl)
theorem dX2_law_90 : decode cX2_law 90 = .ok (.aload_n 0, 1) := dk_42 (dk_at dksX2_law_3 21 rfl rfl)
theorem dX2_law_91 : decode cX2_law 91 = .ok (.getfield 120, 3) := dk_180 0 120 (dk_at dksX2_law_4 0 rfl rfl)
theorem dX2_law_94 : decode cX2_law 94 = .ok (.aload_n 0, 1) := dk_42 (dk_at dksX2_law_4 3 rfl rfl)
theorem dX2_law_95 : decode cX2_law 95 = .ok (.ldc 205, 2) := dk_18 205 (dk_at dksX2_law_4 4 rfl rfl)
theorem dX2_law_97 : decode cX2_law 97 = .ok (.iconst 1, 1) := dk_4 (dk_at dksX2_law_4 6 rfl rfl)
theorem dX2_law_98 : decode cX2_law 98 = .ok (.bipush 99, 2) := dk_16 99 (dk_at dksX2_law_4 7 rfl rfl)
theorem dX2_law_100 : decode cX2_law 100 = .ok (.invokevirtual 187, 3) := dk_182 0 187 (dk_at dksX2_law_4 9 rfl rfl)
theorem dX2_law_103 : decode cX2_law 103 = .ok (.putfield 153, 3) := dk_181 0 153 (dk_at dksX2_law_4 12 rfl rfl)
theorem dX2_law_106 : decode cX2_law 106 = .ok (.return_, 1) := dk_177 (dk_at dksX2_law_4 15 rfl rfl)
abbrev cX2_begins : ByteArray := prog_9_method_18_code
def yX2_begins : MethodName := ⟨RX2, "begins", "(ZI)V"⟩
def dkwX2_begins_0 : List UInt8 := [27, 154, 0, 9, 42, 28, 182, 0, 85, 191, 42, 182, 0, 79, 177]
abbrev dktX2_begins_0 : List UInt8 := dkwX2_begins_0 ++ []
theorem dksX2_begins_0 : cX2_begins.data.toList.drop 0 = dktX2_begins_0 := by decide +kernel
theorem dX2_begins_0 : decode cX2_begins 0 = .ok (.iload_n 1, 1) := dk_27 (dk_at dksX2_begins_0 0 rfl rfl)
theorem dX2_begins_1 : decode cX2_begins 1 = .ok (.ifCond .ne 9, 3) := dk_154 0 9 (dk_at dksX2_begins_0 1 rfl rfl)
theorem dX2_begins_4 : decode cX2_begins 4 = .ok (.aload_n 0, 1) := dk_42 (dk_at dksX2_begins_0 4 rfl rfl)
theorem dX2_begins_5 : decode cX2_begins 5 = .ok (.iload_n 2, 1) := dk_28 (dk_at dksX2_begins_0 5 rfl rfl)
theorem dX2_begins_6 : decode cX2_begins 6 = .ok (.invokevirtual 85, 3) := dk_182 0 85 (dk_at dksX2_begins_0 6 rfl rfl)
theorem dX2_begins_9 : decode cX2_begins 9 = .ok (.athrow, 1) := dk_191 (dk_at dksX2_begins_0 9 rfl rfl)
theorem dX2_begins_10 : decode cX2_begins 10 = .ok (.aload_n 0, 1) := dk_42 (dk_at dksX2_begins_0 10 rfl rfl)
theorem dX2_begins_11 : decode cX2_begins 11 = .ok (.invokevirtual 79, 3) := dk_182 0 79 (dk_at dksX2_begins_0 11 rfl rfl)
theorem dX2_begins_14 : decode cX2_begins 14 = .ok (.return_, 1) := dk_177 (dk_at dksX2_begins_0 14 rfl rfl)
abbrev cX2_after : ByteArray := prog_9_method_16_code
def yX2_after : MethodName := ⟨RX2, "after", "(Ljava/lang/String;II)I"⟩
def dkwX2_after_0 : List UInt8 := [42, 43, 182, 0, 142, 42, 28, 29, 182, 0, 146, 172]
abbrev dktX2_after_0 : List UInt8 := dkwX2_after_0 ++ []
theorem dksX2_after_0 : cX2_after.data.toList.drop 0 = dktX2_after_0 := by decide +kernel
theorem dX2_after_0 : decode cX2_after 0 = .ok (.aload_n 0, 1) := dk_42 (dk_at dksX2_after_0 0 rfl rfl)
theorem dX2_after_1 : decode cX2_after 1 = .ok (.aload_n 1, 1) := dk_43 (dk_at dksX2_after_0 1 rfl rfl)
theorem dX2_after_2 : decode cX2_after 2 = .ok (.invokevirtual 142, 3) := dk_182 0 142 (dk_at dksX2_after_0 2 rfl rfl)
theorem dX2_after_5 : decode cX2_after 5 = .ok (.aload_n 0, 1) := dk_42 (dk_at dksX2_after_0 5 rfl rfl)
theorem dX2_after_6 : decode cX2_after 6 = .ok (.iload_n 2, 1) := dk_28 (dk_at dksX2_after_0 6 rfl rfl)
theorem dX2_after_7 : decode cX2_after 7 = .ok (.iload_n 3, 1) := dk_29 (dk_at dksX2_after_0 7 rfl rfl)
theorem dX2_after_8 : decode cX2_after 8 = .ok (.invokevirtual 146, 3) := dk_182 0 146 (dk_at dksX2_after_0 8 rfl rfl)
theorem dX2_after_11 : decode cX2_after 11 = .ok (.ireturn, 1) := dk_172 (dk_at dksX2_after_0 11 rfl rfl)
abbrev cX2_must : ByteArray := prog_9_method_9_code
def yX2_must : MethodName := ⟨RX2, "must", "(Ljava/lang/String;)V"⟩
def dkwX2_must_0 : List UInt8 := [42, 43, 182, 0, 82, 154, 0, 9, 42, 4, 182, 0, 85, 191, 177]
abbrev dktX2_must_0 : List UInt8 := dkwX2_must_0 ++ []
theorem dksX2_must_0 : cX2_must.data.toList.drop 0 = dktX2_must_0 := by decide +kernel
theorem dX2_must_0 : decode cX2_must 0 = .ok (.aload_n 0, 1) := dk_42 (dk_at dksX2_must_0 0 rfl rfl)
theorem dX2_must_1 : decode cX2_must 1 = .ok (.aload_n 1, 1) := dk_43 (dk_at dksX2_must_0 1 rfl rfl)
theorem dX2_must_2 : decode cX2_must 2 = .ok (.invokevirtual 82, 3) := dk_182 0 82 (dk_at dksX2_must_0 2 rfl rfl)
theorem dX2_must_5 : decode cX2_must 5 = .ok (.ifCond .ne 9, 3) := dk_154 0 9 (dk_at dksX2_must_0 5 rfl rfl)
theorem dX2_must_8 : decode cX2_must 8 = .ok (.aload_n 0, 1) := dk_42 (dk_at dksX2_must_0 8 rfl rfl)
theorem dX2_must_9 : decode cX2_must 9 = .ok (.iconst 1, 1) := dk_4 (dk_at dksX2_must_0 9 rfl rfl)
theorem dX2_must_10 : decode cX2_must 10 = .ok (.invokevirtual 85, 3) := dk_182 0 85 (dk_at dksX2_must_0 10 rfl rfl)
theorem dX2_must_13 : decode cX2_must 13 = .ok (.athrow, 1) := dk_191 (dk_at dksX2_must_0 13 rfl rfl)
theorem dX2_must_14 : decode cX2_must 14 = .ok (.return_, 1) := dk_177 (dk_at dksX2_must_0 14 rfl rfl)
abbrev cX2_takes : ByteArray := prog_9_method_8_code
def yX2_takes : MethodName := ⟨RX2, "takes", "(Ljava/lang/String;)Z"⟩
def dkwX2_takes_0 : List UInt8 := [42, 43, 182, 0, 75, 154, 0, 5, 3, 172, 42, 182, 0, 79, 4, 172]
abbrev dktX2_takes_0 : List UInt8 := dkwX2_takes_0 ++ []
theorem dksX2_takes_0 : cX2_takes.data.toList.drop 0 = dktX2_takes_0 := by decide +kernel
theorem dX2_takes_0 : decode cX2_takes 0 = .ok (.aload_n 0, 1) := dk_42 (dk_at dksX2_takes_0 0 rfl rfl)
theorem dX2_takes_1 : decode cX2_takes 1 = .ok (.aload_n 1, 1) := dk_43 (dk_at dksX2_takes_0 1 rfl rfl)
theorem dX2_takes_2 : decode cX2_takes 2 = .ok (.invokevirtual 75, 3) := dk_182 0 75 (dk_at dksX2_takes_0 2 rfl rfl)
theorem dX2_takes_5 : decode cX2_takes 5 = .ok (.ifCond .ne 5, 3) := dk_154 0 5 (dk_at dksX2_takes_0 5 rfl rfl)
theorem dX2_takes_8 : decode cX2_takes 8 = .ok (.iconst 0, 1) := dk_3 (dk_at dksX2_takes_0 8 rfl rfl)
theorem dX2_takes_9 : decode cX2_takes 9 = .ok (.ireturn, 1) := dk_172 (dk_at dksX2_takes_0 9 rfl rfl)
theorem dX2_takes_10 : decode cX2_takes 10 = .ok (.aload_n 0, 1) := dk_42 (dk_at dksX2_takes_0 10 rfl rfl)
theorem dX2_takes_11 : decode cX2_takes 11 = .ok (.invokevirtual 79, 3) := dk_182 0 79 (dk_at dksX2_takes_0 11 rfl rfl)
theorem dX2_takes_14 : decode cX2_takes 14 = .ok (.iconst 1, 1) := dk_4 (dk_at dksX2_takes_0 14 rfl rfl)
theorem dX2_takes_15 : decode cX2_takes 15 = .ok (.ireturn, 1) := dk_172 (dk_at dksX2_takes_0 15 rfl rfl)
abbrev cX2_isWord : ByteArray := prog_9_method_7_code
def yX2_isWord : MethodName := ⟨RX2, "isWord", "(Ljava/lang/String;)Z"⟩
def dkwX2_isWord_1 : List UInt8 := [172]
abbrev dktX2_isWord_1 : List UInt8 := dkwX2_isWord_1 ++ []
def dkwX2_isWord_0 : List UInt8 := [42, 180, 0, 47, 5, 160, 0, 18, 42, 180, 0, 61, 43, 182, 0, 71, 153, 0, 7, 4, 167, 0, 4, 3]
abbrev dktX2_isWord_0 : List UInt8 := dkwX2_isWord_0 ++ dktX2_isWord_1
theorem dksX2_isWord_0 : cX2_isWord.data.toList.drop 0 = dktX2_isWord_0 := by decide +kernel
theorem dksX2_isWord_1 : cX2_isWord.data.toList.drop 24 = dktX2_isWord_1 := dk_seg dksX2_isWord_0 24 rfl rfl
theorem dX2_isWord_0 : decode cX2_isWord 0 = .ok (.aload_n 0, 1) := dk_42 (dk_at dksX2_isWord_0 0 rfl rfl)
theorem dX2_isWord_1 : decode cX2_isWord 1 = .ok (.getfield 47, 3) := dk_180 0 47 (dk_at dksX2_isWord_0 1 rfl rfl)
theorem dX2_isWord_4 : decode cX2_isWord 4 = .ok (.iconst 2, 1) := dk_5 (dk_at dksX2_isWord_0 4 rfl rfl)
theorem dX2_isWord_5 : decode cX2_isWord 5 = .ok (.if_icmp .ne 18, 3) := dk_160 0 18 (dk_at dksX2_isWord_0 5 rfl rfl)
theorem dX2_isWord_8 : decode cX2_isWord 8 = .ok (.aload_n 0, 1) := dk_42 (dk_at dksX2_isWord_0 8 rfl rfl)
theorem dX2_isWord_9 : decode cX2_isWord 9 = .ok (.getfield 61, 3) := dk_180 0 61 (dk_at dksX2_isWord_0 9 rfl rfl)
theorem dX2_isWord_12 : decode cX2_isWord 12 = .ok (.aload_n 1, 1) := dk_43 (dk_at dksX2_isWord_0 12 rfl rfl)
theorem dX2_isWord_13 : decode cX2_isWord 13 = .ok (.invokevirtual 71, 3) := dk_182 0 71 (dk_at dksX2_isWord_0 13 rfl rfl)
theorem dX2_isWord_16 : decode cX2_isWord 16 = .ok (.ifCond .eq 7, 3) := dk_153 0 7 (dk_at dksX2_isWord_0 16 rfl rfl)
theorem dX2_isWord_19 : decode cX2_isWord 19 = .ok (.iconst 1, 1) := dk_4 (dk_at dksX2_isWord_0 19 rfl rfl)
theorem dX2_isWord_20 : decode cX2_isWord 20 = .ok (.goto 4, 3) := dk_167 0 4 (dk_at dksX2_isWord_0 20 rfl rfl)
theorem dX2_isWord_23 : decode cX2_isWord 23 = .ok (.iconst 0, 1) := dk_3 (dk_at dksX2_isWord_0 23 rfl rfl)
theorem dX2_isWord_24 : decode cX2_isWord 24 = .ok (.ireturn, 1) := dk_172 (dk_at dksX2_isWord_1 0 rfl rfl)
abbrev cX2_number : ByteArray := prog_9_method_15_code
def yX2_number : MethodName := ⟨RX2, "number", "(II)I"⟩
def dkwX2_number_1 : List UInt8 := [154, 0, 9, 42, 7, 182, 0, 85, 191, 42, 180, 0, 68, 62, 42, 182, 0, 79, 29, 172]
abbrev dktX2_number_1 : List UInt8 := dkwX2_number_1 ++ []
def dkwX2_number_0 : List UInt8 := [42, 180, 0, 47, 6, 159, 0, 9, 42, 4, 182, 0, 85, 191, 42, 180, 0, 68, 27, 28, 184, 0, 36]
abbrev dktX2_number_0 : List UInt8 := dkwX2_number_0 ++ dktX2_number_1
theorem dksX2_number_0 : cX2_number.data.toList.drop 0 = dktX2_number_0 := by decide +kernel
theorem dksX2_number_1 : cX2_number.data.toList.drop 23 = dktX2_number_1 := dk_seg dksX2_number_0 23 rfl rfl
theorem dX2_number_0 : decode cX2_number 0 = .ok (.aload_n 0, 1) := dk_42 (dk_at dksX2_number_0 0 rfl rfl)
theorem dX2_number_1 : decode cX2_number 1 = .ok (.getfield 47, 3) := dk_180 0 47 (dk_at dksX2_number_0 1 rfl rfl)
theorem dX2_number_4 : decode cX2_number 4 = .ok (.iconst 3, 1) := dk_6 (dk_at dksX2_number_0 4 rfl rfl)
theorem dX2_number_5 : decode cX2_number 5 = .ok (.if_icmp .eq 9, 3) := dk_159 0 9 (dk_at dksX2_number_0 5 rfl rfl)
theorem dX2_number_8 : decode cX2_number 8 = .ok (.aload_n 0, 1) := dk_42 (dk_at dksX2_number_0 8 rfl rfl)
theorem dX2_number_9 : decode cX2_number 9 = .ok (.iconst 1, 1) := dk_4 (dk_at dksX2_number_0 9 rfl rfl)
theorem dX2_number_10 : decode cX2_number 10 = .ok (.invokevirtual 85, 3) := dk_182 0 85 (dk_at dksX2_number_0 10 rfl rfl)
theorem dX2_number_13 : decode cX2_number 13 = .ok (.athrow, 1) := dk_191 (dk_at dksX2_number_0 13 rfl rfl)
theorem dX2_number_14 : decode cX2_number 14 = .ok (.aload_n 0, 1) := dk_42 (dk_at dksX2_number_0 14 rfl rfl)
theorem dX2_number_15 : decode cX2_number 15 = .ok (.getfield 68, 3) := dk_180 0 68 (dk_at dksX2_number_0 15 rfl rfl)
theorem dX2_number_18 : decode cX2_number 18 = .ok (.iload_n 1, 1) := dk_27 (dk_at dksX2_number_0 18 rfl rfl)
theorem dX2_number_19 : decode cX2_number 19 = .ok (.iload_n 2, 1) := dk_28 (dk_at dksX2_number_0 19 rfl rfl)
theorem dX2_number_20 : decode cX2_number 20 = .ok (.invokestatic 36, 3) := dk_184 0 36 (dk_at dksX2_number_0 20 rfl rfl)
theorem dX2_number_23 : decode cX2_number 23 = .ok (.ifCond .ne 9, 3) := dk_154 0 9 (dk_at dksX2_number_1 0 rfl rfl)
theorem dX2_number_26 : decode cX2_number 26 = .ok (.aload_n 0, 1) := dk_42 (dk_at dksX2_number_1 3 rfl rfl)
theorem dX2_number_27 : decode cX2_number 27 = .ok (.iconst 4, 1) := dk_7 (dk_at dksX2_number_1 4 rfl rfl)
theorem dX2_number_28 : decode cX2_number 28 = .ok (.invokevirtual 85, 3) := dk_182 0 85 (dk_at dksX2_number_1 5 rfl rfl)
theorem dX2_number_31 : decode cX2_number 31 = .ok (.athrow, 1) := dk_191 (dk_at dksX2_number_1 8 rfl rfl)
theorem dX2_number_32 : decode cX2_number 32 = .ok (.aload_n 0, 1) := dk_42 (dk_at dksX2_number_1 9 rfl rfl)
theorem dX2_number_33 : decode cX2_number 33 = .ok (.getfield 68, 3) := dk_180 0 68 (dk_at dksX2_number_1 10 rfl rfl)
theorem dX2_number_36 : decode cX2_number 36 = .ok (.istore_n 3, 1) := dk_62 (dk_at dksX2_number_1 13 rfl rfl)
theorem dX2_number_37 : decode cX2_number 37 = .ok (.aload_n 0, 1) := dk_42 (dk_at dksX2_number_1 14 rfl rfl)
theorem dX2_number_38 : decode cX2_number 38 = .ok (.invokevirtual 79, 3) := dk_182 0 79 (dk_at dksX2_number_1 15 rfl rfl)
theorem dX2_number_41 : decode cX2_number 41 = .ok (.iload_n 3, 1) := dk_29 (dk_at dksX2_number_1 18 rfl rfl)
theorem dX2_number_42 : decode cX2_number 42 = .ok (.ireturn, 1) := dk_172 (dk_at dksX2_number_1 19 rfl rfl)
abbrev cX2_placeLine : ByteArray := prog_9_method_22_code
def yX2_placeLine : MethodName := ⟨RX2, "placeLine", "()V"⟩
def dkwX2_placeLine_4 : List UInt8 := [96, 181, 0, 156, 177]
abbrev dktX2_placeLine_4 : List UInt8 := dkwX2_placeLine_4 ++ []
def dkwX2_placeLine_3 : List UInt8 := [180, 0, 120, 180, 0, 223, 42, 180, 0, 120, 180, 0, 156, 43, 83, 42, 180, 0, 120, 89, 180, 0, 156, 4]
abbrev dktX2_placeLine_3 : List UInt8 := dkwX2_placeLine_3 ++ dktX2_placeLine_4
def dkwX2_placeLine_2 : List UInt8 := [16, 19, 182, 0, 187, 181, 0, 214, 42, 182, 0, 217, 43, 42, 3, 16, 19, 182, 0, 146, 181, 0, 220, 42]
abbrev dktX2_placeLine_2 : List UInt8 := dkwX2_placeLine_2 ++ dktX2_placeLine_3
def dkwX2_placeLine_1 : List UInt8 := [187, 0, 130, 89, 42, 182, 0, 206, 42, 180, 0, 120, 180, 0, 156, 183, 0, 210, 76, 43, 42, 18, 213, 3]
abbrev dktX2_placeLine_1 : List UInt8 := dkwX2_placeLine_1 ++ dktX2_placeLine_2
def dkwX2_placeLine_0 : List UInt8 := [42, 42, 180, 0, 120, 180, 0, 156, 16, 10, 162, 0, 7, 4, 167, 0, 4, 3, 8, 182, 0, 181]
abbrev dktX2_placeLine_0 : List UInt8 := dkwX2_placeLine_0 ++ dktX2_placeLine_1
theorem dksX2_placeLine_0 : cX2_placeLine.data.toList.drop 0 = dktX2_placeLine_0 := by decide +kernel
theorem dksX2_placeLine_1 : cX2_placeLine.data.toList.drop 22 = dktX2_placeLine_1 := dk_seg dksX2_placeLine_0 22 rfl rfl
theorem dksX2_placeLine_2 : cX2_placeLine.data.toList.drop 46 = dktX2_placeLine_2 := dk_seg dksX2_placeLine_1 24 rfl rfl
theorem dksX2_placeLine_3 : cX2_placeLine.data.toList.drop 70 = dktX2_placeLine_3 := dk_seg dksX2_placeLine_2 24 rfl rfl
theorem dksX2_placeLine_4 : cX2_placeLine.data.toList.drop 94 = dktX2_placeLine_4 := dk_seg dksX2_placeLine_3 24 rfl rfl
theorem dX2_placeLine_0 : decode cX2_placeLine 0 = .ok (.aload_n 0, 1) := dk_42 (dk_at dksX2_placeLine_0 0 rfl rfl)
theorem dX2_placeLine_1 : decode cX2_placeLine 1 = .ok (.aload_n 0, 1) := dk_42 (dk_at dksX2_placeLine_0 1 rfl rfl)
theorem dX2_placeLine_2 : decode cX2_placeLine 2 = .ok (.getfield 120, 3) := dk_180 0 120 (dk_at dksX2_placeLine_0 2 rfl rfl)
theorem dX2_placeLine_5 : decode cX2_placeLine 5 = .ok (.getfield 156, 3) := dk_180 0 156 (dk_at dksX2_placeLine_0 5 rfl rfl)
theorem dX2_placeLine_8 : decode cX2_placeLine 8 = .ok (.bipush 10, 2) := dk_16 10 (dk_at dksX2_placeLine_0 8 rfl rfl)
theorem dX2_placeLine_10 : decode cX2_placeLine 10 = .ok (.if_icmp .ge 7, 3) := dk_162 0 7 (dk_at dksX2_placeLine_0 10 rfl rfl)
theorem dX2_placeLine_13 : decode cX2_placeLine 13 = .ok (.iconst 1, 1) := dk_4 (dk_at dksX2_placeLine_0 13 rfl rfl)
theorem dX2_placeLine_14 : decode cX2_placeLine 14 = .ok (.goto 4, 3) := dk_167 0 4 (dk_at dksX2_placeLine_0 14 rfl rfl)
theorem dX2_placeLine_17 : decode cX2_placeLine 17 = .ok (.iconst 0, 1) := dk_3 (dk_at dksX2_placeLine_0 17 rfl rfl)
theorem dX2_placeLine_18 : decode cX2_placeLine 18 = .ok (.iconst 5, 1) := dk_8 (dk_at dksX2_placeLine_0 18 rfl rfl)
theorem dX2_placeLine_19 : decode cX2_placeLine 19 = .ok (.invokevirtual 181, 3) := dk_182 0 181 (dk_at dksX2_placeLine_0 19 rfl rfl)
theorem dX2_placeLine_22 : decode cX2_placeLine 22 = .ok (.new 130, 3) := dk_187 0 130 (dk_at dksX2_placeLine_1 0 rfl rfl)
theorem dX2_placeLine_25 : decode cX2_placeLine 25 = .ok (.dup, 1) := dk_89 (dk_at dksX2_placeLine_1 3 rfl rfl)
theorem dX2_placeLine_26 : decode cX2_placeLine 26 = .ok (.aload_n 0, 1) := dk_42 (dk_at dksX2_placeLine_1 4 rfl rfl)
theorem dX2_placeLine_27 : decode cX2_placeLine 27 = .ok (.invokevirtual 206, 3) := dk_182 0 206 (dk_at dksX2_placeLine_1 5 rfl rfl)
theorem dX2_placeLine_30 : decode cX2_placeLine 30 = .ok (.aload_n 0, 1) := dk_42 (dk_at dksX2_placeLine_1 8 rfl rfl)
theorem dX2_placeLine_31 : decode cX2_placeLine 31 = .ok (.getfield 120, 3) := dk_180 0 120 (dk_at dksX2_placeLine_1 9 rfl rfl)
theorem dX2_placeLine_34 : decode cX2_placeLine 34 = .ok (.getfield 156, 3) := dk_180 0 156 (dk_at dksX2_placeLine_1 12 rfl rfl)
theorem dX2_placeLine_37 : decode cX2_placeLine 37 = .ok (.invokespecial 210, 3) := dk_183 0 210 (dk_at dksX2_placeLine_1 15 rfl rfl)
theorem dX2_placeLine_40 : decode cX2_placeLine 40 = .ok (.astore_n 1, 1) := dk_76 (dk_at dksX2_placeLine_1 18 rfl rfl)
theorem dX2_placeLine_41 : decode cX2_placeLine 41 = .ok (.aload_n 1, 1) := dk_43 (dk_at dksX2_placeLine_1 19 rfl rfl)
theorem dX2_placeLine_42 : decode cX2_placeLine 42 = .ok (.aload_n 0, 1) := dk_42 (dk_at dksX2_placeLine_1 20 rfl rfl)
theorem dX2_placeLine_43 : decode cX2_placeLine 43 = .ok (.ldc 213, 2) := dk_18 213 (dk_at dksX2_placeLine_1 21 rfl rfl)
theorem dX2_placeLine_45 : decode cX2_placeLine 45 = .ok (.iconst 0, 1) := dk_3 (dk_at dksX2_placeLine_1 23 rfl rfl)
theorem dX2_placeLine_46 : decode cX2_placeLine 46 = .ok (.bipush 19, 2) := dk_16 19 (dk_at dksX2_placeLine_2 0 rfl rfl)
theorem dX2_placeLine_48 : decode cX2_placeLine 48 = .ok (.invokevirtual 187, 3) := dk_182 0 187 (dk_at dksX2_placeLine_2 2 rfl rfl)
theorem dX2_placeLine_51 : decode cX2_placeLine 51 = .ok (.putfield 214, 3) := dk_181 0 214 (dk_at dksX2_placeLine_2 5 rfl rfl)
theorem dX2_placeLine_54 : decode cX2_placeLine 54 = .ok (.aload_n 0, 1) := dk_42 (dk_at dksX2_placeLine_2 8 rfl rfl)
theorem dX2_placeLine_55 : decode cX2_placeLine 55 = .ok (.invokevirtual 217, 3) := dk_182 0 217 (dk_at dksX2_placeLine_2 9 rfl rfl)
theorem dX2_placeLine_58 : decode cX2_placeLine 58 = .ok (.aload_n 1, 1) := dk_43 (dk_at dksX2_placeLine_2 12 rfl rfl)
theorem dX2_placeLine_59 : decode cX2_placeLine 59 = .ok (.aload_n 0, 1) := dk_42 (dk_at dksX2_placeLine_2 13 rfl rfl)
theorem dX2_placeLine_60 : decode cX2_placeLine 60 = .ok (.iconst 0, 1) := dk_3 (dk_at dksX2_placeLine_2 14 rfl rfl)
theorem dX2_placeLine_61 : decode cX2_placeLine 61 = .ok (.bipush 19, 2) := dk_16 19 (dk_at dksX2_placeLine_2 15 rfl rfl)
theorem dX2_placeLine_63 : decode cX2_placeLine 63 = .ok (.invokevirtual 146, 3) := dk_182 0 146 (dk_at dksX2_placeLine_2 17 rfl rfl)
theorem dX2_placeLine_66 : decode cX2_placeLine 66 = .ok (.putfield 220, 3) := dk_181 0 220 (dk_at dksX2_placeLine_2 20 rfl rfl)
theorem dX2_placeLine_69 : decode cX2_placeLine 69 = .ok (.aload_n 0, 1) := dk_42 (dk_at dksX2_placeLine_2 23 rfl rfl)
theorem dX2_placeLine_70 : decode cX2_placeLine 70 = .ok (.getfield 120, 3) := dk_180 0 120 (dk_at dksX2_placeLine_3 0 rfl rfl)
theorem dX2_placeLine_73 : decode cX2_placeLine 73 = .ok (.getfield 223, 3) := dk_180 0 223 (dk_at dksX2_placeLine_3 3 rfl rfl)
theorem dX2_placeLine_76 : decode cX2_placeLine 76 = .ok (.aload_n 0, 1) := dk_42 (dk_at dksX2_placeLine_3 6 rfl rfl)
theorem dX2_placeLine_77 : decode cX2_placeLine 77 = .ok (.getfield 120, 3) := dk_180 0 120 (dk_at dksX2_placeLine_3 7 rfl rfl)
theorem dX2_placeLine_80 : decode cX2_placeLine 80 = .ok (.getfield 156, 3) := dk_180 0 156 (dk_at dksX2_placeLine_3 10 rfl rfl)
theorem dX2_placeLine_83 : decode cX2_placeLine 83 = .ok (.aload_n 1, 1) := dk_43 (dk_at dksX2_placeLine_3 13 rfl rfl)
theorem dX2_placeLine_84 : decode cX2_placeLine 84 = .ok (.aastore, 1) := dk_83 (dk_at dksX2_placeLine_3 14 rfl rfl)
theorem dX2_placeLine_85 : decode cX2_placeLine 85 = .ok (.aload_n 0, 1) := dk_42 (dk_at dksX2_placeLine_3 15 rfl rfl)
theorem dX2_placeLine_86 : decode cX2_placeLine 86 = .ok (.getfield 120, 3) := dk_180 0 120 (dk_at dksX2_placeLine_3 16 rfl rfl)
theorem dX2_placeLine_89 : decode cX2_placeLine 89 = .ok (.dup, 1) := dk_89 (dk_at dksX2_placeLine_3 19 rfl rfl)
theorem dX2_placeLine_90 : decode cX2_placeLine 90 = .ok (.getfield 156, 3) := dk_180 0 156 (dk_at dksX2_placeLine_3 20 rfl rfl)
theorem dX2_placeLine_93 : decode cX2_placeLine 93 = .ok (.iconst 1, 1) := dk_4 (dk_at dksX2_placeLine_3 23 rfl rfl)
theorem dX2_placeLine_94 : decode cX2_placeLine 94 = .ok (.iadd, 1) := dk_96 (dk_at dksX2_placeLine_4 0 rfl rfl)
theorem dX2_placeLine_95 : decode cX2_placeLine 95 = .ok (.putfield 156, 3) := dk_181 0 156 (dk_at dksX2_placeLine_4 1 rfl rfl)
theorem dX2_placeLine_98 : decode cX2_placeLine 98 = .ok (.return_, 1) := dk_177 (dk_at dksX2_placeLine_4 4 rfl rfl)
abbrev cX2_newName : ByteArray := prog_9_method_11_code
def yX2_newName : MethodName := ⟨RX2, "newName", "()Ljava/lang/String;"⟩
def dkwX2_newName_1 : List UInt8 := [42, 180, 0, 61, 76, 42, 182, 0, 79, 43, 176]
abbrev dktX2_newName_1 : List UInt8 := dkwX2_newName_1 ++ []
def dkwX2_newName_0 : List UInt8 := [42, 182, 0, 117, 42, 180, 0, 120, 42, 180, 0, 61, 182, 0, 124, 198, 0, 9, 42, 6, 182, 0, 85, 191]
abbrev dktX2_newName_0 : List UInt8 := dkwX2_newName_0 ++ dktX2_newName_1
theorem dksX2_newName_0 : cX2_newName.data.toList.drop 0 = dktX2_newName_0 := by decide +kernel
theorem dksX2_newName_1 : cX2_newName.data.toList.drop 24 = dktX2_newName_1 := dk_seg dksX2_newName_0 24 rfl rfl
theorem dX2_newName_0 : decode cX2_newName 0 = .ok (.aload_n 0, 1) := dk_42 (dk_at dksX2_newName_0 0 rfl rfl)
theorem dX2_newName_1 : decode cX2_newName 1 = .ok (.invokevirtual 117, 3) := dk_182 0 117 (dk_at dksX2_newName_0 1 rfl rfl)
theorem dX2_newName_4 : decode cX2_newName 4 = .ok (.aload_n 0, 1) := dk_42 (dk_at dksX2_newName_0 4 rfl rfl)
theorem dX2_newName_5 : decode cX2_newName 5 = .ok (.getfield 120, 3) := dk_180 0 120 (dk_at dksX2_newName_0 5 rfl rfl)
theorem dX2_newName_8 : decode cX2_newName 8 = .ok (.aload_n 0, 1) := dk_42 (dk_at dksX2_newName_0 8 rfl rfl)
theorem dX2_newName_9 : decode cX2_newName 9 = .ok (.getfield 61, 3) := dk_180 0 61 (dk_at dksX2_newName_0 9 rfl rfl)
theorem dX2_newName_12 : decode cX2_newName 12 = .ok (.invokevirtual 124, 3) := dk_182 0 124 (dk_at dksX2_newName_0 12 rfl rfl)
theorem dX2_newName_15 : decode cX2_newName 15 = .ok (.ifnull 9, 3) := dk_198 0 9 (dk_at dksX2_newName_0 15 rfl rfl)
theorem dX2_newName_18 : decode cX2_newName 18 = .ok (.aload_n 0, 1) := dk_42 (dk_at dksX2_newName_0 18 rfl rfl)
theorem dX2_newName_19 : decode cX2_newName 19 = .ok (.iconst 3, 1) := dk_6 (dk_at dksX2_newName_0 19 rfl rfl)
theorem dX2_newName_20 : decode cX2_newName 20 = .ok (.invokevirtual 85, 3) := dk_182 0 85 (dk_at dksX2_newName_0 20 rfl rfl)
theorem dX2_newName_23 : decode cX2_newName 23 = .ok (.athrow, 1) := dk_191 (dk_at dksX2_newName_0 23 rfl rfl)
theorem dX2_newName_24 : decode cX2_newName 24 = .ok (.aload_n 0, 1) := dk_42 (dk_at dksX2_newName_1 0 rfl rfl)
theorem dX2_newName_25 : decode cX2_newName 25 = .ok (.getfield 61, 3) := dk_180 0 61 (dk_at dksX2_newName_1 1 rfl rfl)
theorem dX2_newName_28 : decode cX2_newName 28 = .ok (.astore_n 1, 1) := dk_76 (dk_at dksX2_newName_1 4 rfl rfl)
theorem dX2_newName_29 : decode cX2_newName 29 = .ok (.aload_n 0, 1) := dk_42 (dk_at dksX2_newName_1 5 rfl rfl)
theorem dX2_newName_30 : decode cX2_newName 30 = .ok (.invokevirtual 79, 3) := dk_182 0 79 (dk_at dksX2_newName_1 6 rfl rfl)
theorem dX2_newName_33 : decode cX2_newName 33 = .ok (.aload_n 1, 1) := dk_43 (dk_at dksX2_newName_1 9 rfl rfl)
theorem dX2_newName_34 : decode cX2_newName 34 = .ok (.areturn, 1) := dk_176 (dk_at dksX2_newName_1 10 rfl rfl)
abbrev cX2_mustName : ByteArray := prog_9_method_10_code
def yX2_mustName : MethodName := ⟨RX2, "mustName", "()V"⟩
def dkwX2_mustName_12 : List UInt8 := [42, 4, 182, 0, 85, 191, 177]
abbrev dktX2_mustName_12 : List UInt8 := dkwX2_mustName_12 ++ []
def dkwX2_mustName_11 : List UInt8 := [170, 0, 0, 0, 0, 0, 0, 70, 0, 0, 0, 0, 0, 0, 0, 11, 0, 0, 0, 64, 0, 0, 0, 64, 0, 0, 0, 64, 0, 0, 0, 64, 0, 0, 0, 64, 0, 0, 0, 64, 0, 0, 0, 64, 0, 0, 0, 64, 0, 0, 0, 64, 0, 0, 0, 64, 0, 0, 0, 64, 0, 0, 0, 64]
abbrev dktX2_mustName_11 : List UInt8 := dkwX2_mustName_11 ++ dktX2_mustName_12
def dkwX2_mustName_10 : List UInt8 := [153, 0, 6, 16, 11, 61, 28]
abbrev dktX2_mustName_10 : List UInt8 := dkwX2_mustName_10 ++ dktX2_mustName_11
def dkwX2_mustName_9 : List UInt8 := [167, 0, 30, 43, 18, 113, 182, 0, 71, 153, 0, 21, 16, 10, 61, 167, 0, 15, 43, 18, 115, 182, 0, 71]
abbrev dktX2_mustName_9 : List UInt8 := dkwX2_mustName_9 ++ dktX2_mustName_10
def dkwX2_mustName_8 : List UInt8 := [182, 0, 71, 153, 0, 51, 16, 8, 61, 167, 0, 45, 43, 18, 111, 182, 0, 71, 153, 0, 36, 16, 9, 61]
abbrev dktX2_mustName_8 : List UInt8 := dkwX2_mustName_8 ++ dktX2_mustName_9
def dkwX2_mustName_7 : List UInt8 := [61, 167, 0, 75, 43, 18, 107, 182, 0, 71, 153, 0, 66, 16, 7, 61, 167, 0, 60, 43, 18, 109]
abbrev dktX2_mustName_7 : List UInt8 := dkwX2_mustName_7 ++ dktX2_mustName_8
def dkwX2_mustName_6 : List UInt8 := [18, 103, 182, 0, 71, 153, 0, 95, 8, 61, 167, 0, 90, 43, 18, 105, 182, 0, 71, 153, 0, 81, 16, 6]
abbrev dktX2_mustName_6 : List UInt8 := dkwX2_mustName_6 ++ dktX2_mustName_7
def dkwX2_mustName_5 : List UInt8 := [153, 0, 123, 6, 61, 167, 0, 118, 43, 18, 101, 182, 0, 71, 153, 0, 109, 7, 61, 167, 0, 104, 43]
abbrev dktX2_mustName_5 : List UInt8 := dkwX2_mustName_5 ++ dktX2_mustName_6
def dkwX2_mustName_4 : List UInt8 := [61, 167, 0, 146, 43, 18, 97, 182, 0, 71, 153, 0, 137, 5, 61, 167, 0, 132, 43, 18, 99, 182, 0, 71]
abbrev dktX2_mustName_4 : List UInt8 := dkwX2_mustName_4 ++ dktX2_mustName_5
def dkwX2_mustName_3 : List UInt8 := [43, 18, 93, 182, 0, 71, 153, 0, 165, 3, 61, 167, 0, 160, 43, 18, 95, 182, 0, 71, 153, 0, 151, 4]
abbrev dktX2_mustName_3 : List UInt8 := dkwX2_mustName_3 ++ dktX2_mustName_4
def dkwX2_mustName_2 : List UInt8 := [171, 0, 0, 0, 0, 1, 22, 0, 0, 0, 12, 178, 213, 58, 82, 0, 0, 0, 251, 191, 253, 107, 191, 0, 0, 0, 163, 196, 227, 155, 85, 0, 0, 0, 177, 202, 94, 172, 124, 0, 0, 0, 221, 0, 1, 140, 190, 0, 0, 1, 10, 0, 1, 161, 162, 0, 0, 0, 107, 0, 1, 202, 239, 0, 0, 0, 149, 0, 45, 226, 238, 0, 0, 0, 206, 0, 46, 4, 214, 0, 0, 0, 191, 0, 52, 98, 218, 0, 0, 0, 236, 0, 55, 145, 202, 0, 0, 0, 135, 6, 92, 217, 7, 0, 0, 0, 121]
abbrev dktX2_mustName_2 : List UInt8 := dkwX2_mustName_2 ++ dktX2_mustName_3
def dkwX2_mustName_1 : List UInt8 := [182, 0, 89]
abbrev dktX2_mustName_1 : List UInt8 := dkwX2_mustName_1 ++ dktX2_mustName_2
def dkwX2_mustName_0 : List UInt8 := [42, 180, 0, 47, 5, 159, 0, 9, 42, 4, 182, 0, 85, 191, 42, 180, 0, 61, 76, 2, 61, 43]
abbrev dktX2_mustName_0 : List UInt8 := dkwX2_mustName_0 ++ dktX2_mustName_1
theorem dksX2_mustName_0 : cX2_mustName.data.toList.drop 0 = dktX2_mustName_0 := by decide +kernel
theorem dksX2_mustName_1 : cX2_mustName.data.toList.drop 22 = dktX2_mustName_1 := dk_seg dksX2_mustName_0 22 rfl rfl
theorem dksX2_mustName_2 : cX2_mustName.data.toList.drop 25 = dktX2_mustName_2 := dk_seg dksX2_mustName_1 3 rfl rfl
theorem dksX2_mustName_3 : cX2_mustName.data.toList.drop 132 = dktX2_mustName_3 := dk_seg dksX2_mustName_2 107 rfl rfl
theorem dksX2_mustName_4 : cX2_mustName.data.toList.drop 156 = dktX2_mustName_4 := dk_seg dksX2_mustName_3 24 rfl rfl
theorem dksX2_mustName_5 : cX2_mustName.data.toList.drop 180 = dktX2_mustName_5 := dk_seg dksX2_mustName_4 24 rfl rfl
theorem dksX2_mustName_6 : cX2_mustName.data.toList.drop 203 = dktX2_mustName_6 := dk_seg dksX2_mustName_5 23 rfl rfl
theorem dksX2_mustName_7 : cX2_mustName.data.toList.drop 227 = dktX2_mustName_7 := dk_seg dksX2_mustName_6 24 rfl rfl
theorem dksX2_mustName_8 : cX2_mustName.data.toList.drop 249 = dktX2_mustName_8 := dk_seg dksX2_mustName_7 22 rfl rfl
theorem dksX2_mustName_9 : cX2_mustName.data.toList.drop 273 = dktX2_mustName_9 := dk_seg dksX2_mustName_8 24 rfl rfl
theorem dksX2_mustName_10 : cX2_mustName.data.toList.drop 297 = dktX2_mustName_10 := dk_seg dksX2_mustName_9 24 rfl rfl
theorem dksX2_mustName_11 : cX2_mustName.data.toList.drop 304 = dktX2_mustName_11 := dk_seg dksX2_mustName_10 7 rfl rfl
theorem dksX2_mustName_12 : cX2_mustName.data.toList.drop 368 = dktX2_mustName_12 := dk_seg dksX2_mustName_11 64 rfl rfl
theorem dX2_mustName_0 : decode cX2_mustName 0 = .ok (.aload_n 0, 1) := dk_42 (dk_at dksX2_mustName_0 0 rfl rfl)
theorem dX2_mustName_1 : decode cX2_mustName 1 = .ok (.getfield 47, 3) := dk_180 0 47 (dk_at dksX2_mustName_0 1 rfl rfl)
theorem dX2_mustName_4 : decode cX2_mustName 4 = .ok (.iconst 2, 1) := dk_5 (dk_at dksX2_mustName_0 4 rfl rfl)
theorem dX2_mustName_5 : decode cX2_mustName 5 = .ok (.if_icmp .eq 9, 3) := dk_159 0 9 (dk_at dksX2_mustName_0 5 rfl rfl)
theorem dX2_mustName_8 : decode cX2_mustName 8 = .ok (.aload_n 0, 1) := dk_42 (dk_at dksX2_mustName_0 8 rfl rfl)
theorem dX2_mustName_9 : decode cX2_mustName 9 = .ok (.iconst 1, 1) := dk_4 (dk_at dksX2_mustName_0 9 rfl rfl)
theorem dX2_mustName_10 : decode cX2_mustName 10 = .ok (.invokevirtual 85, 3) := dk_182 0 85 (dk_at dksX2_mustName_0 10 rfl rfl)
theorem dX2_mustName_13 : decode cX2_mustName 13 = .ok (.athrow, 1) := dk_191 (dk_at dksX2_mustName_0 13 rfl rfl)
theorem dX2_mustName_14 : decode cX2_mustName 14 = .ok (.aload_n 0, 1) := dk_42 (dk_at dksX2_mustName_0 14 rfl rfl)
theorem dX2_mustName_15 : decode cX2_mustName 15 = .ok (.getfield 61, 3) := dk_180 0 61 (dk_at dksX2_mustName_0 15 rfl rfl)
theorem dX2_mustName_18 : decode cX2_mustName 18 = .ok (.astore_n 1, 1) := dk_76 (dk_at dksX2_mustName_0 18 rfl rfl)
theorem dX2_mustName_19 : decode cX2_mustName 19 = .ok (.iconst (-1), 1) := dk_2 (dk_at dksX2_mustName_0 19 rfl rfl)
theorem dX2_mustName_20 : decode cX2_mustName 20 = .ok (.istore_n 2, 1) := dk_61 (dk_at dksX2_mustName_0 20 rfl rfl)
theorem dX2_mustName_21 : decode cX2_mustName 21 = .ok (.aload_n 1, 1) := dk_43 (dk_at dksX2_mustName_0 21 rfl rfl)
theorem dX2_mustName_22 : decode cX2_mustName 22 = .ok (.invokevirtual 89, 3) := dk_182 0 89 (dk_at dksX2_mustName_1 0 rfl rfl)
theorem dX2_mustName_25 : decode cX2_mustName 25 = .ok (.lookupswitch 278 #[(-1294648750, 251), (-1073910849, 163), (-991716523, 177), (-899765124, 221), (101566, 266), (106914, 107), (117487, 149), (3007214, 206), (3015894, 191), (3433178, 236), (3641802, 135), (106748167, 121)], 107) := by decide +kernel
theorem dX2_mustName_132 : decode cX2_mustName 132 = .ok (.aload_n 1, 1) := dk_43 (dk_at dksX2_mustName_3 0 rfl rfl)
theorem dX2_mustName_133 : decode cX2_mustName 133 = .ok (.ldc 93, 2) := dk_18 93 (dk_at dksX2_mustName_3 1 rfl rfl)
theorem dX2_mustName_135 : decode cX2_mustName 135 = .ok (.invokevirtual 71, 3) := dk_182 0 71 (dk_at dksX2_mustName_3 3 rfl rfl)
theorem dX2_mustName_138 : decode cX2_mustName 138 = .ok (.ifCond .eq 165, 3) := dk_153 0 165 (dk_at dksX2_mustName_3 6 rfl rfl)
theorem dX2_mustName_141 : decode cX2_mustName 141 = .ok (.iconst 0, 1) := dk_3 (dk_at dksX2_mustName_3 9 rfl rfl)
theorem dX2_mustName_142 : decode cX2_mustName 142 = .ok (.istore_n 2, 1) := dk_61 (dk_at dksX2_mustName_3 10 rfl rfl)
theorem dX2_mustName_143 : decode cX2_mustName 143 = .ok (.goto 160, 3) := dk_167 0 160 (dk_at dksX2_mustName_3 11 rfl rfl)
theorem dX2_mustName_146 : decode cX2_mustName 146 = .ok (.aload_n 1, 1) := dk_43 (dk_at dksX2_mustName_3 14 rfl rfl)
theorem dX2_mustName_147 : decode cX2_mustName 147 = .ok (.ldc 95, 2) := dk_18 95 (dk_at dksX2_mustName_3 15 rfl rfl)
theorem dX2_mustName_149 : decode cX2_mustName 149 = .ok (.invokevirtual 71, 3) := dk_182 0 71 (dk_at dksX2_mustName_3 17 rfl rfl)
theorem dX2_mustName_152 : decode cX2_mustName 152 = .ok (.ifCond .eq 151, 3) := dk_153 0 151 (dk_at dksX2_mustName_3 20 rfl rfl)
theorem dX2_mustName_155 : decode cX2_mustName 155 = .ok (.iconst 1, 1) := dk_4 (dk_at dksX2_mustName_3 23 rfl rfl)
theorem dX2_mustName_156 : decode cX2_mustName 156 = .ok (.istore_n 2, 1) := dk_61 (dk_at dksX2_mustName_4 0 rfl rfl)
theorem dX2_mustName_157 : decode cX2_mustName 157 = .ok (.goto 146, 3) := dk_167 0 146 (dk_at dksX2_mustName_4 1 rfl rfl)
theorem dX2_mustName_160 : decode cX2_mustName 160 = .ok (.aload_n 1, 1) := dk_43 (dk_at dksX2_mustName_4 4 rfl rfl)
theorem dX2_mustName_161 : decode cX2_mustName 161 = .ok (.ldc 97, 2) := dk_18 97 (dk_at dksX2_mustName_4 5 rfl rfl)
theorem dX2_mustName_163 : decode cX2_mustName 163 = .ok (.invokevirtual 71, 3) := dk_182 0 71 (dk_at dksX2_mustName_4 7 rfl rfl)
theorem dX2_mustName_166 : decode cX2_mustName 166 = .ok (.ifCond .eq 137, 3) := dk_153 0 137 (dk_at dksX2_mustName_4 10 rfl rfl)
theorem dX2_mustName_169 : decode cX2_mustName 169 = .ok (.iconst 2, 1) := dk_5 (dk_at dksX2_mustName_4 13 rfl rfl)
theorem dX2_mustName_170 : decode cX2_mustName 170 = .ok (.istore_n 2, 1) := dk_61 (dk_at dksX2_mustName_4 14 rfl rfl)
theorem dX2_mustName_171 : decode cX2_mustName 171 = .ok (.goto 132, 3) := dk_167 0 132 (dk_at dksX2_mustName_4 15 rfl rfl)
theorem dX2_mustName_174 : decode cX2_mustName 174 = .ok (.aload_n 1, 1) := dk_43 (dk_at dksX2_mustName_4 18 rfl rfl)
theorem dX2_mustName_175 : decode cX2_mustName 175 = .ok (.ldc 99, 2) := dk_18 99 (dk_at dksX2_mustName_4 19 rfl rfl)
theorem dX2_mustName_177 : decode cX2_mustName 177 = .ok (.invokevirtual 71, 3) := dk_182 0 71 (dk_at dksX2_mustName_4 21 rfl rfl)
theorem dX2_mustName_180 : decode cX2_mustName 180 = .ok (.ifCond .eq 123, 3) := dk_153 0 123 (dk_at dksX2_mustName_5 0 rfl rfl)
theorem dX2_mustName_183 : decode cX2_mustName 183 = .ok (.iconst 3, 1) := dk_6 (dk_at dksX2_mustName_5 3 rfl rfl)
theorem dX2_mustName_184 : decode cX2_mustName 184 = .ok (.istore_n 2, 1) := dk_61 (dk_at dksX2_mustName_5 4 rfl rfl)
theorem dX2_mustName_185 : decode cX2_mustName 185 = .ok (.goto 118, 3) := dk_167 0 118 (dk_at dksX2_mustName_5 5 rfl rfl)
theorem dX2_mustName_188 : decode cX2_mustName 188 = .ok (.aload_n 1, 1) := dk_43 (dk_at dksX2_mustName_5 8 rfl rfl)
theorem dX2_mustName_189 : decode cX2_mustName 189 = .ok (.ldc 101, 2) := dk_18 101 (dk_at dksX2_mustName_5 9 rfl rfl)
theorem dX2_mustName_191 : decode cX2_mustName 191 = .ok (.invokevirtual 71, 3) := dk_182 0 71 (dk_at dksX2_mustName_5 11 rfl rfl)
theorem dX2_mustName_194 : decode cX2_mustName 194 = .ok (.ifCond .eq 109, 3) := dk_153 0 109 (dk_at dksX2_mustName_5 14 rfl rfl)
theorem dX2_mustName_197 : decode cX2_mustName 197 = .ok (.iconst 4, 1) := dk_7 (dk_at dksX2_mustName_5 17 rfl rfl)
theorem dX2_mustName_198 : decode cX2_mustName 198 = .ok (.istore_n 2, 1) := dk_61 (dk_at dksX2_mustName_5 18 rfl rfl)
theorem dX2_mustName_199 : decode cX2_mustName 199 = .ok (.goto 104, 3) := dk_167 0 104 (dk_at dksX2_mustName_5 19 rfl rfl)
theorem dX2_mustName_202 : decode cX2_mustName 202 = .ok (.aload_n 1, 1) := dk_43 (dk_at dksX2_mustName_5 22 rfl rfl)
theorem dX2_mustName_203 : decode cX2_mustName 203 = .ok (.ldc 103, 2) := dk_18 103 (dk_at dksX2_mustName_6 0 rfl rfl)
theorem dX2_mustName_205 : decode cX2_mustName 205 = .ok (.invokevirtual 71, 3) := dk_182 0 71 (dk_at dksX2_mustName_6 2 rfl rfl)
theorem dX2_mustName_208 : decode cX2_mustName 208 = .ok (.ifCond .eq 95, 3) := dk_153 0 95 (dk_at dksX2_mustName_6 5 rfl rfl)
theorem dX2_mustName_211 : decode cX2_mustName 211 = .ok (.iconst 5, 1) := dk_8 (dk_at dksX2_mustName_6 8 rfl rfl)
theorem dX2_mustName_212 : decode cX2_mustName 212 = .ok (.istore_n 2, 1) := dk_61 (dk_at dksX2_mustName_6 9 rfl rfl)
theorem dX2_mustName_213 : decode cX2_mustName 213 = .ok (.goto 90, 3) := dk_167 0 90 (dk_at dksX2_mustName_6 10 rfl rfl)
theorem dX2_mustName_216 : decode cX2_mustName 216 = .ok (.aload_n 1, 1) := dk_43 (dk_at dksX2_mustName_6 13 rfl rfl)
theorem dX2_mustName_217 : decode cX2_mustName 217 = .ok (.ldc 105, 2) := dk_18 105 (dk_at dksX2_mustName_6 14 rfl rfl)
theorem dX2_mustName_219 : decode cX2_mustName 219 = .ok (.invokevirtual 71, 3) := dk_182 0 71 (dk_at dksX2_mustName_6 16 rfl rfl)
theorem dX2_mustName_222 : decode cX2_mustName 222 = .ok (.ifCond .eq 81, 3) := dk_153 0 81 (dk_at dksX2_mustName_6 19 rfl rfl)
theorem dX2_mustName_225 : decode cX2_mustName 225 = .ok (.bipush 6, 2) := dk_16 6 (dk_at dksX2_mustName_6 22 rfl rfl)
theorem dX2_mustName_227 : decode cX2_mustName 227 = .ok (.istore_n 2, 1) := dk_61 (dk_at dksX2_mustName_7 0 rfl rfl)
theorem dX2_mustName_228 : decode cX2_mustName 228 = .ok (.goto 75, 3) := dk_167 0 75 (dk_at dksX2_mustName_7 1 rfl rfl)
theorem dX2_mustName_231 : decode cX2_mustName 231 = .ok (.aload_n 1, 1) := dk_43 (dk_at dksX2_mustName_7 4 rfl rfl)
theorem dX2_mustName_232 : decode cX2_mustName 232 = .ok (.ldc 107, 2) := dk_18 107 (dk_at dksX2_mustName_7 5 rfl rfl)
theorem dX2_mustName_234 : decode cX2_mustName 234 = .ok (.invokevirtual 71, 3) := dk_182 0 71 (dk_at dksX2_mustName_7 7 rfl rfl)
theorem dX2_mustName_237 : decode cX2_mustName 237 = .ok (.ifCond .eq 66, 3) := dk_153 0 66 (dk_at dksX2_mustName_7 10 rfl rfl)
theorem dX2_mustName_240 : decode cX2_mustName 240 = .ok (.bipush 7, 2) := dk_16 7 (dk_at dksX2_mustName_7 13 rfl rfl)
theorem dX2_mustName_242 : decode cX2_mustName 242 = .ok (.istore_n 2, 1) := dk_61 (dk_at dksX2_mustName_7 15 rfl rfl)
theorem dX2_mustName_243 : decode cX2_mustName 243 = .ok (.goto 60, 3) := dk_167 0 60 (dk_at dksX2_mustName_7 16 rfl rfl)
theorem dX2_mustName_246 : decode cX2_mustName 246 = .ok (.aload_n 1, 1) := dk_43 (dk_at dksX2_mustName_7 19 rfl rfl)
theorem dX2_mustName_247 : decode cX2_mustName 247 = .ok (.ldc 109, 2) := dk_18 109 (dk_at dksX2_mustName_7 20 rfl rfl)
theorem dX2_mustName_249 : decode cX2_mustName 249 = .ok (.invokevirtual 71, 3) := dk_182 0 71 (dk_at dksX2_mustName_8 0 rfl rfl)
theorem dX2_mustName_252 : decode cX2_mustName 252 = .ok (.ifCond .eq 51, 3) := dk_153 0 51 (dk_at dksX2_mustName_8 3 rfl rfl)
theorem dX2_mustName_255 : decode cX2_mustName 255 = .ok (.bipush 8, 2) := dk_16 8 (dk_at dksX2_mustName_8 6 rfl rfl)
theorem dX2_mustName_257 : decode cX2_mustName 257 = .ok (.istore_n 2, 1) := dk_61 (dk_at dksX2_mustName_8 8 rfl rfl)
theorem dX2_mustName_258 : decode cX2_mustName 258 = .ok (.goto 45, 3) := dk_167 0 45 (dk_at dksX2_mustName_8 9 rfl rfl)
theorem dX2_mustName_261 : decode cX2_mustName 261 = .ok (.aload_n 1, 1) := dk_43 (dk_at dksX2_mustName_8 12 rfl rfl)
theorem dX2_mustName_262 : decode cX2_mustName 262 = .ok (.ldc 111, 2) := dk_18 111 (dk_at dksX2_mustName_8 13 rfl rfl)
theorem dX2_mustName_264 : decode cX2_mustName 264 = .ok (.invokevirtual 71, 3) := dk_182 0 71 (dk_at dksX2_mustName_8 15 rfl rfl)
theorem dX2_mustName_267 : decode cX2_mustName 267 = .ok (.ifCond .eq 36, 3) := dk_153 0 36 (dk_at dksX2_mustName_8 18 rfl rfl)
theorem dX2_mustName_270 : decode cX2_mustName 270 = .ok (.bipush 9, 2) := dk_16 9 (dk_at dksX2_mustName_8 21 rfl rfl)
theorem dX2_mustName_272 : decode cX2_mustName 272 = .ok (.istore_n 2, 1) := dk_61 (dk_at dksX2_mustName_8 23 rfl rfl)
theorem dX2_mustName_273 : decode cX2_mustName 273 = .ok (.goto 30, 3) := dk_167 0 30 (dk_at dksX2_mustName_9 0 rfl rfl)
theorem dX2_mustName_276 : decode cX2_mustName 276 = .ok (.aload_n 1, 1) := dk_43 (dk_at dksX2_mustName_9 3 rfl rfl)
theorem dX2_mustName_277 : decode cX2_mustName 277 = .ok (.ldc 113, 2) := dk_18 113 (dk_at dksX2_mustName_9 4 rfl rfl)
theorem dX2_mustName_279 : decode cX2_mustName 279 = .ok (.invokevirtual 71, 3) := dk_182 0 71 (dk_at dksX2_mustName_9 6 rfl rfl)
theorem dX2_mustName_282 : decode cX2_mustName 282 = .ok (.ifCond .eq 21, 3) := dk_153 0 21 (dk_at dksX2_mustName_9 9 rfl rfl)
theorem dX2_mustName_285 : decode cX2_mustName 285 = .ok (.bipush 10, 2) := dk_16 10 (dk_at dksX2_mustName_9 12 rfl rfl)
theorem dX2_mustName_287 : decode cX2_mustName 287 = .ok (.istore_n 2, 1) := dk_61 (dk_at dksX2_mustName_9 14 rfl rfl)
theorem dX2_mustName_288 : decode cX2_mustName 288 = .ok (.goto 15, 3) := dk_167 0 15 (dk_at dksX2_mustName_9 15 rfl rfl)
theorem dX2_mustName_291 : decode cX2_mustName 291 = .ok (.aload_n 1, 1) := dk_43 (dk_at dksX2_mustName_9 18 rfl rfl)
theorem dX2_mustName_292 : decode cX2_mustName 292 = .ok (.ldc 115, 2) := dk_18 115 (dk_at dksX2_mustName_9 19 rfl rfl)
theorem dX2_mustName_294 : decode cX2_mustName 294 = .ok (.invokevirtual 71, 3) := dk_182 0 71 (dk_at dksX2_mustName_9 21 rfl rfl)
theorem dX2_mustName_297 : decode cX2_mustName 297 = .ok (.ifCond .eq 6, 3) := dk_153 0 6 (dk_at dksX2_mustName_10 0 rfl rfl)
theorem dX2_mustName_300 : decode cX2_mustName 300 = .ok (.bipush 11, 2) := dk_16 11 (dk_at dksX2_mustName_10 3 rfl rfl)
theorem dX2_mustName_302 : decode cX2_mustName 302 = .ok (.istore_n 2, 1) := dk_61 (dk_at dksX2_mustName_10 5 rfl rfl)
theorem dX2_mustName_303 : decode cX2_mustName 303 = .ok (.iload_n 2, 1) := dk_28 (dk_at dksX2_mustName_10 6 rfl rfl)
theorem dX2_mustName_304 : decode cX2_mustName 304 = .ok (.tableswitch 70 0 11 #[64, 64, 64, 64, 64, 64, 64, 64, 64, 64, 64, 64], 64) := by decide +kernel
theorem dX2_mustName_368 : decode cX2_mustName 368 = .ok (.aload_n 0, 1) := dk_42 (dk_at dksX2_mustName_12 0 rfl rfl)
theorem dX2_mustName_369 : decode cX2_mustName 369 = .ok (.iconst 1, 1) := dk_4 (dk_at dksX2_mustName_12 1 rfl rfl)
theorem dX2_mustName_370 : decode cX2_mustName 370 = .ok (.invokevirtual 85, 3) := dk_182 0 85 (dk_at dksX2_mustName_12 2 rfl rfl)
theorem dX2_mustName_373 : decode cX2_mustName 373 = .ok (.athrow, 1) := dk_191 (dk_at dksX2_mustName_12 5 rfl rfl)
theorem dX2_mustName_374 : decode cX2_mustName 374 = .ok (.return_, 1) := dk_177 (dk_at dksX2_mustName_12 6 rfl rfl)
abbrev cX2_comma : ByteArray := prog_9_method_17_code
def yX2_comma : MethodName := ⟨RX2, "comma", "()V"⟩
def dkwX2_comma_0 : List UInt8 := [42, 180, 0, 47, 16, 44, 159, 0, 9, 42, 4, 182, 0, 85, 191, 42, 182, 0, 79, 177]
abbrev dktX2_comma_0 : List UInt8 := dkwX2_comma_0 ++ []
theorem dksX2_comma_0 : cX2_comma.data.toList.drop 0 = dktX2_comma_0 := by decide +kernel
theorem dX2_comma_0 : decode cX2_comma 0 = .ok (.aload_n 0, 1) := dk_42 (dk_at dksX2_comma_0 0 rfl rfl)
theorem dX2_comma_1 : decode cX2_comma 1 = .ok (.getfield 47, 3) := dk_180 0 47 (dk_at dksX2_comma_0 1 rfl rfl)
theorem dX2_comma_4 : decode cX2_comma 4 = .ok (.bipush 44, 2) := dk_16 44 (dk_at dksX2_comma_0 4 rfl rfl)
theorem dX2_comma_6 : decode cX2_comma 6 = .ok (.if_icmp .eq 9, 3) := dk_159 0 9 (dk_at dksX2_comma_0 6 rfl rfl)
theorem dX2_comma_9 : decode cX2_comma 9 = .ok (.aload_n 0, 1) := dk_42 (dk_at dksX2_comma_0 9 rfl rfl)
theorem dX2_comma_10 : decode cX2_comma 10 = .ok (.iconst 1, 1) := dk_4 (dk_at dksX2_comma_0 10 rfl rfl)
theorem dX2_comma_11 : decode cX2_comma 11 = .ok (.invokevirtual 85, 3) := dk_182 0 85 (dk_at dksX2_comma_0 11 rfl rfl)
theorem dX2_comma_14 : decode cX2_comma 14 = .ok (.athrow, 1) := dk_191 (dk_at dksX2_comma_0 14 rfl rfl)
theorem dX2_comma_15 : decode cX2_comma 15 = .ok (.aload_n 0, 1) := dk_42 (dk_at dksX2_comma_0 15 rfl rfl)
theorem dX2_comma_16 : decode cX2_comma 16 = .ok (.invokevirtual 79, 3) := dk_182 0 79 (dk_at dksX2_comma_0 16 rfl rfl)
theorem dX2_comma_19 : decode cX2_comma 19 = .ok (.return_, 1) := dk_177 (dk_at dksX2_comma_0 19 rfl rfl)
abbrev cX2_wall : ByteArray := prog_9_method_23_code
def yX2_wall : MethodName := ⟨RX2, "wall", "()V"⟩
def dkwX2_wall_4 : List UInt8 := [79, 42, 180, 0, 120, 89, 180, 0, 227, 4, 96, 181, 0, 227, 177]
abbrev dktX2_wall_4 : List UInt8 := dkwX2_wall_4 ++ []
def dkwX2_wall_3 : List UInt8 := [42, 180, 0, 120, 180, 0, 227, 27, 79, 42, 180, 0, 120, 180, 0, 239, 42, 180, 0, 120, 180, 0, 227, 28]
abbrev dktX2_wall_3 : List UInt8 := dkwX2_wall_3 ++ dktX2_wall_4
def dkwX2_wall_2 : List UInt8 := [3, 182, 0, 232, 153, 0, 9, 42, 6, 182, 0, 85, 191, 42, 182, 0, 79, 42, 180, 0, 120, 180, 0, 235]
abbrev dktX2_wall_2 : List UInt8 := dkwX2_wall_2 ++ dktX2_wall_3
def dkwX2_wall_1 : List UInt8 := [182, 0, 230, 60, 42, 182, 0, 217, 42, 182, 0, 137, 61, 27, 28, 159, 0, 16, 42, 180, 0, 120, 27, 28]
abbrev dktX2_wall_1 : List UInt8 := dkwX2_wall_1 ++ dktX2_wall_2
def dkwX2_wall_0 : List UInt8 := [42, 42, 180, 0, 120, 180, 0, 227, 16, 10, 162, 0, 7, 4, 167, 0, 4, 3, 8, 182, 0, 181, 42]
abbrev dktX2_wall_0 : List UInt8 := dkwX2_wall_0 ++ dktX2_wall_1
theorem dksX2_wall_0 : cX2_wall.data.toList.drop 0 = dktX2_wall_0 := by decide +kernel
theorem dksX2_wall_1 : cX2_wall.data.toList.drop 23 = dktX2_wall_1 := dk_seg dksX2_wall_0 23 rfl rfl
theorem dksX2_wall_2 : cX2_wall.data.toList.drop 47 = dktX2_wall_2 := dk_seg dksX2_wall_1 24 rfl rfl
theorem dksX2_wall_3 : cX2_wall.data.toList.drop 71 = dktX2_wall_3 := dk_seg dksX2_wall_2 24 rfl rfl
theorem dksX2_wall_4 : cX2_wall.data.toList.drop 95 = dktX2_wall_4 := dk_seg dksX2_wall_3 24 rfl rfl
theorem dX2_wall_0 : decode cX2_wall 0 = .ok (.aload_n 0, 1) := dk_42 (dk_at dksX2_wall_0 0 rfl rfl)
theorem dX2_wall_1 : decode cX2_wall 1 = .ok (.aload_n 0, 1) := dk_42 (dk_at dksX2_wall_0 1 rfl rfl)
theorem dX2_wall_2 : decode cX2_wall 2 = .ok (.getfield 120, 3) := dk_180 0 120 (dk_at dksX2_wall_0 2 rfl rfl)
theorem dX2_wall_5 : decode cX2_wall 5 = .ok (.getfield 227, 3) := dk_180 0 227 (dk_at dksX2_wall_0 5 rfl rfl)
theorem dX2_wall_8 : decode cX2_wall 8 = .ok (.bipush 10, 2) := dk_16 10 (dk_at dksX2_wall_0 8 rfl rfl)
theorem dX2_wall_10 : decode cX2_wall 10 = .ok (.if_icmp .ge 7, 3) := dk_162 0 7 (dk_at dksX2_wall_0 10 rfl rfl)
theorem dX2_wall_13 : decode cX2_wall 13 = .ok (.iconst 1, 1) := dk_4 (dk_at dksX2_wall_0 13 rfl rfl)
theorem dX2_wall_14 : decode cX2_wall 14 = .ok (.goto 4, 3) := dk_167 0 4 (dk_at dksX2_wall_0 14 rfl rfl)
theorem dX2_wall_17 : decode cX2_wall 17 = .ok (.iconst 0, 1) := dk_3 (dk_at dksX2_wall_0 17 rfl rfl)
theorem dX2_wall_18 : decode cX2_wall 18 = .ok (.iconst 5, 1) := dk_8 (dk_at dksX2_wall_0 18 rfl rfl)
theorem dX2_wall_19 : decode cX2_wall 19 = .ok (.invokevirtual 181, 3) := dk_182 0 181 (dk_at dksX2_wall_0 19 rfl rfl)
theorem dX2_wall_22 : decode cX2_wall 22 = .ok (.aload_n 0, 1) := dk_42 (dk_at dksX2_wall_0 22 rfl rfl)
theorem dX2_wall_23 : decode cX2_wall 23 = .ok (.invokevirtual 230, 3) := dk_182 0 230 (dk_at dksX2_wall_1 0 rfl rfl)
theorem dX2_wall_26 : decode cX2_wall 26 = .ok (.istore_n 1, 1) := dk_60 (dk_at dksX2_wall_1 3 rfl rfl)
theorem dX2_wall_27 : decode cX2_wall 27 = .ok (.aload_n 0, 1) := dk_42 (dk_at dksX2_wall_1 4 rfl rfl)
theorem dX2_wall_28 : decode cX2_wall 28 = .ok (.invokevirtual 217, 3) := dk_182 0 217 (dk_at dksX2_wall_1 5 rfl rfl)
theorem dX2_wall_31 : decode cX2_wall 31 = .ok (.aload_n 0, 1) := dk_42 (dk_at dksX2_wall_1 8 rfl rfl)
theorem dX2_wall_32 : decode cX2_wall 32 = .ok (.invokevirtual 137, 3) := dk_182 0 137 (dk_at dksX2_wall_1 9 rfl rfl)
theorem dX2_wall_35 : decode cX2_wall 35 = .ok (.istore_n 2, 1) := dk_61 (dk_at dksX2_wall_1 12 rfl rfl)
theorem dX2_wall_36 : decode cX2_wall 36 = .ok (.iload_n 1, 1) := dk_27 (dk_at dksX2_wall_1 13 rfl rfl)
theorem dX2_wall_37 : decode cX2_wall 37 = .ok (.iload_n 2, 1) := dk_28 (dk_at dksX2_wall_1 14 rfl rfl)
theorem dX2_wall_38 : decode cX2_wall 38 = .ok (.if_icmp .eq 16, 3) := dk_159 0 16 (dk_at dksX2_wall_1 15 rfl rfl)
theorem dX2_wall_41 : decode cX2_wall 41 = .ok (.aload_n 0, 1) := dk_42 (dk_at dksX2_wall_1 18 rfl rfl)
theorem dX2_wall_42 : decode cX2_wall 42 = .ok (.getfield 120, 3) := dk_180 0 120 (dk_at dksX2_wall_1 19 rfl rfl)
theorem dX2_wall_45 : decode cX2_wall 45 = .ok (.iload_n 1, 1) := dk_27 (dk_at dksX2_wall_1 22 rfl rfl)
theorem dX2_wall_46 : decode cX2_wall 46 = .ok (.iload_n 2, 1) := dk_28 (dk_at dksX2_wall_1 23 rfl rfl)
theorem dX2_wall_47 : decode cX2_wall 47 = .ok (.iconst 0, 1) := dk_3 (dk_at dksX2_wall_2 0 rfl rfl)
theorem dX2_wall_48 : decode cX2_wall 48 = .ok (.invokevirtual 232, 3) := dk_182 0 232 (dk_at dksX2_wall_2 1 rfl rfl)
theorem dX2_wall_51 : decode cX2_wall 51 = .ok (.ifCond .eq 9, 3) := dk_153 0 9 (dk_at dksX2_wall_2 4 rfl rfl)
theorem dX2_wall_54 : decode cX2_wall 54 = .ok (.aload_n 0, 1) := dk_42 (dk_at dksX2_wall_2 7 rfl rfl)
theorem dX2_wall_55 : decode cX2_wall 55 = .ok (.iconst 3, 1) := dk_6 (dk_at dksX2_wall_2 8 rfl rfl)
theorem dX2_wall_56 : decode cX2_wall 56 = .ok (.invokevirtual 85, 3) := dk_182 0 85 (dk_at dksX2_wall_2 9 rfl rfl)
theorem dX2_wall_59 : decode cX2_wall 59 = .ok (.athrow, 1) := dk_191 (dk_at dksX2_wall_2 12 rfl rfl)
theorem dX2_wall_60 : decode cX2_wall 60 = .ok (.aload_n 0, 1) := dk_42 (dk_at dksX2_wall_2 13 rfl rfl)
theorem dX2_wall_61 : decode cX2_wall 61 = .ok (.invokevirtual 79, 3) := dk_182 0 79 (dk_at dksX2_wall_2 14 rfl rfl)
theorem dX2_wall_64 : decode cX2_wall 64 = .ok (.aload_n 0, 1) := dk_42 (dk_at dksX2_wall_2 17 rfl rfl)
theorem dX2_wall_65 : decode cX2_wall 65 = .ok (.getfield 120, 3) := dk_180 0 120 (dk_at dksX2_wall_2 18 rfl rfl)
theorem dX2_wall_68 : decode cX2_wall 68 = .ok (.getfield 235, 3) := dk_180 0 235 (dk_at dksX2_wall_2 21 rfl rfl)
theorem dX2_wall_71 : decode cX2_wall 71 = .ok (.aload_n 0, 1) := dk_42 (dk_at dksX2_wall_3 0 rfl rfl)
theorem dX2_wall_72 : decode cX2_wall 72 = .ok (.getfield 120, 3) := dk_180 0 120 (dk_at dksX2_wall_3 1 rfl rfl)
theorem dX2_wall_75 : decode cX2_wall 75 = .ok (.getfield 227, 3) := dk_180 0 227 (dk_at dksX2_wall_3 4 rfl rfl)
theorem dX2_wall_78 : decode cX2_wall 78 = .ok (.iload_n 1, 1) := dk_27 (dk_at dksX2_wall_3 7 rfl rfl)
theorem dX2_wall_79 : decode cX2_wall 79 = .ok (.iastore, 1) := dk_79 (dk_at dksX2_wall_3 8 rfl rfl)
theorem dX2_wall_80 : decode cX2_wall 80 = .ok (.aload_n 0, 1) := dk_42 (dk_at dksX2_wall_3 9 rfl rfl)
theorem dX2_wall_81 : decode cX2_wall 81 = .ok (.getfield 120, 3) := dk_180 0 120 (dk_at dksX2_wall_3 10 rfl rfl)
theorem dX2_wall_84 : decode cX2_wall 84 = .ok (.getfield 239, 3) := dk_180 0 239 (dk_at dksX2_wall_3 13 rfl rfl)
theorem dX2_wall_87 : decode cX2_wall 87 = .ok (.aload_n 0, 1) := dk_42 (dk_at dksX2_wall_3 16 rfl rfl)
theorem dX2_wall_88 : decode cX2_wall 88 = .ok (.getfield 120, 3) := dk_180 0 120 (dk_at dksX2_wall_3 17 rfl rfl)
theorem dX2_wall_91 : decode cX2_wall 91 = .ok (.getfield 227, 3) := dk_180 0 227 (dk_at dksX2_wall_3 20 rfl rfl)
theorem dX2_wall_94 : decode cX2_wall 94 = .ok (.iload_n 2, 1) := dk_28 (dk_at dksX2_wall_3 23 rfl rfl)
theorem dX2_wall_95 : decode cX2_wall 95 = .ok (.iastore, 1) := dk_79 (dk_at dksX2_wall_4 0 rfl rfl)
theorem dX2_wall_96 : decode cX2_wall 96 = .ok (.aload_n 0, 1) := dk_42 (dk_at dksX2_wall_4 1 rfl rfl)
theorem dX2_wall_97 : decode cX2_wall 97 = .ok (.getfield 120, 3) := dk_180 0 120 (dk_at dksX2_wall_4 2 rfl rfl)
theorem dX2_wall_100 : decode cX2_wall 100 = .ok (.dup, 1) := dk_89 (dk_at dksX2_wall_4 5 rfl rfl)
theorem dX2_wall_101 : decode cX2_wall 101 = .ok (.getfield 227, 3) := dk_180 0 227 (dk_at dksX2_wall_4 6 rfl rfl)
theorem dX2_wall_104 : decode cX2_wall 104 = .ok (.iconst 1, 1) := dk_4 (dk_at dksX2_wall_4 9 rfl rfl)
theorem dX2_wall_105 : decode cX2_wall 105 = .ok (.iadd, 1) := dk_96 (dk_at dksX2_wall_4 10 rfl rfl)
theorem dX2_wall_106 : decode cX2_wall 106 = .ok (.putfield 227, 3) := dk_181 0 227 (dk_at dksX2_wall_4 11 rfl rfl)
theorem dX2_wall_109 : decode cX2_wall 109 = .ok (.return_, 1) := dk_177 (dk_at dksX2_wall_4 14 rfl rfl)
abbrev cX2_place : ByteArray := prog_9_method_13_code
def yX2_place : MethodName := ⟨RX2, "place", "()I"⟩
def dkwX2_place_0 : List UInt8 := [42, 182, 0, 137, 60, 42, 182, 0, 79, 27, 172]
abbrev dktX2_place_0 : List UInt8 := dkwX2_place_0 ++ []
theorem dksX2_place_0 : cX2_place.data.toList.drop 0 = dktX2_place_0 := by decide +kernel
theorem dX2_place_0 : decode cX2_place 0 = .ok (.aload_n 0, 1) := dk_42 (dk_at dksX2_place_0 0 rfl rfl)
theorem dX2_place_1 : decode cX2_place 1 = .ok (.invokevirtual 137, 3) := dk_182 0 137 (dk_at dksX2_place_0 1 rfl rfl)
theorem dX2_place_4 : decode cX2_place 4 = .ok (.istore_n 1, 1) := dk_60 (dk_at dksX2_place_0 4 rfl rfl)
theorem dX2_place_5 : decode cX2_place 5 = .ok (.aload_n 0, 1) := dk_42 (dk_at dksX2_place_0 5 rfl rfl)
theorem dX2_place_6 : decode cX2_place 6 = .ok (.invokevirtual 79, 3) := dk_182 0 79 (dk_at dksX2_place_0 6 rfl rfl)
theorem dX2_place_9 : decode cX2_place 9 = .ok (.iload_n 1, 1) := dk_27 (dk_at dksX2_place_0 9 rfl rfl)
theorem dX2_place_10 : decode cX2_place 10 = .ok (.ireturn, 1) := dk_172 (dk_at dksX2_place_0 10 rfl rfl)
abbrev cX2_placeHere : ByteArray := prog_9_method_12_code
def yX2_placeHere : MethodName := ⟨RX2, "placeHere", "()I"⟩
def dkwX2_placeHere_1 : List UInt8 := [5, 182, 0, 85, 191, 43, 180, 0, 132, 172]
abbrev dktX2_placeHere_1 : List UInt8 := dkwX2_placeHere_1 ++ []
def dkwX2_placeHere_0 : List UInt8 := [42, 182, 0, 117, 42, 180, 0, 120, 42, 180, 0, 61, 182, 0, 124, 76, 43, 193, 0, 130, 154, 0, 9, 42]
abbrev dktX2_placeHere_0 : List UInt8 := dkwX2_placeHere_0 ++ dktX2_placeHere_1
theorem dksX2_placeHere_0 : cX2_placeHere.data.toList.drop 0 = dktX2_placeHere_0 := by decide +kernel
theorem dksX2_placeHere_1 : cX2_placeHere.data.toList.drop 24 = dktX2_placeHere_1 := dk_seg dksX2_placeHere_0 24 rfl rfl
theorem dX2_placeHere_0 : decode cX2_placeHere 0 = .ok (.aload_n 0, 1) := dk_42 (dk_at dksX2_placeHere_0 0 rfl rfl)
theorem dX2_placeHere_1 : decode cX2_placeHere 1 = .ok (.invokevirtual 117, 3) := dk_182 0 117 (dk_at dksX2_placeHere_0 1 rfl rfl)
theorem dX2_placeHere_4 : decode cX2_placeHere 4 = .ok (.aload_n 0, 1) := dk_42 (dk_at dksX2_placeHere_0 4 rfl rfl)
theorem dX2_placeHere_5 : decode cX2_placeHere 5 = .ok (.getfield 120, 3) := dk_180 0 120 (dk_at dksX2_placeHere_0 5 rfl rfl)
theorem dX2_placeHere_8 : decode cX2_placeHere 8 = .ok (.aload_n 0, 1) := dk_42 (dk_at dksX2_placeHere_0 8 rfl rfl)
theorem dX2_placeHere_9 : decode cX2_placeHere 9 = .ok (.getfield 61, 3) := dk_180 0 61 (dk_at dksX2_placeHere_0 9 rfl rfl)
theorem dX2_placeHere_12 : decode cX2_placeHere 12 = .ok (.invokevirtual 124, 3) := dk_182 0 124 (dk_at dksX2_placeHere_0 12 rfl rfl)
theorem dX2_placeHere_15 : decode cX2_placeHere 15 = .ok (.astore_n 1, 1) := dk_76 (dk_at dksX2_placeHere_0 15 rfl rfl)
theorem dX2_placeHere_16 : decode cX2_placeHere 16 = .ok (.aload_n 1, 1) := dk_43 (dk_at dksX2_placeHere_0 16 rfl rfl)
theorem dX2_placeHere_17 : decode cX2_placeHere 17 = .ok (.instanceof 130, 3) := dk_193 0 130 (dk_at dksX2_placeHere_0 17 rfl rfl)
theorem dX2_placeHere_20 : decode cX2_placeHere 20 = .ok (.ifCond .ne 9, 3) := dk_154 0 9 (dk_at dksX2_placeHere_0 20 rfl rfl)
theorem dX2_placeHere_23 : decode cX2_placeHere 23 = .ok (.aload_n 0, 1) := dk_42 (dk_at dksX2_placeHere_0 23 rfl rfl)
theorem dX2_placeHere_24 : decode cX2_placeHere 24 = .ok (.iconst 2, 1) := dk_5 (dk_at dksX2_placeHere_1 0 rfl rfl)
theorem dX2_placeHere_25 : decode cX2_placeHere 25 = .ok (.invokevirtual 85, 3) := dk_182 0 85 (dk_at dksX2_placeHere_1 1 rfl rfl)
theorem dX2_placeHere_28 : decode cX2_placeHere 28 = .ok (.athrow, 1) := dk_191 (dk_at dksX2_placeHere_1 4 rfl rfl)
theorem dX2_placeHere_29 : decode cX2_placeHere 29 = .ok (.aload_n 1, 1) := dk_43 (dk_at dksX2_placeHere_1 5 rfl rfl)
theorem dX2_placeHere_30 : decode cX2_placeHere 30 = .ok (.getfield 132, 3) := dk_180 0 132 (dk_at dksX2_placeHere_1 6 rfl rfl)
theorem dX2_placeHere_33 : decode cX2_placeHere 33 = .ok (.ireturn, 1) := dk_172 (dk_at dksX2_placeHere_1 9 rfl rfl)
abbrev cX2_way : ByteArray := prog_9_method_24_code
def yX2_way : MethodName := ⟨RX2, "way", "()V"⟩
def dkwX2_way_4 : List UInt8 := [27, 120, 128, 181, 0, 249, 42, 180, 0, 120, 89, 180, 0, 242, 4, 96, 181, 0, 242, 177]
abbrev dktX2_way_4 : List UInt8 := dkwX2_way_4 ++ []
def dkwX2_way_3 : List UInt8 := [180, 0, 249, 4, 28, 120, 128, 181, 0, 249, 42, 180, 0, 120, 180, 0, 223, 28, 50, 89, 180, 0, 249, 4]
abbrev dktX2_way_3 : List UInt8 := dkwX2_way_3 ++ dktX2_way_4
def dkwX2_way_2 : List UInt8 := [153, 0, 9, 42, 6, 182, 0, 85, 191, 42, 182, 0, 79, 42, 180, 0, 120, 180, 0, 223, 27, 50, 89]
abbrev dktX2_way_2 : List UInt8 := dkwX2_way_2 ++ dktX2_way_3
def dkwX2_way_1 : List UInt8 := [182, 0, 230, 60, 42, 182, 0, 217, 42, 182, 0, 137, 61, 42, 180, 0, 120, 27, 28, 182, 0, 245]
abbrev dktX2_way_1 : List UInt8 := dkwX2_way_1 ++ dktX2_way_2
def dkwX2_way_0 : List UInt8 := [42, 42, 180, 0, 120, 180, 0, 242, 16, 16, 162, 0, 7, 4, 167, 0, 4, 3, 8, 182, 0, 181, 42]
abbrev dktX2_way_0 : List UInt8 := dkwX2_way_0 ++ dktX2_way_1
theorem dksX2_way_0 : cX2_way.data.toList.drop 0 = dktX2_way_0 := by decide +kernel
theorem dksX2_way_1 : cX2_way.data.toList.drop 23 = dktX2_way_1 := dk_seg dksX2_way_0 23 rfl rfl
theorem dksX2_way_2 : cX2_way.data.toList.drop 45 = dktX2_way_2 := dk_seg dksX2_way_1 22 rfl rfl
theorem dksX2_way_3 : cX2_way.data.toList.drop 68 = dktX2_way_3 := dk_seg dksX2_way_2 23 rfl rfl
theorem dksX2_way_4 : cX2_way.data.toList.drop 92 = dktX2_way_4 := dk_seg dksX2_way_3 24 rfl rfl
theorem dX2_way_0 : decode cX2_way 0 = .ok (.aload_n 0, 1) := dk_42 (dk_at dksX2_way_0 0 rfl rfl)
theorem dX2_way_1 : decode cX2_way 1 = .ok (.aload_n 0, 1) := dk_42 (dk_at dksX2_way_0 1 rfl rfl)
theorem dX2_way_2 : decode cX2_way 2 = .ok (.getfield 120, 3) := dk_180 0 120 (dk_at dksX2_way_0 2 rfl rfl)
theorem dX2_way_5 : decode cX2_way 5 = .ok (.getfield 242, 3) := dk_180 0 242 (dk_at dksX2_way_0 5 rfl rfl)
theorem dX2_way_8 : decode cX2_way 8 = .ok (.bipush 16, 2) := dk_16 16 (dk_at dksX2_way_0 8 rfl rfl)
theorem dX2_way_10 : decode cX2_way 10 = .ok (.if_icmp .ge 7, 3) := dk_162 0 7 (dk_at dksX2_way_0 10 rfl rfl)
theorem dX2_way_13 : decode cX2_way 13 = .ok (.iconst 1, 1) := dk_4 (dk_at dksX2_way_0 13 rfl rfl)
theorem dX2_way_14 : decode cX2_way 14 = .ok (.goto 4, 3) := dk_167 0 4 (dk_at dksX2_way_0 14 rfl rfl)
theorem dX2_way_17 : decode cX2_way 17 = .ok (.iconst 0, 1) := dk_3 (dk_at dksX2_way_0 17 rfl rfl)
theorem dX2_way_18 : decode cX2_way 18 = .ok (.iconst 5, 1) := dk_8 (dk_at dksX2_way_0 18 rfl rfl)
theorem dX2_way_19 : decode cX2_way 19 = .ok (.invokevirtual 181, 3) := dk_182 0 181 (dk_at dksX2_way_0 19 rfl rfl)
theorem dX2_way_22 : decode cX2_way 22 = .ok (.aload_n 0, 1) := dk_42 (dk_at dksX2_way_0 22 rfl rfl)
theorem dX2_way_23 : decode cX2_way 23 = .ok (.invokevirtual 230, 3) := dk_182 0 230 (dk_at dksX2_way_1 0 rfl rfl)
theorem dX2_way_26 : decode cX2_way 26 = .ok (.istore_n 1, 1) := dk_60 (dk_at dksX2_way_1 3 rfl rfl)
theorem dX2_way_27 : decode cX2_way 27 = .ok (.aload_n 0, 1) := dk_42 (dk_at dksX2_way_1 4 rfl rfl)
theorem dX2_way_28 : decode cX2_way 28 = .ok (.invokevirtual 217, 3) := dk_182 0 217 (dk_at dksX2_way_1 5 rfl rfl)
theorem dX2_way_31 : decode cX2_way 31 = .ok (.aload_n 0, 1) := dk_42 (dk_at dksX2_way_1 8 rfl rfl)
theorem dX2_way_32 : decode cX2_way 32 = .ok (.invokevirtual 137, 3) := dk_182 0 137 (dk_at dksX2_way_1 9 rfl rfl)
theorem dX2_way_35 : decode cX2_way 35 = .ok (.istore_n 2, 1) := dk_61 (dk_at dksX2_way_1 12 rfl rfl)
theorem dX2_way_36 : decode cX2_way 36 = .ok (.aload_n 0, 1) := dk_42 (dk_at dksX2_way_1 13 rfl rfl)
theorem dX2_way_37 : decode cX2_way 37 = .ok (.getfield 120, 3) := dk_180 0 120 (dk_at dksX2_way_1 14 rfl rfl)
theorem dX2_way_40 : decode cX2_way 40 = .ok (.iload_n 1, 1) := dk_27 (dk_at dksX2_way_1 17 rfl rfl)
theorem dX2_way_41 : decode cX2_way 41 = .ok (.iload_n 2, 1) := dk_28 (dk_at dksX2_way_1 18 rfl rfl)
theorem dX2_way_42 : decode cX2_way 42 = .ok (.invokevirtual 245, 3) := dk_182 0 245 (dk_at dksX2_way_1 19 rfl rfl)
theorem dX2_way_45 : decode cX2_way 45 = .ok (.ifCond .eq 9, 3) := dk_153 0 9 (dk_at dksX2_way_2 0 rfl rfl)
theorem dX2_way_48 : decode cX2_way 48 = .ok (.aload_n 0, 1) := dk_42 (dk_at dksX2_way_2 3 rfl rfl)
theorem dX2_way_49 : decode cX2_way 49 = .ok (.iconst 3, 1) := dk_6 (dk_at dksX2_way_2 4 rfl rfl)
theorem dX2_way_50 : decode cX2_way 50 = .ok (.invokevirtual 85, 3) := dk_182 0 85 (dk_at dksX2_way_2 5 rfl rfl)
theorem dX2_way_53 : decode cX2_way 53 = .ok (.athrow, 1) := dk_191 (dk_at dksX2_way_2 8 rfl rfl)
theorem dX2_way_54 : decode cX2_way 54 = .ok (.aload_n 0, 1) := dk_42 (dk_at dksX2_way_2 9 rfl rfl)
theorem dX2_way_55 : decode cX2_way 55 = .ok (.invokevirtual 79, 3) := dk_182 0 79 (dk_at dksX2_way_2 10 rfl rfl)
theorem dX2_way_58 : decode cX2_way 58 = .ok (.aload_n 0, 1) := dk_42 (dk_at dksX2_way_2 13 rfl rfl)
theorem dX2_way_59 : decode cX2_way 59 = .ok (.getfield 120, 3) := dk_180 0 120 (dk_at dksX2_way_2 14 rfl rfl)
theorem dX2_way_62 : decode cX2_way 62 = .ok (.getfield 223, 3) := dk_180 0 223 (dk_at dksX2_way_2 17 rfl rfl)
theorem dX2_way_65 : decode cX2_way 65 = .ok (.iload_n 1, 1) := dk_27 (dk_at dksX2_way_2 20 rfl rfl)
theorem dX2_way_66 : decode cX2_way 66 = .ok (.aaload, 1) := dk_50 (dk_at dksX2_way_2 21 rfl rfl)
theorem dX2_way_67 : decode cX2_way 67 = .ok (.dup, 1) := dk_89 (dk_at dksX2_way_2 22 rfl rfl)
theorem dX2_way_68 : decode cX2_way 68 = .ok (.getfield 249, 3) := dk_180 0 249 (dk_at dksX2_way_3 0 rfl rfl)
theorem dX2_way_71 : decode cX2_way 71 = .ok (.iconst 1, 1) := dk_4 (dk_at dksX2_way_3 3 rfl rfl)
theorem dX2_way_72 : decode cX2_way 72 = .ok (.iload_n 2, 1) := dk_28 (dk_at dksX2_way_3 4 rfl rfl)
theorem dX2_way_73 : decode cX2_way 73 = .ok (.ishl, 1) := dk_120 (dk_at dksX2_way_3 5 rfl rfl)
theorem dX2_way_74 : decode cX2_way 74 = .ok (.ior, 1) := dk_128 (dk_at dksX2_way_3 6 rfl rfl)
theorem dX2_way_75 : decode cX2_way 75 = .ok (.putfield 249, 3) := dk_181 0 249 (dk_at dksX2_way_3 7 rfl rfl)
theorem dX2_way_78 : decode cX2_way 78 = .ok (.aload_n 0, 1) := dk_42 (dk_at dksX2_way_3 10 rfl rfl)
theorem dX2_way_79 : decode cX2_way 79 = .ok (.getfield 120, 3) := dk_180 0 120 (dk_at dksX2_way_3 11 rfl rfl)
theorem dX2_way_82 : decode cX2_way 82 = .ok (.getfield 223, 3) := dk_180 0 223 (dk_at dksX2_way_3 14 rfl rfl)
theorem dX2_way_85 : decode cX2_way 85 = .ok (.iload_n 2, 1) := dk_28 (dk_at dksX2_way_3 17 rfl rfl)
theorem dX2_way_86 : decode cX2_way 86 = .ok (.aaload, 1) := dk_50 (dk_at dksX2_way_3 18 rfl rfl)
theorem dX2_way_87 : decode cX2_way 87 = .ok (.dup, 1) := dk_89 (dk_at dksX2_way_3 19 rfl rfl)
theorem dX2_way_88 : decode cX2_way 88 = .ok (.getfield 249, 3) := dk_180 0 249 (dk_at dksX2_way_3 20 rfl rfl)
theorem dX2_way_91 : decode cX2_way 91 = .ok (.iconst 1, 1) := dk_4 (dk_at dksX2_way_3 23 rfl rfl)
theorem dX2_way_92 : decode cX2_way 92 = .ok (.iload_n 1, 1) := dk_27 (dk_at dksX2_way_4 0 rfl rfl)
theorem dX2_way_93 : decode cX2_way 93 = .ok (.ishl, 1) := dk_120 (dk_at dksX2_way_4 1 rfl rfl)
theorem dX2_way_94 : decode cX2_way 94 = .ok (.ior, 1) := dk_128 (dk_at dksX2_way_4 2 rfl rfl)
theorem dX2_way_95 : decode cX2_way 95 = .ok (.putfield 249, 3) := dk_181 0 249 (dk_at dksX2_way_4 3 rfl rfl)
theorem dX2_way_98 : decode cX2_way 98 = .ok (.aload_n 0, 1) := dk_42 (dk_at dksX2_way_4 6 rfl rfl)
theorem dX2_way_99 : decode cX2_way 99 = .ok (.getfield 120, 3) := dk_180 0 120 (dk_at dksX2_way_4 7 rfl rfl)
theorem dX2_way_102 : decode cX2_way 102 = .ok (.dup, 1) := dk_89 (dk_at dksX2_way_4 10 rfl rfl)
theorem dX2_way_103 : decode cX2_way 103 = .ok (.getfield 242, 3) := dk_180 0 242 (dk_at dksX2_way_4 11 rfl rfl)
theorem dX2_way_106 : decode cX2_way 106 = .ok (.iconst 1, 1) := dk_4 (dk_at dksX2_way_4 14 rfl rfl)
theorem dX2_way_107 : decode cX2_way 107 = .ok (.iadd, 1) := dk_96 (dk_at dksX2_way_4 15 rfl rfl)
theorem dX2_way_108 : decode cX2_way 108 = .ok (.putfield 242, 3) := dk_181 0 242 (dk_at dksX2_way_4 16 rfl rfl)
theorem dX2_way_111 : decode cX2_way 111 = .ok (.return_, 1) := dk_177 (dk_at dksX2_way_4 19 rfl rfl)
abbrev cX2_mirror : ByteArray := prog_9_method_25_code
def yX2_mirror : MethodName := ⟨RX2, "mirror", "()V"⟩
def dkwX2_mirror_4 : List UInt8 := [96, 181, 0, 252, 177]
abbrev dktX2_mirror_4 : List UInt8 := dkwX2_mirror_4 ++ []
def dkwX2_mirror_3 : List UInt8 := [180, 0, 120, 180, 0, 255, 42, 180, 0, 120, 180, 0, 252, 27, 79, 42, 180, 0, 120, 89, 180, 0, 252, 4]
abbrev dktX2_mirror_3 : List UInt8 := dkwX2_mirror_3 ++ dktX2_mirror_4
def dkwX2_mirror_2 : List UInt8 := [28, 46, 27, 160, 0, 9, 42, 6, 182, 0, 85, 191, 132, 2, 1, 167, 255, 223, 42, 182, 0, 79, 42]
abbrev dktX2_mirror_2 : List UInt8 := dkwX2_mirror_2 ++ dktX2_mirror_3
def dkwX2_mirror_1 : List UInt8 := [182, 0, 137, 60, 3, 61, 28, 42, 180, 0, 120, 180, 0, 252, 162, 0, 28, 42, 180, 0, 120, 180, 0, 255]
abbrev dktX2_mirror_1 : List UInt8 := dkwX2_mirror_1 ++ dktX2_mirror_2
def dkwX2_mirror_0 : List UInt8 := [42, 42, 180, 0, 120, 180, 0, 252, 7, 162, 0, 7, 4, 167, 0, 4, 3, 8, 182, 0, 181, 42]
abbrev dktX2_mirror_0 : List UInt8 := dkwX2_mirror_0 ++ dktX2_mirror_1
theorem dksX2_mirror_0 : cX2_mirror.data.toList.drop 0 = dktX2_mirror_0 := by decide +kernel
theorem dksX2_mirror_1 : cX2_mirror.data.toList.drop 22 = dktX2_mirror_1 := dk_seg dksX2_mirror_0 22 rfl rfl
theorem dksX2_mirror_2 : cX2_mirror.data.toList.drop 46 = dktX2_mirror_2 := dk_seg dksX2_mirror_1 24 rfl rfl
theorem dksX2_mirror_3 : cX2_mirror.data.toList.drop 69 = dktX2_mirror_3 := dk_seg dksX2_mirror_2 23 rfl rfl
theorem dksX2_mirror_4 : cX2_mirror.data.toList.drop 93 = dktX2_mirror_4 := dk_seg dksX2_mirror_3 24 rfl rfl
theorem dX2_mirror_0 : decode cX2_mirror 0 = .ok (.aload_n 0, 1) := dk_42 (dk_at dksX2_mirror_0 0 rfl rfl)
theorem dX2_mirror_1 : decode cX2_mirror 1 = .ok (.aload_n 0, 1) := dk_42 (dk_at dksX2_mirror_0 1 rfl rfl)
theorem dX2_mirror_2 : decode cX2_mirror 2 = .ok (.getfield 120, 3) := dk_180 0 120 (dk_at dksX2_mirror_0 2 rfl rfl)
theorem dX2_mirror_5 : decode cX2_mirror 5 = .ok (.getfield 252, 3) := dk_180 0 252 (dk_at dksX2_mirror_0 5 rfl rfl)
theorem dX2_mirror_8 : decode cX2_mirror 8 = .ok (.iconst 4, 1) := dk_7 (dk_at dksX2_mirror_0 8 rfl rfl)
theorem dX2_mirror_9 : decode cX2_mirror 9 = .ok (.if_icmp .ge 7, 3) := dk_162 0 7 (dk_at dksX2_mirror_0 9 rfl rfl)
theorem dX2_mirror_12 : decode cX2_mirror 12 = .ok (.iconst 1, 1) := dk_4 (dk_at dksX2_mirror_0 12 rfl rfl)
theorem dX2_mirror_13 : decode cX2_mirror 13 = .ok (.goto 4, 3) := dk_167 0 4 (dk_at dksX2_mirror_0 13 rfl rfl)
theorem dX2_mirror_16 : decode cX2_mirror 16 = .ok (.iconst 0, 1) := dk_3 (dk_at dksX2_mirror_0 16 rfl rfl)
theorem dX2_mirror_17 : decode cX2_mirror 17 = .ok (.iconst 5, 1) := dk_8 (dk_at dksX2_mirror_0 17 rfl rfl)
theorem dX2_mirror_18 : decode cX2_mirror 18 = .ok (.invokevirtual 181, 3) := dk_182 0 181 (dk_at dksX2_mirror_0 18 rfl rfl)
theorem dX2_mirror_21 : decode cX2_mirror 21 = .ok (.aload_n 0, 1) := dk_42 (dk_at dksX2_mirror_0 21 rfl rfl)
theorem dX2_mirror_22 : decode cX2_mirror 22 = .ok (.invokevirtual 137, 3) := dk_182 0 137 (dk_at dksX2_mirror_1 0 rfl rfl)
theorem dX2_mirror_25 : decode cX2_mirror 25 = .ok (.istore_n 1, 1) := dk_60 (dk_at dksX2_mirror_1 3 rfl rfl)
theorem dX2_mirror_26 : decode cX2_mirror 26 = .ok (.iconst 0, 1) := dk_3 (dk_at dksX2_mirror_1 4 rfl rfl)
theorem dX2_mirror_27 : decode cX2_mirror 27 = .ok (.istore_n 2, 1) := dk_61 (dk_at dksX2_mirror_1 5 rfl rfl)
theorem dX2_mirror_28 : decode cX2_mirror 28 = .ok (.iload_n 2, 1) := dk_28 (dk_at dksX2_mirror_1 6 rfl rfl)
theorem dX2_mirror_29 : decode cX2_mirror 29 = .ok (.aload_n 0, 1) := dk_42 (dk_at dksX2_mirror_1 7 rfl rfl)
theorem dX2_mirror_30 : decode cX2_mirror 30 = .ok (.getfield 120, 3) := dk_180 0 120 (dk_at dksX2_mirror_1 8 rfl rfl)
theorem dX2_mirror_33 : decode cX2_mirror 33 = .ok (.getfield 252, 3) := dk_180 0 252 (dk_at dksX2_mirror_1 11 rfl rfl)
theorem dX2_mirror_36 : decode cX2_mirror 36 = .ok (.if_icmp .ge 28, 3) := dk_162 0 28 (dk_at dksX2_mirror_1 14 rfl rfl)
theorem dX2_mirror_39 : decode cX2_mirror 39 = .ok (.aload_n 0, 1) := dk_42 (dk_at dksX2_mirror_1 17 rfl rfl)
theorem dX2_mirror_40 : decode cX2_mirror 40 = .ok (.getfield 120, 3) := dk_180 0 120 (dk_at dksX2_mirror_1 18 rfl rfl)
theorem dX2_mirror_43 : decode cX2_mirror 43 = .ok (.getfield 255, 3) := dk_180 0 255 (dk_at dksX2_mirror_1 21 rfl rfl)
theorem dX2_mirror_46 : decode cX2_mirror 46 = .ok (.iload_n 2, 1) := dk_28 (dk_at dksX2_mirror_2 0 rfl rfl)
theorem dX2_mirror_47 : decode cX2_mirror 47 = .ok (.iaload, 1) := dk_46 (dk_at dksX2_mirror_2 1 rfl rfl)
theorem dX2_mirror_48 : decode cX2_mirror 48 = .ok (.iload_n 1, 1) := dk_27 (dk_at dksX2_mirror_2 2 rfl rfl)
theorem dX2_mirror_49 : decode cX2_mirror 49 = .ok (.if_icmp .ne 9, 3) := dk_160 0 9 (dk_at dksX2_mirror_2 3 rfl rfl)
theorem dX2_mirror_52 : decode cX2_mirror 52 = .ok (.aload_n 0, 1) := dk_42 (dk_at dksX2_mirror_2 6 rfl rfl)
theorem dX2_mirror_53 : decode cX2_mirror 53 = .ok (.iconst 3, 1) := dk_6 (dk_at dksX2_mirror_2 7 rfl rfl)
theorem dX2_mirror_54 : decode cX2_mirror 54 = .ok (.invokevirtual 85, 3) := dk_182 0 85 (dk_at dksX2_mirror_2 8 rfl rfl)
theorem dX2_mirror_57 : decode cX2_mirror 57 = .ok (.athrow, 1) := dk_191 (dk_at dksX2_mirror_2 11 rfl rfl)
theorem dX2_mirror_58 : decode cX2_mirror 58 = .ok (.iinc 2 1, 3) := dk_132 2 1 (dk_at dksX2_mirror_2 12 rfl rfl)
theorem dX2_mirror_61 : decode cX2_mirror 61 = .ok (.goto (-33), 3) := dk_167 255 223 (dk_at dksX2_mirror_2 15 rfl rfl)
theorem dX2_mirror_64 : decode cX2_mirror 64 = .ok (.aload_n 0, 1) := dk_42 (dk_at dksX2_mirror_2 18 rfl rfl)
theorem dX2_mirror_65 : decode cX2_mirror 65 = .ok (.invokevirtual 79, 3) := dk_182 0 79 (dk_at dksX2_mirror_2 19 rfl rfl)
theorem dX2_mirror_68 : decode cX2_mirror 68 = .ok (.aload_n 0, 1) := dk_42 (dk_at dksX2_mirror_2 22 rfl rfl)
theorem dX2_mirror_69 : decode cX2_mirror 69 = .ok (.getfield 120, 3) := dk_180 0 120 (dk_at dksX2_mirror_3 0 rfl rfl)
theorem dX2_mirror_72 : decode cX2_mirror 72 = .ok (.getfield 255, 3) := dk_180 0 255 (dk_at dksX2_mirror_3 3 rfl rfl)
theorem dX2_mirror_75 : decode cX2_mirror 75 = .ok (.aload_n 0, 1) := dk_42 (dk_at dksX2_mirror_3 6 rfl rfl)
theorem dX2_mirror_76 : decode cX2_mirror 76 = .ok (.getfield 120, 3) := dk_180 0 120 (dk_at dksX2_mirror_3 7 rfl rfl)
theorem dX2_mirror_79 : decode cX2_mirror 79 = .ok (.getfield 252, 3) := dk_180 0 252 (dk_at dksX2_mirror_3 10 rfl rfl)
theorem dX2_mirror_82 : decode cX2_mirror 82 = .ok (.iload_n 1, 1) := dk_27 (dk_at dksX2_mirror_3 13 rfl rfl)
theorem dX2_mirror_83 : decode cX2_mirror 83 = .ok (.iastore, 1) := dk_79 (dk_at dksX2_mirror_3 14 rfl rfl)
theorem dX2_mirror_84 : decode cX2_mirror 84 = .ok (.aload_n 0, 1) := dk_42 (dk_at dksX2_mirror_3 15 rfl rfl)
theorem dX2_mirror_85 : decode cX2_mirror 85 = .ok (.getfield 120, 3) := dk_180 0 120 (dk_at dksX2_mirror_3 16 rfl rfl)
theorem dX2_mirror_88 : decode cX2_mirror 88 = .ok (.dup, 1) := dk_89 (dk_at dksX2_mirror_3 19 rfl rfl)
theorem dX2_mirror_89 : decode cX2_mirror 89 = .ok (.getfield 252, 3) := dk_180 0 252 (dk_at dksX2_mirror_3 20 rfl rfl)
theorem dX2_mirror_92 : decode cX2_mirror 92 = .ok (.iconst 1, 1) := dk_4 (dk_at dksX2_mirror_3 23 rfl rfl)
theorem dX2_mirror_93 : decode cX2_mirror 93 = .ok (.iadd, 1) := dk_96 (dk_at dksX2_mirror_4 0 rfl rfl)
theorem dX2_mirror_94 : decode cX2_mirror 94 = .ok (.putfield 252, 3) := dk_181 0 252 (dk_at dksX2_mirror_4 1 rfl rfl)
theorem dX2_mirror_97 : decode cX2_mirror 97 = .ok (.return_, 1) := dk_177 (dk_at dksX2_mirror_4 4 rfl rfl)
abbrev cX2_person : ByteArray := prog_9_method_26_code
def yX2_person : MethodName := ⟨RX2, "person", "()V"⟩
def dkwX2_person_7 : List UInt8 := [96, 181, 0, 159, 177]
abbrev dktX2_person_7 : List UInt8 := dkwX2_person_7 ++ []
def dkwX2_person_6 : List UInt8 := [180, 0, 120, 180, 1, 22, 42, 180, 0, 120, 180, 0, 159, 43, 83, 42, 180, 0, 120, 89, 180, 0, 159, 4]
abbrev dktX2_person_6 : List UInt8 := dkwX2_person_6 ++ dktX2_person_7
def dkwX2_person_5 : List UInt8 := [187, 1, 17, 89, 28, 42, 18, 201, 28, 4, 96, 16, 99, 182, 0, 187, 183, 1, 19, 182, 1, 8, 42]
abbrev dktX2_person_5 : List UInt8 := dkwX2_person_5 ++ dktX2_person_6
def dkwX2_person_4 : List UInt8 := [183, 1, 14, 182, 1, 8, 42, 18, 109, 182, 0, 82, 153, 0, 34, 42, 3, 16, 99, 182, 0, 146, 61, 43]
abbrev dktX2_person_4 : List UInt8 := dkwX2_person_4 ++ dktX2_person_5
def dkwX2_person_3 : List UInt8 := [182, 1, 8, 42, 18, 107, 182, 0, 82, 153, 0, 21, 43, 187, 1, 12, 89, 42, 5, 16, 9, 182, 0, 146]
abbrev dktX2_person_3 : List UInt8 := dkwX2_person_3 ++ dktX2_person_4
def dkwX2_person_2 : List UInt8 := [182, 0, 230, 181, 1, 3, 42, 18, 105, 182, 0, 82, 153, 0, 14, 43, 187, 1, 5, 89, 183, 1, 7]
abbrev dktX2_person_2 : List UInt8 := dkwX2_person_2 ++ dktX2_person_3
def dkwX2_person_1 : List UInt8 := [89, 42, 182, 0, 206, 42, 180, 0, 120, 180, 0, 159, 183, 1, 2, 76, 42, 18, 213, 182, 0, 142, 43, 42]
abbrev dktX2_person_1 : List UInt8 := dkwX2_person_1 ++ dktX2_person_2
def dkwX2_person_0 : List UInt8 := [42, 42, 180, 0, 120, 180, 0, 159, 8, 162, 0, 7, 4, 167, 0, 4, 3, 8, 182, 0, 181, 187, 0, 140]
abbrev dktX2_person_0 : List UInt8 := dkwX2_person_0 ++ dktX2_person_1
theorem dksX2_person_0 : cX2_person.data.toList.drop 0 = dktX2_person_0 := by decide +kernel
theorem dksX2_person_1 : cX2_person.data.toList.drop 24 = dktX2_person_1 := dk_seg dksX2_person_0 24 rfl rfl
theorem dksX2_person_2 : cX2_person.data.toList.drop 48 = dktX2_person_2 := dk_seg dksX2_person_1 24 rfl rfl
theorem dksX2_person_3 : cX2_person.data.toList.drop 71 = dktX2_person_3 := dk_seg dksX2_person_2 23 rfl rfl
theorem dksX2_person_4 : cX2_person.data.toList.drop 95 = dktX2_person_4 := dk_seg dksX2_person_3 24 rfl rfl
theorem dksX2_person_5 : cX2_person.data.toList.drop 119 = dktX2_person_5 := dk_seg dksX2_person_4 24 rfl rfl
theorem dksX2_person_6 : cX2_person.data.toList.drop 142 = dktX2_person_6 := dk_seg dksX2_person_5 23 rfl rfl
theorem dksX2_person_7 : cX2_person.data.toList.drop 166 = dktX2_person_7 := dk_seg dksX2_person_6 24 rfl rfl
theorem dX2_person_0 : decode cX2_person 0 = .ok (.aload_n 0, 1) := dk_42 (dk_at dksX2_person_0 0 rfl rfl)
theorem dX2_person_1 : decode cX2_person 1 = .ok (.aload_n 0, 1) := dk_42 (dk_at dksX2_person_0 1 rfl rfl)
theorem dX2_person_2 : decode cX2_person 2 = .ok (.getfield 120, 3) := dk_180 0 120 (dk_at dksX2_person_0 2 rfl rfl)
theorem dX2_person_5 : decode cX2_person 5 = .ok (.getfield 159, 3) := dk_180 0 159 (dk_at dksX2_person_0 5 rfl rfl)
theorem dX2_person_8 : decode cX2_person 8 = .ok (.iconst 5, 1) := dk_8 (dk_at dksX2_person_0 8 rfl rfl)
theorem dX2_person_9 : decode cX2_person 9 = .ok (.if_icmp .ge 7, 3) := dk_162 0 7 (dk_at dksX2_person_0 9 rfl rfl)
theorem dX2_person_12 : decode cX2_person 12 = .ok (.iconst 1, 1) := dk_4 (dk_at dksX2_person_0 12 rfl rfl)
theorem dX2_person_13 : decode cX2_person 13 = .ok (.goto 4, 3) := dk_167 0 4 (dk_at dksX2_person_0 13 rfl rfl)
theorem dX2_person_16 : decode cX2_person 16 = .ok (.iconst 0, 1) := dk_3 (dk_at dksX2_person_0 16 rfl rfl)
theorem dX2_person_17 : decode cX2_person 17 = .ok (.iconst 5, 1) := dk_8 (dk_at dksX2_person_0 17 rfl rfl)
theorem dX2_person_18 : decode cX2_person 18 = .ok (.invokevirtual 181, 3) := dk_182 0 181 (dk_at dksX2_person_0 18 rfl rfl)
theorem dX2_person_21 : decode cX2_person 21 = .ok (.new 140, 3) := dk_187 0 140 (dk_at dksX2_person_0 21 rfl rfl)
theorem dX2_person_24 : decode cX2_person 24 = .ok (.dup, 1) := dk_89 (dk_at dksX2_person_1 0 rfl rfl)
theorem dX2_person_25 : decode cX2_person 25 = .ok (.aload_n 0, 1) := dk_42 (dk_at dksX2_person_1 1 rfl rfl)
theorem dX2_person_26 : decode cX2_person 26 = .ok (.invokevirtual 206, 3) := dk_182 0 206 (dk_at dksX2_person_1 2 rfl rfl)
theorem dX2_person_29 : decode cX2_person 29 = .ok (.aload_n 0, 1) := dk_42 (dk_at dksX2_person_1 5 rfl rfl)
theorem dX2_person_30 : decode cX2_person 30 = .ok (.getfield 120, 3) := dk_180 0 120 (dk_at dksX2_person_1 6 rfl rfl)
theorem dX2_person_33 : decode cX2_person 33 = .ok (.getfield 159, 3) := dk_180 0 159 (dk_at dksX2_person_1 9 rfl rfl)
theorem dX2_person_36 : decode cX2_person 36 = .ok (.invokespecial 258, 3) := dk_183 1 2 (dk_at dksX2_person_1 12 rfl rfl)
theorem dX2_person_39 : decode cX2_person 39 = .ok (.astore_n 1, 1) := dk_76 (dk_at dksX2_person_1 15 rfl rfl)
theorem dX2_person_40 : decode cX2_person 40 = .ok (.aload_n 0, 1) := dk_42 (dk_at dksX2_person_1 16 rfl rfl)
theorem dX2_person_41 : decode cX2_person 41 = .ok (.ldc 213, 2) := dk_18 213 (dk_at dksX2_person_1 17 rfl rfl)
theorem dX2_person_43 : decode cX2_person 43 = .ok (.invokevirtual 142, 3) := dk_182 0 142 (dk_at dksX2_person_1 19 rfl rfl)
theorem dX2_person_46 : decode cX2_person 46 = .ok (.aload_n 1, 1) := dk_43 (dk_at dksX2_person_1 22 rfl rfl)
theorem dX2_person_47 : decode cX2_person 47 = .ok (.aload_n 0, 1) := dk_42 (dk_at dksX2_person_1 23 rfl rfl)
theorem dX2_person_48 : decode cX2_person 48 = .ok (.invokevirtual 230, 3) := dk_182 0 230 (dk_at dksX2_person_2 0 rfl rfl)
theorem dX2_person_51 : decode cX2_person 51 = .ok (.putfield 259, 3) := dk_181 1 3 (dk_at dksX2_person_2 3 rfl rfl)
theorem dX2_person_54 : decode cX2_person 54 = .ok (.aload_n 0, 1) := dk_42 (dk_at dksX2_person_2 6 rfl rfl)
theorem dX2_person_55 : decode cX2_person 55 = .ok (.ldc 105, 2) := dk_18 105 (dk_at dksX2_person_2 7 rfl rfl)
theorem dX2_person_57 : decode cX2_person 57 = .ok (.invokevirtual 82, 3) := dk_182 0 82 (dk_at dksX2_person_2 9 rfl rfl)
theorem dX2_person_60 : decode cX2_person 60 = .ok (.ifCond .eq 14, 3) := dk_153 0 14 (dk_at dksX2_person_2 12 rfl rfl)
theorem dX2_person_63 : decode cX2_person 63 = .ok (.aload_n 1, 1) := dk_43 (dk_at dksX2_person_2 15 rfl rfl)
theorem dX2_person_64 : decode cX2_person 64 = .ok (.new 261, 3) := dk_187 1 5 (dk_at dksX2_person_2 16 rfl rfl)
theorem dX2_person_67 : decode cX2_person 67 = .ok (.dup, 1) := dk_89 (dk_at dksX2_person_2 19 rfl rfl)
theorem dX2_person_68 : decode cX2_person 68 = .ok (.invokespecial 263, 3) := dk_183 1 7 (dk_at dksX2_person_2 20 rfl rfl)
theorem dX2_person_71 : decode cX2_person 71 = .ok (.invokevirtual 264, 3) := dk_182 1 8 (dk_at dksX2_person_3 0 rfl rfl)
theorem dX2_person_74 : decode cX2_person 74 = .ok (.aload_n 0, 1) := dk_42 (dk_at dksX2_person_3 3 rfl rfl)
theorem dX2_person_75 : decode cX2_person 75 = .ok (.ldc 107, 2) := dk_18 107 (dk_at dksX2_person_3 4 rfl rfl)
theorem dX2_person_77 : decode cX2_person 77 = .ok (.invokevirtual 82, 3) := dk_182 0 82 (dk_at dksX2_person_3 6 rfl rfl)
theorem dX2_person_80 : decode cX2_person 80 = .ok (.ifCond .eq 21, 3) := dk_153 0 21 (dk_at dksX2_person_3 9 rfl rfl)
theorem dX2_person_83 : decode cX2_person 83 = .ok (.aload_n 1, 1) := dk_43 (dk_at dksX2_person_3 12 rfl rfl)
theorem dX2_person_84 : decode cX2_person 84 = .ok (.new 268, 3) := dk_187 1 12 (dk_at dksX2_person_3 13 rfl rfl)
theorem dX2_person_87 : decode cX2_person 87 = .ok (.dup, 1) := dk_89 (dk_at dksX2_person_3 16 rfl rfl)
theorem dX2_person_88 : decode cX2_person 88 = .ok (.aload_n 0, 1) := dk_42 (dk_at dksX2_person_3 17 rfl rfl)
theorem dX2_person_89 : decode cX2_person 89 = .ok (.iconst 2, 1) := dk_5 (dk_at dksX2_person_3 18 rfl rfl)
theorem dX2_person_90 : decode cX2_person 90 = .ok (.bipush 9, 2) := dk_16 9 (dk_at dksX2_person_3 19 rfl rfl)
theorem dX2_person_92 : decode cX2_person 92 = .ok (.invokevirtual 146, 3) := dk_182 0 146 (dk_at dksX2_person_3 21 rfl rfl)
theorem dX2_person_95 : decode cX2_person 95 = .ok (.invokespecial 270, 3) := dk_183 1 14 (dk_at dksX2_person_4 0 rfl rfl)
theorem dX2_person_98 : decode cX2_person 98 = .ok (.invokevirtual 264, 3) := dk_182 1 8 (dk_at dksX2_person_4 3 rfl rfl)
theorem dX2_person_101 : decode cX2_person 101 = .ok (.aload_n 0, 1) := dk_42 (dk_at dksX2_person_4 6 rfl rfl)
theorem dX2_person_102 : decode cX2_person 102 = .ok (.ldc 109, 2) := dk_18 109 (dk_at dksX2_person_4 7 rfl rfl)
theorem dX2_person_104 : decode cX2_person 104 = .ok (.invokevirtual 82, 3) := dk_182 0 82 (dk_at dksX2_person_4 9 rfl rfl)
theorem dX2_person_107 : decode cX2_person 107 = .ok (.ifCond .eq 34, 3) := dk_153 0 34 (dk_at dksX2_person_4 12 rfl rfl)
theorem dX2_person_110 : decode cX2_person 110 = .ok (.aload_n 0, 1) := dk_42 (dk_at dksX2_person_4 15 rfl rfl)
theorem dX2_person_111 : decode cX2_person 111 = .ok (.iconst 0, 1) := dk_3 (dk_at dksX2_person_4 16 rfl rfl)
theorem dX2_person_112 : decode cX2_person 112 = .ok (.bipush 99, 2) := dk_16 99 (dk_at dksX2_person_4 17 rfl rfl)
theorem dX2_person_114 : decode cX2_person 114 = .ok (.invokevirtual 146, 3) := dk_182 0 146 (dk_at dksX2_person_4 19 rfl rfl)
theorem dX2_person_117 : decode cX2_person 117 = .ok (.istore_n 2, 1) := dk_61 (dk_at dksX2_person_4 22 rfl rfl)
theorem dX2_person_118 : decode cX2_person 118 = .ok (.aload_n 1, 1) := dk_43 (dk_at dksX2_person_4 23 rfl rfl)
theorem dX2_person_119 : decode cX2_person 119 = .ok (.new 273, 3) := dk_187 1 17 (dk_at dksX2_person_5 0 rfl rfl)
theorem dX2_person_122 : decode cX2_person 122 = .ok (.dup, 1) := dk_89 (dk_at dksX2_person_5 3 rfl rfl)
theorem dX2_person_123 : decode cX2_person 123 = .ok (.iload_n 2, 1) := dk_28 (dk_at dksX2_person_5 4 rfl rfl)
theorem dX2_person_124 : decode cX2_person 124 = .ok (.aload_n 0, 1) := dk_42 (dk_at dksX2_person_5 5 rfl rfl)
theorem dX2_person_125 : decode cX2_person 125 = .ok (.ldc 201, 2) := dk_18 201 (dk_at dksX2_person_5 6 rfl rfl)
theorem dX2_person_127 : decode cX2_person 127 = .ok (.iload_n 2, 1) := dk_28 (dk_at dksX2_person_5 8 rfl rfl)
theorem dX2_person_128 : decode cX2_person 128 = .ok (.iconst 1, 1) := dk_4 (dk_at dksX2_person_5 9 rfl rfl)
theorem dX2_person_129 : decode cX2_person 129 = .ok (.iadd, 1) := dk_96 (dk_at dksX2_person_5 10 rfl rfl)
theorem dX2_person_130 : decode cX2_person 130 = .ok (.bipush 99, 2) := dk_16 99 (dk_at dksX2_person_5 11 rfl rfl)
theorem dX2_person_132 : decode cX2_person 132 = .ok (.invokevirtual 187, 3) := dk_182 0 187 (dk_at dksX2_person_5 13 rfl rfl)
theorem dX2_person_135 : decode cX2_person 135 = .ok (.invokespecial 275, 3) := dk_183 1 19 (dk_at dksX2_person_5 16 rfl rfl)
theorem dX2_person_138 : decode cX2_person 138 = .ok (.invokevirtual 264, 3) := dk_182 1 8 (dk_at dksX2_person_5 19 rfl rfl)
theorem dX2_person_141 : decode cX2_person 141 = .ok (.aload_n 0, 1) := dk_42 (dk_at dksX2_person_5 22 rfl rfl)
theorem dX2_person_142 : decode cX2_person 142 = .ok (.getfield 120, 3) := dk_180 0 120 (dk_at dksX2_person_6 0 rfl rfl)
theorem dX2_person_145 : decode cX2_person 145 = .ok (.getfield 278, 3) := dk_180 1 22 (dk_at dksX2_person_6 3 rfl rfl)
theorem dX2_person_148 : decode cX2_person 148 = .ok (.aload_n 0, 1) := dk_42 (dk_at dksX2_person_6 6 rfl rfl)
theorem dX2_person_149 : decode cX2_person 149 = .ok (.getfield 120, 3) := dk_180 0 120 (dk_at dksX2_person_6 7 rfl rfl)
theorem dX2_person_152 : decode cX2_person 152 = .ok (.getfield 159, 3) := dk_180 0 159 (dk_at dksX2_person_6 10 rfl rfl)
theorem dX2_person_155 : decode cX2_person 155 = .ok (.aload_n 1, 1) := dk_43 (dk_at dksX2_person_6 13 rfl rfl)
theorem dX2_person_156 : decode cX2_person 156 = .ok (.aastore, 1) := dk_83 (dk_at dksX2_person_6 14 rfl rfl)
theorem dX2_person_157 : decode cX2_person 157 = .ok (.aload_n 0, 1) := dk_42 (dk_at dksX2_person_6 15 rfl rfl)
theorem dX2_person_158 : decode cX2_person 158 = .ok (.getfield 120, 3) := dk_180 0 120 (dk_at dksX2_person_6 16 rfl rfl)
theorem dX2_person_161 : decode cX2_person 161 = .ok (.dup, 1) := dk_89 (dk_at dksX2_person_6 19 rfl rfl)
theorem dX2_person_162 : decode cX2_person 162 = .ok (.getfield 159, 3) := dk_180 0 159 (dk_at dksX2_person_6 20 rfl rfl)
theorem dX2_person_165 : decode cX2_person 165 = .ok (.iconst 1, 1) := dk_4 (dk_at dksX2_person_6 23 rfl rfl)
theorem dX2_person_166 : decode cX2_person 166 = .ok (.iadd, 1) := dk_96 (dk_at dksX2_person_7 0 rfl rfl)
theorem dX2_person_167 : decode cX2_person 167 = .ok (.putfield 159, 3) := dk_181 0 159 (dk_at dksX2_person_7 1 rfl rfl)
theorem dX2_person_170 : decode cX2_person 170 = .ok (.return_, 1) := dk_177 (dk_at dksX2_person_7 4 rfl rfl)
abbrev cX2_pair : ByteArray := prog_9_method_27_code
def yX2_pair : MethodName := ⟨RX2, "pair", "()V"⟩
def dkwX2_pair_8 : List UInt8 := [180, 1, 26, 28, 79, 42, 180, 0, 120, 89, 180, 1, 26, 4, 96, 181, 1, 26, 177]
abbrev dktX2_pair_8 : List UInt8 := dkwX2_pair_8 ++ []
def dkwX2_pair_7 : List UInt8 := [180, 1, 34, 42, 180, 0, 120, 180, 1, 26, 27, 79, 42, 180, 0, 120, 180, 1, 37, 42, 180, 0, 120]
abbrev dktX2_pair_7 : List UInt8 := dkwX2_pair_7 ++ dktX2_pair_8
def dkwX2_pair_6 : List UInt8 := [132, 4, 1, 167, 255, 175, 29, 153, 0, 9, 42, 6, 182, 0, 85, 191, 42, 182, 0, 79, 42, 180, 0, 120]
abbrev dktX2_pair_6 : List UInt8 := dkwX2_pair_6 ++ dktX2_pair_7
def dkwX2_pair_5 : List UInt8 := [160, 0, 21, 42, 180, 0, 120, 180, 1, 37, 21, 4, 46, 27, 160, 0, 7, 4, 167, 0, 4, 3, 62]
abbrev dktX2_pair_5 : List UInt8 := dkwX2_pair_5 ++ dktX2_pair_6
def dkwX2_pair_4 : List UInt8 := [180, 0, 120, 180, 1, 37, 21, 4, 46, 28, 159, 0, 31, 42, 180, 0, 120, 180, 1, 34, 21, 4, 46, 28]
abbrev dktX2_pair_4 : List UInt8 := dkwX2_pair_4 ++ dktX2_pair_5
def dkwX2_pair_3 : List UInt8 := [162, 0, 75, 29, 154, 0, 59, 42, 180, 0, 120, 180, 1, 34, 21, 4, 46, 27, 160, 0, 17, 42]
abbrev dktX2_pair_3 : List UInt8 := dkwX2_pair_3 ++ dktX2_pair_4
def dkwX2_pair_2 : List UInt8 := [28, 160, 0, 7, 4, 167, 0, 4, 3, 62, 3, 54, 4, 21, 4, 42, 180, 0, 120, 180, 1, 26]
abbrev dktX2_pair_2 : List UInt8 := dkwX2_pair_2 ++ dktX2_pair_3
def dkwX2_pair_1 : List UInt8 := [182, 1, 29, 180, 1, 33, 60, 42, 182, 0, 79, 42, 182, 0, 217, 42, 182, 1, 29, 180, 1, 33, 61, 27]
abbrev dktX2_pair_1 : List UInt8 := dkwX2_pair_1 ++ dktX2_pair_2
def dkwX2_pair_0 : List UInt8 := [42, 42, 180, 0, 120, 180, 1, 26, 6, 162, 0, 7, 4, 167, 0, 4, 3, 8, 182, 0, 181, 42]
abbrev dktX2_pair_0 : List UInt8 := dkwX2_pair_0 ++ dktX2_pair_1
theorem dksX2_pair_0 : cX2_pair.data.toList.drop 0 = dktX2_pair_0 := by decide +kernel
theorem dksX2_pair_1 : cX2_pair.data.toList.drop 22 = dktX2_pair_1 := dk_seg dksX2_pair_0 22 rfl rfl
theorem dksX2_pair_2 : cX2_pair.data.toList.drop 46 = dktX2_pair_2 := dk_seg dksX2_pair_1 24 rfl rfl
theorem dksX2_pair_3 : cX2_pair.data.toList.drop 68 = dktX2_pair_3 := dk_seg dksX2_pair_2 22 rfl rfl
theorem dksX2_pair_4 : cX2_pair.data.toList.drop 90 = dktX2_pair_4 := dk_seg dksX2_pair_3 22 rfl rfl
theorem dksX2_pair_5 : cX2_pair.data.toList.drop 114 = dktX2_pair_5 := dk_seg dksX2_pair_4 24 rfl rfl
theorem dksX2_pair_6 : cX2_pair.data.toList.drop 137 = dktX2_pair_6 := dk_seg dksX2_pair_5 23 rfl rfl
theorem dksX2_pair_7 : cX2_pair.data.toList.drop 161 = dktX2_pair_7 := dk_seg dksX2_pair_6 24 rfl rfl
theorem dksX2_pair_8 : cX2_pair.data.toList.drop 184 = dktX2_pair_8 := dk_seg dksX2_pair_7 23 rfl rfl
theorem dX2_pair_0 : decode cX2_pair 0 = .ok (.aload_n 0, 1) := dk_42 (dk_at dksX2_pair_0 0 rfl rfl)
theorem dX2_pair_1 : decode cX2_pair 1 = .ok (.aload_n 0, 1) := dk_42 (dk_at dksX2_pair_0 1 rfl rfl)
theorem dX2_pair_2 : decode cX2_pair 2 = .ok (.getfield 120, 3) := dk_180 0 120 (dk_at dksX2_pair_0 2 rfl rfl)
theorem dX2_pair_5 : decode cX2_pair 5 = .ok (.getfield 282, 3) := dk_180 1 26 (dk_at dksX2_pair_0 5 rfl rfl)
theorem dX2_pair_8 : decode cX2_pair 8 = .ok (.iconst 3, 1) := dk_6 (dk_at dksX2_pair_0 8 rfl rfl)
theorem dX2_pair_9 : decode cX2_pair 9 = .ok (.if_icmp .ge 7, 3) := dk_162 0 7 (dk_at dksX2_pair_0 9 rfl rfl)
theorem dX2_pair_12 : decode cX2_pair 12 = .ok (.iconst 1, 1) := dk_4 (dk_at dksX2_pair_0 12 rfl rfl)
theorem dX2_pair_13 : decode cX2_pair 13 = .ok (.goto 4, 3) := dk_167 0 4 (dk_at dksX2_pair_0 13 rfl rfl)
theorem dX2_pair_16 : decode cX2_pair 16 = .ok (.iconst 0, 1) := dk_3 (dk_at dksX2_pair_0 16 rfl rfl)
theorem dX2_pair_17 : decode cX2_pair 17 = .ok (.iconst 5, 1) := dk_8 (dk_at dksX2_pair_0 17 rfl rfl)
theorem dX2_pair_18 : decode cX2_pair 18 = .ok (.invokevirtual 181, 3) := dk_182 0 181 (dk_at dksX2_pair_0 18 rfl rfl)
theorem dX2_pair_21 : decode cX2_pair 21 = .ok (.aload_n 0, 1) := dk_42 (dk_at dksX2_pair_0 21 rfl rfl)
theorem dX2_pair_22 : decode cX2_pair 22 = .ok (.invokevirtual 285, 3) := dk_182 1 29 (dk_at dksX2_pair_1 0 rfl rfl)
theorem dX2_pair_25 : decode cX2_pair 25 = .ok (.getfield 289, 3) := dk_180 1 33 (dk_at dksX2_pair_1 3 rfl rfl)
theorem dX2_pair_28 : decode cX2_pair 28 = .ok (.istore_n 1, 1) := dk_60 (dk_at dksX2_pair_1 6 rfl rfl)
theorem dX2_pair_29 : decode cX2_pair 29 = .ok (.aload_n 0, 1) := dk_42 (dk_at dksX2_pair_1 7 rfl rfl)
theorem dX2_pair_30 : decode cX2_pair 30 = .ok (.invokevirtual 79, 3) := dk_182 0 79 (dk_at dksX2_pair_1 8 rfl rfl)
theorem dX2_pair_33 : decode cX2_pair 33 = .ok (.aload_n 0, 1) := dk_42 (dk_at dksX2_pair_1 11 rfl rfl)
theorem dX2_pair_34 : decode cX2_pair 34 = .ok (.invokevirtual 217, 3) := dk_182 0 217 (dk_at dksX2_pair_1 12 rfl rfl)
theorem dX2_pair_37 : decode cX2_pair 37 = .ok (.aload_n 0, 1) := dk_42 (dk_at dksX2_pair_1 15 rfl rfl)
theorem dX2_pair_38 : decode cX2_pair 38 = .ok (.invokevirtual 285, 3) := dk_182 1 29 (dk_at dksX2_pair_1 16 rfl rfl)
theorem dX2_pair_41 : decode cX2_pair 41 = .ok (.getfield 289, 3) := dk_180 1 33 (dk_at dksX2_pair_1 19 rfl rfl)
theorem dX2_pair_44 : decode cX2_pair 44 = .ok (.istore_n 2, 1) := dk_61 (dk_at dksX2_pair_1 22 rfl rfl)
theorem dX2_pair_45 : decode cX2_pair 45 = .ok (.iload_n 1, 1) := dk_27 (dk_at dksX2_pair_1 23 rfl rfl)
theorem dX2_pair_46 : decode cX2_pair 46 = .ok (.iload_n 2, 1) := dk_28 (dk_at dksX2_pair_2 0 rfl rfl)
theorem dX2_pair_47 : decode cX2_pair 47 = .ok (.if_icmp .ne 7, 3) := dk_160 0 7 (dk_at dksX2_pair_2 1 rfl rfl)
theorem dX2_pair_50 : decode cX2_pair 50 = .ok (.iconst 1, 1) := dk_4 (dk_at dksX2_pair_2 4 rfl rfl)
theorem dX2_pair_51 : decode cX2_pair 51 = .ok (.goto 4, 3) := dk_167 0 4 (dk_at dksX2_pair_2 5 rfl rfl)
theorem dX2_pair_54 : decode cX2_pair 54 = .ok (.iconst 0, 1) := dk_3 (dk_at dksX2_pair_2 8 rfl rfl)
theorem dX2_pair_55 : decode cX2_pair 55 = .ok (.istore_n 3, 1) := dk_62 (dk_at dksX2_pair_2 9 rfl rfl)
theorem dX2_pair_56 : decode cX2_pair 56 = .ok (.iconst 0, 1) := dk_3 (dk_at dksX2_pair_2 10 rfl rfl)
theorem dX2_pair_57 : decode cX2_pair 57 = .ok (.istore 4, 2) := dk_54 4 (dk_at dksX2_pair_2 11 rfl rfl)
theorem dX2_pair_59 : decode cX2_pair 59 = .ok (.iload 4, 2) := dk_21 4 (dk_at dksX2_pair_2 13 rfl rfl)
theorem dX2_pair_61 : decode cX2_pair 61 = .ok (.aload_n 0, 1) := dk_42 (dk_at dksX2_pair_2 15 rfl rfl)
theorem dX2_pair_62 : decode cX2_pair 62 = .ok (.getfield 120, 3) := dk_180 0 120 (dk_at dksX2_pair_2 16 rfl rfl)
theorem dX2_pair_65 : decode cX2_pair 65 = .ok (.getfield 282, 3) := dk_180 1 26 (dk_at dksX2_pair_2 19 rfl rfl)
theorem dX2_pair_68 : decode cX2_pair 68 = .ok (.if_icmp .ge 75, 3) := dk_162 0 75 (dk_at dksX2_pair_3 0 rfl rfl)
theorem dX2_pair_71 : decode cX2_pair 71 = .ok (.iload_n 3, 1) := dk_29 (dk_at dksX2_pair_3 3 rfl rfl)
theorem dX2_pair_72 : decode cX2_pair 72 = .ok (.ifCond .ne 59, 3) := dk_154 0 59 (dk_at dksX2_pair_3 4 rfl rfl)
theorem dX2_pair_75 : decode cX2_pair 75 = .ok (.aload_n 0, 1) := dk_42 (dk_at dksX2_pair_3 7 rfl rfl)
theorem dX2_pair_76 : decode cX2_pair 76 = .ok (.getfield 120, 3) := dk_180 0 120 (dk_at dksX2_pair_3 8 rfl rfl)
theorem dX2_pair_79 : decode cX2_pair 79 = .ok (.getfield 290, 3) := dk_180 1 34 (dk_at dksX2_pair_3 11 rfl rfl)
theorem dX2_pair_82 : decode cX2_pair 82 = .ok (.iload 4, 2) := dk_21 4 (dk_at dksX2_pair_3 14 rfl rfl)
theorem dX2_pair_84 : decode cX2_pair 84 = .ok (.iaload, 1) := dk_46 (dk_at dksX2_pair_3 16 rfl rfl)
theorem dX2_pair_85 : decode cX2_pair 85 = .ok (.iload_n 1, 1) := dk_27 (dk_at dksX2_pair_3 17 rfl rfl)
theorem dX2_pair_86 : decode cX2_pair 86 = .ok (.if_icmp .ne 17, 3) := dk_160 0 17 (dk_at dksX2_pair_3 18 rfl rfl)
theorem dX2_pair_89 : decode cX2_pair 89 = .ok (.aload_n 0, 1) := dk_42 (dk_at dksX2_pair_3 21 rfl rfl)
theorem dX2_pair_90 : decode cX2_pair 90 = .ok (.getfield 120, 3) := dk_180 0 120 (dk_at dksX2_pair_4 0 rfl rfl)
theorem dX2_pair_93 : decode cX2_pair 93 = .ok (.getfield 293, 3) := dk_180 1 37 (dk_at dksX2_pair_4 3 rfl rfl)
theorem dX2_pair_96 : decode cX2_pair 96 = .ok (.iload 4, 2) := dk_21 4 (dk_at dksX2_pair_4 6 rfl rfl)
theorem dX2_pair_98 : decode cX2_pair 98 = .ok (.iaload, 1) := dk_46 (dk_at dksX2_pair_4 8 rfl rfl)
theorem dX2_pair_99 : decode cX2_pair 99 = .ok (.iload_n 2, 1) := dk_28 (dk_at dksX2_pair_4 9 rfl rfl)
theorem dX2_pair_100 : decode cX2_pair 100 = .ok (.if_icmp .eq 31, 3) := dk_159 0 31 (dk_at dksX2_pair_4 10 rfl rfl)
theorem dX2_pair_103 : decode cX2_pair 103 = .ok (.aload_n 0, 1) := dk_42 (dk_at dksX2_pair_4 13 rfl rfl)
theorem dX2_pair_104 : decode cX2_pair 104 = .ok (.getfield 120, 3) := dk_180 0 120 (dk_at dksX2_pair_4 14 rfl rfl)
theorem dX2_pair_107 : decode cX2_pair 107 = .ok (.getfield 290, 3) := dk_180 1 34 (dk_at dksX2_pair_4 17 rfl rfl)
theorem dX2_pair_110 : decode cX2_pair 110 = .ok (.iload 4, 2) := dk_21 4 (dk_at dksX2_pair_4 20 rfl rfl)
theorem dX2_pair_112 : decode cX2_pair 112 = .ok (.iaload, 1) := dk_46 (dk_at dksX2_pair_4 22 rfl rfl)
theorem dX2_pair_113 : decode cX2_pair 113 = .ok (.iload_n 2, 1) := dk_28 (dk_at dksX2_pair_4 23 rfl rfl)
theorem dX2_pair_114 : decode cX2_pair 114 = .ok (.if_icmp .ne 21, 3) := dk_160 0 21 (dk_at dksX2_pair_5 0 rfl rfl)
theorem dX2_pair_117 : decode cX2_pair 117 = .ok (.aload_n 0, 1) := dk_42 (dk_at dksX2_pair_5 3 rfl rfl)
theorem dX2_pair_118 : decode cX2_pair 118 = .ok (.getfield 120, 3) := dk_180 0 120 (dk_at dksX2_pair_5 4 rfl rfl)
theorem dX2_pair_121 : decode cX2_pair 121 = .ok (.getfield 293, 3) := dk_180 1 37 (dk_at dksX2_pair_5 7 rfl rfl)
theorem dX2_pair_124 : decode cX2_pair 124 = .ok (.iload 4, 2) := dk_21 4 (dk_at dksX2_pair_5 10 rfl rfl)
theorem dX2_pair_126 : decode cX2_pair 126 = .ok (.iaload, 1) := dk_46 (dk_at dksX2_pair_5 12 rfl rfl)
theorem dX2_pair_127 : decode cX2_pair 127 = .ok (.iload_n 1, 1) := dk_27 (dk_at dksX2_pair_5 13 rfl rfl)
theorem dX2_pair_128 : decode cX2_pair 128 = .ok (.if_icmp .ne 7, 3) := dk_160 0 7 (dk_at dksX2_pair_5 14 rfl rfl)
theorem dX2_pair_131 : decode cX2_pair 131 = .ok (.iconst 1, 1) := dk_4 (dk_at dksX2_pair_5 17 rfl rfl)
theorem dX2_pair_132 : decode cX2_pair 132 = .ok (.goto 4, 3) := dk_167 0 4 (dk_at dksX2_pair_5 18 rfl rfl)
theorem dX2_pair_135 : decode cX2_pair 135 = .ok (.iconst 0, 1) := dk_3 (dk_at dksX2_pair_5 21 rfl rfl)
theorem dX2_pair_136 : decode cX2_pair 136 = .ok (.istore_n 3, 1) := dk_62 (dk_at dksX2_pair_5 22 rfl rfl)
theorem dX2_pair_137 : decode cX2_pair 137 = .ok (.iinc 4 1, 3) := dk_132 4 1 (dk_at dksX2_pair_6 0 rfl rfl)
theorem dX2_pair_140 : decode cX2_pair 140 = .ok (.goto (-81), 3) := dk_167 255 175 (dk_at dksX2_pair_6 3 rfl rfl)
theorem dX2_pair_143 : decode cX2_pair 143 = .ok (.iload_n 3, 1) := dk_29 (dk_at dksX2_pair_6 6 rfl rfl)
theorem dX2_pair_144 : decode cX2_pair 144 = .ok (.ifCond .eq 9, 3) := dk_153 0 9 (dk_at dksX2_pair_6 7 rfl rfl)
theorem dX2_pair_147 : decode cX2_pair 147 = .ok (.aload_n 0, 1) := dk_42 (dk_at dksX2_pair_6 10 rfl rfl)
theorem dX2_pair_148 : decode cX2_pair 148 = .ok (.iconst 3, 1) := dk_6 (dk_at dksX2_pair_6 11 rfl rfl)
theorem dX2_pair_149 : decode cX2_pair 149 = .ok (.invokevirtual 85, 3) := dk_182 0 85 (dk_at dksX2_pair_6 12 rfl rfl)
theorem dX2_pair_152 : decode cX2_pair 152 = .ok (.athrow, 1) := dk_191 (dk_at dksX2_pair_6 15 rfl rfl)
theorem dX2_pair_153 : decode cX2_pair 153 = .ok (.aload_n 0, 1) := dk_42 (dk_at dksX2_pair_6 16 rfl rfl)
theorem dX2_pair_154 : decode cX2_pair 154 = .ok (.invokevirtual 79, 3) := dk_182 0 79 (dk_at dksX2_pair_6 17 rfl rfl)
theorem dX2_pair_157 : decode cX2_pair 157 = .ok (.aload_n 0, 1) := dk_42 (dk_at dksX2_pair_6 20 rfl rfl)
theorem dX2_pair_158 : decode cX2_pair 158 = .ok (.getfield 120, 3) := dk_180 0 120 (dk_at dksX2_pair_6 21 rfl rfl)
theorem dX2_pair_161 : decode cX2_pair 161 = .ok (.getfield 290, 3) := dk_180 1 34 (dk_at dksX2_pair_7 0 rfl rfl)
theorem dX2_pair_164 : decode cX2_pair 164 = .ok (.aload_n 0, 1) := dk_42 (dk_at dksX2_pair_7 3 rfl rfl)
theorem dX2_pair_165 : decode cX2_pair 165 = .ok (.getfield 120, 3) := dk_180 0 120 (dk_at dksX2_pair_7 4 rfl rfl)
theorem dX2_pair_168 : decode cX2_pair 168 = .ok (.getfield 282, 3) := dk_180 1 26 (dk_at dksX2_pair_7 7 rfl rfl)
theorem dX2_pair_171 : decode cX2_pair 171 = .ok (.iload_n 1, 1) := dk_27 (dk_at dksX2_pair_7 10 rfl rfl)
theorem dX2_pair_172 : decode cX2_pair 172 = .ok (.iastore, 1) := dk_79 (dk_at dksX2_pair_7 11 rfl rfl)
theorem dX2_pair_173 : decode cX2_pair 173 = .ok (.aload_n 0, 1) := dk_42 (dk_at dksX2_pair_7 12 rfl rfl)
theorem dX2_pair_174 : decode cX2_pair 174 = .ok (.getfield 120, 3) := dk_180 0 120 (dk_at dksX2_pair_7 13 rfl rfl)
theorem dX2_pair_177 : decode cX2_pair 177 = .ok (.getfield 293, 3) := dk_180 1 37 (dk_at dksX2_pair_7 16 rfl rfl)
theorem dX2_pair_180 : decode cX2_pair 180 = .ok (.aload_n 0, 1) := dk_42 (dk_at dksX2_pair_7 19 rfl rfl)
theorem dX2_pair_181 : decode cX2_pair 181 = .ok (.getfield 120, 3) := dk_180 0 120 (dk_at dksX2_pair_7 20 rfl rfl)
theorem dX2_pair_184 : decode cX2_pair 184 = .ok (.getfield 282, 3) := dk_180 1 26 (dk_at dksX2_pair_8 0 rfl rfl)
theorem dX2_pair_187 : decode cX2_pair 187 = .ok (.iload_n 2, 1) := dk_28 (dk_at dksX2_pair_8 3 rfl rfl)
theorem dX2_pair_188 : decode cX2_pair 188 = .ok (.iastore, 1) := dk_79 (dk_at dksX2_pair_8 4 rfl rfl)
theorem dX2_pair_189 : decode cX2_pair 189 = .ok (.aload_n 0, 1) := dk_42 (dk_at dksX2_pair_8 5 rfl rfl)
theorem dX2_pair_190 : decode cX2_pair 190 = .ok (.getfield 120, 3) := dk_180 0 120 (dk_at dksX2_pair_8 6 rfl rfl)
theorem dX2_pair_193 : decode cX2_pair 193 = .ok (.dup, 1) := dk_89 (dk_at dksX2_pair_8 9 rfl rfl)
theorem dX2_pair_194 : decode cX2_pair 194 = .ok (.getfield 282, 3) := dk_180 1 26 (dk_at dksX2_pair_8 10 rfl rfl)
theorem dX2_pair_197 : decode cX2_pair 197 = .ok (.iconst 1, 1) := dk_4 (dk_at dksX2_pair_8 13 rfl rfl)
theorem dX2_pair_198 : decode cX2_pair 198 = .ok (.iadd, 1) := dk_96 (dk_at dksX2_pair_8 14 rfl rfl)
theorem dX2_pair_199 : decode cX2_pair 199 = .ok (.putfield 282, 3) := dk_181 1 26 (dk_at dksX2_pair_8 15 rfl rfl)
theorem dX2_pair_202 : decode cX2_pair 202 = .ok (.return_, 1) := dk_177 (dk_at dksX2_pair_8 18 rfl rfl)
abbrev cX2_personHere : ByteArray := prog_9_method_14_code
def yX2_personHere : MethodName := ⟨RX2, "personHere", "()LNeverUnseen$Person;"⟩
def dkwX2_personHere_1 : List UInt8 := [5, 182, 0, 85, 191, 43, 192, 0, 140, 176]
abbrev dktX2_personHere_1 : List UInt8 := dkwX2_personHere_1 ++ []
def dkwX2_personHere_0 : List UInt8 := [42, 182, 0, 117, 42, 180, 0, 120, 42, 180, 0, 61, 182, 0, 124, 76, 43, 193, 0, 140, 154, 0, 9, 42]
abbrev dktX2_personHere_0 : List UInt8 := dkwX2_personHere_0 ++ dktX2_personHere_1
theorem dksX2_personHere_0 : cX2_personHere.data.toList.drop 0 = dktX2_personHere_0 := by decide +kernel
theorem dksX2_personHere_1 : cX2_personHere.data.toList.drop 24 = dktX2_personHere_1 := dk_seg dksX2_personHere_0 24 rfl rfl
theorem dX2_personHere_0 : decode cX2_personHere 0 = .ok (.aload_n 0, 1) := dk_42 (dk_at dksX2_personHere_0 0 rfl rfl)
theorem dX2_personHere_1 : decode cX2_personHere 1 = .ok (.invokevirtual 117, 3) := dk_182 0 117 (dk_at dksX2_personHere_0 1 rfl rfl)
theorem dX2_personHere_4 : decode cX2_personHere 4 = .ok (.aload_n 0, 1) := dk_42 (dk_at dksX2_personHere_0 4 rfl rfl)
theorem dX2_personHere_5 : decode cX2_personHere 5 = .ok (.getfield 120, 3) := dk_180 0 120 (dk_at dksX2_personHere_0 5 rfl rfl)
theorem dX2_personHere_8 : decode cX2_personHere 8 = .ok (.aload_n 0, 1) := dk_42 (dk_at dksX2_personHere_0 8 rfl rfl)
theorem dX2_personHere_9 : decode cX2_personHere 9 = .ok (.getfield 61, 3) := dk_180 0 61 (dk_at dksX2_personHere_0 9 rfl rfl)
theorem dX2_personHere_12 : decode cX2_personHere 12 = .ok (.invokevirtual 124, 3) := dk_182 0 124 (dk_at dksX2_personHere_0 12 rfl rfl)
theorem dX2_personHere_15 : decode cX2_personHere 15 = .ok (.astore_n 1, 1) := dk_76 (dk_at dksX2_personHere_0 15 rfl rfl)
theorem dX2_personHere_16 : decode cX2_personHere 16 = .ok (.aload_n 1, 1) := dk_43 (dk_at dksX2_personHere_0 16 rfl rfl)
theorem dX2_personHere_17 : decode cX2_personHere 17 = .ok (.instanceof 140, 3) := dk_193 0 140 (dk_at dksX2_personHere_0 17 rfl rfl)
theorem dX2_personHere_20 : decode cX2_personHere 20 = .ok (.ifCond .ne 9, 3) := dk_154 0 9 (dk_at dksX2_personHere_0 20 rfl rfl)
theorem dX2_personHere_23 : decode cX2_personHere 23 = .ok (.aload_n 0, 1) := dk_42 (dk_at dksX2_personHere_0 23 rfl rfl)
theorem dX2_personHere_24 : decode cX2_personHere 24 = .ok (.iconst 2, 1) := dk_5 (dk_at dksX2_personHere_1 0 rfl rfl)
theorem dX2_personHere_25 : decode cX2_personHere 25 = .ok (.invokevirtual 85, 3) := dk_182 0 85 (dk_at dksX2_personHere_1 1 rfl rfl)
theorem dX2_personHere_28 : decode cX2_personHere 28 = .ok (.athrow, 1) := dk_191 (dk_at dksX2_personHere_1 4 rfl rfl)
theorem dX2_personHere_29 : decode cX2_personHere 29 = .ok (.aload_n 1, 1) := dk_43 (dk_at dksX2_personHere_1 5 rfl rfl)
theorem dX2_personHere_30 : decode cX2_personHere 30 = .ok (.checkcast 140, 3) := dk_192 0 140 (dk_at dksX2_personHere_1 6 rfl rfl)
theorem dX2_personHere_33 : decode cX2_personHere 33 = .ok (.areturn, 1) := dk_176 (dk_at dksX2_personHere_1 9 rfl rfl)
abbrev cX2_errand : ByteArray := prog_9_method_28_code
def yX2_errand : MethodName := ⟨RX2, "errand", "()V"⟩
def dkwX2_errand_5 : List UInt8 := [180, 1, 40, 43, 83, 42, 180, 0, 120, 89, 180, 1, 40, 4, 96, 181, 1, 40, 177]
abbrev dktX2_errand_5 : List UInt8 := dkwX2_errand_5 ++ []
def dkwX2_errand_4 : List UInt8 := [43, 180, 1, 51, 100, 182, 0, 187, 181, 1, 54, 42, 180, 0, 120, 180, 1, 56, 42, 180, 0, 120]
abbrev dktX2_errand_4 : List UInt8 := dkwX2_errand_4 ++ dktX2_errand_5
def dkwX2_errand_3 : List UInt8 := [43, 180, 1, 51, 4, 96, 16, 99, 182, 0, 187, 181, 1, 52, 43, 42, 19, 1, 53, 4, 43, 180, 1, 52]
abbrev dktX2_errand_3 : List UInt8 := dkwX2_errand_3 ++ dktX2_errand_4
def dkwX2_errand_2 : List UInt8 := [42, 182, 0, 230, 181, 1, 50, 43, 42, 18, 197, 3, 16, 99, 182, 0, 187, 181, 1, 51, 43, 42, 18, 201]
abbrev dktX2_errand_2 : List UInt8 := dkwX2_errand_2 ++ dktX2_errand_3
def dkwX2_errand_1 : List UInt8 := [89, 183, 1, 45, 76, 43, 42, 182, 1, 29, 181, 1, 46, 42, 182, 0, 79, 42, 18, 213, 182, 0, 142, 43]
abbrev dktX2_errand_1 : List UInt8 := dkwX2_errand_1 ++ dktX2_errand_2
def dkwX2_errand_0 : List UInt8 := [42, 42, 180, 0, 120, 180, 1, 40, 8, 162, 0, 7, 4, 167, 0, 4, 3, 8, 182, 0, 181, 187, 1, 43]
abbrev dktX2_errand_0 : List UInt8 := dkwX2_errand_0 ++ dktX2_errand_1
theorem dksX2_errand_0 : cX2_errand.data.toList.drop 0 = dktX2_errand_0 := by decide +kernel
theorem dksX2_errand_1 : cX2_errand.data.toList.drop 24 = dktX2_errand_1 := dk_seg dksX2_errand_0 24 rfl rfl
theorem dksX2_errand_2 : cX2_errand.data.toList.drop 48 = dktX2_errand_2 := dk_seg dksX2_errand_1 24 rfl rfl
theorem dksX2_errand_3 : cX2_errand.data.toList.drop 72 = dktX2_errand_3 := dk_seg dksX2_errand_2 24 rfl rfl
theorem dksX2_errand_4 : cX2_errand.data.toList.drop 96 = dktX2_errand_4 := dk_seg dksX2_errand_3 24 rfl rfl
theorem dksX2_errand_5 : cX2_errand.data.toList.drop 118 = dktX2_errand_5 := dk_seg dksX2_errand_4 22 rfl rfl
theorem dX2_errand_0 : decode cX2_errand 0 = .ok (.aload_n 0, 1) := dk_42 (dk_at dksX2_errand_0 0 rfl rfl)
theorem dX2_errand_1 : decode cX2_errand 1 = .ok (.aload_n 0, 1) := dk_42 (dk_at dksX2_errand_0 1 rfl rfl)
theorem dX2_errand_2 : decode cX2_errand 2 = .ok (.getfield 120, 3) := dk_180 0 120 (dk_at dksX2_errand_0 2 rfl rfl)
theorem dX2_errand_5 : decode cX2_errand 5 = .ok (.getfield 296, 3) := dk_180 1 40 (dk_at dksX2_errand_0 5 rfl rfl)
theorem dX2_errand_8 : decode cX2_errand 8 = .ok (.iconst 5, 1) := dk_8 (dk_at dksX2_errand_0 8 rfl rfl)
theorem dX2_errand_9 : decode cX2_errand 9 = .ok (.if_icmp .ge 7, 3) := dk_162 0 7 (dk_at dksX2_errand_0 9 rfl rfl)
theorem dX2_errand_12 : decode cX2_errand 12 = .ok (.iconst 1, 1) := dk_4 (dk_at dksX2_errand_0 12 rfl rfl)
theorem dX2_errand_13 : decode cX2_errand 13 = .ok (.goto 4, 3) := dk_167 0 4 (dk_at dksX2_errand_0 13 rfl rfl)
theorem dX2_errand_16 : decode cX2_errand 16 = .ok (.iconst 0, 1) := dk_3 (dk_at dksX2_errand_0 16 rfl rfl)
theorem dX2_errand_17 : decode cX2_errand 17 = .ok (.iconst 5, 1) := dk_8 (dk_at dksX2_errand_0 17 rfl rfl)
theorem dX2_errand_18 : decode cX2_errand 18 = .ok (.invokevirtual 181, 3) := dk_182 0 181 (dk_at dksX2_errand_0 18 rfl rfl)
theorem dX2_errand_21 : decode cX2_errand 21 = .ok (.new 299, 3) := dk_187 1 43 (dk_at dksX2_errand_0 21 rfl rfl)
theorem dX2_errand_24 : decode cX2_errand 24 = .ok (.dup, 1) := dk_89 (dk_at dksX2_errand_1 0 rfl rfl)
theorem dX2_errand_25 : decode cX2_errand 25 = .ok (.invokespecial 301, 3) := dk_183 1 45 (dk_at dksX2_errand_1 1 rfl rfl)
theorem dX2_errand_28 : decode cX2_errand 28 = .ok (.astore_n 1, 1) := dk_76 (dk_at dksX2_errand_1 4 rfl rfl)
theorem dX2_errand_29 : decode cX2_errand 29 = .ok (.aload_n 1, 1) := dk_43 (dk_at dksX2_errand_1 5 rfl rfl)
theorem dX2_errand_30 : decode cX2_errand 30 = .ok (.aload_n 0, 1) := dk_42 (dk_at dksX2_errand_1 6 rfl rfl)
theorem dX2_errand_31 : decode cX2_errand 31 = .ok (.invokevirtual 285, 3) := dk_182 1 29 (dk_at dksX2_errand_1 7 rfl rfl)
theorem dX2_errand_34 : decode cX2_errand 34 = .ok (.putfield 302, 3) := dk_181 1 46 (dk_at dksX2_errand_1 10 rfl rfl)
theorem dX2_errand_37 : decode cX2_errand 37 = .ok (.aload_n 0, 1) := dk_42 (dk_at dksX2_errand_1 13 rfl rfl)
theorem dX2_errand_38 : decode cX2_errand 38 = .ok (.invokevirtual 79, 3) := dk_182 0 79 (dk_at dksX2_errand_1 14 rfl rfl)
theorem dX2_errand_41 : decode cX2_errand 41 = .ok (.aload_n 0, 1) := dk_42 (dk_at dksX2_errand_1 17 rfl rfl)
theorem dX2_errand_42 : decode cX2_errand 42 = .ok (.ldc 213, 2) := dk_18 213 (dk_at dksX2_errand_1 18 rfl rfl)
theorem dX2_errand_44 : decode cX2_errand 44 = .ok (.invokevirtual 142, 3) := dk_182 0 142 (dk_at dksX2_errand_1 20 rfl rfl)
theorem dX2_errand_47 : decode cX2_errand 47 = .ok (.aload_n 1, 1) := dk_43 (dk_at dksX2_errand_1 23 rfl rfl)
theorem dX2_errand_48 : decode cX2_errand 48 = .ok (.aload_n 0, 1) := dk_42 (dk_at dksX2_errand_2 0 rfl rfl)
theorem dX2_errand_49 : decode cX2_errand 49 = .ok (.invokevirtual 230, 3) := dk_182 0 230 (dk_at dksX2_errand_2 1 rfl rfl)
theorem dX2_errand_52 : decode cX2_errand 52 = .ok (.putfield 306, 3) := dk_181 1 50 (dk_at dksX2_errand_2 4 rfl rfl)
theorem dX2_errand_55 : decode cX2_errand 55 = .ok (.aload_n 1, 1) := dk_43 (dk_at dksX2_errand_2 7 rfl rfl)
theorem dX2_errand_56 : decode cX2_errand 56 = .ok (.aload_n 0, 1) := dk_42 (dk_at dksX2_errand_2 8 rfl rfl)
theorem dX2_errand_57 : decode cX2_errand 57 = .ok (.ldc 197, 2) := dk_18 197 (dk_at dksX2_errand_2 9 rfl rfl)
theorem dX2_errand_59 : decode cX2_errand 59 = .ok (.iconst 0, 1) := dk_3 (dk_at dksX2_errand_2 11 rfl rfl)
theorem dX2_errand_60 : decode cX2_errand 60 = .ok (.bipush 99, 2) := dk_16 99 (dk_at dksX2_errand_2 12 rfl rfl)
theorem dX2_errand_62 : decode cX2_errand 62 = .ok (.invokevirtual 187, 3) := dk_182 0 187 (dk_at dksX2_errand_2 14 rfl rfl)
theorem dX2_errand_65 : decode cX2_errand 65 = .ok (.putfield 307, 3) := dk_181 1 51 (dk_at dksX2_errand_2 17 rfl rfl)
theorem dX2_errand_68 : decode cX2_errand 68 = .ok (.aload_n 1, 1) := dk_43 (dk_at dksX2_errand_2 20 rfl rfl)
theorem dX2_errand_69 : decode cX2_errand 69 = .ok (.aload_n 0, 1) := dk_42 (dk_at dksX2_errand_2 21 rfl rfl)
theorem dX2_errand_70 : decode cX2_errand 70 = .ok (.ldc 201, 2) := dk_18 201 (dk_at dksX2_errand_2 22 rfl rfl)
theorem dX2_errand_72 : decode cX2_errand 72 = .ok (.aload_n 1, 1) := dk_43 (dk_at dksX2_errand_3 0 rfl rfl)
theorem dX2_errand_73 : decode cX2_errand 73 = .ok (.getfield 307, 3) := dk_180 1 51 (dk_at dksX2_errand_3 1 rfl rfl)
theorem dX2_errand_76 : decode cX2_errand 76 = .ok (.iconst 1, 1) := dk_4 (dk_at dksX2_errand_3 4 rfl rfl)
theorem dX2_errand_77 : decode cX2_errand 77 = .ok (.iadd, 1) := dk_96 (dk_at dksX2_errand_3 5 rfl rfl)
theorem dX2_errand_78 : decode cX2_errand 78 = .ok (.bipush 99, 2) := dk_16 99 (dk_at dksX2_errand_3 6 rfl rfl)
theorem dX2_errand_80 : decode cX2_errand 80 = .ok (.invokevirtual 187, 3) := dk_182 0 187 (dk_at dksX2_errand_3 8 rfl rfl)
theorem dX2_errand_83 : decode cX2_errand 83 = .ok (.putfield 308, 3) := dk_181 1 52 (dk_at dksX2_errand_3 11 rfl rfl)
theorem dX2_errand_86 : decode cX2_errand 86 = .ok (.aload_n 1, 1) := dk_43 (dk_at dksX2_errand_3 14 rfl rfl)
theorem dX2_errand_87 : decode cX2_errand 87 = .ok (.aload_n 0, 1) := dk_42 (dk_at dksX2_errand_3 15 rfl rfl)
theorem dX2_errand_88 : decode cX2_errand 88 = .ok (.ldc_w 309, 3) := dk_19 1 53 (dk_at dksX2_errand_3 16 rfl rfl)
theorem dX2_errand_91 : decode cX2_errand 91 = .ok (.iconst 1, 1) := dk_4 (dk_at dksX2_errand_3 19 rfl rfl)
theorem dX2_errand_92 : decode cX2_errand 92 = .ok (.aload_n 1, 1) := dk_43 (dk_at dksX2_errand_3 20 rfl rfl)
theorem dX2_errand_93 : decode cX2_errand 93 = .ok (.getfield 308, 3) := dk_180 1 52 (dk_at dksX2_errand_3 21 rfl rfl)
theorem dX2_errand_96 : decode cX2_errand 96 = .ok (.aload_n 1, 1) := dk_43 (dk_at dksX2_errand_4 0 rfl rfl)
theorem dX2_errand_97 : decode cX2_errand 97 = .ok (.getfield 307, 3) := dk_180 1 51 (dk_at dksX2_errand_4 1 rfl rfl)
theorem dX2_errand_100 : decode cX2_errand 100 = .ok (.isub, 1) := dk_100 (dk_at dksX2_errand_4 4 rfl rfl)
theorem dX2_errand_101 : decode cX2_errand 101 = .ok (.invokevirtual 187, 3) := dk_182 0 187 (dk_at dksX2_errand_4 5 rfl rfl)
theorem dX2_errand_104 : decode cX2_errand 104 = .ok (.putfield 310, 3) := dk_181 1 54 (dk_at dksX2_errand_4 8 rfl rfl)
theorem dX2_errand_107 : decode cX2_errand 107 = .ok (.aload_n 0, 1) := dk_42 (dk_at dksX2_errand_4 11 rfl rfl)
theorem dX2_errand_108 : decode cX2_errand 108 = .ok (.getfield 120, 3) := dk_180 0 120 (dk_at dksX2_errand_4 12 rfl rfl)
theorem dX2_errand_111 : decode cX2_errand 111 = .ok (.getfield 312, 3) := dk_180 1 56 (dk_at dksX2_errand_4 15 rfl rfl)
theorem dX2_errand_114 : decode cX2_errand 114 = .ok (.aload_n 0, 1) := dk_42 (dk_at dksX2_errand_4 18 rfl rfl)
theorem dX2_errand_115 : decode cX2_errand 115 = .ok (.getfield 120, 3) := dk_180 0 120 (dk_at dksX2_errand_4 19 rfl rfl)
theorem dX2_errand_118 : decode cX2_errand 118 = .ok (.getfield 296, 3) := dk_180 1 40 (dk_at dksX2_errand_5 0 rfl rfl)
theorem dX2_errand_121 : decode cX2_errand 121 = .ok (.aload_n 1, 1) := dk_43 (dk_at dksX2_errand_5 3 rfl rfl)
theorem dX2_errand_122 : decode cX2_errand 122 = .ok (.aastore, 1) := dk_83 (dk_at dksX2_errand_5 4 rfl rfl)
theorem dX2_errand_123 : decode cX2_errand 123 = .ok (.aload_n 0, 1) := dk_42 (dk_at dksX2_errand_5 5 rfl rfl)
theorem dX2_errand_124 : decode cX2_errand 124 = .ok (.getfield 120, 3) := dk_180 0 120 (dk_at dksX2_errand_5 6 rfl rfl)
theorem dX2_errand_127 : decode cX2_errand 127 = .ok (.dup, 1) := dk_89 (dk_at dksX2_errand_5 9 rfl rfl)
theorem dX2_errand_128 : decode cX2_errand 128 = .ok (.getfield 296, 3) := dk_180 1 40 (dk_at dksX2_errand_5 10 rfl rfl)
theorem dX2_errand_131 : decode cX2_errand 131 = .ok (.iconst 1, 1) := dk_4 (dk_at dksX2_errand_5 13 rfl rfl)
theorem dX2_errand_132 : decode cX2_errand 132 = .ok (.iadd, 1) := dk_96 (dk_at dksX2_errand_5 14 rfl rfl)
theorem dX2_errand_133 : decode cX2_errand 133 = .ok (.putfield 296, 3) := dk_181 1 40 (dk_at dksX2_errand_5 15 rfl rfl)
theorem dX2_errand_136 : decode cX2_errand 136 = .ok (.return_, 1) := dk_177 (dk_at dksX2_errand_5 18 rfl rfl)
abbrev cX2_fog : ByteArray := prog_9_method_29_code
def yX2_fog : MethodName := ⟨RX2, "fog", "()V"⟩
def dkwX2_fog_5 : List UInt8 := [180, 1, 60, 4, 96, 181, 1, 60, 177]
abbrev dktX2_fog_5 : List UInt8 := dkwX2_fog_5 ++ []
def dkwX2_fog_4 : List UInt8 := [180, 0, 120, 180, 1, 60, 42, 19, 1, 69, 4, 16, 99, 182, 0, 187, 79, 42, 180, 0, 120, 89]
abbrev dktX2_fog_4 : List UInt8 := dkwX2_fog_4 ++ dktX2_fog_5
def dkwX2_fog_3 : List UInt8 := [180, 0, 120, 180, 1, 63, 42, 180, 0, 120, 180, 1, 60, 27, 79, 42, 180, 0, 120, 180, 1, 66, 42]
abbrev dktX2_fog_3 : List UInt8 := dkwX2_fog_3 ++ dktX2_fog_4
def dkwX2_fog_2 : List UInt8 := [28, 46, 27, 160, 0, 9, 42, 6, 182, 0, 85, 191, 132, 2, 1, 167, 255, 223, 42, 182, 0, 79, 42]
abbrev dktX2_fog_2 : List UInt8 := dkwX2_fog_2 ++ dktX2_fog_3
def dkwX2_fog_1 : List UInt8 := [182, 0, 137, 60, 3, 61, 28, 42, 180, 0, 120, 180, 1, 60, 162, 0, 28, 42, 180, 0, 120, 180, 1, 63]
abbrev dktX2_fog_1 : List UInt8 := dkwX2_fog_1 ++ dktX2_fog_2
def dkwX2_fog_0 : List UInt8 := [42, 42, 180, 0, 120, 180, 1, 60, 7, 162, 0, 7, 4, 167, 0, 4, 3, 8, 182, 0, 181, 42]
abbrev dktX2_fog_0 : List UInt8 := dkwX2_fog_0 ++ dktX2_fog_1
theorem dksX2_fog_0 : cX2_fog.data.toList.drop 0 = dktX2_fog_0 := by decide +kernel
theorem dksX2_fog_1 : cX2_fog.data.toList.drop 22 = dktX2_fog_1 := dk_seg dksX2_fog_0 22 rfl rfl
theorem dksX2_fog_2 : cX2_fog.data.toList.drop 46 = dktX2_fog_2 := dk_seg dksX2_fog_1 24 rfl rfl
theorem dksX2_fog_3 : cX2_fog.data.toList.drop 69 = dktX2_fog_3 := dk_seg dksX2_fog_2 23 rfl rfl
theorem dksX2_fog_4 : cX2_fog.data.toList.drop 92 = dktX2_fog_4 := dk_seg dksX2_fog_3 23 rfl rfl
theorem dksX2_fog_5 : cX2_fog.data.toList.drop 114 = dktX2_fog_5 := dk_seg dksX2_fog_4 22 rfl rfl
theorem dX2_fog_0 : decode cX2_fog 0 = .ok (.aload_n 0, 1) := dk_42 (dk_at dksX2_fog_0 0 rfl rfl)
theorem dX2_fog_1 : decode cX2_fog 1 = .ok (.aload_n 0, 1) := dk_42 (dk_at dksX2_fog_0 1 rfl rfl)
theorem dX2_fog_2 : decode cX2_fog 2 = .ok (.getfield 120, 3) := dk_180 0 120 (dk_at dksX2_fog_0 2 rfl rfl)
theorem dX2_fog_5 : decode cX2_fog 5 = .ok (.getfield 316, 3) := dk_180 1 60 (dk_at dksX2_fog_0 5 rfl rfl)
theorem dX2_fog_8 : decode cX2_fog 8 = .ok (.iconst 4, 1) := dk_7 (dk_at dksX2_fog_0 8 rfl rfl)
theorem dX2_fog_9 : decode cX2_fog 9 = .ok (.if_icmp .ge 7, 3) := dk_162 0 7 (dk_at dksX2_fog_0 9 rfl rfl)
theorem dX2_fog_12 : decode cX2_fog 12 = .ok (.iconst 1, 1) := dk_4 (dk_at dksX2_fog_0 12 rfl rfl)
theorem dX2_fog_13 : decode cX2_fog 13 = .ok (.goto 4, 3) := dk_167 0 4 (dk_at dksX2_fog_0 13 rfl rfl)
theorem dX2_fog_16 : decode cX2_fog 16 = .ok (.iconst 0, 1) := dk_3 (dk_at dksX2_fog_0 16 rfl rfl)
theorem dX2_fog_17 : decode cX2_fog 17 = .ok (.iconst 5, 1) := dk_8 (dk_at dksX2_fog_0 17 rfl rfl)
theorem dX2_fog_18 : decode cX2_fog 18 = .ok (.invokevirtual 181, 3) := dk_182 0 181 (dk_at dksX2_fog_0 18 rfl rfl)
theorem dX2_fog_21 : decode cX2_fog 21 = .ok (.aload_n 0, 1) := dk_42 (dk_at dksX2_fog_0 21 rfl rfl)
theorem dX2_fog_22 : decode cX2_fog 22 = .ok (.invokevirtual 137, 3) := dk_182 0 137 (dk_at dksX2_fog_1 0 rfl rfl)
theorem dX2_fog_25 : decode cX2_fog 25 = .ok (.istore_n 1, 1) := dk_60 (dk_at dksX2_fog_1 3 rfl rfl)
theorem dX2_fog_26 : decode cX2_fog 26 = .ok (.iconst 0, 1) := dk_3 (dk_at dksX2_fog_1 4 rfl rfl)
theorem dX2_fog_27 : decode cX2_fog 27 = .ok (.istore_n 2, 1) := dk_61 (dk_at dksX2_fog_1 5 rfl rfl)
theorem dX2_fog_28 : decode cX2_fog 28 = .ok (.iload_n 2, 1) := dk_28 (dk_at dksX2_fog_1 6 rfl rfl)
theorem dX2_fog_29 : decode cX2_fog 29 = .ok (.aload_n 0, 1) := dk_42 (dk_at dksX2_fog_1 7 rfl rfl)
theorem dX2_fog_30 : decode cX2_fog 30 = .ok (.getfield 120, 3) := dk_180 0 120 (dk_at dksX2_fog_1 8 rfl rfl)
theorem dX2_fog_33 : decode cX2_fog 33 = .ok (.getfield 316, 3) := dk_180 1 60 (dk_at dksX2_fog_1 11 rfl rfl)
theorem dX2_fog_36 : decode cX2_fog 36 = .ok (.if_icmp .ge 28, 3) := dk_162 0 28 (dk_at dksX2_fog_1 14 rfl rfl)
theorem dX2_fog_39 : decode cX2_fog 39 = .ok (.aload_n 0, 1) := dk_42 (dk_at dksX2_fog_1 17 rfl rfl)
theorem dX2_fog_40 : decode cX2_fog 40 = .ok (.getfield 120, 3) := dk_180 0 120 (dk_at dksX2_fog_1 18 rfl rfl)
theorem dX2_fog_43 : decode cX2_fog 43 = .ok (.getfield 319, 3) := dk_180 1 63 (dk_at dksX2_fog_1 21 rfl rfl)
theorem dX2_fog_46 : decode cX2_fog 46 = .ok (.iload_n 2, 1) := dk_28 (dk_at dksX2_fog_2 0 rfl rfl)
theorem dX2_fog_47 : decode cX2_fog 47 = .ok (.iaload, 1) := dk_46 (dk_at dksX2_fog_2 1 rfl rfl)
theorem dX2_fog_48 : decode cX2_fog 48 = .ok (.iload_n 1, 1) := dk_27 (dk_at dksX2_fog_2 2 rfl rfl)
theorem dX2_fog_49 : decode cX2_fog 49 = .ok (.if_icmp .ne 9, 3) := dk_160 0 9 (dk_at dksX2_fog_2 3 rfl rfl)
theorem dX2_fog_52 : decode cX2_fog 52 = .ok (.aload_n 0, 1) := dk_42 (dk_at dksX2_fog_2 6 rfl rfl)
theorem dX2_fog_53 : decode cX2_fog 53 = .ok (.iconst 3, 1) := dk_6 (dk_at dksX2_fog_2 7 rfl rfl)
theorem dX2_fog_54 : decode cX2_fog 54 = .ok (.invokevirtual 85, 3) := dk_182 0 85 (dk_at dksX2_fog_2 8 rfl rfl)
theorem dX2_fog_57 : decode cX2_fog 57 = .ok (.athrow, 1) := dk_191 (dk_at dksX2_fog_2 11 rfl rfl)
theorem dX2_fog_58 : decode cX2_fog 58 = .ok (.iinc 2 1, 3) := dk_132 2 1 (dk_at dksX2_fog_2 12 rfl rfl)
theorem dX2_fog_61 : decode cX2_fog 61 = .ok (.goto (-33), 3) := dk_167 255 223 (dk_at dksX2_fog_2 15 rfl rfl)
theorem dX2_fog_64 : decode cX2_fog 64 = .ok (.aload_n 0, 1) := dk_42 (dk_at dksX2_fog_2 18 rfl rfl)
theorem dX2_fog_65 : decode cX2_fog 65 = .ok (.invokevirtual 79, 3) := dk_182 0 79 (dk_at dksX2_fog_2 19 rfl rfl)
theorem dX2_fog_68 : decode cX2_fog 68 = .ok (.aload_n 0, 1) := dk_42 (dk_at dksX2_fog_2 22 rfl rfl)
theorem dX2_fog_69 : decode cX2_fog 69 = .ok (.getfield 120, 3) := dk_180 0 120 (dk_at dksX2_fog_3 0 rfl rfl)
theorem dX2_fog_72 : decode cX2_fog 72 = .ok (.getfield 319, 3) := dk_180 1 63 (dk_at dksX2_fog_3 3 rfl rfl)
theorem dX2_fog_75 : decode cX2_fog 75 = .ok (.aload_n 0, 1) := dk_42 (dk_at dksX2_fog_3 6 rfl rfl)
theorem dX2_fog_76 : decode cX2_fog 76 = .ok (.getfield 120, 3) := dk_180 0 120 (dk_at dksX2_fog_3 7 rfl rfl)
theorem dX2_fog_79 : decode cX2_fog 79 = .ok (.getfield 316, 3) := dk_180 1 60 (dk_at dksX2_fog_3 10 rfl rfl)
theorem dX2_fog_82 : decode cX2_fog 82 = .ok (.iload_n 1, 1) := dk_27 (dk_at dksX2_fog_3 13 rfl rfl)
theorem dX2_fog_83 : decode cX2_fog 83 = .ok (.iastore, 1) := dk_79 (dk_at dksX2_fog_3 14 rfl rfl)
theorem dX2_fog_84 : decode cX2_fog 84 = .ok (.aload_n 0, 1) := dk_42 (dk_at dksX2_fog_3 15 rfl rfl)
theorem dX2_fog_85 : decode cX2_fog 85 = .ok (.getfield 120, 3) := dk_180 0 120 (dk_at dksX2_fog_3 16 rfl rfl)
theorem dX2_fog_88 : decode cX2_fog 88 = .ok (.getfield 322, 3) := dk_180 1 66 (dk_at dksX2_fog_3 19 rfl rfl)
theorem dX2_fog_91 : decode cX2_fog 91 = .ok (.aload_n 0, 1) := dk_42 (dk_at dksX2_fog_3 22 rfl rfl)
theorem dX2_fog_92 : decode cX2_fog 92 = .ok (.getfield 120, 3) := dk_180 0 120 (dk_at dksX2_fog_4 0 rfl rfl)
theorem dX2_fog_95 : decode cX2_fog 95 = .ok (.getfield 316, 3) := dk_180 1 60 (dk_at dksX2_fog_4 3 rfl rfl)
theorem dX2_fog_98 : decode cX2_fog 98 = .ok (.aload_n 0, 1) := dk_42 (dk_at dksX2_fog_4 6 rfl rfl)
theorem dX2_fog_99 : decode cX2_fog 99 = .ok (.ldc_w 325, 3) := dk_19 1 69 (dk_at dksX2_fog_4 7 rfl rfl)
theorem dX2_fog_102 : decode cX2_fog 102 = .ok (.iconst 1, 1) := dk_4 (dk_at dksX2_fog_4 10 rfl rfl)
theorem dX2_fog_103 : decode cX2_fog 103 = .ok (.bipush 99, 2) := dk_16 99 (dk_at dksX2_fog_4 11 rfl rfl)
theorem dX2_fog_105 : decode cX2_fog 105 = .ok (.invokevirtual 187, 3) := dk_182 0 187 (dk_at dksX2_fog_4 13 rfl rfl)
theorem dX2_fog_108 : decode cX2_fog 108 = .ok (.iastore, 1) := dk_79 (dk_at dksX2_fog_4 16 rfl rfl)
theorem dX2_fog_109 : decode cX2_fog 109 = .ok (.aload_n 0, 1) := dk_42 (dk_at dksX2_fog_4 17 rfl rfl)
theorem dX2_fog_110 : decode cX2_fog 110 = .ok (.getfield 120, 3) := dk_180 0 120 (dk_at dksX2_fog_4 18 rfl rfl)
theorem dX2_fog_113 : decode cX2_fog 113 = .ok (.dup, 1) := dk_89 (dk_at dksX2_fog_4 21 rfl rfl)
theorem dX2_fog_114 : decode cX2_fog 114 = .ok (.getfield 316, 3) := dk_180 1 60 (dk_at dksX2_fog_5 0 rfl rfl)
theorem dX2_fog_117 : decode cX2_fog 117 = .ok (.iconst 1, 1) := dk_4 (dk_at dksX2_fog_5 3 rfl rfl)
theorem dX2_fog_118 : decode cX2_fog 118 = .ok (.iadd, 1) := dk_96 (dk_at dksX2_fog_5 4 rfl rfl)
theorem dX2_fog_119 : decode cX2_fog 119 = .ok (.putfield 316, 3) := dk_181 1 60 (dk_at dksX2_fog_5 5 rfl rfl)
theorem dX2_fog_122 : decode cX2_fog 122 = .ok (.return_, 1) := dk_177 (dk_at dksX2_fog_5 8 rfl rfl)
theorem q153 : (Jvm.Cond.initialized "NeverUnseen$Reader") ∈ lw_all := lw_g (lw_at lw_m1 2 rfl) rfl
theorem q186 : (Jvm.Cond.instantiable "NeverUnseen$Reader" (10 : Nat)) ∈ lw_all := lw_g (lw_at lw_m1 35 rfl) rfl
theorem q188 : (Jvm.Cond.instanceMethod ({ cls := "NeverUnseen$Reader", name := "<init>", desc := "([B)V" } : Jvm.MethodName)) ∈ lw_all := lw_g (lw_at lw_m1 37 rfl) rfl
theorem q189 : (Jvm.Cond.code ({ cls := "NeverUnseen$Reader", name := "<init>", desc := "([B)V" } : Jvm.MethodName) prog_9_method_1_code (2 : Nat) (Option.none : Option Jvm.ClassFile.FieldType)) ∈ lw_all := lw_g (lw_at lw_m1 38 rfl) rfl
theorem q190 : (Jvm.Cond.methodLink "NeverUnseen$Reader" (3 : Nat) ({ cls := "java/lang/Object", name := "<init>", desc := "()V" } : Jvm.MethodName)) ∈ lw_all := lw_g (lw_at lw_m1 39 rfl) rfl
theorem q191 : (Jvm.Cond.classLink "NeverUnseen$Reader" (9 : Nat) "NeverUnseen$Refused") ∈ lw_all := lw_g (lw_at lw_m1 40 rfl) rfl
theorem q231 : (Jvm.Cond.methodLink "NeverUnseen$Reader" (11 : Nat) ({ cls := "NeverUnseen$Refused", name := "<init>", desc := "()V" } : Jvm.MethodName)) ∈ lw_all := lw_g (lw_at lw_m1 80 rfl) rfl
theorem q265 : (Jvm.Cond.fieldLink "NeverUnseen$Reader" (12 : Nat) "NeverUnseen$Reader" "wrong" "LNeverUnseen$Refused;") ∈ lw_all := lw_g (lw_at lw_m1 114 rfl) rfl
theorem q266 : (Jvm.Cond.fieldLink "NeverUnseen$Reader" (22 : Nat) "NeverUnseen$Reader" "text" "[B") ∈ lw_all := lw_g (lw_at lw_m1 115 rfl) rfl
theorem q267 : (Jvm.Cond.fieldLink "NeverUnseen$Reader" (18 : Nat) "NeverUnseen$Reader" "letters" "[C") ∈ lw_all := lw_g (lw_at lw_m1 116 rfl) rfl
theorem q268 : (Jvm.Cond.fieldLink "NeverUnseen$Reader" (33 : Nat) "NeverUnseen$Reader" "size" "I") ∈ lw_all := lw_g (lw_at lw_m1 117 rfl) rfl
theorem q269 : (Jvm.Cond.fieldLink "NeverUnseen$Reader" (40 : Nat) "NeverUnseen$Reader" "end" "I") ∈ lw_all := lw_g (lw_at lw_m1 118 rfl) rfl
theorem q270 : (Jvm.Cond.fieldLink "NeverUnseen$Reader" (47 : Nat) "NeverUnseen$Reader" "token" "I") ∈ lw_all := lw_g (lw_at lw_m1 119 rfl) rfl
theorem q271 : (Jvm.Cond.fieldLink "NeverUnseen$Reader" (26 : Nat) "NeverUnseen$Reader" "at" "I") ∈ lw_all := lw_g (lw_at lw_m1 120 rfl) rfl
theorem q272 : (Jvm.Cond.fieldLink "NeverUnseen$Reader" (68 : Nat) "NeverUnseen$Reader" "whole" "I") ∈ lw_all := lw_g (lw_at lw_m1 121 rfl) rfl
theorem q273 : (Jvm.Cond.fieldLink "NeverUnseen$Reader" (61 : Nat) "NeverUnseen$Reader" "word" "Ljava/lang/String;") ∈ lw_all := lw_g (lw_at lw_m1 122 rfl) rfl
theorem q274 : (Jvm.Cond.fieldLink "NeverUnseen$Reader" (120 : Nat) "NeverUnseen$Reader" "valley" "LNeverUnseen$Valley;") ∈ lw_all := lw_g (lw_at lw_m1 123 rfl) rfl
theorem q275 : (Jvm.Cond.laysFinal "NeverUnseen$Reader" "NeverUnseen$Reader" "wrong" "LNeverUnseen$Refused;") ∈ lw_all := lw_g (lw_at lw_m1 124 rfl) rfl
theorem q276 : (Jvm.Cond.soleField "NeverUnseen$Reader" "wrong") ∈ lw_all := lw_g (lw_at lw_m1 125 rfl) rfl
theorem q277 : (Jvm.Cond.laysFinal "NeverUnseen$Reader" "NeverUnseen$Reader" "text" "[B") ∈ lw_all := lw_g (lw_at lw_m1 126 rfl) rfl
theorem q278 : (Jvm.Cond.soleField "NeverUnseen$Reader" "text") ∈ lw_all := lw_g (lw_at lw_m1 127 rfl) rfl
theorem q279 : (Jvm.Cond.laysFinal "NeverUnseen$Reader" "NeverUnseen$Reader" "letters" "[C") ∈ lw_all := lw_g (lw_at lw_m1 128 rfl) rfl
theorem q280 : (Jvm.Cond.soleField "NeverUnseen$Reader" "letters") ∈ lw_all := lw_g (lw_at lw_m1 129 rfl) rfl
theorem q281 : (Jvm.Cond.lays "NeverUnseen$Reader" "NeverUnseen$Reader" "size" "I") ∈ lw_all := lw_g (lw_at lw_m1 130 rfl) rfl
theorem q282 : (Jvm.Cond.soleField "NeverUnseen$Reader" "size") ∈ lw_all := lw_g (lw_at lw_m1 131 rfl) rfl
theorem q283 : (Jvm.Cond.lays "NeverUnseen$Reader" "NeverUnseen$Reader" "end" "I") ∈ lw_all := lw_g (lw_at lw_m1 132 rfl) rfl
theorem q284 : (Jvm.Cond.soleField "NeverUnseen$Reader" "end") ∈ lw_all := lw_g (lw_at lw_m1 133 rfl) rfl
theorem q285 : (Jvm.Cond.lays "NeverUnseen$Reader" "NeverUnseen$Reader" "token" "I") ∈ lw_all := lw_g (lw_at lw_m1 134 rfl) rfl
theorem q286 : (Jvm.Cond.soleField "NeverUnseen$Reader" "token") ∈ lw_all := lw_g (lw_at lw_m1 135 rfl) rfl
theorem q287 : (Jvm.Cond.lays "NeverUnseen$Reader" "NeverUnseen$Reader" "at" "I") ∈ lw_all := lw_g (lw_at lw_m1 136 rfl) rfl
theorem q288 : (Jvm.Cond.soleField "NeverUnseen$Reader" "at") ∈ lw_all := lw_g (lw_at lw_m1 137 rfl) rfl
theorem q289 : (Jvm.Cond.lays "NeverUnseen$Reader" "NeverUnseen$Reader" "whole" "I") ∈ lw_all := lw_g (lw_at lw_m1 138 rfl) rfl
theorem q290 : (Jvm.Cond.soleField "NeverUnseen$Reader" "whole") ∈ lw_all := lw_g (lw_at lw_m1 139 rfl) rfl
theorem q291 : (Jvm.Cond.lays "NeverUnseen$Reader" "NeverUnseen$Reader" "word" "Ljava/lang/String;") ∈ lw_all := lw_g (lw_at lw_m1 140 rfl) rfl
theorem q292 : (Jvm.Cond.soleField "NeverUnseen$Reader" "word") ∈ lw_all := lw_g (lw_at lw_m1 141 rfl) rfl
theorem q293 : (Jvm.Cond.lays "NeverUnseen$Reader" "NeverUnseen$Reader" "valley" "LNeverUnseen$Valley;") ∈ lw_all := lw_g (lw_at lw_m1 142 rfl) rfl
theorem q294 : (Jvm.Cond.soleField "NeverUnseen$Reader" "valley") ∈ lw_all := lw_g (lw_at lw_m1 143 rfl) rfl
theorem q295 : (Jvm.Cond.superclass "NeverUnseen$Reader" "java/lang/Object") ∈ lw_all := lw_g (lw_at lw_m1 144 rfl) rfl
theorem q427 : (Jvm.Cond.instanceMethod ({ cls := "NeverUnseen$Reader", name := "read", desc := "(I)LNeverUnseen$Valley;" } : Jvm.MethodName)) ∈ lw_all := lw_g (lw_at lw_m2 36 rfl) rfl
theorem q428 : (Jvm.Cond.selects "NeverUnseen$Reader" ({ cls := "NeverUnseen$Reader", name := "read", desc := "(I)LNeverUnseen$Valley;" } : Jvm.MethodName) ({ cls := "NeverUnseen$Reader", name := "read", desc := "(I)LNeverUnseen$Valley;" } : Jvm.MethodName)) ∈ lw_all := lw_g (lw_at lw_m2 37 rfl) rfl
theorem q429 : (Jvm.Cond.code ({ cls := "NeverUnseen$Reader", name := "read", desc := "(I)LNeverUnseen$Valley;" } : Jvm.MethodName) prog_9_method_19_code (2 : Nat) (Option.some (Jvm.ClassFile.FieldType.object "NeverUnseen$Valley"))) ∈ lw_all := lw_g (lw_at lw_m2 38 rfl) rfl
theorem q430 : (Jvm.Cond.classLink "NeverUnseen$Reader" (125 : Nat) "NeverUnseen$Valley") ∈ lw_all := lw_g (lw_at lw_m2 39 rfl) rfl
theorem q432 : (Jvm.Cond.methodLinkNest "NeverUnseen$Reader" (149 : Nat) ({ cls := "NeverUnseen$Valley", name := "<init>", desc := "()V" } : Jvm.MethodName) "NeverUnseen") ∈ lw_tbl := lw_at lw_m2 41 rfl
theorem q443 : (Jvm.Cond.fieldLink "NeverUnseen$Reader" (223 : Nat) "NeverUnseen$Valley" "places" "[LNeverUnseen$Place;") ∈ lw_all := lw_g (lw_at lw_m2 52 rfl) rfl
theorem q447 : (Jvm.Cond.fieldLink "NeverUnseen$Reader" (278 : Nat) "NeverUnseen$Valley" "people" "[LNeverUnseen$Person;") ∈ lw_all := lw_g (lw_at lw_m2 56 rfl) rfl
theorem q449 : (Jvm.Cond.fieldLink "NeverUnseen$Reader" (312 : Nat) "NeverUnseen$Valley" "errands" "[LNeverUnseen$Errand;") ∈ lw_all := lw_g (lw_at lw_m2 58 rfl) rfl
theorem q452 : (Jvm.Cond.fieldLink "NeverUnseen$Reader" (235 : Nat) "NeverUnseen$Valley" "wallFrom" "[I") ∈ lw_all := lw_g (lw_at lw_m2 61 rfl) rfl
theorem q454 : (Jvm.Cond.fieldLink "NeverUnseen$Reader" (239 : Nat) "NeverUnseen$Valley" "wallTo" "[I") ∈ lw_all := lw_g (lw_at lw_m2 63 rfl) rfl
theorem q457 : (Jvm.Cond.fieldLink "NeverUnseen$Reader" (255 : Nat) "NeverUnseen$Valley" "mirrors" "[I") ∈ lw_all := lw_g (lw_at lw_m2 66 rfl) rfl
theorem q459 : (Jvm.Cond.fieldLink "NeverUnseen$Reader" (290 : Nat) "NeverUnseen$Valley" "pairOne" "[I") ∈ lw_all := lw_g (lw_at lw_m2 68 rfl) rfl
theorem q462 : (Jvm.Cond.fieldLink "NeverUnseen$Reader" (293 : Nat) "NeverUnseen$Valley" "pairOther" "[I") ∈ lw_all := lw_g (lw_at lw_m2 71 rfl) rfl
theorem q465 : (Jvm.Cond.fieldLink "NeverUnseen$Reader" (319 : Nat) "NeverUnseen$Valley" "fogs" "[I") ∈ lw_all := lw_g (lw_at lw_m2 74 rfl) rfl
theorem q468 : (Jvm.Cond.fieldLink "NeverUnseen$Reader" (322 : Nat) "NeverUnseen$Valley" "chances" "[I") ∈ lw_all := lw_g (lw_at lw_m2 77 rfl) rfl
theorem q473 : (Jvm.Cond.fieldLink "NeverUnseen$Reader" (156 : Nat) "NeverUnseen$Valley" "placeMany" "I") ∈ lw_all := lw_g (lw_at lw_m2 82 rfl) rfl
theorem q476 : (Jvm.Cond.fieldLink "NeverUnseen$Reader" (159 : Nat) "NeverUnseen$Valley" "personMany" "I") ∈ lw_all := lw_g (lw_at lw_m2 85 rfl) rfl
theorem q478 : (Jvm.Cond.fieldLink "NeverUnseen$Reader" (296 : Nat) "NeverUnseen$Valley" "errandMany" "I") ∈ lw_all := lw_g (lw_at lw_m2 87 rfl) rfl
theorem q480 : (Jvm.Cond.fieldLink "NeverUnseen$Reader" (227 : Nat) "NeverUnseen$Valley" "wallMany" "I") ∈ lw_all := lw_g (lw_at lw_m2 89 rfl) rfl
theorem q482 : (Jvm.Cond.fieldLink "NeverUnseen$Reader" (242 : Nat) "NeverUnseen$Valley" "wayMany" "I") ∈ lw_all := lw_g (lw_at lw_m2 91 rfl) rfl
theorem q485 : (Jvm.Cond.fieldLink "NeverUnseen$Reader" (252 : Nat) "NeverUnseen$Valley" "mirrorMany" "I") ∈ lw_all := lw_g (lw_at lw_m2 94 rfl) rfl
theorem q487 : (Jvm.Cond.fieldLink "NeverUnseen$Reader" (282 : Nat) "NeverUnseen$Valley" "pairMany" "I") ∈ lw_all := lw_g (lw_at lw_m2 96 rfl) rfl
theorem q489 : (Jvm.Cond.fieldLink "NeverUnseen$Reader" (316 : Nat) "NeverUnseen$Valley" "fogMany" "I") ∈ lw_all := lw_g (lw_at lw_m2 98 rfl) rfl
theorem q493 : (Jvm.Cond.fieldLink "NeverUnseen$Reader" (191 : Nat) "NeverUnseen$Valley" "day" "I") ∈ lw_all := lw_g (lw_at lw_m2 102 rfl) rfl
theorem q496 : (Jvm.Cond.fieldLink "NeverUnseen$Reader" (195 : Nat) "NeverUnseen$Valley" "night" "I") ∈ lw_all := lw_g (lw_at lw_m2 105 rfl) rfl
theorem q498 : (Jvm.Cond.fieldLink "NeverUnseen$Reader" (199 : Nat) "NeverUnseen$Valley" "from" "I") ∈ lw_all := lw_g (lw_at lw_m2 107 rfl) rfl
theorem q500 : (Jvm.Cond.fieldLink "NeverUnseen$Reader" (203 : Nat) "NeverUnseen$Valley" "to" "I") ∈ lw_all := lw_g (lw_at lw_m2 109 rfl) rfl
theorem q501 : (Jvm.Cond.fieldLink "NeverUnseen$Reader" (153 : Nat) "NeverUnseen$Valley" "steps" "I") ∈ lw_all := lw_g (lw_at lw_m2 110 rfl) rfl
theorem q550 : (Jvm.Cond.methodLink "NeverUnseen$Reader" (79 : Nat) ({ cls := "NeverUnseen$Reader", name := "next", desc := "()V" } : Jvm.MethodName)) ∈ lw_all := lw_g (lw_at lw_m2 159 rfl) rfl
theorem q551 : (Jvm.Cond.privateMethod ({ cls := "NeverUnseen$Reader", name := "next", desc := "()V" } : Jvm.MethodName)) ∈ lw_tbl := lw_at lw_m2 160 rfl
theorem q552 : (Jvm.Cond.instanceMethod ({ cls := "NeverUnseen$Reader", name := "next", desc := "()V" } : Jvm.MethodName)) ∈ lw_all := lw_g (lw_at lw_m2 161 rfl) rfl
theorem q553 : (Jvm.Cond.code ({ cls := "NeverUnseen$Reader", name := "next", desc := "()V" } : Jvm.MethodName) prog_9_method_6_code (3 : Nat) (Option.none : Option Jvm.ClassFile.FieldType)) ∈ lw_all := lw_g (lw_at lw_m2 162 rfl) rfl
theorem q554 : (Jvm.Cond.methodLink "NeverUnseen$Reader" (43 : Nat) ({ cls := "NeverUnseen$Reader", name := "see", desc := "(I)I" } : Jvm.MethodName)) ∈ lw_all := lw_g (lw_at lw_m2 163 rfl) rfl
theorem q555 : (Jvm.Cond.privateMethod ({ cls := "NeverUnseen$Reader", name := "see", desc := "(I)I" } : Jvm.MethodName)) ∈ lw_tbl := lw_at lw_m2 164 rfl
theorem q556 : (Jvm.Cond.instanceMethod ({ cls := "NeverUnseen$Reader", name := "see", desc := "(I)I" } : Jvm.MethodName)) ∈ lw_all := lw_g (lw_at lw_m2 165 rfl) rfl
theorem q557 : (Jvm.Cond.code ({ cls := "NeverUnseen$Reader", name := "see", desc := "(I)I" } : Jvm.MethodName) prog_9_method_3_code (2 : Nat) (Option.some Jvm.ClassFile.FieldType.int)) ∈ lw_all := lw_g (lw_at lw_m2 166 rfl) rfl
theorem q558 : (Jvm.Cond.methodLink "NeverUnseen$Reader" (50 : Nat) ({ cls := "NeverUnseen$Reader", name := "isSmall", desc := "(I)Z" } : Jvm.MethodName)) ∈ lw_all := lw_g (lw_at lw_m2 167 rfl) rfl
theorem q559 : (Jvm.Cond.static ({ cls := "NeverUnseen$Reader", name := "isSmall", desc := "(I)Z" } : Jvm.MethodName)) ∈ lw_all := lw_g (lw_at lw_m2 168 rfl) rfl
theorem q560 : (Jvm.Cond.code ({ cls := "NeverUnseen$Reader", name := "isSmall", desc := "(I)Z" } : Jvm.MethodName) prog_9_method_4_code (1 : Nat) (Option.some Jvm.ClassFile.FieldType.boolean)) ∈ lw_all := lw_g (lw_at lw_m2 169 rfl) rfl
theorem q561 : (Jvm.Cond.methodLinkNest "NeverUnseen$Reader" (36 : Nat) ({ cls := "NeverUnseen", name := "in", desc := "(III)Z" } : Jvm.MethodName) "NeverUnseen") ∈ lw_tbl := lw_at lw_m2 170 rfl
theorem q562 : (Jvm.Cond.classLink "NeverUnseen$Reader" (54 : Nat) "java/lang/String") ∈ lw_all := lw_g (lw_at lw_m2 171 rfl) rfl
theorem q564 : (Jvm.Cond.methodLink "NeverUnseen$Reader" (56 : Nat) ({ cls := "java/lang/String", name := "<init>", desc := "([CII)V" } : Jvm.MethodName)) ∈ lw_all := lw_g (lw_at lw_m2 173 rfl) rfl
theorem q640 : (Jvm.Cond.stringRef "NeverUnseen$Reader" (59 : Nat) "") ∈ lw_tbl := lw_at lw_m3 9 rfl
theorem q641 : (Jvm.Cond.methodLink "NeverUnseen$Reader" (65 : Nat) ({ cls := "NeverUnseen$Reader", name := "isDigit", desc := "(I)Z" } : Jvm.MethodName)) ∈ lw_all := lw_g (lw_at lw_m3 10 rfl) rfl
theorem q642 : (Jvm.Cond.static ({ cls := "NeverUnseen$Reader", name := "isDigit", desc := "(I)Z" } : Jvm.MethodName)) ∈ lw_all := lw_g (lw_at lw_m3 11 rfl) rfl
theorem q643 : (Jvm.Cond.code ({ cls := "NeverUnseen$Reader", name := "isDigit", desc := "(I)Z" } : Jvm.MethodName) prog_9_method_5_code (1 : Nat) (Option.some Jvm.ClassFile.FieldType.boolean)) ∈ lw_all := lw_g (lw_at lw_m3 12 rfl) rfl
theorem q644 : (Jvm.Cond.methodLink "NeverUnseen$Reader" (150 : Nat) ({ cls := "NeverUnseen$Reader", name := "line", desc := "()V" } : Jvm.MethodName)) ∈ lw_all := lw_g (lw_at lw_m3 13 rfl) rfl
theorem q645 : (Jvm.Cond.privateMethod ({ cls := "NeverUnseen$Reader", name := "line", desc := "()V" } : Jvm.MethodName)) ∈ lw_tbl := lw_at lw_m3 14 rfl
theorem q646 : (Jvm.Cond.instanceMethod ({ cls := "NeverUnseen$Reader", name := "line", desc := "()V" } : Jvm.MethodName)) ∈ lw_all := lw_g (lw_at lw_m3 15 rfl) rfl
theorem q647 : (Jvm.Cond.code ({ cls := "NeverUnseen$Reader", name := "line", desc := "()V" } : Jvm.MethodName) prog_9_method_20_code (3 : Nat) (Option.none : Option Jvm.ClassFile.FieldType)) ∈ lw_all := lw_g (lw_at lw_m3 16 rfl) rfl
theorem q648 : (Jvm.Cond.methodLink "NeverUnseen$Reader" (85 : Nat) ({ cls := "NeverUnseen$Reader", name := "fail", desc := "(I)LNeverUnseen$Refused;" } : Jvm.MethodName)) ∈ lw_all := lw_g (lw_at lw_m3 17 rfl) rfl
theorem q649 : (Jvm.Cond.privateMethod ({ cls := "NeverUnseen$Reader", name := "fail", desc := "(I)LNeverUnseen$Refused;" } : Jvm.MethodName)) ∈ lw_tbl := lw_at lw_m3 18 rfl
theorem q650 : (Jvm.Cond.instanceMethod ({ cls := "NeverUnseen$Reader", name := "fail", desc := "(I)LNeverUnseen$Refused;" } : Jvm.MethodName)) ∈ lw_all := lw_g (lw_at lw_m3 19 rfl) rfl
theorem q651 : (Jvm.Cond.code ({ cls := "NeverUnseen$Reader", name := "fail", desc := "(I)LNeverUnseen$Refused;" } : Jvm.MethodName) prog_9_method_2_code (2 : Nat) (Option.some (Jvm.ClassFile.FieldType.object "NeverUnseen$Refused"))) ∈ lw_all := lw_g (lw_at lw_m3 20 rfl) rfl
theorem q652 : (Jvm.Cond.methodLink "NeverUnseen$Reader" (30 : Nat) ({ cls := "NeverUnseen$Refused", name := "at", desc := "(II)LNeverUnseen$Refused;" } : Jvm.MethodName)) ∈ lw_all := lw_g (lw_at lw_m3 21 rfl) rfl
theorem q656 : (Jvm.Cond.methodLink "NeverUnseen$Reader" (89 : Nat) ({ cls := "java/lang/String", name := "hashCode", desc := "()I" } : Jvm.MethodName)) ∈ lw_all := lw_g (lw_at lw_m3 25 rfl) rfl
theorem q709 : (Jvm.Cond.stringRef "NeverUnseen$Reader" (93 : Nat) "law") ∈ lw_tbl := lw_at lw_m3 78 rfl
theorem q710 : (Jvm.Cond.methodLink "NeverUnseen$Reader" (71 : Nat) ({ cls := "java/lang/String", name := "equals", desc := "(Ljava/lang/Object;)Z" } : Jvm.MethodName)) ∈ lw_all := lw_g (lw_at lw_m3 79 rfl) rfl
theorem q718 : (Jvm.Cond.stringRef "NeverUnseen$Reader" (95 : Nat) "place") ∈ lw_tbl := lw_at lw_m3 87 rfl
theorem q719 : (Jvm.Cond.stringRef "NeverUnseen$Reader" (97 : Nat) "wall") ∈ lw_tbl := lw_at lw_m3 88 rfl
theorem q720 : (Jvm.Cond.stringRef "NeverUnseen$Reader" (99 : Nat) "way") ∈ lw_tbl := lw_at lw_m3 89 rfl
theorem q721 : (Jvm.Cond.stringRef "NeverUnseen$Reader" (101 : Nat) "mirror") ∈ lw_tbl := lw_at lw_m3 90 rfl
theorem q722 : (Jvm.Cond.stringRef "NeverUnseen$Reader" (103 : Nat) "person") ∈ lw_tbl := lw_at lw_m3 91 rfl
theorem q723 : (Jvm.Cond.stringRef "NeverUnseen$Reader" (111 : Nat) "pair") ∈ lw_tbl := lw_at lw_m3 92 rfl
theorem q724 : (Jvm.Cond.stringRef "NeverUnseen$Reader" (113 : Nat) "errand") ∈ lw_tbl := lw_at lw_m3 93 rfl
theorem q725 : (Jvm.Cond.stringRef "NeverUnseen$Reader" (115 : Nat) "fog") ∈ lw_tbl := lw_at lw_m3 94 rfl
theorem q726 : (Jvm.Cond.methodLink "NeverUnseen$Reader" (162 : Nat) ({ cls := "NeverUnseen$Reader", name := "law", desc := "()V" } : Jvm.MethodName)) ∈ lw_all := lw_g (lw_at lw_m3 95 rfl) rfl
theorem q727 : (Jvm.Cond.privateMethod ({ cls := "NeverUnseen$Reader", name := "law", desc := "()V" } : Jvm.MethodName)) ∈ lw_tbl := lw_at lw_m3 96 rfl
theorem q728 : (Jvm.Cond.instanceMethod ({ cls := "NeverUnseen$Reader", name := "law", desc := "()V" } : Jvm.MethodName)) ∈ lw_all := lw_g (lw_at lw_m3 97 rfl) rfl
theorem q729 : (Jvm.Cond.code ({ cls := "NeverUnseen$Reader", name := "law", desc := "()V" } : Jvm.MethodName) prog_9_method_21_code (1 : Nat) (Option.none : Option Jvm.ClassFile.FieldType)) ∈ lw_all := lw_g (lw_at lw_m3 98 rfl) rfl
theorem q730 : (Jvm.Cond.methodLink "NeverUnseen$Reader" (181 : Nat) ({ cls := "NeverUnseen$Reader", name := "begins", desc := "(ZI)V" } : Jvm.MethodName)) ∈ lw_all := lw_g (lw_at lw_m3 99 rfl) rfl
theorem q731 : (Jvm.Cond.privateMethod ({ cls := "NeverUnseen$Reader", name := "begins", desc := "(ZI)V" } : Jvm.MethodName)) ∈ lw_tbl := lw_at lw_m3 100 rfl
theorem q732 : (Jvm.Cond.instanceMethod ({ cls := "NeverUnseen$Reader", name := "begins", desc := "(ZI)V" } : Jvm.MethodName)) ∈ lw_all := lw_g (lw_at lw_m3 101 rfl) rfl
theorem q733 : (Jvm.Cond.code ({ cls := "NeverUnseen$Reader", name := "begins", desc := "(ZI)V" } : Jvm.MethodName) prog_9_method_18_code (3 : Nat) (Option.none : Option Jvm.ClassFile.FieldType)) ∈ lw_all := lw_g (lw_at lw_m3 102 rfl) rfl
theorem q734 : (Jvm.Cond.stringRef "NeverUnseen$Reader" (185 : Nat) "day") ∈ lw_tbl := lw_at lw_m3 103 rfl
theorem q735 : (Jvm.Cond.methodLink "NeverUnseen$Reader" (187 : Nat) ({ cls := "NeverUnseen$Reader", name := "after", desc := "(Ljava/lang/String;II)I" } : Jvm.MethodName)) ∈ lw_all := lw_g (lw_at lw_m3 104 rfl) rfl
theorem q736 : (Jvm.Cond.privateMethod ({ cls := "NeverUnseen$Reader", name := "after", desc := "(Ljava/lang/String;II)I" } : Jvm.MethodName)) ∈ lw_tbl := lw_at lw_m3 105 rfl
theorem q737 : (Jvm.Cond.instanceMethod ({ cls := "NeverUnseen$Reader", name := "after", desc := "(Ljava/lang/String;II)I" } : Jvm.MethodName)) ∈ lw_all := lw_g (lw_at lw_m3 106 rfl) rfl
theorem q738 : (Jvm.Cond.code ({ cls := "NeverUnseen$Reader", name := "after", desc := "(Ljava/lang/String;II)I" } : Jvm.MethodName) prog_9_method_16_code (4 : Nat) (Option.some Jvm.ClassFile.FieldType.int)) ∈ lw_all := lw_g (lw_at lw_m3 107 rfl) rfl
theorem q739 : (Jvm.Cond.methodLink "NeverUnseen$Reader" (142 : Nat) ({ cls := "NeverUnseen$Reader", name := "must", desc := "(Ljava/lang/String;)V" } : Jvm.MethodName)) ∈ lw_all := lw_g (lw_at lw_m3 108 rfl) rfl
theorem q740 : (Jvm.Cond.privateMethod ({ cls := "NeverUnseen$Reader", name := "must", desc := "(Ljava/lang/String;)V" } : Jvm.MethodName)) ∈ lw_tbl := lw_at lw_m3 109 rfl
theorem q741 : (Jvm.Cond.instanceMethod ({ cls := "NeverUnseen$Reader", name := "must", desc := "(Ljava/lang/String;)V" } : Jvm.MethodName)) ∈ lw_all := lw_g (lw_at lw_m3 110 rfl) rfl
theorem q742 : (Jvm.Cond.code ({ cls := "NeverUnseen$Reader", name := "must", desc := "(Ljava/lang/String;)V" } : Jvm.MethodName) prog_9_method_9_code (2 : Nat) (Option.none : Option Jvm.ClassFile.FieldType)) ∈ lw_all := lw_g (lw_at lw_m3 111 rfl) rfl
theorem q743 : (Jvm.Cond.methodLink "NeverUnseen$Reader" (82 : Nat) ({ cls := "NeverUnseen$Reader", name := "takes", desc := "(Ljava/lang/String;)Z" } : Jvm.MethodName)) ∈ lw_all := lw_g (lw_at lw_m3 112 rfl) rfl
theorem q744 : (Jvm.Cond.privateMethod ({ cls := "NeverUnseen$Reader", name := "takes", desc := "(Ljava/lang/String;)Z" } : Jvm.MethodName)) ∈ lw_tbl := lw_at lw_m3 113 rfl
theorem q745 : (Jvm.Cond.instanceMethod ({ cls := "NeverUnseen$Reader", name := "takes", desc := "(Ljava/lang/String;)Z" } : Jvm.MethodName)) ∈ lw_all := lw_g (lw_at lw_m3 114 rfl) rfl
theorem q746 : (Jvm.Cond.code ({ cls := "NeverUnseen$Reader", name := "takes", desc := "(Ljava/lang/String;)Z" } : Jvm.MethodName) prog_9_method_8_code (2 : Nat) (Option.some Jvm.ClassFile.FieldType.boolean)) ∈ lw_all := lw_g (lw_at lw_m3 115 rfl) rfl
theorem q747 : (Jvm.Cond.methodLink "NeverUnseen$Reader" (75 : Nat) ({ cls := "NeverUnseen$Reader", name := "isWord", desc := "(Ljava/lang/String;)Z" } : Jvm.MethodName)) ∈ lw_all := lw_g (lw_at lw_m3 116 rfl) rfl
theorem q748 : (Jvm.Cond.privateMethod ({ cls := "NeverUnseen$Reader", name := "isWord", desc := "(Ljava/lang/String;)Z" } : Jvm.MethodName)) ∈ lw_tbl := lw_at lw_m3 117 rfl
theorem q749 : (Jvm.Cond.instanceMethod ({ cls := "NeverUnseen$Reader", name := "isWord", desc := "(Ljava/lang/String;)Z" } : Jvm.MethodName)) ∈ lw_all := lw_g (lw_at lw_m3 118 rfl) rfl
theorem q750 : (Jvm.Cond.code ({ cls := "NeverUnseen$Reader", name := "isWord", desc := "(Ljava/lang/String;)Z" } : Jvm.MethodName) prog_9_method_7_code (2 : Nat) (Option.some Jvm.ClassFile.FieldType.boolean)) ∈ lw_all := lw_g (lw_at lw_m3 119 rfl) rfl
theorem q751 : (Jvm.Cond.methodLink "NeverUnseen$Reader" (146 : Nat) ({ cls := "NeverUnseen$Reader", name := "number", desc := "(II)I" } : Jvm.MethodName)) ∈ lw_all := lw_g (lw_at lw_m3 120 rfl) rfl
theorem q752 : (Jvm.Cond.privateMethod ({ cls := "NeverUnseen$Reader", name := "number", desc := "(II)I" } : Jvm.MethodName)) ∈ lw_tbl := lw_at lw_m3 121 rfl
theorem q753 : (Jvm.Cond.instanceMethod ({ cls := "NeverUnseen$Reader", name := "number", desc := "(II)I" } : Jvm.MethodName)) ∈ lw_all := lw_g (lw_at lw_m3 122 rfl) rfl
theorem q754 : (Jvm.Cond.code ({ cls := "NeverUnseen$Reader", name := "number", desc := "(II)I" } : Jvm.MethodName) prog_9_method_15_code (4 : Nat) (Option.some Jvm.ClassFile.FieldType.int)) ∈ lw_all := lw_g (lw_at lw_m3 123 rfl) rfl
theorem q755 : (Jvm.Cond.stringRef "NeverUnseen$Reader" (193 : Nat) "night") ∈ lw_tbl := lw_at lw_m3 124 rfl
theorem q756 : (Jvm.Cond.stringRef "NeverUnseen$Reader" (197 : Nat) "from") ∈ lw_tbl := lw_at lw_m3 125 rfl
theorem q757 : (Jvm.Cond.stringRef "NeverUnseen$Reader" (201 : Nat) "to") ∈ lw_tbl := lw_at lw_m3 126 rfl
theorem q758 : (Jvm.Cond.stringRef "NeverUnseen$Reader" (205 : Nat) "steps") ∈ lw_tbl := lw_at lw_m3 127 rfl
theorem q759 : (Jvm.Cond.methodLink "NeverUnseen$Reader" (164 : Nat) ({ cls := "NeverUnseen$Reader", name := "placeLine", desc := "()V" } : Jvm.MethodName)) ∈ lw_all := lw_g (lw_at lw_m3 128 rfl) rfl
theorem q760 : (Jvm.Cond.privateMethod ({ cls := "NeverUnseen$Reader", name := "placeLine", desc := "()V" } : Jvm.MethodName)) ∈ lw_tbl := lw_at lw_m3 129 rfl
theorem q761 : (Jvm.Cond.instanceMethod ({ cls := "NeverUnseen$Reader", name := "placeLine", desc := "()V" } : Jvm.MethodName)) ∈ lw_all := lw_g (lw_at lw_m3 130 rfl) rfl
theorem q762 : (Jvm.Cond.code ({ cls := "NeverUnseen$Reader", name := "placeLine", desc := "()V" } : Jvm.MethodName) prog_9_method_22_code (2 : Nat) (Option.none : Option Jvm.ClassFile.FieldType)) ∈ lw_all := lw_g (lw_at lw_m3 131 rfl) rfl
theorem q763 : (Jvm.Cond.classLink "NeverUnseen$Reader" (130 : Nat) "NeverUnseen$Place") ∈ lw_all := lw_g (lw_at lw_m3 132 rfl) rfl
theorem q765 : (Jvm.Cond.methodLink "NeverUnseen$Reader" (206 : Nat) ({ cls := "NeverUnseen$Reader", name := "newName", desc := "()Ljava/lang/String;" } : Jvm.MethodName)) ∈ lw_all := lw_g (lw_at lw_m3 134 rfl) rfl
theorem q766 : (Jvm.Cond.privateMethod ({ cls := "NeverUnseen$Reader", name := "newName", desc := "()Ljava/lang/String;" } : Jvm.MethodName)) ∈ lw_tbl := lw_at lw_m3 135 rfl
theorem q767 : (Jvm.Cond.instanceMethod ({ cls := "NeverUnseen$Reader", name := "newName", desc := "()Ljava/lang/String;" } : Jvm.MethodName)) ∈ lw_all := lw_g (lw_at lw_m3 136 rfl) rfl
theorem q768 : (Jvm.Cond.code ({ cls := "NeverUnseen$Reader", name := "newName", desc := "()Ljava/lang/String;" } : Jvm.MethodName) prog_9_method_11_code (2 : Nat) (Option.some (Jvm.ClassFile.FieldType.object "java/lang/String"))) ∈ lw_all := lw_g (lw_at lw_m3 137 rfl) rfl
theorem q769 : (Jvm.Cond.methodLink "NeverUnseen$Reader" (117 : Nat) ({ cls := "NeverUnseen$Reader", name := "mustName", desc := "()V" } : Jvm.MethodName)) ∈ lw_all := lw_g (lw_at lw_m3 138 rfl) rfl
theorem q770 : (Jvm.Cond.privateMethod ({ cls := "NeverUnseen$Reader", name := "mustName", desc := "()V" } : Jvm.MethodName)) ∈ lw_tbl := lw_at lw_m3 139 rfl
theorem q771 : (Jvm.Cond.instanceMethod ({ cls := "NeverUnseen$Reader", name := "mustName", desc := "()V" } : Jvm.MethodName)) ∈ lw_all := lw_g (lw_at lw_m3 140 rfl) rfl
theorem q772 : (Jvm.Cond.code ({ cls := "NeverUnseen$Reader", name := "mustName", desc := "()V" } : Jvm.MethodName) prog_9_method_10_code (3 : Nat) (Option.none : Option Jvm.ClassFile.FieldType)) ∈ lw_all := lw_g (lw_at lw_m3 141 rfl) rfl
theorem q773 : (Jvm.Cond.stringRef "NeverUnseen$Reader" (105 : Nat) "baby") ∈ lw_tbl := lw_at lw_m3 142 rfl
theorem q774 : (Jvm.Cond.stringRef "NeverUnseen$Reader" (107 : Nat) "away") ∈ lw_tbl := lw_at lw_m3 143 rfl
theorem q775 : (Jvm.Cond.stringRef "NeverUnseen$Reader" (109 : Nat) "sleeps") ∈ lw_tbl := lw_at lw_m3 144 rfl
theorem q776 : (Jvm.Cond.methodLink "NeverUnseen$Reader" (124 : Nat) ({ cls := "NeverUnseen$Valley", name := "find", desc := "(Ljava/lang/String;)LNeverUnseen$Named;" } : Jvm.MethodName)) ∈ lw_all := lw_g (lw_at lw_m3 145 rfl) rfl
theorem q784 : (Jvm.Cond.methodLink "NeverUnseen$Reader" (210 : Nat) ({ cls := "NeverUnseen$Place", name := "<init>", desc := "(Ljava/lang/String;I)V" } : Jvm.MethodName)) ∈ lw_all := lw_g (lw_at lw_m3 153 rfl) rfl
theorem q792 : (Jvm.Cond.fieldLink "NeverUnseen$Reader" (214 : Nat) "NeverUnseen$Place" "x" "I") ∈ lw_all := lw_g (lw_at lw_m3 161 rfl) rfl
theorem q794 : (Jvm.Cond.fieldLink "NeverUnseen$Reader" (220 : Nat) "NeverUnseen$Place" "y" "I") ∈ lw_all := lw_g (lw_at lw_m3 163 rfl) rfl
theorem q796 : (Jvm.Cond.fieldLink "NeverUnseen$Reader" (249 : Nat) "NeverUnseen$Place" "ways" "I") ∈ lw_all := lw_g (lw_at lw_m3 165 rfl) rfl
theorem q801 : (Jvm.Cond.fieldLink "NeverUnseen$Reader" (132 : Nat) "NeverUnseen$Named" "number" "I") ∈ lw_all := lw_g (lw_at lw_m3 170 rfl) rfl
theorem q802 : (Jvm.Cond.fieldLink "NeverUnseen$Reader" (289 : Nat) "NeverUnseen$Person" "number" "I") ∈ lw_all := lw_g (lw_at lw_m3 171 rfl) rfl
theorem q816 : (Jvm.Cond.stringRef "NeverUnseen$Reader" (213 : Nat) "at") ∈ lw_tbl := lw_at lw_m3 185 rfl
theorem q817 : (Jvm.Cond.methodLink "NeverUnseen$Reader" (217 : Nat) ({ cls := "NeverUnseen$Reader", name := "comma", desc := "()V" } : Jvm.MethodName)) ∈ lw_all := lw_g (lw_at lw_m3 186 rfl) rfl
theorem q818 : (Jvm.Cond.privateMethod ({ cls := "NeverUnseen$Reader", name := "comma", desc := "()V" } : Jvm.MethodName)) ∈ lw_tbl := lw_at lw_m3 187 rfl
theorem q819 : (Jvm.Cond.instanceMethod ({ cls := "NeverUnseen$Reader", name := "comma", desc := "()V" } : Jvm.MethodName)) ∈ lw_all := lw_g (lw_at lw_m3 188 rfl) rfl
theorem q820 : (Jvm.Cond.code ({ cls := "NeverUnseen$Reader", name := "comma", desc := "()V" } : Jvm.MethodName) prog_9_method_17_code (1 : Nat) (Option.none : Option Jvm.ClassFile.FieldType)) ∈ lw_all := lw_g (lw_at lw_m3 189 rfl) rfl
theorem q821 : (Jvm.Cond.methodLink "NeverUnseen$Reader" (167 : Nat) ({ cls := "NeverUnseen$Reader", name := "wall", desc := "()V" } : Jvm.MethodName)) ∈ lw_all := lw_g (lw_at lw_m3 190 rfl) rfl
theorem q822 : (Jvm.Cond.privateMethod ({ cls := "NeverUnseen$Reader", name := "wall", desc := "()V" } : Jvm.MethodName)) ∈ lw_tbl := lw_at lw_m3 191 rfl
theorem q823 : (Jvm.Cond.instanceMethod ({ cls := "NeverUnseen$Reader", name := "wall", desc := "()V" } : Jvm.MethodName)) ∈ lw_all := lw_g (lw_at lw_m3 192 rfl) rfl
theorem q824 : (Jvm.Cond.code ({ cls := "NeverUnseen$Reader", name := "wall", desc := "()V" } : Jvm.MethodName) prog_9_method_23_code (3 : Nat) (Option.none : Option Jvm.ClassFile.FieldType)) ∈ lw_all := lw_g (lw_at lw_m3 193 rfl) rfl
theorem q825 : (Jvm.Cond.methodLink "NeverUnseen$Reader" (230 : Nat) ({ cls := "NeverUnseen$Reader", name := "place", desc := "()I" } : Jvm.MethodName)) ∈ lw_all := lw_g (lw_at lw_m3 194 rfl) rfl
theorem q826 : (Jvm.Cond.privateMethod ({ cls := "NeverUnseen$Reader", name := "place", desc := "()I" } : Jvm.MethodName)) ∈ lw_tbl := lw_at lw_m3 195 rfl
theorem q827 : (Jvm.Cond.instanceMethod ({ cls := "NeverUnseen$Reader", name := "place", desc := "()I" } : Jvm.MethodName)) ∈ lw_all := lw_g (lw_at lw_m3 196 rfl) rfl
theorem q828 : (Jvm.Cond.code ({ cls := "NeverUnseen$Reader", name := "place", desc := "()I" } : Jvm.MethodName) prog_9_method_13_code (2 : Nat) (Option.some Jvm.ClassFile.FieldType.int)) ∈ lw_all := lw_g (lw_at lw_m3 197 rfl) rfl
theorem q829 : (Jvm.Cond.methodLink "NeverUnseen$Reader" (137 : Nat) ({ cls := "NeverUnseen$Reader", name := "placeHere", desc := "()I" } : Jvm.MethodName)) ∈ lw_all := lw_g (lw_at lw_m3 198 rfl) rfl
theorem q830 : (Jvm.Cond.privateMethod ({ cls := "NeverUnseen$Reader", name := "placeHere", desc := "()I" } : Jvm.MethodName)) ∈ lw_tbl := lw_at lw_m3 199 rfl
theorem q831 : (Jvm.Cond.instanceMethod ({ cls := "NeverUnseen$Reader", name := "placeHere", desc := "()I" } : Jvm.MethodName)) ∈ lw_all := lw_g (lw_at lw_m3 200 rfl) rfl
theorem q832 : (Jvm.Cond.code ({ cls := "NeverUnseen$Reader", name := "placeHere", desc := "()I" } : Jvm.MethodName) prog_9_method_12_code (2 : Nat) (Option.some Jvm.ClassFile.FieldType.int)) ∈ lw_all := lw_g (lw_at lw_m3 201 rfl) rfl
theorem q833 : (Jvm.Cond.methodLink "NeverUnseen$Reader" (232 : Nat) ({ cls := "NeverUnseen$Valley", name := "isWalled", desc := "(III)Z" } : Jvm.MethodName)) ∈ lw_all := lw_g (lw_at lw_m3 202 rfl) rfl
theorem q840 : (Jvm.Cond.methodLink "NeverUnseen$Reader" (169 : Nat) ({ cls := "NeverUnseen$Reader", name := "way", desc := "()V" } : Jvm.MethodName)) ∈ lw_all := lw_g (lw_at lw_m3 209 rfl) rfl
theorem q841 : (Jvm.Cond.privateMethod ({ cls := "NeverUnseen$Reader", name := "way", desc := "()V" } : Jvm.MethodName)) ∈ lw_tbl := lw_at lw_m3 210 rfl
theorem q842 : (Jvm.Cond.instanceMethod ({ cls := "NeverUnseen$Reader", name := "way", desc := "()V" } : Jvm.MethodName)) ∈ lw_all := lw_g (lw_at lw_m3 211 rfl) rfl
theorem q843 : (Jvm.Cond.code ({ cls := "NeverUnseen$Reader", name := "way", desc := "()V" } : Jvm.MethodName) prog_9_method_24_code (3 : Nat) (Option.none : Option Jvm.ClassFile.FieldType)) ∈ lw_all := lw_g (lw_at lw_m3 212 rfl) rfl
theorem q844 : (Jvm.Cond.methodLink "NeverUnseen$Reader" (245 : Nat) ({ cls := "NeverUnseen$Valley", name := "areLinked", desc := "(II)Z" } : Jvm.MethodName)) ∈ lw_all := lw_g (lw_at lw_m3 213 rfl) rfl
theorem q848 : (Jvm.Cond.methodLink "NeverUnseen$Reader" (171 : Nat) ({ cls := "NeverUnseen$Reader", name := "mirror", desc := "()V" } : Jvm.MethodName)) ∈ lw_all := lw_g (lw_at lw_m3 217 rfl) rfl
theorem q849 : (Jvm.Cond.privateMethod ({ cls := "NeverUnseen$Reader", name := "mirror", desc := "()V" } : Jvm.MethodName)) ∈ lw_tbl := lw_at lw_m3 218 rfl
theorem q850 : (Jvm.Cond.instanceMethod ({ cls := "NeverUnseen$Reader", name := "mirror", desc := "()V" } : Jvm.MethodName)) ∈ lw_all := lw_g (lw_at lw_m3 219 rfl) rfl
theorem q851 : (Jvm.Cond.code ({ cls := "NeverUnseen$Reader", name := "mirror", desc := "()V" } : Jvm.MethodName) prog_9_method_25_code (3 : Nat) (Option.none : Option Jvm.ClassFile.FieldType)) ∈ lw_all := lw_g (lw_at lw_m3 220 rfl) rfl
theorem q852 : (Jvm.Cond.methodLink "NeverUnseen$Reader" (173 : Nat) ({ cls := "NeverUnseen$Reader", name := "person", desc := "()V" } : Jvm.MethodName)) ∈ lw_all := lw_g (lw_at lw_m3 221 rfl) rfl
theorem q853 : (Jvm.Cond.privateMethod ({ cls := "NeverUnseen$Reader", name := "person", desc := "()V" } : Jvm.MethodName)) ∈ lw_tbl := lw_at lw_m3 222 rfl
theorem q854 : (Jvm.Cond.instanceMethod ({ cls := "NeverUnseen$Reader", name := "person", desc := "()V" } : Jvm.MethodName)) ∈ lw_all := lw_g (lw_at lw_m3 223 rfl) rfl
theorem q855 : (Jvm.Cond.code ({ cls := "NeverUnseen$Reader", name := "person", desc := "()V" } : Jvm.MethodName) prog_9_method_26_code (3 : Nat) (Option.none : Option Jvm.ClassFile.FieldType)) ∈ lw_all := lw_g (lw_at lw_m3 224 rfl) rfl
theorem q856 : (Jvm.Cond.classLink "NeverUnseen$Reader" (140 : Nat) "NeverUnseen$Person") ∈ lw_all := lw_g (lw_at lw_m3 225 rfl) rfl
theorem q858 : (Jvm.Cond.methodLink "NeverUnseen$Reader" (258 : Nat) ({ cls := "NeverUnseen$Person", name := "<init>", desc := "(Ljava/lang/String;I)V" } : Jvm.MethodName)) ∈ lw_all := lw_g (lw_at lw_m3 227 rfl) rfl
theorem q867 : (Jvm.Cond.fieldLink "NeverUnseen$Reader" (259 : Nat) "NeverUnseen$Person" "place" "I") ∈ lw_all := lw_g (lw_at lw_m3 236 rfl) rfl
theorem q877 : (Jvm.Cond.classLink "NeverUnseen$Reader" (261 : Nat) "NeverUnseen$Baby") ∈ lw_all := lw_g (lw_at lw_m4 6 rfl) rfl
theorem q879 : (Jvm.Cond.methodLinkNest "NeverUnseen$Reader" (263 : Nat) ({ cls := "NeverUnseen$Baby", name := "<init>", desc := "()V" } : Jvm.MethodName) "NeverUnseen") ∈ lw_tbl := lw_at lw_m4 8 rfl
theorem q884 : (Jvm.Cond.methodLink "NeverUnseen$Reader" (264 : Nat) ({ cls := "NeverUnseen$Person", name := "has", desc := "(LNeverUnseen$Habit;)V" } : Jvm.MethodName)) ∈ lw_all := lw_g (lw_at lw_m4 13 rfl) rfl
theorem q888 : (Jvm.Cond.classLink "NeverUnseen$Reader" (268 : Nat) "NeverUnseen$Away") ∈ lw_all := lw_g (lw_at lw_m4 17 rfl) rfl
theorem q890 : (Jvm.Cond.methodLink "NeverUnseen$Reader" (270 : Nat) ({ cls := "NeverUnseen$Away", name := "<init>", desc := "(I)V" } : Jvm.MethodName)) ∈ lw_all := lw_g (lw_at lw_m4 19 rfl) rfl
theorem q898 : (Jvm.Cond.classLink "NeverUnseen$Reader" (273 : Nat) "NeverUnseen$Sleep") ∈ lw_all := lw_g (lw_at lw_m4 27 rfl) rfl
theorem q900 : (Jvm.Cond.methodLink "NeverUnseen$Reader" (275 : Nat) ({ cls := "NeverUnseen$Sleep", name := "<init>", desc := "(II)V" } : Jvm.MethodName)) ∈ lw_all := lw_g (lw_at lw_m4 29 rfl) rfl
theorem q911 : (Jvm.Cond.methodLink "NeverUnseen$Reader" (175 : Nat) ({ cls := "NeverUnseen$Reader", name := "pair", desc := "()V" } : Jvm.MethodName)) ∈ lw_all := lw_g (lw_at lw_m4 40 rfl) rfl
theorem q912 : (Jvm.Cond.privateMethod ({ cls := "NeverUnseen$Reader", name := "pair", desc := "()V" } : Jvm.MethodName)) ∈ lw_tbl := lw_at lw_m4 41 rfl
theorem q913 : (Jvm.Cond.instanceMethod ({ cls := "NeverUnseen$Reader", name := "pair", desc := "()V" } : Jvm.MethodName)) ∈ lw_all := lw_g (lw_at lw_m4 42 rfl) rfl
theorem q914 : (Jvm.Cond.code ({ cls := "NeverUnseen$Reader", name := "pair", desc := "()V" } : Jvm.MethodName) prog_9_method_27_code (5 : Nat) (Option.none : Option Jvm.ClassFile.FieldType)) ∈ lw_all := lw_g (lw_at lw_m4 43 rfl) rfl
theorem q915 : (Jvm.Cond.methodLink "NeverUnseen$Reader" (285 : Nat) ({ cls := "NeverUnseen$Reader", name := "personHere", desc := "()LNeverUnseen$Person;" } : Jvm.MethodName)) ∈ lw_all := lw_g (lw_at lw_m4 44 rfl) rfl
theorem q916 : (Jvm.Cond.privateMethod ({ cls := "NeverUnseen$Reader", name := "personHere", desc := "()LNeverUnseen$Person;" } : Jvm.MethodName)) ∈ lw_tbl := lw_at lw_m4 45 rfl
theorem q917 : (Jvm.Cond.instanceMethod ({ cls := "NeverUnseen$Reader", name := "personHere", desc := "()LNeverUnseen$Person;" } : Jvm.MethodName)) ∈ lw_all := lw_g (lw_at lw_m4 46 rfl) rfl
theorem q918 : (Jvm.Cond.code ({ cls := "NeverUnseen$Reader", name := "personHere", desc := "()LNeverUnseen$Person;" } : Jvm.MethodName) prog_9_method_14_code (2 : Nat) (Option.some (Jvm.ClassFile.FieldType.object "NeverUnseen$Person"))) ∈ lw_all := lw_g (lw_at lw_m4 47 rfl) rfl
theorem q919 : (Jvm.Cond.methodLink "NeverUnseen$Reader" (177 : Nat) ({ cls := "NeverUnseen$Reader", name := "errand", desc := "()V" } : Jvm.MethodName)) ∈ lw_all := lw_g (lw_at lw_m4 48 rfl) rfl
theorem q920 : (Jvm.Cond.privateMethod ({ cls := "NeverUnseen$Reader", name := "errand", desc := "()V" } : Jvm.MethodName)) ∈ lw_tbl := lw_at lw_m4 49 rfl
theorem q921 : (Jvm.Cond.instanceMethod ({ cls := "NeverUnseen$Reader", name := "errand", desc := "()V" } : Jvm.MethodName)) ∈ lw_all := lw_g (lw_at lw_m4 50 rfl) rfl
theorem q922 : (Jvm.Cond.code ({ cls := "NeverUnseen$Reader", name := "errand", desc := "()V" } : Jvm.MethodName) prog_9_method_28_code (2 : Nat) (Option.none : Option Jvm.ClassFile.FieldType)) ∈ lw_all := lw_g (lw_at lw_m4 51 rfl) rfl
theorem q923 : (Jvm.Cond.classLink "NeverUnseen$Reader" (299 : Nat) "NeverUnseen$Errand") ∈ lw_all := lw_g (lw_at lw_m4 52 rfl) rfl
theorem q925 : (Jvm.Cond.methodLinkNest "NeverUnseen$Reader" (301 : Nat) ({ cls := "NeverUnseen$Errand", name := "<init>", desc := "()V" } : Jvm.MethodName) "NeverUnseen") ∈ lw_tbl := lw_at lw_m4 54 rfl
theorem q929 : (Jvm.Cond.fieldLink "NeverUnseen$Reader" (302 : Nat) "NeverUnseen$Errand" "who" "LNeverUnseen$Person;") ∈ lw_all := lw_g (lw_at lw_m4 58 rfl) rfl
theorem q931 : (Jvm.Cond.fieldLink "NeverUnseen$Reader" (306 : Nat) "NeverUnseen$Errand" "place" "I") ∈ lw_all := lw_g (lw_at lw_m4 60 rfl) rfl
theorem q933 : (Jvm.Cond.fieldLink "NeverUnseen$Reader" (307 : Nat) "NeverUnseen$Errand" "from" "I") ∈ lw_all := lw_g (lw_at lw_m4 62 rfl) rfl
theorem q935 : (Jvm.Cond.fieldLink "NeverUnseen$Reader" (308 : Nat) "NeverUnseen$Errand" "to" "I") ∈ lw_all := lw_g (lw_at lw_m4 64 rfl) rfl
theorem q937 : (Jvm.Cond.fieldLink "NeverUnseen$Reader" (310 : Nat) "NeverUnseen$Errand" "takes" "I") ∈ lw_all := lw_g (lw_at lw_m4 66 rfl) rfl
theorem q950 : (Jvm.Cond.stringRef "NeverUnseen$Reader" (309 : Nat) "takes") ∈ lw_tbl := lw_at lw_m4 79 rfl
theorem q951 : (Jvm.Cond.methodLink "NeverUnseen$Reader" (179 : Nat) ({ cls := "NeverUnseen$Reader", name := "fog", desc := "()V" } : Jvm.MethodName)) ∈ lw_all := lw_g (lw_at lw_m4 80 rfl) rfl
theorem q952 : (Jvm.Cond.privateMethod ({ cls := "NeverUnseen$Reader", name := "fog", desc := "()V" } : Jvm.MethodName)) ∈ lw_tbl := lw_at lw_m4 81 rfl
theorem q953 : (Jvm.Cond.instanceMethod ({ cls := "NeverUnseen$Reader", name := "fog", desc := "()V" } : Jvm.MethodName)) ∈ lw_all := lw_g (lw_at lw_m4 82 rfl) rfl
theorem q954 : (Jvm.Cond.code ({ cls := "NeverUnseen$Reader", name := "fog", desc := "()V" } : Jvm.MethodName) prog_9_method_29_code (3 : Nat) (Option.none : Option Jvm.ClassFile.FieldType)) ∈ lw_all := lw_g (lw_at lw_m4 83 rfl) rfl
theorem q955 : (Jvm.Cond.stringRef "NeverUnseen$Reader" (325 : Nat) "chance") ∈ lw_tbl := lw_at lw_m4 84 rfl
theorem q2265 : (Jvm.Cond.castable "NeverUnseen$Reader" "java/lang/Object") ∈ lw_tbl := lw_at lw_m9 194 rfl
theorem in_X2 : ∀ w ∈ wsX20, w ∈ lw_all := lw_in wsX20 [275, 277, 279, 281, 283, 285, 287, 289, 291, 293] (by decide +kernel) (by decide +kernel)
/-! the law's own entry -/
set_option maxRecDepth 100000
abbrev cL_law : ByteArray := code
def dkwL_law_57 : List UInt8 := [132, 4, 6, 167, 250, 51, 4, 172]
abbrev dktL_law_57 : List UInt8 := dkwL_law_57 ++ []
def dkwL_law_56 : List UInt8 := [96, 46, 182, 0, 207, 159, 0, 18, 3, 172, 43, 182, 0, 208, 44, 182, 0, 211, 159, 0, 5, 3, 172]
abbrev dktL_law_56 : List UInt8 := dkwL_law_56 ++ dktL_law_57
def dkwL_law_55 : List UInt8 := [148, 153, 0, 5, 3, 172, 167, 0, 41, 43, 42, 21, 4, 4, 96, 46, 182, 0, 204, 44, 42, 21, 4, 4]
abbrev dktL_law_55 : List UInt8 := dkwL_law_55 ++ dktL_law_56
def dkwL_law_54 : List UInt8 := [54, 6, 44, 182, 0, 201, 21, 5, 159, 0, 5, 3, 172, 21, 5, 154, 0, 15, 45, 3, 47, 21, 6, 133]
abbrev dktL_law_54 : List UInt8 := dkwL_law_54 ++ dktL_law_55
def dkwL_law_53 : List UInt8 := [172, 43, 42, 21, 4, 4, 96, 46, 45, 184, 0, 195, 54, 5, 44, 42, 21, 4, 4, 96, 46, 182, 0, 200]
abbrev dktL_law_53 : List UInt8 := dkwL_law_53 ++ dktL_law_54
def dkwL_law_52 : List UInt8 := [46, 133, 16, 32, 121, 42, 21, 4, 5, 96, 46, 133, 20, 0, 188, 127, 129, 182, 0, 194, 159, 0, 99, 3]
abbrev dktL_law_52 : List UInt8 := dkwL_law_52 ++ dktL_law_53
def dkwL_law_51 : List UInt8 := [16, 32, 121, 42, 21, 4, 5, 96, 46, 133, 20, 0, 188, 127, 129, 182, 0, 190, 44, 42, 21, 4, 4, 96]
abbrev dktL_law_51 : List UInt8 := dkwL_law_51 ++ dktL_law_52
def dkwL_law_50 : List UInt8 := [3, 172, 43, 182, 0, 184, 44, 182, 0, 187, 148, 153, 0, 156, 3, 172, 43, 42, 21, 4, 4, 96, 46, 133]
abbrev dktL_law_50 : List UInt8 := dkwL_law_50 ++ dktL_law_51
def dkwL_law_49 : List UInt8 := [21, 4, 4, 96, 46, 182, 0, 179, 159, 0, 183, 3, 172, 43, 182, 0, 180, 44, 182, 0, 183, 159, 0, 170]
abbrev dktL_law_49 : List UInt8 := dkwL_law_49 ++ dktL_law_50
def dkwL_law_48 : List UInt8 := [182, 0, 172, 44, 182, 0, 175, 159, 0, 208, 3, 172, 43, 42, 21, 4, 4, 96, 46, 182, 0, 176, 44, 42]
abbrev dktL_law_48 : List UInt8 := dkwL_law_48 ++ dktL_law_49
def dkwL_law_47 : List UInt8 := [182, 0, 166, 159, 0, 235, 3, 172, 43, 182, 0, 167, 44, 182, 0, 171, 148, 153, 0, 221, 3, 172, 43]
abbrev dktL_law_47 : List UInt8 := dkwL_law_47 ++ dktL_law_48
def dkwL_law_46 : List UInt8 := [96, 46, 42, 21, 4, 5, 96, 46, 182, 0, 163, 44, 42, 21, 4, 4, 96, 46, 42, 21, 4, 5, 96, 46]
abbrev dktL_law_46 : List UInt8 := dkwL_law_46 ++ dktL_law_47
def dkwL_law_45 : List UInt8 := [21, 4, 4, 96, 46, 42, 21, 4, 5, 96, 46, 182, 0, 162, 159, 1, 16, 3, 172, 43, 42, 21, 4, 4]
abbrev dktL_law_45 : List UInt8 := dkwL_law_45 ++ dktL_law_46
def dkwL_law_44 : List UInt8 := [159, 1, 53, 3, 172, 43, 42, 21, 4, 4, 96, 46, 42, 21, 4, 5, 96, 46, 182, 0, 159, 44, 42]
abbrev dktL_law_44 : List UInt8 := dkwL_law_44 ++ dktL_law_45
def dkwL_law_43 : List UInt8 := [5, 96, 46, 182, 0, 155, 44, 42, 21, 4, 4, 96, 46, 42, 21, 4, 5, 96, 46, 182, 0, 158]
abbrev dktL_law_43 : List UInt8 := dkwL_law_43 ++ dktL_law_44
def dkwL_law_42 : List UInt8 := [42, 21, 4, 4, 96, 46, 182, 0, 154, 159, 1, 90, 3, 172, 43, 42, 21, 4, 4, 96, 46, 42, 21, 4]
abbrev dktL_law_42 : List UInt8 := dkwL_law_42 ++ dktL_law_43
def dkwL_law_41 : List UInt8 := [21, 4, 4, 96, 46, 182, 0, 150, 159, 1, 115, 3, 172, 43, 42, 21, 4, 4, 96, 46, 182, 0, 151, 44]
abbrev dktL_law_41 : List UInt8 := dkwL_law_41 ++ dktL_law_42
def dkwL_law_40 : List UInt8 := [4, 96, 46, 182, 0, 146, 159, 1, 140, 3, 172, 43, 42, 21, 4, 4, 96, 46, 182, 0, 147, 44, 42]
abbrev dktL_law_40 : List UInt8 := dkwL_law_40 ++ dktL_law_41
def dkwL_law_39 : List UInt8 := [96, 46, 182, 0, 142, 159, 1, 165, 3, 172, 43, 42, 21, 4, 4, 96, 46, 182, 0, 143, 44, 42, 21, 4]
abbrev dktL_law_39 : List UInt8 := dkwL_law_39 ++ dktL_law_40
def dkwL_law_38 : List UInt8 := [46, 182, 0, 138, 159, 1, 190, 3, 172, 43, 42, 21, 4, 4, 96, 46, 182, 0, 139, 44, 42, 21, 4, 4]
abbrev dktL_law_38 : List UInt8 := dkwL_law_38 ++ dktL_law_39
def dkwL_law_37 : List UInt8 := [182, 0, 134, 159, 1, 215, 3, 172, 43, 42, 21, 4, 4, 96, 46, 182, 0, 135, 44, 42, 21, 4, 4, 96]
abbrev dktL_law_37 : List UInt8 := dkwL_law_37 ++ dktL_law_38
def dkwL_law_36 : List UInt8 := [159, 1, 240, 3, 172, 43, 42, 21, 4, 4, 96, 46, 182, 0, 131, 44, 42, 21, 4, 4, 96, 46]
abbrev dktL_law_36 : List UInt8 := dkwL_law_36 ++ dktL_law_37
def dkwL_law_35 : List UInt8 := [21, 4, 5, 96, 46, 182, 0, 127, 44, 42, 21, 4, 4, 96, 46, 42, 21, 4, 5, 96, 46, 182, 0, 130]
abbrev dktL_law_35 : List UInt8 := dkwL_law_35 ++ dktL_law_36
def dkwL_law_34 : List UInt8 := [46, 42, 21, 4, 5, 96, 46, 182, 0, 126, 159, 2, 21, 3, 172, 43, 42, 21, 4, 4, 96, 46, 42]
abbrev dktL_law_34 : List UInt8 := dkwL_law_34 ++ dktL_law_35
def dkwL_law_33 : List UInt8 := [3, 172, 43, 42, 21, 4, 4, 96, 46, 42, 21, 4, 5, 96, 46, 182, 0, 123, 44, 42, 21, 4, 4, 96]
abbrev dktL_law_33 : List UInt8 := dkwL_law_33 ++ dktL_law_34
def dkwL_law_32 : List UInt8 := [96, 46, 182, 0, 119, 44, 42, 21, 4, 4, 96, 46, 42, 21, 4, 5, 96, 46, 182, 0, 122, 159, 2, 58]
abbrev dktL_law_32 : List UInt8 := dkwL_law_32 ++ dktL_law_33
def dkwL_law_31 : List UInt8 := [21, 4, 5, 96, 46, 182, 0, 118, 159, 2, 95, 3, 172, 43, 42, 21, 4, 4, 96, 46, 42, 21, 4, 5]
abbrev dktL_law_31 : List UInt8 := dkwL_law_31 ++ dktL_law_32
def dkwL_law_30 : List UInt8 := [43, 42, 21, 4, 4, 96, 46, 42, 21, 4, 5, 96, 46, 182, 0, 115, 44, 42, 21, 4, 4, 96, 46, 42]
abbrev dktL_law_30 : List UInt8 := dkwL_law_30 ++ dktL_law_31
def dkwL_law_29 : List UInt8 := [182, 0, 111, 44, 42, 21, 4, 4, 96, 46, 42, 21, 4, 5, 96, 46, 182, 0, 114, 159, 2, 132, 3, 172]
abbrev dktL_law_29 : List UInt8 := dkwL_law_29 ++ dktL_law_30
def dkwL_law_28 : List UInt8 := [5, 96, 46, 182, 0, 110, 159, 2, 169, 3, 172, 43, 42, 21, 4, 4, 96, 46, 42, 21, 4, 5, 96, 46]
abbrev dktL_law_28 : List UInt8 := dkwL_law_28 ++ dktL_law_29
def dkwL_law_27 : List UInt8 := [21, 4, 4, 96, 46, 42, 21, 4, 5, 96, 46, 182, 0, 107, 44, 42, 21, 4, 4, 96, 46, 42, 21, 4]
abbrev dktL_law_27 : List UInt8 := dkwL_law_27 ++ dktL_law_28
def dkwL_law_26 : List UInt8 := [46, 182, 0, 101, 159, 2, 219, 3, 172, 43, 182, 0, 102, 44, 182, 0, 106, 159, 2, 206, 3, 172, 43, 42]
abbrev dktL_law_26 : List UInt8 := dkwL_law_26 ++ dktL_law_27
def dkwL_law_25 : List UInt8 := [182, 0, 97, 159, 2, 244, 3, 172, 43, 42, 21, 4, 4, 96, 46, 182, 0, 98, 44, 42, 21, 4, 4, 96]
abbrev dktL_law_25 : List UInt8 := dkwL_law_25 ++ dktL_law_26
def dkwL_law_24 : List UInt8 := [159, 3, 14, 3, 172, 43, 182, 0, 90, 44, 182, 0, 93, 159, 3, 1, 3, 172, 43, 182, 0, 94, 44]
abbrev dktL_law_24 : List UInt8 := dkwL_law_24 ++ dktL_law_25
def dkwL_law_23 : List UInt8 := [5, 96, 46, 182, 0, 86, 44, 42, 21, 4, 4, 96, 46, 42, 21, 4, 5, 96, 46, 182, 0, 89]
abbrev dktL_law_23 : List UInt8 := dkwL_law_23 ++ dktL_law_24
def dkwL_law_22 : List UInt8 := [42, 21, 4, 6, 96, 46, 182, 0, 85, 159, 3, 51, 3, 172, 43, 42, 21, 4, 4, 96, 46, 42, 21, 4]
abbrev dktL_law_22 : List UInt8 := dkwL_law_22 ++ dktL_law_23
def dkwL_law_21 : List UInt8 := [96, 46, 42, 21, 4, 6, 96, 46, 182, 0, 81, 44, 42, 21, 4, 4, 96, 46, 42, 21, 4, 5, 96, 46]
abbrev dktL_law_21 : List UInt8 := dkwL_law_21 ++ dktL_law_22
def dkwL_law_20 : List UInt8 := [21, 4, 4, 96, 46, 182, 0, 80, 159, 3, 100, 3, 172, 43, 42, 21, 4, 4, 96, 46, 42, 21, 4, 5]
abbrev dktL_law_20 : List UInt8 := dkwL_law_20 ++ dktL_law_21
def dkwL_law_19 : List UInt8 := [182, 0, 73, 44, 182, 0, 76, 159, 3, 125, 3, 172, 43, 42, 21, 4, 4, 96, 46, 182, 0, 77, 44, 42]
abbrev dktL_law_19 : List UInt8 := dkwL_law_19 ++ dktL_law_20
def dkwL_law_18 : List UInt8 := [182, 0, 68, 159, 3, 151, 3, 172, 43, 182, 0, 69, 44, 182, 0, 72, 159, 3, 138, 3, 172, 43]
abbrev dktL_law_18 : List UInt8 := dkwL_law_18 ++ dktL_law_19
def dkwL_law_17 : List UInt8 := [159, 3, 176, 3, 172, 43, 42, 21, 4, 4, 96, 46, 182, 0, 65, 44, 42, 21, 4, 4, 96, 46]
abbrev dktL_law_17 : List UInt8 := dkwL_law_17 ++ dktL_law_18
def dkwL_law_16 : List UInt8 := [3, 172, 43, 42, 21, 4, 4, 96, 46, 182, 0, 60, 44, 42, 21, 4, 4, 96, 46, 182, 0, 64]
abbrev dktL_law_16 : List UInt8 := dkwL_law_16 ++ dktL_law_17
def dkwL_law_15 : List UInt8 := [96, 46, 182, 0, 55, 44, 42, 21, 4, 4, 96, 46, 42, 21, 4, 5, 96, 46, 182, 0, 59, 159, 3, 201]
abbrev dktL_law_15 : List UInt8 := dkwL_law_15 ++ dktL_law_16
def dkwL_law_14 : List UInt8 := [21, 4, 5, 96, 46, 182, 0, 54, 159, 3, 238, 3, 172, 43, 42, 21, 4, 4, 96, 46, 42, 21, 4, 5]
abbrev dktL_law_14 : List UInt8 := dkwL_law_14 ++ dktL_law_15
def dkwL_law_13 : List UInt8 := [42, 21, 4, 4, 96, 46, 42, 21, 4, 5, 96, 46, 182, 0, 51, 44, 42, 21, 4, 4, 96, 46, 42]
abbrev dktL_law_13 : List UInt8 := dkwL_law_13 ++ dktL_law_14
def dkwL_law_12 : List UInt8 := [21, 4, 4, 96, 46, 182, 0, 47, 44, 42, 21, 4, 4, 96, 46, 182, 0, 50, 159, 4, 19, 3, 172, 43]
abbrev dktL_law_12 : List UInt8 := dkwL_law_12 ++ dktL_law_13
def dkwL_law_11 : List UInt8 := [44, 42, 21, 4, 4, 96, 46, 42, 21, 4, 5, 96, 46, 182, 0, 46, 159, 4, 44, 3, 172, 43, 42]
abbrev dktL_law_11 : List UInt8 := dkwL_law_11 ++ dktL_law_12
def dkwL_law_10 : List UInt8 := [182, 0, 41, 159, 4, 81, 3, 172, 43, 42, 21, 4, 4, 96, 46, 42, 21, 4, 5, 96, 46, 182, 0, 42]
abbrev dktL_law_10 : List UInt8 := dkwL_law_10 ++ dktL_law_11
def dkwL_law_9 : List UInt8 := [182, 0, 37, 44, 42, 21, 4, 4, 96, 46, 42, 21, 4, 5, 96, 46, 42, 21, 4, 6, 96, 46]
abbrev dktL_law_9 : List UInt8 := dkwL_law_9 ++ dktL_law_10
def dkwL_law_8 : List UInt8 := [159, 4, 130, 3, 172, 43, 42, 21, 4, 4, 96, 46, 42, 21, 4, 5, 96, 46, 42, 21, 4, 6, 96, 46]
abbrev dktL_law_8 : List UInt8 := dkwL_law_8 ++ dktL_law_9
def dkwL_law_7 : List UInt8 := [3, 172, 43, 182, 0, 28, 44, 182, 0, 32, 159, 4, 143, 3, 172, 43, 182, 0, 33, 44, 182, 0, 36]
abbrev dktL_law_7 : List UInt8 := dkwL_law_7 ++ dktL_law_8
def dkwL_law_6 : List UInt8 := [172, 43, 42, 21, 4, 4, 96, 46, 182, 0, 24, 44, 42, 21, 4, 4, 96, 46, 182, 0, 27, 159, 4, 156]
abbrev dktL_law_6 : List UInt8 := dkwL_law_6 ++ dktL_law_7
def dkwL_law_5 : List UInt8 := [21, 4, 6, 96, 46, 42, 21, 4, 7, 96, 46, 42, 21, 4, 8, 96, 46, 182, 0, 23, 159, 4, 181, 3]
abbrev dktL_law_5 : List UInt8 := dkwL_law_5 ++ dktL_law_6
def dkwL_law_4 : List UInt8 := [46, 42, 21, 4, 8, 96, 46, 182, 0, 19, 44, 42, 21, 4, 4, 96, 46, 42, 21, 4, 5, 96, 46, 42]
abbrev dktL_law_4 : List UInt8 := dkwL_law_4 ++ dktL_law_5
def dkwL_law_3 : List UInt8 := [43, 42, 21, 4, 4, 96, 46, 42, 21, 4, 5, 96, 46, 42, 21, 4, 6, 96, 46, 42, 21, 4, 7, 96]
abbrev dktL_law_3 : List UInt8 := dkwL_law_3 ++ dktL_law_4
def dkwL_law_2 : List UInt8 := [170, 0, 0, 0, 0, 0, 5, 185, 0, 0, 0, 0, 0, 0, 0, 43, 0, 0, 0, 192, 0, 0, 1, 9, 0, 0, 1, 34, 0, 0, 1, 47, 0, 0, 1, 60, 0, 0, 1, 109, 0, 0, 1, 146, 0, 0, 1, 171, 0, 0, 1, 208, 0, 0, 1, 245, 0, 0, 2, 14, 0, 0, 2, 39, 0, 0, 2, 52, 0, 0, 2, 65, 0, 0, 2, 90, 0, 0, 2, 139, 0, 0, 2, 176, 0, 0, 2, 189, 0, 0, 2, 202, 0, 0, 2, 227, 0, 0, 2, 240, 0, 0, 3, 21, 0, 0, 3, 58, 0, 0, 3, 95, 0, 0, 3, 132, 0, 0, 3, 169, 0, 0, 3, 206, 0, 0, 3, 231, 0, 0, 4, 0, 0, 0, 4, 25, 0, 0, 4, 50, 0, 0, 4, 75, 0, 0, 4, 100, 0, 0, 4, 137, 0, 0, 4, 174, 0, 0, 4, 211, 0, 0, 4, 225, 0, 0, 4, 238, 0, 0, 5, 7, 0, 0, 5, 20, 0, 0, 5, 34, 0, 0, 5, 91, 0, 0, 5, 147, 0, 0, 5, 172]
abbrev dktL_law_2 : List UInt8 := dkwL_law_2 ++ dktL_law_3
def dkwL_law_1 : List UInt8 := [21, 4, 42, 190, 16, 6, 100, 163, 5, 201, 42, 21, 4, 46, 16, 63, 126]
abbrev dktL_law_1 : List UInt8 := dkwL_law_1 ++ dktL_law_2
def dkwL_law_0 : List UInt8 := [187, 0, 8, 89, 183, 0, 15, 76, 187, 0, 16, 89, 183, 0, 18, 77, 4, 188, 11, 78, 3, 54, 4]
abbrev dktL_law_0 : List UInt8 := dkwL_law_0 ++ dktL_law_1
theorem dksL_law_0 : cL_law.data.toList.drop 0 = dktL_law_0 := by decide +kernel
theorem dksL_law_1 : cL_law.data.toList.drop 23 = dktL_law_1 := dk_seg dksL_law_0 23 rfl rfl
theorem dksL_law_2 : cL_law.data.toList.drop 40 = dktL_law_2 := dk_seg dksL_law_1 17 rfl rfl
theorem dksL_law_3 : cL_law.data.toList.drop 232 = dktL_law_3 := dk_seg dksL_law_2 192 rfl rfl
theorem dksL_law_4 : cL_law.data.toList.drop 256 = dktL_law_4 := dk_seg dksL_law_3 24 rfl rfl
theorem dksL_law_5 : cL_law.data.toList.drop 280 = dktL_law_5 := dk_seg dksL_law_4 24 rfl rfl
theorem dksL_law_6 : cL_law.data.toList.drop 304 = dktL_law_6 := dk_seg dksL_law_5 24 rfl rfl
theorem dksL_law_7 : cL_law.data.toList.drop 328 = dktL_law_7 := dk_seg dksL_law_6 24 rfl rfl
theorem dksL_law_8 : cL_law.data.toList.drop 351 = dktL_law_8 := dk_seg dksL_law_7 23 rfl rfl
theorem dksL_law_9 : cL_law.data.toList.drop 375 = dktL_law_9 := dk_seg dksL_law_8 24 rfl rfl
theorem dksL_law_10 : cL_law.data.toList.drop 397 = dktL_law_10 := dk_seg dksL_law_9 22 rfl rfl
theorem dksL_law_11 : cL_law.data.toList.drop 421 = dktL_law_11 := dk_seg dksL_law_10 24 rfl rfl
theorem dksL_law_12 : cL_law.data.toList.drop 444 = dktL_law_12 := dk_seg dksL_law_11 23 rfl rfl
theorem dksL_law_13 : cL_law.data.toList.drop 468 = dktL_law_13 := dk_seg dksL_law_12 24 rfl rfl
theorem dksL_law_14 : cL_law.data.toList.drop 491 = dktL_law_14 := dk_seg dksL_law_13 23 rfl rfl
theorem dksL_law_15 : cL_law.data.toList.drop 515 = dktL_law_15 := dk_seg dksL_law_14 24 rfl rfl
theorem dksL_law_16 : cL_law.data.toList.drop 539 = dktL_law_16 := dk_seg dksL_law_15 24 rfl rfl
theorem dksL_law_17 : cL_law.data.toList.drop 561 = dktL_law_17 := dk_seg dksL_law_16 22 rfl rfl
theorem dksL_law_18 : cL_law.data.toList.drop 583 = dktL_law_18 := dk_seg dksL_law_17 22 rfl rfl
theorem dksL_law_19 : cL_law.data.toList.drop 605 = dktL_law_19 := dk_seg dksL_law_18 22 rfl rfl
theorem dksL_law_20 : cL_law.data.toList.drop 629 = dktL_law_20 := dk_seg dksL_law_19 24 rfl rfl
theorem dksL_law_21 : cL_law.data.toList.drop 653 = dktL_law_21 := dk_seg dksL_law_20 24 rfl rfl
theorem dksL_law_22 : cL_law.data.toList.drop 677 = dktL_law_22 := dk_seg dksL_law_21 24 rfl rfl
theorem dksL_law_23 : cL_law.data.toList.drop 701 = dktL_law_23 := dk_seg dksL_law_22 24 rfl rfl
theorem dksL_law_24 : cL_law.data.toList.drop 723 = dktL_law_24 := dk_seg dksL_law_23 22 rfl rfl
theorem dksL_law_25 : cL_law.data.toList.drop 746 = dktL_law_25 := dk_seg dksL_law_24 23 rfl rfl
theorem dksL_law_26 : cL_law.data.toList.drop 770 = dktL_law_26 := dk_seg dksL_law_25 24 rfl rfl
theorem dksL_law_27 : cL_law.data.toList.drop 794 = dktL_law_27 := dk_seg dksL_law_26 24 rfl rfl
theorem dksL_law_28 : cL_law.data.toList.drop 818 = dktL_law_28 := dk_seg dksL_law_27 24 rfl rfl
theorem dksL_law_29 : cL_law.data.toList.drop 842 = dktL_law_29 := dk_seg dksL_law_28 24 rfl rfl
theorem dksL_law_30 : cL_law.data.toList.drop 866 = dktL_law_30 := dk_seg dksL_law_29 24 rfl rfl
theorem dksL_law_31 : cL_law.data.toList.drop 890 = dktL_law_31 := dk_seg dksL_law_30 24 rfl rfl
theorem dksL_law_32 : cL_law.data.toList.drop 914 = dktL_law_32 := dk_seg dksL_law_31 24 rfl rfl
theorem dksL_law_33 : cL_law.data.toList.drop 938 = dktL_law_33 := dk_seg dksL_law_32 24 rfl rfl
theorem dksL_law_34 : cL_law.data.toList.drop 962 = dktL_law_34 := dk_seg dksL_law_33 24 rfl rfl
theorem dksL_law_35 : cL_law.data.toList.drop 985 = dktL_law_35 := dk_seg dksL_law_34 23 rfl rfl
theorem dksL_law_36 : cL_law.data.toList.drop 1009 = dktL_law_36 := dk_seg dksL_law_35 24 rfl rfl
theorem dksL_law_37 : cL_law.data.toList.drop 1031 = dktL_law_37 := dk_seg dksL_law_36 22 rfl rfl
theorem dksL_law_38 : cL_law.data.toList.drop 1055 = dktL_law_38 := dk_seg dksL_law_37 24 rfl rfl
theorem dksL_law_39 : cL_law.data.toList.drop 1079 = dktL_law_39 := dk_seg dksL_law_38 24 rfl rfl
theorem dksL_law_40 : cL_law.data.toList.drop 1103 = dktL_law_40 := dk_seg dksL_law_39 24 rfl rfl
theorem dksL_law_41 : cL_law.data.toList.drop 1126 = dktL_law_41 := dk_seg dksL_law_40 23 rfl rfl
theorem dksL_law_42 : cL_law.data.toList.drop 1150 = dktL_law_42 := dk_seg dksL_law_41 24 rfl rfl
theorem dksL_law_43 : cL_law.data.toList.drop 1174 = dktL_law_43 := dk_seg dksL_law_42 24 rfl rfl
theorem dksL_law_44 : cL_law.data.toList.drop 1196 = dktL_law_44 := dk_seg dksL_law_43 22 rfl rfl
theorem dksL_law_45 : cL_law.data.toList.drop 1219 = dktL_law_45 := dk_seg dksL_law_44 23 rfl rfl
theorem dksL_law_46 : cL_law.data.toList.drop 1243 = dktL_law_46 := dk_seg dksL_law_45 24 rfl rfl
theorem dksL_law_47 : cL_law.data.toList.drop 1267 = dktL_law_47 := dk_seg dksL_law_46 24 rfl rfl
theorem dksL_law_48 : cL_law.data.toList.drop 1290 = dktL_law_48 := dk_seg dksL_law_47 23 rfl rfl
theorem dksL_law_49 : cL_law.data.toList.drop 1314 = dktL_law_49 := dk_seg dksL_law_48 24 rfl rfl
theorem dksL_law_50 : cL_law.data.toList.drop 1338 = dktL_law_50 := dk_seg dksL_law_49 24 rfl rfl
theorem dksL_law_51 : cL_law.data.toList.drop 1362 = dktL_law_51 := dk_seg dksL_law_50 24 rfl rfl
theorem dksL_law_52 : cL_law.data.toList.drop 1386 = dktL_law_52 := dk_seg dksL_law_51 24 rfl rfl
theorem dksL_law_53 : cL_law.data.toList.drop 1410 = dktL_law_53 := dk_seg dksL_law_52 24 rfl rfl
theorem dksL_law_54 : cL_law.data.toList.drop 1434 = dktL_law_54 := dk_seg dksL_law_53 24 rfl rfl
theorem dksL_law_55 : cL_law.data.toList.drop 1458 = dktL_law_55 := dk_seg dksL_law_54 24 rfl rfl
theorem dksL_law_56 : cL_law.data.toList.drop 1482 = dktL_law_56 := dk_seg dksL_law_55 24 rfl rfl
theorem dksL_law_57 : cL_law.data.toList.drop 1505 = dktL_law_57 := dk_seg dksL_law_56 23 rfl rfl
theorem dL_law_0 : decode cL_law 0 = .ok (.new 8, 3) := dk_187 0 8 (dk_at dksL_law_0 0 rfl rfl)
theorem dL_law_3 : decode cL_law 3 = .ok (.dup, 1) := dk_89 (dk_at dksL_law_0 3 rfl rfl)
theorem dL_law_4 : decode cL_law 4 = .ok (.invokespecial 15, 3) := dk_183 0 15 (dk_at dksL_law_0 4 rfl rfl)
theorem dL_law_7 : decode cL_law 7 = .ok (.astore_n 1, 1) := dk_76 (dk_at dksL_law_0 7 rfl rfl)
theorem dL_law_8 : decode cL_law 8 = .ok (.new 16, 3) := dk_187 0 16 (dk_at dksL_law_0 8 rfl rfl)
theorem dL_law_11 : decode cL_law 11 = .ok (.dup, 1) := dk_89 (dk_at dksL_law_0 11 rfl rfl)
theorem dL_law_12 : decode cL_law 12 = .ok (.invokespecial 18, 3) := dk_183 0 18 (dk_at dksL_law_0 12 rfl rfl)
theorem dL_law_15 : decode cL_law 15 = .ok (.astore_n 2, 1) := dk_77 (dk_at dksL_law_0 15 rfl rfl)
theorem dL_law_16 : decode cL_law 16 = .ok (.iconst 1, 1) := dk_4 (dk_at dksL_law_0 16 rfl rfl)
theorem dL_law_17 : decode cL_law 17 = .ok (.newarray .long, 2) := dk_188_11 (dk_at dksL_law_0 17 rfl rfl)
theorem dL_law_19 : decode cL_law 19 = .ok (.astore_n 3, 1) := dk_78 (dk_at dksL_law_0 19 rfl rfl)
theorem dL_law_20 : decode cL_law 20 = .ok (.iconst 0, 1) := dk_3 (dk_at dksL_law_0 20 rfl rfl)
theorem dL_law_21 : decode cL_law 21 = .ok (.istore 4, 2) := dk_54 4 (dk_at dksL_law_0 21 rfl rfl)
theorem dL_law_23 : decode cL_law 23 = .ok (.iload 4, 2) := dk_21 4 (dk_at dksL_law_1 0 rfl rfl)
theorem dL_law_25 : decode cL_law 25 = .ok (.aload_n 0, 1) := dk_42 (dk_at dksL_law_1 2 rfl rfl)
theorem dL_law_26 : decode cL_law 26 = .ok (.arraylength, 1) := dk_190 (dk_at dksL_law_1 3 rfl rfl)
theorem dL_law_27 : decode cL_law 27 = .ok (.bipush 6, 2) := dk_16 6 (dk_at dksL_law_1 4 rfl rfl)
theorem dL_law_29 : decode cL_law 29 = .ok (.isub, 1) := dk_100 (dk_at dksL_law_1 6 rfl rfl)
theorem dL_law_30 : decode cL_law 30 = .ok (.if_icmp .gt 1481, 3) := dk_163 5 201 (dk_at dksL_law_1 7 rfl rfl)
theorem dL_law_33 : decode cL_law 33 = .ok (.aload_n 0, 1) := dk_42 (dk_at dksL_law_1 10 rfl rfl)
theorem dL_law_34 : decode cL_law 34 = .ok (.iload 4, 2) := dk_21 4 (dk_at dksL_law_1 11 rfl rfl)
theorem dL_law_36 : decode cL_law 36 = .ok (.iaload, 1) := dk_46 (dk_at dksL_law_1 13 rfl rfl)
theorem dL_law_37 : decode cL_law 37 = .ok (.bipush 63, 2) := dk_16 63 (dk_at dksL_law_1 14 rfl rfl)
theorem dL_law_39 : decode cL_law 39 = .ok (.iand, 1) := dk_126 (dk_at dksL_law_1 16 rfl rfl)
theorem dL_law_40 : decode cL_law 40 = .ok (.tableswitch 1465 0 43 #[192, 265, 290, 303, 316, 365, 402, 427, 464, 501, 526, 551, 564, 577, 602, 651, 688, 701, 714, 739, 752, 789, 826, 863, 900, 937, 974, 999, 1024, 1049, 1074, 1099, 1124, 1161, 1198, 1235, 1249, 1262, 1287, 1300, 1314, 1371, 1427, 1452], 192) := by decide +kernel
theorem dL_law_232 : decode cL_law 232 = .ok (.aload_n 1, 1) := dk_43 (dk_at dksL_law_3 0 rfl rfl)
theorem dL_law_233 : decode cL_law 233 = .ok (.aload_n 0, 1) := dk_42 (dk_at dksL_law_3 1 rfl rfl)
theorem dL_law_234 : decode cL_law 234 = .ok (.iload 4, 2) := dk_21 4 (dk_at dksL_law_3 2 rfl rfl)
theorem dL_law_236 : decode cL_law 236 = .ok (.iconst 1, 1) := dk_4 (dk_at dksL_law_3 4 rfl rfl)
theorem dL_law_237 : decode cL_law 237 = .ok (.iadd, 1) := dk_96 (dk_at dksL_law_3 5 rfl rfl)
theorem dL_law_238 : decode cL_law 238 = .ok (.iaload, 1) := dk_46 (dk_at dksL_law_3 6 rfl rfl)
theorem dL_law_239 : decode cL_law 239 = .ok (.aload_n 0, 1) := dk_42 (dk_at dksL_law_3 7 rfl rfl)
theorem dL_law_240 : decode cL_law 240 = .ok (.iload 4, 2) := dk_21 4 (dk_at dksL_law_3 8 rfl rfl)
theorem dL_law_242 : decode cL_law 242 = .ok (.iconst 2, 1) := dk_5 (dk_at dksL_law_3 10 rfl rfl)
theorem dL_law_243 : decode cL_law 243 = .ok (.iadd, 1) := dk_96 (dk_at dksL_law_3 11 rfl rfl)
theorem dL_law_244 : decode cL_law 244 = .ok (.iaload, 1) := dk_46 (dk_at dksL_law_3 12 rfl rfl)
theorem dL_law_245 : decode cL_law 245 = .ok (.aload_n 0, 1) := dk_42 (dk_at dksL_law_3 13 rfl rfl)
theorem dL_law_246 : decode cL_law 246 = .ok (.iload 4, 2) := dk_21 4 (dk_at dksL_law_3 14 rfl rfl)
theorem dL_law_248 : decode cL_law 248 = .ok (.iconst 3, 1) := dk_6 (dk_at dksL_law_3 16 rfl rfl)
theorem dL_law_249 : decode cL_law 249 = .ok (.iadd, 1) := dk_96 (dk_at dksL_law_3 17 rfl rfl)
theorem dL_law_250 : decode cL_law 250 = .ok (.iaload, 1) := dk_46 (dk_at dksL_law_3 18 rfl rfl)
theorem dL_law_251 : decode cL_law 251 = .ok (.aload_n 0, 1) := dk_42 (dk_at dksL_law_3 19 rfl rfl)
theorem dL_law_252 : decode cL_law 252 = .ok (.iload 4, 2) := dk_21 4 (dk_at dksL_law_3 20 rfl rfl)
theorem dL_law_254 : decode cL_law 254 = .ok (.iconst 4, 1) := dk_7 (dk_at dksL_law_3 22 rfl rfl)
theorem dL_law_255 : decode cL_law 255 = .ok (.iadd, 1) := dk_96 (dk_at dksL_law_3 23 rfl rfl)
theorem dL_law_256 : decode cL_law 256 = .ok (.iaload, 1) := dk_46 (dk_at dksL_law_4 0 rfl rfl)
theorem dL_law_257 : decode cL_law 257 = .ok (.aload_n 0, 1) := dk_42 (dk_at dksL_law_4 1 rfl rfl)
theorem dL_law_258 : decode cL_law 258 = .ok (.iload 4, 2) := dk_21 4 (dk_at dksL_law_4 2 rfl rfl)
theorem dL_law_260 : decode cL_law 260 = .ok (.iconst 5, 1) := dk_8 (dk_at dksL_law_4 4 rfl rfl)
theorem dL_law_261 : decode cL_law 261 = .ok (.iadd, 1) := dk_96 (dk_at dksL_law_4 5 rfl rfl)
theorem dL_law_262 : decode cL_law 262 = .ok (.iaload, 1) := dk_46 (dk_at dksL_law_4 6 rfl rfl)
theorem dL_law_263 : decode cL_law 263 = .ok (.invokevirtual 19, 3) := dk_182 0 19 (dk_at dksL_law_4 7 rfl rfl)
theorem dL_law_266 : decode cL_law 266 = .ok (.aload_n 2, 1) := dk_44 (dk_at dksL_law_4 10 rfl rfl)
theorem dL_law_267 : decode cL_law 267 = .ok (.aload_n 0, 1) := dk_42 (dk_at dksL_law_4 11 rfl rfl)
theorem dL_law_268 : decode cL_law 268 = .ok (.iload 4, 2) := dk_21 4 (dk_at dksL_law_4 12 rfl rfl)
theorem dL_law_270 : decode cL_law 270 = .ok (.iconst 1, 1) := dk_4 (dk_at dksL_law_4 14 rfl rfl)
theorem dL_law_271 : decode cL_law 271 = .ok (.iadd, 1) := dk_96 (dk_at dksL_law_4 15 rfl rfl)
theorem dL_law_272 : decode cL_law 272 = .ok (.iaload, 1) := dk_46 (dk_at dksL_law_4 16 rfl rfl)
theorem dL_law_273 : decode cL_law 273 = .ok (.aload_n 0, 1) := dk_42 (dk_at dksL_law_4 17 rfl rfl)
theorem dL_law_274 : decode cL_law 274 = .ok (.iload 4, 2) := dk_21 4 (dk_at dksL_law_4 18 rfl rfl)
theorem dL_law_276 : decode cL_law 276 = .ok (.iconst 2, 1) := dk_5 (dk_at dksL_law_4 20 rfl rfl)
theorem dL_law_277 : decode cL_law 277 = .ok (.iadd, 1) := dk_96 (dk_at dksL_law_4 21 rfl rfl)
theorem dL_law_278 : decode cL_law 278 = .ok (.iaload, 1) := dk_46 (dk_at dksL_law_4 22 rfl rfl)
theorem dL_law_279 : decode cL_law 279 = .ok (.aload_n 0, 1) := dk_42 (dk_at dksL_law_4 23 rfl rfl)
theorem dL_law_280 : decode cL_law 280 = .ok (.iload 4, 2) := dk_21 4 (dk_at dksL_law_5 0 rfl rfl)
theorem dL_law_282 : decode cL_law 282 = .ok (.iconst 3, 1) := dk_6 (dk_at dksL_law_5 2 rfl rfl)
theorem dL_law_283 : decode cL_law 283 = .ok (.iadd, 1) := dk_96 (dk_at dksL_law_5 3 rfl rfl)
theorem dL_law_284 : decode cL_law 284 = .ok (.iaload, 1) := dk_46 (dk_at dksL_law_5 4 rfl rfl)
theorem dL_law_285 : decode cL_law 285 = .ok (.aload_n 0, 1) := dk_42 (dk_at dksL_law_5 5 rfl rfl)
theorem dL_law_286 : decode cL_law 286 = .ok (.iload 4, 2) := dk_21 4 (dk_at dksL_law_5 6 rfl rfl)
theorem dL_law_288 : decode cL_law 288 = .ok (.iconst 4, 1) := dk_7 (dk_at dksL_law_5 8 rfl rfl)
theorem dL_law_289 : decode cL_law 289 = .ok (.iadd, 1) := dk_96 (dk_at dksL_law_5 9 rfl rfl)
theorem dL_law_290 : decode cL_law 290 = .ok (.iaload, 1) := dk_46 (dk_at dksL_law_5 10 rfl rfl)
theorem dL_law_291 : decode cL_law 291 = .ok (.aload_n 0, 1) := dk_42 (dk_at dksL_law_5 11 rfl rfl)
theorem dL_law_292 : decode cL_law 292 = .ok (.iload 4, 2) := dk_21 4 (dk_at dksL_law_5 12 rfl rfl)
theorem dL_law_294 : decode cL_law 294 = .ok (.iconst 5, 1) := dk_8 (dk_at dksL_law_5 14 rfl rfl)
theorem dL_law_295 : decode cL_law 295 = .ok (.iadd, 1) := dk_96 (dk_at dksL_law_5 15 rfl rfl)
theorem dL_law_296 : decode cL_law 296 = .ok (.iaload, 1) := dk_46 (dk_at dksL_law_5 16 rfl rfl)
theorem dL_law_297 : decode cL_law 297 = .ok (.invokevirtual 23, 3) := dk_182 0 23 (dk_at dksL_law_5 17 rfl rfl)
theorem dL_law_300 : decode cL_law 300 = .ok (.if_icmp .eq 1205, 3) := dk_159 4 181 (dk_at dksL_law_5 20 rfl rfl)
theorem dL_law_303 : decode cL_law 303 = .ok (.iconst 0, 1) := dk_3 (dk_at dksL_law_5 23 rfl rfl)
theorem dL_law_304 : decode cL_law 304 = .ok (.ireturn, 1) := dk_172 (dk_at dksL_law_6 0 rfl rfl)
theorem dL_law_305 : decode cL_law 305 = .ok (.aload_n 1, 1) := dk_43 (dk_at dksL_law_6 1 rfl rfl)
theorem dL_law_306 : decode cL_law 306 = .ok (.aload_n 0, 1) := dk_42 (dk_at dksL_law_6 2 rfl rfl)
theorem dL_law_307 : decode cL_law 307 = .ok (.iload 4, 2) := dk_21 4 (dk_at dksL_law_6 3 rfl rfl)
theorem dL_law_309 : decode cL_law 309 = .ok (.iconst 1, 1) := dk_4 (dk_at dksL_law_6 5 rfl rfl)
theorem dL_law_310 : decode cL_law 310 = .ok (.iadd, 1) := dk_96 (dk_at dksL_law_6 6 rfl rfl)
theorem dL_law_311 : decode cL_law 311 = .ok (.iaload, 1) := dk_46 (dk_at dksL_law_6 7 rfl rfl)
theorem dL_law_312 : decode cL_law 312 = .ok (.invokevirtual 24, 3) := dk_182 0 24 (dk_at dksL_law_6 8 rfl rfl)
theorem dL_law_315 : decode cL_law 315 = .ok (.aload_n 2, 1) := dk_44 (dk_at dksL_law_6 11 rfl rfl)
theorem dL_law_316 : decode cL_law 316 = .ok (.aload_n 0, 1) := dk_42 (dk_at dksL_law_6 12 rfl rfl)
theorem dL_law_317 : decode cL_law 317 = .ok (.iload 4, 2) := dk_21 4 (dk_at dksL_law_6 13 rfl rfl)
theorem dL_law_319 : decode cL_law 319 = .ok (.iconst 1, 1) := dk_4 (dk_at dksL_law_6 15 rfl rfl)
theorem dL_law_320 : decode cL_law 320 = .ok (.iadd, 1) := dk_96 (dk_at dksL_law_6 16 rfl rfl)
theorem dL_law_321 : decode cL_law 321 = .ok (.iaload, 1) := dk_46 (dk_at dksL_law_6 17 rfl rfl)
theorem dL_law_322 : decode cL_law 322 = .ok (.invokevirtual 27, 3) := dk_182 0 27 (dk_at dksL_law_6 18 rfl rfl)
theorem dL_law_325 : decode cL_law 325 = .ok (.if_icmp .eq 1180, 3) := dk_159 4 156 (dk_at dksL_law_6 21 rfl rfl)
theorem dL_law_328 : decode cL_law 328 = .ok (.iconst 0, 1) := dk_3 (dk_at dksL_law_7 0 rfl rfl)
theorem dL_law_329 : decode cL_law 329 = .ok (.ireturn, 1) := dk_172 (dk_at dksL_law_7 1 rfl rfl)
theorem dL_law_330 : decode cL_law 330 = .ok (.aload_n 1, 1) := dk_43 (dk_at dksL_law_7 2 rfl rfl)
theorem dL_law_331 : decode cL_law 331 = .ok (.invokevirtual 28, 3) := dk_182 0 28 (dk_at dksL_law_7 3 rfl rfl)
theorem dL_law_334 : decode cL_law 334 = .ok (.aload_n 2, 1) := dk_44 (dk_at dksL_law_7 6 rfl rfl)
theorem dL_law_335 : decode cL_law 335 = .ok (.invokevirtual 32, 3) := dk_182 0 32 (dk_at dksL_law_7 7 rfl rfl)
theorem dL_law_338 : decode cL_law 338 = .ok (.if_icmp .eq 1167, 3) := dk_159 4 143 (dk_at dksL_law_7 10 rfl rfl)
theorem dL_law_341 : decode cL_law 341 = .ok (.iconst 0, 1) := dk_3 (dk_at dksL_law_7 13 rfl rfl)
theorem dL_law_342 : decode cL_law 342 = .ok (.ireturn, 1) := dk_172 (dk_at dksL_law_7 14 rfl rfl)
theorem dL_law_343 : decode cL_law 343 = .ok (.aload_n 1, 1) := dk_43 (dk_at dksL_law_7 15 rfl rfl)
theorem dL_law_344 : decode cL_law 344 = .ok (.invokevirtual 33, 3) := dk_182 0 33 (dk_at dksL_law_7 16 rfl rfl)
theorem dL_law_347 : decode cL_law 347 = .ok (.aload_n 2, 1) := dk_44 (dk_at dksL_law_7 19 rfl rfl)
theorem dL_law_348 : decode cL_law 348 = .ok (.invokevirtual 36, 3) := dk_182 0 36 (dk_at dksL_law_7 20 rfl rfl)
theorem dL_law_351 : decode cL_law 351 = .ok (.if_icmp .eq 1154, 3) := dk_159 4 130 (dk_at dksL_law_8 0 rfl rfl)
theorem dL_law_354 : decode cL_law 354 = .ok (.iconst 0, 1) := dk_3 (dk_at dksL_law_8 3 rfl rfl)
theorem dL_law_355 : decode cL_law 355 = .ok (.ireturn, 1) := dk_172 (dk_at dksL_law_8 4 rfl rfl)
theorem dL_law_356 : decode cL_law 356 = .ok (.aload_n 1, 1) := dk_43 (dk_at dksL_law_8 5 rfl rfl)
theorem dL_law_357 : decode cL_law 357 = .ok (.aload_n 0, 1) := dk_42 (dk_at dksL_law_8 6 rfl rfl)
theorem dL_law_358 : decode cL_law 358 = .ok (.iload 4, 2) := dk_21 4 (dk_at dksL_law_8 7 rfl rfl)
theorem dL_law_360 : decode cL_law 360 = .ok (.iconst 1, 1) := dk_4 (dk_at dksL_law_8 9 rfl rfl)
theorem dL_law_361 : decode cL_law 361 = .ok (.iadd, 1) := dk_96 (dk_at dksL_law_8 10 rfl rfl)
theorem dL_law_362 : decode cL_law 362 = .ok (.iaload, 1) := dk_46 (dk_at dksL_law_8 11 rfl rfl)
theorem dL_law_363 : decode cL_law 363 = .ok (.aload_n 0, 1) := dk_42 (dk_at dksL_law_8 12 rfl rfl)
theorem dL_law_364 : decode cL_law 364 = .ok (.iload 4, 2) := dk_21 4 (dk_at dksL_law_8 13 rfl rfl)
theorem dL_law_366 : decode cL_law 366 = .ok (.iconst 2, 1) := dk_5 (dk_at dksL_law_8 15 rfl rfl)
theorem dL_law_367 : decode cL_law 367 = .ok (.iadd, 1) := dk_96 (dk_at dksL_law_8 16 rfl rfl)
theorem dL_law_368 : decode cL_law 368 = .ok (.iaload, 1) := dk_46 (dk_at dksL_law_8 17 rfl rfl)
theorem dL_law_369 : decode cL_law 369 = .ok (.aload_n 0, 1) := dk_42 (dk_at dksL_law_8 18 rfl rfl)
theorem dL_law_370 : decode cL_law 370 = .ok (.iload 4, 2) := dk_21 4 (dk_at dksL_law_8 19 rfl rfl)
theorem dL_law_372 : decode cL_law 372 = .ok (.iconst 3, 1) := dk_6 (dk_at dksL_law_8 21 rfl rfl)
theorem dL_law_373 : decode cL_law 373 = .ok (.iadd, 1) := dk_96 (dk_at dksL_law_8 22 rfl rfl)
theorem dL_law_374 : decode cL_law 374 = .ok (.iaload, 1) := dk_46 (dk_at dksL_law_8 23 rfl rfl)
theorem dL_law_375 : decode cL_law 375 = .ok (.invokevirtual 37, 3) := dk_182 0 37 (dk_at dksL_law_9 0 rfl rfl)
theorem dL_law_378 : decode cL_law 378 = .ok (.aload_n 2, 1) := dk_44 (dk_at dksL_law_9 3 rfl rfl)
theorem dL_law_379 : decode cL_law 379 = .ok (.aload_n 0, 1) := dk_42 (dk_at dksL_law_9 4 rfl rfl)
theorem dL_law_380 : decode cL_law 380 = .ok (.iload 4, 2) := dk_21 4 (dk_at dksL_law_9 5 rfl rfl)
theorem dL_law_382 : decode cL_law 382 = .ok (.iconst 1, 1) := dk_4 (dk_at dksL_law_9 7 rfl rfl)
theorem dL_law_383 : decode cL_law 383 = .ok (.iadd, 1) := dk_96 (dk_at dksL_law_9 8 rfl rfl)
theorem dL_law_384 : decode cL_law 384 = .ok (.iaload, 1) := dk_46 (dk_at dksL_law_9 9 rfl rfl)
theorem dL_law_385 : decode cL_law 385 = .ok (.aload_n 0, 1) := dk_42 (dk_at dksL_law_9 10 rfl rfl)
theorem dL_law_386 : decode cL_law 386 = .ok (.iload 4, 2) := dk_21 4 (dk_at dksL_law_9 11 rfl rfl)
theorem dL_law_388 : decode cL_law 388 = .ok (.iconst 2, 1) := dk_5 (dk_at dksL_law_9 13 rfl rfl)
theorem dL_law_389 : decode cL_law 389 = .ok (.iadd, 1) := dk_96 (dk_at dksL_law_9 14 rfl rfl)
theorem dL_law_390 : decode cL_law 390 = .ok (.iaload, 1) := dk_46 (dk_at dksL_law_9 15 rfl rfl)
theorem dL_law_391 : decode cL_law 391 = .ok (.aload_n 0, 1) := dk_42 (dk_at dksL_law_9 16 rfl rfl)
theorem dL_law_392 : decode cL_law 392 = .ok (.iload 4, 2) := dk_21 4 (dk_at dksL_law_9 17 rfl rfl)
theorem dL_law_394 : decode cL_law 394 = .ok (.iconst 3, 1) := dk_6 (dk_at dksL_law_9 19 rfl rfl)
theorem dL_law_395 : decode cL_law 395 = .ok (.iadd, 1) := dk_96 (dk_at dksL_law_9 20 rfl rfl)
theorem dL_law_396 : decode cL_law 396 = .ok (.iaload, 1) := dk_46 (dk_at dksL_law_9 21 rfl rfl)
theorem dL_law_397 : decode cL_law 397 = .ok (.invokevirtual 41, 3) := dk_182 0 41 (dk_at dksL_law_10 0 rfl rfl)
theorem dL_law_400 : decode cL_law 400 = .ok (.if_icmp .eq 1105, 3) := dk_159 4 81 (dk_at dksL_law_10 3 rfl rfl)
theorem dL_law_403 : decode cL_law 403 = .ok (.iconst 0, 1) := dk_3 (dk_at dksL_law_10 6 rfl rfl)
theorem dL_law_404 : decode cL_law 404 = .ok (.ireturn, 1) := dk_172 (dk_at dksL_law_10 7 rfl rfl)
theorem dL_law_405 : decode cL_law 405 = .ok (.aload_n 1, 1) := dk_43 (dk_at dksL_law_10 8 rfl rfl)
theorem dL_law_406 : decode cL_law 406 = .ok (.aload_n 0, 1) := dk_42 (dk_at dksL_law_10 9 rfl rfl)
theorem dL_law_407 : decode cL_law 407 = .ok (.iload 4, 2) := dk_21 4 (dk_at dksL_law_10 10 rfl rfl)
theorem dL_law_409 : decode cL_law 409 = .ok (.iconst 1, 1) := dk_4 (dk_at dksL_law_10 12 rfl rfl)
theorem dL_law_410 : decode cL_law 410 = .ok (.iadd, 1) := dk_96 (dk_at dksL_law_10 13 rfl rfl)
theorem dL_law_411 : decode cL_law 411 = .ok (.iaload, 1) := dk_46 (dk_at dksL_law_10 14 rfl rfl)
theorem dL_law_412 : decode cL_law 412 = .ok (.aload_n 0, 1) := dk_42 (dk_at dksL_law_10 15 rfl rfl)
theorem dL_law_413 : decode cL_law 413 = .ok (.iload 4, 2) := dk_21 4 (dk_at dksL_law_10 16 rfl rfl)
theorem dL_law_415 : decode cL_law 415 = .ok (.iconst 2, 1) := dk_5 (dk_at dksL_law_10 18 rfl rfl)
theorem dL_law_416 : decode cL_law 416 = .ok (.iadd, 1) := dk_96 (dk_at dksL_law_10 19 rfl rfl)
theorem dL_law_417 : decode cL_law 417 = .ok (.iaload, 1) := dk_46 (dk_at dksL_law_10 20 rfl rfl)
theorem dL_law_418 : decode cL_law 418 = .ok (.invokevirtual 42, 3) := dk_182 0 42 (dk_at dksL_law_10 21 rfl rfl)
theorem dL_law_421 : decode cL_law 421 = .ok (.aload_n 2, 1) := dk_44 (dk_at dksL_law_11 0 rfl rfl)
theorem dL_law_422 : decode cL_law 422 = .ok (.aload_n 0, 1) := dk_42 (dk_at dksL_law_11 1 rfl rfl)
theorem dL_law_423 : decode cL_law 423 = .ok (.iload 4, 2) := dk_21 4 (dk_at dksL_law_11 2 rfl rfl)
theorem dL_law_425 : decode cL_law 425 = .ok (.iconst 1, 1) := dk_4 (dk_at dksL_law_11 4 rfl rfl)
theorem dL_law_426 : decode cL_law 426 = .ok (.iadd, 1) := dk_96 (dk_at dksL_law_11 5 rfl rfl)
theorem dL_law_427 : decode cL_law 427 = .ok (.iaload, 1) := dk_46 (dk_at dksL_law_11 6 rfl rfl)
theorem dL_law_428 : decode cL_law 428 = .ok (.aload_n 0, 1) := dk_42 (dk_at dksL_law_11 7 rfl rfl)
theorem dL_law_429 : decode cL_law 429 = .ok (.iload 4, 2) := dk_21 4 (dk_at dksL_law_11 8 rfl rfl)
theorem dL_law_431 : decode cL_law 431 = .ok (.iconst 2, 1) := dk_5 (dk_at dksL_law_11 10 rfl rfl)
theorem dL_law_432 : decode cL_law 432 = .ok (.iadd, 1) := dk_96 (dk_at dksL_law_11 11 rfl rfl)
theorem dL_law_433 : decode cL_law 433 = .ok (.iaload, 1) := dk_46 (dk_at dksL_law_11 12 rfl rfl)
theorem dL_law_434 : decode cL_law 434 = .ok (.invokevirtual 46, 3) := dk_182 0 46 (dk_at dksL_law_11 13 rfl rfl)
theorem dL_law_437 : decode cL_law 437 = .ok (.if_icmp .eq 1068, 3) := dk_159 4 44 (dk_at dksL_law_11 16 rfl rfl)
theorem dL_law_440 : decode cL_law 440 = .ok (.iconst 0, 1) := dk_3 (dk_at dksL_law_11 19 rfl rfl)
theorem dL_law_441 : decode cL_law 441 = .ok (.ireturn, 1) := dk_172 (dk_at dksL_law_11 20 rfl rfl)
theorem dL_law_442 : decode cL_law 442 = .ok (.aload_n 1, 1) := dk_43 (dk_at dksL_law_11 21 rfl rfl)
theorem dL_law_443 : decode cL_law 443 = .ok (.aload_n 0, 1) := dk_42 (dk_at dksL_law_11 22 rfl rfl)
theorem dL_law_444 : decode cL_law 444 = .ok (.iload 4, 2) := dk_21 4 (dk_at dksL_law_12 0 rfl rfl)
theorem dL_law_446 : decode cL_law 446 = .ok (.iconst 1, 1) := dk_4 (dk_at dksL_law_12 2 rfl rfl)
theorem dL_law_447 : decode cL_law 447 = .ok (.iadd, 1) := dk_96 (dk_at dksL_law_12 3 rfl rfl)
theorem dL_law_448 : decode cL_law 448 = .ok (.iaload, 1) := dk_46 (dk_at dksL_law_12 4 rfl rfl)
theorem dL_law_449 : decode cL_law 449 = .ok (.invokevirtual 47, 3) := dk_182 0 47 (dk_at dksL_law_12 5 rfl rfl)
theorem dL_law_452 : decode cL_law 452 = .ok (.aload_n 2, 1) := dk_44 (dk_at dksL_law_12 8 rfl rfl)
theorem dL_law_453 : decode cL_law 453 = .ok (.aload_n 0, 1) := dk_42 (dk_at dksL_law_12 9 rfl rfl)
theorem dL_law_454 : decode cL_law 454 = .ok (.iload 4, 2) := dk_21 4 (dk_at dksL_law_12 10 rfl rfl)
theorem dL_law_456 : decode cL_law 456 = .ok (.iconst 1, 1) := dk_4 (dk_at dksL_law_12 12 rfl rfl)
theorem dL_law_457 : decode cL_law 457 = .ok (.iadd, 1) := dk_96 (dk_at dksL_law_12 13 rfl rfl)
theorem dL_law_458 : decode cL_law 458 = .ok (.iaload, 1) := dk_46 (dk_at dksL_law_12 14 rfl rfl)
theorem dL_law_459 : decode cL_law 459 = .ok (.invokevirtual 50, 3) := dk_182 0 50 (dk_at dksL_law_12 15 rfl rfl)
theorem dL_law_462 : decode cL_law 462 = .ok (.if_icmp .eq 1043, 3) := dk_159 4 19 (dk_at dksL_law_12 18 rfl rfl)
theorem dL_law_465 : decode cL_law 465 = .ok (.iconst 0, 1) := dk_3 (dk_at dksL_law_12 21 rfl rfl)
theorem dL_law_466 : decode cL_law 466 = .ok (.ireturn, 1) := dk_172 (dk_at dksL_law_12 22 rfl rfl)
theorem dL_law_467 : decode cL_law 467 = .ok (.aload_n 1, 1) := dk_43 (dk_at dksL_law_12 23 rfl rfl)
theorem dL_law_468 : decode cL_law 468 = .ok (.aload_n 0, 1) := dk_42 (dk_at dksL_law_13 0 rfl rfl)
theorem dL_law_469 : decode cL_law 469 = .ok (.iload 4, 2) := dk_21 4 (dk_at dksL_law_13 1 rfl rfl)
theorem dL_law_471 : decode cL_law 471 = .ok (.iconst 1, 1) := dk_4 (dk_at dksL_law_13 3 rfl rfl)
theorem dL_law_472 : decode cL_law 472 = .ok (.iadd, 1) := dk_96 (dk_at dksL_law_13 4 rfl rfl)
theorem dL_law_473 : decode cL_law 473 = .ok (.iaload, 1) := dk_46 (dk_at dksL_law_13 5 rfl rfl)
theorem dL_law_474 : decode cL_law 474 = .ok (.aload_n 0, 1) := dk_42 (dk_at dksL_law_13 6 rfl rfl)
theorem dL_law_475 : decode cL_law 475 = .ok (.iload 4, 2) := dk_21 4 (dk_at dksL_law_13 7 rfl rfl)
theorem dL_law_477 : decode cL_law 477 = .ok (.iconst 2, 1) := dk_5 (dk_at dksL_law_13 9 rfl rfl)
theorem dL_law_478 : decode cL_law 478 = .ok (.iadd, 1) := dk_96 (dk_at dksL_law_13 10 rfl rfl)
theorem dL_law_479 : decode cL_law 479 = .ok (.iaload, 1) := dk_46 (dk_at dksL_law_13 11 rfl rfl)
theorem dL_law_480 : decode cL_law 480 = .ok (.invokevirtual 51, 3) := dk_182 0 51 (dk_at dksL_law_13 12 rfl rfl)
theorem dL_law_483 : decode cL_law 483 = .ok (.aload_n 2, 1) := dk_44 (dk_at dksL_law_13 15 rfl rfl)
theorem dL_law_484 : decode cL_law 484 = .ok (.aload_n 0, 1) := dk_42 (dk_at dksL_law_13 16 rfl rfl)
theorem dL_law_485 : decode cL_law 485 = .ok (.iload 4, 2) := dk_21 4 (dk_at dksL_law_13 17 rfl rfl)
theorem dL_law_487 : decode cL_law 487 = .ok (.iconst 1, 1) := dk_4 (dk_at dksL_law_13 19 rfl rfl)
theorem dL_law_488 : decode cL_law 488 = .ok (.iadd, 1) := dk_96 (dk_at dksL_law_13 20 rfl rfl)
theorem dL_law_489 : decode cL_law 489 = .ok (.iaload, 1) := dk_46 (dk_at dksL_law_13 21 rfl rfl)
theorem dL_law_490 : decode cL_law 490 = .ok (.aload_n 0, 1) := dk_42 (dk_at dksL_law_13 22 rfl rfl)
theorem dL_law_491 : decode cL_law 491 = .ok (.iload 4, 2) := dk_21 4 (dk_at dksL_law_14 0 rfl rfl)
theorem dL_law_493 : decode cL_law 493 = .ok (.iconst 2, 1) := dk_5 (dk_at dksL_law_14 2 rfl rfl)
theorem dL_law_494 : decode cL_law 494 = .ok (.iadd, 1) := dk_96 (dk_at dksL_law_14 3 rfl rfl)
theorem dL_law_495 : decode cL_law 495 = .ok (.iaload, 1) := dk_46 (dk_at dksL_law_14 4 rfl rfl)
theorem dL_law_496 : decode cL_law 496 = .ok (.invokevirtual 54, 3) := dk_182 0 54 (dk_at dksL_law_14 5 rfl rfl)
theorem dL_law_499 : decode cL_law 499 = .ok (.if_icmp .eq 1006, 3) := dk_159 3 238 (dk_at dksL_law_14 8 rfl rfl)
theorem dL_law_502 : decode cL_law 502 = .ok (.iconst 0, 1) := dk_3 (dk_at dksL_law_14 11 rfl rfl)
theorem dL_law_503 : decode cL_law 503 = .ok (.ireturn, 1) := dk_172 (dk_at dksL_law_14 12 rfl rfl)
theorem dL_law_504 : decode cL_law 504 = .ok (.aload_n 1, 1) := dk_43 (dk_at dksL_law_14 13 rfl rfl)
theorem dL_law_505 : decode cL_law 505 = .ok (.aload_n 0, 1) := dk_42 (dk_at dksL_law_14 14 rfl rfl)
theorem dL_law_506 : decode cL_law 506 = .ok (.iload 4, 2) := dk_21 4 (dk_at dksL_law_14 15 rfl rfl)
theorem dL_law_508 : decode cL_law 508 = .ok (.iconst 1, 1) := dk_4 (dk_at dksL_law_14 17 rfl rfl)
theorem dL_law_509 : decode cL_law 509 = .ok (.iadd, 1) := dk_96 (dk_at dksL_law_14 18 rfl rfl)
theorem dL_law_510 : decode cL_law 510 = .ok (.iaload, 1) := dk_46 (dk_at dksL_law_14 19 rfl rfl)
theorem dL_law_511 : decode cL_law 511 = .ok (.aload_n 0, 1) := dk_42 (dk_at dksL_law_14 20 rfl rfl)
theorem dL_law_512 : decode cL_law 512 = .ok (.iload 4, 2) := dk_21 4 (dk_at dksL_law_14 21 rfl rfl)
theorem dL_law_514 : decode cL_law 514 = .ok (.iconst 2, 1) := dk_5 (dk_at dksL_law_14 23 rfl rfl)
theorem dL_law_515 : decode cL_law 515 = .ok (.iadd, 1) := dk_96 (dk_at dksL_law_15 0 rfl rfl)
theorem dL_law_516 : decode cL_law 516 = .ok (.iaload, 1) := dk_46 (dk_at dksL_law_15 1 rfl rfl)
theorem dL_law_517 : decode cL_law 517 = .ok (.invokevirtual 55, 3) := dk_182 0 55 (dk_at dksL_law_15 2 rfl rfl)
theorem dL_law_520 : decode cL_law 520 = .ok (.aload_n 2, 1) := dk_44 (dk_at dksL_law_15 5 rfl rfl)
theorem dL_law_521 : decode cL_law 521 = .ok (.aload_n 0, 1) := dk_42 (dk_at dksL_law_15 6 rfl rfl)
theorem dL_law_522 : decode cL_law 522 = .ok (.iload 4, 2) := dk_21 4 (dk_at dksL_law_15 7 rfl rfl)
theorem dL_law_524 : decode cL_law 524 = .ok (.iconst 1, 1) := dk_4 (dk_at dksL_law_15 9 rfl rfl)
theorem dL_law_525 : decode cL_law 525 = .ok (.iadd, 1) := dk_96 (dk_at dksL_law_15 10 rfl rfl)
theorem dL_law_526 : decode cL_law 526 = .ok (.iaload, 1) := dk_46 (dk_at dksL_law_15 11 rfl rfl)
theorem dL_law_527 : decode cL_law 527 = .ok (.aload_n 0, 1) := dk_42 (dk_at dksL_law_15 12 rfl rfl)
theorem dL_law_528 : decode cL_law 528 = .ok (.iload 4, 2) := dk_21 4 (dk_at dksL_law_15 13 rfl rfl)
theorem dL_law_530 : decode cL_law 530 = .ok (.iconst 2, 1) := dk_5 (dk_at dksL_law_15 15 rfl rfl)
theorem dL_law_531 : decode cL_law 531 = .ok (.iadd, 1) := dk_96 (dk_at dksL_law_15 16 rfl rfl)
theorem dL_law_532 : decode cL_law 532 = .ok (.iaload, 1) := dk_46 (dk_at dksL_law_15 17 rfl rfl)
theorem dL_law_533 : decode cL_law 533 = .ok (.invokevirtual 59, 3) := dk_182 0 59 (dk_at dksL_law_15 18 rfl rfl)
theorem dL_law_536 : decode cL_law 536 = .ok (.if_icmp .eq 969, 3) := dk_159 3 201 (dk_at dksL_law_15 21 rfl rfl)
theorem dL_law_539 : decode cL_law 539 = .ok (.iconst 0, 1) := dk_3 (dk_at dksL_law_16 0 rfl rfl)
theorem dL_law_540 : decode cL_law 540 = .ok (.ireturn, 1) := dk_172 (dk_at dksL_law_16 1 rfl rfl)
theorem dL_law_541 : decode cL_law 541 = .ok (.aload_n 1, 1) := dk_43 (dk_at dksL_law_16 2 rfl rfl)
theorem dL_law_542 : decode cL_law 542 = .ok (.aload_n 0, 1) := dk_42 (dk_at dksL_law_16 3 rfl rfl)
theorem dL_law_543 : decode cL_law 543 = .ok (.iload 4, 2) := dk_21 4 (dk_at dksL_law_16 4 rfl rfl)
theorem dL_law_545 : decode cL_law 545 = .ok (.iconst 1, 1) := dk_4 (dk_at dksL_law_16 6 rfl rfl)
theorem dL_law_546 : decode cL_law 546 = .ok (.iadd, 1) := dk_96 (dk_at dksL_law_16 7 rfl rfl)
theorem dL_law_547 : decode cL_law 547 = .ok (.iaload, 1) := dk_46 (dk_at dksL_law_16 8 rfl rfl)
theorem dL_law_548 : decode cL_law 548 = .ok (.invokevirtual 60, 3) := dk_182 0 60 (dk_at dksL_law_16 9 rfl rfl)
theorem dL_law_551 : decode cL_law 551 = .ok (.aload_n 2, 1) := dk_44 (dk_at dksL_law_16 12 rfl rfl)
theorem dL_law_552 : decode cL_law 552 = .ok (.aload_n 0, 1) := dk_42 (dk_at dksL_law_16 13 rfl rfl)
theorem dL_law_553 : decode cL_law 553 = .ok (.iload 4, 2) := dk_21 4 (dk_at dksL_law_16 14 rfl rfl)
theorem dL_law_555 : decode cL_law 555 = .ok (.iconst 1, 1) := dk_4 (dk_at dksL_law_16 16 rfl rfl)
theorem dL_law_556 : decode cL_law 556 = .ok (.iadd, 1) := dk_96 (dk_at dksL_law_16 17 rfl rfl)
theorem dL_law_557 : decode cL_law 557 = .ok (.iaload, 1) := dk_46 (dk_at dksL_law_16 18 rfl rfl)
theorem dL_law_558 : decode cL_law 558 = .ok (.invokevirtual 64, 3) := dk_182 0 64 (dk_at dksL_law_16 19 rfl rfl)
theorem dL_law_561 : decode cL_law 561 = .ok (.if_icmp .eq 944, 3) := dk_159 3 176 (dk_at dksL_law_17 0 rfl rfl)
theorem dL_law_564 : decode cL_law 564 = .ok (.iconst 0, 1) := dk_3 (dk_at dksL_law_17 3 rfl rfl)
theorem dL_law_565 : decode cL_law 565 = .ok (.ireturn, 1) := dk_172 (dk_at dksL_law_17 4 rfl rfl)
theorem dL_law_566 : decode cL_law 566 = .ok (.aload_n 1, 1) := dk_43 (dk_at dksL_law_17 5 rfl rfl)
theorem dL_law_567 : decode cL_law 567 = .ok (.aload_n 0, 1) := dk_42 (dk_at dksL_law_17 6 rfl rfl)
theorem dL_law_568 : decode cL_law 568 = .ok (.iload 4, 2) := dk_21 4 (dk_at dksL_law_17 7 rfl rfl)
theorem dL_law_570 : decode cL_law 570 = .ok (.iconst 1, 1) := dk_4 (dk_at dksL_law_17 9 rfl rfl)
theorem dL_law_571 : decode cL_law 571 = .ok (.iadd, 1) := dk_96 (dk_at dksL_law_17 10 rfl rfl)
theorem dL_law_572 : decode cL_law 572 = .ok (.iaload, 1) := dk_46 (dk_at dksL_law_17 11 rfl rfl)
theorem dL_law_573 : decode cL_law 573 = .ok (.invokevirtual 65, 3) := dk_182 0 65 (dk_at dksL_law_17 12 rfl rfl)
theorem dL_law_576 : decode cL_law 576 = .ok (.aload_n 2, 1) := dk_44 (dk_at dksL_law_17 15 rfl rfl)
theorem dL_law_577 : decode cL_law 577 = .ok (.aload_n 0, 1) := dk_42 (dk_at dksL_law_17 16 rfl rfl)
theorem dL_law_578 : decode cL_law 578 = .ok (.iload 4, 2) := dk_21 4 (dk_at dksL_law_17 17 rfl rfl)
theorem dL_law_580 : decode cL_law 580 = .ok (.iconst 1, 1) := dk_4 (dk_at dksL_law_17 19 rfl rfl)
theorem dL_law_581 : decode cL_law 581 = .ok (.iadd, 1) := dk_96 (dk_at dksL_law_17 20 rfl rfl)
theorem dL_law_582 : decode cL_law 582 = .ok (.iaload, 1) := dk_46 (dk_at dksL_law_17 21 rfl rfl)
theorem dL_law_583 : decode cL_law 583 = .ok (.invokevirtual 68, 3) := dk_182 0 68 (dk_at dksL_law_18 0 rfl rfl)
theorem dL_law_586 : decode cL_law 586 = .ok (.if_icmp .eq 919, 3) := dk_159 3 151 (dk_at dksL_law_18 3 rfl rfl)
theorem dL_law_589 : decode cL_law 589 = .ok (.iconst 0, 1) := dk_3 (dk_at dksL_law_18 6 rfl rfl)
theorem dL_law_590 : decode cL_law 590 = .ok (.ireturn, 1) := dk_172 (dk_at dksL_law_18 7 rfl rfl)
theorem dL_law_591 : decode cL_law 591 = .ok (.aload_n 1, 1) := dk_43 (dk_at dksL_law_18 8 rfl rfl)
theorem dL_law_592 : decode cL_law 592 = .ok (.invokevirtual 69, 3) := dk_182 0 69 (dk_at dksL_law_18 9 rfl rfl)
theorem dL_law_595 : decode cL_law 595 = .ok (.aload_n 2, 1) := dk_44 (dk_at dksL_law_18 12 rfl rfl)
theorem dL_law_596 : decode cL_law 596 = .ok (.invokevirtual 72, 3) := dk_182 0 72 (dk_at dksL_law_18 13 rfl rfl)
theorem dL_law_599 : decode cL_law 599 = .ok (.if_icmp .eq 906, 3) := dk_159 3 138 (dk_at dksL_law_18 16 rfl rfl)
theorem dL_law_602 : decode cL_law 602 = .ok (.iconst 0, 1) := dk_3 (dk_at dksL_law_18 19 rfl rfl)
theorem dL_law_603 : decode cL_law 603 = .ok (.ireturn, 1) := dk_172 (dk_at dksL_law_18 20 rfl rfl)
theorem dL_law_604 : decode cL_law 604 = .ok (.aload_n 1, 1) := dk_43 (dk_at dksL_law_18 21 rfl rfl)
theorem dL_law_605 : decode cL_law 605 = .ok (.invokevirtual 73, 3) := dk_182 0 73 (dk_at dksL_law_19 0 rfl rfl)
theorem dL_law_608 : decode cL_law 608 = .ok (.aload_n 2, 1) := dk_44 (dk_at dksL_law_19 3 rfl rfl)
theorem dL_law_609 : decode cL_law 609 = .ok (.invokevirtual 76, 3) := dk_182 0 76 (dk_at dksL_law_19 4 rfl rfl)
theorem dL_law_612 : decode cL_law 612 = .ok (.if_icmp .eq 893, 3) := dk_159 3 125 (dk_at dksL_law_19 7 rfl rfl)
theorem dL_law_615 : decode cL_law 615 = .ok (.iconst 0, 1) := dk_3 (dk_at dksL_law_19 10 rfl rfl)
theorem dL_law_616 : decode cL_law 616 = .ok (.ireturn, 1) := dk_172 (dk_at dksL_law_19 11 rfl rfl)
theorem dL_law_617 : decode cL_law 617 = .ok (.aload_n 1, 1) := dk_43 (dk_at dksL_law_19 12 rfl rfl)
theorem dL_law_618 : decode cL_law 618 = .ok (.aload_n 0, 1) := dk_42 (dk_at dksL_law_19 13 rfl rfl)
theorem dL_law_619 : decode cL_law 619 = .ok (.iload 4, 2) := dk_21 4 (dk_at dksL_law_19 14 rfl rfl)
theorem dL_law_621 : decode cL_law 621 = .ok (.iconst 1, 1) := dk_4 (dk_at dksL_law_19 16 rfl rfl)
theorem dL_law_622 : decode cL_law 622 = .ok (.iadd, 1) := dk_96 (dk_at dksL_law_19 17 rfl rfl)
theorem dL_law_623 : decode cL_law 623 = .ok (.iaload, 1) := dk_46 (dk_at dksL_law_19 18 rfl rfl)
theorem dL_law_624 : decode cL_law 624 = .ok (.invokevirtual 77, 3) := dk_182 0 77 (dk_at dksL_law_19 19 rfl rfl)
theorem dL_law_627 : decode cL_law 627 = .ok (.aload_n 2, 1) := dk_44 (dk_at dksL_law_19 22 rfl rfl)
theorem dL_law_628 : decode cL_law 628 = .ok (.aload_n 0, 1) := dk_42 (dk_at dksL_law_19 23 rfl rfl)
theorem dL_law_629 : decode cL_law 629 = .ok (.iload 4, 2) := dk_21 4 (dk_at dksL_law_20 0 rfl rfl)
theorem dL_law_631 : decode cL_law 631 = .ok (.iconst 1, 1) := dk_4 (dk_at dksL_law_20 2 rfl rfl)
theorem dL_law_632 : decode cL_law 632 = .ok (.iadd, 1) := dk_96 (dk_at dksL_law_20 3 rfl rfl)
theorem dL_law_633 : decode cL_law 633 = .ok (.iaload, 1) := dk_46 (dk_at dksL_law_20 4 rfl rfl)
theorem dL_law_634 : decode cL_law 634 = .ok (.invokevirtual 80, 3) := dk_182 0 80 (dk_at dksL_law_20 5 rfl rfl)
theorem dL_law_637 : decode cL_law 637 = .ok (.if_icmp .eq 868, 3) := dk_159 3 100 (dk_at dksL_law_20 8 rfl rfl)
theorem dL_law_640 : decode cL_law 640 = .ok (.iconst 0, 1) := dk_3 (dk_at dksL_law_20 11 rfl rfl)
theorem dL_law_641 : decode cL_law 641 = .ok (.ireturn, 1) := dk_172 (dk_at dksL_law_20 12 rfl rfl)
theorem dL_law_642 : decode cL_law 642 = .ok (.aload_n 1, 1) := dk_43 (dk_at dksL_law_20 13 rfl rfl)
theorem dL_law_643 : decode cL_law 643 = .ok (.aload_n 0, 1) := dk_42 (dk_at dksL_law_20 14 rfl rfl)
theorem dL_law_644 : decode cL_law 644 = .ok (.iload 4, 2) := dk_21 4 (dk_at dksL_law_20 15 rfl rfl)
theorem dL_law_646 : decode cL_law 646 = .ok (.iconst 1, 1) := dk_4 (dk_at dksL_law_20 17 rfl rfl)
theorem dL_law_647 : decode cL_law 647 = .ok (.iadd, 1) := dk_96 (dk_at dksL_law_20 18 rfl rfl)
theorem dL_law_648 : decode cL_law 648 = .ok (.iaload, 1) := dk_46 (dk_at dksL_law_20 19 rfl rfl)
theorem dL_law_649 : decode cL_law 649 = .ok (.aload_n 0, 1) := dk_42 (dk_at dksL_law_20 20 rfl rfl)
theorem dL_law_650 : decode cL_law 650 = .ok (.iload 4, 2) := dk_21 4 (dk_at dksL_law_20 21 rfl rfl)
theorem dL_law_652 : decode cL_law 652 = .ok (.iconst 2, 1) := dk_5 (dk_at dksL_law_20 23 rfl rfl)
theorem dL_law_653 : decode cL_law 653 = .ok (.iadd, 1) := dk_96 (dk_at dksL_law_21 0 rfl rfl)
theorem dL_law_654 : decode cL_law 654 = .ok (.iaload, 1) := dk_46 (dk_at dksL_law_21 1 rfl rfl)
theorem dL_law_655 : decode cL_law 655 = .ok (.aload_n 0, 1) := dk_42 (dk_at dksL_law_21 2 rfl rfl)
theorem dL_law_656 : decode cL_law 656 = .ok (.iload 4, 2) := dk_21 4 (dk_at dksL_law_21 3 rfl rfl)
theorem dL_law_658 : decode cL_law 658 = .ok (.iconst 3, 1) := dk_6 (dk_at dksL_law_21 5 rfl rfl)
theorem dL_law_659 : decode cL_law 659 = .ok (.iadd, 1) := dk_96 (dk_at dksL_law_21 6 rfl rfl)
theorem dL_law_660 : decode cL_law 660 = .ok (.iaload, 1) := dk_46 (dk_at dksL_law_21 7 rfl rfl)
theorem dL_law_661 : decode cL_law 661 = .ok (.invokevirtual 81, 3) := dk_182 0 81 (dk_at dksL_law_21 8 rfl rfl)
theorem dL_law_664 : decode cL_law 664 = .ok (.aload_n 2, 1) := dk_44 (dk_at dksL_law_21 11 rfl rfl)
theorem dL_law_665 : decode cL_law 665 = .ok (.aload_n 0, 1) := dk_42 (dk_at dksL_law_21 12 rfl rfl)
theorem dL_law_666 : decode cL_law 666 = .ok (.iload 4, 2) := dk_21 4 (dk_at dksL_law_21 13 rfl rfl)
theorem dL_law_668 : decode cL_law 668 = .ok (.iconst 1, 1) := dk_4 (dk_at dksL_law_21 15 rfl rfl)
theorem dL_law_669 : decode cL_law 669 = .ok (.iadd, 1) := dk_96 (dk_at dksL_law_21 16 rfl rfl)
theorem dL_law_670 : decode cL_law 670 = .ok (.iaload, 1) := dk_46 (dk_at dksL_law_21 17 rfl rfl)
theorem dL_law_671 : decode cL_law 671 = .ok (.aload_n 0, 1) := dk_42 (dk_at dksL_law_21 18 rfl rfl)
theorem dL_law_672 : decode cL_law 672 = .ok (.iload 4, 2) := dk_21 4 (dk_at dksL_law_21 19 rfl rfl)
theorem dL_law_674 : decode cL_law 674 = .ok (.iconst 2, 1) := dk_5 (dk_at dksL_law_21 21 rfl rfl)
theorem dL_law_675 : decode cL_law 675 = .ok (.iadd, 1) := dk_96 (dk_at dksL_law_21 22 rfl rfl)
theorem dL_law_676 : decode cL_law 676 = .ok (.iaload, 1) := dk_46 (dk_at dksL_law_21 23 rfl rfl)
theorem dL_law_677 : decode cL_law 677 = .ok (.aload_n 0, 1) := dk_42 (dk_at dksL_law_22 0 rfl rfl)
theorem dL_law_678 : decode cL_law 678 = .ok (.iload 4, 2) := dk_21 4 (dk_at dksL_law_22 1 rfl rfl)
theorem dL_law_680 : decode cL_law 680 = .ok (.iconst 3, 1) := dk_6 (dk_at dksL_law_22 3 rfl rfl)
theorem dL_law_681 : decode cL_law 681 = .ok (.iadd, 1) := dk_96 (dk_at dksL_law_22 4 rfl rfl)
theorem dL_law_682 : decode cL_law 682 = .ok (.iaload, 1) := dk_46 (dk_at dksL_law_22 5 rfl rfl)
theorem dL_law_683 : decode cL_law 683 = .ok (.invokevirtual 85, 3) := dk_182 0 85 (dk_at dksL_law_22 6 rfl rfl)
theorem dL_law_686 : decode cL_law 686 = .ok (.if_icmp .eq 819, 3) := dk_159 3 51 (dk_at dksL_law_22 9 rfl rfl)
theorem dL_law_689 : decode cL_law 689 = .ok (.iconst 0, 1) := dk_3 (dk_at dksL_law_22 12 rfl rfl)
theorem dL_law_690 : decode cL_law 690 = .ok (.ireturn, 1) := dk_172 (dk_at dksL_law_22 13 rfl rfl)
theorem dL_law_691 : decode cL_law 691 = .ok (.aload_n 1, 1) := dk_43 (dk_at dksL_law_22 14 rfl rfl)
theorem dL_law_692 : decode cL_law 692 = .ok (.aload_n 0, 1) := dk_42 (dk_at dksL_law_22 15 rfl rfl)
theorem dL_law_693 : decode cL_law 693 = .ok (.iload 4, 2) := dk_21 4 (dk_at dksL_law_22 16 rfl rfl)
theorem dL_law_695 : decode cL_law 695 = .ok (.iconst 1, 1) := dk_4 (dk_at dksL_law_22 18 rfl rfl)
theorem dL_law_696 : decode cL_law 696 = .ok (.iadd, 1) := dk_96 (dk_at dksL_law_22 19 rfl rfl)
theorem dL_law_697 : decode cL_law 697 = .ok (.iaload, 1) := dk_46 (dk_at dksL_law_22 20 rfl rfl)
theorem dL_law_698 : decode cL_law 698 = .ok (.aload_n 0, 1) := dk_42 (dk_at dksL_law_22 21 rfl rfl)
theorem dL_law_699 : decode cL_law 699 = .ok (.iload 4, 2) := dk_21 4 (dk_at dksL_law_22 22 rfl rfl)
theorem dL_law_701 : decode cL_law 701 = .ok (.iconst 2, 1) := dk_5 (dk_at dksL_law_23 0 rfl rfl)
theorem dL_law_702 : decode cL_law 702 = .ok (.iadd, 1) := dk_96 (dk_at dksL_law_23 1 rfl rfl)
theorem dL_law_703 : decode cL_law 703 = .ok (.iaload, 1) := dk_46 (dk_at dksL_law_23 2 rfl rfl)
theorem dL_law_704 : decode cL_law 704 = .ok (.invokevirtual 86, 3) := dk_182 0 86 (dk_at dksL_law_23 3 rfl rfl)
theorem dL_law_707 : decode cL_law 707 = .ok (.aload_n 2, 1) := dk_44 (dk_at dksL_law_23 6 rfl rfl)
theorem dL_law_708 : decode cL_law 708 = .ok (.aload_n 0, 1) := dk_42 (dk_at dksL_law_23 7 rfl rfl)
theorem dL_law_709 : decode cL_law 709 = .ok (.iload 4, 2) := dk_21 4 (dk_at dksL_law_23 8 rfl rfl)
theorem dL_law_711 : decode cL_law 711 = .ok (.iconst 1, 1) := dk_4 (dk_at dksL_law_23 10 rfl rfl)
theorem dL_law_712 : decode cL_law 712 = .ok (.iadd, 1) := dk_96 (dk_at dksL_law_23 11 rfl rfl)
theorem dL_law_713 : decode cL_law 713 = .ok (.iaload, 1) := dk_46 (dk_at dksL_law_23 12 rfl rfl)
theorem dL_law_714 : decode cL_law 714 = .ok (.aload_n 0, 1) := dk_42 (dk_at dksL_law_23 13 rfl rfl)
theorem dL_law_715 : decode cL_law 715 = .ok (.iload 4, 2) := dk_21 4 (dk_at dksL_law_23 14 rfl rfl)
theorem dL_law_717 : decode cL_law 717 = .ok (.iconst 2, 1) := dk_5 (dk_at dksL_law_23 16 rfl rfl)
theorem dL_law_718 : decode cL_law 718 = .ok (.iadd, 1) := dk_96 (dk_at dksL_law_23 17 rfl rfl)
theorem dL_law_719 : decode cL_law 719 = .ok (.iaload, 1) := dk_46 (dk_at dksL_law_23 18 rfl rfl)
theorem dL_law_720 : decode cL_law 720 = .ok (.invokevirtual 89, 3) := dk_182 0 89 (dk_at dksL_law_23 19 rfl rfl)
theorem dL_law_723 : decode cL_law 723 = .ok (.if_icmp .eq 782, 3) := dk_159 3 14 (dk_at dksL_law_24 0 rfl rfl)
theorem dL_law_726 : decode cL_law 726 = .ok (.iconst 0, 1) := dk_3 (dk_at dksL_law_24 3 rfl rfl)
theorem dL_law_727 : decode cL_law 727 = .ok (.ireturn, 1) := dk_172 (dk_at dksL_law_24 4 rfl rfl)
theorem dL_law_728 : decode cL_law 728 = .ok (.aload_n 1, 1) := dk_43 (dk_at dksL_law_24 5 rfl rfl)
theorem dL_law_729 : decode cL_law 729 = .ok (.invokevirtual 90, 3) := dk_182 0 90 (dk_at dksL_law_24 6 rfl rfl)
theorem dL_law_732 : decode cL_law 732 = .ok (.aload_n 2, 1) := dk_44 (dk_at dksL_law_24 9 rfl rfl)
theorem dL_law_733 : decode cL_law 733 = .ok (.invokevirtual 93, 3) := dk_182 0 93 (dk_at dksL_law_24 10 rfl rfl)
theorem dL_law_736 : decode cL_law 736 = .ok (.if_icmp .eq 769, 3) := dk_159 3 1 (dk_at dksL_law_24 13 rfl rfl)
theorem dL_law_739 : decode cL_law 739 = .ok (.iconst 0, 1) := dk_3 (dk_at dksL_law_24 16 rfl rfl)
theorem dL_law_740 : decode cL_law 740 = .ok (.ireturn, 1) := dk_172 (dk_at dksL_law_24 17 rfl rfl)
theorem dL_law_741 : decode cL_law 741 = .ok (.aload_n 1, 1) := dk_43 (dk_at dksL_law_24 18 rfl rfl)
theorem dL_law_742 : decode cL_law 742 = .ok (.invokevirtual 94, 3) := dk_182 0 94 (dk_at dksL_law_24 19 rfl rfl)
theorem dL_law_745 : decode cL_law 745 = .ok (.aload_n 2, 1) := dk_44 (dk_at dksL_law_24 22 rfl rfl)
theorem dL_law_746 : decode cL_law 746 = .ok (.invokevirtual 97, 3) := dk_182 0 97 (dk_at dksL_law_25 0 rfl rfl)
theorem dL_law_749 : decode cL_law 749 = .ok (.if_icmp .eq 756, 3) := dk_159 2 244 (dk_at dksL_law_25 3 rfl rfl)
theorem dL_law_752 : decode cL_law 752 = .ok (.iconst 0, 1) := dk_3 (dk_at dksL_law_25 6 rfl rfl)
theorem dL_law_753 : decode cL_law 753 = .ok (.ireturn, 1) := dk_172 (dk_at dksL_law_25 7 rfl rfl)
theorem dL_law_754 : decode cL_law 754 = .ok (.aload_n 1, 1) := dk_43 (dk_at dksL_law_25 8 rfl rfl)
theorem dL_law_755 : decode cL_law 755 = .ok (.aload_n 0, 1) := dk_42 (dk_at dksL_law_25 9 rfl rfl)
theorem dL_law_756 : decode cL_law 756 = .ok (.iload 4, 2) := dk_21 4 (dk_at dksL_law_25 10 rfl rfl)
theorem dL_law_758 : decode cL_law 758 = .ok (.iconst 1, 1) := dk_4 (dk_at dksL_law_25 12 rfl rfl)
theorem dL_law_759 : decode cL_law 759 = .ok (.iadd, 1) := dk_96 (dk_at dksL_law_25 13 rfl rfl)
theorem dL_law_760 : decode cL_law 760 = .ok (.iaload, 1) := dk_46 (dk_at dksL_law_25 14 rfl rfl)
theorem dL_law_761 : decode cL_law 761 = .ok (.invokevirtual 98, 3) := dk_182 0 98 (dk_at dksL_law_25 15 rfl rfl)
theorem dL_law_764 : decode cL_law 764 = .ok (.aload_n 2, 1) := dk_44 (dk_at dksL_law_25 18 rfl rfl)
theorem dL_law_765 : decode cL_law 765 = .ok (.aload_n 0, 1) := dk_42 (dk_at dksL_law_25 19 rfl rfl)
theorem dL_law_766 : decode cL_law 766 = .ok (.iload 4, 2) := dk_21 4 (dk_at dksL_law_25 20 rfl rfl)
theorem dL_law_768 : decode cL_law 768 = .ok (.iconst 1, 1) := dk_4 (dk_at dksL_law_25 22 rfl rfl)
theorem dL_law_769 : decode cL_law 769 = .ok (.iadd, 1) := dk_96 (dk_at dksL_law_25 23 rfl rfl)
theorem dL_law_770 : decode cL_law 770 = .ok (.iaload, 1) := dk_46 (dk_at dksL_law_26 0 rfl rfl)
theorem dL_law_771 : decode cL_law 771 = .ok (.invokevirtual 101, 3) := dk_182 0 101 (dk_at dksL_law_26 1 rfl rfl)
theorem dL_law_774 : decode cL_law 774 = .ok (.if_icmp .eq 731, 3) := dk_159 2 219 (dk_at dksL_law_26 4 rfl rfl)
theorem dL_law_777 : decode cL_law 777 = .ok (.iconst 0, 1) := dk_3 (dk_at dksL_law_26 7 rfl rfl)
theorem dL_law_778 : decode cL_law 778 = .ok (.ireturn, 1) := dk_172 (dk_at dksL_law_26 8 rfl rfl)
theorem dL_law_779 : decode cL_law 779 = .ok (.aload_n 1, 1) := dk_43 (dk_at dksL_law_26 9 rfl rfl)
theorem dL_law_780 : decode cL_law 780 = .ok (.invokevirtual 102, 3) := dk_182 0 102 (dk_at dksL_law_26 10 rfl rfl)
theorem dL_law_783 : decode cL_law 783 = .ok (.aload_n 2, 1) := dk_44 (dk_at dksL_law_26 13 rfl rfl)
theorem dL_law_784 : decode cL_law 784 = .ok (.invokevirtual 106, 3) := dk_182 0 106 (dk_at dksL_law_26 14 rfl rfl)
theorem dL_law_787 : decode cL_law 787 = .ok (.if_icmp .eq 718, 3) := dk_159 2 206 (dk_at dksL_law_26 17 rfl rfl)
theorem dL_law_790 : decode cL_law 790 = .ok (.iconst 0, 1) := dk_3 (dk_at dksL_law_26 20 rfl rfl)
theorem dL_law_791 : decode cL_law 791 = .ok (.ireturn, 1) := dk_172 (dk_at dksL_law_26 21 rfl rfl)
theorem dL_law_792 : decode cL_law 792 = .ok (.aload_n 1, 1) := dk_43 (dk_at dksL_law_26 22 rfl rfl)
theorem dL_law_793 : decode cL_law 793 = .ok (.aload_n 0, 1) := dk_42 (dk_at dksL_law_26 23 rfl rfl)
theorem dL_law_794 : decode cL_law 794 = .ok (.iload 4, 2) := dk_21 4 (dk_at dksL_law_27 0 rfl rfl)
theorem dL_law_796 : decode cL_law 796 = .ok (.iconst 1, 1) := dk_4 (dk_at dksL_law_27 2 rfl rfl)
theorem dL_law_797 : decode cL_law 797 = .ok (.iadd, 1) := dk_96 (dk_at dksL_law_27 3 rfl rfl)
theorem dL_law_798 : decode cL_law 798 = .ok (.iaload, 1) := dk_46 (dk_at dksL_law_27 4 rfl rfl)
theorem dL_law_799 : decode cL_law 799 = .ok (.aload_n 0, 1) := dk_42 (dk_at dksL_law_27 5 rfl rfl)
theorem dL_law_800 : decode cL_law 800 = .ok (.iload 4, 2) := dk_21 4 (dk_at dksL_law_27 6 rfl rfl)
theorem dL_law_802 : decode cL_law 802 = .ok (.iconst 2, 1) := dk_5 (dk_at dksL_law_27 8 rfl rfl)
theorem dL_law_803 : decode cL_law 803 = .ok (.iadd, 1) := dk_96 (dk_at dksL_law_27 9 rfl rfl)
theorem dL_law_804 : decode cL_law 804 = .ok (.iaload, 1) := dk_46 (dk_at dksL_law_27 10 rfl rfl)
theorem dL_law_805 : decode cL_law 805 = .ok (.invokevirtual 107, 3) := dk_182 0 107 (dk_at dksL_law_27 11 rfl rfl)
theorem dL_law_808 : decode cL_law 808 = .ok (.aload_n 2, 1) := dk_44 (dk_at dksL_law_27 14 rfl rfl)
theorem dL_law_809 : decode cL_law 809 = .ok (.aload_n 0, 1) := dk_42 (dk_at dksL_law_27 15 rfl rfl)
theorem dL_law_810 : decode cL_law 810 = .ok (.iload 4, 2) := dk_21 4 (dk_at dksL_law_27 16 rfl rfl)
theorem dL_law_812 : decode cL_law 812 = .ok (.iconst 1, 1) := dk_4 (dk_at dksL_law_27 18 rfl rfl)
theorem dL_law_813 : decode cL_law 813 = .ok (.iadd, 1) := dk_96 (dk_at dksL_law_27 19 rfl rfl)
theorem dL_law_814 : decode cL_law 814 = .ok (.iaload, 1) := dk_46 (dk_at dksL_law_27 20 rfl rfl)
theorem dL_law_815 : decode cL_law 815 = .ok (.aload_n 0, 1) := dk_42 (dk_at dksL_law_27 21 rfl rfl)
theorem dL_law_816 : decode cL_law 816 = .ok (.iload 4, 2) := dk_21 4 (dk_at dksL_law_27 22 rfl rfl)
theorem dL_law_818 : decode cL_law 818 = .ok (.iconst 2, 1) := dk_5 (dk_at dksL_law_28 0 rfl rfl)
theorem dL_law_819 : decode cL_law 819 = .ok (.iadd, 1) := dk_96 (dk_at dksL_law_28 1 rfl rfl)
theorem dL_law_820 : decode cL_law 820 = .ok (.iaload, 1) := dk_46 (dk_at dksL_law_28 2 rfl rfl)
theorem dL_law_821 : decode cL_law 821 = .ok (.invokevirtual 110, 3) := dk_182 0 110 (dk_at dksL_law_28 3 rfl rfl)
theorem dL_law_824 : decode cL_law 824 = .ok (.if_icmp .eq 681, 3) := dk_159 2 169 (dk_at dksL_law_28 6 rfl rfl)
theorem dL_law_827 : decode cL_law 827 = .ok (.iconst 0, 1) := dk_3 (dk_at dksL_law_28 9 rfl rfl)
theorem dL_law_828 : decode cL_law 828 = .ok (.ireturn, 1) := dk_172 (dk_at dksL_law_28 10 rfl rfl)
theorem dL_law_829 : decode cL_law 829 = .ok (.aload_n 1, 1) := dk_43 (dk_at dksL_law_28 11 rfl rfl)
theorem dL_law_830 : decode cL_law 830 = .ok (.aload_n 0, 1) := dk_42 (dk_at dksL_law_28 12 rfl rfl)
theorem dL_law_831 : decode cL_law 831 = .ok (.iload 4, 2) := dk_21 4 (dk_at dksL_law_28 13 rfl rfl)
theorem dL_law_833 : decode cL_law 833 = .ok (.iconst 1, 1) := dk_4 (dk_at dksL_law_28 15 rfl rfl)
theorem dL_law_834 : decode cL_law 834 = .ok (.iadd, 1) := dk_96 (dk_at dksL_law_28 16 rfl rfl)
theorem dL_law_835 : decode cL_law 835 = .ok (.iaload, 1) := dk_46 (dk_at dksL_law_28 17 rfl rfl)
theorem dL_law_836 : decode cL_law 836 = .ok (.aload_n 0, 1) := dk_42 (dk_at dksL_law_28 18 rfl rfl)
theorem dL_law_837 : decode cL_law 837 = .ok (.iload 4, 2) := dk_21 4 (dk_at dksL_law_28 19 rfl rfl)
theorem dL_law_839 : decode cL_law 839 = .ok (.iconst 2, 1) := dk_5 (dk_at dksL_law_28 21 rfl rfl)
theorem dL_law_840 : decode cL_law 840 = .ok (.iadd, 1) := dk_96 (dk_at dksL_law_28 22 rfl rfl)
theorem dL_law_841 : decode cL_law 841 = .ok (.iaload, 1) := dk_46 (dk_at dksL_law_28 23 rfl rfl)
theorem dL_law_842 : decode cL_law 842 = .ok (.invokevirtual 111, 3) := dk_182 0 111 (dk_at dksL_law_29 0 rfl rfl)
theorem dL_law_845 : decode cL_law 845 = .ok (.aload_n 2, 1) := dk_44 (dk_at dksL_law_29 3 rfl rfl)
theorem dL_law_846 : decode cL_law 846 = .ok (.aload_n 0, 1) := dk_42 (dk_at dksL_law_29 4 rfl rfl)
theorem dL_law_847 : decode cL_law 847 = .ok (.iload 4, 2) := dk_21 4 (dk_at dksL_law_29 5 rfl rfl)
theorem dL_law_849 : decode cL_law 849 = .ok (.iconst 1, 1) := dk_4 (dk_at dksL_law_29 7 rfl rfl)
theorem dL_law_850 : decode cL_law 850 = .ok (.iadd, 1) := dk_96 (dk_at dksL_law_29 8 rfl rfl)
theorem dL_law_851 : decode cL_law 851 = .ok (.iaload, 1) := dk_46 (dk_at dksL_law_29 9 rfl rfl)
theorem dL_law_852 : decode cL_law 852 = .ok (.aload_n 0, 1) := dk_42 (dk_at dksL_law_29 10 rfl rfl)
theorem dL_law_853 : decode cL_law 853 = .ok (.iload 4, 2) := dk_21 4 (dk_at dksL_law_29 11 rfl rfl)
theorem dL_law_855 : decode cL_law 855 = .ok (.iconst 2, 1) := dk_5 (dk_at dksL_law_29 13 rfl rfl)
theorem dL_law_856 : decode cL_law 856 = .ok (.iadd, 1) := dk_96 (dk_at dksL_law_29 14 rfl rfl)
theorem dL_law_857 : decode cL_law 857 = .ok (.iaload, 1) := dk_46 (dk_at dksL_law_29 15 rfl rfl)
theorem dL_law_858 : decode cL_law 858 = .ok (.invokevirtual 114, 3) := dk_182 0 114 (dk_at dksL_law_29 16 rfl rfl)
theorem dL_law_861 : decode cL_law 861 = .ok (.if_icmp .eq 644, 3) := dk_159 2 132 (dk_at dksL_law_29 19 rfl rfl)
theorem dL_law_864 : decode cL_law 864 = .ok (.iconst 0, 1) := dk_3 (dk_at dksL_law_29 22 rfl rfl)
theorem dL_law_865 : decode cL_law 865 = .ok (.ireturn, 1) := dk_172 (dk_at dksL_law_29 23 rfl rfl)
theorem dL_law_866 : decode cL_law 866 = .ok (.aload_n 1, 1) := dk_43 (dk_at dksL_law_30 0 rfl rfl)
theorem dL_law_867 : decode cL_law 867 = .ok (.aload_n 0, 1) := dk_42 (dk_at dksL_law_30 1 rfl rfl)
theorem dL_law_868 : decode cL_law 868 = .ok (.iload 4, 2) := dk_21 4 (dk_at dksL_law_30 2 rfl rfl)
theorem dL_law_870 : decode cL_law 870 = .ok (.iconst 1, 1) := dk_4 (dk_at dksL_law_30 4 rfl rfl)
theorem dL_law_871 : decode cL_law 871 = .ok (.iadd, 1) := dk_96 (dk_at dksL_law_30 5 rfl rfl)
theorem dL_law_872 : decode cL_law 872 = .ok (.iaload, 1) := dk_46 (dk_at dksL_law_30 6 rfl rfl)
theorem dL_law_873 : decode cL_law 873 = .ok (.aload_n 0, 1) := dk_42 (dk_at dksL_law_30 7 rfl rfl)
theorem dL_law_874 : decode cL_law 874 = .ok (.iload 4, 2) := dk_21 4 (dk_at dksL_law_30 8 rfl rfl)
theorem dL_law_876 : decode cL_law 876 = .ok (.iconst 2, 1) := dk_5 (dk_at dksL_law_30 10 rfl rfl)
theorem dL_law_877 : decode cL_law 877 = .ok (.iadd, 1) := dk_96 (dk_at dksL_law_30 11 rfl rfl)
theorem dL_law_878 : decode cL_law 878 = .ok (.iaload, 1) := dk_46 (dk_at dksL_law_30 12 rfl rfl)
theorem dL_law_879 : decode cL_law 879 = .ok (.invokevirtual 115, 3) := dk_182 0 115 (dk_at dksL_law_30 13 rfl rfl)
theorem dL_law_882 : decode cL_law 882 = .ok (.aload_n 2, 1) := dk_44 (dk_at dksL_law_30 16 rfl rfl)
theorem dL_law_883 : decode cL_law 883 = .ok (.aload_n 0, 1) := dk_42 (dk_at dksL_law_30 17 rfl rfl)
theorem dL_law_884 : decode cL_law 884 = .ok (.iload 4, 2) := dk_21 4 (dk_at dksL_law_30 18 rfl rfl)
theorem dL_law_886 : decode cL_law 886 = .ok (.iconst 1, 1) := dk_4 (dk_at dksL_law_30 20 rfl rfl)
theorem dL_law_887 : decode cL_law 887 = .ok (.iadd, 1) := dk_96 (dk_at dksL_law_30 21 rfl rfl)
theorem dL_law_888 : decode cL_law 888 = .ok (.iaload, 1) := dk_46 (dk_at dksL_law_30 22 rfl rfl)
theorem dL_law_889 : decode cL_law 889 = .ok (.aload_n 0, 1) := dk_42 (dk_at dksL_law_30 23 rfl rfl)
theorem dL_law_890 : decode cL_law 890 = .ok (.iload 4, 2) := dk_21 4 (dk_at dksL_law_31 0 rfl rfl)
theorem dL_law_892 : decode cL_law 892 = .ok (.iconst 2, 1) := dk_5 (dk_at dksL_law_31 2 rfl rfl)
theorem dL_law_893 : decode cL_law 893 = .ok (.iadd, 1) := dk_96 (dk_at dksL_law_31 3 rfl rfl)
theorem dL_law_894 : decode cL_law 894 = .ok (.iaload, 1) := dk_46 (dk_at dksL_law_31 4 rfl rfl)
theorem dL_law_895 : decode cL_law 895 = .ok (.invokevirtual 118, 3) := dk_182 0 118 (dk_at dksL_law_31 5 rfl rfl)
theorem dL_law_898 : decode cL_law 898 = .ok (.if_icmp .eq 607, 3) := dk_159 2 95 (dk_at dksL_law_31 8 rfl rfl)
theorem dL_law_901 : decode cL_law 901 = .ok (.iconst 0, 1) := dk_3 (dk_at dksL_law_31 11 rfl rfl)
theorem dL_law_902 : decode cL_law 902 = .ok (.ireturn, 1) := dk_172 (dk_at dksL_law_31 12 rfl rfl)
theorem dL_law_903 : decode cL_law 903 = .ok (.aload_n 1, 1) := dk_43 (dk_at dksL_law_31 13 rfl rfl)
theorem dL_law_904 : decode cL_law 904 = .ok (.aload_n 0, 1) := dk_42 (dk_at dksL_law_31 14 rfl rfl)
theorem dL_law_905 : decode cL_law 905 = .ok (.iload 4, 2) := dk_21 4 (dk_at dksL_law_31 15 rfl rfl)
theorem dL_law_907 : decode cL_law 907 = .ok (.iconst 1, 1) := dk_4 (dk_at dksL_law_31 17 rfl rfl)
theorem dL_law_908 : decode cL_law 908 = .ok (.iadd, 1) := dk_96 (dk_at dksL_law_31 18 rfl rfl)
theorem dL_law_909 : decode cL_law 909 = .ok (.iaload, 1) := dk_46 (dk_at dksL_law_31 19 rfl rfl)
theorem dL_law_910 : decode cL_law 910 = .ok (.aload_n 0, 1) := dk_42 (dk_at dksL_law_31 20 rfl rfl)
theorem dL_law_911 : decode cL_law 911 = .ok (.iload 4, 2) := dk_21 4 (dk_at dksL_law_31 21 rfl rfl)
theorem dL_law_913 : decode cL_law 913 = .ok (.iconst 2, 1) := dk_5 (dk_at dksL_law_31 23 rfl rfl)
theorem dL_law_914 : decode cL_law 914 = .ok (.iadd, 1) := dk_96 (dk_at dksL_law_32 0 rfl rfl)
theorem dL_law_915 : decode cL_law 915 = .ok (.iaload, 1) := dk_46 (dk_at dksL_law_32 1 rfl rfl)
theorem dL_law_916 : decode cL_law 916 = .ok (.invokevirtual 119, 3) := dk_182 0 119 (dk_at dksL_law_32 2 rfl rfl)
theorem dL_law_919 : decode cL_law 919 = .ok (.aload_n 2, 1) := dk_44 (dk_at dksL_law_32 5 rfl rfl)
theorem dL_law_920 : decode cL_law 920 = .ok (.aload_n 0, 1) := dk_42 (dk_at dksL_law_32 6 rfl rfl)
theorem dL_law_921 : decode cL_law 921 = .ok (.iload 4, 2) := dk_21 4 (dk_at dksL_law_32 7 rfl rfl)
theorem dL_law_923 : decode cL_law 923 = .ok (.iconst 1, 1) := dk_4 (dk_at dksL_law_32 9 rfl rfl)
theorem dL_law_924 : decode cL_law 924 = .ok (.iadd, 1) := dk_96 (dk_at dksL_law_32 10 rfl rfl)
theorem dL_law_925 : decode cL_law 925 = .ok (.iaload, 1) := dk_46 (dk_at dksL_law_32 11 rfl rfl)
theorem dL_law_926 : decode cL_law 926 = .ok (.aload_n 0, 1) := dk_42 (dk_at dksL_law_32 12 rfl rfl)
theorem dL_law_927 : decode cL_law 927 = .ok (.iload 4, 2) := dk_21 4 (dk_at dksL_law_32 13 rfl rfl)
theorem dL_law_929 : decode cL_law 929 = .ok (.iconst 2, 1) := dk_5 (dk_at dksL_law_32 15 rfl rfl)
theorem dL_law_930 : decode cL_law 930 = .ok (.iadd, 1) := dk_96 (dk_at dksL_law_32 16 rfl rfl)
theorem dL_law_931 : decode cL_law 931 = .ok (.iaload, 1) := dk_46 (dk_at dksL_law_32 17 rfl rfl)
theorem dL_law_932 : decode cL_law 932 = .ok (.invokevirtual 122, 3) := dk_182 0 122 (dk_at dksL_law_32 18 rfl rfl)
theorem dL_law_935 : decode cL_law 935 = .ok (.if_icmp .eq 570, 3) := dk_159 2 58 (dk_at dksL_law_32 21 rfl rfl)
theorem dL_law_938 : decode cL_law 938 = .ok (.iconst 0, 1) := dk_3 (dk_at dksL_law_33 0 rfl rfl)
theorem dL_law_939 : decode cL_law 939 = .ok (.ireturn, 1) := dk_172 (dk_at dksL_law_33 1 rfl rfl)
theorem dL_law_940 : decode cL_law 940 = .ok (.aload_n 1, 1) := dk_43 (dk_at dksL_law_33 2 rfl rfl)
theorem dL_law_941 : decode cL_law 941 = .ok (.aload_n 0, 1) := dk_42 (dk_at dksL_law_33 3 rfl rfl)
theorem dL_law_942 : decode cL_law 942 = .ok (.iload 4, 2) := dk_21 4 (dk_at dksL_law_33 4 rfl rfl)
theorem dL_law_944 : decode cL_law 944 = .ok (.iconst 1, 1) := dk_4 (dk_at dksL_law_33 6 rfl rfl)
theorem dL_law_945 : decode cL_law 945 = .ok (.iadd, 1) := dk_96 (dk_at dksL_law_33 7 rfl rfl)
theorem dL_law_946 : decode cL_law 946 = .ok (.iaload, 1) := dk_46 (dk_at dksL_law_33 8 rfl rfl)
theorem dL_law_947 : decode cL_law 947 = .ok (.aload_n 0, 1) := dk_42 (dk_at dksL_law_33 9 rfl rfl)
theorem dL_law_948 : decode cL_law 948 = .ok (.iload 4, 2) := dk_21 4 (dk_at dksL_law_33 10 rfl rfl)
theorem dL_law_950 : decode cL_law 950 = .ok (.iconst 2, 1) := dk_5 (dk_at dksL_law_33 12 rfl rfl)
theorem dL_law_951 : decode cL_law 951 = .ok (.iadd, 1) := dk_96 (dk_at dksL_law_33 13 rfl rfl)
theorem dL_law_952 : decode cL_law 952 = .ok (.iaload, 1) := dk_46 (dk_at dksL_law_33 14 rfl rfl)
theorem dL_law_953 : decode cL_law 953 = .ok (.invokevirtual 123, 3) := dk_182 0 123 (dk_at dksL_law_33 15 rfl rfl)
theorem dL_law_956 : decode cL_law 956 = .ok (.aload_n 2, 1) := dk_44 (dk_at dksL_law_33 18 rfl rfl)
theorem dL_law_957 : decode cL_law 957 = .ok (.aload_n 0, 1) := dk_42 (dk_at dksL_law_33 19 rfl rfl)
theorem dL_law_958 : decode cL_law 958 = .ok (.iload 4, 2) := dk_21 4 (dk_at dksL_law_33 20 rfl rfl)
theorem dL_law_960 : decode cL_law 960 = .ok (.iconst 1, 1) := dk_4 (dk_at dksL_law_33 22 rfl rfl)
theorem dL_law_961 : decode cL_law 961 = .ok (.iadd, 1) := dk_96 (dk_at dksL_law_33 23 rfl rfl)
theorem dL_law_962 : decode cL_law 962 = .ok (.iaload, 1) := dk_46 (dk_at dksL_law_34 0 rfl rfl)
theorem dL_law_963 : decode cL_law 963 = .ok (.aload_n 0, 1) := dk_42 (dk_at dksL_law_34 1 rfl rfl)
theorem dL_law_964 : decode cL_law 964 = .ok (.iload 4, 2) := dk_21 4 (dk_at dksL_law_34 2 rfl rfl)
theorem dL_law_966 : decode cL_law 966 = .ok (.iconst 2, 1) := dk_5 (dk_at dksL_law_34 4 rfl rfl)
theorem dL_law_967 : decode cL_law 967 = .ok (.iadd, 1) := dk_96 (dk_at dksL_law_34 5 rfl rfl)
theorem dL_law_968 : decode cL_law 968 = .ok (.iaload, 1) := dk_46 (dk_at dksL_law_34 6 rfl rfl)
theorem dL_law_969 : decode cL_law 969 = .ok (.invokevirtual 126, 3) := dk_182 0 126 (dk_at dksL_law_34 7 rfl rfl)
theorem dL_law_972 : decode cL_law 972 = .ok (.if_icmp .eq 533, 3) := dk_159 2 21 (dk_at dksL_law_34 10 rfl rfl)
theorem dL_law_975 : decode cL_law 975 = .ok (.iconst 0, 1) := dk_3 (dk_at dksL_law_34 13 rfl rfl)
theorem dL_law_976 : decode cL_law 976 = .ok (.ireturn, 1) := dk_172 (dk_at dksL_law_34 14 rfl rfl)
theorem dL_law_977 : decode cL_law 977 = .ok (.aload_n 1, 1) := dk_43 (dk_at dksL_law_34 15 rfl rfl)
theorem dL_law_978 : decode cL_law 978 = .ok (.aload_n 0, 1) := dk_42 (dk_at dksL_law_34 16 rfl rfl)
theorem dL_law_979 : decode cL_law 979 = .ok (.iload 4, 2) := dk_21 4 (dk_at dksL_law_34 17 rfl rfl)
theorem dL_law_981 : decode cL_law 981 = .ok (.iconst 1, 1) := dk_4 (dk_at dksL_law_34 19 rfl rfl)
theorem dL_law_982 : decode cL_law 982 = .ok (.iadd, 1) := dk_96 (dk_at dksL_law_34 20 rfl rfl)
theorem dL_law_983 : decode cL_law 983 = .ok (.iaload, 1) := dk_46 (dk_at dksL_law_34 21 rfl rfl)
theorem dL_law_984 : decode cL_law 984 = .ok (.aload_n 0, 1) := dk_42 (dk_at dksL_law_34 22 rfl rfl)
theorem dL_law_985 : decode cL_law 985 = .ok (.iload 4, 2) := dk_21 4 (dk_at dksL_law_35 0 rfl rfl)
theorem dL_law_987 : decode cL_law 987 = .ok (.iconst 2, 1) := dk_5 (dk_at dksL_law_35 2 rfl rfl)
theorem dL_law_988 : decode cL_law 988 = .ok (.iadd, 1) := dk_96 (dk_at dksL_law_35 3 rfl rfl)
theorem dL_law_989 : decode cL_law 989 = .ok (.iaload, 1) := dk_46 (dk_at dksL_law_35 4 rfl rfl)
theorem dL_law_990 : decode cL_law 990 = .ok (.invokevirtual 127, 3) := dk_182 0 127 (dk_at dksL_law_35 5 rfl rfl)
theorem dL_law_993 : decode cL_law 993 = .ok (.aload_n 2, 1) := dk_44 (dk_at dksL_law_35 8 rfl rfl)
theorem dL_law_994 : decode cL_law 994 = .ok (.aload_n 0, 1) := dk_42 (dk_at dksL_law_35 9 rfl rfl)
theorem dL_law_995 : decode cL_law 995 = .ok (.iload 4, 2) := dk_21 4 (dk_at dksL_law_35 10 rfl rfl)
theorem dL_law_997 : decode cL_law 997 = .ok (.iconst 1, 1) := dk_4 (dk_at dksL_law_35 12 rfl rfl)
theorem dL_law_998 : decode cL_law 998 = .ok (.iadd, 1) := dk_96 (dk_at dksL_law_35 13 rfl rfl)
theorem dL_law_999 : decode cL_law 999 = .ok (.iaload, 1) := dk_46 (dk_at dksL_law_35 14 rfl rfl)
theorem dL_law_1000 : decode cL_law 1000 = .ok (.aload_n 0, 1) := dk_42 (dk_at dksL_law_35 15 rfl rfl)
theorem dL_law_1001 : decode cL_law 1001 = .ok (.iload 4, 2) := dk_21 4 (dk_at dksL_law_35 16 rfl rfl)
theorem dL_law_1003 : decode cL_law 1003 = .ok (.iconst 2, 1) := dk_5 (dk_at dksL_law_35 18 rfl rfl)
theorem dL_law_1004 : decode cL_law 1004 = .ok (.iadd, 1) := dk_96 (dk_at dksL_law_35 19 rfl rfl)
theorem dL_law_1005 : decode cL_law 1005 = .ok (.iaload, 1) := dk_46 (dk_at dksL_law_35 20 rfl rfl)
theorem dL_law_1006 : decode cL_law 1006 = .ok (.invokevirtual 130, 3) := dk_182 0 130 (dk_at dksL_law_35 21 rfl rfl)
theorem dL_law_1009 : decode cL_law 1009 = .ok (.if_icmp .eq 496, 3) := dk_159 1 240 (dk_at dksL_law_36 0 rfl rfl)
theorem dL_law_1012 : decode cL_law 1012 = .ok (.iconst 0, 1) := dk_3 (dk_at dksL_law_36 3 rfl rfl)
theorem dL_law_1013 : decode cL_law 1013 = .ok (.ireturn, 1) := dk_172 (dk_at dksL_law_36 4 rfl rfl)
theorem dL_law_1014 : decode cL_law 1014 = .ok (.aload_n 1, 1) := dk_43 (dk_at dksL_law_36 5 rfl rfl)
theorem dL_law_1015 : decode cL_law 1015 = .ok (.aload_n 0, 1) := dk_42 (dk_at dksL_law_36 6 rfl rfl)
theorem dL_law_1016 : decode cL_law 1016 = .ok (.iload 4, 2) := dk_21 4 (dk_at dksL_law_36 7 rfl rfl)
theorem dL_law_1018 : decode cL_law 1018 = .ok (.iconst 1, 1) := dk_4 (dk_at dksL_law_36 9 rfl rfl)
theorem dL_law_1019 : decode cL_law 1019 = .ok (.iadd, 1) := dk_96 (dk_at dksL_law_36 10 rfl rfl)
theorem dL_law_1020 : decode cL_law 1020 = .ok (.iaload, 1) := dk_46 (dk_at dksL_law_36 11 rfl rfl)
theorem dL_law_1021 : decode cL_law 1021 = .ok (.invokevirtual 131, 3) := dk_182 0 131 (dk_at dksL_law_36 12 rfl rfl)
theorem dL_law_1024 : decode cL_law 1024 = .ok (.aload_n 2, 1) := dk_44 (dk_at dksL_law_36 15 rfl rfl)
theorem dL_law_1025 : decode cL_law 1025 = .ok (.aload_n 0, 1) := dk_42 (dk_at dksL_law_36 16 rfl rfl)
theorem dL_law_1026 : decode cL_law 1026 = .ok (.iload 4, 2) := dk_21 4 (dk_at dksL_law_36 17 rfl rfl)
theorem dL_law_1028 : decode cL_law 1028 = .ok (.iconst 1, 1) := dk_4 (dk_at dksL_law_36 19 rfl rfl)
theorem dL_law_1029 : decode cL_law 1029 = .ok (.iadd, 1) := dk_96 (dk_at dksL_law_36 20 rfl rfl)
theorem dL_law_1030 : decode cL_law 1030 = .ok (.iaload, 1) := dk_46 (dk_at dksL_law_36 21 rfl rfl)
theorem dL_law_1031 : decode cL_law 1031 = .ok (.invokevirtual 134, 3) := dk_182 0 134 (dk_at dksL_law_37 0 rfl rfl)
theorem dL_law_1034 : decode cL_law 1034 = .ok (.if_icmp .eq 471, 3) := dk_159 1 215 (dk_at dksL_law_37 3 rfl rfl)
theorem dL_law_1037 : decode cL_law 1037 = .ok (.iconst 0, 1) := dk_3 (dk_at dksL_law_37 6 rfl rfl)
theorem dL_law_1038 : decode cL_law 1038 = .ok (.ireturn, 1) := dk_172 (dk_at dksL_law_37 7 rfl rfl)
theorem dL_law_1039 : decode cL_law 1039 = .ok (.aload_n 1, 1) := dk_43 (dk_at dksL_law_37 8 rfl rfl)
theorem dL_law_1040 : decode cL_law 1040 = .ok (.aload_n 0, 1) := dk_42 (dk_at dksL_law_37 9 rfl rfl)
theorem dL_law_1041 : decode cL_law 1041 = .ok (.iload 4, 2) := dk_21 4 (dk_at dksL_law_37 10 rfl rfl)
theorem dL_law_1043 : decode cL_law 1043 = .ok (.iconst 1, 1) := dk_4 (dk_at dksL_law_37 12 rfl rfl)
theorem dL_law_1044 : decode cL_law 1044 = .ok (.iadd, 1) := dk_96 (dk_at dksL_law_37 13 rfl rfl)
theorem dL_law_1045 : decode cL_law 1045 = .ok (.iaload, 1) := dk_46 (dk_at dksL_law_37 14 rfl rfl)
theorem dL_law_1046 : decode cL_law 1046 = .ok (.invokevirtual 135, 3) := dk_182 0 135 (dk_at dksL_law_37 15 rfl rfl)
theorem dL_law_1049 : decode cL_law 1049 = .ok (.aload_n 2, 1) := dk_44 (dk_at dksL_law_37 18 rfl rfl)
theorem dL_law_1050 : decode cL_law 1050 = .ok (.aload_n 0, 1) := dk_42 (dk_at dksL_law_37 19 rfl rfl)
theorem dL_law_1051 : decode cL_law 1051 = .ok (.iload 4, 2) := dk_21 4 (dk_at dksL_law_37 20 rfl rfl)
theorem dL_law_1053 : decode cL_law 1053 = .ok (.iconst 1, 1) := dk_4 (dk_at dksL_law_37 22 rfl rfl)
theorem dL_law_1054 : decode cL_law 1054 = .ok (.iadd, 1) := dk_96 (dk_at dksL_law_37 23 rfl rfl)
theorem dL_law_1055 : decode cL_law 1055 = .ok (.iaload, 1) := dk_46 (dk_at dksL_law_38 0 rfl rfl)
theorem dL_law_1056 : decode cL_law 1056 = .ok (.invokevirtual 138, 3) := dk_182 0 138 (dk_at dksL_law_38 1 rfl rfl)
theorem dL_law_1059 : decode cL_law 1059 = .ok (.if_icmp .eq 446, 3) := dk_159 1 190 (dk_at dksL_law_38 4 rfl rfl)
theorem dL_law_1062 : decode cL_law 1062 = .ok (.iconst 0, 1) := dk_3 (dk_at dksL_law_38 7 rfl rfl)
theorem dL_law_1063 : decode cL_law 1063 = .ok (.ireturn, 1) := dk_172 (dk_at dksL_law_38 8 rfl rfl)
theorem dL_law_1064 : decode cL_law 1064 = .ok (.aload_n 1, 1) := dk_43 (dk_at dksL_law_38 9 rfl rfl)
theorem dL_law_1065 : decode cL_law 1065 = .ok (.aload_n 0, 1) := dk_42 (dk_at dksL_law_38 10 rfl rfl)
theorem dL_law_1066 : decode cL_law 1066 = .ok (.iload 4, 2) := dk_21 4 (dk_at dksL_law_38 11 rfl rfl)
theorem dL_law_1068 : decode cL_law 1068 = .ok (.iconst 1, 1) := dk_4 (dk_at dksL_law_38 13 rfl rfl)
theorem dL_law_1069 : decode cL_law 1069 = .ok (.iadd, 1) := dk_96 (dk_at dksL_law_38 14 rfl rfl)
theorem dL_law_1070 : decode cL_law 1070 = .ok (.iaload, 1) := dk_46 (dk_at dksL_law_38 15 rfl rfl)
theorem dL_law_1071 : decode cL_law 1071 = .ok (.invokevirtual 139, 3) := dk_182 0 139 (dk_at dksL_law_38 16 rfl rfl)
theorem dL_law_1074 : decode cL_law 1074 = .ok (.aload_n 2, 1) := dk_44 (dk_at dksL_law_38 19 rfl rfl)
theorem dL_law_1075 : decode cL_law 1075 = .ok (.aload_n 0, 1) := dk_42 (dk_at dksL_law_38 20 rfl rfl)
theorem dL_law_1076 : decode cL_law 1076 = .ok (.iload 4, 2) := dk_21 4 (dk_at dksL_law_38 21 rfl rfl)
theorem dL_law_1078 : decode cL_law 1078 = .ok (.iconst 1, 1) := dk_4 (dk_at dksL_law_38 23 rfl rfl)
theorem dL_law_1079 : decode cL_law 1079 = .ok (.iadd, 1) := dk_96 (dk_at dksL_law_39 0 rfl rfl)
theorem dL_law_1080 : decode cL_law 1080 = .ok (.iaload, 1) := dk_46 (dk_at dksL_law_39 1 rfl rfl)
theorem dL_law_1081 : decode cL_law 1081 = .ok (.invokevirtual 142, 3) := dk_182 0 142 (dk_at dksL_law_39 2 rfl rfl)
theorem dL_law_1084 : decode cL_law 1084 = .ok (.if_icmp .eq 421, 3) := dk_159 1 165 (dk_at dksL_law_39 5 rfl rfl)
theorem dL_law_1087 : decode cL_law 1087 = .ok (.iconst 0, 1) := dk_3 (dk_at dksL_law_39 8 rfl rfl)
theorem dL_law_1088 : decode cL_law 1088 = .ok (.ireturn, 1) := dk_172 (dk_at dksL_law_39 9 rfl rfl)
theorem dL_law_1089 : decode cL_law 1089 = .ok (.aload_n 1, 1) := dk_43 (dk_at dksL_law_39 10 rfl rfl)
theorem dL_law_1090 : decode cL_law 1090 = .ok (.aload_n 0, 1) := dk_42 (dk_at dksL_law_39 11 rfl rfl)
theorem dL_law_1091 : decode cL_law 1091 = .ok (.iload 4, 2) := dk_21 4 (dk_at dksL_law_39 12 rfl rfl)
theorem dL_law_1093 : decode cL_law 1093 = .ok (.iconst 1, 1) := dk_4 (dk_at dksL_law_39 14 rfl rfl)
theorem dL_law_1094 : decode cL_law 1094 = .ok (.iadd, 1) := dk_96 (dk_at dksL_law_39 15 rfl rfl)
theorem dL_law_1095 : decode cL_law 1095 = .ok (.iaload, 1) := dk_46 (dk_at dksL_law_39 16 rfl rfl)
theorem dL_law_1096 : decode cL_law 1096 = .ok (.invokevirtual 143, 3) := dk_182 0 143 (dk_at dksL_law_39 17 rfl rfl)
theorem dL_law_1099 : decode cL_law 1099 = .ok (.aload_n 2, 1) := dk_44 (dk_at dksL_law_39 20 rfl rfl)
theorem dL_law_1100 : decode cL_law 1100 = .ok (.aload_n 0, 1) := dk_42 (dk_at dksL_law_39 21 rfl rfl)
theorem dL_law_1101 : decode cL_law 1101 = .ok (.iload 4, 2) := dk_21 4 (dk_at dksL_law_39 22 rfl rfl)
theorem dL_law_1103 : decode cL_law 1103 = .ok (.iconst 1, 1) := dk_4 (dk_at dksL_law_40 0 rfl rfl)
theorem dL_law_1104 : decode cL_law 1104 = .ok (.iadd, 1) := dk_96 (dk_at dksL_law_40 1 rfl rfl)
theorem dL_law_1105 : decode cL_law 1105 = .ok (.iaload, 1) := dk_46 (dk_at dksL_law_40 2 rfl rfl)
theorem dL_law_1106 : decode cL_law 1106 = .ok (.invokevirtual 146, 3) := dk_182 0 146 (dk_at dksL_law_40 3 rfl rfl)
theorem dL_law_1109 : decode cL_law 1109 = .ok (.if_icmp .eq 396, 3) := dk_159 1 140 (dk_at dksL_law_40 6 rfl rfl)
theorem dL_law_1112 : decode cL_law 1112 = .ok (.iconst 0, 1) := dk_3 (dk_at dksL_law_40 9 rfl rfl)
theorem dL_law_1113 : decode cL_law 1113 = .ok (.ireturn, 1) := dk_172 (dk_at dksL_law_40 10 rfl rfl)
theorem dL_law_1114 : decode cL_law 1114 = .ok (.aload_n 1, 1) := dk_43 (dk_at dksL_law_40 11 rfl rfl)
theorem dL_law_1115 : decode cL_law 1115 = .ok (.aload_n 0, 1) := dk_42 (dk_at dksL_law_40 12 rfl rfl)
theorem dL_law_1116 : decode cL_law 1116 = .ok (.iload 4, 2) := dk_21 4 (dk_at dksL_law_40 13 rfl rfl)
theorem dL_law_1118 : decode cL_law 1118 = .ok (.iconst 1, 1) := dk_4 (dk_at dksL_law_40 15 rfl rfl)
theorem dL_law_1119 : decode cL_law 1119 = .ok (.iadd, 1) := dk_96 (dk_at dksL_law_40 16 rfl rfl)
theorem dL_law_1120 : decode cL_law 1120 = .ok (.iaload, 1) := dk_46 (dk_at dksL_law_40 17 rfl rfl)
theorem dL_law_1121 : decode cL_law 1121 = .ok (.invokevirtual 147, 3) := dk_182 0 147 (dk_at dksL_law_40 18 rfl rfl)
theorem dL_law_1124 : decode cL_law 1124 = .ok (.aload_n 2, 1) := dk_44 (dk_at dksL_law_40 21 rfl rfl)
theorem dL_law_1125 : decode cL_law 1125 = .ok (.aload_n 0, 1) := dk_42 (dk_at dksL_law_40 22 rfl rfl)
theorem dL_law_1126 : decode cL_law 1126 = .ok (.iload 4, 2) := dk_21 4 (dk_at dksL_law_41 0 rfl rfl)
theorem dL_law_1128 : decode cL_law 1128 = .ok (.iconst 1, 1) := dk_4 (dk_at dksL_law_41 2 rfl rfl)
theorem dL_law_1129 : decode cL_law 1129 = .ok (.iadd, 1) := dk_96 (dk_at dksL_law_41 3 rfl rfl)
theorem dL_law_1130 : decode cL_law 1130 = .ok (.iaload, 1) := dk_46 (dk_at dksL_law_41 4 rfl rfl)
theorem dL_law_1131 : decode cL_law 1131 = .ok (.invokevirtual 150, 3) := dk_182 0 150 (dk_at dksL_law_41 5 rfl rfl)
theorem dL_law_1134 : decode cL_law 1134 = .ok (.if_icmp .eq 371, 3) := dk_159 1 115 (dk_at dksL_law_41 8 rfl rfl)
theorem dL_law_1137 : decode cL_law 1137 = .ok (.iconst 0, 1) := dk_3 (dk_at dksL_law_41 11 rfl rfl)
theorem dL_law_1138 : decode cL_law 1138 = .ok (.ireturn, 1) := dk_172 (dk_at dksL_law_41 12 rfl rfl)
theorem dL_law_1139 : decode cL_law 1139 = .ok (.aload_n 1, 1) := dk_43 (dk_at dksL_law_41 13 rfl rfl)
theorem dL_law_1140 : decode cL_law 1140 = .ok (.aload_n 0, 1) := dk_42 (dk_at dksL_law_41 14 rfl rfl)
theorem dL_law_1141 : decode cL_law 1141 = .ok (.iload 4, 2) := dk_21 4 (dk_at dksL_law_41 15 rfl rfl)
theorem dL_law_1143 : decode cL_law 1143 = .ok (.iconst 1, 1) := dk_4 (dk_at dksL_law_41 17 rfl rfl)
theorem dL_law_1144 : decode cL_law 1144 = .ok (.iadd, 1) := dk_96 (dk_at dksL_law_41 18 rfl rfl)
theorem dL_law_1145 : decode cL_law 1145 = .ok (.iaload, 1) := dk_46 (dk_at dksL_law_41 19 rfl rfl)
theorem dL_law_1146 : decode cL_law 1146 = .ok (.invokevirtual 151, 3) := dk_182 0 151 (dk_at dksL_law_41 20 rfl rfl)
theorem dL_law_1149 : decode cL_law 1149 = .ok (.aload_n 2, 1) := dk_44 (dk_at dksL_law_41 23 rfl rfl)
theorem dL_law_1150 : decode cL_law 1150 = .ok (.aload_n 0, 1) := dk_42 (dk_at dksL_law_42 0 rfl rfl)
theorem dL_law_1151 : decode cL_law 1151 = .ok (.iload 4, 2) := dk_21 4 (dk_at dksL_law_42 1 rfl rfl)
theorem dL_law_1153 : decode cL_law 1153 = .ok (.iconst 1, 1) := dk_4 (dk_at dksL_law_42 3 rfl rfl)
theorem dL_law_1154 : decode cL_law 1154 = .ok (.iadd, 1) := dk_96 (dk_at dksL_law_42 4 rfl rfl)
theorem dL_law_1155 : decode cL_law 1155 = .ok (.iaload, 1) := dk_46 (dk_at dksL_law_42 5 rfl rfl)
theorem dL_law_1156 : decode cL_law 1156 = .ok (.invokevirtual 154, 3) := dk_182 0 154 (dk_at dksL_law_42 6 rfl rfl)
theorem dL_law_1159 : decode cL_law 1159 = .ok (.if_icmp .eq 346, 3) := dk_159 1 90 (dk_at dksL_law_42 9 rfl rfl)
theorem dL_law_1162 : decode cL_law 1162 = .ok (.iconst 0, 1) := dk_3 (dk_at dksL_law_42 12 rfl rfl)
theorem dL_law_1163 : decode cL_law 1163 = .ok (.ireturn, 1) := dk_172 (dk_at dksL_law_42 13 rfl rfl)
theorem dL_law_1164 : decode cL_law 1164 = .ok (.aload_n 1, 1) := dk_43 (dk_at dksL_law_42 14 rfl rfl)
theorem dL_law_1165 : decode cL_law 1165 = .ok (.aload_n 0, 1) := dk_42 (dk_at dksL_law_42 15 rfl rfl)
theorem dL_law_1166 : decode cL_law 1166 = .ok (.iload 4, 2) := dk_21 4 (dk_at dksL_law_42 16 rfl rfl)
theorem dL_law_1168 : decode cL_law 1168 = .ok (.iconst 1, 1) := dk_4 (dk_at dksL_law_42 18 rfl rfl)
theorem dL_law_1169 : decode cL_law 1169 = .ok (.iadd, 1) := dk_96 (dk_at dksL_law_42 19 rfl rfl)
theorem dL_law_1170 : decode cL_law 1170 = .ok (.iaload, 1) := dk_46 (dk_at dksL_law_42 20 rfl rfl)
theorem dL_law_1171 : decode cL_law 1171 = .ok (.aload_n 0, 1) := dk_42 (dk_at dksL_law_42 21 rfl rfl)
theorem dL_law_1172 : decode cL_law 1172 = .ok (.iload 4, 2) := dk_21 4 (dk_at dksL_law_42 22 rfl rfl)
theorem dL_law_1174 : decode cL_law 1174 = .ok (.iconst 2, 1) := dk_5 (dk_at dksL_law_43 0 rfl rfl)
theorem dL_law_1175 : decode cL_law 1175 = .ok (.iadd, 1) := dk_96 (dk_at dksL_law_43 1 rfl rfl)
theorem dL_law_1176 : decode cL_law 1176 = .ok (.iaload, 1) := dk_46 (dk_at dksL_law_43 2 rfl rfl)
theorem dL_law_1177 : decode cL_law 1177 = .ok (.invokevirtual 155, 3) := dk_182 0 155 (dk_at dksL_law_43 3 rfl rfl)
theorem dL_law_1180 : decode cL_law 1180 = .ok (.aload_n 2, 1) := dk_44 (dk_at dksL_law_43 6 rfl rfl)
theorem dL_law_1181 : decode cL_law 1181 = .ok (.aload_n 0, 1) := dk_42 (dk_at dksL_law_43 7 rfl rfl)
theorem dL_law_1182 : decode cL_law 1182 = .ok (.iload 4, 2) := dk_21 4 (dk_at dksL_law_43 8 rfl rfl)
theorem dL_law_1184 : decode cL_law 1184 = .ok (.iconst 1, 1) := dk_4 (dk_at dksL_law_43 10 rfl rfl)
theorem dL_law_1185 : decode cL_law 1185 = .ok (.iadd, 1) := dk_96 (dk_at dksL_law_43 11 rfl rfl)
theorem dL_law_1186 : decode cL_law 1186 = .ok (.iaload, 1) := dk_46 (dk_at dksL_law_43 12 rfl rfl)
theorem dL_law_1187 : decode cL_law 1187 = .ok (.aload_n 0, 1) := dk_42 (dk_at dksL_law_43 13 rfl rfl)
theorem dL_law_1188 : decode cL_law 1188 = .ok (.iload 4, 2) := dk_21 4 (dk_at dksL_law_43 14 rfl rfl)
theorem dL_law_1190 : decode cL_law 1190 = .ok (.iconst 2, 1) := dk_5 (dk_at dksL_law_43 16 rfl rfl)
theorem dL_law_1191 : decode cL_law 1191 = .ok (.iadd, 1) := dk_96 (dk_at dksL_law_43 17 rfl rfl)
theorem dL_law_1192 : decode cL_law 1192 = .ok (.iaload, 1) := dk_46 (dk_at dksL_law_43 18 rfl rfl)
theorem dL_law_1193 : decode cL_law 1193 = .ok (.invokevirtual 158, 3) := dk_182 0 158 (dk_at dksL_law_43 19 rfl rfl)
theorem dL_law_1196 : decode cL_law 1196 = .ok (.if_icmp .eq 309, 3) := dk_159 1 53 (dk_at dksL_law_44 0 rfl rfl)
theorem dL_law_1199 : decode cL_law 1199 = .ok (.iconst 0, 1) := dk_3 (dk_at dksL_law_44 3 rfl rfl)
theorem dL_law_1200 : decode cL_law 1200 = .ok (.ireturn, 1) := dk_172 (dk_at dksL_law_44 4 rfl rfl)
theorem dL_law_1201 : decode cL_law 1201 = .ok (.aload_n 1, 1) := dk_43 (dk_at dksL_law_44 5 rfl rfl)
theorem dL_law_1202 : decode cL_law 1202 = .ok (.aload_n 0, 1) := dk_42 (dk_at dksL_law_44 6 rfl rfl)
theorem dL_law_1203 : decode cL_law 1203 = .ok (.iload 4, 2) := dk_21 4 (dk_at dksL_law_44 7 rfl rfl)
theorem dL_law_1205 : decode cL_law 1205 = .ok (.iconst 1, 1) := dk_4 (dk_at dksL_law_44 9 rfl rfl)
theorem dL_law_1206 : decode cL_law 1206 = .ok (.iadd, 1) := dk_96 (dk_at dksL_law_44 10 rfl rfl)
theorem dL_law_1207 : decode cL_law 1207 = .ok (.iaload, 1) := dk_46 (dk_at dksL_law_44 11 rfl rfl)
theorem dL_law_1208 : decode cL_law 1208 = .ok (.aload_n 0, 1) := dk_42 (dk_at dksL_law_44 12 rfl rfl)
theorem dL_law_1209 : decode cL_law 1209 = .ok (.iload 4, 2) := dk_21 4 (dk_at dksL_law_44 13 rfl rfl)
theorem dL_law_1211 : decode cL_law 1211 = .ok (.iconst 2, 1) := dk_5 (dk_at dksL_law_44 15 rfl rfl)
theorem dL_law_1212 : decode cL_law 1212 = .ok (.iadd, 1) := dk_96 (dk_at dksL_law_44 16 rfl rfl)
theorem dL_law_1213 : decode cL_law 1213 = .ok (.iaload, 1) := dk_46 (dk_at dksL_law_44 17 rfl rfl)
theorem dL_law_1214 : decode cL_law 1214 = .ok (.invokevirtual 159, 3) := dk_182 0 159 (dk_at dksL_law_44 18 rfl rfl)
theorem dL_law_1217 : decode cL_law 1217 = .ok (.aload_n 2, 1) := dk_44 (dk_at dksL_law_44 21 rfl rfl)
theorem dL_law_1218 : decode cL_law 1218 = .ok (.aload_n 0, 1) := dk_42 (dk_at dksL_law_44 22 rfl rfl)
theorem dL_law_1219 : decode cL_law 1219 = .ok (.iload 4, 2) := dk_21 4 (dk_at dksL_law_45 0 rfl rfl)
theorem dL_law_1221 : decode cL_law 1221 = .ok (.iconst 1, 1) := dk_4 (dk_at dksL_law_45 2 rfl rfl)
theorem dL_law_1222 : decode cL_law 1222 = .ok (.iadd, 1) := dk_96 (dk_at dksL_law_45 3 rfl rfl)
theorem dL_law_1223 : decode cL_law 1223 = .ok (.iaload, 1) := dk_46 (dk_at dksL_law_45 4 rfl rfl)
theorem dL_law_1224 : decode cL_law 1224 = .ok (.aload_n 0, 1) := dk_42 (dk_at dksL_law_45 5 rfl rfl)
theorem dL_law_1225 : decode cL_law 1225 = .ok (.iload 4, 2) := dk_21 4 (dk_at dksL_law_45 6 rfl rfl)
theorem dL_law_1227 : decode cL_law 1227 = .ok (.iconst 2, 1) := dk_5 (dk_at dksL_law_45 8 rfl rfl)
theorem dL_law_1228 : decode cL_law 1228 = .ok (.iadd, 1) := dk_96 (dk_at dksL_law_45 9 rfl rfl)
theorem dL_law_1229 : decode cL_law 1229 = .ok (.iaload, 1) := dk_46 (dk_at dksL_law_45 10 rfl rfl)
theorem dL_law_1230 : decode cL_law 1230 = .ok (.invokevirtual 162, 3) := dk_182 0 162 (dk_at dksL_law_45 11 rfl rfl)
theorem dL_law_1233 : decode cL_law 1233 = .ok (.if_icmp .eq 272, 3) := dk_159 1 16 (dk_at dksL_law_45 14 rfl rfl)
theorem dL_law_1236 : decode cL_law 1236 = .ok (.iconst 0, 1) := dk_3 (dk_at dksL_law_45 17 rfl rfl)
theorem dL_law_1237 : decode cL_law 1237 = .ok (.ireturn, 1) := dk_172 (dk_at dksL_law_45 18 rfl rfl)
theorem dL_law_1238 : decode cL_law 1238 = .ok (.aload_n 1, 1) := dk_43 (dk_at dksL_law_45 19 rfl rfl)
theorem dL_law_1239 : decode cL_law 1239 = .ok (.aload_n 0, 1) := dk_42 (dk_at dksL_law_45 20 rfl rfl)
theorem dL_law_1240 : decode cL_law 1240 = .ok (.iload 4, 2) := dk_21 4 (dk_at dksL_law_45 21 rfl rfl)
theorem dL_law_1242 : decode cL_law 1242 = .ok (.iconst 1, 1) := dk_4 (dk_at dksL_law_45 23 rfl rfl)
theorem dL_law_1243 : decode cL_law 1243 = .ok (.iadd, 1) := dk_96 (dk_at dksL_law_46 0 rfl rfl)
theorem dL_law_1244 : decode cL_law 1244 = .ok (.iaload, 1) := dk_46 (dk_at dksL_law_46 1 rfl rfl)
theorem dL_law_1245 : decode cL_law 1245 = .ok (.aload_n 0, 1) := dk_42 (dk_at dksL_law_46 2 rfl rfl)
theorem dL_law_1246 : decode cL_law 1246 = .ok (.iload 4, 2) := dk_21 4 (dk_at dksL_law_46 3 rfl rfl)
theorem dL_law_1248 : decode cL_law 1248 = .ok (.iconst 2, 1) := dk_5 (dk_at dksL_law_46 5 rfl rfl)
theorem dL_law_1249 : decode cL_law 1249 = .ok (.iadd, 1) := dk_96 (dk_at dksL_law_46 6 rfl rfl)
theorem dL_law_1250 : decode cL_law 1250 = .ok (.iaload, 1) := dk_46 (dk_at dksL_law_46 7 rfl rfl)
theorem dL_law_1251 : decode cL_law 1251 = .ok (.invokevirtual 163, 3) := dk_182 0 163 (dk_at dksL_law_46 8 rfl rfl)
theorem dL_law_1254 : decode cL_law 1254 = .ok (.aload_n 2, 1) := dk_44 (dk_at dksL_law_46 11 rfl rfl)
theorem dL_law_1255 : decode cL_law 1255 = .ok (.aload_n 0, 1) := dk_42 (dk_at dksL_law_46 12 rfl rfl)
theorem dL_law_1256 : decode cL_law 1256 = .ok (.iload 4, 2) := dk_21 4 (dk_at dksL_law_46 13 rfl rfl)
theorem dL_law_1258 : decode cL_law 1258 = .ok (.iconst 1, 1) := dk_4 (dk_at dksL_law_46 15 rfl rfl)
theorem dL_law_1259 : decode cL_law 1259 = .ok (.iadd, 1) := dk_96 (dk_at dksL_law_46 16 rfl rfl)
theorem dL_law_1260 : decode cL_law 1260 = .ok (.iaload, 1) := dk_46 (dk_at dksL_law_46 17 rfl rfl)
theorem dL_law_1261 : decode cL_law 1261 = .ok (.aload_n 0, 1) := dk_42 (dk_at dksL_law_46 18 rfl rfl)
theorem dL_law_1262 : decode cL_law 1262 = .ok (.iload 4, 2) := dk_21 4 (dk_at dksL_law_46 19 rfl rfl)
theorem dL_law_1264 : decode cL_law 1264 = .ok (.iconst 2, 1) := dk_5 (dk_at dksL_law_46 21 rfl rfl)
theorem dL_law_1265 : decode cL_law 1265 = .ok (.iadd, 1) := dk_96 (dk_at dksL_law_46 22 rfl rfl)
theorem dL_law_1266 : decode cL_law 1266 = .ok (.iaload, 1) := dk_46 (dk_at dksL_law_46 23 rfl rfl)
theorem dL_law_1267 : decode cL_law 1267 = .ok (.invokevirtual 166, 3) := dk_182 0 166 (dk_at dksL_law_47 0 rfl rfl)
theorem dL_law_1270 : decode cL_law 1270 = .ok (.if_icmp .eq 235, 3) := dk_159 0 235 (dk_at dksL_law_47 3 rfl rfl)
theorem dL_law_1273 : decode cL_law 1273 = .ok (.iconst 0, 1) := dk_3 (dk_at dksL_law_47 6 rfl rfl)
theorem dL_law_1274 : decode cL_law 1274 = .ok (.ireturn, 1) := dk_172 (dk_at dksL_law_47 7 rfl rfl)
theorem dL_law_1275 : decode cL_law 1275 = .ok (.aload_n 1, 1) := dk_43 (dk_at dksL_law_47 8 rfl rfl)
theorem dL_law_1276 : decode cL_law 1276 = .ok (.invokevirtual 167, 3) := dk_182 0 167 (dk_at dksL_law_47 9 rfl rfl)
theorem dL_law_1279 : decode cL_law 1279 = .ok (.aload_n 2, 1) := dk_44 (dk_at dksL_law_47 12 rfl rfl)
theorem dL_law_1280 : decode cL_law 1280 = .ok (.invokevirtual 171, 3) := dk_182 0 171 (dk_at dksL_law_47 13 rfl rfl)
theorem dL_law_1283 : decode cL_law 1283 = .ok (.lcmp, 1) := dk_148 (dk_at dksL_law_47 16 rfl rfl)
theorem dL_law_1284 : decode cL_law 1284 = .ok (.ifCond .eq 221, 3) := dk_153 0 221 (dk_at dksL_law_47 17 rfl rfl)
theorem dL_law_1287 : decode cL_law 1287 = .ok (.iconst 0, 1) := dk_3 (dk_at dksL_law_47 20 rfl rfl)
theorem dL_law_1288 : decode cL_law 1288 = .ok (.ireturn, 1) := dk_172 (dk_at dksL_law_47 21 rfl rfl)
theorem dL_law_1289 : decode cL_law 1289 = .ok (.aload_n 1, 1) := dk_43 (dk_at dksL_law_47 22 rfl rfl)
theorem dL_law_1290 : decode cL_law 1290 = .ok (.invokevirtual 172, 3) := dk_182 0 172 (dk_at dksL_law_48 0 rfl rfl)
theorem dL_law_1293 : decode cL_law 1293 = .ok (.aload_n 2, 1) := dk_44 (dk_at dksL_law_48 3 rfl rfl)
theorem dL_law_1294 : decode cL_law 1294 = .ok (.invokevirtual 175, 3) := dk_182 0 175 (dk_at dksL_law_48 4 rfl rfl)
theorem dL_law_1297 : decode cL_law 1297 = .ok (.if_icmp .eq 208, 3) := dk_159 0 208 (dk_at dksL_law_48 7 rfl rfl)
theorem dL_law_1300 : decode cL_law 1300 = .ok (.iconst 0, 1) := dk_3 (dk_at dksL_law_48 10 rfl rfl)
theorem dL_law_1301 : decode cL_law 1301 = .ok (.ireturn, 1) := dk_172 (dk_at dksL_law_48 11 rfl rfl)
theorem dL_law_1302 : decode cL_law 1302 = .ok (.aload_n 1, 1) := dk_43 (dk_at dksL_law_48 12 rfl rfl)
theorem dL_law_1303 : decode cL_law 1303 = .ok (.aload_n 0, 1) := dk_42 (dk_at dksL_law_48 13 rfl rfl)
theorem dL_law_1304 : decode cL_law 1304 = .ok (.iload 4, 2) := dk_21 4 (dk_at dksL_law_48 14 rfl rfl)
theorem dL_law_1306 : decode cL_law 1306 = .ok (.iconst 1, 1) := dk_4 (dk_at dksL_law_48 16 rfl rfl)
theorem dL_law_1307 : decode cL_law 1307 = .ok (.iadd, 1) := dk_96 (dk_at dksL_law_48 17 rfl rfl)
theorem dL_law_1308 : decode cL_law 1308 = .ok (.iaload, 1) := dk_46 (dk_at dksL_law_48 18 rfl rfl)
theorem dL_law_1309 : decode cL_law 1309 = .ok (.invokevirtual 176, 3) := dk_182 0 176 (dk_at dksL_law_48 19 rfl rfl)
theorem dL_law_1312 : decode cL_law 1312 = .ok (.aload_n 2, 1) := dk_44 (dk_at dksL_law_48 22 rfl rfl)
theorem dL_law_1313 : decode cL_law 1313 = .ok (.aload_n 0, 1) := dk_42 (dk_at dksL_law_48 23 rfl rfl)
theorem dL_law_1314 : decode cL_law 1314 = .ok (.iload 4, 2) := dk_21 4 (dk_at dksL_law_49 0 rfl rfl)
theorem dL_law_1316 : decode cL_law 1316 = .ok (.iconst 1, 1) := dk_4 (dk_at dksL_law_49 2 rfl rfl)
theorem dL_law_1317 : decode cL_law 1317 = .ok (.iadd, 1) := dk_96 (dk_at dksL_law_49 3 rfl rfl)
theorem dL_law_1318 : decode cL_law 1318 = .ok (.iaload, 1) := dk_46 (dk_at dksL_law_49 4 rfl rfl)
theorem dL_law_1319 : decode cL_law 1319 = .ok (.invokevirtual 179, 3) := dk_182 0 179 (dk_at dksL_law_49 5 rfl rfl)
theorem dL_law_1322 : decode cL_law 1322 = .ok (.if_icmp .eq 183, 3) := dk_159 0 183 (dk_at dksL_law_49 8 rfl rfl)
theorem dL_law_1325 : decode cL_law 1325 = .ok (.iconst 0, 1) := dk_3 (dk_at dksL_law_49 11 rfl rfl)
theorem dL_law_1326 : decode cL_law 1326 = .ok (.ireturn, 1) := dk_172 (dk_at dksL_law_49 12 rfl rfl)
theorem dL_law_1327 : decode cL_law 1327 = .ok (.aload_n 1, 1) := dk_43 (dk_at dksL_law_49 13 rfl rfl)
theorem dL_law_1328 : decode cL_law 1328 = .ok (.invokevirtual 180, 3) := dk_182 0 180 (dk_at dksL_law_49 14 rfl rfl)
theorem dL_law_1331 : decode cL_law 1331 = .ok (.aload_n 2, 1) := dk_44 (dk_at dksL_law_49 17 rfl rfl)
theorem dL_law_1332 : decode cL_law 1332 = .ok (.invokevirtual 183, 3) := dk_182 0 183 (dk_at dksL_law_49 18 rfl rfl)
theorem dL_law_1335 : decode cL_law 1335 = .ok (.if_icmp .eq 170, 3) := dk_159 0 170 (dk_at dksL_law_49 21 rfl rfl)
theorem dL_law_1338 : decode cL_law 1338 = .ok (.iconst 0, 1) := dk_3 (dk_at dksL_law_50 0 rfl rfl)
theorem dL_law_1339 : decode cL_law 1339 = .ok (.ireturn, 1) := dk_172 (dk_at dksL_law_50 1 rfl rfl)
theorem dL_law_1340 : decode cL_law 1340 = .ok (.aload_n 1, 1) := dk_43 (dk_at dksL_law_50 2 rfl rfl)
theorem dL_law_1341 : decode cL_law 1341 = .ok (.invokevirtual 184, 3) := dk_182 0 184 (dk_at dksL_law_50 3 rfl rfl)
theorem dL_law_1344 : decode cL_law 1344 = .ok (.aload_n 2, 1) := dk_44 (dk_at dksL_law_50 6 rfl rfl)
theorem dL_law_1345 : decode cL_law 1345 = .ok (.invokevirtual 187, 3) := dk_182 0 187 (dk_at dksL_law_50 7 rfl rfl)
theorem dL_law_1348 : decode cL_law 1348 = .ok (.lcmp, 1) := dk_148 (dk_at dksL_law_50 10 rfl rfl)
theorem dL_law_1349 : decode cL_law 1349 = .ok (.ifCond .eq 156, 3) := dk_153 0 156 (dk_at dksL_law_50 11 rfl rfl)
theorem dL_law_1352 : decode cL_law 1352 = .ok (.iconst 0, 1) := dk_3 (dk_at dksL_law_50 14 rfl rfl)
theorem dL_law_1353 : decode cL_law 1353 = .ok (.ireturn, 1) := dk_172 (dk_at dksL_law_50 15 rfl rfl)
theorem dL_law_1354 : decode cL_law 1354 = .ok (.aload_n 1, 1) := dk_43 (dk_at dksL_law_50 16 rfl rfl)
theorem dL_law_1355 : decode cL_law 1355 = .ok (.aload_n 0, 1) := dk_42 (dk_at dksL_law_50 17 rfl rfl)
theorem dL_law_1356 : decode cL_law 1356 = .ok (.iload 4, 2) := dk_21 4 (dk_at dksL_law_50 18 rfl rfl)
theorem dL_law_1358 : decode cL_law 1358 = .ok (.iconst 1, 1) := dk_4 (dk_at dksL_law_50 20 rfl rfl)
theorem dL_law_1359 : decode cL_law 1359 = .ok (.iadd, 1) := dk_96 (dk_at dksL_law_50 21 rfl rfl)
theorem dL_law_1360 : decode cL_law 1360 = .ok (.iaload, 1) := dk_46 (dk_at dksL_law_50 22 rfl rfl)
theorem dL_law_1361 : decode cL_law 1361 = .ok (.i2l, 1) := dk_133 (dk_at dksL_law_50 23 rfl rfl)
theorem dL_law_1362 : decode cL_law 1362 = .ok (.bipush 32, 2) := dk_16 32 (dk_at dksL_law_51 0 rfl rfl)
theorem dL_law_1364 : decode cL_law 1364 = .ok (.lshl, 1) := dk_121 (dk_at dksL_law_51 2 rfl rfl)
theorem dL_law_1365 : decode cL_law 1365 = .ok (.aload_n 0, 1) := dk_42 (dk_at dksL_law_51 3 rfl rfl)
theorem dL_law_1366 : decode cL_law 1366 = .ok (.iload 4, 2) := dk_21 4 (dk_at dksL_law_51 4 rfl rfl)
theorem dL_law_1368 : decode cL_law 1368 = .ok (.iconst 2, 1) := dk_5 (dk_at dksL_law_51 6 rfl rfl)
theorem dL_law_1369 : decode cL_law 1369 = .ok (.iadd, 1) := dk_96 (dk_at dksL_law_51 7 rfl rfl)
theorem dL_law_1370 : decode cL_law 1370 = .ok (.iaload, 1) := dk_46 (dk_at dksL_law_51 8 rfl rfl)
theorem dL_law_1371 : decode cL_law 1371 = .ok (.i2l, 1) := dk_133 (dk_at dksL_law_51 9 rfl rfl)
theorem dL_law_1372 : decode cL_law 1372 = .ok (.ldc2_w 188, 3) := dk_20 0 188 (dk_at dksL_law_51 10 rfl rfl)
theorem dL_law_1375 : decode cL_law 1375 = .ok (.land, 1) := dk_127 (dk_at dksL_law_51 13 rfl rfl)
theorem dL_law_1376 : decode cL_law 1376 = .ok (.lor, 1) := dk_129 (dk_at dksL_law_51 14 rfl rfl)
theorem dL_law_1377 : decode cL_law 1377 = .ok (.invokevirtual 190, 3) := dk_182 0 190 (dk_at dksL_law_51 15 rfl rfl)
theorem dL_law_1380 : decode cL_law 1380 = .ok (.aload_n 2, 1) := dk_44 (dk_at dksL_law_51 18 rfl rfl)
theorem dL_law_1381 : decode cL_law 1381 = .ok (.aload_n 0, 1) := dk_42 (dk_at dksL_law_51 19 rfl rfl)
theorem dL_law_1382 : decode cL_law 1382 = .ok (.iload 4, 2) := dk_21 4 (dk_at dksL_law_51 20 rfl rfl)
theorem dL_law_1384 : decode cL_law 1384 = .ok (.iconst 1, 1) := dk_4 (dk_at dksL_law_51 22 rfl rfl)
theorem dL_law_1385 : decode cL_law 1385 = .ok (.iadd, 1) := dk_96 (dk_at dksL_law_51 23 rfl rfl)
theorem dL_law_1386 : decode cL_law 1386 = .ok (.iaload, 1) := dk_46 (dk_at dksL_law_52 0 rfl rfl)
theorem dL_law_1387 : decode cL_law 1387 = .ok (.i2l, 1) := dk_133 (dk_at dksL_law_52 1 rfl rfl)
theorem dL_law_1388 : decode cL_law 1388 = .ok (.bipush 32, 2) := dk_16 32 (dk_at dksL_law_52 2 rfl rfl)
theorem dL_law_1390 : decode cL_law 1390 = .ok (.lshl, 1) := dk_121 (dk_at dksL_law_52 4 rfl rfl)
theorem dL_law_1391 : decode cL_law 1391 = .ok (.aload_n 0, 1) := dk_42 (dk_at dksL_law_52 5 rfl rfl)
theorem dL_law_1392 : decode cL_law 1392 = .ok (.iload 4, 2) := dk_21 4 (dk_at dksL_law_52 6 rfl rfl)
theorem dL_law_1394 : decode cL_law 1394 = .ok (.iconst 2, 1) := dk_5 (dk_at dksL_law_52 8 rfl rfl)
theorem dL_law_1395 : decode cL_law 1395 = .ok (.iadd, 1) := dk_96 (dk_at dksL_law_52 9 rfl rfl)
theorem dL_law_1396 : decode cL_law 1396 = .ok (.iaload, 1) := dk_46 (dk_at dksL_law_52 10 rfl rfl)
theorem dL_law_1397 : decode cL_law 1397 = .ok (.i2l, 1) := dk_133 (dk_at dksL_law_52 11 rfl rfl)
theorem dL_law_1398 : decode cL_law 1398 = .ok (.ldc2_w 188, 3) := dk_20 0 188 (dk_at dksL_law_52 12 rfl rfl)
theorem dL_law_1401 : decode cL_law 1401 = .ok (.land, 1) := dk_127 (dk_at dksL_law_52 15 rfl rfl)
theorem dL_law_1402 : decode cL_law 1402 = .ok (.lor, 1) := dk_129 (dk_at dksL_law_52 16 rfl rfl)
theorem dL_law_1403 : decode cL_law 1403 = .ok (.invokevirtual 194, 3) := dk_182 0 194 (dk_at dksL_law_52 17 rfl rfl)
theorem dL_law_1406 : decode cL_law 1406 = .ok (.if_icmp .eq 99, 3) := dk_159 0 99 (dk_at dksL_law_52 20 rfl rfl)
theorem dL_law_1409 : decode cL_law 1409 = .ok (.iconst 0, 1) := dk_3 (dk_at dksL_law_52 23 rfl rfl)
theorem dL_law_1410 : decode cL_law 1410 = .ok (.ireturn, 1) := dk_172 (dk_at dksL_law_53 0 rfl rfl)
theorem dL_law_1411 : decode cL_law 1411 = .ok (.aload_n 1, 1) := dk_43 (dk_at dksL_law_53 1 rfl rfl)
theorem dL_law_1412 : decode cL_law 1412 = .ok (.aload_n 0, 1) := dk_42 (dk_at dksL_law_53 2 rfl rfl)
theorem dL_law_1413 : decode cL_law 1413 = .ok (.iload 4, 2) := dk_21 4 (dk_at dksL_law_53 3 rfl rfl)
theorem dL_law_1415 : decode cL_law 1415 = .ok (.iconst 1, 1) := dk_4 (dk_at dksL_law_53 5 rfl rfl)
theorem dL_law_1416 : decode cL_law 1416 = .ok (.iadd, 1) := dk_96 (dk_at dksL_law_53 6 rfl rfl)
theorem dL_law_1417 : decode cL_law 1417 = .ok (.iaload, 1) := dk_46 (dk_at dksL_law_53 7 rfl rfl)
theorem dL_law_1418 : decode cL_law 1418 = .ok (.aload_n 3, 1) := dk_45 (dk_at dksL_law_53 8 rfl rfl)
theorem dL_law_1419 : decode cL_law 1419 = .ok (.invokestatic 195, 3) := dk_184 0 195 (dk_at dksL_law_53 9 rfl rfl)
theorem dL_law_1422 : decode cL_law 1422 = .ok (.istore 5, 2) := dk_54 5 (dk_at dksL_law_53 12 rfl rfl)
theorem dL_law_1424 : decode cL_law 1424 = .ok (.aload_n 2, 1) := dk_44 (dk_at dksL_law_53 14 rfl rfl)
theorem dL_law_1425 : decode cL_law 1425 = .ok (.aload_n 0, 1) := dk_42 (dk_at dksL_law_53 15 rfl rfl)
theorem dL_law_1426 : decode cL_law 1426 = .ok (.iload 4, 2) := dk_21 4 (dk_at dksL_law_53 16 rfl rfl)
theorem dL_law_1428 : decode cL_law 1428 = .ok (.iconst 1, 1) := dk_4 (dk_at dksL_law_53 18 rfl rfl)
theorem dL_law_1429 : decode cL_law 1429 = .ok (.iadd, 1) := dk_96 (dk_at dksL_law_53 19 rfl rfl)
theorem dL_law_1430 : decode cL_law 1430 = .ok (.iaload, 1) := dk_46 (dk_at dksL_law_53 20 rfl rfl)
theorem dL_law_1431 : decode cL_law 1431 = .ok (.invokevirtual 200, 3) := dk_182 0 200 (dk_at dksL_law_53 21 rfl rfl)
theorem dL_law_1434 : decode cL_law 1434 = .ok (.istore 6, 2) := dk_54 6 (dk_at dksL_law_54 0 rfl rfl)
theorem dL_law_1436 : decode cL_law 1436 = .ok (.aload_n 2, 1) := dk_44 (dk_at dksL_law_54 2 rfl rfl)
theorem dL_law_1437 : decode cL_law 1437 = .ok (.invokevirtual 201, 3) := dk_182 0 201 (dk_at dksL_law_54 3 rfl rfl)
theorem dL_law_1440 : decode cL_law 1440 = .ok (.iload 5, 2) := dk_21 5 (dk_at dksL_law_54 6 rfl rfl)
theorem dL_law_1442 : decode cL_law 1442 = .ok (.if_icmp .eq 5, 3) := dk_159 0 5 (dk_at dksL_law_54 8 rfl rfl)
theorem dL_law_1445 : decode cL_law 1445 = .ok (.iconst 0, 1) := dk_3 (dk_at dksL_law_54 11 rfl rfl)
theorem dL_law_1446 : decode cL_law 1446 = .ok (.ireturn, 1) := dk_172 (dk_at dksL_law_54 12 rfl rfl)
theorem dL_law_1447 : decode cL_law 1447 = .ok (.iload 5, 2) := dk_21 5 (dk_at dksL_law_54 13 rfl rfl)
theorem dL_law_1449 : decode cL_law 1449 = .ok (.ifCond .ne 15, 3) := dk_154 0 15 (dk_at dksL_law_54 15 rfl rfl)
theorem dL_law_1452 : decode cL_law 1452 = .ok (.aload_n 3, 1) := dk_45 (dk_at dksL_law_54 18 rfl rfl)
theorem dL_law_1453 : decode cL_law 1453 = .ok (.iconst 0, 1) := dk_3 (dk_at dksL_law_54 19 rfl rfl)
theorem dL_law_1454 : decode cL_law 1454 = .ok (.laload, 1) := dk_47 (dk_at dksL_law_54 20 rfl rfl)
theorem dL_law_1455 : decode cL_law 1455 = .ok (.iload 6, 2) := dk_21 6 (dk_at dksL_law_54 21 rfl rfl)
theorem dL_law_1457 : decode cL_law 1457 = .ok (.i2l, 1) := dk_133 (dk_at dksL_law_54 23 rfl rfl)
theorem dL_law_1458 : decode cL_law 1458 = .ok (.lcmp, 1) := dk_148 (dk_at dksL_law_55 0 rfl rfl)
theorem dL_law_1459 : decode cL_law 1459 = .ok (.ifCond .eq 5, 3) := dk_153 0 5 (dk_at dksL_law_55 1 rfl rfl)
theorem dL_law_1462 : decode cL_law 1462 = .ok (.iconst 0, 1) := dk_3 (dk_at dksL_law_55 4 rfl rfl)
theorem dL_law_1463 : decode cL_law 1463 = .ok (.ireturn, 1) := dk_172 (dk_at dksL_law_55 5 rfl rfl)
theorem dL_law_1464 : decode cL_law 1464 = .ok (.goto 41, 3) := dk_167 0 41 (dk_at dksL_law_55 6 rfl rfl)
theorem dL_law_1467 : decode cL_law 1467 = .ok (.aload_n 1, 1) := dk_43 (dk_at dksL_law_55 9 rfl rfl)
theorem dL_law_1468 : decode cL_law 1468 = .ok (.aload_n 0, 1) := dk_42 (dk_at dksL_law_55 10 rfl rfl)
theorem dL_law_1469 : decode cL_law 1469 = .ok (.iload 4, 2) := dk_21 4 (dk_at dksL_law_55 11 rfl rfl)
theorem dL_law_1471 : decode cL_law 1471 = .ok (.iconst 1, 1) := dk_4 (dk_at dksL_law_55 13 rfl rfl)
theorem dL_law_1472 : decode cL_law 1472 = .ok (.iadd, 1) := dk_96 (dk_at dksL_law_55 14 rfl rfl)
theorem dL_law_1473 : decode cL_law 1473 = .ok (.iaload, 1) := dk_46 (dk_at dksL_law_55 15 rfl rfl)
theorem dL_law_1474 : decode cL_law 1474 = .ok (.invokevirtual 204, 3) := dk_182 0 204 (dk_at dksL_law_55 16 rfl rfl)
theorem dL_law_1477 : decode cL_law 1477 = .ok (.aload_n 2, 1) := dk_44 (dk_at dksL_law_55 19 rfl rfl)
theorem dL_law_1478 : decode cL_law 1478 = .ok (.aload_n 0, 1) := dk_42 (dk_at dksL_law_55 20 rfl rfl)
theorem dL_law_1479 : decode cL_law 1479 = .ok (.iload 4, 2) := dk_21 4 (dk_at dksL_law_55 21 rfl rfl)
theorem dL_law_1481 : decode cL_law 1481 = .ok (.iconst 1, 1) := dk_4 (dk_at dksL_law_55 23 rfl rfl)
theorem dL_law_1482 : decode cL_law 1482 = .ok (.iadd, 1) := dk_96 (dk_at dksL_law_56 0 rfl rfl)
theorem dL_law_1483 : decode cL_law 1483 = .ok (.iaload, 1) := dk_46 (dk_at dksL_law_56 1 rfl rfl)
theorem dL_law_1484 : decode cL_law 1484 = .ok (.invokevirtual 207, 3) := dk_182 0 207 (dk_at dksL_law_56 2 rfl rfl)
theorem dL_law_1487 : decode cL_law 1487 = .ok (.if_icmp .eq 18, 3) := dk_159 0 18 (dk_at dksL_law_56 5 rfl rfl)
theorem dL_law_1490 : decode cL_law 1490 = .ok (.iconst 0, 1) := dk_3 (dk_at dksL_law_56 8 rfl rfl)
theorem dL_law_1491 : decode cL_law 1491 = .ok (.ireturn, 1) := dk_172 (dk_at dksL_law_56 9 rfl rfl)
theorem dL_law_1492 : decode cL_law 1492 = .ok (.aload_n 1, 1) := dk_43 (dk_at dksL_law_56 10 rfl rfl)
theorem dL_law_1493 : decode cL_law 1493 = .ok (.invokevirtual 208, 3) := dk_182 0 208 (dk_at dksL_law_56 11 rfl rfl)
theorem dL_law_1496 : decode cL_law 1496 = .ok (.aload_n 2, 1) := dk_44 (dk_at dksL_law_56 14 rfl rfl)
theorem dL_law_1497 : decode cL_law 1497 = .ok (.invokevirtual 211, 3) := dk_182 0 211 (dk_at dksL_law_56 15 rfl rfl)
theorem dL_law_1500 : decode cL_law 1500 = .ok (.if_icmp .eq 5, 3) := dk_159 0 5 (dk_at dksL_law_56 18 rfl rfl)
theorem dL_law_1503 : decode cL_law 1503 = .ok (.iconst 0, 1) := dk_3 (dk_at dksL_law_56 21 rfl rfl)
theorem dL_law_1504 : decode cL_law 1504 = .ok (.ireturn, 1) := dk_172 (dk_at dksL_law_56 22 rfl rfl)
theorem dL_law_1505 : decode cL_law 1505 = .ok (.iinc 4 6, 3) := dk_132 4 6 (dk_at dksL_law_57 0 rfl rfl)
theorem dL_law_1508 : decode cL_law 1508 = .ok (.goto (-1485), 3) := dk_167 250 51 (dk_at dksL_law_57 3 rfl rfl)
theorem dL_law_1511 : decode cL_law 1511 = .ok (.iconst 1, 1) := dk_4 (dk_at dksL_law_57 6 rfl rfl)
theorem dL_law_1512 : decode cL_law 1512 = .ok (.ireturn, 1) := dk_172 (dk_at dksL_law_57 7 rfl rfl)
