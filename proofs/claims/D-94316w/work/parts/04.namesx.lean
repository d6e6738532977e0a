/-! NeverUnseenLaw -/
set_option maxRecDepth 100000
def RX0 : String := "NeverUnseenLaw"
abbrev cX0_led : ByteArray := method_3_code
def yX0_led : MethodName := ⟨RX0, "led", "(LNeverUnseen;I[J)I"⟩
def dkwX0_led_0 : List UInt8 := [44, 3, 42, 27, 182, 0, 7, 133, 80, 167, 0, 6, 78, 4, 172, 3, 172]
abbrev dktX0_led_0 : List UInt8 := dkwX0_led_0 ++ []
theorem dksX0_led_0 : cX0_led.data.toList.drop 0 = dktX0_led_0 := by decide +kernel
theorem dX0_led_0 : decode cX0_led 0 = .ok (.aload_n 2, 1) := dk_44 (dk_at dksX0_led_0 0 rfl rfl)
theorem dX0_led_1 : decode cX0_led 1 = .ok (.iconst 0, 1) := dk_3 (dk_at dksX0_led_0 1 rfl rfl)
theorem dX0_led_2 : decode cX0_led 2 = .ok (.aload_n 0, 1) := dk_42 (dk_at dksX0_led_0 2 rfl rfl)
theorem dX0_led_3 : decode cX0_led 3 = .ok (.iload_n 1, 1) := dk_27 (dk_at dksX0_led_0 3 rfl rfl)
theorem dX0_led_4 : decode cX0_led 4 = .ok (.invokevirtual 7, 3) := dk_182 0 7 (dk_at dksX0_led_0 4 rfl rfl)
theorem dX0_led_7 : decode cX0_led 7 = .ok (.i2l, 1) := dk_133 (dk_at dksX0_led_0 7 rfl rfl)
theorem dX0_led_8 : decode cX0_led 8 = .ok (.lastore, 1) := dk_80 (dk_at dksX0_led_0 8 rfl rfl)
theorem dX0_led_9 : decode cX0_led 9 = .ok (.goto 6, 3) := dk_167 0 6 (dk_at dksX0_led_0 9 rfl rfl)
theorem dX0_led_12 : decode cX0_led 12 = .ok (.astore_n 3, 1) := dk_78 (dk_at dksX0_led_0 12 rfl rfl)
theorem dX0_led_13 : decode cX0_led 13 = .ok (.iconst 1, 1) := dk_4 (dk_at dksX0_led_0 13 rfl rfl)
theorem dX0_led_14 : decode cX0_led 14 = .ok (.ireturn, 1) := dk_172 (dk_at dksX0_led_0 14 rfl rfl)
theorem dX0_led_15 : decode cX0_led 15 = .ok (.iconst 0, 1) := dk_3 (dk_at dksX0_led_0 15 rfl rfl)
theorem dX0_led_16 : decode cX0_led 16 = .ok (.ireturn, 1) := dk_172 (dk_at dksX0_led_0 16 rfl rfl)
theorem q151 : (Jvm.Cond.initialized "NeverUnseenLaw") ∈ lw_all := lw_g (lw_at lw_m1 0 rfl) rfl
theorem q177 : (Jvm.Cond.classLink "NeverUnseenLaw" (8 : Nat) "NeverUnseen") ∈ lw_all := lw_g (lw_at lw_m1 26 rfl) rfl
theorem q179 : (Jvm.Cond.methodLink "NeverUnseenLaw" (15 : Nat) ({ cls := "NeverUnseen", name := "<init>", desc := "()V" } : Jvm.MethodName)) ∈ lw_all := lw_g (lw_at lw_m1 28 rfl) rfl
theorem q402 : (Jvm.Cond.methodLink "NeverUnseenLaw" (19 : Nat) ({ cls := "NeverUnseen", name := "feed", desc := "(IIIII)I" } : Jvm.MethodName)) ∈ lw_all := lw_g (lw_at lw_m2 11 rfl) rfl
theorem q410 : (Jvm.Cond.methodLink "NeverUnseenLaw" (24 : Nat) ({ cls := "NeverUnseen", name := "valley", desc := "(I)I" } : Jvm.MethodName)) ∈ lw_all := lw_g (lw_at lw_m2 19 rfl) rfl
theorem q976 : (Jvm.Cond.methodLink "NeverUnseenLaw" (28 : Nat) ({ cls := "NeverUnseen", name := "fault", desc := "()I" } : Jvm.MethodName)) ∈ lw_all := lw_g (lw_at lw_m4 105 rfl) rfl
theorem q980 : (Jvm.Cond.methodLink "NeverUnseenLaw" (33 : Nat) ({ cls := "NeverUnseen", name := "where", desc := "()I" } : Jvm.MethodName)) ∈ lw_all := lw_g (lw_at lw_m4 109 rfl) rfl
theorem q984 : (Jvm.Cond.methodLink "NeverUnseenLaw" (37 : Nat) ({ cls := "NeverUnseen", name := "plain", desc := "(III)I" } : Jvm.MethodName)) ∈ lw_all := lw_g (lw_at lw_m4 113 rfl) rfl
theorem q1004 : (Jvm.Cond.methodLink "NeverUnseenLaw" (42 : Nat) ({ cls := "NeverUnseen", name := "sees", desc := "(II)I" } : Jvm.MethodName)) ∈ lw_all := lw_g (lw_at lw_m4 133 rfl) rfl
theorem q1012 : (Jvm.Cond.methodLink "NeverUnseenLaw" (47 : Nat) ({ cls := "NeverUnseen", name := "middle", desc := "(I)I" } : Jvm.MethodName)) ∈ lw_all := lw_g (lw_at lw_m4 141 rfl) rfl
theorem q1024 : (Jvm.Cond.methodLink "NeverUnseenLaw" (51 : Nat) ({ cls := "NeverUnseen", name := "eyes", desc := "(II)I" } : Jvm.MethodName)) ∈ lw_all := lw_g (lw_at lw_m4 153 rfl) rfl
theorem q1059 : (Jvm.Cond.methodLink "NeverUnseenLaw" (55 : Nat) ({ cls := "NeverUnseen", name := "put", desc := "(II)Z" } : Jvm.MethodName)) ∈ lw_all := lw_g (lw_at lw_m4 188 rfl) rfl
theorem q1067 : (Jvm.Cond.methodLink "NeverUnseenLaw" (60 : Nat) ({ cls := "NeverUnseen", name := "time", desc := "(I)Z" } : Jvm.MethodName)) ∈ lw_all := lw_g (lw_at lw_m4 196 rfl) rfl
theorem q1071 : (Jvm.Cond.methodLink "NeverUnseenLaw" (65 : Nat) ({ cls := "NeverUnseen", name := "at", desc := "(I)I" } : Jvm.MethodName)) ∈ lw_all := lw_g (lw_at lw_m4 200 rfl) rfl
theorem q1075 : (Jvm.Cond.methodLink "NeverUnseenLaw" (69 : Nat) ({ cls := "NeverUnseen", name := "unseen", desc := "()I" } : Jvm.MethodName)) ∈ lw_all := lw_g (lw_at lw_m4 204 rfl) rfl
theorem q1092 : (Jvm.Cond.methodLink "NeverUnseenLaw" (73 : Nat) ({ cls := "NeverUnseen", name := "lawful", desc := "()I" } : Jvm.MethodName)) ∈ lw_all := lw_g (lw_at lw_m4 221 rfl) rfl
theorem q1104 : (Jvm.Cond.methodLink "NeverUnseenLaw" (77 : Nat) ({ cls := "NeverUnseen", name := "by", desc := "(I)I" } : Jvm.MethodName)) ∈ lw_all := lw_g (lw_at lw_m4 233 rfl) rfl
theorem q1108 : (Jvm.Cond.methodLink "NeverUnseenLaw" (81 : Nat) ({ cls := "NeverUnseen", name := "move", desc := "(III)Z" } : Jvm.MethodName)) ∈ lw_all := lw_g (lw_at lw_m4 237 rfl) rfl
theorem q1112 : (Jvm.Cond.methodLink "NeverUnseenLaw" (86 : Nat) ({ cls := "NeverUnseen", name := "planned", desc := "(II)I" } : Jvm.MethodName)) ∈ lw_all := lw_g (lw_at lw_m5 1 rfl) rfl
theorem q1116 : (Jvm.Cond.methodLink "NeverUnseenLaw" (90 : Nat) ({ cls := "NeverUnseen", name := "judge", desc := "()I" } : Jvm.MethodName)) ∈ lw_all := lw_g (lw_at lw_m5 5 rfl) rfl
theorem q1134 : (Jvm.Cond.methodLink "NeverUnseenLaw" (94 : Nat) ({ cls := "NeverUnseen", name := "why", desc := "()I" } : Jvm.MethodName)) ∈ lw_all := lw_g (lw_at lw_m5 23 rfl) rfl
theorem q1138 : (Jvm.Cond.methodLink "NeverUnseenLaw" (98 : Nat) ({ cls := "NeverUnseen", name := "done", desc := "(I)I" } : Jvm.MethodName)) ∈ lw_all := lw_g (lw_at lw_m5 27 rfl) rfl
theorem q1146 : (Jvm.Cond.methodLink "NeverUnseenLaw" (102 : Nat) ({ cls := "NeverUnseen", name := "forget", desc := "()Z" } : Jvm.MethodName)) ∈ lw_all := lw_g (lw_at lw_m5 35 rfl) rfl
theorem q1150 : (Jvm.Cond.methodLink "NeverUnseenLaw" (107 : Nat) ({ cls := "NeverUnseen", name := "posts", desc := "(II)I" } : Jvm.MethodName)) ∈ lw_all := lw_g (lw_at lw_m5 39 rfl) rfl
theorem q1169 : (Jvm.Cond.methodLink "NeverUnseenLaw" (111 : Nat) ({ cls := "NeverUnseen", name := "postsAt", desc := "(II)I" } : Jvm.MethodName)) ∈ lw_all := lw_g (lw_at lw_m5 58 rfl) rfl
theorem q1173 : (Jvm.Cond.methodLink "NeverUnseenLaw" (115 : Nat) ({ cls := "NeverUnseen", name := "go", desc := "(II)I" } : Jvm.MethodName)) ∈ lw_all := lw_g (lw_at lw_m5 62 rfl) rfl
theorem q1225 : (Jvm.Cond.methodLink "NeverUnseenLaw" (119 : Nat) ({ cls := "NeverUnseen", name := "path", desc := "(II)I" } : Jvm.MethodName)) ∈ lw_all := lw_g (lw_at lw_m5 114 rfl) rfl
theorem q1229 : (Jvm.Cond.methodLink "NeverUnseenLaw" (123 : Nat) ({ cls := "NeverUnseen", name := "doing", desc := "(II)I" } : Jvm.MethodName)) ∈ lw_all := lw_g (lw_at lw_m5 118 rfl) rfl
theorem q1237 : (Jvm.Cond.methodLink "NeverUnseenLaw" (127 : Nat) ({ cls := "NeverUnseen", name := "find", desc := "(II)I" } : Jvm.MethodName)) ∈ lw_all := lw_g (lw_at lw_m5 126 rfl) rfl
theorem q1268 : (Jvm.Cond.methodLink "NeverUnseenLaw" (131 : Nat) ({ cls := "NeverUnseen", name := "sleepers", desc := "(I)I" } : Jvm.MethodName)) ∈ lw_all := lw_g (lw_at lw_m5 157 rfl) rfl
theorem q1272 : (Jvm.Cond.methodLink "NeverUnseenLaw" (135 : Nat) ({ cls := "NeverUnseen", name := "alone", desc := "(I)I" } : Jvm.MethodName)) ∈ lw_all := lw_g (lw_at lw_m5 161 rfl) rfl
theorem q1280 : (Jvm.Cond.methodLink "NeverUnseenLaw" (139 : Nat) ({ cls := "NeverUnseen", name := "glass", desc := "(I)I" } : Jvm.MethodName)) ∈ lw_all := lw_g (lw_at lw_m5 169 rfl) rfl
theorem q1284 : (Jvm.Cond.methodLink "NeverUnseenLaw" (143 : Nat) ({ cls := "NeverUnseen", name := "pairs", desc := "(I)I" } : Jvm.MethodName)) ∈ lw_all := lw_g (lw_at lw_m5 173 rfl) rfl
theorem q1293 : (Jvm.Cond.methodLink "NeverUnseenLaw" (147 : Nat) ({ cls := "NeverUnseen", name := "window", desc := "(I)I" } : Jvm.MethodName)) ∈ lw_all := lw_g (lw_at lw_m5 182 rfl) rfl
theorem q1314 : (Jvm.Cond.methodLink "NeverUnseenLaw" (151 : Nat) ({ cls := "NeverUnseen", name := "frees", desc := "(I)I" } : Jvm.MethodName)) ∈ lw_all := lw_g (lw_at lw_m5 203 rfl) rfl
theorem q1318 : (Jvm.Cond.methodLink "NeverUnseenLaw" (155 : Nat) ({ cls := "NeverUnseen", name := "tower", desc := "(II)I" } : Jvm.MethodName)) ∈ lw_all := lw_g (lw_at lw_m5 207 rfl) rfl
theorem q1328 : (Jvm.Cond.methodLink "NeverUnseenLaw" (159 : Nat) ({ cls := "NeverUnseen", name := "made", desc := "(II)I" } : Jvm.MethodName)) ∈ lw_all := lw_g (lw_at lw_m5 217 rfl) rfl
theorem q1343 : (Jvm.Cond.methodLink "NeverUnseenLaw" (163 : Nat) ({ cls := "NeverUnseen", name := "needs", desc := "(II)I" } : Jvm.MethodName)) ∈ lw_all := lw_g (lw_at lw_m5 232 rfl) rfl
theorem q1347 : (Jvm.Cond.methodLink "NeverUnseenLaw" (167 : Nat) ({ cls := "NeverUnseen", name := "fog", desc := "()J" } : Jvm.MethodName)) ∈ lw_all := lw_g (lw_at lw_m5 236 rfl) rfl
theorem q1355 : (Jvm.Cond.methodLink "NeverUnseenLaw" (172 : Nat) ({ cls := "NeverUnseen", name := "ready", desc := "()I" } : Jvm.MethodName)) ∈ lw_all := lw_g (lw_at lw_m6 4 rfl) rfl
theorem q1359 : (Jvm.Cond.methodLink "NeverUnseenLaw" (176 : Nat) ({ cls := "NeverUnseen", name := "seed", desc := "(I)Z" } : Jvm.MethodName)) ∈ lw_all := lw_g (lw_at lw_m6 8 rfl) rfl
theorem q1364 : (Jvm.Cond.methodLink "NeverUnseenLaw" (180 : Nat) ({ cls := "NeverUnseen", name := "drift", desc := "()I" } : Jvm.MethodName)) ∈ lw_all := lw_g (lw_at lw_m6 13 rfl) rfl
theorem q1373 : (Jvm.Cond.methodLink "NeverUnseenLaw" (184 : Nat) ({ cls := "NeverUnseen", name := "image", desc := "()J" } : Jvm.MethodName)) ∈ lw_all := lw_g (lw_at lw_m6 22 rfl) rfl
theorem q1379 : (Jvm.Cond.methodLink "NeverUnseenLaw" (190 : Nat) ({ cls := "NeverUnseen", name := "restore", desc := "(J)Z" } : Jvm.MethodName)) ∈ lw_all := lw_g (lw_at lw_m6 28 rfl) rfl
theorem q1384 : (Jvm.Cond.methodLink "NeverUnseenLaw" (204 : Nat) ({ cls := "NeverUnseen", name := "size", desc := "(I)I" } : Jvm.MethodName)) ∈ lw_all := lw_g (lw_at lw_m6 33 rfl) rfl
theorem q1388 : (Jvm.Cond.methodLink "NeverUnseenLaw" (208 : Nat) ({ cls := "NeverUnseen", name := "trouble", desc := "()I" } : Jvm.MethodName)) ∈ lw_all := lw_g (lw_at lw_m6 37 rfl) rfl
theorem q1392 : (Jvm.Cond.methodLink "NeverUnseenLaw" (195 : Nat) ({ cls := "NeverUnseenLaw", name := "led", desc := "(LNeverUnseen;I[J)I" } : Jvm.MethodName)) ∈ lw_all := lw_g (lw_at lw_m6 41 rfl) rfl
theorem q1393 : (Jvm.Cond.static ({ cls := "NeverUnseenLaw", name := "led", desc := "(LNeverUnseen;I[J)I" } : Jvm.MethodName)) ∈ lw_all := lw_g (lw_at lw_m6 42 rfl) rfl
theorem q1394 : (Jvm.Cond.codeWith ({ cls := "NeverUnseenLaw", name := "led", desc := "(LNeverUnseen;I[J)I" } : Jvm.MethodName) method_3_code (4 : Nat) (Option.some Jvm.ClassFile.FieldType.int) [((0 : Nat), (9 : Nat), (12 : Nat), (13 : Nat))]) ∈ lw_all := lw_g (lw_at lw_m6 43 rfl) rfl
theorem q1395 : (Jvm.Cond.classLink "NeverUnseenLaw" (13 : Nat) "java/util/NoSuchElementException") ∈ lw_all := lw_g (lw_at lw_m6 44 rfl) rfl
theorem q1396 : (Jvm.Cond.methodLink "NeverUnseenLaw" (7 : Nat) ({ cls := "NeverUnseen", name := "led", desc := "(I)I" } : Jvm.MethodName)) ∈ lw_all := lw_g (lw_at lw_m6 45 rfl) rfl
theorem q1421 : (Jvm.Cond.classLink "NeverUnseenLaw" (16 : Nat) "NeverUnseenModel") ∈ lw_all := lw_g (lw_at lw_m6 70 rfl) rfl
theorem q1423 : (Jvm.Cond.methodLink "NeverUnseenLaw" (18 : Nat) ({ cls := "NeverUnseenModel", name := "<init>", desc := "()V" } : Jvm.MethodName)) ∈ lw_all := lw_g (lw_at lw_m6 72 rfl) rfl
theorem q1543 : (Jvm.Cond.methodLink "NeverUnseenLaw" (201 : Nat) ({ cls := "NeverUnseenModel", name := "thrown", desc := "()I" } : Jvm.MethodName)) ∈ lw_all := lw_g (lw_at lw_m6 192 rfl) rfl
theorem q1547 : (Jvm.Cond.methodLink "NeverUnseenLaw" (23 : Nat) ({ cls := "NeverUnseenModel", name := "feed", desc := "(IIIII)I" } : Jvm.MethodName)) ∈ lw_all := lw_g (lw_at lw_m6 196 rfl) rfl
theorem q1551 : (Jvm.Cond.methodLink "NeverUnseenLaw" (27 : Nat) ({ cls := "NeverUnseenModel", name := "valley", desc := "(I)I" } : Jvm.MethodName)) ∈ lw_all := lw_g (lw_at lw_m6 200 rfl) rfl
theorem q1895 : (Jvm.Cond.methodLink "NeverUnseenLaw" (32 : Nat) ({ cls := "NeverUnseenModel", name := "fault", desc := "()I" } : Jvm.MethodName)) ∈ lw_all := lw_g (lw_at lw_m8 64 rfl) rfl
theorem q1899 : (Jvm.Cond.methodLink "NeverUnseenLaw" (36 : Nat) ({ cls := "NeverUnseenModel", name := "where", desc := "()I" } : Jvm.MethodName)) ∈ lw_all := lw_g (lw_at lw_m8 68 rfl) rfl
theorem q1903 : (Jvm.Cond.methodLink "NeverUnseenLaw" (41 : Nat) ({ cls := "NeverUnseenModel", name := "plain", desc := "(III)I" } : Jvm.MethodName)) ∈ lw_all := lw_g (lw_at lw_m8 72 rfl) rfl
theorem q1925 : (Jvm.Cond.methodLink "NeverUnseenLaw" (46 : Nat) ({ cls := "NeverUnseenModel", name := "sees", desc := "(II)I" } : Jvm.MethodName)) ∈ lw_all := lw_g (lw_at lw_m8 94 rfl) rfl
theorem q1933 : (Jvm.Cond.methodLink "NeverUnseenLaw" (50 : Nat) ({ cls := "NeverUnseenModel", name := "middle", desc := "(I)I" } : Jvm.MethodName)) ∈ lw_all := lw_g (lw_at lw_m8 102 rfl) rfl
theorem q1941 : (Jvm.Cond.methodLink "NeverUnseenLaw" (54 : Nat) ({ cls := "NeverUnseenModel", name := "eyes", desc := "(II)I" } : Jvm.MethodName)) ∈ lw_all := lw_g (lw_at lw_m8 110 rfl) rfl
theorem q1953 : (Jvm.Cond.methodLink "NeverUnseenLaw" (59 : Nat) ({ cls := "NeverUnseenModel", name := "put", desc := "(II)Z" } : Jvm.MethodName)) ∈ lw_all := lw_g (lw_at lw_m8 122 rfl) rfl
theorem q1965 : (Jvm.Cond.methodLink "NeverUnseenLaw" (64 : Nat) ({ cls := "NeverUnseenModel", name := "time", desc := "(I)Z" } : Jvm.MethodName)) ∈ lw_all := lw_g (lw_at lw_m8 134 rfl) rfl
theorem q1969 : (Jvm.Cond.methodLink "NeverUnseenLaw" (68 : Nat) ({ cls := "NeverUnseenModel", name := "at", desc := "(I)I" } : Jvm.MethodName)) ∈ lw_all := lw_g (lw_at lw_m8 138 rfl) rfl
theorem q1973 : (Jvm.Cond.methodLink "NeverUnseenLaw" (72 : Nat) ({ cls := "NeverUnseenModel", name := "unseen", desc := "()I" } : Jvm.MethodName)) ∈ lw_all := lw_g (lw_at lw_m8 142 rfl) rfl
theorem q1985 : (Jvm.Cond.methodLink "NeverUnseenLaw" (76 : Nat) ({ cls := "NeverUnseenModel", name := "lawful", desc := "()I" } : Jvm.MethodName)) ∈ lw_all := lw_g (lw_at lw_m8 154 rfl) rfl
theorem q1997 : (Jvm.Cond.methodLink "NeverUnseenLaw" (80 : Nat) ({ cls := "NeverUnseenModel", name := "by", desc := "(I)I" } : Jvm.MethodName)) ∈ lw_all := lw_g (lw_at lw_m8 166 rfl) rfl
theorem q2001 : (Jvm.Cond.methodLink "NeverUnseenLaw" (85 : Nat) ({ cls := "NeverUnseenModel", name := "move", desc := "(III)Z" } : Jvm.MethodName)) ∈ lw_all := lw_g (lw_at lw_m8 170 rfl) rfl
theorem q2005 : (Jvm.Cond.methodLink "NeverUnseenLaw" (89 : Nat) ({ cls := "NeverUnseenModel", name := "planned", desc := "(II)I" } : Jvm.MethodName)) ∈ lw_all := lw_g (lw_at lw_m8 174 rfl) rfl
theorem q2009 : (Jvm.Cond.methodLink "NeverUnseenLaw" (93 : Nat) ({ cls := "NeverUnseenModel", name := "judge", desc := "()I" } : Jvm.MethodName)) ∈ lw_all := lw_g (lw_at lw_m8 178 rfl) rfl
theorem q2025 : (Jvm.Cond.methodLink "NeverUnseenLaw" (97 : Nat) ({ cls := "NeverUnseenModel", name := "why", desc := "()I" } : Jvm.MethodName)) ∈ lw_all := lw_g (lw_at lw_m8 194 rfl) rfl
theorem q2029 : (Jvm.Cond.methodLink "NeverUnseenLaw" (101 : Nat) ({ cls := "NeverUnseenModel", name := "done", desc := "(I)I" } : Jvm.MethodName)) ∈ lw_all := lw_g (lw_at lw_m8 198 rfl) rfl
theorem q2033 : (Jvm.Cond.methodLink "NeverUnseenLaw" (106 : Nat) ({ cls := "NeverUnseenModel", name := "forget", desc := "()Z" } : Jvm.MethodName)) ∈ lw_all := lw_g (lw_at lw_m8 202 rfl) rfl
theorem q2037 : (Jvm.Cond.methodLink "NeverUnseenLaw" (110 : Nat) ({ cls := "NeverUnseenModel", name := "posts", desc := "(II)I" } : Jvm.MethodName)) ∈ lw_all := lw_g (lw_at lw_m8 206 rfl) rfl
theorem q2052 : (Jvm.Cond.methodLink "NeverUnseenLaw" (114 : Nat) ({ cls := "NeverUnseenModel", name := "postsAt", desc := "(II)I" } : Jvm.MethodName)) ∈ lw_all := lw_g (lw_at lw_m8 221 rfl) rfl
theorem q2056 : (Jvm.Cond.methodLink "NeverUnseenLaw" (118 : Nat) ({ cls := "NeverUnseenModel", name := "go", desc := "(II)I" } : Jvm.MethodName)) ∈ lw_all := lw_g (lw_at lw_m8 225 rfl) rfl
theorem q2112 : (Jvm.Cond.methodLink "NeverUnseenLaw" (122 : Nat) ({ cls := "NeverUnseenModel", name := "path", desc := "(II)I" } : Jvm.MethodName)) ∈ lw_all := lw_g (lw_at lw_m9 41 rfl) rfl
theorem q2116 : (Jvm.Cond.methodLink "NeverUnseenLaw" (126 : Nat) ({ cls := "NeverUnseenModel", name := "doing", desc := "(II)I" } : Jvm.MethodName)) ∈ lw_all := lw_g (lw_at lw_m9 45 rfl) rfl
theorem q2124 : (Jvm.Cond.methodLink "NeverUnseenLaw" (130 : Nat) ({ cls := "NeverUnseenModel", name := "find", desc := "(II)I" } : Jvm.MethodName)) ∈ lw_all := lw_g (lw_at lw_m9 53 rfl) rfl
theorem q2136 : (Jvm.Cond.methodLink "NeverUnseenLaw" (134 : Nat) ({ cls := "NeverUnseenModel", name := "sleepers", desc := "(I)I" } : Jvm.MethodName)) ∈ lw_all := lw_g (lw_at lw_m9 65 rfl) rfl
theorem q2140 : (Jvm.Cond.methodLink "NeverUnseenLaw" (138 : Nat) ({ cls := "NeverUnseenModel", name := "alone", desc := "(I)I" } : Jvm.MethodName)) ∈ lw_all := lw_g (lw_at lw_m9 69 rfl) rfl
theorem q2152 : (Jvm.Cond.methodLink "NeverUnseenLaw" (142 : Nat) ({ cls := "NeverUnseenModel", name := "glass", desc := "(I)I" } : Jvm.MethodName)) ∈ lw_all := lw_g (lw_at lw_m9 81 rfl) rfl
theorem q2156 : (Jvm.Cond.methodLink "NeverUnseenLaw" (146 : Nat) ({ cls := "NeverUnseenModel", name := "pairs", desc := "(I)I" } : Jvm.MethodName)) ∈ lw_all := lw_g (lw_at lw_m9 85 rfl) rfl
theorem q2164 : (Jvm.Cond.methodLink "NeverUnseenLaw" (150 : Nat) ({ cls := "NeverUnseenModel", name := "window", desc := "(I)I" } : Jvm.MethodName)) ∈ lw_all := lw_g (lw_at lw_m9 93 rfl) rfl
theorem q2180 : (Jvm.Cond.methodLink "NeverUnseenLaw" (154 : Nat) ({ cls := "NeverUnseenModel", name := "frees", desc := "(I)I" } : Jvm.MethodName)) ∈ lw_all := lw_g (lw_at lw_m9 109 rfl) rfl
theorem q2184 : (Jvm.Cond.methodLink "NeverUnseenLaw" (158 : Nat) ({ cls := "NeverUnseenModel", name := "tower", desc := "(II)I" } : Jvm.MethodName)) ∈ lw_all := lw_g (lw_at lw_m9 113 rfl) rfl
theorem q2192 : (Jvm.Cond.methodLink "NeverUnseenLaw" (162 : Nat) ({ cls := "NeverUnseenModel", name := "made", desc := "(II)I" } : Jvm.MethodName)) ∈ lw_all := lw_g (lw_at lw_m9 121 rfl) rfl
theorem q2208 : (Jvm.Cond.methodLink "NeverUnseenLaw" (166 : Nat) ({ cls := "NeverUnseenModel", name := "needs", desc := "(II)I" } : Jvm.MethodName)) ∈ lw_all := lw_g (lw_at lw_m9 137 rfl) rfl
theorem q2212 : (Jvm.Cond.methodLink "NeverUnseenLaw" (171 : Nat) ({ cls := "NeverUnseenModel", name := "fog", desc := "()J" } : Jvm.MethodName)) ∈ lw_all := lw_g (lw_at lw_m9 141 rfl) rfl
theorem q2220 : (Jvm.Cond.methodLink "NeverUnseenLaw" (175 : Nat) ({ cls := "NeverUnseenModel", name := "ready", desc := "()I" } : Jvm.MethodName)) ∈ lw_all := lw_g (lw_at lw_m9 149 rfl) rfl
theorem q2224 : (Jvm.Cond.methodLink "NeverUnseenLaw" (179 : Nat) ({ cls := "NeverUnseenModel", name := "seed", desc := "(I)Z" } : Jvm.MethodName)) ∈ lw_all := lw_g (lw_at lw_m9 153 rfl) rfl
theorem q2229 : (Jvm.Cond.methodLink "NeverUnseenLaw" (183 : Nat) ({ cls := "NeverUnseenModel", name := "drift", desc := "()I" } : Jvm.MethodName)) ∈ lw_all := lw_g (lw_at lw_m9 158 rfl) rfl
theorem q2240 : (Jvm.Cond.methodLink "NeverUnseenLaw" (187 : Nat) ({ cls := "NeverUnseenModel", name := "image", desc := "()J" } : Jvm.MethodName)) ∈ lw_all := lw_g (lw_at lw_m9 169 rfl) rfl
theorem q2246 : (Jvm.Cond.methodLink "NeverUnseenLaw" (194 : Nat) ({ cls := "NeverUnseenModel", name := "restore", desc := "(J)Z" } : Jvm.MethodName)) ∈ lw_all := lw_g (lw_at lw_m9 175 rfl) rfl
theorem q2250 : (Jvm.Cond.methodLink "NeverUnseenLaw" (200 : Nat) ({ cls := "NeverUnseenModel", name := "led", desc := "(I)I" } : Jvm.MethodName)) ∈ lw_all := lw_g (lw_at lw_m9 179 rfl) rfl
theorem q2254 : (Jvm.Cond.methodLink "NeverUnseenLaw" (207 : Nat) ({ cls := "NeverUnseenModel", name := "size", desc := "(I)I" } : Jvm.MethodName)) ∈ lw_all := lw_g (lw_at lw_m9 183 rfl) rfl
theorem q2258 : (Jvm.Cond.methodLink "NeverUnseenLaw" (211 : Nat) ({ cls := "NeverUnseenModel", name := "trouble", desc := "()I" } : Jvm.MethodName)) ∈ lw_all := lw_g (lw_at lw_m9 187 rfl) rfl
theorem q2262 : (Jvm.Cond.constantLong "NeverUnseenLaw" (188 : Nat) (4294967295 : Int64)) ∈ lw_all := lw_g (lw_at lw_m9 191 rfl) rfl
/-! NeverUnseen$Refused -/
set_option maxRecDepth 100000
def RX3 : String := "NeverUnseen$Refused"
def TX3 : u_T := fun k => match k with
  | 0 => ("java/lang/Throwable", "cause", "Ljava/lang/Throwable;", false)
  | 1 => ("java/lang/Throwable", "stackTrace", "[Ljava/lang/StackTraceElement;", false)
  | 2 => ("java/lang/Throwable", "suppressedExceptions", "Ljava/util/List;", false)
  | 3 => ("java/lang/Throwable", "detailMessage", "Ljava/lang/String;", false)
  | 4 => ("java/lang/Throwable", "backtrace", "Ljava/lang/Object;", false)
  | 5 => ("java/lang/Throwable", "depth", "I", false)
  | 6 => ("NeverUnseen$Refused", "fault", "I", false)
  | _ => ("NeverUnseen$Refused", "place", "I", false)
def tyX3 : Nat → FieldType := fun k => match k with
  | 0 => .object "java/lang/Throwable"
  | 1 => .array (.object "java/lang/StackTraceElement")
  | 2 => .object "java/util/List"
  | 3 => .object "java/lang/String"
  | 4 => .object "java/lang/Object"
  | 5 => .int
  | 6 => .int
  | _ => .int
abbrev wsX30 : List Cond := u_ws RX3 TX3 8
theorem nmX3 : ∀ a, a < 8 → ∀ b, b < 8 → a ≠ b → (TX3 a).2.1 ≠ (TX3 b).2.1 := by decide +kernel
theorem tyX3_ok : ∀ k, k < 8 → parseFieldDescriptor (TX3 k).2.2.1 = some (tyX3 k) := by decide +kernel
abbrev cX3_init : ByteArray := prog_10_method_1_code
def yX3_init : MethodName := ⟨RX3, "<init>", "()V"⟩
def dkwX3_init_0 : List UInt8 := [42, 1, 1, 3, 3, 183, 0, 3, 42, 2, 181, 0, 9, 177]
abbrev dktX3_init_0 : List UInt8 := dkwX3_init_0 ++ []
theorem dksX3_init_0 : cX3_init.data.toList.drop 0 = dktX3_init_0 := by decide +kernel
theorem dX3_init_0 : decode cX3_init 0 = .ok (.aload_n 0, 1) := dk_42 (dk_at dksX3_init_0 0 rfl rfl)
theorem dX3_init_1 : decode cX3_init 1 = .ok (.aconst_null, 1) := dk_1 (dk_at dksX3_init_0 1 rfl rfl)
theorem dX3_init_2 : decode cX3_init 2 = .ok (.aconst_null, 1) := dk_1 (dk_at dksX3_init_0 2 rfl rfl)
theorem dX3_init_3 : decode cX3_init 3 = .ok (.iconst 0, 1) := dk_3 (dk_at dksX3_init_0 3 rfl rfl)
theorem dX3_init_4 : decode cX3_init 4 = .ok (.iconst 0, 1) := dk_3 (dk_at dksX3_init_0 4 rfl rfl)
theorem dX3_init_5 : decode cX3_init 5 = .ok (.invokespecial 3, 3) := dk_183 0 3 (dk_at dksX3_init_0 5 rfl rfl)
theorem dX3_init_8 : decode cX3_init 8 = .ok (.aload_n 0, 1) := dk_42 (dk_at dksX3_init_0 8 rfl rfl)
theorem dX3_init_9 : decode cX3_init 9 = .ok (.iconst (-1), 1) := dk_2 (dk_at dksX3_init_0 9 rfl rfl)
theorem dX3_init_10 : decode cX3_init 10 = .ok (.putfield 9, 3) := dk_181 0 9 (dk_at dksX3_init_0 10 rfl rfl)
theorem dX3_init_13 : decode cX3_init 13 = .ok (.return_, 1) := dk_177 (dk_at dksX3_init_0 13 rfl rfl)
abbrev cX3_at : ByteArray := prog_10_method_2_code
def yX3_at : MethodName := ⟨RX3, "at", "(II)LNeverUnseen$Refused;"⟩
def dkwX3_at_0 : List UInt8 := [42, 27, 181, 0, 15, 42, 28, 181, 0, 9, 42, 176]
abbrev dktX3_at_0 : List UInt8 := dkwX3_at_0 ++ []
theorem dksX3_at_0 : cX3_at.data.toList.drop 0 = dktX3_at_0 := by decide +kernel
theorem dX3_at_0 : decode cX3_at 0 = .ok (.aload_n 0, 1) := dk_42 (dk_at dksX3_at_0 0 rfl rfl)
theorem dX3_at_1 : decode cX3_at 1 = .ok (.iload_n 1, 1) := dk_27 (dk_at dksX3_at_0 1 rfl rfl)
theorem dX3_at_2 : decode cX3_at 2 = .ok (.putfield 15, 3) := dk_181 0 15 (dk_at dksX3_at_0 2 rfl rfl)
theorem dX3_at_5 : decode cX3_at 5 = .ok (.aload_n 0, 1) := dk_42 (dk_at dksX3_at_0 5 rfl rfl)
theorem dX3_at_6 : decode cX3_at 6 = .ok (.iload_n 2, 1) := dk_28 (dk_at dksX3_at_0 6 rfl rfl)
theorem dX3_at_7 : decode cX3_at 7 = .ok (.putfield 9, 3) := dk_181 0 9 (dk_at dksX3_at_0 7 rfl rfl)
theorem dX3_at_10 : decode cX3_at 10 = .ok (.aload_n 0, 1) := dk_42 (dk_at dksX3_at_0 10 rfl rfl)
theorem dX3_at_11 : decode cX3_at 11 = .ok (.areturn, 1) := dk_176 (dk_at dksX3_at_0 11 rfl rfl)
theorem q157 : (Jvm.Cond.initialized "NeverUnseen$Refused") ∈ lw_all := lw_g (lw_at lw_m1 6 rfl) rfl
theorem q192 : (Jvm.Cond.instantiable "NeverUnseen$Refused" (8 : Nat)) ∈ lw_all := lw_g (lw_at lw_m1 41 rfl) rfl
theorem q193 : (Jvm.Cond.castable "NeverUnseen$Refused" "NeverUnseen$Refused") ∈ lw_tbl := lw_at lw_m1 42 rfl
theorem q200 : (Jvm.Cond.selects "NeverUnseen$Refused" ({ cls := "java/lang/Throwable", name := "fillInStackTrace", desc := "(I)Ljava/lang/Throwable;" } : Jvm.MethodName) ({ cls := "java/lang/Throwable", name := "fillInStackTrace", desc := "(I)Ljava/lang/Throwable;" } : Jvm.MethodName)) ∈ lw_all := lw_g (lw_at lw_m1 49 rfl) rfl
theorem q201 : (Jvm.Cond.selects "NeverUnseen$Refused" ({ cls := "java/lang/Throwable", name := "fillInStackTrace", desc := "()Ljava/lang/Throwable;" } : Jvm.MethodName) ({ cls := "java/lang/Throwable", name := "fillInStackTrace", desc := "()Ljava/lang/Throwable;" } : Jvm.MethodName)) ∈ lw_all := lw_g (lw_at lw_m1 50 rfl) rfl
theorem q202 : (Jvm.Cond.lays "NeverUnseen$Refused" "java/lang/Throwable" "cause" "Ljava/lang/Throwable;") ∈ lw_all := lw_g (lw_at lw_m1 51 rfl) rfl
theorem q204 : (Jvm.Cond.lays "NeverUnseen$Refused" "java/lang/Throwable" "stackTrace" "[Ljava/lang/StackTraceElement;") ∈ lw_all := lw_g (lw_at lw_m1 53 rfl) rfl
theorem q206 : (Jvm.Cond.lays "NeverUnseen$Refused" "java/lang/Throwable" "suppressedExceptions" "Ljava/util/List;") ∈ lw_all := lw_g (lw_at lw_m1 55 rfl) rfl
theorem q208 : (Jvm.Cond.lays "NeverUnseen$Refused" "java/lang/Throwable" "detailMessage" "Ljava/lang/String;") ∈ lw_all := lw_g (lw_at lw_m1 57 rfl) rfl
theorem q210 : (Jvm.Cond.lays "NeverUnseen$Refused" "java/lang/Throwable" "backtrace" "Ljava/lang/Object;") ∈ lw_all := lw_g (lw_at lw_m1 59 rfl) rfl
theorem q232 : (Jvm.Cond.instanceMethod ({ cls := "NeverUnseen$Refused", name := "<init>", desc := "()V" } : Jvm.MethodName)) ∈ lw_all := lw_g (lw_at lw_m1 81 rfl) rfl
theorem q233 : (Jvm.Cond.code ({ cls := "NeverUnseen$Refused", name := "<init>", desc := "()V" } : Jvm.MethodName) prog_10_method_1_code (1 : Nat) (Option.none : Option Jvm.ClassFile.FieldType)) ∈ lw_all := lw_g (lw_at lw_m1 82 rfl) rfl
theorem q234 : (Jvm.Cond.methodLink "NeverUnseen$Refused" (3 : Nat) ({ cls := "java/lang/RuntimeException", name := "<init>", desc := "(Ljava/lang/String;Ljava/lang/Throwable;ZZ)V" } : Jvm.MethodName)) ∈ lw_all := lw_g (lw_at lw_m1 83 rfl) rfl
theorem q243 : (Jvm.Cond.fieldLink "NeverUnseen$Refused" (15 : Nat) "NeverUnseen$Refused" "fault" "I") ∈ lw_all := lw_g (lw_at lw_m1 92 rfl) rfl
theorem q245 : (Jvm.Cond.fieldLink "NeverUnseen$Refused" (9 : Nat) "NeverUnseen$Refused" "place" "I") ∈ lw_all := lw_g (lw_at lw_m1 94 rfl) rfl
theorem q252 : (Jvm.Cond.lays "NeverUnseen$Refused" "NeverUnseen$Refused" "fault" "I") ∈ lw_all := lw_g (lw_at lw_m1 101 rfl) rfl
theorem q253 : (Jvm.Cond.soleField "NeverUnseen$Refused" "fault") ∈ lw_all := lw_g (lw_at lw_m1 102 rfl) rfl
theorem q254 : (Jvm.Cond.lays "NeverUnseen$Refused" "NeverUnseen$Refused" "place" "I") ∈ lw_all := lw_g (lw_at lw_m1 103 rfl) rfl
theorem q255 : (Jvm.Cond.soleField "NeverUnseen$Refused" "place") ∈ lw_all := lw_g (lw_at lw_m1 104 rfl) rfl
theorem q260 : (Jvm.Cond.lays "NeverUnseen$Refused" "java/lang/Throwable" "depth" "I") ∈ lw_all := lw_g (lw_at lw_m1 109 rfl) rfl
theorem q263 : (Jvm.Cond.superclass "NeverUnseen$Refused" "java/lang/RuntimeException") ∈ lw_all := lw_g (lw_at lw_m1 112 rfl) rfl
theorem q653 : (Jvm.Cond.instanceMethod ({ cls := "NeverUnseen$Refused", name := "at", desc := "(II)LNeverUnseen$Refused;" } : Jvm.MethodName)) ∈ lw_all := lw_g (lw_at lw_m3 22 rfl) rfl
theorem q654 : (Jvm.Cond.selects "NeverUnseen$Refused" ({ cls := "NeverUnseen$Refused", name := "at", desc := "(II)LNeverUnseen$Refused;" } : Jvm.MethodName) ({ cls := "NeverUnseen$Refused", name := "at", desc := "(II)LNeverUnseen$Refused;" } : Jvm.MethodName)) ∈ lw_all := lw_g (lw_at lw_m3 23 rfl) rfl
theorem q655 : (Jvm.Cond.code ({ cls := "NeverUnseen$Refused", name := "at", desc := "(II)LNeverUnseen$Refused;" } : Jvm.MethodName) prog_10_method_2_code (3 : Nat) (Option.some (Jvm.ClassFile.FieldType.object "NeverUnseen$Refused"))) ∈ lw_all := lw_g (lw_at lw_m3 24 rfl) rfl
theorem q2266 : (Jvm.Cond.castable "NeverUnseen$Refused" "java/lang/Object") ∈ lw_tbl := lw_at lw_m9 195 rfl
theorem in_X3 : ∀ w ∈ wsX30, w ∈ lw_all := lw_in wsX30 [202, 204, 206, 208, 210, 260, 252, 254] (by decide +kernel) (by decide +kernel)
/-! NeverUnseen$Sight -/
set_option maxRecDepth 100000
def RX4 : String := "NeverUnseen$Sight"
def TX4 : u_T := fun k => match k with
  | 0 => ("NeverUnseen$Sight", "plain", "[I", true)
  | _ => ("NeverUnseen$Sight", "rows", "[I", true)
def tyX4 : Nat → FieldType := fun k => match k with
  | 0 => .array .int
  | _ => .array .int
abbrev wsX40 : List Cond := u_ws RX4 TX4 2
theorem nmX4 : ∀ a, a < 2 → ∀ b, b < 2 → a ≠ b → (TX4 a).2.1 ≠ (TX4 b).2.1 := by decide +kernel
theorem tyX4_ok : ∀ k, k < 2 → parseFieldDescriptor (TX4 k).2.2.1 = some (tyX4 k) := by decide +kernel
abbrev cX4_init : ByteArray := prog_11_method_1_code
def yX4_init : MethodName := ⟨RX4, "<init>", "()V"⟩
def dkwX4_init_0 : List UInt8 := [42, 183, 0, 3, 42, 16, 10, 188, 10, 181, 0, 9, 42, 16, 10, 188, 10, 181, 0, 15, 177]
abbrev dktX4_init_0 : List UInt8 := dkwX4_init_0 ++ []
theorem dksX4_init_0 : cX4_init.data.toList.drop 0 = dktX4_init_0 := by decide +kernel
theorem dX4_init_0 : decode cX4_init 0 = .ok (.aload_n 0, 1) := dk_42 (dk_at dksX4_init_0 0 rfl rfl)
theorem dX4_init_1 : decode cX4_init 1 = .ok (.invokespecial 3, 3) := dk_183 0 3 (dk_at dksX4_init_0 1 rfl rfl)
theorem dX4_init_4 : decode cX4_init 4 = .ok (.aload_n 0, 1) := dk_42 (dk_at dksX4_init_0 4 rfl rfl)
theorem dX4_init_5 : decode cX4_init 5 = .ok (.bipush 10, 2) := dk_16 10 (dk_at dksX4_init_0 5 rfl rfl)
theorem dX4_init_7 : decode cX4_init 7 = .ok (.newarray .int, 2) := dk_188_10 (dk_at dksX4_init_0 7 rfl rfl)
theorem dX4_init_9 : decode cX4_init 9 = .ok (.putfield 9, 3) := dk_181 0 9 (dk_at dksX4_init_0 9 rfl rfl)
theorem dX4_init_12 : decode cX4_init 12 = .ok (.aload_n 0, 1) := dk_42 (dk_at dksX4_init_0 12 rfl rfl)
theorem dX4_init_13 : decode cX4_init 13 = .ok (.bipush 10, 2) := dk_16 10 (dk_at dksX4_init_0 13 rfl rfl)
theorem dX4_init_15 : decode cX4_init 15 = .ok (.newarray .int, 2) := dk_188_10 (dk_at dksX4_init_0 15 rfl rfl)
theorem dX4_init_17 : decode cX4_init 17 = .ok (.putfield 15, 3) := dk_181 0 15 (dk_at dksX4_init_0 17 rfl rfl)
theorem dX4_init_20 : decode cX4_init 20 = .ok (.return_, 1) := dk_177 (dk_at dksX4_init_0 20 rfl rfl)
abbrev cX4_look : ByteArray := prog_11_method_2_code
def yX4_look : MethodName := ⟨RX4, "look", "(LNeverUnseen$Valley;III)V"⟩
def dkwX4_look_9 : List UInt8 := [79, 132, 6, 1, 167, 255, 202, 132, 5, 1, 167, 255, 165, 177]
abbrev dktX4_look_9 : List UInt8 := dkwX4_look_9 ++ []
def dkwX4_look_8 : List UInt8 := [153, 0, 25, 42, 180, 0, 15, 21, 5, 92, 46, 42, 180, 0, 9, 43, 180, 0, 39, 21, 6, 46, 46, 128]
abbrev dktX4_look_8 : List UInt8 := dkwX4_look_8 ++ dktX4_look_9
def dkwX4_look_7 : List UInt8 := [43, 180, 0, 36, 162, 0, 51, 42, 180, 0, 9, 21, 5, 46, 43, 180, 0, 39, 21, 6, 46, 184, 0, 24]
abbrev dktX4_look_7 : List UInt8 := dkwX4_look_7 ++ dktX4_look_8
def dkwX4_look_6 : List UInt8 := [42, 180, 0, 15, 21, 5, 42, 180, 0, 9, 21, 5, 46, 4, 21, 5, 120, 128, 79, 3, 54, 6, 21, 6]
abbrev dktX4_look_6 : List UInt8 := dkwX4_look_6 ++ dktX4_look_7
def dkwX4_look_5 : List UInt8 := [132, 6, 1, 167, 255, 163, 132, 5, 1, 167, 255, 137, 3, 54, 5, 21, 5, 43, 180, 0, 18, 162, 0, 88]
abbrev dktX4_look_5 : List UInt8 := dkwX4_look_5 ++ dktX4_look_6
def dkwX4_look_4 : List UInt8 := [180, 0, 9, 21, 5, 92, 46, 21, 7, 153, 0, 10, 4, 21, 6, 120, 167, 0, 4, 3, 128, 79]
abbrev dktX4_look_4 : List UInt8 := dkwX4_look_4 ++ dktX4_look_5
def dkwX4_look_3 : List UInt8 := [163, 0, 19, 43, 21, 5, 21, 6, 29, 182, 0, 32, 154, 0, 7, 4, 167, 0, 4, 3, 54, 7, 42]
abbrev dktX4_look_3 : List UInt8 := dkwX4_look_3 ++ dktX4_look_4
def dkwX4_look_2 : List UInt8 := [154, 0, 41, 21, 4, 21, 6, 184, 0, 24, 154, 0, 31, 43, 21, 5, 21, 6, 182, 0, 28, 28]
abbrev dktX4_look_2 : List UInt8 := dkwX4_look_2 ++ dktX4_look_3
def dkwX4_look_1 : List UInt8 := [21, 6, 43, 180, 0, 18, 162, 0, 90, 21, 5, 21, 6, 159, 0, 51, 21, 4, 21, 5, 184, 0, 24]
abbrev dktX4_look_1 : List UInt8 := dkwX4_look_1 ++ dktX4_look_2
def dkwX4_look_0 : List UInt8 := [3, 54, 5, 21, 5, 43, 180, 0, 18, 162, 0, 116, 42, 180, 0, 9, 21, 5, 3, 79, 3, 54, 6]
abbrev dktX4_look_0 : List UInt8 := dkwX4_look_0 ++ dktX4_look_1
theorem dksX4_look_0 : cX4_look.data.toList.drop 0 = dktX4_look_0 := by decide +kernel
theorem dksX4_look_1 : cX4_look.data.toList.drop 23 = dktX4_look_1 := dk_seg dksX4_look_0 23 rfl rfl
theorem dksX4_look_2 : cX4_look.data.toList.drop 46 = dktX4_look_2 := dk_seg dksX4_look_1 23 rfl rfl
theorem dksX4_look_3 : cX4_look.data.toList.drop 68 = dktX4_look_3 := dk_seg dksX4_look_2 22 rfl rfl
theorem dksX4_look_4 : cX4_look.data.toList.drop 91 = dktX4_look_4 := dk_seg dksX4_look_3 23 rfl rfl
theorem dksX4_look_5 : cX4_look.data.toList.drop 113 = dktX4_look_5 := dk_seg dksX4_look_4 22 rfl rfl
theorem dksX4_look_6 : cX4_look.data.toList.drop 137 = dktX4_look_6 := dk_seg dksX4_look_5 24 rfl rfl
theorem dksX4_look_7 : cX4_look.data.toList.drop 161 = dktX4_look_7 := dk_seg dksX4_look_6 24 rfl rfl
theorem dksX4_look_8 : cX4_look.data.toList.drop 185 = dktX4_look_8 := dk_seg dksX4_look_7 24 rfl rfl
theorem dksX4_look_9 : cX4_look.data.toList.drop 209 = dktX4_look_9 := dk_seg dksX4_look_8 24 rfl rfl
theorem dX4_look_0 : decode cX4_look 0 = .ok (.iconst 0, 1) := dk_3 (dk_at dksX4_look_0 0 rfl rfl)
theorem dX4_look_1 : decode cX4_look 1 = .ok (.istore 5, 2) := dk_54 5 (dk_at dksX4_look_0 1 rfl rfl)
theorem dX4_look_3 : decode cX4_look 3 = .ok (.iload 5, 2) := dk_21 5 (dk_at dksX4_look_0 3 rfl rfl)
theorem dX4_look_5 : decode cX4_look 5 = .ok (.aload_n 1, 1) := dk_43 (dk_at dksX4_look_0 5 rfl rfl)
theorem dX4_look_6 : decode cX4_look 6 = .ok (.getfield 18, 3) := dk_180 0 18 (dk_at dksX4_look_0 6 rfl rfl)
theorem dX4_look_9 : decode cX4_look 9 = .ok (.if_icmp .ge 116, 3) := dk_162 0 116 (dk_at dksX4_look_0 9 rfl rfl)
theorem dX4_look_12 : decode cX4_look 12 = .ok (.aload_n 0, 1) := dk_42 (dk_at dksX4_look_0 12 rfl rfl)
theorem dX4_look_13 : decode cX4_look 13 = .ok (.getfield 9, 3) := dk_180 0 9 (dk_at dksX4_look_0 13 rfl rfl)
theorem dX4_look_16 : decode cX4_look 16 = .ok (.iload 5, 2) := dk_21 5 (dk_at dksX4_look_0 16 rfl rfl)
theorem dX4_look_18 : decode cX4_look 18 = .ok (.iconst 0, 1) := dk_3 (dk_at dksX4_look_0 18 rfl rfl)
theorem dX4_look_19 : decode cX4_look 19 = .ok (.iastore, 1) := dk_79 (dk_at dksX4_look_0 19 rfl rfl)
theorem dX4_look_20 : decode cX4_look 20 = .ok (.iconst 0, 1) := dk_3 (dk_at dksX4_look_0 20 rfl rfl)
theorem dX4_look_21 : decode cX4_look 21 = .ok (.istore 6, 2) := dk_54 6 (dk_at dksX4_look_0 21 rfl rfl)
theorem dX4_look_23 : decode cX4_look 23 = .ok (.iload 6, 2) := dk_21 6 (dk_at dksX4_look_1 0 rfl rfl)
theorem dX4_look_25 : decode cX4_look 25 = .ok (.aload_n 1, 1) := dk_43 (dk_at dksX4_look_1 2 rfl rfl)
theorem dX4_look_26 : decode cX4_look 26 = .ok (.getfield 18, 3) := dk_180 0 18 (dk_at dksX4_look_1 3 rfl rfl)
theorem dX4_look_29 : decode cX4_look 29 = .ok (.if_icmp .ge 90, 3) := dk_162 0 90 (dk_at dksX4_look_1 6 rfl rfl)
theorem dX4_look_32 : decode cX4_look 32 = .ok (.iload 5, 2) := dk_21 5 (dk_at dksX4_look_1 9 rfl rfl)
theorem dX4_look_34 : decode cX4_look 34 = .ok (.iload 6, 2) := dk_21 6 (dk_at dksX4_look_1 11 rfl rfl)
theorem dX4_look_36 : decode cX4_look 36 = .ok (.if_icmp .eq 51, 3) := dk_159 0 51 (dk_at dksX4_look_1 13 rfl rfl)
theorem dX4_look_39 : decode cX4_look 39 = .ok (.iload 4, 2) := dk_21 4 (dk_at dksX4_look_1 16 rfl rfl)
theorem dX4_look_41 : decode cX4_look 41 = .ok (.iload 5, 2) := dk_21 5 (dk_at dksX4_look_1 18 rfl rfl)
theorem dX4_look_43 : decode cX4_look 43 = .ok (.invokestatic 24, 3) := dk_184 0 24 (dk_at dksX4_look_1 20 rfl rfl)
theorem dX4_look_46 : decode cX4_look 46 = .ok (.ifCond .ne 41, 3) := dk_154 0 41 (dk_at dksX4_look_2 0 rfl rfl)
theorem dX4_look_49 : decode cX4_look 49 = .ok (.iload 4, 2) := dk_21 4 (dk_at dksX4_look_2 3 rfl rfl)
theorem dX4_look_51 : decode cX4_look 51 = .ok (.iload 6, 2) := dk_21 6 (dk_at dksX4_look_2 5 rfl rfl)
theorem dX4_look_53 : decode cX4_look 53 = .ok (.invokestatic 24, 3) := dk_184 0 24 (dk_at dksX4_look_2 7 rfl rfl)
theorem dX4_look_56 : decode cX4_look 56 = .ok (.ifCond .ne 31, 3) := dk_154 0 31 (dk_at dksX4_look_2 10 rfl rfl)
theorem dX4_look_59 : decode cX4_look 59 = .ok (.aload_n 1, 1) := dk_43 (dk_at dksX4_look_2 13 rfl rfl)
theorem dX4_look_60 : decode cX4_look 60 = .ok (.iload 5, 2) := dk_21 5 (dk_at dksX4_look_2 14 rfl rfl)
theorem dX4_look_62 : decode cX4_look 62 = .ok (.iload 6, 2) := dk_21 6 (dk_at dksX4_look_2 16 rfl rfl)
theorem dX4_look_64 : decode cX4_look 64 = .ok (.invokevirtual 28, 3) := dk_182 0 28 (dk_at dksX4_look_2 18 rfl rfl)
theorem dX4_look_67 : decode cX4_look 67 = .ok (.iload_n 2, 1) := dk_28 (dk_at dksX4_look_2 21 rfl rfl)
theorem dX4_look_68 : decode cX4_look 68 = .ok (.if_icmp .gt 19, 3) := dk_163 0 19 (dk_at dksX4_look_3 0 rfl rfl)
theorem dX4_look_71 : decode cX4_look 71 = .ok (.aload_n 1, 1) := dk_43 (dk_at dksX4_look_3 3 rfl rfl)
theorem dX4_look_72 : decode cX4_look 72 = .ok (.iload 5, 2) := dk_21 5 (dk_at dksX4_look_3 4 rfl rfl)
theorem dX4_look_74 : decode cX4_look 74 = .ok (.iload 6, 2) := dk_21 6 (dk_at dksX4_look_3 6 rfl rfl)
theorem dX4_look_76 : decode cX4_look 76 = .ok (.iload_n 3, 1) := dk_29 (dk_at dksX4_look_3 8 rfl rfl)
theorem dX4_look_77 : decode cX4_look 77 = .ok (.invokevirtual 32, 3) := dk_182 0 32 (dk_at dksX4_look_3 9 rfl rfl)
theorem dX4_look_80 : decode cX4_look 80 = .ok (.ifCond .ne 7, 3) := dk_154 0 7 (dk_at dksX4_look_3 12 rfl rfl)
theorem dX4_look_83 : decode cX4_look 83 = .ok (.iconst 1, 1) := dk_4 (dk_at dksX4_look_3 15 rfl rfl)
theorem dX4_look_84 : decode cX4_look 84 = .ok (.goto 4, 3) := dk_167 0 4 (dk_at dksX4_look_3 16 rfl rfl)
theorem dX4_look_87 : decode cX4_look 87 = .ok (.iconst 0, 1) := dk_3 (dk_at dksX4_look_3 19 rfl rfl)
theorem dX4_look_88 : decode cX4_look 88 = .ok (.istore 7, 2) := dk_54 7 (dk_at dksX4_look_3 20 rfl rfl)
theorem dX4_look_90 : decode cX4_look 90 = .ok (.aload_n 0, 1) := dk_42 (dk_at dksX4_look_3 22 rfl rfl)
theorem dX4_look_91 : decode cX4_look 91 = .ok (.getfield 9, 3) := dk_180 0 9 (dk_at dksX4_look_4 0 rfl rfl)
theorem dX4_look_94 : decode cX4_look 94 = .ok (.iload 5, 2) := dk_21 5 (dk_at dksX4_look_4 3 rfl rfl)
theorem dX4_look_96 : decode cX4_look 96 = .ok (.dup2, 1) := dk_92 (dk_at dksX4_look_4 5 rfl rfl)
theorem dX4_look_97 : decode cX4_look 97 = .ok (.iaload, 1) := dk_46 (dk_at dksX4_look_4 6 rfl rfl)
theorem dX4_look_98 : decode cX4_look 98 = .ok (.iload 7, 2) := dk_21 7 (dk_at dksX4_look_4 7 rfl rfl)
theorem dX4_look_100 : decode cX4_look 100 = .ok (.ifCond .eq 10, 3) := dk_153 0 10 (dk_at dksX4_look_4 9 rfl rfl)
theorem dX4_look_103 : decode cX4_look 103 = .ok (.iconst 1, 1) := dk_4 (dk_at dksX4_look_4 12 rfl rfl)
theorem dX4_look_104 : decode cX4_look 104 = .ok (.iload 6, 2) := dk_21 6 (dk_at dksX4_look_4 13 rfl rfl)
theorem dX4_look_106 : decode cX4_look 106 = .ok (.ishl, 1) := dk_120 (dk_at dksX4_look_4 15 rfl rfl)
theorem dX4_look_107 : decode cX4_look 107 = .ok (.goto 4, 3) := dk_167 0 4 (dk_at dksX4_look_4 16 rfl rfl)
theorem dX4_look_110 : decode cX4_look 110 = .ok (.iconst 0, 1) := dk_3 (dk_at dksX4_look_4 19 rfl rfl)
theorem dX4_look_111 : decode cX4_look 111 = .ok (.ior, 1) := dk_128 (dk_at dksX4_look_4 20 rfl rfl)
theorem dX4_look_112 : decode cX4_look 112 = .ok (.iastore, 1) := dk_79 (dk_at dksX4_look_4 21 rfl rfl)
theorem dX4_look_113 : decode cX4_look 113 = .ok (.iinc 6 1, 3) := dk_132 6 1 (dk_at dksX4_look_5 0 rfl rfl)
theorem dX4_look_116 : decode cX4_look 116 = .ok (.goto (-93), 3) := dk_167 255 163 (dk_at dksX4_look_5 3 rfl rfl)
theorem dX4_look_119 : decode cX4_look 119 = .ok (.iinc 5 1, 3) := dk_132 5 1 (dk_at dksX4_look_5 6 rfl rfl)
theorem dX4_look_122 : decode cX4_look 122 = .ok (.goto (-119), 3) := dk_167 255 137 (dk_at dksX4_look_5 9 rfl rfl)
theorem dX4_look_125 : decode cX4_look 125 = .ok (.iconst 0, 1) := dk_3 (dk_at dksX4_look_5 12 rfl rfl)
theorem dX4_look_126 : decode cX4_look 126 = .ok (.istore 5, 2) := dk_54 5 (dk_at dksX4_look_5 13 rfl rfl)
theorem dX4_look_128 : decode cX4_look 128 = .ok (.iload 5, 2) := dk_21 5 (dk_at dksX4_look_5 15 rfl rfl)
theorem dX4_look_130 : decode cX4_look 130 = .ok (.aload_n 1, 1) := dk_43 (dk_at dksX4_look_5 17 rfl rfl)
theorem dX4_look_131 : decode cX4_look 131 = .ok (.getfield 18, 3) := dk_180 0 18 (dk_at dksX4_look_5 18 rfl rfl)
theorem dX4_look_134 : decode cX4_look 134 = .ok (.if_icmp .ge 88, 3) := dk_162 0 88 (dk_at dksX4_look_5 21 rfl rfl)
theorem dX4_look_137 : decode cX4_look 137 = .ok (.aload_n 0, 1) := dk_42 (dk_at dksX4_look_6 0 rfl rfl)
theorem dX4_look_138 : decode cX4_look 138 = .ok (.getfield 15, 3) := dk_180 0 15 (dk_at dksX4_look_6 1 rfl rfl)
theorem dX4_look_141 : decode cX4_look 141 = .ok (.iload 5, 2) := dk_21 5 (dk_at dksX4_look_6 4 rfl rfl)
theorem dX4_look_143 : decode cX4_look 143 = .ok (.aload_n 0, 1) := dk_42 (dk_at dksX4_look_6 6 rfl rfl)
theorem dX4_look_144 : decode cX4_look 144 = .ok (.getfield 9, 3) := dk_180 0 9 (dk_at dksX4_look_6 7 rfl rfl)
theorem dX4_look_147 : decode cX4_look 147 = .ok (.iload 5, 2) := dk_21 5 (dk_at dksX4_look_6 10 rfl rfl)
theorem dX4_look_149 : decode cX4_look 149 = .ok (.iaload, 1) := dk_46 (dk_at dksX4_look_6 12 rfl rfl)
theorem dX4_look_150 : decode cX4_look 150 = .ok (.iconst 1, 1) := dk_4 (dk_at dksX4_look_6 13 rfl rfl)
theorem dX4_look_151 : decode cX4_look 151 = .ok (.iload 5, 2) := dk_21 5 (dk_at dksX4_look_6 14 rfl rfl)
theorem dX4_look_153 : decode cX4_look 153 = .ok (.ishl, 1) := dk_120 (dk_at dksX4_look_6 16 rfl rfl)
theorem dX4_look_154 : decode cX4_look 154 = .ok (.ior, 1) := dk_128 (dk_at dksX4_look_6 17 rfl rfl)
theorem dX4_look_155 : decode cX4_look 155 = .ok (.iastore, 1) := dk_79 (dk_at dksX4_look_6 18 rfl rfl)
theorem dX4_look_156 : decode cX4_look 156 = .ok (.iconst 0, 1) := dk_3 (dk_at dksX4_look_6 19 rfl rfl)
theorem dX4_look_157 : decode cX4_look 157 = .ok (.istore 6, 2) := dk_54 6 (dk_at dksX4_look_6 20 rfl rfl)
theorem dX4_look_159 : decode cX4_look 159 = .ok (.iload 6, 2) := dk_21 6 (dk_at dksX4_look_6 22 rfl rfl)
theorem dX4_look_161 : decode cX4_look 161 = .ok (.aload_n 1, 1) := dk_43 (dk_at dksX4_look_7 0 rfl rfl)
theorem dX4_look_162 : decode cX4_look 162 = .ok (.getfield 36, 3) := dk_180 0 36 (dk_at dksX4_look_7 1 rfl rfl)
theorem dX4_look_165 : decode cX4_look 165 = .ok (.if_icmp .ge 51, 3) := dk_162 0 51 (dk_at dksX4_look_7 4 rfl rfl)
theorem dX4_look_168 : decode cX4_look 168 = .ok (.aload_n 0, 1) := dk_42 (dk_at dksX4_look_7 7 rfl rfl)
theorem dX4_look_169 : decode cX4_look 169 = .ok (.getfield 9, 3) := dk_180 0 9 (dk_at dksX4_look_7 8 rfl rfl)
theorem dX4_look_172 : decode cX4_look 172 = .ok (.iload 5, 2) := dk_21 5 (dk_at dksX4_look_7 11 rfl rfl)
theorem dX4_look_174 : decode cX4_look 174 = .ok (.iaload, 1) := dk_46 (dk_at dksX4_look_7 13 rfl rfl)
theorem dX4_look_175 : decode cX4_look 175 = .ok (.aload_n 1, 1) := dk_43 (dk_at dksX4_look_7 14 rfl rfl)
theorem dX4_look_176 : decode cX4_look 176 = .ok (.getfield 39, 3) := dk_180 0 39 (dk_at dksX4_look_7 15 rfl rfl)
theorem dX4_look_179 : decode cX4_look 179 = .ok (.iload 6, 2) := dk_21 6 (dk_at dksX4_look_7 18 rfl rfl)
theorem dX4_look_181 : decode cX4_look 181 = .ok (.iaload, 1) := dk_46 (dk_at dksX4_look_7 20 rfl rfl)
theorem dX4_look_182 : decode cX4_look 182 = .ok (.invokestatic 24, 3) := dk_184 0 24 (dk_at dksX4_look_7 21 rfl rfl)
theorem dX4_look_185 : decode cX4_look 185 = .ok (.ifCond .eq 25, 3) := dk_153 0 25 (dk_at dksX4_look_8 0 rfl rfl)
theorem dX4_look_188 : decode cX4_look 188 = .ok (.aload_n 0, 1) := dk_42 (dk_at dksX4_look_8 3 rfl rfl)
theorem dX4_look_189 : decode cX4_look 189 = .ok (.getfield 15, 3) := dk_180 0 15 (dk_at dksX4_look_8 4 rfl rfl)
theorem dX4_look_192 : decode cX4_look 192 = .ok (.iload 5, 2) := dk_21 5 (dk_at dksX4_look_8 7 rfl rfl)
theorem dX4_look_194 : decode cX4_look 194 = .ok (.dup2, 1) := dk_92 (dk_at dksX4_look_8 9 rfl rfl)
theorem dX4_look_195 : decode cX4_look 195 = .ok (.iaload, 1) := dk_46 (dk_at dksX4_look_8 10 rfl rfl)
theorem dX4_look_196 : decode cX4_look 196 = .ok (.aload_n 0, 1) := dk_42 (dk_at dksX4_look_8 11 rfl rfl)
theorem dX4_look_197 : decode cX4_look 197 = .ok (.getfield 9, 3) := dk_180 0 9 (dk_at dksX4_look_8 12 rfl rfl)
theorem dX4_look_200 : decode cX4_look 200 = .ok (.aload_n 1, 1) := dk_43 (dk_at dksX4_look_8 15 rfl rfl)
theorem dX4_look_201 : decode cX4_look 201 = .ok (.getfield 39, 3) := dk_180 0 39 (dk_at dksX4_look_8 16 rfl rfl)
theorem dX4_look_204 : decode cX4_look 204 = .ok (.iload 6, 2) := dk_21 6 (dk_at dksX4_look_8 19 rfl rfl)
theorem dX4_look_206 : decode cX4_look 206 = .ok (.iaload, 1) := dk_46 (dk_at dksX4_look_8 21 rfl rfl)
theorem dX4_look_207 : decode cX4_look 207 = .ok (.iaload, 1) := dk_46 (dk_at dksX4_look_8 22 rfl rfl)
theorem dX4_look_208 : decode cX4_look 208 = .ok (.ior, 1) := dk_128 (dk_at dksX4_look_8 23 rfl rfl)
theorem dX4_look_209 : decode cX4_look 209 = .ok (.iastore, 1) := dk_79 (dk_at dksX4_look_9 0 rfl rfl)
theorem dX4_look_210 : decode cX4_look 210 = .ok (.iinc 6 1, 3) := dk_132 6 1 (dk_at dksX4_look_9 1 rfl rfl)
theorem dX4_look_213 : decode cX4_look 213 = .ok (.goto (-54), 3) := dk_167 255 202 (dk_at dksX4_look_9 4 rfl rfl)
theorem dX4_look_216 : decode cX4_look 216 = .ok (.iinc 5 1, 3) := dk_132 5 1 (dk_at dksX4_look_9 7 rfl rfl)
theorem dX4_look_219 : decode cX4_look 219 = .ok (.goto (-91), 3) := dk_167 255 165 (dk_at dksX4_look_9 10 rfl rfl)
theorem dX4_look_222 : decode cX4_look 222 = .ok (.return_, 1) := dk_177 (dk_at dksX4_look_9 13 rfl rfl)
abbrev cX4_sees : ByteArray := prog_11_method_4_code
def yX4_sees : MethodName := ⟨RX4, "sees", "(I)I"⟩
def dkwX4_sees_0 : List UInt8 := [42, 180, 0, 15, 27, 46, 172]
abbrev dktX4_sees_0 : List UInt8 := dkwX4_sees_0 ++ []
theorem dksX4_sees_0 : cX4_sees.data.toList.drop 0 = dktX4_sees_0 := by decide +kernel
theorem dX4_sees_0 : decode cX4_sees 0 = .ok (.aload_n 0, 1) := dk_42 (dk_at dksX4_sees_0 0 rfl rfl)
theorem dX4_sees_1 : decode cX4_sees 1 = .ok (.getfield 15, 3) := dk_180 0 15 (dk_at dksX4_sees_0 1 rfl rfl)
theorem dX4_sees_4 : decode cX4_sees 4 = .ok (.iload_n 1, 1) := dk_27 (dk_at dksX4_sees_0 4 rfl rfl)
theorem dX4_sees_5 : decode cX4_sees 5 = .ok (.iaload, 1) := dk_46 (dk_at dksX4_sees_0 5 rfl rfl)
theorem dX4_sees_6 : decode cX4_sees 6 = .ok (.ireturn, 1) := dk_172 (dk_at dksX4_sees_0 6 rfl rfl)
abbrev cX4_pairs : ByteArray := prog_11_method_3_code
def yX4_pairs : MethodName := ⟨RX4, "pairs", "(I)I"⟩
def dkwX4_pairs_1 : List UInt8 := [61, 132, 3, 1, 167, 255, 232, 28, 172]
abbrev dktX4_pairs_1 : List UInt8 := dkwX4_pairs_1 ++ []
def dkwX4_pairs_0 : List UInt8 := [3, 61, 3, 62, 29, 27, 162, 0, 25, 28, 42, 180, 0, 15, 29, 46, 29, 4, 96, 122, 184, 0, 42, 96]
abbrev dktX4_pairs_0 : List UInt8 := dkwX4_pairs_0 ++ dktX4_pairs_1
theorem dksX4_pairs_0 : cX4_pairs.data.toList.drop 0 = dktX4_pairs_0 := by decide +kernel
theorem dksX4_pairs_1 : cX4_pairs.data.toList.drop 24 = dktX4_pairs_1 := dk_seg dksX4_pairs_0 24 rfl rfl
theorem dX4_pairs_0 : decode cX4_pairs 0 = .ok (.iconst 0, 1) := dk_3 (dk_at dksX4_pairs_0 0 rfl rfl)
theorem dX4_pairs_1 : decode cX4_pairs 1 = .ok (.istore_n 2, 1) := dk_61 (dk_at dksX4_pairs_0 1 rfl rfl)
theorem dX4_pairs_2 : decode cX4_pairs 2 = .ok (.iconst 0, 1) := dk_3 (dk_at dksX4_pairs_0 2 rfl rfl)
theorem dX4_pairs_3 : decode cX4_pairs 3 = .ok (.istore_n 3, 1) := dk_62 (dk_at dksX4_pairs_0 3 rfl rfl)
theorem dX4_pairs_4 : decode cX4_pairs 4 = .ok (.iload_n 3, 1) := dk_29 (dk_at dksX4_pairs_0 4 rfl rfl)
theorem dX4_pairs_5 : decode cX4_pairs 5 = .ok (.iload_n 1, 1) := dk_27 (dk_at dksX4_pairs_0 5 rfl rfl)
theorem dX4_pairs_6 : decode cX4_pairs 6 = .ok (.if_icmp .ge 25, 3) := dk_162 0 25 (dk_at dksX4_pairs_0 6 rfl rfl)
theorem dX4_pairs_9 : decode cX4_pairs 9 = .ok (.iload_n 2, 1) := dk_28 (dk_at dksX4_pairs_0 9 rfl rfl)
theorem dX4_pairs_10 : decode cX4_pairs 10 = .ok (.aload_n 0, 1) := dk_42 (dk_at dksX4_pairs_0 10 rfl rfl)
theorem dX4_pairs_11 : decode cX4_pairs 11 = .ok (.getfield 15, 3) := dk_180 0 15 (dk_at dksX4_pairs_0 11 rfl rfl)
theorem dX4_pairs_14 : decode cX4_pairs 14 = .ok (.iload_n 3, 1) := dk_29 (dk_at dksX4_pairs_0 14 rfl rfl)
theorem dX4_pairs_15 : decode cX4_pairs 15 = .ok (.iaload, 1) := dk_46 (dk_at dksX4_pairs_0 15 rfl rfl)
theorem dX4_pairs_16 : decode cX4_pairs 16 = .ok (.iload_n 3, 1) := dk_29 (dk_at dksX4_pairs_0 16 rfl rfl)
theorem dX4_pairs_17 : decode cX4_pairs 17 = .ok (.iconst 1, 1) := dk_4 (dk_at dksX4_pairs_0 17 rfl rfl)
theorem dX4_pairs_18 : decode cX4_pairs 18 = .ok (.iadd, 1) := dk_96 (dk_at dksX4_pairs_0 18 rfl rfl)
theorem dX4_pairs_19 : decode cX4_pairs 19 = .ok (.ishr, 1) := dk_122 (dk_at dksX4_pairs_0 19 rfl rfl)
theorem dX4_pairs_20 : decode cX4_pairs 20 = .ok (.invokestatic 42, 3) := dk_184 0 42 (dk_at dksX4_pairs_0 20 rfl rfl)
theorem dX4_pairs_23 : decode cX4_pairs 23 = .ok (.iadd, 1) := dk_96 (dk_at dksX4_pairs_0 23 rfl rfl)
theorem dX4_pairs_24 : decode cX4_pairs 24 = .ok (.istore_n 2, 1) := dk_61 (dk_at dksX4_pairs_1 0 rfl rfl)
theorem dX4_pairs_25 : decode cX4_pairs 25 = .ok (.iinc 3 1, 3) := dk_132 3 1 (dk_at dksX4_pairs_1 1 rfl rfl)
theorem dX4_pairs_28 : decode cX4_pairs 28 = .ok (.goto (-24), 3) := dk_167 255 232 (dk_at dksX4_pairs_1 4 rfl rfl)
theorem dX4_pairs_31 : decode cX4_pairs 31 = .ok (.iload_n 2, 1) := dk_28 (dk_at dksX4_pairs_1 7 rfl rfl)
theorem dX4_pairs_32 : decode cX4_pairs 32 = .ok (.ireturn, 1) := dk_172 (dk_at dksX4_pairs_1 8 rfl rfl)
theorem q158 : (Jvm.Cond.initialized "NeverUnseen$Sight") ∈ lw_all := lw_g (lw_at lw_m1 7 rfl) rfl
theorem q298 : (Jvm.Cond.instantiable "NeverUnseen$Sight" (2 : Nat)) ∈ lw_all := lw_g (lw_at lw_m1 147 rfl) rfl
theorem q300 : (Jvm.Cond.instanceMethod ({ cls := "NeverUnseen$Sight", name := "<init>", desc := "()V" } : Jvm.MethodName)) ∈ lw_all := lw_g (lw_at lw_m1 149 rfl) rfl
theorem q301 : (Jvm.Cond.code ({ cls := "NeverUnseen$Sight", name := "<init>", desc := "()V" } : Jvm.MethodName) prog_11_method_1_code (1 : Nat) (Option.none : Option Jvm.ClassFile.FieldType)) ∈ lw_all := lw_g (lw_at lw_m1 150 rfl) rfl
theorem q302 : (Jvm.Cond.methodLink "NeverUnseen$Sight" (3 : Nat) ({ cls := "java/lang/Object", name := "<init>", desc := "()V" } : Jvm.MethodName)) ∈ lw_all := lw_g (lw_at lw_m1 151 rfl) rfl
theorem q303 : (Jvm.Cond.fieldLink "NeverUnseen$Sight" (9 : Nat) "NeverUnseen$Sight" "plain" "[I") ∈ lw_all := lw_g (lw_at lw_m1 152 rfl) rfl
theorem q305 : (Jvm.Cond.fieldLink "NeverUnseen$Sight" (15 : Nat) "NeverUnseen$Sight" "rows" "[I") ∈ lw_all := lw_g (lw_at lw_m1 154 rfl) rfl
theorem q306 : (Jvm.Cond.laysFinal "NeverUnseen$Sight" "NeverUnseen$Sight" "plain" "[I") ∈ lw_all := lw_g (lw_at lw_m1 155 rfl) rfl
theorem q307 : (Jvm.Cond.soleField "NeverUnseen$Sight" "plain") ∈ lw_all := lw_g (lw_at lw_m1 156 rfl) rfl
theorem q308 : (Jvm.Cond.laysFinal "NeverUnseen$Sight" "NeverUnseen$Sight" "rows" "[I") ∈ lw_all := lw_g (lw_at lw_m1 157 rfl) rfl
theorem q309 : (Jvm.Cond.soleField "NeverUnseen$Sight" "rows") ∈ lw_all := lw_g (lw_at lw_m1 158 rfl) rfl
theorem q310 : (Jvm.Cond.superclass "NeverUnseen$Sight" "java/lang/Object") ∈ lw_all := lw_g (lw_at lw_m1 159 rfl) rfl
theorem q456 : (Jvm.Cond.fieldLink "NeverUnseen$Sight" (39 : Nat) "NeverUnseen$Valley" "mirrors" "[I") ∈ lw_all := lw_g (lw_at lw_m2 65 rfl) rfl
theorem q470 : (Jvm.Cond.fieldLink "NeverUnseen$Sight" (18 : Nat) "NeverUnseen$Valley" "placeMany" "I") ∈ lw_all := lw_g (lw_at lw_m2 79 rfl) rfl
theorem q484 : (Jvm.Cond.fieldLink "NeverUnseen$Sight" (36 : Nat) "NeverUnseen$Valley" "mirrorMany" "I") ∈ lw_all := lw_g (lw_at lw_m2 93 rfl) rfl
theorem q957 : (Jvm.Cond.instanceMethod ({ cls := "NeverUnseen$Sight", name := "look", desc := "(LNeverUnseen$Valley;III)V" } : Jvm.MethodName)) ∈ lw_all := lw_g (lw_at lw_m4 86 rfl) rfl
theorem q958 : (Jvm.Cond.selects "NeverUnseen$Sight" ({ cls := "NeverUnseen$Sight", name := "look", desc := "(LNeverUnseen$Valley;III)V" } : Jvm.MethodName) ({ cls := "NeverUnseen$Sight", name := "look", desc := "(LNeverUnseen$Valley;III)V" } : Jvm.MethodName)) ∈ lw_all := lw_g (lw_at lw_m4 87 rfl) rfl
theorem q959 : (Jvm.Cond.code ({ cls := "NeverUnseen$Sight", name := "look", desc := "(LNeverUnseen$Valley;III)V" } : Jvm.MethodName) prog_11_method_2_code (8 : Nat) (Option.none : Option Jvm.ClassFile.FieldType)) ∈ lw_all := lw_g (lw_at lw_m4 88 rfl) rfl
theorem q960 : (Jvm.Cond.methodLinkNest "NeverUnseen$Sight" (24 : Nat) ({ cls := "NeverUnseen", name := "lies", desc := "(II)Z" } : Jvm.MethodName) "NeverUnseen") ∈ lw_tbl := lw_at lw_m4 89 rfl
theorem q961 : (Jvm.Cond.methodLink "NeverUnseen$Sight" (28 : Nat) ({ cls := "NeverUnseen$Valley", name := "far", desc := "(II)I" } : Jvm.MethodName)) ∈ lw_all := lw_g (lw_at lw_m4 90 rfl) rfl
theorem q971 : (Jvm.Cond.methodLink "NeverUnseen$Sight" (32 : Nat) ({ cls := "NeverUnseen$Valley", name := "isWalled", desc := "(III)Z" } : Jvm.MethodName)) ∈ lw_all := lw_g (lw_at lw_m4 100 rfl) rfl
theorem q1009 : (Jvm.Cond.instanceMethod ({ cls := "NeverUnseen$Sight", name := "sees", desc := "(I)I" } : Jvm.MethodName)) ∈ lw_all := lw_g (lw_at lw_m4 138 rfl) rfl
theorem q1010 : (Jvm.Cond.selects "NeverUnseen$Sight" ({ cls := "NeverUnseen$Sight", name := "sees", desc := "(I)I" } : Jvm.MethodName) ({ cls := "NeverUnseen$Sight", name := "sees", desc := "(I)I" } : Jvm.MethodName)) ∈ lw_all := lw_g (lw_at lw_m4 139 rfl) rfl
theorem q1011 : (Jvm.Cond.code ({ cls := "NeverUnseen$Sight", name := "sees", desc := "(I)I" } : Jvm.MethodName) prog_11_method_4_code (2 : Nat) (Option.some Jvm.ClassFile.FieldType.int)) ∈ lw_all := lw_g (lw_at lw_m4 140 rfl) rfl
theorem q1289 : (Jvm.Cond.instanceMethod ({ cls := "NeverUnseen$Sight", name := "pairs", desc := "(I)I" } : Jvm.MethodName)) ∈ lw_all := lw_g (lw_at lw_m5 178 rfl) rfl
theorem q1290 : (Jvm.Cond.selects "NeverUnseen$Sight" ({ cls := "NeverUnseen$Sight", name := "pairs", desc := "(I)I" } : Jvm.MethodName) ({ cls := "NeverUnseen$Sight", name := "pairs", desc := "(I)I" } : Jvm.MethodName)) ∈ lw_all := lw_g (lw_at lw_m5 179 rfl) rfl
theorem q1291 : (Jvm.Cond.code ({ cls := "NeverUnseen$Sight", name := "pairs", desc := "(I)I" } : Jvm.MethodName) prog_11_method_3_code (4 : Nat) (Option.some Jvm.ClassFile.FieldType.int)) ∈ lw_all := lw_g (lw_at lw_m5 180 rfl) rfl
theorem q1292 : (Jvm.Cond.methodLinkNest "NeverUnseen$Sight" (42 : Nat) ({ cls := "NeverUnseen", name := "ones", desc := "(I)I" } : Jvm.MethodName) "NeverUnseen") ∈ lw_tbl := lw_at lw_m5 181 rfl
theorem q2267 : (Jvm.Cond.castable "NeverUnseen$Sight" "java/lang/Object") ∈ lw_tbl := lw_at lw_m9 196 rfl
theorem in_X4 : ∀ w ∈ wsX40, w ∈ lw_all := lw_in wsX40 [306, 308] (by decide +kernel) (by decide +kernel)
/-! NeverUnseen$Valley -/
set_option maxRecDepth 100000
def RX6 : String := "NeverUnseen$Valley"
def TX6 : u_T := fun k => match k with
  | 0 => ("NeverUnseen$Valley", "places", "[LNeverUnseen$Place;", true)
  | 1 => ("NeverUnseen$Valley", "people", "[LNeverUnseen$Person;", true)
  | 2 => ("NeverUnseen$Valley", "errands", "[LNeverUnseen$Errand;", true)
  | 3 => ("NeverUnseen$Valley", "wallFrom", "[I", true)
  | 4 => ("NeverUnseen$Valley", "wallTo", "[I", true)
  | 5 => ("NeverUnseen$Valley", "mirrors", "[I", true)
  | 6 => ("NeverUnseen$Valley", "pairOne", "[I", true)
  | 7 => ("NeverUnseen$Valley", "pairOther", "[I", true)
  | 8 => ("NeverUnseen$Valley", "fogs", "[I", true)
  | 9 => ("NeverUnseen$Valley", "chances", "[I", true)
  | 10 => ("NeverUnseen$Valley", "placeMany", "I", false)
  | 11 => ("NeverUnseen$Valley", "personMany", "I", false)
  | 12 => ("NeverUnseen$Valley", "errandMany", "I", false)
  | 13 => ("NeverUnseen$Valley", "wallMany", "I", false)
  | 14 => ("NeverUnseen$Valley", "wayMany", "I", false)
  | 15 => ("NeverUnseen$Valley", "mirrorMany", "I", false)
  | 16 => ("NeverUnseen$Valley", "pairMany", "I", false)
  | 17 => ("NeverUnseen$Valley", "fogMany", "I", false)
  | 18 => ("NeverUnseen$Valley", "day", "I", false)
  | 19 => ("NeverUnseen$Valley", "night", "I", false)
  | 20 => ("NeverUnseen$Valley", "from", "I", false)
  | 21 => ("NeverUnseen$Valley", "to", "I", false)
  | _ => ("NeverUnseen$Valley", "steps", "I", false)
def tyX6 : Nat → FieldType := fun k => match k with
  | 0 => .array (.object "NeverUnseen$Place")
  | 1 => .array (.object "NeverUnseen$Person")
  | 2 => .array (.object "NeverUnseen$Errand")
  | 3 => .array .int
  | 4 => .array .int
  | 5 => .array .int
  | 6 => .array .int
  | 7 => .array .int
  | 8 => .array .int
  | 9 => .array .int
  | 10 => .int
  | 11 => .int
  | 12 => .int
  | 13 => .int
  | 14 => .int
  | 15 => .int
  | 16 => .int
  | 17 => .int
  | 18 => .int
  | 19 => .int
  | 20 => .int
  | 21 => .int
  | _ => .int
abbrev wsX60 : List Cond := u_ws RX6 TX6 23
set_option maxRecDepth 100000 in
theorem nmX6 : ∀ a, a < 23 → ∀ b, b < 23 → a ≠ b → (TX6 a).2.1 ≠ (TX6 b).2.1 := by decide +kernel
set_option maxRecDepth 100000 in
theorem tyX6_ok : ∀ k, k < 23 → parseFieldDescriptor (TX6 k).2.2.1 = some (tyX6 k) := by decide +kernel
abbrev cX6_init : ByteArray := prog_13_method_1_code
def yX6_init : MethodName := ⟨RX6, "<init>", "()V"⟩
def dkwX6_init_3 : List UInt8 := [181, 0, 45, 42, 7, 188, 10, 181, 0, 48, 177]
abbrev dktX6_init_3 : List UInt8 := dkwX6_init_3 ++ []
def dkwX6_init_2 : List UInt8 := [188, 10, 181, 0, 36, 42, 6, 188, 10, 181, 0, 39, 42, 6, 188, 10, 181, 0, 42, 42, 7, 188, 10]
abbrev dktX6_init_2 : List UInt8 := dkwX6_init_2 ++ dktX6_init_3
def dkwX6_init_1 : List UInt8 := [189, 0, 23, 181, 0, 25, 42, 16, 10, 188, 10, 181, 0, 29, 42, 16, 10, 188, 10, 181, 0, 33, 42, 7]
abbrev dktX6_init_1 : List UInt8 := dkwX6_init_1 ++ dktX6_init_2
def dkwX6_init_0 : List UInt8 := [42, 183, 0, 3, 42, 16, 10, 189, 0, 9, 181, 0, 11, 42, 8, 189, 0, 17, 181, 0, 19, 42, 8]
abbrev dktX6_init_0 : List UInt8 := dkwX6_init_0 ++ dktX6_init_1
theorem dksX6_init_0 : cX6_init.data.toList.drop 0 = dktX6_init_0 := by decide +kernel
theorem dksX6_init_1 : cX6_init.data.toList.drop 23 = dktX6_init_1 := dk_seg dksX6_init_0 23 rfl rfl
theorem dksX6_init_2 : cX6_init.data.toList.drop 47 = dktX6_init_2 := dk_seg dksX6_init_1 24 rfl rfl
theorem dksX6_init_3 : cX6_init.data.toList.drop 70 = dktX6_init_3 := dk_seg dksX6_init_2 23 rfl rfl
theorem dX6_init_0 : decode cX6_init 0 = .ok (.aload_n 0, 1) := dk_42 (dk_at dksX6_init_0 0 rfl rfl)
theorem dX6_init_1 : decode cX6_init 1 = .ok (.invokespecial 3, 3) := dk_183 0 3 (dk_at dksX6_init_0 1 rfl rfl)
theorem dX6_init_4 : decode cX6_init 4 = .ok (.aload_n 0, 1) := dk_42 (dk_at dksX6_init_0 4 rfl rfl)
theorem dX6_init_5 : decode cX6_init 5 = .ok (.bipush 10, 2) := dk_16 10 (dk_at dksX6_init_0 5 rfl rfl)
theorem dX6_init_7 : decode cX6_init 7 = .ok (.anewarray 9, 3) := dk_189 0 9 (dk_at dksX6_init_0 7 rfl rfl)
theorem dX6_init_10 : decode cX6_init 10 = .ok (.putfield 11, 3) := dk_181 0 11 (dk_at dksX6_init_0 10 rfl rfl)
theorem dX6_init_13 : decode cX6_init 13 = .ok (.aload_n 0, 1) := dk_42 (dk_at dksX6_init_0 13 rfl rfl)
theorem dX6_init_14 : decode cX6_init 14 = .ok (.iconst 5, 1) := dk_8 (dk_at dksX6_init_0 14 rfl rfl)
theorem dX6_init_15 : decode cX6_init 15 = .ok (.anewarray 17, 3) := dk_189 0 17 (dk_at dksX6_init_0 15 rfl rfl)
theorem dX6_init_18 : decode cX6_init 18 = .ok (.putfield 19, 3) := dk_181 0 19 (dk_at dksX6_init_0 18 rfl rfl)
theorem dX6_init_21 : decode cX6_init 21 = .ok (.aload_n 0, 1) := dk_42 (dk_at dksX6_init_0 21 rfl rfl)
theorem dX6_init_22 : decode cX6_init 22 = .ok (.iconst 5, 1) := dk_8 (dk_at dksX6_init_0 22 rfl rfl)
theorem dX6_init_23 : decode cX6_init 23 = .ok (.anewarray 23, 3) := dk_189 0 23 (dk_at dksX6_init_1 0 rfl rfl)
theorem dX6_init_26 : decode cX6_init 26 = .ok (.putfield 25, 3) := dk_181 0 25 (dk_at dksX6_init_1 3 rfl rfl)
theorem dX6_init_29 : decode cX6_init 29 = .ok (.aload_n 0, 1) := dk_42 (dk_at dksX6_init_1 6 rfl rfl)
theorem dX6_init_30 : decode cX6_init 30 = .ok (.bipush 10, 2) := dk_16 10 (dk_at dksX6_init_1 7 rfl rfl)
theorem dX6_init_32 : decode cX6_init 32 = .ok (.newarray .int, 2) := dk_188_10 (dk_at dksX6_init_1 9 rfl rfl)
theorem dX6_init_34 : decode cX6_init 34 = .ok (.putfield 29, 3) := dk_181 0 29 (dk_at dksX6_init_1 11 rfl rfl)
theorem dX6_init_37 : decode cX6_init 37 = .ok (.aload_n 0, 1) := dk_42 (dk_at dksX6_init_1 14 rfl rfl)
theorem dX6_init_38 : decode cX6_init 38 = .ok (.bipush 10, 2) := dk_16 10 (dk_at dksX6_init_1 15 rfl rfl)
theorem dX6_init_40 : decode cX6_init 40 = .ok (.newarray .int, 2) := dk_188_10 (dk_at dksX6_init_1 17 rfl rfl)
theorem dX6_init_42 : decode cX6_init 42 = .ok (.putfield 33, 3) := dk_181 0 33 (dk_at dksX6_init_1 19 rfl rfl)
theorem dX6_init_45 : decode cX6_init 45 = .ok (.aload_n 0, 1) := dk_42 (dk_at dksX6_init_1 22 rfl rfl)
theorem dX6_init_46 : decode cX6_init 46 = .ok (.iconst 4, 1) := dk_7 (dk_at dksX6_init_1 23 rfl rfl)
theorem dX6_init_47 : decode cX6_init 47 = .ok (.newarray .int, 2) := dk_188_10 (dk_at dksX6_init_2 0 rfl rfl)
theorem dX6_init_49 : decode cX6_init 49 = .ok (.putfield 36, 3) := dk_181 0 36 (dk_at dksX6_init_2 2 rfl rfl)
theorem dX6_init_52 : decode cX6_init 52 = .ok (.aload_n 0, 1) := dk_42 (dk_at dksX6_init_2 5 rfl rfl)
theorem dX6_init_53 : decode cX6_init 53 = .ok (.iconst 3, 1) := dk_6 (dk_at dksX6_init_2 6 rfl rfl)
theorem dX6_init_54 : decode cX6_init 54 = .ok (.newarray .int, 2) := dk_188_10 (dk_at dksX6_init_2 7 rfl rfl)
theorem dX6_init_56 : decode cX6_init 56 = .ok (.putfield 39, 3) := dk_181 0 39 (dk_at dksX6_init_2 9 rfl rfl)
theorem dX6_init_59 : decode cX6_init 59 = .ok (.aload_n 0, 1) := dk_42 (dk_at dksX6_init_2 12 rfl rfl)
theorem dX6_init_60 : decode cX6_init 60 = .ok (.iconst 3, 1) := dk_6 (dk_at dksX6_init_2 13 rfl rfl)
theorem dX6_init_61 : decode cX6_init 61 = .ok (.newarray .int, 2) := dk_188_10 (dk_at dksX6_init_2 14 rfl rfl)
theorem dX6_init_63 : decode cX6_init 63 = .ok (.putfield 42, 3) := dk_181 0 42 (dk_at dksX6_init_2 16 rfl rfl)
theorem dX6_init_66 : decode cX6_init 66 = .ok (.aload_n 0, 1) := dk_42 (dk_at dksX6_init_2 19 rfl rfl)
theorem dX6_init_67 : decode cX6_init 67 = .ok (.iconst 4, 1) := dk_7 (dk_at dksX6_init_2 20 rfl rfl)
theorem dX6_init_68 : decode cX6_init 68 = .ok (.newarray .int, 2) := dk_188_10 (dk_at dksX6_init_2 21 rfl rfl)
theorem dX6_init_70 : decode cX6_init 70 = .ok (.putfield 45, 3) := dk_181 0 45 (dk_at dksX6_init_3 0 rfl rfl)
theorem dX6_init_73 : decode cX6_init 73 = .ok (.aload_n 0, 1) := dk_42 (dk_at dksX6_init_3 3 rfl rfl)
theorem dX6_init_74 : decode cX6_init 74 = .ok (.iconst 4, 1) := dk_7 (dk_at dksX6_init_3 4 rfl rfl)
theorem dX6_init_75 : decode cX6_init 75 = .ok (.newarray .int, 2) := dk_188_10 (dk_at dksX6_init_3 5 rfl rfl)
theorem dX6_init_77 : decode cX6_init 77 = .ok (.putfield 48, 3) := dk_181 0 48 (dk_at dksX6_init_3 7 rfl rfl)
theorem dX6_init_80 : decode cX6_init 80 = .ok (.return_, 1) := dk_177 (dk_at dksX6_init_3 10 rfl rfl)
abbrev cX6_find : ByteArray := prog_13_method_3_code
def yX6_find : MethodName := ⟨RX6, "find", "(Ljava/lang/String;)LNeverUnseen$Named;"⟩
def dkwX6_find_1 : List UInt8 := [180, 0, 71, 43, 184, 0, 67, 167, 0, 4, 44, 176]
abbrev dktX6_find_1 : List UInt8 := dkwX6_find_1 ++ []
def dkwX6_find_0 : List UInt8 := [42, 180, 0, 11, 42, 180, 0, 63, 43, 184, 0, 67, 77, 44, 199, 0, 18, 42, 180, 0, 19, 42]
abbrev dktX6_find_0 : List UInt8 := dkwX6_find_0 ++ dktX6_find_1
theorem dksX6_find_0 : cX6_find.data.toList.drop 0 = dktX6_find_0 := by decide +kernel
theorem dksX6_find_1 : cX6_find.data.toList.drop 22 = dktX6_find_1 := dk_seg dksX6_find_0 22 rfl rfl
theorem dX6_find_0 : decode cX6_find 0 = .ok (.aload_n 0, 1) := dk_42 (dk_at dksX6_find_0 0 rfl rfl)
theorem dX6_find_1 : decode cX6_find 1 = .ok (.getfield 11, 3) := dk_180 0 11 (dk_at dksX6_find_0 1 rfl rfl)
theorem dX6_find_4 : decode cX6_find 4 = .ok (.aload_n 0, 1) := dk_42 (dk_at dksX6_find_0 4 rfl rfl)
theorem dX6_find_5 : decode cX6_find 5 = .ok (.getfield 63, 3) := dk_180 0 63 (dk_at dksX6_find_0 5 rfl rfl)
theorem dX6_find_8 : decode cX6_find 8 = .ok (.aload_n 1, 1) := dk_43 (dk_at dksX6_find_0 8 rfl rfl)
theorem dX6_find_9 : decode cX6_find 9 = .ok (.invokestatic 67, 3) := dk_184 0 67 (dk_at dksX6_find_0 9 rfl rfl)
theorem dX6_find_12 : decode cX6_find 12 = .ok (.astore_n 2, 1) := dk_77 (dk_at dksX6_find_0 12 rfl rfl)
theorem dX6_find_13 : decode cX6_find 13 = .ok (.aload_n 2, 1) := dk_44 (dk_at dksX6_find_0 13 rfl rfl)
theorem dX6_find_14 : decode cX6_find 14 = .ok (.ifnonnull 18, 3) := dk_199 0 18 (dk_at dksX6_find_0 14 rfl rfl)
theorem dX6_find_17 : decode cX6_find 17 = .ok (.aload_n 0, 1) := dk_42 (dk_at dksX6_find_0 17 rfl rfl)
theorem dX6_find_18 : decode cX6_find 18 = .ok (.getfield 19, 3) := dk_180 0 19 (dk_at dksX6_find_0 18 rfl rfl)
theorem dX6_find_21 : decode cX6_find 21 = .ok (.aload_n 0, 1) := dk_42 (dk_at dksX6_find_0 21 rfl rfl)
theorem dX6_find_22 : decode cX6_find 22 = .ok (.getfield 71, 3) := dk_180 0 71 (dk_at dksX6_find_1 0 rfl rfl)
theorem dX6_find_25 : decode cX6_find 25 = .ok (.aload_n 1, 1) := dk_43 (dk_at dksX6_find_1 3 rfl rfl)
theorem dX6_find_26 : decode cX6_find 26 = .ok (.invokestatic 67, 3) := dk_184 0 67 (dk_at dksX6_find_1 4 rfl rfl)
theorem dX6_find_29 : decode cX6_find 29 = .ok (.goto 4, 3) := dk_167 0 4 (dk_at dksX6_find_1 7 rfl rfl)
theorem dX6_find_32 : decode cX6_find 32 = .ok (.aload_n 2, 1) := dk_44 (dk_at dksX6_find_1 10 rfl rfl)
theorem dX6_find_33 : decode cX6_find 33 = .ok (.areturn, 1) := dk_176 (dk_at dksX6_find_1 11 rfl rfl)
abbrev cX6_among : ByteArray := prog_13_method_2_code
def yX6_among : MethodName := ⟨RX6, "among", "([LNeverUnseen$Named;ILjava/lang/String;)LNeverUnseen$Named;"⟩
def dkwX6_among_1 : List UInt8 := [132, 3, 1, 167, 255, 231, 1, 176]
abbrev dktX6_among_1 : List UInt8 := dkwX6_among_1 ++ []
def dkwX6_among_0 : List UInt8 := [3, 62, 29, 27, 162, 0, 26, 42, 29, 50, 180, 0, 51, 44, 182, 0, 57, 153, 0, 7, 42, 29, 50, 176]
abbrev dktX6_among_0 : List UInt8 := dkwX6_among_0 ++ dktX6_among_1
theorem dksX6_among_0 : cX6_among.data.toList.drop 0 = dktX6_among_0 := by decide +kernel
theorem dksX6_among_1 : cX6_among.data.toList.drop 24 = dktX6_among_1 := dk_seg dksX6_among_0 24 rfl rfl
theorem dX6_among_0 : decode cX6_among 0 = .ok (.iconst 0, 1) := dk_3 (dk_at dksX6_among_0 0 rfl rfl)
theorem dX6_among_1 : decode cX6_among 1 = .ok (.istore_n 3, 1) := dk_62 (dk_at dksX6_among_0 1 rfl rfl)
theorem dX6_among_2 : decode cX6_among 2 = .ok (.iload_n 3, 1) := dk_29 (dk_at dksX6_among_0 2 rfl rfl)
theorem dX6_among_3 : decode cX6_among 3 = .ok (.iload_n 1, 1) := dk_27 (dk_at dksX6_among_0 3 rfl rfl)
theorem dX6_among_4 : decode cX6_among 4 = .ok (.if_icmp .ge 26, 3) := dk_162 0 26 (dk_at dksX6_among_0 4 rfl rfl)
theorem dX6_among_7 : decode cX6_among 7 = .ok (.aload_n 0, 1) := dk_42 (dk_at dksX6_among_0 7 rfl rfl)
theorem dX6_among_8 : decode cX6_among 8 = .ok (.iload_n 3, 1) := dk_29 (dk_at dksX6_among_0 8 rfl rfl)
theorem dX6_among_9 : decode cX6_among 9 = .ok (.aaload, 1) := dk_50 (dk_at dksX6_among_0 9 rfl rfl)
theorem dX6_among_10 : decode cX6_among 10 = .ok (.getfield 51, 3) := dk_180 0 51 (dk_at dksX6_among_0 10 rfl rfl)
theorem dX6_among_13 : decode cX6_among 13 = .ok (.aload_n 2, 1) := dk_44 (dk_at dksX6_among_0 13 rfl rfl)
theorem dX6_among_14 : decode cX6_among 14 = .ok (.invokevirtual 57, 3) := dk_182 0 57 (dk_at dksX6_among_0 14 rfl rfl)
theorem dX6_among_17 : decode cX6_among 17 = .ok (.ifCond .eq 7, 3) := dk_153 0 7 (dk_at dksX6_among_0 17 rfl rfl)
theorem dX6_among_20 : decode cX6_among 20 = .ok (.aload_n 0, 1) := dk_42 (dk_at dksX6_among_0 20 rfl rfl)
theorem dX6_among_21 : decode cX6_among 21 = .ok (.iload_n 3, 1) := dk_29 (dk_at dksX6_among_0 21 rfl rfl)
theorem dX6_among_22 : decode cX6_among 22 = .ok (.aaload, 1) := dk_50 (dk_at dksX6_among_0 22 rfl rfl)
theorem dX6_among_23 : decode cX6_among 23 = .ok (.areturn, 1) := dk_176 (dk_at dksX6_among_0 23 rfl rfl)
theorem dX6_among_24 : decode cX6_among 24 = .ok (.iinc 3 1, 3) := dk_132 3 1 (dk_at dksX6_among_1 0 rfl rfl)
theorem dX6_among_27 : decode cX6_among 27 = .ok (.goto (-25), 3) := dk_167 255 231 (dk_at dksX6_among_1 3 rfl rfl)
theorem dX6_among_30 : decode cX6_among 30 = .ok (.aconst_null, 1) := dk_1 (dk_at dksX6_among_1 6 rfl rfl)
theorem dX6_among_31 : decode cX6_among 31 = .ok (.areturn, 1) := dk_176 (dk_at dksX6_among_1 7 rfl rfl)
abbrev cX6_isWalled : ByteArray := prog_13_method_6_code
def yX6_isWalled : MethodName := ⟨RX6, "isWalled", "(III)Z"⟩
def dkwX6_isWalled_3 : List UInt8 := [160, 0, 7, 4, 167, 0, 4, 3, 54, 4, 132, 5, 1, 167, 255, 179, 21, 4, 172]
abbrev dktX6_isWalled_3 : List UInt8 := dkwX6_isWalled_3 ++ []
def dkwX6_isWalled_2 : List UInt8 := [28, 159, 0, 25, 42, 180, 0, 29, 21, 5, 46, 28, 160, 0, 18, 42, 180, 0, 33, 21, 5, 46, 27]
abbrev dktX6_isWalled_2 : List UInt8 := dkwX6_isWalled_2 ++ dktX6_isWalled_3
def dkwX6_isWalled_1 : List UInt8 := [184, 0, 97, 154, 0, 51, 42, 180, 0, 29, 21, 5, 46, 27, 160, 0, 14, 42, 180, 0, 33, 21, 5, 46]
abbrev dktX6_isWalled_1 : List UInt8 := dkwX6_isWalled_1 ++ dktX6_isWalled_2
def dkwX6_isWalled_0 : List UInt8 := [3, 54, 4, 3, 54, 5, 21, 5, 42, 180, 0, 94, 162, 0, 74, 21, 4, 154, 0, 56, 29, 21, 5]
abbrev dktX6_isWalled_0 : List UInt8 := dkwX6_isWalled_0 ++ dktX6_isWalled_1
theorem dksX6_isWalled_0 : cX6_isWalled.data.toList.drop 0 = dktX6_isWalled_0 := by decide +kernel
theorem dksX6_isWalled_1 : cX6_isWalled.data.toList.drop 23 = dktX6_isWalled_1 := dk_seg dksX6_isWalled_0 23 rfl rfl
theorem dksX6_isWalled_2 : cX6_isWalled.data.toList.drop 47 = dktX6_isWalled_2 := dk_seg dksX6_isWalled_1 24 rfl rfl
theorem dksX6_isWalled_3 : cX6_isWalled.data.toList.drop 70 = dktX6_isWalled_3 := dk_seg dksX6_isWalled_2 23 rfl rfl
theorem dX6_isWalled_0 : decode cX6_isWalled 0 = .ok (.iconst 0, 1) := dk_3 (dk_at dksX6_isWalled_0 0 rfl rfl)
theorem dX6_isWalled_1 : decode cX6_isWalled 1 = .ok (.istore 4, 2) := dk_54 4 (dk_at dksX6_isWalled_0 1 rfl rfl)
theorem dX6_isWalled_3 : decode cX6_isWalled 3 = .ok (.iconst 0, 1) := dk_3 (dk_at dksX6_isWalled_0 3 rfl rfl)
theorem dX6_isWalled_4 : decode cX6_isWalled 4 = .ok (.istore 5, 2) := dk_54 5 (dk_at dksX6_isWalled_0 4 rfl rfl)
theorem dX6_isWalled_6 : decode cX6_isWalled 6 = .ok (.iload 5, 2) := dk_21 5 (dk_at dksX6_isWalled_0 6 rfl rfl)
theorem dX6_isWalled_8 : decode cX6_isWalled 8 = .ok (.aload_n 0, 1) := dk_42 (dk_at dksX6_isWalled_0 8 rfl rfl)
theorem dX6_isWalled_9 : decode cX6_isWalled 9 = .ok (.getfield 94, 3) := dk_180 0 94 (dk_at dksX6_isWalled_0 9 rfl rfl)
theorem dX6_isWalled_12 : decode cX6_isWalled 12 = .ok (.if_icmp .ge 74, 3) := dk_162 0 74 (dk_at dksX6_isWalled_0 12 rfl rfl)
theorem dX6_isWalled_15 : decode cX6_isWalled 15 = .ok (.iload 4, 2) := dk_21 4 (dk_at dksX6_isWalled_0 15 rfl rfl)
theorem dX6_isWalled_17 : decode cX6_isWalled 17 = .ok (.ifCond .ne 56, 3) := dk_154 0 56 (dk_at dksX6_isWalled_0 17 rfl rfl)
theorem dX6_isWalled_20 : decode cX6_isWalled 20 = .ok (.iload_n 3, 1) := dk_29 (dk_at dksX6_isWalled_0 20 rfl rfl)
theorem dX6_isWalled_21 : decode cX6_isWalled 21 = .ok (.iload 5, 2) := dk_21 5 (dk_at dksX6_isWalled_0 21 rfl rfl)
theorem dX6_isWalled_23 : decode cX6_isWalled 23 = .ok (.invokestatic 97, 3) := dk_184 0 97 (dk_at dksX6_isWalled_1 0 rfl rfl)
theorem dX6_isWalled_26 : decode cX6_isWalled 26 = .ok (.ifCond .ne 51, 3) := dk_154 0 51 (dk_at dksX6_isWalled_1 3 rfl rfl)
theorem dX6_isWalled_29 : decode cX6_isWalled 29 = .ok (.aload_n 0, 1) := dk_42 (dk_at dksX6_isWalled_1 6 rfl rfl)
theorem dX6_isWalled_30 : decode cX6_isWalled 30 = .ok (.getfield 29, 3) := dk_180 0 29 (dk_at dksX6_isWalled_1 7 rfl rfl)
theorem dX6_isWalled_33 : decode cX6_isWalled 33 = .ok (.iload 5, 2) := dk_21 5 (dk_at dksX6_isWalled_1 10 rfl rfl)
theorem dX6_isWalled_35 : decode cX6_isWalled 35 = .ok (.iaload, 1) := dk_46 (dk_at dksX6_isWalled_1 12 rfl rfl)
theorem dX6_isWalled_36 : decode cX6_isWalled 36 = .ok (.iload_n 1, 1) := dk_27 (dk_at dksX6_isWalled_1 13 rfl rfl)
theorem dX6_isWalled_37 : decode cX6_isWalled 37 = .ok (.if_icmp .ne 14, 3) := dk_160 0 14 (dk_at dksX6_isWalled_1 14 rfl rfl)
theorem dX6_isWalled_40 : decode cX6_isWalled 40 = .ok (.aload_n 0, 1) := dk_42 (dk_at dksX6_isWalled_1 17 rfl rfl)
theorem dX6_isWalled_41 : decode cX6_isWalled 41 = .ok (.getfield 33, 3) := dk_180 0 33 (dk_at dksX6_isWalled_1 18 rfl rfl)
theorem dX6_isWalled_44 : decode cX6_isWalled 44 = .ok (.iload 5, 2) := dk_21 5 (dk_at dksX6_isWalled_1 21 rfl rfl)
theorem dX6_isWalled_46 : decode cX6_isWalled 46 = .ok (.iaload, 1) := dk_46 (dk_at dksX6_isWalled_1 23 rfl rfl)
theorem dX6_isWalled_47 : decode cX6_isWalled 47 = .ok (.iload_n 2, 1) := dk_28 (dk_at dksX6_isWalled_2 0 rfl rfl)
theorem dX6_isWalled_48 : decode cX6_isWalled 48 = .ok (.if_icmp .eq 25, 3) := dk_159 0 25 (dk_at dksX6_isWalled_2 1 rfl rfl)
theorem dX6_isWalled_51 : decode cX6_isWalled 51 = .ok (.aload_n 0, 1) := dk_42 (dk_at dksX6_isWalled_2 4 rfl rfl)
theorem dX6_isWalled_52 : decode cX6_isWalled 52 = .ok (.getfield 29, 3) := dk_180 0 29 (dk_at dksX6_isWalled_2 5 rfl rfl)
theorem dX6_isWalled_55 : decode cX6_isWalled 55 = .ok (.iload 5, 2) := dk_21 5 (dk_at dksX6_isWalled_2 8 rfl rfl)
theorem dX6_isWalled_57 : decode cX6_isWalled 57 = .ok (.iaload, 1) := dk_46 (dk_at dksX6_isWalled_2 10 rfl rfl)
theorem dX6_isWalled_58 : decode cX6_isWalled 58 = .ok (.iload_n 2, 1) := dk_28 (dk_at dksX6_isWalled_2 11 rfl rfl)
theorem dX6_isWalled_59 : decode cX6_isWalled 59 = .ok (.if_icmp .ne 18, 3) := dk_160 0 18 (dk_at dksX6_isWalled_2 12 rfl rfl)
theorem dX6_isWalled_62 : decode cX6_isWalled 62 = .ok (.aload_n 0, 1) := dk_42 (dk_at dksX6_isWalled_2 15 rfl rfl)
theorem dX6_isWalled_63 : decode cX6_isWalled 63 = .ok (.getfield 33, 3) := dk_180 0 33 (dk_at dksX6_isWalled_2 16 rfl rfl)
theorem dX6_isWalled_66 : decode cX6_isWalled 66 = .ok (.iload 5, 2) := dk_21 5 (dk_at dksX6_isWalled_2 19 rfl rfl)
theorem dX6_isWalled_68 : decode cX6_isWalled 68 = .ok (.iaload, 1) := dk_46 (dk_at dksX6_isWalled_2 21 rfl rfl)
theorem dX6_isWalled_69 : decode cX6_isWalled 69 = .ok (.iload_n 1, 1) := dk_27 (dk_at dksX6_isWalled_2 22 rfl rfl)
theorem dX6_isWalled_70 : decode cX6_isWalled 70 = .ok (.if_icmp .ne 7, 3) := dk_160 0 7 (dk_at dksX6_isWalled_3 0 rfl rfl)
theorem dX6_isWalled_73 : decode cX6_isWalled 73 = .ok (.iconst 1, 1) := dk_4 (dk_at dksX6_isWalled_3 3 rfl rfl)
theorem dX6_isWalled_74 : decode cX6_isWalled 74 = .ok (.goto 4, 3) := dk_167 0 4 (dk_at dksX6_isWalled_3 4 rfl rfl)
theorem dX6_isWalled_77 : decode cX6_isWalled 77 = .ok (.iconst 0, 1) := dk_3 (dk_at dksX6_isWalled_3 7 rfl rfl)
theorem dX6_isWalled_78 : decode cX6_isWalled 78 = .ok (.istore 4, 2) := dk_54 4 (dk_at dksX6_isWalled_3 8 rfl rfl)
theorem dX6_isWalled_80 : decode cX6_isWalled 80 = .ok (.iinc 5 1, 3) := dk_132 5 1 (dk_at dksX6_isWalled_3 10 rfl rfl)
theorem dX6_isWalled_83 : decode cX6_isWalled 83 = .ok (.goto (-77), 3) := dk_167 255 179 (dk_at dksX6_isWalled_3 13 rfl rfl)
theorem dX6_isWalled_86 : decode cX6_isWalled 86 = .ok (.iload 4, 2) := dk_21 4 (dk_at dksX6_isWalled_3 16 rfl rfl)
theorem dX6_isWalled_88 : decode cX6_isWalled 88 = .ok (.ireturn, 1) := dk_172 (dk_at dksX6_isWalled_3 18 rfl rfl)
abbrev cX6_areLinked : ByteArray := prog_13_method_8_code
def yX6_areLinked : MethodName := ⟨RX6, "areLinked", "(II)Z"⟩
def dkwX6_areLinked_1 : List UInt8 := [167, 0, 4, 3, 172]
abbrev dktX6_areLinked_1 : List UInt8 := dkwX6_areLinked_1 ++ []
def dkwX6_areLinked_0 : List UInt8 := [27, 28, 159, 0, 19, 42, 180, 0, 11, 27, 50, 180, 0, 117, 28, 184, 0, 97, 153, 0, 7, 4]
abbrev dktX6_areLinked_0 : List UInt8 := dkwX6_areLinked_0 ++ dktX6_areLinked_1
theorem dksX6_areLinked_0 : cX6_areLinked.data.toList.drop 0 = dktX6_areLinked_0 := by decide +kernel
theorem dksX6_areLinked_1 : cX6_areLinked.data.toList.drop 22 = dktX6_areLinked_1 := dk_seg dksX6_areLinked_0 22 rfl rfl
theorem dX6_areLinked_0 : decode cX6_areLinked 0 = .ok (.iload_n 1, 1) := dk_27 (dk_at dksX6_areLinked_0 0 rfl rfl)
theorem dX6_areLinked_1 : decode cX6_areLinked 1 = .ok (.iload_n 2, 1) := dk_28 (dk_at dksX6_areLinked_0 1 rfl rfl)
theorem dX6_areLinked_2 : decode cX6_areLinked 2 = .ok (.if_icmp .eq 19, 3) := dk_159 0 19 (dk_at dksX6_areLinked_0 2 rfl rfl)
theorem dX6_areLinked_5 : decode cX6_areLinked 5 = .ok (.aload_n 0, 1) := dk_42 (dk_at dksX6_areLinked_0 5 rfl rfl)
theorem dX6_areLinked_6 : decode cX6_areLinked 6 = .ok (.getfield 11, 3) := dk_180 0 11 (dk_at dksX6_areLinked_0 6 rfl rfl)
theorem dX6_areLinked_9 : decode cX6_areLinked 9 = .ok (.iload_n 1, 1) := dk_27 (dk_at dksX6_areLinked_0 9 rfl rfl)
theorem dX6_areLinked_10 : decode cX6_areLinked 10 = .ok (.aaload, 1) := dk_50 (dk_at dksX6_areLinked_0 10 rfl rfl)
theorem dX6_areLinked_11 : decode cX6_areLinked 11 = .ok (.getfield 117, 3) := dk_180 0 117 (dk_at dksX6_areLinked_0 11 rfl rfl)
theorem dX6_areLinked_14 : decode cX6_areLinked 14 = .ok (.iload_n 2, 1) := dk_28 (dk_at dksX6_areLinked_0 14 rfl rfl)
theorem dX6_areLinked_15 : decode cX6_areLinked 15 = .ok (.invokestatic 97, 3) := dk_184 0 97 (dk_at dksX6_areLinked_0 15 rfl rfl)
theorem dX6_areLinked_18 : decode cX6_areLinked 18 = .ok (.ifCond .eq 7, 3) := dk_153 0 7 (dk_at dksX6_areLinked_0 18 rfl rfl)
theorem dX6_areLinked_21 : decode cX6_areLinked 21 = .ok (.iconst 1, 1) := dk_4 (dk_at dksX6_areLinked_0 21 rfl rfl)
theorem dX6_areLinked_22 : decode cX6_areLinked 22 = .ok (.goto 4, 3) := dk_167 0 4 (dk_at dksX6_areLinked_1 0 rfl rfl)
theorem dX6_areLinked_25 : decode cX6_areLinked 25 = .ok (.iconst 0, 1) := dk_3 (dk_at dksX6_areLinked_1 3 rfl rfl)
theorem dX6_areLinked_26 : decode cX6_areLinked 26 = .ok (.ireturn, 1) := dk_172 (dk_at dksX6_areLinked_1 4 rfl rfl)
abbrev cX6_far : ByteArray := prog_13_method_7_code
def yX6_far : MethodName := ⟨RX6, "far", "(II)I"⟩
def dkwX6_far_2 : List UInt8 := [172]
abbrev dktX6_far_2 : List UInt8 := dkwX6_far_2 ++ []
def dkwX6_far_1 : List UInt8 := [180, 0, 11, 27, 50, 180, 0, 108, 42, 180, 0, 11, 28, 50, 180, 0, 108, 100, 184, 0, 104, 184, 0, 111]
abbrev dktX6_far_1 : List UInt8 := dkwX6_far_1 ++ dktX6_far_2
def dkwX6_far_0 : List UInt8 := [42, 180, 0, 11, 27, 50, 180, 0, 101, 42, 180, 0, 11, 28, 50, 180, 0, 101, 100, 184, 0, 104, 42]
abbrev dktX6_far_0 : List UInt8 := dkwX6_far_0 ++ dktX6_far_1
theorem dksX6_far_0 : cX6_far.data.toList.drop 0 = dktX6_far_0 := by decide +kernel
theorem dksX6_far_1 : cX6_far.data.toList.drop 23 = dktX6_far_1 := dk_seg dksX6_far_0 23 rfl rfl
theorem dksX6_far_2 : cX6_far.data.toList.drop 47 = dktX6_far_2 := dk_seg dksX6_far_1 24 rfl rfl
theorem dX6_far_0 : decode cX6_far 0 = .ok (.aload_n 0, 1) := dk_42 (dk_at dksX6_far_0 0 rfl rfl)
theorem dX6_far_1 : decode cX6_far 1 = .ok (.getfield 11, 3) := dk_180 0 11 (dk_at dksX6_far_0 1 rfl rfl)
theorem dX6_far_4 : decode cX6_far 4 = .ok (.iload_n 1, 1) := dk_27 (dk_at dksX6_far_0 4 rfl rfl)
theorem dX6_far_5 : decode cX6_far 5 = .ok (.aaload, 1) := dk_50 (dk_at dksX6_far_0 5 rfl rfl)
theorem dX6_far_6 : decode cX6_far 6 = .ok (.getfield 101, 3) := dk_180 0 101 (dk_at dksX6_far_0 6 rfl rfl)
theorem dX6_far_9 : decode cX6_far 9 = .ok (.aload_n 0, 1) := dk_42 (dk_at dksX6_far_0 9 rfl rfl)
theorem dX6_far_10 : decode cX6_far 10 = .ok (.getfield 11, 3) := dk_180 0 11 (dk_at dksX6_far_0 10 rfl rfl)
theorem dX6_far_13 : decode cX6_far 13 = .ok (.iload_n 2, 1) := dk_28 (dk_at dksX6_far_0 13 rfl rfl)
theorem dX6_far_14 : decode cX6_far 14 = .ok (.aaload, 1) := dk_50 (dk_at dksX6_far_0 14 rfl rfl)
theorem dX6_far_15 : decode cX6_far 15 = .ok (.getfield 101, 3) := dk_180 0 101 (dk_at dksX6_far_0 15 rfl rfl)
theorem dX6_far_18 : decode cX6_far 18 = .ok (.isub, 1) := dk_100 (dk_at dksX6_far_0 18 rfl rfl)
theorem dX6_far_19 : decode cX6_far 19 = .ok (.invokestatic 104, 3) := dk_184 0 104 (dk_at dksX6_far_0 19 rfl rfl)
theorem dX6_far_22 : decode cX6_far 22 = .ok (.aload_n 0, 1) := dk_42 (dk_at dksX6_far_0 22 rfl rfl)
theorem dX6_far_23 : decode cX6_far 23 = .ok (.getfield 11, 3) := dk_180 0 11 (dk_at dksX6_far_1 0 rfl rfl)
theorem dX6_far_26 : decode cX6_far 26 = .ok (.iload_n 1, 1) := dk_27 (dk_at dksX6_far_1 3 rfl rfl)
theorem dX6_far_27 : decode cX6_far 27 = .ok (.aaload, 1) := dk_50 (dk_at dksX6_far_1 4 rfl rfl)
theorem dX6_far_28 : decode cX6_far 28 = .ok (.getfield 108, 3) := dk_180 0 108 (dk_at dksX6_far_1 5 rfl rfl)
theorem dX6_far_31 : decode cX6_far 31 = .ok (.aload_n 0, 1) := dk_42 (dk_at dksX6_far_1 8 rfl rfl)
theorem dX6_far_32 : decode cX6_far 32 = .ok (.getfield 11, 3) := dk_180 0 11 (dk_at dksX6_far_1 9 rfl rfl)
theorem dX6_far_35 : decode cX6_far 35 = .ok (.iload_n 2, 1) := dk_28 (dk_at dksX6_far_1 12 rfl rfl)
theorem dX6_far_36 : decode cX6_far 36 = .ok (.aaload, 1) := dk_50 (dk_at dksX6_far_1 13 rfl rfl)
theorem dX6_far_37 : decode cX6_far 37 = .ok (.getfield 108, 3) := dk_180 0 108 (dk_at dksX6_far_1 14 rfl rfl)
theorem dX6_far_40 : decode cX6_far 40 = .ok (.isub, 1) := dk_100 (dk_at dksX6_far_1 17 rfl rfl)
theorem dX6_far_41 : decode cX6_far 41 = .ok (.invokestatic 104, 3) := dk_184 0 104 (dk_at dksX6_far_1 18 rfl rfl)
theorem dX6_far_44 : decode cX6_far 44 = .ok (.invokestatic 111, 3) := dk_184 0 111 (dk_at dksX6_far_1 21 rfl rfl)
theorem dX6_far_47 : decode cX6_far 47 = .ok (.ireturn, 1) := dk_172 (dk_at dksX6_far_2 0 rfl rfl)
abbrev cX6_isNight : ByteArray := prog_13_method_4_code
def yX6_isNight : MethodName := ⟨RX6, "isNight", "(I)Z"⟩
def dkwX6_isNight_0 : List UInt8 := [27, 42, 180, 0, 74, 42, 180, 0, 77, 4, 100, 184, 0, 80, 172]
abbrev dktX6_isNight_0 : List UInt8 := dkwX6_isNight_0 ++ []
theorem dksX6_isNight_0 : cX6_isNight.data.toList.drop 0 = dktX6_isNight_0 := by decide +kernel
theorem dX6_isNight_0 : decode cX6_isNight 0 = .ok (.iload_n 1, 1) := dk_27 (dk_at dksX6_isNight_0 0 rfl rfl)
theorem dX6_isNight_1 : decode cX6_isNight 1 = .ok (.aload_n 0, 1) := dk_42 (dk_at dksX6_isNight_0 1 rfl rfl)
theorem dX6_isNight_2 : decode cX6_isNight 2 = .ok (.getfield 74, 3) := dk_180 0 74 (dk_at dksX6_isNight_0 2 rfl rfl)
theorem dX6_isNight_5 : decode cX6_isNight 5 = .ok (.aload_n 0, 1) := dk_42 (dk_at dksX6_isNight_0 5 rfl rfl)
theorem dX6_isNight_6 : decode cX6_isNight 6 = .ok (.getfield 77, 3) := dk_180 0 77 (dk_at dksX6_isNight_0 6 rfl rfl)
theorem dX6_isNight_9 : decode cX6_isNight 9 = .ok (.iconst 1, 1) := dk_4 (dk_at dksX6_isNight_0 9 rfl rfl)
theorem dX6_isNight_10 : decode cX6_isNight 10 = .ok (.isub, 1) := dk_100 (dk_at dksX6_isNight_0 10 rfl rfl)
theorem dX6_isNight_11 : decode cX6_isNight 11 = .ok (.invokestatic 80, 3) := dk_184 0 80 (dk_at dksX6_isNight_0 11 rfl rfl)
theorem dX6_isNight_14 : decode cX6_isNight 14 = .ok (.ireturn, 1) := dk_172 (dk_at dksX6_isNight_0 14 rfl rfl)
abbrev cX6_all : ByteArray := prog_13_method_9_code
def yX6_all : MethodName := ⟨RX6, "all", "()I"⟩
def dkwX6_all_0 : List UInt8 := [4, 42, 180, 0, 63, 120, 4, 100, 172]
abbrev dktX6_all_0 : List UInt8 := dkwX6_all_0 ++ []
theorem dksX6_all_0 : cX6_all.data.toList.drop 0 = dktX6_all_0 := by decide +kernel
theorem dX6_all_0 : decode cX6_all 0 = .ok (.iconst 1, 1) := dk_4 (dk_at dksX6_all_0 0 rfl rfl)
theorem dX6_all_1 : decode cX6_all 1 = .ok (.aload_n 0, 1) := dk_42 (dk_at dksX6_all_0 1 rfl rfl)
theorem dX6_all_2 : decode cX6_all 2 = .ok (.getfield 63, 3) := dk_180 0 63 (dk_at dksX6_all_0 2 rfl rfl)
theorem dX6_all_5 : decode cX6_all 5 = .ok (.ishl, 1) := dk_120 (dk_at dksX6_all_0 5 rfl rfl)
theorem dX6_all_6 : decode cX6_all 6 = .ok (.iconst 1, 1) := dk_4 (dk_at dksX6_all_0 6 rfl rfl)
theorem dX6_all_7 : decode cX6_all 7 = .ok (.isub, 1) := dk_100 (dk_at dksX6_all_0 7 rfl rfl)
theorem dX6_all_8 : decode cX6_all 8 = .ok (.ireturn, 1) := dk_172 (dk_at dksX6_all_0 8 rfl rfl)
abbrev cX6_range : ByteArray := prog_13_method_5_code
def yX6_range : MethodName := ⟨RX6, "range", "(I)I"⟩
def dkwX6_range_0 : List UInt8 := [42, 27, 182, 0, 84, 153, 0, 10, 42, 180, 0, 88, 167, 0, 7, 42, 180, 0, 91, 172]
abbrev dktX6_range_0 : List UInt8 := dkwX6_range_0 ++ []
theorem dksX6_range_0 : cX6_range.data.toList.drop 0 = dktX6_range_0 := by decide +kernel
theorem dX6_range_0 : decode cX6_range 0 = .ok (.aload_n 0, 1) := dk_42 (dk_at dksX6_range_0 0 rfl rfl)
theorem dX6_range_1 : decode cX6_range 1 = .ok (.iload_n 1, 1) := dk_27 (dk_at dksX6_range_0 1 rfl rfl)
theorem dX6_range_2 : decode cX6_range 2 = .ok (.invokevirtual 84, 3) := dk_182 0 84 (dk_at dksX6_range_0 2 rfl rfl)
theorem dX6_range_5 : decode cX6_range 5 = .ok (.ifCond .eq 10, 3) := dk_153 0 10 (dk_at dksX6_range_0 5 rfl rfl)
theorem dX6_range_8 : decode cX6_range 8 = .ok (.aload_n 0, 1) := dk_42 (dk_at dksX6_range_0 8 rfl rfl)
theorem dX6_range_9 : decode cX6_range 9 = .ok (.getfield 88, 3) := dk_180 0 88 (dk_at dksX6_range_0 9 rfl rfl)
theorem dX6_range_12 : decode cX6_range 12 = .ok (.goto 7, 3) := dk_167 0 7 (dk_at dksX6_range_0 12 rfl rfl)
theorem dX6_range_15 : decode cX6_range 15 = .ok (.aload_n 0, 1) := dk_42 (dk_at dksX6_range_0 15 rfl rfl)
theorem dX6_range_16 : decode cX6_range 16 = .ok (.getfield 91, 3) := dk_180 0 91 (dk_at dksX6_range_0 16 rfl rfl)
theorem dX6_range_19 : decode cX6_range 19 = .ok (.ireturn, 1) := dk_172 (dk_at dksX6_range_0 19 rfl rfl)
theorem q160 : (Jvm.Cond.initialized "NeverUnseen$Valley") ∈ lw_all := lw_g (lw_at lw_m1 9 rfl) rfl
theorem q431 : (Jvm.Cond.instantiable "NeverUnseen$Valley" (23 : Nat)) ∈ lw_all := lw_g (lw_at lw_m2 40 rfl) rfl
theorem q433 : (Jvm.Cond.instanceMethod ({ cls := "NeverUnseen$Valley", name := "<init>", desc := "()V" } : Jvm.MethodName)) ∈ lw_all := lw_g (lw_at lw_m2 42 rfl) rfl
theorem q434 : (Jvm.Cond.code ({ cls := "NeverUnseen$Valley", name := "<init>", desc := "()V" } : Jvm.MethodName) prog_13_method_1_code (1 : Nat) (Option.none : Option Jvm.ClassFile.FieldType)) ∈ lw_all := lw_g (lw_at lw_m2 43 rfl) rfl
theorem q435 : (Jvm.Cond.methodLink "NeverUnseen$Valley" (3 : Nat) ({ cls := "java/lang/Object", name := "<init>", desc := "()V" } : Jvm.MethodName)) ∈ lw_all := lw_g (lw_at lw_m2 44 rfl) rfl
theorem q436 : (Jvm.Cond.classLink "NeverUnseen$Valley" (9 : Nat) "NeverUnseen$Place") ∈ lw_all := lw_g (lw_at lw_m2 45 rfl) rfl
theorem q438 : (Jvm.Cond.classLink "NeverUnseen$Valley" (17 : Nat) "NeverUnseen$Person") ∈ lw_all := lw_g (lw_at lw_m2 47 rfl) rfl
theorem q440 : (Jvm.Cond.classLink "NeverUnseen$Valley" (23 : Nat) "NeverUnseen$Errand") ∈ lw_all := lw_g (lw_at lw_m2 49 rfl) rfl
theorem q442 : (Jvm.Cond.fieldLink "NeverUnseen$Valley" (11 : Nat) "NeverUnseen$Valley" "places" "[LNeverUnseen$Place;") ∈ lw_all := lw_g (lw_at lw_m2 51 rfl) rfl
theorem q445 : (Jvm.Cond.fieldLink "NeverUnseen$Valley" (19 : Nat) "NeverUnseen$Valley" "people" "[LNeverUnseen$Person;") ∈ lw_all := lw_g (lw_at lw_m2 54 rfl) rfl
theorem q448 : (Jvm.Cond.fieldLink "NeverUnseen$Valley" (25 : Nat) "NeverUnseen$Valley" "errands" "[LNeverUnseen$Errand;") ∈ lw_all := lw_g (lw_at lw_m2 57 rfl) rfl
theorem q451 : (Jvm.Cond.fieldLink "NeverUnseen$Valley" (29 : Nat) "NeverUnseen$Valley" "wallFrom" "[I") ∈ lw_all := lw_g (lw_at lw_m2 60 rfl) rfl
theorem q453 : (Jvm.Cond.fieldLink "NeverUnseen$Valley" (33 : Nat) "NeverUnseen$Valley" "wallTo" "[I") ∈ lw_all := lw_g (lw_at lw_m2 62 rfl) rfl
theorem q455 : (Jvm.Cond.fieldLink "NeverUnseen$Valley" (36 : Nat) "NeverUnseen$Valley" "mirrors" "[I") ∈ lw_all := lw_g (lw_at lw_m2 64 rfl) rfl
theorem q458 : (Jvm.Cond.fieldLink "NeverUnseen$Valley" (39 : Nat) "NeverUnseen$Valley" "pairOne" "[I") ∈ lw_all := lw_g (lw_at lw_m2 67 rfl) rfl
theorem q461 : (Jvm.Cond.fieldLink "NeverUnseen$Valley" (42 : Nat) "NeverUnseen$Valley" "pairOther" "[I") ∈ lw_all := lw_g (lw_at lw_m2 70 rfl) rfl
theorem q464 : (Jvm.Cond.fieldLink "NeverUnseen$Valley" (45 : Nat) "NeverUnseen$Valley" "fogs" "[I") ∈ lw_all := lw_g (lw_at lw_m2 73 rfl) rfl
theorem q467 : (Jvm.Cond.fieldLink "NeverUnseen$Valley" (48 : Nat) "NeverUnseen$Valley" "chances" "[I") ∈ lw_all := lw_g (lw_at lw_m2 76 rfl) rfl
theorem q471 : (Jvm.Cond.fieldLink "NeverUnseen$Valley" (63 : Nat) "NeverUnseen$Valley" "placeMany" "I") ∈ lw_all := lw_g (lw_at lw_m2 80 rfl) rfl
theorem q474 : (Jvm.Cond.fieldLink "NeverUnseen$Valley" (71 : Nat) "NeverUnseen$Valley" "personMany" "I") ∈ lw_all := lw_g (lw_at lw_m2 83 rfl) rfl
theorem q479 : (Jvm.Cond.fieldLink "NeverUnseen$Valley" (94 : Nat) "NeverUnseen$Valley" "wallMany" "I") ∈ lw_all := lw_g (lw_at lw_m2 88 rfl) rfl
theorem q491 : (Jvm.Cond.fieldLink "NeverUnseen$Valley" (91 : Nat) "NeverUnseen$Valley" "day" "I") ∈ lw_all := lw_g (lw_at lw_m2 100 rfl) rfl
theorem q494 : (Jvm.Cond.fieldLink "NeverUnseen$Valley" (88 : Nat) "NeverUnseen$Valley" "night" "I") ∈ lw_all := lw_g (lw_at lw_m2 103 rfl) rfl
theorem q497 : (Jvm.Cond.fieldLink "NeverUnseen$Valley" (74 : Nat) "NeverUnseen$Valley" "from" "I") ∈ lw_all := lw_g (lw_at lw_m2 106 rfl) rfl
theorem q499 : (Jvm.Cond.fieldLink "NeverUnseen$Valley" (77 : Nat) "NeverUnseen$Valley" "to" "I") ∈ lw_all := lw_g (lw_at lw_m2 108 rfl) rfl
theorem q503 : (Jvm.Cond.laysFinal "NeverUnseen$Valley" "NeverUnseen$Valley" "places" "[LNeverUnseen$Place;") ∈ lw_all := lw_g (lw_at lw_m2 112 rfl) rfl
theorem q504 : (Jvm.Cond.soleField "NeverUnseen$Valley" "places") ∈ lw_all := lw_g (lw_at lw_m2 113 rfl) rfl
theorem q505 : (Jvm.Cond.laysFinal "NeverUnseen$Valley" "NeverUnseen$Valley" "people" "[LNeverUnseen$Person;") ∈ lw_all := lw_g (lw_at lw_m2 114 rfl) rfl
theorem q506 : (Jvm.Cond.soleField "NeverUnseen$Valley" "people") ∈ lw_all := lw_g (lw_at lw_m2 115 rfl) rfl
theorem q507 : (Jvm.Cond.laysFinal "NeverUnseen$Valley" "NeverUnseen$Valley" "errands" "[LNeverUnseen$Errand;") ∈ lw_all := lw_g (lw_at lw_m2 116 rfl) rfl
theorem q508 : (Jvm.Cond.soleField "NeverUnseen$Valley" "errands") ∈ lw_all := lw_g (lw_at lw_m2 117 rfl) rfl
theorem q509 : (Jvm.Cond.laysFinal "NeverUnseen$Valley" "NeverUnseen$Valley" "wallFrom" "[I") ∈ lw_all := lw_g (lw_at lw_m2 118 rfl) rfl
theorem q510 : (Jvm.Cond.soleField "NeverUnseen$Valley" "wallFrom") ∈ lw_all := lw_g (lw_at lw_m2 119 rfl) rfl
theorem q511 : (Jvm.Cond.laysFinal "NeverUnseen$Valley" "NeverUnseen$Valley" "wallTo" "[I") ∈ lw_all := lw_g (lw_at lw_m2 120 rfl) rfl
theorem q512 : (Jvm.Cond.soleField "NeverUnseen$Valley" "wallTo") ∈ lw_all := lw_g (lw_at lw_m2 121 rfl) rfl
theorem q513 : (Jvm.Cond.laysFinal "NeverUnseen$Valley" "NeverUnseen$Valley" "mirrors" "[I") ∈ lw_all := lw_g (lw_at lw_m2 122 rfl) rfl
theorem q514 : (Jvm.Cond.soleField "NeverUnseen$Valley" "mirrors") ∈ lw_all := lw_g (lw_at lw_m2 123 rfl) rfl
theorem q515 : (Jvm.Cond.laysFinal "NeverUnseen$Valley" "NeverUnseen$Valley" "pairOne" "[I") ∈ lw_all := lw_g (lw_at lw_m2 124 rfl) rfl
theorem q516 : (Jvm.Cond.soleField "NeverUnseen$Valley" "pairOne") ∈ lw_all := lw_g (lw_at lw_m2 125 rfl) rfl
theorem q517 : (Jvm.Cond.laysFinal "NeverUnseen$Valley" "NeverUnseen$Valley" "pairOther" "[I") ∈ lw_all := lw_g (lw_at lw_m2 126 rfl) rfl
theorem q518 : (Jvm.Cond.soleField "NeverUnseen$Valley" "pairOther") ∈ lw_all := lw_g (lw_at lw_m2 127 rfl) rfl
theorem q519 : (Jvm.Cond.laysFinal "NeverUnseen$Valley" "NeverUnseen$Valley" "fogs" "[I") ∈ lw_all := lw_g (lw_at lw_m2 128 rfl) rfl
theorem q520 : (Jvm.Cond.soleField "NeverUnseen$Valley" "fogs") ∈ lw_all := lw_g (lw_at lw_m2 129 rfl) rfl
theorem q521 : (Jvm.Cond.laysFinal "NeverUnseen$Valley" "NeverUnseen$Valley" "chances" "[I") ∈ lw_all := lw_g (lw_at lw_m2 130 rfl) rfl
theorem q522 : (Jvm.Cond.soleField "NeverUnseen$Valley" "chances") ∈ lw_all := lw_g (lw_at lw_m2 131 rfl) rfl
theorem q523 : (Jvm.Cond.lays "NeverUnseen$Valley" "NeverUnseen$Valley" "placeMany" "I") ∈ lw_all := lw_g (lw_at lw_m2 132 rfl) rfl
theorem q524 : (Jvm.Cond.soleField "NeverUnseen$Valley" "placeMany") ∈ lw_all := lw_g (lw_at lw_m2 133 rfl) rfl
theorem q525 : (Jvm.Cond.lays "NeverUnseen$Valley" "NeverUnseen$Valley" "personMany" "I") ∈ lw_all := lw_g (lw_at lw_m2 134 rfl) rfl
theorem q526 : (Jvm.Cond.soleField "NeverUnseen$Valley" "personMany") ∈ lw_all := lw_g (lw_at lw_m2 135 rfl) rfl
theorem q527 : (Jvm.Cond.lays "NeverUnseen$Valley" "NeverUnseen$Valley" "errandMany" "I") ∈ lw_all := lw_g (lw_at lw_m2 136 rfl) rfl
theorem q528 : (Jvm.Cond.soleField "NeverUnseen$Valley" "errandMany") ∈ lw_all := lw_g (lw_at lw_m2 137 rfl) rfl
theorem q529 : (Jvm.Cond.lays "NeverUnseen$Valley" "NeverUnseen$Valley" "wallMany" "I") ∈ lw_all := lw_g (lw_at lw_m2 138 rfl) rfl
theorem q530 : (Jvm.Cond.soleField "NeverUnseen$Valley" "wallMany") ∈ lw_all := lw_g (lw_at lw_m2 139 rfl) rfl
theorem q531 : (Jvm.Cond.lays "NeverUnseen$Valley" "NeverUnseen$Valley" "wayMany" "I") ∈ lw_all := lw_g (lw_at lw_m2 140 rfl) rfl
theorem q532 : (Jvm.Cond.soleField "NeverUnseen$Valley" "wayMany") ∈ lw_all := lw_g (lw_at lw_m2 141 rfl) rfl
theorem q533 : (Jvm.Cond.lays "NeverUnseen$Valley" "NeverUnseen$Valley" "mirrorMany" "I") ∈ lw_all := lw_g (lw_at lw_m2 142 rfl) rfl
theorem q534 : (Jvm.Cond.soleField "NeverUnseen$Valley" "mirrorMany") ∈ lw_all := lw_g (lw_at lw_m2 143 rfl) rfl
theorem q535 : (Jvm.Cond.lays "NeverUnseen$Valley" "NeverUnseen$Valley" "pairMany" "I") ∈ lw_all := lw_g (lw_at lw_m2 144 rfl) rfl
theorem q536 : (Jvm.Cond.soleField "NeverUnseen$Valley" "pairMany") ∈ lw_all := lw_g (lw_at lw_m2 145 rfl) rfl
theorem q537 : (Jvm.Cond.lays "NeverUnseen$Valley" "NeverUnseen$Valley" "fogMany" "I") ∈ lw_all := lw_g (lw_at lw_m2 146 rfl) rfl
theorem q538 : (Jvm.Cond.soleField "NeverUnseen$Valley" "fogMany") ∈ lw_all := lw_g (lw_at lw_m2 147 rfl) rfl
theorem q539 : (Jvm.Cond.lays "NeverUnseen$Valley" "NeverUnseen$Valley" "day" "I") ∈ lw_all := lw_g (lw_at lw_m2 148 rfl) rfl
theorem q540 : (Jvm.Cond.soleField "NeverUnseen$Valley" "day") ∈ lw_all := lw_g (lw_at lw_m2 149 rfl) rfl
theorem q541 : (Jvm.Cond.lays "NeverUnseen$Valley" "NeverUnseen$Valley" "night" "I") ∈ lw_all := lw_g (lw_at lw_m2 150 rfl) rfl
theorem q542 : (Jvm.Cond.soleField "NeverUnseen$Valley" "night") ∈ lw_all := lw_g (lw_at lw_m2 151 rfl) rfl
theorem q543 : (Jvm.Cond.lays "NeverUnseen$Valley" "NeverUnseen$Valley" "from" "I") ∈ lw_all := lw_g (lw_at lw_m2 152 rfl) rfl
theorem q544 : (Jvm.Cond.soleField "NeverUnseen$Valley" "from") ∈ lw_all := lw_g (lw_at lw_m2 153 rfl) rfl
theorem q545 : (Jvm.Cond.lays "NeverUnseen$Valley" "NeverUnseen$Valley" "to" "I") ∈ lw_all := lw_g (lw_at lw_m2 154 rfl) rfl
theorem q546 : (Jvm.Cond.soleField "NeverUnseen$Valley" "to") ∈ lw_all := lw_g (lw_at lw_m2 155 rfl) rfl
theorem q547 : (Jvm.Cond.lays "NeverUnseen$Valley" "NeverUnseen$Valley" "steps" "I") ∈ lw_all := lw_g (lw_at lw_m2 156 rfl) rfl
theorem q548 : (Jvm.Cond.soleField "NeverUnseen$Valley" "steps") ∈ lw_all := lw_g (lw_at lw_m2 157 rfl) rfl
theorem q549 : (Jvm.Cond.superclass "NeverUnseen$Valley" "java/lang/Object") ∈ lw_all := lw_g (lw_at lw_m2 158 rfl) rfl
theorem q777 : (Jvm.Cond.instanceMethod ({ cls := "NeverUnseen$Valley", name := "find", desc := "(Ljava/lang/String;)LNeverUnseen$Named;" } : Jvm.MethodName)) ∈ lw_all := lw_g (lw_at lw_m3 146 rfl) rfl
theorem q778 : (Jvm.Cond.selects "NeverUnseen$Valley" ({ cls := "NeverUnseen$Valley", name := "find", desc := "(Ljava/lang/String;)LNeverUnseen$Named;" } : Jvm.MethodName) ({ cls := "NeverUnseen$Valley", name := "find", desc := "(Ljava/lang/String;)LNeverUnseen$Named;" } : Jvm.MethodName)) ∈ lw_all := lw_g (lw_at lw_m3 147 rfl) rfl
theorem q779 : (Jvm.Cond.code ({ cls := "NeverUnseen$Valley", name := "find", desc := "(Ljava/lang/String;)LNeverUnseen$Named;" } : Jvm.MethodName) prog_13_method_3_code (3 : Nat) (Option.some (Jvm.ClassFile.FieldType.object "NeverUnseen$Named"))) ∈ lw_all := lw_g (lw_at lw_m3 148 rfl) rfl
theorem q780 : (Jvm.Cond.methodLink "NeverUnseen$Valley" (67 : Nat) ({ cls := "NeverUnseen$Valley", name := "among", desc := "([LNeverUnseen$Named;ILjava/lang/String;)LNeverUnseen$Named;" } : Jvm.MethodName)) ∈ lw_all := lw_g (lw_at lw_m3 149 rfl) rfl
theorem q781 : (Jvm.Cond.static ({ cls := "NeverUnseen$Valley", name := "among", desc := "([LNeverUnseen$Named;ILjava/lang/String;)LNeverUnseen$Named;" } : Jvm.MethodName)) ∈ lw_all := lw_g (lw_at lw_m3 150 rfl) rfl
theorem q782 : (Jvm.Cond.code ({ cls := "NeverUnseen$Valley", name := "among", desc := "([LNeverUnseen$Named;ILjava/lang/String;)LNeverUnseen$Named;" } : Jvm.MethodName) prog_13_method_2_code (4 : Nat) (Option.some (Jvm.ClassFile.FieldType.object "NeverUnseen$Named"))) ∈ lw_all := lw_g (lw_at lw_m3 151 rfl) rfl
theorem q783 : (Jvm.Cond.methodLink "NeverUnseen$Valley" (57 : Nat) ({ cls := "java/lang/String", name := "equals", desc := "(Ljava/lang/Object;)Z" } : Jvm.MethodName)) ∈ lw_all := lw_g (lw_at lw_m3 152 rfl) rfl
theorem q791 : (Jvm.Cond.fieldLink "NeverUnseen$Valley" (101 : Nat) "NeverUnseen$Place" "x" "I") ∈ lw_all := lw_g (lw_at lw_m3 160 rfl) rfl
theorem q793 : (Jvm.Cond.fieldLink "NeverUnseen$Valley" (108 : Nat) "NeverUnseen$Place" "y" "I") ∈ lw_all := lw_g (lw_at lw_m3 162 rfl) rfl
theorem q795 : (Jvm.Cond.fieldLink "NeverUnseen$Valley" (117 : Nat) "NeverUnseen$Place" "ways" "I") ∈ lw_all := lw_g (lw_at lw_m3 164 rfl) rfl
theorem q799 : (Jvm.Cond.fieldLink "NeverUnseen$Valley" (51 : Nat) "NeverUnseen$Named" "name" "Ljava/lang/String;") ∈ lw_all := lw_g (lw_at lw_m3 168 rfl) rfl
theorem q834 : (Jvm.Cond.instanceMethod ({ cls := "NeverUnseen$Valley", name := "isWalled", desc := "(III)Z" } : Jvm.MethodName)) ∈ lw_all := lw_g (lw_at lw_m3 203 rfl) rfl
theorem q835 : (Jvm.Cond.selects "NeverUnseen$Valley" ({ cls := "NeverUnseen$Valley", name := "isWalled", desc := "(III)Z" } : Jvm.MethodName) ({ cls := "NeverUnseen$Valley", name := "isWalled", desc := "(III)Z" } : Jvm.MethodName)) ∈ lw_all := lw_g (lw_at lw_m3 204 rfl) rfl
theorem q836 : (Jvm.Cond.code ({ cls := "NeverUnseen$Valley", name := "isWalled", desc := "(III)Z" } : Jvm.MethodName) prog_13_method_6_code (6 : Nat) (Option.some Jvm.ClassFile.FieldType.boolean)) ∈ lw_all := lw_g (lw_at lw_m3 205 rfl) rfl
theorem q837 : (Jvm.Cond.methodLinkNest "NeverUnseen$Valley" (97 : Nat) ({ cls := "NeverUnseen", name := "lies", desc := "(II)Z" } : Jvm.MethodName) "NeverUnseen") ∈ lw_tbl := lw_at lw_m3 206 rfl
theorem q845 : (Jvm.Cond.instanceMethod ({ cls := "NeverUnseen$Valley", name := "areLinked", desc := "(II)Z" } : Jvm.MethodName)) ∈ lw_all := lw_g (lw_at lw_m3 214 rfl) rfl
theorem q846 : (Jvm.Cond.selects "NeverUnseen$Valley" ({ cls := "NeverUnseen$Valley", name := "areLinked", desc := "(II)Z" } : Jvm.MethodName) ({ cls := "NeverUnseen$Valley", name := "areLinked", desc := "(II)Z" } : Jvm.MethodName)) ∈ lw_all := lw_g (lw_at lw_m3 215 rfl) rfl
theorem q847 : (Jvm.Cond.code ({ cls := "NeverUnseen$Valley", name := "areLinked", desc := "(II)Z" } : Jvm.MethodName) prog_13_method_8_code (3 : Nat) (Option.some Jvm.ClassFile.FieldType.boolean)) ∈ lw_all := lw_g (lw_at lw_m3 216 rfl) rfl
theorem q962 : (Jvm.Cond.instanceMethod ({ cls := "NeverUnseen$Valley", name := "far", desc := "(II)I" } : Jvm.MethodName)) ∈ lw_all := lw_g (lw_at lw_m4 91 rfl) rfl
theorem q963 : (Jvm.Cond.selects "NeverUnseen$Valley" ({ cls := "NeverUnseen$Valley", name := "far", desc := "(II)I" } : Jvm.MethodName) ({ cls := "NeverUnseen$Valley", name := "far", desc := "(II)I" } : Jvm.MethodName)) ∈ lw_all := lw_g (lw_at lw_m4 92 rfl) rfl
theorem q964 : (Jvm.Cond.code ({ cls := "NeverUnseen$Valley", name := "far", desc := "(II)I" } : Jvm.MethodName) prog_13_method_7_code (3 : Nat) (Option.some Jvm.ClassFile.FieldType.int)) ∈ lw_all := lw_g (lw_at lw_m4 93 rfl) rfl
theorem q965 : (Jvm.Cond.methodLinkNest "NeverUnseen$Valley" (104 : Nat) ({ cls := "NeverUnseen", name := "without", desc := "(I)I" } : Jvm.MethodName) "NeverUnseen") ∈ lw_tbl := lw_at lw_m4 94 rfl
theorem q968 : (Jvm.Cond.methodLink "NeverUnseen$Valley" (111 : Nat) ({ cls := "java/lang/Math", name := "max", desc := "(II)I" } : Jvm.MethodName)) ∈ lw_all := lw_g (lw_at lw_m4 97 rfl) rfl
theorem q1000 : (Jvm.Cond.instanceMethod ({ cls := "NeverUnseen$Valley", name := "isNight", desc := "(I)Z" } : Jvm.MethodName)) ∈ lw_all := lw_g (lw_at lw_m4 129 rfl) rfl
theorem q1001 : (Jvm.Cond.selects "NeverUnseen$Valley" ({ cls := "NeverUnseen$Valley", name := "isNight", desc := "(I)Z" } : Jvm.MethodName) ({ cls := "NeverUnseen$Valley", name := "isNight", desc := "(I)Z" } : Jvm.MethodName)) ∈ lw_all := lw_g (lw_at lw_m4 130 rfl) rfl
theorem q1002 : (Jvm.Cond.code ({ cls := "NeverUnseen$Valley", name := "isNight", desc := "(I)Z" } : Jvm.MethodName) prog_13_method_4_code (2 : Nat) (Option.some Jvm.ClassFile.FieldType.boolean)) ∈ lw_all := lw_g (lw_at lw_m4 131 rfl) rfl
theorem q1003 : (Jvm.Cond.methodLinkNest "NeverUnseen$Valley" (80 : Nat) ({ cls := "NeverUnseen", name := "in", desc := "(III)Z" } : Jvm.MethodName) "NeverUnseen") ∈ lw_tbl := lw_at lw_m4 132 rfl
theorem q1021 : (Jvm.Cond.instanceMethod ({ cls := "NeverUnseen$Valley", name := "all", desc := "()I" } : Jvm.MethodName)) ∈ lw_all := lw_g (lw_at lw_m4 150 rfl) rfl
theorem q1022 : (Jvm.Cond.selects "NeverUnseen$Valley" ({ cls := "NeverUnseen$Valley", name := "all", desc := "()I" } : Jvm.MethodName) ({ cls := "NeverUnseen$Valley", name := "all", desc := "()I" } : Jvm.MethodName)) ∈ lw_all := lw_g (lw_at lw_m4 151 rfl) rfl
theorem q1023 : (Jvm.Cond.code ({ cls := "NeverUnseen$Valley", name := "all", desc := "()I" } : Jvm.MethodName) prog_13_method_9_code (1 : Nat) (Option.some Jvm.ClassFile.FieldType.int)) ∈ lw_all := lw_g (lw_at lw_m4 152 rfl) rfl
theorem q1310 : (Jvm.Cond.instanceMethod ({ cls := "NeverUnseen$Valley", name := "range", desc := "(I)I" } : Jvm.MethodName)) ∈ lw_all := lw_g (lw_at lw_m5 199 rfl) rfl
theorem q1311 : (Jvm.Cond.selects "NeverUnseen$Valley" ({ cls := "NeverUnseen$Valley", name := "range", desc := "(I)I" } : Jvm.MethodName) ({ cls := "NeverUnseen$Valley", name := "range", desc := "(I)I" } : Jvm.MethodName)) ∈ lw_all := lw_g (lw_at lw_m5 200 rfl) rfl
theorem q1312 : (Jvm.Cond.code ({ cls := "NeverUnseen$Valley", name := "range", desc := "(I)I" } : Jvm.MethodName) prog_13_method_5_code (2 : Nat) (Option.some Jvm.ClassFile.FieldType.int)) ∈ lw_all := lw_g (lw_at lw_m5 201 rfl) rfl
theorem q1313 : (Jvm.Cond.methodLink "NeverUnseen$Valley" (84 : Nat) ({ cls := "NeverUnseen$Valley", name := "isNight", desc := "(I)Z" } : Jvm.MethodName)) ∈ lw_all := lw_g (lw_at lw_m5 202 rfl) rfl
theorem q2269 : (Jvm.Cond.castable "NeverUnseen$Valley" "java/lang/Object") ∈ lw_tbl := lw_at lw_m9 198 rfl
theorem in_X6 : ∀ w ∈ wsX60, w ∈ lw_all := lw_in wsX60 [503, 505, 507, 509, 511, 513, 515, 517, 519, 521, 523, 525, 527, 529, 531, 533, 535, 537, 539, 541, 543, 545, 547] (by decide +kernel) (by decide +kernel)
/-! NeverUnseen$Named -/
set_option maxRecDepth 100000
def RX7 : String := "NeverUnseen$Named"
abbrev cX7_init : ByteArray := prog_6_method_1_code
def yX7_init : MethodName := ⟨RX7, "<init>", "(Ljava/lang/String;I)V"⟩
def dkwX7_init_0 : List UInt8 := [42, 183, 0, 1, 42, 43, 181, 0, 7, 42, 28, 181, 0, 13, 177]
abbrev dktX7_init_0 : List UInt8 := dkwX7_init_0 ++ []
theorem dksX7_init_0 : cX7_init.data.toList.drop 0 = dktX7_init_0 := by decide +kernel
theorem dX7_init_0 : decode cX7_init 0 = .ok (.aload_n 0, 1) := dk_42 (dk_at dksX7_init_0 0 rfl rfl)
theorem dX7_init_1 : decode cX7_init 1 = .ok (.invokespecial 1, 3) := dk_183 0 1 (dk_at dksX7_init_0 1 rfl rfl)
theorem dX7_init_4 : decode cX7_init 4 = .ok (.aload_n 0, 1) := dk_42 (dk_at dksX7_init_0 4 rfl rfl)
theorem dX7_init_5 : decode cX7_init 5 = .ok (.aload_n 1, 1) := dk_43 (dk_at dksX7_init_0 5 rfl rfl)
theorem dX7_init_6 : decode cX7_init 6 = .ok (.putfield 7, 3) := dk_181 0 7 (dk_at dksX7_init_0 6 rfl rfl)
theorem dX7_init_9 : decode cX7_init 9 = .ok (.aload_n 0, 1) := dk_42 (dk_at dksX7_init_0 9 rfl rfl)
theorem dX7_init_10 : decode cX7_init 10 = .ok (.iload_n 2, 1) := dk_28 (dk_at dksX7_init_0 10 rfl rfl)
theorem dX7_init_11 : decode cX7_init 11 = .ok (.putfield 13, 3) := dk_181 0 13 (dk_at dksX7_init_0 11 rfl rfl)
theorem dX7_init_14 : decode cX7_init 14 = .ok (.return_, 1) := dk_177 (dk_at dksX7_init_0 14 rfl rfl)
theorem q166 : (Jvm.Cond.initialized "NeverUnseen$Named") ∈ lw_all := lw_g (lw_at lw_m1 15 rfl) rfl
theorem q788 : (Jvm.Cond.instanceMethod ({ cls := "NeverUnseen$Named", name := "<init>", desc := "(Ljava/lang/String;I)V" } : Jvm.MethodName)) ∈ lw_all := lw_g (lw_at lw_m3 157 rfl) rfl
theorem q789 : (Jvm.Cond.code ({ cls := "NeverUnseen$Named", name := "<init>", desc := "(Ljava/lang/String;I)V" } : Jvm.MethodName) prog_6_method_1_code (3 : Nat) (Option.none : Option Jvm.ClassFile.FieldType)) ∈ lw_all := lw_g (lw_at lw_m3 158 rfl) rfl
theorem q790 : (Jvm.Cond.methodLink "NeverUnseen$Named" (1 : Nat) ({ cls := "java/lang/Object", name := "<init>", desc := "()V" } : Jvm.MethodName)) ∈ lw_all := lw_g (lw_at lw_m3 159 rfl) rfl
theorem q798 : (Jvm.Cond.fieldLink "NeverUnseen$Named" (7 : Nat) "NeverUnseen$Named" "name" "Ljava/lang/String;") ∈ lw_all := lw_g (lw_at lw_m3 167 rfl) rfl
theorem q800 : (Jvm.Cond.fieldLink "NeverUnseen$Named" (13 : Nat) "NeverUnseen$Named" "number" "I") ∈ lw_all := lw_g (lw_at lw_m3 169 rfl) rfl
theorem q812 : (Jvm.Cond.soleField "NeverUnseen$Named" "name") ∈ lw_all := lw_g (lw_at lw_m3 181 rfl) rfl
theorem q814 : (Jvm.Cond.soleField "NeverUnseen$Named" "number") ∈ lw_all := lw_g (lw_at lw_m3 183 rfl) rfl
/-! NeverUnseen$Place -/
set_option maxRecDepth 100000
def RX8 : String := "NeverUnseen$Place"
def TX8 : u_T := fun k => match k with
  | 0 => ("NeverUnseen$Named", "name", "Ljava/lang/String;", true)
  | 1 => ("NeverUnseen$Named", "number", "I", true)
  | 2 => ("NeverUnseen$Place", "x", "I", false)
  | 3 => ("NeverUnseen$Place", "y", "I", false)
  | _ => ("NeverUnseen$Place", "ways", "I", false)
def tyX8 : Nat → FieldType := fun k => match k with
  | 0 => .object "java/lang/String"
  | 1 => .int
  | 2 => .int
  | 3 => .int
  | _ => .int
abbrev wsX80 : List Cond := u_ws RX8 TX8 5
theorem nmX8 : ∀ a, a < 5 → ∀ b, b < 5 → a ≠ b → (TX8 a).2.1 ≠ (TX8 b).2.1 := by decide +kernel
theorem tyX8_ok : ∀ k, k < 5 → parseFieldDescriptor (TX8 k).2.2.1 = some (tyX8 k) := by decide +kernel
abbrev cX8_init : ByteArray := prog_8_method_1_code
def yX8_init : MethodName := ⟨RX8, "<init>", "(Ljava/lang/String;I)V"⟩
def dkwX8_init_0 : List UInt8 := [42, 43, 28, 183, 0, 1, 177]
abbrev dktX8_init_0 : List UInt8 := dkwX8_init_0 ++ []
theorem dksX8_init_0 : cX8_init.data.toList.drop 0 = dktX8_init_0 := by decide +kernel
theorem dX8_init_0 : decode cX8_init 0 = .ok (.aload_n 0, 1) := dk_42 (dk_at dksX8_init_0 0 rfl rfl)
theorem dX8_init_1 : decode cX8_init 1 = .ok (.aload_n 1, 1) := dk_43 (dk_at dksX8_init_0 1 rfl rfl)
theorem dX8_init_2 : decode cX8_init 2 = .ok (.iload_n 2, 1) := dk_28 (dk_at dksX8_init_0 2 rfl rfl)
theorem dX8_init_3 : decode cX8_init 3 = .ok (.invokespecial 1, 3) := dk_183 0 1 (dk_at dksX8_init_0 3 rfl rfl)
theorem dX8_init_6 : decode cX8_init 6 = .ok (.return_, 1) := dk_177 (dk_at dksX8_init_0 6 rfl rfl)
theorem q167 : (Jvm.Cond.initialized "NeverUnseen$Place") ∈ lw_all := lw_g (lw_at lw_m1 16 rfl) rfl
theorem q764 : (Jvm.Cond.instantiable "NeverUnseen$Place" (5 : Nat)) ∈ lw_all := lw_g (lw_at lw_m3 133 rfl) rfl
theorem q785 : (Jvm.Cond.instanceMethod ({ cls := "NeverUnseen$Place", name := "<init>", desc := "(Ljava/lang/String;I)V" } : Jvm.MethodName)) ∈ lw_all := lw_g (lw_at lw_m3 154 rfl) rfl
theorem q786 : (Jvm.Cond.code ({ cls := "NeverUnseen$Place", name := "<init>", desc := "(Ljava/lang/String;I)V" } : Jvm.MethodName) prog_8_method_1_code (3 : Nat) (Option.none : Option Jvm.ClassFile.FieldType)) ∈ lw_all := lw_g (lw_at lw_m3 155 rfl) rfl
theorem q787 : (Jvm.Cond.methodLink "NeverUnseen$Place" (1 : Nat) ({ cls := "NeverUnseen$Named", name := "<init>", desc := "(Ljava/lang/String;I)V" } : Jvm.MethodName)) ∈ lw_all := lw_g (lw_at lw_m3 156 rfl) rfl
theorem q805 : (Jvm.Cond.lays "NeverUnseen$Place" "NeverUnseen$Place" "x" "I") ∈ lw_all := lw_g (lw_at lw_m3 174 rfl) rfl
theorem q806 : (Jvm.Cond.soleField "NeverUnseen$Place" "x") ∈ lw_all := lw_g (lw_at lw_m3 175 rfl) rfl
theorem q807 : (Jvm.Cond.lays "NeverUnseen$Place" "NeverUnseen$Place" "y" "I") ∈ lw_all := lw_g (lw_at lw_m3 176 rfl) rfl
theorem q808 : (Jvm.Cond.soleField "NeverUnseen$Place" "y") ∈ lw_all := lw_g (lw_at lw_m3 177 rfl) rfl
theorem q809 : (Jvm.Cond.lays "NeverUnseen$Place" "NeverUnseen$Place" "ways" "I") ∈ lw_all := lw_g (lw_at lw_m3 178 rfl) rfl
theorem q810 : (Jvm.Cond.soleField "NeverUnseen$Place" "ways") ∈ lw_all := lw_g (lw_at lw_m3 179 rfl) rfl
theorem q811 : (Jvm.Cond.laysFinal "NeverUnseen$Place" "NeverUnseen$Named" "name" "Ljava/lang/String;") ∈ lw_all := lw_g (lw_at lw_m3 180 rfl) rfl
theorem q813 : (Jvm.Cond.laysFinal "NeverUnseen$Place" "NeverUnseen$Named" "number" "I") ∈ lw_all := lw_g (lw_at lw_m3 182 rfl) rfl
theorem q815 : (Jvm.Cond.superclass "NeverUnseen$Place" "NeverUnseen$Named") ∈ lw_all := lw_g (lw_at lw_m3 184 rfl) rfl
theorem q2272 : (Jvm.Cond.castable "NeverUnseen$Place" "java/lang/Object") ∈ lw_tbl := lw_at lw_m9 201 rfl
theorem in_X8 : ∀ w ∈ wsX80, w ∈ lw_all := lw_in wsX80 [811, 813, 805, 807, 809] (by decide +kernel) (by decide +kernel)
/-! NeverUnseen$Person -/
set_option maxRecDepth 100000
def RX9 : String := "NeverUnseen$Person"
def TX9 : u_T := fun k => match k with
  | 0 => ("NeverUnseen$Named", "name", "Ljava/lang/String;", true)
  | 1 => ("NeverUnseen$Named", "number", "I", true)
  | 2 => ("NeverUnseen$Person", "habits", "[LNeverUnseen$Habit;", true)
  | 3 => ("NeverUnseen$Person", "habitMany", "I", false)
  | _ => ("NeverUnseen$Person", "place", "I", false)
def tyX9 : Nat → FieldType := fun k => match k with
  | 0 => .object "java/lang/String"
  | 1 => .int
  | 2 => .array (.object "NeverUnseen$Habit")
  | 3 => .int
  | _ => .int
abbrev wsX90 : List Cond := u_ws RX9 TX9 5
theorem nmX9 : ∀ a, a < 5 → ∀ b, b < 5 → a ≠ b → (TX9 a).2.1 ≠ (TX9 b).2.1 := by decide +kernel
theorem tyX9_ok : ∀ k, k < 5 → parseFieldDescriptor (TX9 k).2.2.1 = some (tyX9 k) := by decide +kernel
abbrev cX9_init : ByteArray := prog_7_method_1_code
def yX9_init : MethodName := ⟨RX9, "<init>", "(Ljava/lang/String;I)V"⟩
def dkwX9_init_0 : List UInt8 := [42, 43, 28, 183, 0, 1, 42, 6, 189, 0, 7, 181, 0, 9, 177]
abbrev dktX9_init_0 : List UInt8 := dkwX9_init_0 ++ []
theorem dksX9_init_0 : cX9_init.data.toList.drop 0 = dktX9_init_0 := by decide +kernel
theorem dX9_init_0 : decode cX9_init 0 = .ok (.aload_n 0, 1) := dk_42 (dk_at dksX9_init_0 0 rfl rfl)
theorem dX9_init_1 : decode cX9_init 1 = .ok (.aload_n 1, 1) := dk_43 (dk_at dksX9_init_0 1 rfl rfl)
theorem dX9_init_2 : decode cX9_init 2 = .ok (.iload_n 2, 1) := dk_28 (dk_at dksX9_init_0 2 rfl rfl)
theorem dX9_init_3 : decode cX9_init 3 = .ok (.invokespecial 1, 3) := dk_183 0 1 (dk_at dksX9_init_0 3 rfl rfl)
theorem dX9_init_6 : decode cX9_init 6 = .ok (.aload_n 0, 1) := dk_42 (dk_at dksX9_init_0 6 rfl rfl)
theorem dX9_init_7 : decode cX9_init 7 = .ok (.iconst 3, 1) := dk_6 (dk_at dksX9_init_0 7 rfl rfl)
theorem dX9_init_8 : decode cX9_init 8 = .ok (.anewarray 7, 3) := dk_189 0 7 (dk_at dksX9_init_0 8 rfl rfl)
theorem dX9_init_11 : decode cX9_init 11 = .ok (.putfield 9, 3) := dk_181 0 9 (dk_at dksX9_init_0 11 rfl rfl)
theorem dX9_init_14 : decode cX9_init 14 = .ok (.return_, 1) := dk_177 (dk_at dksX9_init_0 14 rfl rfl)
abbrev cX9_has : ByteArray := prog_7_method_2_code
def yX9_has : MethodName := ⟨RX9, "has", "(LNeverUnseen$Habit;)V"⟩
def dkwX9_has_0 : List UInt8 := [42, 180, 0, 9, 42, 180, 0, 15, 43, 83, 42, 89, 180, 0, 15, 4, 96, 181, 0, 15, 177]
abbrev dktX9_has_0 : List UInt8 := dkwX9_has_0 ++ []
theorem dksX9_has_0 : cX9_has.data.toList.drop 0 = dktX9_has_0 := by decide +kernel
theorem dX9_has_0 : decode cX9_has 0 = .ok (.aload_n 0, 1) := dk_42 (dk_at dksX9_has_0 0 rfl rfl)
theorem dX9_has_1 : decode cX9_has 1 = .ok (.getfield 9, 3) := dk_180 0 9 (dk_at dksX9_has_0 1 rfl rfl)
theorem dX9_has_4 : decode cX9_has 4 = .ok (.aload_n 0, 1) := dk_42 (dk_at dksX9_has_0 4 rfl rfl)
theorem dX9_has_5 : decode cX9_has 5 = .ok (.getfield 15, 3) := dk_180 0 15 (dk_at dksX9_has_0 5 rfl rfl)
theorem dX9_has_8 : decode cX9_has 8 = .ok (.aload_n 1, 1) := dk_43 (dk_at dksX9_has_0 8 rfl rfl)
theorem dX9_has_9 : decode cX9_has 9 = .ok (.aastore, 1) := dk_83 (dk_at dksX9_has_0 9 rfl rfl)
theorem dX9_has_10 : decode cX9_has 10 = .ok (.aload_n 0, 1) := dk_42 (dk_at dksX9_has_0 10 rfl rfl)
theorem dX9_has_11 : decode cX9_has 11 = .ok (.dup, 1) := dk_89 (dk_at dksX9_has_0 11 rfl rfl)
theorem dX9_has_12 : decode cX9_has 12 = .ok (.getfield 15, 3) := dk_180 0 15 (dk_at dksX9_has_0 12 rfl rfl)
theorem dX9_has_15 : decode cX9_has 15 = .ok (.iconst 1, 1) := dk_4 (dk_at dksX9_has_0 15 rfl rfl)
theorem dX9_has_16 : decode cX9_has 16 = .ok (.iadd, 1) := dk_96 (dk_at dksX9_has_0 16 rfl rfl)
theorem dX9_has_17 : decode cX9_has 17 = .ok (.putfield 15, 3) := dk_181 0 15 (dk_at dksX9_has_0 17 rfl rfl)
theorem dX9_has_20 : decode cX9_has 20 = .ok (.return_, 1) := dk_177 (dk_at dksX9_has_0 20 rfl rfl)
abbrev cX9_watches : ByteArray := prog_7_method_3_code
def yX9_watches : MethodName := ⟨RX9, "watches", "(I)Z"⟩
def dkwX9_watches_1 : List UInt8 := [185, 0, 19, 2, 0, 154, 0, 7, 4, 167, 0, 4, 3, 61, 132, 3, 1, 167, 255, 220, 28, 172]
abbrev dktX9_watches_1 : List UInt8 := dkwX9_watches_1 ++ []
def dkwX9_watches_0 : List UInt8 := [4, 61, 3, 62, 29, 42, 180, 0, 15, 162, 0, 34, 28, 153, 0, 22, 42, 180, 0, 9, 29, 50, 27]
abbrev dktX9_watches_0 : List UInt8 := dkwX9_watches_0 ++ dktX9_watches_1
theorem dksX9_watches_0 : cX9_watches.data.toList.drop 0 = dktX9_watches_0 := by decide +kernel
theorem dksX9_watches_1 : cX9_watches.data.toList.drop 23 = dktX9_watches_1 := dk_seg dksX9_watches_0 23 rfl rfl
theorem dX9_watches_0 : decode cX9_watches 0 = .ok (.iconst 1, 1) := dk_4 (dk_at dksX9_watches_0 0 rfl rfl)
theorem dX9_watches_1 : decode cX9_watches 1 = .ok (.istore_n 2, 1) := dk_61 (dk_at dksX9_watches_0 1 rfl rfl)
theorem dX9_watches_2 : decode cX9_watches 2 = .ok (.iconst 0, 1) := dk_3 (dk_at dksX9_watches_0 2 rfl rfl)
theorem dX9_watches_3 : decode cX9_watches 3 = .ok (.istore_n 3, 1) := dk_62 (dk_at dksX9_watches_0 3 rfl rfl)
theorem dX9_watches_4 : decode cX9_watches 4 = .ok (.iload_n 3, 1) := dk_29 (dk_at dksX9_watches_0 4 rfl rfl)
theorem dX9_watches_5 : decode cX9_watches 5 = .ok (.aload_n 0, 1) := dk_42 (dk_at dksX9_watches_0 5 rfl rfl)
theorem dX9_watches_6 : decode cX9_watches 6 = .ok (.getfield 15, 3) := dk_180 0 15 (dk_at dksX9_watches_0 6 rfl rfl)
theorem dX9_watches_9 : decode cX9_watches 9 = .ok (.if_icmp .ge 34, 3) := dk_162 0 34 (dk_at dksX9_watches_0 9 rfl rfl)
theorem dX9_watches_12 : decode cX9_watches 12 = .ok (.iload_n 2, 1) := dk_28 (dk_at dksX9_watches_0 12 rfl rfl)
theorem dX9_watches_13 : decode cX9_watches 13 = .ok (.ifCond .eq 22, 3) := dk_153 0 22 (dk_at dksX9_watches_0 13 rfl rfl)
theorem dX9_watches_16 : decode cX9_watches 16 = .ok (.aload_n 0, 1) := dk_42 (dk_at dksX9_watches_0 16 rfl rfl)
theorem dX9_watches_17 : decode cX9_watches 17 = .ok (.getfield 9, 3) := dk_180 0 9 (dk_at dksX9_watches_0 17 rfl rfl)
theorem dX9_watches_20 : decode cX9_watches 20 = .ok (.iload_n 3, 1) := dk_29 (dk_at dksX9_watches_0 20 rfl rfl)
theorem dX9_watches_21 : decode cX9_watches 21 = .ok (.aaload, 1) := dk_50 (dk_at dksX9_watches_0 21 rfl rfl)
theorem dX9_watches_22 : decode cX9_watches 22 = .ok (.iload_n 1, 1) := dk_27 (dk_at dksX9_watches_0 22 rfl rfl)
theorem dX9_watches_23 : decode cX9_watches 23 = .ok (.invokeinterface 19 2, 5) := by decide +kernel
theorem dX9_watches_28 : decode cX9_watches 28 = .ok (.ifCond .ne 7, 3) := dk_154 0 7 (dk_at dksX9_watches_1 5 rfl rfl)
theorem dX9_watches_31 : decode cX9_watches 31 = .ok (.iconst 1, 1) := dk_4 (dk_at dksX9_watches_1 8 rfl rfl)
theorem dX9_watches_32 : decode cX9_watches 32 = .ok (.goto 4, 3) := dk_167 0 4 (dk_at dksX9_watches_1 9 rfl rfl)
theorem dX9_watches_35 : decode cX9_watches 35 = .ok (.iconst 0, 1) := dk_3 (dk_at dksX9_watches_1 12 rfl rfl)
theorem dX9_watches_36 : decode cX9_watches 36 = .ok (.istore_n 2, 1) := dk_61 (dk_at dksX9_watches_1 13 rfl rfl)
theorem dX9_watches_37 : decode cX9_watches 37 = .ok (.iinc 3 1, 3) := dk_132 3 1 (dk_at dksX9_watches_1 14 rfl rfl)
theorem dX9_watches_40 : decode cX9_watches 40 = .ok (.goto (-36), 3) := dk_167 255 220 (dk_at dksX9_watches_1 17 rfl rfl)
theorem dX9_watches_43 : decode cX9_watches 43 = .ok (.iload_n 2, 1) := dk_28 (dk_at dksX9_watches_1 20 rfl rfl)
theorem dX9_watches_44 : decode cX9_watches 44 = .ok (.ireturn, 1) := dk_172 (dk_at dksX9_watches_1 21 rfl rfl)
theorem q168 : (Jvm.Cond.initialized "NeverUnseen$Person") ∈ lw_all := lw_g (lw_at lw_m1 17 rfl) rfl
theorem q803 : (Jvm.Cond.sameField "NeverUnseen$Person" "NeverUnseen$Named" "number" "I") ∈ lw_all := lw_g (lw_at lw_m3 172 rfl) rfl
theorem q857 : (Jvm.Cond.instantiable "NeverUnseen$Person" (5 : Nat)) ∈ lw_all := lw_g (lw_at lw_m3 226 rfl) rfl
theorem q859 : (Jvm.Cond.instanceMethod ({ cls := "NeverUnseen$Person", name := "<init>", desc := "(Ljava/lang/String;I)V" } : Jvm.MethodName)) ∈ lw_all := lw_g (lw_at lw_m3 228 rfl) rfl
theorem q860 : (Jvm.Cond.code ({ cls := "NeverUnseen$Person", name := "<init>", desc := "(Ljava/lang/String;I)V" } : Jvm.MethodName) prog_7_method_1_code (3 : Nat) (Option.none : Option Jvm.ClassFile.FieldType)) ∈ lw_all := lw_g (lw_at lw_m3 229 rfl) rfl
theorem q861 : (Jvm.Cond.methodLink "NeverUnseen$Person" (1 : Nat) ({ cls := "NeverUnseen$Named", name := "<init>", desc := "(Ljava/lang/String;I)V" } : Jvm.MethodName)) ∈ lw_all := lw_g (lw_at lw_m3 230 rfl) rfl
theorem q862 : (Jvm.Cond.classLink "NeverUnseen$Person" (7 : Nat) "NeverUnseen$Habit") ∈ lw_all := lw_g (lw_at lw_m3 231 rfl) rfl
theorem q864 : (Jvm.Cond.fieldLink "NeverUnseen$Person" (9 : Nat) "NeverUnseen$Person" "habits" "[LNeverUnseen$Habit;") ∈ lw_all := lw_g (lw_at lw_m3 233 rfl) rfl
theorem q865 : (Jvm.Cond.fieldLink "NeverUnseen$Person" (15 : Nat) "NeverUnseen$Person" "habitMany" "I") ∈ lw_all := lw_g (lw_at lw_m3 234 rfl) rfl
theorem q868 : (Jvm.Cond.laysFinal "NeverUnseen$Person" "NeverUnseen$Person" "habits" "[LNeverUnseen$Habit;") ∈ lw_all := lw_g (lw_at lw_m3 237 rfl) rfl
theorem q869 : (Jvm.Cond.soleField "NeverUnseen$Person" "habits") ∈ lw_all := lw_g (lw_at lw_m3 238 rfl) rfl
theorem q870 : (Jvm.Cond.lays "NeverUnseen$Person" "NeverUnseen$Person" "habitMany" "I") ∈ lw_all := lw_g (lw_at lw_m3 239 rfl) rfl
theorem q871 : (Jvm.Cond.soleField "NeverUnseen$Person" "habitMany") ∈ lw_all := lw_g (lw_at lw_m4 0 rfl) rfl
theorem q872 : (Jvm.Cond.lays "NeverUnseen$Person" "NeverUnseen$Person" "place" "I") ∈ lw_all := lw_g (lw_at lw_m4 1 rfl) rfl
theorem q873 : (Jvm.Cond.soleField "NeverUnseen$Person" "place") ∈ lw_all := lw_g (lw_at lw_m4 2 rfl) rfl
theorem q874 : (Jvm.Cond.laysFinal "NeverUnseen$Person" "NeverUnseen$Named" "name" "Ljava/lang/String;") ∈ lw_all := lw_g (lw_at lw_m4 3 rfl) rfl
theorem q875 : (Jvm.Cond.laysFinal "NeverUnseen$Person" "NeverUnseen$Named" "number" "I") ∈ lw_all := lw_g (lw_at lw_m4 4 rfl) rfl
theorem q876 : (Jvm.Cond.superclass "NeverUnseen$Person" "NeverUnseen$Named") ∈ lw_all := lw_g (lw_at lw_m4 5 rfl) rfl
theorem q885 : (Jvm.Cond.instanceMethod ({ cls := "NeverUnseen$Person", name := "has", desc := "(LNeverUnseen$Habit;)V" } : Jvm.MethodName)) ∈ lw_all := lw_g (lw_at lw_m4 14 rfl) rfl
theorem q886 : (Jvm.Cond.selects "NeverUnseen$Person" ({ cls := "NeverUnseen$Person", name := "has", desc := "(LNeverUnseen$Habit;)V" } : Jvm.MethodName) ({ cls := "NeverUnseen$Person", name := "has", desc := "(LNeverUnseen$Habit;)V" } : Jvm.MethodName)) ∈ lw_all := lw_g (lw_at lw_m4 15 rfl) rfl
theorem q887 : (Jvm.Cond.code ({ cls := "NeverUnseen$Person", name := "has", desc := "(LNeverUnseen$Habit;)V" } : Jvm.MethodName) prog_7_method_2_code (2 : Nat) (Option.none : Option Jvm.ClassFile.FieldType)) ∈ lw_all := lw_g (lw_at lw_m4 16 rfl) rfl
theorem q1033 : (Jvm.Cond.instanceMethod ({ cls := "NeverUnseen$Person", name := "watches", desc := "(I)Z" } : Jvm.MethodName)) ∈ lw_all := lw_g (lw_at lw_m4 162 rfl) rfl
theorem q1034 : (Jvm.Cond.selects "NeverUnseen$Person" ({ cls := "NeverUnseen$Person", name := "watches", desc := "(I)Z" } : Jvm.MethodName) ({ cls := "NeverUnseen$Person", name := "watches", desc := "(I)Z" } : Jvm.MethodName)) ∈ lw_all := lw_g (lw_at lw_m4 163 rfl) rfl
theorem q1035 : (Jvm.Cond.code ({ cls := "NeverUnseen$Person", name := "watches", desc := "(I)Z" } : Jvm.MethodName) prog_7_method_3_code (4 : Nat) (Option.some Jvm.ClassFile.FieldType.boolean)) ∈ lw_all := lw_g (lw_at lw_m4 164 rfl) rfl
theorem q1036 : (Jvm.Cond.interfaceEntry "NeverUnseen$Person" (19 : Nat)) ∈ lw_tbl := lw_at lw_m4 165 rfl
theorem q1037 : (Jvm.Cond.methodLink "NeverUnseen$Person" (19 : Nat) ({ cls := "NeverUnseen$Habit", name := "shuts", desc := "(I)Z" } : Jvm.MethodName)) ∈ lw_all := lw_g (lw_at lw_m4 166 rfl) rfl
theorem q2273 : (Jvm.Cond.castable "NeverUnseen$Person" "java/lang/Object") ∈ lw_tbl := lw_at lw_m9 202 rfl
theorem in_X9 : ∀ w ∈ wsX90, w ∈ lw_all := lw_in wsX90 [874, 875, 868, 870, 872] (by decide +kernel) (by decide +kernel)
/-! NeverUnseen$Baby -/
set_option maxRecDepth 100000
def RX10 : String := "NeverUnseen$Baby"
abbrev cX10_init : ByteArray := prog_3_method_1_code
def yX10_init : MethodName := ⟨RX10, "<init>", "()V"⟩
theorem dX10_init_0 : decode cX10_init 0 = .ok (.aload_n 0, 1) := by decide +kernel
theorem dX10_init_1 : decode cX10_init 1 = .ok (.invokespecial 1, 3) := by decide +kernel
theorem dX10_init_4 : decode cX10_init 4 = .ok (.return_, 1) := by decide +kernel
abbrev cX10_shuts : ByteArray := prog_3_method_2_code
def yX10_shuts : MethodName := ⟨RX10, "shuts", "(I)Z"⟩
theorem dX10_shuts_0 : decode cX10_shuts 0 = .ok (.iconst 1, 1) := by decide +kernel
theorem dX10_shuts_1 : decode cX10_shuts 1 = .ok (.ireturn, 1) := by decide +kernel
theorem q169 : (Jvm.Cond.initialized "NeverUnseen$Baby") ∈ lw_all := lw_g (lw_at lw_m1 18 rfl) rfl
theorem q878 : (Jvm.Cond.instantiable "NeverUnseen$Baby" (0 : Nat)) ∈ lw_all := lw_g (lw_at lw_m4 7 rfl) rfl
theorem q880 : (Jvm.Cond.instanceMethod ({ cls := "NeverUnseen$Baby", name := "<init>", desc := "()V" } : Jvm.MethodName)) ∈ lw_all := lw_g (lw_at lw_m4 9 rfl) rfl
theorem q881 : (Jvm.Cond.code ({ cls := "NeverUnseen$Baby", name := "<init>", desc := "()V" } : Jvm.MethodName) prog_3_method_1_code (1 : Nat) (Option.none : Option Jvm.ClassFile.FieldType)) ∈ lw_all := lw_g (lw_at lw_m4 10 rfl) rfl
theorem q882 : (Jvm.Cond.methodLink "NeverUnseen$Baby" (1 : Nat) ({ cls := "java/lang/Object", name := "<init>", desc := "()V" } : Jvm.MethodName)) ∈ lw_all := lw_g (lw_at lw_m4 11 rfl) rfl
theorem q883 : (Jvm.Cond.superclass "NeverUnseen$Baby" "java/lang/Object") ∈ lw_all := lw_g (lw_at lw_m4 12 rfl) rfl
theorem q1046 : (Jvm.Cond.castable "NeverUnseen$Baby" "NeverUnseen$Habit") ∈ lw_tbl := lw_at lw_m4 175 rfl
theorem q1047 : (Jvm.Cond.selects "NeverUnseen$Baby" ({ cls := "NeverUnseen$Habit", name := "shuts", desc := "(I)Z" } : Jvm.MethodName) ({ cls := "NeverUnseen$Baby", name := "shuts", desc := "(I)Z" } : Jvm.MethodName)) ∈ lw_all := lw_g (lw_at lw_m4 176 rfl) rfl
theorem q1048 : (Jvm.Cond.unhidden "NeverUnseen$Baby" "shuts" "(I)Z") ∈ lw_tbl := lw_at lw_m4 177 rfl
theorem q1049 : (Jvm.Cond.instanceMethod ({ cls := "NeverUnseen$Baby", name := "shuts", desc := "(I)Z" } : Jvm.MethodName)) ∈ lw_all := lw_g (lw_at lw_m4 178 rfl) rfl
theorem q1050 : (Jvm.Cond.publicMethod ({ cls := "NeverUnseen$Baby", name := "shuts", desc := "(I)Z" } : Jvm.MethodName)) ∈ lw_tbl := lw_at lw_m4 179 rfl
theorem q1051 : (Jvm.Cond.code ({ cls := "NeverUnseen$Baby", name := "shuts", desc := "(I)Z" } : Jvm.MethodName) prog_3_method_2_code (2 : Nat) (Option.some Jvm.ClassFile.FieldType.boolean)) ∈ lw_all := lw_g (lw_at lw_m4 180 rfl) rfl
theorem q2274 : (Jvm.Cond.castable "NeverUnseen$Baby" "java/lang/Object") ∈ lw_tbl := lw_at lw_m9 203 rfl
/-! NeverUnseen$Away -/
set_option maxRecDepth 100000
def RX11 : String := "NeverUnseen$Away"
def TX11 : u_T := fun k => match k with
  | _ => ("NeverUnseen$Away", "every", "I", true)
def tyX11 : Nat → FieldType := fun k => match k with
  | _ => .int
abbrev wsX110 : List Cond := u_ws RX11 TX11 1
theorem nmX11 : ∀ a, a < 1 → ∀ b, b < 1 → a ≠ b → (TX11 a).2.1 ≠ (TX11 b).2.1 := by decide +kernel
theorem tyX11_ok : ∀ k, k < 1 → parseFieldDescriptor (TX11 k).2.2.1 = some (tyX11 k) := by decide +kernel
abbrev cX11_init : ByteArray := prog_2_method_1_code
def yX11_init : MethodName := ⟨RX11, "<init>", "(I)V"⟩
def dkwX11_init_0 : List UInt8 := [42, 183, 0, 1, 42, 27, 181, 0, 7, 177]
abbrev dktX11_init_0 : List UInt8 := dkwX11_init_0 ++ []
theorem dksX11_init_0 : cX11_init.data.toList.drop 0 = dktX11_init_0 := by decide +kernel
theorem dX11_init_0 : decode cX11_init 0 = .ok (.aload_n 0, 1) := dk_42 (dk_at dksX11_init_0 0 rfl rfl)
theorem dX11_init_1 : decode cX11_init 1 = .ok (.invokespecial 1, 3) := dk_183 0 1 (dk_at dksX11_init_0 1 rfl rfl)
theorem dX11_init_4 : decode cX11_init 4 = .ok (.aload_n 0, 1) := dk_42 (dk_at dksX11_init_0 4 rfl rfl)
theorem dX11_init_5 : decode cX11_init 5 = .ok (.iload_n 1, 1) := dk_27 (dk_at dksX11_init_0 5 rfl rfl)
theorem dX11_init_6 : decode cX11_init 6 = .ok (.putfield 7, 3) := dk_181 0 7 (dk_at dksX11_init_0 6 rfl rfl)
theorem dX11_init_9 : decode cX11_init 9 = .ok (.return_, 1) := dk_177 (dk_at dksX11_init_0 9 rfl rfl)
abbrev cX11_shuts : ByteArray := prog_2_method_2_code
def yX11_shuts : MethodName := ⟨RX11, "shuts", "(I)Z"⟩
def dkwX11_shuts_0 : List UInt8 := [27, 4, 96, 42, 180, 0, 7, 112, 154, 0, 7, 4, 167, 0, 4, 3, 172]
abbrev dktX11_shuts_0 : List UInt8 := dkwX11_shuts_0 ++ []
theorem dksX11_shuts_0 : cX11_shuts.data.toList.drop 0 = dktX11_shuts_0 := by decide +kernel
theorem dX11_shuts_0 : decode cX11_shuts 0 = .ok (.iload_n 1, 1) := dk_27 (dk_at dksX11_shuts_0 0 rfl rfl)
theorem dX11_shuts_1 : decode cX11_shuts 1 = .ok (.iconst 1, 1) := dk_4 (dk_at dksX11_shuts_0 1 rfl rfl)
theorem dX11_shuts_2 : decode cX11_shuts 2 = .ok (.iadd, 1) := dk_96 (dk_at dksX11_shuts_0 2 rfl rfl)
theorem dX11_shuts_3 : decode cX11_shuts 3 = .ok (.aload_n 0, 1) := dk_42 (dk_at dksX11_shuts_0 3 rfl rfl)
theorem dX11_shuts_4 : decode cX11_shuts 4 = .ok (.getfield 7, 3) := dk_180 0 7 (dk_at dksX11_shuts_0 4 rfl rfl)
theorem dX11_shuts_7 : decode cX11_shuts 7 = .ok (.irem, 1) := dk_112 (dk_at dksX11_shuts_0 7 rfl rfl)
theorem dX11_shuts_8 : decode cX11_shuts 8 = .ok (.ifCond .ne 7, 3) := dk_154 0 7 (dk_at dksX11_shuts_0 8 rfl rfl)
theorem dX11_shuts_11 : decode cX11_shuts 11 = .ok (.iconst 1, 1) := dk_4 (dk_at dksX11_shuts_0 11 rfl rfl)
theorem dX11_shuts_12 : decode cX11_shuts 12 = .ok (.goto 4, 3) := dk_167 0 4 (dk_at dksX11_shuts_0 12 rfl rfl)
theorem dX11_shuts_15 : decode cX11_shuts 15 = .ok (.iconst 0, 1) := dk_3 (dk_at dksX11_shuts_0 15 rfl rfl)
theorem dX11_shuts_16 : decode cX11_shuts 16 = .ok (.ireturn, 1) := dk_172 (dk_at dksX11_shuts_0 16 rfl rfl)
theorem q170 : (Jvm.Cond.initialized "NeverUnseen$Away") ∈ lw_all := lw_g (lw_at lw_m1 19 rfl) rfl
theorem q889 : (Jvm.Cond.instantiable "NeverUnseen$Away" (1 : Nat)) ∈ lw_all := lw_g (lw_at lw_m4 18 rfl) rfl
theorem q891 : (Jvm.Cond.instanceMethod ({ cls := "NeverUnseen$Away", name := "<init>", desc := "(I)V" } : Jvm.MethodName)) ∈ lw_all := lw_g (lw_at lw_m4 20 rfl) rfl
theorem q892 : (Jvm.Cond.code ({ cls := "NeverUnseen$Away", name := "<init>", desc := "(I)V" } : Jvm.MethodName) prog_2_method_1_code (2 : Nat) (Option.none : Option Jvm.ClassFile.FieldType)) ∈ lw_all := lw_g (lw_at lw_m4 21 rfl) rfl
theorem q893 : (Jvm.Cond.methodLink "NeverUnseen$Away" (1 : Nat) ({ cls := "java/lang/Object", name := "<init>", desc := "()V" } : Jvm.MethodName)) ∈ lw_all := lw_g (lw_at lw_m4 22 rfl) rfl
theorem q894 : (Jvm.Cond.fieldLink "NeverUnseen$Away" (7 : Nat) "NeverUnseen$Away" "every" "I") ∈ lw_all := lw_g (lw_at lw_m4 23 rfl) rfl
theorem q895 : (Jvm.Cond.laysFinal "NeverUnseen$Away" "NeverUnseen$Away" "every" "I") ∈ lw_all := lw_g (lw_at lw_m4 24 rfl) rfl
theorem q896 : (Jvm.Cond.soleField "NeverUnseen$Away" "every") ∈ lw_all := lw_g (lw_at lw_m4 25 rfl) rfl
theorem q897 : (Jvm.Cond.superclass "NeverUnseen$Away" "java/lang/Object") ∈ lw_all := lw_g (lw_at lw_m4 26 rfl) rfl
theorem q1040 : (Jvm.Cond.castable "NeverUnseen$Away" "NeverUnseen$Habit") ∈ lw_tbl := lw_at lw_m4 169 rfl
theorem q1041 : (Jvm.Cond.selects "NeverUnseen$Away" ({ cls := "NeverUnseen$Habit", name := "shuts", desc := "(I)Z" } : Jvm.MethodName) ({ cls := "NeverUnseen$Away", name := "shuts", desc := "(I)Z" } : Jvm.MethodName)) ∈ lw_all := lw_g (lw_at lw_m4 170 rfl) rfl
theorem q1042 : (Jvm.Cond.unhidden "NeverUnseen$Away" "shuts" "(I)Z") ∈ lw_tbl := lw_at lw_m4 171 rfl
theorem q1043 : (Jvm.Cond.instanceMethod ({ cls := "NeverUnseen$Away", name := "shuts", desc := "(I)Z" } : Jvm.MethodName)) ∈ lw_all := lw_g (lw_at lw_m4 172 rfl) rfl
theorem q1044 : (Jvm.Cond.publicMethod ({ cls := "NeverUnseen$Away", name := "shuts", desc := "(I)Z" } : Jvm.MethodName)) ∈ lw_tbl := lw_at lw_m4 173 rfl
theorem q1045 : (Jvm.Cond.code ({ cls := "NeverUnseen$Away", name := "shuts", desc := "(I)Z" } : Jvm.MethodName) prog_2_method_2_code (2 : Nat) (Option.some Jvm.ClassFile.FieldType.boolean)) ∈ lw_all := lw_g (lw_at lw_m4 174 rfl) rfl
theorem q2275 : (Jvm.Cond.castable "NeverUnseen$Away" "java/lang/Object") ∈ lw_tbl := lw_at lw_m9 204 rfl
theorem in_X11 : ∀ w ∈ wsX110, w ∈ lw_all := lw_in wsX110 [895] (by decide +kernel) (by decide +kernel)
/-! NeverUnseen$Sleep -/
set_option maxRecDepth 100000
def RX12 : String := "NeverUnseen$Sleep"
def TX12 : u_T := fun k => match k with
  | 0 => ("NeverUnseen$Sleep", "from", "I", true)
  | _ => ("NeverUnseen$Sleep", "to", "I", true)
def tyX12 : Nat → FieldType := fun k => match k with
  | 0 => .int
  | _ => .int
abbrev wsX120 : List Cond := u_ws RX12 TX12 2
theorem nmX12 : ∀ a, a < 2 → ∀ b, b < 2 → a ≠ b → (TX12 a).2.1 ≠ (TX12 b).2.1 := by decide +kernel
theorem tyX12_ok : ∀ k, k < 2 → parseFieldDescriptor (TX12 k).2.2.1 = some (tyX12 k) := by decide +kernel
abbrev cX12_init : ByteArray := prog_12_method_1_code
def yX12_init : MethodName := ⟨RX12, "<init>", "(II)V"⟩
def dkwX12_init_0 : List UInt8 := [42, 183, 0, 1, 42, 27, 181, 0, 7, 42, 28, 181, 0, 13, 177]
abbrev dktX12_init_0 : List UInt8 := dkwX12_init_0 ++ []
theorem dksX12_init_0 : cX12_init.data.toList.drop 0 = dktX12_init_0 := by decide +kernel
theorem dX12_init_0 : decode cX12_init 0 = .ok (.aload_n 0, 1) := dk_42 (dk_at dksX12_init_0 0 rfl rfl)
theorem dX12_init_1 : decode cX12_init 1 = .ok (.invokespecial 1, 3) := dk_183 0 1 (dk_at dksX12_init_0 1 rfl rfl)
theorem dX12_init_4 : decode cX12_init 4 = .ok (.aload_n 0, 1) := dk_42 (dk_at dksX12_init_0 4 rfl rfl)
theorem dX12_init_5 : decode cX12_init 5 = .ok (.iload_n 1, 1) := dk_27 (dk_at dksX12_init_0 5 rfl rfl)
theorem dX12_init_6 : decode cX12_init 6 = .ok (.putfield 7, 3) := dk_181 0 7 (dk_at dksX12_init_0 6 rfl rfl)
theorem dX12_init_9 : decode cX12_init 9 = .ok (.aload_n 0, 1) := dk_42 (dk_at dksX12_init_0 9 rfl rfl)
theorem dX12_init_10 : decode cX12_init 10 = .ok (.iload_n 2, 1) := dk_28 (dk_at dksX12_init_0 10 rfl rfl)
theorem dX12_init_11 : decode cX12_init 11 = .ok (.putfield 13, 3) := dk_181 0 13 (dk_at dksX12_init_0 11 rfl rfl)
theorem dX12_init_14 : decode cX12_init 14 = .ok (.return_, 1) := dk_177 (dk_at dksX12_init_0 14 rfl rfl)
abbrev cX12_shuts : ByteArray := prog_12_method_2_code
def yX12_shuts : MethodName := ⟨RX12, "shuts", "(I)Z"⟩
def dkwX12_shuts_0 : List UInt8 := [27, 42, 180, 0, 7, 42, 180, 0, 13, 4, 100, 184, 0, 16, 172]
abbrev dktX12_shuts_0 : List UInt8 := dkwX12_shuts_0 ++ []
theorem dksX12_shuts_0 : cX12_shuts.data.toList.drop 0 = dktX12_shuts_0 := by decide +kernel
theorem dX12_shuts_0 : decode cX12_shuts 0 = .ok (.iload_n 1, 1) := dk_27 (dk_at dksX12_shuts_0 0 rfl rfl)
theorem dX12_shuts_1 : decode cX12_shuts 1 = .ok (.aload_n 0, 1) := dk_42 (dk_at dksX12_shuts_0 1 rfl rfl)
theorem dX12_shuts_2 : decode cX12_shuts 2 = .ok (.getfield 7, 3) := dk_180 0 7 (dk_at dksX12_shuts_0 2 rfl rfl)
theorem dX12_shuts_5 : decode cX12_shuts 5 = .ok (.aload_n 0, 1) := dk_42 (dk_at dksX12_shuts_0 5 rfl rfl)
theorem dX12_shuts_6 : decode cX12_shuts 6 = .ok (.getfield 13, 3) := dk_180 0 13 (dk_at dksX12_shuts_0 6 rfl rfl)
theorem dX12_shuts_9 : decode cX12_shuts 9 = .ok (.iconst 1, 1) := dk_4 (dk_at dksX12_shuts_0 9 rfl rfl)
theorem dX12_shuts_10 : decode cX12_shuts 10 = .ok (.isub, 1) := dk_100 (dk_at dksX12_shuts_0 10 rfl rfl)
theorem dX12_shuts_11 : decode cX12_shuts 11 = .ok (.invokestatic 16, 3) := dk_184 0 16 (dk_at dksX12_shuts_0 11 rfl rfl)
theorem dX12_shuts_14 : decode cX12_shuts 14 = .ok (.ireturn, 1) := dk_172 (dk_at dksX12_shuts_0 14 rfl rfl)
theorem q171 : (Jvm.Cond.initialized "NeverUnseen$Sleep") ∈ lw_all := lw_g (lw_at lw_m1 20 rfl) rfl
theorem q899 : (Jvm.Cond.instantiable "NeverUnseen$Sleep" (2 : Nat)) ∈ lw_all := lw_g (lw_at lw_m4 28 rfl) rfl
theorem q901 : (Jvm.Cond.instanceMethod ({ cls := "NeverUnseen$Sleep", name := "<init>", desc := "(II)V" } : Jvm.MethodName)) ∈ lw_all := lw_g (lw_at lw_m4 30 rfl) rfl
theorem q902 : (Jvm.Cond.code ({ cls := "NeverUnseen$Sleep", name := "<init>", desc := "(II)V" } : Jvm.MethodName) prog_12_method_1_code (3 : Nat) (Option.none : Option Jvm.ClassFile.FieldType)) ∈ lw_all := lw_g (lw_at lw_m4 31 rfl) rfl
theorem q903 : (Jvm.Cond.methodLink "NeverUnseen$Sleep" (1 : Nat) ({ cls := "java/lang/Object", name := "<init>", desc := "()V" } : Jvm.MethodName)) ∈ lw_all := lw_g (lw_at lw_m4 32 rfl) rfl
theorem q904 : (Jvm.Cond.fieldLink "NeverUnseen$Sleep" (7 : Nat) "NeverUnseen$Sleep" "from" "I") ∈ lw_all := lw_g (lw_at lw_m4 33 rfl) rfl
theorem q905 : (Jvm.Cond.fieldLink "NeverUnseen$Sleep" (13 : Nat) "NeverUnseen$Sleep" "to" "I") ∈ lw_all := lw_g (lw_at lw_m4 34 rfl) rfl
theorem q906 : (Jvm.Cond.laysFinal "NeverUnseen$Sleep" "NeverUnseen$Sleep" "from" "I") ∈ lw_all := lw_g (lw_at lw_m4 35 rfl) rfl
theorem q907 : (Jvm.Cond.soleField "NeverUnseen$Sleep" "from") ∈ lw_all := lw_g (lw_at lw_m4 36 rfl) rfl
theorem q908 : (Jvm.Cond.laysFinal "NeverUnseen$Sleep" "NeverUnseen$Sleep" "to" "I") ∈ lw_all := lw_g (lw_at lw_m4 37 rfl) rfl
theorem q909 : (Jvm.Cond.soleField "NeverUnseen$Sleep" "to") ∈ lw_all := lw_g (lw_at lw_m4 38 rfl) rfl
theorem q910 : (Jvm.Cond.superclass "NeverUnseen$Sleep" "java/lang/Object") ∈ lw_all := lw_g (lw_at lw_m4 39 rfl) rfl
theorem q1052 : (Jvm.Cond.castable "NeverUnseen$Sleep" "NeverUnseen$Habit") ∈ lw_tbl := lw_at lw_m4 181 rfl
theorem q1053 : (Jvm.Cond.selects "NeverUnseen$Sleep" ({ cls := "NeverUnseen$Habit", name := "shuts", desc := "(I)Z" } : Jvm.MethodName) ({ cls := "NeverUnseen$Sleep", name := "shuts", desc := "(I)Z" } : Jvm.MethodName)) ∈ lw_all := lw_g (lw_at lw_m4 182 rfl) rfl
theorem q1054 : (Jvm.Cond.unhidden "NeverUnseen$Sleep" "shuts" "(I)Z") ∈ lw_tbl := lw_at lw_m4 183 rfl
theorem q1055 : (Jvm.Cond.instanceMethod ({ cls := "NeverUnseen$Sleep", name := "shuts", desc := "(I)Z" } : Jvm.MethodName)) ∈ lw_all := lw_g (lw_at lw_m4 184 rfl) rfl
theorem q1056 : (Jvm.Cond.publicMethod ({ cls := "NeverUnseen$Sleep", name := "shuts", desc := "(I)Z" } : Jvm.MethodName)) ∈ lw_tbl := lw_at lw_m4 185 rfl
theorem q1057 : (Jvm.Cond.code ({ cls := "NeverUnseen$Sleep", name := "shuts", desc := "(I)Z" } : Jvm.MethodName) prog_12_method_2_code (2 : Nat) (Option.some Jvm.ClassFile.FieldType.boolean)) ∈ lw_all := lw_g (lw_at lw_m4 186 rfl) rfl
theorem q1058 : (Jvm.Cond.methodLinkNest "NeverUnseen$Sleep" (16 : Nat) ({ cls := "NeverUnseen", name := "in", desc := "(III)Z" } : Jvm.MethodName) "NeverUnseen") ∈ lw_tbl := lw_at lw_m4 187 rfl
theorem q2276 : (Jvm.Cond.castable "NeverUnseen$Sleep" "java/lang/Object") ∈ lw_tbl := lw_at lw_m9 205 rfl
theorem in_X12 : ∀ w ∈ wsX120, w ∈ lw_all := lw_in wsX120 [906, 908] (by decide +kernel) (by decide +kernel)
/-! NeverUnseen$Errand -/
set_option maxRecDepth 100000
def RX13 : String := "NeverUnseen$Errand"
def TX13 : u_T := fun k => match k with
  | 0 => ("NeverUnseen$Errand", "who", "LNeverUnseen$Person;", false)
  | 1 => ("NeverUnseen$Errand", "place", "I", false)
  | 2 => ("NeverUnseen$Errand", "from", "I", false)
  | 3 => ("NeverUnseen$Errand", "to", "I", false)
  | _ => ("NeverUnseen$Errand", "takes", "I", false)
def tyX13 : Nat → FieldType := fun k => match k with
  | 0 => .object "NeverUnseen$Person"
  | 1 => .int
  | 2 => .int
  | 3 => .int
  | _ => .int
abbrev wsX130 : List Cond := u_ws RX13 TX13 5
theorem nmX13 : ∀ a, a < 5 → ∀ b, b < 5 → a ≠ b → (TX13 a).2.1 ≠ (TX13 b).2.1 := by decide +kernel
theorem tyX13_ok : ∀ k, k < 5 → parseFieldDescriptor (TX13 k).2.2.1 = some (tyX13 k) := by decide +kernel
abbrev cX13_init : ByteArray := prog_4_method_1_code
def yX13_init : MethodName := ⟨RX13, "<init>", "()V"⟩
theorem dX13_init_0 : decode cX13_init 0 = .ok (.aload_n 0, 1) := by decide +kernel
theorem dX13_init_1 : decode cX13_init 1 = .ok (.invokespecial 1, 3) := by decide +kernel
theorem dX13_init_4 : decode cX13_init 4 = .ok (.return_, 1) := by decide +kernel
theorem q172 : (Jvm.Cond.initialized "NeverUnseen$Errand") ∈ lw_all := lw_g (lw_at lw_m1 21 rfl) rfl
theorem q924 : (Jvm.Cond.instantiable "NeverUnseen$Errand" (5 : Nat)) ∈ lw_all := lw_g (lw_at lw_m4 53 rfl) rfl
theorem q926 : (Jvm.Cond.instanceMethod ({ cls := "NeverUnseen$Errand", name := "<init>", desc := "()V" } : Jvm.MethodName)) ∈ lw_all := lw_g (lw_at lw_m4 55 rfl) rfl
theorem q927 : (Jvm.Cond.code ({ cls := "NeverUnseen$Errand", name := "<init>", desc := "()V" } : Jvm.MethodName) prog_4_method_1_code (1 : Nat) (Option.none : Option Jvm.ClassFile.FieldType)) ∈ lw_all := lw_g (lw_at lw_m4 56 rfl) rfl
theorem q928 : (Jvm.Cond.methodLink "NeverUnseen$Errand" (1 : Nat) ({ cls := "java/lang/Object", name := "<init>", desc := "()V" } : Jvm.MethodName)) ∈ lw_all := lw_g (lw_at lw_m4 57 rfl) rfl
theorem q939 : (Jvm.Cond.lays "NeverUnseen$Errand" "NeverUnseen$Errand" "who" "LNeverUnseen$Person;") ∈ lw_all := lw_g (lw_at lw_m4 68 rfl) rfl
theorem q940 : (Jvm.Cond.soleField "NeverUnseen$Errand" "who") ∈ lw_all := lw_g (lw_at lw_m4 69 rfl) rfl
theorem q941 : (Jvm.Cond.lays "NeverUnseen$Errand" "NeverUnseen$Errand" "place" "I") ∈ lw_all := lw_g (lw_at lw_m4 70 rfl) rfl
theorem q942 : (Jvm.Cond.soleField "NeverUnseen$Errand" "place") ∈ lw_all := lw_g (lw_at lw_m4 71 rfl) rfl
theorem q943 : (Jvm.Cond.lays "NeverUnseen$Errand" "NeverUnseen$Errand" "from" "I") ∈ lw_all := lw_g (lw_at lw_m4 72 rfl) rfl
theorem q944 : (Jvm.Cond.soleField "NeverUnseen$Errand" "from") ∈ lw_all := lw_g (lw_at lw_m4 73 rfl) rfl
theorem q945 : (Jvm.Cond.lays "NeverUnseen$Errand" "NeverUnseen$Errand" "to" "I") ∈ lw_all := lw_g (lw_at lw_m4 74 rfl) rfl
theorem q946 : (Jvm.Cond.soleField "NeverUnseen$Errand" "to") ∈ lw_all := lw_g (lw_at lw_m4 75 rfl) rfl
theorem q947 : (Jvm.Cond.lays "NeverUnseen$Errand" "NeverUnseen$Errand" "takes" "I") ∈ lw_all := lw_g (lw_at lw_m4 76 rfl) rfl
theorem q948 : (Jvm.Cond.soleField "NeverUnseen$Errand" "takes") ∈ lw_all := lw_g (lw_at lw_m4 77 rfl) rfl
theorem q949 : (Jvm.Cond.superclass "NeverUnseen$Errand" "java/lang/Object") ∈ lw_all := lw_g (lw_at lw_m4 78 rfl) rfl
theorem q2277 : (Jvm.Cond.castable "NeverUnseen$Errand" "java/lang/Object") ∈ lw_tbl := lw_at lw_m9 206 rfl
theorem in_X13 : ∀ w ∈ wsX130, w ∈ lw_all := lw_in wsX130 [939, 941, 943, 945, 947] (by decide +kernel) (by decide +kernel)
/-! NeverUnseenModel$Valley -/
set_option maxRecDepth 100000
def RX14 : String := "NeverUnseenModel$Valley"
def TX14 : u_T := fun k => match k with
  | 0 => ("NeverUnseenModel$Valley", "hasLaw", "Z", false)
  | 1 => ("NeverUnseenModel$Valley", "day", "I", false)
  | 2 => ("NeverUnseenModel$Valley", "night", "I", false)
  | 3 => ("NeverUnseenModel$Valley", "from", "I", false)
  | 4 => ("NeverUnseenModel$Valley", "to", "I", false)
  | 5 => ("NeverUnseenModel$Valley", "steps", "I", false)
  | 6 => ("NeverUnseenModel$Valley", "places", "I", false)
  | 7 => ("NeverUnseenModel$Valley", "walls", "I", false)
  | 8 => ("NeverUnseenModel$Valley", "ways", "I", false)
  | 9 => ("NeverUnseenModel$Valley", "mirrors", "I", false)
  | 10 => ("NeverUnseenModel$Valley", "people", "I", false)
  | 11 => ("NeverUnseenModel$Valley", "pairs", "I", false)
  | 12 => ("NeverUnseenModel$Valley", "errands", "I", false)
  | 13 => ("NeverUnseenModel$Valley", "fogs", "I", false)
  | 14 => ("NeverUnseenModel$Valley", "names", "I", false)
  | 15 => ("NeverUnseenModel$Valley", "x", "[I", true)
  | 16 => ("NeverUnseenModel$Valley", "y", "[I", true)
  | 17 => ("NeverUnseenModel$Valley", "wallA", "[I", true)
  | 18 => ("NeverUnseenModel$Valley", "wallB", "[I", true)
  | 19 => ("NeverUnseenModel$Valley", "wayA", "[I", true)
  | 20 => ("NeverUnseenModel$Valley", "wayB", "[I", true)
  | 21 => ("NeverUnseenModel$Valley", "mirror", "[I", true)
  | 22 => ("NeverUnseenModel$Valley", "begins", "[I", true)
  | 23 => ("NeverUnseenModel$Valley", "away", "[I", true)
  | 24 => ("NeverUnseenModel$Valley", "sleeps", "[I", true)
  | 25 => ("NeverUnseenModel$Valley", "wakes", "[I", true)
  | 26 => ("NeverUnseenModel$Valley", "pairA", "[I", true)
  | 27 => ("NeverUnseenModel$Valley", "pairB", "[I", true)
  | 28 => ("NeverUnseenModel$Valley", "isBaby", "[Z", true)
  | 29 => ("NeverUnseenModel$Valley", "whose", "[I", true)
  | 30 => ("NeverUnseenModel$Valley", "whither", "[I", true)
  | 31 => ("NeverUnseenModel$Valley", "since", "[I", true)
  | 32 => ("NeverUnseenModel$Valley", "until", "[I", true)
  | 33 => ("NeverUnseenModel$Valley", "takes", "[I", true)
  | 34 => ("NeverUnseenModel$Valley", "fogAt", "[I", true)
  | 35 => ("NeverUnseenModel$Valley", "chance", "[I", true)
  | 36 => ("NeverUnseenModel$Valley", "name", "[J", true)
  | 37 => ("NeverUnseenModel$Valley", "nameSort", "[I", true)
  | _ => ("NeverUnseenModel$Valley", "nameNumber", "[I", true)
def tyX14 : Nat → FieldType := fun k => match k with
  | 0 => .boolean
  | 1 => .int
  | 2 => .int
  | 3 => .int
  | 4 => .int
  | 5 => .int
  | 6 => .int
  | 7 => .int
  | 8 => .int
  | 9 => .int
  | 10 => .int
  | 11 => .int
  | 12 => .int
  | 13 => .int
  | 14 => .int
  | 15 => .array .int
  | 16 => .array .int
  | 17 => .array .int
  | 18 => .array .int
  | 19 => .array .int
  | 20 => .array .int
  | 21 => .array .int
  | 22 => .array .int
  | 23 => .array .int
  | 24 => .array .int
  | 25 => .array .int
  | 26 => .array .int
  | 27 => .array .int
  | 28 => .array .boolean
  | 29 => .array .int
  | 30 => .array .int
  | 31 => .array .int
  | 32 => .array .int
  | 33 => .array .int
  | 34 => .array .int
  | 35 => .array .int
  | 36 => .array .long
  | 37 => .array .int
  | _ => .array .int
abbrev wsX140 : List Cond := u_ws RX14 TX14 39
set_option maxRecDepth 100000 in
theorem nmX14 : ∀ a, a < 39 → ∀ b, b < 39 → a ≠ b → (TX14 a).2.1 ≠ (TX14 b).2.1 := by decide +kernel
set_option maxRecDepth 100000 in
theorem tyX14_ok : ∀ k, k < 39 → parseFieldDescriptor (TX14 k).2.2.1 = some (tyX14 k) := by decide +kernel
abbrev cX14_init : ByteArray := prog_16_method_1_code
def yX14_init : MethodName := ⟨RX14, "<init>", "()V"⟩
def dkwX14_init_7 : List UInt8 := [181, 0, 76, 42, 16, 15, 188, 10, 181, 0, 80, 42, 16, 15, 188, 10, 181, 0, 83, 177]
abbrev dktX14_init_7 : List UInt8 := dkwX14_init_7 ++ []
def dkwX14_init_6 : List UInt8 := [181, 0, 67, 42, 7, 188, 10, 181, 0, 70, 42, 7, 188, 10, 181, 0, 73, 42, 16, 15, 188, 11]
abbrev dktX14_init_6 : List UInt8 := dkwX14_init_6 ++ dktX14_init_7
def dkwX14_init_5 : List UInt8 := [188, 10, 181, 0, 58, 42, 8, 188, 10, 181, 0, 61, 42, 8, 188, 10, 181, 0, 64, 42, 8, 188, 10]
abbrev dktX14_init_5 : List UInt8 := dkwX14_init_5 ++ dktX14_init_6
def dkwX14_init_4 : List UInt8 := [42, 6, 188, 10, 181, 0, 48, 42, 8, 188, 4, 181, 0, 51, 42, 8, 188, 10, 181, 0, 55, 42, 8]
abbrev dktX14_init_4 : List UInt8 := dkwX14_init_4 ++ dktX14_init_5
def dkwX14_init_3 : List UInt8 := [181, 0, 36, 42, 8, 188, 10, 181, 0, 39, 42, 8, 188, 10, 181, 0, 42, 42, 6, 188, 10, 181, 0, 45]
abbrev dktX14_init_3 : List UInt8 := dkwX14_init_3 ++ dktX14_init_4
def dkwX14_init_2 : List UInt8 := [188, 10, 181, 0, 27, 42, 7, 188, 10, 181, 0, 30, 42, 8, 188, 10, 181, 0, 33, 42, 8, 188, 10]
abbrev dktX14_init_2 : List UInt8 := dkwX14_init_2 ++ dktX14_init_3
def dkwX14_init_1 : List UInt8 := [188, 10, 181, 0, 18, 42, 16, 10, 188, 10, 181, 0, 21, 42, 16, 16, 188, 10, 181, 0, 24, 42, 16, 16]
abbrev dktX14_init_1 : List UInt8 := dkwX14_init_1 ++ dktX14_init_2
def dkwX14_init_0 : List UInt8 := [42, 183, 0, 3, 42, 16, 10, 188, 10, 181, 0, 9, 42, 16, 10, 188, 10, 181, 0, 15, 42, 16, 10]
abbrev dktX14_init_0 : List UInt8 := dkwX14_init_0 ++ dktX14_init_1
theorem dksX14_init_0 : cX14_init.data.toList.drop 0 = dktX14_init_0 := by decide +kernel
theorem dksX14_init_1 : cX14_init.data.toList.drop 23 = dktX14_init_1 := dk_seg dksX14_init_0 23 rfl rfl
theorem dksX14_init_2 : cX14_init.data.toList.drop 47 = dktX14_init_2 := dk_seg dksX14_init_1 24 rfl rfl
theorem dksX14_init_3 : cX14_init.data.toList.drop 70 = dktX14_init_3 := dk_seg dksX14_init_2 23 rfl rfl
theorem dksX14_init_4 : cX14_init.data.toList.drop 94 = dktX14_init_4 := dk_seg dksX14_init_3 24 rfl rfl
theorem dksX14_init_5 : cX14_init.data.toList.drop 117 = dktX14_init_5 := dk_seg dksX14_init_4 23 rfl rfl
theorem dksX14_init_6 : cX14_init.data.toList.drop 140 = dktX14_init_6 := dk_seg dksX14_init_5 23 rfl rfl
theorem dksX14_init_7 : cX14_init.data.toList.drop 162 = dktX14_init_7 := dk_seg dksX14_init_6 22 rfl rfl
theorem dX14_init_0 : decode cX14_init 0 = .ok (.aload_n 0, 1) := dk_42 (dk_at dksX14_init_0 0 rfl rfl)
theorem dX14_init_1 : decode cX14_init 1 = .ok (.invokespecial 3, 3) := dk_183 0 3 (dk_at dksX14_init_0 1 rfl rfl)
theorem dX14_init_4 : decode cX14_init 4 = .ok (.aload_n 0, 1) := dk_42 (dk_at dksX14_init_0 4 rfl rfl)
theorem dX14_init_5 : decode cX14_init 5 = .ok (.bipush 10, 2) := dk_16 10 (dk_at dksX14_init_0 5 rfl rfl)
theorem dX14_init_7 : decode cX14_init 7 = .ok (.newarray .int, 2) := dk_188_10 (dk_at dksX14_init_0 7 rfl rfl)
theorem dX14_init_9 : decode cX14_init 9 = .ok (.putfield 9, 3) := dk_181 0 9 (dk_at dksX14_init_0 9 rfl rfl)
theorem dX14_init_12 : decode cX14_init 12 = .ok (.aload_n 0, 1) := dk_42 (dk_at dksX14_init_0 12 rfl rfl)
theorem dX14_init_13 : decode cX14_init 13 = .ok (.bipush 10, 2) := dk_16 10 (dk_at dksX14_init_0 13 rfl rfl)
theorem dX14_init_15 : decode cX14_init 15 = .ok (.newarray .int, 2) := dk_188_10 (dk_at dksX14_init_0 15 rfl rfl)
theorem dX14_init_17 : decode cX14_init 17 = .ok (.putfield 15, 3) := dk_181 0 15 (dk_at dksX14_init_0 17 rfl rfl)
theorem dX14_init_20 : decode cX14_init 20 = .ok (.aload_n 0, 1) := dk_42 (dk_at dksX14_init_0 20 rfl rfl)
theorem dX14_init_21 : decode cX14_init 21 = .ok (.bipush 10, 2) := dk_16 10 (dk_at dksX14_init_0 21 rfl rfl)
theorem dX14_init_23 : decode cX14_init 23 = .ok (.newarray .int, 2) := dk_188_10 (dk_at dksX14_init_1 0 rfl rfl)
theorem dX14_init_25 : decode cX14_init 25 = .ok (.putfield 18, 3) := dk_181 0 18 (dk_at dksX14_init_1 2 rfl rfl)
theorem dX14_init_28 : decode cX14_init 28 = .ok (.aload_n 0, 1) := dk_42 (dk_at dksX14_init_1 5 rfl rfl)
theorem dX14_init_29 : decode cX14_init 29 = .ok (.bipush 10, 2) := dk_16 10 (dk_at dksX14_init_1 6 rfl rfl)
theorem dX14_init_31 : decode cX14_init 31 = .ok (.newarray .int, 2) := dk_188_10 (dk_at dksX14_init_1 8 rfl rfl)
theorem dX14_init_33 : decode cX14_init 33 = .ok (.putfield 21, 3) := dk_181 0 21 (dk_at dksX14_init_1 10 rfl rfl)
theorem dX14_init_36 : decode cX14_init 36 = .ok (.aload_n 0, 1) := dk_42 (dk_at dksX14_init_1 13 rfl rfl)
theorem dX14_init_37 : decode cX14_init 37 = .ok (.bipush 16, 2) := dk_16 16 (dk_at dksX14_init_1 14 rfl rfl)
theorem dX14_init_39 : decode cX14_init 39 = .ok (.newarray .int, 2) := dk_188_10 (dk_at dksX14_init_1 16 rfl rfl)
theorem dX14_init_41 : decode cX14_init 41 = .ok (.putfield 24, 3) := dk_181 0 24 (dk_at dksX14_init_1 18 rfl rfl)
theorem dX14_init_44 : decode cX14_init 44 = .ok (.aload_n 0, 1) := dk_42 (dk_at dksX14_init_1 21 rfl rfl)
theorem dX14_init_45 : decode cX14_init 45 = .ok (.bipush 16, 2) := dk_16 16 (dk_at dksX14_init_1 22 rfl rfl)
theorem dX14_init_47 : decode cX14_init 47 = .ok (.newarray .int, 2) := dk_188_10 (dk_at dksX14_init_2 0 rfl rfl)
theorem dX14_init_49 : decode cX14_init 49 = .ok (.putfield 27, 3) := dk_181 0 27 (dk_at dksX14_init_2 2 rfl rfl)
theorem dX14_init_52 : decode cX14_init 52 = .ok (.aload_n 0, 1) := dk_42 (dk_at dksX14_init_2 5 rfl rfl)
theorem dX14_init_53 : decode cX14_init 53 = .ok (.iconst 4, 1) := dk_7 (dk_at dksX14_init_2 6 rfl rfl)
theorem dX14_init_54 : decode cX14_init 54 = .ok (.newarray .int, 2) := dk_188_10 (dk_at dksX14_init_2 7 rfl rfl)
theorem dX14_init_56 : decode cX14_init 56 = .ok (.putfield 30, 3) := dk_181 0 30 (dk_at dksX14_init_2 9 rfl rfl)
theorem dX14_init_59 : decode cX14_init 59 = .ok (.aload_n 0, 1) := dk_42 (dk_at dksX14_init_2 12 rfl rfl)
theorem dX14_init_60 : decode cX14_init 60 = .ok (.iconst 5, 1) := dk_8 (dk_at dksX14_init_2 13 rfl rfl)
theorem dX14_init_61 : decode cX14_init 61 = .ok (.newarray .int, 2) := dk_188_10 (dk_at dksX14_init_2 14 rfl rfl)
theorem dX14_init_63 : decode cX14_init 63 = .ok (.putfield 33, 3) := dk_181 0 33 (dk_at dksX14_init_2 16 rfl rfl)
theorem dX14_init_66 : decode cX14_init 66 = .ok (.aload_n 0, 1) := dk_42 (dk_at dksX14_init_2 19 rfl rfl)
theorem dX14_init_67 : decode cX14_init 67 = .ok (.iconst 5, 1) := dk_8 (dk_at dksX14_init_2 20 rfl rfl)
theorem dX14_init_68 : decode cX14_init 68 = .ok (.newarray .int, 2) := dk_188_10 (dk_at dksX14_init_2 21 rfl rfl)
theorem dX14_init_70 : decode cX14_init 70 = .ok (.putfield 36, 3) := dk_181 0 36 (dk_at dksX14_init_3 0 rfl rfl)
theorem dX14_init_73 : decode cX14_init 73 = .ok (.aload_n 0, 1) := dk_42 (dk_at dksX14_init_3 3 rfl rfl)
theorem dX14_init_74 : decode cX14_init 74 = .ok (.iconst 5, 1) := dk_8 (dk_at dksX14_init_3 4 rfl rfl)
theorem dX14_init_75 : decode cX14_init 75 = .ok (.newarray .int, 2) := dk_188_10 (dk_at dksX14_init_3 5 rfl rfl)
theorem dX14_init_77 : decode cX14_init 77 = .ok (.putfield 39, 3) := dk_181 0 39 (dk_at dksX14_init_3 7 rfl rfl)
theorem dX14_init_80 : decode cX14_init 80 = .ok (.aload_n 0, 1) := dk_42 (dk_at dksX14_init_3 10 rfl rfl)
theorem dX14_init_81 : decode cX14_init 81 = .ok (.iconst 5, 1) := dk_8 (dk_at dksX14_init_3 11 rfl rfl)
theorem dX14_init_82 : decode cX14_init 82 = .ok (.newarray .int, 2) := dk_188_10 (dk_at dksX14_init_3 12 rfl rfl)
theorem dX14_init_84 : decode cX14_init 84 = .ok (.putfield 42, 3) := dk_181 0 42 (dk_at dksX14_init_3 14 rfl rfl)
theorem dX14_init_87 : decode cX14_init 87 = .ok (.aload_n 0, 1) := dk_42 (dk_at dksX14_init_3 17 rfl rfl)
theorem dX14_init_88 : decode cX14_init 88 = .ok (.iconst 3, 1) := dk_6 (dk_at dksX14_init_3 18 rfl rfl)
theorem dX14_init_89 : decode cX14_init 89 = .ok (.newarray .int, 2) := dk_188_10 (dk_at dksX14_init_3 19 rfl rfl)
theorem dX14_init_91 : decode cX14_init 91 = .ok (.putfield 45, 3) := dk_181 0 45 (dk_at dksX14_init_3 21 rfl rfl)
theorem dX14_init_94 : decode cX14_init 94 = .ok (.aload_n 0, 1) := dk_42 (dk_at dksX14_init_4 0 rfl rfl)
theorem dX14_init_95 : decode cX14_init 95 = .ok (.iconst 3, 1) := dk_6 (dk_at dksX14_init_4 1 rfl rfl)
theorem dX14_init_96 : decode cX14_init 96 = .ok (.newarray .int, 2) := dk_188_10 (dk_at dksX14_init_4 2 rfl rfl)
theorem dX14_init_98 : decode cX14_init 98 = .ok (.putfield 48, 3) := dk_181 0 48 (dk_at dksX14_init_4 4 rfl rfl)
theorem dX14_init_101 : decode cX14_init 101 = .ok (.aload_n 0, 1) := dk_42 (dk_at dksX14_init_4 7 rfl rfl)
theorem dX14_init_102 : decode cX14_init 102 = .ok (.iconst 5, 1) := dk_8 (dk_at dksX14_init_4 8 rfl rfl)
theorem dX14_init_103 : decode cX14_init 103 = .ok (.newarray .boolean, 2) := dk_188_4 (dk_at dksX14_init_4 9 rfl rfl)
theorem dX14_init_105 : decode cX14_init 105 = .ok (.putfield 51, 3) := dk_181 0 51 (dk_at dksX14_init_4 11 rfl rfl)
theorem dX14_init_108 : decode cX14_init 108 = .ok (.aload_n 0, 1) := dk_42 (dk_at dksX14_init_4 14 rfl rfl)
theorem dX14_init_109 : decode cX14_init 109 = .ok (.iconst 5, 1) := dk_8 (dk_at dksX14_init_4 15 rfl rfl)
theorem dX14_init_110 : decode cX14_init 110 = .ok (.newarray .int, 2) := dk_188_10 (dk_at dksX14_init_4 16 rfl rfl)
theorem dX14_init_112 : decode cX14_init 112 = .ok (.putfield 55, 3) := dk_181 0 55 (dk_at dksX14_init_4 18 rfl rfl)
theorem dX14_init_115 : decode cX14_init 115 = .ok (.aload_n 0, 1) := dk_42 (dk_at dksX14_init_4 21 rfl rfl)
theorem dX14_init_116 : decode cX14_init 116 = .ok (.iconst 5, 1) := dk_8 (dk_at dksX14_init_4 22 rfl rfl)
theorem dX14_init_117 : decode cX14_init 117 = .ok (.newarray .int, 2) := dk_188_10 (dk_at dksX14_init_5 0 rfl rfl)
theorem dX14_init_119 : decode cX14_init 119 = .ok (.putfield 58, 3) := dk_181 0 58 (dk_at dksX14_init_5 2 rfl rfl)
theorem dX14_init_122 : decode cX14_init 122 = .ok (.aload_n 0, 1) := dk_42 (dk_at dksX14_init_5 5 rfl rfl)
theorem dX14_init_123 : decode cX14_init 123 = .ok (.iconst 5, 1) := dk_8 (dk_at dksX14_init_5 6 rfl rfl)
theorem dX14_init_124 : decode cX14_init 124 = .ok (.newarray .int, 2) := dk_188_10 (dk_at dksX14_init_5 7 rfl rfl)
theorem dX14_init_126 : decode cX14_init 126 = .ok (.putfield 61, 3) := dk_181 0 61 (dk_at dksX14_init_5 9 rfl rfl)
theorem dX14_init_129 : decode cX14_init 129 = .ok (.aload_n 0, 1) := dk_42 (dk_at dksX14_init_5 12 rfl rfl)
theorem dX14_init_130 : decode cX14_init 130 = .ok (.iconst 5, 1) := dk_8 (dk_at dksX14_init_5 13 rfl rfl)
theorem dX14_init_131 : decode cX14_init 131 = .ok (.newarray .int, 2) := dk_188_10 (dk_at dksX14_init_5 14 rfl rfl)
theorem dX14_init_133 : decode cX14_init 133 = .ok (.putfield 64, 3) := dk_181 0 64 (dk_at dksX14_init_5 16 rfl rfl)
theorem dX14_init_136 : decode cX14_init 136 = .ok (.aload_n 0, 1) := dk_42 (dk_at dksX14_init_5 19 rfl rfl)
theorem dX14_init_137 : decode cX14_init 137 = .ok (.iconst 5, 1) := dk_8 (dk_at dksX14_init_5 20 rfl rfl)
theorem dX14_init_138 : decode cX14_init 138 = .ok (.newarray .int, 2) := dk_188_10 (dk_at dksX14_init_5 21 rfl rfl)
theorem dX14_init_140 : decode cX14_init 140 = .ok (.putfield 67, 3) := dk_181 0 67 (dk_at dksX14_init_6 0 rfl rfl)
theorem dX14_init_143 : decode cX14_init 143 = .ok (.aload_n 0, 1) := dk_42 (dk_at dksX14_init_6 3 rfl rfl)
theorem dX14_init_144 : decode cX14_init 144 = .ok (.iconst 4, 1) := dk_7 (dk_at dksX14_init_6 4 rfl rfl)
theorem dX14_init_145 : decode cX14_init 145 = .ok (.newarray .int, 2) := dk_188_10 (dk_at dksX14_init_6 5 rfl rfl)
theorem dX14_init_147 : decode cX14_init 147 = .ok (.putfield 70, 3) := dk_181 0 70 (dk_at dksX14_init_6 7 rfl rfl)
theorem dX14_init_150 : decode cX14_init 150 = .ok (.aload_n 0, 1) := dk_42 (dk_at dksX14_init_6 10 rfl rfl)
theorem dX14_init_151 : decode cX14_init 151 = .ok (.iconst 4, 1) := dk_7 (dk_at dksX14_init_6 11 rfl rfl)
theorem dX14_init_152 : decode cX14_init 152 = .ok (.newarray .int, 2) := dk_188_10 (dk_at dksX14_init_6 12 rfl rfl)
theorem dX14_init_154 : decode cX14_init 154 = .ok (.putfield 73, 3) := dk_181 0 73 (dk_at dksX14_init_6 14 rfl rfl)
theorem dX14_init_157 : decode cX14_init 157 = .ok (.aload_n 0, 1) := dk_42 (dk_at dksX14_init_6 17 rfl rfl)
theorem dX14_init_158 : decode cX14_init 158 = .ok (.bipush 15, 2) := dk_16 15 (dk_at dksX14_init_6 18 rfl rfl)
theorem dX14_init_160 : decode cX14_init 160 = .ok (.newarray .long, 2) := dk_188_11 (dk_at dksX14_init_6 20 rfl rfl)
theorem dX14_init_162 : decode cX14_init 162 = .ok (.putfield 76, 3) := dk_181 0 76 (dk_at dksX14_init_7 0 rfl rfl)
theorem dX14_init_165 : decode cX14_init 165 = .ok (.aload_n 0, 1) := dk_42 (dk_at dksX14_init_7 3 rfl rfl)
theorem dX14_init_166 : decode cX14_init 166 = .ok (.bipush 15, 2) := dk_16 15 (dk_at dksX14_init_7 4 rfl rfl)
theorem dX14_init_168 : decode cX14_init 168 = .ok (.newarray .int, 2) := dk_188_10 (dk_at dksX14_init_7 6 rfl rfl)
theorem dX14_init_170 : decode cX14_init 170 = .ok (.putfield 80, 3) := dk_181 0 80 (dk_at dksX14_init_7 8 rfl rfl)
theorem dX14_init_173 : decode cX14_init 173 = .ok (.aload_n 0, 1) := dk_42 (dk_at dksX14_init_7 11 rfl rfl)
theorem dX14_init_174 : decode cX14_init 174 = .ok (.bipush 15, 2) := dk_16 15 (dk_at dksX14_init_7 12 rfl rfl)
theorem dX14_init_176 : decode cX14_init 176 = .ok (.newarray .int, 2) := dk_188_10 (dk_at dksX14_init_7 14 rfl rfl)
theorem dX14_init_178 : decode cX14_init 178 = .ok (.putfield 83, 3) := dk_181 0 83 (dk_at dksX14_init_7 16 rfl rfl)
theorem dX14_init_181 : decode cX14_init 181 = .ok (.return_, 1) := dk_177 (dk_at dksX14_init_7 19 rfl rfl)
abbrev cX14_find : ByteArray := prog_16_method_2_code
def yX14_find : MethodName := ⟨RX14, "find", "(J)I"⟩
def dkwX14_find_1 : List UInt8 := [132, 3, 1, 167, 255, 232, 2, 172]
abbrev dktX14_find_1 : List UInt8 := dkwX14_find_1 ++ []
def dkwX14_find_0 : List UInt8 := [3, 62, 29, 42, 180, 0, 86, 162, 0, 22, 42, 180, 0, 76, 29, 47, 31, 148, 154, 0, 5, 29, 172]
abbrev dktX14_find_0 : List UInt8 := dkwX14_find_0 ++ dktX14_find_1
theorem dksX14_find_0 : cX14_find.data.toList.drop 0 = dktX14_find_0 := by decide +kernel
theorem dksX14_find_1 : cX14_find.data.toList.drop 23 = dktX14_find_1 := dk_seg dksX14_find_0 23 rfl rfl
theorem dX14_find_0 : decode cX14_find 0 = .ok (.iconst 0, 1) := dk_3 (dk_at dksX14_find_0 0 rfl rfl)
theorem dX14_find_1 : decode cX14_find 1 = .ok (.istore_n 3, 1) := dk_62 (dk_at dksX14_find_0 1 rfl rfl)
theorem dX14_find_2 : decode cX14_find 2 = .ok (.iload_n 3, 1) := dk_29 (dk_at dksX14_find_0 2 rfl rfl)
theorem dX14_find_3 : decode cX14_find 3 = .ok (.aload_n 0, 1) := dk_42 (dk_at dksX14_find_0 3 rfl rfl)
theorem dX14_find_4 : decode cX14_find 4 = .ok (.getfield 86, 3) := dk_180 0 86 (dk_at dksX14_find_0 4 rfl rfl)
theorem dX14_find_7 : decode cX14_find 7 = .ok (.if_icmp .ge 22, 3) := dk_162 0 22 (dk_at dksX14_find_0 7 rfl rfl)
theorem dX14_find_10 : decode cX14_find 10 = .ok (.aload_n 0, 1) := dk_42 (dk_at dksX14_find_0 10 rfl rfl)
theorem dX14_find_11 : decode cX14_find 11 = .ok (.getfield 76, 3) := dk_180 0 76 (dk_at dksX14_find_0 11 rfl rfl)
theorem dX14_find_14 : decode cX14_find 14 = .ok (.iload_n 3, 1) := dk_29 (dk_at dksX14_find_0 14 rfl rfl)
theorem dX14_find_15 : decode cX14_find 15 = .ok (.laload, 1) := dk_47 (dk_at dksX14_find_0 15 rfl rfl)
theorem dX14_find_16 : decode cX14_find 16 = .ok (.lload_n 1, 1) := dk_31 (dk_at dksX14_find_0 16 rfl rfl)
theorem dX14_find_17 : decode cX14_find 17 = .ok (.lcmp, 1) := dk_148 (dk_at dksX14_find_0 17 rfl rfl)
theorem dX14_find_18 : decode cX14_find 18 = .ok (.ifCond .ne 5, 3) := dk_154 0 5 (dk_at dksX14_find_0 18 rfl rfl)
theorem dX14_find_21 : decode cX14_find 21 = .ok (.iload_n 3, 1) := dk_29 (dk_at dksX14_find_0 21 rfl rfl)
theorem dX14_find_22 : decode cX14_find 22 = .ok (.ireturn, 1) := dk_172 (dk_at dksX14_find_0 22 rfl rfl)
theorem dX14_find_23 : decode cX14_find 23 = .ok (.iinc 3 1, 3) := dk_132 3 1 (dk_at dksX14_find_1 0 rfl rfl)
theorem dX14_find_26 : decode cX14_find 26 = .ok (.goto (-24), 3) := dk_167 255 232 (dk_at dksX14_find_1 3 rfl rfl)
theorem dX14_find_29 : decode cX14_find 29 = .ok (.iconst (-1), 1) := dk_2 (dk_at dksX14_find_1 6 rfl rfl)
theorem dX14_find_30 : decode cX14_find 30 = .ok (.ireturn, 1) := dk_172 (dk_at dksX14_find_1 7 rfl rfl)
abbrev cX14_near : ByteArray := prog_16_method_3_code
def yX14_near : MethodName := ⟨RX14, "near", "(I)I"⟩
def dkwX14_near_2 : List UInt8 := [180, 0, 24, 29, 46, 120, 128, 61, 132, 3, 1, 167, 255, 203, 28, 172]
abbrev dktX14_near_2 : List UInt8 := dkwX14_near_2 ++ []
def dkwX14_near_1 : List UInt8 := [42, 180, 0, 27, 29, 46, 120, 128, 61, 42, 180, 0, 27, 29, 46, 27, 160, 0, 14, 28, 4, 42]
abbrev dktX14_near_1 : List UInt8 := dkwX14_near_1 ++ dktX14_near_2
def dkwX14_near_0 : List UInt8 := [3, 61, 3, 62, 29, 42, 180, 0, 90, 162, 0, 51, 42, 180, 0, 24, 29, 46, 27, 160, 0, 14, 28, 4]
abbrev dktX14_near_0 : List UInt8 := dkwX14_near_0 ++ dktX14_near_1
theorem dksX14_near_0 : cX14_near.data.toList.drop 0 = dktX14_near_0 := by decide +kernel
theorem dksX14_near_1 : cX14_near.data.toList.drop 24 = dktX14_near_1 := dk_seg dksX14_near_0 24 rfl rfl
theorem dksX14_near_2 : cX14_near.data.toList.drop 46 = dktX14_near_2 := dk_seg dksX14_near_1 22 rfl rfl
theorem dX14_near_0 : decode cX14_near 0 = .ok (.iconst 0, 1) := dk_3 (dk_at dksX14_near_0 0 rfl rfl)
theorem dX14_near_1 : decode cX14_near 1 = .ok (.istore_n 2, 1) := dk_61 (dk_at dksX14_near_0 1 rfl rfl)
theorem dX14_near_2 : decode cX14_near 2 = .ok (.iconst 0, 1) := dk_3 (dk_at dksX14_near_0 2 rfl rfl)
theorem dX14_near_3 : decode cX14_near 3 = .ok (.istore_n 3, 1) := dk_62 (dk_at dksX14_near_0 3 rfl rfl)
theorem dX14_near_4 : decode cX14_near 4 = .ok (.iload_n 3, 1) := dk_29 (dk_at dksX14_near_0 4 rfl rfl)
theorem dX14_near_5 : decode cX14_near 5 = .ok (.aload_n 0, 1) := dk_42 (dk_at dksX14_near_0 5 rfl rfl)
theorem dX14_near_6 : decode cX14_near 6 = .ok (.getfield 90, 3) := dk_180 0 90 (dk_at dksX14_near_0 6 rfl rfl)
theorem dX14_near_9 : decode cX14_near 9 = .ok (.if_icmp .ge 51, 3) := dk_162 0 51 (dk_at dksX14_near_0 9 rfl rfl)
theorem dX14_near_12 : decode cX14_near 12 = .ok (.aload_n 0, 1) := dk_42 (dk_at dksX14_near_0 12 rfl rfl)
theorem dX14_near_13 : decode cX14_near 13 = .ok (.getfield 24, 3) := dk_180 0 24 (dk_at dksX14_near_0 13 rfl rfl)
theorem dX14_near_16 : decode cX14_near 16 = .ok (.iload_n 3, 1) := dk_29 (dk_at dksX14_near_0 16 rfl rfl)
theorem dX14_near_17 : decode cX14_near 17 = .ok (.iaload, 1) := dk_46 (dk_at dksX14_near_0 17 rfl rfl)
theorem dX14_near_18 : decode cX14_near 18 = .ok (.iload_n 1, 1) := dk_27 (dk_at dksX14_near_0 18 rfl rfl)
theorem dX14_near_19 : decode cX14_near 19 = .ok (.if_icmp .ne 14, 3) := dk_160 0 14 (dk_at dksX14_near_0 19 rfl rfl)
theorem dX14_near_22 : decode cX14_near 22 = .ok (.iload_n 2, 1) := dk_28 (dk_at dksX14_near_0 22 rfl rfl)
theorem dX14_near_23 : decode cX14_near 23 = .ok (.iconst 1, 1) := dk_4 (dk_at dksX14_near_0 23 rfl rfl)
theorem dX14_near_24 : decode cX14_near 24 = .ok (.aload_n 0, 1) := dk_42 (dk_at dksX14_near_1 0 rfl rfl)
theorem dX14_near_25 : decode cX14_near 25 = .ok (.getfield 27, 3) := dk_180 0 27 (dk_at dksX14_near_1 1 rfl rfl)
theorem dX14_near_28 : decode cX14_near 28 = .ok (.iload_n 3, 1) := dk_29 (dk_at dksX14_near_1 4 rfl rfl)
theorem dX14_near_29 : decode cX14_near 29 = .ok (.iaload, 1) := dk_46 (dk_at dksX14_near_1 5 rfl rfl)
theorem dX14_near_30 : decode cX14_near 30 = .ok (.ishl, 1) := dk_120 (dk_at dksX14_near_1 6 rfl rfl)
theorem dX14_near_31 : decode cX14_near 31 = .ok (.ior, 1) := dk_128 (dk_at dksX14_near_1 7 rfl rfl)
theorem dX14_near_32 : decode cX14_near 32 = .ok (.istore_n 2, 1) := dk_61 (dk_at dksX14_near_1 8 rfl rfl)
theorem dX14_near_33 : decode cX14_near 33 = .ok (.aload_n 0, 1) := dk_42 (dk_at dksX14_near_1 9 rfl rfl)
theorem dX14_near_34 : decode cX14_near 34 = .ok (.getfield 27, 3) := dk_180 0 27 (dk_at dksX14_near_1 10 rfl rfl)
theorem dX14_near_37 : decode cX14_near 37 = .ok (.iload_n 3, 1) := dk_29 (dk_at dksX14_near_1 13 rfl rfl)
theorem dX14_near_38 : decode cX14_near 38 = .ok (.iaload, 1) := dk_46 (dk_at dksX14_near_1 14 rfl rfl)
theorem dX14_near_39 : decode cX14_near 39 = .ok (.iload_n 1, 1) := dk_27 (dk_at dksX14_near_1 15 rfl rfl)
theorem dX14_near_40 : decode cX14_near 40 = .ok (.if_icmp .ne 14, 3) := dk_160 0 14 (dk_at dksX14_near_1 16 rfl rfl)
theorem dX14_near_43 : decode cX14_near 43 = .ok (.iload_n 2, 1) := dk_28 (dk_at dksX14_near_1 19 rfl rfl)
theorem dX14_near_44 : decode cX14_near 44 = .ok (.iconst 1, 1) := dk_4 (dk_at dksX14_near_1 20 rfl rfl)
theorem dX14_near_45 : decode cX14_near 45 = .ok (.aload_n 0, 1) := dk_42 (dk_at dksX14_near_1 21 rfl rfl)
theorem dX14_near_46 : decode cX14_near 46 = .ok (.getfield 24, 3) := dk_180 0 24 (dk_at dksX14_near_2 0 rfl rfl)
theorem dX14_near_49 : decode cX14_near 49 = .ok (.iload_n 3, 1) := dk_29 (dk_at dksX14_near_2 3 rfl rfl)
theorem dX14_near_50 : decode cX14_near 50 = .ok (.iaload, 1) := dk_46 (dk_at dksX14_near_2 4 rfl rfl)
theorem dX14_near_51 : decode cX14_near 51 = .ok (.ishl, 1) := dk_120 (dk_at dksX14_near_2 5 rfl rfl)
theorem dX14_near_52 : decode cX14_near 52 = .ok (.ior, 1) := dk_128 (dk_at dksX14_near_2 6 rfl rfl)
theorem dX14_near_53 : decode cX14_near 53 = .ok (.istore_n 2, 1) := dk_61 (dk_at dksX14_near_2 7 rfl rfl)
theorem dX14_near_54 : decode cX14_near 54 = .ok (.iinc 3 1, 3) := dk_132 3 1 (dk_at dksX14_near_2 8 rfl rfl)
theorem dX14_near_57 : decode cX14_near 57 = .ok (.goto (-53), 3) := dk_167 255 203 (dk_at dksX14_near_2 11 rfl rfl)
theorem dX14_near_60 : decode cX14_near 60 = .ok (.iload_n 2, 1) := dk_28 (dk_at dksX14_near_2 14 rfl rfl)
theorem dX14_near_61 : decode cX14_near 61 = .ok (.ireturn, 1) := dk_172 (dk_at dksX14_near_2 15 rfl rfl)
theorem q174 : (Jvm.Cond.initialized "NeverUnseenModel$Valley") ∈ lw_all := lw_g (lw_at lw_m1 23 rfl) rfl
theorem q1560 : (Jvm.Cond.instantiable "NeverUnseenModel$Valley" (39 : Nat)) ∈ lw_all := lw_g (lw_at lw_m6 209 rfl) rfl
theorem q1562 : (Jvm.Cond.instanceMethod ({ cls := "NeverUnseenModel$Valley", name := "<init>", desc := "()V" } : Jvm.MethodName)) ∈ lw_all := lw_g (lw_at lw_m6 211 rfl) rfl
theorem q1563 : (Jvm.Cond.code ({ cls := "NeverUnseenModel$Valley", name := "<init>", desc := "()V" } : Jvm.MethodName) prog_16_method_1_code (1 : Nat) (Option.none : Option Jvm.ClassFile.FieldType)) ∈ lw_all := lw_g (lw_at lw_m6 212 rfl) rfl
theorem q1564 : (Jvm.Cond.methodLink "NeverUnseenModel$Valley" (3 : Nat) ({ cls := "java/lang/Object", name := "<init>", desc := "()V" } : Jvm.MethodName)) ∈ lw_all := lw_g (lw_at lw_m6 213 rfl) rfl
theorem q1573 : (Jvm.Cond.fieldLink "NeverUnseenModel$Valley" (90 : Nat) "NeverUnseenModel$Valley" "ways" "I") ∈ lw_all := lw_g (lw_at lw_m6 222 rfl) rfl
theorem q1580 : (Jvm.Cond.fieldLink "NeverUnseenModel$Valley" (86 : Nat) "NeverUnseenModel$Valley" "names" "I") ∈ lw_all := lw_g (lw_at lw_m6 229 rfl) rfl
theorem q1582 : (Jvm.Cond.fieldLink "NeverUnseenModel$Valley" (9 : Nat) "NeverUnseenModel$Valley" "x" "[I") ∈ lw_all := lw_g (lw_at lw_m6 231 rfl) rfl
theorem q1584 : (Jvm.Cond.fieldLink "NeverUnseenModel$Valley" (15 : Nat) "NeverUnseenModel$Valley" "y" "[I") ∈ lw_all := lw_g (lw_at lw_m6 233 rfl) rfl
theorem q1586 : (Jvm.Cond.fieldLink "NeverUnseenModel$Valley" (18 : Nat) "NeverUnseenModel$Valley" "wallA" "[I") ∈ lw_all := lw_g (lw_at lw_m6 235 rfl) rfl
theorem q1588 : (Jvm.Cond.fieldLink "NeverUnseenModel$Valley" (21 : Nat) "NeverUnseenModel$Valley" "wallB" "[I") ∈ lw_all := lw_g (lw_at lw_m6 237 rfl) rfl
theorem q1590 : (Jvm.Cond.fieldLink "NeverUnseenModel$Valley" (24 : Nat) "NeverUnseenModel$Valley" "wayA" "[I") ∈ lw_all := lw_g (lw_at lw_m6 239 rfl) rfl
theorem q1592 : (Jvm.Cond.fieldLink "NeverUnseenModel$Valley" (27 : Nat) "NeverUnseenModel$Valley" "wayB" "[I") ∈ lw_all := lw_g (lw_at lw_m7 1 rfl) rfl
theorem q1594 : (Jvm.Cond.fieldLink "NeverUnseenModel$Valley" (30 : Nat) "NeverUnseenModel$Valley" "mirror" "[I") ∈ lw_all := lw_g (lw_at lw_m7 3 rfl) rfl
theorem q1596 : (Jvm.Cond.fieldLink "NeverUnseenModel$Valley" (33 : Nat) "NeverUnseenModel$Valley" "begins" "[I") ∈ lw_all := lw_g (lw_at lw_m7 5 rfl) rfl
theorem q1598 : (Jvm.Cond.fieldLink "NeverUnseenModel$Valley" (36 : Nat) "NeverUnseenModel$Valley" "away" "[I") ∈ lw_all := lw_g (lw_at lw_m7 7 rfl) rfl
theorem q1600 : (Jvm.Cond.fieldLink "NeverUnseenModel$Valley" (39 : Nat) "NeverUnseenModel$Valley" "sleeps" "[I") ∈ lw_all := lw_g (lw_at lw_m7 9 rfl) rfl
theorem q1602 : (Jvm.Cond.fieldLink "NeverUnseenModel$Valley" (42 : Nat) "NeverUnseenModel$Valley" "wakes" "[I") ∈ lw_all := lw_g (lw_at lw_m7 11 rfl) rfl
theorem q1604 : (Jvm.Cond.fieldLink "NeverUnseenModel$Valley" (45 : Nat) "NeverUnseenModel$Valley" "pairA" "[I") ∈ lw_all := lw_g (lw_at lw_m7 13 rfl) rfl
theorem q1606 : (Jvm.Cond.fieldLink "NeverUnseenModel$Valley" (48 : Nat) "NeverUnseenModel$Valley" "pairB" "[I") ∈ lw_all := lw_g (lw_at lw_m7 15 rfl) rfl
theorem q1608 : (Jvm.Cond.fieldLink "NeverUnseenModel$Valley" (51 : Nat) "NeverUnseenModel$Valley" "isBaby" "[Z") ∈ lw_all := lw_g (lw_at lw_m7 17 rfl) rfl
theorem q1610 : (Jvm.Cond.fieldLink "NeverUnseenModel$Valley" (55 : Nat) "NeverUnseenModel$Valley" "whose" "[I") ∈ lw_all := lw_g (lw_at lw_m7 19 rfl) rfl
theorem q1612 : (Jvm.Cond.fieldLink "NeverUnseenModel$Valley" (58 : Nat) "NeverUnseenModel$Valley" "whither" "[I") ∈ lw_all := lw_g (lw_at lw_m7 21 rfl) rfl
theorem q1614 : (Jvm.Cond.fieldLink "NeverUnseenModel$Valley" (61 : Nat) "NeverUnseenModel$Valley" "since" "[I") ∈ lw_all := lw_g (lw_at lw_m7 23 rfl) rfl
theorem q1616 : (Jvm.Cond.fieldLink "NeverUnseenModel$Valley" (64 : Nat) "NeverUnseenModel$Valley" "until" "[I") ∈ lw_all := lw_g (lw_at lw_m7 25 rfl) rfl
theorem q1618 : (Jvm.Cond.fieldLink "NeverUnseenModel$Valley" (67 : Nat) "NeverUnseenModel$Valley" "takes" "[I") ∈ lw_all := lw_g (lw_at lw_m7 27 rfl) rfl
theorem q1620 : (Jvm.Cond.fieldLink "NeverUnseenModel$Valley" (70 : Nat) "NeverUnseenModel$Valley" "fogAt" "[I") ∈ lw_all := lw_g (lw_at lw_m7 29 rfl) rfl
theorem q1622 : (Jvm.Cond.fieldLink "NeverUnseenModel$Valley" (73 : Nat) "NeverUnseenModel$Valley" "chance" "[I") ∈ lw_all := lw_g (lw_at lw_m7 31 rfl) rfl
theorem q1624 : (Jvm.Cond.fieldLink "NeverUnseenModel$Valley" (76 : Nat) "NeverUnseenModel$Valley" "name" "[J") ∈ lw_all := lw_g (lw_at lw_m7 33 rfl) rfl
theorem q1626 : (Jvm.Cond.fieldLink "NeverUnseenModel$Valley" (80 : Nat) "NeverUnseenModel$Valley" "nameSort" "[I") ∈ lw_all := lw_g (lw_at lw_m7 35 rfl) rfl
theorem q1628 : (Jvm.Cond.fieldLink "NeverUnseenModel$Valley" (83 : Nat) "NeverUnseenModel$Valley" "nameNumber" "[I") ∈ lw_all := lw_g (lw_at lw_m7 37 rfl) rfl
theorem q1630 : (Jvm.Cond.lays "NeverUnseenModel$Valley" "NeverUnseenModel$Valley" "hasLaw" "Z") ∈ lw_all := lw_g (lw_at lw_m7 39 rfl) rfl
theorem q1631 : (Jvm.Cond.soleField "NeverUnseenModel$Valley" "hasLaw") ∈ lw_all := lw_g (lw_at lw_m7 40 rfl) rfl
theorem q1632 : (Jvm.Cond.lays "NeverUnseenModel$Valley" "NeverUnseenModel$Valley" "day" "I") ∈ lw_all := lw_g (lw_at lw_m7 41 rfl) rfl
theorem q1633 : (Jvm.Cond.soleField "NeverUnseenModel$Valley" "day") ∈ lw_all := lw_g (lw_at lw_m7 42 rfl) rfl
theorem q1634 : (Jvm.Cond.lays "NeverUnseenModel$Valley" "NeverUnseenModel$Valley" "night" "I") ∈ lw_all := lw_g (lw_at lw_m7 43 rfl) rfl
theorem q1635 : (Jvm.Cond.soleField "NeverUnseenModel$Valley" "night") ∈ lw_all := lw_g (lw_at lw_m7 44 rfl) rfl
theorem q1636 : (Jvm.Cond.lays "NeverUnseenModel$Valley" "NeverUnseenModel$Valley" "from" "I") ∈ lw_all := lw_g (lw_at lw_m7 45 rfl) rfl
theorem q1637 : (Jvm.Cond.soleField "NeverUnseenModel$Valley" "from") ∈ lw_all := lw_g (lw_at lw_m7 46 rfl) rfl
theorem q1638 : (Jvm.Cond.lays "NeverUnseenModel$Valley" "NeverUnseenModel$Valley" "to" "I") ∈ lw_all := lw_g (lw_at lw_m7 47 rfl) rfl
theorem q1639 : (Jvm.Cond.soleField "NeverUnseenModel$Valley" "to") ∈ lw_all := lw_g (lw_at lw_m7 48 rfl) rfl
theorem q1640 : (Jvm.Cond.lays "NeverUnseenModel$Valley" "NeverUnseenModel$Valley" "steps" "I") ∈ lw_all := lw_g (lw_at lw_m7 49 rfl) rfl
theorem q1641 : (Jvm.Cond.soleField "NeverUnseenModel$Valley" "steps") ∈ lw_all := lw_g (lw_at lw_m7 50 rfl) rfl
theorem q1642 : (Jvm.Cond.lays "NeverUnseenModel$Valley" "NeverUnseenModel$Valley" "places" "I") ∈ lw_all := lw_g (lw_at lw_m7 51 rfl) rfl
theorem q1643 : (Jvm.Cond.soleField "NeverUnseenModel$Valley" "places") ∈ lw_all := lw_g (lw_at lw_m7 52 rfl) rfl
theorem q1644 : (Jvm.Cond.lays "NeverUnseenModel$Valley" "NeverUnseenModel$Valley" "walls" "I") ∈ lw_all := lw_g (lw_at lw_m7 53 rfl) rfl
theorem q1645 : (Jvm.Cond.soleField "NeverUnseenModel$Valley" "walls") ∈ lw_all := lw_g (lw_at lw_m7 54 rfl) rfl
theorem q1646 : (Jvm.Cond.lays "NeverUnseenModel$Valley" "NeverUnseenModel$Valley" "ways" "I") ∈ lw_all := lw_g (lw_at lw_m7 55 rfl) rfl
theorem q1647 : (Jvm.Cond.soleField "NeverUnseenModel$Valley" "ways") ∈ lw_all := lw_g (lw_at lw_m7 56 rfl) rfl
theorem q1648 : (Jvm.Cond.lays "NeverUnseenModel$Valley" "NeverUnseenModel$Valley" "mirrors" "I") ∈ lw_all := lw_g (lw_at lw_m7 57 rfl) rfl
theorem q1649 : (Jvm.Cond.soleField "NeverUnseenModel$Valley" "mirrors") ∈ lw_all := lw_g (lw_at lw_m7 58 rfl) rfl
theorem q1650 : (Jvm.Cond.lays "NeverUnseenModel$Valley" "NeverUnseenModel$Valley" "people" "I") ∈ lw_all := lw_g (lw_at lw_m7 59 rfl) rfl
theorem q1651 : (Jvm.Cond.soleField "NeverUnseenModel$Valley" "people") ∈ lw_all := lw_g (lw_at lw_m7 60 rfl) rfl
theorem q1652 : (Jvm.Cond.lays "NeverUnseenModel$Valley" "NeverUnseenModel$Valley" "pairs" "I") ∈ lw_all := lw_g (lw_at lw_m7 61 rfl) rfl
theorem q1653 : (Jvm.Cond.soleField "NeverUnseenModel$Valley" "pairs") ∈ lw_all := lw_g (lw_at lw_m7 62 rfl) rfl
theorem q1654 : (Jvm.Cond.lays "NeverUnseenModel$Valley" "NeverUnseenModel$Valley" "errands" "I") ∈ lw_all := lw_g (lw_at lw_m7 63 rfl) rfl
theorem q1655 : (Jvm.Cond.soleField "NeverUnseenModel$Valley" "errands") ∈ lw_all := lw_g (lw_at lw_m7 64 rfl) rfl
theorem q1656 : (Jvm.Cond.lays "NeverUnseenModel$Valley" "NeverUnseenModel$Valley" "fogs" "I") ∈ lw_all := lw_g (lw_at lw_m7 65 rfl) rfl
theorem q1657 : (Jvm.Cond.soleField "NeverUnseenModel$Valley" "fogs") ∈ lw_all := lw_g (lw_at lw_m7 66 rfl) rfl
theorem q1658 : (Jvm.Cond.lays "NeverUnseenModel$Valley" "NeverUnseenModel$Valley" "names" "I") ∈ lw_all := lw_g (lw_at lw_m7 67 rfl) rfl
theorem q1659 : (Jvm.Cond.soleField "NeverUnseenModel$Valley" "names") ∈ lw_all := lw_g (lw_at lw_m7 68 rfl) rfl
theorem q1660 : (Jvm.Cond.laysFinal "NeverUnseenModel$Valley" "NeverUnseenModel$Valley" "x" "[I") ∈ lw_all := lw_g (lw_at lw_m7 69 rfl) rfl
theorem q1661 : (Jvm.Cond.soleField "NeverUnseenModel$Valley" "x") ∈ lw_all := lw_g (lw_at lw_m7 70 rfl) rfl
theorem q1662 : (Jvm.Cond.laysFinal "NeverUnseenModel$Valley" "NeverUnseenModel$Valley" "y" "[I") ∈ lw_all := lw_g (lw_at lw_m7 71 rfl) rfl
theorem q1663 : (Jvm.Cond.soleField "NeverUnseenModel$Valley" "y") ∈ lw_all := lw_g (lw_at lw_m7 72 rfl) rfl
theorem q1664 : (Jvm.Cond.laysFinal "NeverUnseenModel$Valley" "NeverUnseenModel$Valley" "wallA" "[I") ∈ lw_all := lw_g (lw_at lw_m7 73 rfl) rfl
theorem q1665 : (Jvm.Cond.soleField "NeverUnseenModel$Valley" "wallA") ∈ lw_all := lw_g (lw_at lw_m7 74 rfl) rfl
theorem q1666 : (Jvm.Cond.laysFinal "NeverUnseenModel$Valley" "NeverUnseenModel$Valley" "wallB" "[I") ∈ lw_all := lw_g (lw_at lw_m7 75 rfl) rfl
theorem q1667 : (Jvm.Cond.soleField "NeverUnseenModel$Valley" "wallB") ∈ lw_all := lw_g (lw_at lw_m7 76 rfl) rfl
theorem q1668 : (Jvm.Cond.laysFinal "NeverUnseenModel$Valley" "NeverUnseenModel$Valley" "wayA" "[I") ∈ lw_all := lw_g (lw_at lw_m7 77 rfl) rfl
theorem q1669 : (Jvm.Cond.soleField "NeverUnseenModel$Valley" "wayA") ∈ lw_all := lw_g (lw_at lw_m7 78 rfl) rfl
theorem q1670 : (Jvm.Cond.laysFinal "NeverUnseenModel$Valley" "NeverUnseenModel$Valley" "wayB" "[I") ∈ lw_all := lw_g (lw_at lw_m7 79 rfl) rfl
theorem q1671 : (Jvm.Cond.soleField "NeverUnseenModel$Valley" "wayB") ∈ lw_all := lw_g (lw_at lw_m7 80 rfl) rfl
theorem q1672 : (Jvm.Cond.laysFinal "NeverUnseenModel$Valley" "NeverUnseenModel$Valley" "mirror" "[I") ∈ lw_all := lw_g (lw_at lw_m7 81 rfl) rfl
theorem q1673 : (Jvm.Cond.soleField "NeverUnseenModel$Valley" "mirror") ∈ lw_all := lw_g (lw_at lw_m7 82 rfl) rfl
theorem q1674 : (Jvm.Cond.laysFinal "NeverUnseenModel$Valley" "NeverUnseenModel$Valley" "begins" "[I") ∈ lw_all := lw_g (lw_at lw_m7 83 rfl) rfl
theorem q1675 : (Jvm.Cond.soleField "NeverUnseenModel$Valley" "begins") ∈ lw_all := lw_g (lw_at lw_m7 84 rfl) rfl
theorem q1676 : (Jvm.Cond.laysFinal "NeverUnseenModel$Valley" "NeverUnseenModel$Valley" "away" "[I") ∈ lw_all := lw_g (lw_at lw_m7 85 rfl) rfl
theorem q1677 : (Jvm.Cond.soleField "NeverUnseenModel$Valley" "away") ∈ lw_all := lw_g (lw_at lw_m7 86 rfl) rfl
theorem q1678 : (Jvm.Cond.laysFinal "NeverUnseenModel$Valley" "NeverUnseenModel$Valley" "sleeps" "[I") ∈ lw_all := lw_g (lw_at lw_m7 87 rfl) rfl
theorem q1679 : (Jvm.Cond.soleField "NeverUnseenModel$Valley" "sleeps") ∈ lw_all := lw_g (lw_at lw_m7 88 rfl) rfl
theorem q1680 : (Jvm.Cond.laysFinal "NeverUnseenModel$Valley" "NeverUnseenModel$Valley" "wakes" "[I") ∈ lw_all := lw_g (lw_at lw_m7 89 rfl) rfl
theorem q1681 : (Jvm.Cond.soleField "NeverUnseenModel$Valley" "wakes") ∈ lw_all := lw_g (lw_at lw_m7 90 rfl) rfl
theorem q1682 : (Jvm.Cond.laysFinal "NeverUnseenModel$Valley" "NeverUnseenModel$Valley" "pairA" "[I") ∈ lw_all := lw_g (lw_at lw_m7 91 rfl) rfl
theorem q1683 : (Jvm.Cond.soleField "NeverUnseenModel$Valley" "pairA") ∈ lw_all := lw_g (lw_at lw_m7 92 rfl) rfl
theorem q1684 : (Jvm.Cond.laysFinal "NeverUnseenModel$Valley" "NeverUnseenModel$Valley" "pairB" "[I") ∈ lw_all := lw_g (lw_at lw_m7 93 rfl) rfl
theorem q1685 : (Jvm.Cond.soleField "NeverUnseenModel$Valley" "pairB") ∈ lw_all := lw_g (lw_at lw_m7 94 rfl) rfl
theorem q1686 : (Jvm.Cond.laysFinal "NeverUnseenModel$Valley" "NeverUnseenModel$Valley" "isBaby" "[Z") ∈ lw_all := lw_g (lw_at lw_m7 95 rfl) rfl
theorem q1687 : (Jvm.Cond.soleField "NeverUnseenModel$Valley" "isBaby") ∈ lw_all := lw_g (lw_at lw_m7 96 rfl) rfl
theorem q1688 : (Jvm.Cond.laysFinal "NeverUnseenModel$Valley" "NeverUnseenModel$Valley" "whose" "[I") ∈ lw_all := lw_g (lw_at lw_m7 97 rfl) rfl
theorem q1689 : (Jvm.Cond.soleField "NeverUnseenModel$Valley" "whose") ∈ lw_all := lw_g (lw_at lw_m7 98 rfl) rfl
theorem q1690 : (Jvm.Cond.laysFinal "NeverUnseenModel$Valley" "NeverUnseenModel$Valley" "whither" "[I") ∈ lw_all := lw_g (lw_at lw_m7 99 rfl) rfl
theorem q1691 : (Jvm.Cond.soleField "NeverUnseenModel$Valley" "whither") ∈ lw_all := lw_g (lw_at lw_m7 100 rfl) rfl
theorem q1692 : (Jvm.Cond.laysFinal "NeverUnseenModel$Valley" "NeverUnseenModel$Valley" "since" "[I") ∈ lw_all := lw_g (lw_at lw_m7 101 rfl) rfl
theorem q1693 : (Jvm.Cond.soleField "NeverUnseenModel$Valley" "since") ∈ lw_all := lw_g (lw_at lw_m7 102 rfl) rfl
theorem q1694 : (Jvm.Cond.laysFinal "NeverUnseenModel$Valley" "NeverUnseenModel$Valley" "until" "[I") ∈ lw_all := lw_g (lw_at lw_m7 103 rfl) rfl
theorem q1695 : (Jvm.Cond.soleField "NeverUnseenModel$Valley" "until") ∈ lw_all := lw_g (lw_at lw_m7 104 rfl) rfl
theorem q1696 : (Jvm.Cond.laysFinal "NeverUnseenModel$Valley" "NeverUnseenModel$Valley" "takes" "[I") ∈ lw_all := lw_g (lw_at lw_m7 105 rfl) rfl
theorem q1697 : (Jvm.Cond.soleField "NeverUnseenModel$Valley" "takes") ∈ lw_all := lw_g (lw_at lw_m7 106 rfl) rfl
theorem q1698 : (Jvm.Cond.laysFinal "NeverUnseenModel$Valley" "NeverUnseenModel$Valley" "fogAt" "[I") ∈ lw_all := lw_g (lw_at lw_m7 107 rfl) rfl
theorem q1699 : (Jvm.Cond.soleField "NeverUnseenModel$Valley" "fogAt") ∈ lw_all := lw_g (lw_at lw_m7 108 rfl) rfl
theorem q1700 : (Jvm.Cond.laysFinal "NeverUnseenModel$Valley" "NeverUnseenModel$Valley" "chance" "[I") ∈ lw_all := lw_g (lw_at lw_m7 109 rfl) rfl
theorem q1701 : (Jvm.Cond.soleField "NeverUnseenModel$Valley" "chance") ∈ lw_all := lw_g (lw_at lw_m7 110 rfl) rfl
theorem q1702 : (Jvm.Cond.laysFinal "NeverUnseenModel$Valley" "NeverUnseenModel$Valley" "name" "[J") ∈ lw_all := lw_g (lw_at lw_m7 111 rfl) rfl
theorem q1703 : (Jvm.Cond.soleField "NeverUnseenModel$Valley" "name") ∈ lw_all := lw_g (lw_at lw_m7 112 rfl) rfl
theorem q1704 : (Jvm.Cond.laysFinal "NeverUnseenModel$Valley" "NeverUnseenModel$Valley" "nameSort" "[I") ∈ lw_all := lw_g (lw_at lw_m7 113 rfl) rfl
theorem q1705 : (Jvm.Cond.soleField "NeverUnseenModel$Valley" "nameSort") ∈ lw_all := lw_g (lw_at lw_m7 114 rfl) rfl
theorem q1706 : (Jvm.Cond.laysFinal "NeverUnseenModel$Valley" "NeverUnseenModel$Valley" "nameNumber" "[I") ∈ lw_all := lw_g (lw_at lw_m7 115 rfl) rfl
theorem q1707 : (Jvm.Cond.soleField "NeverUnseenModel$Valley" "nameNumber") ∈ lw_all := lw_g (lw_at lw_m7 116 rfl) rfl
theorem q1708 : (Jvm.Cond.superclass "NeverUnseenModel$Valley" "java/lang/Object") ∈ lw_all := lw_g (lw_at lw_m7 117 rfl) rfl
theorem q1825 : (Jvm.Cond.instanceMethod ({ cls := "NeverUnseenModel$Valley", name := "find", desc := "(J)I" } : Jvm.MethodName)) ∈ lw_all := lw_g (lw_at lw_m7 234 rfl) rfl
theorem q1826 : (Jvm.Cond.selects "NeverUnseenModel$Valley" ({ cls := "NeverUnseenModel$Valley", name := "find", desc := "(J)I" } : Jvm.MethodName) ({ cls := "NeverUnseenModel$Valley", name := "find", desc := "(J)I" } : Jvm.MethodName)) ∈ lw_all := lw_g (lw_at lw_m7 235 rfl) rfl
theorem q1827 : (Jvm.Cond.code ({ cls := "NeverUnseenModel$Valley", name := "find", desc := "(J)I" } : Jvm.MethodName) prog_16_method_2_code (4 : Nat) (Option.some Jvm.ClassFile.FieldType.int)) ∈ lw_all := lw_g (lw_at lw_m7 236 rfl) rfl
theorem q2018 : (Jvm.Cond.instanceMethod ({ cls := "NeverUnseenModel$Valley", name := "near", desc := "(I)I" } : Jvm.MethodName)) ∈ lw_all := lw_g (lw_at lw_m8 187 rfl) rfl
theorem q2019 : (Jvm.Cond.selects "NeverUnseenModel$Valley" ({ cls := "NeverUnseenModel$Valley", name := "near", desc := "(I)I" } : Jvm.MethodName) ({ cls := "NeverUnseenModel$Valley", name := "near", desc := "(I)I" } : Jvm.MethodName)) ∈ lw_all := lw_g (lw_at lw_m8 188 rfl) rfl
theorem q2020 : (Jvm.Cond.code ({ cls := "NeverUnseenModel$Valley", name := "near", desc := "(I)I" } : Jvm.MethodName) prog_16_method_3_code (4 : Nat) (Option.some Jvm.ClassFile.FieldType.int)) ∈ lw_all := lw_g (lw_at lw_m8 189 rfl) rfl
theorem q2278 : (Jvm.Cond.castable "NeverUnseenModel$Valley" "java/lang/Object") ∈ lw_tbl := lw_at lw_m9 207 rfl
theorem in_X14 : ∀ w ∈ wsX140, w ∈ lw_all := lw_in wsX140 [1630, 1632, 1634, 1636, 1638, 1640, 1642, 1644, 1646, 1648, 1650, 1652, 1654, 1656, 1658, 1660, 1662, 1664, 1666, 1668, 1670, 1672, 1674, 1676, 1678, 1680, 1682, 1684, 1686, 1688, 1690, 1692, 1694, 1696, 1698, 1700, 1702, 1704, 1706] (by decide +kernel) (by decide +kernel)
