/-! the tables of this claim: the kinds of objects (by number), their fields (by key), the kinds of arrays, the texts, links -/
set_option maxRecDepth 100000
def jtX10 : u_T := fun _ => ("", "", "", false)
def jyX10 : Nat → FieldType := fun _ => .int
abbrev jcls : List vw_C := [("NeverUnseen", TX1, 29), ("NeverUnseen$Reader", TX2, 10), ("NeverUnseen$Refused", TX3, 8), ("NeverUnseen$Sight", TX4, 2), ("NeverUnseenModel", TX5, 38), ("NeverUnseen$Valley", TX6, 23), ("NeverUnseen$Place", TX8, 5), ("NeverUnseen$Person", TX9, 5), ("NeverUnseen$Baby", jtX10, 0), ("NeverUnseen$Away", TX11, 1), ("NeverUnseen$Sleep", TX12, 2), ("NeverUnseen$Errand", TX13, 5), ("NeverUnseenModel$Valley", TX14, 39), ("java/lang/String", TJ3, 4), ("java/util/NoSuchElementException", TJ9, 6)]
def jlay : List (List (Nat × Nat)) := [[(0, 2), (1, 0), (2, 2), (3, 2), (4, 0), (5, 0), (6, 0), (7, 2), (8, 2), (9, 2), (10, 2), (11, 2), (12, 2), (13, 0), (14, 0), (15, 0), (16, 2), (17, 2), (18, 2), (19, 0), (20, 0), (21, 2), (22, 2), (23, 2), (24, 2), (25, 0), (26, 2), (27, 2), (28, 0)], [(29, 2), (30, 2), (31, 2), (32, 0), (33, 0), (34, 0), (35, 0), (36, 0), (37, 2), (38, 2)], [(39, 2), (40, 2), (41, 2), (42, 2), (43, 2), (44, 0), (45, 0), (46, 0)], [(47, 2), (48, 2)], [(49, 0), (50, 0), (51, 0), (52, 2), (53, 2), (54, 2), (55, 0), (56, 0), (57, 0), (58, 0), (59, 0), (60, 0), (61, 0), (62, 0), (63, 0), (64, 1), (65, 0), (66, 0), (67, 0), (68, 2), (69, 2), (70, 0), (71, 0), (72, 2), (73, 0), (74, 2), (75, 2), (76, 0), (77, 0), (78, 2), (79, 2), (80, 2), (81, 0), (82, 0), (83, 2), (84, 2), (85, 2), (86, 0)], [(87, 2), (88, 2), (89, 2), (90, 2), (91, 2), (92, 2), (93, 2), (94, 2), (95, 2), (96, 2), (97, 0), (98, 0), (99, 0), (100, 0), (101, 0), (102, 0), (103, 0), (104, 0), (105, 0), (106, 0), (107, 0), (108, 0), (109, 0)], [(110, 2), (111, 0), (112, 0), (113, 0), (114, 0)], [(110, 2), (111, 0), (115, 2), (116, 0), (117, 0)], [], [(118, 0)], [(119, 0), (120, 0)], [(121, 2), (122, 0), (123, 0), (124, 0), (125, 0)], [(126, 0), (127, 0), (128, 0), (129, 0), (130, 0), (131, 0), (132, 0), (133, 0), (134, 0), (135, 0), (136, 0), (137, 0), (138, 0), (139, 0), (140, 0), (141, 2), (142, 2), (143, 2), (144, 2), (145, 2), (146, 2), (147, 2), (148, 2), (149, 2), (150, 2), (151, 2), (152, 2), (153, 2), (154, 2), (155, 2), (156, 2), (157, 2), (158, 2), (159, 2), (160, 2), (161, 2), (162, 2), (163, 2), (164, 2)], [(165, 2), (166, 0), (167, 0), (168, 0)], []]
abbrev jtys : List FieldType := [.int, .byte, .char, .boolean, .long, .object "NeverUnseen$Place", .object "NeverUnseen$Person", .object "NeverUnseen$Errand", .object "NeverUnseen$Habit"]
abbrev jstr : List (String × Nat × String × Nat) := [("NeverUnseen$Reader", 59, "", 0), ("NeverUnseen$Reader", 93, "law", 2), ("NeverUnseen$Reader", 95, "place", 4), ("NeverUnseen$Reader", 97, "wall", 6), ("NeverUnseen$Reader", 99, "way", 8), ("NeverUnseen$Reader", 101, "mirror", 10), ("NeverUnseen$Reader", 103, "person", 12), ("NeverUnseen$Reader", 105, "baby", 14), ("NeverUnseen$Reader", 107, "away", 16), ("NeverUnseen$Reader", 109, "sleeps", 18), ("NeverUnseen$Reader", 111, "pair", 20), ("NeverUnseen$Reader", 113, "errand", 22), ("NeverUnseen$Reader", 115, "fog", 24), ("NeverUnseen$Reader", 185, "day", 26), ("NeverUnseen$Reader", 193, "night", 28), ("NeverUnseen$Reader", 197, "from", 30), ("NeverUnseen$Reader", 201, "to", 32), ("NeverUnseen$Reader", 205, "steps", 34), ("NeverUnseen$Reader", 213, "at", 36), ("NeverUnseen$Reader", 309, "takes", 38), ("NeverUnseen$Reader", 325, "chance", 40), ("NeverUnseenModel", 146, "law", 2), ("NeverUnseenModel", 148, "place", 4), ("NeverUnseenModel", 149, "wall", 6), ("NeverUnseenModel", 151, "way", 8), ("NeverUnseenModel", 153, "mirror", 10), ("NeverUnseenModel", 155, "person", 12), ("NeverUnseenModel", 157, "baby", 14), ("NeverUnseenModel", 159, "away", 16), ("NeverUnseenModel", 161, "sleeps", 18), ("NeverUnseenModel", 163, "pair", 20), ("NeverUnseenModel", 165, "errand", 22), ("NeverUnseenModel", 167, "fog", 24), ("NeverUnseenModel", 251, "day", 26), ("NeverUnseenModel", 259, "night", 28), ("NeverUnseenModel", 263, "from", 30), ("NeverUnseenModel", 267, "to", 32), ("NeverUnseenModel", 271, "steps", 34), ("NeverUnseenModel", 282, "at", 36), ("NeverUnseenModel", 347, "takes", 38), ("NeverUnseenModel", 369, "chance", 40)]
/-- the texts at 0, 2, 4 ..: their letters -/
abbrev jtxt : List (List Nat) := [[], [108, 97, 119], [112, 108, 97, 99, 101], [119, 97, 108, 108], [119, 97, 121], [109, 105, 114, 114, 111, 114], [112, 101, 114, 115, 111, 110], [98, 97, 98, 121], [97, 119, 97, 121], [115, 108, 101, 101, 112, 115], [112, 97, 105, 114], [101, 114, 114, 97, 110, 100], [102, 111, 103], [100, 97, 121], [110, 105, 103, 104, 116], [102, 114, 111, 109], [116, 111], [115, 116, 101, 112, 115], [97, 116], [116, 97, 107, 101, 115], [99, 104, 97, 110, 99, 101]]
abbrev jsta : List (String × String × String) := [("java/lang/String", "COMPACT_STRINGS", "Z"), ("java/lang/Throwable", "UNASSIGNED_STACK", "[Ljava/lang/StackTraceElement;"), ("java/lang/Throwable", "SUPPRESSED_SENTINEL", "Ljava/util/List;"), ("jdk/internal/util/Preconditions", "SIOOBE_FORMATTER", "Ljava/util/function/BiFunction;")]
abbrev jhx : MethodName := ⟨"NeverUnseen$Habit", "shuts", "(I)Z"⟩
abbrev jfac : List (String × MethodName × MethodName) := [("NeverUnseen$Baby", jhx, yX10_shuts), ("NeverUnseen$Away", jhx, yX11_shuts), ("NeverUnseen$Sleep", jhx, yX12_shuts)]
abbrev jnc : List (String × String) := [("NeverUnseen$Place", "NeverUnseen$Person"), ("NeverUnseen$Person", "NeverUnseen$Place")]
def jtg (t : FieldType) : Nat := match t with
  | .int => 0
  | .boolean => 0
  | .byte => 0
  | .char => 0
  | .short => 0
  | .long => 1
  | .object _ => 2
  | .array _ => 2
  | _ => 3
def jCl (c : Nat) (C : String) (T : u_T) (N : Nat) (ty : Nat → FieldType) : Prop := jcls[c]? = some (C, T, N) ∧ (∀ w ∈ u_ws C T N, w ∈ lw_all) ∧ (∀ k, k < N → parseFieldDescriptor (T k).2.2.1 = some (ty k)) ∧ (∀ a, a < N → ∀ b, b < N → a ≠ b → (T a).2.1 ≠ (T b).2.1) ∧ (jlay.getD c []).length = N ∧ (∀ k, k < N → ((jlay.getD c []).getD k (0, 9)).2 = jtg (ty k)) ∧ ∀ a, a < N → ∀ b, b < N → a ≠ b → ((jlay.getD c []).getD a (0, 9)).1 ≠ ((jlay.getD c []).getD b (0, 9)).1
theorem jc_X : jCl 0 "NeverUnseen" TX1 29 tyX1 := ⟨rfl, in_X1, tyX1_ok, nmX1, by decide +kernel, by decide +kernel, by decide +kernel⟩
theorem jc_R : jCl 1 "NeverUnseen$Reader" TX2 10 tyX2 := ⟨rfl, in_X2, tyX2_ok, nmX2, by decide +kernel, by decide +kernel, by decide +kernel⟩
theorem jc_F : jCl 2 "NeverUnseen$Refused" TX3 8 tyX3 := ⟨rfl, in_X3, tyX3_ok, nmX3, by decide +kernel, by decide +kernel, by decide +kernel⟩
theorem jc_S : jCl 3 "NeverUnseen$Sight" TX4 2 tyX4 := ⟨rfl, in_X4, tyX4_ok, nmX4, by decide +kernel, by decide +kernel, by decide +kernel⟩
theorem jc_M : jCl 4 "NeverUnseenModel" TX5 38 tyX5 := ⟨rfl, in_X5, tyX5_ok, nmX5, by decide +kernel, by decide +kernel, by decide +kernel⟩
theorem jc_V : jCl 5 "NeverUnseen$Valley" TX6 23 tyX6 := ⟨rfl, in_X6, tyX6_ok, nmX6, by decide +kernel, by decide +kernel, by decide +kernel⟩
theorem jc_P : jCl 6 "NeverUnseen$Place" TX8 5 tyX8 := ⟨rfl, in_X8, tyX8_ok, nmX8, by decide +kernel, by decide +kernel, by decide +kernel⟩
theorem jc_Q : jCl 7 "NeverUnseen$Person" TX9 5 tyX9 := ⟨rfl, in_X9, tyX9_ok, nmX9, by decide +kernel, by decide +kernel, by decide +kernel⟩
theorem jc_B : jCl 8 "NeverUnseen$Baby" jtX10 0 jyX10 := ⟨rfl, fun w h => absurd h List.not_mem_nil, fun k h => absurd h (Nat.not_lt_zero k), fun a h => absurd h (Nat.not_lt_zero a), by decide +kernel, fun k h => absurd h (Nat.not_lt_zero k), fun a h => absurd h (Nat.not_lt_zero a)⟩
theorem jc_A : jCl 9 "NeverUnseen$Away" TX11 1 tyX11 := ⟨rfl, in_X11, tyX11_ok, nmX11, by decide +kernel, by decide +kernel, by decide +kernel⟩
theorem jc_L : jCl 10 "NeverUnseen$Sleep" TX12 2 tyX12 := ⟨rfl, in_X12, tyX12_ok, nmX12, by decide +kernel, by decide +kernel, by decide +kernel⟩
theorem jc_E : jCl 11 "NeverUnseen$Errand" TX13 5 tyX13 := ⟨rfl, in_X13, tyX13_ok, nmX13, by decide +kernel, by decide +kernel, by decide +kernel⟩
theorem jc_W : jCl 12 "NeverUnseenModel$Valley" TX14 39 tyX14 := ⟨rfl, in_X14, tyX14_ok, nmX14, by decide +kernel, by decide +kernel, by decide +kernel⟩
theorem jc_T : jCl 13 "java/lang/String" TJ3 4 tyJ3 := ⟨rfl, in_J3, tyJ3_ok, nmJ3, by decide +kernel, by decide +kernel, by decide +kernel⟩
/-- a field link of the code of own: pool number idx, on an object of kind c its place k, final or not -/
def jFl (own : String) (idx c k : Nat) (fin : Bool) : Prop := ∃ (C : String) (T : u_T) (N : Nat) (ty : Nat → FieldType) (ref : String), jCl c C T N ty ∧ k < N ∧ (T k).2.2.2 = fin ∧ (Cond.fieldLink own idx ref (T k).2.1 (T k).2.2.1 ∈ lw_all ∨ (fin = false ∧ ∃ host : String, Cond.fieldLinkNest own idx ref (T k).2.1 (T k).2.2.1 host ∈ lw_tbl)) ∧ (ref = (T k).1 ∨ Cond.sameField ref (T k).1 (T k).2.1 (T k).2.2.1 ∈ lw_all) ∧ (fin = true → (T k).1 = own)
def jFr (own : String) (idx c k : Nat) : Prop := ∃ (C : String) (T : u_T) (N : Nat) (ty : Nat → FieldType) (ref : String), jCl c C T N ty ∧ k < N ∧ (Cond.fieldLink own idx ref (T k).2.1 (T k).2.2.1 ∈ lw_all ∨ ∃ host : String, Cond.fieldLinkNest own idx ref (T k).2.1 (T k).2.2.1 host ∈ lw_tbl) ∧ (ref = (T k).1 ∨ Cond.sameField ref (T k).1 (T k).2.1 (T k).2.2.1 ∈ lw_all)
theorem jFl.r {own : String} {idx c k : Nat} {fin : Bool} (h : jFl own idx c k fin) : jFr own idx c k := by
  obtain ⟨C, T, N, ty, ref, h1, h2, h3, h4, h5, h6⟩ := h
  exact ⟨C, T, N, ty, ref, h1, h2, h4.elim Or.inl (fun q => Or.inr q.2), h5⟩
/-- 'new' in the code of own: pool number idx, an object of kind c -/
def jNw (own : String) (idx c N : Nat) : Prop := ∃ (C : String) (T : u_T) (ty : Nat → FieldType), jCl c C T N ty ∧ Cond.classLink own idx C ∈ lw_all ∧ Cond.instantiable C N ∈ lw_all ∧ Cond.initialized C ∈ lw_all
theorem jf_J0_198_2 : jFl "java/lang/Throwable" 198 2 4 false := ⟨_, _, _, _, _, jc_F, by decide, rfl, Or.inl q247, Or.inl rfl, fun h => by cases h⟩
theorem jf_J0_31_2 : jFl "java/lang/Throwable" 31 2 3 false := ⟨_, _, _, _, _, jc_F, by decide, rfl, Or.inl q248, Or.inl rfl, fun h => by cases h⟩
theorem jf_J0_7_2 : jFl "java/lang/Throwable" 7 2 0 false := ⟨_, _, _, _, _, jc_F, by decide, rfl, Or.inl q249, Or.inl rfl, fun h => by cases h⟩
theorem jf_J0_17_2 : jFl "java/lang/Throwable" 17 2 1 false := ⟨_, _, _, _, _, jc_F, by decide, rfl, Or.inl q250, Or.inl rfl, fun h => by cases h⟩
theorem jf_J0_24_2 : jFl "java/lang/Throwable" 24 2 2 false := ⟨_, _, _, _, _, jc_F, by decide, rfl, Or.inl q251, Or.inl rfl, fun h => by cases h⟩
theorem jf_J3_9_13 : jFl "java/lang/String" 9 13 0 true := ⟨_, _, _, _, _, jc_T, by decide, rfl, Or.inl q627, Or.inl rfl, fun _ => rfl⟩
theorem jf_J3_15_13 : jFl "java/lang/String" 15 13 1 true := ⟨_, _, _, _, _, jc_T, by decide, rfl, Or.inl q628, Or.inl rfl, fun _ => rfl⟩
theorem jf_J3_19_13 : jFl "java/lang/String" 19 13 2 false := ⟨_, _, _, _, _, jc_T, by decide, rfl, Or.inl q629, Or.inl rfl, fun h => by cases h⟩
theorem jf_J3_23_13 : jFl "java/lang/String" 23 13 3 false := ⟨_, _, _, _, _, jc_T, by decide, rfl, Or.inl q630, Or.inl rfl, fun h => by cases h⟩
theorem jn_J3_10 : jNw "java/lang/String" 10 13 4 := ⟨_, _, _, jc_T, q714, q563, q161⟩
theorem jn_X0_8 : jNw "NeverUnseenLaw" 8 0 29 := ⟨_, _, _, jc_X, q177, q178, q152⟩
theorem jn_X0_16 : jNw "NeverUnseenLaw" 16 4 38 := ⟨_, _, _, jc_M, q1421, q1422, q159⟩
theorem jn_X1_13 : jNw "NeverUnseen" 13 1 10 := ⟨_, _, _, jc_R, q185, q186, q153⟩
theorem jf_X1_115_2 : jFl "NeverUnseen" 115 2 6 false := ⟨_, _, _, _, _, jc_F, by decide, rfl, Or.inl q244, Or.inl rfl, fun h => by cases h⟩
theorem jf_X1_116_2 : jFl "NeverUnseen" 116 2 7 false := ⟨_, _, _, _, _, jc_F, by decide, rfl, Or.inl q246, Or.inl rfl, fun h => by cases h⟩
theorem jn_X1_26 : jNw "NeverUnseen" 26 3 2 := ⟨_, _, _, jc_S, q297, q298, q158⟩
theorem jg_X1_170_3 : jFr "NeverUnseen" 170 3 0 := ⟨_, _, _, _, _, jc_S, by decide, Or.inl q304, Or.inl rfl⟩
theorem jf_X1_9_0 : jFl "NeverUnseen" 9 0 0 true := ⟨_, _, _, _, _, jc_X, by decide, rfl, Or.inl q313, Or.inl rfl, fun _ => rfl⟩
theorem jf_X1_87_0 : jFl "NeverUnseen" 87 0 1 false := ⟨_, _, _, _, _, jc_X, by decide, rfl, Or.inl q314, Or.inl rfl, fun h => by cases h⟩
theorem jf_X1_18_0 : jFl "NeverUnseen" 18 0 2 true := ⟨_, _, _, _, _, jc_X, by decide, rfl, Or.inl q315, Or.inl rfl, fun _ => rfl⟩
theorem jf_X1_109_0 : jFl "NeverUnseen" 109 0 3 false := ⟨_, _, _, _, _, jc_X, by decide, rfl, Or.inl q316, Or.inl rfl, fun h => by cases h⟩
theorem jf_X1_81_0 : jFl "NeverUnseen" 81 0 4 false := ⟨_, _, _, _, _, jc_X, by decide, rfl, Or.inl q317, Or.inl rfl, fun h => by cases h⟩
theorem jf_X1_102_0 : jFl "NeverUnseen" 102 0 5 false := ⟨_, _, _, _, _, jc_X, by decide, rfl, Or.inl q318, Or.inl rfl, fun h => by cases h⟩
theorem jf_X1_22_0 : jFl "NeverUnseen" 22 0 6 false := ⟨_, _, _, _, _, jc_X, by decide, rfl, Or.inl q319, Or.inl rfl, fun h => by cases h⟩
theorem jf_X1_29_0 : jFl "NeverUnseen" 29 0 7 true := ⟨_, _, _, _, _, jc_X, by decide, rfl, Or.inl q320, Or.inl rfl, fun _ => rfl⟩
theorem jf_X1_33_0 : jFl "NeverUnseen" 33 0 8 true := ⟨_, _, _, _, _, jc_X, by decide, rfl, Or.inl q321, Or.inl rfl, fun _ => rfl⟩
theorem jf_X1_36_0 : jFl "NeverUnseen" 36 0 9 true := ⟨_, _, _, _, _, jc_X, by decide, rfl, Or.inl q322, Or.inl rfl, fun _ => rfl⟩
theorem jf_X1_39_0 : jFl "NeverUnseen" 39 0 10 true := ⟨_, _, _, _, _, jc_X, by decide, rfl, Or.inl q323, Or.inl rfl, fun _ => rfl⟩
theorem jf_X1_43_0 : jFl "NeverUnseen" 43 0 11 true := ⟨_, _, _, _, _, jc_X, by decide, rfl, Or.inl q324, Or.inl rfl, fun _ => rfl⟩
theorem jf_X1_46_0 : jFl "NeverUnseen" 46 0 12 true := ⟨_, _, _, _, _, jc_X, by decide, rfl, Or.inl q325, Or.inl rfl, fun _ => rfl⟩
theorem jf_X1_131_0 : jFl "NeverUnseen" 131 0 13 false := ⟨_, _, _, _, _, jc_X, by decide, rfl, Or.inl q326, Or.inl rfl, fun h => by cases h⟩
theorem jf_X1_134_0 : jFl "NeverUnseen" 134 0 14 false := ⟨_, _, _, _, _, jc_X, by decide, rfl, Or.inl q327, Or.inl rfl, fun h => by cases h⟩
theorem jf_X1_253_0 : jFl "NeverUnseen" 253 0 15 false := ⟨_, _, _, _, _, jc_X, by decide, rfl, Or.inl q328, Or.inl rfl, fun h => by cases h⟩
theorem jf_X1_49_0 : jFl "NeverUnseen" 49 0 16 true := ⟨_, _, _, _, _, jc_X, by decide, rfl, Or.inl q329, Or.inl rfl, fun _ => rfl⟩
theorem jf_X1_52_0 : jFl "NeverUnseen" 52 0 17 true := ⟨_, _, _, _, _, jc_X, by decide, rfl, Or.inl q330, Or.inl rfl, fun _ => rfl⟩
theorem jf_X1_55_0 : jFl "NeverUnseen" 55 0 18 true := ⟨_, _, _, _, _, jc_X, by decide, rfl, Or.inl q331, Or.inl rfl, fun _ => rfl⟩
theorem jf_X1_287_0 : jFl "NeverUnseen" 287 0 19 false := ⟨_, _, _, _, _, jc_X, by decide, rfl, Or.inl q332, Or.inl rfl, fun h => by cases h⟩
theorem jf_X1_290_0 : jFl "NeverUnseen" 290 0 20 false := ⟨_, _, _, _, _, jc_X, by decide, rfl, Or.inl q333, Or.inl rfl, fun h => by cases h⟩
theorem jf_X1_58_0 : jFl "NeverUnseen" 58 0 21 true := ⟨_, _, _, _, _, jc_X, by decide, rfl, Or.inl q334, Or.inl rfl, fun _ => rfl⟩
theorem jf_X1_62_0 : jFl "NeverUnseen" 62 0 22 true := ⟨_, _, _, _, _, jc_X, by decide, rfl, Or.inl q335, Or.inl rfl, fun _ => rfl⟩
theorem jf_X1_65_0 : jFl "NeverUnseen" 65 0 23 true := ⟨_, _, _, _, _, jc_X, by decide, rfl, Or.inl q336, Or.inl rfl, fun _ => rfl⟩
theorem jf_X1_68_0 : jFl "NeverUnseen" 68 0 24 true := ⟨_, _, _, _, _, jc_X, by decide, rfl, Or.inl q337, Or.inl rfl, fun _ => rfl⟩
theorem jf_X1_71_0 : jFl "NeverUnseen" 71 0 25 false := ⟨_, _, _, _, _, jc_X, by decide, rfl, Or.inl q338, Or.inl rfl, fun h => by cases h⟩
theorem jf_X1_75_0 : jFl "NeverUnseen" 75 0 26 true := ⟨_, _, _, _, _, jc_X, by decide, rfl, Or.inl q339, Or.inl rfl, fun _ => rfl⟩
theorem jf_X1_78_0 : jFl "NeverUnseen" 78 0 27 true := ⟨_, _, _, _, _, jc_X, by decide, rfl, Or.inl q340, Or.inl rfl, fun _ => rfl⟩
theorem jf_X1_393_0 : jFl "NeverUnseen" 393 0 28 false := ⟨_, _, _, _, _, jc_X, by decide, rfl, Or.inl q341, Or.inl rfl, fun h => by cases h⟩
theorem jn_X1_113 : jNw "NeverUnseen" 113 2 8 := ⟨_, _, _, jc_F, q414, q192, q157⟩
theorem jg_X1_418_5 : jFr "NeverUnseen" 418 5 0 := ⟨_, _, _, _, _, jc_V, by decide, Or.inl q444, Or.inl rfl⟩
theorem jg_X1_140_5 : jFr "NeverUnseen" 140 5 1 := ⟨_, _, _, _, _, jc_V, by decide, Or.inl q446, Or.inl rfl⟩
theorem jg_X1_259_5 : jFr "NeverUnseen" 259 5 2 := ⟨_, _, _, _, _, jc_V, by decide, Or.inl q450, Or.inl rfl⟩
theorem jg_X1_200_5 : jFr "NeverUnseen" 200 5 6 := ⟨_, _, _, _, _, jc_V, by decide, Or.inl q460, Or.inl rfl⟩
theorem jg_X1_203_5 : jFr "NeverUnseen" 203 5 7 := ⟨_, _, _, _, _, jc_V, by decide, Or.inl q463, Or.inl rfl⟩
theorem jg_X1_408_5 : jFr "NeverUnseen" 408 5 8 := ⟨_, _, _, _, _, jc_V, by decide, Or.inl q466, Or.inl rfl⟩
theorem jg_X1_411_5 : jFr "NeverUnseen" 411 5 9 := ⟨_, _, _, _, _, jc_V, by decide, Or.inl q469, Or.inl rfl⟩
theorem jf_X1_150_5 : jFl "NeverUnseen" 150 5 10 false := ⟨_, _, _, _, _, jc_V, by decide, rfl, Or.inl q472, Or.inl rfl, fun h => by cases h⟩
theorem jf_X1_137_5 : jFl "NeverUnseen" 137 5 11 false := ⟨_, _, _, _, _, jc_V, by decide, rfl, Or.inl q475, Or.inl rfl, fun h => by cases h⟩
theorem jf_X1_153_5 : jFl "NeverUnseen" 153 5 12 false := ⟨_, _, _, _, _, jc_V, by decide, rfl, Or.inl q477, Or.inl rfl, fun h => by cases h⟩
theorem jf_X1_372_5 : jFl "NeverUnseen" 372 5 13 false := ⟨_, _, _, _, _, jc_V, by decide, rfl, Or.inl q481, Or.inl rfl, fun h => by cases h⟩
theorem jf_X1_439_5 : jFl "NeverUnseen" 439 5 14 false := ⟨_, _, _, _, _, jc_V, by decide, rfl, Or.inl q483, Or.inl rfl, fun h => by cases h⟩
theorem jf_X1_442_5 : jFl "NeverUnseen" 442 5 15 false := ⟨_, _, _, _, _, jc_V, by decide, rfl, Or.inl q486, Or.inl rfl, fun h => by cases h⟩
theorem jf_X1_197_5 : jFl "NeverUnseen" 197 5 16 false := ⟨_, _, _, _, _, jc_V, by decide, rfl, Or.inl q488, Or.inl rfl, fun h => by cases h⟩
theorem jf_X1_405_5 : jFl "NeverUnseen" 405 5 17 false := ⟨_, _, _, _, _, jc_V, by decide, rfl, Or.inl q490, Or.inl rfl, fun h => by cases h⟩
theorem jf_X1_119_5 : jFl "NeverUnseen" 119 5 18 false := ⟨_, _, _, _, _, jc_V, by decide, rfl, Or.inl q492, Or.inl rfl, fun h => by cases h⟩
theorem jf_X1_128_5 : jFl "NeverUnseen" 128 5 19 false := ⟨_, _, _, _, _, jc_V, by decide, rfl, Or.inl q495, Or.inl rfl, fun h => by cases h⟩
theorem jf_X1_225_5 : jFl "NeverUnseen" 225 5 22 false := ⟨_, _, _, _, _, jc_V, by decide, rfl, Or.inl q502, Or.inl rfl, fun h => by cases h⟩
theorem jf_X1_421_6 : jFl "NeverUnseen" 421 6 4 false := ⟨_, _, _, _, _, jc_P, by decide, rfl, Or.inl q797, Or.inl rfl, fun h => by cases h⟩
theorem jg_X1_241_7 : jFr "NeverUnseen" 241 7 1 := ⟨_, _, _, _, _, jc_Q, by decide, Or.inl q804, Or.inr q803⟩
theorem jf_X1_144_7 : jFl "NeverUnseen" 144 7 4 false := ⟨_, _, _, _, _, jc_Q, by decide, rfl, Or.inl q866, Or.inl rfl, fun h => by cases h⟩
theorem jf_X1_237_11 : jFl "NeverUnseen" 237 11 0 false := ⟨_, _, _, _, _, jc_E, by decide, rfl, Or.inl q930, Or.inl rfl, fun h => by cases h⟩
theorem jf_X1_244_11 : jFl "NeverUnseen" 244 11 1 false := ⟨_, _, _, _, _, jc_E, by decide, rfl, Or.inl q932, Or.inl rfl, fun h => by cases h⟩
theorem jf_X1_231_11 : jFl "NeverUnseen" 231 11 2 false := ⟨_, _, _, _, _, jc_E, by decide, rfl, Or.inl q934, Or.inl rfl, fun h => by cases h⟩
theorem jf_X1_235_11 : jFl "NeverUnseen" 235 11 3 false := ⟨_, _, _, _, _, jc_E, by decide, rfl, Or.inl q936, Or.inl rfl, fun h => by cases h⟩
theorem jf_X1_250_11 : jFl "NeverUnseen" 250 11 4 false := ⟨_, _, _, _, _, jc_E, by decide, rfl, Or.inl q938, Or.inl rfl, fun h => by cases h⟩
theorem jf_X11_7_9 : jFl "NeverUnseen$Away" 7 9 0 true := ⟨_, _, _, _, _, jc_A, by decide, rfl, Or.inl q894, Or.inl rfl, fun _ => rfl⟩
theorem jf_X12_7_10 : jFl "NeverUnseen$Sleep" 7 10 0 true := ⟨_, _, _, _, _, jc_L, by decide, rfl, Or.inl q904, Or.inl rfl, fun _ => rfl⟩
theorem jf_X12_13_10 : jFl "NeverUnseen$Sleep" 13 10 1 true := ⟨_, _, _, _, _, jc_L, by decide, rfl, Or.inl q905, Or.inl rfl, fun _ => rfl⟩
theorem jf_X14_90_12 : jFl "NeverUnseenModel$Valley" 90 12 8 false := ⟨_, _, _, _, _, jc_W, by decide, rfl, Or.inl q1573, Or.inl rfl, fun h => by cases h⟩
theorem jf_X14_86_12 : jFl "NeverUnseenModel$Valley" 86 12 14 false := ⟨_, _, _, _, _, jc_W, by decide, rfl, Or.inl q1580, Or.inl rfl, fun h => by cases h⟩
theorem jf_X14_9_12 : jFl "NeverUnseenModel$Valley" 9 12 15 true := ⟨_, _, _, _, _, jc_W, by decide, rfl, Or.inl q1582, Or.inl rfl, fun _ => rfl⟩
theorem jf_X14_15_12 : jFl "NeverUnseenModel$Valley" 15 12 16 true := ⟨_, _, _, _, _, jc_W, by decide, rfl, Or.inl q1584, Or.inl rfl, fun _ => rfl⟩
theorem jf_X14_18_12 : jFl "NeverUnseenModel$Valley" 18 12 17 true := ⟨_, _, _, _, _, jc_W, by decide, rfl, Or.inl q1586, Or.inl rfl, fun _ => rfl⟩
theorem jf_X14_21_12 : jFl "NeverUnseenModel$Valley" 21 12 18 true := ⟨_, _, _, _, _, jc_W, by decide, rfl, Or.inl q1588, Or.inl rfl, fun _ => rfl⟩
theorem jf_X14_24_12 : jFl "NeverUnseenModel$Valley" 24 12 19 true := ⟨_, _, _, _, _, jc_W, by decide, rfl, Or.inl q1590, Or.inl rfl, fun _ => rfl⟩
theorem jf_X14_27_12 : jFl "NeverUnseenModel$Valley" 27 12 20 true := ⟨_, _, _, _, _, jc_W, by decide, rfl, Or.inl q1592, Or.inl rfl, fun _ => rfl⟩
theorem jf_X14_30_12 : jFl "NeverUnseenModel$Valley" 30 12 21 true := ⟨_, _, _, _, _, jc_W, by decide, rfl, Or.inl q1594, Or.inl rfl, fun _ => rfl⟩
theorem jf_X14_33_12 : jFl "NeverUnseenModel$Valley" 33 12 22 true := ⟨_, _, _, _, _, jc_W, by decide, rfl, Or.inl q1596, Or.inl rfl, fun _ => rfl⟩
theorem jf_X14_36_12 : jFl "NeverUnseenModel$Valley" 36 12 23 true := ⟨_, _, _, _, _, jc_W, by decide, rfl, Or.inl q1598, Or.inl rfl, fun _ => rfl⟩
theorem jf_X14_39_12 : jFl "NeverUnseenModel$Valley" 39 12 24 true := ⟨_, _, _, _, _, jc_W, by decide, rfl, Or.inl q1600, Or.inl rfl, fun _ => rfl⟩
theorem jf_X14_42_12 : jFl "NeverUnseenModel$Valley" 42 12 25 true := ⟨_, _, _, _, _, jc_W, by decide, rfl, Or.inl q1602, Or.inl rfl, fun _ => rfl⟩
theorem jf_X14_45_12 : jFl "NeverUnseenModel$Valley" 45 12 26 true := ⟨_, _, _, _, _, jc_W, by decide, rfl, Or.inl q1604, Or.inl rfl, fun _ => rfl⟩
theorem jf_X14_48_12 : jFl "NeverUnseenModel$Valley" 48 12 27 true := ⟨_, _, _, _, _, jc_W, by decide, rfl, Or.inl q1606, Or.inl rfl, fun _ => rfl⟩
theorem jf_X14_51_12 : jFl "NeverUnseenModel$Valley" 51 12 28 true := ⟨_, _, _, _, _, jc_W, by decide, rfl, Or.inl q1608, Or.inl rfl, fun _ => rfl⟩
theorem jf_X14_55_12 : jFl "NeverUnseenModel$Valley" 55 12 29 true := ⟨_, _, _, _, _, jc_W, by decide, rfl, Or.inl q1610, Or.inl rfl, fun _ => rfl⟩
theorem jf_X14_58_12 : jFl "NeverUnseenModel$Valley" 58 12 30 true := ⟨_, _, _, _, _, jc_W, by decide, rfl, Or.inl q1612, Or.inl rfl, fun _ => rfl⟩
theorem jf_X14_61_12 : jFl "NeverUnseenModel$Valley" 61 12 31 true := ⟨_, _, _, _, _, jc_W, by decide, rfl, Or.inl q1614, Or.inl rfl, fun _ => rfl⟩
theorem jf_X14_64_12 : jFl "NeverUnseenModel$Valley" 64 12 32 true := ⟨_, _, _, _, _, jc_W, by decide, rfl, Or.inl q1616, Or.inl rfl, fun _ => rfl⟩
theorem jf_X14_67_12 : jFl "NeverUnseenModel$Valley" 67 12 33 true := ⟨_, _, _, _, _, jc_W, by decide, rfl, Or.inl q1618, Or.inl rfl, fun _ => rfl⟩
theorem jf_X14_70_12 : jFl "NeverUnseenModel$Valley" 70 12 34 true := ⟨_, _, _, _, _, jc_W, by decide, rfl, Or.inl q1620, Or.inl rfl, fun _ => rfl⟩
theorem jf_X14_73_12 : jFl "NeverUnseenModel$Valley" 73 12 35 true := ⟨_, _, _, _, _, jc_W, by decide, rfl, Or.inl q1622, Or.inl rfl, fun _ => rfl⟩
theorem jf_X14_76_12 : jFl "NeverUnseenModel$Valley" 76 12 36 true := ⟨_, _, _, _, _, jc_W, by decide, rfl, Or.inl q1624, Or.inl rfl, fun _ => rfl⟩
theorem jf_X14_80_12 : jFl "NeverUnseenModel$Valley" 80 12 37 true := ⟨_, _, _, _, _, jc_W, by decide, rfl, Or.inl q1626, Or.inl rfl, fun _ => rfl⟩
theorem jf_X14_83_12 : jFl "NeverUnseenModel$Valley" 83 12 38 true := ⟨_, _, _, _, _, jc_W, by decide, rfl, Or.inl q1628, Or.inl rfl, fun _ => rfl⟩
theorem jn_X2_9 : jNw "NeverUnseen$Reader" 9 2 8 := ⟨_, _, _, jc_F, q191, q192, q157⟩
theorem jf_X2_12_1 : jFl "NeverUnseen$Reader" 12 1 0 true := ⟨_, _, _, _, _, jc_R, by decide, rfl, Or.inl q265, Or.inl rfl, fun _ => rfl⟩
theorem jf_X2_22_1 : jFl "NeverUnseen$Reader" 22 1 1 true := ⟨_, _, _, _, _, jc_R, by decide, rfl, Or.inl q266, Or.inl rfl, fun _ => rfl⟩
theorem jf_X2_18_1 : jFl "NeverUnseen$Reader" 18 1 2 true := ⟨_, _, _, _, _, jc_R, by decide, rfl, Or.inl q267, Or.inl rfl, fun _ => rfl⟩
theorem jf_X2_33_1 : jFl "NeverUnseen$Reader" 33 1 3 false := ⟨_, _, _, _, _, jc_R, by decide, rfl, Or.inl q268, Or.inl rfl, fun h => by cases h⟩
theorem jf_X2_40_1 : jFl "NeverUnseen$Reader" 40 1 4 false := ⟨_, _, _, _, _, jc_R, by decide, rfl, Or.inl q269, Or.inl rfl, fun h => by cases h⟩
theorem jf_X2_47_1 : jFl "NeverUnseen$Reader" 47 1 5 false := ⟨_, _, _, _, _, jc_R, by decide, rfl, Or.inl q270, Or.inl rfl, fun h => by cases h⟩
theorem jf_X2_26_1 : jFl "NeverUnseen$Reader" 26 1 6 false := ⟨_, _, _, _, _, jc_R, by decide, rfl, Or.inl q271, Or.inl rfl, fun h => by cases h⟩
theorem jf_X2_68_1 : jFl "NeverUnseen$Reader" 68 1 7 false := ⟨_, _, _, _, _, jc_R, by decide, rfl, Or.inl q272, Or.inl rfl, fun h => by cases h⟩
theorem jf_X2_61_1 : jFl "NeverUnseen$Reader" 61 1 8 false := ⟨_, _, _, _, _, jc_R, by decide, rfl, Or.inl q273, Or.inl rfl, fun h => by cases h⟩
theorem jf_X2_120_1 : jFl "NeverUnseen$Reader" 120 1 9 false := ⟨_, _, _, _, _, jc_R, by decide, rfl, Or.inl q274, Or.inl rfl, fun h => by cases h⟩
theorem jn_X2_125 : jNw "NeverUnseen$Reader" 125 5 23 := ⟨_, _, _, jc_V, q430, q431, q160⟩
theorem jg_X2_223_5 : jFr "NeverUnseen$Reader" 223 5 0 := ⟨_, _, _, _, _, jc_V, by decide, Or.inl q443, Or.inl rfl⟩
theorem jg_X2_278_5 : jFr "NeverUnseen$Reader" 278 5 1 := ⟨_, _, _, _, _, jc_V, by decide, Or.inl q447, Or.inl rfl⟩
theorem jg_X2_312_5 : jFr "NeverUnseen$Reader" 312 5 2 := ⟨_, _, _, _, _, jc_V, by decide, Or.inl q449, Or.inl rfl⟩
theorem jg_X2_235_5 : jFr "NeverUnseen$Reader" 235 5 3 := ⟨_, _, _, _, _, jc_V, by decide, Or.inl q452, Or.inl rfl⟩
theorem jg_X2_239_5 : jFr "NeverUnseen$Reader" 239 5 4 := ⟨_, _, _, _, _, jc_V, by decide, Or.inl q454, Or.inl rfl⟩
theorem jg_X2_255_5 : jFr "NeverUnseen$Reader" 255 5 5 := ⟨_, _, _, _, _, jc_V, by decide, Or.inl q457, Or.inl rfl⟩
theorem jg_X2_290_5 : jFr "NeverUnseen$Reader" 290 5 6 := ⟨_, _, _, _, _, jc_V, by decide, Or.inl q459, Or.inl rfl⟩
theorem jg_X2_293_5 : jFr "NeverUnseen$Reader" 293 5 7 := ⟨_, _, _, _, _, jc_V, by decide, Or.inl q462, Or.inl rfl⟩
theorem jg_X2_319_5 : jFr "NeverUnseen$Reader" 319 5 8 := ⟨_, _, _, _, _, jc_V, by decide, Or.inl q465, Or.inl rfl⟩
theorem jg_X2_322_5 : jFr "NeverUnseen$Reader" 322 5 9 := ⟨_, _, _, _, _, jc_V, by decide, Or.inl q468, Or.inl rfl⟩
theorem jf_X2_156_5 : jFl "NeverUnseen$Reader" 156 5 10 false := ⟨_, _, _, _, _, jc_V, by decide, rfl, Or.inl q473, Or.inl rfl, fun h => by cases h⟩
theorem jf_X2_159_5 : jFl "NeverUnseen$Reader" 159 5 11 false := ⟨_, _, _, _, _, jc_V, by decide, rfl, Or.inl q476, Or.inl rfl, fun h => by cases h⟩
theorem jf_X2_296_5 : jFl "NeverUnseen$Reader" 296 5 12 false := ⟨_, _, _, _, _, jc_V, by decide, rfl, Or.inl q478, Or.inl rfl, fun h => by cases h⟩
theorem jf_X2_227_5 : jFl "NeverUnseen$Reader" 227 5 13 false := ⟨_, _, _, _, _, jc_V, by decide, rfl, Or.inl q480, Or.inl rfl, fun h => by cases h⟩
theorem jf_X2_242_5 : jFl "NeverUnseen$Reader" 242 5 14 false := ⟨_, _, _, _, _, jc_V, by decide, rfl, Or.inl q482, Or.inl rfl, fun h => by cases h⟩
theorem jf_X2_252_5 : jFl "NeverUnseen$Reader" 252 5 15 false := ⟨_, _, _, _, _, jc_V, by decide, rfl, Or.inl q485, Or.inl rfl, fun h => by cases h⟩
theorem jf_X2_282_5 : jFl "NeverUnseen$Reader" 282 5 16 false := ⟨_, _, _, _, _, jc_V, by decide, rfl, Or.inl q487, Or.inl rfl, fun h => by cases h⟩
theorem jf_X2_316_5 : jFl "NeverUnseen$Reader" 316 5 17 false := ⟨_, _, _, _, _, jc_V, by decide, rfl, Or.inl q489, Or.inl rfl, fun h => by cases h⟩
theorem jf_X2_191_5 : jFl "NeverUnseen$Reader" 191 5 18 false := ⟨_, _, _, _, _, jc_V, by decide, rfl, Or.inl q493, Or.inl rfl, fun h => by cases h⟩
theorem jf_X2_195_5 : jFl "NeverUnseen$Reader" 195 5 19 false := ⟨_, _, _, _, _, jc_V, by decide, rfl, Or.inl q496, Or.inl rfl, fun h => by cases h⟩
theorem jf_X2_199_5 : jFl "NeverUnseen$Reader" 199 5 20 false := ⟨_, _, _, _, _, jc_V, by decide, rfl, Or.inl q498, Or.inl rfl, fun h => by cases h⟩
theorem jf_X2_203_5 : jFl "NeverUnseen$Reader" 203 5 21 false := ⟨_, _, _, _, _, jc_V, by decide, rfl, Or.inl q500, Or.inl rfl, fun h => by cases h⟩
theorem jf_X2_153_5 : jFl "NeverUnseen$Reader" 153 5 22 false := ⟨_, _, _, _, _, jc_V, by decide, rfl, Or.inl q501, Or.inl rfl, fun h => by cases h⟩
theorem jn_X2_54 : jNw "NeverUnseen$Reader" 54 13 4 := ⟨_, _, _, jc_T, q562, q563, q161⟩
theorem jn_X2_130 : jNw "NeverUnseen$Reader" 130 6 5 := ⟨_, _, _, jc_P, q763, q764, q167⟩
theorem jf_X2_214_6 : jFl "NeverUnseen$Reader" 214 6 2 false := ⟨_, _, _, _, _, jc_P, by decide, rfl, Or.inl q792, Or.inl rfl, fun h => by cases h⟩
theorem jf_X2_220_6 : jFl "NeverUnseen$Reader" 220 6 3 false := ⟨_, _, _, _, _, jc_P, by decide, rfl, Or.inl q794, Or.inl rfl, fun h => by cases h⟩
theorem jf_X2_249_6 : jFl "NeverUnseen$Reader" 249 6 4 false := ⟨_, _, _, _, _, jc_P, by decide, rfl, Or.inl q796, Or.inl rfl, fun h => by cases h⟩
theorem jg_X2_132_6 : jFr "NeverUnseen$Reader" 132 6 1 := ⟨_, _, _, _, _, jc_P, by decide, Or.inl q801, Or.inl rfl⟩
theorem jg_X2_132_7 : jFr "NeverUnseen$Reader" 132 7 1 := ⟨_, _, _, _, _, jc_Q, by decide, Or.inl q801, Or.inl rfl⟩
theorem jg_X2_289_7 : jFr "NeverUnseen$Reader" 289 7 1 := ⟨_, _, _, _, _, jc_Q, by decide, Or.inl q802, Or.inr q803⟩
theorem jn_X2_140 : jNw "NeverUnseen$Reader" 140 7 5 := ⟨_, _, _, jc_Q, q856, q857, q168⟩
theorem jf_X2_259_7 : jFl "NeverUnseen$Reader" 259 7 4 false := ⟨_, _, _, _, _, jc_Q, by decide, rfl, Or.inl q867, Or.inl rfl, fun h => by cases h⟩
theorem jn_X2_261 : jNw "NeverUnseen$Reader" 261 8 0 := ⟨_, _, _, jc_B, q877, q878, q169⟩
theorem jn_X2_268 : jNw "NeverUnseen$Reader" 268 9 1 := ⟨_, _, _, jc_A, q888, q889, q170⟩
theorem jn_X2_273 : jNw "NeverUnseen$Reader" 273 10 2 := ⟨_, _, _, jc_L, q898, q899, q171⟩
theorem jn_X2_299 : jNw "NeverUnseen$Reader" 299 11 5 := ⟨_, _, _, jc_E, q923, q924, q172⟩
theorem jf_X2_302_11 : jFl "NeverUnseen$Reader" 302 11 0 false := ⟨_, _, _, _, _, jc_E, by decide, rfl, Or.inl q929, Or.inl rfl, fun h => by cases h⟩
theorem jf_X2_306_11 : jFl "NeverUnseen$Reader" 306 11 1 false := ⟨_, _, _, _, _, jc_E, by decide, rfl, Or.inl q931, Or.inl rfl, fun h => by cases h⟩
theorem jf_X2_307_11 : jFl "NeverUnseen$Reader" 307 11 2 false := ⟨_, _, _, _, _, jc_E, by decide, rfl, Or.inl q933, Or.inl rfl, fun h => by cases h⟩
theorem jf_X2_308_11 : jFl "NeverUnseen$Reader" 308 11 3 false := ⟨_, _, _, _, _, jc_E, by decide, rfl, Or.inl q935, Or.inl rfl, fun h => by cases h⟩
theorem jf_X2_310_11 : jFl "NeverUnseen$Reader" 310 11 4 false := ⟨_, _, _, _, _, jc_E, by decide, rfl, Or.inl q937, Or.inl rfl, fun h => by cases h⟩
theorem jf_X3_15_2 : jFl "NeverUnseen$Refused" 15 2 6 false := ⟨_, _, _, _, _, jc_F, by decide, rfl, Or.inl q243, Or.inl rfl, fun h => by cases h⟩
theorem jf_X3_9_2 : jFl "NeverUnseen$Refused" 9 2 7 false := ⟨_, _, _, _, _, jc_F, by decide, rfl, Or.inl q245, Or.inl rfl, fun h => by cases h⟩
theorem jf_X4_9_3 : jFl "NeverUnseen$Sight" 9 3 0 true := ⟨_, _, _, _, _, jc_S, by decide, rfl, Or.inl q303, Or.inl rfl, fun _ => rfl⟩
theorem jf_X4_15_3 : jFl "NeverUnseen$Sight" 15 3 1 true := ⟨_, _, _, _, _, jc_S, by decide, rfl, Or.inl q305, Or.inl rfl, fun _ => rfl⟩
theorem jg_X4_39_5 : jFr "NeverUnseen$Sight" 39 5 5 := ⟨_, _, _, _, _, jc_V, by decide, Or.inl q456, Or.inl rfl⟩
theorem jf_X4_18_5 : jFl "NeverUnseen$Sight" 18 5 10 false := ⟨_, _, _, _, _, jc_V, by decide, rfl, Or.inl q470, Or.inl rfl, fun h => by cases h⟩
theorem jf_X4_36_5 : jFl "NeverUnseen$Sight" 36 5 15 false := ⟨_, _, _, _, _, jc_V, by decide, rfl, Or.inl q484, Or.inl rfl, fun h => by cases h⟩
theorem jf_X5_56_4 : jFl "NeverUnseenModel" 56 4 0 false := ⟨_, _, _, _, _, jc_M, by decide, rfl, Or.inl q1428, Or.inl rfl, fun h => by cases h⟩
theorem jf_X5_59_4 : jFl "NeverUnseenModel" 59 4 1 false := ⟨_, _, _, _, _, jc_M, by decide, rfl, Or.inl q1429, Or.inl rfl, fun h => by cases h⟩
theorem jf_X5_9_4 : jFl "NeverUnseenModel" 9 4 2 false := ⟨_, _, _, _, _, jc_M, by decide, rfl, Or.inl q1430, Or.inl rfl, fun h => by cases h⟩
theorem jf_X5_380_4 : jFl "NeverUnseenModel" 380 4 3 false := ⟨_, _, _, _, _, jc_M, by decide, rfl, Or.inl q1431, Or.inl rfl, fun h => by cases h⟩
theorem jf_X5_173_4 : jFl "NeverUnseenModel" 173 4 4 false := ⟨_, _, _, _, _, jc_M, by decide, rfl, Or.inl q1432, Or.inl rfl, fun h => by cases h⟩
theorem jf_X5_13_4 : jFl "NeverUnseenModel" 13 4 5 true := ⟨_, _, _, _, _, jc_M, by decide, rfl, Or.inl q1433, Or.inl rfl, fun _ => rfl⟩
theorem jf_X5_373_4 : jFl "NeverUnseenModel" 373 4 6 false := ⟨_, _, _, _, _, jc_M, by decide, rfl, Or.inl q1434, Or.inl rfl, fun h => by cases h⟩
theorem jf_X5_70_4 : jFl "NeverUnseenModel" 70 4 7 false := ⟨_, _, _, _, _, jc_M, by decide, rfl, Or.inl q1435, Or.inl rfl, fun h => by cases h⟩
theorem jf_X5_88_4 : jFl "NeverUnseenModel" 88 4 8 false := ⟨_, _, _, _, _, jc_M, by decide, rfl, Or.inl q1436, Or.inl rfl, fun h => by cases h⟩
theorem jf_X5_85_4 : jFl "NeverUnseenModel" 85 4 9 false := ⟨_, _, _, _, _, jc_M, by decide, rfl, Or.inl q1437, Or.inl rfl, fun h => by cases h⟩
theorem jf_X5_94_4 : jFl "NeverUnseenModel" 94 4 10 false := ⟨_, _, _, _, _, jc_M, by decide, rfl, Or.inl q1438, Or.inl rfl, fun h => by cases h⟩
theorem jf_X5_97_4 : jFl "NeverUnseenModel" 97 4 11 false := ⟨_, _, _, _, _, jc_M, by decide, rfl, Or.inl q1439, Or.inl rfl, fun h => by cases h⟩
theorem jf_X5_111_4 : jFl "NeverUnseenModel" 111 4 12 false := ⟨_, _, _, _, _, jc_M, by decide, rfl, Or.inl q1440, Or.inl rfl, fun h => by cases h⟩
theorem jf_X5_114_4 : jFl "NeverUnseenModel" 114 4 13 false := ⟨_, _, _, _, _, jc_M, by decide, rfl, Or.inl q1441, Or.inl rfl, fun h => by cases h⟩
theorem jf_X5_117_4 : jFl "NeverUnseenModel" 117 4 14 false := ⟨_, _, _, _, _, jc_M, by decide, rfl, Or.inl q1442, Or.inl rfl, fun h => by cases h⟩
theorem jf_X5_104_4 : jFl "NeverUnseenModel" 104 4 15 false := ⟨_, _, _, _, _, jc_M, by decide, rfl, Or.inl q1443, Or.inl rfl, fun h => by cases h⟩
theorem jf_X5_202_4 : jFl "NeverUnseenModel" 202 4 16 false := ⟨_, _, _, _, _, jc_M, by decide, rfl, Or.inl q1444, Or.inl rfl, fun h => by cases h⟩
theorem jf_X5_402_4 : jFl "NeverUnseenModel" 402 4 17 false := ⟨_, _, _, _, _, jc_M, by decide, rfl, Or.inl q1445, Or.inl rfl, fun h => by cases h⟩
theorem jf_X5_395_4 : jFl "NeverUnseenModel" 395 4 18 false := ⟨_, _, _, _, _, jc_M, by decide, rfl, Or.inl q1446, Or.inl rfl, fun h => by cases h⟩
theorem jf_X5_17_4 : jFl "NeverUnseenModel" 17 4 19 true := ⟨_, _, _, _, _, jc_M, by decide, rfl, Or.inl q1447, Or.inl rfl, fun _ => rfl⟩
theorem jf_X5_21_4 : jFl "NeverUnseenModel" 21 4 20 true := ⟨_, _, _, _, _, jc_M, by decide, rfl, Or.inl q1448, Or.inl rfl, fun _ => rfl⟩
theorem jf_X5_383_4 : jFl "NeverUnseenModel" 383 4 21 false := ⟨_, _, _, _, _, jc_M, by decide, rfl, Or.inl q1449, Or.inl rfl, fun h => by cases h⟩
theorem jf_X5_386_4 : jFl "NeverUnseenModel" 386 4 22 false := ⟨_, _, _, _, _, jc_M, by decide, rfl, Or.inl q1450, Or.inl rfl, fun h => by cases h⟩
theorem jf_X5_24_4 : jFl "NeverUnseenModel" 24 4 23 true := ⟨_, _, _, _, _, jc_M, by decide, rfl, Or.inl q1451, Or.inl rfl, fun _ => rfl⟩
theorem jf_X5_452_4 : jFl "NeverUnseenModel" 452 4 24 false := ⟨_, _, _, _, _, jc_M, by decide, rfl, Or.inl q1452, Or.inl rfl, fun h => by cases h⟩
theorem jf_X5_27_4 : jFl "NeverUnseenModel" 27 4 25 true := ⟨_, _, _, _, _, jc_M, by decide, rfl, Or.inl q1453, Or.inl rfl, fun _ => rfl⟩
theorem jf_X5_30_4 : jFl "NeverUnseenModel" 30 4 26 true := ⟨_, _, _, _, _, jc_M, by decide, rfl, Or.inl q1454, Or.inl rfl, fun _ => rfl⟩
theorem jf_X5_470_4 : jFl "NeverUnseenModel" 470 4 27 false := ⟨_, _, _, _, _, jc_M, by decide, rfl, Or.inl q1455, Or.inl rfl, fun h => by cases h⟩
theorem jf_X5_473_4 : jFl "NeverUnseenModel" 473 4 28 false := ⟨_, _, _, _, _, jc_M, by decide, rfl, Or.inl q1456, Or.inl rfl, fun h => by cases h⟩
theorem jf_X5_33_4 : jFl "NeverUnseenModel" 33 4 29 true := ⟨_, _, _, _, _, jc_M, by decide, rfl, Or.inl q1457, Or.inl rfl, fun _ => rfl⟩
theorem jf_X5_37_4 : jFl "NeverUnseenModel" 37 4 30 true := ⟨_, _, _, _, _, jc_M, by decide, rfl, Or.inl q1458, Or.inl rfl, fun _ => rfl⟩
theorem jf_X5_40_4 : jFl "NeverUnseenModel" 40 4 31 true := ⟨_, _, _, _, _, jc_M, by decide, rfl, Or.inl q1459, Or.inl rfl, fun _ => rfl⟩
theorem jf_X5_43_4 : jFl "NeverUnseenModel" 43 4 32 false := ⟨_, _, _, _, _, jc_M, by decide, rfl, Or.inl q1460, Or.inl rfl, fun h => by cases h⟩
theorem jf_X5_389_4 : jFl "NeverUnseenModel" 389 4 33 false := ⟨_, _, _, _, _, jc_M, by decide, rfl, Or.inl q1461, Or.inl rfl, fun h => by cases h⟩
theorem jf_X5_46_4 : jFl "NeverUnseenModel" 46 4 34 true := ⟨_, _, _, _, _, jc_M, by decide, rfl, Or.inl q1462, Or.inl rfl, fun _ => rfl⟩
theorem jf_X5_50_4 : jFl "NeverUnseenModel" 50 4 35 true := ⟨_, _, _, _, _, jc_M, by decide, rfl, Or.inl q1463, Or.inl rfl, fun _ => rfl⟩
theorem jf_X5_53_4 : jFl "NeverUnseenModel" 53 4 36 true := ⟨_, _, _, _, _, jc_M, by decide, rfl, Or.inl q1464, Or.inl rfl, fun _ => rfl⟩
theorem jf_X5_546_4 : jFl "NeverUnseenModel" 546 4 37 false := ⟨_, _, _, _, _, jc_M, by decide, rfl, Or.inl q1465, Or.inl rfl, fun h => by cases h⟩
theorem jn_X5_178 : jNw "NeverUnseenModel" 178 12 39 := ⟨_, _, _, jc_W, q1559, q1560, q174⟩
theorem jf_X5_214_12 : jFl "NeverUnseenModel" 214 12 0 false := ⟨_, _, _, _, _, jc_W, by decide, rfl, Or.inr ⟨rfl, _, q1565⟩, Or.inl rfl, fun h => by cases h⟩
theorem jf_X5_257_12 : jFl "NeverUnseenModel" 257 12 1 false := ⟨_, _, _, _, _, jc_W, by decide, rfl, Or.inr ⟨rfl, _, q1566⟩, Or.inl rfl, fun h => by cases h⟩
theorem jf_X5_261_12 : jFl "NeverUnseenModel" 261 12 2 false := ⟨_, _, _, _, _, jc_W, by decide, rfl, Or.inr ⟨rfl, _, q1567⟩, Or.inl rfl, fun h => by cases h⟩
theorem jf_X5_265_12 : jFl "NeverUnseenModel" 265 12 3 false := ⟨_, _, _, _, _, jc_W, by decide, rfl, Or.inr ⟨rfl, _, q1568⟩, Or.inl rfl, fun h => by cases h⟩
theorem jf_X5_269_12 : jFl "NeverUnseenModel" 269 12 4 false := ⟨_, _, _, _, _, jc_W, by decide, rfl, Or.inr ⟨rfl, _, q1569⟩, Or.inl rfl, fun h => by cases h⟩
theorem jf_X5_273_12 : jFl "NeverUnseenModel" 273 12 5 false := ⟨_, _, _, _, _, jc_W, by decide, rfl, Or.inr ⟨rfl, _, q1570⟩, Or.inl rfl, fun h => by cases h⟩
theorem jf_X5_218_12 : jFl "NeverUnseenModel" 218 12 6 false := ⟨_, _, _, _, _, jc_W, by decide, rfl, Or.inr ⟨rfl, _, q1571⟩, Or.inl rfl, fun h => by cases h⟩
theorem jf_X5_289_12 : jFl "NeverUnseenModel" 289 12 7 false := ⟨_, _, _, _, _, jc_W, by decide, rfl, Or.inr ⟨rfl, _, q1572⟩, Or.inl rfl, fun h => by cases h⟩
theorem jf_X5_302_12 : jFl "NeverUnseenModel" 302 12 8 false := ⟨_, _, _, _, _, jc_W, by decide, rfl, Or.inr ⟨rfl, _, q1574⟩, Or.inl rfl, fun h => by cases h⟩
theorem jf_X5_311_12 : jFl "NeverUnseenModel" 311 12 9 false := ⟨_, _, _, _, _, jc_W, by decide, rfl, Or.inr ⟨rfl, _, q1575⟩, Or.inl rfl, fun h => by cases h⟩
theorem jf_X5_221_12 : jFl "NeverUnseenModel" 221 12 10 false := ⟨_, _, _, _, _, jc_W, by decide, rfl, Or.inr ⟨rfl, _, q1576⟩, Or.inl rfl, fun h => by cases h⟩
theorem jf_X5_335_12 : jFl "NeverUnseenModel" 335 12 11 false := ⟨_, _, _, _, _, jc_W, by decide, rfl, Or.inr ⟨rfl, _, q1577⟩, Or.inl rfl, fun h => by cases h⟩
theorem jf_X5_344_12 : jFl "NeverUnseenModel" 344 12 12 false := ⟨_, _, _, _, _, jc_W, by decide, rfl, Or.inr ⟨rfl, _, q1578⟩, Or.inl rfl, fun h => by cases h⟩
theorem jf_X5_363_12 : jFl "NeverUnseenModel" 363 12 13 false := ⟨_, _, _, _, _, jc_W, by decide, rfl, Or.inr ⟨rfl, _, q1579⟩, Or.inl rfl, fun h => by cases h⟩
theorem jf_X5_187_12 : jFl "NeverUnseenModel" 187 12 14 false := ⟨_, _, _, _, _, jc_W, by decide, rfl, Or.inr ⟨rfl, _, q1581⟩, Or.inl rfl, fun h => by cases h⟩
theorem jg_X5_283_12 : jFr "NeverUnseenModel" 283 12 15 := ⟨_, _, _, _, _, jc_W, by decide, Or.inr ⟨_, q1583⟩, Or.inl rfl⟩
theorem jg_X5_286_12 : jFr "NeverUnseenModel" 286 12 16 := ⟨_, _, _, _, _, jc_W, by decide, Or.inr ⟨_, q1585⟩, Or.inl rfl⟩
theorem jg_X5_292_12 : jFr "NeverUnseenModel" 292 12 17 := ⟨_, _, _, _, _, jc_W, by decide, Or.inr ⟨_, q1587⟩, Or.inl rfl⟩
theorem jg_X5_295_12 : jFr "NeverUnseenModel" 295 12 18 := ⟨_, _, _, _, _, jc_W, by decide, Or.inr ⟨_, q1589⟩, Or.inl rfl⟩
theorem jg_X5_305_12 : jFr "NeverUnseenModel" 305 12 19 := ⟨_, _, _, _, _, jc_W, by decide, Or.inr ⟨_, q1591⟩, Or.inl rfl⟩
theorem jg_X5_308_12 : jFr "NeverUnseenModel" 308 12 20 := ⟨_, _, _, _, _, jc_W, by decide, Or.inr ⟨_, q1593⟩, Or.inl rfl⟩
theorem jg_X5_314_12 : jFr "NeverUnseenModel" 314 12 21 := ⟨_, _, _, _, _, jc_W, by decide, Or.inr ⟨_, q1595⟩, Or.inl rfl⟩
theorem jg_X5_323_12 : jFr "NeverUnseenModel" 323 12 22 := ⟨_, _, _, _, _, jc_W, by decide, Or.inr ⟨_, q1597⟩, Or.inl rfl⟩
theorem jg_X5_328_12 : jFr "NeverUnseenModel" 328 12 23 := ⟨_, _, _, _, _, jc_W, by decide, Or.inr ⟨_, q1599⟩, Or.inl rfl⟩
theorem jg_X5_330_12 : jFr "NeverUnseenModel" 330 12 24 := ⟨_, _, _, _, _, jc_W, by decide, Or.inr ⟨_, q1601⟩, Or.inl rfl⟩
theorem jg_X5_332_12 : jFr "NeverUnseenModel" 332 12 25 := ⟨_, _, _, _, _, jc_W, by decide, Or.inr ⟨_, q1603⟩, Or.inl rfl⟩
theorem jg_X5_338_12 : jFr "NeverUnseenModel" 338 12 26 := ⟨_, _, _, _, _, jc_W, by decide, Or.inr ⟨_, q1605⟩, Or.inl rfl⟩
theorem jg_X5_341_12 : jFr "NeverUnseenModel" 341 12 27 := ⟨_, _, _, _, _, jc_W, by decide, Or.inr ⟨_, q1607⟩, Or.inl rfl⟩
theorem jg_X5_325_12 : jFr "NeverUnseenModel" 325 12 28 := ⟨_, _, _, _, _, jc_W, by decide, Or.inr ⟨_, q1609⟩, Or.inl rfl⟩
theorem jg_X5_349_12 : jFr "NeverUnseenModel" 349 12 29 := ⟨_, _, _, _, _, jc_W, by decide, Or.inr ⟨_, q1611⟩, Or.inl rfl⟩
theorem jg_X5_352_12 : jFr "NeverUnseenModel" 352 12 30 := ⟨_, _, _, _, _, jc_W, by decide, Or.inr ⟨_, q1613⟩, Or.inl rfl⟩
theorem jg_X5_355_12 : jFr "NeverUnseenModel" 355 12 31 := ⟨_, _, _, _, _, jc_W, by decide, Or.inr ⟨_, q1615⟩, Or.inl rfl⟩
theorem jg_X5_358_12 : jFr "NeverUnseenModel" 358 12 32 := ⟨_, _, _, _, _, jc_W, by decide, Or.inr ⟨_, q1617⟩, Or.inl rfl⟩
theorem jg_X5_361_12 : jFr "NeverUnseenModel" 361 12 33 := ⟨_, _, _, _, _, jc_W, by decide, Or.inr ⟨_, q1619⟩, Or.inl rfl⟩
theorem jg_X5_366_12 : jFr "NeverUnseenModel" 366 12 34 := ⟨_, _, _, _, _, jc_W, by decide, Or.inr ⟨_, q1621⟩, Or.inl rfl⟩
theorem jg_X5_371_12 : jFr "NeverUnseenModel" 371 12 35 := ⟨_, _, _, _, _, jc_W, by decide, Or.inr ⟨_, q1623⟩, Or.inl rfl⟩
theorem jg_X5_183_12 : jFr "NeverUnseenModel" 183 12 36 := ⟨_, _, _, _, _, jc_W, by decide, Or.inr ⟨_, q1625⟩, Or.inl rfl⟩
theorem jg_X5_190_12 : jFr "NeverUnseenModel" 190 12 37 := ⟨_, _, _, _, _, jc_W, by decide, Or.inr ⟨_, q1627⟩, Or.inl rfl⟩
theorem jg_X5_193_12 : jFr "NeverUnseenModel" 193 12 38 := ⟨_, _, _, _, _, jc_W, by decide, Or.inr ⟨_, q1629⟩, Or.inl rfl⟩
theorem jn_X6_9 : jNw "NeverUnseen$Valley" 9 6 5 := ⟨_, _, _, jc_P, q436, q764, q167⟩
theorem jn_X6_17 : jNw "NeverUnseen$Valley" 17 7 5 := ⟨_, _, _, jc_Q, q438, q857, q168⟩
theorem jn_X6_23 : jNw "NeverUnseen$Valley" 23 11 5 := ⟨_, _, _, jc_E, q440, q924, q172⟩
theorem jf_X6_11_5 : jFl "NeverUnseen$Valley" 11 5 0 true := ⟨_, _, _, _, _, jc_V, by decide, rfl, Or.inl q442, Or.inl rfl, fun _ => rfl⟩
theorem jf_X6_19_5 : jFl "NeverUnseen$Valley" 19 5 1 true := ⟨_, _, _, _, _, jc_V, by decide, rfl, Or.inl q445, Or.inl rfl, fun _ => rfl⟩
theorem jf_X6_25_5 : jFl "NeverUnseen$Valley" 25 5 2 true := ⟨_, _, _, _, _, jc_V, by decide, rfl, Or.inl q448, Or.inl rfl, fun _ => rfl⟩
theorem jf_X6_29_5 : jFl "NeverUnseen$Valley" 29 5 3 true := ⟨_, _, _, _, _, jc_V, by decide, rfl, Or.inl q451, Or.inl rfl, fun _ => rfl⟩
theorem jf_X6_33_5 : jFl "NeverUnseen$Valley" 33 5 4 true := ⟨_, _, _, _, _, jc_V, by decide, rfl, Or.inl q453, Or.inl rfl, fun _ => rfl⟩
theorem jf_X6_36_5 : jFl "NeverUnseen$Valley" 36 5 5 true := ⟨_, _, _, _, _, jc_V, by decide, rfl, Or.inl q455, Or.inl rfl, fun _ => rfl⟩
theorem jf_X6_39_5 : jFl "NeverUnseen$Valley" 39 5 6 true := ⟨_, _, _, _, _, jc_V, by decide, rfl, Or.inl q458, Or.inl rfl, fun _ => rfl⟩
theorem jf_X6_42_5 : jFl "NeverUnseen$Valley" 42 5 7 true := ⟨_, _, _, _, _, jc_V, by decide, rfl, Or.inl q461, Or.inl rfl, fun _ => rfl⟩
theorem jf_X6_45_5 : jFl "NeverUnseen$Valley" 45 5 8 true := ⟨_, _, _, _, _, jc_V, by decide, rfl, Or.inl q464, Or.inl rfl, fun _ => rfl⟩
theorem jf_X6_48_5 : jFl "NeverUnseen$Valley" 48 5 9 true := ⟨_, _, _, _, _, jc_V, by decide, rfl, Or.inl q467, Or.inl rfl, fun _ => rfl⟩
theorem jf_X6_63_5 : jFl "NeverUnseen$Valley" 63 5 10 false := ⟨_, _, _, _, _, jc_V, by decide, rfl, Or.inl q471, Or.inl rfl, fun h => by cases h⟩
theorem jf_X6_71_5 : jFl "NeverUnseen$Valley" 71 5 11 false := ⟨_, _, _, _, _, jc_V, by decide, rfl, Or.inl q474, Or.inl rfl, fun h => by cases h⟩
theorem jf_X6_94_5 : jFl "NeverUnseen$Valley" 94 5 13 false := ⟨_, _, _, _, _, jc_V, by decide, rfl, Or.inl q479, Or.inl rfl, fun h => by cases h⟩
theorem jf_X6_91_5 : jFl "NeverUnseen$Valley" 91 5 18 false := ⟨_, _, _, _, _, jc_V, by decide, rfl, Or.inl q491, Or.inl rfl, fun h => by cases h⟩
theorem jf_X6_88_5 : jFl "NeverUnseen$Valley" 88 5 19 false := ⟨_, _, _, _, _, jc_V, by decide, rfl, Or.inl q494, Or.inl rfl, fun h => by cases h⟩
theorem jf_X6_74_5 : jFl "NeverUnseen$Valley" 74 5 20 false := ⟨_, _, _, _, _, jc_V, by decide, rfl, Or.inl q497, Or.inl rfl, fun h => by cases h⟩
theorem jf_X6_77_5 : jFl "NeverUnseen$Valley" 77 5 21 false := ⟨_, _, _, _, _, jc_V, by decide, rfl, Or.inl q499, Or.inl rfl, fun h => by cases h⟩
theorem jf_X6_101_6 : jFl "NeverUnseen$Valley" 101 6 2 false := ⟨_, _, _, _, _, jc_P, by decide, rfl, Or.inl q791, Or.inl rfl, fun h => by cases h⟩
theorem jf_X6_108_6 : jFl "NeverUnseen$Valley" 108 6 3 false := ⟨_, _, _, _, _, jc_P, by decide, rfl, Or.inl q793, Or.inl rfl, fun h => by cases h⟩
theorem jf_X6_117_6 : jFl "NeverUnseen$Valley" 117 6 4 false := ⟨_, _, _, _, _, jc_P, by decide, rfl, Or.inl q795, Or.inl rfl, fun h => by cases h⟩
theorem jg_X6_51_6 : jFr "NeverUnseen$Valley" 51 6 0 := ⟨_, _, _, _, _, jc_P, by decide, Or.inl q799, Or.inl rfl⟩
theorem jg_X6_51_7 : jFr "NeverUnseen$Valley" 51 7 0 := ⟨_, _, _, _, _, jc_Q, by decide, Or.inl q799, Or.inl rfl⟩
theorem jf_X7_7_6 : jFl "NeverUnseen$Named" 7 6 0 true := ⟨_, _, _, _, _, jc_P, by decide, rfl, Or.inl q798, Or.inl rfl, fun _ => rfl⟩
theorem jf_X7_7_7 : jFl "NeverUnseen$Named" 7 7 0 true := ⟨_, _, _, _, _, jc_Q, by decide, rfl, Or.inl q798, Or.inl rfl, fun _ => rfl⟩
theorem jf_X7_13_6 : jFl "NeverUnseen$Named" 13 6 1 true := ⟨_, _, _, _, _, jc_P, by decide, rfl, Or.inl q800, Or.inl rfl, fun _ => rfl⟩
theorem jf_X7_13_7 : jFl "NeverUnseen$Named" 13 7 1 true := ⟨_, _, _, _, _, jc_Q, by decide, rfl, Or.inl q800, Or.inl rfl, fun _ => rfl⟩
theorem jf_X9_9_7 : jFl "NeverUnseen$Person" 9 7 2 true := ⟨_, _, _, _, _, jc_Q, by decide, rfl, Or.inl q864, Or.inl rfl, fun _ => rfl⟩
theorem jf_X9_15_7 : jFl "NeverUnseen$Person" 15 7 3 false := ⟨_, _, _, _, _, jc_Q, by decide, rfl, Or.inl q865, Or.inl rfl, fun h => by cases h⟩
abbrev Mi : Type := MethodName × ByteArray × Nat × Option FieldType × List (Nat × Nat × Nat × Nat)
abbrev mi_J0_init : Mi := (yJ0_init, cJ0_init, 1, (Option.none : Option Jvm.ClassFile.FieldType), [])
abbrev mi_J0_init_2 : Mi := (yJ0_init_2, cJ0_init_2, 5, (Option.none : Option Jvm.ClassFile.FieldType), [])
abbrev mi_J1_init : Mi := (yJ1_init, cJ1_init, 5, (Option.none : Option Jvm.ClassFile.FieldType), [])
abbrev mi_J1_init_2 : Mi := (yJ1_init_2, cJ1_init_2, 1, (Option.none : Option Jvm.ClassFile.FieldType), [])
abbrev mi_J10_init : Mi := (yJ10_init, cJ10_init, 1, (Option.none : Option Jvm.ClassFile.FieldType), [])
abbrev mi_J11_getUTF16Char : Mi := (yJ11_getUTF16Char, cJ11_getUTF16Char, 3, (Option.some Jvm.ClassFile.FieldType.char), [])
abbrev mi_J2_init : Mi := (yJ2_init, cJ2_init, 5, (Option.none : Option Jvm.ClassFile.FieldType), [])
abbrev mi_J2_init_2 : Mi := (yJ2_init_2, cJ2_init_2, 1, (Option.none : Option Jvm.ClassFile.FieldType), [])
abbrev mi_J3_init : Mi := (yJ3_init, cJ3_init, 4, (Option.none : Option Jvm.ClassFile.FieldType), [])
abbrev mi_J3_rangeCheck : Mi := (yJ3_rangeCheck, cJ3_rangeCheck, 3, (Option.some (Jvm.ClassFile.FieldType.object "java/lang/Void")), [])
abbrev mi_J3_checkBoundsOffCount : Mi := (yJ3_checkBoundsOffCount, cJ3_checkBoundsOffCount, 3, (Option.some Jvm.ClassFile.FieldType.int), [])
abbrev mi_J3_init_2 : Mi := (yJ3_init_2, cJ3_init_2, 6, (Option.none : Option Jvm.ClassFile.FieldType), [])
abbrev mi_J3_hashCode : Mi := (yJ3_hashCode, cJ3_hashCode, 2, (Option.some Jvm.ClassFile.FieldType.int), [])
abbrev mi_J3_isLatin1 : Mi := (yJ3_isLatin1, cJ3_isLatin1, 1, (Option.some Jvm.ClassFile.FieldType.boolean), [])
abbrev mi_J3_equals : Mi := (yJ3_equals, cJ3_equals, 3, (Option.some Jvm.ClassFile.FieldType.boolean), [])
abbrev mi_J3_length : Mi := (yJ3_length, cJ3_length, 1, (Option.some Jvm.ClassFile.FieldType.int), [])
abbrev mi_J3_coder : Mi := (yJ3_coder, cJ3_coder, 1, (Option.some Jvm.ClassFile.FieldType.byte), [])
abbrev mi_J3_charAt : Mi := (yJ3_charAt, cJ3_charAt, 2, (Option.some Jvm.ClassFile.FieldType.char), [])
abbrev mi_J3_checkIndex : Mi := (yJ3_checkIndex, cJ3_checkIndex, 2, (Option.none : Option Jvm.ClassFile.FieldType), [])
abbrev mi_J4_checkFromIndexSize : Mi := (yJ4_checkFromIndexSize, cJ4_checkFromIndexSize, 4, (Option.some Jvm.ClassFile.FieldType.int), [])
abbrev mi_J4_checkIndex : Mi := (yJ4_checkIndex, cJ4_checkIndex, 3, (Option.some Jvm.ClassFile.FieldType.int), [])
abbrev mi_J5_compress : Mi := (yJ5_compress, cJ5_compress, 6, (Option.some (Jvm.ClassFile.FieldType.array Jvm.ClassFile.FieldType.byte)), [])
abbrev mi_J5_compress_2 : Mi := (yJ5_compress_2, cJ5_compress_2, 7, (Option.some Jvm.ClassFile.FieldType.int), [])
abbrev mi_J5_toBytes : Mi := (yJ5_toBytes, cJ5_toBytes, 5, (Option.some (Jvm.ClassFile.FieldType.array Jvm.ClassFile.FieldType.byte)), [])
abbrev mi_J5_newBytesFor : Mi := (yJ5_newBytesFor, cJ5_newBytesFor, 1, (Option.some (Jvm.ClassFile.FieldType.array Jvm.ClassFile.FieldType.byte)), [])
abbrev mi_J5_newBytesLength : Mi := (yJ5_newBytesLength, cJ5_newBytesLength, 1, (Option.some Jvm.ClassFile.FieldType.int), [])
abbrev mi_J5_putChar : Mi := (yJ5_putChar, cJ5_putChar, 3, (Option.none : Option Jvm.ClassFile.FieldType), [])
abbrev mi_J5_length : Mi := (yJ5_length, cJ5_length, 1, (Option.some Jvm.ClassFile.FieldType.int), [])
abbrev mi_J5_getChar : Mi := (yJ5_getChar, cJ5_getChar, 2, (Option.some Jvm.ClassFile.FieldType.char), [])
abbrev mi_J5_compress_3 : Mi := (yJ5_compress_3, cJ5_compress_3, 7, (Option.some Jvm.ClassFile.FieldType.int), [])
abbrev mi_J5_checkBoundsOffCount : Mi := (yJ5_checkBoundsOffCount, cJ5_checkBoundsOffCount, 3, (Option.none : Option Jvm.ClassFile.FieldType), [])
abbrev mi_J5_coderFromArrayLen : Mi := (yJ5_coderFromArrayLen, cJ5_coderFromArrayLen, 2, (Option.some Jvm.ClassFile.FieldType.byte), [])
abbrev mi_J5_hashCode : Mi := (yJ5_hashCode, cJ5_hashCode, 1, (Option.some Jvm.ClassFile.FieldType.int), [])
abbrev mi_J5_charAt : Mi := (yJ5_charAt, cJ5_charAt, 2, (Option.some Jvm.ClassFile.FieldType.char), [])
abbrev mi_J5_checkIndex : Mi := (yJ5_checkIndex, cJ5_checkIndex, 2, (Option.none : Option Jvm.ClassFile.FieldType), [])
abbrev mi_J6_hashCode : Mi := (yJ6_hashCode, cJ6_hashCode, 1, (Option.some Jvm.ClassFile.FieldType.int), [])
abbrev mi_J6_equals : Mi := (yJ6_equals, cJ6_equals, 3, (Option.some Jvm.ClassFile.FieldType.boolean), [])
abbrev mi_J6_charAt : Mi := (yJ6_charAt, cJ6_charAt, 2, (Option.some Jvm.ClassFile.FieldType.char), [])
abbrev mi_J7_vectorizedHashCode : Mi := (yJ7_vectorizedHashCode, cJ7_vectorizedHashCode, 5, (Option.some Jvm.ClassFile.FieldType.int), [])
abbrev mi_J7_signedHashCode : Mi := (yJ7_signedHashCode, cJ7_signedHashCode, 6, (Option.some Jvm.ClassFile.FieldType.int), [])
abbrev mi_J7_utf16hashCode : Mi := (yJ7_utf16hashCode, cJ7_utf16hashCode, 6, (Option.some Jvm.ClassFile.FieldType.int), [])
abbrev mi_J7_hashCode : Mi := (yJ7_hashCode, cJ7_hashCode, 6, (Option.some Jvm.ClassFile.FieldType.int), [])
abbrev mi_J7_hashCode_2 : Mi := (yJ7_hashCode_2, cJ7_hashCode_2, 6, (Option.some Jvm.ClassFile.FieldType.int), [])
abbrev mi_J7_hashCode_3 : Mi := (yJ7_hashCode_3, cJ7_hashCode_3, 6, (Option.some Jvm.ClassFile.FieldType.int), [])
abbrev mi_J7_hashCode_4 : Mi := (yJ7_hashCode_4, cJ7_hashCode_4, 6, (Option.some Jvm.ClassFile.FieldType.int), [])
abbrev mi_J8_max : Mi := (yJ8_max, cJ8_max, 2, (Option.some Jvm.ClassFile.FieldType.int), [])
abbrev mi_J8_min : Mi := (yJ8_min, cJ8_min, 2, (Option.some Jvm.ClassFile.FieldType.int), [])
abbrev mi_J9_init : Mi := (yJ9_init, cJ9_init, 1, (Option.none : Option Jvm.ClassFile.FieldType), [])
abbrev mi_X0_led : Mi := (yX0_led, cX0_led, 4, (Option.some Jvm.ClassFile.FieldType.int), [((0 : Nat), (9 : Nat), (12 : Nat), (13 : Nat))])
abbrev mi_X1_init : Mi := (yX1_init, cX1_init, 1, (Option.none : Option Jvm.ClassFile.FieldType), [])
abbrev mi_X1_feed : Mi := (yX1_feed, cX1_feed, 6, (Option.some Jvm.ClassFile.FieldType.int), [])
abbrev mi_X1_bytes : Mi := (yX1_bytes, cX1_bytes, 3, (Option.none : Option Jvm.ClassFile.FieldType), [])
abbrev mi_X1_valley : Mi := (yX1_valley, cX1_valley, 3, (Option.some Jvm.ClassFile.FieldType.int), [((32 : Nat), (44 : Nat), (47 : Nat), (113 : Nat))])
abbrev mi_X1_anew : Mi := (yX1_anew, cX1_anew, 1, (Option.none : Option Jvm.ClassFile.FieldType), [])
abbrev mi_X1_in : Mi := (yX1_in, cX1_in, 3, (Option.some Jvm.ClassFile.FieldType.boolean), [])
abbrev mi_X1_no : Mi := (yX1_no, cX1_no, 2, (Option.some Jvm.ClassFile.FieldType.int), [])
abbrev mi_X1_lies : Mi := (yX1_lies, cX1_lies, 2, (Option.some Jvm.ClassFile.FieldType.boolean), [])
abbrev mi_X1_without : Mi := (yX1_without, cX1_without, 1, (Option.some Jvm.ClassFile.FieldType.int), [])
abbrev mi_X1_asTold : Mi := (yX1_asTold, cX1_asTold, 3, (Option.none : Option Jvm.ClassFile.FieldType), [])
abbrev mi_X1_fault : Mi := (yX1_fault, cX1_fault, 1, (Option.some Jvm.ClassFile.FieldType.int), [])
abbrev mi_X1_where : Mi := (yX1_where, cX1_where, 1, (Option.some Jvm.ClassFile.FieldType.int), [])
abbrev mi_X1_plain : Mi := (yX1_plain, cX1_plain, 4, (Option.some Jvm.ClassFile.FieldType.int), [])
abbrev mi_X1_isPlace : Mi := (yX1_isPlace, cX1_isPlace, 2, (Option.some Jvm.ClassFile.FieldType.boolean), [])
abbrev mi_X1_isStep : Mi := (yX1_isStep, cX1_isStep, 1, (Option.some Jvm.ClassFile.FieldType.boolean), [])
abbrev mi_X1_sight : Mi := (yX1_sight, cX1_sight, 2, (Option.some (Jvm.ClassFile.FieldType.object "NeverUnseen$Sight")), [])
abbrev mi_X1_sees : Mi := (yX1_sees, cX1_sees, 3, (Option.some Jvm.ClassFile.FieldType.int), [])
abbrev mi_X1_middle : Mi := (yX1_middle, cX1_middle, 5, (Option.some Jvm.ClassFile.FieldType.int), [])
abbrev mi_X1_stepWhy : Mi := (yX1_stepWhy, cX1_stepWhy, 2, (Option.some Jvm.ClassFile.FieldType.int), [])
abbrev mi_X1_eyes : Mi := (yX1_eyes, cX1_eyes, 3, (Option.some Jvm.ClassFile.FieldType.int), [])
abbrev mi_X1_isPerson : Mi := (yX1_isPerson, cX1_isPerson, 2, (Option.some Jvm.ClassFile.FieldType.boolean), [])
abbrev mi_X1_put : Mi := (yX1_put, cX1_put, 3, (Option.some Jvm.ClassFile.FieldType.boolean), [])
abbrev mi_X1_yes : Mi := (yX1_yes, cX1_yes, 2, (Option.some Jvm.ClassFile.FieldType.boolean), [])
abbrev mi_X1_time : Mi := (yX1_time, cX1_time, 2, (Option.some Jvm.ClassFile.FieldType.boolean), [])
abbrev mi_X1_at : Mi := (yX1_at, cX1_at, 2, (Option.some Jvm.ClassFile.FieldType.int), [])
abbrev mi_X1_unseen : Mi := (yX1_unseen, cX1_unseen, 1, (Option.some Jvm.ClassFile.FieldType.int), [])
abbrev mi_X1_watching : Mi := (yX1_watching, cX1_watching, 5, (Option.some Jvm.ClassFile.FieldType.int), [])
abbrev mi_X1_unseenAt : Mi := (yX1_unseenAt, cX1_unseenAt, 6, (Option.some Jvm.ClassFile.FieldType.int), [])
abbrev mi_X1_watchersOf : Mi := (yX1_watchersOf, cX1_watchersOf, 7, (Option.some Jvm.ClassFile.FieldType.int), [])
abbrev mi_X1_lawful : Mi := (yX1_lawful, cX1_lawful, 1, (Option.some Jvm.ClassFile.FieldType.int), [])
abbrev mi_X1_isLawfulAt : Mi := (yX1_isLawfulAt, cX1_isLawfulAt, 3, (Option.some Jvm.ClassFile.FieldType.boolean), [])
abbrev mi_X1_isLawful : Mi := (yX1_isLawful, cX1_isLawful, 8, (Option.some Jvm.ClassFile.FieldType.boolean), [])
abbrev mi_X1_by : Mi := (yX1_by, cX1_by, 2, (Option.some Jvm.ClassFile.FieldType.int), [])
abbrev mi_X1_move : Mi := (yX1_move, cX1_move, 6, (Option.some Jvm.ClassFile.FieldType.boolean), [])
abbrev mi_X1_planned : Mi := (yX1_planned, cX1_planned, 3, (Option.some Jvm.ClassFile.FieldType.int), [])
abbrev mi_X1_judge : Mi := (yX1_judge, cX1_judge, 1, (Option.some Jvm.ClassFile.FieldType.int), [])
abbrev mi_X1_judged : Mi := (yX1_judged, cX1_judged, 3, (Option.some Jvm.ClassFile.FieldType.int), [])
abbrev mi_X1_areWays : Mi := (yX1_areWays, cX1_areWays, 5, (Option.some Jvm.ClassFile.FieldType.boolean), [])
abbrev mi_X1_isDone : Mi := (yX1_isDone, cX1_isDone, 5, (Option.some Jvm.ClassFile.FieldType.boolean), [])
abbrev mi_X1_why : Mi := (yX1_why, cX1_why, 2, (Option.some Jvm.ClassFile.FieldType.int), [])
abbrev mi_X1_done : Mi := (yX1_done, cX1_done, 2, (Option.some Jvm.ClassFile.FieldType.int), [])
abbrev mi_X1_isErrand : Mi := (yX1_isErrand, cX1_isErrand, 2, (Option.some Jvm.ClassFile.FieldType.boolean), [])
abbrev mi_X1_forget : Mi := (yX1_forget, cX1_forget, 1, (Option.some Jvm.ClassFile.FieldType.boolean), [])
abbrev mi_X1_posts : Mi := (yX1_posts, cX1_posts, 5, (Option.some Jvm.ClassFile.FieldType.int), [])
abbrev mi_X1_postsWhy : Mi := (yX1_postsWhy, cX1_postsWhy, 3, (Option.some Jvm.ClassFile.FieldType.int), [])
abbrev mi_X1_postsFor : Mi := (yX1_postsFor, cX1_postsFor, 5, (Option.some Jvm.ClassFile.FieldType.int), [])
abbrev mi_X1_ones : Mi := (yX1_ones, cX1_ones, 3, (Option.some Jvm.ClassFile.FieldType.int), [])
abbrev mi_X1_hold : Mi := (yX1_hold, cX1_hold, 7, (Option.some Jvm.ClassFile.FieldType.boolean), [])
abbrev mi_X1_postsAt : Mi := (yX1_postsAt, cX1_postsAt, 4, (Option.some Jvm.ClassFile.FieldType.int), [])
abbrev mi_X1_go : Mi := (yX1_go, cX1_go, 6, (Option.some Jvm.ClassFile.FieldType.int), [])
abbrev mi_X1_peopleWhy : Mi := (yX1_peopleWhy, cX1_peopleWhy, 3, (Option.some Jvm.ClassFile.FieldType.int), [])
abbrev mi_X1_choose : Mi := (yX1_choose, cX1_choose, 3, (Option.none : Option Jvm.ClassFile.FieldType), [])
abbrev mi_X1_reach : Mi := (yX1_reach, cX1_reach, 4, (Option.none : Option Jvm.ClassFile.FieldType), [])
abbrev mi_X1_nowState : Mi := (yX1_nowState, cX1_nowState, 2, (Option.some Jvm.ClassFile.FieldType.int), [])
abbrev mi_X1_stateOf : Mi := (yX1_stateOf, cX1_stateOf, 4, (Option.some Jvm.ClassFile.FieldType.int), [])
abbrev mi_X1_allIn : Mi := (yX1_allIn, cX1_allIn, 4, (Option.some (Jvm.ClassFile.FieldType.array Jvm.ClassFile.FieldType.int)), [])
abbrev mi_X1_spread : Mi := (yX1_spread, cX1_spread, 3, (Option.none : Option Jvm.ClassFile.FieldType), [])
abbrev mi_X1_places : Mi := (yX1_places, cX1_places, 5, (Option.none : Option Jvm.ClassFile.FieldType), [])
abbrev mi_X1_goesOn : Mi := (yX1_goesOn, cX1_goesOn, 5, (Option.none : Option Jvm.ClassFile.FieldType), [])
abbrev mi_X1_allAt : Mi := (yX1_allAt, cX1_allAt, 3, (Option.some Jvm.ClassFile.FieldType.int), [])
abbrev mi_X1_laysPath : Mi := (yX1_laysPath, cX1_laysPath, 6, (Option.none : Option Jvm.ClassFile.FieldType), [])
abbrev mi_X1_firstHome : Mi := (yX1_firstHome, cX1_firstHome, 6, (Option.some Jvm.ClassFile.FieldType.int), [])
abbrev mi_X1_path : Mi := (yX1_path, cX1_path, 3, (Option.some Jvm.ClassFile.FieldType.int), [])
abbrev mi_X1_doing : Mi := (yX1_doing, cX1_doing, 9, (Option.some Jvm.ClassFile.FieldType.int), [])
abbrev mi_X1_mayStay : Mi := (yX1_mayStay, cX1_mayStay, 6, (Option.some Jvm.ClassFile.FieldType.boolean), [])
abbrev mi_X1_find : Mi := (yX1_find, cX1_find, 5, (Option.some Jvm.ClassFile.FieldType.int), [])
abbrev mi_X1_lookedAt : Mi := (yX1_lookedAt, cX1_lookedAt, 6, (Option.some Jvm.ClassFile.FieldType.int), [])
abbrev mi_X1_isFound : Mi := (yX1_isFound, cX1_isFound, 5, (Option.some Jvm.ClassFile.FieldType.boolean), [])
abbrev mi_X1_further : Mi := (yX1_further, cX1_further, 7, (Option.none : Option Jvm.ClassFile.FieldType), [])
abbrev mi_X1_isAny : Mi := (yX1_isAny, cX1_isAny, 4, (Option.some Jvm.ClassFile.FieldType.boolean), [])
abbrev mi_X1_nextFrom : Mi := (yX1_nextFrom, cX1_nextFrom, 4, (Option.some Jvm.ClassFile.FieldType.int), [])
abbrev mi_X1_leads : Mi := (yX1_leads, cX1_leads, 5, (Option.some Jvm.ClassFile.FieldType.boolean), [])
abbrev mi_X1_sleepers : Mi := (yX1_sleepers, cX1_sleepers, 5, (Option.some Jvm.ClassFile.FieldType.int), [])
abbrev mi_X1_alone : Mi := (yX1_alone, cX1_alone, 4, (Option.some Jvm.ClassFile.FieldType.int), [])
abbrev mi_X1_doFor : Mi := (yX1_doFor, cX1_doFor, 5, (Option.some Jvm.ClassFile.FieldType.boolean), [])
abbrev mi_X1_glass : Mi := (yX1_glass, cX1_glass, 4, (Option.some Jvm.ClassFile.FieldType.int), [])
abbrev mi_X1_pairs : Mi := (yX1_pairs, cX1_pairs, 3, (Option.some Jvm.ClassFile.FieldType.int), [])
abbrev mi_X1_window : Mi := (yX1_window, cX1_window, 3, (Option.some Jvm.ClassFile.FieldType.int), [])
abbrev mi_X1_windowWhy : Mi := (yX1_windowWhy, cX1_windowWhy, 3, (Option.some Jvm.ClassFile.FieldType.int), [])
abbrev mi_X1_bestWindow : Mi := (yX1_bestWindow, cX1_bestWindow, 4, (Option.some Jvm.ClassFile.FieldType.int), [])
abbrev mi_X1_pairsWith : Mi := (yX1_pairsWith, cX1_pairsWith, 3, (Option.some Jvm.ClassFile.FieldType.int), [])
abbrev mi_X1_frees : Mi := (yX1_frees, cX1_frees, 3, (Option.some Jvm.ClassFile.FieldType.int), [])
abbrev mi_X1_tower : Mi := (yX1_tower, cX1_tower, 5, (Option.some Jvm.ClassFile.FieldType.int), [])
abbrev mi_X1_plainFrom : Mi := (yX1_plainFrom, cX1_plainFrom, 5, (Option.some Jvm.ClassFile.FieldType.int), [])
abbrev mi_X1_made : Mi := (yX1_made, cX1_made, 4, (Option.some Jvm.ClassFile.FieldType.int), [])
abbrev mi_X1_madeWhy : Mi := (yX1_madeWhy, cX1_madeWhy, 3, (Option.some Jvm.ClassFile.FieldType.int), [])
abbrev mi_X1_bestWalls : Mi := (yX1_bestWalls, cX1_bestWalls, 6, (Option.some Jvm.ClassFile.FieldType.int), [])
abbrev mi_X1_needs : Mi := (yX1_needs, cX1_needs, 4, (Option.some Jvm.ClassFile.FieldType.int), [])
abbrev mi_X1_fog : Mi := (yX1_fog, cX1_fog, 7, (Option.some Jvm.ClassFile.FieldType.long), [])
abbrev mi_X1_isLawfulIn : Mi := (yX1_isLawfulIn, cX1_isLawfulIn, 4, (Option.some Jvm.ClassFile.FieldType.boolean), [])
abbrev mi_X1_ready : Mi := (yX1_ready, cX1_ready, 3, (Option.some Jvm.ClassFile.FieldType.int), [])
abbrev mi_X1_seed : Mi := (yX1_seed, cX1_seed, 2, (Option.some Jvm.ClassFile.FieldType.boolean), [])
abbrev mi_X1_drift : Mi := (yX1_drift, cX1_drift, 5, (Option.some Jvm.ClassFile.FieldType.int), [])
abbrev mi_X1_neighbour : Mi := (yX1_neighbour, cX1_neighbour, 5, (Option.some Jvm.ClassFile.FieldType.int), [])
abbrev mi_X1_image : Mi := (yX1_image, cX1_image, 4, (Option.some Jvm.ClassFile.FieldType.long), [])
abbrev mi_X1_restore : Mi := (yX1_restore, cX1_restore, 7, (Option.some Jvm.ClassFile.FieldType.boolean), [])
abbrev mi_X1_size : Mi := (yX1_size, cX1_size, 2, (Option.some Jvm.ClassFile.FieldType.int), [])
abbrev mi_X1_trouble : Mi := (yX1_trouble, cX1_trouble, 1, (Option.some Jvm.ClassFile.FieldType.int), [])
abbrev mi_X1_led : Mi := (yX1_led, cX1_led, 5, (Option.some Jvm.ClassFile.FieldType.int), [])
abbrev mi_X10_init : Mi := (yX10_init, cX10_init, 1, (Option.none : Option Jvm.ClassFile.FieldType), [])
abbrev mi_X10_shuts : Mi := (yX10_shuts, cX10_shuts, 2, (Option.some Jvm.ClassFile.FieldType.boolean), [])
abbrev mi_X11_init : Mi := (yX11_init, cX11_init, 2, (Option.none : Option Jvm.ClassFile.FieldType), [])
abbrev mi_X11_shuts : Mi := (yX11_shuts, cX11_shuts, 2, (Option.some Jvm.ClassFile.FieldType.boolean), [])
abbrev mi_X12_init : Mi := (yX12_init, cX12_init, 3, (Option.none : Option Jvm.ClassFile.FieldType), [])
abbrev mi_X12_shuts : Mi := (yX12_shuts, cX12_shuts, 2, (Option.some Jvm.ClassFile.FieldType.boolean), [])
abbrev mi_X13_init : Mi := (yX13_init, cX13_init, 1, (Option.none : Option Jvm.ClassFile.FieldType), [])
abbrev mi_X14_init : Mi := (yX14_init, cX14_init, 1, (Option.none : Option Jvm.ClassFile.FieldType), [])
abbrev mi_X14_find : Mi := (yX14_find, cX14_find, 4, (Option.some Jvm.ClassFile.FieldType.int), [])
abbrev mi_X14_near : Mi := (yX14_near, cX14_near, 4, (Option.some Jvm.ClassFile.FieldType.int), [])
abbrev mi_X2_init : Mi := (yX2_init, cX2_init, 2, (Option.none : Option Jvm.ClassFile.FieldType), [])
abbrev mi_X2_read : Mi := (yX2_read, cX2_read, 2, (Option.some (Jvm.ClassFile.FieldType.object "NeverUnseen$Valley")), [])
abbrev mi_X2_next : Mi := (yX2_next, cX2_next, 3, (Option.none : Option Jvm.ClassFile.FieldType), [])
abbrev mi_X2_see : Mi := (yX2_see, cX2_see, 2, (Option.some Jvm.ClassFile.FieldType.int), [])
abbrev mi_X2_isSmall : Mi := (yX2_isSmall, cX2_isSmall, 1, (Option.some Jvm.ClassFile.FieldType.boolean), [])
abbrev mi_X2_isDigit : Mi := (yX2_isDigit, cX2_isDigit, 1, (Option.some Jvm.ClassFile.FieldType.boolean), [])
abbrev mi_X2_line : Mi := (yX2_line, cX2_line, 3, (Option.none : Option Jvm.ClassFile.FieldType), [])
abbrev mi_X2_fail : Mi := (yX2_fail, cX2_fail, 2, (Option.some (Jvm.ClassFile.FieldType.object "NeverUnseen$Refused")), [])
abbrev mi_X2_law : Mi := (yX2_law, cX2_law, 1, (Option.none : Option Jvm.ClassFile.FieldType), [])
abbrev mi_X2_begins : Mi := (yX2_begins, cX2_begins, 3, (Option.none : Option Jvm.ClassFile.FieldType), [])
abbrev mi_X2_after : Mi := (yX2_after, cX2_after, 4, (Option.some Jvm.ClassFile.FieldType.int), [])
abbrev mi_X2_must : Mi := (yX2_must, cX2_must, 2, (Option.none : Option Jvm.ClassFile.FieldType), [])
abbrev mi_X2_takes : Mi := (yX2_takes, cX2_takes, 2, (Option.some Jvm.ClassFile.FieldType.boolean), [])
abbrev mi_X2_isWord : Mi := (yX2_isWord, cX2_isWord, 2, (Option.some Jvm.ClassFile.FieldType.boolean), [])
abbrev mi_X2_number : Mi := (yX2_number, cX2_number, 4, (Option.some Jvm.ClassFile.FieldType.int), [])
abbrev mi_X2_placeLine : Mi := (yX2_placeLine, cX2_placeLine, 2, (Option.none : Option Jvm.ClassFile.FieldType), [])
abbrev mi_X2_newName : Mi := (yX2_newName, cX2_newName, 2, (Option.some (Jvm.ClassFile.FieldType.object "java/lang/String")), [])
abbrev mi_X2_mustName : Mi := (yX2_mustName, cX2_mustName, 3, (Option.none : Option Jvm.ClassFile.FieldType), [])
abbrev mi_X2_comma : Mi := (yX2_comma, cX2_comma, 1, (Option.none : Option Jvm.ClassFile.FieldType), [])
abbrev mi_X2_wall : Mi := (yX2_wall, cX2_wall, 3, (Option.none : Option Jvm.ClassFile.FieldType), [])
abbrev mi_X2_place : Mi := (yX2_place, cX2_place, 2, (Option.some Jvm.ClassFile.FieldType.int), [])
abbrev mi_X2_placeHere : Mi := (yX2_placeHere, cX2_placeHere, 2, (Option.some Jvm.ClassFile.FieldType.int), [])
abbrev mi_X2_way : Mi := (yX2_way, cX2_way, 3, (Option.none : Option Jvm.ClassFile.FieldType), [])
abbrev mi_X2_mirror : Mi := (yX2_mirror, cX2_mirror, 3, (Option.none : Option Jvm.ClassFile.FieldType), [])
abbrev mi_X2_person : Mi := (yX2_person, cX2_person, 3, (Option.none : Option Jvm.ClassFile.FieldType), [])
abbrev mi_X2_pair : Mi := (yX2_pair, cX2_pair, 5, (Option.none : Option Jvm.ClassFile.FieldType), [])
abbrev mi_X2_personHere : Mi := (yX2_personHere, cX2_personHere, 2, (Option.some (Jvm.ClassFile.FieldType.object "NeverUnseen$Person")), [])
abbrev mi_X2_errand : Mi := (yX2_errand, cX2_errand, 2, (Option.none : Option Jvm.ClassFile.FieldType), [])
abbrev mi_X2_fog : Mi := (yX2_fog, cX2_fog, 3, (Option.none : Option Jvm.ClassFile.FieldType), [])
abbrev mi_X3_init : Mi := (yX3_init, cX3_init, 1, (Option.none : Option Jvm.ClassFile.FieldType), [])
abbrev mi_X3_at : Mi := (yX3_at, cX3_at, 3, (Option.some (Jvm.ClassFile.FieldType.object "NeverUnseen$Refused")), [])
abbrev mi_X4_init : Mi := (yX4_init, cX4_init, 1, (Option.none : Option Jvm.ClassFile.FieldType), [])
abbrev mi_X4_look : Mi := (yX4_look, cX4_look, 8, (Option.none : Option Jvm.ClassFile.FieldType), [])
abbrev mi_X4_sees : Mi := (yX4_sees, cX4_sees, 2, (Option.some Jvm.ClassFile.FieldType.int), [])
abbrev mi_X4_pairs : Mi := (yX4_pairs, cX4_pairs, 4, (Option.some Jvm.ClassFile.FieldType.int), [])
abbrev mi_X5_init : Mi := (yX5_init, cX5_init, 1, (Option.none : Option Jvm.ClassFile.FieldType), [])
abbrev mi_X5_thrown : Mi := (yX5_thrown, cX5_thrown, 1, (Option.some Jvm.ClassFile.FieldType.int), [])
abbrev mi_X5_feed : Mi := (yX5_feed, cX5_feed, 8, (Option.some Jvm.ClassFile.FieldType.int), [])
abbrev mi_X5_valley : Mi := (yX5_valley, cX5_valley, 3, (Option.some Jvm.ClassFile.FieldType.int), [])
abbrev mi_X5_refused : Mi := (yX5_refused, cX5_refused, 2, (Option.some Jvm.ClassFile.FieldType.int), [])
abbrev mi_X5_goesOn : Mi := (yX5_goesOn, cX5_goesOn, 3, (Option.none : Option Jvm.ClassFile.FieldType), [])
abbrev mi_X5_byteAt : Mi := (yX5_byteAt, cX5_byteAt, 2, (Option.some Jvm.ClassFile.FieldType.int), [])
abbrev mi_X5_isLetter : Mi := (yX5_isLetter, cX5_isLetter, 1, (Option.some Jvm.ClassFile.FieldType.boolean), [])
abbrev mi_X5_isDigit : Mi := (yX5_isDigit, cX5_isDigit, 1, (Option.some Jvm.ClassFile.FieldType.boolean), [])
abbrev mi_X5_readValley : Mi := (yX5_readValley, cX5_readValley, 2, (Option.none : Option Jvm.ClassFile.FieldType), [])
abbrev mi_X5_readLine : Mi := (yX5_readLine, cX5_readLine, 1, (Option.none : Option Jvm.ClassFile.FieldType), [])
abbrev mi_X5_isWord : Mi := (yX5_isWord, cX5_isWord, 2, (Option.some Jvm.ClassFile.FieldType.boolean), [])
abbrev mi_X5_wordOf : Mi := (yX5_wordOf, cX5_wordOf, 4, (Option.some Jvm.ClassFile.FieldType.long), [])
abbrev mi_X5_readLaw : Mi := (yX5_readLaw, cX5_readLaw, 1, (Option.none : Option Jvm.ClassFile.FieldType), [])
abbrev mi_X5_wrong : Mi := (yX5_wrong, cX5_wrong, 2, (Option.none : Option Jvm.ClassFile.FieldType), [])
abbrev mi_X5_readPart : Mi := (yX5_readPart, cX5_readPart, 4, (Option.some Jvm.ClassFile.FieldType.int), [])
abbrev mi_X5_must : Mi := (yX5_must, cX5_must, 2, (Option.none : Option Jvm.ClassFile.FieldType), [])
abbrev mi_X5_readWhole : Mi := (yX5_readWhole, cX5_readWhole, 4, (Option.some Jvm.ClassFile.FieldType.int), [])
abbrev mi_X5_in : Mi := (yX5_in, cX5_in, 3, (Option.some Jvm.ClassFile.FieldType.boolean), [])
abbrev mi_X5_readPlace : Mi := (yX5_readPlace, cX5_readPlace, 3, (Option.none : Option Jvm.ClassFile.FieldType), [])
abbrev mi_X5_begins : Mi := (yX5_begins, cX5_begins, 3, (Option.none : Option Jvm.ClassFile.FieldType), [])
abbrev mi_X5_readFresh : Mi := (yX5_readFresh, cX5_readFresh, 3, (Option.none : Option Jvm.ClassFile.FieldType), [])
abbrev mi_X5_isName : Mi := (yX5_isName, cX5_isName, 1, (Option.some Jvm.ClassFile.FieldType.boolean), [])
abbrev mi_X5_needsSign : Mi := (yX5_needsSign, cX5_needsSign, 2, (Option.none : Option Jvm.ClassFile.FieldType), [])
abbrev mi_X5_readWall : Mi := (yX5_readWall, cX5_readWall, 2, (Option.none : Option Jvm.ClassFile.FieldType), [])
abbrev mi_X5_readTwo : Mi := (yX5_readTwo, cX5_readTwo, 8, (Option.some Jvm.ClassFile.FieldType.int), [])
abbrev mi_X5_readKnown : Mi := (yX5_readKnown, cX5_readKnown, 3, (Option.some Jvm.ClassFile.FieldType.int), [])
abbrev mi_X5_known : Mi := (yX5_known, cX5_known, 3, (Option.some Jvm.ClassFile.FieldType.int), [])
abbrev mi_X5_readWay : Mi := (yX5_readWay, cX5_readWay, 2, (Option.none : Option Jvm.ClassFile.FieldType), [])
abbrev mi_X5_readMirror : Mi := (yX5_readMirror, cX5_readMirror, 2, (Option.none : Option Jvm.ClassFile.FieldType), [])
abbrev mi_X5_readOther : Mi := (yX5_readOther, cX5_readOther, 5, (Option.some Jvm.ClassFile.FieldType.int), [])
abbrev mi_X5_readPerson : Mi := (yX5_readPerson, cX5_readPerson, 7, (Option.none : Option Jvm.ClassFile.FieldType), [])
abbrev mi_X5_eatsWord : Mi := (yX5_eatsWord, cX5_eatsWord, 3, (Option.some Jvm.ClassFile.FieldType.boolean), [])
abbrev mi_X5_readPair : Mi := (yX5_readPair, cX5_readPair, 2, (Option.none : Option Jvm.ClassFile.FieldType), [])
abbrev mi_X5_readErrand : Mi := (yX5_readErrand, cX5_readErrand, 6, (Option.none : Option Jvm.ClassFile.FieldType), [])
abbrev mi_X5_readFog : Mi := (yX5_readFog, cX5_readFog, 3, (Option.none : Option Jvm.ClassFile.FieldType), [])
abbrev mi_X5_eatsSign : Mi := (yX5_eatsSign, cX5_eatsSign, 3, (Option.some Jvm.ClassFile.FieldType.boolean), [])
abbrev mi_X5_forgets : Mi := (yX5_forgets, cX5_forgets, 3, (Option.none : Option Jvm.ClassFile.FieldType), [])
abbrev mi_X5_told : Mi := (yX5_told, cX5_told, 3, (Option.some Jvm.ClassFile.FieldType.int), [])
abbrev mi_X5_fault : Mi := (yX5_fault, cX5_fault, 1, (Option.some Jvm.ClassFile.FieldType.int), [])
abbrev mi_X5_where : Mi := (yX5_where, cX5_where, 1, (Option.some Jvm.ClassFile.FieldType.int), [])
abbrev mi_X5_plain : Mi := (yX5_plain, cX5_plain, 4, (Option.some Jvm.ClassFile.FieldType.int), [])
abbrev mi_X5_isPlace : Mi := (yX5_isPlace, cX5_isPlace, 2, (Option.some Jvm.ClassFile.FieldType.boolean), [])
abbrev mi_X5_isStep : Mi := (yX5_isStep, cX5_isStep, 1, (Option.some Jvm.ClassFile.FieldType.boolean), [])
abbrev mi_X5_rangeIn : Mi := (yX5_rangeIn, cX5_rangeIn, 2, (Option.some Jvm.ClassFile.FieldType.int), [])
abbrev mi_X5_isPlain : Mi := (yX5_isPlain, cX5_isPlain, 8, (Option.some Jvm.ClassFile.FieldType.boolean), [])
abbrev mi_X5_has : Mi := (yX5_has, cX5_has, 2, (Option.some Jvm.ClassFile.FieldType.boolean), [])
abbrev mi_X5_sees : Mi := (yX5_sees, cX5_sees, 3, (Option.some Jvm.ClassFile.FieldType.int), [])
abbrev mi_X5_seenFrom : Mi := (yX5_seenFrom, cX5_seenFrom, 7, (Option.some Jvm.ClassFile.FieldType.int), [])
abbrev mi_X5_middle : Mi := (yX5_middle, cX5_middle, 5, (Option.some Jvm.ClassFile.FieldType.int), [])
abbrev mi_X5_refusesSteps : Mi := (yX5_refusesSteps, cX5_refusesSteps, 2, (Option.some Jvm.ClassFile.FieldType.int), [])
abbrev mi_X5_eyes : Mi := (yX5_eyes, cX5_eyes, 3, (Option.some Jvm.ClassFile.FieldType.int), [])
abbrev mi_X5_isPerson : Mi := (yX5_isPerson, cX5_isPerson, 2, (Option.some Jvm.ClassFile.FieldType.boolean), [])
abbrev mi_X5_hasEyes : Mi := (yX5_hasEyes, cX5_hasEyes, 5, (Option.some Jvm.ClassFile.FieldType.boolean), [])
abbrev mi_X5_put : Mi := (yX5_put, cX5_put, 3, (Option.some Jvm.ClassFile.FieldType.boolean), [])
abbrev mi_X5_denied : Mi := (yX5_denied, cX5_denied, 2, (Option.some Jvm.ClassFile.FieldType.boolean), [])
abbrev mi_X5_granted : Mi := (yX5_granted, cX5_granted, 1, (Option.some Jvm.ClassFile.FieldType.boolean), [])
abbrev mi_X5_time : Mi := (yX5_time, cX5_time, 2, (Option.some Jvm.ClassFile.FieldType.boolean), [])
abbrev mi_X5_at : Mi := (yX5_at, cX5_at, 2, (Option.some Jvm.ClassFile.FieldType.int), [])
abbrev mi_X5_unseen : Mi := (yX5_unseen, cX5_unseen, 1, (Option.some Jvm.ClassFile.FieldType.int), [])
abbrev mi_X5_unseenNow : Mi := (yX5_unseenNow, cX5_unseenNow, 3, (Option.some Jvm.ClassFile.FieldType.int), [])
abbrev mi_X5_seeing : Mi := (yX5_seeing, cX5_seeing, 8, (Option.some Jvm.ClassFile.FieldType.int), [])
abbrev mi_X5_lawful : Mi := (yX5_lawful, cX5_lawful, 1, (Option.some Jvm.ClassFile.FieldType.int), [])
abbrev mi_X5_isLawfulNow : Mi := (yX5_isLawfulNow, cX5_isLawfulNow, 1, (Option.some Jvm.ClassFile.FieldType.boolean), [])
abbrev mi_X5_isLawful : Mi := (yX5_isLawful, cX5_isLawful, 7, (Option.some Jvm.ClassFile.FieldType.boolean), [])
abbrev mi_X5_by : Mi := (yX5_by, cX5_by, 2, (Option.some Jvm.ClassFile.FieldType.int), [])
abbrev mi_X5_move : Mi := (yX5_move, cX5_move, 5, (Option.some Jvm.ClassFile.FieldType.boolean), [])
abbrev mi_X5_planned : Mi := (yX5_planned, cX5_planned, 3, (Option.some Jvm.ClassFile.FieldType.int), [])
abbrev mi_X5_judge : Mi := (yX5_judge, cX5_judge, 1, (Option.some Jvm.ClassFile.FieldType.int), [])
abbrev mi_X5_judged : Mi := (yX5_judged, cX5_judged, 5, (Option.some Jvm.ClassFile.FieldType.int), [])
abbrev mi_X5_isPlanDone : Mi := (yX5_isPlanDone, cX5_isPlanDone, 4, (Option.some Jvm.ClassFile.FieldType.boolean), [])
abbrev mi_X5_why : Mi := (yX5_why, cX5_why, 1, (Option.some Jvm.ClassFile.FieldType.int), [])
abbrev mi_X5_done : Mi := (yX5_done, cX5_done, 2, (Option.some Jvm.ClassFile.FieldType.int), [])
abbrev mi_X5_forget : Mi := (yX5_forget, cX5_forget, 1, (Option.some Jvm.ClassFile.FieldType.boolean), [])
abbrev mi_X5_posts : Mi := (yX5_posts, cX5_posts, 5, (Option.some Jvm.ClassFile.FieldType.int), [])
abbrev mi_X5_refusesPosts : Mi := (yX5_refusesPosts, cX5_refusesPosts, 3, (Option.some Jvm.ClassFile.FieldType.int), [])
abbrev mi_X5_postsFor : Mi := (yX5_postsFor, cX5_postsFor, 8, (Option.some Jvm.ClassFile.FieldType.int), [])
abbrev mi_X5_bits : Mi := (yX5_bits, cX5_bits, 3, (Option.some Jvm.ClassFile.FieldType.int), [])
abbrev mi_X5_postsAt : Mi := (yX5_postsAt, cX5_postsAt, 4, (Option.some Jvm.ClassFile.FieldType.int), [])
abbrev mi_X5_go : Mi := (yX5_go, cX5_go, 5, (Option.some Jvm.ClassFile.FieldType.int), [])
abbrev mi_X5_isMovers : Mi := (yX5_isMovers, cX5_isMovers, 3, (Option.some Jvm.ClassFile.FieldType.boolean), [])
abbrev mi_X5_takesMovers : Mi := (yX5_takesMovers, cX5_takesMovers, 3, (Option.none : Option Jvm.ClassFile.FieldType), [])
abbrev mi_X5_allAt : Mi := (yX5_allAt, cX5_allAt, 4, (Option.some Jvm.ClassFile.FieldType.int), [])
abbrev mi_X5_sets : Mi := (yX5_sets, cX5_sets, 2, (Option.none : Option Jvm.ClassFile.FieldType), [])
abbrev mi_X5_stateNow : Mi := (yX5_stateNow, cX5_stateNow, 3, (Option.some Jvm.ClassFile.FieldType.int), [])
abbrev mi_X5_keepsPath : Mi := (yX5_keepsPath, cX5_keepsPath, 8, (Option.none : Option Jvm.ClassFile.FieldType), [])
abbrev mi_X5_traces : Mi := (yX5_traces, cX5_traces, 7, (Option.none : Option Jvm.ClassFile.FieldType), [])
abbrev mi_X5_leads : Mi := (yX5_leads, cX5_leads, 4, (Option.some Jvm.ClassFile.FieldType.int), [])
abbrev mi_X5_isState : Mi := (yX5_isState, cX5_isState, 3, (Option.some Jvm.ClassFile.FieldType.boolean), [])
abbrev mi_X5_placeIn : Mi := (yX5_placeIn, cX5_placeIn, 5, (Option.some Jvm.ClassFile.FieldType.int), [])
abbrev mi_X5_isStepTo : Mi := (yX5_isStepTo, cX5_isStepTo, 6, (Option.some Jvm.ClassFile.FieldType.boolean), [])
abbrev mi_X5_spreads : Mi := (yX5_spreads, cX5_spreads, 5, (Option.none : Option Jvm.ClassFile.FieldType), [])
abbrev mi_X5_isLawfulState : Mi := (yX5_isLawfulState, cX5_isLawfulState, 4, (Option.some Jvm.ClassFile.FieldType.boolean), [])
abbrev mi_X5_path : Mi := (yX5_path, cX5_path, 3, (Option.some Jvm.ClassFile.FieldType.int), [])
abbrev mi_X5_doing : Mi := (yX5_doing, cX5_doing, 9, (Option.some Jvm.ClassFile.FieldType.int), [])
abbrev mi_X5_stays : Mi := (yX5_stays, cX5_stays, 5, (Option.some Jvm.ClassFile.FieldType.boolean), [])
abbrev mi_X5_find : Mi := (yX5_find, cX5_find, 5, (Option.some Jvm.ClassFile.FieldType.int), [])
abbrev mi_X5_seenBy : Mi := (yX5_seenBy, cX5_seenBy, 5, (Option.some Jvm.ClassFile.FieldType.int), [])
abbrev mi_X5_looksOn : Mi := (yX5_looksOn, cX5_looksOn, 8, (Option.none : Option Jvm.ClassFile.FieldType), [])
abbrev mi_X5_sleepers : Mi := (yX5_sleepers, cX5_sleepers, 5, (Option.some Jvm.ClassFile.FieldType.int), [])
abbrev mi_X5_alone : Mi := (yX5_alone, cX5_alone, 4, (Option.some Jvm.ClassFile.FieldType.int), [])
abbrev mi_X5_glassOf : Mi := (yX5_glassOf, cX5_glassOf, 4, (Option.some Jvm.ClassFile.FieldType.int), [])
abbrev mi_X5_isKept : Mi := (yX5_isKept, cX5_isKept, 5, (Option.some Jvm.ClassFile.FieldType.boolean), [])
abbrev mi_X5_glass : Mi := (yX5_glass, cX5_glass, 2, (Option.some Jvm.ClassFile.FieldType.int), [])
abbrev mi_X5_pairs : Mi := (yX5_pairs, cX5_pairs, 3, (Option.some Jvm.ClassFile.FieldType.int), [])
abbrev mi_X5_pairsIn : Mi := (yX5_pairsIn, cX5_pairsIn, 4, (Option.some Jvm.ClassFile.FieldType.int), [])
abbrev mi_X5_window : Mi := (yX5_window, cX5_window, 3, (Option.some Jvm.ClassFile.FieldType.int), [])
abbrev mi_X5_refusesWindow : Mi := (yX5_refusesWindow, cX5_refusesWindow, 3, (Option.some Jvm.ClassFile.FieldType.int), [])
abbrev mi_X5_windowIn : Mi := (yX5_windowIn, cX5_windowIn, 4, (Option.some Jvm.ClassFile.FieldType.int), [])
abbrev mi_X5_pairsWithout : Mi := (yX5_pairsWithout, cX5_pairsWithout, 4, (Option.some Jvm.ClassFile.FieldType.int), [])
abbrev mi_X5_frees : Mi := (yX5_frees, cX5_frees, 3, (Option.some Jvm.ClassFile.FieldType.int), [])
abbrev mi_X5_tower : Mi := (yX5_tower, cX5_tower, 5, (Option.some Jvm.ClassFile.FieldType.int), [])
abbrev mi_X5_plainTo : Mi := (yX5_plainTo, cX5_plainTo, 5, (Option.some Jvm.ClassFile.FieldType.int), [])
abbrev mi_X5_made : Mi := (yX5_made, cX5_made, 4, (Option.some Jvm.ClassFile.FieldType.int), [])
abbrev mi_X5_refusesMade : Mi := (yX5_refusesMade, cX5_refusesMade, 3, (Option.some Jvm.ClassFile.FieldType.int), [])
abbrev mi_X5_madeOf : Mi := (yX5_madeOf, cX5_madeOf, 6, (Option.some Jvm.ClassFile.FieldType.int), [])
abbrev mi_X5_postsWithout : Mi := (yX5_postsWithout, cX5_postsWithout, 4, (Option.some Jvm.ClassFile.FieldType.int), [])
abbrev mi_X5_needs : Mi := (yX5_needs, cX5_needs, 4, (Option.some Jvm.ClassFile.FieldType.int), [])
abbrev mi_X5_fog : Mi := (yX5_fog, cX5_fog, 7, (Option.some Jvm.ClassFile.FieldType.long), [])
abbrev mi_X5_isLawfulIn : Mi := (yX5_isLawfulIn, cX5_isLawfulIn, 3, (Option.some Jvm.ClassFile.FieldType.boolean), [])
abbrev mi_X5_ready : Mi := (yX5_ready, cX5_ready, 3, (Option.some Jvm.ClassFile.FieldType.int), [])
abbrev mi_X5_seed : Mi := (yX5_seed, cX5_seed, 2, (Option.some Jvm.ClassFile.FieldType.boolean), [])
abbrev mi_X5_drift : Mi := (yX5_drift, cX5_drift, 8, (Option.some Jvm.ClassFile.FieldType.int), [])
abbrev mi_X5_drawn : Mi := (yX5_drawn, cX5_drawn, 2, (Option.some Jvm.ClassFile.FieldType.int), [])
abbrev mi_X5_image : Mi := (yX5_image, cX5_image, 4, (Option.some Jvm.ClassFile.FieldType.long), [])
abbrev mi_X5_restore : Mi := (yX5_restore, cX5_restore, 7, (Option.some Jvm.ClassFile.FieldType.boolean), [])
abbrev mi_X5_led : Mi := (yX5_led, cX5_led, 4, (Option.some Jvm.ClassFile.FieldType.int), [])
abbrev mi_X5_size : Mi := (yX5_size, cX5_size, 2, (Option.some Jvm.ClassFile.FieldType.int), [])
abbrev mi_X5_trouble : Mi := (yX5_trouble, cX5_trouble, 1, (Option.some Jvm.ClassFile.FieldType.int), [])
abbrev mi_X6_init : Mi := (yX6_init, cX6_init, 1, (Option.none : Option Jvm.ClassFile.FieldType), [])
abbrev mi_X6_find : Mi := (yX6_find, cX6_find, 3, (Option.some (Jvm.ClassFile.FieldType.object "NeverUnseen$Named")), [])
abbrev mi_X6_among : Mi := (yX6_among, cX6_among, 4, (Option.some (Jvm.ClassFile.FieldType.object "NeverUnseen$Named")), [])
abbrev mi_X6_isWalled : Mi := (yX6_isWalled, cX6_isWalled, 6, (Option.some Jvm.ClassFile.FieldType.boolean), [])
abbrev mi_X6_areLinked : Mi := (yX6_areLinked, cX6_areLinked, 3, (Option.some Jvm.ClassFile.FieldType.boolean), [])
abbrev mi_X6_far : Mi := (yX6_far, cX6_far, 3, (Option.some Jvm.ClassFile.FieldType.int), [])
abbrev mi_X6_isNight : Mi := (yX6_isNight, cX6_isNight, 2, (Option.some Jvm.ClassFile.FieldType.boolean), [])
abbrev mi_X6_all : Mi := (yX6_all, cX6_all, 1, (Option.some Jvm.ClassFile.FieldType.int), [])
abbrev mi_X6_range : Mi := (yX6_range, cX6_range, 2, (Option.some Jvm.ClassFile.FieldType.int), [])
abbrev mi_X7_init : Mi := (yX7_init, cX7_init, 3, (Option.none : Option Jvm.ClassFile.FieldType), [])
abbrev mi_X8_init : Mi := (yX8_init, cX8_init, 3, (Option.none : Option Jvm.ClassFile.FieldType), [])
abbrev mi_X9_init : Mi := (yX9_init, cX9_init, 3, (Option.none : Option Jvm.ClassFile.FieldType), [])
abbrev mi_X9_has : Mi := (yX9_has, cX9_has, 2, (Option.none : Option Jvm.ClassFile.FieldType), [])
abbrev mi_X9_watches : Mi := (yX9_watches, cX9_watches, 4, (Option.some Jvm.ClassFile.FieldType.boolean), [])
theorem lk_J11_185 : GoodIn lw_all (va_wsS "java/lang/System$2" 185 yJ5_getChar (ws_ yJ5_getChar cJ5_getChar 2 ((Option.some Jvm.ClassFile.FieldType.char)))) := lw_S q689 q614 q163 q615
theorem lk_J3_30 : GoodIn lw_all (va_wsS "java/lang/String" 30 yJ3_rangeCheck (ws_ yJ3_rangeCheck cJ3_rangeCheck 3 ((Option.some (Jvm.ClassFile.FieldType.object "java/lang/Void"))))) := lw_S q567 q568 q161 q569
theorem lk_J3_34 : GoodIn lw_all (va_wsS "java/lang/String" 34 yJ3_checkBoundsOffCount (ws_ yJ3_checkBoundsOffCount cJ3_checkBoundsOffCount 3 ((Option.some Jvm.ClassFile.FieldType.int)))) := lw_S q570 q571 q161 q572
theorem lk_J3_1065 : GoodIn lw_all (va_wsS "java/lang/String" 1065 yJ4_checkFromIndexSize (ws_ yJ4_checkFromIndexSize cJ4_checkFromIndexSize 4 ((Option.some Jvm.ClassFile.FieldType.int)))) := lw_S q575 q576 q162 q577
theorem lk_J3_177 : GoodIn lw_all (va_wsS "java/lang/String" 177 yJ5_compress (ws_ yJ5_compress cJ5_compress 6 ((Option.some (Jvm.ClassFile.FieldType.array Jvm.ClassFile.FieldType.byte))))) := lw_S q585 q586 q163 q587
theorem lk_J3_47 : GoodIn lw_all (va_wsS "java/lang/String" 47 yJ5_coderFromArrayLen (ws_ yJ5_coderFromArrayLen cJ5_coderFromArrayLen 2 ((Option.some Jvm.ClassFile.FieldType.byte)))) := lw_S q623 q624 q163 q625
theorem lk_J3_180 : GoodIn lw_all (va_wsS "java/lang/String" 180 yJ5_toBytes (ws_ yJ5_toBytes cJ5_toBytes 5 ((Option.some (Jvm.ClassFile.FieldType.array Jvm.ClassFile.FieldType.byte))))) := lw_S q626 q592 q163 q593
theorem lk_J3_492 : GoodIn lw_all (wsV "java/lang/String" 492 "java/lang/String" yJ3_isLatin1 (ws_ yJ3_isLatin1 cJ3_isLatin1 1 ((Option.some Jvm.ClassFile.FieldType.boolean)))) := lw_V q660 q661 q662 q161 q663
theorem lk_J3_628 : GoodIn lw_all (va_wsS "java/lang/String" 628 yJ6_hashCode (ws_ yJ6_hashCode cJ6_hashCode 1 ((Option.some Jvm.ClassFile.FieldType.int)))) := lw_S q664 q665 q164 q666
theorem lk_J3_632 : GoodIn lw_all (va_wsS "java/lang/String" 632 yJ5_hashCode (ws_ yJ5_hashCode cJ5_hashCode 1 ((Option.some Jvm.ClassFile.FieldType.int)))) := lw_S q705 q706 q163 q707
theorem lk_J3_541 : GoodIn lw_all (va_wsS "java/lang/String" 541 yJ6_equals (ws_ yJ6_equals cJ6_equals 3 ((Option.some Jvm.ClassFile.FieldType.boolean)))) := lw_S q715 q716 q164 q717
theorem lk_J3_335 : GoodIn lw_all (wsV "java/lang/String" 335 "java/lang/String" yJ3_coder (ws_ yJ3_coder cJ3_coder 1 ((Option.some Jvm.ClassFile.FieldType.byte)))) := lw_V q1745 q1746 q1747 q161 q1748
theorem lk_J3_495 : GoodIn lw_all (va_wsS "java/lang/String" 495 yJ6_charAt (ws_ yJ6_charAt cJ6_charAt 2 ((Option.some Jvm.ClassFile.FieldType.char)))) := lw_S q1753 q1754 q164 q1755
theorem lk_J3_1059 : GoodIn lw_all (va_wsS "java/lang/String" 1059 yJ4_checkIndex (ws_ yJ4_checkIndex cJ4_checkIndex 3 ((Option.some Jvm.ClassFile.FieldType.int)))) := lw_S q1759 q1760 q162 q1761
theorem lk_J3_498 : GoodIn lw_all (va_wsS "java/lang/String" 498 yJ5_charAt (ws_ yJ5_charAt cJ5_charAt 2 ((Option.some Jvm.ClassFile.FieldType.char)))) := lw_S q1762 q1763 q163 q1764
theorem lk_J5_115 : GoodIn lw_all (va_wsS "java/lang/StringUTF16" 115 yJ5_compress_2 (ws_ yJ5_compress_2 cJ5_compress_2 7 ((Option.some Jvm.ClassFile.FieldType.int)))) := lw_S q588 q589 q163 q590
theorem lk_J5_119 : GoodIn lw_all (va_wsS "java/lang/StringUTF16" 119 yJ5_toBytes (ws_ yJ5_toBytes cJ5_toBytes 5 ((Option.some (Jvm.ClassFile.FieldType.array Jvm.ClassFile.FieldType.byte))))) := lw_S q591 q592 q163 q593
theorem lk_J5_107 : GoodIn lw_all (va_wsS "java/lang/StringUTF16" 107 yJ5_newBytesFor (ws_ yJ5_newBytesFor cJ5_newBytesFor 1 ((Option.some (Jvm.ClassFile.FieldType.array Jvm.ClassFile.FieldType.byte))))) := lw_S q594 q595 q163 q596
theorem lk_J5_11 : GoodIn lw_all (va_wsS "java/lang/StringUTF16" 11 yJ5_newBytesLength (ws_ yJ5_newBytesLength cJ5_newBytesLength 1 ((Option.some Jvm.ClassFile.FieldType.int)))) := lw_S q597 q598 q163 q599
theorem lk_J5_111 : GoodIn lw_all (va_wsS "java/lang/StringUTF16" 111 yJ5_putChar (ws_ yJ5_putChar cJ5_putChar 3 ((Option.none : Option Jvm.ClassFile.FieldType)))) := lw_S q601 q602 q163 q603
theorem lk_J5_48 : GoodIn lw_all (va_wsS "java/lang/StringUTF16" 48 yJ5_length (ws_ yJ5_length cJ5_length 1 ((Option.some Jvm.ClassFile.FieldType.int)))) := lw_S q606 q607 q163 q608
theorem lk_J5_71 : GoodIn lw_all (va_wsS "java/lang/StringUTF16" 71 yJ5_getChar (ws_ yJ5_getChar cJ5_getChar 2 ((Option.some Jvm.ClassFile.FieldType.char)))) := lw_S q613 q614 q163 q615
theorem lk_J5_123 : GoodIn lw_all (va_wsS "java/lang/StringUTF16" 123 yJ5_compress_3 (ws_ yJ5_compress_3 cJ5_compress_3 7 ((Option.some Jvm.ClassFile.FieldType.int)))) := lw_S q616 q617 q163 q618
theorem lk_J5_173 : GoodIn lw_all (va_wsS "java/lang/StringUTF16" 173 yJ5_checkBoundsOffCount (ws_ yJ5_checkBoundsOffCount cJ5_checkBoundsOffCount 3 ((Option.none : Option Jvm.ClassFile.FieldType)))) := lw_S q619 q620 q163 q621
theorem lk_J5_419 : GoodIn lw_all (va_wsS "java/lang/StringUTF16" 419 yJ3_checkBoundsOffCount (ws_ yJ3_checkBoundsOffCount cJ3_checkBoundsOffCount 3 ((Option.some Jvm.ClassFile.FieldType.int)))) := lw_S q622 q571 q161 q572
theorem lk_J5_220 : GoodIn lw_all (va_wsS "java/lang/StringUTF16" 220 yJ7_vectorizedHashCode (ws_ yJ7_vectorizedHashCode cJ7_vectorizedHashCode 5 ((Option.some Jvm.ClassFile.FieldType.int)))) := lw_S q708 q668 q165 q669
theorem lk_J5_67 : GoodIn lw_all (va_wsS "java/lang/StringUTF16" 67 yJ5_checkIndex (ws_ yJ5_checkIndex cJ5_checkIndex 2 ((Option.none : Option Jvm.ClassFile.FieldType)))) := lw_S q1765 q1766 q163 q1767
theorem lk_J5_414 : GoodIn lw_all (va_wsS "java/lang/StringUTF16" 414 yJ3_checkIndex (ws_ yJ3_checkIndex cJ3_checkIndex 2 ((Option.none : Option Jvm.ClassFile.FieldType)))) := lw_S q1768 q1757 q161 q1758
theorem lk_J6_84 : GoodIn lw_all (va_wsS "java/lang/StringLatin1" 84 yJ7_vectorizedHashCode (ws_ yJ7_vectorizedHashCode cJ7_vectorizedHashCode 5 ((Option.some Jvm.ClassFile.FieldType.int)))) := lw_S q667 q668 q165 q669
theorem lk_J6_9 : GoodIn lw_all (va_wsS "java/lang/StringLatin1" 9 yJ3_checkIndex (ws_ yJ3_checkIndex cJ3_checkIndex 2 ((Option.none : Option Jvm.ClassFile.FieldType)))) := lw_S q1756 q1757 q161 q1758
theorem lk_J7_62 : GoodIn lw_all (va_wsS "jdk/internal/util/ArraysSupport" 62 yJ7_signedHashCode (ws_ yJ7_signedHashCode cJ7_signedHashCode 6 ((Option.some Jvm.ClassFile.FieldType.int)))) := lw_S q671 q672 q165 q673
theorem lk_J7_66 : GoodIn lw_all (va_wsS "jdk/internal/util/ArraysSupport" 66 yJ7_utf16hashCode (ws_ yJ7_utf16hashCode cJ7_utf16hashCode 6 ((Option.some Jvm.ClassFile.FieldType.int)))) := lw_S q674 q675 q165 q676
theorem lk_J7_71 : GoodIn lw_all (va_wsS "jdk/internal/util/ArraysSupport" 71 yJ7_hashCode (ws_ yJ7_hashCode cJ7_hashCode 6 ((Option.some Jvm.ClassFile.FieldType.int)))) := lw_S q691 q692 q165 q693
theorem lk_J7_75 : GoodIn lw_all (va_wsS "jdk/internal/util/ArraysSupport" 75 yJ7_hashCode_2 (ws_ yJ7_hashCode_2 cJ7_hashCode_2 6 ((Option.some Jvm.ClassFile.FieldType.int)))) := lw_S q694 q695 q165 q696
theorem lk_J7_79 : GoodIn lw_all (va_wsS "jdk/internal/util/ArraysSupport" 79 yJ7_hashCode_3 (ws_ yJ7_hashCode_3 cJ7_hashCode_3 6 ((Option.some Jvm.ClassFile.FieldType.int)))) := lw_S q698 q699 q165 q700
theorem lk_J7_84 : GoodIn lw_all (va_wsS "jdk/internal/util/ArraysSupport" 84 yJ7_hashCode_4 (ws_ yJ7_hashCode_4 cJ7_hashCode_4 6 ((Option.some Jvm.ClassFile.FieldType.int)))) := lw_S q702 q703 q165 q704
theorem lk_X0_19 : GoodIn lw_all (wsV "NeverUnseenLaw" 19 "NeverUnseen" yX1_feed (ws_ yX1_feed cX1_feed 6 ((Option.some Jvm.ClassFile.FieldType.int)))) := lw_V q402 q403 q404 q152 q405
theorem lk_X0_24 : GoodIn lw_all (wsV "NeverUnseenLaw" 24 "NeverUnseen" yX1_valley (wsW_ yX1_valley cX1_valley 3 (Option.some Jvm.ClassFile.FieldType.int) [((32 : Nat), (44 : Nat), (47 : Nat), (113 : Nat))])) := lw_VW q410 q411 q412 q152 q413
theorem lk_X0_28 : GoodIn lw_all (wsV "NeverUnseenLaw" 28 "NeverUnseen" yX1_fault (ws_ yX1_fault cX1_fault 1 ((Option.some Jvm.ClassFile.FieldType.int)))) := lw_V q976 q977 q978 q152 q979
theorem lk_X0_33 : GoodIn lw_all (wsV "NeverUnseenLaw" 33 "NeverUnseen" yX1_where (ws_ yX1_where cX1_where 1 ((Option.some Jvm.ClassFile.FieldType.int)))) := lw_V q980 q981 q982 q152 q983
theorem lk_X0_37 : GoodIn lw_all (wsV "NeverUnseenLaw" 37 "NeverUnseen" yX1_plain (ws_ yX1_plain cX1_plain 4 ((Option.some Jvm.ClassFile.FieldType.int)))) := lw_V q984 q985 q986 q152 q987
theorem lk_X0_42 : GoodIn lw_all (wsV "NeverUnseenLaw" 42 "NeverUnseen" yX1_sees (ws_ yX1_sees cX1_sees 3 ((Option.some Jvm.ClassFile.FieldType.int)))) := lw_V q1004 q1005 q1006 q152 q1007
theorem lk_X0_47 : GoodIn lw_all (wsV "NeverUnseenLaw" 47 "NeverUnseen" yX1_middle (ws_ yX1_middle cX1_middle 5 ((Option.some Jvm.ClassFile.FieldType.int)))) := lw_V q1012 q1013 q1014 q152 q1015
theorem lk_X0_51 : GoodIn lw_all (wsV "NeverUnseenLaw" 51 "NeverUnseen" yX1_eyes (ws_ yX1_eyes cX1_eyes 3 ((Option.some Jvm.ClassFile.FieldType.int)))) := lw_V q1024 q1025 q1026 q152 q1027
theorem lk_X0_55 : GoodIn lw_all (wsV "NeverUnseenLaw" 55 "NeverUnseen" yX1_put (ws_ yX1_put cX1_put 3 ((Option.some Jvm.ClassFile.FieldType.boolean)))) := lw_V q1059 q1060 q1061 q152 q1062
theorem lk_X0_60 : GoodIn lw_all (wsV "NeverUnseenLaw" 60 "NeverUnseen" yX1_time (ws_ yX1_time cX1_time 2 ((Option.some Jvm.ClassFile.FieldType.boolean)))) := lw_V q1067 q1068 q1069 q152 q1070
theorem lk_X0_65 : GoodIn lw_all (wsV "NeverUnseenLaw" 65 "NeverUnseen" yX1_at (ws_ yX1_at cX1_at 2 ((Option.some Jvm.ClassFile.FieldType.int)))) := lw_V q1071 q1072 q1073 q152 q1074
theorem lk_X0_69 : GoodIn lw_all (wsV "NeverUnseenLaw" 69 "NeverUnseen" yX1_unseen (ws_ yX1_unseen cX1_unseen 1 ((Option.some Jvm.ClassFile.FieldType.int)))) := lw_V q1075 q1076 q1077 q152 q1078
theorem lk_X0_73 : GoodIn lw_all (wsV "NeverUnseenLaw" 73 "NeverUnseen" yX1_lawful (ws_ yX1_lawful cX1_lawful 1 ((Option.some Jvm.ClassFile.FieldType.int)))) := lw_V q1092 q1093 q1094 q152 q1095
theorem lk_X0_77 : GoodIn lw_all (wsV "NeverUnseenLaw" 77 "NeverUnseen" yX1_by (ws_ yX1_by cX1_by 2 ((Option.some Jvm.ClassFile.FieldType.int)))) := lw_V q1104 q1105 q1106 q152 q1107
theorem lk_X0_81 : GoodIn lw_all (wsV "NeverUnseenLaw" 81 "NeverUnseen" yX1_move (ws_ yX1_move cX1_move 6 ((Option.some Jvm.ClassFile.FieldType.boolean)))) := lw_V q1108 q1109 q1110 q152 q1111
theorem lk_X0_86 : GoodIn lw_all (wsV "NeverUnseenLaw" 86 "NeverUnseen" yX1_planned (ws_ yX1_planned cX1_planned 3 ((Option.some Jvm.ClassFile.FieldType.int)))) := lw_V q1112 q1113 q1114 q152 q1115
theorem lk_X0_90 : GoodIn lw_all (wsV "NeverUnseenLaw" 90 "NeverUnseen" yX1_judge (ws_ yX1_judge cX1_judge 1 ((Option.some Jvm.ClassFile.FieldType.int)))) := lw_V q1116 q1117 q1118 q152 q1119
theorem lk_X0_94 : GoodIn lw_all (wsV "NeverUnseenLaw" 94 "NeverUnseen" yX1_why (ws_ yX1_why cX1_why 2 ((Option.some Jvm.ClassFile.FieldType.int)))) := lw_V q1134 q1135 q1136 q152 q1137
theorem lk_X0_98 : GoodIn lw_all (wsV "NeverUnseenLaw" 98 "NeverUnseen" yX1_done (ws_ yX1_done cX1_done 2 ((Option.some Jvm.ClassFile.FieldType.int)))) := lw_V q1138 q1139 q1140 q152 q1141
theorem lk_X0_102 : GoodIn lw_all (wsV "NeverUnseenLaw" 102 "NeverUnseen" yX1_forget (ws_ yX1_forget cX1_forget 1 ((Option.some Jvm.ClassFile.FieldType.boolean)))) := lw_V q1146 q1147 q1148 q152 q1149
theorem lk_X0_107 : GoodIn lw_all (wsV "NeverUnseenLaw" 107 "NeverUnseen" yX1_posts (ws_ yX1_posts cX1_posts 5 ((Option.some Jvm.ClassFile.FieldType.int)))) := lw_V q1150 q1151 q1152 q152 q1153
theorem lk_X0_111 : GoodIn lw_all (wsV "NeverUnseenLaw" 111 "NeverUnseen" yX1_postsAt (ws_ yX1_postsAt cX1_postsAt 4 ((Option.some Jvm.ClassFile.FieldType.int)))) := lw_V q1169 q1170 q1171 q152 q1172
theorem lk_X0_115 : GoodIn lw_all (wsV "NeverUnseenLaw" 115 "NeverUnseen" yX1_go (ws_ yX1_go cX1_go 6 ((Option.some Jvm.ClassFile.FieldType.int)))) := lw_V q1173 q1174 q1175 q152 q1176
theorem lk_X0_119 : GoodIn lw_all (wsV "NeverUnseenLaw" 119 "NeverUnseen" yX1_path (ws_ yX1_path cX1_path 3 ((Option.some Jvm.ClassFile.FieldType.int)))) := lw_V q1225 q1226 q1227 q152 q1228
theorem lk_X0_123 : GoodIn lw_all (wsV "NeverUnseenLaw" 123 "NeverUnseen" yX1_doing (ws_ yX1_doing cX1_doing 9 ((Option.some Jvm.ClassFile.FieldType.int)))) := lw_V q1229 q1230 q1231 q152 q1232
theorem lk_X0_127 : GoodIn lw_all (wsV "NeverUnseenLaw" 127 "NeverUnseen" yX1_find (ws_ yX1_find cX1_find 5 ((Option.some Jvm.ClassFile.FieldType.int)))) := lw_V q1237 q1238 q1239 q152 q1240
theorem lk_X0_131 : GoodIn lw_all (wsV "NeverUnseenLaw" 131 "NeverUnseen" yX1_sleepers (ws_ yX1_sleepers cX1_sleepers 5 ((Option.some Jvm.ClassFile.FieldType.int)))) := lw_V q1268 q1269 q1270 q152 q1271
theorem lk_X0_135 : GoodIn lw_all (wsV "NeverUnseenLaw" 135 "NeverUnseen" yX1_alone (ws_ yX1_alone cX1_alone 4 ((Option.some Jvm.ClassFile.FieldType.int)))) := lw_V q1272 q1273 q1274 q152 q1275
theorem lk_X0_139 : GoodIn lw_all (wsV "NeverUnseenLaw" 139 "NeverUnseen" yX1_glass (ws_ yX1_glass cX1_glass 4 ((Option.some Jvm.ClassFile.FieldType.int)))) := lw_V q1280 q1281 q1282 q152 q1283
theorem lk_X0_143 : GoodIn lw_all (wsV "NeverUnseenLaw" 143 "NeverUnseen" yX1_pairs (ws_ yX1_pairs cX1_pairs 3 ((Option.some Jvm.ClassFile.FieldType.int)))) := lw_V q1284 q1285 q1286 q152 q1287
theorem lk_X0_147 : GoodIn lw_all (wsV "NeverUnseenLaw" 147 "NeverUnseen" yX1_window (ws_ yX1_window cX1_window 3 ((Option.some Jvm.ClassFile.FieldType.int)))) := lw_V q1293 q1294 q1295 q152 q1296
theorem lk_X0_151 : GoodIn lw_all (wsV "NeverUnseenLaw" 151 "NeverUnseen" yX1_frees (ws_ yX1_frees cX1_frees 3 ((Option.some Jvm.ClassFile.FieldType.int)))) := lw_V q1314 q1315 q1316 q152 q1317
theorem lk_X0_155 : GoodIn lw_all (wsV "NeverUnseenLaw" 155 "NeverUnseen" yX1_tower (ws_ yX1_tower cX1_tower 5 ((Option.some Jvm.ClassFile.FieldType.int)))) := lw_V q1318 q1319 q1320 q152 q1321
theorem lk_X0_159 : GoodIn lw_all (wsV "NeverUnseenLaw" 159 "NeverUnseen" yX1_made (ws_ yX1_made cX1_made 4 ((Option.some Jvm.ClassFile.FieldType.int)))) := lw_V q1328 q1329 q1330 q152 q1331
theorem lk_X0_163 : GoodIn lw_all (wsV "NeverUnseenLaw" 163 "NeverUnseen" yX1_needs (ws_ yX1_needs cX1_needs 4 ((Option.some Jvm.ClassFile.FieldType.int)))) := lw_V q1343 q1344 q1345 q152 q1346
theorem lk_X0_167 : GoodIn lw_all (wsV "NeverUnseenLaw" 167 "NeverUnseen" yX1_fog (ws_ yX1_fog cX1_fog 7 ((Option.some Jvm.ClassFile.FieldType.long)))) := lw_V q1347 q1348 q1349 q152 q1350
theorem lk_X0_172 : GoodIn lw_all (wsV "NeverUnseenLaw" 172 "NeverUnseen" yX1_ready (ws_ yX1_ready cX1_ready 3 ((Option.some Jvm.ClassFile.FieldType.int)))) := lw_V q1355 q1356 q1357 q152 q1358
theorem lk_X0_176 : GoodIn lw_all (wsV "NeverUnseenLaw" 176 "NeverUnseen" yX1_seed (ws_ yX1_seed cX1_seed 2 ((Option.some Jvm.ClassFile.FieldType.boolean)))) := lw_V q1359 q1360 q1361 q152 q1362
theorem lk_X0_180 : GoodIn lw_all (wsV "NeverUnseenLaw" 180 "NeverUnseen" yX1_drift (ws_ yX1_drift cX1_drift 5 ((Option.some Jvm.ClassFile.FieldType.int)))) := lw_V q1364 q1365 q1366 q152 q1367
theorem lk_X0_184 : GoodIn lw_all (wsV "NeverUnseenLaw" 184 "NeverUnseen" yX1_image (ws_ yX1_image cX1_image 4 ((Option.some Jvm.ClassFile.FieldType.long)))) := lw_V q1373 q1374 q1375 q152 q1376
theorem lk_X0_190 : GoodIn lw_all (wsV "NeverUnseenLaw" 190 "NeverUnseen" yX1_restore (ws_ yX1_restore cX1_restore 7 ((Option.some Jvm.ClassFile.FieldType.boolean)))) := lw_V q1379 q1380 q1381 q152 q1382
theorem lk_X0_204 : GoodIn lw_all (wsV "NeverUnseenLaw" 204 "NeverUnseen" yX1_size (ws_ yX1_size cX1_size 2 ((Option.some Jvm.ClassFile.FieldType.int)))) := lw_V q1384 q1385 q1386 q152 q1387
theorem lk_X0_208 : GoodIn lw_all (wsV "NeverUnseenLaw" 208 "NeverUnseen" yX1_trouble (ws_ yX1_trouble cX1_trouble 1 ((Option.some Jvm.ClassFile.FieldType.int)))) := lw_V q1388 q1389 q1390 q152 q1391
theorem lk_X0_195 : GoodIn lw_all (va_wsS "NeverUnseenLaw" 195 yX0_led (wsW_ yX0_led cX0_led 4 (Option.some Jvm.ClassFile.FieldType.int) [((0 : Nat), (9 : Nat), (12 : Nat), (13 : Nat))])) := lw_SW q1392 q1393 q151 q1394
theorem lk_X0_7 : GoodIn lw_all (wsV "NeverUnseenLaw" 7 "NeverUnseen" yX1_led (ws_ yX1_led cX1_led 5 ((Option.some Jvm.ClassFile.FieldType.int)))) := lw_V q1396 q1397 q1398 q152 q1399
theorem lk_X0_201 : GoodIn lw_all (wsV "NeverUnseenLaw" 201 "NeverUnseenModel" yX5_thrown (ws_ yX5_thrown cX5_thrown 1 ((Option.some Jvm.ClassFile.FieldType.int)))) := lw_V q1543 q1544 q1545 q159 q1546
theorem lk_X0_23 : GoodIn lw_all (wsV "NeverUnseenLaw" 23 "NeverUnseenModel" yX5_feed (ws_ yX5_feed cX5_feed 8 ((Option.some Jvm.ClassFile.FieldType.int)))) := lw_V q1547 q1548 q1549 q159 q1550
theorem lk_X0_27 : GoodIn lw_all (wsV "NeverUnseenLaw" 27 "NeverUnseenModel" yX5_valley (ws_ yX5_valley cX5_valley 3 ((Option.some Jvm.ClassFile.FieldType.int)))) := lw_V q1551 q1552 q1553 q159 q1554
theorem lk_X0_32 : GoodIn lw_all (wsV "NeverUnseenLaw" 32 "NeverUnseenModel" yX5_fault (ws_ yX5_fault cX5_fault 1 ((Option.some Jvm.ClassFile.FieldType.int)))) := lw_V q1895 q1896 q1897 q159 q1898
theorem lk_X0_36 : GoodIn lw_all (wsV "NeverUnseenLaw" 36 "NeverUnseenModel" yX5_where (ws_ yX5_where cX5_where 1 ((Option.some Jvm.ClassFile.FieldType.int)))) := lw_V q1899 q1900 q1901 q159 q1902
theorem lk_X0_41 : GoodIn lw_all (wsV "NeverUnseenLaw" 41 "NeverUnseenModel" yX5_plain (ws_ yX5_plain cX5_plain 4 ((Option.some Jvm.ClassFile.FieldType.int)))) := lw_V q1903 q1904 q1905 q159 q1906
theorem lk_X0_46 : GoodIn lw_all (wsV "NeverUnseenLaw" 46 "NeverUnseenModel" yX5_sees (ws_ yX5_sees cX5_sees 3 ((Option.some Jvm.ClassFile.FieldType.int)))) := lw_V q1925 q1926 q1927 q159 q1928
theorem lk_X0_50 : GoodIn lw_all (wsV "NeverUnseenLaw" 50 "NeverUnseenModel" yX5_middle (ws_ yX5_middle cX5_middle 5 ((Option.some Jvm.ClassFile.FieldType.int)))) := lw_V q1933 q1934 q1935 q159 q1936
theorem lk_X0_54 : GoodIn lw_all (wsV "NeverUnseenLaw" 54 "NeverUnseenModel" yX5_eyes (ws_ yX5_eyes cX5_eyes 3 ((Option.some Jvm.ClassFile.FieldType.int)))) := lw_V q1941 q1942 q1943 q159 q1944
theorem lk_X0_59 : GoodIn lw_all (wsV "NeverUnseenLaw" 59 "NeverUnseenModel" yX5_put (ws_ yX5_put cX5_put 3 ((Option.some Jvm.ClassFile.FieldType.boolean)))) := lw_V q1953 q1954 q1955 q159 q1956
theorem lk_X0_64 : GoodIn lw_all (wsV "NeverUnseenLaw" 64 "NeverUnseenModel" yX5_time (ws_ yX5_time cX5_time 2 ((Option.some Jvm.ClassFile.FieldType.boolean)))) := lw_V q1965 q1966 q1967 q159 q1968
theorem lk_X0_68 : GoodIn lw_all (wsV "NeverUnseenLaw" 68 "NeverUnseenModel" yX5_at (ws_ yX5_at cX5_at 2 ((Option.some Jvm.ClassFile.FieldType.int)))) := lw_V q1969 q1970 q1971 q159 q1972
theorem lk_X0_72 : GoodIn lw_all (wsV "NeverUnseenLaw" 72 "NeverUnseenModel" yX5_unseen (ws_ yX5_unseen cX5_unseen 1 ((Option.some Jvm.ClassFile.FieldType.int)))) := lw_V q1973 q1974 q1975 q159 q1976
theorem lk_X0_76 : GoodIn lw_all (wsV "NeverUnseenLaw" 76 "NeverUnseenModel" yX5_lawful (ws_ yX5_lawful cX5_lawful 1 ((Option.some Jvm.ClassFile.FieldType.int)))) := lw_V q1985 q1986 q1987 q159 q1988
theorem lk_X0_80 : GoodIn lw_all (wsV "NeverUnseenLaw" 80 "NeverUnseenModel" yX5_by (ws_ yX5_by cX5_by 2 ((Option.some Jvm.ClassFile.FieldType.int)))) := lw_V q1997 q1998 q1999 q159 q2000
theorem lk_X0_85 : GoodIn lw_all (wsV "NeverUnseenLaw" 85 "NeverUnseenModel" yX5_move (ws_ yX5_move cX5_move 5 ((Option.some Jvm.ClassFile.FieldType.boolean)))) := lw_V q2001 q2002 q2003 q159 q2004
theorem lk_X0_89 : GoodIn lw_all (wsV "NeverUnseenLaw" 89 "NeverUnseenModel" yX5_planned (ws_ yX5_planned cX5_planned 3 ((Option.some Jvm.ClassFile.FieldType.int)))) := lw_V q2005 q2006 q2007 q159 q2008
theorem lk_X0_93 : GoodIn lw_all (wsV "NeverUnseenLaw" 93 "NeverUnseenModel" yX5_judge (ws_ yX5_judge cX5_judge 1 ((Option.some Jvm.ClassFile.FieldType.int)))) := lw_V q2009 q2010 q2011 q159 q2012
theorem lk_X0_97 : GoodIn lw_all (wsV "NeverUnseenLaw" 97 "NeverUnseenModel" yX5_why (ws_ yX5_why cX5_why 1 ((Option.some Jvm.ClassFile.FieldType.int)))) := lw_V q2025 q2026 q2027 q159 q2028
theorem lk_X0_101 : GoodIn lw_all (wsV "NeverUnseenLaw" 101 "NeverUnseenModel" yX5_done (ws_ yX5_done cX5_done 2 ((Option.some Jvm.ClassFile.FieldType.int)))) := lw_V q2029 q2030 q2031 q159 q2032
theorem lk_X0_106 : GoodIn lw_all (wsV "NeverUnseenLaw" 106 "NeverUnseenModel" yX5_forget (ws_ yX5_forget cX5_forget 1 ((Option.some Jvm.ClassFile.FieldType.boolean)))) := lw_V q2033 q2034 q2035 q159 q2036
theorem lk_X0_110 : GoodIn lw_all (wsV "NeverUnseenLaw" 110 "NeverUnseenModel" yX5_posts (ws_ yX5_posts cX5_posts 5 ((Option.some Jvm.ClassFile.FieldType.int)))) := lw_V q2037 q2038 q2039 q159 q2040
theorem lk_X0_114 : GoodIn lw_all (wsV "NeverUnseenLaw" 114 "NeverUnseenModel" yX5_postsAt (ws_ yX5_postsAt cX5_postsAt 4 ((Option.some Jvm.ClassFile.FieldType.int)))) := lw_V q2052 q2053 q2054 q159 q2055
theorem lk_X0_118 : GoodIn lw_all (wsV "NeverUnseenLaw" 118 "NeverUnseenModel" yX5_go (ws_ yX5_go cX5_go 5 ((Option.some Jvm.ClassFile.FieldType.int)))) := lw_V q2056 q2057 q2058 q159 q2059
theorem lk_X0_122 : GoodIn lw_all (wsV "NeverUnseenLaw" 122 "NeverUnseenModel" yX5_path (ws_ yX5_path cX5_path 3 ((Option.some Jvm.ClassFile.FieldType.int)))) := lw_V q2112 q2113 q2114 q159 q2115
theorem lk_X0_126 : GoodIn lw_all (wsV "NeverUnseenLaw" 126 "NeverUnseenModel" yX5_doing (ws_ yX5_doing cX5_doing 9 ((Option.some Jvm.ClassFile.FieldType.int)))) := lw_V q2116 q2117 q2118 q159 q2119
theorem lk_X0_130 : GoodIn lw_all (wsV "NeverUnseenLaw" 130 "NeverUnseenModel" yX5_find (ws_ yX5_find cX5_find 5 ((Option.some Jvm.ClassFile.FieldType.int)))) := lw_V q2124 q2125 q2126 q159 q2127
theorem lk_X0_134 : GoodIn lw_all (wsV "NeverUnseenLaw" 134 "NeverUnseenModel" yX5_sleepers (ws_ yX5_sleepers cX5_sleepers 5 ((Option.some Jvm.ClassFile.FieldType.int)))) := lw_V q2136 q2137 q2138 q159 q2139
theorem lk_X0_138 : GoodIn lw_all (wsV "NeverUnseenLaw" 138 "NeverUnseenModel" yX5_alone (ws_ yX5_alone cX5_alone 4 ((Option.some Jvm.ClassFile.FieldType.int)))) := lw_V q2140 q2141 q2142 q159 q2143
theorem lk_X0_142 : GoodIn lw_all (wsV "NeverUnseenLaw" 142 "NeverUnseenModel" yX5_glass (ws_ yX5_glass cX5_glass 2 ((Option.some Jvm.ClassFile.FieldType.int)))) := lw_V q2152 q2153 q2154 q159 q2155
theorem lk_X0_146 : GoodIn lw_all (wsV "NeverUnseenLaw" 146 "NeverUnseenModel" yX5_pairs (ws_ yX5_pairs cX5_pairs 3 ((Option.some Jvm.ClassFile.FieldType.int)))) := lw_V q2156 q2157 q2158 q159 q2159
theorem lk_X0_150 : GoodIn lw_all (wsV "NeverUnseenLaw" 150 "NeverUnseenModel" yX5_window (ws_ yX5_window cX5_window 3 ((Option.some Jvm.ClassFile.FieldType.int)))) := lw_V q2164 q2165 q2166 q159 q2167
theorem lk_X0_154 : GoodIn lw_all (wsV "NeverUnseenLaw" 154 "NeverUnseenModel" yX5_frees (ws_ yX5_frees cX5_frees 3 ((Option.some Jvm.ClassFile.FieldType.int)))) := lw_V q2180 q2181 q2182 q159 q2183
theorem lk_X0_158 : GoodIn lw_all (wsV "NeverUnseenLaw" 158 "NeverUnseenModel" yX5_tower (ws_ yX5_tower cX5_tower 5 ((Option.some Jvm.ClassFile.FieldType.int)))) := lw_V q2184 q2185 q2186 q159 q2187
theorem lk_X0_162 : GoodIn lw_all (wsV "NeverUnseenLaw" 162 "NeverUnseenModel" yX5_made (ws_ yX5_made cX5_made 4 ((Option.some Jvm.ClassFile.FieldType.int)))) := lw_V q2192 q2193 q2194 q159 q2195
theorem lk_X0_166 : GoodIn lw_all (wsV "NeverUnseenLaw" 166 "NeverUnseenModel" yX5_needs (ws_ yX5_needs cX5_needs 4 ((Option.some Jvm.ClassFile.FieldType.int)))) := lw_V q2208 q2209 q2210 q159 q2211
theorem lk_X0_171 : GoodIn lw_all (wsV "NeverUnseenLaw" 171 "NeverUnseenModel" yX5_fog (ws_ yX5_fog cX5_fog 7 ((Option.some Jvm.ClassFile.FieldType.long)))) := lw_V q2212 q2213 q2214 q159 q2215
theorem lk_X0_175 : GoodIn lw_all (wsV "NeverUnseenLaw" 175 "NeverUnseenModel" yX5_ready (ws_ yX5_ready cX5_ready 3 ((Option.some Jvm.ClassFile.FieldType.int)))) := lw_V q2220 q2221 q2222 q159 q2223
theorem lk_X0_179 : GoodIn lw_all (wsV "NeverUnseenLaw" 179 "NeverUnseenModel" yX5_seed (ws_ yX5_seed cX5_seed 2 ((Option.some Jvm.ClassFile.FieldType.boolean)))) := lw_V q2224 q2225 q2226 q159 q2227
theorem lk_X0_183 : GoodIn lw_all (wsV "NeverUnseenLaw" 183 "NeverUnseenModel" yX5_drift (ws_ yX5_drift cX5_drift 8 ((Option.some Jvm.ClassFile.FieldType.int)))) := lw_V q2229 q2230 q2231 q159 q2232
theorem lk_X0_187 : GoodIn lw_all (wsV "NeverUnseenLaw" 187 "NeverUnseenModel" yX5_image (ws_ yX5_image cX5_image 4 ((Option.some Jvm.ClassFile.FieldType.long)))) := lw_V q2240 q2241 q2242 q159 q2243
theorem lk_X0_194 : GoodIn lw_all (wsV "NeverUnseenLaw" 194 "NeverUnseenModel" yX5_restore (ws_ yX5_restore cX5_restore 7 ((Option.some Jvm.ClassFile.FieldType.boolean)))) := lw_V q2246 q2247 q2248 q159 q2249
theorem lk_X0_200 : GoodIn lw_all (wsV "NeverUnseenLaw" 200 "NeverUnseenModel" yX5_led (ws_ yX5_led cX5_led 4 ((Option.some Jvm.ClassFile.FieldType.int)))) := lw_V q2250 q2251 q2252 q159 q2253
theorem lk_X0_207 : GoodIn lw_all (wsV "NeverUnseenLaw" 207 "NeverUnseenModel" yX5_size (ws_ yX5_size cX5_size 2 ((Option.some Jvm.ClassFile.FieldType.int)))) := lw_V q2254 q2255 q2256 q159 q2257
theorem lk_X0_211 : GoodIn lw_all (wsV "NeverUnseenLaw" 211 "NeverUnseenModel" yX5_trouble (ws_ yX5_trouble cX5_trouble 1 ((Option.some Jvm.ClassFile.FieldType.int)))) := lw_V q2258 q2259 q2260 q159 q2261
theorem lk_X1_90 : GoodIn lw_all (wsV "NeverUnseen" 90 "NeverUnseen" yX1_bytes (ws_ yX1_bytes cX1_bytes 3 ((Option.none : Option Jvm.ClassFile.FieldType)))) := lw_V q406 q408 qs1 q152 q409
theorem lk_X1_84 : GoodIn lw_all (wsV "NeverUnseen" 84 "NeverUnseen" yX1_anew (ws_ yX1_anew cX1_anew 1 ((Option.none : Option Jvm.ClassFile.FieldType)))) := lw_V q415 q417 qs2 q152 q418
theorem lk_X1_94 : GoodIn lw_all (va_wsS "NeverUnseen" 94 yX1_in (ws_ yX1_in cX1_in 3 ((Option.some Jvm.ClassFile.FieldType.boolean)))) := lw_S q419 q420 q152 q421
theorem lk_X1_98 : GoodIn lw_all (wsV "NeverUnseen" 98 "NeverUnseen" yX1_no (ws_ yX1_no cX1_no 2 ((Option.some Jvm.ClassFile.FieldType.int)))) := lw_V q422 q424 qs3 q152 q425
theorem lk_X1_105 : GoodIn lw_all (wsV "NeverUnseen" 105 "NeverUnseen$Reader" yX2_read (ws_ yX2_read cX2_read 2 ((Option.some (Jvm.ClassFile.FieldType.object "NeverUnseen$Valley"))))) := lw_V q426 q427 q428 q153 q429
theorem lk_X1_124 : GoodIn lw_all (wsV "NeverUnseen" 124 "NeverUnseen$Sight" yX4_look (ws_ yX4_look cX4_look 8 ((Option.none : Option Jvm.ClassFile.FieldType)))) := lw_V q956 q957 q958 q158 q959
theorem lk_X1_147 : GoodIn lw_all (wsV "NeverUnseen" 147 "NeverUnseen" yX1_asTold (ws_ yX1_asTold cX1_asTold 3 ((Option.none : Option Jvm.ClassFile.FieldType)))) := lw_V q972 q974 qs29 q152 q975
theorem lk_X1_163 : GoodIn lw_all (wsV "NeverUnseen" 163 "NeverUnseen" yX1_isPlace (ws_ yX1_isPlace cX1_isPlace 2 ((Option.some Jvm.ClassFile.FieldType.boolean)))) := lw_V q988 q990 qs30 q152 q991
theorem lk_X1_156 : GoodIn lw_all (va_wsS "NeverUnseen" 156 yX1_isStep (ws_ yX1_isStep cX1_isStep 1 ((Option.some Jvm.ClassFile.FieldType.boolean)))) := lw_S q992 q993 q152 q994
theorem lk_X1_166 : GoodIn lw_all (wsV "NeverUnseen" 166 "NeverUnseen" yX1_sight (ws_ yX1_sight cX1_sight 2 ((Option.some (Jvm.ClassFile.FieldType.object "NeverUnseen$Sight"))))) := lw_V q995 q997 qs31 q152 q998
theorem lk_X1_160 : GoodIn lw_all (wsV "NeverUnseen" 160 "NeverUnseen$Valley" yX6_isNight (ws_ yX6_isNight cX6_isNight 2 ((Option.some Jvm.ClassFile.FieldType.boolean)))) := lw_V q999 q1000 q1001 q160 q1002
theorem lk_X1_173 : GoodIn lw_all (wsV "NeverUnseen" 173 "NeverUnseen$Sight" yX4_sees (ws_ yX4_sees cX4_sees 2 ((Option.some Jvm.ClassFile.FieldType.int)))) := lw_V q1008 q1009 q1010 q158 q1011
theorem lk_X1_176 : GoodIn lw_all (wsV "NeverUnseen" 176 "NeverUnseen" yX1_stepWhy (ws_ yX1_stepWhy cX1_stepWhy 2 ((Option.some Jvm.ClassFile.FieldType.int)))) := lw_V q1016 q1018 qs32 q152 q1019
theorem lk_X1_179 : GoodIn lw_all (wsV "NeverUnseen" 179 "NeverUnseen$Valley" yX6_all (ws_ yX6_all cX6_all 1 ((Option.some Jvm.ClassFile.FieldType.int)))) := lw_V q1020 q1021 q1022 q160 q1023
theorem lk_X1_183 : GoodIn lw_all (wsV "NeverUnseen" 183 "NeverUnseen" yX1_isPerson (ws_ yX1_isPerson cX1_isPerson 2 ((Option.some Jvm.ClassFile.FieldType.boolean)))) := lw_V q1028 q1030 qs33 q152 q1031
theorem lk_X1_186 : GoodIn lw_all (wsV "NeverUnseen" 186 "NeverUnseen$Person" yX9_watches (ws_ yX9_watches cX9_watches 4 ((Option.some Jvm.ClassFile.FieldType.boolean)))) := lw_V q1032 q1033 q1034 q168 q1035
theorem lk_X1_218 : GoodIn lw_all (wsV "NeverUnseen" 218 "NeverUnseen" yX1_yes (ws_ yX1_yes cX1_yes 2 ((Option.some Jvm.ClassFile.FieldType.boolean)))) := lw_V q1063 q1065 qs34 q152 q1066
theorem lk_X1_210 : GoodIn lw_all (wsV "NeverUnseen" 210 "NeverUnseen" yX1_watching (ws_ yX1_watching cX1_watching 5 ((Option.some Jvm.ClassFile.FieldType.int)))) := lw_V q1079 q1081 qs35 q152 q1082
theorem lk_X1_189 : GoodIn lw_all (va_wsS "NeverUnseen" 189 yX1_lies (ws_ yX1_lies cX1_lies 2 ((Option.some Jvm.ClassFile.FieldType.boolean)))) := lw_S q1083 q838 q152 q839
theorem lk_X1_206 : GoodIn lw_all (wsV "NeverUnseen" 206 "NeverUnseen" yX1_unseenAt (ws_ yX1_unseenAt cX1_unseenAt 6 ((Option.some Jvm.ClassFile.FieldType.int)))) := lw_V q1084 q1086 qs36 q152 q1087
theorem lk_X1_193 : GoodIn lw_all (wsV "NeverUnseen" 193 "NeverUnseen" yX1_watchersOf (ws_ yX1_watchersOf cX1_watchersOf 7 ((Option.some Jvm.ClassFile.FieldType.int)))) := lw_V q1088 q1090 qs37 q152 q1091
theorem lk_X1_221 : GoodIn lw_all (wsV "NeverUnseen" 221 "NeverUnseen" yX1_isLawfulAt (ws_ yX1_isLawfulAt cX1_isLawfulAt 3 ((Option.some Jvm.ClassFile.FieldType.boolean)))) := lw_V q1096 q1098 qs38 q152 q1099
theorem lk_X1_214 : GoodIn lw_all (wsV "NeverUnseen" 214 "NeverUnseen" yX1_isLawful (ws_ yX1_isLawful cX1_isLawful 8 ((Option.some Jvm.ClassFile.FieldType.boolean)))) := lw_V q1100 q1102 qs39 q152 q1103
theorem lk_X1_267 : GoodIn lw_all (wsV "NeverUnseen" 267 "NeverUnseen" yX1_judged (ws_ yX1_judged cX1_judged 3 ((Option.some Jvm.ClassFile.FieldType.int)))) := lw_V q1120 q1122 qs40 q152 q1123
theorem lk_X1_256 : GoodIn lw_all (wsV "NeverUnseen" 256 "NeverUnseen" yX1_areWays (ws_ yX1_areWays cX1_areWays 5 ((Option.some Jvm.ClassFile.FieldType.boolean)))) := lw_V q1124 q1126 qs41 q152 q1127
theorem lk_X1_228 : GoodIn lw_all (wsV "NeverUnseen" 228 "NeverUnseen$Valley" yX6_areLinked (ws_ yX6_areLinked cX6_areLinked 3 ((Option.some Jvm.ClassFile.FieldType.boolean)))) := lw_V q1128 q845 q846 q160 q847
theorem lk_X1_263 : GoodIn lw_all (wsV "NeverUnseen" 263 "NeverUnseen" yX1_isDone (ws_ yX1_isDone cX1_isDone 5 ((Option.some Jvm.ClassFile.FieldType.boolean)))) := lw_V q1129 q1131 qs42 q152 q1132
theorem lk_X1_245 : GoodIn lw_all (va_wsS "NeverUnseen" 245 yJ8_max (ws_ yJ8_max cJ8_max 2 ((Option.some Jvm.ClassFile.FieldType.int)))) := lw_S q1133 q969 q173 q970
theorem lk_X1_270 : GoodIn lw_all (wsV "NeverUnseen" 270 "NeverUnseen" yX1_isErrand (ws_ yX1_isErrand cX1_isErrand 2 ((Option.some Jvm.ClassFile.FieldType.boolean)))) := lw_V q1142 q1144 qs43 q152 q1145
theorem lk_X1_280 : GoodIn lw_all (wsV "NeverUnseen" 280 "NeverUnseen" yX1_postsWhy (ws_ yX1_postsWhy cX1_postsWhy 3 ((Option.some Jvm.ClassFile.FieldType.int)))) := lw_V q1154 q1156 qs44 q152 q1157
theorem lk_X1_283 : GoodIn lw_all (wsV "NeverUnseen" 283 "NeverUnseen" yX1_postsFor (ws_ yX1_postsFor cX1_postsFor 5 ((Option.some Jvm.ClassFile.FieldType.int)))) := lw_V q1158 q1160 qs45 q152 q1161
theorem lk_X1_273 : GoodIn lw_all (va_wsS "NeverUnseen" 273 yX1_ones (ws_ yX1_ones cX1_ones 3 ((Option.some Jvm.ClassFile.FieldType.int)))) := lw_S q1162 q1163 q152 q1164
theorem lk_X1_276 : GoodIn lw_all (wsV "NeverUnseen" 276 "NeverUnseen" yX1_hold (ws_ yX1_hold cX1_hold 7 ((Option.some Jvm.ClassFile.FieldType.boolean)))) := lw_V q1165 q1167 qs46 q152 q1168
theorem lk_X1_323 : GoodIn lw_all (wsV "NeverUnseen" 323 "NeverUnseen" yX1_peopleWhy (ws_ yX1_peopleWhy cX1_peopleWhy 3 ((Option.some Jvm.ClassFile.FieldType.int)))) := lw_V q1177 q1179 qs47 q152 q1180
theorem lk_X1_326 : GoodIn lw_all (wsV "NeverUnseen" 326 "NeverUnseen" yX1_choose (ws_ yX1_choose cX1_choose 3 ((Option.none : Option Jvm.ClassFile.FieldType)))) := lw_V q1181 q1183 qs48 q152 q1184
theorem lk_X1_329 : GoodIn lw_all (wsV "NeverUnseen" 329 "NeverUnseen" yX1_reach (ws_ yX1_reach cX1_reach 4 ((Option.none : Option Jvm.ClassFile.FieldType)))) := lw_V q1185 q1187 qs49 q152 q1188
theorem lk_X1_304 : GoodIn lw_all (wsV "NeverUnseen" 304 "NeverUnseen" yX1_nowState (ws_ yX1_nowState cX1_nowState 2 ((Option.some Jvm.ClassFile.FieldType.int)))) := lw_V q1189 q1191 qs50 q152 q1192
theorem lk_X1_293 : GoodIn lw_all (wsV "NeverUnseen" 293 "NeverUnseen" yX1_stateOf (ws_ yX1_stateOf cX1_stateOf 4 ((Option.some Jvm.ClassFile.FieldType.int)))) := lw_V q1193 q1195 qs51 q152 q1196
theorem lk_X1_307 : GoodIn lw_all (wsV "NeverUnseen" 307 "NeverUnseen" yX1_allIn (ws_ yX1_allIn cX1_allIn 4 ((Option.some (Jvm.ClassFile.FieldType.array Jvm.ClassFile.FieldType.int))))) := lw_V q1197 q1199 qs52 q152 q1200
theorem lk_X1_311 : GoodIn lw_all (wsV "NeverUnseen" 311 "NeverUnseen" yX1_spread (ws_ yX1_spread cX1_spread 3 ((Option.none : Option Jvm.ClassFile.FieldType)))) := lw_V q1201 q1203 qs53 q152 q1204
theorem lk_X1_297 : GoodIn lw_all (wsV "NeverUnseen" 297 "NeverUnseen" yX1_places (ws_ yX1_places cX1_places 5 ((Option.none : Option Jvm.ClassFile.FieldType)))) := lw_V q1205 q1207 qs54 q152 q1208
theorem lk_X1_315 : GoodIn lw_all (wsV "NeverUnseen" 315 "NeverUnseen" yX1_goesOn (ws_ yX1_goesOn cX1_goesOn 5 ((Option.none : Option Jvm.ClassFile.FieldType)))) := lw_V q1209 q1211 qs55 q152 q1212
theorem lk_X1_332 : GoodIn lw_all (wsV "NeverUnseen" 332 "NeverUnseen" yX1_allAt (ws_ yX1_allAt cX1_allAt 3 ((Option.some Jvm.ClassFile.FieldType.int)))) := lw_V q1213 q1215 qs56 q152 q1216
theorem lk_X1_335 : GoodIn lw_all (wsV "NeverUnseen" 335 "NeverUnseen" yX1_laysPath (ws_ yX1_laysPath cX1_laysPath 6 ((Option.none : Option Jvm.ClassFile.FieldType)))) := lw_V q1217 q1219 qs57 q152 q1220
theorem lk_X1_319 : GoodIn lw_all (wsV "NeverUnseen" 319 "NeverUnseen" yX1_firstHome (ws_ yX1_firstHome cX1_firstHome 6 ((Option.some Jvm.ClassFile.FieldType.int)))) := lw_V q1221 q1223 qs58 q152 q1224
theorem lk_X1_338 : GoodIn lw_all (wsV "NeverUnseen" 338 "NeverUnseen" yX1_mayStay (ws_ yX1_mayStay cX1_mayStay 6 ((Option.some Jvm.ClassFile.FieldType.boolean)))) := lw_V q1233 q1235 qs59 q152 q1236
theorem lk_X1_347 : GoodIn lw_all (wsV "NeverUnseen" 347 "NeverUnseen" yX1_lookedAt (ws_ yX1_lookedAt cX1_lookedAt 6 ((Option.some Jvm.ClassFile.FieldType.int)))) := lw_V q1241 q1243 qs60 q152 q1244
theorem lk_X1_356 : GoodIn lw_all (wsV "NeverUnseen" 356 "NeverUnseen" yX1_isFound (ws_ yX1_isFound cX1_isFound 5 ((Option.some Jvm.ClassFile.FieldType.boolean)))) := lw_V q1245 q1247 qs61 q152 q1248
theorem lk_X1_360 : GoodIn lw_all (wsV "NeverUnseen" 360 "NeverUnseen" yX1_further (ws_ yX1_further cX1_further 7 ((Option.none : Option Jvm.ClassFile.FieldType)))) := lw_V q1249 q1251 qs62 q152 q1252
theorem lk_X1_341 : GoodIn lw_all (wsV "NeverUnseen" 341 "NeverUnseen" yX1_isAny (ws_ yX1_isAny cX1_isAny 4 ((Option.some Jvm.ClassFile.FieldType.boolean)))) := lw_V q1253 q1255 qs63 q152 q1256
theorem lk_X1_344 : GoodIn lw_all (wsV "NeverUnseen" 344 "NeverUnseen" yX1_nextFrom (ws_ yX1_nextFrom cX1_nextFrom 4 ((Option.some Jvm.ClassFile.FieldType.int)))) := lw_V q1257 q1259 qs64 q152 q1260
theorem lk_X1_301 : GoodIn lw_all (wsV "NeverUnseen" 301 "NeverUnseen" yX1_leads (ws_ yX1_leads cX1_leads 5 ((Option.some Jvm.ClassFile.FieldType.boolean)))) := lw_V q1261 q1263 qs65 q152 q1264
theorem lk_X1_363 : GoodIn lw_all (wsV "NeverUnseen" 363 "NeverUnseen" yX1_doFor (ws_ yX1_doFor cX1_doFor 5 ((Option.some Jvm.ClassFile.FieldType.boolean)))) := lw_V q1276 q1278 qs66 q152 q1279
theorem lk_X1_366 : GoodIn lw_all (wsV "NeverUnseen" 366 "NeverUnseen$Sight" yX4_pairs (ws_ yX4_pairs cX4_pairs 4 ((Option.some Jvm.ClassFile.FieldType.int)))) := lw_V q1288 q1289 q1290 q158 q1291
theorem lk_X1_378 : GoodIn lw_all (wsV "NeverUnseen" 378 "NeverUnseen" yX1_windowWhy (ws_ yX1_windowWhy cX1_windowWhy 3 ((Option.some Jvm.ClassFile.FieldType.int)))) := lw_V q1297 q1299 qs67 q152 q1300
theorem lk_X1_381 : GoodIn lw_all (wsV "NeverUnseen" 381 "NeverUnseen" yX1_bestWindow (ws_ yX1_bestWindow cX1_bestWindow 4 ((Option.some Jvm.ClassFile.FieldType.int)))) := lw_V q1301 q1303 qs68 q152 q1304
theorem lk_X1_375 : GoodIn lw_all (wsV "NeverUnseen" 375 "NeverUnseen" yX1_pairsWith (ws_ yX1_pairsWith cX1_pairsWith 3 ((Option.some Jvm.ClassFile.FieldType.int)))) := lw_V q1305 q1307 qs69 q152 q1308
theorem lk_X1_369 : GoodIn lw_all (wsV "NeverUnseen" 369 "NeverUnseen$Valley" yX6_range (ws_ yX6_range cX6_range 2 ((Option.some Jvm.ClassFile.FieldType.int)))) := lw_V q1309 q1310 q1311 q160 q1312
theorem lk_X1_390 : GoodIn lw_all (wsV "NeverUnseen" 390 "NeverUnseen" yX1_plainFrom (ws_ yX1_plainFrom cX1_plainFrom 5 ((Option.some Jvm.ClassFile.FieldType.int)))) := lw_V q1322 q1324 qs70 q152 q1325
theorem lk_X1_384 : GoodIn lw_all (wsV "NeverUnseen" 384 "NeverUnseen$Valley" yX6_far (ws_ yX6_far cX6_far 3 ((Option.some Jvm.ClassFile.FieldType.int)))) := lw_V q1326 q962 q963 q160 q964
theorem lk_X1_387 : GoodIn lw_all (wsV "NeverUnseen" 387 "NeverUnseen$Valley" yX6_isWalled (ws_ yX6_isWalled cX6_isWalled 6 ((Option.some Jvm.ClassFile.FieldType.boolean)))) := lw_V q1327 q834 q835 q160 q836
theorem lk_X1_399 : GoodIn lw_all (wsV "NeverUnseen" 399 "NeverUnseen" yX1_madeWhy (ws_ yX1_madeWhy cX1_madeWhy 3 ((Option.some Jvm.ClassFile.FieldType.int)))) := lw_V q1332 q1334 qs71 q152 q1335
theorem lk_X1_396 : GoodIn lw_all (va_wsS "NeverUnseen" 396 yJ8_min (ws_ yJ8_min cJ8_min 2 ((Option.some Jvm.ClassFile.FieldType.int)))) := lw_S q1336 q1337 q173 q1338
theorem lk_X1_402 : GoodIn lw_all (wsV "NeverUnseen" 402 "NeverUnseen" yX1_bestWalls (ws_ yX1_bestWalls cX1_bestWalls 6 ((Option.some Jvm.ClassFile.FieldType.int)))) := lw_V q1339 q1341 qs72 q152 q1342
theorem lk_X1_414 : GoodIn lw_all (wsV "NeverUnseen" 414 "NeverUnseen" yX1_isLawfulIn (ws_ yX1_isLawfulIn cX1_isLawfulIn 4 ((Option.some Jvm.ClassFile.FieldType.boolean)))) := lw_V q1351 q1353 qs73 q152 q1354
theorem lk_X1_427 : GoodIn lw_all (wsV "NeverUnseen" 427 "NeverUnseen" yX1_neighbour (ws_ yX1_neighbour cX1_neighbour 5 ((Option.some Jvm.ClassFile.FieldType.int)))) := lw_V q1369 q1371 qs74 q152 q1372
theorem lk_X2_79 : GoodIn lw_all (wsV "NeverUnseen$Reader" 79 "NeverUnseen$Reader" yX2_next (ws_ yX2_next cX2_next 3 ((Option.none : Option Jvm.ClassFile.FieldType)))) := lw_V q550 q552 qs4 q153 q553
theorem lk_X2_43 : GoodIn lw_all (wsV "NeverUnseen$Reader" 43 "NeverUnseen$Reader" yX2_see (ws_ yX2_see cX2_see 2 ((Option.some Jvm.ClassFile.FieldType.int)))) := lw_V q554 q556 qs5 q153 q557
theorem lk_X2_50 : GoodIn lw_all (va_wsS "NeverUnseen$Reader" 50 yX2_isSmall (ws_ yX2_isSmall cX2_isSmall 1 ((Option.some Jvm.ClassFile.FieldType.boolean)))) := lw_S q558 q559 q153 q560
theorem lk_X2_65 : GoodIn lw_all (va_wsS "NeverUnseen$Reader" 65 yX2_isDigit (ws_ yX2_isDigit cX2_isDigit 1 ((Option.some Jvm.ClassFile.FieldType.boolean)))) := lw_S q641 q642 q153 q643
theorem lk_X2_150 : GoodIn lw_all (wsV "NeverUnseen$Reader" 150 "NeverUnseen$Reader" yX2_line (ws_ yX2_line cX2_line 3 ((Option.none : Option Jvm.ClassFile.FieldType)))) := lw_V q644 q646 qs6 q153 q647
theorem lk_X2_85 : GoodIn lw_all (wsV "NeverUnseen$Reader" 85 "NeverUnseen$Reader" yX2_fail (ws_ yX2_fail cX2_fail 2 ((Option.some (Jvm.ClassFile.FieldType.object "NeverUnseen$Refused"))))) := lw_V q648 q650 qs7 q153 q651
theorem lk_X2_30 : GoodIn lw_all (wsV "NeverUnseen$Reader" 30 "NeverUnseen$Refused" yX3_at (ws_ yX3_at cX3_at 3 ((Option.some (Jvm.ClassFile.FieldType.object "NeverUnseen$Refused"))))) := lw_V q652 q653 q654 q157 q655
theorem lk_X2_89 : GoodIn lw_all (wsV "NeverUnseen$Reader" 89 "java/lang/String" yJ3_hashCode (ws_ yJ3_hashCode cJ3_hashCode 2 ((Option.some Jvm.ClassFile.FieldType.int)))) := lw_V q656 q657 q658 q161 q659
theorem lk_X2_71 : GoodIn lw_all (wsV "NeverUnseen$Reader" 71 "java/lang/String" yJ3_equals (ws_ yJ3_equals cJ3_equals 3 ((Option.some Jvm.ClassFile.FieldType.boolean)))) := lw_V q710 q711 q712 q161 q713
theorem lk_X2_162 : GoodIn lw_all (wsV "NeverUnseen$Reader" 162 "NeverUnseen$Reader" yX2_law (ws_ yX2_law cX2_law 1 ((Option.none : Option Jvm.ClassFile.FieldType)))) := lw_V q726 q728 qs8 q153 q729
theorem lk_X2_181 : GoodIn lw_all (wsV "NeverUnseen$Reader" 181 "NeverUnseen$Reader" yX2_begins (ws_ yX2_begins cX2_begins 3 ((Option.none : Option Jvm.ClassFile.FieldType)))) := lw_V q730 q732 qs9 q153 q733
theorem lk_X2_187 : GoodIn lw_all (wsV "NeverUnseen$Reader" 187 "NeverUnseen$Reader" yX2_after (ws_ yX2_after cX2_after 4 ((Option.some Jvm.ClassFile.FieldType.int)))) := lw_V q735 q737 qs10 q153 q738
theorem lk_X2_142 : GoodIn lw_all (wsV "NeverUnseen$Reader" 142 "NeverUnseen$Reader" yX2_must (ws_ yX2_must cX2_must 2 ((Option.none : Option Jvm.ClassFile.FieldType)))) := lw_V q739 q741 qs11 q153 q742
theorem lk_X2_82 : GoodIn lw_all (wsV "NeverUnseen$Reader" 82 "NeverUnseen$Reader" yX2_takes (ws_ yX2_takes cX2_takes 2 ((Option.some Jvm.ClassFile.FieldType.boolean)))) := lw_V q743 q745 qs12 q153 q746
theorem lk_X2_75 : GoodIn lw_all (wsV "NeverUnseen$Reader" 75 "NeverUnseen$Reader" yX2_isWord (ws_ yX2_isWord cX2_isWord 2 ((Option.some Jvm.ClassFile.FieldType.boolean)))) := lw_V q747 q749 qs13 q153 q750
theorem lk_X2_146 : GoodIn lw_all (wsV "NeverUnseen$Reader" 146 "NeverUnseen$Reader" yX2_number (ws_ yX2_number cX2_number 4 ((Option.some Jvm.ClassFile.FieldType.int)))) := lw_V q751 q753 qs14 q153 q754
theorem lk_X2_164 : GoodIn lw_all (wsV "NeverUnseen$Reader" 164 "NeverUnseen$Reader" yX2_placeLine (ws_ yX2_placeLine cX2_placeLine 2 ((Option.none : Option Jvm.ClassFile.FieldType)))) := lw_V q759 q761 qs15 q153 q762
theorem lk_X2_206 : GoodIn lw_all (wsV "NeverUnseen$Reader" 206 "NeverUnseen$Reader" yX2_newName (ws_ yX2_newName cX2_newName 2 ((Option.some (Jvm.ClassFile.FieldType.object "java/lang/String"))))) := lw_V q765 q767 qs16 q153 q768
theorem lk_X2_117 : GoodIn lw_all (wsV "NeverUnseen$Reader" 117 "NeverUnseen$Reader" yX2_mustName (ws_ yX2_mustName cX2_mustName 3 ((Option.none : Option Jvm.ClassFile.FieldType)))) := lw_V q769 q771 qs17 q153 q772
theorem lk_X2_124 : GoodIn lw_all (wsV "NeverUnseen$Reader" 124 "NeverUnseen$Valley" yX6_find (ws_ yX6_find cX6_find 3 ((Option.some (Jvm.ClassFile.FieldType.object "NeverUnseen$Named"))))) := lw_V q776 q777 q778 q160 q779
theorem lk_X2_217 : GoodIn lw_all (wsV "NeverUnseen$Reader" 217 "NeverUnseen$Reader" yX2_comma (ws_ yX2_comma cX2_comma 1 ((Option.none : Option Jvm.ClassFile.FieldType)))) := lw_V q817 q819 qs18 q153 q820
theorem lk_X2_167 : GoodIn lw_all (wsV "NeverUnseen$Reader" 167 "NeverUnseen$Reader" yX2_wall (ws_ yX2_wall cX2_wall 3 ((Option.none : Option Jvm.ClassFile.FieldType)))) := lw_V q821 q823 qs19 q153 q824
theorem lk_X2_230 : GoodIn lw_all (wsV "NeverUnseen$Reader" 230 "NeverUnseen$Reader" yX2_place (ws_ yX2_place cX2_place 2 ((Option.some Jvm.ClassFile.FieldType.int)))) := lw_V q825 q827 qs20 q153 q828
theorem lk_X2_137 : GoodIn lw_all (wsV "NeverUnseen$Reader" 137 "NeverUnseen$Reader" yX2_placeHere (ws_ yX2_placeHere cX2_placeHere 2 ((Option.some Jvm.ClassFile.FieldType.int)))) := lw_V q829 q831 qs21 q153 q832
theorem lk_X2_232 : GoodIn lw_all (wsV "NeverUnseen$Reader" 232 "NeverUnseen$Valley" yX6_isWalled (ws_ yX6_isWalled cX6_isWalled 6 ((Option.some Jvm.ClassFile.FieldType.boolean)))) := lw_V q833 q834 q835 q160 q836
theorem lk_X2_169 : GoodIn lw_all (wsV "NeverUnseen$Reader" 169 "NeverUnseen$Reader" yX2_way (ws_ yX2_way cX2_way 3 ((Option.none : Option Jvm.ClassFile.FieldType)))) := lw_V q840 q842 qs22 q153 q843
theorem lk_X2_245 : GoodIn lw_all (wsV "NeverUnseen$Reader" 245 "NeverUnseen$Valley" yX6_areLinked (ws_ yX6_areLinked cX6_areLinked 3 ((Option.some Jvm.ClassFile.FieldType.boolean)))) := lw_V q844 q845 q846 q160 q847
theorem lk_X2_171 : GoodIn lw_all (wsV "NeverUnseen$Reader" 171 "NeverUnseen$Reader" yX2_mirror (ws_ yX2_mirror cX2_mirror 3 ((Option.none : Option Jvm.ClassFile.FieldType)))) := lw_V q848 q850 qs23 q153 q851
theorem lk_X2_173 : GoodIn lw_all (wsV "NeverUnseen$Reader" 173 "NeverUnseen$Reader" yX2_person (ws_ yX2_person cX2_person 3 ((Option.none : Option Jvm.ClassFile.FieldType)))) := lw_V q852 q854 qs24 q153 q855
theorem lk_X2_264 : GoodIn lw_all (wsV "NeverUnseen$Reader" 264 "NeverUnseen$Person" yX9_has (ws_ yX9_has cX9_has 2 ((Option.none : Option Jvm.ClassFile.FieldType)))) := lw_V q884 q885 q886 q168 q887
theorem lk_X2_175 : GoodIn lw_all (wsV "NeverUnseen$Reader" 175 "NeverUnseen$Reader" yX2_pair (ws_ yX2_pair cX2_pair 5 ((Option.none : Option Jvm.ClassFile.FieldType)))) := lw_V q911 q913 qs25 q153 q914
theorem lk_X2_285 : GoodIn lw_all (wsV "NeverUnseen$Reader" 285 "NeverUnseen$Reader" yX2_personHere (ws_ yX2_personHere cX2_personHere 2 ((Option.some (Jvm.ClassFile.FieldType.object "NeverUnseen$Person"))))) := lw_V q915 q917 qs26 q153 q918
theorem lk_X2_177 : GoodIn lw_all (wsV "NeverUnseen$Reader" 177 "NeverUnseen$Reader" yX2_errand (ws_ yX2_errand cX2_errand 2 ((Option.none : Option Jvm.ClassFile.FieldType)))) := lw_V q919 q921 qs27 q153 q922
theorem lk_X2_179 : GoodIn lw_all (wsV "NeverUnseen$Reader" 179 "NeverUnseen$Reader" yX2_fog (ws_ yX2_fog cX2_fog 3 ((Option.none : Option Jvm.ClassFile.FieldType)))) := lw_V q951 q953 qs28 q153 q954
theorem lk_X4_28 : GoodIn lw_all (wsV "NeverUnseen$Sight" 28 "NeverUnseen$Valley" yX6_far (ws_ yX6_far cX6_far 3 ((Option.some Jvm.ClassFile.FieldType.int)))) := lw_V q961 q962 q963 q160 q964
theorem lk_X4_32 : GoodIn lw_all (wsV "NeverUnseen$Sight" 32 "NeverUnseen$Valley" yX6_isWalled (ws_ yX6_isWalled cX6_isWalled 6 ((Option.some Jvm.ClassFile.FieldType.boolean)))) := lw_V q971 q834 q835 q160 q836
theorem lk_X5_62 : GoodIn lw_all (wsV "NeverUnseenModel" 62 "NeverUnseenModel" yX5_refused (ws_ yX5_refused cX5_refused 2 ((Option.some Jvm.ClassFile.FieldType.int)))) := lw_V q1555 q1557 qs75 q159 q1558
theorem lk_X5_128 : GoodIn lw_all (wsV "NeverUnseenModel" 128 "NeverUnseenModel" yX5_goesOn (ws_ yX5_goesOn cX5_goesOn 3 ((Option.none : Option Jvm.ClassFile.FieldType)))) := lw_V q1710 q1712 qs76 q159 q1713
theorem lk_X5_91 : GoodIn lw_all (wsV "NeverUnseenModel" 91 "NeverUnseenModel" yX5_byteAt (ws_ yX5_byteAt cX5_byteAt 2 ((Option.some Jvm.ClassFile.FieldType.int)))) := lw_V q1714 q1716 qs77 q159 q1717
theorem lk_X5_100 : GoodIn lw_all (va_wsS "NeverUnseenModel" 100 yX5_isLetter (ws_ yX5_isLetter cX5_isLetter 1 ((Option.some Jvm.ClassFile.FieldType.boolean)))) := lw_S q1718 q1719 q159 q1720
theorem lk_X5_108 : GoodIn lw_all (va_wsS "NeverUnseenModel" 108 yX5_isDigit (ws_ yX5_isDigit cX5_isDigit 1 ((Option.some Jvm.ClassFile.FieldType.boolean)))) := lw_S q1722 q1723 q159 q1724
theorem lk_X5_377 : GoodIn lw_all (wsV "NeverUnseenModel" 377 "NeverUnseenModel" yX5_readValley (ws_ yX5_readValley cX5_readValley 2 ((Option.none : Option Jvm.ClassFile.FieldType)))) := lw_V q1725 q1727 qs78 q159 q1728
theorem lk_X5_208 : GoodIn lw_all (wsV "NeverUnseenModel" 208 "NeverUnseenModel" yX5_readLine (ws_ yX5_readLine cX5_readLine 1 ((Option.none : Option Jvm.ClassFile.FieldType)))) := lw_V q1729 q1731 qs79 q159 q1732
theorem lk_X5_124 : GoodIn lw_all (wsV "NeverUnseenModel" 124 "NeverUnseenModel" yX5_isWord (ws_ yX5_isWord cX5_isWord 2 ((Option.some Jvm.ClassFile.FieldType.boolean)))) := lw_V q1734 q1736 qs80 q159 q1737
theorem lk_X5_120 : GoodIn lw_all (va_wsS "NeverUnseenModel" 120 yX5_wordOf (ws_ yX5_wordOf cX5_wordOf 4 ((Option.some Jvm.ClassFile.FieldType.long)))) := lw_S q1738 q1739 q159 q1740
theorem lk_X5_73 : GoodIn lw_all (wsV "NeverUnseenModel" 73 "java/lang/String" yJ3_length (ws_ yJ3_length cJ3_length 1 ((Option.some Jvm.ClassFile.FieldType.int)))) := lw_V q1741 q1742 q1743 q161 q1744
theorem lk_X5_81 : GoodIn lw_all (wsV "NeverUnseenModel" 81 "java/lang/String" yJ3_charAt (ws_ yJ3_charAt cJ3_charAt 2 ((Option.some Jvm.ClassFile.FieldType.char)))) := lw_V q1749 q1750 q1751 q161 q1752
theorem lk_X5_224 : GoodIn lw_all (wsV "NeverUnseenModel" 224 "NeverUnseenModel" yX5_readLaw (ws_ yX5_readLaw cX5_readLaw 1 ((Option.none : Option Jvm.ClassFile.FieldType)))) := lw_V q1769 q1771 qs81 q159 q1772
theorem lk_X5_131 : GoodIn lw_all (wsV "NeverUnseenModel" 131 "NeverUnseenModel" yX5_wrong (ws_ yX5_wrong cX5_wrong 2 ((Option.none : Option Jvm.ClassFile.FieldType)))) := lw_V q1773 q1775 qs82 q159 q1776
theorem lk_X5_253 : GoodIn lw_all (wsV "NeverUnseenModel" 253 "NeverUnseenModel" yX5_readPart (ws_ yX5_readPart cX5_readPart 4 ((Option.some Jvm.ClassFile.FieldType.int)))) := lw_V q1778 q1780 qs83 q159 q1781
theorem lk_X5_139 : GoodIn lw_all (wsV "NeverUnseenModel" 139 "NeverUnseenModel" yX5_must (ws_ yX5_must cX5_must 2 ((Option.none : Option Jvm.ClassFile.FieldType)))) := lw_V q1782 q1784 qs84 q159 q1785
theorem lk_X5_143 : GoodIn lw_all (wsV "NeverUnseenModel" 143 "NeverUnseenModel" yX5_readWhole (ws_ yX5_readWhole cX5_readWhole 4 ((Option.some Jvm.ClassFile.FieldType.int)))) := lw_V q1786 q1788 qs85 q159 q1789
theorem lk_X5_135 : GoodIn lw_all (va_wsS "NeverUnseenModel" 135 yX5_in (ws_ yX5_in cX5_in 3 ((Option.some Jvm.ClassFile.FieldType.boolean)))) := lw_S q1790 q1791 q159 q1792
theorem lk_X5_227 : GoodIn lw_all (wsV "NeverUnseenModel" 227 "NeverUnseenModel" yX5_readPlace (ws_ yX5_readPlace cX5_readPlace 3 ((Option.none : Option Jvm.ClassFile.FieldType)))) := lw_V q1798 q1800 qs86 q159 q1801
theorem lk_X5_275 : GoodIn lw_all (wsV "NeverUnseenModel" 275 "NeverUnseenModel" yX5_begins (ws_ yX5_begins cX5_begins 3 ((Option.none : Option Jvm.ClassFile.FieldType)))) := lw_V q1802 q1804 qs87 q159 q1805
theorem lk_X5_279 : GoodIn lw_all (wsV "NeverUnseenModel" 279 "NeverUnseenModel" yX5_readFresh (ws_ yX5_readFresh cX5_readFresh 3 ((Option.none : Option Jvm.ClassFile.FieldType)))) := lw_V q1806 q1808 qs88 q159 q1809
theorem lk_X5_169 : GoodIn lw_all (wsV "NeverUnseenModel" 169 "NeverUnseenModel" yX5_isName (ws_ yX5_isName cX5_isName 1 ((Option.some Jvm.ClassFile.FieldType.boolean)))) := lw_V q1810 q1812 qs89 q159 q1813
theorem lk_X5_177 : GoodIn lw_all (wsV "NeverUnseenModel" 177 "NeverUnseenModel$Valley" yX14_find (ws_ yX14_find cX14_find 4 ((Option.some Jvm.ClassFile.FieldType.int)))) := lw_V q1824 q1825 q1826 q174 q1827
theorem lk_X5_205 : GoodIn lw_all (wsV "NeverUnseenModel" 205 "NeverUnseenModel" yX5_needsSign (ws_ yX5_needsSign cX5_needsSign 2 ((Option.none : Option Jvm.ClassFile.FieldType)))) := lw_V q1829 q1831 qs90 q159 q1832
theorem lk_X5_230 : GoodIn lw_all (wsV "NeverUnseenModel" 230 "NeverUnseenModel" yX5_readWall (ws_ yX5_readWall cX5_readWall 2 ((Option.none : Option Jvm.ClassFile.FieldType)))) := lw_V q1833 q1835 qs91 q159 q1836
theorem lk_X5_298 : GoodIn lw_all (wsV "NeverUnseenModel" 298 "NeverUnseenModel" yX5_readTwo (ws_ yX5_readTwo cX5_readTwo 8 ((Option.some Jvm.ClassFile.FieldType.int)))) := lw_V q1837 q1839 qs92 q159 q1840
theorem lk_X5_199 : GoodIn lw_all (wsV "NeverUnseenModel" 199 "NeverUnseenModel" yX5_readKnown (ws_ yX5_readKnown cX5_readKnown 3 ((Option.some Jvm.ClassFile.FieldType.int)))) := lw_V q1841 q1843 qs93 q159 q1844
theorem lk_X5_196 : GoodIn lw_all (wsV "NeverUnseenModel" 196 "NeverUnseenModel" yX5_known (ws_ yX5_known cX5_known 3 ((Option.some Jvm.ClassFile.FieldType.int)))) := lw_V q1845 q1847 qs94 q159 q1848
theorem lk_X5_233 : GoodIn lw_all (wsV "NeverUnseenModel" 233 "NeverUnseenModel" yX5_readWay (ws_ yX5_readWay cX5_readWay 2 ((Option.none : Option Jvm.ClassFile.FieldType)))) := lw_V q1849 q1851 qs95 q159 q1852
theorem lk_X5_236 : GoodIn lw_all (wsV "NeverUnseenModel" 236 "NeverUnseenModel" yX5_readMirror (ws_ yX5_readMirror cX5_readMirror 2 ((Option.none : Option Jvm.ClassFile.FieldType)))) := lw_V q1853 q1855 qs96 q159 q1856
theorem lk_X5_316 : GoodIn lw_all (wsV "NeverUnseenModel" 316 "NeverUnseenModel" yX5_readOther (ws_ yX5_readOther cX5_readOther 5 ((Option.some Jvm.ClassFile.FieldType.int)))) := lw_V q1857 q1859 qs97 q159 q1860
theorem lk_X5_239 : GoodIn lw_all (wsV "NeverUnseenModel" 239 "NeverUnseenModel" yX5_readPerson (ws_ yX5_readPerson cX5_readPerson 7 ((Option.none : Option Jvm.ClassFile.FieldType)))) := lw_V q1861 q1863 qs98 q159 q1864
theorem lk_X5_320 : GoodIn lw_all (wsV "NeverUnseenModel" 320 "NeverUnseenModel" yX5_eatsWord (ws_ yX5_eatsWord cX5_eatsWord 3 ((Option.some Jvm.ClassFile.FieldType.boolean)))) := lw_V q1865 q1867 qs99 q159 q1868
theorem lk_X5_242 : GoodIn lw_all (wsV "NeverUnseenModel" 242 "NeverUnseenModel" yX5_readPair (ws_ yX5_readPair cX5_readPair 2 ((Option.none : Option Jvm.ClassFile.FieldType)))) := lw_V q1869 q1871 qs100 q159 q1872
theorem lk_X5_245 : GoodIn lw_all (wsV "NeverUnseenModel" 245 "NeverUnseenModel" yX5_readErrand (ws_ yX5_readErrand cX5_readErrand 6 ((Option.none : Option Jvm.ClassFile.FieldType)))) := lw_V q1873 q1875 qs101 q159 q1876
theorem lk_X5_248 : GoodIn lw_all (wsV "NeverUnseenModel" 248 "NeverUnseenModel" yX5_readFog (ws_ yX5_readFog cX5_readFog 3 ((Option.none : Option Jvm.ClassFile.FieldType)))) := lw_V q1878 q1880 qs102 q159 q1881
theorem lk_X5_211 : GoodIn lw_all (wsV "NeverUnseenModel" 211 "NeverUnseenModel" yX5_eatsSign (ws_ yX5_eatsSign cX5_eatsSign 3 ((Option.some Jvm.ClassFile.FieldType.boolean)))) := lw_V q1883 q1885 qs103 q159 q1886
theorem lk_X5_392 : GoodIn lw_all (wsV "NeverUnseenModel" 392 "NeverUnseenModel" yX5_forgets (ws_ yX5_forgets cX5_forgets 3 ((Option.none : Option Jvm.ClassFile.FieldType)))) := lw_V q1887 q1889 qs104 q159 q1890
theorem lk_X5_66 : GoodIn lw_all (wsV "NeverUnseenModel" 66 "NeverUnseenModel" yX5_told (ws_ yX5_told cX5_told 3 ((Option.some Jvm.ClassFile.FieldType.int)))) := lw_V q1891 q1893 qs105 q159 q1894
theorem lk_X5_414 : GoodIn lw_all (wsV "NeverUnseenModel" 414 "NeverUnseenModel" yX5_isPlace (ws_ yX5_isPlace cX5_isPlace 2 ((Option.some Jvm.ClassFile.FieldType.boolean)))) := lw_V q1907 q1909 qs106 q159 q1910
theorem lk_X5_411 : GoodIn lw_all (va_wsS "NeverUnseenModel" 411 yX5_isStep (ws_ yX5_isStep cX5_isStep 1 ((Option.some Jvm.ClassFile.FieldType.boolean)))) := lw_S q1911 q1912 q159 q1913
theorem lk_X5_405 : GoodIn lw_all (wsV "NeverUnseenModel" 405 "NeverUnseenModel" yX5_rangeIn (ws_ yX5_rangeIn cX5_rangeIn 2 ((Option.some Jvm.ClassFile.FieldType.int)))) := lw_V q1914 q1916 qs107 q159 q1917
theorem lk_X5_408 : GoodIn lw_all (wsV "NeverUnseenModel" 408 "NeverUnseenModel" yX5_isPlain (ws_ yX5_isPlain cX5_isPlain 8 ((Option.some Jvm.ClassFile.FieldType.boolean)))) := lw_V q1918 q1920 qs108 q159 q1921
theorem lk_X5_398 : GoodIn lw_all (va_wsS "NeverUnseenModel" 398 yX5_has (ws_ yX5_has cX5_has 2 ((Option.some Jvm.ClassFile.FieldType.boolean)))) := lw_S q1922 q1923 q159 q1924
theorem lk_X5_417 : GoodIn lw_all (wsV "NeverUnseenModel" 417 "NeverUnseenModel" yX5_seenFrom (ws_ yX5_seenFrom cX5_seenFrom 7 ((Option.some Jvm.ClassFile.FieldType.int)))) := lw_V q1929 q1931 qs109 q159 q1932
theorem lk_X5_420 : GoodIn lw_all (wsV "NeverUnseenModel" 420 "NeverUnseenModel" yX5_refusesSteps (ws_ yX5_refusesSteps cX5_refusesSteps 2 ((Option.some Jvm.ClassFile.FieldType.int)))) := lw_V q1937 q1939 qs110 q159 q1940
theorem lk_X5_423 : GoodIn lw_all (wsV "NeverUnseenModel" 423 "NeverUnseenModel" yX5_isPerson (ws_ yX5_isPerson cX5_isPerson 2 ((Option.some Jvm.ClassFile.FieldType.boolean)))) := lw_V q1945 q1947 qs111 q159 q1948
theorem lk_X5_426 : GoodIn lw_all (wsV "NeverUnseenModel" 426 "NeverUnseenModel" yX5_hasEyes (ws_ yX5_hasEyes cX5_hasEyes 5 ((Option.some Jvm.ClassFile.FieldType.boolean)))) := lw_V q1949 q1951 qs112 q159 q1952
theorem lk_X5_437 : GoodIn lw_all (wsV "NeverUnseenModel" 437 "NeverUnseenModel" yX5_denied (ws_ yX5_denied cX5_denied 2 ((Option.some Jvm.ClassFile.FieldType.boolean)))) := lw_V q1957 q1959 qs113 q159 q1960
theorem lk_X5_440 : GoodIn lw_all (wsV "NeverUnseenModel" 440 "NeverUnseenModel" yX5_granted (ws_ yX5_granted cX5_granted 1 ((Option.some Jvm.ClassFile.FieldType.boolean)))) := lw_V q1961 q1963 qs114 q159 q1964
theorem lk_X5_443 : GoodIn lw_all (wsV "NeverUnseenModel" 443 "NeverUnseenModel" yX5_unseenNow (ws_ yX5_unseenNow cX5_unseenNow 3 ((Option.some Jvm.ClassFile.FieldType.int)))) := lw_V q1977 q1979 qs115 q159 q1980
theorem lk_X5_429 : GoodIn lw_all (wsV "NeverUnseenModel" 429 "NeverUnseenModel" yX5_seeing (ws_ yX5_seeing cX5_seeing 8 ((Option.some Jvm.ClassFile.FieldType.int)))) := lw_V q1981 q1983 qs116 q159 q1984
theorem lk_X5_446 : GoodIn lw_all (wsV "NeverUnseenModel" 446 "NeverUnseenModel" yX5_isLawfulNow (ws_ yX5_isLawfulNow cX5_isLawfulNow 1 ((Option.some Jvm.ClassFile.FieldType.boolean)))) := lw_V q1989 q1991 qs117 q159 q1992
theorem lk_X5_433 : GoodIn lw_all (wsV "NeverUnseenModel" 433 "NeverUnseenModel" yX5_isLawful (ws_ yX5_isLawful cX5_isLawful 7 ((Option.some Jvm.ClassFile.FieldType.boolean)))) := lw_V q1993 q1995 qs118 q159 q1996
theorem lk_X5_458 : GoodIn lw_all (wsV "NeverUnseenModel" 458 "NeverUnseenModel" yX5_judged (ws_ yX5_judged cX5_judged 5 ((Option.some Jvm.ClassFile.FieldType.int)))) := lw_V q2013 q2015 qs119 q159 q2016
theorem lk_X5_449 : GoodIn lw_all (wsV "NeverUnseenModel" 449 "NeverUnseenModel$Valley" yX14_near (ws_ yX14_near cX14_near 4 ((Option.some Jvm.ClassFile.FieldType.int)))) := lw_V q2017 q2018 q2019 q174 q2020
theorem lk_X5_455 : GoodIn lw_all (wsV "NeverUnseenModel" 455 "NeverUnseenModel" yX5_isPlanDone (ws_ yX5_isPlanDone cX5_isPlanDone 4 ((Option.some Jvm.ClassFile.FieldType.boolean)))) := lw_V q2021 q2023 qs120 q159 q2024
theorem lk_X5_464 : GoodIn lw_all (wsV "NeverUnseenModel" 464 "NeverUnseenModel" yX5_refusesPosts (ws_ yX5_refusesPosts cX5_refusesPosts 3 ((Option.some Jvm.ClassFile.FieldType.int)))) := lw_V q2041 q2043 qs121 q159 q2044
theorem lk_X5_467 : GoodIn lw_all (wsV "NeverUnseenModel" 467 "NeverUnseenModel" yX5_postsFor (ws_ yX5_postsFor cX5_postsFor 8 ((Option.some Jvm.ClassFile.FieldType.int)))) := lw_V q2045 q2047 qs122 q159 q2048
theorem lk_X5_461 : GoodIn lw_all (va_wsS "NeverUnseenModel" 461 yX5_bits (ws_ yX5_bits cX5_bits 3 ((Option.some Jvm.ClassFile.FieldType.int)))) := lw_S q2049 q2050 q159 q2051
theorem lk_X5_497 : GoodIn lw_all (wsV "NeverUnseenModel" 497 "NeverUnseenModel" yX5_isMovers (ws_ yX5_isMovers cX5_isMovers 3 ((Option.some Jvm.ClassFile.FieldType.boolean)))) := lw_V q2060 q2062 qs123 q159 q2063
theorem lk_X5_500 : GoodIn lw_all (wsV "NeverUnseenModel" 500 "NeverUnseenModel" yX5_takesMovers (ws_ yX5_takesMovers cX5_takesMovers 3 ((Option.none : Option Jvm.ClassFile.FieldType)))) := lw_V q2064 q2066 qs124 q159 q2067
theorem lk_X5_503 : GoodIn lw_all (wsV "NeverUnseenModel" 503 "NeverUnseenModel" yX5_allAt (ws_ yX5_allAt cX5_allAt 4 ((Option.some Jvm.ClassFile.FieldType.int)))) := lw_V q2068 q2070 qs125 q159 q2071
theorem lk_X5_506 : GoodIn lw_all (wsV "NeverUnseenModel" 506 "NeverUnseenModel" yX5_sets (ws_ yX5_sets cX5_sets 2 ((Option.none : Option Jvm.ClassFile.FieldType)))) := lw_V q2072 q2074 qs126 q159 q2075
theorem lk_X5_491 : GoodIn lw_all (wsV "NeverUnseenModel" 491 "NeverUnseenModel" yX5_stateNow (ws_ yX5_stateNow cX5_stateNow 3 ((Option.some Jvm.ClassFile.FieldType.int)))) := lw_V q2076 q2078 qs127 q159 q2079
theorem lk_X5_509 : GoodIn lw_all (wsV "NeverUnseenModel" 509 "NeverUnseenModel" yX5_keepsPath (ws_ yX5_keepsPath cX5_keepsPath 8 ((Option.none : Option Jvm.ClassFile.FieldType)))) := lw_V q2080 q2082 qs128 q159 q2083
theorem lk_X5_494 : GoodIn lw_all (wsV "NeverUnseenModel" 494 "NeverUnseenModel" yX5_traces (ws_ yX5_traces cX5_traces 7 ((Option.none : Option Jvm.ClassFile.FieldType)))) := lw_V q2084 q2086 qs129 q159 q2087
theorem lk_X5_485 : GoodIn lw_all (wsV "NeverUnseenModel" 485 "NeverUnseenModel" yX5_leads (ws_ yX5_leads cX5_leads 4 ((Option.some Jvm.ClassFile.FieldType.int)))) := lw_V q2088 q2090 qs130 q159 q2091
theorem lk_X5_479 : GoodIn lw_all (wsV "NeverUnseenModel" 479 "NeverUnseenModel" yX5_isState (ws_ yX5_isState cX5_isState 3 ((Option.some Jvm.ClassFile.FieldType.boolean)))) := lw_V q2092 q2094 qs131 q159 q2095
theorem lk_X5_476 : GoodIn lw_all (wsV "NeverUnseenModel" 476 "NeverUnseenModel" yX5_placeIn (ws_ yX5_placeIn cX5_placeIn 5 ((Option.some Jvm.ClassFile.FieldType.int)))) := lw_V q2096 q2098 qs132 q159 q2099
theorem lk_X5_482 : GoodIn lw_all (wsV "NeverUnseenModel" 482 "NeverUnseenModel" yX5_isStepTo (ws_ yX5_isStepTo cX5_isStepTo 6 ((Option.some Jvm.ClassFile.FieldType.boolean)))) := lw_V q2100 q2102 qs133 q159 q2103
theorem lk_X5_513 : GoodIn lw_all (wsV "NeverUnseenModel" 513 "NeverUnseenModel" yX5_spreads (ws_ yX5_spreads cX5_spreads 5 ((Option.none : Option Jvm.ClassFile.FieldType)))) := lw_V q2104 q2106 qs134 q159 q2107
theorem lk_X5_488 : GoodIn lw_all (wsV "NeverUnseenModel" 488 "NeverUnseenModel" yX5_isLawfulState (ws_ yX5_isLawfulState cX5_isLawfulState 4 ((Option.some Jvm.ClassFile.FieldType.boolean)))) := lw_V q2108 q2110 qs135 q159 q2111
theorem lk_X5_516 : GoodIn lw_all (wsV "NeverUnseenModel" 516 "NeverUnseenModel" yX5_stays (ws_ yX5_stays cX5_stays 5 ((Option.some Jvm.ClassFile.FieldType.boolean)))) := lw_V q2120 q2122 qs136 q159 q2123
theorem lk_X5_519 : GoodIn lw_all (wsV "NeverUnseenModel" 519 "NeverUnseenModel" yX5_seenBy (ws_ yX5_seenBy cX5_seenBy 5 ((Option.some Jvm.ClassFile.FieldType.int)))) := lw_V q2128 q2130 qs137 q159 q2131
theorem lk_X5_522 : GoodIn lw_all (wsV "NeverUnseenModel" 522 "NeverUnseenModel" yX5_looksOn (ws_ yX5_looksOn cX5_looksOn 8 ((Option.none : Option Jvm.ClassFile.FieldType)))) := lw_V q2132 q2134 qs138 q159 q2135
theorem lk_X5_528 : GoodIn lw_all (wsV "NeverUnseenModel" 528 "NeverUnseenModel" yX5_glassOf (ws_ yX5_glassOf cX5_glassOf 4 ((Option.some Jvm.ClassFile.FieldType.int)))) := lw_V q2144 q2146 qs139 q159 q2147
theorem lk_X5_525 : GoodIn lw_all (wsV "NeverUnseenModel" 525 "NeverUnseenModel" yX5_isKept (ws_ yX5_isKept cX5_isKept 5 ((Option.some Jvm.ClassFile.FieldType.boolean)))) := lw_V q2148 q2150 qs140 q159 q2151
theorem lk_X5_531 : GoodIn lw_all (wsV "NeverUnseenModel" 531 "NeverUnseenModel" yX5_pairsIn (ws_ yX5_pairsIn cX5_pairsIn 4 ((Option.some Jvm.ClassFile.FieldType.int)))) := lw_V q2160 q2162 qs141 q159 q2163
theorem lk_X5_537 : GoodIn lw_all (wsV "NeverUnseenModel" 537 "NeverUnseenModel" yX5_refusesWindow (ws_ yX5_refusesWindow cX5_refusesWindow 3 ((Option.some Jvm.ClassFile.FieldType.int)))) := lw_V q2168 q2170 qs142 q159 q2171
theorem lk_X5_540 : GoodIn lw_all (wsV "NeverUnseenModel" 540 "NeverUnseenModel" yX5_windowIn (ws_ yX5_windowIn cX5_windowIn 4 ((Option.some Jvm.ClassFile.FieldType.int)))) := lw_V q2172 q2174 qs143 q159 q2175
theorem lk_X5_534 : GoodIn lw_all (wsV "NeverUnseenModel" 534 "NeverUnseenModel" yX5_pairsWithout (ws_ yX5_pairsWithout cX5_pairsWithout 4 ((Option.some Jvm.ClassFile.FieldType.int)))) := lw_V q2176 q2178 qs144 q159 q2179
theorem lk_X5_543 : GoodIn lw_all (wsV "NeverUnseenModel" 543 "NeverUnseenModel" yX5_plainTo (ws_ yX5_plainTo cX5_plainTo 5 ((Option.some Jvm.ClassFile.FieldType.int)))) := lw_V q2188 q2190 qs145 q159 q2191
theorem lk_X5_552 : GoodIn lw_all (wsV "NeverUnseenModel" 552 "NeverUnseenModel" yX5_refusesMade (ws_ yX5_refusesMade cX5_refusesMade 3 ((Option.some Jvm.ClassFile.FieldType.int)))) := lw_V q2196 q2198 qs146 q159 q2199
theorem lk_X5_555 : GoodIn lw_all (wsV "NeverUnseenModel" 555 "NeverUnseenModel" yX5_madeOf (ws_ yX5_madeOf cX5_madeOf 6 ((Option.some Jvm.ClassFile.FieldType.int)))) := lw_V q2200 q2202 qs147 q159 q2203
theorem lk_X5_549 : GoodIn lw_all (wsV "NeverUnseenModel" 549 "NeverUnseenModel" yX5_postsWithout (ws_ yX5_postsWithout cX5_postsWithout 4 ((Option.some Jvm.ClassFile.FieldType.int)))) := lw_V q2204 q2206 qs148 q159 q2207
theorem lk_X5_558 : GoodIn lw_all (wsV "NeverUnseenModel" 558 "NeverUnseenModel" yX5_isLawfulIn (ws_ yX5_isLawfulIn cX5_isLawfulIn 3 ((Option.some Jvm.ClassFile.FieldType.boolean)))) := lw_V q2216 q2218 qs149 q159 q2219
theorem lk_X5_568 : GoodIn lw_all (wsV "NeverUnseenModel" 568 "NeverUnseenModel" yX5_drawn (ws_ yX5_drawn cX5_drawn 2 ((Option.some Jvm.ClassFile.FieldType.int)))) := lw_V q2233 q2235 qs150 q159 q2236
theorem lk_X6_67 : GoodIn lw_all (va_wsS "NeverUnseen$Valley" 67 yX6_among (ws_ yX6_among cX6_among 4 ((Option.some (Jvm.ClassFile.FieldType.object "NeverUnseen$Named"))))) := lw_S q780 q781 q160 q782
theorem lk_X6_57 : GoodIn lw_all (wsV "NeverUnseen$Valley" 57 "java/lang/String" yJ3_equals (ws_ yJ3_equals cJ3_equals 3 ((Option.some Jvm.ClassFile.FieldType.boolean)))) := lw_V q783 q711 q712 q161 q713
theorem lk_X6_111 : GoodIn lw_all (va_wsS "NeverUnseen$Valley" 111 yJ8_max (ws_ yJ8_max cJ8_max 2 ((Option.some Jvm.ClassFile.FieldType.int)))) := lw_S q968 q969 q173 q970
theorem lk_X6_84 : GoodIn lw_all (wsV "NeverUnseen$Valley" 84 "NeverUnseen$Valley" yX6_isNight (ws_ yX6_isNight cX6_isNight 2 ((Option.some Jvm.ClassFile.FieldType.boolean)))) := lw_V q1313 q1000 q1001 q160 q1002
