/-! the shape of what the law makes at its start: x at 64.., m at 90.., its own row at 103 -/
set_option maxRecDepth 100000
def jis (M : Mm) (a c : Nat) : Prop := jm_K M a = c + 1 ∧ a < jm_Z M ∧ 64 ≤ a
def shK : List (Nat × Nat) := [(64, 1), (66, 2), (67, 3), (69, 4), (72, 4), (75, 4), (90, 5), (65, 101), (68, 102), (70, 100), (71, 100), (73, 100), (74, 100), (76, 100), (77, 100), (78, 100), (79, 100), (80, 100), (81, 100), (82, 100), (83, 100), (84, 103), (85, 103), (86, 103), (87, 100), (88, 103), (89, 103), (91, 101), (92, 100), (93, 100), (94, 100), (95, 100), (96, 100), (97, 103), (98, 103), (99, 100), (100, 100), (101, 103), (102, 103), (103, 104)]
def shN : List (Nat × Nat) := [(65, 900), (68, 8), (70, 10), (71, 10), (73, 10), (74, 10), (76, 10), (77, 10), (78, 5), (79, 5), (80, 500), (81, 3), (82, 3), (83, 3), (84, 31000), (85, 31000), (86, 31000), (87, 155), (88, 102400), (89, 102400), (91, 900), (92, 5), (93, 5), (94, 500), (95, 10), (96, 3), (97, 31000), (98, 31000), (99, 1000), (100, 155), (101, 102400), (102, 102400), (103, 1)]
def shR : List (Nat × Nat × Nat) := [(64, 0, 65), (64, 2, 66), (64, 7, 69), (64, 8, 72), (64, 9, 75), (64, 10, 78), (64, 11, 79), (64, 12, 80), (64, 16, 81), (64, 18, 83), (64, 21, 84), (64, 22, 85), (64, 23, 86), (64, 24, 87), (64, 26, 88), (64, 27, 89), (64, 17, 82), (66, 29, 67), (66, 30, 65), (66, 31, 68), (69, 47, 70), (69, 48, 71), (72, 47, 73), (72, 48, 74), (75, 47, 76), (75, 48, 77), (90, 54, 91), (90, 68, 92), (90, 69, 93), (90, 72, 94), (90, 74, 95), (90, 75, 96), (90, 78, 97), (90, 79, 98), (90, 80, 99), (90, 83, 100), (90, 84, 101), (90, 85, 102)]
def jSh (M : Mm) : Prop := (∀ q ∈ shK, jm_K M q.1 = q.2) ∧ (∀ q ∈ shN, jm_N M q.1 = q.2) ∧ (∀ q ∈ shR, jm_R M q.1 q.2.1 = some q.2.2) ∧ 104 ≤ jm_Z M
theorem is_64 {M : Mm} (h : jSh M) : jis M 64 0 := ⟨h.1 (64, 1) (by decide), Nat.lt_of_lt_of_le (by decide) h.2.2.2, by decide⟩
theorem is_66 {M : Mm} (h : jSh M) : jis M 66 1 := ⟨h.1 (66, 2) (by decide), Nat.lt_of_lt_of_le (by decide) h.2.2.2, by decide⟩
theorem is_67 {M : Mm} (h : jSh M) : jis M 67 2 := ⟨h.1 (67, 3) (by decide), Nat.lt_of_lt_of_le (by decide) h.2.2.2, by decide⟩
theorem is_69 {M : Mm} (h : jSh M) : jis M 69 3 := ⟨h.1 (69, 4) (by decide), Nat.lt_of_lt_of_le (by decide) h.2.2.2, by decide⟩
theorem is_72 {M : Mm} (h : jSh M) : jis M 72 3 := ⟨h.1 (72, 4) (by decide), Nat.lt_of_lt_of_le (by decide) h.2.2.2, by decide⟩
theorem is_75 {M : Mm} (h : jSh M) : jis M 75 3 := ⟨h.1 (75, 4) (by decide), Nat.lt_of_lt_of_le (by decide) h.2.2.2, by decide⟩
theorem is_90 {M : Mm} (h : jSh M) : jis M 90 4 := ⟨h.1 (90, 5) (by decide), Nat.lt_of_lt_of_le (by decide) h.2.2.2, by decide⟩
theorem ok_65 {M : Mm} (h : jSh M) : jok M 65 1 := ⟨h.1 (65, 101) (by decide), Nat.lt_of_lt_of_le (by decide) h.2.2.2, fun q => by omega⟩
theorem nn_65 {M : Mm} (h : jSh M) : jm_N M 65 = 900 := h.2.1 (65, 900) (by decide)
theorem ok_68 {M : Mm} (h : jSh M) : jok M 68 2 := ⟨h.1 (68, 102) (by decide), Nat.lt_of_lt_of_le (by decide) h.2.2.2, fun q => by omega⟩
theorem nn_68 {M : Mm} (h : jSh M) : jm_N M 68 = 8 := h.2.1 (68, 8) (by decide)
theorem ok_70 {M : Mm} (h : jSh M) : jok M 70 0 := ⟨h.1 (70, 100) (by decide), Nat.lt_of_lt_of_le (by decide) h.2.2.2, fun q => by omega⟩
theorem nn_70 {M : Mm} (h : jSh M) : jm_N M 70 = 10 := h.2.1 (70, 10) (by decide)
theorem ok_71 {M : Mm} (h : jSh M) : jok M 71 0 := ⟨h.1 (71, 100) (by decide), Nat.lt_of_lt_of_le (by decide) h.2.2.2, fun q => by omega⟩
theorem nn_71 {M : Mm} (h : jSh M) : jm_N M 71 = 10 := h.2.1 (71, 10) (by decide)
theorem ok_73 {M : Mm} (h : jSh M) : jok M 73 0 := ⟨h.1 (73, 100) (by decide), Nat.lt_of_lt_of_le (by decide) h.2.2.2, fun q => by omega⟩
theorem nn_73 {M : Mm} (h : jSh M) : jm_N M 73 = 10 := h.2.1 (73, 10) (by decide)
theorem ok_74 {M : Mm} (h : jSh M) : jok M 74 0 := ⟨h.1 (74, 100) (by decide), Nat.lt_of_lt_of_le (by decide) h.2.2.2, fun q => by omega⟩
theorem nn_74 {M : Mm} (h : jSh M) : jm_N M 74 = 10 := h.2.1 (74, 10) (by decide)
theorem ok_76 {M : Mm} (h : jSh M) : jok M 76 0 := ⟨h.1 (76, 100) (by decide), Nat.lt_of_lt_of_le (by decide) h.2.2.2, fun q => by omega⟩
theorem nn_76 {M : Mm} (h : jSh M) : jm_N M 76 = 10 := h.2.1 (76, 10) (by decide)
theorem ok_77 {M : Mm} (h : jSh M) : jok M 77 0 := ⟨h.1 (77, 100) (by decide), Nat.lt_of_lt_of_le (by decide) h.2.2.2, fun q => by omega⟩
theorem nn_77 {M : Mm} (h : jSh M) : jm_N M 77 = 10 := h.2.1 (77, 10) (by decide)
theorem ok_78 {M : Mm} (h : jSh M) : jok M 78 0 := ⟨h.1 (78, 100) (by decide), Nat.lt_of_lt_of_le (by decide) h.2.2.2, fun q => by omega⟩
theorem nn_78 {M : Mm} (h : jSh M) : jm_N M 78 = 5 := h.2.1 (78, 5) (by decide)
theorem ok_79 {M : Mm} (h : jSh M) : jok M 79 0 := ⟨h.1 (79, 100) (by decide), Nat.lt_of_lt_of_le (by decide) h.2.2.2, fun q => by omega⟩
theorem nn_79 {M : Mm} (h : jSh M) : jm_N M 79 = 5 := h.2.1 (79, 5) (by decide)
theorem ok_80 {M : Mm} (h : jSh M) : jok M 80 0 := ⟨h.1 (80, 100) (by decide), Nat.lt_of_lt_of_le (by decide) h.2.2.2, fun q => by omega⟩
theorem nn_80 {M : Mm} (h : jSh M) : jm_N M 80 = 500 := h.2.1 (80, 500) (by decide)
theorem ok_81 {M : Mm} (h : jSh M) : jok M 81 0 := ⟨h.1 (81, 100) (by decide), Nat.lt_of_lt_of_le (by decide) h.2.2.2, fun q => by omega⟩
theorem nn_81 {M : Mm} (h : jSh M) : jm_N M 81 = 3 := h.2.1 (81, 3) (by decide)
theorem ok_82 {M : Mm} (h : jSh M) : jok M 82 0 := ⟨h.1 (82, 100) (by decide), Nat.lt_of_lt_of_le (by decide) h.2.2.2, fun q => by omega⟩
theorem nn_82 {M : Mm} (h : jSh M) : jm_N M 82 = 3 := h.2.1 (82, 3) (by decide)
theorem ok_83 {M : Mm} (h : jSh M) : jok M 83 0 := ⟨h.1 (83, 100) (by decide), Nat.lt_of_lt_of_le (by decide) h.2.2.2, fun q => by omega⟩
theorem nn_83 {M : Mm} (h : jSh M) : jm_N M 83 = 3 := h.2.1 (83, 3) (by decide)
theorem ok_84 {M : Mm} (h : jSh M) : jok M 84 3 := ⟨h.1 (84, 103) (by decide), Nat.lt_of_lt_of_le (by decide) h.2.2.2, fun q => by omega⟩
theorem nn_84 {M : Mm} (h : jSh M) : jm_N M 84 = 31000 := h.2.1 (84, 31000) (by decide)
theorem ok_85 {M : Mm} (h : jSh M) : jok M 85 3 := ⟨h.1 (85, 103) (by decide), Nat.lt_of_lt_of_le (by decide) h.2.2.2, fun q => by omega⟩
theorem nn_85 {M : Mm} (h : jSh M) : jm_N M 85 = 31000 := h.2.1 (85, 31000) (by decide)
theorem ok_86 {M : Mm} (h : jSh M) : jok M 86 3 := ⟨h.1 (86, 103) (by decide), Nat.lt_of_lt_of_le (by decide) h.2.2.2, fun q => by omega⟩
theorem nn_86 {M : Mm} (h : jSh M) : jm_N M 86 = 31000 := h.2.1 (86, 31000) (by decide)
theorem ok_87 {M : Mm} (h : jSh M) : jok M 87 0 := ⟨h.1 (87, 100) (by decide), Nat.lt_of_lt_of_le (by decide) h.2.2.2, fun q => by omega⟩
theorem nn_87 {M : Mm} (h : jSh M) : jm_N M 87 = 155 := h.2.1 (87, 155) (by decide)
theorem ok_88 {M : Mm} (h : jSh M) : jok M 88 3 := ⟨h.1 (88, 103) (by decide), Nat.lt_of_lt_of_le (by decide) h.2.2.2, fun q => by omega⟩
theorem nn_88 {M : Mm} (h : jSh M) : jm_N M 88 = 102400 := h.2.1 (88, 102400) (by decide)
theorem ok_89 {M : Mm} (h : jSh M) : jok M 89 3 := ⟨h.1 (89, 103) (by decide), Nat.lt_of_lt_of_le (by decide) h.2.2.2, fun q => by omega⟩
theorem nn_89 {M : Mm} (h : jSh M) : jm_N M 89 = 102400 := h.2.1 (89, 102400) (by decide)
theorem ok_91 {M : Mm} (h : jSh M) : jok M 91 1 := ⟨h.1 (91, 101) (by decide), Nat.lt_of_lt_of_le (by decide) h.2.2.2, fun q => by omega⟩
theorem nn_91 {M : Mm} (h : jSh M) : jm_N M 91 = 900 := h.2.1 (91, 900) (by decide)
theorem ok_92 {M : Mm} (h : jSh M) : jok M 92 0 := ⟨h.1 (92, 100) (by decide), Nat.lt_of_lt_of_le (by decide) h.2.2.2, fun q => by omega⟩
theorem nn_92 {M : Mm} (h : jSh M) : jm_N M 92 = 5 := h.2.1 (92, 5) (by decide)
theorem ok_93 {M : Mm} (h : jSh M) : jok M 93 0 := ⟨h.1 (93, 100) (by decide), Nat.lt_of_lt_of_le (by decide) h.2.2.2, fun q => by omega⟩
theorem nn_93 {M : Mm} (h : jSh M) : jm_N M 93 = 5 := h.2.1 (93, 5) (by decide)
theorem ok_94 {M : Mm} (h : jSh M) : jok M 94 0 := ⟨h.1 (94, 100) (by decide), Nat.lt_of_lt_of_le (by decide) h.2.2.2, fun q => by omega⟩
theorem nn_94 {M : Mm} (h : jSh M) : jm_N M 94 = 500 := h.2.1 (94, 500) (by decide)
theorem ok_95 {M : Mm} (h : jSh M) : jok M 95 0 := ⟨h.1 (95, 100) (by decide), Nat.lt_of_lt_of_le (by decide) h.2.2.2, fun q => by omega⟩
theorem nn_95 {M : Mm} (h : jSh M) : jm_N M 95 = 10 := h.2.1 (95, 10) (by decide)
theorem ok_96 {M : Mm} (h : jSh M) : jok M 96 0 := ⟨h.1 (96, 100) (by decide), Nat.lt_of_lt_of_le (by decide) h.2.2.2, fun q => by omega⟩
theorem nn_96 {M : Mm} (h : jSh M) : jm_N M 96 = 3 := h.2.1 (96, 3) (by decide)
theorem ok_97 {M : Mm} (h : jSh M) : jok M 97 3 := ⟨h.1 (97, 103) (by decide), Nat.lt_of_lt_of_le (by decide) h.2.2.2, fun q => by omega⟩
theorem nn_97 {M : Mm} (h : jSh M) : jm_N M 97 = 31000 := h.2.1 (97, 31000) (by decide)
theorem ok_98 {M : Mm} (h : jSh M) : jok M 98 3 := ⟨h.1 (98, 103) (by decide), Nat.lt_of_lt_of_le (by decide) h.2.2.2, fun q => by omega⟩
theorem nn_98 {M : Mm} (h : jSh M) : jm_N M 98 = 31000 := h.2.1 (98, 31000) (by decide)
theorem ok_99 {M : Mm} (h : jSh M) : jok M 99 0 := ⟨h.1 (99, 100) (by decide), Nat.lt_of_lt_of_le (by decide) h.2.2.2, fun q => by omega⟩
theorem nn_99 {M : Mm} (h : jSh M) : jm_N M 99 = 1000 := h.2.1 (99, 1000) (by decide)
theorem ok_100 {M : Mm} (h : jSh M) : jok M 100 0 := ⟨h.1 (100, 100) (by decide), Nat.lt_of_lt_of_le (by decide) h.2.2.2, fun q => by omega⟩
theorem nn_100 {M : Mm} (h : jSh M) : jm_N M 100 = 155 := h.2.1 (100, 155) (by decide)
theorem ok_101 {M : Mm} (h : jSh M) : jok M 101 3 := ⟨h.1 (101, 103) (by decide), Nat.lt_of_lt_of_le (by decide) h.2.2.2, fun q => by omega⟩
theorem nn_101 {M : Mm} (h : jSh M) : jm_N M 101 = 102400 := h.2.1 (101, 102400) (by decide)
theorem ok_102 {M : Mm} (h : jSh M) : jok M 102 3 := ⟨h.1 (102, 103) (by decide), Nat.lt_of_lt_of_le (by decide) h.2.2.2, fun q => by omega⟩
theorem nn_102 {M : Mm} (h : jSh M) : jm_N M 102 = 102400 := h.2.1 (102, 102400) (by decide)
theorem ok_103 {M : Mm} (h : jSh M) : jok M 103 4 := ⟨h.1 (103, 104) (by decide), Nat.lt_of_lt_of_le (by decide) h.2.2.2, fun q => by omega⟩
theorem nn_103 {M : Mm} (h : jSh M) : jm_N M 103 = 1 := h.2.1 (103, 1) (by decide)
theorem sr_64_0 {M : Mm} (h : jSh M) : jm_R M 64 0 = some 65 := h.2.2.1 (64, 0, 65) (by decide)
theorem sr_64_2 {M : Mm} (h : jSh M) : jm_R M 64 2 = some 66 := h.2.2.1 (64, 2, 66) (by decide)
theorem sr_64_7 {M : Mm} (h : jSh M) : jm_R M 64 7 = some 69 := h.2.2.1 (64, 7, 69) (by decide)
theorem sr_64_8 {M : Mm} (h : jSh M) : jm_R M 64 8 = some 72 := h.2.2.1 (64, 8, 72) (by decide)
theorem sr_64_9 {M : Mm} (h : jSh M) : jm_R M 64 9 = some 75 := h.2.2.1 (64, 9, 75) (by decide)
theorem sr_64_10 {M : Mm} (h : jSh M) : jm_R M 64 10 = some 78 := h.2.2.1 (64, 10, 78) (by decide)
theorem sr_64_11 {M : Mm} (h : jSh M) : jm_R M 64 11 = some 79 := h.2.2.1 (64, 11, 79) (by decide)
theorem sr_64_12 {M : Mm} (h : jSh M) : jm_R M 64 12 = some 80 := h.2.2.1 (64, 12, 80) (by decide)
theorem sr_64_16 {M : Mm} (h : jSh M) : jm_R M 64 16 = some 81 := h.2.2.1 (64, 16, 81) (by decide)
theorem sr_64_18 {M : Mm} (h : jSh M) : jm_R M 64 18 = some 83 := h.2.2.1 (64, 18, 83) (by decide)
theorem sr_64_21 {M : Mm} (h : jSh M) : jm_R M 64 21 = some 84 := h.2.2.1 (64, 21, 84) (by decide)
theorem sr_64_22 {M : Mm} (h : jSh M) : jm_R M 64 22 = some 85 := h.2.2.1 (64, 22, 85) (by decide)
theorem sr_64_23 {M : Mm} (h : jSh M) : jm_R M 64 23 = some 86 := h.2.2.1 (64, 23, 86) (by decide)
theorem sr_64_24 {M : Mm} (h : jSh M) : jm_R M 64 24 = some 87 := h.2.2.1 (64, 24, 87) (by decide)
theorem sr_64_26 {M : Mm} (h : jSh M) : jm_R M 64 26 = some 88 := h.2.2.1 (64, 26, 88) (by decide)
theorem sr_64_27 {M : Mm} (h : jSh M) : jm_R M 64 27 = some 89 := h.2.2.1 (64, 27, 89) (by decide)
theorem sr_64_17 {M : Mm} (h : jSh M) : jm_R M 64 17 = some 82 := h.2.2.1 (64, 17, 82) (by decide)
theorem sr_66_29 {M : Mm} (h : jSh M) : jm_R M 66 29 = some 67 := h.2.2.1 (66, 29, 67) (by decide)
theorem sr_66_30 {M : Mm} (h : jSh M) : jm_R M 66 30 = some 65 := h.2.2.1 (66, 30, 65) (by decide)
theorem sr_66_31 {M : Mm} (h : jSh M) : jm_R M 66 31 = some 68 := h.2.2.1 (66, 31, 68) (by decide)
theorem sr_69_47 {M : Mm} (h : jSh M) : jm_R M 69 47 = some 70 := h.2.2.1 (69, 47, 70) (by decide)
theorem sr_69_48 {M : Mm} (h : jSh M) : jm_R M 69 48 = some 71 := h.2.2.1 (69, 48, 71) (by decide)
theorem sr_72_47 {M : Mm} (h : jSh M) : jm_R M 72 47 = some 73 := h.2.2.1 (72, 47, 73) (by decide)
theorem sr_72_48 {M : Mm} (h : jSh M) : jm_R M 72 48 = some 74 := h.2.2.1 (72, 48, 74) (by decide)
theorem sr_75_47 {M : Mm} (h : jSh M) : jm_R M 75 47 = some 76 := h.2.2.1 (75, 47, 76) (by decide)
theorem sr_75_48 {M : Mm} (h : jSh M) : jm_R M 75 48 = some 77 := h.2.2.1 (75, 48, 77) (by decide)
theorem sr_90_54 {M : Mm} (h : jSh M) : jm_R M 90 54 = some 91 := h.2.2.1 (90, 54, 91) (by decide)
theorem sr_90_68 {M : Mm} (h : jSh M) : jm_R M 90 68 = some 92 := h.2.2.1 (90, 68, 92) (by decide)
theorem sr_90_69 {M : Mm} (h : jSh M) : jm_R M 90 69 = some 93 := h.2.2.1 (90, 69, 93) (by decide)
theorem sr_90_72 {M : Mm} (h : jSh M) : jm_R M 90 72 = some 94 := h.2.2.1 (90, 72, 94) (by decide)
theorem sr_90_74 {M : Mm} (h : jSh M) : jm_R M 90 74 = some 95 := h.2.2.1 (90, 74, 95) (by decide)
theorem sr_90_75 {M : Mm} (h : jSh M) : jm_R M 90 75 = some 96 := h.2.2.1 (90, 75, 96) (by decide)
theorem sr_90_78 {M : Mm} (h : jSh M) : jm_R M 90 78 = some 97 := h.2.2.1 (90, 78, 97) (by decide)
theorem sr_90_79 {M : Mm} (h : jSh M) : jm_R M 90 79 = some 98 := h.2.2.1 (90, 79, 98) (by decide)
theorem sr_90_80 {M : Mm} (h : jSh M) : jm_R M 90 80 = some 99 := h.2.2.1 (90, 80, 99) (by decide)
theorem sr_90_83 {M : Mm} (h : jSh M) : jm_R M 90 83 = some 100 := h.2.2.1 (90, 83, 100) (by decide)
theorem sr_90_84 {M : Mm} (h : jSh M) : jm_R M 90 84 = some 101 := h.2.2.1 (90, 84, 101) (by decide)
theorem sr_90_85 {M : Mm} (h : jSh M) : jm_R M 90 85 = some 102 := h.2.2.1 (90, 85, 102) (by decide)
theorem jSh.I {M : Mm} {a k : Nat} {v : Int32} (h : jSh M) : jSh (js_I M a k v) := h
theorem jSh.L {M : Mm} {a k : Nat} {v : Int64} (h : jSh M) : jSh (js_L M a k v) := h
theorem jSh.A {M : Mm} {a k : Nat} {v : Int32} (h : jSh M) : jSh (js_A M a k v) := h
theorem jSh.B {M : Mm} {a k : Nat} {v : Int64} (h : jSh M) : jSh (js_B M a k v) := h
theorem jSh.C {M : Mm} {a k : Nat} {v : Option Nat} (h : jSh M) : jSh (js_C M a k v) := h
theorem jSh.As {M : Mm} {a : Nat} {g : Nat → Int32} (h : jSh M) : jSh (js_As M a g) := h
theorem jSh.R {M : Mm} {a k : Nat} {v : Option Nat} (h : jSh M) (hk : ∀ q ∈ shR, ¬ (q.2.1 = k ∧ q.1 = a)) : jSh (js_R M a k v) := ⟨h.1, h.2.1, fun q hq => by rw [jR_R, if_neg (hk q hq)]; exact h.2.2.1 q hq, h.2.2.2⟩
theorem shK_lt : ∀ q ∈ shK, q.1 < 104 := by decide
theorem shN_lt : ∀ q ∈ shN, q.1 < 104 := by decide
theorem shR_lt : ∀ q ∈ shR, q.1 < 104 := by decide
theorem jSh.n {M : Mm} {c n s : Nat} (h : jSh M) : jSh (js_new M c n s) := ⟨fun q hq => by rw [jK_n, if_neg (by have := shK_lt q hq; have := h.2.2.2; omega)]; exact h.1 q hq, fun q hq => by rw [jN_n, if_neg (by have := shN_lt q hq; have := h.2.2.2; omega)]; exact h.2.1 q hq, fun q hq => by rw [jR_n, if_neg (by have := shR_lt q hq; have := h.2.2.2; omega)]; exact h.2.2.1 q hq, by rw [jZ_n]; have := h.2.2.2; omega⟩
/-! the rules in the form in which the walks use them -/
section JWR
variable {G : Gh} {mi : Mi} {d : Nat} {M0 : Mm} {pc : Nat} {ls : List (Option Value)} {st : List Value} {M : Mm} {P : Rs → Mm → Prop}
theorem jx_getI {own : String} {idx c kk key a : Nat} (hf : jFr own idx c kk) (ho : own = mi.1.cls) (hd : decode mi.2.1 pc = .ok (.getfield idx, 3)) (hq : (jlay.getD c [])[kk]? = some (key, 0)) (h : jis M a c) (hlt : c < 99) (k : jW G mi d M0 (pc + 3) ls (.int (jm_I M a key) :: st) M P) : jW G mi d M0 pc ls (jr (some a) :: st) M P := jw_getI hf ho hd hq rfl h.1 hlt h.2.1 k
theorem jx_getL {own : String} {idx c kk key a : Nat} (hf : jFr own idx c kk) (ho : own = mi.1.cls) (hd : decode mi.2.1 pc = .ok (.getfield idx, 3)) (hq : (jlay.getD c [])[kk]? = some (key, 1)) (h : jis M a c) (hlt : c < 99) (k : jW G mi d M0 (pc + 3) ls (.long (jm_L M a key) :: st) M P) : jW G mi d M0 pc ls (jr (some a) :: st) M P := jw_getL hf ho hd hq rfl h.1 hlt h.2.1 k
theorem jx_getR {own : String} {idx c kk key a : Nat} (hf : jFr own idx c kk) (ho : own = mi.1.cls) (hd : decode mi.2.1 pc = .ok (.getfield idx, 3)) (hq : (jlay.getD c [])[kk]? = some (key, 2)) (h : jis M a c) (hlt : c < 99) (k : jW G mi d M0 (pc + 3) ls (jr (jm_R M a key) :: st) M P) : jW G mi d M0 pc ls (jr (some a) :: st) M P := jw_getR hf ho hd hq rfl h.1 hlt h.2.1 k
theorem jx_getIs {own : String} {idx c kk key a : Nat} {x : Int32} (hf : jFr own idx c kk) (ho : own = mi.1.cls) (hd : decode mi.2.1 pc = .ok (.getfield idx, 3)) (hq : (jlay.getD c [])[kk]? = some (key, 0)) (h : jis M a c) (hlt : c < 99) (hv : jm_I M a key = x) (k : jW G mi d M0 (pc + 3) ls (.int x :: st) M P) : jW G mi d M0 pc ls (jr (some a) :: st) M P := by
  subst hv
  exact jx_getI hf ho hd hq h hlt k
theorem jx_getLs {own : String} {idx c kk key a : Nat} {x : Int64} (hf : jFr own idx c kk) (ho : own = mi.1.cls) (hd : decode mi.2.1 pc = .ok (.getfield idx, 3)) (hq : (jlay.getD c [])[kk]? = some (key, 1)) (h : jis M a c) (hlt : c < 99) (hv : jm_L M a key = x) (k : jW G mi d M0 (pc + 3) ls (.long x :: st) M P) : jW G mi d M0 pc ls (jr (some a) :: st) M P := by
  subst hv
  exact jx_getL hf ho hd hq h hlt k
theorem jx_getRs {own : String} {idx c kk key a : Nat} {o : Option Nat} (hf : jFr own idx c kk) (ho : own = mi.1.cls) (hd : decode mi.2.1 pc = .ok (.getfield idx, 3)) (hq : (jlay.getD c [])[kk]? = some (key, 2)) (h : jis M a c) (hlt : c < 99) (hv : jm_R M a key = o) (k : jW G mi d M0 (pc + 3) ls (jr o :: st) M P) : jW G mi d M0 pc ls (jr (some a) :: st) M P := by
  subst hv
  exact jx_getR hf ho hd hq h hlt k
theorem jfvI (x : Int32) (a key : Nat) : jfv (js_I M a key x) a (key, 0) = .int x := by
  show Value.int (jm_I _ _ _) = _
  rw [jI_I, if_pos ⟨rfl, rfl⟩]
theorem jfvIo (x : Int32) (a key : Nat) (q1 : Nat × Nat) (h : q1.1 ≠ key) : jfv (js_I M a key x) a q1 = jfv M a q1 := by
  obtain ⟨k1, t⟩ := q1
  match t with
  | 0 => show Value.int (jm_I _ _ _) = Value.int _; rw [jI_I, if_neg (fun z => h z.1)]
  | 1 => rfl
  | t + 2 => rfl
theorem jfvR (x : Option Nat) (a key : Nat) : jfv (js_R M a key x) a (key, 2) = jr x := by
  show jr (jm_R _ _ _) = _
  rw [jR_R, if_pos ⟨rfl, rfl⟩]
theorem jfvRo (x : Option Nat) (a key : Nat) (q1 : Nat × Nat) (h : q1.1 ≠ key) : jfv (js_R M a key x) a q1 = jfv M a q1 := by
  obtain ⟨k1, t⟩ := q1
  match t with
  | 0 => rfl
  | 1 => rfl
  | t + 2 => show jr (jm_R _ _ _) = jr _; rw [jR_R, if_neg (fun z => h z.1)]
theorem jfvL (x : Int64) (a key : Nat) : jfv (js_L M a key x) a (key, 1) = .long x := by
  show Value.long (jm_L _ _ _) = _
  rw [jL_L, if_pos ⟨rfl, rfl⟩]
theorem jfvLo (x : Int64) (a key : Nat) (q1 : Nat × Nat) (h : q1.1 ≠ key) : jfv (js_L M a key x) a q1 = jfv M a q1 := by
  obtain ⟨k1, t⟩ := q1
  match t with
  | 0 => rfl
  | 1 => show Value.long (jm_L _ _ _) = Value.long _; rw [jL_L, if_neg (fun z => h z.1)]
  | t + 2 => rfl
theorem jp_int : parseFieldDescriptor "I" = some .int := by decide +kernel
theorem jp_bool : parseFieldDescriptor "Z" = some .boolean := by decide +kernel
theorem jp_byte : parseFieldDescriptor "B" = some .byte := by decide +kernel
theorem jp_long : parseFieldDescriptor "J" = some .long := by decide +kernel
theorem jx_putI {own : String} {idx c kk key a : Nat} {x : Int32} (hf : jFl own idx c kk false) (ho : own = mi.1.cls) (hd : decode mi.2.1 pc = .ok (.putfield idx, 3)) (hq : (jlay.getD c [])[kk]? = some (key, 0)) (hds : jdesc c kk = "I") (h : jis M a c) (hlt : c < 99) (k : jW G mi d M0 (pc + 3) ls st (js_I M a key x) P) : jW G mi d M0 pc ls (.int x :: jr (some a) :: st) M P :=
  jw_put (M1 := js_I M a key x) (v := .int x) hf ho hd hq hds jp_int rfl rfl rfl h.2.2 h.1 hlt h.2.1 rfl rfl rfl jal_I (jfvI x a key) (jfvIo x a key) k
theorem jx_putZ {own : String} {idx c kk key a : Nat} {x : Int32} (hf : jFl own idx c kk false) (ho : own = mi.1.cls) (hd : decode mi.2.1 pc = .ok (.putfield idx, 3)) (hq : (jlay.getD c [])[kk]? = some (key, 0)) (hds : jdesc c kk = "Z") (h : jis M a c) (hlt : c < 99) (hx : narrow .boolean (.int x) = .int x) (hx2 : fits .boolean (.int x) = true) (k : jW G mi d M0 (pc + 3) ls st (js_I M a key x) P) : jW G mi d M0 pc ls (.int x :: jr (some a) :: st) M P :=
  jw_put (M1 := js_I M a key x) (v := .int x) hf ho hd hq hds jp_bool hx hx2 rfl h.2.2 h.1 hlt h.2.1 rfl rfl rfl jal_I (jfvI x a key) (jfvIo x a key) k
theorem jx_putIF {own : String} {idx c kk key a : Nat} {x : Int32} (hf : jFl own idx c kk true) (ho : own = mi.1.cls) (hnm : mi.1.name = "<init>") (hd : decode mi.2.1 pc = .ok (.putfield idx, 3)) (hq : (jlay.getD c [])[kk]? = some (key, 0)) (hds : jdesc c kk = "I") (h : jis M a c) (hlt : c < 99) (k : jW G mi d M0 (pc + 3) ls st (js_I M a key x) P) : jW G mi d M0 pc ls (.int x :: jr (some a) :: st) M P :=
  jw_putF (M1 := js_I M a key x) (v := .int x) hf ho hnm hd hq hds jp_int rfl rfl rfl h.2.2 h.1 hlt h.2.1 rfl rfl rfl jal_I (jfvI x a key) (jfvIo x a key) k
theorem jx_putBF {own : String} {idx c kk key a : Nat} {x : Int32} (hf : jFl own idx c kk true) (ho : own = mi.1.cls) (hnm : mi.1.name = "<init>") (hd : decode mi.2.1 pc = .ok (.putfield idx, 3)) (hq : (jlay.getD c [])[kk]? = some (key, 0)) (hds : jdesc c kk = "B") (h : jis M a c) (hlt : c < 99) (hx : narrow .byte (.int x) = .int x) (hx2 : fits .byte (.int x) = true) (k : jW G mi d M0 (pc + 3) ls st (js_I M a key x) P) : jW G mi d M0 pc ls (.int x :: jr (some a) :: st) M P :=
  jw_putF (M1 := js_I M a key x) (v := .int x) hf ho hnm hd hq hds jp_byte hx hx2 rfl h.2.2 h.1 hlt h.2.1 rfl rfl rfl jal_I (jfvI x a key) (jfvIo x a key) k
theorem jx_putL {own : String} {idx c kk key a : Nat} {x : Int64} (hf : jFl own idx c kk false) (ho : own = mi.1.cls) (hd : decode mi.2.1 pc = .ok (.putfield idx, 3)) (hq : (jlay.getD c [])[kk]? = some (key, 1)) (hds : jdesc c kk = "J") (h : jis M a c) (hlt : c < 99) (k : jW G mi d M0 (pc + 3) ls st (js_L M a key x) P) : jW G mi d M0 pc ls (.long x :: jr (some a) :: st) M P :=
  jw_put (M1 := js_L M a key x) (v := .long x) hf ho hd hq hds jp_long rfl rfl rfl h.2.2 h.1 hlt h.2.1 rfl rfl rfl jal_L (jfvL x a key) (jfvLo x a key) k
theorem jfit_r {ty : FieldType} (h : (∃ n, ty = .object n) ∨ ∃ t, ty = .array t) (G : Gh) (o : Option Nat) : narrow ty (jv G (jr o)) = jv G (jr o) ∧ fits ty (jv G (jr o)) = true := by
  rcases h with ⟨n, rfl⟩ | ⟨t, rfl⟩ <;> cases o <;> exact ⟨rfl, rfl⟩
theorem jx_putR {own : String} {idx c kk key a : Nat} {o : Option Nat} {ty : FieldType} {ds : String} (hf : jFl own idx c kk false) (ho : own = mi.1.cls) (hd : decode mi.2.1 pc = .ok (.putfield idx, 3)) (hq : (jlay.getD c [])[kk]? = some (key, 2)) (hds : jdesc c kk = ds) (hty : parseFieldDescriptor ds = some ty) (hr : (∃ n, ty = .object n) ∨ ∃ t, ty = .array t) (h : jis M a c) (hlt : c < 99) (k : jW G mi d M0 (pc + 3) ls st (js_R M a key o) P) : jW G mi d M0 pc ls (jr o :: jr (some a) :: st) M P :=
  jw_put (M1 := js_R M a key o) (v := jr o) hf ho hd hq hds hty (jfit_r hr G o).1 (jfit_r hr G o).2 rfl h.2.2 h.1 hlt h.2.1 rfl rfl rfl jal_R (jfvR o a key) (jfvRo o a key) k
theorem jx_putRF {own : String} {idx c kk key a : Nat} {o : Option Nat} {ty : FieldType} {ds : String} (hf : jFl own idx c kk true) (ho : own = mi.1.cls) (hnm : mi.1.name = "<init>") (hd : decode mi.2.1 pc = .ok (.putfield idx, 3)) (hq : (jlay.getD c [])[kk]? = some (key, 2)) (hds : jdesc c kk = ds) (hty : parseFieldDescriptor ds = some ty) (hr : (∃ n, ty = .object n) ∨ ∃ t, ty = .array t) (h : jis M a c) (hlt : c < 99) (k : jW G mi d M0 (pc + 3) ls st (js_R M a key o) P) : jW G mi d M0 pc ls (jr o :: jr (some a) :: st) M P :=
  jw_putF (M1 := js_R M a key o) (v := jr o) hf ho hnm hd hq hds hty (jfit_r hr G o).1 (jfit_r hr G o).2 rfl h.2.2 h.1 hlt h.2.1 rfl rfl rfl jal_R (jfvR o a key) (jfvRo o a key) k
/-! arrays, by a known length -/
theorem jx_iald {i : Int32} {a n N : Nat} (hd : decode mi.2.1 pc = .ok (.iaload, 1)) (hk : jok M a 0) (hN : jm_N M a = N) (hi : i = nI n) (hn : n < N) (k : jW G mi d M0 (pc + 1) ls (.int (jm_A M a n) :: st) M P) : jW G mi d M0 pc ls (.int i :: jr (some a) :: st) M P := jw_iald hd rfl hk hi (by rw [hN]; exact hn) k
theorem jx_ialds {i : Int32} {a n N : Nat} {x : Int32} (hd : decode mi.2.1 pc = .ok (.iaload, 1)) (hk : jok M a 0) (hN : jm_N M a = N) (hi : i = nI n) (hn : n < N) (hx : jm_A M a n = x) (k : jW G mi d M0 (pc + 1) ls (.int x :: st) M P) : jW G mi d M0 pc ls (.int i :: jr (some a) :: st) M P := by
  subst hx
  exact jx_iald hd hk hN hi hn k
theorem jx_bald {i : Int32} {a n N : Nat} (hd : decode mi.2.1 pc = .ok (.baload, 1)) (hk : jok M a 1) (hN : jm_N M a = N) (hi : i = nI n) (hn : n < N) (k : jW G mi d M0 (pc + 1) ls (.int (jm_A M a n) :: st) M P) : jW G mi d M0 pc ls (.int i :: jr (some a) :: st) M P := jw_bald hd rfl hk hi (by rw [hN]; exact hn) k
theorem jx_zald {i : Int32} {a n N : Nat} (hd : decode mi.2.1 pc = .ok (.baload, 1)) (hk : jok M a 3) (hN : jm_N M a = N) (hi : i = nI n) (hn : n < N) (k : jW G mi d M0 (pc + 1) ls (.int (jm_A M a n) :: st) M P) : jW G mi d M0 pc ls (.int i :: jr (some a) :: st) M P := jw_zald hd rfl hk hi (by rw [hN]; exact hn) k
theorem jx_zalds {i : Int32} {a n N : Nat} {x : Int32} (hd : decode mi.2.1 pc = .ok (.baload, 1)) (hk : jok M a 3) (hN : jm_N M a = N) (hi : i = nI n) (hn : n < N) (hx : jm_A M a n = x) (k : jW G mi d M0 (pc + 1) ls (.int x :: st) M P) : jW G mi d M0 pc ls (.int i :: jr (some a) :: st) M P := by
  subst hx
  exact jx_zald hd hk hN hi hn k
theorem jx_cald {i : Int32} {a n N : Nat} (hd : decode mi.2.1 pc = .ok (.caload, 1)) (hk : jok M a 2) (hN : jm_N M a = N) (hi : i = nI n) (hn : n < N) (k : jW G mi d M0 (pc + 1) ls (.int (jm_A M a n) :: st) M P) : jW G mi d M0 pc ls (.int i :: jr (some a) :: st) M P := jw_cald hd rfl hk hi (by rw [hN]; exact hn) k
theorem jx_lald {i : Int32} {a n N : Nat} (hd : decode mi.2.1 pc = .ok (.laload, 1)) (hk : jok M a 4) (hN : jm_N M a = N) (hi : i = nI n) (hn : n < N) (k : jW G mi d M0 (pc + 1) ls (.long (jm_B M a n) :: st) M P) : jW G mi d M0 pc ls (.int i :: jr (some a) :: st) M P := jw_lald hd rfl hk hi (by rw [hN]; exact hn) k
theorem jx_aalds {t : Nat} {i : Int32} {a n N : Nat} {o : Option Nat} (h5 : 5 ≤ t) (h9 : t < 9) (hd : decode mi.2.1 pc = .ok (.aaload, 1)) (hk : jok M a t) (hN : jm_N M a = N) (hi : i = nI n) (hn : n < N) (ho : jm_C M a n = o) (k : jW G mi d M0 (pc + 1) ls (jr o :: st) M P) : jW G mi d M0 pc ls (.int i :: jr (some a) :: st) M P := by
  subst ho
  exact jw_aald h5 h9 hd rfl hk hi (by rw [hN]; exact hn) k
theorem jx_iast {i x : Int32} {a n N : Nat} (hd : decode mi.2.1 pc = .ok (.iastore, 1)) (h64 : 64 ≤ a) (hk : jok M a 0) (hN : jm_N M a = N) (hi : i = nI n) (hn : n < N) (k : jW G mi d M0 (pc + 1) ls st (js_A M a n x) P) : jW G mi d M0 pc ls (.int x :: .int i :: jr (some a) :: st) M P := jw_iast hd rfl h64 hk hi (by rw [hN]; exact hn) k
theorem jx_bast {i x y : Int32} {a n N : Nat} (hd : decode mi.2.1 pc = .ok (.bastore, 1)) (h64 : 64 ≤ a) (hk : jok M a 1) (hN : jm_N M a = N) (hi : i = nI n) (hn : n < N) (hy : x.toInt8.toInt32 = y) (k : jW G mi d M0 (pc + 1) ls st (js_A M a n y) P) : jW G mi d M0 pc ls (.int x :: .int i :: jr (some a) :: st) M P := jw_bast hd rfl h64 hk hi (by rw [hN]; exact hn) hy k
theorem jx_zast {i x : Int32} {a n N : Nat} (hd : decode mi.2.1 pc = .ok (.bastore, 1)) (h64 : 64 ≤ a) (hk : jok M a 3) (hN : jm_N M a = N) (hi : i = nI n) (hn : n < N) (hy : narrow .boolean (.int x) = .int x) (k : jW G mi d M0 (pc + 1) ls st (js_A M a n x) P) : jW G mi d M0 pc ls (.int x :: .int i :: jr (some a) :: st) M P := jw_zast hd rfl h64 hk hi (by rw [hN]; exact hn) hy k
theorem jx_cast {i x : Int32} {a n N : Nat} (hd : decode mi.2.1 pc = .ok (.castore, 1)) (h64 : 64 ≤ a) (hk : jok M a 2) (hN : jm_N M a = N) (hi : i = nI n) (hn : n < N) (hy : narrow .char (.int x) = .int x) (k : jW G mi d M0 (pc + 1) ls st (js_A M a n x) P) : jW G mi d M0 pc ls (.int x :: .int i :: jr (some a) :: st) M P := jw_cast hd rfl h64 hk hi (by rw [hN]; exact hn) hy k
theorem jx_last {i : Int32} {x : Int64} {a n N : Nat} (hd : decode mi.2.1 pc = .ok (.lastore, 1)) (h64 : 64 ≤ a) (hk : jok M a 4) (hN : jm_N M a = N) (hi : i = nI n) (hn : n < N) (k : jW G mi d M0 (pc + 1) ls st (js_B M a n x) P) : jW G mi d M0 pc ls (.long x :: .int i :: jr (some a) :: st) M P := jw_last hd rfl h64 hk hi (by rw [hN]; exact hn) k
/-! ints that are small numbers -/
theorem jx_iadd {x y : Nat} (hd : decode mi.2.1 pc = .ok (.iadd, 1)) (k : jW G mi d M0 (pc + 1) ls (.int (nI (x + y)) :: st) M P) : jW G mi d M0 pc ls (.int (nI y) :: .int (nI x) :: st) M P := jw_iadd hd (by rw [nI_add]; exact k)
theorem jx_imul {x y : Nat} (hd : decode mi.2.1 pc = .ok (.imul, 1)) (k : jW G mi d M0 (pc + 1) ls (.int (nI (x * y)) :: st) M P) : jW G mi d M0 pc ls (.int (nI y) :: .int (nI x) :: st) M P := jw_imul hd (by rw [pk_mul]; exact k)
theorem jx_iinc {i x : Nat} {ls1 : List (Option Value)} (hd : decode mi.2.1 pc = .ok (.iinc i 1, 3)) (hl : jget ls i = some (.int (nI x))) (he : jput1 ls i (.int (nI (x + 1))) = ls1) (k : jW G mi d M0 (pc + 3) ls1 st M P) : jW G mi d M0 pc ls st M P := jw_iinc hd hl (by rw [nI_succ]; rfl) he k
/-! branches on small numbers -/
theorem jx_icmp_ge {x y : Nat} {off : Int} {tgt : Nat} (hd : decode mi.2.1 pc = .ok (.if_icmp .ge off, 3)) (ht : (pc : Int) + off = (tgt : Int)) (hx : x < 2 ^ 31) (hy : y < 2 ^ 31) (kt : y ≤ x → jW G mi d M0 tgt ls st M P) (kf : x < y → jW G mi d M0 (pc + 3) ls st M P) : jW G mi d M0 pc ls (.int (nI y) :: .int (nI x) :: st) M P :=
  jw_icmp_ge hd ht (fun h => kt ((nI_leI hy hx).mp h)) (fun h => kf (Nat.not_le.mp fun q => h ((nI_leI hy hx).mpr q)))
theorem jx_icmp_lt {x y : Nat} {off : Int} {tgt : Nat} (hd : decode mi.2.1 pc = .ok (.if_icmp .lt off, 3)) (ht : (pc : Int) + off = (tgt : Int)) (hx : x < 2 ^ 31) (hy : y < 2 ^ 31) (kt : x < y → jW G mi d M0 tgt ls st M P) (kf : y ≤ x → jW G mi d M0 (pc + 3) ls st M P) : jW G mi d M0 pc ls (.int (nI y) :: .int (nI x) :: st) M P :=
  jw_icmp_lt hd ht (fun h => kt ((nI_ltI hx hy).mp h)) (fun h => kf (Nat.not_lt.mp fun q => h ((nI_ltI hx hy).mpr q)))
theorem jx_icmp_gt {x y : Nat} {off : Int} {tgt : Nat} (hd : decode mi.2.1 pc = .ok (.if_icmp .gt off, 3)) (ht : (pc : Int) + off = (tgt : Int)) (hx : x < 2 ^ 31) (hy : y < 2 ^ 31) (kt : y < x → jW G mi d M0 tgt ls st M P) (kf : x ≤ y → jW G mi d M0 (pc + 3) ls st M P) : jW G mi d M0 pc ls (.int (nI y) :: .int (nI x) :: st) M P :=
  jw_icmp_gt hd ht (fun h => kt ((nI_ltI hy hx).mp h)) (fun h => kf (Nat.not_lt.mp fun q => h ((nI_ltI hy hx).mpr q)))
theorem jx_icmp_le {x y : Nat} {off : Int} {tgt : Nat} (hd : decode mi.2.1 pc = .ok (.if_icmp .le off, 3)) (ht : (pc : Int) + off = (tgt : Int)) (hx : x < 2 ^ 31) (hy : y < 2 ^ 31) (kt : x ≤ y → jW G mi d M0 tgt ls st M P) (kf : y < x → jW G mi d M0 (pc + 3) ls st M P) : jW G mi d M0 pc ls (.int (nI y) :: .int (nI x) :: st) M P :=
  jw_icmp_le hd ht (fun h => kt ((nI_leI hx hy).mp h)) (fun h => kf (Nat.not_le.mp fun q => h ((nI_leI hx hy).mpr q)))
theorem jx_icmp_eq {x y : Nat} {off : Int} {tgt : Nat} (hd : decode mi.2.1 pc = .ok (.if_icmp .eq off, 3)) (ht : (pc : Int) + off = (tgt : Int)) (hx : x < 2 ^ 31) (hy : y < 2 ^ 31) (kt : x = y → jW G mi d M0 tgt ls st M P) (kf : ¬ x = y → jW G mi d M0 (pc + 3) ls st M P) : jW G mi d M0 pc ls (.int (nI y) :: .int (nI x) :: st) M P :=
  jw_icmp_eq hd ht (fun h => kt ((nI_eq hx hy).mp h)) (fun h => kf (fun q => h ((nI_eq hx hy).mpr q)))
theorem jx_icmp_ne {x y : Nat} {off : Int} {tgt : Nat} (hd : decode mi.2.1 pc = .ok (.if_icmp .ne off, 3)) (ht : (pc : Int) + off = (tgt : Int)) (hx : x < 2 ^ 31) (hy : y < 2 ^ 31) (kt : ¬ x = y → jW G mi d M0 tgt ls st M P) (kf : x = y → jW G mi d M0 (pc + 3) ls st M P) : jW G mi d M0 pc ls (.int (nI y) :: .int (nI x) :: st) M P :=
  jw_icmp_ne hd ht (fun h => kt (fun q => h ((nI_eq hx hy).mpr q))) (fun h => kf ((nI_eq hx hy).mp h))
theorem jb_0 {b : Bool} : jb b = 0 ↔ b = false := by cases b <;> decide
theorem jx_ifb_eq {b : Bool} {off : Int} {tgt : Nat} (hd : decode mi.2.1 pc = .ok (.ifCond .eq off, 3)) (ht : (pc : Int) + off = (tgt : Int)) (kt : b = false → jW G mi d M0 tgt ls st M P) (kf : b = true → jW G mi d M0 (pc + 3) ls st M P) : jW G mi d M0 pc ls (.int (jb b) :: st) M P :=
  jw_if_eq hd ht (fun h => kt (jb_0.mp h)) (fun h => kf (by cases b with | false => exact absurd (jb_0.mpr rfl) h | true => rfl))
theorem jx_ifb_ne {b : Bool} {off : Int} {tgt : Nat} (hd : decode mi.2.1 pc = .ok (.ifCond .ne off, 3)) (ht : (pc : Int) + off = (tgt : Int)) (kt : b = true → jW G mi d M0 tgt ls st M P) (kf : b = false → jW G mi d M0 (pc + 3) ls st M P) : jW G mi d M0 pc ls (.int (jb b) :: st) M P :=
  jw_if_ne hd ht (fun h => kt (by cases b with | false => exact absurd (jb_0.mpr rfl) h | true => rfl)) (fun h => kf (jb_0.mp h))
theorem nI_0i {x : Nat} (hx : x < 2 ^ 31) : nI x = 0 ↔ x = 0 := by
  rw [← nI_0]
  exact nI_eq hx (by decide)
theorem jx_if_eq {x : Nat} {off : Int} {tgt : Nat} (hd : decode mi.2.1 pc = .ok (.ifCond .eq off, 3)) (ht : (pc : Int) + off = (tgt : Int)) (hx : x < 2 ^ 31) (kt : x = 0 → jW G mi d M0 tgt ls st M P) (kf : ¬ x = 0 → jW G mi d M0 (pc + 3) ls st M P) : jW G mi d M0 pc ls (.int (nI x) :: st) M P :=
  jw_if_eq hd ht (fun h => kt ((nI_0i hx).mp h)) (fun h => kf (fun q => h ((nI_0i hx).mpr q)))
theorem jx_if_ne {x : Nat} {off : Int} {tgt : Nat} (hd : decode mi.2.1 pc = .ok (.ifCond .ne off, 3)) (ht : (pc : Int) + off = (tgt : Int)) (hx : x < 2 ^ 31) (kt : ¬ x = 0 → jW G mi d M0 tgt ls st M P) (kf : x = 0 → jW G mi d M0 (pc + 3) ls st M P) : jW G mi d M0 pc ls (.int (nI x) :: st) M P :=
  jw_if_ne hd ht (fun h => kt (fun q => h ((nI_0i hx).mpr q))) (fun h => kf ((nI_0i hx).mp h))
theorem jnar_b (b : Bool) : narrow .boolean (.int (jb b)) = .int (jb b) := by cases b <;> decide +kernel
theorem jfits_b (b : Bool) : fits .boolean (.int (jb b)) = true := by cases b <;> decide +kernel
theorem jnar_0 : narrow .boolean (.int (nI 0)) = .int (nI 0) := by decide +kernel
theorem jnar_1 : narrow .boolean (.int (nI 1)) = .int (nI 1) := by decide +kernel
/-! contracts that say just what comes out -/
def jE (G : Gh) (mi : Mi) (d : Nat) (As : List Value) (M : Mm) (v : Option Value) (M1 : Mm) : Prop := jT G mi d As M (fun r M' => r = .inl v ∧ M' = M1)
def jfi (mi1 : Mi) (n : Nat) : Prop := mi1.2.2.1 ≤ 40 ∧ mi1.1.cls ≠ "java/lang/invoke/MethodHandle" ∧ mi1.1.cls ≠ "java/lang/invoke/VarHandle" ∧ (parseMethodDescriptor mi1.1.desc).map (fun d => d.parameters.length) = some n
/-- not thrown -/
def jNt (P1 : Rs → Mm → Prop) : Prop := ∀ a M1, P1 (.inr a) M1 → False
theorem jx_cV {own C : String} {idx : Nat} {mi1 : Mi} {d1 n c : Nat} {As rest : List Value} {b : Nat} {P1 : Rs → Mm → Prop} (ho : own = mi.1.cls) (hd : decode mi.2.1 pc = .ok (.invokevirtual idx, 3)) (hlk : GoodIn lw_all (wsV own idx C mi1.1 (ws_ mi1.1 mi1.2.1 mi1.2.2.1 mi1.2.2.2.1))) (hhh : mi1.2.2.2.2 = []) (hf : jfi mi1 n) (hC : mi1.1.cls = C) {r : vw_C} (hr : jcls[c]? = some r) (hrC : r.1 = C) (hc : c < 99) (hb : jis M b c) (hT : jT G mi1 d1 (jr (some b) :: As) M P1) (hdd : d1 + 1 ≤ d) (hAs : As.length = n) (hst : st = As.reverse ++ jr (some b) :: rest) (hcat : (rest.map fun v => v.category).sum ≤ 8)
    (k : ∀ v M1, P1 (.inl v) M1 → jW G mi d M0 (pc + 3) ls (v.toList ++ rest) M1 P) (kx : ∀ a M1, P1 (.inr a) M1 → jX G mi d M0 pc ls a M1 P) : jW G mi d M0 pc ls st M P :=
  jw_callV ho hd hlk hhh rfl hT ⟨hdd, hf⟩ hC hAs hst hcat hb.1 hc hb.2.1 hr hrC k kx
theorem jx_cVE {own C : String} {idx : Nat} {mi1 : Mi} {d1 n c : Nat} {As rest : List Value} {b : Nat} {w : Value} {M1 : Mm} (ho : own = mi.1.cls) (hd : decode mi.2.1 pc = .ok (.invokevirtual idx, 3)) (hlk : GoodIn lw_all (wsV own idx C mi1.1 (ws_ mi1.1 mi1.2.1 mi1.2.2.1 mi1.2.2.2.1))) (hhh : mi1.2.2.2.2 = []) (hf : jfi mi1 n) (hC : mi1.1.cls = C) {r : vw_C} (hr : jcls[c]? = some r) (hrC : r.1 = C) (hc : c < 99) (hb : jis M b c) (hT : jE G mi1 d1 (jr (some b) :: As) M (some w) M1) (hdd : d1 + 1 ≤ d) (hAs : As.length = n) (hst : st = As.reverse ++ jr (some b) :: rest) (hcat : (rest.map fun v => v.category).sum ≤ 8)
    (k : jW G mi d M0 (pc + 3) ls (w :: rest) M1 P) : jW G mi d M0 pc ls st M P :=
  jx_cV ho hd hlk hhh hf hC hr hrC hc hb hT hdd hAs hst hcat (fun v M2 q => by obtain ⟨q1, q2⟩ := q; cases q1; cases q2; exact k) (fun a M2 q => by obtain ⟨q1, q2⟩ := q; cases q1)
theorem jx_cVEv {own C : String} {idx : Nat} {mi1 : Mi} {d1 n c : Nat} {As rest : List Value} {b : Nat} {M1 : Mm} (ho : own = mi.1.cls) (hd : decode mi.2.1 pc = .ok (.invokevirtual idx, 3)) (hlk : GoodIn lw_all (wsV own idx C mi1.1 (ws_ mi1.1 mi1.2.1 mi1.2.2.1 mi1.2.2.2.1))) (hhh : mi1.2.2.2.2 = []) (hf : jfi mi1 n) (hC : mi1.1.cls = C) {r : vw_C} (hr : jcls[c]? = some r) (hrC : r.1 = C) (hc : c < 99) (hb : jis M b c) (hT : jE G mi1 d1 (jr (some b) :: As) M none M1) (hdd : d1 + 1 ≤ d) (hAs : As.length = n) (hst : st = As.reverse ++ jr (some b) :: rest) (hcat : (rest.map fun v => v.category).sum ≤ 8)
    (k : jW G mi d M0 (pc + 3) ls rest M1 P) : jW G mi d M0 pc ls st M P :=
  jx_cV ho hd hlk hhh hf hC hr hrC hc hb hT hdd hAs hst hcat (fun v M2 q => by obtain ⟨q1, q2⟩ := q; cases q1; cases q2; exact k) (fun a M2 q => by obtain ⟨q1, q2⟩ := q; cases q1)
theorem jx_cS {own : String} {idx : Nat} {mi1 : Mi} {d1 n : Nat} {As rest : List Value} {P1 : Rs → Mm → Prop} (ho : own = mi.1.cls) (hd : decode mi.2.1 pc = .ok (.invokestatic idx, 3)) (hlk : GoodIn lw_all (va_wsS own idx mi1.1 (ws_ mi1.1 mi1.2.1 mi1.2.2.1 mi1.2.2.2.1))) (hhh : mi1.2.2.2.2 = []) (hf : jfi mi1 n) (hT : jT G mi1 d1 As M P1) (hdd : d1 + 1 ≤ d) (hAs : As.length = n) (hst : st = As.reverse ++ rest) (hcat : (rest.map fun v => v.category).sum ≤ 8)
    (k : ∀ v M1, P1 (.inl v) M1 → jW G mi d M0 (pc + 3) ls (v.toList ++ rest) M1 P) (kx : jNt P1) : jW G mi d M0 pc ls st M P :=
  jw_callS ho hd hlk hhh hT ⟨hdd, hf⟩ hAs hst hcat k kx
theorem jNtE {v : Option Value} {M1 : Mm} : jNt (fun r M' => r = .inl v ∧ M' = M1) := fun a M2 q => by obtain ⟨q1, q2⟩ := q; cases q1
theorem jx_cSE {own : String} {idx : Nat} {mi1 : Mi} {d1 n : Nat} {As rest : List Value} {w : Value} {M1 : Mm} (ho : own = mi.1.cls) (hd : decode mi.2.1 pc = .ok (.invokestatic idx, 3)) (hlk : GoodIn lw_all (va_wsS own idx mi1.1 (ws_ mi1.1 mi1.2.1 mi1.2.2.1 mi1.2.2.2.1))) (hhh : mi1.2.2.2.2 = []) (hf : jfi mi1 n) (hT : jE G mi1 d1 As M (some w) M1) (hdd : d1 + 1 ≤ d) (hAs : As.length = n) (hst : st = As.reverse ++ rest) (hcat : (rest.map fun v => v.category).sum ≤ 8)
    (k : jW G mi d M0 (pc + 3) ls (w :: rest) M1 P) : jW G mi d M0 pc ls st M P :=
  jx_cS ho hd hlk hhh hf hT hdd hAs hst hcat (fun v M2 q => by obtain ⟨q1, q2⟩ := q; cases q1; cases q2; exact k) jNtE
theorem jx_cSEv {own : String} {idx : Nat} {mi1 : Mi} {d1 n : Nat} {As rest : List Value} {M1 : Mm} (ho : own = mi.1.cls) (hd : decode mi.2.1 pc = .ok (.invokestatic idx, 3)) (hlk : GoodIn lw_all (va_wsS own idx mi1.1 (ws_ mi1.1 mi1.2.1 mi1.2.2.1 mi1.2.2.2.1))) (hhh : mi1.2.2.2.2 = []) (hf : jfi mi1 n) (hT : jE G mi1 d1 As M none M1) (hdd : d1 + 1 ≤ d) (hAs : As.length = n) (hst : st = As.reverse ++ rest) (hcat : (rest.map fun v => v.category).sum ≤ 8)
    (k : jW G mi d M0 (pc + 3) ls rest M1 P) : jW G mi d M0 pc ls st M P :=
  jx_cS ho hd hlk hhh hf hT hdd hAs hst hcat (fun v M2 q => by obtain ⟨q1, q2⟩ := q; cases q1; cases q2; exact k) jNtE
theorem jx_cSN {own host : String} {idx : Nat} {mi1 : Mi} {d1 n : Nat} {As rest : List Value} {P1 : Rs → Mm → Prop} (ho : own = mi.1.cls) (hd : decode mi.2.1 pc = .ok (.invokestatic idx, 3)) (hl9 : Cond.methodLinkNest own idx mi1.1 host ∈ lw_tbl) (hini : Cond.initialized mi1.1.cls ∈ lw_all) (hst9 : Cond.static mi1.1 ∈ lw_all) (hco : Cond.code mi1.1 mi1.2.1 mi1.2.2.1 mi1.2.2.2.1 ∈ lw_all) (hhh : mi1.2.2.2.2 = []) (hf : jfi mi1 n) (hT : jT G mi1 d1 As M P1) (hdd : d1 + 1 ≤ d) (hAs : As.length = n) (hst : st = As.reverse ++ rest) (hcat : (rest.map fun v => v.category).sum ≤ 8)
    (k : ∀ v M1, P1 (.inl v) M1 → jW G mi d M0 (pc + 3) ls (v.toList ++ rest) M1 P) (kx : jNt P1) : jW G mi d M0 pc ls st M P :=
  jw_callSN ho hd hl9 hini hst9 hco hhh hT ⟨hdd, hf⟩ hAs hst hcat k kx
theorem jx_cSNE {own host : String} {idx : Nat} {mi1 : Mi} {d1 n : Nat} {As rest : List Value} {w : Value} {M1 : Mm} (ho : own = mi.1.cls) (hd : decode mi.2.1 pc = .ok (.invokestatic idx, 3)) (hl9 : Cond.methodLinkNest own idx mi1.1 host ∈ lw_tbl) (hini : Cond.initialized mi1.1.cls ∈ lw_all) (hst9 : Cond.static mi1.1 ∈ lw_all) (hco : Cond.code mi1.1 mi1.2.1 mi1.2.2.1 mi1.2.2.2.1 ∈ lw_all) (hhh : mi1.2.2.2.2 = []) (hf : jfi mi1 n) (hT : jE G mi1 d1 As M (some w) M1) (hdd : d1 + 1 ≤ d) (hAs : As.length = n) (hst : st = As.reverse ++ rest) (hcat : (rest.map fun v => v.category).sum ≤ 8)
    (k : jW G mi d M0 (pc + 3) ls (w :: rest) M1 P) : jW G mi d M0 pc ls st M P :=
  jx_cSN ho hd hl9 hini hst9 hco hhh hf hT hdd hAs hst hcat (fun v M2 q => by obtain ⟨q1, q2⟩ := q; cases q1; cases q2; exact k) jNtE
theorem jx_cIEv {own : String} {idx : Nat} {mi1 : Mi} {d1 n : Nat} {As rest : List Value} {b : Nat} {M1 : Mm} (ho : own = mi.1.cls) (hd : decode mi.2.1 pc = .ok (.invokespecial idx, 3)) (hl9 : Cond.methodLink own idx mi1.1 ∈ lw_all) (hini : Cond.initialized mi1.1.cls ∈ lw_all) (hin9 : Cond.instanceMethod mi1.1 ∈ lw_all) (hco : Cond.code mi1.1 mi1.2.1 mi1.2.2.1 mi1.2.2.2.1 ∈ lw_all) (hrn : mi1.2.2.2.1 = none) (hnm : mi1.1.name = "<init>") (hhh : mi1.2.2.2.2 = []) (hf : jfi mi1 n) (hT : jE G mi1 d1 (jr (some b) :: As) M none M1) (hdd : d1 + 1 ≤ d) (hAs : As.length = n) (hst : st = As.reverse ++ jr (some b) :: rest) (hcat : (rest.map fun v => v.category).sum ≤ 8)
    (k : jW G mi d M0 (pc + 3) ls rest M1 P) : jW G mi d M0 pc ls st M P :=
  jw_callI ho hd hl9 hini hin9 hco hrn hnm hhh rfl hT ⟨hdd, hf⟩ hAs hst hcat (fun v M2 q => by obtain ⟨q1, q2⟩ := q; cases q1; cases q2; exact k) jNtE
theorem jx_cINEv {own host : String} {idx : Nat} {mi1 : Mi} {d1 n : Nat} {As rest : List Value} {b : Nat} {M1 : Mm} (ho : own = mi.1.cls) (hd : decode mi.2.1 pc = .ok (.invokespecial idx, 3)) (hl9 : Cond.methodLinkNest own idx mi1.1 host ∈ lw_tbl) (hini : Cond.initialized mi1.1.cls ∈ lw_all) (hin9 : Cond.instanceMethod mi1.1 ∈ lw_all) (hco : Cond.code mi1.1 mi1.2.1 mi1.2.2.1 mi1.2.2.2.1 ∈ lw_all) (hrn : mi1.2.2.2.1 = none) (hnm : mi1.1.name = "<init>") (hhh : mi1.2.2.2.2 = []) (hf : jfi mi1 n) (hT : jE G mi1 d1 (jr (some b) :: As) M none M1) (hdd : d1 + 1 ≤ d) (hAs : As.length = n) (hst : st = As.reverse ++ jr (some b) :: rest) (hcat : (rest.map fun v => v.category).sum ≤ 8)
    (k : jW G mi d M0 (pc + 3) ls rest M1 P) : jW G mi d M0 pc ls st M P :=
  jw_callIN ho hd hl9 hini hin9 hco hrn hnm hhh rfl hT ⟨hdd, hf⟩ hAs hst hcat (fun v M2 q => by obtain ⟨q1, q2⟩ := q; cases q1; cases q2; exact k) jNtE
theorem jE.of {G : Gh} {mi : Mi} {d : Nat} {As : List Value} {M : Mm} {v : Option Value} {M1 : Mm} (hy : plainName mi.1.cls = true) (hhh : mi.2.2.2.2 = []) (hlen : jlen As ≤ mi.2.2.1) (h : jW G mi d M 0 (jent As mi.2.2.1) [] M (fun r M' => r = .inl v ∧ M' = M1)) : jE G mi d As M v M1 := jT.of hy hhh hlen h
end JWR
section JWP
variable {G : Gh} {mi : Mi} {d : Nat} {M0 : Mm} {pc : Nat} {ls : List (Option Value)} {st : List Value} {M : Mm} {P : Rs → Mm → Prop}
theorem jr_cat (o : Option Nat) : (jr o).category = 1 := by cases o <;> rfl
/-- kinds of ends: an int, a reference, a long, nothing; or something or the one thrown thing (at 67) -/
def jPi (Q : Int32 → Mm → Prop) : Rs → Mm → Prop := fun r M' => ∃ x, r = .inl (some (.int x)) ∧ Q x M'
def jPr (Q : Option Nat → Mm → Prop) : Rs → Mm → Prop := fun r M' => ∃ x, r = .inl (some (jr x)) ∧ Q x M'
def jPl (Q : Int64 → Mm → Prop) : Rs → Mm → Prop := fun r M' => ∃ x, r = .inl (some (.long x)) ∧ Q x M'
def jPv (Q : Mm → Prop) : Rs → Mm → Prop := fun r M' => r = .inl none ∧ Q M'
def jPt (Q : Option Value → Mm → Prop) (X : Mm → Prop) : Rs → Mm → Prop := fun r M' => (∃ v, r = .inl v ∧ Q v M') ∨ (r = .inr 67 ∧ X M')
theorem jNt_i {Q : Int32 → Mm → Prop} : jNt (jPi Q) := fun a M1 q => by obtain ⟨x, q1, q2⟩ := q; cases q1
theorem jNt_r {Q : Option Nat → Mm → Prop} : jNt (jPr Q) := fun a M1 q => by obtain ⟨x, q1, q2⟩ := q; cases q1
theorem jNt_l {Q : Int64 → Mm → Prop} : jNt (jPl Q) := fun a M1 q => by obtain ⟨x, q1, q2⟩ := q; cases q1
theorem jNt_v {Q : Mm → Prop} : jNt (jPv Q) := fun a M1 q => by obtain ⟨q1, q2⟩ := q; cases q1
theorem jx_cVi {own C : String} {idx : Nat} {mi1 : Mi} {d1 n c : Nat} {As rest : List Value} {b : Nat} {Q : Int32 → Mm → Prop} (ho : own = mi.1.cls) (hd : decode mi.2.1 pc = .ok (.invokevirtual idx, 3)) (hlk : GoodIn lw_all (wsV own idx C mi1.1 (ws_ mi1.1 mi1.2.1 mi1.2.2.1 mi1.2.2.2.1))) (hhh : mi1.2.2.2.2 = []) (hf : jfi mi1 n) (hC : mi1.1.cls = C) {r : vw_C} (hr : jcls[c]? = some r) (hrC : r.1 = C) (hc : c < 99) (hb : jis M b c) (hT : jT G mi1 d1 (jr (some b) :: As) M (jPi Q)) (hdd : d1 + 1 ≤ d) (hAs : As.length = n) (hst : st = As.reverse ++ jr (some b) :: rest) (hcat : (rest.map fun v => v.category).sum ≤ 8) (k : ∀ x M1, Q x M1 → jW G mi d M0 (pc + 3) ls (.int x :: rest) M1 P) : jW G mi d M0 pc ls st M P :=
  jx_cV ho hd hlk hhh hf hC hr hrC hc hb hT hdd hAs hst hcat (fun v M2 q => by obtain ⟨x, q1, q2⟩ := q; cases q1; exact k x M2 q2) (fun a M2 q => (jNt_i a M2 q).elim)
theorem jx_cSi {own : String} {idx : Nat} {mi1 : Mi} {d1 n : Nat} {As rest : List Value} {Q : Int32 → Mm → Prop} (ho : own = mi.1.cls) (hd : decode mi.2.1 pc = .ok (.invokestatic idx, 3)) (hlk : GoodIn lw_all (va_wsS own idx mi1.1 (ws_ mi1.1 mi1.2.1 mi1.2.2.1 mi1.2.2.2.1))) (hhh : mi1.2.2.2.2 = []) (hf : jfi mi1 n) (hT : jT G mi1 d1 As M (jPi Q)) (hdd : d1 + 1 ≤ d) (hAs : As.length = n) (hst : st = As.reverse ++ rest) (hcat : (rest.map fun v => v.category).sum ≤ 8) (k : ∀ x M1, Q x M1 → jW G mi d M0 (pc + 3) ls (.int x :: rest) M1 P) : jW G mi d M0 pc ls st M P :=
  jx_cS ho hd hlk hhh hf hT hdd hAs hst hcat (fun v M2 q => by obtain ⟨x, q1, q2⟩ := q; cases q1; exact k x M2 q2) jNt_i
theorem jx_cSNi {own host : String} {idx : Nat} {mi1 : Mi} {d1 n : Nat} {As rest : List Value} {Q : Int32 → Mm → Prop} (ho : own = mi.1.cls) (hd : decode mi.2.1 pc = .ok (.invokestatic idx, 3)) (hl9 : Cond.methodLinkNest own idx mi1.1 host ∈ lw_tbl) (hini : Cond.initialized mi1.1.cls ∈ lw_all) (hst9 : Cond.static mi1.1 ∈ lw_all) (hco : Cond.code mi1.1 mi1.2.1 mi1.2.2.1 mi1.2.2.2.1 ∈ lw_all) (hhh : mi1.2.2.2.2 = []) (hf : jfi mi1 n) (hT : jT G mi1 d1 As M (jPi Q)) (hdd : d1 + 1 ≤ d) (hAs : As.length = n) (hst : st = As.reverse ++ rest) (hcat : (rest.map fun v => v.category).sum ≤ 8) (k : ∀ x M1, Q x M1 → jW G mi d M0 (pc + 3) ls (.int x :: rest) M1 P) : jW G mi d M0 pc ls st M P :=
  jx_cSN ho hd hl9 hini hst9 hco hhh hf hT hdd hAs hst hcat (fun v M2 q => by obtain ⟨x, q1, q2⟩ := q; cases q1; exact k x M2 q2) jNt_i
theorem jx_cVr {own C : String} {idx : Nat} {mi1 : Mi} {d1 n c : Nat} {As rest : List Value} {b : Nat} {Q : Option Nat → Mm → Prop} (ho : own = mi.1.cls) (hd : decode mi.2.1 pc = .ok (.invokevirtual idx, 3)) (hlk : GoodIn lw_all (wsV own idx C mi1.1 (ws_ mi1.1 mi1.2.1 mi1.2.2.1 mi1.2.2.2.1))) (hhh : mi1.2.2.2.2 = []) (hf : jfi mi1 n) (hC : mi1.1.cls = C) {r : vw_C} (hr : jcls[c]? = some r) (hrC : r.1 = C) (hc : c < 99) (hb : jis M b c) (hT : jT G mi1 d1 (jr (some b) :: As) M (jPr Q)) (hdd : d1 + 1 ≤ d) (hAs : As.length = n) (hst : st = As.reverse ++ jr (some b) :: rest) (hcat : (rest.map fun v => v.category).sum ≤ 8) (k : ∀ x M1, Q x M1 → jW G mi d M0 (pc + 3) ls (jr x :: rest) M1 P) : jW G mi d M0 pc ls st M P :=
  jx_cV ho hd hlk hhh hf hC hr hrC hc hb hT hdd hAs hst hcat (fun v M2 q => by obtain ⟨x, q1, q2⟩ := q; cases q1; exact k x M2 q2) (fun a M2 q => (jNt_r a M2 q).elim)
theorem jx_cSr {own : String} {idx : Nat} {mi1 : Mi} {d1 n : Nat} {As rest : List Value} {Q : Option Nat → Mm → Prop} (ho : own = mi.1.cls) (hd : decode mi.2.1 pc = .ok (.invokestatic idx, 3)) (hlk : GoodIn lw_all (va_wsS own idx mi1.1 (ws_ mi1.1 mi1.2.1 mi1.2.2.1 mi1.2.2.2.1))) (hhh : mi1.2.2.2.2 = []) (hf : jfi mi1 n) (hT : jT G mi1 d1 As M (jPr Q)) (hdd : d1 + 1 ≤ d) (hAs : As.length = n) (hst : st = As.reverse ++ rest) (hcat : (rest.map fun v => v.category).sum ≤ 8) (k : ∀ x M1, Q x M1 → jW G mi d M0 (pc + 3) ls (jr x :: rest) M1 P) : jW G mi d M0 pc ls st M P :=
  jx_cS ho hd hlk hhh hf hT hdd hAs hst hcat (fun v M2 q => by obtain ⟨x, q1, q2⟩ := q; cases q1; exact k x M2 q2) jNt_r
theorem jx_cSNr {own host : String} {idx : Nat} {mi1 : Mi} {d1 n : Nat} {As rest : List Value} {Q : Option Nat → Mm → Prop} (ho : own = mi.1.cls) (hd : decode mi.2.1 pc = .ok (.invokestatic idx, 3)) (hl9 : Cond.methodLinkNest own idx mi1.1 host ∈ lw_tbl) (hini : Cond.initialized mi1.1.cls ∈ lw_all) (hst9 : Cond.static mi1.1 ∈ lw_all) (hco : Cond.code mi1.1 mi1.2.1 mi1.2.2.1 mi1.2.2.2.1 ∈ lw_all) (hhh : mi1.2.2.2.2 = []) (hf : jfi mi1 n) (hT : jT G mi1 d1 As M (jPr Q)) (hdd : d1 + 1 ≤ d) (hAs : As.length = n) (hst : st = As.reverse ++ rest) (hcat : (rest.map fun v => v.category).sum ≤ 8) (k : ∀ x M1, Q x M1 → jW G mi d M0 (pc + 3) ls (jr x :: rest) M1 P) : jW G mi d M0 pc ls st M P :=
  jx_cSN ho hd hl9 hini hst9 hco hhh hf hT hdd hAs hst hcat (fun v M2 q => by obtain ⟨x, q1, q2⟩ := q; cases q1; exact k x M2 q2) jNt_r
theorem jx_cVl {own C : String} {idx : Nat} {mi1 : Mi} {d1 n c : Nat} {As rest : List Value} {b : Nat} {Q : Int64 → Mm → Prop} (ho : own = mi.1.cls) (hd : decode mi.2.1 pc = .ok (.invokevirtual idx, 3)) (hlk : GoodIn lw_all (wsV own idx C mi1.1 (ws_ mi1.1 mi1.2.1 mi1.2.2.1 mi1.2.2.2.1))) (hhh : mi1.2.2.2.2 = []) (hf : jfi mi1 n) (hC : mi1.1.cls = C) {r : vw_C} (hr : jcls[c]? = some r) (hrC : r.1 = C) (hc : c < 99) (hb : jis M b c) (hT : jT G mi1 d1 (jr (some b) :: As) M (jPl Q)) (hdd : d1 + 1 ≤ d) (hAs : As.length = n) (hst : st = As.reverse ++ jr (some b) :: rest) (hcat : (rest.map fun v => v.category).sum ≤ 8) (k : ∀ x M1, Q x M1 → jW G mi d M0 (pc + 3) ls (.long x :: rest) M1 P) : jW G mi d M0 pc ls st M P :=
  jx_cV ho hd hlk hhh hf hC hr hrC hc hb hT hdd hAs hst hcat (fun v M2 q => by obtain ⟨x, q1, q2⟩ := q; cases q1; exact k x M2 q2) (fun a M2 q => (jNt_l a M2 q).elim)
theorem jx_cSl {own : String} {idx : Nat} {mi1 : Mi} {d1 n : Nat} {As rest : List Value} {Q : Int64 → Mm → Prop} (ho : own = mi.1.cls) (hd : decode mi.2.1 pc = .ok (.invokestatic idx, 3)) (hlk : GoodIn lw_all (va_wsS own idx mi1.1 (ws_ mi1.1 mi1.2.1 mi1.2.2.1 mi1.2.2.2.1))) (hhh : mi1.2.2.2.2 = []) (hf : jfi mi1 n) (hT : jT G mi1 d1 As M (jPl Q)) (hdd : d1 + 1 ≤ d) (hAs : As.length = n) (hst : st = As.reverse ++ rest) (hcat : (rest.map fun v => v.category).sum ≤ 8) (k : ∀ x M1, Q x M1 → jW G mi d M0 (pc + 3) ls (.long x :: rest) M1 P) : jW G mi d M0 pc ls st M P :=
  jx_cS ho hd hlk hhh hf hT hdd hAs hst hcat (fun v M2 q => by obtain ⟨x, q1, q2⟩ := q; cases q1; exact k x M2 q2) jNt_l
theorem jx_cSNl {own host : String} {idx : Nat} {mi1 : Mi} {d1 n : Nat} {As rest : List Value} {Q : Int64 → Mm → Prop} (ho : own = mi.1.cls) (hd : decode mi.2.1 pc = .ok (.invokestatic idx, 3)) (hl9 : Cond.methodLinkNest own idx mi1.1 host ∈ lw_tbl) (hini : Cond.initialized mi1.1.cls ∈ lw_all) (hst9 : Cond.static mi1.1 ∈ lw_all) (hco : Cond.code mi1.1 mi1.2.1 mi1.2.2.1 mi1.2.2.2.1 ∈ lw_all) (hhh : mi1.2.2.2.2 = []) (hf : jfi mi1 n) (hT : jT G mi1 d1 As M (jPl Q)) (hdd : d1 + 1 ≤ d) (hAs : As.length = n) (hst : st = As.reverse ++ rest) (hcat : (rest.map fun v => v.category).sum ≤ 8) (k : ∀ x M1, Q x M1 → jW G mi d M0 (pc + 3) ls (.long x :: rest) M1 P) : jW G mi d M0 pc ls st M P :=
  jx_cSN ho hd hl9 hini hst9 hco hhh hf hT hdd hAs hst hcat (fun v M2 q => by obtain ⟨x, q1, q2⟩ := q; cases q1; exact k x M2 q2) jNt_l
theorem jx_cVv {own C : String} {idx : Nat} {mi1 : Mi} {d1 n c : Nat} {As rest : List Value} {b : Nat} {Q : Mm → Prop} (ho : own = mi.1.cls) (hd : decode mi.2.1 pc = .ok (.invokevirtual idx, 3)) (hlk : GoodIn lw_all (wsV own idx C mi1.1 (ws_ mi1.1 mi1.2.1 mi1.2.2.1 mi1.2.2.2.1))) (hhh : mi1.2.2.2.2 = []) (hf : jfi mi1 n) (hC : mi1.1.cls = C) {r : vw_C} (hr : jcls[c]? = some r) (hrC : r.1 = C) (hc : c < 99) (hb : jis M b c) (hT : jT G mi1 d1 (jr (some b) :: As) M (jPv Q)) (hdd : d1 + 1 ≤ d) (hAs : As.length = n) (hst : st = As.reverse ++ jr (some b) :: rest) (hcat : (rest.map fun v => v.category).sum ≤ 8) (k : ∀ M1, Q M1 → jW G mi d M0 (pc + 3) ls (rest) M1 P) : jW G mi d M0 pc ls st M P :=
  jx_cV ho hd hlk hhh hf hC hr hrC hc hb hT hdd hAs hst hcat (fun v M2 q => by obtain ⟨q1, q2⟩ := q; cases q1; exact k M2 q2) (fun a M2 q => (jNt_v a M2 q).elim)
theorem jx_cSv {own : String} {idx : Nat} {mi1 : Mi} {d1 n : Nat} {As rest : List Value} {Q : Mm → Prop} (ho : own = mi.1.cls) (hd : decode mi.2.1 pc = .ok (.invokestatic idx, 3)) (hlk : GoodIn lw_all (va_wsS own idx mi1.1 (ws_ mi1.1 mi1.2.1 mi1.2.2.1 mi1.2.2.2.1))) (hhh : mi1.2.2.2.2 = []) (hf : jfi mi1 n) (hT : jT G mi1 d1 As M (jPv Q)) (hdd : d1 + 1 ≤ d) (hAs : As.length = n) (hst : st = As.reverse ++ rest) (hcat : (rest.map fun v => v.category).sum ≤ 8) (k : ∀ M1, Q M1 → jW G mi d M0 (pc + 3) ls (rest) M1 P) : jW G mi d M0 pc ls st M P :=
  jx_cS ho hd hlk hhh hf hT hdd hAs hst hcat (fun v M2 q => by obtain ⟨q1, q2⟩ := q; cases q1; exact k M2 q2) jNt_v
theorem jx_cSNv {own host : String} {idx : Nat} {mi1 : Mi} {d1 n : Nat} {As rest : List Value} {Q : Mm → Prop} (ho : own = mi.1.cls) (hd : decode mi.2.1 pc = .ok (.invokestatic idx, 3)) (hl9 : Cond.methodLinkNest own idx mi1.1 host ∈ lw_tbl) (hini : Cond.initialized mi1.1.cls ∈ lw_all) (hst9 : Cond.static mi1.1 ∈ lw_all) (hco : Cond.code mi1.1 mi1.2.1 mi1.2.2.1 mi1.2.2.2.1 ∈ lw_all) (hhh : mi1.2.2.2.2 = []) (hf : jfi mi1 n) (hT : jT G mi1 d1 As M (jPv Q)) (hdd : d1 + 1 ≤ d) (hAs : As.length = n) (hst : st = As.reverse ++ rest) (hcat : (rest.map fun v => v.category).sum ≤ 8) (k : ∀ M1, Q M1 → jW G mi d M0 (pc + 3) ls (rest) M1 P) : jW G mi d M0 pc ls st M P :=
  jx_cSN ho hd hl9 hini hst9 hco hhh hf hT hdd hAs hst hcat (fun v M2 q => by obtain ⟨q1, q2⟩ := q; cases q1; exact k M2 q2) jNt_v
theorem jx_cIv {own : String} {idx : Nat} {mi1 : Mi} {d1 n : Nat} {As rest : List Value} {b : Nat} {Q : Mm → Prop} (ho : own = mi.1.cls) (hd : decode mi.2.1 pc = .ok (.invokespecial idx, 3)) (hl9 : Cond.methodLink own idx mi1.1 ∈ lw_all) (hini : Cond.initialized mi1.1.cls ∈ lw_all) (hin9 : Cond.instanceMethod mi1.1 ∈ lw_all) (hco : Cond.code mi1.1 mi1.2.1 mi1.2.2.1 mi1.2.2.2.1 ∈ lw_all) (hrn : mi1.2.2.2.1 = none) (hnm : mi1.1.name = "<init>") (hhh : mi1.2.2.2.2 = []) (hf : jfi mi1 n) (hT : jT G mi1 d1 (jr (some b) :: As) M (jPv Q)) (hdd : d1 + 1 ≤ d) (hAs : As.length = n) (hst : st = As.reverse ++ jr (some b) :: rest) (hcat : (rest.map fun v => v.category).sum ≤ 8) (k : ∀ M1, Q M1 → jW G mi d M0 (pc + 3) ls (rest) M1 P) : jW G mi d M0 pc ls st M P :=
  jw_callI ho hd hl9 hini hin9 hco hrn hnm hhh rfl hT ⟨hdd, hf⟩ hAs hst hcat (fun v M2 q => by obtain ⟨q1, q2⟩ := q; cases q1; exact k M2 q2) jNt_v
theorem jx_cINv {own host : String} {idx : Nat} {mi1 : Mi} {d1 n : Nat} {As rest : List Value} {b : Nat} {Q : Mm → Prop} (ho : own = mi.1.cls) (hd : decode mi.2.1 pc = .ok (.invokespecial idx, 3)) (hl9 : Cond.methodLinkNest own idx mi1.1 host ∈ lw_tbl) (hini : Cond.initialized mi1.1.cls ∈ lw_all) (hin9 : Cond.instanceMethod mi1.1 ∈ lw_all) (hco : Cond.code mi1.1 mi1.2.1 mi1.2.2.1 mi1.2.2.2.1 ∈ lw_all) (hrn : mi1.2.2.2.1 = none) (hnm : mi1.1.name = "<init>") (hhh : mi1.2.2.2.2 = []) (hf : jfi mi1 n) (hT : jT G mi1 d1 (jr (some b) :: As) M (jPv Q)) (hdd : d1 + 1 ≤ d) (hAs : As.length = n) (hst : st = As.reverse ++ jr (some b) :: rest) (hcat : (rest.map fun v => v.category).sum ≤ 8) (k : ∀ M1, Q M1 → jW G mi d M0 (pc + 3) ls (rest) M1 P) : jW G mi d M0 pc ls st M P :=
  jw_callIN ho hd hl9 hini hin9 hco hrn hnm hhh rfl hT ⟨hdd, hf⟩ hAs hst hcat (fun v M2 q => by obtain ⟨q1, q2⟩ := q; cases q1; exact k M2 q2) jNt_v
/-- a call that may throw: what came back, or the throw -/
theorem jx_cVt {own C : String} {idx : Nat} {mi1 : Mi} {d1 n c : Nat} {As rest : List Value} {b : Nat} {Q : Option Value → Mm → Prop} {X : Mm → Prop} (ho : own = mi.1.cls) (hd : decode mi.2.1 pc = .ok (.invokevirtual idx, 3)) (hlk : GoodIn lw_all (wsV own idx C mi1.1 (ws_ mi1.1 mi1.2.1 mi1.2.2.1 mi1.2.2.2.1))) (hhh : mi1.2.2.2.2 = []) (hf : jfi mi1 n) (hC : mi1.1.cls = C) {r : vw_C} (hr : jcls[c]? = some r) (hrC : r.1 = C) (hc : c < 99) (hb : jis M b c) (hT : jT G mi1 d1 (jr (some b) :: As) M (jPt Q X)) (hdd : d1 + 1 ≤ d) (hAs : As.length = n) (hst : st = As.reverse ++ jr (some b) :: rest) (hcat : (rest.map fun v => v.category).sum ≤ 8) (k : ∀ v M1, Q v M1 → jW G mi d M0 (pc + 3) ls (v.toList ++ rest) M1 P) (kx : ∀ M1, X M1 → jX G mi d M0 pc ls 67 M1 P) : jW G mi d M0 pc ls st M P :=
  jx_cV ho hd hlk hhh hf hC hr hrC hc hb hT hdd hAs hst hcat (fun v M2 q => by rcases q with ⟨w, q1, q2⟩ | ⟨q1, q2⟩ <;> cases q1; exact k _ M2 q2) (fun a M2 q => by rcases q with ⟨w, q1, q2⟩ | ⟨q1, q2⟩ <;> cases q1; exact kx M2 q2)
theorem jE_T {As : List Value} {v : Option Value} {M1 : Mm} {Q : Rs → Mm → Prop} (h : jE G mi d As M v M1) (hQ : Q (.inl v) M1) : jT G mi d As M Q := jT.mono h (fun r M' q => by obtain ⟨q1, q2⟩ := q; cases q1; cases q2; exact hQ)
end JWP
theorem fi_J0_init : jfi mi_J0_init 0 := ⟨by decide, by decide +kernel, by decide +kernel, by decide +kernel⟩
theorem fi_J0_init_2 : jfi mi_J0_init_2 4 := ⟨by decide, by decide +kernel, by decide +kernel, by decide +kernel⟩
theorem fi_J1_init : jfi mi_J1_init 4 := ⟨by decide, by decide +kernel, by decide +kernel, by decide +kernel⟩
theorem fi_J1_init_2 : jfi mi_J1_init_2 0 := ⟨by decide, by decide +kernel, by decide +kernel, by decide +kernel⟩
theorem fi_J10_init : jfi mi_J10_init 0 := ⟨by decide, by decide +kernel, by decide +kernel, by decide +kernel⟩
theorem fi_J11_getUTF16Char : jfi mi_J11_getUTF16Char 2 := ⟨by decide, by decide +kernel, by decide +kernel, by decide +kernel⟩
theorem fi_J2_init : jfi mi_J2_init 4 := ⟨by decide, by decide +kernel, by decide +kernel, by decide +kernel⟩
theorem fi_J2_init_2 : jfi mi_J2_init_2 0 := ⟨by decide, by decide +kernel, by decide +kernel, by decide +kernel⟩
theorem fi_J3_init : jfi mi_J3_init 3 := ⟨by decide, by decide +kernel, by decide +kernel, by decide +kernel⟩
theorem fi_J3_rangeCheck : jfi mi_J3_rangeCheck 3 := ⟨by decide, by decide +kernel, by decide +kernel, by decide +kernel⟩
theorem fi_J3_checkBoundsOffCount : jfi mi_J3_checkBoundsOffCount 3 := ⟨by decide, by decide +kernel, by decide +kernel, by decide +kernel⟩
theorem fi_J3_init_2 : jfi mi_J3_init_2 4 := ⟨by decide, by decide +kernel, by decide +kernel, by decide +kernel⟩
theorem fi_J3_hashCode : jfi mi_J3_hashCode 0 := ⟨by decide, by decide +kernel, by decide +kernel, by decide +kernel⟩
theorem fi_J3_isLatin1 : jfi mi_J3_isLatin1 0 := ⟨by decide, by decide +kernel, by decide +kernel, by decide +kernel⟩
theorem fi_J3_equals : jfi mi_J3_equals 1 := ⟨by decide, by decide +kernel, by decide +kernel, by decide +kernel⟩
theorem fi_J3_length : jfi mi_J3_length 0 := ⟨by decide, by decide +kernel, by decide +kernel, by decide +kernel⟩
theorem fi_J3_coder : jfi mi_J3_coder 0 := ⟨by decide, by decide +kernel, by decide +kernel, by decide +kernel⟩
theorem fi_J3_charAt : jfi mi_J3_charAt 1 := ⟨by decide, by decide +kernel, by decide +kernel, by decide +kernel⟩
theorem fi_J3_checkIndex : jfi mi_J3_checkIndex 2 := ⟨by decide, by decide +kernel, by decide +kernel, by decide +kernel⟩
theorem fi_J4_checkFromIndexSize : jfi mi_J4_checkFromIndexSize 4 := ⟨by decide, by decide +kernel, by decide +kernel, by decide +kernel⟩
theorem fi_J4_checkIndex : jfi mi_J4_checkIndex 3 := ⟨by decide, by decide +kernel, by decide +kernel, by decide +kernel⟩
theorem fi_J5_compress : jfi mi_J5_compress 3 := ⟨by decide, by decide +kernel, by decide +kernel, by decide +kernel⟩
theorem fi_J5_compress_2 : jfi mi_J5_compress_2 5 := ⟨by decide, by decide +kernel, by decide +kernel, by decide +kernel⟩
theorem fi_J5_toBytes : jfi mi_J5_toBytes 3 := ⟨by decide, by decide +kernel, by decide +kernel, by decide +kernel⟩
theorem fi_J5_newBytesFor : jfi mi_J5_newBytesFor 1 := ⟨by decide, by decide +kernel, by decide +kernel, by decide +kernel⟩
theorem fi_J5_newBytesLength : jfi mi_J5_newBytesLength 1 := ⟨by decide, by decide +kernel, by decide +kernel, by decide +kernel⟩
theorem fi_J5_putChar : jfi mi_J5_putChar 3 := ⟨by decide, by decide +kernel, by decide +kernel, by decide +kernel⟩
theorem fi_J5_length : jfi mi_J5_length 1 := ⟨by decide, by decide +kernel, by decide +kernel, by decide +kernel⟩
theorem fi_J5_getChar : jfi mi_J5_getChar 2 := ⟨by decide, by decide +kernel, by decide +kernel, by decide +kernel⟩
theorem fi_J5_compress_3 : jfi mi_J5_compress_3 5 := ⟨by decide, by decide +kernel, by decide +kernel, by decide +kernel⟩
theorem fi_J5_checkBoundsOffCount : jfi mi_J5_checkBoundsOffCount 3 := ⟨by decide, by decide +kernel, by decide +kernel, by decide +kernel⟩
theorem fi_J5_coderFromArrayLen : jfi mi_J5_coderFromArrayLen 2 := ⟨by decide, by decide +kernel, by decide +kernel, by decide +kernel⟩
theorem fi_J5_hashCode : jfi mi_J5_hashCode 1 := ⟨by decide, by decide +kernel, by decide +kernel, by decide +kernel⟩
theorem fi_J5_charAt : jfi mi_J5_charAt 2 := ⟨by decide, by decide +kernel, by decide +kernel, by decide +kernel⟩
theorem fi_J5_checkIndex : jfi mi_J5_checkIndex 2 := ⟨by decide, by decide +kernel, by decide +kernel, by decide +kernel⟩
theorem fi_J6_hashCode : jfi mi_J6_hashCode 1 := ⟨by decide, by decide +kernel, by decide +kernel, by decide +kernel⟩
theorem fi_J6_equals : jfi mi_J6_equals 2 := ⟨by decide, by decide +kernel, by decide +kernel, by decide +kernel⟩
theorem fi_J6_charAt : jfi mi_J6_charAt 2 := ⟨by decide, by decide +kernel, by decide +kernel, by decide +kernel⟩
theorem fi_J7_vectorizedHashCode : jfi mi_J7_vectorizedHashCode 5 := ⟨by decide, by decide +kernel, by decide +kernel, by decide +kernel⟩
theorem fi_J7_signedHashCode : jfi mi_J7_signedHashCode 4 := ⟨by decide, by decide +kernel, by decide +kernel, by decide +kernel⟩
theorem fi_J7_utf16hashCode : jfi mi_J7_utf16hashCode 4 := ⟨by decide, by decide +kernel, by decide +kernel, by decide +kernel⟩
theorem fi_J7_hashCode : jfi mi_J7_hashCode 4 := ⟨by decide, by decide +kernel, by decide +kernel, by decide +kernel⟩
theorem fi_J7_hashCode_2 : jfi mi_J7_hashCode_2 4 := ⟨by decide, by decide +kernel, by decide +kernel, by decide +kernel⟩
theorem fi_J7_hashCode_3 : jfi mi_J7_hashCode_3 4 := ⟨by decide, by decide +kernel, by decide +kernel, by decide +kernel⟩
theorem fi_J7_hashCode_4 : jfi mi_J7_hashCode_4 4 := ⟨by decide, by decide +kernel, by decide +kernel, by decide +kernel⟩
theorem fi_J8_max : jfi mi_J8_max 2 := ⟨by decide, by decide +kernel, by decide +kernel, by decide +kernel⟩
theorem fi_J8_min : jfi mi_J8_min 2 := ⟨by decide, by decide +kernel, by decide +kernel, by decide +kernel⟩
theorem fi_J9_init : jfi mi_J9_init 0 := ⟨by decide, by decide +kernel, by decide +kernel, by decide +kernel⟩
theorem fi_X0_led : jfi mi_X0_led 3 := ⟨by decide, by decide +kernel, by decide +kernel, by decide +kernel⟩
theorem fi_X1_init : jfi mi_X1_init 0 := ⟨by decide, by decide +kernel, by decide +kernel, by decide +kernel⟩
theorem fi_X1_feed : jfi mi_X1_feed 5 := ⟨by decide, by decide +kernel, by decide +kernel, by decide +kernel⟩
theorem fi_X1_bytes : jfi mi_X1_bytes 1 := ⟨by decide, by decide +kernel, by decide +kernel, by decide +kernel⟩
theorem fi_X1_valley : jfi mi_X1_valley 1 := ⟨by decide, by decide +kernel, by decide +kernel, by decide +kernel⟩
theorem fi_X1_anew : jfi mi_X1_anew 0 := ⟨by decide, by decide +kernel, by decide +kernel, by decide +kernel⟩
theorem fi_X1_in : jfi mi_X1_in 3 := ⟨by decide, by decide +kernel, by decide +kernel, by decide +kernel⟩
theorem fi_X1_no : jfi mi_X1_no 1 := ⟨by decide, by decide +kernel, by decide +kernel, by decide +kernel⟩
theorem fi_X1_lies : jfi mi_X1_lies 2 := ⟨by decide, by decide +kernel, by decide +kernel, by decide +kernel⟩
theorem fi_X1_without : jfi mi_X1_without 1 := ⟨by decide, by decide +kernel, by decide +kernel, by decide +kernel⟩
theorem fi_X1_asTold : jfi mi_X1_asTold 0 := ⟨by decide, by decide +kernel, by decide +kernel, by decide +kernel⟩
theorem fi_X1_fault : jfi mi_X1_fault 0 := ⟨by decide, by decide +kernel, by decide +kernel, by decide +kernel⟩
theorem fi_X1_where : jfi mi_X1_where 0 := ⟨by decide, by decide +kernel, by decide +kernel, by decide +kernel⟩
theorem fi_X1_plain : jfi mi_X1_plain 3 := ⟨by decide, by decide +kernel, by decide +kernel, by decide +kernel⟩
theorem fi_X1_isPlace : jfi mi_X1_isPlace 1 := ⟨by decide, by decide +kernel, by decide +kernel, by decide +kernel⟩
theorem fi_X1_isStep : jfi mi_X1_isStep 1 := ⟨by decide, by decide +kernel, by decide +kernel, by decide +kernel⟩
theorem fi_X1_sight : jfi mi_X1_sight 1 := ⟨by decide, by decide +kernel, by decide +kernel, by decide +kernel⟩
theorem fi_X1_sees : jfi mi_X1_sees 2 := ⟨by decide, by decide +kernel, by decide +kernel, by decide +kernel⟩
theorem fi_X1_middle : jfi mi_X1_middle 1 := ⟨by decide, by decide +kernel, by decide +kernel, by decide +kernel⟩
theorem fi_X1_stepWhy : jfi mi_X1_stepWhy 1 := ⟨by decide, by decide +kernel, by decide +kernel, by decide +kernel⟩
theorem fi_X1_eyes : jfi mi_X1_eyes 2 := ⟨by decide, by decide +kernel, by decide +kernel, by decide +kernel⟩
theorem fi_X1_isPerson : jfi mi_X1_isPerson 1 := ⟨by decide, by decide +kernel, by decide +kernel, by decide +kernel⟩
theorem fi_X1_put : jfi mi_X1_put 2 := ⟨by decide, by decide +kernel, by decide +kernel, by decide +kernel⟩
theorem fi_X1_yes : jfi mi_X1_yes 1 := ⟨by decide, by decide +kernel, by decide +kernel, by decide +kernel⟩
theorem fi_X1_time : jfi mi_X1_time 1 := ⟨by decide, by decide +kernel, by decide +kernel, by decide +kernel⟩
theorem fi_X1_at : jfi mi_X1_at 1 := ⟨by decide, by decide +kernel, by decide +kernel, by decide +kernel⟩
theorem fi_X1_unseen : jfi mi_X1_unseen 0 := ⟨by decide, by decide +kernel, by decide +kernel, by decide +kernel⟩
theorem fi_X1_watching : jfi mi_X1_watching 2 := ⟨by decide, by decide +kernel, by decide +kernel, by decide +kernel⟩
theorem fi_X1_unseenAt : jfi mi_X1_unseenAt 3 := ⟨by decide, by decide +kernel, by decide +kernel, by decide +kernel⟩
theorem fi_X1_watchersOf : jfi mi_X1_watchersOf 4 := ⟨by decide, by decide +kernel, by decide +kernel, by decide +kernel⟩
theorem fi_X1_lawful : jfi mi_X1_lawful 0 := ⟨by decide, by decide +kernel, by decide +kernel, by decide +kernel⟩
theorem fi_X1_isLawfulAt : jfi mi_X1_isLawfulAt 2 := ⟨by decide, by decide +kernel, by decide +kernel, by decide +kernel⟩
theorem fi_X1_isLawful : jfi mi_X1_isLawful 3 := ⟨by decide, by decide +kernel, by decide +kernel, by decide +kernel⟩
theorem fi_X1_by : jfi mi_X1_by 1 := ⟨by decide, by decide +kernel, by decide +kernel, by decide +kernel⟩
theorem fi_X1_move : jfi mi_X1_move 3 := ⟨by decide, by decide +kernel, by decide +kernel, by decide +kernel⟩
theorem fi_X1_planned : jfi mi_X1_planned 2 := ⟨by decide, by decide +kernel, by decide +kernel, by decide +kernel⟩
theorem fi_X1_judge : jfi mi_X1_judge 0 := ⟨by decide, by decide +kernel, by decide +kernel, by decide +kernel⟩
theorem fi_X1_judged : jfi mi_X1_judged 0 := ⟨by decide, by decide +kernel, by decide +kernel, by decide +kernel⟩
theorem fi_X1_areWays : jfi mi_X1_areWays 1 := ⟨by decide, by decide +kernel, by decide +kernel, by decide +kernel⟩
theorem fi_X1_isDone : jfi mi_X1_isDone 1 := ⟨by decide, by decide +kernel, by decide +kernel, by decide +kernel⟩
theorem fi_X1_why : jfi mi_X1_why 0 := ⟨by decide, by decide +kernel, by decide +kernel, by decide +kernel⟩
theorem fi_X1_done : jfi mi_X1_done 1 := ⟨by decide, by decide +kernel, by decide +kernel, by decide +kernel⟩
theorem fi_X1_isErrand : jfi mi_X1_isErrand 1 := ⟨by decide, by decide +kernel, by decide +kernel, by decide +kernel⟩
theorem fi_X1_forget : jfi mi_X1_forget 0 := ⟨by decide, by decide +kernel, by decide +kernel, by decide +kernel⟩
theorem fi_X1_posts : jfi mi_X1_posts 2 := ⟨by decide, by decide +kernel, by decide +kernel, by decide +kernel⟩
theorem fi_X1_postsWhy : jfi mi_X1_postsWhy 2 := ⟨by decide, by decide +kernel, by decide +kernel, by decide +kernel⟩
theorem fi_X1_postsFor : jfi mi_X1_postsFor 2 := ⟨by decide, by decide +kernel, by decide +kernel, by decide +kernel⟩
theorem fi_X1_ones : jfi mi_X1_ones 1 := ⟨by decide, by decide +kernel, by decide +kernel, by decide +kernel⟩
theorem fi_X1_hold : jfi mi_X1_hold 3 := ⟨by decide, by decide +kernel, by decide +kernel, by decide +kernel⟩
theorem fi_X1_postsAt : jfi mi_X1_postsAt 2 := ⟨by decide, by decide +kernel, by decide +kernel, by decide +kernel⟩
theorem fi_X1_go : jfi mi_X1_go 2 := ⟨by decide, by decide +kernel, by decide +kernel, by decide +kernel⟩
theorem fi_X1_peopleWhy : jfi mi_X1_peopleWhy 2 := ⟨by decide, by decide +kernel, by decide +kernel, by decide +kernel⟩
theorem fi_X1_choose : jfi mi_X1_choose 1 := ⟨by decide, by decide +kernel, by decide +kernel, by decide +kernel⟩
theorem fi_X1_reach : jfi mi_X1_reach 0 := ⟨by decide, by decide +kernel, by decide +kernel, by decide +kernel⟩
theorem fi_X1_nowState : jfi mi_X1_nowState 0 := ⟨by decide, by decide +kernel, by decide +kernel, by decide +kernel⟩
theorem fi_X1_stateOf : jfi mi_X1_stateOf 1 := ⟨by decide, by decide +kernel, by decide +kernel, by decide +kernel⟩
theorem fi_X1_allIn : jfi mi_X1_allIn 1 := ⟨by decide, by decide +kernel, by decide +kernel, by decide +kernel⟩
theorem fi_X1_spread : jfi mi_X1_spread 2 := ⟨by decide, by decide +kernel, by decide +kernel, by decide +kernel⟩
theorem fi_X1_places : jfi mi_X1_places 2 := ⟨by decide, by decide +kernel, by decide +kernel, by decide +kernel⟩
theorem fi_X1_goesOn : jfi mi_X1_goesOn 3 := ⟨by decide, by decide +kernel, by decide +kernel, by decide +kernel⟩
theorem fi_X1_allAt : jfi mi_X1_allAt 1 := ⟨by decide, by decide +kernel, by decide +kernel, by decide +kernel⟩
theorem fi_X1_laysPath : jfi mi_X1_laysPath 2 := ⟨by decide, by decide +kernel, by decide +kernel, by decide +kernel⟩
theorem fi_X1_firstHome : jfi mi_X1_firstHome 3 := ⟨by decide, by decide +kernel, by decide +kernel, by decide +kernel⟩
theorem fi_X1_path : jfi mi_X1_path 2 := ⟨by decide, by decide +kernel, by decide +kernel, by decide +kernel⟩
theorem fi_X1_doing : jfi mi_X1_doing 2 := ⟨by decide, by decide +kernel, by decide +kernel, by decide +kernel⟩
theorem fi_X1_mayStay : jfi mi_X1_mayStay 3 := ⟨by decide, by decide +kernel, by decide +kernel, by decide +kernel⟩
theorem fi_X1_find : jfi mi_X1_find 2 := ⟨by decide, by decide +kernel, by decide +kernel, by decide +kernel⟩
theorem fi_X1_lookedAt : jfi mi_X1_lookedAt 2 := ⟨by decide, by decide +kernel, by decide +kernel, by decide +kernel⟩
theorem fi_X1_isFound : jfi mi_X1_isFound 2 := ⟨by decide, by decide +kernel, by decide +kernel, by decide +kernel⟩
theorem fi_X1_further : jfi mi_X1_further 2 := ⟨by decide, by decide +kernel, by decide +kernel, by decide +kernel⟩
theorem fi_X1_isAny : jfi mi_X1_isAny 1 := ⟨by decide, by decide +kernel, by decide +kernel, by decide +kernel⟩
theorem fi_X1_nextFrom : jfi mi_X1_nextFrom 2 := ⟨by decide, by decide +kernel, by decide +kernel, by decide +kernel⟩
theorem fi_X1_leads : jfi mi_X1_leads 2 := ⟨by decide, by decide +kernel, by decide +kernel, by decide +kernel⟩
theorem fi_X1_sleepers : jfi mi_X1_sleepers 1 := ⟨by decide, by decide +kernel, by decide +kernel, by decide +kernel⟩
theorem fi_X1_alone : jfi mi_X1_alone 1 := ⟨by decide, by decide +kernel, by decide +kernel, by decide +kernel⟩
theorem fi_X1_doFor : jfi mi_X1_doFor 2 := ⟨by decide, by decide +kernel, by decide +kernel, by decide +kernel⟩
theorem fi_X1_glass : jfi mi_X1_glass 1 := ⟨by decide, by decide +kernel, by decide +kernel, by decide +kernel⟩
theorem fi_X1_pairs : jfi mi_X1_pairs 1 := ⟨by decide, by decide +kernel, by decide +kernel, by decide +kernel⟩
theorem fi_X1_window : jfi mi_X1_window 1 := ⟨by decide, by decide +kernel, by decide +kernel, by decide +kernel⟩
theorem fi_X1_windowWhy : jfi mi_X1_windowWhy 1 := ⟨by decide, by decide +kernel, by decide +kernel, by decide +kernel⟩
theorem fi_X1_bestWindow : jfi mi_X1_bestWindow 1 := ⟨by decide, by decide +kernel, by decide +kernel, by decide +kernel⟩
theorem fi_X1_pairsWith : jfi mi_X1_pairsWith 2 := ⟨by decide, by decide +kernel, by decide +kernel, by decide +kernel⟩
theorem fi_X1_frees : jfi mi_X1_frees 1 := ⟨by decide, by decide +kernel, by decide +kernel, by decide +kernel⟩
theorem fi_X1_tower : jfi mi_X1_tower 2 := ⟨by decide, by decide +kernel, by decide +kernel, by decide +kernel⟩
theorem fi_X1_plainFrom : jfi mi_X1_plainFrom 2 := ⟨by decide, by decide +kernel, by decide +kernel, by decide +kernel⟩
theorem fi_X1_made : jfi mi_X1_made 2 := ⟨by decide, by decide +kernel, by decide +kernel, by decide +kernel⟩
theorem fi_X1_madeWhy : jfi mi_X1_madeWhy 2 := ⟨by decide, by decide +kernel, by decide +kernel, by decide +kernel⟩
theorem fi_X1_bestWalls : jfi mi_X1_bestWalls 2 := ⟨by decide, by decide +kernel, by decide +kernel, by decide +kernel⟩
theorem fi_X1_needs : jfi mi_X1_needs 2 := ⟨by decide, by decide +kernel, by decide +kernel, by decide +kernel⟩
theorem fi_X1_fog : jfi mi_X1_fog 0 := ⟨by decide, by decide +kernel, by decide +kernel, by decide +kernel⟩
theorem fi_X1_isLawfulIn : jfi mi_X1_isLawfulIn 1 := ⟨by decide, by decide +kernel, by decide +kernel, by decide +kernel⟩
theorem fi_X1_ready : jfi mi_X1_ready 0 := ⟨by decide, by decide +kernel, by decide +kernel, by decide +kernel⟩
theorem fi_X1_seed : jfi mi_X1_seed 1 := ⟨by decide, by decide +kernel, by decide +kernel, by decide +kernel⟩
theorem fi_X1_drift : jfi mi_X1_drift 0 := ⟨by decide, by decide +kernel, by decide +kernel, by decide +kernel⟩
theorem fi_X1_neighbour : jfi mi_X1_neighbour 2 := ⟨by decide, by decide +kernel, by decide +kernel, by decide +kernel⟩
theorem fi_X1_image : jfi mi_X1_image 0 := ⟨by decide, by decide +kernel, by decide +kernel, by decide +kernel⟩
theorem fi_X1_restore : jfi mi_X1_restore 1 := ⟨by decide, by decide +kernel, by decide +kernel, by decide +kernel⟩
theorem fi_X1_size : jfi mi_X1_size 1 := ⟨by decide, by decide +kernel, by decide +kernel, by decide +kernel⟩
theorem fi_X1_trouble : jfi mi_X1_trouble 0 := ⟨by decide, by decide +kernel, by decide +kernel, by decide +kernel⟩
theorem fi_X1_led : jfi mi_X1_led 1 := ⟨by decide, by decide +kernel, by decide +kernel, by decide +kernel⟩
theorem fi_X10_init : jfi mi_X10_init 0 := ⟨by decide, by decide +kernel, by decide +kernel, by decide +kernel⟩
theorem fi_X10_shuts : jfi mi_X10_shuts 1 := ⟨by decide, by decide +kernel, by decide +kernel, by decide +kernel⟩
theorem fi_X11_init : jfi mi_X11_init 1 := ⟨by decide, by decide +kernel, by decide +kernel, by decide +kernel⟩
theorem fi_X11_shuts : jfi mi_X11_shuts 1 := ⟨by decide, by decide +kernel, by decide +kernel, by decide +kernel⟩
theorem fi_X12_init : jfi mi_X12_init 2 := ⟨by decide, by decide +kernel, by decide +kernel, by decide +kernel⟩
theorem fi_X12_shuts : jfi mi_X12_shuts 1 := ⟨by decide, by decide +kernel, by decide +kernel, by decide +kernel⟩
theorem fi_X13_init : jfi mi_X13_init 0 := ⟨by decide, by decide +kernel, by decide +kernel, by decide +kernel⟩
theorem fi_X14_init : jfi mi_X14_init 0 := ⟨by decide, by decide +kernel, by decide +kernel, by decide +kernel⟩
theorem fi_X14_find : jfi mi_X14_find 1 := ⟨by decide, by decide +kernel, by decide +kernel, by decide +kernel⟩
theorem fi_X14_near : jfi mi_X14_near 1 := ⟨by decide, by decide +kernel, by decide +kernel, by decide +kernel⟩
theorem fi_X2_init : jfi mi_X2_init 1 := ⟨by decide, by decide +kernel, by decide +kernel, by decide +kernel⟩
theorem fi_X2_read : jfi mi_X2_read 1 := ⟨by decide, by decide +kernel, by decide +kernel, by decide +kernel⟩
theorem fi_X2_next : jfi mi_X2_next 0 := ⟨by decide, by decide +kernel, by decide +kernel, by decide +kernel⟩
theorem fi_X2_see : jfi mi_X2_see 1 := ⟨by decide, by decide +kernel, by decide +kernel, by decide +kernel⟩
theorem fi_X2_isSmall : jfi mi_X2_isSmall 1 := ⟨by decide, by decide +kernel, by decide +kernel, by decide +kernel⟩
theorem fi_X2_isDigit : jfi mi_X2_isDigit 1 := ⟨by decide, by decide +kernel, by decide +kernel, by decide +kernel⟩
theorem fi_X2_line : jfi mi_X2_line 0 := ⟨by decide, by decide +kernel, by decide +kernel, by decide +kernel⟩
theorem fi_X2_fail : jfi mi_X2_fail 1 := ⟨by decide, by decide +kernel, by decide +kernel, by decide +kernel⟩
theorem fi_X2_law : jfi mi_X2_law 0 := ⟨by decide, by decide +kernel, by decide +kernel, by decide +kernel⟩
theorem fi_X2_begins : jfi mi_X2_begins 2 := ⟨by decide, by decide +kernel, by decide +kernel, by decide +kernel⟩
theorem fi_X2_after : jfi mi_X2_after 3 := ⟨by decide, by decide +kernel, by decide +kernel, by decide +kernel⟩
theorem fi_X2_must : jfi mi_X2_must 1 := ⟨by decide, by decide +kernel, by decide +kernel, by decide +kernel⟩
theorem fi_X2_takes : jfi mi_X2_takes 1 := ⟨by decide, by decide +kernel, by decide +kernel, by decide +kernel⟩
theorem fi_X2_isWord : jfi mi_X2_isWord 1 := ⟨by decide, by decide +kernel, by decide +kernel, by decide +kernel⟩
theorem fi_X2_number : jfi mi_X2_number 2 := ⟨by decide, by decide +kernel, by decide +kernel, by decide +kernel⟩
theorem fi_X2_placeLine : jfi mi_X2_placeLine 0 := ⟨by decide, by decide +kernel, by decide +kernel, by decide +kernel⟩
theorem fi_X2_newName : jfi mi_X2_newName 0 := ⟨by decide, by decide +kernel, by decide +kernel, by decide +kernel⟩
theorem fi_X2_mustName : jfi mi_X2_mustName 0 := ⟨by decide, by decide +kernel, by decide +kernel, by decide +kernel⟩
theorem fi_X2_comma : jfi mi_X2_comma 0 := ⟨by decide, by decide +kernel, by decide +kernel, by decide +kernel⟩
theorem fi_X2_wall : jfi mi_X2_wall 0 := ⟨by decide, by decide +kernel, by decide +kernel, by decide +kernel⟩
theorem fi_X2_place : jfi mi_X2_place 0 := ⟨by decide, by decide +kernel, by decide +kernel, by decide +kernel⟩
theorem fi_X2_placeHere : jfi mi_X2_placeHere 0 := ⟨by decide, by decide +kernel, by decide +kernel, by decide +kernel⟩
theorem fi_X2_way : jfi mi_X2_way 0 := ⟨by decide, by decide +kernel, by decide +kernel, by decide +kernel⟩
theorem fi_X2_mirror : jfi mi_X2_mirror 0 := ⟨by decide, by decide +kernel, by decide +kernel, by decide +kernel⟩
theorem fi_X2_person : jfi mi_X2_person 0 := ⟨by decide, by decide +kernel, by decide +kernel, by decide +kernel⟩
theorem fi_X2_pair : jfi mi_X2_pair 0 := ⟨by decide, by decide +kernel, by decide +kernel, by decide +kernel⟩
theorem fi_X2_personHere : jfi mi_X2_personHere 0 := ⟨by decide, by decide +kernel, by decide +kernel, by decide +kernel⟩
theorem fi_X2_errand : jfi mi_X2_errand 0 := ⟨by decide, by decide +kernel, by decide +kernel, by decide +kernel⟩
theorem fi_X2_fog : jfi mi_X2_fog 0 := ⟨by decide, by decide +kernel, by decide +kernel, by decide +kernel⟩
theorem fi_X3_init : jfi mi_X3_init 0 := ⟨by decide, by decide +kernel, by decide +kernel, by decide +kernel⟩
theorem fi_X3_at : jfi mi_X3_at 2 := ⟨by decide, by decide +kernel, by decide +kernel, by decide +kernel⟩
theorem fi_X4_init : jfi mi_X4_init 0 := ⟨by decide, by decide +kernel, by decide +kernel, by decide +kernel⟩
theorem fi_X4_look : jfi mi_X4_look 4 := ⟨by decide, by decide +kernel, by decide +kernel, by decide +kernel⟩
theorem fi_X4_sees : jfi mi_X4_sees 1 := ⟨by decide, by decide +kernel, by decide +kernel, by decide +kernel⟩
theorem fi_X4_pairs : jfi mi_X4_pairs 1 := ⟨by decide, by decide +kernel, by decide +kernel, by decide +kernel⟩
theorem fi_X5_init : jfi mi_X5_init 0 := ⟨by decide, by decide +kernel, by decide +kernel, by decide +kernel⟩
theorem fi_X5_thrown : jfi mi_X5_thrown 0 := ⟨by decide, by decide +kernel, by decide +kernel, by decide +kernel⟩
theorem fi_X5_feed : jfi mi_X5_feed 5 := ⟨by decide, by decide +kernel, by decide +kernel, by decide +kernel⟩
theorem fi_X5_valley : jfi mi_X5_valley 1 := ⟨by decide, by decide +kernel, by decide +kernel, by decide +kernel⟩
theorem fi_X5_refused : jfi mi_X5_refused 1 := ⟨by decide, by decide +kernel, by decide +kernel, by decide +kernel⟩
theorem fi_X5_goesOn : jfi mi_X5_goesOn 0 := ⟨by decide, by decide +kernel, by decide +kernel, by decide +kernel⟩
theorem fi_X5_byteAt : jfi mi_X5_byteAt 1 := ⟨by decide, by decide +kernel, by decide +kernel, by decide +kernel⟩
theorem fi_X5_isLetter : jfi mi_X5_isLetter 1 := ⟨by decide, by decide +kernel, by decide +kernel, by decide +kernel⟩
theorem fi_X5_isDigit : jfi mi_X5_isDigit 1 := ⟨by decide, by decide +kernel, by decide +kernel, by decide +kernel⟩
theorem fi_X5_readValley : jfi mi_X5_readValley 0 := ⟨by decide, by decide +kernel, by decide +kernel, by decide +kernel⟩
theorem fi_X5_readLine : jfi mi_X5_readLine 0 := ⟨by decide, by decide +kernel, by decide +kernel, by decide +kernel⟩
theorem fi_X5_isWord : jfi mi_X5_isWord 1 := ⟨by decide, by decide +kernel, by decide +kernel, by decide +kernel⟩
theorem fi_X5_wordOf : jfi mi_X5_wordOf 1 := ⟨by decide, by decide +kernel, by decide +kernel, by decide +kernel⟩
theorem fi_X5_readLaw : jfi mi_X5_readLaw 0 := ⟨by decide, by decide +kernel, by decide +kernel, by decide +kernel⟩
theorem fi_X5_wrong : jfi mi_X5_wrong 1 := ⟨by decide, by decide +kernel, by decide +kernel, by decide +kernel⟩
theorem fi_X5_readPart : jfi mi_X5_readPart 3 := ⟨by decide, by decide +kernel, by decide +kernel, by decide +kernel⟩
theorem fi_X5_must : jfi mi_X5_must 1 := ⟨by decide, by decide +kernel, by decide +kernel, by decide +kernel⟩
theorem fi_X5_readWhole : jfi mi_X5_readWhole 2 := ⟨by decide, by decide +kernel, by decide +kernel, by decide +kernel⟩
theorem fi_X5_in : jfi mi_X5_in 3 := ⟨by decide, by decide +kernel, by decide +kernel, by decide +kernel⟩
theorem fi_X5_readPlace : jfi mi_X5_readPlace 0 := ⟨by decide, by decide +kernel, by decide +kernel, by decide +kernel⟩
theorem fi_X5_begins : jfi mi_X5_begins 2 := ⟨by decide, by decide +kernel, by decide +kernel, by decide +kernel⟩
theorem fi_X5_readFresh : jfi mi_X5_readFresh 2 := ⟨by decide, by decide +kernel, by decide +kernel, by decide +kernel⟩
theorem fi_X5_isName : jfi mi_X5_isName 0 := ⟨by decide, by decide +kernel, by decide +kernel, by decide +kernel⟩
theorem fi_X5_needsSign : jfi mi_X5_needsSign 1 := ⟨by decide, by decide +kernel, by decide +kernel, by decide +kernel⟩
theorem fi_X5_readWall : jfi mi_X5_readWall 0 := ⟨by decide, by decide +kernel, by decide +kernel, by decide +kernel⟩
theorem fi_X5_readTwo : jfi mi_X5_readTwo 4 := ⟨by decide, by decide +kernel, by decide +kernel, by decide +kernel⟩
theorem fi_X5_readKnown : jfi mi_X5_readKnown 1 := ⟨by decide, by decide +kernel, by decide +kernel, by decide +kernel⟩
theorem fi_X5_known : jfi mi_X5_known 1 := ⟨by decide, by decide +kernel, by decide +kernel, by decide +kernel⟩
theorem fi_X5_readWay : jfi mi_X5_readWay 0 := ⟨by decide, by decide +kernel, by decide +kernel, by decide +kernel⟩
theorem fi_X5_readMirror : jfi mi_X5_readMirror 0 := ⟨by decide, by decide +kernel, by decide +kernel, by decide +kernel⟩
theorem fi_X5_readOther : jfi mi_X5_readOther 2 := ⟨by decide, by decide +kernel, by decide +kernel, by decide +kernel⟩
theorem fi_X5_readPerson : jfi mi_X5_readPerson 0 := ⟨by decide, by decide +kernel, by decide +kernel, by decide +kernel⟩
theorem fi_X5_eatsWord : jfi mi_X5_eatsWord 1 := ⟨by decide, by decide +kernel, by decide +kernel, by decide +kernel⟩
theorem fi_X5_readPair : jfi mi_X5_readPair 0 := ⟨by decide, by decide +kernel, by decide +kernel, by decide +kernel⟩
theorem fi_X5_readErrand : jfi mi_X5_readErrand 0 := ⟨by decide, by decide +kernel, by decide +kernel, by decide +kernel⟩
theorem fi_X5_readFog : jfi mi_X5_readFog 0 := ⟨by decide, by decide +kernel, by decide +kernel, by decide +kernel⟩
theorem fi_X5_eatsSign : jfi mi_X5_eatsSign 1 := ⟨by decide, by decide +kernel, by decide +kernel, by decide +kernel⟩
theorem fi_X5_forgets : jfi mi_X5_forgets 0 := ⟨by decide, by decide +kernel, by decide +kernel, by decide +kernel⟩
theorem fi_X5_told : jfi mi_X5_told 2 := ⟨by decide, by decide +kernel, by decide +kernel, by decide +kernel⟩
theorem fi_X5_fault : jfi mi_X5_fault 0 := ⟨by decide, by decide +kernel, by decide +kernel, by decide +kernel⟩
theorem fi_X5_where : jfi mi_X5_where 0 := ⟨by decide, by decide +kernel, by decide +kernel, by decide +kernel⟩
theorem fi_X5_plain : jfi mi_X5_plain 3 := ⟨by decide, by decide +kernel, by decide +kernel, by decide +kernel⟩
theorem fi_X5_isPlace : jfi mi_X5_isPlace 1 := ⟨by decide, by decide +kernel, by decide +kernel, by decide +kernel⟩
theorem fi_X5_isStep : jfi mi_X5_isStep 1 := ⟨by decide, by decide +kernel, by decide +kernel, by decide +kernel⟩
theorem fi_X5_rangeIn : jfi mi_X5_rangeIn 1 := ⟨by decide, by decide +kernel, by decide +kernel, by decide +kernel⟩
theorem fi_X5_isPlain : jfi mi_X5_isPlain 3 := ⟨by decide, by decide +kernel, by decide +kernel, by decide +kernel⟩
theorem fi_X5_has : jfi mi_X5_has 2 := ⟨by decide, by decide +kernel, by decide +kernel, by decide +kernel⟩
theorem fi_X5_sees : jfi mi_X5_sees 2 := ⟨by decide, by decide +kernel, by decide +kernel, by decide +kernel⟩
theorem fi_X5_seenFrom : jfi mi_X5_seenFrom 2 := ⟨by decide, by decide +kernel, by decide +kernel, by decide +kernel⟩
theorem fi_X5_middle : jfi mi_X5_middle 1 := ⟨by decide, by decide +kernel, by decide +kernel, by decide +kernel⟩
theorem fi_X5_refusesSteps : jfi mi_X5_refusesSteps 1 := ⟨by decide, by decide +kernel, by decide +kernel, by decide +kernel⟩
theorem fi_X5_eyes : jfi mi_X5_eyes 2 := ⟨by decide, by decide +kernel, by decide +kernel, by decide +kernel⟩
theorem fi_X5_isPerson : jfi mi_X5_isPerson 1 := ⟨by decide, by decide +kernel, by decide +kernel, by decide +kernel⟩
theorem fi_X5_hasEyes : jfi mi_X5_hasEyes 2 := ⟨by decide, by decide +kernel, by decide +kernel, by decide +kernel⟩
theorem fi_X5_put : jfi mi_X5_put 2 := ⟨by decide, by decide +kernel, by decide +kernel, by decide +kernel⟩
theorem fi_X5_denied : jfi mi_X5_denied 1 := ⟨by decide, by decide +kernel, by decide +kernel, by decide +kernel⟩
theorem fi_X5_granted : jfi mi_X5_granted 0 := ⟨by decide, by decide +kernel, by decide +kernel, by decide +kernel⟩
theorem fi_X5_time : jfi mi_X5_time 1 := ⟨by decide, by decide +kernel, by decide +kernel, by decide +kernel⟩
theorem fi_X5_at : jfi mi_X5_at 1 := ⟨by decide, by decide +kernel, by decide +kernel, by decide +kernel⟩
theorem fi_X5_unseen : jfi mi_X5_unseen 0 := ⟨by decide, by decide +kernel, by decide +kernel, by decide +kernel⟩
theorem fi_X5_unseenNow : jfi mi_X5_unseenNow 0 := ⟨by decide, by decide +kernel, by decide +kernel, by decide +kernel⟩
theorem fi_X5_seeing : jfi mi_X5_seeing 4 := ⟨by decide, by decide +kernel, by decide +kernel, by decide +kernel⟩
theorem fi_X5_lawful : jfi mi_X5_lawful 0 := ⟨by decide, by decide +kernel, by decide +kernel, by decide +kernel⟩
theorem fi_X5_isLawfulNow : jfi mi_X5_isLawfulNow 0 := ⟨by decide, by decide +kernel, by decide +kernel, by decide +kernel⟩
theorem fi_X5_isLawful : jfi mi_X5_isLawful 3 := ⟨by decide, by decide +kernel, by decide +kernel, by decide +kernel⟩
theorem fi_X5_by : jfi mi_X5_by 1 := ⟨by decide, by decide +kernel, by decide +kernel, by decide +kernel⟩
theorem fi_X5_move : jfi mi_X5_move 3 := ⟨by decide, by decide +kernel, by decide +kernel, by decide +kernel⟩
theorem fi_X5_planned : jfi mi_X5_planned 2 := ⟨by decide, by decide +kernel, by decide +kernel, by decide +kernel⟩
theorem fi_X5_judge : jfi mi_X5_judge 0 := ⟨by decide, by decide +kernel, by decide +kernel, by decide +kernel⟩
theorem fi_X5_judged : jfi mi_X5_judged 0 := ⟨by decide, by decide +kernel, by decide +kernel, by decide +kernel⟩
theorem fi_X5_isPlanDone : jfi mi_X5_isPlanDone 1 := ⟨by decide, by decide +kernel, by decide +kernel, by decide +kernel⟩
theorem fi_X5_why : jfi mi_X5_why 0 := ⟨by decide, by decide +kernel, by decide +kernel, by decide +kernel⟩
theorem fi_X5_done : jfi mi_X5_done 1 := ⟨by decide, by decide +kernel, by decide +kernel, by decide +kernel⟩
theorem fi_X5_forget : jfi mi_X5_forget 0 := ⟨by decide, by decide +kernel, by decide +kernel, by decide +kernel⟩
theorem fi_X5_posts : jfi mi_X5_posts 2 := ⟨by decide, by decide +kernel, by decide +kernel, by decide +kernel⟩
theorem fi_X5_refusesPosts : jfi mi_X5_refusesPosts 2 := ⟨by decide, by decide +kernel, by decide +kernel, by decide +kernel⟩
theorem fi_X5_postsFor : jfi mi_X5_postsFor 2 := ⟨by decide, by decide +kernel, by decide +kernel, by decide +kernel⟩
theorem fi_X5_bits : jfi mi_X5_bits 1 := ⟨by decide, by decide +kernel, by decide +kernel, by decide +kernel⟩
theorem fi_X5_postsAt : jfi mi_X5_postsAt 2 := ⟨by decide, by decide +kernel, by decide +kernel, by decide +kernel⟩
theorem fi_X5_go : jfi mi_X5_go 2 := ⟨by decide, by decide +kernel, by decide +kernel, by decide +kernel⟩
theorem fi_X5_isMovers : jfi mi_X5_isMovers 2 := ⟨by decide, by decide +kernel, by decide +kernel, by decide +kernel⟩
theorem fi_X5_takesMovers : jfi mi_X5_takesMovers 1 := ⟨by decide, by decide +kernel, by decide +kernel, by decide +kernel⟩
theorem fi_X5_allAt : jfi mi_X5_allAt 1 := ⟨by decide, by decide +kernel, by decide +kernel, by decide +kernel⟩
theorem fi_X5_sets : jfi mi_X5_sets 0 := ⟨by decide, by decide +kernel, by decide +kernel, by decide +kernel⟩
theorem fi_X5_stateNow : jfi mi_X5_stateNow 0 := ⟨by decide, by decide +kernel, by decide +kernel, by decide +kernel⟩
theorem fi_X5_keepsPath : jfi mi_X5_keepsPath 3 := ⟨by decide, by decide +kernel, by decide +kernel, by decide +kernel⟩
theorem fi_X5_traces : jfi mi_X5_traces 2 := ⟨by decide, by decide +kernel, by decide +kernel, by decide +kernel⟩
theorem fi_X5_leads : jfi mi_X5_leads 1 := ⟨by decide, by decide +kernel, by decide +kernel, by decide +kernel⟩
theorem fi_X5_isState : jfi mi_X5_isState 1 := ⟨by decide, by decide +kernel, by decide +kernel, by decide +kernel⟩
theorem fi_X5_placeIn : jfi mi_X5_placeIn 2 := ⟨by decide, by decide +kernel, by decide +kernel, by decide +kernel⟩
theorem fi_X5_isStepTo : jfi mi_X5_isStepTo 2 := ⟨by decide, by decide +kernel, by decide +kernel, by decide +kernel⟩
theorem fi_X5_spreads : jfi mi_X5_spreads 1 := ⟨by decide, by decide +kernel, by decide +kernel, by decide +kernel⟩
theorem fi_X5_isLawfulState : jfi mi_X5_isLawfulState 2 := ⟨by decide, by decide +kernel, by decide +kernel, by decide +kernel⟩
theorem fi_X5_path : jfi mi_X5_path 2 := ⟨by decide, by decide +kernel, by decide +kernel, by decide +kernel⟩
theorem fi_X5_doing : jfi mi_X5_doing 2 := ⟨by decide, by decide +kernel, by decide +kernel, by decide +kernel⟩
theorem fi_X5_stays : jfi mi_X5_stays 3 := ⟨by decide, by decide +kernel, by decide +kernel, by decide +kernel⟩
theorem fi_X5_find : jfi mi_X5_find 2 := ⟨by decide, by decide +kernel, by decide +kernel, by decide +kernel⟩
theorem fi_X5_seenBy : jfi mi_X5_seenBy 2 := ⟨by decide, by decide +kernel, by decide +kernel, by decide +kernel⟩
theorem fi_X5_looksOn : jfi mi_X5_looksOn 2 := ⟨by decide, by decide +kernel, by decide +kernel, by decide +kernel⟩
theorem fi_X5_sleepers : jfi mi_X5_sleepers 1 := ⟨by decide, by decide +kernel, by decide +kernel, by decide +kernel⟩
theorem fi_X5_alone : jfi mi_X5_alone 1 := ⟨by decide, by decide +kernel, by decide +kernel, by decide +kernel⟩
theorem fi_X5_glassOf : jfi mi_X5_glassOf 1 := ⟨by decide, by decide +kernel, by decide +kernel, by decide +kernel⟩
theorem fi_X5_isKept : jfi mi_X5_isKept 3 := ⟨by decide, by decide +kernel, by decide +kernel, by decide +kernel⟩
theorem fi_X5_glass : jfi mi_X5_glass 1 := ⟨by decide, by decide +kernel, by decide +kernel, by decide +kernel⟩
theorem fi_X5_pairs : jfi mi_X5_pairs 1 := ⟨by decide, by decide +kernel, by decide +kernel, by decide +kernel⟩
theorem fi_X5_pairsIn : jfi mi_X5_pairsIn 1 := ⟨by decide, by decide +kernel, by decide +kernel, by decide +kernel⟩
theorem fi_X5_window : jfi mi_X5_window 1 := ⟨by decide, by decide +kernel, by decide +kernel, by decide +kernel⟩
theorem fi_X5_refusesWindow : jfi mi_X5_refusesWindow 1 := ⟨by decide, by decide +kernel, by decide +kernel, by decide +kernel⟩
theorem fi_X5_windowIn : jfi mi_X5_windowIn 1 := ⟨by decide, by decide +kernel, by decide +kernel, by decide +kernel⟩
theorem fi_X5_pairsWithout : jfi mi_X5_pairsWithout 2 := ⟨by decide, by decide +kernel, by decide +kernel, by decide +kernel⟩
theorem fi_X5_frees : jfi mi_X5_frees 1 := ⟨by decide, by decide +kernel, by decide +kernel, by decide +kernel⟩
theorem fi_X5_tower : jfi mi_X5_tower 2 := ⟨by decide, by decide +kernel, by decide +kernel, by decide +kernel⟩
theorem fi_X5_plainTo : jfi mi_X5_plainTo 2 := ⟨by decide, by decide +kernel, by decide +kernel, by decide +kernel⟩
theorem fi_X5_made : jfi mi_X5_made 2 := ⟨by decide, by decide +kernel, by decide +kernel, by decide +kernel⟩
theorem fi_X5_refusesMade : jfi mi_X5_refusesMade 2 := ⟨by decide, by decide +kernel, by decide +kernel, by decide +kernel⟩
theorem fi_X5_madeOf : jfi mi_X5_madeOf 2 := ⟨by decide, by decide +kernel, by decide +kernel, by decide +kernel⟩
theorem fi_X5_postsWithout : jfi mi_X5_postsWithout 2 := ⟨by decide, by decide +kernel, by decide +kernel, by decide +kernel⟩
theorem fi_X5_needs : jfi mi_X5_needs 2 := ⟨by decide, by decide +kernel, by decide +kernel, by decide +kernel⟩
theorem fi_X5_fog : jfi mi_X5_fog 0 := ⟨by decide, by decide +kernel, by decide +kernel, by decide +kernel⟩
theorem fi_X5_isLawfulIn : jfi mi_X5_isLawfulIn 1 := ⟨by decide, by decide +kernel, by decide +kernel, by decide +kernel⟩
theorem fi_X5_ready : jfi mi_X5_ready 0 := ⟨by decide, by decide +kernel, by decide +kernel, by decide +kernel⟩
theorem fi_X5_seed : jfi mi_X5_seed 1 := ⟨by decide, by decide +kernel, by decide +kernel, by decide +kernel⟩
theorem fi_X5_drift : jfi mi_X5_drift 0 := ⟨by decide, by decide +kernel, by decide +kernel, by decide +kernel⟩
theorem fi_X5_drawn : jfi mi_X5_drawn 1 := ⟨by decide, by decide +kernel, by decide +kernel, by decide +kernel⟩
theorem fi_X5_image : jfi mi_X5_image 0 := ⟨by decide, by decide +kernel, by decide +kernel, by decide +kernel⟩
theorem fi_X5_restore : jfi mi_X5_restore 1 := ⟨by decide, by decide +kernel, by decide +kernel, by decide +kernel⟩
theorem fi_X5_led : jfi mi_X5_led 1 := ⟨by decide, by decide +kernel, by decide +kernel, by decide +kernel⟩
theorem fi_X5_size : jfi mi_X5_size 1 := ⟨by decide, by decide +kernel, by decide +kernel, by decide +kernel⟩
theorem fi_X5_trouble : jfi mi_X5_trouble 0 := ⟨by decide, by decide +kernel, by decide +kernel, by decide +kernel⟩
theorem fi_X6_init : jfi mi_X6_init 0 := ⟨by decide, by decide +kernel, by decide +kernel, by decide +kernel⟩
theorem fi_X6_find : jfi mi_X6_find 1 := ⟨by decide, by decide +kernel, by decide +kernel, by decide +kernel⟩
theorem fi_X6_among : jfi mi_X6_among 3 := ⟨by decide, by decide +kernel, by decide +kernel, by decide +kernel⟩
theorem fi_X6_isWalled : jfi mi_X6_isWalled 3 := ⟨by decide, by decide +kernel, by decide +kernel, by decide +kernel⟩
theorem fi_X6_areLinked : jfi mi_X6_areLinked 2 := ⟨by decide, by decide +kernel, by decide +kernel, by decide +kernel⟩
theorem fi_X6_far : jfi mi_X6_far 2 := ⟨by decide, by decide +kernel, by decide +kernel, by decide +kernel⟩
theorem fi_X6_isNight : jfi mi_X6_isNight 1 := ⟨by decide, by decide +kernel, by decide +kernel, by decide +kernel⟩
theorem fi_X6_all : jfi mi_X6_all 0 := ⟨by decide, by decide +kernel, by decide +kernel, by decide +kernel⟩
theorem fi_X6_range : jfi mi_X6_range 1 := ⟨by decide, by decide +kernel, by decide +kernel, by decide +kernel⟩
theorem fi_X7_init : jfi mi_X7_init 2 := ⟨by decide, by decide +kernel, by decide +kernel, by decide +kernel⟩
theorem fi_X8_init : jfi mi_X8_init 2 := ⟨by decide, by decide +kernel, by decide +kernel, by decide +kernel⟩
theorem fi_X9_init : jfi mi_X9_init 2 := ⟨by decide, by decide +kernel, by decide +kernel, by decide +kernel⟩
theorem fi_X9_has : jfi mi_X9_has 1 := ⟨by decide, by decide +kernel, by decide +kernel, by decide +kernel⟩
theorem fi_X9_watches : jfi mi_X9_watches 1 := ⟨by decide, by decide +kernel, by decide +kernel, by decide +kernel⟩
theorem ic_0 : Int32.ofInt 0 = nI 0 := rfl
theorem ic_1 : Int32.ofInt 1 = nI 1 := rfl
theorem ic_2 : Int32.ofInt 2 = nI 2 := rfl
theorem ic_3 : Int32.ofInt 3 = nI 3 := rfl
theorem ic_4 : Int32.ofInt 4 = nI 4 := rfl
theorem ic_5 : Int32.ofInt 5 = nI 5 := rfl
theorem ic_m1 : Int32.ofInt (-1) = -1 := by decide +kernel
theorem bp_m2 : (Int8.ofInt (-2)).toInt32 = (-2) := by decide +kernel
theorem bp_6 : (Int8.ofInt 6).toInt32 = nI 6 := by decide +kernel
theorem bp_7 : (Int8.ofInt 7).toInt32 = nI 7 := by decide +kernel
theorem bp_8 : (Int8.ofInt 8).toInt32 = nI 8 := by decide +kernel
theorem bp_9 : (Int8.ofInt 9).toInt32 = nI 9 := by decide +kernel
theorem bp_10 : (Int8.ofInt 10).toInt32 = nI 10 := by decide +kernel
theorem bp_11 : (Int8.ofInt 11).toInt32 = nI 11 := by decide +kernel
theorem bp_12 : (Int8.ofInt 12).toInt32 = nI 12 := by decide +kernel
theorem bp_15 : (Int8.ofInt 15).toInt32 = nI 15 := by decide +kernel
theorem bp_16 : (Int8.ofInt 16).toInt32 = nI 16 := by decide +kernel
theorem bp_19 : (Int8.ofInt 19).toInt32 = nI 19 := by decide +kernel
theorem bp_20 : (Int8.ofInt 20).toInt32 = nI 20 := by decide +kernel
theorem bp_24 : (Int8.ofInt 24).toInt32 = nI 24 := by decide +kernel
theorem bp_30 : (Int8.ofInt 30).toInt32 = nI 30 := by decide +kernel
theorem bp_31 : (Int8.ofInt 31).toInt32 = nI 31 := by decide +kernel
theorem bp_32 : (Int8.ofInt 32).toInt32 = nI 32 := by decide +kernel
theorem bp_44 : (Int8.ofInt 44).toInt32 = nI 44 := by decide +kernel
theorem bp_48 : (Int8.ofInt 48).toInt32 = nI 48 := by decide +kernel
theorem bp_57 : (Int8.ofInt 57).toInt32 = nI 57 := by decide +kernel
theorem bp_59 : (Int8.ofInt 59).toInt32 = nI 59 := by decide +kernel
theorem bp_63 : (Int8.ofInt 63).toInt32 = nI 63 := by decide +kernel
theorem bp_74 : (Int8.ofInt 74).toInt32 = nI 74 := by decide +kernel
theorem bp_75 : (Int8.ofInt 75).toInt32 = nI 75 := by decide +kernel
theorem bp_97 : (Int8.ofInt 97).toInt32 = nI 97 := by decide +kernel
theorem bp_99 : (Int8.ofInt 99).toInt32 = nI 99 := by decide +kernel
theorem bp_100 : (Int8.ofInt 100).toInt32 = nI 100 := by decide +kernel
theorem bp_122 : (Int8.ofInt 122).toInt32 = nI 122 := by decide +kernel
theorem sp_155 : (Int16.ofInt 155).toInt32 = nI 155 := by decide +kernel
theorem sp_199 : (Int16.ofInt 199).toInt32 = nI 199 := by decide +kernel
theorem sp_255 : (Int16.ofInt 255).toInt32 = nI 255 := by decide +kernel
theorem sp_500 : (Int16.ofInt 500).toInt32 = nI 500 := by decide +kernel
theorem sp_900 : (Int16.ofInt 900).toInt32 = nI 900 := by decide +kernel
theorem sp_1000 : (Int16.ofInt 1000).toInt32 = nI 1000 := by decide +kernel
theorem sp_1024 : (Int16.ofInt 1024).toInt32 = nI 1024 := by decide +kernel
theorem sp_31000 : (Int16.ofInt 31000).toInt32 = nI 31000 := by decide +kernel
theorem pd_LNeverUnseen_Person_ : parseFieldDescriptor "LNeverUnseen$Person;" = some (.object "NeverUnseen$Person") := by decide +kernel
theorem pd_LNeverUnseen_Reader_ : parseFieldDescriptor "LNeverUnseen$Reader;" = some (.object "NeverUnseen$Reader") := by decide +kernel
theorem pd_LNeverUnseen_Refused_ : parseFieldDescriptor "LNeverUnseen$Refused;" = some (.object "NeverUnseen$Refused") := by decide +kernel
theorem pd_LNeverUnseen_Sight_ : parseFieldDescriptor "LNeverUnseen$Sight;" = some (.object "NeverUnseen$Sight") := by decide +kernel
theorem pd_LNeverUnseen_Valley_ : parseFieldDescriptor "LNeverUnseen$Valley;" = some (.object "NeverUnseen$Valley") := by decide +kernel
theorem pd_LNeverUnseenModel_Valley_ : parseFieldDescriptor "LNeverUnseenModel$Valley;" = some (.object "NeverUnseenModel$Valley") := by decide +kernel
theorem pd_Ljava_lang_Object_ : parseFieldDescriptor "Ljava/lang/Object;" = some (.object "java/lang/Object") := by decide +kernel
theorem pd_Ljava_lang_String_ : parseFieldDescriptor "Ljava/lang/String;" = some (.object "java/lang/String") := by decide +kernel
theorem pd_Ljava_lang_Throwable_ : parseFieldDescriptor "Ljava/lang/Throwable;" = some (.object "java/lang/Throwable") := by decide +kernel
theorem pd_Ljava_util_List_ : parseFieldDescriptor "Ljava/util/List;" = some (.object "java/util/List") := by decide +kernel
theorem pd__B : parseFieldDescriptor "[B" = some (.array (.byte)) := by decide +kernel
theorem pd__C : parseFieldDescriptor "[C" = some (.array (.char)) := by decide +kernel
theorem pd__I : parseFieldDescriptor "[I" = some (.array (.int)) := by decide +kernel
theorem pd__J : parseFieldDescriptor "[J" = some (.array (.long)) := by decide +kernel
theorem pd__LNeverUnseen_Errand_ : parseFieldDescriptor "[LNeverUnseen$Errand;" = some (.array (.object "NeverUnseen$Errand")) := by decide +kernel
theorem pd__LNeverUnseen_Habit_ : parseFieldDescriptor "[LNeverUnseen$Habit;" = some (.array (.object "NeverUnseen$Habit")) := by decide +kernel
theorem pd__LNeverUnseen_Person_ : parseFieldDescriptor "[LNeverUnseen$Person;" = some (.array (.object "NeverUnseen$Person")) := by decide +kernel
theorem pd__LNeverUnseen_Place_ : parseFieldDescriptor "[LNeverUnseen$Place;" = some (.array (.object "NeverUnseen$Place")) := by decide +kernel
theorem pd__Ljava_lang_StackTraceElement_ : parseFieldDescriptor "[Ljava/lang/StackTraceElement;" = some (.array (.object "java/lang/StackTraceElement")) := by decide +kernel
theorem pd__Z : parseFieldDescriptor "[Z" = some (.array (.boolean)) := by decide +kernel
theorem js_X2_59 : ("NeverUnseen$Reader", 59, "", 0) ∈ jstr := List.mem_of_getElem? (i := 0) rfl
theorem js_X2_93 : ("NeverUnseen$Reader", 93, "law", 2) ∈ jstr := List.mem_of_getElem? (i := 1) rfl
theorem js_X2_95 : ("NeverUnseen$Reader", 95, "place", 4) ∈ jstr := List.mem_of_getElem? (i := 2) rfl
theorem js_X2_97 : ("NeverUnseen$Reader", 97, "wall", 6) ∈ jstr := List.mem_of_getElem? (i := 3) rfl
theorem js_X2_99 : ("NeverUnseen$Reader", 99, "way", 8) ∈ jstr := List.mem_of_getElem? (i := 4) rfl
theorem js_X2_101 : ("NeverUnseen$Reader", 101, "mirror", 10) ∈ jstr := List.mem_of_getElem? (i := 5) rfl
theorem js_X2_103 : ("NeverUnseen$Reader", 103, "person", 12) ∈ jstr := List.mem_of_getElem? (i := 6) rfl
theorem js_X2_105 : ("NeverUnseen$Reader", 105, "baby", 14) ∈ jstr := List.mem_of_getElem? (i := 7) rfl
theorem js_X2_107 : ("NeverUnseen$Reader", 107, "away", 16) ∈ jstr := List.mem_of_getElem? (i := 8) rfl
theorem js_X2_109 : ("NeverUnseen$Reader", 109, "sleeps", 18) ∈ jstr := List.mem_of_getElem? (i := 9) rfl
theorem js_X2_111 : ("NeverUnseen$Reader", 111, "pair", 20) ∈ jstr := List.mem_of_getElem? (i := 10) rfl
theorem js_X2_113 : ("NeverUnseen$Reader", 113, "errand", 22) ∈ jstr := List.mem_of_getElem? (i := 11) rfl
theorem js_X2_115 : ("NeverUnseen$Reader", 115, "fog", 24) ∈ jstr := List.mem_of_getElem? (i := 12) rfl
theorem js_X2_185 : ("NeverUnseen$Reader", 185, "day", 26) ∈ jstr := List.mem_of_getElem? (i := 13) rfl
theorem js_X2_193 : ("NeverUnseen$Reader", 193, "night", 28) ∈ jstr := List.mem_of_getElem? (i := 14) rfl
theorem js_X2_197 : ("NeverUnseen$Reader", 197, "from", 30) ∈ jstr := List.mem_of_getElem? (i := 15) rfl
theorem js_X2_201 : ("NeverUnseen$Reader", 201, "to", 32) ∈ jstr := List.mem_of_getElem? (i := 16) rfl
theorem js_X2_205 : ("NeverUnseen$Reader", 205, "steps", 34) ∈ jstr := List.mem_of_getElem? (i := 17) rfl
theorem js_X2_213 : ("NeverUnseen$Reader", 213, "at", 36) ∈ jstr := List.mem_of_getElem? (i := 18) rfl
theorem js_X2_309 : ("NeverUnseen$Reader", 309, "takes", 38) ∈ jstr := List.mem_of_getElem? (i := 19) rfl
theorem js_X2_325 : ("NeverUnseen$Reader", 325, "chance", 40) ∈ jstr := List.mem_of_getElem? (i := 20) rfl
theorem js_X5_146 : ("NeverUnseenModel", 146, "law", 2) ∈ jstr := List.mem_of_getElem? (i := 21) rfl
theorem js_X5_148 : ("NeverUnseenModel", 148, "place", 4) ∈ jstr := List.mem_of_getElem? (i := 22) rfl
theorem js_X5_149 : ("NeverUnseenModel", 149, "wall", 6) ∈ jstr := List.mem_of_getElem? (i := 23) rfl
theorem js_X5_151 : ("NeverUnseenModel", 151, "way", 8) ∈ jstr := List.mem_of_getElem? (i := 24) rfl
theorem js_X5_153 : ("NeverUnseenModel", 153, "mirror", 10) ∈ jstr := List.mem_of_getElem? (i := 25) rfl
theorem js_X5_155 : ("NeverUnseenModel", 155, "person", 12) ∈ jstr := List.mem_of_getElem? (i := 26) rfl
theorem js_X5_157 : ("NeverUnseenModel", 157, "baby", 14) ∈ jstr := List.mem_of_getElem? (i := 27) rfl
theorem js_X5_159 : ("NeverUnseenModel", 159, "away", 16) ∈ jstr := List.mem_of_getElem? (i := 28) rfl
theorem js_X5_161 : ("NeverUnseenModel", 161, "sleeps", 18) ∈ jstr := List.mem_of_getElem? (i := 29) rfl
theorem js_X5_163 : ("NeverUnseenModel", 163, "pair", 20) ∈ jstr := List.mem_of_getElem? (i := 30) rfl
theorem js_X5_165 : ("NeverUnseenModel", 165, "errand", 22) ∈ jstr := List.mem_of_getElem? (i := 31) rfl
theorem js_X5_167 : ("NeverUnseenModel", 167, "fog", 24) ∈ jstr := List.mem_of_getElem? (i := 32) rfl
theorem js_X5_251 : ("NeverUnseenModel", 251, "day", 26) ∈ jstr := List.mem_of_getElem? (i := 33) rfl
theorem js_X5_259 : ("NeverUnseenModel", 259, "night", 28) ∈ jstr := List.mem_of_getElem? (i := 34) rfl
theorem js_X5_263 : ("NeverUnseenModel", 263, "from", 30) ∈ jstr := List.mem_of_getElem? (i := 35) rfl
theorem js_X5_267 : ("NeverUnseenModel", 267, "to", 32) ∈ jstr := List.mem_of_getElem? (i := 36) rfl
theorem js_X5_271 : ("NeverUnseenModel", 271, "steps", 34) ∈ jstr := List.mem_of_getElem? (i := 37) rfl
theorem js_X5_282 : ("NeverUnseenModel", 282, "at", 36) ∈ jstr := List.mem_of_getElem? (i := 38) rfl
theorem js_X5_347 : ("NeverUnseenModel", 347, "takes", 38) ∈ jstr := List.mem_of_getElem? (i := 39) rfl
theorem js_X5_369 : ("NeverUnseenModel", 369, "chance", 40) ∈ jstr := List.mem_of_getElem? (i := 40) rfl
