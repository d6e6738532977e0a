set_option maxRecDepth 100000
def vK : List Nat := [105, 106, 107, 100, 100, 100, 100, 100, 100, 100]
def vN : List Nat := [10, 5, 5, 10, 10, 4, 3, 3, 4, 4]
def vR : List Nat := [87, 88, 89, 90, 91, 92, 93, 94, 95, 96]
/-- the fixed shape of a made valley at v, its rows at v + 1 .. -/
def jVs (M : Mm) (v : Nat) : Prop := jm_K M v = 6 ∧ 104 ≤ v ∧ v + 10 < jm_Z M ∧ (∀ i, i < 10 → jm_K M (v + (i + 1)) = vK.getD i 0 ∧ jm_N M (v + (i + 1)) = vN.getD i 0 ∧ jm_R M v (vR.getD i 0) = some (v + (i + 1)))
theorem vis {M : Mm} {v : Nat} (h : jVs M v) : jis M v 5 := ⟨h.1, Nat.lt_of_le_of_lt (Nat.le_add_right _ _) h.2.2.1, Nat.le_trans (by decide) h.2.1⟩
theorem vok_1 {M : Mm} {v : Nat} (h : jVs M v) : jok M (v + 1) 5 := ⟨(h.2.2.2 0 (by decide)).1, Nat.lt_of_le_of_lt (Nat.add_le_add_left (by decide) v) h.2.2.1, fun q => by have := h.2.1; omega⟩
theorem vnn_1 {M : Mm} {v : Nat} (h : jVs M v) : jm_N M (v + 1) = 10 := (h.2.2.2 0 (by decide)).2.1
theorem vr_1 {M : Mm} {v : Nat} (h : jVs M v) : jm_R M v 87 = some (v + 1) := (h.2.2.2 0 (by decide)).2.2
theorem vok_2 {M : Mm} {v : Nat} (h : jVs M v) : jok M (v + 2) 6 := ⟨(h.2.2.2 1 (by decide)).1, Nat.lt_of_le_of_lt (Nat.add_le_add_left (by decide) v) h.2.2.1, fun q => by have := h.2.1; omega⟩
theorem vnn_2 {M : Mm} {v : Nat} (h : jVs M v) : jm_N M (v + 2) = 5 := (h.2.2.2 1 (by decide)).2.1
theorem vr_2 {M : Mm} {v : Nat} (h : jVs M v) : jm_R M v 88 = some (v + 2) := (h.2.2.2 1 (by decide)).2.2
theorem vok_3 {M : Mm} {v : Nat} (h : jVs M v) : jok M (v + 3) 7 := ⟨(h.2.2.2 2 (by decide)).1, Nat.lt_of_le_of_lt (Nat.add_le_add_left (by decide) v) h.2.2.1, fun q => by have := h.2.1; omega⟩
theorem vnn_3 {M : Mm} {v : Nat} (h : jVs M v) : jm_N M (v + 3) = 5 := (h.2.2.2 2 (by decide)).2.1
theorem vr_3 {M : Mm} {v : Nat} (h : jVs M v) : jm_R M v 89 = some (v + 3) := (h.2.2.2 2 (by decide)).2.2
theorem vok_4 {M : Mm} {v : Nat} (h : jVs M v) : jok M (v + 4) 0 := ⟨(h.2.2.2 3 (by decide)).1, Nat.lt_of_le_of_lt (Nat.add_le_add_left (by decide) v) h.2.2.1, fun q => by have := h.2.1; omega⟩
theorem vnn_4 {M : Mm} {v : Nat} (h : jVs M v) : jm_N M (v + 4) = 10 := (h.2.2.2 3 (by decide)).2.1
theorem vr_4 {M : Mm} {v : Nat} (h : jVs M v) : jm_R M v 90 = some (v + 4) := (h.2.2.2 3 (by decide)).2.2
theorem vok_5 {M : Mm} {v : Nat} (h : jVs M v) : jok M (v + 5) 0 := ⟨(h.2.2.2 4 (by decide)).1, Nat.lt_of_le_of_lt (Nat.add_le_add_left (by decide) v) h.2.2.1, fun q => by have := h.2.1; omega⟩
theorem vnn_5 {M : Mm} {v : Nat} (h : jVs M v) : jm_N M (v + 5) = 10 := (h.2.2.2 4 (by decide)).2.1
theorem vr_5 {M : Mm} {v : Nat} (h : jVs M v) : jm_R M v 91 = some (v + 5) := (h.2.2.2 4 (by decide)).2.2
theorem vok_6 {M : Mm} {v : Nat} (h : jVs M v) : jok M (v + 6) 0 := ⟨(h.2.2.2 5 (by decide)).1, Nat.lt_of_le_of_lt (Nat.add_le_add_left (by decide) v) h.2.2.1, fun q => by have := h.2.1; omega⟩
theorem vnn_6 {M : Mm} {v : Nat} (h : jVs M v) : jm_N M (v + 6) = 4 := (h.2.2.2 5 (by decide)).2.1
theorem vr_6 {M : Mm} {v : Nat} (h : jVs M v) : jm_R M v 92 = some (v + 6) := (h.2.2.2 5 (by decide)).2.2
theorem vok_7 {M : Mm} {v : Nat} (h : jVs M v) : jok M (v + 7) 0 := ⟨(h.2.2.2 6 (by decide)).1, Nat.lt_of_le_of_lt (Nat.add_le_add_left (by decide) v) h.2.2.1, fun q => by have := h.2.1; omega⟩
theorem vnn_7 {M : Mm} {v : Nat} (h : jVs M v) : jm_N M (v + 7) = 3 := (h.2.2.2 6 (by decide)).2.1
theorem vr_7 {M : Mm} {v : Nat} (h : jVs M v) : jm_R M v 93 = some (v + 7) := (h.2.2.2 6 (by decide)).2.2
theorem vok_8 {M : Mm} {v : Nat} (h : jVs M v) : jok M (v + 8) 0 := ⟨(h.2.2.2 7 (by decide)).1, Nat.lt_of_le_of_lt (Nat.add_le_add_left (by decide) v) h.2.2.1, fun q => by have := h.2.1; omega⟩
theorem vnn_8 {M : Mm} {v : Nat} (h : jVs M v) : jm_N M (v + 8) = 3 := (h.2.2.2 7 (by decide)).2.1
theorem vr_8 {M : Mm} {v : Nat} (h : jVs M v) : jm_R M v 94 = some (v + 8) := (h.2.2.2 7 (by decide)).2.2
theorem vok_9 {M : Mm} {v : Nat} (h : jVs M v) : jok M (v + 9) 0 := ⟨(h.2.2.2 8 (by decide)).1, Nat.lt_of_le_of_lt (Nat.add_le_add_left (by decide) v) h.2.2.1, fun q => by have := h.2.1; omega⟩
theorem vnn_9 {M : Mm} {v : Nat} (h : jVs M v) : jm_N M (v + 9) = 4 := (h.2.2.2 8 (by decide)).2.1
theorem vr_9 {M : Mm} {v : Nat} (h : jVs M v) : jm_R M v 95 = some (v + 9) := (h.2.2.2 8 (by decide)).2.2
theorem vok_10 {M : Mm} {v : Nat} (h : jVs M v) : jok M (v + 10) 0 := ⟨(h.2.2.2 9 (by decide)).1, Nat.lt_of_le_of_lt (Nat.add_le_add_left (by decide) v) h.2.2.1, fun q => by have := h.2.1; omega⟩
theorem vnn_10 {M : Mm} {v : Nat} (h : jVs M v) : jm_N M (v + 10) = 4 := (h.2.2.2 9 (by decide)).2.1
theorem vr_10 {M : Mm} {v : Nat} (h : jVs M v) : jm_R M v 96 = some (v + 10) := (h.2.2.2 9 (by decide)).2.2
def wK : List Nat := [100, 100, 100, 100, 100, 100, 100, 100, 100, 100, 100, 100, 100, 103, 100, 100, 100, 100, 100, 100, 100, 104, 100, 100]
def wN : List Nat := [10, 10, 10, 10, 16, 16, 4, 5, 5, 5, 5, 3, 3, 5, 5, 5, 5, 5, 5, 4, 4, 15, 15, 15]
def wR : List Nat := [141, 142, 143, 144, 145, 146, 147, 148, 149, 150, 151, 152, 153, 154, 155, 156, 157, 158, 159, 160, 161, 162, 163, 164]
/-- the fixed shape of a made valley at v, its rows at v + 1 .. -/
def jWs (M : Mm) (v : Nat) : Prop := jm_K M v = 13 ∧ 104 ≤ v ∧ v + 24 < jm_Z M ∧ (∀ i, i < 24 → jm_K M (v + (i + 1)) = wK.getD i 0 ∧ jm_N M (v + (i + 1)) = wN.getD i 0 ∧ jm_R M v (wR.getD i 0) = some (v + (i + 1)))
theorem wis {M : Mm} {v : Nat} (h : jWs M v) : jis M v 12 := ⟨h.1, Nat.lt_of_le_of_lt (Nat.le_add_right _ _) h.2.2.1, Nat.le_trans (by decide) h.2.1⟩
theorem wok_1 {M : Mm} {v : Nat} (h : jWs M v) : jok M (v + 1) 0 := ⟨(h.2.2.2 0 (by decide)).1, Nat.lt_of_le_of_lt (Nat.add_le_add_left (by decide) v) h.2.2.1, fun q => by have := h.2.1; omega⟩
theorem wnn_1 {M : Mm} {v : Nat} (h : jWs M v) : jm_N M (v + 1) = 10 := (h.2.2.2 0 (by decide)).2.1
theorem wr_1 {M : Mm} {v : Nat} (h : jWs M v) : jm_R M v 141 = some (v + 1) := (h.2.2.2 0 (by decide)).2.2
theorem wok_2 {M : Mm} {v : Nat} (h : jWs M v) : jok M (v + 2) 0 := ⟨(h.2.2.2 1 (by decide)).1, Nat.lt_of_le_of_lt (Nat.add_le_add_left (by decide) v) h.2.2.1, fun q => by have := h.2.1; omega⟩
theorem wnn_2 {M : Mm} {v : Nat} (h : jWs M v) : jm_N M (v + 2) = 10 := (h.2.2.2 1 (by decide)).2.1
theorem wr_2 {M : Mm} {v : Nat} (h : jWs M v) : jm_R M v 142 = some (v + 2) := (h.2.2.2 1 (by decide)).2.2
theorem wok_3 {M : Mm} {v : Nat} (h : jWs M v) : jok M (v + 3) 0 := ⟨(h.2.2.2 2 (by decide)).1, Nat.lt_of_le_of_lt (Nat.add_le_add_left (by decide) v) h.2.2.1, fun q => by have := h.2.1; omega⟩
theorem wnn_3 {M : Mm} {v : Nat} (h : jWs M v) : jm_N M (v + 3) = 10 := (h.2.2.2 2 (by decide)).2.1
theorem wr_3 {M : Mm} {v : Nat} (h : jWs M v) : jm_R M v 143 = some (v + 3) := (h.2.2.2 2 (by decide)).2.2
theorem wok_4 {M : Mm} {v : Nat} (h : jWs M v) : jok M (v + 4) 0 := ⟨(h.2.2.2 3 (by decide)).1, Nat.lt_of_le_of_lt (Nat.add_le_add_left (by decide) v) h.2.2.1, fun q => by have := h.2.1; omega⟩
theorem wnn_4 {M : Mm} {v : Nat} (h : jWs M v) : jm_N M (v + 4) = 10 := (h.2.2.2 3 (by decide)).2.1
theorem wr_4 {M : Mm} {v : Nat} (h : jWs M v) : jm_R M v 144 = some (v + 4) := (h.2.2.2 3 (by decide)).2.2
theorem wok_5 {M : Mm} {v : Nat} (h : jWs M v) : jok M (v + 5) 0 := ⟨(h.2.2.2 4 (by decide)).1, Nat.lt_of_le_of_lt (Nat.add_le_add_left (by decide) v) h.2.2.1, fun q => by have := h.2.1; omega⟩
theorem wnn_5 {M : Mm} {v : Nat} (h : jWs M v) : jm_N M (v + 5) = 16 := (h.2.2.2 4 (by decide)).2.1
theorem wr_5 {M : Mm} {v : Nat} (h : jWs M v) : jm_R M v 145 = some (v + 5) := (h.2.2.2 4 (by decide)).2.2
theorem wok_6 {M : Mm} {v : Nat} (h : jWs M v) : jok M (v + 6) 0 := ⟨(h.2.2.2 5 (by decide)).1, Nat.lt_of_le_of_lt (Nat.add_le_add_left (by decide) v) h.2.2.1, fun q => by have := h.2.1; omega⟩
theorem wnn_6 {M : Mm} {v : Nat} (h : jWs M v) : jm_N M (v + 6) = 16 := (h.2.2.2 5 (by decide)).2.1
theorem wr_6 {M : Mm} {v : Nat} (h : jWs M v) : jm_R M v 146 = some (v + 6) := (h.2.2.2 5 (by decide)).2.2
theorem wok_7 {M : Mm} {v : Nat} (h : jWs M v) : jok M (v + 7) 0 := ⟨(h.2.2.2 6 (by decide)).1, Nat.lt_of_le_of_lt (Nat.add_le_add_left (by decide) v) h.2.2.1, fun q => by have := h.2.1; omega⟩
theorem wnn_7 {M : Mm} {v : Nat} (h : jWs M v) : jm_N M (v + 7) = 4 := (h.2.2.2 6 (by decide)).2.1
theorem wr_7 {M : Mm} {v : Nat} (h : jWs M v) : jm_R M v 147 = some (v + 7) := (h.2.2.2 6 (by decide)).2.2
theorem wok_8 {M : Mm} {v : Nat} (h : jWs M v) : jok M (v + 8) 0 := ⟨(h.2.2.2 7 (by decide)).1, Nat.lt_of_le_of_lt (Nat.add_le_add_left (by decide) v) h.2.2.1, fun q => by have := h.2.1; omega⟩
theorem wnn_8 {M : Mm} {v : Nat} (h : jWs M v) : jm_N M (v + 8) = 5 := (h.2.2.2 7 (by decide)).2.1
theorem wr_8 {M : Mm} {v : Nat} (h : jWs M v) : jm_R M v 148 = some (v + 8) := (h.2.2.2 7 (by decide)).2.2
theorem wok_9 {M : Mm} {v : Nat} (h : jWs M v) : jok M (v + 9) 0 := ⟨(h.2.2.2 8 (by decide)).1, Nat.lt_of_le_of_lt (Nat.add_le_add_left (by decide) v) h.2.2.1, fun q => by have := h.2.1; omega⟩
theorem wnn_9 {M : Mm} {v : Nat} (h : jWs M v) : jm_N M (v + 9) = 5 := (h.2.2.2 8 (by decide)).2.1
theorem wr_9 {M : Mm} {v : Nat} (h : jWs M v) : jm_R M v 149 = some (v + 9) := (h.2.2.2 8 (by decide)).2.2
theorem wok_10 {M : Mm} {v : Nat} (h : jWs M v) : jok M (v + 10) 0 := ⟨(h.2.2.2 9 (by decide)).1, Nat.lt_of_le_of_lt (Nat.add_le_add_left (by decide) v) h.2.2.1, fun q => by have := h.2.1; omega⟩
theorem wnn_10 {M : Mm} {v : Nat} (h : jWs M v) : jm_N M (v + 10) = 5 := (h.2.2.2 9 (by decide)).2.1
theorem wr_10 {M : Mm} {v : Nat} (h : jWs M v) : jm_R M v 150 = some (v + 10) := (h.2.2.2 9 (by decide)).2.2
theorem wok_11 {M : Mm} {v : Nat} (h : jWs M v) : jok M (v + 11) 0 := ⟨(h.2.2.2 10 (by decide)).1, Nat.lt_of_le_of_lt (Nat.add_le_add_left (by decide) v) h.2.2.1, fun q => by have := h.2.1; omega⟩
theorem wnn_11 {M : Mm} {v : Nat} (h : jWs M v) : jm_N M (v + 11) = 5 := (h.2.2.2 10 (by decide)).2.1
theorem wr_11 {M : Mm} {v : Nat} (h : jWs M v) : jm_R M v 151 = some (v + 11) := (h.2.2.2 10 (by decide)).2.2
theorem wok_12 {M : Mm} {v : Nat} (h : jWs M v) : jok M (v + 12) 0 := ⟨(h.2.2.2 11 (by decide)).1, Nat.lt_of_le_of_lt (Nat.add_le_add_left (by decide) v) h.2.2.1, fun q => by have := h.2.1; omega⟩
theorem wnn_12 {M : Mm} {v : Nat} (h : jWs M v) : jm_N M (v + 12) = 3 := (h.2.2.2 11 (by decide)).2.1
theorem wr_12 {M : Mm} {v : Nat} (h : jWs M v) : jm_R M v 152 = some (v + 12) := (h.2.2.2 11 (by decide)).2.2
theorem wok_13 {M : Mm} {v : Nat} (h : jWs M v) : jok M (v + 13) 0 := ⟨(h.2.2.2 12 (by decide)).1, Nat.lt_of_le_of_lt (Nat.add_le_add_left (by decide) v) h.2.2.1, fun q => by have := h.2.1; omega⟩
theorem wnn_13 {M : Mm} {v : Nat} (h : jWs M v) : jm_N M (v + 13) = 3 := (h.2.2.2 12 (by decide)).2.1
theorem wr_13 {M : Mm} {v : Nat} (h : jWs M v) : jm_R M v 153 = some (v + 13) := (h.2.2.2 12 (by decide)).2.2
theorem wok_14 {M : Mm} {v : Nat} (h : jWs M v) : jok M (v + 14) 3 := ⟨(h.2.2.2 13 (by decide)).1, Nat.lt_of_le_of_lt (Nat.add_le_add_left (by decide) v) h.2.2.1, fun q => by have := h.2.1; omega⟩
theorem wnn_14 {M : Mm} {v : Nat} (h : jWs M v) : jm_N M (v + 14) = 5 := (h.2.2.2 13 (by decide)).2.1
theorem wr_14 {M : Mm} {v : Nat} (h : jWs M v) : jm_R M v 154 = some (v + 14) := (h.2.2.2 13 (by decide)).2.2
theorem wok_15 {M : Mm} {v : Nat} (h : jWs M v) : jok M (v + 15) 0 := ⟨(h.2.2.2 14 (by decide)).1, Nat.lt_of_le_of_lt (Nat.add_le_add_left (by decide) v) h.2.2.1, fun q => by have := h.2.1; omega⟩
theorem wnn_15 {M : Mm} {v : Nat} (h : jWs M v) : jm_N M (v + 15) = 5 := (h.2.2.2 14 (by decide)).2.1
theorem wr_15 {M : Mm} {v : Nat} (h : jWs M v) : jm_R M v 155 = some (v + 15) := (h.2.2.2 14 (by decide)).2.2
theorem wok_16 {M : Mm} {v : Nat} (h : jWs M v) : jok M (v + 16) 0 := ⟨(h.2.2.2 15 (by decide)).1, Nat.lt_of_le_of_lt (Nat.add_le_add_left (by decide) v) h.2.2.1, fun q => by have := h.2.1; omega⟩
theorem wnn_16 {M : Mm} {v : Nat} (h : jWs M v) : jm_N M (v + 16) = 5 := (h.2.2.2 15 (by decide)).2.1
theorem wr_16 {M : Mm} {v : Nat} (h : jWs M v) : jm_R M v 156 = some (v + 16) := (h.2.2.2 15 (by decide)).2.2
theorem wok_17 {M : Mm} {v : Nat} (h : jWs M v) : jok M (v + 17) 0 := ⟨(h.2.2.2 16 (by decide)).1, Nat.lt_of_le_of_lt (Nat.add_le_add_left (by decide) v) h.2.2.1, fun q => by have := h.2.1; omega⟩
theorem wnn_17 {M : Mm} {v : Nat} (h : jWs M v) : jm_N M (v + 17) = 5 := (h.2.2.2 16 (by decide)).2.1
theorem wr_17 {M : Mm} {v : Nat} (h : jWs M v) : jm_R M v 157 = some (v + 17) := (h.2.2.2 16 (by decide)).2.2
theorem wok_18 {M : Mm} {v : Nat} (h : jWs M v) : jok M (v + 18) 0 := ⟨(h.2.2.2 17 (by decide)).1, Nat.lt_of_le_of_lt (Nat.add_le_add_left (by decide) v) h.2.2.1, fun q => by have := h.2.1; omega⟩
theorem wnn_18 {M : Mm} {v : Nat} (h : jWs M v) : jm_N M (v + 18) = 5 := (h.2.2.2 17 (by decide)).2.1
theorem wr_18 {M : Mm} {v : Nat} (h : jWs M v) : jm_R M v 158 = some (v + 18) := (h.2.2.2 17 (by decide)).2.2
theorem wok_19 {M : Mm} {v : Nat} (h : jWs M v) : jok M (v + 19) 0 := ⟨(h.2.2.2 18 (by decide)).1, Nat.lt_of_le_of_lt (Nat.add_le_add_left (by decide) v) h.2.2.1, fun q => by have := h.2.1; omega⟩
theorem wnn_19 {M : Mm} {v : Nat} (h : jWs M v) : jm_N M (v + 19) = 5 := (h.2.2.2 18 (by decide)).2.1
theorem wr_19 {M : Mm} {v : Nat} (h : jWs M v) : jm_R M v 159 = some (v + 19) := (h.2.2.2 18 (by decide)).2.2
theorem wok_20 {M : Mm} {v : Nat} (h : jWs M v) : jok M (v + 20) 0 := ⟨(h.2.2.2 19 (by decide)).1, Nat.lt_of_le_of_lt (Nat.add_le_add_left (by decide) v) h.2.2.1, fun q => by have := h.2.1; omega⟩
theorem wnn_20 {M : Mm} {v : Nat} (h : jWs M v) : jm_N M (v + 20) = 4 := (h.2.2.2 19 (by decide)).2.1
theorem wr_20 {M : Mm} {v : Nat} (h : jWs M v) : jm_R M v 160 = some (v + 20) := (h.2.2.2 19 (by decide)).2.2
theorem wok_21 {M : Mm} {v : Nat} (h : jWs M v) : jok M (v + 21) 0 := ⟨(h.2.2.2 20 (by decide)).1, Nat.lt_of_le_of_lt (Nat.add_le_add_left (by decide) v) h.2.2.1, fun q => by have := h.2.1; omega⟩
theorem wnn_21 {M : Mm} {v : Nat} (h : jWs M v) : jm_N M (v + 21) = 4 := (h.2.2.2 20 (by decide)).2.1
theorem wr_21 {M : Mm} {v : Nat} (h : jWs M v) : jm_R M v 161 = some (v + 21) := (h.2.2.2 20 (by decide)).2.2
theorem wok_22 {M : Mm} {v : Nat} (h : jWs M v) : jok M (v + 22) 4 := ⟨(h.2.2.2 21 (by decide)).1, Nat.lt_of_le_of_lt (Nat.add_le_add_left (by decide) v) h.2.2.1, fun q => by have := h.2.1; omega⟩
theorem wnn_22 {M : Mm} {v : Nat} (h : jWs M v) : jm_N M (v + 22) = 15 := (h.2.2.2 21 (by decide)).2.1
theorem wr_22 {M : Mm} {v : Nat} (h : jWs M v) : jm_R M v 162 = some (v + 22) := (h.2.2.2 21 (by decide)).2.2
theorem wok_23 {M : Mm} {v : Nat} (h : jWs M v) : jok M (v + 23) 0 := ⟨(h.2.2.2 22 (by decide)).1, Nat.lt_of_le_of_lt (Nat.add_le_add_left (by decide) v) h.2.2.1, fun q => by have := h.2.1; omega⟩
theorem wnn_23 {M : Mm} {v : Nat} (h : jWs M v) : jm_N M (v + 23) = 15 := (h.2.2.2 22 (by decide)).2.1
theorem wr_23 {M : Mm} {v : Nat} (h : jWs M v) : jm_R M v 163 = some (v + 23) := (h.2.2.2 22 (by decide)).2.2
theorem wok_24 {M : Mm} {v : Nat} (h : jWs M v) : jok M (v + 24) 0 := ⟨(h.2.2.2 23 (by decide)).1, Nat.lt_of_le_of_lt (Nat.add_le_add_left (by decide) v) h.2.2.1, fun q => by have := h.2.1; omega⟩
theorem wnn_24 {M : Mm} {v : Nat} (h : jWs M v) : jm_N M (v + 24) = 15 := (h.2.2.2 23 (by decide)).2.1
theorem wr_24 {M : Mm} {v : Nat} (h : jWs M v) : jm_R M v 164 = some (v + 24) := (h.2.2.2 23 (by decide)).2.2
/-! ===== what a valley is, and what is asked of it, as numbers ===== -/
abbrev Vt : Type := Nat → Nat → Nat
section SPEC
variable (V : Vt)
abbrev vnp : Nat := V 0 0
abbrev vnq : Nat := V 0 1
abbrev vne : Nat := V 0 2
abbrev vnw : Nat := V 0 3
abbrev vny : Nat := V 0 4
abbrev vnm : Nat := V 0 5
abbrev vnr : Nat := V 0 6
abbrev vnf : Nat := V 0 7
abbrev vday : Nat := V 0 8
abbrev vnight : Nat := V 0 9
abbrev vfrom : Nat := V 0 10
abbrev vto : Nat := V 0 11
abbrev vsteps : Nat := V 0 12
/-- how far two numbers are -/
def adist (a b : Nat) : Nat := (a - b) + (b - a)
def distV (a b : Nat) : Nat := Nat.max (adist (V 1 a) (V 1 b)) (adist (V 2 a) (V 2 b))
def wallB (op a b k : Nat) : Bool := !op.testBit k && ((decide (V 4 k = a) && decide (V 5 k = b)) || (decide (V 4 k = b) && decide (V 5 k = a)))
/-- some of the first n -/
def anyB (n : Nat) (P : Nat → Bool) : Bool := match n with
  | 0 => false
  | n + 1 => anyB n P || P n
def allB (n : Nat) (P : Nat → Bool) : Bool := match n with
  | 0 => true
  | n + 1 => allB n P && P n
/-- the set of those of the first n -/
def msk (n : Nat) (P : Nat → Bool) : Nat := match n with
  | 0 => 0
  | n + 1 => msk n P ||| (if P n then 2 ^ n else 0)
def walledB (op a b : Nat) : Bool := anyB (V 0 3) (wallB V op a b)
def plainB (rng op fg a b : Nat) : Bool := decide (a ≠ b) && !fg.testBit a && !fg.testBit b && decide (distV V a b ≤ rng) && !walledB V op a b
def plainS (rng op fg a : Nat) : Nat := msk (V 0 0) (plainB V rng op fg a)
def seesB (rng op fg a b : Nat) : Bool := decide (a = b) || plainB V rng op fg a b || anyB (V 0 5) (fun k => plainB V rng op fg a (V 6 k) && plainB V rng op fg (V 6 k) b)
def seesS (rng op fg a : Nat) : Nat := msk (V 0 0) (seesB V rng op fg a)
def nightB (t : Nat) : Bool := decide (V 0 10 ≤ t) && decide (t < V 0 11)
def rangeV (t : Nat) : Nat := if nightB V t then V 0 9 else V 0 8
def awayB (q t : Nat) : Bool := decide (0 < V 13 q) && decide ((t + 1) % V 13 q = 0)
def sleepB (q t : Nat) : Bool := decide (V 14 q ≤ t) && decide (t < V 15 q)
def eyesB (q t : Nat) : Bool := decide (V 12 q = 0) && !awayB V q t && !sleepB V q t
def eyesS (t but : Nat) : Nat := msk (V 0 1) (fun q => !but.testBit q && eyesB V q t)
/-- who sees one of a row, by those whose eyes count, and a sight -/
def watchS (pl : Nat → Nat) (eyes : Nat) (S : Nat → Nat) (p : Nat) : Nat := msk (V 0 1) (fun q => decide (q ≠ p) && eyes.testBit q && (S (pl q)).testBit (pl p))
def unseenS (pl : Nat → Nat) (eyes : Nat) (S : Nat → Nat) : Nat := msk (V 0 1) (fun p => decide (watchS V pl eyes S p = 0))
def pairB (pl : Nat → Nat) (S : Nat → Nat) (k : Nat) : Bool := decide (pl (V 7 k) ≠ pl (V 8 k)) && (S (pl (V 7 k))).testBit (pl (V 8 k))
def lawB (pl : Nat → Nat) (eyes : Nat) (S : Nat → Nat) : Bool := allB (V 0 6) (pairB V pl S) && decide (unseenS V pl eyes S = 0)
def lawfulV (pl : Nat → Nat) (t : Nat) : Bool := lawB V pl (eyesS V t 0) (seesS V (rangeV V t) 0 0)
def linkB (a b : Nat) : Bool := decide (a = b) || (V 3 a).testBit b
end SPEC
/-- what holds of every valley that was read -/
def jWf (V : Vt) : Prop := V 0 0 ≤ 10 ∧ V 0 1 ≤ 5 ∧ V 0 2 ≤ 5 ∧ V 0 3 ≤ 10 ∧ V 0 4 ≤ 16 ∧ V 0 5 ≤ 4 ∧ V 0 6 ≤ 3 ∧ V 0 7 ≤ 4 ∧ V 0 8 ≤ 19 ∧ V 0 9 ≤ 19 ∧ V 0 10 ≤ 99 ∧ V 0 11 ≤ 99 ∧ V 0 12 ≤ 99 ∧
  (∀ a, a < V 0 0 → V 1 a ≤ 19 ∧ V 2 a ≤ 19 ∧ V 3 a < 2 ^ V 0 0 ∧ (V 3 a).testBit a = false) ∧
  (∀ k, k < V 0 3 → V 4 k < V 0 0 ∧ V 5 k < V 0 0) ∧ (∀ k, k < V 0 5 → V 6 k < V 0 0) ∧ (∀ k, k < V 0 6 → V 7 k < V 0 1 ∧ V 8 k < V 0 1) ∧
  (∀ k, k < V 0 7 → V 9 k < V 0 0 ∧ 1 ≤ V 10 k ∧ V 10 k ≤ 99) ∧
  (∀ q, q < V 0 1 → V 11 q < V 0 0 ∧ V 12 q ≤ 1 ∧ (V 13 q = 0 ∨ (2 ≤ V 13 q ∧ V 13 q ≤ 9)) ∧ V 14 q ≤ 99 ∧ V 15 q ≤ 99 ∧ (V 14 q < V 15 q ∨ (V 14 q = 0 ∧ V 15 q = 0))) ∧
  (∀ e, e < V 0 2 → V 16 e < V 0 1 ∧ V 17 e < V 0 0 ∧ V 18 e ≤ 99 ∧ V 18 e < V 19 e ∧ V 19 e ≤ 99 ∧ 1 ≤ V 20 e ∧ V 20 e ≤ V 19 e - V 18 e) ∧
  (∀ k, k < V 0 4 → V 21 k < V 0 0 ∧ V 22 k < V 0 0) ∧
  (∀ a b, a < V 0 0 → ((V 3 a).testBit b = true ↔ ∃ k, k < V 0 4 ∧ ((V 21 k = a ∧ V 22 k = b) ∨ (V 21 k = b ∧ V 22 k = a))))
theorem wf_np {V : Vt} (h : jWf V) : V 0 0 ≤ 10 := h.1
theorem wf_nq {V : Vt} (h : jWf V) : V 0 1 ≤ 5 := h.2.1
theorem wf_ne {V : Vt} (h : jWf V) : V 0 2 ≤ 5 := h.2.2.1
theorem wf_nw {V : Vt} (h : jWf V) : V 0 3 ≤ 10 := h.2.2.2.1
theorem wf_ny {V : Vt} (h : jWf V) : V 0 4 ≤ 16 := h.2.2.2.2.1
theorem wf_nm {V : Vt} (h : jWf V) : V 0 5 ≤ 4 := h.2.2.2.2.2.1
theorem wf_nr {V : Vt} (h : jWf V) : V 0 6 ≤ 3 := h.2.2.2.2.2.2.1
theorem wf_nf {V : Vt} (h : jWf V) : V 0 7 ≤ 4 := h.2.2.2.2.2.2.2.1
theorem wf_d {V : Vt} (h : jWf V) : V 0 8 ≤ 19 ∧ V 0 9 ≤ 19 ∧ V 0 10 ≤ 99 ∧ V 0 11 ≤ 99 ∧ V 0 12 ≤ 99 := ⟨h.2.2.2.2.2.2.2.2.1, h.2.2.2.2.2.2.2.2.2.1, h.2.2.2.2.2.2.2.2.2.2.1, h.2.2.2.2.2.2.2.2.2.2.2.1, h.2.2.2.2.2.2.2.2.2.2.2.2.1⟩
theorem wf_pl {V : Vt} (h : jWf V) {a : Nat} (ha : a < V 0 0) : V 1 a ≤ 19 ∧ V 2 a ≤ 19 ∧ V 3 a < 2 ^ V 0 0 ∧ (V 3 a).testBit a = false := h.2.2.2.2.2.2.2.2.2.2.2.2.2.1 a ha
theorem wf_w {V : Vt} (h : jWf V) {a : Nat} (ha : a < V 0 3) : V 4 a < V 0 0 ∧ V 5 a < V 0 0 := h.2.2.2.2.2.2.2.2.2.2.2.2.2.2.1 a ha
theorem wf_m {V : Vt} (h : jWf V) {a : Nat} (ha : a < V 0 5) : V 6 a < V 0 0 := h.2.2.2.2.2.2.2.2.2.2.2.2.2.2.2.1 a ha
theorem wf_r {V : Vt} (h : jWf V) {a : Nat} (ha : a < V 0 6) : V 7 a < V 0 1 ∧ V 8 a < V 0 1 := h.2.2.2.2.2.2.2.2.2.2.2.2.2.2.2.2.1 a ha
theorem wf_f {V : Vt} (h : jWf V) {a : Nat} (ha : a < V 0 7) : V 9 a < V 0 0 ∧ 1 ≤ V 10 a ∧ V 10 a ≤ 99 := h.2.2.2.2.2.2.2.2.2.2.2.2.2.2.2.2.2.1 a ha
theorem wf_q {V : Vt} (h : jWf V) {a : Nat} (ha : a < V 0 1) : V 11 a < V 0 0 ∧ V 12 a ≤ 1 ∧ (V 13 a = 0 ∨ (2 ≤ V 13 a ∧ V 13 a ≤ 9)) ∧ V 14 a ≤ 99 ∧ V 15 a ≤ 99 ∧ (V 14 a < V 15 a ∨ (V 14 a = 0 ∧ V 15 a = 0)) := h.2.2.2.2.2.2.2.2.2.2.2.2.2.2.2.2.2.2.1 a ha
theorem wf_e {V : Vt} (h : jWf V) {a : Nat} (ha : a < V 0 2) : V 16 a < V 0 1 ∧ V 17 a < V 0 0 ∧ V 18 a ≤ 99 ∧ V 18 a < V 19 a ∧ V 19 a ≤ 99 ∧ 1 ≤ V 20 a ∧ V 20 a ≤ V 19 a - V 18 a := h.2.2.2.2.2.2.2.2.2.2.2.2.2.2.2.2.2.2.2.1 a ha
theorem wf_y {V : Vt} (h : jWf V) {a : Nat} (ha : a < V 0 4) : V 21 a < V 0 0 ∧ V 22 a < V 0 0 := h.2.2.2.2.2.2.2.2.2.2.2.2.2.2.2.2.2.2.2.2.1 a ha
theorem wf_yb {V : Vt} (h : jWf V) {a b : Nat} (ha : a < V 0 0) : (V 3 a).testBit b = true ↔ ∃ k, k < V 0 4 ∧ ((V 21 k = a ∧ V 22 k = b) ∨ (V 21 k = b ∧ V 22 k = a)) := h.2.2.2.2.2.2.2.2.2.2.2.2.2.2.2.2.2.2.2.2.2 a b ha
/-! masks -/
theorem msk_bit (n : Nat) (P : Nat → Bool) (k : Nat) : (msk n P).testBit k = (decide (k < n) && P k) := by
  induction n with
  | zero => simp [msk]
  | succ n ih =>
    rw [msk, Nat.testBit_or, ih]
    by_cases hP : P n = true
    · rw [if_pos hP, Nat.testBit_two_pow]
      by_cases hk : n = k
      · subst hk; simp [hP]
      · by_cases h2 : k < n
        · simp [h2, show k < n + 1 by omega, hk]
        · simp [h2, show ¬ k < n + 1 by omega, hk]
    · rw [if_neg hP, Nat.zero_testBit, Bool.or_false]
      by_cases h2 : k < n
      · simp [h2, show k < n + 1 by omega]
      · by_cases h3 : k = n
        · subst h3; simp at hP; simp [hP]
        · simp [h2, show ¬ k < n + 1 by omega]
theorem msk_lt (n : Nat) (P : Nat → Bool) : msk n P < 2 ^ n := by
  induction n with
  | zero => simp [msk]
  | succ n ih =>
    rw [msk]
    refine Nat.or_lt_two_pow (Nat.lt_of_lt_of_le ih (Nat.pow_le_pow_right (by decide) (by omega))) ?_
    split
    · exact Nat.pow_lt_pow_right (by decide) (by omega)
    · exact Nat.two_pow_pos _
theorem msk_congr {n : Nat} {P Q : Nat → Bool} (h : ∀ k, k < n → P k = Q k) : msk n P = msk n Q := by
  apply Nat.eq_of_testBit_eq
  intro k
  rw [msk_bit, msk_bit]
  by_cases hk : k < n
  · rw [h k hk]
  · simp [hk]
theorem anyB_iff {n : Nat} {P : Nat → Bool} : anyB n P = true ↔ ∃ k, k < n ∧ P k = true := by
  induction n with
  | zero => simp [anyB]
  | succ n ih =>
    rw [anyB, Bool.or_eq_true, ih]
    constructor
    · rintro (⟨k, h1, h2⟩ | h)
      · exact ⟨k, by omega, h2⟩
      · exact ⟨n, by omega, h⟩
    · rintro ⟨k, h1, h2⟩
      by_cases hk : k = n
      · subst hk; exact Or.inr h2
      · exact Or.inl ⟨k, by omega, h2⟩
theorem allB_iff {n : Nat} {P : Nat → Bool} : allB n P = true ↔ ∀ k, k < n → P k = true := by
  induction n with
  | zero => simp [allB]
  | succ n ih =>
    rw [allB, Bool.and_eq_true, ih]
    constructor
    · rintro ⟨h1, h2⟩ k hk
      by_cases hkn : k = n
      · subst hkn; exact h2
      · exact h1 k (by omega)
    · exact fun h => ⟨fun k hk => h k (by omega), h n (by omega)⟩
theorem anyB_congr {n : Nat} {P Q : Nat → Bool} (h : ∀ k, k < n → P k = Q k) : anyB n P = anyB n Q := by
  rw [Bool.eq_iff_iff, anyB_iff, anyB_iff]
  exact ⟨fun ⟨k, a, b⟩ => ⟨k, a, by rw [← h k a]; exact b⟩, fun ⟨k, a, b⟩ => ⟨k, a, by rw [h k a]; exact b⟩⟩
theorem allB_congr {n : Nat} {P Q : Nat → Bool} (h : ∀ k, k < n → P k = Q k) : allB n P = allB n Q := by
  rw [Bool.eq_iff_iff, allB_iff, allB_iff]
  exact ⟨fun g k a => by rw [← h k a]; exact g k a, fun g k a => by rw [h k a]; exact g k a⟩
theorem anyB_mono {n m : Nat} {P : Nat → Bool} (h : n ≤ m) (hn : anyB n P = true) : anyB m P = true := by
  rw [anyB_iff] at hn ⊢
  obtain ⟨k, h1, h2⟩ := hn
  exact ⟨k, by omega, h2⟩
theorem p10 {n : Nat} (h : n ≤ 10) : 2 ^ n ≤ 1024 := Nat.le_trans (Nat.pow_le_pow_right (by decide) h) (by decide)
theorem msk10 {n : Nat} (h : n ≤ 10) (P : Nat → Bool) : msk n P < 1024 := Nat.lt_of_lt_of_le (msk_lt n P) (p10 h)
/-! ===== the heap's x-valley at v is V ===== -/
def habL (V : Vt) (q : Nat) : List (Nat × Nat × Nat) := (if V 12 q = 0 then [] else [(8, 0, 0)]) ++ ((if V 13 q = 0 then [] else [(9, V 13 q, 0)]) ++ (if V 15 q = 0 then [] else [(10, V 14 q, V 15 q)]))
def jHab (M : Mm) (o : Nat) (h : Nat × Nat × Nat) : Prop := jis M o h.1 ∧ (h.1 = 9 → jm_I M o 118 = nI h.2.1) ∧ (h.1 = 10 → jm_I M o 119 = nI h.2.1 ∧ jm_I M o 120 = nI h.2.2)
def jVp (M : Mm) (v : Nat) (V : Vt) (a : Nat) : Prop := ∃ p, jm_C M (v + 1) a = some p ∧ jis M p 6 ∧ 104 ≤ p ∧ jm_I M p 111 = nI a ∧ jm_I M p 112 = nI (V 1 a) ∧ jm_I M p 113 = nI (V 2 a) ∧ jm_I M p 114 = nI (V 3 a)
def jVq (M : Mm) (v : Nat) (V : Vt) (q : Nat) : Prop := ∃ p, jm_C M (v + 2) q = some p ∧ jis M p 7 ∧ 104 ≤ p ∧ jm_I M p 111 = nI q ∧ jm_I M p 117 = nI (V 11 q) ∧ jm_I M p 116 = nI (habL V q).length ∧ ∃ hb, jm_R M p 115 = some hb ∧ jok M hb 8 ∧ jm_N M hb = 3 ∧ 104 ≤ hb ∧ ∀ (i : Nat) (h : Nat × Nat × Nat), (habL V q)[i]? = some h → ∃ o, jm_C M hb i = some o ∧ jHab M o h ∧ 104 ≤ o
def jVe (M : Mm) (v : Nat) (V : Vt) (e : Nat) : Prop := ∃ o p, jm_C M (v + 3) e = some o ∧ jis M o 11 ∧ 104 ≤ o ∧ jm_R M o 121 = some p ∧ (jis M p 7 ∧ 104 ≤ p) ∧ jm_I M p 111 = nI (V 16 e) ∧ jm_I M o 122 = nI (V 17 e) ∧ jm_I M o 123 = nI (V 18 e) ∧ jm_I M o 124 = nI (V 19 e) ∧ jm_I M o 125 = nI (V 20 e)
def jVi (M : Mm) (v : Nat) (V : Vt) : Prop := jm_I M v 97 = nI (V 0 0) ∧ jm_I M v 98 = nI (V 0 1) ∧ jm_I M v 99 = nI (V 0 2) ∧ jm_I M v 100 = nI (V 0 3) ∧ jm_I M v 101 = nI (V 0 4) ∧ jm_I M v 102 = nI (V 0 5) ∧ jm_I M v 103 = nI (V 0 6) ∧ jm_I M v 104 = nI (V 0 7) ∧ jm_I M v 105 = nI (V 0 8) ∧ jm_I M v 106 = nI (V 0 9) ∧ jm_I M v 107 = nI (V 0 10) ∧ jm_I M v 108 = nI (V 0 11) ∧ jm_I M v 109 = nI (V 0 12)
def jVa (M : Mm) (v : Nat) (V : Vt) : Prop := (∀ k, k < V 0 3 → jm_A M (v + 4) k = nI (V 4 k) ∧ jm_A M (v + 5) k = nI (V 5 k)) ∧ (∀ k, k < V 0 5 → jm_A M (v + 6) k = nI (V 6 k)) ∧ (∀ k, k < V 0 6 → jm_A M (v + 7) k = nI (V 7 k) ∧ jm_A M (v + 8) k = nI (V 8 k)) ∧ (∀ k, k < V 0 7 → jm_A M (v + 9) k = nI (V 9 k) ∧ jm_A M (v + 10) k = nI (V 10 k))
def jVx (M : Mm) (v : Nat) (V : Vt) : Prop := jVs M v ∧ jVi M v V ∧ jVa M v V ∧ (∀ a, a < V 0 0 → jVp M v V a) ∧ (∀ q, q < V 0 1 → jVq M v V q) ∧ (∀ e, e < V 0 2 → jVe M v V e)
theorem xi_np {M : Mm} {v : Nat} {V : Vt} (h : jVx M v V) : jm_I M v 97 = nI (V 0 0) := h.2.1.1
theorem xi_nq {M : Mm} {v : Nat} {V : Vt} (h : jVx M v V) : jm_I M v 98 = nI (V 0 1) := h.2.1.2.1
theorem xi_ne {M : Mm} {v : Nat} {V : Vt} (h : jVx M v V) : jm_I M v 99 = nI (V 0 2) := h.2.1.2.2.1
theorem xi_nw {M : Mm} {v : Nat} {V : Vt} (h : jVx M v V) : jm_I M v 100 = nI (V 0 3) := h.2.1.2.2.2.1
theorem xi_ny {M : Mm} {v : Nat} {V : Vt} (h : jVx M v V) : jm_I M v 101 = nI (V 0 4) := h.2.1.2.2.2.2.1
theorem xi_nm {M : Mm} {v : Nat} {V : Vt} (h : jVx M v V) : jm_I M v 102 = nI (V 0 5) := h.2.1.2.2.2.2.2.1
theorem xi_nr {M : Mm} {v : Nat} {V : Vt} (h : jVx M v V) : jm_I M v 103 = nI (V 0 6) := h.2.1.2.2.2.2.2.2.1
theorem xi_nf {M : Mm} {v : Nat} {V : Vt} (h : jVx M v V) : jm_I M v 104 = nI (V 0 7) := h.2.1.2.2.2.2.2.2.2.1
theorem xi_day {M : Mm} {v : Nat} {V : Vt} (h : jVx M v V) : jm_I M v 105 = nI (V 0 8) := h.2.1.2.2.2.2.2.2.2.2.1
theorem xi_night {M : Mm} {v : Nat} {V : Vt} (h : jVx M v V) : jm_I M v 106 = nI (V 0 9) := h.2.1.2.2.2.2.2.2.2.2.2.1
theorem xi_from {M : Mm} {v : Nat} {V : Vt} (h : jVx M v V) : jm_I M v 107 = nI (V 0 10) := h.2.1.2.2.2.2.2.2.2.2.2.2.1
theorem xi_to {M : Mm} {v : Nat} {V : Vt} (h : jVx M v V) : jm_I M v 108 = nI (V 0 11) := h.2.1.2.2.2.2.2.2.2.2.2.2.2.1
theorem xi_steps {M : Mm} {v : Nat} {V : Vt} (h : jVx M v V) : jm_I M v 109 = nI (V 0 12) := h.2.1.2.2.2.2.2.2.2.2.2.2.2.2
/-! ===== the heap's m-valley at w is V ===== -/
def jWi (M : Mm) (w : Nat) (V : Vt) : Prop := jm_I M w 132 = nI (V 0 0) ∧ jm_I M w 136 = nI (V 0 1) ∧ jm_I M w 138 = nI (V 0 2) ∧ jm_I M w 133 = nI (V 0 3) ∧ jm_I M w 134 = nI (V 0 4) ∧ jm_I M w 135 = nI (V 0 5) ∧ jm_I M w 137 = nI (V 0 6) ∧ jm_I M w 139 = nI (V 0 7) ∧ jm_I M w 127 = nI (V 0 8) ∧ jm_I M w 128 = nI (V 0 9) ∧ jm_I M w 129 = nI (V 0 10) ∧ jm_I M w 130 = nI (V 0 11) ∧ jm_I M w 131 = nI (V 0 12)
def jWa (M : Mm) (w : Nat) (V : Vt) : Prop := (∀ k, k < V 0 0 → jm_A M (w + 1) k = nI (V 1 k) ∧ jm_A M (w + 2) k = nI (V 2 k)) ∧ (∀ k, k < V 0 3 → jm_A M (w + 3) k = nI (V 4 k) ∧ jm_A M (w + 4) k = nI (V 5 k)) ∧ (∀ k, k < V 0 4 → jm_A M (w + 5) k = nI (V 21 k) ∧ jm_A M (w + 6) k = nI (V 22 k)) ∧ (∀ k, k < V 0 5 → jm_A M (w + 7) k = nI (V 6 k)) ∧
  (∀ k, k < V 0 1 → jm_A M (w + 8) k = nI (V 11 k) ∧ jm_A M (w + 9) k = nI (V 13 k) ∧ jm_A M (w + 10) k = nI (V 14 k) ∧ jm_A M (w + 11) k = nI (V 15 k) ∧ jm_A M (w + 14) k = nI (V 12 k)) ∧
  (∀ k, k < V 0 6 → jm_A M (w + 12) k = nI (V 7 k) ∧ jm_A M (w + 13) k = nI (V 8 k)) ∧
  (∀ k, k < V 0 2 → jm_A M (w + 15) k = nI (V 16 k) ∧ jm_A M (w + 16) k = nI (V 17 k) ∧ jm_A M (w + 17) k = nI (V 18 k) ∧ jm_A M (w + 18) k = nI (V 19 k) ∧ jm_A M (w + 19) k = nI (V 20 k)) ∧
  (∀ k, k < V 0 7 → jm_A M (w + 20) k = nI (V 9 k) ∧ jm_A M (w + 21) k = nI (V 10 k))
def jVm (M : Mm) (w : Nat) (V : Vt) : Prop := jWs M w ∧ jWi M w V ∧ jWa M w V
theorem mi_np {M : Mm} {w : Nat} {V : Vt} (h : jVm M w V) : jm_I M w 132 = nI (V 0 0) := h.2.1.1
theorem mi_nq {M : Mm} {w : Nat} {V : Vt} (h : jVm M w V) : jm_I M w 136 = nI (V 0 1) := h.2.1.2.1
theorem mi_ne {M : Mm} {w : Nat} {V : Vt} (h : jVm M w V) : jm_I M w 138 = nI (V 0 2) := h.2.1.2.2.1
theorem mi_nw {M : Mm} {w : Nat} {V : Vt} (h : jVm M w V) : jm_I M w 133 = nI (V 0 3) := h.2.1.2.2.2.1
theorem mi_ny {M : Mm} {w : Nat} {V : Vt} (h : jVm M w V) : jm_I M w 134 = nI (V 0 4) := h.2.1.2.2.2.2.1
theorem mi_nm {M : Mm} {w : Nat} {V : Vt} (h : jVm M w V) : jm_I M w 135 = nI (V 0 5) := h.2.1.2.2.2.2.2.1
theorem mi_nr {M : Mm} {w : Nat} {V : Vt} (h : jVm M w V) : jm_I M w 137 = nI (V 0 6) := h.2.1.2.2.2.2.2.2.1
theorem mi_nf {M : Mm} {w : Nat} {V : Vt} (h : jVm M w V) : jm_I M w 139 = nI (V 0 7) := h.2.1.2.2.2.2.2.2.2.1
theorem mi_day {M : Mm} {w : Nat} {V : Vt} (h : jVm M w V) : jm_I M w 127 = nI (V 0 8) := h.2.1.2.2.2.2.2.2.2.2.1
theorem mi_night {M : Mm} {w : Nat} {V : Vt} (h : jVm M w V) : jm_I M w 128 = nI (V 0 9) := h.2.1.2.2.2.2.2.2.2.2.2.1
theorem mi_from {M : Mm} {w : Nat} {V : Vt} (h : jVm M w V) : jm_I M w 129 = nI (V 0 10) := h.2.1.2.2.2.2.2.2.2.2.2.2.1
theorem mi_to {M : Mm} {w : Nat} {V : Vt} (h : jVm M w V) : jm_I M w 130 = nI (V 0 11) := h.2.1.2.2.2.2.2.2.2.2.2.2.2.1
theorem mi_steps {M : Mm} {w : Nat} {V : Vt} (h : jVm M w V) : jm_I M w 131 = nI (V 0 12) := h.2.1.2.2.2.2.2.2.2.2.2.2.2.2
/-! ===== what stays the same ===== -/
theorem jal.rf {M : Mm} {a : Nat} : jal M M a := ⟨rfl, rfl, fun _ => rfl, fun _ => rfl, fun _ => rfl, fun _ => rfl, fun _ => rfl, fun _ => rfl⟩
theorem jal.tr {M M1 M2 : Mm} {a : Nat} (h : jal M M1 a) (g : jal M1 M2 a) : jal M M2 a := ⟨g.1.trans h.1, g.2.1.trans h.2.1, fun k => (g.2.2.1 k).trans (h.2.2.1 k), fun k => (g.2.2.2.1 k).trans (h.2.2.2.1 k), fun k => (g.2.2.2.2.1 k).trans (h.2.2.2.2.1 k), fun k => (g.2.2.2.2.2.1 k).trans (h.2.2.2.2.2.1 k), fun k => (g.2.2.2.2.2.2.1 k).trans (h.2.2.2.2.2.2.1 k), fun k => (g.2.2.2.2.2.2.2 k).trans (h.2.2.2.2.2.2.2 k)⟩
theorem jal_As {M : Mm} {a : Nat} {g : Nat → Int32} : ∀ b, b ≠ a → jal M (js_As M a g) b := fun b hb => ⟨rfl, rfl, fun _ => rfl, fun _ => rfl, fun _ => rfl, fun y => by rw [jA_As, if_neg hb], fun _ => rfl, fun _ => rfl⟩
/-- alike but at the addresses of E (of the old ones); 62 in E: cells may be made -/
def jsm (E : Nat → Prop) (M M1 : Mm) : Prop := jm_Z M ≤ jm_Z M1 ∧ (jm_S M ≤ jm_S M1 ∧ (¬ E 62 → jm_Z M1 = jm_Z M ∧ jm_S M1 = jm_S M)) ∧ ∀ a, a < jm_Z M → ¬ E a → jal M M1 a
theorem jsm.rf {E : Nat → Prop} {M : Mm} : jsm E M M := ⟨Nat.le_refl _, ⟨Nat.le_refl _, fun _ => ⟨rfl, rfl⟩⟩, fun _ _ _ => jal.rf⟩
theorem jsm.tr {E : Nat → Prop} {M M1 M2 : Mm} (h : jsm E M M1) (g : jsm E M1 M2) : jsm E M M2 := ⟨Nat.le_trans h.1 g.1, ⟨Nat.le_trans h.2.1.1 g.2.1.1, fun q => ⟨(g.2.1.2 q).1.trans (h.2.1.2 q).1, (g.2.1.2 q).2.trans (h.2.1.2 q).2⟩⟩, fun a h1 h2 => (h.2.2 a h1 h2).tr (g.2.2 a (Nat.lt_of_lt_of_le h1 h.1) h2)⟩
theorem jsm.wk {E F : Nat → Prop} {M M1 : Mm} (h : jsm E M M1) (hEF : ∀ a, E a → F a) : jsm F M M1 := ⟨h.1, ⟨h.2.1.1, fun q => h.2.1.2 (fun z => q (hEF 62 z))⟩, fun a h1 h2 => h.2.2 a h1 (fun q => h2 (hEF a q))⟩
theorem jsm.I {E : Nat → Prop} {M : Mm} {a k : Nat} {v : Int32} (h : E a) : jsm E M (js_I M a k v) := ⟨Nat.le_refl _, ⟨Nat.le_refl _, fun _ => ⟨rfl, rfl⟩⟩, fun b _ hb => jal_I b (fun q => hb (q ▸ h))⟩
theorem jsm.L {E : Nat → Prop} {M : Mm} {a k : Nat} {v : Int64} (h : E a) : jsm E M (js_L M a k v) := ⟨Nat.le_refl _, ⟨Nat.le_refl _, fun _ => ⟨rfl, rfl⟩⟩, fun b _ hb => jal_L b (fun q => hb (q ▸ h))⟩
theorem jsm.R {E : Nat → Prop} {M : Mm} {a k : Nat} {v : Option Nat} (h : E a) : jsm E M (js_R M a k v) := ⟨Nat.le_refl _, ⟨Nat.le_refl _, fun _ => ⟨rfl, rfl⟩⟩, fun b _ hb => jal_R b (fun q => hb (q ▸ h))⟩
theorem jsm.A {E : Nat → Prop} {M : Mm} {a k : Nat} {v : Int32} (h : E a) : jsm E M (js_A M a k v) := ⟨Nat.le_refl _, ⟨Nat.le_refl _, fun _ => ⟨rfl, rfl⟩⟩, fun b _ hb => jal_A b (fun q => hb (q ▸ h))⟩
theorem jsm.B {E : Nat → Prop} {M : Mm} {a k : Nat} {v : Int64} (h : E a) : jsm E M (js_B M a k v) := ⟨Nat.le_refl _, ⟨Nat.le_refl _, fun _ => ⟨rfl, rfl⟩⟩, fun b _ hb => jal_B b (fun q => hb (q ▸ h))⟩
theorem jsm.C {E : Nat → Prop} {M : Mm} {a k : Nat} {v : Option Nat} (h : E a) : jsm E M (js_C M a k v) := ⟨Nat.le_refl _, ⟨Nat.le_refl _, fun _ => ⟨rfl, rfl⟩⟩, fun b _ hb => jal_C b (fun q => hb (q ▸ h))⟩
theorem jsm.As {E : Nat → Prop} {M : Mm} {a : Nat} {g : Nat → Int32} (h : E a) : jsm E M (js_As M a g) := ⟨Nat.le_refl _, ⟨Nat.le_refl _, fun _ => ⟨rfl, rfl⟩⟩, fun b _ hb => jal_As b (fun q => hb (q ▸ h))⟩
theorem jsm.n {E : Nat → Prop} {M : Mm} {c n s : Nat} (h : E 62) : jsm E M (js_new M c n s) := ⟨by rw [jZ_n]; omega, ⟨by rw [jS_n]; omega, fun q => absurd h q⟩, fun b hb _ => jal_n b (by omega)⟩
theorem jsm.z {E : Nat → Prop} {M M1 : Mm} (h : jsm E M M1) (hE : ¬ E 62) : jm_Z M1 = jm_Z M ∧ jm_S M1 = jm_S M := h.2.1.2 hE
theorem jis.al {M M1 : Mm} {a c : Nat} (h : jis M a c) (hal : jal M M1 a) (hZ : jm_Z M ≤ jm_Z M1) : jis M1 a c := ⟨by rw [hal.1]; exact h.1, Nat.lt_of_lt_of_le h.2.1 hZ, h.2.2⟩
theorem jok.al {M M1 : Mm} {a c : Nat} (h : jok M a c) (hal : jal M M1 a) (hZ : jm_Z M ≤ jm_Z M1) : jok M1 a c := ⟨by rw [hal.1]; exact h.1, Nat.lt_of_lt_of_le h.2.1 hZ, h.2.2⟩
theorem jVs.sm {E : Nat → Prop} {M M1 : Mm} {v : Nat} (h : jVs M v) (g : jsm E M M1) (hE : ∀ a, 104 ≤ a → ¬ E a) : jVs M1 v := by
  obtain ⟨h1, h2, h3, h4⟩ := h
  have hv := g.2.2 v (by omega) (hE v h2)
  refine ⟨by rw [hv.1]; exact h1, h2, Nat.lt_of_lt_of_le h3 g.1, fun i hi => ?_⟩
  have hq := g.2.2 (v + (i + 1)) (by omega) (hE _ (by omega))
  obtain ⟨a1, a2, a3⟩ := h4 i hi
  exact ⟨by rw [hq.1]; exact a1, by rw [hq.2.1]; exact a2, by rw [hv.2.2.2.2.1]; exact a3⟩
theorem jWs.sm {E : Nat → Prop} {M M1 : Mm} {v : Nat} (h : jWs M v) (g : jsm E M M1) (hE : ∀ a, 104 ≤ a → ¬ E a) : jWs M1 v := by
  obtain ⟨h1, h2, h3, h4⟩ := h
  have hv := g.2.2 v (by omega) (hE v h2)
  refine ⟨by rw [hv.1]; exact h1, h2, Nat.lt_of_lt_of_le h3 g.1, fun i hi => ?_⟩
  have hq := g.2.2 (v + (i + 1)) (by omega) (hE _ (by omega))
  obtain ⟨a1, a2, a3⟩ := h4 i hi
  exact ⟨by rw [hq.1]; exact a1, by rw [hq.2.1]; exact a2, by rw [hv.2.2.2.2.1]; exact a3⟩
theorem jVx.sm {E : Nat → Prop} {M M1 : Mm} {v : Nat} {V : Vt} (h : jVx M v V) (g : jsm E M M1) (hE : ∀ a, 104 ≤ a → ¬ E a) : jVx M1 v V := by
  obtain ⟨h1, h2, h3, h4, h5, h6⟩ := h
  have al : ∀ a, 104 ≤ a → a < jm_Z M → jal M M1 a := fun a q1 q2 => g.2.2 a q2 (hE a q1)
  have hv := al v h1.2.1 (vis h1).2.1
  have hz := h1.2.2.1
  have h104 := h1.2.1
  have hA : ∀ i k, 1 ≤ i → i ≤ 10 → jm_A M1 (v + i) k = jm_A M (v + i) k := fun i k q1 q2 => (al (v + i) (by omega) (by omega)).2.2.2.2.2.1 k
  have hC : ∀ i k, 1 ≤ i → i ≤ 10 → jm_C M1 (v + i) k = jm_C M (v + i) k := fun i k q1 q2 => (al (v + i) (by omega) (by omega)).2.2.2.2.2.2.2 k
  refine ⟨h1.sm g hE, ?_, ?_, fun a ha => ?_, fun q hq => ?_, fun e he => ?_⟩
  · unfold jVi
    simp only [hv.2.2.1]
    exact h2
  · unfold jVa
    simp only [hA 4 _ (by decide) (by decide), hA 5 _ (by decide) (by decide), hA 6 _ (by decide) (by decide), hA 7 _ (by decide) (by decide), hA 8 _ (by decide) (by decide), hA 9 _ (by decide) (by decide), hA 10 _ (by decide) (by decide)]
    exact h3
  · obtain ⟨p, a1, a2, a3, a4⟩ := h4 a ha
    have hp := al p a3 a2.2.1
    refine ⟨p, by rw [hC 1 _ (by decide) (by decide)]; exact a1, a2.al hp g.1, a3, ?_⟩
    simp only [hp.2.2.1]
    exact a4
  · obtain ⟨p, a1, a2, a3, a4, a5, a6, hb, a7, a8, a9, a11, a10⟩ := h5 q hq
    have hp := al p a3 a2.2.1
    have hp1 := al hb a11 a8.2.1
    refine ⟨p, by rw [hC 2 _ (by decide) (by decide)]; exact a1, a2.al hp g.1, a3, by rw [hp.2.2.1]; exact a4, by rw [hp.2.2.1]; exact a5, by rw [hp.2.2.1]; exact a6, hb, by rw [hp.2.2.2.2.1]; exact a7, a8.al hp1 g.1, by rw [hp1.2.1]; exact a9, a11, fun i hh hi => ?_⟩
    obtain ⟨o, b1, ⟨b2, b3, b4⟩, b5⟩ := a10 i hh hi
    have ho := al o b5 b2.2.1
    exact ⟨o, by rw [hp1.2.2.2.2.2.2.2]; exact b1, ⟨b2.al ho g.1, fun z => by rw [ho.2.2.1]; exact b3 z, fun z => by rw [ho.2.2.1, ho.2.2.1]; exact b4 z⟩, b5⟩
  · obtain ⟨o, p, a1, a2, a3, a4, a5, a6, a7⟩ := h6 e he
    have ho := al o a3 a2.2.1
    have hp := al p a5.2 a5.1.2.1
    refine ⟨o, p, by rw [hC 3 _ (by decide) (by decide)]; exact a1, a2.al ho g.1, a3, by rw [ho.2.2.2.2.1]; exact a4, ⟨a5.1.al hp g.1, a5.2⟩, by rw [hp.2.2.1]; exact a6, ?_⟩
    simp only [ho.2.2.1]
    exact a7
theorem jVm.sm {E : Nat → Prop} {M M1 : Mm} {v : Nat} {V : Vt} (h : jVm M v V) (g : jsm E M M1) (hE : ∀ a, 104 ≤ a → ¬ E a) : jVm M1 v V := by
  obtain ⟨h1, h2, h3⟩ := h
  have al : ∀ a, 104 ≤ a → a < jm_Z M → jal M M1 a := fun a q1 q2 => g.2.2 a q2 (hE a q1)
  have hv := al v h1.2.1 (wis h1).2.1
  have hz := h1.2.2.1
  have h104 := h1.2.1
  have hA : ∀ i k, 1 ≤ i → i ≤ 24 → jm_A M1 (v + i) k = jm_A M (v + i) k := fun i k q1 q2 => (al (v + i) (by omega) (by omega)).2.2.2.2.2.1 k
  refine ⟨h1.sm g hE, ?_, ?_⟩
  · unfold jWi
    simp only [hv.2.2.1]
    exact h2
  · unfold jWa
    simp only [hA 1 _ (by decide) (by decide), hA 2 _ (by decide) (by decide), hA 3 _ (by decide) (by decide), hA 4 _ (by decide) (by decide), hA 5 _ (by decide) (by decide), hA 6 _ (by decide) (by decide), hA 7 _ (by decide) (by decide), hA 8 _ (by decide) (by decide), hA 9 _ (by decide) (by decide), hA 10 _ (by decide) (by decide), hA 11 _ (by decide) (by decide), hA 12 _ (by decide) (by decide), hA 13 _ (by decide) (by decide), hA 14 _ (by decide) (by decide), hA 15 _ (by decide) (by decide), hA 16 _ (by decide) (by decide), hA 17 _ (by decide) (by decide), hA 18 _ (by decide) (by decide), hA 19 _ (by decide) (by decide), hA 20 _ (by decide) (by decide), hA 21 _ (by decide) (by decide)]
    exact h3
