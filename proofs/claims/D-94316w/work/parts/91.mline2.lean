/-! ===== m's lines: mirror, fog, errand, place ===== -/
theorem mMirror {M : Mm} {σ : Sg} {n w p a : Nat} {V : Vt} (h : mRd M σ n w (.ok (V, p))) (hN9 : V 0 5 < 4) : mRd (js_I (js_A M (w + 7) (V 0 5) (nI a)) w 135 (nI (V 0 5 + 1))) σ n w (.ok (vMirror V a, p)) := by
  obtain ⟨hB, hp, hG, hF, hV, hN, hL, hv⟩ := id h
  have h104 := hV.1.2.1
  obtain ⟨c1, c2, c3, c4, c5, c6, c7, c8⟩ := hV.2.2
  have oA : ∀ i k, i ≤ 21 → i ≠ 7 → jm_A (js_I (js_A M (w + 7) (V 0 5) (nI a)) w 135 (nI (V 0 5 + 1))) (w + i) k = jm_A M (w + i) k := fun i k h1 q7 => by rw [jA_I, jA_oth2 (by omega)]
  refine h.up ((hB.A (by omega) (by omega)).I (fun q hq e => ?_)) (fun j => by rw [jI_I, if_neg (by omega)]; rfl) rfl ⟨hV.1, ?_, ?_⟩ ⟨?_, fun k hk => ?_⟩ ?_ ?_
  · simp only [wCn, List.mem_cons, List.not_mem_nil, or_false] at hq
    rcases hq with rfl | rfl | rfl | rfl | rfl | rfl | rfl | rfl | rfl <;> first | (exact absurd e (by decide)) | exact ⟨_, by omega, rfl⟩
  · obtain ⟨i0, i1, i2, i3, i4, i5, i6, i7, i8, i9, i10, i11, i12⟩ := hV.2.1
    exact ⟨i0, i1, i2, i3, i4, jI_same, i6, i7, i8, i9, i10, i11, i12⟩
  · refine ⟨?_, ?_, ?_, ?_, ?_, ?_, ?_, ?_⟩
    · intro k hk
      exact ⟨(oA 1 k (by decide) (by decide)).trans (c1 k hk).1, (oA 2 k (by decide) (by decide)).trans (c1 k hk).2⟩
    · intro k hk
      exact ⟨(oA 3 k (by decide) (by decide)).trans (c2 k hk).1, (oA 4 k (by decide) (by decide)).trans (c2 k hk).2⟩
    · intro k hk
      exact ⟨(oA 5 k (by decide) (by decide)).trans (c3 k hk).1, (oA 6 k (by decide) (by decide)).trans (c3 k hk).2⟩
    · intro k hk
      · rw [jA_I]
        exact row_1 (f := V 6) (g := vMirror V a 6) (fun k hk => (c4 k hk)) (by unfold vMirror; simp [ vS]) (fun k hk => by unfold vMirror; simp [ vS, Nat.ne_of_lt hk]) k hk
    · intro k hk
      exact ⟨(oA 8 k (by decide) (by decide)).trans (c5 k hk).1, (oA 9 k (by decide) (by decide)).trans (c5 k hk).2.1, (oA 10 k (by decide) (by decide)).trans (c5 k hk).2.2.1, (oA 11 k (by decide) (by decide)).trans (c5 k hk).2.2.2.1, (oA 14 k (by decide) (by decide)).trans (c5 k hk).2.2.2.2⟩
    · intro k hk
      exact ⟨(oA 12 k (by decide) (by decide)).trans (c6 k hk).1, (oA 13 k (by decide) (by decide)).trans (c6 k hk).2⟩
    · intro k hk
      exact ⟨(oA 15 k (by decide) (by decide)).trans (c7 k hk).1, (oA 16 k (by decide) (by decide)).trans (c7 k hk).2.1, (oA 17 k (by decide) (by decide)).trans (c7 k hk).2.2.1, (oA 18 k (by decide) (by decide)).trans (c7 k hk).2.2.2.1, (oA 19 k (by decide) (by decide)).trans (c7 k hk).2.2.2.2⟩
    · intro k hk
      exact ⟨(oA 20 k (by decide) (by decide)).trans (c8 k hk).1, (oA 21 k (by decide) (by decide)).trans (c8 k hk).2⟩
  · rw [jI_I, if_neg (by omega)]; exact hN.1
  · exact ((hN.A (k := V 0 5) (x := nI a) (a := w + 7) (by omega)).2 k hk)
  · rw [jI_I, if_neg (by omega)]; exact hL
  · exact hv
theorem mFog {M : Mm} {σ : Sg} {n w p a b : Nat} {V : Vt} (h : mRd M σ n w (.ok (V, p))) (hN9 : V 0 7 < 4) : mRd (js_I (js_A (js_A M (w + 20) (V 0 7) (nI a)) (w + 21) (V 0 7) (nI b)) w 139 (nI (V 0 7 + 1))) σ n w (.ok (vFog V a b, p)) := by
  obtain ⟨hB, hp, hG, hF, hV, hN, hL, hv⟩ := id h
  have h104 := hV.1.2.1
  obtain ⟨c1, c2, c3, c4, c5, c6, c7, c8⟩ := hV.2.2
  have oA : ∀ i k, i ≤ 21 → i ≠ 20 → i ≠ 21 → jm_A (js_I (js_A (js_A M (w + 20) (V 0 7) (nI a)) (w + 21) (V 0 7) (nI b)) w 139 (nI (V 0 7 + 1))) (w + i) k = jm_A M (w + i) k := fun i k h1 q20 q21 => by rw [jA_I, jA_oth2 (by omega), jA_oth2 (by omega)]
  refine h.up (((hB.A (by omega) (by omega)).A (by omega) (by omega)).I (fun q hq e => ?_)) (fun j => by rw [jI_I, if_neg (by omega)]; rfl) rfl ⟨hV.1, ?_, ?_⟩ ⟨?_, fun k hk => ?_⟩ ?_ ?_
  · simp only [wCn, List.mem_cons, List.not_mem_nil, or_false] at hq
    rcases hq with rfl | rfl | rfl | rfl | rfl | rfl | rfl | rfl | rfl <;> first | (exact absurd e (by decide)) | exact ⟨_, by omega, rfl⟩
  · obtain ⟨i0, i1, i2, i3, i4, i5, i6, i7, i8, i9, i10, i11, i12⟩ := hV.2.1
    exact ⟨i0, i1, i2, i3, i4, i5, i6, jI_same, i8, i9, i10, i11, i12⟩
  · refine ⟨?_, ?_, ?_, ?_, ?_, ?_, ?_, ?_⟩
    · intro k hk
      exact ⟨(oA 1 k (by decide) (by decide) (by decide)).trans (c1 k hk).1, (oA 2 k (by decide) (by decide) (by decide)).trans (c1 k hk).2⟩
    · intro k hk
      exact ⟨(oA 3 k (by decide) (by decide) (by decide)).trans (c2 k hk).1, (oA 4 k (by decide) (by decide) (by decide)).trans (c2 k hk).2⟩
    · intro k hk
      exact ⟨(oA 5 k (by decide) (by decide) (by decide)).trans (c3 k hk).1, (oA 6 k (by decide) (by decide) (by decide)).trans (c3 k hk).2⟩
    · intro k hk
      exact (oA 7 k (by decide) (by decide) (by decide)).trans (c4 k hk)
    · intro k hk
      exact ⟨(oA 8 k (by decide) (by decide) (by decide)).trans (c5 k hk).1, (oA 9 k (by decide) (by decide) (by decide)).trans (c5 k hk).2.1, (oA 10 k (by decide) (by decide) (by decide)).trans (c5 k hk).2.2.1, (oA 11 k (by decide) (by decide) (by decide)).trans (c5 k hk).2.2.2.1, (oA 14 k (by decide) (by decide) (by decide)).trans (c5 k hk).2.2.2.2⟩
    · intro k hk
      exact ⟨(oA 12 k (by decide) (by decide) (by decide)).trans (c6 k hk).1, (oA 13 k (by decide) (by decide) (by decide)).trans (c6 k hk).2⟩
    · intro k hk
      exact ⟨(oA 15 k (by decide) (by decide) (by decide)).trans (c7 k hk).1, (oA 16 k (by decide) (by decide) (by decide)).trans (c7 k hk).2.1, (oA 17 k (by decide) (by decide) (by decide)).trans (c7 k hk).2.2.1, (oA 18 k (by decide) (by decide) (by decide)).trans (c7 k hk).2.2.2.1, (oA 19 k (by decide) (by decide) (by decide)).trans (c7 k hk).2.2.2.2⟩
    · intro k hk
      refine ⟨?_, ?_⟩
      · rw [jA_I, jA_oth2 (by omega)]
        exact row_1 (f := V 9) (g := vFog V a b 9) (fun k hk => (c8 k hk).1) (by unfold vFog; simp [ vS]) (fun k hk => by unfold vFog; simp [ vS, Nat.ne_of_lt hk]) k hk
      · rw [jA_I]
        exact row_1 (f := V 10) (g := vFog V a b 10) (fun k hk => (jA_oth2 (by omega)).trans ((c8 k hk).2)) (by unfold vFog; simp [ vS]) (fun k hk => by unfold vFog; simp [ vS, Nat.ne_of_lt hk]) k hk
  · rw [jI_I, if_neg (by omega)]; exact hN.1
  · exact (((hN.A (k := V 0 7) (x := nI a) (a := w + 20) (by omega)).A (k := V 0 7) (x := nI b) (a := w + 21) (by omega)).2 k hk)
  · rw [jI_I, if_neg (by omega)]; exact hL
  · exact hv
theorem mErrand {M : Mm} {σ : Sg} {n w p a b f t k9 : Nat} {V : Vt} (h : mRd M σ n w (.ok (V, p))) (hN9 : V 0 2 < 5) : mRd (js_I (js_A (js_A (js_A (js_A (js_A M (w + 15) (V 0 2) (nI a)) (w + 16) (V 0 2) (nI b)) (w + 17) (V 0 2) (nI f)) (w + 18) (V 0 2) (nI t)) (w + 19) (V 0 2) (nI k9)) w 138 (nI (V 0 2 + 1))) σ n w (.ok (vErrand V a b f t k9, p)) := by
  obtain ⟨hB, hp, hG, hF, hV, hN, hL, hv⟩ := id h
  have h104 := hV.1.2.1
  obtain ⟨c1, c2, c3, c4, c5, c6, c7, c8⟩ := hV.2.2
  have oA : ∀ i k, i ≤ 21 → i ≠ 15 → i ≠ 16 → i ≠ 17 → i ≠ 18 → i ≠ 19 → jm_A (js_I (js_A (js_A (js_A (js_A (js_A M (w + 15) (V 0 2) (nI a)) (w + 16) (V 0 2) (nI b)) (w + 17) (V 0 2) (nI f)) (w + 18) (V 0 2) (nI t)) (w + 19) (V 0 2) (nI k9)) w 138 (nI (V 0 2 + 1))) (w + i) k = jm_A M (w + i) k := fun i k h1 q15 q16 q17 q18 q19 => by rw [jA_I, jA_oth2 (by omega), jA_oth2 (by omega), jA_oth2 (by omega), jA_oth2 (by omega), jA_oth2 (by omega)]
  refine h.up ((((((hB.A (by omega) (by omega)).A (by omega) (by omega)).A (by omega) (by omega)).A (by omega) (by omega)).A (by omega) (by omega)).I (fun q hq e => ?_)) (fun j => by rw [jI_I, if_neg (by omega)]; rfl) rfl ⟨hV.1, ?_, ?_⟩ ⟨?_, fun k hk => ?_⟩ ?_ ?_
  · simp only [wCn, List.mem_cons, List.not_mem_nil, or_false] at hq
    rcases hq with rfl | rfl | rfl | rfl | rfl | rfl | rfl | rfl | rfl <;> first | (exact absurd e (by decide)) | exact ⟨_, by omega, rfl⟩
  · obtain ⟨i0, i1, i2, i3, i4, i5, i6, i7, i8, i9, i10, i11, i12⟩ := hV.2.1
    exact ⟨i0, i1, jI_same, i3, i4, i5, i6, i7, i8, i9, i10, i11, i12⟩
  · refine ⟨?_, ?_, ?_, ?_, ?_, ?_, ?_, ?_⟩
    · intro k hk
      exact ⟨(oA 1 k (by decide) (by decide) (by decide) (by decide) (by decide) (by decide)).trans (c1 k hk).1, (oA 2 k (by decide) (by decide) (by decide) (by decide) (by decide) (by decide)).trans (c1 k hk).2⟩
    · intro k hk
      exact ⟨(oA 3 k (by decide) (by decide) (by decide) (by decide) (by decide) (by decide)).trans (c2 k hk).1, (oA 4 k (by decide) (by decide) (by decide) (by decide) (by decide) (by decide)).trans (c2 k hk).2⟩
    · intro k hk
      exact ⟨(oA 5 k (by decide) (by decide) (by decide) (by decide) (by decide) (by decide)).trans (c3 k hk).1, (oA 6 k (by decide) (by decide) (by decide) (by decide) (by decide) (by decide)).trans (c3 k hk).2⟩
    · intro k hk
      exact (oA 7 k (by decide) (by decide) (by decide) (by decide) (by decide) (by decide)).trans (c4 k hk)
    · intro k hk
      exact ⟨(oA 8 k (by decide) (by decide) (by decide) (by decide) (by decide) (by decide)).trans (c5 k hk).1, (oA 9 k (by decide) (by decide) (by decide) (by decide) (by decide) (by decide)).trans (c5 k hk).2.1, (oA 10 k (by decide) (by decide) (by decide) (by decide) (by decide) (by decide)).trans (c5 k hk).2.2.1, (oA 11 k (by decide) (by decide) (by decide) (by decide) (by decide) (by decide)).trans (c5 k hk).2.2.2.1, (oA 14 k (by decide) (by decide) (by decide) (by decide) (by decide) (by decide)).trans (c5 k hk).2.2.2.2⟩
    · intro k hk
      exact ⟨(oA 12 k (by decide) (by decide) (by decide) (by decide) (by decide) (by decide)).trans (c6 k hk).1, (oA 13 k (by decide) (by decide) (by decide) (by decide) (by decide) (by decide)).trans (c6 k hk).2⟩
    · intro k hk
      refine ⟨?_, ?_, ?_, ?_, ?_⟩
      · rw [jA_I, jA_oth2 (by omega), jA_oth2 (by omega), jA_oth2 (by omega), jA_oth2 (by omega)]
        exact row_1 (f := V 16) (g := vErrand V a b f t k9 16) (fun k hk => (c7 k hk).1) (by unfold vErrand; simp [ vS]) (fun k hk => by unfold vErrand; simp [ vS, Nat.ne_of_lt hk]) k hk
      · rw [jA_I, jA_oth2 (by omega), jA_oth2 (by omega), jA_oth2 (by omega)]
        exact row_1 (f := V 17) (g := vErrand V a b f t k9 17) (fun k hk => (jA_oth2 (by omega)).trans ((c7 k hk).2.1)) (by unfold vErrand; simp [ vS]) (fun k hk => by unfold vErrand; simp [ vS, Nat.ne_of_lt hk]) k hk
      · rw [jA_I, jA_oth2 (by omega), jA_oth2 (by omega)]
        exact row_1 (f := V 18) (g := vErrand V a b f t k9 18) (fun k hk => (jA_oth2 (by omega)).trans ((jA_oth2 (by omega)).trans ((c7 k hk).2.2.1))) (by unfold vErrand; simp [ vS]) (fun k hk => by unfold vErrand; simp [ vS, Nat.ne_of_lt hk]) k hk
      · rw [jA_I, jA_oth2 (by omega)]
        exact row_1 (f := V 19) (g := vErrand V a b f t k9 19) (fun k hk => (jA_oth2 (by omega)).trans ((jA_oth2 (by omega)).trans ((jA_oth2 (by omega)).trans ((c7 k hk).2.2.2.1)))) (by unfold vErrand; simp [ vS]) (fun k hk => by unfold vErrand; simp [ vS, Nat.ne_of_lt hk]) k hk
      · rw [jA_I]
        exact row_1 (f := V 20) (g := vErrand V a b f t k9 20) (fun k hk => (jA_oth2 (by omega)).trans ((jA_oth2 (by omega)).trans ((jA_oth2 (by omega)).trans ((jA_oth2 (by omega)).trans ((c7 k hk).2.2.2.2))))) (by unfold vErrand; simp [ vS]) (fun k hk => by unfold vErrand; simp [ vS, Nat.ne_of_lt hk]) k hk
    · intro k hk
      exact ⟨(oA 20 k (by decide) (by decide) (by decide) (by decide) (by decide) (by decide)).trans (c8 k hk).1, (oA 21 k (by decide) (by decide) (by decide) (by decide) (by decide) (by decide)).trans (c8 k hk).2⟩
  · rw [jI_I, if_neg (by omega)]; exact hN.1
  · exact ((((((hN.A (k := V 0 2) (x := nI a) (a := w + 15) (by omega)).A (k := V 0 2) (x := nI b) (a := w + 16) (by omega)).A (k := V 0 2) (x := nI f) (a := w + 17) (by omega)).A (k := V 0 2) (x := nI t) (a := w + 18) (by omega)).A (k := V 0 2) (x := nI k9) (a := w + 19) (by omega)).2 k hk)
  · rw [jI_I, if_neg (by omega)]; exact hL
  · exact hv
def vPl (V : Vt) (u x y : Nat) : Vt := vS (vS (vS (vS (vS V 1 (V 0 0) x) 2 (V 0 0) y) 3 (V 0 0) 0) 23 (V 0 0) u) 0 0 (V 0 0 + 1)
theorem vPl_e (V : Vt) (u x y : Nat) : vPlace V u x y = vPl (vName V u 0 (V 0 0)) u x y := rfl
def vPe (V : Vt) (u at' baby away from' to' : Nat) : Vt := vS (vS (vS (vS (vS (vS (vS V 11 (V 0 1) at') 12 (V 0 1) baby) 13 (V 0 1) away) 14 (V 0 1) from') 15 (V 0 1) to') 24 (V 0 1) u) 0 1 (V 0 1 + 1)
theorem vPe_e (V : Vt) (u a b c d e : Nat) : vPerson V u a b c d e = vPe (vName V u 1 (V 0 1)) u a b c d e := rfl
theorem mPl {M : Mm} {σ : Sg} {n w p u a b : Nat} {V : Vt} (h : mRd M σ n w (.ok (V, p))) (hN9 : V 0 0 < 10) : mRd (js_I (js_A (js_A M (w + 1) (V 0 0) (nI a)) (w + 2) (V 0 0) (nI b)) w 132 (nI (V 0 0 + 1))) σ n w (.ok (vPl V u a b, p)) := by
  obtain ⟨hB, hp, hG, hF, hV, hN, hL, hv⟩ := id h
  have h104 := hV.1.2.1
  obtain ⟨c1, c2, c3, c4, c5, c6, c7, c8⟩ := hV.2.2
  have oA : ∀ i k, i ≤ 21 → i ≠ 1 → i ≠ 2 → jm_A (js_I (js_A (js_A M (w + 1) (V 0 0) (nI a)) (w + 2) (V 0 0) (nI b)) w 132 (nI (V 0 0 + 1))) (w + i) k = jm_A M (w + i) k := fun i k h1 q1 q2 => by rw [jA_I, jA_oth2 (by omega), jA_oth2 (by omega)]
  refine h.up (((hB.A (by omega) (by omega)).A (by omega) (by omega)).I (fun q hq e => ?_)) (fun j => by rw [jI_I, if_neg (by omega)]; rfl) rfl ⟨hV.1, ?_, ?_⟩ ⟨?_, fun k hk => ?_⟩ ?_ ?_
  · simp only [wCn, List.mem_cons, List.not_mem_nil, or_false] at hq
    rcases hq with rfl | rfl | rfl | rfl | rfl | rfl | rfl | rfl | rfl <;> first | (exact absurd e (by decide)) | exact ⟨_, by omega, rfl⟩
  · obtain ⟨i0, i1, i2, i3, i4, i5, i6, i7, i8, i9, i10, i11, i12⟩ := hV.2.1
    exact ⟨jI_same, i1, i2, i3, i4, i5, i6, i7, i8, i9, i10, i11, i12⟩
  · refine ⟨?_, ?_, ?_, ?_, ?_, ?_, ?_, ?_⟩
    · intro k hk
      refine ⟨?_, ?_⟩
      · rw [jA_I, jA_oth2 (by omega)]
        exact row_1 (f := V 1) (g := vPl V u a b 1) (fun k hk => (c1 k hk).1) (by unfold vPl; simp [ vS]) (fun k hk => by unfold vPl; simp [ vS, Nat.ne_of_lt hk]) k hk
      · rw [jA_I]
        exact row_1 (f := V 2) (g := vPl V u a b 2) (fun k hk => (jA_oth2 (by omega)).trans ((c1 k hk).2)) (by unfold vPl; simp [ vS]) (fun k hk => by unfold vPl; simp [ vS, Nat.ne_of_lt hk]) k hk
    · intro k hk
      exact ⟨(oA 3 k (by decide) (by decide) (by decide)).trans (c2 k hk).1, (oA 4 k (by decide) (by decide) (by decide)).trans (c2 k hk).2⟩
    · intro k hk
      exact ⟨(oA 5 k (by decide) (by decide) (by decide)).trans (c3 k hk).1, (oA 6 k (by decide) (by decide) (by decide)).trans (c3 k hk).2⟩
    · intro k hk
      exact (oA 7 k (by decide) (by decide) (by decide)).trans (c4 k hk)
    · intro k hk
      exact ⟨(oA 8 k (by decide) (by decide) (by decide)).trans (c5 k hk).1, (oA 9 k (by decide) (by decide) (by decide)).trans (c5 k hk).2.1, (oA 10 k (by decide) (by decide) (by decide)).trans (c5 k hk).2.2.1, (oA 11 k (by decide) (by decide) (by decide)).trans (c5 k hk).2.2.2.1, (oA 14 k (by decide) (by decide) (by decide)).trans (c5 k hk).2.2.2.2⟩
    · intro k hk
      exact ⟨(oA 12 k (by decide) (by decide) (by decide)).trans (c6 k hk).1, (oA 13 k (by decide) (by decide) (by decide)).trans (c6 k hk).2⟩
    · intro k hk
      exact ⟨(oA 15 k (by decide) (by decide) (by decide)).trans (c7 k hk).1, (oA 16 k (by decide) (by decide) (by decide)).trans (c7 k hk).2.1, (oA 17 k (by decide) (by decide) (by decide)).trans (c7 k hk).2.2.1, (oA 18 k (by decide) (by decide) (by decide)).trans (c7 k hk).2.2.2.1, (oA 19 k (by decide) (by decide) (by decide)).trans (c7 k hk).2.2.2.2⟩
    · intro k hk
      exact ⟨(oA 20 k (by decide) (by decide) (by decide)).trans (c8 k hk).1, (oA 21 k (by decide) (by decide) (by decide)).trans (c8 k hk).2⟩
  · rw [jI_I, if_neg (by omega)]; exact hN.1
  · exact (((hN.A (k := V 0 0) (x := nI a) (a := w + 1) (by omega)).A (k := V 0 0) (x := nI b) (a := w + 2) (by omega)).2 k hk)
  · rw [jI_I, if_neg (by omega)]; exact hL
  · exact hv
theorem mPe {M : Mm} {σ : Sg} {n w p u a b f t k9 : Nat} {V : Vt} (h : mRd M σ n w (.ok (V, p))) (hN9 : V 0 1 < 5) : mRd (js_I (js_A (js_A (js_A (js_A (js_A M (w + 8) (V 0 1) (nI a)) (w + 14) (V 0 1) (nI b)) (w + 9) (V 0 1) (nI f)) (w + 10) (V 0 1) (nI t)) (w + 11) (V 0 1) (nI k9)) w 136 (nI (V 0 1 + 1))) σ n w (.ok (vPe V u a b f t k9, p)) := by
  obtain ⟨hB, hp, hG, hF, hV, hN, hL, hv⟩ := id h
  have h104 := hV.1.2.1
  obtain ⟨c1, c2, c3, c4, c5, c6, c7, c8⟩ := hV.2.2
  have oA : ∀ i k, i ≤ 21 → i ≠ 8 → i ≠ 14 → i ≠ 9 → i ≠ 10 → i ≠ 11 → jm_A (js_I (js_A (js_A (js_A (js_A (js_A M (w + 8) (V 0 1) (nI a)) (w + 14) (V 0 1) (nI b)) (w + 9) (V 0 1) (nI f)) (w + 10) (V 0 1) (nI t)) (w + 11) (V 0 1) (nI k9)) w 136 (nI (V 0 1 + 1))) (w + i) k = jm_A M (w + i) k := fun i k h1 q8 q14 q9 q10 q11 => by rw [jA_I, jA_oth2 (by omega), jA_oth2 (by omega), jA_oth2 (by omega), jA_oth2 (by omega), jA_oth2 (by omega)]
  refine h.up ((((((hB.A (by omega) (by omega)).A (by omega) (by omega)).A (by omega) (by omega)).A (by omega) (by omega)).A (by omega) (by omega)).I (fun q hq e => ?_)) (fun j => by rw [jI_I, if_neg (by omega)]; rfl) rfl ⟨hV.1, ?_, ?_⟩ ⟨?_, fun k hk => ?_⟩ ?_ ?_
  · simp only [wCn, List.mem_cons, List.not_mem_nil, or_false] at hq
    rcases hq with rfl | rfl | rfl | rfl | rfl | rfl | rfl | rfl | rfl <;> first | (exact absurd e (by decide)) | exact ⟨_, by omega, rfl⟩
  · obtain ⟨i0, i1, i2, i3, i4, i5, i6, i7, i8, i9, i10, i11, i12⟩ := hV.2.1
    exact ⟨i0, jI_same, i2, i3, i4, i5, i6, i7, i8, i9, i10, i11, i12⟩
  · refine ⟨?_, ?_, ?_, ?_, ?_, ?_, ?_, ?_⟩
    · intro k hk
      exact ⟨(oA 1 k (by decide) (by decide) (by decide) (by decide) (by decide) (by decide)).trans (c1 k hk).1, (oA 2 k (by decide) (by decide) (by decide) (by decide) (by decide) (by decide)).trans (c1 k hk).2⟩
    · intro k hk
      exact ⟨(oA 3 k (by decide) (by decide) (by decide) (by decide) (by decide) (by decide)).trans (c2 k hk).1, (oA 4 k (by decide) (by decide) (by decide) (by decide) (by decide) (by decide)).trans (c2 k hk).2⟩
    · intro k hk
      exact ⟨(oA 5 k (by decide) (by decide) (by decide) (by decide) (by decide) (by decide)).trans (c3 k hk).1, (oA 6 k (by decide) (by decide) (by decide) (by decide) (by decide) (by decide)).trans (c3 k hk).2⟩
    · intro k hk
      exact (oA 7 k (by decide) (by decide) (by decide) (by decide) (by decide) (by decide)).trans (c4 k hk)
    · intro k hk
      refine ⟨?_, ?_, ?_, ?_, ?_⟩
      · rw [jA_I, jA_oth2 (by omega), jA_oth2 (by omega), jA_oth2 (by omega), jA_oth2 (by omega)]
        exact row_1 (f := V 11) (g := vPe V u a b f t k9 11) (fun k hk => (c5 k hk).1) (by unfold vPe; simp [ vS]) (fun k hk => by unfold vPe; simp [ vS, Nat.ne_of_lt hk]) k hk
      · rw [jA_I, jA_oth2 (by omega), jA_oth2 (by omega)]
        exact row_1 (f := V 13) (g := vPe V u a b f t k9 13) (fun k hk => (jA_oth2 (by omega)).trans ((jA_oth2 (by omega)).trans ((c5 k hk).2.1))) (by unfold vPe; simp [ vS]) (fun k hk => by unfold vPe; simp [ vS, Nat.ne_of_lt hk]) k hk
      · rw [jA_I, jA_oth2 (by omega)]
        exact row_1 (f := V 14) (g := vPe V u a b f t k9 14) (fun k hk => (jA_oth2 (by omega)).trans ((jA_oth2 (by omega)).trans ((jA_oth2 (by omega)).trans ((c5 k hk).2.2.1)))) (by unfold vPe; simp [ vS]) (fun k hk => by unfold vPe; simp [ vS, Nat.ne_of_lt hk]) k hk
      · rw [jA_I]
        exact row_1 (f := V 15) (g := vPe V u a b f t k9 15) (fun k hk => (jA_oth2 (by omega)).trans ((jA_oth2 (by omega)).trans ((jA_oth2 (by omega)).trans ((jA_oth2 (by omega)).trans ((c5 k hk).2.2.2.1))))) (by unfold vPe; simp [ vS]) (fun k hk => by unfold vPe; simp [ vS, Nat.ne_of_lt hk]) k hk
      · rw [jA_I, jA_oth2 (by omega), jA_oth2 (by omega), jA_oth2 (by omega)]
        exact row_1 (f := V 12) (g := vPe V u a b f t k9 12) (fun k hk => (jA_oth2 (by omega)).trans ((c5 k hk).2.2.2.2)) (by unfold vPe; simp [ vS]) (fun k hk => by unfold vPe; simp [ vS, Nat.ne_of_lt hk]) k hk
    · intro k hk
      exact ⟨(oA 12 k (by decide) (by decide) (by decide) (by decide) (by decide) (by decide)).trans (c6 k hk).1, (oA 13 k (by decide) (by decide) (by decide) (by decide) (by decide) (by decide)).trans (c6 k hk).2⟩
    · intro k hk
      exact ⟨(oA 15 k (by decide) (by decide) (by decide) (by decide) (by decide) (by decide)).trans (c7 k hk).1, (oA 16 k (by decide) (by decide) (by decide) (by decide) (by decide) (by decide)).trans (c7 k hk).2.1, (oA 17 k (by decide) (by decide) (by decide) (by decide) (by decide) (by decide)).trans (c7 k hk).2.2.1, (oA 18 k (by decide) (by decide) (by decide) (by decide) (by decide) (by decide)).trans (c7 k hk).2.2.2.1, (oA 19 k (by decide) (by decide) (by decide) (by decide) (by decide) (by decide)).trans (c7 k hk).2.2.2.2⟩
    · intro k hk
      exact ⟨(oA 20 k (by decide) (by decide) (by decide) (by decide) (by decide) (by decide)).trans (c8 k hk).1, (oA 21 k (by decide) (by decide) (by decide) (by decide) (by decide) (by decide)).trans (c8 k hk).2⟩
  · rw [jI_I, if_neg (by omega)]; exact hN.1
  · exact ((((((hN.A (k := V 0 1) (x := nI a) (a := w + 8) (by omega)).A (k := V 0 1) (x := nI b) (a := w + 14) (by omega)).A (k := V 0 1) (x := nI f) (a := w + 9) (by omega)).A (k := V 0 1) (x := nI t) (a := w + 10) (by omega)).A (k := V 0 1) (x := nI k9) (a := w + 11) (by omega)).2 k hk)
  · rw [jI_I, if_neg (by omega)]; exact hL
  · exact hv
theorem jWf.n {V : Vt} (h : jWf V) : V 0 0 ≤ 10 ∧ V 0 1 ≤ 5 ∧ V 0 2 ≤ 5 ∧ V 0 3 ≤ 10 ∧ V 0 4 ≤ 16 ∧ V 0 5 ≤ 4 ∧ V 0 6 ≤ 3 ∧ V 0 7 ≤ 4 := ⟨wf_np h, wf_nq h, wf_ne h, wf_nw h, wf_ny h, wf_nm h, wf_nr h, wf_nf h⟩
theorem ln_begin {c : Nat → Int32} {n p k : Nat} {V V' : Vt} {p' : Nat} {b : Bool} (e : sB (.ok (V, p)) (fun _ p => pBegin c n b k p) = .ok (V', p')) : V' = V ∧ b = true := by
  have e : ((pBegin c n b k p).bind (fun q => .ok (V, q)) : Except Fl (Vt × Nat)) = .ok (V', p') := e
  cases b with
  | false => cases e
  | true => cases e; exact ⟨rfl, rfl⟩
section JLX
variable {G : Gh} {M : Mm} {σ : Sg} {n w : Nat}
theorem ln_mirror {c : Nat → Int32} {p : Nat} {V : Vt} {x1 : Int32} (v1 : sX (sB (.ok (V, p)) (fun _ p => pBegin c n (decide (V 0 5 < 4)) 5 p)) (fun V p => pOther c n 6 V (V 0 5) p) x1) :
    (∀ f, sP (sB (.ok (V, p)) (fun _ p => pBegin c n (decide (V 0 5 < 4)) 5 p)) (fun V p => pOther c n 6 V (V 0 5) p) = .error f → lMirror c n V p = .error f) ∧
    (∀ r, sP (sB (.ok (V, p)) (fun _ p => pBegin c n (decide (V 0 5 < 4)) 5 p)) (fun V p => pOther c n 6 V (V 0 5) p) = .ok r → ∃ a p2, x1 = nI a ∧ r = (V, p2) ∧ V 0 5 < 4 ∧ lMirror c n V p = .ok (vMirror V a, p2)) := by
  unfold lMirror
  cases h1 : pBegin c n (decide (V 0 5 < 4)) 5 p with
  | error g => simp only [sB, sP, h1, Except.bind]; exact ⟨fun f h => h, fun r h => by cases h⟩
  | ok p1 =>
    have hS1 : sB (.ok (V, p)) (fun _ p => pBegin c n (decide (V 0 5 < 4)) 5 p) = .ok (V, p1) := by simp only [sB, h1, Except.bind]
    have hlt := (ln_begin hS1).2
    rw [hS1] at v1 ⊢
    cases h2 : pOther c n 6 V (V 0 5) p1 with
    | error g => simp only [sP, h2, Except.bind]; exact ⟨fun f h => h, fun r h => by cases h⟩
    | ok q =>
      simp only [sP, h2, Except.bind]
      exact ⟨fun f h => (by cases h), fun r h => by cases h; exact ⟨q.1, q.2, v1 _ _ rfl h2, rfl, of_decide_eq_true hlt, rfl⟩⟩
theorem lp_mirE {M9 : Mm} {V : Vt} {p : Nat} {f : Fl} {x : Int32} (h : mRd M σ n w (.error f)) (hk : mKp M9 M w) (he : lMirror (chI σ n) n V p = .error f) : jW G mi_X5_readMirror 12 M9 30 (jent [jr (some 90)] mi_X5_readMirror.2.2.1) [.int x] M (jPv (fun M' => mRd M' σ n w (lMirror (chI σ n) n V p) ∧ mKq M9 M' w)) := by
  have hS := h.S
  refine jw_istore_n (pc := 30) dX5_readMirror_30 (Nat.le_of_ble_eq_true rfl) rfl ?_
  try dsimp only [jput1, jput2, jkill, jclr, jis2_i, jis2_l, jis2_rs, jis2_rn, cond]
  refine jw_aload_n (pc := 31) dX5_readMirror_31 rfl ?_
  refine jx_getIs (pc := 32) (jf_X5_85_4.r) rfl dX5_readMirror_32 rfl (is_90 hS) (by decide) (h.2.1) ?_
  refine jw_iconst (pc := 35) dX5_readMirror_35 ic_5 ?_
  first | refine jx_icmp_ne (pc := 36) (tgt := 40) dX5_readMirror_36 (by decide) (by omega) (by omega) ?_ ?_ | refine jw_icmp_ne (pc := 36) (tgt := 40) dX5_readMirror_36 (by decide) ?_ ?_
  · intro h_36
    exact absurd rfl h_36
  · intro h_36
    refine jw_return (pc := 39) dX5_readMirror_39 rfl ?_
    exact ⟨rfl, by rw [he]; exact h, hk.q⟩
theorem lp_mirO {M9 : Mm} {V : Vt} {p p2 a : Nat} (h : mRd M σ n w (.ok (V, p2))) (hk : mKp M9 M w) (hlt : V 0 5 < 4) (he : lMirror (chI σ n) n V p = .ok (vMirror V a, p2)) : jW G mi_X5_readMirror 12 M9 30 (jent [jr (some 90)] mi_X5_readMirror.2.2.1) [.int (nI a)] M (jPv (fun M' => mRd M' σ n w (lMirror (chI σ n) n V p) ∧ mKq M9 M' w)) := by
  have hS := h.S
  have hR := h.1.2.2.2.2.2.1
  have hV := h.2.2.2.2.1
  have hw := hV.1
  have h104 := hw.2.1
  have hs5 := @srt_lt (tkK (chI σ n) n p2)
  have hct := mi_nm hV
  refine jw_istore_n (pc := 30) dX5_readMirror_30 (Nat.le_of_ble_eq_true rfl) rfl ?_
  try dsimp only [jput1, jput2, jkill, jclr, jis2_i, jis2_l, jis2_rs, jis2_rn, cond]
  refine jw_aload_n (pc := 31) dX5_readMirror_31 rfl ?_
  refine jx_getIs (pc := 32) (jf_X5_85_4.r) rfl dX5_readMirror_32 rfl (is_90 hS) (by decide) (h.2.2.1.2.1) ?_
  refine jw_iconst (pc := 35) dX5_readMirror_35 ic_5 ?_
  first | refine jx_icmp_ne (pc := 36) (tgt := 40) dX5_readMirror_36 (by decide) (by omega) (by omega) ?_ ?_ | refine jw_icmp_ne (pc := 36) (tgt := 40) dX5_readMirror_36 (by decide) ?_ ?_
  · intro h_36
    refine jw_aload_n (pc := 40) dX5_readMirror_40 rfl ?_
    refine jx_getRs (pc := 41) (jf_X5_173_4.r) rfl dX5_readMirror_41 rfl (is_90 hS) (by decide) (hR) ?_
    refine jx_getRs (pc := 44) jg_X5_314_12 rfl dX5_readMirror_44 rfl (wis hw) (by decide) (wr_7 hw) ?_
    refine jw_aload_n (pc := 47) dX5_readMirror_47 rfl ?_
    refine jx_getRs (pc := 48) (jf_X5_173_4.r) rfl dX5_readMirror_48 rfl (is_90 hS) (by decide) (hR) ?_
    refine jx_getIs (pc := 51) (jf_X5_311_12.r) rfl dX5_readMirror_51 rfl (wis hw) (by decide) (hct) ?_
    refine jw_iload_n (pc := 54) dX5_readMirror_54 rfl ?_
    refine jx_iast (pc := 55) dX5_readMirror_55 (by omega) (wok_7 hw) (wnn_7 hw) rfl (by omega) ?_
    refine jw_aload_n (pc := 56) dX5_readMirror_56 rfl ?_
    refine jx_getRs (pc := 57) (jf_X5_173_4.r) rfl dX5_readMirror_57 rfl (is_90 hS) (by decide) (hR) ?_
    refine jw_dup (pc := 60) dX5_readMirror_60 (jis2_r _) ?_
    refine jx_getIs (pc := 61) (jf_X5_311_12.r) rfl dX5_readMirror_61 rfl (wis hw) (by decide) (hct) ?_
    refine jw_iconst (pc := 64) dX5_readMirror_64 ic_1 ?_
    first | refine jx_iadd (pc := 65) dX5_readMirror_65 ?_ | refine jw_iadd (pc := 65) dX5_readMirror_65 ?_
    refine jx_putI (pc := 66) jf_X5_311_12 rfl dX5_readMirror_66 rfl rfl (wis hw) (by decide) ?_
    refine jw_return (pc := 69) dX5_readMirror_69 rfl ?_
    refine ⟨rfl, ?_, (hk.tr ?_).q⟩
    · rw [he]; exact mMirror h hlt
    · exact (mKp.A (by omega) (by omega)).tr (mKp.W h104)
  · intro h_36
    omega
theorem t_X5_readMirror {V : Vt} {p : Nat} (hG : jGs G) (h : mRd M σ n w (.ok (V, p))) (hk : tkK (chI σ n) n p = 2) (hW : jWf V) (hb15 : ∀ k, k < V 0 5 → V 6 k ≤ 15) : jT G mi_X5_readMirror 12 [jr (some 90)] M (jPv (fun M' => mRd M' σ n w (lMirror (chI σ n) n V p) ∧ mKq M M' w)) := by
  have hS := h.S
  have hR := h.1.2.2.2.2.2.1
  have hV := h.2.2.2.2.1
  have hN9 : V 0 5 ≤ 4 := hW.n.2.2.2.2.2.1
  refine jT.of (by decide) rfl (Nat.le_of_ble_eq_true rfl) ?_
  refine jw_aload_n (pc := 0) dX5_readMirror_0 rfl ?_
  refine jw_aload_n (pc := 1) dX5_readMirror_1 rfl ?_
  refine jx_getRs (pc := 2) (jf_X5_173_4.r) rfl dX5_readMirror_2 rfl (is_90 hS) (by decide) (hR) ?_
  refine jx_getIs (pc := 5) (jf_X5_311_12.r) rfl dX5_readMirror_5 rfl (wis hV.1) (by decide) (mi_nm hV) ?_
  refine jw_iconst (pc := 8) dX5_readMirror_8 ic_4 ?_
  refine jx_cVv (mi1 := mi_X5_begins) (pc := 9) rfl dX5_readMirror_9 lk_X5_275 rfl fi_X5_begins rfl rfl rfl (by decide) (is_90 hS) (t_X5_begins h (by rw [hk]; decide) (by omega) (by omega) hN9) (by first | decide | omega) rfl rfl (by decide) ?_
  intro M_9 q_9
  have hS := q_9.1.S
  have hR := q_9.1.1.2.2.2.2.2.1
  have hw := q_9.1.1.2.2.2.2.2.2.1
  obtain ⟨m, hm1, hm2⟩ := q_9.1.1.2.2.2.2.2.2.2 (135, 4) (by decide)
  refine jw_aload_n (pc := 12) dX5_readMirror_12 rfl ?_
  refine jw_aload_n (pc := 13) dX5_readMirror_13 rfl ?_
  refine jx_getRs (pc := 14) (jf_X5_173_4.r) rfl dX5_readMirror_14 rfl (is_90 hS) (by decide) (hR) ?_
  refine jx_getRs (pc := 17) jg_X5_314_12 rfl dX5_readMirror_17 rfl (wis hw) (by decide) (wr_7 hw) ?_
  refine jw_aload_n (pc := 20) dX5_readMirror_20 rfl ?_
  refine jx_getRs (pc := 21) (jf_X5_173_4.r) rfl dX5_readMirror_21 rfl (is_90 hS) (by decide) (hR) ?_
  refine jx_getIs (pc := 24) (jf_X5_311_12.r) rfl dX5_readMirror_24 rfl (wis hw) (by decide) (hm2) ?_
  refine jx_cVi (mi1 := mi_X5_readOther) (pc := 27) rfl dX5_readMirror_27 lk_X5_316 rfl fi_X5_readOther rfl rfl rfl (by decide) (is_90 hS) (t_X5_readOther (i := 6) (L := 4) (mm := fun V => V 0 5) (a := w + 7) hG q_9.1 (fun M' z => ⟨wok_7 z, wnn_7 z⟩) hm1 (by decide) (fun r e => by
    obtain ⟨V', p'⟩ := r
    have hq := q_9.1
    rw [e] at hq
    have eV := (ln_begin e).1
    subst eV
    have e2 := mi_nm hq.2.2.2.2.1
    show m = V' 0 5
    exact (nI_eq (by omega) (by omega)).mp (hm2.symm.trans e2)) (fun M' V' z k hk => z.2.2.2.2.2.1 k hk) (fun r e k hk => by
    obtain ⟨V', p'⟩ := r
    have eV := (ln_begin e).1
    subst eV
    exact hb15 k hk)) (by first | decide | omega) rfl rfl (by decide) ?_
  intro x_27 M_27 q_27
  obtain ⟨hq, hkq, hval⟩ := q_27
  obtain ⟨lE, lO⟩ := ln_mirror hval
  cases hs : sP (sB (.ok (V, p)) (fun _ p => pBegin (chI σ n) n (decide (V 0 5 < 4)) 5 p)) (fun V p => pOther (chI σ n) n 6 V (V 0 5) p) with
  | error f =>
    rw [hs] at hq
    exact lp_mirE hq (q_9.2.tr hkq) (lE f hs)
  | ok r =>
    rw [hs] at hq
    obtain ⟨a, p2, z1, z2, z3, z4⟩ := lO r hs
    subst z2
    subst z1
    exact lp_mirO hq (q_9.2.tr hkq) z3 z4
theorem ln_fog {c : Nat → Int32} {p : Nat} {V : Vt} {x1 x2 : Int32} (v1 : sX (sB (.ok (V, p)) (fun _ p => pBegin c n (decide (V 0 7 < 4)) 5 p)) (fun V p => pOther c n 9 V (V 0 7) p) x1) (v2 : sX (sP (sB (.ok (V, p)) (fun _ p => pBegin c n (decide (V 0 7 < 4)) 5 p)) (fun V p => pOther c n 9 V (V 0 7) p)) (fun _ p => pAfter c n (kwc 20) (nI 1) (nI 99) p) x2) :
    (∀ f, sP (sP (sB (.ok (V, p)) (fun _ p => pBegin c n (decide (V 0 7 < 4)) 5 p)) (fun V p => pOther c n 9 V (V 0 7) p)) (fun _ p => pAfter c n (kwc 20) (nI 1) (nI 99) p) = .error f → lFog c n V p = .error f) ∧
    (∀ r, sP (sP (sB (.ok (V, p)) (fun _ p => pBegin c n (decide (V 0 7 < 4)) 5 p)) (fun V p => pOther c n 9 V (V 0 7) p)) (fun _ p => pAfter c n (kwc 20) (nI 1) (nI 99) p) = .ok r → ∃ a b p2, x1 = nI a ∧ x2 = nI b ∧ r = (V, p2) ∧ V 0 7 < 4 ∧ lFog c n V p = .ok (vFog V a b, p2)) := by
  unfold lFog
  cases h1 : pBegin c n (decide (V 0 7 < 4)) 5 p with
  | error g => simp only [sB, sP, h1, Except.bind]; exact ⟨fun f h => h, fun r h => by cases h⟩
  | ok p1 =>
    have hS1 : sB (.ok (V, p)) (fun _ p => pBegin c n (decide (V 0 7 < 4)) 5 p) = .ok (V, p1) := by simp only [sB, h1, Except.bind]
    have hlt := (ln_begin hS1).2
    rw [hS1] at v1 v2 ⊢
    cases h2 : pOther c n 9 V (V 0 7) p1 with
    | error g => simp only [sP, h2, Except.bind]; exact ⟨fun f h => h, fun r h => by cases h⟩
    | ok q =>
      have hS2 : sP (.ok (V, p1)) (fun V p => pOther c n 9 V (V 0 7) p) = .ok (V, q.2) := by simp only [sP, h2, Except.bind]
      rw [hS2] at v2 ⊢
      cases h3 : pAfter c n (kwc 20) (nI 1) (nI 99) q.2 with
      | error g => simp only [sP, h2, h3, Except.bind]; exact ⟨fun f h => h, fun r h => by cases h⟩
      | ok q3 =>
        simp only [sP, h2, h3, Except.bind]
        exact ⟨fun f h => (by cases h), fun r h => by cases h; exact ⟨q.1, q3.1, q3.2, v1 _ _ rfl h2, v2 _ _ rfl h3, rfl, of_decide_eq_true hlt, rfl⟩⟩
theorem lp_fogE {M9 : Mm} {V : Vt} {p : Nat} {f : Fl} {x y : Int32} (h : mRd M σ n w (.error f)) (hk : mKp M9 M w) (he : lFog (chI σ n) n V p = .error f) : jW G mi_X5_readFog 12 M9 41 [some (jr (some 90)), some (.int y), none] [.int x] M (jPv (fun M' => mRd M' σ n w (lFog (chI σ n) n V p) ∧ mKq M9 M' w)) := by
  have hS := h.S
  refine jw_istore_n (pc := 41) dX5_readFog_41 (Nat.le_of_ble_eq_true rfl) rfl ?_
  try dsimp only [jput1, jput2, jkill, jclr, jis2_i, jis2_l, jis2_rs, jis2_rn, cond]
  refine jw_aload_n (pc := 42) dX5_readFog_42 rfl ?_
  refine jx_getIs (pc := 43) (jf_X5_85_4.r) rfl dX5_readFog_43 rfl (is_90 hS) (by decide) (h.2.1) ?_
  refine jw_iconst (pc := 46) dX5_readFog_46 ic_5 ?_
  first | refine jx_icmp_ne (pc := 47) (tgt := 51) dX5_readFog_47 (by decide) (by omega) (by omega) ?_ ?_ | refine jw_icmp_ne (pc := 47) (tgt := 51) dX5_readFog_47 (by decide) ?_ ?_
  · intro h_47
    exact absurd rfl h_47
  · intro h_47
    refine jw_return (pc := 50) dX5_readFog_50 rfl ?_
    exact ⟨rfl, by rw [he]; exact h, hk.q⟩
theorem lp_fogO {M9 : Mm} {V : Vt} {p p2 a b : Nat} (h : mRd M σ n w (.ok (V, p2))) (hk : mKp M9 M w) (hlt : V 0 7 < 4) (he : lFog (chI σ n) n V p = .ok (vFog V a b, p2)) : jW G mi_X5_readFog 12 M9 41 [some (jr (some 90)), some (.int (nI a)), none] [.int (nI b)] M (jPv (fun M' => mRd M' σ n w (lFog (chI σ n) n V p) ∧ mKq M9 M' w)) := by
  have hS := h.S
  have hR := h.1.2.2.2.2.2.1
  have hV := h.2.2.2.2.1
  have hw := hV.1
  have h104 := hw.2.1
  have hs5 := @srt_lt (tkK (chI σ n) n p2)
  have hct := mi_nf hV
  refine jw_istore_n (pc := 41) dX5_readFog_41 (Nat.le_of_ble_eq_true rfl) rfl ?_
  try dsimp only [jput1, jput2, jkill, jclr, jis2_i, jis2_l, jis2_rs, jis2_rn, cond]
  refine jw_aload_n (pc := 42) dX5_readFog_42 rfl ?_
  refine jx_getIs (pc := 43) (jf_X5_85_4.r) rfl dX5_readFog_43 rfl (is_90 hS) (by decide) (h.2.2.1.2.1) ?_
  refine jw_iconst (pc := 46) dX5_readFog_46 ic_5 ?_
  first | refine jx_icmp_ne (pc := 47) (tgt := 51) dX5_readFog_47 (by decide) (by omega) (by omega) ?_ ?_ | refine jw_icmp_ne (pc := 47) (tgt := 51) dX5_readFog_47 (by decide) ?_ ?_
  · intro h_47
    refine jw_aload_n (pc := 51) dX5_readFog_51 rfl ?_
    refine jx_getRs (pc := 52) (jf_X5_173_4.r) rfl dX5_readFog_52 rfl (is_90 hS) (by decide) (hR) ?_
    refine jx_getRs (pc := 55) jg_X5_366_12 rfl dX5_readFog_55 rfl (wis hw) (by decide) (wr_20 hw) ?_
    refine jw_aload_n (pc := 58) dX5_readFog_58 rfl ?_
    refine jx_getRs (pc := 59) (jf_X5_173_4.r) rfl dX5_readFog_59 rfl (is_90 hS) (by decide) (hR) ?_
    refine jx_getIs (pc := 62) (jf_X5_363_12.r) rfl dX5_readFog_62 rfl (wis hw) (by decide) (hct) ?_
    refine jw_iload_n (pc := 65) dX5_readFog_65 rfl ?_
    refine jx_iast (pc := 66) dX5_readFog_66 (by omega) (wok_20 hw) (wnn_20 hw) rfl (by omega) ?_
    refine jw_aload_n (pc := 67) dX5_readFog_67 rfl ?_
    refine jx_getRs (pc := 68) (jf_X5_173_4.r) rfl dX5_readFog_68 rfl (is_90 hS) (by decide) (hR) ?_
    refine jx_getRs (pc := 71) jg_X5_371_12 rfl dX5_readFog_71 rfl (wis hw) (by decide) (wr_21 hw) ?_
    refine jw_aload_n (pc := 74) dX5_readFog_74 rfl ?_
    refine jx_getRs (pc := 75) (jf_X5_173_4.r) rfl dX5_readFog_75 rfl (is_90 hS) (by decide) (hR) ?_
    refine jx_getIs (pc := 78) (jf_X5_363_12.r) rfl dX5_readFog_78 rfl (wis hw) (by decide) (hct) ?_
    refine jw_iload_n (pc := 81) dX5_readFog_81 rfl ?_
    refine jx_iast (pc := 82) dX5_readFog_82 (by omega) (wok_21 hw) (wnn_21 hw) rfl (by omega) ?_
    refine jw_aload_n (pc := 83) dX5_readFog_83 rfl ?_
    refine jx_getRs (pc := 84) (jf_X5_173_4.r) rfl dX5_readFog_84 rfl (is_90 hS) (by decide) (hR) ?_
    refine jw_dup (pc := 87) dX5_readFog_87 (jis2_r _) ?_
    refine jx_getIs (pc := 88) (jf_X5_363_12.r) rfl dX5_readFog_88 rfl (wis hw) (by decide) (hct) ?_
    refine jw_iconst (pc := 91) dX5_readFog_91 ic_1 ?_
    first | refine jx_iadd (pc := 92) dX5_readFog_92 ?_ | refine jw_iadd (pc := 92) dX5_readFog_92 ?_
    refine jx_putI (pc := 93) jf_X5_363_12 rfl dX5_readFog_93 rfl rfl (wis hw) (by decide) ?_
    refine jw_return (pc := 96) dX5_readFog_96 rfl ?_
    refine ⟨rfl, ?_, (hk.tr ?_).q⟩
    · rw [he]; exact mFog h hlt
    · exact ((mKp.A (by omega) (by omega)).tr (mKp.A (by omega) (by omega))).tr (mKp.W h104)
  · intro h_47
    omega
theorem t_X5_readFog {V : Vt} {p : Nat} (hG : jGs G) (h : mRd M σ n w (.ok (V, p))) (hk : tkK (chI σ n) n p = 2) (hW : jWf V) (hb15 : ∀ k, k < V 0 7 → V 9 k ≤ 15) : jT G mi_X5_readFog 12 [jr (some 90)] M (jPv (fun M' => mRd M' σ n w (lFog (chI σ n) n V p) ∧ mKq M M' w)) := by
  have hS := h.S
  have hR := h.1.2.2.2.2.2.1
  have hV := h.2.2.2.2.1
  have hN9 : V 0 7 ≤ 4 := hW.n.2.2.2.2.2.2.2
  refine jT.of (by decide) rfl (Nat.le_of_ble_eq_true rfl) ?_
  refine jw_aload_n (pc := 0) dX5_readFog_0 rfl ?_
  refine jw_aload_n (pc := 1) dX5_readFog_1 rfl ?_
  refine jx_getRs (pc := 2) (jf_X5_173_4.r) rfl dX5_readFog_2 rfl (is_90 hS) (by decide) (hR) ?_
  refine jx_getIs (pc := 5) (jf_X5_363_12.r) rfl dX5_readFog_5 rfl (wis hV.1) (by decide) (mi_nf hV) ?_
  refine jw_iconst (pc := 8) dX5_readFog_8 ic_4 ?_
  refine jx_cVv (mi1 := mi_X5_begins) (pc := 9) rfl dX5_readFog_9 lk_X5_275 rfl fi_X5_begins rfl rfl rfl (by decide) (is_90 hS) (t_X5_begins h (by rw [hk]; decide) (by omega) (by omega) hN9) (by first | decide | omega) rfl rfl (by decide) ?_
  intro M_9 q_9
  have hS := q_9.1.S
  have hR := q_9.1.1.2.2.2.2.2.1
  have hw := q_9.1.1.2.2.2.2.2.2.1
  obtain ⟨m, hm1, hm2⟩ := q_9.1.1.2.2.2.2.2.2.2 (139, 4) (by decide)
  refine jw_aload_n (pc := 12) dX5_readFog_12 rfl ?_
  refine jw_aload_n (pc := 13) dX5_readFog_13 rfl ?_
  refine jx_getRs (pc := 14) (jf_X5_173_4.r) rfl dX5_readFog_14 rfl (is_90 hS) (by decide) (hR) ?_
  refine jx_getRs (pc := 17) jg_X5_366_12 rfl dX5_readFog_17 rfl (wis hw) (by decide) (wr_20 hw) ?_
  refine jw_aload_n (pc := 20) dX5_readFog_20 rfl ?_
  refine jx_getRs (pc := 21) (jf_X5_173_4.r) rfl dX5_readFog_21 rfl (is_90 hS) (by decide) (hR) ?_
  refine jx_getIs (pc := 24) (jf_X5_363_12.r) rfl dX5_readFog_24 rfl (wis hw) (by decide) (hm2) ?_
  refine jx_cVi (mi1 := mi_X5_readOther) (pc := 27) rfl dX5_readFog_27 lk_X5_316 rfl fi_X5_readOther rfl rfl rfl (by decide) (is_90 hS) (t_X5_readOther (i := 9) (L := 4) (mm := fun V => V 0 7) (a := w + 20) hG q_9.1 (fun M' z => ⟨wok_20 z, wnn_20 z⟩) hm1 (by decide) (fun r e => by
    obtain ⟨V', p'⟩ := r
    have hq := q_9.1
    rw [e] at hq
    have eV := (ln_begin e).1
    subst eV
    have e2 := mi_nf hq.2.2.2.2.1
    show m = V' 0 7
    exact (nI_eq (by omega) (by omega)).mp (hm2.symm.trans e2)) (fun M' V' z k hk => (z.2.2.2.2.2.2.2.2.2 k hk).1) (fun r e k hk => by
    obtain ⟨V', p'⟩ := r
    have eV := (ln_begin e).1
    subst eV
    exact hb15 k hk)) (by first | decide | omega) rfl rfl (by decide) ?_
  intro x_27 M_27 q_27
  have hS := q_27.1.S
  have hT := q_27.1.T
  refine jw_istore_n (pc := 30) dX5_readFog_30 (Nat.le_of_ble_eq_true rfl) rfl ?_
  try dsimp only [jput1, jput2, jkill, jclr, jis2_i, jis2_l, jis2_rs, jis2_rn, cond]
  refine jw_aload_n (pc := 31) dX5_readFog_31 rfl ?_
  refine jw_ldcsW (pc := 32) (js_X5_369) rfl (by decide) dX5_readFog_32 ?_
  refine jw_iconst (pc := 35) dX5_readFog_35 ic_1 ?_
  refine jw_bipush (pc := 36) dX5_readFog_36 bp_99 ?_
  refine jx_cVi (mi1 := mi_X5_readPart) (pc := 38) rfl dX5_readFog_38 lk_X5_253 rfl fi_X5_readPart rfl rfl rfl (by decide) (is_90 hS) (t_X5_readPart hG q_27.1 (hT 20 (by decide) (by decide))) (by first | decide | omega) rfl rfl (by decide) ?_
  intro x_38 M_38 q_38
  obtain ⟨hq, hkq, hval⟩ := q_38
  obtain ⟨lE, lO⟩ := ln_fog q_27.2.2 hval
  cases hs : sP (sP (sB (.ok (V, p)) (fun _ p => pBegin (chI σ n) n (decide (V 0 7 < 4)) 5 p)) (fun V p => pOther (chI σ n) n 9 V (V 0 7) p)) (fun _ p => pAfter (chI σ n) n (kwc 20) (nI 1) (nI 99) p) with
  | error f =>
    rw [hs] at hq
    exact lp_fogE hq ((q_9.2.tr q_27.2.1).tr hkq) (lE f hs)
  | ok r =>
    rw [hs] at hq
    obtain ⟨a, b, p2, z1, z0, z2, z3, z4⟩ := lO r hs
    subst z2
    subst z1
    subst z0
    exact lp_fogO hq ((q_9.2.tr q_27.2.1).tr hkq) z3 z4
theorem ln_errand {c : Nat → Int32} {p : Nat} {V : Vt} {S1 S2 S3 S4 S5 S6 S7 : Except Fl (Vt × Nat)} {x1 x2 x3 x4 x5 : Int32} (d1 : S1 = sB (.ok (V, p)) (fun _ p => pBegin c n (decide (V 0 2 < 5)) 5 p)) (d2 : S2 = sP S1 (fun V p => pKnownN c n 1 V p)) (d3 : S3 = sB S2 (fun _ p => pMust c n (kwc 18) p)) (d4 : S4 = sP S3 (fun V p => pKnownN c n 0 V p)) (d5 : S5 = sP S4 (fun _ p => pAfter c n (kwc 15) (nI 0) (nI 99) p)) (d6 : S6 = sP S5 (fun _ p => pAfter c n (kwc 16) (x3 + nI 1) (nI 99) p)) (d7 : S7 = sP S6 (fun _ p => pAfter c n (kwc 19) (nI 1) (x4 - x3) p))
    (v1 : sX S1 (fun V p => pKnownN c n 1 V p) x1) (v2 : sX S3 (fun V p => pKnownN c n 0 V p) x2) (v3 : sX S4 (fun _ p => pAfter c n (kwc 15) (nI 0) (nI 99) p) x3) (v4 : sX S5 (fun _ p => pAfter c n (kwc 16) (x3 + nI 1) (nI 99) p) x4) (v5 : sX S6 (fun _ p => pAfter c n (kwc 19) (nI 1) (x4 - x3) p) x5) :
    (∀ f, S7 = .error f → lErrand c n V p = .error f) ∧ (∀ r, S7 = .ok r → ∃ a b f t k p2, x1 = nI a ∧ x2 = nI b ∧ x3 = nI f ∧ x4 = nI t ∧ x5 = nI k ∧ r = (V, p2) ∧ V 0 2 < 5 ∧ lErrand c n V p = .ok (vErrand V a b f t k, p2)) := by
  unfold lErrand
  cases h1 : pBegin c n (decide (V 0 2 < 5)) 5 p with
  | error g =>
    subst d7; subst d6; subst d5; subst d4; subst d3; subst d2; subst d1
    simp only [sB, sP, h1, Except.bind]; exact ⟨fun f h => h, fun r h => by cases h⟩
  | ok p1 =>
    have hS1 : S1 = .ok (V, p1) := by rw [d1]; simp only [sB, h1, Except.bind]
    have hlt := (ln_begin (d1.symm.trans hS1)).2
    subst hS1
    cases h2 : pKnownN c n 1 V p1 with
    | error g =>
      subst d7; subst d6; subst d5; subst d4; subst d3; subst d2
      simp only [sB, sP, h2, Except.bind]; exact ⟨fun f h => h, fun r h => by cases h⟩
    | ok q2 =>
      have hS2 : S2 = .ok (V, q2.2) := by rw [d2]; simp only [sP, h2, Except.bind]
      have y1 := v1 _ _ rfl h2
      subst hS2
      cases h3 : pMust c n (kwc 18) q2.2 with
      | error g =>
        subst d7; subst d6; subst d5; subst d4; subst d3
        simp only [sB, sP, h2, h3, Except.bind]; exact ⟨fun f h => h, fun r h => by cases h⟩
      | ok p3 =>
        have hS3 : S3 = .ok (V, p3) := by rw [d3]; simp only [sB, h3, Except.bind]
        subst hS3
        cases h4 : pKnownN c n 0 V p3 with
        | error g =>
          subst d7; subst d6; subst d5; subst d4
          simp only [sP, h2, h3, h4, Except.bind]; exact ⟨fun f h => h, fun r h => by cases h⟩
        | ok q4 =>
          have hS4 : S4 = .ok (V, q4.2) := by rw [d4]; simp only [sP, h4, Except.bind]
          have y2 := v2 _ _ rfl h4
          subst hS4
          cases h5 : pAfter c n (kwc 15) (nI 0) (nI 99) q4.2 with
          | error g =>
            subst d7; subst d6; subst d5
            simp only [sP, h2, h3, h4, h5, Except.bind]; exact ⟨fun f h => h, fun r h => by cases h⟩
          | ok q5 =>
            have hS5 : S5 = .ok (V, q5.2) := by rw [d5]; simp only [sP, h5, Except.bind]
            have y3 := v3 _ _ rfl h5
            subst hS5
            subst y3
            rw [nI_add] at v4 d6
            cases h6 : pAfter c n (kwc 16) (nI (q5.1 + 1)) (nI 99) q5.2 with
            | error g =>
              subst d7; subst d6
              simp only [sP, h2, h3, h4, h5, h6, Except.bind]; exact ⟨fun f h => h, fun r h => by cases h⟩
            | ok q6 =>
              have hS6 : S6 = .ok (V, q6.2) := by rw [d6]; simp only [sP, h6, Except.bind]
              have y4 := v4 _ _ rfl h6
              subst hS6
              subst y4
              cases h7 : pAfter c n (kwc 19) (nI 1) (nI q6.1 - nI q5.1) q6.2 with
              | error g =>
                subst d7
                simp only [sP, h2, h3, h4, h5, h6, h7, Except.bind]; exact ⟨fun f h => h, fun r h => by cases h⟩
              | ok q7 =>
                have y5 := v5 _ _ rfl h7
                subst d7
                simp only [sP, h2, h3, h4, h5, h6, h7, Except.bind]
                exact ⟨fun f h => (by cases h), fun r h => by cases h; exact ⟨q2.1, q4.1, q5.1, q6.1, q7.1, q7.2, y1, y2, rfl, rfl, y5, rfl, of_decide_eq_true hlt, rfl⟩⟩
theorem lp_errE {M9 : Mm} {V : Vt} {p : Nat} {f : Fl} {x1 x2 x3 x4 x : Int32} (h : mRd M σ n w (.error f)) (hk : mKp M9 M w) (he : lErrand (chI σ n) n V p = .error f) : jW G mi_X5_readErrand 12 M9 68 [some (jr (some 90)), some (.int x1), some (.int x2), some (.int x3), some (.int x4), none] [.int x] M (jPv (fun M' => mRd M' σ n w (lErrand (chI σ n) n V p) ∧ mKq M9 M' w)) := by
  have hS := h.S
  refine jw_istore (pc := 68) dX5_readErrand_68 (Nat.le_of_ble_eq_true rfl) rfl ?_
  try dsimp only [jput1, jput2, jkill, jclr, jis2_i, jis2_l, jis2_rs, jis2_rn, cond]
  refine jw_aload_n (pc := 70) dX5_readErrand_70 rfl ?_
  refine jx_getIs (pc := 71) (jf_X5_85_4.r) rfl dX5_readErrand_71 rfl (is_90 hS) (by decide) (h.2.1) ?_
  refine jw_iconst (pc := 74) dX5_readErrand_74 ic_5 ?_
  first | refine jx_icmp_ne (pc := 75) (tgt := 79) dX5_readErrand_75 (by decide) (by omega) (by omega) ?_ ?_ | refine jw_icmp_ne (pc := 75) (tgt := 79) dX5_readErrand_75 (by decide) ?_ ?_
  · intro h_75
    exact absurd rfl h_75
  · intro h_75
    refine jw_return (pc := 78) dX5_readErrand_78 rfl ?_
    exact ⟨rfl, by rw [he]; exact h, hk.q⟩
theorem lp_errO {M9 : Mm} {V : Vt} {p p2 a b f t k9 : Nat} (h : mRd M σ n w (.ok (V, p2))) (hk : mKp M9 M w) (hlt : V 0 2 < 5) (he : lErrand (chI σ n) n V p = .ok (vErrand V a b f t k9, p2)) : jW G mi_X5_readErrand 12 M9 68 [some (jr (some 90)), some (.int (nI a)), some (.int (nI b)), some (.int (nI f)), some (.int (nI t)), none] [.int (nI k9)] M (jPv (fun M' => mRd M' σ n w (lErrand (chI σ n) n V p) ∧ mKq M9 M' w)) := by
  have hS := h.S
  have hR := h.1.2.2.2.2.2.1
  have hV := h.2.2.2.2.1
  have hw := hV.1
  have h104 := hw.2.1
  have hs5 := @srt_lt (tkK (chI σ n) n p2)
  have hct := mi_ne hV
  refine jw_istore (pc := 68) dX5_readErrand_68 (Nat.le_of_ble_eq_true rfl) rfl ?_
  try dsimp only [jput1, jput2, jkill, jclr, jis2_i, jis2_l, jis2_rs, jis2_rn, cond]
  refine jw_aload_n (pc := 70) dX5_readErrand_70 rfl ?_
  refine jx_getIs (pc := 71) (jf_X5_85_4.r) rfl dX5_readErrand_71 rfl (is_90 hS) (by decide) (h.2.2.1.2.1) ?_
  refine jw_iconst (pc := 74) dX5_readErrand_74 ic_5 ?_
  first | refine jx_icmp_ne (pc := 75) (tgt := 79) dX5_readErrand_75 (by decide) (by omega) (by omega) ?_ ?_ | refine jw_icmp_ne (pc := 75) (tgt := 79) dX5_readErrand_75 (by decide) ?_ ?_
  · intro h_75
    refine jw_aload_n (pc := 79) dX5_readErrand_79 rfl ?_
    refine jx_getRs (pc := 80) (jf_X5_173_4.r) rfl dX5_readErrand_80 rfl (is_90 hS) (by decide) (hR) ?_
    refine jx_getRs (pc := 83) jg_X5_349_12 rfl dX5_readErrand_83 rfl (wis hw) (by decide) (wr_15 hw) ?_
    refine jw_aload_n (pc := 86) dX5_readErrand_86 rfl ?_
    refine jx_getRs (pc := 87) (jf_X5_173_4.r) rfl dX5_readErrand_87 rfl (is_90 hS) (by decide) (hR) ?_
    refine jx_getIs (pc := 90) (jf_X5_344_12.r) rfl dX5_readErrand_90 rfl (wis hw) (by decide) (hct) ?_
    refine jw_iload_n (pc := 93) dX5_readErrand_93 rfl ?_
    refine jx_iast (pc := 94) dX5_readErrand_94 (by omega) (wok_15 hw) (wnn_15 hw) rfl (by omega) ?_
    refine jw_aload_n (pc := 95) dX5_readErrand_95 rfl ?_
    refine jx_getRs (pc := 96) (jf_X5_173_4.r) rfl dX5_readErrand_96 rfl (is_90 hS) (by decide) (hR) ?_
    refine jx_getRs (pc := 99) jg_X5_352_12 rfl dX5_readErrand_99 rfl (wis hw) (by decide) (wr_16 hw) ?_
    refine jw_aload_n (pc := 102) dX5_readErrand_102 rfl ?_
    refine jx_getRs (pc := 103) (jf_X5_173_4.r) rfl dX5_readErrand_103 rfl (is_90 hS) (by decide) (hR) ?_
    refine jx_getIs (pc := 106) (jf_X5_344_12.r) rfl dX5_readErrand_106 rfl (wis hw) (by decide) (hct) ?_
    refine jw_iload_n (pc := 109) dX5_readErrand_109 rfl ?_
    refine jx_iast (pc := 110) dX5_readErrand_110 (by omega) (wok_16 hw) (wnn_16 hw) rfl (by omega) ?_
    refine jw_aload_n (pc := 111) dX5_readErrand_111 rfl ?_
    refine jx_getRs (pc := 112) (jf_X5_173_4.r) rfl dX5_readErrand_112 rfl (is_90 hS) (by decide) (hR) ?_
    refine jx_getRs (pc := 115) jg_X5_355_12 rfl dX5_readErrand_115 rfl (wis hw) (by decide) (wr_17 hw) ?_
    refine jw_aload_n (pc := 118) dX5_readErrand_118 rfl ?_
    refine jx_getRs (pc := 119) (jf_X5_173_4.r) rfl dX5_readErrand_119 rfl (is_90 hS) (by decide) (hR) ?_
    refine jx_getIs (pc := 122) (jf_X5_344_12.r) rfl dX5_readErrand_122 rfl (wis hw) (by decide) (hct) ?_
    refine jw_iload_n (pc := 125) dX5_readErrand_125 rfl ?_
    refine jx_iast (pc := 126) dX5_readErrand_126 (by omega) (wok_17 hw) (wnn_17 hw) rfl (by omega) ?_
    refine jw_aload_n (pc := 127) dX5_readErrand_127 rfl ?_
    refine jx_getRs (pc := 128) (jf_X5_173_4.r) rfl dX5_readErrand_128 rfl (is_90 hS) (by decide) (hR) ?_
    refine jx_getRs (pc := 131) jg_X5_358_12 rfl dX5_readErrand_131 rfl (wis hw) (by decide) (wr_18 hw) ?_
    refine jw_aload_n (pc := 134) dX5_readErrand_134 rfl ?_
    refine jx_getRs (pc := 135) (jf_X5_173_4.r) rfl dX5_readErrand_135 rfl (is_90 hS) (by decide) (hR) ?_
    refine jx_getIs (pc := 138) (jf_X5_344_12.r) rfl dX5_readErrand_138 rfl (wis hw) (by decide) (hct) ?_
    refine jw_iload (pc := 141) dX5_readErrand_141 rfl ?_
    refine jx_iast (pc := 143) dX5_readErrand_143 (by omega) (wok_18 hw) (wnn_18 hw) rfl (by omega) ?_
    refine jw_aload_n (pc := 144) dX5_readErrand_144 rfl ?_
    refine jx_getRs (pc := 145) (jf_X5_173_4.r) rfl dX5_readErrand_145 rfl (is_90 hS) (by decide) (hR) ?_
    refine jx_getRs (pc := 148) jg_X5_361_12 rfl dX5_readErrand_148 rfl (wis hw) (by decide) (wr_19 hw) ?_
    refine jw_aload_n (pc := 151) dX5_readErrand_151 rfl ?_
    refine jx_getRs (pc := 152) (jf_X5_173_4.r) rfl dX5_readErrand_152 rfl (is_90 hS) (by decide) (hR) ?_
    refine jx_getIs (pc := 155) (jf_X5_344_12.r) rfl dX5_readErrand_155 rfl (wis hw) (by decide) (hct) ?_
    refine jw_iload (pc := 158) dX5_readErrand_158 rfl ?_
    refine jx_iast (pc := 160) dX5_readErrand_160 (by omega) (wok_19 hw) (wnn_19 hw) rfl (by omega) ?_
    refine jw_aload_n (pc := 161) dX5_readErrand_161 rfl ?_
    refine jx_getRs (pc := 162) (jf_X5_173_4.r) rfl dX5_readErrand_162 rfl (is_90 hS) (by decide) (hR) ?_
    refine jw_dup (pc := 165) dX5_readErrand_165 (jis2_r _) ?_
    refine jx_getIs (pc := 166) (jf_X5_344_12.r) rfl dX5_readErrand_166 rfl (wis hw) (by decide) (hct) ?_
    refine jw_iconst (pc := 169) dX5_readErrand_169 ic_1 ?_
    first | refine jx_iadd (pc := 170) dX5_readErrand_170 ?_ | refine jw_iadd (pc := 170) dX5_readErrand_170 ?_
    refine jx_putI (pc := 171) jf_X5_344_12 rfl dX5_readErrand_171 rfl rfl (wis hw) (by decide) ?_
    refine jw_return (pc := 174) dX5_readErrand_174 rfl ?_
    refine ⟨rfl, ?_, (hk.tr ?_).q⟩
    · rw [he]; exact mErrand h hlt
    · exact (((((mKp.A (by omega) (by omega)).tr (mKp.A (by omega) (by omega))).tr (mKp.A (by omega) (by omega))).tr (mKp.A (by omega) (by omega))).tr (mKp.A (by omega) (by omega))).tr (mKp.W h104)
  · intro h_75
    omega
theorem t_X5_readErrand {V : Vt} {p : Nat} (hG : jGs G) (h : mRd M σ n w (.ok (V, p))) (hk : tkK (chI σ n) n p = 2) (hW : jWf V) : jT G mi_X5_readErrand 12 [jr (some 90)] M (jPv (fun M' => mRd M' σ n w (lErrand (chI σ n) n V p) ∧ mKq M M' w)) := by
  have hS := h.S
  have hR := h.1.2.2.2.2.2.1
  have hV := h.2.2.2.2.1
  have hN9 : V 0 2 ≤ 5 := hW.n.2.2.1
  refine jT.of (by decide) rfl (Nat.le_of_ble_eq_true rfl) ?_
  refine jw_aload_n (pc := 0) dX5_readErrand_0 rfl ?_
  refine jw_aload_n (pc := 1) dX5_readErrand_1 rfl ?_
  refine jx_getRs (pc := 2) (jf_X5_173_4.r) rfl dX5_readErrand_2 rfl (is_90 hS) (by decide) (hR) ?_
  refine jx_getIs (pc := 5) (jf_X5_344_12.r) rfl dX5_readErrand_5 rfl (wis hV.1) (by decide) (mi_ne hV) ?_
  refine jw_iconst (pc := 8) dX5_readErrand_8 ic_5 ?_
  refine jx_cVv (mi1 := mi_X5_begins) (pc := 9) rfl dX5_readErrand_9 lk_X5_275 rfl fi_X5_begins rfl rfl rfl (by decide) (is_90 hS) (t_X5_begins h (by rw [hk]; decide) (by omega) (by omega) hN9) (by first | decide | omega) rfl rfl (by decide) ?_
  intro M_9 q_9
  have hS := q_9.1.S
  refine jw_aload_n (pc := 12) dX5_readErrand_12 rfl ?_
  refine jw_iconst (pc := 13) dX5_readErrand_13 ic_1 ?_
  refine jx_cVi (mi1 := mi_X5_readKnown) (pc := 14) rfl dX5_readErrand_14 lk_X5_199 rfl fi_X5_readKnown rfl rfl rfl (by decide) (is_90 hS) (t_X5_readKnown hG q_9.1 (sort := 1) (by decide)) (by first | decide | omega) rfl rfl (by decide) ?_
  intro x_14 M_14 q_14
  have hS := q_14.1.S
  have hT := q_14.1.T
  refine jw_istore_n (pc := 17) dX5_readErrand_17 (Nat.le_of_ble_eq_true rfl) rfl ?_
  try dsimp only [jput1, jput2, jkill, jclr, jis2_i, jis2_l, jis2_rs, jis2_rn, cond]
  refine jw_aload_n (pc := 18) dX5_readErrand_18 rfl ?_
  refine jw_ldcsW (pc := 19) (js_X5_282) rfl (by decide) dX5_readErrand_19 ?_
  refine jx_cVv (mi1 := mi_X5_must) (pc := 22) rfl dX5_readErrand_22 lk_X5_139 rfl fi_X5_must rfl rfl rfl (by decide) (is_90 hS) (t_X5_must hG q_14.1 (hT 18 (by decide) (by decide))) (by first | decide | omega) rfl rfl (by decide) ?_
  intro M_22 q_22
  have hS := q_22.1.S
  refine jw_aload_n (pc := 25) dX5_readErrand_25 rfl ?_
  refine jw_iconst (pc := 26) dX5_readErrand_26 ic_0 ?_
  refine jx_cVi (mi1 := mi_X5_readKnown) (pc := 27) rfl dX5_readErrand_27 lk_X5_199 rfl fi_X5_readKnown rfl rfl rfl (by decide) (is_90 hS) (t_X5_readKnown hG q_22.1 (sort := 0) (by decide)) (by first | decide | omega) rfl rfl (by decide) ?_
  intro x_27 M_27 q_27
  have hS := q_27.1.S
  have hT := q_27.1.T
  refine jw_istore_n (pc := 30) dX5_readErrand_30 (Nat.le_of_ble_eq_true rfl) rfl ?_
  try dsimp only [jput1, jput2, jkill, jclr, jis2_i, jis2_l, jis2_rs, jis2_rn, cond]
  refine jw_aload_n (pc := 31) dX5_readErrand_31 rfl ?_
  refine jw_ldcsW (pc := 32) (js_X5_263) rfl (by decide) dX5_readErrand_32 ?_
  refine jw_iconst (pc := 35) dX5_readErrand_35 ic_0 ?_
  refine jw_bipush (pc := 36) dX5_readErrand_36 bp_99 ?_
  refine jx_cVi (mi1 := mi_X5_readPart) (pc := 38) rfl dX5_readErrand_38 lk_X5_253 rfl fi_X5_readPart rfl rfl rfl (by decide) (is_90 hS) (t_X5_readPart hG q_27.1 (hT 15 (by decide) (by decide))) (by first | decide | omega) rfl rfl (by decide) ?_
  intro x_38 M_38 q_38
  have hS := q_38.1.S
  have hT := q_38.1.T
  refine jw_istore_n (pc := 41) dX5_readErrand_41 (Nat.le_of_ble_eq_true rfl) rfl ?_
  try dsimp only [jput1, jput2, jkill, jclr, jis2_i, jis2_l, jis2_rs, jis2_rn, cond]
  refine jw_aload_n (pc := 42) dX5_readErrand_42 rfl ?_
  refine jw_ldcsW (pc := 43) (js_X5_267) rfl (by decide) dX5_readErrand_43 ?_
  refine jw_iload_n (pc := 46) dX5_readErrand_46 rfl ?_
  refine jw_iconst (pc := 47) dX5_readErrand_47 ic_1 ?_
  refine jw_iadd (pc := 48) dX5_readErrand_48 ?_
  refine jw_bipush (pc := 49) dX5_readErrand_49 bp_99 ?_
  refine jx_cVi (mi1 := mi_X5_readPart) (pc := 51) rfl dX5_readErrand_51 lk_X5_253 rfl fi_X5_readPart rfl rfl rfl (by decide) (is_90 hS) (t_X5_readPart hG q_38.1 (hT 16 (by decide) (by decide))) (by first | decide | omega) rfl rfl (by decide) ?_
  intro x_51 M_51 q_51
  have hS := q_51.1.S
  have hT := q_51.1.T
  refine jw_istore (pc := 54) dX5_readErrand_54 (Nat.le_of_ble_eq_true rfl) rfl ?_
  try dsimp only [jput1, jput2, jkill, jclr, jis2_i, jis2_l, jis2_rs, jis2_rn, cond]
  refine jw_aload_n (pc := 56) dX5_readErrand_56 rfl ?_
  refine jw_ldcsW (pc := 57) (js_X5_347) rfl (by decide) dX5_readErrand_57 ?_
  refine jw_iconst (pc := 60) dX5_readErrand_60 ic_1 ?_
  refine jw_iload (pc := 61) dX5_readErrand_61 rfl ?_
  refine jw_iload_n (pc := 63) dX5_readErrand_63 rfl ?_
  refine jw_isub (pc := 64) dX5_readErrand_64 ?_
  refine jx_cVi (mi1 := mi_X5_readPart) (pc := 65) rfl dX5_readErrand_65 lk_X5_253 rfl fi_X5_readPart rfl rfl rfl (by decide) (is_90 hS) (t_X5_readPart hG q_51.1 (hT 19 (by decide) (by decide))) (by first | decide | omega) rfl rfl (by decide) ?_
  intro x_65 M_65 q_65
  obtain ⟨hq, hkq, hval⟩ := q_65
  have hkk := ((((((q_9.2.tr q_14.2.1).tr q_22.2).tr q_27.2.1).tr q_38.2.1).tr q_51.2.1).tr hkq)
  obtain ⟨lE, lO⟩ := ln_errand (V := V) (p := p) rfl rfl rfl rfl rfl rfl rfl q_14.2.2 q_27.2.2 q_38.2.2 q_51.2.2 hval
  generalize hs : sP _ (fun _ p => pAfter (chI σ n) n (kwc 19) (nI 1) (x_51 - x_38) p) = S7 at hq lE lO
  cases S7 with
  | error f => exact lp_errE hq hkk (lE f rfl)
  | ok r =>
    obtain ⟨a, b, f, t, k, p2, z1, z2, z3, z4, z5, z6, z7, z8⟩ := lO r rfl
    subst z6
    subst z1
    subst z2
    subst z3
    subst z4
    subst z5
    exact lp_errO hq hkk z7 z8
end JLX
