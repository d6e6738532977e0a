/-! ===== what holds of every valley that is read: the plain law ===== -/
theorem bind_ok {α β : Type} {f : Except Fl α} {g : α → Except Fl β} {r : β} (h : f.bind g = .ok r) : ∃ a, f = .ok a ∧ g a = .ok r := by
  cases f with
  | error e => cases h
  | ok a => exact ⟨a, rfl, h⟩
section VOK
variable {σ : Sg} {n p : Nat} {V : Vt}
theorem pBegin_ok {b : Bool} {f q : Nat} (h : pBegin (chI σ n) n b f p = .ok q) : b = true ∧ q = tkE (chI σ n) n p := by
  cases b with
  | false => cases h
  | true => cases h; exact ⟨rfl, rfl⟩
theorem pMust_ok {w q : Nat} (h : pMust (chI σ n) n w p = .ok q) : q = tkE (chI σ n) n p := by
  unfold pMust at h; split at h <;> cases h; rfl
theorem pSign_ok {s q : Nat} (h : pSign (chI σ n) n s p = .ok q) : q = tkE (chI σ n) n p := by
  unfold pSign at h; split at h <;> cases h; rfl
theorem pNum_ok {lo hi : Int32} {q : Nat × Nat} (h : pNum (chI σ n) n lo hi p = .ok q) : q.2 = tkE (chI σ n) n p := by
  obtain ⟨-, -, e⟩ := pNum_in h; rw [e]
theorem pAfter_ok {w : Nat} {lo hi : Int32} {q : Nat × Nat} (h : pAfter (chI σ n) n w lo hi p = .ok q) : q.2 = tkE (chI σ n) n (tkE (chI σ n) n p) := by
  obtain ⟨p1, h1, h2⟩ := pAfter_in h
  rw [pNum_ok h2, pMust_ok h1]
theorem pKnown_ok {s a : Nat} (h : pKnown (chI σ n) n s V p = .ok a) : nmF V (tkV (chI σ n) n p) < V 0 13 ∧ V 26 (nmF V (tkV (chI σ n) n p)) = s ∧ a = V 27 (nmF V (tkV (chI σ n) n p)) := by
  obtain ⟨t, h1, h2⟩ := bind_ok h
  have e : t = tkV (chI σ n) n p := by unfold pName at h1; split at h1 <;> cases h1; rfl
  subst e
  by_cases z : nmF V (tkV (chI σ n) n p) < V 0 13 ∧ V 26 (nmF V (tkV (chI σ n) n p)) = s
  · rw [if_pos z] at h2; cases h2; exact ⟨z.1, z.2, rfl⟩
  · rw [if_neg z] at h2; cases h2
theorem pKn_0 {a : Nat} (hw : vNw V) (h : pKnown (chI σ n) n 0 V p = .ok a) : a < V 0 0 := by
  obtain ⟨h1, h2, h3⟩ := pKnown_ok h
  rcases hw.2.1 _ h1 with ⟨-, z, -⟩ | ⟨z, -⟩
  · omega
  · omega
theorem pKn_1 {a : Nat} (hw : vNw V) (h : pKnown (chI σ n) n 1 V p = .ok a) : a < V 0 1 := by
  obtain ⟨h1, h2, h3⟩ := pKnown_ok h
  rcases hw.2.1 _ h1 with ⟨z, -⟩ | ⟨-, z, -⟩
  · omega
  · omega
theorem pKnownN_ok {s : Nat} {q : Nat × Nat} (h : pKnownN (chI σ n) n s V p = .ok q) : pKnown (chI σ n) n s V p = .ok q.1 ∧ q.2 = tkE (chI σ n) n p := by
  obtain ⟨a, h1, h2⟩ := bind_ok h
  cases h2; exact ⟨h1, rfl⟩
theorem pFresh_ok {q : Nat × Nat} (h : pFresh (chI σ n) n V p = .ok q) : q.2 = tkE (chI σ n) n p ∧ q.1 = tkV (chI σ n) n p ∧ tkK (chI σ n) n p = 2 ∧ ∀ k, k < V 0 13 → ¬ V 25 k = q.1 := by
  obtain ⟨t, h1, h2⟩ := bind_ok h
  have e : t = tkV (chI σ n) n p ∧ tkK (chI σ n) n p = 2 := by
    unfold pName at h1
    split at h1
    · cases h1; exact ⟨rfl, (‹_ ∧ _›).1⟩
    · cases h1
  obtain ⟨e, e2⟩ := e
  subst e
  by_cases z : nmF V (tkV (chI σ n) n p) < V 0 13
  · rw [if_pos z] at h2; cases h2
  · rw [if_neg z] at h2; cases h2
    exact ⟨rfl, rfl, e2, fun k hk => of_decide_eq_false (fst_all z k hk)⟩
theorem pTwo_ok {s i j many : Nat} {q : Nat × Nat × Nat} (h : pTwo (chI σ n) n s i j V many p = .ok q) : ∃ p1 p2, pKnown (chI σ n) n s V p = .ok q.1 ∧ p1 = tkE (chI σ n) n p ∧ p2 = tkE (chI σ n) n p1 ∧ pKnown (chI σ n) n s V p2 = .ok q.2.1 ∧ q.2.2 = tkE (chI σ n) n p2 ∧ ¬ q.2.1 = q.1 ∧ ∀ k, k < many → ¬ (V i k = q.1 ∧ V j k = q.2.1) ∧ ¬ (V i k = q.2.1 ∧ V j k = q.1) := by
  obtain ⟨a, h1, h⟩ := bind_ok h
  obtain ⟨p2, h2, h⟩ := bind_ok h
  obtain ⟨b, h3, h⟩ := bind_ok h
  obtain ⟨e1, e2⟩ := pKnownN_ok h1
  have e3 := pSign_ok h2
  cases hb : (decide (b = a.1) || anyB many (fun k => (decide (V i k = a.1) && decide (V j k = b)) || (decide (V i k = b) && decide (V j k = a.1)))) with
  | true => rw [hb, if_pos rfl] at h; cases h
  | false =>
    rw [hb, if_neg (by decide)] at h
    cases h
    rw [Bool.or_eq_false_iff] at hb
    refine ⟨a.2, p2, e1, e2, e3, h3, rfl, of_decide_eq_false hb.1, fun k hk => ?_⟩
    have hn : ¬ ((decide (V i k = a.1) && decide (V j k = b)) || (decide (V i k = b) && decide (V j k = a.1))) = true := fun z => by
      have h9 := hb.2
      rw [← Bool.not_eq_true] at h9
      exact h9 (anyB_iff.mpr ⟨k, hk, z⟩)
    refine ⟨fun z => hn ?_, fun z => hn ?_⟩
    · rw [decide_eq_true z.1, decide_eq_true z.2]; rfl
    · rw [decide_eq_true z.1, decide_eq_true z.2]; simp
theorem pOther_ok {i many : Nat} {q : Nat × Nat} (h : pOther (chI σ n) n i V many p = .ok q) : pKnown (chI σ n) n 0 V p = .ok q.1 ∧ q.2 = tkE (chI σ n) n p ∧ ∀ k, k < many → ¬ V i k = q.1 := by
  obtain ⟨a, h1, h⟩ := bind_ok h
  cases hb : anyB many (fun k => decide (V i k = a)) with
  | true => rw [hb, if_pos rfl] at h; cases h
  | false =>
    rw [hb, if_neg (by decide)] at h
    cases h
    refine ⟨h1, rfl, fun k hk z => ?_⟩
    rw [← Bool.not_eq_true] at hb
    exact hb (anyB_iff.mpr ⟨k, hk, decide_eq_true z⟩)
/-! the laws of the valley, line by line -/
theorem wf_law {a b f t s : Nat} (h : jWf V) (ha : a ≤ 19) (hb : b ≤ 19) (hf : f ≤ 99) (ht : t ≤ 99) (hs : s ≤ 99) : jWf (vS (vS (vS (vS (vS V 0 8 a) 0 9 b) 0 10 f) 0 11 t) 0 12 s) := by
  obtain ⟨h1, h2, h3, h4, h5, h6, h7, h8, -, -, -, -, -, r⟩ := h
  exact ⟨h1, h2, h3, h4, h5, h6, h7, h8, ha, hb, hf, ht, hs, r⟩
theorem wf_wall {a b : Nat} (h : jWf V) (hn : V 0 3 < 10) (ha : a < V 0 0) (hb : b < V 0 0) : jWf (vWall V a b) := by
  obtain ⟨h1, h2, h3, h4, h5, h6, h7, h8, h9, h10, h11, h12, h13, g1, g2, g3, g4, g5, g6, g7, g8, g9⟩ := h
  refine ⟨h1, h2, h3, ?_, h5, h6, h7, h8, h9, h10, h11, h12, h13, g1, fun k hk => ?_, g3, g4, g5, g6, g7, g8, g9⟩
  · show V 0 3 + 1 ≤ 10; omega
  · have hk : k < V 0 3 + 1 := hk
    show vWall V a b 4 k < V 0 0 ∧ vWall V a b 5 k < V 0 0
    unfold vWall
    by_cases e : k = V 0 3
    · simp [vS, e]; exact ⟨ha, hb⟩
    · simp [vS, e]; exact g2 k (by omega)
theorem wf_pair {a b : Nat} (h : jWf V) (hn : V 0 6 < 3) (ha : a < V 0 1) (hb : b < V 0 1) : jWf (vPair V a b) := by
  obtain ⟨h1, h2, h3, h4, h5, h6, h7, h8, h9, h10, h11, h12, h13, g1, g2, g3, g4, g5, g6, g7, g8, g9⟩ := h
  refine ⟨h1, h2, h3, h4, h5, h6, ?_, h8, h9, h10, h11, h12, h13, g1, g2, g3, fun k hk => ?_, g5, g6, g7, g8, g9⟩
  · show V 0 6 + 1 ≤ 3; omega
  · have hk : k < V 0 6 + 1 := hk
    show vPair V a b 7 k < V 0 1 ∧ vPair V a b 8 k < V 0 1
    unfold vPair
    by_cases e : k = V 0 6
    · simp [vS, e]; exact ⟨ha, hb⟩
    · simp [vS, e]; exact g4 k (by omega)
theorem wf_mirror {a : Nat} (h : jWf V) (hn : V 0 5 < 4) (ha : a < V 0 0) : jWf (vMirror V a) := by
  obtain ⟨h1, h2, h3, h4, h5, h6, h7, h8, h9, h10, h11, h12, h13, g1, g2, g3, g4, g5, g6, g7, g8, g9⟩ := h
  refine ⟨h1, h2, h3, h4, h5, ?_, h7, h8, h9, h10, h11, h12, h13, g1, g2, fun k hk => ?_, g4, g5, g6, g7, g8, g9⟩
  · show V 0 5 + 1 ≤ 4; omega
  · have hk : k < V 0 5 + 1 := hk
    show vMirror V a 6 k < V 0 0
    unfold vMirror
    by_cases e : k = V 0 5
    · simp [vS, e]; exact ha
    · simp [vS, e]; exact g3 k (by omega)
theorem wf_fog {a b : Nat} (h : jWf V) (hn : V 0 7 < 4) (ha : a < V 0 0) (hb : 1 ≤ b ∧ b ≤ 99) : jWf (vFog V a b) := by
  obtain ⟨h1, h2, h3, h4, h5, h6, h7, h8, h9, h10, h11, h12, h13, g1, g2, g3, g4, g5, g6, g7, g8, g9⟩ := h
  refine ⟨h1, h2, h3, h4, h5, h6, h7, ?_, h9, h10, h11, h12, h13, g1, g2, g3, g4, fun k hk => ?_, g6, g7, g8, g9⟩
  · show V 0 7 + 1 ≤ 4; omega
  · have hk : k < V 0 7 + 1 := hk
    show vFog V a b 9 k < V 0 0 ∧ 1 ≤ vFog V a b 10 k ∧ vFog V a b 10 k ≤ 99
    unfold vFog
    by_cases e : k = V 0 7
    · simp [vS, e]; exact ⟨ha, hb.1, hb.2⟩
    · simp [vS, e]; exact g5 k (by omega)
theorem wf_errand {a b f t k9 : Nat} (h : jWf V) (hn : V 0 2 < 5) (ha : a < V 0 1) (hb : b < V 0 0) (hf : f ≤ 99) (ht : f < t) (ht9 : t ≤ 99) (hk1 : 1 ≤ k9) (hk2 : k9 ≤ t - f) : jWf (vErrand V a b f t k9) := by
  obtain ⟨h1, h2, h3, h4, h5, h6, h7, h8, h9, h10, h11, h12, h13, g1, g2, g3, g4, g5, g6, g7, g8, g9⟩ := h
  refine ⟨h1, h2, ?_, h4, h5, h6, h7, h8, h9, h10, h11, h12, h13, g1, g2, g3, g4, g5, g6, fun k hk => ?_, g8, g9⟩
  · show V 0 2 + 1 ≤ 5; omega
  · have hk : k < V 0 2 + 1 := hk
    show vErrand V a b f t k9 16 k < V 0 1 ∧ vErrand V a b f t k9 17 k < V 0 0 ∧ vErrand V a b f t k9 18 k ≤ 99 ∧ vErrand V a b f t k9 18 k < vErrand V a b f t k9 19 k ∧ vErrand V a b f t k9 19 k ≤ 99 ∧ 1 ≤ vErrand V a b f t k9 20 k ∧ vErrand V a b f t k9 20 k ≤ vErrand V a b f t k9 19 k - vErrand V a b f t k9 18 k
    unfold vErrand
    by_cases e : k = V 0 2
    · simp [vS, e]; exact ⟨ha, hb, hf, ht, ht9, hk1, hk2⟩
    · simp [vS, e]; exact g7 k (by omega)
theorem wf_way {a b : Nat} (h : jWf V) (hn : V 0 4 < 16) (ha : a < V 0 0) (hb : b < V 0 0) (hab : ¬ b = a) : jWf (vWay V a b) := by
  obtain ⟨h1, h2, h3, h4, h5, h6, h7, h8, h9, h10, h11, h12, h13, g1, g2, g3, g4, g5, g6, g7, g8, g9⟩ := h
  have r3 : ∀ c, vWay V a b 3 c = if c = b then V 3 b ||| 2 ^ a else if c = a then V 3 a ||| 2 ^ b else V 3 c := fun c => by
    unfold vWay
    by_cases e : c = b
    · simp [vS, e]
    · by_cases e2 : c = a
      · simp [vS, e, e2, Ne.symm hab]
      · simp [vS, e, e2]
  have r21 : ∀ k, vWay V a b 21 k = if k = V 0 4 then a else V 21 k := fun k => by unfold vWay; by_cases e : k = V 0 4 <;> simp [vS, e]
  have r22 : ∀ k, vWay V a b 22 k = if k = V 0 4 then b else V 22 k := fun k => by unfold vWay; by_cases e : k = V 0 4 <;> simp [vS, e]
  have hpa : 2 ^ a < 2 ^ V 0 0 := Nat.pow_lt_pow_right (by decide) ha
  have hpb : 2 ^ b < 2 ^ V 0 0 := Nat.pow_lt_pow_right (by decide) hb
  have hba : ∀ x y : Nat, (2 ^ x).testBit y = decide (x = y) := fun x y => Nat.testBit_two_pow
  refine ⟨h1, h2, h3, h4, ?_, h6, h7, h8, h9, h10, h11, h12, h13, fun c hc => ?_, g2, g3, g4, g5, g6, g7, fun k hk => ?_, fun c d hc => ?_⟩
  · show V 0 4 + 1 ≤ 16; omega
  · obtain ⟨z1, z2, z3, z4⟩ := g1 c hc
    refine ⟨z1, z2, ?_, ?_⟩
    · show vWay V a b 3 c < 2 ^ V 0 0
      rw [r3]; split
      · exact Nat.or_lt_two_pow (g1 b hb).2.2.1 hpa
      · split
        · exact Nat.or_lt_two_pow (g1 a ha).2.2.1 hpb
        · exact z3
    · rw [r3]; split
      · subst c; rw [Nat.testBit_or, (g1 b hb).2.2.2, hba, decide_eq_false (fun q => hab q.symm)]; rfl
      · split
        · subst c; rw [Nat.testBit_or, (g1 a ha).2.2.2, hba, decide_eq_false hab]; rfl
        · exact z4
  · have hk : k < V 0 4 + 1 := hk
    show vWay V a b 21 k < V 0 0 ∧ vWay V a b 22 k < V 0 0
    rw [r21, r22]
    by_cases e : k = V 0 4
    · rw [if_pos e, if_pos e]; exact ⟨ha, hb⟩
    · rw [if_neg e, if_neg e]; exact g8 k (by omega)
  · have hold := g9 c d hc
    show (vWay V a b 3 c).testBit d = true ↔ ∃ k, k < V 0 4 + 1 ∧ ((vWay V a b 21 k = c ∧ vWay V a b 22 k = d) ∨ (vWay V a b 21 k = d ∧ vWay V a b 22 k = c))
    have hex : (∃ k, k < V 0 4 + 1 ∧ ((vWay V a b 21 k = c ∧ vWay V a b 22 k = d) ∨ (vWay V a b 21 k = d ∧ vWay V a b 22 k = c))) ↔ ((∃ k, k < V 0 4 ∧ ((V 21 k = c ∧ V 22 k = d) ∨ (V 21 k = d ∧ V 22 k = c))) ∨ ((a = c ∧ b = d) ∨ (a = d ∧ b = c))) := by
      constructor
      · rintro ⟨k, k1, k2⟩
        rw [r21, r22] at k2
        by_cases e : k = V 0 4
        · rw [if_pos e, if_pos e] at k2; exact Or.inr k2
        · rw [if_neg e, if_neg e] at k2; exact Or.inl ⟨k, by omega, k2⟩
      · rintro (⟨k, k1, k2⟩ | k2)
        · refine ⟨k, by omega, ?_⟩
          rw [r21, r22, if_neg (by omega), if_neg (by omega)]; exact k2
        · refine ⟨V 0 4, by omega, ?_⟩
          rw [r21, r22, if_pos rfl, if_pos rfl]; exact k2
    rw [hex, ← hold, r3]
    by_cases e1 : c = b
    · subst e1
      rw [if_pos rfl, Nat.testBit_or, Bool.or_eq_true, hba, decide_eq_true_iff]
      constructor
      · rintro (z | z)
        · exact Or.inl z
        · exact Or.inr (Or.inr ⟨z, rfl⟩)
      · rintro (z | ⟨z1, z2⟩ | ⟨z1, z2⟩)
        · exact Or.inl z
        · exact absurd z1.symm hab
        · exact Or.inr z1
    · rw [if_neg e1]
      by_cases e2 : c = a
      · subst e2
        rw [if_pos rfl, Nat.testBit_or, Bool.or_eq_true, hba, decide_eq_true_iff]
        constructor
        · rintro (z | z)
          · exact Or.inl z
          · exact Or.inr (Or.inl ⟨rfl, z⟩)
        · rintro (z | ⟨z1, z2⟩ | ⟨z1, z2⟩)
          · exact Or.inl z
          · exact Or.inr z2
          · exact absurd z2.symm e1
      · rw [if_neg e2]
        constructor
        · exact fun z => Or.inl z
        · rintro (z | ⟨z1, z2⟩ | ⟨z1, z2⟩)
          · exact z
          · exact absurd z1.symm e2
          · exact absurd z2.symm e1
theorem wf_place {u x y : Nat} (h : jWf V) (hn : V 0 0 < 10) (hx : x ≤ 19) (hy : y ≤ 19) : jWf (vPlace V u x y) := by
  obtain ⟨h1, h2, h3, h4, h5, h6, h7, h8, h9, h10, h11, h12, h13, g1, g2, g3, g4, g5, g6, g7, g8, g9⟩ := h
  have r1 : ∀ k, vPlace V u x y 1 k = if k = V 0 0 then x else V 1 k := fun k => by unfold vPlace vName; by_cases e : k = V 0 0 <;> simp [vS, e]
  have r2 : ∀ k, vPlace V u x y 2 k = if k = V 0 0 then y else V 2 k := fun k => by unfold vPlace vName; by_cases e : k = V 0 0 <;> simp [vS, e]
  have r3 : ∀ k, vPlace V u x y 3 k = if k = V 0 0 then 0 else V 3 k := fun k => by unfold vPlace vName; by_cases e : k = V 0 0 <;> simp [vS, e]
  have hp : 2 ^ V 0 0 ≤ 2 ^ (V 0 0 + 1) := Nat.pow_le_pow_right (by decide) (by omega)
  refine ⟨?_, h2, h3, h4, h5, h6, h7, h8, h9, h10, h11, h12, h13, fun c hc => ?_, fun k hk => ?_, fun k hk => ?_, g4, fun k hk => ?_, fun k hk => ?_, fun k hk => ?_, fun k hk => ?_, fun c d hc => ?_⟩
  · show V 0 0 + 1 ≤ 10; omega
  · have hc : c < V 0 0 + 1 := hc
    show vPlace V u x y 1 c ≤ 19 ∧ vPlace V u x y 2 c ≤ 19 ∧ vPlace V u x y 3 c < 2 ^ (V 0 0 + 1) ∧ (vPlace V u x y 3 c).testBit c = false
    rw [r1, r2, r3]
    by_cases e : c = V 0 0
    · rw [if_pos e, if_pos e, if_pos e]; exact ⟨hx, hy, Nat.two_pow_pos _, Nat.zero_testBit _⟩
    · rw [if_neg e, if_neg e, if_neg e]
      obtain ⟨z1, z2, z3, z4⟩ := g1 c (by omega)
      exact ⟨z1, z2, Nat.lt_of_lt_of_le z3 hp, z4⟩
  · exact ⟨Nat.lt_succ_of_lt (g2 k hk).1, Nat.lt_succ_of_lt (g2 k hk).2⟩
  · exact Nat.lt_succ_of_lt (g3 k hk)
  · exact ⟨Nat.lt_succ_of_lt (g5 k hk).1, (g5 k hk).2⟩
  · exact ⟨Nat.lt_succ_of_lt (g6 k hk).1, (g6 k hk).2⟩
  · exact ⟨(g7 k hk).1, Nat.lt_succ_of_lt (g7 k hk).2.1, (g7 k hk).2.2⟩
  · exact ⟨Nat.lt_succ_of_lt (g8 k hk).1, Nat.lt_succ_of_lt (g8 k hk).2⟩
  · have hc : c < V 0 0 + 1 := hc
    show (vPlace V u x y 3 c).testBit d = true ↔ ∃ k, k < V 0 4 ∧ ((V 21 k = c ∧ V 22 k = d) ∨ (V 21 k = d ∧ V 22 k = c))
    rw [r3]
    by_cases e : c = V 0 0
    · rw [if_pos e, Nat.zero_testBit]
      refine ⟨fun z => (by cases z), ?_⟩
      rintro ⟨k, k1, k2⟩
      have := g8 k k1
      omega
    · rw [if_neg e]; exact g9 c d (by omega)
theorem wf_person {u at' bb aw f t : Nat} (h : jWf V) (hn : V 0 1 < 5) (h11' : at' < V 0 0) (h12' : bb ≤ 1) (h13' : aw = 0 ∨ (2 ≤ aw ∧ aw ≤ 9)) (h14' : f ≤ 99) (h15' : t ≤ 99) (h16' : f < t ∨ (f = 0 ∧ t = 0)) : jWf (vPerson V u at' bb aw f t) := by
  obtain ⟨h1, h2, h3, h4, h5, h6, h7, h8, h9, h10, h11, h12, h13, g1, g2, g3, g4, g5, g6, g7, g8, g9⟩ := h
  refine ⟨h1, ?_, h3, h4, h5, h6, h7, h8, h9, h10, h11, h12, h13, g1, g2, g3, fun k hk => ?_, g5, fun k hk => ?_, fun k hk => ?_, g8, g9⟩
  · show V 0 1 + 1 ≤ 5; omega
  · exact ⟨Nat.lt_succ_of_lt (g4 k hk).1, Nat.lt_succ_of_lt (g4 k hk).2⟩
  · have hk : k < V 0 1 + 1 := hk
    show vPerson V u at' bb aw f t 11 k < V 0 0 ∧ vPerson V u at' bb aw f t 12 k ≤ 1 ∧ (vPerson V u at' bb aw f t 13 k = 0 ∨ (2 ≤ vPerson V u at' bb aw f t 13 k ∧ vPerson V u at' bb aw f t 13 k ≤ 9)) ∧ vPerson V u at' bb aw f t 14 k ≤ 99 ∧ vPerson V u at' bb aw f t 15 k ≤ 99 ∧ (vPerson V u at' bb aw f t 14 k < vPerson V u at' bb aw f t 15 k ∨ (vPerson V u at' bb aw f t 14 k = 0 ∧ vPerson V u at' bb aw f t 15 k = 0))
    unfold vPerson vName
    by_cases e : k = V 0 1
    · simp [vS, e]; exact ⟨h11', h12', h13', h14', h15', h16'⟩
    · simp [vS, e]; exact g6 k (by omega)
  · exact ⟨Nat.lt_succ_of_lt (g7 k hk).1, (g7 k hk).2⟩
theorem nw_vp {u x y : Nat} (h : vNw V) (hu : ∀ k, k < V 0 13 → ¬ V 25 k = u) : vNw (vPlace V u x y) := by
  obtain ⟨h1, h2, h3, h4, h5⟩ := h
  have r25 : ∀ k, vPlace V u x y 25 k = if k = V 0 13 then u else V 25 k := fun k => by unfold vPlace vName; by_cases z : k = V 0 13 <;> simp [vS, z]
  have r26 : ∀ k, vPlace V u x y 26 k = if k = V 0 13 then 0 else V 26 k := fun k => by unfold vPlace vName; by_cases z : k = V 0 13 <;> simp [vS, z]
  have r27 : ∀ k, vPlace V u x y 27 k = if k = V 0 13 then V 0 0 else V 27 k := fun k => by unfold vPlace vName; by_cases z : k = V 0 13 <;> simp [vS, z]
  have r23 : ∀ k, vPlace V u x y 23 k = if k = V 0 0 then u else V 23 k := fun k => by unfold vPlace vName; by_cases z : k = V 0 0 <;> simp [vS, z]
  have r24 : ∀ k, vPlace V u x y 24 k = V 24 k := fun k => rfl
  refine ⟨?_, fun k hk => ?_, fun a ha => ?_, fun a ha => ?_, fun j k hj hk e => ?_⟩
  · show V 0 13 + 1 = V 0 0 + 1 + V 0 1; omega
  · have hk : k < V 0 13 + 1 := hk
    show (vPlace V u x y 26 k = 0 ∧ vPlace V u x y 27 k < V 0 0 + 1 ∧ vPlace V u x y 23 (vPlace V u x y 27 k) = vPlace V u x y 25 k) ∨ (vPlace V u x y 26 k = 1 ∧ vPlace V u x y 27 k < V 0 1 ∧ vPlace V u x y 24 (vPlace V u x y 27 k) = vPlace V u x y 25 k)
    rw [r25, r26, r27]
    by_cases e : k = V 0 13
    · rw [if_pos e, if_pos e, if_pos e, r23, if_pos rfl]
      exact Or.inl ⟨rfl, by omega, rfl⟩
    · rw [if_neg e, if_neg e, if_neg e, r23, r24]
      rcases h2 k (by omega) with ⟨z1, z2, z3⟩ | z
      · rw [if_neg (by omega)]; exact Or.inl ⟨z1, by omega, z3⟩
      · exact Or.inr z
  · have ha : a < V 0 0 + 1 := ha
    show ∃ k, k < V 0 13 + 1 ∧ vPlace V u x y 26 k = 0 ∧ vPlace V u x y 27 k = a
    by_cases e : a = V 0 0
    · exact ⟨V 0 13, by omega, by rw [r26, if_pos rfl], by rw [r27, if_pos rfl, e]⟩
    · obtain ⟨k, k1, k2, k3⟩ := h3 a (by omega)
      exact ⟨k, by omega, by rw [r26, if_neg (by omega)]; exact k2, by rw [r27, if_neg (by omega)]; exact k3⟩
  · obtain ⟨k, k1, k2, k3⟩ := h4 a ha
    show ∃ k, k < V 0 13 + 1 ∧ vPlace V u x y 26 k = 1 ∧ vPlace V u x y 27 k = a
    exact ⟨k, by omega, by rw [r26, if_neg (by omega)]; exact k2, by rw [r27, if_neg (by omega)]; exact k3⟩
  · have hj : j < V 0 13 + 1 := hj
    have hk : k < V 0 13 + 1 := hk
    rw [r25, r25] at e
    by_cases e1 : j = V 0 13
    · rw [if_pos e1] at e
      by_cases e2 : k = V 0 13
      · omega
      · rw [if_neg e2] at e; exact absurd e.symm (hu k (by omega))
    · rw [if_neg e1] at e
      by_cases e2 : k = V 0 13
      · rw [if_pos e2] at e; exact absurd e (hu j (by omega))
      · rw [if_neg e2] at e; exact h5 j k (by omega) (by omega) e
theorem nw_vq {u at' bb aw f t : Nat} (h : vNw V) (hu : ∀ k, k < V 0 13 → ¬ V 25 k = u) : vNw (vPerson V u at' bb aw f t) := by
  obtain ⟨h1, h2, h3, h4, h5⟩ := h
  have r25 : ∀ k, vPerson V u at' bb aw f t 25 k = if k = V 0 13 then u else V 25 k := fun k => by unfold vPerson vName; by_cases z : k = V 0 13 <;> simp [vS, z]
  have r26 : ∀ k, vPerson V u at' bb aw f t 26 k = if k = V 0 13 then 1 else V 26 k := fun k => by unfold vPerson vName; by_cases z : k = V 0 13 <;> simp [vS, z]
  have r27 : ∀ k, vPerson V u at' bb aw f t 27 k = if k = V 0 13 then V 0 1 else V 27 k := fun k => by unfold vPerson vName; by_cases z : k = V 0 13 <;> simp [vS, z]
  have r23 : ∀ k, vPerson V u at' bb aw f t 23 k = V 23 k := fun k => rfl
  have r24 : ∀ k, vPerson V u at' bb aw f t 24 k = if k = V 0 1 then u else V 24 k := fun k => by unfold vPerson vName; by_cases z : k = V 0 1 <;> simp [vS, z]
  refine ⟨?_, fun k hk => ?_, fun a ha => ?_, fun a ha => ?_, fun j k hj hk e => ?_⟩
  · show V 0 13 + 1 = V 0 0 + (V 0 1 + 1); omega
  · have hk : k < V 0 13 + 1 := hk
    show (vPerson V u at' bb aw f t 26 k = 0 ∧ vPerson V u at' bb aw f t 27 k < V 0 0 ∧ vPerson V u at' bb aw f t 23 (vPerson V u at' bb aw f t 27 k) = vPerson V u at' bb aw f t 25 k) ∨ (vPerson V u at' bb aw f t 26 k = 1 ∧ vPerson V u at' bb aw f t 27 k < V 0 1 + 1 ∧ vPerson V u at' bb aw f t 24 (vPerson V u at' bb aw f t 27 k) = vPerson V u at' bb aw f t 25 k)
    rw [r25, r26, r27]
    by_cases e : k = V 0 13
    · rw [if_pos e, if_pos e, if_pos e, r24, if_pos rfl]
      exact Or.inr ⟨rfl, by omega, rfl⟩
    · rw [if_neg e, if_neg e, if_neg e, r23, r24]
      rcases h2 k (by omega) with z | ⟨z1, z2, z3⟩
      · exact Or.inl z
      · rw [if_neg (by omega)]; exact Or.inr ⟨z1, by omega, z3⟩
  · obtain ⟨k, k1, k2, k3⟩ := h3 a ha
    show ∃ k, k < V 0 13 + 1 ∧ vPerson V u at' bb aw f t 26 k = 0 ∧ vPerson V u at' bb aw f t 27 k = a
    exact ⟨k, by omega, by rw [r26, if_neg (by omega)]; exact k2, by rw [r27, if_neg (by omega)]; exact k3⟩
  · have ha : a < V 0 1 + 1 := ha
    show ∃ k, k < V 0 13 + 1 ∧ vPerson V u at' bb aw f t 26 k = 1 ∧ vPerson V u at' bb aw f t 27 k = a
    by_cases e : a = V 0 1
    · exact ⟨V 0 13, by omega, by rw [r26, if_pos rfl], by rw [r27, if_pos rfl, e]⟩
    · obtain ⟨k, k1, k2, k3⟩ := h4 a (by omega)
      exact ⟨k, by omega, by rw [r26, if_neg (by omega)]; exact k2, by rw [r27, if_neg (by omega)]; exact k3⟩
  · have hj : j < V 0 13 + 1 := hj
    have hk : k < V 0 13 + 1 := hk
    rw [r25, r25] at e
    by_cases e1 : j = V 0 13
    · rw [if_pos e1] at e
      by_cases e2 : k = V 0 13
      · omega
      · rw [if_neg e2] at e; exact absurd e.symm (hu k (by omega))
    · rw [if_neg e1] at e
      by_cases e2 : k = V 0 13
      · rw [if_pos e2] at e; exact absurd e (hu j (by omega))
      · rw [if_neg e2] at e; exact h5 j k (by omega) (by omega) e
end VOK
