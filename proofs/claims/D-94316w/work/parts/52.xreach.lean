/-! ===== x: which states can be come to ===== -/
def allG (M : Mm) (V : Vt) (σ : Sg) (people s j : Nat) : Nat → Int32 := fun p => if p < V 0 1 then (if people.testBit p = true ∧ cnt people - j ≤ cntN people p then nI (dig (V 0 0) (cnt people) s (cntN people p)) else nI (sa σ 0 p)) else jm_A M 79 p
theorem cntN_bit {people q p : Nat} (h5 : people < 32) (hq : q ≤ 5) (hp : people < 2 ^ q) (hpq : p < q) (hb : people.testBit p = true) : cntN people p < cnt people := by
  have h1 := cntN_all people h5 q hq hp
  have h2 := cntN_s people p
  rw [hb, if_pos rfl] at h2
  have h3 := cntN_mono people (show p + 1 ≤ q from hpq)
  omega
theorem allG_s {M : Mm} {V : Vt} {σ : Sg} {people s j : Nat} (hw : jWf V) (hp : people < 2 ^ V 0 1) (hj : j < cnt people) : js_A (js_As M 79 (allG M V σ people s j)) 79 (mvP people (cnt people - j - 1)) (nI (s / V 0 0 ^ j % V 0 0)) = js_As M 79 (allG M V σ people s (j + 1)) := by
  have h5 := mv_n hw hp
  obtain ⟨v1, v2, v3⟩ := mv_ok h5 (show cnt people - j - 1 < cnt people by omega)
  have hm := bit_lt hp v2
  rw [jAs_A]
  refine jAs_cg (fun p => ?_)
  unfold allG
  by_cases e : p = mvP people (cnt people - j - 1)
  · rw [if_pos e, if_pos (by omega), e, if_pos ⟨v2, by omega⟩, v3]
    unfold dig
    rw [show cnt people - 1 - (cnt people - j - 1) = j by omega]
  · rw [if_neg e]
    by_cases e1 : p < V 0 1
    · rw [if_pos e1, if_pos e1]
      by_cases e2 : people.testBit p = true ∧ cnt people - j ≤ cntN people p
      · rw [if_pos e2, if_pos ⟨e2.1, by omega⟩]
      · rw [if_neg e2, if_neg (fun q => ?_)]
        have : cntN people p = cnt people - j - 1 := by
          have := q.2
          have : ¬ cnt people - j ≤ cntN people p := fun z => e2 ⟨q.1, z⟩
          omega
        have h9 := nth_of people h5 p (by have := wf_nq hw; omega) q.1
        rw [this] at h9
        exact e h9.symm
    · rw [if_neg e1, if_neg e1]
theorem allG_r {M : Mm} {V : Vt} {σ : Sg} {people s p : Nat} (hp : p < V 0 1) : jm_A (js_As M 79 (allG M V σ people s (cnt people))) 79 p = nI (plS V σ people s p) := by
  rw [jA_rd]
  unfold allG plS
  rw [if_pos hp]
  by_cases e : people.testBit p = true
  · rw [if_pos ⟨e, by omega⟩, if_pos ⟨hp, e⟩]
  · rw [if_neg (fun q => e q.1), if_neg (fun q => e q.2)]
theorem plS_lt {V : Vt} {σ : Sg} {people s p : Nat} (h0 : 0 < V 0 0) (ho : ∀ p, p < V 0 1 → sa σ 0 p < V 0 0) (hp : p < V 0 1) : plS V σ people s p < V 0 0 := by
  unfold plS
  split
  · exact dig_lt h0
  · exact ho p hp
def cndB (V : Vt) (people : Nat) (F : Nat → Nat) (k sofar b : Nat) : Bool := decide (b / V 0 0 ^ (cnt people - k) = sofar) && allB (cnt people) (fun j => decide (j < k) || linkB V (F j) (dig (V 0 0) (cnt people) b j))
theorem cnd_iff {V : Vt} {people : Nat} {F : Nat → Nat} {k sofar b : Nat} : cndB V people F k sofar b = true ↔ b / V 0 0 ^ (cnt people - k) = sofar ∧ ∀ j, k ≤ j → j < cnt people → linkB V (F j) (dig (V 0 0) (cnt people) b j) = true := by
  unfold cndB
  rw [Bool.and_eq_true, decide_eq_true_eq, allB_iff]
  constructor
  · rintro ⟨h1, h2⟩
    refine ⟨h1, fun j h3 h4 => ?_⟩
    have := h2 j h4
    rw [decide_eq_false (by omega), Bool.false_or] at this
    exact this
  · rintro ⟨h1, h2⟩
    refine ⟨h1, fun j h4 => ?_⟩
    by_cases e : j < k
    · rw [decide_eq_true e]; rfl
    · rw [h2 j (by omega) h4, Bool.or_true]
theorem cnd_split {V : Vt} {people : Nat} {F : Nat → Nat} {k sofar p b : Nat} (hk : k < cnt people) (hp : p < V 0 0) : cndB V people F (k + 1) (sofar * V 0 0 + p) b = true ↔ b / V 0 0 ^ (cnt people - k) = sofar ∧ dig (V 0 0) (cnt people) b k = p ∧ ∀ j, k < j → j < cnt people → linkB V (F j) (dig (V 0 0) (cnt people) b j) = true := by
  have h0 : 0 < V 0 0 := by omega
  rw [cnd_iff]
  have e1 : b / V 0 0 ^ (cnt people - k) = b / V 0 0 ^ (cnt people - 1 - k) / V 0 0 := by rw [show cnt people - k = (cnt people - 1 - k) + 1 by omega, ← dvP]
  have e2 : cnt people - (k + 1) = cnt people - 1 - k := by omega
  have e3 : dig (V 0 0) (cnt people) b k = b / V 0 0 ^ (cnt people - 1 - k) % V 0 0 := rfl
  rw [e1, e2, e3]
  generalize b / V 0 0 ^ (cnt people - 1 - k) = q
  constructor
  · rintro ⟨h1, h2⟩
    refine ⟨?_, ?_, fun j h3 h4 => h2 j h3 h4⟩
    · rw [h1, Nat.mul_comm, Nat.mul_add_div h0, Nat.div_eq_of_lt hp, Nat.add_zero]
    · rw [h1, Nat.mul_comm, Nat.mul_add_mod, Nat.mod_eq_of_lt hp]
  · rintro ⟨h1, h2, h3⟩
    refine ⟨?_, fun j h4 h5 => h3 j h4 h5⟩
    rw [← h1, ← h2, Nat.mul_comm]
    exact (Nat.div_add_mod q (V 0 0)).symm
def goR (V : Vt) (people : Nat) (F : Nat → Nat) (k sofar i : Nat) (R L : Nat → Nat → Bool) : Nat → Nat → Bool := fun i' s => R i' s || (decide (i' = i + 1) && cndB V people F k sofar s && L i' s)
def goP (V : Vt) (people : Nat) (F : Nat → Nat) (k sofar i : Nat) (R L : Nat → Nat → Bool) (p : Nat) : Nat → Nat → Bool := fun i' s => R i' s || (decide (i' = i + 1) && cndB V people F k sofar s && decide (dig (V 0 0) (cnt people) s k < p) && L i' s)
theorem goR_iff {V : Vt} {people : Nat} {F : Nat → Nat} {k sofar i i' s : Nat} {R L : Nat → Nat → Bool} : goR V people F k sofar i R L i' s = true ↔ R i' s = true ∨ ((i' = i + 1 ∧ cndB V people F k sofar s = true) ∧ L i' s = true) := by
  unfold goR; simp only [Bool.or_eq_true, Bool.and_eq_true, decide_eq_true_eq]
theorem goP_iff {V : Vt} {people : Nat} {F : Nat → Nat} {k sofar i i' s p : Nat} {R L : Nat → Nat → Bool} : goP V people F k sofar i R L p i' s = true ↔ R i' s = true ∨ (((i' = i + 1 ∧ cndB V people F k sofar s = true) ∧ dig (V 0 0) (cnt people) s k < p) ∧ L i' s = true) := by
  unfold goP; simp only [Bool.or_eq_true, Bool.and_eq_true, decide_eq_true_eq]
theorem goP_0 {V : Vt} {people : Nat} {F : Nat → Nat} {k sofar i i' s : Nat} {R L : Nat → Nat → Bool} : goP V people F k sofar i R L 0 i' s = R i' s := by
  rw [Bool.eq_iff_iff, goP_iff]
  constructor
  · rintro (h | ⟨⟨-, h⟩, -⟩)
    · exact h
    · omega
  · exact Or.inl
theorem goP_end {V : Vt} {people : Nat} {F : Nat → Nat} {k sofar i i' s : Nat} {R L : Nat → Nat → Bool} (h0 : 0 < V 0 0) : goP V people F k sofar i R L (V 0 0) i' s = goR V people F k sofar i R L i' s := by
  rw [Bool.eq_iff_iff, goP_iff, goR_iff]
  constructor
  · rintro (h | ⟨⟨h, -⟩, h3⟩)
    · exact Or.inl h
    · exact Or.inr ⟨h, h3⟩
  · rintro (h | ⟨h, h3⟩)
    · exact Or.inl h
    · exact Or.inr ⟨⟨h, dig_lt h0⟩, h3⟩
theorem goP_s {V : Vt} {people : Nat} {F : Nat → Nat} {k sofar i i' s p : Nat} {R L : Nat → Nat → Bool} (hk : k < cnt people) (hp : p < V 0 0) (hl : linkB V (F k) p = true) : goR V people F (k + 1) (sofar * V 0 0 + p) i (goP V people F k sofar i R L p) L i' s = goP V people F k sofar i R L (p + 1) i' s := by
  rw [Bool.eq_iff_iff, goR_iff, goP_iff, goP_iff, cnd_split hk hp, cnd_iff]
  constructor
  · rintro ((h | ⟨⟨h, h2⟩, h3⟩) | ⟨⟨h, h2, h3, h4⟩, h5⟩)
    · exact Or.inl h
    · exact Or.inr ⟨⟨h, by omega⟩, h3⟩
    · refine Or.inr ⟨⟨⟨h, h2, fun j q1 q2 => ?_⟩, by omega⟩, h5⟩
      by_cases e : j = k
      · subst e; rw [h3]; exact hl
      · exact h4 j (by omega) q2
  · rintro (h | ⟨⟨⟨h, h2, h3⟩, h4⟩, h5⟩)
    · exact Or.inl (Or.inl h)
    · by_cases e : dig (V 0 0) (cnt people) s k = p
      · exact Or.inr ⟨⟨h, h2, e, fun j q1 q2 => h3 j (by omega) q2⟩, h5⟩
      · exact Or.inl (Or.inr ⟨⟨⟨h, h2, h3⟩, by omega⟩, h5⟩)
theorem goP_n {V : Vt} {people : Nat} {F : Nat → Nat} {k sofar i i' s p : Nat} {R L : Nat → Nat → Bool} (hk : k < cnt people) (hl : linkB V (F k) p = false) : goP V people F k sofar i R L p i' s = goP V people F k sofar i R L (p + 1) i' s := by
  rw [Bool.eq_iff_iff, goP_iff, goP_iff, cnd_iff]
  constructor
  · rintro (h | ⟨⟨h, h2⟩, h3⟩)
    · exact Or.inl h
    · exact Or.inr ⟨⟨h, by omega⟩, h3⟩
  · rintro (h | ⟨⟨⟨h, h2, h3⟩, h4⟩, h5⟩)
    · exact Or.inl h
    · refine Or.inr ⟨⟨⟨h, h2, h3⟩, ?_⟩, h5⟩
      have : dig (V 0 0) (cnt people) s k ≠ p := fun e => by
        have := h3 k (Nat.le_refl _) hk
        rw [e, hl] at this; cases this
      omega
/-- a row of truths by steps and states -/
def jRw (M : Mm) (a N : Nat) (R : Nat → Nat → Bool) : Prop := ∀ i s, i ≤ 30 → s < N → jm_A M a (1000 * i + s) = jb (R i s)
theorem jRw.fr {E : Nat → Prop} {M M1 : Mm} {a N : Nat} {R : Nat → Nat → Bool} (h : jRw M a N R) (ha : a < 104) (hS : jSh M) (g : jsm E M M1) (hE : ¬ E a) : jRw M1 a N R := fun i s hi hs => by
  have hz := hS.2.2.2
  exact ((g.2.2 a (by omega) hE).2.2.2.2.2.1 _).trans (h i s hi hs)
def jGo (M : Mm) (σ : Sg) (V : Vt) (people : Nat) (F : Nat → Nat) (L : Nat → Nat → Bool) : Prop := jXx M σ ∧ jMv M V people ∧ (∀ j, j < cnt people → jm_A M 82 j = nI (F j) ∧ F j < V 0 0) ∧ jRw M 84 (V 0 0 ^ cnt people) L
theorem jGo.fr {M M1 : Mm} {σ : Sg} {V : Vt} {people : Nat} {F : Nat → Nat} {L : Nat → Nat → Bool} (h : jGo M σ V people F L) (g : jsm (fun a => a = 85) M M1) (hS : jSh M1) : jGo M1 σ V people F L := by
  obtain ⟨h1, h2, h3, h4⟩ := h
  have hE : ∀ a, a = 85 → mvE a := fun a q => by unfold mvE; omega
  have hz := h1.1.2.2.2
  exact ⟨h1.mv g hE hS, h2.fr h1.1 g hE, fun j hj => ⟨((g.2.2 82 (by omega) (by decide)).2.2.2.2.2.1 _).trans (h3 j hj).1, (h3 j hj).2⟩, h4.fr (by decide) h1.1 g (by decide)⟩
section JXR
variable {G : Gh} {M : Mm} {σ : Sg}
theorem t_X1_allIn {people s : Nat} {V : Vt} (h : jXx M σ) (hv9 : sv σ = some V) (hm : jMv M V people) (hP : 1 ≤ V 0 0) (hsl : s < 2 ^ 30) : jE G mi_X1_allIn 1 [jr (some 64), .int (nI s)] M (some (jr (some 79))) (js_As M 79 (allG M V σ people s (cnt people))) := by
  have hS := h.1
  obtain ⟨v, hs, hN⟩ := h.so hv9
  have hv := hs.s
  have hnq := wf_nq hs.w
  have hnp := wf_np hs.w
  obtain ⟨⟨m1, m2⟩, m3, m4, m5⟩ := hm
  have hp5 := mv_n hs.w m1
  refine jE.of (by decide) rfl (Nat.le_of_ble_eq_true rfl) ?_
  have J2 : ∀ j : Nat, j ≤ cnt people → jW G mi_X1_allIn 1 M 40 [some (jr (some 64)), some (.int (nI s)), some (.int (nI (s / V 0 0 ^ j))), some (.int (nI (cnt people - j) - nI 1))] [] (js_As M 79 (allG M V σ people s j)) (fun z M' => z = .inl (some (jr (some 79))) ∧ M' = js_As M 79 (allG M V σ people s (cnt people))) := by
    refine jW.loop _ (fun j => cnt people - j) _ (fun _ => []) (fun j => js_As M 79 (allG M V σ people s j)) (fun j hj ih => ?_)
    have hl : s / V 0 0 ^ j < 2 ^ 30 := Nat.lt_of_le_of_lt (Nat.div_le_self _ _) hsl
    by_cases hkn : j < cnt people
    · have e9 := zdec (a := cnt people - j) (by omega)
      rw [sub1 (by omega)] at e9
      rw [sub1 (by omega)]
      obtain ⟨v1, v2, v3⟩ := mv_ok hp5 (show cnt people - j - 1 < cnt people by omega)
      have hmq := bit_lt m1 v2
      refine jw_iload_n (pc := 40) dX1_allIn_40 rfl ?_
      refine jw_if_lt (pc := 41) (tgt := 80) dX1_allIn_41 (by decide) ?_ ?_
      · intro h_41
        exact absurd h_41 (nI_nn (by omega))
      · intro h_41
        refine jw_aload_n (pc := 44) dX1_allIn_44 rfl ?_
        refine jx_getRs (pc := 45) (jf_X1_43_0.r) rfl dX1_allIn_45 rfl (is_64 hS) (by decide) (sr_64_11 hS) ?_
        refine jw_aload_n (pc := 48) dX1_allIn_48 rfl ?_
        refine jx_getRs (pc := 49) (jf_X1_49_0.r) rfl dX1_allIn_49 rfl (is_64 hS) (by decide) (sr_64_16 hS) ?_
        refine jw_iload_n (pc := 52) dX1_allIn_52 rfl ?_
        refine jx_ialds (pc := 53) dX1_allIn_53 (ok_81 hS) (nn_81 hS) rfl (by omega) ((jA_rn (by decide)).trans (m5 _ (by omega))) ?_
        refine jw_iload_n (pc := 54) dX1_allIn_54 rfl ?_
        refine jw_aload_n (pc := 55) dX1_allIn_55 rfl ?_
        refine jx_getRs (pc := 56) (jf_X1_109_0.r) rfl dX1_allIn_56 rfl (is_64 hS) (by decide) (hs.r) ?_
        refine jx_getIs (pc := 59) (jf_X1_150_5.r) rfl dX1_allIn_59 rfl (vis hv) (by decide) ((show jm_I M v 97 = nI (V 0 0) from xi_np hs.V)) ?_
        refine jw_irem (pc := 62) dX1_allIn_62 (ne_nI (by omega) (by omega)) ?_
        rw [i_rem (by omega) (by omega) (by omega)]
        refine jx_iast (pc := 63) dX1_allIn_63 (by decide) (ok_79 hS) (nn_79 hS) rfl (by omega) ?_
        rw [allG_s hs.w m1 hkn]
        refine jw_iload_n (pc := 64) dX1_allIn_64 rfl ?_
        refine jw_aload_n (pc := 65) dX1_allIn_65 rfl ?_
        refine jx_getRs (pc := 66) (jf_X1_109_0.r) rfl dX1_allIn_66 rfl (is_64 hS) (by decide) (hs.r) ?_
        refine jx_getIs (pc := 69) (jf_X1_150_5.r) rfl dX1_allIn_69 rfl (vis hv) (by decide) ((show jm_I M v 97 = nI (V 0 0) from xi_np hs.V)) ?_
        refine jw_idiv (pc := 72) dX1_allIn_72 (ne_nI (by omega) (by omega)) ?_
        rw [i_div (by omega) (by omega) (by omega), dvP]
        refine jw_istore_n (pc := 73) dX1_allIn_73 (Nat.le_of_ble_eq_true rfl) rfl ?_
        try dsimp only [jput1, jput2, jkill, jclr, jis2_i, jis2_l, jis2_rs, jis2_rn, cond]
        refine jw_iinc (pc := 74) dX1_allIn_74 rfl rfl rfl ?_
        try dsimp only [jput1, jkill, jclr, jis2_i, jis2_l, jis2_rs, jis2_rn, cond]
        refine jw_goto (pc := 77) (tgt := 40) dX1_allIn_77 (by decide) ?_
        refine jW.eq ?_ rfl rfl (ih (j + 1) hkn (by omega))
        rw [e9, show cnt people - (j + 1) = cnt people - j - 1 by omega]
    · have hk' : j = cnt people := by omega
      subst hk'
      refine jw_iload_n (pc := 40) dX1_allIn_40 rfl ?_
      refine jw_if_lt (pc := 41) (tgt := 80) dX1_allIn_41 (by decide) ?_ ?_
      · intro h_41
        refine jw_aload_n (pc := 80) dX1_allIn_80 rfl ?_
        refine jx_getRs (pc := 81) (jf_X1_43_0.r) rfl dX1_allIn_81 rfl (is_64 hS) (by decide) (sr_64_11 hS) ?_
        refine jw_areturn (pc := 84) dX1_allIn_84 rfl (Or.inr ⟨_, rfl⟩) ?_
        exact ⟨rfl, rfl⟩
      · intro h_41
        exact absurd (by rw [Nat.sub_self]; decide +kernel) h_41
  have J1 : ∀ k : Nat, k ≤ V 0 1 → jW G mi_X1_allIn 1 M 2 [some (jr (some 64)), some (.int (nI s)), some (.int (nI k)), none] [] (js_As M 79 (fun p => if p < k then nI (sa σ 0 p) else jm_A M 79 p)) (fun z M' => z = .inl (some (jr (some 79))) ∧ M' = js_As M 79 (allG M V σ people s (cnt people))) := by
    refine jW.loop _ (fun k => V 0 1 - k) _ (fun _ => []) (fun k => js_As M 79 (fun p => if p < k then nI (sa σ 0 p) else jm_A M 79 p)) (fun k hk ih => ?_)
    by_cases hkn : k < V 0 1
    ·
      refine jw_iload_n (pc := 2) dX1_allIn_2 rfl ?_
      refine jw_aload_n (pc := 3) dX1_allIn_3 rfl ?_
      refine jx_getRs (pc := 4) (jf_X1_109_0.r) rfl dX1_allIn_4 rfl (is_64 hS) (by decide) (hs.r) ?_
      refine jx_getIs (pc := 7) (jf_X1_137_5.r) rfl dX1_allIn_7 rfl (vis hv) (by decide) ((show jm_I M v 98 = nI (V 0 1) from xi_nq hs.V)) ?_
      first | refine jx_icmp_ge (pc := 10) (tgt := 31) dX1_allIn_10 (by decide) (by omega) (by omega) ?_ ?_ | refine jw_icmp_ge (pc := 10) (tgt := 31) dX1_allIn_10 (by decide) ?_ ?_
      · intro h_10
        omega
      · intro h_10
        refine jw_aload_n (pc := 13) dX1_allIn_13 rfl ?_
        refine jx_getRs (pc := 14) (jf_X1_43_0.r) rfl dX1_allIn_14 rfl (is_64 hS) (by decide) (sr_64_11 hS) ?_
        refine jw_iload_n (pc := 17) dX1_allIn_17 rfl ?_
        refine jw_aload_n (pc := 18) dX1_allIn_18 rfl ?_
        refine jx_getRs (pc := 19) (jf_X1_39_0.r) rfl dX1_allIn_19 rfl (is_64 hS) (by decide) (sr_64_10 hS) ?_
        refine jw_iload_n (pc := 22) dX1_allIn_22 rfl ?_
        refine jx_ialds (pc := 23) dX1_allIn_23 (ok_78 hS) (nn_78 hS) rfl (by omega) ((jA_rn (by decide)).trans (hN.2.2.2.1 k hkn)) ?_
        refine jx_iast (pc := 24) dX1_allIn_24 (by decide) (ok_79 hS) (nn_79 hS) rfl (by omega) ?_
        first | refine jx_iinc (pc := 25) dX1_allIn_25 rfl rfl ?_ | refine jw_iinc (pc := 25) dX1_allIn_25 rfl rfl rfl ?_
        try dsimp only [jput1, jkill, jclr, jis2_i, jis2_l, jis2_rs, jis2_rn, cond]
        refine jw_goto (pc := 28) (tgt := 2) dX1_allIn_28 (by decide) ?_
        refine jW.eq rfl rfl ?_ (ih (k + 1) hkn (by omega))
        rw [jAs_A]
        refine jAs_cg (fun i => ?_)
        by_cases e : i = k
        · rw [if_pos e, if_pos (by omega), e]
        · rw [if_neg e]
          by_cases e2 : i < k
          · rw [if_pos e2, if_pos (by omega)]
          · rw [if_neg e2, if_neg (by omega)]
    · have hk' : k = V 0 1 := by omega
      subst hk'
      have e0 : js_As M 79 (allG M V σ people s 0) = js_As M 79 (fun p => if p < V 0 1 then nI (sa σ 0 p) else jm_A M 79 p) := by
        refine jAs_cg (fun p => ?_)
        unfold allG
        by_cases e1 : p < V 0 1
        · rw [if_pos e1, if_pos e1, if_neg (fun q => by have := cntN_bit hp5 hnq m1 e1 q.1; omega)]
        · rw [if_neg e1, if_neg e1]
      refine jw_iload_n (pc := 2) dX1_allIn_2 rfl ?_
      refine jw_aload_n (pc := 3) dX1_allIn_3 rfl ?_
      refine jx_getRs (pc := 4) (jf_X1_109_0.r) rfl dX1_allIn_4 rfl (is_64 hS) (by decide) (hs.r) ?_
      refine jx_getIs (pc := 7) (jf_X1_137_5.r) rfl dX1_allIn_7 rfl (vis hv) (by decide) ((show jm_I M v 98 = nI (V 0 1) from xi_nq hs.V)) ?_
      first | refine jx_icmp_ge (pc := 10) (tgt := 31) dX1_allIn_10 (by decide) (by omega) (by omega) ?_ ?_ | refine jw_icmp_ge (pc := 10) (tgt := 31) dX1_allIn_10 (by decide) ?_ ?_
      · intro h_10
        refine jw_iload_n (pc := 31) dX1_allIn_31 rfl ?_
        refine jw_istore_n (pc := 32) dX1_allIn_32 (Nat.le_of_ble_eq_true rfl) rfl ?_
        try dsimp only [jput1, jput2, jkill, jclr, jis2_i, jis2_l, jis2_rs, jis2_rn, cond]
        refine jw_aload_n (pc := 33) dX1_allIn_33 rfl ?_
        refine jx_getIs (pc := 34) (jf_X1_287_0.r) rfl dX1_allIn_34 rfl (is_64 hS) (by decide) (m3) ?_
        refine jw_iconst (pc := 37) dX1_allIn_37 ic_1 ?_
        refine jw_isub (pc := 38) dX1_allIn_38 ?_
        refine jw_istore_n (pc := 39) dX1_allIn_39 (Nat.le_of_ble_eq_true rfl) rfl ?_
        try dsimp only [jput1, jput2, jkill, jclr, jis2_i, jis2_l, jis2_rs, jis2_rn, cond]
        refine jW.eq ?_ rfl e0 (J2 0 (Nat.zero_le _))
        rw [Nat.pow_zero, Nat.div_one, Nat.sub_zero]
      · intro h_10
        omega
  refine jw_iconst (pc := 0) dX1_allIn_0 ic_0 ?_
  refine jw_istore_n (pc := 1) dX1_allIn_1 (Nat.le_of_ble_eq_true rfl) rfl ?_
  try dsimp only [jput1, jput2, jkill, jclr, jis2_i, jis2_l, jis2_rs, jis2_rn, cond]
  refine jW.eq rfl rfl ?_ (J1 0 (Nat.zero_le _))
  exact jAs_0 (fun i => by rw [if_neg (Nat.not_lt_zero _)])
theorem t_X1_goesOn {people i : Nat} {V : Vt} {F : Nat → Nat} {L : Nat → Nat → Bool} (hv9 : sv σ = some V) (hi : i ≤ 29) : ∀ (m k sofar : Nat) (M : Mm) (R : Nat → Nat → Bool), k + m = cnt people → sofar < V 0 0 ^ k → jGo M σ V people F L → jRw M 85 (V 0 0 ^ cnt people) R → jT G mi_X1_goesOn (3 + m) [jr (some 64), .int (nI k), .int (nI sofar), .int (nI i)] M (jPv (fun M' => jsm (fun a => a = 85) M M' ∧ jSh M' ∧ jRw M' 85 (V 0 0 ^ cnt people) (goR V people F k sofar i R L))) := by
  intro m
  induction m with
  | zero =>
    intro k sofar M R hk hso hg hR
    obtain ⟨hX, ⟨⟨m1, m2⟩, m3, m4, m5⟩, hF, hL⟩ := hg
    have hS := hX.1
    have hk' : k = cnt people := by omega
    subst hk'
    have hw9 := (hX.2.1.2 V hv9).1
    have h1000 := pw3 (wf_np hw9) m2
    have hfin : ∀ b : Bool, b = (R (i + 1) sofar || L (i + 1) sofar) → jsm (fun a => a = 85) M (js_A M 85 (1000 * (i + 1) + sofar) (jb b)) ∧ jSh (js_A M 85 (1000 * (i + 1) + sofar) (jb b)) ∧ jRw (js_A M 85 (1000 * (i + 1) + sofar) (jb b)) 85 (V 0 0 ^ cnt people) (goR V people F (cnt people) sofar i R L) := by
      intro b hb
      refine ⟨jsm.A rfl, hS, fun i' s hi' hs' => ?_⟩
      by_cases e : i' = i + 1 ∧ s = sofar
      · obtain ⟨e1, e2⟩ := e
        subst e1; subst e2
        rw [jA_same, hb]
        unfold goR cndB
        rw [Nat.sub_self, Nat.pow_zero, Nat.div_one, decide_eq_true rfl, decide_eq_true rfl, show allB (cnt people) (fun j => decide (j < cnt people) || linkB V (F j) (dig (V 0 0) (cnt people) s j)) = true from allB_iff.mpr (fun j hj => by rw [decide_eq_true hj]; rfl)]
        rfl
      · rw [jA_oth (by omega), hR i' s hi' hs']
        unfold goR cndB
        rw [Nat.sub_self, Nat.pow_zero, Nat.div_one]
        by_cases e1 : i' = i + 1
        · rw [decide_eq_false (show ¬ s = sofar from fun q => e ⟨e1, q⟩), Bool.false_and, Bool.and_false, Bool.false_and, Bool.or_false]
        · rw [decide_eq_false e1, Bool.false_and, Bool.false_and, Bool.or_false]
    refine jT.of (by decide) rfl (Nat.le_of_ble_eq_true rfl) ?_
    refine jw_iload_n (pc := 0) dX1_goesOn_0 rfl ?_
    refine jw_aload_n (pc := 1) dX1_goesOn_1 rfl ?_
    refine jx_getIs (pc := 2) (jf_X1_287_0.r) rfl dX1_goesOn_2 rfl (is_64 hS) (by decide) (m3) ?_
    first | refine jx_icmp_ne (pc := 5) (tgt := 62) dX1_goesOn_5 (by decide) (by omega) (by omega) ?_ ?_ | refine jw_icmp_ne (pc := 5) (tgt := 62) dX1_goesOn_5 (by decide) ?_ ?_
    · intro h_5
      omega
    · intro h_5
      refine jw_aload_n (pc := 8) dX1_goesOn_8 rfl ?_
      refine jx_getRs (pc := 9) (jf_X1_62_0.r) rfl dX1_goesOn_9 rfl (is_64 hS) (by decide) (sr_64_22 hS) ?_
      refine jw_sipush (pc := 12) dX1_goesOn_12 sp_1000 ?_
      refine jw_iload_n (pc := 15) dX1_goesOn_15 rfl ?_
      refine jw_iconst (pc := 16) dX1_goesOn_16 ic_1 ?_
      first | refine jx_iadd (pc := 17) dX1_goesOn_17 ?_ | refine jw_iadd (pc := 17) dX1_goesOn_17 ?_
      first | refine jx_imul (pc := 18) dX1_goesOn_18 ?_ | refine jw_imul (pc := 18) dX1_goesOn_18 ?_
      refine jw_iload_n (pc := 19) dX1_goesOn_19 rfl ?_
      first | refine jx_iadd (pc := 20) dX1_goesOn_20 ?_ | refine jw_iadd (pc := 20) dX1_goesOn_20 ?_
      refine jw_aload_n (pc := 21) dX1_goesOn_21 rfl ?_
      refine jx_getRs (pc := 22) (jf_X1_62_0.r) rfl dX1_goesOn_22 rfl (is_64 hS) (by decide) (sr_64_22 hS) ?_
      refine jw_sipush (pc := 25) dX1_goesOn_25 sp_1000 ?_
      refine jw_iload_n (pc := 28) dX1_goesOn_28 rfl ?_
      refine jw_iconst (pc := 29) dX1_goesOn_29 ic_1 ?_
      first | refine jx_iadd (pc := 30) dX1_goesOn_30 ?_ | refine jw_iadd (pc := 30) dX1_goesOn_30 ?_
      first | refine jx_imul (pc := 31) dX1_goesOn_31 ?_ | refine jw_imul (pc := 31) dX1_goesOn_31 ?_
      refine jw_iload_n (pc := 32) dX1_goesOn_32 rfl ?_
      first | refine jx_iadd (pc := 33) dX1_goesOn_33 ?_ | refine jw_iadd (pc := 33) dX1_goesOn_33 ?_
      refine jx_zalds (pc := 34) dX1_goesOn_34 (ok_85 hS) (nn_85 hS) rfl (by omega) (hR (i + 1) sofar (by omega) hso) ?_
      first | refine jx_ifb_ne (pc := 35) (tgt := 55) dX1_goesOn_35 (by decide) ?_ ?_ | refine jx_if_ne (pc := 35) (tgt := 55) dX1_goesOn_35 (by decide) (by omega) ?_ ?_ | refine jw_if_ne (pc := 35) (tgt := 55) dX1_goesOn_35 (by decide) ?_ ?_
      · intro h_35
        refine jw_iconst (pc := 55) dX1_goesOn_55 ic_1 ?_
        refine jw_goto (pc := 56) (tgt := 60) dX1_goesOn_56 (by decide) ?_
        refine jx_zast (pc := 60) dX1_goesOn_60 (by decide) (ok_85 hS) (nn_85 hS) rfl (by omega) (by first | exact jnar_0 | exact jnar_1 | exact jnar_b _) ?_
        refine jw_return (pc := 61) dX1_goesOn_61 rfl ?_
        refine ⟨rfl, ?_⟩
        first
          | exact hfin true (by rw [h_35]; rfl)
          | exact hfin true (by rw [h_52, Bool.or_true])
          | exact hfin false (by rw [h_35, h_52]; rfl)
      · intro h_35
        refine jw_aload_n (pc := 38) dX1_goesOn_38 rfl ?_
        refine jx_getRs (pc := 39) (jf_X1_58_0.r) rfl dX1_goesOn_39 rfl (is_64 hS) (by decide) (sr_64_21 hS) ?_
        refine jw_sipush (pc := 42) dX1_goesOn_42 sp_1000 ?_
        refine jw_iload_n (pc := 45) dX1_goesOn_45 rfl ?_
        refine jw_iconst (pc := 46) dX1_goesOn_46 ic_1 ?_
        first | refine jx_iadd (pc := 47) dX1_goesOn_47 ?_ | refine jw_iadd (pc := 47) dX1_goesOn_47 ?_
        first | refine jx_imul (pc := 48) dX1_goesOn_48 ?_ | refine jw_imul (pc := 48) dX1_goesOn_48 ?_
        refine jw_iload_n (pc := 49) dX1_goesOn_49 rfl ?_
        first | refine jx_iadd (pc := 50) dX1_goesOn_50 ?_ | refine jw_iadd (pc := 50) dX1_goesOn_50 ?_
        refine jx_zalds (pc := 51) dX1_goesOn_51 (ok_84 hS) (nn_84 hS) rfl (by omega) (hL (i + 1) sofar (by omega) hso) ?_
        first | refine jx_ifb_eq (pc := 52) (tgt := 59) dX1_goesOn_52 (by decide) ?_ ?_ | refine jx_if_eq (pc := 52) (tgt := 59) dX1_goesOn_52 (by decide) (by omega) ?_ ?_ | refine jw_if_eq (pc := 52) (tgt := 59) dX1_goesOn_52 (by decide) ?_ ?_
        · intro h_52
          refine jw_iconst (pc := 59) dX1_goesOn_59 ic_0 ?_
          refine jx_zast (pc := 60) dX1_goesOn_60 (by decide) (ok_85 hS) (nn_85 hS) rfl (by omega) (by first | exact jnar_0 | exact jnar_1 | exact jnar_b _) ?_
          refine jw_return (pc := 61) dX1_goesOn_61 rfl ?_
          refine ⟨rfl, ?_⟩
          first
            | exact hfin true (by rw [h_35]; rfl)
            | exact hfin true (by rw [h_52, Bool.or_true])
            | exact hfin false (by rw [h_35, h_52]; rfl)
        · intro h_52
          refine jw_iconst (pc := 55) dX1_goesOn_55 ic_1 ?_
          refine jw_goto (pc := 56) (tgt := 60) dX1_goesOn_56 (by decide) ?_
          refine jx_zast (pc := 60) dX1_goesOn_60 (by decide) (ok_85 hS) (nn_85 hS) rfl (by omega) (by first | exact jnar_0 | exact jnar_1 | exact jnar_b _) ?_
          refine jw_return (pc := 61) dX1_goesOn_61 rfl ?_
          refine ⟨rfl, ?_⟩
          first
            | exact hfin true (by rw [h_35]; rfl)
            | exact hfin true (by rw [h_52, Bool.or_true])
            | exact hfin false (by rw [h_35, h_52]; rfl)
  | succ m ihm =>
    intro k sofar M R hk hso hg hR
    have hX := hg.1
    have hS := hX.1
    have hw9 := (hX.2.1.2 V hv9).1
    have hnp := wf_np hw9
    have h0 : 0 < V 0 0 := (hX.2.1.1.2 V hv9).1
    have m2 := hg.2.1.1.2
    have hkn9 : k < cnt people := by omega
    have hso3 : V 0 0 ^ k ≤ 1000 := pw3 hnp (by omega)
    refine jT.of (by decide) rfl (Nat.le_of_ble_eq_true rfl) ?_
    have J : ∀ x : Nat × Mm, (x.1 ≤ V 0 0 ∧ jsm (fun a => a = 85) M x.2 ∧ jGo x.2 σ V people F L ∧ jRw x.2 85 (V 0 0 ^ cnt people) (goP V people F k sofar i R L x.1)) → jW G mi_X1_goesOn (3 + (m + 1)) M 65 [some (jr (some 64)), some (.int (nI k)), some (.int (nI sofar)), some (.int (nI i)), some (.int (nI x.1))] [] x.2 (jPv (fun M' => jsm (fun a => a = 85) M M' ∧ jSh M' ∧ jRw M' 85 (V 0 0 ^ cnt people) (goR V people F k sofar i R L))) := by
      refine jW.loop (σ := Nat × Mm) _ (fun x => V 0 0 - x.1) _ (fun _ => []) (fun x => x.2) (fun x hI ih => ?_)
      obtain ⟨p, M1⟩ := x
      obtain ⟨hp, hf, hg1, hR1⟩ := hI
      dsimp only at hp hf hg1 hR1 ih ⊢
      have hS := hg1.1.1
      obtain ⟨v, hs, hN⟩ := hg1.1.so hv9
      have hv := hs.s
      obtain ⟨f1, f2⟩ := hg1.2.2.1 k hkn9
      by_cases hkn : p < V 0 0
      · have hso2 : sofar * V 0 0 + p < V 0 0 ^ (k + 1) := by
          rw [Nat.pow_succ]
          have := Nat.mul_le_mul_right (V 0 0) (Nat.succ_le_of_lt hso)
          rw [Nat.succ_mul] at this
          omega
        refine jw_iload (pc := 65) dX1_goesOn_65 rfl ?_
        refine jw_aload_n (pc := 67) dX1_goesOn_67 rfl ?_
        refine jx_getRs (pc := 68) (jf_X1_109_0.r) rfl dX1_goesOn_68 rfl (is_64 hS) (by decide) (hs.r) ?_
        refine jx_getIs (pc := 71) (jf_X1_150_5.r) rfl dX1_goesOn_71 rfl (vis hv) (by decide) (xi_np hs.V) ?_
        first | refine jx_icmp_ge (pc := 74) (tgt := 121) dX1_goesOn_74 (by decide) (by omega) (by omega) ?_ ?_ | refine jw_icmp_ge (pc := 74) (tgt := 121) dX1_goesOn_74 (by decide) ?_ ?_
        · intro h_74
          omega
        · intro h_74
          refine jw_aload_n (pc := 77) dX1_goesOn_77 rfl ?_
          refine jx_getRs (pc := 78) (jf_X1_109_0.r) rfl dX1_goesOn_78 rfl (is_64 hS) (by decide) (hs.r) ?_
          refine jw_aload_n (pc := 81) dX1_goesOn_81 rfl ?_
          refine jx_getRs (pc := 82) (jf_X1_52_0.r) rfl dX1_goesOn_82 rfl (is_64 hS) (by decide) (sr_64_17 hS) ?_
          refine jw_iload_n (pc := 85) dX1_goesOn_85 rfl ?_
          refine jx_ialds (pc := 86) dX1_goesOn_86 (ok_82 hS) (nn_82 hS) rfl (by omega) (f1) ?_
          refine jw_iload (pc := 87) dX1_goesOn_87 rfl ?_
          refine jx_cVE (mi1 := mi_X6_areLinked) (pc := 89) rfl dX1_goesOn_89 lk_X1_228 rfl fi_X6_areLinked rfl rfl rfl (by decide) (vis hv) (t_X6_areLinked hs.V hs.w f2 hkn) (by first | decide | omega) rfl rfl (by decide) ?_
          first | refine jx_ifb_eq (pc := 92) (tgt := 115) dX1_goesOn_92 (by decide) ?_ ?_ | refine jx_if_eq (pc := 92) (tgt := 115) dX1_goesOn_92 (by decide) (by omega) ?_ ?_ | refine jw_if_eq (pc := 92) (tgt := 115) dX1_goesOn_92 (by decide) ?_ ?_
          · intro h_92
            first | refine jx_iinc (pc := 115) dX1_goesOn_115 rfl rfl ?_ | refine jw_iinc (pc := 115) dX1_goesOn_115 rfl rfl rfl ?_
            try dsimp only [jput1, jkill, jclr, jis2_i, jis2_l, jis2_rs, jis2_rn, cond]
            refine jw_goto (pc := 118) (tgt := 65) dX1_goesOn_118 (by decide) ?_
            first
              | (obtain ⟨q1, q2, q3⟩ := q_112
                 refine ih (p + 1, M_112) ⟨hkn, hf.tr q1, hg1.fr q1 q2, fun i' s hi' hs' => ?_⟩ (by dsimp only; omega)
                 dsimp only
                 rw [q3 i' s hi' hs', goP_s hkn9 hkn h_92])
              | (refine ih (p + 1, M1) ⟨hkn, hf, hg1, fun i' s hi' hs' => ?_⟩ (by dsimp only; omega)
                 dsimp only
                 rw [hR1 i' s hi' hs', goP_n hkn9 h_92])
          · intro h_92
            refine jw_aload_n (pc := 95) dX1_goesOn_95 rfl ?_
            refine jw_iload_n (pc := 96) dX1_goesOn_96 rfl ?_
            refine jw_iconst (pc := 97) dX1_goesOn_97 ic_1 ?_
            first | refine jx_iadd (pc := 98) dX1_goesOn_98 ?_ | refine jw_iadd (pc := 98) dX1_goesOn_98 ?_
            refine jw_iload_n (pc := 99) dX1_goesOn_99 rfl ?_
            refine jw_aload_n (pc := 100) dX1_goesOn_100 rfl ?_
            refine jx_getRs (pc := 101) (jf_X1_109_0.r) rfl dX1_goesOn_101 rfl (is_64 hS) (by decide) (hs.r) ?_
            refine jx_getIs (pc := 104) (jf_X1_150_5.r) rfl dX1_goesOn_104 rfl (vis hv) (by decide) (xi_np hs.V) ?_
            first | refine jx_imul (pc := 107) dX1_goesOn_107 ?_ | refine jw_imul (pc := 107) dX1_goesOn_107 ?_
            refine jw_iload (pc := 108) dX1_goesOn_108 rfl ?_
            first | refine jx_iadd (pc := 110) dX1_goesOn_110 ?_ | refine jw_iadd (pc := 110) dX1_goesOn_110 ?_
            refine jw_iload_n (pc := 111) dX1_goesOn_111 rfl ?_
            refine jx_cVv (mi1 := mi_X1_goesOn) (pc := 112) rfl dX1_goesOn_112 lk_X1_315 rfl fi_X1_goesOn rfl rfl rfl (by decide) (is_64 hS) (ihm (k + 1) (sofar * V 0 0 + p) M1 (goP V people F k sofar i R L p) (by omega) hso2 hg1 hR1) (by first | decide | omega) rfl rfl (by decide) ?_
            intro M_112 q_112
            first | refine jx_iinc (pc := 115) dX1_goesOn_115 rfl rfl ?_ | refine jw_iinc (pc := 115) dX1_goesOn_115 rfl rfl rfl ?_
            try dsimp only [jput1, jkill, jclr, jis2_i, jis2_l, jis2_rs, jis2_rn, cond]
            refine jw_goto (pc := 118) (tgt := 65) dX1_goesOn_118 (by decide) ?_
            first
              | (obtain ⟨q1, q2, q3⟩ := q_112
                 refine ih (p + 1, M_112) ⟨hkn, hf.tr q1, hg1.fr q1 q2, fun i' s hi' hs' => ?_⟩ (by dsimp only; omega)
                 dsimp only
                 rw [q3 i' s hi' hs', goP_s hkn9 hkn h_92])
              | (refine ih (p + 1, M1) ⟨hkn, hf, hg1, fun i' s hi' hs' => ?_⟩ (by dsimp only; omega)
                 dsimp only
                 rw [hR1 i' s hi' hs', goP_n hkn9 h_92])
      · have hk' : p = V 0 0 := by omega
        subst hk'
        refine jw_iload (pc := 65) dX1_goesOn_65 rfl ?_
        refine jw_aload_n (pc := 67) dX1_goesOn_67 rfl ?_
        refine jx_getRs (pc := 68) (jf_X1_109_0.r) rfl dX1_goesOn_68 rfl (is_64 hS) (by decide) (hs.r) ?_
        refine jx_getIs (pc := 71) (jf_X1_150_5.r) rfl dX1_goesOn_71 rfl (vis hv) (by decide) (xi_np hs.V) ?_
        first | refine jx_icmp_ge (pc := 74) (tgt := 121) dX1_goesOn_74 (by decide) (by omega) (by omega) ?_ ?_ | refine jw_icmp_ge (pc := 74) (tgt := 121) dX1_goesOn_74 (by decide) ?_ ?_
        · intro h_74
          refine jw_return (pc := 121) dX1_goesOn_121 rfl ?_
          refine ⟨rfl, hf, hg1.1.1, fun i' s hi' hs' => ?_⟩
          rw [hR1 i' s hi' hs', goP_end h0]
        · intro h_74
          omega
    refine jw_iload_n (pc := 0) dX1_goesOn_0 rfl ?_
    refine jw_aload_n (pc := 1) dX1_goesOn_1 rfl ?_
    refine jx_getIs (pc := 2) (jf_X1_287_0.r) rfl dX1_goesOn_2 rfl (is_64 hS) (by decide) (hg.2.1.2.1) ?_
    first | refine jx_icmp_ne (pc := 5) (tgt := 62) dX1_goesOn_5 (by decide) (by omega) (by omega) ?_ ?_ | refine jw_icmp_ne (pc := 5) (tgt := 62) dX1_goesOn_5 (by decide) ?_ ?_
    · intro h_5
      refine jw_iconst (pc := 62) dX1_goesOn_62 ic_0 ?_
      refine jw_istore (pc := 63) dX1_goesOn_63 (Nat.le_of_ble_eq_true rfl) rfl ?_
      try dsimp only [jput1, jput2, jkill, jclr, jis2_i, jis2_l, jis2_rs, jis2_rn, cond]
      exact J (0, M) ⟨Nat.zero_le _, jsm.rf, hg, fun i' s hi' hs' => by dsimp only; rw [hR i' s hi' hs', goP_0]⟩
    · intro h_5
      omega
end JXR
