/-! ===== the state, as numbers ===== -/
abbrev Sg : Type := Option Vt × (Nat → Nat) × (Nat → Int32) × (Nat → Nat → Nat) × (Nat → Nat → Int32)
/-- the valley -/
def sv (σ : Sg) : Option Vt := σ.1
/-- 0 step, 1 seed, 2 taped -/
def sn (σ : Sg) (k : Nat) : Nat := σ.2.1 k
/-- 0 trouble, 1 fault, 2 where, 3 how long the path is -/
def si (σ : Sg) (k : Nat) : Int32 := σ.2.2.1 k
/-- 0 where the people are, 1 the plan -/
def sa (σ : Sg) (i k : Nat) : Nat := σ.2.2.2.1 i k
/-- 0 the tape, 1 the path -/
def sb (σ : Sg) (i k : Nat) : Int32 := σ.2.2.2.2 i k
def sgN (σ : Sg) (j v : Nat) : Sg := (σ.1, fun k => if k = j then v else sn σ k, σ.2.2)
def sgI (σ : Sg) (j : Nat) (v : Int32) : Sg := (σ.1, σ.2.1, fun k => if k = j then v else si σ k, σ.2.2.2)
def sgT (σ : Sg) (tr wh : Int32) : Sg := (σ.1, σ.2.1, fun k => if k = 0 then tr else if k = 2 then wh else si σ k, σ.2.2.2)
def sgA (σ : Sg) (i : Nat) (f : Nat → Nat) : Sg := (σ.1, σ.2.1, σ.2.2.1, fun j k => if j = i then f k else sa σ j k, σ.2.2.2.2)
def sgB (σ : Sg) (i : Nat) (f : Nat → Int32) : Sg := (σ.1, σ.2.1, σ.2.2.1, σ.2.2.2.1, fun j k => if j = i then f k else sb σ j k)
theorem sgTT (σ : Sg) (a b c d : Int32) : sgT (sgT σ a b) c d = sgT σ c d := by
  unfold sgT
  refine Prod.ext rfl (Prod.ext rfl (Prod.ext (funext fun k => ?_) rfl))
  simp only [si]
  by_cases h0 : k = 0
  · simp [h0]
  · by_cases h2 : k = 2 <;> simp [h0, h2]
/-- what holds of every state -/
def jSo (σ : Sg) : Prop := (sn σ 2 ≤ 900 ∧ ∀ V, sv σ = some V → 1 ≤ V 0 0 ∧ 1 ≤ V 0 1 ∧ 1 ≤ V 0 12) ∧ ∀ V, sv σ = some V → jWf V ∧ (∀ p, p < V 0 1 → sa σ 0 p < V 0 0) ∧ (∀ p t, p < V 0 1 → t < 100 → sa σ 1 (100 * p + t) < V 0 0) ∧ sn σ 0 < 100 ∧ sn σ 1 < 65537 ∧ (si σ 3 = -1 ∨ ∃ n, n ≤ 30 ∧ si σ 3 = nI n)
/-- x's valley and what its two sights see -/
def jXs (M : Mm) (v : Nat) (V : Vt) : Prop := jSh M ∧ jm_R M 64 3 = some v ∧ jVx M v V ∧ jWf V ∧ ∀ a, a < V 0 0 → jm_A M 70 a = nI (plainS V (V 0 8) 0 0 a) ∧ jm_A M 71 a = nI (seesS V (V 0 8) 0 0 a) ∧ jm_A M 73 a = nI (plainS V (V 0 9) 0 0 a) ∧ jm_A M 74 a = nI (seesS V (V 0 9) 0 0 a)
/-- x's numbers of a state with a valley -/
def jXn (M : Mm) (V : Vt) (σ : Sg) : Prop := jm_I M 64 13 = nI (sn σ 0) ∧ jm_I M 64 14 = nI (sn σ 1) ∧ jm_I M 64 25 = si σ 3 ∧ (∀ p, p < V 0 1 → jm_A M 78 p = nI (sa σ 0 p)) ∧ (∀ p t, p < V 0 1 → t < 100 → jm_A M 80 (100 * p + t) = nI (sa σ 1 (100 * p + t))) ∧ (∀ k, k < 155 → jm_A M 87 k = sb σ 1 k)
def jXx (M : Mm) (σ : Sg) : Prop := jSh M ∧ jSo σ ∧ (jm_I M 64 1 = nI (sn σ 2) ∧ jm_I M 64 4 = si σ 0 ∧ jm_I M 64 5 = si σ 1 ∧ (si σ 0 = 4 → jm_I M 64 6 = si σ 2) ∧ (si σ 0 ≠ 4 → si σ 2 = -1)) ∧ (∀ k, k < 900 → jm_A M 65 k = sb σ 0 k) ∧
  (sv σ = none → jm_R M 64 3 = none) ∧ (∀ V, sv σ = some V → ∃ v, jXs M v V ∧ jXn M V σ)
/-- m's valley; opened walls and fog -/
def jMs (M : Mm) (w : Nat) (V : Vt) (op fg : Nat) : Prop := jSh M ∧ jm_R M 90 52 = some w ∧ jVm M w V ∧ jWf V ∧ jm_I M 90 66 = nI op ∧ jm_I M 90 67 = nI fg
def jMn (M : Mm) (V : Vt) (σ : Sg) : Prop := jm_I M 90 70 = nI (sn σ 0) ∧ jm_I M 90 71 = nI (sn σ 1) ∧ jm_I M 90 81 = si σ 3 ∧ (∀ p, p < V 0 1 → jm_A M 92 p = nI (sa σ 0 p)) ∧ (∀ p t, p < V 0 1 → t < 100 → jm_A M 94 (100 * p + t) = nI (sa σ 1 (100 * p + t))) ∧
  (∃ mv, jm_I M 90 82 = nI mv ∧ mv < 32 ∧ ∀ p n, p < V 0 1 → si σ 3 = nI n → n ≤ 30 → ∀ i, i ≤ n → (if mv.testBit p then jm_A M 100 (5 * i + p) = sb σ 1 (31 * p + i) else sb σ 1 (31 * p + i) = -1))
def jMm (M : Mm) (σ : Sg) : Prop := jSh M ∧ jSo σ ∧ (jm_I M 90 55 = nI (sn σ 2) ∧ jm_I M 90 50 = si σ 0 ∧ jm_I M 90 62 = si σ 1 ∧ jm_I M 90 51 = si σ 2) ∧ (jm_I M 90 66 = nI 0 ∧ jm_I M 90 67 = nI 0) ∧ (∀ k, k < 900 → jm_A M 91 k = sb σ 0 k) ∧
  (sv σ = none → jm_R M 90 52 = none) ∧ (∀ V, sv σ = some V → ∃ w, jMs M w V 0 0 ∧ jMn M V σ)
/-- what an x-method, an m-method may change -/
abbrev jxE (a : Nat) : Prop := 64 ≤ a ∧ a < 90
abbrev jmE (a : Nat) : Prop := 90 ≤ a ∧ a < 104
theorem jxE_no {a : Nat} (h : 104 ≤ a) : ¬ jxE a := fun q => by have := q.2; omega
theorem jmE_no {a : Nat} (h : 104 ≤ a) : ¬ jmE a := fun q => by have := q.2; omega
theorem jXs.fr {E : Nat → Prop} {M M1 : Mm} {v : Nat} {V : Vt} (h : jXs M v V) (g : jsm E M M1) (hS : jSh M1) (hE : ∀ a, 104 ≤ a → ¬ E a) (h0 : jm_R M1 64 3 = jm_R M 64 3) (h70 : ¬ E 70) (h71 : ¬ E 71) (h73 : ¬ E 73) (h74 : ¬ E 74) : jXs M1 v V := by
  obtain ⟨h1, h2, h3, h4, h5⟩ := h
  have hz := h1.2.2.2
  refine ⟨hS, h0.trans h2, h3.sm g hE, h4, fun a ha => ?_⟩
  obtain ⟨b1, b2, b3, b4⟩ := h5 a ha
  exact ⟨by rw [(g.2.2 70 (by omega) h70).2.2.2.2.2.1]; exact b1, by rw [(g.2.2 71 (by omega) h71).2.2.2.2.2.1]; exact b2, by rw [(g.2.2 73 (by omega) h73).2.2.2.2.2.1]; exact b3, by rw [(g.2.2 74 (by omega) h74).2.2.2.2.2.1]; exact b4⟩
theorem jXx.fr {E : Nat → Prop} {M M1 : Mm} {σ : Sg} (h : jXx M σ) (g : jsm E M M1) (hS : jSh M1) (hE : ∀ a, (64 ≤ a ∧ a < 90) ∨ 104 ≤ a → ¬ E a) : jXx M1 σ := by
  obtain ⟨h1, h2, ⟨h3, h4, h5, h6, h7⟩, h8, h9, h10⟩ := h
  have hz := h1.2.2.2
  have al : ∀ a, 64 ≤ a → a < 90 → jal M M1 a := fun a q1 q2 => g.2.2 a (by omega) (hE a (Or.inl ⟨q1, q2⟩))
  have aI : ∀ k, jm_I M1 64 k = jm_I M 64 k := (al 64 (by decide) (by decide)).2.2.1
  have aR : ∀ k, jm_R M1 64 k = jm_R M 64 k := (al 64 (by decide) (by decide)).2.2.2.2.1
  have aA : ∀ a k, 64 ≤ a → a < 90 → jm_A M1 a k = jm_A M a k := fun a k q1 q2 => (al a q1 q2).2.2.2.2.2.1 k
  refine ⟨hS, h2, ⟨(aI _).trans h3, (aI _).trans h4, (aI _).trans h5, fun q => (aI _).trans (h6 q), h7⟩, fun k hk => (aA _ _ (by decide) (by decide)).trans (h8 k hk), fun q => (aR _).trans (h9 q), fun V hV => ?_⟩
  obtain ⟨v, q1, q2, q3, q4, q5, q6, q7⟩ := h10 V hV
  refine ⟨v, q1.fr g hS (fun a ha => hE a (Or.inr ha)) (aR _) (hE _ (by decide)) (hE _ (by decide)) (hE _ (by decide)) (hE _ (by decide)), (aI _).trans q2, (aI _).trans q3, (aI _).trans q4, fun p hp => (aA _ _ (by decide) (by decide)).trans (q5 p hp), fun p t hp ht => (aA _ _ (by decide) (by decide)).trans (q6 p t hp ht), fun k hk => (aA _ _ (by decide) (by decide)).trans (q7 k hk)⟩
theorem jMm.fr {E : Nat → Prop} {M M1 : Mm} {σ : Sg} (h : jMm M σ) (g : jsm E M M1) (hS : jSh M1) (hE : ∀ a, 90 ≤ a → ¬ E a) : jMm M1 σ := by
  obtain ⟨h1, h2, ⟨h3, h4, h5, h6⟩, ⟨o1, o2⟩, h8, h9, h10⟩ := h
  have hz := h1.2.2.2
  have al : ∀ a, 90 ≤ a → a < 104 → jal M M1 a := fun a q1 q2 => g.2.2 a (by omega) (hE a q1)
  have aI : ∀ k, jm_I M1 90 k = jm_I M 90 k := (al 90 (by decide) (by decide)).2.2.1
  have aR : ∀ k, jm_R M1 90 k = jm_R M 90 k := (al 90 (by decide) (by decide)).2.2.2.2.1
  have aA : ∀ a k, 90 ≤ a → a < 104 → jm_A M1 a k = jm_A M a k := fun a k q1 q2 => (al a q1 q2).2.2.2.2.2.1 k
  refine ⟨hS, h2, ⟨(aI _).trans h3, (aI _).trans h4, (aI _).trans h5, (aI _).trans h6⟩, ⟨(aI _).trans o1, (aI _).trans o2⟩, fun k hk => (aA _ _ (by decide) (by decide)).trans (h8 k hk), fun q => (aR _).trans (h9 q), fun V hV => ?_⟩
  obtain ⟨w, ⟨q1, q2, q3, q4, q5, q6⟩, p1, p2, p3, p4, p5, mv, p6, p7, p8⟩ := h10 V hV
  refine ⟨w, ⟨hS, (aR _).trans q2, q3.sm g (fun a ha => hE a (by omega)), q4, (aI _).trans q5, (aI _).trans q6⟩, (aI _).trans p1, (aI _).trans p2, (aI _).trans p3, fun p hp => (aA _ _ (by decide) (by decide)).trans (p4 p hp), fun p t hp ht => (aA _ _ (by decide) (by decide)).trans (p5 p t hp ht), mv, (aI _).trans p6, p7, fun p n hp h1 h2 i hi => ?_⟩
  rw [aA _ _ (by decide) (by decide)]
  exact p8 p n hp h1 h2 i hi
/-- x after a frame within its own, its fields and rows told -/
theorem jXx.up {E : Nat → Prop} {M M1 : Mm} {σ τ : Sg} (h : jXx M σ) (g : jsm E M M1) (hS : jSh M1) (hE : ∀ a, a = 65 ∨ a = 70 ∨ a = 71 ∨ a = 73 ∨ a = 74 ∨ 104 ≤ a → ¬ E a) (ho : jSo τ) (hv : sv τ = sv σ) (hb : sb τ 0 = sb σ 0) (hR : jm_R M1 64 3 = jm_R M 64 3)
    (hI : jm_I M1 64 1 = nI (sn τ 2) ∧ jm_I M1 64 4 = si τ 0 ∧ jm_I M1 64 5 = si τ 1 ∧ (si τ 0 = 4 → jm_I M1 64 6 = si τ 2) ∧ (si τ 0 ≠ 4 → si τ 2 = -1)) (hn : ∀ V, sv σ = some V → jXn M V σ → jXn M1 V τ) : jXx M1 τ := by
  obtain ⟨h1, h2, h3, h8, h9, h10⟩ := h
  have hz := h1.2.2.2
  refine ⟨hS, ho, hI, fun k hk => ?_, fun q => hR.trans (h9 (hv ▸ q)), fun V hV => ?_⟩
  · rw [(g.2.2 65 (by omega) (hE _ (by decide))).2.2.2.2.2.1, hb]; exact h8 k hk
  · obtain ⟨v, q1, q2⟩ := h10 V (hv ▸ hV)
    exact ⟨v, q1.fr g hS (fun a ha => hE a (by omega)) hR (hE _ (by decide)) (hE _ (by decide)) (hE _ (by decide)) (hE _ (by decide)), hn V (hv ▸ hV) q2⟩
def jfx (M M1 : Mm) : Prop := jsm jxE M M1
def jfm (M M1 : Mm) : Prop := jsm jmE M M1
/-- an end of a question: the answer and the trouble -/
def jQx (M : Mm) (σ : Sg) (q : Int32 × Int32) : Rs → Mm → Prop := jPi (fun r M' => r = q.1 ∧ jXx M' (sgT σ q.2 (-1)) ∧ jfx M M')
def jQm (M : Mm) (σ : Sg) (q : Int32 × Int32) : Rs → Mm → Prop := jPi (fun r M' => r = q.1 ∧ jMm M' (sgT σ q.2 (-1)) ∧ jfm M M')
theorem jSo.T {σ : Sg} (h : jSo σ) (a b : Int32) : jSo (sgT σ a b) := h
theorem jXx.S {M : Mm} {σ : Sg} (h : jXx M σ) : jSh M := h.1
theorem jXx.no {M : Mm} {σ : Sg} (h : jXx M σ) (hv : sv σ = none) : jm_R M 64 3 = none := h.2.2.2.2.1 hv
theorem jXx.so {M : Mm} {σ : Sg} (h : jXx M σ) {V : Vt} (hv : sv σ = some V) : ∃ v, jXs M v V ∧ jXn M V σ := h.2.2.2.2.2 V hv
theorem jXs.S {M : Mm} {v : Nat} {V : Vt} (h : jXs M v V) : jSh M := h.1
theorem jXs.r {M : Mm} {v : Nat} {V : Vt} (h : jXs M v V) : jm_R M 64 3 = some v := h.2.1
theorem jXs.V {M : Mm} {v : Nat} {V : Vt} (h : jXs M v V) : jVx M v V := h.2.2.1
theorem jXs.s {M : Mm} {v : Nat} {V : Vt} (h : jXs M v V) : jVs M v := h.2.2.1.1
theorem jXs.w {M : Mm} {v : Nat} {V : Vt} (h : jXs M v V) : jWf V := h.2.2.2.1
section JT0
variable {G : Gh} {M : Mm} {σ : Sg}
theorem t_X1_anew (h : jXx M σ) : jT G mi_X1_anew 1 [jr (some 64)] M (jPv (fun M' => jXx M' (sgT σ 0 (-1)) ∧ jfx M M')) := by
  have hS := h.1
  refine jT.of (by decide) rfl (Nat.le_of_ble_eq_true rfl) ?_
  refine jw_aload_n (pc := 0) dX1_anew_0 rfl ?_
  refine jw_iconst (pc := 1) dX1_anew_1 ic_0 ?_
  refine jx_putI (pc := 2) jf_X1_81_0 rfl dX1_anew_2 rfl rfl (is_64 hS) (by decide) ?_
  refine jw_aload_n (pc := 5) dX1_anew_5 rfl ?_
  refine jw_iconst (pc := 6) dX1_anew_6 ic_m1 ?_
  refine jx_putI (pc := 7) jf_X1_22_0 rfl dX1_anew_7 rfl rfl (is_64 hS) (by decide) ?_
  refine jw_return (pc := 10) dX1_anew_10 rfl ?_
  refine ⟨rfl, ?_, (jsm.I (by decide)).tr (jsm.I (by decide))⟩
  obtain ⟨h3, h4, h5, h6, h7⟩ := h.2.2.1
  exact h.up (E := fun a => a = 64) ((jsm.I (E := fun a => a = 64) rfl).tr (jsm.I rfl)) hS (fun a q1 q2 => by omega) (h.2.1.T _ _) rfl rfl rfl ⟨h3, rfl, h5, fun q => rfl, fun q => rfl⟩ (fun V hV q => q)
theorem t_X1_no {why : Int32} (h : jXx M (sgT σ 0 (-1))) (hy : why ≠ 4) : jT G mi_X1_no 1 [jr (some 64), .int why] M (jPi (fun r M' => r = -1 ∧ jXx M' (sgT σ why (-1)) ∧ jfx M M')) := by
  have hS := h.1
  refine jT.of (by decide) rfl (Nat.le_of_ble_eq_true rfl) ?_
  refine jw_aload_n (pc := 0) dX1_no_0 rfl ?_
  refine jw_iload_n (pc := 1) dX1_no_1 rfl ?_
  refine jx_putI (pc := 2) jf_X1_81_0 rfl dX1_no_2 rfl rfl (is_64 hS) (by decide) ?_
  refine jw_iconst (pc := 5) dX1_no_5 ic_m1 ?_
  refine jw_ireturn (pc := 6) dX1_no_6 rfl (rfl) ?_
  refine ⟨_, rfl, rfl, ?_, jsm.I (by decide)⟩
  obtain ⟨h3, h4, h5, h6, h7⟩ := h.2.2.1
  exact h.up (E := fun a => a = 64) (jsm.I rfl) hS (fun a q1 q2 => by omega) (h.2.1.T _ _) rfl rfl rfl ⟨h3, rfl, h5, fun q => absurd q hy, fun q => rfl⟩ (fun V hV q => q)
theorem t_X1_yes {why : Int32} (h : jXx M σ) (hy : why ≠ 4) : jT G mi_X1_yes 2 [jr (some 64), .int why] M (jPi (fun r M' => r = jb (decide (why = 0)) ∧ jXx M' (sgT σ why (-1)) ∧ jfx M M')) := by
  have hS := h.1
  refine jT.of (by decide) rfl (Nat.le_of_ble_eq_true rfl) ?_
  refine jw_aload_n (pc := 0) dX1_yes_0 rfl ?_
  refine jx_cVv (mi1 := mi_X1_anew) (pc := 1) rfl dX1_yes_1 lk_X1_84 rfl fi_X1_anew rfl rfl rfl (by decide) (is_64 hS) (t_X1_anew h) (by first | decide | omega) rfl rfl (by decide) ?_
  intro M_1 q_1
  obtain ⟨hX, hf⟩ := q_1
  have hS := hX.1
  refine jw_aload_n (pc := 4) dX1_yes_4 rfl ?_
  refine jw_iload_n (pc := 5) dX1_yes_5 rfl ?_
  refine jx_putI (pc := 6) jf_X1_81_0 rfl dX1_yes_6 rfl rfl (is_64 hS) (by decide) ?_
  refine jw_iload_n (pc := 9) dX1_yes_9 rfl ?_
  refine jw_if_ne (pc := 10) (tgt := 17) dX1_yes_10 (by decide) ?_ ?_
  · intro h_10
    refine jw_iconst (pc := 17) dX1_yes_17 ic_0 ?_
    refine jw_ireturn (pc := 18) dX1_yes_18 rfl (by first | exact jnar_b _ | exact jnar_0 | exact jnar_1 | decide +kernel) ?_
    refine ⟨_, rfl, ?_, ?_, hf.tr (jsm.I (by decide))⟩
    · first | rw [decide_eq_true h_10]; rfl | rw [decide_eq_false h_10]; rfl
    · obtain ⟨h3, h4, h5, h6, h7⟩ := hX.2.2.1
      have e : jXx (js_I M_1 64 4 why) (sgT (sgT σ 0 (-1)) why (-1)) := hX.up (E := fun a => a = 64) (jsm.I rfl) hS (fun a q1 q2 => by omega) (hX.2.1.T _ _) rfl rfl rfl ⟨h3, rfl, h5, fun q => absurd q hy, fun q => rfl⟩ (fun V hV q => q)
      rw [sgTT] at e; exact e
  · intro h_10
    refine jw_iconst (pc := 13) dX1_yes_13 ic_1 ?_
    refine jw_goto (pc := 14) (tgt := 18) dX1_yes_14 (by decide) ?_
    refine jw_ireturn (pc := 18) dX1_yes_18 rfl (by first | exact jnar_b _ | exact jnar_0 | exact jnar_1 | decide +kernel) ?_
    refine ⟨_, rfl, ?_, ?_, hf.tr (jsm.I (by decide))⟩
    · first | rw [decide_eq_true h_10]; rfl | rw [decide_eq_false h_10]; rfl
    · obtain ⟨h3, h4, h5, h6, h7⟩ := hX.2.2.1
      have e : jXx (js_I M_1 64 4 why) (sgT (sgT σ 0 (-1)) why (-1)) := hX.up (E := fun a => a = 64) (jsm.I rfl) hS (fun a q1 q2 => by omega) (hX.2.1.T _ _) rfl rfl rfl ⟨h3, rfl, h5, fun q => absurd q hy, fun q => rfl⟩ (fun V hV q => q)
      rw [sgTT] at e; exact e
end JT0
