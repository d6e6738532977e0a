/-! ===== m: the path is kept ===== -/
theorem jMk.fr2 {E : Nat → Prop} {M M1 : Mm} {w people : Nat} {V : Vt} {τ : Sg} (h : jMk M w V τ people) (g : jsm E M M1) (hS : jSh M1) (h90 : ¬ E 90) (h92 : ¬ E 92) (h96 : ¬ E 96) (hE : ∀ a, 104 ≤ a → ¬ E a) : jMk M1 w V τ people := by
  obtain ⟨h1, h2, h3, h4, h5, h6, h7⟩ := h
  have hz := h1.1.2.2.2
  have a90 := g.2.2 90 (by omega) h90
  have a92 := g.2.2 92 (by omega) h92
  have a96 := g.2.2 96 (by omega) h96
  exact ⟨h1.fr g hS h90 hE, h2, (a90.2.2.1 _).trans h3, fun p hp => (a92.2.2.2.2.2.1 _).trans (h4 p hp), (a90.2.2.1 _).trans h5, (a90.2.2.1 _).trans h6, fun k hk => (a96.2.2.2.2.2.1 _).trans (h7 k hk)⟩
def jPz (M : Mm) (V : Vt) (τ : Sg) (people goal N i k : Nat) : Prop := ∀ i' p, p < V 0 1 → people.testBit p = true → i' ≤ N → (i' < i ∨ (i' = i ∧ cntN people p < k)) → jm_A M 100 (5 * i' + p) = nI (dig 10 (cnt people) (pthC V τ people goal N i') (cntN people p))
theorem jPz.fr {E : Nat → Prop} {M M1 : Mm} {V : Vt} {τ : Sg} {people goal N i k : Nat} (h : jPz M V τ people goal N i k) (hS : jSh M) (g : jsm E M M1) (hE : ¬ E 100) : jPz M1 V τ people goal N i k := by
  have hz := hS.2.2.2
  have a100 := (g.2.2 100 (by omega) hE).2.2.2.2.2.1
  exact fun i' p q1 q2 q3 q4 => (a100 _).trans (h i' p q1 q2 q3 q4)
theorem jPz.set {M : Mm} {V : Vt} {τ : Sg} {people goal N i k : Nat} (hw : jWf V) (hp : people < 2 ^ V 0 1) (hk : k < cnt people) (h : jPz M V τ people goal N i k) : jPz (js_A M 100 (5 * i + mvP people k) (nI (dig 10 (cnt people) (pthC V τ people goal N i) k))) V τ people goal N i (k + 1) := by
  have h5 := mv_n hw hp
  have hnq := wf_nq hw
  obtain ⟨v1, v2, v3⟩ := mv_ok h5 hk
  have hm := bit_lt hp v2
  intro i' p q1 q2 q3 q4
  by_cases e : i' = i ∧ p = mvP people k
  · obtain ⟨e1, e2⟩ := e
    subst e1; subst e2
    rw [jA_same, v3]
  · rw [jA_oth (by omega)]
    refine h i' p q1 q2 q3 ?_
    rcases q4 with q4 | ⟨q4, q5⟩
    · exact Or.inl q4
    · refine Or.inr ⟨q4, ?_⟩
      by_cases e3 : cntN people p = k
      · have h9 := nth_of people h5 p (by omega) q2
        rw [e3] at h9
        exact absurd ⟨q4, h9.symm⟩ e
      · omega
theorem sgT_P {σ : Sg} {f : Nat → Int32} {N : Nat} : sgT (sgI (sgB σ 1 f) 3 (nI N)) 0 (-1) = sgI (sgB (sgT σ 0 (-1)) 1 f) 3 (nI N) := by
  refine Prod.ext rfl (Prod.ext rfl (Prod.ext (funext fun k => ?_) rfl))
  show (if k = 0 then (0 : Int32) else if k = 2 then -1 else (if k = 3 then nI N else si σ k)) = if k = 3 then nI N else (if k = 0 then 0 else if k = 2 then -1 else si σ k)
  by_cases e3 : k = 3
  · subst e3; rfl
  · rw [if_neg e3, if_neg e3]
theorem nI_inj9 {a b : Nat} (ha : a < 2 ^ 31) (hb : b < 2 ^ 31) (h : nI a = nI b) : a = b := by
  have := congrArg Int32.toInt h
  rw [nI_toInt ha, nI_toInt hb] at this
  omega
def kpE (a : Nat) : Prop := a = 98 ∨ a = 99 ∨ a = 100
theorem mpth {M M1 : Mm} {σ : Sg} {V : Vt} {f : Nat → Int32} {people N : Nat} (h : jMm M σ) (hv9 : sv σ = some V) (g : jsm kpE M M1) (hS : jSh M1) (hp : people < 32) (hN : N ≤ 30) (hf : ∀ p i, p < V 0 1 → i ≤ N → if people.testBit p = true then jm_A M1 100 (5 * i + p) = f (31 * p + i) else f (31 * p + i) = -1) : jMm (js_I (js_I M1 90 81 (nI N)) 90 82 (nI people)) (sgI (sgB σ 1 f) 3 (nI N)) ∧ jfm M (js_I (js_I M1 90 81 (nI N)) 90 82 (nI people)) := by
  have hz := h.1.2.2.2
  have a90 := g.2.2 90 (by omega) (by unfold kpE; omega)
  have a92 := g.2.2 92 (by omega) (by unfold kpE; omega)
  have a94 := g.2.2 94 (by omega) (by unfold kpE; omega)
  have e : ∀ j, j ≠ 81 → j ≠ 82 → jm_I (js_I (js_I M1 90 81 (nI N)) 90 82 (nI people)) 90 j = jm_I M 90 j := fun j h1 h2 => by
    rw [jI_I, if_neg (fun q => h2 q.1), jI_I, if_neg (fun q => h1 q.1)]; exact a90.2.2.1 _
  obtain ⟨h3, h4, h5, h6⟩ := h.2.2.1
  have gg : jsm (fun a => a = 90 ∨ kpE a) M (js_I (js_I M1 90 81 (nI N)) 90 82 (nI people)) := ((g.wk (F := fun a => a = 90 ∨ kpE a) (fun a q => Or.inr q)).tr (jsm.I (E := fun a => a = 90 ∨ kpE a) (Or.inl rfl))).tr (jsm.I (E := fun a => a = 90 ∨ kpE a) (Or.inl rfl))
  refine ⟨h.up gg hS (fun a q1 q2 => by unfold kpE at q2; omega) (h.2.1.B.I3 hN) rfl rfl (a90.2.2.2.2.1 _) ⟨(e _ (by omega) (by omega)).trans h3, (e _ (by omega) (by omega)).trans h4, (e _ (by omega) (by omega)).trans h5, (e _ (by omega) (by omega)).trans h6⟩ ⟨(e _ (by omega) (by omega)).trans h.2.2.2.1.1, (e _ (by omega) (by omega)).trans h.2.2.2.1.2⟩ (fun W hW q => ?_), gg.wk (fun a q => by unfold kpE at q; exact ⟨by omega, by omega⟩)⟩
  have eW : W = V := Option.some.inj (hW.symm.trans hv9)
  subst eW
  obtain ⟨q1, q2, q3, q4, q5, q6⟩ := q
  refine ⟨(e _ (by omega) (by omega)).trans q1, (e _ (by omega) (by omega)).trans q2, rfl, fun p hp => (a92.2.2.2.2.2.1 _).trans (q4 p hp), fun p t hp ht => (a94.2.2.2.2.2.1 _).trans (q5 p t hp ht), people, rfl, hp, fun p n hp e1 e2 i hi => ?_⟩
  have e3 : N = n := nI_inj9 (by omega) (by omega) (show nI N = nI n from e1)
  subst e3
  exact hf p i hp hi
section JMP
variable {G : Gh} {M : Mm} {σ τ : Sg} {w people : Nat} {V : Vt}
theorem lp_k24 {M9 M0 : Mm} {goal N i : Nat} {x2 : Value} {P : Rs → Mm → Prop} (h : jMk M0 w V τ people) (hN : N ≤ 30) (hi : i ≤ N) (hs : pthC V τ people goal N i < 10 ^ cnt people)
    (fin : ∀ M', jsm (fun a => a = 100) M0 M' → jSh M' → jPz M' V τ people goal N (i + 1) 0 → jW G mi_X5_keepsPath 6 M9 64 [some (jr (some 90)), some (.int (nI people)), some x2, some (.int (nI N)), some (.int (nI (pthC V τ people goal N i))), some (.int (nI i)), none, none] [] M' P) :
    ∀ x : Nat × Mm, (x.1 ≤ cnt people ∧ (jsm (fun a => a = 100) M0 x.2 ∧ jSh x.2) ∧ jPz x.2 V τ people goal N i x.1) → jW G mi_X5_keepsPath 6 M9 24 [some (jr (some 90)), some (.int (nI people)), some x2, some (.int (nI N)), some (.int (nI (pthC V τ people goal N i))), some (.int (nI i)), some (.int (nI x.1)), none] [] x.2 P := by
  have hc3 := h.2.1.2.1
  have h1000 := q10 hc3
  have hw9 := h.1.w
  have hnq := wf_nq hw9
  have hp5 := mv_n hw9 h.2.1.1
  refine jW.loop (σ := Nat × Mm) _ (fun x => cnt people - x.1) _ (fun _ => []) (fun x => x.2) (fun x hI ih => ?_)
  obtain ⟨k, M1⟩ := x
  obtain ⟨hk, ⟨hf, hS⟩, hP⟩ := hI
  dsimp only at hk hf hS hP ih ⊢
  have h2 := h.fr2 hf hS (by decide) (by decide) (by decide) (fun a q1 q2 => by omega)
  by_cases hkn : k < cnt people
  · obtain ⟨m1, m2, m3⟩ := mv_ok hp5 hkn
    have hmq := bit_lt h.2.1.1 m2
    refine jw_iload (pc := 24) dX5_keepsPath_24 rfl ?_
    refine jw_aload_n (pc := 26) dX5_keepsPath_26 rfl ?_
    refine jx_getIs (pc := 27) (jf_X5_470_4.r) rfl dX5_keepsPath_27 rfl (is_90 hS) (by decide) (h2.2.2.2.2.1) ?_
    first | refine jx_icmp_ge (pc := 30) (tgt := 64) dX5_keepsPath_30 (by decide) (by omega) (by omega) ?_ ?_ | refine jw_icmp_ge (pc := 30) (tgt := 64) dX5_keepsPath_30 (by decide) ?_ ?_
    · intro h_30
      omega
    · intro h_30
      refine jw_aload_n (pc := 33) dX5_keepsPath_33 rfl ?_
      refine jx_getRs (pc := 34) (jf_X5_46_4.r) rfl dX5_keepsPath_34 rfl (is_90 hS) (by decide) (sr_90_83 hS) ?_
      refine jw_iconst (pc := 37) dX5_keepsPath_37 ic_5 ?_
      refine jw_iload (pc := 38) dX5_keepsPath_38 rfl ?_
      first | refine jx_imul (pc := 40) dX5_keepsPath_40 ?_ | refine jw_imul (pc := 40) dX5_keepsPath_40 ?_
      refine jw_aload_n (pc := 41) dX5_keepsPath_41 rfl ?_
      refine jx_getRs (pc := 42) (jf_X5_30_4.r) rfl dX5_keepsPath_42 rfl (is_90 hS) (by decide) (sr_90_75 hS) ?_
      refine jw_iload (pc := 45) dX5_keepsPath_45 rfl ?_
      refine jx_ialds (pc := 47) dX5_keepsPath_47 (ok_96 hS) (nn_96 hS) rfl (by omega) (h2.2.2.2.2.2.2 k hkn) ?_
      first | refine jx_iadd (pc := 48) dX5_keepsPath_48 ?_ | refine jw_iadd (pc := 48) dX5_keepsPath_48 ?_
      refine jw_aload_n (pc := 49) dX5_keepsPath_49 rfl ?_
      refine jw_iload (pc := 50) dX5_keepsPath_50 rfl ?_
      refine jw_iload (pc := 52) dX5_keepsPath_52 rfl ?_
      refine jx_cVE (mi1 := mi_X5_placeIn) (pc := 54) rfl dX5_keepsPath_54 lk_X5_476 rfl fi_X5_placeIn rfl rfl rfl (by decide) (is_90 hS) (t_X5_placeIn h2 (by omega) hkn) (by first | decide | omega) rfl rfl (by simp only [List.map_cons, List.map_nil, List.sum_cons, List.sum_nil, cat_i, cat_l, jr_cat]; decide) ?_
      refine jx_iast (pc := 57) dX5_keepsPath_57 (by decide) (ok_100 hS) (nn_100 hS) rfl (by omega) ?_
      first | refine jx_iinc (pc := 58) dX5_keepsPath_58 rfl rfl ?_ | refine jw_iinc (pc := 58) dX5_keepsPath_58 rfl rfl rfl ?_
      try dsimp only [jput1, jkill, jclr, jis2_i, jis2_l, jis2_rs, jis2_rn, cond]
      refine jw_goto (pc := 61) (tgt := 24) dX5_keepsPath_61 (by decide) ?_
      exact ih (k + 1, js_A M1 100 (5 * i + mvP people k) (nI (dig 10 (cnt people) (pthC V τ people goal N i) k))) ⟨hkn, ⟨hf.tr (jsm.A rfl), hS⟩, hP.set hw9 h.2.1.1 hkn⟩ (by dsimp only; omega)
  · have hk' : k = cnt people := by omega
    subst hk'
    refine jw_iload (pc := 24) dX5_keepsPath_24 rfl ?_
    refine jw_aload_n (pc := 26) dX5_keepsPath_26 rfl ?_
    refine jx_getIs (pc := 27) (jf_X5_470_4.r) rfl dX5_keepsPath_27 rfl (is_90 hS) (by decide) (h2.2.2.2.2.1) ?_
    first | refine jx_icmp_ge (pc := 30) (tgt := 64) dX5_keepsPath_30 (by decide) (by omega) (by omega) ?_ ?_ | refine jw_icmp_ge (pc := 30) (tgt := 64) dX5_keepsPath_30 (by decide) ?_ ?_
    · intro h_30
      refine jW.sub ?_ (fin M1 hf hS (fun i' p q1 q2 q3 q4 => hP i' p q1 q2 q3 ?_))
      · exact ⟨rfl, rfl, rfl, rfl, rfl, rfl, trivial⟩
      · have := cntN_bit hp5 hnq h.2.1.1 q1 q2
        omega
    · intro h_30
      omega
theorem t_X5_keepsPath {goal N : Nat} {f : Nat → Int32} (h : jMk M w V τ people) (hm : jMm M σ) (hv9 : sv σ = some V) (hN : N ≤ 30) (hg : goal < 10 ^ cnt people) (hC : jCk M V τ people N (10 ^ cnt people) (canC V τ people N)) (hpv : ∀ i, i ≤ N → pthC V τ people goal N i < 10 ^ cnt people ∧ valB (V 0 0) (cnt people) (pthC V τ people goal N i) = true) (hf9 : ∀ p i, p < V 0 1 → i ≤ N → f (31 * p + i) = if people.testBit p = true then nI (dig 10 (cnt people) (pthC V τ people goal N i) (cntN people p)) else -1) : jT G mi_X5_keepsPath 6 [jr (some 90), .int (nI people), .int (nI goal), .int (nI N)] M (jPv (fun M' => jMm M' (sgI (sgB σ 1 f) 3 (nI N)) ∧ jfm M M')) := by
  have hS := h.1.1
  have hc3 := h.2.1.2.1
  have h1000 := q10 hc3
  have hp5 := mv_n h.1.w h.2.1.1
  have hnq := wf_nq h.1.w
  refine jT.of (by decide) rfl (Nat.le_of_ble_eq_true rfl) ?_
  have K : ∀ x : Nat × Mm, (x.1 ≤ N + 1 ∧ (jsm kpE M x.2 ∧ jSh x.2) ∧ jGz x.2 people N (fun _ _ => True) (fun i c => glC V τ people goal N (N - i) c) ∧ jPz x.2 V τ people goal N x.1 0) → jW G mi_X5_keepsPath 6 M 15 [some (jr (some 90)), some (.int (nI people)), some (.int (nI goal)), some (.int (nI N)), some (.int (nI (pthC V τ people goal N (min x.1 N)))), some (.int (nI x.1)), none, none] [] x.2 (jPv (fun M' => jMm M' (sgI (sgB σ 1 f) 3 (nI N)) ∧ jfm M M')) := by
    refine jW.loop (σ := Nat × Mm) _ (fun x => N + 1 - x.1) _ (fun _ => []) (fun x => x.2) (fun x hI ih => ?_)
    obtain ⟨i, M1⟩ := x
    obtain ⟨hi, ⟨hf, hS⟩, hG, hP⟩ := hI
    dsimp only at hi hf hS hG hP ih ⊢
    have h2 := h.fr2 hf hS (by unfold kpE; omega) (by unfold kpE; omega) (by unfold kpE; omega) (fun a q1 q2 => by unfold kpE at q2; omega)
    by_cases hkn : i ≤ N
    · obtain ⟨v1, v2⟩ := hpv i hkn
      rw [Nat.min_eq_left hkn]
      have L131 : ∀ M', jsm kpE M1 M' → jSh M' → jGz M' people N (fun _ _ => True) (fun i c => glC V τ people goal N (N - i) c) → jPz M' V τ people goal N (i + 1) 0 → jW G mi_X5_keepsPath 6 M 131 [some (jr (some 90)), some (.int (nI people)), some (.int (nI goal)), some (.int (nI N)), some (.int (nI (pthC V τ people goal N (min (i + 1) N)))), some (.int (nI i)), none, none] [] M' (jPv (fun M' => jMm M' (sgI (sgB σ 1 f) 3 (nI N)) ∧ jfm M M')) := by
        intro M' q1 q2 q3 q4
        have hS := q2
        first | refine jx_iinc (pc := 131) dX5_keepsPath_131 rfl rfl ?_ | refine jw_iinc (pc := 131) dX5_keepsPath_131 rfl rfl rfl ?_
        try dsimp only [jput1, jkill, jclr, jis2_i, jis2_l, jis2_rs, jis2_rn, cond]
        refine jw_goto (pc := 134) (tgt := 15) dX5_keepsPath_134 (by decide) ?_
        exact ih (i + 1, M') ⟨by dsimp only; omega, ⟨hf.tr q1, q2⟩, q3, q4⟩ (by dsimp only; omega)
      have L64 : ∀ M', jsm (fun a => a = 100) M1 M' → jSh M' → jPz M' V τ people goal N (i + 1) 0 → jW G mi_X5_keepsPath 6 M 64 [some (jr (some 90)), some (.int (nI people)), some (.int (nI goal)), some (.int (nI N)), some (.int (nI (pthC V τ people goal N i))), some (.int (nI i)), none, none] [] M' (jPv (fun M' => jMm M' (sgI (sgB σ 1 f) 3 (nI N)) ∧ jfm M M')) := by
        intro M2 q1 q2 q4
        have hS := q2
        have q1k := q1.wk (F := kpE) (fun a q => by unfold kpE; omega)
        have h3 := h2.fr2 q1 q2 (by decide) (by decide) (by decide) (fun a z1 z2 => by omega)
        have q3 := hG.fr h2.1.1 q1 (by decide)
        by_cases hiN : i = N
        · subst hiN
          refine jw_iload (pc := 64) dX5_keepsPath_64 rfl ?_
          refine jw_iload_n (pc := 66) dX5_keepsPath_66 rfl ?_
          first | refine jx_icmp_ne (pc := 67) (tgt := 73) dX5_keepsPath_67 (by decide) (by omega) (by omega) ?_ ?_ | refine jw_icmp_ne (pc := 67) (tgt := 73) dX5_keepsPath_67 (by decide) ?_ ?_
          · intro h_67
            omega
          · intro h_67
            refine jw_goto (pc := 70) (tgt := 131) dX5_keepsPath_70 (by decide) ?_
            refine jW.eq ?_ rfl rfl (L131 M2 q1k q2 q3 q4)
            rw [Nat.min_eq_right (Nat.le_succ _)]
        · have g99 : jsm (fun a => a = 99) M2 (js_As M2 99 (lsG M2 (ledL V people (pthC V τ people goal N i) (10 ^ cnt people)))) := jsm.As rfl
          have q3b := q3.fr q2 g99 (by decide)
          have q4b := q4.fr q2 g99 (by decide)
          have gk := q1k.tr (g99.wk (F := kpE) (fun a q => by unfold kpE; omega))
          have hS3 : jSh (js_As M2 99 (lsG M2 (ledL V people (pthC V τ people goal N i) (10 ^ cnt people)))) := q2
          have hL3 : ∀ k, k < (ledL V people (pthC V τ people goal N i) (10 ^ cnt people)).length → jm_A (js_As M2 99 (lsG M2 (ledL V people (pthC V τ people goal N i) (10 ^ cnt people)))) 99 k = nI ((ledL V people (pthC V τ people goal N i) (10 ^ cnt people)).getD k 0) := fun k hk => lsG_r hk
          have hle := ledL_le V people (pthC V τ people goal N i) (10 ^ cnt people)
          have K87 : ∀ M3, jSh M3 → jsm kpE M1 M3 → jGz M3 people N (fun _ _ => True) (fun i c => glC V τ people goal N (N - i) c) → jPz M3 V τ people goal N (i + 1) 0 → (∀ k, k < (ledL V people (pthC V τ people goal N i) (10 ^ cnt people)).length → jm_A M3 99 k = nI ((ledL V people (pthC V τ people goal N i) (10 ^ cnt people)).getD k 0)) → ∀ d : Nat, d ≤ (ledL V people (pthC V τ people goal N i) (10 ^ cnt people)).length → jW G mi_X5_keepsPath 6 M 87 [some (jr (some 90)), some (.int (nI people)), some (.int (nI goal)), some (.int (nI N)), some (.int (nI (selF (glC V τ people goal N (N - (i + 1))) (pthC V τ people goal N i) ((ledL V people (pthC V τ people goal N i) (10 ^ cnt people)).drop d)))), some (.int (nI i)), some (.int (nI (ledL V people (pthC V τ people goal N i) (10 ^ cnt people)).length)), some (.int (nI d - nI 1))] [] M3 (jPv (fun M' => jMm M' (sgI (sgB σ 1 f) 3 (nI N)) ∧ jfm M M')) := by
            intro M3 hS z1 z2 z3 z4
            refine jW.loop _ (fun d => d) _ (fun _ => []) (fun _ => M3) (fun d hd ih2 => ?_)
            by_cases hd1 : 1 ≤ d
            · have e9 := zdec hd1
              rw [sub1 hd1] at e9
              rw [sub1 hd1]
              have hdl : d - 1 < (ledL V people (pthC V τ people goal N i) (10 ^ cnt people)).length := by omega
              obtain ⟨l1, l2⟩ := led_at hdl
              have e1 := z2 (i + 1) _ (by omega) l1 trivial
              have e2 := sel_drop (g := glC V τ people goal N (N - (i + 1))) (s := pthC V τ people goal N i) hdl
              rw [show d - 1 + 1 = d by omega] at e2
              dsimp only at e1
              refine jw_iload (pc := 87) dX5_keepsPath_87 rfl ?_
              refine jw_if_lt (pc := 89) (tgt := 131) dX5_keepsPath_89 (by decide) ?_ ?_
              · intro h_89
                exact absurd h_89 (nI_nn (by omega))
              · intro h_89
                refine jw_aload_n (pc := 92) dX5_keepsPath_92 rfl ?_
                refine jx_getRs (pc := 93) (jf_X5_37_4.r) rfl dX5_keepsPath_93 rfl (is_90 hS) (by decide) (sr_90_79 hS) ?_
                refine jw_sipush (pc := 96) dX5_keepsPath_96 sp_1000 ?_
                refine jw_iload (pc := 99) dX5_keepsPath_99 rfl ?_
                refine jw_iconst (pc := 101) dX5_keepsPath_101 ic_1 ?_
                first | refine jx_iadd (pc := 102) dX5_keepsPath_102 ?_ | refine jw_iadd (pc := 102) dX5_keepsPath_102 ?_
                first | refine jx_imul (pc := 103) dX5_keepsPath_103 ?_ | refine jw_imul (pc := 103) dX5_keepsPath_103 ?_
                refine jw_aload_n (pc := 104) dX5_keepsPath_104 rfl ?_
                refine jx_getRs (pc := 105) (jf_X5_40_4.r) rfl dX5_keepsPath_105 rfl (is_90 hS) (by decide) (sr_90_80 hS) ?_
                refine jw_iload (pc := 108) dX5_keepsPath_108 rfl ?_
                refine jx_ialds (pc := 110) dX5_keepsPath_110 (ok_99 hS) (nn_99 hS) rfl (by omega) (z4 (d - 1) hdl) ?_
                first | refine jx_iadd (pc := 111) dX5_keepsPath_111 ?_ | refine jw_iadd (pc := 111) dX5_keepsPath_111 ?_
                refine jx_zalds (pc := 112) dX5_keepsPath_112 (ok_98 hS) (nn_98 hS) rfl (by omega) (e1) ?_
                first | refine jx_ifb_eq (pc := 113) (tgt := 125) dX5_keepsPath_113 (by decide) ?_ ?_ | refine jx_if_eq (pc := 113) (tgt := 125) dX5_keepsPath_113 (by decide) (by omega) ?_ ?_ | refine jw_if_eq (pc := 113) (tgt := 125) dX5_keepsPath_113 (by decide) ?_ ?_
                · intro h_113
                  refine jw_iinc (pc := 125) dX5_keepsPath_125 rfl rfl rfl ?_
                  try dsimp only [jput1, jkill, jclr, jis2_i, jis2_l, jis2_rs, jis2_rn, cond]
                  refine jw_goto (pc := 128) (tgt := 87) dX5_keepsPath_128 (by decide) ?_
                  first
                    | (refine jW.eq ?_ rfl rfl (ih2 (d - 1) (by omega) (by omega))
                       rw [e9, e2, if_pos h_113])
                    | (refine jW.eq ?_ rfl rfl (ih2 (d - 1) (by omega) (by omega))
                       rw [e9, e2, if_neg (by rw [h_113]; exact Bool.false_ne_true)])
                · intro h_113
                  refine jw_aload_n (pc := 116) dX5_keepsPath_116 rfl ?_
                  refine jx_getRs (pc := 117) (jf_X5_40_4.r) rfl dX5_keepsPath_117 rfl (is_90 hS) (by decide) (sr_90_80 hS) ?_
                  refine jw_iload (pc := 120) dX5_keepsPath_120 rfl ?_
                  refine jx_ialds (pc := 122) dX5_keepsPath_122 (ok_99 hS) (nn_99 hS) rfl (by omega) (z4 (d - 1) hdl) ?_
                  refine jw_istore (pc := 123) dX5_keepsPath_123 (Nat.le_of_ble_eq_true rfl) rfl ?_
                  try dsimp only [jput1, jput2, jkill, jclr, jis2_i, jis2_l, jis2_rs, jis2_rn, cond]
                  refine jw_iinc (pc := 125) dX5_keepsPath_125 rfl rfl rfl ?_
                  try dsimp only [jput1, jkill, jclr, jis2_i, jis2_l, jis2_rs, jis2_rn, cond]
                  refine jw_goto (pc := 128) (tgt := 87) dX5_keepsPath_128 (by decide) ?_
                  first
                    | (refine jW.eq ?_ rfl rfl (ih2 (d - 1) (by omega) (by omega))
                       rw [e9, e2, if_pos h_113])
                    | (refine jW.eq ?_ rfl rfl (ih2 (d - 1) (by omega) (by omega))
                       rw [e9, e2, if_neg (by rw [h_113]; exact Bool.false_ne_true)])
            · have hk' : d = 0 := by omega
              subst hk'
              refine jw_iload (pc := 87) dX5_keepsPath_87 rfl ?_
              refine jw_if_lt (pc := 89) (tgt := 131) dX5_keepsPath_89 (by decide) ?_ ?_
              · intro h_89
                refine jW.sub ?_ (L131 M3 z1 hS z2 z3)
                refine ⟨rfl, rfl, rfl, rfl, ?_, rfl, trivial⟩
                rw [Nat.min_eq_left (by omega), List.drop_zero, sel_led, pthC_s]; rfl
              · intro h_89
                exact absurd (by decide +kernel) h_89
          refine jw_iload (pc := 64) dX5_keepsPath_64 rfl ?_
          refine jw_iload_n (pc := 66) dX5_keepsPath_66 rfl ?_
          first | refine jx_icmp_ne (pc := 67) (tgt := 73) dX5_keepsPath_67 (by decide) (by omega) (by omega) ?_ ?_ | refine jw_icmp_ne (pc := 67) (tgt := 73) dX5_keepsPath_67 (by decide) ?_ ?_
          · intro h_67
            refine jw_aload_n (pc := 73) dX5_keepsPath_73 rfl ?_
            refine jw_iload (pc := 74) dX5_keepsPath_74 rfl ?_
            refine jx_cVE (mi1 := mi_X5_leads) (pc := 76) rfl dX5_keepsPath_76 lk_X5_485 rfl fi_X5_leads rfl rfl rfl (by decide) (is_90 hS) (t_X5_leads h3 (by omega) v2) (by first | decide | omega) rfl rfl (by decide) ?_
            refine jw_istore (pc := 79) dX5_keepsPath_79 (Nat.le_of_ble_eq_true rfl) rfl ?_
            try dsimp only [jput1, jput2, jkill, jclr, jis2_i, jis2_l, jis2_rs, jis2_rn, cond]
            refine jw_iload (pc := 81) dX5_keepsPath_81 rfl ?_
            refine jw_iconst (pc := 83) dX5_keepsPath_83 ic_1 ?_
            refine jw_isub (pc := 84) dX5_keepsPath_84 ?_
            refine jw_istore (pc := 85) dX5_keepsPath_85 (Nat.le_of_ble_eq_true rfl) rfl ?_
            try dsimp only [jput1, jput2, jkill, jclr, jis2_i, jis2_l, jis2_rs, jis2_rn, cond]
            refine jW.eq ?_ rfl rfl (K87 _ hS3 gk q3b q4b hL3 _ (Nat.le_refl _))
            rw [List.drop_length]; rfl
          · intro h_67
            omega
      refine jw_iload (pc := 15) dX5_keepsPath_15 rfl ?_
      refine jw_iload_n (pc := 17) dX5_keepsPath_17 rfl ?_
      first | refine jx_icmp_gt (pc := 18) (tgt := 137) dX5_keepsPath_18 (by decide) (by omega) (by omega) ?_ ?_ | refine jw_icmp_gt (pc := 18) (tgt := 137) dX5_keepsPath_18 (by decide) ?_ ?_
      · intro h_18
        omega
      · intro h_18
        refine jw_iconst (pc := 21) dX5_keepsPath_21 ic_0 ?_
        refine jw_istore (pc := 22) dX5_keepsPath_22 (Nat.le_of_ble_eq_true rfl) rfl ?_
        try dsimp only [jput1, jput2, jkill, jclr, jis2_i, jis2_l, jis2_rs, jis2_rn, cond]
        exact lp_k24 h2 hN hkn v1 L64 (0, M1) ⟨Nat.zero_le _, ⟨jsm.rf, hS⟩, hP⟩
    · have hk' : i = N + 1 := by omega
      subst hk'
      refine jw_iload (pc := 15) dX5_keepsPath_15 rfl ?_
      refine jw_iload_n (pc := 17) dX5_keepsPath_17 rfl ?_
      first | refine jx_icmp_gt (pc := 18) (tgt := 137) dX5_keepsPath_18 (by decide) (by omega) (by omega) ?_ ?_ | refine jw_icmp_gt (pc := 18) (tgt := 137) dX5_keepsPath_18 (by decide) ?_ ?_
      · intro h_18
        refine jw_aload_n (pc := 137) dX5_keepsPath_137 rfl ?_
        refine jw_iload_n (pc := 138) dX5_keepsPath_138 rfl ?_
        refine jx_putI (pc := 139) jf_X5_43_4 rfl dX5_keepsPath_139 rfl rfl (is_90 hS) (by decide) ?_
        refine jw_aload_n (pc := 142) dX5_keepsPath_142 rfl ?_
        refine jw_iload_n (pc := 143) dX5_keepsPath_143 rfl ?_
        refine jx_putI (pc := 144) jf_X5_389_4 rfl dX5_keepsPath_144 rfl rfl (is_90 hS) (by decide) ?_
        refine jw_return (pc := 147) dX5_keepsPath_147 rfl ?_
        refine ⟨rfl, mpth hm hv9 hf hS hp5 hN (fun p i hp hi => ?_)⟩
        have e := hf9 p i hp hi
        by_cases hb : people.testBit p = true
        · rw [if_pos hb] at e ⊢
          rw [e]; exact hP i p hp hb hi (Or.inl (by omega))
        · rw [if_neg hb] at e ⊢
          exact e
      · intro h_18
        omega
  refine jw_aload_n (pc := 0) dX5_keepsPath_0 rfl ?_
  refine jw_iload_n (pc := 1) dX5_keepsPath_1 rfl ?_
  refine jw_iload_n (pc := 2) dX5_keepsPath_2 rfl ?_
  refine jx_cVv (mi1 := mi_X5_traces) (pc := 3) rfl dX5_keepsPath_3 lk_X5_494 rfl fi_X5_traces rfl rfl rfl (by decide) (is_90 hS) (t_X5_traces h hN hg hC) (by first | decide | omega) rfl rfl (by decide) ?_
  intro M_3 q_3
  obtain ⟨q1, q2, q3⟩ := q_3
  have hS := q2
  have h2 := h.fr q1 q2 (fun a => trE_k)
  refine jw_aload_n (pc := 6) dX5_keepsPath_6 rfl ?_
  refine jx_cVE (mi1 := mi_X5_stateNow) (pc := 7) rfl dX5_keepsPath_7 lk_X5_491 rfl fi_X5_stateNow rfl rfl rfl (by decide) (is_90 hS) (t_X5_stateNow h2) (by first | decide | omega) rfl rfl (by decide) ?_
  refine jw_istore (pc := 10) dX5_keepsPath_10 (Nat.le_of_ble_eq_true rfl) rfl ?_
  try dsimp only [jput1, jput2, jkill, jclr, jis2_i, jis2_l, jis2_rs, jis2_rn, cond]
  refine jw_iconst (pc := 12) dX5_keepsPath_12 ic_0 ?_
  refine jw_istore (pc := 13) dX5_keepsPath_13 (Nat.le_of_ble_eq_true rfl) rfl ?_
  try dsimp only [jput1, jput2, jkill, jclr, jis2_i, jis2_l, jis2_rs, jis2_rn, cond]
  refine jW.eq ?_ rfl rfl (K (0, M_3) ⟨Nat.zero_le _, ⟨q1.wk (fun a z => by unfold trE at z; unfold kpE; omega), q2⟩, q3, fun i' p z1 z2 z3 z4 => by omega⟩)
  dsimp only; rw [Nat.zero_min]; rfl
end JMP
