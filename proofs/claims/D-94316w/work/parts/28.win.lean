/-! ===== windows and towers ===== -/
def bestK (f : Nat → Nat) (n : Nat) : Nat := match n with
  | 0 => 0
  | n + 1 => if 1 ≤ n ∧ f (bestK f n) < f n then n else bestK f n
theorem bestK_s (f : Nat → Nat) (n : Nat) : bestK f (n + 1) = if 1 ≤ n ∧ f (bestK f n) < f n then n else bestK f n := rfl
theorem bestK_le (f : Nat → Nat) (n : Nat) : bestK f n = 0 ∨ bestK f n < n := by
  induction n with
  | zero => exact Or.inl rfl
  | succ n ih =>
    rw [bestK_s]
    split
    · exact Or.inr (by omega)
    · omega
def windowW (o : Option Vt) (t : Int32) : Int32 := match o with
  | none => 1
  | some V => if isIx 200 t then (if V 0 3 = 0 then 6 else 0) else 2
theorem windowW_0 {o : Option Vt} {t : Int32} (h : windowW o t = 0) : ∃ V k, o = some V ∧ k < 200 ∧ t = nI k ∧ 1 ≤ V 0 3 := by
  cases o with
  | none => exact absurd (show (1 : Int32) = 0 from h) (by decide)
  | some V =>
    unfold windowW at h
    by_cases q : isIx 200 t = true
    · obtain ⟨k, h1, h2⟩ := isIx_of q
      refine ⟨V, k, rfl, h1, h2, ?_⟩
      by_cases e : V 0 3 = 0
      · exact absurd (show (6 : Int32) = 0 by simpa [q, e] using h) (by decide)
      · omega
    · exact absurd (show (2 : Int32) = 0 by simpa [q] using h) (by decide)
theorem windowW_4 (o : Option Vt) (t : Int32) : windowW o t ≠ 4 := by
  cases o with
  | none => show (1 : Int32) ≠ 4; decide
  | some V =>
    show (if isIx 200 t = true then (if V 0 3 = 0 then (6 : Int32) else 0) else 2) ≠ 4
    split
    · split <;> decide
    · decide
theorem windowW_le {o : Option Vt} {t : Int32} : windowW o t ≤ 0 → windowW o t = 0 := by
  cases o with
  | none => exact fun q => absurd (show (1 : Int32) ≤ 0 from q) (by decide +kernel)
  | some V =>
    show (if isIx 200 t = true then (if V 0 3 = 0 then (6 : Int32) else 0) else 2) ≤ 0 → (if isIx 200 t = true then (if V 0 3 = 0 then (6 : Int32) else 0) else 2) = 0
    split
    · split
      · exact fun q => absurd q (by decide +kernel)
      · exact fun _ => rfl
    · exact fun q => absurd q (by decide +kernel)
theorem windowW_v {V : Vt} {t : Int32} (h : isIx 200 t = true) : windowW (some V) t = if V 0 3 = 0 then 6 else 0 := by
  unfold windowW; exact if_pos h
theorem windowW_n {o : Option Vt} {t : Int32} (h : ¬ stepW o t = 0) : windowW o t = stepW o t := by
  cases o with
  | none => rfl
  | some V =>
    unfold stepW at h
    unfold stepW windowW
    by_cases e : isIx 200 t = true
    · exact absurd (if_pos e) h
    · show (if isIx 200 t = true then (if V 0 3 = 0 then (6 : Int32) else 0) else 2) = (if isIx 200 t = true then 0 else 2)
      rw [if_neg e, if_neg e]
def winF (V : Vt) (t : Nat) (k : Nat) : Nat := pairsV V (rangeV V t) (2 ^ k) 0
def winV (V : Vt) (t : Nat) : Nat := bestK (winF V t) (V 0 3)
def q_window (σ : Sg) (t : Int32) : Int32 × Int32 := if windowW (sv σ) t = 0 then (nI (winV (vv σ) (iN t)), 0) else (-1, windowW (sv σ) t)
def q_frees (σ : Sg) (t : Int32) : Int32 × Int32 := if windowW (sv σ) t = 0 then (nI (winF (vv σ) (iN t) (winV (vv σ) (iN t))) - nI (pairsV (vv σ) (rangeV (vv σ) (iN t)) 0 0), 0) else (-1, windowW (sv σ) t)
/-- a deed of x that leaves the state -/
def jKx (M : Mm) (σ : Sg) (x : Int32) : Rs → Mm → Prop := jPi (fun r M' => r = x ∧ jXx M' σ ∧ jfx M M')
/-- .. of m, with walls opened or fog -/
def jMo (M : Mm) (σ : Sg) : Prop := ∃ M0, jMm M0 σ ∧ ∃ a b, M = js_I (js_I M0 90 66 a) 90 67 b
theorem xoth {M : Mm} {σ : Sg} {g1 g2 : Nat → Int32} (h : jXx M σ) : jXx (js_As (js_As M 76 g1) 77 g2) σ :=
  h.up (E := fun a => a = 76 ∨ a = 77) ((jsm.As (E := fun a => a = 76 ∨ a = 77) (Or.inl rfl)).tr (jsm.As (Or.inr rfl))) h.1 (fun a q1 q2 => by omega) h.2.1 rfl rfl rfl h.2.2.1 (fun V hV q => q)
theorem foth {M : Mm} {g1 g2 : Nat → Int32} : jfx M (js_As (js_As M 76 g1) 77 g2) := (jsm.As (by decide)).tr (jsm.As (by decide))
theorem look_sr {M : Mm} {V : Vt} {r op fg : Nat} (hS : jSh M) (hw : jWf V) : jSr (lookM M 75 V r op fg) 75 V (seesS V r op fg) :=
  ⟨si_75 (M := lookM M 75 V r op fg) hS, fun a ha => ⟨by
    show jm_A (js_As _ 77 _) 77 a = _
    rw [jA_rd]; unfold lookQ; rw [if_pos ha], sees_lt hw _ _ _ _⟩⟩
section JWI
variable {G : Gh} {M : Mm} {σ : Sg}
theorem t_X1_pairsWith {op t : Nat} {V : Vt} (hX : jXx M σ) (hv9 : sv σ = some V) (ho : op < 2 ^ 31) (ht : t < 2 ^ 30) : jT G mi_X1_pairsWith 5 [jr (some 64), .int (nI op), .int (nI t)] M (jKx M σ (nI (pairsV V (rangeV V t) op 0))) := by
  have hS := hX.1
  obtain ⟨v, hs, hN⟩ := hX.so hv9
  have hv := hs.s
  have hr : rangeV V t ≤ 19 := by obtain ⟨d1, d2, d3, d4, d5⟩ := wf_d hs.w; unfold rangeV; split <;> omega
  refine jT.of (by decide) rfl (Nat.le_of_ble_eq_true rfl) ?_
  have hX2 : jXx (lookM M 75 V (rangeV V t) op 0) σ := xoth hX
  refine jw_aload_n (pc := 0) dX1_pairsWith_0 rfl ?_
  refine jx_getRs (pc := 1) (jf_X1_36_0.r) rfl dX1_pairsWith_1 rfl (is_64 hS) (by decide) (sr_64_9 hS) ?_
  refine jw_aload_n (pc := 4) dX1_pairsWith_4 rfl ?_
  refine jx_getRs (pc := 5) (jf_X1_109_0.r) rfl dX1_pairsWith_5 rfl (is_64 hS) (by decide) (hs.r) ?_
  refine jw_aload_n (pc := 8) dX1_pairsWith_8 rfl ?_
  refine jx_getRs (pc := 9) (jf_X1_109_0.r) rfl dX1_pairsWith_9 rfl (is_64 hS) (by decide) (hs.r) ?_
  refine jw_iload_n (pc := 12) dX1_pairsWith_12 rfl ?_
  refine jx_cVE (mi1 := mi_X6_range) (pc := 13) rfl dX1_pairsWith_13 lk_X1_369 rfl fi_X6_range rfl rfl rfl (by decide) (vis hv) (t_X6_range hs.V hs.w ht) (by first | decide | omega) rfl rfl (by simp only [List.map_cons, List.map_nil, List.sum_cons, List.sum_nil, cat_i, cat_l, jr_cat]; decide) ?_
  refine jw_iload_n (pc := 16) dX1_pairsWith_16 rfl ?_
  refine jw_iconst (pc := 17) dX1_pairsWith_17 ic_0 ?_
  refine jx_cVEv (mi1 := mi_X4_look) (pc := 18) rfl dX1_pairsWith_18 lk_X1_124 rfl fi_X4_look rfl rfl rfl (by decide) (is_75 hS) (t_X4_look (fg := 0) (si_75 hS) hs.V hs.w (by omega) ho (by decide)) (by first | decide | omega) rfl rfl (by decide) ?_
  obtain ⟨v2, hs2, hN2⟩ := hX2.so hv9
  have hv := hs2.s
  have hS := hX2.1
  refine jw_aload_n (pc := 21) dX1_pairsWith_21 rfl ?_
  refine jx_getRs (pc := 22) (jf_X1_36_0.r) rfl dX1_pairsWith_22 rfl (is_64 hS) (by decide) (sr_64_9 hS) ?_
  refine jw_aload_n (pc := 25) dX1_pairsWith_25 rfl ?_
  refine jx_getRs (pc := 26) (jf_X1_109_0.r) rfl dX1_pairsWith_26 rfl (is_64 hS) (by decide) (hs2.r) ?_
  refine jx_getIs (pc := 29) (jf_X1_150_5.r) rfl dX1_pairsWith_29 rfl (vis hv) (by decide) (xi_np hs2.V) ?_
  refine jx_cVE (mi1 := mi_X4_pairs) (pc := 32) rfl dX1_pairsWith_32 lk_X1_366 rfl fi_X4_pairs rfl rfl rfl (by decide) (is_75 hS) (t_X4_pairs hs.w (look_sr hX.1 hs.w)) (by first | decide | omega) rfl rfl (by decide) ?_
  refine jw_ireturn (pc := 35) dX1_pairsWith_35 rfl (rfl) ?_
  exact ⟨_, rfl, rfl, hX2, foth⟩
theorem t_X1_windowWhy {t : Int32} {o : Option Vt} (hX : jXx M σ) (ho : sv σ = o) : jE G mi_X1_windowWhy 4 [jr (some 64), .int t] M (some (.int (windowW o t))) M := by
  have hS := hX.1
  subst ho
  refine jE.of (by decide) rfl (Nat.le_of_ble_eq_true rfl) ?_
  refine jw_aload_n (pc := 0) dX1_windowWhy_0 rfl ?_
  refine jw_iload_n (pc := 1) dX1_windowWhy_1 rfl ?_
  refine jx_cVE (mi1 := mi_X1_stepWhy) (pc := 2) rfl dX1_windowWhy_2 lk_X1_176 rfl fi_X1_stepWhy rfl rfl rfl (by decide) (is_64 hS) (t_X1_stepWhy (o := sv σ) hX rfl) (by first | decide | omega) rfl rfl (by decide) ?_
  refine jw_istore_n (pc := 5) dX1_windowWhy_5 (Nat.le_of_ble_eq_true rfl) rfl ?_
  try dsimp only [jput1, jput2, jkill, jclr, jis2_i, jis2_l, jis2_rs, jis2_rn, cond]
  refine jw_iload_n (pc := 6) dX1_windowWhy_6 rfl ?_
  refine jw_if_eq (pc := 7) (tgt := 14) dX1_windowWhy_7 (by decide) ?_ ?_
  · intro h_7
    obtain ⟨V, kt, hv9, hkt, rfl⟩ := stepW_0 h_7
    obtain ⟨v, hs, hN⟩ := hX.so hv9
    have hv := hs.s
    have hnw := wf_nw hs.w
    have h200 : isIx 200 (nI kt) = true := by rw [isIx_nI (by omega)]; exact decide_eq_true hkt
    refine jw_aload_n (pc := 14) dX1_windowWhy_14 rfl ?_
    refine jx_getRs (pc := 15) (jf_X1_109_0.r) rfl dX1_windowWhy_15 rfl (is_64 hS) (by decide) (hs.r) ?_
    refine jx_getIs (pc := 18) (jf_X1_372_5.r) rfl dX1_windowWhy_18 rfl (vis hv) (by decide) (xi_nw hs.V) ?_
    first | refine jx_ifb_ne (pc := 21) (tgt := 29) dX1_windowWhy_21 (by decide) ?_ ?_ | refine jx_if_ne (pc := 21) (tgt := 29) dX1_windowWhy_21 (by decide) (by omega) ?_ ?_ | refine jw_if_ne (pc := 21) (tgt := 29) dX1_windowWhy_21 (by decide) ?_ ?_
    · intro h_21
      refine jw_iconst (pc := 29) dX1_windowWhy_29 ic_0 ?_
      refine jw_ireturn (pc := 30) dX1_windowWhy_30 rfl (rfl) ?_
      refine ⟨?_, rfl⟩
      first
        | (rw [windowW_n h_7]; done)
        | (rw [hv9, windowW_v h200, if_pos (by omega)]; rfl)
        | (rw [hv9, windowW_v h200, if_neg (by omega)]; rfl)
    · intro h_21
      refine jw_bipush (pc := 24) dX1_windowWhy_24 bp_6 ?_
      refine jw_goto (pc := 26) (tgt := 30) dX1_windowWhy_26 (by decide) ?_
      refine jw_ireturn (pc := 30) dX1_windowWhy_30 rfl (rfl) ?_
      refine ⟨?_, rfl⟩
      first
        | (rw [windowW_n h_7]; done)
        | (rw [hv9, windowW_v h200, if_pos (by omega)]; rfl)
        | (rw [hv9, windowW_v h200, if_neg (by omega)]; rfl)
  · intro h_7
    refine jw_iload_n (pc := 10) dX1_windowWhy_10 rfl ?_
    refine jw_goto (pc := 11) (tgt := 30) dX1_windowWhy_11 (by decide) ?_
    refine jw_ireturn (pc := 30) dX1_windowWhy_30 rfl (rfl) ?_
    refine ⟨?_, rfl⟩
    first
      | (rw [windowW_n h_7]; done)
      | (rw [hv9, windowW_v h200, if_pos (by omega)]; rfl)
      | (rw [hv9, windowW_v h200, if_neg (by omega)]; rfl)
theorem t_X1_bestWindow {t : Nat} {V : Vt} (hX : jXx M σ) (hv9 : sv σ = some V) (ht : t < 2 ^ 30) (h1 : 1 ≤ V 0 3) : jT G mi_X1_bestWindow 6 [jr (some 64), .int (nI t)] M (jKx M σ (nI (winV V t))) := by
  have hS := hX.1
  have hnw := wf_nw (hX.2.1.2 V hv9).1
  refine jT.of (by decide) rfl (Nat.le_of_ble_eq_true rfl) ?_
  have hb : ∀ k, k ≤ V 0 3 → bestK (winF V t) k ≤ 10 := fun k hk => by have := bestK_le (winF V t) k; omega
  have hf9 : ∀ k, winF V t k ≤ 100 := fun k => pairs_le (hX.2.1.2 V hv9).1 _ _ _
  have J : ∀ x : Nat × Mm, ((1 ≤ x.1 ∧ x.1 ≤ V 0 3) ∧ jXx x.2 σ ∧ jfx M x.2) → jW G mi_X1_bestWindow 6 M 4 [some (jr (some 64)), some (.int (nI t)), some (.int (nI (bestK (winF V t) x.1))), some (.int (nI x.1))] [] x.2 (jKx M σ (nI (winV V t))) := by
    refine jW.loop (σ := Nat × Mm) _ (fun x => V 0 3 - x.1) _ (fun _ => []) (fun x => x.2) (fun x hI ih => ?_)
    obtain ⟨k, M1⟩ := x
    obtain ⟨⟨hk1, hk2⟩, hX1, hf1⟩ := hI
    dsimp only at hk1 hk2 hX1 hf1 ih ⊢
    have hS := hX1.1
    obtain ⟨v, hs, hN⟩ := hX1.so hv9
    have hv := hs.s
    have hbk := hb k hk2
    have p2 : ∀ k, k ≤ 10 → 2 ^ k ≤ 1024 := fun k hk => p10 hk
    by_cases hkn : k < V 0 3
    · have h9 := hf9 k
      have h8 := hf9 (bestK (winF V t) k)
      have q1 := p2 k (by omega)
      have q2 := p2 _ hbk
      refine jw_iload_n (pc := 4) dX1_bestWindow_4 rfl ?_
      refine jw_aload_n (pc := 5) dX1_bestWindow_5 rfl ?_
      refine jx_getRs (pc := 6) (jf_X1_109_0.r) rfl dX1_bestWindow_6 rfl (is_64 hS) (by decide) (hs.r) ?_
      refine jx_getIs (pc := 9) (jf_X1_372_5.r) rfl dX1_bestWindow_9 rfl (vis hv) (by decide) (xi_nw hs.V) ?_
      first | refine jx_icmp_ge (pc := 12) (tgt := 42) dX1_bestWindow_12 (by decide) (by omega) (by omega) ?_ ?_ | refine jw_icmp_ge (pc := 12) (tgt := 42) dX1_bestWindow_12 (by decide) ?_ ?_
      · intro h_12
        omega
      · intro h_12
        refine jw_aload_n (pc := 15) dX1_bestWindow_15 rfl ?_
        refine jw_iconst (pc := 16) dX1_bestWindow_16 ic_1 ?_
        refine jw_iload_n (pc := 17) dX1_bestWindow_17 rfl ?_
        refine jw_ishl (pc := 18) dX1_bestWindow_18 ?_
        rw [shl1 (by omega)]
        refine jw_iload_n (pc := 19) dX1_bestWindow_19 rfl ?_
        refine jx_cVi (mi1 := mi_X1_pairsWith) (pc := 20) rfl dX1_bestWindow_20 lk_X1_375 rfl fi_X1_pairsWith rfl rfl rfl (by decide) (is_64 hS) (t_X1_pairsWith hX1 hv9 (by omega) (by omega)) (by first | decide | omega) rfl rfl (by decide) ?_
        intro x_20 M_20 q_20
        obtain ⟨e1, hX2, hf2⟩ := q_20
        subst e1
        have hS := hX2.1
        refine jw_aload_n (pc := 23) dX1_bestWindow_23 rfl ?_
        refine jw_iconst (pc := 24) dX1_bestWindow_24 ic_1 ?_
        refine jw_iload_n (pc := 25) dX1_bestWindow_25 rfl ?_
        refine jw_ishl (pc := 26) dX1_bestWindow_26 ?_
        rw [shl1 (by omega)]
        refine jw_iload_n (pc := 27) dX1_bestWindow_27 rfl ?_
        refine jx_cVi (mi1 := mi_X1_pairsWith) (pc := 28) rfl dX1_bestWindow_28 lk_X1_375 rfl fi_X1_pairsWith rfl rfl rfl (by decide) (is_64 hS) (t_X1_pairsWith hX2 hv9 (by omega) (by omega)) (by first | decide | omega) rfl rfl (by simp only [List.map_cons, List.map_nil, List.sum_cons, List.sum_nil, Value.category]; decide) ?_
        intro x_28 M_28 q_28
        obtain ⟨e1, hX3, hf3⟩ := q_28
        subst e1
        rw [show pairsV V (rangeV V t) (2 ^ k) 0 = winF V t k from rfl, show pairsV V (rangeV V t) (2 ^ bestK (winF V t) k) 0 = winF V t (bestK (winF V t) k) from rfl]
        first | refine jx_icmp_le (pc := 31) (tgt := 36) dX1_bestWindow_31 (by decide) (by omega) (by omega) ?_ ?_ | refine jw_icmp_le (pc := 31) (tgt := 36) dX1_bestWindow_31 (by decide) ?_ ?_
        · intro h_31
          first | refine jx_iinc (pc := 36) dX1_bestWindow_36 rfl rfl ?_ | refine jw_iinc (pc := 36) dX1_bestWindow_36 rfl rfl rfl ?_
          try dsimp only [jput1, jkill, jclr, jis2_i, jis2_l, jis2_rs, jis2_rn, cond]
          refine jw_goto (pc := 39) (tgt := 4) dX1_bestWindow_39 (by decide) ?_
          refine jW.eq ?_ rfl rfl (ih (k + 1, M_28) ⟨⟨by dsimp only; omega, by dsimp only; omega⟩, hX3, hf1.tr (hf2.tr hf3)⟩ (by dsimp only; omega))
          dsimp only
          rw [bestK_s]
          first | rw [if_pos ⟨hk1, by omega⟩] | rw [if_neg (by omega)]
        · intro h_31
          refine jw_iload_n (pc := 34) dX1_bestWindow_34 rfl ?_
          refine jw_istore_n (pc := 35) dX1_bestWindow_35 (Nat.le_of_ble_eq_true rfl) rfl ?_
          try dsimp only [jput1, jput2, jkill, jclr, jis2_i, jis2_l, jis2_rs, jis2_rn, cond]
          first | refine jx_iinc (pc := 36) dX1_bestWindow_36 rfl rfl ?_ | refine jw_iinc (pc := 36) dX1_bestWindow_36 rfl rfl rfl ?_
          try dsimp only [jput1, jkill, jclr, jis2_i, jis2_l, jis2_rs, jis2_rn, cond]
          refine jw_goto (pc := 39) (tgt := 4) dX1_bestWindow_39 (by decide) ?_
          refine jW.eq ?_ rfl rfl (ih (k + 1, M_28) ⟨⟨by dsimp only; omega, by dsimp only; omega⟩, hX3, hf1.tr (hf2.tr hf3)⟩ (by dsimp only; omega))
          dsimp only
          rw [bestK_s]
          first | rw [if_pos ⟨hk1, by omega⟩] | rw [if_neg (by omega)]
    · have hk' : k = V 0 3 := by omega
      subst hk'
      refine jw_iload_n (pc := 4) dX1_bestWindow_4 rfl ?_
      refine jw_aload_n (pc := 5) dX1_bestWindow_5 rfl ?_
      refine jx_getRs (pc := 6) (jf_X1_109_0.r) rfl dX1_bestWindow_6 rfl (is_64 hS) (by decide) (hs.r) ?_
      refine jx_getIs (pc := 9) (jf_X1_372_5.r) rfl dX1_bestWindow_9 rfl (vis hv) (by decide) (xi_nw hs.V) ?_
      first | refine jx_icmp_ge (pc := 12) (tgt := 42) dX1_bestWindow_12 (by decide) (by omega) (by omega) ?_ ?_ | refine jw_icmp_ge (pc := 12) (tgt := 42) dX1_bestWindow_12 (by decide) ?_ ?_
      · intro h_12
        refine jw_iload_n (pc := 42) dX1_bestWindow_42 rfl ?_
        refine jw_ireturn (pc := 43) dX1_bestWindow_43 rfl (rfl) ?_
        exact ⟨_, rfl, rfl, hX1, hf1⟩
      · intro h_12
        omega
  refine jw_iconst (pc := 0) dX1_bestWindow_0 ic_0 ?_
  refine jw_istore_n (pc := 1) dX1_bestWindow_1 (Nat.le_of_ble_eq_true rfl) rfl ?_
  try dsimp only [jput1, jput2, jkill, jclr, jis2_i, jis2_l, jis2_rs, jis2_rn, cond]
  refine jw_iconst (pc := 2) dX1_bestWindow_2 ic_1 ?_
  refine jw_istore_n (pc := 3) dX1_bestWindow_3 (Nat.le_of_ble_eq_true rfl) rfl ?_
  try dsimp only [jput1, jput2, jkill, jclr, jis2_i, jis2_l, jis2_rs, jis2_rn, cond]
  exact J (1, M) ⟨⟨Nat.le_refl _, h1⟩, hX, jsm.rf⟩
theorem t_X1_window {t : Int32} (h : jXx M σ) : jT G mi_X1_window 9 [jr (some 64), .int t] M (jQx M σ (q_window σ t)) := by
  have hS := h.1
  refine jT.of (by decide) rfl (Nat.le_of_ble_eq_true rfl) ?_
  refine jw_aload_n (pc := 0) dX1_window_0 rfl ?_
  refine jx_cVv (mi1 := mi_X1_anew) (pc := 1) rfl dX1_window_1 lk_X1_84 rfl fi_X1_anew rfl rfl rfl (by decide) (is_64 hS) (t_X1_anew h) (by first | decide | omega) rfl rfl (by decide) ?_
  intro M_1 q_1
  obtain ⟨hX, hf⟩ := q_1
  have hS := hX.1
  refine jw_aload_n (pc := 4) dX1_window_4 rfl ?_
  refine jw_iload_n (pc := 5) dX1_window_5 rfl ?_
  refine jx_cVE (mi1 := mi_X1_windowWhy) (pc := 6) rfl dX1_window_6 lk_X1_378 rfl fi_X1_windowWhy rfl rfl rfl (by decide) (is_64 hS) (t_X1_windowWhy (o := sv σ) hX rfl) (by first | decide | omega) rfl rfl (by decide) ?_
  refine jw_istore_n (pc := 9) dX1_window_9 (Nat.le_of_ble_eq_true rfl) rfl ?_
  try dsimp only [jput1, jput2, jkill, jclr, jis2_i, jis2_l, jis2_rs, jis2_rn, cond]
  refine jw_iload_n (pc := 10) dX1_window_10 rfl ?_
  refine jw_if_eq (pc := 11) (tgt := 22) dX1_window_11 (by decide) ?_ ?_
  · intro h_11
    obtain ⟨V, kt, hv9, hkt, rfl, hw1⟩ := windowW_0 h_11
    refine jw_aload_n (pc := 22) dX1_window_22 rfl ?_
    refine jw_iload_n (pc := 23) dX1_window_23 rfl ?_
    refine jx_cVi (mi1 := mi_X1_bestWindow) (pc := 24) rfl dX1_window_24 lk_X1_381 rfl fi_X1_bestWindow rfl rfl rfl (by decide) (is_64 hS) (t_X1_bestWindow hX hv9 (t := kt) (by omega) hw1) (by first | decide | omega) rfl rfl (by decide) ?_
    intro x_24 M_24 q_24
    refine jw_ireturn (pc := 27) dX1_window_27 rfl (rfl) ?_
    first
      | (refine qx_no ?_ hf q_16; unfold q_window; rw [if_neg h_11])
      | (obtain ⟨e1, hX2, hf2⟩ := q_24; subst e1; refine qx_ok ?_ (hf.tr hf2) hX2; unfold q_window; rw [if_pos h_11, vv_s hv9, iN_n (by omega)])
  · intro h_11
    refine jw_aload_n (pc := 14) dX1_window_14 rfl ?_
    refine jw_iload_n (pc := 15) dX1_window_15 rfl ?_
    refine jx_cVi (mi1 := mi_X1_no) (pc := 16) rfl dX1_window_16 lk_X1_98 rfl fi_X1_no rfl rfl rfl (by decide) (is_64 hS) (t_X1_no hX (windowW_4 _ _)) (by first | decide | omega) rfl rfl (by decide) ?_
    intro x_16 M_16 q_16
    refine jw_goto (pc := 19) (tgt := 27) dX1_window_19 (by decide) ?_
    refine jw_ireturn (pc := 27) dX1_window_27 rfl (rfl) ?_
    first
      | (refine qx_no ?_ hf q_16; unfold q_window; rw [if_neg h_11])
      | (obtain ⟨e1, hX2, hf2⟩ := q_24; subst e1; refine qx_ok ?_ (hf.tr hf2) hX2; unfold q_window; rw [if_pos h_11, vv_s hv9, iN_n (by omega)])
theorem t_X1_frees {t : Int32} (h : jXx M σ) : jT G mi_X1_frees 9 [jr (some 64), .int t] M (jQx M σ (q_frees σ t)) := by
  have hS := h.1
  refine jT.of (by decide) rfl (Nat.le_of_ble_eq_true rfl) ?_
  refine jw_aload_n (pc := 0) dX1_frees_0 rfl ?_
  refine jx_cVv (mi1 := mi_X1_anew) (pc := 1) rfl dX1_frees_1 lk_X1_84 rfl fi_X1_anew rfl rfl rfl (by decide) (is_64 hS) (t_X1_anew h) (by first | decide | omega) rfl rfl (by decide) ?_
  intro M_1 q_1
  obtain ⟨hX, hf⟩ := q_1
  have hS := hX.1
  refine jw_aload_n (pc := 4) dX1_frees_4 rfl ?_
  refine jw_iload_n (pc := 5) dX1_frees_5 rfl ?_
  refine jx_cVE (mi1 := mi_X1_windowWhy) (pc := 6) rfl dX1_frees_6 lk_X1_378 rfl fi_X1_windowWhy rfl rfl rfl (by decide) (is_64 hS) (t_X1_windowWhy (o := sv σ) hX rfl) (by first | decide | omega) rfl rfl (by decide) ?_
  refine jw_istore_n (pc := 9) dX1_frees_9 (Nat.le_of_ble_eq_true rfl) rfl ?_
  try dsimp only [jput1, jput2, jkill, jclr, jis2_i, jis2_l, jis2_rs, jis2_rn, cond]
  refine jw_iload_n (pc := 10) dX1_frees_10 rfl ?_
  refine jw_if_eq (pc := 11) (tgt := 22) dX1_frees_11 (by decide) ?_ ?_
  · intro h_11
    obtain ⟨V, kt, hv9, hkt, rfl, hw1⟩ := windowW_0 h_11
    have hnw := wf_nw (hX.2.1.2 V hv9).1
    have hbk : winV V kt ≤ 10 := by have := bestK_le (winF V kt) (V 0 3); unfold winV; omega
    have q1 : 2 ^ winV V kt ≤ 1024 := p10 hbk
    refine jw_aload_n (pc := 22) dX1_frees_22 rfl ?_
    refine jw_iconst (pc := 23) dX1_frees_23 ic_1 ?_
    refine jw_aload_n (pc := 24) dX1_frees_24 rfl ?_
    refine jw_iload_n (pc := 25) dX1_frees_25 rfl ?_
    refine jx_cVi (mi1 := mi_X1_bestWindow) (pc := 26) rfl dX1_frees_26 lk_X1_381 rfl fi_X1_bestWindow rfl rfl rfl (by decide) (is_64 hS) (t_X1_bestWindow hX hv9 (t := kt) (by omega) hw1) (by first | decide | omega) rfl rfl (by simp only [List.map_cons, List.map_nil, List.sum_cons, List.sum_nil, cat_i, cat_l, jr_cat]; decide) ?_
    intro x_26 M_26 q_26
    obtain ⟨e1, hX2, hf2⟩ := q_26
    subst e1
    have hS := hX2.1
    refine jw_ishl (pc := 29) dX1_frees_29 ?_
    rw [shl1 (by omega)]
    refine jw_iload_n (pc := 30) dX1_frees_30 rfl ?_
    refine jx_cVi (mi1 := mi_X1_pairsWith) (pc := 31) rfl dX1_frees_31 lk_X1_375 rfl fi_X1_pairsWith rfl rfl rfl (by decide) (is_64 hS) (t_X1_pairsWith hX2 hv9 (by omega) (by omega)) (by first | decide | omega) rfl rfl (by decide) ?_
    intro x_31 M_31 q_31
    obtain ⟨e1, hX3, hf3⟩ := q_31
    subst e1
    have hS := hX3.1
    obtain ⟨v, hs, hN⟩ := hX3.so hv9
    have hv := hs.s
    refine jw_aload_n (pc := 34) dX1_frees_34 rfl ?_
    refine jw_iload_n (pc := 35) dX1_frees_35 rfl ?_
    refine jx_cVE (mi1 := mi_X1_sight) (pc := 36) rfl dX1_frees_36 lk_X1_166 rfl fi_X1_sight rfl rfl rfl (by decide) (is_64 hS) (t_X1_sight (t := kt) hs (by omega)) (by first | decide | omega) rfl rfl (by simp only [List.map_cons, List.map_nil, List.sum_cons, List.sum_nil, Value.category]; decide) ?_
    refine jw_aload_n (pc := 39) dX1_frees_39 rfl ?_
    refine jx_getRs (pc := 40) (jf_X1_109_0.r) rfl dX1_frees_40 rfl (is_64 hS) (by decide) (hs.r) ?_
    refine jx_getIs (pc := 43) (jf_X1_150_5.r) rfl dX1_frees_43 rfl (vis hv) (by decide) (xi_np hs.V) ?_
    refine jx_cVE (mi1 := mi_X4_pairs) (pc := 46) rfl dX1_frees_46 lk_X1_366 rfl fi_X4_pairs rfl rfl rfl (by decide) ((sgt_si hs kt).1) (t_X4_pairs hs.w (sgt_sr hs kt)) (by first | decide | omega) rfl rfl (by simp only [List.map_cons, List.map_nil, List.sum_cons, List.sum_nil, Value.category]; decide) ?_
    refine jw_isub (pc := 49) dX1_frees_49 ?_
    refine jw_ireturn (pc := 50) dX1_frees_50 rfl (rfl) ?_
    first
      | (refine qx_no ?_ hf q_16; unfold q_frees; rw [if_neg h_11])
      | (refine qx_ok ?_ (hf.tr (hf2.tr hf3)) hX3; unfold q_frees; rw [if_pos h_11, vv_s hv9, iN_n (by omega)]; rfl)
  · intro h_11
    refine jw_aload_n (pc := 14) dX1_frees_14 rfl ?_
    refine jw_iload_n (pc := 15) dX1_frees_15 rfl ?_
    refine jx_cVi (mi1 := mi_X1_no) (pc := 16) rfl dX1_frees_16 lk_X1_98 rfl fi_X1_no rfl rfl rfl (by decide) (is_64 hS) (t_X1_no hX (windowW_4 _ _)) (by first | decide | omega) rfl rfl (by decide) ?_
    intro x_16 M_16 q_16
    refine jw_goto (pc := 19) (tgt := 50) dX1_frees_19 (by decide) ?_
    refine jw_ireturn (pc := 50) dX1_frees_50 rfl (rfl) ?_
    first
      | (refine qx_no ?_ hf q_16; unfold q_frees; rw [if_neg h_11])
      | (refine qx_ok ?_ (hf.tr (hf2.tr hf3)) hX3; unfold q_frees; rw [if_pos h_11, vv_s hv9, iN_n (by omega)]; rfl)
end JWI
