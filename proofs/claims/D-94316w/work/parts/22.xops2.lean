/-! ===== deeds ===== -/
def jOx (M : Mm) (o : Int32 × Sg) : Rs → Mm → Prop := jPi (fun x M' => x = o.1 ∧ jXx M' o.2 ∧ jfx M M')
def jOm (M : Mm) (o : Int32 × Sg) : Rs → Mm → Prop := jPi (fun x M' => x = o.1 ∧ jMm M' o.2 ∧ jfm M M')
def o_put (σ : Sg) (p a : Int32) : Int32 × Sg := if ixV (sv σ) 1 p && ixV (sv σ) 0 a then (1, sgA (sgT σ 0 (-1)) 0 (fun k => if k = iN p then iN a else sa σ 0 k)) else (0, sgT σ 1 (-1))
def o_time (σ : Sg) (t : Int32) : Int32 × Sg := match sv σ with
  | none => (0, sgT σ 1 (-1))
  | some _ => if isIx 100 t then (1, sgN (sgT σ 0 (-1)) 0 (iN t)) else (0, sgT σ 2 (-1))
def o_seed (σ : Sg) (t : Int32) : Int32 × Sg := match sv σ with
  | none => (0, sgT σ 1 (-1))
  | some _ => if isIx 65537 t then (1, sgN (sgT σ 0 (-1)) 1 (iN t)) else (0, sgT σ 2 (-1))
def planF (σ : Sg) (p t0 t1 a : Nat) : Nat → Nat := fun i => if 100 * p + t0 ≤ i ∧ i < 100 * p + t1 then a else sa σ 1 i
def o_move (σ : Sg) (p t a : Int32) : Int32 × Sg := if ixV (sv σ) 1 p && ixV (sv σ) 0 a then (if isIx (vv σ 0 12) t then (1, sgA (sgT σ 0 (-1)) 1 (planF σ (iN p) (iN t) 100 (iN a))) else (0, sgT σ 2 (-1))) else (0, sgT σ 1 (-1))
def toldF (V : Vt) (σ : Sg) : Nat → Nat := fun i => if i < 100 * V 0 1 then V 11 (i / 100) else sa σ 1 i
def o_forget (σ : Sg) : Int32 × Sg := match sv σ with
  | none => (0, sgT σ 1 (-1))
  | some V => (1, sgA (sgT σ 0 (-1)) 1 (toldF V σ))
def q_path (σ : Sg) (p i : Int32) : Int32 := if ixV (sv σ) 1 p && inb i (nI 0) (si σ 3) then sb σ 1 (31 * iN p + iN i) else -1
theorem jSo.A0 {σ : Sg} {f : Nat → Nat} (h : jSo σ) (hf : ∀ V, sv σ = some V → ∀ p, p < V 0 1 → f p < V 0 0) : jSo (sgA σ 0 f) := by
  refine ⟨h.1, fun V hV => ?_⟩
  obtain ⟨h1, h2, h3, h4⟩ := h.2 V hV
  exact ⟨h1, fun p hp => hf V hV p hp, h3, h4⟩
theorem jSo.A1 {σ : Sg} {f : Nat → Nat} (h : jSo σ) (hf : ∀ V, sv σ = some V → ∀ p t, p < V 0 1 → t < 100 → f (100 * p + t) < V 0 0) : jSo (sgA σ 1 f) := by
  refine ⟨h.1, fun V hV => ?_⟩
  obtain ⟨h1, h2, h3, h4⟩ := h.2 V hV
  exact ⟨h1, h2, fun p t hp ht => hf V hV p t hp ht, h4⟩
theorem jSo.N0 {σ : Sg} {t : Nat} (h : jSo σ) (ht : t < 100) : jSo (sgN σ 0 t) := by
  refine ⟨h.1, fun V hV => ?_⟩
  obtain ⟨h1, h2, h3, h4, h5⟩ := h.2 V hV
  exact ⟨h1, h2, h3, ht, h5⟩
theorem jSo.N1 {σ : Sg} {t : Nat} (h : jSo σ) (ht : t < 65537) : jSo (sgN σ 1 t) := by
  refine ⟨h.1, fun V hV => ?_⟩
  obtain ⟨h1, h2, h3, h4, h5, h6⟩ := h.2 V hV
  exact ⟨h1, h2, h3, h4, ht, h6⟩
theorem xput {M M1 : Mm} {σ : Sg} {f : Nat → Nat} (h : jXx M σ) (g : jsm (fun a => a = 78) M M1) (hS : jSh M1) (hI : ∀ k, jm_I M1 64 k = jm_I M 64 k) (hR : ∀ k, jm_R M1 64 k = jm_R M 64 k) (hA : ∀ k, jm_A M1 80 k = jm_A M 80 k) (hB : ∀ k, jm_A M1 87 k = jm_A M 87 k)
    (hf : ∀ V, sv σ = some V → ∀ p, p < V 0 1 → jm_A M1 78 p = nI (f p) ∧ f p < V 0 0) : jXx M1 (sgA σ 0 f) := by
  obtain ⟨h3, h4, h5, h6, h7⟩ := h.2.2.1
  exact h.up g hS (fun a q1 q2 => by omega) (h.2.1.A0 (fun V hV p hp => (hf V hV p hp).2)) rfl rfl (hR _) ⟨(hI _).trans h3, (hI _).trans h4, (hI _).trans h5, fun q => (hI _).trans (h6 q), h7⟩
    (fun V hV q => ⟨(hI _).trans q.1, (hI _).trans q.2.1, (hI _).trans q.2.2.1, fun p hp => (hf V hV p hp).1, fun p t hp ht => (hA _).trans (q.2.2.2.2.1 p t hp ht), fun k hk => (hB _).trans (q.2.2.2.2.2 k hk)⟩)
theorem xplan {M M1 : Mm} {σ : Sg} {f : Nat → Nat} (h : jXx M σ) (g : jsm (fun a => a = 80) M M1) (hS : jSh M1) (hI : ∀ k, jm_I M1 64 k = jm_I M 64 k) (hR : ∀ k, jm_R M1 64 k = jm_R M 64 k) (hA : ∀ k, jm_A M1 78 k = jm_A M 78 k) (hB : ∀ k, jm_A M1 87 k = jm_A M 87 k)
    (hf : ∀ V, sv σ = some V → ∀ p t, p < V 0 1 → t < 100 → jm_A M1 80 (100 * p + t) = nI (f (100 * p + t)) ∧ f (100 * p + t) < V 0 0) : jXx M1 (sgA σ 1 f) := by
  obtain ⟨h3, h4, h5, h6, h7⟩ := h.2.2.1
  exact h.up g hS (fun a q1 q2 => by omega) (h.2.1.A1 (fun V hV p t hp ht => (hf V hV p t hp ht).2)) rfl rfl (hR _) ⟨(hI _).trans h3, (hI _).trans h4, (hI _).trans h5, fun q => (hI _).trans (h6 q), h7⟩
    (fun V hV q => ⟨(hI _).trans q.1, (hI _).trans q.2.1, (hI _).trans q.2.2.1, fun p hp => (hA _).trans (q.2.2.2.1 p hp), fun p t hp ht => (hf V hV p t hp ht).1, fun k hk => (hB _).trans (q.2.2.2.2.2 k hk)⟩)
theorem xstep {M : Mm} {σ : Sg} {t : Nat} (h : jXx M σ) (ht : t < 100) : jXx (js_I M 64 13 (nI t)) (sgN σ 0 t) := by
  obtain ⟨h3, h4, h5, h6, h7⟩ := h.2.2.1
  exact h.up (E := fun a => a = 64) (jsm.I rfl) h.1 (fun a q1 q2 => by omega) (h.2.1.N0 ht) rfl rfl rfl ⟨h3, h4, h5, h6, h7⟩ (fun V hV q => ⟨rfl, q.2.1, q.2.2.1, q.2.2.2.1, q.2.2.2.2.1, q.2.2.2.2.2⟩)
theorem xseed {M : Mm} {σ : Sg} {t : Nat} (h : jXx M σ) (ht : t < 65537) : jXx (js_I M 64 14 (nI t)) (sgN σ 1 t) := by
  obtain ⟨h3, h4, h5, h6, h7⟩ := h.2.2.1
  exact h.up (E := fun a => a = 64) (jsm.I rfl) h.1 (fun a q1 q2 => by omega) (h.2.1.N1 ht) rfl rfl rfl ⟨h3, h4, h5, h6, h7⟩ (fun V hV q => ⟨q.1, rfl, q.2.2.1, q.2.2.2.1, q.2.2.2.2.1, q.2.2.2.2.2⟩)
theorem lp_move {G : Gh} {M M9 : Mm} {P : Rs → Mm → Prop} {g h : Nat → Int32} {x2 : Value} {kp k ka : Nat} (hS : jSh M) (hk : k < 100) (hp : kp < 5) (ih : jW G mi_X1_move 9 M9 58 [some (jr (some 64)), some (.int (nI kp)), some x2, some (.int (nI ka)), none, some (.int (nI (k + 1)))] [] (js_As M 80 h) P) (e : js_As M 80 (fun i => if i = 100 * kp + k then nI ka else g i) = js_As M 80 h) : jW G mi_X1_move 9 M9 58 [some (jr (some 64)), some (.int (nI kp)), some x2, some (.int (nI ka)), none, some (.int (nI k))] [] (js_As M 80 g) P := by
  refine jw_iload (pc := 58) dX1_move_58 rfl ?_
  refine jw_bipush (pc := 60) dX1_move_60 bp_100 ?_
  first | refine jx_icmp_ge (pc := 62) (tgt := 84) dX1_move_62 (by decide) (by omega) (by omega) ?_ ?_ | refine jw_icmp_ge (pc := 62) (tgt := 84) dX1_move_62 (by decide) ?_ ?_
  · intro h_62
    omega
  · intro h_62
    refine jw_aload_n (pc := 65) dX1_move_65 rfl ?_
    refine jx_getRs (pc := 66) (jf_X1_46_0.r) rfl dX1_move_66 rfl (is_64 hS) (by decide) (sr_64_12 hS) ?_
    refine jw_bipush (pc := 69) dX1_move_69 bp_100 ?_
    refine jw_iload_n (pc := 71) dX1_move_71 rfl ?_
    first | refine jx_imul (pc := 72) dX1_move_72 ?_ | refine jw_imul (pc := 72) dX1_move_72 ?_
    refine jw_iload (pc := 73) dX1_move_73 rfl ?_
    first | refine jx_iadd (pc := 75) dX1_move_75 ?_ | refine jw_iadd (pc := 75) dX1_move_75 ?_
    refine jw_iload_n (pc := 76) dX1_move_76 rfl ?_
    refine jx_iast (pc := 77) dX1_move_77 (by decide) (ok_80 hS) (nn_80 hS) rfl (by omega) ?_
    first | refine jx_iinc (pc := 78) dX1_move_78 rfl rfl ?_ | refine jw_iinc (pc := 78) dX1_move_78 rfl rfl rfl ?_
    try dsimp only [jput1, jkill, jclr, jis2_i, jis2_l, jis2_rs, jis2_rn, cond]
    refine jw_goto (pc := 81) (tgt := 58) dX1_move_81 (by decide) ?_
    refine jW.eq rfl rfl ?_ ih
    rw [jAs_A]; exact e.symm
theorem lp_move2 {G : Gh} {M M9 : Mm} {P : Rs → Mm → Prop} {g : Nat → Int32} {x1 x2 x3 : Option Value} (hS : jSh M) (ih : P (.inl (some (.int (nI 1)))) (js_As M 80 g)) : jW G mi_X1_move 9 M9 58 [some (jr (some 64)), x1, x2, x3, none, some (.int (nI 100))] [] (js_As M 80 g) P := by
  refine jw_iload (pc := 58) dX1_move_58 rfl ?_
  refine jw_bipush (pc := 60) dX1_move_60 bp_100 ?_
  first | refine jx_icmp_ge (pc := 62) (tgt := 84) dX1_move_62 (by decide) (by omega) (by omega) ?_ ?_ | refine jw_icmp_ge (pc := 62) (tgt := 84) dX1_move_62 (by decide) ?_ ?_
  · intro h_62
    refine jw_iconst (pc := 84) dX1_move_84 ic_1 ?_
    refine jw_ireturn (pc := 85) dX1_move_85 rfl (by first | exact jnar_b _ | exact jnar_0 | exact jnar_1 | decide +kernel) ?_
    exact ih
  · intro h_62
    omega
theorem path_ix {x a : Int32} (h : x = -1 ∨ ∃ n, n ≤ 30 ∧ x = nI n) (h2 : inb a (nI 0) x = true) : ∃ k, k ≤ 30 ∧ a = nI k := by
  rcases h with h | ⟨n, h3, h4⟩
  · subst h
    rw [inb_iff] at h2
    rw [nI_toInt (by decide)] at h2
    have : ((-1 : Int32)).toInt = -1 := by decide +kernel
    omega
  · subst h4
    rw [inb_ix' (by omega)] at h2
    obtain ⟨k, h5, h6⟩ := isIx_of h2
    exact ⟨k, by omega, h6⟩
section JO2
variable {G : Gh} {M : Mm} {σ : Sg}
theorem t_X1_put {p a : Int32} (hX : jXx M σ) : jT G mi_X1_put 9 [jr (some 64), .int p, .int a] M (jOx M (o_put σ p a)) := by
  have hS := hX.1
  refine jT.of (by decide) rfl (Nat.le_of_ble_eq_true rfl) ?_
  refine jw_aload_n (pc := 0) dX1_put_0 rfl ?_
  refine jw_aload_n (pc := 1) dX1_put_1 rfl ?_
  refine jw_iload_n (pc := 2) dX1_put_2 rfl ?_
  refine jx_cVE (mi1 := mi_X1_isPerson) (pc := 3) rfl dX1_put_3 lk_X1_183 rfl fi_X1_isPerson rfl rfl rfl (by decide) (is_64 hS) (t_X1_isPerson (o := sv σ) hX rfl) (by first | decide | omega) rfl rfl (by simp only [List.map_cons, List.map_nil, List.sum_cons, List.sum_nil, cat_i, cat_l, jr_cat]; decide) ?_
  first | refine jx_ifb_eq (pc := 6) (tgt := 21) dX1_put_6 (by decide) ?_ ?_ | refine jx_if_eq (pc := 6) (tgt := 21) dX1_put_6 (by decide) (by omega) ?_ ?_ | refine jw_if_eq (pc := 6) (tgt := 21) dX1_put_6 (by decide) ?_ ?_
  · intro h_6
    refine jw_iconst (pc := 21) dX1_put_21 ic_1 ?_
    refine jx_cVi (mi1 := mi_X1_yes) (pc := 22) rfl dX1_put_22 lk_X1_218 rfl fi_X1_yes rfl rfl rfl (by decide) (is_64 hS) (t_X1_yes hX (by decide)) (by first | decide | omega) rfl rfl (by decide) ?_
    intro x_22 M_22 q_22
    obtain ⟨e, hX1, hf⟩ := q_22
    have hS := hX1.1
    first | (have e := e.trans (show _ = nI 1 by decide +kernel); subst e) | (have e := e.trans (show _ = nI 0 by decide +kernel); subst e)
    refine jw_if_ne (pc := 25) (tgt := 30) dX1_put_25 (by decide) (fun h => ?_) (fun h => ?_)
    · first | exact absurd h (by decide +kernel) | exact absurd (by decide +kernel) h
    refine jw_iconst (pc := 28) dX1_put_28 ic_0 ?_
    refine jw_ireturn (pc := 29) dX1_put_29 rfl (by first | exact jnar_b _ | exact jnar_0 | exact jnar_1 | decide +kernel) ?_
    refine ⟨_, rfl, ?_⟩
    unfold o_put
    first | (rw [h_6]; exact ⟨rfl, hX1, hf⟩) | (rw [h_14, Bool.and_false]; exact ⟨rfl, hX1, hf⟩)
  · intro h_6
    refine jw_aload_n (pc := 9) dX1_put_9 rfl ?_
    refine jw_iload_n (pc := 10) dX1_put_10 rfl ?_
    refine jx_cVE (mi1 := mi_X1_isPlace) (pc := 11) rfl dX1_put_11 lk_X1_163 rfl fi_X1_isPlace rfl rfl rfl (by decide) (is_64 hS) (t_X1_isPlace (o := sv σ) hX rfl) (by first | decide | omega) rfl rfl (by simp only [List.map_cons, List.map_nil, List.sum_cons, List.sum_nil, cat_i, cat_l, jr_cat]; decide) ?_
    first | refine jx_ifb_eq (pc := 14) (tgt := 21) dX1_put_14 (by decide) ?_ ?_ | refine jx_if_eq (pc := 14) (tgt := 21) dX1_put_14 (by decide) (by omega) ?_ ?_ | refine jw_if_eq (pc := 14) (tgt := 21) dX1_put_14 (by decide) ?_ ?_
    · intro h_14
      refine jw_iconst (pc := 21) dX1_put_21 ic_1 ?_
      refine jx_cVi (mi1 := mi_X1_yes) (pc := 22) rfl dX1_put_22 lk_X1_218 rfl fi_X1_yes rfl rfl rfl (by decide) (is_64 hS) (t_X1_yes hX (by decide)) (by first | decide | omega) rfl rfl (by decide) ?_
      intro x_22 M_22 q_22
      obtain ⟨e, hX1, hf⟩ := q_22
      have hS := hX1.1
      first | (have e := e.trans (show _ = nI 1 by decide +kernel); subst e) | (have e := e.trans (show _ = nI 0 by decide +kernel); subst e)
      refine jw_if_ne (pc := 25) (tgt := 30) dX1_put_25 (by decide) (fun h => ?_) (fun h => ?_)
      · first | exact absurd h (by decide +kernel) | exact absurd (by decide +kernel) h
      refine jw_iconst (pc := 28) dX1_put_28 ic_0 ?_
      refine jw_ireturn (pc := 29) dX1_put_29 rfl (by first | exact jnar_b _ | exact jnar_0 | exact jnar_1 | decide +kernel) ?_
      refine ⟨_, rfl, ?_⟩
      unfold o_put
      first | (rw [h_6]; exact ⟨rfl, hX1, hf⟩) | (rw [h_14, Bool.and_false]; exact ⟨rfl, hX1, hf⟩)
    · intro h_14
      obtain ⟨V, kp, hv9, hkp, rfl⟩ := ixV_t h_6
      obtain ⟨V', ka, hv', hka, rfl⟩ := ixV_t h_14
      cases (Option.some.inj (hv9.symm.trans hv'))
      have hw := (hX.2.1.2 V hv9).1
      have hn := wf_nq hw
      have hn0 := wf_np hw
      refine jw_iconst (pc := 17) dX1_put_17 ic_0 ?_
      refine jw_goto (pc := 18) (tgt := 22) dX1_put_18 (by decide) ?_
      refine jx_cVi (mi1 := mi_X1_yes) (pc := 22) rfl dX1_put_22 lk_X1_218 rfl fi_X1_yes rfl rfl rfl (by decide) (is_64 hS) (t_X1_yes hX (by decide)) (by first | decide | omega) rfl rfl (by decide) ?_
      intro x_22 M_22 q_22
      obtain ⟨e, hX1, hf⟩ := q_22
      have hS := hX1.1
      first | (have e := e.trans (show _ = nI 1 by decide +kernel); subst e) | (have e := e.trans (show _ = nI 0 by decide +kernel); subst e)
      refine jw_if_ne (pc := 25) (tgt := 30) dX1_put_25 (by decide) (fun h => ?_) (fun h => ?_)
      rotate_left
      · first | exact absurd h (by decide +kernel) | exact absurd (by decide +kernel) h
      refine jw_aload_n (pc := 30) dX1_put_30 rfl ?_
      refine jx_getRs (pc := 31) (jf_X1_39_0.r) rfl dX1_put_31 rfl (is_64 hS) (by decide) (sr_64_10 hS) ?_
      refine jw_iload_n (pc := 34) dX1_put_34 rfl ?_
      refine jw_iload_n (pc := 35) dX1_put_35 rfl ?_
      refine jx_iast (pc := 36) dX1_put_36 (by decide) (ok_78 hS) (nn_78 hS) rfl (by omega) ?_
      refine jw_iconst (pc := 37) dX1_put_37 ic_1 ?_
      refine jw_ireturn (pc := 38) dX1_put_38 rfl (by first | exact jnar_b _ | exact jnar_0 | exact jnar_1 | decide +kernel) ?_
      refine ⟨_, rfl, ?_⟩
      unfold o_put
      rw [if_pos (by rw [h_6, h_14]; rfl), iN_n (by omega), iN_n (by omega)]
      refine ⟨rfl, xput hX1 (jsm.A rfl) hS (fun k => rfl) (fun k => rfl) (fun k => rfl) (fun k => rfl) (fun V' hV p' hp' => ?_), hf.tr (jsm.A (by decide))⟩
      cases (Option.some.inj (hv9.symm.trans hV))
      obtain ⟨v, hs, hN⟩ := hX1.so hv9
      rw [jA_A]
      by_cases e : p' = kp
      · subst e; rw [if_pos ⟨rfl, rfl⟩, if_pos rfl]; exact ⟨rfl, hka⟩
      · rw [if_neg (fun q => e q.2), if_neg e]; exact ⟨hN.2.2.2.1 _ hp', (hX.2.1.2 V hv9).2.1 _ hp'⟩
theorem t_X1_time {t : Int32} (hX : jXx M σ) : jT G mi_X1_time 9 [jr (some 64), .int t] M (jOx M (o_time σ t)) := by
  have hS := hX.1
  refine jT.of (by decide) rfl (Nat.le_of_ble_eq_true rfl) ?_
  cases hv9 : sv σ with
  | none =>
    refine jw_aload_n (pc := 0) dX1_time_0 rfl ?_
    refine jw_aload_n (pc := 1) dX1_time_1 rfl ?_
    refine jx_getRs (pc := 2) (jf_X1_109_0.r) rfl dX1_time_2 rfl (is_64 hS) (by decide) (hX.no hv9) ?_
    refine jw_ifnonnull (pc := 5) (tgt := 12) dX1_time_5 (by decide) (fun ax h => by cases h) (fun h => ?_)
    clear h
    refine jw_iconst (pc := 8) dX1_time_8 ic_1 ?_
    refine jw_goto (pc := 9) (tgt := 27) dX1_time_9 (by decide) ?_
    refine jx_cVi (mi1 := mi_X1_yes) (pc := 27) rfl dX1_time_27 lk_X1_218 rfl fi_X1_yes rfl rfl rfl (by decide) (is_64 hS) (t_X1_yes hX (by decide)) (by first | decide | omega) rfl rfl (by decide) ?_
    intro x_27 M_27 q_27
    obtain ⟨e, hX1, hf⟩ := q_27
    have e := e.trans (show _ = nI 0 by decide +kernel); subst e
    refine jw_if_ne (pc := 30) (tgt := 35) dX1_time_30 (by decide) (fun h => ?_) (fun h => ?_)
    · first | exact absurd h (by decide +kernel) | exact absurd (by decide +kernel) h
    refine jw_iconst (pc := 33) dX1_time_33 ic_0 ?_
    refine jw_ireturn (pc := 34) dX1_time_34 rfl (by first | exact jnar_b _ | exact jnar_0 | exact jnar_1 | decide +kernel) ?_
    exact ⟨_, rfl, by unfold o_time; rw [hv9]; exact ⟨rfl, hX1, hf⟩⟩
  | some V =>
    obtain ⟨v, hs, hN⟩ := hX.so hv9
    refine jw_aload_n (pc := 0) dX1_time_0 rfl ?_
    refine jw_aload_n (pc := 1) dX1_time_1 rfl ?_
    refine jx_getRs (pc := 2) (jf_X1_109_0.r) rfl dX1_time_2 rfl (is_64 hS) (by decide) (hs.r) ?_
    refine jw_ifnonnull (pc := 5) (tgt := 12) dX1_time_5 (by decide) (fun ax h => ?_) (fun h => by cases h)
    clear h
    refine jw_iload_n (pc := 12) dX1_time_12 rfl ?_
    refine jw_iconst (pc := 13) dX1_time_13 ic_0 ?_
    refine jw_bipush (pc := 14) dX1_time_14 bp_99 ?_
    refine jx_cSE (mi1 := mi_X1_in) (pc := 16) rfl dX1_time_16 lk_X1_94 rfl fi_X1_in (t_X1_in) (by first | decide | omega) rfl rfl (by simp only [List.map_cons, List.map_nil, List.sum_cons, List.sum_nil, cat_i, cat_l, jr_cat]; decide) ?_
    rw [show inb t (nI 0) (nI 99) = isIx 100 t from inb_ix' (n := 99) (by decide)]
    first | refine jx_ifb_eq (pc := 19) (tgt := 26) dX1_time_19 (by decide) ?_ ?_ | refine jx_if_eq (pc := 19) (tgt := 26) dX1_time_19 (by decide) (by omega) ?_ ?_ | refine jw_if_eq (pc := 19) (tgt := 26) dX1_time_19 (by decide) ?_ ?_
    · intro h_19
      refine jw_iconst (pc := 26) dX1_time_26 ic_2 ?_
      refine jx_cVi (mi1 := mi_X1_yes) (pc := 27) rfl dX1_time_27 lk_X1_218 rfl fi_X1_yes rfl rfl rfl (by decide) (is_64 hS) (t_X1_yes hX (by decide)) (by first | decide | omega) rfl rfl (by decide) ?_
      intro x_27 M_27 q_27
      obtain ⟨e, hX1, hf⟩ := q_27
      have hS := hX1.1
      first | (have e := e.trans (show _ = nI 1 by decide +kernel); subst e) | (have e := e.trans (show _ = nI 0 by decide +kernel); subst e)
      refine jw_if_ne (pc := 30) (tgt := 35) dX1_time_30 (by decide) (fun h => ?_) (fun h => ?_)
      · first | exact absurd h (by decide +kernel) | exact absurd (by decide +kernel) h
      refine jw_iconst (pc := 33) dX1_time_33 ic_0 ?_
      refine jw_ireturn (pc := 34) dX1_time_34 rfl (by first | exact jnar_b _ | exact jnar_0 | exact jnar_1 | decide +kernel) ?_
      exact ⟨_, rfl, by unfold o_time; rw [hv9]; simp only [h_19]; exact ⟨rfl, hX1, hf⟩⟩
    · intro h_19
      refine jw_iconst (pc := 22) dX1_time_22 ic_0 ?_
      refine jw_goto (pc := 23) (tgt := 27) dX1_time_23 (by decide) ?_
      refine jx_cVi (mi1 := mi_X1_yes) (pc := 27) rfl dX1_time_27 lk_X1_218 rfl fi_X1_yes rfl rfl rfl (by decide) (is_64 hS) (t_X1_yes hX (by decide)) (by first | decide | omega) rfl rfl (by decide) ?_
      intro x_27 M_27 q_27
      obtain ⟨e, hX1, hf⟩ := q_27
      have hS := hX1.1
      first | (have e := e.trans (show _ = nI 1 by decide +kernel); subst e) | (have e := e.trans (show _ = nI 0 by decide +kernel); subst e)
      refine jw_if_ne (pc := 30) (tgt := 35) dX1_time_30 (by decide) (fun h => ?_) (fun h => ?_)
      rotate_left
      · first | exact absurd h (by decide +kernel) | exact absurd (by decide +kernel) h
      obtain ⟨kt, hkt, rfl⟩ := isIx_of h_19
      refine jw_aload_n (pc := 35) dX1_time_35 rfl ?_
      refine jw_iload_n (pc := 36) dX1_time_36 rfl ?_
      refine jx_putI (pc := 37) jf_X1_131_0 rfl dX1_time_37 rfl rfl (is_64 hS) (by decide) ?_
      refine jw_iconst (pc := 40) dX1_time_40 ic_1 ?_
      refine jw_ireturn (pc := 41) dX1_time_41 rfl (by first | exact jnar_b _ | exact jnar_0 | exact jnar_1 | decide +kernel) ?_
      refine ⟨_, rfl, ?_⟩
      unfold o_time; rw [hv9]; simp only [h_19, iN_n (show kt < 2 ^ 31 by omega)]
      exact ⟨rfl, xstep hX1 hkt, hf.tr (jsm.I (by decide))⟩
theorem t_X1_seed {t : Int32} (hX : jXx M σ) : jT G mi_X1_seed 9 [jr (some 64), .int t] M (jOx M (o_seed σ t)) := by
  have hS := hX.1
  refine jT.of (by decide) rfl (Nat.le_of_ble_eq_true rfl) ?_
  cases hv9 : sv σ with
  | none =>
    refine jw_aload_n (pc := 0) dX1_seed_0 rfl ?_
    refine jw_aload_n (pc := 1) dX1_seed_1 rfl ?_
    refine jx_getRs (pc := 2) (jf_X1_109_0.r) rfl dX1_seed_2 rfl (is_64 hS) (by decide) (hX.no hv9) ?_
    refine jw_ifnonnull (pc := 5) (tgt := 12) dX1_seed_5 (by decide) (fun ax h => by cases h) (fun h => ?_)
    clear h
    refine jw_iconst (pc := 8) dX1_seed_8 ic_1 ?_
    refine jw_goto (pc := 9) (tgt := 28) dX1_seed_9 (by decide) ?_
    refine jx_cVi (mi1 := mi_X1_yes) (pc := 28) rfl dX1_seed_28 lk_X1_218 rfl fi_X1_yes rfl rfl rfl (by decide) (is_64 hS) (t_X1_yes hX (by decide)) (by first | decide | omega) rfl rfl (by decide) ?_
    intro x_28 M_28 q_28
    obtain ⟨e, hX1, hf⟩ := q_28
    have e := e.trans (show _ = nI 0 by decide +kernel); subst e
    refine jw_if_ne (pc := 31) (tgt := 36) dX1_seed_31 (by decide) (fun h => ?_) (fun h => ?_)
    · first | exact absurd h (by decide +kernel) | exact absurd (by decide +kernel) h
    refine jw_iconst (pc := 34) dX1_seed_34 ic_0 ?_
    refine jw_ireturn (pc := 35) dX1_seed_35 rfl (by first | exact jnar_b _ | exact jnar_0 | exact jnar_1 | decide +kernel) ?_
    exact ⟨_, rfl, by unfold o_seed; rw [hv9]; exact ⟨rfl, hX1, hf⟩⟩
  | some V =>
    obtain ⟨v, hs, hN⟩ := hX.so hv9
    refine jw_aload_n (pc := 0) dX1_seed_0 rfl ?_
    refine jw_aload_n (pc := 1) dX1_seed_1 rfl ?_
    refine jx_getRs (pc := 2) (jf_X1_109_0.r) rfl dX1_seed_2 rfl (is_64 hS) (by decide) (hs.r) ?_
    refine jw_ifnonnull (pc := 5) (tgt := 12) dX1_seed_5 (by decide) (fun ax h => ?_) (fun h => by cases h)
    clear h
    refine jw_iload_n (pc := 12) dX1_seed_12 rfl ?_
    refine jw_iconst (pc := 13) dX1_seed_13 ic_0 ?_
    refine jw_ldcw (pc := 14) q1363 rfl (w := nI 65536) rfl dX1_seed_14 ?_
    refine jx_cSE (mi1 := mi_X1_in) (pc := 17) rfl dX1_seed_17 lk_X1_94 rfl fi_X1_in (t_X1_in) (by first | decide | omega) rfl rfl (by simp only [List.map_cons, List.map_nil, List.sum_cons, List.sum_nil, cat_i, cat_l, jr_cat]; decide) ?_
    rw [show inb t (nI 0) (nI 65536) = isIx 65537 t from inb_ix' (n := 65536) (by decide)]
    first | refine jx_ifb_eq (pc := 20) (tgt := 27) dX1_seed_20 (by decide) ?_ ?_ | refine jx_if_eq (pc := 20) (tgt := 27) dX1_seed_20 (by decide) (by omega) ?_ ?_ | refine jw_if_eq (pc := 20) (tgt := 27) dX1_seed_20 (by decide) ?_ ?_
    · intro h_20
      refine jw_iconst (pc := 27) dX1_seed_27 ic_2 ?_
      refine jx_cVi (mi1 := mi_X1_yes) (pc := 28) rfl dX1_seed_28 lk_X1_218 rfl fi_X1_yes rfl rfl rfl (by decide) (is_64 hS) (t_X1_yes hX (by decide)) (by first | decide | omega) rfl rfl (by decide) ?_
      intro x_28 M_28 q_28
      obtain ⟨e, hX1, hf⟩ := q_28
      have hS := hX1.1
      first | (have e := e.trans (show _ = nI 1 by decide +kernel); subst e) | (have e := e.trans (show _ = nI 0 by decide +kernel); subst e)
      refine jw_if_ne (pc := 31) (tgt := 36) dX1_seed_31 (by decide) (fun h => ?_) (fun h => ?_)
      · first | exact absurd h (by decide +kernel) | exact absurd (by decide +kernel) h
      refine jw_iconst (pc := 34) dX1_seed_34 ic_0 ?_
      refine jw_ireturn (pc := 35) dX1_seed_35 rfl (by first | exact jnar_b _ | exact jnar_0 | exact jnar_1 | decide +kernel) ?_
      exact ⟨_, rfl, by unfold o_seed; rw [hv9]; simp only [h_20]; exact ⟨rfl, hX1, hf⟩⟩
    · intro h_20
      refine jw_iconst (pc := 23) dX1_seed_23 ic_0 ?_
      refine jw_goto (pc := 24) (tgt := 28) dX1_seed_24 (by decide) ?_
      refine jx_cVi (mi1 := mi_X1_yes) (pc := 28) rfl dX1_seed_28 lk_X1_218 rfl fi_X1_yes rfl rfl rfl (by decide) (is_64 hS) (t_X1_yes hX (by decide)) (by first | decide | omega) rfl rfl (by decide) ?_
      intro x_28 M_28 q_28
      obtain ⟨e, hX1, hf⟩ := q_28
      have hS := hX1.1
      first | (have e := e.trans (show _ = nI 1 by decide +kernel); subst e) | (have e := e.trans (show _ = nI 0 by decide +kernel); subst e)
      refine jw_if_ne (pc := 31) (tgt := 36) dX1_seed_31 (by decide) (fun h => ?_) (fun h => ?_)
      rotate_left
      · first | exact absurd h (by decide +kernel) | exact absurd (by decide +kernel) h
      obtain ⟨kt, hkt, rfl⟩ := isIx_of h_20
      refine jw_aload_n (pc := 36) dX1_seed_36 rfl ?_
      refine jw_iload_n (pc := 37) dX1_seed_37 rfl ?_
      refine jx_putI (pc := 38) jf_X1_134_0 rfl dX1_seed_38 rfl rfl (is_64 hS) (by decide) ?_
      refine jw_iconst (pc := 41) dX1_seed_41 ic_1 ?_
      refine jw_ireturn (pc := 42) dX1_seed_42 rfl (by first | exact jnar_b _ | exact jnar_0 | exact jnar_1 | decide +kernel) ?_
      refine ⟨_, rfl, ?_⟩
      unfold o_seed; rw [hv9]; simp only [h_20, iN_n (show kt < 2 ^ 31 by omega)]
      exact ⟨rfl, xseed hX1 hkt, hf.tr (jsm.I (by decide))⟩
theorem t_X1_move {p t a : Int32} (hX : jXx M σ) : jT G mi_X1_move 9 [jr (some 64), .int p, .int t, .int a] M (jOx M (o_move σ p t a)) := by
  have hS := hX.1
  refine jT.of (by decide) rfl (Nat.le_of_ble_eq_true rfl) ?_
  refine jw_aload_n (pc := 0) dX1_move_0 rfl ?_
  refine jw_iload_n (pc := 1) dX1_move_1 rfl ?_
  refine jx_cVE (mi1 := mi_X1_isPerson) (pc := 2) rfl dX1_move_2 lk_X1_183 rfl fi_X1_isPerson rfl rfl rfl (by decide) (is_64 hS) (t_X1_isPerson (o := sv σ) hX rfl) (by first | decide | omega) rfl rfl (by decide) ?_
  first | refine jx_ifb_eq (pc := 5) (tgt := 16) dX1_move_5 (by decide) ?_ ?_ | refine jx_if_eq (pc := 5) (tgt := 16) dX1_move_5 (by decide) (by omega) ?_ ?_ | refine jw_if_eq (pc := 5) (tgt := 16) dX1_move_5 (by decide) ?_ ?_
  · intro h_5
    refine jw_iconst (pc := 16) dX1_move_16 ic_1 ?_
    refine jw_goto (pc := 17) (tgt := 42) dX1_move_17 (by decide) ?_
    refine jw_istore (pc := 42) dX1_move_42 (Nat.le_of_ble_eq_true rfl) rfl ?_
    try dsimp only [jput1, jput2, jkill, jclr, jis2_i, jis2_l, jis2_rs, jis2_rn, cond]
    refine jw_aload_n (pc := 44) dX1_move_44 rfl ?_
    refine jw_iload (pc := 45) dX1_move_45 rfl ?_
    refine jx_cVi (mi1 := mi_X1_yes) (pc := 47) rfl dX1_move_47 lk_X1_218 rfl fi_X1_yes rfl rfl rfl (by decide) (is_64 hS) (t_X1_yes hX (by decide)) (by first | decide | omega) rfl rfl (by decide) ?_
    intro x_47 M_47 q_47
    obtain ⟨e, hX1, hf⟩ := q_47
    have hS := hX1.1
    first | (have e := e.trans (show _ = nI 1 by decide +kernel); subst e) | (have e := e.trans (show _ = nI 0 by decide +kernel); subst e)
    refine jw_if_ne (pc := 50) (tgt := 55) dX1_move_50 (by decide) (fun h => ?_) (fun h => ?_)
    · first | exact absurd h (by decide +kernel) | exact absurd (by decide +kernel) h
    refine jw_iconst (pc := 53) dX1_move_53 ic_0 ?_
    refine jw_ireturn (pc := 54) dX1_move_54 rfl (by first | exact jnar_b _ | exact jnar_0 | exact jnar_1 | decide +kernel) ?_
    refine ⟨_, rfl, ?_⟩
    unfold o_move
    first | (rw [h_5]; exact ⟨rfl, hX1, hf⟩) | (rw [h_13, Bool.and_false]; exact ⟨rfl, hX1, hf⟩) | (rw [if_pos (by rw [h_5, h_13]; rfl), vv_s hv9, h_34]; exact ⟨rfl, hX1, hf⟩)
  · intro h_5
    refine jw_aload_n (pc := 8) dX1_move_8 rfl ?_
    refine jw_iload_n (pc := 9) dX1_move_9 rfl ?_
    refine jx_cVE (mi1 := mi_X1_isPlace) (pc := 10) rfl dX1_move_10 lk_X1_163 rfl fi_X1_isPlace rfl rfl rfl (by decide) (is_64 hS) (t_X1_isPlace (o := sv σ) hX rfl) (by first | decide | omega) rfl rfl (by decide) ?_
    first | refine jx_ifb_ne (pc := 13) (tgt := 20) dX1_move_13 (by decide) ?_ ?_ | refine jx_if_ne (pc := 13) (tgt := 20) dX1_move_13 (by decide) (by omega) ?_ ?_ | refine jw_if_ne (pc := 13) (tgt := 20) dX1_move_13 (by decide) ?_ ?_
    · intro h_13
      obtain ⟨V, kp, hv9, hkp, rfl⟩ := ixV_t h_5
      obtain ⟨V', ka, hv', hka, rfl⟩ := ixV_t h_13
      cases (Option.some.inj (hv9.symm.trans hv'))
      have hw := (hX.2.1.2 V hv9).1
      have hn := wf_nq hw
      have hn0 := wf_np hw
      have hd := wf_d hw
      obtain ⟨v, hs, hN⟩ := hX.so hv9
      have hv := hs.s
      refine jw_iload_n (pc := 20) dX1_move_20 rfl ?_
      refine jw_iconst (pc := 21) dX1_move_21 ic_0 ?_
      refine jw_aload_n (pc := 22) dX1_move_22 rfl ?_
      refine jx_getRs (pc := 23) (jf_X1_109_0.r) rfl dX1_move_23 rfl (is_64 hS) (by decide) (hs.r) ?_
      refine jx_getIs (pc := 26) (jf_X1_225_5.r) rfl dX1_move_26 rfl (vis hv) (by decide) (xi_steps hs.V) ?_
      refine jw_iconst (pc := 29) dX1_move_29 ic_1 ?_
      refine jw_isub (pc := 30) dX1_move_30 ?_
      refine jx_cSE (mi1 := mi_X1_in) (pc := 31) rfl dX1_move_31 lk_X1_94 rfl fi_X1_in (t_X1_in) (by first | decide | omega) rfl rfl (by decide) ?_
      rw [inb_ix (by omega)]
      first | refine jx_ifb_eq (pc := 34) (tgt := 41) dX1_move_34 (by decide) ?_ ?_ | refine jx_if_eq (pc := 34) (tgt := 41) dX1_move_34 (by decide) (by omega) ?_ ?_ | refine jw_if_eq (pc := 34) (tgt := 41) dX1_move_34 (by decide) ?_ ?_
      · intro h_34
        refine jw_iconst (pc := 41) dX1_move_41 ic_2 ?_
        refine jw_istore (pc := 42) dX1_move_42 (Nat.le_of_ble_eq_true rfl) rfl ?_
        try dsimp only [jput1, jput2, jkill, jclr, jis2_i, jis2_l, jis2_rs, jis2_rn, cond]
        refine jw_aload_n (pc := 44) dX1_move_44 rfl ?_
        refine jw_iload (pc := 45) dX1_move_45 rfl ?_
        refine jx_cVi (mi1 := mi_X1_yes) (pc := 47) rfl dX1_move_47 lk_X1_218 rfl fi_X1_yes rfl rfl rfl (by decide) (is_64 hS) (t_X1_yes hX (by decide)) (by first | decide | omega) rfl rfl (by decide) ?_
        intro x_47 M_47 q_47
        obtain ⟨e, hX1, hf⟩ := q_47
        have hS := hX1.1
        first | (have e := e.trans (show _ = nI 1 by decide +kernel); subst e) | (have e := e.trans (show _ = nI 0 by decide +kernel); subst e)
        refine jw_if_ne (pc := 50) (tgt := 55) dX1_move_50 (by decide) (fun h => ?_) (fun h => ?_)
        · first | exact absurd h (by decide +kernel) | exact absurd (by decide +kernel) h
        refine jw_iconst (pc := 53) dX1_move_53 ic_0 ?_
        refine jw_ireturn (pc := 54) dX1_move_54 rfl (by first | exact jnar_b _ | exact jnar_0 | exact jnar_1 | decide +kernel) ?_
        refine ⟨_, rfl, ?_⟩
        unfold o_move
        first | (rw [h_5]; exact ⟨rfl, hX1, hf⟩) | (rw [h_13, Bool.and_false]; exact ⟨rfl, hX1, hf⟩) | (rw [if_pos (by rw [h_5, h_13]; rfl), vv_s hv9, h_34]; exact ⟨rfl, hX1, hf⟩)
      · intro h_34
        refine jw_iconst (pc := 37) dX1_move_37 ic_0 ?_
        refine jw_goto (pc := 38) (tgt := 42) dX1_move_38 (by decide) ?_
        refine jw_istore (pc := 42) dX1_move_42 (Nat.le_of_ble_eq_true rfl) rfl ?_
        try dsimp only [jput1, jput2, jkill, jclr, jis2_i, jis2_l, jis2_rs, jis2_rn, cond]
        refine jw_aload_n (pc := 44) dX1_move_44 rfl ?_
        refine jw_iload (pc := 45) dX1_move_45 rfl ?_
        refine jx_cVi (mi1 := mi_X1_yes) (pc := 47) rfl dX1_move_47 lk_X1_218 rfl fi_X1_yes rfl rfl rfl (by decide) (is_64 hS) (t_X1_yes hX (by decide)) (by first | decide | omega) rfl rfl (by decide) ?_
        intro x_47 M_47 q_47
        obtain ⟨e, hX1, hf⟩ := q_47
        have hS := hX1.1
        first | (have e := e.trans (show _ = nI 1 by decide +kernel); subst e) | (have e := e.trans (show _ = nI 0 by decide +kernel); subst e)
        refine jw_if_ne (pc := 50) (tgt := 55) dX1_move_50 (by decide) (fun h => ?_) (fun h => ?_)
        rotate_left
        · first | exact absurd h (by decide +kernel) | exact absurd (by decide +kernel) h
        obtain ⟨kt, hkt, rfl⟩ := isIx_of h_34
        have J : ∀ k : Nat, (kt ≤ k ∧ k ≤ 100) → jW G mi_X1_move 9 M 58 [some (jr (some 64)), some (.int (nI kp)), some (.int (nI kt)), some (.int (nI ka)), none, some (.int (nI k))] [] (js_As M_47 80 (fun i => if 100 * kp + kt ≤ i ∧ i < 100 * kp + k then nI ka else jm_A M_47 80 i)) (jOx M (o_move σ (nI kp) (nI kt) (nI ka))) := by
          refine jW.loop _ (fun k => 100 - k) _ (fun _ => []) (fun k => js_As M_47 80 (fun i => if 100 * kp + kt ≤ i ∧ i < 100 * kp + k then nI ka else jm_A M_47 80 i)) (fun k hk ih => ?_)
          obtain ⟨hk1, hk2⟩ := hk
          by_cases hkn : k < 100
          · refine lp_move hS hkn (by omega) (ih (k + 1) (by omega) (by omega)) ?_
            refine jAs_cg (fun i => ?_)
            by_cases e : i = 100 * kp + k
            · subst e; simp [show 100 * kp + kt ≤ 100 * kp + k by omega]
            · rw [if_neg e]
              by_cases e2 : 100 * kp + kt ≤ i ∧ i < 100 * kp + k
              · rw [if_pos e2, if_pos ⟨e2.1, by omega⟩]
              · rw [if_neg e2, if_neg (by omega)]
          · have hk' : k = 100 := by omega
            subst hk'
            refine lp_move2 hS ⟨_, rfl, ?_⟩
            unfold o_move
            rw [if_pos (by rw [h_5, h_13]; rfl), vv_s hv9, if_pos h_34, iN_n (by omega), iN_n (by omega), iN_n (by omega)]
            refine ⟨rfl, xplan hX1 (jsm.As rfl) hS (fun k => rfl) (fun k => rfl) (fun k => rfl) (fun k => rfl) (fun V' hV p' t' hp' ht' => ?_), hf.tr (jsm.As (by decide))⟩
            cases (Option.some.inj (hv9.symm.trans hV))
            obtain ⟨v, hs, hN⟩ := hX1.so hv9
            rw [jA_rd]
            unfold planF
            by_cases e : 100 * kp + kt ≤ 100 * p' + t' ∧ 100 * p' + t' < 100 * kp + 100
            · rw [if_pos e, if_pos e]; exact ⟨rfl, hka⟩
            · rw [if_neg e, if_neg e]; exact ⟨hN.2.2.2.2.1 _ _ hp' ht', (hX.2.1.2 V hv9).2.2.1 _ _ hp' ht'⟩
        refine jw_iload_n (pc := 55) dX1_move_55 rfl ?_
        refine jw_istore (pc := 56) dX1_move_56 (Nat.le_of_ble_eq_true rfl) rfl ?_
        try dsimp only [jput1, jput2, jkill, jclr, jis2_i, jis2_l, jis2_rs, jis2_rn, cond]
        refine jW.eq rfl rfl ?_ (jW.sub ?_ (J kt (by omega)))
        · exact jAs_0 (fun i => by rw [if_neg (by omega)])
        · exact ⟨rfl, rfl, rfl, rfl, rfl, trivial⟩
    · intro h_13
      refine jw_iconst (pc := 16) dX1_move_16 ic_1 ?_
      refine jw_goto (pc := 17) (tgt := 42) dX1_move_17 (by decide) ?_
      refine jw_istore (pc := 42) dX1_move_42 (Nat.le_of_ble_eq_true rfl) rfl ?_
      try dsimp only [jput1, jput2, jkill, jclr, jis2_i, jis2_l, jis2_rs, jis2_rn, cond]
      refine jw_aload_n (pc := 44) dX1_move_44 rfl ?_
      refine jw_iload (pc := 45) dX1_move_45 rfl ?_
      refine jx_cVi (mi1 := mi_X1_yes) (pc := 47) rfl dX1_move_47 lk_X1_218 rfl fi_X1_yes rfl rfl rfl (by decide) (is_64 hS) (t_X1_yes hX (by decide)) (by first | decide | omega) rfl rfl (by decide) ?_
      intro x_47 M_47 q_47
      obtain ⟨e, hX1, hf⟩ := q_47
      have hS := hX1.1
      first | (have e := e.trans (show _ = nI 1 by decide +kernel); subst e) | (have e := e.trans (show _ = nI 0 by decide +kernel); subst e)
      refine jw_if_ne (pc := 50) (tgt := 55) dX1_move_50 (by decide) (fun h => ?_) (fun h => ?_)
      · first | exact absurd h (by decide +kernel) | exact absurd (by decide +kernel) h
      refine jw_iconst (pc := 53) dX1_move_53 ic_0 ?_
      refine jw_ireturn (pc := 54) dX1_move_54 rfl (by first | exact jnar_b _ | exact jnar_0 | exact jnar_1 | decide +kernel) ?_
      refine ⟨_, rfl, ?_⟩
      unfold o_move
      first | (rw [h_5]; exact ⟨rfl, hX1, hf⟩) | (rw [h_13, Bool.and_false]; exact ⟨rfl, hX1, hf⟩) | (rw [if_pos (by rw [h_5, h_13]; rfl), vv_s hv9, h_34]; exact ⟨rfl, hX1, hf⟩)
theorem t_X1_asTold {v : Nat} {V : Vt} (hs : jXs M v V) : jE G mi_X1_asTold 2 [jr (some 64)] M none (js_As M 80 (fun i => if i < 100 * V 0 1 then nI (V 11 (i / 100)) else jm_A M 80 i)) := by
  have hS := hs.1
  have hn := wf_nq hs.w
  refine jE.of (by decide) rfl (Nat.le_of_ble_eq_true rfl) ?_
  have J : ∀ x : Nat, x ≤ V 0 1 → jW G mi_X1_asTold 2 M 2 [some (jr (some 64)), some (.int (nI x)), none] [] (js_As M 80 (fun i => if i < 100 * x then nI (V 11 (i / 100)) else jm_A M 80 i)) (fun r M' => r = .inl none ∧ M' = js_As M 80 (fun i => if i < 100 * V 0 1 then nI (V 11 (i / 100)) else jm_A M 80 i)) := by
    refine jW.loop _ (fun x => V 0 1 - x) _ (fun _ => []) (fun x => js_As M 80 (fun i => if i < 100 * x then nI (V 11 (i / 100)) else jm_A M 80 i)) (fun x hx ih => ?_)
    have hs1 : jXs (js_As M 80 (fun i => if i < 100 * x then nI (V 11 (i / 100)) else jm_A M 80 i)) v V := hs.fr (E := fun a => a = 80) (jsm.As rfl) hS (fun a ha => by omega) rfl (by decide) (by decide) (by decide) (by decide)
    have hv := hs1.s
    by_cases hxn : x < V 0 1
    · have L : ∀ t : Nat, t ≤ 100 → jW G mi_X1_asTold 2 M 15 [some (jr (some 64)), some (.int (nI x)), some (.int (nI t))] [] (js_As M 80 (fun i => if i < 100 * x + t then nI (V 11 (i / 100)) else jm_A M 80 i)) (fun r M' => r = .inl none ∧ M' = js_As M 80 (fun i => if i < 100 * V 0 1 then nI (V 11 (i / 100)) else jm_A M 80 i)) := by
        refine jW.loop _ (fun t => 100 - t) _ (fun _ => []) (fun t => js_As M 80 (fun i => if i < 100 * x + t then nI (V 11 (i / 100)) else jm_A M 80 i)) (fun t ht iht => ?_)
        have hs2 : jXs (js_As M 80 (fun i => if i < 100 * x + t then nI (V 11 (i / 100)) else jm_A M 80 i)) v V := hs.fr (E := fun a => a = 80) (jsm.As rfl) hS (fun a ha => by omega) rfl (by decide) (by decide) (by decide) (by decide)
        have hv := hs2.s
        obtain ⟨p, p1, p2, p3⟩ := pe_x hs2.V hxn
        by_cases htn : t < 100
        · have htn' := htn
          refine jw_iload_n (pc := 15) dX1_asTold_15 rfl ?_
          refine jw_bipush (pc := 16) dX1_asTold_16 bp_100 ?_
          first | refine jx_icmp_ge (pc := 18) (tgt := 50) dX1_asTold_18 (by decide) (by omega) (by omega) ?_ ?_ | refine jw_icmp_ge (pc := 18) (tgt := 50) dX1_asTold_18 (by decide) ?_ ?_
          · intro h_18
            omega
          · intro h_18
            refine jw_aload_n (pc := 21) dX1_asTold_21 rfl ?_
            refine jx_getRs (pc := 22) (jf_X1_46_0.r) rfl dX1_asTold_22 rfl (is_64 hS) (by decide) (sr_64_12 hS) ?_
            refine jw_bipush (pc := 25) dX1_asTold_25 bp_100 ?_
            refine jw_iload_n (pc := 27) dX1_asTold_27 rfl ?_
            first | refine jx_imul (pc := 28) dX1_asTold_28 ?_ | refine jw_imul (pc := 28) dX1_asTold_28 ?_
            refine jw_iload_n (pc := 29) dX1_asTold_29 rfl ?_
            first | refine jx_iadd (pc := 30) dX1_asTold_30 ?_ | refine jw_iadd (pc := 30) dX1_asTold_30 ?_
            refine jw_aload_n (pc := 31) dX1_asTold_31 rfl ?_
            refine jx_getRs (pc := 32) (jf_X1_109_0.r) rfl dX1_asTold_32 rfl (is_64 hS) (by decide) (hs2.r) ?_
            refine jx_getRs (pc := 35) jg_X1_140_5 rfl dX1_asTold_35 rfl (vis hv) (by decide) (vr_2 hv) ?_
            refine jw_iload_n (pc := 38) dX1_asTold_38 rfl ?_
            refine jx_aalds (pc := 39) (by decide) (by decide) dX1_asTold_39 (vok_2 hv) (vnn_2 hv) rfl (by omega) (p1) ?_
            refine jx_getIs (pc := 40) (jf_X1_144_7.r) rfl dX1_asTold_40 rfl (p2) (by decide) (p3) ?_
            refine jx_iast (pc := 43) dX1_asTold_43 (by decide) (ok_80 hS) (nn_80 hS) rfl (by omega) ?_
            first | refine jx_iinc (pc := 44) dX1_asTold_44 rfl rfl ?_ | refine jw_iinc (pc := 44) dX1_asTold_44 rfl rfl rfl ?_
            try dsimp only [jput1, jkill, jclr, jis2_i, jis2_l, jis2_rs, jis2_rn, cond]
            refine jw_goto (pc := 47) (tgt := 15) dX1_asTold_47 (by decide) ?_
            refine jW.eq rfl rfl ?_ (iht (t + 1) htn (by omega))
            rw [jAs_A]
            refine jAs_cg (fun i => ?_)
            by_cases e : i = 100 * x + t
            · subst e; rw [if_pos rfl, if_pos (by omega), show (100 * x + t) / 100 = x by omega]
            · rw [if_neg e]
              by_cases e2 : i < 100 * x + t
              · rw [if_pos e2, if_pos (by omega)]
              · rw [if_neg e2, if_neg (by omega)]
        · have ht' : t = 100 := by omega
          subst ht'
          refine jw_iload_n (pc := 15) dX1_asTold_15 rfl ?_
          refine jw_bipush (pc := 16) dX1_asTold_16 bp_100 ?_
          first | refine jx_icmp_ge (pc := 18) (tgt := 50) dX1_asTold_18 (by decide) (by omega) (by omega) ?_ ?_ | refine jw_icmp_ge (pc := 18) (tgt := 50) dX1_asTold_18 (by decide) ?_ ?_
          · intro h_18
            first | refine jx_iinc (pc := 50) dX1_asTold_50 rfl rfl ?_ | refine jw_iinc (pc := 50) dX1_asTold_50 rfl rfl rfl ?_
            try dsimp only [jput1, jkill, jclr, jis2_i, jis2_l, jis2_rs, jis2_rn, cond]
            refine jw_goto (pc := 53) (tgt := 2) dX1_asTold_53 (by decide) ?_
            exact jW.sub (by simp [jsub]) (ih (x + 1) hxn (by omega))
          · intro h_18
            omega
      refine jw_iload_n (pc := 2) dX1_asTold_2 rfl ?_
      refine jw_aload_n (pc := 3) dX1_asTold_3 rfl ?_
      refine jx_getRs (pc := 4) (jf_X1_109_0.r) rfl dX1_asTold_4 rfl (is_64 hS) (by decide) (hs1.r) ?_
      refine jx_getIs (pc := 7) (jf_X1_137_5.r) rfl dX1_asTold_7 rfl (vis hv) (by decide) (xi_nq hs1.V) ?_
      first | refine jx_icmp_ge (pc := 10) (tgt := 56) dX1_asTold_10 (by decide) (by omega) (by omega) ?_ ?_ | refine jw_icmp_ge (pc := 10) (tgt := 56) dX1_asTold_10 (by decide) ?_ ?_
      · intro h_10
        omega
      · intro h_10
        refine jw_iconst (pc := 13) dX1_asTold_13 ic_0 ?_
        refine jw_istore_n (pc := 14) dX1_asTold_14 (Nat.le_of_ble_eq_true rfl) rfl ?_
        try dsimp only [jput1, jput2, jkill, jclr, jis2_i, jis2_l, jis2_rs, jis2_rn, cond]
        exact L 0 (Nat.zero_le _)
    · have hk' : x = V 0 1 := by omega
      subst hk'
      refine jw_iload_n (pc := 2) dX1_asTold_2 rfl ?_
      refine jw_aload_n (pc := 3) dX1_asTold_3 rfl ?_
      refine jx_getRs (pc := 4) (jf_X1_109_0.r) rfl dX1_asTold_4 rfl (is_64 hS) (by decide) (hs1.r) ?_
      refine jx_getIs (pc := 7) (jf_X1_137_5.r) rfl dX1_asTold_7 rfl (vis hv) (by decide) (xi_nq hs1.V) ?_
      first | refine jx_icmp_ge (pc := 10) (tgt := 56) dX1_asTold_10 (by decide) (by omega) (by omega) ?_ ?_ | refine jw_icmp_ge (pc := 10) (tgt := 56) dX1_asTold_10 (by decide) ?_ ?_
      · intro h_10
        refine jw_return (pc := 56) dX1_asTold_56 rfl ?_
        exact ⟨rfl, rfl⟩
      · intro h_10
        omega
  refine jw_iconst (pc := 0) dX1_asTold_0 ic_0 ?_
  refine jw_istore_n (pc := 1) dX1_asTold_1 (Nat.le_of_ble_eq_true rfl) rfl ?_
  try dsimp only [jput1, jput2, jkill, jclr, jis2_i, jis2_l, jis2_rs, jis2_rn, cond]
  refine jW.eq rfl rfl ?_ (J 0 (Nat.zero_le _))
  exact jAs_0 (fun i => by rw [if_neg (by omega)])
theorem t_X1_forget (hX : jXx M σ) : jT G mi_X1_forget 9 [jr (some 64)] M (jOx M (o_forget σ)) := by
  have hS := hX.1
  refine jT.of (by decide) rfl (Nat.le_of_ble_eq_true rfl) ?_
  cases hv9 : sv σ with
  | none =>
    refine jw_aload_n (pc := 0) dX1_forget_0 rfl ?_
    refine jw_aload_n (pc := 1) dX1_forget_1 rfl ?_
    refine jx_getRs (pc := 2) (jf_X1_109_0.r) rfl dX1_forget_2 rfl (is_64 hS) (by decide) (hX.no hv9) ?_
    refine jw_ifnonnull (pc := 5) (tgt := 12) dX1_forget_5 (by decide) (fun ax h => by cases h) (fun h => ?_)
    clear h
    refine jw_iconst (pc := 8) dX1_forget_8 ic_1 ?_
    refine jw_goto (pc := 9) (tgt := 13) dX1_forget_9 (by decide) ?_
    refine jx_cVi (mi1 := mi_X1_yes) (pc := 13) rfl dX1_forget_13 lk_X1_218 rfl fi_X1_yes rfl rfl rfl (by decide) (is_64 hS) (t_X1_yes hX (by decide)) (by first | decide | omega) rfl rfl (by decide) ?_
    intro x_13 M_13 q_13
    obtain ⟨e, hX1, hf⟩ := q_13
    have e := e.trans (show _ = nI 0 by decide +kernel); subst e
    refine jw_if_ne (pc := 16) (tgt := 21) dX1_forget_16 (by decide) (fun h => ?_) (fun h => ?_)
    · first | exact absurd h (by decide +kernel) | exact absurd (by decide +kernel) h
    refine jw_iconst (pc := 19) dX1_forget_19 ic_0 ?_
    refine jw_ireturn (pc := 20) dX1_forget_20 rfl (by first | exact jnar_b _ | exact jnar_0 | exact jnar_1 | decide +kernel) ?_
    exact ⟨_, rfl, by unfold o_forget; rw [hv9]; exact ⟨rfl, hX1, hf⟩⟩
  | some V =>
    obtain ⟨v, hs, hN⟩ := hX.so hv9
    refine jw_aload_n (pc := 0) dX1_forget_0 rfl ?_
    refine jw_aload_n (pc := 1) dX1_forget_1 rfl ?_
    refine jx_getRs (pc := 2) (jf_X1_109_0.r) rfl dX1_forget_2 rfl (is_64 hS) (by decide) (hs.r) ?_
    refine jw_ifnonnull (pc := 5) (tgt := 12) dX1_forget_5 (by decide) (fun ax h => ?_) (fun h => by cases h)
    clear h
    refine jw_iconst (pc := 12) dX1_forget_12 ic_0 ?_
    refine jx_cVi (mi1 := mi_X1_yes) (pc := 13) rfl dX1_forget_13 lk_X1_218 rfl fi_X1_yes rfl rfl rfl (by decide) (is_64 hS) (t_X1_yes hX (by decide)) (by first | decide | omega) rfl rfl (by decide) ?_
    intro x_13 M_13 q_13
    obtain ⟨e, hX1, hf⟩ := q_13
    have hS := hX1.1
    obtain ⟨v', hs', hN'⟩ := hX1.so hv9
    have e := e.trans (show _ = nI 1 by decide +kernel); subst e
    refine jw_if_ne (pc := 16) (tgt := 21) dX1_forget_16 (by decide) (fun h => ?_) (fun h => ?_)
    rotate_left
    · first | exact absurd h (by decide +kernel) | exact absurd (by decide +kernel) h
    refine jw_aload_n (pc := 21) dX1_forget_21 rfl ?_
    refine jx_cVEv (mi1 := mi_X1_asTold) (pc := 22) rfl dX1_forget_22 lk_X1_147 rfl fi_X1_asTold rfl rfl rfl (by decide) (is_64 hS) (t_X1_asTold hs') (by first | decide | omega) rfl rfl (by decide) ?_
    refine jw_iconst (pc := 25) dX1_forget_25 ic_1 ?_
    refine jw_ireturn (pc := 26) dX1_forget_26 rfl (by first | exact jnar_b _ | exact jnar_0 | exact jnar_1 | decide +kernel) ?_
    refine ⟨_, rfl, ?_⟩
    unfold o_forget; rw [hv9]
    refine ⟨rfl, xplan hX1 (jsm.As rfl) hS (fun k => rfl) (fun k => rfl) (fun k => rfl) (fun k => rfl) (fun V' hV p' t' hp' ht' => ?_), hf.tr (jsm.As (by decide))⟩
    cases (Option.some.inj (hv9.symm.trans hV))
    rw [jA_rd]
    unfold toldF
    rw [if_pos (by omega), if_pos (by omega), show (100 * p' + t') / 100 = p' by omega]
    exact ⟨rfl, (wf_q hs.w hp').1⟩
theorem t_X1_trouble (hX : jXx M σ) : jE G mi_X1_trouble 9 [jr (some 64)] M (some (.int (si σ 0))) M := by
  have hS := hX.1
  refine jE.of (by decide) rfl (Nat.le_of_ble_eq_true rfl) ?_
  refine jw_aload_n (pc := 0) dX1_trouble_0 rfl ?_
  refine jx_getIs (pc := 1) (jf_X1_81_0.r) rfl dX1_trouble_1 rfl (is_64 hS) (by decide) (hX.2.2.1.2.1) ?_
  refine jw_ireturn (pc := 4) dX1_trouble_4 rfl (rfl) ?_
  exact ⟨rfl, rfl⟩
theorem t_X1_fault (hX : jXx M σ) : jE G mi_X1_fault 9 [jr (some 64)] M (some (.int (si σ 1))) M := by
  have hS := hX.1
  refine jE.of (by decide) rfl (Nat.le_of_ble_eq_true rfl) ?_
  refine jw_aload_n (pc := 0) dX1_fault_0 rfl ?_
  refine jx_getIs (pc := 1) (jf_X1_102_0.r) rfl dX1_fault_1 rfl (is_64 hS) (by decide) (hX.2.2.1.2.2.1) ?_
  refine jw_ireturn (pc := 4) dX1_fault_4 rfl (rfl) ?_
  exact ⟨rfl, rfl⟩
theorem t_X1_where (hX : jXx M σ) : jE G mi_X1_where 9 [jr (some 64)] M (some (.int (si σ 2))) M := by
  have hS := hX.1
  refine jE.of (by decide) rfl (Nat.le_of_ble_eq_true rfl) ?_
  refine jw_aload_n (pc := 0) dX1_where_0 rfl ?_
  refine jx_getIs (pc := 1) (jf_X1_81_0.r) rfl dX1_where_1 rfl (is_64 hS) (by decide) (hX.2.2.1.2.1) ?_
  refine jw_iconst (pc := 4) dX1_where_4 ic_4 ?_
  refine jw_icmp_ne (pc := 5) (tgt := 15) dX1_where_5 (by decide) ?_ ?_
  · intro h_5
    refine jw_iconst (pc := 15) dX1_where_15 ic_m1 ?_
    refine jw_ireturn (pc := 16) dX1_where_16 rfl (rfl) ?_
    first
      | (rw [hX.2.2.1.2.2.2.1 (show si σ 0 = 4 from h_5)]; exact ⟨rfl, rfl⟩)
      | (rw [hX.2.2.1.2.2.2.2 (show si σ 0 ≠ 4 from h_5)]; exact ⟨rfl, rfl⟩)
  · intro h_5
    refine jw_aload_n (pc := 8) dX1_where_8 rfl ?_
    refine jx_getI (pc := 9) (jf_X1_22_0.r) rfl dX1_where_9 rfl (is_64 hS) (by decide) ?_
    refine jw_goto (pc := 12) (tgt := 16) dX1_where_12 (by decide) ?_
    refine jw_ireturn (pc := 16) dX1_where_16 rfl (rfl) ?_
    first
      | (rw [hX.2.2.1.2.2.2.1 (show si σ 0 = 4 from h_5)]; exact ⟨rfl, rfl⟩)
      | (rw [hX.2.2.1.2.2.2.2 (show si σ 0 ≠ 4 from h_5)]; exact ⟨rfl, rfl⟩)
theorem t_X1_path {p i : Int32} (hX : jXx M σ) : jE G mi_X1_path 9 [jr (some 64), .int p, .int i] M (some (.int (q_path σ p i))) M := by
  have hS := hX.1
  refine jE.of (by decide) rfl (Nat.le_of_ble_eq_true rfl) ?_
  refine jw_aload_n (pc := 0) dX1_path_0 rfl ?_
  refine jw_iload_n (pc := 1) dX1_path_1 rfl ?_
  refine jx_cVE (mi1 := mi_X1_isPerson) (pc := 2) rfl dX1_path_2 lk_X1_183 rfl fi_X1_isPerson rfl rfl rfl (by decide) (is_64 hS) (t_X1_isPerson (o := sv σ) hX rfl) (by first | decide | omega) rfl rfl (by decide) ?_
  first | refine jx_ifb_eq (pc := 5) (tgt := 34) dX1_path_5 (by decide) ?_ ?_ | refine jx_if_eq (pc := 5) (tgt := 34) dX1_path_5 (by decide) (by omega) ?_ ?_ | refine jw_if_eq (pc := 5) (tgt := 34) dX1_path_5 (by decide) ?_ ?_
  · intro h_5
    refine jw_iconst (pc := 34) dX1_path_34 ic_m1 ?_
    refine jw_ireturn (pc := 35) dX1_path_35 rfl (rfl) ?_
    unfold q_path
    first
      | (rw [h_5]; exact ⟨rfl, rfl⟩)
      | (rw [h_17, Bool.and_false]; exact ⟨rfl, rfl⟩)
      | (rw [if_pos (by rw [h_5, h_17]; rfl), iN_n (by omega), iN_n (by omega)]; exact ⟨rfl, rfl⟩)
  · intro h_5
    obtain ⟨V, kp, hv9, hkp, rfl⟩ := ixV_t h_5
    obtain ⟨v, hs, hN⟩ := hX.so hv9
    have hn := wf_nq hs.w
    refine jw_iload_n (pc := 8) dX1_path_8 rfl ?_
    refine jw_iconst (pc := 9) dX1_path_9 ic_0 ?_
    refine jw_aload_n (pc := 10) dX1_path_10 rfl ?_
    refine jx_getIs (pc := 11) (jf_X1_71_0.r) rfl dX1_path_11 rfl (is_64 hS) (by decide) (hN.2.2.1) ?_
    refine jx_cSE (mi1 := mi_X1_in) (pc := 14) rfl dX1_path_14 lk_X1_94 rfl fi_X1_in (t_X1_in) (by first | decide | omega) rfl rfl (by decide) ?_
    first | refine jx_ifb_eq (pc := 17) (tgt := 34) dX1_path_17 (by decide) ?_ ?_ | refine jx_if_eq (pc := 17) (tgt := 34) dX1_path_17 (by decide) (by omega) ?_ ?_ | refine jw_if_eq (pc := 17) (tgt := 34) dX1_path_17 (by decide) ?_ ?_
    · intro h_17
      refine jw_iconst (pc := 34) dX1_path_34 ic_m1 ?_
      refine jw_ireturn (pc := 35) dX1_path_35 rfl (rfl) ?_
      unfold q_path
      first
        | (rw [h_5]; exact ⟨rfl, rfl⟩)
        | (rw [h_17, Bool.and_false]; exact ⟨rfl, rfl⟩)
        | (rw [if_pos (by rw [h_5, h_17]; rfl), iN_n (by omega), iN_n (by omega)]; exact ⟨rfl, rfl⟩)
    · intro h_17
      obtain ⟨ki, hki, rfl⟩ := path_ix (hX.2.1.2 V hv9).2.2.2.2.2 h_17
      refine jw_aload_n (pc := 20) dX1_path_20 rfl ?_
      refine jx_getRs (pc := 21) (jf_X1_68_0.r) rfl dX1_path_21 rfl (is_64 hS) (by decide) (sr_64_24 hS) ?_
      refine jw_bipush (pc := 24) dX1_path_24 bp_31 ?_
      refine jw_iload_n (pc := 26) dX1_path_26 rfl ?_
      first | refine jx_imul (pc := 27) dX1_path_27 ?_ | refine jw_imul (pc := 27) dX1_path_27 ?_
      refine jw_iload_n (pc := 28) dX1_path_28 rfl ?_
      first | refine jx_iadd (pc := 29) dX1_path_29 ?_ | refine jw_iadd (pc := 29) dX1_path_29 ?_
      refine jx_ialds (pc := 30) dX1_path_30 (ok_87 hS) (nn_87 hS) rfl (by omega) (hN.2.2.2.2.2 _ (by omega)) ?_
      refine jw_goto (pc := 31) (tgt := 35) dX1_path_31 (by decide) ?_
      refine jw_ireturn (pc := 35) dX1_path_35 rfl (rfl) ?_
      unfold q_path
      first
        | (rw [h_5]; exact ⟨rfl, rfl⟩)
        | (rw [h_17, Bool.and_false]; exact ⟨rfl, rfl⟩)
        | (rw [if_pos (by rw [h_5, h_17]; rfl), iN_n (by omega), iN_n (by omega)]; exact ⟨rfl, rfl⟩)
end JO2
