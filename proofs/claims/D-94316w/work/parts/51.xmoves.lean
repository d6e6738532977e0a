/-! ===== x's movers ===== -/
def jMv (M : Mm) (V : Vt) (people : Nat) : Prop := (people < 2 ^ V 0 1 ∧ cnt people ≤ 3) ∧ jm_I M 64 19 = nI (cnt people) ∧ jm_I M 64 20 = nI (V 0 0 ^ cnt people) ∧ ∀ k, k < cnt people → jm_A M 81 k = nI (mvP people k)
def mvE (a : Nat) : Prop := a = 79 ∨ (82 ≤ a ∧ a ≤ 86) ∨ a = 88 ∨ a = 89
theorem mvE_x {a : Nat} (h : mvE a) : xsa a := by unfold mvE at h; unfold xsa; omega
theorem jMv.fr {E : Nat → Prop} {M M1 : Mm} {V : Vt} {people : Nat} (h : jMv M V people) (hS : jSh M) (g : jsm E M M1) (hE : ∀ a, E a → mvE a) : jMv M1 V people := by
  have hz := hS.2.2.2
  have a64 := g.2.2 64 (by omega) (fun q => by have := hE _ q; unfold mvE at this; omega)
  have a81 := g.2.2 81 (by omega) (fun q => by have := hE _ q; unfold mvE at this; omega)
  obtain ⟨h1, h2, h3, h4⟩ := h
  exact ⟨h1, (a64.2.2.1 _).trans h2, (a64.2.2.1 _).trans h3, fun k hk => (a81.2.2.2.2.2.1 _).trans (h4 k hk)⟩
theorem jXx.mv {E : Nat → Prop} {M M1 : Mm} {σ : Sg} (h : jXx M σ) (g : jsm E M M1) (hE : ∀ a, E a → mvE a) (hS : jSh M1) : jXx M1 σ := xscr h (g.wk (fun a q => mvE_x (hE a q))) hS
theorem frmv {E : Nat → Prop} {M M1 : Mm} (g : jsm E M M1) (hE : ∀ a, E a → mvE a) : jfx M M1 := g.wk (fun a q => xsa_E (mvE_x (hE a q)))
theorem dvP (P s j : Nat) : s / P ^ j / P = s / P ^ (j + 1) := by rw [Nat.div_div_eq_div_mul, Nat.pow_succ]
def plcG (M : Mm) (r P n s j : Nat) : Nat → Int32 := fun k => if n - j ≤ k ∧ k < n then nI (dig P n s k) else jm_A M r k
theorem plcG_0 (M : Mm) (r P n s : Nat) : js_As M r (plcG M r P n s 0) = M := jAs_0 (fun k => by unfold plcG; rw [if_neg (by omega)])
theorem plcG_s {M : Mm} {r P n s j : Nat} (h : j < n) : js_A (js_As M r (plcG M r P n s j)) r (n - j - 1) (nI (s / P ^ j % P)) = js_As M r (plcG M r P n s (j + 1)) := by
  rw [jAs_A]
  refine jAs_cg (fun k => ?_)
  unfold plcG
  by_cases e : k = n - j - 1
  · rw [if_pos e, if_pos (by omega)]
    unfold dig
    rw [show n - 1 - k = j by omega]
  · rw [if_neg e]
    by_cases e2 : n - j ≤ k ∧ k < n
    · rw [if_pos e2, if_pos (by omega)]
    · rw [if_neg e2, if_neg (by omega)]
theorem plcG_r {M : Mm} {r P n s k : Nat} (hk : k < n) : jm_A (js_As M r (plcG M r P n s n)) r k = nI (dig P n s k) := by
  rw [jA_rd]; unfold plcG; rw [if_pos (by omega)]
theorem xchA {M : Mm} {σ : Sg} {j : Nat} {v : Int32} (h : jXx M σ) : jXx (js_A M 81 j v) σ := xA h (by unfold xsa; omega)
section JXM
variable {G : Gh} {M : Mm} {σ : Sg}
theorem mv_n {V : Vt} {people : Nat} (hw : jWf V) (hp : people < 2 ^ V 0 1) : people < 32 := by
  have := Nat.pow_le_pow_right (n := 2) (by decide) (wf_nq hw); omega
theorem t_X1_choose {people : Nat} {V : Vt} (h : jXx M σ) (hv9 : sv σ = some V) (hp : people < 2 ^ V 0 1) (hc3 : cnt people ≤ 3) : jT G mi_X1_choose 2 [jr (some 64), .int (nI people)] M (jPv (fun M' => jXx M' σ ∧ jfx M M' ∧ jMv M' V people)) := by
  have hS := h.1
  have hw9 := (h.2.1.2 V hv9).1
  have hnq := wf_nq hw9
  have hnp := wf_np hw9
  have hp5 := mv_n hw9 hp
  have hca := cntN_all people hp5 (V 0 1) hnq hp
  refine jT.of (by decide) rfl (Nat.le_of_ble_eq_true rfl) ?_
  have J : ∀ x : Nat × Mm, (x.1 ≤ V 0 1 ∧ jXx x.2 σ ∧ jfx M x.2 ∧ jm_I x.2 64 19 = nI (cntN people x.1) ∧ jm_I x.2 64 20 = nI (V 0 0 ^ cntN people x.1) ∧ ∀ k, k < cntN people x.1 → jm_A x.2 81 k = nI (mvP people k)) → jW G mi_X1_choose 2 M 12 [some (jr (some 64)), some (.int (nI people)), some (.int (nI x.1))] [] x.2 (jPv (fun M' => jXx M' σ ∧ jfx M M' ∧ jMv M' V people)) := by
    refine jW.loop (σ := Nat × Mm) _ (fun x => V 0 1 - x.1) _ (fun _ => []) (fun x => x.2) (fun x hI ih => ?_)
    obtain ⟨p, M1⟩ := x
    obtain ⟨hq, hX, hf, j1, j2, j3⟩ := hI
    dsimp only at hq hX hf j1 j2 j3 ih ⊢
    have hS := hX.1
    obtain ⟨v, hs, hN⟩ := hX.so hv9
    have hv := hs.s
    have hs1 := cntN_s people p
    have hm := cntN_mono people hq
    by_cases hkn : p < V 0 1
    · have hm2 := cntN_mono people (show p + 1 ≤ V 0 1 from hkn)
      have hh : people.testBit p = true → cntN people (p + 1) = cntN people p + 1 := fun e => by rw [hs1, e]; rfl
      have hn9 : people.testBit p = true → cntN people p < 3 := fun e => by have := hh e; omega
      refine jw_iload_n (pc := 12) dX1_choose_12 rfl ?_
      refine jw_aload_n (pc := 13) dX1_choose_13 rfl ?_
      refine jx_getRs (pc := 14) (jf_X1_109_0.r) rfl dX1_choose_14 rfl (is_64 hS) (by decide) (hs.r) ?_
      refine jx_getIs (pc := 17) (jf_X1_137_5.r) rfl dX1_choose_17 rfl (vis hv) (by decide) (xi_nq hs.V) ?_
      first | refine jx_icmp_ge (pc := 20) (tgt := 76) dX1_choose_20 (by decide) (by omega) (by omega) ?_ ?_ | refine jw_icmp_ge (pc := 20) (tgt := 76) dX1_choose_20 (by decide) ?_ ?_
      · intro h_20
        omega
      · intro h_20
        refine jw_iload_n (pc := 23) dX1_choose_23 rfl ?_
        refine jw_iload_n (pc := 24) dX1_choose_24 rfl ?_
        refine jx_cSE (mi1 := mi_X1_lies) (pc := 25) rfl dX1_choose_25 lk_X1_189 rfl fi_X1_lies (t_X1_lies (by omega) (by omega)) (by first | decide | omega) rfl rfl (by decide) ?_
        first | refine jx_ifb_ne (pc := 28) (tgt := 34) dX1_choose_28 (by decide) ?_ ?_ | refine jx_if_ne (pc := 28) (tgt := 34) dX1_choose_28 (by decide) (by omega) ?_ ?_ | refine jw_if_ne (pc := 28) (tgt := 34) dX1_choose_28 (by decide) ?_ ?_
        · intro h_28
          have hn9 := hn9 h_28
          refine jw_aload_n (pc := 34) dX1_choose_34 rfl ?_
          refine jx_getRs (pc := 35) (jf_X1_49_0.r) rfl dX1_choose_35 rfl (is_64 hS) (by decide) (sr_64_16 hS) ?_
          refine jw_aload_n (pc := 38) dX1_choose_38 rfl ?_
          refine jx_getIs (pc := 39) (jf_X1_287_0.r) rfl dX1_choose_39 rfl (is_64 hS) (by decide) (j1) ?_
          refine jw_iload_n (pc := 42) dX1_choose_42 rfl ?_
          refine jx_iast (pc := 43) dX1_choose_43 (by decide) (ok_81 hS) (nn_81 hS) rfl (by omega) ?_
          refine jw_aload_n (pc := 44) dX1_choose_44 rfl ?_
          refine jw_dup (pc := 45) dX1_choose_45 (jis2_r _) ?_
          refine jx_getIs (pc := 46) (jf_X1_287_0.r) rfl dX1_choose_46 rfl (is_64 hS) (by decide) (j1) ?_
          refine jw_iconst (pc := 49) dX1_choose_49 ic_1 ?_
          first | refine jx_iadd (pc := 50) dX1_choose_50 ?_ | refine jw_iadd (pc := 50) dX1_choose_50 ?_
          refine jx_putI (pc := 51) jf_X1_287_0 rfl dX1_choose_51 rfl rfl (is_64 hS) (by decide) ?_
          refine jw_aload_n (pc := 54) dX1_choose_54 rfl ?_
          refine jw_dup (pc := 55) dX1_choose_55 (jis2_r _) ?_
          refine jx_getIs (pc := 56) (jf_X1_290_0.r) rfl dX1_choose_56 rfl (is_64 hS) (by decide) (j2) ?_
          refine jw_aload_n (pc := 59) dX1_choose_59 rfl ?_
          refine jx_getRs (pc := 60) (jf_X1_109_0.r) rfl dX1_choose_60 rfl (is_64 hS) (by decide) (hs.r) ?_
          refine jx_getIs (pc := 63) (jf_X1_150_5.r) rfl dX1_choose_63 rfl (vis hv) (by decide) ((show jm_I (js_I (js_A M1 81 (cntN people p) (nI p)) 64 19 (nI (cntN people p + 1))) v 97 = nI (V 0 0) by rw [jI_I, if_neg (fun q => by have := hv.2.1; omega)]; exact (show jm_I M1 v 97 = nI (V 0 0) from xi_np hs.V))) ?_
          first | refine jx_imul (pc := 66) dX1_choose_66 ?_ | refine jw_imul (pc := 66) dX1_choose_66 ?_
          refine jx_putI (pc := 67) jf_X1_290_0 rfl dX1_choose_67 rfl rfl (is_64 hS) (by decide) ?_
          first | refine jx_iinc (pc := 70) dX1_choose_70 rfl rfl ?_ | refine jw_iinc (pc := 70) dX1_choose_70 rfl rfl rfl ?_
          try dsimp only [jput1, jkill, jclr, jis2_i, jis2_l, jis2_rs, jis2_rn, cond]
          refine jw_goto (pc := 73) (tgt := 12) dX1_choose_73 (by decide) ?_
          first
            | (refine ih (p + 1, js_I (js_I (js_A M1 81 (cntN people p) (nI p)) 64 19 (nI (cntN people p + 1))) 64 20 (nI (V 0 0 ^ cntN people p * V 0 0))) ⟨hkn, xI (xI (xchA hX) (by decide)) (by decide), ((hf.tr (jsm.A (by decide))).tr (jsm.I (by decide))).tr (jsm.I (by decide)), ?_, ?_, fun k hk => ?_⟩ (by dsimp only; omega)
               · dsimp only; rw [hh h_28]; rfl
               · dsimp only; rw [hh h_28, Nat.pow_succ]; rfl
               · dsimp only at hk ⊢
                 rw [hh h_28] at hk
                 by_cases e : k = cntN people p
                 · subst e; exact (jA_same (M := M1)).trans (by rw [show mvP people (cntN people p) = p from nth_of people hp5 p (by omega) h_28])
                 · exact (jA_oth (M := M1) e).trans (j3 k (by omega)))
            | (have e : cntN people (p + 1) = cntN people p := by rw [hs1, h_28]; rfl
               exact ih (p + 1, M1) ⟨hkn, hX, hf, by dsimp only; rw [e]; exact j1, by dsimp only; rw [e]; exact j2, by dsimp only; rw [e]; exact j3⟩ (by dsimp only; omega))
        · intro h_28
          refine jw_goto (pc := 31) (tgt := 70) dX1_choose_31 (by decide) ?_
          first | refine jx_iinc (pc := 70) dX1_choose_70 rfl rfl ?_ | refine jw_iinc (pc := 70) dX1_choose_70 rfl rfl rfl ?_
          try dsimp only [jput1, jkill, jclr, jis2_i, jis2_l, jis2_rs, jis2_rn, cond]
          refine jw_goto (pc := 73) (tgt := 12) dX1_choose_73 (by decide) ?_
          first
            | (refine ih (p + 1, js_I (js_I (js_A M1 81 (cntN people p) (nI p)) 64 19 (nI (cntN people p + 1))) 64 20 (nI (V 0 0 ^ cntN people p * V 0 0))) ⟨hkn, xI (xI (xchA hX) (by decide)) (by decide), ((hf.tr (jsm.A (by decide))).tr (jsm.I (by decide))).tr (jsm.I (by decide)), ?_, ?_, fun k hk => ?_⟩ (by dsimp only; omega)
               · dsimp only; rw [hh h_28]; rfl
               · dsimp only; rw [hh h_28, Nat.pow_succ]; rfl
               · dsimp only at hk ⊢
                 rw [hh h_28] at hk
                 by_cases e : k = cntN people p
                 · subst e; exact (jA_same (M := M1)).trans (by rw [show mvP people (cntN people p) = p from nth_of people hp5 p (by omega) h_28])
                 · exact (jA_oth (M := M1) e).trans (j3 k (by omega)))
            | (have e : cntN people (p + 1) = cntN people p := by rw [hs1, h_28]; rfl
               exact ih (p + 1, M1) ⟨hkn, hX, hf, by dsimp only; rw [e]; exact j1, by dsimp only; rw [e]; exact j2, by dsimp only; rw [e]; exact j3⟩ (by dsimp only; omega))
    · have hk' : p = V 0 1 := by omega
      subst hk'
      refine jw_iload_n (pc := 12) dX1_choose_12 rfl ?_
      refine jw_aload_n (pc := 13) dX1_choose_13 rfl ?_
      refine jx_getRs (pc := 14) (jf_X1_109_0.r) rfl dX1_choose_14 rfl (is_64 hS) (by decide) (hs.r) ?_
      refine jx_getIs (pc := 17) (jf_X1_137_5.r) rfl dX1_choose_17 rfl (vis hv) (by decide) (xi_nq hs.V) ?_
      first | refine jx_icmp_ge (pc := 20) (tgt := 76) dX1_choose_20 (by decide) (by omega) (by omega) ?_ ?_ | refine jw_icmp_ge (pc := 20) (tgt := 76) dX1_choose_20 (by decide) ?_ ?_
      · intro h_20
        refine jw_return (pc := 76) dX1_choose_76 rfl ?_
        exact ⟨rfl, hX, hf, ⟨hp, hc3⟩, by rw [← hca]; exact j1, by rw [← hca]; exact j2, by rw [← hca]; exact j3⟩
      · intro h_20
        omega
  refine jw_aload_n (pc := 0) dX1_choose_0 rfl ?_
  refine jw_iconst (pc := 1) dX1_choose_1 ic_0 ?_
  refine jx_putI (pc := 2) jf_X1_287_0 rfl dX1_choose_2 rfl rfl (is_64 hS) (by decide) ?_
  refine jw_aload_n (pc := 5) dX1_choose_5 rfl ?_
  refine jw_iconst (pc := 6) dX1_choose_6 ic_1 ?_
  refine jx_putI (pc := 7) jf_X1_290_0 rfl dX1_choose_7 rfl rfl (is_64 hS) (by decide) ?_
  refine jw_iconst (pc := 10) dX1_choose_10 ic_0 ?_
  refine jw_istore_n (pc := 11) dX1_choose_11 (Nat.le_of_ble_eq_true rfl) rfl ?_
  try dsimp only [jput1, jput2, jkill, jclr, jis2_i, jis2_l, jis2_rs, jis2_rn, cond]
  exact J (0, js_I (js_I M 64 19 (nI 0)) 64 20 (nI 1)) ⟨Nat.zero_le _, xI (xI h (by decide)) (by decide), (jsm.I (by decide)).tr (jsm.I (by decide)), rfl, rfl, fun k hk => absurd hk (Nat.not_lt_zero _)⟩
theorem t_X1_stateOf {v r n : Nat} {V : Vt} {f : Nat → Nat} (hs : jXs M v V) (h1 : jm_I M 64 19 = nI n) (hn : n ≤ 3) (hok : jok M r 0) (hnn : jm_N M r = 3) (hf : ∀ k, k < n → jm_A M r k = nI (f k)) : jE G mi_X1_stateOf 1 [jr (some 64), jr (some r)] M (some (.int (nI (codeN (V 0 0) n f)))) M := by
  have hS := hs.1
  have hv := hs.s
  refine jE.of (by decide) rfl (Nat.le_of_ble_eq_true rfl) ?_
  have J : ∀ k : Nat, k ≤ n → jW G mi_X1_stateOf 1 M 4 [some (jr (some 64)), some (jr (some r)), some (.int (nI (codeN (V 0 0) k f))), some (.int (nI k))] [] M (fun z M' => z = .inl (some (.int (nI (codeN (V 0 0) n f)))) ∧ M' = M) := by
    refine jW.loop _ (fun k => n - k) _ (fun _ => []) (fun _ => M) (fun k hk ih => ?_)
    by_cases hkn : k < n
    ·
      refine jw_iload_n (pc := 4) dX1_stateOf_4 rfl ?_
      refine jw_aload_n (pc := 5) dX1_stateOf_5 rfl ?_
      refine jx_getIs (pc := 6) (jf_X1_287_0.r) rfl dX1_stateOf_6 rfl (is_64 hS) (by decide) (h1) ?_
      first | refine jx_icmp_ge (pc := 9) (tgt := 32) dX1_stateOf_9 (by decide) (by omega) (by omega) ?_ ?_ | refine jw_icmp_ge (pc := 9) (tgt := 32) dX1_stateOf_9 (by decide) ?_ ?_
      · intro h_9
        omega
      · intro h_9
        refine jw_iload_n (pc := 12) dX1_stateOf_12 rfl ?_
        refine jw_aload_n (pc := 13) dX1_stateOf_13 rfl ?_
        refine jx_getRs (pc := 14) (jf_X1_109_0.r) rfl dX1_stateOf_14 rfl (is_64 hS) (by decide) (hs.r) ?_
        refine jx_getIs (pc := 17) (jf_X1_150_5.r) rfl dX1_stateOf_17 rfl (vis hv) (by decide) (xi_np hs.V) ?_
        first | refine jx_imul (pc := 20) dX1_stateOf_20 ?_ | refine jw_imul (pc := 20) dX1_stateOf_20 ?_
        refine jw_aload_n (pc := 21) dX1_stateOf_21 rfl ?_
        refine jw_iload_n (pc := 22) dX1_stateOf_22 rfl ?_
        refine jx_ialds (pc := 23) dX1_stateOf_23 (hok) (hnn) rfl (by omega) (hf k hkn) ?_
        first | refine jx_iadd (pc := 24) dX1_stateOf_24 ?_ | refine jw_iadd (pc := 24) dX1_stateOf_24 ?_
        refine jw_istore_n (pc := 25) dX1_stateOf_25 (Nat.le_of_ble_eq_true rfl) rfl ?_
        try dsimp only [jput1, jput2, jkill, jclr, jis2_i, jis2_l, jis2_rs, jis2_rn, cond]
        first | refine jx_iinc (pc := 26) dX1_stateOf_26 rfl rfl ?_ | refine jw_iinc (pc := 26) dX1_stateOf_26 rfl rfl rfl ?_
        try dsimp only [jput1, jkill, jclr, jis2_i, jis2_l, jis2_rs, jis2_rn, cond]
        refine jw_goto (pc := 29) (tgt := 4) dX1_stateOf_29 (by decide) ?_
        exact ih (k + 1) hkn (by omega)
    · have hk' : k = n := by omega
      subst hk'
      refine jw_iload_n (pc := 4) dX1_stateOf_4 rfl ?_
      refine jw_aload_n (pc := 5) dX1_stateOf_5 rfl ?_
      refine jx_getIs (pc := 6) (jf_X1_287_0.r) rfl dX1_stateOf_6 rfl (is_64 hS) (by decide) (h1) ?_
      first | refine jx_icmp_ge (pc := 9) (tgt := 32) dX1_stateOf_9 (by decide) (by omega) (by omega) ?_ ?_ | refine jw_icmp_ge (pc := 9) (tgt := 32) dX1_stateOf_9 (by decide) ?_ ?_
      · intro h_9
        refine jw_iload_n (pc := 32) dX1_stateOf_32 rfl ?_
        refine jw_ireturn (pc := 33) dX1_stateOf_33 rfl (rfl) ?_
        exact ⟨rfl, rfl⟩
      · intro h_9
        omega
  refine jw_iconst (pc := 0) dX1_stateOf_0 ic_0 ?_
  refine jw_istore_n (pc := 1) dX1_stateOf_1 (Nat.le_of_ble_eq_true rfl) rfl ?_
  try dsimp only [jput1, jput2, jkill, jclr, jis2_i, jis2_l, jis2_rs, jis2_rn, cond]
  refine jw_iconst (pc := 2) dX1_stateOf_2 ic_0 ?_
  refine jw_istore_n (pc := 3) dX1_stateOf_3 (Nat.le_of_ble_eq_true rfl) rfl ?_
  try dsimp only [jput1, jput2, jkill, jclr, jis2_i, jis2_l, jis2_rs, jis2_rn, cond]
  exact J 0 (Nat.zero_le _)
theorem t_X1_places {v r n s : Nat} {V : Vt} (hs : jXs M v V) (h1 : jm_I M 64 19 = nI n) (hn : n ≤ 3) (hP : 1 ≤ V 0 0) (hsl : s < 2 ^ 30) (hr : 64 ≤ r) (hok : jok M r 0) (hnn : jm_N M r = 3) : jE G mi_X1_places 1 [jr (some 64), .int (nI s), jr (some r)] M none (js_As M r (plcG M r (V 0 0) n s n)) := by
  have hS := hs.1
  have hv := hs.s
  have hnp := wf_np hs.w
  refine jE.of (by decide) rfl (Nat.le_of_ble_eq_true rfl) ?_
  have J : ∀ j : Nat, j ≤ n → jW G mi_X1_places 1 M 10 [some (jr (some 64)), some (.int (nI s)), some (jr (some r)), some (.int (nI (s / V 0 0 ^ j))), some (.int (nI (n - j) - nI 1))] [] (js_As M r (plcG M r (V 0 0) n s j)) (fun z M' => z = .inl none ∧ M' = js_As M r (plcG M r (V 0 0) n s n)) := by
    refine jW.loop _ (fun j => n - j) _ (fun _ => []) (fun j => js_As M r (plcG M r (V 0 0) n s j)) (fun j hj ih => ?_)
    have hl : s / V 0 0 ^ j < 2 ^ 30 := Nat.lt_of_le_of_lt (Nat.div_le_self _ _) hsl
    by_cases hkn : j < n
    · have e9 := zdec (a := n - j) (by omega)
      rw [sub1 (by omega)] at e9
      rw [sub1 (by omega)]
      have hmod : s / V 0 0 ^ j % V 0 0 < V 0 0 := Nat.mod_lt _ hP
      refine jw_iload (pc := 10) dX1_places_10 rfl ?_
      refine jw_if_lt (pc := 12) (tgt := 44) dX1_places_12 (by decide) ?_ ?_
      · intro h_12
        exact absurd h_12 (nI_nn (by omega))
      · intro h_12
        refine jw_aload_n (pc := 15) dX1_places_15 rfl ?_
        refine jw_iload (pc := 16) dX1_places_16 rfl ?_
        refine jw_iload_n (pc := 18) dX1_places_18 rfl ?_
        refine jw_aload_n (pc := 19) dX1_places_19 rfl ?_
        refine jx_getRs (pc := 20) (jf_X1_109_0.r) rfl dX1_places_20 rfl (is_64 hS) (by decide) (hs.r) ?_
        refine jx_getIs (pc := 23) (jf_X1_150_5.r) rfl dX1_places_23 rfl (vis hv) (by decide) ((show jm_I M v 97 = nI (V 0 0) from xi_np hs.V)) ?_
        refine jw_irem (pc := 26) dX1_places_26 (ne_nI (by omega) (by omega)) ?_
        rw [i_rem (by omega) (by omega) (by omega)]
        refine jx_iast (pc := 27) dX1_places_27 (hr) (hok) (hnn) rfl (by omega) ?_
        rw [plcG_s hkn]
        refine jw_iload_n (pc := 28) dX1_places_28 rfl ?_
        refine jw_aload_n (pc := 29) dX1_places_29 rfl ?_
        refine jx_getRs (pc := 30) (jf_X1_109_0.r) rfl dX1_places_30 rfl (is_64 hS) (by decide) (hs.r) ?_
        refine jx_getIs (pc := 33) (jf_X1_150_5.r) rfl dX1_places_33 rfl (vis hv) (by decide) ((show jm_I M v 97 = nI (V 0 0) from xi_np hs.V)) ?_
        refine jw_idiv (pc := 36) dX1_places_36 (ne_nI (by omega) (by omega)) ?_
        rw [i_div (by omega) (by omega) (by omega), dvP]
        refine jw_istore_n (pc := 37) dX1_places_37 (Nat.le_of_ble_eq_true rfl) rfl ?_
        try dsimp only [jput1, jput2, jkill, jclr, jis2_i, jis2_l, jis2_rs, jis2_rn, cond]
        refine jw_iinc (pc := 38) dX1_places_38 rfl rfl rfl ?_
        try dsimp only [jput1, jkill, jclr, jis2_i, jis2_l, jis2_rs, jis2_rn, cond]
        refine jw_goto (pc := 41) (tgt := 10) dX1_places_41 (by decide) ?_
        refine jW.eq ?_ rfl rfl (ih (j + 1) hkn (by omega))
        rw [e9, show n - (j + 1) = n - j - 1 by omega]
    · have hk' : j = n := by omega
      subst hk'
      refine jw_iload (pc := 10) dX1_places_10 rfl ?_
      refine jw_if_lt (pc := 12) (tgt := 44) dX1_places_12 (by decide) ?_ ?_
      · intro h_12
        refine jw_return (pc := 44) dX1_places_44 rfl ?_
        exact ⟨rfl, rfl⟩
      · intro h_12
        exact absurd (by rw [Nat.sub_self]; decide +kernel) h_12
  refine jw_iload_n (pc := 0) dX1_places_0 rfl ?_
  refine jw_istore_n (pc := 1) dX1_places_1 (Nat.le_of_ble_eq_true rfl) rfl ?_
  try dsimp only [jput1, jput2, jkill, jclr, jis2_i, jis2_l, jis2_rs, jis2_rn, cond]
  refine jw_aload_n (pc := 2) dX1_places_2 rfl ?_
  refine jx_getIs (pc := 3) (jf_X1_287_0.r) rfl dX1_places_3 rfl (is_64 hS) (by decide) (h1) ?_
  refine jw_iconst (pc := 6) dX1_places_6 ic_1 ?_
  refine jw_isub (pc := 7) dX1_places_7 ?_
  refine jw_istore (pc := 8) dX1_places_8 (Nat.le_of_ble_eq_true rfl) rfl ?_
  try dsimp only [jput1, jput2, jkill, jclr, jis2_i, jis2_l, jis2_rs, jis2_rn, cond]
  refine jW.eq ?_ rfl ?_ (J 0 (Nat.zero_le _))
  · rw [Nat.pow_zero, Nat.div_one, Nat.sub_zero]; rfl
  · exact plcG_0 _ _ _ _ _
def nowG (M : Mm) (σ : Sg) (people k : Nat) : Nat → Int32 := fun j => if j < k then nI (sa σ 0 (mvP people j)) else jm_A M 82 j
theorem t_X1_nowState {people : Nat} {V : Vt} (h : jXx M σ) (hv9 : sv σ = some V) (hm : jMv M V people) : jE G mi_X1_nowState 2 [jr (some 64)] M (some (.int (nI (nowS V σ people)))) (js_As M 82 (nowG M σ people (cnt people))) := by
  have hS := h.1
  obtain ⟨v, hs, hN⟩ := h.so hv9
  have hv := hs.s
  have hnq := wf_nq hs.w
  obtain ⟨⟨m1, m2⟩, m3, m4, m5⟩ := hm
  have hp5 := mv_n hs.w m1
  refine jE.of (by decide) rfl (Nat.le_of_ble_eq_true rfl) ?_
  have J : ∀ k : Nat, k ≤ cnt people → jW G mi_X1_nowState 2 M 2 [some (jr (some 64)), some (.int (nI k))] [] (js_As M 82 (nowG M σ people k)) (fun z M' => z = .inl (some (.int (nI (nowS V σ people)))) ∧ M' = js_As M 82 (nowG M σ people (cnt people))) := by
    refine jW.loop _ (fun k => cnt people - k) _ (fun _ => []) (fun k => js_As M 82 (nowG M σ people k)) (fun k hk ih => ?_)
    by_cases hkn : k < cnt people
    · obtain ⟨v1, v2, v3⟩ := mv_ok hp5 hkn
      have hq := bit_lt m1 v2
      refine jw_iload_n (pc := 2) dX1_nowState_2 rfl ?_
      refine jw_aload_n (pc := 3) dX1_nowState_3 rfl ?_
      refine jx_getIs (pc := 4) (jf_X1_287_0.r) rfl dX1_nowState_4 rfl (is_64 hS) (by decide) (m3) ?_
      first | refine jx_icmp_ge (pc := 7) (tgt := 33) dX1_nowState_7 (by decide) (by omega) (by omega) ?_ ?_ | refine jw_icmp_ge (pc := 7) (tgt := 33) dX1_nowState_7 (by decide) ?_ ?_
      · intro h_7
        omega
      · intro h_7
        refine jw_aload_n (pc := 10) dX1_nowState_10 rfl ?_
        refine jx_getRs (pc := 11) (jf_X1_52_0.r) rfl dX1_nowState_11 rfl (is_64 hS) (by decide) (sr_64_17 hS) ?_
        refine jw_iload_n (pc := 14) dX1_nowState_14 rfl ?_
        refine jw_aload_n (pc := 15) dX1_nowState_15 rfl ?_
        refine jx_getRs (pc := 16) (jf_X1_39_0.r) rfl dX1_nowState_16 rfl (is_64 hS) (by decide) (sr_64_10 hS) ?_
        refine jw_aload_n (pc := 19) dX1_nowState_19 rfl ?_
        refine jx_getRs (pc := 20) (jf_X1_49_0.r) rfl dX1_nowState_20 rfl (is_64 hS) (by decide) (sr_64_16 hS) ?_
        refine jw_iload_n (pc := 23) dX1_nowState_23 rfl ?_
        refine jx_ialds (pc := 24) dX1_nowState_24 (ok_81 hS) (nn_81 hS) rfl (by omega) ((jA_rn (by decide)).trans (m5 k hkn)) ?_
        refine jx_ialds (pc := 25) dX1_nowState_25 (ok_78 hS) (nn_78 hS) rfl (by omega) ((jA_rn (by decide)).trans (hN.2.2.2.1 _ hq)) ?_
        refine jx_iast (pc := 26) dX1_nowState_26 (by decide) (ok_82 hS) (nn_82 hS) rfl (by omega) ?_
        first | refine jx_iinc (pc := 27) dX1_nowState_27 rfl rfl ?_ | refine jw_iinc (pc := 27) dX1_nowState_27 rfl rfl rfl ?_
        try dsimp only [jput1, jkill, jclr, jis2_i, jis2_l, jis2_rs, jis2_rn, cond]
        refine jw_goto (pc := 30) (tgt := 2) dX1_nowState_30 (by decide) ?_
        refine jW.eq rfl rfl ?_ (ih (k + 1) hkn (by omega))
        rw [jAs_A]
        refine jAs_cg (fun i => ?_)
        unfold nowG
        by_cases e : i = k
        · rw [if_pos e, if_pos (by omega), e]
        · rw [if_neg e]
          by_cases e2 : i < k
          · rw [if_pos e2, if_pos (by omega)]
          · rw [if_neg e2, if_neg (by omega)]
    · have hk' : k = cnt people := by omega
      subst hk'
      have hs1 : jXs (js_As M 82 (nowG M σ people (cnt people))) v V := hs.fr (E := fun a => a = 82) (jsm.As rfl) hS (fun a q z => by omega) rfl (by decide) (by decide) (by decide) (by decide)
      refine jw_iload_n (pc := 2) dX1_nowState_2 rfl ?_
      refine jw_aload_n (pc := 3) dX1_nowState_3 rfl ?_
      refine jx_getIs (pc := 4) (jf_X1_287_0.r) rfl dX1_nowState_4 rfl (is_64 hS) (by decide) (m3) ?_
      first | refine jx_icmp_ge (pc := 7) (tgt := 33) dX1_nowState_7 (by decide) (by omega) (by omega) ?_ ?_ | refine jw_icmp_ge (pc := 7) (tgt := 33) dX1_nowState_7 (by decide) ?_ ?_
      · intro h_7
        refine jw_aload_n (pc := 33) dX1_nowState_33 rfl ?_
        refine jw_aload_n (pc := 34) dX1_nowState_34 rfl ?_
        refine jx_getRs (pc := 35) (jf_X1_52_0.r) rfl dX1_nowState_35 rfl (is_64 hS) (by decide) (sr_64_17 hS) ?_
        refine jx_cVE (mi1 := mi_X1_stateOf) (pc := 38) rfl dX1_nowState_38 lk_X1_293 rfl fi_X1_stateOf rfl rfl rfl (by decide) (is_64 hS) (t_X1_stateOf (f := fun k => sa σ 0 (mvP people k)) hs1 m3 m2 (ok_82 hS) (nn_82 hS) (fun k hk => by rw [jA_rd]; unfold nowG; rw [if_pos hk])) (by first | decide | omega) rfl rfl (by decide) ?_
        refine jw_ireturn (pc := 41) dX1_nowState_41 rfl (rfl) ?_
        exact ⟨rfl, rfl⟩
      · intro h_7
        omega
  refine jw_iconst (pc := 0) dX1_nowState_0 ic_0 ?_
  refine jw_istore_n (pc := 1) dX1_nowState_1 (Nat.le_of_ble_eq_true rfl) rfl ?_
  try dsimp only [jput1, jput2, jkill, jclr, jis2_i, jis2_l, jis2_rs, jis2_rn, cond]
  refine jW.eq rfl rfl ?_ (J 0 (Nat.zero_le _))
  exact jAs_0 (fun i => rfl)
end JXM
