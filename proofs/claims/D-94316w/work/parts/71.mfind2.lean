/-! ===== m: find, the whole ===== -/
theorem q100 {n : Nat} (h : n ≤ 2) : 10 ^ n ≤ 100 := Nat.pow_le_pow_right (n := 10) (by decide) h
section JMF
variable {G : Gh} {M : Mm} {σ : Sg} {w people : Nat} {V : Vt}
theorem lp_mf122 {M9 M1 : Mm} {places n : Nat} {x1 : Int32} {P : Rs → Mm → Prop} (h : jMk M1 w V (sgT σ 0 (-1)) people) (hM1 : jMm M1 σ) (hpl : places < 1024) (hN : 10 ^ cnt people ≤ 100) (hn : n ≤ 12) {L : Nat → Nat → Bool} (hL : jLk M1 101 (10 ^ cnt people) L)
    (k1 : ∀ M', anyB (10 ^ cnt people) (fun c => L c places) = true → jMm M' (sgT σ 0 (-1)) → jfm M1 M' → P (.inl (some (.int (nI n)))) M')
    (k2 : anyB (10 ^ cnt people) (fun c => L c places) = false → jW G mi_X5_find 9 M9 160 [some (jr (some 90)), some (.int x1), some (.int (nI places)), some (.int (nI n)), none] [] M1 P) :
    ∀ c : Nat, (c ≤ 10 ^ cnt people ∧ ∀ j, j < c → L j places = false) → jW G mi_X5_find 9 M9 122 [some (jr (some 90)), some (.int x1), some (.int (nI places)), some (.int (nI n)), some (.int (nI c))] [] M1 P := by
  have hS := hM1.1
  refine jW.loop _ (fun c => 10 ^ cnt people - c) _ (fun _ => []) (fun _ => M1) (fun c hI ih => ?_)
  obtain ⟨hc, hno⟩ := hI
  by_cases hkn : c < 10 ^ cnt people
  ·
    refine jw_iload (pc := 122) dX5_find_122 rfl ?_
    refine jw_aload_n (pc := 124) dX5_find_124 rfl ?_
    refine jx_getIs (pc := 125) (jf_X5_473_4.r) rfl dX5_find_125 rfl (is_90 hS) (by decide) (h.2.2.2.2.2.1) ?_
    first | refine jx_icmp_ge (pc := 128) (tgt := 160) dX5_find_128 (by decide) (by omega) (by omega) ?_ ?_ | refine jw_icmp_ge (pc := 128) (tgt := 160) dX5_find_128 (by decide) ?_ ?_
    · intro h_128
      omega
    · intro h_128
      refine jw_aload_n (pc := 131) dX5_find_131 rfl ?_
      refine jx_getRs (pc := 132) (jf_X5_50_4.r) rfl dX5_find_132 rfl (is_90 hS) (by decide) (sr_90_84 hS) ?_
      refine jw_sipush (pc := 135) dX5_find_135 sp_1024 ?_
      refine jw_iload (pc := 138) dX5_find_138 rfl ?_
      first | refine jx_imul (pc := 140) dX5_find_140 ?_ | refine jw_imul (pc := 140) dX5_find_140 ?_
      refine jw_iload_n (pc := 141) dX5_find_141 rfl ?_
      first | refine jx_iadd (pc := 142) dX5_find_142 ?_ | refine jw_iadd (pc := 142) dX5_find_142 ?_
      refine jx_zalds (pc := 143) dX5_find_143 (ok_101 hS) (nn_101 hS) rfl (by omega) (hL c places hkn hpl) ?_
      first | refine jx_ifb_eq (pc := 144) (tgt := 154) dX5_find_144 (by decide) ?_ ?_ | refine jx_if_eq (pc := 144) (tgt := 154) dX5_find_144 (by decide) (by omega) ?_ ?_ | refine jw_if_eq (pc := 144) (tgt := 154) dX5_find_144 (by decide) ?_ ?_
      · intro h_144
        first | refine jx_iinc (pc := 154) dX5_find_154 rfl rfl ?_ | refine jw_iinc (pc := 154) dX5_find_154 rfl rfl rfl ?_
        try dsimp only [jput1, jkill, jclr, jis2_i, jis2_l, jis2_rs, jis2_rn, cond]
        refine jw_goto (pc := 157) (tgt := 122) dX5_find_157 (by decide) ?_
        refine ih (c + 1) ⟨hkn, fun j hj => ?_⟩ (by omega)
        by_cases e : j = c
        · subst e; exact h_144
        · exact hno j (by omega)
      · intro h_144
        refine jw_aload_n (pc := 147) dX5_find_147 rfl ?_
        refine jw_iload_n (pc := 148) dX5_find_148 rfl ?_
        refine jw_iconst (pc := 149) dX5_find_149 ic_0 ?_
        refine jx_cVi (mi1 := mi_X5_told) (pc := 150) rfl dX5_find_150 lk_X5_66 rfl fi_X5_told rfl rfl rfl (by decide) (is_90 hS) (t_X5_told0 hM1) (by first | decide | omega) rfl rfl (by decide) ?_
        intro x_150 M_150 q_150
        refine jw_ireturn (pc := 153) dX5_find_153 rfl (rfl) ?_
        obtain ⟨z1, z2, z3⟩ := q_150
        subst z1
        exact k1 _ (anyB_iff.mpr ⟨c, hkn, h_144⟩) z2 z3
  · have hk' : c = 10 ^ cnt people := by omega
    subst hk'
    refine jw_iload (pc := 122) dX5_find_122 rfl ?_
    refine jw_aload_n (pc := 124) dX5_find_124 rfl ?_
    refine jx_getIs (pc := 125) (jf_X5_473_4.r) rfl dX5_find_125 rfl (is_90 hS) (by decide) (h.2.2.2.2.2.1) ?_
    first | refine jx_icmp_ge (pc := 128) (tgt := 160) dX5_find_128 (by decide) (by omega) (by omega) ?_ ?_ | refine jw_icmp_ge (pc := 128) (tgt := 160) dX5_find_128 (by decide) ?_ ?_
    · intro h_128
      refine jW.sub ?_ (k2 ?_)
      · exact ⟨rfl, rfl, rfl, rfl, trivial⟩
      · cases z : anyB (10 ^ cnt people) (fun c => L c places) with
        | false => rfl
        | true =>
          obtain ⟨j, j1, j2⟩ := anyB_iff.mp z
          rw [hno j j1] at j2; cases j2
    · intro h_128
      omega
theorem lp_mf113 {M9 M M0 : Mm} {places : Nat} {x1 : Int32} {q : Int32 × Int32} (hM0 : jMm M0 σ) (hv9 : sv σ = some V) (h : jMk M0 w V (sgT σ 0 (-1)) people) (hpl : places < 1024) (hN : 10 ^ cnt people ≤ 100) (hf0 : jfm M M0) (hq : q = (findI V (sgT σ 0 (-1)) people places, 0)) :
    ∀ x : Nat × Mm, (x.1 ≤ 13 ∧ (jsm lqE M0 x.2 ∧ jSh x.2) ∧ (x.1 ≤ 12 → jLk x.2 101 (10 ^ cnt people) (lkQ V (sgT σ 0 (-1)) people places x.1)) ∧ ∀ j, j < x.1 → findAt V (sgT σ 0 (-1)) people places j = false) → jW G mi_X5_find 9 M9 113 [some (jr (some 90)), some (.int x1), some (.int (nI places)), some (.int (nI x.1)), none] [] x.2 (jQm M σ q) := by
  have hw9 := h.1.w
  have h0 : 0 < V 0 0 := h.2.1.2.2.1
  have ho := h.2.1.2.2.2.1
  have hst : sn σ 0 < 100 := h.2.1.2.2.2.2
  have hst2 : sn (sgT σ 0 (-1)) 0 = sn σ 0 := rfl
  refine jW.loop (σ := Nat × Mm) _ (fun x => 13 - x.1) _ (fun _ => []) (fun x => x.2) (fun x hI ih => ?_)
  obtain ⟨n, M1⟩ := x
  obtain ⟨hn, ⟨hf, hS⟩, hL, hno⟩ := hI
  dsimp only at hn hf hS hL hno ih ⊢
  have h2 := h.fr hf hS (fun a => lqE_k)
  have hM1 := hM0.mv hf (fun a => lqE_k) hS
  have hf1 : jfm M M1 := hf0.tr (frmk hf (fun a => lqE_k))
  by_cases hkn : n < 13
  · have hL1 := hL (by omega)
    have hfd := found_q (people := people) (places := places) hw9 h.2.1.1 h0 ho hpl n
    have hno2 : findAt V (sgT σ 0 (-1)) people places n = false → ∀ j, j < n + 1 → findAt V (sgT σ 0 (-1)) people places j = false := fun q j hj => by
      by_cases e : j = n
      · subst e; exact q
      · exact hno j (by omega)
    have e9 : sn σ 0 + n + 1 = sn (sgT σ 0 (-1)) 0 + (n + 1) := by rw [hst2]; omega
    have L160 : anyB (10 ^ cnt people) (fun c => lkQ V (sgT σ 0 (-1)) people places n c places) = false → jW G mi_X5_find 9 M9 160 [some (jr (some 90)), some (.int x1), some (.int (nI places)), some (.int (nI n)), none] [] M1 (jQm M σ q) := by
      intro z
      rw [hfd] at z
      refine jw_iload_n (pc := 160) dX5_find_160 rfl ?_
      refine jw_bipush (pc := 161) dX5_find_161 bp_12 ?_
      first | refine jx_icmp_ge (pc := 163) (tgt := 179) dX5_find_163 (by decide) (by omega) (by omega) ?_ ?_ | refine jw_icmp_ge (pc := 163) (tgt := 179) dX5_find_163 (by decide) ?_ ?_
      · intro h_163
        first | refine jx_iinc (pc := 179) dX5_find_179 rfl rfl ?_ | refine jw_iinc (pc := 179) dX5_find_179 rfl rfl rfl ?_
        try dsimp only [jput1, jkill, jclr, jis2_i, jis2_l, jis2_rs, jis2_rn, cond]
        refine jw_goto (pc := 182) (tgt := 113) dX5_find_182 (by decide) ?_
        first
          | exact ih (n + 1, M_176) ⟨by dsimp only; omega, ⟨hf.tr q1, q2⟩, fun _ => by dsimp only; rw [lkQ_s, ← e9]; exact q3, hno2 z⟩ (by dsimp only; omega)
          | exact ih (n + 1, M1) ⟨by dsimp only; omega, ⟨hf, hS⟩, fun c => by dsimp only at c; omega, hno2 z⟩ (by dsimp only; omega)
      · intro h_163
        refine jw_aload_n (pc := 166) dX5_find_166 rfl ?_
        refine jw_iload_n (pc := 167) dX5_find_167 rfl ?_
        refine jw_aload_n (pc := 168) dX5_find_168 rfl ?_
        refine jx_getIs (pc := 169) (jf_X5_383_4.r) rfl dX5_find_169 rfl (is_90 hS) (by decide) (h2.2.2.1) ?_
        refine jw_iload_n (pc := 172) dX5_find_172 rfl ?_
        first | refine jx_iadd (pc := 173) dX5_find_173 ?_ | refine jw_iadd (pc := 173) dX5_find_173 ?_
        refine jw_iconst (pc := 174) dX5_find_174 ic_1 ?_
        first | refine jx_iadd (pc := 175) dX5_find_175 ?_ | refine jw_iadd (pc := 175) dX5_find_175 ?_
        refine jx_cVv (mi1 := mi_X5_looksOn) (pc := 176) rfl dX5_find_176 lk_X5_522 rfl fi_X5_looksOn rfl rfl rfl (by decide) (is_90 hS) (t_X5_looksOn (t := sn σ 0 + n + 1) h2 hpl (by omega) hN hL1) (by first | decide | omega) rfl rfl (by decide) ?_
        intro M_176 q_176
        obtain ⟨q1, q2, q3⟩ := q_176
        have hS := q2
        first | refine jx_iinc (pc := 179) dX5_find_179 rfl rfl ?_ | refine jw_iinc (pc := 179) dX5_find_179 rfl rfl rfl ?_
        try dsimp only [jput1, jkill, jclr, jis2_i, jis2_l, jis2_rs, jis2_rn, cond]
        refine jw_goto (pc := 182) (tgt := 113) dX5_find_182 (by decide) ?_
        first
          | exact ih (n + 1, M_176) ⟨by dsimp only; omega, ⟨hf.tr q1, q2⟩, fun _ => by dsimp only; rw [lkQ_s, ← e9]; exact q3, hno2 z⟩ (by dsimp only; omega)
          | exact ih (n + 1, M1) ⟨by dsimp only; omega, ⟨hf, hS⟩, fun c => by dsimp only at c; omega, hno2 z⟩ (by dsimp only; omega)
    refine jw_iload_n (pc := 113) dX5_find_113 rfl ?_
    refine jw_bipush (pc := 114) dX5_find_114 bp_12 ?_
    first | refine jx_icmp_gt (pc := 116) (tgt := 185) dX5_find_116 (by decide) (by omega) (by omega) ?_ ?_ | refine jw_icmp_gt (pc := 116) (tgt := 185) dX5_find_116 (by decide) ?_ ?_
    · intro h_116
      omega
    · intro h_116
      refine jw_iconst (pc := 119) dX5_find_119 ic_0 ?_
      refine jw_istore (pc := 120) dX5_find_120 (Nat.le_of_ble_eq_true rfl) rfl ?_
      try dsimp only [jput1, jput2, jkill, jclr, jis2_i, jis2_l, jis2_rs, jis2_rn, cond]
      refine lp_mf122 h2 hM1 hpl hN (by omega) hL1 (fun M' z1 z2 z3 => ?_) L160 0 ⟨Nat.zero_le _, fun j hj => absurd hj (Nat.not_lt_zero _)⟩
      rw [hfd] at z1
      have e9 : findN V (sgT σ 0 (-1)) people places = n := fst_hit hkn z1 hno
      refine ⟨_, rfl, ?_, ?_, hf1.tr z3⟩
      · rw [hq]; unfold findI; rw [e9, if_pos hkn]
      · rw [hq]; exact z2
  · have hk' : n = 13 := by omega
    subst hk'
    refine jw_iload_n (pc := 113) dX5_find_113 rfl ?_
    refine jw_bipush (pc := 114) dX5_find_114 bp_12 ?_
    first | refine jx_icmp_gt (pc := 116) (tgt := 185) dX5_find_116 (by decide) (by omega) (by omega) ?_ ?_ | refine jw_icmp_gt (pc := 116) (tgt := 185) dX5_find_116 (by decide) ?_ ?_
    · intro h_116
      refine jw_aload_n (pc := 185) dX5_find_185 rfl ?_
      refine jw_bipush (pc := 186) dX5_find_186 bp_m2 ?_
      refine jw_iconst (pc := 188) dX5_find_188 ic_0 ?_
      refine jx_cVi (mi1 := mi_X5_told) (pc := 189) rfl dX5_find_189 lk_X5_66 rfl fi_X5_told rfl rfl rfl (by decide) (is_90 hS) (t_X5_told0 hM1) (by first | decide | omega) rfl rfl (by decide) ?_
      intro x_189 M_189 q_189
      refine jw_ireturn (pc := 192) dX5_find_192 rfl (rfl) ?_
      have e9 : findN V (sgT σ 0 (-1)) people places = 13 := fst_none hno
      refine qm ?_ hf1 q_189
      rw [hq]; unfold findI; rw [e9, if_neg (Nat.lt_irrefl _)]
    · intro h_116
      omega
theorem lp_mf57 {M9 M M0 : Mm} {places : Nat} {x1 : Int32} {q : Int32 × Int32} (hM0 : jMm M0 σ) (hv9 : sv σ = some V) (h : jMk M0 w V (sgT σ 0 (-1)) people) (hpl : places < 1024) (hN : 10 ^ cnt people ≤ 100) (hf0 : jfm M M0) (hq : q = (findI V (sgT σ 0 (-1)) people places, 0)) :
    ∀ k : Nat, k ≤ 1024 * 10 ^ cnt people → jW G mi_X5_find 9 M9 57 [some (jr (some 90)), some (.int x1), some (.int (nI places)), some (.int (nI k)), none] [] (js_As M0 101 (fun j => if j < k then nI 0 else jm_A M0 101 j)) (jQm M σ q) := by
  have hS := hM0.1
  have hw9 := h.1.w
  have ho := h.2.1.2.2.2.1
  have hst : sn σ 0 < 100 := h.2.1.2.2.2.2
  have hnow := nowC_lt h
  refine jW.loop _ (fun k => 1024 * 10 ^ cnt people - k) _ (fun _ => []) (fun k => js_As M0 101 (fun j => if j < k then nI 0 else jm_A M0 101 j)) (fun k hk ih => ?_)
  by_cases hkn : k < 1024 * 10 ^ cnt people
  ·
    refine jw_iload_n (pc := 57) dX5_find_57 rfl ?_
    refine jw_aload_n (pc := 58) dX5_find_58 rfl ?_
    refine jx_getIs (pc := 59) (jf_X5_473_4.r) rfl dX5_find_59 rfl (is_90 hS) (by decide) (h.2.2.2.2.2.1) ?_
    refine jw_sipush (pc := 62) dX5_find_62 sp_1024 ?_
    first | refine jx_imul (pc := 65) dX5_find_65 ?_ | refine jw_imul (pc := 65) dX5_find_65 ?_
    first | refine jx_icmp_ge (pc := 66) (tgt := 82) dX5_find_66 (by decide) (by omega) (by omega) ?_ ?_ | refine jw_icmp_ge (pc := 66) (tgt := 82) dX5_find_66 (by decide) ?_ ?_
    · intro h_66
      omega
    · intro h_66
      refine jw_aload_n (pc := 69) dX5_find_69 rfl ?_
      refine jx_getRs (pc := 70) (jf_X5_50_4.r) rfl dX5_find_70 rfl (is_90 hS) (by decide) (sr_90_84 hS) ?_
      refine jw_iload_n (pc := 73) dX5_find_73 rfl ?_
      refine jw_iconst (pc := 74) dX5_find_74 ic_0 ?_
      refine jx_zast (pc := 75) dX5_find_75 (by decide) (ok_101 hS) (nn_101 hS) rfl (by omega) (by exact jnar_0) ?_
      first | refine jx_iinc (pc := 76) dX5_find_76 rfl rfl ?_ | refine jw_iinc (pc := 76) dX5_find_76 rfl rfl rfl ?_
      try dsimp only [jput1, jkill, jclr, jis2_i, jis2_l, jis2_rs, jis2_rn, cond]
      refine jw_goto (pc := 79) (tgt := 57) dX5_find_79 (by decide) ?_
      refine jW.eq rfl rfl ?_ (ih (k + 1) hkn (by omega))
      rw [jAs_A]
      refine jAs_cg (fun i => ?_)
      by_cases e : i = k
      · rw [if_pos e, if_pos (by omega)]
      · rw [if_neg e]
        by_cases e2 : i < k
        · rw [if_pos e2, if_pos (by omega)]
        · rw [if_neg e2, if_neg (by omega)]
  · have hk' : k = 1024 * 10 ^ cnt people := by omega
    subst hk'
    have g1 : jsm lqE M0 (js_As M0 101 (fun j => if j < 1024 * 10 ^ cnt people then nI 0 else jm_A M0 101 j)) := jsm.As (by unfold lqE; omega)
    have hZ : jLk (js_As M0 101 (fun j => if j < 1024 * 10 ^ cnt people then nI 0 else jm_A M0 101 j)) 101 (10 ^ cnt people) (fun _ _ => false) := fun s set q1 q2 => by rw [jA_rd, if_pos (by omega)]; rfl
    have h2 := h.fr g1 hS (fun a => lqE_k)
    have hS1 : jSh (js_As M0 101 (fun j => if j < 1024 * 10 ^ cnt people then nI 0 else jm_A M0 101 j)) := hS
    generalize js_As M0 101 (fun j => if j < 1024 * 10 ^ cnt people then nI 0 else jm_A M0 101 j) = M1 at g1 hZ h2 hS1 ⊢
    clear hS
    have hS := hS1
    have hmo : lqS V people (sn σ 0) (nowC (sgT σ 0 (-1)) people) &&& places < 1024 := Nat.lt_of_le_of_lt Nat.and_le_right hpl
    have hvn : valB (V 0 0) (cnt people) (nowC (sgT σ 0 (-1)) people) = true := canC_v (i := 0) hw9 h.2.1.1 ho (decide_eq_true rfl)
    refine jw_iload_n (pc := 57) dX5_find_57 rfl ?_
    refine jw_aload_n (pc := 58) dX5_find_58 rfl ?_
    refine jx_getIs (pc := 59) (jf_X5_473_4.r) rfl dX5_find_59 rfl (is_90 hS) (by decide) (h2.2.2.2.2.2.1) ?_
    refine jw_sipush (pc := 62) dX5_find_62 sp_1024 ?_
    first | refine jx_imul (pc := 65) dX5_find_65 ?_ | refine jw_imul (pc := 65) dX5_find_65 ?_
    first | refine jx_icmp_ge (pc := 66) (tgt := 82) dX5_find_66 (by decide) (by omega) (by omega) ?_ ?_ | refine jw_icmp_ge (pc := 66) (tgt := 82) dX5_find_66 (by decide) ?_ ?_
    · intro h_66
      refine jw_aload_n (pc := 82) dX5_find_82 rfl ?_
      refine jx_getRs (pc := 83) (jf_X5_50_4.r) rfl dX5_find_83 rfl (is_90 hS) (by decide) (sr_90_84 hS) ?_
      refine jw_sipush (pc := 86) dX5_find_86 sp_1024 ?_
      refine jw_aload_n (pc := 89) dX5_find_89 rfl ?_
      refine jx_cVE (mi1 := mi_X5_stateNow) (pc := 90) rfl dX5_find_90 lk_X5_491 rfl fi_X5_stateNow rfl rfl rfl (by decide) (is_90 hS) (t_X5_stateNow h2) (by first | decide | omega) rfl rfl (by simp only [List.map_cons, List.map_nil, List.sum_cons, List.sum_nil, cat_i, cat_l, jr_cat]; decide) ?_
      first | refine jx_imul (pc := 93) dX5_find_93 ?_ | refine jw_imul (pc := 93) dX5_find_93 ?_
      refine jw_aload_n (pc := 94) dX5_find_94 rfl ?_
      refine jw_aload_n (pc := 95) dX5_find_95 rfl ?_
      refine jx_cVE (mi1 := mi_X5_stateNow) (pc := 96) rfl dX5_find_96 lk_X5_491 rfl fi_X5_stateNow rfl rfl rfl (by decide) (is_90 hS) (t_X5_stateNow h2) (by first | decide | omega) rfl rfl (by simp only [List.map_cons, List.map_nil, List.sum_cons, List.sum_nil, cat_i, cat_l, jr_cat]; decide) ?_
      refine jw_aload_n (pc := 99) dX5_find_99 rfl ?_
      refine jx_getIs (pc := 100) (jf_X5_383_4.r) rfl dX5_find_100 rfl (is_90 hS) (by decide) (h2.2.2.1) ?_
      refine jx_cVE (mi1 := mi_X5_seenBy) (pc := 103) rfl dX5_find_103 lk_X5_519 rfl fi_X5_seenBy rfl rfl rfl (by decide) (is_90 hS) (t_X5_seenBy (t := sn σ 0) h2 (by omega) hvn (by omega)) (by first | decide | omega) rfl rfl (by simp only [List.map_cons, List.map_nil, List.sum_cons, List.sum_nil, cat_i, cat_l, jr_cat]; decide) ?_
      refine jw_iload_n (pc := 106) dX5_find_106 rfl ?_
      refine jw_iand (pc := 107) dX5_find_107 ?_
      rw [nI_and']
      first | refine jx_iadd (pc := 108) dX5_find_108 ?_ | refine jw_iadd (pc := 108) dX5_find_108 ?_
      refine jw_iconst (pc := 109) dX5_find_109 ic_1 ?_
      refine jx_zast (pc := 110) dX5_find_110 (by decide) (ok_101 hS) (nn_101 hS) rfl (by omega) (by exact jnar_1) ?_
      refine jw_iconst (pc := 111) dX5_find_111 ic_0 ?_
      refine jw_istore_n (pc := 112) dX5_find_112 (Nat.le_of_ble_eq_true rfl) rfl ?_
      try dsimp only [jput1, jput2, jkill, jclr, jis2_i, jis2_l, jis2_rs, jis2_rn, cond]
      refine lp_mf113 (V := V) hM0 hv9 h hpl hN hf0 hq (0, js_A M1 101 (1024 * nowC (sgT σ 0 (-1)) people + (lqS V people (sn σ 0) (nowC (sgT σ 0 (-1)) people) &&& places)) (nI 1)) ⟨Nat.zero_le _, ⟨g1.tr (jsm.A (by unfold lqE; omega)), hS⟩, fun _ => hZ.set hmo ?_ (fun b k q1 q2 q3 => ?_), fun j hj => absurd hj (Nat.not_lt_zero _)⟩
      · show nI 1 = jb (decide (nowC (sgT σ 0 (-1)) people = nowC (sgT σ 0 (-1)) people) && decide (lqS V people (sn σ 0) (nowC (sgT σ 0 (-1)) people) &&& places = lqS V people (sn σ 0) (nowC (sgT σ 0 (-1)) people) &&& places))
        rw [decide_eq_true rfl, decide_eq_true rfl]; rfl
      · show false = (decide (b = nowC (sgT σ 0 (-1)) people) && decide (k = lqS V people (sn σ 0) (nowC (sgT σ 0 (-1)) people) &&& places))
        rw [← Bool.decide_and, decide_eq_false q3]
    · intro h_66
      omega
theorem t_X5_find {p q : Int32} (h : jMm M σ) : jT G mi_X5_find 9 [jr (some 90), .int p, .int q] M (jQm M σ (q_find σ p q)) := by
  have hS := h.1
  refine jT.of (by decide) rfl (Nat.le_of_ble_eq_true rfl) ?_
  cases hv9 : sv σ with
  | none =>
    have e0 : q_find σ p q = (-1, 1) := by unfold q_find findW; rw [hv9]; rfl
    refine jw_aload_n (pc := 0) dX5_find_0 rfl ?_
    refine jw_iconst (pc := 1) dX5_find_1 ic_0 ?_
    refine jx_putI (pc := 2) jf_X5_56_4 rfl dX5_find_2 rfl rfl (is_90 hS) (by decide) ?_
    have hM := mthr (x := nI 0) h
    have hf : jfm M (js_I M 90 49 (nI 0)) := jsm.I (by decide)
    generalize js_I M 90 49 (nI 0) = M0 at hM hf ⊢
    clear hS
    have hS := hM.1
    refine jw_aload_n (pc := 5) dX5_find_5 rfl ?_
    refine jx_getRs (pc := 6) (jf_X5_380_4.r) rfl dX5_find_6 rfl (is_90 hS) (by decide) (hM.no hv9) ?_
    refine jw_ifnonnull (pc := 9) (tgt := 18) dX5_find_9 (by decide) (fun ax h => by cases h) (fun h => ?_)
    clear h
    refine jw_aload_n (pc := 12) dX5_find_12 rfl ?_
    refine jw_iconst (pc := 13) dX5_find_13 ic_1 ?_
    refine jx_cVi (mi1 := mi_X5_refused) (pc := 14) rfl dX5_find_14 lk_X5_62 rfl fi_X5_refused rfl rfl rfl (by decide) (is_90 hS) (t_X5_refused hM) (by first | decide | omega) rfl rfl (by decide) ?_
    intro x_14 M_14 q_14
    refine jw_ireturn (pc := 17) dX5_find_17 rfl (rfl) ?_
    exact qm e0 hf q_14
  | some V =>
    have hw9 := (h.2.1.2 V hv9).1
    have hnp := wf_np hw9
    have hpw : 2 ^ V 0 0 ≤ 1024 := Nat.pow_le_pow_right (n := 2) (by decide) hnp
    have hno : ∀ x : Int32, x = 2 → findW (some V) p q = 2 → q_find σ p q = (-1, x) := fun x e c => by unfold q_find; rw [hv9, c, e]; rfl
    have hw0 : pplW (some V) p 2 = 0 → findW (some V) p q = if isIx (2 ^ V 0 0) q && decide (iN q ≠ 0) then 0 else 2 := fun c => by unfold findW; rw [if_pos c]
    have hw2 : ¬ pplW (some V) p 2 = 0 → findW (some V) p q = 2 := fun c => by
      unfold findW
      rw [if_neg c]
      rw [pplW_s] at c ⊢
      split at c
      · exact absurd rfl c
      · rename_i z; rw [if_neg z]
    refine jw_aload_n (pc := 0) dX5_find_0 rfl ?_
    refine jw_iconst (pc := 1) dX5_find_1 ic_0 ?_
    refine jx_putI (pc := 2) jf_X5_56_4 rfl dX5_find_2 rfl rfl (is_90 hS) (by decide) ?_
    have hM := mthr (x := nI 0) h
    have hf : jfm M (js_I M 90 49 (nI 0)) := jsm.I (by decide)
    generalize js_I M 90 49 (nI 0) = M0 at hM hf ⊢
    clear hS
    have hS := hM.1
    obtain ⟨w, hs, hN⟩ := hM.so hv9
    have hw := hs.s
    refine jw_aload_n (pc := 5) dX5_find_5 rfl ?_
    refine jx_getRs (pc := 6) (jf_X5_380_4.r) rfl dX5_find_6 rfl (is_90 hS) (by decide) (hs.r) ?_
    refine jw_ifnonnull (pc := 9) (tgt := 18) dX5_find_9 (by decide) (fun ax h => ?_) (fun h => by cases h)
    clear h
    refine jw_aload_n (pc := 18) dX5_find_18 rfl ?_
    refine jw_iload_n (pc := 19) dX5_find_19 rfl ?_
    refine jw_iconst (pc := 20) dX5_find_20 ic_2 ?_
    refine jx_cVE (mi1 := mi_X5_isMovers) (pc := 21) rfl dX5_find_21 lk_X5_497 rfl fi_X5_isMovers rfl rfl rfl (by decide) (is_90 hS) (t_X5_isMovers hM (by decide)) (by first | decide | omega) rfl rfl (by decide) ?_
    first | refine jx_ifb_eq (pc := 24) (tgt := 44) dX5_find_24 (by decide) ?_ ?_ | refine jx_if_eq (pc := 24) (tgt := 44) dX5_find_24 (by decide) (by omega) ?_ ?_ | refine jw_if_eq (pc := 24) (tgt := 44) dX5_find_24 (by decide) ?_ ?_
    · intro h_24
      refine jw_aload_n (pc := 44) dX5_find_44 rfl ?_
      refine jw_iconst (pc := 45) dX5_find_45 ic_2 ?_
      refine jx_cVi (mi1 := mi_X5_refused) (pc := 46) rfl dX5_find_46 lk_X5_62 rfl fi_X5_refused rfl rfl rfl (by decide) (is_90 hS) (t_X5_refused hM) (by first | decide | omega) rfl rfl (by decide) ?_
      intro x_46 M_46 q_46
      refine jw_ireturn (pc := 49) dX5_find_49 rfl (rfl) ?_
      refine qm (hno _ rfl ?_) hf q_46
      first
        | (have h5 : ¬ pplW (sv σ) p 2 = 0 := of_decide_eq_false h_24
           rw [hv9] at h5
           exact hw2 h5)
        | (have h5 : pplW (sv σ) p 2 = 0 := of_decide_eq_true h_24
           rw [hv9] at h5
           rw [hw0 h5]
           first
             | (rw [le_0 h_28]; rfl)
             | (rw [ix_ge (by omega) (Int32.not_lt.mp h_41)]; rfl))
    · intro h_24
      refine jw_iload_n (pc := 27) dX5_find_27 rfl ?_
      refine jw_if_le (pc := 28) (tgt := 44) dX5_find_28 (by decide) ?_ ?_
      · intro h_28
        refine jw_aload_n (pc := 44) dX5_find_44 rfl ?_
        refine jw_iconst (pc := 45) dX5_find_45 ic_2 ?_
        refine jx_cVi (mi1 := mi_X5_refused) (pc := 46) rfl dX5_find_46 lk_X5_62 rfl fi_X5_refused rfl rfl rfl (by decide) (is_90 hS) (t_X5_refused hM) (by first | decide | omega) rfl rfl (by decide) ?_
        intro x_46 M_46 q_46
        refine jw_ireturn (pc := 49) dX5_find_49 rfl (rfl) ?_
        refine qm (hno _ rfl ?_) hf q_46
        first
          | (have h5 : ¬ pplW (sv σ) p 2 = 0 := of_decide_eq_false h_24
             rw [hv9] at h5
             exact hw2 h5)
          | (have h5 : pplW (sv σ) p 2 = 0 := of_decide_eq_true h_24
             rw [hv9] at h5
             rw [hw0 h5]
             first
               | (rw [le_0 h_28]; rfl)
               | (rw [ix_ge (by omega) (Int32.not_lt.mp h_41)]; rfl))
      · intro h_28
        refine jw_iload_n (pc := 31) dX5_find_31 rfl ?_
        refine jw_iconst (pc := 32) dX5_find_32 ic_1 ?_
        refine jw_aload_n (pc := 33) dX5_find_33 rfl ?_
        refine jx_getRs (pc := 34) (jf_X5_380_4.r) rfl dX5_find_34 rfl (is_90 hS) (by decide) (hs.r) ?_
        refine jx_getIs (pc := 37) (jf_X5_218_12.r) rfl dX5_find_37 rfl (wis hw) (by decide) (mi_np hs.V) ?_
        refine jw_ishl (pc := 40) dX5_find_40 ?_
        rw [shl1 (by omega)]
        refine jw_icmp_lt (pc := 41) (tgt := 50) dX5_find_41 (by decide) ?_ ?_
        · intro h_41
          obtain ⟨kq, hq1, hq2, rfl⟩ := gt_0 (by omega) h_28 (fun c => absurd h_41 (Int32.not_lt.mpr c))
          have h5 : pplW (sv σ) p 2 = 0 := of_decide_eq_true h_24
          obtain ⟨V2, kp, eV, hkp, hk1, rfl, hc3, hiN⟩ := pplW_0 h5
          have eW : V2 = V := Option.some.inj (eV.symm.trans hv9)
          subst eW
          rw [hv9] at h5
          have e8 : q_find σ (nI kp) (nI kq) = (findI V2 (sgT σ 0 (-1)) kp kq, 0) := by
            have e9 := hw0 h5
            rw [ix_nI (by omega) hq1, iN_n (show kq < 2 ^ 31 by omega), decide_eq_true (by omega)] at e9
            have e7 : findW (some V2) (nI kp) (nI kq) = 0 := e9
            unfold q_find
            rw [hv9, if_pos e7, vv_s hv9, hiN, iN_n (show kq < 2 ^ 31 by omega)]
          refine jw_aload_n (pc := 50) dX5_find_50 rfl ?_
          refine jw_iload_n (pc := 51) dX5_find_51 rfl ?_
          refine jx_cVv (mi1 := mi_X5_takesMovers) (pc := 52) rfl dX5_find_52 lk_X5_500 rfl fi_X5_takesMovers rfl rfl rfl (by decide) (is_90 hS) (t_X5_takesMovers hM hv9 hkp (by omega)) (by first | decide | omega) rfl rfl (by decide) ?_
          intro M_52 q_52
          obtain ⟨hM2, hf2, w2, hk⟩ := q_52
          have hS := hM2.1
          refine jw_iconst (pc := 55) dX5_find_55 ic_0 ?_
          refine jw_istore_n (pc := 56) dX5_find_56 (Nat.le_of_ble_eq_true rfl) rfl ?_
          try dsimp only [jput1, jput2, jkill, jclr, jis2_i, jis2_l, jis2_rs, jis2_rn, cond]
          refine jW.eq rfl rfl ?_ (lp_mf57 hM2 hv9 hk (by omega) (q100 hc3) (hf.tr hf2) e8 0 (Nat.zero_le _))
          exact jAs_0 (fun i => by rw [if_neg (Nat.not_lt_zero _)])
        · intro h_41
          refine jw_aload_n (pc := 44) dX5_find_44 rfl ?_
          refine jw_iconst (pc := 45) dX5_find_45 ic_2 ?_
          refine jx_cVi (mi1 := mi_X5_refused) (pc := 46) rfl dX5_find_46 lk_X5_62 rfl fi_X5_refused rfl rfl rfl (by decide) (is_90 hS) (t_X5_refused hM) (by first | decide | omega) rfl rfl (by decide) ?_
          intro x_46 M_46 q_46
          refine jw_ireturn (pc := 49) dX5_find_49 rfl (rfl) ?_
          refine qm (hno _ rfl ?_) hf q_46
          first
            | (have h5 : ¬ pplW (sv σ) p 2 = 0 := of_decide_eq_false h_24
               rw [hv9] at h5
               exact hw2 h5)
            | (have h5 : pplW (sv σ) p 2 = 0 := of_decide_eq_true h_24
               rw [hv9] at h5
               rw [hw0 h5]
               first
                 | (rw [le_0 h_28]; rfl)
                 | (rw [ix_ge (by omega) (Int32.not_lt.mp h_41)]; rfl))
end JMF
