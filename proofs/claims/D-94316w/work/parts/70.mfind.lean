/-! ===== m: find ===== -/
section JML
variable {G : Gh} {M : Mm} {σ τ : Sg} {w people : Nat} {V : Vt}
theorem t_X5_seenBy {c t : Nat} (h : jMk M w V τ people) (hc : c < 2 ^ 30) (hv : valB (V 0 0) (cnt people) c = true) (ht : t < 2 ^ 29) : jE G mi_X5_seenBy 5 [jr (some 90), .int (nI c), .int (nI t)] M (some (.int (nI (lqS V people t c)))) M := by
  have hS := h.1.1
  have hs := h.1
  have hc3 := h.2.1.2.1
  have hp5 := mv_n hs.w h.2.1.1
  have hnq := wf_nq hs.w
  refine jE.of (by decide) rfl (Nat.le_of_ble_eq_true rfl) ?_
  have J : ∀ k : Nat, k ≤ cnt people → jW G mi_X5_seenBy 5 M 5 [some (jr (some 90)), some (.int (nI c)), some (.int (nI t)), some (.int (nI (lqK V people t c k))), some (.int (nI k))] [] M (fun z M' => z = .inl (some (.int (nI (lqS V people t c)))) ∧ M' = M) := by
    refine jW.loop _ (fun k => cnt people - k) _ (fun _ => []) (fun _ => M) (fun k hk ih => ?_)
    by_cases hkn : k < cnt people
    · obtain ⟨m1, m2, m3⟩ := mv_ok hp5 hkn
      have hmq := bit_lt h.2.1.1 m2
      have hd : dig 10 (cnt people) c k < V 0 0 := of_decide_eq_true (allB_iff.mp hv k hkn)
      refine jw_iload (pc := 5) dX5_seenBy_5 rfl ?_
      refine jw_aload_n (pc := 7) dX5_seenBy_7 rfl ?_
      refine jx_getIs (pc := 8) (jf_X5_470_4.r) rfl dX5_seenBy_8 rfl (is_90 hS) (by decide) (h.2.2.2.2.1) ?_
      first | refine jx_icmp_ge (pc := 11) (tgt := 54) dX5_seenBy_11 (by decide) (by omega) (by omega) ?_ ?_ | refine jw_icmp_ge (pc := 11) (tgt := 54) dX5_seenBy_11 (by decide) ?_ ?_
      · intro h_11
        omega
      · intro h_11
        refine jw_iload_n (pc := 14) dX5_seenBy_14 rfl ?_
        refine jw_aload_n (pc := 15) dX5_seenBy_15 rfl ?_
        refine jw_aload_n (pc := 16) dX5_seenBy_16 rfl ?_
        refine jx_getRs (pc := 17) (jf_X5_30_4.r) rfl dX5_seenBy_17 rfl (is_90 hS) (by decide) (sr_90_75 hS) ?_
        refine jw_iload (pc := 20) dX5_seenBy_20 rfl ?_
        refine jx_ialds (pc := 22) dX5_seenBy_22 (ok_96 hS) (nn_96 hS) rfl (by omega) (h.2.2.2.2.2.2 k hkn) ?_
        refine jw_iload_n (pc := 23) dX5_seenBy_23 rfl ?_
        refine jx_cVE (mi1 := mi_X5_hasEyes) (pc := 24) rfl dX5_seenBy_24 lk_X5_426 rfl fi_X5_hasEyes rfl rfl rfl (by decide) (is_90 hS) (t_X5_hasEyes hs (by omega) hmq) (by first | decide | omega) rfl rfl (by simp only [List.map_cons, List.map_nil, List.sum_cons, List.sum_nil, Value.category]; decide) ?_
        first | refine jx_ifb_eq (pc := 27) (tgt := 45) dX5_seenBy_27 (by decide) ?_ ?_ | refine jx_if_eq (pc := 27) (tgt := 45) dX5_seenBy_27 (by decide) (by omega) ?_ ?_ | refine jw_if_eq (pc := 27) (tgt := 45) dX5_seenBy_27 (by decide) ?_ ?_
        · intro h_27
          refine jw_iconst (pc := 45) dX5_seenBy_45 ic_0 ?_
          refine jw_ior (pc := 46) dX5_seenBy_46 ?_
          rw [nI_or']
          refine jw_istore_n (pc := 47) dX5_seenBy_47 (Nat.le_of_ble_eq_true rfl) rfl ?_
          try dsimp only [jput1, jput2, jkill, jclr, jis2_i, jis2_l, jis2_rs, jis2_rn, cond]
          first | refine jx_iinc (pc := 48) dX5_seenBy_48 rfl rfl ?_ | refine jw_iinc (pc := 48) dX5_seenBy_48 rfl rfl rfl ?_
          try dsimp only [jput1, jkill, jclr, jis2_i, jis2_l, jis2_rs, jis2_rn, cond]
          refine jw_goto (pc := 51) (tgt := 5) dX5_seenBy_51 (by decide) ?_
          refine jW.eq ?_ rfl rfl (ih (k + 1) hkn (by omega))
          rw [lqK_s, h_27]; rfl
        · intro h_27
          refine jw_aload_n (pc := 30) dX5_seenBy_30 rfl ?_
          refine jw_aload_n (pc := 31) dX5_seenBy_31 rfl ?_
          refine jw_iload_n (pc := 32) dX5_seenBy_32 rfl ?_
          refine jw_iload (pc := 33) dX5_seenBy_33 rfl ?_
          refine jx_cVE (mi1 := mi_X5_placeIn) (pc := 35) rfl dX5_seenBy_35 lk_X5_476 rfl fi_X5_placeIn rfl rfl rfl (by decide) (is_90 hS) (t_X5_placeIn h hc hkn) (by first | decide | omega) rfl rfl (by simp only [List.map_cons, List.map_nil, List.sum_cons, List.sum_nil, cat_i, cat_l, jr_cat]; decide) ?_
          refine jw_iload_n (pc := 38) dX5_seenBy_38 rfl ?_
          refine jx_cVE (mi1 := mi_X5_seenFrom) (pc := 39) rfl dX5_seenBy_39 lk_X5_417 rfl fi_X5_seenFrom rfl rfl rfl (by decide) (is_90 hS) (t_X5_seenFrom hs (by decide) (by decide) (by omega) hd) (by first | decide | omega) rfl rfl (by simp only [List.map_cons, List.map_nil, List.sum_cons, List.sum_nil, Value.category]; decide) ?_
          refine jw_goto (pc := 42) (tgt := 46) dX5_seenBy_42 (by decide) ?_
          refine jw_ior (pc := 46) dX5_seenBy_46 ?_
          rw [nI_or']
          refine jw_istore_n (pc := 47) dX5_seenBy_47 (Nat.le_of_ble_eq_true rfl) rfl ?_
          try dsimp only [jput1, jput2, jkill, jclr, jis2_i, jis2_l, jis2_rs, jis2_rn, cond]
          first | refine jx_iinc (pc := 48) dX5_seenBy_48 rfl rfl ?_ | refine jw_iinc (pc := 48) dX5_seenBy_48 rfl rfl rfl ?_
          try dsimp only [jput1, jkill, jclr, jis2_i, jis2_l, jis2_rs, jis2_rn, cond]
          refine jw_goto (pc := 51) (tgt := 5) dX5_seenBy_51 (by decide) ?_
          refine jW.eq ?_ rfl rfl (ih (k + 1) hkn (by omega))
          rw [lqK_s, h_27]; rfl
    · have hk' : k = cnt people := by omega
      subst hk'
      refine jw_iload (pc := 5) dX5_seenBy_5 rfl ?_
      refine jw_aload_n (pc := 7) dX5_seenBy_7 rfl ?_
      refine jx_getIs (pc := 8) (jf_X5_470_4.r) rfl dX5_seenBy_8 rfl (is_90 hS) (by decide) (h.2.2.2.2.1) ?_
      first | refine jx_icmp_ge (pc := 11) (tgt := 54) dX5_seenBy_11 (by decide) (by omega) (by omega) ?_ ?_ | refine jw_icmp_ge (pc := 11) (tgt := 54) dX5_seenBy_11 (by decide) ?_ ?_
      · intro h_11
        refine jw_iload_n (pc := 54) dX5_seenBy_54 rfl ?_
        refine jw_ireturn (pc := 55) dX5_seenBy_55 rfl (rfl) ?_
        exact ⟨rfl, rfl⟩
      · intro h_11
        omega
  refine jw_iconst (pc := 0) dX5_seenBy_0 ic_0 ?_
  refine jw_istore_n (pc := 1) dX5_seenBy_1 (Nat.le_of_ble_eq_true rfl) rfl ?_
  try dsimp only [jput1, jput2, jkill, jclr, jis2_i, jis2_l, jis2_rs, jis2_rn, cond]
  refine jw_iconst (pc := 2) dX5_seenBy_2 ic_0 ?_
  refine jw_istore (pc := 3) dX5_seenBy_3 (Nat.le_of_ble_eq_true rfl) rfl ?_
  try dsimp only [jput1, jput2, jkill, jclr, jis2_i, jis2_l, jis2_rs, jis2_rn, cond]
  exact J 0 (Nat.zero_le _)
theorem lp_q103 {M9 M0 : Mm} {places t a idx made b0 : Nat} {L : Nat → Nat → Bool} {P : Rs → Mm → Prop} (hS0 : jSh M0) (hpl : places < 1024) (ha : a < 10 ^ cnt people) (hN : 10 ^ cnt people ≤ 100) (hidx : idx < 1000) (l1 : b0 < 10 ^ cnt people) (hL : jLk M0 101 (10 ^ cnt people) L) (hN9 : jm_A M0 99 idx = nI b0)
    (fin : ∀ M', jsm (fun a => a = 102) M0 M' → jSh M' → jLk M' 102 (10 ^ cnt people) (furJ V τ people places t L a idx b0 (places + 1)) → jW G mi_X5_looksOn 7 M9 154 [some (jr (some 90)), some (.int (nI places)), some (.int (nI t)), some (.int (nI a)), some (.int (nI made)), some (.int (nI idx)), none, none] [] M' P) :
    ∀ x : Nat × Mm, (x.1 ≤ places + 1 ∧ (jsm (fun a => a = 102) M0 x.2 ∧ jSh x.2) ∧ jLk x.2 102 (10 ^ cnt people) (furJ V τ people places t L a idx b0 x.1)) → jW G mi_X5_looksOn 7 M9 103 [some (jr (some 90)), some (.int (nI places)), some (.int (nI t)), some (.int (nI a)), some (.int (nI made)), some (.int (nI idx)), some (.int (nI (moreC V people places t b0))), some (.int (nI x.1))] [] x.2 P := by
  have hmo : moreC V people places t b0 < 1024 := Nat.lt_of_le_of_lt Nat.and_le_right hpl
  refine jW.loop (σ := Nat × Mm) _ (fun x => places + 1 - x.1) _ (fun _ => []) (fun x => x.2) (fun x hI ih => ?_)
  obtain ⟨k, M1⟩ := x
  obtain ⟨hk, ⟨hf, hS⟩, hK⟩ := hI
  dsimp only at hk hf hS hK ih ⊢
  have hL1 := hL.fr (by decide) hS0 hf (by decide)
  have hz := hS0.2.2.2
  have a99 := (hf.2.2 99 (by omega) (by decide)).2.2.2.2.2.1
  by_cases hkn : k < places + 1
  · have hor : k ||| moreC V people places t b0 < 1024 := or1024 (by omega) hmo
    refine jw_iload (pc := 103) dX5_looksOn_103 rfl ?_
    refine jw_iload_n (pc := 105) dX5_looksOn_105 rfl ?_
    first | refine jx_icmp_gt (pc := 106) (tgt := 154) dX5_looksOn_106 (by decide) (by omega) (by omega) ?_ ?_ | refine jw_icmp_gt (pc := 106) (tgt := 154) dX5_looksOn_106 (by decide) ?_ ?_
    · intro h_106
      omega
    · intro h_106
      refine jw_aload_n (pc := 109) dX5_looksOn_109 rfl ?_
      refine jx_getRs (pc := 110) (jf_X5_50_4.r) rfl dX5_looksOn_110 rfl (is_90 hS) (by decide) (sr_90_84 hS) ?_
      refine jw_sipush (pc := 113) dX5_looksOn_113 sp_1024 ?_
      refine jw_iload_n (pc := 116) dX5_looksOn_116 rfl ?_
      first | refine jx_imul (pc := 117) dX5_looksOn_117 ?_ | refine jw_imul (pc := 117) dX5_looksOn_117 ?_
      refine jw_iload (pc := 118) dX5_looksOn_118 rfl ?_
      first | refine jx_iadd (pc := 120) dX5_looksOn_120 ?_ | refine jw_iadd (pc := 120) dX5_looksOn_120 ?_
      refine jx_zalds (pc := 121) dX5_looksOn_121 (ok_101 hS) (nn_101 hS) rfl (by omega) (hL1 a k ha (by omega)) ?_
      first | refine jx_ifb_eq (pc := 122) (tgt := 148) dX5_looksOn_122 (by decide) ?_ ?_ | refine jx_if_eq (pc := 122) (tgt := 148) dX5_looksOn_122 (by decide) (by omega) ?_ ?_ | refine jw_if_eq (pc := 122) (tgt := 148) dX5_looksOn_122 (by decide) ?_ ?_
      · intro h_122
        first | refine jx_iinc (pc := 148) dX5_looksOn_148 rfl rfl ?_ | refine jw_iinc (pc := 148) dX5_looksOn_148 rfl rfl rfl ?_
        try dsimp only [jput1, jkill, jclr, jis2_i, jis2_l, jis2_rs, jis2_rn, cond]
        refine jw_goto (pc := 151) (tgt := 103) dX5_looksOn_151 (by decide) ?_
        first
          | (have e7 : L a k = true := h_122
             refine ih (k + 1, js_A M1 102 (1024 * b0 + (k ||| moreC V people places t b0)) (nI 1)) ⟨by dsimp only; omega, ⟨hf.tr (jsm.A rfl), hS⟩, hK.set hor ?_ (fun b k' q1 q2 q3 => ?_)⟩ (by dsimp only; omega)
             · dsimp only
               unfold furJ
               rw [hitB_s, h_122, decide_eq_true rfl, decide_eq_true rfl, Bool.true_and, Bool.true_and, Bool.or_true, Bool.or_true]; rfl
             · dsimp only
               unfold furJ
               rw [hitB_s, h_122, Bool.true_and]
               by_cases e1 : b = b0
               · rw [decide_eq_false (show ¬ (k ||| moreC V people places t b0) = k' from fun q => q3 ⟨e1, q.symm⟩), Bool.or_false]
               · rw [decide_eq_false e1, Bool.false_and, Bool.false_and])
          | (have e7 : L a k = false := h_122
             exact ih (k + 1, M1) ⟨by dsimp only; omega, ⟨hf, hS⟩, hK.cg (fun b k' q1 q2 => (furJ_f h_122).symm)⟩ (by dsimp only; omega))
      · intro h_122
        refine jw_aload_n (pc := 125) dX5_looksOn_125 rfl ?_
        refine jx_getRs (pc := 126) (jf_X5_53_4.r) rfl dX5_looksOn_126 rfl (is_90 hS) (by decide) (sr_90_85 hS) ?_
        refine jw_sipush (pc := 129) dX5_looksOn_129 sp_1024 ?_
        refine jw_aload_n (pc := 132) dX5_looksOn_132 rfl ?_
        refine jx_getRs (pc := 133) (jf_X5_40_4.r) rfl dX5_looksOn_133 rfl (is_90 hS) (by decide) (sr_90_80 hS) ?_
        refine jw_iload (pc := 136) dX5_looksOn_136 rfl ?_
        refine jx_ialds (pc := 138) dX5_looksOn_138 (ok_99 hS) (nn_99 hS) rfl (by omega) ((a99 _).trans hN9) ?_
        first | refine jx_imul (pc := 139) dX5_looksOn_139 ?_ | refine jw_imul (pc := 139) dX5_looksOn_139 ?_
        refine jw_iload (pc := 140) dX5_looksOn_140 rfl ?_
        refine jw_iload (pc := 142) dX5_looksOn_142 rfl ?_
        refine jw_ior (pc := 144) dX5_looksOn_144 ?_
        rw [nI_or']
        first | refine jx_iadd (pc := 145) dX5_looksOn_145 ?_ | refine jw_iadd (pc := 145) dX5_looksOn_145 ?_
        refine jw_iconst (pc := 146) dX5_looksOn_146 ic_1 ?_
        refine jx_zast (pc := 147) dX5_looksOn_147 (by decide) (ok_102 hS) (nn_102 hS) rfl (by omega) (by exact jnar_1) ?_
        first | refine jx_iinc (pc := 148) dX5_looksOn_148 rfl rfl ?_ | refine jw_iinc (pc := 148) dX5_looksOn_148 rfl rfl rfl ?_
        try dsimp only [jput1, jkill, jclr, jis2_i, jis2_l, jis2_rs, jis2_rn, cond]
        refine jw_goto (pc := 151) (tgt := 103) dX5_looksOn_151 (by decide) ?_
        first
          | (have e7 : L a k = true := h_122
             refine ih (k + 1, js_A M1 102 (1024 * b0 + (k ||| moreC V people places t b0)) (nI 1)) ⟨by dsimp only; omega, ⟨hf.tr (jsm.A rfl), hS⟩, hK.set hor ?_ (fun b k' q1 q2 q3 => ?_)⟩ (by dsimp only; omega)
             · dsimp only
               unfold furJ
               rw [hitB_s, h_122, decide_eq_true rfl, decide_eq_true rfl, Bool.true_and, Bool.true_and, Bool.or_true, Bool.or_true]; rfl
             · dsimp only
               unfold furJ
               rw [hitB_s, h_122, Bool.true_and]
               by_cases e1 : b = b0
               · rw [decide_eq_false (show ¬ (k ||| moreC V people places t b0) = k' from fun q => q3 ⟨e1, q.symm⟩), Bool.or_false]
               · rw [decide_eq_false e1, Bool.false_and, Bool.false_and])
          | (have e7 : L a k = false := h_122
             exact ih (k + 1, M1) ⟨by dsimp only; omega, ⟨hf, hS⟩, hK.cg (fun b k' q1 q2 => (furJ_f h_122).symm)⟩ (by dsimp only; omega))
  · have hk' : k = places + 1 := by omega
    subst hk'
    refine jw_iload (pc := 103) dX5_looksOn_103 rfl ?_
    refine jw_iload_n (pc := 105) dX5_looksOn_105 rfl ?_
    first | refine jx_icmp_gt (pc := 106) (tgt := 154) dX5_looksOn_106 (by decide) (by omega) (by omega) ?_ ?_ | refine jw_icmp_gt (pc := 106) (tgt := 154) dX5_looksOn_106 (by decide) ?_ ?_
    · intro h_106
      refine jW.sub ?_ (fin M1 hf hS hK)
      exact ⟨rfl, rfl, rfl, rfl, rfl, rfl, trivial⟩
    · intro h_106
      omega
theorem lp_q59 {M9 M0 : Mm} {places t a : Nat} {L : Nat → Nat → Bool} {P : Rs → Mm → Prop} (h : jMk M0 w V τ people) (hpl : places < 1024) (ht : t < 200) (ha : a < 10 ^ cnt people) (hva : valB (V 0 0) (cnt people) a = true) (hN : 10 ^ cnt people ≤ 100) (hL : jLk M0 101 (10 ^ cnt people) L) (hN9 : ∀ k, k < (ledL V people a (10 ^ cnt people)).length → jm_A M0 99 k = nI ((ledL V people a (10 ^ cnt people)).getD k 0))
    (fin : ∀ M', jsm (fun a => a = 93 ∨ a = 102) M0 M' → jSh M' → jLk M' 102 (10 ^ cnt people) (furC V τ people places t L (a + 1)) → jW G mi_X5_looksOn 7 M9 160 [some (jr (some 90)), some (.int (nI places)), some (.int (nI t)), some (.int (nI a)), none, none, none, none] [] M' P) :
    ∀ x : Nat × Mm, (x.1 ≤ (ledL V people a (10 ^ cnt people)).length ∧ (jsm (fun a => a = 93 ∨ a = 102) M0 x.2 ∧ jSh x.2) ∧ jLk x.2 102 (10 ^ cnt people) (furI V τ people places t L a x.1)) → jW G mi_X5_looksOn 7 M9 59 [some (jr (some 90)), some (.int (nI places)), some (.int (nI t)), some (.int (nI a)), some (.int (nI (ledL V people a (10 ^ cnt people)).length)), some (.int (nI x.1)), none, none] [] x.2 P := by
  have hle := ledL_le V people a (10 ^ cnt people)
  refine jW.loop (σ := Nat × Mm) _ (fun x => (ledL V people a (10 ^ cnt people)).length - x.1) _ (fun _ => []) (fun x => x.2) (fun x hI ih => ?_)
  obtain ⟨idx, M1⟩ := x
  obtain ⟨hi, ⟨hf, hS⟩, hK⟩ := hI
  dsimp only at hi hf hS hK ih ⊢
  have hz := h.1.1.2.2.2
  have h2 := h.fr hf hS (fun a q => by unfold mkE; omega)
  have a99 := (hf.2.2 99 (by omega) (by decide)).2.2.2.2.2.1
  by_cases hkn : idx < (ledL V people a (10 ^ cnt people)).length
  · obtain ⟨l1, l2⟩ := led_at hkn
    have hvb := stC_v l2
    have g93 : jsm (fun a => a = 93) M1 (js_As M1 93 (triG M1 V τ people ((ledL V people a (10 ^ cnt people)).getD idx 0) (cnt people))) := jsm.As rfl
    have hK2 := hK.fr (by decide) hS g93 (by decide)
    have hf2 := hf.tr (g93.wk (F := fun a => a = 93 ∨ a = 102) (fun a q => Or.inl q))
    have h3 := h2.fr g93 hS (fun a q => by unfold mkE; omega)
    have hS3 : jSh (js_As M1 93 (triG M1 V τ people ((ledL V people a (10 ^ cnt people)).getD idx 0) (cnt people))) := hS
    have hL3 : jLk (js_As M1 93 (triG M1 V τ people ((ledL V people a (10 ^ cnt people)).getD idx 0) (cnt people))) 101 (10 ^ cnt people) L := hL.fr (by decide) h.1.1 hf2 (by decide)
    have hN3 : ∀ k, k < (ledL V people a (10 ^ cnt people)).length → jm_A (js_As M1 93 (triG M1 V τ people ((ledL V people a (10 ^ cnt people)).getD idx 0) (cnt people))) 99 k = nI ((ledL V people a (10 ^ cnt people)).getD k 0) := fun k hk => (jA_rn (by decide)).trans ((a99 _).trans (hN9 k hk))
    have next : ∀ M', jsm (fun a => a = 93 ∨ a = 102) M0 M' → jSh M' → jLk M' 102 (10 ^ cnt people) (furI V τ people places t L a (idx + 1)) → jW G mi_X5_looksOn 7 M9 154 [some (jr (some 90)), some (.int (nI places)), some (.int (nI t)), some (.int (nI a)), some (.int (nI (ledL V people a (10 ^ cnt people)).length)), some (.int (nI idx)), none, none] [] M' P := by
      intro M' q1 q2 q3
      have hS := q2
      first | refine jx_iinc (pc := 154) dX5_looksOn_154 rfl rfl ?_ | refine jw_iinc (pc := 154) dX5_looksOn_154 rfl rfl rfl ?_
      try dsimp only [jput1, jkill, jclr, jis2_i, jis2_l, jis2_rs, jis2_rn, cond]
      refine jw_goto (pc := 157) (tgt := 59) dX5_looksOn_157 (by decide) ?_
      exact ih (idx + 1, M') ⟨hkn, ⟨q1, q2⟩, q3⟩ (by dsimp only; omega)
    refine jw_iload (pc := 59) dX5_looksOn_59 rfl ?_
    refine jw_iload (pc := 61) dX5_looksOn_61 rfl ?_
    first | refine jx_icmp_ge (pc := 63) (tgt := 160) dX5_looksOn_63 (by decide) (by omega) (by omega) ?_ ?_ | refine jw_icmp_ge (pc := 63) (tgt := 160) dX5_looksOn_63 (by decide) ?_ ?_
    · intro h_63
      omega
    · intro h_63
      refine jw_aload_n (pc := 66) dX5_looksOn_66 rfl ?_
      refine jw_aload_n (pc := 67) dX5_looksOn_67 rfl ?_
      refine jx_getRs (pc := 68) (jf_X5_40_4.r) rfl dX5_looksOn_68 rfl (is_90 hS) (by decide) (sr_90_80 hS) ?_
      refine jw_iload (pc := 71) dX5_looksOn_71 rfl ?_
      refine jx_ialds (pc := 73) dX5_looksOn_73 (ok_99 hS) (nn_99 hS) rfl (by omega) ((a99 _).trans (hN9 idx hkn)) ?_
      refine jw_iload_n (pc := 74) dX5_looksOn_74 rfl ?_
      refine jx_cVE (mi1 := mi_X5_isLawfulState) (pc := 75) rfl dX5_looksOn_75 lk_X5_488 rfl fi_X5_isLawfulState rfl rfl rfl (by decide) (is_90 hS) (t_X5_isLawfulState h2 (by omega) hvb (by omega)) (by first | decide | omega) rfl rfl (by decide) ?_
      first | refine jx_ifb_ne (pc := 78) (tgt := 84) dX5_looksOn_78 (by decide) ?_ ?_ | refine jx_if_ne (pc := 78) (tgt := 84) dX5_looksOn_78 (by decide) (by omega) ?_ ?_ | refine jw_if_ne (pc := 78) (tgt := 84) dX5_looksOn_78 (by decide) ?_ ?_
      · intro h_78
        refine jw_aload_n (pc := 84) dX5_looksOn_84 rfl ?_
        refine jw_aload_n (pc := 85) dX5_looksOn_85 rfl ?_
        refine jx_getRs (pc := 86) (jf_X5_40_4.r) rfl dX5_looksOn_86 rfl (is_90 hS) (by decide) (sr_90_80 hS) ?_
        refine jw_iload (pc := 89) dX5_looksOn_89 rfl ?_
        refine jx_ialds (pc := 91) dX5_looksOn_91 (ok_99 hS) (nn_99 hS) rfl (by omega) (hN3 idx hkn) ?_
        refine jw_iload_n (pc := 92) dX5_looksOn_92 rfl ?_
        refine jx_cVE (mi1 := mi_X5_seenBy) (pc := 93) rfl dX5_looksOn_93 lk_X5_519 rfl fi_X5_seenBy rfl rfl rfl (by decide) (is_90 hS) (t_X5_seenBy h3 (by omega) hvb (by omega)) (by first | decide | omega) rfl rfl (by decide) ?_
        refine jw_iload_n (pc := 96) dX5_looksOn_96 rfl ?_
        refine jw_iand (pc := 97) dX5_looksOn_97 ?_
        rw [nI_and', show lqS V people t ((ledL V people a (10 ^ cnt people)).getD idx 0) &&& places = moreC V people places t ((ledL V people a (10 ^ cnt people)).getD idx 0) from rfl]
        generalize js_As M1 93 (triG M1 V τ people ((ledL V people a (10 ^ cnt people)).getD idx 0) (cnt people)) = M3 at hK2 hf2 h3 hS3 hL3 hN3 ⊢
        clear hS
        have hS := hS3
        refine jw_istore (pc := 98) dX5_looksOn_98 (Nat.le_of_ble_eq_true rfl) rfl ?_
        try dsimp only [jput1, jput2, jkill, jclr, jis2_i, jis2_l, jis2_rs, jis2_rn, cond]
        refine jw_iconst (pc := 100) dX5_looksOn_100 ic_0 ?_
        refine jw_istore (pc := 101) dX5_looksOn_101 (Nat.le_of_ble_eq_true rfl) rfl ?_
        try dsimp only [jput1, jput2, jkill, jclr, jis2_i, jis2_l, jis2_rs, jis2_rn, cond]
        refine lp_q103 (τ := τ) hS3 hpl ha hN (by omega) l1 hL3 (hN3 idx hkn) (fun M' q1 q2 q3 => ?_) (0, M3) ⟨Nat.zero_le _, ⟨jsm.rf, hS3⟩, hK2.cg (fun b k q1 q2 => furJ_0.symm)⟩
        exact next M' (hf2.tr (q1.wk (fun a q => Or.inr q))) q2 (q3.cg (fun b k q1 q2 => furJ_end h_78))
      · intro h_78
        refine jw_goto (pc := 81) (tgt := 154) dX5_looksOn_81 (by decide) ?_
        exact next _ hf2 hS (hK2.cg (fun b k q1 q2 => (furI_law h_78).symm))
  · have hk' : idx = (ledL V people a (10 ^ cnt people)).length := by omega
    subst hk'
    refine jw_iload (pc := 59) dX5_looksOn_59 rfl ?_
    refine jw_iload (pc := 61) dX5_looksOn_61 rfl ?_
    first | refine jx_icmp_ge (pc := 63) (tgt := 160) dX5_looksOn_63 (by decide) (by omega) (by omega) ?_ ?_ | refine jw_icmp_ge (pc := 63) (tgt := 160) dX5_looksOn_63 (by decide) ?_ ?_
    · intro h_63
      refine jW.sub ?_ (fin M1 hf hS (hK.cg (fun b k q1 q2 => furI_end q1 hva)))
      exact ⟨rfl, rfl, rfl, rfl, trivial⟩
    · intro h_63
      omega
theorem t_X5_looksOn {places t : Nat} {L : Nat → Nat → Bool} (h : jMk M w V τ people) (hpl : places < 1024) (ht : t < 200) (hN : 10 ^ cnt people ≤ 100) (hL : jLk M 101 (10 ^ cnt people) L) : jT G mi_X5_looksOn 7 [jr (some 90), .int (nI places), .int (nI t)] M (jPv (fun M' => jsm lqE M M' ∧ jSh M' ∧ jLk M' 101 (10 ^ cnt people) (furC V τ people places t L (10 ^ cnt people)))) := by
  have hS := h.1.1
  refine jT.of (by decide) rfl (Nat.le_of_ble_eq_true rfl) ?_
  have D : ∀ Mb, jMk Mb w V τ people → jsm lqE M Mb → jLk Mb 102 (10 ^ cnt people) (furC V τ people places t L (10 ^ cnt people)) → ∀ k : Nat, k ≤ 1024 * 10 ^ cnt people → jW G mi_X5_looksOn 7 M 168 [some (jr (some 90)), some (.int (nI places)), some (.int (nI t)), some (.int (nI k)), none, none, none, none] [] (js_As Mb 101 (fun j => if j < k then jm_A Mb 102 j else jm_A Mb 101 j)) (jPv (fun M' => jsm lqE M M' ∧ jSh M' ∧ jLk M' 101 (10 ^ cnt people) (furC V τ people places t L (10 ^ cnt people)))) := by
    intro Mb hb hfb hK
    have hS := hb.1.1
    have hbd : ∀ k, k < 1024 * 10 ^ cnt people → ∃ c : Bool, jm_A Mb 102 k = jb c := fun k hk => by
      refine ⟨furC V τ people places t L (10 ^ cnt people) (k / 1024) (k % 1024), ?_⟩
      rw [← hK (k / 1024) (k % 1024) (by omega) (by omega), Nat.div_add_mod]
    refine jW.loop _ (fun k => 1024 * 10 ^ cnt people - k) _ (fun _ => []) (fun k => js_As Mb 101 (fun j => if j < k then jm_A Mb 102 j else jm_A Mb 101 j)) (fun k hk ih => ?_)
    by_cases hkn : k < 1024 * 10 ^ cnt people
    · obtain ⟨c, hc⟩ := hbd k hkn
      refine jw_iload_n (pc := 168) dX5_looksOn_168 rfl ?_
      refine jw_aload_n (pc := 169) dX5_looksOn_169 rfl ?_
      refine jx_getIs (pc := 170) (jf_X5_473_4.r) rfl dX5_looksOn_170 rfl (is_90 hS) (by decide) (hb.2.2.2.2.2.1) ?_
      refine jw_sipush (pc := 173) dX5_looksOn_173 sp_1024 ?_
      first | refine jx_imul (pc := 176) dX5_looksOn_176 ?_ | refine jw_imul (pc := 176) dX5_looksOn_176 ?_
      first | refine jx_icmp_ge (pc := 177) (tgt := 198) dX5_looksOn_177 (by decide) (by omega) (by omega) ?_ ?_ | refine jw_icmp_ge (pc := 177) (tgt := 198) dX5_looksOn_177 (by decide) ?_ ?_
      · intro h_177
        omega
      · intro h_177
        refine jw_aload_n (pc := 180) dX5_looksOn_180 rfl ?_
        refine jx_getRs (pc := 181) (jf_X5_50_4.r) rfl dX5_looksOn_181 rfl (is_90 hS) (by decide) (sr_90_84 hS) ?_
        refine jw_iload_n (pc := 184) dX5_looksOn_184 rfl ?_
        refine jw_aload_n (pc := 185) dX5_looksOn_185 rfl ?_
        refine jx_getRs (pc := 186) (jf_X5_53_4.r) rfl dX5_looksOn_186 rfl (is_90 hS) (by decide) (sr_90_85 hS) ?_
        refine jw_iload_n (pc := 189) dX5_looksOn_189 rfl ?_
        refine jx_zalds (pc := 190) dX5_looksOn_190 (ok_102 hS) (nn_102 hS) rfl (by omega) ((jA_rn (by decide)).trans hc) ?_
        refine jx_zast (pc := 191) dX5_looksOn_191 (by decide) (ok_101 hS) (nn_101 hS) rfl (by omega) (by exact jnar_b _) ?_
        first | refine jx_iinc (pc := 192) dX5_looksOn_192 rfl rfl ?_ | refine jw_iinc (pc := 192) dX5_looksOn_192 rfl rfl rfl ?_
        try dsimp only [jput1, jkill, jclr, jis2_i, jis2_l, jis2_rs, jis2_rn, cond]
        refine jw_goto (pc := 195) (tgt := 168) dX5_looksOn_195 (by decide) ?_
        refine jW.eq rfl rfl ?_ (ih (k + 1) hkn (by omega))
        rw [jAs_A]
        refine jAs_cg (fun i => ?_)
        by_cases e : i = k
        · rw [if_pos e, if_pos (by omega), e, hc]
        · rw [if_neg e]
          by_cases e2 : i < k
          · rw [if_pos e2, if_pos (by omega)]
          · rw [if_neg e2, if_neg (by omega)]
    · have hk' : k = 1024 * 10 ^ cnt people := by omega
      subst hk'
      refine jw_iload_n (pc := 168) dX5_looksOn_168 rfl ?_
      refine jw_aload_n (pc := 169) dX5_looksOn_169 rfl ?_
      refine jx_getIs (pc := 170) (jf_X5_473_4.r) rfl dX5_looksOn_170 rfl (is_90 hS) (by decide) (hb.2.2.2.2.2.1) ?_
      refine jw_sipush (pc := 173) dX5_looksOn_173 sp_1024 ?_
      first | refine jx_imul (pc := 176) dX5_looksOn_176 ?_ | refine jw_imul (pc := 176) dX5_looksOn_176 ?_
      first | refine jx_icmp_ge (pc := 177) (tgt := 198) dX5_looksOn_177 (by decide) (by omega) (by omega) ?_ ?_ | refine jw_icmp_ge (pc := 177) (tgt := 198) dX5_looksOn_177 (by decide) ?_ ?_
      · intro h_177
        refine jw_return (pc := 198) dX5_looksOn_198 rfl ?_
        refine ⟨rfl, hfb.tr (jsm.As (by unfold lqE; omega)), hS, fun b' set' z1 z2 => ?_⟩
        rw [jA_rd, if_pos (by omega)]
        exact hK b' set' z1 z2
      · intro h_177
        omega
  have K : ∀ x : Nat × Mm, (x.1 ≤ 10 ^ cnt people ∧ (jsm lqE M x.2 ∧ jSh x.2) ∧ jLk x.2 101 (10 ^ cnt people) L ∧ jLk x.2 102 (10 ^ cnt people) (furC V τ people places t L x.1)) → jW G mi_X5_looksOn 7 M 29 [some (jr (some 90)), some (.int (nI places)), some (.int (nI t)), some (.int (nI x.1)), none, none, none, none] [] x.2 (jPv (fun M' => jsm lqE M M' ∧ jSh M' ∧ jLk M' 101 (10 ^ cnt people) (furC V τ people places t L (10 ^ cnt people)))) := by
    refine jW.loop (σ := Nat × Mm) _ (fun x => 10 ^ cnt people - x.1) _ (fun _ => []) (fun x => x.2) (fun x hI ih => ?_)
    obtain ⟨a, M1⟩ := x
    obtain ⟨ha, ⟨hf, hS⟩, hL1, hK⟩ := hI
    dsimp only at ha hf hS hL1 hK ih ⊢
    have h2 := h.fr hf hS (fun a => lqE_k)
    by_cases hkn : a < 10 ^ cnt people
    · have L160 : ∀ M', jsm (fun a => a = 93 ∨ a = 99 ∨ a = 102) M1 M' → jSh M' → jLk M' 102 (10 ^ cnt people) (furC V τ people places t L (a + 1)) → jW G mi_X5_looksOn 7 M 160 [some (jr (some 90)), some (.int (nI places)), some (.int (nI t)), some (.int (nI a)), none, none, none, none] [] M' (jPv (fun M' => jsm lqE M M' ∧ jSh M' ∧ jLk M' 101 (10 ^ cnt people) (furC V τ people places t L (10 ^ cnt people)))) := by
        intro M' q1 q2 q3
        have hS := q2
        first | refine jx_iinc (pc := 160) dX5_looksOn_160 rfl rfl ?_ | refine jw_iinc (pc := 160) dX5_looksOn_160 rfl rfl rfl ?_
        try dsimp only [jput1, jkill, jclr, jis2_i, jis2_l, jis2_rs, jis2_rn, cond]
        refine jw_goto (pc := 163) (tgt := 29) dX5_looksOn_163 (by decide) ?_
        exact ih (a + 1, M') ⟨hkn, ⟨hf.tr (q1.wk (fun a q => by unfold lqE; omega)), q2⟩, hL1.fr (by decide) h2.1.1 q1 (by decide), q3⟩ (by dsimp only; omega)
      cases hva : valB (V 0 0) (cnt people) a with
      | true =>
        have g99 : jsm (fun a => a = 99) M1 (js_As M1 99 (lsG M1 (ledL V people a (10 ^ cnt people)))) := jsm.As rfl
        have hK2 := hK.fr (by decide) hS g99 (by decide)
        have hL2 := hL1.fr (by decide) hS g99 (by decide)
        have h3 := h2.fr g99 hS (fun a q => by unfold mkE; omega)
        have hS3 : jSh (js_As M1 99 (lsG M1 (ledL V people a (10 ^ cnt people)))) := hS
        refine jw_iload_n (pc := 29) dX5_looksOn_29 rfl ?_
        refine jw_aload_n (pc := 30) dX5_looksOn_30 rfl ?_
        refine jx_getIs (pc := 31) (jf_X5_473_4.r) rfl dX5_looksOn_31 rfl (is_90 hS) (by decide) (h2.2.2.2.2.2.1) ?_
        first | refine jx_icmp_ge (pc := 34) (tgt := 166) dX5_looksOn_34 (by decide) (by omega) (by omega) ?_ ?_ | refine jw_icmp_ge (pc := 34) (tgt := 166) dX5_looksOn_34 (by decide) ?_ ?_
        · intro h_34
          omega
        · intro h_34
          refine jw_aload_n (pc := 37) dX5_looksOn_37 rfl ?_
          refine jw_iload_n (pc := 38) dX5_looksOn_38 rfl ?_
          refine jx_cVE (mi1 := mi_X5_isState) (pc := 39) rfl dX5_looksOn_39 lk_X5_479 rfl fi_X5_isState rfl rfl rfl (by decide) (is_90 hS) (t_X5_isState h2 (by omega)) (by first | decide | omega) rfl rfl (by decide) ?_
          rw [hva]
          first | refine jx_ifb_eq (pc := 42) (tgt := 53) dX5_looksOn_42 (by decide) ?_ ?_ | refine jx_if_eq (pc := 42) (tgt := 53) dX5_looksOn_42 (by decide) (by omega) ?_ ?_ | refine jw_if_eq (pc := 42) (tgt := 53) dX5_looksOn_42 (by decide) ?_ ?_
          · intro h_42
            exact absurd h_42 (by decide +kernel)
          · intro h_42
            refine jw_aload_n (pc := 45) dX5_looksOn_45 rfl ?_
            refine jw_iload_n (pc := 46) dX5_looksOn_46 rfl ?_
            refine jx_cVE (mi1 := mi_X5_leads) (pc := 47) rfl dX5_looksOn_47 lk_X5_485 rfl fi_X5_leads rfl rfl rfl (by decide) (is_90 hS) (t_X5_leads h2 (by omega) hva) (by first | decide | omega) rfl rfl (by decide) ?_
            refine jw_goto (pc := 50) (tgt := 54) dX5_looksOn_50 (by decide) ?_
            refine jw_istore (pc := 54) dX5_looksOn_54 (Nat.le_of_ble_eq_true rfl) rfl ?_
            try dsimp only [jput1, jput2, jkill, jclr, jis2_i, jis2_l, jis2_rs, jis2_rn, cond]
            refine jw_iconst (pc := 56) dX5_looksOn_56 ic_0 ?_
            refine jw_istore (pc := 57) dX5_looksOn_57 (Nat.le_of_ble_eq_true rfl) rfl ?_
            try dsimp only [jput1, jput2, jkill, jclr, jis2_i, jis2_l, jis2_rs, jis2_rn, cond]
            refine lp_q59 h3 hpl ht hkn hva hN hL2 (fun k hk => lsG_r hk) (fun M' q1 q2 q3 => L160 M' ((g99.wk (fun a q => by omega)).tr (q1.wk (fun a q => by omega))) q2 q3) (0, js_As M1 99 (lsG M1 (ledL V people a (10 ^ cnt people)))) ⟨Nat.zero_le _, ⟨jsm.rf, hS3⟩, hK2.cg (fun b k q1 q2 => furI_0.symm)⟩
      | false =>
        have L59 : jW G mi_X5_looksOn 7 M 59 [some (jr (some 90)), some (.int (nI places)), some (.int (nI t)), some (.int (nI a)), some (.int (nI 0)), some (.int (nI 0)), none, none] [] M1 (jPv (fun M' => jsm lqE M M' ∧ jSh M' ∧ jLk M' 101 (10 ^ cnt people) (furC V τ people places t L (10 ^ cnt people)))) := by
          refine jw_iload (pc := 59) dX5_looksOn_59 rfl ?_
          refine jw_iload (pc := 61) dX5_looksOn_61 rfl ?_
          first | refine jx_icmp_ge (pc := 63) (tgt := 160) dX5_looksOn_63 (by decide) (by omega) (by omega) ?_ ?_ | refine jw_icmp_ge (pc := 63) (tgt := 160) dX5_looksOn_63 (by decide) ?_ ?_
          · intro h_63
            refine jW.sub ?_ (L160 M1 jsm.rf hS (hK.cg (fun b k q1 q2 => (furC_no hva).symm)))
            exact ⟨rfl, rfl, rfl, rfl, trivial⟩
          · intro h_63
            omega
        refine jw_iload_n (pc := 29) dX5_looksOn_29 rfl ?_
        refine jw_aload_n (pc := 30) dX5_looksOn_30 rfl ?_
        refine jx_getIs (pc := 31) (jf_X5_473_4.r) rfl dX5_looksOn_31 rfl (is_90 hS) (by decide) (h2.2.2.2.2.2.1) ?_
        first | refine jx_icmp_ge (pc := 34) (tgt := 166) dX5_looksOn_34 (by decide) (by omega) (by omega) ?_ ?_ | refine jw_icmp_ge (pc := 34) (tgt := 166) dX5_looksOn_34 (by decide) ?_ ?_
        · intro h_34
          omega
        · intro h_34
          refine jw_aload_n (pc := 37) dX5_looksOn_37 rfl ?_
          refine jw_iload_n (pc := 38) dX5_looksOn_38 rfl ?_
          refine jx_cVE (mi1 := mi_X5_isState) (pc := 39) rfl dX5_looksOn_39 lk_X5_479 rfl fi_X5_isState rfl rfl rfl (by decide) (is_90 hS) (t_X5_isState h2 (by omega)) (by first | decide | omega) rfl rfl (by decide) ?_
          rw [hva]
          first | refine jx_ifb_eq (pc := 42) (tgt := 53) dX5_looksOn_42 (by decide) ?_ ?_ | refine jx_if_eq (pc := 42) (tgt := 53) dX5_looksOn_42 (by decide) (by omega) ?_ ?_ | refine jw_if_eq (pc := 42) (tgt := 53) dX5_looksOn_42 (by decide) ?_ ?_
          · intro h_42
            refine jw_iconst (pc := 53) dX5_looksOn_53 ic_0 ?_
            refine jw_istore (pc := 54) dX5_looksOn_54 (Nat.le_of_ble_eq_true rfl) rfl ?_
            try dsimp only [jput1, jput2, jkill, jclr, jis2_i, jis2_l, jis2_rs, jis2_rn, cond]
            refine jw_iconst (pc := 56) dX5_looksOn_56 ic_0 ?_
            refine jw_istore (pc := 57) dX5_looksOn_57 (Nat.le_of_ble_eq_true rfl) rfl ?_
            try dsimp only [jput1, jput2, jkill, jclr, jis2_i, jis2_l, jis2_rs, jis2_rn, cond]
            exact L59
          · intro h_42
            exact absurd h_42 (by decide +kernel)
    · have hk' : a = 10 ^ cnt people := by omega
      subst hk'
      refine jw_iload_n (pc := 29) dX5_looksOn_29 rfl ?_
      refine jw_aload_n (pc := 30) dX5_looksOn_30 rfl ?_
      refine jx_getIs (pc := 31) (jf_X5_473_4.r) rfl dX5_looksOn_31 rfl (is_90 hS) (by decide) (h2.2.2.2.2.2.1) ?_
      first | refine jx_icmp_ge (pc := 34) (tgt := 166) dX5_looksOn_34 (by decide) (by omega) (by omega) ?_ ?_ | refine jw_icmp_ge (pc := 34) (tgt := 166) dX5_looksOn_34 (by decide) ?_ ?_
      · intro h_34
        refine jw_iconst (pc := 166) dX5_looksOn_166 ic_0 ?_
        refine jw_istore_n (pc := 167) dX5_looksOn_167 (Nat.le_of_ble_eq_true rfl) rfl ?_
        try dsimp only [jput1, jput2, jkill, jclr, jis2_i, jis2_l, jis2_rs, jis2_rn, cond]
        refine jW.eq rfl rfl ?_ (D M1 h2 hf hK 0 (Nat.zero_le _))
        exact jAs_0 (fun i => by rw [if_neg (Nat.not_lt_zero _)])
      · intro h_34
        omega
  have C : ∀ k : Nat, k ≤ 1024 * 10 ^ cnt people → jW G mi_X5_looksOn 7 M 2 [some (jr (some 90)), some (.int (nI places)), some (.int (nI t)), some (.int (nI k)), none, none, none, none] [] (js_As M 102 (fun j => if j < k then nI 0 else jm_A M 102 j)) (jPv (fun M' => jsm lqE M M' ∧ jSh M' ∧ jLk M' 101 (10 ^ cnt people) (furC V τ people places t L (10 ^ cnt people)))) := by
    refine jW.loop _ (fun k => 1024 * 10 ^ cnt people - k) _ (fun _ => []) (fun k => js_As M 102 (fun j => if j < k then nI 0 else jm_A M 102 j)) (fun k hk ih => ?_)
    by_cases hkn : k < 1024 * 10 ^ cnt people
    ·
      refine jw_iload_n (pc := 2) dX5_looksOn_2 rfl ?_
      refine jw_aload_n (pc := 3) dX5_looksOn_3 rfl ?_
      refine jx_getIs (pc := 4) (jf_X5_473_4.r) rfl dX5_looksOn_4 rfl (is_90 hS) (by decide) (h.2.2.2.2.2.1) ?_
      refine jw_sipush (pc := 7) dX5_looksOn_7 sp_1024 ?_
      first | refine jx_imul (pc := 10) dX5_looksOn_10 ?_ | refine jw_imul (pc := 10) dX5_looksOn_10 ?_
      first | refine jx_icmp_ge (pc := 11) (tgt := 27) dX5_looksOn_11 (by decide) (by omega) (by omega) ?_ ?_ | refine jw_icmp_ge (pc := 11) (tgt := 27) dX5_looksOn_11 (by decide) ?_ ?_
      · intro h_11
        omega
      · intro h_11
        refine jw_aload_n (pc := 14) dX5_looksOn_14 rfl ?_
        refine jx_getRs (pc := 15) (jf_X5_53_4.r) rfl dX5_looksOn_15 rfl (is_90 hS) (by decide) (sr_90_85 hS) ?_
        refine jw_iload_n (pc := 18) dX5_looksOn_18 rfl ?_
        refine jw_iconst (pc := 19) dX5_looksOn_19 ic_0 ?_
        refine jx_zast (pc := 20) dX5_looksOn_20 (by decide) (ok_102 hS) (nn_102 hS) rfl (by omega) (by exact jnar_0) ?_
        first | refine jx_iinc (pc := 21) dX5_looksOn_21 rfl rfl ?_ | refine jw_iinc (pc := 21) dX5_looksOn_21 rfl rfl rfl ?_
        try dsimp only [jput1, jkill, jclr, jis2_i, jis2_l, jis2_rs, jis2_rn, cond]
        refine jw_goto (pc := 24) (tgt := 2) dX5_looksOn_24 (by decide) ?_
        refine jW.eq rfl rfl ?_ (ih (k + 1) hkn (by omega))
        rw [jAs_A]
        refine jAs_cg (fun i => ?_)
        by_cases e : i = k
        · rw [if_pos e, if_pos (by omega)]
        · rw [if_neg e]
          by_cases e2 : i < k
          · rw [if_pos e2, if_pos (by omega)]
          · rw [if_neg e2, if_neg (by omega)]
    · have hk' : k = 1024 * 10 ^ cnt people := by omega
      subst hk'
      have hg : jsm (fun a => a = 102) M (js_As M 102 (fun j => if j < 1024 * 10 ^ cnt people then nI 0 else jm_A M 102 j)) := jsm.As rfl
      refine jw_iload_n (pc := 2) dX5_looksOn_2 rfl ?_
      refine jw_aload_n (pc := 3) dX5_looksOn_3 rfl ?_
      refine jx_getIs (pc := 4) (jf_X5_473_4.r) rfl dX5_looksOn_4 rfl (is_90 hS) (by decide) (h.2.2.2.2.2.1) ?_
      refine jw_sipush (pc := 7) dX5_looksOn_7 sp_1024 ?_
      first | refine jx_imul (pc := 10) dX5_looksOn_10 ?_ | refine jw_imul (pc := 10) dX5_looksOn_10 ?_
      first | refine jx_icmp_ge (pc := 11) (tgt := 27) dX5_looksOn_11 (by decide) (by omega) (by omega) ?_ ?_ | refine jw_icmp_ge (pc := 11) (tgt := 27) dX5_looksOn_11 (by decide) ?_ ?_
      · intro h_11
        refine jw_iconst (pc := 27) dX5_looksOn_27 ic_0 ?_
        refine jw_istore_n (pc := 28) dX5_looksOn_28 (Nat.le_of_ble_eq_true rfl) rfl ?_
        try dsimp only [jput1, jput2, jkill, jclr, jis2_i, jis2_l, jis2_rs, jis2_rn, cond]
        refine K (0, _) ⟨Nat.zero_le _, ⟨hg.wk (fun a z => by unfold lqE; omega), hS⟩, hL.fr (by decide) hS hg (by decide), fun b' set' z1 z2 => ?_⟩
        show jm_A (js_As M 102 (fun j => if j < 1024 * 10 ^ cnt people then nI 0 else jm_A M 102 j)) 102 (1024 * b' + set') = jb false
        rw [jA_rd, if_pos (by omega)]; rfl
      · intro h_11
        omega
  refine jw_iconst (pc := 0) dX5_looksOn_0 ic_0 ?_
  refine jw_istore_n (pc := 1) dX5_looksOn_1 (Nat.le_of_ble_eq_true rfl) rfl ?_
  try dsimp only [jput1, jput2, jkill, jclr, jis2_i, jis2_l, jis2_rs, jis2_rn, cond]
  refine jW.eq rfl rfl ?_ (C 0 (Nat.zero_le _))
  exact jAs_0 (fun i => by rw [if_neg (Nat.not_lt_zero _)])
end JML
