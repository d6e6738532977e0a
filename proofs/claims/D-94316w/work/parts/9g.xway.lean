/-! ===== x reads: ways ===== -/
section JXY
variable {G : Gh} {M : Mm} {σ : Sg} {n v p zb sb' : Nat} {V : Vt}
theorem lnk_0 {a b : Nat} (hW : jWf V) (ha : a < V 0 0) : linkB V a b = (decide (b = a) || anyB (V 0 4) (fun k => (decide (V 21 k = a) && decide (V 22 k = b)) || (decide (V 21 k = b) && decide (V 22 k = a)))) := by
  obtain ⟨h1, h2, h3, h4, h5, h6, h7, h8, h9, h10, h11, h12, h13, g1, g2, g3, g4, g5, g6, g7, g8, g9⟩ := hW
  unfold linkB
  rw [Bool.eq_iff_iff, Bool.or_eq_true, Bool.or_eq_true, anyB_iff, g9 a b ha, decide_eq_true_iff, decide_eq_true_iff]
  refine or_congr ⟨fun q => q.symm, fun q => q.symm⟩ ⟨fun ⟨k, k1, k2⟩ => ⟨k, k1, ?_⟩, fun ⟨k, k1, k2⟩ => ⟨k, k1, ?_⟩⟩
  · rw [Bool.or_eq_true, Bool.and_eq_true, Bool.and_eq_true, decide_eq_true_iff, decide_eq_true_iff, decide_eq_true_iff, decide_eq_true_iff]; exact k2
  · rw [Bool.or_eq_true, Bool.and_eq_true, Bool.and_eq_true, decide_eq_true_iff, decide_eq_true_iff, decide_eq_true_iff, decide_eq_true_iff] at k2; exact k2
/-- a way is written -/
theorem xRd.way {a b qa qb : Nat} (h : xRd M σ n v V p zb sb') (hs : V 0 4 < 16) (ha : a < V 0 0) (hb : b < V 0 0) (hab : ¬ b = a) (ca : jm_C M (v + 1) a = some qa) (cb : jm_C M (v + 1) b = some qb) (ka : jis M qa 6) (kb : jis M qb 6) (na : jm_I M qa 111 = nI a) (nb : jm_I M qb 111 = nI b) : xRd (js_I (js_I (js_I M qa 114 (nI (V 3 a ||| 2 ^ b))) qb 114 (nI (V 3 b ||| 2 ^ a))) v 101 (nI (V 0 4 + 1))) σ n v (vWay V a b) p zb sb' ∧ v ≤ qa ∧ v ≤ qb := by
  have hWf := h.2.2.2.1
  have hn := wf_np hWf
  have h3' := wf_way hWf hs ha hb hab
  obtain ⟨b1, b2, b3, b4, b5⟩ := h
  have hvs := b2.1
  have h104 := hvs.2.1
  have nab : ¬ qb = qa := fun q => by
    subst q; rw [na] at nb
    exact hab (nI_inj9 (by omega) (by omega) nb).symm
  have va : v ≤ qa := by
    obtain ⟨q, o, d1, d2, d3, d4⟩ := b3.1 a ha
    rw [ca] at d1; cases d1; exact d3
  have vb : v ≤ qb := by
    obtain ⟨q, o, d1, d2, d3, d4⟩ := b3.1 b hb
    rw [cb] at d1; cases d1; exact d3
  have nva : ¬ qa = v := fun q => by have := ka.1; rw [q, hvs.1] at this; omega
  have nvb : ¬ qb = v := fun q => by have := kb.1; rw [q, hvs.1] at this; omega
  have g : jsm (fun x => x = v ∨ x = qa ∨ x = qb) M (js_I (js_I (js_I M qa 114 (nI (V 3 a ||| 2 ^ b))) qb 114 (nI (V 3 b ||| 2 ^ a))) v 101 (nI (V 0 4 + 1))) := ((jsm.I (Or.inr (Or.inl rfl))).tr (jsm.I (Or.inr (Or.inr rfl)))).tr (jsm.I (Or.inl rfl))
  have r3 : ∀ c, vWay V a b 3 c = if c = b then V 3 b ||| 2 ^ a else if c = a then V 3 a ||| 2 ^ b else V 3 c := fun c => by
    unfold vWay
    by_cases e : c = b
    · simp [vS, e]
    · by_cases e2 : c = a
      · simp [vS, e, e2, Ne.symm hab]
      · simp [vS, e, e2]
  have e0 : ∀ k, ¬ k = 4 → vWay V a b 0 k = V 0 k := fun k q => by unfold vWay; rw [vS_ne (by omega), vS_ne (by omega), vS_ne (by omega), vS_ne (by omega), vS_ne (by omega)]
  have e1 : vWay V a b 0 4 = V 0 4 + 1 := vS_eq _ _ _ _
  have er : ∀ j k, ¬ j = 0 → ¬ j = 3 → ¬ j = 21 → ¬ j = 22 → vWay V a b j k = V j k := fun j k q1 q2 q3 q4 => by unfold vWay; rw [vS_ne (by omega), vS_ne (by omega), vS_ne (by omega), vS_ne (by omega), vS_ne (by omega)]
  have hK : ∀ x, (x = v ∨ x = qa ∨ x = qb) → jm_K M x = 6 ∨ jm_K M x = 7 := fun x q => by
    rcases q with q | q | q <;> subst q
    · exact Or.inl hvs.1
    · exact Or.inr ka.1
    · exact Or.inr kb.1
  have hKo : ∀ x, (x = v ∨ x = qa ∨ x = qb) → jm_K M x ≠ 14 ∧ jm_K M x ≠ 101 := fun x q => by have := hK x q; omega
  have hk : ∀ x, 104 ≤ x → x < jm_Z M → obk (jm_K M x) → jal M (js_I (js_I (js_I M qa 114 (nI (V 3 a ||| 2 ^ b))) qb 114 (nI (V 3 b ||| 2 ^ a))) v 101 (nI (V 0 4 + 1))) x := fun x q1 q2 q3 => g.2.2 x q2 (fun q => by have := hK x q; unfold obk at q3; omega)
  refine ⟨⟨b1.up g (fun x q => ⟨by omega, fun _ => hKo x q⟩), ⟨hvs, b2.2.1.up (i0 := 4) (x := V 0 4 + 1) (fun k hk => ?_) (fun k => ?_), ?_, fun c hc => ?_, fun c hc => ?_, fun c hc => ?_⟩, b3.k h104 g.1 (fun x q1 q2 q3 => ⟨rfl, fun k => rfl⟩) (fun c _ => rfl) (fun c _ => rfl) (fun o c q => q.fr g (fun x q1 q2 q3 => hKo x q1)) (e0 _ (by omega)) (e0 _ (by omega)) (fun c => er _ _ (by omega) (by omega) (by omega) (by omega)) (fun c => er _ _ (by omega) (by omega) (by omega) (by omega)), h3', b5.cg (fun k q => e0 _ (by omega)) (fun j k q => er _ _ (by omega) (by omega) (by omega) (by omega))⟩, va, vb⟩
  · by_cases e : k = 4
    · rw [if_pos e, e, e1]
    · rw [if_neg e, e0 _ e]
  · rw [jI_I]
    by_cases e : k = 97 + 4
    · rw [if_pos ⟨by omega, rfl⟩, if_pos e]
    · rw [if_neg (by omega), if_neg e, jI_I, if_neg (by omega), jI_I, if_neg (by omega)]
  · have ha := jVa_iff.mp b2.2.2.1
    refine jVa_iff.mpr (fun r h1 h2 k hk => ?_)
    rw [er _ _ (by omega) (by omega) (by omega) (by omega)]
    rw [e0 _ (by unfold cR; split; · omega
                 split; · omega
                 split <;> omega)] at hk
    exact ha r h1 h2 k hk
  · rw [e0 0 (by omega)] at hc
    obtain ⟨q, d1, d2, d3, d4, d5, d6, d7⟩ := b2.2.2.2.1 c hc
    refine ⟨q, d1, d2, d3, ?_, ?_, ?_, ?_⟩
    · rw [jI_I, if_neg (by omega), jI_I, if_neg (by omega), jI_I, if_neg (by omega)]; exact d4
    · rw [er _ _ (by omega) (by omega) (by omega) (by omega), jI_I, if_neg (by omega), jI_I, if_neg (by omega), jI_I, if_neg (by omega)]; exact d5
    · rw [er _ _ (by omega) (by omega) (by omega) (by omega), jI_I, if_neg (by omega), jI_I, if_neg (by omega), jI_I, if_neg (by omega)]; exact d6
    · rw [r3, jI_I, if_neg (by omega), jI_I, jI_I]
      by_cases c1 : c = b
      · subst c1
        rw [cb] at d1; cases d1
        rw [if_pos ⟨rfl, rfl⟩, if_pos rfl]
      · have x1 : ¬ q = qb := fun z => by
          subst z; rw [nb] at d4; exact c1 (nI_inj9 (by omega) (by omega) d4).symm
        rw [if_neg (fun z => x1 z.2), if_neg c1]
        by_cases c2 : c = a
        · subst c2
          rw [ca] at d1; cases d1
          rw [if_pos ⟨rfl, rfl⟩, if_pos rfl]
        · have x2 : ¬ q = qa := fun z => by
            subst z; rw [na] at d4; exact c2 (nI_inj9 (by omega) (by omega) d4).symm
          rw [if_neg (fun z => x2 z.2), if_neg c2]; exact d7
  · rw [e0 1 (by omega)] at hc
    exact (b2.2.2.2.2.1 c hc).k g.1 hk rfl (er _ _ (by omega) (by omega) (by omega) (by omega)) (habL_cg (er _ _ (by omega) (by omega) (by omega) (by omega)) (er _ _ (by omega) (by omega) (by omega) (by omega)) (er _ _ (by omega) (by omega) (by omega) (by omega)) (er _ _ (by omega) (by omega) (by omega) (by omega)))
  · rw [e0 2 (by omega)] at hc
    exact (b2.2.2.2.2.2 c hc).k g.1 hk rfl (er _ _ (by omega) (by omega) (by omega) (by omega)) (er _ _ (by omega) (by omega) (by omega) (by omega)) (er _ _ (by omega) (by omega) (by omega) (by omega)) (er _ _ (by omega) (by omega) (by omega) (by omega)) (er _ _ (by omega) (by omega) (by omega) (by omega))
theorem t_X2_way (hG : jGs G) (h : xRd M σ n v V p zb sb') : jT G mi_X2_way 10 [jr (some 66)] M (xL M σ n v zb sb' (lWay (chI σ n) n V p)) := by
  have hS := h.S
  have hv := h.2.1.1
  have hW := h.2.2.2.1
  have h104 := hv.2.1
  have hst : jm_I M v 101 = nI (V 0 4) := xi_ny h.2.1
  have hn := wf_ny hW
  have hn0 := wf_np hW
  have hp10 := p10 hn0
  refine jT.of (by decide) rfl (Nat.le_of_ble_eq_true rfl) ?_
  by_cases hs : V 0 4 < 16
  · have eb : pBegin (chI σ n) n (decide (V 0 4 < 16)) 5 p = .ok (tkE (chI σ n) n p) := by rw [decide_eq_true hs]; rfl
    refine jw_aload_n (pc := 0) dX2_way_0 rfl ?_
    refine jw_aload_n (pc := 1) dX2_way_1 rfl ?_
    refine jx_getRs (pc := 2) (jf_X2_120_1.r) rfl dX2_way_2 rfl (is_66 hS) (by decide) (h.1.2.2.2.2.2.1) ?_
    refine jx_getIs (pc := 5) (jf_X2_242_5.r) rfl dX2_way_5 rfl (vis hv) (by decide) (hst) ?_
    refine jw_bipush (pc := 8) dX2_way_8 bp_16 ?_
    first | refine jx_icmp_ge (pc := 10) (tgt := 17) dX2_way_10 (by decide) (by omega) (by omega) ?_ ?_ | refine jw_icmp_ge (pc := 10) (tgt := 17) dX2_way_10 (by decide) ?_ ?_
    · intro h_10
      omega
    · intro h_10
      refine jw_iconst (pc := 13) dX2_way_13 ic_1 ?_
      refine jw_goto (pc := 14) (tgt := 18) dX2_way_14 (by decide) ?_
      refine jw_iconst (pc := 18) dX2_way_18 ic_5 ?_
      refine jx_cVt (mi1 := mi_X2_begins) (pc := 19) rfl dX2_way_19 lk_X2_181 rfl fi_X2_begins rfl rfl rfl (by decide) (is_66 hS) (t_X2_begins (b := true) (k := 5) hG h) (by first | decide | omega) rfl rfl (by decide) ?_ ?_
      rotate_left
      · intro M_19 q_19
        obtain ⟨f, e1, e2⟩ := q_19
        cases e1
      intro v_19 M_19 q_19
      obtain ⟨e0, p1, e1, e2, e3⟩ := q_19
      cases e0; cases e1
      clear hS hv
      have hS := e2.S
      have hv := e2.2.1.1
      have g1 := e3.1
      dsimp only [Option.toList, List.nil_append, List.cons_append]
      refine jw_aload_n (pc := 22) dX2_way_22 rfl ?_
      refine jx_cVt (mi1 := mi_X2_place) (pc := 23) rfl dX2_way_23 lk_X2_230 rfl fi_X2_place rfl rfl rfl (by decide) (is_66 hS) (t_X2_place hG e2) (by first | decide | omega) rfl rfl (by decide) ?_ ?_
      rotate_left
      · intro M_23 q_23
        obtain ⟨f, e4, e5⟩ := q_23
        refine jx_out67 rfl e5.2.2.2.1 ?_
        exact Or.inr ⟨rfl, f, by unfold lWay pTwo; simp only [eb, e4, Except.bind], e5.j g1⟩
      intro v_23 M_23 q_23
      obtain ⟨a1, f1, e5, e6, e7⟩ := q_23
      clear hS hv
      have hS := e6.S
      have hv := e6.2.1.1
      have g2 := g1.tr e7.1
      cases e5
      dsimp only [Option.toList, List.nil_append, List.cons_append]
      refine jw_istore_n (pc := 26) dX2_way_26 (Nat.le_of_ble_eq_true rfl) rfl ?_
      try dsimp only [jput1, jput2, jkill, jclr, jis2_i, jis2_l, jis2_rs, jis2_rn, cond]
      refine jw_aload_n (pc := 27) dX2_way_27 rfl ?_
      refine jx_cVt (mi1 := mi_X2_comma) (pc := 28) rfl dX2_way_28 lk_X2_217 rfl fi_X2_comma rfl rfl rfl (by decide) (is_66 hS) (t_X2_comma hG e6) (by first | decide | omega) rfl rfl (by decide) ?_ ?_
      rotate_left
      · intro M_28 q_28
        obtain ⟨f, e4, e5⟩ := q_28
        refine jx_out67 rfl e5.2.2.2.1 ?_
        exact Or.inr ⟨rfl, f, by unfold lWay pTwo; simp only [eb, f1, e4, Except.bind], e5.j g2⟩
      intro v_28 M_28 q_28
      obtain ⟨e0, p2, f2, e8, e9⟩ := q_28
      clear hS hv
      have hS := e8.S
      have hv := e8.2.1.1
      have g3 := g2.tr e9.1
      cases e0
      dsimp only [Option.toList, List.nil_append, List.cons_append]
      refine jw_aload_n (pc := 31) dX2_way_31 rfl ?_
      refine jx_cVt (mi1 := mi_X2_placeHere) (pc := 32) rfl dX2_way_32 lk_X2_137 rfl fi_X2_placeHere rfl rfl rfl (by decide) (is_66 hS) (t_X2_placeHere hG e8) (by first | decide | omega) rfl rfl (by decide) ?_ ?_
      rotate_left
      · intro M_32 q_32
        obtain ⟨f, e4, e5⟩ := q_32
        refine jx_out67 rfl e5.2.2.2.1 ?_
        exact Or.inr ⟨rfl, f, by unfold lWay pTwo; simp only [eb, f1, f2, e4, Except.bind], e5.j g3⟩
      intro v_32 M_32 q_32
      obtain ⟨b, f3, hb, e10, hk2, h3, e11⟩ := q_32
      clear hS hv
      have hS := h3.S
      have hv := h3.2.1.1
      have g4 := g3.tr e11.1
      cases e10
      have ha := pKn_0 h.2.2.2.2 (pKnownN_ok f1).1
      dsimp only [Option.toList, List.nil_append, List.cons_append]
      refine jw_istore_n (pc := 35) dX2_way_35 (Nat.le_of_ble_eq_true rfl) rfl ?_
      try dsimp only [jput1, jput2, jkill, jclr, jis2_i, jis2_l, jis2_rs, jis2_rn, cond]
      refine jw_aload_n (pc := 36) dX2_way_36 rfl ?_
      refine jx_getRs (pc := 37) (jf_X2_120_1.r) rfl dX2_way_37 rfl (is_66 hS) (by decide) (h3.1.2.2.2.2.2.1) ?_
      refine jw_iload_n (pc := 40) dX2_way_40 rfl ?_
      refine jw_iload_n (pc := 41) dX2_way_41 rfl ?_
      refine jx_cVE (mi1 := mi_X6_areLinked) (pc := 42) rfl dX2_way_42 lk_X2_245 rfl fi_X6_areLinked rfl rfl rfl (by decide) (vis hv) (t_X6_areLinked h3.2.1 hW ha hb) (by first | decide | omega) rfl rfl (by decide) ?_
      first | refine jx_ifb_eq (pc := 45) (tgt := 54) dX2_way_45 (by decide) ?_ ?_ | refine jx_if_eq (pc := 45) (tgt := 54) dX2_way_45 (by decide) (by omega) ?_ ?_ | refine jw_if_eq (pc := 45) (tgt := 54) dX2_way_45 (by decide) ?_ ?_
      · intro h_45
        refine jw_aload_n (pc := 54) dX2_way_54 rfl ?_
        refine jx_cVv (mi1 := mi_X2_next) (pc := 55) rfl dX2_way_55 lk_X2_79 rfl fi_X2_next rfl rfl rfl (by decide) (is_66 hS) (h3.next hG) (by first | decide | omega) rfl rfl (by decide) ?_
        intro M_55 q_55
        obtain ⟨h4, e12⟩ := q_55
        clear hS hv
        have hS := h4.S
        have hv := h4.2.1.1
        have c4 := xi_ny h4.2.1
        have g5 := g4.tr e12.1
        have hab : ¬ (decide (b = a1.1) || anyB (V 0 4) (fun k => (decide (V 21 k = a1.1) && decide (V 22 k = b)) || (decide (V 21 k = b) && decide (V 22 k = a1.1)))) = true := by rw [← lnk_0 hW ha, h_45]; decide
        have nab : ¬ b = a1.1 := fun q => hab (by rw [decide_eq_true q]; rfl)
        obtain ⟨qa, ca, ka, k104, na, -, -, wa⟩ := h4.2.1.2.2.2.1 _ ha
        obtain ⟨qb, cb, kb, k104b, nb, -, -, wb⟩ := h4.2.1.2.2.2.1 _ hb
        have hWay := h4.way hs ha hb nab ca cb ka kb na nb
        have nqq : ¬ qb = qa := fun q => by subst q; rw [na] at nb; exact nab (nI_inj9 (by omega) (by omega) nb).symm
        have nvq : ¬ v = qa ∧ ¬ v = qb := ⟨fun q => by have := ka.1; rw [← q, hv.1] at this; omega, fun q => by have := kb.1; rw [← q, hv.1] at this; omega⟩
        refine jw_aload_n (pc := 58) dX2_way_58 rfl ?_
        refine jx_getRs (pc := 59) (jf_X2_120_1.r) rfl dX2_way_59 rfl (is_66 hS) (by decide) (h4.1.2.2.2.2.2.1) ?_
        refine jx_getRs (pc := 62) jg_X2_223_5 rfl dX2_way_62 rfl (vis hv) (by decide) (vr_1 hv) ?_
        refine jw_iload_n (pc := 65) dX2_way_65 rfl ?_
        refine jx_aalds (pc := 66) (by decide) (by decide) dX2_way_66 (vok_1 hv) (vnn_1 hv) rfl (by omega) (ca) ?_
        refine jw_dup (pc := 67) dX2_way_67 (jis2_r _) ?_
        refine jx_getIs (pc := 68) (jf_X2_249_6.r) rfl dX2_way_68 rfl (ka) (by decide) (wa) ?_
        refine jw_iconst (pc := 71) dX2_way_71 ic_1 ?_
        refine jw_iload_n (pc := 72) dX2_way_72 rfl ?_
        refine jw_ishl (pc := 73) dX2_way_73 ?_
        refine jw_ior (pc := 74) dX2_way_74 ?_
        rw [shl1 (by omega), nI_or']
        refine jx_putI (pc := 75) jf_X2_249_6 rfl dX2_way_75 rfl rfl (ka) (by decide) ?_
        have wb2 : jm_I (js_I M_55 qa 114 (nI (V 3 a1.1 ||| 2 ^ b))) qb 114 = nI (V 3 b) := by rw [jI_I, if_neg (fun q => nqq q.2)]; exact wb
        have c4b : jm_I (js_I (js_I M_55 qa 114 (nI (V 3 a1.1 ||| 2 ^ b))) qb 114 (nI (V 3 b ||| 2 ^ a1.1))) v 101 = nI (V 0 4) := by rw [jI_I, if_neg (fun q => nvq.2 q.2), jI_I, if_neg (fun q => nvq.1 q.2)]; exact c4
        refine jw_aload_n (pc := 78) dX2_way_78 rfl ?_
        refine jx_getRs (pc := 79) (jf_X2_120_1.r) rfl dX2_way_79 rfl (is_66 hS) (by decide) (h4.1.2.2.2.2.2.1) ?_
        refine jx_getRs (pc := 82) jg_X2_223_5 rfl dX2_way_82 rfl (vis hv) (by decide) (vr_1 hv) ?_
        refine jw_iload_n (pc := 85) dX2_way_85 rfl ?_
        refine jx_aalds (pc := 86) (by decide) (by decide) dX2_way_86 (vok_1 hv) (vnn_1 hv) rfl (by omega) (cb) ?_
        refine jw_dup (pc := 87) dX2_way_87 (jis2_r _) ?_
        refine jx_getIs (pc := 88) (jf_X2_249_6.r) rfl dX2_way_88 rfl (kb) (by decide) (wb2) ?_
        refine jw_iconst (pc := 91) dX2_way_91 ic_1 ?_
        refine jw_iload_n (pc := 92) dX2_way_92 rfl ?_
        refine jw_ishl (pc := 93) dX2_way_93 ?_
        refine jw_ior (pc := 94) dX2_way_94 ?_
        rw [shl1 (by omega), nI_or']
        refine jx_putI (pc := 95) jf_X2_249_6 rfl dX2_way_95 rfl rfl (kb) (by decide) ?_
        refine jw_aload_n (pc := 98) dX2_way_98 rfl ?_
        refine jx_getRs (pc := 99) (jf_X2_120_1.r) rfl dX2_way_99 rfl (is_66 hS) (by decide) (h4.1.2.2.2.2.2.1) ?_
        refine jw_dup (pc := 102) dX2_way_102 (jis2_r _) ?_
        refine jx_getIs (pc := 103) (jf_X2_242_5.r) rfl dX2_way_103 rfl (vis hv) (by decide) (c4b) ?_
        refine jw_iconst (pc := 106) dX2_way_106 ic_1 ?_
        first | refine jx_iadd (pc := 107) dX2_way_107 ?_ | refine jw_iadd (pc := 107) dX2_way_107 ?_
        refine jx_putI (pc := 108) jf_X2_242_5 rfl dX2_way_108 rfl rfl (vis hv) (by decide) ?_
        refine jw_return (pc := 111) dX2_way_111 rfl ?_
        have hV : lWay (chI σ n) n V p = .ok (vWay V a1.1 b, tkE (chI σ n) n p2) := by unfold lWay pTwo; simp only [eb, f1, f2, f3, Except.bind]; rw [if_neg hab]
        exact Or.inl ⟨_, rfl, rfl, (vWay V a1.1 b, tkE (chI σ n) n p2), hV, hWay.1.j, g5.tr (((jsm.I (Or.inr hWay.2.1)).tr (jsm.I (Or.inr hWay.2.2))).tr (jsm.I (Or.inr (Nat.le_refl v))))⟩
      · intro h_45
        refine jw_aload_n (pc := 48) dX2_way_48 rfl ?_
        refine jw_iconst (pc := 49) dX2_way_49 ic_3 ?_
        refine jx_cVE (mi1 := mi_X2_fail) (pc := 50) rfl dX2_way_50 lk_X2_85 rfl fi_X2_fail rfl rfl rfl (by decide) (is_66 hS) (t_X2_fail h3) (by first | decide | omega) rfl rfl (by decide) ?_
        refine jw_athrow (pc := 53) dX2_way_53 rfl ?_
        refine jx_out67 rfl hS ?_
        have hab : (decide (b = a1.1) || anyB (V 0 4) (fun k => (decide (V 21 k = a1.1) && decide (V 22 k = b)) || (decide (V 21 k = b) && decide (V 22 k = a1.1)))) = true := by rw [← lnk_0 hW ha]; exact h_45
        exact Or.inr ⟨rfl, _, by unfold lWay pTwo; simp only [eb, f1, f2, f3, Except.bind]; rw [if_pos hab], h3.fl.j g4⟩
  · have eb : pBegin (chI σ n) n (decide (V 0 4 < 16)) 5 p = .error (5, tkA (chI σ n) n p) := by rw [decide_eq_false hs]; rfl
    refine jw_aload_n (pc := 0) dX2_way_0 rfl ?_
    refine jw_aload_n (pc := 1) dX2_way_1 rfl ?_
    refine jx_getRs (pc := 2) (jf_X2_120_1.r) rfl dX2_way_2 rfl (is_66 hS) (by decide) (h.1.2.2.2.2.2.1) ?_
    refine jx_getIs (pc := 5) (jf_X2_242_5.r) rfl dX2_way_5 rfl (vis hv) (by decide) (hst) ?_
    refine jw_bipush (pc := 8) dX2_way_8 bp_16 ?_
    first | refine jx_icmp_ge (pc := 10) (tgt := 17) dX2_way_10 (by decide) (by omega) (by omega) ?_ ?_ | refine jw_icmp_ge (pc := 10) (tgt := 17) dX2_way_10 (by decide) ?_ ?_
    · intro h_10
      refine jw_iconst (pc := 17) dX2_way_17 ic_0 ?_
      refine jw_iconst (pc := 18) dX2_way_18 ic_5 ?_
      refine jx_cVt (mi1 := mi_X2_begins) (pc := 19) rfl dX2_way_19 lk_X2_181 rfl fi_X2_begins rfl rfl rfl (by decide) (is_66 hS) (t_X2_begins (b := false) (k := 5) hG h) (by first | decide | omega) rfl rfl (by decide) ?_ ?_
      rotate_left
      · intro M_19 q_19
        obtain ⟨f, e1, e2⟩ := q_19
        cases e1
        refine jx_out67 rfl e2.2.2.2.1 ?_
        exact Or.inr ⟨rfl, _, by unfold lWay; rw [eb]; rfl, e2.j jsm.rf⟩
      intro v_19 M_19 q_19
      obtain ⟨e0, p1, e1, e2, e3⟩ := q_19
      cases e1
    · intro h_10
      omega
end JXY
