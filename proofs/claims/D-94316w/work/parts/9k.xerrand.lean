/-! ===== x reads: errands ===== -/
section JXE
variable {G : Gh} {M : Mm} {σ : Sg} {n v p zb sb' : Nat} {V : Vt}
/-- an errand in the making -/
def erN (M : Mm) (v q pq a : Nat) : Prop := jis M q 11 ∧ 104 ≤ q ∧ jm_R M q 121 = some pq ∧ jm_C M (v + 2) a = some pq
theorem erN.S {M' : Mm} {q pq a : Nat} (h : erN M v q pq a) (hv : jVs M v) (g : xS v M M') : erN M' v q pq a ∧ jal M M' q := by
  obtain ⟨h1, h2, h3, h4⟩ := h
  obtain ⟨al, i⟩ := g.o h1 h2 (by decide)
  have h104 := hv.2.1
  have c2 := g.2.2.1 (v + 2) (by have := hv.2.2.1; omega) (by unfold xE0; omega) (vE_K hv (by omega) (by omega)).1
  exact ⟨⟨i, h2, (al.2.2.2.2.1 _).trans h3, (c2.2.2.2.2.2.2.2 _).trans h4⟩, al⟩
theorem erN.I {q pq a j : Nat} {x : Int32} (h : erN M v q pq a) : erN (js_I M q j x) v q pq a := h
/-- an errand is written -/
theorem xRd.errand {q pq a b f t k9 : Nat} (h : xRd M σ n v V p zb sb') (hs : V 0 2 < 5) (ha : a < V 0 1) (hb : b < V 0 0) (hf : f ≤ 99) (ht : f < t) (ht9 : t ≤ 99) (hk1 : 1 ≤ k9) (hk2 : k9 ≤ t - f) (hN : erN M v q pq a) (i1 : jm_I M q 122 = nI b) (i2 : jm_I M q 123 = nI f) (i3 : jm_I M q 124 = nI t) (i4 : jm_I M q 125 = nI k9) : xRd (js_I (js_C M (v + 3) (V 0 2) (some q)) v 99 (nI (V 0 2 + 1))) σ n v (vErrand V a b f t k9) p zb sb' := by
  have hWf := h.2.2.2.1
  have h3' := wf_errand hWf hs ha hb hf ht ht9 hk1 hk2
  obtain ⟨b1, b2, b3, b4, b5⟩ := h
  obtain ⟨n1, n2, n3, n4⟩ := hN
  have hvs := b2.1
  have h104 := hvs.2.1
  have nvq : ¬ q = v := fun z => by have := n1.1; rw [z, hvs.1] at this; omega
  have k1 := (hvs.2.2.2 2 (by decide)).1
  obtain ⟨pq', y1, y2, y3, y4, -⟩ := b2.2.2.2.2.1 a ha
  rw [n4] at y1; cases y1
  have nvp : ¬ pq = v := fun z => by have := y2.1; rw [z, hvs.1] at this; omega
  have g : jsm (fun a => a = v ∨ a = v + 3) M (js_I (js_C M (v + 3) (V 0 2) (some q)) v 99 (nI (V 0 2 + 1))) := (jsm.C (Or.inr rfl)).tr (jsm.I (Or.inl rfl))
  have hK : ∀ a, (a = v ∨ a = v + 3) → jm_K M a = 6 ∨ jm_K M a = 107 := fun a z => by
    rcases z with z | z <;> subst z
    · exact Or.inl hvs.1
    · exact Or.inr k1
  have hKo : ∀ a, (a = v ∨ a = v + 3) → jm_K M a ≠ 14 ∧ jm_K M a ≠ 101 := fun a z => by have := hK a z; omega
  have hk : ∀ b, 104 ≤ b → b < jm_Z M → (jm_K M b = 7 ∨ obk (jm_K M b)) → jal M (js_I (js_C M (v + 3) (V 0 2) (some q)) v 99 (nI (V 0 2 + 1))) b := fun b z1 z2 z3 => g.2.2 b z2 (fun z => by have := hK b z; unfold obk at z3; omega)
  have hc : ∀ a, a < V 0 2 → jm_C (js_I (js_C M (v + 3) (V 0 2) (some q)) v 99 (nI (V 0 2 + 1))) (v + 3) a = jm_C M (v + 3) a := fun a ha => by rw [jC_I, jC_C, if_neg (by omega)]
  have hc0 : jm_C (js_I (js_C M (v + 3) (V 0 2) (some q)) v 99 (nI (V 0 2 + 1))) (v + 3) (V 0 2) = some q := by rw [jC_I, jC_C, if_pos ⟨rfl, rfl⟩]
  have hc2 : ∀ i a, i ≤ 2 → jm_C (js_I (js_C M (v + 3) (V 0 2) (some q)) v 99 (nI (V 0 2 + 1))) (v + i) a = jm_C M (v + i) a := fun i a hi => by rw [jC_I, jC_C, if_neg (by omega)]
  have e0 : ∀ k, ¬ k = 2 → vErrand V a b f t k9 0 k = V 0 k := fun k z1 => by unfold vErrand; rw [vS_ne (by omega), vS_ne (by omega), vS_ne (by omega), vS_ne (by omega), vS_ne (by omega), vS_ne (by omega)]
  have e1 : vErrand V a b f t k9 0 2 = V 0 2 + 1 := vS_eq _ _ _ _
  have er : ∀ j k, ¬ j = 0 → (j < 16 ∨ 20 < j) → vErrand V a b f t k9 j k = V j k := fun j k z1 z2 => by unfold vErrand; rw [vS_ne (by omega), vS_ne (by omega), vS_ne (by omega), vS_ne (by omega), vS_ne (by omega), vS_ne (by omega)]
  have ep : ∀ j k, ¬ j = 0 → ¬ k = V 0 2 → vErrand V a b f t k9 j k = V j k := fun j k z1 z2 => by unfold vErrand; rw [vS_ne (by omega), vS_ne (by omega), vS_ne (by omega), vS_ne (by omega), vS_ne (by omega), vS_ne (by omega)]
  have f1 : vErrand V a b f t k9 16 (V 0 2) = a := by unfold vErrand; rw [vS_ne (by omega), vS_ne (by omega), vS_ne (by omega), vS_ne (by omega), vS_ne (by omega), vS_eq]
  have f2 : vErrand V a b f t k9 17 (V 0 2) = b := by unfold vErrand; rw [vS_ne (by omega), vS_ne (by omega), vS_ne (by omega), vS_ne (by omega), vS_eq]
  have f3 : vErrand V a b f t k9 18 (V 0 2) = f := by unfold vErrand; rw [vS_ne (by omega), vS_ne (by omega), vS_ne (by omega), vS_eq]
  have f4 : vErrand V a b f t k9 19 (V 0 2) = t := by unfold vErrand; rw [vS_ne (by omega), vS_ne (by omega), vS_eq]
  have f5 : vErrand V a b f t k9 20 (V 0 2) = k9 := by unfold vErrand; rw [vS_ne (by omega), vS_eq]
  refine ⟨b1.up g (fun a z => ⟨by omega, fun _ => hKo a z⟩), ⟨hvs, b2.2.1.up (i0 := 2) (x := V 0 2 + 1) (fun k hk => ?_) (fun k => ?_), ?_, fun c hc' => ?_, fun c hc' => ?_, fun c hc' => ?_⟩, b3.k h104 g.1 (fun x z1 z2 z3 => ⟨rfl, fun k => rfl⟩) (fun c _ => hc2 1 c (by decide)) (fun c _ => hc2 2 c (by decide)) (fun o c q => q.fr g (fun x z1 z2 z3 => hKo x z1)) (e0 _ (by omega)) (e0 _ (by omega)) (fun c => er _ _ (by omega) (by omega)) (fun c => er _ _ (by omega) (by omega)), h3', b5.cg (fun k z => e0 _ (by omega)) (fun j k z => er _ _ (by omega) (by omega))⟩
  · by_cases e : k = 2
    · rw [if_pos e, e, e1]
    · rw [if_neg e, e0 _ e]
  · rw [jI_I]
    by_cases e : k = 97 + 2
    · rw [if_pos ⟨by omega, rfl⟩, if_pos e]
    · rw [if_neg (by omega), if_neg e]; rfl
  · have ha := jVa_iff.mp b2.2.2.1
    refine jVa_iff.mpr (fun r h1 h2 k hk => ?_)
    rw [er _ _ (by omega) (by omega)]
    have hcr : 3 ≤ cR r ∧ cR r ≤ 7 := by
      unfold cR; split
      · omega
      · split
        · omega
        · split <;> omega
    rw [e0 _ (by omega)] at hk
    exact ha r h1 h2 k hk
  · rw [e0 0 (by decide)] at hc'
    exact (b2.2.2.2.1 c hc').k g.1 (fun b z1 z2 z3 => hk b z1 z2 (Or.inl z3)) (hc2 1 c (by decide)) (er _ _ (by decide) (by decide)) (er _ _ (by decide) (by decide)) (er _ _ (by decide) (by decide))
  · rw [e0 1 (by decide)] at hc'
    exact (b2.2.2.2.2.1 c hc').k g.1 (fun b z1 z2 z3 => hk b z1 z2 (Or.inr z3)) (hc2 2 c (by decide)) (er _ _ (by decide) (by decide)) (habL_cg (er _ _ (by decide) (by decide)) (er _ _ (by decide) (by decide)) (er _ _ (by decide) (by decide)) (er _ _ (by decide) (by decide)))
  · rw [e1] at hc'
    by_cases e : c = V 0 2
    · subst e
      refine ⟨q, pq, hc0, n1, n2, n3, ⟨y2, y3⟩, ?_, ?_, ?_, ?_, ?_⟩
      · rw [f1, jI_I, if_neg (by omega)]; exact y4
      · rw [f2, jI_I, if_neg (by omega)]; exact i1
      · rw [f3, jI_I, if_neg (by omega)]; exact i2
      · rw [f4, jI_I, if_neg (by omega)]; exact i3
      · rw [f5, jI_I, if_neg (by omega)]; exact i4
    · exact (b2.2.2.2.2.2 c (by omega)).k g.1 (fun b z1 z2 z3 => hk b z1 z2 (Or.inr z3)) (hc c (by omega)) (ep _ _ (by decide) e) (ep _ _ (by decide) e) (ep _ _ (by decide) e) (ep _ _ (by decide) e) (ep _ _ (by decide) e)
theorem t_X2_errand (hG : jGs G) (h : xRd M σ n v V p zb sb') : jT G mi_X2_errand 10 [jr (some 66)] M (xL M σ n v zb sb' (lErrand (chI σ n) n V p)) := by
  have hS := h.S
  have hv := h.2.1.1
  have hW := h.2.2.2.1
  have h104 := hv.2.1
  have hst : jm_I M v 99 = nI (V 0 2) := xi_ne h.2.1
  have hn := wf_ne hW
  refine jT.of (by decide) rfl (Nat.le_of_ble_eq_true rfl) ?_
  by_cases hs : V 0 2 < 5
  · have eb : pBegin (chI σ n) n (decide (V 0 2 < 5)) 5 p = .ok (tkE (chI σ n) n p) := by rw [decide_eq_true hs]; rfl
    refine jw_aload_n (pc := 0) dX2_errand_0 rfl ?_
    refine jw_aload_n (pc := 1) dX2_errand_1 rfl ?_
    refine jx_getRs (pc := 2) (jf_X2_120_1.r) rfl dX2_errand_2 rfl (is_66 hS) (by decide) (h.1.2.2.2.2.2.1) ?_
    refine jx_getIs (pc := 5) (jf_X2_296_5.r) rfl dX2_errand_5 rfl (vis hv) (by decide) (hst) ?_
    refine jw_iconst (pc := 8) dX2_errand_8 ic_5 ?_
    first | refine jx_icmp_ge (pc := 9) (tgt := 16) dX2_errand_9 (by decide) (by omega) (by omega) ?_ ?_ | refine jw_icmp_ge (pc := 9) (tgt := 16) dX2_errand_9 (by decide) ?_ ?_
    · intro h_9
      omega
    · intro h_9
      refine jw_iconst (pc := 12) dX2_errand_12 ic_1 ?_
      refine jw_goto (pc := 13) (tgt := 17) dX2_errand_13 (by decide) ?_
      refine jw_iconst (pc := 17) dX2_errand_17 ic_5 ?_
      refine jx_cVt (mi1 := mi_X2_begins) (pc := 18) rfl dX2_errand_18 lk_X2_181 rfl fi_X2_begins rfl rfl rfl (by decide) (is_66 hS) (t_X2_begins (b := true) (k := 5) hG h) (by first | decide | omega) rfl rfl (by decide) ?_ ?_
      rotate_left
      · intro M_18 q_18
        obtain ⟨f, e1, e2⟩ := q_18
        cases e1
      intro v_18 M_18 q_18
      obtain ⟨e0, p1, e1, e2, e3⟩ := q_18
      cases e0; cases e1
      clear hS hv
      have hS := e2.S
      have hv := e2.2.1.1
      have g1 := e3.1
      dsimp only [Option.toList, List.nil_append, List.cons_append]
      have t0 : xT M_18 M_18 := xT.rf
      have hzz := hS.2.2.2
      have hvz := e2.2.1.1.2.2.1
      have t1 : xT M_18 (js_new M_18 12 0 5) := t0.nw
      have r1 : xRd (js_new M_18 12 0 5) σ n v V (tkE (chI σ n) n p) (zb + 1) (sb' + 5) := e2.tt t1 e2.1.nw
      have g2 : jsm (xE v) M (js_new M_18 12 0 5) := g1.tr (jsm.n (Or.inl (Or.inl rfl)))
      have kp : jis (js_new M_18 12 0 5) (jm_Z M_18) 11 := ⟨by rw [jK_n, if_pos rfl], by rw [jZ_n]; omega, by omega⟩
      refine jw_new (pc := 21) jn_X2_299 rfl (by decide) dX2_errand_21 ?_
      refine jw_dup (pc := 24) dX2_errand_24 (jis2_r _) ?_
      refine jx_cINEv (mi1 := mi_X13_init) (pc := 25) rfl dX2_errand_25 q925 q172 q926 q927 rfl rfl rfl fi_X13_init (t_X13_init kp) (by first | decide | omega) rfl rfl (by simp only [List.map_cons, List.map_nil, List.sum_cons, List.sum_nil, cat_i, cat_l, jr_cat]; decide) ?_
      clear hS hv
      have hS := r1.S
      have hv := r1.2.1.1
      refine jw_astore_n (pc := 28) dX2_errand_28 (Nat.le_of_ble_eq_true rfl) rfl ?_
      try dsimp only [jput1, jput2, jkill, jclr, jis2_i, jis2_l, jis2_rs, jis2_rn, cond]
      refine jw_aload_n (pc := 29) dX2_errand_29 rfl ?_
      refine jw_aload_n (pc := 30) dX2_errand_30 rfl ?_
      refine jx_cVt (mi1 := mi_X2_personHere) (pc := 31) rfl dX2_errand_31 lk_X2_285 rfl fi_X2_personHere rfl rfl rfl (by decide) (is_66 hS) (t_X2_personHere hG r1) (by first | decide | omega) rfl rfl (by simp only [List.map_cons, List.map_nil, List.sum_cons, List.sum_nil, cat_i, cat_l, jr_cat]; decide) ?_ ?_
      rotate_left
      · intro M_31 q_31
        obtain ⟨f, e4, e5⟩ := q_31
        refine jx_out67 rfl e5.2.2.2.1 ?_
        exact Or.inr ⟨rfl, f, by unfold lErrand pKnownN; simp only [eb, e4, Except.bind], (e5.tr g2).b (by omega) (by omega)⟩
      intro v_31 M_31 q_31
      obtain ⟨a, pq, f1, ha, e5, cq, kk1, e6, e7⟩ := q_31
      have F1 : pKnownN (chI σ n) n 1 V (tkE (chI σ n) n p) = .ok (a, tkE (chI σ n) n (tkE (chI σ n) n p)) := by unfold pKnownN; rw [f1]; rfl
      cases e5
      obtain ⟨jp, kp⟩ := e7.o kp (by omega) (by decide)
      obtain ⟨t2, r2⟩ := e2.qR (k := 121) (x := some pq) (t1.S e7) e6 kp (by decide) (Nat.le_refl _)
      have N1 : erN (js_R M_31 (jm_Z M_18) 121 (some pq)) v (jm_Z M_18) pq a := ⟨kp, by omega, by rw [jR_R, if_pos ⟨rfl, rfl⟩], cq⟩
      have g3 := g2.tr (e7.1.tr (jsm.R (E := xE v) (a := jm_Z M_18) (k := 121) (v := some pq) (Or.inr (by omega))))
      have v3 := r2.1.2.2.2.2.2.1
      clear hS hv
      have hS := r2.S
      have hv := r2.2.1.1
      dsimp only [Option.toList, List.nil_append, List.cons_append]
      refine jx_putR (pc := 34) jf_X2_302_11 rfl dX2_errand_34 rfl rfl (pd_LNeverUnseen_Person_) (Or.inl ⟨_, rfl⟩) (kp) (by decide) ?_
      clear hS
      have hS := r2.S
      refine jw_aload_n (pc := 37) dX2_errand_37 rfl ?_
      refine jx_cVv (mi1 := mi_X2_next) (pc := 38) rfl dX2_errand_38 lk_X2_79 rfl fi_X2_next rfl rfl rfl (by decide) (is_66 hS) (r2.next hG) (by first | decide | omega) rfl rfl (by decide) ?_
      intro M_38 q_38
      obtain ⟨r3, s3⟩ := q_38
      obtain ⟨N2, j2⟩ := N1.S hv s3
      have g4 := g3.tr s3.1
      have t3 := t2.S s3
      clear hS hv kp
      have hS := r3.S
      have hv := r3.2.1.1
      have kp := N2.1
      refine jw_aload_n (pc := 41) dX2_errand_41 rfl ?_
      refine jw_ldcs (pc := 42) (js_X2_213) rfl (by decide) dX2_errand_42 ?_
      refine jx_cVt (mi1 := mi_X2_must) (pc := 44) rfl dX2_errand_44 lk_X2_142 rfl fi_X2_must rfl rfl rfl (by decide) (is_66 hS) (t_X2_must hG r3 (r3.T 18 (by decide) (by decide))) (by first | decide | omega) rfl rfl (by decide) ?_ ?_
      rotate_left
      · intro M_44 q_44
        obtain ⟨f, e4, e5⟩ := q_44
        refine jx_out67 rfl e5.2.2.2.1 ?_
        exact Or.inr ⟨rfl, f, by unfold lErrand; simp only [eb, F1, e4, Except.bind], (e5.tr g4).b (by omega) (by omega)⟩
      intro v_44 M_44 q_44
      obtain ⟨e5, p3, f2, r4, s4⟩ := q_44
      cases e5
      obtain ⟨N3, j3⟩ := N2.S hv s4
      have g5 := g4.tr s4.1
      have t4 := t3.S s4
      clear hS hv kp
      have hS := r4.S
      have hv := r4.2.1.1
      have kp := N3.1
      dsimp only [Option.toList, List.nil_append, List.cons_append]
      refine jw_aload_n (pc := 47) dX2_errand_47 rfl ?_
      refine jw_aload_n (pc := 48) dX2_errand_48 rfl ?_
      refine jx_cVt (mi1 := mi_X2_place) (pc := 49) rfl dX2_errand_49 lk_X2_230 rfl fi_X2_place rfl rfl rfl (by decide) (is_66 hS) (t_X2_place hG r4) (by first | decide | omega) rfl rfl (by simp only [List.map_cons, List.map_nil, List.sum_cons, List.sum_nil, cat_i, cat_l, jr_cat]; decide) ?_ ?_
      rotate_left
      · intro M_49 q_49
        obtain ⟨f, e4, e5⟩ := q_49
        refine jx_out67 rfl e5.2.2.2.1 ?_
        exact Or.inr ⟨rfl, f, by unfold lErrand; simp only [eb, F1, f2, e4, Except.bind], (e5.tr g5).b (by omega) (by omega)⟩
      intro v_49 M_49 q_49
      obtain ⟨a5, f5, e5, u5, s5⟩ := q_49
      cases e5
      obtain ⟨O5, j5⟩ := N3.S hv s5
      obtain ⟨t5, r5⟩ := e2.qI (k := 122) (x := nI a5.1) (t4.S s5) u5 O5.1 (by decide) (Nat.le_refl _)
      have N5 : erN (js_I M_49 (jm_Z M_18) 122 (nI a5.1)) v (jm_Z M_18) pq a := O5
      have x5 : jm_I (js_I M_49 (jm_Z M_18) 122 (nI a5.1)) (jm_Z M_18) 122 = nI a5.1 := jI_same
      have g6 := g5.tr (s5.1.tr (jsm.I (E := xE v) (a := jm_Z M_18) (k := 122) (v := nI a5.1) (Or.inr (by omega))))
      clear hS hv kp
      have hS := u5.S
      have hv := u5.2.1.1
      have kp := O5.1
      dsimp only [Option.toList, List.nil_append, List.cons_append]
      refine jx_putI (pc := 52) jf_X2_306_11 rfl dX2_errand_52 rfl rfl (kp) (by decide) ?_
      refine jw_aload_n (pc := 55) dX2_errand_55 rfl ?_
      refine jw_aload_n (pc := 56) dX2_errand_56 rfl ?_
      refine jw_ldcs (pc := 57) (js_X2_197) rfl (by decide) dX2_errand_57 ?_
      refine jw_iconst (pc := 59) dX2_errand_59 ic_0 ?_
      refine jw_bipush (pc := 60) dX2_errand_60 bp_99 ?_
      refine jx_cVt (mi1 := mi_X2_after) (pc := 62) rfl dX2_errand_62 lk_X2_187 rfl fi_X2_after rfl rfl rfl (by decide) (is_66 hS) (t_X2_after hG r5 (r5.T 15 (by decide) (by decide))) (by first | decide | omega) rfl rfl (by simp only [List.map_cons, List.map_nil, List.sum_cons, List.sum_nil, cat_i, cat_l, jr_cat]; decide) ?_ ?_
      rotate_left
      · intro M_62 q_62
        obtain ⟨f, e4, e5⟩ := q_62
        refine jx_out67 rfl e5.2.2.2.1 ?_
        exact Or.inr ⟨rfl, f, by unfold lErrand; simp only [eb, F1, f2, f5, e4, Except.bind], (e5.tr g6).b (by omega) (by omega)⟩
      intro v_62 M_62 q_62
      obtain ⟨a6, f6, e5, u6, s6⟩ := q_62
      cases e5
      obtain ⟨O6, j6⟩ := N5.S hv s6
      have b6 := (inb_v (a := 0) (b := 99) (pAfter_lt f6) (by decide) (by decide)).2
      obtain ⟨t6, r6⟩ := e2.qI (k := 123) (x := nI a6.1) (t5.S s6) u6 O6.1 (by decide) (Nat.le_refl _)
      have N6 : erN (js_I M_62 (jm_Z M_18) 123 (nI a6.1)) v (jm_Z M_18) pq a := O6
      have x6 : jm_I (js_I M_62 (jm_Z M_18) 123 (nI a6.1)) (jm_Z M_18) 123 = nI a6.1 := jI_same
      have y6 : jm_I (js_I M_62 (jm_Z M_18) 123 (nI a6.1)) (jm_Z M_18) 122 = _ := (jI_ne (by decide)).trans ((j6.2.2.1 _).trans x5)
      have g7 := g6.tr (s6.1.tr (jsm.I (E := xE v) (a := jm_Z M_18) (k := 123) (v := nI a6.1) (Or.inr (by omega))))
      clear hS hv kp
      have hS := u6.S
      have hv := u6.2.1.1
      have kp := O6.1
      dsimp only [Option.toList, List.nil_append, List.cons_append]
      refine jx_putI (pc := 65) jf_X2_307_11 rfl dX2_errand_65 rfl rfl (kp) (by decide) ?_
      refine jw_aload_n (pc := 68) dX2_errand_68 rfl ?_
      refine jw_aload_n (pc := 69) dX2_errand_69 rfl ?_
      refine jw_ldcs (pc := 70) (js_X2_201) rfl (by decide) dX2_errand_70 ?_
      refine jw_aload_n (pc := 72) dX2_errand_72 rfl ?_
      refine jx_getIs (pc := 73) (jf_X2_307_11.r) rfl dX2_errand_73 rfl (kp) (by decide) (x6) ?_
      refine jw_iconst (pc := 76) dX2_errand_76 ic_1 ?_
      first | refine jx_iadd (pc := 77) dX2_errand_77 ?_ | refine jw_iadd (pc := 77) dX2_errand_77 ?_
      refine jw_bipush (pc := 78) dX2_errand_78 bp_99 ?_
      refine jx_cVt (mi1 := mi_X2_after) (pc := 80) rfl dX2_errand_80 lk_X2_187 rfl fi_X2_after rfl rfl rfl (by decide) (is_66 hS) (t_X2_after hG r6 (r6.T 16 (by decide) (by decide))) (by first | decide | omega) rfl rfl (by simp only [List.map_cons, List.map_nil, List.sum_cons, List.sum_nil, cat_i, cat_l, jr_cat]; decide) ?_ ?_
      rotate_left
      · intro M_80 q_80
        obtain ⟨f, e4, e5⟩ := q_80
        refine jx_out67 rfl e5.2.2.2.1 ?_
        exact Or.inr ⟨rfl, f, by unfold lErrand; simp only [eb, F1, f2, f5, f6, e4, Except.bind], (e5.tr g7).b (by omega) (by omega)⟩
      intro v_80 M_80 q_80
      obtain ⟨a7, f7, e5, u7, s7⟩ := q_80
      cases e5
      obtain ⟨O7, j7⟩ := N6.S hv s7
      have b7 := inb_v (a := a6.1 + 1) (b := 99) (pAfter_lt f7) (by omega) (by decide)
      obtain ⟨t7, r7⟩ := e2.qI (k := 124) (x := nI a7.1) (t6.S s7) u7 O7.1 (by decide) (Nat.le_refl _)
      have N7 : erN (js_I M_80 (jm_Z M_18) 124 (nI a7.1)) v (jm_Z M_18) pq a := O7
      have x7 : jm_I (js_I M_80 (jm_Z M_18) 124 (nI a7.1)) (jm_Z M_18) 124 = nI a7.1 := jI_same
      have y7 : jm_I (js_I M_80 (jm_Z M_18) 124 (nI a7.1)) (jm_Z M_18) 122 = _ := (jI_ne (by decide)).trans ((j7.2.2.1 _).trans y6)
      have z7 : jm_I (js_I M_80 (jm_Z M_18) 124 (nI a7.1)) (jm_Z M_18) 123 = _ := (jI_ne (by decide)).trans ((j7.2.2.1 _).trans x6)
      have g8 := g7.tr (s7.1.tr (jsm.I (E := xE v) (a := jm_Z M_18) (k := 124) (v := nI a7.1) (Or.inr (by omega))))
      clear hS hv kp
      have hS := u7.S
      have hv := u7.2.1.1
      have kp := O7.1
      dsimp only [Option.toList, List.nil_append, List.cons_append]
      refine jx_putI (pc := 83) jf_X2_308_11 rfl dX2_errand_83 rfl rfl (kp) (by decide) ?_
      refine jw_aload_n (pc := 86) dX2_errand_86 rfl ?_
      refine jw_aload_n (pc := 87) dX2_errand_87 rfl ?_
      refine jw_ldcsW (pc := 88) (js_X2_309) rfl (by decide) dX2_errand_88 ?_
      refine jw_iconst (pc := 91) dX2_errand_91 ic_1 ?_
      refine jw_aload_n (pc := 92) dX2_errand_92 rfl ?_
      refine jx_getIs (pc := 93) (jf_X2_308_11.r) rfl dX2_errand_93 rfl (kp) (by decide) (x7) ?_
      refine jw_aload_n (pc := 96) dX2_errand_96 rfl ?_
      refine jx_getIs (pc := 97) (jf_X2_307_11.r) rfl dX2_errand_97 rfl (kp) (by decide) (z7) ?_
      refine jw_isub (pc := 100) dX2_errand_100 ?_
      refine jx_cVt (mi1 := mi_X2_after) (pc := 101) rfl dX2_errand_101 lk_X2_187 rfl fi_X2_after rfl rfl rfl (by decide) (is_66 hS) (t_X2_after hG r7 (r7.T 19 (by decide) (by decide))) (by first | decide | omega) rfl rfl (by simp only [List.map_cons, List.map_nil, List.sum_cons, List.sum_nil, cat_i, cat_l, jr_cat]; decide) ?_ ?_
      rotate_left
      · intro M_101 q_101
        obtain ⟨f, e4, e5⟩ := q_101
        refine jx_out67 rfl e5.2.2.2.1 ?_
        exact Or.inr ⟨rfl, f, by unfold lErrand; simp only [eb, F1, f2, f5, f6, f7, e4, Except.bind], (e5.tr g8).b (by omega) (by omega)⟩
      intro v_101 M_101 q_101
      obtain ⟨a8, f8, e5, u8, s8⟩ := q_101
      cases e5
      obtain ⟨O8, j8⟩ := N7.S hv s8
      have b8 := pAfter_lt f8
      rw [show nI a7.1 - nI a6.1 = nI (a7.1 - a6.1) from pk_sub (by omega)] at b8
      have b8 := inb_v b8 (by decide) (by omega)
      have c8 := xi_ne u8.2.1
      have v8 := u8.1.2.2.2.2.2.1
      have q8 := u8.2.1.1
      obtain ⟨t8, r8⟩ := e2.qI (k := 125) (x := nI a8.1) (t7.S s8) u8 O8.1 (by decide) (Nat.le_refl _)
      have N8 : erN (js_I M_101 (jm_Z M_18) 125 (nI a8.1)) v (jm_Z M_18) pq a := O8
      have x8 : jm_I (js_I M_101 (jm_Z M_18) 125 (nI a8.1)) (jm_Z M_18) 125 = nI a8.1 := jI_same
      have y8 : jm_I (js_I M_101 (jm_Z M_18) 125 (nI a8.1)) (jm_Z M_18) 122 = _ := (jI_ne (by decide)).trans ((j8.2.2.1 _).trans y7)
      have z8 : jm_I (js_I M_101 (jm_Z M_18) 125 (nI a8.1)) (jm_Z M_18) 123 = _ := (jI_ne (by decide)).trans ((j8.2.2.1 _).trans z7)
      have w8 : jm_I (js_I M_101 (jm_Z M_18) 125 (nI a8.1)) (jm_Z M_18) 124 = _ := (jI_ne (by decide)).trans ((j8.2.2.1 _).trans x7)
      have g9 := g8.tr (s8.1.tr (jsm.I (E := xE v) (a := jm_Z M_18) (k := 125) (v := nI a8.1) (Or.inr (by omega))))
      clear hS hv kp
      have hS := u8.S
      have hv := u8.2.1.1
      have kp := O8.1
      dsimp only [Option.toList, List.nil_append, List.cons_append]
      refine jx_putI (pc := 104) jf_X2_310_11 rfl dX2_errand_104 rfl rfl (kp) (by decide) ?_
      have c9 := xi_ne r8.2.1
      have v9 := r8.1.2.2.2.2.2.1
      refine jw_aload_n (pc := 107) dX2_errand_107 rfl ?_
      refine jx_getRs (pc := 108) (jf_X2_120_1.r) rfl dX2_errand_108 rfl (is_66 hS) (by decide) (v9) ?_
      refine jx_getRs (pc := 111) jg_X2_312_5 rfl dX2_errand_111 rfl (vis hv) (by decide) (vr_3 hv) ?_
      refine jw_aload_n (pc := 114) dX2_errand_114 rfl ?_
      refine jx_getRs (pc := 115) (jf_X2_120_1.r) rfl dX2_errand_115 rfl (is_66 hS) (by decide) (v9) ?_
      refine jx_getIs (pc := 118) (jf_X2_296_5.r) rfl dX2_errand_118 rfl (vis hv) (by decide) (c9) ?_
      refine jw_aload_n (pc := 121) dX2_errand_121 rfl ?_
      refine jw_aast (t := 7) (c := 11) (pc := 122)  (by decide) dX2_errand_122 rfl (by omega) (vok_3 hv) rfl kp.1 (by decide) kp.2.2 kp.2.1 (r := _) rfl (Or.inl rfl) rfl (by rw [vnn_3 r8.2.1.1]; omega) ?_
      refine jw_aload_n (pc := 123) dX2_errand_123 rfl ?_
      refine jx_getRs (pc := 124) (jf_X2_120_1.r) rfl dX2_errand_124 rfl (is_66 hS) (by decide) (v9) ?_
      refine jw_dup (pc := 127) dX2_errand_127 (jis2_r _) ?_
      refine jx_getIs (pc := 128) (jf_X2_296_5.r) rfl dX2_errand_128 rfl (vis hv) (by decide) (c9) ?_
      refine jw_iconst (pc := 131) dX2_errand_131 ic_1 ?_
      first | refine jx_iadd (pc := 132) dX2_errand_132 ?_ | refine jw_iadd (pc := 132) dX2_errand_132 ?_
      refine jx_putI (pc := 133) jf_X2_296_5 rfl dX2_errand_133 rfl rfl (vis hv) (by decide) ?_
      refine jw_return (pc := 136) dX2_errand_136 rfl ?_
      have hR := r8.errand (q := jm_Z M_18) (pq := pq) (a := a) (b := a5.1) (f := a6.1) (t := a7.1) (k9 := a8.1) hs ha (pKn_0 h.2.2.2.2 (pKnownN_ok f5).1) b6 (by omega) b7.2 b8.1 b8.2 N8 y8 z8 w8 x8
      exact Or.inl ⟨_, rfl, rfl, (vErrand V a a5.1 a6.1 a7.1 a8.1, a8.2), by unfold lErrand; simp only [eb, F1, f2, f5, f6, f7, f8, Except.bind], hR.b (by omega) (by omega), g9.tr ((jsm.C (Or.inr (by omega))).tr (jsm.I (Or.inr (by omega))))⟩
  · have eb : pBegin (chI σ n) n (decide (V 0 2 < 5)) 5 p = .error (5, tkA (chI σ n) n p) := by rw [decide_eq_false hs]; rfl
    refine jw_aload_n (pc := 0) dX2_errand_0 rfl ?_
    refine jw_aload_n (pc := 1) dX2_errand_1 rfl ?_
    refine jx_getRs (pc := 2) (jf_X2_120_1.r) rfl dX2_errand_2 rfl (is_66 hS) (by decide) (h.1.2.2.2.2.2.1) ?_
    refine jx_getIs (pc := 5) (jf_X2_296_5.r) rfl dX2_errand_5 rfl (vis hv) (by decide) (hst) ?_
    refine jw_iconst (pc := 8) dX2_errand_8 ic_5 ?_
    first | refine jx_icmp_ge (pc := 9) (tgt := 16) dX2_errand_9 (by decide) (by omega) (by omega) ?_ ?_ | refine jw_icmp_ge (pc := 9) (tgt := 16) dX2_errand_9 (by decide) ?_ ?_
    · intro h_9
      refine jw_iconst (pc := 16) dX2_errand_16 ic_0 ?_
      refine jw_iconst (pc := 17) dX2_errand_17 ic_5 ?_
      refine jx_cVt (mi1 := mi_X2_begins) (pc := 18) rfl dX2_errand_18 lk_X2_181 rfl fi_X2_begins rfl rfl rfl (by decide) (is_66 hS) (t_X2_begins (b := false) (k := 5) hG h) (by first | decide | omega) rfl rfl (by decide) ?_ ?_
      rotate_left
      · intro M_18 q_18
        obtain ⟨f, e1, e2⟩ := q_18
        cases e1
        refine jx_out67 rfl e2.2.2.2.1 ?_
        exact Or.inr ⟨rfl, _, by unfold lErrand; rw [eb]; rfl, e2.j jsm.rf⟩
      intro v_18 M_18 q_18
      obtain ⟨e0, p1, e1, e2, e3⟩ := q_18
      cases e1
    · intro h_9
      omega
end JXE
