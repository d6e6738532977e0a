/-! ===== x reads: mirrors, fog ===== -/
section JXF
variable {G : Gh} {M : Mm} {σ : Sg} {n v p zb sb' : Nat} {V : Vt}
/-- a number behind a row's end -/
theorem xRd.spare {r k : Nat} {x : Int32} (h : xRd M σ n v V p zb sb') (hr : 4 ≤ r ∧ r ≤ 10) (hk : V 0 (cR r) ≤ k) : xRd (js_A M (v + r) k x) σ n v V p zb sb' := by
  refine h.rows (E := fun a => a = v + r) (jsm.A rfl) (fun a q => by omega) h.2.1.1 h.2.1.2.1 ?_ rfl rfl rfl (fun _ _ _ => rfl) h.2.2.2.1 h.2.2.2.2
  have ha := jVa_iff.mp h.2.1.2.2.1
  refine jVa_iff.mpr (fun i h1 h2 j hj => ?_)
  rw [jA_A, if_neg (fun q => by
    have e : i = r := by omega
    subst e; omega)]
  exact ha i h1 h2 j hj
theorem lp_X2_mirrora {M9 : Mm} {b p0 : Nat} (hG : jGs G) (h : xRd M σ n v V p zb sb') (hb : b < V 0 0) (hs : V 0 5 < 4) (g : jsm (xE v) M9 M) (hno : pOther (chI σ n) n 6 V (V 0 5) p = .ok (b, tkE (chI σ n) n p)) (hR : lMirror (chI σ n) n V p0 = (pOther (chI σ n) n 6 V (V 0 5) p).bind (fun t => .ok (vMirror V t.1, t.2))) : jW G mi_X2_mirror 10 M9 64 [some (jr (some 66)), some (.int (nI b)), some (.int (nI (V 0 5)))] [] M (xL M9 σ n v zb sb' (lMirror (chI σ n) n V p0)) := by
  have hS := h.S
  have hW := h.2.2.2.1
  have hv := h.2.1.1
  have h104 := hv.2.1
  have hn := wf_nm hW
  refine jw_aload_n (pc := 64) dX2_mirror_64 rfl ?_
  refine jx_cVv (mi1 := mi_X2_next) (pc := 65) rfl dX2_mirror_65 lk_X2_79 rfl fi_X2_next rfl rfl rfl (by decide) (is_66 hS) (h.next hG) (by first | decide | omega) rfl rfl (by decide) ?_
  intro M_65 q_65
  obtain ⟨h4, e12⟩ := q_65
  clear hS hv
  have hS := h4.S
  have hv := h4.2.1.1
  have c4 := xi_nm h4.2.1
  refine jw_aload_n (pc := 68) dX2_mirror_68 rfl ?_
  refine jx_getRs (pc := 69) (jf_X2_120_1.r) rfl dX2_mirror_69 rfl (is_66 hS) (by decide) (h4.1.2.2.2.2.2.1) ?_
  refine jx_getRs (pc := 72) jg_X2_255_5 rfl dX2_mirror_72 rfl (vis hv) (by decide) (vr_6 hv) ?_
  refine jw_aload_n (pc := 75) dX2_mirror_75 rfl ?_
  refine jx_getRs (pc := 76) (jf_X2_120_1.r) rfl dX2_mirror_76 rfl (is_66 hS) (by decide) (h4.1.2.2.2.2.2.1) ?_
  refine jx_getIs (pc := 79) (jf_X2_252_5.r) rfl dX2_mirror_79 rfl (vis hv) (by decide) (c4) ?_
  refine jw_iload_n (pc := 82) dX2_mirror_82 rfl ?_
  refine jx_iast (pc := 83) dX2_mirror_83 (by omega) (vok_6 hv) (vnn_6 hv) rfl (by omega) ?_
  refine jw_aload_n (pc := 84) dX2_mirror_84 rfl ?_
  refine jx_getRs (pc := 85) (jf_X2_120_1.r) rfl dX2_mirror_85 rfl (is_66 hS) (by decide) (h4.1.2.2.2.2.2.1) ?_
  refine jw_dup (pc := 88) dX2_mirror_88 (jis2_r _) ?_
  refine jx_getIs (pc := 89) (jf_X2_252_5.r) rfl dX2_mirror_89 rfl (vis hv) (by decide) (c4) ?_
  refine jw_iconst (pc := 92) dX2_mirror_92 ic_1 ?_
  first | refine jx_iadd (pc := 93) dX2_mirror_93 ?_ | refine jw_iadd (pc := 93) dX2_mirror_93 ?_
  refine jx_putI (pc := 94) jf_X2_252_5 rfl dX2_mirror_94 rfl rfl (vis hv) (by decide) ?_
  refine jw_return (pc := 97) dX2_mirror_97 rfl ?_
  refine Or.inl ⟨_, rfl, rfl, (vMirror V b, tkE (chI σ n) n p), by rw [hR, hno]; rfl, ?_, ?_⟩
  · refine (h4.one (E := fun a => a = v ∨ (v + 4 ≤ a ∧ a ≤ v + 10)) (wf_mirror hW hs hb) ((jsm.A (by omega)).tr (jsm.I (by omega))) (fun a q => q) hv (fun k => ?_) (fun r k q1 q2 => ?_)).j
    · rw [jI_I]; by_cases e : k = 102
      · rw [if_pos ⟨e, rfl⟩, if_pos e]
      · rw [if_neg (fun q => e q.1), if_neg e]; rfl
    · rw [jA_I, jA_A]
      by_cases e4 : r = 6 ∧ k = V 0 5
      · rw [if_pos (by omega), if_pos (by omega)]
      · rw [if_neg (by omega), if_neg (by omega)]
  · exact g.tr (e12.1.tr ((jsm.A (Or.inr (by omega))).tr (jsm.I (Or.inr (by omega)))))
theorem lp_X2_mirrorb {M9 : Mm} {b p0 : Nat} (hG : jGs G) (h : xRd M σ n v V p zb sb') (hb : b < V 0 0) (hs : V 0 5 < 4) (g : jsm (xE v) M9 M) (hp : pKnown (chI σ n) n 0 V p = .ok b) (hR : lMirror (chI σ n) n V p0 = (pOther (chI σ n) n 6 V (V 0 5) p).bind (fun t => .ok (vMirror V t.1, t.2))) : jW G mi_X2_mirror 10 M9 28 [some (jr (some 66)), some (.int (nI b)), some (.int (nI 0))] [] M (xL M9 σ n v zb sb' (lMirror (chI σ n) n V p0)) := by
  have hW := h.2.2.2.1
  have hn0 := wf_np hW
  have J : ∀ k : Nat, (k ≤ V 0 5 ∧ ∀ j, j < k → ¬ V 6 j = b) → jW G mi_X2_mirror 10 M9 28 [some (jr (some 66)), some (.int (nI b)), some (.int (nI k))] [] M (xL M9 σ n v zb sb' (lMirror (chI σ n) n V p0)) := by
    refine jW.loop _ (fun k => V 0 5 - k) _ (fun _ => []) (fun _ => M) (fun k hI ih => ?_)
    obtain ⟨hk, hno⟩ := hI
    have hS := h.S
    have hv := h.2.1.1
    by_cases hkn : k < V 0 5
    · have w1 := h.2.1.2.2.1.2.1 k hkn
      have u1 : V 6 k < V 0 0 := wf_m hW hkn
      refine jw_iload_n (pc := 28) dX2_mirror_28 rfl ?_
      refine jw_aload_n (pc := 29) dX2_mirror_29 rfl ?_
      refine jx_getRs (pc := 30) (jf_X2_120_1.r) rfl dX2_mirror_30 rfl (is_66 hS) (by decide) (h.1.2.2.2.2.2.1) ?_
      refine jx_getIs (pc := 33) (jf_X2_252_5.r) rfl dX2_mirror_33 rfl (vis hv) (by decide) (xi_nm h.2.1) ?_
      first | refine jx_icmp_ge (pc := 36) (tgt := 64) dX2_mirror_36 (by decide) (by omega) (by omega) ?_ ?_ | refine jw_icmp_ge (pc := 36) (tgt := 64) dX2_mirror_36 (by decide) ?_ ?_
      · intro h_36
        omega
      · intro h_36
        refine jw_aload_n (pc := 39) dX2_mirror_39 rfl ?_
        refine jx_getRs (pc := 40) (jf_X2_120_1.r) rfl dX2_mirror_40 rfl (is_66 hS) (by decide) (h.1.2.2.2.2.2.1) ?_
        refine jx_getRs (pc := 43) jg_X2_255_5 rfl dX2_mirror_43 rfl (vis hv) (by decide) (vr_6 hv) ?_
        refine jw_iload_n (pc := 46) dX2_mirror_46 rfl ?_
        refine jx_iald (pc := 47) dX2_mirror_47 (vok_6 hv) (vnn_6 hv) rfl (by omega) ?_
        rw [w1]
        refine jw_iload_n (pc := 48) dX2_mirror_48 rfl ?_
        first | refine jx_icmp_ne (pc := 49) (tgt := 58) dX2_mirror_49 (by decide) (by omega) (by omega) ?_ ?_ | refine jw_icmp_ne (pc := 49) (tgt := 58) dX2_mirror_49 (by decide) ?_ ?_
        · intro h_49
          first | refine jx_iinc (pc := 58) dX2_mirror_58 rfl rfl ?_ | refine jw_iinc (pc := 58) dX2_mirror_58 rfl rfl rfl ?_
          try dsimp only [jput1, jkill, jclr, jis2_i, jis2_l, jis2_rs, jis2_rn, cond]
          refine jw_goto (pc := 61) (tgt := 28) dX2_mirror_61 (by decide) ?_
          exact ih (k + 1) ⟨hkn, fun j hj => (by by_cases e : j = k; exact (by subst e; omega); exact hno j (by omega))⟩ (by omega)
        · intro h_49
          refine jw_aload_n (pc := 52) dX2_mirror_52 rfl ?_
          refine jw_iconst (pc := 53) dX2_mirror_53 ic_3 ?_
          refine jx_cVE (mi1 := mi_X2_fail) (pc := 54) rfl dX2_mirror_54 lk_X2_85 rfl fi_X2_fail rfl rfl rfl (by decide) (is_66 hS) (t_X2_fail h) (by first | decide | omega) rfl rfl (by decide) ?_
          refine jw_athrow (pc := 57) dX2_mirror_57 rfl ?_
          refine jx_out67 rfl hS ?_
          have hy : anyB (V 0 5) (fun k => decide (V 6 k = b)) = true := anyB_iff.mpr ⟨k, hkn, decide_eq_true (by omega)⟩
          exact Or.inr ⟨rfl, _, by rw [hR]; unfold pOther; simp only [hp, Except.bind]; rw [if_pos hy], h.fl.j g⟩
    · have hk' : k = V 0 5 := by omega
      subst hk'
      have hy : ¬ anyB (V 0 5) (fun k => decide (V 6 k = b)) = true := fun q => by
        obtain ⟨j, j1, j2⟩ := anyB_iff.mp q
        exact hno j j1 (of_decide_eq_true j2)
      refine jw_iload_n (pc := 28) dX2_mirror_28 rfl ?_
      refine jw_aload_n (pc := 29) dX2_mirror_29 rfl ?_
      refine jx_getRs (pc := 30) (jf_X2_120_1.r) rfl dX2_mirror_30 rfl (is_66 hS) (by decide) (h.1.2.2.2.2.2.1) ?_
      refine jx_getIs (pc := 33) (jf_X2_252_5.r) rfl dX2_mirror_33 rfl (vis hv) (by decide) (xi_nm h.2.1) ?_
      first | refine jx_icmp_ge (pc := 36) (tgt := 64) dX2_mirror_36 (by decide) (by omega) (by omega) ?_ ?_ | refine jw_icmp_ge (pc := 36) (tgt := 64) dX2_mirror_36 (by decide) ?_ ?_
      · intro h_36
        exact lp_X2_mirrora hG h hb hs g (by unfold pOther; simp only [hp, Except.bind]; rw [if_neg hy]) hR
      · intro h_36
        omega
  exact J 0 ⟨Nat.zero_le _, fun j hj => absurd hj (Nat.not_lt_zero _)⟩
theorem t_X2_mirror (hG : jGs G) (h : xRd M σ n v V p zb sb') : jT G mi_X2_mirror 10 [jr (some 66)] M (xL M σ n v zb sb' (lMirror (chI σ n) n V p)) := by
  have hS := h.S
  have hv := h.2.1.1
  have hW := h.2.2.2.1
  have h104 := hv.2.1
  have hst : jm_I M v 102 = nI (V 0 5) := xi_nm h.2.1
  have hn := wf_nm hW
  refine jT.of (by decide) rfl (Nat.le_of_ble_eq_true rfl) ?_
  by_cases hs : V 0 5 < 4
  · have eb : pBegin (chI σ n) n (decide (V 0 5 < 4)) 5 p = .ok (tkE (chI σ n) n p) := by rw [decide_eq_true hs]; rfl
    refine jw_aload_n (pc := 0) dX2_mirror_0 rfl ?_
    refine jw_aload_n (pc := 1) dX2_mirror_1 rfl ?_
    refine jx_getRs (pc := 2) (jf_X2_120_1.r) rfl dX2_mirror_2 rfl (is_66 hS) (by decide) (h.1.2.2.2.2.2.1) ?_
    refine jx_getIs (pc := 5) (jf_X2_252_5.r) rfl dX2_mirror_5 rfl (vis hv) (by decide) (hst) ?_
    refine jw_iconst (pc := 8) dX2_mirror_8 ic_4 ?_
    first | refine jx_icmp_ge (pc := 9) (tgt := 16) dX2_mirror_9 (by decide) (by omega) (by omega) ?_ ?_ | refine jw_icmp_ge (pc := 9) (tgt := 16) dX2_mirror_9 (by decide) ?_ ?_
    · intro h_9
      omega
    · intro h_9
      refine jw_iconst (pc := 12) dX2_mirror_12 ic_1 ?_
      refine jw_goto (pc := 13) (tgt := 17) dX2_mirror_13 (by decide) ?_
      refine jw_iconst (pc := 17) dX2_mirror_17 ic_5 ?_
      refine jx_cVt (mi1 := mi_X2_begins) (pc := 18) rfl dX2_mirror_18 lk_X2_181 rfl fi_X2_begins rfl rfl rfl (by decide) (is_66 hS) (t_X2_begins (b := true) (k := 5) hG h) (by first | decide | omega) rfl rfl (by decide) ?_ ?_
      rotate_left
      · intro M_18 q_18
        obtain ⟨f, e1, e2⟩ := q_18
        cases e1
      intro v_18 M_18 q_18
      obtain ⟨e0, p1, e1, e2, e3⟩ := q_18
      cases e0; cases e1
      clear hS hv
      have hS := e2.S
      have hv := e2.2.1.1
      have g1 := e3.1
      dsimp only [Option.toList, List.nil_append, List.cons_append]
      refine jw_aload_n (pc := 21) dX2_mirror_21 rfl ?_
      refine jx_cVt (mi1 := mi_X2_placeHere) (pc := 22) rfl dX2_mirror_22 lk_X2_137 rfl fi_X2_placeHere rfl rfl rfl (by decide) (is_66 hS) (t_X2_placeHere hG e2) (by first | decide | omega) rfl rfl (by decide) ?_ ?_
      rotate_left
      · intro M_22 q_22
        obtain ⟨f, e4, e5⟩ := q_22
        refine jx_out67 rfl e5.2.2.2.1 ?_
        exact Or.inr ⟨rfl, f, by unfold lMirror pOther; simp only [eb, e4, Except.bind], e5.j g1⟩
      intro v_22 M_22 q_22
      obtain ⟨b, f3, hb, e10, hk2, h3, e11⟩ := q_22
      cases e10
      clear hS hv
      have hS := h3.S
      have hv := h3.2.1.1
      dsimp only [Option.toList, List.nil_append, List.cons_append]
      refine jw_istore_n (pc := 25) dX2_mirror_25 (Nat.le_of_ble_eq_true rfl) rfl ?_
      try dsimp only [jput1, jput2, jkill, jclr, jis2_i, jis2_l, jis2_rs, jis2_rn, cond]
      refine jw_iconst (pc := 26) dX2_mirror_26 ic_0 ?_
      refine jw_istore_n (pc := 27) dX2_mirror_27 (Nat.le_of_ble_eq_true rfl) rfl ?_
      try dsimp only [jput1, jput2, jkill, jclr, jis2_i, jis2_l, jis2_rs, jis2_rn, cond]
      exact lp_X2_mirrorb hG h3 hb hs (g1.tr e11.1) f3 (by unfold lMirror; simp only [eb, Except.bind])
  · have eb : pBegin (chI σ n) n (decide (V 0 5 < 4)) 5 p = .error (5, tkA (chI σ n) n p) := by rw [decide_eq_false hs]; rfl
    refine jw_aload_n (pc := 0) dX2_mirror_0 rfl ?_
    refine jw_aload_n (pc := 1) dX2_mirror_1 rfl ?_
    refine jx_getRs (pc := 2) (jf_X2_120_1.r) rfl dX2_mirror_2 rfl (is_66 hS) (by decide) (h.1.2.2.2.2.2.1) ?_
    refine jx_getIs (pc := 5) (jf_X2_252_5.r) rfl dX2_mirror_5 rfl (vis hv) (by decide) (hst) ?_
    refine jw_iconst (pc := 8) dX2_mirror_8 ic_4 ?_
    first | refine jx_icmp_ge (pc := 9) (tgt := 16) dX2_mirror_9 (by decide) (by omega) (by omega) ?_ ?_ | refine jw_icmp_ge (pc := 9) (tgt := 16) dX2_mirror_9 (by decide) ?_ ?_
    · intro h_9
      refine jw_iconst (pc := 16) dX2_mirror_16 ic_0 ?_
      refine jw_iconst (pc := 17) dX2_mirror_17 ic_5 ?_
      refine jx_cVt (mi1 := mi_X2_begins) (pc := 18) rfl dX2_mirror_18 lk_X2_181 rfl fi_X2_begins rfl rfl rfl (by decide) (is_66 hS) (t_X2_begins (b := false) (k := 5) hG h) (by first | decide | omega) rfl rfl (by decide) ?_ ?_
      rotate_left
      · intro M_18 q_18
        obtain ⟨f, e1, e2⟩ := q_18
        cases e1
        refine jx_out67 rfl e2.2.2.2.1 ?_
        exact Or.inr ⟨rfl, _, by unfold lMirror; rw [eb]; rfl, e2.j jsm.rf⟩
      intro v_18 M_18 q_18
      obtain ⟨e0, p1, e1, e2, e3⟩ := q_18
      cases e1
    · intro h_9
      omega
theorem lp_X2_foga {M9 : Mm} {b p0 : Nat} (hG : jGs G) (h : xRd M σ n v V p zb sb') (hb : b < V 0 0) (hs : V 0 7 < 4) (g : jsm (xE v) M9 M) (hno : pOther (chI σ n) n 9 V (V 0 7) p = .ok (b, tkE (chI σ n) n p)) (hR : lFog (chI σ n) n V p0 = (pOther (chI σ n) n 9 V (V 0 7) p).bind (fun a => (pAfter (chI σ n) n (kwc 20) (nI 1) (nI 99) a.2).bind (fun ch => .ok (vFog V a.1 ch.1, ch.2)))) : jW G mi_X2_fog 10 M9 64 [some (jr (some 66)), some (.int (nI b)), some (.int (nI (V 0 7)))] [] M (xL M9 σ n v zb sb' (lFog (chI σ n) n V p0)) := by
  have hS := h.S
  have hW := h.2.2.2.1
  have hv := h.2.1.1
  have h104 := hv.2.1
  have hn := wf_nf hW
  refine jw_aload_n (pc := 64) dX2_fog_64 rfl ?_
  refine jx_cVv (mi1 := mi_X2_next) (pc := 65) rfl dX2_fog_65 lk_X2_79 rfl fi_X2_next rfl rfl rfl (by decide) (is_66 hS) (h.next hG) (by first | decide | omega) rfl rfl (by decide) ?_
  intro M_65 q_65
  obtain ⟨h4, e12⟩ := q_65
  clear hS hv
  have hS := h4.S
  have hv := h4.2.1.1
  have c4 := xi_nf h4.2.1
  refine jw_aload_n (pc := 68) dX2_fog_68 rfl ?_
  refine jx_getRs (pc := 69) (jf_X2_120_1.r) rfl dX2_fog_69 rfl (is_66 hS) (by decide) (h4.1.2.2.2.2.2.1) ?_
  refine jx_getRs (pc := 72) jg_X2_319_5 rfl dX2_fog_72 rfl (vis hv) (by decide) (vr_9 hv) ?_
  refine jw_aload_n (pc := 75) dX2_fog_75 rfl ?_
  refine jx_getRs (pc := 76) (jf_X2_120_1.r) rfl dX2_fog_76 rfl (is_66 hS) (by decide) (h4.1.2.2.2.2.2.1) ?_
  refine jx_getIs (pc := 79) (jf_X2_316_5.r) rfl dX2_fog_79 rfl (vis hv) (by decide) (c4) ?_
  refine jw_iload_n (pc := 82) dX2_fog_82 rfl ?_
  refine jx_iast (pc := 83) dX2_fog_83 (by omega) (vok_9 hv) (vnn_9 hv) rfl (by omega) ?_
  have h5 := h4.spare (r := 9) (k := V 0 7) (x := nI b) (by decide) (Nat.le_refl _)
  have g5 := g.tr (e12.1.tr (jsm.A (E := xE v) (a := v + 9) (k := V 0 7) (v := nI b) (Or.inr (by omega))))
  refine jw_aload_n (pc := 84) dX2_fog_84 rfl ?_
  refine jx_getRs (pc := 85) (jf_X2_120_1.r) rfl dX2_fog_85 rfl (is_66 hS) (by decide) (h4.1.2.2.2.2.2.1) ?_
  refine jx_getRs (pc := 88) jg_X2_322_5 rfl dX2_fog_88 rfl (vis hv) (by decide) (vr_10 hv) ?_
  refine jw_aload_n (pc := 91) dX2_fog_91 rfl ?_
  refine jx_getRs (pc := 92) (jf_X2_120_1.r) rfl dX2_fog_92 rfl (is_66 hS) (by decide) (h4.1.2.2.2.2.2.1) ?_
  refine jx_getIs (pc := 95) (jf_X2_316_5.r) rfl dX2_fog_95 rfl (vis hv) (by decide) (c4) ?_
  refine jw_aload_n (pc := 98) dX2_fog_98 rfl ?_
  refine jw_ldcsW (pc := 99) (js_X2_325) rfl (by decide) dX2_fog_99 ?_
  refine jw_iconst (pc := 102) dX2_fog_102 ic_1 ?_
  refine jw_bipush (pc := 103) dX2_fog_103 bp_99 ?_
  refine jx_cVt (mi1 := mi_X2_after) (pc := 105) rfl dX2_fog_105 lk_X2_187 rfl fi_X2_after rfl rfl rfl (by decide) (is_66 hS) (t_X2_after hG h5 (h5.T 20 (by decide) (by decide))) (by first | decide | omega) rfl rfl (by simp only [List.map_cons, List.map_nil, List.sum_cons, List.sum_nil, cat_i, cat_l, jr_cat]; decide) ?_ ?_
  rotate_left
  · intro M_105 q_105
    obtain ⟨f, e4, e5⟩ := q_105
    refine jx_out67 rfl e5.2.2.2.1 ?_
    exact Or.inr ⟨rfl, f, by rw [hR, hno]; simp only [Except.bind, e4], e5.j g5⟩
  intro v_105 M_105 q_105
  obtain ⟨a1, f1, e5, e6, e7⟩ := q_105
  cases e5
  clear hS hv
  have hS := e6.S
  have hv := e6.2.1.1
  have c6 := xi_nf e6.2.1
  have bx := inb_v (a := 1) (b := 99) (pAfter_lt f1) (by decide) (by decide)
  have k9 : jm_A M_105 (v + 9) (V 0 7) = nI b := ((e7.2.2.1 (v + 9) (by have := h5.2.1.1.2.2.1; omega) (by unfold xE0; omega) (by rw [(h5.2.1.1.2.2.2 8 (by decide)).1]; decide)).2.2.2.2.2.1 _).trans (by rw [jA_A, if_pos ⟨rfl, rfl⟩])
  dsimp only [Option.toList, List.nil_append, List.cons_append]
  refine jx_iast (pc := 108) dX2_fog_108 (by omega) (vok_10 hv) (vnn_10 hv) rfl (by omega) ?_
  refine jw_aload_n (pc := 109) dX2_fog_109 rfl ?_
  refine jx_getRs (pc := 110) (jf_X2_120_1.r) rfl dX2_fog_110 rfl (is_66 hS) (by decide) (e6.1.2.2.2.2.2.1) ?_
  refine jw_dup (pc := 113) dX2_fog_113 (jis2_r _) ?_
  refine jx_getIs (pc := 114) (jf_X2_316_5.r) rfl dX2_fog_114 rfl (vis hv) (by decide) (c6) ?_
  refine jw_iconst (pc := 117) dX2_fog_117 ic_1 ?_
  first | refine jx_iadd (pc := 118) dX2_fog_118 ?_ | refine jw_iadd (pc := 118) dX2_fog_118 ?_
  refine jx_putI (pc := 119) jf_X2_316_5 rfl dX2_fog_119 rfl rfl (vis hv) (by decide) ?_
  refine jw_return (pc := 122) dX2_fog_122 rfl ?_
  refine Or.inl ⟨_, rfl, rfl, (vFog V b a1.1, a1.2), by rw [hR, hno]; simp only [Except.bind, f1], ?_, ?_⟩
  · refine (e6.two (E := fun a => a = v ∨ (v + 4 ≤ a ∧ a ≤ v + 10)) (Or.inr (Or.inr ⟨rfl, rfl⟩)) (wf_fog hW hs hb bx) ((jsm.A (by omega)).tr (jsm.I (by omega))) (fun a q => q) hv (fun k => ?_) (fun r k q1 q2 => ?_)).j
    · rw [jI_I]; by_cases e : k = 104
      · rw [if_pos ⟨e, rfl⟩, if_pos e]
      · rw [if_neg (fun q => e q.1), if_neg e]; rfl
    · rw [jA_I, jA_A]
      by_cases e4 : r = 10 ∧ k = V 0 7
      · rw [if_pos (by omega), if_neg (by omega), if_pos (by omega)]
      · rw [if_neg (by omega)]
        by_cases e5 : r = 9 ∧ k = V 0 7
        · rw [if_pos (by omega), e5.1, e5.2, k9]
        · rw [if_neg (by omega), if_neg (by omega)]
  · exact g5.tr (e7.1.tr ((jsm.A (Or.inr (by omega))).tr (jsm.I (Or.inr (by omega)))))
theorem lp_X2_fogb {M9 : Mm} {b p0 : Nat} (hG : jGs G) (h : xRd M σ n v V p zb sb') (hb : b < V 0 0) (hs : V 0 7 < 4) (g : jsm (xE v) M9 M) (hp : pKnown (chI σ n) n 0 V p = .ok b) (hR : lFog (chI σ n) n V p0 = (pOther (chI σ n) n 9 V (V 0 7) p).bind (fun a => (pAfter (chI σ n) n (kwc 20) (nI 1) (nI 99) a.2).bind (fun ch => .ok (vFog V a.1 ch.1, ch.2)))) : jW G mi_X2_fog 10 M9 28 [some (jr (some 66)), some (.int (nI b)), some (.int (nI 0))] [] M (xL M9 σ n v zb sb' (lFog (chI σ n) n V p0)) := by
  have hW := h.2.2.2.1
  have hn0 := wf_np hW
  have J : ∀ k : Nat, (k ≤ V 0 7 ∧ ∀ j, j < k → ¬ V 9 j = b) → jW G mi_X2_fog 10 M9 28 [some (jr (some 66)), some (.int (nI b)), some (.int (nI k))] [] M (xL M9 σ n v zb sb' (lFog (chI σ n) n V p0)) := by
    refine jW.loop _ (fun k => V 0 7 - k) _ (fun _ => []) (fun _ => M) (fun k hI ih => ?_)
    obtain ⟨hk, hno⟩ := hI
    have hS := h.S
    have hv := h.2.1.1
    by_cases hkn : k < V 0 7
    · have w1 := (h.2.1.2.2.1.2.2.2 k hkn).1
      have u1 : V 9 k < V 0 0 := (wf_f hW hkn).1
      refine jw_iload_n (pc := 28) dX2_fog_28 rfl ?_
      refine jw_aload_n (pc := 29) dX2_fog_29 rfl ?_
      refine jx_getRs (pc := 30) (jf_X2_120_1.r) rfl dX2_fog_30 rfl (is_66 hS) (by decide) (h.1.2.2.2.2.2.1) ?_
      refine jx_getIs (pc := 33) (jf_X2_316_5.r) rfl dX2_fog_33 rfl (vis hv) (by decide) (xi_nf h.2.1) ?_
      first | refine jx_icmp_ge (pc := 36) (tgt := 64) dX2_fog_36 (by decide) (by omega) (by omega) ?_ ?_ | refine jw_icmp_ge (pc := 36) (tgt := 64) dX2_fog_36 (by decide) ?_ ?_
      · intro h_36
        omega
      · intro h_36
        refine jw_aload_n (pc := 39) dX2_fog_39 rfl ?_
        refine jx_getRs (pc := 40) (jf_X2_120_1.r) rfl dX2_fog_40 rfl (is_66 hS) (by decide) (h.1.2.2.2.2.2.1) ?_
        refine jx_getRs (pc := 43) jg_X2_319_5 rfl dX2_fog_43 rfl (vis hv) (by decide) (vr_9 hv) ?_
        refine jw_iload_n (pc := 46) dX2_fog_46 rfl ?_
        refine jx_iald (pc := 47) dX2_fog_47 (vok_9 hv) (vnn_9 hv) rfl (by omega) ?_
        rw [w1]
        refine jw_iload_n (pc := 48) dX2_fog_48 rfl ?_
        first | refine jx_icmp_ne (pc := 49) (tgt := 58) dX2_fog_49 (by decide) (by omega) (by omega) ?_ ?_ | refine jw_icmp_ne (pc := 49) (tgt := 58) dX2_fog_49 (by decide) ?_ ?_
        · intro h_49
          first | refine jx_iinc (pc := 58) dX2_fog_58 rfl rfl ?_ | refine jw_iinc (pc := 58) dX2_fog_58 rfl rfl rfl ?_
          try dsimp only [jput1, jkill, jclr, jis2_i, jis2_l, jis2_rs, jis2_rn, cond]
          refine jw_goto (pc := 61) (tgt := 28) dX2_fog_61 (by decide) ?_
          exact ih (k + 1) ⟨hkn, fun j hj => (by by_cases e : j = k; exact (by subst e; omega); exact hno j (by omega))⟩ (by omega)
        · intro h_49
          refine jw_aload_n (pc := 52) dX2_fog_52 rfl ?_
          refine jw_iconst (pc := 53) dX2_fog_53 ic_3 ?_
          refine jx_cVE (mi1 := mi_X2_fail) (pc := 54) rfl dX2_fog_54 lk_X2_85 rfl fi_X2_fail rfl rfl rfl (by decide) (is_66 hS) (t_X2_fail h) (by first | decide | omega) rfl rfl (by decide) ?_
          refine jw_athrow (pc := 57) dX2_fog_57 rfl ?_
          refine jx_out67 rfl hS ?_
          have hy : anyB (V 0 7) (fun k => decide (V 9 k = b)) = true := anyB_iff.mpr ⟨k, hkn, decide_eq_true (by omega)⟩
          exact Or.inr ⟨rfl, _, by rw [hR]; unfold pOther; simp only [hp, Except.bind]; rw [if_pos hy], h.fl.j g⟩
    · have hk' : k = V 0 7 := by omega
      subst hk'
      have hy : ¬ anyB (V 0 7) (fun k => decide (V 9 k = b)) = true := fun q => by
        obtain ⟨j, j1, j2⟩ := anyB_iff.mp q
        exact hno j j1 (of_decide_eq_true j2)
      refine jw_iload_n (pc := 28) dX2_fog_28 rfl ?_
      refine jw_aload_n (pc := 29) dX2_fog_29 rfl ?_
      refine jx_getRs (pc := 30) (jf_X2_120_1.r) rfl dX2_fog_30 rfl (is_66 hS) (by decide) (h.1.2.2.2.2.2.1) ?_
      refine jx_getIs (pc := 33) (jf_X2_316_5.r) rfl dX2_fog_33 rfl (vis hv) (by decide) (xi_nf h.2.1) ?_
      first | refine jx_icmp_ge (pc := 36) (tgt := 64) dX2_fog_36 (by decide) (by omega) (by omega) ?_ ?_ | refine jw_icmp_ge (pc := 36) (tgt := 64) dX2_fog_36 (by decide) ?_ ?_
      · intro h_36
        exact lp_X2_foga hG h hb hs g (by unfold pOther; simp only [hp, Except.bind]; rw [if_neg hy]) hR
      · intro h_36
        omega
  exact J 0 ⟨Nat.zero_le _, fun j hj => absurd hj (Nat.not_lt_zero _)⟩
theorem t_X2_fog (hG : jGs G) (h : xRd M σ n v V p zb sb') : jT G mi_X2_fog 10 [jr (some 66)] M (xL M σ n v zb sb' (lFog (chI σ n) n V p)) := by
  have hS := h.S
  have hv := h.2.1.1
  have hW := h.2.2.2.1
  have h104 := hv.2.1
  have hst : jm_I M v 104 = nI (V 0 7) := xi_nf h.2.1
  have hn := wf_nf hW
  refine jT.of (by decide) rfl (Nat.le_of_ble_eq_true rfl) ?_
  by_cases hs : V 0 7 < 4
  · have eb : pBegin (chI σ n) n (decide (V 0 7 < 4)) 5 p = .ok (tkE (chI σ n) n p) := by rw [decide_eq_true hs]; rfl
    refine jw_aload_n (pc := 0) dX2_fog_0 rfl ?_
    refine jw_aload_n (pc := 1) dX2_fog_1 rfl ?_
    refine jx_getRs (pc := 2) (jf_X2_120_1.r) rfl dX2_fog_2 rfl (is_66 hS) (by decide) (h.1.2.2.2.2.2.1) ?_
    refine jx_getIs (pc := 5) (jf_X2_316_5.r) rfl dX2_fog_5 rfl (vis hv) (by decide) (hst) ?_
    refine jw_iconst (pc := 8) dX2_fog_8 ic_4 ?_
    first | refine jx_icmp_ge (pc := 9) (tgt := 16) dX2_fog_9 (by decide) (by omega) (by omega) ?_ ?_ | refine jw_icmp_ge (pc := 9) (tgt := 16) dX2_fog_9 (by decide) ?_ ?_
    · intro h_9
      omega
    · intro h_9
      refine jw_iconst (pc := 12) dX2_fog_12 ic_1 ?_
      refine jw_goto (pc := 13) (tgt := 17) dX2_fog_13 (by decide) ?_
      refine jw_iconst (pc := 17) dX2_fog_17 ic_5 ?_
      refine jx_cVt (mi1 := mi_X2_begins) (pc := 18) rfl dX2_fog_18 lk_X2_181 rfl fi_X2_begins rfl rfl rfl (by decide) (is_66 hS) (t_X2_begins (b := true) (k := 5) hG h) (by first | decide | omega) rfl rfl (by decide) ?_ ?_
      rotate_left
      · intro M_18 q_18
        obtain ⟨f, e1, e2⟩ := q_18
        cases e1
      intro v_18 M_18 q_18
      obtain ⟨e0, p1, e1, e2, e3⟩ := q_18
      cases e0; cases e1
      clear hS hv
      have hS := e2.S
      have hv := e2.2.1.1
      have g1 := e3.1
      dsimp only [Option.toList, List.nil_append, List.cons_append]
      refine jw_aload_n (pc := 21) dX2_fog_21 rfl ?_
      refine jx_cVt (mi1 := mi_X2_placeHere) (pc := 22) rfl dX2_fog_22 lk_X2_137 rfl fi_X2_placeHere rfl rfl rfl (by decide) (is_66 hS) (t_X2_placeHere hG e2) (by first | decide | omega) rfl rfl (by decide) ?_ ?_
      rotate_left
      · intro M_22 q_22
        obtain ⟨f, e4, e5⟩ := q_22
        refine jx_out67 rfl e5.2.2.2.1 ?_
        exact Or.inr ⟨rfl, f, by unfold lFog pOther; simp only [eb, e4, Except.bind], e5.j g1⟩
      intro v_22 M_22 q_22
      obtain ⟨b, f3, hb, e10, hk2, h3, e11⟩ := q_22
      cases e10
      clear hS hv
      have hS := h3.S
      have hv := h3.2.1.1
      dsimp only [Option.toList, List.nil_append, List.cons_append]
      refine jw_istore_n (pc := 25) dX2_fog_25 (Nat.le_of_ble_eq_true rfl) rfl ?_
      try dsimp only [jput1, jput2, jkill, jclr, jis2_i, jis2_l, jis2_rs, jis2_rn, cond]
      refine jw_iconst (pc := 26) dX2_fog_26 ic_0 ?_
      refine jw_istore_n (pc := 27) dX2_fog_27 (Nat.le_of_ble_eq_true rfl) rfl ?_
      try dsimp only [jput1, jput2, jkill, jclr, jis2_i, jis2_l, jis2_rs, jis2_rn, cond]
      exact lp_X2_fogb hG h3 hb hs (g1.tr e11.1) f3 (by unfold lFog; simp only [eb, Except.bind])
  · have eb : pBegin (chI σ n) n (decide (V 0 7 < 4)) 5 p = .error (5, tkA (chI σ n) n p) := by rw [decide_eq_false hs]; rfl
    refine jw_aload_n (pc := 0) dX2_fog_0 rfl ?_
    refine jw_aload_n (pc := 1) dX2_fog_1 rfl ?_
    refine jx_getRs (pc := 2) (jf_X2_120_1.r) rfl dX2_fog_2 rfl (is_66 hS) (by decide) (h.1.2.2.2.2.2.1) ?_
    refine jx_getIs (pc := 5) (jf_X2_316_5.r) rfl dX2_fog_5 rfl (vis hv) (by decide) (hst) ?_
    refine jw_iconst (pc := 8) dX2_fog_8 ic_4 ?_
    first | refine jx_icmp_ge (pc := 9) (tgt := 16) dX2_fog_9 (by decide) (by omega) (by omega) ?_ ?_ | refine jw_icmp_ge (pc := 9) (tgt := 16) dX2_fog_9 (by decide) ?_ ?_
    · intro h_9
      refine jw_iconst (pc := 16) dX2_fog_16 ic_0 ?_
      refine jw_iconst (pc := 17) dX2_fog_17 ic_5 ?_
      refine jx_cVt (mi1 := mi_X2_begins) (pc := 18) rfl dX2_fog_18 lk_X2_181 rfl fi_X2_begins rfl rfl rfl (by decide) (is_66 hS) (t_X2_begins (b := false) (k := 5) hG h) (by first | decide | omega) rfl rfl (by decide) ?_ ?_
      rotate_left
      · intro M_18 q_18
        obtain ⟨f, e1, e2⟩ := q_18
        cases e1
        refine jx_out67 rfl e2.2.2.2.1 ?_
        exact Or.inr ⟨rfl, _, by unfold lFog; rw [eb]; rfl, e2.j jsm.rf⟩
      intro v_18 M_18 q_18
      obtain ⟨e0, p1, e1, e2, e3⟩ := q_18
      cases e1
    · intro h_9
      omega
end JXF
