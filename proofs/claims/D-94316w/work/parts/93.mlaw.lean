/-! ===== m's lines: law ===== -/
section JLW
variable {G : Gh} {M : Mm} {σ : Sg} {n w : Nat}
theorem sX_c {s : Except Fl (Vt × Nat)} {k : Nat} {lo hi x : Int32} (h : sX s (fun _ p => pAfter (chI σ n) n k lo hi p) x) : ∀ r, sP s (fun _ p => pAfter (chI σ n) n k lo hi p) = .ok r → x = nI (cNt x) := fun r e => by
  cases s with
  | error f => cases e
  | ok r0 =>
    cases hq : pAfter (chI σ n) n k lo hi r0.2 with
    | error f => simp only [sP, hq, Except.bind] at e; cases e
    | ok q =>
      have hx := h _ _ rfl hq
      have := (pAfter_lt hq).2
      rw [hx, ch_n (by omega)]
theorem ln_law {p : Nat} {V : Vt} {S1 S2 S3 S4 S5 S6 : Except Fl (Vt × Nat)} {x1 x2 x3 x4 x5 : Int32} (d1 : S1 = sB (.ok (V, p)) (fun _ p => pBegin (chI σ n) n (decide (V 0 12 = 0)) 3 p)) (d2 : S2 = sP S1 (fun _ p => pAfter (chI σ n) n (kwc 13) (nI 0) (nI 19) p)) (d3 : S3 = sP (sD S2 8 x1) (fun _ p => pAfter (chI σ n) n (kwc 14) (nI 0) (nI 19) p)) (d4 : S4 = sP (sD S3 9 x2) (fun _ p => pAfter (chI σ n) n (kwc 15) (nI 0) (nI 99) p)) (d5 : S5 = sP (sD S4 10 x3) (fun _ p => pAfter (chI σ n) n (kwc 16) x3 (nI 99) p)) (d6 : S6 = sP (sD S5 11 x4) (fun _ p => pAfter (chI σ n) n (kwc 17) (nI 1) (nI 99) p))
    (v1 : sX S1 (fun _ p => pAfter (chI σ n) n (kwc 13) (nI 0) (nI 19) p) x1) (v2 : sX (sD S2 8 x1) (fun _ p => pAfter (chI σ n) n (kwc 14) (nI 0) (nI 19) p) x2) (v3 : sX (sD S3 9 x2) (fun _ p => pAfter (chI σ n) n (kwc 15) (nI 0) (nI 99) p) x3) (v4 : sX (sD S4 10 x3) (fun _ p => pAfter (chI σ n) n (kwc 16) x3 (nI 99) p) x4) (v5 : sX (sD S5 11 x4) (fun _ p => pAfter (chI σ n) n (kwc 17) (nI 1) (nI 99) p) x5) :
    (∀ f, S6 = .error f → lLaw (chI σ n) n V p = .error f) ∧ (∀ r, S6 = .ok r → ∃ a b f t s p2, x5 = nI s ∧ 1 ≤ s ∧ s ≤ 99 ∧ r = (vS (vS (vS (vS V 0 8 a) 0 9 b) 0 10 f) 0 11 t, p2) ∧ lLaw (chI σ n) n V p = .ok (vS (vS (vS (vS (vS V 0 8 a) 0 9 b) 0 10 f) 0 11 t) 0 12 s, p2)) := by
  unfold lLaw
  cases h1 : pBegin (chI σ n) n (decide (V 0 12 = 0)) 3 p with
  | error g =>
    subst d6; subst d5; subst d4; subst d3; subst d2; subst d1
    simp only [sB, sP, sD, h1, Except.bind]; exact ⟨fun f h => h, fun r h => by cases h⟩
  | ok p1 =>
    have hS1 : S1 = .ok (V, p1) := by rw [d1]; simp only [sB, h1, Except.bind]
    subst hS1
    cases h2 : pAfter (chI σ n) n (kwc 13) (nI 0) (nI 19) p1 with
    | error g =>
      subst d6; subst d5; subst d4; subst d3; subst d2
      simp only [sB, sP, sD, h2, Except.bind]; exact ⟨fun f h => h, fun r h => by cases h⟩
    | ok q2 =>
      have y1 := v1 _ _ rfl h2
      have z1 := (pAfter_lt h2).2
      have hS2 : sD S2 8 x1 = .ok (vS V 0 8 q2.1, q2.2) := by rw [d2, y1]; simp only [sP, sD, h2, Except.bind, ch_n (show q2.1 < 2 ^ 31 by omega)]
      rw [hS2] at d3 v2
      cases h3 : pAfter (chI σ n) n (kwc 14) (nI 0) (nI 19) q2.2 with
      | error g =>
        subst d6; subst d5; subst d4; subst d3
        simp only [sB, sP, sD, h2, h3, Except.bind]; exact ⟨fun f h => h, fun r h => by cases h⟩
      | ok q3 =>
        have y2 := v2 _ _ rfl h3
        have z2 := (pAfter_lt h3).2
        have hS3 : sD S3 9 x2 = .ok (vS (vS V 0 8 q2.1) 0 9 q3.1, q3.2) := by rw [d3, y2]; simp only [sP, sD, h3, Except.bind, ch_n (show q3.1 < 2 ^ 31 by omega)]
        rw [hS3] at d4 v3
        cases h4 : pAfter (chI σ n) n (kwc 15) (nI 0) (nI 99) q3.2 with
        | error g =>
          subst d6; subst d5; subst d4
          simp only [sB, sP, sD, h2, h3, h4, Except.bind]; exact ⟨fun f h => h, fun r h => by cases h⟩
        | ok q4 =>
          have y3 := v3 _ _ rfl h4
          have z3 := (pAfter_lt h4).2
          have hS4 : sD S4 10 x3 = .ok (vS (vS (vS V 0 8 q2.1) 0 9 q3.1) 0 10 q4.1, q4.2) := by rw [d4, y3]; simp only [sP, sD, h4, Except.bind, ch_n (show q4.1 < 2 ^ 31 by omega)]
          rw [hS4] at d5 v4
          rw [y3] at d5 v4
          cases h5 : pAfter (chI σ n) n (kwc 16) (nI q4.1) (nI 99) q4.2 with
          | error g =>
            subst d6; subst d5
            simp only [sB, sP, sD, h2, h3, h4, h5, Except.bind]; exact ⟨fun f h => h, fun r h => by cases h⟩
          | ok q5 =>
            have y4 := v4 _ _ rfl h5
            have z4 := (pAfter_lt h5).2
            have hS5 : sD S5 11 x4 = .ok (vS (vS (vS (vS V 0 8 q2.1) 0 9 q3.1) 0 10 q4.1) 0 11 q5.1, q5.2) := by rw [d5, y4]; simp only [sP, sD, h5, Except.bind, ch_n (show q5.1 < 2 ^ 31 by omega)]
            rw [hS5] at d6 v5
            cases h6 : pAfter (chI σ n) n (kwc 17) (nI 1) (nI 99) q5.2 with
            | error g =>
              subst d6
              simp only [sB, sP, sD, h2, h3, h4, h5, h6, Except.bind]; exact ⟨fun f h => h, fun r h => by cases h⟩
            | ok q6 =>
              have y5 := v5 _ _ rfl h6
              have z5 := pAfter_lt h6
              have z6 := inb_le (by omega) (by decide) (by decide) z5.1
              subst d6
              simp only [sB, sP, sD, h2, h3, h4, h5, h6, Except.bind]
              exact ⟨fun f h => (by cases h), fun r h => by cases h; exact ⟨q2.1, q3.1, q4.1, q5.1, q6.1, q6.2, y5, z6.1, z6.2, rfl, rfl⟩⟩
theorem lp_lawE {M9 : Mm} {V : Vt} {p : Nat} {f : Fl} {x : Int32} (h : mRd M σ n w (.error f)) (hk : mKp M9 M w) (he : lLaw (chI σ n) n V p = .error f) : jW G mi_X5_readLaw 12 M9 106 [some (jr (some 90))] [.int x, jr (some w)] M (jPv (fun M' => mRd M' σ n w (lLaw (chI σ n) n V p) ∧ mKq M9 M' w)) := by
  have hS := h.S
  have hw := h.1.2.2.2.2.2.2.1
  have h104 := hw.2.1
  have e90 : ∀ j, jm_I (js_I M w 131 x) 90 j = jm_I M 90 j := fun j => by rw [jI_I, if_neg (by omega)]
  refine jx_putI (pc := 106) jf_X5_273_12 rfl dX5_readLaw_106 rfl rfl (wis hw) (by decide) ?_
  refine jw_aload_n (pc := 109) dX5_readLaw_109 rfl ?_
  refine jx_getIs (pc := 110) (jf_X5_85_4.r) rfl dX5_readLaw_110 rfl (is_90 hS) (by decide) ((e90 _).trans h.2.1) ?_
  refine jw_iconst (pc := 113) dX5_readLaw_113 ic_5 ?_
  first | refine jx_icmp_eq (pc := 114) (tgt := 125) dX5_readLaw_114 (by decide) (by omega) (by omega) ?_ ?_ | refine jw_icmp_eq (pc := 114) (tgt := 125) dX5_readLaw_114 (by decide) ?_ ?_
  · intro h_114
    refine jw_return (pc := 125) dX5_readLaw_125 rfl ?_
    refine ⟨rfl, ?_, (hk.tr (mKp.W h104)).q⟩
    rw [he]
    refine ⟨h.1.I (fun q hq e => ?_), (e90 _).trans h.2.1, (e90 _).trans h.2.2.1, (e90 _).trans h.2.2.2.1, h.2.2.2.2⟩
    simp only [wCn, List.mem_cons, List.not_mem_nil, or_false] at hq
    rcases hq with rfl | rfl | rfl | rfl | rfl | rfl | rfl | rfl | rfl <;> exact absurd e (by decide)
  · intro h_114
    exact absurd rfl h_114
theorem lp_lawO {M9 : Mm} {V V1 : Vt} {p p2 s : Nat} (h : mRd M σ n w (.ok (V1, p2))) (hk : mKp M9 M w) (hs1 : 1 ≤ s) (he : lLaw (chI σ n) n V p = .ok (vS V1 0 12 s, p2)) : jW G mi_X5_readLaw 12 M9 106 [some (jr (some 90))] [.int (nI s), jr (some w)] M (jPv (fun M' => mRd M' σ n w (lLaw (chI σ n) n V p) ∧ mKq M9 M' w)) := by
  have hS := h.S
  have hR := h.1.2.2.2.2.2.1
  have hV := h.2.2.2.2.1
  have hw := hV.1
  have h104 := hw.2.1
  have hs5 := @srt_lt (tkK (chI σ n) n p2)
  have e90 : ∀ j, jm_I (js_I M w 131 (nI s)) 90 j = jm_I M 90 j := fun j => by rw [jI_I, if_neg (by omega)]
  refine jx_putI (pc := 106) jf_X5_273_12 rfl dX5_readLaw_106 rfl rfl (wis hw) (by decide) ?_
  refine jw_aload_n (pc := 109) dX5_readLaw_109 rfl ?_
  refine jx_getIs (pc := 110) (jf_X5_85_4.r) rfl dX5_readLaw_110 rfl (is_90 hS) (by decide) ((e90 _).trans h.2.2.1.2.1) ?_
  refine jw_iconst (pc := 113) dX5_readLaw_113 ic_5 ?_
  first | refine jx_icmp_eq (pc := 114) (tgt := 125) dX5_readLaw_114 (by decide) (by omega) (by omega) ?_ ?_ | refine jw_icmp_eq (pc := 114) (tgt := 125) dX5_readLaw_114 (by decide) ?_ ?_
  · intro h_114
    omega
  · intro h_114
    refine jw_aload_n (pc := 117) dX5_readLaw_117 rfl ?_
    refine jx_getRs (pc := 118) (jf_X5_173_4.r) rfl dX5_readLaw_118 rfl (is_90 hS) (by decide) (hR) ?_
    refine jw_iconst (pc := 121) dX5_readLaw_121 ic_1 ?_
    refine jx_putZ (pc := 122) jf_X5_214_12 rfl dX5_readLaw_122 rfl rfl (wis hw) (by decide) (jnar_1) (by decide +kernel) ?_
    refine jw_return (pc := 125) dX5_readLaw_125 rfl ?_
    refine ⟨rfl, ?_, ((hk.tr (mKp.W h104)).tr (mKp.W h104)).q⟩
    rw [he]
    obtain ⟨i0, i1, i2, i3, i4, i5, i6, i7, i8, i9, i10, i11, i12⟩ := hV.2.1
    refine h.up ((h.1.I (fun q hq e => ?_)).I (fun q hq e => ?_)) (fun j => by rw [jI_I, if_neg (by omega)]; exact e90 j) rfl ⟨hw, ⟨i0, i1, i2, i3, i4, i5, i6, i7, i8, i9, i10, i11, ?_⟩, hV.2.2⟩ h.2.2.2.2.2.1 ?_ h.2.2.2.2.2.2.2
    · simp only [wCn, List.mem_cons, List.not_mem_nil, or_false] at hq
      rcases hq with rfl | rfl | rfl | rfl | rfl | rfl | rfl | rfl | rfl <;> exact absurd e (by decide)
    · simp only [wCn, List.mem_cons, List.not_mem_nil, or_false] at hq
      rcases hq with rfl | rfl | rfl | rfl | rfl | rfl | rfl | rfl | rfl <;> exact absurd e (by decide)
    · rw [jI_I, if_neg (by omega)]; exact jI_same
    · rw [jI_same, vS_eq, decide_eq_true (show s ≠ 0 by omega)]; rfl
theorem t_X5_readLaw {V : Vt} {p : Nat} (hG : jGs G) (h : mRd M σ n w (.ok (V, p))) (hk : tkK (chI σ n) n p = 2) : jT G mi_X5_readLaw 12 [jr (some 90)] M (jPv (fun M' => mRd M' σ n w (lLaw (chI σ n) n V p) ∧ mKq M M' w)) := by
  have hS := h.S
  have hR := h.1.2.2.2.2.2.1
  have hV := h.2.2.2.2.1
  have hw := hV.1
  -- behind the first step
  have L19 : ∀ M1, mRd M1 σ n w (sB (.ok (V, p)) (fun _ p => pBegin (chI σ n) n (decide (V 0 12 = 0)) 3 p)) → mKp M M1 w → jW G mi_X5_readLaw 12 M 19 [some (jr (some 90))] [] M1 (jPv (fun M' => mRd M' σ n w (lLaw (chI σ n) n V p) ∧ mKq M M' w)) := by
    intro M1 h1 hk1
    have hS := h1.S
    have hR := h1.1.2.2.2.2.2.1
    have hT := h1.T
    refine jw_aload_n (pc := 19) dX5_readLaw_19 rfl ?_
    refine jx_getRs (pc := 20) (jf_X5_173_4.r) rfl dX5_readLaw_20 rfl (is_90 hS) (by decide) (hR) ?_
    refine jw_aload_n (pc := 23) dX5_readLaw_23 rfl ?_
    refine jw_ldcs (pc := 24) (js_X5_251) rfl (by decide) dX5_readLaw_24 ?_
    refine jw_iconst (pc := 26) dX5_readLaw_26 ic_0 ?_
    refine jw_bipush (pc := 27) dX5_readLaw_27 bp_19 ?_
    refine jx_cVi (mi1 := mi_X5_readPart) (pc := 29) rfl dX5_readLaw_29 lk_X5_253 rfl fi_X5_readPart rfl rfl rfl (by decide) (is_90 hS) (t_X5_readPart hG h1 (hT 13 (by decide) (by decide))) (by first | decide | omega) rfl rfl (by simp only [List.map_cons, List.map_nil, List.sum_cons, List.sum_nil, cat_i, cat_l, jr_cat]; decide) ?_
    intro x_29 M_29 q_29
    have hw := q_29.1.1.2.2.2.2.2.2.1
    refine jx_putI (pc := 32) jf_X5_257_12 rfl dX5_readLaw_32 rfl rfl (wis hw) (by decide) ?_
    obtain ⟨g1, g2⟩ := q_29.1.D (x := x_29) (Or.inl ⟨rfl, rfl⟩) (sX_c q_29.2.2)
    have hS := g1.S
    have hR := g1.1.2.2.2.2.2.1
    have hT := g1.T
    refine jw_aload_n (pc := 35) dX5_readLaw_35 rfl ?_
    refine jx_getRs (pc := 36) (jf_X5_173_4.r) rfl dX5_readLaw_36 rfl (is_90 hS) (by decide) (hR) ?_
    refine jw_aload_n (pc := 39) dX5_readLaw_39 rfl ?_
    refine jw_ldcsW (pc := 40) (js_X5_259) rfl (by decide) dX5_readLaw_40 ?_
    refine jw_iconst (pc := 43) dX5_readLaw_43 ic_0 ?_
    refine jw_bipush (pc := 44) dX5_readLaw_44 bp_19 ?_
    refine jx_cVi (mi1 := mi_X5_readPart) (pc := 46) rfl dX5_readLaw_46 lk_X5_253 rfl fi_X5_readPart rfl rfl rfl (by decide) (is_90 hS) (t_X5_readPart hG g1 (hT 14 (by decide) (by decide))) (by first | decide | omega) rfl rfl (by simp only [List.map_cons, List.map_nil, List.sum_cons, List.sum_nil, cat_i, cat_l, jr_cat]; decide) ?_
    intro x_46 M_46 q_46
    have hw := q_46.1.1.2.2.2.2.2.2.1
    refine jx_putI (pc := 49) jf_X5_261_12 rfl dX5_readLaw_49 rfl rfl (wis hw) (by decide) ?_
    obtain ⟨g3, g4⟩ := q_46.1.D (x := x_46) (Or.inr (Or.inl ⟨rfl, rfl⟩)) (sX_c q_46.2.2)
    have hS := g3.S
    have hR := g3.1.2.2.2.2.2.1
    have hT := g3.T
    refine jw_aload_n (pc := 52) dX5_readLaw_52 rfl ?_
    refine jx_getRs (pc := 53) (jf_X5_173_4.r) rfl dX5_readLaw_53 rfl (is_90 hS) (by decide) (hR) ?_
    refine jw_aload_n (pc := 56) dX5_readLaw_56 rfl ?_
    refine jw_ldcsW (pc := 57) (js_X5_263) rfl (by decide) dX5_readLaw_57 ?_
    refine jw_iconst (pc := 60) dX5_readLaw_60 ic_0 ?_
    refine jw_bipush (pc := 61) dX5_readLaw_61 bp_99 ?_
    refine jx_cVi (mi1 := mi_X5_readPart) (pc := 63) rfl dX5_readLaw_63 lk_X5_253 rfl fi_X5_readPart rfl rfl rfl (by decide) (is_90 hS) (t_X5_readPart hG g3 (hT 15 (by decide) (by decide))) (by first | decide | omega) rfl rfl (by simp only [List.map_cons, List.map_nil, List.sum_cons, List.sum_nil, cat_i, cat_l, jr_cat]; decide) ?_
    intro x_63 M_63 q_63
    have hw := q_63.1.1.2.2.2.2.2.2.1
    refine jx_putI (pc := 66) jf_X5_265_12 rfl dX5_readLaw_66 rfl rfl (wis hw) (by decide) ?_
    obtain ⟨g5, g6⟩ := q_63.1.D (x := x_63) (Or.inr (Or.inr (Or.inl ⟨rfl, rfl⟩))) (sX_c q_63.2.2)
    have hS := g5.S
    have hR := g5.1.2.2.2.2.2.1
    have hT := g5.T
    have hfx : jm_I (js_I M_63 w 129 x_63) w 129 = x_63 := jI_same
    refine jw_aload_n (pc := 69) dX5_readLaw_69 rfl ?_
    refine jx_getRs (pc := 70) (jf_X5_173_4.r) rfl dX5_readLaw_70 rfl (is_90 hS) (by decide) (hR) ?_
    refine jw_aload_n (pc := 73) dX5_readLaw_73 rfl ?_
    refine jw_ldcsW (pc := 74) (js_X5_267) rfl (by decide) dX5_readLaw_74 ?_
    refine jw_aload_n (pc := 77) dX5_readLaw_77 rfl ?_
    refine jx_getRs (pc := 78) (jf_X5_173_4.r) rfl dX5_readLaw_78 rfl (is_90 hS) (by decide) (hR) ?_
    refine jx_getIs (pc := 81) (jf_X5_265_12.r) rfl dX5_readLaw_81 rfl (wis hw) (by decide) (hfx) ?_
    refine jw_bipush (pc := 84) dX5_readLaw_84 bp_99 ?_
    refine jx_cVi (mi1 := mi_X5_readPart) (pc := 86) rfl dX5_readLaw_86 lk_X5_253 rfl fi_X5_readPart rfl rfl rfl (by decide) (is_90 hS) (t_X5_readPart hG g5 (hT 16 (by decide) (by decide))) (by first | decide | omega) rfl rfl (by simp only [List.map_cons, List.map_nil, List.sum_cons, List.sum_nil, cat_i, cat_l, jr_cat]; decide) ?_
    intro x_86 M_86 q_86
    have hw := q_86.1.1.2.2.2.2.2.2.1
    refine jx_putI (pc := 89) jf_X5_269_12 rfl dX5_readLaw_89 rfl rfl (wis hw) (by decide) ?_
    obtain ⟨g7, g8⟩ := q_86.1.D (x := x_86) (Or.inr (Or.inr (Or.inr ⟨rfl, rfl⟩))) (sX_c q_86.2.2)
    have hS := g7.S
    have hR := g7.1.2.2.2.2.2.1
    have hT := g7.T
    refine jw_aload_n (pc := 92) dX5_readLaw_92 rfl ?_
    refine jx_getRs (pc := 93) (jf_X5_173_4.r) rfl dX5_readLaw_93 rfl (is_90 hS) (by decide) (hR) ?_
    refine jw_aload_n (pc := 96) dX5_readLaw_96 rfl ?_
    refine jw_ldcsW (pc := 97) (js_X5_271) rfl (by decide) dX5_readLaw_97 ?_
    refine jw_iconst (pc := 100) dX5_readLaw_100 ic_1 ?_
    refine jw_bipush (pc := 101) dX5_readLaw_101 bp_99 ?_
    refine jx_cVi (mi1 := mi_X5_readPart) (pc := 103) rfl dX5_readLaw_103 lk_X5_253 rfl fi_X5_readPart rfl rfl rfl (by decide) (is_90 hS) (t_X5_readPart hG g7 (hT 17 (by decide) (by decide))) (by first | decide | omega) rfl rfl (by simp only [List.map_cons, List.map_nil, List.sum_cons, List.sum_nil, cat_i, cat_l, jr_cat]; decide) ?_
    intro x_103 M_103 q_103
    obtain ⟨hq, hkq, hval⟩ := q_103
    have hkk := (((((((((hk1.tr q_29.2.1).tr g2).tr q_46.2.1).tr g4).tr q_63.2.1).tr g6).tr q_86.2.1).tr g8).tr hkq)
    obtain ⟨lE, lO⟩ := ln_law (V := V) (p := p) rfl rfl rfl rfl rfl rfl q_29.2.2 q_46.2.2 q_63.2.2 q_86.2.2 hval
    generalize hs : sP _ (fun _ p => pAfter (chI σ n) n (kwc 17) (nI 1) (nI 99) p) = S7 at hq lE lO
    cases S7 with
    | error f => exact lp_lawE hq hkk (lE f rfl)
    | ok r =>
      obtain ⟨a, b, f, t, s, p2, z1, z2, z3, z4, z5⟩ := lO r rfl
      subst z4
      subst z1
      exact lp_lawO hq hkk z2 z5
  refine jT.of (by decide) rfl (Nat.le_of_ble_eq_true rfl) ?_
  cases h12 : decide (V 0 12 ≠ 0) with
  | true =>
    have hL := h.2.2.2.2.2.2.1
    rw [h12] at hL
    have e0 : decide (V 0 12 = 0) = false := decide_eq_false (of_decide_eq_true h12)
    refine jw_aload_n (pc := 0) dX5_readLaw_0 rfl ?_
    refine jx_getRs (pc := 1) (jf_X5_173_4.r) rfl dX5_readLaw_1 rfl (is_90 hS) (by decide) (hR) ?_
    refine jx_getIs (pc := 4) (jf_X5_214_12.r) rfl dX5_readLaw_4 rfl (wis hw) (by decide) (hL) ?_
    first | refine jx_ifb_eq (pc := 7) (tgt := 15) dX5_readLaw_7 (by decide) ?_ ?_ | refine jx_if_eq (pc := 7) (tgt := 15) dX5_readLaw_7 (by decide) (by omega) ?_ ?_ | refine jw_if_eq (pc := 7) (tgt := 15) dX5_readLaw_7 (by decide) ?_ ?_
    · intro h_7
      first | cases h_7 | exact absurd h_7 (by decide)
    · intro h_7
      refine jw_aload_n (pc := 10) dX5_readLaw_10 rfl ?_
      refine jw_iconst (pc := 11) dX5_readLaw_11 ic_3 ?_
      refine jx_cVv (mi1 := mi_X5_wrong) (pc := 12) rfl dX5_readLaw_12 lk_X5_131 rfl fi_X5_wrong rfl rfl rfl (by decide) (is_90 hS) (t_X5_wrong h (by decide)) (by first | decide | omega) rfl rfl (by decide) ?_
      intro M_12 q_12
      have hS := q_12.1.S
      refine jw_aload_n (pc := 15) dX5_readLaw_15 rfl ?_
      refine jx_cVv (mi1 := mi_X5_goesOn) (pc := 16) rfl dX5_readLaw_16 lk_X5_128 rfl fi_X5_goesOn rfl rfl rfl (by decide) (is_90 hS) (t_X5_goesOn q_12.1 (fun r q => by cases q)) (by first | decide | omega) rfl rfl (by decide) ?_
      intro M_16 q_16
      refine L19 _ ?_ (q_12.2.tr q_16.2)
      have e : sB (.ok (V, p)) (fun _ p => pBegin (chI σ n) n (decide (V 0 12 = 0)) 3 p) = .error (3, tkA (chI σ n) n p) := by rw [e0]; rfl
      rw [e]; exact q_16.1
  | false =>
    have hL := h.2.2.2.2.2.2.1
    rw [h12] at hL
    have e0 : decide (V 0 12 = 0) = true := decide_eq_true (Classical.byContradiction (fun q => of_decide_eq_false h12 q))
    refine jw_aload_n (pc := 0) dX5_readLaw_0 rfl ?_
    refine jx_getRs (pc := 1) (jf_X5_173_4.r) rfl dX5_readLaw_1 rfl (is_90 hS) (by decide) (hR) ?_
    refine jx_getIs (pc := 4) (jf_X5_214_12.r) rfl dX5_readLaw_4 rfl (wis hw) (by decide) (hL) ?_
    first | refine jx_ifb_eq (pc := 7) (tgt := 15) dX5_readLaw_7 (by decide) ?_ ?_ | refine jx_if_eq (pc := 7) (tgt := 15) dX5_readLaw_7 (by decide) (by omega) ?_ ?_ | refine jw_if_eq (pc := 7) (tgt := 15) dX5_readLaw_7 (by decide) ?_ ?_
    · intro h_7
      refine jw_aload_n (pc := 15) dX5_readLaw_15 rfl ?_
      refine jx_cVv (mi1 := mi_X5_goesOn) (pc := 16) rfl dX5_readLaw_16 lk_X5_128 rfl fi_X5_goesOn rfl rfl rfl (by decide) (is_90 hS) (t_X5_goesOn h (fun r q => by cases q; rw [hk]; decide)) (by first | decide | omega) rfl rfl (by decide) ?_
      intro M_16 q_16
      refine L19 _ ?_ q_16.2
      have e : sB (.ok (V, p)) (fun _ p => pBegin (chI σ n) n (decide (V 0 12 = 0)) 3 p) = .ok (V, tkE (chI σ n) n p) := by rw [e0]; rfl
      rw [e]; exact q_16.1
    · intro h_7
      first | cases h_7 | exact absurd h_7 (by decide)
end JLW
