/-! ===== x reads: the law, walls ===== -/
/-- the end of a line -/
def xL (M : Mm) (σ : Sg) (n v zb sb' : Nat) (R : Except Fl (Vt × Nat)) : Rs → Mm → Prop := jPt (fun r M' => r = none ∧ ∃ a, R = .ok a ∧ xRd M' σ n v a.1 a.2 (zb + 6) (sb' + 20) ∧ jsm (xE v) M M') (fun M' => ∃ f, R = .error f ∧ xFl M M' v f (zb + 6) (sb' + 20))
theorem xFl.b {M M' : Mm} {v : Nat} {f : Fl} {zb sb' zc sc : Nat} (h : xFl M M' v f zb sb') (h1 : zb ≤ zc) (h2 : sb' ≤ sc) : xFl M M' v f zc sc := ⟨h.1, h.2.1, h.2.2.1, h.2.2.2.1, ⟨by have := h.2.2.2.2.1.1; omega, by have := h.2.2.2.2.1.2; omega⟩, h.2.2.2.2.2⟩
theorem xFl.j {M M1 M' : Mm} {v : Nat} {f : Fl} {zb sb' : Nat} (h : xFl M1 M' v f zb sb') (g : jsm (xE v) M M1) : xFl M M' v f (zb + 6) (sb' + 20) := (h.tr g).b (by omega) (by omega)
theorem wf_8 {V : Vt} {x : Nat} (h : jWf V) (hx : x ≤ 19) : jWf (vS V 0 8 x) := by
  obtain ⟨a1, a2, a3, a4, a5, a6, a7, a8, a9, a10, a11, a12, a13, a14⟩ := h
  exact ⟨a1, a2, a3, a4, a5, a6, a7, a8, hx, a10, a11, a12, a13, a14⟩
theorem wf_9 {V : Vt} {x : Nat} (h : jWf V) (hx : x ≤ 19) : jWf (vS V 0 9 x) := by
  obtain ⟨a1, a2, a3, a4, a5, a6, a7, a8, a9, a10, a11, a12, a13, a14⟩ := h
  exact ⟨a1, a2, a3, a4, a5, a6, a7, a8, a9, hx, a11, a12, a13, a14⟩
theorem wf_10 {V : Vt} {x : Nat} (h : jWf V) (hx : x ≤ 99) : jWf (vS V 0 10 x) := by
  obtain ⟨a1, a2, a3, a4, a5, a6, a7, a8, a9, a10, a11, a12, a13, a14⟩ := h
  exact ⟨a1, a2, a3, a4, a5, a6, a7, a8, a9, a10, hx, a12, a13, a14⟩
theorem wf_11 {V : Vt} {x : Nat} (h : jWf V) (hx : x ≤ 99) : jWf (vS V 0 11 x) := by
  obtain ⟨a1, a2, a3, a4, a5, a6, a7, a8, a9, a10, a11, a12, a13, a14⟩ := h
  exact ⟨a1, a2, a3, a4, a5, a6, a7, a8, a9, a10, a11, hx, a13, a14⟩
theorem wf_12 {V : Vt} {x : Nat} (h : jWf V) (hx : x ≤ 99) : jWf (vS V 0 12 x) := by
  obtain ⟨a1, a2, a3, a4, a5, a6, a7, a8, a9, a10, a11, a12, a13, a14⟩ := h
  exact ⟨a1, a2, a3, a4, a5, a6, a7, a8, a9, a10, a11, a12, hx, a14⟩
section JXL
variable {G : Gh} {M : Mm} {σ : Sg} {n v p zb sb' : Nat} {V : Vt}
theorem xRd.b {zc sc : Nat} (h : xRd M σ n v V p zb sb') (h1 : zb ≤ zc) (h2 : sb' ≤ sc) : xRd M σ n v V p zc sc := ⟨⟨h.1.1, h.1.2.1, h.1.2.2.1, h.1.2.2.2.1, h.1.2.2.2.2.1, h.1.2.2.2.2.2.1, ⟨by have := h.1.2.2.2.2.2.2.1; omega, by have := h.1.2.2.2.2.2.2.2; omega⟩⟩, h.2⟩
theorem xRd.j (h : xRd M σ n v V p zb sb') : xRd M σ n v V p (zb + 6) (sb' + 20) := h.b (by omega) (by omega)
theorem xRd.T (h : xRd M σ n v V p zb sb') : jTk M := h.1.2.2.1
theorem jxv {x : Nat} {k : Nat} {y : Int32} (h : v ≤ x) : jsm (xE v) M (js_I M x k y) := jsm.I (Or.inr h)
theorem t_X2_law (hG : jGs G) (h : xRd M σ n v V p zb sb') : jT G mi_X2_law 10 [jr (some 66)] M (xL M σ n v zb sb' (lLaw (chI σ n) n V p)) := by
  have hS := h.S
  have hv := h.2.1.1
  have hst : jm_I M v 109 = nI (V 0 12) := h.2.1.2.1.2.2.2.2.2.2.2.2.2.2.2.2
  have h12 : V 0 12 ≤ 99 := h.2.2.2.1.2.2.2.2.2.2.2.2.2.2.2.2.1
  refine jT.of (by decide) rfl (Nat.le_of_ble_eq_true rfl) ?_
  by_cases hs : V 0 12 = 0
  · have eb : pBegin (chI σ n) n (decide (V 0 12 = 0)) 3 p = .ok (tkE (chI σ n) n p) := by rw [decide_eq_true hs]; rfl
    refine jw_aload_n (pc := 0) dX2_law_0 rfl ?_
    refine jw_aload_n (pc := 1) dX2_law_1 rfl ?_
    refine jx_getRs (pc := 2) (jf_X2_120_1.r) rfl dX2_law_2 rfl (is_66 hS) (by decide) (h.1.2.2.2.2.2.1) ?_
    refine jx_getIs (pc := 5) (jf_X2_153_5.r) rfl dX2_law_5 rfl (vis hv) (by decide) (hst) ?_
    first | refine jx_ifb_ne (pc := 8) (tgt := 15) dX2_law_8 (by decide) ?_ ?_ | refine jx_if_ne (pc := 8) (tgt := 15) dX2_law_8 (by decide) (by omega) ?_ ?_ | refine jw_if_ne (pc := 8) (tgt := 15) dX2_law_8 (by decide) ?_ ?_
    · intro h_8
      omega
    · intro h_8
      refine jw_iconst (pc := 11) dX2_law_11 ic_1 ?_
      refine jw_goto (pc := 12) (tgt := 16) dX2_law_12 (by decide) ?_
      refine jw_iconst (pc := 16) dX2_law_16 ic_3 ?_
      refine jx_cVt (mi1 := mi_X2_begins) (pc := 17) rfl dX2_law_17 lk_X2_181 rfl fi_X2_begins rfl rfl rfl (by decide) (is_66 hS) (t_X2_begins (b := true) (k := 3) hG h) (by first | decide | omega) rfl rfl (by decide) ?_ ?_
      rotate_left
      · intro M_17 q_17
        obtain ⟨f, e1, e2⟩ := q_17
        cases e1
      intro v_17 M_17 q_17
      obtain ⟨e0, p1, e1, e2, e3⟩ := q_17
      cases e0; cases e1
      clear hS
      have hS := e2.S
      have r1 := e2.1.2.2.2.2.2.1
      have g1 := e3.1
      dsimp only [Option.toList, List.nil_append, List.cons_append]
      refine jw_aload_n (pc := 20) dX2_law_20 rfl ?_
      refine jx_getRs (pc := 21) (jf_X2_120_1.r) rfl dX2_law_21 rfl (is_66 hS) (by decide) (r1) ?_
      refine jw_aload_n (pc := 24) dX2_law_24 rfl ?_
      refine jw_ldcs (pc := 25) (js_X2_185) rfl (by decide) dX2_law_25 ?_
      refine jw_iconst (pc := 27) dX2_law_27 ic_0 ?_
      refine jw_bipush (pc := 28) dX2_law_28 bp_19 ?_
      refine jx_cVt (mi1 := mi_X2_after) (pc := 30) rfl dX2_law_30 lk_X2_187 rfl fi_X2_after rfl rfl rfl (by decide) (is_66 hS) (t_X2_after hG e2 (e2.T 13 (by decide) (by decide))) (by first | decide | omega) rfl rfl (by simp only [List.map_cons, List.map_nil, List.sum_cons, List.sum_nil, cat_i, cat_l, jr_cat]; decide) ?_ ?_
      rotate_left
      · intro M_30 q_30
        obtain ⟨f, e4, e5⟩ := q_30
        refine jx_out67 rfl e5.2.2.2.1 ?_
        exact Or.inr ⟨rfl, f, by unfold lLaw; simp only [eb, e4, Except.bind], e5.j g1⟩
      intro v_30 M_30 q_30
      obtain ⟨a1, f1, e5, e6, e7⟩ := q_30
      cases e5
      clear hS hv
      have hS := e6.S
      have hv := e6.2.1.1
      have hx1 := pAfter_lt f1
      have g2 := g1.tr e7.1
      have b1 : a1.1 ≤ 19 := (inb_v (a := 0) (b := 19) hx1 (by decide) (by decide)).2
      have w1 : jWf (vS V 0 8 a1.1) := wf_8 h.2.2.2.1 b1
      have r1 := e6.law (i := 8) (x := a1.1) ⟨by decide, by decide⟩ w1
      have gg1 := g2.tr (jsm.I (E := xE v) (k := 97 + 8) (v := nI a1.1) (Or.inr (Nat.le_refl v)))
      dsimp only [Option.toList, List.nil_append, List.cons_append]
      refine jx_putI (pc := 33) jf_X2_191_5 rfl dX2_law_33 rfl rfl (vis hv) (by decide) ?_
      refine jw_aload_n (pc := 36) dX2_law_36 rfl ?_
      refine jx_getRs (pc := 37) (jf_X2_120_1.r) rfl dX2_law_37 rfl (is_66 hS) (by decide) ((r1).1.2.2.2.2.2.1) ?_
      refine jw_aload_n (pc := 40) dX2_law_40 rfl ?_
      refine jw_ldcs (pc := 41) (js_X2_193) rfl (by decide) dX2_law_41 ?_
      refine jw_iconst (pc := 43) dX2_law_43 ic_0 ?_
      refine jw_bipush (pc := 44) dX2_law_44 bp_19 ?_
      refine jx_cVt (mi1 := mi_X2_after) (pc := 46) rfl dX2_law_46 lk_X2_187 rfl fi_X2_after rfl rfl rfl (by decide) (is_66 hS) (t_X2_after hG r1 (r1.T 14 (by decide) (by decide))) (by first | decide | omega) rfl rfl (by simp only [List.map_cons, List.map_nil, List.sum_cons, List.sum_nil, cat_i, cat_l, jr_cat]; decide) ?_ ?_
      rotate_left
      · intro M_46 q_46
        obtain ⟨f, e4, e5⟩ := q_46
        refine jx_out67 rfl e5.2.2.2.1 ?_
        exact Or.inr ⟨rfl, f, by unfold lLaw; simp only [eb, f1, e4, Except.bind], e5.j gg1⟩
      intro v_46 M_46 q_46
      obtain ⟨a2, f2, e5, e6, e7⟩ := q_46
      cases e5
      clear hS hv
      have hS := e6.S
      have hv := e6.2.1.1
      have hx2 := pAfter_lt f2
      have g3 := gg1.tr e7.1
      have b2 : a2.1 ≤ 19 := (inb_v (a := 0) (b := 19) hx2 (by decide) (by decide)).2
      have w2 : jWf (vS (vS V 0 8 a1.1) 0 9 a2.1) := wf_9 w1 b2
      have r2 := e6.law (i := 9) (x := a2.1) ⟨by decide, by decide⟩ w2
      have gg2 := g3.tr (jsm.I (E := xE v) (k := 97 + 9) (v := nI a2.1) (Or.inr (Nat.le_refl v)))
      dsimp only [Option.toList, List.nil_append, List.cons_append]
      refine jx_putI (pc := 49) jf_X2_195_5 rfl dX2_law_49 rfl rfl (vis hv) (by decide) ?_
      refine jw_aload_n (pc := 52) dX2_law_52 rfl ?_
      refine jx_getRs (pc := 53) (jf_X2_120_1.r) rfl dX2_law_53 rfl (is_66 hS) (by decide) ((r2).1.2.2.2.2.2.1) ?_
      refine jw_aload_n (pc := 56) dX2_law_56 rfl ?_
      refine jw_ldcs (pc := 57) (js_X2_197) rfl (by decide) dX2_law_57 ?_
      refine jw_iconst (pc := 59) dX2_law_59 ic_0 ?_
      refine jw_bipush (pc := 60) dX2_law_60 bp_99 ?_
      refine jx_cVt (mi1 := mi_X2_after) (pc := 62) rfl dX2_law_62 lk_X2_187 rfl fi_X2_after rfl rfl rfl (by decide) (is_66 hS) (t_X2_after hG r2 (r2.T 15 (by decide) (by decide))) (by first | decide | omega) rfl rfl (by simp only [List.map_cons, List.map_nil, List.sum_cons, List.sum_nil, cat_i, cat_l, jr_cat]; decide) ?_ ?_
      rotate_left
      · intro M_62 q_62
        obtain ⟨f, e4, e5⟩ := q_62
        refine jx_out67 rfl e5.2.2.2.1 ?_
        exact Or.inr ⟨rfl, f, by unfold lLaw; simp only [eb, f1, f2, e4, Except.bind], e5.j gg2⟩
      intro v_62 M_62 q_62
      obtain ⟨a3, f3, e5, e6, e7⟩ := q_62
      cases e5
      clear hS hv
      have hS := e6.S
      have hv := e6.2.1.1
      have hx3 := pAfter_lt f3
      have g4 := gg2.tr e7.1
      have b3 : a3.1 ≤ 99 := (inb_v (a := 0) (b := 99) hx3 (by decide) (by decide)).2
      have w3 : jWf (vS (vS (vS V 0 8 a1.1) 0 9 a2.1) 0 10 a3.1) := wf_10 w2 b3
      have r3 := e6.law (i := 10) (x := a3.1) ⟨by decide, by decide⟩ w3
      have gg3 := g4.tr (jsm.I (E := xE v) (k := 97 + 10) (v := nI a3.1) (Or.inr (Nat.le_refl v)))
      dsimp only [Option.toList, List.nil_append, List.cons_append]
      refine jx_putI (pc := 65) jf_X2_199_5 rfl dX2_law_65 rfl rfl (vis hv) (by decide) ?_
      refine jw_aload_n (pc := 68) dX2_law_68 rfl ?_
      refine jx_getRs (pc := 69) (jf_X2_120_1.r) rfl dX2_law_69 rfl (is_66 hS) (by decide) ((r3).1.2.2.2.2.2.1) ?_
      refine jw_aload_n (pc := 72) dX2_law_72 rfl ?_
      refine jw_ldcs (pc := 73) (js_X2_201) rfl (by decide) dX2_law_73 ?_
      refine jw_aload_n (pc := 75) dX2_law_75 rfl ?_
      refine jx_getRs (pc := 76) (jf_X2_120_1.r) rfl dX2_law_76 rfl (is_66 hS) (by decide) (r3.1.2.2.2.2.2.1) ?_
      refine jx_getIs (pc := 79) (jf_X2_199_5.r) rfl dX2_law_79 rfl (vis hv) (by decide) (jI_same) ?_
      refine jw_bipush (pc := 82) dX2_law_82 bp_99 ?_
      refine jx_cVt (mi1 := mi_X2_after) (pc := 84) rfl dX2_law_84 lk_X2_187 rfl fi_X2_after rfl rfl rfl (by decide) (is_66 hS) (t_X2_after hG r3 (r3.T 16 (by decide) (by decide))) (by first | decide | omega) rfl rfl (by simp only [List.map_cons, List.map_nil, List.sum_cons, List.sum_nil, cat_i, cat_l, jr_cat]; decide) ?_ ?_
      rotate_left
      · intro M_84 q_84
        obtain ⟨f, e4, e5⟩ := q_84
        refine jx_out67 rfl e5.2.2.2.1 ?_
        exact Or.inr ⟨rfl, f, by unfold lLaw; simp only [eb, f1, f2, f3, e4, Except.bind], e5.j gg3⟩
      intro v_84 M_84 q_84
      obtain ⟨a4, f4, e5, e6, e7⟩ := q_84
      cases e5
      clear hS hv
      have hS := e6.S
      have hv := e6.2.1.1
      have hx4 := pAfter_lt f4
      have g5 := gg3.tr e7.1
      have b4 : a4.1 ≤ 99 := (inb_v (a := a3.1) (b := 99) hx4 (by omega) (by decide)).2
      have w4 : jWf (vS (vS (vS (vS V 0 8 a1.1) 0 9 a2.1) 0 10 a3.1) 0 11 a4.1) := wf_11 w3 b4
      have r4 := e6.law (i := 11) (x := a4.1) ⟨by decide, by decide⟩ w4
      have gg4 := g5.tr (jsm.I (E := xE v) (k := 97 + 11) (v := nI a4.1) (Or.inr (Nat.le_refl v)))
      dsimp only [Option.toList, List.nil_append, List.cons_append]
      refine jx_putI (pc := 87) jf_X2_203_5 rfl dX2_law_87 rfl rfl (vis hv) (by decide) ?_
      refine jw_aload_n (pc := 90) dX2_law_90 rfl ?_
      refine jx_getRs (pc := 91) (jf_X2_120_1.r) rfl dX2_law_91 rfl (is_66 hS) (by decide) ((r4).1.2.2.2.2.2.1) ?_
      refine jw_aload_n (pc := 94) dX2_law_94 rfl ?_
      refine jw_ldcs (pc := 95) (js_X2_205) rfl (by decide) dX2_law_95 ?_
      refine jw_iconst (pc := 97) dX2_law_97 ic_1 ?_
      refine jw_bipush (pc := 98) dX2_law_98 bp_99 ?_
      refine jx_cVt (mi1 := mi_X2_after) (pc := 100) rfl dX2_law_100 lk_X2_187 rfl fi_X2_after rfl rfl rfl (by decide) (is_66 hS) (t_X2_after hG r4 (r4.T 17 (by decide) (by decide))) (by first | decide | omega) rfl rfl (by simp only [List.map_cons, List.map_nil, List.sum_cons, List.sum_nil, cat_i, cat_l, jr_cat]; decide) ?_ ?_
      rotate_left
      · intro M_100 q_100
        obtain ⟨f, e4, e5⟩ := q_100
        refine jx_out67 rfl e5.2.2.2.1 ?_
        exact Or.inr ⟨rfl, f, by unfold lLaw; simp only [eb, f1, f2, f3, f4, e4, Except.bind], e5.j gg4⟩
      intro v_100 M_100 q_100
      obtain ⟨a5, f5, e5, e6, e7⟩ := q_100
      cases e5
      clear hS hv
      have hS := e6.S
      have hv := e6.2.1.1
      have hx5 := pAfter_lt f5
      have g6 := gg4.tr e7.1
      have b5 : a5.1 ≤ 99 := (inb_v (a := 1) (b := 99) hx5 (by decide) (by decide)).2
      have w5 : jWf (vS (vS (vS (vS (vS V 0 8 a1.1) 0 9 a2.1) 0 10 a3.1) 0 11 a4.1) 0 12 a5.1) := wf_12 w4 b5
      have r5 := e6.law (i := 12) (x := a5.1) ⟨by decide, by decide⟩ w5
      have gg5 := g6.tr (jsm.I (E := xE v) (k := 97 + 12) (v := nI a5.1) (Or.inr (Nat.le_refl v)))
      dsimp only [Option.toList, List.nil_append, List.cons_append]
      refine jx_putI (pc := 103) jf_X2_153_5 rfl dX2_law_103 rfl rfl (vis hv) (by decide) ?_
      refine jw_return (pc := 106) dX2_law_106 rfl ?_
      exact Or.inl ⟨_, rfl, rfl, ((vS (vS (vS (vS (vS V 0 8 a1.1) 0 9 a2.1) 0 10 a3.1) 0 11 a4.1) 0 12 a5.1), a5.2), by unfold lLaw; simp only [eb, f1, f2, f3, f4, f5, Except.bind], r5.j, gg5⟩
  · have eb : pBegin (chI σ n) n (decide (V 0 12 = 0)) 3 p = .error (3, tkA (chI σ n) n p) := by rw [decide_eq_false hs]; rfl
    refine jw_aload_n (pc := 0) dX2_law_0 rfl ?_
    refine jw_aload_n (pc := 1) dX2_law_1 rfl ?_
    refine jx_getRs (pc := 2) (jf_X2_120_1.r) rfl dX2_law_2 rfl (is_66 hS) (by decide) (h.1.2.2.2.2.2.1) ?_
    refine jx_getIs (pc := 5) (jf_X2_153_5.r) rfl dX2_law_5 rfl (vis hv) (by decide) (hst) ?_
    first | refine jx_ifb_ne (pc := 8) (tgt := 15) dX2_law_8 (by decide) ?_ ?_ | refine jx_if_ne (pc := 8) (tgt := 15) dX2_law_8 (by decide) (by omega) ?_ ?_ | refine jw_if_ne (pc := 8) (tgt := 15) dX2_law_8 (by decide) ?_ ?_
    · intro h_8
      refine jw_iconst (pc := 15) dX2_law_15 ic_0 ?_
      refine jw_iconst (pc := 16) dX2_law_16 ic_3 ?_
      refine jx_cVt (mi1 := mi_X2_begins) (pc := 17) rfl dX2_law_17 lk_X2_181 rfl fi_X2_begins rfl rfl rfl (by decide) (is_66 hS) (t_X2_begins (b := false) (k := 3) hG h) (by first | decide | omega) rfl rfl (by decide) ?_ ?_
      rotate_left
      · intro M_17 q_17
        obtain ⟨f, e1, e2⟩ := q_17
        cases e1
        refine jx_out67 rfl e2.2.2.2.1 ?_
        exact Or.inr ⟨rfl, _, by unfold lLaw; rw [eb]; rfl, e2.j jsm.rf⟩
      intro v_17 M_17 q_17
      obtain ⟨e0, p1, e1, e2, e3⟩ := q_17
      cases e1
    · intro h_8
      omega
end JXL
