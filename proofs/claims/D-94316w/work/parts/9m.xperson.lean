/-! ===== x reads: the person line ===== -/
section JXQ3
variable {G : Gh} {M : Mm} {σ : Sg} {n v p zb sb' : Nat} {V : Vt}
theorem xRd.hasw {M0 : Mm} {q hb o w k9 j k p0 z0 s0 : Nat} {x : Int32} {y : Option Nat} {L : List (Nat × Nat × Nat)} (h0 : xRd M0 σ n v V p0 z0 s0) (t : xT M0 M) (h : xRd M σ n v V p zb sb') (N : psN M q hb o w k9 L) (hZ : jm_Z M0 ≤ q) (hZb : jm_Z M0 ≤ hb) : xT M0 (js_I (js_C M hb j y) q k x) ∧ xRd (js_I (js_C M hb j y) q k x) σ n v V p zb sb' := by
  have hz0 := h0.1.1.2.2.2
  have g : jsm (fun a => a = q ∨ a = hb) M (js_I (js_C M hb j y) q k x) := (jsm.C (Or.inr rfl)).tr (jsm.I (Or.inl rfl))
  have hK : ∀ a, (a = q ∨ a = hb) → jm_K M a ≠ 14 ∧ jm_K M a ≠ 101 := fun a z => by
    rcases z with z | z <;> subst z
    · rw [N.1.1.1]; decide
    · rw [N.1.2.2.2.2.2.2.1.1]; decide
  have t1 : xT M0 (js_I (js_C M hb j y) q k x) := t.w g (fun a z => Or.inl (by omega)) (fun a z _ _ => hK a z)
  exact ⟨t1, h0.tt t1 (h.1.up g (fun a z => ⟨by omega, fun _ => hK a z⟩))⟩
theorem psK_B {bb : Nat} : psK (if bb = 0 then [] else [(8, 0, 0)]) 9 := by
  intro i h hi
  have hm := List.mem_of_getElem? hi
  split at hm
  · cases hm
  · rw [List.mem_singleton] at hm; subst hm; decide
theorem psK_BA {bb aw : Nat} : psK ((if bb = 0 then [] else [(8, 0, 0)]) ++ (if aw = 0 then [] else [(9, aw, 0)])) 10 := by
  intro i h hi
  have hm := List.mem_of_getElem? hi
  rw [List.mem_append] at hm
  rcases hm with hm | hm
  · split at hm
    · cases hm
    · rw [List.mem_singleton] at hm; subst hm; decide
  · split at hm
    · cases hm
    · rw [List.mem_singleton] at hm; subst hm; exact ⟨by show 8 ≤ 9; decide, by show 9 < 10; decide⟩
theorem len_B {bb : Nat} : (if bb = 0 then [] else [(8, 0, 0)]).length ≤ 1 := by split <;> decide
theorem len_BA {bb aw : Nat} : ((if bb = 0 then [] else [(8, 0, 0)]) ++ (if aw = 0 then [] else [(9, aw, 0)])).length ≤ 2 := by
  rw [List.length_append]
  split <;> split <;> simp
theorem lp_ps141 {M0 M9 : Mm} {q hb o at' bb aw p0 p9 z0 s0 : Nat} {wn : Nat × Nat} {x2 : Option Value} (hG : jGs G) (h0 : xRd M0 σ n v V p9 z0 s0) (t : xT M0 M) {f t9 : Nat} (h : xRd M σ n v V p (zb + 5) (sb' + 11)) (N : psN M q hb o wn.1 (V 0 1) ((if bb = 0 then [] else [(8, 0, 0)]) ++ ((if aw = 0 then [] else [(9, aw, 0)]) ++ (if t9 = 0 then [] else [(10, f, t9)])))) (haw : aw = 0 ∨ (2 ≤ aw ∧ aw ≤ 9)) (hf : f ≤ 99) (ht : t9 ≤ 99) (hft : f < t9 ∨ (f = 0 ∧ t9 = 0)) (hs : V 0 1 < 5) (hat : at' < V 0 0) (hbb : bb ≤ 1) (hu : ∀ k, k < V 0 13 → ¬ V 25 k = wn.1) (hvq : v ≤ q) (hvo : v ≤ o) (hZ : jm_Z M0 ≤ q) (hZb : jm_Z M0 ≤ hb) (i1 : jm_I M q 117 = nI at') (g : jsm (xE v) M9 M) (hR : lPerson (chI σ n) n V p0 = .ok (vPerson V wn.1 at' bb aw f t9, p)) : jW G mi_X2_person 10 M9 141 [some (jr (some 66)), some (jr (some q)), x2] [] M (xL M9 σ n v zb sb' (lPerson (chI σ n) n V p0)) := by
  have hS := h.S
  have hv := h.2.1.1
  have h104 := hv.2.1
  have hn := wf_nq h.2.2.2.1
  have c1 := xi_nq h.2.1
  have v1 := h.1.2.2.2.2.2.1
  have kp := N.1.1
  refine jw_aload_n (pc := 141) dX2_person_141 rfl ?_
  refine jx_getRs (pc := 142) (jf_X2_120_1.r) rfl dX2_person_142 rfl (is_66 hS) (by decide) (v1) ?_
  refine jx_getRs (pc := 145) jg_X2_278_5 rfl dX2_person_145 rfl (vis hv) (by decide) (vr_2 hv) ?_
  refine jw_aload_n (pc := 148) dX2_person_148 rfl ?_
  refine jx_getRs (pc := 149) (jf_X2_120_1.r) rfl dX2_person_149 rfl (is_66 hS) (by decide) (v1) ?_
  refine jx_getIs (pc := 152) (jf_X2_159_5.r) rfl dX2_person_152 rfl (vis hv) (by decide) (c1) ?_
  refine jw_aload_n (pc := 155) dX2_person_155 rfl ?_
  refine jw_aast (t := 6) (c := 7) (pc := 156)  (by decide) dX2_person_156 rfl (by omega) (vok_2 hv) rfl kp.1 (by decide) kp.2.2 kp.2.1 (r := _) rfl (Or.inl rfl) rfl (by rw [vnn_2 hv]; omega) ?_
  refine jw_aload_n (pc := 157) dX2_person_157 rfl ?_
  refine jx_getRs (pc := 158) (jf_X2_120_1.r) rfl dX2_person_158 rfl (is_66 hS) (by decide) (v1) ?_
  refine jw_dup (pc := 161) dX2_person_161 (jis2_r _) ?_
  refine jx_getIs (pc := 162) (jf_X2_159_5.r) rfl dX2_person_162 rfl (vis hv) (by decide) (c1) ?_
  refine jw_iconst (pc := 165) dX2_person_165 ic_1 ?_
  first | refine jx_iadd (pc := 166) dX2_person_166 ?_ | refine jw_iadd (pc := 166) dX2_person_166 ?_
  refine jx_putI (pc := 167) jf_X2_159_5 rfl dX2_person_167 rfl rfl (vis hv) (by decide) ?_
  refine jw_return (pc := 170) dX2_person_170 rfl ?_
  have hP := h.person hs hat hbb haw hf ht hft hu hvq hvo N i1
  exact Or.inl ⟨_, rfl, rfl, (vPerson V wn.1 at' bb aw f t9, p), hR, hP.b (by omega) (by omega), g.tr ((jsm.C (Or.inr (by omega))).tr (jsm.I (Or.inr (by omega))))⟩
theorem lp_ps101 {M0 M9 : Mm} {q hb o at' bb aw p0 p9 z0 s0 : Nat} {wn : Nat × Nat} (hG : jGs G) (h0 : xRd M0 σ n v V p9 z0 s0) (t : xT M0 M) (h : xRd M σ n v V p (zb + 4) (sb' + 9)) (N : psN M q hb o wn.1 (V 0 1) ((if bb = 0 then [] else [(8, 0, 0)]) ++ (if aw = 0 then [] else [(9, aw, 0)]))) (haw : aw = 0 ∨ (2 ≤ aw ∧ aw ≤ 9)) (hs : V 0 1 < 5) (hat : at' < V 0 0) (hbb : bb ≤ 1) (hu : ∀ k, k < V 0 13 → ¬ V 25 k = wn.1) (hvq : v ≤ q) (hvo : v ≤ o) (hZ : jm_Z M0 ≤ q) (hZb : jm_Z M0 ≤ hb) (i1 : jm_I M q 117 = nI at') (g : jsm (xE v) M9 M) (hR : lPerson (chI σ n) n V p0 = (pSleep (chI σ n) n p).bind (fun sl => .ok (vPerson V wn.1 at' bb aw sl.1 sl.2.1, sl.2.2))) : jW G mi_X2_person 10 M9 101 [some (jr (some 66)), some (jr (some q)), none] [] M (xL M9 σ n v zb sb' (lPerson (chI σ n) n V p0)) := by
  have hS := h.S
  have hv := h.2.1.1
  have h104 := hv.2.1
  have hzz := hS.2.2.2
  have hvb : v ≤ hb := by have := h0.2.1.1.2.2.1; omega
  cases hk : (pTakes (chI σ n) n (kwc 9) p).1 with
  | false =>
    refine jw_aload_n (pc := 101) dX2_person_101 rfl ?_
    refine jw_ldcs (pc := 102) (js_X2_109) rfl (by decide) dX2_person_102 ?_
    refine jx_cVi (mi1 := mi_X2_takes) (pc := 104) rfl dX2_person_104 lk_X2_82 rfl fi_X2_takes rfl rfl rfl (by decide) (is_66 hS) (t_X2_takes hG h (h.T 9 (by decide) (by decide))) (by first | decide | omega) rfl rfl (by decide) ?_
    intro x_104 M_104 q_104
    rw [hk] at q_104
    obtain ⟨e3, e4, e5⟩ := q_104
    subst e3
    first | refine jx_ifb_eq (pc := 107) (tgt := 141) dX2_person_107 (by decide) ?_ ?_ | refine jx_if_eq (pc := 107) (tgt := 141) dX2_person_107 (by decide) (by omega) ?_ ?_ | refine jw_if_eq (pc := 107) (tgt := 141) dX2_person_107 (by decide) ?_ ?_
    · intro h_107
      obtain ⟨N1, j1⟩ := N.S psK_BA (by decide) e5
      exact lp_ps141 (f := 0) (t9 := 0) hG h0 (t.S e5) (e4.b (by omega) (by omega)) (by rw [if_pos (rfl : (0 : Nat) = 0), List.append_nil]; exact N1) haw (by decide) (by decide) (Or.inr ⟨rfl, rfl⟩) hs hat hbb hu hvq hvo hZ hZb ((j1.2.2.1 _).trans i1) (g.tr e5.1) (by rw [hR]; unfold pSleep; rw [hk, if_neg (by decide)]; unfold pTakes at hk ⊢; split at hk; cases hk; rename_i z; rw [if_neg z]; rfl)
    · intro h_107
      first | cases h_107 | exact absurd h_107 (by decide)
  | true =>
    refine jw_aload_n (pc := 101) dX2_person_101 rfl ?_
    refine jw_ldcs (pc := 102) (js_X2_109) rfl (by decide) dX2_person_102 ?_
    refine jx_cVi (mi1 := mi_X2_takes) (pc := 104) rfl dX2_person_104 lk_X2_82 rfl fi_X2_takes rfl rfl rfl (by decide) (is_66 hS) (t_X2_takes hG h (h.T 9 (by decide) (by decide))) (by first | decide | omega) rfl rfl (by decide) ?_
    intro x_104 M_104 q_104
    rw [hk] at q_104
    obtain ⟨e3, e4, e5⟩ := q_104
    subst e3
    obtain ⟨N1, j1⟩ := N.S psK_BA (by decide) e5
    have t1 := t.S e5
    have g1 := g.tr e5.1
    clear hS hv
    have hS := e4.S
    have hv := e4.2.1.1
    first | refine jx_ifb_eq (pc := 107) (tgt := 141) dX2_person_107 (by decide) ?_ ?_ | refine jx_if_eq (pc := 107) (tgt := 141) dX2_person_107 (by decide) (by omega) ?_ ?_ | refine jw_if_eq (pc := 107) (tgt := 141) dX2_person_107 (by decide) ?_ ?_
    · intro h_107
      first | cases h_107 | exact absurd h_107 (by decide)
    · intro h_107
      refine jw_aload_n (pc := 110) dX2_person_110 rfl ?_
      refine jw_iconst (pc := 111) dX2_person_111 ic_0 ?_
      refine jw_bipush (pc := 112) dX2_person_112 bp_99 ?_
      refine jx_cVt (mi1 := mi_X2_number) (pc := 114) rfl dX2_person_114 lk_X2_146 rfl fi_X2_number rfl rfl rfl (by decide) (is_66 hS) (t_X2_number hG e4) (by first | decide | omega) rfl rfl (by decide) ?_ ?_
      rotate_left
      · intro M_114 q_114
        obtain ⟨f, e6, e7⟩ := q_114
        refine jx_out67 rfl e7.2.2.2.1 ?_
        exact Or.inr ⟨rfl, f, by rw [hR]; unfold pSleep; rw [if_pos hk]; simp only [e6, Except.bind], (e7.tr g1).b (by omega) (by omega)⟩
      intro v_114 M_114 q_114
      obtain ⟨a1, f1, e6, e7, e8⟩ := q_114
      cases e6
      obtain ⟨N2, j2⟩ := N1.S psK_BA (by decide) e8
      have t2 := t1.S e8
      have b1 := (inb_v (a := 0) (b := 99) (pNum_lt f1) (by decide) (by decide)).2
      have r2 := h0.tt t2.nw (e7.1.nw (c := 11) (k := 0) (s := 2))
      obtain ⟨N3, j3⟩ := N2.nw (c := 11) (s := 2) e7.S psK_BA (by decide)
      have hz2 := e7.1.1.2.2.2
      have vz2 := e7.2.1.1.2.2.1
      have kp : jis (js_new M_114 11 0 2) (jm_Z M_114) 10 := ⟨by rw [jK_n, if_pos rfl], by rw [jZ_n]; omega, by omega⟩
      have z2 := t2.1
      have g2 := g1.tr (e8.1.tr (jsm.n (E := xE v) (c := 11) (n := 0) (s := 2) (Or.inl (Or.inl rfl))))
      clear hS hv
      have hS := e7.S
      have hv := e7.2.1.1
      dsimp only [Option.toList, List.nil_append, List.cons_append]
      refine jw_istore_n (pc := 117) dX2_person_117 (Nat.le_of_ble_eq_true rfl) rfl ?_
      try dsimp only [jput1, jput2, jkill, jclr, jis2_i, jis2_l, jis2_rs, jis2_rn, cond]
      refine jw_aload_n (pc := 118) dX2_person_118 rfl ?_
      refine jw_new (pc := 119) jn_X2_273 rfl (by decide) dX2_person_119 ?_
      clear hS hv
      have hS := r2.S
      have hv := r2.2.1.1
      refine jw_dup (pc := 122) dX2_person_122 (jis2_r _) ?_
      refine jw_iload_n (pc := 123) dX2_person_123 rfl ?_
      refine jw_aload_n (pc := 124) dX2_person_124 rfl ?_
      refine jw_ldcs (pc := 125) (js_X2_201) rfl (by decide) dX2_person_125 ?_
      refine jw_iload_n (pc := 127) dX2_person_127 rfl ?_
      refine jw_iconst (pc := 128) dX2_person_128 ic_1 ?_
      first | refine jx_iadd (pc := 129) dX2_person_129 ?_ | refine jw_iadd (pc := 129) dX2_person_129 ?_
      refine jw_bipush (pc := 130) dX2_person_130 bp_99 ?_
      refine jx_cVt (mi1 := mi_X2_after) (pc := 132) rfl dX2_person_132 lk_X2_187 rfl fi_X2_after rfl rfl rfl (by decide) (is_66 hS) (t_X2_after hG r2 (r2.T 16 (by decide) (by decide))) (by first | decide | omega) rfl rfl (by simp only [List.map_cons, List.map_nil, List.sum_cons, List.sum_nil, cat_i, cat_l, jr_cat]; decide) ?_ ?_
      rotate_left
      · intro M_132 q_132
        obtain ⟨f, e6, e9⟩ := q_132
        refine jx_out67 rfl e9.2.2.2.1 ?_
        exact Or.inr ⟨rfl, f, by rw [hR]; unfold pSleep; rw [if_pos hk]; simp only [f1, e6, Except.bind], (e9.tr g2).b (by omega) (by omega)⟩
      intro v_132 M_132 q_132
      obtain ⟨a2, f2, e6, e10, e11⟩ := q_132
      cases e6
      obtain ⟨N4, j4⟩ := N3.S psK_BA (by decide) e11
      obtain ⟨jo, kp⟩ := e11.o kp (by omega) (by decide)
      have b2 := inb_v (a := a1.1 + 1) (b := 99) (pAfter_lt f2) (by omega) (by decide)
      obtain ⟨t5, r5⟩ := h0.qI (k := 119) (x := nI a1.1) (t2.nw.S e11) e10 kp (by decide) (by omega)
      obtain ⟨t6, r6⟩ := h0.qI (k := 120) (x := nI a2.1) t5 r5 kp (by decide) (by omega)
      obtain ⟨N5, j5⟩ := N4.b (j := 119) (x := nI a1.1) psK_BA (by decide) kp (by decide)
      obtain ⟨N6, j6⟩ := N5.b (j := 120) (x := nI a2.1) psK_BA (by decide) kp (by decide)
      have hh : jHab (js_I (js_I M_132 (jm_Z M_114) 119 (nI a1.1)) (jm_Z M_114) 120 (nI a2.1)) (jm_Z M_114) (10, a1.1, a2.1) := ⟨kp, fun z => absurd z (by show ¬ 10 = 9; decide), fun _ => ⟨by rw [jI_ne (by decide)]; exact jI_same, jI_same⟩⟩
      have g3 := g2.tr (e11.1.tr ((jsm.I (E := xE v) (a := jm_Z M_114) (k := 119) (v := nI a1.1) (Or.inr (by omega))).tr (jsm.I (a := jm_Z M_114) (k := 120) (v := nI a2.1) (Or.inr (by omega)))))
      clear hS hv
      have hS := e10.S
      have hv := e10.2.1.1
      dsimp only [Option.toList, List.nil_append, List.cons_append]
      refine jx_cIEv (mi1 := mi_X12_init) (pc := 135) rfl dX2_person_135 q900 q171 q901 q902 rfl rfl rfl fi_X12_init (t_X12_init kp) (by first | decide | omega) rfl rfl (by simp only [List.map_cons, List.map_nil, List.sum_cons, List.sum_nil, cat_i, cat_l, jr_cat]; decide) ?_
      refine jx_cVEv (mi1 := mi_X9_has) (pc := 138) rfl dX2_person_138 lk_X2_264 rfl fi_X9_has rfl rfl rfl (by decide) (N6.1.1) (t_X9_hasL N6.1.1 (by have := len_BA (bb := bb) (aw := aw); omega) N6.2.1 N6.1.2.2.2.2.2.1 N6.1.2.2.2.2.2.2.1 N6.1.2.2.2.2.2.2.2.1 N6.1.2.2.2.2.2.2.2.2 hh.1) (by first | decide | omega) rfl rfl (by decide) ?_
      have N7 := N6.has hh (by omega) (fun i x hi => (psK.add (h1 := (10, a1.1, a2.1)) psK_BA (Nat.le_refl 10) (by decide) rfl i x hi).1)
      obtain ⟨t8, r8⟩ := h0.hasw (j := ((if bb = 0 then [] else [(8, 0, 0)]) ++ (if aw = 0 then [] else [(9, aw, 0)])).length) (k := 116) (x := nI (((if bb = 0 then [] else [(8, 0, 0)]) ++ (if aw = 0 then [] else [(9, aw, 0)])).length + 1)) (y := some (jm_Z M_114)) t6 r6 N6 hZ hZb
      have i8 := (jI_ne (M := js_C (js_I (js_I M_132 (jm_Z M_114) 119 (nI a1.1)) (jm_Z M_114) 120 (nI a2.1)) hb ((if bb = 0 then [] else [(8, 0, 0)]) ++ (if aw = 0 then [] else [(9, aw, 0)])).length (some (jm_Z M_114))) (a := q) (k := 116) (j := 117) (x := nI (((if bb = 0 then [] else [(8, 0, 0)]) ++ (if aw = 0 then [] else [(9, aw, 0)])).length + 1)) (by decide)).trans ((j6.2.2.1 _).trans ((j5.2.2.1 _).trans ((j4.2.2.1 _).trans ((j3.2.2.1 _).trans ((j2.2.2.1 _).trans ((j1.2.2.1 _).trans i1))))))
      exact lp_ps141 (f := a1.1) (t9 := a2.1) hG h0 t8 (r8.b (by omega) (by omega)) (by rw [if_neg (show ¬ a2.1 = 0 by omega), ← List.append_assoc]; exact N7) haw b1 b2.2 (Or.inl (by omega)) hs hat hbb hu hvq hvo hZ hZb i8 (g3.tr ((jsm.C (Or.inr (by omega))).tr (jsm.I (Or.inr hvq)))) (by rw [hR]; unfold pSleep; rw [if_pos hk]; simp only [f1, f2, Except.bind])
theorem lp_ps74 {M0 M9 : Mm} {q hb o at' bb  p0 p9 z0 s0 : Nat} {wn : Nat × Nat} (hG : jGs G) (h0 : xRd M0 σ n v V p9 z0 s0) (t : xT M0 M) (h : xRd M σ n v V p (zb + 3) (sb' + 8)) (N : psN M q hb o wn.1 (V 0 1) (if bb = 0 then [] else [(8, 0, 0)])) (hs : V 0 1 < 5) (hat : at' < V 0 0) (hbb : bb ≤ 1) (hu : ∀ k, k < V 0 13 → ¬ V 25 k = wn.1) (hvq : v ≤ q) (hvo : v ≤ o) (hZ : jm_Z M0 ≤ q) (hZb : jm_Z M0 ≤ hb) (i1 : jm_I M q 117 = nI at') (g : jsm (xE v) M9 M) (hR : lPerson (chI σ n) n V p0 = (pOpt (chI σ n) n (kwc 8) (pNum (chI σ n) n (nI 2) (nI 9)) p).bind (fun aw => (pSleep (chI σ n) n aw.2).bind (fun sl => .ok (vPerson V wn.1 at' bb aw.1 sl.1 sl.2.1, sl.2.2)))) : jW G mi_X2_person 10 M9 74 [some (jr (some 66)), some (jr (some q)), none] [] M (xL M9 σ n v zb sb' (lPerson (chI σ n) n V p0)) := by
  have hS := h.S
  have hv := h.2.1.1
  have h104 := hv.2.1
  have hzz := hS.2.2.2
  have hvb : v ≤ hb := by have := h0.2.1.1.2.2.1; omega
  cases hk : (pTakes (chI σ n) n (kwc 8) p).1 with
  | false =>
    refine jw_aload_n (pc := 74) dX2_person_74 rfl ?_
    refine jw_ldcs (pc := 75) (js_X2_107) rfl (by decide) dX2_person_75 ?_
    refine jx_cVi (mi1 := mi_X2_takes) (pc := 77) rfl dX2_person_77 lk_X2_82 rfl fi_X2_takes rfl rfl rfl (by decide) (is_66 hS) (t_X2_takes hG h (h.T 8 (by decide) (by decide))) (by first | decide | omega) rfl rfl (by decide) ?_
    intro x_77 M_77 q_77
    rw [hk] at q_77
    obtain ⟨e3, e4, e5⟩ := q_77
    subst e3
    first | refine jx_ifb_eq (pc := 80) (tgt := 101) dX2_person_80 (by decide) ?_ ?_ | refine jx_if_eq (pc := 80) (tgt := 101) dX2_person_80 (by decide) (by omega) ?_ ?_ | refine jw_if_eq (pc := 80) (tgt := 101) dX2_person_80 (by decide) ?_ ?_
    · intro h_80
      obtain ⟨N1, j1⟩ := N.S psK_B (by decide) e5
      exact lp_ps101 (aw := 0) hG h0 (t.S e5) (e4.b (by omega) (by omega)) (by rw [if_pos (rfl : (0 : Nat) = 0), List.append_nil]; exact N1) (Or.inl rfl) hs hat hbb hu hvq hvo hZ hZb ((j1.2.2.1 _).trans i1) (g.tr e5.1) (by rw [hR]; unfold pOpt; rw [hk, if_neg (by decide)]; unfold pTakes at hk ⊢; split at hk; cases hk; rename_i z; rw [if_neg z]; rfl)
    · intro h_80
      first | cases h_80 | exact absurd h_80 (by decide)
  | true =>
    refine jw_aload_n (pc := 74) dX2_person_74 rfl ?_
    refine jw_ldcs (pc := 75) (js_X2_107) rfl (by decide) dX2_person_75 ?_
    refine jx_cVi (mi1 := mi_X2_takes) (pc := 77) rfl dX2_person_77 lk_X2_82 rfl fi_X2_takes rfl rfl rfl (by decide) (is_66 hS) (t_X2_takes hG h (h.T 8 (by decide) (by decide))) (by first | decide | omega) rfl rfl (by decide) ?_
    intro x_77 M_77 q_77
    rw [hk] at q_77
    obtain ⟨e3, e4, e5⟩ := q_77
    subst e3
    obtain ⟨N2, j2⟩ := N.S psK_B (by decide) e5
    have t2 := t.S e5
    have g1 := g.tr e5.1
    have r2 := h0.tt t2.nw (e4.1.nw (c := 10) (k := 0) (s := 1))
    obtain ⟨N3, j3⟩ := N2.nw (c := 10) (s := 1) e4.S psK_B (by decide)
    have hz2 := e4.1.1.2.2.2
    have vz2 := e4.2.1.1.2.2.1
    have kp : jis (js_new M_77 10 0 1) (jm_Z M_77) 9 := ⟨by rw [jK_n, if_pos rfl], by rw [jZ_n]; omega, by omega⟩
    have z2 := t2.1
    have g2 := g1.tr (jsm.n (E := xE v) (c := 10) (n := 0) (s := 1) (Or.inl (Or.inl rfl)))
    clear hS hv
    have hS := e4.S
    have hv := e4.2.1.1
    first | refine jx_ifb_eq (pc := 80) (tgt := 101) dX2_person_80 (by decide) ?_ ?_ | refine jx_if_eq (pc := 80) (tgt := 101) dX2_person_80 (by decide) (by omega) ?_ ?_ | refine jw_if_eq (pc := 80) (tgt := 101) dX2_person_80 (by decide) ?_ ?_
    · intro h_80
      first | cases h_80 | exact absurd h_80 (by decide)
    · intro h_80
      refine jw_aload_n (pc := 83) dX2_person_83 rfl ?_
      refine jw_new (pc := 84) jn_X2_268 rfl (by decide) dX2_person_84 ?_
      clear hS hv
      have hS := r2.S
      have hv := r2.2.1.1
      refine jw_dup (pc := 87) dX2_person_87 (jis2_r _) ?_
      refine jw_aload_n (pc := 88) dX2_person_88 rfl ?_
      refine jw_iconst (pc := 89) dX2_person_89 ic_2 ?_
      refine jw_bipush (pc := 90) dX2_person_90 bp_9 ?_
      refine jx_cVt (mi1 := mi_X2_number) (pc := 92) rfl dX2_person_92 lk_X2_146 rfl fi_X2_number rfl rfl rfl (by decide) (is_66 hS) (t_X2_number hG r2) (by first | decide | omega) rfl rfl (by simp only [List.map_cons, List.map_nil, List.sum_cons, List.sum_nil, cat_i, cat_l, jr_cat]; decide) ?_ ?_
      rotate_left
      · intro M_92 q_92
        obtain ⟨f, e6, e9⟩ := q_92
        refine jx_out67 rfl e9.2.2.2.1 ?_
        exact Or.inr ⟨rfl, f, by rw [hR]; unfold pOpt; rw [if_pos hk]; simp only [e6, Except.bind], (e9.tr g2).b (by omega) (by omega)⟩
      intro v_92 M_92 q_92
      obtain ⟨a2, f2, e6, e10, e11⟩ := q_92
      cases e6
      obtain ⟨N4, j4⟩ := N3.S psK_B (by decide) e11
      obtain ⟨jo, kp⟩ := e11.o kp (by omega) (by decide)
      have b2 := inb_v (a := 2) (b := 9) (pNum_lt f2) (by decide) (by decide)
      obtain ⟨t6, r6⟩ := h0.qI (k := 118) (x := nI a2.1) (t2.nw.S e11) e10 kp (by decide) (by omega)
      obtain ⟨N6, j6⟩ := N4.b (j := 118) (x := nI a2.1) psK_B (by decide) kp (by decide)
      have hh : jHab (js_I M_92 (jm_Z M_77) 118 (nI a2.1)) (jm_Z M_77) (9, a2.1, 0) := ⟨kp, fun _ => jI_same, fun z => absurd z (by show ¬ 9 = 10; decide)⟩
      have g3 := g2.tr (e11.1.tr (jsm.I (E := xE v) (a := jm_Z M_77) (k := 118) (v := nI a2.1) (Or.inr (by omega))))
      clear hS hv
      have hS := e10.S
      have hv := e10.2.1.1
      dsimp only [Option.toList, List.nil_append, List.cons_append]
      refine jx_cIEv (mi1 := mi_X11_init) (pc := 95) rfl dX2_person_95 q890 q170 q891 q892 rfl rfl rfl fi_X11_init (t_X11_init kp) (by first | decide | omega) rfl rfl (by simp only [List.map_cons, List.map_nil, List.sum_cons, List.sum_nil, cat_i, cat_l, jr_cat]; decide) ?_
      refine jx_cVEv (mi1 := mi_X9_has) (pc := 98) rfl dX2_person_98 lk_X2_264 rfl fi_X9_has rfl rfl rfl (by decide) (N6.1.1) (t_X9_hasA N6.1.1 (by have := len_B (bb := bb); omega) N6.2.1 N6.1.2.2.2.2.2.1 N6.1.2.2.2.2.2.2.1 N6.1.2.2.2.2.2.2.2.1 N6.1.2.2.2.2.2.2.2.2 hh.1) (by first | decide | omega) rfl rfl (by decide) ?_
      have N7 := N6.has hh (by omega) (fun i x hi => (psK.add (h1 := (9, a2.1, 0)) psK_B (Nat.le_refl 9) (by decide) rfl i x hi).1)
      obtain ⟨t8, r8⟩ := h0.hasw (j := ((if bb = 0 then [] else [(8, 0, 0)])).length) (k := 116) (x := nI (((if bb = 0 then [] else [(8, 0, 0)])).length + 1)) (y := some (jm_Z M_77)) t6 r6 N6 hZ hZb
      have i8 := (jI_ne (M := js_C (js_I M_92 (jm_Z M_77) 118 (nI a2.1)) hb ((if bb = 0 then [] else [(8, 0, 0)])).length (some (jm_Z M_77))) (a := q) (k := 116) (j := 117) (x := nI (((if bb = 0 then [] else [(8, 0, 0)])).length + 1)) (by decide)).trans ((j6.2.2.1 _).trans ((j4.2.2.1 _).trans ((j3.2.2.1 _).trans ((j2.2.2.1 _).trans i1))))
      exact lp_ps101 (aw := a2.1) hG h0 t8 (r8.b (by omega) (by omega)) (by rw [if_neg (show ¬ a2.1 = 0 by omega)]; exact N7) (Or.inr b2) hs hat hbb hu hvq hvo hZ hZb i8 (g3.tr ((jsm.C (Or.inr (by omega))).tr (jsm.I (Or.inr hvq)))) (by rw [hR]; unfold pOpt; rw [if_pos hk]; simp only [f2, Except.bind])
theorem psK_0 : psK [] 9 := fun i h hi => by cases hi
theorem psN.pl {q hb o w k m : Nat} {x : Int32} {L : List (Nat × Nat × Nat)} (h : psN M q hb o w k L) (hL : psK L m) (hm : m ≤ 11) : psN (js_I M q 117 x) q hb o w k L := by
  obtain ⟨⟨e1, e2, e3, e4, e5, e6, e7, e8, e9⟩, e10, e11⟩ := h
  refine ⟨⟨e1, e2, (jI_ne (by decide)).trans e3, e4, e5.fr (E := fun a => a = q) (jsm.I rfl) (fun a z _ _ => by subst z; rw [e1.1]; decide), e6, e7, e8, e9⟩, (jI_ne (by decide)).trans e10, fun i h hi => ?_⟩
  obtain ⟨ob, b1, b2, b3⟩ := e11 i h hi
  have hk := hL i h hi
  exact ⟨ob, b1, b2.al (jal_I ob (fun z => by have := b2.1.1; rw [z, e1.1] at this; omega)) (Nat.le_refl _), b3⟩
theorem lp_ps54 {M0 M9 : Mm} {q hb o at'  p0 p9 z0 s0 : Nat} {wn : Nat × Nat} (hG : jGs G) (h0 : xRd M0 σ n v V p9 z0 s0) (t : xT M0 M) (h : xRd M σ n v V p (zb + 2) (sb' + 8)) (N : psN M q hb o wn.1 (V 0 1) []) (hs : V 0 1 < 5) (hat : at' < V 0 0) (hu : ∀ k, k < V 0 13 → ¬ V 25 k = wn.1) (hvq : v ≤ q) (hvo : v ≤ o) (hZ : jm_Z M0 ≤ q) (hZb : jm_Z M0 ≤ hb) (i1 : jm_I M q 117 = nI at') (g : jsm (xE v) M9 M) (hR : lPerson (chI σ n) n V p0 = (pOpt (chI σ n) n (kwc 8) (pNum (chI σ n) n (nI 2) (nI 9)) (pTakes (chI σ n) n (kwc 7) p).2).bind (fun aw => (pSleep (chI σ n) n aw.2).bind (fun sl => .ok (vPerson V wn.1 at' (pTakes (chI σ n) n (kwc 7) p).1.toNat aw.1 sl.1 sl.2.1, sl.2.2)))) : jW G mi_X2_person 10 M9 54 [some (jr (some 66)), some (jr (some q)), none] [] M (xL M9 σ n v zb sb' (lPerson (chI σ n) n V p0)) := by
  have hS := h.S
  have hv := h.2.1.1
  have h104 := hv.2.1
  have hzz := hS.2.2.2
  have hvb : v ≤ hb := by have := h0.2.1.1.2.2.1; omega
  cases hk : (pTakes (chI σ n) n (kwc 7) p).1 with
  | false =>
    refine jw_aload_n (pc := 54) dX2_person_54 rfl ?_
    refine jw_ldcs (pc := 55) (js_X2_105) rfl (by decide) dX2_person_55 ?_
    refine jx_cVi (mi1 := mi_X2_takes) (pc := 57) rfl dX2_person_57 lk_X2_82 rfl fi_X2_takes rfl rfl rfl (by decide) (is_66 hS) (t_X2_takes hG h (h.T 7 (by decide) (by decide))) (by first | decide | omega) rfl rfl (by decide) ?_
    intro x_57 M_57 q_57
    rw [hk] at q_57
    obtain ⟨e3, e4, e5⟩ := q_57
    subst e3
    first | refine jx_ifb_eq (pc := 60) (tgt := 74) dX2_person_60 (by decide) ?_ ?_ | refine jx_if_eq (pc := 60) (tgt := 74) dX2_person_60 (by decide) (by omega) ?_ ?_ | refine jw_if_eq (pc := 60) (tgt := 74) dX2_person_60 (by decide) ?_ ?_
    · intro h_60
      obtain ⟨N1, j1⟩ := N.S psK_0 (by decide) e5
      exact lp_ps74 (bb := 0) hG h0 (t.S e5) (e4.b (by omega) (by omega)) (by rw [if_pos (rfl : (0 : Nat) = 0)]; exact N1) hs hat (by decide) hu hvq hvo hZ hZb ((j1.2.2.1 _).trans i1) (g.tr e5.1) (by rw [hR, hk]; rfl)
    · intro h_60
      first | cases h_60 | exact absurd h_60 (by decide)
  | true =>
    refine jw_aload_n (pc := 54) dX2_person_54 rfl ?_
    refine jw_ldcs (pc := 55) (js_X2_105) rfl (by decide) dX2_person_55 ?_
    refine jx_cVi (mi1 := mi_X2_takes) (pc := 57) rfl dX2_person_57 lk_X2_82 rfl fi_X2_takes rfl rfl rfl (by decide) (is_66 hS) (t_X2_takes hG h (h.T 7 (by decide) (by decide))) (by first | decide | omega) rfl rfl (by decide) ?_
    intro x_57 M_57 q_57
    rw [hk] at q_57
    obtain ⟨e3, e4, e5⟩ := q_57
    subst e3
    obtain ⟨N2, j2⟩ := N.S psK_0 (by decide) e5
    have t2 := t.S e5
    have g1 := g.tr e5.1
    have r2 := h0.tt t2.nw (e4.1.nw (c := 9) (k := 0) (s := 0))
    obtain ⟨N3, j3⟩ := N2.nw (c := 9) (s := 0) e4.S psK_0 (by decide)
    have hz2 := e4.1.1.2.2.2
    have vz2 := e4.2.1.1.2.2.1
    have kp : jis (js_new M_57 9 0 0) (jm_Z M_57) 8 := ⟨by rw [jK_n, if_pos rfl], by rw [jZ_n]; omega, by omega⟩
    have z2 := t2.1
    have g2 := g1.tr (jsm.n (E := xE v) (c := 9) (n := 0) (s := 0) (Or.inl (Or.inl rfl)))
    have hh : jHab (js_new M_57 9 0 0) (jm_Z M_57) (8, 0, 0) := ⟨kp, fun z => absurd z (by show ¬ 8 = 9; decide), fun z => absurd z (by show ¬ 8 = 10; decide)⟩
    clear hS hv
    have hS := e4.S
    have hv := e4.2.1.1
    first | refine jx_ifb_eq (pc := 60) (tgt := 74) dX2_person_60 (by decide) ?_ ?_ | refine jx_if_eq (pc := 60) (tgt := 74) dX2_person_60 (by decide) (by omega) ?_ ?_ | refine jw_if_eq (pc := 60) (tgt := 74) dX2_person_60 (by decide) ?_ ?_
    · intro h_60
      first | cases h_60 | exact absurd h_60 (by decide)
    · intro h_60
      refine jw_aload_n (pc := 63) dX2_person_63 rfl ?_
      refine jw_new (pc := 64) jn_X2_261 rfl (by decide) dX2_person_64 ?_
      refine jw_dup (pc := 67) dX2_person_67 (jis2_r _) ?_
      refine jx_cINEv (mi1 := mi_X10_init) (pc := 68) rfl dX2_person_68 q879 q169 q880 q881 rfl rfl rfl fi_X10_init (t_X10_init kp) (by first | decide | omega) rfl rfl (by simp only [List.map_cons, List.map_nil, List.sum_cons, List.sum_nil, cat_i, cat_l, jr_cat]; decide) ?_
      refine jx_cVEv (mi1 := mi_X9_has) (pc := 71) rfl dX2_person_71 lk_X2_264 rfl fi_X9_has rfl rfl rfl (by decide) (N3.1.1) (t_X9_hasB N3.1.1 (by decide) N3.2.1 N3.1.2.2.2.2.2.1 N3.1.2.2.2.2.2.2.1 N3.1.2.2.2.2.2.2.2.1 N3.1.2.2.2.2.2.2.2.2 hh.1) (by first | decide | omega) rfl rfl (by decide) ?_
      have N7 := N3.has hh (by omega) (fun i x hi => (psK.add (h1 := (8, 0, 0)) (m := 8) (c := 8) (fun i h hi => by cases hi) (Nat.le_refl 8) (by decide) rfl i x hi).1)
      obtain ⟨t8, r8⟩ := h0.hasw (j := ([] : List (Nat × Nat × Nat)).length) (k := 116) (x := nI (([] : List (Nat × Nat × Nat)).length + 1)) (y := some (jm_Z M_57)) t2.nw r2 N3 hZ hZb
      have i8 := (jI_ne (M := js_C (js_new M_57 9 0 0) hb ([] : List (Nat × Nat × Nat)).length (some (jm_Z M_57))) (a := q) (k := 116) (j := 117) (x := nI (([] : List (Nat × Nat × Nat)).length + 1)) (by decide)).trans ((j3.2.2.1 _).trans ((j2.2.2.1 _).trans i1))
      exact lp_ps74 (bb := 1) hG h0 t8 (r8.b (by omega) (by omega)) N7 hs hat (by decide) hu hvq hvo hZ hZb i8 (g2.tr ((jsm.C (Or.inr (by omega))).tr (jsm.I (Or.inr hvq)))) (by rw [hR, hk]; rfl)
theorem t_X2_person (hG : jGs G) (h : xRd M σ n v V p zb sb') : jT G mi_X2_person 10 [jr (some 66)] M (xL M σ n v zb sb' (lPerson (chI σ n) n V p)) := by
  have hS := h.S
  have hv := h.2.1.1
  have hW := h.2.2.2.1
  have h104 := hv.2.1
  have hst : jm_I M v 98 = nI (V 0 1) := xi_nq h.2.1
  have hn := wf_nq hW
  refine jT.of (by decide) rfl (Nat.le_of_ble_eq_true rfl) ?_
  by_cases hs : V 0 1 < 5
  · have eb : pBegin (chI σ n) n (decide (V 0 1 < 5)) 5 p = .ok (tkE (chI σ n) n p) := by rw [decide_eq_true hs]; rfl
    refine jw_aload_n (pc := 0) dX2_person_0 rfl ?_
    refine jw_aload_n (pc := 1) dX2_person_1 rfl ?_
    refine jx_getRs (pc := 2) (jf_X2_120_1.r) rfl dX2_person_2 rfl (is_66 hS) (by decide) (h.1.2.2.2.2.2.1) ?_
    refine jx_getIs (pc := 5) (jf_X2_159_5.r) rfl dX2_person_5 rfl (vis hv) (by decide) (hst) ?_
    refine jw_iconst (pc := 8) dX2_person_8 ic_5 ?_
    first | refine jx_icmp_ge (pc := 9) (tgt := 16) dX2_person_9 (by decide) (by omega) (by omega) ?_ ?_ | refine jw_icmp_ge (pc := 9) (tgt := 16) dX2_person_9 (by decide) ?_ ?_
    · intro h_9
      omega
    · intro h_9
      refine jw_iconst (pc := 12) dX2_person_12 ic_1 ?_
      refine jw_goto (pc := 13) (tgt := 17) dX2_person_13 (by decide) ?_
      refine jw_iconst (pc := 17) dX2_person_17 ic_5 ?_
      refine jx_cVt (mi1 := mi_X2_begins) (pc := 18) rfl dX2_person_18 lk_X2_181 rfl fi_X2_begins rfl rfl rfl (by decide) (is_66 hS) (t_X2_begins (b := true) (k := 5) hG h) (by first | decide | omega) rfl rfl (by decide) ?_ ?_
      rotate_left
      · intro M_18 q_18
        obtain ⟨f, e1, e2⟩ := q_18
        cases e1
      intro v_18 M_18 q_18
      obtain ⟨e0, p1, e1, e2, e3⟩ := q_18
      cases e0; cases e1
      clear hS hv
      have hS := e2.S
      have hv := e2.2.1.1
      have g1 := e3.1
      dsimp only [Option.toList, List.nil_append, List.cons_append]
      have t0 : xT M_18 M_18 := xT.rf
      have hzz := hS.2.2.2
      have hvz := e2.2.1.1.2.2.1
      have t1 : xT M_18 (js_new M_18 8 0 5) := t0.nw
      have r1 : xRd (js_new M_18 8 0 5) σ n v V (tkE (chI σ n) n p) (zb + 1) (sb' + 5) := e2.tt t1 e2.1.nw
      have g2 : jsm (xE v) M (js_new M_18 8 0 5) := g1.tr (jsm.n (Or.inl (Or.inl rfl)))
      have kp : jis (js_new M_18 8 0 5) (jm_Z M_18) 7 := ⟨by rw [jK_n, if_pos rfl], by rw [jZ_n]; omega, by omega⟩
      have ip : ∀ k, jm_I (js_new M_18 8 0 5) (jm_Z M_18) k = 0 := fun k => by rw [jI_n, if_pos rfl]
      refine jw_new (pc := 21) jn_X2_140 rfl (by decide) dX2_person_21 ?_
      refine jw_dup (pc := 24) dX2_person_24 (jis2_r _) ?_
      clear hS hv
      have hS := r1.S
      have hv := r1.2.1.1
      refine jw_aload_n (pc := 25) dX2_person_25 rfl ?_
      refine jx_cVt (mi1 := mi_X2_newName) (pc := 26) rfl dX2_person_26 lk_X2_206 rfl fi_X2_newName rfl rfl rfl (by decide) (is_66 hS) (t_X2_newName hG r1) (by first | decide | omega) rfl rfl (by simp only [List.map_cons, List.map_nil, List.sum_cons, List.sum_nil, cat_i, cat_l, jr_cat]; decide) ?_ ?_
      rotate_left
      · intro M_26 q_26
        obtain ⟨f, e4, e5⟩ := q_26
        refine jx_out67 rfl e5.2.2.2.1 ?_
        exact Or.inr ⟨rfl, f, by unfold lPerson; simp only [eb, e4, Except.bind], (e5.tr g2).b (by omega) (by omega)⟩
      intro v_26 M_26 q_26
      obtain ⟨w, o, f1, e5, ho, hT, e6, e7⟩ := q_26
      cases e5
      clear hS hv
      have hS := e6.S
      have hv := e6.2.1.1
      have g3 := g2.tr e7.1
      have t2 := t1.S e7
      obtain ⟨jp, kp⟩ := e7.o kp (by omega) (by decide)
      have z26 := e7.1.1
      rw [jZ_n] at z26
      dsimp only [Option.toList, List.nil_append, List.cons_append]
      refine jw_aload_n (pc := 29) dX2_person_29 rfl ?_
      refine jx_getRs (pc := 30) (jf_X2_120_1.r) rfl dX2_person_30 rfl (is_66 hS) (by decide) (e6.1.2.2.2.2.2.1) ?_
      refine jx_getIs (pc := 33) (jf_X2_159_5.r) rfl dX2_person_33 rfl (vis hv) (by decide) (xi_nq e6.2.1) ?_
      refine jx_cIEv (mi1 := mi_X9_init) (pc := 36) rfl dX2_person_36 q858 q168 q859 q860 rfl rfl rfl fi_X9_init (t_X9_init kp) (by first | decide | omega) rfl rfl (by simp only [List.map_cons, List.map_nil, List.sum_cons, List.sum_nil, cat_i, cat_l, jr_cat]; decide) ?_
      obtain ⟨ta, ra⟩ := e2.qR (k := 110) (x := some o) t2 e6 kp (by decide) (Nat.le_refl _)
      obtain ⟨tb, rb⟩ := e2.qI (k := 111) (x := nI (V 0 1)) ta ra kp (by decide) (Nat.le_refl _)
      have rc := e2.tt tb.nw (rb.1.nw (c := 108) (k := 3) (s := 3))
      have kn : jis (js_new (js_I (js_R M_26 (jm_Z M_18) 110 (some o)) (jm_Z M_18) 111 (nI (V 0 1))) 108 3 3) (jm_Z M_18) 7 := jis.n (M := js_I (js_R M_26 (jm_Z M_18) 110 (some o)) (jm_Z M_18) 111 (nI (V 0 1))) kp
      obtain ⟨td, rd⟩ := e2.qR (k := 115) (x := some (jm_Z M_26)) tb.nw rc kn (by decide) (Nat.le_refl _)
      have g4 := g3.tr ((jsm.R (E := xE v) (a := jm_Z M_18) (k := 110) (v := some o) (Or.inr (by omega))).tr ((jsm.I (a := jm_Z M_18) (k := 111) (v := nI (V 0 1)) (Or.inr (by omega))).tr ((jsm.n (c := 108) (n := 3) (s := 3) (Or.inl (Or.inl rfl))).tr (jsm.R (a := jm_Z M_18) (k := 115) (v := some (jm_Z M_26)) (Or.inr (by omega))))))
      have zE : jm_Z (js_I (js_R M_26 (jm_Z M_18) 110 (some o)) (jm_Z M_18) 111 (nI (V 0 1))) = jm_Z M_26 := rfl
      have N1 : psN (js_R (js_new (js_I (js_R M_26 (jm_Z M_18) 110 (some o)) (jm_Z M_18) 111 (nI (V 0 1))) 108 3 3) (jm_Z M_18) 115 (some (jm_Z M_26))) (jm_Z M_18) (jm_Z M_26) o w.1 (V 0 1) [] := by
        refine ⟨⟨kn, by omega, ?_, ?_, hT.fr (E := fun a => a = jm_Z M_18 ∨ a = 62) ((jsm.R (E := fun a => a = jm_Z M_18 ∨ a = 62) (Or.inl rfl)).tr ((jsm.I (Or.inl rfl)).tr ((jsm.n (Or.inr rfl)).tr (jsm.R (Or.inl rfl))))) (fun a z z2 _ => ?_), ?_, ⟨?_, ?_, fun z => by omega⟩, ?_, by omega⟩, ?_, fun i h hi => by cases hi⟩
        · rw [jI_R, jI_n, if_neg (by rw [zE]; omega)]; exact jI_same
        · rw [jR_R, if_neg (fun z => absurd z.1 (by decide)), jR_n, if_neg (by rw [zE]; omega), jR_I, jR_R, if_pos ⟨rfl, rfl⟩]
        · rcases z with z | z
          · subst z; rw [kp.1]; decide
          · exact absurd z z2
        · rw [jR_R, if_pos ⟨rfl, rfl⟩]
        · rw [jK_R, jK_n, if_pos zE.symm]
        · rw [jZ_R, jZ_n, zE]; omega
        · rw [jN_R, jN_n, if_pos zE.symm]
        · rw [jI_R, jI_n, if_neg (by rw [zE]; omega), jI_ne (by decide), jI_R, jp.2.2.1, ip]; rfl
      generalize js_R (js_new (js_I (js_R M_26 (jm_Z M_18) 110 (some o)) (jm_Z M_18) 111 (nI (V 0 1))) 108 3 3) (jm_Z M_18) 115 (some (jm_Z M_26)) = M3 at td rd N1 g4 ⊢
      clear hS hv kp
      have hS := rd.S
      have hv := rd.2.1.1
      have kp := N1.1.1
      refine jw_astore_n (pc := 39) dX2_person_39 (Nat.le_of_ble_eq_true rfl) rfl ?_
      try dsimp only [jput1, jput2, jkill, jclr, jis2_i, jis2_l, jis2_rs, jis2_rn, cond]
      refine jw_aload_n (pc := 40) dX2_person_40 rfl ?_
      refine jw_ldcs (pc := 41) (js_X2_213) rfl (by decide) dX2_person_41 ?_
      refine jx_cVt (mi1 := mi_X2_must) (pc := 43) rfl dX2_person_43 lk_X2_142 rfl fi_X2_must rfl rfl rfl (by decide) (is_66 hS) (t_X2_must hG rd (rd.T 18 (by decide) (by decide))) (by first | decide | omega) rfl rfl (by decide) ?_ ?_
      rotate_left
      · intro M_43 q_43
        obtain ⟨f, e4, e5⟩ := q_43
        refine jx_out67 rfl e5.2.2.2.1 ?_
        exact Or.inr ⟨rfl, f, by unfold lPerson; simp only [eb, f1, e4, Except.bind], (e5.tr g4).b (by omega) (by omega)⟩
      intro v_43 M_43 q_43
      obtain ⟨e5, p3, f2, r4, s4⟩ := q_43
      cases e5
      obtain ⟨N2, j2⟩ := N1.S psK_0 (by decide) s4
      have g5 := g4.tr s4.1
      have t4 := td.S s4
      clear hS hv kp
      have hS := r4.S
      have hv := r4.2.1.1
      have kp := N2.1.1
      dsimp only [Option.toList, List.nil_append, List.cons_append]
      refine jw_aload_n (pc := 46) dX2_person_46 rfl ?_
      refine jw_aload_n (pc := 47) dX2_person_47 rfl ?_
      refine jx_cVt (mi1 := mi_X2_place) (pc := 48) rfl dX2_person_48 lk_X2_230 rfl fi_X2_place rfl rfl rfl (by decide) (is_66 hS) (t_X2_place hG r4) (by first | decide | omega) rfl rfl (by simp only [List.map_cons, List.map_nil, List.sum_cons, List.sum_nil, cat_i, cat_l, jr_cat]; decide) ?_ ?_
      rotate_left
      · intro M_48 q_48
        obtain ⟨f, e4, e5⟩ := q_48
        refine jx_out67 rfl e5.2.2.2.1 ?_
        exact Or.inr ⟨rfl, f, by unfold lPerson; simp only [eb, f1, f2, e4, Except.bind], (e5.tr g5).b (by omega) (by omega)⟩
      intro v_48 M_48 q_48
      obtain ⟨a1, f3, e5, u5, s5⟩ := q_48
      cases e5
      obtain ⟨N3, j3⟩ := N2.S psK_0 (by decide) s5
      obtain ⟨t5, r5⟩ := e2.qI (k := 117) (x := nI a1.1) (t4.S s5) u5 N3.1.1 (by decide) (Nat.le_refl _)
      have N5 := N3.pl (x := nI a1.1) psK_0 (by decide)
      have g6 := g5.tr (s5.1.tr (jsm.I (E := xE v) (a := jm_Z M_18) (k := 117) (v := nI a1.1) (Or.inr (by omega))))
      clear hS hv kp
      have hS := u5.S
      have hv := u5.2.1.1
      have kp := N3.1.1
      dsimp only [Option.toList, List.nil_append, List.cons_append]
      refine jx_putI (pc := 51) jf_X2_259_7 rfl dX2_person_51 rfl rfl (kp) (by decide) ?_
      exact lp_ps54 (wn := w) hG e2 t5 r5 N5 hs (pKn_0 h.2.2.2.2 (pKnownN_ok f3).1) (pFresh_ok f1).2.2.2 (by omega) ho (Nat.le_refl _) (by omega) jI_same g6 (by unfold lPerson; simp only [eb, f1, f2, f3, Except.bind])
  · have eb : pBegin (chI σ n) n (decide (V 0 1 < 5)) 5 p = .error (5, tkA (chI σ n) n p) := by rw [decide_eq_false hs]; rfl
    refine jw_aload_n (pc := 0) dX2_person_0 rfl ?_
    refine jw_aload_n (pc := 1) dX2_person_1 rfl ?_
    refine jx_getRs (pc := 2) (jf_X2_120_1.r) rfl dX2_person_2 rfl (is_66 hS) (by decide) (h.1.2.2.2.2.2.1) ?_
    refine jx_getIs (pc := 5) (jf_X2_159_5.r) rfl dX2_person_5 rfl (vis hv) (by decide) (hst) ?_
    refine jw_iconst (pc := 8) dX2_person_8 ic_5 ?_
    first | refine jx_icmp_ge (pc := 9) (tgt := 16) dX2_person_9 (by decide) (by omega) (by omega) ?_ ?_ | refine jw_icmp_ge (pc := 9) (tgt := 16) dX2_person_9 (by decide) ?_ ?_
    · intro h_9
      refine jw_iconst (pc := 16) dX2_person_16 ic_0 ?_
      refine jw_iconst (pc := 17) dX2_person_17 ic_5 ?_
      refine jx_cVt (mi1 := mi_X2_begins) (pc := 18) rfl dX2_person_18 lk_X2_181 rfl fi_X2_begins rfl rfl rfl (by decide) (is_66 hS) (t_X2_begins (b := false) (k := 5) hG h) (by first | decide | omega) rfl rfl (by decide) ?_ ?_
      rotate_left
      · intro M_18 q_18
        obtain ⟨f, e1, e2⟩ := q_18
        cases e1
        refine jx_out67 rfl e2.2.2.2.1 ?_
        exact Or.inr ⟨rfl, _, by unfold lPerson; rw [eb]; rfl, e2.j jsm.rf⟩
      intro v_18 M_18 q_18
      obtain ⟨e0, p1, e1, e2, e3⟩ := q_18
      cases e1
    · intro h_9
      omega
end JXQ3
