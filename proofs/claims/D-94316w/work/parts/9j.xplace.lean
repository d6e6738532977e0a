/-! ===== x reads: things in the making; places ===== -/
theorem jI_ne {M : Mm} {a k j : Nat} {x : Int32} (h : ¬ j = k) : jm_I (js_I M a k x) a j = jm_I M a j := by rw [jI_I, if_neg (fun q => h q.1)]
/-- what stays since M: all but the reader's own, and what texts know of their hash -/
def xT (M M' : Mm) : Prop := jm_Z M ≤ jm_Z M' ∧ (∀ a, a < jm_Z M → ¬ xE0 a → jm_K M a ≠ 14 → jal M M' a) ∧ (∀ o c, jTx M o c → jTx M' o c)
theorem xT.rf {M : Mm} : xT M M := ⟨Nat.le_refl _, fun _ _ _ _ => jal.rf, fun _ _ q => q⟩
theorem xT.S {v : Nat} {M M1 M2 : Mm} (h : xT M M1) (g : xS v M1 M2) : xT M M2 := ⟨Nat.le_trans h.1 g.1.1, fun a h1 h2 h3 => (h.2.1 a h1 h2 h3).tr (g.2.2.1 a (Nat.lt_of_lt_of_le h1 h.1) h2 (by rw [(h.2.1 a h1 h2 h3).1]; exact h3)), fun o c q => g.2.2.2 o c (h.2.2 o c q)⟩
theorem xT.w {E : Nat → Prop} {M M1 M2 : Mm} (h : xT M M1) (g : jsm E M1 M2) (hE : ∀ a, E a → jm_Z M ≤ a ∨ xE0 a) (hK : ∀ a, E a → a ≠ 62 → a < jm_Z M1 → jm_K M1 a ≠ 14 ∧ jm_K M1 a ≠ 101) : xT M M2 := ⟨Nat.le_trans h.1 g.1, fun a h1 h2 h3 => (h.2.1 a h1 h2 h3).tr (g.2.2 a (Nat.lt_of_lt_of_le h1 h.1) (fun q => by rcases hE a q with e | e; omega; exact h2 e)), fun o c q => (h.2.2 o c q).fr g hK⟩
theorem xS.o {v p c : Nat} {M M' : Mm} (h : xS v M M') (hp : jis M p c) (h104 : 104 ≤ p) (hc : c ≠ 13) : jal M M' p ∧ jis M' p c := by
  have al := h.2.2.1 p hp.2.1 (by unfold xE0; omega) (by rw [hp.1]; omega)
  exact ⟨al, hp.al al h.1.1⟩
section JXQ
variable {G : Gh} {M : Mm} {σ : Sg} {n v p zb sb' : Nat} {V : Vt}
theorem xRd.tt {M1 : Mm} {p1 zc sc : Nat} (h : xRd M σ n v V p zb sb') (g : xT M M1) (hB : xBs M1 σ n p1 v zc sc) : xRd M1 σ n v V p1 zc sc := by
  obtain ⟨b1, ⟨c1, c2, c3, c4, c5, c6⟩, b3, b4, b5⟩ := h
  have h104 := c1.2.1
  have hz := c1.2.2.1
  have al : ∀ b, 104 ≤ b → b < jm_Z M → jm_K M b ≠ 14 → jal M M1 b := fun b q1 q2 q3 => g.2.1 b q2 (by unfold xE0; omega) q3
  have hv := al v h104 (vis c1).2.1 (by rw [c1.1]; decide)
  have rK : ∀ i, i < 10 → jm_K M (v + (i + 1)) ≠ 14 := fun i hi => (vE_K c1 (by omega) (by omega)).1
  have hr : ∀ i, i < 10 → jal M M1 (v + (i + 1)) := fun i hi => al _ (by omega) (by omega) (rK i hi)
  refine ⟨hB, ⟨⟨hv.1.trans c1.1, h104, by have := g.1; omega, fun i hi => ?_⟩, ?_, ?_, fun a ha => ?_, fun a ha => ?_, fun a ha => ?_⟩, b3.k h104 g.1 (fun b q1 q2 q3 => ?_) (fun a _ => (hr 0 (by decide)).2.2.2.2.2.2.2 a) (fun a _ => (hr 1 (by decide)).2.2.2.2.2.2.2 a) g.2.2 rfl rfl (fun _ => rfl) (fun _ => rfl), b4, b5⟩
  · obtain ⟨d1, d2, d3⟩ := c1.2.2.2 i hi
    exact ⟨(hr i hi).1.trans d1, (hr i hi).2.1.trans d2, (hv.2.2.2.2.1 _).trans d3⟩
  · rw [jVi_iff] at c2 ⊢
    exact fun i hi => (hv.2.2.1 _).trans (c2 i hi)
  · rw [jVa_iff] at c3 ⊢
    intro i h1 h2 k hk
    have := hr (i - 1) (by omega)
    rw [show v + (i - 1 + 1) = v + i by omega] at this
    exact (this.2.2.2.2.2.1 k).trans (c3 i h1 h2 k hk)
  · exact (c4 a ha).k g.1 (fun b q1 q2 q3 => al b q1 q2 (by omega)) ((hr 0 (by decide)).2.2.2.2.2.2.2 a) rfl rfl rfl
  · exact (c5 a ha).k g.1 (fun b q1 q2 q3 => al b q1 q2 (by unfold obk at q3; omega)) ((hr 1 (by decide)).2.2.2.2.2.2.2 a) rfl rfl
  · exact (c6 a ha).k g.1 (fun b q1 q2 q3 => al b q1 q2 (by unfold obk at q3; omega)) ((hr 2 (by decide)).2.2.2.2.2.2.2 a) rfl rfl rfl rfl rfl
  · have := al b q1 q2 (by omega)
    exact ⟨this.1, this.2.2.2.2.1⟩
/-- a thing is made -/
theorem xBs.nw {c k s : Nat} (h : xBs M σ n p v zb sb') : xBs (js_new M c k s) σ n p v (zb + 1) (sb' + s) := by
  obtain ⟨b1, b2, b3, b4, b5, b6, b7⟩ := h
  have hz := b1.2.2.2
  have g : jsm (fun a => a = 62) M (js_new M c k s) := jsm.n rfl
  have hK : ∀ a, a = 62 → a ≠ 62 → a < jm_Z M → jm_K M a ≠ 14 ∧ jm_K M a ≠ 101 := fun a q1 q2 => absurd q1 q2
  have al : ∀ a, a < 104 → jal M (js_new M c k s) a := fun a q => jal_n a (by omega)
  have a66 := al 66 (by decide)
  refine ⟨b1.n, fun k hk => ((al 65 (by decide)).2.2.2.2.2.1 k).trans (b2 k hk), b3.fr g hK, b4, ?_, (a66.2.2.2.2.1 _).trans b6, by rw [jZ_n, jS_n]; omega⟩
  obtain ⟨c1, c2, c3, c4, c5, c6⟩ := b5
  refine ⟨(a66.2.2.1 _).trans c1, (a66.2.2.1 _).trans c2, (a66.2.2.1 _).trans c3, (a66.2.2.1 _).trans c4, fun q => (a66.2.2.1 _).trans (c5 q), fun q => ?_⟩
  obtain ⟨o, d1, d2, d3⟩ := c6 q
  exact ⟨o, (a66.2.2.2.2.1 _).trans d1, d2, d3.fr g hK⟩
theorem xT.nw {M0 : Mm} {c k s : Nat} (h : xT M0 M) : xT M0 (js_new M c k s) := h.w (E := fun a => a = 62) (jsm.n rfl) (fun a q => Or.inr (Or.inl q)) (fun a q1 q2 => absurd q1 q2)
/-- a place is written -/
theorem xRd.place {q o w x y : Nat} (h : xRd M σ n v V p zb sb') (hs : V 0 0 < 10) (hx : x ≤ 19) (hy : y ≤ 19) (hu : ∀ k, k < V 0 13 → ¬ V 25 k = w) (hq : jis M q 6) (hvq : v ≤ q) (q1 : jm_I M q 111 = nI (V 0 0)) (q2 : jm_I M q 112 = nI x) (q3 : jm_I M q 113 = nI y) (q4 : jm_I M q 114 = nI 0) (q5 : jm_R M q 110 = some o) (ho : v ≤ o) (hT : jTx M o w) : xRd (js_I (js_C M (v + 1) (V 0 0) (some q)) v 97 (nI (V 0 0 + 1))) σ n v (vPlace V w x y) p zb sb' := by
  have hWf := h.2.2.2.1
  have hn := wf_np hWf
  have h3' := wf_place (u := w) hWf hs hx hy
  have hw' := nw_vp (x := x) (y := y) h.2.2.2.2 hu
  obtain ⟨b1, b2, b3, b4, b5⟩ := h
  have hvs := b2.1
  have h104 := hvs.2.1
  have nvq : ¬ q = v := fun z => by have := hq.1; rw [z, hvs.1] at this; omega
  have k1 := (hvs.2.2.2 0 (by decide)).1
  have g : jsm (fun a => a = v ∨ a = v + 1) M (js_I (js_C M (v + 1) (V 0 0) (some q)) v 97 (nI (V 0 0 + 1))) := (jsm.C (Or.inr rfl)).tr (jsm.I (Or.inl rfl))
  have hK : ∀ a, (a = v ∨ a = v + 1) → jm_K M a = 6 ∨ jm_K M a = 105 := fun a z => by
    rcases z with z | z <;> subst z
    · exact Or.inl hvs.1
    · exact Or.inr k1
  have hKo : ∀ a, (a = v ∨ a = v + 1) → jm_K M a ≠ 14 ∧ jm_K M a ≠ 101 := fun a z => by have := hK a z; omega
  have hk : ∀ b, 104 ≤ b → b < jm_Z M → (jm_K M b = 7 ∨ obk (jm_K M b)) → jal M (js_I (js_C M (v + 1) (V 0 0) (some q)) v 97 (nI (V 0 0 + 1))) b := fun b z1 z2 z3 => g.2.2 b z2 (fun z => by have := hK b z; unfold obk at z3; omega)
  have hc : ∀ a, a < V 0 0 → jm_C (js_I (js_C M (v + 1) (V 0 0) (some q)) v 97 (nI (V 0 0 + 1))) (v + 1) a = jm_C M (v + 1) a := fun a ha => by rw [jC_I, jC_C, if_neg (by omega)]
  have hc0 : jm_C (js_I (js_C M (v + 1) (V 0 0) (some q)) v 97 (nI (V 0 0 + 1))) (v + 1) (V 0 0) = some q := by rw [jC_I, jC_C, if_pos ⟨rfl, rfl⟩]
  have hc2 : ∀ i a, 2 ≤ i → jm_C (js_I (js_C M (v + 1) (V 0 0) (some q)) v 97 (nI (V 0 0 + 1))) (v + i) a = jm_C M (v + i) a := fun i a hi => by rw [jC_I, jC_C, if_neg (by omega)]
  have e0 : ∀ k, ¬ k = 0 → ¬ k = 13 → vPlace V w x y 0 k = V 0 k := fun k z1 z2 => by unfold vPlace vName; rw [vS_ne (by omega), vS_ne (by omega), vS_ne (by omega), vS_ne (by omega), vS_ne (by omega), vS_ne (by omega), vS_ne (by omega), vS_ne (by omega), vS_ne (by omega)]
  have e1 : vPlace V w x y 0 0 = V 0 0 + 1 := vS_eq _ _ _ _
  have er : ∀ j k, 4 ≤ j → j < 25 → ¬ j = 23 → vPlace V w x y j k = V j k := fun j k z1 z2 z3 => by unfold vPlace vName; rw [vS_ne (by omega), vS_ne (by omega), vS_ne (by omega), vS_ne (by omega), vS_ne (by omega), vS_ne (by omega), vS_ne (by omega), vS_ne (by omega), vS_ne (by omega)]
  have ep : ∀ j k, 1 ≤ j → j < 25 → ¬ k = V 0 0 → vPlace V w x y j k = V j k := fun j k z1 z2 z3 => by unfold vPlace vName; rw [vS_ne (by omega), vS_ne (by omega), vS_ne (by omega), vS_ne (by omega), vS_ne (by omega), vS_ne (by omega), vS_ne (by omega), vS_ne (by omega), vS_ne (by omega)]
  have f1 : vPlace V w x y 1 (V 0 0) = x := by unfold vPlace; rw [vS_ne (by omega), vS_ne (by omega), vS_ne (by omega), vS_ne (by omega), vS_eq]
  have f2 : vPlace V w x y 2 (V 0 0) = y := by unfold vPlace; rw [vS_ne (by omega), vS_ne (by omega), vS_ne (by omega), vS_eq]
  have f3 : vPlace V w x y 3 (V 0 0) = 0 := by unfold vPlace; rw [vS_ne (by omega), vS_ne (by omega), vS_eq]
  have f23 : vPlace V w x y 23 (V 0 0) = w := by unfold vPlace; rw [vS_ne (by omega), vS_eq]
  refine ⟨b1.up g (fun a z => ⟨by omega, fun _ => hKo a z⟩), ⟨hvs, b2.2.1.up (i0 := 0) (x := V 0 0 + 1) (fun k hk => ?_) (fun k => ?_), ?_, fun c hc' => ?_, fun c hc' => ?_, fun c hc' => ?_⟩, ⟨fun c hc' => ?_, fun c hc' => ?_⟩, h3', hw'⟩
  · by_cases e : k = 0
    · rw [if_pos e, e, e1]
    · rw [if_neg e, e0 _ e (by omega)]
  · rw [jI_I]
    by_cases e : k = 97 + 0
    · rw [if_pos ⟨by omega, rfl⟩, if_pos e]
    · rw [if_neg (by omega), if_neg e]; rfl
  · have ha := jVa_iff.mp b2.2.2.1
    refine jVa_iff.mpr (fun r h1 h2 k hk => ?_)
    rw [er _ _ (by omega) (by omega) (by omega)]
    have hcr : 3 ≤ cR r ∧ cR r ≤ 7 := by
      unfold cR; split
      · omega
      · split
        · omega
        · split <;> omega
    rw [e0 _ (by omega) (by omega)] at hk
    exact ha r h1 h2 k hk
  · rw [e1] at hc'
    by_cases e : c = V 0 0
    · subst e
      refine ⟨q, hc0, hq, by omega, ?_, ?_, ?_, ?_⟩
      · rw [jI_I, if_neg (by omega)]; exact q1
      · rw [f1, jI_I, if_neg (by omega)]; exact q2
      · rw [f2, jI_I, if_neg (by omega)]; exact q3
      · rw [f3, jI_I, if_neg (by omega)]; exact q4
    · exact (b2.2.2.2.1 c (by omega)).k g.1 (fun b z1 z2 z3 => hk b z1 z2 (Or.inl z3)) (hc c (by omega)) (ep _ _ (by decide) (by decide) e) (ep _ _ (by decide) (by decide) e) (ep _ _ (by decide) (by decide) e)
  · rw [e0 1 (by decide) (by decide)] at hc'
    exact (b2.2.2.2.2.1 c hc').k g.1 (fun b z1 z2 z3 => hk b z1 z2 (Or.inr z3)) (hc2 2 c (by decide)) (er _ _ (by decide) (by decide) (by decide)) (habL_cg (er _ _ (by decide) (by decide) (by decide)) (er _ _ (by decide) (by decide) (by decide)) (er _ _ (by decide) (by decide) (by decide)) (er _ _ (by decide) (by decide) (by decide)))
  · rw [e0 2 (by decide) (by decide)] at hc'
    exact (b2.2.2.2.2.2 c hc').k g.1 (fun b z1 z2 z3 => hk b z1 z2 (Or.inr z3)) (hc2 3 c (by decide)) (er _ _ (by decide) (by decide) (by decide)) (er _ _ (by decide) (by decide) (by decide)) (er _ _ (by decide) (by decide) (by decide)) (er _ _ (by decide) (by decide) (by decide)) (er _ _ (by decide) (by decide) (by decide))
  · rw [e1] at hc'
    by_cases e : c = V 0 0
    · subst e
      exact ⟨q, o, hc0, hq, hvq, q5, by omega, by rw [f23]; exact hT.fr g (fun a z1 z2 z3 => hKo a z1)⟩
    · obtain ⟨q', o', d1, d2, d3, d4, d5, d6⟩ := b3.1 c (by omega)
      exact ⟨q', o', (hc c (by omega)).trans d1, d2, d3, d4, d5, by rw [ep _ _ (by decide) (by decide) e]; exact d6.fr g (fun a z1 z2 z3 => hKo a z1)⟩
  · rw [e0 1 (by decide) (by decide)] at hc'
    obtain ⟨q', o', d1, d2, d3, d4, d5, d6⟩ := b3.2 c hc'
    exact ⟨q', o', (hc2 2 c (by decide)).trans d1, d2, d3, d4, d5, by rw [er _ _ (by decide) (by decide) (by decide)]; exact d6.fr g (fun a z1 z2 z3 => hKo a z1)⟩
/-- a place in the making -/
def plN (M : Mm) (q k o w : Nat) : Prop := jis M q 6 ∧ 104 ≤ q ∧ jm_I M q 111 = nI k ∧ jm_I M q 114 = nI 0 ∧ jm_R M q 110 = some o ∧ jTx M o w
theorem plN.S {M' : Mm} {q k o w : Nat} (h : plN M q k o w) (g : xS v M M') : plN M' q k o w ∧ jal M M' q := by
  obtain ⟨h1, h2, h3, h4, h5, h6⟩ := h
  obtain ⟨al, i⟩ := g.o h1 h2 (by decide)
  exact ⟨⟨i, h2, (al.2.2.1 _).trans h3, (al.2.2.1 _).trans h4, (al.2.2.2.2.1 _).trans h5, g.2.2.2 _ _ h6⟩, al⟩
theorem plN.I {q k o w j : Nat} {x : Int32} (h : plN M q k o w) (hj : j = 112 ∨ j = 113) : plN (js_I M q j x) q k o w := by
  obtain ⟨h1, h2, h3, h4, h5, h6⟩ := h
  refine ⟨h1, h2, ?_, ?_, h5, h6.fr (E := fun a => a = q) (jsm.I rfl) (fun a z _ _ => by subst z; rw [h1.1]; decide)⟩
  · rw [jI_I, if_neg (by omega)]; exact h3
  · rw [jI_I, if_neg (by omega)]; exact h4
/-- a thing in the making is written -/
theorem xRd.qI {M0 : Mm} {q c k p0 z0 s0 : Nat} {x : Int32} (h0 : xRd M0 σ n v V p0 z0 s0) (t : xT M0 M) (h : xRd M σ n v V p zb sb') (hq : jis M q c) (hc : c ≤ 12) (hZ : jm_Z M0 ≤ q) : xT M0 (js_I M q k x) ∧ xRd (js_I M q k x) σ n v V p zb sb' := by
  have hz0 := h0.1.1.2.2.2
  have hK : jm_K M q ≠ 14 ∧ jm_K M q ≠ 101 := by rw [hq.1]; omega
  have t1 : xT M0 (js_I M q k x) := t.w (E := fun a => a = q) (jsm.I rfl) (fun a z => Or.inl (by omega)) (fun a z _ _ => by subst z; exact hK)
  exact ⟨t1, h0.tt t1 (h.1.up (E := fun a => a = q) (jsm.I rfl) (fun a z => ⟨by omega, fun _ => by subst z; exact hK⟩))⟩
theorem xRd.qR {M0 : Mm} {q c k p0 z0 s0 : Nat} {x : Option Nat} (h0 : xRd M0 σ n v V p0 z0 s0) (t : xT M0 M) (h : xRd M σ n v V p zb sb') (hq : jis M q c) (hc : c ≤ 12) (hZ : jm_Z M0 ≤ q) : xT M0 (js_R M q k x) ∧ xRd (js_R M q k x) σ n v V p zb sb' := by
  have hz0 := h0.1.1.2.2.2
  have hK : jm_K M q ≠ 14 ∧ jm_K M q ≠ 101 := by rw [hq.1]; omega
  have t1 : xT M0 (js_R M q k x) := t.w (E := fun a => a = q) (jsm.R rfl) (fun a z => Or.inl (by omega)) (fun a z _ _ => by subst z; exact hK)
  exact ⟨t1, h0.tt t1 (h.1.up (E := fun a => a = q) (jsm.R rfl) (fun a z => ⟨by omega, fun _ => by subst z; exact hK⟩))⟩
theorem t_X2_placeLine (hG : jGs G) (h : xRd M σ n v V p zb sb') : jT G mi_X2_placeLine 10 [jr (some 66)] M (xL M σ n v zb sb' (lPlace (chI σ n) n V p)) := by
  have hS := h.S
  have hv := h.2.1.1
  have hW := h.2.2.2.1
  have h104 := hv.2.1
  have hst : jm_I M v 97 = nI (V 0 0) := xi_np h.2.1
  have hn := wf_np hW
  refine jT.of (by decide) rfl (Nat.le_of_ble_eq_true rfl) ?_
  by_cases hs : V 0 0 < 10
  · have eb : pBegin (chI σ n) n (decide (V 0 0 < 10)) 5 p = .ok (tkE (chI σ n) n p) := by rw [decide_eq_true hs]; rfl
    refine jw_aload_n (pc := 0) dX2_placeLine_0 rfl ?_
    refine jw_aload_n (pc := 1) dX2_placeLine_1 rfl ?_
    refine jx_getRs (pc := 2) (jf_X2_120_1.r) rfl dX2_placeLine_2 rfl (is_66 hS) (by decide) (h.1.2.2.2.2.2.1) ?_
    refine jx_getIs (pc := 5) (jf_X2_156_5.r) rfl dX2_placeLine_5 rfl (vis hv) (by decide) (hst) ?_
    refine jw_bipush (pc := 8) dX2_placeLine_8 bp_10 ?_
    first | refine jx_icmp_ge (pc := 10) (tgt := 17) dX2_placeLine_10 (by decide) (by omega) (by omega) ?_ ?_ | refine jw_icmp_ge (pc := 10) (tgt := 17) dX2_placeLine_10 (by decide) ?_ ?_
    · intro h_10
      omega
    · intro h_10
      refine jw_iconst (pc := 13) dX2_placeLine_13 ic_1 ?_
      refine jw_goto (pc := 14) (tgt := 18) dX2_placeLine_14 (by decide) ?_
      refine jw_iconst (pc := 18) dX2_placeLine_18 ic_5 ?_
      refine jx_cVt (mi1 := mi_X2_begins) (pc := 19) rfl dX2_placeLine_19 lk_X2_181 rfl fi_X2_begins rfl rfl rfl (by decide) (is_66 hS) (t_X2_begins (b := true) (k := 5) hG h) (by first | decide | omega) rfl rfl (by decide) ?_ ?_
      rotate_left
      · intro M_19 q_19
        obtain ⟨f, e1, e2⟩ := q_19
        cases e1
      intro v_19 M_19 q_19
      obtain ⟨e0, p1, e1, e2, e3⟩ := q_19
      cases e0; cases e1
      clear hS hv
      have hS := e2.S
      have hv := e2.2.1.1
      have g1 := e3.1
      dsimp only [Option.toList, List.nil_append, List.cons_append]
      have t0 : xT M_19 M_19 := xT.rf
      have hzz := hS.2.2.2
      have hvz := e2.2.1.1.2.2.1
      have t1 : xT M_19 (js_new M_19 7 0 5) := t0.nw
      have r1 : xRd (js_new M_19 7 0 5) σ n v V (tkE (chI σ n) n p) (zb + 1) (sb' + 5) := e2.tt t1 e2.1.nw
      have g2 : jsm (xE v) M (js_new M_19 7 0 5) := g1.tr (jsm.n (Or.inl (Or.inl rfl)))
      have kp : jis (js_new M_19 7 0 5) (jm_Z M_19) 6 := ⟨by rw [jK_n, if_pos rfl], by rw [jZ_n]; omega, by omega⟩
      have ip : ∀ k, jm_I (js_new M_19 7 0 5) (jm_Z M_19) k = 0 := fun k => by rw [jI_n, if_pos rfl]
      refine jw_new (pc := 22) jn_X2_130 rfl (by decide) dX2_placeLine_22 ?_
      refine jw_dup (pc := 25) dX2_placeLine_25 (jis2_r _) ?_
      clear hS hv
      have hS := r1.S
      have hv := r1.2.1.1
      refine jw_aload_n (pc := 26) dX2_placeLine_26 rfl ?_
      refine jx_cVt (mi1 := mi_X2_newName) (pc := 27) rfl dX2_placeLine_27 lk_X2_206 rfl fi_X2_newName rfl rfl rfl (by decide) (is_66 hS) (t_X2_newName hG r1) (by first | decide | omega) rfl rfl (by simp only [List.map_cons, List.map_nil, List.sum_cons, List.sum_nil, cat_i, cat_l, jr_cat]; decide) ?_ ?_
      rotate_left
      · intro M_27 q_27
        obtain ⟨f, e4, e5⟩ := q_27
        refine jx_out67 rfl e5.2.2.2.1 ?_
        exact Or.inr ⟨rfl, f, by unfold lPlace; simp only [eb, e4, Except.bind], (e5.tr g2).b (by omega) (by omega)⟩
      intro v_27 M_27 q_27
      obtain ⟨w, o, f1, e5, ho, hT, e6, e7⟩ := q_27
      cases e5
      clear hS hv
      have hS := e6.S
      have hv := e6.2.1.1
      have g3 := g2.tr e7.1
      have t2 := t1.S e7
      obtain ⟨jp, kp⟩ := e7.o kp (by omega) (by decide)
      dsimp only [Option.toList, List.nil_append, List.cons_append]
      refine jw_aload_n (pc := 30) dX2_placeLine_30 rfl ?_
      refine jx_getRs (pc := 31) (jf_X2_120_1.r) rfl dX2_placeLine_31 rfl (is_66 hS) (by decide) (e6.1.2.2.2.2.2.1) ?_
      refine jx_getIs (pc := 34) (jf_X2_156_5.r) rfl dX2_placeLine_34 rfl (vis hv) (by decide) (xi_np e6.2.1) ?_
      refine jx_cIEv (mi1 := mi_X8_init) (pc := 37) rfl dX2_placeLine_37 q784 q167 q785 q786 rfl rfl rfl fi_X8_init (t_X8_init kp) (by first | decide | omega) rfl rfl (by simp only [List.map_cons, List.map_nil, List.sum_cons, List.sum_nil, cat_i, cat_l, jr_cat]; decide) ?_
      have w1 := e2.qR (k := 110) (x := some o) t2 e6 kp (by decide) (Nat.le_refl _)
      have w2 := e2.qI (k := 111) (x := nI (V 0 0)) w1.1 w1.2 kp (by decide) (Nat.le_refl _)
      have N1 : plN (js_I (js_R M_27 (jm_Z M_19) 110 (some o)) (jm_Z M_19) 111 (nI (V 0 0))) (jm_Z M_19) (V 0 0) o w.1 := by
        refine ⟨kp, by omega, jI_same, ?_, ?_, hT.fr (E := fun a => a = jm_Z M_19) ((jsm.R (E := fun a => a = jm_Z M_19) rfl).tr (jsm.I rfl)) (fun a z _ _ => by subst z; rw [kp.1]; decide)⟩
        · rw [jI_ne (by decide), jI_R, jp.2.2.1, ip]; rfl
        · rw [jR_I, jR_R, if_pos ⟨rfl, rfl⟩]
      have g4 := g3.tr ((jsm.R (E := xE v) (a := jm_Z M_19) (k := 110) (v := some o) (Or.inr (by omega))).tr (jsm.I (a := jm_Z M_19) (k := 111) (v := nI (V 0 0)) (Or.inr (by omega))))
      generalize js_I (js_R M_27 (jm_Z M_19) 110 (some o)) (jm_Z M_19) 111 (nI (V 0 0)) = M3 at w2 N1 g4 ⊢
      obtain ⟨t3, r3⟩ := w2
      clear hS hv kp
      have hS := r3.S
      have hv := r3.2.1.1
      have kp := N1.1
      refine jw_astore_n (pc := 40) dX2_placeLine_40 (Nat.le_of_ble_eq_true rfl) rfl ?_
      try dsimp only [jput1, jput2, jkill, jclr, jis2_i, jis2_l, jis2_rs, jis2_rn, cond]
      refine jw_aload_n (pc := 41) dX2_placeLine_41 rfl ?_
      refine jw_aload_n (pc := 42) dX2_placeLine_42 rfl ?_
      refine jw_ldcs (pc := 43) (js_X2_213) rfl (by decide) dX2_placeLine_43 ?_
      refine jw_iconst (pc := 45) dX2_placeLine_45 ic_0 ?_
      refine jw_bipush (pc := 46) dX2_placeLine_46 bp_19 ?_
      refine jx_cVt (mi1 := mi_X2_after) (pc := 48) rfl dX2_placeLine_48 lk_X2_187 rfl fi_X2_after rfl rfl rfl (by decide) (is_66 hS) (t_X2_after hG r3 (r3.T 18 (by decide) (by decide))) (by first | decide | omega) rfl rfl (by simp only [List.map_cons, List.map_nil, List.sum_cons, List.sum_nil, cat_i, cat_l, jr_cat]; decide) ?_ ?_
      rotate_left
      · intro M_48 q_48
        obtain ⟨f, e4, e5⟩ := q_48
        refine jx_out67 rfl e5.2.2.2.1 ?_
        exact Or.inr ⟨rfl, f, by unfold lPlace; simp only [eb, f1, e4, Except.bind], (e5.tr g4).b (by omega) (by omega)⟩
      intro v_48 M_48 q_48
      obtain ⟨a1, f2, e5, e8, e9⟩ := q_48
      cases e5
      obtain ⟨N2, j2⟩ := N1.S e9
      have g5 := g4.tr e9.1
      have bx := (inb_v (a := 0) (b := 19) (pAfter_lt f2) (by decide) (by decide)).2
      obtain ⟨t4, r4⟩ := e2.qI (k := 112) (x := nI a1.1) (t3.S e9) e8 N2.1 (by decide) (Nat.le_refl _)
      have N3 := N2.I (j := 112) (x := nI a1.1) (Or.inl rfl)
      have x3 : jm_I (js_I M_48 (jm_Z M_19) 112 (nI a1.1)) (jm_Z M_19) 112 = nI a1.1 := jI_same
      have g6 := g5.tr (jsm.I (E := xE v) (a := jm_Z M_19) (k := 112) (v := nI a1.1) (Or.inr (by omega)))
      clear hS hv kp
      have hS := e8.S
      have hv := e8.2.1.1
      have kp := N2.1
      dsimp only [Option.toList, List.nil_append, List.cons_append]
      refine jx_putI (pc := 51) jf_X2_214_6 rfl dX2_placeLine_51 rfl rfl (kp) (by decide) ?_
      refine jw_aload_n (pc := 54) dX2_placeLine_54 rfl ?_
      refine jx_cVt (mi1 := mi_X2_comma) (pc := 55) rfl dX2_placeLine_55 lk_X2_217 rfl fi_X2_comma rfl rfl rfl (by decide) (is_66 hS) (t_X2_comma hG r4) (by first | decide | omega) rfl rfl (by decide) ?_ ?_
      rotate_left
      · intro M_55 q_55
        obtain ⟨f, e4, e5⟩ := q_55
        refine jx_out67 rfl e5.2.2.2.1 ?_
        exact Or.inr ⟨rfl, f, by unfold lPlace; simp only [eb, f1, f2, e4, Except.bind], (e5.tr g6).b (by omega) (by omega)⟩
      intro v_55 M_55 q_55
      obtain ⟨e0, p2, f3, e10, e11⟩ := q_55
      cases e0
      obtain ⟨N4, j4⟩ := N3.S e11
      have x4 := (j4.2.2.1 _).trans x3
      have g7 := g6.tr e11.1
      clear hS hv kp
      have hS := e10.S
      have hv := e10.2.1.1
      have kp := N4.1
      dsimp only [Option.toList, List.nil_append, List.cons_append]
      refine jw_aload_n (pc := 58) dX2_placeLine_58 rfl ?_
      refine jw_aload_n (pc := 59) dX2_placeLine_59 rfl ?_
      refine jw_iconst (pc := 60) dX2_placeLine_60 ic_0 ?_
      refine jw_bipush (pc := 61) dX2_placeLine_61 bp_19 ?_
      refine jx_cVt (mi1 := mi_X2_number) (pc := 63) rfl dX2_placeLine_63 lk_X2_146 rfl fi_X2_number rfl rfl rfl (by decide) (is_66 hS) (t_X2_number hG e10) (by first | decide | omega) rfl rfl (by simp only [List.map_cons, List.map_nil, List.sum_cons, List.sum_nil, cat_i, cat_l, jr_cat]; decide) ?_ ?_
      rotate_left
      · intro M_63 q_63
        obtain ⟨f, e4, e5⟩ := q_63
        refine jx_out67 rfl e5.2.2.2.1 ?_
        exact Or.inr ⟨rfl, f, by unfold lPlace; simp only [eb, f1, f2, f3, e4, Except.bind], (e5.tr g7).b (by omega) (by omega)⟩
      intro v_63 M_63 q_63
      obtain ⟨a2, f4, e5, e12, e13⟩ := q_63
      cases e5
      obtain ⟨N5, j5⟩ := N4.S e13
      have x5 := (j5.2.2.1 _).trans x4
      have by' := (inb_v (a := 0) (b := 19) (pNum_lt f4) (by decide) (by decide)).2
      obtain ⟨t6, r6⟩ := e2.qI (k := 113) (x := nI a2.1) ((t4.S e11).S e13) e12 N5.1 (by decide) (Nat.le_refl _)
      have N6 := N5.I (j := 113) (x := nI a2.1) (Or.inr rfl)
      have g8 := g7.tr (e13.1.tr (jsm.I (E := xE v) (a := jm_Z M_19) (k := 113) (v := nI a2.1) (Or.inr (by omega))))
      clear hS hv kp
      have hS := e12.S
      have hv := e12.2.1.1
      have kp := N5.1
      have c6 := xi_np r6.2.1
      have v6 := r6.1.2.2.2.2.2.1
      dsimp only [Option.toList, List.nil_append, List.cons_append]
      refine jx_putI (pc := 66) jf_X2_220_6 rfl dX2_placeLine_66 rfl rfl (kp) (by decide) ?_
      refine jw_aload_n (pc := 69) dX2_placeLine_69 rfl ?_
      refine jx_getRs (pc := 70) (jf_X2_120_1.r) rfl dX2_placeLine_70 rfl (is_66 hS) (by decide) (v6) ?_
      refine jx_getRs (pc := 73) jg_X2_223_5 rfl dX2_placeLine_73 rfl (vis hv) (by decide) (vr_1 hv) ?_
      refine jw_aload_n (pc := 76) dX2_placeLine_76 rfl ?_
      refine jx_getRs (pc := 77) (jf_X2_120_1.r) rfl dX2_placeLine_77 rfl (is_66 hS) (by decide) (v6) ?_
      refine jx_getIs (pc := 80) (jf_X2_156_5.r) rfl dX2_placeLine_80 rfl (vis hv) (by decide) (c6) ?_
      refine jw_aload_n (pc := 83) dX2_placeLine_83 rfl ?_
      refine jw_aast (t := 5) (c := 6) (pc := 84)  (by decide) dX2_placeLine_84 rfl (by omega) (vok_1 hv) rfl kp.1 (by decide) kp.2.2 kp.2.1 (r := _) rfl (Or.inl rfl) rfl (by rw [vnn_1 r6.2.1.1]; omega) ?_
      refine jw_aload_n (pc := 85) dX2_placeLine_85 rfl ?_
      refine jx_getRs (pc := 86) (jf_X2_120_1.r) rfl dX2_placeLine_86 rfl (is_66 hS) (by decide) (v6) ?_
      refine jw_dup (pc := 89) dX2_placeLine_89 (jis2_r _) ?_
      refine jx_getIs (pc := 90) (jf_X2_156_5.r) rfl dX2_placeLine_90 rfl (vis hv) (by decide) (c6) ?_
      refine jw_iconst (pc := 93) dX2_placeLine_93 ic_1 ?_
      first | refine jx_iadd (pc := 94) dX2_placeLine_94 ?_ | refine jw_iadd (pc := 94) dX2_placeLine_94 ?_
      refine jx_putI (pc := 95) jf_X2_156_5 rfl dX2_placeLine_95 rfl rfl (vis hv) (by decide) ?_
      refine jw_return (pc := 98) dX2_placeLine_98 rfl ?_
      have hu := (pFresh_ok f1).2.2.2
      have hR := r6.place (q := jm_Z M_19) (o := o) (w := w.1) (x := a1.1) (y := a2.1) hs bx by' hu N6.1 (by omega) N6.2.2.1 ((jI_ne (by decide)).trans x5) jI_same N6.2.2.2.1 N6.2.2.2.2.1 ho N6.2.2.2.2.2
      exact Or.inl ⟨_, rfl, rfl, (vPlace V w.1 a1.1 a2.1, a2.2), by unfold lPlace; simp only [eb, f1, f2, f3, f4, Except.bind], hR.b (by omega) (by omega), g8.tr ((jsm.C (Or.inr (by omega))).tr (jsm.I (Or.inr (by omega))))⟩
  · have eb : pBegin (chI σ n) n (decide (V 0 0 < 10)) 5 p = .error (5, tkA (chI σ n) n p) := by rw [decide_eq_false hs]; rfl
    refine jw_aload_n (pc := 0) dX2_placeLine_0 rfl ?_
    refine jw_aload_n (pc := 1) dX2_placeLine_1 rfl ?_
    refine jx_getRs (pc := 2) (jf_X2_120_1.r) rfl dX2_placeLine_2 rfl (is_66 hS) (by decide) (h.1.2.2.2.2.2.1) ?_
    refine jx_getIs (pc := 5) (jf_X2_156_5.r) rfl dX2_placeLine_5 rfl (vis hv) (by decide) (hst) ?_
    refine jw_bipush (pc := 8) dX2_placeLine_8 bp_10 ?_
    first | refine jx_icmp_ge (pc := 10) (tgt := 17) dX2_placeLine_10 (by decide) (by omega) (by omega) ?_ ?_ | refine jw_icmp_ge (pc := 10) (tgt := 17) dX2_placeLine_10 (by decide) ?_ ?_
    · intro h_10
      refine jw_iconst (pc := 17) dX2_placeLine_17 ic_0 ?_
      refine jw_iconst (pc := 18) dX2_placeLine_18 ic_5 ?_
      refine jx_cVt (mi1 := mi_X2_begins) (pc := 19) rfl dX2_placeLine_19 lk_X2_181 rfl fi_X2_begins rfl rfl rfl (by decide) (is_66 hS) (t_X2_begins (b := false) (k := 5) hG h) (by first | decide | omega) rfl rfl (by decide) ?_ ?_
      rotate_left
      · intro M_19 q_19
        obtain ⟨f, e1, e2⟩ := q_19
        cases e1
        refine jx_out67 rfl e2.2.2.2.1 ?_
        exact Or.inr ⟨rfl, _, by unfold lPlace; rw [eb]; rfl, e2.j jsm.rf⟩
      intro v_19 M_19 q_19
      obtain ⟨e0, p1, e1, e2, e3⟩ := q_19
      cases e1
    · intro h_10
      omega

end JXQ
