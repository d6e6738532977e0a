/-! ===== x reads: persons ===== -/
section JXQ2
variable {G : Gh} {M : Mm} {σ : Sg} {n v p zb sb' : Nat} {V : Vt}
/-- a person in the making, with its habits L -/
def psN (M : Mm) (q hb o w k : Nat) (L : List (Nat × Nat × Nat)) : Prop := (jis M q 7 ∧ 104 ≤ q ∧ jm_I M q 111 = nI k ∧ jm_R M q 110 = some o ∧ jTx M o w ∧ jm_R M q 115 = some hb ∧ jok M hb 8 ∧ jm_N M hb = 3 ∧ 104 ≤ hb) ∧ jm_I M q 116 = nI L.length ∧ ∀ (i : Nat) (h : Nat × Nat × Nat), L[i]? = some h → ∃ ob, jm_C M hb i = some ob ∧ jHab M ob h ∧ 104 ≤ ob
/-- kinds of habits -/
def psK (L : List (Nat × Nat × Nat)) (m : Nat) : Prop := ∀ (i : Nat) (h : Nat × Nat × Nat), L[i]? = some h → 8 ≤ h.1 ∧ h.1 < m
theorem jHab.al {M M' : Mm} {ob : Nat} {h : Nat × Nat × Nat} (g : jHab M ob h) (al : jal M M' ob) (hz : jm_Z M ≤ jm_Z M') : jHab M' ob h := ⟨g.1.al al hz, fun z => (al.2.2.1 _).trans (g.2.1 z), fun z => ⟨(al.2.2.1 _).trans (g.2.2 z).1, (al.2.2.1 _).trans (g.2.2 z).2⟩⟩
/-- what keeps a person in the making -/
theorem psN.k {M' : Mm} {q hb o w k m : Nat} {L : List (Nat × Nat × Nat)} (h : psN M q hb o w k L) (hL : psK L m) (hm : m ≤ 11) (hz : jm_Z M ≤ jm_Z M') (hal : ∀ a, 104 ≤ a → a < jm_Z M → (jm_K M a = 8 ∨ jm_K M a = 108 ∨ (9 ≤ jm_K M a ∧ jm_K M a ≤ m)) → jal M M' a) (ht : ∀ o c, jTx M o c → jTx M' o c) : psN M' q hb o w k L ∧ jal M M' q := by
  obtain ⟨⟨h1, h2, h3, h4, h5, h6, h7, h8, h9⟩, h10, h11⟩ := h
  have aq := hal q h2 h1.2.1 (Or.inl h1.1)
  have ah := hal hb h9 h7.2.1 (Or.inr (Or.inl h7.1))
  refine ⟨⟨⟨h1.al aq hz, h2, (aq.2.2.1 _).trans h3, (aq.2.2.2.2.1 _).trans h4, ht _ _ h5, (aq.2.2.2.2.1 _).trans h6, h7.al ah hz, ah.2.1.trans h8, h9⟩, (aq.2.2.1 _).trans h10, fun i x hi => ?_⟩, aq⟩
  obtain ⟨ob, b1, b2, b3⟩ := h11 i x hi
  have hk := hL i x hi
  exact ⟨ob, (ah.2.2.2.2.2.2.2 _).trans b1, b2.al (hal ob b3 b2.1.2.1 (by rw [b2.1.1]; omega)) hz, b3⟩
theorem psN.S {M' : Mm} {q hb o w k m : Nat} {L : List (Nat × Nat × Nat)} (h : psN M q hb o w k L) (hL : psK L m) (hm : m ≤ 11) (g : xS v M M') : psN M' q hb o w k L ∧ jal M M' q := h.k hL hm g.1.1 (fun a z1 z2 z3 => g.2.2.1 a z2 (by unfold xE0; omega) (by omega)) g.2.2.2
theorem psN.nw {q hb o w k m c s : Nat} {L : List (Nat × Nat × Nat)} (hS : jSh M) (h : psN M q hb o w k L) (hL : psK L m) (hm : m ≤ 11) : psN (js_new M c 0 s) q hb o w k L ∧ jal M (js_new M c 0 s) q := h.k hL hm (by rw [jZ_n]; omega) (fun a z1 z2 z3 => jal_n a (by omega)) (fun o c q => q.fr (E := fun a => a = 62) (jsm.n rfl) (fun a z1 z2 => absurd z1 z2))
/-- a new habit's number -/
theorem psN.b {q hb o w k m ob j : Nat} {x : Int32} {L : List (Nat × Nat × Nat)} (h : psN M q hb o w k L) (hL : psK L m) (hm : m ≤ 11) (hob : jis M ob m) (hmm : 9 ≤ m) : psN (js_I M ob j x) q hb o w k L ∧ jal M (js_I M ob j x) q := h.k hL hm (Nat.le_refl _) (fun a z1 z2 z3 => jal_I a (fun z => by subst z; have := hob.1; omega)) (fun o c q => q.fr (E := fun a => a = ob) (jsm.I rfl) (fun a z1 z2 z3 => by subst z1; rw [hob.1]; omega))
theorem psK.add {L : List (Nat × Nat × Nat)} {m c : Nat} {h1 : Nat × Nat × Nat} (hL : psK L m) (hc : m ≤ c) (h8 : 8 ≤ c) (e : h1.1 = c) : psK (L ++ [h1]) (c + 1) := by
  intro i h hi
  by_cases hl : i < L.length
  · rw [List.getElem?_append_left hl] at hi
    have := hL i h hi; omega
  · rw [List.getElem?_append_right (by omega)] at hi
    have hm := List.mem_of_getElem? hi
    rw [List.mem_singleton] at hm; subst hm; omega
theorem psK.wk {L : List (Nat × Nat × Nat)} {m c : Nat} (hL : psK L m) (hc : m ≤ c) : psK L c := fun i h hi => by have := hL i h hi; omega
/-- a habit is added -/
theorem psN.has {q hb o w k ob : Nat} {h1 : Nat × Nat × Nat} {L : List (Nat × Nat × Nat)} (h : psN M q hb o w k L) (ho : jHab M ob h1) (h104 : 104 ≤ ob) (h7 : ∀ (i : Nat) (x : Nat × Nat × Nat), (L ++ [h1])[i]? = some x → 8 ≤ x.1) : psN (js_I (js_C M hb L.length (some ob)) q 116 (nI (L.length + 1))) q hb o w k (L ++ [h1]) := by
  obtain ⟨⟨e1, e2, e3, e4, e5, e6, e7, e8, e9⟩, e10, e11⟩ := h
  refine ⟨⟨e1, e2, ?_, e4, e5.fr (E := fun a => a = q ∨ a = hb) ((jsm.C (Or.inr rfl)).tr (jsm.I (Or.inl rfl))) (fun a z _ _ => ?_), e6, e7, e8, e9⟩, ?_, fun i x hi => ?_⟩
  · rw [jI_ne (by decide)]; exact e3
  · rcases z with z | z <;> subst z
    · rw [e1.1]; decide
    · rw [e7.1]; decide
  · rw [jI_I, if_pos ⟨rfl, rfl⟩, List.length_append]; rfl
  · have hk7 := h7 i x hi
    have key : ∀ ob' , jHab M ob' x → jHab (js_I (js_C M hb L.length (some ob)) q 116 (nI (L.length + 1))) ob' x := fun ob' g => by
      have nq : ¬ ob' = q := fun z => by have := g.1.1; rw [z, e1.1] at this; omega
      refine ⟨g.1, fun z => ?_, fun z => ⟨?_, ?_⟩⟩
      · rw [jI_I, if_neg (fun y => nq y.2)]; exact g.2.1 z
      · rw [jI_I, if_neg (fun y => nq y.2)]; exact (g.2.2 z).1
      · rw [jI_I, if_neg (fun y => nq y.2)]; exact (g.2.2 z).2
    by_cases hl : i < L.length
    · rw [List.getElem?_append_left hl] at hi
      obtain ⟨ob', b1, b2, b3⟩ := e11 i x hi
      exact ⟨ob', by rw [jC_I, jC_C, if_neg (by omega)]; exact b1, key _ b2, b3⟩
    · rw [List.getElem?_append_right (by omega)] at hi
      have hm := List.mem_of_getElem? hi
      rw [List.mem_singleton] at hm
      have : i = L.length := by
        have := (List.getElem?_eq_some_iff.mp hi).1
        simp at this; omega
      subst hm; subst this
      exact ⟨ob, by rw [jC_I, jC_C, if_pos ⟨rfl, rfl⟩], key _ ho, h104⟩
/-- a person is written -/
theorem xRd.person {q hb o w at' bb aw f t : Nat} (h : xRd M σ n v V p zb sb') (hs : V 0 1 < 5) (hat : at' < V 0 0) (hbb : bb ≤ 1) (haw : aw = 0 ∨ (2 ≤ aw ∧ aw ≤ 9)) (hf : f ≤ 99) (ht : t ≤ 99) (hft : f < t ∨ (f = 0 ∧ t = 0)) (hu : ∀ k, k < V 0 13 → ¬ V 25 k = w) (hvq : v ≤ q) (hvo : v ≤ o) (hN : psN M q hb o w (V 0 1) ((if bb = 0 then [] else [(8, 0, 0)]) ++ ((if aw = 0 then [] else [(9, aw, 0)]) ++ (if t = 0 then [] else [(10, f, t)])))) (i1 : jm_I M q 117 = nI at') : xRd (js_I (js_C M (v + 2) (V 0 1) (some q)) v 98 (nI (V 0 1 + 1))) σ n v (vPerson V w at' bb aw f t) p zb sb' := by
  have hWf := h.2.2.2.1
  have h3' := wf_person (u := w) hWf hs hat hbb haw hf ht hft
  have hw' := nw_vq (at' := at') (bb := bb) (aw := aw) (f := f) (t := t) h.2.2.2.2 hu
  obtain ⟨b1, b2, b3, b4, b5⟩ := h
  obtain ⟨⟨n1, n2, n3, n4, n5, n6, n7, n8, n9⟩, n10, n11⟩ := hN
  have hvs := b2.1
  have h104 := hvs.2.1
  have nvq : ¬ q = v := fun z => by have := n1.1; rw [z, hvs.1] at this; omega
  have k1 : jm_K M (v + 2) = 106 := (hvs.2.2.2 1 (by decide)).1
  have g : jsm (fun a => a = v ∨ a = v + 2) M (js_I (js_C M (v + 2) (V 0 1) (some q)) v 98 (nI (V 0 1 + 1))) := (jsm.C (Or.inr rfl)).tr (jsm.I (Or.inl rfl))
  have hK : ∀ a, (a = v ∨ a = v + 2) → jm_K M a = 6 ∨ jm_K M a = 106 := fun a z => by
    rcases z with z | z <;> subst z
    · exact Or.inl hvs.1
    · exact Or.inr k1
  have hKo : ∀ a, (a = v ∨ a = v + 2) → jm_K M a ≠ 14 ∧ jm_K M a ≠ 101 := fun a z => by have := hK a z; omega
  have hk : ∀ b, 104 ≤ b → b < jm_Z M → (jm_K M b = 7 ∨ obk (jm_K M b)) → jal M (js_I (js_C M (v + 2) (V 0 1) (some q)) v 98 (nI (V 0 1 + 1))) b := fun b z1 z2 z3 => g.2.2 b z2 (fun z => by have := hK b z; unfold obk at z3; omega)
  have hc : ∀ a, a < V 0 1 → jm_C (js_I (js_C M (v + 2) (V 0 1) (some q)) v 98 (nI (V 0 1 + 1))) (v + 2) a = jm_C M (v + 2) a := fun a ha => by rw [jC_I, jC_C, if_neg (by omega)]
  have hc0 : jm_C (js_I (js_C M (v + 2) (V 0 1) (some q)) v 98 (nI (V 0 1 + 1))) (v + 2) (V 0 1) = some q := by rw [jC_I, jC_C, if_pos ⟨rfl, rfl⟩]
  have hc2 : ∀ i a, ¬ i = 2 → jm_C (js_I (js_C M (v + 2) (V 0 1) (some q)) v 98 (nI (V 0 1 + 1))) (v + i) a = jm_C M (v + i) a := fun i a hi => by rw [jC_I, jC_C, if_neg (by omega)]
  have e0 : ∀ k, ¬ k = 1 → ¬ k = 13 → vPerson V w at' bb aw f t 0 k = V 0 k := fun k z1 z2 => by unfold vPerson vName; rw [vS_ne (by omega), vS_ne (by omega), vS_ne (by omega), vS_ne (by omega), vS_ne (by omega), vS_ne (by omega), vS_ne (by omega), vS_ne (by omega), vS_ne (by omega), vS_ne (by omega), vS_ne (by omega)]
  have e1 : vPerson V w at' bb aw f t 0 1 = V 0 1 + 1 := vS_eq _ _ _ _
  have er : ∀ j k, 1 ≤ j → j < 24 → (j < 11 ∨ 15 < j) → vPerson V w at' bb aw f t j k = V j k := fun j k z1 z2 z3 => by unfold vPerson vName; rw [vS_ne (by omega), vS_ne (by omega), vS_ne (by omega), vS_ne (by omega), vS_ne (by omega), vS_ne (by omega), vS_ne (by omega), vS_ne (by omega), vS_ne (by omega), vS_ne (by omega), vS_ne (by omega)]
  have ep : ∀ j k, 1 ≤ j → j < 25 → ¬ k = V 0 1 → vPerson V w at' bb aw f t j k = V j k := fun j k z1 z2 z3 => by unfold vPerson vName; rw [vS_ne (by omega), vS_ne (by omega), vS_ne (by omega), vS_ne (by omega), vS_ne (by omega), vS_ne (by omega), vS_ne (by omega), vS_ne (by omega), vS_ne (by omega), vS_ne (by omega), vS_ne (by omega)]
  have f11 : vPerson V w at' bb aw f t 11 (V 0 1) = at' := by unfold vPerson; rw [vS_ne (by omega), vS_ne (by omega), vS_ne (by omega), vS_ne (by omega), vS_ne (by omega), vS_ne (by omega), vS_eq]
  have f12 : vPerson V w at' bb aw f t 12 (V 0 1) = bb := by unfold vPerson; rw [vS_ne (by omega), vS_ne (by omega), vS_ne (by omega), vS_ne (by omega), vS_ne (by omega), vS_eq]
  have f13 : vPerson V w at' bb aw f t 13 (V 0 1) = aw := by unfold vPerson; rw [vS_ne (by omega), vS_ne (by omega), vS_ne (by omega), vS_ne (by omega), vS_eq]
  have f14 : vPerson V w at' bb aw f t 14 (V 0 1) = f := by unfold vPerson; rw [vS_ne (by omega), vS_ne (by omega), vS_ne (by omega), vS_eq]
  have f15 : vPerson V w at' bb aw f t 15 (V 0 1) = t := by unfold vPerson; rw [vS_ne (by omega), vS_ne (by omega), vS_eq]
  have f24 : vPerson V w at' bb aw f t 24 (V 0 1) = w := by unfold vPerson; rw [vS_ne (by omega), vS_eq]
  have hhab : habL (vPerson V w at' bb aw f t) (V 0 1) = (if bb = 0 then [] else [(8, 0, 0)]) ++ ((if aw = 0 then [] else [(9, aw, 0)]) ++ (if t = 0 then [] else [(10, f, t)])) := by
    unfold habL; rw [f12, f13, f14, f15]
  have hI : ∀ x, ¬ x = v → ∀ j, jm_I (js_I (js_C M (v + 2) (V 0 1) (some q)) v 98 (nI (V 0 1 + 1))) x j = jm_I M x j := fun x hx j => by rw [jI_I, if_neg (fun z => hx z.2)]; rfl
  refine ⟨b1.up g (fun a z => ⟨by omega, fun _ => hKo a z⟩), ⟨hvs, b2.2.1.up (i0 := 1) (x := V 0 1 + 1) (fun k hk => ?_) (fun k => ?_), ?_, fun c hc' => ?_, fun c hc' => ?_, fun c hc' => ?_⟩, ⟨fun c hc' => ?_, fun c hc' => ?_⟩, h3', hw'⟩
  · by_cases e : k = 1
    · rw [if_pos e, e, e1]
    · rw [if_neg e, e0 _ e (by omega)]
  · rw [jI_I]
    by_cases e : k = 97 + 1
    · rw [if_pos ⟨by omega, rfl⟩, if_pos e]
    · rw [if_neg (by omega), if_neg e]; rfl
  · have ha := jVa_iff.mp b2.2.2.1
    refine jVa_iff.mpr (fun r h1 h2 k hk => ?_)
    rw [er _ _ (by omega) (by omega) (by omega)]
    have hcr : 3 ≤ cR r ∧ cR r ≤ 7 := by
      unfold cR; split
      · omega
      · split
        · omega
        · split <;> omega
    rw [e0 _ (by omega) (by omega)] at hk
    exact ha r h1 h2 k hk
  · rw [e0 0 (by decide) (by decide)] at hc'
    exact (b2.2.2.2.1 c hc').k g.1 (fun b z1 z2 z3 => hk b z1 z2 (Or.inl z3)) (hc2 1 c (by decide)) (er _ _ (by decide) (by decide) (by decide)) (er _ _ (by decide) (by decide) (by decide)) (er _ _ (by decide) (by decide) (by decide))
  · rw [e1] at hc'
    by_cases e : c = V 0 1
    · subst e
      refine ⟨q, hc0, n1, n2, (hI q nvq _).trans n3, by rw [f11]; exact (hI q nvq _).trans i1, by rw [hhab]; exact (hI q nvq _).trans n10, hb, n6, n7, n8, n9, fun i x hi => ?_⟩
      rw [hhab] at hi
      obtain ⟨ob, d1, d2, d3⟩ := n11 i x hi
      have hx := obk_h (V := vPerson V w at' bb aw f t) (q := V 0 1) (i := i) (h := x) (by rw [hhab]; exact hi)
      have nob : ¬ ob = v := fun z => by have := d2.1.1; rw [z, hvs.1] at this; unfold obk at hx; omega
      exact ⟨ob, by rw [jC_I, jC_C, if_neg (fun z => by have := n7.1; rw [show hb = v + 2 from by omega, k1] at this; omega)]; exact d1, ⟨d2.1, fun z => (hI ob nob _).trans (d2.2.1 z), fun z => ⟨(hI ob nob _).trans (d2.2.2 z).1, (hI ob nob _).trans (d2.2.2 z).2⟩⟩, d3⟩
    · exact (b2.2.2.2.2.1 c (by omega)).k g.1 (fun b z1 z2 z3 => hk b z1 z2 (Or.inr z3)) (hc c (by omega)) (ep _ _ (by decide) (by decide) e) (habL_cg (ep _ _ (by decide) (by decide) e) (ep _ _ (by decide) (by decide) e) (ep _ _ (by decide) (by decide) e) (ep _ _ (by decide) (by decide) e))
  · rw [e0 2 (by decide) (by decide)] at hc'
    exact (b2.2.2.2.2.2 c hc').k g.1 (fun b z1 z2 z3 => hk b z1 z2 (Or.inr z3)) (hc2 3 c (by decide)) (er _ _ (by decide) (by decide) (by decide)) (er _ _ (by decide) (by decide) (by decide)) (er _ _ (by decide) (by decide) (by decide)) (er _ _ (by decide) (by decide) (by decide)) (er _ _ (by decide) (by decide) (by decide))
  · rw [e0 0 (by decide) (by decide)] at hc'
    obtain ⟨q', o', d1, d2, d3, d4, d5, d6⟩ := b3.1 c hc'
    exact ⟨q', o', (hc2 1 c (by decide)).trans d1, d2, d3, d4, d5, by rw [er _ _ (by decide) (by decide) (by decide)]; exact d6.fr g (fun a z1 z2 z3 => hKo a z1)⟩
  · rw [e1] at hc'
    by_cases e : c = V 0 1
    · subst e
      exact ⟨q, o, hc0, n1, hvq, n4, by omega, by rw [f24]; exact n5.fr g (fun a z1 z2 z3 => hKo a z1)⟩
    · obtain ⟨q', o', d1, d2, d3, d4, d5, d6⟩ := b3.2 c (by omega)
      exact ⟨q', o', (hc c (by omega)).trans d1, d2, d3, d4, d5, by rw [ep _ _ (by decide) (by decide) e]; exact d6.fr g (fun a z1 z2 z3 => hKo a z1)⟩
end JXQ2
