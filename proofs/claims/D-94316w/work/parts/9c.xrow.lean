/-! ===== x reads: what changes in its valley ===== -/
def obk (k : Nat) : Prop := k = 8 ∨ k = 9 ∨ k = 10 ∨ k = 11 ∨ k = 12 ∨ k = 108
theorem jVp.k {M M1 : Mm} {v a : Nat} {V V' : Vt} (h : jVp M v V a) (hz : jm_Z M ≤ jm_Z M1) (hk : ∀ b, 104 ≤ b → b < jm_Z M → jm_K M b = 7 → jal M M1 b) (hc : jm_C M1 (v + 1) a = jm_C M (v + 1) a) (h1 : V' 1 a = V 1 a) (h2 : V' 2 a = V 2 a) (h3 : V' 3 a = V 3 a) : jVp M1 v V' a := by
  obtain ⟨p, b1, b2, b3, b4, b5, b6, b7⟩ := h
  have al := hk p b3 b2.2.1 b2.1
  exact ⟨p, hc.trans b1, b2.al al hz, b3, (al.2.2.1 _).trans b4, by rw [h1]; exact (al.2.2.1 _).trans b5, by rw [h2]; exact (al.2.2.1 _).trans b6, by rw [h3]; exact (al.2.2.1 _).trans b7⟩
theorem habL_cg {V V' : Vt} {q : Nat} (h12 : V' 12 q = V 12 q) (h13 : V' 13 q = V 13 q) (h14 : V' 14 q = V 14 q) (h15 : V' 15 q = V 15 q) : habL V' q = habL V q := by
  unfold habL; rw [h12, h13, h14, h15]
theorem obk_h {h : Nat × Nat × Nat} {V : Vt} {q i : Nat} (e : (habL V q)[i]? = some h) : obk (h.1 + 1) := by
  have := List.mem_of_getElem? e
  unfold habL at this
  rw [List.mem_append, List.mem_append] at this
  unfold obk
  rcases this with t | t | t
  · split at t
    · cases t
    · rw [List.mem_singleton] at t; subst t; exact Or.inr (Or.inl rfl)
  · split at t
    · cases t
    · rw [List.mem_singleton] at t; subst t; exact Or.inr (Or.inr (Or.inl rfl))
  · split at t
    · cases t
    · rw [List.mem_singleton] at t; subst t; exact Or.inr (Or.inr (Or.inr (Or.inl rfl)))
theorem jVq.k {M M1 : Mm} {v q : Nat} {V V' : Vt} (h : jVq M v V q) (hz : jm_Z M ≤ jm_Z M1) (hk : ∀ b, 104 ≤ b → b < jm_Z M → obk (jm_K M b) → jal M M1 b) (hc : jm_C M1 (v + 2) q = jm_C M (v + 2) q) (h11 : V' 11 q = V 11 q) (hh : habL V' q = habL V q) : jVq M1 v V' q := by
  obtain ⟨p, a1, a2, a3, a4, a5, a6, hb9, a7, a8, a9, a11, a10⟩ := h
  have hp := hk p a3 a2.2.1 (by rw [a2.1]; exact Or.inl rfl)
  have hp1 := hk hb9 a11 a8.2.1 (by rw [a8.1]; exact Or.inr (Or.inr (Or.inr (Or.inr (Or.inr rfl)))))
  refine ⟨p, hc.trans a1, a2.al hp hz, a3, by rw [hp.2.2.1]; exact a4, by rw [hp.2.2.1, h11]; exact a5, by rw [hp.2.2.1, hh]; exact a6, hb9, by rw [hp.2.2.2.2.1]; exact a7, a8.al hp1 hz, by rw [hp1.2.1]; exact a9, a11, fun i hb hi => ?_⟩
  rw [hh] at hi
  obtain ⟨o, b1, ⟨b2, b3, b4⟩, b5⟩ := a10 i hb hi
  have ho := hk o b5 b2.2.1 (by rw [b2.1]; exact obk_h hi)
  exact ⟨o, by rw [hp1.2.2.2.2.2.2.2]; exact b1, ⟨b2.al ho hz, fun z => by rw [ho.2.2.1]; exact b3 z, fun z => by rw [ho.2.2.1, ho.2.2.1]; exact b4 z⟩, b5⟩
theorem jVe.k {M M1 : Mm} {v e : Nat} {V V' : Vt} (h : jVe M v V e) (hz : jm_Z M ≤ jm_Z M1) (hk : ∀ b, 104 ≤ b → b < jm_Z M → obk (jm_K M b) → jal M M1 b) (hc : jm_C M1 (v + 3) e = jm_C M (v + 3) e) (h16 : V' 16 e = V 16 e) (h17 : V' 17 e = V 17 e) (h18 : V' 18 e = V 18 e) (h19 : V' 19 e = V 19 e) (h20 : V' 20 e = V 20 e) : jVe M1 v V' e := by
  obtain ⟨o, p, a1, a2, a3, a4, a5, a6, a7⟩ := h
  have ho := hk o a3 a2.2.1 (by rw [a2.1]; exact Or.inr (Or.inr (Or.inr (Or.inr (Or.inl rfl)))))
  have hp := hk p a5.2 a5.1.2.1 (by rw [a5.1.1]; exact Or.inl rfl)
  refine ⟨o, p, hc.trans a1, a2.al ho hz, a3, by rw [ho.2.2.2.2.1]; exact a4, ⟨a5.1.al hp hz, a5.2⟩, by rw [hp.2.2.1, h16]; exact a6, ?_⟩
  simp only [ho.2.2.1, h17, h18, h19, h20]
  exact a7
theorem jVi_iff {M : Mm} {v : Nat} {V : Vt} : jVi M v V ↔ ∀ i, i < 13 → jm_I M v (97 + i) = nI (V 0 i) := by
  constructor
  · intro h i hi
    obtain ⟨a0, a1, a2, a3, a4, a5, a6, a7, a8, a9, a10, a11, a12⟩ := h
    match i, hi with
    | 0, _ => exact a0
    | 1, _ => exact a1
    | 2, _ => exact a2
    | 3, _ => exact a3
    | 4, _ => exact a4
    | 5, _ => exact a5
    | 6, _ => exact a6
    | 7, _ => exact a7
    | 8, _ => exact a8
    | 9, _ => exact a9
    | 10, _ => exact a10
    | 11, _ => exact a11
    | 12, _ => exact a12
    | n + 13, h => exact absurd h (by omega)
  · exact fun h => ⟨h 0 (by decide), h 1 (by decide), h 2 (by decide), h 3 (by decide), h 4 (by decide), h 5 (by decide), h 6 (by decide), h 7 (by decide), h 8 (by decide), h 9 (by decide), h 10 (by decide), h 11 (by decide), h 12 (by decide)⟩
theorem jVi.up {M M1 : Mm} {v i0 x : Nat} {V V' : Vt} (h : jVi M v V) (hV : ∀ i, i < 13 → V' 0 i = if i = i0 then x else V 0 i) (hM : ∀ k, jm_I M1 v k = if k = 97 + i0 then nI x else jm_I M v k) : jVi M1 v V' := by
  rw [jVi_iff] at h ⊢
  intro i hi
  rw [hM, hV i hi]
  by_cases e : i = i0
  · rw [if_pos (by omega), if_pos e]
  · rw [if_neg (by omega), if_neg e]; exact h i hi
theorem vK_100 {j : Nat} (h : j < 7) : vK.getD (j + 3) 0 = 100 := by
  have : ∀ j, j < 7 → vK.getD (j + 3) 0 = 100 := by decide
  exact this j h
/-- rows and numbers change -/
theorem jVx.rows {E : Nat → Prop} {M M1 : Mm} {v : Nat} {V V' : Vt} (h : jVx M v V) (g : jsm E M M1) (hE : ∀ a, E a → a = v ∨ (v + 4 ≤ a ∧ a ≤ v + 10)) (hS : jVs M1 v) (hi : jVi M1 v V') (ha : jVa M1 v V') (h0 : V' 0 0 = V 0 0) (h1 : V' 0 1 = V 0 1) (h2 : V' 0 2 = V 0 2) (hr : ∀ i k, (1 ≤ i ∧ i ≤ 3) ∨ (11 ≤ i ∧ i ≤ 20) → V' i k = V i k) : jVx M1 v V' := by
  obtain ⟨b1, b2, b3, b4, b5, b6⟩ := h
  have hz := b1.2.2.1
  have hk : ∀ b, 104 ≤ b → b < jm_Z M → (jm_K M b = 7 ∨ obk (jm_K M b)) → jal M M1 b := fun b q1 q2 q3 => g.2.2 b q2 (fun q => by
    have e : jm_K M b = 6 ∨ jm_K M b = 100 := by
      rcases hE b q with e | e
      · subst e; exact Or.inl b1.1
      · have := (b1.2.2.2 (b - v - 1) (by omega)).1
        rw [show v + (b - v - 1 + 1) = b by omega, show b - v - 1 = (b - v - 4) + 3 by omega, vK_100 (by omega)] at this
        exact Or.inr this
    unfold obk at q3
    omega)
  have hC : ∀ i k, 1 ≤ i → i ≤ 3 → jm_C M1 (v + i) k = jm_C M (v + i) k := fun i k q1 q2 => (g.2.2 (v + i) (by omega) (fun q => by have := hE _ q; omega)).2.2.2.2.2.2.2 k
  refine ⟨hS, hi, ha, fun a q => ?_, fun a q => ?_, fun a q => ?_⟩
  · exact (b4 a (h0 ▸ q)).k g.1 (fun b q1 q2 q3 => hk b q1 q2 (Or.inl q3)) (hC _ _ (by decide) (by decide)) (hr _ _ (by decide)) (hr _ _ (by decide)) (hr _ _ (by decide))
  · exact (b5 a (h1 ▸ q)).k g.1 (fun b q1 q2 q3 => hk b q1 q2 (Or.inr q3)) (hC _ _ (by decide) (by decide)) (hr _ _ (by decide)) (habL_cg (hr _ _ (by decide)) (hr _ _ (by decide)) (hr _ _ (by decide)) (hr _ _ (by decide)))
  · exact (b6 a (h2 ▸ q)).k g.1 (fun b q1 q2 q3 => hk b q1 q2 (Or.inr q3)) (hC _ _ (by decide) (by decide)) (hr _ _ (by decide)) (hr _ _ (by decide)) (hr _ _ (by decide)) (hr _ _ (by decide)) (hr _ _ (by decide))
/-- names stay -/
theorem jNx.k {M M1 : Mm} {v : Nat} {V V' : Vt} (h : jNx M v V) (h104 : 104 ≤ v) (hz : jm_Z M ≤ jm_Z M1) (hk : ∀ b, 104 ≤ b → b < jm_Z M → (jm_K M b = 7 ∨ jm_K M b = 8) → jm_K M1 b = jm_K M b ∧ ∀ k, jm_R M1 b k = jm_R M b k) (hc1 : ∀ a, a < V 0 0 → jm_C M1 (v + 1) a = jm_C M (v + 1) a) (hc2 : ∀ a, a < V 0 1 → jm_C M1 (v + 2) a = jm_C M (v + 2) a) (ht : ∀ o c, jTx M o c → jTx M1 o c) (h0 : V' 0 0 = V 0 0) (h1 : V' 0 1 = V 0 1) (h23 : ∀ a, V' 23 a = V 23 a) (h24 : ∀ a, V' 24 a = V 24 a) : jNx M1 v V' := by
  refine ⟨fun a ha => ?_, fun a ha => ?_⟩
  · rw [h0] at ha; rw [h23]
    obtain ⟨q, o, b1, b2, b3, b4, b5, b6⟩ := h.1 a ha
    have aq := hk q (by omega) b2.2.1 (Or.inl b2.1)
    exact ⟨q, o, (hc1 a ha).trans b1, ⟨aq.1.trans b2.1, Nat.lt_of_lt_of_le b2.2.1 hz, b2.2.2⟩, b3, (aq.2 _).trans b4, b5, ht _ _ b6⟩
  · rw [h1] at ha; rw [h24]
    obtain ⟨q, o, b1, b2, b3, b4, b5, b6⟩ := h.2 a ha
    have aq := hk q (by omega) b2.2.1 (Or.inr b2.1)
    exact ⟨q, o, (hc2 a ha).trans b1, ⟨aq.1.trans b2.1, Nat.lt_of_lt_of_le b2.2.1 hz, b2.2.2⟩, b3, (aq.2 _).trans b4, b5, ht _ _ b6⟩
section JXR
variable {G : Gh} {M : Mm} {σ : Sg} {n v p zb sb' : Nat} {V : Vt}
/-- what is read stays when no text, and nothing ahead of the valley, changes -/
theorem xBs.up {M1 : Mm} {E : Nat → Prop} (h : xBs M σ n p v zb sb') (g : jsm E M M1) (hE : ∀ a, E a → 104 ≤ a ∧ (a < jm_Z M → jm_K M a ≠ 14 ∧ jm_K M a ≠ 101)) : xBs M1 σ n p v zb sb' := by
  obtain ⟨b1, b2, b3, b4, b5, b6, b7⟩ := h
  have hK : ∀ a, E a → a ≠ 62 → a < jm_Z M → jm_K M a ≠ 14 ∧ jm_K M a ≠ 101 := fun a q1 q2 q3 => (hE a q1).2 q3
  have al : ∀ a, a < 104 → jal M M1 a := fun a q => g.2.2 a (by have := b1.2.2.2; omega) (fun q1 => by have := (hE a q1).1; omega)
  have a66 := al 66 (by decide)
  have hz := g.z (fun q => by have := (hE _ q).1; omega)
  refine ⟨b1.sm g (fun a q1 q2 q3 => by have := (hE a q3).1; omega), fun k hk => ((al 65 (by decide)).2.2.2.2.2.1 k).trans (b2 k hk), b3.fr g hK, b4, ?_, (a66.2.2.2.2.1 _).trans b6, by rw [hz.1, hz.2]; exact b7⟩
  obtain ⟨c1, c2, c3, c4, c5, c6⟩ := b5
  refine ⟨(a66.2.2.1 _).trans c1, (a66.2.2.1 _).trans c2, (a66.2.2.1 _).trans c3, (a66.2.2.1 _).trans c4, fun q => (a66.2.2.1 _).trans (c5 q), fun q => ?_⟩
  obtain ⟨o, d1, d2, d3⟩ := c6 q
  exact ⟨o, (a66.2.2.2.2.1 _).trans d1, d2, d3.fr g hK⟩
/-- rows and numbers -/
theorem xRd.rows {E : Nat → Prop} {M1 : Mm} {V' : Vt} (h : xRd M σ n v V p zb sb') (g : jsm E M M1) (hE : ∀ a, E a → a = v ∨ (v + 4 ≤ a ∧ a ≤ v + 10)) (hS : jVs M1 v) (hi : jVi M1 v V') (ha : jVa M1 v V') (h0 : V' 0 0 = V 0 0) (h1 : V' 0 1 = V 0 1) (h2 : V' 0 2 = V 0 2) (hr : ∀ i k, (1 ≤ i ∧ i ≤ 3) ∨ (11 ≤ i ∧ i ≤ 20) ∨ 23 ≤ i → V' i k = V i k) (hW : jWf V') (hw : vNw V') : xRd M1 σ n v V' p zb sb' := by
  obtain ⟨b1, b2, b3, b4, b5⟩ := h
  have hvs := b2.1
  have hK : ∀ a, E a → jm_K M a ≠ 14 ∧ jm_K M a ≠ 101 ∧ jm_K M a ≠ 7 ∧ jm_K M a ≠ 8 := fun b q => by
    rcases hE b q with e | e
    · subst e; rw [hvs.1]; decide
    · have := (hvs.2.2.2 (b - v - 1) (by omega)).1
      rw [show v + (b - v - 1 + 1) = b by omega, show b - v - 1 = (b - v - 4) + 3 by omega, vK_100 (by omega)] at this
      rw [this]; decide
  have hC : ∀ i k, 1 ≤ i → i ≤ 3 → jm_C M1 (v + i) k = jm_C M (v + i) k := fun i k q1 q2 => (g.2.2 (v + i) (by have := hvs.2.2.1; omega) (fun q => by have := hE _ q; omega)).2.2.2.2.2.2.2 k
  refine ⟨b1.up g (fun a q => ⟨by have := hE a q; have := hvs.2.1; omega, fun _ => ⟨(hK a q).1, (hK a q).2.1⟩⟩), b2.rows g hE hS hi ha h0 h1 h2 (fun i k q => hr i k (by omega)), b3.k hvs.2.1 g.1 (fun b q1 q2 q3 => ?_) (fun a _ => hC _ _ (by decide) (by decide)) (fun a _ => hC _ _ (by decide) (by decide)) (fun o c q => q.fr g (fun a q1 q2 q3 => ⟨(hK a q1).1, (hK a q1).2.1⟩)) h0 h1 (fun a => hr _ _ (by decide)) (fun a => hr _ _ (by decide)), hW, hw⟩
  have al := g.2.2 b q2 (fun q => by have := hK b q; omega)
  exact ⟨al.1, al.2.2.2.2.1⟩
theorem vNw.cg {V' : Vt} (h : vNw V) (h0 : ∀ i, i < 2 ∨ i = 13 → V' 0 i = V 0 i) (hr : ∀ i k, 23 ≤ i → V' i k = V i k) : vNw V' := by
  unfold vNw
  simp only [h0 0 (by decide), h0 1 (by decide), h0 13 (by decide), hr 23 _ (by decide), hr 24 _ (by decide), hr 25 _ (by decide), hr 26 _ (by decide), hr 27 _ (by decide)]
  exact h
theorem row_up {M1 : Mm} {V V' : Vt} {r i m x : Nat} (h : ∀ k, k < m → jm_A M r k = nI (V i k)) (hA : ∀ k, jm_A M1 r k = if k = m then nI x else jm_A M r k) (hV : ∀ k, V' i k = if k = m then x else V i k) : ∀ k, k < m + 1 → jm_A M1 r k = nI (V' i k) := by
  intro k hk
  rw [hA, hV]
  by_cases e : k = m
  · rw [if_pos e, if_pos e]
  · rw [if_neg e, if_neg e]; exact h k (by omega)
/-- one number of the law -/
theorem xRd.law {i x : Nat} (h : xRd M σ n v V p zb sb') (hi : 8 ≤ i ∧ i ≤ 12) (hW : jWf (vS V 0 i x)) : xRd (js_I M v (97 + i) (nI x)) σ n v (vS V 0 i x) p zb sb' := by
  have e0 : ∀ k, ¬ k = i → vS V 0 i x 0 k = V 0 k := fun k q => vS_ne (by omega)
  have er : ∀ j k, ¬ j = 0 → vS V 0 i x j k = V j k := fun j k q => vS_ne (by omega)
  refine h.rows (E := fun a => a = v) (jsm.I rfl) (fun a q => Or.inl q) h.2.1.1 (h.2.1.2.1.up (i0 := i) (x := x) (fun k hk => ?_) (fun k => ?_)) ?_ (e0 _ (by omega)) (e0 _ (by omega)) (e0 _ (by omega)) (fun j k q => er _ _ (by omega)) hW (h.2.2.2.2.cg (fun k q => e0 _ (by omega)) (fun j k q => er _ _ (by omega)))
  · by_cases e : k = i
    · subst e; rw [vS_eq, if_pos rfl]
    · rw [e0 _ e, if_neg e]
  · rw [jI_I]
    by_cases e : k = 97 + i
    · rw [if_pos ⟨by omega, by omega⟩, if_pos e]
    · rw [if_neg (by omega), if_neg e]
  · have := h.2.1.2.2.1
    unfold jVa at this ⊢
    rw [e0 3 (by omega), e0 5 (by omega), e0 6 (by omega), e0 7 (by omega)]
    exact this
end JXR
