/-! ===== x reads: the state, and its small steps ===== -/
def jNx (M : Mm) (v : Nat) (V : Vt) : Prop := (∀ a, a < V 0 0 → ∃ q o, jm_C M (v + 1) a = some q ∧ jis M q 6 ∧ v ≤ q ∧ jm_R M q 110 = some o ∧ 104 ≤ o ∧ jTx M o (V 23 a)) ∧ (∀ a, a < V 0 1 → ∃ q o, jm_C M (v + 2) a = some q ∧ jis M q 7 ∧ v ≤ q ∧ jm_R M q 110 = some o ∧ 104 ≤ o ∧ jTx M o (V 24 a))
theorem jNx.w {M : Mm} {v : Nat} {V : Vt} (h : jNx M v V) (hv : 104 ≤ v) : (∀ a, a < V 0 0 → ∃ q o, jm_C M (v + 1) a = some q ∧ jis M q 6 ∧ 104 ≤ q ∧ jm_R M q 110 = some o ∧ 104 ≤ o ∧ jTx M o (V 23 a)) ∧ (∀ a, a < V 0 1 → ∃ q o, jm_C M (v + 2) a = some q ∧ jis M q 7 ∧ 104 ≤ q ∧ jm_R M q 110 = some o ∧ 104 ≤ o ∧ jTx M o (V 24 a)) := ⟨fun a ha => (by obtain ⟨q, o, b1, b2, b3, b4⟩ := h.1 a ha; exact ⟨q, o, b1, b2, by omega, b4⟩), fun a ha => (by obtain ⟨q, o, b1, b2, b3, b4⟩ := h.2 a ha; exact ⟨q, o, b1, b2, by omega, b4⟩)⟩
/-- names and numbers -/
def vNw (V : Vt) : Prop := V 0 13 = V 0 0 + V 0 1 ∧ (∀ k, k < V 0 13 → (V 26 k = 0 ∧ V 27 k < V 0 0 ∧ V 23 (V 27 k) = V 25 k) ∨ (V 26 k = 1 ∧ V 27 k < V 0 1 ∧ V 24 (V 27 k) = V 25 k)) ∧ (∀ a, a < V 0 0 → ∃ k, k < V 0 13 ∧ V 26 k = 0 ∧ V 27 k = a) ∧ (∀ a, a < V 0 1 → ∃ k, k < V 0 13 ∧ V 26 k = 1 ∧ V 27 k = a) ∧ (∀ j k, j < V 0 13 → k < V 0 13 → V 25 j = V 25 k → j = k)
def xBs (M : Mm) (σ : Sg) (n p v zb sb' : Nat) : Prop := jSh M ∧ (∀ k, k < 900 → jm_A M 65 k = sb σ 0 k) ∧ jTk M ∧ (n ≤ 900 ∧ p ≤ n) ∧ jRp M σ n p v ∧ jm_R M 66 38 = some v ∧ (jm_Z M ≤ zb + 2 * tkE (chI σ n) n p ∧ jm_S M ≤ sb' + 12 * tkE (chI σ n) n p)
def xRd (M : Mm) (σ : Sg) (n v : Nat) (V : Vt) (p zb sb' : Nat) : Prop := xBs M σ n p v zb sb' ∧ jVx M v V ∧ jNx M v V ∧ jWf V ∧ vNw V
/-- what a small step may change -/
abbrev xE0 (a : Nat) : Prop := a = 62 ∨ a = 66 ∨ a = 67 ∨ a = 68
abbrev xE (v a : Nat) : Prop := xE0 a ∨ v ≤ a
/-- refused -/
def xFl (M M' : Mm) (v : Nat) (f : Fl) (zb sb' : Nat) : Prop := jm_I M' 67 45 = nI f.1 ∧ jm_I M' 67 46 = nI f.2 ∧ jsm (xE v) M M' ∧ jSh M' ∧ (jm_Z M' ≤ zb + 1800 ∧ jm_S M' ≤ sb' + 10800) ∧ jTk M'
theorem xFl.tr {M M1 M' : Mm} {v : Nat} {f : Fl} {zb sb' : Nat} (h : xFl M1 M' v f zb sb') (g : jsm (xE v) M M1) : xFl M M' v f zb sb' := ⟨h.1, h.2.1, g.tr h.2.2.1, h.2.2.2⟩
theorem xE0.w {M M1 : Mm} {v : Nat} (h : jsm xE0 M M1) : jsm (xE v) M M1 := h.wk (fun a q => Or.inl q)
theorem xE0_K {M : Mm} (hS : jSh M) : ∀ a, xE0 a → a ≠ 62 → a < jm_Z M → jm_K M a ≠ 14 ∧ jm_K M a ≠ 101 := by
  intro a h1 h2 _
  rcases h1 with h1 | h1 | h1 | h1
  · exact absurd h1 h2
  · subst h1; rw [(is_66 hS).1]; decide
  · subst h1; rw [(is_67 hS).1]; decide
  · subst h1; rw [(ok_68 hS).1]; decide
/-- what a small step leaves: all but the reader's own, and what texts know of their hash -/
def xS (v : Nat) (M M' : Mm) : Prop := jsm (xE v) M M' ∧ (∀ a, a < jm_Z M → a ≠ 62 → jm_K M' a = jm_K M a) ∧ (∀ a, a < jm_Z M → ¬ xE0 a → jm_K M a ≠ 14 → jal M M' a) ∧ (∀ o c, jTx M o c → jTx M' o c)
theorem xS.rf {v : Nat} {M : Mm} : xS v M M := ⟨jsm.rf, fun _ _ _ => rfl, fun _ _ _ _ => jal.rf, fun _ _ q => q⟩
theorem xS.tr {v : Nat} {M M1 M2 : Mm} (h : xS v M M1) (g : xS v M1 M2) : xS v M M2 := ⟨h.1.tr g.1, fun a h1 h2 => (g.2.1 a (Nat.lt_of_lt_of_le h1 h.1.1) h2).trans (h.2.1 a h1 h2), fun a h1 h2 h3 => (h.2.2.1 a h1 h2 h3).tr (g.2.2.1 a (Nat.lt_of_lt_of_le h1 h.1.1) h2 (by rw [h.2.1 a h1 (fun q => h2 (Or.inl q))]; exact h3)), fun o c q => g.2.2.2 o c (h.2.2.2 o c q)⟩
theorem xS.of0 {v : Nat} {M M1 : Mm} (h : jsm xE0 M M1) (h1 : jSh M) (h2 : jSh M1) : xS v M M1 := by
  refine ⟨xE0.w h, fun a q1 q2 => ?_, fun a q1 q2 _ => h.2.2 a q1 q2, fun o c q => q.fr h (xE0_K h1)⟩
  by_cases e : xE0 a
  · rcases e with e | e | e | e
    · exact absurd e q2
    · subst e; rw [(is_66 h1).1, (is_66 h2).1]
    · subst e; rw [(is_67 h1).1, (is_67 h2).1]
    · subst e; rw [(ok_68 h1).1, (ok_68 h2).1]
  · exact (h.2.2 a q1 e).1
/-- ends: of a small step, with a number, with nothing -/
def xV (M : Mm) (σ : Sg) (n v : Nat) (V : Vt) (zb sb' : Nat) (R : Except Fl Nat) : Rs → Mm → Prop := jPt (fun r M' => r = none ∧ ∃ p', R = .ok p' ∧ xRd M' σ n v V p' zb sb' ∧ xS v M M') (fun M' => ∃ f, R = .error f ∧ xFl M M' v f zb sb')
def xN (M : Mm) (σ : Sg) (n v : Nat) (V : Vt) (zb sb' : Nat) (R : Except Fl (Nat × Nat)) : Rs → Mm → Prop := jPt (fun r M' => ∃ a, R = .ok a ∧ r = some (.int (nI a.1)) ∧ xRd M' σ n v V a.2 zb sb' ∧ xS v M M') (fun M' => ∃ f, R = .error f ∧ xFl M M' v f zb sb')
theorem vE_K {M : Mm} {v : Nat} (h : jVs M v) {a : Nat} (h1 : v ≤ a) (h2 : a ≤ v + 10) : jm_K M a ≠ 14 ∧ jm_K M a ≠ 101 := by
  have vK_no : ∀ i, i < 10 → vK.getD i 0 ≠ 14 ∧ vK.getD i 0 ≠ 101 := by decide
  by_cases e : a = v
  · subst e; rw [h.1]; decide
  · have := (h.2.2.2 (a - v - 1) (by omega)).1
    rw [show v + (a - v - 1 + 1) = a by omega] at this
    rw [this]
    exact vK_no _ (by omega)
theorem jNx.fr {E : Nat → Prop} {M M1 : Mm} {v : Nat} {V : Vt} (h : jNx M v V) (hv : jVs M v) (g : jsm E M M1) (hE : ∀ a, 104 ≤ a → ¬ E a) (hK : ∀ a, E a → a ≠ 62 → a < jm_Z M → jm_K M a ≠ 14 ∧ jm_K M a ≠ 101) : jNx M1 v V := by
  have hz := hv.2.2.1
  have h104 := hv.2.1
  have a1 := g.2.2 (v + 1) (by omega) (hE _ (by omega))
  have a2 := g.2.2 (v + 2) (by omega) (hE _ (by omega))
  refine ⟨fun a ha => ?_, fun a ha => ?_⟩
  · obtain ⟨q, o, b1, b2, b3, b4, b5, b6⟩ := h.1 a ha
    have aq := g.2.2 q b2.2.1 (hE _ (by omega))
    exact ⟨q, o, (a1.2.2.2.2.2.2.2 _).trans b1, b2.al aq g.1, b3, (aq.2.2.2.2.1 _).trans b4, b5, b6.fr g hK⟩
  · obtain ⟨q, o, b1, b2, b3, b4, b5, b6⟩ := h.2 a ha
    have aq := g.2.2 q b2.2.1 (hE _ (by omega))
    exact ⟨q, o, (a2.2.2.2.2.2.2.2 _).trans b1, b2.al aq g.1, b3, (aq.2.2.2.2.1 _).trans b4, b5, b6.fr g hK⟩
theorem jx_out67 {G : Gh} {mi : Mi} {d : Nat} {M0 : Mm} {pc : Nat} {ls : List (Option Value)} {M : Mm} {P : Rs → Mm → Prop} (hh : mi.2.2.2.2 = []) (hS : jSh M) (hP : P (.inr 67) M) : jX G mi d M0 pc ls 67 M P := by
  have h := is_67 hS
  exact jx_out hh (by decide) h.2.1 (by rw [h.1]; decide) (by rw [h.1]; decide) hP
section JX1
variable {G : Gh} {M : Mm} {σ : Sg} {n v p zb sb' : Nat} {V : Vt}
theorem xRd.S (h : xRd M σ n v V p zb sb') : jSh M := h.1.1
theorem xRd.tok (h : xRd M σ n v V p zb sb') : jm_I M 66 34 = nI (tkK (chI σ n) n p) := h.1.2.2.2.2.1.2.2.1
theorem xRd.next (h : xRd M σ n v V p zb sb') (hG : jGs G) : jT G mi_X2_next 6 [jr (some 66)] M (jPv (fun M' => xRd M' σ n v V (tkE (chI σ n) n p) zb sb' ∧ xS v M M')) := by
  obtain ⟨⟨b1, b2, b3, ⟨b4, b5⟩, b6, b7, b8⟩, hV, hN, hW, hw⟩ := h
  have hzv := hV.1.2.2.1
  refine (t_X2_next (σ := σ) (z := v) hG b1 b2 b6.1 b6.2.1 tkE_le b4 (by omega)).mono (fun r M' q => ⟨q.1, ?_⟩)
  obtain ⟨q1, q2, q3, q4, q5⟩ := q.2
  have g : jsm xE0 M M' := q2.wk (fun a z => by unfold xE0; omega)
  have hE : ∀ a, 104 ≤ a → ¬ xE0 a := fun a z1 z2 => by unfold xE0 at z2; omega
  refine ⟨⟨⟨q5, fun k hk => ?_, b3.fr g (xE0_K b1), ⟨b4, tkE_le⟩, q1, q4.trans b7, ⟨by omega, by omega⟩⟩, hV.sm g hE, hN.fr hV.1 g hE (xE0_K b1), hW, hw⟩, xS.of0 g b1 q5⟩
  have hz := b1.2.2.2
  rw [(g.2.2 65 (by omega) (by unfold xE0; omega)).2.2.2.2.2.1]; exact b2 k hk
theorem t_X3_at {k p : Int32} (hS : jSh M) : jE G mi_X3_at 1 [jr (some 67), .int k, .int p] M (some (jr (some 67))) (js_I (js_I M 67 45 k) 67 46 p) := by
  refine jE.of (by decide) rfl (Nat.le_of_ble_eq_true rfl) ?_
  refine jw_aload_n (pc := 0) dX3_at_0 rfl ?_
  refine jw_iload_n (pc := 1) dX3_at_1 rfl ?_
  refine jx_putI (pc := 2) jf_X3_15_2 rfl dX3_at_2 rfl rfl (is_67 hS) (by decide) ?_
  refine jw_aload_n (pc := 5) dX3_at_5 rfl ?_
  refine jw_iload_n (pc := 6) dX3_at_6 rfl ?_
  refine jx_putI (pc := 7) jf_X3_9_2 rfl dX3_at_7 rfl rfl (is_67 hS) (by decide) ?_
  refine jw_aload_n (pc := 10) dX3_at_10 rfl ?_
  refine jw_areturn (pc := 11) dX3_at_11 rfl (Or.inl ⟨_, rfl⟩) ?_
  exact ⟨rfl, rfl⟩
theorem t_X2_fail {k : Int32} (h : xRd M σ n v V p zb sb') : jE G mi_X2_fail 2 [jr (some 66), .int k] M (some (jr (some 67))) (js_I (js_I M 67 45 k) 67 46 (nI (tkA (chI σ n) n p))) := by
  have hS := h.S
  refine jE.of (by decide) rfl (Nat.le_of_ble_eq_true rfl) ?_
  refine jw_aload_n (pc := 0) dX2_fail_0 rfl ?_
  refine jx_getRs (pc := 1) (jf_X2_12_1.r) rfl dX2_fail_1 rfl (is_66 hS) (by decide) (sr_66_29 hS) ?_
  refine jw_iload_n (pc := 4) dX2_fail_4 rfl ?_
  refine jw_aload_n (pc := 5) dX2_fail_5 rfl ?_
  refine jx_getIs (pc := 6) (jf_X2_26_1.r) rfl dX2_fail_6 rfl (is_66 hS) (by decide) (h.1.2.2.2.2.1.2.2.2.1) ?_
  refine jx_cVE (mi1 := mi_X3_at) (pc := 9) rfl dX2_fail_9 lk_X2_30 rfl fi_X3_at rfl rfl rfl (by decide) (is_67 hS) (t_X3_at hS) (by first | decide | omega) rfl rfl (by decide) ?_
  refine jw_areturn (pc := 12) dX2_fail_12 rfl (Or.inl ⟨_, rfl⟩) ?_
  exact ⟨rfl, rfl⟩
/-- the refusal is written -/
theorem xRd.fl (h : xRd M σ n v V p zb sb') {k : Nat} : xFl M (js_I (js_I M 67 45 (nI k)) 67 46 (nI (tkA (chI σ n) n p))) v (k, tkA (chI σ n) n p) zb sb' := by
  obtain ⟨⟨b1, b2, b3, ⟨b4, b5⟩, b6, b7, b8⟩, -⟩ := h
  have he := tkE_le (σ := σ) (n := n) (p := p)
  have g : jsm xE0 M (js_I (js_I M 67 45 (nI k)) 67 46 (nI (tkA (chI σ n) n p))) := (jsm.I (by unfold xE0; omega)).tr (jsm.I (by unfold xE0; omega))
  refine ⟨rfl, rfl, xE0.w g, b1, ⟨?_, ?_⟩, b3.fr g (xE0_K b1)⟩
  · show jm_Z M ≤ _; omega
  · show jm_S M ≤ _; omega
def xW (c : Nat → Int32) (n p w : Nat) : Bool := decide (tkK c n p = 2) && decide (tkV c n p = w)
theorem t_X2_isWord {o c : Nat} (hG : jGs G) (h : xRd M σ n v V p zb sb') (hT : jTx M o c) : jE G mi_X2_isWord 3 [jr (some 66), jr (some o)] M (some (.int (jb (xW (chI σ n) n p c)))) M := by
  have hS := h.S
  have hk9 := tkK_lt (chI σ n) n p
  have ht := h.tok
  by_cases hk : tkK (chI σ n) n p = 2
  · obtain ⟨o1, w1, w2, w3⟩ := h.1.2.2.2.2.1.2.2.2.2.2 hk
    refine jE.of (by decide) rfl (Nat.le_of_ble_eq_true rfl) ?_
    refine jw_aload_n (pc := 0) dX2_isWord_0 rfl ?_
    refine jx_getIs (pc := 1) (jf_X2_47_1.r) rfl dX2_isWord_1 rfl (is_66 hS) (by decide) (ht) ?_
    refine jw_iconst (pc := 4) dX2_isWord_4 ic_2 ?_
    first | refine jx_icmp_ne (pc := 5) (tgt := 23) dX2_isWord_5 (by decide) (by omega) (by omega) ?_ ?_ | refine jw_icmp_ne (pc := 5) (tgt := 23) dX2_isWord_5 (by decide) ?_ ?_
    · intro h_5
      omega
    · intro h_5
      refine jw_aload_n (pc := 8) dX2_isWord_8 rfl ?_
      refine jx_getRs (pc := 9) (jf_X2_61_1.r) rfl dX2_isWord_9 rfl (is_66 hS) (by decide) (w1) ?_
      refine jw_aload_n (pc := 12) dX2_isWord_12 rfl ?_
      refine jx_cVE (mi1 := mi_J3_equals) (pc := 13) rfl dX2_isWord_13 lk_X2_71 rfl fi_J3_equals rfl rfl rfl (by decide) (⟨w3.it.1, w3.it.2, by have := h.2.1.1.2.1; omega⟩) (t_J3_equals hG w3 hT (by have := h.2.1.1.2.1; omega)) (by first | decide | omega) rfl rfl (by decide) ?_
      first | refine jx_ifb_eq (pc := 16) (tgt := 23) dX2_isWord_16 (by decide) ?_ ?_ | refine jx_if_eq (pc := 16) (tgt := 23) dX2_isWord_16 (by decide) (by omega) ?_ ?_ | refine jw_if_eq (pc := 16) (tgt := 23) dX2_isWord_16 (by decide) ?_ ?_
      · intro h_16
        refine jw_iconst (pc := 23) dX2_isWord_23 ic_0 ?_
        refine jw_ireturn (pc := 24) dX2_isWord_24 rfl (by first | exact jnar_b _ | exact jnar_0 | exact jnar_1 | decide +kernel) ?_
        refine ⟨jret_f ?_, rfl⟩
        unfold xW; rw [h_16, Bool.and_false]
      · intro h_16
        refine jw_iconst (pc := 19) dX2_isWord_19 ic_1 ?_
        refine jw_goto (pc := 20) (tgt := 24) dX2_isWord_20 (by decide) ?_
        refine jw_ireturn (pc := 24) dX2_isWord_24 rfl (by first | exact jnar_b _ | exact jnar_0 | exact jnar_1 | decide +kernel) ?_
        refine ⟨jret_t ?_, rfl⟩
        unfold xW; rw [decide_eq_true hk, h_16]; rfl
  · refine jE.of (by decide) rfl (Nat.le_of_ble_eq_true rfl) ?_
    refine jw_aload_n (pc := 0) dX2_isWord_0 rfl ?_
    refine jx_getIs (pc := 1) (jf_X2_47_1.r) rfl dX2_isWord_1 rfl (is_66 hS) (by decide) (ht) ?_
    refine jw_iconst (pc := 4) dX2_isWord_4 ic_2 ?_
    first | refine jx_icmp_ne (pc := 5) (tgt := 23) dX2_isWord_5 (by decide) (by omega) (by omega) ?_ ?_ | refine jw_icmp_ne (pc := 5) (tgt := 23) dX2_isWord_5 (by decide) ?_ ?_
    · intro h_5
      refine jw_iconst (pc := 23) dX2_isWord_23 ic_0 ?_
      refine jw_ireturn (pc := 24) dX2_isWord_24 rfl (by first | exact jnar_b _ | exact jnar_0 | exact jnar_1 | decide +kernel) ?_
      refine ⟨jret_f ?_, rfl⟩
      unfold xW; rw [decide_eq_false hk, Bool.false_and]
    · intro h_5
      omega
theorem xW_t {c : Nat → Int32} {n p w : Nat} (h : xW c n p w = true) : tkK c n p = 2 ∧ tkV c n p = w := by
  unfold xW at h; rw [Bool.and_eq_true] at h; exact ⟨of_decide_eq_true h.1, of_decide_eq_true h.2⟩
theorem xW_f {c : Nat → Int32} {n p w : Nat} (h : xW c n p w = false) : ¬ (tkK c n p = 2 ∧ tkV c n p = w) := fun q => by
  unfold xW at h; rw [decide_eq_true q.1, decide_eq_true q.2] at h; cases h
theorem t_X2_takes {o c : Nat} (hG : jGs G) (h : xRd M σ n v V p zb sb') (hT : jTx M o c) : jT G mi_X2_takes 7 [jr (some 66), jr (some o)] M (jPi (fun x M' => x = jb (pTakes (chI σ n) n c p).1 ∧ xRd M' σ n v V (pTakes (chI σ n) n c p).2 zb sb' ∧ xS v M M')) := by
  have hS := h.S
  refine jT.of (by decide) rfl (Nat.le_of_ble_eq_true rfl) ?_
  refine jw_aload_n (pc := 0) dX2_takes_0 rfl ?_
  refine jw_aload_n (pc := 1) dX2_takes_1 rfl ?_
  refine jx_cVE (mi1 := mi_X2_isWord) (pc := 2) rfl dX2_takes_2 lk_X2_75 rfl fi_X2_isWord rfl rfl rfl (by decide) (is_66 hS) (t_X2_isWord hG h hT) (by first | decide | omega) rfl rfl (by decide) ?_
  first | refine jx_ifb_ne (pc := 5) (tgt := 10) dX2_takes_5 (by decide) ?_ ?_ | refine jx_if_ne (pc := 5) (tgt := 10) dX2_takes_5 (by decide) (by omega) ?_ ?_ | refine jw_if_ne (pc := 5) (tgt := 10) dX2_takes_5 (by decide) ?_ ?_
  · intro h_5
    refine jw_aload_n (pc := 10) dX2_takes_10 rfl ?_
    refine jx_cVv (mi1 := mi_X2_next) (pc := 11) rfl dX2_takes_11 lk_X2_79 rfl fi_X2_next rfl rfl rfl (by decide) (is_66 hS) (h.next hG) (by first | decide | omega) rfl rfl (by decide) ?_
    intro M_11 q_11
    refine jw_iconst (pc := 14) dX2_takes_14 ic_1 ?_
    refine jw_ireturn (pc := 15) dX2_takes_15 rfl (by first | exact jnar_b _ | exact jnar_0 | exact jnar_1 | decide +kernel) ?_
    first
    | (refine ⟨_, rfl, ?_⟩; unfold pTakes; rw [if_pos (xW_t h_5)]; exact ⟨rfl, q_11.1, q_11.2⟩)
    | (refine ⟨_, rfl, ?_⟩; unfold pTakes; rw [if_neg (xW_f h_5)]; exact ⟨rfl, h, xS.rf⟩)
  · intro h_5
    refine jw_iconst (pc := 8) dX2_takes_8 ic_0 ?_
    refine jw_ireturn (pc := 9) dX2_takes_9 rfl (by first | exact jnar_b _ | exact jnar_0 | exact jnar_1 | decide +kernel) ?_
    first
    | (refine ⟨_, rfl, ?_⟩; unfold pTakes; rw [if_pos (xW_t h_5)]; exact ⟨rfl, q_11.1, q_11.2⟩)
    | (refine ⟨_, rfl, ?_⟩; unfold pTakes; rw [if_neg (xW_f h_5)]; exact ⟨rfl, h, xS.rf⟩)
theorem t_X2_must {o c : Nat} (hG : jGs G) (h : xRd M σ n v V p zb sb') (hT : jTx M o c) : jT G mi_X2_must 8 [jr (some 66), jr (some o)] M (xV M σ n v V zb sb' (pMust (chI σ n) n c p)) := by
  have hS := h.S
  refine jT.of (by decide) rfl (Nat.le_of_ble_eq_true rfl) ?_
  by_cases hw : tkK (chI σ n) n p = 2 ∧ tkV (chI σ n) n p = c
  · have e : pTakes (chI σ n) n c p = (true, tkE (chI σ n) n p) := by unfold pTakes; rw [if_pos hw]
    have e2 : pMust (chI σ n) n c p = .ok (tkE (chI σ n) n p) := by unfold pMust; rw [if_pos hw]
    refine jw_aload_n (pc := 0) dX2_must_0 rfl ?_
    refine jw_aload_n (pc := 1) dX2_must_1 rfl ?_
    refine jx_cVi (mi1 := mi_X2_takes) (pc := 2) rfl dX2_must_2 lk_X2_82 rfl fi_X2_takes rfl rfl rfl (by decide) (is_66 hS) (t_X2_takes hG h hT) (by first | decide | omega) rfl rfl (by decide) ?_
    intro x_2 M_2 q_2
    rw [e] at q_2
    obtain ⟨e3, e4, e5⟩ := q_2
    subst e3
    first | refine jx_ifb_ne (pc := 5) (tgt := 14) dX2_must_5 (by decide) ?_ ?_ | refine jx_if_ne (pc := 5) (tgt := 14) dX2_must_5 (by decide) (by omega) ?_ ?_ | refine jw_if_ne (pc := 5) (tgt := 14) dX2_must_5 (by decide) ?_ ?_
    · intro h_5
      refine jw_return (pc := 14) dX2_must_14 rfl ?_
      exact Or.inl ⟨_, rfl, rfl, _, e2, e4, e5⟩
    · intro h_5
      first | cases h_5 | exact absurd h_5 (by decide)
  · have e : pTakes (chI σ n) n c p = (false, p) := by unfold pTakes; rw [if_neg hw]
    have e2 : pMust (chI σ n) n c p = .error (1, tkA (chI σ n) n p) := by unfold pMust; rw [if_neg hw]
    refine jw_aload_n (pc := 0) dX2_must_0 rfl ?_
    refine jw_aload_n (pc := 1) dX2_must_1 rfl ?_
    refine jx_cVi (mi1 := mi_X2_takes) (pc := 2) rfl dX2_must_2 lk_X2_82 rfl fi_X2_takes rfl rfl rfl (by decide) (is_66 hS) (t_X2_takes hG h hT) (by first | decide | omega) rfl rfl (by decide) ?_
    intro x_2 M_2 q_2
    rw [e] at q_2
    obtain ⟨e3, e4, e5⟩ := q_2
    subst e3
    have hS := e4.S
    first | refine jx_ifb_ne (pc := 5) (tgt := 14) dX2_must_5 (by decide) ?_ ?_ | refine jx_if_ne (pc := 5) (tgt := 14) dX2_must_5 (by decide) (by omega) ?_ ?_ | refine jw_if_ne (pc := 5) (tgt := 14) dX2_must_5 (by decide) ?_ ?_
    · intro h_5
      first | cases h_5 | exact absurd h_5 (by decide)
    · intro h_5
      refine jw_aload_n (pc := 8) dX2_must_8 rfl ?_
      refine jw_iconst (pc := 9) dX2_must_9 ic_1 ?_
      refine jx_cVE (mi1 := mi_X2_fail) (pc := 10) rfl dX2_must_10 lk_X2_85 rfl fi_X2_fail rfl rfl rfl (by decide) (is_66 hS) (t_X2_fail e4) (by first | decide | omega) rfl rfl (by decide) ?_
      refine jw_athrow (pc := 13) dX2_must_13 rfl ?_
      refine jx_out67 rfl hS ?_
      exact Or.inr ⟨rfl, _, e2, e4.fl.tr e5.1⟩
theorem t_X2_number {lo hi : Int32} (hG : jGs G) (h : xRd M σ n v V p zb sb') : jT G mi_X2_number 7 [jr (some 66), .int lo, .int hi] M (xN M σ n v V zb sb' (pNum (chI σ n) n lo hi p)) := by
  have hS := h.S
  have hk9 := tkK_lt (chI σ n) n p
  have ht := h.tok
  refine jT.of (by decide) rfl (Nat.le_of_ble_eq_true rfl) ?_
  by_cases hk : tkK (chI σ n) n p = 3
  · have hw := h.1.2.2.2.2.1.2.2.2.2.1 hk
    cases hin : inb (nI (tkV (chI σ n) n p)) lo hi with
    | true =>
      have e : pNum (chI σ n) n lo hi p = .ok (tkV (chI σ n) n p, tkE (chI σ n) n p) := by unfold pNum; rw [if_pos hk, if_pos hin]
      refine jw_aload_n (pc := 0) dX2_number_0 rfl ?_
      refine jx_getIs (pc := 1) (jf_X2_47_1.r) rfl dX2_number_1 rfl (is_66 hS) (by decide) (ht) ?_
      refine jw_iconst (pc := 4) dX2_number_4 ic_3 ?_
      first | refine jx_icmp_eq (pc := 5) (tgt := 14) dX2_number_5 (by decide) (by omega) (by omega) ?_ ?_ | refine jw_icmp_eq (pc := 5) (tgt := 14) dX2_number_5 (by decide) ?_ ?_
      · intro h_5
        refine jw_aload_n (pc := 14) dX2_number_14 rfl ?_
        refine jx_getIs (pc := 15) (jf_X2_68_1.r) rfl dX2_number_15 rfl (is_66 hS) (by decide) (hw) ?_
        refine jw_iload_n (pc := 18) dX2_number_18 rfl ?_
        refine jw_iload_n (pc := 19) dX2_number_19 rfl ?_
        refine jx_cSNE (mi1 := mi_X1_in) (pc := 20) rfl dX2_number_20 q561 q152 q420 q421 rfl fi_X1_in (t_X1_in) (by first | decide | omega) rfl rfl (by decide) ?_
        rw [hin]
        first | refine jx_ifb_ne (pc := 23) (tgt := 32) dX2_number_23 (by decide) ?_ ?_ | refine jx_if_ne (pc := 23) (tgt := 32) dX2_number_23 (by decide) (by omega) ?_ ?_ | refine jw_if_ne (pc := 23) (tgt := 32) dX2_number_23 (by decide) ?_ ?_
        · intro h_23
          refine jw_aload_n (pc := 32) dX2_number_32 rfl ?_
          refine jx_getIs (pc := 33) (jf_X2_68_1.r) rfl dX2_number_33 rfl (is_66 hS) (by decide) (hw) ?_
          refine jw_istore_n (pc := 36) dX2_number_36 (Nat.le_of_ble_eq_true rfl) rfl ?_
          try dsimp only [jput1, jput2, jkill, jclr, jis2_i, jis2_l, jis2_rs, jis2_rn, cond]
          refine jw_aload_n (pc := 37) dX2_number_37 rfl ?_
          refine jx_cVv (mi1 := mi_X2_next) (pc := 38) rfl dX2_number_38 lk_X2_79 rfl fi_X2_next rfl rfl rfl (by decide) (is_66 hS) (h.next hG) (by first | decide | omega) rfl rfl (by decide) ?_
          intro M_38 q_38
          refine jw_iload_n (pc := 41) dX2_number_41 rfl ?_
          refine jw_ireturn (pc := 42) dX2_number_42 rfl (rfl) ?_
          exact Or.inl ⟨_, rfl, _, e, rfl, q_38.1, q_38.2⟩
        · intro h_23
          first | cases h_23 | exact absurd h_23 (by decide)
      · intro h_5
        omega
    | false =>
      have e : pNum (chI σ n) n lo hi p = .error (4, tkA (chI σ n) n p) := by unfold pNum; rw [if_pos hk, if_neg (by rw [hin]; decide)]
      refine jw_aload_n (pc := 0) dX2_number_0 rfl ?_
      refine jx_getIs (pc := 1) (jf_X2_47_1.r) rfl dX2_number_1 rfl (is_66 hS) (by decide) (ht) ?_
      refine jw_iconst (pc := 4) dX2_number_4 ic_3 ?_
      first | refine jx_icmp_eq (pc := 5) (tgt := 14) dX2_number_5 (by decide) (by omega) (by omega) ?_ ?_ | refine jw_icmp_eq (pc := 5) (tgt := 14) dX2_number_5 (by decide) ?_ ?_
      · intro h_5
        refine jw_aload_n (pc := 14) dX2_number_14 rfl ?_
        refine jx_getIs (pc := 15) (jf_X2_68_1.r) rfl dX2_number_15 rfl (is_66 hS) (by decide) (hw) ?_
        refine jw_iload_n (pc := 18) dX2_number_18 rfl ?_
        refine jw_iload_n (pc := 19) dX2_number_19 rfl ?_
        refine jx_cSNE (mi1 := mi_X1_in) (pc := 20) rfl dX2_number_20 q561 q152 q420 q421 rfl fi_X1_in (t_X1_in) (by first | decide | omega) rfl rfl (by decide) ?_
        rw [hin]
        first | refine jx_ifb_ne (pc := 23) (tgt := 32) dX2_number_23 (by decide) ?_ ?_ | refine jx_if_ne (pc := 23) (tgt := 32) dX2_number_23 (by decide) (by omega) ?_ ?_ | refine jw_if_ne (pc := 23) (tgt := 32) dX2_number_23 (by decide) ?_ ?_
        · intro h_23
          first | cases h_23 | exact absurd h_23 (by decide)
        · intro h_23
          refine jw_aload_n (pc := 26) dX2_number_26 rfl ?_
          refine jw_iconst (pc := 27) dX2_number_27 ic_4 ?_
          refine jx_cVE (mi1 := mi_X2_fail) (pc := 28) rfl dX2_number_28 lk_X2_85 rfl fi_X2_fail rfl rfl rfl (by decide) (is_66 hS) (t_X2_fail h) (by first | decide | omega) rfl rfl (by decide) ?_
          refine jw_athrow (pc := 31) dX2_number_31 rfl ?_
          refine jx_out67 rfl hS ?_
          exact Or.inr ⟨rfl, _, e, h.fl⟩
      · intro h_5
        omega
  · have e : pNum (chI σ n) n lo hi p = .error (1, tkA (chI σ n) n p) := by unfold pNum; rw [if_neg hk]
    refine jw_aload_n (pc := 0) dX2_number_0 rfl ?_
    refine jx_getIs (pc := 1) (jf_X2_47_1.r) rfl dX2_number_1 rfl (is_66 hS) (by decide) (ht) ?_
    refine jw_iconst (pc := 4) dX2_number_4 ic_3 ?_
    first | refine jx_icmp_eq (pc := 5) (tgt := 14) dX2_number_5 (by decide) (by omega) (by omega) ?_ ?_ | refine jw_icmp_eq (pc := 5) (tgt := 14) dX2_number_5 (by decide) ?_ ?_
    · intro h_5
      omega
    · intro h_5
      refine jw_aload_n (pc := 8) dX2_number_8 rfl ?_
      refine jw_iconst (pc := 9) dX2_number_9 ic_1 ?_
      refine jx_cVE (mi1 := mi_X2_fail) (pc := 10) rfl dX2_number_10 lk_X2_85 rfl fi_X2_fail rfl rfl rfl (by decide) (is_66 hS) (t_X2_fail h) (by first | decide | omega) rfl rfl (by decide) ?_
      refine jw_athrow (pc := 13) dX2_number_13 rfl ?_
      refine jx_out67 rfl hS ?_
      exact Or.inr ⟨rfl, _, e, h.fl⟩
theorem t_X2_after {o c : Nat} {lo hi : Int32} (hG : jGs G) (h : xRd M σ n v V p zb sb') (hT : jTx M o c) : jT G mi_X2_after 9 [jr (some 66), jr (some o), .int lo, .int hi] M (xN M σ n v V zb sb' (pAfter (chI σ n) n c lo hi p)) := by
  have hS := h.S
  refine jT.of (by decide) rfl (Nat.le_of_ble_eq_true rfl) ?_
  refine jw_aload_n (pc := 0) dX2_after_0 rfl ?_
  refine jw_aload_n (pc := 1) dX2_after_1 rfl ?_
  refine jx_cVt (mi1 := mi_X2_must) (pc := 2) rfl dX2_after_2 lk_X2_142 rfl fi_X2_must rfl rfl rfl (by decide) (is_66 hS) (t_X2_must hG h hT) (by first | decide | omega) rfl rfl (by decide) ?_ ?_
  rotate_left
  · intro M_2 q_2
    obtain ⟨f, e1, e2⟩ := q_2
    refine jx_out67 rfl e2.2.2.2.1 ?_
    exact Or.inr ⟨rfl, f, by unfold pAfter; rw [e1]; rfl, e2⟩
  intro v_2 M_2 q_2
  obtain ⟨e0, p1, e1, e2, e3⟩ := q_2
  subst e0
  have hS := e2.S
  dsimp only [Option.toList, List.nil_append, List.cons_append]
  refine jw_aload_n (pc := 5) dX2_after_5 rfl ?_
  refine jw_iload_n (pc := 6) dX2_after_6 rfl ?_
  refine jw_iload_n (pc := 7) dX2_after_7 rfl ?_
  refine jx_cVt (mi1 := mi_X2_number) (pc := 8) rfl dX2_after_8 lk_X2_146 rfl fi_X2_number rfl rfl rfl (by decide) (is_66 hS) (t_X2_number hG e2) (by first | decide | omega) rfl rfl (by decide) ?_ ?_
  rotate_left
  · intro M_8 q_8
    obtain ⟨f, e4, e5⟩ := q_8
    refine jx_out67 rfl e5.2.2.2.1 ?_
    exact Or.inr ⟨rfl, f, by unfold pAfter; rw [e1]; exact e4, e5.tr e3.1⟩
  intro v_8 M_8 q_8
  obtain ⟨a, e4, e5, e6, e7⟩ := q_8
  subst e5
  dsimp only [Option.toList, List.nil_append, List.cons_append]
  refine jw_ireturn (pc := 11) dX2_after_11 rfl (rfl) ?_
  exact Or.inl ⟨_, rfl, a, by unfold pAfter; rw [e1]; exact e4, rfl, e6, e3.tr e7⟩
theorem t_X2_comma (hG : jGs G) (h : xRd M σ n v V p zb sb') : jT G mi_X2_comma 7 [jr (some 66)] M (xV M σ n v V zb sb' (pSign (chI σ n) n 44 p)) := by
  have hS := h.S
  have hk9 := tkK_lt (chI σ n) n p
  have ht := h.tok
  refine jT.of (by decide) rfl (Nat.le_of_ble_eq_true rfl) ?_
  by_cases hk : tkK (chI σ n) n p = 44
  · have e : pSign (chI σ n) n 44 p = .ok (tkE (chI σ n) n p) := by unfold pSign; rw [if_pos hk]
    refine jw_aload_n (pc := 0) dX2_comma_0 rfl ?_
    refine jx_getIs (pc := 1) (jf_X2_47_1.r) rfl dX2_comma_1 rfl (is_66 hS) (by decide) (ht) ?_
    refine jw_bipush (pc := 4) dX2_comma_4 bp_44 ?_
    first | refine jx_icmp_eq (pc := 6) (tgt := 15) dX2_comma_6 (by decide) (by omega) (by omega) ?_ ?_ | refine jw_icmp_eq (pc := 6) (tgt := 15) dX2_comma_6 (by decide) ?_ ?_
    · intro h_6
      refine jw_aload_n (pc := 15) dX2_comma_15 rfl ?_
      refine jx_cVv (mi1 := mi_X2_next) (pc := 16) rfl dX2_comma_16 lk_X2_79 rfl fi_X2_next rfl rfl rfl (by decide) (is_66 hS) (h.next hG) (by first | decide | omega) rfl rfl (by decide) ?_
      intro M_16 q_16
      refine jw_return (pc := 19) dX2_comma_19 rfl ?_
      exact Or.inl ⟨_, rfl, rfl, _, e, q_16.1, q_16.2⟩
    · intro h_6
      omega
  · have e : pSign (chI σ n) n 44 p = .error (1, tkA (chI σ n) n p) := by unfold pSign; rw [if_neg hk]
    refine jw_aload_n (pc := 0) dX2_comma_0 rfl ?_
    refine jx_getIs (pc := 1) (jf_X2_47_1.r) rfl dX2_comma_1 rfl (is_66 hS) (by decide) (ht) ?_
    refine jw_bipush (pc := 4) dX2_comma_4 bp_44 ?_
    first | refine jx_icmp_eq (pc := 6) (tgt := 15) dX2_comma_6 (by decide) (by omega) (by omega) ?_ ?_ | refine jw_icmp_eq (pc := 6) (tgt := 15) dX2_comma_6 (by decide) ?_ ?_
    · intro h_6
      omega
    · intro h_6
      refine jw_aload_n (pc := 9) dX2_comma_9 rfl ?_
      refine jw_iconst (pc := 10) dX2_comma_10 ic_1 ?_
      refine jx_cVE (mi1 := mi_X2_fail) (pc := 11) rfl dX2_comma_11 lk_X2_85 rfl fi_X2_fail rfl rfl rfl (by decide) (is_66 hS) (t_X2_fail h) (by first | decide | omega) rfl rfl (by decide) ?_
      refine jw_athrow (pc := 14) dX2_comma_14 rfl ?_
      refine jx_out67 rfl hS ?_
      exact Or.inr ⟨rfl, _, e, h.fl⟩
theorem t_X2_begins {b : Bool} {k : Nat} (hG : jGs G) (h : xRd M σ n v V p zb sb') : jT G mi_X2_begins 7 [jr (some 66), .int (jb b), .int (nI k)] M (xV M σ n v V zb sb' (pBegin (chI σ n) n b k p)) := by
  have hS := h.S
  refine jT.of (by decide) rfl (Nat.le_of_ble_eq_true rfl) ?_
  cases b with
  | true =>
    refine jw_iload_n (pc := 0) dX2_begins_0 rfl ?_
    first | refine jx_ifb_ne (pc := 1) (tgt := 10) dX2_begins_1 (by decide) ?_ ?_ | refine jx_if_ne (pc := 1) (tgt := 10) dX2_begins_1 (by decide) (by omega) ?_ ?_ | refine jw_if_ne (pc := 1) (tgt := 10) dX2_begins_1 (by decide) ?_ ?_
    · intro h_1
      refine jw_aload_n (pc := 10) dX2_begins_10 rfl ?_
      refine jx_cVv (mi1 := mi_X2_next) (pc := 11) rfl dX2_begins_11 lk_X2_79 rfl fi_X2_next rfl rfl rfl (by decide) (is_66 hS) (h.next hG) (by first | decide | omega) rfl rfl (by decide) ?_
      intro M_11 q_11
      refine jw_return (pc := 14) dX2_begins_14 rfl ?_
      exact Or.inl ⟨_, rfl, rfl, _, rfl, q_11.1, q_11.2⟩
    · intro h_1
      first | cases h_1 | exact absurd h_1 (by decide)
  | false =>
    refine jw_iload_n (pc := 0) dX2_begins_0 rfl ?_
    first | refine jx_ifb_ne (pc := 1) (tgt := 10) dX2_begins_1 (by decide) ?_ ?_ | refine jx_if_ne (pc := 1) (tgt := 10) dX2_begins_1 (by decide) (by omega) ?_ ?_ | refine jw_if_ne (pc := 1) (tgt := 10) dX2_begins_1 (by decide) ?_ ?_
    · intro h_1
      first | cases h_1 | exact absurd h_1 (by decide)
    · intro h_1
      refine jw_aload_n (pc := 4) dX2_begins_4 rfl ?_
      refine jw_iload_n (pc := 5) dX2_begins_5 rfl ?_
      refine jx_cVE (mi1 := mi_X2_fail) (pc := 6) rfl dX2_begins_6 lk_X2_85 rfl fi_X2_fail rfl rfl rfl (by decide) (is_66 hS) (t_X2_fail h) (by first | decide | omega) rfl rfl (by decide) ?_
      refine jw_athrow (pc := 9) dX2_begins_9 rfl ?_
      refine jx_out67 rfl hS ?_
      exact Or.inr ⟨rfl, _, rfl, h.fl⟩
end JX1
