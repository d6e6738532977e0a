/-! ===== m's valley, whole ===== -/
section JMY
variable {G : Gh} {M : Mm} {σ : Sg}
abbrev mvZE (z a : Nat) : Prop := (a = 90 ∨ a = 62) ∨ (z ≤ a ∧ a ≤ z + 24)
/-- refused: the state -/
theorem mvF {M' : Mm} {f : Fl} (h : jMm M σ) (g : jsm (fun a => a = 90 ∨ a = 62) M M') (hS : jSh M') (hI : jm_I M' 90 55 = nI 0 ∧ jm_I M' 90 50 = 4 ∧ jm_I M' 90 62 = nI f.1 ∧ jm_I M' 90 51 = nI f.2) (hK : ∀ j, j < 49 ∨ 65 < j → jm_I M' 90 j = jm_I M 90 j) (hR : jm_R M' 90 52 = jm_R M 90 52) : jMm M' (stF σ f) := by
  refine h.up g hS (fun a q1 q2 => by omega) h.2.1.F rfl rfl hR hI ⟨(hK _ (by decide)).trans h.2.2.2.1.1, (hK _ (by decide)).trans h.2.2.2.1.2⟩ (fun V hV q => ?_)
  obtain ⟨n1, n2, n3, n4, n5, mv, n6, n7, n8⟩ := q
  have hz := h.1.2.2.2
  have al : ∀ a, 91 ≤ a → a < 104 → ∀ k, jm_A M' a k = jm_A M a k := fun a q1 q2 => (g.2.2 a (by omega) (by omega)).2.2.2.2.2.1
  exact ⟨(hK _ (by decide)).trans n1, (hK _ (by decide)).trans n2, (hK _ (by decide)).trans n3, fun p hp => (al _ (by decide) (by decide) _).trans (n4 p hp), fun p t hp ht => (al _ (by decide) (by decide) _).trans (n5 p t hp ht), mv, (hK _ (by decide)).trans n6, n7, fun p n hp e1 e2 i hi => by rw [al _ (by decide) (by decide)]; exact n8 p n hp e1 e2 i hi⟩
/-- the reading begins -/
theorem mv_start {M2 M3 M4 : Mm} {n : Nat} (hS : jSh M2) (ht : ∀ k, k < 900 → jm_A M2 91 k = sb σ 0 k) (hT : jTk M2) (hn9 : n ≤ 900) (hz : jm_I M2 90 56 = nI n) (hf : jm_I M2 90 62 = nI 0) (h3 : mkI (js_new M2 13 0 39) M3 (jm_Z M2) 12 wK wN wR 24) (hG4 : jGp M4 σ n 0 ∧ gKp (js_I (js_R M3 90 53 (some (jm_Z M2))) 90 58 (nI 0)) M4) : mRd M4 σ n (jm_Z M2) (.ok (fun _ _ => 0, 0)) := by
  have hz2 := hS.2.2.2
  obtain ⟨k1, k2, k3, k4, k5, k6⟩ := h3
  have gn : jsm (fun a => a = 62) M2 (js_new M2 13 0 39) := jsm.n rfl
  have g5 : jsm (fun a => a = 90 ∨ a = 62) M2 (js_I (js_R M3 90 53 (some (jm_Z M2))) 90 58 (nI 0)) := by
    have a1 : jsm (fun a => (a = 90 ∨ a = 62) ∨ a = jm_Z M2) M2 (js_I (js_R M3 90 53 (some (jm_Z M2))) 90 58 (nI 0)) := ((gn.wk (fun a q => Or.inl (Or.inr q))).tr (k5.wk (fun a q => by omega))).tr ((jsm.R (Or.inl (Or.inl rfl))).tr (jsm.I (Or.inl (Or.inl rfl))))
    exact a1.old (fun a q1 q2 => by omega) (Or.inr rfl)
  have hS3 : jSh M3 := hS.n.sm k5 (fun a q1 q2 => by omega)
  have hS5 : jSh (js_I (js_R M3 90 53 (some (jm_Z M2))) 90 58 (nI 0)) := hS3.R (by decide)
  have a90 := (jal_n (M := M2) (c := 13) (n := 0) (s := 39) 90 (by omega)).tr (k5.2.2 90 (by rw [jZ_n]; omega) (by omega))
  have hW5 : jWs (js_I (js_R M3 90 53 (some (jm_Z M2))) 90 58 (nI 0)) (jm_Z M2) := by
    refine ⟨k1.1, by omega, ?_, fun i hi => ?_⟩
    · show jm_Z M2 + 24 < jm_Z M3; omega
    · obtain ⟨b1, b2, b3⟩ := k3 i hi
      refine ⟨b1, b2, ?_⟩
      rw [jR_I, jR_R, if_neg (by omega)]; exact b3
  have hI5 : ∀ k, jm_I (js_I (js_R M3 90 53 (some (jm_Z M2))) 90 58 (nI 0)) (jm_Z M2) k = nI 0 := fun k => by
    rw [jI_I, if_neg (by omega), jI_R, k4 k]; rfl
  have hB5 : mBs (js_I (js_R M3 90 53 (some (jm_Z M2))) 90 58 (nI 0)) σ n (jm_Z M2) := by
    refine ⟨hS5, fun k hk => ?_, hT.fr g5 (fun a q1 q2 q3 => ?_), hn9, ?_, ?_, hW5, fun q hq => ⟨0, Nat.zero_le _, hI5 _⟩⟩
    · exact ((g5.2.2 91 (by omega) (by omega)).2.2.2.2.2.1 k).trans (ht k hk)
    · have : a = 90 := by omega
      subst this; rw [(is_90 hS).1]; decide
    · exact (a90.2.2.1 _).trans hz
    · rfl
  have hV5 : jVm (js_I (js_R M3 90 53 (some (jm_Z M2))) 90 58 (nI 0)) (jm_Z M2) (fun _ _ => 0) := by
    refine ⟨hW5, ⟨hI5 _, hI5 _, hI5 _, hI5 _, hI5 _, hI5 _, hI5 _, hI5 _, hI5 _, hI5 _, hI5 _, hI5 _, hI5 _⟩, ?_⟩
    refine ⟨?_, ?_, ?_, ?_, ?_, ?_, ?_, ?_⟩ <;> intro k hk <;> exact absurd hk (Nat.not_lt_zero _)
  obtain ⟨g1, g2⟩ := hG4
  refine ⟨hB5.k g2, Nat.zero_le _, g1, ?_, hV5.sm g2.1 (fun a q1 q2 => by omega), ⟨?_, fun k hk => absurd hk (Nat.not_lt_zero _)⟩, ?_, ⟨Nat.zero_le _, fun k hk => absurd hk (Nat.not_lt_zero _)⟩⟩
  · exact (g2.2.1 _ (by decide)).trans ((a90.2.2.1 _).trans hf)
  · have aw := g2.1.2.2 (jm_Z M2) (wis hW5).2.1 (by omega)
    exact (aw.2.2.1 _).trans (hI5 _)
  · have aw := g2.1.2.2 (jm_Z M2) (wis hW5).2.1 (by omega)
    exact (aw.2.2.1 _).trans (hI5 _)
theorem mv_pre {M2 M3 : Mm} {n : Nat} (hS : jSh M2) (ht : ∀ k, k < 900 → jm_A M2 91 k = sb σ 0 k) (hz : jm_I M2 90 56 = nI n) (hp : jm_I M2 90 57 = nI 0) (h3 : mkI (js_new M2 13 0 39) M3 (jm_Z M2) 12 wK wN wR 24) : jSh (js_I (js_R M3 90 53 (some (jm_Z M2))) 90 58 (nI 0)) ∧ (∀ k, k < 900 → jm_A (js_I (js_R M3 90 53 (some (jm_Z M2))) 90 58 (nI 0)) 91 k = sb σ 0 k) ∧ jm_I (js_I (js_R M3 90 53 (some (jm_Z M2))) 90 58 (nI 0)) 90 56 = nI n ∧ jm_I (js_I (js_R M3 90 53 (some (jm_Z M2))) 90 58 (nI 0)) 90 57 = nI 0 := by
  have hz2 := hS.2.2.2
  obtain ⟨k1, k2, k3, k4, k5, k6⟩ := h3
  have hS3 : jSh M3 := hS.n.sm k5 (fun a q1 q2 => by omega)
  have a90 := (jal_n (M := M2) (c := 13) (n := 0) (s := 39) 90 (by omega)).tr (k5.2.2 90 (by rw [jZ_n]; omega) (by omega))
  have a91 := (jal_n (M := M2) (c := 13) (n := 0) (s := 39) 91 (by omega)).tr (k5.2.2 91 (by rw [jZ_n]; omega) (by omega))
  exact ⟨hS3.R (by decide), fun k hk => (a91.2.2.2.2.2.1 k).trans (ht k hk), (a90.2.2.1 _).trans hz, (a90.2.2.1 _).trans hp⟩
theorem t_X5_valley {x : Int32} (hG : jGs G) (h : jMm M σ) (hT : jTk M) : jT G mi_X5_valley 15 [jr (some 90), .int x] M (jPi (fun r M' => r = (o_valley σ x).1 ∧ jMm M' (o_valley σ x).2 ∧ jmV M M')) := by
  have hS := h.1
  have hn0 := h.2.1.1.1
  -- refused: a number
  have LR : ∀ M0, jMm M0 σ → jfm M M0 → ¬ inb x (nI 0) (nI (sn σ 2)) = true → jW G mi_X5_valley 15 M 17 (jent [jr (some 90), .int x] mi_X5_valley.2.2.1) [] M0 (jPi (fun r M' => r = (o_valley σ x).1 ∧ jMm M' (o_valley σ x).2 ∧ jmV M M')) := by
    intro M0 hM hf hin
    have hS := hM.1
    have e : o_valley σ x = (-1, sgT σ 2 (-1)) := by unfold o_valley; rw [if_neg hin]
    rw [e]
    refine jw_aload_n (pc := 17) dX5_valley_17 rfl ?_
    refine jw_iconst (pc := 18) dX5_valley_18 ic_2 ?_
    refine jx_cVi (mi1 := mi_X5_refused) (pc := 19) rfl dX5_valley_19 lk_X5_62 rfl fi_X5_refused rfl rfl rfl (by decide) (is_90 hS) (t_X5_refused hM) (by first | decide | omega) rfl rfl (by decide) ?_
    intro x_19 M_19 q_19
    refine jw_ireturn (pc := 22) dX5_valley_22 rfl (rfl) ?_
    refine ⟨_, rfl, q_19.1, q_19.2.1, ?_⟩
    have g := hf.tr q_19.2.2
    have z := g.z (by omega)
    exact ⟨g.wk (fun a q => Or.inl q), by omega, by omega⟩
  have L23 : ∀ (M0 : Mm) (n : Nat), jMm M0 σ → jfm M M0 → jTk M0 → x = nI n → n ≤ sn σ 2 → jW G mi_X5_valley 15 M 23 (jent [jr (some 90), .int x] mi_X5_valley.2.2.1) [] M0 (jPi (fun r M' => r = (o_valley σ x).1 ∧ jMm M' (o_valley σ x).2 ∧ jmV M M')) := by
    intro M0 n hM hf hT0 hx hn
    subst hx
    have hS := hM.1
    have hz0 := hS.2.2.2
    have hzM := h.1.2.2.2
    have hfz := hf.z (by omega)
    have hin : inb (nI n) (nI 0) (nI (sn σ 2)) = true := in_i (by decide) (by omega) (Nat.zero_le _) hn
    have eo : o_valley σ (nI n) = (match rdV (chI σ n) n with
      | .error f => (-1, stF σ f)
      | .ok V => (nI (V 0 1), stV σ V)) := by unfold o_valley; rw [if_pos hin, ch_n (show n < 2 ^ 31 by omega)]; cases rdV (chI σ n) n <;> rfl
    have L67 : ∀ (M2 M3 M4 M5 : Mm), jsm (fun a => a = 90) M0 M2 → (∀ j, j < 55 ∨ 65 < j → jm_I M2 90 j = jm_I M0 90 j) → (∀ j, jm_R M2 90 j = jm_R M0 90 j) → jm_I M2 90 55 = nI 0 → mkI (js_new M2 13 0 39) M3 (jm_Z M2) 12 wK wN wR 24 → gKp (js_I (js_R M3 90 53 (some (jm_Z M2))) 90 58 (nI 0)) M4 → mKq M4 M5 (jm_Z M2) → mRd M5 σ n (jm_Z M2) (rdF (chI σ n) n (rdN (chI σ n) n (n + 1) (fun _ _ => 0) 0)) → jW G mi_X5_valley 15 M 67 [some (jr (some 90)), some (.int (nI n)), none] [] M5 (jPi (fun r M' => r = (o_valley σ (nI n)).1 ∧ jMm M' (o_valley σ (nI n)).2 ∧ jmV M M')) := by
      intro M2 M3 M4 M5 g2 K2 R2 T2 h3 h4 h5 hR
      obtain ⟨k1, k2, k3, k4, k5, k6⟩ := h3
      have z2 := g2.z (by decide)
      have gn : jsm (fun a => a = 62) M2 (js_new M2 13 0 39) := jsm.n rfl
      have g5 : jsm (fun a => a = 90 ∨ a = 62) M0 M5 := by
        have b1 : jsm (mvZE (jm_Z M2)) M2 (js_new M2 13 0 39) := gn.wk (fun a q => Or.inl (Or.inr q))
        have b2 : jsm (mvZE (jm_Z M2)) (js_new M2 13 0 39) M3 := k5.wk (fun a q => by unfold mvZE; omega)
        have b3 : jsm (mvZE (jm_Z M2)) M3 (js_I (js_R M3 90 53 (some (jm_Z M2))) 90 58 (nI 0)) := (jsm.R (Or.inl (Or.inl rfl))).tr (jsm.I (Or.inl (Or.inl rfl)))
        have b4 : jsm (mvZE (jm_Z M2)) (js_I (js_R M3 90 53 (some (jm_Z M2))) 90 58 (nI 0)) M4 := h4.1.wk (fun a q => Or.inl (Or.inl q))
        have b5 : jsm (mvZE (jm_Z M2)) M4 M5 := h5.1.wk (fun a q => by unfold mE at q; unfold mvZE; omega)
        have a1 : jsm (mvZE (jm_Z M2)) M2 M5 := (((b1.tr b2).tr b3).tr b4).tr b5
        exact (g2.wk (fun a q => Or.inl q)).tr (a1.old (fun a q1 q2 => by unfold mvZE at q1; omega) (Or.inr rfl))
      have z5 := h5.1.z (by unfold mE; omega)
      have z4 := h4.1.z (by decide)
      have z3 : jm_Z M5 = jm_Z M3 ∧ jm_S M5 = jm_S M3 := ⟨z5.1.trans z4.1, z5.2.trans z4.2⟩
      have hS5 : jSh M5 := hR.S
      have a90 := (jal_n (M := M2) (c := 13) (n := 0) (s := 39) 90 (by omega)).tr (k5.2.2 90 (by rw [jZ_n]; omega) (by omega))
      have K5 : ∀ j, j < 55 ∨ 65 < j → jm_I M5 90 j = jm_I M0 90 j := fun j hj => (h5.2.1 j (by omega)).trans ((h4.2.1 j (by omega)).trans ((by rw [jI_I, if_neg (by omega)]; rfl : jm_I (js_I (js_R M3 90 53 (some (jm_Z M2))) 90 58 (nI 0)) 90 j = jm_I M3 90 j).trans ((a90.2.2.1 j).trans (K2 j hj))))
      have K55 : jm_I M5 90 55 = nI 0 := (h5.2.1 _ (by decide)).trans ((h4.2.1 _ (by decide)).trans ((a90.2.2.1 _).trans T2))
      have R5 : jm_R M5 90 52 = jm_R M0 90 52 := (h5.2.2 _).trans ((h4.2.2.1 _).trans ((by rw [jR_I, jR_R, if_neg (by decide)] : jm_R (js_I (js_R M3 90 53 (some (jm_Z M2))) 90 58 (nI 0)) 90 52 = jm_R M3 90 52).trans ((a90.2.2.2.2.1 _).trans (R2 _))))
      have hc : jmV M M5 := by
        rw [jS_n] at k6
        exact ⟨(hf.wk (fun a q => Or.inl q)).tr (g5.wk (fun a q => by unfold jmE; omega)), by omega, by omega⟩
      have hc2 : ∀ M6, jfm M5 M6 → jmV M M6 := fun M6 g => by
        have z := g.z (by omega)
        exact ⟨hc.1.tr (g.wk (fun a q => Or.inl q)), by have := hc.2.1; omega, by have := hc.2.2; omega⟩
      obtain ⟨v1, v2⟩ := rdV_of (σ := σ) (n := n)
      cases e : rdF (chI σ n) n (rdN (chI σ n) n (n + 1) (fun _ _ => 0) 0) with
      | error f =>
        rw [e] at hR
        rw [eo, v1 f e]
        refine lp_mvE (M0 := M) hR ⟨_, rfl, rfl, ?_, ?_⟩
        · have gg : jsm (fun a => a = 90 ∨ a = 62) M0 (js_I (js_I M5 90 50 (nI 4)) 90 51 (nI f.2)) := g5.tr ((jsm.I (Or.inl rfl)).tr (jsm.I (Or.inl rfl)))
          exact mvF hM gg hS5 ⟨K55, rfl, hR.2.2.1, rfl⟩ (fun j hj => by rw [jI_I, if_neg (by omega), jI_I, if_neg (by omega)]; exact K5 j (by omega)) R5
        · exact hc2 _ ((jsm.I (by decide)).tr (jsm.I (by decide)))
      | ok r =>
        obtain ⟨w1, w2, w3, w4, w5⟩ := v2 r e
        rw [e] at hR
        rw [eo, w1]
        refine (lp_mvO hR w2 w3 w4 w5 ⟨K55, (K5 _ (by decide)).trans hM.2.2.1.2.1, (K5 _ (by decide)).trans hM.2.2.1.2.2.2⟩ ⟨(K5 _ (by decide)).trans hM.2.2.2.1.1, (K5 _ (by decide)).trans hM.2.2.2.1.2⟩).mono ?_
        intro r' M' q
        obtain ⟨i, q1, q2, q3, q4⟩ := q
        exact ⟨i, q1, q2, q3, hc2 _ q4⟩
    refine jw_aload_n (pc := 23) dX5_valley_23 rfl ?_
    refine jw_iload_n (pc := 24) dX5_valley_24 rfl ?_
    refine jx_putI (pc := 25) jf_X5_70_4 rfl dX5_valley_25 rfl rfl (is_90 hS) (by decide) ?_
    refine jw_aload_n (pc := 28) dX5_valley_28 rfl ?_
    refine jw_iconst (pc := 29) dX5_valley_29 ic_0 ?_
    refine jx_putI (pc := 30) jf_X5_373_4 rfl dX5_valley_30 rfl rfl (is_90 hS) (by decide) ?_
    refine jw_aload_n (pc := 33) dX5_valley_33 rfl ?_
    refine jw_iconst (pc := 34) dX5_valley_34 ic_0 ?_
    refine jx_putI (pc := 35) jf_X5_88_4 rfl dX5_valley_35 rfl rfl (is_90 hS) (by decide) ?_
    refine jw_aload_n (pc := 38) dX5_valley_38 rfl ?_
    refine jw_iconst (pc := 39) dX5_valley_39 ic_0 ?_
    refine jx_putI (pc := 40) jf_X5_114_4 rfl dX5_valley_40 rfl rfl (is_90 hS) (by decide) ?_
    have f2 : jm_I (js_I (js_I (js_I (js_I M0 90 56 (nI n)) 90 55 (nI 0)) 90 57 (nI 0)) 90 62 (nI 0)) 90 56 = nI n ∧ jm_I (js_I (js_I (js_I (js_I M0 90 56 (nI n)) 90 55 (nI 0)) 90 57 (nI 0)) 90 62 (nI 0)) 90 55 = nI 0 ∧ jm_I (js_I (js_I (js_I (js_I M0 90 56 (nI n)) 90 55 (nI 0)) 90 57 (nI 0)) 90 62 (nI 0)) 90 57 = nI 0 ∧ jm_I (js_I (js_I (js_I (js_I M0 90 56 (nI n)) 90 55 (nI 0)) 90 57 (nI 0)) 90 62 (nI 0)) 90 62 = nI 0 := ⟨rfl, rfl, rfl, rfl⟩
    have K2 : ∀ j, j < 55 ∨ 65 < j → jm_I (js_I (js_I (js_I (js_I M0 90 56 (nI n)) 90 55 (nI 0)) 90 57 (nI 0)) 90 62 (nI 0)) 90 j = jm_I M0 90 j := fun j hj => by rw [jI_I, if_neg (by omega), jI_I, if_neg (by omega), jI_I, if_neg (by omega), jI_I, if_neg (by omega)]
    have R2 : ∀ j, jm_R (js_I (js_I (js_I (js_I M0 90 56 (nI n)) 90 55 (nI 0)) 90 57 (nI 0)) 90 62 (nI 0)) 90 j = jm_R M0 90 j := fun j => rfl
    have g2 : jsm (fun a => a = 90) M0 (js_I (js_I (js_I (js_I M0 90 56 (nI n)) 90 55 (nI 0)) 90 57 (nI 0)) 90 62 (nI 0)) := (((jsm.I (E := fun a => a = 90) rfl).tr (jsm.I (E := fun a => a = 90) rfl)).tr (jsm.I (E := fun a => a = 90) rfl)).tr (jsm.I (E := fun a => a = 90) rfl)
    have hS2 : jSh (js_I (js_I (js_I (js_I M0 90 56 (nI n)) 90 55 (nI 0)) 90 57 (nI 0)) 90 62 (nI 0)) := hS
    generalize js_I (js_I (js_I (js_I M0 90 56 (nI n)) 90 55 (nI 0)) 90 57 (nI 0)) 90 62 (nI 0) = M2 at f2 K2 R2 g2 hS2 ⊢
    clear hS
    have hS := hS2
    have ht2 : ∀ k, k < 900 → jm_A M2 91 k = sb σ 0 k := fun k hk => ((g2.2.2 91 (by omega) (by decide)).2.2.2.2.2.1 k).trans (hM.2.2.2.2.1 k hk)
    have hT2 : jTk M2 := hT0.fr g2 (fun a q1 q2 q3 => by subst q1; rw [(is_90 hM.1).1]; decide)
    have hzz := hS.2.2.2
    refine jw_aload_n (pc := 43) dX5_valley_43 rfl ?_
    refine jw_new (pc := 44) jn_X5_178 rfl (by decide) dX5_valley_44 ?_
    refine jw_dup (pc := 47) dX5_valley_47 (jis2_r _) ?_
    have h3j : jis (js_new M2 13 0 39) (jm_Z M2) 12 := ⟨by rw [jK_n, if_pos rfl], by rw [jZ_n]; omega, by omega⟩
    have h3z : jm_Z (js_new M2 13 0 39) = jm_Z M2 + 1 := by rw [jZ_n]
    have h3i : ∀ k, jm_I (js_new M2 13 0 39) (jm_Z M2) k = 0 := fun k => by rw [jI_n, if_pos rfl]
    refine jx_cINv (mi1 := mi_X14_init) (pc := 48) rfl dX5_valley_48 q1561 q174 q1562 q1563 rfl rfl rfl fi_X14_init (t_X14_init h3j h3z h3i) (by first | decide | omega) rfl rfl (by simp only [List.map_cons, List.map_nil, List.sum_cons, List.sum_nil, cat_i, cat_l, jr_cat]; decide) ?_
    intro M_48 q_48
    have hS3 : jSh _ := hS2.n.sm q_48.2.2.2.2.1 (fun a q1 q2 => by omega)
    clear hS
    have hS := hS3
    refine jx_putR (pc := 51) jf_X5_173_4 rfl dX5_valley_51 rfl rfl (pd_LNeverUnseenModel_Valley_) (Or.inl ⟨_, rfl⟩) (is_90 hS) (by decide) ?_
    refine jw_aload_n (pc := 54) dX5_valley_54 rfl ?_
    refine jw_iconst (pc := 55) dX5_valley_55 ic_0 ?_
    clear hS
    have hS := hS3.R (a := 90) (k := 53) (v := some (jm_Z M2)) (by decide)
    refine jx_putI (pc := 56) jf_X5_85_4 rfl dX5_valley_56 rfl rfl (is_90 hS) (by decide) ?_
    refine jw_aload_n (pc := 59) dX5_valley_59 rfl ?_
    have h5p := mv_pre hS2 ht2 f2.1 f2.2.2.1 q_48
    refine jx_cVv (mi1 := mi_X5_goesOn) (pc := 60) rfl dX5_valley_60 lk_X5_128 rfl fi_X5_goesOn rfl rfl rfl (by decide) (is_90 hS) (t_X5_goesOn1 (n := n) (p := 0) (s0 := 0) h5p.1 h5p.2.1 h5p.2.2.1 h5p.2.2.2 rfl (by decide) (by decide) (Nat.zero_le _) (by omega)) (by first | decide | omega) rfl rfl (by decide) ?_
    intro M_60 q_60
    refine jw_aload_n (pc := 63) dX5_valley_63 rfl ?_
    clear hS
    have hS := q_60.2.2.2.2
    have hst := mv_start hS2 ht2 hT2 (by omega) f2.1 f2.2.2.2 q_48 q_60
    refine jx_cVv (mi1 := mi_X5_readValley) (pc := 64) rfl dX5_valley_64 lk_X5_377 rfl fi_X5_readValley rfl rfl rfl (by decide) (is_90 hS) (t_X5_readValley (V0 := fun _ _ => 0) (p0 := 0) (k0 := n + 1) hG hst vOk_0 (Nat.zero_le _) (by omega)) (by first | decide | omega) rfl rfl (by decide) ?_
    intro M_64 q_64
    exact L67 M2 _ _ _ g2 K2 R2 f2.2.1 q_48 q_60.2 q_64.2 q_64.1
  refine jT.of (by decide) rfl (Nat.le_of_ble_eq_true rfl) ?_
  refine jw_aload_n (pc := 0) dX5_valley_0 rfl ?_
  refine jw_iconst (pc := 1) dX5_valley_1 ic_0 ?_
  refine jx_putI (pc := 2) jf_X5_56_4 rfl dX5_valley_2 rfl rfl (is_90 hS) (by decide) ?_
  have hM := mthr (x := nI 0) h
  have hf : jfm M (js_I M 90 49 (nI 0)) := jsm.I (by decide)
  have hT0 : jTk (js_I M 90 49 (nI 0)) := hT.fr (E := fun a => a = 90) (jsm.I rfl) (fun a q1 q2 q3 => by subst q1; rw [(is_90 h.1).1]; decide)
  generalize js_I M 90 49 (nI 0) = M0 at hM hf hT0 ⊢
  clear hS
  have hS := hM.1
  have hN := hM.2.2.1.1
  refine jw_iload_n (pc := 5) dX5_valley_5 rfl ?_
  refine jw_if_lt (pc := 6) (tgt := 17) dX5_valley_6 (by decide) ?_ ?_
  · intro h_6
    refine LR _ hM hf (fun q => ?_)
    obtain ⟨q1, q2, q3⟩ := in_n (by decide) (by omega) q
    have q := of_decide_eq_true q
    first
    | exact absurd q.1 (i_nle.mpr (by rw [nI_0]; exact h_6))
    | exact absurd q.2 h_14
  · intro h_6
    refine jw_iload_n (pc := 9) dX5_valley_9 rfl ?_
    refine jw_aload_n (pc := 10) dX5_valley_10 rfl ?_
    refine jx_getIs (pc := 11) (jf_X5_373_4.r) rfl dX5_valley_11 rfl (is_90 hS) (by decide) (hN) ?_
    refine jw_icmp_le (pc := 14) (tgt := 23) dX5_valley_14 (by decide) ?_ ?_
    · intro h_14
      obtain ⟨q1, q2, q3⟩ := in_n (x := x) (a := 0) (b := sn σ 2) (by decide) (by omega) (decide_eq_true ⟨by rw [nI_0]; exact i_nlt.mp h_6, h_14⟩)
      exact L23 _ _ hM hf hT0 q3 q2
    · intro h_14
      refine LR _ hM hf (fun q => ?_)
      obtain ⟨q1, q2, q3⟩ := in_n (by decide) (by omega) q
      have q := of_decide_eq_true q
      first
      | exact absurd q.1 (i_nle.mpr (by rw [nI_0]; exact h_6))
      | exact absurd q.2 h_14
end JMY
