/-! ===== m's questions and deeds ===== -/
theorem qm {M M1 M2 : Mm} {σ : Sg} {q : Int32 × Int32} {x v why : Int32} (hq : q = (v, why)) (hf : jfm M M1) (e : x = v ∧ jMm M2 (sgT σ why (-1)) ∧ jfm M1 M2) : jQm M σ q (.inl (some (.int x))) M2 := by
  subst hq; exact ⟨x, rfl, e.1, e.2.1, hf.tr e.2.2⟩
theorem mthr {M : Mm} {σ : Sg} {x : Int32} (h : jMm M σ) : jMm (js_I M 90 49 x) σ := h.up (E := fun a => a = 90) (jsm.I rfl) h.1 (fun a q1 q2 => by omega) h.2.1 rfl rfl rfl h.2.2.1 h.2.2.2.1 (fun V hV q => q)
theorem m_at {M : Mm} {V : Vt} {σ : Sg} (hS : jSh M) (ho : jSo σ) (hv : sv σ = some V) (hN : jMn M V σ) : jPr5 M 92 V (sa σ 0) := ⟨ok_92 hS, nn_92 hS, fun q hq => ⟨hN.2.2.2.1 q hq, (ho.2 V hv).2.1 q hq⟩⟩
theorem stepW_le {o : Option Vt} {t : Int32} : stepW o t ≤ 0 → stepW o t = 0 := by
  cases o with
  | none => exact fun q => absurd (show (1 : Int32) ≤ 0 from q) (by decide +kernel)
  | some V =>
    intro q
    unfold stepW at q ⊢
    by_cases e : isIx 200 t = true
    · exact if_pos e
    · exact absurd (show (2 : Int32) ≤ 0 by simpa [e] using q) (by decide +kernel)
theorem mput {M M1 : Mm} {σ : Sg} {f : Nat → Nat} (h : jMm M σ) (g : jsm (fun a => a = 92) M M1) (hS : jSh M1) (hI : ∀ k, jm_I M1 90 k = jm_I M 90 k) (hR : ∀ k, jm_R M1 90 k = jm_R M 90 k) (hA : ∀ k, jm_A M1 94 k = jm_A M 94 k) (hB : ∀ k, jm_A M1 100 k = jm_A M 100 k)
    (hf : ∀ V, sv σ = some V → ∀ p, p < V 0 1 → jm_A M1 92 p = nI (f p) ∧ f p < V 0 0) : jMm M1 (sgA σ 0 f) := by
  obtain ⟨h3, h4, h5, h6⟩ := h.2.2.1
  exact h.up g hS (fun a q1 q2 => by omega) (h.2.1.A0 (fun V hV p hp => (hf V hV p hp).2)) rfl rfl (hR _) ⟨(hI _).trans h3, (hI _).trans h4, (hI _).trans h5, (hI _).trans h6⟩ ⟨(hI _).trans h.2.2.2.1.1, (hI _).trans h.2.2.2.1.2⟩
    (fun V hV q => by
      obtain ⟨q1, q2, q3, q4, q5, mv, q6, q7, q8⟩ := q
      refine ⟨(hI _).trans q1, (hI _).trans q2, (hI _).trans q3, fun p hp => (hf V hV p hp).1, fun p t hp ht => (hA _).trans (q5 p t hp ht), mv, (hI _).trans q6, q7, fun p n hp e1 e2 i hi => ?_⟩
      rw [hB]; exact q8 p n hp e1 e2 i hi)
theorem mplan {M M1 : Mm} {σ : Sg} {f : Nat → Nat} (h : jMm M σ) (g : jsm (fun a => a = 94) M M1) (hS : jSh M1) (hI : ∀ k, jm_I M1 90 k = jm_I M 90 k) (hR : ∀ k, jm_R M1 90 k = jm_R M 90 k) (hA : ∀ k, jm_A M1 92 k = jm_A M 92 k) (hB : ∀ k, jm_A M1 100 k = jm_A M 100 k)
    (hf : ∀ V, sv σ = some V → ∀ p t, p < V 0 1 → t < 100 → jm_A M1 94 (100 * p + t) = nI (f (100 * p + t)) ∧ f (100 * p + t) < V 0 0) : jMm M1 (sgA σ 1 f) := by
  obtain ⟨h3, h4, h5, h6⟩ := h.2.2.1
  exact h.up g hS (fun a q1 q2 => by omega) (h.2.1.A1 (fun V hV p t hp ht => (hf V hV p t hp ht).2)) rfl rfl (hR _) ⟨(hI _).trans h3, (hI _).trans h4, (hI _).trans h5, (hI _).trans h6⟩ ⟨(hI _).trans h.2.2.2.1.1, (hI _).trans h.2.2.2.1.2⟩
    (fun V hV q => by
      obtain ⟨q1, q2, q3, q4, q5, mv, q6, q7, q8⟩ := q
      refine ⟨(hI _).trans q1, (hI _).trans q2, (hI _).trans q3, fun p hp => (hA _).trans (q4 p hp), fun p t hp ht => (hf V hV p t hp ht).1, mv, (hI _).trans q6, q7, fun p n hp e1 e2 i hi => ?_⟩
      rw [hB]; exact q8 p n hp e1 e2 i hi)
theorem mstep {M : Mm} {σ : Sg} {t : Nat} (h : jMm M σ) (ht : t < 100) : jMm (js_I M 90 70 (nI t)) (sgN σ 0 t) :=
  h.up (E := fun a => a = 90) (jsm.I rfl) h.1 (fun a q1 q2 => by omega) (h.2.1.N0 ht) rfl rfl rfl h.2.2.1 h.2.2.2.1 (fun V hV q => ⟨rfl, q.2.1, q.2.2.1, q.2.2.2.1, q.2.2.2.2.1, q.2.2.2.2.2⟩)
theorem mseed {M : Mm} {σ : Sg} {t : Nat} (h : jMm M σ) (ht : t < 65537) : jMm (js_I M 90 71 (nI t)) (sgN σ 1 t) :=
  h.up (E := fun a => a = 90) (jsm.I rfl) h.1 (fun a q1 q2 => by omega) (h.2.1.N1 ht) rfl rfl rfl h.2.2.1 h.2.2.2.1 (fun V hV q => ⟨q.1, rfl, q.2.2.1, q.2.2.2.1, q.2.2.2.2.1, q.2.2.2.2.2⟩)
section JM2
variable {G : Gh} {M : Mm} {σ : Sg}
theorem t_X5_plain {a b t : Int32} (h : jMm M σ) : jT G mi_X5_plain 9 [jr (some 90), .int a, .int b, .int t] M (jQm M σ (q_plain σ a b t)) := by
  have hS := h.1
  refine jT.of (by decide) rfl (Nat.le_of_ble_eq_true rfl) ?_
  refine jw_aload_n (pc := 0) dX5_plain_0 rfl ?_
  refine jw_iconst (pc := 1) dX5_plain_1 ic_0 ?_
  refine jx_putI (pc := 2) jf_X5_56_4 rfl dX5_plain_2 rfl rfl (is_90 hS) (by decide) ?_
  have hM := mthr (x := nI 0) h
  have hf : jfm M (js_I M 90 49 (nI 0)) := jsm.I (by decide)
  generalize js_I M 90 49 (nI 0) = M0 at hM hf ⊢
  clear hS
  have hS := hM.1
  refine jw_aload_n (pc := 5) dX5_plain_5 rfl ?_
  refine jw_iload_n (pc := 6) dX5_plain_6 rfl ?_
  refine jx_cVE (mi1 := mi_X5_isPlace) (pc := 7) rfl dX5_plain_7 lk_X5_414 rfl fi_X5_isPlace rfl rfl rfl (by decide) (is_90 hS) (t_X5_isPlace (o := sv σ) hM rfl) (by first | decide | omega) rfl rfl (by decide) ?_
  first | refine jx_ifb_eq (pc := 10) (tgt := 26) dX5_plain_10 (by decide) ?_ ?_ | refine jx_if_eq (pc := 10) (tgt := 26) dX5_plain_10 (by decide) (by omega) ?_ ?_ | refine jw_if_eq (pc := 10) (tgt := 26) dX5_plain_10 (by decide) ?_ ?_
  · intro h_10
    refine jw_aload_n (pc := 26) dX5_plain_26 rfl ?_
    refine jw_iconst (pc := 27) dX5_plain_27 ic_1 ?_
    refine jx_cVi (mi1 := mi_X5_refused) (pc := 28) rfl dX5_plain_28 lk_X5_62 rfl fi_X5_refused rfl rfl rfl (by decide) (is_90 hS) (t_X5_refused hM) (by first | decide | omega) rfl rfl (by decide) ?_
    intro x_28 M_28 q_28
    refine jw_ireturn (pc := 31) dX5_plain_31 rfl (rfl) ?_
    refine qm ?_ hf q_28
    unfold q_plain
    first
      | (rw [h_10]; rfl)
      | (rw [h_18, Bool.and_false]; rfl)
      | (subst h_23; rw [if_neg (by simp)] <;> rfl)
  · intro h_10
    refine jw_aload_n (pc := 13) dX5_plain_13 rfl ?_
    refine jw_iload_n (pc := 14) dX5_plain_14 rfl ?_
    refine jx_cVE (mi1 := mi_X5_isPlace) (pc := 15) rfl dX5_plain_15 lk_X5_414 rfl fi_X5_isPlace rfl rfl rfl (by decide) (is_90 hS) (t_X5_isPlace (o := sv σ) hM rfl) (by first | decide | omega) rfl rfl (by decide) ?_
    first | refine jx_ifb_eq (pc := 18) (tgt := 26) dX5_plain_18 (by decide) ?_ ?_ | refine jx_if_eq (pc := 18) (tgt := 26) dX5_plain_18 (by decide) (by omega) ?_ ?_ | refine jw_if_eq (pc := 18) (tgt := 26) dX5_plain_18 (by decide) ?_ ?_
    · intro h_18
      refine jw_aload_n (pc := 26) dX5_plain_26 rfl ?_
      refine jw_iconst (pc := 27) dX5_plain_27 ic_1 ?_
      refine jx_cVi (mi1 := mi_X5_refused) (pc := 28) rfl dX5_plain_28 lk_X5_62 rfl fi_X5_refused rfl rfl rfl (by decide) (is_90 hS) (t_X5_refused hM) (by first | decide | omega) rfl rfl (by decide) ?_
      intro x_28 M_28 q_28
      refine jw_ireturn (pc := 31) dX5_plain_31 rfl (rfl) ?_
      refine qm ?_ hf q_28
      unfold q_plain
      first
        | (rw [h_10]; rfl)
        | (rw [h_18, Bool.and_false]; rfl)
        | (subst h_23; rw [if_neg (by simp)] <;> rfl)
    · intro h_18
      obtain ⟨V, ka, hv9, hka, rfl⟩ := ixV_t h_10
      obtain ⟨V', kb, hv', hkb, rfl⟩ := ixV_t h_18
      cases (Option.some.inj (hv9.symm.trans hv'))
      obtain ⟨w, hs, hN⟩ := hM.so hv9
      have hn := wf_np hs.w
      have hr : ∀ t, rangeV V t ≤ 19 := fun t => by obtain ⟨d1, d2, d3, d4, d5⟩ := wf_d hs.w; unfold rangeV; split <;> omega
      refine jw_iload_n (pc := 21) dX5_plain_21 rfl ?_
      refine jw_iload_n (pc := 22) dX5_plain_22 rfl ?_
      first | refine jx_icmp_ne (pc := 23) (tgt := 32) dX5_plain_23 (by decide) (by omega) (by omega) ?_ ?_ | refine jw_icmp_ne (pc := 23) (tgt := 32) dX5_plain_23 (by decide) ?_ ?_
      · intro h_23
        refine jw_iload_n (pc := 32) dX5_plain_32 rfl ?_
        refine jx_cSE (mi1 := mi_X5_isStep) (pc := 33) rfl dX5_plain_33 lk_X5_411 rfl fi_X5_isStep (t_X5_isStep) (by first | decide | omega) rfl rfl (by decide) ?_
        first | refine jx_ifb_eq (pc := 36) (tgt := 66) dX5_plain_36 (by decide) ?_ ?_ | refine jx_if_eq (pc := 36) (tgt := 66) dX5_plain_36 (by decide) (by omega) ?_ ?_ | refine jw_if_eq (pc := 36) (tgt := 66) dX5_plain_36 (by decide) ?_ ?_
        · intro h_36
          refine jw_aload_n (pc := 66) dX5_plain_66 rfl ?_
          refine jw_iconst (pc := 67) dX5_plain_67 ic_2 ?_
          refine jx_cVi (mi1 := mi_X5_refused) (pc := 68) rfl dX5_plain_68 lk_X5_62 rfl fi_X5_refused rfl rfl rfl (by decide) (is_90 hS) (t_X5_refused hM) (by first | decide | omega) rfl rfl (by decide) ?_
          intro x_68 M_68 q_68
          refine jw_ireturn (pc := 71) dX5_plain_71 rfl (rfl) ?_
          first
            | (refine qm ?_ hf q_68; unfold q_plain; rw [hv9, ixV_s hka hn, ixV_s hkb hn, if_pos (by simpa using nI_ne (by omega) (by omega) h_23), if_neg (by rw [h_36]; decide)] <;> rfl)
            | (refine qm ?_ hf q_60; unfold q_plain; rw [vv_s hv9, hv9, ixV_s hka hn, ixV_s hkb hn, if_pos (by simpa using nI_ne (by omega) (by omega) h_23), if_pos h_36, iN_n (by omega), iN_n (by omega), iN_n (by omega), h_51] <;> rfl)
        · intro h_36
          obtain ⟨kt, hkt, rfl⟩ := isIx_of h_36
          have hr := hr kt
          refine jw_aload_n (pc := 39) dX5_plain_39 rfl ?_
          refine jw_aload_n (pc := 40) dX5_plain_40 rfl ?_
          refine jw_iload_n (pc := 41) dX5_plain_41 rfl ?_
          refine jw_iload_n (pc := 42) dX5_plain_42 rfl ?_
          refine jw_aload_n (pc := 43) dX5_plain_43 rfl ?_
          refine jw_iload_n (pc := 44) dX5_plain_44 rfl ?_
          refine jx_cVE (mi1 := mi_X5_rangeIn) (pc := 45) rfl dX5_plain_45 lk_X5_405 rfl fi_X5_rangeIn rfl rfl rfl (by decide) (is_90 hS) (t_X5_rangeIn hs (by omega)) (by first | decide | omega) rfl rfl (by simp only [List.map_cons, List.map_nil, List.sum_cons, List.sum_nil, cat_i, cat_l, jr_cat]; decide) ?_
          refine jx_cVE (mi1 := mi_X5_isPlain) (pc := 48) rfl dX5_plain_48 lk_X5_408 rfl fi_X5_isPlain rfl rfl rfl (by decide) (is_90 hS) (t_X5_isPlain hs (by decide) (by decide) (by omega) hka hkb) (by first | decide | omega) rfl rfl (by simp only [List.map_cons, List.map_nil, List.sum_cons, List.sum_nil, cat_i, cat_l, jr_cat]; decide) ?_
          first | refine jx_ifb_eq (pc := 51) (tgt := 58) dX5_plain_51 (by decide) ?_ ?_ | refine jx_if_eq (pc := 51) (tgt := 58) dX5_plain_51 (by decide) (by omega) ?_ ?_ | refine jw_if_eq (pc := 51) (tgt := 58) dX5_plain_51 (by decide) ?_ ?_
          · intro h_51
            refine jw_iconst (pc := 58) dX5_plain_58 ic_0 ?_
            refine jw_iconst (pc := 59) dX5_plain_59 ic_0 ?_
            refine jx_cVi (mi1 := mi_X5_told) (pc := 60) rfl dX5_plain_60 lk_X5_66 rfl fi_X5_told rfl rfl rfl (by decide) (is_90 hS) (t_X5_told0 hM) (by first | decide | omega) rfl rfl (by decide) ?_
            intro x_60 M_60 q_60
            refine jw_goto (pc := 63) (tgt := 71) dX5_plain_63 (by decide) ?_
            refine jw_ireturn (pc := 71) dX5_plain_71 rfl (rfl) ?_
            first
              | (refine qm ?_ hf q_68; unfold q_plain; rw [hv9, ixV_s hka hn, ixV_s hkb hn, if_pos (by simpa using nI_ne (by omega) (by omega) h_23), if_neg (by rw [h_36]; decide)] <;> rfl)
              | (refine qm ?_ hf q_60; unfold q_plain; rw [vv_s hv9, hv9, ixV_s hka hn, ixV_s hkb hn, if_pos (by simpa using nI_ne (by omega) (by omega) h_23), if_pos h_36, iN_n (by omega), iN_n (by omega), iN_n (by omega), h_51] <;> rfl)
          · intro h_51
            refine jw_iconst (pc := 54) dX5_plain_54 ic_1 ?_
            refine jw_goto (pc := 55) (tgt := 59) dX5_plain_55 (by decide) ?_
            refine jw_iconst (pc := 59) dX5_plain_59 ic_0 ?_
            refine jx_cVi (mi1 := mi_X5_told) (pc := 60) rfl dX5_plain_60 lk_X5_66 rfl fi_X5_told rfl rfl rfl (by decide) (is_90 hS) (t_X5_told0 hM) (by first | decide | omega) rfl rfl (by decide) ?_
            intro x_60 M_60 q_60
            refine jw_goto (pc := 63) (tgt := 71) dX5_plain_63 (by decide) ?_
            refine jw_ireturn (pc := 71) dX5_plain_71 rfl (rfl) ?_
            first
              | (refine qm ?_ hf q_68; unfold q_plain; rw [hv9, ixV_s hka hn, ixV_s hkb hn, if_pos (by simpa using nI_ne (by omega) (by omega) h_23), if_neg (by rw [h_36]; decide)] <;> rfl)
              | (refine qm ?_ hf q_60; unfold q_plain; rw [vv_s hv9, hv9, ixV_s hka hn, ixV_s hkb hn, if_pos (by simpa using nI_ne (by omega) (by omega) h_23), if_pos h_36, iN_n (by omega), iN_n (by omega), iN_n (by omega), h_51] <;> rfl)
      · intro h_23
        refine jw_aload_n (pc := 26) dX5_plain_26 rfl ?_
        refine jw_iconst (pc := 27) dX5_plain_27 ic_1 ?_
        refine jx_cVi (mi1 := mi_X5_refused) (pc := 28) rfl dX5_plain_28 lk_X5_62 rfl fi_X5_refused rfl rfl rfl (by decide) (is_90 hS) (t_X5_refused hM) (by first | decide | omega) rfl rfl (by decide) ?_
        intro x_28 M_28 q_28
        refine jw_ireturn (pc := 31) dX5_plain_31 rfl (rfl) ?_
        refine qm ?_ hf q_28
        unfold q_plain
        first
          | (rw [h_10]; rfl)
          | (rw [h_18, Bool.and_false]; rfl)
          | (subst h_23; rw [if_neg (by simp)] <;> rfl)
theorem t_X5_sees {a t : Int32} (h : jMm M σ) : jT G mi_X5_sees 9 [jr (some 90), .int a, .int t] M (jQm M σ (q_sees σ a t)) := by
  have hS := h.1
  refine jT.of (by decide) rfl (Nat.le_of_ble_eq_true rfl) ?_
  refine jw_aload_n (pc := 0) dX5_sees_0 rfl ?_
  refine jw_iconst (pc := 1) dX5_sees_1 ic_0 ?_
  refine jx_putI (pc := 2) jf_X5_56_4 rfl dX5_sees_2 rfl rfl (is_90 hS) (by decide) ?_
  have hM := mthr (x := nI 0) h
  have hf : jfm M (js_I M 90 49 (nI 0)) := jsm.I (by decide)
  generalize js_I M 90 49 (nI 0) = M0 at hM hf ⊢
  clear hS
  have hS := hM.1
  refine jw_aload_n (pc := 5) dX5_sees_5 rfl ?_
  refine jw_iload_n (pc := 6) dX5_sees_6 rfl ?_
  refine jx_cVE (mi1 := mi_X5_isPlace) (pc := 7) rfl dX5_sees_7 lk_X5_414 rfl fi_X5_isPlace rfl rfl rfl (by decide) (is_90 hS) (t_X5_isPlace (o := sv σ) hM rfl) (by first | decide | omega) rfl rfl (by decide) ?_
  first | refine jx_ifb_ne (pc := 10) (tgt := 19) dX5_sees_10 (by decide) ?_ ?_ | refine jx_if_ne (pc := 10) (tgt := 19) dX5_sees_10 (by decide) (by omega) ?_ ?_ | refine jw_if_ne (pc := 10) (tgt := 19) dX5_sees_10 (by decide) ?_ ?_
  · intro h_10
    obtain ⟨V, ka, hv9, hka, rfl⟩ := ixV_t h_10
    obtain ⟨w, hs, hN⟩ := hM.so hv9
    have hn := wf_np hs.w
    have hw := hs.s
    refine jw_iload_n (pc := 19) dX5_sees_19 rfl ?_
    refine jx_cSE (mi1 := mi_X5_isStep) (pc := 20) rfl dX5_sees_20 lk_X5_411 rfl fi_X5_isStep (t_X5_isStep) (by first | decide | omega) rfl rfl (by decide) ?_
    first | refine jx_ifb_eq (pc := 23) (tgt := 40) dX5_sees_23 (by decide) ?_ ?_ | refine jx_if_eq (pc := 23) (tgt := 40) dX5_sees_23 (by decide) (by omega) ?_ ?_ | refine jw_if_eq (pc := 23) (tgt := 40) dX5_sees_23 (by decide) ?_ ?_
    · intro h_23
      refine jw_aload_n (pc := 40) dX5_sees_40 rfl ?_
      refine jw_iconst (pc := 41) dX5_sees_41 ic_2 ?_
      refine jx_cVi (mi1 := mi_X5_refused) (pc := 42) rfl dX5_sees_42 lk_X5_62 rfl fi_X5_refused rfl rfl rfl (by decide) (is_90 hS) (t_X5_refused hM) (by first | decide | omega) rfl rfl (by decide) ?_
      intro x_42 M_42 q_42
      refine jw_ireturn (pc := 45) dX5_sees_45 rfl (rfl) ?_
      first
        | (refine qm ?_ hf q_42; unfold q_sees; rw [if_pos h_10, if_neg (by rw [h_23]; decide)] <;> rfl)
        | (refine qm ?_ hf q_34; unfold q_sees; rw [if_pos h_10, if_pos h_23, vv_s hv9, iN_n (by omega), iN_n (by omega)] <;> rfl)
    · intro h_23
      obtain ⟨kt, hkt, rfl⟩ := isIx_of h_23
      refine jw_aload_n (pc := 26) dX5_sees_26 rfl ?_
      refine jw_aload_n (pc := 27) dX5_sees_27 rfl ?_
      refine jw_iload_n (pc := 28) dX5_sees_28 rfl ?_
      refine jw_iload_n (pc := 29) dX5_sees_29 rfl ?_
      refine jx_cVE (mi1 := mi_X5_seenFrom) (pc := 30) rfl dX5_sees_30 lk_X5_417 rfl fi_X5_seenFrom rfl rfl rfl (by decide) (is_90 hS) (t_X5_seenFrom hs (by decide) (by decide) (by omega) hka) (by first | decide | omega) rfl rfl (by simp only [List.map_cons, List.map_nil, List.sum_cons, List.sum_nil, cat_i, cat_l, jr_cat]; decide) ?_
      refine jw_iconst (pc := 33) dX5_sees_33 ic_0 ?_
      refine jx_cVi (mi1 := mi_X5_told) (pc := 34) rfl dX5_sees_34 lk_X5_66 rfl fi_X5_told rfl rfl rfl (by decide) (is_90 hS) (t_X5_told0 hM) (by first | decide | omega) rfl rfl (by decide) ?_
      intro x_34 M_34 q_34
      refine jw_goto (pc := 37) (tgt := 45) dX5_sees_37 (by decide) ?_
      refine jw_ireturn (pc := 45) dX5_sees_45 rfl (rfl) ?_
      first
        | (refine qm ?_ hf q_42; unfold q_sees; rw [if_pos h_10, if_neg (by rw [h_23]; decide)] <;> rfl)
        | (refine qm ?_ hf q_34; unfold q_sees; rw [if_pos h_10, if_pos h_23, vv_s hv9, iN_n (by omega), iN_n (by omega)] <;> rfl)
  · intro h_10
    refine jw_aload_n (pc := 13) dX5_sees_13 rfl ?_
    refine jw_iconst (pc := 14) dX5_sees_14 ic_1 ?_
    refine jx_cVi (mi1 := mi_X5_refused) (pc := 15) rfl dX5_sees_15 lk_X5_62 rfl fi_X5_refused rfl rfl rfl (by decide) (is_90 hS) (t_X5_refused hM) (by first | decide | omega) rfl rfl (by decide) ?_
    intro x_15 M_15 q_15
    refine jw_ireturn (pc := 18) dX5_sees_18 rfl (rfl) ?_
    refine qm ?_ hf q_15
    unfold q_sees
    rw [h_10]; rfl
theorem t_X5_eyes {a t : Int32} (h : jMm M σ) : jT G mi_X5_eyes 9 [jr (some 90), .int a, .int t] M (jQm M σ (q_eyes σ a t)) := by
  have hS := h.1
  refine jT.of (by decide) rfl (Nat.le_of_ble_eq_true rfl) ?_
  refine jw_aload_n (pc := 0) dX5_eyes_0 rfl ?_
  refine jw_iconst (pc := 1) dX5_eyes_1 ic_0 ?_
  refine jx_putI (pc := 2) jf_X5_56_4 rfl dX5_eyes_2 rfl rfl (is_90 hS) (by decide) ?_
  have hM := mthr (x := nI 0) h
  have hf : jfm M (js_I M 90 49 (nI 0)) := jsm.I (by decide)
  generalize js_I M 90 49 (nI 0) = M0 at hM hf ⊢
  clear hS
  have hS := hM.1
  refine jw_aload_n (pc := 5) dX5_eyes_5 rfl ?_
  refine jw_iload_n (pc := 6) dX5_eyes_6 rfl ?_
  refine jx_cVE (mi1 := mi_X5_isPerson) (pc := 7) rfl dX5_eyes_7 lk_X5_423 rfl fi_X5_isPerson rfl rfl rfl (by decide) (is_90 hS) (t_X5_isPerson (o := sv σ) hM rfl) (by first | decide | omega) rfl rfl (by decide) ?_
  first | refine jx_ifb_ne (pc := 10) (tgt := 19) dX5_eyes_10 (by decide) ?_ ?_ | refine jx_if_ne (pc := 10) (tgt := 19) dX5_eyes_10 (by decide) (by omega) ?_ ?_ | refine jw_if_ne (pc := 10) (tgt := 19) dX5_eyes_10 (by decide) ?_ ?_
  · intro h_10
    obtain ⟨V, ka, hv9, hka, rfl⟩ := ixV_t h_10
    obtain ⟨w, hs, hN⟩ := hM.so hv9
    have hn := wf_nq hs.w
    have hw := hs.s
    refine jw_iload_n (pc := 19) dX5_eyes_19 rfl ?_
    refine jx_cSE (mi1 := mi_X5_isStep) (pc := 20) rfl dX5_eyes_20 lk_X5_411 rfl fi_X5_isStep (t_X5_isStep) (by first | decide | omega) rfl rfl (by decide) ?_
    first | refine jx_ifb_eq (pc := 23) (tgt := 48) dX5_eyes_23 (by decide) ?_ ?_ | refine jx_if_eq (pc := 23) (tgt := 48) dX5_eyes_23 (by decide) (by omega) ?_ ?_ | refine jw_if_eq (pc := 23) (tgt := 48) dX5_eyes_23 (by decide) ?_ ?_
    · intro h_23
      refine jw_aload_n (pc := 48) dX5_eyes_48 rfl ?_
      refine jw_iconst (pc := 49) dX5_eyes_49 ic_2 ?_
      refine jx_cVi (mi1 := mi_X5_refused) (pc := 50) rfl dX5_eyes_50 lk_X5_62 rfl fi_X5_refused rfl rfl rfl (by decide) (is_90 hS) (t_X5_refused hM) (by first | decide | omega) rfl rfl (by decide) ?_
      intro x_50 M_50 q_50
      refine jw_ireturn (pc := 53) dX5_eyes_53 rfl (rfl) ?_
      first
        | (refine qm ?_ hf q_50; unfold q_eyes; rw [if_pos h_10, if_neg (by rw [h_23]; decide)] <;> rfl)
        | (refine qm ?_ hf q_42; unfold q_eyes; rw [if_pos h_10, if_pos h_23, vv_s hv9, iN_n (by omega), iN_n (by omega), h_33] <;> rfl)
    · intro h_23
      obtain ⟨kt, hkt, rfl⟩ := isIx_of h_23
      refine jw_aload_n (pc := 26) dX5_eyes_26 rfl ?_
      refine jw_aload_n (pc := 27) dX5_eyes_27 rfl ?_
      refine jw_iload_n (pc := 28) dX5_eyes_28 rfl ?_
      refine jw_iload_n (pc := 29) dX5_eyes_29 rfl ?_
      refine jx_cVE (mi1 := mi_X5_hasEyes) (pc := 30) rfl dX5_eyes_30 lk_X5_426 rfl fi_X5_hasEyes rfl rfl rfl (by decide) (is_90 hS) (t_X5_hasEyes hs (by omega) hka) (by first | decide | omega) rfl rfl (by simp only [List.map_cons, List.map_nil, List.sum_cons, List.sum_nil, cat_i, cat_l, jr_cat]; decide) ?_
      first | refine jx_ifb_eq (pc := 33) (tgt := 40) dX5_eyes_33 (by decide) ?_ ?_ | refine jx_if_eq (pc := 33) (tgt := 40) dX5_eyes_33 (by decide) (by omega) ?_ ?_ | refine jw_if_eq (pc := 33) (tgt := 40) dX5_eyes_33 (by decide) ?_ ?_
      · intro h_33
        refine jw_iconst (pc := 40) dX5_eyes_40 ic_0 ?_
        refine jw_iconst (pc := 41) dX5_eyes_41 ic_0 ?_
        refine jx_cVi (mi1 := mi_X5_told) (pc := 42) rfl dX5_eyes_42 lk_X5_66 rfl fi_X5_told rfl rfl rfl (by decide) (is_90 hS) (t_X5_told0 hM) (by first | decide | omega) rfl rfl (by decide) ?_
        intro x_42 M_42 q_42
        refine jw_goto (pc := 45) (tgt := 53) dX5_eyes_45 (by decide) ?_
        refine jw_ireturn (pc := 53) dX5_eyes_53 rfl (rfl) ?_
        first
          | (refine qm ?_ hf q_50; unfold q_eyes; rw [if_pos h_10, if_neg (by rw [h_23]; decide)] <;> rfl)
          | (refine qm ?_ hf q_42; unfold q_eyes; rw [if_pos h_10, if_pos h_23, vv_s hv9, iN_n (by omega), iN_n (by omega), h_33] <;> rfl)
      · intro h_33
        refine jw_iconst (pc := 36) dX5_eyes_36 ic_1 ?_
        refine jw_goto (pc := 37) (tgt := 41) dX5_eyes_37 (by decide) ?_
        refine jw_iconst (pc := 41) dX5_eyes_41 ic_0 ?_
        refine jx_cVi (mi1 := mi_X5_told) (pc := 42) rfl dX5_eyes_42 lk_X5_66 rfl fi_X5_told rfl rfl rfl (by decide) (is_90 hS) (t_X5_told0 hM) (by first | decide | omega) rfl rfl (by decide) ?_
        intro x_42 M_42 q_42
        refine jw_goto (pc := 45) (tgt := 53) dX5_eyes_45 (by decide) ?_
        refine jw_ireturn (pc := 53) dX5_eyes_53 rfl (rfl) ?_
        first
          | (refine qm ?_ hf q_50; unfold q_eyes; rw [if_pos h_10, if_neg (by rw [h_23]; decide)] <;> rfl)
          | (refine qm ?_ hf q_42; unfold q_eyes; rw [if_pos h_10, if_pos h_23, vv_s hv9, iN_n (by omega), iN_n (by omega), h_33] <;> rfl)
  · intro h_10
    refine jw_aload_n (pc := 13) dX5_eyes_13 rfl ?_
    refine jw_iconst (pc := 14) dX5_eyes_14 ic_1 ?_
    refine jx_cVi (mi1 := mi_X5_refused) (pc := 15) rfl dX5_eyes_15 lk_X5_62 rfl fi_X5_refused rfl rfl rfl (by decide) (is_90 hS) (t_X5_refused hM) (by first | decide | omega) rfl rfl (by decide) ?_
    intro x_15 M_15 q_15
    refine jw_ireturn (pc := 18) dX5_eyes_18 rfl (rfl) ?_
    refine qm ?_ hf q_15
    unfold q_eyes
    rw [h_10]; rfl
theorem t_X5_at {a : Int32} (h : jMm M σ) : jT G mi_X5_at 9 [jr (some 90), .int a] M (jQm M σ (q_at σ a)) := by
  have hS := h.1
  refine jT.of (by decide) rfl (Nat.le_of_ble_eq_true rfl) ?_
  refine jw_aload_n (pc := 0) dX5_at_0 rfl ?_
  refine jw_iconst (pc := 1) dX5_at_1 ic_0 ?_
  refine jx_putI (pc := 2) jf_X5_56_4 rfl dX5_at_2 rfl rfl (is_90 hS) (by decide) ?_
  have hM := mthr (x := nI 0) h
  have hf : jfm M (js_I M 90 49 (nI 0)) := jsm.I (by decide)
  generalize js_I M 90 49 (nI 0) = M0 at hM hf ⊢
  clear hS
  have hS := hM.1
  refine jw_aload_n (pc := 5) dX5_at_5 rfl ?_
  refine jw_iload_n (pc := 6) dX5_at_6 rfl ?_
  refine jx_cVE (mi1 := mi_X5_isPerson) (pc := 7) rfl dX5_at_7 lk_X5_423 rfl fi_X5_isPerson rfl rfl rfl (by decide) (is_90 hS) (t_X5_isPerson (o := sv σ) hM rfl) (by first | decide | omega) rfl rfl (by decide) ?_
  first | refine jx_ifb_eq (pc := 10) (tgt := 27) dX5_at_10 (by decide) ?_ ?_ | refine jx_if_eq (pc := 10) (tgt := 27) dX5_at_10 (by decide) (by omega) ?_ ?_ | refine jw_if_eq (pc := 10) (tgt := 27) dX5_at_10 (by decide) ?_ ?_
  · intro h_10
    refine jw_aload_n (pc := 27) dX5_at_27 rfl ?_
    refine jw_iconst (pc := 28) dX5_at_28 ic_1 ?_
    refine jx_cVi (mi1 := mi_X5_refused) (pc := 29) rfl dX5_at_29 lk_X5_62 rfl fi_X5_refused rfl rfl rfl (by decide) (is_90 hS) (t_X5_refused hM) (by first | decide | omega) rfl rfl (by decide) ?_
    intro x_29 M_29 q_29
    refine jw_ireturn (pc := 32) dX5_at_32 rfl (rfl) ?_
    first
      | (refine qm ?_ hf q_29; unfold q_at; rw [if_neg (by rw [h_10]; decide)] <;> rfl)
      | (refine qm ?_ hf q_21; unfold q_at; rw [if_pos h_10, iN_n (by omega)] <;> rfl)
  · intro h_10
    obtain ⟨V, ka, hv9, hka, rfl⟩ := ixV_t h_10
    obtain ⟨w, hs, hN⟩ := hM.so hv9
    have hn := wf_nq hs.w
    have hw := hs.s
    refine jw_aload_n (pc := 13) dX5_at_13 rfl ?_
    refine jw_aload_n (pc := 14) dX5_at_14 rfl ?_
    refine jx_getRs (pc := 15) (jf_X5_17_4.r) rfl dX5_at_15 rfl (is_90 hS) (by decide) (sr_90_68 hS) ?_
    refine jw_iload_n (pc := 18) dX5_at_18 rfl ?_
    refine jx_ialds (pc := 19) dX5_at_19 (ok_92 hS) (nn_92 hS) rfl (by omega) (hN.2.2.2.1 _ hka) ?_
    refine jw_iconst (pc := 20) dX5_at_20 ic_0 ?_
    refine jx_cVi (mi1 := mi_X5_told) (pc := 21) rfl dX5_at_21 lk_X5_66 rfl fi_X5_told rfl rfl rfl (by decide) (is_90 hS) (t_X5_told0 hM) (by first | decide | omega) rfl rfl (by decide) ?_
    intro x_21 M_21 q_21
    refine jw_goto (pc := 24) (tgt := 32) dX5_at_24 (by decide) ?_
    refine jw_ireturn (pc := 32) dX5_at_32 rfl (rfl) ?_
    first
      | (refine qm ?_ hf q_29; unfold q_at; rw [if_neg (by rw [h_10]; decide)] <;> rfl)
      | (refine qm ?_ hf q_21; unfold q_at; rw [if_pos h_10, iN_n (by omega)] <;> rfl)
theorem t_X5_by {a : Int32} (h : jMm M σ) : jT G mi_X5_by 9 [jr (some 90), .int a] M (jQm M σ (q_by σ a)) := by
  have hS := h.1
  refine jT.of (by decide) rfl (Nat.le_of_ble_eq_true rfl) ?_
  refine jw_aload_n (pc := 0) dX5_by_0 rfl ?_
  refine jw_iconst (pc := 1) dX5_by_1 ic_0 ?_
  refine jx_putI (pc := 2) jf_X5_56_4 rfl dX5_by_2 rfl rfl (is_90 hS) (by decide) ?_
  have hM := mthr (x := nI 0) h
  have hf : jfm M (js_I M 90 49 (nI 0)) := jsm.I (by decide)
  generalize js_I M 90 49 (nI 0) = M0 at hM hf ⊢
  clear hS
  have hS := hM.1
  refine jw_aload_n (pc := 5) dX5_by_5 rfl ?_
  refine jw_iload_n (pc := 6) dX5_by_6 rfl ?_
  refine jx_cVE (mi1 := mi_X5_isPerson) (pc := 7) rfl dX5_by_7 lk_X5_423 rfl fi_X5_isPerson rfl rfl rfl (by decide) (is_90 hS) (t_X5_isPerson (o := sv σ) hM rfl) (by first | decide | omega) rfl rfl (by decide) ?_
  first | refine jx_ifb_eq (pc := 10) (tgt := 35) dX5_by_10 (by decide) ?_ ?_ | refine jx_if_eq (pc := 10) (tgt := 35) dX5_by_10 (by decide) (by omega) ?_ ?_ | refine jw_if_eq (pc := 10) (tgt := 35) dX5_by_10 (by decide) ?_ ?_
  · intro h_10
    refine jw_aload_n (pc := 35) dX5_by_35 rfl ?_
    refine jw_iconst (pc := 36) dX5_by_36 ic_1 ?_
    refine jx_cVi (mi1 := mi_X5_refused) (pc := 37) rfl dX5_by_37 lk_X5_62 rfl fi_X5_refused rfl rfl rfl (by decide) (is_90 hS) (t_X5_refused hM) (by first | decide | omega) rfl rfl (by decide) ?_
    intro x_37 M_37 q_37
    refine jw_ireturn (pc := 40) dX5_by_40 rfl (rfl) ?_
    first
      | (refine qm ?_ hf q_37; unfold q_by; rw [if_neg (by rw [h_10]; decide)] <;> rfl)
      | (refine qm ?_ hf q_29; unfold q_by; rw [if_pos h_10, vv_s hv9, iN_n (by omega)] <;> rfl)
  · intro h_10
    obtain ⟨V, ka, hv9, hka, rfl⟩ := ixV_t h_10
    obtain ⟨w, hs, hN⟩ := hM.so hv9
    have hn := wf_nq hs.w
    have hw := hs.s
    have hst := (h.2.1.2 V hv9).2.2.2.1
    refine jw_aload_n (pc := 13) dX5_by_13 rfl ?_
    refine jw_aload_n (pc := 14) dX5_by_14 rfl ?_
    refine jw_aload_n (pc := 15) dX5_by_15 rfl ?_
    refine jx_getRs (pc := 16) (jf_X5_17_4.r) rfl dX5_by_16 rfl (is_90 hS) (by decide) (sr_90_68 hS) ?_
    refine jw_iload_n (pc := 19) dX5_by_19 rfl ?_
    refine jw_aload_n (pc := 20) dX5_by_20 rfl ?_
    refine jx_getIs (pc := 21) (jf_X5_383_4.r) rfl dX5_by_21 rfl (is_90 hS) (by decide) (hN.1) ?_
    refine jw_iconst (pc := 24) dX5_by_24 ic_0 ?_
    refine jx_cVE (mi1 := mi_X5_seeing) (pc := 25) rfl dX5_by_25 lk_X5_429 rfl fi_X5_seeing rfl rfl rfl (by decide) (is_90 hS) (t_X5_seeing (t := sn σ 0) (sh := 0) hs (by decide) (by decide) (by omega) (m_at hS h.2.1 hv9 hN) hka (by decide)) (by first | decide | omega) rfl rfl (by simp only [List.map_cons, List.map_nil, List.sum_cons, List.sum_nil, cat_i, cat_l, jr_cat]; decide) ?_
    refine jw_iconst (pc := 28) dX5_by_28 ic_0 ?_
    refine jx_cVi (mi1 := mi_X5_told) (pc := 29) rfl dX5_by_29 lk_X5_66 rfl fi_X5_told rfl rfl rfl (by decide) (is_90 hS) (t_X5_told0 hM) (by first | decide | omega) rfl rfl (by decide) ?_
    intro x_29 M_29 q_29
    refine jw_goto (pc := 32) (tgt := 40) dX5_by_32 (by decide) ?_
    refine jw_ireturn (pc := 40) dX5_by_40 rfl (rfl) ?_
    first
      | (refine qm ?_ hf q_37; unfold q_by; rw [if_neg (by rw [h_10]; decide)] <;> rfl)
      | (refine qm ?_ hf q_29; unfold q_by; rw [if_pos h_10, vv_s hv9, iN_n (by omega)] <;> rfl)
theorem t_X5_planned {a t : Int32} (h : jMm M σ) : jT G mi_X5_planned 9 [jr (some 90), .int a, .int t] M (jQm M σ (q_planned σ a t)) := by
  have hS := h.1
  refine jT.of (by decide) rfl (Nat.le_of_ble_eq_true rfl) ?_
  refine jw_aload_n (pc := 0) dX5_planned_0 rfl ?_
  refine jw_iconst (pc := 1) dX5_planned_1 ic_0 ?_
  refine jx_putI (pc := 2) jf_X5_56_4 rfl dX5_planned_2 rfl rfl (is_90 hS) (by decide) ?_
  have hM := mthr (x := nI 0) h
  have hf : jfm M (js_I M 90 49 (nI 0)) := jsm.I (by decide)
  generalize js_I M 90 49 (nI 0) = M0 at hM hf ⊢
  clear hS
  have hS := hM.1
  refine jw_aload_n (pc := 5) dX5_planned_5 rfl ?_
  refine jw_iload_n (pc := 6) dX5_planned_6 rfl ?_
  refine jx_cVE (mi1 := mi_X5_isPerson) (pc := 7) rfl dX5_planned_7 lk_X5_423 rfl fi_X5_isPerson rfl rfl rfl (by decide) (is_90 hS) (t_X5_isPerson (o := sv σ) hM rfl) (by first | decide | omega) rfl rfl (by decide) ?_
  first | refine jx_ifb_ne (pc := 10) (tgt := 19) dX5_planned_10 (by decide) ?_ ?_ | refine jx_if_ne (pc := 10) (tgt := 19) dX5_planned_10 (by decide) (by omega) ?_ ?_ | refine jw_if_ne (pc := 10) (tgt := 19) dX5_planned_10 (by decide) ?_ ?_
  · intro h_10
    obtain ⟨V, ka, hv9, hka, rfl⟩ := ixV_t h_10
    obtain ⟨w, hs, hN⟩ := hM.so hv9
    have hn := wf_nq hs.w
    have hw := hs.s
    obtain ⟨d1, d2, d3, d4, d5⟩ := wf_d hs.w
    refine jw_iload_n (pc := 19) dX5_planned_19 rfl ?_
    refine jw_iconst (pc := 20) dX5_planned_20 ic_0 ?_
    refine jw_aload_n (pc := 21) dX5_planned_21 rfl ?_
    refine jx_getRs (pc := 22) (jf_X5_380_4.r) rfl dX5_planned_22 rfl (is_90 hS) (by decide) (hs.r) ?_
    refine jx_getIs (pc := 25) (jf_X5_273_12.r) rfl dX5_planned_25 rfl (wis hw) (by decide) (mi_steps hs.V) ?_
    refine jw_iconst (pc := 28) dX5_planned_28 ic_1 ?_
    refine jw_isub (pc := 29) dX5_planned_29 ?_
    refine jx_cSE (mi1 := mi_X5_in) (pc := 30) rfl dX5_planned_30 lk_X5_135 rfl fi_X5_in (t_X5_in) (by first | decide | omega) rfl rfl (by decide) ?_
    rw [inb_ix (by omega)]
    first | refine jx_ifb_eq (pc := 33) (tgt := 55) dX5_planned_33 (by decide) ?_ ?_ | refine jx_if_eq (pc := 33) (tgt := 55) dX5_planned_33 (by decide) (by omega) ?_ ?_ | refine jw_if_eq (pc := 33) (tgt := 55) dX5_planned_33 (by decide) ?_ ?_
    · intro h_33
      refine jw_aload_n (pc := 55) dX5_planned_55 rfl ?_
      refine jw_iconst (pc := 56) dX5_planned_56 ic_2 ?_
      refine jx_cVi (mi1 := mi_X5_refused) (pc := 57) rfl dX5_planned_57 lk_X5_62 rfl fi_X5_refused rfl rfl rfl (by decide) (is_90 hS) (t_X5_refused hM) (by first | decide | omega) rfl rfl (by decide) ?_
      intro x_57 M_57 q_57
      refine jw_ireturn (pc := 60) dX5_planned_60 rfl (rfl) ?_
      first
        | (refine qm ?_ hf q_57; unfold q_planned; rw [if_pos h_10, vv_s hv9, if_neg (by rw [h_33]; decide)] <;> rfl)
        | (refine qm ?_ hf q_49; unfold q_planned; rw [if_pos h_10, vv_s hv9, if_pos h_33, iN_n (by omega), iN_n (by omega)] <;> rfl)
    · intro h_33
      obtain ⟨kt, hkt, rfl⟩ := isIx_of h_33
      refine jw_aload_n (pc := 36) dX5_planned_36 rfl ?_
      refine jw_aload_n (pc := 37) dX5_planned_37 rfl ?_
      refine jx_getRs (pc := 38) (jf_X5_24_4.r) rfl dX5_planned_38 rfl (is_90 hS) (by decide) (sr_90_72 hS) ?_
      refine jw_bipush (pc := 41) dX5_planned_41 bp_100 ?_
      refine jw_iload_n (pc := 43) dX5_planned_43 rfl ?_
      first | refine jx_imul (pc := 44) dX5_planned_44 ?_ | refine jw_imul (pc := 44) dX5_planned_44 ?_
      refine jw_iload_n (pc := 45) dX5_planned_45 rfl ?_
      first | refine jx_iadd (pc := 46) dX5_planned_46 ?_ | refine jw_iadd (pc := 46) dX5_planned_46 ?_
      refine jx_ialds (pc := 47) dX5_planned_47 (ok_94 hS) (nn_94 hS) rfl (by omega) (hN.2.2.2.2.1 _ _ hka (by omega)) ?_
      refine jw_iconst (pc := 48) dX5_planned_48 ic_0 ?_
      refine jx_cVi (mi1 := mi_X5_told) (pc := 49) rfl dX5_planned_49 lk_X5_66 rfl fi_X5_told rfl rfl rfl (by decide) (is_90 hS) (t_X5_told0 hM) (by first | decide | omega) rfl rfl (by decide) ?_
      intro x_49 M_49 q_49
      refine jw_goto (pc := 52) (tgt := 60) dX5_planned_52 (by decide) ?_
      refine jw_ireturn (pc := 60) dX5_planned_60 rfl (rfl) ?_
      first
        | (refine qm ?_ hf q_57; unfold q_planned; rw [if_pos h_10, vv_s hv9, if_neg (by rw [h_33]; decide)] <;> rfl)
        | (refine qm ?_ hf q_49; unfold q_planned; rw [if_pos h_10, vv_s hv9, if_pos h_33, iN_n (by omega), iN_n (by omega)] <;> rfl)
  · intro h_10
    refine jw_aload_n (pc := 13) dX5_planned_13 rfl ?_
    refine jw_iconst (pc := 14) dX5_planned_14 ic_1 ?_
    refine jx_cVi (mi1 := mi_X5_refused) (pc := 15) rfl dX5_planned_15 lk_X5_62 rfl fi_X5_refused rfl rfl rfl (by decide) (is_90 hS) (t_X5_refused hM) (by first | decide | omega) rfl rfl (by decide) ?_
    intro x_15 M_15 q_15
    refine jw_ireturn (pc := 18) dX5_planned_18 rfl (rfl) ?_
    refine qm ?_ hf q_15
    unfold q_planned
    rw [h_10]; rfl
theorem t_X5_isLawfulNow {w op fg : Nat} {V : Vt} (hs : jMs M w V op fg) (hN : jMn M V σ) (ho : jSo σ) (hv : sv σ = some V) (hop : op < 2 ^ 31) (hfg : fg < 2 ^ 31) : jE G mi_X5_isLawfulNow 6 [jr (some 90)] M (some (.int (jb (lawB V (sa σ 0) (eyesS V (sn σ 0) 0) (seesS V (rangeV V (sn σ 0)) op fg))))) M := by
  have hS := hs.1
  have hst := (ho.2 V hv).2.2.2.1
  refine jE.of (by decide) rfl (Nat.le_of_ble_eq_true rfl) ?_
  refine jw_aload_n (pc := 0) dX5_isLawfulNow_0 rfl ?_
  refine jw_aload_n (pc := 1) dX5_isLawfulNow_1 rfl ?_
  refine jx_getRs (pc := 2) (jf_X5_17_4.r) rfl dX5_isLawfulNow_2 rfl (is_90 hS) (by decide) (sr_90_68 hS) ?_
  refine jw_aload_n (pc := 5) dX5_isLawfulNow_5 rfl ?_
  refine jx_getIs (pc := 6) (jf_X5_383_4.r) rfl dX5_isLawfulNow_6 rfl (is_90 hS) (by decide) (hN.1) ?_
  refine jw_iconst (pc := 9) dX5_isLawfulNow_9 ic_0 ?_
  refine jx_cVE (mi1 := mi_X5_isLawful) (pc := 10) rfl dX5_isLawfulNow_10 lk_X5_433 rfl fi_X5_isLawful rfl rfl rfl (by decide) (is_90 hS) (t_X5_isLawful (t := sn σ 0) (sh := 0) hs hop hfg (by omega) (m_at hS ho hv hN) (by decide)) (by first | decide | omega) rfl rfl (by decide) ?_
  refine jw_ireturn (pc := 13) dX5_isLawfulNow_13 rfl (by first | exact jnar_b _ | exact jnar_0 | exact jnar_1 | decide +kernel) ?_
  exact ⟨rfl, rfl⟩
theorem t_X5_unseenNow {w : Nat} {V : Vt} (hs : jMs M w V 0 0) (hN : jMn M V σ) (ho : jSo σ) (hv : sv σ = some V) : jE G mi_X5_unseenNow 6 [jr (some 90)] M (some (.int (nI (unseenS V (sa σ 0) (eyesS V (sn σ 0) 0) (seesS V (rangeV V (sn σ 0)) 0 0))))) M := by
  have hS := hs.1
  have hw := hs.s
  have hn := wf_nq hs.w
  have hst := (ho.2 V hv).2.2.2.1
  refine jE.of (by decide) rfl (Nat.le_of_ble_eq_true rfl) ?_
  have J : ∀ k : Nat, k ≤ V 0 1 → jW G mi_X5_unseenNow 6 M 4 [some (jr (some 90)), some (.int (nI (msk k (fun p => decide (watchS V (sa σ 0) (eyesS V (sn σ 0) 0) (seesS V (rangeV V (sn σ 0)) 0 0) p = 0))))), some (.int (nI k))] [] M (fun r M' => r = .inl (some (.int (nI (unseenS V (sa σ 0) (eyesS V (sn σ 0) 0) (seesS V (rangeV V (sn σ 0)) 0 0))))) ∧ M' = M) := by
    refine jW.loop _ (fun k => V 0 1 - k) _ (fun _ => []) (fun _ => M) (fun k hk ih => ?_)
    by_cases hkn : k < V 0 1
    · have hm2 : watchS V (sa σ 0) (eyesS V (sn σ 0) 0) (seesS V (rangeV V (sn σ 0)) 0 0) k < 32 := msk5 hn _
      refine jw_iload_n (pc := 4) dX5_unseenNow_4 rfl ?_
      refine jw_aload_n (pc := 5) dX5_unseenNow_5 rfl ?_
      refine jx_getRs (pc := 6) (jf_X5_380_4.r) rfl dX5_unseenNow_6 rfl (is_90 hS) (by decide) (hs.r) ?_
      refine jx_getIs (pc := 9) (jf_X5_221_12.r) rfl dX5_unseenNow_9 rfl (wis hw) (by decide) (mi_nq hs.V) ?_
      first | refine jx_icmp_ge (pc := 12) (tgt := 48) dX5_unseenNow_12 (by decide) (by omega) (by omega) ?_ ?_ | refine jw_icmp_ge (pc := 12) (tgt := 48) dX5_unseenNow_12 (by decide) ?_ ?_
      · intro h_12
        omega
      · intro h_12
        refine jw_iload_n (pc := 15) dX5_unseenNow_15 rfl ?_
        refine jw_aload_n (pc := 16) dX5_unseenNow_16 rfl ?_
        refine jw_aload_n (pc := 17) dX5_unseenNow_17 rfl ?_
        refine jx_getRs (pc := 18) (jf_X5_17_4.r) rfl dX5_unseenNow_18 rfl (is_90 hS) (by decide) (sr_90_68 hS) ?_
        refine jw_iload_n (pc := 21) dX5_unseenNow_21 rfl ?_
        refine jw_aload_n (pc := 22) dX5_unseenNow_22 rfl ?_
        refine jx_getIs (pc := 23) (jf_X5_383_4.r) rfl dX5_unseenNow_23 rfl (is_90 hS) (by decide) (hN.1) ?_
        refine jw_iconst (pc := 26) dX5_unseenNow_26 ic_0 ?_
        refine jx_cVE (mi1 := mi_X5_seeing) (pc := 27) rfl dX5_unseenNow_27 lk_X5_429 rfl fi_X5_seeing rfl rfl rfl (by decide) (is_90 hS) (t_X5_seeing (t := sn σ 0) (sh := 0) hs (by decide) (by decide) (by omega) (m_at hS ho hv hN) hkn (by decide)) (by first | decide | omega) rfl rfl (by simp only [List.map_cons, List.map_nil, List.sum_cons, List.sum_nil, Value.category]; decide) ?_
        first | refine jx_ifb_ne (pc := 30) (tgt := 39) dX5_unseenNow_30 (by decide) ?_ ?_ | refine jx_if_ne (pc := 30) (tgt := 39) dX5_unseenNow_30 (by decide) (by omega) ?_ ?_ | refine jw_if_ne (pc := 30) (tgt := 39) dX5_unseenNow_30 (by decide) ?_ ?_
        · intro h_30
          refine jw_iconst (pc := 39) dX5_unseenNow_39 ic_0 ?_
          refine jw_ior (pc := 40) dX5_unseenNow_40 ?_
          rw [nI_or']
          refine jw_istore_n (pc := 41) dX5_unseenNow_41 (Nat.le_of_ble_eq_true rfl) rfl ?_
          try dsimp only [jput1, jput2, jkill, jclr, jis2_i, jis2_l, jis2_rs, jis2_rn, cond]
          first | refine jx_iinc (pc := 42) dX5_unseenNow_42 rfl rfl ?_ | refine jw_iinc (pc := 42) dX5_unseenNow_42 rfl rfl rfl ?_
          try dsimp only [jput1, jkill, jclr, jis2_i, jis2_l, jis2_rs, jis2_rn, cond]
          refine jw_goto (pc := 45) (tgt := 4) dX5_unseenNow_45 (by decide) ?_
          refine jW.eq ?_ rfl rfl (ih (k + 1) hkn (by omega))
          simp_all [msk_s]
        · intro h_30
          refine jw_iconst (pc := 33) dX5_unseenNow_33 ic_1 ?_
          refine jw_iload_n (pc := 34) dX5_unseenNow_34 rfl ?_
          refine jw_ishl (pc := 35) dX5_unseenNow_35 ?_
          rw [shl1 (by omega)]
          refine jw_goto (pc := 36) (tgt := 40) dX5_unseenNow_36 (by decide) ?_
          refine jw_ior (pc := 40) dX5_unseenNow_40 ?_
          rw [nI_or']
          refine jw_istore_n (pc := 41) dX5_unseenNow_41 (Nat.le_of_ble_eq_true rfl) rfl ?_
          try dsimp only [jput1, jput2, jkill, jclr, jis2_i, jis2_l, jis2_rs, jis2_rn, cond]
          first | refine jx_iinc (pc := 42) dX5_unseenNow_42 rfl rfl ?_ | refine jw_iinc (pc := 42) dX5_unseenNow_42 rfl rfl rfl ?_
          try dsimp only [jput1, jkill, jclr, jis2_i, jis2_l, jis2_rs, jis2_rn, cond]
          refine jw_goto (pc := 45) (tgt := 4) dX5_unseenNow_45 (by decide) ?_
          refine jW.eq ?_ rfl rfl (ih (k + 1) hkn (by omega))
          simp_all [msk_s]
    · have hk' : k = V 0 1 := by omega
      subst hk'
      refine jw_iload_n (pc := 4) dX5_unseenNow_4 rfl ?_
      refine jw_aload_n (pc := 5) dX5_unseenNow_5 rfl ?_
      refine jx_getRs (pc := 6) (jf_X5_380_4.r) rfl dX5_unseenNow_6 rfl (is_90 hS) (by decide) (hs.r) ?_
      refine jx_getIs (pc := 9) (jf_X5_221_12.r) rfl dX5_unseenNow_9 rfl (wis hw) (by decide) (mi_nq hs.V) ?_
      first | refine jx_icmp_ge (pc := 12) (tgt := 48) dX5_unseenNow_12 (by decide) (by omega) (by omega) ?_ ?_ | refine jw_icmp_ge (pc := 12) (tgt := 48) dX5_unseenNow_12 (by decide) ?_ ?_
      · intro h_12
        refine jw_iload_n (pc := 48) dX5_unseenNow_48 rfl ?_
        refine jw_ireturn (pc := 49) dX5_unseenNow_49 rfl (rfl) ?_
        exact ⟨rfl, rfl⟩
      · intro h_12
        omega
  refine jw_iconst (pc := 0) dX5_unseenNow_0 ic_0 ?_
  refine jw_istore_n (pc := 1) dX5_unseenNow_1 (Nat.le_of_ble_eq_true rfl) rfl ?_
  try dsimp only [jput1, jput2, jkill, jclr, jis2_i, jis2_l, jis2_rs, jis2_rn, cond]
  refine jw_iconst (pc := 2) dX5_unseenNow_2 ic_0 ?_
  refine jw_istore_n (pc := 3) dX5_unseenNow_3 (Nat.le_of_ble_eq_true rfl) rfl ?_
  try dsimp only [jput1, jput2, jkill, jclr, jis2_i, jis2_l, jis2_rs, jis2_rn, cond]
  exact J 0 (Nat.zero_le _)
theorem t_X5_unseen (h : jMm M σ) : jT G mi_X5_unseen 9 [jr (some 90)] M (jQm M σ (q_unseen σ)) := by
  have hS := h.1
  refine jT.of (by decide) rfl (Nat.le_of_ble_eq_true rfl) ?_
  cases hv9 : sv σ with
  | none =>
    refine jw_aload_n (pc := 0) dX5_unseen_0 rfl ?_
    refine jw_iconst (pc := 1) dX5_unseen_1 ic_0 ?_
    refine jx_putI (pc := 2) jf_X5_56_4 rfl dX5_unseen_2 rfl rfl (is_90 hS) (by decide) ?_
    have hM := mthr (x := nI 0) h
    have hf : jfm M (js_I M 90 49 (nI 0)) := jsm.I (by decide)
    generalize js_I M 90 49 (nI 0) = M0 at hM hf ⊢
    clear hS
    have hS := hM.1
    refine jw_aload_n (pc := 5) dX5_unseen_5 rfl ?_
    refine jx_getRs (pc := 6) (jf_X5_380_4.r) rfl dX5_unseen_6 rfl (is_90 hS) (by decide) (hM.no hv9) ?_
    refine jw_ifnonnull (pc := 9) (tgt := 20) dX5_unseen_9 (by decide) (fun ax h => by cases h) (fun h => ?_)
    clear h
    refine jw_aload_n (pc := 12) dX5_unseen_12 rfl ?_
    refine jw_iconst (pc := 13) dX5_unseen_13 ic_1 ?_
    refine jx_cVi (mi1 := mi_X5_refused) (pc := 14) rfl dX5_unseen_14 lk_X5_62 rfl fi_X5_refused rfl rfl rfl (by decide) (is_90 hS) (t_X5_refused hM) (by first | decide | omega) rfl rfl (by decide) ?_
    intro x_14 M_14 q_14
    refine jw_goto (pc := 17) (tgt := 29) dX5_unseen_17 (by decide) ?_
    refine jw_ireturn (pc := 29) dX5_unseen_29 rfl (rfl) ?_
    refine qm ?_ hf q_14
    unfold q_unseen; rw [hv9] <;> rfl
  | some V =>
    refine jw_aload_n (pc := 0) dX5_unseen_0 rfl ?_
    refine jw_iconst (pc := 1) dX5_unseen_1 ic_0 ?_
    refine jx_putI (pc := 2) jf_X5_56_4 rfl dX5_unseen_2 rfl rfl (is_90 hS) (by decide) ?_
    have hM := mthr (x := nI 0) h
    have hf : jfm M (js_I M 90 49 (nI 0)) := jsm.I (by decide)
    generalize js_I M 90 49 (nI 0) = M0 at hM hf ⊢
    clear hS
    have hS := hM.1
    obtain ⟨w, hs, hN⟩ := hM.so hv9
    have hw := hs.s
    refine jw_aload_n (pc := 5) dX5_unseen_5 rfl ?_
    refine jx_getRs (pc := 6) (jf_X5_380_4.r) rfl dX5_unseen_6 rfl (is_90 hS) (by decide) (hs.r) ?_
    refine jw_ifnonnull (pc := 9) (tgt := 20) dX5_unseen_9 (by decide) (fun ax h => ?_) (fun h => by cases h)
    clear h
    refine jw_aload_n (pc := 20) dX5_unseen_20 rfl ?_
    refine jw_aload_n (pc := 21) dX5_unseen_21 rfl ?_
    refine jx_cVE (mi1 := mi_X5_unseenNow) (pc := 22) rfl dX5_unseen_22 lk_X5_443 rfl fi_X5_unseenNow rfl rfl rfl (by decide) (is_90 hS) (t_X5_unseenNow hs hN h.2.1 hv9) (by first | decide | omega) rfl rfl (by simp only [List.map_cons, List.map_nil, List.sum_cons, List.sum_nil, cat_i, cat_l, jr_cat]; decide) ?_
    refine jw_iconst (pc := 25) dX5_unseen_25 ic_0 ?_
    refine jx_cVi (mi1 := mi_X5_told) (pc := 26) rfl dX5_unseen_26 lk_X5_66 rfl fi_X5_told rfl rfl rfl (by decide) (is_90 hS) (t_X5_told0 hM) (by first | decide | omega) rfl rfl (by decide) ?_
    intro x_26 M_26 q_26
    refine jw_ireturn (pc := 29) dX5_unseen_29 rfl (rfl) ?_
    refine qm ?_ hf q_26
    unfold q_unseen; rw [hv9] <;> rfl
theorem t_X5_lawful (h : jMm M σ) : jT G mi_X5_lawful 9 [jr (some 90)] M (jQm M σ (q_lawful σ)) := by
  have hS := h.1
  refine jT.of (by decide) rfl (Nat.le_of_ble_eq_true rfl) ?_
  cases hv9 : sv σ with
  | none =>
    refine jw_aload_n (pc := 0) dX5_lawful_0 rfl ?_
    refine jw_iconst (pc := 1) dX5_lawful_1 ic_0 ?_
    refine jx_putI (pc := 2) jf_X5_56_4 rfl dX5_lawful_2 rfl rfl (is_90 hS) (by decide) ?_
    have hM := mthr (x := nI 0) h
    have hf : jfm M (js_I M 90 49 (nI 0)) := jsm.I (by decide)
    generalize js_I M 90 49 (nI 0) = M0 at hM hf ⊢
    clear hS
    have hS := hM.1
    refine jw_aload_n (pc := 5) dX5_lawful_5 rfl ?_
    refine jx_getRs (pc := 6) (jf_X5_380_4.r) rfl dX5_lawful_6 rfl (is_90 hS) (by decide) (hM.no hv9) ?_
    refine jw_ifnonnull (pc := 9) (tgt := 20) dX5_lawful_9 (by decide) (fun ax h => by cases h) (fun h => ?_)
    clear h
    refine jw_aload_n (pc := 12) dX5_lawful_12 rfl ?_
    refine jw_iconst (pc := 13) dX5_lawful_13 ic_1 ?_
    refine jx_cVi (mi1 := mi_X5_refused) (pc := 14) rfl dX5_lawful_14 lk_X5_62 rfl fi_X5_refused rfl rfl rfl (by decide) (is_90 hS) (t_X5_refused hM) (by first | decide | omega) rfl rfl (by decide) ?_
    intro x_14 M_14 q_14
    refine jw_goto (pc := 17) (tgt := 37) dX5_lawful_17 (by decide) ?_
    refine jw_ireturn (pc := 37) dX5_lawful_37 rfl (rfl) ?_
    refine qm ?_ hf q_14
    unfold q_lawful; rw [hv9] <;> rfl
  | some V =>
    refine jw_aload_n (pc := 0) dX5_lawful_0 rfl ?_
    refine jw_iconst (pc := 1) dX5_lawful_1 ic_0 ?_
    refine jx_putI (pc := 2) jf_X5_56_4 rfl dX5_lawful_2 rfl rfl (is_90 hS) (by decide) ?_
    have hM := mthr (x := nI 0) h
    have hf : jfm M (js_I M 90 49 (nI 0)) := jsm.I (by decide)
    generalize js_I M 90 49 (nI 0) = M0 at hM hf ⊢
    clear hS
    have hS := hM.1
    obtain ⟨w, hs, hN⟩ := hM.so hv9
    have hw := hs.s
    refine jw_aload_n (pc := 5) dX5_lawful_5 rfl ?_
    refine jx_getRs (pc := 6) (jf_X5_380_4.r) rfl dX5_lawful_6 rfl (is_90 hS) (by decide) (hs.r) ?_
    refine jw_ifnonnull (pc := 9) (tgt := 20) dX5_lawful_9 (by decide) (fun ax h => ?_) (fun h => by cases h)
    clear h
    refine jw_aload_n (pc := 20) dX5_lawful_20 rfl ?_
    refine jw_aload_n (pc := 21) dX5_lawful_21 rfl ?_
    refine jx_cVE (mi1 := mi_X5_isLawfulNow) (pc := 22) rfl dX5_lawful_22 lk_X5_446 rfl fi_X5_isLawfulNow rfl rfl rfl (by decide) (is_90 hS) (t_X5_isLawfulNow hs hN h.2.1 hv9 (by decide) (by decide)) (by first | decide | omega) rfl rfl (by simp only [List.map_cons, List.map_nil, List.sum_cons, List.sum_nil, cat_i, cat_l, jr_cat]; decide) ?_
    first | refine jx_ifb_eq (pc := 25) (tgt := 32) dX5_lawful_25 (by decide) ?_ ?_ | refine jx_if_eq (pc := 25) (tgt := 32) dX5_lawful_25 (by decide) (by omega) ?_ ?_ | refine jw_if_eq (pc := 25) (tgt := 32) dX5_lawful_25 (by decide) ?_ ?_
    · intro h_25
      refine jw_iconst (pc := 32) dX5_lawful_32 ic_0 ?_
      refine jw_iconst (pc := 33) dX5_lawful_33 ic_0 ?_
      refine jx_cVi (mi1 := mi_X5_told) (pc := 34) rfl dX5_lawful_34 lk_X5_66 rfl fi_X5_told rfl rfl rfl (by decide) (is_90 hS) (t_X5_told0 hM) (by first | decide | omega) rfl rfl (by decide) ?_
      intro x_34 M_34 q_34
      refine jw_ireturn (pc := 37) dX5_lawful_37 rfl (rfl) ?_
      refine qm ?_ hf q_34
      unfold q_lawful lawfulV; rw [hv9]; simp only [h_25] <;> rfl
    · intro h_25
      refine jw_iconst (pc := 28) dX5_lawful_28 ic_1 ?_
      refine jw_goto (pc := 29) (tgt := 33) dX5_lawful_29 (by decide) ?_
      refine jw_iconst (pc := 33) dX5_lawful_33 ic_0 ?_
      refine jx_cVi (mi1 := mi_X5_told) (pc := 34) rfl dX5_lawful_34 lk_X5_66 rfl fi_X5_told rfl rfl rfl (by decide) (is_90 hS) (t_X5_told0 hM) (by first | decide | omega) rfl rfl (by decide) ?_
      intro x_34 M_34 q_34
      refine jw_ireturn (pc := 37) dX5_lawful_37 rfl (rfl) ?_
      refine qm ?_ hf q_34
      unfold q_lawful lawfulV; rw [hv9]; simp only [h_25] <;> rfl
theorem t_X5_time {t : Int32} (h : jMm M σ) : jT G mi_X5_time 9 [jr (some 90), .int t] M (jOm M (o_time σ t)) := by
  have hS := h.1
  refine jT.of (by decide) rfl (Nat.le_of_ble_eq_true rfl) ?_
  cases hv9 : sv σ with
  | none =>
    refine jw_aload_n (pc := 0) dX5_time_0 rfl ?_
    refine jw_iconst (pc := 1) dX5_time_1 ic_0 ?_
    refine jx_putI (pc := 2) jf_X5_56_4 rfl dX5_time_2 rfl rfl (is_90 hS) (by decide) ?_
    have hM := mthr (x := nI 0) h
    have hf : jfm M (js_I M 90 49 (nI 0)) := jsm.I (by decide)
    generalize js_I M 90 49 (nI 0) = M0 at hM hf ⊢
    clear hS
    have hS := hM.1
    refine jw_aload_n (pc := 5) dX5_time_5 rfl ?_
    refine jx_getRs (pc := 6) (jf_X5_380_4.r) rfl dX5_time_6 rfl (is_90 hS) (by decide) (hM.no hv9) ?_
    refine jw_ifnonnull (pc := 9) (tgt := 18) dX5_time_9 (by decide) (fun ax h => by cases h) (fun h => ?_)
    clear h
    refine jw_aload_n (pc := 12) dX5_time_12 rfl ?_
    refine jw_iconst (pc := 13) dX5_time_13 ic_1 ?_
    refine jx_cVi (mi1 := mi_X5_denied) (pc := 14) rfl dX5_time_14 lk_X5_437 rfl fi_X5_denied rfl rfl rfl (by decide) (is_90 hS) (t_X5_denied hM) (by first | decide | omega) rfl rfl (by decide) ?_
    intro x_14 M_14 q_14
    have e_14 := q_14.1; subst e_14
    refine jw_ireturn (pc := 17) dX5_time_17 rfl (by first | exact jnar_b _ | exact jnar_0 | exact jnar_1 | decide +kernel) ?_
    exact ⟨_, rfl, by unfold o_time; rw [hv9]; exact ⟨q_14.1, q_14.2.1, hf.tr q_14.2.2⟩⟩
  | some V =>
    refine jw_aload_n (pc := 0) dX5_time_0 rfl ?_
    refine jw_iconst (pc := 1) dX5_time_1 ic_0 ?_
    refine jx_putI (pc := 2) jf_X5_56_4 rfl dX5_time_2 rfl rfl (is_90 hS) (by decide) ?_
    have hM := mthr (x := nI 0) h
    have hf : jfm M (js_I M 90 49 (nI 0)) := jsm.I (by decide)
    generalize js_I M 90 49 (nI 0) = M0 at hM hf ⊢
    clear hS
    have hS := hM.1
    obtain ⟨w, hs, hN⟩ := hM.so hv9
    have hw := hs.s
    refine jw_aload_n (pc := 5) dX5_time_5 rfl ?_
    refine jx_getRs (pc := 6) (jf_X5_380_4.r) rfl dX5_time_6 rfl (is_90 hS) (by decide) (hs.r) ?_
    refine jw_ifnonnull (pc := 9) (tgt := 18) dX5_time_9 (by decide) (fun ax h => ?_) (fun h => by cases h)
    clear h
    refine jw_iload_n (pc := 18) dX5_time_18 rfl ?_
    refine jw_iconst (pc := 19) dX5_time_19 ic_0 ?_
    refine jw_bipush (pc := 20) dX5_time_20 bp_99 ?_
    refine jx_cSE (mi1 := mi_X5_in) (pc := 22) rfl dX5_time_22 lk_X5_135 rfl fi_X5_in (t_X5_in) (by first | decide | omega) rfl rfl (by decide) ?_
    rw [show inb t (nI 0) (nI 99) = isIx 100 t from inb_ix' (n := 99) (by decide)]
    first | refine jx_ifb_ne (pc := 25) (tgt := 34) dX5_time_25 (by decide) ?_ ?_ | refine jx_if_ne (pc := 25) (tgt := 34) dX5_time_25 (by decide) (by omega) ?_ ?_ | refine jw_if_ne (pc := 25) (tgt := 34) dX5_time_25 (by decide) ?_ ?_
    · intro h_25
      obtain ⟨kt, hkt, rfl⟩ := isIx_of h_25
      have hM2 := mstep hM hkt
      refine jw_aload_n (pc := 34) dX5_time_34 rfl ?_
      refine jw_iload_n (pc := 35) dX5_time_35 rfl ?_
      refine jx_putI (pc := 36) jf_X5_383_4 rfl dX5_time_36 rfl rfl (is_90 hS) (by decide) ?_
      refine jw_aload_n (pc := 39) dX5_time_39 rfl ?_
      refine jx_cVi (mi1 := mi_X5_granted) (pc := 40) rfl dX5_time_40 lk_X5_440 rfl fi_X5_granted rfl rfl rfl (by decide) (is_90 hS) (t_X5_granted hM2) (by first | decide | omega) rfl rfl (by decide) ?_
      intro x_40 M_40 q_40
      have e_40 := q_40.1; subst e_40
      refine jw_ireturn (pc := 43) dX5_time_43 rfl (by first | exact jnar_b _ | exact jnar_0 | exact jnar_1 | decide +kernel) ?_
      refine ⟨_, rfl, ?_⟩
      unfold o_time; rw [hv9]; simp only [h_25, iN_n (show kt < 2 ^ 31 by omega)]
      exact ⟨q_40.1, q_40.2.1, hf.tr ((jsm.I (by decide)).tr q_40.2.2)⟩
    · intro h_25
      refine jw_aload_n (pc := 28) dX5_time_28 rfl ?_
      refine jw_iconst (pc := 29) dX5_time_29 ic_2 ?_
      refine jx_cVi (mi1 := mi_X5_denied) (pc := 30) rfl dX5_time_30 lk_X5_437 rfl fi_X5_denied rfl rfl rfl (by decide) (is_90 hS) (t_X5_denied hM) (by first | decide | omega) rfl rfl (by decide) ?_
      intro x_30 M_30 q_30
      have e_30 := q_30.1; subst e_30
      refine jw_ireturn (pc := 33) dX5_time_33 rfl (by first | exact jnar_b _ | exact jnar_0 | exact jnar_1 | decide +kernel) ?_
      exact ⟨_, rfl, by unfold o_time; rw [hv9]; simp only [h_25]; exact ⟨q_30.1, q_30.2.1, hf.tr q_30.2.2⟩⟩
theorem t_X5_seed {t : Int32} (h : jMm M σ) : jT G mi_X5_seed 9 [jr (some 90), .int t] M (jOm M (o_seed σ t)) := by
  have hS := h.1
  refine jT.of (by decide) rfl (Nat.le_of_ble_eq_true rfl) ?_
  cases hv9 : sv σ with
  | none =>
    refine jw_aload_n (pc := 0) dX5_seed_0 rfl ?_
    refine jw_iconst (pc := 1) dX5_seed_1 ic_0 ?_
    refine jx_putI (pc := 2) jf_X5_56_4 rfl dX5_seed_2 rfl rfl (is_90 hS) (by decide) ?_
    have hM := mthr (x := nI 0) h
    have hf : jfm M (js_I M 90 49 (nI 0)) := jsm.I (by decide)
    generalize js_I M 90 49 (nI 0) = M0 at hM hf ⊢
    clear hS
    have hS := hM.1
    refine jw_aload_n (pc := 5) dX5_seed_5 rfl ?_
    refine jx_getRs (pc := 6) (jf_X5_380_4.r) rfl dX5_seed_6 rfl (is_90 hS) (by decide) (hM.no hv9) ?_
    refine jw_ifnonnull (pc := 9) (tgt := 18) dX5_seed_9 (by decide) (fun ax h => by cases h) (fun h => ?_)
    clear h
    refine jw_aload_n (pc := 12) dX5_seed_12 rfl ?_
    refine jw_iconst (pc := 13) dX5_seed_13 ic_1 ?_
    refine jx_cVi (mi1 := mi_X5_denied) (pc := 14) rfl dX5_seed_14 lk_X5_437 rfl fi_X5_denied rfl rfl rfl (by decide) (is_90 hS) (t_X5_denied hM) (by first | decide | omega) rfl rfl (by decide) ?_
    intro x_14 M_14 q_14
    have e_14 := q_14.1; subst e_14
    refine jw_ireturn (pc := 17) dX5_seed_17 rfl (by first | exact jnar_b _ | exact jnar_0 | exact jnar_1 | decide +kernel) ?_
    exact ⟨_, rfl, by unfold o_seed; rw [hv9]; exact ⟨q_14.1, q_14.2.1, hf.tr q_14.2.2⟩⟩
  | some V =>
    refine jw_aload_n (pc := 0) dX5_seed_0 rfl ?_
    refine jw_iconst (pc := 1) dX5_seed_1 ic_0 ?_
    refine jx_putI (pc := 2) jf_X5_56_4 rfl dX5_seed_2 rfl rfl (is_90 hS) (by decide) ?_
    have hM := mthr (x := nI 0) h
    have hf : jfm M (js_I M 90 49 (nI 0)) := jsm.I (by decide)
    generalize js_I M 90 49 (nI 0) = M0 at hM hf ⊢
    clear hS
    have hS := hM.1
    obtain ⟨w, hs, hN⟩ := hM.so hv9
    have hw := hs.s
    refine jw_aload_n (pc := 5) dX5_seed_5 rfl ?_
    refine jx_getRs (pc := 6) (jf_X5_380_4.r) rfl dX5_seed_6 rfl (is_90 hS) (by decide) (hs.r) ?_
    refine jw_ifnonnull (pc := 9) (tgt := 18) dX5_seed_9 (by decide) (fun ax h => ?_) (fun h => by cases h)
    clear h
    refine jw_iload_n (pc := 18) dX5_seed_18 rfl ?_
    refine jw_iconst (pc := 19) dX5_seed_19 ic_0 ?_
    refine jw_ldcw (pc := 20) q2228 rfl (w := nI 65536) rfl dX5_seed_20 ?_
    refine jx_cSE (mi1 := mi_X5_in) (pc := 23) rfl dX5_seed_23 lk_X5_135 rfl fi_X5_in (t_X5_in) (by first | decide | omega) rfl rfl (by decide) ?_
    rw [show inb t (nI 0) (nI 65536) = isIx 65537 t from inb_ix' (n := 65536) (by decide)]
    first | refine jx_ifb_ne (pc := 26) (tgt := 35) dX5_seed_26 (by decide) ?_ ?_ | refine jx_if_ne (pc := 26) (tgt := 35) dX5_seed_26 (by decide) (by omega) ?_ ?_ | refine jw_if_ne (pc := 26) (tgt := 35) dX5_seed_26 (by decide) ?_ ?_
    · intro h_26
      obtain ⟨kt, hkt, rfl⟩ := isIx_of h_26
      have hM2 := mseed hM hkt
      refine jw_aload_n (pc := 35) dX5_seed_35 rfl ?_
      refine jw_iload_n (pc := 36) dX5_seed_36 rfl ?_
      refine jx_putI (pc := 37) jf_X5_386_4 rfl dX5_seed_37 rfl rfl (is_90 hS) (by decide) ?_
      refine jw_aload_n (pc := 40) dX5_seed_40 rfl ?_
      refine jx_cVi (mi1 := mi_X5_granted) (pc := 41) rfl dX5_seed_41 lk_X5_440 rfl fi_X5_granted rfl rfl rfl (by decide) (is_90 hS) (t_X5_granted hM2) (by first | decide | omega) rfl rfl (by decide) ?_
      intro x_41 M_41 q_41
      have e_41 := q_41.1; subst e_41
      refine jw_ireturn (pc := 44) dX5_seed_44 rfl (by first | exact jnar_b _ | exact jnar_0 | exact jnar_1 | decide +kernel) ?_
      refine ⟨_, rfl, ?_⟩
      unfold o_seed; rw [hv9]; simp only [h_26, iN_n (show kt < 2 ^ 31 by omega)]
      exact ⟨q_41.1, q_41.2.1, hf.tr ((jsm.I (by decide)).tr q_41.2.2)⟩
    · intro h_26
      refine jw_aload_n (pc := 29) dX5_seed_29 rfl ?_
      refine jw_iconst (pc := 30) dX5_seed_30 ic_2 ?_
      refine jx_cVi (mi1 := mi_X5_denied) (pc := 31) rfl dX5_seed_31 lk_X5_437 rfl fi_X5_denied rfl rfl rfl (by decide) (is_90 hS) (t_X5_denied hM) (by first | decide | omega) rfl rfl (by decide) ?_
      intro x_31 M_31 q_31
      have e_31 := q_31.1; subst e_31
      refine jw_ireturn (pc := 34) dX5_seed_34 rfl (by first | exact jnar_b _ | exact jnar_0 | exact jnar_1 | decide +kernel) ?_
      exact ⟨_, rfl, by unfold o_seed; rw [hv9]; simp only [h_26]; exact ⟨q_31.1, q_31.2.1, hf.tr q_31.2.2⟩⟩
theorem t_X5_trouble (h : jMm M σ) : jT G mi_X5_trouble 9 [jr (some 90)] M (jOm M (si σ 0, σ)) := by
  have hS := h.1
  refine jT.of (by decide) rfl (Nat.le_of_ble_eq_true rfl) ?_
  refine jw_aload_n (pc := 0) dX5_trouble_0 rfl ?_
  refine jw_iconst (pc := 1) dX5_trouble_1 ic_0 ?_
  refine jx_putI (pc := 2) jf_X5_56_4 rfl dX5_trouble_2 rfl rfl (is_90 hS) (by decide) ?_
  have hM := mthr (x := nI 0) h
  have hf : jfm M (js_I M 90 49 (nI 0)) := jsm.I (by decide)
  generalize js_I M 90 49 (nI 0) = M0 at hM hf ⊢
  clear hS
  have hS := hM.1
  refine jw_aload_n (pc := 5) dX5_trouble_5 rfl ?_
  refine jx_getIs (pc := 6) (jf_X5_59_4.r) rfl dX5_trouble_6 rfl (is_90 hS) (by decide) (hM.2.2.1.2.1) ?_
  refine jw_ireturn (pc := 9) dX5_trouble_9 rfl (rfl) ?_
  exact ⟨_, rfl, rfl, hM, hf⟩
theorem t_X5_fault (h : jMm M σ) : jT G mi_X5_fault 9 [jr (some 90)] M (jOm M (si σ 1, σ)) := by
  have hS := h.1
  refine jT.of (by decide) rfl (Nat.le_of_ble_eq_true rfl) ?_
  refine jw_aload_n (pc := 0) dX5_fault_0 rfl ?_
  refine jw_iconst (pc := 1) dX5_fault_1 ic_0 ?_
  refine jx_putI (pc := 2) jf_X5_56_4 rfl dX5_fault_2 rfl rfl (is_90 hS) (by decide) ?_
  have hM := mthr (x := nI 0) h
  have hf : jfm M (js_I M 90 49 (nI 0)) := jsm.I (by decide)
  generalize js_I M 90 49 (nI 0) = M0 at hM hf ⊢
  clear hS
  have hS := hM.1
  refine jw_aload_n (pc := 5) dX5_fault_5 rfl ?_
  refine jx_getIs (pc := 6) (jf_X5_114_4.r) rfl dX5_fault_6 rfl (is_90 hS) (by decide) (hM.2.2.1.2.2.1) ?_
  refine jw_ireturn (pc := 9) dX5_fault_9 rfl (rfl) ?_
  exact ⟨_, rfl, rfl, hM, hf⟩
theorem t_X5_where (h : jMm M σ) : jT G mi_X5_where 9 [jr (some 90)] M (jOm M (si σ 2, σ)) := by
  have hS := h.1
  refine jT.of (by decide) rfl (Nat.le_of_ble_eq_true rfl) ?_
  refine jw_aload_n (pc := 0) dX5_where_0 rfl ?_
  refine jw_iconst (pc := 1) dX5_where_1 ic_0 ?_
  refine jx_putI (pc := 2) jf_X5_56_4 rfl dX5_where_2 rfl rfl (is_90 hS) (by decide) ?_
  have hM := mthr (x := nI 0) h
  have hf : jfm M (js_I M 90 49 (nI 0)) := jsm.I (by decide)
  generalize js_I M 90 49 (nI 0) = M0 at hM hf ⊢
  clear hS
  have hS := hM.1
  refine jw_aload_n (pc := 5) dX5_where_5 rfl ?_
  refine jx_getIs (pc := 6) (jf_X5_9_4.r) rfl dX5_where_6 rfl (is_90 hS) (by decide) (hM.2.2.1.2.2.2) ?_
  refine jw_ireturn (pc := 9) dX5_where_9 rfl (rfl) ?_
  exact ⟨_, rfl, rfl, hM, hf⟩
end JM2
