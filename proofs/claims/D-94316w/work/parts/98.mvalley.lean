/-! ===== m reads a valley's text ===== -/
section JMV
variable {G : Gh} {M : Mm} {σ : Sg} {n w : Nat}
def rdF (c : Nat → Int32) (n : Nat) (s : Except Fl (Vt × Nat)) : Except Fl (Vt × Nat) := s.bind (fun r => (rdE c n r).bind (fun V => .ok (V, r.2)))
theorem lp_rvE {M9 : Mm} {f : Fl} {s : Except Fl (Vt × Nat)} {x1 : Int32} (h : mRd M σ n w (.error f)) (hk : mKq M9 M w) (he : s = .error f) : jW G mi_X5_readValley 14 M9 33 [some (jr (some 90)), some (.int x1)] [] M (jPv (fun M' => mRd M' σ n w s ∧ mKq M9 M' w)) := by
  have hS := h.S
  have hR := h.1.2.2.2.2.2.1
  have hw := h.1.2.2.2.2.2.2.1
  subst he
  refine jw_aload_n (pc := 33) dX5_readValley_33 rfl ?_
  refine jx_getRs (pc := 34) (jf_X5_173_4.r) rfl dX5_readValley_34 rfl (is_90 hS) (by decide) (hR) ?_
  refine jx_getI (pc := 37) (jf_X5_214_12.r) rfl dX5_readValley_37 rfl (wis hw) (by decide) ?_
  refine jw_if_eq (pc := 40) (tgt := 63) dX5_readValley_40 (by decide) ?_ ?_
  · intro h_40
    refine jw_aload_n (pc := 63) dX5_readValley_63 rfl ?_
    refine jw_bipush (pc := 64) dX5_readValley_64 bp_6 ?_
    refine jx_cVv (mi1 := mi_X5_wrong) (pc := 66) rfl dX5_readValley_66 lk_X5_131 rfl fi_X5_wrong rfl rfl rfl (by decide) (is_90 hS) (t_X5_wrong h (by decide)) (by first | decide | omega) rfl rfl (by decide) ?_
    intro M_66 q_66
    refine jw_return (pc := 69) dX5_readValley_69 rfl ?_
    first
    | exact ⟨rfl, q_66.1, hk.tr q_66.2.q⟩
    | exact ⟨rfl, h, hk⟩
  · intro h_40
    refine jw_aload_n (pc := 43) dX5_readValley_43 rfl ?_
    refine jx_getRs (pc := 44) (jf_X5_173_4.r) rfl dX5_readValley_44 rfl (is_90 hS) (by decide) (hR) ?_
    refine jx_getI (pc := 47) (jf_X5_218_12.r) rfl dX5_readValley_47 rfl (wis hw) (by decide) ?_
    refine jw_if_eq (pc := 50) (tgt := 63) dX5_readValley_50 (by decide) ?_ ?_
    · intro h_50
      refine jw_aload_n (pc := 63) dX5_readValley_63 rfl ?_
      refine jw_bipush (pc := 64) dX5_readValley_64 bp_6 ?_
      refine jx_cVv (mi1 := mi_X5_wrong) (pc := 66) rfl dX5_readValley_66 lk_X5_131 rfl fi_X5_wrong rfl rfl rfl (by decide) (is_90 hS) (t_X5_wrong h (by decide)) (by first | decide | omega) rfl rfl (by decide) ?_
      intro M_66 q_66
      refine jw_return (pc := 69) dX5_readValley_69 rfl ?_
      first
      | exact ⟨rfl, q_66.1, hk.tr q_66.2.q⟩
      | exact ⟨rfl, h, hk⟩
    · intro h_50
      refine jw_aload_n (pc := 53) dX5_readValley_53 rfl ?_
      refine jx_getRs (pc := 54) (jf_X5_173_4.r) rfl dX5_readValley_54 rfl (is_90 hS) (by decide) (hR) ?_
      refine jx_getI (pc := 57) (jf_X5_221_12.r) rfl dX5_readValley_57 rfl (wis hw) (by decide) ?_
      refine jw_if_ne (pc := 60) (tgt := 69) dX5_readValley_60 (by decide) ?_ ?_
      · intro h_60
        refine jw_return (pc := 69) dX5_readValley_69 rfl ?_
        first
        | exact ⟨rfl, q_66.1, hk.tr q_66.2.q⟩
        | exact ⟨rfl, h, hk⟩
      · intro h_60
        refine jw_aload_n (pc := 63) dX5_readValley_63 rfl ?_
        refine jw_bipush (pc := 64) dX5_readValley_64 bp_6 ?_
        refine jx_cVv (mi1 := mi_X5_wrong) (pc := 66) rfl dX5_readValley_66 lk_X5_131 rfl fi_X5_wrong rfl rfl rfl (by decide) (is_90 hS) (t_X5_wrong h (by decide)) (by first | decide | omega) rfl rfl (by decide) ?_
        intro M_66 q_66
        refine jw_return (pc := 69) dX5_readValley_69 rfl ?_
        first
        | exact ⟨rfl, q_66.1, hk.tr q_66.2.q⟩
        | exact ⟨rfl, h, hk⟩
theorem lp_rvO {M9 : Mm} {V : Vt} {p : Nat} {x1 : Int32} (h : mRd M σ n w (.ok (V, p))) (hk : mKq M9 M w) (hW : jWf V) : jW G mi_X5_readValley 14 M9 20 [some (jr (some 90)), some (.int x1)] [] M (jPv (fun M' => mRd M' σ n w (rdF (chI σ n) n (.ok (V, p))) ∧ mKq M9 M' w)) := by
  have hS := h.S
  have hR := h.1.2.2.2.2.2.1
  have hV := h.2.2.2.2.1
  have hw := hV.1
  have hN := hW.n
  have hd := wf_d hW
  have hG9 := h.2.2.1
  have hs5 := @srt_lt (tkK (chI σ n) n p)
  by_cases h0 : tkK (chI σ n) n p = 0
  · have hs1 : srt (tkK (chI σ n) n p) = 1 := srt_1.mpr h0
    have hL := h.2.2.2.2.2.2.1
    have hno : (V 0 12 = 0 ∨ V 0 0 = 0 ∨ V 0 1 = 0) → rdF (chI σ n) n (.ok (V, p)) = .error (6, tkA (chI σ n) n p) := fun q => by
      show ((rdE (chI σ n) n (V, p)).bind _ : Except Fl (Vt × Nat)) = _
      unfold rdE; rw [if_pos h0, if_pos q]; rfl
    have hyes : ¬ (V 0 12 = 0 ∨ V 0 0 = 0 ∨ V 0 1 = 0) → rdF (chI σ n) n (.ok (V, p)) = .ok (V, p) := fun q => by
      show ((rdE (chI σ n) n (V, p)).bind _ : Except Fl (Vt × Nat)) = _
      unfold rdE; rw [if_pos h0, if_neg q]; rfl
    refine jw_aload_n (pc := 20) dX5_readValley_20 rfl ?_
    refine jx_getIs (pc := 21) (jf_X5_85_4.r) rfl dX5_readValley_21 rfl (is_90 hS) (by decide) (hG9.2.1) ?_
    refine jw_iconst (pc := 24) dX5_readValley_24 ic_1 ?_
    first | refine jx_icmp_eq (pc := 25) (tgt := 33) dX5_readValley_25 (by decide) (by omega) (by omega) ?_ ?_ | refine jw_icmp_eq (pc := 25) (tgt := 33) dX5_readValley_25 (by decide) ?_ ?_
    · intro h_25
      refine jw_aload_n (pc := 33) dX5_readValley_33 rfl ?_
      refine jx_getRs (pc := 34) (jf_X5_173_4.r) rfl dX5_readValley_34 rfl (is_90 hS) (by decide) (hR) ?_
      refine jx_getIs (pc := 37) (jf_X5_214_12.r) rfl dX5_readValley_37 rfl (wis hw) (by decide) (hL) ?_
      first | refine jx_ifb_eq (pc := 40) (tgt := 63) dX5_readValley_40 (by decide) ?_ ?_ | refine jx_if_eq (pc := 40) (tgt := 63) dX5_readValley_40 (by decide) (by omega) ?_ ?_ | refine jw_if_eq (pc := 40) (tgt := 63) dX5_readValley_40 (by decide) ?_ ?_
      · intro h_40
        refine jw_aload_n (pc := 63) dX5_readValley_63 rfl ?_
        refine jw_bipush (pc := 64) dX5_readValley_64 bp_6 ?_
        refine jx_cVv (mi1 := mi_X5_wrong) (pc := 66) rfl dX5_readValley_66 lk_X5_131 rfl fi_X5_wrong rfl rfl rfl (by decide) (is_90 hS) (t_X5_wrong h (by decide)) (by first | decide | omega) rfl rfl (by decide) ?_
        intro M_66 q_66
        refine jw_return (pc := 69) dX5_readValley_69 rfl ?_
        first
        | (refine ⟨rfl, ?_, hk.tr q_66.2.q⟩
           first
           | (rw [hno (Or.inr (Or.inr h_60))]; exact q_66.1)
           | (rw [hno (Or.inr (Or.inl h_50))]; exact q_66.1)
           | (rw [hno (Or.inl (Classical.byContradiction (fun q => of_decide_eq_false h_40 q)))]; exact q_66.1))
        | (refine ⟨rfl, ?_, hk⟩
           rw [hyes (fun q => by rcases q with q | q | q; exact of_decide_eq_true h_40 q; exact h_50 q; exact h_60 q)]; exact h)
      · intro h_40
        refine jw_aload_n (pc := 43) dX5_readValley_43 rfl ?_
        refine jx_getRs (pc := 44) (jf_X5_173_4.r) rfl dX5_readValley_44 rfl (is_90 hS) (by decide) (hR) ?_
        refine jx_getIs (pc := 47) (jf_X5_218_12.r) rfl dX5_readValley_47 rfl (wis hw) (by decide) (mi_np hV) ?_
        refine jx_if_eq (pc := 50) (tgt := 63) dX5_readValley_50 (by decide) (by omega) ?_ ?_
        · intro h_50
          refine jw_aload_n (pc := 63) dX5_readValley_63 rfl ?_
          refine jw_bipush (pc := 64) dX5_readValley_64 bp_6 ?_
          refine jx_cVv (mi1 := mi_X5_wrong) (pc := 66) rfl dX5_readValley_66 lk_X5_131 rfl fi_X5_wrong rfl rfl rfl (by decide) (is_90 hS) (t_X5_wrong h (by decide)) (by first | decide | omega) rfl rfl (by decide) ?_
          intro M_66 q_66
          refine jw_return (pc := 69) dX5_readValley_69 rfl ?_
          first
          | (refine ⟨rfl, ?_, hk.tr q_66.2.q⟩
             first
             | (rw [hno (Or.inr (Or.inr h_60))]; exact q_66.1)
             | (rw [hno (Or.inr (Or.inl h_50))]; exact q_66.1)
             | (rw [hno (Or.inl (Classical.byContradiction (fun q => of_decide_eq_false h_40 q)))]; exact q_66.1))
          | (refine ⟨rfl, ?_, hk⟩
             rw [hyes (fun q => by rcases q with q | q | q; exact of_decide_eq_true h_40 q; exact h_50 q; exact h_60 q)]; exact h)
        · intro h_50
          refine jw_aload_n (pc := 53) dX5_readValley_53 rfl ?_
          refine jx_getRs (pc := 54) (jf_X5_173_4.r) rfl dX5_readValley_54 rfl (is_90 hS) (by decide) (hR) ?_
          refine jx_getIs (pc := 57) (jf_X5_221_12.r) rfl dX5_readValley_57 rfl (wis hw) (by decide) (mi_nq hV) ?_
          refine jx_if_ne (pc := 60) (tgt := 69) dX5_readValley_60 (by decide) (by omega) ?_ ?_
          · intro h_60
            refine jw_return (pc := 69) dX5_readValley_69 rfl ?_
            first
            | (refine ⟨rfl, ?_, hk.tr q_66.2.q⟩
               first
               | (rw [hno (Or.inr (Or.inr h_60))]; exact q_66.1)
               | (rw [hno (Or.inr (Or.inl h_50))]; exact q_66.1)
               | (rw [hno (Or.inl (Classical.byContradiction (fun q => of_decide_eq_false h_40 q)))]; exact q_66.1))
            | (refine ⟨rfl, ?_, hk⟩
               rw [hyes (fun q => by rcases q with q | q | q; exact of_decide_eq_true h_40 q; exact h_50 q; exact h_60 q)]; exact h)
          · intro h_60
            refine jw_aload_n (pc := 63) dX5_readValley_63 rfl ?_
            refine jw_bipush (pc := 64) dX5_readValley_64 bp_6 ?_
            refine jx_cVv (mi1 := mi_X5_wrong) (pc := 66) rfl dX5_readValley_66 lk_X5_131 rfl fi_X5_wrong rfl rfl rfl (by decide) (is_90 hS) (t_X5_wrong h (by decide)) (by first | decide | omega) rfl rfl (by decide) ?_
            intro M_66 q_66
            refine jw_return (pc := 69) dX5_readValley_69 rfl ?_
            first
            | (refine ⟨rfl, ?_, hk.tr q_66.2.q⟩
               first
               | (rw [hno (Or.inr (Or.inr h_60))]; exact q_66.1)
               | (rw [hno (Or.inr (Or.inl h_50))]; exact q_66.1)
               | (rw [hno (Or.inl (Classical.byContradiction (fun q => of_decide_eq_false h_40 q)))]; exact q_66.1))
            | (refine ⟨rfl, ?_, hk⟩
               rw [hyes (fun q => by rcases q with q | q | q; exact of_decide_eq_true h_40 q; exact h_50 q; exact h_60 q)]; exact h)
    · intro h_25
      exact absurd hs1 h_25
  · have hs1 : ¬ srt (tkK (chI σ n) n p) = 1 := fun q => h0 (srt_1.mp q)
    have he : rdF (chI σ n) n (.ok (V, p)) = .error (1, tkA (chI σ n) n p) := by
      show ((rdE (chI σ n) n (V, p)).bind _ : Except Fl (Vt × Nat)) = _
      unfold rdE; rw [if_neg h0]; rfl
    refine jw_aload_n (pc := 20) dX5_readValley_20 rfl ?_
    refine jx_getIs (pc := 21) (jf_X5_85_4.r) rfl dX5_readValley_21 rfl (is_90 hS) (by decide) (hG9.2.1) ?_
    refine jw_iconst (pc := 24) dX5_readValley_24 ic_1 ?_
    first | refine jx_icmp_eq (pc := 25) (tgt := 33) dX5_readValley_25 (by decide) (by omega) (by omega) ?_ ?_ | refine jw_icmp_eq (pc := 25) (tgt := 33) dX5_readValley_25 (by decide) ?_ ?_
    · intro h_25
      exact absurd h_25 hs1
    · intro h_25
      refine jw_aload_n (pc := 28) dX5_readValley_28 rfl ?_
      refine jw_iconst (pc := 29) dX5_readValley_29 ic_1 ?_
      refine jx_cVv (mi1 := mi_X5_wrong) (pc := 30) rfl dX5_readValley_30 lk_X5_131 rfl fi_X5_wrong rfl rfl rfl (by decide) (is_90 hS) (t_X5_wrong h (by decide)) (by first | decide | omega) rfl rfl (by decide) ?_
      intro M_30 q_30
      exact lp_rvE (f := (1, tkA (chI σ n) n p)) q_30.1 (hk.tr q_30.2.q) he
theorem rdN_s (c : Nat → Int32) (n k : Nat) (V : Vt) (p : Nat) : rdN c n (k + 1) V p = (lLine c n V p).bind (fun r => if tkK c n r.2 = 59 then rdN c n k r.1 (tkE c n r.2) else .ok r) := rfl
theorem t_X5_readValley {V0 : Vt} {p0 k0 : Nat} (hG : jGs G) (h : mRd M σ n w (.ok (V0, p0))) (hv0 : vOk V0) (hp0 : p0 ≤ n) (hk0 : n < p0 + k0) : jT G mi_X5_readValley 14 [jr (some 90)] M (jPv (fun M' => mRd M' σ n w (rdF (chI σ n) n (rdN (chI σ n) n k0 V0 p0)) ∧ mKq M M' w)) := by
  have J : ∀ x : (Nat × Vt × Nat) × Mm, (mRd x.2 σ n w (.ok (x.1.2.1, x.1.2.2)) ∧ vOk x.1.2.1 ∧ x.1.2.2 ≤ n ∧ n < x.1.2.2 + x.1.1 ∧ rdN (chI σ n) n x.1.1 x.1.2.1 x.1.2.2 = rdN (chI σ n) n k0 V0 p0 ∧ mKq M x.2 w) → jW G mi_X5_readValley 14 M 2 [some (jr (some 90)), some (.int (nI 1))] [] x.2 (jPv (fun M' => mRd M' σ n w (rdF (chI σ n) n (rdN (chI σ n) n k0 V0 p0)) ∧ mKq M M' w)) := by
    refine jW.loop (σ := (Nat × Vt × Nat) × Mm) _ (fun x => x.1.1) _ (fun _ => []) (fun x => x.2) (fun x hI ih => ?_)
    obtain ⟨⟨k, V, p⟩, M1⟩ := x
    obtain ⟨h1, hv, hp, hk, hr, hkq⟩ := hI
    dsimp only at h1 hv hp hk hr hkq ih ⊢
    have hS := h1.S
    obtain ⟨k', rfl⟩ : ∃ k', k = k' + 1 := ⟨k - 1, by omega⟩
    rw [rdN_s] at hr
    have L2f : ∀ M2, mRd M2 σ n w (lLine (chI σ n) n V p) → mKq M M2 w → sG (chI σ n) n (lLine (chI σ n) n V p) 59 = false → jW G mi_X5_readValley 14 M 2 [some (jr (some 90)), some (.int (nI 0))] [] M2 (jPv (fun M' => mRd M' σ n w (rdF (chI σ n) n (rdN (chI σ n) n k0 V0 p0)) ∧ mKq M M' w)) := by
      intro M2 h2 hkq2 hg
      have hS := h2.S
      cases hl : lLine (chI σ n) n V p with
      | error f =>
        rw [hl] at hr h2
        have hr : Except.error f = rdN (chI σ n) n k0 V0 p0 := hr
        refine jw_iload_n (pc := 2) dX5_readValley_2 rfl ?_
        first | refine jx_ifb_eq (pc := 3) (tgt := 20) dX5_readValley_3 (by decide) ?_ ?_ | refine jx_if_eq (pc := 3) (tgt := 20) dX5_readValley_3 (by decide) (by omega) ?_ ?_ | refine jw_if_eq (pc := 3) (tgt := 20) dX5_readValley_3 (by decide) ?_ ?_
        · intro h_3
          refine jw_aload_n (pc := 20) dX5_readValley_20 rfl ?_
          refine jx_getIs (pc := 21) (jf_X5_85_4.r) rfl dX5_readValley_21 rfl (is_90 hS) (by decide) (h2.2.1) ?_
          refine jw_iconst (pc := 24) dX5_readValley_24 ic_1 ?_
          first | refine jx_icmp_eq (pc := 25) (tgt := 33) dX5_readValley_25 (by decide) (by omega) (by omega) ?_ ?_ | refine jw_icmp_eq (pc := 25) (tgt := 33) dX5_readValley_25 (by decide) ?_ ?_
          · intro h_25
            exact absurd h_25 (by decide)
          · intro h_25
            refine jw_aload_n (pc := 28) dX5_readValley_28 rfl ?_
            refine jw_iconst (pc := 29) dX5_readValley_29 ic_1 ?_
            refine jx_cVv (mi1 := mi_X5_wrong) (pc := 30) rfl dX5_readValley_30 lk_X5_131 rfl fi_X5_wrong rfl rfl rfl (by decide) (is_90 hS) (t_X5_wrong h2 (by decide)) (by first | decide | omega) rfl rfl (by decide) ?_
            intro M_30 q_30
            exact lp_rvE (f := f) q_30.1 (hkq2.tr q_30.2.q) (by rw [← hr]; rfl)
        · intro h_3
          first | exact absurd h_3 (by decide) | exact absurd rfl h_3 | cases h_3
      | ok r =>
        obtain ⟨V2, p2⟩ := r
        rw [hl] at hr h2 hg
        have hg : decide (tkK (chI σ n) n p2 = 59) = false := hg
        have hr : (if tkK (chI σ n) n p2 = 59 then rdN (chI σ n) n k' V2 (tkE (chI σ n) n p2) else .ok (V2, p2)) = rdN (chI σ n) n k0 V0 p0 := hr
        rw [if_neg (of_decide_eq_false hg)] at hr
        rw [← hr]
        have hv2 := (line_ok hv hp hl).1
        refine jw_iload_n (pc := 2) dX5_readValley_2 rfl ?_
        first | refine jx_ifb_eq (pc := 3) (tgt := 20) dX5_readValley_3 (by decide) ?_ ?_ | refine jx_if_eq (pc := 3) (tgt := 20) dX5_readValley_3 (by decide) (by omega) ?_ ?_ | refine jw_if_eq (pc := 3) (tgt := 20) dX5_readValley_3 (by decide) ?_ ?_
        · intro h_3
          exact lp_rvO h2 hkq2 hv2.1
        · intro h_3
          first | exact absurd h_3 (by decide) | exact absurd rfl h_3 | cases h_3
    refine jw_iload_n (pc := 2) dX5_readValley_2 rfl ?_
    first | refine jx_ifb_eq (pc := 3) (tgt := 20) dX5_readValley_3 (by decide) ?_ ?_ | refine jx_if_eq (pc := 3) (tgt := 20) dX5_readValley_3 (by decide) (by omega) ?_ ?_ | refine jw_if_eq (pc := 3) (tgt := 20) dX5_readValley_3 (by decide) ?_ ?_
    · intro h_3
      first | exact absurd h_3 (by decide) | cases h_3
    · intro h_3
      refine jw_aload_n (pc := 6) dX5_readValley_6 rfl ?_
      refine jx_cVv (mi1 := mi_X5_readLine) (pc := 7) rfl dX5_readValley_7 lk_X5_208 rfl fi_X5_readLine rfl rfl rfl (by decide) (is_90 hS) (t_X5_readLine hG h1 hv.1 hv.2.1) (by first | decide | omega) rfl rfl (by decide) ?_
      intro M_7 q_7
      have hS := q_7.1.S
      refine jw_aload_n (pc := 10) dX5_readValley_10 rfl ?_
      refine jw_bipush (pc := 11) dX5_readValley_11 bp_59 ?_
      refine jx_cVi (mi1 := mi_X5_eatsSign) (pc := 13) rfl dX5_readValley_13 lk_X5_211 rfl fi_X5_eatsSign rfl rfl rfl (by decide) (is_90 hS) (t_X5_eatsSign q_7.1) (by first | decide | omega) rfl rfl (by decide) ?_
      intro x_13 M_13 q_13
      refine jw_istore_n (pc := 16) dX5_readValley_16 (Nat.le_of_ble_eq_true rfl) rfl ?_
      try dsimp only [jput1, jput2, jkill, jclr, jis2_i, jis2_l, jis2_rs, jis2_rn, cond]
      refine jw_goto (pc := 17) (tgt := 2) dX5_readValley_17 (by decide) ?_
      obtain ⟨e1, e2, e3⟩ := q_13
      subst e1
      have hkq3 := (hkq.tr q_7.2).tr e3.q
      cases hg : sG (chI σ n) n (lLine (chI σ n) n V p) 59 with
      | false =>
        rw [hg] at e2
        exact L2f _ e2 hkq3 hg
      | true =>
        cases hl : lLine (chI σ n) n V p with
        | error f => rw [hl] at hg; cases hg
        | ok r =>
          obtain ⟨V2, p2⟩ := r
          rw [hg, if_pos rfl] at e2
          rw [hl] at hr e2 hg
          have hg : decide (tkK (chI σ n) n p2 = 59) = true := hg
          have hg := of_decide_eq_true hg
          have hr : (if tkK (chI σ n) n p2 = 59 then rdN (chI σ n) n k' V2 (tkE (chI σ n) n p2) else .ok (V2, p2)) = rdN (chI σ n) n k0 V0 p0 := hr
          rw [if_pos hg] at hr
          obtain ⟨y1, y2, y3⟩ := line_ok hv hp hl
          dsimp only at y1 y2 y3
          have y4 := tkE_pk (σ := σ) y3 (by rw [hg]; decide)
          exact ih ((k', V2, tkE (chI σ n) n p2), M_13) ⟨e2, y1, tkE_le, by dsimp only; omega, hr, hkq3⟩ (by dsimp only; omega)
  refine jT.of (by decide) rfl (Nat.le_of_ble_eq_true rfl) ?_
  refine jw_iconst (pc := 0) dX5_readValley_0 ic_1 ?_
  refine jw_istore_n (pc := 1) dX5_readValley_1 (Nat.le_of_ble_eq_true rfl) rfl ?_
  try dsimp only [jput1, jput2, jkill, jclr, jis2_i, jis2_l, jis2_rs, jis2_rn, cond]
  exact J ((k0, V0, p0), M) ⟨h, hv0, hp0, hk0, rfl, mKq.rf⟩
end JMV
