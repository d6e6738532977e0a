/-! ===== m reads: a new name, two, others ===== -/
def sFr (c : Nat → Int32) (n sort : Nat) (num : Vt → Nat) (s : Except Fl (Vt × Nat)) : Except Fl (Vt × Nat) := s.bind (fun r => (pFresh c n r.1 r.2).bind (fun q => .ok (vName r.1 q.1 sort (num r.1), q.2)))
theorem vName_o {V : Vt} {t sort num i k : Nat} (h1 : i < 25) (h2 : ¬ (i = 0 ∧ k = 13)) : vName V t sort num i k = V i k := by
  unfold vName
  rw [vS_ne (by omega), vS_ne (by omega), vS_ne (by omega), vS_ne (by omega)]
section JM4
variable {G : Gh} {M : Mm} {σ : Sg} {n w : Nat} {s : Except Fl (Vt × Nat)}
/-- the name is written -/
theorem mName {V : Vt} {p t sort num : Nat} (h : mRd M σ n w (.ok (V, p))) (ht : t < 2 ^ 40) (hs9 : sort ≤ 1) (hnum : num ≤ 15) (h15 : V 0 13 < 15) :
    mRd (js_I (js_A (js_A (js_B M (w + 22) (V 0 13) (lN t)) (w + 23) (V 0 13) (nI sort)) (w + 24) (V 0 13) (nI num)) w 140 (nI (V 0 13 + 1))) σ n w (.ok (vName V t sort num, p)) := by
  obtain ⟨hB, hp, hG, hF, hV, hN, hL, hv⟩ := h
  have h104 := hV.1.2.1
  have hc := hV.2.1
  refine ⟨(((hB.Bx (by omega) (by omega)).A (by omega) (by omega)).A (by omega) (by omega)).I (fun q hq e => ?_), hp, ?_, ?_, ⟨hV.1, hV.2.1, ?_⟩, ⟨?_, fun k hk => ?_⟩, ?_, ?_, fun k hk => ?_⟩
  · simp only [wCn, List.mem_cons, List.not_mem_nil, or_false] at hq
    rcases hq with rfl | rfl | rfl | rfl | rfl | rfl | rfl | rfl | rfl <;> first | (exact absurd e (by decide)) | exact ⟨_, by omega, rfl⟩
  · obtain ⟨g1, g2, g3, g4, g5, g6⟩ := hG
    have e : ∀ j, jm_I (js_I (js_A (js_A (js_B M (w + 22) (V 0 13) (lN t)) (w + 23) (V 0 13) (nI sort)) (w + 24) (V 0 13) (nI num)) w 140 (nI (V 0 13 + 1))) 90 j = jm_I M 90 j := fun j => by rw [jI_I, if_neg (by omega)]; rfl
    exact ⟨fun q => (e _).trans (g1 q), (e _).trans g2, (e _).trans g3, (e _).trans g4, fun q => (e _).trans (g5 q), g6⟩
  · rw [jI_I, if_neg (by omega)]; exact hF
  · exact jWa.cg (V := V) hV.2.2 (fun i k h1 h2 => by
      rw [jA_I, jA_oth2 (by omega), jA_oth2 (by omega)]; rfl)
  · rw [jI_I, if_pos ⟨rfl, rfl⟩]; rfl
  · have hk : k < V 0 13 + 1 := hk
    by_cases e : k = V 0 13
    · subst e
      refine ⟨?_, ?_, ?_⟩
      · rw [jB_I, jB_A, jB_A, jB_B, if_pos ⟨rfl, rfl⟩]
        unfold vName
        rw [vS_ne (by omega), vS_ne (by omega), vS_ne (by omega), vS_eq]
      · rw [jA_I, jA_oth2 (by omega), jA_A, if_pos ⟨rfl, rfl⟩]
        unfold vName
        rw [vS_ne (by omega), vS_ne (by omega), vS_eq]
      · rw [jA_I, jA_A, if_pos ⟨rfl, rfl⟩]
        unfold vName
        rw [vS_ne (by omega), vS_eq]
    · obtain ⟨b1, b2, b3⟩ := hN.2 k (by omega)
      refine ⟨?_, ?_, ?_⟩
      · rw [jB_I, jB_A, jB_A, jB_B, if_neg (by omega), b1]
        unfold vName
        rw [vS_ne (by omega), vS_ne (by omega), vS_ne (by omega), vS_ne (by omega)]
      · rw [jA_I, jA_oth2 (by omega), jA_A, if_neg (by omega), jA_B, b2]
        unfold vName
        rw [vS_ne (by omega), vS_ne (by omega), vS_ne (by omega), vS_ne (by omega)]
      · rw [jA_I, jA_A, if_neg (by omega), jA_A, if_neg (by omega), jA_B, b3]
        unfold vName
        rw [vS_ne (by omega), vS_ne (by omega), vS_ne (by omega), vS_ne (by omega)]
  · rw [jI_I, if_neg (by omega)]; exact hL
  · show V 0 13 + 1 ≤ 15; omega
  · have hk : k < V 0 13 + 1 := hk
    unfold vName
    by_cases e : k = V 0 13
    · subst e
      rw [vS_ne (by omega), vS_ne (by omega), vS_ne (by omega), vS_eq, vS_ne (by omega), vS_ne (by omega), vS_eq, vS_ne (by omega), vS_eq]
      exact ⟨ht, hs9, hnum⟩
    · obtain ⟨a1, a2, a3⟩ := hv.2 k (by omega)
      rw [vS_ne (by omega), vS_ne (by omega), vS_ne (by omega), vS_ne (by omega), vS_ne (by omega), vS_ne (by omega), vS_ne (by omega), vS_ne (by omega), vS_ne (by omega), vS_ne (by omega), vS_ne (by omega), vS_ne (by omega)]
      exact ⟨a1, a2, a3⟩
theorem t_X5_readFresh {sort : Nat} {num : Vt → Nat} {x : Int32} (hG : jGs G) (h : mRd M σ n w s) (hs9 : sort ≤ 1) (hx : ∀ r, s = .ok r → x = nI (num r.1) ∧ num r.1 ≤ 15 ∧ r.1 0 13 < 15) : jT G mi_X5_readFresh 10 [jr (some 90), .int (nI sort), .int x] M (jPv (fun M' => mRd M' σ n w (sFr (chI σ n) n sort num s) ∧ mKp M M' w)) := by
  -- behind a fault
  have LE : ∀ (f : Fl) (M1 : Mm), sFr (chI σ n) n sort num s = .error f → mRd M1 σ n w (.error f) → mKp M M1 w → jW G mi_X5_readFresh 10 M 12 [some (jr (some 90)), some (.int (nI sort)), some (.int x)] [] M1 (jPv (fun M' => mRd M' σ n w (sFr (chI σ n) n sort num s) ∧ mKp M M' w)) := by
    intro f M1 he h1 hk
    have L32 : ∀ M2, mRd M2 σ n w (.error f) → mKp M M2 w → jW G mi_X5_readFresh 10 M 32 [some (jr (some 90)), some (.int (nI sort)), some (.int x)] [] M2 (jPv (fun M' => mRd M' σ n w (sFr (chI σ n) n sort num s) ∧ mKp M M' w)) := by
      intro M2 h2 hk2
      have hS := h2.S
      refine jw_aload_n (pc := 32) dX5_readFresh_32 rfl ?_
      refine jx_getIs (pc := 33) (jf_X5_85_4.r) rfl dX5_readFresh_33 rfl (is_90 hS) (by decide) (h2.2.1) ?_
      refine jw_iconst (pc := 36) dX5_readFresh_36 ic_5 ?_
      first | refine jx_icmp_ne (pc := 37) (tgt := 41) dX5_readFresh_37 (by decide) (by omega) (by omega) ?_ ?_ | refine jw_icmp_ne (pc := 37) (tgt := 41) dX5_readFresh_37 (by decide) ?_ ?_
      · intro h_37
        exact absurd rfl h_37
      · intro h_37
        refine jw_return (pc := 40) dX5_readFresh_40 rfl ?_
        exact ⟨rfl, by rw [he]; exact h2, hk2⟩
    have hS := h1.S
    have hw := h1.1.2.2.2.2.2.2.1
    obtain ⟨N, hN1, hN2⟩ := h1.1.2.2.2.2.2.2.2 (140, 15) (by decide)
    have hR := h1.1.2.2.2.2.2.1
    refine jw_aload_n (pc := 12) dX5_readFresh_12 rfl ?_
    refine jx_getRs (pc := 13) (jf_X5_173_4.r) rfl dX5_readFresh_13 rfl (is_90 hS) (by decide) (hR) ?_
    refine jw_aload_n (pc := 16) dX5_readFresh_16 rfl ?_
    refine jx_getL (pc := 17) (jf_X5_104_4.r) rfl dX5_readFresh_17 rfl (is_90 hS) (by decide) ?_
    refine jx_cVE (mi1 := mi_X14_find) (pc := 20) rfl dX5_readFresh_20 lk_X5_177 rfl fi_X14_find rfl rfl rfl (by decide) (wis hw) (t_X14_find hw hN2 hN1) (by first | decide | omega) rfl rfl (by decide) ?_
    refine jw_iconst (pc := 23) dX5_readFresh_23 ic_m1 ?_
    refine jw_icmp_eq (pc := 24) (tgt := 32) dX5_readFresh_24 (by decide) ?_ ?_
    · intro h_24
      first
      | exact L32 _ q_29.1 (hk.tr q_29.2)
      | exact L32 _ h1 hk
    · intro h_24
      refine jw_aload_n (pc := 27) dX5_readFresh_27 rfl ?_
      refine jw_iconst (pc := 28) dX5_readFresh_28 ic_3 ?_
      refine jx_cVv (mi1 := mi_X5_wrong) (pc := 29) rfl dX5_readFresh_29 lk_X5_131 rfl fi_X5_wrong rfl rfl rfl (by decide) (is_90 hS) (t_X5_wrong h1 (by decide)) (by first | decide | omega) rfl rfl (by decide) ?_
      intro M_29 q_29
      first
      | exact L32 _ q_29.1 (hk.tr q_29.2)
      | exact L32 _ h1 hk
  have hS := h.S
  refine jT.of (by decide) rfl (Nat.le_of_ble_eq_true rfl) ?_
  cases hb : sN (chI σ n) n s with
  | false =>
    have he : ∃ f, sFr (chI σ n) n sort num s = .error f ∧ s.bind (fun r => (.error (1, tkA (chI σ n) n r.2) : Except Fl (Vt × Nat))) = .error f := by
      cases s with
      | error f => exact ⟨f, rfl, rfl⟩
      | ok r =>
        refine ⟨(1, tkA (chI σ n) n r.2), ?_, rfl⟩
        show ((pFresh (chI σ n) n r.1 r.2).bind _ : Except Fl (Vt × Nat)) = _
        unfold pFresh; rw [pName_f (V := r.1) hb]; rfl
    obtain ⟨f, he1, he2⟩ := he
    refine jw_aload_n (pc := 0) dX5_readFresh_0 rfl ?_
    refine jx_cVE (mi1 := mi_X5_isName) (pc := 1) rfl dX5_readFresh_1 lk_X5_169 rfl fi_X5_isName rfl rfl rfl (by decide) (is_90 hS) (t_X5_isName hG h) (by first | decide | omega) rfl rfl (by decide) ?_
    rw [hb]
    first | refine jx_ifb_ne (pc := 4) (tgt := 12) dX5_readFresh_4 (by decide) ?_ ?_ | refine jx_if_ne (pc := 4) (tgt := 12) dX5_readFresh_4 (by decide) (by omega) ?_ ?_ | refine jw_if_ne (pc := 4) (tgt := 12) dX5_readFresh_4 (by decide) ?_ ?_
    · intro h_4
      first | cases h_4 | exact absurd h_4 (by decide)
    · intro h_4
      refine jw_aload_n (pc := 7) dX5_readFresh_7 rfl ?_
      refine jw_iconst (pc := 8) dX5_readFresh_8 ic_1 ?_
      refine jx_cVv (mi1 := mi_X5_wrong) (pc := 9) rfl dX5_readFresh_9 lk_X5_131 rfl fi_X5_wrong rfl rfl rfl (by decide) (is_90 hS) (t_X5_wrong h (by decide)) (by first | decide | omega) rfl rfl (by decide) ?_
      intro M_9 q_9
      exact LE f _ he1 (he2 ▸ q_9.1) q_9.2
  | true =>
    cases s with
    | error f => cases hb
    | ok r =>
      obtain ⟨V, p⟩ := r
      obtain ⟨x1, x2, x3⟩ := hx _ rfl
      dsimp only at x1 x2 x3
      obtain ⟨hk2, hpn⟩ := pName_t hb
      obtain ⟨hB, hp, hGp, hF, hV, hN, hL, hv⟩ := h
      have h : mRd M σ n w (.ok (V, p)) := ⟨hB, hp, hGp, hF, hV, hN, hL, hv⟩
      have hw9 := hGp.2.2.2.2.2 hk2
      have h40 := tkV_40 hk2
      have hR := hB.2.2.2.2.2.1
      have hw := hV.1
      have h104 := hw.2.1
      have hfd := fdI_v hN hv h40
      have hs2 : srt (tkK (chI σ n) n p) = 2 := srt_2.mpr hk2
      by_cases hf : nmF V (tkV (chI σ n) n p) < V 0 13
      · have h15 := hv.1
        have he : sFr (chI σ n) n sort num (.ok (V, p)) = .error (3, tkA (chI σ n) n p) := by
          show ((pFresh (chI σ n) n V p).bind _ : Except Fl (Vt × Nat)) = _
          unfold pFresh; rw [hpn]
          exact congrArg (fun z : Except Fl (Nat × Nat) => z.bind fun q => (Except.ok (vName V q.1 sort (num V), q.2) : Except Fl (Vt × Nat))) (if_pos hf)
        refine jw_aload_n (pc := 0) dX5_readFresh_0 rfl ?_
        refine jx_cVE (mi1 := mi_X5_isName) (pc := 1) rfl dX5_readFresh_1 lk_X5_169 rfl fi_X5_isName rfl rfl rfl (by decide) (is_90 hS) (t_X5_isName hG h) (by first | decide | omega) rfl rfl (by decide) ?_
        rw [hb]
        first | refine jx_ifb_ne (pc := 4) (tgt := 12) dX5_readFresh_4 (by decide) ?_ ?_ | refine jx_if_ne (pc := 4) (tgt := 12) dX5_readFresh_4 (by decide) (by omega) ?_ ?_ | refine jw_if_ne (pc := 4) (tgt := 12) dX5_readFresh_4 (by decide) ?_ ?_
        · intro h_4
          refine jw_aload_n (pc := 12) dX5_readFresh_12 rfl ?_
          refine jx_getRs (pc := 13) (jf_X5_173_4.r) rfl dX5_readFresh_13 rfl (is_90 hS) (by decide) (hR) ?_
          refine jw_aload_n (pc := 16) dX5_readFresh_16 rfl ?_
          refine jx_getLs (pc := 17) (jf_X5_104_4.r) rfl dX5_readFresh_17 rfl (is_90 hS) (by decide) (hw9) ?_
          refine jx_cVE (mi1 := mi_X14_find) (pc := 20) rfl dX5_readFresh_20 lk_X5_177 rfl fi_X14_find rfl rfl rfl (by decide) (wis hw) (t_X14_find hw hN.1 hv.1) (by first | decide | omega) rfl rfl (by decide) ?_
          rw [hfd, if_pos hf]
          refine jw_iconst (pc := 23) dX5_readFresh_23 ic_m1 ?_
          refine jw_icmp_eq (pc := 24) (tgt := 32) dX5_readFresh_24 (by decide) ?_ ?_
          · intro h_24
            exact absurd h_24 (nI_nm (by omega))
          · intro h_24
            refine jw_aload_n (pc := 27) dX5_readFresh_27 rfl ?_
            refine jw_iconst (pc := 28) dX5_readFresh_28 ic_3 ?_
            refine jx_cVv (mi1 := mi_X5_wrong) (pc := 29) rfl dX5_readFresh_29 lk_X5_131 rfl fi_X5_wrong rfl rfl rfl (by decide) (is_90 hS) (t_X5_wrong h (by decide)) (by first | decide | omega) rfl rfl (by decide) ?_
            intro M_29 q_29
            have hS := q_29.1.S
            refine jw_aload_n (pc := 32) dX5_readFresh_32 rfl ?_
            refine jx_getIs (pc := 33) (jf_X5_85_4.r) rfl dX5_readFresh_33 rfl (is_90 hS) (by decide) ((show mRd M_29 σ n w (.error (3, tkA (chI σ n) n p)) from q_29.1).2.1) ?_
            refine jw_iconst (pc := 36) dX5_readFresh_36 ic_5 ?_
            first | refine jx_icmp_ne (pc := 37) (tgt := 41) dX5_readFresh_37 (by decide) (by omega) (by omega) ?_ ?_ | refine jw_icmp_ne (pc := 37) (tgt := 41) dX5_readFresh_37 (by decide) ?_ ?_
            · intro h_37
              exact absurd rfl h_37
            · intro h_37
              refine jw_return (pc := 40) dX5_readFresh_40 rfl ?_
              exact ⟨rfl, by rw [he]; exact q_29.1, q_29.2⟩
        · intro h_4
          first | cases h_4 | exact absurd h_4 (by decide)
      · have hm := mName (num := num V) h h40 hs9 x2 x3
        have he : sFr (chI σ n) n sort num (.ok (V, p)) = sB (.ok (vName V (tkV (chI σ n) n p) sort (num V), p)) (fun _ p => .ok (tkE (chI σ n) n p)) := by
          show ((pFresh (chI σ n) n V p).bind _ : Except Fl (Vt × Nat)) = _
          unfold pFresh; rw [hpn]
          exact congrArg (fun z : Except Fl (Nat × Nat) => z.bind fun q => (Except.ok (vName V q.1 sort (num V), q.2) : Except Fl (Vt × Nat))) (if_neg hf)
        subst x1
        refine jw_aload_n (pc := 0) dX5_readFresh_0 rfl ?_
        refine jx_cVE (mi1 := mi_X5_isName) (pc := 1) rfl dX5_readFresh_1 lk_X5_169 rfl fi_X5_isName rfl rfl rfl (by decide) (is_90 hS) (t_X5_isName hG h) (by first | decide | omega) rfl rfl (by decide) ?_
        rw [hb]
        first | refine jx_ifb_ne (pc := 4) (tgt := 12) dX5_readFresh_4 (by decide) ?_ ?_ | refine jx_if_ne (pc := 4) (tgt := 12) dX5_readFresh_4 (by decide) (by omega) ?_ ?_ | refine jw_if_ne (pc := 4) (tgt := 12) dX5_readFresh_4 (by decide) ?_ ?_
        · intro h_4
          refine jw_aload_n (pc := 12) dX5_readFresh_12 rfl ?_
          refine jx_getRs (pc := 13) (jf_X5_173_4.r) rfl dX5_readFresh_13 rfl (is_90 hS) (by decide) (hR) ?_
          refine jw_aload_n (pc := 16) dX5_readFresh_16 rfl ?_
          refine jx_getLs (pc := 17) (jf_X5_104_4.r) rfl dX5_readFresh_17 rfl (is_90 hS) (by decide) (hw9) ?_
          refine jx_cVE (mi1 := mi_X14_find) (pc := 20) rfl dX5_readFresh_20 lk_X5_177 rfl fi_X14_find rfl rfl rfl (by decide) (wis hw) (t_X14_find hw hN.1 hv.1) (by first | decide | omega) rfl rfl (by decide) ?_
          rw [hfd, if_neg hf]
          refine jw_iconst (pc := 23) dX5_readFresh_23 ic_m1 ?_
          refine jw_icmp_eq (pc := 24) (tgt := 32) dX5_readFresh_24 (by decide) ?_ ?_
          · intro h_24
            refine jw_aload_n (pc := 32) dX5_readFresh_32 rfl ?_
            refine jx_getIs (pc := 33) (jf_X5_85_4.r) rfl dX5_readFresh_33 rfl (is_90 hS) (by decide) (hGp.2.1) ?_
            refine jw_iconst (pc := 36) dX5_readFresh_36 ic_5 ?_
            first | refine jx_icmp_ne (pc := 37) (tgt := 41) dX5_readFresh_37 (by decide) (by omega) (by omega) ?_ ?_ | refine jw_icmp_ne (pc := 37) (tgt := 41) dX5_readFresh_37 (by decide) ?_ ?_
            · intro h_37
              refine jw_aload_n (pc := 41) dX5_readFresh_41 rfl ?_
              refine jx_getRs (pc := 42) (jf_X5_173_4.r) rfl dX5_readFresh_42 rfl (is_90 hS) (by decide) (hR) ?_
              refine jx_getRs (pc := 45) jg_X5_183_12 rfl dX5_readFresh_45 rfl (wis hw) (by decide) (wr_22 hw) ?_
              refine jw_aload_n (pc := 48) dX5_readFresh_48 rfl ?_
              refine jx_getRs (pc := 49) (jf_X5_173_4.r) rfl dX5_readFresh_49 rfl (is_90 hS) (by decide) (hR) ?_
              refine jx_getIs (pc := 52) (jf_X5_187_12.r) rfl dX5_readFresh_52 rfl (wis hw) (by decide) (hN.1) ?_
              refine jw_aload_n (pc := 55) dX5_readFresh_55 rfl ?_
              refine jx_getLs (pc := 56) (jf_X5_104_4.r) rfl dX5_readFresh_56 rfl (is_90 hS) (by decide) (hw9) ?_
              refine jx_last (pc := 59) dX5_readFresh_59 (by omega) (wok_22 hw) (wnn_22 hw) rfl (by omega) ?_
              refine jw_aload_n (pc := 60) dX5_readFresh_60 rfl ?_
              refine jx_getRs (pc := 61) (jf_X5_173_4.r) rfl dX5_readFresh_61 rfl (is_90 hS) (by decide) (hR) ?_
              refine jx_getRs (pc := 64) jg_X5_190_12 rfl dX5_readFresh_64 rfl (wis hw) (by decide) (wr_23 hw) ?_
              refine jw_aload_n (pc := 67) dX5_readFresh_67 rfl ?_
              refine jx_getRs (pc := 68) (jf_X5_173_4.r) rfl dX5_readFresh_68 rfl (is_90 hS) (by decide) (hR) ?_
              refine jx_getIs (pc := 71) (jf_X5_187_12.r) rfl dX5_readFresh_71 rfl (wis hw) (by decide) (hN.1) ?_
              refine jw_iload_n (pc := 74) dX5_readFresh_74 rfl ?_
              refine jx_iast (pc := 75) dX5_readFresh_75 (by omega) (wok_23 hw) (wnn_23 hw) rfl (by omega) ?_
              refine jw_aload_n (pc := 76) dX5_readFresh_76 rfl ?_
              refine jx_getRs (pc := 77) (jf_X5_173_4.r) rfl dX5_readFresh_77 rfl (is_90 hS) (by decide) (hR) ?_
              refine jx_getRs (pc := 80) jg_X5_193_12 rfl dX5_readFresh_80 rfl (wis hw) (by decide) (wr_24 hw) ?_
              refine jw_aload_n (pc := 83) dX5_readFresh_83 rfl ?_
              refine jx_getRs (pc := 84) (jf_X5_173_4.r) rfl dX5_readFresh_84 rfl (is_90 hS) (by decide) (hR) ?_
              refine jx_getIs (pc := 87) (jf_X5_187_12.r) rfl dX5_readFresh_87 rfl (wis hw) (by decide) (hN.1) ?_
              refine jw_iload_n (pc := 90) dX5_readFresh_90 rfl ?_
              refine jx_iast (pc := 91) dX5_readFresh_91 (by omega) (wok_24 hw) (wnn_24 hw) rfl (by omega) ?_
              refine jw_aload_n (pc := 92) dX5_readFresh_92 rfl ?_
              refine jx_getRs (pc := 93) (jf_X5_173_4.r) rfl dX5_readFresh_93 rfl (is_90 hS) (by decide) (hR) ?_
              refine jw_dup (pc := 96) dX5_readFresh_96 (jis2_r _) ?_
              refine jx_getIs (pc := 97) (jf_X5_187_12.r) rfl dX5_readFresh_97 rfl (wis hw) (by decide) (hN.1) ?_
              refine jw_iconst (pc := 100) dX5_readFresh_100 ic_1 ?_
              first | refine jx_iadd (pc := 101) dX5_readFresh_101 ?_ | refine jw_iadd (pc := 101) dX5_readFresh_101 ?_
              refine jx_putI (pc := 102) jf_X5_187_12 rfl dX5_readFresh_102 rfl rfl (wis hw) (by decide) ?_
              refine jw_aload_n (pc := 105) dX5_readFresh_105 rfl ?_
              refine jx_cVv (mi1 := mi_X5_goesOn) (pc := 106) rfl dX5_readFresh_106 lk_X5_128 rfl fi_X5_goesOn rfl rfl rfl (by decide) (is_90 hS) (t_X5_goesOn hm (fun r q => by cases q; rw [hk2]; decide)) (by first | decide | omega) rfl rfl (by decide) ?_
              intro M_106 q_106
              refine jw_return (pc := 109) dX5_readFresh_109 rfl ?_
              refine ⟨rfl, by rw [he]; exact q_106.1, mKp.tr ?_ q_106.2⟩
              exact (((mKp.B (by omega) (by omega)).tr (mKp.A (by omega) (by omega))).tr (mKp.A (by omega) (by omega))).tr (mKp.W h104)
            · intro h_37
              omega
          · intro h_24
            exact absurd rfl h_24
        · intro h_4
          first | cases h_4 | exact absurd h_4 (by decide)
end JM4
