/-! ===== m reads: parts, names ===== -/
theorem mRd.B {M : Mm} {σ : Sg} {n w : Nat} {s : Except Fl (Vt × Nat)} (h : mRd M σ n w s) : mBs M σ n w := h.1
theorem mRd.S {M : Mm} {σ : Sg} {n w : Nat} {s : Except Fl (Vt × Nat)} (h : mRd M σ n w s) : jSh M := h.1.1
theorem mRd.T {M : Mm} {σ : Sg} {n w : Nat} {s : Except Fl (Vt × Nat)} (h : mRd M σ n w s) : jTk M := h.1.2.2.1
theorem sB_k1 {s : Except Fl (Vt × Nat)} {f : Nat → Fl} {k : (Vt × Nat) → Prop} : ∀ r, s.bind (fun r => .error (f r.2)) = .ok r → k r := fun r q => by cases s <;> cases q
theorem tkK_lt (c : Nat → Int32) (n p : Nat) : tkK c n p < 60 := by
  unfold tkK
  (repeat' split) <;> omega
section JM2
variable {G : Gh} {M : Mm} {σ : Sg} {n w : Nat} {s : Except Fl (Vt × Nat)}
theorem t_X5_needsSign {c : Nat} (h : mRd M σ n w s) (hc : 3 < c) (hc9 : c < 2 ^ 30) : jT G mi_X5_needsSign 5 [jr (some 90), .int (nI c)] M (jPv (fun M' => mRd M' σ n w (sB s (fun _ p => pSign (chI σ n) n c p)) ∧ mKp M M' w)) := by
  have hS := h.S
  have no : (¬ ∃ r, s = .ok r ∧ tkK (chI σ n) n r.2 = c) → jW G mi_X5_needsSign 5 M 16 [some (jr (some 90)), some (.int (nI c))] [] M (jPv (fun M' => mRd M' σ n w (sB s (fun _ p => pSign (chI σ n) n c p)) ∧ mKp M M' w)) := by
    intro hn
    refine jw_aload_n (pc := 16) dX5_needsSign_16 rfl ?_
    refine jw_iconst (pc := 17) dX5_needsSign_17 ic_1 ?_
    refine jx_cVv (mi1 := mi_X5_wrong) (pc := 18) rfl dX5_needsSign_18 lk_X5_131 rfl fi_X5_wrong rfl rfl rfl (by decide) (is_90 hS) (t_X5_wrong h (by decide)) (by first | decide | omega) rfl rfl (by decide) ?_
    intro M_18 q_18
    have hS := q_18.1.S
    refine jw_aload_n (pc := 21) dX5_needsSign_21 rfl ?_
    refine jx_cVv (mi1 := mi_X5_goesOn) (pc := 22) rfl dX5_needsSign_22 lk_X5_128 rfl fi_X5_goesOn rfl rfl rfl (by decide) (is_90 hS) (t_X5_goesOn q_18.1 (fun r q => by cases s <;> cases q)) (by first | decide | omega) rfl rfl (by decide) ?_
    intro M_22 q_22
    refine jw_return (pc := 25) dX5_needsSign_25 rfl ?_
    refine ⟨rfl, ?_, q_18.2.tr q_22.2⟩
    have e : sB s (fun _ p => pSign (chI σ n) n c p) = sB (s.bind (fun r => .error (1, tkA (chI σ n) n r.2))) (fun _ p => .ok (tkE (chI σ n) n p)) := by
      cases s with
      | error f => rfl
      | ok r =>
        show ((pSign (chI σ n) n c r.2).bind _ : Except Fl (Vt × Nat)) = _
        unfold pSign; rw [if_neg (fun q => hn ⟨r, rfl, q⟩)]; rfl
    rw [e]; exact q_22.1
  refine jT.of (by decide) rfl (Nat.le_of_ble_eq_true rfl) ?_
  cases s with
  | error f =>
    refine jw_aload_n (pc := 0) dX5_needsSign_0 rfl ?_
    refine jx_getIs (pc := 1) (jf_X5_85_4.r) rfl dX5_needsSign_1 rfl (is_90 hS) (by decide) (h.2.1) ?_
    refine jw_iconst (pc := 4) dX5_needsSign_4 ic_4 ?_
    first | refine jx_icmp_ne (pc := 5) (tgt := 16) dX5_needsSign_5 (by decide) (by omega) (by omega) ?_ ?_ | refine jw_icmp_ne (pc := 5) (tgt := 16) dX5_needsSign_5 (by decide) ?_ ?_
    · intro h_5
      exact no (fun ⟨r, q, _⟩ => by cases q)
    · intro h_5
      exact absurd h_5 (by decide)
  | ok r =>
    obtain ⟨V, p⟩ := r
    have hG := h.2.2.1
    have hs5 := @srt_lt (tkK (chI σ n) n p)
    by_cases hk : tkK (chI σ n) n p = c
    · have h4 : srt (tkK (chI σ n) n p) = 4 := srt_4.mpr (by omega)
      have hsg : sgnK (tkK (chI σ n) n p) = c := by unfold sgnK; rw [if_neg (by omega)]; exact hk
      refine jw_aload_n (pc := 0) dX5_needsSign_0 rfl ?_
      refine jx_getIs (pc := 1) (jf_X5_85_4.r) rfl dX5_needsSign_1 rfl (is_90 hS) (by decide) (hG.2.1) ?_
      refine jw_iconst (pc := 4) dX5_needsSign_4 ic_4 ?_
      first | refine jx_icmp_ne (pc := 5) (tgt := 16) dX5_needsSign_5 (by decide) (by omega) (by omega) ?_ ?_ | refine jw_icmp_ne (pc := 5) (tgt := 16) dX5_needsSign_5 (by decide) ?_ ?_
      · intro h_5
        exact absurd h4 h_5
      · intro h_5
        refine jw_aload_n (pc := 8) dX5_needsSign_8 rfl ?_
        refine jx_getIs (pc := 9) (jf_X5_97_4.r) rfl dX5_needsSign_9 rfl (is_90 hS) (by decide) (hG.2.2.2.1) ?_
        refine jw_iload_n (pc := 12) dX5_needsSign_12 rfl ?_
        rw [hsg]
        first | refine jx_icmp_eq (pc := 13) (tgt := 21) dX5_needsSign_13 (by decide) (by omega) (by omega) ?_ ?_ | refine jw_icmp_eq (pc := 13) (tgt := 21) dX5_needsSign_13 (by decide) ?_ ?_
        · intro h_13
          refine jw_aload_n (pc := 21) dX5_needsSign_21 rfl ?_
          refine jx_cVv (mi1 := mi_X5_goesOn) (pc := 22) rfl dX5_needsSign_22 lk_X5_128 rfl fi_X5_goesOn rfl rfl rfl (by decide) (is_90 hS) (t_X5_goesOn h (fun r q => by cases q; rw [hk]; omega)) (by first | decide | omega) rfl rfl (by decide) ?_
          intro M_22 q_22
          refine jw_return (pc := 25) dX5_needsSign_25 rfl ?_
          refine ⟨rfl, ?_, q_22.2⟩
          have e : sB (.ok (V, p)) (fun _ p => pSign (chI σ n) n c p) = sB (.ok (V, p)) (fun _ p => .ok (tkE (chI σ n) n p)) := by
            show ((pSign (chI σ n) n c p).bind _ : Except Fl (Vt × Nat)) = _
            unfold pSign; rw [if_pos hk]; rfl
          rw [e]; exact q_22.1
        · intro h_13
          exact absurd rfl h_13
    · have hno : ¬ ∃ r, (Except.ok (V, p) : Except Fl (Vt × Nat)) = .ok r ∧ tkK (chI σ n) n r.2 = c := fun ⟨r, q, q2⟩ => by cases q; exact hk q2
      have hsg : sgnK (tkK (chI σ n) n p) < 2 ^ 30 := by have := tkK_lt (chI σ n) n p; unfold sgnK; split <;> omega
      have hne : srt (tkK (chI σ n) n p) = 4 → ¬ sgnK (tkK (chI σ n) n p) = c := fun q1 q2 => by
        have := srt_4.mp q1
        unfold sgnK at q2; rw [if_neg (by omega)] at q2; exact hk q2
      refine jw_aload_n (pc := 0) dX5_needsSign_0 rfl ?_
      refine jx_getIs (pc := 1) (jf_X5_85_4.r) rfl dX5_needsSign_1 rfl (is_90 hS) (by decide) (hG.2.1) ?_
      refine jw_iconst (pc := 4) dX5_needsSign_4 ic_4 ?_
      first | refine jx_icmp_ne (pc := 5) (tgt := 16) dX5_needsSign_5 (by decide) (by omega) (by omega) ?_ ?_ | refine jw_icmp_ne (pc := 5) (tgt := 16) dX5_needsSign_5 (by decide) ?_ ?_
      · intro h_5
        exact no hno
      · intro h_5
        refine jw_aload_n (pc := 8) dX5_needsSign_8 rfl ?_
        refine jx_getIs (pc := 9) (jf_X5_97_4.r) rfl dX5_needsSign_9 rfl (is_90 hS) (by decide) (hG.2.2.2.1) ?_
        refine jw_iload_n (pc := 12) dX5_needsSign_12 rfl ?_
        first | refine jx_icmp_eq (pc := 13) (tgt := 21) dX5_needsSign_13 (by decide) (by omega) (by omega) ?_ ?_ | refine jw_icmp_eq (pc := 13) (tgt := 21) dX5_needsSign_13 (by decide) ?_ ?_
        · intro h_13
          exact absurd h_13 (hne h_5)
        · intro h_13
          exact no hno
theorem t_X5_readWhole {lo hi : Int32} (h : mRd M σ n w s) : jT G mi_X5_readWhole 5 [jr (some 90), .int lo, .int hi] M (jPi (fun x M' => mRd M' σ n w (sP s (fun _ p => pNum (chI σ n) n lo hi p)) ∧ mKp M M' w ∧ sX s (fun _ p => pNum (chI σ n) n lo hi p) x)) := by
  have hS := h.S
  -- a fault
  have no : ∀ k : Nat, 1 ≤ k ∧ k ≤ 6 → sP s (fun _ p => pNum (chI σ n) n lo hi p) = s.bind (fun r => .error (k, tkA (chI σ n) n r.2)) → ∀ M1, mRd M1 σ n w (s.bind (fun r => .error (k, tkA (chI σ n) n r.2))) → mKp M M1 w → jW G mi_X5_readWhole 5 M 33 [some (jr (some 90)), some (.int lo), some (.int hi), none] [] M1 (jPi (fun x M' => mRd M' σ n w (sP s (fun _ p => pNum (chI σ n) n lo hi p)) ∧ mKp M M' w ∧ sX s (fun _ p => pNum (chI σ n) n lo hi p) x)) := by
    intro k hk he M1 h1 hf
    have hS := h1.S
    refine jw_aload_n (pc := 33) dX5_readWhole_33 rfl ?_
    refine jx_getI (pc := 34) (jf_X5_111_4.r) rfl dX5_readWhole_34 rfl (is_90 hS) (by decide) ?_
    refine jw_istore_n (pc := 37) dX5_readWhole_37 (Nat.le_of_ble_eq_true rfl) rfl ?_
    try dsimp only [jput1, jput2, jkill, jclr, jis2_i, jis2_l, jis2_rs, jis2_rn, cond]
    refine jw_aload_n (pc := 38) dX5_readWhole_38 rfl ?_
    refine jx_cVv (mi1 := mi_X5_goesOn) (pc := 39) rfl dX5_readWhole_39 lk_X5_128 rfl fi_X5_goesOn rfl rfl rfl (by decide) (is_90 hS) (t_X5_goesOn h1 (fun r q => by cases s <;> cases q)) (by first | decide | omega) rfl rfl (by decide) ?_
    intro M_39 q_39
    refine jw_iload_n (pc := 42) dX5_readWhole_42 rfl ?_
    refine jw_ireturn (pc := 43) dX5_readWhole_43 rfl (rfl) ?_
    refine ⟨_, rfl, ?_, hf.tr q_39.2, fun r q q1 q2 => ?_⟩
    · rw [he]
      have e : sB (s.bind (fun r => .error (k, tkA (chI σ n) n r.2))) (fun _ p => .ok (tkE (chI σ n) n p)) = s.bind (fun r => .error (k, tkA (chI σ n) n r.2)) := by cases s <;> rfl
      rw [← e]; exact q_39.1
    · subst q1
      have he : ((pNum (chI σ n) n lo hi r.2).bind (fun q => .ok (r.1, q.2)) : Except Fl (Vt × Nat)) = .error (k, tkA (chI σ n) n r.2) := he
      have q2 : pNum (chI σ n) n lo hi r.2 = .ok q := q2
      rw [q2] at he; cases he
  refine jT.of (by decide) rfl (Nat.le_of_ble_eq_true rfl) ?_
  cases s with
  | error f =>
    refine jw_aload_n (pc := 0) dX5_readWhole_0 rfl ?_
    refine jx_getIs (pc := 1) (jf_X5_85_4.r) rfl dX5_readWhole_1 rfl (is_90 hS) (by decide) (h.2.1) ?_
    refine jw_iconst (pc := 4) dX5_readWhole_4 ic_3 ?_
    first | refine jx_icmp_eq (pc := 5) (tgt := 16) dX5_readWhole_5 (by decide) (by omega) (by omega) ?_ ?_ | refine jw_icmp_eq (pc := 5) (tgt := 16) dX5_readWhole_5 (by decide) ?_ ?_
    · intro h_5
      exact absurd h_5 (by decide)
    · intro h_5
      refine jw_aload_n (pc := 8) dX5_readWhole_8 rfl ?_
      refine jw_iconst (pc := 9) dX5_readWhole_9 ic_1 ?_
      refine jx_cVv (mi1 := mi_X5_wrong) (pc := 10) rfl dX5_readWhole_10 lk_X5_131 rfl fi_X5_wrong rfl rfl rfl (by decide) (is_90 hS) (t_X5_wrong h (k := 1) (by decide)) (by first | decide | omega) rfl rfl (by decide) ?_
      intro M_10 q_10
      refine jw_goto (pc := 13) (tgt := 33) dX5_readWhole_13 (by decide) ?_
      exact no 1 (by decide) rfl _ q_10.1 q_10.2
  | ok r =>
    obtain ⟨V, p⟩ := r
    have hG := h.2.2.1
    have hs5 := @srt_lt (tkK (chI σ n) n p)
    by_cases hk : tkK (chI σ n) n p = 3
    · have h3 : srt (tkK (chI σ n) n p) = 3 := srt_3.mpr hk
      have hN := hG.2.2.2.2.1 hk
      cases hin : inb (nI (tkV (chI σ n) n p)) lo hi with
      | true =>
        have he : pNum (chI σ n) n lo hi p = .ok (tkV (chI σ n) n p, tkE (chI σ n) n p) := by unfold pNum; rw [if_pos hk, if_pos hin]
        refine jw_aload_n (pc := 0) dX5_readWhole_0 rfl ?_
        refine jx_getIs (pc := 1) (jf_X5_85_4.r) rfl dX5_readWhole_1 rfl (is_90 hS) (by decide) (hG.2.1) ?_
        refine jw_iconst (pc := 4) dX5_readWhole_4 ic_3 ?_
        first | refine jx_icmp_eq (pc := 5) (tgt := 16) dX5_readWhole_5 (by decide) (by omega) (by omega) ?_ ?_ | refine jw_icmp_eq (pc := 5) (tgt := 16) dX5_readWhole_5 (by decide) ?_ ?_
        · intro h_5
          refine jw_aload_n (pc := 16) dX5_readWhole_16 rfl ?_
          refine jx_getIs (pc := 17) (jf_X5_111_4.r) rfl dX5_readWhole_17 rfl (is_90 hS) (by decide) (hN) ?_
          refine jw_iload_n (pc := 20) dX5_readWhole_20 rfl ?_
          refine jw_iload_n (pc := 21) dX5_readWhole_21 rfl ?_
          refine jx_cSE (mi1 := mi_X5_in) (pc := 22) rfl dX5_readWhole_22 lk_X5_135 rfl fi_X5_in (t_X5_in) (by first | decide | omega) rfl rfl (by decide) ?_
          rw [hin]
          first | refine jx_ifb_ne (pc := 25) (tgt := 33) dX5_readWhole_25 (by decide) ?_ ?_ | refine jx_if_ne (pc := 25) (tgt := 33) dX5_readWhole_25 (by decide) (by omega) ?_ ?_ | refine jw_if_ne (pc := 25) (tgt := 33) dX5_readWhole_25 (by decide) ?_ ?_
          · intro h_25
            refine jw_aload_n (pc := 33) dX5_readWhole_33 rfl ?_
            refine jx_getIs (pc := 34) (jf_X5_111_4.r) rfl dX5_readWhole_34 rfl (is_90 hS) (by decide) (hN) ?_
            refine jw_istore_n (pc := 37) dX5_readWhole_37 (Nat.le_of_ble_eq_true rfl) rfl ?_
            try dsimp only [jput1, jput2, jkill, jclr, jis2_i, jis2_l, jis2_rs, jis2_rn, cond]
            refine jw_aload_n (pc := 38) dX5_readWhole_38 rfl ?_
            refine jx_cVv (mi1 := mi_X5_goesOn) (pc := 39) rfl dX5_readWhole_39 lk_X5_128 rfl fi_X5_goesOn rfl rfl rfl (by decide) (is_90 hS) (t_X5_goesOn h (fun r q => by cases q; rw [hk]; decide)) (by first | decide | omega) rfl rfl (by decide) ?_
            intro M_39 q_39
            refine jw_iload_n (pc := 42) dX5_readWhole_42 rfl ?_
            refine jw_ireturn (pc := 43) dX5_readWhole_43 rfl (rfl) ?_
            refine ⟨_, rfl, ?_, q_39.2, fun r q q1 q2 => ?_⟩
            · have e : sP (.ok (V, p)) (fun _ p => pNum (chI σ n) n lo hi p) = sB (.ok (V, p)) (fun _ p => .ok (tkE (chI σ n) n p)) := by
                show ((pNum (chI σ n) n lo hi p).bind _ : Except Fl (Vt × Nat)) = _
                rw [he]; rfl
              rw [e]; exact q_39.1
            · cases q1
              have q2 : pNum (chI σ n) n lo hi p = .ok q := q2
              rw [he] at q2; cases q2; rfl
          · intro h_25
            first | cases h_25 | exact absurd h_25 (by decide)
        · intro h_5
          exact absurd h3 h_5
      | false =>
        have he : pNum (chI σ n) n lo hi p = .error (4, tkA (chI σ n) n p) := by unfold pNum; rw [if_pos hk, if_neg (by rw [hin]; decide)]
        refine jw_aload_n (pc := 0) dX5_readWhole_0 rfl ?_
        refine jx_getIs (pc := 1) (jf_X5_85_4.r) rfl dX5_readWhole_1 rfl (is_90 hS) (by decide) (hG.2.1) ?_
        refine jw_iconst (pc := 4) dX5_readWhole_4 ic_3 ?_
        first | refine jx_icmp_eq (pc := 5) (tgt := 16) dX5_readWhole_5 (by decide) (by omega) (by omega) ?_ ?_ | refine jw_icmp_eq (pc := 5) (tgt := 16) dX5_readWhole_5 (by decide) ?_ ?_
        · intro h_5
          refine jw_aload_n (pc := 16) dX5_readWhole_16 rfl ?_
          refine jx_getIs (pc := 17) (jf_X5_111_4.r) rfl dX5_readWhole_17 rfl (is_90 hS) (by decide) (hN) ?_
          refine jw_iload_n (pc := 20) dX5_readWhole_20 rfl ?_
          refine jw_iload_n (pc := 21) dX5_readWhole_21 rfl ?_
          refine jx_cSE (mi1 := mi_X5_in) (pc := 22) rfl dX5_readWhole_22 lk_X5_135 rfl fi_X5_in (t_X5_in) (by first | decide | omega) rfl rfl (by decide) ?_
          rw [hin]
          first | refine jx_ifb_ne (pc := 25) (tgt := 33) dX5_readWhole_25 (by decide) ?_ ?_ | refine jx_if_ne (pc := 25) (tgt := 33) dX5_readWhole_25 (by decide) (by omega) ?_ ?_ | refine jw_if_ne (pc := 25) (tgt := 33) dX5_readWhole_25 (by decide) ?_ ?_
          · intro h_25
            first | cases h_25 | exact absurd h_25 (by decide)
          · intro h_25
            refine jw_aload_n (pc := 28) dX5_readWhole_28 rfl ?_
            refine jw_iconst (pc := 29) dX5_readWhole_29 ic_4 ?_
            refine jx_cVv (mi1 := mi_X5_wrong) (pc := 30) rfl dX5_readWhole_30 lk_X5_131 rfl fi_X5_wrong rfl rfl rfl (by decide) (is_90 hS) (t_X5_wrong h (k := 4) (by decide)) (by first | decide | omega) rfl rfl (by decide) ?_
            intro M_30 q_30
            refine no 4 (by decide) ?_ _ q_30.1 q_30.2
            show ((pNum (chI σ n) n lo hi p).bind _ : Except Fl (Vt × Nat)) = _
            rw [he]; rfl
        · intro h_5
          exact absurd h3 h_5
    · have h3 : ¬ srt (tkK (chI σ n) n p) = 3 := fun q => hk (srt_3.mp q)
      refine jw_aload_n (pc := 0) dX5_readWhole_0 rfl ?_
      refine jx_getIs (pc := 1) (jf_X5_85_4.r) rfl dX5_readWhole_1 rfl (is_90 hS) (by decide) (hG.2.1) ?_
      refine jw_iconst (pc := 4) dX5_readWhole_4 ic_3 ?_
      first | refine jx_icmp_eq (pc := 5) (tgt := 16) dX5_readWhole_5 (by decide) (by omega) (by omega) ?_ ?_ | refine jw_icmp_eq (pc := 5) (tgt := 16) dX5_readWhole_5 (by decide) ?_ ?_
      · intro h_5
        exact absurd h_5 h3
      · intro h_5
        refine jw_aload_n (pc := 8) dX5_readWhole_8 rfl ?_
        refine jw_iconst (pc := 9) dX5_readWhole_9 ic_1 ?_
        refine jx_cVv (mi1 := mi_X5_wrong) (pc := 10) rfl dX5_readWhole_10 lk_X5_131 rfl fi_X5_wrong rfl rfl rfl (by decide) (is_90 hS) (t_X5_wrong h (k := 1) (by decide)) (by first | decide | omega) rfl rfl (by decide) ?_
        intro M_10 q_10
        refine jw_goto (pc := 13) (tgt := 33) dX5_readWhole_13 (by decide) ?_
        refine no 1 (by decide) ?_ _ q_10.1 q_10.2
        show ((pNum (chI σ n) n lo hi p).bind _ : Except Fl (Vt × Nat)) = _
        unfold pNum; rw [if_neg hk]; rfl
theorem sPB {s : Except Fl (Vt × Nat)} {f : Nat → Except Fl Nat} {g : Nat → Except Fl (Nat × Nat)} : sP (sB s (fun _ p => f p)) (fun _ p => g p) = sP s (fun _ p => (f p).bind g) := by
  cases s with
  | error f => rfl
  | ok r =>
    show ((f r.2).bind (fun q => Except.ok (r.1, q))).bind _ = (((f r.2).bind g).bind _ : Except Fl (Vt × Nat))
    cases f r.2 <;> rfl
theorem sXB {s : Except Fl (Vt × Nat)} {f : Nat → Except Fl Nat} {g : Nat → Except Fl (Nat × Nat)} {x : Int32} (h : sX (sB s (fun _ p => f p)) (fun _ p => g p) x) : sX s (fun _ p => (f p).bind g) x := fun r q q1 q2 => by
  subst q1
  have q2 : (f r.2).bind g = .ok q := q2
  cases hf : f r.2 with
  | error e => rw [hf] at q2; cases q2
  | ok p1 =>
    rw [hf] at q2
    exact h (r.1, p1) q (by show ((f r.2).bind _ : Except Fl (Vt × Nat)) = _; rw [hf]; rfl) q2
theorem t_X5_readPart {o c : Nat} {lo hi : Int32} (hG : jGs G) (h : mRd M σ n w s) (hT : jTx M o c) : jT G mi_X5_readPart 9 [jr (some 90), jr (some o), .int lo, .int hi] M (jPi (fun x M' => mRd M' σ n w (sP s (fun _ p => pAfter (chI σ n) n c lo hi p)) ∧ mKp M M' w ∧ sX s (fun _ p => pAfter (chI σ n) n c lo hi p) x)) := by
  have hS := h.S
  refine jT.of (by decide) rfl (Nat.le_of_ble_eq_true rfl) ?_
  refine jw_aload_n (pc := 0) dX5_readPart_0 rfl ?_
  refine jw_aload_n (pc := 1) dX5_readPart_1 rfl ?_
  refine jx_cVv (mi1 := mi_X5_must) (pc := 2) rfl dX5_readPart_2 lk_X5_139 rfl fi_X5_must rfl rfl rfl (by decide) (is_90 hS) (t_X5_must hG h hT) (by first | decide | omega) rfl rfl (by decide) ?_
  intro M_2 q_2
  have hS := q_2.1.S
  refine jw_aload_n (pc := 5) dX5_readPart_5 rfl ?_
  refine jw_iload_n (pc := 6) dX5_readPart_6 rfl ?_
  refine jw_iload_n (pc := 7) dX5_readPart_7 rfl ?_
  refine jx_cVi (mi1 := mi_X5_readWhole) (pc := 8) rfl dX5_readPart_8 lk_X5_143 rfl fi_X5_readWhole rfl rfl rfl (by decide) (is_90 hS) (t_X5_readWhole q_2.1) (by first | decide | omega) rfl rfl (by decide) ?_
  intro x_8 M_8 q_8
  refine jw_ireturn (pc := 11) dX5_readPart_11 rfl (rfl) ?_
  refine ⟨_, rfl, ?_, q_2.2.tr q_8.2.1, sXB q_8.2.2⟩
  have := q_8.1
  rw [sPB] at this; exact this
def sT (c : Nat → Int32) (n : Nat) (s : Except Fl (Vt × Nat)) (k : Nat) : Except Fl (Vt × Nat) := s.bind (fun r => .ok (r.1, (pTakes c n k r.2).2))
theorem sT_t {c : Nat → Int32} {n k : Nat} {s : Except Fl (Vt × Nat)} (h : sW c n s k = true) : sT c n s k = sB s (fun _ p => .ok (tkE c n p)) := by
  obtain ⟨V, p, hs, h2, h3⟩ := sW_t h
  subst hs
  show Except.ok (V, (pTakes c n k p).2) = Except.ok (V, tkE c n p)
  unfold pTakes; rw [if_pos ⟨h2, h3⟩]
theorem sT_f {c : Nat → Int32} {n k : Nat} {s : Except Fl (Vt × Nat)} (h : sW c n s k = false) : sT c n s k = s := by
  cases s with
  | error f => rfl
  | ok r =>
    obtain ⟨V, p⟩ := r
    show Except.ok (V, (pTakes c n k p).2) = _
    unfold pTakes; rw [if_neg (sW_f h)]
theorem t_X5_eatsWord {o c : Nat} (hG : jGs G) (h : mRd M σ n w s) (hT : jTx M o c) : jT G mi_X5_eatsWord 8 [jr (some 90), jr (some o)] M (jPi (fun x M' => x = jb (sW (chI σ n) n s c) ∧ mRd M' σ n w (sT (chI σ n) n s c) ∧ mKp M M' w)) := by
  have hS := h.S
  refine jT.of (by decide) rfl (Nat.le_of_ble_eq_true rfl) ?_
  refine jw_aload_n (pc := 0) dX5_eatsWord_0 rfl ?_
  refine jw_aload_n (pc := 1) dX5_eatsWord_1 rfl ?_
  refine jx_cVE (mi1 := mi_X5_isWord) (pc := 2) rfl dX5_eatsWord_2 lk_X5_124 rfl fi_X5_isWord rfl rfl rfl (by decide) (is_90 hS) (t_X5_isWord hG h hT) (by first | decide | omega) rfl rfl (by decide) ?_
  refine jw_istore_n (pc := 5) dX5_eatsWord_5 (Nat.le_of_ble_eq_true rfl) rfl ?_
  try dsimp only [jput1, jput2, jkill, jclr, jis2_i, jis2_l, jis2_rs, jis2_rn, cond]
  refine jw_iload_n (pc := 6) dX5_eatsWord_6 rfl ?_
  first | refine jx_ifb_eq (pc := 7) (tgt := 14) dX5_eatsWord_7 (by decide) ?_ ?_ | refine jx_if_eq (pc := 7) (tgt := 14) dX5_eatsWord_7 (by decide) (by omega) ?_ ?_ | refine jw_if_eq (pc := 7) (tgt := 14) dX5_eatsWord_7 (by decide) ?_ ?_
  · intro h_7
    refine jw_iload_n (pc := 14) dX5_eatsWord_14 rfl ?_
    refine jw_ireturn (pc := 15) dX5_eatsWord_15 rfl (by first | exact jnar_b _ | exact jnar_0 | exact jnar_1 | decide +kernel) ?_
    first
      | (refine ⟨_, rfl, rfl, ?_, q_11.2⟩; rw [sT_t h_7]; exact q_11.1)
      | (refine ⟨_, rfl, rfl, ?_, mKp.rf⟩; rw [sT_f h_7]; exact h)
  · intro h_7
    refine jw_aload_n (pc := 10) dX5_eatsWord_10 rfl ?_
    refine jx_cVv (mi1 := mi_X5_goesOn) (pc := 11) rfl dX5_eatsWord_11 lk_X5_128 rfl fi_X5_goesOn rfl rfl rfl (by decide) (is_90 hS) (t_X5_goesOn h (fun r q => by obtain ⟨V, p, e1, e2, e3⟩ := sW_t h_7; subst e1; cases q; rw [e2]; decide)) (by first | decide | omega) rfl rfl (by decide) ?_
    intro M_11 q_11
    refine jw_iload_n (pc := 14) dX5_eatsWord_14 rfl ?_
    refine jw_ireturn (pc := 15) dX5_eatsWord_15 rfl (by first | exact jnar_b _ | exact jnar_0 | exact jnar_1 | decide +kernel) ?_
    first
      | (refine ⟨_, rfl, rfl, ?_, q_11.2⟩; rw [sT_t h_7]; exact q_11.1)
      | (refine ⟨_, rfl, rfl, ?_, mKp.rf⟩; rw [sT_f h_7]; exact h)
def sG (c : Nat → Int32) (n : Nat) (s : Except Fl (Vt × Nat)) (k : Nat) : Bool := match s with
  | .ok r => decide (tkK c n r.2 = k)
  | .error _ => false
theorem t_X5_eatsSign (h : mRd M σ n w s) : jT G mi_X5_eatsSign 5 [jr (some 90), .int (nI 59)] M (jPi (fun x M' => x = jb (sG (chI σ n) n s 59) ∧ mRd M' σ n w (if sG (chI σ n) n s 59 = true then sB s (fun _ p => .ok (tkE (chI σ n) n p)) else s) ∧ mKp M M' w)) := by
  have hS := h.S
  have L22 : sG (chI σ n) n s 59 = true → jW G mi_X5_eatsSign 5 M 22 [some (jr (some 90)), some (.int (nI 59)), some (.int (nI 1))] [] M (jPi (fun x M' => x = jb (sG (chI σ n) n s 59) ∧ mRd M' σ n w (if sG (chI σ n) n s 59 = true then sB s (fun _ p => .ok (tkE (chI σ n) n p)) else s) ∧ mKp M M' w)) := by
    intro hg
    rw [hg]
    refine jw_iload_n (pc := 22) dX5_eatsSign_22 rfl ?_
    first | refine jx_ifb_eq (pc := 23) (tgt := 30) dX5_eatsSign_23 (by decide) ?_ ?_ | refine jx_if_eq (pc := 23) (tgt := 30) dX5_eatsSign_23 (by decide) (by omega) ?_ ?_ | refine jw_if_eq (pc := 23) (tgt := 30) dX5_eatsSign_23 (by decide) ?_ ?_
    · intro h_23
      first | exact absurd h_23 (by decide) | cases h_23
    · intro h_23
      refine jw_aload_n (pc := 26) dX5_eatsSign_26 rfl ?_
      refine jx_cVv (mi1 := mi_X5_goesOn) (pc := 27) rfl dX5_eatsSign_27 lk_X5_128 rfl fi_X5_goesOn rfl rfl rfl (by decide) (is_90 hS) (t_X5_goesOn h (fun r q => by subst q; have hg : decide (tkK (chI σ n) n r.2 = 59) = true := hg; rw [of_decide_eq_true hg]; decide)) (by first | decide | omega) rfl rfl (by decide) ?_
      intro M_27 q_27
      refine jw_iload_n (pc := 30) dX5_eatsSign_30 rfl ?_
      refine jw_ireturn (pc := 31) dX5_eatsSign_31 rfl (by first | exact jnar_b _ | exact jnar_0 | exact jnar_1 | decide +kernel) ?_
      exact ⟨_, rfl, rfl, q_27.1, q_27.2⟩
  have L22f : sG (chI σ n) n s 59 = false → jW G mi_X5_eatsSign 5 M 22 [some (jr (some 90)), some (.int (nI 59)), some (.int (nI 0))] [] M (jPi (fun x M' => x = jb (sG (chI σ n) n s 59) ∧ mRd M' σ n w (if sG (chI σ n) n s 59 = true then sB s (fun _ p => .ok (tkE (chI σ n) n p)) else s) ∧ mKp M M' w)) := by
    intro hg
    rw [hg]
    refine jw_iload_n (pc := 22) dX5_eatsSign_22 rfl ?_
    first | refine jx_ifb_eq (pc := 23) (tgt := 30) dX5_eatsSign_23 (by decide) ?_ ?_ | refine jx_if_eq (pc := 23) (tgt := 30) dX5_eatsSign_23 (by decide) (by omega) ?_ ?_ | refine jw_if_eq (pc := 23) (tgt := 30) dX5_eatsSign_23 (by decide) ?_ ?_
    · intro h_23
      refine jw_iload_n (pc := 30) dX5_eatsSign_30 rfl ?_
      refine jw_ireturn (pc := 31) dX5_eatsSign_31 rfl (by first | exact jnar_b _ | exact jnar_0 | exact jnar_1 | decide +kernel) ?_
      exact ⟨_, rfl, rfl, h, mKp.rf⟩
    · intro h_23
      first | exact absurd h_23 (by decide) | exact absurd rfl h_23 | cases h_23
  refine jT.of (by decide) rfl (Nat.le_of_ble_eq_true rfl) ?_
  cases s with
  | error f =>
    refine jw_aload_n (pc := 0) dX5_eatsSign_0 rfl ?_
    refine jx_getIs (pc := 1) (jf_X5_85_4.r) rfl dX5_eatsSign_1 rfl (is_90 hS) (by decide) (h.2.1) ?_
    refine jw_iconst (pc := 4) dX5_eatsSign_4 ic_4 ?_
    first | refine jx_icmp_ne (pc := 5) (tgt := 20) dX5_eatsSign_5 (by decide) (by omega) (by omega) ?_ ?_ | refine jw_icmp_ne (pc := 5) (tgt := 20) dX5_eatsSign_5 (by decide) ?_ ?_
    · intro h_5
      refine jw_iconst (pc := 20) dX5_eatsSign_20 ic_0 ?_
      refine jw_istore_n (pc := 21) dX5_eatsSign_21 (Nat.le_of_ble_eq_true rfl) rfl ?_
      try dsimp only [jput1, jput2, jkill, jclr, jis2_i, jis2_l, jis2_rs, jis2_rn, cond]
      exact L22f rfl
    · intro h_5
      exact absurd h_5 (by decide)
  | ok r =>
    obtain ⟨V, p⟩ := r
    have hG := h.2.2.1
    have hs5 := @srt_lt (tkK (chI σ n) n p)
    by_cases hk : tkK (chI σ n) n p = 59
    · have h4 : srt (tkK (chI σ n) n p) = 4 := srt_4.mpr (by omega)
      have hsg : sgnK (tkK (chI σ n) n p) = 59 := by unfold sgnK; rw [if_neg (by omega)]; exact hk
      refine jw_aload_n (pc := 0) dX5_eatsSign_0 rfl ?_
      refine jx_getIs (pc := 1) (jf_X5_85_4.r) rfl dX5_eatsSign_1 rfl (is_90 hS) (by decide) (hG.2.1) ?_
      refine jw_iconst (pc := 4) dX5_eatsSign_4 ic_4 ?_
      first | refine jx_icmp_ne (pc := 5) (tgt := 20) dX5_eatsSign_5 (by decide) (by omega) (by omega) ?_ ?_ | refine jw_icmp_ne (pc := 5) (tgt := 20) dX5_eatsSign_5 (by decide) ?_ ?_
      · intro h_5
        exact absurd h4 h_5
      · intro h_5
        refine jw_aload_n (pc := 8) dX5_eatsSign_8 rfl ?_
        refine jx_getIs (pc := 9) (jf_X5_97_4.r) rfl dX5_eatsSign_9 rfl (is_90 hS) (by decide) (hG.2.2.2.1) ?_
        refine jw_iload_n (pc := 12) dX5_eatsSign_12 rfl ?_
        rw [hsg]
        first | refine jx_icmp_ne (pc := 13) (tgt := 20) dX5_eatsSign_13 (by decide) (by omega) (by omega) ?_ ?_ | refine jw_icmp_ne (pc := 13) (tgt := 20) dX5_eatsSign_13 (by decide) ?_ ?_
        · intro h_13
          exact absurd rfl h_13
        · intro h_13
          refine jw_iconst (pc := 16) dX5_eatsSign_16 ic_1 ?_
          refine jw_goto (pc := 17) (tgt := 21) dX5_eatsSign_17 (by decide) ?_
          refine jw_istore_n (pc := 21) dX5_eatsSign_21 (Nat.le_of_ble_eq_true rfl) rfl ?_
          try dsimp only [jput1, jput2, jkill, jclr, jis2_i, jis2_l, jis2_rs, jis2_rn, cond]
          exact L22 (decide_eq_true hk)
    · have hsg : sgnK (tkK (chI σ n) n p) < 2 ^ 30 := by have := tkK_lt (chI σ n) n p; unfold sgnK; split <;> omega
      have hne : srt (tkK (chI σ n) n p) = 4 → ¬ sgnK (tkK (chI σ n) n p) = 59 := fun q1 q2 => by
        have := srt_4.mp q1
        unfold sgnK at q2; rw [if_neg (by omega)] at q2; exact hk q2
      refine jw_aload_n (pc := 0) dX5_eatsSign_0 rfl ?_
      refine jx_getIs (pc := 1) (jf_X5_85_4.r) rfl dX5_eatsSign_1 rfl (is_90 hS) (by decide) (hG.2.1) ?_
      refine jw_iconst (pc := 4) dX5_eatsSign_4 ic_4 ?_
      first | refine jx_icmp_ne (pc := 5) (tgt := 20) dX5_eatsSign_5 (by decide) (by omega) (by omega) ?_ ?_ | refine jw_icmp_ne (pc := 5) (tgt := 20) dX5_eatsSign_5 (by decide) ?_ ?_
      · intro h_5
        refine jw_iconst (pc := 20) dX5_eatsSign_20 ic_0 ?_
        refine jw_istore_n (pc := 21) dX5_eatsSign_21 (Nat.le_of_ble_eq_true rfl) rfl ?_
        try dsimp only [jput1, jput2, jkill, jclr, jis2_i, jis2_l, jis2_rs, jis2_rn, cond]
        exact L22f (decide_eq_false hk)
      · intro h_5
        refine jw_aload_n (pc := 8) dX5_eatsSign_8 rfl ?_
        refine jx_getIs (pc := 9) (jf_X5_97_4.r) rfl dX5_eatsSign_9 rfl (is_90 hS) (by decide) (hG.2.2.2.1) ?_
        refine jw_iload_n (pc := 12) dX5_eatsSign_12 rfl ?_
        first | refine jx_icmp_ne (pc := 13) (tgt := 20) dX5_eatsSign_13 (by decide) (by omega) (by omega) ?_ ?_ | refine jw_icmp_ne (pc := 13) (tgt := 20) dX5_eatsSign_13 (by decide) ?_ ?_
        · intro h_13
          refine jw_iconst (pc := 20) dX5_eatsSign_20 ic_0 ?_
          refine jw_istore_n (pc := 21) dX5_eatsSign_21 (Nat.le_of_ble_eq_true rfl) rfl ?_
          try dsimp only [jput1, jput2, jkill, jclr, jis2_i, jis2_l, jis2_rs, jis2_rn, cond]
          exact L22f (decide_eq_false hk)
        · intro h_13
          exact absurd h_13 (hne h_5)
def sN (c : Nat → Int32) (n : Nat) (s : Except Fl (Vt × Nat)) : Bool := match s with
  | .ok r => decide (tkK c n r.2 = 2) && !resB (tkV c n r.2)
  | .error _ => false
theorem sN_f {c : Nat → Int32} {n i : Nat} {s : Except Fl (Vt × Nat)} (hi : i < 12) (h : sW c n s (kwc (i + 1)) = true) : sN c n s = false := by
  obtain ⟨V, p, hs, h2, h3⟩ := sW_t h
  subst hs
  show (decide (tkK c n p = 2) && !resB (tkV c n p)) = false
  have : resB (tkV c n p) = true := anyB_iff.mpr ⟨i, hi, decide_eq_true h3⟩
  rw [this, Bool.not_true, Bool.and_false]
theorem sN_t {c : Nat → Int32} {n : Nat} {V : Vt} {p : Nat} (h2 : tkK c n p = 2) (h : ∀ i, i < 12 → sW c n (.ok (V, p)) (kwc (i + 1)) = false) : sN c n (.ok (V, p)) = true := by
  show (decide (tkK c n p = 2) && !resB (tkV c n p)) = true
  have : resB (tkV c n p) = false := by
    rw [← Bool.not_eq_true]
    intro q
    obtain ⟨i, hi, e⟩ := anyB_iff.mp q
    exact sW_f (h i hi) ⟨h2, of_decide_eq_true e⟩
  rw [decide_eq_true h2, this]; rfl
theorem t_X5_isName (hG : jGs G) (h : mRd M σ n w s) : jE G mi_X5_isName 8 [jr (some 90)] M (some (.int (jb (sN (chI σ n) n s)))) M := by
  have hS := h.S
  have hT := h.T
  have k : ∀ i o, 1 ≤ i → i ≤ 12 → o = 2 * i → jE G mi_X5_isWord 7 [jr (some 90), jr (some o)] M (some (.int (jb (sW (chI σ n) n s (kwc i))))) M := fun i o h1 h2 e => t_X5_isWord hG h (by subst e; exact hT i h1 (by omega))
  cases s with
  | error f =>
    refine jE.of (by decide) rfl (Nat.le_of_ble_eq_true rfl) ?_
    refine jw_aload_n (pc := 0) dX5_isName_0 rfl ?_
    refine jx_getIs (pc := 1) (jf_X5_85_4.r) rfl dX5_isName_1 rfl (is_90 hS) (by decide) (h.2.1) ?_
    refine jw_iconst (pc := 4) dX5_isName_4 ic_2 ?_
    first | refine jx_icmp_ne (pc := 5) (tgt := 62) dX5_isName_5 (by decide) (by omega) (by omega) ?_ ?_ | refine jw_icmp_ne (pc := 5) (tgt := 62) dX5_isName_5 (by decide) ?_ ?_
    · intro h_5
      refine jw_iconst (pc := 62) dX5_isName_62 ic_0 ?_
      refine jw_ireturn (pc := 63) dX5_isName_63 rfl (by first | exact jnar_b _ | exact jnar_0 | exact jnar_1 | decide +kernel) ?_
      exact ⟨rfl, rfl⟩
    · intro h_5
      exact absurd h_5 (by decide)
  | ok r =>
    obtain ⟨V, p⟩ := r
    have hG := h.2.2.1
    have hs5 := @srt_lt (tkK (chI σ n) n p)
    by_cases h2 : tkK (chI σ n) n p = 2
    · have hs2 : srt (tkK (chI σ n) n p) = 2 := srt_2.mpr h2
      refine jE.of (by decide) rfl (Nat.le_of_ble_eq_true rfl) ?_
      refine jw_aload_n (pc := 0) dX5_isName_0 rfl ?_
      refine jx_getIs (pc := 1) (jf_X5_85_4.r) rfl dX5_isName_1 rfl (is_90 hS) (by decide) (hG.2.1) ?_
      refine jw_iconst (pc := 4) dX5_isName_4 ic_2 ?_
      first | refine jx_icmp_ne (pc := 5) (tgt := 62) dX5_isName_5 (by decide) (by omega) (by omega) ?_ ?_ | refine jw_icmp_ne (pc := 5) (tgt := 62) dX5_isName_5 (by decide) ?_ ?_
      · intro h_5
        exact absurd hs2 h_5
      · intro h_5
        refine jw_aload_n (pc := 8) dX5_isName_8 rfl ?_
        refine jw_ldcs (pc := 9) (js_X5_146) rfl (by decide) dX5_isName_9 ?_
        refine jx_cVE (mi1 := mi_X5_isWord) (pc := 11) rfl dX5_isName_11 lk_X5_124 rfl fi_X5_isWord rfl rfl rfl (by decide) (is_90 hS) (k 1 2 (by decide) (by decide) rfl) (by first | decide | omega) rfl rfl (by decide) ?_
        first | refine jx_ifb_ne (pc := 14) (tgt := 62) dX5_isName_14 (by decide) ?_ ?_ | refine jx_if_ne (pc := 14) (tgt := 62) dX5_isName_14 (by decide) (by omega) ?_ ?_ | refine jw_if_ne (pc := 14) (tgt := 62) dX5_isName_14 (by decide) ?_ ?_
        · intro h_14
          refine jw_iconst (pc := 62) dX5_isName_62 ic_0 ?_
          refine jw_ireturn (pc := 63) dX5_isName_63 rfl (by first | exact jnar_b _ | exact jnar_0 | exact jnar_1 | decide +kernel) ?_
          refine ⟨jret_f ?_, rfl⟩
          first | exact sN_f (i := 0) (by decide) h_14 | exact sN_f (i := 1) (by decide) h_23 | exact sN_f (i := 2) (by decide) h_32 | exact sN_f (i := 3) (by decide) h_41 | exact sN_f (i := 4) (by decide) h_50 | exact sN_f (i := 5) (by decide) h_59 | exact sN_f (i := 6) (by decide) h_70 | exact sN_f (i := 7) (by decide) h_79 | exact sN_f (i := 8) (by decide) h_88 | exact sN_f (i := 9) (by decide) h_97 | exact sN_f (i := 10) (by decide) h_106 | exact sN_f (i := 11) (by decide) h_115
        · intro h_14
          refine jw_aload_n (pc := 17) dX5_isName_17 rfl ?_
          refine jw_ldcs (pc := 18) (js_X5_148) rfl (by decide) dX5_isName_18 ?_
          refine jx_cVE (mi1 := mi_X5_isWord) (pc := 20) rfl dX5_isName_20 lk_X5_124 rfl fi_X5_isWord rfl rfl rfl (by decide) (is_90 hS) (k 2 4 (by decide) (by decide) rfl) (by first | decide | omega) rfl rfl (by decide) ?_
          first | refine jx_ifb_ne (pc := 23) (tgt := 62) dX5_isName_23 (by decide) ?_ ?_ | refine jx_if_ne (pc := 23) (tgt := 62) dX5_isName_23 (by decide) (by omega) ?_ ?_ | refine jw_if_ne (pc := 23) (tgt := 62) dX5_isName_23 (by decide) ?_ ?_
          · intro h_23
            refine jw_iconst (pc := 62) dX5_isName_62 ic_0 ?_
            refine jw_ireturn (pc := 63) dX5_isName_63 rfl (by first | exact jnar_b _ | exact jnar_0 | exact jnar_1 | decide +kernel) ?_
            refine ⟨jret_f ?_, rfl⟩
            first | exact sN_f (i := 0) (by decide) h_14 | exact sN_f (i := 1) (by decide) h_23 | exact sN_f (i := 2) (by decide) h_32 | exact sN_f (i := 3) (by decide) h_41 | exact sN_f (i := 4) (by decide) h_50 | exact sN_f (i := 5) (by decide) h_59 | exact sN_f (i := 6) (by decide) h_70 | exact sN_f (i := 7) (by decide) h_79 | exact sN_f (i := 8) (by decide) h_88 | exact sN_f (i := 9) (by decide) h_97 | exact sN_f (i := 10) (by decide) h_106 | exact sN_f (i := 11) (by decide) h_115
          · intro h_23
            refine jw_aload_n (pc := 26) dX5_isName_26 rfl ?_
            refine jw_ldcs (pc := 27) (js_X5_149) rfl (by decide) dX5_isName_27 ?_
            refine jx_cVE (mi1 := mi_X5_isWord) (pc := 29) rfl dX5_isName_29 lk_X5_124 rfl fi_X5_isWord rfl rfl rfl (by decide) (is_90 hS) (k 3 6 (by decide) (by decide) rfl) (by first | decide | omega) rfl rfl (by decide) ?_
            first | refine jx_ifb_ne (pc := 32) (tgt := 62) dX5_isName_32 (by decide) ?_ ?_ | refine jx_if_ne (pc := 32) (tgt := 62) dX5_isName_32 (by decide) (by omega) ?_ ?_ | refine jw_if_ne (pc := 32) (tgt := 62) dX5_isName_32 (by decide) ?_ ?_
            · intro h_32
              refine jw_iconst (pc := 62) dX5_isName_62 ic_0 ?_
              refine jw_ireturn (pc := 63) dX5_isName_63 rfl (by first | exact jnar_b _ | exact jnar_0 | exact jnar_1 | decide +kernel) ?_
              refine ⟨jret_f ?_, rfl⟩
              first | exact sN_f (i := 0) (by decide) h_14 | exact sN_f (i := 1) (by decide) h_23 | exact sN_f (i := 2) (by decide) h_32 | exact sN_f (i := 3) (by decide) h_41 | exact sN_f (i := 4) (by decide) h_50 | exact sN_f (i := 5) (by decide) h_59 | exact sN_f (i := 6) (by decide) h_70 | exact sN_f (i := 7) (by decide) h_79 | exact sN_f (i := 8) (by decide) h_88 | exact sN_f (i := 9) (by decide) h_97 | exact sN_f (i := 10) (by decide) h_106 | exact sN_f (i := 11) (by decide) h_115
            · intro h_32
              refine jw_aload_n (pc := 35) dX5_isName_35 rfl ?_
              refine jw_ldcs (pc := 36) (js_X5_151) rfl (by decide) dX5_isName_36 ?_
              refine jx_cVE (mi1 := mi_X5_isWord) (pc := 38) rfl dX5_isName_38 lk_X5_124 rfl fi_X5_isWord rfl rfl rfl (by decide) (is_90 hS) (k 4 8 (by decide) (by decide) rfl) (by first | decide | omega) rfl rfl (by decide) ?_
              first | refine jx_ifb_ne (pc := 41) (tgt := 62) dX5_isName_41 (by decide) ?_ ?_ | refine jx_if_ne (pc := 41) (tgt := 62) dX5_isName_41 (by decide) (by omega) ?_ ?_ | refine jw_if_ne (pc := 41) (tgt := 62) dX5_isName_41 (by decide) ?_ ?_
              · intro h_41
                refine jw_iconst (pc := 62) dX5_isName_62 ic_0 ?_
                refine jw_ireturn (pc := 63) dX5_isName_63 rfl (by first | exact jnar_b _ | exact jnar_0 | exact jnar_1 | decide +kernel) ?_
                refine ⟨jret_f ?_, rfl⟩
                first | exact sN_f (i := 0) (by decide) h_14 | exact sN_f (i := 1) (by decide) h_23 | exact sN_f (i := 2) (by decide) h_32 | exact sN_f (i := 3) (by decide) h_41 | exact sN_f (i := 4) (by decide) h_50 | exact sN_f (i := 5) (by decide) h_59 | exact sN_f (i := 6) (by decide) h_70 | exact sN_f (i := 7) (by decide) h_79 | exact sN_f (i := 8) (by decide) h_88 | exact sN_f (i := 9) (by decide) h_97 | exact sN_f (i := 10) (by decide) h_106 | exact sN_f (i := 11) (by decide) h_115
              · intro h_41
                refine jw_aload_n (pc := 44) dX5_isName_44 rfl ?_
                refine jw_ldcs (pc := 45) (js_X5_153) rfl (by decide) dX5_isName_45 ?_
                refine jx_cVE (mi1 := mi_X5_isWord) (pc := 47) rfl dX5_isName_47 lk_X5_124 rfl fi_X5_isWord rfl rfl rfl (by decide) (is_90 hS) (k 5 10 (by decide) (by decide) rfl) (by first | decide | omega) rfl rfl (by decide) ?_
                first | refine jx_ifb_ne (pc := 50) (tgt := 62) dX5_isName_50 (by decide) ?_ ?_ | refine jx_if_ne (pc := 50) (tgt := 62) dX5_isName_50 (by decide) (by omega) ?_ ?_ | refine jw_if_ne (pc := 50) (tgt := 62) dX5_isName_50 (by decide) ?_ ?_
                · intro h_50
                  refine jw_iconst (pc := 62) dX5_isName_62 ic_0 ?_
                  refine jw_ireturn (pc := 63) dX5_isName_63 rfl (by first | exact jnar_b _ | exact jnar_0 | exact jnar_1 | decide +kernel) ?_
                  refine ⟨jret_f ?_, rfl⟩
                  first | exact sN_f (i := 0) (by decide) h_14 | exact sN_f (i := 1) (by decide) h_23 | exact sN_f (i := 2) (by decide) h_32 | exact sN_f (i := 3) (by decide) h_41 | exact sN_f (i := 4) (by decide) h_50 | exact sN_f (i := 5) (by decide) h_59 | exact sN_f (i := 6) (by decide) h_70 | exact sN_f (i := 7) (by decide) h_79 | exact sN_f (i := 8) (by decide) h_88 | exact sN_f (i := 9) (by decide) h_97 | exact sN_f (i := 10) (by decide) h_106 | exact sN_f (i := 11) (by decide) h_115
                · intro h_50
                  refine jw_aload_n (pc := 53) dX5_isName_53 rfl ?_
                  refine jw_ldcs (pc := 54) (js_X5_155) rfl (by decide) dX5_isName_54 ?_
                  refine jx_cVE (mi1 := mi_X5_isWord) (pc := 56) rfl dX5_isName_56 lk_X5_124 rfl fi_X5_isWord rfl rfl rfl (by decide) (is_90 hS) (k 6 12 (by decide) (by decide) rfl) (by first | decide | omega) rfl rfl (by decide) ?_
                  first | refine jx_ifb_eq (pc := 59) (tgt := 64) dX5_isName_59 (by decide) ?_ ?_ | refine jx_if_eq (pc := 59) (tgt := 64) dX5_isName_59 (by decide) (by omega) ?_ ?_ | refine jw_if_eq (pc := 59) (tgt := 64) dX5_isName_59 (by decide) ?_ ?_
                  · intro h_59
                    refine jw_aload_n (pc := 64) dX5_isName_64 rfl ?_
                    refine jw_ldcs (pc := 65) (js_X5_157) rfl (by decide) dX5_isName_65 ?_
                    refine jx_cVE (mi1 := mi_X5_isWord) (pc := 67) rfl dX5_isName_67 lk_X5_124 rfl fi_X5_isWord rfl rfl rfl (by decide) (is_90 hS) (k 7 14 (by decide) (by decide) rfl) (by first | decide | omega) rfl rfl (by decide) ?_
                    first | refine jx_ifb_ne (pc := 70) (tgt := 122) dX5_isName_70 (by decide) ?_ ?_ | refine jx_if_ne (pc := 70) (tgt := 122) dX5_isName_70 (by decide) (by omega) ?_ ?_ | refine jw_if_ne (pc := 70) (tgt := 122) dX5_isName_70 (by decide) ?_ ?_
                    · intro h_70
                      refine jw_iconst (pc := 122) dX5_isName_122 ic_0 ?_
                      refine jw_ireturn (pc := 123) dX5_isName_123 rfl (by first | exact jnar_b _ | exact jnar_0 | exact jnar_1 | decide +kernel) ?_
                      refine ⟨jret_f ?_, rfl⟩
                      first | exact sN_f (i := 0) (by decide) h_14 | exact sN_f (i := 1) (by decide) h_23 | exact sN_f (i := 2) (by decide) h_32 | exact sN_f (i := 3) (by decide) h_41 | exact sN_f (i := 4) (by decide) h_50 | exact sN_f (i := 5) (by decide) h_59 | exact sN_f (i := 6) (by decide) h_70 | exact sN_f (i := 7) (by decide) h_79 | exact sN_f (i := 8) (by decide) h_88 | exact sN_f (i := 9) (by decide) h_97 | exact sN_f (i := 10) (by decide) h_106 | exact sN_f (i := 11) (by decide) h_115
                    · intro h_70
                      refine jw_aload_n (pc := 73) dX5_isName_73 rfl ?_
                      refine jw_ldcs (pc := 74) (js_X5_159) rfl (by decide) dX5_isName_74 ?_
                      refine jx_cVE (mi1 := mi_X5_isWord) (pc := 76) rfl dX5_isName_76 lk_X5_124 rfl fi_X5_isWord rfl rfl rfl (by decide) (is_90 hS) (k 8 16 (by decide) (by decide) rfl) (by first | decide | omega) rfl rfl (by decide) ?_
                      first | refine jx_ifb_ne (pc := 79) (tgt := 122) dX5_isName_79 (by decide) ?_ ?_ | refine jx_if_ne (pc := 79) (tgt := 122) dX5_isName_79 (by decide) (by omega) ?_ ?_ | refine jw_if_ne (pc := 79) (tgt := 122) dX5_isName_79 (by decide) ?_ ?_
                      · intro h_79
                        refine jw_iconst (pc := 122) dX5_isName_122 ic_0 ?_
                        refine jw_ireturn (pc := 123) dX5_isName_123 rfl (by first | exact jnar_b _ | exact jnar_0 | exact jnar_1 | decide +kernel) ?_
                        refine ⟨jret_f ?_, rfl⟩
                        first | exact sN_f (i := 0) (by decide) h_14 | exact sN_f (i := 1) (by decide) h_23 | exact sN_f (i := 2) (by decide) h_32 | exact sN_f (i := 3) (by decide) h_41 | exact sN_f (i := 4) (by decide) h_50 | exact sN_f (i := 5) (by decide) h_59 | exact sN_f (i := 6) (by decide) h_70 | exact sN_f (i := 7) (by decide) h_79 | exact sN_f (i := 8) (by decide) h_88 | exact sN_f (i := 9) (by decide) h_97 | exact sN_f (i := 10) (by decide) h_106 | exact sN_f (i := 11) (by decide) h_115
                      · intro h_79
                        refine jw_aload_n (pc := 82) dX5_isName_82 rfl ?_
                        refine jw_ldcs (pc := 83) (js_X5_161) rfl (by decide) dX5_isName_83 ?_
                        refine jx_cVE (mi1 := mi_X5_isWord) (pc := 85) rfl dX5_isName_85 lk_X5_124 rfl fi_X5_isWord rfl rfl rfl (by decide) (is_90 hS) (k 9 18 (by decide) (by decide) rfl) (by first | decide | omega) rfl rfl (by decide) ?_
                        first | refine jx_ifb_ne (pc := 88) (tgt := 122) dX5_isName_88 (by decide) ?_ ?_ | refine jx_if_ne (pc := 88) (tgt := 122) dX5_isName_88 (by decide) (by omega) ?_ ?_ | refine jw_if_ne (pc := 88) (tgt := 122) dX5_isName_88 (by decide) ?_ ?_
                        · intro h_88
                          refine jw_iconst (pc := 122) dX5_isName_122 ic_0 ?_
                          refine jw_ireturn (pc := 123) dX5_isName_123 rfl (by first | exact jnar_b _ | exact jnar_0 | exact jnar_1 | decide +kernel) ?_
                          refine ⟨jret_f ?_, rfl⟩
                          first | exact sN_f (i := 0) (by decide) h_14 | exact sN_f (i := 1) (by decide) h_23 | exact sN_f (i := 2) (by decide) h_32 | exact sN_f (i := 3) (by decide) h_41 | exact sN_f (i := 4) (by decide) h_50 | exact sN_f (i := 5) (by decide) h_59 | exact sN_f (i := 6) (by decide) h_70 | exact sN_f (i := 7) (by decide) h_79 | exact sN_f (i := 8) (by decide) h_88 | exact sN_f (i := 9) (by decide) h_97 | exact sN_f (i := 10) (by decide) h_106 | exact sN_f (i := 11) (by decide) h_115
                        · intro h_88
                          refine jw_aload_n (pc := 91) dX5_isName_91 rfl ?_
                          refine jw_ldcs (pc := 92) (js_X5_163) rfl (by decide) dX5_isName_92 ?_
                          refine jx_cVE (mi1 := mi_X5_isWord) (pc := 94) rfl dX5_isName_94 lk_X5_124 rfl fi_X5_isWord rfl rfl rfl (by decide) (is_90 hS) (k 10 20 (by decide) (by decide) rfl) (by first | decide | omega) rfl rfl (by decide) ?_
                          first | refine jx_ifb_ne (pc := 97) (tgt := 122) dX5_isName_97 (by decide) ?_ ?_ | refine jx_if_ne (pc := 97) (tgt := 122) dX5_isName_97 (by decide) (by omega) ?_ ?_ | refine jw_if_ne (pc := 97) (tgt := 122) dX5_isName_97 (by decide) ?_ ?_
                          · intro h_97
                            refine jw_iconst (pc := 122) dX5_isName_122 ic_0 ?_
                            refine jw_ireturn (pc := 123) dX5_isName_123 rfl (by first | exact jnar_b _ | exact jnar_0 | exact jnar_1 | decide +kernel) ?_
                            refine ⟨jret_f ?_, rfl⟩
                            first | exact sN_f (i := 0) (by decide) h_14 | exact sN_f (i := 1) (by decide) h_23 | exact sN_f (i := 2) (by decide) h_32 | exact sN_f (i := 3) (by decide) h_41 | exact sN_f (i := 4) (by decide) h_50 | exact sN_f (i := 5) (by decide) h_59 | exact sN_f (i := 6) (by decide) h_70 | exact sN_f (i := 7) (by decide) h_79 | exact sN_f (i := 8) (by decide) h_88 | exact sN_f (i := 9) (by decide) h_97 | exact sN_f (i := 10) (by decide) h_106 | exact sN_f (i := 11) (by decide) h_115
                          · intro h_97
                            refine jw_aload_n (pc := 100) dX5_isName_100 rfl ?_
                            refine jw_ldcs (pc := 101) (js_X5_165) rfl (by decide) dX5_isName_101 ?_
                            refine jx_cVE (mi1 := mi_X5_isWord) (pc := 103) rfl dX5_isName_103 lk_X5_124 rfl fi_X5_isWord rfl rfl rfl (by decide) (is_90 hS) (k 11 22 (by decide) (by decide) rfl) (by first | decide | omega) rfl rfl (by decide) ?_
                            first | refine jx_ifb_ne (pc := 106) (tgt := 122) dX5_isName_106 (by decide) ?_ ?_ | refine jx_if_ne (pc := 106) (tgt := 122) dX5_isName_106 (by decide) (by omega) ?_ ?_ | refine jw_if_ne (pc := 106) (tgt := 122) dX5_isName_106 (by decide) ?_ ?_
                            · intro h_106
                              refine jw_iconst (pc := 122) dX5_isName_122 ic_0 ?_
                              refine jw_ireturn (pc := 123) dX5_isName_123 rfl (by first | exact jnar_b _ | exact jnar_0 | exact jnar_1 | decide +kernel) ?_
                              refine ⟨jret_f ?_, rfl⟩
                              first | exact sN_f (i := 0) (by decide) h_14 | exact sN_f (i := 1) (by decide) h_23 | exact sN_f (i := 2) (by decide) h_32 | exact sN_f (i := 3) (by decide) h_41 | exact sN_f (i := 4) (by decide) h_50 | exact sN_f (i := 5) (by decide) h_59 | exact sN_f (i := 6) (by decide) h_70 | exact sN_f (i := 7) (by decide) h_79 | exact sN_f (i := 8) (by decide) h_88 | exact sN_f (i := 9) (by decide) h_97 | exact sN_f (i := 10) (by decide) h_106 | exact sN_f (i := 11) (by decide) h_115
                            · intro h_106
                              refine jw_aload_n (pc := 109) dX5_isName_109 rfl ?_
                              refine jw_ldcs (pc := 110) (js_X5_167) rfl (by decide) dX5_isName_110 ?_
                              refine jx_cVE (mi1 := mi_X5_isWord) (pc := 112) rfl dX5_isName_112 lk_X5_124 rfl fi_X5_isWord rfl rfl rfl (by decide) (is_90 hS) (k 12 24 (by decide) (by decide) rfl) (by first | decide | omega) rfl rfl (by decide) ?_
                              first | refine jx_ifb_ne (pc := 115) (tgt := 122) dX5_isName_115 (by decide) ?_ ?_ | refine jx_if_ne (pc := 115) (tgt := 122) dX5_isName_115 (by decide) (by omega) ?_ ?_ | refine jw_if_ne (pc := 115) (tgt := 122) dX5_isName_115 (by decide) ?_ ?_
                              · intro h_115
                                refine jw_iconst (pc := 122) dX5_isName_122 ic_0 ?_
                                refine jw_ireturn (pc := 123) dX5_isName_123 rfl (by first | exact jnar_b _ | exact jnar_0 | exact jnar_1 | decide +kernel) ?_
                                refine ⟨jret_f ?_, rfl⟩
                                first | exact sN_f (i := 0) (by decide) h_14 | exact sN_f (i := 1) (by decide) h_23 | exact sN_f (i := 2) (by decide) h_32 | exact sN_f (i := 3) (by decide) h_41 | exact sN_f (i := 4) (by decide) h_50 | exact sN_f (i := 5) (by decide) h_59 | exact sN_f (i := 6) (by decide) h_70 | exact sN_f (i := 7) (by decide) h_79 | exact sN_f (i := 8) (by decide) h_88 | exact sN_f (i := 9) (by decide) h_97 | exact sN_f (i := 10) (by decide) h_106 | exact sN_f (i := 11) (by decide) h_115
                              · intro h_115
                                refine jw_iconst (pc := 118) dX5_isName_118 ic_1 ?_
                                refine jw_goto (pc := 119) (tgt := 123) dX5_isName_119 (by decide) ?_
                                refine jw_ireturn (pc := 123) dX5_isName_123 rfl (by first | exact jnar_b _ | exact jnar_0 | exact jnar_1 | decide +kernel) ?_
                                refine ⟨jret_t ?_, rfl⟩
                                refine sN_t h2 (fun i hi => ?_)
                                have : i = 0 ∨ i = 1 ∨ i = 2 ∨ i = 3 ∨ i = 4 ∨ i = 5 ∨ i = 6 ∨ i = 7 ∨ i = 8 ∨ i = 9 ∨ i = 10 ∨ i = 11 := by omega
                                rcases this with e | e | e | e | e | e | e | e | e | e | e | e <;> subst e <;> assumption
                  · intro h_59
                    refine jw_iconst (pc := 62) dX5_isName_62 ic_0 ?_
                    refine jw_ireturn (pc := 63) dX5_isName_63 rfl (by first | exact jnar_b _ | exact jnar_0 | exact jnar_1 | decide +kernel) ?_
                    refine ⟨jret_f ?_, rfl⟩
                    first | exact sN_f (i := 0) (by decide) h_14 | exact sN_f (i := 1) (by decide) h_23 | exact sN_f (i := 2) (by decide) h_32 | exact sN_f (i := 3) (by decide) h_41 | exact sN_f (i := 4) (by decide) h_50 | exact sN_f (i := 5) (by decide) h_59 | exact sN_f (i := 6) (by decide) h_70 | exact sN_f (i := 7) (by decide) h_79 | exact sN_f (i := 8) (by decide) h_88 | exact sN_f (i := 9) (by decide) h_97 | exact sN_f (i := 10) (by decide) h_106 | exact sN_f (i := 11) (by decide) h_115
    · have hs2 : ¬ srt (tkK (chI σ n) n p) = 2 := fun q => h2 (srt_2.mp q)
      refine jE.of (by decide) rfl (Nat.le_of_ble_eq_true rfl) ?_
      refine jw_aload_n (pc := 0) dX5_isName_0 rfl ?_
      refine jx_getIs (pc := 1) (jf_X5_85_4.r) rfl dX5_isName_1 rfl (is_90 hS) (by decide) (hG.2.1) ?_
      refine jw_iconst (pc := 4) dX5_isName_4 ic_2 ?_
      first | refine jx_icmp_ne (pc := 5) (tgt := 62) dX5_isName_5 (by decide) (by omega) (by omega) ?_ ?_ | refine jw_icmp_ne (pc := 5) (tgt := 62) dX5_isName_5 (by decide) ?_ ?_
      · intro h_5
        refine jw_iconst (pc := 62) dX5_isName_62 ic_0 ?_
        refine jw_ireturn (pc := 63) dX5_isName_63 rfl (by first | exact jnar_b _ | exact jnar_0 | exact jnar_1 | decide +kernel) ?_
        refine ⟨jret_f ?_, rfl⟩
        show (decide (tkK (chI σ n) n p = 2) && !resB (tkV (chI σ n) n p)) = false
        rw [decide_eq_false h2, Bool.false_and]
      · intro h_5
        exact absurd h_5 hs2
/-- the count is not at its most, or that is the fault -/
theorem t_X5_begins {a b p : Nat} {V : Vt} (h : mRd M σ n w (.ok (V, p))) (hk : tkK (chI σ n) n p ≠ 1) (ha : a < 2 ^ 30) (hb : b < 2 ^ 30) (hab : a ≤ b) : jT G mi_X5_begins 5 [jr (some 90), .int (nI a), .int (nI b)] M (jPv (fun M' => mRd M' σ n w (sB (.ok (V, p)) (fun _ p => pBegin (chI σ n) n (decide (a < b)) 5 p)) ∧ mKp M M' w)) := by
  have hS := h.S
  refine jT.of (by decide) rfl (Nat.le_of_ble_eq_true rfl) ?_
  refine jw_iload_n (pc := 0) dX5_begins_0 rfl ?_
  refine jw_iload_n (pc := 1) dX5_begins_1 rfl ?_
  first | refine jx_icmp_ne (pc := 2) (tgt := 10) dX5_begins_2 (by decide) (by omega) (by omega) ?_ ?_ | refine jw_icmp_ne (pc := 2) (tgt := 10) dX5_begins_2 (by decide) ?_ ?_
  · intro h_2
    refine jw_aload_n (pc := 10) dX5_begins_10 rfl ?_
    first
      | refine jx_cVv (mi1 := mi_X5_goesOn) (pc := 11) rfl dX5_begins_11 lk_X5_128 rfl fi_X5_goesOn rfl rfl rfl (by decide) (is_90 hS) (t_X5_goesOn q_7.1 (fun r q => by cases q)) (by first | decide | omega) rfl rfl (by decide) (fun M_11 q_11 => ?_)
      | refine jx_cVv (mi1 := mi_X5_goesOn) (pc := 11) rfl dX5_begins_11 lk_X5_128 rfl fi_X5_goesOn rfl rfl rfl (by decide) (is_90 hS) (t_X5_goesOn h (fun r q => by cases q; exact hk)) (by first | decide | omega) rfl rfl (by decide) (fun M_11 q_11 => ?_)
    refine jw_return (pc := 14) dX5_begins_14 rfl ?_
    first
      | (refine ⟨rfl, ?_, q_7.2.tr q_11.2⟩
         have e : sB (.ok (V, p)) (fun _ p => pBegin (chI σ n) n (decide (a < b)) 5 p) = .error (5, tkA (chI σ n) n p) := by
           show ((pBegin (chI σ n) n (decide (a < b)) 5 p).bind _ : Except Fl (Vt × Nat)) = _
           unfold pBegin; rw [if_neg (by rw [decide_eq_false (by omega)]; decide)]; rfl
         rw [e]; exact q_11.1)
      | (refine ⟨rfl, ?_, q_11.2⟩
         have e : sB (.ok (V, p)) (fun _ p => pBegin (chI σ n) n (decide (a < b)) 5 p) = sB (.ok (V, p)) (fun _ p => .ok (tkE (chI σ n) n p)) := by
           show ((pBegin (chI σ n) n (decide (a < b)) 5 p).bind _ : Except Fl (Vt × Nat)) = _
           unfold pBegin; rw [if_pos (decide_eq_true (by omega))]; rfl
         rw [e]; exact q_11.1)
  · intro h_2
    refine jw_aload_n (pc := 5) dX5_begins_5 rfl ?_
    refine jw_iconst (pc := 6) dX5_begins_6 ic_5 ?_
    refine jx_cVv (mi1 := mi_X5_wrong) (pc := 7) rfl dX5_begins_7 lk_X5_131 rfl fi_X5_wrong rfl rfl rfl (by decide) (is_90 hS) (t_X5_wrong h (by decide)) (by first | decide | omega) rfl rfl (by decide) ?_
    intro M_7 q_7
    have hS := q_7.1.S
    refine jw_aload_n (pc := 10) dX5_begins_10 rfl ?_
    first
      | refine jx_cVv (mi1 := mi_X5_goesOn) (pc := 11) rfl dX5_begins_11 lk_X5_128 rfl fi_X5_goesOn rfl rfl rfl (by decide) (is_90 hS) (t_X5_goesOn q_7.1 (fun r q => by cases q)) (by first | decide | omega) rfl rfl (by decide) (fun M_11 q_11 => ?_)
      | refine jx_cVv (mi1 := mi_X5_goesOn) (pc := 11) rfl dX5_begins_11 lk_X5_128 rfl fi_X5_goesOn rfl rfl rfl (by decide) (is_90 hS) (t_X5_goesOn h (fun r q => by cases q; exact hk)) (by first | decide | omega) rfl rfl (by decide) (fun M_11 q_11 => ?_)
    refine jw_return (pc := 14) dX5_begins_14 rfl ?_
    first
      | (refine ⟨rfl, ?_, q_7.2.tr q_11.2⟩
         have e : sB (.ok (V, p)) (fun _ p => pBegin (chI σ n) n (decide (a < b)) 5 p) = .error (5, tkA (chI σ n) n p) := by
           show ((pBegin (chI σ n) n (decide (a < b)) 5 p).bind _ : Except Fl (Vt × Nat)) = _
           unfold pBegin; rw [if_neg (by rw [decide_eq_false (by omega)]; decide)]; rfl
         rw [e]; exact q_11.1)
      | (refine ⟨rfl, ?_, q_11.2⟩
         have e : sB (.ok (V, p)) (fun _ p => pBegin (chI σ n) n (decide (a < b)) 5 p) = sB (.ok (V, p)) (fun _ p => .ok (tkE (chI σ n) n p)) := by
           show ((pBegin (chI σ n) n (decide (a < b)) 5 p).bind _ : Except Fl (Vt × Nat)) = _
           unfold pBegin; rw [if_pos (decide_eq_true (by omega))]; rfl
         rw [e]; exact q_11.1)
end JM2
