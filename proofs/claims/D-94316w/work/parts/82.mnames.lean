/-! ===== m reads: names ===== -/
theorem wK_no : ∀ i, i < 24 → wK.getD i 0 ≠ 14 ∧ wK.getD i 0 ≠ 101 := by decide
theorem wE_K {M : Mm} {w a : Nat} (h : jWs M w) (h1 : w ≤ a) (h2 : a ≤ w + 24) : jm_K M a ≠ 14 ∧ jm_K M a ≠ 101 := by
  by_cases e : a = w
  · subst e; rw [h.1]; decide
  · have := (h.2.2.2 (a - w - 1) (by omega)).1
    rw [show w + (a - w - 1 + 1) = a by omega] at this
    rw [this]
    exact wK_no _ (by omega)
/-- a row of m's valley is written -/
theorem mBs.A {M : Mm} {σ : Sg} {n w a k : Nat} {x : Int32} (h : mBs M σ n w) (h1 : w < a) (h2 : a ≤ w + 24) : mBs (js_A M a k x) σ n w := by
  obtain ⟨b1, b2, b3, b4, b5, b6, b7, b8⟩ := h
  have h104 := b7.2.1
  exact ⟨b1, fun j hj => (jA_oth2 (by omega)).trans (b2 j hj), b3.fr (E := fun b => b = a) (jsm.A rfl) (fun b q1 q2 q3 => by subst q1; exact wE_K b7 (by omega) h2), b4, b5, b6, b7, b8⟩
theorem mBs.Bx {M : Mm} {σ : Sg} {n w a k : Nat} {x : Int64} (h : mBs M σ n w) (h1 : w < a) (h2 : a ≤ w + 24) : mBs (js_B M a k x) σ n w := by
  obtain ⟨b1, b2, b3, b4, b5, b6, b7, b8⟩ := h
  exact ⟨b1, b2, b3.fr (E := fun b => b = a) (jsm.B rfl) (fun b q1 q2 q3 => by subst q1; exact wE_K b7 (by omega) h2), b4, b5, b6, b7, b8⟩
/-- a number of m's valley is written: a count within its bound, or no count -/
theorem mBs.I {M : Mm} {σ : Sg} {n w k : Nat} {x : Int32} (h : mBs M σ n w) (hk : ∀ q ∈ wCn, q.1 = k → ∃ m, m ≤ q.2 ∧ x = nI m) : mBs (js_I M w k x) σ n w := by
  obtain ⟨b1, b2, b3, b4, b5, b6, b7, b8⟩ := h
  have h104 := b7.2.1
  refine ⟨b1, b2, b3.fr (E := fun b => b = w) (jsm.I rfl) (fun b q1 q2 q3 => by subst q1; exact wE_K b7 (Nat.le_refl _) (by omega)), b4, ?_, b6, b7, fun q hq => ?_⟩
  · rw [jI_I, if_neg (by omega)]; exact b5
  · by_cases e : q.1 = k
    · obtain ⟨m, m1, m2⟩ := hk q hq e
      exact ⟨m, m1, by rw [jI_I, if_pos ⟨e, rfl⟩]; exact m2⟩
    · obtain ⟨m, m1, m2⟩ := b8 q hq
      exact ⟨m, m1, by rw [jI_I, if_neg (fun z => e z.1)]; exact m2⟩
theorem mKp.A {M : Mm} {w a k : Nat} {x : Int32} (h1 : w < a) (h2 : a ≤ w + 24) : mKp M (js_A M a k x) w := ⟨jsm.A (Or.inr ⟨by omega, h2⟩), fun _ _ => rfl, fun _ => rfl⟩
theorem mKp.B {M : Mm} {w a k : Nat} {x : Int64} (h1 : w < a) (h2 : a ≤ w + 24) : mKp M (js_B M a k x) w := ⟨jsm.B (Or.inr ⟨by omega, h2⟩), fun _ _ => rfl, fun _ => rfl⟩
theorem mKp.W {M : Mm} {w k : Nat} {x : Int32} (hw : 104 ≤ w) : mKp M (js_I M w k x) w := ⟨jsm.I (Or.inr ⟨by omega, by omega⟩), fun j _ => by rw [jI_I, if_neg (by omega)], fun _ => rfl⟩
theorem jWa.cg {M M1 : Mm} {w : Nat} {V : Vt} (h : jWa M w V) (hA : ∀ i k, 1 ≤ i → i ≤ 21 → jm_A M1 (w + i) k = jm_A M (w + i) k) : jWa M1 w V := by
  unfold jWa
  simp only [hA 1 _ (by decide) (by decide), hA 2 _ (by decide) (by decide), hA 3 _ (by decide) (by decide), hA 4 _ (by decide) (by decide), hA 5 _ (by decide) (by decide), hA 6 _ (by decide) (by decide), hA 7 _ (by decide) (by decide), hA 8 _ (by decide) (by decide), hA 9 _ (by decide) (by decide), hA 10 _ (by decide) (by decide), hA 11 _ (by decide) (by decide), hA 12 _ (by decide) (by decide), hA 13 _ (by decide) (by decide), hA 14 _ (by decide) (by decide), hA 15 _ (by decide) (by decide), hA 16 _ (by decide) (by decide), hA 17 _ (by decide) (by decide), hA 18 _ (by decide) (by decide), hA 19 _ (by decide) (by decide), hA 20 _ (by decide) (by decide), hA 21 _ (by decide) (by decide)]
  exact h
def fdI (M : Mm) (w N : Nat) (x : Int64) : Int32 := if fstN N (fun k => decide (jm_B M (w + 22) k = x)) < N then nI (fstN N (fun k => decide (jm_B M (w + 22) k = x))) else -1
section JM3
variable {G : Gh} {M : Mm} {σ : Sg} {n w : Nat} {s : Except Fl (Vt × Nat)}
theorem t_X14_find {N : Nat} {x : Int64} (hw : jWs M w) (hN : jm_I M w 140 = nI N) (h15 : N ≤ 15) : jE G mi_X14_find 1 [jr (some w), .long x] M (some (.int (fdI M w N x))) M := by
  have J : ∀ k : Nat, (k ≤ N ∧ ∀ j, j < k → ¬ jm_B M (w + 22) j = x) → jW G mi_X14_find 1 M 2 [some (jr (some w)), some (.long x), none, some (.int (nI k))] [] M (fun r M' => r = .inl (some (.int (fdI M w N x))) ∧ M' = M) := by
    refine jW.loop _ (fun k => N - k) _ (fun _ => []) (fun _ => M) (fun k hI ih => ?_)
    obtain ⟨hk, h0⟩ := hI
    by_cases hkn : k < N
    ·
      refine jw_iload_n (pc := 2) dX14_find_2 rfl ?_
      refine jw_aload_n (pc := 3) dX14_find_3 rfl ?_
      refine jx_getIs (pc := 4) (jf_X14_86_12.r) rfl dX14_find_4 rfl (wis hw) (by decide) (hN) ?_
      first | refine jx_icmp_ge (pc := 7) (tgt := 29) dX14_find_7 (by decide) (by omega) (by omega) ?_ ?_ | refine jw_icmp_ge (pc := 7) (tgt := 29) dX14_find_7 (by decide) ?_ ?_
      · intro h_7
        omega
      · intro h_7
        refine jw_aload_n (pc := 10) dX14_find_10 rfl ?_
        refine jx_getRs (pc := 11) (jf_X14_76_12.r) rfl dX14_find_11 rfl (wis hw) (by decide) (wr_22 hw) ?_
        refine jw_iload_n (pc := 14) dX14_find_14 rfl ?_
        refine jx_lald (pc := 15) dX14_find_15 (wok_22 hw) (wnn_22 hw) rfl (by omega) ?_
        refine jw_lload_n (pc := 16) dX14_find_16 rfl ?_
        refine jw_lcmp (pc := 17) dX14_find_17 ?_
        refine jw_if_ne (pc := 18) (tgt := 23) dX14_find_18 (by decide) ?_ ?_
        · intro h_18
          first | refine jx_iinc (pc := 23) dX14_find_23 rfl rfl ?_ | refine jw_iinc (pc := 23) dX14_find_23 rfl rfl rfl ?_
          try dsimp only [jput1, jkill, jclr, jis2_i, jis2_l, jis2_rs, jis2_rn, cond]
          refine jw_goto (pc := 26) (tgt := 2) dX14_find_26 (by decide) ?_
          exact ih (k + 1) ⟨hkn, fun j hj => by
            by_cases q : j = k
            · subst q; exact fun z => h_18 (cmp_0.mpr z)
            · exact h0 j (by omega)⟩ (by omega)
        · intro h_18
          refine jw_iload_n (pc := 21) dX14_find_21 rfl ?_
          refine jw_ireturn (pc := 22) dX14_find_22 rfl (rfl) ?_
          refine ⟨?_, rfl⟩
          have e : fstN N (fun k => decide (jm_B M (w + 22) k = x)) = k := fst_hit hkn (decide_eq_true (cmp_0.mp h_18)) (fun j hj => decide_eq_false (h0 j hj))
          unfold fdI; rw [e, if_pos hkn]
    · have hk' : k = N := by omega
      subst hk'
      refine jw_iload_n (pc := 2) dX14_find_2 rfl ?_
      refine jw_aload_n (pc := 3) dX14_find_3 rfl ?_
      refine jx_getIs (pc := 4) (jf_X14_86_12.r) rfl dX14_find_4 rfl (wis hw) (by decide) (hN) ?_
      first | refine jx_icmp_ge (pc := 7) (tgt := 29) dX14_find_7 (by decide) (by omega) (by omega) ?_ ?_ | refine jw_icmp_ge (pc := 7) (tgt := 29) dX14_find_7 (by decide) ?_ ?_
      · intro h_7
        refine jw_iconst (pc := 29) dX14_find_29 ic_m1 ?_
        refine jw_ireturn (pc := 30) dX14_find_30 rfl (rfl) ?_
        refine ⟨?_, rfl⟩
        have e : fstN k (fun k => decide (jm_B M (w + 22) k = x)) = k := fst_none (fun j hj => decide_eq_false (h0 j hj))
        unfold fdI; rw [e, if_neg (by omega)]
      · intro h_7
        omega
  refine jE.of (by decide) rfl (Nat.le_of_ble_eq_true rfl) ?_
  refine jw_iconst (pc := 0) dX14_find_0 ic_0 ?_
  refine jw_istore_n (pc := 1) dX14_find_1 (Nat.le_of_ble_eq_true rfl) rfl ?_
  try dsimp only [jput1, jput2, jkill, jclr, jis2_i, jis2_l, jis2_rs, jis2_rn, cond]
  exact J 0 ⟨Nat.zero_le _, fun j hj => absurd hj (Nat.not_lt_zero _)⟩
theorem fdI_v {V : Vt} {t : Nat} (hN : jNm M w V) (hv : vNm V) (ht : t < 2 ^ 40) : fdI M w (V 0 13) (lN t) = if nmF V t < V 0 13 then nI (nmF V t) else -1 := by
  have e : fstN (V 0 13) (fun k => decide (jm_B M (w + 22) k = lN t)) = nmF V t := fst_cg (fun j hj => by
    rw [(hN.2 j hj).1]
    have := (hv.2 j hj).1
    by_cases q : V 25 j = t
    · rw [decide_eq_true q, decide_eq_true (by rw [q])]
    · rw [decide_eq_false q, decide_eq_false (fun z => q ((pk_lEQ (by omega) (by omega)).mp z))])
  unfold fdI; rw [e]
/-- what find gives is no number of a name that isn't there -/
theorem fdI_lt {N : Nat} {x : Int64} : fdI M w N x = -1 ∨ ∃ k, k < N ∧ fdI M w N x = nI k := by
  unfold fdI
  split
  · exact Or.inr ⟨_, ‹_›, rfl⟩
  · exact Or.inl rfl
def sKn (c : Nat → Int32) (n sort : Nat) (s : Except Fl (Vt × Nat)) : Except Fl (Vt × Nat) := s.bind (fun r => (pKnown c n sort r.1 r.2).bind (fun _ => .ok r))
def sXk (c : Nat → Int32) (n sort : Nat) (s : Except Fl (Vt × Nat)) (x : Int32) : Prop := ∀ r a, s = .ok r → pKnown c n sort r.1 r.2 = .ok a → x = nI a
theorem pName_t {c : Nat → Int32} {V : Vt} {p : Nat} (h : sN c n (.ok (V, p)) = true) : tkK c n p = 2 ∧ pName c n p = .ok (tkV c n p) := by
  have h : (decide (tkK c n p = 2) && !resB (tkV c n p)) = true := h
  rw [Bool.and_eq_true] at h
  have h2 : resB (tkV c n p) = false := by cases e : resB (tkV c n p) with
    | false => rfl
    | true => rw [e] at h; exact absurd h.2 (by decide)
  exact ⟨of_decide_eq_true h.1, by unfold pName; rw [if_pos ⟨of_decide_eq_true h.1, h2⟩]⟩
theorem pName_f {c : Nat → Int32} {V : Vt} {p : Nat} (h : sN c n (.ok (V, p)) = false) : pName c n p = .error (1, tkA c n p) := by
  unfold pName; rw [if_neg]
  intro q
  have h : (decide (tkK c n p = 2) && !resB (tkV c n p)) = false := h
  rw [decide_eq_true q.1, q.2] at h; cases h
theorem t_X5_known {sort : Nat} (hG : jGs G) (h : mRd M σ n w s) (hs9 : sort ≤ 1) : jT G mi_X5_known 9 [jr (some 90), .int (nI sort)] M (jPi (fun x M' => mRd M' σ n w (sKn (chI σ n) n sort s) ∧ mKp M M' w ∧ sXk (chI σ n) n sort s x)) := by
  -- behind a fault
  have LE : ∀ (f : Fl) (M1 : Mm), sKn (chI σ n) n sort s = .error f → mRd M1 σ n w (.error f) → mKp M M1 w → jW G mi_X5_known 9 M 12 [some (jr (some 90)), some (.int (nI sort)), none] [] M1 (jPi (fun x M' => mRd M' σ n w (sKn (chI σ n) n sort s) ∧ mKp M M' w ∧ sXk (chI σ n) n sort s x)) := by
    intro f M1 he h1 hk
    have hX : ∀ x, sXk (chI σ n) n sort s x := fun x r a q1 q2 => by
      subst q1
      have he : ((pKnown (chI σ n) n sort r.1 r.2).bind (fun _ => Except.ok r) : Except Fl (Vt × Nat)) = .error f := he
      rw [q2] at he; cases he
    have L42 : ∀ x2, jW G mi_X5_known 9 M 42 [some (jr (some 90)), some (.int (nI sort)), x2] [] M1 (jPi (fun x M' => mRd M' σ n w (sKn (chI σ n) n sort s) ∧ mKp M M' w ∧ sXk (chI σ n) n sort s x)) := by
      intro x2
      have hS := h1.S
      refine jw_aload_n (pc := 42) dX5_known_42 rfl ?_
      refine jw_iconst (pc := 43) dX5_known_43 ic_2 ?_
      refine jx_cVv (mi1 := mi_X5_wrong) (pc := 44) rfl dX5_known_44 lk_X5_131 rfl fi_X5_wrong rfl rfl rfl (by decide) (is_90 hS) (t_X5_wrong h1 (by decide)) (by first | decide | omega) rfl rfl (by decide) ?_
      intro M_44 q_44
      have hS := q_44.1.S
      refine jw_aload_n (pc := 47) dX5_known_47 rfl ?_
      refine jx_getIs (pc := 48) (jf_X5_85_4.r) rfl dX5_known_48 rfl (is_90 hS) (by decide) (q_44.1.2.1) ?_
      refine jw_iconst (pc := 51) dX5_known_51 ic_5 ?_
      first | refine jx_icmp_ne (pc := 52) (tgt := 59) dX5_known_52 (by decide) (by omega) (by omega) ?_ ?_ | refine jw_icmp_ne (pc := 52) (tgt := 59) dX5_known_52 (by decide) ?_ ?_
      · intro h_52
        exact absurd rfl h_52
      · intro h_52
        refine jw_iconst (pc := 55) dX5_known_55 ic_0 ?_
        refine jw_goto (pc := 56) (tgt := 68) dX5_known_56 (by decide) ?_
        refine jw_ireturn (pc := 68) dX5_known_68 rfl (rfl) ?_
        exact ⟨_, rfl, by rw [he]; exact q_44.1, hk.tr q_44.2, hX _⟩
    have hS := h1.S
    have hw := h1.1.2.2.2.2.2.2.1
    obtain ⟨N, hN1, hN2⟩ := h1.1.2.2.2.2.2.2.2 (140, 15) (by decide)
    have hR := h1.1.2.2.2.2.2.1
    rcases @fdI_lt M1 w N (jm_L M1 90 64) with e | ⟨k, k1, e⟩
    ·
      refine jw_aload_n (pc := 12) dX5_known_12 rfl ?_
      refine jx_getRs (pc := 13) (jf_X5_173_4.r) rfl dX5_known_13 rfl (is_90 hS) (by decide) (hR) ?_
      refine jw_aload_n (pc := 16) dX5_known_16 rfl ?_
      refine jx_getL (pc := 17) (jf_X5_104_4.r) rfl dX5_known_17 rfl (is_90 hS) (by decide) ?_
      refine jx_cVE (mi1 := mi_X14_find) (pc := 20) rfl dX5_known_20 lk_X5_177 rfl fi_X14_find rfl rfl rfl (by decide) (wis hw) (t_X14_find hw hN2 hN1) (by first | decide | omega) rfl rfl (by decide) ?_
      rw [e]
      refine jw_istore_n (pc := 23) dX5_known_23 (Nat.le_of_ble_eq_true rfl) rfl ?_
      try dsimp only [jput1, jput2, jkill, jclr, jis2_i, jis2_l, jis2_rs, jis2_rn, cond]
      refine jw_iload_n (pc := 24) dX5_known_24 rfl ?_
      refine jw_iconst (pc := 25) dX5_known_25 ic_m1 ?_
      refine jw_icmp_eq (pc := 26) (tgt := 42) dX5_known_26 (by decide) ?_ ?_
      · intro h_26
        exact L42 _
      · intro h_26
        exact absurd rfl h_26
    · have hk15 : k < 15 := Nat.lt_of_lt_of_le k1 hN1
      refine jw_aload_n (pc := 12) dX5_known_12 rfl ?_
      refine jx_getRs (pc := 13) (jf_X5_173_4.r) rfl dX5_known_13 rfl (is_90 hS) (by decide) (hR) ?_
      refine jw_aload_n (pc := 16) dX5_known_16 rfl ?_
      refine jx_getL (pc := 17) (jf_X5_104_4.r) rfl dX5_known_17 rfl (is_90 hS) (by decide) ?_
      refine jx_cVE (mi1 := mi_X14_find) (pc := 20) rfl dX5_known_20 lk_X5_177 rfl fi_X14_find rfl rfl rfl (by decide) (wis hw) (t_X14_find hw hN2 hN1) (by first | decide | omega) rfl rfl (by decide) ?_
      rw [e]
      refine jw_istore_n (pc := 23) dX5_known_23 (Nat.le_of_ble_eq_true rfl) rfl ?_
      try dsimp only [jput1, jput2, jkill, jclr, jis2_i, jis2_l, jis2_rs, jis2_rn, cond]
      refine jw_iload_n (pc := 24) dX5_known_24 rfl ?_
      refine jw_iconst (pc := 25) dX5_known_25 ic_m1 ?_
      refine jw_icmp_eq (pc := 26) (tgt := 42) dX5_known_26 (by decide) ?_ ?_
      · intro h_26
        exact absurd h_26 (nI_nm (by omega))
      · intro h_26
        refine jw_aload_n (pc := 29) dX5_known_29 rfl ?_
        refine jx_getRs (pc := 30) (jf_X5_173_4.r) rfl dX5_known_30 rfl (is_90 hS) (by decide) (hR) ?_
        refine jx_getRs (pc := 33) jg_X5_190_12 rfl dX5_known_33 rfl (wis hw) (by decide) (wr_23 hw) ?_
        refine jw_iload_n (pc := 36) dX5_known_36 rfl ?_
        refine jx_iald (pc := 37) dX5_known_37 (wok_23 hw) (wnn_23 hw) rfl (by omega) ?_
        refine jw_iload_n (pc := 38) dX5_known_38 rfl ?_
        refine jw_icmp_eq (pc := 39) (tgt := 47) dX5_known_39 (by decide) ?_ ?_
        · intro h_39
          refine jw_aload_n (pc := 47) dX5_known_47 rfl ?_
          refine jx_getIs (pc := 48) (jf_X5_85_4.r) rfl dX5_known_48 rfl (is_90 hS) (by decide) (h1.2.1) ?_
          refine jw_iconst (pc := 51) dX5_known_51 ic_5 ?_
          first | refine jx_icmp_ne (pc := 52) (tgt := 59) dX5_known_52 (by decide) (by omega) (by omega) ?_ ?_ | refine jw_icmp_ne (pc := 52) (tgt := 59) dX5_known_52 (by decide) ?_ ?_
          · intro h_52
            exact absurd rfl h_52
          · intro h_52
            refine jw_iconst (pc := 55) dX5_known_55 ic_0 ?_
            refine jw_goto (pc := 56) (tgt := 68) dX5_known_56 (by decide) ?_
            refine jw_ireturn (pc := 68) dX5_known_68 rfl (rfl) ?_
            exact ⟨_, rfl, by rw [he]; exact h1, hk, hX _⟩
        · intro h_39
          exact L42 _
  have hS := h.S
  refine jT.of (by decide) rfl (Nat.le_of_ble_eq_true rfl) ?_
  cases hb : sN (chI σ n) n s with
  | false =>
    have he : ∃ f, sKn (chI σ n) n sort s = .error f ∧ s.bind (fun r => (.error (1, tkA (chI σ n) n r.2) : Except Fl (Vt × Nat))) = .error f := by
      cases s with
      | error f => exact ⟨f, rfl, rfl⟩
      | ok r =>
        refine ⟨(1, tkA (chI σ n) n r.2), ?_, rfl⟩
        show ((pKnown (chI σ n) n sort r.1 r.2).bind (fun _ => Except.ok r) : Except Fl (Vt × Nat)) = _
        unfold pKnown; rw [pName_f (V := r.1) hb]; rfl
    obtain ⟨f, he1, he2⟩ := he
    refine jw_aload_n (pc := 0) dX5_known_0 rfl ?_
    refine jx_cVE (mi1 := mi_X5_isName) (pc := 1) rfl dX5_known_1 lk_X5_169 rfl fi_X5_isName rfl rfl rfl (by decide) (is_90 hS) (t_X5_isName hG h) (by first | decide | omega) rfl rfl (by decide) ?_
    rw [hb]
    first | refine jx_ifb_ne (pc := 4) (tgt := 12) dX5_known_4 (by decide) ?_ ?_ | refine jx_if_ne (pc := 4) (tgt := 12) dX5_known_4 (by decide) (by omega) ?_ ?_ | refine jw_if_ne (pc := 4) (tgt := 12) dX5_known_4 (by decide) ?_ ?_
    · intro h_4
      first | cases h_4 | exact absurd h_4 (by decide)
    · intro h_4
      refine jw_aload_n (pc := 7) dX5_known_7 rfl ?_
      refine jw_iconst (pc := 8) dX5_known_8 ic_1 ?_
      refine jx_cVv (mi1 := mi_X5_wrong) (pc := 9) rfl dX5_known_9 lk_X5_131 rfl fi_X5_wrong rfl rfl rfl (by decide) (is_90 hS) (t_X5_wrong h (by decide)) (by first | decide | omega) rfl rfl (by decide) ?_
      intro M_9 q_9
      exact LE f _ he1 (he2 ▸ q_9.1) q_9.2
  | true =>
    cases s with
    | error f => cases hb
    | ok r =>
      obtain ⟨V, p⟩ := r
      obtain ⟨hk2, hpn⟩ := pName_t hb
      obtain ⟨hB, hp, hGp, hF, hV, hN, hL, hv⟩ := h
      have h : mRd M σ n w (.ok (V, p)) := ⟨hB, hp, hGp, hF, hV, hN, hL, hv⟩
      have hw9 := hGp.2.2.2.2.2 hk2
      have h40 := tkV_40 hk2
      have hR := hB.2.2.2.2.2.1
      have hw := hV.1
      have hfd := fdI_v hN hv h40
      have hs2 : srt (tkK (chI σ n) n p) = 2 := srt_2.mpr hk2
      have L42 : ∀ x2, ¬ (nmF V (tkV (chI σ n) n p) < V 0 13 ∧ V 26 (nmF V (tkV (chI σ n) n p)) = sort) → jW G mi_X5_known 9 M 42 [some (jr (some 90)), some (.int (nI sort)), x2] [] M (jPi (fun x M' => mRd M' σ n w (sKn (chI σ n) n sort (.ok (V, p))) ∧ mKp M M' w ∧ sXk (chI σ n) n sort (.ok (V, p)) x)) := by
        intro x2 hno
        have he : pKnown (chI σ n) n sort V p = .error (2, tkA (chI σ n) n p) := by
          unfold pKnown; rw [hpn]
          exact if_neg hno
        refine jw_aload_n (pc := 42) dX5_known_42 rfl ?_
        refine jw_iconst (pc := 43) dX5_known_43 ic_2 ?_
        refine jx_cVv (mi1 := mi_X5_wrong) (pc := 44) rfl dX5_known_44 lk_X5_131 rfl fi_X5_wrong rfl rfl rfl (by decide) (is_90 hS) (t_X5_wrong h (by decide)) (by first | decide | omega) rfl rfl (by decide) ?_
        intro M_44 q_44
        have hS := q_44.1.S
        refine jw_aload_n (pc := 47) dX5_known_47 rfl ?_
        refine jx_getIs (pc := 48) (jf_X5_85_4.r) rfl dX5_known_48 rfl (is_90 hS) (by decide) ((show mRd M_44 σ n w (.error (2, tkA (chI σ n) n p)) from q_44.1).2.1) ?_
        refine jw_iconst (pc := 51) dX5_known_51 ic_5 ?_
        first | refine jx_icmp_ne (pc := 52) (tgt := 59) dX5_known_52 (by decide) (by omega) (by omega) ?_ ?_ | refine jw_icmp_ne (pc := 52) (tgt := 59) dX5_known_52 (by decide) ?_ ?_
        · intro h_52
          exact absurd rfl h_52
        · intro h_52
          refine jw_iconst (pc := 55) dX5_known_55 ic_0 ?_
          refine jw_goto (pc := 56) (tgt := 68) dX5_known_56 (by decide) ?_
          refine jw_ireturn (pc := 68) dX5_known_68 rfl (rfl) ?_
          refine ⟨_, rfl, ?_, q_44.2, fun r a q1 q2 => ?_⟩
          · have e : sKn (chI σ n) n sort (.ok (V, p)) = .error (2, tkA (chI σ n) n p) := by
              show ((pKnown (chI σ n) n sort V p).bind _ : Except Fl (Vt × Nat)) = _
              rw [he]; rfl
            rw [e]; exact q_44.1
          · cases q1
            have q2 : pKnown (chI σ n) n sort V p = .ok a := q2
            rw [he] at q2; cases q2
      by_cases hf : nmF V (tkV (chI σ n) n p) < V 0 13
      · obtain ⟨n1, n2, n3⟩ := hN.2 _ hf
        obtain ⟨v1, v2, v3⟩ := hv.2 _ hf
        have h15 := hv.1
        refine jw_aload_n (pc := 0) dX5_known_0 rfl ?_
        refine jx_cVE (mi1 := mi_X5_isName) (pc := 1) rfl dX5_known_1 lk_X5_169 rfl fi_X5_isName rfl rfl rfl (by decide) (is_90 hS) (t_X5_isName hG h) (by first | decide | omega) rfl rfl (by decide) ?_
        rw [hb]
        first | refine jx_ifb_ne (pc := 4) (tgt := 12) dX5_known_4 (by decide) ?_ ?_ | refine jx_if_ne (pc := 4) (tgt := 12) dX5_known_4 (by decide) (by omega) ?_ ?_ | refine jw_if_ne (pc := 4) (tgt := 12) dX5_known_4 (by decide) ?_ ?_
        · intro h_4
          refine jw_aload_n (pc := 12) dX5_known_12 rfl ?_
          refine jx_getRs (pc := 13) (jf_X5_173_4.r) rfl dX5_known_13 rfl (is_90 hS) (by decide) (hR) ?_
          refine jw_aload_n (pc := 16) dX5_known_16 rfl ?_
          refine jx_getLs (pc := 17) (jf_X5_104_4.r) rfl dX5_known_17 rfl (is_90 hS) (by decide) (hw9) ?_
          refine jx_cVE (mi1 := mi_X14_find) (pc := 20) rfl dX5_known_20 lk_X5_177 rfl fi_X14_find rfl rfl rfl (by decide) (wis hw) (t_X14_find hw hN.1 hv.1) (by first | decide | omega) rfl rfl (by decide) ?_
          rw [hfd, if_pos hf]
          refine jw_istore_n (pc := 23) dX5_known_23 (Nat.le_of_ble_eq_true rfl) rfl ?_
          try dsimp only [jput1, jput2, jkill, jclr, jis2_i, jis2_l, jis2_rs, jis2_rn, cond]
          refine jw_iload_n (pc := 24) dX5_known_24 rfl ?_
          refine jw_iconst (pc := 25) dX5_known_25 ic_m1 ?_
          refine jw_icmp_eq (pc := 26) (tgt := 42) dX5_known_26 (by decide) ?_ ?_
          · intro h_26
            exact absurd h_26 (nI_nm (by omega))
          · intro h_26
            refine jw_aload_n (pc := 29) dX5_known_29 rfl ?_
            refine jx_getRs (pc := 30) (jf_X5_173_4.r) rfl dX5_known_30 rfl (is_90 hS) (by decide) (hR) ?_
            refine jx_getRs (pc := 33) jg_X5_190_12 rfl dX5_known_33 rfl (wis hw) (by decide) (wr_23 hw) ?_
            refine jw_iload_n (pc := 36) dX5_known_36 rfl ?_
            refine jx_ialds (pc := 37) dX5_known_37 (wok_23 hw) (wnn_23 hw) rfl (by omega) (n2) ?_
            refine jw_iload_n (pc := 38) dX5_known_38 rfl ?_
            first | refine jx_icmp_eq (pc := 39) (tgt := 47) dX5_known_39 (by decide) (by omega) (by omega) ?_ ?_ | refine jw_icmp_eq (pc := 39) (tgt := 47) dX5_known_39 (by decide) ?_ ?_
            · intro h_39
              refine jw_aload_n (pc := 47) dX5_known_47 rfl ?_
              refine jx_getIs (pc := 48) (jf_X5_85_4.r) rfl dX5_known_48 rfl (is_90 hS) (by decide) (hGp.2.1) ?_
              refine jw_iconst (pc := 51) dX5_known_51 ic_5 ?_
              first | refine jx_icmp_ne (pc := 52) (tgt := 59) dX5_known_52 (by decide) (by omega) (by omega) ?_ ?_ | refine jw_icmp_ne (pc := 52) (tgt := 59) dX5_known_52 (by decide) ?_ ?_
              · intro h_52
                refine jw_aload_n (pc := 59) dX5_known_59 rfl ?_
                refine jx_getRs (pc := 60) (jf_X5_173_4.r) rfl dX5_known_60 rfl (is_90 hS) (by decide) (hR) ?_
                refine jx_getRs (pc := 63) jg_X5_193_12 rfl dX5_known_63 rfl (wis hw) (by decide) (wr_24 hw) ?_
                refine jw_iload_n (pc := 66) dX5_known_66 rfl ?_
                refine jx_ialds (pc := 67) dX5_known_67 (wok_24 hw) (wnn_24 hw) rfl (by omega) (n3) ?_
                refine jw_ireturn (pc := 68) dX5_known_68 rfl (rfl) ?_
                refine ⟨_, rfl, ?_, mKp.rf, fun r a q1 q2 => ?_⟩
                · have e : sKn (chI σ n) n sort (.ok (V, p)) = .ok (V, p) := by
                    show ((pKnown (chI σ n) n sort V p).bind _ : Except Fl (Vt × Nat)) = _
                    unfold pKnown; rw [hpn]; exact (congrArg (fun z : Except Fl Nat => z.bind fun _ => (Except.ok (V, p) : Except Fl (Vt × Nat))) (if_pos ⟨hf, h_39⟩))
                  rw [e]; exact h
                · cases q1
                  have q2 : pKnown (chI σ n) n sort V p = .ok a := q2
                  have q3 : pKnown (chI σ n) n sort V p = .ok (V 27 (nmF V (tkV (chI σ n) n p))) := by unfold pKnown; rw [hpn]; exact if_pos ⟨hf, h_39⟩
                  rw [q3] at q2; cases q2; rfl
              · intro h_52
                omega
            · intro h_39
              exact L42 _ (fun q => h_39 q.2)
        · intro h_4
          first | cases h_4 | exact absurd h_4 (by decide)
      ·
        refine jw_aload_n (pc := 0) dX5_known_0 rfl ?_
        refine jx_cVE (mi1 := mi_X5_isName) (pc := 1) rfl dX5_known_1 lk_X5_169 rfl fi_X5_isName rfl rfl rfl (by decide) (is_90 hS) (t_X5_isName hG h) (by first | decide | omega) rfl rfl (by decide) ?_
        rw [hb]
        first | refine jx_ifb_ne (pc := 4) (tgt := 12) dX5_known_4 (by decide) ?_ ?_ | refine jx_if_ne (pc := 4) (tgt := 12) dX5_known_4 (by decide) (by omega) ?_ ?_ | refine jw_if_ne (pc := 4) (tgt := 12) dX5_known_4 (by decide) ?_ ?_
        · intro h_4
          refine jw_aload_n (pc := 12) dX5_known_12 rfl ?_
          refine jx_getRs (pc := 13) (jf_X5_173_4.r) rfl dX5_known_13 rfl (is_90 hS) (by decide) (hR) ?_
          refine jw_aload_n (pc := 16) dX5_known_16 rfl ?_
          refine jx_getLs (pc := 17) (jf_X5_104_4.r) rfl dX5_known_17 rfl (is_90 hS) (by decide) (hw9) ?_
          refine jx_cVE (mi1 := mi_X14_find) (pc := 20) rfl dX5_known_20 lk_X5_177 rfl fi_X14_find rfl rfl rfl (by decide) (wis hw) (t_X14_find hw hN.1 hv.1) (by first | decide | omega) rfl rfl (by decide) ?_
          rw [hfd, if_neg hf]
          refine jw_istore_n (pc := 23) dX5_known_23 (Nat.le_of_ble_eq_true rfl) rfl ?_
          try dsimp only [jput1, jput2, jkill, jclr, jis2_i, jis2_l, jis2_rs, jis2_rn, cond]
          refine jw_iload_n (pc := 24) dX5_known_24 rfl ?_
          refine jw_iconst (pc := 25) dX5_known_25 ic_m1 ?_
          refine jw_icmp_eq (pc := 26) (tgt := 42) dX5_known_26 (by decide) ?_ ?_
          · intro h_26
            exact L42 _ (fun q => hf q.1)
          · intro h_26
            exact absurd rfl h_26
        · intro h_4
          first | cases h_4 | exact absurd h_4 (by decide)
theorem sKn_2 {sort : Nat} {c : Nat → Int32} {r : Vt × Nat} (h : sKn c n sort s = .ok r) : s = .ok r ∧ tkK c n r.2 = 2 ∧ ∃ a, pKnown c n sort r.1 r.2 = .ok a := by
  cases s with
  | error f => cases h
  | ok r0 =>
    have h : ((pKnown c n sort r0.1 r0.2).bind (fun _ => Except.ok r0) : Except Fl (Vt × Nat)) = .ok r := h
    cases hp : pKnown c n sort r0.1 r0.2 with
    | error f => rw [hp] at h; cases h
    | ok a =>
      rw [hp] at h
      cases h
      refine ⟨rfl, ?_, a, hp⟩
      unfold pKnown at hp
      cases hn : pName c n r.2 with
      | error f => rw [hn] at hp; cases hp
      | ok t =>
        unfold pName at hn
        refine Classical.byContradiction (fun q => ?_)
        rw [if_neg (fun z => q z.1)] at hn
        cases hn
theorem t_X5_readKnown {sort : Nat} (hG : jGs G) (h : mRd M σ n w s) (hs9 : sort ≤ 1) : jT G mi_X5_readKnown 10 [jr (some 90), .int (nI sort)] M (jPi (fun x M' => mRd M' σ n w (sP s (fun V p => pKnownN (chI σ n) n sort V p)) ∧ mKp M M' w ∧ sX s (fun V p => pKnownN (chI σ n) n sort V p) x)) := by
  have hS := h.S
  refine jT.of (by decide) rfl (Nat.le_of_ble_eq_true rfl) ?_
  refine jw_aload_n (pc := 0) dX5_readKnown_0 rfl ?_
  refine jw_iload_n (pc := 1) dX5_readKnown_1 rfl ?_
  refine jx_cVi (mi1 := mi_X5_known) (pc := 2) rfl dX5_readKnown_2 lk_X5_196 rfl fi_X5_known rfl rfl rfl (by decide) (is_90 hS) (t_X5_known hG h hs9) (by first | decide | omega) rfl rfl (by decide) ?_
  intro x_2 M_2 q_2
  have hS := q_2.1.S
  refine jw_istore_n (pc := 5) dX5_readKnown_5 (Nat.le_of_ble_eq_true rfl) rfl ?_
  try dsimp only [jput1, jput2, jkill, jclr, jis2_i, jis2_l, jis2_rs, jis2_rn, cond]
  refine jw_aload_n (pc := 6) dX5_readKnown_6 rfl ?_
  refine jx_cVv (mi1 := mi_X5_goesOn) (pc := 7) rfl dX5_readKnown_7 lk_X5_128 rfl fi_X5_goesOn rfl rfl rfl (by decide) (is_90 hS) (t_X5_goesOn q_2.1 (fun r q => by rw [(sKn_2 q).2.1]; decide)) (by first | decide | omega) rfl rfl (by decide) ?_
  intro M_7 q_7
  refine jw_iload_n (pc := 10) dX5_readKnown_10 rfl ?_
  refine jw_ireturn (pc := 11) dX5_readKnown_11 rfl (rfl) ?_
  refine ⟨_, rfl, ?_, q_2.2.1.tr q_7.2, fun r q q1 q2 => ?_⟩
  · have e : sP s (fun V p => pKnownN (chI σ n) n sort V p) = sB (sKn (chI σ n) n sort s) (fun _ p => .ok (tkE (chI σ n) n p)) := by
      cases s with
      | error f => rfl
      | ok r =>
        show ((pKnownN (chI σ n) n sort r.1 r.2).bind _ : Except Fl (Vt × Nat)) = (((pKnown (chI σ n) n sort r.1 r.2).bind _ : Except Fl (Vt × Nat)).bind _ : Except Fl (Vt × Nat))
        unfold pKnownN
        cases pKnown (chI σ n) n sort r.1 r.2 <;> rfl
    rw [e]; exact q_7.1
  · subst q1
    have q2 : (pKnown (chI σ n) n sort r.1 r.2).bind (fun a => (.ok (a, tkE (chI σ n) n r.2) : Except Fl (Nat × Nat))) = .ok q := q2
    cases hp : pKnown (chI σ n) n sort r.1 r.2 with
    | error f => rw [hp] at q2; cases q2
    | ok a =>
      rw [hp] at q2; cases q2
      exact q_2.2.2 r a rfl hp
end JM3
