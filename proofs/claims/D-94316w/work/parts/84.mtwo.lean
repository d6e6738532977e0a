/-! ===== m reads: two names; a place that is not in a row ===== -/
theorem mRd.F {M : Mm} {σ : Sg} {n w : Nat} {s : Except Fl (Vt × Nat)} {x : Int32} (h : mRd M σ n w s) : mRd (js_I M 90 65 x) σ n w s ∧ mKq M (js_I M 90 65 x) w := by
  obtain ⟨⟨b1, b2, b3, b4, b5, b6, b7, b8⟩, h2⟩ := h
  have h104 := b7.2.1
  have g : jsm (fun a => a = 90) M (js_I M 90 65 x) := jsm.I rfl
  have aw := g.2.2 w (wis b7).2.1 (by omega)
  refine ⟨⟨⟨b1, b2, b3.fr g (fun a q1 q2 q3 => by subst q1; rw [(is_90 b1).1]; decide), b4, b5, b6, b7, fun q hq => ?_⟩, ?_⟩, g.wk (fun a q => Or.inl q), fun j hj => by rw [jI_I, if_neg (by omega)], fun _ => rfl⟩
  · obtain ⟨m, m1, m2⟩ := b8 q hq
    exact ⟨m, m1, (aw.2.2.1 _).trans m2⟩
  · cases s with
    | error f => exact h2
    | ok r =>
      obtain ⟨hp, hG, hF, hV, hN, hL, hv⟩ := h2
      exact ⟨hp, hG, hF, hV.sm g (fun a q1 q2 => by omega), hN.sm hV.1 g (fun a q1 q2 => by omega), (aw.2.2.1 _).trans hL, hv⟩
/-- whether two are told again, in the rows at a and b -/
def agB (M : Mm) (a b : Nat) (x1 x2 : Int32) (k : Nat) : Bool := decide (x2 = x1) || anyB k (fun k => (decide (jm_A M a k = x1) && decide (jm_A M b k = x2)) || (decide (jm_A M a k = x2) && decide (jm_A M b k = x1)))
theorem agB_s (M : Mm) (a b : Nat) (x1 x2 : Int32) (k : Nat) : agB M a b x1 x2 (k + 1) = (agB M a b x1 x2 k || ((decide (jm_A M a k = x1) && decide (jm_A M b k = x2)) || (decide (jm_A M a k = x2) && decide (jm_A M b k = x1)))) := by
  unfold agB; rw [anyB, Bool.or_assoc]
def sTw (c : Nat → Int32) (n sort i j : Nat) (mm : Vt → Nat) (s : Except Fl (Vt × Nat)) : Except Fl (Vt × Nat) := s.bind (fun r => (pTwo c n sort i j r.1 (mm r.1) r.2).bind (fun q => .ok (r.1, q.2.2)))
section JM5
variable {G : Gh} {M : Mm} {σ : Sg} {n w : Nat} {s : Except Fl (Vt × Nat)}
theorem two_err {c : Nat → Int32} {sort i j : Nat} {mm : Vt → Nat} {f : Fl} (h : sKn c n sort (sB (sP s (fun V p => pKnownN c n sort V p)) (fun _ p => pSign c n 44 p)) = .error f) : sTw c n sort i j mm s = .error f := by
  cases s with
  | error g => exact h
  | ok r =>
    have h : ((((pKnownN c n sort r.1 r.2).bind (fun q => Except.ok (r.1, q.2))).bind (fun r => (pSign c n 44 r.2).bind (fun q => .ok (r.1, q)))).bind (fun r => (pKnown c n sort r.1 r.2).bind (fun _ => .ok r)) : Except Fl (Vt × Nat)) = .error f := h
    show ((pTwo c n sort i j r.1 (mm r.1) r.2).bind _ : Except Fl (Vt × Nat)) = _
    unfold pTwo
    cases h1 : pKnownN c n sort r.1 r.2 with
    | error g => rw [h1] at h; exact h
    | ok a =>
      rw [h1] at h
      have h : ((pSign c n 44 a.2).bind (fun q => Except.ok (r.1, q))).bind (fun r => (pKnown c n sort r.1 r.2).bind (fun _ => .ok r)) = (.error f : Except Fl (Vt × Nat)) := h
      show (((pSign c n 44 a.2).bind _).bind _ : Except Fl (Vt × Nat)) = _
      cases h2 : pSign c n 44 a.2 with
      | error g => rw [h2] at h; exact h
      | ok p2 =>
        rw [h2] at h
        have h : (pKnown c n sort r.1 p2).bind (fun _ => Except.ok (r.1, p2)) = (.error f : Except Fl (Vt × Nat)) := h
        show (((pKnown c n sort r.1 p2).bind _).bind _ : Except Fl (Vt × Nat)) = _
        cases h3 : pKnown c n sort r.1 p2 with
        | error g => rw [h3] at h; exact h
        | ok b => rw [h3] at h; cases h
theorem two_ok {c : Nat → Int32} {sort i j : Nat} {mm : Vt → Nat} {V : Vt} {p2 : Nat} (h : sKn c n sort (sB (sP s (fun V p => pKnownN c n sort V p)) (fun _ p => pSign c n 44 p)) = .ok (V, p2)) : ∃ p a b, s = .ok (V, p) ∧ pKnownN c n sort V p = .ok a ∧ sB (sP s (fun V p => pKnownN c n sort V p)) (fun _ p => pSign c n 44 p) = .ok (V, p2) ∧ pKnown c n sort V p2 = .ok b ∧ pTwo c n sort i j V (mm V) p = (if (decide (b = a.1) || anyB (mm V) (fun k => (decide (V i k = a.1) && decide (V j k = b)) || (decide (V i k = b) && decide (V j k = a.1)))) = true then .error (3, tkA c n p2) else .ok (a.1, b, tkE c n p2)) := by
  obtain ⟨h1, -, b, h3⟩ := sKn_2 h
  cases s with
  | error g => cases h1
  | ok r =>
    have h1' := h1
    have h2 : (((pKnownN c n sort r.1 r.2).bind (fun q => Except.ok (r.1, q.2))).bind (fun r => (pSign c n 44 r.2).bind (fun q => .ok (r.1, q))) : Except Fl (Vt × Nat)) = .ok (V, p2) := h1
    cases ha : pKnownN c n sort r.1 r.2 with
    | error g => rw [ha] at h2; cases h2
    | ok a =>
      rw [ha] at h2
      have h2 : ((pSign c n 44 a.2).bind (fun q => Except.ok (r.1, q)) : Except Fl (Vt × Nat)) = .ok (V, p2) := h2
      cases hs : pSign c n 44 a.2 with
      | error g => rw [hs] at h2; cases h2
      | ok p3 =>
        rw [hs] at h2
        cases h2
        refine ⟨r.2, a, b, rfl, ha, h1', h3, ?_⟩
        unfold pTwo
        rw [ha]
        show ((pSign c n 44 a.2).bind _ : Except Fl (Nat × Nat × Nat)) = _
        rw [hs]
        show ((pKnown c n sort r.1 p2).bind _ : Except Fl (Nat × Nat × Nat)) = _
        rw [h3]; rfl
theorem t_X5_readTwo {sort i j a b m L : Nat} {mm : Vt → Nat} (hG : jGs G) (h : mRd M σ n w s) (hs9 : sort ≤ 1) (ha : jok M a 0) (hb : jok M b 0) (hal : w < a ∧ a ≤ w + 24) (hbl : w < b ∧ b ≤ w + 24) (hna : ∀ M', jWs M' w → jok M' a 0 ∧ jm_N M' a = L) (hnb : ∀ M', jWs M' w → jok M' b 0 ∧ jm_N M' b = L) (hm : m ≤ L) (hL9 : L ≤ 16) (hmm : ∀ r, s = .ok r → m = mm r.1)
    (hrow : ∀ M' V, jVm M' w V → ∀ k, k < mm V → jm_A M' a k = nI (V i k) ∧ jm_A M' b k = nI (V j k)) (hbd : ∀ r, s = .ok r → (∀ k, k < mm r.1 → r.1 i k ≤ 15 ∧ r.1 j k ≤ 15)) :
    jT G mi_X5_readTwo 11 [jr (some 90), .int (nI sort), jr (some a), jr (some b), .int (nI m)] M (jPi (fun x M' => mRd M' σ n w (sTw (chI σ n) n sort i j mm s) ∧ mKq M M' w ∧ ∀ r q, s = .ok r → pTwo (chI σ n) n sort i j r.1 (mm r.1) r.2 = .ok q → x = nI q.2.1 ∧ jm_I M' 90 65 = nI q.1)) := by
  have hS := h.S
  -- behind the two names
  have L22 : ∀ (x1 x2 : Int32) (M1 : Mm) (s3 : Except Fl (Vt × Nat)), mRd M1 σ n w s3 → mKq M M1 w → s3 = sKn (chI σ n) n sort (sB (sP s (fun V p => pKnownN (chI σ n) n sort V p)) (fun _ p => pSign (chI σ n) n 44 p)) → jm_I M1 90 65 = x1 → sX s (fun V p => pKnownN (chI σ n) n sort V p) x1 → sXk (chI σ n) n sort (sB (sP s (fun V p => pKnownN (chI σ n) n sort V p)) (fun _ p => pSign (chI σ n) n 44 p)) x2 →
      jW G mi_X5_readTwo 11 M 22 [some (jr (some 90)), some (.int (nI sort)), some (jr (some a)), some (jr (some b)), some (.int (nI m)), some (.int x2), none, none] [] M1 (jPi (fun x M' => mRd M' σ n w (sTw (chI σ n) n sort i j mm s) ∧ mKq M M' w ∧ ∀ r q, s = .ok r → pTwo (chI σ n) n sort i j r.1 (mm r.1) r.2 = .ok q → x = nI q.2.1 ∧ jm_I M' 90 65 = nI q.1)) := by
    intro x1 x2 M1 s3 h3 hk hs3 hf1 hx1 hx2
    have hS := h3.S
    obtain ⟨ka, na⟩ := hna M1 h3.1.2.2.2.2.2.2.1
    obtain ⟨kb, nb⟩ := hnb M1 h3.1.2.2.2.2.2.2.1
    -- what is asked again, where all stands
    have hag : ∀ V p2, s3 = .ok (V, p2) → ∃ p q1 q2, s = .ok (V, p) ∧ x1 = nI q1 ∧ x2 = nI q2 ∧ pTwo (chI σ n) n sort i j V (mm V) p = (if agB M1 a b x1 x2 m = true then .error (3, tkA (chI σ n) n p2) else .ok (q1, q2, tkE (chI σ n) n p2)) := by
      intro V p2 he
      rw [hs3] at he
      obtain ⟨p, a1, b1, e1, e2, e3, e4, e5⟩ := two_ok (i := i) (j := j) (mm := mm) he
      have y1 := hx1 _ _ e1 e2
      have y2 := hx2 _ _ e3 e4
      have h3' : mRd M1 σ n w (.ok (V, p2)) := by rw [← he, ← hs3]; exact h3
      obtain ⟨hB, hp, hGp, hF, hV, hN, hL, hv⟩ := h3'
      have hb15 : ∀ {t p}, pKnown (chI σ n) n sort V p = .ok t → t ≤ 15 := fun {t p} q => by
        unfold pKnown at q
        cases hq : pName (chI σ n) n p with
        | error f => rw [hq] at q; cases q
        | ok u =>
          rw [hq] at q
          have q : (if nmF V u < V 0 13 ∧ V 26 (nmF V u) = sort then Except.ok (V 27 (nmF V u)) else .error (2, tkA (chI σ n) n p) : Except Fl Nat) = .ok t := q
          by_cases z : nmF V u < V 0 13 ∧ V 26 (nmF V u) = sort
          · rw [if_pos z] at q; cases q; exact (hv.2 _ z.1).2.2
          · rw [if_neg z] at q; cases q
      have ba : a1.1 ≤ 15 := by
        unfold pKnownN at e2
        cases hq : pKnown (chI σ n) n sort V p with
        | error f => rw [hq] at e2; cases e2
        | ok u => rw [hq] at e2; cases e2; exact hb15 hq
      have bb := hb15 e4
      refine ⟨p, a1.1, b1, e1, y1, y2, ?_⟩
      rw [e5]
      have hm2 := hmm _ e1
      dsimp only at hm2
      have hbd2 := hbd _ e1
      dsimp only at hbd2
      have e : agB M1 a b x1 x2 m = (decide (b1 = a1.1) || anyB (mm V) (fun k => (decide (V i k = a1.1) && decide (V j k = b1)) || (decide (V i k = b1) && decide (V j k = a1.1)))) := by
        unfold agB
        rw [y1, y2, hm2]
        congr 1
        · by_cases q : b1 = a1.1
          · rw [decide_eq_true q, decide_eq_true (by rw [q])]
          · rw [decide_eq_false q, decide_eq_false (fun z => q ((nI_eq (by omega) (by omega)).mp z))]
        · refine anyB_congr (fun k hk => ?_)
          obtain ⟨r1, r2⟩ := hrow M1 V hV k hk
          obtain ⟨d1, d2⟩ := hbd2 k hk
          have de : ∀ u v : Nat, u ≤ 15 → v ≤ 15 → decide (nI u = nI v) = decide (u = v) := fun u v hu hv => by
            by_cases q : u = v
            · rw [decide_eq_true q, decide_eq_true (by rw [q])]
            · rw [decide_eq_false q, decide_eq_false (fun z => q ((nI_eq (by omega) (by omega)).mp z))]
          rw [r1, r2, de _ _ d1 ba, de _ _ d2 bb, de _ _ d1 bb, de _ _ d2 ba]
      rw [e]
    have L106 : ∀ x7 : Option Value, jW G mi_X5_readTwo 11 M 106 [some (jr (some 90)), some (.int (nI sort)), some (jr (some a)), some (jr (some b)), some (.int (nI m)), some (.int x2), some (.int (jb (agB M1 a b x1 x2 m))), x7] [] M1 (jPi (fun x M' => mRd M' σ n w (sTw (chI σ n) n sort i j mm s) ∧ mKq M M' w ∧ ∀ r q, s = .ok r → pTwo (chI σ n) n sort i j r.1 (mm r.1) r.2 = .ok q → x = nI q.2.1 ∧ jm_I M' 90 65 = nI q.1)) := by
      intro x7
      cases s3 with
      | error f =>
        have he := two_err (i := i) (j := j) (mm := mm) hs3.symm
        have hX : ∀ (x : Int32) (M' : Mm), ∀ r q, s = .ok r → pTwo (chI σ n) n sort i j r.1 (mm r.1) r.2 = .ok q → x = nI q.2.1 ∧ jm_I M' 90 65 = nI q.1 := fun x M' r q q1 q2 => by
          subst q1
          have he : ((pTwo (chI σ n) n sort i j r.1 (mm r.1) r.2).bind (fun q => Except.ok (r.1, q.2.2)) : Except Fl (Vt × Nat)) = .error f := he
          rw [q2] at he; cases he
        refine jw_iload (pc := 106) dX5_readTwo_106 rfl ?_
        first | refine jx_ifb_eq (pc := 108) (tgt := 116) dX5_readTwo_108 (by decide) ?_ ?_ | refine jx_if_eq (pc := 108) (tgt := 116) dX5_readTwo_108 (by decide) (by omega) ?_ ?_ | refine jw_if_eq (pc := 108) (tgt := 116) dX5_readTwo_108 (by decide) ?_ ?_
        · intro h_108
          refine jw_aload_n (pc := 116) dX5_readTwo_116 rfl ?_
          first
          | refine jx_cVv (mi1 := mi_X5_goesOn) (pc := 117) rfl dX5_readTwo_117 lk_X5_128 rfl fi_X5_goesOn rfl rfl rfl (by decide) (is_90 hS) (t_X5_goesOn q_113.1 (fun r q => by cases q)) (by first | decide | omega) rfl rfl (by decide) (fun M_117 q_117 => ?_)
          | refine jx_cVv (mi1 := mi_X5_goesOn) (pc := 117) rfl dX5_readTwo_117 lk_X5_128 rfl fi_X5_goesOn rfl rfl rfl (by decide) (is_90 hS) (t_X5_goesOn h3 (fun r q => by cases q)) (by first | decide | omega) rfl rfl (by decide) (fun M_117 q_117 => ?_)
          refine jw_iload (pc := 120) dX5_readTwo_120 rfl ?_
          refine jw_ireturn (pc := 122) dX5_readTwo_122 rfl (rfl) ?_
          first
          | exact ⟨_, rfl, by rw [he]; exact q_117.1, (hk.tr q_113.2.q).tr q_117.2.q, hX _ _⟩
          | exact ⟨_, rfl, by rw [he]; exact q_117.1, hk.tr q_117.2.q, hX _ _⟩
        · intro h_108
          refine jw_aload_n (pc := 111) dX5_readTwo_111 rfl ?_
          refine jw_iconst (pc := 112) dX5_readTwo_112 ic_3 ?_
          refine jx_cVv (mi1 := mi_X5_wrong) (pc := 113) rfl dX5_readTwo_113 lk_X5_131 rfl fi_X5_wrong rfl rfl rfl (by decide) (is_90 hS) (t_X5_wrong h3 (by decide)) (by first | decide | omega) rfl rfl (by decide) ?_
          intro M_113 q_113
          have hS := q_113.1.S
          refine jw_aload_n (pc := 116) dX5_readTwo_116 rfl ?_
          first
          | refine jx_cVv (mi1 := mi_X5_goesOn) (pc := 117) rfl dX5_readTwo_117 lk_X5_128 rfl fi_X5_goesOn rfl rfl rfl (by decide) (is_90 hS) (t_X5_goesOn q_113.1 (fun r q => by cases q)) (by first | decide | omega) rfl rfl (by decide) (fun M_117 q_117 => ?_)
          | refine jx_cVv (mi1 := mi_X5_goesOn) (pc := 117) rfl dX5_readTwo_117 lk_X5_128 rfl fi_X5_goesOn rfl rfl rfl (by decide) (is_90 hS) (t_X5_goesOn h3 (fun r q => by cases q)) (by first | decide | omega) rfl rfl (by decide) (fun M_117 q_117 => ?_)
          refine jw_iload (pc := 120) dX5_readTwo_120 rfl ?_
          refine jw_ireturn (pc := 122) dX5_readTwo_122 rfl (rfl) ?_
          first
          | exact ⟨_, rfl, by rw [he]; exact q_117.1, (hk.tr q_113.2.q).tr q_117.2.q, hX _ _⟩
          | exact ⟨_, rfl, by rw [he]; exact q_117.1, hk.tr q_117.2.q, hX _ _⟩
      | ok r3 =>
        obtain ⟨V, p2⟩ := r3
        obtain ⟨p, q1, q2, e1, e2, e3, e4⟩ := hag V p2 rfl
        have hk2 := (sKn_2 hs3.symm).2.1
        dsimp only at hk2
        cases hb9 : agB M1 a b x1 x2 m with
        | true =>
          rw [hb9, if_pos rfl] at e4
          have he : sTw (chI σ n) n sort i j mm s = .error (3, tkA (chI σ n) n p2) := by
            rw [e1]
            show ((pTwo (chI σ n) n sort i j V (mm V) p).bind _ : Except Fl (Vt × Nat)) = _
            rw [e4]; rfl
          refine jw_iload (pc := 106) dX5_readTwo_106 rfl ?_
          first | refine jx_ifb_eq (pc := 108) (tgt := 116) dX5_readTwo_108 (by decide) ?_ ?_ | refine jx_if_eq (pc := 108) (tgt := 116) dX5_readTwo_108 (by decide) (by omega) ?_ ?_ | refine jw_if_eq (pc := 108) (tgt := 116) dX5_readTwo_108 (by decide) ?_ ?_
          · intro h_108
            first | cases h_108 | exact absurd h_108 (by decide)
          · intro h_108
            refine jw_aload_n (pc := 111) dX5_readTwo_111 rfl ?_
            refine jw_iconst (pc := 112) dX5_readTwo_112 ic_3 ?_
            refine jx_cVv (mi1 := mi_X5_wrong) (pc := 113) rfl dX5_readTwo_113 lk_X5_131 rfl fi_X5_wrong rfl rfl rfl (by decide) (is_90 hS) (t_X5_wrong h3 (by decide)) (by first | decide | omega) rfl rfl (by decide) ?_
            intro M_113 q_113
            have hS := q_113.1.S
            refine jw_aload_n (pc := 116) dX5_readTwo_116 rfl ?_
            refine jx_cVv (mi1 := mi_X5_goesOn) (pc := 117) rfl dX5_readTwo_117 lk_X5_128 rfl fi_X5_goesOn rfl rfl rfl (by decide) (is_90 hS) (t_X5_goesOn q_113.1 (fun r q => by cases q)) (by first | decide | omega) rfl rfl (by decide) ?_
            intro M_117 q_117
            refine jw_iload (pc := 120) dX5_readTwo_120 rfl ?_
            refine jw_ireturn (pc := 122) dX5_readTwo_122 rfl (rfl) ?_
            refine ⟨_, rfl, by rw [he]; exact q_117.1, (hk.tr q_113.2.q).tr q_117.2.q, fun r q z1 z2 => ?_⟩
            rw [e1] at z1; cases z1
            have z2 : pTwo (chI σ n) n sort i j V (mm V) p = .ok q := z2
            rw [e4] at z2; cases z2
        | false =>
          rw [hb9, if_neg (by decide)] at e4
          have he : sTw (chI σ n) n sort i j mm s = .ok (V, tkE (chI σ n) n p2) := by
            rw [e1]
            show ((pTwo (chI σ n) n sort i j V (mm V) p).bind _ : Except Fl (Vt × Nat)) = _
            rw [e4]; rfl
          refine jw_iload (pc := 106) dX5_readTwo_106 rfl ?_
          first | refine jx_ifb_eq (pc := 108) (tgt := 116) dX5_readTwo_108 (by decide) ?_ ?_ | refine jx_if_eq (pc := 108) (tgt := 116) dX5_readTwo_108 (by decide) (by omega) ?_ ?_ | refine jw_if_eq (pc := 108) (tgt := 116) dX5_readTwo_108 (by decide) ?_ ?_
          · intro h_108
            refine jw_aload_n (pc := 116) dX5_readTwo_116 rfl ?_
            refine jx_cVv (mi1 := mi_X5_goesOn) (pc := 117) rfl dX5_readTwo_117 lk_X5_128 rfl fi_X5_goesOn rfl rfl rfl (by decide) (is_90 hS) (t_X5_goesOn h3 (fun r q => by cases q; rw [hk2]; decide)) (by first | decide | omega) rfl rfl (by decide) ?_
            intro M_117 q_117
            refine jw_iload (pc := 120) dX5_readTwo_120 rfl ?_
            refine jw_ireturn (pc := 122) dX5_readTwo_122 rfl (rfl) ?_
            refine ⟨_, rfl, by rw [he]; exact q_117.1, hk.tr q_117.2.q, fun r q z1 z2 => ?_⟩
            rw [e1] at z1; cases z1
            have z2 : pTwo (chI σ n) n sort i j V (mm V) p = .ok q := z2
            rw [e4] at z2; cases z2
            exact ⟨e3, ((q_117.2.2.1 _ (by decide)).trans hf1).trans e2⟩
          · intro h_108
            first | cases h_108 | exact absurd h_108 (by decide)
    have J : ∀ k : Nat, k ≤ m → jW G mi_X5_readTwo 11 M 41 [some (jr (some 90)), some (.int (nI sort)), some (jr (some a)), some (jr (some b)), some (.int (nI m)), some (.int x2), some (.int (jb (agB M1 a b x1 x2 k))), some (.int (nI k))] [] M1 (jPi (fun x M' => mRd M' σ n w (sTw (chI σ n) n sort i j mm s) ∧ mKq M M' w ∧ ∀ r q, s = .ok r → pTwo (chI σ n) n sort i j r.1 (mm r.1) r.2 = .ok q → x = nI q.2.1 ∧ jm_I M' 90 65 = nI q.1)) := by
      refine jW.loop _ (fun k => m - k) _ (fun _ => []) (fun _ => M1) (fun k hk9 ih => ?_)
      by_cases hkn : k < m
      · have hs1 := agB_s M1 a b x1 x2 k
        have ih9 := ih (k + 1) hkn (by omega)
        have L98t : (agB M1 a b x1 x2 (k + 1)) = true → jW G mi_X5_readTwo 11 M 98 [some (jr (some 90)), some (.int (nI sort)), some (jr (some a)), some (jr (some b)), some (.int (nI m)), some (.int x2), some (.int (jb (agB M1 a b x1 x2 k))), some (.int (nI k))] [.int (nI 1)] M1 (jPi (fun x M' => mRd M' σ n w (sTw (chI σ n) n sort i j mm s) ∧ mKq M M' w ∧ ∀ r q, s = .ok r → pTwo (chI σ n) n sort i j r.1 (mm r.1) r.2 = .ok q → x = nI q.2.1 ∧ jm_I M' 90 65 = nI q.1)) := by
          intro e
          rw [e] at ih9
          refine jw_istore (pc := 98) dX5_readTwo_98 (Nat.le_of_ble_eq_true rfl) rfl ?_
          try dsimp only [jput1, jput2, jkill, jclr, jis2_i, jis2_l, jis2_rs, jis2_rn, cond]
          first | refine jx_iinc (pc := 100) dX5_readTwo_100 rfl rfl ?_ | refine jw_iinc (pc := 100) dX5_readTwo_100 rfl rfl rfl ?_
          try dsimp only [jput1, jkill, jclr, jis2_i, jis2_l, jis2_rs, jis2_rn, cond]
          refine jw_goto (pc := 103) (tgt := 41) dX5_readTwo_103 (by decide) ?_
          exact ih9
        have L98f : (agB M1 a b x1 x2 (k + 1)) = false → jW G mi_X5_readTwo 11 M 98 [some (jr (some 90)), some (.int (nI sort)), some (jr (some a)), some (jr (some b)), some (.int (nI m)), some (.int x2), some (.int (jb (agB M1 a b x1 x2 k))), some (.int (nI k))] [.int (nI 0)] M1 (jPi (fun x M' => mRd M' σ n w (sTw (chI σ n) n sort i j mm s) ∧ mKq M M' w ∧ ∀ r q, s = .ok r → pTwo (chI σ n) n sort i j r.1 (mm r.1) r.2 = .ok q → x = nI q.2.1 ∧ jm_I M' 90 65 = nI q.1)) := by
          intro e
          rw [e] at ih9
          refine jw_istore (pc := 98) dX5_readTwo_98 (Nat.le_of_ble_eq_true rfl) rfl ?_
          try dsimp only [jput1, jput2, jkill, jclr, jis2_i, jis2_l, jis2_rs, jis2_rn, cond]
          first | refine jx_iinc (pc := 100) dX5_readTwo_100 rfl rfl ?_ | refine jw_iinc (pc := 100) dX5_readTwo_100 rfl rfl rfl ?_
          try dsimp only [jput1, jkill, jclr, jis2_i, jis2_l, jis2_rs, jis2_rn, cond]
          refine jw_goto (pc := 103) (tgt := 41) dX5_readTwo_103 (by decide) ?_
          exact ih9
        refine jw_iload (pc := 41) dX5_readTwo_41 rfl ?_
        refine jw_iload (pc := 43) dX5_readTwo_43 rfl ?_
        first | refine jx_icmp_ge (pc := 45) (tgt := 106) dX5_readTwo_45 (by decide) (by omega) (by omega) ?_ ?_ | refine jw_icmp_ge (pc := 45) (tgt := 106) dX5_readTwo_45 (by decide) ?_ ?_
        · intro h_45
          omega
        · intro h_45
          refine jw_iload (pc := 48) dX5_readTwo_48 rfl ?_
          first | refine jx_ifb_ne (pc := 50) (tgt := 93) dX5_readTwo_50 (by decide) ?_ ?_ | refine jx_if_ne (pc := 50) (tgt := 93) dX5_readTwo_50 (by decide) (by omega) ?_ ?_ | refine jw_if_ne (pc := 50) (tgt := 93) dX5_readTwo_50 (by decide) ?_ ?_
          · intro h_50
            refine jw_iconst (pc := 93) dX5_readTwo_93 ic_1 ?_
            refine jw_goto (pc := 94) (tgt := 98) dX5_readTwo_94 (by decide) ?_
            refine L98t ?_
            rw [hs1]
            first
            | (rw [h_50]; rfl)
            | (rw [decide_eq_true h_61, decide_eq_true h_70]; simp)
            | (rw [decide_eq_true h_79, decide_eq_true h_90]; simp)
          · intro h_50
            refine jw_aload_n (pc := 53) dX5_readTwo_53 rfl ?_
            refine jw_iload (pc := 54) dX5_readTwo_54 rfl ?_
            refine jx_iald (pc := 56) dX5_readTwo_56 (ka) (na) rfl (by omega) ?_
            refine jw_aload_n (pc := 57) dX5_readTwo_57 rfl ?_
            refine jx_getIs (pc := 58) (jf_X5_202_4.r) rfl dX5_readTwo_58 rfl (is_90 hS) (by decide) (hf1) ?_
            refine jw_icmp_ne (pc := 61) (tgt := 73) dX5_readTwo_61 (by decide) ?_ ?_
            · intro h_61
              refine jw_aload_n (pc := 73) dX5_readTwo_73 rfl ?_
              refine jw_iload (pc := 74) dX5_readTwo_74 rfl ?_
              refine jx_iald (pc := 76) dX5_readTwo_76 (ka) (na) rfl (by omega) ?_
              refine jw_iload (pc := 77) dX5_readTwo_77 rfl ?_
              refine jw_icmp_ne (pc := 79) (tgt := 97) dX5_readTwo_79 (by decide) ?_ ?_
              · intro h_79
                refine jw_iconst (pc := 97) dX5_readTwo_97 ic_0 ?_
                refine L98f ?_
                rw [hs1, h_50]
                simp only [Bool.false_or]
                first
                | (rw [decide_eq_false h_61, decide_eq_false h_79]; simp)
                | (rw [decide_eq_false h_61, decide_eq_false h_90]; simp)
                | (rw [decide_eq_false h_70, decide_eq_false h_79]; simp)
                | (rw [decide_eq_false h_70, decide_eq_false h_90]; simp)
              · intro h_79
                refine jw_aload_n (pc := 82) dX5_readTwo_82 rfl ?_
                refine jw_iload (pc := 83) dX5_readTwo_83 rfl ?_
                refine jx_iald (pc := 85) dX5_readTwo_85 (kb) (nb) rfl (by omega) ?_
                refine jw_aload_n (pc := 86) dX5_readTwo_86 rfl ?_
                refine jx_getIs (pc := 87) (jf_X5_202_4.r) rfl dX5_readTwo_87 rfl (is_90 hS) (by decide) (hf1) ?_
                refine jw_icmp_ne (pc := 90) (tgt := 97) dX5_readTwo_90 (by decide) ?_ ?_
                · intro h_90
                  refine jw_iconst (pc := 97) dX5_readTwo_97 ic_0 ?_
                  refine L98f ?_
                  rw [hs1, h_50]
                  simp only [Bool.false_or]
                  first
                  | (rw [decide_eq_false h_61, decide_eq_false h_79]; simp)
                  | (rw [decide_eq_false h_61, decide_eq_false h_90]; simp)
                  | (rw [decide_eq_false h_70, decide_eq_false h_79]; simp)
                  | (rw [decide_eq_false h_70, decide_eq_false h_90]; simp)
                · intro h_90
                  refine jw_iconst (pc := 93) dX5_readTwo_93 ic_1 ?_
                  refine jw_goto (pc := 94) (tgt := 98) dX5_readTwo_94 (by decide) ?_
                  refine L98t ?_
                  rw [hs1]
                  first
                  | (rw [h_50]; rfl)
                  | (rw [decide_eq_true h_61, decide_eq_true h_70]; simp)
                  | (rw [decide_eq_true h_79, decide_eq_true h_90]; simp)
            · intro h_61
              refine jw_aload_n (pc := 64) dX5_readTwo_64 rfl ?_
              refine jw_iload (pc := 65) dX5_readTwo_65 rfl ?_
              refine jx_iald (pc := 67) dX5_readTwo_67 (kb) (nb) rfl (by omega) ?_
              refine jw_iload (pc := 68) dX5_readTwo_68 rfl ?_
              refine jw_icmp_eq (pc := 70) (tgt := 93) dX5_readTwo_70 (by decide) ?_ ?_
              · intro h_70
                refine jw_iconst (pc := 93) dX5_readTwo_93 ic_1 ?_
                refine jw_goto (pc := 94) (tgt := 98) dX5_readTwo_94 (by decide) ?_
                refine L98t ?_
                rw [hs1]
                first
                | (rw [h_50]; rfl)
                | (rw [decide_eq_true h_61, decide_eq_true h_70]; simp)
                | (rw [decide_eq_true h_79, decide_eq_true h_90]; simp)
              · intro h_70
                refine jw_aload_n (pc := 73) dX5_readTwo_73 rfl ?_
                refine jw_iload (pc := 74) dX5_readTwo_74 rfl ?_
                refine jx_iald (pc := 76) dX5_readTwo_76 (ka) (na) rfl (by omega) ?_
                refine jw_iload (pc := 77) dX5_readTwo_77 rfl ?_
                refine jw_icmp_ne (pc := 79) (tgt := 97) dX5_readTwo_79 (by decide) ?_ ?_
                · intro h_79
                  refine jw_iconst (pc := 97) dX5_readTwo_97 ic_0 ?_
                  refine L98f ?_
                  rw [hs1, h_50]
                  simp only [Bool.false_or]
                  first
                  | (rw [decide_eq_false h_61, decide_eq_false h_79]; simp)
                  | (rw [decide_eq_false h_61, decide_eq_false h_90]; simp)
                  | (rw [decide_eq_false h_70, decide_eq_false h_79]; simp)
                  | (rw [decide_eq_false h_70, decide_eq_false h_90]; simp)
                · intro h_79
                  refine jw_aload_n (pc := 82) dX5_readTwo_82 rfl ?_
                  refine jw_iload (pc := 83) dX5_readTwo_83 rfl ?_
                  refine jx_iald (pc := 85) dX5_readTwo_85 (kb) (nb) rfl (by omega) ?_
                  refine jw_aload_n (pc := 86) dX5_readTwo_86 rfl ?_
                  refine jx_getIs (pc := 87) (jf_X5_202_4.r) rfl dX5_readTwo_87 rfl (is_90 hS) (by decide) (hf1) ?_
                  refine jw_icmp_ne (pc := 90) (tgt := 97) dX5_readTwo_90 (by decide) ?_ ?_
                  · intro h_90
                    refine jw_iconst (pc := 97) dX5_readTwo_97 ic_0 ?_
                    refine L98f ?_
                    rw [hs1, h_50]
                    simp only [Bool.false_or]
                    first
                    | (rw [decide_eq_false h_61, decide_eq_false h_79]; simp)
                    | (rw [decide_eq_false h_61, decide_eq_false h_90]; simp)
                    | (rw [decide_eq_false h_70, decide_eq_false h_79]; simp)
                    | (rw [decide_eq_false h_70, decide_eq_false h_90]; simp)
                  · intro h_90
                    refine jw_iconst (pc := 93) dX5_readTwo_93 ic_1 ?_
                    refine jw_goto (pc := 94) (tgt := 98) dX5_readTwo_94 (by decide) ?_
                    refine L98t ?_
                    rw [hs1]
                    first
                    | (rw [h_50]; rfl)
                    | (rw [decide_eq_true h_61, decide_eq_true h_70]; simp)
                    | (rw [decide_eq_true h_79, decide_eq_true h_90]; simp)
      · have hk' : k = m := by omega
        subst hk'
        refine jw_iload (pc := 41) dX5_readTwo_41 rfl ?_
        refine jw_iload (pc := 43) dX5_readTwo_43 rfl ?_
        first | refine jx_icmp_ge (pc := 45) (tgt := 106) dX5_readTwo_45 (by decide) (by omega) (by omega) ?_ ?_ | refine jw_icmp_ge (pc := 45) (tgt := 106) dX5_readTwo_45 (by decide) ?_ ?_
        · intro h_45
          exact L106 _
        · intro h_45
          omega
    have L36 : ∀ b9 : Bool, b9 = decide (x2 = x1) → jW G mi_X5_readTwo 11 M 36 [some (jr (some 90)), some (.int (nI sort)), some (jr (some a)), some (jr (some b)), some (.int (nI m)), some (.int x2), none, none] [.int (jb b9)] M1 (jPi (fun x M' => mRd M' σ n w (sTw (chI σ n) n sort i j mm s) ∧ mKq M M' w ∧ ∀ r q, s = .ok r → pTwo (chI σ n) n sort i j r.1 (mm r.1) r.2 = .ok q → x = nI q.2.1 ∧ jm_I M' 90 65 = nI q.1)) := by
      intro b9 e
      refine jw_istore (pc := 36) dX5_readTwo_36 (Nat.le_of_ble_eq_true rfl) rfl ?_
      try dsimp only [jput1, jput2, jkill, jclr, jis2_i, jis2_l, jis2_rs, jis2_rn, cond]
      refine jw_iconst (pc := 38) dX5_readTwo_38 ic_0 ?_
      refine jw_istore (pc := 39) dX5_readTwo_39 (Nat.le_of_ble_eq_true rfl) rfl ?_
      try dsimp only [jput1, jput2, jkill, jclr, jis2_i, jis2_l, jis2_rs, jis2_rn, cond]
      refine jW.eq ?_ rfl rfl (J 0 (Nat.zero_le _))
      have : agB M1 a b x1 x2 0 = b9 := by unfold agB; rw [e]; simp [anyB]
      rw [this]
    refine jw_iload (pc := 22) dX5_readTwo_22 rfl ?_
    refine jw_aload_n (pc := 24) dX5_readTwo_24 rfl ?_
    refine jx_getIs (pc := 25) (jf_X5_202_4.r) rfl dX5_readTwo_25 rfl (is_90 hS) (by decide) (hf1) ?_
    refine jw_icmp_ne (pc := 28) (tgt := 35) dX5_readTwo_28 (by decide) ?_ ?_
    · intro h_28
      refine jw_iconst (pc := 35) dX5_readTwo_35 ic_0 ?_
      exact L36 false (decide_eq_false h_28).symm
    · intro h_28
      refine jw_iconst (pc := 31) dX5_readTwo_31 ic_1 ?_
      refine jw_goto (pc := 32) (tgt := 36) dX5_readTwo_32 (by decide) ?_
      exact L36 true (decide_eq_true h_28).symm
  refine jT.of (by decide) rfl (Nat.le_of_ble_eq_true rfl) ?_
  refine jw_aload_n (pc := 0) dX5_readTwo_0 rfl ?_
  refine jw_aload_n (pc := 1) dX5_readTwo_1 rfl ?_
  refine jw_iload_n (pc := 2) dX5_readTwo_2 rfl ?_
  refine jx_cVi (mi1 := mi_X5_readKnown) (pc := 3) rfl dX5_readTwo_3 lk_X5_199 rfl fi_X5_readKnown rfl rfl rfl (by decide) (is_90 hS) (t_X5_readKnown hG h hs9) (by first | decide | omega) rfl rfl (by simp only [List.map_cons, List.map_nil, List.sum_cons, List.sum_nil, cat_i, cat_l, jr_cat]; decide) ?_
  intro x_3 M_3 q_3
  have hS := q_3.1.S
  refine jx_putI (pc := 6) jf_X5_202_4 rfl dX5_readTwo_6 rfl rfl (is_90 hS) (by decide) ?_
  obtain ⟨f1, f2⟩ := q_3.1.F (x := x_3)
  have hS := f1.S
  refine jw_aload_n (pc := 9) dX5_readTwo_9 rfl ?_
  refine jw_bipush (pc := 10) dX5_readTwo_10 bp_44 ?_
  refine jx_cVv (mi1 := mi_X5_needsSign) (pc := 12) rfl dX5_readTwo_12 lk_X5_205 rfl fi_X5_needsSign rfl rfl rfl (by decide) (is_90 hS) (t_X5_needsSign f1 (by decide) (by decide)) (by first | decide | omega) rfl rfl (by decide) ?_
  intro M_12 q_12
  have hS := q_12.1.S
  refine jw_aload_n (pc := 15) dX5_readTwo_15 rfl ?_
  refine jw_iload_n (pc := 16) dX5_readTwo_16 rfl ?_
  refine jx_cVi (mi1 := mi_X5_known) (pc := 17) rfl dX5_readTwo_17 lk_X5_196 rfl fi_X5_known rfl rfl rfl (by decide) (is_90 hS) (t_X5_known hG q_12.1 hs9) (by first | decide | omega) rfl rfl (by decide) ?_
  intro x_17 M_17 q_17
  refine jw_istore (pc := 20) dX5_readTwo_20 (Nat.le_of_ble_eq_true rfl) rfl ?_
  try dsimp only [jput1, jput2, jkill, jclr, jis2_i, jis2_l, jis2_rs, jis2_rn, cond]
  exact L22 x_3 x_17 _ _ q_17.1 (((q_3.2.1.q.tr f2).tr q_12.2.q).tr q_17.2.1.q) rfl ((q_17.2.1.2.1 _ (by decide)).trans ((q_12.2.2.1 _ (by decide)).trans jI_same)) q_3.2.2 q_17.2.2
theorem lp_other {i a m L k p av : Nat} {mm : Vt → Nat} {V : Vt} {M9 : Mm} (h1 : mRd M σ n w (.ok (V, p))) (hk0 : mKp M9 M w) (e1 : s = .ok (V, p)) (e2 : tkK (chI σ n) n p = 2) (hpo : pOther (chI σ n) n i V (mm V) p = (if anyB (mm V) (fun k => decide (V i k = av)) = true then .error (3, tkA (chI σ n) n p) else .ok (av, tkE (chI σ n) n p)))
    (hr : ∀ k, k < mm V → jm_A M a k = nI (V i k)) (hb2 : ∀ k, k < mm V → V i k ≤ 15) (hav : av ≤ 15) (ka : jok M a 0) (na : jm_N M a = L) (hm : m ≤ L) (hL9 : L ≤ 16) (hm2 : m = mm V) (hk9 : k ≤ m) (h0 : ∀ j, j < k → ¬ V i j = av)
    (ih : (k + 1 ≤ m ∧ ∀ j, j < k + 1 → ¬ V i j = av) → jW G mi_X5_readOther 10 M9 9 [some (jr (some 90)), some (jr (some a)), some (.int (nI m)), some (.int (nI av)), some (.int (nI (k + 1)))] [] M (jPi (fun x M' => mRd M' σ n w (sP s (fun V p => pOther (chI σ n) n i V (mm V) p)) ∧ mKp M9 M' w ∧ sX s (fun V p => pOther (chI σ n) n i V (mm V) p) x)))
    (LE : ∀ (M1 : Mm), sP s (fun V p => pOther (chI σ n) n i V (mm V) p) = .error (3, tkA (chI σ n) n p) → mRd M1 σ n w (.error (3, tkA (chI σ n) n p)) → mKp M9 M1 w → ∀ k : Nat, k ≤ m → jW G mi_X5_readOther 10 M9 9 [some (jr (some 90)), some (jr (some a)), some (.int (nI m)), some (.int (nI av)), some (.int (nI k))] [] M1 (jPi (fun x M' => mRd M' σ n w (sP s (fun V p => pOther (chI σ n) n i V (mm V) p)) ∧ mKp M9 M' w ∧ sX s (fun V p => pOther (chI σ n) n i V (mm V) p) x))) :
    jW G mi_X5_readOther 10 M9 9 [some (jr (some 90)), some (jr (some a)), some (.int (nI m)), some (.int (nI av)), some (.int (nI k))] [] M (jPi (fun x M' => mRd M' σ n w (sP s (fun V p => pOther (chI σ n) n i V (mm V) p)) ∧ mKp M9 M' w ∧ sX s (fun V p => pOther (chI σ n) n i V (mm V) p) x)) := by
  have hS := h1.S
  have hgs : srt (tkK (chI σ n) n p) < 5 := srt_lt
  have hso := h1.2.2.1.2.1
  subst e1
  by_cases hkn : k < m
  · have hrk := hr k (by omega)
    have hbk := hb2 k (by omega)
    by_cases hit : V i k = av
    · have he : sP (.ok (V, p)) (fun V p => pOther (chI σ n) n i V (mm V) p) = .error (3, tkA (chI σ n) n p) := by
        show ((pOther (chI σ n) n i V (mm V) p).bind _ : Except Fl (Vt × Nat)) = _
        rw [hpo, if_pos (anyB_iff.mpr ⟨k, by omega, decide_eq_true hit⟩)]; rfl
      refine jw_iload (pc := 9) dX5_readOther_9 rfl ?_
      refine jw_iload_n (pc := 11) dX5_readOther_11 rfl ?_
      first | refine jx_icmp_ge (pc := 12) (tgt := 42) dX5_readOther_12 (by decide) (by omega) (by omega) ?_ ?_ | refine jw_icmp_ge (pc := 12) (tgt := 42) dX5_readOther_12 (by decide) ?_ ?_
      · intro h_12
        omega
      · intro h_12
        refine jw_aload_n (pc := 15) dX5_readOther_15 rfl ?_
        refine jx_getIs (pc := 16) (jf_X5_85_4.r) rfl dX5_readOther_16 rfl (is_90 hS) (by decide) (hso) ?_
        refine jw_iconst (pc := 19) dX5_readOther_19 ic_5 ?_
        first | refine jx_icmp_eq (pc := 20) (tgt := 36) dX5_readOther_20 (by decide) (by omega) (by omega) ?_ ?_ | refine jw_icmp_eq (pc := 20) (tgt := 36) dX5_readOther_20 (by decide) ?_ ?_
        · intro h_20
          omega
        · intro h_20
          refine jw_aload_n (pc := 23) dX5_readOther_23 rfl ?_
          refine jw_iload (pc := 24) dX5_readOther_24 rfl ?_
          refine jx_ialds (pc := 26) dX5_readOther_26 (ka) (na) rfl (by omega) (hrk) ?_
          refine jw_iload_n (pc := 27) dX5_readOther_27 rfl ?_
          first | refine jx_icmp_ne (pc := 28) (tgt := 36) dX5_readOther_28 (by decide) (by omega) (by omega) ?_ ?_ | refine jw_icmp_ne (pc := 28) (tgt := 36) dX5_readOther_28 (by decide) ?_ ?_
          · intro h_28
            exact absurd hit h_28
          · intro h_28
            refine jw_aload_n (pc := 31) dX5_readOther_31 rfl ?_
            refine jw_iconst (pc := 32) dX5_readOther_32 ic_3 ?_
            refine jx_cVv (mi1 := mi_X5_wrong) (pc := 33) rfl dX5_readOther_33 lk_X5_131 rfl fi_X5_wrong rfl rfl rfl (by decide) (is_90 hS) (t_X5_wrong h1 (by decide)) (by first | decide | omega) rfl rfl (by decide) ?_
            intro M_33 q_33
            first | refine jx_iinc (pc := 36) dX5_readOther_36 rfl rfl ?_ | refine jw_iinc (pc := 36) dX5_readOther_36 rfl rfl rfl ?_
            try dsimp only [jput1, jkill, jclr, jis2_i, jis2_l, jis2_rs, jis2_rn, cond]
            refine jw_goto (pc := 39) (tgt := 9) dX5_readOther_39 (by decide) ?_
            exact LE _ he q_33.1 (hk0.tr q_33.2) (k + 1) hkn
    ·
      refine jw_iload (pc := 9) dX5_readOther_9 rfl ?_
      refine jw_iload_n (pc := 11) dX5_readOther_11 rfl ?_
      first | refine jx_icmp_ge (pc := 12) (tgt := 42) dX5_readOther_12 (by decide) (by omega) (by omega) ?_ ?_ | refine jw_icmp_ge (pc := 12) (tgt := 42) dX5_readOther_12 (by decide) ?_ ?_
      · intro h_12
        omega
      · intro h_12
        refine jw_aload_n (pc := 15) dX5_readOther_15 rfl ?_
        refine jx_getIs (pc := 16) (jf_X5_85_4.r) rfl dX5_readOther_16 rfl (is_90 hS) (by decide) (hso) ?_
        refine jw_iconst (pc := 19) dX5_readOther_19 ic_5 ?_
        first | refine jx_icmp_eq (pc := 20) (tgt := 36) dX5_readOther_20 (by decide) (by omega) (by omega) ?_ ?_ | refine jw_icmp_eq (pc := 20) (tgt := 36) dX5_readOther_20 (by decide) ?_ ?_
        · intro h_20
          omega
        · intro h_20
          refine jw_aload_n (pc := 23) dX5_readOther_23 rfl ?_
          refine jw_iload (pc := 24) dX5_readOther_24 rfl ?_
          refine jx_ialds (pc := 26) dX5_readOther_26 (ka) (na) rfl (by omega) (hrk) ?_
          refine jw_iload_n (pc := 27) dX5_readOther_27 rfl ?_
          first | refine jx_icmp_ne (pc := 28) (tgt := 36) dX5_readOther_28 (by decide) (by omega) (by omega) ?_ ?_ | refine jw_icmp_ne (pc := 28) (tgt := 36) dX5_readOther_28 (by decide) ?_ ?_
          · intro h_28
            first | refine jx_iinc (pc := 36) dX5_readOther_36 rfl rfl ?_ | refine jw_iinc (pc := 36) dX5_readOther_36 rfl rfl rfl ?_
            try dsimp only [jput1, jkill, jclr, jis2_i, jis2_l, jis2_rs, jis2_rn, cond]
            refine jw_goto (pc := 39) (tgt := 9) dX5_readOther_39 (by decide) ?_
            exact ih ⟨hkn, fun j hj => by
              by_cases q : j = k
              · subst q; exact hit
              · exact h0 j (by omega)⟩
          · intro h_28
            exact absurd h_28 hit
  · have hk' : k = m := by omega
    subst hk'
    have hp2 : pOther (chI σ n) n i V (mm V) p = .ok (av, tkE (chI σ n) n p) := by
      rw [hpo, if_neg]
      intro q
      obtain ⟨j, j1, j2⟩ := anyB_iff.mp q
      exact h0 j (by omega) (of_decide_eq_true j2)
    have he : sP (.ok (V, p)) (fun V p => pOther (chI σ n) n i V (mm V) p) = .ok (V, tkE (chI σ n) n p) := by
      show ((pOther (chI σ n) n i V (mm V) p).bind _ : Except Fl (Vt × Nat)) = _
      rw [hp2]; rfl
    refine jw_iload (pc := 9) dX5_readOther_9 rfl ?_
    refine jw_iload_n (pc := 11) dX5_readOther_11 rfl ?_
    first | refine jx_icmp_ge (pc := 12) (tgt := 42) dX5_readOther_12 (by decide) (by omega) (by omega) ?_ ?_ | refine jw_icmp_ge (pc := 12) (tgt := 42) dX5_readOther_12 (by decide) ?_ ?_
    · intro h_12
      refine jw_aload_n (pc := 42) dX5_readOther_42 rfl ?_
      refine jx_cVv (mi1 := mi_X5_goesOn) (pc := 43) rfl dX5_readOther_43 lk_X5_128 rfl fi_X5_goesOn rfl rfl rfl (by decide) (is_90 hS) (t_X5_goesOn h1 (fun r q => by cases q; rw [e2]; decide)) (by first | decide | omega) rfl rfl (by decide) ?_
      intro M_43 q_43
      refine jw_iload_n (pc := 46) dX5_readOther_46 rfl ?_
      refine jw_ireturn (pc := 47) dX5_readOther_47 rfl (rfl) ?_
      refine ⟨_, rfl, by rw [he]; exact q_43.1, hk0.tr q_43.2, fun r q z1 z2 => ?_⟩
      cases z1
      have z2 : pOther (chI σ n) n i V (mm V) p = .ok q := z2
      rw [hp2] at z2; cases z2; rfl
    · intro h_12
      omega
/-- a place that isn't one of a row -/
theorem t_X5_readOther {i a m L : Nat} {mm : Vt → Nat} (hG : jGs G) (h : mRd M σ n w s) (hna : ∀ M', jWs M' w → jok M' a 0 ∧ jm_N M' a = L) (hm : m ≤ L) (hL9 : L ≤ 16) (hmm : ∀ r, s = .ok r → m = mm r.1)
    (hrow : ∀ M' V, jVm M' w V → ∀ k, k < mm V → jm_A M' a k = nI (V i k)) (hbd : ∀ r, s = .ok r → (∀ k, k < mm r.1 → r.1 i k ≤ 15)) :
    jT G mi_X5_readOther 10 [jr (some 90), jr (some a), .int (nI m)] M (jPi (fun x M' => mRd M' σ n w (sP s (fun V p => pOther (chI σ n) n i V (mm V) p)) ∧ mKp M M' w ∧ sX s (fun V p => pOther (chI σ n) n i V (mm V) p) x)) := by
  have hS := h.S
  have fin : ∀ {f : Fl}, sP s (fun V p => pOther (chI σ n) n i V (mm V) p) = .error f → ∀ x, sX s (fun V p => pOther (chI σ n) n i V (mm V) p) x := fun {f} he x r q q1 q2 => by
    subst q1
    have he : ((pOther (chI σ n) n i r.1 (mm r.1) r.2).bind (fun q => Except.ok (r.1, q.2)) : Except Fl (Vt × Nat)) = .error f := he
    have q2 : pOther (chI σ n) n i r.1 (mm r.1) r.2 = .ok q := q2
    rw [q2] at he; cases he
  -- behind a fault
  have LE : ∀ (f : Fl) (x : Int32) (M1 : Mm), sP s (fun V p => pOther (chI σ n) n i V (mm V) p) = .error f → mRd M1 σ n w (.error f) → mKp M M1 w → ∀ k : Nat, k ≤ m → jW G mi_X5_readOther 10 M 9 [some (jr (some 90)), some (jr (some a)), some (.int (nI m)), some (.int x), some (.int (nI k))] [] M1 (jPi (fun x M' => mRd M' σ n w (sP s (fun V p => pOther (chI σ n) n i V (mm V) p)) ∧ mKp M M' w ∧ sX s (fun V p => pOther (chI σ n) n i V (mm V) p) x)) := by
    intro f x M1 he h1 hk
    have hS := h1.S
    refine jW.loop _ (fun k => m - k) _ (fun _ => []) (fun _ => M1) (fun k hk9 ih => ?_)
    by_cases hkn : k < m
    ·
      refine jw_iload (pc := 9) dX5_readOther_9 rfl ?_
      refine jw_iload_n (pc := 11) dX5_readOther_11 rfl ?_
      first | refine jx_icmp_ge (pc := 12) (tgt := 42) dX5_readOther_12 (by decide) (by omega) (by omega) ?_ ?_ | refine jw_icmp_ge (pc := 12) (tgt := 42) dX5_readOther_12 (by decide) ?_ ?_
      · intro h_12
        omega
      · intro h_12
        refine jw_aload_n (pc := 15) dX5_readOther_15 rfl ?_
        refine jx_getIs (pc := 16) (jf_X5_85_4.r) rfl dX5_readOther_16 rfl (is_90 hS) (by decide) (h1.2.1) ?_
        refine jw_iconst (pc := 19) dX5_readOther_19 ic_5 ?_
        first | refine jx_icmp_eq (pc := 20) (tgt := 36) dX5_readOther_20 (by decide) (by omega) (by omega) ?_ ?_ | refine jw_icmp_eq (pc := 20) (tgt := 36) dX5_readOther_20 (by decide) ?_ ?_
        · intro h_20
          first | refine jx_iinc (pc := 36) dX5_readOther_36 rfl rfl ?_ | refine jw_iinc (pc := 36) dX5_readOther_36 rfl rfl rfl ?_
          try dsimp only [jput1, jkill, jclr, jis2_i, jis2_l, jis2_rs, jis2_rn, cond]
          refine jw_goto (pc := 39) (tgt := 9) dX5_readOther_39 (by decide) ?_
          exact ih (k + 1) hkn (by omega)
        · intro h_20
          exact absurd rfl h_20
    · have hk' : k = m := by omega
      subst hk'
      refine jw_iload (pc := 9) dX5_readOther_9 rfl ?_
      refine jw_iload_n (pc := 11) dX5_readOther_11 rfl ?_
      first | refine jx_icmp_ge (pc := 12) (tgt := 42) dX5_readOther_12 (by decide) (by omega) (by omega) ?_ ?_ | refine jw_icmp_ge (pc := 12) (tgt := 42) dX5_readOther_12 (by decide) ?_ ?_
      · intro h_12
        refine jw_aload_n (pc := 42) dX5_readOther_42 rfl ?_
        refine jx_cVv (mi1 := mi_X5_goesOn) (pc := 43) rfl dX5_readOther_43 lk_X5_128 rfl fi_X5_goesOn rfl rfl rfl (by decide) (is_90 hS) (t_X5_goesOn h1 (fun r q => by cases q)) (by first | decide | omega) rfl rfl (by decide) ?_
        intro M_43 q_43
        refine jw_iload_n (pc := 46) dX5_readOther_46 rfl ?_
        refine jw_ireturn (pc := 47) dX5_readOther_47 rfl (rfl) ?_
        exact ⟨_, rfl, by rw [he]; exact q_43.1, hk.tr q_43.2, fin he _⟩
      · intro h_12
        omega
  refine jT.of (by decide) rfl (Nat.le_of_ble_eq_true rfl) ?_
  refine jw_aload_n (pc := 0) dX5_readOther_0 rfl ?_
  refine jw_iconst (pc := 1) dX5_readOther_1 ic_0 ?_
  refine jx_cVi (mi1 := mi_X5_known) (pc := 2) rfl dX5_readOther_2 lk_X5_196 rfl fi_X5_known rfl rfl rfl (by decide) (is_90 hS) (t_X5_known hG h (sort := 0) (by decide)) (by first | decide | omega) rfl rfl (by decide) ?_
  intro x_2 M_2 q_2
  refine jw_istore_n (pc := 5) dX5_readOther_5 (Nat.le_of_ble_eq_true rfl) rfl ?_
  try dsimp only [jput1, jput2, jkill, jclr, jis2_i, jis2_l, jis2_rs, jis2_rn, cond]
  refine jw_iconst (pc := 6) dX5_readOther_6 ic_0 ?_
  refine jw_istore (pc := 7) dX5_readOther_7 (Nat.le_of_ble_eq_true rfl) rfl ?_
  try dsimp only [jput1, jput2, jkill, jclr, jis2_i, jis2_l, jis2_rs, jis2_rn, cond]
  cases h3 : sKn (chI σ n) n 0 s with
  | error f =>
    have h1 := q_2.1
    rw [h3] at h1
    refine LE f _ _ ?_ h1 q_2.2.1 0 (Nat.zero_le _)
    cases s with
    | error g => exact h3
    | ok r =>
      have h3 : ((pKnown (chI σ n) n 0 r.1 r.2).bind (fun _ => Except.ok r) : Except Fl (Vt × Nat)) = .error f := h3
      show ((pOther (chI σ n) n i r.1 (mm r.1) r.2).bind _ : Except Fl (Vt × Nat)) = _
      unfold pOther
      cases hp : pKnown (chI σ n) n 0 r.1 r.2 with
      | error g => rw [hp] at h3; exact h3
      | ok g => rw [hp] at h3; cases h3
  | ok r3 =>
    obtain ⟨V, p⟩ := r3
    obtain ⟨e1, e2, av, e3⟩ := sKn_2 h3
    dsimp only at e2 e3
    have h1 := q_2.1
    rw [h3] at h1
    have hx := q_2.2.2 _ _ e1 e3
    subst hx
    obtain ⟨hB, hp, hGp, hF, hV, hN, hL, hv⟩ := id h1
    have hr := hrow _ V hV
    have hm2 := hmm _ e1
    have hb2 := hbd _ e1
    dsimp only at hm2 hb2
    have hav : av ≤ 15 := by
      unfold pKnown at e3
      cases hq : pName (chI σ n) n p with
      | error f => rw [hq] at e3; cases e3
      | ok u =>
        rw [hq] at e3
        have e3 : (if nmF V u < V 0 13 ∧ V 26 (nmF V u) = 0 then Except.ok (V 27 (nmF V u)) else .error (2, tkA (chI σ n) n p) : Except Fl Nat) = .ok av := e3
        by_cases z : nmF V u < V 0 13 ∧ V 26 (nmF V u) = 0
        · rw [if_pos z] at e3; cases e3; exact (hv.2 _ z.1).2.2
        · rw [if_neg z] at e3; cases e3
    obtain ⟨ka, na⟩ := hna _ hV.1
    have hgs : srt (tkK (chI σ n) n p) < 5 := srt_lt
    have hpo : pOther (chI σ n) n i V (mm V) p = (if anyB (mm V) (fun k => decide (V i k = av)) = true then .error (3, tkA (chI σ n) n p) else .ok (av, tkE (chI σ n) n p)) := by
      unfold pOther; rw [e3]; rfl
    have J : ∀ k : Nat, (k ≤ m ∧ ∀ j, j < k → ¬ V i j = av) → jW G mi_X5_readOther 10 M 9 [some (jr (some 90)), some (jr (some a)), some (.int (nI m)), some (.int (nI av)), some (.int (nI k))] [] M_2 (jPi (fun x M' => mRd M' σ n w (sP s (fun V p => pOther (chI σ n) n i V (mm V) p)) ∧ mKp M M' w ∧ sX s (fun V p => pOther (chI σ n) n i V (mm V) p) x)) := by
      refine jW.loop _ (fun k => m - k) _ (fun _ => []) (fun _ => M_2) (fun k hI ih => ?_)
      obtain ⟨hk9, h0⟩ := hI
      exact lp_other h1 q_2.2.1 e1 e2 hpo hr hb2 hav ka na hm hL9 hm2 hk9 h0 (fun q => ih (k + 1) q (by omega)) (fun M1 z1 z2 z3 => LE _ _ M1 z1 z2 z3)
    exact J 0 ⟨Nat.zero_le _, fun j hj => absurd hj (Nat.not_lt_zero _)⟩
end JM5
