/-! ===== m reads: words, signs, numbers ===== -/
def jTk (M : Mm) : Prop := ∀ i, 1 ≤ i → i ≤ 20 → jTx M (2 * i) (kwc i)
theorem jTk.fr {E : Nat → Prop} {M M1 : Mm} (h : jTk M) (g : jsm E M M1) (hE : ∀ a, E a → a ≠ 62 → a < jm_Z M → jm_K M a ≠ 14 ∧ jm_K M a ≠ 101) : jTk M1 := fun i h1 h2 => (h i h1 h2).fr g hE
/-- the counts of m's valley, whatever is read -/
def wCn : List (Nat × Nat) := [(132, 10), (136, 5), (138, 5), (133, 10), (134, 16), (135, 4), (137, 3), (139, 4), (140, 15)]
def jNm (M : Mm) (w : Nat) (V : Vt) : Prop := jm_I M w 140 = nI (V 0 13) ∧ ∀ k, k < V 0 13 → jm_B M (w + 22) k = lN (V 25 k) ∧ jm_A M (w + 23) k = nI (V 26 k) ∧ jm_A M (w + 24) k = nI (V 27 k)
/-- what is always so while m reads -/
def mBs (M : Mm) (σ : Sg) (n w : Nat) : Prop := jSh M ∧ (∀ k, k < 900 → jm_A M 91 k = sb σ 0 k) ∧ jTk M ∧ n ≤ 900 ∧ jm_I M 90 56 = nI n ∧ jm_R M 90 53 = some w ∧ jWs M w ∧ ∀ q ∈ wCn, ∃ m, m ≤ q.2 ∧ jm_I M w q.1 = nI m
/-- names are short words' codes -/
def vNm (V : Vt) : Prop := V 0 13 ≤ 15 ∧ ∀ k, k < V 0 13 → V 25 k < 2 ^ 40 ∧ V 26 k ≤ 1 ∧ V 27 k ≤ 15
def mLv (M : Mm) (σ : Sg) (n w : Nat) (V : Vt) (p : Nat) : Prop := p ≤ n ∧ jGp M σ n p ∧ jm_I M 90 62 = nI 0 ∧ jVm M w V ∧ jNm M w V ∧ jm_I M w 126 = jb (decide (V 0 12 ≠ 0)) ∧ vNm V
def mOv (M : Mm) (f : Fl) : Prop := jm_I M 90 58 = nI 5 ∧ jm_I M 90 62 = nI f.1 ∧ jm_I M 90 63 = nI f.2 ∧ 1 ≤ f.1 ∧ f.1 ≤ 6
def mRd (M : Mm) (σ : Sg) (n w : Nat) (s : Except Fl (Vt × Nat)) : Prop := mBs M σ n w ∧ match s with
  | .ok (V, p) => mLv M σ n w V p
  | .error f => mOv M f
abbrev mE (w a : Nat) : Prop := a = 90 ∨ (w ≤ a ∧ a ≤ w + 24)
/-- what m's reading leaves -/
def mKp (M M1 : Mm) (w : Nat) : Prop := jsm (mE w) M M1 ∧ (∀ j, j < 56 ∨ 63 < j → jm_I M1 90 j = jm_I M 90 j) ∧ (∀ j, jm_R M1 90 j = jm_R M 90 j)
theorem mKp.rf {M : Mm} {w : Nat} : mKp M M w := ⟨jsm.rf, fun _ _ => rfl, fun _ => rfl⟩
theorem mKp.tr {M M1 M2 : Mm} {w : Nat} (h : mKp M M1 w) (g : mKp M1 M2 w) : mKp M M2 w := ⟨h.1.tr g.1, fun j hj => (g.2.1 j hj).trans (h.2.1 j hj), fun j => (g.2.2 j).trans (h.2.2 j)⟩
theorem gKp.m {M M1 : Mm} {w : Nat} (h : gKp M M1) : mKp M M1 w := ⟨h.1.wk (fun a q => Or.inl q), fun j hj => h.2.1 j (by omega), h.2.2.1⟩
theorem mKp.I {M : Mm} {w k : Nat} {x : Int32} (h1 : 56 ≤ k) (h2 : k ≤ 63) : mKp M (js_I M 90 k x) w := ⟨jsm.I (Or.inl rfl), fun j hj => by rw [jI_I, if_neg (by omega)], fun _ => rfl⟩
/-- and of a line -/
def mKq (M M1 : Mm) (w : Nat) : Prop := jsm (mE w) M M1 ∧ (∀ j, j < 56 ∨ 65 < j → jm_I M1 90 j = jm_I M 90 j) ∧ (∀ j, jm_R M1 90 j = jm_R M 90 j)
theorem mKp.q {M M1 : Mm} {w : Nat} (h : mKp M M1 w) : mKq M M1 w := ⟨h.1, fun j hj => h.2.1 j (by omega), h.2.2⟩
theorem mKq.rf {M : Mm} {w : Nat} : mKq M M w := ⟨jsm.rf, fun _ _ => rfl, fun _ => rfl⟩
theorem mKq.tr {M M1 M2 : Mm} {w : Nat} (h : mKq M M1 w) (g : mKq M1 M2 w) : mKq M M2 w := ⟨h.1.tr g.1, fun j hj => (g.2.1 j hj).trans (h.2.1 j hj), fun j => (g.2.2 j).trans (h.2.2 j)⟩
/-- a step of m's own row -/
theorem mBs.k {M M1 : Mm} {σ : Sg} {n w : Nat} (h : mBs M σ n w) (g : gKp M M1) : mBs M1 σ n w := by
  obtain ⟨h1, h2, h3, h4, h5, h6, h7, h8⟩ := h
  have hz := h1.2.2.2
  have h104 := h7.2.1
  have aw := g.1.2.2 w (wis h7).2.1 (by omega)
  refine ⟨g.2.2.2, fun k hk => ?_, h3.fr g.1 (fun a q1 q2 q3 => by subst q1; rw [(is_90 h1).1]; decide), h4, (g.2.1 _ (by decide)).trans h5, (g.2.2.1 _).trans h6, h7.sm g.1 (fun a q1 q2 => by omega), fun q hq => ?_⟩
  · rw [(g.1.2.2 91 (by omega) (by omega)).2.2.2.2.2.1]; exact h2 k hk
  · obtain ⟨m, m1, m2⟩ := h8 q hq
    exact ⟨m, m1, (aw.2.2.1 _).trans m2⟩
theorem jNm.sm {E : Nat → Prop} {M M1 : Mm} {w : Nat} {V : Vt} (h : jNm M w V) (hw : jWs M w) (g : jsm E M M1) (hE : ∀ a, 104 ≤ a → ¬ E a) : jNm M1 w V := by
  have h104 := hw.2.1
  have hz := hw.2.2.1
  have al : ∀ a, w ≤ a → a ≤ w + 24 → jal M M1 a := fun a q1 q2 => g.2.2 a (by omega) (hE a (by omega))
  refine ⟨((al w (Nat.le_refl _) (by omega)).2.2.1 _).trans h.1, fun k hk => ?_⟩
  obtain ⟨b1, b2, b3⟩ := h.2 k hk
  exact ⟨((al (w + 22) (by omega) (by omega)).2.2.2.2.2.2.1 k).trans b1, ((al (w + 23) (by omega) (by omega)).2.2.2.2.2.1 k).trans b2, ((al (w + 24) (by omega) (by omega)).2.2.2.2.2.1 k).trans b3⟩
/-- the states of a chain -/
def sB (s : Except Fl (Vt × Nat)) (f : Vt → Nat → Except Fl Nat) : Except Fl (Vt × Nat) := s.bind (fun r => (f r.1 r.2).bind (fun q => .ok (r.1, q)))
def sP (s : Except Fl (Vt × Nat)) (f : Vt → Nat → Except Fl (Nat × Nat)) : Except Fl (Vt × Nat) := s.bind (fun r => (f r.1 r.2).bind (fun q => .ok (r.1, q.2)))
/-- x is the number that was read -/
def sX (s : Except Fl (Vt × Nat)) (f : Vt → Nat → Except Fl (Nat × Nat)) (x : Int32) : Prop := ∀ r q, s = .ok r → f r.1 r.2 = .ok q → x = nI q.1
def sW (c : Nat → Int32) (n : Nat) (s : Except Fl (Vt × Nat)) (w : Nat) : Bool := match s with
  | .ok r => decide (tkK c n r.2 = 2) && decide (tkV c n r.2 = w)
  | .error _ => false
theorem tkV_40 {σ : Sg} {n p : Nat} (h : tkK (chI σ n) n p = 2) : tkV (chI σ n) n p < 2 ^ 40 := by
  have h9 : ¬ chI σ n (tkA (chI σ n) n p) = -1 := fun q => by unfold tkK at h; rw [if_pos q] at h; cases h
  have h8 : smlB (chI σ n (tkA (chI σ n) n p)) = true := Classical.byContradiction (fun q => by
    unfold tkK at h; rw [if_neg h9, if_neg q] at h
    split at h
    · split at h <;> omega
    · split at h
      · omega
      · split at h <;> omega)
  have hk : tkE (chI σ n) n p - tkA (chI σ n) n p ≤ 8 := Classical.byContradiction (fun q => by
    unfold tkK at h; rw [if_neg h9, if_pos h8, if_neg q] at h; omega)
  have e : tkE (chI σ n) n p = nxtN (chI σ n) n (tkA (chI σ n) n p) (fun x => !smlB x) := by unfold tkE; rw [if_neg h9, if_pos h8]
  have hl : ∀ i, i < tkE (chI σ n) n p - tkA (chI σ n) n p → cNt (chI σ n (tkA (chI σ n) n p + i)) - 96 < 32 := fun i hi => by
    have hd : smlB (chI σ n (tkA (chI σ n) n p + i)) = true := Classical.byContradiction (fun q => by
      have := nxt_fst (c := chI σ n) (n := n) (p := tkA (chI σ n) n p) (P := fun x => !smlB x) (j := tkA (chI σ n) n p + i) (Nat.le_add_right _ _) (by rw [← e]; omega)
      rw [Bool.not_eq_true] at q
      rw [q] at this; cases this)
    have := sml_n hd
    omega
  unfold tkV; rw [if_pos h8]
  exact Nat.lt_of_lt_of_le (codeN_lt (B := 32) (n := tkE (chI σ n) n p - tkA (chI σ n) n p) hl) (Nat.le_trans (Nat.pow_le_pow_right (by decide) hk) (by decide))
theorem txc_40 {f : Nat → Nat} {k : Nat} (h : txl f k) : txc f k < 2 ^ 40 := by
  have := codeN_lt (B := 32) (n := k) (f := fun i => f i - 96) (fun i hi => by have := h.2 i hi; omega)
  exact Nat.lt_of_lt_of_le this (Nat.le_trans (Nat.pow_le_pow_right (by decide) h.1) (by decide))
theorem jTx.lt {M : Mm} {o c : Nat} (h : jTx M o c) : c < 2 ^ 40 := by
  obtain ⟨f, k, h1, h2, -⟩ := h
  rw [← h2]; exact txc_40 h1
theorem cmp_0 {x y : Int64} : lg_cmp x y = 0 ↔ x = y := by
  unfold lg_cmp
  by_cases h1 : x > y
  · rw [if_pos h1]
    refine ⟨fun q => absurd q (by decide), fun q => ?_⟩
    subst q
    exact absurd (Int64.lt_iff_toInt_lt.mp h1) (by omega)
  · rw [if_neg h1]
    by_cases h2 : x = y
    · rw [if_pos h2]; exact ⟨fun _ => h2, fun _ => rfl⟩
    · rw [if_neg h2]; exact ⟨fun q => absurd q (by decide), fun q => absurd q h2⟩
theorem srt_2 {k : Nat} : srt k = 2 ↔ k = 2 := by
  unfold srt; split
  · omega
  · split
    · omega
    · split <;> omega
theorem srt_3 {k : Nat} : srt k = 3 ↔ k = 3 := by
  unfold srt; split
  · omega
  · split
    · omega
    · split <;> omega
theorem srt_1 {k : Nat} : srt k = 1 ↔ k = 0 := by
  unfold srt; split
  · omega
  · split
    · omega
    · split <;> omega
theorem srt_4 {k : Nat} : srt k = 4 ↔ 3 < k := by
  unfold srt; split
  · omega
  · split
    · omega
    · split <;> omega
theorem srt_lt {k : Nat} : srt k < 5 := by
  unfold srt; split
  · omega
  · split
    · omega
    · split <;> omega
section JMR
variable {G : Gh} {M : Mm} {σ : Sg} {n w : Nat} {s : Except Fl (Vt × Nat)}
/-- one step on, or none -/
theorem t_X5_goesOn (h : mRd M σ n w s) (hb : ∀ r, s = .ok r → tkK (chI σ n) n r.2 ≠ 1) : jT G mi_X5_goesOn 4 [jr (some 90)] M (jPv (fun M' => mRd M' σ n w (sB s (fun _ p => .ok (tkE (chI σ n) n p))) ∧ mKp M M' w)) := by
  cases s with
  | error f =>
    obtain ⟨hB, hO⟩ := h
    exact (t_X5_goesOn5 hB.1 hO.1).mono (fun r M' q => ⟨q.1, by rw [q.2]; exact ⟨⟨hB, hO⟩, mKp.rf⟩⟩)
  | ok r =>
    obtain ⟨V, p⟩ := r
    obtain ⟨hB, hp, hG, hF, hV, hN, hL, hv⟩ := h
    have hz := hB.1.2.2.2
    have h104 := hB.2.2.2.2.2.2.1.2.1
    have hk := hb (V, p) rfl
    refine (t_X5_goesOn1 (σ := σ) hB.1 hB.2.1 hB.2.2.2.2.1 (hG.1 hk) hG.2.1 (by have := @srt_lt (tkK (chI σ n) n p); omega) (by have := @srt_lt (tkK (chI σ n) n p); omega) tkE_le hB.2.2.2.1).mono (fun r M' q => ⟨q.1, ⟨hB.k q.2.2, tkE_le, q.2.1, (q.2.2.2.1 _ (by decide)).trans hF, hV.sm q.2.2.1 (fun a q1 q2 => by omega), hN.sm hV.1 q.2.2.1 (fun a q1 q2 => by omega), ?_, hv⟩, q.2.2.m⟩)
    exact ((q.2.2.1.2.2 w (wis hV.1).2.1 (by omega)).2.2.1 _).trans hL
/-- the first fault -/
theorem t_X5_wrong {k : Nat} (h : mRd M σ n w s) (hk : 1 ≤ k ∧ k ≤ 6) : jT G mi_X5_wrong 1 [jr (some 90), .int (nI k)] M (jPv (fun M' => mRd M' σ n w (s.bind (fun r => .error (k, tkA (chI σ n) n r.2))) ∧ mKp M M' w)) := by
  cases s with
  | error f =>
    obtain ⟨hB, hO⟩ := h
    have hS := hB.1
    refine jT.of (by decide) rfl (Nat.le_of_ble_eq_true rfl) ?_
    refine jw_aload_n (pc := 0) dX5_wrong_0 rfl ?_
    refine jx_getIs (pc := 1) (jf_X5_85_4.r) rfl dX5_wrong_1 rfl (is_90 hS) (by decide) (hO.1) ?_
    refine jw_iconst (pc := 4) dX5_wrong_4 ic_5 ?_
    first | refine jx_icmp_ne (pc := 5) (tgt := 9) dX5_wrong_5 (by decide) (by omega) (by omega) ?_ ?_ | refine jw_icmp_ne (pc := 5) (tgt := 9) dX5_wrong_5 (by decide) ?_ ?_
    · intro h_5
      exact absurd rfl h_5
    · intro h_5
      refine jw_return (pc := 8) dX5_wrong_8 rfl ?_
      exact ⟨rfl, ⟨hB, hO⟩, mKp.rf⟩
  | ok r =>
    obtain ⟨V, p⟩ := r
    obtain ⟨hB, hp, hG, hF, hV, hN, hL, hv⟩ := h
    have hS := hB.1
    have hs5 := @srt_lt (tkK (chI σ n) n p)
    have hA := tkA_le (σ := σ) (n := n) (p := p)
    have hn9 := hB.2.2.2.1
    refine jT.of (by decide) rfl (Nat.le_of_ble_eq_true rfl) ?_
    refine jw_aload_n (pc := 0) dX5_wrong_0 rfl ?_
    refine jx_getIs (pc := 1) (jf_X5_85_4.r) rfl dX5_wrong_1 rfl (is_90 hS) (by decide) (hG.2.1) ?_
    refine jw_iconst (pc := 4) dX5_wrong_4 ic_5 ?_
    first | refine jx_icmp_ne (pc := 5) (tgt := 9) dX5_wrong_5 (by decide) (by omega) (by omega) ?_ ?_ | refine jw_icmp_ne (pc := 5) (tgt := 9) dX5_wrong_5 (by decide) ?_ ?_
    · intro h_5
      refine jw_aload_n (pc := 9) dX5_wrong_9 rfl ?_
      refine jw_iload_n (pc := 10) dX5_wrong_10 rfl ?_
      refine jx_putI (pc := 11) jf_X5_114_4 rfl dX5_wrong_11 rfl rfl (is_90 hS) (by decide) ?_
      refine jw_aload_n (pc := 14) dX5_wrong_14 rfl ?_
      refine jw_aload_n (pc := 15) dX5_wrong_15 rfl ?_
      refine jx_getIs (pc := 16) (jf_X5_94_4.r) rfl dX5_wrong_16 rfl (is_90 hS) (by decide) (hG.2.2.1) ?_
      refine jx_putI (pc := 19) jf_X5_117_4 rfl dX5_wrong_19 rfl rfl (is_90 hS) (by decide) ?_
      refine jw_aload_n (pc := 22) dX5_wrong_22 rfl ?_
      refine jw_iconst (pc := 23) dX5_wrong_23 ic_5 ?_
      refine jx_putI (pc := 24) jf_X5_85_4 rfl dX5_wrong_24 rfl rfl (is_90 hS) (by decide) ?_
      refine jw_return (pc := 27) dX5_wrong_27 rfl ?_
      refine ⟨rfl, ⟨?_, rfl, rfl, rfl, hk⟩, ?_⟩
      · obtain ⟨b1, b2, b3, b4, b5, b6, b7, b8⟩ := hB
        have h104 := b7.2.1
        have g : jsm (fun a => a = 90) M (js_I (js_I (js_I M 90 62 (nI k)) 90 63 (nI (tkA (chI σ n) n p))) 90 58 (nI 5)) := ((jsm.I (E := fun a => a = 90) rfl).tr (jsm.I (E := fun a => a = 90) rfl)).tr (jsm.I (E := fun a => a = 90) rfl)
        have aw := g.2.2 w (wis b7).2.1 (by omega)
        refine ⟨b1, b2, b3.fr g (fun a q1 q2 q3 => by subst q1; rw [(is_90 b1).1]; decide), b4, b5, b6, b7.sm g (fun a q1 q2 => by omega), fun q hq => ?_⟩
        obtain ⟨m, m1, m2⟩ := b8 q hq
        exact ⟨m, m1, (aw.2.2.1 _).trans m2⟩
      · exact ((mKp.I (by decide) (by decide)).tr (mKp.I (by decide) (by decide))).tr (mKp.I (by decide) (by decide))
    · intro h_5
      omega
theorem t_X5_isWord {o c : Nat} (hG : jGs G) (h : mRd M σ n w s) (hT : jTx M o c) : jE G mi_X5_isWord 7 [jr (some 90), jr (some o)] M (some (.int (jb (sW (chI σ n) n s c)))) M := by
  have hc := hT.lt
  cases s with
  | error f =>
    obtain ⟨hB, hO⟩ := h
    have hS := hB.1
    refine jE.of (by decide) rfl (Nat.le_of_ble_eq_true rfl) ?_
    refine jw_aload_n (pc := 0) dX5_isWord_0 rfl ?_
    refine jx_getIs (pc := 1) (jf_X5_85_4.r) rfl dX5_isWord_1 rfl (is_90 hS) (by decide) (hO.1) ?_
    refine jw_iconst (pc := 4) dX5_isWord_4 ic_2 ?_
    first | refine jx_icmp_ne (pc := 5) (tgt := 24) dX5_isWord_5 (by decide) (by omega) (by omega) ?_ ?_ | refine jw_icmp_ne (pc := 5) (tgt := 24) dX5_isWord_5 (by decide) ?_ ?_
    · intro h_5
      refine jw_iconst (pc := 24) dX5_isWord_24 ic_0 ?_
      refine jw_ireturn (pc := 25) dX5_isWord_25 rfl (by first | exact jnar_b _ | exact jnar_0 | exact jnar_1 | decide +kernel) ?_
      exact ⟨rfl, rfl⟩
    · intro h_5
      exact absurd h_5 (by decide)
  | ok r =>
    obtain ⟨V, p⟩ := r
    obtain ⟨hB, hp, hG9, hF, hV, hN, hL, hv⟩ := h
    have hS := hB.1
    have hs5 := @srt_lt (tkK (chI σ n) n p)
    by_cases h2 : tkK (chI σ n) n p = 2
    · have hw := hG9.2.2.2.2.2 h2
      have hw4 := tkV_40 h2
      have hs2 : srt (tkK (chI σ n) n p) = 2 := srt_2.mpr h2
      refine jE.of (by decide) rfl (Nat.le_of_ble_eq_true rfl) ?_
      refine jw_aload_n (pc := 0) dX5_isWord_0 rfl ?_
      refine jx_getIs (pc := 1) (jf_X5_85_4.r) rfl dX5_isWord_1 rfl (is_90 hS) (by decide) (hG9.2.1) ?_
      refine jw_iconst (pc := 4) dX5_isWord_4 ic_2 ?_
      first | refine jx_icmp_ne (pc := 5) (tgt := 24) dX5_isWord_5 (by decide) (by omega) (by omega) ?_ ?_ | refine jw_icmp_ne (pc := 5) (tgt := 24) dX5_isWord_5 (by decide) ?_ ?_
      · intro h_5
        exact absurd hs2 h_5
      · intro h_5
        refine jw_aload_n (pc := 8) dX5_isWord_8 rfl ?_
        refine jx_getLs (pc := 9) (jf_X5_104_4.r) rfl dX5_isWord_9 rfl (is_90 hS) (by decide) (hw) ?_
        refine jw_aload_n (pc := 12) dX5_isWord_12 rfl ?_
        refine jx_cSE (mi1 := mi_X5_wordOf) (pc := 13) rfl dX5_isWord_13 lk_X5_120 rfl fi_X5_wordOf (t_X5_wordOf hG hT) (by first | decide | omega) rfl rfl (by simp only [List.map_cons, List.map_nil, List.sum_cons, List.sum_nil, Value.category]; decide) ?_
        refine jw_lcmp (pc := 16) dX5_isWord_16 ?_
        refine jw_if_ne (pc := 17) (tgt := 24) dX5_isWord_17 (by decide) ?_ ?_
        · intro h_17
          refine jw_iconst (pc := 24) dX5_isWord_24 ic_0 ?_
          refine jw_ireturn (pc := 25) dX5_isWord_25 rfl (by first | exact jnar_b _ | exact jnar_0 | exact jnar_1 | decide +kernel) ?_
          refine ⟨jret_f ?_, rfl⟩
          show (decide (tkK (chI σ n) n p = 2) && decide (tkV (chI σ n) n p = c)) = false
          have hne : ¬ tkV (chI σ n) n p = c := fun q => h_17 (cmp_0.mpr (by rw [q]))
          rw [decide_eq_false hne, Bool.and_false]
        · intro h_17
          refine jw_iconst (pc := 20) dX5_isWord_20 ic_1 ?_
          refine jw_goto (pc := 21) (tgt := 25) dX5_isWord_21 (by decide) ?_
          refine jw_ireturn (pc := 25) dX5_isWord_25 rfl (by first | exact jnar_b _ | exact jnar_0 | exact jnar_1 | decide +kernel) ?_
          refine ⟨jret_t ?_, rfl⟩
          show (decide (tkK (chI σ n) n p = 2) && decide (tkV (chI σ n) n p = c)) = true
          rw [decide_eq_true h2, decide_eq_true ((pk_lEQ (by omega) (by omega)).mp (cmp_0.mp h_17))]; rfl
    · have hs2 : ¬ srt (tkK (chI σ n) n p) = 2 := fun q => h2 (srt_2.mp q)
      have he : sW (chI σ n) n (.ok (V, p)) c = false := by
        show (decide (tkK (chI σ n) n p = 2) && decide (tkV (chI σ n) n p = c)) = false
        rw [decide_eq_false h2, Bool.false_and]
      refine jE.of (by decide) rfl (Nat.le_of_ble_eq_true rfl) ?_
      refine jw_aload_n (pc := 0) dX5_isWord_0 rfl ?_
      refine jx_getIs (pc := 1) (jf_X5_85_4.r) rfl dX5_isWord_1 rfl (is_90 hS) (by decide) (hG9.2.1) ?_
      refine jw_iconst (pc := 4) dX5_isWord_4 ic_2 ?_
      first | refine jx_icmp_ne (pc := 5) (tgt := 24) dX5_isWord_5 (by decide) (by omega) (by omega) ?_ ?_ | refine jw_icmp_ne (pc := 5) (tgt := 24) dX5_isWord_5 (by decide) ?_ ?_
      · intro h_5
        refine jw_iconst (pc := 24) dX5_isWord_24 ic_0 ?_
        refine jw_ireturn (pc := 25) dX5_isWord_25 rfl (by first | exact jnar_b _ | exact jnar_0 | exact jnar_1 | decide +kernel) ?_
        refine ⟨jret_f ?_, rfl⟩
        exact he
      · intro h_5
        exact absurd h_5 hs2
theorem sW_t {c : Nat → Int32} {n k : Nat} {s : Except Fl (Vt × Nat)} (h : sW c n s k = true) : ∃ V p, s = .ok (V, p) ∧ tkK c n p = 2 ∧ tkV c n p = k := by
  cases s with
  | error f => cases h
  | ok r =>
    obtain ⟨V, p⟩ := r
    have h : (decide (tkK c n p = 2) && decide (tkV c n p = k)) = true := h
    rw [Bool.and_eq_true] at h
    exact ⟨V, p, rfl, of_decide_eq_true h.1, of_decide_eq_true h.2⟩
theorem sW_f {c : Nat → Int32} {n k p : Nat} {V : Vt} (h : sW c n (.ok (V, p)) k = false) : ¬ (tkK c n p = 2 ∧ tkV c n p = k) := fun q => by
  have h : (decide (tkK c n p = 2) && decide (tkV c n p = k)) = false := h
  rw [decide_eq_true q.1, decide_eq_true q.2] at h; cases h
theorem t_X5_must {o c : Nat} (hG : jGs G) (h : mRd M σ n w s) (hT : jTx M o c) : jT G mi_X5_must 8 [jr (some 90), jr (some o)] M (jPv (fun M' => mRd M' σ n w (sB s (fun _ p => pMust (chI σ n) n c p)) ∧ mKp M M' w)) := by
  have hS := h.1.1
  refine jT.of (by decide) rfl (Nat.le_of_ble_eq_true rfl) ?_
  cases hw : sW (chI σ n) n s c with
  | true =>
    obtain ⟨V, p, hs, h2, h3⟩ := sW_t hw
    subst hs
    refine jw_aload_n (pc := 0) dX5_must_0 rfl ?_
    refine jw_aload_n (pc := 1) dX5_must_1 rfl ?_
    refine jx_cVE (mi1 := mi_X5_isWord) (pc := 2) rfl dX5_must_2 lk_X5_124 rfl fi_X5_isWord rfl rfl rfl (by decide) (is_90 hS) (t_X5_isWord hG h hT) (by first | decide | omega) rfl rfl (by decide) ?_
    rw [hw]
    first | refine jx_ifb_ne (pc := 5) (tgt := 13) dX5_must_5 (by decide) ?_ ?_ | refine jx_if_ne (pc := 5) (tgt := 13) dX5_must_5 (by decide) (by omega) ?_ ?_ | refine jw_if_ne (pc := 5) (tgt := 13) dX5_must_5 (by decide) ?_ ?_
    · intro h_5
      refine jw_aload_n (pc := 13) dX5_must_13 rfl ?_
      refine jx_cVv (mi1 := mi_X5_goesOn) (pc := 14) rfl dX5_must_14 lk_X5_128 rfl fi_X5_goesOn rfl rfl rfl (by decide) (is_90 hS) (t_X5_goesOn h (fun r q => by cases q; rw [h2]; decide)) (by first | decide | omega) rfl rfl (by decide) ?_
      intro M_14 q_14
      refine jw_return (pc := 17) dX5_must_17 rfl ?_
      refine ⟨rfl, ?_, q_14.2⟩
      have e : sB (.ok (V, p)) (fun _ p => pMust (chI σ n) n c p) = sB (.ok (V, p)) (fun _ p => .ok (tkE (chI σ n) n p)) := by
        show ((pMust (chI σ n) n c p).bind _ : Except Fl (Vt × Nat)) = _
        unfold pMust; rw [if_pos ⟨h2, h3⟩]; rfl
      rw [e]; exact q_14.1
    · intro h_5
      first | cases h_5 | exact absurd h_5 (by decide)
  | false =>
    refine jw_aload_n (pc := 0) dX5_must_0 rfl ?_
    refine jw_aload_n (pc := 1) dX5_must_1 rfl ?_
    refine jx_cVE (mi1 := mi_X5_isWord) (pc := 2) rfl dX5_must_2 lk_X5_124 rfl fi_X5_isWord rfl rfl rfl (by decide) (is_90 hS) (t_X5_isWord hG h hT) (by first | decide | omega) rfl rfl (by decide) ?_
    rw [hw]
    first | refine jx_ifb_ne (pc := 5) (tgt := 13) dX5_must_5 (by decide) ?_ ?_ | refine jx_if_ne (pc := 5) (tgt := 13) dX5_must_5 (by decide) (by omega) ?_ ?_ | refine jw_if_ne (pc := 5) (tgt := 13) dX5_must_5 (by decide) ?_ ?_
    · intro h_5
      first | cases h_5 | exact absurd h_5 (by decide)
    · intro h_5
      refine jw_aload_n (pc := 8) dX5_must_8 rfl ?_
      refine jw_iconst (pc := 9) dX5_must_9 ic_1 ?_
      refine jx_cVv (mi1 := mi_X5_wrong) (pc := 10) rfl dX5_must_10 lk_X5_131 rfl fi_X5_wrong rfl rfl rfl (by decide) (is_90 hS) (t_X5_wrong h (by decide)) (by first | decide | omega) rfl rfl (by decide) ?_
      intro M_10 q_10
      have hS := q_10.1.1.1
      refine jw_aload_n (pc := 13) dX5_must_13 rfl ?_
      refine jx_cVv (mi1 := mi_X5_goesOn) (pc := 14) rfl dX5_must_14 lk_X5_128 rfl fi_X5_goesOn rfl rfl rfl (by decide) (is_90 hS) (t_X5_goesOn q_10.1 (fun r q => by cases s <;> cases q)) (by first | decide | omega) rfl rfl (by decide) ?_
      intro M_14 q_14
      refine jw_return (pc := 17) dX5_must_17 rfl ?_
      refine ⟨rfl, ?_, q_10.2.tr q_14.2⟩
      have e : sB s (fun _ p => pMust (chI σ n) n c p) = sB (s.bind (fun r => .error (1, tkA (chI σ n) n r.2))) (fun _ p => .ok (tkE (chI σ n) n p)) := by
        cases s with
        | error f => rfl
        | ok r =>
          obtain ⟨V, p⟩ := r
          show ((pMust (chI σ n) n c p).bind _ : Except Fl (Vt × Nat)) = _
          unfold pMust; rw [if_neg (sW_f hw)]; rfl
      rw [e]; exact q_14.1
end JMR
