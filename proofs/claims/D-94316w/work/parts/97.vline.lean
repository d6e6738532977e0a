/-! ===== a line keeps what holds, and goes on ===== -/
section VLN
variable {σ : Sg} {n p : Nat} {V : Vt}
theorem le2 {a : Nat} (h : p ≤ n) (e : a = tkE (chI σ n) n p) : p ≤ a ∧ a ≤ n := by subst e; exact ⟨tkE_p h, tkE_le⟩
theorem inb_v {m a b : Nat} (h : inb (nI m) (nI a) (nI b) = true ∧ m < 1000) (ha : a < 2 ^ 31) (hb : b < 2 ^ 31) : a ≤ m ∧ m ≤ b := inb_le (by omega) ha hb h.1
theorem pNum_lt {lo hi : Int32} {q : Nat × Nat} (h : pNum (chI σ n) n lo hi p = .ok q) : inb (nI q.1) lo hi = true ∧ q.1 < 1000 := by
  obtain ⟨a, b, e⟩ := pNum_in h
  exact ⟨a, by rw [e]; exact tkV_lt b⟩
theorem after2 {w : Nat} {lo hi : Int32} {q : Nat × Nat} (hp : p ≤ n) (h : pAfter (chI σ n) n w lo hi p = .ok q) : p ≤ q.2 ∧ q.2 ≤ n := by
  have e := pAfter_ok h
  have h1 := tkE_p (σ := σ) hp
  have h2 := tkE_p (σ := σ) (n := n) (p := tkE (chI σ n) n p) tkE_le
  have h3 := tkE_le (σ := σ) (n := n) (p := tkE (chI σ n) n p)
  omega
theorem two2 {s i j many : Nat} {q : Nat × Nat × Nat} (hp : p ≤ n) (h : pTwo (chI σ n) n s i j V many p = .ok q) : p ≤ q.2.2 ∧ q.2.2 ≤ n := by
  obtain ⟨p1, p2, -, e1, e2, -, e3, -⟩ := pTwo_ok h
  have a1 := le2 hp e1
  have a2 := le2 a1.2 e2
  have a3 := le2 a2.2 e3
  omega
theorem takes2 {w : Nat} (hp : p ≤ n) : p ≤ (pTakes (chI σ n) n w p).2 ∧ (pTakes (chI σ n) n w p).2 ≤ n := by
  unfold pTakes
  split
  · exact ⟨tkE_p hp, tkE_le⟩
  · exact ⟨Nat.le_refl _, hp⟩
theorem line_ok {r : Vt × Nat} (h : vOk V) (hp : p ≤ n) (e : lLine (chI σ n) n V p = .ok r) : vOk r.1 ∧ p ≤ r.2 ∧ r.2 ≤ n := by
  obtain ⟨hW, hw⟩ := h
  have hN := hW.n
  unfold lLine at e
  split at e
  · obtain ⟨p1, b1, e⟩ := bind_ok e
    obtain ⟨a, b2, e⟩ := bind_ok e
    obtain ⟨b, b3, e⟩ := bind_ok e
    obtain ⟨f, b4, e⟩ := bind_ok e
    obtain ⟨t, b5, e⟩ := bind_ok e
    obtain ⟨s, b6, e⟩ := bind_ok e
    cases e
    have c1 := le2 hp (pBegin_ok b1).2
    have c2 := after2 c1.2 b2
    have c3 := after2 c2.2 b3
    have c4 := after2 c3.2 b4
    have c5 := after2 c4.2 b5
    have c6 := after2 c5.2 b6
    have d2 := inb_v (pAfter_lt b2) (by decide) (by decide)
    have d3 := inb_v (pAfter_lt b3) (by decide) (by decide)
    have d4 := inb_v (pAfter_lt b4) (by decide) (by decide)
    have d5 := inb_v (pAfter_lt b5) (by omega) (by decide)
    have d6 := inb_v (pAfter_lt b6) (by decide) (by decide)
    exact ⟨⟨wf_law hW d2.2 d3.2 d4.2 d5.2 d6.2, hw⟩, by dsimp only; omega, c6.2⟩
  split at e
  · obtain ⟨p1, b1, e⟩ := bind_ok e
    obtain ⟨u, b2, e⟩ := bind_ok e
    obtain ⟨x, b3, e⟩ := bind_ok e
    obtain ⟨p4, b4, e⟩ := bind_ok e
    obtain ⟨y, b5, e⟩ := bind_ok e
    cases e
    obtain ⟨b0, b1⟩ := pBegin_ok b1
    obtain ⟨u1, u2, u3, u4⟩ := pFresh_ok b2
    have c1 := le2 hp b1
    have c2 := le2 c1.2 u1
    have c3 := after2 c2.2 b3
    have c4 := le2 c3.2 (pSign_ok b4)
    have c5 := le2 c4.2 (pNum_ok b5)
    have d3 := inb_v (pAfter_lt b3) (by decide) (by decide)
    have d5 := inb_v (pNum_lt b5) (by decide) (by decide)
    exact ⟨⟨wf_place hW (of_decide_eq_true b0) d3.2 d5.2, nw_vp hw u4⟩, by dsimp only; omega, c5.2⟩
  split at e
  · obtain ⟨p1, b1, e⟩ := bind_ok e
    obtain ⟨t, b2, e⟩ := bind_ok e
    cases e
    obtain ⟨b0, b1⟩ := pBegin_ok b1
    have c1 := le2 hp b1
    have c2 := two2 c1.2 b2
    obtain ⟨q1, q2, k1, -, -, k2, -, k3, -⟩ := pTwo_ok b2
    exact ⟨⟨wf_wall hW (of_decide_eq_true b0) (pKn_0 hw k1) (pKn_0 hw k2), hw⟩, by dsimp only; omega, c2.2⟩
  split at e
  · obtain ⟨p1, b1, e⟩ := bind_ok e
    obtain ⟨t, b2, e⟩ := bind_ok e
    cases e
    obtain ⟨b0, b1⟩ := pBegin_ok b1
    have c1 := le2 hp b1
    have c2 := two2 c1.2 b2
    obtain ⟨q1, q2, k1, -, -, k2, -, k3, -⟩ := pTwo_ok b2
    exact ⟨⟨wf_way hW (of_decide_eq_true b0) (pKn_0 hw k1) (pKn_0 hw k2) k3, hw⟩, by dsimp only; omega, c2.2⟩
  split at e
  · obtain ⟨p1, b1, e⟩ := bind_ok e
    obtain ⟨t, b2, e⟩ := bind_ok e
    cases e
    obtain ⟨b0, b1⟩ := pBegin_ok b1
    have c1 := le2 hp b1
    obtain ⟨k1, k2, -⟩ := pOther_ok b2
    have c2 := le2 c1.2 k2
    exact ⟨⟨wf_mirror hW (of_decide_eq_true b0) (pKn_0 hw k1), hw⟩, by dsimp only; omega, c2.2⟩
  split at e
  · obtain ⟨p1, b1, e⟩ := bind_ok e
    obtain ⟨u, b2, e⟩ := bind_ok e
    obtain ⟨p3, b3, e⟩ := bind_ok e
    obtain ⟨a, b4, e⟩ := bind_ok e
    obtain ⟨aw, b5, e⟩ := bind_ok e
    obtain ⟨sl, b6, e⟩ := bind_ok e
    cases e
    obtain ⟨b0, b1⟩ := pBegin_ok b1
    obtain ⟨u1, u2, u3, u4⟩ := pFresh_ok b2
    obtain ⟨k1, k2⟩ := pKnownN_ok b4
    have c1 := le2 hp b1
    have c2 := le2 c1.2 u1
    have c3 := le2 c2.2 (pMust_ok b3)
    have c4 := le2 c3.2 k2
    have c5 := takes2 (σ := σ) (w := kwc 7) c4.2
    have c6 : (pTakes (chI σ n) n (kwc 7) a.2).2 ≤ aw.2 ∧ aw.2 ≤ n ∧ (aw.1 = 0 ∨ (2 ≤ aw.1 ∧ aw.1 ≤ 9)) := by
      unfold pOpt at b5
      split at b5
      · have z1 := takes2 (σ := σ) (w := kwc 8) c5.2
        have z2 := le2 z1.2 (pNum_ok b5)
        have z3 := inb_v (pNum_lt b5) (by decide) (by decide)
        exact ⟨by omega, z2.2, Or.inr z3⟩
      · cases b5; exact ⟨Nat.le_refl _, c5.2, Or.inl rfl⟩
    have c7 : aw.2 ≤ sl.2.2 ∧ sl.2.2 ≤ n ∧ sl.1 ≤ 99 ∧ sl.2.1 ≤ 99 ∧ (sl.1 < sl.2.1 ∨ (sl.1 = 0 ∧ sl.2.1 = 0)) := by
      unfold pSleep at b6
      split at b6
      · obtain ⟨f, z1, b6⟩ := bind_ok b6
        obtain ⟨t, z2, b6⟩ := bind_ok b6
        cases b6
        have y0 := takes2 (σ := σ) (w := kwc 9) c6.2.1
        have y1 := le2 y0.2 (pNum_ok z1)
        have y2 := after2 y1.2 z2
        have y3 := inb_v (pNum_lt z1) (by decide) (by decide)
        have y4 := inb_v (pAfter_lt z2) (by omega) (by decide)
        exact ⟨by dsimp only; omega, y2.2, y3.2, y4.2, Or.inl (by dsimp only; omega)⟩
      · cases b6; exact ⟨Nat.le_refl _, c6.2.1, Nat.zero_le _, Nat.zero_le _, Or.inr ⟨rfl, rfl⟩⟩
    have hb1 : (pTakes (chI σ n) n (kwc 7) a.2).1.toNat ≤ 1 := by cases (pTakes (chI σ n) n (kwc 7) a.2).1 <;> decide
    exact ⟨⟨wf_person hW (of_decide_eq_true b0) (pKn_0 hw k1) hb1 c6.2.2 c7.2.2.1 c7.2.2.2.1 c7.2.2.2.2, nw_vq hw u4⟩, by dsimp only; omega, c7.2.1⟩
  split at e
  · obtain ⟨p1, b1, e⟩ := bind_ok e
    obtain ⟨t, b2, e⟩ := bind_ok e
    cases e
    obtain ⟨b0, b1⟩ := pBegin_ok b1
    have c1 := le2 hp b1
    have c2 := two2 c1.2 b2
    obtain ⟨q1, q2, k1, -, -, k2, -, k3, -⟩ := pTwo_ok b2
    exact ⟨⟨wf_pair hW (of_decide_eq_true b0) (pKn_1 hw k1) (pKn_1 hw k2), hw⟩, by dsimp only; omega, c2.2⟩
  split at e
  · obtain ⟨p1, b1, e⟩ := bind_ok e
    obtain ⟨q, b2, e⟩ := bind_ok e
    obtain ⟨p3, b3, e⟩ := bind_ok e
    obtain ⟨a, b4, e⟩ := bind_ok e
    obtain ⟨f, b5, e⟩ := bind_ok e
    obtain ⟨t, b6, e⟩ := bind_ok e
    obtain ⟨k, b7, e⟩ := bind_ok e
    cases e
    obtain ⟨b0, b1⟩ := pBegin_ok b1
    obtain ⟨k1, k2⟩ := pKnownN_ok b2
    obtain ⟨k3, k4⟩ := pKnownN_ok b4
    have c1 := le2 hp b1
    have c2 := le2 c1.2 k2
    have c3 := le2 c2.2 (pMust_ok b3)
    have c4 := le2 c3.2 k4
    have c5 := after2 c4.2 b5
    have c6 := after2 c5.2 b6
    have c7 := after2 c6.2 b7
    have d5 := inb_v (pAfter_lt b5) (by decide) (by decide)
    have d6 := inb_v (pAfter_lt b6) (by omega) (by decide)
    have b7 := pAfter_lt b7
    rw [show nI t.1 - nI f.1 = nI (t.1 - f.1) from pk_sub (by omega)] at b7
    have d7 := inb_v b7 (by decide) (by omega)
    exact ⟨⟨wf_errand hW (of_decide_eq_true b0) (pKn_1 hw k1) (pKn_0 hw k3) d5.2 (by omega) d6.2 d7.1 d7.2, hw⟩, by dsimp only; omega, c7.2⟩
  split at e
  · obtain ⟨p1, b1, e⟩ := bind_ok e
    obtain ⟨a, b2, e⟩ := bind_ok e
    obtain ⟨ch, b3, e⟩ := bind_ok e
    cases e
    obtain ⟨b0, b1⟩ := pBegin_ok b1
    have c1 := le2 hp b1
    obtain ⟨k1, k2, -⟩ := pOther_ok b2
    have c2 := le2 c1.2 k2
    have c3 := after2 c2.2 b3
    have d3 := inb_v (pAfter_lt b3) (by decide) (by decide)
    exact ⟨⟨wf_fog hW (of_decide_eq_true b0) (pKn_0 hw k1) d3, hw⟩, by dsimp only; omega, c3.2⟩
  · cases e
theorem vOk_0 : vOk (fun _ _ => 0) := by
  refine ⟨⟨by decide, by decide, by decide, by decide, by decide, by decide, by decide, by decide, by decide, by decide, by decide, by decide, by decide, ?_⟩, rfl, ?_⟩
  · refine ⟨?_, ?_, ?_, ?_, ?_, ?_, ?_, ?_, ?_⟩
    all_goals first | (intro a b ha; exact absurd ha (Nat.not_lt_zero _)) | (intro a ha; exact absurd ha (Nat.not_lt_zero _))
  · refine ⟨?_, ?_, ?_, ?_⟩
    all_goals first | (intro a b ha; exact absurd ha (Nat.not_lt_zero _)) | (intro a ha; exact absurd ha (Nat.not_lt_zero _))
end VLN
