/-! ===== m's lines: person; a line ===== -/
theorem pT_1 (c : Nat → Int32) (n k p : Nat) (V : Vt) : (pTakes c n k p).1 = sW c n (.ok (V, p)) k := by
  unfold pTakes
  show _ = (decide (tkK c n p = 2) && decide (tkV c n p = k))
  by_cases h : tkK c n p = 2 ∧ tkV c n p = k
  · rw [if_pos h, decide_eq_true h.1, decide_eq_true h.2]; rfl
  · rw [if_neg h]
    by_cases h2 : tkK c n p = 2
    · rw [decide_eq_false (fun q => h ⟨h2, q⟩), Bool.and_false]
    · rw [decide_eq_false h2, Bool.false_and]
section JLQ
variable {G : Gh} {M : Mm} {σ : Sg} {n w : Nat}
/-- the third: how often one looks away; the last two: the sleep -/
def pAw (c : Nat → Int32) (n : Nat) (Sb Sc Sd : Except Fl (Vt × Nat)) (x3 : Int32) : Prop := (sW c n Sb (kwc 8) = true ∧ Sd = sP Sc (fun _ p => pNum c n (nI 2) (nI 9) p) ∧ sX Sc (fun _ p => pNum c n (nI 2) (nI 9) p) x3) ∨ (sW c n Sb (kwc 8) = false ∧ Sd = Sc ∧ x3 = nI 0)
def pSl (c : Nat → Int32) (n : Nat) (Sd Se Sf : Except Fl (Vt × Nat)) (x5 x6 : Int32) : Prop := (sW c n Sd (kwc 9) = true ∧ Sf = sP (sP Se (fun _ p => pNum c n (nI 0) (nI 99) p)) (fun _ p => pAfter c n (kwc 16) (x5 + nI 1) (nI 99) p) ∧ sX Se (fun _ p => pNum c n (nI 0) (nI 99) p) x5 ∧ sX (sP Se (fun _ p => pNum c n (nI 0) (nI 99) p)) (fun _ p => pAfter c n (kwc 16) (x5 + nI 1) (nI 99) p) x6) ∨ (sW c n Sd (kwc 9) = false ∧ Sf = Se ∧ x5 = nI 0 ∧ x6 = nI 0)
theorem ln_person {c : Nat → Int32} {p : Nat} {V : Vt} {S1 S2 S3 Sa Sd Sf : Except Fl (Vt × Nat)} {x1 x3 x5 x6 : Int32} (d1 : S1 = sB (.ok (V, p)) (fun _ p => pBegin c n (decide (V 0 1 < 5)) 5 p)) (d2 : S2 = sFr c n 1 (fun V => V 0 1) S1) (d3 : S3 = sB S2 (fun _ p => pMust c n (kwc 18) p)) (d4 : Sa = sP S3 (fun V p => pKnownN c n 0 V p))
    (v1 : sX S3 (fun V p => pKnownN c n 0 V p) x1) (v3 : pAw c n (sT c n Sa (kwc 7)) (sT c n (sT c n Sa (kwc 7)) (kwc 8)) Sd x3) (v5 : pSl c n Sd (sT c n Sd (kwc 9)) Sf x5 x6)
    (hP : ∀ u (q2 : Nat), pKnownN c n 0 (vName V u 1 (V 0 1)) q2 = pKnownN c n 0 V q2) :
    (∀ f, Sf = .error f → lPerson c n V p = .error f) ∧ (∀ r, Sf = .ok r → ∃ u a aw f t p2, x1 = nI a ∧ x3 = nI aw ∧ x5 = nI f ∧ x6 = nI t ∧ r = (vName V u 1 (V 0 1), p2) ∧ V 0 1 < 5 ∧ lPerson c n V p = .ok (vPerson V u a (sW c n Sa (kwc 7)).toNat aw f t, p2)) := by
  unfold lPerson
  cases h1 : pBegin c n (decide (V 0 1 < 5)) 5 p with
  | error g =>
    have e1 : S1 = .error g := by rw [d1]; simp only [sB, h1, Except.bind]
    have e4 : Sa = .error g := by rw [d4, d3, d2, e1]; simp only [sB, sP, sFr, Except.bind]
    subst e4
    rcases v3 with ⟨a, -, -⟩ | ⟨-, a, -⟩
    · cases a
    · subst a
      rcases v5 with ⟨b, -⟩ | ⟨-, b, -⟩
      · cases b
      · subst b; exact ⟨fun f h => h, fun r h => by cases h⟩
  | ok p1 =>
    have hS1 : S1 = .ok (V, p1) := by rw [d1]; simp only [sB, h1, Except.bind]
    have hlt := (ln_begin (d1.symm.trans hS1)).2
    subst hS1
    cases h2 : pFresh c n V p1 with
    | error g =>
      have e4 : Sa = .error g := by rw [d4, d3, d2]; simp only [sB, sP, sFr, h2, Except.bind]
      subst e4
      simp only [Except.bind, h2]
      rcases v3 with ⟨a, -, -⟩ | ⟨-, a, -⟩
      · cases a
      · subst a
        rcases v5 with ⟨b, -⟩ | ⟨-, b, -⟩
        · cases b
        · subst b; exact ⟨fun f h => h, fun r h => by cases h⟩
    | ok q2 =>
      have hS2 : S2 = .ok (vName V q2.1 1 (V 0 1), q2.2) := by rw [d2]; simp only [sFr, h2, Except.bind]
      subst hS2
      cases h3 : pMust c n (kwc 18) q2.2 with
      | error g =>
        have e4 : Sa = .error g := by rw [d4, d3]; simp only [sB, sP, h3, Except.bind]
        subst e4
        simp only [Except.bind, h2, h3]
        rcases v3 with ⟨a, -, -⟩ | ⟨-, a, -⟩
        · cases a
        · subst a
          rcases v5 with ⟨b, -⟩ | ⟨-, b, -⟩
          · cases b
          · subst b; exact ⟨fun f h => h, fun r h => by cases h⟩
      | ok p3 =>
        have hS3 : S3 = .ok (vName V q2.1 1 (V 0 1), p3) := by rw [d3]; simp only [sB, h3, Except.bind]
        subst hS3
        cases h4 : pKnownN c n 0 V p3 with
        | error g =>
          have e4 : Sa = .error g := by rw [d4]; simp only [sP, hP, h4, Except.bind]
          subst e4
          simp only [Except.bind, h2, h3, h4]
          rcases v3 with ⟨a, -, -⟩ | ⟨-, a, -⟩
          · cases a
          · subst a
            rcases v5 with ⟨b, -⟩ | ⟨-, b, -⟩
            · cases b
            · subst b; exact ⟨fun f h => h, fun r h => by cases h⟩
        | ok q4 =>
          have y1 := v1 _ q4 rfl (show pKnownN c n 0 (vName V q2.1 1 (V 0 1)) p3 = .ok q4 by rw [hP]; exact h4)
          have hSa : Sa = .ok (vName V q2.1 1 (V 0 1), q4.2) := by rw [d4]; simp only [sP, hP, h4, Except.bind]
          subst hSa
          have eb : sT c n (.ok (vName V q2.1 1 (V 0 1), q4.2)) (kwc 7) = .ok (vName V q2.1 1 (V 0 1), (pTakes c n (kwc 7) q4.2).2) := rfl
          rw [eb] at v3
          generalize hpb : (pTakes c n (kwc 7) q4.2).2 = pb at v3
          have ec : sT c n (.ok (vName V q2.1 1 (V 0 1), pb)) (kwc 8) = .ok (vName V q2.1 1 (V 0 1), (pTakes c n (kwc 8) pb).2) := rfl
          rw [ec] at v3
          have hb1 := pT_1 c n (kwc 7) q4.2 (vName V q2.1 1 (V 0 1))
          have hb2 := pT_1 c n (kwc 8) pb (vName V q2.1 1 (V 0 1))
          simp only [Except.bind, h2, h3, h4, hpb]
          -- the sleep
          have fin : ∀ (aw pd : Nat), x3 = nI aw → Sd = .ok (vName V q2.1 1 (V 0 1), pd) → (∀ f, Sf = .error f → ((pSleep c n pd).bind (fun sl => .ok (vPerson V q2.1 q4.1 (pTakes c n (kwc 7) q4.2).1.toNat aw sl.1 sl.2.1, sl.2.2)) : Except Fl (Vt × Nat)) = .error f) ∧ (∀ r, Sf = .ok r → ∃ u a aw9 f t p2, x1 = nI a ∧ x3 = nI aw9 ∧ x5 = nI f ∧ x6 = nI t ∧ r = (vName V u 1 (V 0 1), p2) ∧ V 0 1 < 5 ∧ ((pSleep c n pd).bind (fun sl => .ok (vPerson V q2.1 q4.1 (pTakes c n (kwc 7) q4.2).1.toNat aw sl.1 sl.2.1, sl.2.2)) : Except Fl (Vt × Nat)) = .ok (vPerson V u a (sW c n (.ok (vName V q2.1 1 (V 0 1), q4.2)) (kwc 7)).toNat aw9 f t, p2)) := by
            intro aw pd y3 hSd
            subst hSd
            have hb3 := pT_1 c n (kwc 9) pd (vName V q2.1 1 (V 0 1))
            have ee : sT c n (.ok (vName V q2.1 1 (V 0 1), pd)) (kwc 9) = .ok (vName V q2.1 1 (V 0 1), (pTakes c n (kwc 9) pd).2) := rfl
            rw [ee] at v5
            rcases v5 with ⟨b1, b2, b3, b4⟩ | ⟨b1, b2, b3, b4⟩
            · have hp9 : (pTakes c n (kwc 9) pd).1 = true := hb3.trans b1
              unfold pSleep
              rw [if_pos hp9]
              cases h5 : pNum c n (nI 0) (nI 99) (pTakes c n (kwc 9) pd).2 with
              | error g => subst b2; simp only [sP, h5, Except.bind]; exact ⟨fun f h => h, fun r h => by cases h⟩
              | ok q5 =>
                have y5 := b3 _ _ rfl h5
                subst y5
                rw [nI_add] at b2 b4
                have e5 : sP (.ok (vName V q2.1 1 (V 0 1), (pTakes c n (kwc 9) pd).2)) (fun _ p => pNum c n (nI 0) (nI 99) p) = .ok (vName V q2.1 1 (V 0 1), q5.2) := by simp only [sP, h5, Except.bind]
                rw [e5] at b2 b4
                cases h6 : pAfter c n (kwc 16) (nI (q5.1 + 1)) (nI 99) q5.2 with
                | error g => subst b2; simp only [sP, h6, Except.bind]; exact ⟨fun f h => h, fun r h => by cases h⟩
                | ok q6 =>
                  have y6 := b4 _ _ rfl h6
                  subst b2
                  simp only [sP, h6, Except.bind]
                  exact ⟨fun f h => (by cases h), fun r h => by cases h; exact ⟨q2.1, q4.1, aw, q5.1, q6.1, q6.2, y1, y3, rfl, y6, rfl, of_decide_eq_true hlt, by rw [← hb1]⟩⟩
            · have hp9 : (pTakes c n (kwc 9) pd).1 = false := hb3.trans b1
              have hpd : (pTakes c n (kwc 9) pd).2 = pd := by
                unfold pTakes at hp9 ⊢
                by_cases z : tkK c n pd = 2 ∧ tkV c n pd = kwc 9
                · rw [if_pos z] at hp9; cases hp9
                · rw [if_neg z]
              rw [hpd] at b2
              subst b2
              have e6 : pSleep c n pd = .ok (0, 0, pd) := by unfold pSleep; rw [if_neg (by rw [hp9]; decide)]
              rw [e6]
              exact ⟨fun f h => (by cases h), fun r h => by cases h; exact ⟨q2.1, q4.1, aw, 0, 0, pd, y1, y3, b3, b4, rfl, of_decide_eq_true hlt, by rw [← hb1]; rfl⟩⟩
          rcases v3 with ⟨a1, a2, a3⟩ | ⟨a1, a2, a3⟩
          · have hp8 : (pTakes c n (kwc 8) pb).1 = true := hb2.trans a1
            have e7 : pOpt c n (kwc 8) (pNum c n (nI 2) (nI 9)) pb = pNum c n (nI 2) (nI 9) (pTakes c n (kwc 8) pb).2 := by unfold pOpt; rw [if_pos hp8]
            rw [e7]
            cases h5 : pNum c n (nI 2) (nI 9) (pTakes c n (kwc 8) pb).2 with
            | error g =>
              have e8 : Sd = .error g := by rw [a2]; simp only [sP, h5, Except.bind]
              subst e8
              rcases v5 with ⟨b, -⟩ | ⟨-, b, -⟩
              · cases b
              · subst b; exact ⟨fun f h => h, fun r h => by cases h⟩
            | ok q5 => exact fin q5.1 q5.2 (a3 _ _ rfl h5) (by rw [a2]; simp only [sP, h5, Except.bind])
          · have hp8 : (pTakes c n (kwc 8) pb).1 = false := hb2.trans a1
            have hpd : (pTakes c n (kwc 8) pb).2 = pb := by
              unfold pTakes at hp8 ⊢
              by_cases z : tkK c n pb = 2 ∧ tkV c n pb = kwc 8
              · rw [if_pos z] at hp8; cases hp8
              · rw [if_neg z]
            have e7 : pOpt c n (kwc 8) (pNum c n (nI 2) (nI 9)) pb = .ok (0, pb) := by unfold pOpt; rw [if_neg (by rw [hp8]; decide)]
            rw [e7]
            exact fin 0 pb a3 (by rw [a2, hpd])
/-- a pending person's name is no place -/
theorem pKn_pend {c : Nat → Int32} {V : Vt} {u num p : Nat} : pKnownN c n 0 (vName V u 1 num) p = pKnownN c n 0 V p := by
  have e : pKnown c n 0 (vName V u 1 num) p = pKnown c n 0 V p := by
    unfold pKnown
    cases pName c n p with
    | error f => rfl
    | ok t =>
      show (if nmF (vName V u 1 num) t < V 0 13 + 1 ∧ vName V u 1 num 26 (nmF (vName V u 1 num) t) = 0 then Except.ok (vName V u 1 num 27 (nmF (vName V u 1 num) t)) else .error (2, tkA c n p) : Except Fl Nat) = (if nmF V t < V 0 13 ∧ V 26 (nmF V t) = 0 then Except.ok (V 27 (nmF V t)) else .error (2, tkA c n p))
      have r25 : ∀ k, vName V u 1 num 25 k = if k = V 0 13 then u else V 25 k := fun k => by unfold vName; by_cases z : k = V 0 13 <;> simp [vS, z]
      have r26 : ∀ k, vName V u 1 num 26 k = if k = V 0 13 then 1 else V 26 k := fun k => by unfold vName; by_cases z : k = V 0 13 <;> simp [vS, z]
      have r27 : ∀ k, vName V u 1 num 27 k = if k = V 0 13 then num else V 27 k := fun k => by unfold vName; by_cases z : k = V 0 13 <;> simp [vS, z]
      by_cases hf : nmF V t < V 0 13
      · have e1 : nmF (vName V u 1 num) t = nmF V t := by
          have hs := fst_spec hf
          refine fst_hit (n := V 0 13 + 1) (by omega) ?_ (fun j hj => ?_)
          · rw [r25, if_neg (by omega)]; exact hs.1
          · rw [r25, if_neg (by omega)]; exact hs.2 j hj
        have hne : ¬ nmF V t = V 0 13 := by omega
        rw [e1, r26, r27, if_neg hne, if_neg hne]
        by_cases hz : V 26 (nmF V t) = 0
        · rw [if_pos ⟨by omega, hz⟩, if_pos ⟨hf, hz⟩]
        · rw [if_neg (fun q => hz q.2), if_neg (fun q => hz q.2)]
      · refine Eq.trans (if_neg ?_) (if_neg (fun q => hf q.1)).symm
        intro q
        have h1 : ∀ j, j < V 0 13 → decide (vName V u 1 num 25 j = t) = false := fun j hj => by
          rw [r25, if_neg (by omega)]; exact fst_all hf j hj
        have h2 : ¬ nmF (vName V u 1 num) t < V 0 13 := fun z => by
          have z2 := (fst_spec (n := V 0 13 + 1) (P := fun k => decide (vName V u 1 num 25 k = t)) (Nat.lt_succ_of_lt z)).1
          have := h1 _ z
          rw [show nmF (vName V u 1 num) t = fstN (V 0 13 + 1) (fun k => decide (vName V u 1 num 25 k = t)) from rfl] at this
          rw [this] at z2; cases z2
        have h3 : nmF (vName V u 1 num) t = V 0 13 := by omega
        rw [h3, r26, if_pos rfl] at q
        omega
  unfold pKnownN; rw [e]
end JLQ
