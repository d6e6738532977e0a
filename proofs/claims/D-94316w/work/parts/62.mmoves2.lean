/-! ===== m: where all are in a state by tens ===== -/
def plC (V : Vt) (τ : Sg) (people c : Nat) : Nat → Nat := fun p => if p < V 0 1 ∧ people.testBit p = true then dig 10 (cnt people) c (cntN people p) else sa τ 0 p
def lawC (V : Vt) (τ : Sg) (people t c : Nat) : Bool := lawfulV V (plC V τ people c) t
def allC (people place : Nat) : Nat := codeN 10 (cnt people) (fun _ => place)
def canC (V : Vt) (τ : Sg) (people i c : Nat) : Bool := match i with
  | 0 => decide (c = nowC τ people)
  | i + 1 => anyB (10 ^ cnt people) (fun a => canC V τ people i a && stC V people a c) && lawC V τ people (sn τ 0 + (i + 1)) c
theorem canC_s (V : Vt) (τ : Sg) (people i c : Nat) : canC V τ people (i + 1) c = (anyB (10 ^ cnt people) (fun a => canC V τ people i a && stC V people a c) && lawC V τ people (sn τ 0 + (i + 1)) c) := rfl
theorem plC_lt {V : Vt} {τ : Sg} {people c p : Nat} (hw : jWf V) (hp : people < 2 ^ V 0 1) (ho : ∀ p, p < V 0 1 → sa τ 0 p < V 0 0) (hv : valB (V 0 0) (cnt people) c = true) (h : p < V 0 1) : plC V τ people c p < V 0 0 := by
  unfold plC
  by_cases e : people.testBit p = true
  · rw [if_pos ⟨h, e⟩]
    exact of_decide_eq_true (allB_iff.mp hv _ (cntN_bit (mv_n hw hp) (wf_nq hw) hp h e))
  · rw [if_neg (fun q => e q.2)]; exact ho p h
def lsG (M : Mm) (L : List Nat) : Nat → Int32 := fun k => if k < L.length then nI (L.getD k 0) else jm_A M 99 k
theorem lsG_0 (M : Mm) : js_As M 99 (lsG M []) = M := jAs_0 (fun k => by unfold lsG; exact if_neg (show ¬ k < ([] : List Nat).length from Nat.not_lt_zero _))
theorem getD_app {L : List Nat} {n k : Nat} : (L ++ [n]).getD k 0 = if k < L.length then L.getD k 0 else if k = L.length then n else 0 := by
  rw [List.getD_eq_getElem?_getD, List.getD_eq_getElem?_getD]
  by_cases h : k < L.length
  · rw [if_pos h, List.getElem?_append_left h]
  · rw [if_neg h, List.getElem?_append_right (by omega)]
    by_cases e : k = L.length
    · rw [if_pos e, e, Nat.sub_self]; rfl
    · rw [if_neg e, List.getElem?_eq_none (by show 1 ≤ _; omega)]; rfl
theorem lsG_s {M : Mm} {L : List Nat} {n : Nat} : js_A (js_As M 99 (lsG M L)) 99 L.length (nI n) = js_As M 99 (lsG M (L ++ [n])) := by
  rw [jAs_A]
  refine jAs_cg (fun k => ?_)
  unfold lsG
  rw [List.length_append, getD_app]
  show (if k = L.length then nI n else _) = if k < L.length + 1 then _ else _
  by_cases e : k = L.length
  · subst e
    rw [if_pos rfl, if_pos (by omega), if_neg (Nat.lt_irrefl _), if_pos rfl]
  · rw [if_neg e]
    by_cases e2 : k < L.length
    · rw [if_pos e2, if_pos (by omega), if_pos e2]
    · rw [if_neg e2, if_neg (by omega)]
theorem lsG_r {M : Mm} {L : List Nat} {k : Nat} (h : k < L.length) : jm_A (js_As M 99 (lsG M L)) 99 k = nI (L.getD k 0) := by
  rw [jA_rd]; unfold lsG; rw [if_pos h]
def triG (M : Mm) (V : Vt) (τ : Sg) (people c j : Nat) : Nat → Int32 := fun p => if p < V 0 1 then (if people.testBit p = true ∧ cntN people p < j then nI (dig 10 (cnt people) c (cntN people p)) else nI (sa τ 0 p)) else jm_A M 93 p
theorem triG_s {M : Mm} {V : Vt} {τ : Sg} {people c j : Nat} (hw : jWf V) (hp : people < 2 ^ V 0 1) (hj : j < cnt people) : js_A (js_As M 93 (triG M V τ people c j)) 93 (mvP people j) (nI (dig 10 (cnt people) c j)) = js_As M 93 (triG M V τ people c (j + 1)) := by
  have h5 := mv_n hw hp
  obtain ⟨v1, v2, v3⟩ := mv_ok h5 hj
  have hm := bit_lt hp v2
  rw [jAs_A]
  refine jAs_cg (fun p => ?_)
  unfold triG
  by_cases e : p = mvP people j
  · rw [if_pos e, if_pos (by omega), e, if_pos ⟨v2, by omega⟩, v3]
  · rw [if_neg e]
    by_cases e1 : p < V 0 1
    · rw [if_pos e1, if_pos e1]
      by_cases e2 : people.testBit p = true ∧ cntN people p < j
      · rw [if_pos e2, if_pos ⟨e2.1, by omega⟩]
      · rw [if_neg e2, if_neg (fun q => ?_)]
        have : cntN people p = j := by
          have := q.2
          have : ¬ cntN people p < j := fun z => e2 ⟨q.1, z⟩
          omega
        have h9 := nth_of people h5 p (by have := wf_nq hw; omega) q.1
        rw [this] at h9
        exact e h9.symm
    · rw [if_neg e1, if_neg e1]
theorem triG_r {M : Mm} {V : Vt} {τ : Sg} {people c p : Nat} (hw : jWf V) (hpp : people < 2 ^ V 0 1) (hp : p < V 0 1) : jm_A (js_As M 93 (triG M V τ people c (cnt people))) 93 p = nI (plC V τ people c p) := by
  rw [jA_rd]
  unfold triG plC
  rw [if_pos hp]
  by_cases e : people.testBit p = true
  · rw [if_pos ⟨e, cntN_bit (mv_n hw hpp) (wf_nq hw) hpp hp e⟩, if_pos ⟨hp, e⟩]
  · rw [if_neg (fun q => e q.1), if_neg (fun q => e q.2)]
theorem triG_0 {M : Mm} {V : Vt} {τ : Sg} {people c : Nat} : js_As M 93 (fun p => if p < V 0 1 then nI (sa τ 0 p) else jm_A M 93 p) = js_As M 93 (triG M V τ people c 0) := jAs_cg (fun p => by
  unfold triG
  by_cases e : p < V 0 1
  · rw [if_pos e, if_pos e, if_neg (fun q => Nat.not_lt_zero _ q.2)]
  · rw [if_neg e, if_neg e])
section JMM2
variable {G : Gh} {M : Mm} {σ τ : Sg} {w people : Nat} {V : Vt}
theorem nowC_lt (h : jMk M w V τ people) : nowC τ people < 10 ^ cnt people := codeN_lt (fun k hk => Nat.lt_of_lt_of_le (h.2.1.2.2.2.1 _ (bit_lt h.2.1.1 (mv_ok (mv_n h.1.w h.2.1.1) hk).2.1)) (wf_np h.1.w))
theorem t_X5_stateNow (h : jMk M w V τ people) : jE G mi_X5_stateNow 1 [jr (some 90)] M (some (.int (nI (nowC τ people)))) M := by
  have hS := h.1.1
  have hs := h.1
  have hc3 := h.2.1.2.1
  have ho := h.2.1.2.2.2.1
  have hnp := wf_np hs.w
  have hnq := wf_nq hs.w
  have hp5 := mv_n hs.w h.2.1.1
  refine jE.of (by decide) rfl (Nat.le_of_ble_eq_true rfl) ?_
  have J : ∀ k : Nat, k ≤ cnt people → jW G mi_X5_stateNow 1 M 4 [some (jr (some 90)), some (.int (nI (codeN 10 k (fun k => sa τ 0 (mvP people k))))), some (.int (nI k))] [] M (fun z M' => z = .inl (some (.int (nI (nowC τ people)))) ∧ M' = M) := by
    refine jW.loop _ (fun k => cnt people - k) _ (fun _ => []) (fun _ => M) (fun k hk ih => ?_)
    by_cases hkn : k < cnt people
    · obtain ⟨m1, m2, m3⟩ := mv_ok hp5 hkn
      have hmq := bit_lt h.2.1.1 m2
      refine jw_iload_n (pc := 4) dX5_stateNow_4 rfl ?_
      refine jw_aload_n (pc := 5) dX5_stateNow_5 rfl ?_
      refine jx_getIs (pc := 6) (jf_X5_470_4.r) rfl dX5_stateNow_6 rfl (is_90 hS) (by decide) (h.2.2.2.2.1) ?_
      first | refine jx_icmp_ge (pc := 9) (tgt := 35) dX5_stateNow_9 (by decide) (by omega) (by omega) ?_ ?_ | refine jw_icmp_ge (pc := 9) (tgt := 35) dX5_stateNow_9 (by decide) ?_ ?_
      · intro h_9
        omega
      · intro h_9
        refine jw_bipush (pc := 12) dX5_stateNow_12 bp_10 ?_
        refine jw_iload_n (pc := 14) dX5_stateNow_14 rfl ?_
        first | refine jx_imul (pc := 15) dX5_stateNow_15 ?_ | refine jw_imul (pc := 15) dX5_stateNow_15 ?_
        refine jw_aload_n (pc := 16) dX5_stateNow_16 rfl ?_
        refine jx_getRs (pc := 17) (jf_X5_17_4.r) rfl dX5_stateNow_17 rfl (is_90 hS) (by decide) (sr_90_68 hS) ?_
        refine jw_aload_n (pc := 20) dX5_stateNow_20 rfl ?_
        refine jx_getRs (pc := 21) (jf_X5_30_4.r) rfl dX5_stateNow_21 rfl (is_90 hS) (by decide) (sr_90_75 hS) ?_
        refine jw_iload_n (pc := 24) dX5_stateNow_24 rfl ?_
        refine jx_ialds (pc := 25) dX5_stateNow_25 (ok_96 hS) (nn_96 hS) rfl (by omega) (h.2.2.2.2.2.2 k hkn) ?_
        refine jx_ialds (pc := 26) dX5_stateNow_26 (ok_92 hS) (nn_92 hS) rfl (by omega) (h.2.2.2.1 _ hmq) ?_
        first | refine jx_iadd (pc := 27) dX5_stateNow_27 ?_ | refine jw_iadd (pc := 27) dX5_stateNow_27 ?_
        refine jw_istore_n (pc := 28) dX5_stateNow_28 (Nat.le_of_ble_eq_true rfl) rfl ?_
        try dsimp only [jput1, jput2, jkill, jclr, jis2_i, jis2_l, jis2_rs, jis2_rn, cond]
        first | refine jx_iinc (pc := 29) dX5_stateNow_29 rfl rfl ?_ | refine jw_iinc (pc := 29) dX5_stateNow_29 rfl rfl rfl ?_
        try dsimp only [jput1, jkill, jclr, jis2_i, jis2_l, jis2_rs, jis2_rn, cond]
        refine jw_goto (pc := 32) (tgt := 4) dX5_stateNow_32 (by decide) ?_
        refine jW.eq ?_ rfl rfl (ih (k + 1) hkn (by omega))
        rw [codeN_s, Nat.mul_comm]
    · have hk' : k = cnt people := by omega
      subst hk'
      refine jw_iload_n (pc := 4) dX5_stateNow_4 rfl ?_
      refine jw_aload_n (pc := 5) dX5_stateNow_5 rfl ?_
      refine jx_getIs (pc := 6) (jf_X5_470_4.r) rfl dX5_stateNow_6 rfl (is_90 hS) (by decide) (h.2.2.2.2.1) ?_
      first | refine jx_icmp_ge (pc := 9) (tgt := 35) dX5_stateNow_9 (by decide) (by omega) (by omega) ?_ ?_ | refine jw_icmp_ge (pc := 9) (tgt := 35) dX5_stateNow_9 (by decide) ?_ ?_
      · intro h_9
        refine jw_iload_n (pc := 35) dX5_stateNow_35 rfl ?_
        refine jw_ireturn (pc := 36) dX5_stateNow_36 rfl (rfl) ?_
        exact ⟨rfl, rfl⟩
      · intro h_9
        omega
  refine jw_iconst (pc := 0) dX5_stateNow_0 ic_0 ?_
  refine jw_istore_n (pc := 1) dX5_stateNow_1 (Nat.le_of_ble_eq_true rfl) rfl ?_
  try dsimp only [jput1, jput2, jkill, jclr, jis2_i, jis2_l, jis2_rs, jis2_rn, cond]
  refine jw_iconst (pc := 2) dX5_stateNow_2 ic_0 ?_
  refine jw_istore_n (pc := 3) dX5_stateNow_3 (Nat.le_of_ble_eq_true rfl) rfl ?_
  try dsimp only [jput1, jput2, jkill, jclr, jis2_i, jis2_l, jis2_rs, jis2_rn, cond]
  exact J 0 (Nat.zero_le _)
theorem t_X5_allAt {place : Nat} (h : jMk M w V τ people) (hp : place < 10) : jE G mi_X5_allAt 1 [jr (some 90), .int (nI place)] M (some (.int (nI (allC people place)))) M := by
  have hS := h.1.1
  have hc3 := h.2.1.2.1
  refine jE.of (by decide) rfl (Nat.le_of_ble_eq_true rfl) ?_
  have J : ∀ k : Nat, k ≤ cnt people → jW G mi_X5_allAt 1 M 4 [some (jr (some 90)), some (.int (nI place)), some (.int (nI (codeN 10 k (fun _ => place)))), some (.int (nI k))] [] M (fun z M' => z = .inl (some (.int (nI (allC people place)))) ∧ M' = M) := by
    refine jW.loop _ (fun k => cnt people - k) _ (fun _ => []) (fun _ => M) (fun k hk ih => ?_)
    by_cases hkn : k < cnt people
    ·
      refine jw_iload_n (pc := 4) dX5_allAt_4 rfl ?_
      refine jw_aload_n (pc := 5) dX5_allAt_5 rfl ?_
      refine jx_getIs (pc := 6) (jf_X5_470_4.r) rfl dX5_allAt_6 rfl (is_90 hS) (by decide) (h.2.2.2.2.1) ?_
      first | refine jx_icmp_ge (pc := 9) (tgt := 25) dX5_allAt_9 (by decide) (by omega) (by omega) ?_ ?_ | refine jw_icmp_ge (pc := 9) (tgt := 25) dX5_allAt_9 (by decide) ?_ ?_
      · intro h_9
        omega
      · intro h_9
        refine jw_bipush (pc := 12) dX5_allAt_12 bp_10 ?_
        refine jw_iload_n (pc := 14) dX5_allAt_14 rfl ?_
        first | refine jx_imul (pc := 15) dX5_allAt_15 ?_ | refine jw_imul (pc := 15) dX5_allAt_15 ?_
        refine jw_iload_n (pc := 16) dX5_allAt_16 rfl ?_
        first | refine jx_iadd (pc := 17) dX5_allAt_17 ?_ | refine jw_iadd (pc := 17) dX5_allAt_17 ?_
        refine jw_istore_n (pc := 18) dX5_allAt_18 (Nat.le_of_ble_eq_true rfl) rfl ?_
        try dsimp only [jput1, jput2, jkill, jclr, jis2_i, jis2_l, jis2_rs, jis2_rn, cond]
        first | refine jx_iinc (pc := 19) dX5_allAt_19 rfl rfl ?_ | refine jw_iinc (pc := 19) dX5_allAt_19 rfl rfl rfl ?_
        try dsimp only [jput1, jkill, jclr, jis2_i, jis2_l, jis2_rs, jis2_rn, cond]
        refine jw_goto (pc := 22) (tgt := 4) dX5_allAt_22 (by decide) ?_
        refine jW.eq ?_ rfl rfl (ih (k + 1) hkn (by omega))
        rw [codeN_s, Nat.mul_comm]
    · have hk' : k = cnt people := by omega
      subst hk'
      refine jw_iload_n (pc := 4) dX5_allAt_4 rfl ?_
      refine jw_aload_n (pc := 5) dX5_allAt_5 rfl ?_
      refine jx_getIs (pc := 6) (jf_X5_470_4.r) rfl dX5_allAt_6 rfl (is_90 hS) (by decide) (h.2.2.2.2.1) ?_
      first | refine jx_icmp_ge (pc := 9) (tgt := 25) dX5_allAt_9 (by decide) (by omega) (by omega) ?_ ?_ | refine jw_icmp_ge (pc := 9) (tgt := 25) dX5_allAt_9 (by decide) ?_ ?_
      · intro h_9
        refine jw_iload_n (pc := 25) dX5_allAt_25 rfl ?_
        refine jw_ireturn (pc := 26) dX5_allAt_26 rfl (rfl) ?_
        exact ⟨rfl, rfl⟩
      · intro h_9
        omega
  refine jw_iconst (pc := 0) dX5_allAt_0 ic_0 ?_
  refine jw_istore_n (pc := 1) dX5_allAt_1 (Nat.le_of_ble_eq_true rfl) rfl ?_
  try dsimp only [jput1, jput2, jkill, jclr, jis2_i, jis2_l, jis2_rs, jis2_rn, cond]
  refine jw_iconst (pc := 2) dX5_allAt_2 ic_0 ?_
  refine jw_istore_n (pc := 3) dX5_allAt_3 (Nat.le_of_ble_eq_true rfl) rfl ?_
  try dsimp only [jput1, jput2, jkill, jclr, jis2_i, jis2_l, jis2_rs, jis2_rn, cond]
  exact J 0 (Nat.zero_le _)
theorem t_X5_leads {a : Nat} (h : jMk M w V τ people) (ha : a < 2 ^ 30) (hva : valB (V 0 0) (cnt people) a = true) : jE G mi_X5_leads 3 [jr (some 90), .int (nI a)] M (some (.int (nI (ledL V people a (10 ^ cnt people)).length))) (js_As M 99 (lsG M (ledL V people a (10 ^ cnt people)))) := by
  have hS := h.1.1
  have hc3 := h.2.1.2.1
  have h1000 := q10 hc3
  refine jE.of (by decide) rfl (Nat.le_of_ble_eq_true rfl) ?_
  have J : ∀ k : Nat, k ≤ 10 ^ cnt people → jW G mi_X5_leads 3 M 4 [some (jr (some 90)), some (.int (nI a)), some (.int (nI (ledL V people a k).length)), some (.int (nI k))] [] (js_As M 99 (lsG M (ledL V people a k))) (fun z M' => z = .inl (some (.int (nI (ledL V people a (10 ^ cnt people)).length))) ∧ M' = js_As M 99 (lsG M (ledL V people a (10 ^ cnt people)))) := by
    refine jW.loop _ (fun k => 10 ^ cnt people - k) _ (fun _ => []) (fun k => js_As M 99 (lsG M (ledL V people a k))) (fun k hk ih => ?_)
    have h2 : jMk (js_As M 99 (lsG M (ledL V people a k))) w V τ people := h.fr (jsm.As (E := fun x => x = 99) rfl) hS (fun x q => by unfold mkE; omega)
    have hle := ledL_le V people a k
    by_cases hkn : k < 10 ^ cnt people
    ·
      refine jw_iload_n (pc := 4) dX5_leads_4 rfl ?_
      refine jw_aload_n (pc := 5) dX5_leads_5 rfl ?_
      refine jx_getIs (pc := 6) (jf_X5_473_4.r) rfl dX5_leads_6 rfl (is_90 hS) (by decide) (h2.2.2.2.2.2.1) ?_
      first | refine jx_icmp_ge (pc := 9) (tgt := 48) dX5_leads_9 (by decide) (by omega) (by omega) ?_ ?_ | refine jw_icmp_ge (pc := 9) (tgt := 48) dX5_leads_9 (by decide) ?_ ?_
      · intro h_9
        omega
      · intro h_9
        refine jw_aload_n (pc := 12) dX5_leads_12 rfl ?_
        refine jw_iload_n (pc := 13) dX5_leads_13 rfl ?_
        refine jx_cVE (mi1 := mi_X5_isState) (pc := 14) rfl dX5_leads_14 lk_X5_479 rfl fi_X5_isState rfl rfl rfl (by decide) (is_90 hS) (t_X5_isState h2 (by omega)) (by first | decide | omega) rfl rfl (by decide) ?_
        first | refine jx_ifb_eq (pc := 17) (tgt := 42) dX5_leads_17 (by decide) ?_ ?_ | refine jx_if_eq (pc := 17) (tgt := 42) dX5_leads_17 (by decide) (by omega) ?_ ?_ | refine jw_if_eq (pc := 17) (tgt := 42) dX5_leads_17 (by decide) ?_ ?_
        · intro h_17
          first | refine jx_iinc (pc := 42) dX5_leads_42 rfl rfl ?_ | refine jw_iinc (pc := 42) dX5_leads_42 rfl rfl rfl ?_
          try dsimp only [jput1, jkill, jclr, jis2_i, jis2_l, jis2_rs, jis2_rn, cond]
          refine jw_goto (pc := 45) (tgt := 4) dX5_leads_45 (by decide) ?_
          first
            | (refine jW.eq ?_ rfl ?_ (ih (k + 1) hkn (by omega))
               · rw [ledL_s, if_pos (by unfold stC; rw [h_17, h_26]; rfl), List.length_append]; rfl
               · rw [ledL_s, if_pos (by unfold stC; rw [h_17, h_26]; rfl)])
            | (have e9 : ¬ stC V people a k = true := by
                 unfold stC
                 first
                   | rw [h_17]; exact Bool.false_ne_true
                   | rw [h_26, Bool.and_false]; exact Bool.false_ne_true
               refine jW.eq ?_ rfl ?_ (ih (k + 1) hkn (by omega))
               · rw [ledL_s, if_neg e9]
               · rw [ledL_s, if_neg e9])
        · intro h_17
          refine jw_aload_n (pc := 20) dX5_leads_20 rfl ?_
          refine jw_iload_n (pc := 21) dX5_leads_21 rfl ?_
          refine jw_iload_n (pc := 22) dX5_leads_22 rfl ?_
          refine jx_cVE (mi1 := mi_X5_isStepTo) (pc := 23) rfl dX5_leads_23 lk_X5_482 rfl fi_X5_isStepTo rfl rfl rfl (by decide) (is_90 hS) (t_X5_isStepTo h2 ha (by omega) hva) (by first | decide | omega) rfl rfl (by decide) ?_
          first | refine jx_ifb_ne (pc := 26) (tgt := 32) dX5_leads_26 (by decide) ?_ ?_ | refine jx_if_ne (pc := 26) (tgt := 32) dX5_leads_26 (by decide) (by omega) ?_ ?_ | refine jw_if_ne (pc := 26) (tgt := 32) dX5_leads_26 (by decide) ?_ ?_
          · intro h_26
            refine jw_aload_n (pc := 32) dX5_leads_32 rfl ?_
            refine jx_getRs (pc := 33) (jf_X5_40_4.r) rfl dX5_leads_33 rfl (is_90 hS) (by decide) (sr_90_80 hS) ?_
            refine jw_iload_n (pc := 36) dX5_leads_36 rfl ?_
            refine jw_iload_n (pc := 37) dX5_leads_37 rfl ?_
            refine jx_iast (pc := 38) dX5_leads_38 (by decide) (ok_99 hS) (nn_99 hS) rfl (by omega) ?_
            rw [lsG_s]
            first | refine jx_iinc (pc := 39) dX5_leads_39 rfl rfl ?_ | refine jw_iinc (pc := 39) dX5_leads_39 rfl rfl rfl ?_
            try dsimp only [jput1, jkill, jclr, jis2_i, jis2_l, jis2_rs, jis2_rn, cond]
            first | refine jx_iinc (pc := 42) dX5_leads_42 rfl rfl ?_ | refine jw_iinc (pc := 42) dX5_leads_42 rfl rfl rfl ?_
            try dsimp only [jput1, jkill, jclr, jis2_i, jis2_l, jis2_rs, jis2_rn, cond]
            refine jw_goto (pc := 45) (tgt := 4) dX5_leads_45 (by decide) ?_
            first
              | (refine jW.eq ?_ rfl ?_ (ih (k + 1) hkn (by omega))
                 · rw [ledL_s, if_pos (by unfold stC; rw [h_17, h_26]; rfl), List.length_append]; rfl
                 · rw [ledL_s, if_pos (by unfold stC; rw [h_17, h_26]; rfl)])
              | (have e9 : ¬ stC V people a k = true := by
                   unfold stC
                   first
                     | rw [h_17]; exact Bool.false_ne_true
                     | rw [h_26, Bool.and_false]; exact Bool.false_ne_true
                 refine jW.eq ?_ rfl ?_ (ih (k + 1) hkn (by omega))
                 · rw [ledL_s, if_neg e9]
                 · rw [ledL_s, if_neg e9])
          · intro h_26
            refine jw_goto (pc := 29) (tgt := 42) dX5_leads_29 (by decide) ?_
            first | refine jx_iinc (pc := 42) dX5_leads_42 rfl rfl ?_ | refine jw_iinc (pc := 42) dX5_leads_42 rfl rfl rfl ?_
            try dsimp only [jput1, jkill, jclr, jis2_i, jis2_l, jis2_rs, jis2_rn, cond]
            refine jw_goto (pc := 45) (tgt := 4) dX5_leads_45 (by decide) ?_
            first
              | (refine jW.eq ?_ rfl ?_ (ih (k + 1) hkn (by omega))
                 · rw [ledL_s, if_pos (by unfold stC; rw [h_17, h_26]; rfl), List.length_append]; rfl
                 · rw [ledL_s, if_pos (by unfold stC; rw [h_17, h_26]; rfl)])
              | (have e9 : ¬ stC V people a k = true := by
                   unfold stC
                   first
                     | rw [h_17]; exact Bool.false_ne_true
                     | rw [h_26, Bool.and_false]; exact Bool.false_ne_true
                 refine jW.eq ?_ rfl ?_ (ih (k + 1) hkn (by omega))
                 · rw [ledL_s, if_neg e9]
                 · rw [ledL_s, if_neg e9])
    · have hk' : k = 10 ^ cnt people := by omega
      subst hk'
      refine jw_iload_n (pc := 4) dX5_leads_4 rfl ?_
      refine jw_aload_n (pc := 5) dX5_leads_5 rfl ?_
      refine jx_getIs (pc := 6) (jf_X5_473_4.r) rfl dX5_leads_6 rfl (is_90 hS) (by decide) (h2.2.2.2.2.2.1) ?_
      first | refine jx_icmp_ge (pc := 9) (tgt := 48) dX5_leads_9 (by decide) (by omega) (by omega) ?_ ?_ | refine jw_icmp_ge (pc := 9) (tgt := 48) dX5_leads_9 (by decide) ?_ ?_
      · intro h_9
        refine jw_iload_n (pc := 48) dX5_leads_48 rfl ?_
        refine jw_ireturn (pc := 49) dX5_leads_49 rfl (rfl) ?_
        exact ⟨rfl, rfl⟩
      · intro h_9
        omega
  refine jw_iconst (pc := 0) dX5_leads_0 ic_0 ?_
  refine jw_istore_n (pc := 1) dX5_leads_1 (Nat.le_of_ble_eq_true rfl) rfl ?_
  try dsimp only [jput1, jput2, jkill, jclr, jis2_i, jis2_l, jis2_rs, jis2_rn, cond]
  refine jw_iconst (pc := 2) dX5_leads_2 ic_0 ?_
  refine jw_istore_n (pc := 3) dX5_leads_3 (Nat.le_of_ble_eq_true rfl) rfl ?_
  try dsimp only [jput1, jput2, jkill, jclr, jis2_i, jis2_l, jis2_rs, jis2_rn, cond]
  refine jW.eq rfl rfl ?_ (J 0 (Nat.zero_le _))
  exact lsG_0 M
theorem t_X5_isLawfulState {c t : Nat} (h : jMk M w V τ people) (hc : c < 2 ^ 30) (hv : valB (V 0 0) (cnt people) c = true) (ht : t < 2 ^ 30) : jE G mi_X5_isLawfulState 6 [jr (some 90), .int (nI c), .int (nI t)] M (some (.int (jb (lawC V τ people t c)))) (js_As M 93 (triG M V τ people c (cnt people))) := by
  have hS := h.1.1
  have hs := h.1
  have hw := hs.s
  have hc3 := h.2.1.2.1
  have ho := h.2.1.2.2.2.1
  have hnp := wf_np hs.w
  have hnq := wf_nq hs.w
  have hp5 := mv_n hs.w h.2.1.1
  refine jE.of (by decide) rfl (Nat.le_of_ble_eq_true rfl) ?_
  have J2 : ∀ k : Nat, k ≤ cnt people → jW G mi_X5_isLawfulState 6 M 33 [some (jr (some 90)), some (.int (nI c)), some (.int (nI t)), some (.int (nI k))] [] (js_As M 93 (triG M V τ people c k)) (fun z M' => z = .inl (some (.int (jb (lawC V τ people t c)))) ∧ M' = js_As M 93 (triG M V τ people c (cnt people))) := by
    refine jW.loop _ (fun k => cnt people - k) _ (fun _ => []) (fun k => js_As M 93 (triG M V τ people c k)) (fun k hk ih => ?_)
    have h2 : jMk (js_As M 93 (triG M V τ people c k)) w V τ people := h.fr (jsm.As (E := fun x => x = 93) rfl) hS (fun x q => by unfold mkE; omega)
    by_cases hkn : k < cnt people
    · obtain ⟨m1, m2, m3⟩ := mv_ok hp5 hkn
      have hmq := bit_lt h.2.1.1 m2
      have hd := dig_lt (B := 10) (n := cnt people) (s := c) (k := k) (by decide)
      refine jw_iload_n (pc := 33) dX5_isLawfulState_33 rfl ?_
      refine jw_aload_n (pc := 34) dX5_isLawfulState_34 rfl ?_
      refine jx_getIs (pc := 35) (jf_X5_470_4.r) rfl dX5_isLawfulState_35 rfl (is_90 hS) (by decide) (h2.2.2.2.2.1) ?_
      first | refine jx_icmp_ge (pc := 38) (tgt := 64) dX5_isLawfulState_38 (by decide) (by omega) (by omega) ?_ ?_ | refine jw_icmp_ge (pc := 38) (tgt := 64) dX5_isLawfulState_38 (by decide) ?_ ?_
      · intro h_38
        omega
      · intro h_38
        refine jw_aload_n (pc := 41) dX5_isLawfulState_41 rfl ?_
        refine jx_getRs (pc := 42) (jf_X5_21_4.r) rfl dX5_isLawfulState_42 rfl (is_90 hS) (by decide) (sr_90_69 hS) ?_
        refine jw_aload_n (pc := 45) dX5_isLawfulState_45 rfl ?_
        refine jx_getRs (pc := 46) (jf_X5_30_4.r) rfl dX5_isLawfulState_46 rfl (is_90 hS) (by decide) (sr_90_75 hS) ?_
        refine jw_iload_n (pc := 49) dX5_isLawfulState_49 rfl ?_
        refine jx_ialds (pc := 50) dX5_isLawfulState_50 (ok_96 hS) (nn_96 hS) rfl (by omega) (h2.2.2.2.2.2.2 k hkn) ?_
        refine jw_aload_n (pc := 51) dX5_isLawfulState_51 rfl ?_
        refine jw_iload_n (pc := 52) dX5_isLawfulState_52 rfl ?_
        refine jw_iload_n (pc := 53) dX5_isLawfulState_53 rfl ?_
        refine jx_cVE (mi1 := mi_X5_placeIn) (pc := 54) rfl dX5_isLawfulState_54 lk_X5_476 rfl fi_X5_placeIn rfl rfl rfl (by decide) (is_90 hS) (t_X5_placeIn h2 hc hkn) (by first | decide | omega) rfl rfl (by simp only [List.map_cons, List.map_nil, List.sum_cons, List.sum_nil, cat_i, cat_l, jr_cat]; decide) ?_
        refine jx_iast (pc := 57) dX5_isLawfulState_57 (by decide) (ok_93 hS) (nn_93 hS) rfl (by omega) ?_
        rw [triG_s hs.w h.2.1.1 hkn]
        first | refine jx_iinc (pc := 58) dX5_isLawfulState_58 rfl rfl ?_ | refine jw_iinc (pc := 58) dX5_isLawfulState_58 rfl rfl rfl ?_
        try dsimp only [jput1, jkill, jclr, jis2_i, jis2_l, jis2_rs, jis2_rn, cond]
        refine jw_goto (pc := 61) (tgt := 33) dX5_isLawfulState_61 (by decide) ?_
        exact ih (k + 1) hkn (by omega)
    · have hk' : k = cnt people := by omega
      subst hk'
      refine jw_iload_n (pc := 33) dX5_isLawfulState_33 rfl ?_
      refine jw_aload_n (pc := 34) dX5_isLawfulState_34 rfl ?_
      refine jx_getIs (pc := 35) (jf_X5_470_4.r) rfl dX5_isLawfulState_35 rfl (is_90 hS) (by decide) (h2.2.2.2.2.1) ?_
      first | refine jx_icmp_ge (pc := 38) (tgt := 64) dX5_isLawfulState_38 (by decide) (by omega) (by omega) ?_ ?_ | refine jw_icmp_ge (pc := 38) (tgt := 64) dX5_isLawfulState_38 (by decide) ?_ ?_
      · intro h_38
        refine jw_aload_n (pc := 64) dX5_isLawfulState_64 rfl ?_
        refine jw_aload_n (pc := 65) dX5_isLawfulState_65 rfl ?_
        refine jx_getRs (pc := 66) (jf_X5_21_4.r) rfl dX5_isLawfulState_66 rfl (is_90 hS) (by decide) (sr_90_69 hS) ?_
        refine jw_iload_n (pc := 69) dX5_isLawfulState_69 rfl ?_
        refine jw_iconst (pc := 70) dX5_isLawfulState_70 ic_0 ?_
        refine jx_cVE (mi1 := mi_X5_isLawful) (pc := 71) rfl dX5_isLawfulState_71 lk_X5_433 rfl fi_X5_isLawful rfl rfl rfl (by decide) (is_90 hS) (t_X5_isLawful (t := t) (sh := 0) (pl := plC V τ people c) h2.1 (by decide) (by decide) ht ⟨ok_93 hS, nn_93 hS, fun q hq => ⟨triG_r hs.w h.2.1.1 hq, plC_lt hs.w h.2.1.1 ho hv hq⟩⟩ (by decide)) (by first | decide | omega) rfl rfl (by decide) ?_
        refine jw_ireturn (pc := 74) dX5_isLawfulState_74 rfl (by first | exact jnar_b _ | exact jnar_0 | exact jnar_1 | decide +kernel) ?_
        exact ⟨rfl, rfl⟩
      · intro h_38
        omega
  have J1 : ∀ k : Nat, k ≤ V 0 1 → jW G mi_X5_isLawfulState 6 M 2 [some (jr (some 90)), some (.int (nI c)), some (.int (nI t)), some (.int (nI k))] [] (js_As M 93 (fun p => if p < k then nI (sa τ 0 p) else jm_A M 93 p)) (fun z M' => z = .inl (some (.int (jb (lawC V τ people t c)))) ∧ M' = js_As M 93 (triG M V τ people c (cnt people))) := by
    refine jW.loop _ (fun k => V 0 1 - k) _ (fun _ => []) (fun k => js_As M 93 (fun p => if p < k then nI (sa τ 0 p) else jm_A M 93 p)) (fun k hk ih => ?_)
    have h2 : jMk (js_As M 93 (fun p => if p < k then nI (sa τ 0 p) else jm_A M 93 p)) w V τ people := h.fr (jsm.As (E := fun x => x = 93) rfl) hS (fun x q => by unfold mkE; omega)
    have hw := h2.1.s
    by_cases hkn : k < V 0 1
    ·
      refine jw_iload_n (pc := 2) dX5_isLawfulState_2 rfl ?_
      refine jw_aload_n (pc := 3) dX5_isLawfulState_3 rfl ?_
      refine jx_getRs (pc := 4) (jf_X5_380_4.r) rfl dX5_isLawfulState_4 rfl (is_90 hS) (by decide) (h2.1.r) ?_
      refine jx_getIs (pc := 7) (jf_X5_221_12.r) rfl dX5_isLawfulState_7 rfl (wis hw) (by decide) (mi_nq h2.1.V) ?_
      first | refine jx_icmp_ge (pc := 10) (tgt := 31) dX5_isLawfulState_10 (by decide) (by omega) (by omega) ?_ ?_ | refine jw_icmp_ge (pc := 10) (tgt := 31) dX5_isLawfulState_10 (by decide) ?_ ?_
      · intro h_10
        omega
      · intro h_10
        refine jw_aload_n (pc := 13) dX5_isLawfulState_13 rfl ?_
        refine jx_getRs (pc := 14) (jf_X5_21_4.r) rfl dX5_isLawfulState_14 rfl (is_90 hS) (by decide) (sr_90_69 hS) ?_
        refine jw_iload_n (pc := 17) dX5_isLawfulState_17 rfl ?_
        refine jw_aload_n (pc := 18) dX5_isLawfulState_18 rfl ?_
        refine jx_getRs (pc := 19) (jf_X5_17_4.r) rfl dX5_isLawfulState_19 rfl (is_90 hS) (by decide) (sr_90_68 hS) ?_
        refine jw_iload_n (pc := 22) dX5_isLawfulState_22 rfl ?_
        refine jx_ialds (pc := 23) dX5_isLawfulState_23 (ok_92 hS) (nn_92 hS) rfl (by omega) (h2.2.2.2.1 k hkn) ?_
        refine jx_iast (pc := 24) dX5_isLawfulState_24 (by decide) (ok_93 hS) (nn_93 hS) rfl (by omega) ?_
        first | refine jx_iinc (pc := 25) dX5_isLawfulState_25 rfl rfl ?_ | refine jw_iinc (pc := 25) dX5_isLawfulState_25 rfl rfl rfl ?_
        try dsimp only [jput1, jkill, jclr, jis2_i, jis2_l, jis2_rs, jis2_rn, cond]
        refine jw_goto (pc := 28) (tgt := 2) dX5_isLawfulState_28 (by decide) ?_
        refine jW.eq rfl rfl ?_ (ih (k + 1) hkn (by omega))
        rw [jAs_A]
        refine jAs_cg (fun i => ?_)
        by_cases e : i = k
        · rw [if_pos e, if_pos (by omega), e]
        · rw [if_neg e]
          by_cases e2 : i < k
          · rw [if_pos e2, if_pos (by omega)]
          · rw [if_neg e2, if_neg (by omega)]
    · have hk' : k = V 0 1 := by omega
      subst hk'
      refine jw_iload_n (pc := 2) dX5_isLawfulState_2 rfl ?_
      refine jw_aload_n (pc := 3) dX5_isLawfulState_3 rfl ?_
      refine jx_getRs (pc := 4) (jf_X5_380_4.r) rfl dX5_isLawfulState_4 rfl (is_90 hS) (by decide) (h2.1.r) ?_
      refine jx_getIs (pc := 7) (jf_X5_221_12.r) rfl dX5_isLawfulState_7 rfl (wis hw) (by decide) (mi_nq h2.1.V) ?_
      first | refine jx_icmp_ge (pc := 10) (tgt := 31) dX5_isLawfulState_10 (by decide) (by omega) (by omega) ?_ ?_ | refine jw_icmp_ge (pc := 10) (tgt := 31) dX5_isLawfulState_10 (by decide) ?_ ?_
      · intro h_10
        refine jw_iconst (pc := 31) dX5_isLawfulState_31 ic_0 ?_
        refine jw_istore_n (pc := 32) dX5_isLawfulState_32 (Nat.le_of_ble_eq_true rfl) rfl ?_
        try dsimp only [jput1, jput2, jkill, jclr, jis2_i, jis2_l, jis2_rs, jis2_rn, cond]
        refine jW.eq rfl rfl ?_ (J2 0 (Nat.zero_le _))
        exact triG_0.symm
      · intro h_10
        omega
  refine jw_iconst (pc := 0) dX5_isLawfulState_0 ic_0 ?_
  refine jw_istore_n (pc := 1) dX5_isLawfulState_1 (Nat.le_of_ble_eq_true rfl) rfl ?_
  try dsimp only [jput1, jput2, jkill, jclr, jis2_i, jis2_l, jis2_rs, jis2_rn, cond]
  refine jW.eq rfl rfl ?_ (J1 0 (Nat.zero_le _))
  exact jAs_0 (fun i => by rw [if_neg (Nat.not_lt_zero _)])
end JMM2
