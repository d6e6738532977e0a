/-! ===== m's movers ===== -/
def mkE (a : Nat) : Prop := a = 93 ∨ (97 ≤ a ∧ a ≤ 99) ∨ a = 101 ∨ a = 102
theorem mkE_m {a : Nat} (h : mkE a) : msa a := by unfold mkE at h; unfold msa; omega
def jMk (M : Mm) (w : Nat) (V : Vt) (τ : Sg) (people : Nat) : Prop := jMs M w V 0 0 ∧ (people < 2 ^ V 0 1 ∧ cnt people ≤ 3 ∧ 1 ≤ V 0 0 ∧ (∀ p, p < V 0 1 → sa τ 0 p < V 0 0) ∧ sn τ 0 < 100) ∧ jm_I M 90 70 = nI (sn τ 0) ∧ (∀ p, p < V 0 1 → jm_A M 92 p = nI (sa τ 0 p)) ∧ jm_I M 90 76 = nI (cnt people) ∧ jm_I M 90 77 = nI (10 ^ cnt people) ∧ ∀ k, k < cnt people → jm_A M 96 k = nI (mvP people k)
theorem jMs.fr {E : Nat → Prop} {M M1 : Mm} {w op fg : Nat} {V : Vt} (h : jMs M w V op fg) (g : jsm E M M1) (hS : jSh M1) (h9 : ¬ E 90) (hE : ∀ a, 104 ≤ a → ¬ E a) : jMs M1 w V op fg := by
  obtain ⟨q1, q2, q3, q4, q5, q6⟩ := h
  have hz := q1.2.2.2
  have a90 := g.2.2 90 (by omega) h9
  exact ⟨hS, (a90.2.2.2.2.1 _).trans q2, q3.sm g hE, q4, (a90.2.2.1 _).trans q5, (a90.2.2.1 _).trans q6⟩
theorem jMk.fr {E : Nat → Prop} {M M1 : Mm} {w people : Nat} {V : Vt} {τ : Sg} (h : jMk M w V τ people) (g : jsm E M M1) (hS : jSh M1) (hE : ∀ a, E a → mkE a) : jMk M1 w V τ people := by
  obtain ⟨h1, h2, h3, h4, h5, h6, h7⟩ := h
  have hz := h1.1.2.2.2
  have a90 := g.2.2 90 (by omega) (fun q => by have := hE _ q; unfold mkE at this; omega)
  have a92 := g.2.2 92 (by omega) (fun q => by have := hE _ q; unfold mkE at this; omega)
  have a96 := g.2.2 96 (by omega) (fun q => by have := hE _ q; unfold mkE at this; omega)
  exact ⟨h1.fr g hS (fun q => by have := hE _ q; unfold mkE at this; omega) (fun a ha q => by have := hE _ q; unfold mkE at this; omega), h2, (a90.2.2.1 _).trans h3, fun p hp => (a92.2.2.2.2.2.1 _).trans (h4 p hp), (a90.2.2.1 _).trans h5, (a90.2.2.1 _).trans h6, fun k hk => (a96.2.2.2.2.2.1 _).trans (h7 k hk)⟩
theorem jMm.mv {E : Nat → Prop} {M M1 : Mm} {σ : Sg} (h : jMm M σ) (g : jsm E M M1) (hE : ∀ a, E a → mkE a) (hS : jSh M1) : jMm M1 σ := mscr h (g.wk (fun a q => mkE_m (hE a q))) hS
theorem frmk {E : Nat → Prop} {M M1 : Mm} (g : jsm E M M1) (hE : ∀ a, E a → mkE a) : jfm M M1 := g.wk (fun a q => msa_E (mkE_m (hE a q)))
theorem q10 {n : Nat} (h : n ≤ 3) : 10 ^ n ≤ 1000 := Nat.pow_le_pow_right (n := 10) (by decide) h
theorem le_0 {p : Int32} {n : Nat} (h : p ≤ 0) : (isIx n p && decide (iN p ≠ 0)) = false := by
  rw [Int32.le_iff_toInt_le] at h
  have : (0 : Int32).toInt = 0 := by decide +kernel
  unfold isIx iN
  rw [Bool.and_eq_false_iff, decide_eq_false_iff_not, Bool.and_eq_false_iff, decide_eq_false_iff_not, decide_eq_false_iff_not]
  omega
theorem gt_0 {p : Int32} {n : Nat} (hn : n < 2 ^ 31) (h : ¬ p ≤ 0) (h2 : ¬ nI n ≤ p) : ∃ k, k < n ∧ 1 ≤ k ∧ p = nI k := by
  rw [Int32.le_iff_toInt_le] at h
  have e0 : (0 : Int32).toInt = 0 := by decide +kernel
  have hi := ix_in hn (fun c => by rw [Int32.lt_iff_toInt_lt] at c; omega) h2
  obtain ⟨h3, h4⟩ := isIx_iN hi
  refine ⟨iN p, h3, ?_, h4⟩
  unfold iN; omega
theorem ix_nI {n k : Nat} (hn : n < 2 ^ 31) (h : k < n) : isIx n (nI k) = true := by
  unfold isIx
  rw [nI_toInt (by omega)]; simp; omega
/-! the states by tens -/
def linkC (V : Vt) (people a c : Nat) : Bool := allB (cnt people) (fun k => linkB V (dig 10 (cnt people) a k) (dig 10 (cnt people) c k))
def nowC (τ : Sg) (people : Nat) : Nat := codeN 10 (cnt people) (fun k => sa τ 0 (mvP people k))
def stC (V : Vt) (people a j : Nat) : Bool := valB (V 0 0) (cnt people) j && linkC V people a j
/-- the states that one leads to, of those below n -/
def ledL (V : Vt) (people a n : Nat) : List Nat := (List.range n).filter (stC V people a)
theorem ledL_s (V : Vt) (people a n : Nat) : ledL V people a (n + 1) = if stC V people a n then ledL V people a n ++ [n] else ledL V people a n := by
  unfold ledL
  rw [List.range_succ, List.filter_append, List.filter_cons, List.filter_nil]
  cases stC V people a n
  · exact List.append_nil _
  · rfl
theorem allB_no {n k : Nat} {P : Nat → Bool} (hk : k < n) (h : P k = false) : allB n P = false := by
  cases e : allB n P with
  | false => rfl
  | true => have := allB_iff.mp e k hk; rw [h] at this; cases this
theorem near_lt {V : Vt} (h : jWf V) {a : Nat} (ha : a < V 0 0) : V 3 a < 1024 := by
  have h1 := (wf_pl h ha).2.2.1
  have h2 : 2 ^ V 0 0 ≤ 1024 := Nat.pow_le_pow_right (n := 2) (by decide) (wf_np h)
  omega
theorem ledL_le (V : Vt) (people a n : Nat) : (ledL V people a n).length ≤ n := by
  unfold ledL
  exact Nat.le_trans (List.length_filter_le _ _) (by rw [List.length_range]; exact Nat.le_refl _)
theorem ledL_mem {V : Vt} {people a n b : Nat} : b ∈ ledL V people a n ↔ b < n ∧ stC V people a b = true := by
  unfold ledL; rw [List.mem_filter, List.mem_range]
section JMM
variable {G : Gh} {M : Mm} {σ τ : Sg} {w people : Nat} {V : Vt}
theorem t_X5_isMovers {p : Int32} {most : Nat} (h : jMm M σ) (hm : most < 10) : jE G mi_X5_isMovers 3 [jr (some 90), .int p, .int (nI most)] M (some (.int (jb (decide (pplW (sv σ) p most = 0))))) M := by
  have hS := h.1
  refine jE.of (by decide) rfl (Nat.le_of_ble_eq_true rfl) ?_
  cases hv9 : sv σ with
  | none =>
    refine jw_aload_n (pc := 0) dX5_isMovers_0 rfl ?_
    refine jx_getRs (pc := 1) (jf_X5_380_4.r) rfl dX5_isMovers_1 rfl (is_90 hS) (by decide) (h.no hv9) ?_
    refine jw_ifnull (pc := 4) (tgt := 36) dX5_isMovers_4 (by decide) (fun h => ?_) (fun ax h => by cases h)
    clear h
    refine jw_iconst (pc := 36) dX5_isMovers_36 ic_0 ?_
    refine jw_ireturn (pc := 37) dX5_isMovers_37 rfl (by first | exact jnar_b _ | exact jnar_0 | exact jnar_1 | decide +kernel) ?_
    exact ⟨rfl, rfl⟩
  | some V =>
    obtain ⟨w, hs, hN⟩ := h.so hv9
    have hw := hs.s
    have hn := wf_nq hs.w
    have hpw : 2 ^ V 0 1 ≤ 32 := Nat.pow_le_pow_right (n := 2) (by decide) hn
    have hc := cnt_le
    refine jw_aload_n (pc := 0) dX5_isMovers_0 rfl ?_
    refine jx_getRs (pc := 1) (jf_X5_380_4.r) rfl dX5_isMovers_1 rfl (is_90 hS) (by decide) (hs.r) ?_
    refine jw_ifnull (pc := 4) (tgt := 36) dX5_isMovers_4 (by decide) (fun h => by cases h) (fun ax h => ?_)
    clear h
    refine jw_iload_n (pc := 7) dX5_isMovers_7 rfl ?_
    refine jw_if_le (pc := 8) (tgt := 36) dX5_isMovers_8 (by decide) ?_ ?_
    · intro h_8
      refine jw_iconst (pc := 36) dX5_isMovers_36 ic_0 ?_
      refine jw_ireturn (pc := 37) dX5_isMovers_37 rfl (by first | exact jnar_b _ | exact jnar_0 | exact jnar_1 | decide +kernel) ?_
      refine ⟨?_, rfl⟩
      first
        | (rw [pplW_s, e9, iN_n (by omega), decide_eq_true (show cnt kq ≤ most by omega)]; rfl)
        | (rw [pplW_s, e9, iN_n (by omega), decide_eq_false (show ¬ cnt kq ≤ most by omega)]; rfl)
        | (rw [pplW_s, le_0 h_8]; rfl)
        | (rw [pplW_s, ix_ge (by omega) h_21]; rfl)
    · intro h_8
      refine jw_iload_n (pc := 11) dX5_isMovers_11 rfl ?_
      refine jw_iconst (pc := 12) dX5_isMovers_12 ic_1 ?_
      refine jw_aload_n (pc := 13) dX5_isMovers_13 rfl ?_
      refine jx_getRs (pc := 14) (jf_X5_380_4.r) rfl dX5_isMovers_14 rfl (is_90 hS) (by decide) (hs.r) ?_
      refine jx_getIs (pc := 17) (jf_X5_221_12.r) rfl dX5_isMovers_17 rfl (wis hw) (by decide) (mi_nq hs.V) ?_
      refine jw_ishl (pc := 20) dX5_isMovers_20 ?_
      rw [shl1 (by omega)]
      refine jw_icmp_ge (pc := 21) (tgt := 36) dX5_isMovers_21 (by decide) ?_ ?_
      · intro h_21
        refine jw_iconst (pc := 36) dX5_isMovers_36 ic_0 ?_
        refine jw_ireturn (pc := 37) dX5_isMovers_37 rfl (by first | exact jnar_b _ | exact jnar_0 | exact jnar_1 | decide +kernel) ?_
        refine ⟨?_, rfl⟩
        first
          | (rw [pplW_s, e9, iN_n (by omega), decide_eq_true (show cnt kq ≤ most by omega)]; rfl)
          | (rw [pplW_s, e9, iN_n (by omega), decide_eq_false (show ¬ cnt kq ≤ most by omega)]; rfl)
          | (rw [pplW_s, le_0 h_8]; rfl)
          | (rw [pplW_s, ix_ge (by omega) h_21]; rfl)
      · intro h_21
        obtain ⟨kq, hq1, hq2, rfl⟩ := gt_0 (by omega) h_8 h_21
        have hcp := hc kq
        have e9 : (isIx (2 ^ V 0 1) (nI kq) && decide (iN (nI kq) ≠ 0)) = true := by rw [iN_n (by omega), ix_nI (by omega) hq1, decide_eq_true (by omega)]; rfl
        refine jw_iload_n (pc := 24) dX5_isMovers_24 rfl ?_
        refine jx_cSE (mi1 := mi_X5_bits) (pc := 25) rfl dX5_isMovers_25 lk_X5_461 rfl fi_X5_bits (t_X5_bits (by omega)) (by first | decide | omega) rfl rfl (by decide) ?_
        refine jw_iload_n (pc := 28) dX5_isMovers_28 rfl ?_
        first | refine jx_icmp_gt (pc := 29) (tgt := 36) dX5_isMovers_29 (by decide) (by omega) (by omega) ?_ ?_ | refine jw_icmp_gt (pc := 29) (tgt := 36) dX5_isMovers_29 (by decide) ?_ ?_
        · intro h_29
          refine jw_iconst (pc := 36) dX5_isMovers_36 ic_0 ?_
          refine jw_ireturn (pc := 37) dX5_isMovers_37 rfl (by first | exact jnar_b _ | exact jnar_0 | exact jnar_1 | decide +kernel) ?_
          refine ⟨?_, rfl⟩
          first
            | (rw [pplW_s, e9, iN_n (by omega), decide_eq_true (show cnt kq ≤ most by omega)]; rfl)
            | (rw [pplW_s, e9, iN_n (by omega), decide_eq_false (show ¬ cnt kq ≤ most by omega)]; rfl)
            | (rw [pplW_s, le_0 h_8]; rfl)
            | (rw [pplW_s, ix_ge (by omega) h_21]; rfl)
        · intro h_29
          refine jw_iconst (pc := 32) dX5_isMovers_32 ic_1 ?_
          refine jw_goto (pc := 33) (tgt := 37) dX5_isMovers_33 (by decide) ?_
          refine jw_ireturn (pc := 37) dX5_isMovers_37 rfl (by first | exact jnar_b _ | exact jnar_0 | exact jnar_1 | decide +kernel) ?_
          refine ⟨?_, rfl⟩
          first
            | (rw [pplW_s, e9, iN_n (by omega), decide_eq_true (show cnt kq ≤ most by omega)]; rfl)
            | (rw [pplW_s, e9, iN_n (by omega), decide_eq_false (show ¬ cnt kq ≤ most by omega)]; rfl)
            | (rw [pplW_s, le_0 h_8]; rfl)
            | (rw [pplW_s, ix_ge (by omega) h_21]; rfl)
theorem t_X5_takesMovers (h : jMm M σ) (hv9 : sv σ = some V) (hp : people < 2 ^ V 0 1) (hc3 : cnt people ≤ 3) : jT G mi_X5_takesMovers 2 [jr (some 90), .int (nI people)] M (jPv (fun M' => jMm M' σ ∧ jfm M M' ∧ ∃ w, jMk M' w V (sgT σ 0 (-1)) people)) := by
  have hS := h.1
  have hw9 := (h.2.1.2 V hv9).1
  have hnq := wf_nq hw9
  have hnp := wf_np hw9
  have hp5 := mv_n hw9 hp
  have hca := cntN_all people hp5 (V 0 1) hnq hp
  refine jT.of (by decide) rfl (Nat.le_of_ble_eq_true rfl) ?_
  have J : ∀ x : Nat × Mm, (x.1 ≤ V 0 1 ∧ jMm x.2 σ ∧ jfm M x.2 ∧ jm_I x.2 90 76 = nI (cntN people x.1) ∧ jm_I x.2 90 77 = nI (10 ^ cntN people x.1) ∧ ∀ k, k < cntN people x.1 → jm_A x.2 96 k = nI (mvP people k)) → jW G mi_X5_takesMovers 2 M 12 [some (jr (some 90)), some (.int (nI people)), some (.int (nI x.1))] [] x.2 (jPv (fun M' => jMm M' σ ∧ jfm M M' ∧ ∃ w, jMk M' w V (sgT σ 0 (-1)) people)) := by
    refine jW.loop (σ := Nat × Mm) _ (fun x => V 0 1 - x.1) _ (fun _ => []) (fun x => x.2) (fun x hI ih => ?_)
    obtain ⟨p, M1⟩ := x
    obtain ⟨hq, hX, hf, j1, j2, j3⟩ := hI
    dsimp only at hq hX hf j1 j2 j3 ih ⊢
    have hS := hX.1
    obtain ⟨w, hs, hN⟩ := hX.so hv9
    have hw := hs.s
    have hs1 := cntN_s people p
    have hm := cntN_mono people hq
    have h10 := q10 (n := cntN people p) (by omega)
    by_cases hkn : p < V 0 1
    · have hm2 := cntN_mono people (show p + 1 ≤ V 0 1 from hkn)
      have hh : people.testBit p = true → cntN people (p + 1) = cntN people p + 1 := fun e => by rw [hs1, e]; rfl
      have hn9 : people.testBit p = true → cntN people p < 3 := fun e => by have := hh e; omega
      refine jw_iload_n (pc := 12) dX5_takesMovers_12 rfl ?_
      refine jw_aload_n (pc := 13) dX5_takesMovers_13 rfl ?_
      refine jx_getRs (pc := 14) (jf_X5_380_4.r) rfl dX5_takesMovers_14 rfl (is_90 hS) (by decide) (hs.r) ?_
      refine jx_getIs (pc := 17) (jf_X5_221_12.r) rfl dX5_takesMovers_17 rfl (wis hw) (by decide) (mi_nq hs.V) ?_
      first | refine jx_icmp_ge (pc := 20) (tgt := 71) dX5_takesMovers_20 (by decide) (by omega) (by omega) ?_ ?_ | refine jw_icmp_ge (pc := 20) (tgt := 71) dX5_takesMovers_20 (by decide) ?_ ?_
      · intro h_20
        omega
      · intro h_20
        refine jw_iload_n (pc := 23) dX5_takesMovers_23 rfl ?_
        refine jw_iload_n (pc := 24) dX5_takesMovers_24 rfl ?_
        refine jx_cSE (mi1 := mi_X5_has) (pc := 25) rfl dX5_takesMovers_25 lk_X5_398 rfl fi_X5_has (t_X5_has (by omega) (by omega)) (by first | decide | omega) rfl rfl (by decide) ?_
        first | refine jx_ifb_ne (pc := 28) (tgt := 34) dX5_takesMovers_28 (by decide) ?_ ?_ | refine jx_if_ne (pc := 28) (tgt := 34) dX5_takesMovers_28 (by decide) (by omega) ?_ ?_ | refine jw_if_ne (pc := 28) (tgt := 34) dX5_takesMovers_28 (by decide) ?_ ?_
        · intro h_28
          have hn9 := hn9 h_28
          refine jw_aload_n (pc := 34) dX5_takesMovers_34 rfl ?_
          refine jx_getRs (pc := 35) (jf_X5_30_4.r) rfl dX5_takesMovers_35 rfl (is_90 hS) (by decide) (sr_90_75 hS) ?_
          refine jw_aload_n (pc := 38) dX5_takesMovers_38 rfl ?_
          refine jx_getIs (pc := 39) (jf_X5_470_4.r) rfl dX5_takesMovers_39 rfl (is_90 hS) (by decide) (j1) ?_
          refine jw_iload_n (pc := 42) dX5_takesMovers_42 rfl ?_
          refine jx_iast (pc := 43) dX5_takesMovers_43 (by decide) (ok_96 hS) (nn_96 hS) rfl (by omega) ?_
          refine jw_aload_n (pc := 44) dX5_takesMovers_44 rfl ?_
          refine jw_dup (pc := 45) dX5_takesMovers_45 (jis2_r _) ?_
          refine jx_getIs (pc := 46) (jf_X5_470_4.r) rfl dX5_takesMovers_46 rfl (is_90 hS) (by decide) (j1) ?_
          refine jw_iconst (pc := 49) dX5_takesMovers_49 ic_1 ?_
          first | refine jx_iadd (pc := 50) dX5_takesMovers_50 ?_ | refine jw_iadd (pc := 50) dX5_takesMovers_50 ?_
          refine jx_putI (pc := 51) jf_X5_470_4 rfl dX5_takesMovers_51 rfl rfl (is_90 hS) (by decide) ?_
          refine jw_aload_n (pc := 54) dX5_takesMovers_54 rfl ?_
          refine jw_dup (pc := 55) dX5_takesMovers_55 (jis2_r _) ?_
          refine jx_getIs (pc := 56) (jf_X5_473_4.r) rfl dX5_takesMovers_56 rfl (is_90 hS) (by decide) (j2) ?_
          refine jw_bipush (pc := 59) dX5_takesMovers_59 bp_10 ?_
          first | refine jx_imul (pc := 61) dX5_takesMovers_61 ?_ | refine jw_imul (pc := 61) dX5_takesMovers_61 ?_
          refine jx_putI (pc := 62) jf_X5_473_4 rfl dX5_takesMovers_62 rfl rfl (is_90 hS) (by decide) ?_
          first | refine jx_iinc (pc := 65) dX5_takesMovers_65 rfl rfl ?_ | refine jw_iinc (pc := 65) dX5_takesMovers_65 rfl rfl rfl ?_
          try dsimp only [jput1, jkill, jclr, jis2_i, jis2_l, jis2_rs, jis2_rn, cond]
          refine jw_goto (pc := 68) (tgt := 12) dX5_takesMovers_68 (by decide) ?_
          first
            | (refine ih (p + 1, js_I (js_I (js_A M1 96 (cntN people p) (nI p)) 90 76 (nI (cntN people p + 1))) 90 77 (nI (10 ^ cntN people p * 10))) ⟨hkn, mI (mI (mA hX (by unfold msa; omega)) (by decide)) (by decide), ((hf.tr (jsm.A (by decide))).tr (jsm.I (by decide))).tr (jsm.I (by decide)), ?_, ?_, fun k hk => ?_⟩ (by dsimp only; omega)
               · dsimp only; rw [hh h_28]; rfl
               · dsimp only; rw [hh h_28, Nat.pow_succ]; rfl
               · dsimp only at hk ⊢
                 rw [hh h_28] at hk
                 by_cases e : k = cntN people p
                 · subst e; exact (jA_same (M := M1)).trans (by rw [show mvP people (cntN people p) = p from nth_of people hp5 p (by omega) h_28])
                 · exact (jA_oth (M := M1) e).trans (j3 k (by omega)))
            | (have e : cntN people (p + 1) = cntN people p := by rw [hs1, h_28]; rfl
               exact ih (p + 1, M1) ⟨hkn, hX, hf, by dsimp only; rw [e]; exact j1, by dsimp only; rw [e]; exact j2, by dsimp only; rw [e]; exact j3⟩ (by dsimp only; omega))
        · intro h_28
          refine jw_goto (pc := 31) (tgt := 65) dX5_takesMovers_31 (by decide) ?_
          first | refine jx_iinc (pc := 65) dX5_takesMovers_65 rfl rfl ?_ | refine jw_iinc (pc := 65) dX5_takesMovers_65 rfl rfl rfl ?_
          try dsimp only [jput1, jkill, jclr, jis2_i, jis2_l, jis2_rs, jis2_rn, cond]
          refine jw_goto (pc := 68) (tgt := 12) dX5_takesMovers_68 (by decide) ?_
          first
            | (refine ih (p + 1, js_I (js_I (js_A M1 96 (cntN people p) (nI p)) 90 76 (nI (cntN people p + 1))) 90 77 (nI (10 ^ cntN people p * 10))) ⟨hkn, mI (mI (mA hX (by unfold msa; omega)) (by decide)) (by decide), ((hf.tr (jsm.A (by decide))).tr (jsm.I (by decide))).tr (jsm.I (by decide)), ?_, ?_, fun k hk => ?_⟩ (by dsimp only; omega)
               · dsimp only; rw [hh h_28]; rfl
               · dsimp only; rw [hh h_28, Nat.pow_succ]; rfl
               · dsimp only at hk ⊢
                 rw [hh h_28] at hk
                 by_cases e : k = cntN people p
                 · subst e; exact (jA_same (M := M1)).trans (by rw [show mvP people (cntN people p) = p from nth_of people hp5 p (by omega) h_28])
                 · exact (jA_oth (M := M1) e).trans (j3 k (by omega)))
            | (have e : cntN people (p + 1) = cntN people p := by rw [hs1, h_28]; rfl
               exact ih (p + 1, M1) ⟨hkn, hX, hf, by dsimp only; rw [e]; exact j1, by dsimp only; rw [e]; exact j2, by dsimp only; rw [e]; exact j3⟩ (by dsimp only; omega))
    · have hk' : p = V 0 1 := by omega
      subst hk'
      refine jw_iload_n (pc := 12) dX5_takesMovers_12 rfl ?_
      refine jw_aload_n (pc := 13) dX5_takesMovers_13 rfl ?_
      refine jx_getRs (pc := 14) (jf_X5_380_4.r) rfl dX5_takesMovers_14 rfl (is_90 hS) (by decide) (hs.r) ?_
      refine jx_getIs (pc := 17) (jf_X5_221_12.r) rfl dX5_takesMovers_17 rfl (wis hw) (by decide) (mi_nq hs.V) ?_
      first | refine jx_icmp_ge (pc := 20) (tgt := 71) dX5_takesMovers_20 (by decide) (by omega) (by omega) ?_ ?_ | refine jw_icmp_ge (pc := 20) (tgt := 71) dX5_takesMovers_20 (by decide) ?_ ?_
      · intro h_20
        refine jw_return (pc := 71) dX5_takesMovers_71 rfl ?_
        refine ⟨rfl, hX, hf, w, hs, ⟨hp, hc3, (hX.2.1.1.2 V hv9).1, (hX.2.1.2 V hv9).2.1, (hX.2.1.2 V hv9).2.2.2.1⟩, hN.1, hN.2.2.2.1, ?_, ?_, ?_⟩
        · rw [← hca]; exact j1
        · rw [← hca]; exact j2
        · rw [← hca]; exact j3
      · intro h_20
        omega
  refine jw_aload_n (pc := 0) dX5_takesMovers_0 rfl ?_
  refine jw_iconst (pc := 1) dX5_takesMovers_1 ic_0 ?_
  refine jx_putI (pc := 2) jf_X5_470_4 rfl dX5_takesMovers_2 rfl rfl (is_90 hS) (by decide) ?_
  refine jw_aload_n (pc := 5) dX5_takesMovers_5 rfl ?_
  refine jw_iconst (pc := 6) dX5_takesMovers_6 ic_1 ?_
  refine jx_putI (pc := 7) jf_X5_473_4 rfl dX5_takesMovers_7 rfl rfl (is_90 hS) (by decide) ?_
  refine jw_iconst (pc := 10) dX5_takesMovers_10 ic_0 ?_
  refine jw_istore_n (pc := 11) dX5_takesMovers_11 (Nat.le_of_ble_eq_true rfl) rfl ?_
  try dsimp only [jput1, jput2, jkill, jclr, jis2_i, jis2_l, jis2_rs, jis2_rn, cond]
  exact J (0, js_I (js_I M 90 76 (nI 0)) 90 77 (nI 1)) ⟨Nat.zero_le _, mI (mI h (by decide)) (by decide), (jsm.I (by decide)).tr (jsm.I (by decide)), rfl, rfl, fun k hk => absurd hk (Nat.not_lt_zero _)⟩
theorem t_X5_placeIn {c k : Nat} (h : jMk M w V τ people) (hc : c < 2 ^ 30) (hk : k < cnt people) : jE G mi_X5_placeIn 1 [jr (some 90), .int (nI c), .int (nI k)] M (some (.int (nI (dig 10 (cnt people) c k)))) M := by
  have hS := h.1.1
  have hc3 := h.2.1.2.1
  refine jE.of (by decide) rfl (Nat.le_of_ble_eq_true rfl) ?_
  have J : ∀ j : Nat, j ≤ cnt people - 1 - k → jW G mi_X5_placeIn 1 M 10 [some (jr (some 90)), some (.int (nI c)), some (.int (nI k)), some (.int (nI (c / 10 ^ j))), some (.int (nI (cnt people - j) - nI 1))] [] M (fun z M' => z = .inl (some (.int (nI (dig 10 (cnt people) c k)))) ∧ M' = M) := by
    refine jW.loop _ (fun j => cnt people - j) _ (fun _ => []) (fun _ => M) (fun j hj ih => ?_)
    have hl : c / 10 ^ j < 2 ^ 30 := Nat.lt_of_le_of_lt (Nat.div_le_self _ _) hc
    have e9 := zdec (a := cnt people - j) (by omega)
    rw [sub1 (by omega)] at e9
    rw [sub1 (by omega)]
    by_cases hkn : j < cnt people - 1 - k
    ·
      refine jw_iload (pc := 10) dX5_placeIn_10 rfl ?_
      refine jw_iload_n (pc := 12) dX5_placeIn_12 rfl ?_
      first | refine jx_icmp_le (pc := 13) (tgt := 27) dX5_placeIn_13 (by decide) (by omega) (by omega) ?_ ?_ | refine jw_icmp_le (pc := 13) (tgt := 27) dX5_placeIn_13 (by decide) ?_ ?_
      · intro h_13
        omega
      · intro h_13
        refine jw_iload_n (pc := 16) dX5_placeIn_16 rfl ?_
        refine jw_bipush (pc := 17) dX5_placeIn_17 bp_10 ?_
        refine jw_idiv (pc := 19) dX5_placeIn_19 (by decide) ?_
        rw [i_div (by omega) (by omega) (by omega), dvP]
        refine jw_istore_n (pc := 20) dX5_placeIn_20 (Nat.le_of_ble_eq_true rfl) rfl ?_
        try dsimp only [jput1, jput2, jkill, jclr, jis2_i, jis2_l, jis2_rs, jis2_rn, cond]
        refine jw_iinc (pc := 21) dX5_placeIn_21 rfl rfl rfl ?_
        try dsimp only [jput1, jkill, jclr, jis2_i, jis2_l, jis2_rs, jis2_rn, cond]
        refine jw_goto (pc := 24) (tgt := 10) dX5_placeIn_24 (by decide) ?_
        refine jW.eq ?_ rfl rfl (ih (j + 1) (by omega) (by omega))
        rw [e9, show cnt people - (j + 1) = cnt people - j - 1 by omega]
    · have hk' : j = cnt people - 1 - k := by omega
      subst hk'
      refine jw_iload (pc := 10) dX5_placeIn_10 rfl ?_
      refine jw_iload_n (pc := 12) dX5_placeIn_12 rfl ?_
      first | refine jx_icmp_le (pc := 13) (tgt := 27) dX5_placeIn_13 (by decide) (by omega) (by omega) ?_ ?_ | refine jw_icmp_le (pc := 13) (tgt := 27) dX5_placeIn_13 (by decide) ?_ ?_
      · intro h_13
        refine jw_iload_n (pc := 27) dX5_placeIn_27 rfl ?_
        refine jw_bipush (pc := 28) dX5_placeIn_28 bp_10 ?_
        refine jw_irem (pc := 30) dX5_placeIn_30 (by decide) ?_
        rw [i_rem (by omega) (by omega) (by omega)]
        refine jw_ireturn (pc := 31) dX5_placeIn_31 rfl (rfl) ?_
        exact ⟨rfl, rfl⟩
      · intro h_13
        omega
  refine jw_iload_n (pc := 0) dX5_placeIn_0 rfl ?_
  refine jw_istore_n (pc := 1) dX5_placeIn_1 (Nat.le_of_ble_eq_true rfl) rfl ?_
  try dsimp only [jput1, jput2, jkill, jclr, jis2_i, jis2_l, jis2_rs, jis2_rn, cond]
  refine jw_aload_n (pc := 2) dX5_placeIn_2 rfl ?_
  refine jx_getIs (pc := 3) (jf_X5_470_4.r) rfl dX5_placeIn_3 rfl (is_90 hS) (by decide) (h.2.2.2.2.1) ?_
  refine jw_iconst (pc := 6) dX5_placeIn_6 ic_1 ?_
  refine jw_isub (pc := 7) dX5_placeIn_7 ?_
  refine jw_istore (pc := 8) dX5_placeIn_8 (Nat.le_of_ble_eq_true rfl) rfl ?_
  try dsimp only [jput1, jput2, jkill, jclr, jis2_i, jis2_l, jis2_rs, jis2_rn, cond]
  refine jW.eq ?_ rfl rfl (J 0 (Nat.zero_le _))
  rw [Nat.pow_zero, Nat.div_one, Nat.sub_zero]; rfl
theorem t_X5_isState {c : Nat} (h : jMk M w V τ people) (hc : c < 2 ^ 30) : jE G mi_X5_isState 2 [jr (some 90), .int (nI c)] M (some (.int (jb (valB (V 0 0) (cnt people) c)))) M := by
  have hS := h.1.1
  have hs := h.1
  have hw := hs.s
  have hc3 := h.2.1.2.1
  have hnp := wf_np hs.w
  refine jE.of (by decide) rfl (Nat.le_of_ble_eq_true rfl) ?_
  have J : ∀ k : Nat, (k ≤ cnt people ∧ ∀ j, j < k → decide (dig 10 (cnt people) c j < V 0 0) = true) → jW G mi_X5_isState 2 M 2 [some (jr (some 90)), some (.int (nI c)), some (.int (nI k))] [] M (fun z M' => z = .inl (some (.int (jb (valB (V 0 0) (cnt people) c)))) ∧ M' = M) := by
    refine jW.loop _ (fun k => cnt people - k) _ (fun _ => []) (fun _ => M) (fun k hI ih => ?_)
    obtain ⟨hk, ha⟩ := hI
    by_cases hkn : k < cnt people
    · have hd := dig_lt (B := 10) (n := cnt people) (s := c) (k := k) (by decide)
      refine jw_iload_n (pc := 2) dX5_isState_2 rfl ?_
      refine jw_aload_n (pc := 3) dX5_isState_3 rfl ?_
      refine jx_getIs (pc := 4) (jf_X5_470_4.r) rfl dX5_isState_4 rfl (is_90 hS) (by decide) (h.2.2.2.2.1) ?_
      first | refine jx_icmp_ge (pc := 7) (tgt := 34) dX5_isState_7 (by decide) (by omega) (by omega) ?_ ?_ | refine jw_icmp_ge (pc := 7) (tgt := 34) dX5_isState_7 (by decide) ?_ ?_
      · intro h_7
        omega
      · intro h_7
        refine jw_aload_n (pc := 10) dX5_isState_10 rfl ?_
        refine jw_iload_n (pc := 11) dX5_isState_11 rfl ?_
        refine jw_iload_n (pc := 12) dX5_isState_12 rfl ?_
        refine jx_cVE (mi1 := mi_X5_placeIn) (pc := 13) rfl dX5_isState_13 lk_X5_476 rfl fi_X5_placeIn rfl rfl rfl (by decide) (is_90 hS) (t_X5_placeIn h hc hkn) (by first | decide | omega) rfl rfl (by decide) ?_
        refine jw_aload_n (pc := 16) dX5_isState_16 rfl ?_
        refine jx_getRs (pc := 17) (jf_X5_380_4.r) rfl dX5_isState_17 rfl (is_90 hS) (by decide) (hs.r) ?_
        refine jx_getIs (pc := 20) (jf_X5_218_12.r) rfl dX5_isState_20 rfl (wis hw) (by decide) (mi_np hs.V) ?_
        first | refine jx_icmp_lt (pc := 23) (tgt := 28) dX5_isState_23 (by decide) (by omega) (by omega) ?_ ?_ | refine jw_icmp_lt (pc := 23) (tgt := 28) dX5_isState_23 (by decide) ?_ ?_
        · intro h_23
          first | refine jx_iinc (pc := 28) dX5_isState_28 rfl rfl ?_ | refine jw_iinc (pc := 28) dX5_isState_28 rfl rfl rfl ?_
          try dsimp only [jput1, jkill, jclr, jis2_i, jis2_l, jis2_rs, jis2_rn, cond]
          refine jw_goto (pc := 31) (tgt := 2) dX5_isState_31 (by decide) ?_
          refine ih (k + 1) ⟨hkn, fun j hj => ?_⟩ (by omega)
          by_cases e : j = k
          · subst e; exact decide_eq_true (by omega)
          · exact ha j (by omega)
        · intro h_23
          refine jw_iconst (pc := 26) dX5_isState_26 ic_0 ?_
          refine jw_ireturn (pc := 27) dX5_isState_27 rfl (by first | exact jnar_b _ | exact jnar_0 | exact jnar_1 | decide +kernel) ?_
          refine ⟨?_, rfl⟩
          rw [show valB (V 0 0) (cnt people) c = false from allB_no hkn (decide_eq_false (by omega))]; rfl
    · have hk' : k = cnt people := by omega
      subst hk'
      refine jw_iload_n (pc := 2) dX5_isState_2 rfl ?_
      refine jw_aload_n (pc := 3) dX5_isState_3 rfl ?_
      refine jx_getIs (pc := 4) (jf_X5_470_4.r) rfl dX5_isState_4 rfl (is_90 hS) (by decide) (h.2.2.2.2.1) ?_
      first | refine jx_icmp_ge (pc := 7) (tgt := 34) dX5_isState_7 (by decide) (by omega) (by omega) ?_ ?_ | refine jw_icmp_ge (pc := 7) (tgt := 34) dX5_isState_7 (by decide) ?_ ?_
      · intro h_7
        refine jw_iconst (pc := 34) dX5_isState_34 ic_1 ?_
        refine jw_ireturn (pc := 35) dX5_isState_35 rfl (by first | exact jnar_b _ | exact jnar_0 | exact jnar_1 | decide +kernel) ?_
        refine ⟨?_, rfl⟩
        rw [show valB (V 0 0) (cnt people) c = true from allB_iff.mpr ha]; rfl
      · intro h_7
        omega
  refine jw_iconst (pc := 0) dX5_isState_0 ic_0 ?_
  refine jw_istore_n (pc := 1) dX5_isState_1 (Nat.le_of_ble_eq_true rfl) rfl ?_
  try dsimp only [jput1, jput2, jkill, jclr, jis2_i, jis2_l, jis2_rs, jis2_rn, cond]
  exact J 0 ⟨Nat.zero_le _, fun j hj => absurd hj (Nat.not_lt_zero _)⟩
theorem t_X5_isStepTo {a c : Nat} (h : jMk M w V τ people) (ha : a < 2 ^ 30) (hc : c < 2 ^ 30) (hva : valB (V 0 0) (cnt people) a = true) : jE G mi_X5_isStepTo 2 [jr (some 90), .int (nI a), .int (nI c)] M (some (.int (jb (linkC V people a c)))) M := by
  have hS := h.1.1
  have hs := h.1
  have hw := hs.s
  have hc3 := h.2.1.2.1
  have hnp := wf_np hs.w
  have hv3 := fun k hk => of_decide_eq_true (allB_iff.mp hva k hk)
  refine jE.of (by decide) rfl (Nat.le_of_ble_eq_true rfl) ?_
  have J : ∀ k : Nat, (k ≤ cnt people ∧ ∀ j, j < k → linkB V (dig 10 (cnt people) a j) (dig 10 (cnt people) c j) = true) → jW G mi_X5_isStepTo 2 M 2 [some (jr (some 90)), some (.int (nI a)), some (.int (nI c)), some (.int (nI k)), none, none] [] M (fun z M' => z = .inl (some (.int (jb (linkC V people a c)))) ∧ M' = M) := by
    refine jW.loop _ (fun k => cnt people - k) _ (fun _ => []) (fun _ => M) (fun k hI ih => ?_)
    obtain ⟨hk, ha2⟩ := hI
    by_cases hkn : k < cnt people
    · have hd := dig_lt (B := 10) (n := cnt people) (s := c) (k := k) (by decide)
      have hda : dig 10 (cnt people) a k < V 0 0 := hv3 k hkn
      have hnr := near_lt hs.w hda
      have nx : linkB V (dig 10 (cnt people) a k) (dig 10 (cnt people) c k) = true → ∀ j, j < k + 1 → linkB V (dig 10 (cnt people) a j) (dig 10 (cnt people) c j) = true := fun q j hj => by
        by_cases e : j = k
        · subst e; exact q
        · exact ha2 j (by omega)
      refine jw_iload_n (pc := 2) dX5_isStepTo_2 rfl ?_
      refine jw_aload_n (pc := 3) dX5_isStepTo_3 rfl ?_
      refine jx_getIs (pc := 4) (jf_X5_470_4.r) rfl dX5_isStepTo_4 rfl (is_90 hS) (by decide) (h.2.2.2.2.1) ?_
      first | refine jx_icmp_ge (pc := 7) (tgt := 58) dX5_isStepTo_7 (by decide) (by omega) (by omega) ?_ ?_ | refine jw_icmp_ge (pc := 7) (tgt := 58) dX5_isStepTo_7 (by decide) ?_ ?_
      · intro h_7
        omega
      · intro h_7
        refine jw_aload_n (pc := 10) dX5_isStepTo_10 rfl ?_
        refine jw_iload_n (pc := 11) dX5_isStepTo_11 rfl ?_
        refine jw_iload_n (pc := 12) dX5_isStepTo_12 rfl ?_
        refine jx_cVE (mi1 := mi_X5_placeIn) (pc := 13) rfl dX5_isStepTo_13 lk_X5_476 rfl fi_X5_placeIn rfl rfl rfl (by decide) (is_90 hS) (t_X5_placeIn h ha hkn) (by first | decide | omega) rfl rfl (by decide) ?_
        refine jw_istore (pc := 16) dX5_isStepTo_16 (Nat.le_of_ble_eq_true rfl) rfl ?_
        try dsimp only [jput1, jput2, jkill, jclr, jis2_i, jis2_l, jis2_rs, jis2_rn, cond]
        refine jw_aload_n (pc := 18) dX5_isStepTo_18 rfl ?_
        refine jw_iload_n (pc := 19) dX5_isStepTo_19 rfl ?_
        refine jw_iload_n (pc := 20) dX5_isStepTo_20 rfl ?_
        refine jx_cVE (mi1 := mi_X5_placeIn) (pc := 21) rfl dX5_isStepTo_21 lk_X5_476 rfl fi_X5_placeIn rfl rfl rfl (by decide) (is_90 hS) (t_X5_placeIn h hc hkn) (by first | decide | omega) rfl rfl (by decide) ?_
        refine jw_istore (pc := 24) dX5_isStepTo_24 (Nat.le_of_ble_eq_true rfl) rfl ?_
        try dsimp only [jput1, jput2, jkill, jclr, jis2_i, jis2_l, jis2_rs, jis2_rn, cond]
        refine jw_iload (pc := 26) dX5_isStepTo_26 rfl ?_
        refine jw_iload (pc := 28) dX5_isStepTo_28 rfl ?_
        first | refine jx_icmp_eq (pc := 30) (tgt := 52) dX5_isStepTo_30 (by decide) (by omega) (by omega) ?_ ?_ | refine jw_icmp_eq (pc := 30) (tgt := 52) dX5_isStepTo_30 (by decide) ?_ ?_
        · intro h_30
          first | refine jx_iinc (pc := 52) dX5_isStepTo_52 rfl rfl ?_ | refine jw_iinc (pc := 52) dX5_isStepTo_52 rfl rfl rfl ?_
          try dsimp only [jput1, jkill, jclr, jis2_i, jis2_l, jis2_rs, jis2_rn, cond]
          refine jw_goto (pc := 55) (tgt := 2) dX5_isStepTo_55 (by decide) ?_
          refine jW.sub ?_ (ih (k + 1) ⟨hkn, nx ?_⟩ (by omega))
          · exact ⟨rfl, rfl, rfl, rfl, trivial⟩
          · unfold linkB
            first
              | rw [h_47, Bool.or_true]
              | (rw [decide_eq_true (show dig 10 (cnt people) a k = dig 10 (cnt people) c k by omega)]; rfl)
        · intro h_30
          refine jw_aload_n (pc := 33) dX5_isStepTo_33 rfl ?_
          refine jx_getRs (pc := 34) (jf_X5_380_4.r) rfl dX5_isStepTo_34 rfl (is_90 hS) (by decide) (hs.r) ?_
          refine jw_iload (pc := 37) dX5_isStepTo_37 rfl ?_
          refine jx_cVE (mi1 := mi_X14_near) (pc := 39) rfl dX5_isStepTo_39 lk_X5_449 rfl fi_X14_near rfl rfl rfl (by decide) (wis hw) (t_X14_near hs.V hs.w hda) (by first | decide | omega) rfl rfl (by decide) ?_
          refine jw_iload (pc := 42) dX5_isStepTo_42 rfl ?_
          refine jx_cSE (mi1 := mi_X5_has) (pc := 44) rfl dX5_isStepTo_44 lk_X5_398 rfl fi_X5_has (t_X5_has (by omega) (by omega)) (by first | decide | omega) rfl rfl (by decide) ?_
          first | refine jx_ifb_ne (pc := 47) (tgt := 52) dX5_isStepTo_47 (by decide) ?_ ?_ | refine jx_if_ne (pc := 47) (tgt := 52) dX5_isStepTo_47 (by decide) (by omega) ?_ ?_ | refine jw_if_ne (pc := 47) (tgt := 52) dX5_isStepTo_47 (by decide) ?_ ?_
          · intro h_47
            first | refine jx_iinc (pc := 52) dX5_isStepTo_52 rfl rfl ?_ | refine jw_iinc (pc := 52) dX5_isStepTo_52 rfl rfl rfl ?_
            try dsimp only [jput1, jkill, jclr, jis2_i, jis2_l, jis2_rs, jis2_rn, cond]
            refine jw_goto (pc := 55) (tgt := 2) dX5_isStepTo_55 (by decide) ?_
            refine jW.sub ?_ (ih (k + 1) ⟨hkn, nx ?_⟩ (by omega))
            · exact ⟨rfl, rfl, rfl, rfl, trivial⟩
            · unfold linkB
              first
                | rw [h_47, Bool.or_true]
                | (rw [decide_eq_true (show dig 10 (cnt people) a k = dig 10 (cnt people) c k by omega)]; rfl)
          · intro h_47
            refine jw_iconst (pc := 50) dX5_isStepTo_50 ic_0 ?_
            refine jw_ireturn (pc := 51) dX5_isStepTo_51 rfl (by first | exact jnar_b _ | exact jnar_0 | exact jnar_1 | decide +kernel) ?_
            refine ⟨?_, rfl⟩
            rw [show linkC V people a c = false from allB_no hkn (by unfold linkB; rw [h_47, decide_eq_false (by omega)]; rfl)]; rfl
    · have hk' : k = cnt people := by omega
      subst hk'
      refine jw_iload_n (pc := 2) dX5_isStepTo_2 rfl ?_
      refine jw_aload_n (pc := 3) dX5_isStepTo_3 rfl ?_
      refine jx_getIs (pc := 4) (jf_X5_470_4.r) rfl dX5_isStepTo_4 rfl (is_90 hS) (by decide) (h.2.2.2.2.1) ?_
      first | refine jx_icmp_ge (pc := 7) (tgt := 58) dX5_isStepTo_7 (by decide) (by omega) (by omega) ?_ ?_ | refine jw_icmp_ge (pc := 7) (tgt := 58) dX5_isStepTo_7 (by decide) ?_ ?_
      · intro h_7
        refine jw_iconst (pc := 58) dX5_isStepTo_58 ic_1 ?_
        refine jw_ireturn (pc := 59) dX5_isStepTo_59 rfl (by first | exact jnar_b _ | exact jnar_0 | exact jnar_1 | decide +kernel) ?_
        refine ⟨?_, rfl⟩
        rw [show linkC V people a c = true from allB_iff.mpr ha2]; rfl
      · intro h_7
        omega
  refine jw_iconst (pc := 0) dX5_isStepTo_0 ic_0 ?_
  refine jw_istore_n (pc := 1) dX5_isStepTo_1 (Nat.le_of_ble_eq_true rfl) rfl ?_
  try dsimp only [jput1, jput2, jkill, jclr, jis2_i, jis2_l, jis2_rs, jis2_rn, cond]
  exact J 0 ⟨Nat.zero_le _, fun j hj => absurd hj (Nat.not_lt_zero _)⟩
end JMM
