/-! ===== the tape is fed ===== -/
def sg1 (σ : Sg) (v : Int32) : Sg := sgN (sgB σ 0 (fun k => if k = sn σ 2 then v else sb σ 0 k)) 2 (sn σ 2 + 1)
def byt (w : Int32) (k : Nat) : Int32 := (w >>> (nI (24 - 8 * k) &&& 31)).toInt8.toInt32
theorem byt_8 (w : Int32) (k : Nat) : (byt w k).toInt8.toInt32 = byt w k := by unfold byt; simp
theorem sg1_n (σ : Sg) (v : Int32) : sn (sg1 σ v) 2 = sn σ 2 + 1 := rfl
theorem jSo.sg1 {σ : Sg} {v : Int32} (h : jSo σ) (hn : sn σ 2 < 900) : jSo (sg1 σ v) := ⟨⟨show sn σ 2 + 1 ≤ 900 by omega, h.1.2⟩, h.2⟩
theorem xfeed1 {M : Mm} {σ : Sg} {v : Int32} (h : jXx M σ) (hn : sn σ 2 < 900) : jXx (js_I (js_A M 65 (sn σ 2) v) 64 1 (nI (sn σ 2 + 1))) (sg1 σ v) := by
  obtain ⟨h1, h2, h3, h8, h9, h10⟩ := h
  have g : jsm (fun a => a = 64 ∨ a = 65) M (js_I (js_A M 65 (sn σ 2) v) 64 1 (nI (sn σ 2 + 1))) := (jsm.A (E := fun a => a = 64 ∨ a = 65) (Or.inr rfl)).tr (jsm.I (E := fun a => a = 64 ∨ a = 65) (Or.inl rfl))
  refine ⟨h1, h2.sg1 hn, ⟨rfl, h3.2⟩, fun k hk => ?_, h9, fun V hV => ?_⟩
  · show jm_A (js_A M 65 (sn σ 2) v) 65 k = if k = sn σ 2 then v else sb σ 0 k
    by_cases e : k = sn σ 2
    · rw [if_pos e, e, jA_same]
    · rw [if_neg e, jA_oth e]; exact h8 k hk
  · obtain ⟨v', q1, q2⟩ := h10 V hV
    refine ⟨v', q1.fr g h1 (fun a ha q => by omega) rfl (by decide) (by decide) (by decide) (by decide), q2.1, q2.2.1, q2.2.2.1, fun p hp => (jA_oth2 (by decide)).trans (q2.2.2.2.1 p hp), fun p t hp ht => (jA_oth2 (by decide)).trans (q2.2.2.2.2.1 p t hp ht), fun k hk => (jA_oth2 (by decide)).trans (q2.2.2.2.2.2 k hk)⟩
theorem mfeed1 {M : Mm} {σ : Sg} {v : Int32} (h : jMm M σ) (hn : sn σ 2 < 900) : jMm (js_I (js_A M 91 (sn σ 2) v) 90 55 (nI (sn σ 2 + 1))) (sg1 σ v) := by
  obtain ⟨h1, h2, h3, h4, h8, h9, h10⟩ := h
  have g : jsm (fun a => a = 90 ∨ a = 91) M (js_I (js_A M 91 (sn σ 2) v) 90 55 (nI (sn σ 2 + 1))) := (jsm.A (E := fun a => a = 90 ∨ a = 91) (Or.inr rfl)).tr (jsm.I (E := fun a => a = 90 ∨ a = 91) (Or.inl rfl))
  refine ⟨h1, h2.sg1 hn, ⟨rfl, h3.2⟩, h4, fun k hk => ?_, h9, fun V hV => ?_⟩
  · show jm_A (js_A M 91 (sn σ 2) v) 91 k = if k = sn σ 2 then v else sb σ 0 k
    by_cases e : k = sn σ 2
    · rw [if_pos e, e, jA_same]
    · rw [if_neg e, jA_oth e]; exact h8 k hk
  · obtain ⟨w, ⟨q1, q2, q3, q4, q5, q6⟩, n1, n2, n3, n4, n5, mv, n6, n7, n8⟩ := h10 V hV
    refine ⟨w, ⟨h1, q2, q3.sm g (fun a ha q => by omega), q4, q5, q6⟩, n1, n2, n3, fun p hp => (jA_oth2 (by decide)).trans (n4 p hp), fun p t hp ht => (jA_oth2 (by decide)).trans (n5 p t hp ht), mv, n6, n7, fun p n hp e1 e2 i hi => ?_⟩
    rw [show jm_A (js_I (js_A M 91 (sn σ 2) v) 90 55 (nI (sn σ 2 + 1))) 100 (5 * i + p) = jm_A M 100 (5 * i + p) from jA_oth2 (by decide)]
    exact n8 p n hp e1 e2 i hi
def sgW (σ : Sg) (w : Int32) : Sg := sg1 (sg1 (sg1 (sg1 σ (byt w 0)) (byt w 1)) (byt w 2)) (byt w 3)
def wrd (a b c d e : Int32) (i : Nat) : Int32 := if i < 4 then a else if i < 8 then b else if i < 12 then c else if i < 16 then d else e
def fdN (σ : Sg) (a b c d e : Int32) (n : Nat) : Sg := match n with
  | 0 => σ
  | n + 1 => sg1 (fdN σ a b c d e n) (byt (wrd a b c d e n) (n % 4))
def o_feed (σ : Sg) (a b c d e : Int32) : Int32 × Sg := if sn σ 2 + 20 ≤ 900 then (nI (sn σ 2 + 20), sgW (sgW (sgW (sgW (sgW σ a) b) c) d) e) else (-1, σ)
theorem fd_20 (σ : Sg) (a b c d e : Int32) : fdN σ a b c d e 20 = sgW (sgW (sgW (sgW (sgW σ a) b) c) d) e := rfl
section JFD
variable {G : Gh} {M : Mm} {σ : Sg}
theorem t_X1_bytes {w : Int32} (h : jXx M σ) (hn : sn σ 2 + 4 ≤ 900) : jT G mi_X1_bytes 1 [jr (some 64), .int w] M (jPv (fun M' => jXx M' (sgW σ w) ∧ jfx M M')) := by
  have hS := h.1
  have st : ∀ (k : Nat) (τ : Sg) (M1 : Mm), k < 4 → jXx M1 τ → sn τ 2 < 900 → jfx M M1 → (∀ M2, jXx M2 (sg1 τ (byt w k)) → jfx M M2 → jW G mi_X1_bytes 1 M 3 [some (jr (some 64)), some (.int w), some (.int (nI (24 - 8 * k) + Int32.ofInt (-8)))] [] M2 (jPv (fun M' => jXx M' (sgW σ w) ∧ jfx M M'))) → jW G mi_X1_bytes 1 M 3 [some (jr (some 64)), some (.int w), some (.int (nI (24 - 8 * k)))] [] M1 (jPv (fun M' => jXx M' (sgW σ w) ∧ jfx M M')) := by
    intro k τ M1 hk hX ht hf kk
    have hS := hX.1
    have hx := xfeed1 (v := byt w k) hX ht
    have hfe : jfx M (js_I (js_A M1 65 (sn τ 2) (byt w k)) 64 1 (nI (sn τ 2 + 1))) := (hf.tr (jsm.A (by decide))).tr (jsm.I (by decide))
    have hN := hX.2.2.1.1
    refine jw_iload_n (pc := 3) dX1_bytes_3 rfl ?_
    refine jw_if_lt (pc := 4) (tgt := 36) dX1_bytes_4 (by decide) ?_ ?_
    · intro h_4
      exact absurd h_4 (nI_nn (by omega))
    · intro h_4
      refine jw_aload_n (pc := 7) dX1_bytes_7 rfl ?_
      refine jx_getRs (pc := 8) (jf_X1_9_0.r) rfl dX1_bytes_8 rfl (is_64 hS) (by decide) (sr_64_0 hS) ?_
      refine jw_aload_n (pc := 11) dX1_bytes_11 rfl ?_
      refine jx_getIs (pc := 12) (jf_X1_87_0.r) rfl dX1_bytes_12 rfl (is_64 hS) (by decide) (hN) ?_
      refine jw_iload_n (pc := 15) dX1_bytes_15 rfl ?_
      refine jw_iload_n (pc := 16) dX1_bytes_16 rfl ?_
      refine jw_ishr (pc := 17) dX1_bytes_17 ?_
      refine jw_i2b (pc := 18) dX1_bytes_18 (rfl) ?_
      refine jx_bast (pc := 19) dX1_bytes_19 (by decide) (ok_65 hS) (nn_65 hS) rfl (by omega) (by exact byt_8 w k) ?_
      refine jw_aload_n (pc := 20) dX1_bytes_20 rfl ?_
      refine jw_dup (pc := 21) dX1_bytes_21 (jis2_r _) ?_
      refine jx_getIs (pc := 22) (jf_X1_87_0.r) rfl dX1_bytes_22 rfl (is_64 hS) (by decide) (hN) ?_
      refine jw_iconst (pc := 25) dX1_bytes_25 ic_1 ?_
      first | refine jx_iadd (pc := 26) dX1_bytes_26 ?_ | refine jw_iadd (pc := 26) dX1_bytes_26 ?_
      refine jx_putI (pc := 27) jf_X1_87_0 rfl dX1_bytes_27 rfl rfl (is_64 hS) (by decide) ?_
      refine jw_iinc (pc := 30) dX1_bytes_30 rfl rfl rfl ?_
      try dsimp only [jput1, jkill, jclr, jis2_i, jis2_l, jis2_rs, jis2_rn, cond]
      refine jw_goto (pc := 33) (tgt := 3) dX1_bytes_33 (by decide) ?_
      exact kk _ hx hfe
  have fin : ∀ M2, jXx M2 (sgW σ w) → jfx M M2 → jW G mi_X1_bytes 1 M 3 [some (jr (some 64)), some (.int w), some (.int (nI (24 - 8 * 3) + Int32.ofInt (-8)))] [] M2 (jPv (fun M' => jXx M' (sgW σ w) ∧ jfx M M')) := by
    intro M2 hX hf
    have hS := hX.1
    refine jw_iload_n (pc := 3) dX1_bytes_3 rfl ?_
    refine jw_if_lt (pc := 4) (tgt := 36) dX1_bytes_4 (by decide) ?_ ?_
    · intro h_4
      refine jw_return (pc := 36) dX1_bytes_36 rfl ?_
      exact ⟨rfl, hX, hf⟩
    · intro h_4
      exact absurd (by decide +kernel) h_4
  refine jT.of (by decide) rfl (Nat.le_of_ble_eq_true rfl) ?_
  refine jw_bipush (pc := 0) dX1_bytes_0 bp_24 ?_
  refine jw_istore_n (pc := 2) dX1_bytes_2 (Nat.le_of_ble_eq_true rfl) rfl ?_
  try dsimp only [jput1, jput2, jkill, jclr, jis2_i, jis2_l, jis2_rs, jis2_rn, cond]
  refine st 0 σ M (by decide) h (by omega) jsm.rf (fun M2 a1 b1 => ?_)
  refine jW.eq (by rw [show nI (24 - 8 * 0) + Int32.ofInt (-8) = nI (24 - 8 * 1) by decide +kernel]) rfl rfl (st 1 _ M2 (by decide) a1 (by rw [sg1_n]; omega) b1 (fun M3 a2 b2 => ?_))
  refine jW.eq (by rw [show nI (24 - 8 * 1) + Int32.ofInt (-8) = nI (24 - 8 * 2) by decide +kernel]) rfl rfl (st 2 _ M3 (by decide) a2 (by rw [sg1_n, sg1_n]; omega) b2 (fun M4 a3 b3 => ?_))
  refine jW.eq (by rw [show nI (24 - 8 * 2) + Int32.ofInt (-8) = nI (24 - 8 * 3) by decide +kernel]) rfl rfl (st 3 _ M4 (by decide) a3 (by rw [sg1_n, sg1_n, sg1_n]; omega) b3 (fun M5 a4 b4 => ?_))
  exact fin M5 a4 b4
theorem sgW_n (σ : Sg) (w : Int32) : sn (sgW σ w) 2 = sn σ 2 + 4 := rfl
theorem t_X1_feed {a b c d e : Int32} (h : jXx M σ) : jT G mi_X1_feed 9 [jr (some 64), .int a, .int b, .int c, .int d, .int e] M (jOx M (o_feed σ a b c d e)) := by
  have hS := h.1
  have h9 := h.2.1.1.1
  have hN := h.2.2.1.1
  refine jT.of (by decide) rfl (Nat.le_of_ble_eq_true rfl) ?_
  refine jw_aload_n (pc := 0) dX1_feed_0 rfl ?_
  refine jx_getIs (pc := 1) (jf_X1_87_0.r) rfl dX1_feed_1 rfl (is_64 hS) (by decide) (hN) ?_
  refine jw_bipush (pc := 4) dX1_feed_4 bp_20 ?_
  first | refine jx_iadd (pc := 6) dX1_feed_6 ?_ | refine jw_iadd (pc := 6) dX1_feed_6 ?_
  refine jw_sipush (pc := 7) dX1_feed_7 sp_900 ?_
  first | refine jx_icmp_le (pc := 10) (tgt := 15) dX1_feed_10 (by decide) (by omega) (by omega) ?_ ?_ | refine jw_icmp_le (pc := 10) (tgt := 15) dX1_feed_10 (by decide) ?_ ?_
  · intro h_10
    refine jw_aload_n (pc := 15) dX1_feed_15 rfl ?_
    refine jw_iload_n (pc := 16) dX1_feed_16 rfl ?_
    refine jx_cVv (mi1 := mi_X1_bytes) (pc := 17) rfl dX1_feed_17 lk_X1_90 rfl fi_X1_bytes rfl rfl rfl (by decide) (is_64 hS) (t_X1_bytes h (by omega)) (by first | decide | omega) rfl rfl (by decide) ?_
    intro M_17 q_17
    obtain ⟨a1, b1⟩ := q_17
    have hS := a1.1
    refine jw_aload_n (pc := 20) dX1_feed_20 rfl ?_
    refine jw_iload_n (pc := 21) dX1_feed_21 rfl ?_
    refine jx_cVv (mi1 := mi_X1_bytes) (pc := 22) rfl dX1_feed_22 lk_X1_90 rfl fi_X1_bytes rfl rfl rfl (by decide) (is_64 hS) (t_X1_bytes a1 (by rw [sgW_n]; omega)) (by first | decide | omega) rfl rfl (by decide) ?_
    intro M_22 q_22
    obtain ⟨a2, b2⟩ := q_22
    have hS := a2.1
    refine jw_aload_n (pc := 25) dX1_feed_25 rfl ?_
    refine jw_iload_n (pc := 26) dX1_feed_26 rfl ?_
    refine jx_cVv (mi1 := mi_X1_bytes) (pc := 27) rfl dX1_feed_27 lk_X1_90 rfl fi_X1_bytes rfl rfl rfl (by decide) (is_64 hS) (t_X1_bytes a2 (by rw [sgW_n, sgW_n]; omega)) (by first | decide | omega) rfl rfl (by decide) ?_
    intro M_27 q_27
    obtain ⟨a3, b3⟩ := q_27
    have hS := a3.1
    refine jw_aload_n (pc := 30) dX1_feed_30 rfl ?_
    refine jw_iload (pc := 31) dX1_feed_31 rfl ?_
    refine jx_cVv (mi1 := mi_X1_bytes) (pc := 33) rfl dX1_feed_33 lk_X1_90 rfl fi_X1_bytes rfl rfl rfl (by decide) (is_64 hS) (t_X1_bytes a3 (by rw [sgW_n, sgW_n, sgW_n]; omega)) (by first | decide | omega) rfl rfl (by decide) ?_
    intro M_33 q_33
    obtain ⟨a4, b4⟩ := q_33
    have hS := a4.1
    refine jw_aload_n (pc := 36) dX1_feed_36 rfl ?_
    refine jw_iload (pc := 37) dX1_feed_37 rfl ?_
    refine jx_cVv (mi1 := mi_X1_bytes) (pc := 39) rfl dX1_feed_39 lk_X1_90 rfl fi_X1_bytes rfl rfl rfl (by decide) (is_64 hS) (t_X1_bytes a4 (by rw [sgW_n, sgW_n, sgW_n, sgW_n]; omega)) (by first | decide | omega) rfl rfl (by decide) ?_
    intro M_39 q_39
    obtain ⟨a5, b5⟩ := q_39
    have hS := a5.1
    have hN := a5.2.2.1.1
    refine jw_aload_n (pc := 42) dX1_feed_42 rfl ?_
    refine jx_getIs (pc := 43) (jf_X1_87_0.r) rfl dX1_feed_43 rfl (is_64 hS) (by decide) (hN) ?_
    refine jw_ireturn (pc := 46) dX1_feed_46 rfl (rfl) ?_
    refine ⟨_, rfl, ?_⟩
    unfold o_feed; rw [if_pos (by omega)]
    exact ⟨rfl, a5, b1.tr (b2.tr (b3.tr (b4.tr b5)))⟩
  · intro h_10
    refine jw_iconst (pc := 13) dX1_feed_13 ic_m1 ?_
    refine jw_ireturn (pc := 14) dX1_feed_14 rfl (rfl) ?_
    refine ⟨_, rfl, ?_⟩
    unfold o_feed; rw [if_neg (by omega)]
    exact ⟨rfl, h, jsm.rf⟩
theorem fd_n (σ : Sg) (a b c d e : Int32) : ∀ n, sn (fdN σ a b c d e n) 2 = sn σ 2 + n := by
  intro n
  induction n with
  | zero => rfl
  | succ n ih => show sn (fdN σ a b c d e n) 2 + 1 = _; rw [ih, Nat.add_assoc]
theorem t_X5_feed {a b c d e : Int32} (h : jMm M σ) : jT G mi_X5_feed 9 [jr (some 90), .int a, .int b, .int c, .int d, .int e] M (jOm M (o_feed σ a b c d e)) := by
  have hS := h.1
  have h9 := h.2.1.1.1
  have J : sn σ 2 + 20 ≤ 900 → ∀ x : Nat × Mm, (x.1 ≤ 20 ∧ jMm x.2 (fdN σ a b c d e x.1) ∧ jfm M x.2) → jW G mi_X5_feed 9 M 23 [some (jr (some 90)), some (.int a), some (.int b), some (.int c), some (.int d), some (.int e), some (.int (nI x.1)), none] [] x.2 (jOm M (o_feed σ a b c d e)) := by
    intro h20
    refine jW.loop (σ := Nat × Mm) _ (fun x => 20 - x.1) _ (fun _ => []) (fun x => x.2) (fun x hI ih => ?_)
    obtain ⟨n, M1⟩ := x
    obtain ⟨hn, hX, hf⟩ := hI
    dsimp only at hn hX hf ih ⊢
    have hS := hX.1
    have hN := hX.2.2.1.1
    have e9 := fd_n σ a b c d e n
    by_cases hkn : n < 20
    · have hx := mfeed1 (v := byt (wrd a b c d e n) (n % 4)) hX (by omega)
      have hfe : jfm M (js_I (js_A M1 91 (sn (fdN σ a b c d e n) 2) (byt (wrd a b c d e n) (n % 4))) 90 55 (nI (sn (fdN σ a b c d e n) 2 + 1))) := (hf.tr (jsm.A (by decide))).tr (jsm.I (by decide))
      have L76 : jW G mi_X5_feed 9 M 76 [some (jr (some 90)), some (.int a), some (.int b), some (.int c), some (.int d), some (.int e), some (.int (nI n)), none] [.int (wrd a b c d e n)] M1 (jOm M (o_feed σ a b c d e)) := by
        have hsh : nI 24 - nI (8 * (n % 4)) = nI (24 - 8 * (n % 4)) := pk_sub (by omega)
        refine jw_istore (pc := 76) dX5_feed_76 (Nat.le_of_ble_eq_true rfl) rfl ?_
        try dsimp only [jput1, jput2, jkill, jclr, jis2_i, jis2_l, jis2_rs, jis2_rn, cond]
        refine jw_aload_n (pc := 78) dX5_feed_78 rfl ?_
        refine jx_getRs (pc := 79) (jf_X5_13_4.r) rfl dX5_feed_79 rfl (is_90 hS) (by decide) (sr_90_54 hS) ?_
        refine jw_aload_n (pc := 82) dX5_feed_82 rfl ?_
        refine jx_getIs (pc := 83) (jf_X5_373_4.r) rfl dX5_feed_83 rfl (is_90 hS) (by decide) (hN) ?_
        refine jw_iload (pc := 86) dX5_feed_86 rfl ?_
        refine jw_bipush (pc := 88) dX5_feed_88 bp_24 ?_
        refine jw_bipush (pc := 90) dX5_feed_90 bp_8 ?_
        refine jw_iload (pc := 92) dX5_feed_92 rfl ?_
        refine jw_iconst (pc := 94) dX5_feed_94 ic_4 ?_
        refine jw_irem (pc := 95) dX5_feed_95 (by decide) ?_
        rw [i_rem (by omega) (by omega) (by decide)]
        first | refine jx_imul (pc := 96) dX5_feed_96 ?_ | refine jw_imul (pc := 96) dX5_feed_96 ?_
        refine jw_isub (pc := 97) dX5_feed_97 ?_
        rw [hsh]
        refine jw_ishr (pc := 98) dX5_feed_98 ?_
        refine jw_i2b (pc := 99) dX5_feed_99 (rfl) ?_
        refine jx_bast (pc := 100) dX5_feed_100 (by decide) (ok_91 hS) (nn_91 hS) rfl (by omega) (by exact byt_8 _ _) ?_
        refine jw_aload_n (pc := 101) dX5_feed_101 rfl ?_
        refine jw_dup (pc := 102) dX5_feed_102 (jis2_r _) ?_
        refine jx_getIs (pc := 103) (jf_X5_373_4.r) rfl dX5_feed_103 rfl (is_90 hS) (by decide) (hN) ?_
        refine jw_iconst (pc := 106) dX5_feed_106 ic_1 ?_
        first | refine jx_iadd (pc := 107) dX5_feed_107 ?_ | refine jw_iadd (pc := 107) dX5_feed_107 ?_
        refine jx_putI (pc := 108) jf_X5_373_4 rfl dX5_feed_108 rfl rfl (is_90 hS) (by decide) ?_
        first | refine jx_iinc (pc := 111) dX5_feed_111 rfl rfl ?_ | refine jw_iinc (pc := 111) dX5_feed_111 rfl rfl rfl ?_
        try dsimp only [jput1, jkill, jclr, jis2_i, jis2_l, jis2_rs, jis2_rn, cond]
        refine jw_goto (pc := 114) (tgt := 23) dX5_feed_114 (by decide) ?_
        refine jW.sub ?_ (ih (n + 1, _) ⟨hkn, hx, hfe⟩ (by dsimp only; omega))
        exact ⟨rfl, rfl, rfl, rfl, rfl, rfl, rfl, trivial⟩
      refine jw_iload (pc := 23) dX5_feed_23 rfl ?_
      refine jw_bipush (pc := 25) dX5_feed_25 bp_20 ?_
      first | refine jx_icmp_ge (pc := 27) (tgt := 117) dX5_feed_27 (by decide) (by omega) (by omega) ?_ ?_ | refine jw_icmp_ge (pc := 27) (tgt := 117) dX5_feed_27 (by decide) ?_ ?_
      · intro h_27
        omega
      · intro h_27
        refine jw_iload (pc := 30) dX5_feed_30 rfl ?_
        refine jw_iconst (pc := 32) dX5_feed_32 ic_4 ?_
        first | refine jx_icmp_ge (pc := 33) (tgt := 40) dX5_feed_33 (by decide) (by omega) (by omega) ?_ ?_ | refine jw_icmp_ge (pc := 33) (tgt := 40) dX5_feed_33 (by decide) ?_ ?_
        · intro h_33
          refine jw_iload (pc := 40) dX5_feed_40 rfl ?_
          refine jw_bipush (pc := 42) dX5_feed_42 bp_8 ?_
          first | refine jx_icmp_ge (pc := 44) (tgt := 51) dX5_feed_44 (by decide) (by omega) (by omega) ?_ ?_ | refine jw_icmp_ge (pc := 44) (tgt := 51) dX5_feed_44 (by decide) ?_ ?_
          · intro h_44
            refine jw_iload (pc := 51) dX5_feed_51 rfl ?_
            refine jw_bipush (pc := 53) dX5_feed_53 bp_12 ?_
            first | refine jx_icmp_ge (pc := 55) (tgt := 62) dX5_feed_55 (by decide) (by omega) (by omega) ?_ ?_ | refine jw_icmp_ge (pc := 55) (tgt := 62) dX5_feed_55 (by decide) ?_ ?_
            · intro h_55
              refine jw_iload (pc := 62) dX5_feed_62 rfl ?_
              refine jw_bipush (pc := 64) dX5_feed_64 bp_16 ?_
              first | refine jx_icmp_ge (pc := 66) (tgt := 74) dX5_feed_66 (by decide) (by omega) (by omega) ?_ ?_ | refine jw_icmp_ge (pc := 66) (tgt := 74) dX5_feed_66 (by decide) ?_ ?_
              · intro h_66
                refine jw_iload (pc := 74) dX5_feed_74 rfl ?_
                refine jW.eq rfl ?_ rfl L76
                unfold wrd
                first
                  | rw [if_pos h_33]
                  | rw [if_neg (by omega), if_pos h_44]
                  | rw [if_neg (by omega), if_neg (by omega), if_pos h_55]
                  | rw [if_neg (by omega), if_neg (by omega), if_neg (by omega), if_pos h_66]
                  | rw [if_neg (by omega), if_neg (by omega), if_neg (by omega), if_neg (by omega)]
              · intro h_66
                refine jw_iload (pc := 69) dX5_feed_69 rfl ?_
                refine jw_goto (pc := 71) (tgt := 76) dX5_feed_71 (by decide) ?_
                refine jW.eq rfl ?_ rfl L76
                unfold wrd
                first
                  | rw [if_pos h_33]
                  | rw [if_neg (by omega), if_pos h_44]
                  | rw [if_neg (by omega), if_neg (by omega), if_pos h_55]
                  | rw [if_neg (by omega), if_neg (by omega), if_neg (by omega), if_pos h_66]
                  | rw [if_neg (by omega), if_neg (by omega), if_neg (by omega), if_neg (by omega)]
            · intro h_55
              refine jw_iload_n (pc := 58) dX5_feed_58 rfl ?_
              refine jw_goto (pc := 59) (tgt := 76) dX5_feed_59 (by decide) ?_
              refine jW.eq rfl ?_ rfl L76
              unfold wrd
              first
                | rw [if_pos h_33]
                | rw [if_neg (by omega), if_pos h_44]
                | rw [if_neg (by omega), if_neg (by omega), if_pos h_55]
                | rw [if_neg (by omega), if_neg (by omega), if_neg (by omega), if_pos h_66]
                | rw [if_neg (by omega), if_neg (by omega), if_neg (by omega), if_neg (by omega)]
          · intro h_44
            refine jw_iload_n (pc := 47) dX5_feed_47 rfl ?_
            refine jw_goto (pc := 48) (tgt := 76) dX5_feed_48 (by decide) ?_
            refine jW.eq rfl ?_ rfl L76
            unfold wrd
            first
              | rw [if_pos h_33]
              | rw [if_neg (by omega), if_pos h_44]
              | rw [if_neg (by omega), if_neg (by omega), if_pos h_55]
              | rw [if_neg (by omega), if_neg (by omega), if_neg (by omega), if_pos h_66]
              | rw [if_neg (by omega), if_neg (by omega), if_neg (by omega), if_neg (by omega)]
        · intro h_33
          refine jw_iload_n (pc := 36) dX5_feed_36 rfl ?_
          refine jw_goto (pc := 37) (tgt := 76) dX5_feed_37 (by decide) ?_
          refine jW.eq rfl ?_ rfl L76
          unfold wrd
          first
            | rw [if_pos h_33]
            | rw [if_neg (by omega), if_pos h_44]
            | rw [if_neg (by omega), if_neg (by omega), if_pos h_55]
            | rw [if_neg (by omega), if_neg (by omega), if_neg (by omega), if_pos h_66]
            | rw [if_neg (by omega), if_neg (by omega), if_neg (by omega), if_neg (by omega)]
    · have hk' : n = 20 := by omega
      subst hk'
      refine jw_iload (pc := 23) dX5_feed_23 rfl ?_
      refine jw_bipush (pc := 25) dX5_feed_25 bp_20 ?_
      first | refine jx_icmp_ge (pc := 27) (tgt := 117) dX5_feed_27 (by decide) (by omega) (by omega) ?_ ?_ | refine jw_icmp_ge (pc := 27) (tgt := 117) dX5_feed_27 (by decide) ?_ ?_
      · intro h_27
        refine jw_aload_n (pc := 117) dX5_feed_117 rfl ?_
        refine jx_getIs (pc := 118) (jf_X5_373_4.r) rfl dX5_feed_118 rfl (is_90 hS) (by decide) (hN) ?_
        refine jw_ireturn (pc := 121) dX5_feed_121 rfl (rfl) ?_
        refine ⟨_, rfl, ?_⟩
        unfold o_feed; rw [if_pos h20, e9]
        exact ⟨rfl, by rw [← fd_20]; exact hX, hf⟩
      · intro h_27
        omega
  refine jT.of (by decide) rfl (Nat.le_of_ble_eq_true rfl) ?_
  refine jw_aload_n (pc := 0) dX5_feed_0 rfl ?_
  refine jw_iconst (pc := 1) dX5_feed_1 ic_0 ?_
  refine jx_putI (pc := 2) jf_X5_56_4 rfl dX5_feed_2 rfl rfl (is_90 hS) (by decide) ?_
  have hM := mthr (x := nI 0) h
  have hf : jfm M (js_I M 90 49 (nI 0)) := jsm.I (by decide)
  generalize js_I M 90 49 (nI 0) = M0 at hM hf ⊢
  clear hS
  have hS := hM.1
  have hN := hM.2.2.1.1
  refine jw_aload_n (pc := 5) dX5_feed_5 rfl ?_
  refine jx_getIs (pc := 6) (jf_X5_373_4.r) rfl dX5_feed_6 rfl (is_90 hS) (by decide) (hN) ?_
  refine jw_bipush (pc := 9) dX5_feed_9 bp_20 ?_
  first | refine jx_iadd (pc := 11) dX5_feed_11 ?_ | refine jw_iadd (pc := 11) dX5_feed_11 ?_
  refine jw_sipush (pc := 12) dX5_feed_12 sp_900 ?_
  first | refine jx_icmp_le (pc := 15) (tgt := 20) dX5_feed_15 (by decide) (by omega) (by omega) ?_ ?_ | refine jw_icmp_le (pc := 15) (tgt := 20) dX5_feed_15 (by decide) ?_ ?_
  · intro h_15
    refine jw_iconst (pc := 20) dX5_feed_20 ic_0 ?_
    refine jw_istore (pc := 21) dX5_feed_21 (Nat.le_of_ble_eq_true rfl) rfl ?_
    try dsimp only [jput1, jput2, jkill, jclr, jis2_i, jis2_l, jis2_rs, jis2_rn, cond]
    exact J (by omega) (0, M0) ⟨Nat.zero_le _, hM, hf⟩
  · intro h_15
    refine jw_iconst (pc := 18) dX5_feed_18 ic_m1 ?_
    refine jw_ireturn (pc := 19) dX5_feed_19 rfl (rfl) ?_
    refine ⟨_, rfl, ?_⟩
    unfold o_feed; rw [if_neg (by omega)]
    exact ⟨rfl, hM, hf⟩
end JFD
