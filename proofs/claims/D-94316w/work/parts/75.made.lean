/-! ===== texts are made, and hashed ===== -/
theorem i2b_n {n : Nat} (h : n ≤ 122) : (nI n).toInt8.toInt32 = nI n := by
  have : ∀ m, m < 123 → (nI m).toInt8.toInt32 = nI m := by decide +kernel
  exact this n (by omega)
theorem jB_8 {M : Mm} {a k j : Nat} {v : Int32} : jm_A (js_A M a k v) a j = if j = k then v else jm_A M a j := by
  by_cases e : j = k
  · subst e; rw [jA_same, if_pos rfl]
  · rw [jA_oth e, if_neg e]
section JMK
variable {G : Gh} {M : Mm}
theorem t_J4_checkFromIndexSize {k n : Nat} {o : Option Nat} (hk : k ≤ n) (hn : n < 2 ^ 30) : jE G mi_J4_checkFromIndexSize 2 [.int (nI 0), .int (nI k), .int (nI n), jr o] M (some (.int (nI 0))) M := by
  have h9 : (n ||| 0) ||| k < 2 ^ 30 := Nat.or_lt_two_pow (Nat.or_lt_two_pow hn (by decide)) (by omega)
  refine jE.ofF pf_J4_checkFromIndexSize rfl (by cases o <;> exact Nat.le_of_ble_eq_true rfl) ?_
  refine jw_iload_n (pc := 0) dJ4_checkFromIndexSize_0 rfl ?_
  refine jw_iload_n (pc := 1) dJ4_checkFromIndexSize_1 rfl ?_
  refine jw_ior (pc := 2) dJ4_checkFromIndexSize_2 ?_
  refine jw_iload_n (pc := 3) dJ4_checkFromIndexSize_3 rfl ?_
  rw [nI_or']
  refine jw_ior (pc := 4) dJ4_checkFromIndexSize_4 ?_
  rw [nI_or']
  refine jw_if_lt (pc := 5) (tgt := 15) dJ4_checkFromIndexSize_5 (by decide) ?_ ?_
  · intro h_5
    exact absurd h_5 (nI_nn (by omega))
  · intro h_5
    refine jw_iload_n (pc := 8) dJ4_checkFromIndexSize_8 rfl ?_
    refine jw_iload_n (pc := 9) dJ4_checkFromIndexSize_9 rfl ?_
    refine jw_iload_n (pc := 10) dJ4_checkFromIndexSize_10 rfl ?_
    refine jw_isub (pc := 11) dJ4_checkFromIndexSize_11 ?_
    rw [show nI n - nI 0 = nI (n - 0) from pk_sub (Nat.zero_le _)]
    first | refine jx_icmp_le (pc := 12) (tgt := 23) dJ4_checkFromIndexSize_12 (by decide) (by omega) (by omega) ?_ ?_ | refine jw_icmp_le (pc := 12) (tgt := 23) dJ4_checkFromIndexSize_12 (by decide) ?_ ?_
    · intro h_12
      refine jw_iload_n (pc := 23) dJ4_checkFromIndexSize_23 rfl ?_
      refine jw_ireturn (pc := 24) dJ4_checkFromIndexSize_24 rfl (rfl) ?_
      exact ⟨rfl, rfl⟩
    · intro h_12
      omega
theorem t_J3_checkBoundsOffCount {k n : Nat} (hG : jGs G) (hk : k ≤ n) (hn : n < 2 ^ 30) : jE G mi_J3_checkBoundsOffCount 3 [.int (nI 0), .int (nI k), .int (nI n)] M (some (.int (nI 0))) M := by
  obtain ⟨o, hg⟩ := hG.2.2.2
  refine jE.ofF pf_J3_checkBoundsOffCount rfl (Nat.le_of_ble_eq_true rfl) ?_
  refine jw_iload_n (pc := 0) dJ3_checkBoundsOffCount_0 rfl ?_
  refine jw_iload_n (pc := 1) dJ3_checkBoundsOffCount_1 rfl ?_
  refine jw_iload_n (pc := 2) dJ3_checkBoundsOffCount_2 rfl ?_
  refine jw_gets (i := 3) (pc := 3)  rfl hg rfl q573 dJ3_checkBoundsOffCount_3 ?_
  refine jx_cSE (mi1 := mi_J4_checkFromIndexSize) (pc := 6) rfl dJ3_checkBoundsOffCount_6 lk_J3_1065 rfl fi_J4_checkFromIndexSize (t_J4_checkFromIndexSize hk hn) (by first | decide | omega) rfl rfl (by decide) ?_
  refine jw_ireturn (pc := 9) dJ3_checkBoundsOffCount_9 rfl (rfl) ?_
  exact ⟨rfl, rfl⟩
theorem t_J3_rangeCheck {a k n : Nat} (hG : jGs G) (ha : jok M a 2) (hN : jm_N M a = n) (hk : k ≤ n) (hn : n < 2 ^ 30) : jE G mi_J3_rangeCheck 4 [jr (some a), .int (nI 0), .int (nI k)] M (some (jr none)) M := by
  refine jE.ofF pf_J3_rangeCheck rfl (Nat.le_of_ble_eq_true rfl) ?_
  refine jw_iload_n (pc := 0) dJ3_rangeCheck_0 rfl ?_
  refine jw_iload_n (pc := 1) dJ3_rangeCheck_1 rfl ?_
  refine jw_aload_n (pc := 2) dJ3_rangeCheck_2 rfl ?_
  refine jw_alen (pc := 3) (by decide) dJ3_rangeCheck_3 rfl (ha) ?_
  rw [hN]
  refine jx_cSE (mi1 := mi_J3_checkBoundsOffCount) (pc := 4) rfl dJ3_rangeCheck_4 lk_J3_34 rfl fi_J3_checkBoundsOffCount (t_J3_checkBoundsOffCount hG hk hn) (by first | decide | omega) rfl rfl (by decide) ?_
  refine jw_pop (pc := 7) dJ3_rangeCheck_7 (rfl) ?_
  refine jw_null (pc := 8) dJ3_rangeCheck_8 ?_
  refine jw_areturn (pc := 9) dJ3_rangeCheck_9 rfl (Or.inl ⟨_, rfl⟩) ?_
  exact ⟨rfl, rfl⟩
theorem t_J5_compress_2 {a b k n : Nat} {f : Nat → Nat} (ha : jok M a 2) (hN : jm_N M a = n) (hkn : k ≤ n) (hb : jok M b 1) (hbN : jm_N M b = k) (h64 : 64 ≤ b) (hab : a ≠ b) (hf : ∀ i, i < k → f i ≤ 122) (hA : ∀ i, i < k → jm_A M a i = nI (f i)) (hk9 : k ≤ 8) : jT G mi_J5_compress_2 1 [jr (some a), .int (nI 0), jr (some b), .int (nI 0), .int (nI k)] M (jPi (fun r M' => r = nI k ∧ jsm (fun x => x = b) M M' ∧ jBy M' b f k)) := by
  have J : ∀ x : Nat × Mm, (x.1 ≤ k ∧ jsm (fun x => x = b) M x.2 ∧ (jok x.2 b 1 ∧ jm_N x.2 b = k) ∧ ∀ i, i < x.1 → jm_A x.2 b i = nI (f i)) → jW G mi_J5_compress_2 1 M 3 [some (jr (some a)), some (.int (nI x.1)), some (jr (some b)), some (.int (nI x.1)), some (.int (nI k)), some (.int (nI x.1)), none] [] x.2 (fun r M' => jPi (fun r M' => r = nI k ∧ jsm (fun x => x = b) M M' ∧ jBy M' b f k) r M' ∧ ∃ v, r = .inl v) := by
    refine jW.loop (σ := Nat × Mm) _ (fun x => k - x.1) _ (fun _ => []) (fun x => x.2) (fun x hI ih => ?_)
    obtain ⟨i, M1⟩ := x
    obtain ⟨hi, hs, ⟨hb1, hbN1⟩, h0⟩ := hI
    dsimp only at hi hs h0 hb1 hbN1 ih ⊢
    by_cases hik : i < k
    · have aa := hs.2.2 a ha.2.1 hab
      have hf1 := hf i hik
      have ha1 : jok M1 a 2 := ha.al aa hs.1
      have hN1 : jm_N M1 a = n := aa.2.1.trans hN
      have hA1 : jm_A M1 a i = nI (f i) := (aa.2.2.2.2.2.1 i).trans (hA i hik)
      refine jw_iload (pc := 3) dJ5_compress_2_3 rfl ?_
      refine jw_iload (pc := 5) dJ5_compress_2_5 rfl ?_
      first | refine jx_icmp_ge (pc := 7) (tgt := 44) dJ5_compress_2_7 (by decide) (by omega) (by omega) ?_ ?_ | refine jw_icmp_ge (pc := 7) (tgt := 44) dJ5_compress_2_7 (by decide) ?_ ?_
      · intro h_7
        omega
      · intro h_7
        refine jw_aload_n (pc := 10) dJ5_compress_2_10 rfl ?_
        refine jw_iload_n (pc := 11) dJ5_compress_2_11 rfl ?_
        refine jx_calds (pc := 12) dJ5_compress_2_12 (ha1) (hN1) rfl (by omega) (hA1) ?_
        refine jw_istore (pc := 13) dJ5_compress_2_13 (Nat.le_of_ble_eq_true rfl) rfl ?_
        try dsimp only [jput1, jput2, jkill, jclr, jis2_i, jis2_l, jis2_rs, jis2_rn, cond]
        refine jw_iload (pc := 15) dJ5_compress_2_15 rfl ?_
        refine jw_sipush (pc := 17) dJ5_compress_2_17 sp_255 ?_
        first | refine jx_icmp_le (pc := 20) (tgt := 26) dJ5_compress_2_20 (by decide) (by omega) (by omega) ?_ ?_ | refine jw_icmp_le (pc := 20) (tgt := 26) dJ5_compress_2_20 (by decide) ?_ ?_
        · intro h_20
          refine jw_aload_n (pc := 26) dJ5_compress_2_26 rfl ?_
          refine jw_iload_n (pc := 27) dJ5_compress_2_27 rfl ?_
          refine jw_iload (pc := 28) dJ5_compress_2_28 rfl ?_
          refine jw_i2b (pc := 30) dJ5_compress_2_30 (by exact i2b_n hf1) ?_
          refine jx_bast (pc := 31) dJ5_compress_2_31 (h64) (hb1) (hbN1) rfl (by omega) (by exact i2b_n hf1) ?_
          first | refine jx_iinc (pc := 32) dJ5_compress_2_32 rfl rfl ?_ | refine jw_iinc (pc := 32) dJ5_compress_2_32 rfl rfl rfl ?_
          try dsimp only [jput1, jkill, jclr, jis2_i, jis2_l, jis2_rs, jis2_rn, cond]
          first | refine jx_iinc (pc := 35) dJ5_compress_2_35 rfl rfl ?_ | refine jw_iinc (pc := 35) dJ5_compress_2_35 rfl rfl rfl ?_
          try dsimp only [jput1, jkill, jclr, jis2_i, jis2_l, jis2_rs, jis2_rn, cond]
          first | refine jx_iinc (pc := 38) dJ5_compress_2_38 rfl rfl ?_ | refine jw_iinc (pc := 38) dJ5_compress_2_38 rfl rfl rfl ?_
          try dsimp only [jput1, jkill, jclr, jis2_i, jis2_l, jis2_rs, jis2_rn, cond]
          refine jw_goto (pc := 41) (tgt := 3) dJ5_compress_2_41 (by decide) ?_
          refine jW.sub ?_ (ih (i + 1, _) ⟨hik, hs.tr (jsm.A rfl), ⟨hb1, hbN1⟩, fun j hj => ?_⟩ (by dsimp only; omega))
          · exact ⟨rfl, rfl, rfl, rfl, rfl, rfl, trivial⟩
          · show jm_A (js_A M1 b i (nI (f i))) b j = _
            rw [jB_8]
            by_cases e : j = i
            · subst e; exact if_pos rfl
            · rw [if_neg e]; exact h0 j (by dsimp only at hj; omega)
        · intro h_20
          omega
    · have hk' : i = k := by omega
      subst hk'
      refine jw_iload (pc := 3) dJ5_compress_2_3 rfl ?_
      refine jw_iload (pc := 5) dJ5_compress_2_5 rfl ?_
      first | refine jx_icmp_ge (pc := 7) (tgt := 44) dJ5_compress_2_7 (by decide) (by omega) (by omega) ?_ ?_ | refine jw_icmp_ge (pc := 7) (tgt := 44) dJ5_compress_2_7 (by decide) ?_ ?_
      · intro h_7
        refine jw_iload (pc := 44) dJ5_compress_2_44 rfl ?_
        refine jw_ireturn (pc := 46) dJ5_compress_2_46 rfl (rfl) ?_
        exact ⟨⟨_, rfl, rfl, hs, hb1, hbN1, h0⟩, _, rfl⟩
      · intro h_7
        omega
  refine jT.ofF pf_J5_compress_2 rfl (Nat.le_of_ble_eq_true rfl) ?_
  refine jw_iconst (pc := 0) dJ5_compress_2_0 ic_0 ?_
  refine jw_istore (pc := 1) dJ5_compress_2_1 (Nat.le_of_ble_eq_true rfl) rfl ?_
  try dsimp only [jput1, jput2, jkill, jclr, jis2_i, jis2_l, jis2_rs, jis2_rn, cond]
  exact J (0, M) ⟨Nat.zero_le _, jsm.rf, ⟨hb, hbN⟩, fun j hj => absurd hj (Nat.not_lt_zero _)⟩
/-- a new cell, and what is written within it -/
theorem jsm.cut {E : Nat → Prop} {M M1 M2 : Mm} (h : jsm (fun a => a = 62) M M1) (g : jsm E M1 M2) (hE : ∀ a, E a → jm_Z M ≤ a) : jsm (fun a => a = 62) M M2 := by
  refine ⟨Nat.le_trans h.1 g.1, ⟨Nat.le_trans h.2.1.1 g.2.1.1, fun q => absurd rfl q⟩, fun a h1 h2 => ?_⟩
  exact (h.2.2 a h1 h2).tr (g.2.2 a (Nat.lt_of_lt_of_le h1 h.1) (fun q => by have := hE a q; omega))
theorem t_J5_compress {a k n : Nat} {f : Nat → Nat} (ha : jok M a 2) (hN : jm_N M a = n) (hkn : k ≤ n) (hz : 64 ≤ jm_Z M) (hl : txl f k) (hA : ∀ i, i < k → jm_A M a i = nI (f i)) : jT G mi_J5_compress 2 [jr (some a), .int (nI 0), .int (nI k)] M (jPr (fun o M' => o = some (jm_Z M) ∧ jsm (fun x => x = 62) M M' ∧ jBy M' (jm_Z M) f k ∧ jm_Z M' = jm_Z M + 1 ∧ jm_S M' = jm_S M + k)) := by
  have hk9 := hl.1
  have haz := ha.2.1
  have hn := jsm.n (E := fun x => x = 62) (M := M) (c := 101) (n := k) (s := k) rfl
  have aa := hn.2.2 a ha.2.1
  refine jT.ofF pf_J5_compress rfl (Nat.le_of_ble_eq_true rfl) ?_
  refine jw_iload_n (pc := 0) dJ5_compress_0 rfl ?_
  refine jw_newa (pc := 1) (t := 1) (atype := .byte) rfl (by decide) q264 dJ5_compress_1 (rfl) (by omega) ?_
  refine jw_astore_n (pc := 3) dJ5_compress_3 (Nat.le_of_ble_eq_true rfl) rfl ?_
  try dsimp only [jput1, jput2, jkill, jclr, jis2_i, jis2_l, jis2_rs, jis2_rn, cond]
  refine jw_aload_n (pc := 4) dJ5_compress_4 rfl ?_
  refine jw_iload_n (pc := 5) dJ5_compress_5 rfl ?_
  refine jw_aload_n (pc := 6) dJ5_compress_6 rfl ?_
  refine jw_iconst (pc := 7) dJ5_compress_7 ic_0 ?_
  refine jw_iload_n (pc := 8) dJ5_compress_8 rfl ?_
  refine jx_cSi (mi1 := mi_J5_compress_2) (pc := 9) rfl dJ5_compress_9 lk_J5_115 rfl fi_J5_compress_2 (t_J5_compress_2 (f := f) (k := k) (n := n) (a := a) (b := jm_Z M) (M := js_new M 101 k k) ⟨by rw [jK_n, if_neg (by omega)]; exact ha.1, by rw [jZ_n]; omega, ha.2.2⟩ (by rw [jN_n, if_neg (by omega)]; exact hN) hkn ⟨by rw [jK_n, if_pos rfl], by rw [jZ_n]; omega, fun q => by omega⟩ (by rw [jN_n, if_pos rfl]) hz (by omega) (fun i hi => (hl.2 i hi).2) (fun i hi => by rw [jA_n, if_neg (by omega)]; exact hA i hi) hk9) (by first | decide | omega) rfl rfl (by decide) ?_
  intro x_9 M_9 q_9
  obtain ⟨e1, e2, e3⟩ := q_9
  subst e1
  refine jw_istore (pc := 12) dJ5_compress_12 (Nat.le_of_ble_eq_true rfl) rfl ?_
  try dsimp only [jput1, jput2, jkill, jclr, jis2_i, jis2_l, jis2_rs, jis2_rn, cond]
  refine jw_iload (pc := 14) dJ5_compress_14 rfl ?_
  refine jw_iload_n (pc := 16) dJ5_compress_16 rfl ?_
  first | refine jx_icmp_eq (pc := 17) (tgt := 57) dJ5_compress_17 (by decide) (by omega) (by omega) ?_ ?_ | refine jw_icmp_eq (pc := 17) (tgt := 57) dJ5_compress_17 (by decide) ?_ ?_
  · intro h_17
    refine jw_aload_n (pc := 57) dJ5_compress_57 rfl ?_
    refine jw_areturn (pc := 58) dJ5_compress_58 rfl (Or.inr ⟨_, rfl⟩) ?_
    refine ⟨⟨_, rfl, rfl, jsm.cut hn e2 (fun x hx => by omega), e3, ?_, ?_⟩, _, rfl⟩
    · have := (e2.z (by omega)).1; rw [this, jZ_n]
    · have := (e2.z (by omega)).2; rw [this, jS_n]
  · intro h_17
    exact absurd rfl h_17
theorem t_J5_coderFromArrayLen {b k : Nat} (hb : jok M b 1) (hN : jm_N M b = k) : jE G mi_J5_coderFromArrayLen 1 [jr (some b), .int (nI k)] M (some (.int (nI 0))) M := by
  refine jE.ofF pf_J5_coderFromArrayLen rfl (Nat.le_of_ble_eq_true rfl) ?_
  refine jw_iload_n (pc := 0) dJ5_coderFromArrayLen_0 rfl ?_
  refine jw_aload_n (pc := 1) dJ5_coderFromArrayLen_1 rfl ?_
  refine jw_alen (pc := 2) (by decide) dJ5_coderFromArrayLen_2 rfl (hb) ?_
  rw [hN]
  refine jw_isub (pc := 3) dJ5_coderFromArrayLen_3 ?_
  rw [show nI k - nI k = nI 0 from by rw [show nI k - nI k = nI (k - k) from pk_sub (Nat.le_refl _), Nat.sub_self]]
  refine jw_bipush (pc := 4) dJ5_coderFromArrayLen_4 bp_31 ?_
  refine jw_iushr (pc := 6) dJ5_coderFromArrayLen_6 rfl ?_
  rw [show ((nI 0).toUInt32 >>> ((nI 31).toUInt32 &&& Int32.toUInt32 31)).toInt32 = nI 0 by decide +kernel]
  refine jw_i2b (pc := 7) dJ5_coderFromArrayLen_7 (show (nI 0).toInt8.toInt32 = nI 0 by decide +kernel) ?_
  refine jw_ireturn (pc := 8) dJ5_coderFromArrayLen_8 rfl (by decide +kernel) ?_
  exact ⟨rfl, rfl⟩
theorem hs0 {M : Mm} {o : Nat} {f : Nat → Nat} {k : Nat} (h1 : jm_I M o 167 = 0) (h2 : jm_I M o 168 = 0) : (jm_I M o 167 = 0 ∨ jm_I M o 167 = hsF f k) ∧ (jm_I M o 168 = nI 0 ∨ (jm_I M o 168 = nI 1 ∧ hsF f k = 0)) := ⟨Or.inl h1, Or.inl h2⟩
theorem t_J3_init_2 {o a k n : Nat} {f : Nat → Nat} {w : Option Nat} (hG : jGs G) (ho : jis M o 13) (ha : jok M a 2) (hN : jm_N M a = n) (hkn : k ≤ n) (hl : txl f k) (hk1 : 1 ≤ k) (hA : ∀ i, i < k → jm_A M a i = nI (f i)) (hh : jm_I M o 167 = 0) (hz : jm_I M o 168 = 0) : jT G mi_J3_init_2 4 [jr (some o), jr (some a), .int (nI 0), .int (nI k), jr w] M (jPv (fun M' => jTx M' o (txc f k) ∧ jsm (fun x => x = o ∨ x = 62) M M' ∧ jm_Z M' = jm_Z M + 1 ∧ jm_S M' = jm_S M + k)) := by
  have hg := hG.1
  have hk9 := hl.1
  have hoz := ho.2.1
  have ho64 := ho.2.2
  refine jT.ofF pf_J3_init_2 rfl (by cases w <;> exact Nat.le_of_ble_eq_true rfl) ?_
  refine jw_aload_n (pc := 0) dJ3_init_2_0 rfl ?_
  refine jw_objInit (pc := 1) rfl dJ3_init_2_1 q581 q183 q184 rfl (by decide) (by decide) ?_
  refine jw_iload_n (pc := 4) dJ3_init_2_4 rfl ?_
  first | refine jx_ifb_ne (pc := 5) (tgt := 27) dJ3_init_2_5 (by decide) ?_ ?_ | refine jx_if_ne (pc := 5) (tgt := 27) dJ3_init_2_5 (by decide) (by omega) ?_ ?_ | refine jw_if_ne (pc := 5) (tgt := 27) dJ3_init_2_5 (by decide) ?_ ?_
  · intro h_5
    refine jw_gets (i := 0) (pc := 27)  rfl hg rfl q583 dJ3_init_2_27 ?_
    first | refine jx_ifb_eq (pc := 30) (tgt := 58) dJ3_init_2_30 (by decide) ?_ ?_ | refine jx_if_eq (pc := 30) (tgt := 58) dJ3_init_2_30 (by decide) (by omega) ?_ ?_ | refine jw_if_eq (pc := 30) (tgt := 58) dJ3_init_2_30 (by decide) ?_ ?_
    · intro h_30
      first | exact absurd h_30 (by decide +kernel) | cases h_30
    · intro h_30
      refine jw_aload_n (pc := 33) dJ3_init_2_33 rfl ?_
      refine jw_iload_n (pc := 34) dJ3_init_2_34 rfl ?_
      refine jw_iload_n (pc := 35) dJ3_init_2_35 rfl ?_
      refine jx_cSr (mi1 := mi_J5_compress) (pc := 36) rfl dJ3_init_2_36 lk_J3_177 rfl fi_J5_compress (t_J5_compress ha hN hkn (by omega) hl hA) (by first | decide | omega) rfl rfl (by decide) ?_
      intro x_36 M_36 q_36
      obtain ⟨e1, e2, e3, e4, e5⟩ := q_36
      subst e1
      rw [show jent [jr (some o), jr (some a), Value.int (nI 0), Value.int (nI k), jr w] 6 = [some (jr (some o)), some (jr (some a)), some (.int (nI 0)), some (.int (nI k)), some (jr w), none] by cases w <;> rfl]
      have ao := e2.2.2 o ho.2.1 (by omega)
      have hK : jis M_36 o 13 := ho.al ao e2.1
      refine jw_astore (pc := 39) dJ3_init_2_39 (Nat.le_of_ble_eq_true rfl) rfl ?_
      try dsimp only [jput1, jput2, jkill, jclr, jis2_i, jis2_l, jis2_rs, jis2_rn, cond]
      refine jw_aload_n (pc := 41) dJ3_init_2_41 rfl ?_
      refine jw_aload (pc := 42) dJ3_init_2_42 rfl ?_
      refine jw_iload_n (pc := 44) dJ3_init_2_44 rfl ?_
      refine jx_cSE (mi1 := mi_J5_coderFromArrayLen) (pc := 45) rfl dJ3_init_2_45 lk_J3_47 rfl fi_J5_coderFromArrayLen (t_J5_coderFromArrayLen e3.1 e3.2.1) (by first | decide | omega) rfl rfl (by simp only [List.map_cons, List.map_nil, List.sum_cons, List.sum_nil, cat_i, cat_l, jr_cat]; decide) ?_
      refine jx_putBF (pc := 48) jf_J3_15_13 rfl rfl dJ3_init_2_48 rfl rfl (hK) (by decide) (by decide +kernel) (by decide +kernel) ?_
      refine jw_aload_n (pc := 51) dJ3_init_2_51 rfl ?_
      refine jw_aload (pc := 52) dJ3_init_2_52 rfl ?_
      refine jx_putRF (pc := 54) jf_J3_9_13 rfl rfl dJ3_init_2_54 rfl rfl (pd__B) (Or.inr ⟨_, rfl⟩) (hK) (by decide) ?_
      refine jw_return (pc := 57) dJ3_init_2_57 rfl ?_
      refine ⟨⟨rfl, ⟨f, k, hl, rfl, hK.t, by rw [jI_R, jI_same], ?_, jm_Z M, ?_, e3, ⟨by omega, by omega⟩, fun q => by omega⟩, ?_, e4, e5⟩, _, rfl⟩
      · refine hs0 ?_ ?_
        · exact (ao.2.2.1 _).trans hh
        · exact (ao.2.2.1 _).trans hz
      · rw [jR_R, if_pos ⟨rfl, rfl⟩]
      · exact (e2.wk (fun x q => Or.inr q)).tr ((jsm.I (Or.inl rfl)).tr (jsm.R (Or.inl rfl)))
  · intro h_5
    omega
theorem t_J3_init {o a k n : Nat} {f : Nat → Nat} (hG : jGs G) (ho : jis M o 13) (ha : jok M a 2) (hN : jm_N M a = n) (hn : n < 2 ^ 30) (hkn : k ≤ n) (hl : txl f k) (hk1 : 1 ≤ k) (hA : ∀ i, i < k → jm_A M a i = nI (f i)) (hh : jm_I M o 167 = 0) (hz : jm_I M o 168 = 0) : jT G mi_J3_init 5 [jr (some o), jr (some a), .int (nI 0), .int (nI k)] M (jPv (fun M' => jTx M' o (txc f k) ∧ jsm (fun x => x = o ∨ x = 62) M M' ∧ jm_Z M' = jm_Z M + 1 ∧ jm_S M' = jm_S M + k)) := by
  refine jT.ofF pf_J3_init rfl (Nat.le_of_ble_eq_true rfl) ?_
  refine jw_aload_n (pc := 0) dJ3_init_0 rfl ?_
  refine jw_aload_n (pc := 1) dJ3_init_1 rfl ?_
  refine jw_iload_n (pc := 2) dJ3_init_2 rfl ?_
  refine jw_iload_n (pc := 3) dJ3_init_3 rfl ?_
  refine jw_aload_n (pc := 4) dJ3_init_4 rfl ?_
  refine jw_iload_n (pc := 5) dJ3_init_5 rfl ?_
  refine jw_iload_n (pc := 6) dJ3_init_6 rfl ?_
  refine jx_cSE (mi1 := mi_J3_rangeCheck) (pc := 7) rfl dJ3_init_7 lk_J3_30 rfl fi_J3_rangeCheck (t_J3_rangeCheck hG ha hN hkn hn) (by first | decide | omega) rfl rfl (by simp only [List.map_cons, List.map_nil, List.sum_cons, List.sum_nil, cat_i, cat_l, jr_cat]; decide) ?_
  refine jx_cIv (mi1 := mi_J3_init_2) (pc := 10) rfl dJ3_init_10 q578 q161 q579 q580 rfl rfl rfl fi_J3_init_2 (t_J3_init_2 hG ho ha hN hkn hl hk1 hA hh hz) (by first | decide | omega) rfl rfl (by decide) ?_
  intro M_10 q_10
  refine jw_return (pc := 13) dJ3_init_13 rfl ?_
  exact ⟨⟨rfl, q_10⟩, _, rfl⟩
/-! hashes -/
theorem t_J7_signedHashCode {b k : Nat} {f : Nat → Nat} (hb : jBy M b f k) (hl : txl f k) : jE G mi_J7_signedHashCode 1 [.int (nI 0), jr (some b), .int (nI 0), .int (nI k)] M (some (.int (hsF f k))) M := by
  have hk := hl.1
  have J : ∀ i : Nat, i ≤ k → jW G mi_J7_signedHashCode 1 M 8 [some (.int (hsF f i)), some (jr (some b)), some (.int (nI 0)), some (.int (nI k)), some (.int (nI k)), some (.int (nI i))] [] M (fun r M' => r = .inl (some (.int (hsF f k))) ∧ M' = M) := by
    refine jW.loop _ (fun i => k - i) _ (fun _ => []) (fun _ => M) (fun i hi ih => ?_)
    by_cases hik : i < k
    · have hf := hl.2 i hik
      refine jw_iload (pc := 8) dJ7_signedHashCode_8 rfl ?_
      refine jw_iload (pc := 10) dJ7_signedHashCode_10 rfl ?_
      first | refine jx_icmp_ge (pc := 12) (tgt := 35) dJ7_signedHashCode_12 (by decide) (by omega) (by omega) ?_ ?_ | refine jw_icmp_ge (pc := 12) (tgt := 35) dJ7_signedHashCode_12 (by decide) ?_ ?_
      · intro h_12
        omega
      · intro h_12
        refine jw_bipush (pc := 15) dJ7_signedHashCode_15 bp_31 ?_
        refine jw_iload_n (pc := 17) dJ7_signedHashCode_17 rfl ?_
        refine jw_imul (pc := 18) dJ7_signedHashCode_18 ?_
        refine jw_aload_n (pc := 19) dJ7_signedHashCode_19 rfl ?_
        refine jw_iload (pc := 20) dJ7_signedHashCode_20 rfl ?_
        refine jx_balds (pc := 22) dJ7_signedHashCode_22 (hb.1) (hb.2.1) rfl (by omega) (hb.2.2 i hik) ?_
        refine jw_sipush (pc := 23) dJ7_signedHashCode_23 sp_255 ?_
        refine jw_iand (pc := 26) dJ7_signedHashCode_26 ?_
        rw [nI_255 (by omega)]
        refine jw_iadd (pc := 27) dJ7_signedHashCode_27 ?_
        refine jw_istore_n (pc := 28) dJ7_signedHashCode_28 (Nat.le_of_ble_eq_true rfl) rfl ?_
        try dsimp only [jput1, jput2, jkill, jclr, jis2_i, jis2_l, jis2_rs, jis2_rn, cond]
        first | refine jx_iinc (pc := 29) dJ7_signedHashCode_29 rfl rfl ?_ | refine jw_iinc (pc := 29) dJ7_signedHashCode_29 rfl rfl rfl ?_
        try dsimp only [jput1, jkill, jclr, jis2_i, jis2_l, jis2_rs, jis2_rn, cond]
        refine jw_goto (pc := 32) (tgt := 8) dJ7_signedHashCode_32 (by decide) ?_
        exact ih (i + 1) hik (by omega)
    · have hk' : i = k := by omega
      subst hk'
      refine jw_iload (pc := 8) dJ7_signedHashCode_8 rfl ?_
      refine jw_iload (pc := 10) dJ7_signedHashCode_10 rfl ?_
      first | refine jx_icmp_ge (pc := 12) (tgt := 35) dJ7_signedHashCode_12 (by decide) (by omega) (by omega) ?_ ?_ | refine jw_icmp_ge (pc := 12) (tgt := 35) dJ7_signedHashCode_12 (by decide) ?_ ?_
      · intro h_12
        refine jw_iload_n (pc := 35) dJ7_signedHashCode_35 rfl ?_
        refine jw_ireturn (pc := 36) dJ7_signedHashCode_36 rfl (rfl) ?_
        exact ⟨rfl, rfl⟩
      · intro h_12
        omega
  refine jE.ofF pf_J7_signedHashCode rfl (Nat.le_of_ble_eq_true rfl) ?_
  refine jw_iload_n (pc := 0) dJ7_signedHashCode_0 rfl ?_
  refine jw_iload_n (pc := 1) dJ7_signedHashCode_1 rfl ?_
  first | refine jx_iadd (pc := 2) dJ7_signedHashCode_2 ?_ | refine jw_iadd (pc := 2) dJ7_signedHashCode_2 ?_
  refine jw_istore (pc := 3) dJ7_signedHashCode_3 (Nat.le_of_ble_eq_true rfl) rfl ?_
  try dsimp only [jput1, jput2, jkill, jclr, jis2_i, jis2_l, jis2_rs, jis2_rn, cond]
  refine jw_iload_n (pc := 5) dJ7_signedHashCode_5 rfl ?_
  refine jw_istore (pc := 6) dJ7_signedHashCode_6 (Nat.le_of_ble_eq_true rfl) rfl ?_
  try dsimp only [jput1, jput2, jkill, jclr, jis2_i, jis2_l, jis2_rs, jis2_rn, cond]
  refine jW.eq ?_ rfl rfl (J 0 (Nat.zero_le _))
  rw [Nat.zero_add]; rfl
theorem t_J7_vectorizedHashCode {b k : Nat} {f : Nat → Nat} (hb : jBy M b f k) (hl : txl f k) (h64 : 64 ≤ b) : jE G mi_J7_vectorizedHashCode 2 [jr (some b), .int (nI 0), .int (nI k), .int (nI 0), .int (nI 4)] M (some (.int (hsF f k))) M := by
  refine jE.ofF pf_J7_vectorizedHashCode rfl (Nat.le_of_ble_eq_true rfl) ?_
  refine jw_iload (pc := 0) dJ7_vectorizedHashCode_0 rfl ?_
  refine jw_tableIn (pc := 2) dJ7_vectorizedHashCode_2 (by decide +kernel) (by decide +kernel) rfl (tgt := 44) (by decide) ?_
  refine jw_iload_n (pc := 44) dJ7_vectorizedHashCode_44 rfl ?_
  refine jw_aload_n (pc := 45) dJ7_vectorizedHashCode_45 rfl ?_
  refine jw_castB (pc := 46)  rfl q670 dJ7_vectorizedHashCode_46 rfl hb.1 h64 ?_
  refine jw_iload_n (pc := 49) dJ7_vectorizedHashCode_49 rfl ?_
  refine jw_iload_n (pc := 50) dJ7_vectorizedHashCode_50 rfl ?_
  refine jx_cSE (mi1 := mi_J7_signedHashCode) (pc := 51) rfl dJ7_vectorizedHashCode_51 lk_J7_62 rfl fi_J7_signedHashCode (t_J7_signedHashCode hb hl) (by first | decide | omega) rfl rfl (by decide) ?_
  refine jw_goto (pc := 54) (tgt := 157) dJ7_vectorizedHashCode_54 (by decide) ?_
  refine jw_ireturn (pc := 157) dJ7_vectorizedHashCode_157 rfl (rfl) ?_
  exact ⟨rfl, rfl⟩
theorem t_J6_hashCode {b k : Nat} {f : Nat → Nat} (hb : jBy M b f k) (hl : txl f k) (h64 : 64 ≤ b) (hk1 : 1 ≤ k) : jE G mi_J6_hashCode 3 [jr (some b)] M (some (.int (hsF f k))) M := by
  have hk := hl.1
  refine jE.ofF pf_J6_hashCode rfl (Nat.le_of_ble_eq_true rfl) ?_
  refine jw_aload_n (pc := 0) dJ6_hashCode_0 rfl ?_
  refine jw_alen (pc := 1) (by decide) dJ6_hashCode_1 rfl hb.1 ?_
  rw [hb.2.1]
  by_cases e : k = 1
  · subst e
    have hf := hl.2 0 (by decide)
    refine jw_lookup (pc := 2) dJ6_hashCode_2 (by decide +kernel) (off := 30) (by decide +kernel) (tgt := 32) (by decide) ?_
    refine jw_aload_n (pc := 32) dJ6_hashCode_32 rfl ?_
    refine jw_iconst (pc := 33) dJ6_hashCode_33 ic_0 ?_
    refine jx_balds (pc := 34) dJ6_hashCode_34 (hb.1) (hb.2.1) rfl (by decide) (hb.2.2 0 (by decide)) ?_
    refine jw_sipush (pc := 35) dJ6_hashCode_35 sp_255 ?_
    refine jw_iand (pc := 38) dJ6_hashCode_38 ?_
    rw [nI_255 (by omega)]
    refine jw_goto (pc := 39) (tgt := 51) dJ6_hashCode_39 (by decide) ?_
    refine jw_ireturn (pc := 51) dJ6_hashCode_51 rfl (rfl) ?_
    refine ⟨?_, rfl⟩
    rw [show hsF f 1 = nI (f 0) from by show nI 31 * 0 + nI (f 0) = nI (f 0); rw [Int32.mul_zero, Int32.zero_add]]
  · have e2 : ∀ m, m < 9 → 2 ≤ m → Op.lookupswitch.offset [(0, 26), (1, 30)] 40 (nI m).toInt = 40 := by decide +kernel
    refine jw_lookup (pc := 2) dJ6_hashCode_2 (by decide +kernel) (off := 40) (e2 k (by omega) (by omega)) (tgt := 42) (by decide) ?_
    refine jw_aload_n (pc := 42) dJ6_hashCode_42 rfl ?_
    refine jw_iconst (pc := 43) dJ6_hashCode_43 ic_0 ?_
    refine jw_aload_n (pc := 44) dJ6_hashCode_44 rfl ?_
    refine jw_alen (pc := 45) (by decide) dJ6_hashCode_45 rfl (hb.1) ?_
    rw [hb.2.1]
    refine jw_iconst (pc := 46) dJ6_hashCode_46 ic_0 ?_
    refine jw_iconst (pc := 47) dJ6_hashCode_47 ic_4 ?_
    refine jx_cSE (mi1 := mi_J7_vectorizedHashCode) (pc := 48) rfl dJ6_hashCode_48 lk_J6_84 rfl fi_J7_vectorizedHashCode (t_J7_vectorizedHashCode hb hl h64) (by first | decide | omega) rfl rfl (by decide) ?_
    refine jw_ireturn (pc := 51) dJ6_hashCode_51 rfl (rfl) ?_
    exact ⟨rfl, rfl⟩
/-- a text's hash is asked: its own two fields may be written -/
def jHs (M : Mm) (o : Nat) (M' : Mm) : Prop := (M' = M ∨ (∃ x, M' = js_I M o 167 x) ∨ ∃ x, M' = js_I M o 168 x) ∧ (∀ o' c', jTx M o' c' → jTx M' o' c')
theorem jTx_hash {M : Mm} {o b k : Nat} {f : Nat → Nat} {M1 : Mm} (hM : M1 = M ∨ (∃ x, M1 = js_I M o 167 x) ∨ ∃ x, M1 = js_I M o 168 x) (hg : jsm (fun x => x = o) M M1) (hL : ∀ a, jm_K M1 a = jm_K M a) (hR : ∀ a j, jm_R M1 a j = jm_R M a j) (hA : ∀ a j, jm_A M1 a j = jm_A M a j) (hN : ∀ a, jm_N M1 a = jm_N M a) (hZ : jm_Z M1 = jm_Z M) (hc : jm_I M1 o 166 = jm_I M o 166) (hl : txl f k) (hv : jm_R M o 165 = some b) (hb : jBy M b f k)
    (hh : (jm_I M1 o 167 = 0 ∨ jm_I M1 o 167 = hsF f k) ∧ (jm_I M1 o 168 = nI 0 ∨ (jm_I M1 o 168 = nI 1 ∧ hsF f k = 0))) : jHs M o M1 := by
  refine ⟨hM, fun o' c' h => ?_⟩
  obtain ⟨g, j, h1, h2, h3, h4, h5, b', h6, h7, h8⟩ := h
  have hb' : jBy M1 b' g j := ⟨⟨by rw [hL]; exact h7.1.1, by rw [hZ]; exact h7.1.2.1, h7.1.2.2⟩, by rw [hN]; exact h7.2.1, fun i hi => by rw [hA]; exact h7.2.2 i hi⟩
  have hit : jit M1 o' 13 := ⟨by rw [hL]; exact h3.1, by rw [hZ]; exact h3.2⟩
  by_cases e : o' = o
  · subst e
    have eb : b' = b := Option.some.inj (h6.symm.trans hv)
    subst eb
    have ej : j = k := h7.2.1.symm.trans hb.2.1
    subst ej
    have ef : ∀ i, i < j → f i = g i := fun i hi => by
      have a1 := h1.2 i hi
      have a2 := hl.2 i hi
      exact (nI_eq (by omega) (by omega)).mp ((hb.2.2 i hi).symm.trans (h7.2.2 i hi))
    refine ⟨g, j, h1, h2, hit, hc.trans h4, ?_, b', (hR _ _).trans h6, hb', h8⟩
    rw [← hsF_cg j ef]; exact hh
  · have ao := hg.2.2 o' h3.2 e
    exact ⟨g, j, h1, h2, hit, by rw [ao.2.2.1]; exact h4, by rw [ao.2.2.1, ao.2.2.1]; exact h5, b', (hR _ _).trans h6, hb', h8⟩
theorem t_J3_hashCode {o c : Nat} (hG : jGs G) (h : jTx M o c) (h64 : 64 ≤ o) (hc0 : c ≠ 0) : jT G mi_J3_hashCode 4 [jr (some o)] M (jPi (fun r M' => (∃ f k, txl f k ∧ txc f k = c ∧ r = hsF f k) ∧ jHs M o M')) := by
  obtain ⟨f, k, hl, hc9, hK, hc, ⟨hh1, hh2⟩, b, hv, hb, hb64⟩ := h
  have hk1 : 1 ≤ k := by
    refine Nat.one_le_iff_ne_zero.mpr (fun e => hc0 ?_)
    subst e; rw [← hc9]; rfl
  have hs : jis M o 13 := ⟨hK.1, hK.2, h64⟩
  have hend : ∃ f k, txl f k ∧ txc f k = c ∧ hsF f k = hsF f k := ⟨f, k, hl, hc9, rfl⟩
  have hid : jHs M o M := ⟨Or.inl rfl, fun _ _ q => q⟩
  refine jT.ofF pf_J3_hashCode rfl (Nat.le_of_ble_eq_true rfl) ?_
  by_cases e1 : jm_I M o 167 = 0
  · rcases hh2 with e2 | ⟨e2, e3⟩
    · have hcall : jW G mi_J3_hashCode 4 M 40 [some (jr (some o)), some (.int 0)] [.int (hsF f k)] M (fun r M' => jPi (fun r M' => (∃ f k, txl f k ∧ txc f k = c ∧ r = hsF f k) ∧ jHs M o M') r M' ∧ ∃ v, r = .inl v) := by
        refine jw_istore_n (pc := 40) dJ3_hashCode_40 (Nat.le_of_ble_eq_true rfl) rfl ?_
        try dsimp only [jput1, jput2, jkill, jclr, jis2_i, jis2_l, jis2_rs, jis2_rn, cond]
        refine jw_iload_n (pc := 41) dJ3_hashCode_41 rfl ?_
        refine jw_if_ne (pc := 42) (tgt := 53) dJ3_hashCode_42 (by decide) ?_ ?_
        · intro h_42
          refine jw_aload_n (pc := 53) dJ3_hashCode_53 rfl ?_
          refine jw_iload_n (pc := 54) dJ3_hashCode_54 rfl ?_
          refine jx_putI (pc := 55) jf_J3_19_13 rfl dJ3_hashCode_55 rfl rfl (hs) (by decide) ?_
          refine jw_iload_n (pc := 58) dJ3_hashCode_58 rfl ?_
          refine jw_ireturn (pc := 59) dJ3_hashCode_59 rfl (rfl) ?_
          refine ⟨⟨_, rfl, ⟨f, k, hl, hc9, rfl⟩, ?_⟩, _, rfl⟩
          first
            | exact jTx_hash (Or.inr (Or.inl ⟨_, rfl⟩)) (jsm.I rfl) (fun _ => rfl) (fun _ _ => rfl) (fun _ _ => rfl) (fun _ => rfl) rfl rfl hl hv hb ⟨Or.inr jI_same, Or.inl e2⟩
            | exact jTx_hash (Or.inr (Or.inr ⟨_, rfl⟩)) (jsm.I rfl) (fun _ => rfl) (fun _ _ => rfl) (fun _ _ => rfl) (fun _ => rfl) rfl rfl hl hv hb ⟨Or.inl e1, Or.inr ⟨jI_same, h_42⟩⟩
        · intro h_42
          refine jw_aload_n (pc := 45) dJ3_hashCode_45 rfl ?_
          refine jw_iconst (pc := 46) dJ3_hashCode_46 ic_1 ?_
          refine jx_putZ (pc := 47) jf_J3_23_13 rfl dJ3_hashCode_47 rfl rfl (hs) (by decide) (by decide +kernel) (by decide +kernel) ?_
          refine jw_goto (pc := 50) (tgt := 58) dJ3_hashCode_50 (by decide) ?_
          refine jw_iload_n (pc := 58) dJ3_hashCode_58 rfl ?_
          refine jw_ireturn (pc := 59) dJ3_hashCode_59 rfl (rfl) ?_
          refine ⟨⟨_, rfl, ⟨f, k, hl, hc9, rfl⟩, ?_⟩, _, rfl⟩
          first
            | exact jTx_hash (Or.inr (Or.inl ⟨_, rfl⟩)) (jsm.I rfl) (fun _ => rfl) (fun _ _ => rfl) (fun _ _ => rfl) (fun _ => rfl) rfl rfl hl hv hb ⟨Or.inr jI_same, Or.inl e2⟩
            | exact jTx_hash (Or.inr (Or.inr ⟨_, rfl⟩)) (jsm.I rfl) (fun _ => rfl) (fun _ _ => rfl) (fun _ _ => rfl) (fun _ => rfl) rfl rfl hl hv hb ⟨Or.inl e1, Or.inr ⟨jI_same, h_42⟩⟩
      refine jw_aload_n (pc := 0) dJ3_hashCode_0 rfl ?_
      refine jx_getIs (pc := 1) (jf_J3_19_13.r) rfl dJ3_hashCode_1 rfl (hs) (by decide) (e1) ?_
      refine jw_istore_n (pc := 4) dJ3_hashCode_4 (Nat.le_of_ble_eq_true rfl) rfl ?_
      try dsimp only [jput1, jput2, jkill, jclr, jis2_i, jis2_l, jis2_rs, jis2_rn, cond]
      refine jw_iload_n (pc := 5) dJ3_hashCode_5 rfl ?_
      refine jw_if_ne (pc := 6) (tgt := 58) dJ3_hashCode_6 (by decide) ?_ ?_
      · intro h_6
        exact absurd rfl h_6
      · intro h_6
        refine jw_aload_n (pc := 9) dJ3_hashCode_9 rfl ?_
        refine jx_getIs (pc := 10) (jf_J3_23_13.r) rfl dJ3_hashCode_10 rfl (hs) (by decide) (e2) ?_
        first | refine jx_ifb_ne (pc := 13) (tgt := 58) dJ3_hashCode_13 (by decide) ?_ ?_ | refine jx_if_ne (pc := 13) (tgt := 58) dJ3_hashCode_13 (by decide) (by omega) ?_ ?_ | refine jw_if_ne (pc := 13) (tgt := 58) dJ3_hashCode_13 (by decide) ?_ ?_
        · intro h_13
          first | exact absurd rfl h_13 | exact absurd h_13 (by decide +kernel)
        · intro h_13
          refine jw_aload_n (pc := 16) dJ3_hashCode_16 rfl ?_
          refine jx_cVE (mi1 := mi_J3_isLatin1) (pc := 17) rfl dJ3_hashCode_17 lk_J3_492 rfl fi_J3_isLatin1 rfl rfl rfl (by decide) (hs) (t_J3_isLatin1 hG hK hc) (by first | decide | omega) rfl rfl (by decide) ?_
          first | refine jx_ifb_eq (pc := 20) (tgt := 33) dJ3_hashCode_20 (by decide) ?_ ?_ | refine jx_if_eq (pc := 20) (tgt := 33) dJ3_hashCode_20 (by decide) (by omega) ?_ ?_ | refine jw_if_eq (pc := 20) (tgt := 33) dJ3_hashCode_20 (by decide) ?_ ?_
          · intro h_20
            first | exact absurd h_20 (by decide +kernel) | cases h_20
          · intro h_20
            refine jw_aload_n (pc := 23) dJ3_hashCode_23 rfl ?_
            refine jx_getRs (pc := 24) (jf_J3_9_13.r) rfl dJ3_hashCode_24 rfl (hs) (by decide) (hv) ?_
            refine jx_cSE (mi1 := mi_J6_hashCode) (pc := 27) rfl dJ3_hashCode_27 lk_J3_628 rfl fi_J6_hashCode (t_J6_hashCode hb hl (hb64.2 h64) hk1) (by first | decide | omega) rfl rfl (by decide) ?_
            refine jw_goto (pc := 30) (tgt := 40) dJ3_hashCode_30 (by decide) ?_
            exact hcall
    ·
      refine jw_aload_n (pc := 0) dJ3_hashCode_0 rfl ?_
      refine jx_getIs (pc := 1) (jf_J3_19_13.r) rfl dJ3_hashCode_1 rfl (hs) (by decide) (e1) ?_
      refine jw_istore_n (pc := 4) dJ3_hashCode_4 (Nat.le_of_ble_eq_true rfl) rfl ?_
      try dsimp only [jput1, jput2, jkill, jclr, jis2_i, jis2_l, jis2_rs, jis2_rn, cond]
      refine jw_iload_n (pc := 5) dJ3_hashCode_5 rfl ?_
      refine jw_if_ne (pc := 6) (tgt := 58) dJ3_hashCode_6 (by decide) ?_ ?_
      · intro h_6
        exact absurd rfl h_6
      · intro h_6
        refine jw_aload_n (pc := 9) dJ3_hashCode_9 rfl ?_
        refine jx_getIs (pc := 10) (jf_J3_23_13.r) rfl dJ3_hashCode_10 rfl (hs) (by decide) (e2) ?_
        first | refine jx_ifb_ne (pc := 13) (tgt := 58) dJ3_hashCode_13 (by decide) ?_ ?_ | refine jx_if_ne (pc := 13) (tgt := 58) dJ3_hashCode_13 (by decide) (by omega) ?_ ?_ | refine jw_if_ne (pc := 13) (tgt := 58) dJ3_hashCode_13 (by decide) ?_ ?_
        · intro h_13
          refine jw_iload_n (pc := 58) dJ3_hashCode_58 rfl ?_
          refine jw_ireturn (pc := 59) dJ3_hashCode_59 rfl (rfl) ?_
          exact ⟨⟨_, rfl, ⟨f, k, hl, hc9, e3.symm⟩, hid⟩, _, rfl⟩
        · intro h_13
          first | exact absurd h_13 (by decide) | exact absurd h_13 (by decide +kernel) | omega
  · have e2 : jm_I M o 167 = hsF f k := hh1.resolve_left e1
    have e3 : ¬ hsF f k = 0 := fun q => e1 (e2.trans q)
    refine jw_aload_n (pc := 0) dJ3_hashCode_0 rfl ?_
    refine jx_getIs (pc := 1) (jf_J3_19_13.r) rfl dJ3_hashCode_1 rfl (hs) (by decide) (e2) ?_
    refine jw_istore_n (pc := 4) dJ3_hashCode_4 (Nat.le_of_ble_eq_true rfl) rfl ?_
    try dsimp only [jput1, jput2, jkill, jclr, jis2_i, jis2_l, jis2_rs, jis2_rn, cond]
    refine jw_iload_n (pc := 5) dJ3_hashCode_5 rfl ?_
    refine jw_if_ne (pc := 6) (tgt := 58) dJ3_hashCode_6 (by decide) ?_ ?_
    · intro h_6
      refine jw_iload_n (pc := 58) dJ3_hashCode_58 rfl ?_
      refine jw_ireturn (pc := 59) dJ3_hashCode_59 rfl (rfl) ?_
      exact ⟨⟨_, rfl, ⟨f, k, hl, hc9, rfl⟩, hid⟩, _, rfl⟩
    · intro h_6
      exact absurd h_6 e3
end JMK
