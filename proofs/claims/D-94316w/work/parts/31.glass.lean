/-! ===== mirrors for one alone ===== -/
def keepB (V : Vt) (p set : Nat) : Bool := allB (V 0 12) (fun t => decide (plainS V (rangeV V t) 0 0 p &&& set ≠ 0))
def glassV (V : Vt) (p : Nat) : Nat := msk (V 0 0) (fun a => keepB V p (2 ^ a))
def q_glass (σ : Sg) (p : Int32) : Int32 × Int32 := if ixV (sv σ) 0 p then (nI (glassV (vv σ) (iN p)), 0) else (-1, 1)
theorem and_pow (s a : Nat) : s &&& 2 ^ a ≠ 0 ↔ s.testBit a = true := by
  constructor
  · intro h
    cases hb : s.testBit a with
    | true => rfl
    | false =>
      refine absurd (Nat.eq_of_testBit_eq (fun i => ?_)) h
      rw [Nat.testBit_and, Nat.testBit_two_pow, Nat.zero_testBit]
      by_cases e : a = i
      · subst e; rw [hb]; rfl
      · rw [decide_eq_false e, Bool.and_false]
  · intro h e
    have : (s &&& 2 ^ a).testBit a = true := by rw [Nat.testBit_and, h, Nat.testBit_two_pow]; simp
    rw [e, Nat.zero_testBit] at this
    cases this
section JGL
variable {G : Gh} {M : Mm} {σ : Sg}
theorem t_X1_doFor {p set v : Nat} {V : Vt} (hs : jXs M v V) (hp : p < V 0 0) (hset : set < 1024) : jE G mi_X1_doFor 4 [jr (some 64), .int (nI p), .int (nI set)] M (some (.int (jb (keepB V p set)))) M := by
  have hS := hs.1
  have hv := hs.s
  have hn := wf_np hs.w
  obtain ⟨d1, d2, d3, d4, d5⟩ := wf_d hs.w
  refine jE.of (by decide) rfl (Nat.le_of_ble_eq_true rfl) ?_
  have J : ∀ k : Nat, k ≤ V 0 12 → jW G mi_X1_doFor 4 M 5 [some (jr (some 64)), some (.int (nI p)), some (.int (nI set)), some (.int (jb (allB k (fun t => decide (plainS V (rangeV V t) 0 0 p &&& set ≠ 0))))), some (.int (nI k))] [] M (fun r M' => r = .inl (some (.int (jb (keepB V p set)))) ∧ M' = M) := by
    refine jW.loop _ (fun k => V 0 12 - k) _ (fun _ => []) (fun _ => M) (fun k hk ih => ?_)
    by_cases hkn : k < V 0 12
    · have hb := plain_lt hs.w (rangeV V k) 0 0 p
      have hb2 : plainS V (rangeV V k) 0 0 p &&& set ≤ set := Nat.and_le_right
      have J42 : jW G mi_X1_doFor 4 M 42 [some (jr (some 64)), some (.int (nI p)), some (.int (nI set)), some (.int (jb (allB k (fun t => decide (plainS V (rangeV V t) 0 0 p &&& set ≠ 0))))), some (.int (nI k))] [.int (jb (allB (k + 1) (fun t => decide (plainS V (rangeV V t) 0 0 p &&& set ≠ 0))))] M (fun r M' => r = .inl (some (.int (jb (keepB V p set)))) ∧ M' = M) := by
        refine jw_istore_n (pc := 42) dX1_doFor_42 (Nat.le_of_ble_eq_true rfl) rfl ?_
        try dsimp only [jput1, jput2, jkill, jclr, jis2_i, jis2_l, jis2_rs, jis2_rn, cond]
        first | refine jx_iinc (pc := 43) dX1_doFor_43 rfl rfl ?_ | refine jw_iinc (pc := 43) dX1_doFor_43 rfl rfl rfl ?_
        try dsimp only [jput1, jkill, jclr, jis2_i, jis2_l, jis2_rs, jis2_rn, cond]
        refine jw_goto (pc := 46) (tgt := 5) dX1_doFor_46 (by decide) ?_
        exact ih (k + 1) hkn (by omega)
      obtain ⟨s1, s2, s3, s4, s5, s6, s7, s8, s9⟩ := sgt_si hs k
      refine jw_iload (pc := 5) dX1_doFor_5 rfl ?_
      refine jw_aload_n (pc := 7) dX1_doFor_7 rfl ?_
      refine jx_getRs (pc := 8) (jf_X1_109_0.r) rfl dX1_doFor_8 rfl (is_64 hS) (by decide) (hs.r) ?_
      refine jx_getIs (pc := 11) (jf_X1_225_5.r) rfl dX1_doFor_11 rfl (vis hv) (by decide) (xi_steps hs.V) ?_
      first | refine jx_icmp_ge (pc := 14) (tgt := 49) dX1_doFor_14 (by decide) (by omega) (by omega) ?_ ?_ | refine jw_icmp_ge (pc := 14) (tgt := 49) dX1_doFor_14 (by decide) ?_ ?_
      · intro h_14
        omega
      · intro h_14
        refine jw_iload_n (pc := 17) dX1_doFor_17 rfl ?_
        first | refine jx_ifb_eq (pc := 18) (tgt := 41) dX1_doFor_18 (by decide) ?_ ?_ | refine jx_if_eq (pc := 18) (tgt := 41) dX1_doFor_18 (by decide) (by omega) ?_ ?_ | refine jw_if_eq (pc := 18) (tgt := 41) dX1_doFor_18 (by decide) ?_ ?_
        · intro h_18
          refine jw_iconst (pc := 41) dX1_doFor_41 ic_0 ?_
          refine jw_ff ?_ J42; rw [allB_s]; first | (rw [h_18]; rfl) | (rw [h_34, Bool.and_comm]; rfl)
        · intro h_18
          refine jw_aload_n (pc := 21) dX1_doFor_21 rfl ?_
          refine jw_iload (pc := 22) dX1_doFor_22 rfl ?_
          refine jx_cVE (mi1 := mi_X1_sight) (pc := 24) rfl dX1_doFor_24 lk_X1_166 rfl fi_X1_sight rfl rfl rfl (by decide) (is_64 hS) (t_X1_sight (t := k) hs (by omega)) (by first | decide | omega) rfl rfl (by decide) ?_
          refine jx_getRs (pc := 27) jg_X1_170_3 rfl dX1_doFor_27 rfl (s1) (by decide) (s2) ?_
          refine jw_iload_n (pc := 30) dX1_doFor_30 rfl ?_
          refine jx_ialds (pc := 31) dX1_doFor_31 (s4) (s5) rfl (by omega) (sgt_p hs k hp) ?_
          refine jw_iload_n (pc := 32) dX1_doFor_32 rfl ?_
          refine jw_iand (pc := 33) dX1_doFor_33 ?_
          rw [nI_and']
          first | refine jx_ifb_eq (pc := 34) (tgt := 41) dX1_doFor_34 (by decide) ?_ ?_ | refine jx_if_eq (pc := 34) (tgt := 41) dX1_doFor_34 (by decide) (by omega) ?_ ?_ | refine jw_if_eq (pc := 34) (tgt := 41) dX1_doFor_34 (by decide) ?_ ?_
          · intro h_34
            refine jw_iconst (pc := 41) dX1_doFor_41 ic_0 ?_
            refine jw_ff ?_ J42; rw [allB_s]; first | (rw [h_18]; rfl) | (rw [h_34, Bool.and_comm]; rfl)
          · intro h_34
            refine jw_iconst (pc := 37) dX1_doFor_37 ic_1 ?_
            refine jw_goto (pc := 38) (tgt := 42) dX1_doFor_38 (by decide) ?_
            refine jw_tt ?_ J42; rw [allB_s, h_18, decide_eq_true h_34]; rfl
    · have hk' : k = V 0 12 := by omega
      subst hk'
      refine jw_iload (pc := 5) dX1_doFor_5 rfl ?_
      refine jw_aload_n (pc := 7) dX1_doFor_7 rfl ?_
      refine jx_getRs (pc := 8) (jf_X1_109_0.r) rfl dX1_doFor_8 rfl (is_64 hS) (by decide) (hs.r) ?_
      refine jx_getIs (pc := 11) (jf_X1_225_5.r) rfl dX1_doFor_11 rfl (vis hv) (by decide) (xi_steps hs.V) ?_
      first | refine jx_icmp_ge (pc := 14) (tgt := 49) dX1_doFor_14 (by decide) (by omega) (by omega) ?_ ?_ | refine jw_icmp_ge (pc := 14) (tgt := 49) dX1_doFor_14 (by decide) ?_ ?_
      · intro h_14
        refine jw_iload_n (pc := 49) dX1_doFor_49 rfl ?_
        refine jw_ireturn (pc := 50) dX1_doFor_50 rfl (by first | exact jnar_b _ | exact jnar_0 | exact jnar_1 | decide +kernel) ?_
        exact ⟨rfl, rfl⟩
      · intro h_14
        omega
  refine jw_iconst (pc := 0) dX1_doFor_0 ic_1 ?_
  refine jw_istore_n (pc := 1) dX1_doFor_1 (Nat.le_of_ble_eq_true rfl) rfl ?_
  try dsimp only [jput1, jput2, jkill, jclr, jis2_i, jis2_l, jis2_rs, jis2_rn, cond]
  refine jw_iconst (pc := 2) dX1_doFor_2 ic_0 ?_
  refine jw_istore (pc := 3) dX1_doFor_3 (Nat.le_of_ble_eq_true rfl) rfl ?_
  try dsimp only [jput1, jput2, jkill, jclr, jis2_i, jis2_l, jis2_rs, jis2_rn, cond]
  exact J 0 (Nat.zero_le _)
end JGL
