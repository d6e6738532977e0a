/-! ===== the letters of the tape ===== -/
def chI (σ : Sg) (n i : Nat) : Int32 := if i < n then sb σ 0 i &&& nI 255 else -1
section JCH
variable {G : Gh} {M : Mm} {σ : Sg}
theorem t_X2_see {n i : Nat} (hS : jSh M) (ht : ∀ k, k < 900 → jm_A M 65 k = sb σ 0 k) (hn : jm_I M 66 32 = nI n) (hn9 : n ≤ 900) (hi : i < 2 ^ 30) : jE G mi_X2_see 1 [jr (some 66), .int (nI i)] M (some (.int (chI σ n i))) M := by
  refine jE.of (by decide) rfl (Nat.le_of_ble_eq_true rfl) ?_
  refine jw_iload_n (pc := 0) dX2_see_0 rfl ?_
  refine jw_aload_n (pc := 1) dX2_see_1 rfl ?_
  refine jx_getIs (pc := 2) (jf_X2_33_1.r) rfl dX2_see_2 rfl (is_66 hS) (by decide) (hn) ?_
  first | refine jx_icmp_ge (pc := 5) (tgt := 21) dX2_see_5 (by decide) (by omega) (by omega) ?_ ?_ | refine jw_icmp_ge (pc := 5) (tgt := 21) dX2_see_5 (by decide) ?_ ?_
  · intro h_5
    refine jw_iconst (pc := 21) dX2_see_21 ic_m1 ?_
    refine jw_ireturn (pc := 22) dX2_see_22 rfl (rfl) ?_
    refine ⟨?_, rfl⟩
    unfold chI
    first
      | (rw [if_pos (by omega), ht i (by omega)])
      | (rw [if_neg (by omega)])
  · intro h_5
    refine jw_aload_n (pc := 8) dX2_see_8 rfl ?_
    refine jx_getRs (pc := 9) (jf_X2_22_1.r) rfl dX2_see_9 rfl (is_66 hS) (by decide) (sr_66_30 hS) ?_
    refine jw_iload_n (pc := 12) dX2_see_12 rfl ?_
    refine jx_bald (pc := 13) dX2_see_13 (ok_65 hS) (nn_65 hS) rfl (by omega) ?_
    refine jw_sipush (pc := 14) dX2_see_14 sp_255 ?_
    refine jw_iand (pc := 17) dX2_see_17 ?_
    refine jw_goto (pc := 18) (tgt := 22) dX2_see_18 (by decide) ?_
    refine jw_ireturn (pc := 22) dX2_see_22 rfl (rfl) ?_
    refine ⟨?_, rfl⟩
    unfold chI
    first
      | (rw [if_pos (by omega), ht i (by omega)])
      | (rw [if_neg (by omega)])
theorem t_X5_byteAt {n i : Nat} (hS : jSh M) (ht : ∀ k, k < 900 → jm_A M 91 k = sb σ 0 k) (hn : jm_I M 90 56 = nI n) (hn9 : n ≤ 900) (hi : i < 2 ^ 30) : jE G mi_X5_byteAt 1 [jr (some 90), .int (nI i)] M (some (.int (chI σ n i))) M := by
  refine jE.of (by decide) rfl (Nat.le_of_ble_eq_true rfl) ?_
  refine jw_iload_n (pc := 0) dX5_byteAt_0 rfl ?_
  refine jw_aload_n (pc := 1) dX5_byteAt_1 rfl ?_
  refine jx_getIs (pc := 2) (jf_X5_70_4.r) rfl dX5_byteAt_2 rfl (is_90 hS) (by decide) (hn) ?_
  first | refine jx_icmp_ge (pc := 5) (tgt := 21) dX5_byteAt_5 (by decide) (by omega) (by omega) ?_ ?_ | refine jw_icmp_ge (pc := 5) (tgt := 21) dX5_byteAt_5 (by decide) ?_ ?_
  · intro h_5
    refine jw_iconst (pc := 21) dX5_byteAt_21 ic_m1 ?_
    refine jw_ireturn (pc := 22) dX5_byteAt_22 rfl (rfl) ?_
    refine ⟨?_, rfl⟩
    unfold chI
    first
      | (rw [if_pos (by omega), ht i (by omega)])
      | (rw [if_neg (by omega)])
  · intro h_5
    refine jw_aload_n (pc := 8) dX5_byteAt_8 rfl ?_
    refine jx_getRs (pc := 9) (jf_X5_13_4.r) rfl dX5_byteAt_9 rfl (is_90 hS) (by decide) (sr_90_54 hS) ?_
    refine jw_iload_n (pc := 12) dX5_byteAt_12 rfl ?_
    refine jx_bald (pc := 13) dX5_byteAt_13 (ok_91 hS) (nn_91 hS) rfl (by omega) ?_
    refine jw_sipush (pc := 14) dX5_byteAt_14 sp_255 ?_
    refine jw_iand (pc := 17) dX5_byteAt_17 ?_
    refine jw_goto (pc := 18) (tgt := 22) dX5_byteAt_18 (by decide) ?_
    refine jw_ireturn (pc := 22) dX5_byteAt_22 rfl (rfl) ?_
    refine ⟨?_, rfl⟩
    unfold chI
    first
      | (rw [if_pos (by omega), ht i (by omega)])
      | (rw [if_neg (by omega)])
theorem t_X2_isSmall {c : Int32} : jE G mi_X2_isSmall 2 [.int c] M (some (.int (jb (inb c (nI 97) (nI 122))))) M := by
  refine jE.of (by decide) rfl (Nat.le_of_ble_eq_true rfl) ?_
  refine jw_iload_n (pc := 0) dX2_isSmall_0 rfl ?_
  refine jw_bipush (pc := 1) dX2_isSmall_1 bp_97 ?_
  refine jw_bipush (pc := 3) dX2_isSmall_3 bp_122 ?_
  refine jx_cSNE (mi1 := mi_X1_in) (pc := 5) rfl dX2_isSmall_5 q561 q152 q420 q421 rfl fi_X1_in (t_X1_in) (by first | decide | omega) rfl rfl (by decide) ?_
  refine jw_ireturn (pc := 8) dX2_isSmall_8 rfl (by first | exact jnar_b _ | exact jnar_0 | exact jnar_1 | decide +kernel) ?_
  exact ⟨rfl, rfl⟩
theorem t_X2_isDigit {c : Int32} : jE G mi_X2_isDigit 2 [.int c] M (some (.int (jb (inb c (nI 48) (nI 57))))) M := by
  refine jE.of (by decide) rfl (Nat.le_of_ble_eq_true rfl) ?_
  refine jw_iload_n (pc := 0) dX2_isDigit_0 rfl ?_
  refine jw_bipush (pc := 1) dX2_isDigit_1 bp_48 ?_
  refine jw_bipush (pc := 3) dX2_isDigit_3 bp_57 ?_
  refine jx_cSNE (mi1 := mi_X1_in) (pc := 5) rfl dX2_isDigit_5 q561 q152 q420 q421 rfl fi_X1_in (t_X1_in) (by first | decide | omega) rfl rfl (by decide) ?_
  refine jw_ireturn (pc := 8) dX2_isDigit_8 rfl (by first | exact jnar_b _ | exact jnar_0 | exact jnar_1 | decide +kernel) ?_
  exact ⟨rfl, rfl⟩
theorem t_X5_isLetter {c : Int32} : jE G mi_X5_isLetter 2 [.int c] M (some (.int (jb (inb c (nI 97) (nI 122))))) M := by
  refine jE.of (by decide) rfl (Nat.le_of_ble_eq_true rfl) ?_
  refine jw_iload_n (pc := 0) dX5_isLetter_0 rfl ?_
  refine jw_bipush (pc := 1) dX5_isLetter_1 bp_97 ?_
  refine jw_icmp_lt (pc := 3) (tgt := 16) dX5_isLetter_3 (by decide) ?_ ?_
  · intro h_3
    refine jw_iconst (pc := 16) dX5_isLetter_16 ic_0 ?_
    refine jw_ireturn (pc := 17) dX5_isLetter_17 rfl (by first | exact jnar_b _ | exact jnar_0 | exact jnar_1 | decide +kernel) ?_
    refine ⟨jret_f ?_, rfl⟩
    exact decide_eq_false (fun q => by first | exact absurd q.1 (i_nle.mpr h_3) | exact absurd q.2 (i_nle.mpr h_9))
  · intro h_3
    refine jw_iload_n (pc := 6) dX5_isLetter_6 rfl ?_
    refine jw_bipush (pc := 7) dX5_isLetter_7 bp_122 ?_
    refine jw_icmp_gt (pc := 9) (tgt := 16) dX5_isLetter_9 (by decide) ?_ ?_
    · intro h_9
      refine jw_iconst (pc := 16) dX5_isLetter_16 ic_0 ?_
      refine jw_ireturn (pc := 17) dX5_isLetter_17 rfl (by first | exact jnar_b _ | exact jnar_0 | exact jnar_1 | decide +kernel) ?_
      refine ⟨jret_f ?_, rfl⟩
      exact decide_eq_false (fun q => by first | exact absurd q.1 (i_nle.mpr h_3) | exact absurd q.2 (i_nle.mpr h_9))
    · intro h_9
      refine jw_iconst (pc := 12) dX5_isLetter_12 ic_1 ?_
      refine jw_goto (pc := 13) (tgt := 17) dX5_isLetter_13 (by decide) ?_
      refine jw_ireturn (pc := 17) dX5_isLetter_17 rfl (by first | exact jnar_b _ | exact jnar_0 | exact jnar_1 | decide +kernel) ?_
      refine ⟨jret_t ?_, rfl⟩
      exact decide_eq_true ⟨i_nlt.mp h_3, i_nlt.mp h_9⟩
theorem t_X5_isDigit {c : Int32} : jE G mi_X5_isDigit 2 [.int c] M (some (.int (jb (inb c (nI 48) (nI 57))))) M := by
  refine jE.of (by decide) rfl (Nat.le_of_ble_eq_true rfl) ?_
  refine jw_iload_n (pc := 0) dX5_isDigit_0 rfl ?_
  refine jw_bipush (pc := 1) dX5_isDigit_1 bp_48 ?_
  refine jw_icmp_lt (pc := 3) (tgt := 16) dX5_isDigit_3 (by decide) ?_ ?_
  · intro h_3
    refine jw_iconst (pc := 16) dX5_isDigit_16 ic_0 ?_
    refine jw_ireturn (pc := 17) dX5_isDigit_17 rfl (by first | exact jnar_b _ | exact jnar_0 | exact jnar_1 | decide +kernel) ?_
    refine ⟨jret_f ?_, rfl⟩
    exact decide_eq_false (fun q => by first | exact absurd q.1 (i_nle.mpr h_3) | exact absurd q.2 (i_nle.mpr h_9))
  · intro h_3
    refine jw_iload_n (pc := 6) dX5_isDigit_6 rfl ?_
    refine jw_bipush (pc := 7) dX5_isDigit_7 bp_57 ?_
    refine jw_icmp_gt (pc := 9) (tgt := 16) dX5_isDigit_9 (by decide) ?_ ?_
    · intro h_9
      refine jw_iconst (pc := 16) dX5_isDigit_16 ic_0 ?_
      refine jw_ireturn (pc := 17) dX5_isDigit_17 rfl (by first | exact jnar_b _ | exact jnar_0 | exact jnar_1 | decide +kernel) ?_
      refine ⟨jret_f ?_, rfl⟩
      exact decide_eq_false (fun q => by first | exact absurd q.1 (i_nle.mpr h_3) | exact absurd q.2 (i_nle.mpr h_9))
    · intro h_9
      refine jw_iconst (pc := 12) dX5_isDigit_12 ic_1 ?_
      refine jw_goto (pc := 13) (tgt := 17) dX5_isDigit_13 (by decide) ?_
      refine jw_ireturn (pc := 17) dX5_isDigit_17 rfl (by first | exact jnar_b _ | exact jnar_0 | exact jnar_1 | decide +kernel) ?_
      refine ⟨jret_t ?_, rfl⟩
      exact decide_eq_true ⟨i_nlt.mp h_3, i_nlt.mp h_9⟩
end JCH
