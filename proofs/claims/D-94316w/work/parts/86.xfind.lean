/-! ===== x: names are found ===== -/
def fndO (M : Mm) (a n : Nat) (f : Nat → Nat) (c : Nat) : Option Nat := if fstN n (fun k => decide (f k = c)) < n then jm_C M a (fstN n (fun k => decide (f k = c))) else none
section JFN
variable {G : Gh} {M : Mm}
theorem t_X6_amongP {a n N o1 c : Nat} {f : Nat → Nat} (hG : jGs G) (hk : jok M a 5) (hN : jm_N M a = N) (hn : n ≤ N) (hN9 : N ≤ 10) (hT : jTx M o1 c) (hrow : ∀ k, k < n → ∃ q o, jm_C M a k = some q ∧ jis M q 6 ∧ 104 ≤ q ∧ jm_R M q 110 = some o ∧ 104 ≤ o ∧ jTx M o (f k)) : jE G mi_X6_among 3 [jr (some a), .int (nI n), jr (some o1)] M (some (jr (fndO M a n f c))) M := by
  have J : ∀ k : Nat, (k ≤ n ∧ ∀ j, j < k → ¬ f j = c) → jW G mi_X6_among 3 M 2 [some (jr (some a)), some (.int (nI n)), some (jr (some o1)), some (.int (nI k))] [] M (fun r M' => r = .inl (some (jr (fndO M a n f c))) ∧ M' = M) := by
    refine jW.loop _ (fun k => n - k) _ (fun _ => []) (fun _ => M) (fun k hI ih => ?_)
    obtain ⟨hk9, h0⟩ := hI
    by_cases hkn : k < n
    · obtain ⟨q, o, r1, r2, r3, r4, r5, r6⟩ := hrow k hkn
      have ho : jis M o 13 := ⟨r6.it.1, r6.it.2, by omega⟩
      refine jw_iload_n (pc := 2) dX6_among_2 rfl ?_
      refine jw_iload_n (pc := 3) dX6_among_3 rfl ?_
      first | refine jx_icmp_ge (pc := 4) (tgt := 30) dX6_among_4 (by decide) (by omega) (by omega) ?_ ?_ | refine jw_icmp_ge (pc := 4) (tgt := 30) dX6_among_4 (by decide) ?_ ?_
      · intro h_4
        omega
      · intro h_4
        refine jw_aload_n (pc := 7) dX6_among_7 rfl ?_
        refine jw_iload_n (pc := 8) dX6_among_8 rfl ?_
        refine jx_aalds (pc := 9) (by decide) (by decide) dX6_among_9 (hk) (hN) rfl (by omega) (r1) ?_
        refine jx_getRs (pc := 10) jg_X6_51_6 rfl dX6_among_10 rfl (r2) (by decide) (r4) ?_
        refine jw_aload_n (pc := 13) dX6_among_13 rfl ?_
        refine jx_cVE (mi1 := mi_J3_equals) (pc := 14) rfl dX6_among_14 lk_X6_57 rfl fi_J3_equals rfl rfl rfl (by decide) (ho) (t_J3_equals hG r6 hT (by omega)) (by first | decide | omega) rfl rfl (by decide) ?_
        first | refine jx_ifb_eq (pc := 17) (tgt := 24) dX6_among_17 (by decide) ?_ ?_ | refine jx_if_eq (pc := 17) (tgt := 24) dX6_among_17 (by decide) (by omega) ?_ ?_ | refine jw_if_eq (pc := 17) (tgt := 24) dX6_among_17 (by decide) ?_ ?_
        · intro h_17
          first | refine jx_iinc (pc := 24) dX6_among_24 rfl rfl ?_ | refine jw_iinc (pc := 24) dX6_among_24 rfl rfl rfl ?_
          try dsimp only [jput1, jkill, jclr, jis2_i, jis2_l, jis2_rs, jis2_rn, cond]
          refine jw_goto (pc := 27) (tgt := 2) dX6_among_27 (by decide) ?_
          exact ih (k + 1) ⟨hkn, fun j hj => by
            by_cases e : j = k
            · subst e; exact of_decide_eq_false h_17
            · exact h0 j (by omega)⟩ (by omega)
        · intro h_17
          refine jw_aload_n (pc := 20) dX6_among_20 rfl ?_
          refine jw_iload_n (pc := 21) dX6_among_21 rfl ?_
          refine jx_aalds (pc := 22) (by decide) (by decide) dX6_among_22 (hk) (hN) rfl (by omega) (r1) ?_
          refine jw_areturn (pc := 23) dX6_among_23 rfl (Or.inl ⟨_, rfl⟩) ?_
          refine ⟨?_, rfl⟩
          have e : fstN n (fun k => decide (f k = c)) = k := fst_hit hkn h_17 (fun j hj => decide_eq_false (h0 j hj))
          unfold fndO; rw [e, if_pos hkn, r1]
    · have hk' : k = n := by omega
      subst hk'
      refine jw_iload_n (pc := 2) dX6_among_2 rfl ?_
      refine jw_iload_n (pc := 3) dX6_among_3 rfl ?_
      first | refine jx_icmp_ge (pc := 4) (tgt := 30) dX6_among_4 (by decide) (by omega) (by omega) ?_ ?_ | refine jw_icmp_ge (pc := 4) (tgt := 30) dX6_among_4 (by decide) ?_ ?_
      · intro h_4
        refine jw_null (pc := 30) dX6_among_30 ?_
        refine jw_areturn (pc := 31) dX6_among_31 rfl (Or.inl ⟨_, rfl⟩) ?_
        refine ⟨?_, rfl⟩
        have e : fstN k (fun k => decide (f k = c)) = k := fst_none (fun j hj => decide_eq_false (h0 j hj))
        unfold fndO; rw [e, if_neg (by omega)]
      · intro h_4
        omega
  refine jE.of (by decide) rfl (Nat.le_of_ble_eq_true rfl) ?_
  refine jw_iconst (pc := 0) dX6_among_0 ic_0 ?_
  refine jw_istore_n (pc := 1) dX6_among_1 (Nat.le_of_ble_eq_true rfl) rfl ?_
  try dsimp only [jput1, jput2, jkill, jclr, jis2_i, jis2_l, jis2_rs, jis2_rn, cond]
  exact J 0 ⟨Nat.zero_le _, fun j hj => absurd hj (Nat.not_lt_zero _)⟩
theorem t_X6_amongQ {a n N o1 c : Nat} {f : Nat → Nat} (hG : jGs G) (hk : jok M a 6) (hN : jm_N M a = N) (hn : n ≤ N) (hN9 : N ≤ 10) (hT : jTx M o1 c) (hrow : ∀ k, k < n → ∃ q o, jm_C M a k = some q ∧ jis M q 7 ∧ 104 ≤ q ∧ jm_R M q 110 = some o ∧ 104 ≤ o ∧ jTx M o (f k)) : jE G mi_X6_among 3 [jr (some a), .int (nI n), jr (some o1)] M (some (jr (fndO M a n f c))) M := by
  have J : ∀ k : Nat, (k ≤ n ∧ ∀ j, j < k → ¬ f j = c) → jW G mi_X6_among 3 M 2 [some (jr (some a)), some (.int (nI n)), some (jr (some o1)), some (.int (nI k))] [] M (fun r M' => r = .inl (some (jr (fndO M a n f c))) ∧ M' = M) := by
    refine jW.loop _ (fun k => n - k) _ (fun _ => []) (fun _ => M) (fun k hI ih => ?_)
    obtain ⟨hk9, h0⟩ := hI
    by_cases hkn : k < n
    · obtain ⟨q, o, r1, r2, r3, r4, r5, r6⟩ := hrow k hkn
      have ho : jis M o 13 := ⟨r6.it.1, r6.it.2, by omega⟩
      refine jw_iload_n (pc := 2) dX6_among_2 rfl ?_
      refine jw_iload_n (pc := 3) dX6_among_3 rfl ?_
      first | refine jx_icmp_ge (pc := 4) (tgt := 30) dX6_among_4 (by decide) (by omega) (by omega) ?_ ?_ | refine jw_icmp_ge (pc := 4) (tgt := 30) dX6_among_4 (by decide) ?_ ?_
      · intro h_4
        omega
      · intro h_4
        refine jw_aload_n (pc := 7) dX6_among_7 rfl ?_
        refine jw_iload_n (pc := 8) dX6_among_8 rfl ?_
        refine jx_aalds (pc := 9) (by decide) (by decide) dX6_among_9 (hk) (hN) rfl (by omega) (r1) ?_
        refine jx_getRs (pc := 10) jg_X6_51_7 rfl dX6_among_10 rfl (r2) (by decide) (r4) ?_
        refine jw_aload_n (pc := 13) dX6_among_13 rfl ?_
        refine jx_cVE (mi1 := mi_J3_equals) (pc := 14) rfl dX6_among_14 lk_X6_57 rfl fi_J3_equals rfl rfl rfl (by decide) (ho) (t_J3_equals hG r6 hT (by omega)) (by first | decide | omega) rfl rfl (by decide) ?_
        first | refine jx_ifb_eq (pc := 17) (tgt := 24) dX6_among_17 (by decide) ?_ ?_ | refine jx_if_eq (pc := 17) (tgt := 24) dX6_among_17 (by decide) (by omega) ?_ ?_ | refine jw_if_eq (pc := 17) (tgt := 24) dX6_among_17 (by decide) ?_ ?_
        · intro h_17
          first | refine jx_iinc (pc := 24) dX6_among_24 rfl rfl ?_ | refine jw_iinc (pc := 24) dX6_among_24 rfl rfl rfl ?_
          try dsimp only [jput1, jkill, jclr, jis2_i, jis2_l, jis2_rs, jis2_rn, cond]
          refine jw_goto (pc := 27) (tgt := 2) dX6_among_27 (by decide) ?_
          exact ih (k + 1) ⟨hkn, fun j hj => by
            by_cases e : j = k
            · subst e; exact of_decide_eq_false h_17
            · exact h0 j (by omega)⟩ (by omega)
        · intro h_17
          refine jw_aload_n (pc := 20) dX6_among_20 rfl ?_
          refine jw_iload_n (pc := 21) dX6_among_21 rfl ?_
          refine jx_aalds (pc := 22) (by decide) (by decide) dX6_among_22 (hk) (hN) rfl (by omega) (r1) ?_
          refine jw_areturn (pc := 23) dX6_among_23 rfl (Or.inl ⟨_, rfl⟩) ?_
          refine ⟨?_, rfl⟩
          have e : fstN n (fun k => decide (f k = c)) = k := fst_hit hkn h_17 (fun j hj => decide_eq_false (h0 j hj))
          unfold fndO; rw [e, if_pos hkn, r1]
    · have hk' : k = n := by omega
      subst hk'
      refine jw_iload_n (pc := 2) dX6_among_2 rfl ?_
      refine jw_iload_n (pc := 3) dX6_among_3 rfl ?_
      first | refine jx_icmp_ge (pc := 4) (tgt := 30) dX6_among_4 (by decide) (by omega) (by omega) ?_ ?_ | refine jw_icmp_ge (pc := 4) (tgt := 30) dX6_among_4 (by decide) ?_ ?_
      · intro h_4
        refine jw_null (pc := 30) dX6_among_30 ?_
        refine jw_areturn (pc := 31) dX6_among_31 rfl (Or.inl ⟨_, rfl⟩) ?_
        refine ⟨?_, rfl⟩
        have e : fstN k (fun k => decide (f k = c)) = k := fst_none (fun j hj => decide_eq_false (h0 j hj))
        unfold fndO; rw [e, if_neg (by omega)]
      · intro h_4
        omega
  refine jE.of (by decide) rfl (Nat.le_of_ble_eq_true rfl) ?_
  refine jw_iconst (pc := 0) dX6_among_0 ic_0 ?_
  refine jw_istore_n (pc := 1) dX6_among_1 (Nat.le_of_ble_eq_true rfl) rfl ?_
  try dsimp only [jput1, jput2, jkill, jclr, jis2_i, jis2_l, jis2_rs, jis2_rn, cond]
  exact J 0 ⟨Nat.zero_le _, fun j hj => absurd hj (Nat.not_lt_zero _)⟩
/-- what is found: a place, a person, or nothing -/
theorem nw_place {V : Vt} {c : Nat} (h : vNw V) (hf : nmF V c < V 0 13) (hs : V 26 (nmF V c) = 0) : V 27 (nmF V c) < V 0 0 ∧ fstN (V 0 0) (fun k => decide (V 23 k = c)) = V 27 (nmF V c) := by
  obtain ⟨h1, h2, h3, h4, h5⟩ := h
  have e := (fst_spec hf).1
  have e25 : V 25 (nmF V c) = c := of_decide_eq_true e
  rcases h2 _ hf with ⟨a1, a2, a3⟩ | ⟨a1, -⟩
  · refine ⟨a2, fst_hit a2 (decide_eq_true (a3.trans e25)) (fun j hj => decide_eq_false (fun q => ?_))⟩
    obtain ⟨k, k1, k2, k3⟩ := h3 j (by omega)
    rcases h2 k k1 with ⟨b1, b2, b3⟩ | ⟨b1, -⟩
    · rw [k3] at b3
      have := h5 k _ k1 hf (b3.symm.trans (q.trans e25.symm))
      subst this
      omega
    · omega
  · omega
theorem nw_person {V : Vt} {c : Nat} (h : vNw V) (hf : nmF V c < V 0 13) (hs : V 26 (nmF V c) = 1) : V 27 (nmF V c) < V 0 1 ∧ ¬ fstN (V 0 0) (fun k => decide (V 23 k = c)) < V 0 0 ∧ fstN (V 0 1) (fun k => decide (V 24 k = c)) = V 27 (nmF V c) := by
  obtain ⟨h1, h2, h3, h4, h5⟩ := h
  have e := (fst_spec hf).1
  have e25 : V 25 (nmF V c) = c := of_decide_eq_true e
  rcases h2 _ hf with ⟨a1, -⟩ | ⟨a1, a2, a3⟩
  · omega
  · refine ⟨a2, fun q => ?_, fst_hit a2 (decide_eq_true (a3.trans e25)) (fun j hj => decide_eq_false (fun q => ?_))⟩
    · have q1 : V 23 (fstN (V 0 0) (fun k => decide (V 23 k = c))) = c := of_decide_eq_true (fst_spec q).1
      obtain ⟨k, k1, k2, k3⟩ := h3 _ q
      rcases h2 k k1 with ⟨b1, b2, b3⟩ | ⟨b1, -⟩
      · rw [k3] at b3
        have := h5 k _ k1 hf (b3.symm.trans (q1.trans e25.symm))
        subst this
        omega
      · omega
    · obtain ⟨k, k1, k2, k3⟩ := h4 j (by omega)
      rcases h2 k k1 with ⟨b1, -⟩ | ⟨b1, b2, b3⟩
      · omega
      · rw [k3] at b3
        have := h5 k _ k1 hf (b3.symm.trans (q.trans e25.symm))
        subst this
        omega
theorem nw_none {V : Vt} {c : Nat} (h : vNw V) (hf : ¬ nmF V c < V 0 13) : ¬ fstN (V 0 0) (fun k => decide (V 23 k = c)) < V 0 0 ∧ ¬ fstN (V 0 1) (fun k => decide (V 24 k = c)) < V 0 1 := by
  obtain ⟨h1, h2, h3, h4, h5⟩ := h
  refine ⟨fun q => ?_, fun q => ?_⟩
  · have q1 : V 23 (fstN (V 0 0) (fun k => decide (V 23 k = c))) = c := of_decide_eq_true (fst_spec q).1
    obtain ⟨k, k1, k2, k3⟩ := h3 _ q
    rcases h2 k k1 with ⟨b1, b2, b3⟩ | ⟨b1, -⟩
    · rw [k3, q1] at b3
      exact absurd (fst_all hf k k1) (by rw [decide_eq_true b3.symm]; decide)
    · omega
  · have q1 : V 24 (fstN (V 0 1) (fun k => decide (V 24 k = c))) = c := of_decide_eq_true (fst_spec q).1
    obtain ⟨k, k1, k2, k3⟩ := h4 _ q
    rcases h2 k k1 with ⟨b1, -⟩ | ⟨b1, b2, b3⟩
    · omega
    · rw [k3, q1] at b3
      exact absurd (fst_all hf k k1) (by rw [decide_eq_true b3.symm]; decide)
theorem t_X6_findP {o1 c v : Nat} {V : Vt} (hG : jGs G) (hV : jVx M v V) (hN : jNx M v V) (hW : jWf V) (hT : jTx M o1 c) {q : Nat} (hq : fndO M (v + 1) (V 0 0) (V 23) c = some q) : jE G mi_X6_find 4 [jr (some v), jr (some o1)] M (some (jr (some q))) M := by
  have hv := hV.1
  have hN := hN.w hv.2.1
  have h1 := wf_np hW
  refine jE.of (by decide) rfl (Nat.le_of_ble_eq_true rfl) ?_
  refine jw_aload_n (pc := 0) dX6_find_0 rfl ?_
  refine jx_getRs (pc := 1) (jf_X6_11_5.r) rfl dX6_find_1 rfl (vis hv) (by decide) (vr_1 hv) ?_
  refine jw_aload_n (pc := 4) dX6_find_4 rfl ?_
  refine jx_getIs (pc := 5) (jf_X6_63_5.r) rfl dX6_find_5 rfl (vis hv) (by decide) (xi_np hV) ?_
  refine jw_aload_n (pc := 8) dX6_find_8 rfl ?_
  refine jx_cSE (mi1 := mi_X6_among) (pc := 9) rfl dX6_find_9 lk_X6_67 rfl fi_X6_among (t_X6_amongP hG (vok_1 hv) (vnn_1 hv) h1 (by decide) hT hN.1) (by first | decide | omega) rfl rfl (by decide) ?_
  rw [hq]
  refine jw_astore_n (pc := 12) dX6_find_12 (Nat.le_of_ble_eq_true rfl) rfl ?_
  try dsimp only [jput1, jput2, jkill, jclr, jis2_i, jis2_l, jis2_rs, jis2_rn, cond]
  refine jw_aload_n (pc := 13) dX6_find_13 rfl ?_
  refine jw_ifnonnull (pc := 14) (tgt := 32) dX6_find_14 (by decide) (fun ax h => ?_) (fun h => by cases h)
  clear h
  refine jw_aload_n (pc := 32) dX6_find_32 rfl ?_
  refine jw_areturn (pc := 33) dX6_find_33 rfl (Or.inl ⟨_, rfl⟩) ?_
  exact ⟨rfl, rfl⟩
theorem t_X6_findQ {o1 c v : Nat} {V : Vt} (hG : jGs G) (hV : jVx M v V) (hN : jNx M v V) (hW : jWf V) (hT : jTx M o1 c) (hq : fndO M (v + 1) (V 0 0) (V 23) c = none) : jE G mi_X6_find 4 [jr (some v), jr (some o1)] M (some (jr (fndO M (v + 2) (V 0 1) (V 24) c))) M := by
  have hv := hV.1
  have hN := hN.w hv.2.1
  have h1 := wf_np hW
  have h2 := wf_nq hW
  refine jE.of (by decide) rfl (Nat.le_of_ble_eq_true rfl) ?_
  refine jw_aload_n (pc := 0) dX6_find_0 rfl ?_
  refine jx_getRs (pc := 1) (jf_X6_11_5.r) rfl dX6_find_1 rfl (vis hv) (by decide) (vr_1 hv) ?_
  refine jw_aload_n (pc := 4) dX6_find_4 rfl ?_
  refine jx_getIs (pc := 5) (jf_X6_63_5.r) rfl dX6_find_5 rfl (vis hv) (by decide) (xi_np hV) ?_
  refine jw_aload_n (pc := 8) dX6_find_8 rfl ?_
  refine jx_cSE (mi1 := mi_X6_among) (pc := 9) rfl dX6_find_9 lk_X6_67 rfl fi_X6_among (t_X6_amongP hG (vok_1 hv) (vnn_1 hv) h1 (by decide) hT hN.1) (by first | decide | omega) rfl rfl (by decide) ?_
  rw [hq]
  refine jw_astore_n (pc := 12) dX6_find_12 (Nat.le_of_ble_eq_true rfl) rfl ?_
  try dsimp only [jput1, jput2, jkill, jclr, jis2_i, jis2_l, jis2_rs, jis2_rn, cond]
  refine jw_aload_n (pc := 13) dX6_find_13 rfl ?_
  refine jw_ifnonnull (pc := 14) (tgt := 32) dX6_find_14 (by decide) (fun ax h => by cases h) (fun h => ?_)
  clear h
  refine jw_aload_n (pc := 17) dX6_find_17 rfl ?_
  refine jx_getRs (pc := 18) (jf_X6_19_5.r) rfl dX6_find_18 rfl (vis hv) (by decide) (vr_2 hv) ?_
  refine jw_aload_n (pc := 21) dX6_find_21 rfl ?_
  refine jx_getIs (pc := 22) (jf_X6_71_5.r) rfl dX6_find_22 rfl (vis hv) (by decide) (xi_nq hV) ?_
  refine jw_aload_n (pc := 25) dX6_find_25 rfl ?_
  refine jx_cSE (mi1 := mi_X6_among) (pc := 26) rfl dX6_find_26 lk_X6_67 rfl fi_X6_among (t_X6_amongQ hG (vok_2 hv) (vnn_2 hv) h2 (by decide) hT hN.2) (by first | decide | omega) rfl rfl (by decide) ?_
  refine jw_goto (pc := 29) (tgt := 33) dX6_find_29 (by decide) ?_
  refine jw_areturn (pc := 33) dX6_find_33 rfl (Or.inl ⟨_, rfl⟩) ?_
  exact ⟨rfl, rfl⟩
end JFN
