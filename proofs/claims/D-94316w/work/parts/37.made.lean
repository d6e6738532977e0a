/-! ===== walls opened ===== -/
def wstep (n : Nat) (p : Option Nat) (o : Option (Nat × Nat)) : Option (Nat × Nat) := match p with
  | none => o
  | some b => match o with
    | none => some (n, cnt b)
    | some q => if cnt b < q.2 then some (n, cnt b) else some q
def wbest (V : Vt) (r k n : Nat) : Option (Nat × Nat) := match n with
  | 0 => none
  | n + 1 => if cnt n = k then wstep n (postO V (seesS V r n 0) (2 ^ V 0 0 - 1)) (wbest V r k n) else wbest V r k n
theorem wbest_s (V : Vt) (r k n : Nat) : wbest V r k (n + 1) = if cnt n = k then wstep n (postO V (seesS V r n 0) (2 ^ V 0 0 - 1)) (wbest V r k n) else wbest V r k n := rfl
theorem wbest_lt {V : Vt} {r k n : Nat} {q : Nat × Nat} (h : wbest V r k n = some q) : q.1 < n ∧ q.2 ≤ 10 := by
  induction n generalizing q with
  | zero => cases h
  | succ n ih =>
    rw [wbest_s] at h
    split at h
    · unfold wstep at h
      split at h
      · have := ih h; omega
      · rename_i b _
        have hb := cnt_le b
        split at h
        · cases h; exact ⟨by show n < n + 1; omega, hb⟩
        · rename_i q2 e
          split at h
          · cases h; exact ⟨by show n < n + 1; omega, hb⟩
          · cases h; have := ih e; omega
    · have := ih h; omega
def wI (o : Option (Nat × Nat)) : Int32 := match o with
  | none => -2
  | some q => nI q.1
def wC (o : Option (Nat × Nat)) : Int32 := match o with
  | none => -2
  | some q => nI q.2
def madeW (o : Option Vt) (k t : Int32) : Int32 := match o with
  | none => 1
  | some V => if isIx (min 3 (V 0 3) + 1) k && isIx 200 t then 0 else 2
theorem madeW_s (V : Vt) (k t : Int32) : madeW (some V) k t = if (isIx (min 3 (V 0 3) + 1) k && isIx 200 t) = true then 0 else 2 := rfl
theorem madeW_0 {o : Option Vt} {k t : Int32} (h : madeW o k t = 0) : ∃ V kk kt, o = some V ∧ (kk ≤ 3 ∧ kk ≤ V 0 3) ∧ k = nI kk ∧ kt < 200 ∧ t = nI kt := by
  cases o with
  | none => exact absurd (show (1 : Int32) = 0 from h) (by decide)
  | some V =>
    unfold madeW at h
    by_cases q : (isIx (min 3 (V 0 3) + 1) k && isIx 200 t) = true
    · rw [Bool.and_eq_true] at q
      obtain ⟨k1, h1, h2⟩ := isIx_of q.1
      obtain ⟨k2, h3, h4⟩ := isIx_of q.2
      exact ⟨V, k1, k2, rfl, ⟨by omega, by omega⟩, h2, h3, h4⟩
    · exact absurd (show (2 : Int32) = 0 by simpa [q] using h) (by decide)
theorem madeW_c (o : Option Vt) (k t : Int32) : madeW o k t = 0 ∨ madeW o k t = 1 ∨ madeW o k t = 2 := by
  cases o with
  | none => exact Or.inr (Or.inl rfl)
  | some V =>
    show (if (isIx (min 3 (V 0 3) + 1) k && isIx 200 t) = true then (0 : Int32) else 2) = 0 ∨ _ ∨ (if (isIx (min 3 (V 0 3) + 1) k && isIx 200 t) = true then (0 : Int32) else 2) = 2
    split
    · exact Or.inl rfl
    · exact Or.inr (Or.inr rfl)
def madeO (V : Vt) (t k : Nat) : Option (Nat × Nat) := wbest V (rangeV V t) k (2 ^ V 0 3)
def q_made (σ : Sg) (k t : Int32) : Int32 × Int32 := if madeW (sv σ) k t = 0 then (wI (madeO (vv σ) (iN t) (iN k)), 0) else (-1, madeW (sv σ) k t)
def q_needs (σ : Sg) (k t : Int32) : Int32 × Int32 := if madeW (sv σ) k t = 0 then (wC (madeO (vv σ) (iN t) (iN k)), 0) else (-1, madeW (sv σ) k t)
theorem madeO_lt {V : Vt} (hw : jWf V) {t k : Nat} {q : Nat × Nat} (h : madeO V t k = some q) : q.1 < 1024 ∧ q.2 ≤ 10 := by
  have := wbest_lt h
  have := p10 (wf_nw hw)
  omega
section JMD
variable {G : Gh} {M : Mm} {σ : Sg}
theorem t_J8_min {a b : Nat} (ha : a < 2 ^ 31) (hb : b < 2 ^ 31) : jE G mi_J8_min 1 [.int (nI a), .int (nI b)] M (some (.int (nI (min a b)))) M := by
  refine jE.ofF (by decide +kernel) rfl (Nat.le_of_ble_eq_true rfl) ?_
  refine jw_iload_n (pc := 0) dJ8_min_0 rfl ?_
  refine jw_iload_n (pc := 1) dJ8_min_1 rfl ?_
  first | refine jx_icmp_gt (pc := 2) (tgt := 9) dJ8_min_2 (by decide) (by omega) (by omega) ?_ ?_ | refine jw_icmp_gt (pc := 2) (tgt := 9) dJ8_min_2 (by decide) ?_ ?_
  · intro h_2
    refine jw_iload_n (pc := 9) dJ8_min_9 rfl ?_
    refine jw_ireturn (pc := 10) dJ8_min_10 rfl (rfl) ?_
    refine ⟨?_, rfl⟩
    first | rw [show min a b = a from Nat.min_eq_left (by omega)] | rw [show min a b = b from Nat.min_eq_right (by omega)]
  · intro h_2
    refine jw_iload_n (pc := 5) dJ8_min_5 rfl ?_
    refine jw_goto (pc := 6) (tgt := 10) dJ8_min_6 (by decide) ?_
    refine jw_ireturn (pc := 10) dJ8_min_10 rfl (rfl) ?_
    refine ⟨?_, rfl⟩
    first | rw [show min a b = a from Nat.min_eq_left (by omega)] | rw [show min a b = b from Nat.min_eq_right (by omega)]
theorem t_X1_madeWhy {p t : Int32} {o : Option Vt} (h : jXx M σ) (ho : sv σ = o) : jE G mi_X1_madeWhy 3 [jr (some 64), .int p, .int t] M (some (.int (madeW o p t))) M := by
  have hS := h.1
  refine jE.of (by decide) rfl (Nat.le_of_ble_eq_true rfl) ?_
  cases o with
  | none =>
    refine jw_aload_n (pc := 0) dX1_madeWhy_0 rfl ?_
    refine jx_getRs (pc := 1) (jf_X1_109_0.r) rfl dX1_madeWhy_1 rfl (is_64 hS) (by decide) (h.no ho) ?_
    refine jw_ifnonnull (pc := 4) (tgt := 11) dX1_madeWhy_4 (by decide) (fun ax h => by cases h) (fun h => ?_)
    clear h
    refine jw_iconst (pc := 7) dX1_madeWhy_7 ic_1 ?_
    refine jw_goto (pc := 8) (tgt := 42) dX1_madeWhy_8 (by decide) ?_
    refine jw_ireturn (pc := 42) dX1_madeWhy_42 rfl (rfl) ?_
    exact ⟨rfl, rfl⟩
  | some V =>
    obtain ⟨v, hs, hN⟩ := h.so ho
    have hv := hs.s
    have hn := wf_nw hs.w
    refine jw_aload_n (pc := 0) dX1_madeWhy_0 rfl ?_
    refine jx_getRs (pc := 1) (jf_X1_109_0.r) rfl dX1_madeWhy_1 rfl (is_64 hS) (by decide) (hs.r) ?_
    refine jw_ifnonnull (pc := 4) (tgt := 11) dX1_madeWhy_4 (by decide) (fun ax h => ?_) (fun h => by cases h)
    clear h
    refine jw_iload_n (pc := 11) dX1_madeWhy_11 rfl ?_
    refine jw_iconst (pc := 12) dX1_madeWhy_12 ic_0 ?_
    refine jw_iconst (pc := 13) dX1_madeWhy_13 ic_3 ?_
    refine jw_aload_n (pc := 14) dX1_madeWhy_14 rfl ?_
    refine jx_getRs (pc := 15) (jf_X1_109_0.r) rfl dX1_madeWhy_15 rfl (is_64 hS) (by decide) (hs.r) ?_
    refine jx_getIs (pc := 18) (jf_X1_372_5.r) rfl dX1_madeWhy_18 rfl (vis hv) (by decide) (xi_nw hs.V) ?_
    refine jx_cSE (mi1 := mi_J8_min) (pc := 21) rfl dX1_madeWhy_21 lk_X1_396 rfl fi_J8_min (t_J8_min (by omega) (by omega)) (by first | decide | omega) rfl rfl (by simp only [List.map_cons, List.map_nil, List.sum_cons, List.sum_nil, Value.category]; decide) ?_
    refine jx_cSE (mi1 := mi_X1_in) (pc := 24) rfl dX1_madeWhy_24 lk_X1_94 rfl fi_X1_in (t_X1_in) (by first | decide | omega) rfl rfl (by decide) ?_
    rw [inb_ix' (by omega)]
    first | refine jx_ifb_eq (pc := 27) (tgt := 41) dX1_madeWhy_27 (by decide) ?_ ?_ | refine jx_if_eq (pc := 27) (tgt := 41) dX1_madeWhy_27 (by decide) (by omega) ?_ ?_ | refine jw_if_eq (pc := 27) (tgt := 41) dX1_madeWhy_27 (by decide) ?_ ?_
    · intro h_27
      refine jw_iconst (pc := 41) dX1_madeWhy_41 ic_2 ?_
      refine jw_ireturn (pc := 42) dX1_madeWhy_42 rfl (rfl) ?_
      refine ⟨?_, rfl⟩
      rw [madeW_s]
      first
        | (rw [h_27, h_34]; rfl)
        | (rw [h_27]; rfl)
    · intro h_27
      refine jw_iload_n (pc := 30) dX1_madeWhy_30 rfl ?_
      refine jx_cSE (mi1 := mi_X1_isStep) (pc := 31) rfl dX1_madeWhy_31 lk_X1_156 rfl fi_X1_isStep (t_X1_isStep) (by first | decide | omega) rfl rfl (by decide) ?_
      first | refine jx_ifb_eq (pc := 34) (tgt := 41) dX1_madeWhy_34 (by decide) ?_ ?_ | refine jx_if_eq (pc := 34) (tgt := 41) dX1_madeWhy_34 (by decide) (by omega) ?_ ?_ | refine jw_if_eq (pc := 34) (tgt := 41) dX1_madeWhy_34 (by decide) ?_ ?_
      · intro h_34
        refine jw_iconst (pc := 41) dX1_madeWhy_41 ic_2 ?_
        refine jw_ireturn (pc := 42) dX1_madeWhy_42 rfl (rfl) ?_
        refine ⟨?_, rfl⟩
        rw [madeW_s]
        first
          | (rw [h_27, h_34]; rfl)
          | (rw [h_27]; rfl)
      · intro h_34
        refine jw_iconst (pc := 37) dX1_madeWhy_37 ic_0 ?_
        refine jw_goto (pc := 38) (tgt := 42) dX1_madeWhy_38 (by decide) ?_
        refine jw_ireturn (pc := 42) dX1_madeWhy_42 rfl (rfl) ?_
        refine ⟨?_, rfl⟩
        rw [madeW_s]
        first
          | (rw [h_27, h_34]; rfl)
          | (rw [h_27]; rfl)
theorem lp_w75 {M2 M9 : Mm} {k t n : Nat} {p : Option Nat} {o : Option (Nat × Nat)} {P : Rs → Mm → Prop} (hX : jXx M2 σ) (hp : ∀ b, p = some b → b < 1024) (ho : ∀ q, o = some q → q.1 < 1024 ∧ q.2 ≤ 10) (hn : n < 1024) (hj : jm_I M2 64 28 = wC o)
    (K : ∀ M3, jXx M3 σ → jfx M2 M3 → jm_I M3 64 28 = wC (wstep n p o) → jW G mi_X1_bestWalls 8 M9 12 [some (jr (some 64)), some (.int (nI k)), some (.int (nI t)), some (.int (wI (wstep n p o))), some (.int (nI (n + 1))), none] [] M3 P) :
    jW G mi_X1_bestWalls 8 M9 75 [some (jr (some 64)), some (.int (nI k)), some (.int (nI t)), some (.int (wI o)), some (.int (nI n)), none] [.int (optI p)] M2 P := by
  have hS := hX.1
  have hc := cnt_le
  cases p with
  | none =>
    refine jw_istore (pc := 75) dX1_bestWalls_75 (Nat.le_of_ble_eq_true rfl) rfl ?_
    try dsimp only [jput1, jput2, jkill, jclr, jis2_i, jis2_l, jis2_rs, jis2_rn, cond]
    refine jw_iload (pc := 77) dX1_bestWalls_77 rfl ?_
    refine jw_bipush (pc := 79) dX1_bestWalls_79 bp_m2 ?_
    refine jw_icmp_eq (pc := 81) (tgt := 117) dX1_bestWalls_81 (by decide) ?_ ?_
    · intro h_81
      first | refine jx_iinc (pc := 117) dX1_bestWalls_117 rfl rfl ?_ | refine jw_iinc (pc := 117) dX1_bestWalls_117 rfl rfl rfl ?_
      try dsimp only [jput1, jkill, jclr, jis2_i, jis2_l, jis2_rs, jis2_rn, cond]
      refine jw_goto (pc := 120) (tgt := 12) dX1_bestWalls_120 (by decide) ?_
      refine jW.sub ?_ (K M2 hX jsm.rf hj)
      exact ⟨rfl, rfl, rfl, rfl, rfl, trivial⟩
    · intro h_81
      exact absurd rfl h_81
  | some b =>
    have hb := hp b rfl
    have hc1 := hc b
    cases o with
    | none =>
      refine jw_istore (pc := 75) dX1_bestWalls_75 (Nat.le_of_ble_eq_true rfl) rfl ?_
      try dsimp only [jput1, jput2, jkill, jclr, jis2_i, jis2_l, jis2_rs, jis2_rn, cond]
      refine jw_iload (pc := 77) dX1_bestWalls_77 rfl ?_
      refine jw_bipush (pc := 79) dX1_bestWalls_79 bp_m2 ?_
      refine jw_icmp_eq (pc := 81) (tgt := 117) dX1_bestWalls_81 (by decide) ?_ ?_
      · intro h_81
        exact absurd h_81 (nI_m2 (by omega))
      · intro h_81
        refine jw_iload_n (pc := 84) dX1_bestWalls_84 rfl ?_
        refine jw_bipush (pc := 85) dX1_bestWalls_85 bp_m2 ?_
        refine jw_icmp_eq (pc := 87) (tgt := 105) dX1_bestWalls_87 (by decide) ?_ ?_
        · intro h_87
          refine jw_iload (pc := 105) dX1_bestWalls_105 rfl ?_
          refine jw_istore_n (pc := 107) dX1_bestWalls_107 (Nat.le_of_ble_eq_true rfl) rfl ?_
          try dsimp only [jput1, jput2, jkill, jclr, jis2_i, jis2_l, jis2_rs, jis2_rn, cond]
          refine jw_aload_n (pc := 108) dX1_bestWalls_108 rfl ?_
          refine jw_iload (pc := 109) dX1_bestWalls_109 rfl ?_
          refine jx_cSE (mi1 := mi_X1_ones) (pc := 111) rfl dX1_bestWalls_111 lk_X1_273 rfl fi_X1_ones (t_X1_ones hb) (by first | decide | omega) rfl rfl (by simp only [List.map_cons, List.map_nil, List.sum_cons, List.sum_nil, cat_i, cat_l, jr_cat]; decide) ?_
          refine jx_putI (pc := 114) jf_X1_393_0 rfl dX1_bestWalls_114 rfl rfl (is_64 hS) (by decide) ?_
          first | refine jx_iinc (pc := 117) dX1_bestWalls_117 rfl rfl ?_ | refine jw_iinc (pc := 117) dX1_bestWalls_117 rfl rfl rfl ?_
          try dsimp only [jput1, jkill, jclr, jis2_i, jis2_l, jis2_rs, jis2_rn, cond]
          refine jw_goto (pc := 120) (tgt := 12) dX1_bestWalls_120 (by decide) ?_
          refine jW.sub ?_ (K (js_I M2 64 28 (nI (cnt b))) (xI hX (by decide)) (jsm.I (by decide)) jI_same)
          exact ⟨rfl, rfl, rfl, rfl, rfl, trivial⟩
        · intro h_87
          exact absurd rfl h_87
    | some q =>
      obtain ⟨hq1, hq2⟩ := ho q rfl
      refine jw_istore (pc := 75) dX1_bestWalls_75 (Nat.le_of_ble_eq_true rfl) rfl ?_
      try dsimp only [jput1, jput2, jkill, jclr, jis2_i, jis2_l, jis2_rs, jis2_rn, cond]
      refine jw_iload (pc := 77) dX1_bestWalls_77 rfl ?_
      refine jw_bipush (pc := 79) dX1_bestWalls_79 bp_m2 ?_
      refine jw_icmp_eq (pc := 81) (tgt := 117) dX1_bestWalls_81 (by decide) ?_ ?_
      · intro h_81
        exact absurd h_81 (nI_m2 (by omega))
      · intro h_81
        refine jw_iload_n (pc := 84) dX1_bestWalls_84 rfl ?_
        refine jw_bipush (pc := 85) dX1_bestWalls_85 bp_m2 ?_
        refine jw_icmp_eq (pc := 87) (tgt := 105) dX1_bestWalls_87 (by decide) ?_ ?_
        · intro h_87
          exact absurd h_87 (nI_m2 (by omega))
        · intro h_87
          refine jw_iload (pc := 90) dX1_bestWalls_90 rfl ?_
          refine jx_cSE (mi1 := mi_X1_ones) (pc := 92) rfl dX1_bestWalls_92 lk_X1_273 rfl fi_X1_ones (t_X1_ones hb) (by first | decide | omega) rfl rfl (by decide) ?_
          refine jw_aload_n (pc := 95) dX1_bestWalls_95 rfl ?_
          refine jx_getIs (pc := 96) (jf_X1_393_0.r) rfl dX1_bestWalls_96 rfl (is_64 hS) (by decide) ((show jm_I M2 64 28 = nI q.2 from hj)) ?_
          first | refine jx_icmp_lt (pc := 99) (tgt := 105) dX1_bestWalls_99 (by decide) (by omega) (by omega) ?_ ?_ | refine jw_icmp_lt (pc := 99) (tgt := 105) dX1_bestWalls_99 (by decide) ?_ ?_
          · intro h_99
            refine jw_iload (pc := 105) dX1_bestWalls_105 rfl ?_
            refine jw_istore_n (pc := 107) dX1_bestWalls_107 (Nat.le_of_ble_eq_true rfl) rfl ?_
            try dsimp only [jput1, jput2, jkill, jclr, jis2_i, jis2_l, jis2_rs, jis2_rn, cond]
            refine jw_aload_n (pc := 108) dX1_bestWalls_108 rfl ?_
            refine jw_iload (pc := 109) dX1_bestWalls_109 rfl ?_
            refine jx_cSE (mi1 := mi_X1_ones) (pc := 111) rfl dX1_bestWalls_111 lk_X1_273 rfl fi_X1_ones (t_X1_ones hb) (by first | decide | omega) rfl rfl (by simp only [List.map_cons, List.map_nil, List.sum_cons, List.sum_nil, cat_i, cat_l, jr_cat]; decide) ?_
            refine jx_putI (pc := 114) jf_X1_393_0 rfl dX1_bestWalls_114 rfl rfl (is_64 hS) (by decide) ?_
            first | refine jx_iinc (pc := 117) dX1_bestWalls_117 rfl rfl ?_ | refine jw_iinc (pc := 117) dX1_bestWalls_117 rfl rfl rfl ?_
            try dsimp only [jput1, jkill, jclr, jis2_i, jis2_l, jis2_rs, jis2_rn, cond]
            refine jw_goto (pc := 120) (tgt := 12) dX1_bestWalls_120 (by decide) ?_
            first
              | (have e : wstep n (some b) (some q) = some (n, cnt b) := if_pos h_99
                 rw [e] at K
                 refine jW.sub ?_ (K (js_I M2 64 28 (nI (cnt b))) (xI hX (by decide)) (jsm.I (by decide)) jI_same)
                 exact ⟨rfl, rfl, rfl, rfl, rfl, trivial⟩)
              | (have e : wstep n (some b) (some q) = some q := if_neg (by omega)
                 rw [e] at K
                 refine jW.sub ?_ (K M2 hX jsm.rf hj)
                 exact ⟨rfl, rfl, rfl, rfl, rfl, trivial⟩)
          · intro h_99
            refine jw_goto (pc := 102) (tgt := 117) dX1_bestWalls_102 (by decide) ?_
            first | refine jx_iinc (pc := 117) dX1_bestWalls_117 rfl rfl ?_ | refine jw_iinc (pc := 117) dX1_bestWalls_117 rfl rfl rfl ?_
            try dsimp only [jput1, jkill, jclr, jis2_i, jis2_l, jis2_rs, jis2_rn, cond]
            refine jw_goto (pc := 120) (tgt := 12) dX1_bestWalls_120 (by decide) ?_
            first
              | (have e : wstep n (some b) (some q) = some (n, cnt b) := if_pos h_99
                 rw [e] at K
                 refine jW.sub ?_ (K (js_I M2 64 28 (nI (cnt b))) (xI hX (by decide)) (jsm.I (by decide)) jI_same)
                 exact ⟨rfl, rfl, rfl, rfl, rfl, trivial⟩)
              | (have e : wstep n (some b) (some q) = some q := if_neg (by omega)
                 rw [e] at K
                 refine jW.sub ?_ (K M2 hX jsm.rf hj)
                 exact ⟨rfl, rfl, rfl, rfl, rfl, trivial⟩)
theorem t_X1_bestWalls {k t : Nat} {V : Vt} (h : jXx M σ) (hv9 : sv σ = some V) (hk : k ≤ 3) (ht : t < 2 ^ 30) : jT G mi_X1_bestWalls 8 [jr (some 64), .int (nI k), .int (nI t)] M (jPi (fun r M' => r = wI (madeO V t k) ∧ jXx M' σ ∧ jfx M M' ∧ jm_I M' 64 28 = wC (madeO V t k))) := by
  have hS := h.1
  have hw9 := (h.2.1.2 V hv9).1
  have hnw := wf_nw hw9
  have hpw : 2 ^ V 0 3 ≤ 1024 := p10 hnw
  have hpp : 2 ^ V 0 0 ≤ 1024 := p10 (wf_np hw9)
  have hr : rangeV V t ≤ 19 := by obtain ⟨d1, d2, d3, d4, d5⟩ := wf_d hw9; unfold rangeV; split <;> omega
  have hc := cnt_le
  refine jT.of (by decide) rfl (Nat.le_of_ble_eq_true rfl) ?_
  have J : ∀ x : Nat × Mm, (x.1 ≤ 2 ^ V 0 3 ∧ jXx x.2 σ ∧ jfx M x.2 ∧ jm_I x.2 64 28 = wC (wbest V (rangeV V t) k x.1)) → jW G mi_X1_bestWalls 8 M 12 [some (jr (some 64)), some (.int (nI k)), some (.int (nI t)), some (.int (wI (wbest V (rangeV V t) k x.1))), some (.int (nI x.1)), none] [] x.2 (jPi (fun r M' => r = wI (madeO V t k) ∧ jXx M' σ ∧ jfx M M' ∧ jm_I M' 64 28 = wC (madeO V t k))) := by
    refine jW.loop (σ := Nat × Mm) _ (fun x => 2 ^ V 0 3 - x.1) _ (fun _ => []) (fun x => x.2) (fun x hI ih => ?_)
    obtain ⟨n, M1⟩ := x
    obtain ⟨hn, hX, hf, hj⟩ := hI
    dsimp only at hn hX hf hj ih ⊢
    have hS := hX.1
    obtain ⟨v, hs, hN⟩ := hX.so hv9
    have hv := hs.s
    by_cases hkn : n < 2 ^ V 0 3
    · have hcn := hc n
      have ht1 : cnt n = k → wbest V (rangeV V t) k (n + 1) = wstep n (postO V (seesS V (rangeV V t) n 0) (2 ^ V 0 0 - 1)) (wbest V (rangeV V t) k n) := fun e => by rw [wbest_s, if_pos e]
      refine jw_iload (pc := 12) dX1_bestWalls_12 rfl ?_
      refine jw_iconst (pc := 14) dX1_bestWalls_14 ic_1 ?_
      refine jw_aload_n (pc := 15) dX1_bestWalls_15 rfl ?_
      refine jx_getRs (pc := 16) (jf_X1_109_0.r) rfl dX1_bestWalls_16 rfl (is_64 hS) (by decide) (hs.r) ?_
      refine jx_getIs (pc := 19) (jf_X1_372_5.r) rfl dX1_bestWalls_19 rfl (vis hv) (by decide) (xi_nw hs.V) ?_
      refine jw_ishl (pc := 22) dX1_bestWalls_22 ?_
      rw [shl1 (by omega)]
      first | refine jx_icmp_ge (pc := 23) (tgt := 123) dX1_bestWalls_23 (by decide) (by omega) (by omega) ?_ ?_ | refine jw_icmp_ge (pc := 23) (tgt := 123) dX1_bestWalls_23 (by decide) ?_ ?_
      · intro h_23
        omega
      · intro h_23
        refine jw_iload (pc := 26) dX1_bestWalls_26 rfl ?_
        refine jx_cSE (mi1 := mi_X1_ones) (pc := 28) rfl dX1_bestWalls_28 lk_X1_273 rfl fi_X1_ones (t_X1_ones (by omega)) (by first | decide | omega) rfl rfl (by decide) ?_
        refine jw_iload_n (pc := 31) dX1_bestWalls_31 rfl ?_
        first | refine jx_icmp_eq (pc := 32) (tgt := 38) dX1_bestWalls_32 (by decide) (by omega) (by omega) ?_ ?_ | refine jw_icmp_eq (pc := 32) (tgt := 38) dX1_bestWalls_32 (by decide) ?_ ?_
        · intro h_32
          refine jw_aload_n (pc := 38) dX1_bestWalls_38 rfl ?_
          refine jx_getRs (pc := 39) (jf_X1_36_0.r) rfl dX1_bestWalls_39 rfl (is_64 hS) (by decide) (sr_64_9 hS) ?_
          refine jw_aload_n (pc := 42) dX1_bestWalls_42 rfl ?_
          refine jx_getRs (pc := 43) (jf_X1_109_0.r) rfl dX1_bestWalls_43 rfl (is_64 hS) (by decide) (hs.r) ?_
          refine jw_aload_n (pc := 46) dX1_bestWalls_46 rfl ?_
          refine jx_getRs (pc := 47) (jf_X1_109_0.r) rfl dX1_bestWalls_47 rfl (is_64 hS) (by decide) (hs.r) ?_
          refine jw_iload_n (pc := 50) dX1_bestWalls_50 rfl ?_
          refine jx_cVE (mi1 := mi_X6_range) (pc := 51) rfl dX1_bestWalls_51 lk_X1_369 rfl fi_X6_range rfl rfl rfl (by decide) (vis hv) (t_X6_range (t := t) hs.V hs.w ht) (by first | decide | omega) rfl rfl (by simp only [List.map_cons, List.map_nil, List.sum_cons, List.sum_nil, cat_i, cat_l, jr_cat]; decide) ?_
          refine jw_iload (pc := 54) dX1_bestWalls_54 rfl ?_
          refine jw_iconst (pc := 56) dX1_bestWalls_56 ic_0 ?_
          refine jx_cVEv (mi1 := mi_X4_look) (pc := 57) rfl dX1_bestWalls_57 lk_X1_124 rfl fi_X4_look rfl rfl rfl (by decide) (is_75 hS) (t_X4_look (fg := 0) (si_75 hS) hs.V hs.w (by omega) (by omega) (by decide)) (by first | decide | omega) rfl rfl (by decide) ?_
          have hX2 : jXx (lookM M1 75 V (rangeV V t) n 0) σ := xoth hX
          have hf2 : jfx M (lookM M1 75 V (rangeV V t) n 0) := hf.tr foth
          have hj2 : jm_I (lookM M1 75 V (rangeV V t) n 0) 64 28 = wC (wbest V (rangeV V t) k n) := hj
          have hq2 : jSr (lookM M1 75 V (rangeV V t) n 0) 75 V (seesS V (rangeV V t) n 0) := look_sr hX.1 hs.w
          generalize lookM M1 75 V (rangeV V t) n 0 = M2 at hX2 hf2 hj2 hq2 ⊢
          have hS := hX2.1
          obtain ⟨v, hs, hN⟩ := hX2.so hv9
          have hv := hs.s
          refine jw_aload_n (pc := 60) dX1_bestWalls_60 rfl ?_
          refine jw_aload_n (pc := 61) dX1_bestWalls_61 rfl ?_
          refine jx_getRs (pc := 62) (jf_X1_109_0.r) rfl dX1_bestWalls_62 rfl (is_64 hS) (by decide) (hs.r) ?_
          refine jx_cVE (mi1 := mi_X6_all) (pc := 65) rfl dX1_bestWalls_65 lk_X1_179 rfl fi_X6_all rfl rfl rfl (by decide) (vis hv) (t_X6_all hs.V hs.w) (by first | decide | omega) rfl rfl (by simp only [List.map_cons, List.map_nil, List.sum_cons, List.sum_nil, cat_i, cat_l, jr_cat]; decide) ?_
          refine jw_aload_n (pc := 68) dX1_bestWalls_68 rfl ?_
          refine jx_getRs (pc := 69) (jf_X1_36_0.r) rfl dX1_bestWalls_69 rfl (is_64 hS) (by decide) (sr_64_9 hS) ?_
          refine jx_cVE (mi1 := mi_X1_postsFor) (pc := 72) rfl dX1_bestWalls_72 lk_X1_283 rfl fi_X1_postsFor rfl rfl rfl (by decide) (is_64 hS) (t_X1_postsFor hs hq2 (by omega)) (by first | decide | omega) rfl rfl (by decide) ?_
          refine lp_w75 hX2 (fun b hb => postO_lt hw9 hb) (fun q hq => by have := wbest_lt hq; omega) (by omega) hj2 (fun M3 q1 q2 q3 => ?_)
          rw [← ht1 h_32] at q3 ⊢
          exact ih (n + 1, M3) ⟨hkn, q1, hf2.tr q2, q3⟩ (by dsimp only; omega)
        · intro h_32
          refine jw_goto (pc := 35) (tgt := 117) dX1_bestWalls_35 (by decide) ?_
          first | refine jx_iinc (pc := 117) dX1_bestWalls_117 rfl rfl ?_ | refine jw_iinc (pc := 117) dX1_bestWalls_117 rfl rfl rfl ?_
          try dsimp only [jput1, jkill, jclr, jis2_i, jis2_l, jis2_rs, jis2_rn, cond]
          refine jw_goto (pc := 120) (tgt := 12) dX1_bestWalls_120 (by decide) ?_
          have e : wbest V (rangeV V t) k (n + 1) = wbest V (rangeV V t) k n := by rw [wbest_s, if_neg h_32]
          have ih2 := ih (n + 1, M1) ⟨hkn, hX, hf, by dsimp only; rw [e]; exact hj⟩ (by dsimp only; omega)
          dsimp only at ih2
          rw [e] at ih2
          exact ih2
    · have hk' : n = 2 ^ V 0 3 := by omega
      subst hk'
      refine jw_iload (pc := 12) dX1_bestWalls_12 rfl ?_
      refine jw_iconst (pc := 14) dX1_bestWalls_14 ic_1 ?_
      refine jw_aload_n (pc := 15) dX1_bestWalls_15 rfl ?_
      refine jx_getRs (pc := 16) (jf_X1_109_0.r) rfl dX1_bestWalls_16 rfl (is_64 hS) (by decide) (hs.r) ?_
      refine jx_getIs (pc := 19) (jf_X1_372_5.r) rfl dX1_bestWalls_19 rfl (vis hv) (by decide) (xi_nw hs.V) ?_
      refine jw_ishl (pc := 22) dX1_bestWalls_22 ?_
      rw [shl1 (by omega)]
      first | refine jx_icmp_ge (pc := 23) (tgt := 123) dX1_bestWalls_23 (by decide) (by omega) (by omega) ?_ ?_ | refine jw_icmp_ge (pc := 23) (tgt := 123) dX1_bestWalls_23 (by decide) ?_ ?_
      · intro h_23
        refine jw_iload_n (pc := 123) dX1_bestWalls_123 rfl ?_
        refine jw_ireturn (pc := 124) dX1_bestWalls_124 rfl (rfl) ?_
        exact ⟨_, rfl, rfl, hX, hf, hj⟩
      · intro h_23
        omega
  refine jw_bipush (pc := 0) dX1_bestWalls_0 bp_m2 ?_
  refine jw_istore_n (pc := 2) dX1_bestWalls_2 (Nat.le_of_ble_eq_true rfl) rfl ?_
  try dsimp only [jput1, jput2, jkill, jclr, jis2_i, jis2_l, jis2_rs, jis2_rn, cond]
  refine jw_aload_n (pc := 3) dX1_bestWalls_3 rfl ?_
  refine jw_bipush (pc := 4) dX1_bestWalls_4 bp_m2 ?_
  refine jx_putI (pc := 6) jf_X1_393_0 rfl dX1_bestWalls_6 rfl rfl (is_64 hS) (by decide) ?_
  refine jw_iconst (pc := 9) dX1_bestWalls_9 ic_0 ?_
  refine jw_istore (pc := 10) dX1_bestWalls_10 (Nat.le_of_ble_eq_true rfl) rfl ?_
  try dsimp only [jput1, jput2, jkill, jclr, jis2_i, jis2_l, jis2_rs, jis2_rn, cond]
  refine jW.sub ?_ (J (0, js_I M 64 28 (-2)) ⟨Nat.zero_le _, xI h (by decide), jsm.I (by decide), jI_same⟩)
  exact ⟨rfl, rfl, rfl, rfl, rfl, trivial⟩
theorem t_X1_made {p t : Int32} (h : jXx M σ) : jT G mi_X1_made 9 [jr (some 64), .int p, .int t] M (jQx M σ (q_made σ p t)) := by
  have hS := h.1
  refine jT.of (by decide) rfl (Nat.le_of_ble_eq_true rfl) ?_
  refine jw_aload_n (pc := 0) dX1_made_0 rfl ?_
  refine jx_cVv (mi1 := mi_X1_anew) (pc := 1) rfl dX1_made_1 lk_X1_84 rfl fi_X1_anew rfl rfl rfl (by decide) (is_64 hS) (t_X1_anew h) (by first | decide | omega) rfl rfl (by decide) ?_
  intro M_1 q_1
  obtain ⟨hX, hf⟩ := q_1
  have hS := hX.1
  refine jw_aload_n (pc := 4) dX1_made_4 rfl ?_
  refine jw_iload_n (pc := 5) dX1_made_5 rfl ?_
  refine jw_iload_n (pc := 6) dX1_made_6 rfl ?_
  refine jx_cVE (mi1 := mi_X1_madeWhy) (pc := 7) rfl dX1_made_7 lk_X1_399 rfl fi_X1_madeWhy rfl rfl rfl (by decide) (is_64 hS) (t_X1_madeWhy (o := sv σ) hX rfl) (by first | decide | omega) rfl rfl (by decide) ?_
  refine jw_istore_n (pc := 10) dX1_made_10 (Nat.le_of_ble_eq_true rfl) rfl ?_
  try dsimp only [jput1, jput2, jkill, jclr, jis2_i, jis2_l, jis2_rs, jis2_rn, cond]
  refine jw_iload_n (pc := 11) dX1_made_11 rfl ?_
  refine jw_if_eq (pc := 12) (tgt := 23) dX1_made_12 (by decide) ?_ ?_
  · intro h_12
    obtain ⟨V, kp, kt, hv9, hkp, rfl, hkt, rfl⟩ := madeW_0 h_12
    refine jw_aload_n (pc := 23) dX1_made_23 rfl ?_
    refine jw_iload_n (pc := 24) dX1_made_24 rfl ?_
    refine jw_iload_n (pc := 25) dX1_made_25 rfl ?_
    refine jx_cVi (mi1 := mi_X1_bestWalls) (pc := 26) rfl dX1_made_26 lk_X1_402 rfl fi_X1_bestWalls rfl rfl rfl (by decide) (is_64 hS) (t_X1_bestWalls (σ := sgT σ 0 (-1)) (V := V) hX hv9 hkp.1 (by omega)) (by first | decide | omega) rfl rfl (by decide) ?_
    intro x_26 M_26 q_26
    refine jw_ireturn (pc := 29) dX1_made_29 rfl (rfl) ?_
    first
      | (refine qx_no ?_ hf q_17; unfold q_made; rw [if_neg h_12]; done)
      | (obtain ⟨e1, hX2, hf2, hj2⟩ := q_26
         subst e1
         refine qx_ok ?_ (hf.tr hf2) hX2; unfold q_made; rw [if_pos h_12, vv_s hv9, iN_n (by omega), iN_n (by omega)])
  · intro h_12
    refine jw_aload_n (pc := 15) dX1_made_15 rfl ?_
    refine jw_iload_n (pc := 16) dX1_made_16 rfl ?_
    refine jx_cVi (mi1 := mi_X1_no) (pc := 17) rfl dX1_made_17 lk_X1_98 rfl fi_X1_no rfl rfl rfl (by decide) (is_64 hS) (t_X1_no hX (wc_4 (madeW_c _ _ _))) (by first | decide | omega) rfl rfl (by decide) ?_
    intro x_17 M_17 q_17
    refine jw_goto (pc := 20) (tgt := 29) dX1_made_20 (by decide) ?_
    refine jw_ireturn (pc := 29) dX1_made_29 rfl (rfl) ?_
    first
      | (refine qx_no ?_ hf q_17; unfold q_made; rw [if_neg h_12]; done)
      | (obtain ⟨e1, hX2, hf2, hj2⟩ := q_26
         subst e1
         refine qx_ok ?_ (hf.tr hf2) hX2; unfold q_made; rw [if_pos h_12, vv_s hv9, iN_n (by omega), iN_n (by omega)])
theorem lp_n27 {M9 : Mm} {P : Rs → Mm → Prop} {x1 x2 x3 : Option Value} {o : Option (Nat × Nat)} (hS : jSh M) (hj : jm_I M 64 28 = wC o) (ho : ∀ q, o = some q → q.1 < 1024) (h : P (.inl (some (.int (wC o)))) M) : jW G mi_X1_needs 9 M9 27 [some (jr (some 64)), x1, x2, x3] [.int (wI o)] M P := by
  cases o with
  | none =>
    refine jw_bipush (pc := 27) dX1_needs_27 bp_m2 ?_
    refine jw_icmp_ne (pc := 29) (tgt := 37) dX1_needs_29 (by decide) ?_ ?_
    · intro h_29
      exact absurd rfl h_29
    · intro h_29
      refine jw_bipush (pc := 32) dX1_needs_32 bp_m2 ?_
      refine jw_goto (pc := 34) (tgt := 41) dX1_needs_34 (by decide) ?_
      refine jw_ireturn (pc := 41) dX1_needs_41 rfl (rfl) ?_
      exact h
  | some q =>
    have hb := ho q rfl
    refine jw_bipush (pc := 27) dX1_needs_27 bp_m2 ?_
    refine jw_icmp_ne (pc := 29) (tgt := 37) dX1_needs_29 (by decide) ?_ ?_
    · intro h_29
      refine jw_aload_n (pc := 37) dX1_needs_37 rfl ?_
      refine jx_getIs (pc := 38) (jf_X1_393_0.r) rfl dX1_needs_38 rfl (is_64 hS) (by decide) (hj) ?_
      refine jw_ireturn (pc := 41) dX1_needs_41 rfl (rfl) ?_
      exact h
    · intro h_29
      exact absurd h_29 (nI_m2 (by omega))
theorem t_X1_needs {p t : Int32} (h : jXx M σ) : jT G mi_X1_needs 9 [jr (some 64), .int p, .int t] M (jQx M σ (q_needs σ p t)) := by
  have hS := h.1
  refine jT.of (by decide) rfl (Nat.le_of_ble_eq_true rfl) ?_
  refine jw_aload_n (pc := 0) dX1_needs_0 rfl ?_
  refine jx_cVv (mi1 := mi_X1_anew) (pc := 1) rfl dX1_needs_1 lk_X1_84 rfl fi_X1_anew rfl rfl rfl (by decide) (is_64 hS) (t_X1_anew h) (by first | decide | omega) rfl rfl (by decide) ?_
  intro M_1 q_1
  obtain ⟨hX, hf⟩ := q_1
  have hS := hX.1
  refine jw_aload_n (pc := 4) dX1_needs_4 rfl ?_
  refine jw_iload_n (pc := 5) dX1_needs_5 rfl ?_
  refine jw_iload_n (pc := 6) dX1_needs_6 rfl ?_
  refine jx_cVE (mi1 := mi_X1_madeWhy) (pc := 7) rfl dX1_needs_7 lk_X1_399 rfl fi_X1_madeWhy rfl rfl rfl (by decide) (is_64 hS) (t_X1_madeWhy (o := sv σ) hX rfl) (by first | decide | omega) rfl rfl (by decide) ?_
  refine jw_istore_n (pc := 10) dX1_needs_10 (Nat.le_of_ble_eq_true rfl) rfl ?_
  try dsimp only [jput1, jput2, jkill, jclr, jis2_i, jis2_l, jis2_rs, jis2_rn, cond]
  refine jw_iload_n (pc := 11) dX1_needs_11 rfl ?_
  refine jw_if_eq (pc := 12) (tgt := 21) dX1_needs_12 (by decide) ?_ ?_
  · intro h_12
    obtain ⟨V, kp, kt, hv9, hkp, rfl, hkt, rfl⟩ := madeW_0 h_12
    refine jw_aload_n (pc := 21) dX1_needs_21 rfl ?_
    refine jw_iload_n (pc := 22) dX1_needs_22 rfl ?_
    refine jw_iload_n (pc := 23) dX1_needs_23 rfl ?_
    refine jx_cVi (mi1 := mi_X1_bestWalls) (pc := 24) rfl dX1_needs_24 lk_X1_402 rfl fi_X1_bestWalls rfl rfl rfl (by decide) (is_64 hS) (t_X1_bestWalls (σ := sgT σ 0 (-1)) (V := V) hX hv9 hkp.1 (by omega)) (by first | decide | omega) rfl rfl (by decide) ?_
    intro x_24 M_24 q_24
    obtain ⟨e1, hX2, hf2, hj2⟩ := q_24
    subst e1
    have hw9 := (h.2.1.2 V hv9).1
    exact lp_n27 hX2.1 hj2 (fun q hq => (madeO_lt hw9 hq).1) (qx_ok (by unfold q_needs; rw [if_pos h_12, vv_s hv9, iN_n (by omega), iN_n (by omega)]) (hf.tr hf2) hX2)
  · intro h_12
    refine jw_aload_n (pc := 15) dX1_needs_15 rfl ?_
    refine jw_iload_n (pc := 16) dX1_needs_16 rfl ?_
    refine jx_cVi (mi1 := mi_X1_no) (pc := 17) rfl dX1_needs_17 lk_X1_98 rfl fi_X1_no rfl rfl rfl (by decide) (is_64 hS) (t_X1_no hX (wc_4 (madeW_c _ _ _))) (by first | decide | omega) rfl rfl (by decide) ?_
    intro x_17 M_17 q_17
    refine jw_ireturn (pc := 20) dX1_needs_20 rfl (rfl) ?_
    refine qx_no ?_ hf q_17
    unfold q_needs; rw [if_neg h_12]
end JMD
