/-! ===== x: who may move; the least state from which the goal can be come to ===== -/
theorem fst_spec {n : Nat} {P : Nat → Bool} (h : fstN n P < n) : P (fstN n P) = true ∧ ∀ j, j < fstN n P → P j = false := by
  induction n with
  | zero => exact absurd h (Nat.not_lt_zero _)
  | succ n ih =>
    rw [fstN_s] at h ⊢
    by_cases e : fstN n P < n
    · rw [if_pos e]; exact ih e
    · rw [if_neg e] at h ⊢
      have e2 : fstN n P = n := by have := fst_le n P; omega
      have hall : ∀ j, j < n → P j = false := by
        intro j hj
        cases hP : P j with
        | false => rfl
        | true =>
          exfalso
          clear h ih e
          revert hj e2
          induction n with
          | zero => intro e2 hj; omega
          | succ n ih2 =>
            intro e2 hj
            rw [fstN_s] at e2
            split at e2
            · omega
            · split at e2
              · omega
              · rename_i q1 q2
                by_cases ej : j = n
                · subst ej; exact q2 hP
                · exact ih2 (by have := fst_le n P; omega) (by omega)
      by_cases e3 : P n = true
      · rw [if_pos e3]; exact ⟨e3, hall⟩
      · rw [if_neg e3] at h; omega
theorem fst_all {n : Nat} {P : Nat → Bool} (h : ¬ fstN n P < n) : ∀ j, j < n → P j = false := by
  intro j hj
  cases hP : P j with
  | false => rfl
  | true =>
    exfalso
    have key : ∀ m, j < m → fstN m P ≤ j := by
      intro m
      induction m with
      | zero => intro q; omega
      | succ m ih =>
        intro q
        rw [fstN_s]
        by_cases e : fstN m P < m
        · rw [if_pos e]
          by_cases ej : j = m
          · omega
          · exact ih (by omega)
        · rw [if_neg e]
          by_cases ej : j = m
          · subst ej; rw [if_pos hP]; exact Nat.le_refl _
          · have := ih (by omega); omega
    have := key n hj
    omega
theorem fst_cg {n : Nat} {P Q : Nat → Bool} (h : ∀ j, j < n → P j = Q j) : fstN n P = fstN n Q := by
  induction n with
  | zero => rfl
  | succ n ih => rw [fstN_s, fstN_s, ih (fun j hj => h j (by omega)), h n (by omega)]
def pplW (o : Option Vt) (p : Int32) (most : Nat) : Int32 := match o with
  | none => 1
  | some V => if isIx (2 ^ V 0 1) p && decide (iN p ≠ 0) && decide (cnt (iN p) ≤ most) then 0 else 2
theorem pplW_s (V : Vt) (p : Int32) (most : Nat) : pplW (some V) p most = if (isIx (2 ^ V 0 1) p && decide (iN p ≠ 0) && decide (cnt (iN p) ≤ most)) = true then 0 else 2 := rfl
theorem isIx_iN {n : Nat} {a : Int32} (h : isIx n a = true) : iN a < n ∧ a = nI (iN a) := by
  unfold isIx at h
  rw [Bool.and_eq_true, decide_eq_true_eq, decide_eq_true_eq] at h
  unfold iN
  refine ⟨by omega, ?_⟩
  apply Int32.toInt_inj.mp
  have h31 : a.toInt < 2 ^ 31 := a.toInt_lt
  rw [nI_toInt (by omega)]
  omega
theorem pplW_0 {o : Option Vt} {p : Int32} {most : Nat} (h : pplW o p most = 0) : ∃ V k, o = some V ∧ k < 2 ^ V 0 1 ∧ 1 ≤ k ∧ p = nI k ∧ cnt k ≤ most ∧ iN p = k := by
  cases o with
  | none => exact absurd (show (1 : Int32) = 0 from h) (by decide)
  | some V =>
    rw [pplW_s] at h
    by_cases q : (isIx (2 ^ V 0 1) p && decide (iN p ≠ 0) && decide (cnt (iN p) ≤ most)) = true
    · rw [Bool.and_eq_true, Bool.and_eq_true, decide_eq_true_eq, decide_eq_true_eq] at q
      obtain ⟨h1, h2⟩ := isIx_iN q.1.1
      exact ⟨V, iN p, rfl, h1, by have := q.1.2; omega, h2, q.2, rfl⟩
    · rw [if_neg q] at h; exact absurd h (by decide)
theorem pplW_c (o : Option Vt) (p : Int32) (most : Nat) : pplW o p most = 0 ∨ pplW o p most = 1 ∨ pplW o p most = 2 := by
  cases o with
  | none => exact Or.inr (Or.inl rfl)
  | some V =>
    rw [pplW_s]
    split
    · exact Or.inl rfl
    · exact Or.inr (Or.inr rfl)
theorem inb_1 {p : Int32} {n : Nat} (hn : 1 ≤ n) (h : n < 2 ^ 30) : inb p (nI 1) (nI n - nI 1) = (isIx n p && decide (iN p ≠ 0)) := by
  rw [Bool.eq_iff_iff, inb_iff, i_sub (by omega) (by decide), nI_toInt (by decide)]
  unfold isIx iN
  rw [Bool.and_eq_true, Bool.and_eq_true, decide_eq_true_eq, decide_eq_true_eq, decide_eq_true_eq]
  constructor
  · rintro ⟨h1, h2⟩; exact ⟨⟨by omega, by omega⟩, by omega⟩
  · rintro ⟨⟨h1, h2⟩, h3⟩; exact ⟨by omega, by omega⟩
def allS (V : Vt) (people place : Nat) : Nat := codeN (V 0 0) (cnt people) (fun _ => place)
def fhQ (V : Vt) (people : Nat) (F : Nat → Nat) (H : Nat → Bool) (k sofar b : Nat) : Bool := cndB V people F k sofar b && H b
def fhP (V : Vt) (people : Nat) (F : Nat → Nat) (H : Nat → Bool) (k sofar p b : Nat) : Bool := cndB V people F k sofar b && decide (dig (V 0 0) (cnt people) b k < p) && H b
/-- the number of the first state with something; -1 without -/
def fstI (N : Nat) (Q : Nat → Bool) : Int32 := if fstN N Q < N then nI (fstN N Q) else -1
theorem fstI_cg {N : Nat} {P Q : Nat → Bool} (h : ∀ j, j < N → P j = Q j) : fstI N P = fstI N Q := by unfold fstI; rw [fst_cg h]
theorem fstI_m1 {N : Nat} {Q : Nat → Bool} (hN : N < 2 ^ 31) : fstI N Q = -1 ↔ ¬ fstN N Q < N := by
  unfold fstI
  constructor
  · intro h q
    rw [if_pos q] at h
    have := congrArg Int32.toInt h
    rw [nI_toInt (by omega)] at this
    have e : (-1 : Int32).toInt = -1 := by decide +kernel
    omega
  · intro h; rw [if_neg h]
theorem fhP_0 {V : Vt} {people : Nat} {F : Nat → Nat} {H : Nat → Bool} {k sofar b : Nat} : fhP V people F H k sofar 0 b = false := by unfold fhP; rw [decide_eq_false (Nat.not_lt_zero _), Bool.and_false, Bool.false_and]
theorem fhP_end {V : Vt} {people : Nat} {F : Nat → Nat} {H : Nat → Bool} {k sofar b : Nat} (h0 : 0 < V 0 0) : fhP V people F H k sofar (V 0 0) b = fhQ V people F H k sofar b := by unfold fhP fhQ; rw [decide_eq_true (dig_lt h0), Bool.and_true]
theorem fhP_iff {V : Vt} {people : Nat} {F : Nat → Nat} {H : Nat → Bool} {k sofar p b : Nat} : fhP V people F H k sofar p b = true ↔ (cndB V people F k sofar b = true ∧ dig (V 0 0) (cnt people) b k < p) ∧ H b = true := by
  unfold fhP; rw [Bool.and_eq_true, Bool.and_eq_true, decide_eq_true_eq]
theorem fhP_s {V : Vt} {people : Nat} {F : Nat → Nat} {H : Nat → Bool} {k sofar p b : Nat} (hk : k < cnt people) (hp : p < V 0 0) (hl : linkB V (F k) p = true) (h0 : fhP V people F H k sofar p b = false) : fhQ V people F H (k + 1) (sofar * V 0 0 + p) b = fhP V people F H k sofar (p + 1) b := by
  rw [Bool.eq_iff_iff, fhP_iff, cnd_iff]
  unfold fhQ
  rw [Bool.and_eq_true, cnd_split hk hp]
  constructor
  · rintro ⟨⟨h2, h3, h4⟩, h5⟩
    refine ⟨⟨⟨h2, fun j q1 q2 => ?_⟩, by omega⟩, h5⟩
    by_cases e : j = k
    · subst e; rw [h3]; exact hl
    · exact h4 j (by omega) q2
  · rintro ⟨⟨⟨h2, h3⟩, h4⟩, h5⟩
    have hd : dig (V 0 0) (cnt people) b k = p := by
      refine Classical.byContradiction (fun e => ?_)
      have := fhP_iff.mpr ⟨⟨cnd_iff.mpr ⟨h2, h3⟩, show dig (V 0 0) (cnt people) b k < p by omega⟩, h5⟩
      rw [h0] at this; cases this
    exact ⟨⟨h2, hd, fun j q1 q2 => h3 j (by omega) q2⟩, h5⟩
theorem fhP_n {V : Vt} {people : Nat} {F : Nat → Nat} {H : Nat → Bool} {k sofar p b : Nat} (hk : k < cnt people) (hl : linkB V (F k) p = false) : fhP V people F H k sofar p b = fhP V people F H k sofar (p + 1) b := by
  rw [Bool.eq_iff_iff, fhP_iff, fhP_iff, cnd_iff]
  constructor
  · rintro ⟨⟨h1, h2⟩, h3⟩; exact ⟨⟨h1, by omega⟩, h3⟩
  · rintro ⟨⟨⟨h1, h2⟩, h3⟩, h4⟩
    refine ⟨⟨⟨h1, h2⟩, ?_⟩, h4⟩
    have : dig (V 0 0) (cnt people) b k ≠ p := fun e => by
      have := h2 k (Nat.le_refl _) hk
      rw [e, hl] at this; cases this
    omega
theorem fhP_hit {V : Vt} {people : Nat} {F : Nat → Nat} {H : Nat → Bool} {k sofar p : Nat} (h0 : 0 < V 0 0) (hk : k < cnt people) (h : fstN (V 0 0 ^ cnt people) (fhP V people F H k sofar p) < V 0 0 ^ cnt people) : fstN (V 0 0 ^ cnt people) (fhQ V people F H k sofar) = fstN (V 0 0 ^ cnt people) (fhP V people F H k sofar p) := by
  obtain ⟨h1, h2⟩ := fst_spec h
  obtain ⟨⟨q1, q2⟩, q3⟩ := fhP_iff.mp h1
  refine fst_hit h (by unfold fhQ; rw [q1, q3]; rfl) (fun j hj => ?_)
  cases hq : fhQ V people F H k sofar j with
  | false => rfl
  | true =>
    exfalso
    unfold fhQ at hq
    rw [Bool.and_eq_true] at hq
    have hd : ¬ dig (V 0 0) (cnt people) j k < p := fun e => by
      have := fhP_iff.mpr ⟨⟨hq.1, e⟩, hq.2⟩
      rw [h2 j hj] at this; cases this
    have e1 := (cnd_iff.mp q1).1
    have e2 := (cnd_iff.mp hq.1).1
    rw [show cnt people - k = (cnt people - 1 - k) + 1 by omega, ← dvP] at e1 e2
    have hle := Nat.div_le_div_right (c := V 0 0 ^ (cnt people - 1 - k)) (Nat.le_of_lt hj)
    unfold dig at hd q2
    have m1 := Nat.div_add_mod (j / V 0 0 ^ (cnt people - 1 - k)) (V 0 0)
    have m2 := Nat.div_add_mod (fstN (V 0 0 ^ cnt people) (fhP V people F H k sofar p) / V 0 0 ^ (cnt people - 1 - k)) (V 0 0)
    rw [e2] at m1
    rw [e1] at m2
    omega
section JXH
variable {G : Gh} {M : Mm} {σ : Sg}
theorem t_X1_peopleWhy {p : Int32} {most : Nat} {o : Option Vt} (h : jXx M σ) (ho : sv σ = o) (hm : most < 10) : jE G mi_X1_peopleWhy 3 [jr (some 64), .int p, .int (nI most)] M (some (.int (pplW o p most))) M := by
  have hS := h.1
  refine jE.of (by decide) rfl (Nat.le_of_ble_eq_true rfl) ?_
  cases o with
  | none =>
    refine jw_aload_n (pc := 0) dX1_peopleWhy_0 rfl ?_
    refine jx_getRs (pc := 1) (jf_X1_109_0.r) rfl dX1_peopleWhy_1 rfl (is_64 hS) (by decide) (h.no ho) ?_
    refine jw_ifnonnull (pc := 4) (tgt := 11) dX1_peopleWhy_4 (by decide) (fun ax h => by cases h) (fun h => ?_)
    clear h
    refine jw_iconst (pc := 7) dX1_peopleWhy_7 ic_1 ?_
    refine jw_goto (pc := 8) (tgt := 43) dX1_peopleWhy_8 (by decide) ?_
    refine jw_ireturn (pc := 43) dX1_peopleWhy_43 rfl (rfl) ?_
    exact ⟨rfl, rfl⟩
  | some V =>
    obtain ⟨v, hs, hN⟩ := h.so ho
    have hv := hs.s
    have hn := wf_nq hs.w
    have hpw : 2 ^ V 0 1 ≤ 32 := Nat.pow_le_pow_right (n := 2) (by decide) hn
    have h1p := Nat.one_le_two_pow (n := V 0 1)
    have hc := cnt_le
    refine jw_aload_n (pc := 0) dX1_peopleWhy_0 rfl ?_
    refine jx_getRs (pc := 1) (jf_X1_109_0.r) rfl dX1_peopleWhy_1 rfl (is_64 hS) (by decide) (hs.r) ?_
    refine jw_ifnonnull (pc := 4) (tgt := 11) dX1_peopleWhy_4 (by decide) (fun ax h => ?_) (fun h => by cases h)
    clear h
    refine jw_iload_n (pc := 11) dX1_peopleWhy_11 rfl ?_
    refine jw_iconst (pc := 12) dX1_peopleWhy_12 ic_1 ?_
    refine jw_iconst (pc := 13) dX1_peopleWhy_13 ic_1 ?_
    refine jw_aload_n (pc := 14) dX1_peopleWhy_14 rfl ?_
    refine jx_getRs (pc := 15) (jf_X1_109_0.r) rfl dX1_peopleWhy_15 rfl (is_64 hS) (by decide) (hs.r) ?_
    refine jx_getIs (pc := 18) (jf_X1_137_5.r) rfl dX1_peopleWhy_18 rfl (vis hv) (by decide) (xi_nq hs.V) ?_
    refine jw_ishl (pc := 21) dX1_peopleWhy_21 ?_
    rw [shl1 (by omega)]
    refine jw_iconst (pc := 22) dX1_peopleWhy_22 ic_1 ?_
    refine jw_isub (pc := 23) dX1_peopleWhy_23 ?_
    refine jx_cSE (mi1 := mi_X1_in) (pc := 24) rfl dX1_peopleWhy_24 lk_X1_94 rfl fi_X1_in (t_X1_in) (by first | decide | omega) rfl rfl (by decide) ?_
    rw [inb_1 h1p (by omega)]
    first | refine jx_ifb_eq (pc := 27) (tgt := 42) dX1_peopleWhy_27 (by decide) ?_ ?_ | refine jx_if_eq (pc := 27) (tgt := 42) dX1_peopleWhy_27 (by decide) (by omega) ?_ ?_ | refine jw_if_eq (pc := 27) (tgt := 42) dX1_peopleWhy_27 (by decide) ?_ ?_
    · intro h_27
      refine jw_iconst (pc := 42) dX1_peopleWhy_42 ic_2 ?_
      refine jw_ireturn (pc := 43) dX1_peopleWhy_43 rfl (rfl) ?_
      refine ⟨?_, rfl⟩
      first
        | (rw [pplW_s, h_27, iN_n (by omega), decide_eq_true (by omega)]; rfl)
        | (rw [pplW_s, h_27, iN_n (by omega), decide_eq_false (by omega)]; rfl)
        | (rw [pplW_s, h_27]; rfl)
    · intro h_27
      have hq := h_27
      rw [Bool.and_eq_true, decide_eq_true_eq] at hq
      obtain ⟨kq, hq1, rfl⟩ := isIx_of hq.1
      have hcp := hc kq
      refine jw_iload_n (pc := 30) dX1_peopleWhy_30 rfl ?_
      refine jx_cSE (mi1 := mi_X1_ones) (pc := 31) rfl dX1_peopleWhy_31 lk_X1_273 rfl fi_X1_ones (t_X1_ones (by omega)) (by first | decide | omega) rfl rfl (by decide) ?_
      refine jw_iload_n (pc := 34) dX1_peopleWhy_34 rfl ?_
      first | refine jx_icmp_gt (pc := 35) (tgt := 42) dX1_peopleWhy_35 (by decide) (by omega) (by omega) ?_ ?_ | refine jw_icmp_gt (pc := 35) (tgt := 42) dX1_peopleWhy_35 (by decide) ?_ ?_
      · intro h_35
        refine jw_iconst (pc := 42) dX1_peopleWhy_42 ic_2 ?_
        refine jw_ireturn (pc := 43) dX1_peopleWhy_43 rfl (rfl) ?_
        refine ⟨?_, rfl⟩
        first
          | (rw [pplW_s, h_27, iN_n (by omega), decide_eq_true (by omega)]; rfl)
          | (rw [pplW_s, h_27, iN_n (by omega), decide_eq_false (by omega)]; rfl)
          | (rw [pplW_s, h_27]; rfl)
      · intro h_35
        refine jw_iconst (pc := 38) dX1_peopleWhy_38 ic_0 ?_
        refine jw_goto (pc := 39) (tgt := 43) dX1_peopleWhy_39 (by decide) ?_
        refine jw_ireturn (pc := 43) dX1_peopleWhy_43 rfl (rfl) ?_
        refine ⟨?_, rfl⟩
        first
          | (rw [pplW_s, h_27, iN_n (by omega), decide_eq_true (by omega)]; rfl)
          | (rw [pplW_s, h_27, iN_n (by omega), decide_eq_false (by omega)]; rfl)
          | (rw [pplW_s, h_27]; rfl)
theorem t_X1_allAt {place people : Nat} {V : Vt} (h : jXx M σ) (hv9 : sv σ = some V) (hm : jMv M V people) : jE G mi_X1_allAt 2 [jr (some 64), .int (nI place)] M (some (.int (nI (allS V people place)))) (js_As M 83 (fun k => if k < cnt people then nI place else jm_A M 83 k)) := by
  have hS := h.1
  obtain ⟨v, hs, hN⟩ := h.so hv9
  have hv := hs.s
  obtain ⟨⟨m1, m2⟩, m3, m4, m5⟩ := hm
  refine jE.of (by decide) rfl (Nat.le_of_ble_eq_true rfl) ?_
  have J : ∀ k : Nat, k ≤ cnt people → jW G mi_X1_allAt 2 M 2 [some (jr (some 64)), some (.int (nI place)), some (.int (nI k))] [] (js_As M 83 (fun j => if j < k then nI place else jm_A M 83 j)) (fun z M' => z = .inl (some (.int (nI (allS V people place)))) ∧ M' = js_As M 83 (fun k => if k < cnt people then nI place else jm_A M 83 k)) := by
    refine jW.loop _ (fun k => cnt people - k) _ (fun _ => []) (fun k => js_As M 83 (fun j => if j < k then nI place else jm_A M 83 j)) (fun k hk ih => ?_)
    by_cases hkn : k < cnt people
    ·
      refine jw_iload_n (pc := 2) dX1_allAt_2 rfl ?_
      refine jw_aload_n (pc := 3) dX1_allAt_3 rfl ?_
      refine jx_getIs (pc := 4) (jf_X1_287_0.r) rfl dX1_allAt_4 rfl (is_64 hS) (by decide) (m3) ?_
      first | refine jx_icmp_ge (pc := 7) (tgt := 23) dX1_allAt_7 (by decide) (by omega) (by omega) ?_ ?_ | refine jw_icmp_ge (pc := 7) (tgt := 23) dX1_allAt_7 (by decide) ?_ ?_
      · intro h_7
        omega
      · intro h_7
        refine jw_aload_n (pc := 10) dX1_allAt_10 rfl ?_
        refine jx_getRs (pc := 11) (jf_X1_55_0.r) rfl dX1_allAt_11 rfl (is_64 hS) (by decide) (sr_64_18 hS) ?_
        refine jw_iload_n (pc := 14) dX1_allAt_14 rfl ?_
        refine jw_iload_n (pc := 15) dX1_allAt_15 rfl ?_
        refine jx_iast (pc := 16) dX1_allAt_16 (by decide) (ok_83 hS) (nn_83 hS) rfl (by omega) ?_
        first | refine jx_iinc (pc := 17) dX1_allAt_17 rfl rfl ?_ | refine jw_iinc (pc := 17) dX1_allAt_17 rfl rfl rfl ?_
        try dsimp only [jput1, jkill, jclr, jis2_i, jis2_l, jis2_rs, jis2_rn, cond]
        refine jw_goto (pc := 20) (tgt := 2) dX1_allAt_20 (by decide) ?_
        refine jW.eq rfl rfl ?_ (ih (k + 1) hkn (by omega))
        rw [jAs_A]
        refine jAs_cg (fun i => ?_)
        by_cases e : i = k
        · rw [if_pos e, if_pos (by omega)]
        · rw [if_neg e]
          by_cases e2 : i < k
          · rw [if_pos e2, if_pos (by omega)]
          · rw [if_neg e2, if_neg (by omega)]
    · have hk' : k = cnt people := by omega
      subst hk'
      have hs1 : jXs (js_As M 83 (fun j => if j < cnt people then nI place else jm_A M 83 j)) v V := hs.fr (E := fun a => a = 83) (jsm.As rfl) hS (fun a q z => by omega) rfl (by decide) (by decide) (by decide) (by decide)
      refine jw_iload_n (pc := 2) dX1_allAt_2 rfl ?_
      refine jw_aload_n (pc := 3) dX1_allAt_3 rfl ?_
      refine jx_getIs (pc := 4) (jf_X1_287_0.r) rfl dX1_allAt_4 rfl (is_64 hS) (by decide) (m3) ?_
      first | refine jx_icmp_ge (pc := 7) (tgt := 23) dX1_allAt_7 (by decide) (by omega) (by omega) ?_ ?_ | refine jw_icmp_ge (pc := 7) (tgt := 23) dX1_allAt_7 (by decide) ?_ ?_
      · intro h_7
        refine jw_aload_n (pc := 23) dX1_allAt_23 rfl ?_
        refine jw_aload_n (pc := 24) dX1_allAt_24 rfl ?_
        refine jx_getRs (pc := 25) (jf_X1_55_0.r) rfl dX1_allAt_25 rfl (is_64 hS) (by decide) (sr_64_18 hS) ?_
        refine jx_cVE (mi1 := mi_X1_stateOf) (pc := 28) rfl dX1_allAt_28 lk_X1_293 rfl fi_X1_stateOf rfl rfl rfl (by decide) (is_64 hS) (t_X1_stateOf (f := fun _ => place) hs1 m3 m2 (ok_83 hS) (nn_83 hS) (fun k hk => by rw [jA_rd, if_pos hk])) (by first | decide | omega) rfl rfl (by decide) ?_
        refine jw_ireturn (pc := 31) dX1_allAt_31 rfl (rfl) ?_
        exact ⟨rfl, rfl⟩
      · intro h_7
        omega
  refine jw_iconst (pc := 0) dX1_allAt_0 ic_0 ?_
  refine jw_istore_n (pc := 1) dX1_allAt_1 (Nat.le_of_ble_eq_true rfl) rfl ?_
  try dsimp only [jput1, jput2, jkill, jclr, jis2_i, jis2_l, jis2_rs, jis2_rn, cond]
  refine jW.eq rfl rfl ?_ (J 0 (Nat.zero_le _))
  exact jAs_0 (fun i => rfl)
theorem t_X1_firstHome {people i : Nat} {V : Vt} {F : Nat → Nat} {H : Nat → Bool} (h : jXx M σ) (hv9 : sv σ = some V) (hm : jMv M V people) (hF : ∀ j, j < cnt people → jm_A M 82 j = nI (F j) ∧ F j < V 0 0) (hi : i ≤ 29) (hH : ∀ s, s < V 0 0 ^ cnt people → jm_A M 86 (1000 * (i + 1) + s) = jb (H s)) : ∀ (m k sofar : Nat), k + m = cnt people → sofar < V 0 0 ^ k → jE G mi_X1_firstHome (3 + m) [jr (some 64), .int (nI k), .int (nI sofar), .int (nI i)] M (some (.int (fstI (V 0 0 ^ cnt people) (fhQ V people F H k sofar)))) M := by
  have hS := h.1
  obtain ⟨v, hs, hN⟩ := h.so hv9
  have hv := hs.s
  have hw9 := hs.w
  have hnp := wf_np hw9
  have h0 : 0 < V 0 0 := (h.2.1.1.2 V hv9).1
  obtain ⟨⟨m1, m2⟩, m3, m4, m5⟩ := hm
  have h1000 := pw3 hnp m2
  intro m
  induction m with
  | zero =>
    intro k sofar hk hso
    have hk' : k = cnt people := by omega
    subst hk'
    have hq : ∀ b, b < V 0 0 ^ cnt people → fhQ V people F H (cnt people) sofar b = (decide (b = sofar) && H b) := by
      intro b hb
      unfold fhQ cndB
      rw [Nat.sub_self, Nat.pow_zero, Nat.div_one, show allB (cnt people) (fun j => decide (j < cnt people) || linkB V (F j) (dig (V 0 0) (cnt people) b j)) = true from allB_iff.mpr (fun j hj => by rw [decide_eq_true hj]; rfl), Bool.and_true]
    refine jE.of (by decide) rfl (Nat.le_of_ble_eq_true rfl) ?_
    refine jw_iload_n (pc := 0) dX1_firstHome_0 rfl ?_
    refine jw_aload_n (pc := 1) dX1_firstHome_1 rfl ?_
    refine jx_getIs (pc := 2) (jf_X1_287_0.r) rfl dX1_firstHome_2 rfl (is_64 hS) (by decide) (m3) ?_
    first | refine jx_icmp_ne (pc := 5) (tgt := 31) dX1_firstHome_5 (by decide) (by omega) (by omega) ?_ ?_ | refine jw_icmp_ne (pc := 5) (tgt := 31) dX1_firstHome_5 (by decide) ?_ ?_
    · intro h_5
      omega
    · intro h_5
      refine jw_aload_n (pc := 8) dX1_firstHome_8 rfl ?_
      refine jx_getRs (pc := 9) (jf_X1_65_0.r) rfl dX1_firstHome_9 rfl (is_64 hS) (by decide) (sr_64_23 hS) ?_
      refine jw_sipush (pc := 12) dX1_firstHome_12 sp_1000 ?_
      refine jw_iload_n (pc := 15) dX1_firstHome_15 rfl ?_
      refine jw_iconst (pc := 16) dX1_firstHome_16 ic_1 ?_
      first | refine jx_iadd (pc := 17) dX1_firstHome_17 ?_ | refine jw_iadd (pc := 17) dX1_firstHome_17 ?_
      first | refine jx_imul (pc := 18) dX1_firstHome_18 ?_ | refine jw_imul (pc := 18) dX1_firstHome_18 ?_
      refine jw_iload_n (pc := 19) dX1_firstHome_19 rfl ?_
      first | refine jx_iadd (pc := 20) dX1_firstHome_20 ?_ | refine jw_iadd (pc := 20) dX1_firstHome_20 ?_
      refine jx_zalds (pc := 21) dX1_firstHome_21 (ok_86 hS) (nn_86 hS) rfl (by omega) (hH sofar hso) ?_
      first | refine jx_ifb_eq (pc := 22) (tgt := 29) dX1_firstHome_22 (by decide) ?_ ?_ | refine jx_if_eq (pc := 22) (tgt := 29) dX1_firstHome_22 (by decide) (by omega) ?_ ?_ | refine jw_if_eq (pc := 22) (tgt := 29) dX1_firstHome_22 (by decide) ?_ ?_
      · intro h_22
        refine jw_iconst (pc := 29) dX1_firstHome_29 ic_m1 ?_
        refine jw_ireturn (pc := 30) dX1_firstHome_30 rfl (rfl) ?_
        refine ⟨?_, rfl⟩
        first
          | (have e : fstN (V 0 0 ^ cnt people) (fhQ V people F H (cnt people) sofar) = sofar := fst_hit hso (by rw [hq _ hso, decide_eq_true rfl, h_22]; rfl) (fun j hj => by rw [hq j (by omega), decide_eq_false (by omega)]; rfl)
             unfold fstI; rw [e, if_pos hso])
          | (have e : fstN (V 0 0 ^ cnt people) (fhQ V people F H (cnt people) sofar) = V 0 0 ^ cnt people := fst_none (fun j hj => by
               rw [hq j hj]
               by_cases e : j = sofar
               · rw [e, h_22, Bool.and_false]
               · rw [decide_eq_false e, Bool.false_and])
             unfold fstI; rw [e, if_neg (Nat.lt_irrefl _)])
      · intro h_22
        refine jw_iload_n (pc := 25) dX1_firstHome_25 rfl ?_
        refine jw_goto (pc := 26) (tgt := 30) dX1_firstHome_26 (by decide) ?_
        refine jw_ireturn (pc := 30) dX1_firstHome_30 rfl (rfl) ?_
        refine ⟨?_, rfl⟩
        first
          | (have e : fstN (V 0 0 ^ cnt people) (fhQ V people F H (cnt people) sofar) = sofar := fst_hit hso (by rw [hq _ hso, decide_eq_true rfl, h_22]; rfl) (fun j hj => by rw [hq j (by omega), decide_eq_false (by omega)]; rfl)
             unfold fstI; rw [e, if_pos hso])
          | (have e : fstN (V 0 0 ^ cnt people) (fhQ V people F H (cnt people) sofar) = V 0 0 ^ cnt people := fst_none (fun j hj => by
               rw [hq j hj]
               by_cases e : j = sofar
               · rw [e, h_22, Bool.and_false]
               · rw [decide_eq_false e, Bool.false_and])
             unfold fstI; rw [e, if_neg (Nat.lt_irrefl _)])
  | succ m ihm =>
    intro k sofar hk hso
    have hkn9 : k < cnt people := by omega
    have hso3 : V 0 0 ^ k ≤ 1000 := pw3 hnp (by omega)
    obtain ⟨f1, f2⟩ := hF k hkn9
    refine jE.of (by decide) rfl (Nat.le_of_ble_eq_true rfl) ?_
    have J : ∀ p : Nat, p ≤ V 0 0 → jW G mi_X1_firstHome (3 + (m + 1)) M 37 [some (jr (some 64)), some (.int (nI k)), some (.int (nI sofar)), some (.int (nI i)), some (.int (fstI (V 0 0 ^ cnt people) (fhP V people F H k sofar p))), some (.int (nI p))] [] M (fun r M' => r = .inl (some (.int (fstI (V 0 0 ^ cnt people) (fhQ V people F H k sofar)))) ∧ M' = M) := by
      refine jW.loop _ (fun p => V 0 0 - p) _ (fun _ => []) (fun _ => M) (fun p hp ih => ?_)
      by_cases hkn : p < V 0 0
      · have hso2 : sofar * V 0 0 + p < V 0 0 ^ (k + 1) := by
          rw [Nat.pow_succ]
          have := Nat.mul_le_mul_right (V 0 0) (Nat.succ_le_of_lt hso)
          rw [Nat.succ_mul] at this
          omega
        refine jw_iload (pc := 37) dX1_firstHome_37 rfl ?_
        refine jw_aload_n (pc := 39) dX1_firstHome_39 rfl ?_
        refine jx_getRs (pc := 40) (jf_X1_109_0.r) rfl dX1_firstHome_40 rfl (is_64 hS) (by decide) (hs.r) ?_
        refine jx_getIs (pc := 43) (jf_X1_150_5.r) rfl dX1_firstHome_43 rfl (vis hv) (by decide) (xi_np hs.V) ?_
        first | refine jx_icmp_ge (pc := 46) (tgt := 101) dX1_firstHome_46 (by decide) (by omega) (by omega) ?_ ?_ | refine jw_icmp_ge (pc := 46) (tgt := 101) dX1_firstHome_46 (by decide) ?_ ?_
        · intro h_46
          omega
        · intro h_46
          refine jw_iload (pc := 49) dX1_firstHome_49 rfl ?_
          refine jw_iconst (pc := 51) dX1_firstHome_51 ic_m1 ?_
          refine jw_icmp_ne (pc := 52) (tgt := 101) dX1_firstHome_52 (by decide) ?_ ?_
          · intro h_52
            refine jw_iload (pc := 101) dX1_firstHome_101 rfl ?_
            refine jw_ireturn (pc := 103) dX1_firstHome_103 rfl (rfl) ?_
            have h9 : fstN (V 0 0 ^ cnt people) (fhP V people F H k sofar p) < V 0 0 ^ cnt people := Classical.byContradiction (fun c => h_52 ((fstI_m1 (by omega)).mpr c))
            refine ⟨?_, rfl⟩
            unfold fstI; rw [fhP_hit h0 hkn9 h9]
          · intro h_52
            refine jw_aload_n (pc := 55) dX1_firstHome_55 rfl ?_
            refine jx_getRs (pc := 56) (jf_X1_109_0.r) rfl dX1_firstHome_56 rfl (is_64 hS) (by decide) (hs.r) ?_
            refine jw_aload_n (pc := 59) dX1_firstHome_59 rfl ?_
            refine jx_getRs (pc := 60) (jf_X1_52_0.r) rfl dX1_firstHome_60 rfl (is_64 hS) (by decide) (sr_64_17 hS) ?_
            refine jw_iload_n (pc := 63) dX1_firstHome_63 rfl ?_
            refine jx_ialds (pc := 64) dX1_firstHome_64 (ok_82 hS) (nn_82 hS) rfl (by omega) (f1) ?_
            refine jw_iload (pc := 65) dX1_firstHome_65 rfl ?_
            refine jx_cVE (mi1 := mi_X6_areLinked) (pc := 67) rfl dX1_firstHome_67 lk_X1_228 rfl fi_X6_areLinked rfl rfl rfl (by decide) (vis hv) (t_X6_areLinked hs.V hs.w f2 hkn) (by first | decide | omega) rfl rfl (by decide) ?_
            first | refine jx_ifb_eq (pc := 70) (tgt := 95) dX1_firstHome_70 (by decide) ?_ ?_ | refine jx_if_eq (pc := 70) (tgt := 95) dX1_firstHome_70 (by decide) (by omega) ?_ ?_ | refine jw_if_eq (pc := 70) (tgt := 95) dX1_firstHome_70 (by decide) ?_ ?_
            · intro h_70
              first | refine jx_iinc (pc := 95) dX1_firstHome_95 rfl rfl ?_ | refine jw_iinc (pc := 95) dX1_firstHome_95 rfl rfl rfl ?_
              try dsimp only [jput1, jkill, jclr, jis2_i, jis2_l, jis2_rs, jis2_rn, cond]
              refine jw_goto (pc := 98) (tgt := 37) dX1_firstHome_98 (by decide) ?_
              have h9 := fst_all ((fstI_m1 (show V 0 0 ^ cnt people < 2 ^ 31 by omega)).mp h_52)
              refine jW.eq ?_ rfl rfl (ih (p + 1) hkn (by omega))
              first
                | rw [fstI_cg (fun j hj => (fhP_s hkn9 hkn h_70 (h9 j hj)).symm)]
                | rw [fstI_cg (fun j hj => (fhP_n hkn9 h_70).symm)]
            · intro h_70
              refine jw_aload_n (pc := 73) dX1_firstHome_73 rfl ?_
              refine jw_iload_n (pc := 74) dX1_firstHome_74 rfl ?_
              refine jw_iconst (pc := 75) dX1_firstHome_75 ic_1 ?_
              first | refine jx_iadd (pc := 76) dX1_firstHome_76 ?_ | refine jw_iadd (pc := 76) dX1_firstHome_76 ?_
              refine jw_iload_n (pc := 77) dX1_firstHome_77 rfl ?_
              refine jw_aload_n (pc := 78) dX1_firstHome_78 rfl ?_
              refine jx_getRs (pc := 79) (jf_X1_109_0.r) rfl dX1_firstHome_79 rfl (is_64 hS) (by decide) (hs.r) ?_
              refine jx_getIs (pc := 82) (jf_X1_150_5.r) rfl dX1_firstHome_82 rfl (vis hv) (by decide) (xi_np hs.V) ?_
              first | refine jx_imul (pc := 85) dX1_firstHome_85 ?_ | refine jw_imul (pc := 85) dX1_firstHome_85 ?_
              refine jw_iload (pc := 86) dX1_firstHome_86 rfl ?_
              first | refine jx_iadd (pc := 88) dX1_firstHome_88 ?_ | refine jw_iadd (pc := 88) dX1_firstHome_88 ?_
              refine jw_iload_n (pc := 89) dX1_firstHome_89 rfl ?_
              refine jx_cVE (mi1 := mi_X1_firstHome) (pc := 90) rfl dX1_firstHome_90 lk_X1_319 rfl fi_X1_firstHome rfl rfl rfl (by decide) (is_64 hS) (ihm (k + 1) (sofar * V 0 0 + p) (by omega) hso2) (by first | decide | omega) rfl rfl (by decide) ?_
              refine jw_istore (pc := 93) dX1_firstHome_93 (Nat.le_of_ble_eq_true rfl) rfl ?_
              try dsimp only [jput1, jput2, jkill, jclr, jis2_i, jis2_l, jis2_rs, jis2_rn, cond]
              first | refine jx_iinc (pc := 95) dX1_firstHome_95 rfl rfl ?_ | refine jw_iinc (pc := 95) dX1_firstHome_95 rfl rfl rfl ?_
              try dsimp only [jput1, jkill, jclr, jis2_i, jis2_l, jis2_rs, jis2_rn, cond]
              refine jw_goto (pc := 98) (tgt := 37) dX1_firstHome_98 (by decide) ?_
              have h9 := fst_all ((fstI_m1 (show V 0 0 ^ cnt people < 2 ^ 31 by omega)).mp h_52)
              refine jW.eq ?_ rfl rfl (ih (p + 1) hkn (by omega))
              first
                | rw [fstI_cg (fun j hj => (fhP_s hkn9 hkn h_70 (h9 j hj)).symm)]
                | rw [fstI_cg (fun j hj => (fhP_n hkn9 h_70).symm)]
      · have hk' : p = V 0 0 := by omega
        subst hk'
        refine jw_iload (pc := 37) dX1_firstHome_37 rfl ?_
        refine jw_aload_n (pc := 39) dX1_firstHome_39 rfl ?_
        refine jx_getRs (pc := 40) (jf_X1_109_0.r) rfl dX1_firstHome_40 rfl (is_64 hS) (by decide) (hs.r) ?_
        refine jx_getIs (pc := 43) (jf_X1_150_5.r) rfl dX1_firstHome_43 rfl (vis hv) (by decide) (xi_np hs.V) ?_
        first | refine jx_icmp_ge (pc := 46) (tgt := 101) dX1_firstHome_46 (by decide) (by omega) (by omega) ?_ ?_ | refine jw_icmp_ge (pc := 46) (tgt := 101) dX1_firstHome_46 (by decide) ?_ ?_
        · intro h_46
          refine jw_iload (pc := 101) dX1_firstHome_101 rfl ?_
          refine jw_ireturn (pc := 103) dX1_firstHome_103 rfl (rfl) ?_
          exact ⟨by rw [fstI_cg (fun j _ => fhP_end h0)], rfl⟩
        · intro h_46
          omega
    refine jw_iload_n (pc := 0) dX1_firstHome_0 rfl ?_
    refine jw_aload_n (pc := 1) dX1_firstHome_1 rfl ?_
    refine jx_getIs (pc := 2) (jf_X1_287_0.r) rfl dX1_firstHome_2 rfl (is_64 hS) (by decide) (m3) ?_
    first | refine jx_icmp_ne (pc := 5) (tgt := 31) dX1_firstHome_5 (by decide) (by omega) (by omega) ?_ ?_ | refine jw_icmp_ne (pc := 5) (tgt := 31) dX1_firstHome_5 (by decide) ?_ ?_
    · intro h_5
      refine jw_iconst (pc := 31) dX1_firstHome_31 ic_m1 ?_
      refine jw_istore (pc := 32) dX1_firstHome_32 (Nat.le_of_ble_eq_true rfl) rfl ?_
      try dsimp only [jput1, jput2, jkill, jclr, jis2_i, jis2_l, jis2_rs, jis2_rn, cond]
      refine jw_iconst (pc := 34) dX1_firstHome_34 ic_0 ?_
      refine jw_istore (pc := 35) dX1_firstHome_35 (Nat.le_of_ble_eq_true rfl) rfl ?_
      try dsimp only [jput1, jput2, jkill, jclr, jis2_i, jis2_l, jis2_rs, jis2_rn, cond]
      refine jW.eq ?_ rfl rfl (J 0 (Nat.zero_le _))
      rw [show fstI (V 0 0 ^ cnt people) (fhP V people F H k sofar 0) = -1 from (fstI_m1 (by omega)).mpr (by rw [fst_none (fun j _ => fhP_0)]; exact Nat.lt_irrefl _)]
      rfl
    · intro h_5
      omega
end JXH
