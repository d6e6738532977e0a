/-! ===== scratch: what no state tells of ===== -/
def xsa (a : Nat) : Prop := a = 76 ∨ a = 77 ∨ a = 79 ∨ (81 ≤ a ∧ a ≤ 86) ∨ a = 88 ∨ a = 89
def msa (a : Nat) : Prop := a = 93 ∨ (95 ≤ a ∧ a ≤ 99) ∨ a = 101 ∨ a = 102
theorem xsa_E {a : Nat} (h : xsa a) : jxE a := by unfold xsa at h; exact ⟨by omega, by omega⟩
theorem msa_E {a : Nat} (h : msa a) : jmE a := by unfold msa at h; exact ⟨by omega, by omega⟩
theorem xscr {M M1 : Mm} {σ : Sg} (h : jXx M σ) (g : jsm xsa M M1) (hS : jSh M1) : jXx M1 σ := by
  have hz := h.1.2.2.2
  have a64 := g.2.2 64 (by omega) (by unfold xsa; omega)
  have a78 := g.2.2 78 (by omega) (by unfold xsa; omega)
  have a80 := g.2.2 80 (by omega) (by unfold xsa; omega)
  have a87 := g.2.2 87 (by omega) (by unfold xsa; omega)
  obtain ⟨h3, h4, h5, h6, h7⟩ := h.2.2.1
  exact h.up g hS (fun a q1 q2 => by unfold xsa at q2; omega) h.2.1 rfl rfl (a64.2.2.2.2.1 _) ⟨(a64.2.2.1 _).trans h3, (a64.2.2.1 _).trans h4, (a64.2.2.1 _).trans h5, fun q => (a64.2.2.1 _).trans (h6 q), h7⟩ (fun V hV q => ⟨(a64.2.2.1 _).trans q.1, (a64.2.2.1 _).trans q.2.1, (a64.2.2.1 _).trans q.2.2.1, fun p hp => (a78.2.2.2.2.2.1 _).trans (q.2.2.2.1 p hp), fun p t hp ht => (a80.2.2.2.2.2.1 _).trans (q.2.2.2.2.1 p t hp ht), fun k hk => (a87.2.2.2.2.2.1 _).trans (q.2.2.2.2.2 k hk)⟩)
theorem mscr {M M1 : Mm} {σ : Sg} (h : jMm M σ) (g : jsm msa M M1) (hS : jSh M1) : jMm M1 σ := by
  have hz := h.1.2.2.2
  have a90 := g.2.2 90 (by omega) (by unfold msa; omega)
  have a92 := g.2.2 92 (by omega) (by unfold msa; omega)
  have a94 := g.2.2 94 (by omega) (by unfold msa; omega)
  have a100 := g.2.2 100 (by omega) (by unfold msa; omega)
  obtain ⟨h3, h4, h5, h6⟩ := h.2.2.1
  refine h.up g hS (fun a q1 q2 => by unfold msa at q2; omega) h.2.1 rfl rfl (a90.2.2.2.2.1 _) ⟨(a90.2.2.1 _).trans h3, (a90.2.2.1 _).trans h4, (a90.2.2.1 _).trans h5, (a90.2.2.1 _).trans h6⟩ ⟨(a90.2.2.1 _).trans h.2.2.2.1.1, (a90.2.2.1 _).trans h.2.2.2.1.2⟩ (fun V hV q => ?_)
  obtain ⟨q1, q2, q3, q4, q5, mv, q6, q7, q8⟩ := q
  refine ⟨(a90.2.2.1 _).trans q1, (a90.2.2.1 _).trans q2, (a90.2.2.1 _).trans q3, fun p hp => (a92.2.2.2.2.2.1 _).trans (q4 p hp), fun p t hp ht => (a94.2.2.2.2.2.1 _).trans (q5 p t hp ht), mv, (a90.2.2.1 _).trans q6, q7, fun p n hp e1 e2 i hi => ?_⟩
  rw [a100.2.2.2.2.2.1]; exact q8 p n hp e1 e2 i hi
theorem xA {M : Mm} {σ : Sg} {a j : Nat} {v : Int32} (h : jXx M σ) (ha : xsa a) : jXx (js_A M a j v) σ := xscr h (jsm.A ha) h.1
theorem mA {M : Mm} {σ : Sg} {a j : Nat} {v : Int32} (h : jMm M σ) (ha : msa a) : jMm (js_A M a j v) σ := mscr h (jsm.A ha) h.1
theorem xI {M : Mm} {σ : Sg} {k : Nat} {v : Int32} (h : jXx M σ) (hk : k = 15 ∨ k = 19 ∨ k = 20 ∨ k = 28) : jXx (js_I M 64 k v) σ := by
  have e : ∀ j, j ≠ k → jm_I (js_I M 64 k v) 64 j = jm_I M 64 j := fun j hj => by rw [jI_I, if_neg (fun q => hj q.1)]
  obtain ⟨h3, h4, h5, h6, h7⟩ := h.2.2.1
  exact h.up (E := fun a => a = 64) (jsm.I rfl) h.1 (fun a q1 q2 => by omega) h.2.1 rfl rfl rfl ⟨(e _ (by omega)).trans h3, (e _ (by omega)).trans h4, (e _ (by omega)).trans h5, fun q => (e _ (by omega)).trans (h6 q), h7⟩ (fun V hV q => ⟨(e _ (by omega)).trans q.1, (e _ (by omega)).trans q.2.1, (e _ (by omega)).trans q.2.2.1, q.2.2.2⟩)
theorem mI {M : Mm} {σ : Sg} {k : Nat} {v : Int32} (h : jMm M σ) (hk : k = 49 ∨ (56 ≤ k ∧ k ≤ 61) ∨ k = 63 ∨ k = 65 ∨ k = 73 ∨ k = 76 ∨ k = 77 ∨ k = 86) : jMm (js_I M 90 k v) σ := by
  have e : ∀ j, j ≠ k → jm_I (js_I M 90 k v) 90 j = jm_I M 90 j := fun j hj => by rw [jI_I, if_neg (fun q => hj q.1)]
  obtain ⟨h3, h4, h5, h6⟩ := h.2.2.1
  refine h.up (E := fun a => a = 90) (jsm.I rfl) h.1 (fun a q1 q2 => by omega) h.2.1 rfl rfl rfl ⟨(e _ (by omega)).trans h3, (e _ (by omega)).trans h4, (e _ (by omega)).trans h5, (e _ (by omega)).trans h6⟩ ⟨(e _ (by omega)).trans h.2.2.2.1.1, (e _ (by omega)).trans h.2.2.2.1.2⟩ (fun V hV q => ?_)
  obtain ⟨q1, q2, q3, q4, q5, mv, q6, q7, q8⟩ := q
  exact ⟨(e _ (by omega)).trans q1, (e _ (by omega)).trans q2, (e _ (by omega)).trans q3, q4, q5, mv, (e _ (by omega)).trans q6, q7, q8⟩
theorem jA_same {M : Mm} {a k : Nat} {v : Int32} : jm_A (js_A M a k v) a k = v := by rw [jA_A, if_pos ⟨rfl, rfl⟩]
theorem jA_oth {M : Mm} {a b k j : Nat} {v : Int32} (h : j ≠ k) : jm_A (js_A M a k v) b j = jm_A M b j := by rw [jA_A, if_neg (fun q => h q.2)]
theorem jA_oth2 {M : Mm} {a b k j : Nat} {v : Int32} (h : b ≠ a) : jm_A (js_A M a k v) b j = jm_A M b j := by rw [jA_A, if_neg (fun q => h q.1)]
theorem jI_same {M : Mm} {a k : Nat} {v : Int32} : jm_I (js_I M a k v) a k = v := by rw [jI_I, if_pos ⟨rfl, rfl⟩]
/-- the first of n numbers of which it holds; n without -/
def fstN (n : Nat) (P : Nat → Bool) : Nat := match n with
  | 0 => 0
  | n + 1 => if fstN n P < n then fstN n P else if P n then n else n + 1
theorem fstN_s (n : Nat) (P : Nat → Bool) : fstN (n + 1) P = if fstN n P < n then fstN n P else if P n then n else n + 1 := rfl
theorem fst_none {n : Nat} {P : Nat → Bool} (h : ∀ j, j < n → P j = false) : fstN n P = n := by
  induction n with
  | zero => rfl
  | succ n ih => rw [fstN_s, ih (fun j hj => h j (by omega)), if_neg (by omega), h n (by omega)]; rfl
theorem fst_hit {n k : Nat} {P : Nat → Bool} (hk : k < n) (h : P k = true) (h0 : ∀ j, j < k → P j = false) : fstN n P = k := by
  induction n with
  | zero => omega
  | succ n ih =>
    rw [fstN_s]
    by_cases e : k = n
    · subst e
      rw [fst_none h0, if_neg (by omega), if_pos h]
    · have i := ih (by omega)
      rw [i, if_pos (by omega)]
theorem fst_le (n : Nat) (P : Nat → Bool) : fstN n P ≤ n := by
  induction n with
  | zero => exact Nat.le_refl _
  | succ n ih => rw [fstN_s]; split; omega; split <;> omega
/-! ===== the plan is judged ===== -/
def wayT (V : Vt) (pl : Nat → Nat) (t p : Nat) : Bool := linkB V (if t = 0 then V 11 p else pl (100 * p + t - 1)) (pl (100 * p + t))
def waysB (V : Vt) (pl : Nat → Nat) (t : Nat) : Bool := allB (V 0 1) (wayT V pl t)
def whyAt (V : Vt) (pl : Nat → Nat) (t : Nat) : Nat := if waysB V pl t then (if lawfulV V (fun p => pl (100 * p + t)) t then 0 else 2) else 1
def rowR (pl : Nat → Nat) (b c n : Nat) : Nat := match n with
  | 0 => 0
  | n + 1 => if pl (b + n) = c then rowR pl b c n + 1 else 0
def bestR (pl : Nat → Nat) (b c n : Nat) : Nat := match n with
  | 0 => 0
  | n + 1 => Nat.max (bestR pl b c n) (rowR pl b c (n + 1))
theorem rowR_s (pl : Nat → Nat) (b c n : Nat) : rowR pl b c (n + 1) = if pl (b + n) = c then rowR pl b c n + 1 else 0 := rfl
theorem bestR_s (pl : Nat → Nat) (b c n : Nat) : bestR pl b c (n + 1) = Nat.max (bestR pl b c n) (rowR pl b c (n + 1)) := rfl
theorem row_le (pl : Nat → Nat) (b c n : Nat) : rowR pl b c n ≤ n := by
  induction n with
  | zero => exact Nat.le_refl _
  | succ n ih => rw [rowR_s]; split <;> omega
theorem best_le (pl : Nat → Nat) (b c n : Nat) : bestR pl b c n ≤ n := by
  induction n with
  | zero => exact Nat.le_refl _
  | succ n ih => rw [bestR_s]; exact Nat.max_le.mpr ⟨by omega, row_le _ _ _ _⟩
theorem row_best (pl : Nat → Nat) (b c n : Nat) : rowR pl b c n ≤ bestR pl b c n := by
  cases n with
  | zero => exact Nat.le_refl _
  | succ n => rw [bestR_s]; exact Nat.le_max_right _ _
theorem best_mono (pl : Nat → Nat) (b c : Nat) {n m : Nat} (h : n ≤ m) : bestR pl b c n ≤ bestR pl b c m := by
  induction m with
  | zero => rw [show n = 0 by omega]; exact Nat.le_refl _
  | succ m ih =>
    by_cases e : n = m + 1
    · rw [e]; exact Nat.le_refl _
    · exact Nat.le_trans (ih (by omega)) (by rw [bestR_s]; exact Nat.le_max_left _ _)
def errN (V : Vt) (e : Nat) : Nat := min (V 19 e) (V 0 12) - V 18 e
def doneB (V : Vt) (pl : Nat → Nat) (e : Nat) : Bool := decide (V 20 e ≤ bestR pl (100 * V 16 e + V 18 e) (V 17 e) (errN V e))
def judT (V : Vt) (pl : Nat → Nat) : Nat := fstN (V 0 12) (fun t => decide (whyAt V pl t ≠ 0))
def judN (V : Vt) (pl : Nat → Nat) : Int32 × Nat := if judT V pl < V 0 12 then (nI (judT V pl), whyAt V pl (judT V pl)) else if allB (V 0 2) (doneB V pl) then (-2, 0) else (nI (V 0 12), 3)
theorem jud_1 {V : Vt} {pl : Nat → Nat} {t : Nat} (ht : t < V 0 12) (h0 : ∀ j, j < t → whyAt V pl j = 0) (h : whyAt V pl t ≠ 0) : judN V pl = (nI t, whyAt V pl t) := by
  have e : judT V pl = t := fst_hit ht (decide_eq_true h) (fun j hj => decide_eq_false (by rw [h0 j hj]; simp))
  unfold judN
  rw [e, if_pos ht]
theorem jud_2 {V : Vt} {pl : Nat → Nat} (h0 : ∀ j, j < V 0 12 → whyAt V pl j = 0) : judN V pl = if allB (V 0 2) (doneB V pl) then (-2, 0) else (nI (V 0 12), 3) := by
  have e : judT V pl = V 0 12 := fst_none (fun j hj => decide_eq_false (by rw [h0 j hj]; simp))
  unfold judN
  rw [e, if_neg (by omega)]
theorem jud_m {V : Vt} {pl : Nat → Nat} (hw : jWf V) (h : (judN V pl).1 = -2) : (judN V pl).2 = 0 := by
  obtain ⟨d1, d2, d3, d4, d5⟩ := wf_d hw
  unfold judN at h ⊢
  split
  · rename_i q; rw [if_pos q] at h; exact absurd h (nI_m2 (by omega))
  · rename_i q; rw [if_neg q] at h
    split
    · rfl
    · rename_i q2; rw [if_neg q2] at h; exact absurd h (nI_m2 (by omega))
theorem why_lt (V : Vt) (pl : Nat → Nat) (t : Nat) : whyAt V pl t < 3 := by unfold whyAt; split; split <;> omega; omega
def q_judge (σ : Sg) : Int32 × Int32 := match sv σ with
  | none => (-1, 1)
  | some V => ((judN V (sa σ 1)).1, 0)
def q_why (σ : Sg) : Int32 × Int32 := match sv σ with
  | none => (-1, 1)
  | some V => (nI (judN V (sa σ 1)).2, 0)
def q_done (σ : Sg) (e : Int32) : Int32 × Int32 := if ixV (sv σ) 2 e then (jb (doneB (vv σ) (sa σ 1) (iN e)), 0) else (-1, 1)
def nearK (V : Vt) (a n : Nat) : Nat := match n with
  | 0 => 0
  | n + 1 => (nearK V a n ||| (if V 21 n = a then 2 ^ V 22 n else 0)) ||| (if V 22 n = a then 2 ^ V 21 n else 0)
theorem nearK_s (V : Vt) (a n : Nat) : nearK V a (n + 1) = (nearK V a n ||| (if V 21 n = a then 2 ^ V 22 n else 0)) ||| (if V 22 n = a then 2 ^ V 21 n else 0) := rfl
theorem nearK_bit (V : Vt) (a n b : Nat) : (nearK V a n).testBit b = true ↔ ∃ k, k < n ∧ ((V 21 k = a ∧ V 22 k = b) ∨ (V 21 k = b ∧ V 22 k = a)) := by
  induction n with
  | zero => 
    rw [show nearK V a 0 = 0 from rfl, Nat.zero_testBit]
    exact ⟨fun q => (by cases q), fun ⟨k, q, _⟩ => absurd q (Nat.not_lt_zero _)⟩
  | succ n ih =>
    have e : ∀ (c : Prop) [Decidable c] (x : Nat), (if c then 2 ^ x else 0).testBit b = (decide c && decide (x = b)) := by
      intro c _ x
      by_cases q : c
      · rw [if_pos q, Nat.testBit_two_pow, decide_eq_true q, Bool.true_and]
      · rw [if_neg q, Nat.zero_testBit, decide_eq_false q, Bool.false_and]
    rw [nearK_s, Nat.testBit_or, Nat.testBit_or, e, e, Bool.or_eq_true, Bool.or_eq_true, ih, Bool.and_eq_true, Bool.and_eq_true, decide_eq_true_eq, decide_eq_true_eq, decide_eq_true_eq, decide_eq_true_eq]
    constructor
    · rintro ((⟨k, q1, q2⟩ | ⟨q1, q2⟩) | ⟨q1, q2⟩)
      · exact ⟨k, by omega, q2⟩
      · exact ⟨n, by omega, Or.inl ⟨q1, q2⟩⟩
      · exact ⟨n, by omega, Or.inr ⟨q2, q1⟩⟩
    · rintro ⟨k, q1, q2⟩
      by_cases h : k = n
      · subst h
        rcases q2 with ⟨q2, q3⟩ | ⟨q2, q3⟩
        · exact Or.inl (Or.inr ⟨q2, q3⟩)
        · exact Or.inr ⟨q3, q2⟩
      · exact Or.inl (Or.inl ⟨k, by omega, q2⟩)
theorem nearK_end {V : Vt} (hw : jWf V) {a : Nat} (ha : a < V 0 0) : nearK V a (V 0 4) = V 3 a := by
  refine Nat.eq_of_testBit_eq (fun b => ?_)
  rw [Bool.eq_iff_iff, nearK_bit, wf_yb hw ha]
section JJ
variable {G : Gh} {M : Mm} {σ : Sg}
theorem t_X1_areWays {t v : Nat} {V : Vt} (hs : jXs M v V) (hN : jXn M V σ) (ho : jSo σ) (hv9 : sv σ = some V) (ht : t < 100) : jE G mi_X1_areWays 3 [jr (some 64), .int (nI t)] M (some (.int (jb (waysB V (sa σ 1) t)))) M := by
  have hS := hs.1
  have hv := hs.s
  have hn := wf_nq hs.w
  obtain ⟨o1, o2, o3, o4⟩ := ho.2 V hv9
  refine jE.of (by decide) rfl (Nat.le_of_ble_eq_true rfl) ?_
  have J : ∀ k : Nat, k ≤ V 0 1 → jW G mi_X1_areWays 3 M 4 [some (jr (some 64)), some (.int (nI t)), some (.int (jb (allB k (wayT V (sa σ 1) t)))), some (.int (nI k)), none] [] M (fun r M' => r = .inl (some (.int (jb (waysB V (sa σ 1) t)))) ∧ M' = M) := by
    refine jW.loop _ (fun k => V 0 1 - k) _ (fun _ => []) (fun _ => M) (fun k hk ih => ?_)
    by_cases hkn : k < V 0 1
    · obtain ⟨p, hp1, hp2, hp3⟩ := pe_x hs.V hkn
      have hq1 := (wf_q hs.w hkn).1
      have hq2 := o3 k t hkn ht
      have hq3 : ¬ t = 0 → sa σ 1 (100 * k + t - 1) < V 0 0 := fun h => by rw [show 100 * k + t - 1 = 100 * k + (t - 1) by omega]; exact o3 k (t - 1) hkn (by omega)
      have he3 : ¬ t = 0 → jm_A M 80 (100 * k + t - 1) = nI (sa σ 1 (100 * k + t - 1)) := fun h => by rw [show 100 * k + t - 1 = 100 * k + (t - 1) by omega]; exact hN.2.2.2.2.1 k (t - 1) hkn (by omega)
      have J81 : ∀ x4 : Option Value, jW G mi_X1_areWays 3 M 81 [some (jr (some 64)), some (.int (nI t)), some (.int (jb (allB k (wayT V (sa σ 1) t)))), some (.int (nI k)), x4] [.int (jb (allB (k + 1) (wayT V (sa σ 1) t)))] M (fun r M' => r = .inl (some (.int (jb (waysB V (sa σ 1) t)))) ∧ M' = M) := by
        intro x4
        refine jw_istore_n (pc := 81) dX1_areWays_81 (Nat.le_of_ble_eq_true rfl) rfl ?_
        try dsimp only [jput1, jput2, jkill, jclr, jis2_i, jis2_l, jis2_rs, jis2_rn, cond]
        first | refine jx_iinc (pc := 82) dX1_areWays_82 rfl rfl ?_ | refine jw_iinc (pc := 82) dX1_areWays_82 rfl rfl rfl ?_
        try dsimp only [jput1, jkill, jclr, jis2_i, jis2_l, jis2_rs, jis2_rn, cond]
        refine jw_goto (pc := 85) (tgt := 4) dX1_areWays_85 (by decide) ?_
        refine jW.sub ?_ (ih (k + 1) hkn (by omega))
        exact ⟨rfl, rfl, rfl, rfl, trivial⟩
      refine jw_iload_n (pc := 4) dX1_areWays_4 rfl ?_
      refine jw_aload_n (pc := 5) dX1_areWays_5 rfl ?_
      refine jx_getRs (pc := 6) (jf_X1_109_0.r) rfl dX1_areWays_6 rfl (is_64 hS) (by decide) (hs.r) ?_
      refine jx_getIs (pc := 9) (jf_X1_137_5.r) rfl dX1_areWays_9 rfl (vis hv) (by decide) (xi_nq hs.V) ?_
      first | refine jx_icmp_ge (pc := 12) (tgt := 88) dX1_areWays_12 (by decide) (by omega) (by omega) ?_ ?_ | refine jw_icmp_ge (pc := 12) (tgt := 88) dX1_areWays_12 (by decide) ?_ ?_
      · intro h_12
        omega
      · intro h_12
        refine jw_iload_n (pc := 15) dX1_areWays_15 rfl ?_
        first | refine jx_ifb_ne (pc := 16) (tgt := 34) dX1_areWays_16 (by decide) ?_ ?_ | refine jx_if_ne (pc := 16) (tgt := 34) dX1_areWays_16 (by decide) (by omega) ?_ ?_ | refine jw_if_ne (pc := 16) (tgt := 34) dX1_areWays_16 (by decide) ?_ ?_
        · intro h_16
          refine jw_aload_n (pc := 34) dX1_areWays_34 rfl ?_
          refine jx_getRs (pc := 35) (jf_X1_46_0.r) rfl dX1_areWays_35 rfl (is_64 hS) (by decide) (sr_64_12 hS) ?_
          refine jw_bipush (pc := 38) dX1_areWays_38 bp_100 ?_
          refine jw_iload_n (pc := 40) dX1_areWays_40 rfl ?_
          first | refine jx_imul (pc := 41) dX1_areWays_41 ?_ | refine jw_imul (pc := 41) dX1_areWays_41 ?_
          refine jw_iload_n (pc := 42) dX1_areWays_42 rfl ?_
          first | refine jx_iadd (pc := 43) dX1_areWays_43 ?_ | refine jw_iadd (pc := 43) dX1_areWays_43 ?_
          refine jw_iconst (pc := 44) dX1_areWays_44 ic_1 ?_
          refine jw_isub (pc := 45) dX1_areWays_45 ?_
          rw [sub1 (by omega)]
          refine jx_ialds (pc := 46) dX1_areWays_46 (ok_80 hS) (nn_80 hS) rfl (by omega) (he3 h_16) ?_
          refine jw_istore (pc := 47) dX1_areWays_47 (Nat.le_of_ble_eq_true rfl) rfl ?_
          try dsimp only [jput1, jput2, jkill, jclr, jis2_i, jis2_l, jis2_rs, jis2_rn, cond]
          refine jw_iload_n (pc := 49) dX1_areWays_49 rfl ?_
          first | refine jx_ifb_eq (pc := 50) (tgt := 80) dX1_areWays_50 (by decide) ?_ ?_ | refine jx_if_eq (pc := 50) (tgt := 80) dX1_areWays_50 (by decide) (by omega) ?_ ?_ | refine jw_if_eq (pc := 50) (tgt := 80) dX1_areWays_50 (by decide) ?_ ?_
          · intro h_50
            refine jw_iconst (pc := 80) dX1_areWays_80 ic_0 ?_
            refine jw_ff ?_ (J81 _); rw [allB_s]; first | (rw [h_50]; rfl) | (unfold wayT; rw [if_pos h_16, h_73, Bool.and_false]) | (unfold wayT; rw [if_neg h_16, h_73, Bool.and_false])
          · intro h_50
            refine jw_aload_n (pc := 53) dX1_areWays_53 rfl ?_
            refine jx_getRs (pc := 54) (jf_X1_109_0.r) rfl dX1_areWays_54 rfl (is_64 hS) (by decide) (hs.r) ?_
            refine jw_iload (pc := 57) dX1_areWays_57 rfl ?_
            refine jw_aload_n (pc := 59) dX1_areWays_59 rfl ?_
            refine jx_getRs (pc := 60) (jf_X1_46_0.r) rfl dX1_areWays_60 rfl (is_64 hS) (by decide) (sr_64_12 hS) ?_
            refine jw_bipush (pc := 63) dX1_areWays_63 bp_100 ?_
            refine jw_iload_n (pc := 65) dX1_areWays_65 rfl ?_
            first | refine jx_imul (pc := 66) dX1_areWays_66 ?_ | refine jw_imul (pc := 66) dX1_areWays_66 ?_
            refine jw_iload_n (pc := 67) dX1_areWays_67 rfl ?_
            first | refine jx_iadd (pc := 68) dX1_areWays_68 ?_ | refine jw_iadd (pc := 68) dX1_areWays_68 ?_
            refine jx_ialds (pc := 69) dX1_areWays_69 (ok_80 hS) (nn_80 hS) rfl (by omega) (hN.2.2.2.2.1 _ _ hkn ht) ?_
            refine jx_cVE (mi1 := mi_X6_areLinked) (pc := 70) rfl dX1_areWays_70 lk_X1_228 rfl fi_X6_areLinked rfl rfl rfl (by decide) (vis hv) (t_X6_areLinked hs.V hs.w (by first | exact hq1 | exact hq3 h_16) hq2) (by first | decide | omega) rfl rfl (by decide) ?_
            first | refine jx_ifb_eq (pc := 73) (tgt := 80) dX1_areWays_73 (by decide) ?_ ?_ | refine jx_if_eq (pc := 73) (tgt := 80) dX1_areWays_73 (by decide) (by omega) ?_ ?_ | refine jw_if_eq (pc := 73) (tgt := 80) dX1_areWays_73 (by decide) ?_ ?_
            · intro h_73
              refine jw_iconst (pc := 80) dX1_areWays_80 ic_0 ?_
              refine jw_ff ?_ (J81 _); rw [allB_s]; first | (rw [h_50]; rfl) | (unfold wayT; rw [if_pos h_16, h_73, Bool.and_false]) | (unfold wayT; rw [if_neg h_16, h_73, Bool.and_false])
            · intro h_73
              refine jw_iconst (pc := 76) dX1_areWays_76 ic_1 ?_
              refine jw_goto (pc := 77) (tgt := 81) dX1_areWays_77 (by decide) ?_
              refine jw_tt ?_ (J81 _); rw [allB_s, h_50]; unfold wayT; first | (rw [if_pos h_16, h_73]; rfl) | (rw [if_neg h_16, h_73]; rfl)
        · intro h_16
          refine jw_aload_n (pc := 19) dX1_areWays_19 rfl ?_
          refine jx_getRs (pc := 20) (jf_X1_109_0.r) rfl dX1_areWays_20 rfl (is_64 hS) (by decide) (hs.r) ?_
          refine jx_getRs (pc := 23) jg_X1_140_5 rfl dX1_areWays_23 rfl (vis hv) (by decide) (vr_2 hv) ?_
          refine jw_iload_n (pc := 26) dX1_areWays_26 rfl ?_
          refine jx_aalds (pc := 27) (by decide) (by decide) dX1_areWays_27 (vok_2 hv) (vnn_2 hv) rfl (by omega) (hp1) ?_
          refine jx_getIs (pc := 28) (jf_X1_144_7.r) rfl dX1_areWays_28 rfl (hp2) (by decide) (hp3) ?_
          refine jw_goto (pc := 31) (tgt := 47) dX1_areWays_31 (by decide) ?_
          refine jw_istore (pc := 47) dX1_areWays_47 (Nat.le_of_ble_eq_true rfl) rfl ?_
          try dsimp only [jput1, jput2, jkill, jclr, jis2_i, jis2_l, jis2_rs, jis2_rn, cond]
          refine jw_iload_n (pc := 49) dX1_areWays_49 rfl ?_
          first | refine jx_ifb_eq (pc := 50) (tgt := 80) dX1_areWays_50 (by decide) ?_ ?_ | refine jx_if_eq (pc := 50) (tgt := 80) dX1_areWays_50 (by decide) (by omega) ?_ ?_ | refine jw_if_eq (pc := 50) (tgt := 80) dX1_areWays_50 (by decide) ?_ ?_
          · intro h_50
            refine jw_iconst (pc := 80) dX1_areWays_80 ic_0 ?_
            refine jw_ff ?_ (J81 _); rw [allB_s]; first | (rw [h_50]; rfl) | (unfold wayT; rw [if_pos h_16, h_73, Bool.and_false]) | (unfold wayT; rw [if_neg h_16, h_73, Bool.and_false])
          · intro h_50
            refine jw_aload_n (pc := 53) dX1_areWays_53 rfl ?_
            refine jx_getRs (pc := 54) (jf_X1_109_0.r) rfl dX1_areWays_54 rfl (is_64 hS) (by decide) (hs.r) ?_
            refine jw_iload (pc := 57) dX1_areWays_57 rfl ?_
            refine jw_aload_n (pc := 59) dX1_areWays_59 rfl ?_
            refine jx_getRs (pc := 60) (jf_X1_46_0.r) rfl dX1_areWays_60 rfl (is_64 hS) (by decide) (sr_64_12 hS) ?_
            refine jw_bipush (pc := 63) dX1_areWays_63 bp_100 ?_
            refine jw_iload_n (pc := 65) dX1_areWays_65 rfl ?_
            first | refine jx_imul (pc := 66) dX1_areWays_66 ?_ | refine jw_imul (pc := 66) dX1_areWays_66 ?_
            refine jw_iload_n (pc := 67) dX1_areWays_67 rfl ?_
            first | refine jx_iadd (pc := 68) dX1_areWays_68 ?_ | refine jw_iadd (pc := 68) dX1_areWays_68 ?_
            refine jx_ialds (pc := 69) dX1_areWays_69 (ok_80 hS) (nn_80 hS) rfl (by omega) (hN.2.2.2.2.1 _ _ hkn ht) ?_
            refine jx_cVE (mi1 := mi_X6_areLinked) (pc := 70) rfl dX1_areWays_70 lk_X1_228 rfl fi_X6_areLinked rfl rfl rfl (by decide) (vis hv) (t_X6_areLinked hs.V hs.w (by first | exact hq1 | exact hq3 h_16) hq2) (by first | decide | omega) rfl rfl (by decide) ?_
            first | refine jx_ifb_eq (pc := 73) (tgt := 80) dX1_areWays_73 (by decide) ?_ ?_ | refine jx_if_eq (pc := 73) (tgt := 80) dX1_areWays_73 (by decide) (by omega) ?_ ?_ | refine jw_if_eq (pc := 73) (tgt := 80) dX1_areWays_73 (by decide) ?_ ?_
            · intro h_73
              refine jw_iconst (pc := 80) dX1_areWays_80 ic_0 ?_
              refine jw_ff ?_ (J81 _); rw [allB_s]; first | (rw [h_50]; rfl) | (unfold wayT; rw [if_pos h_16, h_73, Bool.and_false]) | (unfold wayT; rw [if_neg h_16, h_73, Bool.and_false])
            · intro h_73
              refine jw_iconst (pc := 76) dX1_areWays_76 ic_1 ?_
              refine jw_goto (pc := 77) (tgt := 81) dX1_areWays_77 (by decide) ?_
              refine jw_tt ?_ (J81 _); rw [allB_s, h_50]; unfold wayT; first | (rw [if_pos h_16, h_73]; rfl) | (rw [if_neg h_16, h_73]; rfl)
    · have hk' : k = V 0 1 := by omega
      subst hk'
      refine jw_iload_n (pc := 4) dX1_areWays_4 rfl ?_
      refine jw_aload_n (pc := 5) dX1_areWays_5 rfl ?_
      refine jx_getRs (pc := 6) (jf_X1_109_0.r) rfl dX1_areWays_6 rfl (is_64 hS) (by decide) (hs.r) ?_
      refine jx_getIs (pc := 9) (jf_X1_137_5.r) rfl dX1_areWays_9 rfl (vis hv) (by decide) (xi_nq hs.V) ?_
      first | refine jx_icmp_ge (pc := 12) (tgt := 88) dX1_areWays_12 (by decide) (by omega) (by omega) ?_ ?_ | refine jw_icmp_ge (pc := 12) (tgt := 88) dX1_areWays_12 (by decide) ?_ ?_
      · intro h_12
        refine jw_iload_n (pc := 88) dX1_areWays_88 rfl ?_
        refine jw_ireturn (pc := 89) dX1_areWays_89 rfl (by first | exact jnar_b _ | exact jnar_0 | exact jnar_1 | decide +kernel) ?_
        exact ⟨rfl, rfl⟩
      · intro h_12
        omega
  refine jw_iconst (pc := 0) dX1_areWays_0 ic_1 ?_
  refine jw_istore_n (pc := 1) dX1_areWays_1 (Nat.le_of_ble_eq_true rfl) rfl ?_
  try dsimp only [jput1, jput2, jkill, jclr, jis2_i, jis2_l, jis2_rs, jis2_rn, cond]
  refine jw_iconst (pc := 2) dX1_areWays_2 ic_0 ?_
  refine jw_istore_n (pc := 3) dX1_areWays_3 (Nat.le_of_ble_eq_true rfl) rfl ?_
  try dsimp only [jput1, jput2, jkill, jclr, jis2_i, jis2_l, jis2_rs, jis2_rn, cond]
  exact J 0 (Nat.zero_le _)
theorem t_X1_isDone {e v o : Nat} {V : Vt} (hs : jXs M v V) (hN : jXn M V σ) (ho : jSo σ) (hv9 : sv σ = some V) (he : e < V 0 2) (heo : jm_C M (v + 3) e = some o) : jE G mi_X1_isDone 2 [jr (some 64), jr (some o)] M (some (.int (jb (doneB V (sa σ 1) e)))) M := by
  have hS := hs.1
  have hv := hs.s
  have hn := wf_nq hs.w
  have hnp := wf_np hs.w
  obtain ⟨d1, d2, d3, d4, d5⟩ := wf_d hs.w
  obtain ⟨o', p, c1, c2, c3, c4, c5, c6, c7, c8, c9, c10⟩ := hs.V.2.2.2.2.2 e he
  have eo : o' = o := by rw [heo] at c1; cases c1; rfl
  subst eo
  obtain ⟨g1, g2, g3, g4, g5, g6, g7⟩ := wf_e hs.w he
  obtain ⟨o1, o2, o3, o4⟩ := ho.2 V hv9
  have hE : errN V e = min (V 19 e) (V 0 12) - V 18 e := rfl
  refine jE.of (by decide) rfl (Nat.le_of_ble_eq_true rfl) ?_
  have J : ∀ n : Nat, n ≤ errN V e → jW G mi_X1_isDone 2 M 10 [some (jr (some 64)), some (jr (some o')), some (.int (nI (rowR (sa σ 1) (100 * V 16 e + V 18 e) (V 17 e) n))), some (.int (nI (bestR (sa σ 1) (100 * V 16 e + V 18 e) (V 17 e) n))), some (.int (nI (V 18 e + n)))] [] M (fun r M' => r = .inl (some (.int (jb (doneB V (sa σ 1) e)))) ∧ M' = M) := by
    refine jW.loop _ (fun n => errN V e - n) _ (fun _ => []) (fun _ => M) (fun n hn9 ih => ?_)
    have r1 := row_le (sa σ 1) (100 * V 16 e + V 18 e) (V 17 e) n
    have r2 := best_le (sa σ 1) (100 * V 16 e + V 18 e) (V 17 e) n
    have r3 := row_le (sa σ 1) (100 * V 16 e + V 18 e) (V 17 e) (n + 1)
    by_cases hkn : n < errN V e
    · have ht1 : V 18 e + n < V 19 e := by omega
      have ht2 : V 18 e + n < V 0 12 := by omega
      have hb : sa σ 1 (100 * V 16 e + V 18 e + n) < V 0 0 := by rw [Nat.add_assoc]; exact o3 _ _ g1 (by omega)
      have he9 : jm_A M 80 (100 * V 16 e + (V 18 e + n)) = nI (sa σ 1 (100 * V 16 e + V 18 e + n)) := by rw [Nat.add_assoc]; exact hN.2.2.2.2.1 (V 16 e) (V 18 e + n) g1 (by omega)
      have J63 : jW G mi_X1_isDone 2 M 63 [some (jr (some 64)), some (jr (some o')), some (.int (nI (rowR (sa σ 1) (100 * V 16 e + V 18 e) (V 17 e) n))), some (.int (nI (bestR (sa σ 1) (100 * V 16 e + V 18 e) (V 17 e) n))), some (.int (nI (V 18 e + n)))] [.int (nI (rowR (sa σ 1) (100 * V 16 e + V 18 e) (V 17 e) (n + 1)))] M (fun r M' => r = .inl (some (.int (jb (doneB V (sa σ 1) e)))) ∧ M' = M) := by
        refine jw_istore_n (pc := 63) dX1_isDone_63 (Nat.le_of_ble_eq_true rfl) rfl ?_
        try dsimp only [jput1, jput2, jkill, jclr, jis2_i, jis2_l, jis2_rs, jis2_rn, cond]
        refine jw_iload_n (pc := 64) dX1_isDone_64 rfl ?_
        refine jw_iload_n (pc := 65) dX1_isDone_65 rfl ?_
        refine jx_cSE (mi1 := mi_J8_max) (pc := 66) rfl dX1_isDone_66 lk_X1_245 rfl fi_J8_max (t_J8_max (by omega) (by omega)) (by first | decide | omega) rfl rfl (by decide) ?_
        refine jw_istore_n (pc := 69) dX1_isDone_69 (Nat.le_of_ble_eq_true rfl) rfl ?_
        try dsimp only [jput1, jput2, jkill, jclr, jis2_i, jis2_l, jis2_rs, jis2_rn, cond]
        first | refine jx_iinc (pc := 70) dX1_isDone_70 rfl rfl ?_ | refine jw_iinc (pc := 70) dX1_isDone_70 rfl rfl rfl ?_
        try dsimp only [jput1, jkill, jclr, jis2_i, jis2_l, jis2_rs, jis2_rn, cond]
        refine jw_goto (pc := 73) (tgt := 10) dX1_isDone_73 (by decide) ?_
        exact ih (n + 1) hkn (by omega)
      refine jw_iload (pc := 10) dX1_isDone_10 rfl ?_
      refine jw_aload_n (pc := 12) dX1_isDone_12 rfl ?_
      refine jx_getIs (pc := 13) (jf_X1_235_11.r) rfl dX1_isDone_13 rfl (c2) (by decide) (c9) ?_
      first | refine jx_icmp_ge (pc := 16) (tgt := 76) dX1_isDone_16 (by decide) (by omega) (by omega) ?_ ?_ | refine jw_icmp_ge (pc := 16) (tgt := 76) dX1_isDone_16 (by decide) ?_ ?_
      · intro h_16
        omega
      · intro h_16
        refine jw_iload (pc := 19) dX1_isDone_19 rfl ?_
        refine jw_aload_n (pc := 21) dX1_isDone_21 rfl ?_
        refine jx_getRs (pc := 22) (jf_X1_109_0.r) rfl dX1_isDone_22 rfl (is_64 hS) (by decide) (hs.r) ?_
        refine jx_getIs (pc := 25) (jf_X1_225_5.r) rfl dX1_isDone_25 rfl (vis hv) (by decide) (xi_steps hs.V) ?_
        first | refine jx_icmp_ge (pc := 28) (tgt := 76) dX1_isDone_28 (by decide) (by omega) (by omega) ?_ ?_ | refine jw_icmp_ge (pc := 28) (tgt := 76) dX1_isDone_28 (by decide) ?_ ?_
        · intro h_28
          omega
        · intro h_28
          refine jw_aload_n (pc := 31) dX1_isDone_31 rfl ?_
          refine jx_getRs (pc := 32) (jf_X1_46_0.r) rfl dX1_isDone_32 rfl (is_64 hS) (by decide) (sr_64_12 hS) ?_
          refine jw_bipush (pc := 35) dX1_isDone_35 bp_100 ?_
          refine jw_aload_n (pc := 37) dX1_isDone_37 rfl ?_
          refine jx_getRs (pc := 38) (jf_X1_237_11.r) rfl dX1_isDone_38 rfl (c2) (by decide) (c4) ?_
          refine jx_getIs (pc := 41) jg_X1_241_7 rfl dX1_isDone_41 rfl (c5.1) (by decide) (c6) ?_
          first | refine jx_imul (pc := 44) dX1_isDone_44 ?_ | refine jw_imul (pc := 44) dX1_isDone_44 ?_
          refine jw_iload (pc := 45) dX1_isDone_45 rfl ?_
          first | refine jx_iadd (pc := 47) dX1_isDone_47 ?_ | refine jw_iadd (pc := 47) dX1_isDone_47 ?_
          refine jx_ialds (pc := 48) dX1_isDone_48 (ok_80 hS) (nn_80 hS) rfl (by omega) (he9) ?_
          refine jw_aload_n (pc := 49) dX1_isDone_49 rfl ?_
          refine jx_getIs (pc := 50) (jf_X1_244_11.r) rfl dX1_isDone_50 rfl (c2) (by decide) (c7) ?_
          first | refine jx_icmp_ne (pc := 53) (tgt := 62) dX1_isDone_53 (by decide) (by omega) (by omega) ?_ ?_ | refine jw_icmp_ne (pc := 53) (tgt := 62) dX1_isDone_53 (by decide) ?_ ?_
          · intro h_53
            refine jw_iconst (pc := 62) dX1_isDone_62 ic_0 ?_
            refine jW.eq rfl ?_ rfl J63
            first | rw [rowR_s, if_pos h_53] | rw [rowR_s, if_neg h_53]
          · intro h_53
            refine jw_iload_n (pc := 56) dX1_isDone_56 rfl ?_
            refine jw_iconst (pc := 57) dX1_isDone_57 ic_1 ?_
            first | refine jx_iadd (pc := 58) dX1_isDone_58 ?_ | refine jw_iadd (pc := 58) dX1_isDone_58 ?_
            refine jw_goto (pc := 59) (tgt := 63) dX1_isDone_59 (by decide) ?_
            refine jW.eq rfl ?_ rfl J63
            first | rw [rowR_s, if_pos h_53] | rw [rowR_s, if_neg h_53]
    · have hk' : n = errN V e := by omega
      subst hk'
      refine jw_iload (pc := 10) dX1_isDone_10 rfl ?_
      refine jw_aload_n (pc := 12) dX1_isDone_12 rfl ?_
      refine jx_getIs (pc := 13) (jf_X1_235_11.r) rfl dX1_isDone_13 rfl (c2) (by decide) (c9) ?_
      first | refine jx_icmp_ge (pc := 16) (tgt := 76) dX1_isDone_16 (by decide) (by omega) (by omega) ?_ ?_ | refine jw_icmp_ge (pc := 16) (tgt := 76) dX1_isDone_16 (by decide) ?_ ?_
      · intro h_16
        refine jw_iload_n (pc := 76) dX1_isDone_76 rfl ?_
        refine jw_aload_n (pc := 77) dX1_isDone_77 rfl ?_
        refine jx_getIs (pc := 78) (jf_X1_250_11.r) rfl dX1_isDone_78 rfl (c2) (by decide) (c10) ?_
        first | refine jx_icmp_lt (pc := 81) (tgt := 88) dX1_isDone_81 (by decide) (by omega) (by omega) ?_ ?_ | refine jw_icmp_lt (pc := 81) (tgt := 88) dX1_isDone_81 (by decide) ?_ ?_
        · intro h_81
          refine jw_iconst (pc := 88) dX1_isDone_88 ic_0 ?_
          refine jw_ireturn (pc := 89) dX1_isDone_89 rfl (by first | exact jnar_b _ | exact jnar_0 | exact jnar_1 | decide +kernel) ?_
          refine ⟨jret_f ?_, rfl⟩
          unfold doneB; exact decide_eq_false (by omega)
        · intro h_81
          refine jw_iconst (pc := 84) dX1_isDone_84 ic_1 ?_
          refine jw_goto (pc := 85) (tgt := 89) dX1_isDone_85 (by decide) ?_
          refine jw_ireturn (pc := 89) dX1_isDone_89 rfl (by first | exact jnar_b _ | exact jnar_0 | exact jnar_1 | decide +kernel) ?_
          refine ⟨jret_t ?_, rfl⟩
          unfold doneB; exact decide_eq_true (by omega)
      · intro h_16
        refine jw_iload (pc := 19) dX1_isDone_19 rfl ?_
        refine jw_aload_n (pc := 21) dX1_isDone_21 rfl ?_
        refine jx_getRs (pc := 22) (jf_X1_109_0.r) rfl dX1_isDone_22 rfl (is_64 hS) (by decide) (hs.r) ?_
        refine jx_getIs (pc := 25) (jf_X1_225_5.r) rfl dX1_isDone_25 rfl (vis hv) (by decide) (xi_steps hs.V) ?_
        first | refine jx_icmp_ge (pc := 28) (tgt := 76) dX1_isDone_28 (by decide) (by omega) (by omega) ?_ ?_ | refine jw_icmp_ge (pc := 28) (tgt := 76) dX1_isDone_28 (by decide) ?_ ?_
        · intro h_28
          refine jw_iload_n (pc := 76) dX1_isDone_76 rfl ?_
          refine jw_aload_n (pc := 77) dX1_isDone_77 rfl ?_
          refine jx_getIs (pc := 78) (jf_X1_250_11.r) rfl dX1_isDone_78 rfl (c2) (by decide) (c10) ?_
          first | refine jx_icmp_lt (pc := 81) (tgt := 88) dX1_isDone_81 (by decide) (by omega) (by omega) ?_ ?_ | refine jw_icmp_lt (pc := 81) (tgt := 88) dX1_isDone_81 (by decide) ?_ ?_
          · intro h_81
            refine jw_iconst (pc := 88) dX1_isDone_88 ic_0 ?_
            refine jw_ireturn (pc := 89) dX1_isDone_89 rfl (by first | exact jnar_b _ | exact jnar_0 | exact jnar_1 | decide +kernel) ?_
            refine ⟨jret_f ?_, rfl⟩
            unfold doneB; exact decide_eq_false (by omega)
          · intro h_81
            refine jw_iconst (pc := 84) dX1_isDone_84 ic_1 ?_
            refine jw_goto (pc := 85) (tgt := 89) dX1_isDone_85 (by decide) ?_
            refine jw_ireturn (pc := 89) dX1_isDone_89 rfl (by first | exact jnar_b _ | exact jnar_0 | exact jnar_1 | decide +kernel) ?_
            refine ⟨jret_t ?_, rfl⟩
            unfold doneB; exact decide_eq_true (by omega)
        · intro h_28
          omega
  refine jw_iconst (pc := 0) dX1_isDone_0 ic_0 ?_
  refine jw_istore_n (pc := 1) dX1_isDone_1 (Nat.le_of_ble_eq_true rfl) rfl ?_
  try dsimp only [jput1, jput2, jkill, jclr, jis2_i, jis2_l, jis2_rs, jis2_rn, cond]
  refine jw_iconst (pc := 2) dX1_isDone_2 ic_0 ?_
  refine jw_istore_n (pc := 3) dX1_isDone_3 (Nat.le_of_ble_eq_true rfl) rfl ?_
  try dsimp only [jput1, jput2, jkill, jclr, jis2_i, jis2_l, jis2_rs, jis2_rn, cond]
  refine jw_aload_n (pc := 4) dX1_isDone_4 rfl ?_
  refine jx_getIs (pc := 5) (jf_X1_231_11.r) rfl dX1_isDone_5 rfl (c2) (by decide) (c8) ?_
  refine jw_istore (pc := 8) dX1_isDone_8 (Nat.le_of_ble_eq_true rfl) rfl ?_
  try dsimp only [jput1, jput2, jkill, jclr, jis2_i, jis2_l, jis2_rs, jis2_rn, cond]
  exact J 0 (Nat.zero_le _)
theorem t_X1_done {e : Int32} (h : jXx M σ) : jT G mi_X1_done 9 [jr (some 64), .int e] M (jQx M σ (q_done σ e)) := by
  have hS := h.1
  refine jT.of (by decide) rfl (Nat.le_of_ble_eq_true rfl) ?_
  refine jw_aload_n (pc := 0) dX1_done_0 rfl ?_
  refine jx_cVv (mi1 := mi_X1_anew) (pc := 1) rfl dX1_done_1 lk_X1_84 rfl fi_X1_anew rfl rfl rfl (by decide) (is_64 hS) (t_X1_anew h) (by first | decide | omega) rfl rfl (by decide) ?_
  intro M_1 q_1
  obtain ⟨hX, hf⟩ := q_1
  have hS := hX.1
  refine jw_aload_n (pc := 4) dX1_done_4 rfl ?_
  refine jw_iload_n (pc := 5) dX1_done_5 rfl ?_
  refine jx_cVE (mi1 := mi_X1_isErrand) (pc := 6) rfl dX1_done_6 lk_X1_270 rfl fi_X1_isErrand rfl rfl rfl (by decide) (is_64 hS) (t_X1_isErrand (o := sv σ) hX rfl) (by first | decide | omega) rfl rfl (by decide) ?_
  first | refine jx_ifb_eq (pc := 9) (tgt := 36) dX1_done_9 (by decide) ?_ ?_ | refine jx_if_eq (pc := 9) (tgt := 36) dX1_done_9 (by decide) (by omega) ?_ ?_ | refine jw_if_eq (pc := 9) (tgt := 36) dX1_done_9 (by decide) ?_ ?_
  · intro h_9
    refine jw_aload_n (pc := 36) dX1_done_36 rfl ?_
    refine jw_iconst (pc := 37) dX1_done_37 ic_1 ?_
    refine jx_cVi (mi1 := mi_X1_no) (pc := 38) rfl dX1_done_38 lk_X1_98 rfl fi_X1_no rfl rfl rfl (by decide) (is_64 hS) (t_X1_no hX (by decide)) (by first | decide | omega) rfl rfl (by decide) ?_
    intro x_38 M_38 q_38
    refine jw_ireturn (pc := 41) dX1_done_41 rfl (rfl) ?_
    first
      | (refine qx_no ?_ hf q_38; unfold q_done; rw [h_9]; rfl)
      | (refine qx_ok ?_ hf hX; unfold q_done; rw [if_pos h_9, vv_s hv9, iN_n (by omega), h_25]; rfl)
  · intro h_9
    obtain ⟨V, ke, hv9, hke, rfl⟩ := ixV_t h_9
    obtain ⟨v, hs, hN⟩ := hX.so hv9
    have hn := wf_ne hs.w
    have hv := hs.s
    obtain ⟨o, p, c1, c2⟩ := hs.V.2.2.2.2.2 ke hke
    refine jw_aload_n (pc := 12) dX1_done_12 rfl ?_
    refine jw_aload_n (pc := 13) dX1_done_13 rfl ?_
    refine jx_getRs (pc := 14) (jf_X1_109_0.r) rfl dX1_done_14 rfl (is_64 hS) (by decide) (hs.r) ?_
    refine jx_getRs (pc := 17) jg_X1_259_5 rfl dX1_done_17 rfl (vis hv) (by decide) (vr_3 hv) ?_
    refine jw_iload_n (pc := 20) dX1_done_20 rfl ?_
    refine jx_aalds (pc := 21) (by decide) (by decide) dX1_done_21 (vok_3 hv) (vnn_3 hv) rfl (by omega) (c1) ?_
    refine jx_cVE (mi1 := mi_X1_isDone) (pc := 22) rfl dX1_done_22 lk_X1_263 rfl fi_X1_isDone rfl rfl rfl (by decide) (is_64 hS) (t_X1_isDone (σ := σ) hs hN h.2.1 hv9 hke c1) (by first | decide | omega) rfl rfl (by decide) ?_
    first | refine jx_ifb_eq (pc := 25) (tgt := 32) dX1_done_25 (by decide) ?_ ?_ | refine jx_if_eq (pc := 25) (tgt := 32) dX1_done_25 (by decide) (by omega) ?_ ?_ | refine jw_if_eq (pc := 25) (tgt := 32) dX1_done_25 (by decide) ?_ ?_
    · intro h_25
      refine jw_iconst (pc := 32) dX1_done_32 ic_0 ?_
      refine jw_goto (pc := 33) (tgt := 41) dX1_done_33 (by decide) ?_
      refine jw_ireturn (pc := 41) dX1_done_41 rfl (rfl) ?_
      first
        | (refine qx_no ?_ hf q_38; unfold q_done; rw [h_9]; rfl)
        | (refine qx_ok ?_ hf hX; unfold q_done; rw [if_pos h_9, vv_s hv9, iN_n (by omega), h_25]; rfl)
    · intro h_25
      refine jw_iconst (pc := 28) dX1_done_28 ic_1 ?_
      refine jw_goto (pc := 29) (tgt := 41) dX1_done_29 (by decide) ?_
      refine jw_ireturn (pc := 41) dX1_done_41 rfl (rfl) ?_
      first
        | (refine qx_no ?_ hf q_38; unfold q_done; rw [h_9]; rfl)
        | (refine qx_ok ?_ hf hX; unfold q_done; rw [if_pos h_9, vv_s hv9, iN_n (by omega), h_25]; rfl)
theorem xway_m {V : Vt} {pl : Nat → Nat} {t : Nat} (h : waysB V pl t = false) : whyAt V pl t = 1 := by unfold whyAt; rw [h]; rfl
theorem why_2 {V : Vt} {pl : Nat → Nat} {t : Nat} (h : waysB V pl t = true) (h2 : lawfulV V (fun p => pl (100 * p + t)) t = false) : whyAt V pl t = 2 := by unfold whyAt; rw [h, h2]; rfl
theorem why_0 {V : Vt} {pl : Nat → Nat} {t : Nat} (h : waysB V pl t = true) (h2 : lawfulV V (fun p => pl (100 * p + t)) t = true) : whyAt V pl t = 0 := by unfold whyAt; rw [h, h2]; rfl
def jJx (M : Mm) (σ : Sg) (V : Vt) : Rs → Mm → Prop := jPi (fun r M' => r = (judN V (sa σ 1)).1 ∧ jXx M' σ ∧ jfx M M' ∧ jm_I M' 64 15 = nI (judN V (sa σ 1)).2)
theorem lp_jt {M0 : Mm} {t : Nat} {V : Vt} {P : Rs → Mm → Prop} (hv9 : sv σ = some V) (ht : t < 100) (M9 : Mm) (hfin : ∀ M', jXx M' σ → jfx M9 M' → jm_I M' 64 15 = nI 2 → (∀ q, q < V 0 1 → jm_A M' 79 q = nI (sa σ 1 (100 * q + t))) → jW G mi_X1_judged 8 M0 69 [some (jr (some 64)), some (.int (nI t)), some (.int (nI (V 0 1)))] [] M' P) :
    ∀ x : Nat × Mm, (x.1 ≤ V 0 1 ∧ jXx x.2 σ ∧ jfx M9 x.2 ∧ jm_I x.2 64 15 = nI 2 ∧ ∀ q, q < x.1 → jm_A x.2 79 q = nI (sa σ 1 (100 * q + t))) → jW G mi_X1_judged 8 M0 35 [some (jr (some 64)), some (.int (nI t)), some (.int (nI x.1))] [] x.2 P := by
  refine jW.loop (σ := Nat × Mm) _ (fun x => V 0 1 - x.1) _ (fun _ => []) (fun x => x.2) (fun x hI ih => ?_)
  obtain ⟨k, M1⟩ := x
  obtain ⟨hk, hX, hf, hj, ha⟩ := hI
  dsimp only at hk hX hf hj ha ih ⊢
  have hS := hX.1
  obtain ⟨v, hs, hN⟩ := hX.so hv9
  have hv := hs.s
  have hn := wf_nq hs.w
  by_cases hkn : k < V 0 1
  ·
    refine jw_iload_n (pc := 35) dX1_judged_35 rfl ?_
    refine jw_aload_n (pc := 36) dX1_judged_36 rfl ?_
    refine jx_getRs (pc := 37) (jf_X1_109_0.r) rfl dX1_judged_37 rfl (is_64 hS) (by decide) (hs.r) ?_
    refine jx_getIs (pc := 40) (jf_X1_137_5.r) rfl dX1_judged_40 rfl (vis hv) (by decide) (xi_nq hs.V) ?_
    first | refine jx_icmp_ge (pc := 43) (tgt := 69) dX1_judged_43 (by decide) (by omega) (by omega) ?_ ?_ | refine jw_icmp_ge (pc := 43) (tgt := 69) dX1_judged_43 (by decide) ?_ ?_
    · intro h_43
      omega
    · intro h_43
      refine jw_aload_n (pc := 46) dX1_judged_46 rfl ?_
      refine jx_getRs (pc := 47) (jf_X1_43_0.r) rfl dX1_judged_47 rfl (is_64 hS) (by decide) (sr_64_11 hS) ?_
      refine jw_iload_n (pc := 50) dX1_judged_50 rfl ?_
      refine jw_aload_n (pc := 51) dX1_judged_51 rfl ?_
      refine jx_getRs (pc := 52) (jf_X1_46_0.r) rfl dX1_judged_52 rfl (is_64 hS) (by decide) (sr_64_12 hS) ?_
      refine jw_bipush (pc := 55) dX1_judged_55 bp_100 ?_
      refine jw_iload_n (pc := 57) dX1_judged_57 rfl ?_
      first | refine jx_imul (pc := 58) dX1_judged_58 ?_ | refine jw_imul (pc := 58) dX1_judged_58 ?_
      refine jw_iload_n (pc := 59) dX1_judged_59 rfl ?_
      first | refine jx_iadd (pc := 60) dX1_judged_60 ?_ | refine jw_iadd (pc := 60) dX1_judged_60 ?_
      refine jx_ialds (pc := 61) dX1_judged_61 (ok_80 hS) (nn_80 hS) rfl (by omega) (hN.2.2.2.2.1 _ _ hkn ht) ?_
      refine jx_iast (pc := 62) dX1_judged_62 (by decide) (ok_79 hS) (nn_79 hS) rfl (by omega) ?_
      first | refine jx_iinc (pc := 63) dX1_judged_63 rfl rfl ?_ | refine jw_iinc (pc := 63) dX1_judged_63 rfl rfl rfl ?_
      try dsimp only [jput1, jkill, jclr, jis2_i, jis2_l, jis2_rs, jis2_rn, cond]
      refine jw_goto (pc := 66) (tgt := 35) dX1_judged_66 (by decide) ?_
      refine ih (k + 1, js_A M1 79 k (nI (sa σ 1 (100 * k + t)))) ⟨hkn, xA hX (by unfold xsa; omega), hf.tr (jsm.A (by decide)), hj, fun q hq => ?_⟩ (by dsimp only; omega)
      by_cases e : q = k
      · subst e; exact jA_same
      · exact (jA_oth e).trans (ha q (by dsimp only at hq; omega))
  · have hk' : k = V 0 1 := by omega
    subst hk'
    refine jw_iload_n (pc := 35) dX1_judged_35 rfl ?_
    refine jw_aload_n (pc := 36) dX1_judged_36 rfl ?_
    refine jx_getRs (pc := 37) (jf_X1_109_0.r) rfl dX1_judged_37 rfl (is_64 hS) (by decide) (hs.r) ?_
    refine jx_getIs (pc := 40) (jf_X1_137_5.r) rfl dX1_judged_40 rfl (vis hv) (by decide) (xi_nq hs.V) ?_
    first | refine jx_icmp_ge (pc := 43) (tgt := 69) dX1_judged_43 (by decide) (by omega) (by omega) ?_ ?_ | refine jw_icmp_ge (pc := 43) (tgt := 69) dX1_judged_43 (by decide) ?_ ?_
    · intro h_43
      exact hfin M1 hX hf hj ha
    · intro h_43
      omega
theorem lp_je {M0 : Mm} {V : Vt} (hv9 : sv σ = some V) (h0 : ∀ j, j < V 0 12 → whyAt V (sa σ 1) j = 0) {M1 : Mm} (hX : jXx M1 σ) (hf : jfx M0 M1) (hj : jm_I M1 64 15 = nI 3) :
    ∀ k : Nat, (k ≤ V 0 2 ∧ allB k (doneB V (sa σ 1)) = true) → jW G mi_X1_judged 8 M0 96 [some (jr (some 64)), some (.int (nI k)), none] [] M1 (jJx M0 σ V) := by
  have hS := hX.1
  obtain ⟨v, hs, hN⟩ := hX.so hv9
  have hv := hs.s
  have hn := wf_ne hs.w
  refine jW.loop _ (fun k => V 0 2 - k) _ (fun _ => []) (fun _ => M1) (fun k hI ih => ?_)
  obtain ⟨hk, hall⟩ := hI
  by_cases hkn : k < V 0 2
  · obtain ⟨o, p, c1, c2⟩ := hs.V.2.2.2.2.2 k hkn
    refine jw_iload_n (pc := 96) dX1_judged_96 rfl ?_
    refine jw_aload_n (pc := 97) dX1_judged_97 rfl ?_
    refine jx_getRs (pc := 98) (jf_X1_109_0.r) rfl dX1_judged_98 rfl (is_64 hS) (by decide) (hs.r) ?_
    refine jx_getIs (pc := 101) (jf_X1_153_5.r) rfl dX1_judged_101 rfl (vis hv) (by decide) (xi_ne hs.V) ?_
    first | refine jx_icmp_ge (pc := 104) (tgt := 137) dX1_judged_104 (by decide) (by omega) (by omega) ?_ ?_ | refine jw_icmp_ge (pc := 104) (tgt := 137) dX1_judged_104 (by decide) ?_ ?_
    · intro h_104
      omega
    · intro h_104
      refine jw_aload_n (pc := 107) dX1_judged_107 rfl ?_
      refine jw_aload_n (pc := 108) dX1_judged_108 rfl ?_
      refine jx_getRs (pc := 109) (jf_X1_109_0.r) rfl dX1_judged_109 rfl (is_64 hS) (by decide) (hs.r) ?_
      refine jx_getRs (pc := 112) jg_X1_259_5 rfl dX1_judged_112 rfl (vis hv) (by decide) (vr_3 hv) ?_
      refine jw_iload_n (pc := 115) dX1_judged_115 rfl ?_
      refine jx_aalds (pc := 116) (by decide) (by decide) dX1_judged_116 (vok_3 hv) (vnn_3 hv) rfl (by omega) (c1) ?_
      refine jx_cVE (mi1 := mi_X1_isDone) (pc := 117) rfl dX1_judged_117 lk_X1_263 rfl fi_X1_isDone rfl rfl rfl (by decide) (is_64 hS) (t_X1_isDone (σ := σ) hs hN hX.2.1 hv9 hkn c1) (by first | decide | omega) rfl rfl (by decide) ?_
      first | refine jx_ifb_ne (pc := 120) (tgt := 131) dX1_judged_120 (by decide) ?_ ?_ | refine jx_if_ne (pc := 120) (tgt := 131) dX1_judged_120 (by decide) (by omega) ?_ ?_ | refine jw_if_ne (pc := 120) (tgt := 131) dX1_judged_120 (by decide) ?_ ?_
      · intro h_120
        first | refine jx_iinc (pc := 131) dX1_judged_131 rfl rfl ?_ | refine jw_iinc (pc := 131) dX1_judged_131 rfl rfl rfl ?_
        try dsimp only [jput1, jkill, jclr, jis2_i, jis2_l, jis2_rs, jis2_rn, cond]
        refine jw_goto (pc := 134) (tgt := 96) dX1_judged_134 (by decide) ?_
        exact ih (k + 1) ⟨hkn, by rw [allB_s, hall, h_120]; rfl⟩ (by omega)
      · intro h_120
        refine jw_aload_n (pc := 123) dX1_judged_123 rfl ?_
        refine jx_getRs (pc := 124) (jf_X1_109_0.r) rfl dX1_judged_124 rfl (is_64 hS) (by decide) (hs.r) ?_
        refine jx_getIs (pc := 127) (jf_X1_225_5.r) rfl dX1_judged_127 rfl (vis hv) (by decide) (xi_steps hs.V) ?_
        refine jw_ireturn (pc := 130) dX1_judged_130 rfl (rfl) ?_
        refine ⟨_, rfl, ?_, hX, hf, ?_⟩
        · rw [jud_2 h0, allB_f hkn (by rw [allB_s, h_120, Bool.and_false])]; rfl
        · rw [jud_2 h0, allB_f hkn (by rw [allB_s, h_120, Bool.and_false])]; exact hj
  · have hk' : k = V 0 2 := by omega
    subst hk'
    refine jw_iload_n (pc := 96) dX1_judged_96 rfl ?_
    refine jw_aload_n (pc := 97) dX1_judged_97 rfl ?_
    refine jx_getRs (pc := 98) (jf_X1_109_0.r) rfl dX1_judged_98 rfl (is_64 hS) (by decide) (hs.r) ?_
    refine jx_getIs (pc := 101) (jf_X1_153_5.r) rfl dX1_judged_101 rfl (vis hv) (by decide) (xi_ne hs.V) ?_
    first | refine jx_icmp_ge (pc := 104) (tgt := 137) dX1_judged_104 (by decide) (by omega) (by omega) ?_ ?_ | refine jw_icmp_ge (pc := 104) (tgt := 137) dX1_judged_104 (by decide) ?_ ?_
    · intro h_104
      refine jw_aload_n (pc := 137) dX1_judged_137 rfl ?_
      refine jw_iconst (pc := 138) dX1_judged_138 ic_0 ?_
      refine jx_putI (pc := 139) jf_X1_253_0 rfl dX1_judged_139 rfl rfl (is_64 hS) (by decide) ?_
      refine jw_bipush (pc := 142) dX1_judged_142 bp_m2 ?_
      refine jw_ireturn (pc := 144) dX1_judged_144 rfl (rfl) ?_
      refine ⟨_, rfl, ?_, xI hX (by decide), hf.tr (jsm.I (by decide)), ?_⟩
      · rw [jud_2 h0, hall]; rfl
      · rw [jud_2 h0, hall]; exact jI_same
    · intro h_104
      omega
theorem t_X1_judged {V : Vt} (h : jXx M σ) (hv9 : sv σ = some V) : jT G mi_X1_judged 8 [jr (some 64)] M (jJx M σ V) := by
  have hS := h.1
  refine jT.of (by decide) rfl (Nat.le_of_ble_eq_true rfl) ?_
  obtain ⟨o1, o2, o3, o4⟩ := h.2.1.2 V hv9
  have J : ∀ x : Nat × Mm, (x.1 ≤ V 0 12 ∧ (∀ j, j < x.1 → whyAt V (sa σ 1) j = 0) ∧ jXx x.2 σ ∧ jfx M x.2) → jW G mi_X1_judged 8 M 2 [some (jr (some 64)), some (.int (nI x.1)), none] [] x.2 (jJx M σ V) := by
    refine jW.loop (σ := Nat × Mm) _ (fun x => V 0 12 - x.1) _ (fun _ => []) (fun x => x.2) (fun x hI ih => ?_)
    obtain ⟨k, M1⟩ := x
    obtain ⟨hk, h0, hX, hf⟩ := hI
    dsimp only at hk h0 hX hf ih ⊢
    have hS := hX.1
    obtain ⟨v, hs, hN⟩ := hX.so hv9
    have hv := hs.s
    obtain ⟨d1, d2, d3, d4, d5⟩ := wf_d hs.w
    by_cases hkn : k < V 0 12
    · have L69 : waysB V (sa σ 1) k = true → ∀ M', jXx M' σ → jfx M M' → jm_I M' 64 15 = nI 2 → (∀ q, q < V 0 1 → jm_A M' 79 q = nI (sa σ 1 (100 * q + k))) → jW G mi_X1_judged 8 M 69 [some (jr (some 64)), some (.int (nI k)), some (.int (nI (V 0 1)))] [] M' (jJx M σ V) := by
        intro hwy M' hX2 hf2 hj2 ha2
        have hS := hX2.1
        obtain ⟨v, hs, hN⟩ := hX2.so hv9
        refine jw_aload_n (pc := 69) dX1_judged_69 rfl ?_
        refine jw_aload_n (pc := 70) dX1_judged_70 rfl ?_
        refine jx_getRs (pc := 71) (jf_X1_43_0.r) rfl dX1_judged_71 rfl (is_64 hS) (by decide) (sr_64_11 hS) ?_
        refine jw_iload_n (pc := 74) dX1_judged_74 rfl ?_
        refine jx_cVE (mi1 := mi_X1_isLawfulAt) (pc := 75) rfl dX1_judged_75 lk_X1_221 rfl fi_X1_isLawfulAt rfl rfl rfl (by decide) (is_64 hS) (t_X1_isLawfulAt (pl := fun q => sa σ 1 (100 * q + k)) hs ⟨ok_79 hS, nn_79 hS, fun q hq => ⟨ha2 q hq, o3 q k hq (by omega)⟩⟩ (by omega)) (by first | decide | omega) rfl rfl (by decide) ?_
        first | refine jx_ifb_ne (pc := 78) (tgt := 83) dX1_judged_78 (by decide) ?_ ?_ | refine jx_if_ne (pc := 78) (tgt := 83) dX1_judged_78 (by decide) (by omega) ?_ ?_ | refine jw_if_ne (pc := 78) (tgt := 83) dX1_judged_78 (by decide) ?_ ?_
        · intro h_78
          first | refine jx_iinc (pc := 83) dX1_judged_83 rfl rfl ?_ | refine jw_iinc (pc := 83) dX1_judged_83 rfl rfl rfl ?_
          try dsimp only [jput1, jkill, jclr, jis2_i, jis2_l, jis2_rs, jis2_rn, cond]
          refine jw_goto (pc := 86) (tgt := 2) dX1_judged_86 (by decide) ?_
          refine jW.sub ?_ (ih (k + 1, M') ⟨hkn, fun j hj => ?_, hX2, hf2⟩ (by dsimp only; omega))
          · exact ⟨rfl, rfl, trivial⟩
          · by_cases e : j = k
            · subst e; exact why_0 hwy h_78
            · exact h0 j (by dsimp only at hj; omega)
        · intro h_78
          refine jw_iload_n (pc := 81) dX1_judged_81 rfl ?_
          refine jw_ireturn (pc := 82) dX1_judged_82 rfl (rfl) ?_
          refine ⟨_, rfl, ?_, hX2, hf2, ?_⟩
          · rw [jud_1 hkn h0 (by rw [why_2 hwy h_78]; decide)]
          · rw [jud_1 hkn h0 (by rw [why_2 hwy h_78]; decide), why_2 hwy h_78]; exact hj2
      refine jw_iload_n (pc := 2) dX1_judged_2 rfl ?_
      refine jw_aload_n (pc := 3) dX1_judged_3 rfl ?_
      refine jx_getRs (pc := 4) (jf_X1_109_0.r) rfl dX1_judged_4 rfl (is_64 hS) (by decide) (hs.r) ?_
      refine jx_getIs (pc := 7) (jf_X1_225_5.r) rfl dX1_judged_7 rfl (vis hv) (by decide) (xi_steps hs.V) ?_
      first | refine jx_icmp_ge (pc := 10) (tgt := 89) dX1_judged_10 (by decide) (by omega) (by omega) ?_ ?_ | refine jw_icmp_ge (pc := 10) (tgt := 89) dX1_judged_10 (by decide) ?_ ?_
      · intro h_10
        omega
      · intro h_10
        refine jw_aload_n (pc := 13) dX1_judged_13 rfl ?_
        refine jw_iconst (pc := 14) dX1_judged_14 ic_1 ?_
        refine jx_putI (pc := 15) jf_X1_253_0 rfl dX1_judged_15 rfl rfl (is_64 hS) (by decide) ?_
        have hX2 := xI (k := 15) (v := nI 1) hX (by decide)
        have hj2 : jm_I (js_I M1 64 15 (nI 1)) 64 15 = nI 1 := jI_same
        have hf2 : jfx M (js_I M1 64 15 (nI 1)) := hf.tr (jsm.I (by decide))
        generalize js_I M1 64 15 (nI 1) = M2 at hX2 hj2 hf2 ⊢
        have hS := hX2.1
        obtain ⟨v2, hs2, hN2⟩ := hX2.so hv9
        refine jw_aload_n (pc := 18) dX1_judged_18 rfl ?_
        refine jw_iload_n (pc := 19) dX1_judged_19 rfl ?_
        refine jx_cVE (mi1 := mi_X1_areWays) (pc := 20) rfl dX1_judged_20 lk_X1_256 rfl fi_X1_areWays rfl rfl rfl (by decide) (is_64 hS) (t_X1_areWays hs2 hN2 h.2.1 hv9 (by omega)) (by first | decide | omega) rfl rfl (by decide) ?_
        first | refine jx_ifb_ne (pc := 23) (tgt := 28) dX1_judged_23 (by decide) ?_ ?_ | refine jx_if_ne (pc := 23) (tgt := 28) dX1_judged_23 (by decide) (by omega) ?_ ?_ | refine jw_if_ne (pc := 23) (tgt := 28) dX1_judged_23 (by decide) ?_ ?_
        · intro h_23
          refine jw_aload_n (pc := 28) dX1_judged_28 rfl ?_
          refine jw_iconst (pc := 29) dX1_judged_29 ic_2 ?_
          refine jx_putI (pc := 30) jf_X1_253_0 rfl dX1_judged_30 rfl rfl (is_64 hS) (by decide) ?_
          refine jw_iconst (pc := 33) dX1_judged_33 ic_0 ?_
          refine jw_istore_n (pc := 34) dX1_judged_34 (Nat.le_of_ble_eq_true rfl) rfl ?_
          try dsimp only [jput1, jput2, jkill, jclr, jis2_i, jis2_l, jis2_rs, jis2_rn, cond]
          exact lp_jt hv9 (by omega) M (fun M' q1 q2 q3 q4 => L69 h_23 M' q1 q2 q3 q4) (0, js_I M2 64 15 (nI 2)) ⟨Nat.zero_le _, xI hX2 (by decide), hf2.tr (jsm.I (by decide)), jI_same, fun q hq => absurd hq (Nat.not_lt_zero _)⟩
        · intro h_23
          refine jw_iload_n (pc := 26) dX1_judged_26 rfl ?_
          refine jw_ireturn (pc := 27) dX1_judged_27 rfl (rfl) ?_
          refine ⟨_, rfl, ?_, hX2, hf2, ?_⟩
          · rw [jud_1 hkn h0 (by rw [xway_m h_23]; decide)]
          · rw [jud_1 hkn h0 (by rw [xway_m h_23]; decide), xway_m h_23]; exact hj2
    · have hk' : k = V 0 12 := by omega
      subst hk'
      refine jw_iload_n (pc := 2) dX1_judged_2 rfl ?_
      refine jw_aload_n (pc := 3) dX1_judged_3 rfl ?_
      refine jx_getRs (pc := 4) (jf_X1_109_0.r) rfl dX1_judged_4 rfl (is_64 hS) (by decide) (hs.r) ?_
      refine jx_getIs (pc := 7) (jf_X1_225_5.r) rfl dX1_judged_7 rfl (vis hv) (by decide) (xi_steps hs.V) ?_
      first | refine jx_icmp_ge (pc := 10) (tgt := 89) dX1_judged_10 (by decide) (by omega) (by omega) ?_ ?_ | refine jw_icmp_ge (pc := 10) (tgt := 89) dX1_judged_10 (by decide) ?_ ?_
      · intro h_10
        refine jw_aload_n (pc := 89) dX1_judged_89 rfl ?_
        refine jw_iconst (pc := 90) dX1_judged_90 ic_3 ?_
        refine jx_putI (pc := 91) jf_X1_253_0 rfl dX1_judged_91 rfl rfl (is_64 hS) (by decide) ?_
        refine jw_iconst (pc := 94) dX1_judged_94 ic_0 ?_
        refine jw_istore_n (pc := 95) dX1_judged_95 (Nat.le_of_ble_eq_true rfl) rfl ?_
        try dsimp only [jput1, jput2, jkill, jclr, jis2_i, jis2_l, jis2_rs, jis2_rn, cond]
        exact lp_je hv9 h0 (xI hX (by decide)) (hf.tr (jsm.I (by decide))) jI_same 0 ⟨Nat.zero_le _, rfl⟩
      · intro h_10
        omega
  refine jw_iconst (pc := 0) dX1_judged_0 ic_0 ?_
  refine jw_istore_n (pc := 1) dX1_judged_1 (Nat.le_of_ble_eq_true rfl) rfl ?_
  try dsimp only [jput1, jput2, jkill, jclr, jis2_i, jis2_l, jis2_rs, jis2_rn, cond]
  exact J (0, M) ⟨Nat.zero_le _, fun j hj => absurd hj (Nat.not_lt_zero _), h, jsm.rf⟩
theorem t_X1_judge (h : jXx M σ) : jT G mi_X1_judge 9 [jr (some 64)] M (jQx M σ (q_judge σ)) := by
  have hS := h.1
  refine jT.of (by decide) rfl (Nat.le_of_ble_eq_true rfl) ?_
  cases hv9 : sv σ with
  | none =>
    refine jw_aload_n (pc := 0) dX1_judge_0 rfl ?_
    refine jx_cVv (mi1 := mi_X1_anew) (pc := 1) rfl dX1_judge_1 lk_X1_84 rfl fi_X1_anew rfl rfl rfl (by decide) (is_64 hS) (t_X1_anew h) (by first | decide | omega) rfl rfl (by decide) ?_
    intro M_1 q_1
    obtain ⟨hX, hf⟩ := q_1
    have hS := hX.1
    refine jw_aload_n (pc := 4) dX1_judge_4 rfl ?_
    refine jx_getRs (pc := 5) (jf_X1_109_0.r) rfl dX1_judge_5 rfl (is_64 hS) (by decide) (hX.no hv9) ?_
    refine jw_ifnonnull (pc := 8) (tgt := 19) dX1_judge_8 (by decide) (fun ax h => by cases h) (fun h => ?_)
    clear h
    refine jw_aload_n (pc := 11) dX1_judge_11 rfl ?_
    refine jw_iconst (pc := 12) dX1_judge_12 ic_1 ?_
    refine jx_cVi (mi1 := mi_X1_no) (pc := 13) rfl dX1_judge_13 lk_X1_98 rfl fi_X1_no rfl rfl rfl (by decide) (is_64 hS) (t_X1_no hX (by decide)) (by first | decide | omega) rfl rfl (by decide) ?_
    intro x_13 M_13 q_13
    refine jw_goto (pc := 16) (tgt := 23) dX1_judge_16 (by decide) ?_
    refine jw_ireturn (pc := 23) dX1_judge_23 rfl (rfl) ?_
    refine qx_no ?_ hf q_13
    unfold q_judge; rw [hv9] <;> rfl
  | some V =>
    refine jw_aload_n (pc := 0) dX1_judge_0 rfl ?_
    refine jx_cVv (mi1 := mi_X1_anew) (pc := 1) rfl dX1_judge_1 lk_X1_84 rfl fi_X1_anew rfl rfl rfl (by decide) (is_64 hS) (t_X1_anew h) (by first | decide | omega) rfl rfl (by decide) ?_
    intro M_1 q_1
    obtain ⟨hX, hf⟩ := q_1
    have hS := hX.1
    obtain ⟨v, hs, hN⟩ := hX.so hv9
    refine jw_aload_n (pc := 4) dX1_judge_4 rfl ?_
    refine jx_getRs (pc := 5) (jf_X1_109_0.r) rfl dX1_judge_5 rfl (is_64 hS) (by decide) (hs.r) ?_
    refine jw_ifnonnull (pc := 8) (tgt := 19) dX1_judge_8 (by decide) (fun ax h => ?_) (fun h => by cases h)
    clear h
    refine jw_aload_n (pc := 19) dX1_judge_19 rfl ?_
    refine jx_cVi (mi1 := mi_X1_judged) (pc := 20) rfl dX1_judge_20 lk_X1_267 rfl fi_X1_judged rfl rfl rfl (by decide) (is_64 hS) (t_X1_judged (σ := sgT σ 0 (-1)) hX hv9) (by first | decide | omega) rfl rfl (by decide) ?_
    intro x_20 M_20 q_20
    refine jw_ireturn (pc := 23) dX1_judge_23 rfl (rfl) ?_
    obtain ⟨e1, hX2, hf2, hj2⟩ := q_20
    subst e1
    refine qx_ok ?_ (hf.tr hf2) hX2
    unfold q_judge; rw [hv9] <;> rfl
theorem t_X1_why (h : jXx M σ) : jT G mi_X1_why 9 [jr (some 64)] M (jQx M σ (q_why σ)) := by
  have hS := h.1
  refine jT.of (by decide) rfl (Nat.le_of_ble_eq_true rfl) ?_
  cases hv9 : sv σ with
  | none =>
    refine jw_aload_n (pc := 0) dX1_why_0 rfl ?_
    refine jx_cVv (mi1 := mi_X1_anew) (pc := 1) rfl dX1_why_1 lk_X1_84 rfl fi_X1_anew rfl rfl rfl (by decide) (is_64 hS) (t_X1_anew h) (by first | decide | omega) rfl rfl (by decide) ?_
    intro M_1 q_1
    obtain ⟨hX, hf⟩ := q_1
    have hS := hX.1
    refine jw_aload_n (pc := 4) dX1_why_4 rfl ?_
    refine jx_getRs (pc := 5) (jf_X1_109_0.r) rfl dX1_why_5 rfl (is_64 hS) (by decide) (hX.no hv9) ?_
    refine jw_ifnonnull (pc := 8) (tgt := 17) dX1_why_8 (by decide) (fun ax h => by cases h) (fun h => ?_)
    clear h
    refine jw_aload_n (pc := 11) dX1_why_11 rfl ?_
    refine jw_iconst (pc := 12) dX1_why_12 ic_1 ?_
    refine jx_cVi (mi1 := mi_X1_no) (pc := 13) rfl dX1_why_13 lk_X1_98 rfl fi_X1_no rfl rfl rfl (by decide) (is_64 hS) (t_X1_no hX (by decide)) (by first | decide | omega) rfl rfl (by decide) ?_
    intro x_13 M_13 q_13
    refine jw_ireturn (pc := 16) dX1_why_16 rfl (rfl) ?_
    refine qx_no ?_ hf q_13
    unfold q_why; rw [hv9] <;> rfl
  | some V =>
    refine jw_aload_n (pc := 0) dX1_why_0 rfl ?_
    refine jx_cVv (mi1 := mi_X1_anew) (pc := 1) rfl dX1_why_1 lk_X1_84 rfl fi_X1_anew rfl rfl rfl (by decide) (is_64 hS) (t_X1_anew h) (by first | decide | omega) rfl rfl (by decide) ?_
    intro M_1 q_1
    obtain ⟨hX, hf⟩ := q_1
    have hS := hX.1
    obtain ⟨v, hs, hN⟩ := hX.so hv9
    refine jw_aload_n (pc := 4) dX1_why_4 rfl ?_
    refine jx_getRs (pc := 5) (jf_X1_109_0.r) rfl dX1_why_5 rfl (is_64 hS) (by decide) (hs.r) ?_
    refine jw_ifnonnull (pc := 8) (tgt := 17) dX1_why_8 (by decide) (fun ax h => ?_) (fun h => by cases h)
    clear h
    refine jw_aload_n (pc := 17) dX1_why_17 rfl ?_
    refine jx_cVi (mi1 := mi_X1_judged) (pc := 18) rfl dX1_why_18 lk_X1_267 rfl fi_X1_judged rfl rfl rfl (by decide) (is_64 hS) (t_X1_judged (σ := sgT σ 0 (-1)) hX hv9) (by first | decide | omega) rfl rfl (by decide) ?_
    intro x_18 M_18 q_18
    obtain ⟨e1, hX2, hf2, hj2⟩ := q_18
    subst e1
    have hS := hX2.1
    refine jw_istore_n (pc := 21) dX1_why_21 (Nat.le_of_ble_eq_true rfl) rfl ?_
    try dsimp only [jput1, jput2, jkill, jclr, jis2_i, jis2_l, jis2_rs, jis2_rn, cond]
    refine jw_iload_n (pc := 22) dX1_why_22 rfl ?_
    refine jw_bipush (pc := 23) dX1_why_23 bp_m2 ?_
    refine jw_icmp_ne (pc := 25) (tgt := 32) dX1_why_25 (by decide) ?_ ?_
    · intro h_25
      refine jw_aload_n (pc := 32) dX1_why_32 rfl ?_
      refine jx_getIs (pc := 33) (jf_X1_253_0.r) rfl dX1_why_33 rfl (is_64 hS) (by decide) (hj2) ?_
      refine jw_ireturn (pc := 36) dX1_why_36 rfl (rfl) ?_
      refine qx_ok ?_ (hf.tr hf2) hX2
      unfold q_why; rw [hv9]
      first | rfl | (show (nI (judN V (sa σ 1)).2, (0 : Int32)) = _; rw [show (judN V (sa σ 1)).2 = 0 from jud_m hs.w h_25])
    · intro h_25
      refine jw_iconst (pc := 28) dX1_why_28 ic_0 ?_
      refine jw_goto (pc := 29) (tgt := 36) dX1_why_29 (by decide) ?_
      refine jw_ireturn (pc := 36) dX1_why_36 rfl (rfl) ?_
      refine qx_ok ?_ (hf.tr hf2) hX2
      unfold q_why; rw [hv9]
      first | rfl | (show (nI (judN V (sa σ 1)).2, (0 : Int32)) = _; rw [show (judN V (sa σ 1)).2 = 0 from jud_m hs.w h_25])
end JJ
