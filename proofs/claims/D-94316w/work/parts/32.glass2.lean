/-! ===== glass, alone ===== -/
def keptB (V : Vt) (p a b : Nat) : Bool := allB (V 0 12) (fun t => plainB V (rangeV V t) 0 0 p a || plainB V (rangeV V t) 0 0 p b)
theorem keep_kept {V : Vt} {p a b : Nat} (ha : a < V 0 0) (hb : b < V 0 0) : keepB V p (2 ^ a ||| 2 ^ b) = keptB V p a b := by
  refine allB_congr (fun t _ => ?_)
  rw [Bool.eq_iff_iff, decide_eq_true_eq, Bool.or_eq_true]
  have e : plainS V (rangeV V t) 0 0 p &&& (2 ^ a ||| 2 ^ b) = (plainS V (rangeV V t) 0 0 p &&& 2 ^ a) ||| (plainS V (rangeV V t) 0 0 p &&& 2 ^ b) := Nat.and_or_distrib_left _ _ _
  have o : ∀ x y : Nat, x ||| y ≠ 0 ↔ x ≠ 0 ∨ y ≠ 0 := by
    intro x y
    rw [Ne, Nat.or_eq_zero_iff]
    omega
  rw [e, o, and_pow, and_pow, plain_bit, plain_bit, decide_eq_true ha, decide_eq_true hb, Bool.true_and, Bool.true_and]
theorem keep_one {V : Vt} {p a : Nat} (ha : a < V 0 0) : keepB V p (2 ^ a) = keptB V p a a := by rw [← keep_kept ha ha, Nat.or_self]
theorem keep_0 {V : Vt} {p : Nat} (h : 1 ≤ V 0 12) : keepB V p 0 = false := allB_f (n := 1) h (by rw [allB_s, Nat.and_zero]; simp)
theorem kept_p {V : Vt} {p : Nat} (h : 1 ≤ V 0 12) : keptB V p p p = false := allB_f (n := 1) h (by rw [allB_s, show plainB V (rangeV V 0) 0 0 p p = false by simp [plainB]]; simp)
theorem kept_sym (V : Vt) (p a b : Nat) : keptB V p a b = keptB V p b a := allB_congr (fun t _ => Bool.or_comm _ _)
def aloneF (V : Vt) (p : Nat) (s : Nat) (o : Option Nat) : Bool := decide (cnt s ≤ 2) && (match o with | none => true | some b => decide (cnt s < cnt b)) && keepB V p s
def aloneO (V : Vt) (p : Nat) : Option Nat := bestM (2 ^ V 0 0) (aloneF V p)
def aloneI (o : Option Nat) : Int32 := match o with
  | none => -2
  | some s => nI (cnt s)
def aloneV (V : Vt) (p : Nat) : Int32 := aloneI (aloneO V p)
def q_alone (σ : Sg) (p : Int32) : Int32 × Int32 := if ixV (sv σ) 0 p then (aloneV (vv σ) (iN p), 0) else (-1, 1)
theorem alone_inv (V : Vt) (p n : Nat) : (bestM n (aloneF V p) = none → ∀ s, s < n → cnt s ≤ 2 → keepB V p s = false) ∧ (∀ b, bestM n (aloneF V p) = some b → (b < n ∧ cnt b ≤ 2 ∧ keepB V p b = true) ∧ ∀ s, s < n → cnt s ≤ 2 → keepB V p s = true → cnt b ≤ cnt s) := by
  induction n with
  | zero => exact ⟨fun _ s hs => absurd hs (Nat.not_lt_zero _), fun b hb => by cases hb⟩
  | succ n ih =>
    obtain ⟨i1, i2⟩ := ih
    rw [bestM_s]
    cases ho : bestM n (aloneF V p) with
    | none =>
      have i1 := i1 ho
      by_cases hc : cnt n ≤ 2 ∧ keepB V p n = true
      · have e : aloneF V p n none = true := by unfold aloneF; rw [hc.2, decide_eq_true hc.1]; rfl
        rw [if_pos e]
        refine ⟨fun q => by (cases q), fun b hb => ?_⟩
        cases hb
        refine ⟨⟨by omega, hc.1, hc.2⟩, fun s hs h1 h2 => ?_⟩
        by_cases e2 : s = n
        · rw [e2]; exact Nat.le_refl _
        · rw [i1 s (by omega) h1] at h2; cases h2
      · have e : ¬ aloneF V p n none = true := by unfold aloneF; simp; intro h; simpa [h] using hc
        rw [if_neg e]
        refine ⟨fun _ s hs h1 => ?_, fun b hb => by cases hb⟩
        by_cases e2 : s = n
        · subst e2
          cases hk : keepB V p s with
          | false => rfl
          | true => exact absurd ⟨h1, hk⟩ hc
        · exact i1 s (by omega) h1
    | some b =>
      obtain ⟨⟨j1, j2, j3⟩, j4⟩ := i2 b ho
      by_cases hc : cnt n ≤ 2 ∧ cnt n < cnt b ∧ keepB V p n = true
      · have e : aloneF V p n (some b) = true := by unfold aloneF; simp [hc.1, hc.2.1, hc.2.2]
        rw [if_pos e]
        refine ⟨fun q => by (cases q), fun b' hb => ?_⟩
        cases hb
        refine ⟨⟨by omega, hc.1, hc.2.2⟩, fun s hs h1 h2 => ?_⟩
        by_cases e2 : s = n
        · rw [e2]; exact Nat.le_refl _
        · have := j4 s (by omega) h1 h2; omega
      · have e : ¬ aloneF V p n (some b) = true := by unfold aloneF; simp; intro h h2; simpa [h, h2] using hc
        rw [if_neg e]
        refine ⟨fun q => by (cases q), fun b' hb => ?_⟩
        cases hb
        refine ⟨⟨by omega, j2, j3⟩, fun s hs h1 h2 => ?_⟩
        by_cases e2 : s = n
        · subst e2
          by_cases e3 : cnt s < cnt b
          · exact absurd ⟨h1, e3, h2⟩ hc
          · omega
        · exact j4 s (by omega) h1 h2
theorem cnt_is0 : ∀ s, s < 1024 → cnt s = 0 → s = 0 := by decide +kernel
theorem cnt_is1 : ∀ s, s < 1024 → cnt s = 1 → ∃ a, a < 10 ∧ s = 2 ^ a := by decide +kernel
theorem cnt_is2 : ∀ s, s < 1024 → cnt s = 2 → ∃ a, a < 10 ∧ ∃ b, b < a ∧ s = 2 ^ a ||| 2 ^ b := by decide +kernel
theorem cnt_pow : ∀ a, a < 10 → cnt (2 ^ a) = 1 := by decide +kernel
theorem cnt_pow2 : ∀ a, a < 10 → ∀ b, b < a → cnt (2 ^ a ||| 2 ^ b) = 2 := by decide +kernel
theorem pow_lt_of {a n : Nat} (h : 2 ^ a < 2 ^ n) : a < n := (Nat.pow_lt_pow_iff_right (by decide)).mp h
theorem alone_1 {V : Vt} {p : Nat} (hw : jWf V) (h1 : 1 ≤ V 0 12) {a : Nat} (ha : a < V 0 0) (hk : keptB V p a a = true) : aloneV V p = 1 := by
  have hn := wf_np hw
  obtain ⟨i1, i2⟩ := alone_inv V p (2 ^ V 0 0)
  have hlt : 2 ^ a < 2 ^ V 0 0 := Nat.pow_lt_pow_right (by decide) ha
  have hc := cnt_pow a (by omega)
  have hkk : keepB V p (2 ^ a) = true := by rw [keep_one ha]; exact hk
  unfold aloneV aloneO
  cases ho : bestM (2 ^ V 0 0) (aloneF V p) with
  | none => rw [i1 ho _ hlt (by omega)] at hkk; cases hkk
  | some b =>
    obtain ⟨⟨j1, j2, j3⟩, j4⟩ := i2 b ho
    have := j4 _ hlt (by omega) hkk
    have hb : b < 1024 := Nat.lt_of_lt_of_le j1 (p10 hn)
    have h0 : cnt b ≠ 0 := fun e => by rw [cnt_is0 b hb e, keep_0 h1] at j3; cases j3
    show nI (cnt b) = 1
    rw [show cnt b = 1 by omega]; rfl
theorem alone_2 {V : Vt} {p : Nat} (hw : jWf V) (h1 : 1 ≤ V 0 12) (hno : ∀ a, a < V 0 0 → keptB V p a a = false) {a b : Nat} (ha : a < V 0 0) (hb : b < a) (hk : keptB V p a b = true) : aloneV V p = 2 := by
  have hn := wf_np hw
  obtain ⟨i1, i2⟩ := alone_inv V p (2 ^ V 0 0)
  have hlt : 2 ^ a ||| 2 ^ b < 2 ^ V 0 0 := Nat.or_lt_two_pow (Nat.pow_lt_pow_right (by decide) ha) (Nat.pow_lt_pow_right (by decide) (by omega))
  have hc := cnt_pow2 a (by omega) b hb
  have hkk : keepB V p (2 ^ a ||| 2 ^ b) = true := by rw [keep_kept ha (by omega)]; exact hk
  unfold aloneV aloneO
  cases ho : bestM (2 ^ V 0 0) (aloneF V p) with
  | none => rw [i1 ho _ hlt (by omega)] at hkk; cases hkk
  | some c =>
    obtain ⟨⟨j1, j2, j3⟩, j4⟩ := i2 c ho
    have := j4 _ hlt (by omega) hkk
    have hc9 : c < 1024 := Nat.lt_of_lt_of_le j1 (p10 hn)
    have h0 : cnt c ≠ 0 := fun e => by rw [cnt_is0 c hc9 e, keep_0 h1] at j3; cases j3
    have h01 : cnt c ≠ 1 := fun e => by
      obtain ⟨x, x1, x2⟩ := cnt_is1 c hc9 e
      have hx : x < V 0 0 := pow_lt_of (x2 ▸ j1)
      rw [x2, keep_one hx, hno x hx] at j3; cases j3
    show nI (cnt c) = 2
    rw [show cnt c = 2 by omega]; rfl
theorem alone_n {V : Vt} {p : Nat} (hw : jWf V) (h1 : 1 ≤ V 0 12) (hno : ∀ a, a < V 0 0 → keptB V p a a = false) (hno2 : ∀ a, a < V 0 0 → ∀ b, b < a → keptB V p a b = false) : aloneV V p = -2 := by
  have hn := wf_np hw
  obtain ⟨i1, i2⟩ := alone_inv V p (2 ^ V 0 0)
  unfold aloneV aloneO
  cases ho : bestM (2 ^ V 0 0) (aloneF V p) with
  | none => rfl
  | some c =>
    obtain ⟨⟨j1, j2, j3⟩, j4⟩ := i2 c ho
    have hc9 : c < 1024 := Nat.lt_of_lt_of_le j1 (p10 hn)
    have h0 : cnt c ≠ 0 := fun e => by rw [cnt_is0 c hc9 e, keep_0 h1] at j3; cases j3
    have h01 : cnt c ≠ 1 := fun e => by
      obtain ⟨x, x1, x2⟩ := cnt_is1 c hc9 e
      have hx : x < V 0 0 := pow_lt_of (x2 ▸ j1)
      rw [x2, keep_one hx, hno x hx] at j3; cases j3
    obtain ⟨x, x1, y, y1, x2⟩ := cnt_is2 c hc9 (by omega)
    have hx : x < V 0 0 := pow_lt_of (Nat.lt_of_le_of_lt (by rw [x2]; exact Nat.left_le_or) j1)
    rw [x2, keep_kept hx (by omega), hno2 x hx y y1] at j3; cases j3
section JGL2
variable {G : Gh} {M : Mm} {σ : Sg}
theorem lp_gl {M9 : Mm} {v p : Nat} {V : Vt} {P : Rs → Mm → Prop} {τ : Sg} (hX : jXx M τ) (hs : jXs M v V) (hp : p < V 0 0) (end9 : P (.inl (some (.int (nI (glassV V p))))) M) : ∀ k : Nat, k ≤ V 0 0 → jW G mi_X1_glass 9 M9 22 [some (jr (some 64)), some (.int (nI p)), some (.int (nI (msk k (fun a => keepB V p (2 ^ a))))), some (.int (nI k))] [] M P := by
  have hS := hX.1
  have hv := hs.s
  have hn := wf_np hs.w
  refine jW.loop _ (fun k => V 0 0 - k) _ (fun _ => []) (fun _ => M) (fun k hk ih => ?_)
  by_cases hkn : k < V 0 0
  · have hpw : 2 ^ k < 1024 := Nat.lt_of_lt_of_le (Nat.pow_lt_pow_right (by decide) hkn) (p10 hn)
    refine jw_iload_n (pc := 22) dX1_glass_22 rfl ?_
    refine jw_aload_n (pc := 23) dX1_glass_23 rfl ?_
    refine jx_getRs (pc := 24) (jf_X1_109_0.r) rfl dX1_glass_24 rfl (is_64 hS) (by decide) (hs.r) ?_
    refine jx_getIs (pc := 27) (jf_X1_150_5.r) rfl dX1_glass_27 rfl (vis hv) (by decide) (xi_np hs.V) ?_
    first | refine jx_icmp_ge (pc := 30) (tgt := 60) dX1_glass_30 (by decide) (by omega) (by omega) ?_ ?_ | refine jw_icmp_ge (pc := 30) (tgt := 60) dX1_glass_30 (by decide) ?_ ?_
    · intro h_30
      omega
    · intro h_30
      refine jw_iload_n (pc := 33) dX1_glass_33 rfl ?_
      refine jw_aload_n (pc := 34) dX1_glass_34 rfl ?_
      refine jw_iload_n (pc := 35) dX1_glass_35 rfl ?_
      refine jw_iconst (pc := 36) dX1_glass_36 ic_1 ?_
      refine jw_iload_n (pc := 37) dX1_glass_37 rfl ?_
      refine jw_ishl (pc := 38) dX1_glass_38 ?_
      rw [shl1 (by omega)]
      refine jx_cVE (mi1 := mi_X1_doFor) (pc := 39) rfl dX1_glass_39 lk_X1_363 rfl fi_X1_doFor rfl rfl rfl (by decide) (is_64 hS) (t_X1_doFor hs hp hpw) (by first | decide | omega) rfl rfl (by simp only [List.map_cons, List.map_nil, List.sum_cons, List.sum_nil, Value.category]; decide) ?_
      first | refine jx_ifb_eq (pc := 42) (tgt := 51) dX1_glass_42 (by decide) ?_ ?_ | refine jx_if_eq (pc := 42) (tgt := 51) dX1_glass_42 (by decide) (by omega) ?_ ?_ | refine jw_if_eq (pc := 42) (tgt := 51) dX1_glass_42 (by decide) ?_ ?_
      · intro h_42
        refine jw_iconst (pc := 51) dX1_glass_51 ic_0 ?_
        refine jw_ior (pc := 52) dX1_glass_52 ?_
        rw [nI_or']
        refine jw_istore_n (pc := 53) dX1_glass_53 (Nat.le_of_ble_eq_true rfl) rfl ?_
        try dsimp only [jput1, jput2, jkill, jclr, jis2_i, jis2_l, jis2_rs, jis2_rn, cond]
        first | refine jx_iinc (pc := 54) dX1_glass_54 rfl rfl ?_ | refine jw_iinc (pc := 54) dX1_glass_54 rfl rfl rfl ?_
        try dsimp only [jput1, jkill, jclr, jis2_i, jis2_l, jis2_rs, jis2_rn, cond]
        refine jw_goto (pc := 57) (tgt := 22) dX1_glass_57 (by decide) ?_
        refine jW.eq ?_ rfl rfl (ih (k + 1) hkn (by omega))
        rw [msk_s, h_42]; rfl
      · intro h_42
        refine jw_iconst (pc := 45) dX1_glass_45 ic_1 ?_
        refine jw_iload_n (pc := 46) dX1_glass_46 rfl ?_
        refine jw_ishl (pc := 47) dX1_glass_47 ?_
        rw [shl1 (by omega)]
        refine jw_goto (pc := 48) (tgt := 52) dX1_glass_48 (by decide) ?_
        refine jw_ior (pc := 52) dX1_glass_52 ?_
        rw [nI_or']
        refine jw_istore_n (pc := 53) dX1_glass_53 (Nat.le_of_ble_eq_true rfl) rfl ?_
        try dsimp only [jput1, jput2, jkill, jclr, jis2_i, jis2_l, jis2_rs, jis2_rn, cond]
        first | refine jx_iinc (pc := 54) dX1_glass_54 rfl rfl ?_ | refine jw_iinc (pc := 54) dX1_glass_54 rfl rfl rfl ?_
        try dsimp only [jput1, jkill, jclr, jis2_i, jis2_l, jis2_rs, jis2_rn, cond]
        refine jw_goto (pc := 57) (tgt := 22) dX1_glass_57 (by decide) ?_
        refine jW.eq ?_ rfl rfl (ih (k + 1) hkn (by omega))
        rw [msk_s, h_42]; rfl
  · have hk' : k = V 0 0 := by omega
    subst hk'
    refine jw_iload_n (pc := 22) dX1_glass_22 rfl ?_
    refine jw_aload_n (pc := 23) dX1_glass_23 rfl ?_
    refine jx_getRs (pc := 24) (jf_X1_109_0.r) rfl dX1_glass_24 rfl (is_64 hS) (by decide) (hs.r) ?_
    refine jx_getIs (pc := 27) (jf_X1_150_5.r) rfl dX1_glass_27 rfl (vis hv) (by decide) (xi_np hs.V) ?_
    first | refine jx_icmp_ge (pc := 30) (tgt := 60) dX1_glass_30 (by decide) (by omega) (by omega) ?_ ?_ | refine jw_icmp_ge (pc := 30) (tgt := 60) dX1_glass_30 (by decide) ?_ ?_
    · intro h_30
      refine jw_iload_n (pc := 60) dX1_glass_60 rfl ?_
      refine jw_ireturn (pc := 61) dX1_glass_61 rfl (rfl) ?_
      exact end9
    · intro h_30
      omega
theorem t_X1_glass {p : Int32} (h : jXx M σ) : jT G mi_X1_glass 9 [jr (some 64), .int p] M (jQx M σ (q_glass σ p)) := by
  have hS := h.1
  refine jT.of (by decide) rfl (Nat.le_of_ble_eq_true rfl) ?_
  refine jw_aload_n (pc := 0) dX1_glass_0 rfl ?_
  refine jx_cVv (mi1 := mi_X1_anew) (pc := 1) rfl dX1_glass_1 lk_X1_84 rfl fi_X1_anew rfl rfl rfl (by decide) (is_64 hS) (t_X1_anew h) (by first | decide | omega) rfl rfl (by decide) ?_
  intro M_1 q_1
  obtain ⟨hX, hf⟩ := q_1
  have hS := hX.1
  refine jw_aload_n (pc := 4) dX1_glass_4 rfl ?_
  refine jw_iload_n (pc := 5) dX1_glass_5 rfl ?_
  refine jx_cVE (mi1 := mi_X1_isPlace) (pc := 6) rfl dX1_glass_6 lk_X1_163 rfl fi_X1_isPlace rfl rfl rfl (by decide) (is_64 hS) (t_X1_isPlace (o := sv σ) hX rfl) (by first | decide | omega) rfl rfl (by decide) ?_
  first | refine jx_ifb_ne (pc := 9) (tgt := 18) dX1_glass_9 (by decide) ?_ ?_ | refine jx_if_ne (pc := 9) (tgt := 18) dX1_glass_9 (by decide) (by omega) ?_ ?_ | refine jw_if_ne (pc := 9) (tgt := 18) dX1_glass_9 (by decide) ?_ ?_
  · intro h_9
    obtain ⟨V, kp, hv9, hkp, rfl⟩ := ixV_t h_9
    obtain ⟨v, hs, hN⟩ := hX.so hv9
    have hn := wf_np hs.w
    refine jw_iconst (pc := 18) dX1_glass_18 ic_0 ?_
    refine jw_istore_n (pc := 19) dX1_glass_19 (Nat.le_of_ble_eq_true rfl) rfl ?_
    try dsimp only [jput1, jput2, jkill, jclr, jis2_i, jis2_l, jis2_rs, jis2_rn, cond]
    refine jw_iconst (pc := 20) dX1_glass_20 ic_0 ?_
    refine jw_istore_n (pc := 21) dX1_glass_21 (Nat.le_of_ble_eq_true rfl) rfl ?_
    try dsimp only [jput1, jput2, jkill, jclr, jis2_i, jis2_l, jis2_rs, jis2_rn, cond]
    refine jW.sub ?_ (lp_gl hX hs hkp (qx_ok (by unfold q_glass; rw [if_pos h_9, vv_s hv9, iN_n (by omega)]) hf hX) 0 (Nat.zero_le _))
    exact ⟨rfl, rfl, rfl, rfl, trivial⟩
  · intro h_9
    refine jw_aload_n (pc := 12) dX1_glass_12 rfl ?_
    refine jw_iconst (pc := 13) dX1_glass_13 ic_1 ?_
    refine jx_cVi (mi1 := mi_X1_no) (pc := 14) rfl dX1_glass_14 lk_X1_98 rfl fi_X1_no rfl rfl rfl (by decide) (is_64 hS) (t_X1_no hX (by decide)) (by first | decide | omega) rfl rfl (by decide) ?_
    intro x_14 M_14 q_14
    refine jw_ireturn (pc := 17) dX1_glass_17 rfl (rfl) ?_
    refine qx_no ?_ hf q_14
    unfold q_glass; rw [h_9]; rfl
theorem lp_al {M9 : Mm} {v p : Nat} {V : Vt} {P : Rs → Mm → Prop} {τ : Sg} (hX : jXx M τ) (hs : jXs M v V) (hp : p < V 0 0) (end9 : P (.inl (some (.int (aloneI (bestM (2 ^ V 0 0) (aloneF V p)))))) M) : ∀ k : Nat, k ≤ 2 ^ V 0 0 → jW G mi_X1_alone 9 M9 23 [some (jr (some 64)), some (.int (nI p)), some (.int (aloneI (bestM k (aloneF V p)))), some (.int (nI k))] [] M P := by
  have hS := hX.1
  have hv := hs.s
  have hn := wf_np hs.w
  have hpw : 2 ^ V 0 0 ≤ 1024 := p10 hn
  have hc := cnt_le
  have h1p := Nat.one_le_two_pow (n := V 0 0)
  refine jW.loop _ (fun k => 2 ^ V 0 0 - k) _ (fun _ => []) (fun _ => M) (fun k hk ih => ?_)
  by_cases hkn : k < 2 ^ V 0 0
  · have hc2 := hc k
    cases hb : bestM k (aloneF V p) with
    | none =>
      refine jw_iload_n (pc := 23) dX1_alone_23 rfl ?_
      refine jw_aload_n (pc := 24) dX1_alone_24 rfl ?_
      refine jx_getRs (pc := 25) (jf_X1_109_0.r) rfl dX1_alone_25 rfl (is_64 hS) (by decide) (hs.r) ?_
      refine jx_cVE (mi1 := mi_X6_all) (pc := 28) rfl dX1_alone_28 lk_X1_179 rfl fi_X6_all rfl rfl rfl (by decide) (vis hv) (t_X6_all hs.V hs.w) (by first | decide | omega) rfl rfl (by simp only [List.map_cons, List.map_nil, List.sum_cons, List.sum_nil, Value.category]; decide) ?_
      first | refine jx_icmp_gt (pc := 31) (tgt := 76) dX1_alone_31 (by decide) (by omega) (by omega) ?_ ?_ | refine jw_icmp_gt (pc := 31) (tgt := 76) dX1_alone_31 (by decide) ?_ ?_
      · intro h_31
        omega
      · intro h_31
        refine jw_iload_n (pc := 34) dX1_alone_34 rfl ?_
        refine jx_cSE (mi1 := mi_X1_ones) (pc := 35) rfl dX1_alone_35 lk_X1_273 rfl fi_X1_ones (t_X1_ones (by omega)) (by first | decide | omega) rfl rfl (by decide) ?_
        refine jw_iconst (pc := 38) dX1_alone_38 ic_2 ?_
        first | refine jx_icmp_gt (pc := 39) (tgt := 70) dX1_alone_39 (by decide) (by omega) (by omega) ?_ ?_ | refine jw_icmp_gt (pc := 39) (tgt := 70) dX1_alone_39 (by decide) ?_ ?_
        · intro h_39
          first | refine jx_iinc (pc := 70) dX1_alone_70 rfl rfl ?_ | refine jw_iinc (pc := 70) dX1_alone_70 rfl rfl rfl ?_
          try dsimp only [jput1, jkill, jclr, jis2_i, jis2_l, jis2_rs, jis2_rn, cond]
          refine jw_goto (pc := 73) (tgt := 23) dX1_alone_73 (by decide) ?_
          refine jW.eq ?_ rfl rfl (ih (k + 1) hkn (by omega))
          rw [bestM_s, hb]
          first
            | (rw [show aloneF V p k none = false by (unfold aloneF; rw [decide_eq_false (by omega)]; rfl)]; rfl)
            | (rw [show aloneF V p k none = false by (unfold aloneF; rw [h_62, Bool.and_false])]; rfl)
            | (rw [show aloneF V p k none = true by (unfold aloneF; rw [h_62, decide_eq_true (by omega)]; rfl)]; rfl)
        · intro h_39
          refine jw_iload_n (pc := 42) dX1_alone_42 rfl ?_
          refine jw_bipush (pc := 43) dX1_alone_43 bp_m2 ?_
          refine jw_icmp_eq (pc := 45) (tgt := 56) dX1_alone_45 (by decide) ?_ ?_
          · intro h_45
            refine jw_aload_n (pc := 56) dX1_alone_56 rfl ?_
            refine jw_iload_n (pc := 57) dX1_alone_57 rfl ?_
            refine jw_iload_n (pc := 58) dX1_alone_58 rfl ?_
            refine jx_cVE (mi1 := mi_X1_doFor) (pc := 59) rfl dX1_alone_59 lk_X1_363 rfl fi_X1_doFor rfl rfl rfl (by decide) (is_64 hS) (t_X1_doFor hs hp (by omega)) (by first | decide | omega) rfl rfl (by decide) ?_
            first | refine jx_ifb_eq (pc := 62) (tgt := 70) dX1_alone_62 (by decide) ?_ ?_ | refine jx_if_eq (pc := 62) (tgt := 70) dX1_alone_62 (by decide) (by omega) ?_ ?_ | refine jw_if_eq (pc := 62) (tgt := 70) dX1_alone_62 (by decide) ?_ ?_
            · intro h_62
              first | refine jx_iinc (pc := 70) dX1_alone_70 rfl rfl ?_ | refine jw_iinc (pc := 70) dX1_alone_70 rfl rfl rfl ?_
              try dsimp only [jput1, jkill, jclr, jis2_i, jis2_l, jis2_rs, jis2_rn, cond]
              refine jw_goto (pc := 73) (tgt := 23) dX1_alone_73 (by decide) ?_
              refine jW.eq ?_ rfl rfl (ih (k + 1) hkn (by omega))
              rw [bestM_s, hb]
              first
                | (rw [show aloneF V p k none = false by (unfold aloneF; rw [decide_eq_false (by omega)]; rfl)]; rfl)
                | (rw [show aloneF V p k none = false by (unfold aloneF; rw [h_62, Bool.and_false])]; rfl)
                | (rw [show aloneF V p k none = true by (unfold aloneF; rw [h_62, decide_eq_true (by omega)]; rfl)]; rfl)
            · intro h_62
              refine jw_iload_n (pc := 65) dX1_alone_65 rfl ?_
              refine jx_cSE (mi1 := mi_X1_ones) (pc := 66) rfl dX1_alone_66 lk_X1_273 rfl fi_X1_ones (t_X1_ones (by omega)) (by first | decide | omega) rfl rfl (by decide) ?_
              refine jw_istore_n (pc := 69) dX1_alone_69 (Nat.le_of_ble_eq_true rfl) rfl ?_
              try dsimp only [jput1, jput2, jkill, jclr, jis2_i, jis2_l, jis2_rs, jis2_rn, cond]
              first | refine jx_iinc (pc := 70) dX1_alone_70 rfl rfl ?_ | refine jw_iinc (pc := 70) dX1_alone_70 rfl rfl rfl ?_
              try dsimp only [jput1, jkill, jclr, jis2_i, jis2_l, jis2_rs, jis2_rn, cond]
              refine jw_goto (pc := 73) (tgt := 23) dX1_alone_73 (by decide) ?_
              refine jW.eq ?_ rfl rfl (ih (k + 1) hkn (by omega))
              rw [bestM_s, hb]
              first
                | (rw [show aloneF V p k none = false by (unfold aloneF; rw [decide_eq_false (by omega)]; rfl)]; rfl)
                | (rw [show aloneF V p k none = false by (unfold aloneF; rw [h_62, Bool.and_false])]; rfl)
                | (rw [show aloneF V p k none = true by (unfold aloneF; rw [h_62, decide_eq_true (by omega)]; rfl)]; rfl)
          · intro h_45
            exact absurd rfl h_45
    | some b =>
      have hb9 : b < 1024 := by have := bestM_lt hb; omega
      have hc1 := hc b
      refine jw_iload_n (pc := 23) dX1_alone_23 rfl ?_
      refine jw_aload_n (pc := 24) dX1_alone_24 rfl ?_
      refine jx_getRs (pc := 25) (jf_X1_109_0.r) rfl dX1_alone_25 rfl (is_64 hS) (by decide) (hs.r) ?_
      refine jx_cVE (mi1 := mi_X6_all) (pc := 28) rfl dX1_alone_28 lk_X1_179 rfl fi_X6_all rfl rfl rfl (by decide) (vis hv) (t_X6_all hs.V hs.w) (by first | decide | omega) rfl rfl (by simp only [List.map_cons, List.map_nil, List.sum_cons, List.sum_nil, Value.category]; decide) ?_
      first | refine jx_icmp_gt (pc := 31) (tgt := 76) dX1_alone_31 (by decide) (by omega) (by omega) ?_ ?_ | refine jw_icmp_gt (pc := 31) (tgt := 76) dX1_alone_31 (by decide) ?_ ?_
      · intro h_31
        omega
      · intro h_31
        refine jw_iload_n (pc := 34) dX1_alone_34 rfl ?_
        refine jx_cSE (mi1 := mi_X1_ones) (pc := 35) rfl dX1_alone_35 lk_X1_273 rfl fi_X1_ones (t_X1_ones (by omega)) (by first | decide | omega) rfl rfl (by decide) ?_
        refine jw_iconst (pc := 38) dX1_alone_38 ic_2 ?_
        first | refine jx_icmp_gt (pc := 39) (tgt := 70) dX1_alone_39 (by decide) (by omega) (by omega) ?_ ?_ | refine jw_icmp_gt (pc := 39) (tgt := 70) dX1_alone_39 (by decide) ?_ ?_
        · intro h_39
          first | refine jx_iinc (pc := 70) dX1_alone_70 rfl rfl ?_ | refine jw_iinc (pc := 70) dX1_alone_70 rfl rfl rfl ?_
          try dsimp only [jput1, jkill, jclr, jis2_i, jis2_l, jis2_rs, jis2_rn, cond]
          refine jw_goto (pc := 73) (tgt := 23) dX1_alone_73 (by decide) ?_
          refine jW.eq ?_ rfl rfl (ih (k + 1) hkn (by omega))
          rw [bestM_s, hb]
          first
            | (rw [show aloneF V p k (some b) = false by (unfold aloneF; rw [decide_eq_false (by omega)]; rfl)]; rfl)
            | (rw [show aloneF V p k (some b) = false by (unfold aloneF; simp; omega)]; rfl)
            | (rw [show aloneF V p k (some b) = false by (unfold aloneF; rw [h_62, Bool.and_false])]; rfl)
            | (rw [show aloneF V p k (some b) = true by (unfold aloneF; rw [h_62, decide_eq_true (by omega)]; simp; omega)]; rfl)
        · intro h_39
          refine jw_iload_n (pc := 42) dX1_alone_42 rfl ?_
          refine jw_bipush (pc := 43) dX1_alone_43 bp_m2 ?_
          refine jw_icmp_eq (pc := 45) (tgt := 56) dX1_alone_45 (by decide) ?_ ?_
          · intro h_45
            exact absurd h_45 (nI_m2 (by omega))
          · intro h_45
            refine jw_iload_n (pc := 48) dX1_alone_48 rfl ?_
            refine jx_cSE (mi1 := mi_X1_ones) (pc := 49) rfl dX1_alone_49 lk_X1_273 rfl fi_X1_ones (t_X1_ones (by omega)) (by first | decide | omega) rfl rfl (by decide) ?_
            refine jw_iload_n (pc := 52) dX1_alone_52 rfl ?_
            first | refine jx_icmp_ge (pc := 53) (tgt := 70) dX1_alone_53 (by decide) (by omega) (by omega) ?_ ?_ | refine jw_icmp_ge (pc := 53) (tgt := 70) dX1_alone_53 (by decide) ?_ ?_
            · intro h_53
              first | refine jx_iinc (pc := 70) dX1_alone_70 rfl rfl ?_ | refine jw_iinc (pc := 70) dX1_alone_70 rfl rfl rfl ?_
              try dsimp only [jput1, jkill, jclr, jis2_i, jis2_l, jis2_rs, jis2_rn, cond]
              refine jw_goto (pc := 73) (tgt := 23) dX1_alone_73 (by decide) ?_
              refine jW.eq ?_ rfl rfl (ih (k + 1) hkn (by omega))
              rw [bestM_s, hb]
              first
                | (rw [show aloneF V p k (some b) = false by (unfold aloneF; rw [decide_eq_false (by omega)]; rfl)]; rfl)
                | (rw [show aloneF V p k (some b) = false by (unfold aloneF; simp; omega)]; rfl)
                | (rw [show aloneF V p k (some b) = false by (unfold aloneF; rw [h_62, Bool.and_false])]; rfl)
                | (rw [show aloneF V p k (some b) = true by (unfold aloneF; rw [h_62, decide_eq_true (by omega)]; simp; omega)]; rfl)
            · intro h_53
              refine jw_aload_n (pc := 56) dX1_alone_56 rfl ?_
              refine jw_iload_n (pc := 57) dX1_alone_57 rfl ?_
              refine jw_iload_n (pc := 58) dX1_alone_58 rfl ?_
              refine jx_cVE (mi1 := mi_X1_doFor) (pc := 59) rfl dX1_alone_59 lk_X1_363 rfl fi_X1_doFor rfl rfl rfl (by decide) (is_64 hS) (t_X1_doFor hs hp (by omega)) (by first | decide | omega) rfl rfl (by decide) ?_
              first | refine jx_ifb_eq (pc := 62) (tgt := 70) dX1_alone_62 (by decide) ?_ ?_ | refine jx_if_eq (pc := 62) (tgt := 70) dX1_alone_62 (by decide) (by omega) ?_ ?_ | refine jw_if_eq (pc := 62) (tgt := 70) dX1_alone_62 (by decide) ?_ ?_
              · intro h_62
                first | refine jx_iinc (pc := 70) dX1_alone_70 rfl rfl ?_ | refine jw_iinc (pc := 70) dX1_alone_70 rfl rfl rfl ?_
                try dsimp only [jput1, jkill, jclr, jis2_i, jis2_l, jis2_rs, jis2_rn, cond]
                refine jw_goto (pc := 73) (tgt := 23) dX1_alone_73 (by decide) ?_
                refine jW.eq ?_ rfl rfl (ih (k + 1) hkn (by omega))
                rw [bestM_s, hb]
                first
                  | (rw [show aloneF V p k (some b) = false by (unfold aloneF; rw [decide_eq_false (by omega)]; rfl)]; rfl)
                  | (rw [show aloneF V p k (some b) = false by (unfold aloneF; simp; omega)]; rfl)
                  | (rw [show aloneF V p k (some b) = false by (unfold aloneF; rw [h_62, Bool.and_false])]; rfl)
                  | (rw [show aloneF V p k (some b) = true by (unfold aloneF; rw [h_62, decide_eq_true (by omega)]; simp; omega)]; rfl)
              · intro h_62
                refine jw_iload_n (pc := 65) dX1_alone_65 rfl ?_
                refine jx_cSE (mi1 := mi_X1_ones) (pc := 66) rfl dX1_alone_66 lk_X1_273 rfl fi_X1_ones (t_X1_ones (by omega)) (by first | decide | omega) rfl rfl (by decide) ?_
                refine jw_istore_n (pc := 69) dX1_alone_69 (Nat.le_of_ble_eq_true rfl) rfl ?_
                try dsimp only [jput1, jput2, jkill, jclr, jis2_i, jis2_l, jis2_rs, jis2_rn, cond]
                first | refine jx_iinc (pc := 70) dX1_alone_70 rfl rfl ?_ | refine jw_iinc (pc := 70) dX1_alone_70 rfl rfl rfl ?_
                try dsimp only [jput1, jkill, jclr, jis2_i, jis2_l, jis2_rs, jis2_rn, cond]
                refine jw_goto (pc := 73) (tgt := 23) dX1_alone_73 (by decide) ?_
                refine jW.eq ?_ rfl rfl (ih (k + 1) hkn (by omega))
                rw [bestM_s, hb]
                first
                  | (rw [show aloneF V p k (some b) = false by (unfold aloneF; rw [decide_eq_false (by omega)]; rfl)]; rfl)
                  | (rw [show aloneF V p k (some b) = false by (unfold aloneF; simp; omega)]; rfl)
                  | (rw [show aloneF V p k (some b) = false by (unfold aloneF; rw [h_62, Bool.and_false])]; rfl)
                  | (rw [show aloneF V p k (some b) = true by (unfold aloneF; rw [h_62, decide_eq_true (by omega)]; simp; omega)]; rfl)
  · have hk' : k = 2 ^ V 0 0 := by omega
    subst hk'
    refine jw_iload_n (pc := 23) dX1_alone_23 rfl ?_
    refine jw_aload_n (pc := 24) dX1_alone_24 rfl ?_
    refine jx_getRs (pc := 25) (jf_X1_109_0.r) rfl dX1_alone_25 rfl (is_64 hS) (by decide) (hs.r) ?_
    refine jx_cVE (mi1 := mi_X6_all) (pc := 28) rfl dX1_alone_28 lk_X1_179 rfl fi_X6_all rfl rfl rfl (by decide) (vis hv) (t_X6_all hs.V hs.w) (by first | decide | omega) rfl rfl (by simp only [List.map_cons, List.map_nil, List.sum_cons, List.sum_nil, Value.category]; decide) ?_
    first | refine jx_icmp_gt (pc := 31) (tgt := 76) dX1_alone_31 (by decide) (by omega) (by omega) ?_ ?_ | refine jw_icmp_gt (pc := 31) (tgt := 76) dX1_alone_31 (by decide) ?_ ?_
    · intro h_31
      refine jw_iload_n (pc := 76) dX1_alone_76 rfl ?_
      refine jw_ireturn (pc := 77) dX1_alone_77 rfl (rfl) ?_
      exact end9
    · intro h_31
      omega
theorem t_X1_alone {p : Int32} (h : jXx M σ) : jT G mi_X1_alone 9 [jr (some 64), .int p] M (jQx M σ (q_alone σ p)) := by
  have hS := h.1
  refine jT.of (by decide) rfl (Nat.le_of_ble_eq_true rfl) ?_
  refine jw_aload_n (pc := 0) dX1_alone_0 rfl ?_
  refine jx_cVv (mi1 := mi_X1_anew) (pc := 1) rfl dX1_alone_1 lk_X1_84 rfl fi_X1_anew rfl rfl rfl (by decide) (is_64 hS) (t_X1_anew h) (by first | decide | omega) rfl rfl (by decide) ?_
  intro M_1 q_1
  obtain ⟨hX, hf⟩ := q_1
  have hS := hX.1
  refine jw_aload_n (pc := 4) dX1_alone_4 rfl ?_
  refine jw_iload_n (pc := 5) dX1_alone_5 rfl ?_
  refine jx_cVE (mi1 := mi_X1_isPlace) (pc := 6) rfl dX1_alone_6 lk_X1_163 rfl fi_X1_isPlace rfl rfl rfl (by decide) (is_64 hS) (t_X1_isPlace (o := sv σ) hX rfl) (by first | decide | omega) rfl rfl (by decide) ?_
  first | refine jx_ifb_ne (pc := 9) (tgt := 18) dX1_alone_9 (by decide) ?_ ?_ | refine jx_if_ne (pc := 9) (tgt := 18) dX1_alone_9 (by decide) (by omega) ?_ ?_ | refine jw_if_ne (pc := 9) (tgt := 18) dX1_alone_9 (by decide) ?_ ?_
  · intro h_9
    obtain ⟨V, kp, hv9, hkp, rfl⟩ := ixV_t h_9
    obtain ⟨v, hs, hN⟩ := hX.so hv9
    have hn := wf_np hs.w
    refine jw_bipush (pc := 18) dX1_alone_18 bp_m2 ?_
    refine jw_istore_n (pc := 20) dX1_alone_20 (Nat.le_of_ble_eq_true rfl) rfl ?_
    try dsimp only [jput1, jput2, jkill, jclr, jis2_i, jis2_l, jis2_rs, jis2_rn, cond]
    refine jw_iconst (pc := 21) dX1_alone_21 ic_0 ?_
    refine jw_istore_n (pc := 22) dX1_alone_22 (Nat.le_of_ble_eq_true rfl) rfl ?_
    try dsimp only [jput1, jput2, jkill, jclr, jis2_i, jis2_l, jis2_rs, jis2_rn, cond]
    refine jW.sub ?_ (lp_al hX hs hkp (qx_ok (by unfold q_alone; rw [if_pos h_9, vv_s hv9, iN_n (by omega)]; rfl) hf hX) 0 (Nat.zero_le _))
    exact ⟨rfl, rfl, rfl, rfl, trivial⟩
  · intro h_9
    refine jw_aload_n (pc := 12) dX1_alone_12 rfl ?_
    refine jw_iconst (pc := 13) dX1_alone_13 ic_1 ?_
    refine jx_cVi (mi1 := mi_X1_no) (pc := 14) rfl dX1_alone_14 lk_X1_98 rfl fi_X1_no rfl rfl rfl (by decide) (is_64 hS) (t_X1_no hX (by decide)) (by first | decide | omega) rfl rfl (by decide) ?_
    intro x_14 M_14 q_14
    refine jw_ireturn (pc := 17) dX1_alone_17 rfl (rfl) ?_
    refine qx_no ?_ hf q_14
    unfold q_alone; rw [h_9]; rfl
theorem t_X5_isKept {p a b w : Nat} {V : Vt} (hs : jMs M w V 0 0) (hp : p < V 0 0) (ha : a < V 0 0) (hb : b < V 0 0) : jE G mi_X5_isKept 3 [jr (some 90), .int (nI p), .int (nI a), .int (nI b)] M (some (.int (jb (keptB V p a b)))) M := by
  have hS := hs.1
  have hw := hs.s
  obtain ⟨d1, d2, d3, d4, d5⟩ := wf_d hs.w
  have hr : ∀ t, rangeV V t ≤ 19 := fun t => by unfold rangeV; split <;> omega
  refine jE.of (by decide) rfl (Nat.le_of_ble_eq_true rfl) ?_
  have J : ∀ k : Nat, (k ≤ V 0 12 ∧ allB k (fun t => plainB V (rangeV V t) 0 0 p a || plainB V (rangeV V t) 0 0 p b) = true) → jW G mi_X5_isKept 3 M 3 [some (jr (some 90)), some (.int (nI p)), some (.int (nI a)), some (.int (nI b)), some (.int (nI k))] [] M (fun r M' => r = .inl (some (.int (jb (keptB V p a b)))) ∧ M' = M) := by
    refine jW.loop _ (fun k => V 0 12 - k) _ (fun _ => []) (fun _ => M) (fun k hk ih => ?_)
    obtain ⟨hk, hall⟩ := hk
    by_cases hkn : k < V 0 12
    · have hr := hr k
      refine jw_iload (pc := 3) dX5_isKept_3 rfl ?_
      refine jw_aload_n (pc := 5) dX5_isKept_5 rfl ?_
      refine jx_getRs (pc := 6) (jf_X5_380_4.r) rfl dX5_isKept_6 rfl (is_90 hS) (by decide) (hs.r) ?_
      refine jx_getIs (pc := 9) (jf_X5_273_12.r) rfl dX5_isKept_9 rfl (wis hw) (by decide) (mi_steps hs.V) ?_
      first | refine jx_icmp_ge (pc := 12) (tgt := 53) dX5_isKept_12 (by decide) (by omega) (by omega) ?_ ?_ | refine jw_icmp_ge (pc := 12) (tgt := 53) dX5_isKept_12 (by decide) ?_ ?_
      · intro h_12
        omega
      · intro h_12
        refine jw_aload_n (pc := 15) dX5_isKept_15 rfl ?_
        refine jw_iload_n (pc := 16) dX5_isKept_16 rfl ?_
        refine jw_iload_n (pc := 17) dX5_isKept_17 rfl ?_
        refine jw_aload_n (pc := 18) dX5_isKept_18 rfl ?_
        refine jw_iload (pc := 19) dX5_isKept_19 rfl ?_
        refine jx_cVE (mi1 := mi_X5_rangeIn) (pc := 21) rfl dX5_isKept_21 lk_X5_405 rfl fi_X5_rangeIn rfl rfl rfl (by decide) (is_90 hS) (t_X5_rangeIn (t := k) hs (by omega)) (by first | decide | omega) rfl rfl (by simp only [List.map_cons, List.map_nil, List.sum_cons, List.sum_nil, cat_i, cat_l, jr_cat]; decide) ?_
        refine jx_cVE (mi1 := mi_X5_isPlain) (pc := 24) rfl dX5_isKept_24 lk_X5_408 rfl fi_X5_isPlain rfl rfl rfl (by decide) (is_90 hS) (t_X5_isPlain hs (by decide) (by decide) (by omega) hp ha) (by first | decide | omega) rfl rfl (by decide) ?_
        first | refine jx_ifb_ne (pc := 27) (tgt := 47) dX5_isKept_27 (by decide) ?_ ?_ | refine jx_if_ne (pc := 27) (tgt := 47) dX5_isKept_27 (by decide) (by omega) ?_ ?_ | refine jw_if_ne (pc := 27) (tgt := 47) dX5_isKept_27 (by decide) ?_ ?_
        · intro h_27
          first | refine jx_iinc (pc := 47) dX5_isKept_47 rfl rfl ?_ | refine jw_iinc (pc := 47) dX5_isKept_47 rfl rfl rfl ?_
          try dsimp only [jput1, jkill, jclr, jis2_i, jis2_l, jis2_rs, jis2_rn, cond]
          refine jw_goto (pc := 50) (tgt := 3) dX5_isKept_50 (by decide) ?_
          refine ih (k + 1) ⟨hkn, ?_⟩ (by omega)
          rw [allB_s, hall]
          first | (rw [h_27]; rfl) | (rw [h_42, Bool.or_true]; rfl)
        · intro h_27
          refine jw_aload_n (pc := 30) dX5_isKept_30 rfl ?_
          refine jw_iload_n (pc := 31) dX5_isKept_31 rfl ?_
          refine jw_iload_n (pc := 32) dX5_isKept_32 rfl ?_
          refine jw_aload_n (pc := 33) dX5_isKept_33 rfl ?_
          refine jw_iload (pc := 34) dX5_isKept_34 rfl ?_
          refine jx_cVE (mi1 := mi_X5_rangeIn) (pc := 36) rfl dX5_isKept_36 lk_X5_405 rfl fi_X5_rangeIn rfl rfl rfl (by decide) (is_90 hS) (t_X5_rangeIn (t := k) hs (by omega)) (by first | decide | omega) rfl rfl (by simp only [List.map_cons, List.map_nil, List.sum_cons, List.sum_nil, cat_i, cat_l, jr_cat]; decide) ?_
          refine jx_cVE (mi1 := mi_X5_isPlain) (pc := 39) rfl dX5_isKept_39 lk_X5_408 rfl fi_X5_isPlain rfl rfl rfl (by decide) (is_90 hS) (t_X5_isPlain hs (by decide) (by decide) (by omega) hp hb) (by first | decide | omega) rfl rfl (by decide) ?_
          first | refine jx_ifb_ne (pc := 42) (tgt := 47) dX5_isKept_42 (by decide) ?_ ?_ | refine jx_if_ne (pc := 42) (tgt := 47) dX5_isKept_42 (by decide) (by omega) ?_ ?_ | refine jw_if_ne (pc := 42) (tgt := 47) dX5_isKept_42 (by decide) ?_ ?_
          · intro h_42
            first | refine jx_iinc (pc := 47) dX5_isKept_47 rfl rfl ?_ | refine jw_iinc (pc := 47) dX5_isKept_47 rfl rfl rfl ?_
            try dsimp only [jput1, jkill, jclr, jis2_i, jis2_l, jis2_rs, jis2_rn, cond]
            refine jw_goto (pc := 50) (tgt := 3) dX5_isKept_50 (by decide) ?_
            refine ih (k + 1) ⟨hkn, ?_⟩ (by omega)
            rw [allB_s, hall]
            first | (rw [h_27]; rfl) | (rw [h_42, Bool.or_true]; rfl)
          · intro h_42
            refine jw_iconst (pc := 45) dX5_isKept_45 ic_0 ?_
            refine jw_ireturn (pc := 46) dX5_isKept_46 rfl (by first | exact jnar_b _ | exact jnar_0 | exact jnar_1 | decide +kernel) ?_
            refine ⟨jret_f ?_, rfl⟩
            refine allB_f hkn ?_
            rw [allB_s, h_27, h_42]; simp
    · have hk' : k = V 0 12 := by omega
      subst hk'
      refine jw_iload (pc := 3) dX5_isKept_3 rfl ?_
      refine jw_aload_n (pc := 5) dX5_isKept_5 rfl ?_
      refine jx_getRs (pc := 6) (jf_X5_380_4.r) rfl dX5_isKept_6 rfl (is_90 hS) (by decide) (hs.r) ?_
      refine jx_getIs (pc := 9) (jf_X5_273_12.r) rfl dX5_isKept_9 rfl (wis hw) (by decide) (mi_steps hs.V) ?_
      first | refine jx_icmp_ge (pc := 12) (tgt := 53) dX5_isKept_12 (by decide) (by omega) (by omega) ?_ ?_ | refine jw_icmp_ge (pc := 12) (tgt := 53) dX5_isKept_12 (by decide) ?_ ?_
      · intro h_12
        refine jw_iconst (pc := 53) dX5_isKept_53 ic_1 ?_
        refine jw_ireturn (pc := 54) dX5_isKept_54 rfl (by first | exact jnar_b _ | exact jnar_0 | exact jnar_1 | decide +kernel) ?_
        refine ⟨jret_t ?_, rfl⟩
        exact hall
      · intro h_12
        omega
  refine jw_iconst (pc := 0) dX5_isKept_0 ic_0 ?_
  refine jw_istore (pc := 1) dX5_isKept_1 (Nat.le_of_ble_eq_true rfl) rfl ?_
  try dsimp only [jput1, jput2, jkill, jclr, jis2_i, jis2_l, jis2_rs, jis2_rn, cond]
  exact J 0 ⟨Nat.zero_le _, rfl⟩
theorem t_X5_glassOf {p w : Nat} {V : Vt} (hs : jMs M w V 0 0) (hp : p < V 0 0) (h1 : 1 ≤ V 0 12) : jE G mi_X5_glassOf 4 [jr (some 90), .int (nI p)] M (some (.int (nI (glassV V p)))) M := by
  have hS := hs.1
  have hw := hs.s
  have hn := wf_np hs.w
  refine jE.of (by decide) rfl (Nat.le_of_ble_eq_true rfl) ?_
  have J : ∀ k : Nat, k ≤ V 0 0 → jW G mi_X5_glassOf 4 M 4 [some (jr (some 90)), some (.int (nI p)), some (.int (nI (msk k (fun a => keepB V p (2 ^ a))))), some (.int (nI k))] [] M (fun r M' => r = .inl (some (.int (nI (glassV V p)))) ∧ M' = M) := by
    refine jW.loop _ (fun k => V 0 0 - k) _ (fun _ => []) (fun _ => M) (fun k hk ih => ?_)
    by_cases hkn : k < V 0 0
    · have hk1 := keep_one (V := V) (p := p) hkn
      refine jw_iload_n (pc := 4) dX5_glassOf_4 rfl ?_
      refine jw_aload_n (pc := 5) dX5_glassOf_5 rfl ?_
      refine jx_getRs (pc := 6) (jf_X5_380_4.r) rfl dX5_glassOf_6 rfl (is_90 hS) (by decide) (hs.r) ?_
      refine jx_getIs (pc := 9) (jf_X5_218_12.r) rfl dX5_glassOf_9 rfl (wis hw) (by decide) (mi_np hs.V) ?_
      first | refine jx_icmp_ge (pc := 12) (tgt := 46) dX5_glassOf_12 (by decide) (by omega) (by omega) ?_ ?_ | refine jw_icmp_ge (pc := 12) (tgt := 46) dX5_glassOf_12 (by decide) ?_ ?_
      · intro h_12
        omega
      · intro h_12
        refine jw_iload_n (pc := 15) dX5_glassOf_15 rfl ?_
        refine jw_iload_n (pc := 16) dX5_glassOf_16 rfl ?_
        refine jw_iload_n (pc := 17) dX5_glassOf_17 rfl ?_
        first | refine jx_icmp_eq (pc := 18) (tgt := 37) dX5_glassOf_18 (by decide) (by omega) (by omega) ?_ ?_ | refine jw_icmp_eq (pc := 18) (tgt := 37) dX5_glassOf_18 (by decide) ?_ ?_
        · intro h_18
          refine jw_iconst (pc := 37) dX5_glassOf_37 ic_0 ?_
          refine jw_ior (pc := 38) dX5_glassOf_38 ?_
          rw [nI_or']
          refine jw_istore_n (pc := 39) dX5_glassOf_39 (Nat.le_of_ble_eq_true rfl) rfl ?_
          try dsimp only [jput1, jput2, jkill, jclr, jis2_i, jis2_l, jis2_rs, jis2_rn, cond]
          first | refine jx_iinc (pc := 40) dX5_glassOf_40 rfl rfl ?_ | refine jw_iinc (pc := 40) dX5_glassOf_40 rfl rfl rfl ?_
          try dsimp only [jput1, jkill, jclr, jis2_i, jis2_l, jis2_rs, jis2_rn, cond]
          refine jw_goto (pc := 43) (tgt := 4) dX5_glassOf_43 (by decide) ?_
          refine jW.eq ?_ rfl rfl (ih (k + 1) hkn (by omega))
          rw [msk_s]
          first
            | (subst h_18; rw [hk1, kept_p h1]; rfl)
            | (rw [hk1, h_28]; rfl)
        · intro h_18
          refine jw_aload_n (pc := 21) dX5_glassOf_21 rfl ?_
          refine jw_iload_n (pc := 22) dX5_glassOf_22 rfl ?_
          refine jw_iload_n (pc := 23) dX5_glassOf_23 rfl ?_
          refine jw_iload_n (pc := 24) dX5_glassOf_24 rfl ?_
          refine jx_cVE (mi1 := mi_X5_isKept) (pc := 25) rfl dX5_glassOf_25 lk_X5_525 rfl fi_X5_isKept rfl rfl rfl (by decide) (is_90 hS) (t_X5_isKept hs hp hkn hkn) (by first | decide | omega) rfl rfl (by simp only [List.map_cons, List.map_nil, List.sum_cons, List.sum_nil, Value.category]; decide) ?_
          first | refine jx_ifb_eq (pc := 28) (tgt := 37) dX5_glassOf_28 (by decide) ?_ ?_ | refine jx_if_eq (pc := 28) (tgt := 37) dX5_glassOf_28 (by decide) (by omega) ?_ ?_ | refine jw_if_eq (pc := 28) (tgt := 37) dX5_glassOf_28 (by decide) ?_ ?_
          · intro h_28
            refine jw_iconst (pc := 37) dX5_glassOf_37 ic_0 ?_
            refine jw_ior (pc := 38) dX5_glassOf_38 ?_
            rw [nI_or']
            refine jw_istore_n (pc := 39) dX5_glassOf_39 (Nat.le_of_ble_eq_true rfl) rfl ?_
            try dsimp only [jput1, jput2, jkill, jclr, jis2_i, jis2_l, jis2_rs, jis2_rn, cond]
            first | refine jx_iinc (pc := 40) dX5_glassOf_40 rfl rfl ?_ | refine jw_iinc (pc := 40) dX5_glassOf_40 rfl rfl rfl ?_
            try dsimp only [jput1, jkill, jclr, jis2_i, jis2_l, jis2_rs, jis2_rn, cond]
            refine jw_goto (pc := 43) (tgt := 4) dX5_glassOf_43 (by decide) ?_
            refine jW.eq ?_ rfl rfl (ih (k + 1) hkn (by omega))
            rw [msk_s]
            first
              | (subst h_18; rw [hk1, kept_p h1]; rfl)
              | (rw [hk1, h_28]; rfl)
          · intro h_28
            refine jw_iconst (pc := 31) dX5_glassOf_31 ic_1 ?_
            refine jw_iload_n (pc := 32) dX5_glassOf_32 rfl ?_
            refine jw_ishl (pc := 33) dX5_glassOf_33 ?_
            rw [shl1 (by omega)]
            refine jw_goto (pc := 34) (tgt := 38) dX5_glassOf_34 (by decide) ?_
            refine jw_ior (pc := 38) dX5_glassOf_38 ?_
            rw [nI_or']
            refine jw_istore_n (pc := 39) dX5_glassOf_39 (Nat.le_of_ble_eq_true rfl) rfl ?_
            try dsimp only [jput1, jput2, jkill, jclr, jis2_i, jis2_l, jis2_rs, jis2_rn, cond]
            first | refine jx_iinc (pc := 40) dX5_glassOf_40 rfl rfl ?_ | refine jw_iinc (pc := 40) dX5_glassOf_40 rfl rfl rfl ?_
            try dsimp only [jput1, jkill, jclr, jis2_i, jis2_l, jis2_rs, jis2_rn, cond]
            refine jw_goto (pc := 43) (tgt := 4) dX5_glassOf_43 (by decide) ?_
            refine jW.eq ?_ rfl rfl (ih (k + 1) hkn (by omega))
            rw [msk_s]
            first
              | (subst h_18; rw [hk1, kept_p h1]; rfl)
              | (rw [hk1, h_28]; rfl)
    · have hk' : k = V 0 0 := by omega
      subst hk'
      refine jw_iload_n (pc := 4) dX5_glassOf_4 rfl ?_
      refine jw_aload_n (pc := 5) dX5_glassOf_5 rfl ?_
      refine jx_getRs (pc := 6) (jf_X5_380_4.r) rfl dX5_glassOf_6 rfl (is_90 hS) (by decide) (hs.r) ?_
      refine jx_getIs (pc := 9) (jf_X5_218_12.r) rfl dX5_glassOf_9 rfl (wis hw) (by decide) (mi_np hs.V) ?_
      first | refine jx_icmp_ge (pc := 12) (tgt := 46) dX5_glassOf_12 (by decide) (by omega) (by omega) ?_ ?_ | refine jw_icmp_ge (pc := 12) (tgt := 46) dX5_glassOf_12 (by decide) ?_ ?_
      · intro h_12
        refine jw_iload_n (pc := 46) dX5_glassOf_46 rfl ?_
        refine jw_ireturn (pc := 47) dX5_glassOf_47 rfl (rfl) ?_
        exact ⟨rfl, rfl⟩
      · intro h_12
        omega
  refine jw_iconst (pc := 0) dX5_glassOf_0 ic_0 ?_
  refine jw_istore_n (pc := 1) dX5_glassOf_1 (Nat.le_of_ble_eq_true rfl) rfl ?_
  try dsimp only [jput1, jput2, jkill, jclr, jis2_i, jis2_l, jis2_rs, jis2_rn, cond]
  refine jw_iconst (pc := 2) dX5_glassOf_2 ic_0 ?_
  refine jw_istore_n (pc := 3) dX5_glassOf_3 (Nat.le_of_ble_eq_true rfl) rfl ?_
  try dsimp only [jput1, jput2, jkill, jclr, jis2_i, jis2_l, jis2_rs, jis2_rn, cond]
  exact J 0 (Nat.zero_le _)
theorem t_X5_glass {p : Int32} (h : jMm M σ) : jT G mi_X5_glass 9 [jr (some 90), .int p] M (jQm M σ (q_glass σ p)) := by
  have hS := h.1
  refine jT.of (by decide) rfl (Nat.le_of_ble_eq_true rfl) ?_
  refine jw_aload_n (pc := 0) dX5_glass_0 rfl ?_
  refine jw_iconst (pc := 1) dX5_glass_1 ic_0 ?_
  refine jx_putI (pc := 2) jf_X5_56_4 rfl dX5_glass_2 rfl rfl (is_90 hS) (by decide) ?_
  have hM := mthr (x := nI 0) h
  have hf : jfm M (js_I M 90 49 (nI 0)) := jsm.I (by decide)
  generalize js_I M 90 49 (nI 0) = M0 at hM hf ⊢
  clear hS
  have hS := hM.1
  refine jw_aload_n (pc := 5) dX5_glass_5 rfl ?_
  refine jw_iload_n (pc := 6) dX5_glass_6 rfl ?_
  refine jx_cVE (mi1 := mi_X5_isPlace) (pc := 7) rfl dX5_glass_7 lk_X5_414 rfl fi_X5_isPlace rfl rfl rfl (by decide) (is_90 hS) (t_X5_isPlace (o := sv σ) hM rfl) (by first | decide | omega) rfl rfl (by decide) ?_
  first | refine jx_ifb_eq (pc := 10) (tgt := 26) dX5_glass_10 (by decide) ?_ ?_ | refine jx_if_eq (pc := 10) (tgt := 26) dX5_glass_10 (by decide) (by omega) ?_ ?_ | refine jw_if_eq (pc := 10) (tgt := 26) dX5_glass_10 (by decide) ?_ ?_
  · intro h_10
    refine jw_aload_n (pc := 26) dX5_glass_26 rfl ?_
    refine jw_iconst (pc := 27) dX5_glass_27 ic_1 ?_
    refine jx_cVi (mi1 := mi_X5_refused) (pc := 28) rfl dX5_glass_28 lk_X5_62 rfl fi_X5_refused rfl rfl rfl (by decide) (is_90 hS) (t_X5_refused hM) (by first | decide | omega) rfl rfl (by decide) ?_
    intro x_28 M_28 q_28
    refine jw_ireturn (pc := 31) dX5_glass_31 rfl (rfl) ?_
    first
      | (refine qm ?_ hf q_28; unfold q_glass; rw [h_10]; rfl)
      | (refine qm ?_ hf q_20; unfold q_glass; rw [if_pos h_10, vv_s hv9, iN_n (by omega)])
  · intro h_10
    obtain ⟨V, kp, hv9, hkp, rfl⟩ := ixV_t h_10
    obtain ⟨w, hs, hN⟩ := hM.so hv9
    have hn := wf_np hs.w
    have hst1 := (h.2.1.1.2 V hv9).2.2
    refine jw_aload_n (pc := 13) dX5_glass_13 rfl ?_
    refine jw_aload_n (pc := 14) dX5_glass_14 rfl ?_
    refine jw_iload_n (pc := 15) dX5_glass_15 rfl ?_
    refine jx_cVE (mi1 := mi_X5_glassOf) (pc := 16) rfl dX5_glass_16 lk_X5_528 rfl fi_X5_glassOf rfl rfl rfl (by decide) (is_90 hS) (t_X5_glassOf hs hkp hst1) (by first | decide | omega) rfl rfl (by simp only [List.map_cons, List.map_nil, List.sum_cons, List.sum_nil, cat_i, cat_l, jr_cat]; decide) ?_
    refine jw_iconst (pc := 19) dX5_glass_19 ic_0 ?_
    refine jx_cVi (mi1 := mi_X5_told) (pc := 20) rfl dX5_glass_20 lk_X5_66 rfl fi_X5_told rfl rfl rfl (by decide) (is_90 hS) (t_X5_told0 hM) (by first | decide | omega) rfl rfl (by decide) ?_
    intro x_20 M_20 q_20
    refine jw_goto (pc := 23) (tgt := 31) dX5_glass_23 (by decide) ?_
    refine jw_ireturn (pc := 31) dX5_glass_31 rfl (rfl) ?_
    first
      | (refine qm ?_ hf q_28; unfold q_glass; rw [h_10]; rfl)
      | (refine qm ?_ hf q_20; unfold q_glass; rw [if_pos h_10, vv_s hv9, iN_n (by omega)])
theorem glass_0 {V : Vt} {p : Nat} (h : glassV V p = 0) : ∀ a, a < V 0 0 → keptB V p a a = false := by
  intro a ha
  have e := msk_bit (V 0 0) (fun a => keepB V p (2 ^ a)) a
  rw [show msk (V 0 0) (fun a => keepB V p (2 ^ a)) = 0 from h, Nat.zero_testBit, decide_eq_true ha, Bool.true_and] at e
  rw [← keep_one ha]; exact e.symm
theorem glass_1 {V : Vt} {p : Nat} (h : ¬ glassV V p = 0) : ∃ a, a < V 0 0 ∧ keptB V p a a = true := by
  refine Classical.byContradiction (fun q => h (Nat.eq_of_testBit_eq (fun i => ?_)))
  rw [Nat.zero_testBit, show glassV V p = msk (V 0 0) (fun a => keepB V p (2 ^ a)) from rfl, msk_bit]
  by_cases hi : i < V 0 0
  · cases hk : keptB V p i i with
    | true => exact absurd ⟨i, hi, hk⟩ q
    | false => rw [keep_one hi, hk, Bool.and_false]
  · rw [decide_eq_false hi, Bool.false_and]
theorem lp_mal {M9 : Mm} {w p : Nat} {V : Vt} {P : Rs → Mm → Prop} (hM : jMm M σ) (hs : jMs M w V 0 0) (hp : p < V 0 0) (h1 : 1 ≤ V 0 12) (hno : ∀ a, a < V 0 0 → keptB V p a a = false) (end9 : ∀ x M', (x = aloneV V p ∧ jMm M' (sgT σ 0 (-1)) ∧ jfm M M') → P (.inl (some (.int x))) M') : ∀ k : Nat, (k ≤ V 0 0 ∧ ∀ a, a < k → ∀ b, b < a → keptB V p a b = false) → jW G mi_X5_alone 9 M9 36 [some (jr (some 90)), some (.int (nI p)), some (.int (nI k)), none] [] M P := by
  have hS := hM.1
  have hw := hs.s
  have hn := wf_np hs.w
  refine jW.loop _ (fun k => V 0 0 - k) _ (fun _ => []) (fun _ => M) (fun k hk ihk => ?_)
  obtain ⟨hk, hall⟩ := hk
  by_cases hkn : k < V 0 0
  · have I : ∀ j : Nat, (j ≤ k ∧ ∀ b, b < j → keptB V p k b = false) → jW G mi_X5_alone 9 M9 49 [some (jr (some 90)), some (.int (nI p)), some (.int (nI k)), some (.int (nI j))] [] M P := by
      refine jW.loop _ (fun j => k - j) _ (fun _ => []) (fun _ => M) (fun j hj ih => ?_)
      obtain ⟨hj, hbs⟩ := hj
      by_cases hjk : j < k
      ·
        refine jw_iload_n (pc := 49) dX5_alone_49 rfl ?_
        refine jw_iload_n (pc := 50) dX5_alone_50 rfl ?_
        first | refine jx_icmp_ge (pc := 51) (tgt := 77) dX5_alone_51 (by decide) (by omega) (by omega) ?_ ?_ | refine jw_icmp_ge (pc := 51) (tgt := 77) dX5_alone_51 (by decide) ?_ ?_
        · intro h_51
          omega
        · intro h_51
          refine jw_aload_n (pc := 54) dX5_alone_54 rfl ?_
          refine jw_iload_n (pc := 55) dX5_alone_55 rfl ?_
          refine jw_iload_n (pc := 56) dX5_alone_56 rfl ?_
          refine jw_iload_n (pc := 57) dX5_alone_57 rfl ?_
          refine jx_cVE (mi1 := mi_X5_isKept) (pc := 58) rfl dX5_alone_58 lk_X5_525 rfl fi_X5_isKept rfl rfl rfl (by decide) (is_90 hS) (t_X5_isKept hs hp hkn (by omega)) (by first | decide | omega) rfl rfl (by decide) ?_
          first | refine jx_ifb_eq (pc := 61) (tgt := 71) dX5_alone_61 (by decide) ?_ ?_ | refine jx_if_eq (pc := 61) (tgt := 71) dX5_alone_61 (by decide) (by omega) ?_ ?_ | refine jw_if_eq (pc := 61) (tgt := 71) dX5_alone_61 (by decide) ?_ ?_
          · intro h_61
            first | refine jx_iinc (pc := 71) dX5_alone_71 rfl rfl ?_ | refine jw_iinc (pc := 71) dX5_alone_71 rfl rfl rfl ?_
            try dsimp only [jput1, jkill, jclr, jis2_i, jis2_l, jis2_rs, jis2_rn, cond]
            refine jw_goto (pc := 74) (tgt := 49) dX5_alone_74 (by decide) ?_
            refine ih (j + 1) ⟨hjk, fun b hb => ?_⟩ (by omega)
            by_cases e : b = j
            · subst e; exact h_61
            · exact hbs b (by omega)
          · intro h_61
            refine jw_aload_n (pc := 64) dX5_alone_64 rfl ?_
            refine jw_iconst (pc := 65) dX5_alone_65 ic_2 ?_
            refine jw_iconst (pc := 66) dX5_alone_66 ic_0 ?_
            refine jx_cVi (mi1 := mi_X5_told) (pc := 67) rfl dX5_alone_67 lk_X5_66 rfl fi_X5_told rfl rfl rfl (by decide) (is_90 hS) (t_X5_told0 hM) (by first | decide | omega) rfl rfl (by decide) ?_
            intro x_67 M_67 q_67
            refine jw_ireturn (pc := 70) dX5_alone_70 rfl (rfl) ?_
            refine end9 _ _ ?_
            rw [alone_2 hs.w h1 hno hkn hjk h_61]; exact q_67
      · have hj' : j = k := by omega
        subst hj'
        refine jw_iload_n (pc := 49) dX5_alone_49 rfl ?_
        refine jw_iload_n (pc := 50) dX5_alone_50 rfl ?_
        first | refine jx_icmp_ge (pc := 51) (tgt := 77) dX5_alone_51 (by decide) (by omega) (by omega) ?_ ?_ | refine jw_icmp_ge (pc := 51) (tgt := 77) dX5_alone_51 (by decide) ?_ ?_
        · intro h_51
          first | refine jx_iinc (pc := 77) dX5_alone_77 rfl rfl ?_ | refine jw_iinc (pc := 77) dX5_alone_77 rfl rfl rfl ?_
          try dsimp only [jput1, jkill, jclr, jis2_i, jis2_l, jis2_rs, jis2_rn, cond]
          refine jw_goto (pc := 80) (tgt := 36) dX5_alone_80 (by decide) ?_
          refine jW.sub ?_ (ihk (j + 1) ⟨hkn, fun a ha b hb => ?_⟩ (by omega))
          · exact ⟨rfl, rfl, rfl, trivial⟩
          · by_cases e : a = j
            · subst e; exact hbs b hb
            · exact hall a (by omega) b hb
        · intro h_51
          omega
    refine jw_iload_n (pc := 36) dX5_alone_36 rfl ?_
    refine jw_aload_n (pc := 37) dX5_alone_37 rfl ?_
    refine jx_getRs (pc := 38) (jf_X5_380_4.r) rfl dX5_alone_38 rfl (is_90 hS) (by decide) (hs.r) ?_
    refine jx_getIs (pc := 41) (jf_X5_218_12.r) rfl dX5_alone_41 rfl (wis hw) (by decide) (mi_np hs.V) ?_
    first | refine jx_icmp_ge (pc := 44) (tgt := 83) dX5_alone_44 (by decide) (by omega) (by omega) ?_ ?_ | refine jw_icmp_ge (pc := 44) (tgt := 83) dX5_alone_44 (by decide) ?_ ?_
    · intro h_44
      omega
    · intro h_44
      refine jw_iconst (pc := 47) dX5_alone_47 ic_0 ?_
      refine jw_istore_n (pc := 48) dX5_alone_48 (Nat.le_of_ble_eq_true rfl) rfl ?_
      try dsimp only [jput1, jput2, jkill, jclr, jis2_i, jis2_l, jis2_rs, jis2_rn, cond]
      exact I 0 ⟨Nat.zero_le _, fun b hb => absurd hb (Nat.not_lt_zero _)⟩
  · have hk' : k = V 0 0 := by omega
    subst hk'
    refine jw_iload_n (pc := 36) dX5_alone_36 rfl ?_
    refine jw_aload_n (pc := 37) dX5_alone_37 rfl ?_
    refine jx_getRs (pc := 38) (jf_X5_380_4.r) rfl dX5_alone_38 rfl (is_90 hS) (by decide) (hs.r) ?_
    refine jx_getIs (pc := 41) (jf_X5_218_12.r) rfl dX5_alone_41 rfl (wis hw) (by decide) (mi_np hs.V) ?_
    first | refine jx_icmp_ge (pc := 44) (tgt := 83) dX5_alone_44 (by decide) (by omega) (by omega) ?_ ?_ | refine jw_icmp_ge (pc := 44) (tgt := 83) dX5_alone_44 (by decide) ?_ ?_
    · intro h_44
      refine jw_aload_n (pc := 83) dX5_alone_83 rfl ?_
      refine jw_bipush (pc := 84) dX5_alone_84 bp_m2 ?_
      refine jw_iconst (pc := 86) dX5_alone_86 ic_0 ?_
      refine jx_cVi (mi1 := mi_X5_told) (pc := 87) rfl dX5_alone_87 lk_X5_66 rfl fi_X5_told rfl rfl rfl (by decide) (is_90 hS) (t_X5_told0 hM) (by first | decide | omega) rfl rfl (by decide) ?_
      intro x_87 M_87 q_87
      refine jw_ireturn (pc := 90) dX5_alone_90 rfl (rfl) ?_
      refine end9 _ _ ?_
      rw [alone_n hs.w h1 hno hall]; exact q_87
    · intro h_44
      omega
theorem t_X5_alone {p : Int32} (h : jMm M σ) : jT G mi_X5_alone 9 [jr (some 90), .int p] M (jQm M σ (q_alone σ p)) := by
  have hS := h.1
  refine jT.of (by decide) rfl (Nat.le_of_ble_eq_true rfl) ?_
  refine jw_aload_n (pc := 0) dX5_alone_0 rfl ?_
  refine jw_iconst (pc := 1) dX5_alone_1 ic_0 ?_
  refine jx_putI (pc := 2) jf_X5_56_4 rfl dX5_alone_2 rfl rfl (is_90 hS) (by decide) ?_
  have hM := mthr (x := nI 0) h
  have hf : jfm M (js_I M 90 49 (nI 0)) := jsm.I (by decide)
  generalize js_I M 90 49 (nI 0) = M0 at hM hf ⊢
  clear hS
  have hS := hM.1
  refine jw_aload_n (pc := 5) dX5_alone_5 rfl ?_
  refine jw_iload_n (pc := 6) dX5_alone_6 rfl ?_
  refine jx_cVE (mi1 := mi_X5_isPlace) (pc := 7) rfl dX5_alone_7 lk_X5_414 rfl fi_X5_isPlace rfl rfl rfl (by decide) (is_90 hS) (t_X5_isPlace (o := sv σ) hM rfl) (by first | decide | omega) rfl rfl (by decide) ?_
  first | refine jx_ifb_ne (pc := 10) (tgt := 19) dX5_alone_10 (by decide) ?_ ?_ | refine jx_if_ne (pc := 10) (tgt := 19) dX5_alone_10 (by decide) (by omega) ?_ ?_ | refine jw_if_ne (pc := 10) (tgt := 19) dX5_alone_10 (by decide) ?_ ?_
  · intro h_10
    obtain ⟨V, kp, hv9, hkp, rfl⟩ := ixV_t h_10
    obtain ⟨w, hs, hN⟩ := hM.so hv9
    have hn := wf_np hs.w
    have hst1 := (h.2.1.1.2 V hv9).2.2
    have hg : glassV V kp < 1024 := msk10 hn _
    refine jw_aload_n (pc := 19) dX5_alone_19 rfl ?_
    refine jw_iload_n (pc := 20) dX5_alone_20 rfl ?_
    refine jx_cVE (mi1 := mi_X5_glassOf) (pc := 21) rfl dX5_alone_21 lk_X5_528 rfl fi_X5_glassOf rfl rfl rfl (by decide) (is_90 hS) (t_X5_glassOf hs hkp hst1) (by first | decide | omega) rfl rfl (by decide) ?_
    first | refine jx_ifb_eq (pc := 24) (tgt := 34) dX5_alone_24 (by decide) ?_ ?_ | refine jx_if_eq (pc := 24) (tgt := 34) dX5_alone_24 (by decide) (by omega) ?_ ?_ | refine jw_if_eq (pc := 24) (tgt := 34) dX5_alone_24 (by decide) ?_ ?_
    · intro h_24
      refine jw_iconst (pc := 34) dX5_alone_34 ic_0 ?_
      refine jw_istore_n (pc := 35) dX5_alone_35 (Nat.le_of_ble_eq_true rfl) rfl ?_
      try dsimp only [jput1, jput2, jkill, jclr, jis2_i, jis2_l, jis2_rs, jis2_rn, cond]
      exact lp_mal hM hs hkp hst1 (glass_0 h_24) (fun x M2 e => qm (by unfold q_alone; rw [if_pos h_10, vv_s hv9, iN_n (by omega)]) hf e) 0 ⟨Nat.zero_le _, fun a ha => absurd ha (Nat.not_lt_zero _)⟩
    · intro h_24
      refine jw_aload_n (pc := 27) dX5_alone_27 rfl ?_
      refine jw_iconst (pc := 28) dX5_alone_28 ic_1 ?_
      refine jw_iconst (pc := 29) dX5_alone_29 ic_0 ?_
      refine jx_cVi (mi1 := mi_X5_told) (pc := 30) rfl dX5_alone_30 lk_X5_66 rfl fi_X5_told rfl rfl rfl (by decide) (is_90 hS) (t_X5_told0 hM) (by first | decide | omega) rfl rfl (by decide) ?_
      intro x_30 M_30 q_30
      refine jw_ireturn (pc := 33) dX5_alone_33 rfl (rfl) ?_
      obtain ⟨a, ha, hk⟩ := glass_1 h_24
      refine qm ?_ hf q_30; unfold q_alone; rw [if_pos h_10, vv_s hv9, iN_n (by omega), alone_1 hs.w hst1 ha hk]; rfl
  · intro h_10
    refine jw_aload_n (pc := 13) dX5_alone_13 rfl ?_
    refine jw_iconst (pc := 14) dX5_alone_14 ic_1 ?_
    refine jx_cVi (mi1 := mi_X5_refused) (pc := 15) rfl dX5_alone_15 lk_X5_62 rfl fi_X5_refused rfl rfl rfl (by decide) (is_90 hS) (t_X5_refused hM) (by first | decide | omega) rfl rfl (by decide) ?_
    intro x_15 M_15 q_15
    refine jw_ireturn (pc := 18) dX5_alone_18 rfl (rfl) ?_
    refine qm ?_ hf q_15; unfold q_alone; rw [h_10]; rfl
end JGL2
