/-! ===== questions: what they answer ===== -/
def iN (a : Int32) : Nat := a.toInt.toNat
theorem iN_n {n : Nat} (h : n < 2 ^ 31) : iN (nI n) = n := by unfold iN; rw [nI_toInt h]; rfl
def vv (σ : Sg) : Vt := (sv σ).getD (fun _ _ => 0)
theorem vv_s {σ : Sg} {V : Vt} (h : sv σ = some V) : vv σ = V := by unfold vv; rw [h]; rfl
theorem ixV_t {o : Option Vt} {i : Nat} {a : Int32} (h : ixV o i a = true) : ∃ V k, o = some V ∧ k < V 0 i ∧ a = nI k := by
  cases o with
  | none => cases h
  | some V => obtain ⟨k, h1, h2⟩ := isIx_of h; exact ⟨V, k, rfl, h1, h2⟩
theorem ixV_s {V : Vt} {i k : Nat} (h : k < V 0 i) (h2 : V 0 i ≤ 10) : ixV (some V) i (nI k) = true := by
  show isIx _ _ = true
  rw [isIx_nI (by omega)]; exact decide_eq_true h
theorem b_bit {s k : Nat} : nI (s / 2 ^ k % 2) = jb (s.testBit k) := by
  have h := bit_1 s k
  have hm : s / 2 ^ k % 2 < 2 := Nat.mod_lt _ (by decide)
  cases hb : s.testBit k with
  | true => rw [h.mpr hb]; rfl
  | false => rw [show s / 2 ^ k % 2 = 0 by have : ¬ s / 2 ^ k % 2 = 1 := fun q => by rw [h.mp q] at hb; cases hb
                                           omega]; rfl
def q_plain (σ : Sg) (a b t : Int32) : Int32 × Int32 := if ixV (sv σ) 0 a && ixV (sv σ) 0 b && decide (a ≠ b) then (if isIx 200 t then (jb (plainB (vv σ) (rangeV (vv σ) (iN t)) 0 0 (iN a) (iN b)), 0) else (-1, 2)) else (-1, 1)
def q_sees (σ : Sg) (a t : Int32) : Int32 × Int32 := if ixV (sv σ) 0 a then (if isIx 200 t then (nI (seesS (vv σ) (rangeV (vv σ) (iN t)) 0 0 (iN a)), 0) else (-1, 2)) else (-1, 1)
def andM (n m : Nat) (f : Nat → Nat) : Nat := match n with
  | 0 => m
  | n + 1 => andM n m f &&& f n
def q_middle (σ : Sg) (t : Int32) : Int32 × Int32 := if stepW (sv σ) t = 0 then (nI (andM (vv σ 0 0) (2 ^ (vv σ 0 0) - 1) (seesS (vv σ) (rangeV (vv σ) (iN t)) 0 0)), 0) else (-1, stepW (sv σ) t)
def q_eyes (σ : Sg) (a t : Int32) : Int32 × Int32 := if ixV (sv σ) 1 a then (if isIx 200 t then (jb (eyesB (vv σ) (iN a) (iN t)), 0) else (-1, 2)) else (-1, 1)
def q_at (σ : Sg) (a : Int32) : Int32 × Int32 := if ixV (sv σ) 1 a then (nI (sa σ 0 (iN a)), 0) else (-1, 1)
def q_unseen (σ : Sg) : Int32 × Int32 := match sv σ with
  | none => (-1, 1)
  | some V => (nI (unseenS V (sa σ 0) (eyesS V (sn σ 0) 0) (seesS V (rangeV V (sn σ 0)) 0 0)), 0)
def q_lawful (σ : Sg) : Int32 × Int32 := match sv σ with
  | none => (-1, 1)
  | some V => (jb (lawfulV V (sa σ 0) (sn σ 0)), 0)
def q_by (σ : Sg) (a : Int32) : Int32 × Int32 := if ixV (sv σ) 1 a then (nI (watchS (vv σ) (sa σ 0) (eyesS (vv σ) (sn σ 0) 0) (seesS (vv σ) (rangeV (vv σ) (sn σ 0)) 0 0) (iN a)), 0) else (-1, 1)
def q_planned (σ : Sg) (a t : Int32) : Int32 × Int32 := if ixV (sv σ) 1 a then (if isIx (vv σ 0 12) t then (nI (sa σ 1 (100 * iN a + iN t)), 0) else (-1, 2)) else (-1, 1)
theorem qx_no {M M1 M2 : Mm} {σ : Sg} {q : Int32 × Int32} {x why : Int32} (hq : q = (-1, why)) (hf : jfx M M1) (e : x = -1 ∧ jXx M2 (sgT σ why (-1)) ∧ jfx M1 M2) : jQx M σ q (.inl (some (.int x))) M2 := by
  subst hq; exact ⟨x, rfl, e.1, e.2.1, hf.tr e.2.2⟩
theorem qx_ok {M M1 : Mm} {σ : Sg} {q : Int32 × Int32} {x : Int32} (hq : q = (x, 0)) (hf : jfx M M1) (hX : jXx M1 (sgT σ 0 (-1))) : jQx M σ q (.inl (some (.int x))) M1 := by
  subst hq; exact ⟨x, rfl, rfl, hX, hf⟩
theorem r_at {M : Mm} {V : Vt} {σ : Sg} (hS : jSh M) (ho : jSo σ) (hv : sv σ = some V) (hN : jXn M V σ) : jPr5 M 78 V (sa σ 0) := ⟨ok_78 hS, nn_78 hS, fun q hq => ⟨hN.2.2.2.1 q hq, (ho.2 V hv).2.1 q hq⟩⟩
theorem stepW_0 {o : Option Vt} {t : Int32} (h : stepW o t = 0) : ∃ V k, o = some V ∧ k < 200 ∧ t = nI k := by
  cases o with
  | none => exact absurd (show (1 : Int32) = 0 from h) (by decide)
  | some V =>
    unfold stepW at h
    by_cases q : isIx 200 t = true
    · obtain ⟨k, h1, h2⟩ := isIx_of q; exact ⟨V, k, rfl, h1, h2⟩
    · exact absurd (show (2 : Int32) = 0 by simpa [q] using h) (by decide)
theorem stepW_4 (o : Option Vt) (t : Int32) : stepW o t ≠ 4 := by
  cases o with
  | none => show (1 : Int32) ≠ 4; decide
  | some V => show (if isIx 200 t = true then (0 : Int32) else 2) ≠ 4; split <;> decide
theorem nI_ne {a b : Nat} (ha : a < 2 ^ 31) (hb : b < 2 ^ 31) (h : a ≠ b) : nI a ≠ nI b := fun q => by
  have q := congrArg Int32.toInt q
  rw [nI_toInt ha, nI_toInt hb] at q
  omega
section JO1
variable {G : Gh} {M : Mm} {σ : Sg}
theorem t_X1_plain {a b t : Int32} (h : jXx M σ) : jT G mi_X1_plain 9 [jr (some 64), .int a, .int b, .int t] M (jQx M σ (q_plain σ a b t)) := by
  have hS := h.1
  refine jT.of (by decide) rfl (Nat.le_of_ble_eq_true rfl) ?_
  refine jw_aload_n (pc := 0) dX1_plain_0 rfl ?_
  refine jx_cVv (mi1 := mi_X1_anew) (pc := 1) rfl dX1_plain_1 lk_X1_84 rfl fi_X1_anew rfl rfl rfl (by decide) (is_64 hS) (t_X1_anew h) (by first | decide | omega) rfl rfl (by decide) ?_
  intro M_1 q_1
  obtain ⟨hX, hf⟩ := q_1
  have hS := hX.1
  refine jw_aload_n (pc := 4) dX1_plain_4 rfl ?_
  refine jw_iload_n (pc := 5) dX1_plain_5 rfl ?_
  refine jx_cVE (mi1 := mi_X1_isPlace) (pc := 6) rfl dX1_plain_6 lk_X1_163 rfl fi_X1_isPlace rfl rfl rfl (by decide) (is_64 hS) (t_X1_isPlace (o := sv σ) hX rfl) (by first | decide | omega) rfl rfl (by decide) ?_
  first | refine jx_ifb_eq (pc := 9) (tgt := 25) dX1_plain_9 (by decide) ?_ ?_ | refine jx_if_eq (pc := 9) (tgt := 25) dX1_plain_9 (by decide) (by omega) ?_ ?_ | refine jw_if_eq (pc := 9) (tgt := 25) dX1_plain_9 (by decide) ?_ ?_
  · intro h_9
    refine jw_aload_n (pc := 25) dX1_plain_25 rfl ?_
    refine jw_iconst (pc := 26) dX1_plain_26 ic_1 ?_
    refine jx_cVi (mi1 := mi_X1_no) (pc := 27) rfl dX1_plain_27 lk_X1_98 rfl fi_X1_no rfl rfl rfl (by decide) (is_64 hS) (t_X1_no hX (by decide)) (by first | decide | omega) rfl rfl (by decide) ?_
    intro x_27 M_27 q_27
    refine jw_ireturn (pc := 30) dX1_plain_30 rfl (rfl) ?_
    refine qx_no ?_ hf q_27
    unfold q_plain
    first
      | (rw [h_9] <;> rfl)
      | (rw [h_17, Bool.and_false] <;> rfl)
      | (subst h_22; rw [if_neg (by simp)] <;> rfl)
  · intro h_9
    refine jw_aload_n (pc := 12) dX1_plain_12 rfl ?_
    refine jw_iload_n (pc := 13) dX1_plain_13 rfl ?_
    refine jx_cVE (mi1 := mi_X1_isPlace) (pc := 14) rfl dX1_plain_14 lk_X1_163 rfl fi_X1_isPlace rfl rfl rfl (by decide) (is_64 hS) (t_X1_isPlace (o := sv σ) hX rfl) (by first | decide | omega) rfl rfl (by decide) ?_
    first | refine jx_ifb_eq (pc := 17) (tgt := 25) dX1_plain_17 (by decide) ?_ ?_ | refine jx_if_eq (pc := 17) (tgt := 25) dX1_plain_17 (by decide) (by omega) ?_ ?_ | refine jw_if_eq (pc := 17) (tgt := 25) dX1_plain_17 (by decide) ?_ ?_
    · intro h_17
      refine jw_aload_n (pc := 25) dX1_plain_25 rfl ?_
      refine jw_iconst (pc := 26) dX1_plain_26 ic_1 ?_
      refine jx_cVi (mi1 := mi_X1_no) (pc := 27) rfl dX1_plain_27 lk_X1_98 rfl fi_X1_no rfl rfl rfl (by decide) (is_64 hS) (t_X1_no hX (by decide)) (by first | decide | omega) rfl rfl (by decide) ?_
      intro x_27 M_27 q_27
      refine jw_ireturn (pc := 30) dX1_plain_30 rfl (rfl) ?_
      refine qx_no ?_ hf q_27
      unfold q_plain
      first
        | (rw [h_9] <;> rfl)
        | (rw [h_17, Bool.and_false] <;> rfl)
        | (subst h_22; rw [if_neg (by simp)] <;> rfl)
    · intro h_17
      obtain ⟨V, ka, hv9, hka, rfl⟩ := ixV_t h_9
      obtain ⟨V', kb, hv', hkb, rfl⟩ := ixV_t h_17
      cases (Option.some.inj (hv9.symm.trans hv'))
      obtain ⟨v, hs, hN⟩ := hX.so hv9
      have hn := wf_np hs.w
      refine jw_iload_n (pc := 20) dX1_plain_20 rfl ?_
      refine jw_iload_n (pc := 21) dX1_plain_21 rfl ?_
      first | refine jx_icmp_ne (pc := 22) (tgt := 31) dX1_plain_22 (by decide) (by omega) (by omega) ?_ ?_ | refine jw_icmp_ne (pc := 22) (tgt := 31) dX1_plain_22 (by decide) ?_ ?_
      · intro h_22
        refine jw_iload_n (pc := 31) dX1_plain_31 rfl ?_
        refine jx_cSE (mi1 := mi_X1_isStep) (pc := 32) rfl dX1_plain_32 lk_X1_156 rfl fi_X1_isStep (t_X1_isStep) (by first | decide | omega) rfl rfl (by decide) ?_
        first | refine jx_ifb_eq (pc := 35) (tgt := 55) dX1_plain_35 (by decide) ?_ ?_ | refine jx_if_eq (pc := 35) (tgt := 55) dX1_plain_35 (by decide) (by omega) ?_ ?_ | refine jw_if_eq (pc := 35) (tgt := 55) dX1_plain_35 (by decide) ?_ ?_
        · intro h_35
          refine jw_aload_n (pc := 55) dX1_plain_55 rfl ?_
          refine jw_iconst (pc := 56) dX1_plain_56 ic_2 ?_
          refine jx_cVi (mi1 := mi_X1_no) (pc := 57) rfl dX1_plain_57 lk_X1_98 rfl fi_X1_no rfl rfl rfl (by decide) (is_64 hS) (t_X1_no hX (by decide)) (by first | decide | omega) rfl rfl (by decide) ?_
          intro x_57 M_57 q_57
          refine jw_ireturn (pc := 60) dX1_plain_60 rfl (rfl) ?_
          first
            | (refine qx_no ?_ hf q_57; unfold q_plain; rw [hv9, ixV_s hka hn, ixV_s hkb hn, if_pos (by simpa using nI_ne (by omega) (by omega) h_22), if_neg (by rw [h_35]; decide)] <;> rfl)
            | (refine qx_ok ?_ hf hX; unfold q_plain; rw [vv_s hv9, hv9, ixV_s hka hn, ixV_s hkb hn, if_pos (by simpa using nI_ne (by omega) (by omega) h_22), if_pos h_35, iN_n (by omega), iN_n (by omega), iN_n (by omega), plain_bit]; simp [hkb] <;> rfl)
        · intro h_35
          obtain ⟨kt, hkt, rfl⟩ := isIx_of h_35
          obtain ⟨s1, s2, s3, s4, s5, s6, s7, s8, s9⟩ := sgt_si hs kt
          have hp := plain_lt hs.w (rangeV V kt) 0 0 ka
          refine jw_aload_n (pc := 38) dX1_plain_38 rfl ?_
          refine jw_iload_n (pc := 39) dX1_plain_39 rfl ?_
          refine jx_cVE (mi1 := mi_X1_sight) (pc := 40) rfl dX1_plain_40 lk_X1_166 rfl fi_X1_sight rfl rfl rfl (by decide) (is_64 hS) (t_X1_sight hs (by omega)) (by first | decide | omega) rfl rfl (by decide) ?_
          refine jx_getRs (pc := 43) jg_X1_170_3 rfl dX1_plain_43 rfl (s1) (by decide) (s2) ?_
          refine jw_iload_n (pc := 46) dX1_plain_46 rfl ?_
          refine jx_ialds (pc := 47) dX1_plain_47 (s4) (s5) rfl (by omega) (sgt_p hs kt hka) ?_
          refine jw_iload_n (pc := 48) dX1_plain_48 rfl ?_
          refine jw_ishr (pc := 49) dX1_plain_49 ?_
          rw [j_shr (by omega) (by omega)]
          refine jw_iconst (pc := 50) dX1_plain_50 ic_1 ?_
          refine jw_iand (pc := 51) dX1_plain_51 ?_
          rw [j_and1 (Nat.lt_of_le_of_lt (Nat.div_le_self _ _) (by omega)), b_bit]
          refine jw_goto (pc := 52) (tgt := 60) dX1_plain_52 (by decide) ?_
          refine jw_ireturn (pc := 60) dX1_plain_60 rfl (rfl) ?_
          first
            | (refine qx_no ?_ hf q_57; unfold q_plain; rw [hv9, ixV_s hka hn, ixV_s hkb hn, if_pos (by simpa using nI_ne (by omega) (by omega) h_22), if_neg (by rw [h_35]; decide)] <;> rfl)
            | (refine qx_ok ?_ hf hX; unfold q_plain; rw [vv_s hv9, hv9, ixV_s hka hn, ixV_s hkb hn, if_pos (by simpa using nI_ne (by omega) (by omega) h_22), if_pos h_35, iN_n (by omega), iN_n (by omega), iN_n (by omega), plain_bit]; simp [hkb] <;> rfl)
      · intro h_22
        refine jw_aload_n (pc := 25) dX1_plain_25 rfl ?_
        refine jw_iconst (pc := 26) dX1_plain_26 ic_1 ?_
        refine jx_cVi (mi1 := mi_X1_no) (pc := 27) rfl dX1_plain_27 lk_X1_98 rfl fi_X1_no rfl rfl rfl (by decide) (is_64 hS) (t_X1_no hX (by decide)) (by first | decide | omega) rfl rfl (by decide) ?_
        intro x_27 M_27 q_27
        refine jw_ireturn (pc := 30) dX1_plain_30 rfl (rfl) ?_
        refine qx_no ?_ hf q_27
        unfold q_plain
        first
          | (rw [h_9] <;> rfl)
          | (rw [h_17, Bool.and_false] <;> rfl)
          | (subst h_22; rw [if_neg (by simp)] <;> rfl)
theorem t_X1_sees {a t : Int32} (h : jXx M σ) : jT G mi_X1_sees 9 [jr (some 64), .int a, .int t] M (jQx M σ (q_sees σ a t)) := by
  have hS := h.1
  refine jT.of (by decide) rfl (Nat.le_of_ble_eq_true rfl) ?_
  refine jw_aload_n (pc := 0) dX1_sees_0 rfl ?_
  refine jx_cVv (mi1 := mi_X1_anew) (pc := 1) rfl dX1_sees_1 lk_X1_84 rfl fi_X1_anew rfl rfl rfl (by decide) (is_64 hS) (t_X1_anew h) (by first | decide | omega) rfl rfl (by decide) ?_
  intro M_1 q_1
  obtain ⟨hX, hf⟩ := q_1
  have hS := hX.1
  refine jw_aload_n (pc := 4) dX1_sees_4 rfl ?_
  refine jw_iload_n (pc := 5) dX1_sees_5 rfl ?_
  refine jx_cVE (mi1 := mi_X1_isPlace) (pc := 6) rfl dX1_sees_6 lk_X1_163 rfl fi_X1_isPlace rfl rfl rfl (by decide) (is_64 hS) (t_X1_isPlace (o := sv σ) hX rfl) (by first | decide | omega) rfl rfl (by decide) ?_
  first | refine jx_ifb_ne (pc := 9) (tgt := 18) dX1_sees_9 (by decide) ?_ ?_ | refine jx_if_ne (pc := 9) (tgt := 18) dX1_sees_9 (by decide) (by omega) ?_ ?_ | refine jw_if_ne (pc := 9) (tgt := 18) dX1_sees_9 (by decide) ?_ ?_
  · intro h_9
    obtain ⟨V, ka, hv9, hka, rfl⟩ := ixV_t h_9
    obtain ⟨v, hs, hN⟩ := hX.so hv9
    have hn := wf_np hs.w
    refine jw_iload_n (pc := 18) dX1_sees_18 rfl ?_
    refine jx_cSE (mi1 := mi_X1_isStep) (pc := 19) rfl dX1_sees_19 lk_X1_156 rfl fi_X1_isStep (t_X1_isStep) (by first | decide | omega) rfl rfl (by decide) ?_
    first | refine jx_ifb_eq (pc := 22) (tgt := 37) dX1_sees_22 (by decide) ?_ ?_ | refine jx_if_eq (pc := 22) (tgt := 37) dX1_sees_22 (by decide) (by omega) ?_ ?_ | refine jw_if_eq (pc := 22) (tgt := 37) dX1_sees_22 (by decide) ?_ ?_
    · intro h_22
      refine jw_aload_n (pc := 37) dX1_sees_37 rfl ?_
      refine jw_iconst (pc := 38) dX1_sees_38 ic_2 ?_
      refine jx_cVi (mi1 := mi_X1_no) (pc := 39) rfl dX1_sees_39 lk_X1_98 rfl fi_X1_no rfl rfl rfl (by decide) (is_64 hS) (t_X1_no hX (by decide)) (by first | decide | omega) rfl rfl (by decide) ?_
      intro x_39 M_39 q_39
      refine jw_ireturn (pc := 42) dX1_sees_42 rfl (rfl) ?_
      first
        | (refine qx_no ?_ hf q_39; unfold q_sees; rw [if_pos h_9, if_neg (by rw [h_22]; decide)] <;> rfl)
        | (refine qx_ok ?_ hf hX; unfold q_sees; rw [if_pos h_9, if_pos h_22, vv_s hv9, iN_n (by omega), iN_n (by omega)] <;> rfl)
    · intro h_22
      obtain ⟨kt, hkt, rfl⟩ := isIx_of h_22
      refine jw_aload_n (pc := 25) dX1_sees_25 rfl ?_
      refine jw_iload_n (pc := 26) dX1_sees_26 rfl ?_
      refine jx_cVE (mi1 := mi_X1_sight) (pc := 27) rfl dX1_sees_27 lk_X1_166 rfl fi_X1_sight rfl rfl rfl (by decide) (is_64 hS) (t_X1_sight hs (by omega)) (by first | decide | omega) rfl rfl (by decide) ?_
      refine jw_iload_n (pc := 30) dX1_sees_30 rfl ?_
      refine jx_cVE (mi1 := mi_X4_sees) (pc := 31) rfl dX1_sees_31 lk_X1_173 rfl fi_X4_sees rfl rfl rfl (by decide) ((sgt_si hs kt).1) (t_X4_sees (V := V) (sgt_si hs kt) (fun a ha => sgt_s hs kt ha) hka hn) (by first | decide | omega) rfl rfl (by decide) ?_
      refine jw_goto (pc := 34) (tgt := 42) dX1_sees_34 (by decide) ?_
      refine jw_ireturn (pc := 42) dX1_sees_42 rfl (rfl) ?_
      first
        | (refine qx_no ?_ hf q_39; unfold q_sees; rw [if_pos h_9, if_neg (by rw [h_22]; decide)] <;> rfl)
        | (refine qx_ok ?_ hf hX; unfold q_sees; rw [if_pos h_9, if_pos h_22, vv_s hv9, iN_n (by omega), iN_n (by omega)] <;> rfl)
  · intro h_9
    refine jw_aload_n (pc := 12) dX1_sees_12 rfl ?_
    refine jw_iconst (pc := 13) dX1_sees_13 ic_1 ?_
    refine jx_cVi (mi1 := mi_X1_no) (pc := 14) rfl dX1_sees_14 lk_X1_98 rfl fi_X1_no rfl rfl rfl (by decide) (is_64 hS) (t_X1_no hX (by decide)) (by first | decide | omega) rfl rfl (by decide) ?_
    intro x_14 M_14 q_14
    refine jw_ireturn (pc := 17) dX1_sees_17 rfl (rfl) ?_
    refine qx_no ?_ hf q_14
    unfold q_sees
    rw [h_9]; rfl
theorem t_X1_eyes {a t : Int32} (h : jXx M σ) : jT G mi_X1_eyes 9 [jr (some 64), .int a, .int t] M (jQx M σ (q_eyes σ a t)) := by
  have hS := h.1
  refine jT.of (by decide) rfl (Nat.le_of_ble_eq_true rfl) ?_
  refine jw_aload_n (pc := 0) dX1_eyes_0 rfl ?_
  refine jx_cVv (mi1 := mi_X1_anew) (pc := 1) rfl dX1_eyes_1 lk_X1_84 rfl fi_X1_anew rfl rfl rfl (by decide) (is_64 hS) (t_X1_anew h) (by first | decide | omega) rfl rfl (by decide) ?_
  intro M_1 q_1
  obtain ⟨hX, hf⟩ := q_1
  have hS := hX.1
  refine jw_aload_n (pc := 4) dX1_eyes_4 rfl ?_
  refine jw_iload_n (pc := 5) dX1_eyes_5 rfl ?_
  refine jx_cVE (mi1 := mi_X1_isPerson) (pc := 6) rfl dX1_eyes_6 lk_X1_183 rfl fi_X1_isPerson rfl rfl rfl (by decide) (is_64 hS) (t_X1_isPerson (o := sv σ) hX rfl) (by first | decide | omega) rfl rfl (by decide) ?_
  first | refine jx_ifb_ne (pc := 9) (tgt := 18) dX1_eyes_9 (by decide) ?_ ?_ | refine jx_if_ne (pc := 9) (tgt := 18) dX1_eyes_9 (by decide) (by omega) ?_ ?_ | refine jw_if_ne (pc := 9) (tgt := 18) dX1_eyes_9 (by decide) ?_ ?_
  · intro h_9
    obtain ⟨V, ka, hv9, hka, rfl⟩ := ixV_t h_9
    obtain ⟨v, hs, hN⟩ := hX.so hv9
    have hv := hs.s
    have hn := wf_nq hs.w
    obtain ⟨p, p1, p2, p3⟩ := pe_x hs.V hka
    refine jw_iload_n (pc := 18) dX1_eyes_18 rfl ?_
    refine jx_cSE (mi1 := mi_X1_isStep) (pc := 19) rfl dX1_eyes_19 lk_X1_156 rfl fi_X1_isStep (t_X1_isStep) (by first | decide | omega) rfl rfl (by decide) ?_
    first | refine jx_ifb_eq (pc := 22) (tgt := 49) dX1_eyes_22 (by decide) ?_ ?_ | refine jx_if_eq (pc := 22) (tgt := 49) dX1_eyes_22 (by decide) (by omega) ?_ ?_ | refine jw_if_eq (pc := 22) (tgt := 49) dX1_eyes_22 (by decide) ?_ ?_
    · intro h_22
      refine jw_aload_n (pc := 49) dX1_eyes_49 rfl ?_
      refine jw_iconst (pc := 50) dX1_eyes_50 ic_2 ?_
      refine jx_cVi (mi1 := mi_X1_no) (pc := 51) rfl dX1_eyes_51 lk_X1_98 rfl fi_X1_no rfl rfl rfl (by decide) (is_64 hS) (t_X1_no hX (by decide)) (by first | decide | omega) rfl rfl (by decide) ?_
      intro x_51 M_51 q_51
      refine jw_ireturn (pc := 54) dX1_eyes_54 rfl (rfl) ?_
      first
        | (refine qx_no ?_ hf q_51; unfold q_eyes; rw [if_pos h_9, if_neg (by rw [h_22]; decide)] <;> rfl)
        | (refine qx_ok ?_ hf hX; unfold q_eyes; rw [if_pos h_9, if_pos h_22, vv_s hv9, iN_n (by omega), iN_n (by omega), h_38] <;> rfl)
    · intro h_22
      obtain ⟨kt, hkt, rfl⟩ := isIx_of h_22
      refine jw_aload_n (pc := 25) dX1_eyes_25 rfl ?_
      refine jx_getRs (pc := 26) (jf_X1_109_0.r) rfl dX1_eyes_26 rfl (is_64 hS) (by decide) (hs.r) ?_
      refine jx_getRs (pc := 29) jg_X1_140_5 rfl dX1_eyes_29 rfl (vis hv) (by decide) (vr_2 hv) ?_
      refine jw_iload_n (pc := 32) dX1_eyes_32 rfl ?_
      refine jx_aalds (pc := 33) (by decide) (by decide) dX1_eyes_33 (vok_2 hv) (vnn_2 hv) rfl (by omega) (p1) ?_
      refine jw_iload_n (pc := 34) dX1_eyes_34 rfl ?_
      refine jx_cVE (mi1 := mi_X9_watches) (pc := 35) rfl dX1_eyes_35 lk_X1_186 rfl fi_X9_watches rfl rfl rfl (by decide) (p2) (t_X9_watches hs.V hs.w hka (by omega) p1) (by first | decide | omega) rfl rfl (by decide) ?_
      first | refine jx_ifb_eq (pc := 38) (tgt := 45) dX1_eyes_38 (by decide) ?_ ?_ | refine jx_if_eq (pc := 38) (tgt := 45) dX1_eyes_38 (by decide) (by omega) ?_ ?_ | refine jw_if_eq (pc := 38) (tgt := 45) dX1_eyes_38 (by decide) ?_ ?_
      · intro h_38
        refine jw_iconst (pc := 45) dX1_eyes_45 ic_0 ?_
        refine jw_goto (pc := 46) (tgt := 54) dX1_eyes_46 (by decide) ?_
        refine jw_ireturn (pc := 54) dX1_eyes_54 rfl (rfl) ?_
        first
          | (refine qx_no ?_ hf q_51; unfold q_eyes; rw [if_pos h_9, if_neg (by rw [h_22]; decide)] <;> rfl)
          | (refine qx_ok ?_ hf hX; unfold q_eyes; rw [if_pos h_9, if_pos h_22, vv_s hv9, iN_n (by omega), iN_n (by omega), h_38] <;> rfl)
      · intro h_38
        refine jw_iconst (pc := 41) dX1_eyes_41 ic_1 ?_
        refine jw_goto (pc := 42) (tgt := 54) dX1_eyes_42 (by decide) ?_
        refine jw_ireturn (pc := 54) dX1_eyes_54 rfl (rfl) ?_
        first
          | (refine qx_no ?_ hf q_51; unfold q_eyes; rw [if_pos h_9, if_neg (by rw [h_22]; decide)] <;> rfl)
          | (refine qx_ok ?_ hf hX; unfold q_eyes; rw [if_pos h_9, if_pos h_22, vv_s hv9, iN_n (by omega), iN_n (by omega), h_38] <;> rfl)
  · intro h_9
    refine jw_aload_n (pc := 12) dX1_eyes_12 rfl ?_
    refine jw_iconst (pc := 13) dX1_eyes_13 ic_1 ?_
    refine jx_cVi (mi1 := mi_X1_no) (pc := 14) rfl dX1_eyes_14 lk_X1_98 rfl fi_X1_no rfl rfl rfl (by decide) (is_64 hS) (t_X1_no hX (by decide)) (by first | decide | omega) rfl rfl (by decide) ?_
    intro x_14 M_14 q_14
    refine jw_ireturn (pc := 17) dX1_eyes_17 rfl (rfl) ?_
    refine qx_no ?_ hf q_14
    unfold q_eyes
    rw [h_9]; rfl
theorem t_X1_at {a : Int32} (h : jXx M σ) : jT G mi_X1_at 9 [jr (some 64), .int a] M (jQx M σ (q_at σ a)) := by
  have hS := h.1
  refine jT.of (by decide) rfl (Nat.le_of_ble_eq_true rfl) ?_
  refine jw_aload_n (pc := 0) dX1_at_0 rfl ?_
  refine jx_cVv (mi1 := mi_X1_anew) (pc := 1) rfl dX1_at_1 lk_X1_84 rfl fi_X1_anew rfl rfl rfl (by decide) (is_64 hS) (t_X1_anew h) (by first | decide | omega) rfl rfl (by decide) ?_
  intro M_1 q_1
  obtain ⟨hX, hf⟩ := q_1
  have hS := hX.1
  refine jw_aload_n (pc := 4) dX1_at_4 rfl ?_
  refine jw_iload_n (pc := 5) dX1_at_5 rfl ?_
  refine jx_cVE (mi1 := mi_X1_isPerson) (pc := 6) rfl dX1_at_6 lk_X1_183 rfl fi_X1_isPerson rfl rfl rfl (by decide) (is_64 hS) (t_X1_isPerson (o := sv σ) hX rfl) (by first | decide | omega) rfl rfl (by decide) ?_
  first | refine jx_ifb_eq (pc := 9) (tgt := 21) dX1_at_9 (by decide) ?_ ?_ | refine jx_if_eq (pc := 9) (tgt := 21) dX1_at_9 (by decide) (by omega) ?_ ?_ | refine jw_if_eq (pc := 9) (tgt := 21) dX1_at_9 (by decide) ?_ ?_
  · intro h_9
    refine jw_aload_n (pc := 21) dX1_at_21 rfl ?_
    refine jw_iconst (pc := 22) dX1_at_22 ic_1 ?_
    refine jx_cVi (mi1 := mi_X1_no) (pc := 23) rfl dX1_at_23 lk_X1_98 rfl fi_X1_no rfl rfl rfl (by decide) (is_64 hS) (t_X1_no hX (by decide)) (by first | decide | omega) rfl rfl (by decide) ?_
    intro x_23 M_23 q_23
    refine jw_ireturn (pc := 26) dX1_at_26 rfl (rfl) ?_
    first
      | (refine qx_no ?_ hf q_23; unfold q_at; rw [if_neg (by rw [h_9]; decide)] <;> rfl)
      | (refine qx_ok ?_ hf hX; unfold q_at; rw [if_pos h_9, iN_n (by omega)] <;> rfl)
  · intro h_9
    obtain ⟨V, ka, hv9, hka, rfl⟩ := ixV_t h_9
    obtain ⟨v, hs, hN⟩ := hX.so hv9
    have hn := wf_nq hs.w
    refine jw_aload_n (pc := 12) dX1_at_12 rfl ?_
    refine jx_getRs (pc := 13) (jf_X1_39_0.r) rfl dX1_at_13 rfl (is_64 hS) (by decide) (sr_64_10 hS) ?_
    refine jw_iload_n (pc := 16) dX1_at_16 rfl ?_
    refine jx_ialds (pc := 17) dX1_at_17 (ok_78 hS) (nn_78 hS) rfl (by omega) (hN.2.2.2.1 _ hka) ?_
    refine jw_goto (pc := 18) (tgt := 26) dX1_at_18 (by decide) ?_
    refine jw_ireturn (pc := 26) dX1_at_26 rfl (rfl) ?_
    first
      | (refine qx_no ?_ hf q_23; unfold q_at; rw [if_neg (by rw [h_9]; decide)] <;> rfl)
      | (refine qx_ok ?_ hf hX; unfold q_at; rw [if_pos h_9, iN_n (by omega)] <;> rfl)
theorem t_X1_unseen (h : jXx M σ) : jT G mi_X1_unseen 9 [jr (some 64)] M (jQx M σ (q_unseen σ)) := by
  have hS := h.1
  refine jT.of (by decide) rfl (Nat.le_of_ble_eq_true rfl) ?_
  cases hv9 : sv σ with
  | none =>
    refine jw_aload_n (pc := 0) dX1_unseen_0 rfl ?_
    refine jx_cVv (mi1 := mi_X1_anew) (pc := 1) rfl dX1_unseen_1 lk_X1_84 rfl fi_X1_anew rfl rfl rfl (by decide) (is_64 hS) (t_X1_anew h) (by first | decide | omega) rfl rfl (by decide) ?_
    intro M_1 q_1
    obtain ⟨hX, hf⟩ := q_1
    have hS := hX.1
    refine jw_aload_n (pc := 4) dX1_unseen_4 rfl ?_
    refine jx_getRs (pc := 5) (jf_X1_109_0.r) rfl dX1_unseen_5 rfl (is_64 hS) (by decide) (hX.no hv9) ?_
    refine jw_ifnonnull (pc := 8) (tgt := 19) dX1_unseen_8 (by decide) (fun ax h => by cases h) (fun h => ?_)
    clear h
    refine jw_aload_n (pc := 11) dX1_unseen_11 rfl ?_
    refine jw_iconst (pc := 12) dX1_unseen_12 ic_1 ?_
    refine jx_cVi (mi1 := mi_X1_no) (pc := 13) rfl dX1_unseen_13 lk_X1_98 rfl fi_X1_no rfl rfl rfl (by decide) (is_64 hS) (t_X1_no hX (by decide)) (by first | decide | omega) rfl rfl (by decide) ?_
    intro x_13 M_13 q_13
    refine jw_goto (pc := 16) (tgt := 44) dX1_unseen_16 (by decide) ?_
    refine jw_ireturn (pc := 44) dX1_unseen_44 rfl (rfl) ?_
    refine qx_no ?_ hf q_13
    unfold q_unseen; rw [hv9] <;> rfl
  | some V =>
    refine jw_aload_n (pc := 0) dX1_unseen_0 rfl ?_
    refine jx_cVv (mi1 := mi_X1_anew) (pc := 1) rfl dX1_unseen_1 lk_X1_84 rfl fi_X1_anew rfl rfl rfl (by decide) (is_64 hS) (t_X1_anew h) (by first | decide | omega) rfl rfl (by decide) ?_
    intro M_1 q_1
    obtain ⟨hX, hf⟩ := q_1
    have hS := hX.1
    obtain ⟨v, hs, hN⟩ := hX.so hv9
    have hst := (h.2.1.2 V hv9).2.2.2.1
    have he : eyesS V (sn σ 0) 0 < 32 := msk5 (wf_nq hs.w) _
    refine jw_aload_n (pc := 4) dX1_unseen_4 rfl ?_
    refine jx_getRs (pc := 5) (jf_X1_109_0.r) rfl dX1_unseen_5 rfl (is_64 hS) (by decide) (hs.r) ?_
    refine jw_ifnonnull (pc := 8) (tgt := 19) dX1_unseen_8 (by decide) (fun ax h => ?_) (fun h => by cases h)
    clear h
    refine jw_aload_n (pc := 19) dX1_unseen_19 rfl ?_
    refine jw_aload_n (pc := 20) dX1_unseen_20 rfl ?_
    refine jx_getRs (pc := 21) (jf_X1_39_0.r) rfl dX1_unseen_21 rfl (is_64 hS) (by decide) (sr_64_10 hS) ?_
    refine jw_aload_n (pc := 24) dX1_unseen_24 rfl ?_
    refine jw_aload_n (pc := 25) dX1_unseen_25 rfl ?_
    refine jx_getIs (pc := 26) (jf_X1_131_0.r) rfl dX1_unseen_26 rfl (is_64 hS) (by decide) (hN.1) ?_
    refine jw_iconst (pc := 29) dX1_unseen_29 ic_0 ?_
    refine jx_cVE (mi1 := mi_X1_watching) (pc := 30) rfl dX1_unseen_30 lk_X1_210 rfl fi_X1_watching rfl rfl rfl (by decide) (is_64 hS) (t_X1_watching (t := sn σ 0) hs (by omega) (by decide)) (by first | decide | omega) rfl rfl (by simp only [List.map_cons, List.map_nil, List.sum_cons, List.sum_nil, cat_i, cat_l, jr_cat]; decide) ?_
    refine jw_aload_n (pc := 33) dX1_unseen_33 rfl ?_
    refine jw_aload_n (pc := 34) dX1_unseen_34 rfl ?_
    refine jx_getIs (pc := 35) (jf_X1_131_0.r) rfl dX1_unseen_35 rfl (is_64 hS) (by decide) (hN.1) ?_
    refine jx_cVE (mi1 := mi_X1_sight) (pc := 38) rfl dX1_unseen_38 lk_X1_166 rfl fi_X1_sight rfl rfl rfl (by decide) (is_64 hS) (t_X1_sight (t := sn σ 0) hs (by omega)) (by first | decide | omega) rfl rfl (by simp only [List.map_cons, List.map_nil, List.sum_cons, List.sum_nil, cat_i, cat_l, jr_cat]; decide) ?_
    refine jx_cVE (mi1 := mi_X1_unseenAt) (pc := 41) rfl dX1_unseen_41 lk_X1_206 rfl fi_X1_unseenAt rfl rfl rfl (by decide) (is_64 hS) (t_X1_unseenAt hs (r_at hS h.2.1 hv9 hN) (sgt_sr hs _) (by omega)) (by first | decide | omega) rfl rfl (by decide) ?_
    refine jw_ireturn (pc := 44) dX1_unseen_44 rfl (rfl) ?_
    refine qx_ok ?_ hf hX
    unfold q_unseen; rw [hv9]
theorem t_X1_lawful (h : jXx M σ) : jT G mi_X1_lawful 9 [jr (some 64)] M (jQx M σ (q_lawful σ)) := by
  have hS := h.1
  refine jT.of (by decide) rfl (Nat.le_of_ble_eq_true rfl) ?_
  cases hv9 : sv σ with
  | none =>
    refine jw_aload_n (pc := 0) dX1_lawful_0 rfl ?_
    refine jx_cVv (mi1 := mi_X1_anew) (pc := 1) rfl dX1_lawful_1 lk_X1_84 rfl fi_X1_anew rfl rfl rfl (by decide) (is_64 hS) (t_X1_anew h) (by first | decide | omega) rfl rfl (by decide) ?_
    intro M_1 q_1
    obtain ⟨hX, hf⟩ := q_1
    have hS := hX.1
    refine jw_aload_n (pc := 4) dX1_lawful_4 rfl ?_
    refine jx_getRs (pc := 5) (jf_X1_109_0.r) rfl dX1_lawful_5 rfl (is_64 hS) (by decide) (hX.no hv9) ?_
    refine jw_ifnonnull (pc := 8) (tgt := 19) dX1_lawful_8 (by decide) (fun ax h => by cases h) (fun h => ?_)
    clear h
    refine jw_aload_n (pc := 11) dX1_lawful_11 rfl ?_
    refine jw_iconst (pc := 12) dX1_lawful_12 ic_1 ?_
    refine jx_cVi (mi1 := mi_X1_no) (pc := 13) rfl dX1_lawful_13 lk_X1_98 rfl fi_X1_no rfl rfl rfl (by decide) (is_64 hS) (t_X1_no hX (by decide)) (by first | decide | omega) rfl rfl (by decide) ?_
    intro x_13 M_13 q_13
    refine jw_goto (pc := 16) (tgt := 39) dX1_lawful_16 (by decide) ?_
    refine jw_ireturn (pc := 39) dX1_lawful_39 rfl (rfl) ?_
    refine qx_no ?_ hf q_13
    unfold q_lawful; rw [hv9] <;> rfl
  | some V =>
    refine jw_aload_n (pc := 0) dX1_lawful_0 rfl ?_
    refine jx_cVv (mi1 := mi_X1_anew) (pc := 1) rfl dX1_lawful_1 lk_X1_84 rfl fi_X1_anew rfl rfl rfl (by decide) (is_64 hS) (t_X1_anew h) (by first | decide | omega) rfl rfl (by decide) ?_
    intro M_1 q_1
    obtain ⟨hX, hf⟩ := q_1
    have hS := hX.1
    obtain ⟨v, hs, hN⟩ := hX.so hv9
    have hst := (h.2.1.2 V hv9).2.2.2.1
    refine jw_aload_n (pc := 4) dX1_lawful_4 rfl ?_
    refine jx_getRs (pc := 5) (jf_X1_109_0.r) rfl dX1_lawful_5 rfl (is_64 hS) (by decide) (hs.r) ?_
    refine jw_ifnonnull (pc := 8) (tgt := 19) dX1_lawful_8 (by decide) (fun ax h => ?_) (fun h => by cases h)
    clear h
    refine jw_aload_n (pc := 19) dX1_lawful_19 rfl ?_
    refine jw_aload_n (pc := 20) dX1_lawful_20 rfl ?_
    refine jx_getRs (pc := 21) (jf_X1_39_0.r) rfl dX1_lawful_21 rfl (is_64 hS) (by decide) (sr_64_10 hS) ?_
    refine jw_aload_n (pc := 24) dX1_lawful_24 rfl ?_
    refine jx_getIs (pc := 25) (jf_X1_131_0.r) rfl dX1_lawful_25 rfl (is_64 hS) (by decide) (hN.1) ?_
    refine jx_cVE (mi1 := mi_X1_isLawfulAt) (pc := 28) rfl dX1_lawful_28 lk_X1_221 rfl fi_X1_isLawfulAt rfl rfl rfl (by decide) (is_64 hS) (t_X1_isLawfulAt (t := sn σ 0) (pl := sa σ 0) hs (r_at hS h.2.1 hv9 hN) (by omega)) (by first | decide | omega) rfl rfl (by decide) ?_
    first | refine jx_ifb_eq (pc := 31) (tgt := 38) dX1_lawful_31 (by decide) ?_ ?_ | refine jx_if_eq (pc := 31) (tgt := 38) dX1_lawful_31 (by decide) (by omega) ?_ ?_ | refine jw_if_eq (pc := 31) (tgt := 38) dX1_lawful_31 (by decide) ?_ ?_
    · intro h_31
      refine jw_iconst (pc := 38) dX1_lawful_38 ic_0 ?_
      refine jw_ireturn (pc := 39) dX1_lawful_39 rfl (rfl) ?_
      refine qx_ok ?_ hf hX
      unfold q_lawful; rw [hv9]
      simp only [h_31]; rfl
    · intro h_31
      refine jw_iconst (pc := 34) dX1_lawful_34 ic_1 ?_
      refine jw_goto (pc := 35) (tgt := 39) dX1_lawful_35 (by decide) ?_
      refine jw_ireturn (pc := 39) dX1_lawful_39 rfl (rfl) ?_
      refine qx_ok ?_ hf hX
      unfold q_lawful; rw [hv9]
      simp only [h_31]; rfl
theorem t_X1_by {a : Int32} (h : jXx M σ) : jT G mi_X1_by 9 [jr (some 64), .int a] M (jQx M σ (q_by σ a)) := by
  have hS := h.1
  refine jT.of (by decide) rfl (Nat.le_of_ble_eq_true rfl) ?_
  refine jw_aload_n (pc := 0) dX1_by_0 rfl ?_
  refine jx_cVv (mi1 := mi_X1_anew) (pc := 1) rfl dX1_by_1 lk_X1_84 rfl fi_X1_anew rfl rfl rfl (by decide) (is_64 hS) (t_X1_anew h) (by first | decide | omega) rfl rfl (by decide) ?_
  intro M_1 q_1
  obtain ⟨hX, hf⟩ := q_1
  have hS := hX.1
  refine jw_aload_n (pc := 4) dX1_by_4 rfl ?_
  refine jw_iload_n (pc := 5) dX1_by_5 rfl ?_
  refine jx_cVE (mi1 := mi_X1_isPerson) (pc := 6) rfl dX1_by_6 lk_X1_183 rfl fi_X1_isPerson rfl rfl rfl (by decide) (is_64 hS) (t_X1_isPerson (o := sv σ) hX rfl) (by first | decide | omega) rfl rfl (by decide) ?_
  first | refine jx_ifb_eq (pc := 9) (tgt := 41) dX1_by_9 (by decide) ?_ ?_ | refine jx_if_eq (pc := 9) (tgt := 41) dX1_by_9 (by decide) (by omega) ?_ ?_ | refine jw_if_eq (pc := 9) (tgt := 41) dX1_by_9 (by decide) ?_ ?_
  · intro h_9
    refine jw_aload_n (pc := 41) dX1_by_41 rfl ?_
    refine jw_iconst (pc := 42) dX1_by_42 ic_1 ?_
    refine jx_cVi (mi1 := mi_X1_no) (pc := 43) rfl dX1_by_43 lk_X1_98 rfl fi_X1_no rfl rfl rfl (by decide) (is_64 hS) (t_X1_no hX (by decide)) (by first | decide | omega) rfl rfl (by decide) ?_
    intro x_43 M_43 q_43
    refine jw_ireturn (pc := 46) dX1_by_46 rfl (rfl) ?_
    first
      | (refine qx_no ?_ hf q_43; unfold q_by; rw [if_neg (by rw [h_9]; decide)] <;> rfl)
      | (refine qx_ok ?_ hf hX; unfold q_by; rw [if_pos h_9, vv_s hv9, iN_n (by omega)] <;> rfl)
  · intro h_9
    obtain ⟨V, ka, hv9, hka, rfl⟩ := ixV_t h_9
    obtain ⟨v, hs, hN⟩ := hX.so hv9
    have hn := wf_nq hs.w
    have hst := (h.2.1.2 V hv9).2.2.2.1
    have he : eyesS V (sn σ 0) 0 < 32 := msk5 (wf_nq hs.w) _
    refine jw_aload_n (pc := 12) dX1_by_12 rfl ?_
    refine jw_aload_n (pc := 13) dX1_by_13 rfl ?_
    refine jx_getRs (pc := 14) (jf_X1_39_0.r) rfl dX1_by_14 rfl (is_64 hS) (by decide) (sr_64_10 hS) ?_
    refine jw_iload_n (pc := 17) dX1_by_17 rfl ?_
    refine jw_aload_n (pc := 18) dX1_by_18 rfl ?_
    refine jw_aload_n (pc := 19) dX1_by_19 rfl ?_
    refine jx_getIs (pc := 20) (jf_X1_131_0.r) rfl dX1_by_20 rfl (is_64 hS) (by decide) (hN.1) ?_
    refine jw_iconst (pc := 23) dX1_by_23 ic_0 ?_
    refine jx_cVE (mi1 := mi_X1_watching) (pc := 24) rfl dX1_by_24 lk_X1_210 rfl fi_X1_watching rfl rfl rfl (by decide) (is_64 hS) (t_X1_watching (t := sn σ 0) hs (by omega) (by decide)) (by first | decide | omega) rfl rfl (by simp only [List.map_cons, List.map_nil, List.sum_cons, List.sum_nil, cat_i, cat_l, jr_cat]; decide) ?_
    refine jw_aload_n (pc := 27) dX1_by_27 rfl ?_
    refine jw_aload_n (pc := 28) dX1_by_28 rfl ?_
    refine jx_getIs (pc := 29) (jf_X1_131_0.r) rfl dX1_by_29 rfl (is_64 hS) (by decide) (hN.1) ?_
    refine jx_cVE (mi1 := mi_X1_sight) (pc := 32) rfl dX1_by_32 lk_X1_166 rfl fi_X1_sight rfl rfl rfl (by decide) (is_64 hS) (t_X1_sight (t := sn σ 0) hs (by omega)) (by first | decide | omega) rfl rfl (by simp only [List.map_cons, List.map_nil, List.sum_cons, List.sum_nil, cat_i, cat_l, jr_cat]; decide) ?_
    refine jx_cVE (mi1 := mi_X1_watchersOf) (pc := 35) rfl dX1_by_35 lk_X1_193 rfl fi_X1_watchersOf rfl rfl rfl (by decide) (is_64 hS) (t_X1_watchersOf hs (r_at hS h.2.1 hv9 hN) (sgt_sr hs _) hka (by omega)) (by first | decide | omega) rfl rfl (by decide) ?_
    refine jw_goto (pc := 38) (tgt := 46) dX1_by_38 (by decide) ?_
    refine jw_ireturn (pc := 46) dX1_by_46 rfl (rfl) ?_
    first
      | (refine qx_no ?_ hf q_43; unfold q_by; rw [if_neg (by rw [h_9]; decide)] <;> rfl)
      | (refine qx_ok ?_ hf hX; unfold q_by; rw [if_pos h_9, vv_s hv9, iN_n (by omega)] <;> rfl)
theorem t_X1_planned {a t : Int32} (h : jXx M σ) : jT G mi_X1_planned 9 [jr (some 64), .int a, .int t] M (jQx M σ (q_planned σ a t)) := by
  have hS := h.1
  refine jT.of (by decide) rfl (Nat.le_of_ble_eq_true rfl) ?_
  refine jw_aload_n (pc := 0) dX1_planned_0 rfl ?_
  refine jx_cVv (mi1 := mi_X1_anew) (pc := 1) rfl dX1_planned_1 lk_X1_84 rfl fi_X1_anew rfl rfl rfl (by decide) (is_64 hS) (t_X1_anew h) (by first | decide | omega) rfl rfl (by decide) ?_
  intro M_1 q_1
  obtain ⟨hX, hf⟩ := q_1
  have hS := hX.1
  refine jw_aload_n (pc := 4) dX1_planned_4 rfl ?_
  refine jw_iload_n (pc := 5) dX1_planned_5 rfl ?_
  refine jx_cVE (mi1 := mi_X1_isPerson) (pc := 6) rfl dX1_planned_6 lk_X1_183 rfl fi_X1_isPerson rfl rfl rfl (by decide) (is_64 hS) (t_X1_isPerson (o := sv σ) hX rfl) (by first | decide | omega) rfl rfl (by decide) ?_
  first | refine jx_ifb_ne (pc := 9) (tgt := 18) dX1_planned_9 (by decide) ?_ ?_ | refine jx_if_ne (pc := 9) (tgt := 18) dX1_planned_9 (by decide) (by omega) ?_ ?_ | refine jw_if_ne (pc := 9) (tgt := 18) dX1_planned_9 (by decide) ?_ ?_
  · intro h_9
    obtain ⟨V, ka, hv9, hka, rfl⟩ := ixV_t h_9
    obtain ⟨v, hs, hN⟩ := hX.so hv9
    have hn := wf_nq hs.w
    have hv := hs.s
    obtain ⟨d1, d2, d3, d4, d5⟩ := wf_d hs.w
    refine jw_iload_n (pc := 18) dX1_planned_18 rfl ?_
    refine jw_iconst (pc := 19) dX1_planned_19 ic_0 ?_
    refine jw_aload_n (pc := 20) dX1_planned_20 rfl ?_
    refine jx_getRs (pc := 21) (jf_X1_109_0.r) rfl dX1_planned_21 rfl (is_64 hS) (by decide) (hs.r) ?_
    refine jx_getIs (pc := 24) (jf_X1_225_5.r) rfl dX1_planned_24 rfl (vis hv) (by decide) (xi_steps hs.V) ?_
    refine jw_iconst (pc := 27) dX1_planned_27 ic_1 ?_
    refine jw_isub (pc := 28) dX1_planned_28 ?_
    refine jx_cSE (mi1 := mi_X1_in) (pc := 29) rfl dX1_planned_29 lk_X1_94 rfl fi_X1_in (t_X1_in) (by first | decide | omega) rfl rfl (by decide) ?_
    rw [inb_ix (by omega)]
    first | refine jx_ifb_eq (pc := 32) (tgt := 49) dX1_planned_32 (by decide) ?_ ?_ | refine jx_if_eq (pc := 32) (tgt := 49) dX1_planned_32 (by decide) (by omega) ?_ ?_ | refine jw_if_eq (pc := 32) (tgt := 49) dX1_planned_32 (by decide) ?_ ?_
    · intro h_32
      refine jw_aload_n (pc := 49) dX1_planned_49 rfl ?_
      refine jw_iconst (pc := 50) dX1_planned_50 ic_2 ?_
      refine jx_cVi (mi1 := mi_X1_no) (pc := 51) rfl dX1_planned_51 lk_X1_98 rfl fi_X1_no rfl rfl rfl (by decide) (is_64 hS) (t_X1_no hX (by decide)) (by first | decide | omega) rfl rfl (by decide) ?_
      intro x_51 M_51 q_51
      refine jw_ireturn (pc := 54) dX1_planned_54 rfl (rfl) ?_
      first
        | (refine qx_no ?_ hf q_51; unfold q_planned; rw [if_pos h_9, vv_s hv9, if_neg (by rw [h_32]; decide)] <;> rfl)
        | (refine qx_ok ?_ hf hX; unfold q_planned; rw [if_pos h_9, vv_s hv9, if_pos h_32, iN_n (by omega), iN_n (by omega)] <;> rfl)
    · intro h_32
      obtain ⟨kt, hkt, rfl⟩ := isIx_of h_32
      refine jw_aload_n (pc := 35) dX1_planned_35 rfl ?_
      refine jx_getRs (pc := 36) (jf_X1_46_0.r) rfl dX1_planned_36 rfl (is_64 hS) (by decide) (sr_64_12 hS) ?_
      refine jw_bipush (pc := 39) dX1_planned_39 bp_100 ?_
      refine jw_iload_n (pc := 41) dX1_planned_41 rfl ?_
      first | refine jx_imul (pc := 42) dX1_planned_42 ?_ | refine jw_imul (pc := 42) dX1_planned_42 ?_
      refine jw_iload_n (pc := 43) dX1_planned_43 rfl ?_
      first | refine jx_iadd (pc := 44) dX1_planned_44 ?_ | refine jw_iadd (pc := 44) dX1_planned_44 ?_
      refine jx_ialds (pc := 45) dX1_planned_45 (ok_80 hS) (nn_80 hS) rfl (by omega) (hN.2.2.2.2.1 _ _ hka (by omega)) ?_
      refine jw_goto (pc := 46) (tgt := 54) dX1_planned_46 (by decide) ?_
      refine jw_ireturn (pc := 54) dX1_planned_54 rfl (rfl) ?_
      first
        | (refine qx_no ?_ hf q_51; unfold q_planned; rw [if_pos h_9, vv_s hv9, if_neg (by rw [h_32]; decide)] <;> rfl)
        | (refine qx_ok ?_ hf hX; unfold q_planned; rw [if_pos h_9, vv_s hv9, if_pos h_32, iN_n (by omega), iN_n (by omega)] <;> rfl)
  · intro h_9
    refine jw_aload_n (pc := 12) dX1_planned_12 rfl ?_
    refine jw_iconst (pc := 13) dX1_planned_13 ic_1 ?_
    refine jx_cVi (mi1 := mi_X1_no) (pc := 14) rfl dX1_planned_14 lk_X1_98 rfl fi_X1_no rfl rfl rfl (by decide) (is_64 hS) (t_X1_no hX (by decide)) (by first | decide | omega) rfl rfl (by decide) ?_
    intro x_14 M_14 q_14
    refine jw_ireturn (pc := 17) dX1_planned_17 rfl (rfl) ?_
    refine qx_no ?_ hf q_14
    unfold q_planned
    rw [h_9]; rfl
theorem lp_mid {M9 : Mm} {v kt k : Nat} {V : Vt} {P : Rs → Mm → Prop} {z : Int32} (hX : jXx M σ) (hs : jXs M v V) (hv : jVs M v) (hn : V 0 0 ≤ 10) (hkn : k < V 0 0) (hkt : kt < 200) (ih : jW G mi_X1_middle 9 M9 31 [some (jr (some 64)), some (.int (nI kt)), none, some (.int (z &&& nI (seesS V (rangeV V kt) 0 0 k))), some (.int (nI (k + 1)))] [] M P) : jW G mi_X1_middle 9 M9 31 [some (jr (some 64)), some (.int (nI kt)), none, some (.int z), some (.int (nI k))] [] M P := by
  have hS := hX.1
  refine jw_iload (pc := 31) dX1_middle_31 rfl ?_
  refine jw_aload_n (pc := 33) dX1_middle_33 rfl ?_
  refine jx_getRs (pc := 34) (jf_X1_109_0.r) rfl dX1_middle_34 rfl (is_64 hS) (by decide) (hs.r) ?_
  refine jx_getIs (pc := 37) (jf_X1_150_5.r) rfl dX1_middle_37 rfl (vis hv) (by decide) (xi_np hs.V) ?_
  first | refine jx_icmp_ge (pc := 40) (tgt := 62) dX1_middle_40 (by decide) (by omega) (by omega) ?_ ?_ | refine jw_icmp_ge (pc := 40) (tgt := 62) dX1_middle_40 (by decide) ?_ ?_
  · intro h_40
    omega
  · intro h_40
    refine jw_iload_n (pc := 43) dX1_middle_43 rfl ?_
    refine jw_aload_n (pc := 44) dX1_middle_44 rfl ?_
    refine jw_iload_n (pc := 45) dX1_middle_45 rfl ?_
    refine jx_cVE (mi1 := mi_X1_sight) (pc := 46) rfl dX1_middle_46 lk_X1_166 rfl fi_X1_sight rfl rfl rfl (by decide) (is_64 hS) (t_X1_sight hs (by omega)) (by first | decide | omega) rfl rfl (by simp only [List.map_cons, List.map_nil, List.sum_cons, List.sum_nil, Value.category]; decide) ?_
    refine jw_iload (pc := 49) dX1_middle_49 rfl ?_
    refine jx_cVE (mi1 := mi_X4_sees) (pc := 51) rfl dX1_middle_51 lk_X1_173 rfl fi_X4_sees rfl rfl rfl (by decide) ((sgt_si hs kt).1) (t_X4_sees (V := V) (sgt_si hs kt) (fun a ha => sgt_s hs kt ha) hkn hn) (by first | decide | omega) rfl rfl (by simp only [List.map_cons, List.map_nil, List.sum_cons, List.sum_nil, Value.category]; decide) ?_
    refine jw_iand (pc := 54) dX1_middle_54 ?_
    refine jw_istore_n (pc := 55) dX1_middle_55 (Nat.le_of_ble_eq_true rfl) rfl ?_
    try dsimp only [jput1, jput2, jkill, jclr, jis2_i, jis2_l, jis2_rs, jis2_rn, cond]
    first | refine jx_iinc (pc := 56) dX1_middle_56 rfl rfl ?_ | refine jw_iinc (pc := 56) dX1_middle_56 rfl rfl rfl ?_
    try dsimp only [jput1, jkill, jclr, jis2_i, jis2_l, jis2_rs, jis2_rn, cond]
    refine jw_goto (pc := 59) (tgt := 31) dX1_middle_59 (by decide) ?_
    exact ih
theorem lp_mid2 {M9 : Mm} {v kt : Nat} {V : Vt} {P : Rs → Mm → Prop} {z : Int32} (hX : jXx M σ) (hs : jXs M v V) (hv : jVs M v) (hn : V 0 0 ≤ 10) (ih : P (.inl (some (.int z))) M) : jW G mi_X1_middle 9 M9 31 [some (jr (some 64)), some (.int (nI kt)), none, some (.int z), some (.int (nI (V 0 0)))] [] M P := by
  have hS := hX.1
  refine jw_iload (pc := 31) dX1_middle_31 rfl ?_
  refine jw_aload_n (pc := 33) dX1_middle_33 rfl ?_
  refine jx_getRs (pc := 34) (jf_X1_109_0.r) rfl dX1_middle_34 rfl (is_64 hS) (by decide) (hs.r) ?_
  refine jx_getIs (pc := 37) (jf_X1_150_5.r) rfl dX1_middle_37 rfl (vis hv) (by decide) (xi_np hs.V) ?_
  first | refine jx_icmp_ge (pc := 40) (tgt := 62) dX1_middle_40 (by decide) (by omega) (by omega) ?_ ?_ | refine jw_icmp_ge (pc := 40) (tgt := 62) dX1_middle_40 (by decide) ?_ ?_
  · intro h_40
    refine jw_iload_n (pc := 62) dX1_middle_62 rfl ?_
    refine jw_ireturn (pc := 63) dX1_middle_63 rfl (rfl) ?_
    exact ih
  · intro h_40
    omega
theorem t_X1_middle {t : Int32} (h : jXx M σ) : jT G mi_X1_middle 9 [jr (some 64), .int t] M (jQx M σ (q_middle σ t)) := by
  have hS := h.1
  refine jT.of (by decide) rfl (Nat.le_of_ble_eq_true rfl) ?_
  refine jw_aload_n (pc := 0) dX1_middle_0 rfl ?_
  refine jx_cVv (mi1 := mi_X1_anew) (pc := 1) rfl dX1_middle_1 lk_X1_84 rfl fi_X1_anew rfl rfl rfl (by decide) (is_64 hS) (t_X1_anew h) (by first | decide | omega) rfl rfl (by decide) ?_
  intro M_1 q_1
  obtain ⟨hX, hf⟩ := q_1
  have hS := hX.1
  refine jw_aload_n (pc := 4) dX1_middle_4 rfl ?_
  refine jw_iload_n (pc := 5) dX1_middle_5 rfl ?_
  refine jx_cVE (mi1 := mi_X1_stepWhy) (pc := 6) rfl dX1_middle_6 lk_X1_176 rfl fi_X1_stepWhy rfl rfl rfl (by decide) (is_64 hS) (t_X1_stepWhy (o := sv σ) hX rfl) (by first | decide | omega) rfl rfl (by decide) ?_
  refine jw_istore_n (pc := 9) dX1_middle_9 (Nat.le_of_ble_eq_true rfl) rfl ?_
  try dsimp only [jput1, jput2, jkill, jclr, jis2_i, jis2_l, jis2_rs, jis2_rn, cond]
  refine jw_iload_n (pc := 10) dX1_middle_10 rfl ?_
  refine jw_if_eq (pc := 11) (tgt := 20) dX1_middle_11 (by decide) ?_ ?_
  · intro h_11
    obtain ⟨V, kt, hv9, hkt, rfl⟩ := stepW_0 h_11
    obtain ⟨v, hs, hN⟩ := hX.so hv9
    have hn := wf_np hs.w
    have hv := hs.s
    have J : ∀ k : Nat, k ≤ V 0 0 → jW G mi_X1_middle 9 M 31 [some (jr (some 64)), some (.int (nI kt)), none, some (.int (nI (andM k (2 ^ V 0 0 - 1) (seesS V (rangeV V kt) 0 0)))), some (.int (nI k))] [] M_1 (jQx M σ (q_middle σ (nI kt))) := by
      refine jW.loop _ (fun k => V 0 0 - k) _ (fun _ => []) (fun _ => M_1) (fun k hk ih => ?_)
      by_cases hkn : k < V 0 0
      · exact lp_mid hX hs hv hn hkn hkt (by rw [nI_and']; exact ih (k + 1) hkn (by omega))
      · have hk' : k = V 0 0 := by omega
        subst hk'
        exact lp_mid2 hX hs hv hn (qx_ok (by unfold q_middle; rw [if_pos h_11, vv_s hv9, iN_n (by omega)]) hf hX)
    refine jw_aload_n (pc := 20) dX1_middle_20 rfl ?_
    refine jx_getRs (pc := 21) (jf_X1_109_0.r) rfl dX1_middle_21 rfl (is_64 hS) (by decide) (hs.r) ?_
    refine jx_cVE (mi1 := mi_X6_all) (pc := 24) rfl dX1_middle_24 lk_X1_179 rfl fi_X6_all rfl rfl rfl (by decide) (vis hv) (t_X6_all hs.V hs.w) (by first | decide | omega) rfl rfl (by decide) ?_
    refine jw_istore_n (pc := 27) dX1_middle_27 (Nat.le_of_ble_eq_true rfl) rfl ?_
    try dsimp only [jput1, jput2, jkill, jclr, jis2_i, jis2_l, jis2_rs, jis2_rn, cond]
    refine jw_iconst (pc := 28) dX1_middle_28 ic_0 ?_
    refine jw_istore (pc := 29) dX1_middle_29 (Nat.le_of_ble_eq_true rfl) rfl ?_
    try dsimp only [jput1, jput2, jkill, jclr, jis2_i, jis2_l, jis2_rs, jis2_rn, cond]
    refine jW.sub ?_ (J 0 (Nat.zero_le _))
    exact ⟨rfl, rfl, rfl, rfl, trivial⟩
  · intro h_11
    refine jw_aload_n (pc := 14) dX1_middle_14 rfl ?_
    refine jw_iload_n (pc := 15) dX1_middle_15 rfl ?_
    refine jx_cVi (mi1 := mi_X1_no) (pc := 16) rfl dX1_middle_16 lk_X1_98 rfl fi_X1_no rfl rfl rfl (by decide) (is_64 hS) (t_X1_no hX (stepW_4 _ _)) (by first | decide | omega) rfl rfl (by decide) ?_
    intro x_16 M_16 q_16
    refine jw_ireturn (pc := 19) dX1_middle_19 rfl (rfl) ?_
    refine qx_no ?_ hf q_16
    unfold q_middle
    rw [if_neg h_11]
end JO1
