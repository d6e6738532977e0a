/-! ===== fog, image ===== -/
def jLx (M : Mm) (σ : Sg) (q : Int64 × Int32) : Rs → Mm → Prop := jPl (fun r M' => r = q.1 ∧ jXx M' (sgT σ q.2 (-1)) ∧ jfx M M')
def jLm (M : Mm) (σ : Sg) (q : Int64 × Int32) : Rs → Mm → Prop := jPl (fun r M' => r = q.1 ∧ jMm M' (sgT σ q.2 (-1)) ∧ jfm M M')
theorem lx_no {M M1 M2 : Mm} {σ : Sg} {q : Int64 × Int32} {x why : Int32} (hq : q = ((-1 : Int32).toInt64, why)) (hf : jfx M M1) (e : x = -1 ∧ jXx M2 (sgT σ why (-1)) ∧ jfx M1 M2) : jLx M σ q (.inl (some (.long x.toInt64))) M2 := by
  subst hq; exact ⟨_, rfl, by rw [e.1], e.2.1, hf.tr e.2.2⟩
theorem lx_ok {M M1 : Mm} {σ : Sg} {q : Int64 × Int32} {x : Int64} (hq : q = (x, 0)) (hf : jfx M M1) (hX : jXx M1 (sgT σ 0 (-1))) : jLx M σ q (.inl (some (.long x))) M1 := by
  subst hq; exact ⟨x, rfl, rfl, hX, hf⟩
theorem lm_no {M M1 M2 : Mm} {σ : Sg} {q : Int64 × Int32} {x why : Int32} (hq : q = ((-1 : Int32).toInt64, why)) (hf : jfm M M1) (e : x = -1 ∧ jMm M2 (sgT σ why (-1)) ∧ jfm M1 M2) : jLm M σ q (.inl (some (.long x.toInt64))) M2 := by
  subst hq; exact ⟨_, rfl, by rw [e.1], e.2.1, hf.tr e.2.2⟩
theorem lm_ok {M M1 M2 : Mm} {σ : Sg} {q : Int64 × Int32} {x : Int64} {z y : Int32} (hq : q = (x, 0)) (hf : jfm M M1) (e : z = y ∧ jMm M2 (sgT σ 0 (-1)) ∧ jfm M1 M2) : jLm M σ q (.inl (some (.long x))) M2 := by
  subst hq; exact ⟨x, rfl, rfl, e.2.1, hf.tr e.2.2⟩
def chN (V : Vt) (set k : Nat) : Int32 := if set.testBit k then nI (V 10 k) else nI 100 - nI (V 10 k)
def waysL (V : Vt) (set n : Nat) : Int64 := match n with
  | 0 => Int64.ofNat 1
  | n + 1 => waysL V set n * (chN V set n).toInt64
def dimS (V : Vt) (set n : Nat) : Nat := match n with
  | 0 => 0
  | n + 1 => dimS V set n ||| (if set.testBit n then 2 ^ V 9 n else 0)
def lawIn (V : Vt) (σ : Sg) (set : Nat) : Bool := lawB V (sa σ 0) (eyesS V (sn σ 0) 0) (seesS V (rangeV V (sn σ 0)) 0 (dimS V set (V 0 7)))
def fogL (V : Vt) (σ : Sg) (n : Nat) : Int64 := match n with
  | 0 => Int64.ofNat 0
  | n + 1 => fogL V σ n + (if lawIn V σ n then waysL V n (V 0 7) else Int64.ofNat 0)
theorem waysL_s (V : Vt) (set n : Nat) : waysL V set (n + 1) = waysL V set n * (chN V set n).toInt64 := rfl
theorem dimS_s (V : Vt) (set n : Nat) : dimS V set (n + 1) = dimS V set n ||| (if set.testBit n then 2 ^ V 9 n else 0) := rfl
theorem fogL_s (V : Vt) (σ : Sg) (n : Nat) : fogL V σ (n + 1) = fogL V σ n + (if lawIn V σ n then waysL V n (V 0 7) else Int64.ofNat 0) := rfl
theorem dimS_lt {V : Vt} (hw : jWf V) (set : Nat) {n : Nat} (hn : n ≤ V 0 7) : dimS V set n < 1024 := by
  induction n with
  | zero => show (0 : Nat) < 1024; decide
  | succ n ih =>
    have i := ih (by omega)
    have := wf_f hw (show n < V 0 7 by omega)
    have hp : 2 ^ V 9 n < 1024 := Nat.lt_of_lt_of_le (Nat.pow_lt_pow_right (by decide) this.1) (p10 (wf_np hw))
    rw [dimS_s]
    split
    · exact or1024 i hp
    · exact or1024 i (by decide)
def imgL (σ : Sg) (n : Nat) : Int64 := match n with
  | 0 => (100 : Int64) * (nI (sn σ 1)).toInt64 + (nI (sn σ 0)).toInt64
  | n + 1 => (10 : Int64) * imgL σ n + (nI (sa σ 0 n)).toInt64
theorem imgL_s (σ : Sg) (n : Nat) : imgL σ (n + 1) = (10 : Int64) * imgL σ n + (nI (sa σ 0 n)).toInt64 := rfl
def q_fog (σ : Sg) : Int64 × Int32 := match sv σ with
  | none => ((-1 : Int32).toInt64, 1)
  | some V => (fogL V σ (2 ^ V 0 7), 0)
def q_ready (σ : Sg) : Int32 × Int32 := match sv σ with
  | none => (-1, 1)
  | some V => (nI (msk (V 0 7) (fun k => lawIn V σ (2 ^ k))), 0)
def q_image (σ : Sg) : Int64 × Int32 := match sv σ with
  | none => ((-1 : Int32).toInt64, 1)
  | some V => (imgL σ (V 0 1), 0)
theorem fg_x {M : Mm} {v : Nat} {V : Vt} (hV : jVx M v V) {k : Nat} (hk : k < V 0 7) : jm_A M (v + 9) k = nI (V 9 k) ∧ jm_A M (v + 10) k = nI (V 10 k) := hV.2.2.1.2.2.2 k hk
theorem p4 {n : Nat} (h : n ≤ 4) : 2 ^ n ≤ 16 := Nat.le_trans (Nat.pow_le_pow_right (by decide) h) (by decide)
section JFG
variable {G : Gh} {M : Mm} {σ : Sg}
theorem t_X1_isLawfulIn {set : Nat} {V : Vt} (h : jXx M σ) (hv9 : sv σ = some V) (hset : set < 2 ^ 31) : jT G mi_X1_isLawfulIn 8 [jr (some 64), .int (nI set)] M (jPi (fun r M' => r = jb (lawIn V σ set) ∧ jXx M' σ ∧ jfx M M')) := by
  have hS := h.1
  obtain ⟨v, hs, hN⟩ := h.so hv9
  have hv := hs.s
  have hnf := wf_nf hs.w
  have hnp := wf_np hs.w
  have hp9 := p10 hnp
  have hr : rangeV V (sn σ 0) ≤ 19 := by obtain ⟨d1, d2, d3, d4, d5⟩ := wf_d hs.w; unfold rangeV; split <;> omega
  have ht : sn σ 0 < 100 := (h.2.1.2 V hv9).2.2.2.1
  have hdl := dimS_lt hs.w set (Nat.le_refl _)
  refine jT.of (by decide) rfl (Nat.le_of_ble_eq_true rfl) ?_
  have J : ∀ k : Nat, k ≤ V 0 7 → jW G mi_X1_isLawfulIn 8 M 4 [some (jr (some 64)), some (.int (nI set)), some (.int (nI (dimS V set k))), some (.int (nI k))] [] M (jPi (fun r M' => r = jb (lawIn V σ set) ∧ jXx M' σ ∧ jfx M M')) := by
    refine jW.loop _ (fun k => V 0 7 - k) _ (fun _ => []) (fun _ => M) (fun k hk ih => ?_)
    by_cases hkn : k < V 0 7
    · have hk9 := (wf_f hs.w hkn).1
      refine jw_iload_n (pc := 4) dX1_isLawfulIn_4 rfl ?_
      refine jw_aload_n (pc := 5) dX1_isLawfulIn_5 rfl ?_
      refine jx_getRs (pc := 6) (jf_X1_109_0.r) rfl dX1_isLawfulIn_6 rfl (is_64 hS) (by decide) (hs.r) ?_
      refine jx_getIs (pc := 9) (jf_X1_405_5.r) rfl dX1_isLawfulIn_9 rfl (vis hv) (by decide) (xi_nf hs.V) ?_
      first | refine jx_icmp_ge (pc := 12) (tgt := 47) dX1_isLawfulIn_12 (by decide) (by omega) (by omega) ?_ ?_ | refine jw_icmp_ge (pc := 12) (tgt := 47) dX1_isLawfulIn_12 (by decide) ?_ ?_
      · intro h_12
        omega
      · intro h_12
        refine jw_iload_n (pc := 15) dX1_isLawfulIn_15 rfl ?_
        refine jw_iload_n (pc := 16) dX1_isLawfulIn_16 rfl ?_
        refine jw_iload_n (pc := 17) dX1_isLawfulIn_17 rfl ?_
        refine jx_cSE (mi1 := mi_X1_lies) (pc := 18) rfl dX1_isLawfulIn_18 lk_X1_189 rfl fi_X1_lies (t_X1_lies hset (by omega)) (by first | decide | omega) rfl rfl (by simp only [List.map_cons, List.map_nil, List.sum_cons, List.sum_nil, Value.category]; decide) ?_
        first | refine jx_ifb_eq (pc := 21) (tgt := 38) dX1_isLawfulIn_21 (by decide) ?_ ?_ | refine jx_if_eq (pc := 21) (tgt := 38) dX1_isLawfulIn_21 (by decide) (by omega) ?_ ?_ | refine jw_if_eq (pc := 21) (tgt := 38) dX1_isLawfulIn_21 (by decide) ?_ ?_
        · intro h_21
          refine jw_iconst (pc := 38) dX1_isLawfulIn_38 ic_0 ?_
          refine jw_ior (pc := 39) dX1_isLawfulIn_39 ?_
          rw [nI_or']
          refine jw_istore_n (pc := 40) dX1_isLawfulIn_40 (Nat.le_of_ble_eq_true rfl) rfl ?_
          try dsimp only [jput1, jput2, jkill, jclr, jis2_i, jis2_l, jis2_rs, jis2_rn, cond]
          first | refine jx_iinc (pc := 41) dX1_isLawfulIn_41 rfl rfl ?_ | refine jw_iinc (pc := 41) dX1_isLawfulIn_41 rfl rfl rfl ?_
          try dsimp only [jput1, jkill, jclr, jis2_i, jis2_l, jis2_rs, jis2_rn, cond]
          refine jw_goto (pc := 44) (tgt := 4) dX1_isLawfulIn_44 (by decide) ?_
          refine jW.eq ?_ rfl rfl (ih (k + 1) hkn (by omega))
          rw [dimS_s, h_21]; rfl
        · intro h_21
          refine jw_iconst (pc := 24) dX1_isLawfulIn_24 ic_1 ?_
          refine jw_aload_n (pc := 25) dX1_isLawfulIn_25 rfl ?_
          refine jx_getRs (pc := 26) (jf_X1_109_0.r) rfl dX1_isLawfulIn_26 rfl (is_64 hS) (by decide) (hs.r) ?_
          refine jx_getRs (pc := 29) jg_X1_408_5 rfl dX1_isLawfulIn_29 rfl (vis hv) (by decide) (vr_9 hv) ?_
          refine jw_iload_n (pc := 32) dX1_isLawfulIn_32 rfl ?_
          refine jx_ialds (pc := 33) dX1_isLawfulIn_33 (vok_9 hv) (vnn_9 hv) rfl (by omega) ((fg_x hs.V hkn).1) ?_
          refine jw_ishl (pc := 34) dX1_isLawfulIn_34 ?_
          rw [shl1 (by omega)]
          refine jw_goto (pc := 35) (tgt := 39) dX1_isLawfulIn_35 (by decide) ?_
          refine jw_ior (pc := 39) dX1_isLawfulIn_39 ?_
          rw [nI_or']
          refine jw_istore_n (pc := 40) dX1_isLawfulIn_40 (Nat.le_of_ble_eq_true rfl) rfl ?_
          try dsimp only [jput1, jput2, jkill, jclr, jis2_i, jis2_l, jis2_rs, jis2_rn, cond]
          first | refine jx_iinc (pc := 41) dX1_isLawfulIn_41 rfl rfl ?_ | refine jw_iinc (pc := 41) dX1_isLawfulIn_41 rfl rfl rfl ?_
          try dsimp only [jput1, jkill, jclr, jis2_i, jis2_l, jis2_rs, jis2_rn, cond]
          refine jw_goto (pc := 44) (tgt := 4) dX1_isLawfulIn_44 (by decide) ?_
          refine jW.eq ?_ rfl rfl (ih (k + 1) hkn (by omega))
          rw [dimS_s, h_21]; rfl
    · have hk' : k = V 0 7 := by omega
      subst hk'
      refine jw_iload_n (pc := 4) dX1_isLawfulIn_4 rfl ?_
      refine jw_aload_n (pc := 5) dX1_isLawfulIn_5 rfl ?_
      refine jx_getRs (pc := 6) (jf_X1_109_0.r) rfl dX1_isLawfulIn_6 rfl (is_64 hS) (by decide) (hs.r) ?_
      refine jx_getIs (pc := 9) (jf_X1_405_5.r) rfl dX1_isLawfulIn_9 rfl (vis hv) (by decide) (xi_nf hs.V) ?_
      first | refine jx_icmp_ge (pc := 12) (tgt := 47) dX1_isLawfulIn_12 (by decide) (by omega) (by omega) ?_ ?_ | refine jw_icmp_ge (pc := 12) (tgt := 47) dX1_isLawfulIn_12 (by decide) ?_ ?_
      · intro h_12
        refine jw_aload_n (pc := 47) dX1_isLawfulIn_47 rfl ?_
        refine jx_getRs (pc := 48) (jf_X1_36_0.r) rfl dX1_isLawfulIn_48 rfl (is_64 hS) (by decide) (sr_64_9 hS) ?_
        refine jw_aload_n (pc := 51) dX1_isLawfulIn_51 rfl ?_
        refine jx_getRs (pc := 52) (jf_X1_109_0.r) rfl dX1_isLawfulIn_52 rfl (is_64 hS) (by decide) (hs.r) ?_
        refine jw_aload_n (pc := 55) dX1_isLawfulIn_55 rfl ?_
        refine jx_getRs (pc := 56) (jf_X1_109_0.r) rfl dX1_isLawfulIn_56 rfl (is_64 hS) (by decide) (hs.r) ?_
        refine jw_aload_n (pc := 59) dX1_isLawfulIn_59 rfl ?_
        refine jx_getIs (pc := 60) (jf_X1_131_0.r) rfl dX1_isLawfulIn_60 rfl (is_64 hS) (by decide) (hN.1) ?_
        refine jx_cVE (mi1 := mi_X6_range) (pc := 63) rfl dX1_isLawfulIn_63 lk_X1_369 rfl fi_X6_range rfl rfl rfl (by decide) (vis hv) (t_X6_range (t := sn σ 0) hs.V hs.w (by omega)) (by first | decide | omega) rfl rfl (by simp only [List.map_cons, List.map_nil, List.sum_cons, List.sum_nil, cat_i, cat_l, jr_cat]; decide) ?_
        refine jw_iconst (pc := 66) dX1_isLawfulIn_66 ic_0 ?_
        refine jw_iload_n (pc := 67) dX1_isLawfulIn_67 rfl ?_
        refine jx_cVEv (mi1 := mi_X4_look) (pc := 68) rfl dX1_isLawfulIn_68 lk_X1_124 rfl fi_X4_look rfl rfl rfl (by decide) (is_75 hS) (t_X4_look (op := 0) (si_75 hS) hs.V hs.w (by omega) (by decide) (by omega)) (by first | decide | omega) rfl rfl (by decide) ?_
        have hX2 : jXx (lookM M 75 V (rangeV V (sn σ 0)) 0 (dimS V set (V 0 7))) σ := xoth h
        have hf2 : jfx M (lookM M 75 V (rangeV V (sn σ 0)) 0 (dimS V set (V 0 7))) := foth
        have hq2 := look_sr (r := rangeV V (sn σ 0)) (op := 0) (fg := dimS V set (V 0 7)) h.1 hs.w
        generalize lookM M 75 V (rangeV V (sn σ 0)) 0 (dimS V set (V 0 7)) = M2 at hX2 hf2 hq2 ⊢
        have hS := hX2.1
        obtain ⟨v, hs, hN⟩ := hX2.so hv9
        have hv := hs.s
        have he9 : eyesS V (sn σ 0) 0 < 32 := msk5 (wf_nq hs.w) _
        refine jw_aload_n (pc := 71) dX1_isLawfulIn_71 rfl ?_
        refine jw_aload_n (pc := 72) dX1_isLawfulIn_72 rfl ?_
        refine jx_getRs (pc := 73) (jf_X1_39_0.r) rfl dX1_isLawfulIn_73 rfl (is_64 hS) (by decide) (sr_64_10 hS) ?_
        refine jw_aload_n (pc := 76) dX1_isLawfulIn_76 rfl ?_
        refine jw_aload_n (pc := 77) dX1_isLawfulIn_77 rfl ?_
        refine jx_getIs (pc := 78) (jf_X1_131_0.r) rfl dX1_isLawfulIn_78 rfl (is_64 hS) (by decide) (hN.1) ?_
        refine jw_iconst (pc := 81) dX1_isLawfulIn_81 ic_0 ?_
        refine jx_cVE (mi1 := mi_X1_watching) (pc := 82) rfl dX1_isLawfulIn_82 lk_X1_210 rfl fi_X1_watching rfl rfl rfl (by decide) (is_64 hS) (t_X1_watching (t := sn σ 0) (but := 0) hs (by omega) (by decide)) (by first | decide | omega) rfl rfl (by simp only [List.map_cons, List.map_nil, List.sum_cons, List.sum_nil, cat_i, cat_l, jr_cat]; decide) ?_
        refine jw_aload_n (pc := 85) dX1_isLawfulIn_85 rfl ?_
        refine jx_getRs (pc := 86) (jf_X1_36_0.r) rfl dX1_isLawfulIn_86 rfl (is_64 hS) (by decide) (sr_64_9 hS) ?_
        refine jx_cVE (mi1 := mi_X1_isLawful) (pc := 89) rfl dX1_isLawfulIn_89 lk_X1_214 rfl fi_X1_isLawful rfl rfl rfl (by decide) (is_64 hS) (t_X1_isLawful hs (r_at hS h.2.1 hv9 hN) hq2 (by omega)) (by first | decide | omega) rfl rfl (by decide) ?_
        refine jw_ireturn (pc := 92) dX1_isLawfulIn_92 rfl (by first | exact jnar_b _ | exact jnar_0 | exact jnar_1 | decide +kernel) ?_
        exact ⟨_, rfl, rfl, hX2, hf2⟩
      · intro h_12
        omega
  refine jw_iconst (pc := 0) dX1_isLawfulIn_0 ic_0 ?_
  refine jw_istore_n (pc := 1) dX1_isLawfulIn_1 (Nat.le_of_ble_eq_true rfl) rfl ?_
  try dsimp only [jput1, jput2, jkill, jclr, jis2_i, jis2_l, jis2_rs, jis2_rn, cond]
  refine jw_iconst (pc := 2) dX1_isLawfulIn_2 ic_0 ?_
  refine jw_istore_n (pc := 3) dX1_isLawfulIn_3 (Nat.le_of_ble_eq_true rfl) rfl ?_
  try dsimp only [jput1, jput2, jkill, jclr, jis2_i, jis2_l, jis2_rs, jis2_rn, cond]
  exact J 0 (Nat.zero_le _)
theorem lp_fg1 {M9 : Mm} {v set : Nat} {V : Vt} {P : Rs → Mm → Prop} {s : Int64} {x5 : Option Value} (hX : jXx M σ) (hs : jXs M v V) (hset : set < 2 ^ 31) (fin : jW G mi_X1_fog 9 M9 101 [some (jr (some 64)), some (.long s), none, some (.int (nI set)), some (.long (waysL V set (V 0 7))), none, none] [] M P) :
    ∀ k : Nat, k ≤ V 0 7 → jW G mi_X1_fog 9 M9 41 [some (jr (some 64)), some (.long s), none, some (.int (nI set)), some (.long (waysL V set k)), none, some (.int (nI k))] [] M P := by
  have hS := hs.1
  have hv := hs.s
  have hnf := wf_nf hs.w
  refine jW.loop _ (fun k => V 0 7 - k) _ (fun _ => []) (fun _ => M) (fun k hk ih => ?_)
  by_cases hkn : k < V 0 7
  ·
    refine jw_iload (pc := 41) dX1_fog_41 rfl ?_
    refine jw_aload_n (pc := 43) dX1_fog_43 rfl ?_
    refine jx_getRs (pc := 44) (jf_X1_109_0.r) rfl dX1_fog_44 rfl (is_64 hS) (by decide) (hs.r) ?_
    refine jx_getIs (pc := 47) (jf_X1_405_5.r) rfl dX1_fog_47 rfl (vis hv) (by decide) (xi_nf hs.V) ?_
    first | refine jx_icmp_ge (pc := 50) (tgt := 101) dX1_fog_50 (by decide) (by omega) (by omega) ?_ ?_ | refine jw_icmp_ge (pc := 50) (tgt := 101) dX1_fog_50 (by decide) ?_ ?_
    · intro h_50
      omega
    · intro h_50
      refine jw_lload (pc := 53) dX1_fog_53 rfl ?_
      refine jw_iload_n (pc := 55) dX1_fog_55 rfl ?_
      refine jw_iload (pc := 56) dX1_fog_56 rfl ?_
      refine jx_cSE (mi1 := mi_X1_lies) (pc := 58) rfl dX1_fog_58 lk_X1_189 rfl fi_X1_lies (t_X1_lies hset (by omega)) (by first | decide | omega) rfl rfl (by simp only [List.map_cons, List.map_nil, List.sum_cons, List.sum_nil, Value.category]; decide) ?_
      first | refine jx_ifb_eq (pc := 61) (tgt := 78) dX1_fog_61 (by decide) ?_ ?_ | refine jx_if_eq (pc := 61) (tgt := 78) dX1_fog_61 (by decide) (by omega) ?_ ?_ | refine jw_if_eq (pc := 61) (tgt := 78) dX1_fog_61 (by decide) ?_ ?_
      · intro h_61
        refine jw_bipush (pc := 78) dX1_fog_78 bp_100 ?_
        refine jw_aload_n (pc := 80) dX1_fog_80 rfl ?_
        refine jx_getRs (pc := 81) (jf_X1_109_0.r) rfl dX1_fog_81 rfl (is_64 hS) (by decide) (hs.r) ?_
        refine jx_getRs (pc := 84) jg_X1_411_5 rfl dX1_fog_84 rfl (vis hv) (by decide) (vr_10 hv) ?_
        refine jw_iload (pc := 87) dX1_fog_87 rfl ?_
        refine jx_ialds (pc := 89) dX1_fog_89 (vok_10 hv) (vnn_10 hv) rfl (by omega) ((fg_x hs.V hkn).2) ?_
        refine jw_isub (pc := 90) dX1_fog_90 ?_
        refine jw_i2l (pc := 91) dX1_fog_91 (rfl) ?_
        refine jw_lmul (pc := 92) dX1_fog_92 ?_
        refine jw_lstore (pc := 93) dX1_fog_93 (Nat.le_of_ble_eq_true rfl) rfl ?_
        try dsimp only [jput1, jput2, jkill, jclr, jis2_i, jis2_l, jis2_rs, jis2_rn, cond]
        first | refine jx_iinc (pc := 95) dX1_fog_95 rfl rfl ?_ | refine jw_iinc (pc := 95) dX1_fog_95 rfl rfl rfl ?_
        try dsimp only [jput1, jkill, jclr, jis2_i, jis2_l, jis2_rs, jis2_rn, cond]
        refine jw_goto (pc := 98) (tgt := 41) dX1_fog_98 (by decide) ?_
        refine jW.eq ?_ rfl rfl (ih (k + 1) hkn (by omega))
        rw [waysL_s]; unfold chN; rw [h_61]; rfl
      · intro h_61
        refine jw_aload_n (pc := 64) dX1_fog_64 rfl ?_
        refine jx_getRs (pc := 65) (jf_X1_109_0.r) rfl dX1_fog_65 rfl (is_64 hS) (by decide) (hs.r) ?_
        refine jx_getRs (pc := 68) jg_X1_411_5 rfl dX1_fog_68 rfl (vis hv) (by decide) (vr_10 hv) ?_
        refine jw_iload (pc := 71) dX1_fog_71 rfl ?_
        refine jx_ialds (pc := 73) dX1_fog_73 (vok_10 hv) (vnn_10 hv) rfl (by omega) ((fg_x hs.V hkn).2) ?_
        refine jw_i2l (pc := 74) dX1_fog_74 (rfl) ?_
        refine jw_goto (pc := 75) (tgt := 92) dX1_fog_75 (by decide) ?_
        refine jw_lmul (pc := 92) dX1_fog_92 ?_
        refine jw_lstore (pc := 93) dX1_fog_93 (Nat.le_of_ble_eq_true rfl) rfl ?_
        try dsimp only [jput1, jput2, jkill, jclr, jis2_i, jis2_l, jis2_rs, jis2_rn, cond]
        first | refine jx_iinc (pc := 95) dX1_fog_95 rfl rfl ?_ | refine jw_iinc (pc := 95) dX1_fog_95 rfl rfl rfl ?_
        try dsimp only [jput1, jkill, jclr, jis2_i, jis2_l, jis2_rs, jis2_rn, cond]
        refine jw_goto (pc := 98) (tgt := 41) dX1_fog_98 (by decide) ?_
        refine jW.eq ?_ rfl rfl (ih (k + 1) hkn (by omega))
        rw [waysL_s]; unfold chN; rw [h_61]; rfl
  · have hk' : k = V 0 7 := by omega
    subst hk'
    refine jw_iload (pc := 41) dX1_fog_41 rfl ?_
    refine jw_aload_n (pc := 43) dX1_fog_43 rfl ?_
    refine jx_getRs (pc := 44) (jf_X1_109_0.r) rfl dX1_fog_44 rfl (is_64 hS) (by decide) (hs.r) ?_
    refine jx_getIs (pc := 47) (jf_X1_405_5.r) rfl dX1_fog_47 rfl (vis hv) (by decide) (xi_nf hs.V) ?_
    first | refine jx_icmp_ge (pc := 50) (tgt := 101) dX1_fog_50 (by decide) (by omega) (by omega) ?_ ?_ | refine jw_icmp_ge (pc := 50) (tgt := 101) dX1_fog_50 (by decide) ?_ ?_
    · intro h_50
      refine jW.sub ?_ fin
      exact ⟨rfl, rfl, rfl, rfl, trivial⟩
    · intro h_50
      omega
theorem t_X1_fog (h : jXx M σ) : jT G mi_X1_fog 9 [jr (some 64)] M (jLx M σ (q_fog σ)) := by
  have hS := h.1
  refine jT.of (by decide) rfl (Nat.le_of_ble_eq_true rfl) ?_
  cases hv9 : sv σ with
  | none =>
    refine jw_aload_n (pc := 0) dX1_fog_0 rfl ?_
    refine jx_cVv (mi1 := mi_X1_anew) (pc := 1) rfl dX1_fog_1 lk_X1_84 rfl fi_X1_anew rfl rfl rfl (by decide) (is_64 hS) (t_X1_anew h) (by first | decide | omega) rfl rfl (by decide) ?_
    intro M_1 q_1
    obtain ⟨hX, hf⟩ := q_1
    have hS := hX.1
    refine jw_aload_n (pc := 4) dX1_fog_4 rfl ?_
    refine jx_getRs (pc := 5) (jf_X1_109_0.r) rfl dX1_fog_5 rfl (is_64 hS) (by decide) (hX.no hv9) ?_
    refine jw_ifnonnull (pc := 8) (tgt := 18) dX1_fog_8 (by decide) (fun ax h => by cases h) (fun h => ?_)
    clear h
    refine jw_aload_n (pc := 11) dX1_fog_11 rfl ?_
    refine jw_iconst (pc := 12) dX1_fog_12 ic_1 ?_
    refine jx_cVi (mi1 := mi_X1_no) (pc := 13) rfl dX1_fog_13 lk_X1_98 rfl fi_X1_no rfl rfl rfl (by decide) (is_64 hS) (t_X1_no hX (by decide)) (by first | decide | omega) rfl rfl (by decide) ?_
    intro x_13 M_13 q_13
    refine jw_i2l (pc := 16) dX1_fog_16 (rfl) ?_
    refine jw_lreturn (pc := 17) dX1_fog_17 rfl ?_
    refine lx_no ?_ hf q_13
    unfold q_fog; rw [hv9] <;> rfl
  | some V =>
    have hw9 := (h.2.1.2 V hv9).1
    have hnf := wf_nf hw9
    have hpf := p4 hnf
    have J : ∀ x : Nat × Mm, (x.1 ≤ 2 ^ V 0 7 ∧ jXx x.2 (sgT σ 0 (-1)) ∧ jfx M x.2) → jW G mi_X1_fog 9 M 22 [some (jr (some 64)), some (.long (fogL V σ x.1)), none, some (.int (nI x.1)), none, none, none] [] x.2 (jLx M σ (q_fog σ)) := by
      refine jW.loop (σ := Nat × Mm) _ (fun x => 2 ^ V 0 7 - x.1) _ (fun _ => []) (fun x => x.2) (fun x hI ih => ?_)
      obtain ⟨n, M1⟩ := x
      obtain ⟨hn, hX, hf⟩ := hI
      dsimp only at hn hX hf ih ⊢
      have hS := hX.1
      obtain ⟨v, hs, hN⟩ := hX.so hv9
      have hv := hs.s
      by_cases hkn : n < 2 ^ V 0 7
      · have L : jW G mi_X1_fog 9 M 101 [some (jr (some 64)), some (.long (fogL V σ n)), none, some (.int (nI n)), some (.long (waysL V n (V 0 7))), none, none] [] M1 (jLx M σ (q_fog σ)) := by
          refine jw_lload_n (pc := 101) dX1_fog_101 rfl ?_
          refine jw_aload_n (pc := 102) dX1_fog_102 rfl ?_
          refine jw_iload_n (pc := 103) dX1_fog_103 rfl ?_
          refine jx_cVi (mi1 := mi_X1_isLawfulIn) (pc := 104) rfl dX1_fog_104 lk_X1_414 rfl fi_X1_isLawfulIn rfl rfl rfl (by decide) (is_64 hS) (t_X1_isLawfulIn (σ := sgT σ 0 (-1)) (V := V) hX hv9 (by omega)) (by first | decide | omega) rfl rfl (by simp only [List.map_cons, List.map_nil, List.sum_cons, List.sum_nil, Value.category]; decide) ?_
          intro x_104 M_104 q_104
          obtain ⟨e1, hX2, hf2⟩ := q_104
          subst e1
          rw [show lawIn V (sgT σ 0 (-1)) n = lawIn V σ n from rfl]
          first | refine jx_ifb_eq (pc := 107) (tgt := 115) dX1_fog_107 (by decide) ?_ ?_ | refine jx_if_eq (pc := 107) (tgt := 115) dX1_fog_107 (by decide) (by omega) ?_ ?_ | refine jw_if_eq (pc := 107) (tgt := 115) dX1_fog_107 (by decide) ?_ ?_
          · intro h_107
            refine jw_lconst (pc := 115) dX1_fog_115 rfl ?_
            refine jw_ladd (pc := 116) dX1_fog_116 ?_
            refine jw_lstore_n (pc := 117) dX1_fog_117 (Nat.le_of_ble_eq_true rfl) rfl ?_
            try dsimp only [jput1, jput2, jkill, jclr, jis2_i, jis2_l, jis2_rs, jis2_rn, cond]
            first | refine jx_iinc (pc := 118) dX1_fog_118 rfl rfl ?_ | refine jw_iinc (pc := 118) dX1_fog_118 rfl rfl rfl ?_
            try dsimp only [jput1, jkill, jclr, jis2_i, jis2_l, jis2_rs, jis2_rn, cond]
            refine jw_goto (pc := 121) (tgt := 22) dX1_fog_121 (by decide) ?_
            have ih2 := ih (n + 1, M_104) ⟨hkn, hX2, hf.tr hf2⟩ (by dsimp only; omega)
            refine jW.sub ?_ ih2
            dsimp only
            rw [fogL_s, h_107]
            exact ⟨rfl, rfl, rfl, trivial⟩
          · intro h_107
            refine jw_lload (pc := 110) dX1_fog_110 rfl ?_
            refine jw_goto (pc := 112) (tgt := 116) dX1_fog_112 (by decide) ?_
            refine jw_ladd (pc := 116) dX1_fog_116 ?_
            refine jw_lstore_n (pc := 117) dX1_fog_117 (Nat.le_of_ble_eq_true rfl) rfl ?_
            try dsimp only [jput1, jput2, jkill, jclr, jis2_i, jis2_l, jis2_rs, jis2_rn, cond]
            first | refine jx_iinc (pc := 118) dX1_fog_118 rfl rfl ?_ | refine jw_iinc (pc := 118) dX1_fog_118 rfl rfl rfl ?_
            try dsimp only [jput1, jkill, jclr, jis2_i, jis2_l, jis2_rs, jis2_rn, cond]
            refine jw_goto (pc := 121) (tgt := 22) dX1_fog_121 (by decide) ?_
            have ih2 := ih (n + 1, M_104) ⟨hkn, hX2, hf.tr hf2⟩ (by dsimp only; omega)
            refine jW.sub ?_ ih2
            dsimp only
            rw [fogL_s, h_107]
            exact ⟨rfl, rfl, rfl, trivial⟩
        refine jw_iload_n (pc := 22) dX1_fog_22 rfl ?_
        refine jw_iconst (pc := 23) dX1_fog_23 ic_1 ?_
        refine jw_aload_n (pc := 24) dX1_fog_24 rfl ?_
        refine jx_getRs (pc := 25) (jf_X1_109_0.r) rfl dX1_fog_25 rfl (is_64 hS) (by decide) (hs.r) ?_
        refine jx_getIs (pc := 28) (jf_X1_405_5.r) rfl dX1_fog_28 rfl (vis hv) (by decide) (xi_nf hs.V) ?_
        refine jw_ishl (pc := 31) dX1_fog_31 ?_
        rw [shl1 (by omega)]
        first | refine jx_icmp_ge (pc := 32) (tgt := 124) dX1_fog_32 (by decide) (by omega) (by omega) ?_ ?_ | refine jw_icmp_ge (pc := 32) (tgt := 124) dX1_fog_32 (by decide) ?_ ?_
        · intro h_32
          omega
        · intro h_32
          refine jw_lconst (pc := 35) dX1_fog_35 rfl ?_
          refine jw_lstore (pc := 36) dX1_fog_36 (Nat.le_of_ble_eq_true rfl) rfl ?_
          try dsimp only [jput1, jput2, jkill, jclr, jis2_i, jis2_l, jis2_rs, jis2_rn, cond]
          refine jw_iconst (pc := 38) dX1_fog_38 ic_0 ?_
          refine jw_istore (pc := 39) dX1_fog_39 (Nat.le_of_ble_eq_true rfl) rfl ?_
          try dsimp only [jput1, jput2, jkill, jclr, jis2_i, jis2_l, jis2_rs, jis2_rn, cond]
          refine jW.sub ?_ (lp_fg1 (x5 := none) hX hs (by omega) L 0 (Nat.zero_le _))
          exact ⟨rfl, rfl, rfl, rfl, rfl, trivial⟩
      · have hk' : n = 2 ^ V 0 7 := by omega
        subst hk'
        refine jw_iload_n (pc := 22) dX1_fog_22 rfl ?_
        refine jw_iconst (pc := 23) dX1_fog_23 ic_1 ?_
        refine jw_aload_n (pc := 24) dX1_fog_24 rfl ?_
        refine jx_getRs (pc := 25) (jf_X1_109_0.r) rfl dX1_fog_25 rfl (is_64 hS) (by decide) (hs.r) ?_
        refine jx_getIs (pc := 28) (jf_X1_405_5.r) rfl dX1_fog_28 rfl (vis hv) (by decide) (xi_nf hs.V) ?_
        refine jw_ishl (pc := 31) dX1_fog_31 ?_
        rw [shl1 (by omega)]
        first | refine jx_icmp_ge (pc := 32) (tgt := 124) dX1_fog_32 (by decide) (by omega) (by omega) ?_ ?_ | refine jw_icmp_ge (pc := 32) (tgt := 124) dX1_fog_32 (by decide) ?_ ?_
        · intro h_32
          refine jw_lload_n (pc := 124) dX1_fog_124 rfl ?_
          refine jw_lreturn (pc := 125) dX1_fog_125 rfl ?_
          refine lx_ok ?_ hf hX
          unfold q_fog; rw [hv9] <;> rfl
        · intro h_32
          omega
    refine jw_aload_n (pc := 0) dX1_fog_0 rfl ?_
    refine jx_cVv (mi1 := mi_X1_anew) (pc := 1) rfl dX1_fog_1 lk_X1_84 rfl fi_X1_anew rfl rfl rfl (by decide) (is_64 hS) (t_X1_anew h) (by first | decide | omega) rfl rfl (by decide) ?_
    intro M_1 q_1
    obtain ⟨hX, hf⟩ := q_1
    have hS := hX.1
    obtain ⟨v, hs, hN⟩ := hX.so hv9
    refine jw_aload_n (pc := 4) dX1_fog_4 rfl ?_
    refine jx_getRs (pc := 5) (jf_X1_109_0.r) rfl dX1_fog_5 rfl (is_64 hS) (by decide) (hs.r) ?_
    refine jw_ifnonnull (pc := 8) (tgt := 18) dX1_fog_8 (by decide) (fun ax h => ?_) (fun h => by cases h)
    clear h
    refine jw_lconst (pc := 18) dX1_fog_18 rfl ?_
    refine jw_lstore_n (pc := 19) dX1_fog_19 (Nat.le_of_ble_eq_true rfl) rfl ?_
    try dsimp only [jput1, jput2, jkill, jclr, jis2_i, jis2_l, jis2_rs, jis2_rn, cond]
    refine jw_iconst (pc := 20) dX1_fog_20 ic_0 ?_
    refine jw_istore_n (pc := 21) dX1_fog_21 (Nat.le_of_ble_eq_true rfl) rfl ?_
    try dsimp only [jput1, jput2, jkill, jclr, jis2_i, jis2_l, jis2_rs, jis2_rn, cond]
    refine jW.sub ?_ (J (0, M_1) ⟨Nat.zero_le _, hX, hf⟩)
    exact ⟨rfl, rfl, rfl, trivial⟩
theorem t_X1_ready (h : jXx M σ) : jT G mi_X1_ready 9 [jr (some 64)] M (jQx M σ (q_ready σ)) := by
  have hS := h.1
  refine jT.of (by decide) rfl (Nat.le_of_ble_eq_true rfl) ?_
  cases hv9 : sv σ with
  | none =>
    refine jw_aload_n (pc := 0) dX1_ready_0 rfl ?_
    refine jx_cVv (mi1 := mi_X1_anew) (pc := 1) rfl dX1_ready_1 lk_X1_84 rfl fi_X1_anew rfl rfl rfl (by decide) (is_64 hS) (t_X1_anew h) (by first | decide | omega) rfl rfl (by decide) ?_
    intro M_1 q_1
    obtain ⟨hX, hf⟩ := q_1
    have hS := hX.1
    refine jw_aload_n (pc := 4) dX1_ready_4 rfl ?_
    refine jx_getRs (pc := 5) (jf_X1_109_0.r) rfl dX1_ready_5 rfl (is_64 hS) (by decide) (hX.no hv9) ?_
    refine jw_ifnonnull (pc := 8) (tgt := 17) dX1_ready_8 (by decide) (fun ax h => by cases h) (fun h => ?_)
    clear h
    refine jw_aload_n (pc := 11) dX1_ready_11 rfl ?_
    refine jw_iconst (pc := 12) dX1_ready_12 ic_1 ?_
    refine jx_cVi (mi1 := mi_X1_no) (pc := 13) rfl dX1_ready_13 lk_X1_98 rfl fi_X1_no rfl rfl rfl (by decide) (is_64 hS) (t_X1_no hX (by decide)) (by first | decide | omega) rfl rfl (by decide) ?_
    intro x_13 M_13 q_13
    refine jw_ireturn (pc := 16) dX1_ready_16 rfl (rfl) ?_
    refine qx_no ?_ hf q_13
    unfold q_ready; rw [hv9] <;> rfl
  | some V =>
    have hw9 := (h.2.1.2 V hv9).1
    have hnf := wf_nf hw9
    have hpf := p4 hnf
    have J : ∀ x : Nat × Mm, (x.1 ≤ V 0 7 ∧ jXx x.2 (sgT σ 0 (-1)) ∧ jfx M x.2) → jW G mi_X1_ready 9 M 21 [some (jr (some 64)), some (.int (nI (msk x.1 (fun k => lawIn V σ (2 ^ k))))), some (.int (nI x.1))] [] x.2 (jQx M σ (q_ready σ)) := by
      refine jW.loop (σ := Nat × Mm) _ (fun x => V 0 7 - x.1) _ (fun _ => []) (fun x => x.2) (fun x hI ih => ?_)
      obtain ⟨n, M1⟩ := x
      obtain ⟨hn, hX, hf⟩ := hI
      dsimp only at hn hX hf ih ⊢
      have hS := hX.1
      obtain ⟨v, hs, hN⟩ := hX.so hv9
      have hv := hs.s
      by_cases hkn : n < V 0 7
      · have h2n : 2 ^ n < 32 := p5 (n := 5) (by decide) (by omega)
        refine jw_iload_n (pc := 21) dX1_ready_21 rfl ?_
        refine jw_aload_n (pc := 22) dX1_ready_22 rfl ?_
        refine jx_getRs (pc := 23) (jf_X1_109_0.r) rfl dX1_ready_23 rfl (is_64 hS) (by decide) (hs.r) ?_
        refine jx_getIs (pc := 26) (jf_X1_405_5.r) rfl dX1_ready_26 rfl (vis hv) (by decide) (xi_nf hs.V) ?_
        first | refine jx_icmp_ge (pc := 29) (tgt := 58) dX1_ready_29 (by decide) (by omega) (by omega) ?_ ?_ | refine jw_icmp_ge (pc := 29) (tgt := 58) dX1_ready_29 (by decide) ?_ ?_
        · intro h_29
          omega
        · intro h_29
          refine jw_iload_n (pc := 32) dX1_ready_32 rfl ?_
          refine jw_aload_n (pc := 33) dX1_ready_33 rfl ?_
          refine jw_iconst (pc := 34) dX1_ready_34 ic_1 ?_
          refine jw_iload_n (pc := 35) dX1_ready_35 rfl ?_
          refine jw_ishl (pc := 36) dX1_ready_36 ?_
          rw [shl1 (by omega)]
          refine jx_cVi (mi1 := mi_X1_isLawfulIn) (pc := 37) rfl dX1_ready_37 lk_X1_414 rfl fi_X1_isLawfulIn rfl rfl rfl (by decide) (is_64 hS) (t_X1_isLawfulIn (σ := sgT σ 0 (-1)) (V := V) (set := 2 ^ n) hX hv9 (by omega)) (by first | decide | omega) rfl rfl (by simp only [List.map_cons, List.map_nil, List.sum_cons, List.sum_nil, Value.category]; decide) ?_
          intro x_37 M_37 q_37
          obtain ⟨e1, hX2, hf2⟩ := q_37
          subst e1
          rw [show lawIn V (sgT σ 0 (-1)) (2 ^ n) = lawIn V σ (2 ^ n) from rfl]
          first | refine jx_ifb_eq (pc := 40) (tgt := 49) dX1_ready_40 (by decide) ?_ ?_ | refine jx_if_eq (pc := 40) (tgt := 49) dX1_ready_40 (by decide) (by omega) ?_ ?_ | refine jw_if_eq (pc := 40) (tgt := 49) dX1_ready_40 (by decide) ?_ ?_
          · intro h_40
            refine jw_iconst (pc := 49) dX1_ready_49 ic_0 ?_
            refine jw_ior (pc := 50) dX1_ready_50 ?_
            rw [nI_or']
            refine jw_istore_n (pc := 51) dX1_ready_51 (Nat.le_of_ble_eq_true rfl) rfl ?_
            try dsimp only [jput1, jput2, jkill, jclr, jis2_i, jis2_l, jis2_rs, jis2_rn, cond]
            first | refine jx_iinc (pc := 52) dX1_ready_52 rfl rfl ?_ | refine jw_iinc (pc := 52) dX1_ready_52 rfl rfl rfl ?_
            try dsimp only [jput1, jkill, jclr, jis2_i, jis2_l, jis2_rs, jis2_rn, cond]
            refine jw_goto (pc := 55) (tgt := 21) dX1_ready_55 (by decide) ?_
            have ih2 := ih (n + 1, M_37) ⟨hkn, hX2, hf.tr hf2⟩ (by dsimp only; omega)
            refine jW.eq ?_ rfl rfl ih2
            dsimp only
            rw [msk_s, h_40]; rfl
          · intro h_40
            refine jw_iconst (pc := 43) dX1_ready_43 ic_1 ?_
            refine jw_iload_n (pc := 44) dX1_ready_44 rfl ?_
            refine jw_ishl (pc := 45) dX1_ready_45 ?_
            rw [shl1 (by omega)]
            refine jw_goto (pc := 46) (tgt := 50) dX1_ready_46 (by decide) ?_
            refine jw_ior (pc := 50) dX1_ready_50 ?_
            rw [nI_or']
            refine jw_istore_n (pc := 51) dX1_ready_51 (Nat.le_of_ble_eq_true rfl) rfl ?_
            try dsimp only [jput1, jput2, jkill, jclr, jis2_i, jis2_l, jis2_rs, jis2_rn, cond]
            first | refine jx_iinc (pc := 52) dX1_ready_52 rfl rfl ?_ | refine jw_iinc (pc := 52) dX1_ready_52 rfl rfl rfl ?_
            try dsimp only [jput1, jkill, jclr, jis2_i, jis2_l, jis2_rs, jis2_rn, cond]
            refine jw_goto (pc := 55) (tgt := 21) dX1_ready_55 (by decide) ?_
            have ih2 := ih (n + 1, M_37) ⟨hkn, hX2, hf.tr hf2⟩ (by dsimp only; omega)
            refine jW.eq ?_ rfl rfl ih2
            dsimp only
            rw [msk_s, h_40]; rfl
      · have hk' : n = V 0 7 := by omega
        subst hk'
        refine jw_iload_n (pc := 21) dX1_ready_21 rfl ?_
        refine jw_aload_n (pc := 22) dX1_ready_22 rfl ?_
        refine jx_getRs (pc := 23) (jf_X1_109_0.r) rfl dX1_ready_23 rfl (is_64 hS) (by decide) (hs.r) ?_
        refine jx_getIs (pc := 26) (jf_X1_405_5.r) rfl dX1_ready_26 rfl (vis hv) (by decide) (xi_nf hs.V) ?_
        first | refine jx_icmp_ge (pc := 29) (tgt := 58) dX1_ready_29 (by decide) (by omega) (by omega) ?_ ?_ | refine jw_icmp_ge (pc := 29) (tgt := 58) dX1_ready_29 (by decide) ?_ ?_
        · intro h_29
          refine jw_iload_n (pc := 58) dX1_ready_58 rfl ?_
          refine jw_ireturn (pc := 59) dX1_ready_59 rfl (rfl) ?_
          refine qx_ok ?_ hf hX
          unfold q_ready; rw [hv9] <;> rfl
        · intro h_29
          omega
    refine jw_aload_n (pc := 0) dX1_ready_0 rfl ?_
    refine jx_cVv (mi1 := mi_X1_anew) (pc := 1) rfl dX1_ready_1 lk_X1_84 rfl fi_X1_anew rfl rfl rfl (by decide) (is_64 hS) (t_X1_anew h) (by first | decide | omega) rfl rfl (by decide) ?_
    intro M_1 q_1
    obtain ⟨hX, hf⟩ := q_1
    have hS := hX.1
    obtain ⟨v, hs, hN⟩ := hX.so hv9
    refine jw_aload_n (pc := 4) dX1_ready_4 rfl ?_
    refine jx_getRs (pc := 5) (jf_X1_109_0.r) rfl dX1_ready_5 rfl (is_64 hS) (by decide) (hs.r) ?_
    refine jw_ifnonnull (pc := 8) (tgt := 17) dX1_ready_8 (by decide) (fun ax h => ?_) (fun h => by cases h)
    clear h
    refine jw_iconst (pc := 17) dX1_ready_17 ic_0 ?_
    refine jw_istore_n (pc := 18) dX1_ready_18 (Nat.le_of_ble_eq_true rfl) rfl ?_
    try dsimp only [jput1, jput2, jkill, jclr, jis2_i, jis2_l, jis2_rs, jis2_rn, cond]
    refine jw_iconst (pc := 19) dX1_ready_19 ic_0 ?_
    refine jw_istore_n (pc := 20) dX1_ready_20 (Nat.le_of_ble_eq_true rfl) rfl ?_
    try dsimp only [jput1, jput2, jkill, jclr, jis2_i, jis2_l, jis2_rs, jis2_rn, cond]
    exact J (0, M_1) ⟨Nat.zero_le _, hX, hf⟩
theorem lp_img {M9 : Mm} {v k : Nat} {V : Vt} {P : Rs → Mm → Prop} {τ : Sg} (hX : jXx M τ) (hs : jXs M v V) (hkn : k < V 0 1) (he : jm_A M 78 k = nI (sa σ 0 k)) (ih : jW G mi_X1_image 9 M9 36 [some (jr (some 64)), some (.long (imgL σ (k + 1))), none, some (.int (nI (k + 1)))] [] M P) : jW G mi_X1_image 9 M9 36 [some (jr (some 64)), some (.long (imgL σ k)), none, some (.int (nI k))] [] M P := by
  have hS := hX.1
  have hv := hs.s
  have hn := wf_nq hs.w
  refine jw_iload_n (pc := 36) dX1_image_36 rfl ?_
  refine jw_aload_n (pc := 37) dX1_image_37 rfl ?_
  refine jx_getRs (pc := 38) (jf_X1_109_0.r) rfl dX1_image_38 rfl (is_64 hS) (by decide) (hs.r) ?_
  refine jx_getIs (pc := 41) (jf_X1_137_5.r) rfl dX1_image_41 rfl (vis hv) (by decide) (xi_nq hs.V) ?_
  first | refine jx_icmp_ge (pc := 44) (tgt := 67) dX1_image_44 (by decide) (by omega) (by omega) ?_ ?_ | refine jw_icmp_ge (pc := 44) (tgt := 67) dX1_image_44 (by decide) ?_ ?_
  · intro h_44
    omega
  · intro h_44
    refine jw_ldc2 (pc := 47) q1378 rfl dX1_image_47 ?_
    refine jw_lload_n (pc := 50) dX1_image_50 rfl ?_
    refine jw_lmul (pc := 51) dX1_image_51 ?_
    refine jw_aload_n (pc := 52) dX1_image_52 rfl ?_
    refine jx_getRs (pc := 53) (jf_X1_39_0.r) rfl dX1_image_53 rfl (is_64 hS) (by decide) (sr_64_10 hS) ?_
    refine jw_iload_n (pc := 56) dX1_image_56 rfl ?_
    refine jx_ialds (pc := 57) dX1_image_57 (ok_78 hS) (nn_78 hS) rfl (by omega) (he) ?_
    refine jw_i2l (pc := 58) dX1_image_58 (rfl) ?_
    refine jw_ladd (pc := 59) dX1_image_59 ?_
    refine jw_lstore_n (pc := 60) dX1_image_60 (Nat.le_of_ble_eq_true rfl) rfl ?_
    try dsimp only [jput1, jput2, jkill, jclr, jis2_i, jis2_l, jis2_rs, jis2_rn, cond]
    first | refine jx_iinc (pc := 61) dX1_image_61 rfl rfl ?_ | refine jw_iinc (pc := 61) dX1_image_61 rfl rfl rfl ?_
    try dsimp only [jput1, jkill, jclr, jis2_i, jis2_l, jis2_rs, jis2_rn, cond]
    refine jw_goto (pc := 64) (tgt := 36) dX1_image_64 (by decide) ?_
    refine jW.eq rfl rfl rfl ih
theorem lp_img2 {M9 : Mm} {v : Nat} {V : Vt} {P : Rs → Mm → Prop} {τ : Sg} (hX : jXx M τ) (hs : jXs M v V) (ih : P (.inl (some (.long (imgL σ (V 0 1))))) M) : jW G mi_X1_image 9 M9 36 [some (jr (some 64)), some (.long (imgL σ (V 0 1))), none, some (.int (nI (V 0 1)))] [] M P := by
  have hS := hX.1
  have hv := hs.s
  have hn := wf_nq hs.w
  refine jw_iload_n (pc := 36) dX1_image_36 rfl ?_
  refine jw_aload_n (pc := 37) dX1_image_37 rfl ?_
  refine jx_getRs (pc := 38) (jf_X1_109_0.r) rfl dX1_image_38 rfl (is_64 hS) (by decide) (hs.r) ?_
  refine jx_getIs (pc := 41) (jf_X1_137_5.r) rfl dX1_image_41 rfl (vis hv) (by decide) (xi_nq hs.V) ?_
  first | refine jx_icmp_ge (pc := 44) (tgt := 67) dX1_image_44 (by decide) (by omega) (by omega) ?_ ?_ | refine jw_icmp_ge (pc := 44) (tgt := 67) dX1_image_44 (by decide) ?_ ?_
  · intro h_44
    refine jw_lload_n (pc := 67) dX1_image_67 rfl ?_
    refine jw_lreturn (pc := 68) dX1_image_68 rfl ?_
    exact ih
  · intro h_44
    omega
theorem t_X1_image (h : jXx M σ) : jT G mi_X1_image 9 [jr (some 64)] M (jLx M σ (q_image σ)) := by
  have hS := h.1
  refine jT.of (by decide) rfl (Nat.le_of_ble_eq_true rfl) ?_
  cases hv9 : sv σ with
  | none =>
    refine jw_aload_n (pc := 0) dX1_image_0 rfl ?_
    refine jx_cVv (mi1 := mi_X1_anew) (pc := 1) rfl dX1_image_1 lk_X1_84 rfl fi_X1_anew rfl rfl rfl (by decide) (is_64 hS) (t_X1_anew h) (by first | decide | omega) rfl rfl (by decide) ?_
    intro M_1 q_1
    obtain ⟨hX, hf⟩ := q_1
    have hS := hX.1
    refine jw_aload_n (pc := 4) dX1_image_4 rfl ?_
    refine jx_getRs (pc := 5) (jf_X1_109_0.r) rfl dX1_image_5 rfl (is_64 hS) (by decide) (hX.no hv9) ?_
    refine jw_ifnonnull (pc := 8) (tgt := 18) dX1_image_8 (by decide) (fun ax h => by cases h) (fun h => ?_)
    clear h
    refine jw_aload_n (pc := 11) dX1_image_11 rfl ?_
    refine jw_iconst (pc := 12) dX1_image_12 ic_1 ?_
    refine jx_cVi (mi1 := mi_X1_no) (pc := 13) rfl dX1_image_13 lk_X1_98 rfl fi_X1_no rfl rfl rfl (by decide) (is_64 hS) (t_X1_no hX (by decide)) (by first | decide | omega) rfl rfl (by decide) ?_
    intro x_13 M_13 q_13
    refine jw_i2l (pc := 16) dX1_image_16 (rfl) ?_
    refine jw_lreturn (pc := 17) dX1_image_17 rfl ?_
    refine lx_no ?_ hf q_13
    unfold q_image; rw [hv9] <;> rfl
  | some V =>
    refine jw_aload_n (pc := 0) dX1_image_0 rfl ?_
    refine jx_cVv (mi1 := mi_X1_anew) (pc := 1) rfl dX1_image_1 lk_X1_84 rfl fi_X1_anew rfl rfl rfl (by decide) (is_64 hS) (t_X1_anew h) (by first | decide | omega) rfl rfl (by decide) ?_
    intro M_1 q_1
    obtain ⟨hX, hf⟩ := q_1
    have hS := hX.1
    obtain ⟨v, hs, hN⟩ := hX.so hv9
    have hv := hs.s
    have hn := wf_nq hs.w
    have J : ∀ k : Nat, k ≤ V 0 1 → jW G mi_X1_image 9 M 36 [some (jr (some 64)), some (.long (imgL σ k)), none, some (.int (nI k))] [] M_1 (jLx M σ (q_image σ)) := by
      refine jW.loop _ (fun k => V 0 1 - k) _ (fun _ => []) (fun _ => M_1) (fun k hk ih => ?_)
      by_cases hkn : k < V 0 1
      · exact lp_img hX hs hkn (hN.2.2.2.1 k hkn) (ih (k + 1) hkn (by omega))
      · have hk' : k = V 0 1 := by omega
        subst hk'
        exact lp_img2 hX hs (lx_ok (by unfold q_image; rw [hv9]) hf hX)
    refine jw_aload_n (pc := 4) dX1_image_4 rfl ?_
    refine jx_getRs (pc := 5) (jf_X1_109_0.r) rfl dX1_image_5 rfl (is_64 hS) (by decide) (hs.r) ?_
    refine jw_ifnonnull (pc := 8) (tgt := 18) dX1_image_8 (by decide) (fun ax h => ?_) (fun h => by cases h)
    clear h
    refine jw_ldc2 (pc := 18) q1377 rfl dX1_image_18 ?_
    refine jw_aload_n (pc := 21) dX1_image_21 rfl ?_
    refine jx_getIs (pc := 22) (jf_X1_134_0.r) rfl dX1_image_22 rfl (is_64 hS) (by decide) (hN.2.1) ?_
    refine jw_i2l (pc := 25) dX1_image_25 (rfl) ?_
    refine jw_lmul (pc := 26) dX1_image_26 ?_
    refine jw_aload_n (pc := 27) dX1_image_27 rfl ?_
    refine jx_getIs (pc := 28) (jf_X1_131_0.r) rfl dX1_image_28 rfl (is_64 hS) (by decide) (hN.1) ?_
    refine jw_i2l (pc := 31) dX1_image_31 (rfl) ?_
    refine jw_ladd (pc := 32) dX1_image_32 ?_
    refine jw_lstore_n (pc := 33) dX1_image_33 (Nat.le_of_ble_eq_true rfl) rfl ?_
    try dsimp only [jput1, jput2, jkill, jclr, jis2_i, jis2_l, jis2_rs, jis2_rn, cond]
    refine jw_iconst (pc := 34) dX1_image_34 ic_0 ?_
    refine jw_istore_n (pc := 35) dX1_image_35 (Nat.le_of_ble_eq_true rfl) rfl ?_
    try dsimp only [jput1, jput2, jkill, jclr, jis2_i, jis2_l, jis2_rs, jis2_rn, cond]
    exact J 0 (Nat.zero_le _)
end JFG
