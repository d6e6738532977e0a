/-! ===== x reads: rows of two ===== -/
def cR (i : Nat) : Nat := if i ≤ 5 then 3 else if i = 6 then 5 else if i ≤ 8 then 6 else 7
theorem jVa_iff {M : Mm} {v : Nat} {V : Vt} : jVa M v V ↔ ∀ i, 4 ≤ i → i ≤ 10 → ∀ k, k < V 0 (cR i) → jm_A M (v + i) k = nI (V i k) := by
  constructor
  · intro h i h1 h2 k hk
    have : i = 4 ∨ i = 5 ∨ i = 6 ∨ i = 7 ∨ i = 8 ∨ i = 9 ∨ i = 10 := by omega
    rcases this with e | e | e | e | e | e | e <;> subst e
    · exact (h.1 k hk).1
    · exact (h.1 k hk).2
    · exact h.2.1 k hk
    · exact (h.2.2.1 k hk).1
    · exact (h.2.2.1 k hk).2
    · exact (h.2.2.2 k hk).1
    · exact (h.2.2.2 k hk).2
  · exact fun h => ⟨fun k hk => ⟨h 4 (by decide) (by decide) k hk, h 5 (by decide) (by decide) k hk⟩, fun k hk => h 6 (by decide) (by decide) k hk, fun k hk => ⟨h 7 (by decide) (by decide) k hk, h 8 (by decide) (by decide) k hk⟩, fun k hk => ⟨h 9 (by decide) (by decide) k hk, h 10 (by decide) (by decide) k hk⟩⟩
section JXW
variable {G : Gh} {M : Mm} {σ : Sg} {n v p zb sb' : Nat} {V : Vt}
theorem xRd.two {E : Nat → Prop} {M1 : Mm} {i m a b : Nat} (h : xRd M σ n v V p zb sb') (hi : (i = 4 ∧ m = 3) ∨ (i = 7 ∧ m = 6) ∨ (i = 9 ∧ m = 7)) (hW : jWf (vS (vS (vS V i (V 0 m) a) (i + 1) (V 0 m) b) 0 m (V 0 m + 1))) (g : jsm E M M1) (hE : ∀ a, E a → a = v ∨ (v + 4 ≤ a ∧ a ≤ v + 10)) (hS : jVs M1 v) (hI : ∀ k, jm_I M1 v k = if k = 97 + m then nI (V 0 m + 1) else jm_I M v k) (hA : ∀ r k, 4 ≤ r → r ≤ 10 → jm_A M1 (v + r) k = if r = i ∧ k = V 0 m then nI a else if r = i + 1 ∧ k = V 0 m then nI b else jm_A M (v + r) k) : xRd M1 σ n v (vS (vS (vS V i (V 0 m) a) (i + 1) (V 0 m) b) 0 m (V 0 m + 1)) p zb sb' := by
  have hm : m = 3 ∨ m = 6 ∨ m = 7 := by omega
  have e0 : ∀ k, ¬ k = m → vS (vS (vS V i (V 0 m) a) (i + 1) (V 0 m) b) 0 m (V 0 m + 1) 0 k = V 0 k := fun k q => by rw [vS_ne (by omega), vS_ne (by omega), vS_ne (by omega)]
  have e1 : vS (vS (vS V i (V 0 m) a) (i + 1) (V 0 m) b) 0 m (V 0 m + 1) 0 m = V 0 m + 1 := vS_eq _ _ _ _
  have er : ∀ j k, ¬ j = 0 → ¬ j = i → ¬ j = i + 1 → vS (vS (vS V i (V 0 m) a) (i + 1) (V 0 m) b) 0 m (V 0 m + 1) j k = V j k := fun j k q1 q2 q3 => by rw [vS_ne (by omega), vS_ne (by omega), vS_ne (by omega)]
  have ea : ∀ k, vS (vS (vS V i (V 0 m) a) (i + 1) (V 0 m) b) 0 m (V 0 m + 1) i k = if k = V 0 m then a else V i k := fun k => by
    rw [vS_ne (by omega), vS_ne (by omega)]
    by_cases e : k = V 0 m
    · rw [if_pos e, e, vS_eq]
    · rw [if_neg e, vS_ne (by omega)]
  have eb : ∀ k, vS (vS (vS V i (V 0 m) a) (i + 1) (V 0 m) b) 0 m (V 0 m + 1) (i + 1) k = if k = V 0 m then b else V (i + 1) k := fun k => by
    rw [vS_ne (by omega)]
    by_cases e : k = V 0 m
    · rw [if_pos e, e, vS_eq]
    · rw [if_neg e, vS_ne (by omega), vS_ne (by omega)]
  have hci : cR i = m := by rcases hi with ⟨e1, e2⟩ | ⟨e1, e2⟩ | ⟨e1, e2⟩ <;> subst e1 <;> subst e2 <;> rfl
  have hci1 : cR (i + 1) = m := by rcases hi with ⟨e1, e2⟩ | ⟨e1, e2⟩ | ⟨e1, e2⟩ <;> subst e1 <;> subst e2 <;> rfl
  refine h.rows g hE hS (h.2.1.2.1.up (i0 := m) (x := V 0 m + 1) (fun k hk => ?_) hI) ?_ (e0 _ (by omega)) (e0 _ (by omega)) (e0 _ (by omega)) (fun j k q => er _ _ (by omega) (by omega) (by omega)) hW (h.2.2.2.2.cg (fun k q => e0 _ (by omega)) (fun j k q => er _ _ (by omega) (by omega) (by omega)))
  · by_cases e : k = m
    · rw [if_pos e, e, e1]
    · rw [if_neg e, e0 _ e]
  · have ha := jVa_iff.mp h.2.1.2.2.1
    refine jVa_iff.mpr (fun r h1 h2 k hk => ?_)
    rw [hA r k h1 h2]
    by_cases c1 : r = i
    · subst c1
      rw [hci, e1] at hk
      rw [ea]
      by_cases c : k = V 0 m
      · rw [if_pos ⟨rfl, c⟩, if_pos c]
      · rw [if_neg (fun q => c q.2), if_neg (by omega), if_neg c]
        exact ha _ h1 h2 k (by rw [hci]; omega)
    · by_cases c2 : r = i + 1
      · subst c2
        rw [hci1, e1] at hk
        rw [eb, if_neg (by omega)]
        by_cases c : k = V 0 m
        · rw [if_pos ⟨rfl, c⟩, if_pos c]
        · rw [if_neg (fun q => c q.2), if_neg c]
          exact ha _ h1 h2 k (by rw [hci1]; omega)
      · have hc : ¬ cR r = m := by
          intro q; unfold cR at q; split at q
          · omega
          · split at q
            · omega
            · first | omega | (split at q <;> omega)
        rw [e0 _ hc] at hk
        rw [if_neg (fun q => c1 q.1), if_neg (fun q => c2 q.1), er _ _ (by omega) c1 c2]
        exact ha _ h1 h2 k hk
theorem xRd.one {E : Nat → Prop} {M1 : Mm} {a : Nat} (h : xRd M σ n v V p zb sb') (hW : jWf (vMirror V a)) (g : jsm E M M1) (hE : ∀ a, E a → a = v ∨ (v + 4 ≤ a ∧ a ≤ v + 10)) (hS : jVs M1 v) (hI : ∀ k, jm_I M1 v k = if k = 97 + 5 then nI (V 0 5 + 1) else jm_I M v k) (hA : ∀ r k, 4 ≤ r → r ≤ 10 → jm_A M1 (v + r) k = if r = 6 ∧ k = V 0 5 then nI a else jm_A M (v + r) k) : xRd M1 σ n v (vMirror V a) p zb sb' := by
  have e0 : ∀ k, ¬ k = 5 → vMirror V a 0 k = V 0 k := fun k q => by unfold vMirror; rw [vS_ne (by omega), vS_ne (by omega)]
  have e1 : vMirror V a 0 5 = V 0 5 + 1 := vS_eq _ _ _ _
  have er : ∀ j k, ¬ j = 0 → ¬ j = 6 → vMirror V a j k = V j k := fun j k q1 q2 => by unfold vMirror; rw [vS_ne (by omega), vS_ne (by omega)]
  have ea : ∀ k, vMirror V a 6 k = if k = V 0 5 then a else V 6 k := fun k => by
    unfold vMirror
    rw [vS_ne (by omega)]
    by_cases e : k = V 0 5
    · rw [if_pos e, e, vS_eq]
    · rw [if_neg e, vS_ne (by omega)]
  refine h.rows g hE hS (h.2.1.2.1.up (i0 := 5) (x := V 0 5 + 1) (fun k hk => ?_) hI) ?_ (e0 _ (by omega)) (e0 _ (by omega)) (e0 _ (by omega)) (fun j k q => er _ _ (by omega) (by omega)) hW (h.2.2.2.2.cg (fun k q => e0 _ (by omega)) (fun j k q => er _ _ (by omega) (by omega)))
  · by_cases e : k = 5
    · rw [if_pos e, e, e1]
    · rw [if_neg e, e0 _ e]
  · have ha := jVa_iff.mp h.2.1.2.2.1
    refine jVa_iff.mpr (fun r h1 h2 k hk => ?_)
    rw [hA r k h1 h2]
    by_cases c1 : r = 6
    · subst c1
      rw [show cR 6 = 5 from rfl, e1] at hk
      rw [ea]
      by_cases c : k = V 0 5
      · rw [if_pos ⟨rfl, c⟩, if_pos c]
      · rw [if_neg (fun q => c q.2), if_neg c]
        exact ha _ h1 h2 k (by rw [show cR 6 = 5 from rfl]; omega)
    · have hc : ¬ cR r = 5 := by
        intro q; unfold cR at q; split at q
        · omega
        · split at q
          · omega
          · first | omega | (split at q <;> omega)
      rw [e0 _ hc] at hk
      rw [if_neg (fun q => c1 q.1), er _ _ (by omega) c1]
      exact ha _ h1 h2 k hk
theorem wal_0 {a b : Nat} : walledB V 0 a b = anyB (V 0 3) (fun k => (decide (V 4 k = a) && decide (V 5 k = b)) || (decide (V 4 k = b) && decide (V 5 k = a))) := by
  unfold walledB wallB
  refine anyB_congr (fun k _ => ?_)
  rw [Nat.zero_testBit]; rfl
theorem t_X2_wall (hG : jGs G) (h : xRd M σ n v V p zb sb') : jT G mi_X2_wall 10 [jr (some 66)] M (xL M σ n v zb sb' (lWall (chI σ n) n V p)) := by
  have hS := h.S
  have hv := h.2.1.1
  have hW := h.2.2.2.1
  have hst := xi_nw h.2.1
  have hn := wf_nw hW
  have hn0 := wf_np hW
  have h104 := hv.2.1
  refine jT.of (by decide) rfl (Nat.le_of_ble_eq_true rfl) ?_
  by_cases hs : V 0 3 < 10
  · have eb : pBegin (chI σ n) n (decide (V 0 3 < 10)) 5 p = .ok (tkE (chI σ n) n p) := by rw [decide_eq_true hs]; rfl
    refine jw_aload_n (pc := 0) dX2_wall_0 rfl ?_
    refine jw_aload_n (pc := 1) dX2_wall_1 rfl ?_
    refine jx_getRs (pc := 2) (jf_X2_120_1.r) rfl dX2_wall_2 rfl (is_66 hS) (by decide) (h.1.2.2.2.2.2.1) ?_
    refine jx_getIs (pc := 5) (jf_X2_227_5.r) rfl dX2_wall_5 rfl (vis hv) (by decide) (hst) ?_
    refine jw_bipush (pc := 8) dX2_wall_8 bp_10 ?_
    first | refine jx_icmp_ge (pc := 10) (tgt := 17) dX2_wall_10 (by decide) (by omega) (by omega) ?_ ?_ | refine jw_icmp_ge (pc := 10) (tgt := 17) dX2_wall_10 (by decide) ?_ ?_
    · intro h_10
      omega
    · intro h_10
      refine jw_iconst (pc := 13) dX2_wall_13 ic_1 ?_
      refine jw_goto (pc := 14) (tgt := 18) dX2_wall_14 (by decide) ?_
      refine jw_iconst (pc := 18) dX2_wall_18 ic_5 ?_
      refine jx_cVt (mi1 := mi_X2_begins) (pc := 19) rfl dX2_wall_19 lk_X2_181 rfl fi_X2_begins rfl rfl rfl (by decide) (is_66 hS) (t_X2_begins (b := true) (k := 5) hG h) (by first | decide | omega) rfl rfl (by decide) ?_ ?_
      rotate_left
      · intro M_19 q_19
        obtain ⟨f, e1, e2⟩ := q_19
        cases e1
      intro v_19 M_19 q_19
      obtain ⟨e0, p1, e1, e2, e3⟩ := q_19
      cases e0; cases e1
      clear hS
      have hS := e2.S
      have g1 := e3.1
      dsimp only [Option.toList, List.nil_append, List.cons_append]
      refine jw_aload_n (pc := 22) dX2_wall_22 rfl ?_
      refine jx_cVt (mi1 := mi_X2_place) (pc := 23) rfl dX2_wall_23 lk_X2_230 rfl fi_X2_place rfl rfl rfl (by decide) (is_66 hS) (t_X2_place hG e2) (by first | decide | omega) rfl rfl (by decide) ?_ ?_
      rotate_left
      · intro M_23 q_23
        obtain ⟨f, e4, e5⟩ := q_23
        refine jx_out67 rfl e5.2.2.2.1 ?_
        exact Or.inr ⟨rfl, f, by unfold lWall pTwo; simp only [eb, e4, Except.bind], e5.j g1⟩
      intro v_23 M_23 q_23
      obtain ⟨a1, f1, e5, e6, e7⟩ := q_23
      cases e5
      clear hS
      have hS := e6.S
      have g2 := g1.tr e7.1
      dsimp only [Option.toList, List.nil_append, List.cons_append]
      refine jw_istore_n (pc := 26) dX2_wall_26 (Nat.le_of_ble_eq_true rfl) rfl ?_
      try dsimp only [jput1, jput2, jkill, jclr, jis2_i, jis2_l, jis2_rs, jis2_rn, cond]
      refine jw_aload_n (pc := 27) dX2_wall_27 rfl ?_
      refine jx_cVt (mi1 := mi_X2_comma) (pc := 28) rfl dX2_wall_28 lk_X2_217 rfl fi_X2_comma rfl rfl rfl (by decide) (is_66 hS) (t_X2_comma hG e6) (by first | decide | omega) rfl rfl (by decide) ?_ ?_
      rotate_left
      · intro M_28 q_28
        obtain ⟨f, e4, e5⟩ := q_28
        refine jx_out67 rfl e5.2.2.2.1 ?_
        exact Or.inr ⟨rfl, f, by unfold lWall pTwo; simp only [eb, f1, e4, Except.bind], e5.j g2⟩
      intro v_28 M_28 q_28
      obtain ⟨e0, p2, f2, e8, e9⟩ := q_28
      cases e0
      clear hS
      have hS := e8.S
      have g3 := g2.tr e9.1
      dsimp only [Option.toList, List.nil_append, List.cons_append]
      refine jw_aload_n (pc := 31) dX2_wall_31 rfl ?_
      refine jx_cVt (mi1 := mi_X2_placeHere) (pc := 32) rfl dX2_wall_32 lk_X2_137 rfl fi_X2_placeHere rfl rfl rfl (by decide) (is_66 hS) (t_X2_placeHere hG e8) (by first | decide | omega) rfl rfl (by decide) ?_ ?_
      rotate_left
      · intro M_32 q_32
        obtain ⟨f, e4, e5⟩ := q_32
        refine jx_out67 rfl e5.2.2.2.1 ?_
        exact Or.inr ⟨rfl, f, by unfold lWall pTwo; simp only [eb, f1, f2, e4, Except.bind], e5.j g3⟩
      intro v_32 M_32 q_32
      obtain ⟨b, f3, hb, e10, hk2, h3, e11⟩ := q_32
      cases e10
      clear hS hv
      have hS := h3.S
      have hv := h3.2.1.1
      have g4 := g3.tr e11.1
      have ha := pKn_0 h.2.2.2.2 (pKnownN_ok f1).1
      dsimp only [Option.toList, List.nil_append, List.cons_append]
      refine jw_istore_n (pc := 35) dX2_wall_35 (Nat.le_of_ble_eq_true rfl) rfl ?_
      try dsimp only [jput1, jput2, jkill, jclr, jis2_i, jis2_l, jis2_rs, jis2_rn, cond]
      refine jw_iload_n (pc := 36) dX2_wall_36 rfl ?_
      refine jw_iload_n (pc := 37) dX2_wall_37 rfl ?_
      first | refine jx_icmp_eq (pc := 38) (tgt := 54) dX2_wall_38 (by decide) (by omega) (by omega) ?_ ?_ | refine jw_icmp_eq (pc := 38) (tgt := 54) dX2_wall_38 (by decide) ?_ ?_
      · intro h_38
        refine jw_aload_n (pc := 54) dX2_wall_54 rfl ?_
        refine jw_iconst (pc := 55) dX2_wall_55 ic_3 ?_
        refine jx_cVE (mi1 := mi_X2_fail) (pc := 56) rfl dX2_wall_56 lk_X2_85 rfl fi_X2_fail rfl rfl rfl (by decide) (is_66 hS) (t_X2_fail h3) (by first | decide | omega) rfl rfl (by decide) ?_
        refine jw_athrow (pc := 59) dX2_wall_59 rfl ?_
        refine jx_out67 rfl hS ?_
        have hab : (decide (b = a1.1) || anyB (V 0 3) (fun k => (decide (V 4 k = a1.1) && decide (V 5 k = b)) || (decide (V 4 k = b) && decide (V 5 k = a1.1)))) = true := by
          first
          | (rw [decide_eq_true (show b = a1.1 by omega)]; rfl)
          | (rw [← wal_0, h_51, Bool.or_true])
        exact Or.inr ⟨rfl, _, by unfold lWall pTwo; simp only [eb, f1, f2, f3, Except.bind]; rw [if_pos hab], h3.fl.j g4⟩
      · intro h_38
        refine jw_aload_n (pc := 41) dX2_wall_41 rfl ?_
        refine jx_getRs (pc := 42) (jf_X2_120_1.r) rfl dX2_wall_42 rfl (is_66 hS) (by decide) (h3.1.2.2.2.2.2.1) ?_
        refine jw_iload_n (pc := 45) dX2_wall_45 rfl ?_
        refine jw_iload_n (pc := 46) dX2_wall_46 rfl ?_
        refine jw_iconst (pc := 47) dX2_wall_47 ic_0 ?_
        refine jx_cVE (mi1 := mi_X6_isWalled) (pc := 48) rfl dX2_wall_48 lk_X2_232 rfl fi_X6_isWalled rfl rfl rfl (by decide) (vis hv) (t_X6_isWalled (op := 0) h3.2.1 hW (by decide) ha hb) (by first | decide | omega) rfl rfl (by decide) ?_
        first | refine jx_ifb_eq (pc := 51) (tgt := 60) dX2_wall_51 (by decide) ?_ ?_ | refine jx_if_eq (pc := 51) (tgt := 60) dX2_wall_51 (by decide) (by omega) ?_ ?_ | refine jw_if_eq (pc := 51) (tgt := 60) dX2_wall_51 (by decide) ?_ ?_
        · intro h_51
          refine jw_aload_n (pc := 60) dX2_wall_60 rfl ?_
          refine jx_cVv (mi1 := mi_X2_next) (pc := 61) rfl dX2_wall_61 lk_X2_79 rfl fi_X2_next rfl rfl rfl (by decide) (is_66 hS) (h3.next hG) (by first | decide | omega) rfl rfl (by decide) ?_
          intro M_61 q_61
          obtain ⟨h4, e12⟩ := q_61
          clear hS hv
          have hS := h4.S
          have hv := h4.2.1.1
          have hst4 := xi_nw h4.2.1
          have g5 := g4.tr e12.1
          refine jw_aload_n (pc := 64) dX2_wall_64 rfl ?_
          refine jx_getRs (pc := 65) (jf_X2_120_1.r) rfl dX2_wall_65 rfl (is_66 hS) (by decide) (h4.1.2.2.2.2.2.1) ?_
          refine jx_getRs (pc := 68) jg_X2_235_5 rfl dX2_wall_68 rfl (vis hv) (by decide) (vr_4 hv) ?_
          refine jw_aload_n (pc := 71) dX2_wall_71 rfl ?_
          refine jx_getRs (pc := 72) (jf_X2_120_1.r) rfl dX2_wall_72 rfl (is_66 hS) (by decide) (h4.1.2.2.2.2.2.1) ?_
          refine jx_getIs (pc := 75) (jf_X2_227_5.r) rfl dX2_wall_75 rfl (vis hv) (by decide) (hst4) ?_
          refine jw_iload_n (pc := 78) dX2_wall_78 rfl ?_
          refine jx_iast (pc := 79) dX2_wall_79 (by omega) (vok_4 hv) (vnn_4 hv) rfl (by omega) ?_
          refine jw_aload_n (pc := 80) dX2_wall_80 rfl ?_
          refine jx_getRs (pc := 81) (jf_X2_120_1.r) rfl dX2_wall_81 rfl (is_66 hS) (by decide) (h4.1.2.2.2.2.2.1) ?_
          refine jx_getRs (pc := 84) jg_X2_239_5 rfl dX2_wall_84 rfl (vis hv) (by decide) (vr_5 hv) ?_
          refine jw_aload_n (pc := 87) dX2_wall_87 rfl ?_
          refine jx_getRs (pc := 88) (jf_X2_120_1.r) rfl dX2_wall_88 rfl (is_66 hS) (by decide) (h4.1.2.2.2.2.2.1) ?_
          refine jx_getIs (pc := 91) (jf_X2_227_5.r) rfl dX2_wall_91 rfl (vis hv) (by decide) (hst4) ?_
          refine jw_iload_n (pc := 94) dX2_wall_94 rfl ?_
          refine jx_iast (pc := 95) dX2_wall_95 (by omega) (vok_5 hv) (vnn_5 hv) rfl (by omega) ?_
          refine jw_aload_n (pc := 96) dX2_wall_96 rfl ?_
          refine jx_getRs (pc := 97) (jf_X2_120_1.r) rfl dX2_wall_97 rfl (is_66 hS) (by decide) (h4.1.2.2.2.2.2.1) ?_
          refine jw_dup (pc := 100) dX2_wall_100 (jis2_r _) ?_
          refine jx_getIs (pc := 101) (jf_X2_227_5.r) rfl dX2_wall_101 rfl (vis hv) (by decide) (hst4) ?_
          refine jw_iconst (pc := 104) dX2_wall_104 ic_1 ?_
          first | refine jx_iadd (pc := 105) dX2_wall_105 ?_ | refine jw_iadd (pc := 105) dX2_wall_105 ?_
          refine jx_putI (pc := 106) jf_X2_227_5 rfl dX2_wall_106 rfl rfl (vis hv) (by decide) ?_
          refine jw_return (pc := 109) dX2_wall_109 rfl ?_
          have hab : ¬ (decide (b = a1.1) || anyB (V 0 3) (fun k => (decide (V 4 k = a1.1) && decide (V 5 k = b)) || (decide (V 4 k = b) && decide (V 5 k = a1.1)))) = true := by
            rw [decide_eq_false (show ¬ b = a1.1 by omega), ← wal_0, h_51]; decide
          have hV : lWall (chI σ n) n V p = .ok (vWall V a1.1 b, tkE (chI σ n) n p2) := by unfold lWall pTwo; simp only [eb, f1, f2, f3, Except.bind]; rw [if_neg hab]
          refine Or.inl ⟨_, rfl, rfl, (vWall V a1.1 b, tkE (chI σ n) n p2), hV, ?_, ?_⟩
          · refine (h4.two (E := fun a => a = v ∨ (v + 4 ≤ a ∧ a ≤ v + 10)) (Or.inl ⟨rfl, rfl⟩) (wf_wall hW hs ha hb) (((jsm.A (by omega)).tr (jsm.A (by omega))).tr (jsm.I (by omega))) (fun a q => q) hv (fun k => ?_) (fun r k q1 q2 => ?_)).j
            · rw [jI_I]; by_cases e : k = 100
              · rw [if_pos ⟨e, rfl⟩, if_pos e]
              · rw [if_neg (fun q => e q.1), if_neg e]; rfl
            · rw [jA_I, jA_A, jA_A]
              by_cases e5 : r = 5 ∧ k = V 0 3
              · rw [if_pos (by omega), if_neg (by omega), if_pos (by omega)]
              · rw [if_neg (by omega)]
                by_cases e4 : r = 4 ∧ k = V 0 3
                · rw [if_pos (by omega), if_pos (by omega)]
                · rw [if_neg (by omega), if_neg (by omega), if_neg (by omega)]
          · exact g5.tr (((jsm.A (Or.inr (by omega))).tr (jsm.A (Or.inr (by omega)))).tr (jsm.I (Or.inr (by omega))))
        · intro h_51
          refine jw_aload_n (pc := 54) dX2_wall_54 rfl ?_
          refine jw_iconst (pc := 55) dX2_wall_55 ic_3 ?_
          refine jx_cVE (mi1 := mi_X2_fail) (pc := 56) rfl dX2_wall_56 lk_X2_85 rfl fi_X2_fail rfl rfl rfl (by decide) (is_66 hS) (t_X2_fail h3) (by first | decide | omega) rfl rfl (by decide) ?_
          refine jw_athrow (pc := 59) dX2_wall_59 rfl ?_
          refine jx_out67 rfl hS ?_
          have hab : (decide (b = a1.1) || anyB (V 0 3) (fun k => (decide (V 4 k = a1.1) && decide (V 5 k = b)) || (decide (V 4 k = b) && decide (V 5 k = a1.1)))) = true := by
            first
            | (rw [decide_eq_true (show b = a1.1 by omega)]; rfl)
            | (rw [← wal_0, h_51, Bool.or_true])
          exact Or.inr ⟨rfl, _, by unfold lWall pTwo; simp only [eb, f1, f2, f3, Except.bind]; rw [if_pos hab], h3.fl.j g4⟩
  · have eb : pBegin (chI σ n) n (decide (V 0 3 < 10)) 5 p = .error (5, tkA (chI σ n) n p) := by rw [decide_eq_false hs]; rfl
    refine jw_aload_n (pc := 0) dX2_wall_0 rfl ?_
    refine jw_aload_n (pc := 1) dX2_wall_1 rfl ?_
    refine jx_getRs (pc := 2) (jf_X2_120_1.r) rfl dX2_wall_2 rfl (is_66 hS) (by decide) (h.1.2.2.2.2.2.1) ?_
    refine jx_getIs (pc := 5) (jf_X2_227_5.r) rfl dX2_wall_5 rfl (vis hv) (by decide) (hst) ?_
    refine jw_bipush (pc := 8) dX2_wall_8 bp_10 ?_
    first | refine jx_icmp_ge (pc := 10) (tgt := 17) dX2_wall_10 (by decide) (by omega) (by omega) ?_ ?_ | refine jw_icmp_ge (pc := 10) (tgt := 17) dX2_wall_10 (by decide) ?_ ?_
    · intro h_10
      refine jw_iconst (pc := 17) dX2_wall_17 ic_0 ?_
      refine jw_iconst (pc := 18) dX2_wall_18 ic_5 ?_
      refine jx_cVt (mi1 := mi_X2_begins) (pc := 19) rfl dX2_wall_19 lk_X2_181 rfl fi_X2_begins rfl rfl rfl (by decide) (is_66 hS) (t_X2_begins (b := false) (k := 5) hG h) (by first | decide | omega) rfl rfl (by decide) ?_ ?_
      rotate_left
      · intro M_19 q_19
        obtain ⟨f, e1, e2⟩ := q_19
        cases e1
        refine jx_out67 rfl e2.2.2.2.1 ?_
        exact Or.inr ⟨rfl, _, by unfold lWall; rw [eb]; rfl, e2.j jsm.rf⟩
      intro v_19 M_19 q_19
      obtain ⟨e0, p1, e1, e2, e3⟩ := q_19
      cases e1
    · intro h_10
      omega
end JXW
