/-! ===== posts ===== -/
def dif (x y : Nat) : Nat := x &&& (1023 ^^^ (y &&& 1023))
theorem tb1023 (i : Nat) : (1023 : Nat).testBit i = decide (i < 10) := Nat.testBit_two_pow_sub_one 10 i
theorem tb_hi {x i : Nat} (hx : x < 1024) (hi : 10 ≤ i) : x.testBit i = false := Nat.testBit_lt_two_pow (Nat.lt_of_lt_of_le hx (Nat.pow_le_pow_right (n := 2) (by decide) hi))
theorem dif_bit {x y : Nat} (hx : x < 1024) (i : Nat) : (dif x y).testBit i = (x.testBit i && !y.testBit i) := by
  unfold dif
  rw [Nat.testBit_and, Nat.testBit_xor, Nat.testBit_and, tb1023]
  by_cases h : i < 10
  · rw [decide_eq_true h]; cases y.testBit i <;> simp
  · rw [tb_hi hx (by omega), Bool.false_and, Bool.false_and]
theorem dif_lt {x y : Nat} (hx : x < 1024) : dif x y < 1024 := Nat.lt_of_le_of_lt Nat.and_le_left hx
theorem j_dif {x y : Nat} (hx : x < 1024) : nI x &&& (nI y ^^^ (-1)) = nI (dif x y) := by
  apply Int32.toBitVec_inj.mp
  have e : (Int32.toBitVec (-1)) = BitVec.allOnes 32 := by decide +kernel
  rw [Int32.toBitVec_and, Int32.toBitVec_xor, e, BitVec.xor_allOnes]
  show BitVec.ofNat 32 x &&& ~~~ (BitVec.ofNat 32 y) = BitVec.ofNat 32 (dif x y)
  apply BitVec.eq_of_getLsbD_eq
  intro i hi
  rw [BitVec.getLsbD_and, BitVec.getLsbD_not, BitVec.getLsbD_ofNat, BitVec.getLsbD_ofNat, BitVec.getLsbD_ofNat, dif_bit hx]
  simp [hi]
theorem dif_0 {x y : Nat} (hx : x < 1024) : dif x y = 0 ↔ ∀ i, x.testBit i = true → y.testBit i = true := by
  constructor
  · intro h i hi
    have e := dif_bit (y := y) hx i
    rw [h, Nat.zero_testBit, hi, Bool.true_and] at e
    cases hy : y.testBit i with
    | true => rfl
    | false => rw [hy] at e; cases e
  · intro h
    refine Nat.eq_of_testBit_eq (fun i => ?_)
    rw [dif_bit hx, Nat.zero_testBit]
    cases hi : x.testBit i with
    | false => rfl
    | true => rw [h i hi]; rfl
def heldK (S : Nat → Nat) (set n : Nat) : Nat := match n with
  | 0 => 0
  | n + 1 => if set.testBit n then heldK S set n ||| S n else heldK S set n
def seenK (S : Nat → Nat) (set n : Nat) : Nat := match n with
  | 0 => 0
  | n + 1 => if set.testBit n then seenK S set n ||| dif (S n) (2 ^ n) else seenK S set n
theorem heldK_s (S : Nat → Nat) (set n : Nat) : heldK S set (n + 1) = if set.testBit n then heldK S set n ||| S n else heldK S set n := rfl
theorem seenK_s (S : Nat → Nat) (set n : Nat) : seenK S set (n + 1) = if set.testBit n then seenK S set n ||| dif (S n) (2 ^ n) else seenK S set n := rfl
def holdQ (S : Nat → Nat) (set a : Nat) : Bool := !set.testBit a || decide (dif (S a &&& set) (2 ^ a) ≠ 0)
def holdB (V : Vt) (S : Nat → Nat) (set places : Nat) : Bool := allB (V 0 0) (holdQ S set) && decide (dif places (heldK S set (V 0 0)) = 0)
theorem or1024 {x y : Nat} (hx : x < 1024) (hy : y < 1024) : x ||| y < 1024 := Nat.or_lt_two_pow (n := 10) hx hy
theorem heldK_lt {S : Nat → Nat} {set : Nat} {n : Nat} (hS : ∀ a, a < n → S a < 1024) : heldK S set n < 1024 := by
  induction n with
  | zero => show (0 : Nat) < 1024; decide
  | succ n ih =>
    have i := ih (fun a ha => hS a (by omega))
    rw [heldK_s]; split
    · exact or1024 i (hS n (by omega))
    · exact i
theorem seenK_lt {S : Nat → Nat} {set : Nat} {n : Nat} (hS : ∀ a, a < n → S a < 1024) : seenK S set n < 1024 := by
  induction n with
  | zero => show (0 : Nat) < 1024; decide
  | succ n ih =>
    have i := ih (fun a ha => hS a (by omega))
    rw [seenK_s]; split
    · exact or1024 i (dif_lt (hS n (by omega)))
    · exact i
theorem seenK_bit {S : Nat → Nat} {set : Nat} {n : Nat} (hS : ∀ a, a < n → S a < 1024) (b : Nat) : (seenK S set n).testBit b = true ↔ ∃ a, a < n ∧ set.testBit a = true ∧ (S a).testBit b = true ∧ a ≠ b := by
  induction n with
  | zero =>
    rw [show seenK S set 0 = 0 from rfl, Nat.zero_testBit]
    exact ⟨fun q => (by cases q), fun ⟨a, q, _⟩ => absurd q (Nat.not_lt_zero _)⟩
  | succ n ih =>
    have i := ih (fun a ha => hS a (by omega))
    rw [seenK_s]
    by_cases hs : set.testBit n = true
    · rw [if_pos hs, Nat.testBit_or, Bool.or_eq_true, i, dif_bit (hS n (by omega)), Nat.testBit_two_pow, Bool.and_eq_true, Bool.not_eq_true', decide_eq_false_iff_not]
      constructor
      · rintro (⟨a, q1, q2⟩ | ⟨q1, q2⟩)
        · exact ⟨a, by omega, q2⟩
        · exact ⟨n, by omega, hs, q1, q2⟩
      · rintro ⟨a, q1, q2, q3, q4⟩
        by_cases e : a = n
        · subst e; exact Or.inr ⟨q3, q4⟩
        · exact Or.inl ⟨a, by omega, q2, q3, q4⟩
    · rw [if_neg hs, i]
      constructor
      · rintro ⟨a, q1, q2⟩; exact ⟨a, by omega, q2⟩
      · rintro ⟨a, q1, q2, q3⟩
        by_cases e : a = n
        · subst e; exact absurd q2 hs
        · exact ⟨a, by omega, q2, q3⟩
theorem bit_lt {s n b : Nat} (h : s < 2 ^ n) (hb : s.testBit b = true) : b < n := by
  refine Classical.byContradiction (fun q => ?_)
  rw [Nat.testBit_lt_two_pow (Nat.lt_of_lt_of_le h (Nat.pow_le_pow_right (n := 2) (by decide) (by omega)))] at hb
  cases hb
theorem holdQ_all {S : Nat → Nat} {set n : Nat} (hn : n ≤ 10) (hset : set < 2 ^ n) (hS : ∀ a, a < n → S a < 1024) (hsym : ∀ a b, a < n → b < n → (S a).testBit b = (S b).testBit a) : allB n (holdQ S set) = decide (dif set (seenK S set n) = 0) := by
  have h10 := p10 hn
  rw [Bool.eq_iff_iff, allB_iff, decide_eq_true_eq, dif_0 (by omega)]
  constructor
  · intro h b hb
    have hbn := bit_lt hset hb
    have q := h b hbn
    rw [seenK_bit hS]
    refine Classical.byContradiction (fun c => ?_)
    unfold holdQ at q
    rw [hb, Bool.not_true, Bool.false_or, decide_eq_true_eq] at q
    refine q ((dif_0 (Nat.lt_of_le_of_lt Nat.and_le_left (hS b hbn))).mpr (fun i hi => ?_))
    rw [Nat.testBit_and, Bool.and_eq_true] at hi
    have hin := bit_lt hset hi.2
    rw [Nat.testBit_two_pow, decide_eq_true_eq]
    refine Classical.byContradiction (fun e => c ⟨i, hin, hi.2, ?_, fun x => e x.symm⟩)
    rw [hsym i b hin hbn]; exact hi.1
  · intro h a ha
    unfold holdQ
    cases hb : set.testBit a with
    | false => rfl
    | true =>
      obtain ⟨i, q1, q2, q3, q4⟩ := (seenK_bit hS a).mp (h a hb)
      rw [Bool.not_true, Bool.false_or, decide_eq_true_eq]
      intro e
      have := (dif_0 (Nat.lt_of_le_of_lt Nat.and_le_left (hS a ha))).mp e i (by rw [Nat.testBit_and, hsym a i ha q1, q3, q2]; rfl)
      rw [Nat.testBit_two_pow, decide_eq_true_eq] at this
      exact q4 this.symm
def postF (V : Vt) (S : Nat → Nat) (places s : Nat) (o : Option Nat) : Bool := (match o with | none => true | some b => decide (cnt s < cnt b)) && holdB V S s places
def postO (V : Vt) (S : Nat → Nat) (places : Nat) : Option Nat := bestM (2 ^ V 0 0) (postF V S places)
def postW (o : Option Vt) (p t : Int32) : Int32 := match o with
  | none => 1
  | some V => if isIx (2 ^ V 0 0) p && isIx 200 t then 0 else 2
theorem postW_s (V : Vt) (p t : Int32) : postW (some V) p t = if (isIx (2 ^ V 0 0) p && isIx 200 t) = true then 0 else 2 := rfl
theorem postW_0 {o : Option Vt} {p t : Int32} (h : postW o p t = 0) : ∃ V kp kt, o = some V ∧ kp < 2 ^ V 0 0 ∧ p = nI kp ∧ kt < 200 ∧ t = nI kt := by
  cases o with
  | none => exact absurd (show (1 : Int32) = 0 from h) (by decide)
  | some V =>
    unfold postW at h
    by_cases q : (isIx (2 ^ V 0 0) p && isIx 200 t) = true
    · rw [Bool.and_eq_true] at q
      obtain ⟨k, h1, h2⟩ := isIx_of q.1
      obtain ⟨k2, h3, h4⟩ := isIx_of q.2
      exact ⟨V, k, k2, rfl, h1, h2, h3, h4⟩
    · exact absurd (show (2 : Int32) = 0 by simpa [q] using h) (by decide)
theorem postW_c (o : Option Vt) (p t : Int32) : postW o p t = 0 ∨ postW o p t = 1 ∨ postW o p t = 2 := by
  cases o with
  | none => exact Or.inr (Or.inl rfl)
  | some V =>
    show (if (isIx (2 ^ V 0 0) p && isIx 200 t) = true then (0 : Int32) else 2) = 0 ∨ _ ∨ (if (isIx (2 ^ V 0 0) p && isIx 200 t) = true then (0 : Int32) else 2) = 2
    split
    · exact Or.inl rfl
    · exact Or.inr (Or.inr rfl)
theorem wc_4 {w : Int32} (h : w = 0 ∨ w = 1 ∨ w = 2) : w ≠ 4 := by rcases h with h | h | h <;> subst h <;> decide
theorem wc_le {w : Int32} (h : w = 0 ∨ w = 1 ∨ w = 2) : w ≤ 0 → w = 0 := by
  rcases h with h | h | h <;> subst h <;> decide
def q_posts (σ : Sg) (p t : Int32) : Int32 × Int32 := if postW (sv σ) p t = 0 then (aloneI (postO (vv σ) (seesS (vv σ) (rangeV (vv σ) (iN t)) 0 0) (iN p)), 0) else (-1, postW (sv σ) p t)
def q_postsAt (σ : Sg) (p t : Int32) : Int32 × Int32 := if postW (sv σ) p t = 0 then (optI (postO (vv σ) (seesS (vv σ) (rangeV (vv σ) (iN t)) 0 0) (iN p)), 0) else (-1, postW (sv σ) p t)
section JPO
variable {G : Gh} {M : Mm} {σ : Sg}
theorem t_X1_hold {v s set places : Nat} {V : Vt} {S : Nat → Nat} (hs : jXs M v V) (hQ : jSr M s V S) (hset : set < 1024) (hpl : places < 1024) : jE G mi_X1_hold 3 [jr (some 64), .int (nI set), .int (nI places), jr (some s)] M (some (.int (jb (holdB V S set places)))) M := by
  have hS := hs.1
  have hv := hs.s
  have hn := wf_np hs.w
  refine jE.of (by decide) rfl (Nat.le_of_ble_eq_true rfl) ?_
  have J : ∀ k : Nat, k ≤ V 0 0 → jW G mi_X1_hold 3 M 9 [some (jr (some 64)), some (.int (nI set)), some (.int (nI places)), some (jr (some s)), some (.int (nI (heldK S set k))), some (.int (jb (allB k (holdQ S set)))), some (.int (nI k))] [] M (fun r M' => r = .inl (some (.int (jb (holdB V S set places)))) ∧ M' = M) := by
    refine jW.loop _ (fun k => V 0 0 - k) _ (fun _ => []) (fun _ => M) (fun k hk ih => ?_)
    by_cases hkn : k < V 0 0
    · have hk9 := (hQ.2 k hkn).2
      have hd : dif (S k &&& set) (2 ^ k) < 1024 := dif_lt (Nat.lt_of_le_of_lt Nat.and_le_left hk9)
      have hh : set.testBit k = true → heldK S set (k + 1) = heldK S set k ||| S k := fun h => by rw [heldK_s, h]; rfl
      have J72 : jW G mi_X1_hold 3 M 72 [some (jr (some 64)), some (.int (nI set)), some (.int (nI places)), some (jr (some s)), some (.int (nI (heldK S set (k + 1)))), some (.int (jb (allB k (holdQ S set)))), some (.int (nI k))] [.int (jb (allB (k + 1) (holdQ S set)))] M (fun r M' => r = .inl (some (.int (jb (holdB V S set places)))) ∧ M' = M) := by
        refine jw_istore (pc := 72) dX1_hold_72 (Nat.le_of_ble_eq_true rfl) rfl ?_
        try dsimp only [jput1, jput2, jkill, jclr, jis2_i, jis2_l, jis2_rs, jis2_rn, cond]
        first | refine jx_iinc (pc := 74) dX1_hold_74 rfl rfl ?_ | refine jw_iinc (pc := 74) dX1_hold_74 rfl rfl rfl ?_
        try dsimp only [jput1, jkill, jclr, jis2_i, jis2_l, jis2_rs, jis2_rn, cond]
        refine jw_goto (pc := 77) (tgt := 9) dX1_hold_77 (by decide) ?_
        exact ih (k + 1) hkn (by omega)
      refine jw_iload (pc := 9) dX1_hold_9 rfl ?_
      refine jw_aload_n (pc := 11) dX1_hold_11 rfl ?_
      refine jx_getRs (pc := 12) (jf_X1_109_0.r) rfl dX1_hold_12 rfl (is_64 hS) (by decide) (hs.r) ?_
      refine jx_getIs (pc := 15) (jf_X1_150_5.r) rfl dX1_hold_15 rfl (vis hv) (by decide) (xi_np hs.V) ?_
      first | refine jx_icmp_ge (pc := 18) (tgt := 80) dX1_hold_18 (by decide) (by omega) (by omega) ?_ ?_ | refine jw_icmp_ge (pc := 18) (tgt := 80) dX1_hold_18 (by decide) ?_ ?_
      · intro h_18
        omega
      · intro h_18
        refine jw_iload_n (pc := 21) dX1_hold_21 rfl ?_
        refine jw_iload (pc := 22) dX1_hold_22 rfl ?_
        refine jx_cSE (mi1 := mi_X1_lies) (pc := 24) rfl dX1_hold_24 lk_X1_189 rfl fi_X1_lies (t_X1_lies (by omega) (by omega)) (by first | decide | omega) rfl rfl (by decide) ?_
        first | refine jx_ifb_ne (pc := 27) (tgt := 33) dX1_hold_27 (by decide) ?_ ?_ | refine jx_if_ne (pc := 27) (tgt := 33) dX1_hold_27 (by decide) (by omega) ?_ ?_ | refine jw_if_ne (pc := 27) (tgt := 33) dX1_hold_27 (by decide) ?_ ?_
        · intro h_27
          refine jw_iload (pc := 33) dX1_hold_33 rfl ?_
          refine jw_aload_n (pc := 35) dX1_hold_35 rfl ?_
          refine jw_iload (pc := 36) dX1_hold_36 rfl ?_
          refine jx_cVE (mi1 := mi_X4_sees) (pc := 38) rfl dX1_hold_38 lk_X1_173 rfl fi_X4_sees rfl rfl rfl (by decide) (hQ.1.1) (t_X4_sees hQ.1 (fun a ha => (hQ.2 a ha).1) hkn hn) (by first | decide | omega) rfl rfl (by simp only [List.map_cons, List.map_nil, List.sum_cons, List.sum_nil, Value.category]; decide) ?_
          refine jw_ior (pc := 41) dX1_hold_41 ?_
          rw [nI_or', ← hh h_27]
          refine jw_istore (pc := 42) dX1_hold_42 (Nat.le_of_ble_eq_true rfl) rfl ?_
          try dsimp only [jput1, jput2, jkill, jclr, jis2_i, jis2_l, jis2_rs, jis2_rn, cond]
          refine jw_iload (pc := 44) dX1_hold_44 rfl ?_
          first | refine jx_ifb_eq (pc := 46) (tgt := 71) dX1_hold_46 (by decide) ?_ ?_ | refine jx_if_eq (pc := 46) (tgt := 71) dX1_hold_46 (by decide) (by omega) ?_ ?_ | refine jw_if_eq (pc := 46) (tgt := 71) dX1_hold_46 (by decide) ?_ ?_
          · intro h_46
            refine jw_iconst (pc := 71) dX1_hold_71 ic_0 ?_
            refine jw_ff ?_ J72; rw [allB_s]; first | (rw [h_46]; rfl) | (unfold holdQ; rw [h_27, decide_eq_false (fun q => q h_64), Bool.not_true, Bool.or_false, Bool.and_false])
          · intro h_46
            refine jw_aload_n (pc := 49) dX1_hold_49 rfl ?_
            refine jw_iload (pc := 50) dX1_hold_50 rfl ?_
            refine jx_cVE (mi1 := mi_X4_sees) (pc := 52) rfl dX1_hold_52 lk_X1_173 rfl fi_X4_sees rfl rfl rfl (by decide) (hQ.1.1) (t_X4_sees hQ.1 (fun a ha => (hQ.2 a ha).1) hkn hn) (by first | decide | omega) rfl rfl (by decide) ?_
            refine jw_iload_n (pc := 55) dX1_hold_55 rfl ?_
            refine jw_iand (pc := 56) dX1_hold_56 ?_
            rw [nI_and']
            refine jw_iconst (pc := 57) dX1_hold_57 ic_1 ?_
            refine jw_iload (pc := 58) dX1_hold_58 rfl ?_
            refine jw_ishl (pc := 60) dX1_hold_60 ?_
            rw [shl1 (by omega)]
            refine jw_iconst (pc := 61) dX1_hold_61 ic_m1 ?_
            refine jw_ixor (pc := 62) dX1_hold_62 ?_
            refine jw_iand (pc := 63) dX1_hold_63 ?_
            rw [j_dif (Nat.lt_of_le_of_lt Nat.and_le_left hk9)]
            first | refine jx_ifb_eq (pc := 64) (tgt := 71) dX1_hold_64 (by decide) ?_ ?_ | refine jx_if_eq (pc := 64) (tgt := 71) dX1_hold_64 (by decide) (by omega) ?_ ?_ | refine jw_if_eq (pc := 64) (tgt := 71) dX1_hold_64 (by decide) ?_ ?_
            · intro h_64
              refine jw_iconst (pc := 71) dX1_hold_71 ic_0 ?_
              refine jw_ff ?_ J72; rw [allB_s]; first | (rw [h_46]; rfl) | (unfold holdQ; rw [h_27, decide_eq_false (fun q => q h_64), Bool.not_true, Bool.or_false, Bool.and_false])
            · intro h_64
              refine jw_iconst (pc := 67) dX1_hold_67 ic_1 ?_
              refine jw_goto (pc := 68) (tgt := 72) dX1_hold_68 (by decide) ?_
              refine jw_tt ?_ J72; rw [allB_s, h_46]; unfold holdQ; rw [decide_eq_true h_64, Bool.or_true]; rfl
        · intro h_27
          refine jw_goto (pc := 30) (tgt := 74) dX1_hold_30 (by decide) ?_
          first | refine jx_iinc (pc := 74) dX1_hold_74 rfl rfl ?_ | refine jw_iinc (pc := 74) dX1_hold_74 rfl rfl rfl ?_
          try dsimp only [jput1, jkill, jclr, jis2_i, jis2_l, jis2_rs, jis2_rn, cond]
          refine jw_goto (pc := 77) (tgt := 9) dX1_hold_77 (by decide) ?_
          refine jW.eq ?_ rfl rfl (ih (k + 1) hkn (by omega))
          rw [heldK_s, allB_s, show holdQ S set k = true by (unfold holdQ; rw [h_27]; rfl), Bool.and_true, h_27]; rfl
    · have hk' : k = V 0 0 := by omega
      subst hk'
      have hd : dif places (heldK S set (V 0 0)) < 1024 := dif_lt hpl
      refine jw_iload (pc := 9) dX1_hold_9 rfl ?_
      refine jw_aload_n (pc := 11) dX1_hold_11 rfl ?_
      refine jx_getRs (pc := 12) (jf_X1_109_0.r) rfl dX1_hold_12 rfl (is_64 hS) (by decide) (hs.r) ?_
      refine jx_getIs (pc := 15) (jf_X1_150_5.r) rfl dX1_hold_15 rfl (vis hv) (by decide) (xi_np hs.V) ?_
      first | refine jx_icmp_ge (pc := 18) (tgt := 80) dX1_hold_18 (by decide) (by omega) (by omega) ?_ ?_ | refine jw_icmp_ge (pc := 18) (tgt := 80) dX1_hold_18 (by decide) ?_ ?_
      · intro h_18
        refine jw_iload (pc := 80) dX1_hold_80 rfl ?_
        first | refine jx_ifb_eq (pc := 82) (tgt := 98) dX1_hold_82 (by decide) ?_ ?_ | refine jx_if_eq (pc := 82) (tgt := 98) dX1_hold_82 (by decide) (by omega) ?_ ?_ | refine jw_if_eq (pc := 82) (tgt := 98) dX1_hold_82 (by decide) ?_ ?_
        · intro h_82
          refine jw_iconst (pc := 98) dX1_hold_98 ic_0 ?_
          refine jw_ireturn (pc := 99) dX1_hold_99 rfl (by first | exact jnar_b _ | exact jnar_0 | exact jnar_1 | decide +kernel) ?_
          refine ⟨jret_f ?_, rfl⟩
          unfold holdB; first | (rw [h_82]; rfl) | rw [decide_eq_false h_91, Bool.and_false]
        · intro h_82
          refine jw_iload_n (pc := 85) dX1_hold_85 rfl ?_
          refine jw_iload (pc := 86) dX1_hold_86 rfl ?_
          refine jw_iconst (pc := 88) dX1_hold_88 ic_m1 ?_
          refine jw_ixor (pc := 89) dX1_hold_89 ?_
          refine jw_iand (pc := 90) dX1_hold_90 ?_
          rw [j_dif hpl]
          first | refine jx_ifb_ne (pc := 91) (tgt := 98) dX1_hold_91 (by decide) ?_ ?_ | refine jx_if_ne (pc := 91) (tgt := 98) dX1_hold_91 (by decide) (by omega) ?_ ?_ | refine jw_if_ne (pc := 91) (tgt := 98) dX1_hold_91 (by decide) ?_ ?_
          · intro h_91
            refine jw_iconst (pc := 98) dX1_hold_98 ic_0 ?_
            refine jw_ireturn (pc := 99) dX1_hold_99 rfl (by first | exact jnar_b _ | exact jnar_0 | exact jnar_1 | decide +kernel) ?_
            refine ⟨jret_f ?_, rfl⟩
            unfold holdB; first | (rw [h_82]; rfl) | rw [decide_eq_false h_91, Bool.and_false]
          · intro h_91
            refine jw_iconst (pc := 94) dX1_hold_94 ic_1 ?_
            refine jw_goto (pc := 95) (tgt := 99) dX1_hold_95 (by decide) ?_
            refine jw_ireturn (pc := 99) dX1_hold_99 rfl (by first | exact jnar_b _ | exact jnar_0 | exact jnar_1 | decide +kernel) ?_
            refine ⟨jret_t ?_, rfl⟩
            unfold holdB; rw [h_82, decide_eq_true h_91]; rfl
      · intro h_18
        omega
  refine jw_iconst (pc := 0) dX1_hold_0 ic_0 ?_
  refine jw_istore (pc := 1) dX1_hold_1 (Nat.le_of_ble_eq_true rfl) rfl ?_
  try dsimp only [jput1, jput2, jkill, jclr, jis2_i, jis2_l, jis2_rs, jis2_rn, cond]
  refine jw_iconst (pc := 3) dX1_hold_3 ic_1 ?_
  refine jw_istore (pc := 4) dX1_hold_4 (Nat.le_of_ble_eq_true rfl) rfl ?_
  try dsimp only [jput1, jput2, jkill, jclr, jis2_i, jis2_l, jis2_rs, jis2_rn, cond]
  refine jw_iconst (pc := 6) dX1_hold_6 ic_0 ?_
  refine jw_istore (pc := 7) dX1_hold_7 (Nat.le_of_ble_eq_true rfl) rfl ?_
  try dsimp only [jput1, jput2, jkill, jclr, jis2_i, jis2_l, jis2_rs, jis2_rn, cond]
  exact J 0 (Nat.zero_le _)
theorem t_X1_postsFor {v s places : Nat} {V : Vt} {S : Nat → Nat} (hs : jXs M v V) (hQ : jSr M s V S) (hpl : places < 1024) : jE G mi_X1_postsFor 4 [jr (some 64), .int (nI places), jr (some s)] M (some (.int (optI (postO V S places)))) M := by
  have hS := hs.1
  have hv := hs.s
  have hn := wf_np hs.w
  have hpw : 2 ^ V 0 0 ≤ 1024 := p10 hn
  have h1p := Nat.one_le_two_pow (n := V 0 0)
  have hc := cnt_le
  refine jE.of (by decide) rfl (Nat.le_of_ble_eq_true rfl) ?_
  have J : ∀ k : Nat, k ≤ 2 ^ V 0 0 → jW G mi_X1_postsFor 4 M 6 [some (jr (some 64)), some (.int (nI places)), some (jr (some s)), some (.int (optI (bestM k (postF V S places)))), some (.int (nI k))] [] M (fun r M' => r = .inl (some (.int (optI (postO V S places)))) ∧ M' = M) := by
    refine jW.loop _ (fun k => 2 ^ V 0 0 - k) _ (fun _ => []) (fun _ => M) (fun k hk ih => ?_)
    by_cases hkn : k < 2 ^ V 0 0
    · have hc2 := hc k
      cases hb : bestM k (postF V S places) with
      | none =>
        refine jw_iload (pc := 6) dX1_postsFor_6 rfl ?_
        refine jw_aload_n (pc := 8) dX1_postsFor_8 rfl ?_
        refine jx_getRs (pc := 9) (jf_X1_109_0.r) rfl dX1_postsFor_9 rfl (is_64 hS) (by decide) (hs.r) ?_
        refine jx_cVE (mi1 := mi_X6_all) (pc := 12) rfl dX1_postsFor_12 lk_X1_179 rfl fi_X6_all rfl rfl rfl (by decide) (vis hv) (t_X6_all hs.V hs.w) (by first | decide | omega) rfl rfl (by simp only [List.map_cons, List.map_nil, List.sum_cons, List.sum_nil, Value.category]; decide) ?_
        first | refine jx_icmp_gt (pc := 15) (tgt := 56) dX1_postsFor_15 (by decide) (by omega) (by omega) ?_ ?_ | refine jw_icmp_gt (pc := 15) (tgt := 56) dX1_postsFor_15 (by decide) ?_ ?_
        · intro h_15
          omega
        · intro h_15
          refine jw_iload_n (pc := 18) dX1_postsFor_18 rfl ?_
          refine jw_bipush (pc := 19) dX1_postsFor_19 bp_m2 ?_
          refine jw_icmp_eq (pc := 21) (tgt := 36) dX1_postsFor_21 (by decide) ?_ ?_
          · intro h_21
            refine jw_aload_n (pc := 36) dX1_postsFor_36 rfl ?_
            refine jw_iload (pc := 37) dX1_postsFor_37 rfl ?_
            refine jw_iload_n (pc := 39) dX1_postsFor_39 rfl ?_
            refine jw_aload_n (pc := 40) dX1_postsFor_40 rfl ?_
            refine jx_cVE (mi1 := mi_X1_hold) (pc := 41) rfl dX1_postsFor_41 lk_X1_276 rfl fi_X1_hold rfl rfl rfl (by decide) (is_64 hS) (t_X1_hold hs hQ (by omega) hpl) (by first | decide | omega) rfl rfl (by decide) ?_
            first | refine jx_ifb_eq (pc := 44) (tgt := 50) dX1_postsFor_44 (by decide) ?_ ?_ | refine jx_if_eq (pc := 44) (tgt := 50) dX1_postsFor_44 (by decide) (by omega) ?_ ?_ | refine jw_if_eq (pc := 44) (tgt := 50) dX1_postsFor_44 (by decide) ?_ ?_
            · intro h_44
              first | refine jx_iinc (pc := 50) dX1_postsFor_50 rfl rfl ?_ | refine jw_iinc (pc := 50) dX1_postsFor_50 rfl rfl rfl ?_
              try dsimp only [jput1, jkill, jclr, jis2_i, jis2_l, jis2_rs, jis2_rn, cond]
              refine jw_goto (pc := 53) (tgt := 6) dX1_postsFor_53 (by decide) ?_
              refine jW.eq ?_ rfl rfl (ih (k + 1) hkn (by omega))
              rw [bestM_s, hb]
              first
                | (rw [show postF V S places k none = true by (unfold postF; rw [h_44]; rfl)]; rfl)
                | (rw [show postF V S places k none = false by (unfold postF; rw [h_44]; rfl)]; rfl)
            · intro h_44
              refine jw_iload (pc := 47) dX1_postsFor_47 rfl ?_
              refine jw_istore_n (pc := 49) dX1_postsFor_49 (Nat.le_of_ble_eq_true rfl) rfl ?_
              try dsimp only [jput1, jput2, jkill, jclr, jis2_i, jis2_l, jis2_rs, jis2_rn, cond]
              first | refine jx_iinc (pc := 50) dX1_postsFor_50 rfl rfl ?_ | refine jw_iinc (pc := 50) dX1_postsFor_50 rfl rfl rfl ?_
              try dsimp only [jput1, jkill, jclr, jis2_i, jis2_l, jis2_rs, jis2_rn, cond]
              refine jw_goto (pc := 53) (tgt := 6) dX1_postsFor_53 (by decide) ?_
              refine jW.eq ?_ rfl rfl (ih (k + 1) hkn (by omega))
              rw [bestM_s, hb]
              first
                | (rw [show postF V S places k none = true by (unfold postF; rw [h_44]; rfl)]; rfl)
                | (rw [show postF V S places k none = false by (unfold postF; rw [h_44]; rfl)]; rfl)
          · intro h_21
            exact absurd rfl h_21
      | some b =>
        have hb9 : b < 1024 := by have := bestM_lt hb; omega
        have hc1 := hc b
        refine jw_iload (pc := 6) dX1_postsFor_6 rfl ?_
        refine jw_aload_n (pc := 8) dX1_postsFor_8 rfl ?_
        refine jx_getRs (pc := 9) (jf_X1_109_0.r) rfl dX1_postsFor_9 rfl (is_64 hS) (by decide) (hs.r) ?_
        refine jx_cVE (mi1 := mi_X6_all) (pc := 12) rfl dX1_postsFor_12 lk_X1_179 rfl fi_X6_all rfl rfl rfl (by decide) (vis hv) (t_X6_all hs.V hs.w) (by first | decide | omega) rfl rfl (by simp only [List.map_cons, List.map_nil, List.sum_cons, List.sum_nil, Value.category]; decide) ?_
        first | refine jx_icmp_gt (pc := 15) (tgt := 56) dX1_postsFor_15 (by decide) (by omega) (by omega) ?_ ?_ | refine jw_icmp_gt (pc := 15) (tgt := 56) dX1_postsFor_15 (by decide) ?_ ?_
        · intro h_15
          omega
        · intro h_15
          refine jw_iload_n (pc := 18) dX1_postsFor_18 rfl ?_
          refine jw_bipush (pc := 19) dX1_postsFor_19 bp_m2 ?_
          refine jw_icmp_eq (pc := 21) (tgt := 36) dX1_postsFor_21 (by decide) ?_ ?_
          · intro h_21
            exact absurd h_21 (nI_m2 (by omega))
          · intro h_21
            refine jw_iload (pc := 24) dX1_postsFor_24 rfl ?_
            refine jx_cSE (mi1 := mi_X1_ones) (pc := 26) rfl dX1_postsFor_26 lk_X1_273 rfl fi_X1_ones (t_X1_ones (by omega)) (by first | decide | omega) rfl rfl (by decide) ?_
            refine jw_iload_n (pc := 29) dX1_postsFor_29 rfl ?_
            refine jx_cSE (mi1 := mi_X1_ones) (pc := 30) rfl dX1_postsFor_30 lk_X1_273 rfl fi_X1_ones (t_X1_ones (by omega)) (by first | decide | omega) rfl rfl (by simp only [List.map_cons, List.map_nil, List.sum_cons, List.sum_nil, Value.category]; decide) ?_
            first | refine jx_icmp_ge (pc := 33) (tgt := 50) dX1_postsFor_33 (by decide) (by omega) (by omega) ?_ ?_ | refine jw_icmp_ge (pc := 33) (tgt := 50) dX1_postsFor_33 (by decide) ?_ ?_
            · intro h_33
              first | refine jx_iinc (pc := 50) dX1_postsFor_50 rfl rfl ?_ | refine jw_iinc (pc := 50) dX1_postsFor_50 rfl rfl rfl ?_
              try dsimp only [jput1, jkill, jclr, jis2_i, jis2_l, jis2_rs, jis2_rn, cond]
              refine jw_goto (pc := 53) (tgt := 6) dX1_postsFor_53 (by decide) ?_
              refine jW.eq ?_ rfl rfl (ih (k + 1) hkn (by omega))
              rw [bestM_s, hb]
              first
                | (rw [show postF V S places k (some b) = false by (unfold postF; simp; omega)]; rfl)
                | (rw [show postF V S places k (some b) = false by (unfold postF; rw [h_44, Bool.and_false])]; rfl)
                | (rw [show postF V S places k (some b) = true by (unfold postF; rw [h_44]; simp; omega)]; rfl)
            · intro h_33
              refine jw_aload_n (pc := 36) dX1_postsFor_36 rfl ?_
              refine jw_iload (pc := 37) dX1_postsFor_37 rfl ?_
              refine jw_iload_n (pc := 39) dX1_postsFor_39 rfl ?_
              refine jw_aload_n (pc := 40) dX1_postsFor_40 rfl ?_
              refine jx_cVE (mi1 := mi_X1_hold) (pc := 41) rfl dX1_postsFor_41 lk_X1_276 rfl fi_X1_hold rfl rfl rfl (by decide) (is_64 hS) (t_X1_hold hs hQ (by omega) hpl) (by first | decide | omega) rfl rfl (by decide) ?_
              first | refine jx_ifb_eq (pc := 44) (tgt := 50) dX1_postsFor_44 (by decide) ?_ ?_ | refine jx_if_eq (pc := 44) (tgt := 50) dX1_postsFor_44 (by decide) (by omega) ?_ ?_ | refine jw_if_eq (pc := 44) (tgt := 50) dX1_postsFor_44 (by decide) ?_ ?_
              · intro h_44
                first | refine jx_iinc (pc := 50) dX1_postsFor_50 rfl rfl ?_ | refine jw_iinc (pc := 50) dX1_postsFor_50 rfl rfl rfl ?_
                try dsimp only [jput1, jkill, jclr, jis2_i, jis2_l, jis2_rs, jis2_rn, cond]
                refine jw_goto (pc := 53) (tgt := 6) dX1_postsFor_53 (by decide) ?_
                refine jW.eq ?_ rfl rfl (ih (k + 1) hkn (by omega))
                rw [bestM_s, hb]
                first
                  | (rw [show postF V S places k (some b) = false by (unfold postF; simp; omega)]; rfl)
                  | (rw [show postF V S places k (some b) = false by (unfold postF; rw [h_44, Bool.and_false])]; rfl)
                  | (rw [show postF V S places k (some b) = true by (unfold postF; rw [h_44]; simp; omega)]; rfl)
              · intro h_44
                refine jw_iload (pc := 47) dX1_postsFor_47 rfl ?_
                refine jw_istore_n (pc := 49) dX1_postsFor_49 (Nat.le_of_ble_eq_true rfl) rfl ?_
                try dsimp only [jput1, jput2, jkill, jclr, jis2_i, jis2_l, jis2_rs, jis2_rn, cond]
                first | refine jx_iinc (pc := 50) dX1_postsFor_50 rfl rfl ?_ | refine jw_iinc (pc := 50) dX1_postsFor_50 rfl rfl rfl ?_
                try dsimp only [jput1, jkill, jclr, jis2_i, jis2_l, jis2_rs, jis2_rn, cond]
                refine jw_goto (pc := 53) (tgt := 6) dX1_postsFor_53 (by decide) ?_
                refine jW.eq ?_ rfl rfl (ih (k + 1) hkn (by omega))
                rw [bestM_s, hb]
                first
                  | (rw [show postF V S places k (some b) = false by (unfold postF; simp; omega)]; rfl)
                  | (rw [show postF V S places k (some b) = false by (unfold postF; rw [h_44, Bool.and_false])]; rfl)
                  | (rw [show postF V S places k (some b) = true by (unfold postF; rw [h_44]; simp; omega)]; rfl)
    · have hk' : k = 2 ^ V 0 0 := by omega
      subst hk'
      refine jw_iload (pc := 6) dX1_postsFor_6 rfl ?_
      refine jw_aload_n (pc := 8) dX1_postsFor_8 rfl ?_
      refine jx_getRs (pc := 9) (jf_X1_109_0.r) rfl dX1_postsFor_9 rfl (is_64 hS) (by decide) (hs.r) ?_
      refine jx_cVE (mi1 := mi_X6_all) (pc := 12) rfl dX1_postsFor_12 lk_X1_179 rfl fi_X6_all rfl rfl rfl (by decide) (vis hv) (t_X6_all hs.V hs.w) (by first | decide | omega) rfl rfl (by simp only [List.map_cons, List.map_nil, List.sum_cons, List.sum_nil, Value.category]; decide) ?_
      first | refine jx_icmp_gt (pc := 15) (tgt := 56) dX1_postsFor_15 (by decide) (by omega) (by omega) ?_ ?_ | refine jw_icmp_gt (pc := 15) (tgt := 56) dX1_postsFor_15 (by decide) ?_ ?_
      · intro h_15
        refine jw_iload_n (pc := 56) dX1_postsFor_56 rfl ?_
        refine jw_ireturn (pc := 57) dX1_postsFor_57 rfl (rfl) ?_
        exact ⟨rfl, rfl⟩
      · intro h_15
        omega
  refine jw_bipush (pc := 0) dX1_postsFor_0 bp_m2 ?_
  refine jw_istore_n (pc := 2) dX1_postsFor_2 (Nat.le_of_ble_eq_true rfl) rfl ?_
  try dsimp only [jput1, jput2, jkill, jclr, jis2_i, jis2_l, jis2_rs, jis2_rn, cond]
  refine jw_iconst (pc := 3) dX1_postsFor_3 ic_0 ?_
  refine jw_istore (pc := 4) dX1_postsFor_4 (Nat.le_of_ble_eq_true rfl) rfl ?_
  try dsimp only [jput1, jput2, jkill, jclr, jis2_i, jis2_l, jis2_rs, jis2_rn, cond]
  refine jW.sub ?_ (J 0 (Nat.zero_le _))
  exact ⟨rfl, rfl, rfl, rfl, rfl, trivial⟩
theorem t_X1_postsWhy {p t : Int32} {o : Option Vt} (h : jXx M σ) (ho : sv σ = o) : jE G mi_X1_postsWhy 3 [jr (some 64), .int p, .int t] M (some (.int (postW o p t))) M := by
  have hS := h.1
  refine jE.of (by decide) rfl (Nat.le_of_ble_eq_true rfl) ?_
  cases o with
  | none =>
    refine jw_aload_n (pc := 0) dX1_postsWhy_0 rfl ?_
    refine jx_getRs (pc := 1) (jf_X1_109_0.r) rfl dX1_postsWhy_1 rfl (is_64 hS) (by decide) (h.no ho) ?_
    refine jw_ifnonnull (pc := 4) (tgt := 11) dX1_postsWhy_4 (by decide) (fun ax h => by cases h) (fun h => ?_)
    clear h
    refine jw_iconst (pc := 7) dX1_postsWhy_7 ic_1 ?_
    refine jw_goto (pc := 8) (tgt := 38) dX1_postsWhy_8 (by decide) ?_
    refine jw_ireturn (pc := 38) dX1_postsWhy_38 rfl (rfl) ?_
    exact ⟨rfl, rfl⟩
  | some V =>
    obtain ⟨v, hs, hN⟩ := h.so ho
    have hv := hs.s
    have hn := wf_np hs.w
    have hpw : 2 ^ V 0 0 ≤ 1024 := p10 hn
    have h1p := Nat.one_le_two_pow (n := V 0 0)
    refine jw_aload_n (pc := 0) dX1_postsWhy_0 rfl ?_
    refine jx_getRs (pc := 1) (jf_X1_109_0.r) rfl dX1_postsWhy_1 rfl (is_64 hS) (by decide) (hs.r) ?_
    refine jw_ifnonnull (pc := 4) (tgt := 11) dX1_postsWhy_4 (by decide) (fun ax h => ?_) (fun h => by cases h)
    clear h
    refine jw_iload_n (pc := 11) dX1_postsWhy_11 rfl ?_
    refine jw_iconst (pc := 12) dX1_postsWhy_12 ic_0 ?_
    refine jw_aload_n (pc := 13) dX1_postsWhy_13 rfl ?_
    refine jx_getRs (pc := 14) (jf_X1_109_0.r) rfl dX1_postsWhy_14 rfl (is_64 hS) (by decide) (hs.r) ?_
    refine jx_cVE (mi1 := mi_X6_all) (pc := 17) rfl dX1_postsWhy_17 lk_X1_179 rfl fi_X6_all rfl rfl rfl (by decide) (vis hv) (t_X6_all hs.V hs.w) (by first | decide | omega) rfl rfl (by simp only [List.map_cons, List.map_nil, List.sum_cons, List.sum_nil, Value.category]; decide) ?_
    refine jx_cSE (mi1 := mi_X1_in) (pc := 20) rfl dX1_postsWhy_20 lk_X1_94 rfl fi_X1_in (t_X1_in) (by first | decide | omega) rfl rfl (by decide) ?_
    rw [inb_ix' (by omega), Nat.sub_add_cancel h1p]
    first | refine jx_ifb_eq (pc := 23) (tgt := 37) dX1_postsWhy_23 (by decide) ?_ ?_ | refine jx_if_eq (pc := 23) (tgt := 37) dX1_postsWhy_23 (by decide) (by omega) ?_ ?_ | refine jw_if_eq (pc := 23) (tgt := 37) dX1_postsWhy_23 (by decide) ?_ ?_
    · intro h_23
      refine jw_iconst (pc := 37) dX1_postsWhy_37 ic_2 ?_
      refine jw_ireturn (pc := 38) dX1_postsWhy_38 rfl (rfl) ?_
      refine ⟨?_, rfl⟩
      rw [postW_s]
      first
        | (rw [h_23, h_30]; rfl)
        | (rw [h_23]; rfl)
    · intro h_23
      refine jw_iload_n (pc := 26) dX1_postsWhy_26 rfl ?_
      refine jx_cSE (mi1 := mi_X1_isStep) (pc := 27) rfl dX1_postsWhy_27 lk_X1_156 rfl fi_X1_isStep (t_X1_isStep) (by first | decide | omega) rfl rfl (by decide) ?_
      first | refine jx_ifb_eq (pc := 30) (tgt := 37) dX1_postsWhy_30 (by decide) ?_ ?_ | refine jx_if_eq (pc := 30) (tgt := 37) dX1_postsWhy_30 (by decide) (by omega) ?_ ?_ | refine jw_if_eq (pc := 30) (tgt := 37) dX1_postsWhy_30 (by decide) ?_ ?_
      · intro h_30
        refine jw_iconst (pc := 37) dX1_postsWhy_37 ic_2 ?_
        refine jw_ireturn (pc := 38) dX1_postsWhy_38 rfl (rfl) ?_
        refine ⟨?_, rfl⟩
        rw [postW_s]
        first
          | (rw [h_23, h_30]; rfl)
          | (rw [h_23]; rfl)
      · intro h_30
        refine jw_iconst (pc := 33) dX1_postsWhy_33 ic_0 ?_
        refine jw_goto (pc := 34) (tgt := 38) dX1_postsWhy_34 (by decide) ?_
        refine jw_ireturn (pc := 38) dX1_postsWhy_38 rfl (rfl) ?_
        refine ⟨?_, rfl⟩
        rw [postW_s]
        first
          | (rw [h_23, h_30]; rfl)
          | (rw [h_23]; rfl)
theorem lp_p31 {M9 : Mm} {P : Rs → Mm → Prop} {x1 x2 x3 : Option Value} {o : Option Nat} (ho : ∀ b, o = some b → b < 1024) (h : P (.inl (some (.int (aloneI o)))) M) : jW G mi_X1_posts 9 M9 31 [some (jr (some 64)), x1, x2, x3, none] [.int (optI o)] M P := by
  have hc := cnt_le
  cases o with
  | none =>
    refine jw_istore (pc := 31) dX1_posts_31 (Nat.le_of_ble_eq_true rfl) rfl ?_
    try dsimp only [jput1, jput2, jkill, jclr, jis2_i, jis2_l, jis2_rs, jis2_rn, cond]
    refine jw_iload (pc := 33) dX1_posts_33 rfl ?_
    refine jw_bipush (pc := 35) dX1_posts_35 bp_m2 ?_
    refine jw_icmp_ne (pc := 37) (tgt := 45) dX1_posts_37 (by decide) ?_ ?_
    · intro h_37
      exact absurd rfl h_37
    · intro h_37
      refine jw_bipush (pc := 40) dX1_posts_40 bp_m2 ?_
      refine jw_goto (pc := 42) (tgt := 50) dX1_posts_42 (by decide) ?_
      refine jw_ireturn (pc := 50) dX1_posts_50 rfl (rfl) ?_
      exact h
  | some b =>
    have hb := ho b rfl
    refine jw_istore (pc := 31) dX1_posts_31 (Nat.le_of_ble_eq_true rfl) rfl ?_
    try dsimp only [jput1, jput2, jkill, jclr, jis2_i, jis2_l, jis2_rs, jis2_rn, cond]
    refine jw_iload (pc := 33) dX1_posts_33 rfl ?_
    refine jw_bipush (pc := 35) dX1_posts_35 bp_m2 ?_
    refine jw_icmp_ne (pc := 37) (tgt := 45) dX1_posts_37 (by decide) ?_ ?_
    · intro h_37
      refine jw_iload (pc := 45) dX1_posts_45 rfl ?_
      refine jx_cSE (mi1 := mi_X1_ones) (pc := 47) rfl dX1_posts_47 lk_X1_273 rfl fi_X1_ones (t_X1_ones hb) (by first | decide | omega) rfl rfl (by decide) ?_
      refine jw_ireturn (pc := 50) dX1_posts_50 rfl (rfl) ?_
      exact h
    · intro h_37
      exact absurd h_37 (nI_m2 (by omega))
theorem postO_lt {V : Vt} (hw : jWf V) {S : Nat → Nat} {p b : Nat} (h : postO V S p = some b) : b < 1024 := Nat.lt_of_lt_of_le (bestM_lt h) (p10 (wf_np hw))
theorem t_X1_posts {p t : Int32} (h : jXx M σ) : jT G mi_X1_posts 9 [jr (some 64), .int p, .int t] M (jQx M σ (q_posts σ p t)) := by
  have hS := h.1
  refine jT.of (by decide) rfl (Nat.le_of_ble_eq_true rfl) ?_
  refine jw_aload_n (pc := 0) dX1_posts_0 rfl ?_
  refine jx_cVv (mi1 := mi_X1_anew) (pc := 1) rfl dX1_posts_1 lk_X1_84 rfl fi_X1_anew rfl rfl rfl (by decide) (is_64 hS) (t_X1_anew h) (by first | decide | omega) rfl rfl (by decide) ?_
  intro M_1 q_1
  obtain ⟨hX, hf⟩ := q_1
  have hS := hX.1
  refine jw_aload_n (pc := 4) dX1_posts_4 rfl ?_
  refine jw_iload_n (pc := 5) dX1_posts_5 rfl ?_
  refine jw_iload_n (pc := 6) dX1_posts_6 rfl ?_
  refine jx_cVE (mi1 := mi_X1_postsWhy) (pc := 7) rfl dX1_posts_7 lk_X1_280 rfl fi_X1_postsWhy rfl rfl rfl (by decide) (is_64 hS) (t_X1_postsWhy (o := sv σ) hX rfl) (by first | decide | omega) rfl rfl (by decide) ?_
  refine jw_istore_n (pc := 10) dX1_posts_10 (Nat.le_of_ble_eq_true rfl) rfl ?_
  try dsimp only [jput1, jput2, jkill, jclr, jis2_i, jis2_l, jis2_rs, jis2_rn, cond]
  refine jw_iload_n (pc := 11) dX1_posts_11 rfl ?_
  refine jw_if_eq (pc := 12) (tgt := 21) dX1_posts_12 (by decide) ?_ ?_
  · intro h_12
    obtain ⟨V, kp, kt, hv9, hkp, rfl, hkt, rfl⟩ := postW_0 h_12
    obtain ⟨v, hs, hN⟩ := hX.so hv9
    have hv := hs.s
    have hpw : 2 ^ V 0 0 ≤ 1024 := p10 (wf_np hs.w)
    refine jw_aload_n (pc := 21) dX1_posts_21 rfl ?_
    refine jw_iload_n (pc := 22) dX1_posts_22 rfl ?_
    refine jw_aload_n (pc := 23) dX1_posts_23 rfl ?_
    refine jw_iload_n (pc := 24) dX1_posts_24 rfl ?_
    refine jx_cVE (mi1 := mi_X1_sight) (pc := 25) rfl dX1_posts_25 lk_X1_166 rfl fi_X1_sight rfl rfl rfl (by decide) (is_64 hS) (t_X1_sight (t := kt) hs (by omega)) (by first | decide | omega) rfl rfl (by simp only [List.map_cons, List.map_nil, List.sum_cons, List.sum_nil, cat_i, cat_l, jr_cat]; decide) ?_
    refine jx_cVE (mi1 := mi_X1_postsFor) (pc := 28) rfl dX1_posts_28 lk_X1_283 rfl fi_X1_postsFor rfl rfl rfl (by decide) (is_64 hS) (t_X1_postsFor hs (sgt_sr hs kt) (by omega)) (by first | decide | omega) rfl rfl (by decide) ?_
    exact lp_p31 (fun b hb => postO_lt hs.w hb) (qx_ok (by unfold q_posts; rw [if_pos h_12, vv_s hv9, iN_n (by omega), iN_n (by omega)]) hf hX)
  · intro h_12
    refine jw_aload_n (pc := 15) dX1_posts_15 rfl ?_
    refine jw_iload_n (pc := 16) dX1_posts_16 rfl ?_
    refine jx_cVi (mi1 := mi_X1_no) (pc := 17) rfl dX1_posts_17 lk_X1_98 rfl fi_X1_no rfl rfl rfl (by decide) (is_64 hS) (t_X1_no hX (wc_4 (postW_c _ _ _))) (by first | decide | omega) rfl rfl (by decide) ?_
    intro x_17 M_17 q_17
    refine jw_ireturn (pc := 20) dX1_posts_20 rfl (rfl) ?_
    refine qx_no ?_ hf q_17
    unfold q_posts; rw [if_neg h_12]
theorem t_X1_postsAt {p t : Int32} (h : jXx M σ) : jT G mi_X1_postsAt 9 [jr (some 64), .int p, .int t] M (jQx M σ (q_postsAt σ p t)) := by
  have hS := h.1
  refine jT.of (by decide) rfl (Nat.le_of_ble_eq_true rfl) ?_
  refine jw_aload_n (pc := 0) dX1_postsAt_0 rfl ?_
  refine jx_cVv (mi1 := mi_X1_anew) (pc := 1) rfl dX1_postsAt_1 lk_X1_84 rfl fi_X1_anew rfl rfl rfl (by decide) (is_64 hS) (t_X1_anew h) (by first | decide | omega) rfl rfl (by decide) ?_
  intro M_1 q_1
  obtain ⟨hX, hf⟩ := q_1
  have hS := hX.1
  refine jw_aload_n (pc := 4) dX1_postsAt_4 rfl ?_
  refine jw_iload_n (pc := 5) dX1_postsAt_5 rfl ?_
  refine jw_iload_n (pc := 6) dX1_postsAt_6 rfl ?_
  refine jx_cVE (mi1 := mi_X1_postsWhy) (pc := 7) rfl dX1_postsAt_7 lk_X1_280 rfl fi_X1_postsWhy rfl rfl rfl (by decide) (is_64 hS) (t_X1_postsWhy (o := sv σ) hX rfl) (by first | decide | omega) rfl rfl (by decide) ?_
  refine jw_istore_n (pc := 10) dX1_postsAt_10 (Nat.le_of_ble_eq_true rfl) rfl ?_
  try dsimp only [jput1, jput2, jkill, jclr, jis2_i, jis2_l, jis2_rs, jis2_rn, cond]
  refine jw_iload_n (pc := 11) dX1_postsAt_11 rfl ?_
  refine jw_if_eq (pc := 12) (tgt := 23) dX1_postsAt_12 (by decide) ?_ ?_
  · intro h_12
    obtain ⟨V, kp, kt, hv9, hkp, rfl, hkt, rfl⟩ := postW_0 h_12
    obtain ⟨v, hs, hN⟩ := hX.so hv9
    have hv := hs.s
    have hpw : 2 ^ V 0 0 ≤ 1024 := p10 (wf_np hs.w)
    refine jw_aload_n (pc := 23) dX1_postsAt_23 rfl ?_
    refine jw_iload_n (pc := 24) dX1_postsAt_24 rfl ?_
    refine jw_aload_n (pc := 25) dX1_postsAt_25 rfl ?_
    refine jw_iload_n (pc := 26) dX1_postsAt_26 rfl ?_
    refine jx_cVE (mi1 := mi_X1_sight) (pc := 27) rfl dX1_postsAt_27 lk_X1_166 rfl fi_X1_sight rfl rfl rfl (by decide) (is_64 hS) (t_X1_sight (t := kt) hs (by omega)) (by first | decide | omega) rfl rfl (by simp only [List.map_cons, List.map_nil, List.sum_cons, List.sum_nil, cat_i, cat_l, jr_cat]; decide) ?_
    refine jx_cVE (mi1 := mi_X1_postsFor) (pc := 30) rfl dX1_postsAt_30 lk_X1_283 rfl fi_X1_postsFor rfl rfl rfl (by decide) (is_64 hS) (t_X1_postsFor hs (sgt_sr hs kt) (by omega)) (by first | decide | omega) rfl rfl (by decide) ?_
    refine jw_ireturn (pc := 33) dX1_postsAt_33 rfl (rfl) ?_
    first
      | (refine qx_no ?_ hf q_17; unfold q_postsAt; rw [if_neg h_12]; done)
      | (refine qx_ok ?_ hf hX; unfold q_postsAt; rw [if_pos h_12, vv_s hv9, iN_n (by omega), iN_n (by omega)])
  · intro h_12
    refine jw_aload_n (pc := 15) dX1_postsAt_15 rfl ?_
    refine jw_iload_n (pc := 16) dX1_postsAt_16 rfl ?_
    refine jx_cVi (mi1 := mi_X1_no) (pc := 17) rfl dX1_postsAt_17 lk_X1_98 rfl fi_X1_no rfl rfl rfl (by decide) (is_64 hS) (t_X1_no hX (wc_4 (postW_c _ _ _))) (by first | decide | omega) rfl rfl (by decide) ?_
    intro x_17 M_17 q_17
    refine jw_goto (pc := 20) (tgt := 33) dX1_postsAt_20 (by decide) ?_
    refine jw_ireturn (pc := 33) dX1_postsAt_33 rfl (rfl) ?_
    first
      | (refine qx_no ?_ hf q_17; unfold q_postsAt; rw [if_neg h_12]; done)
      | (refine qx_ok ?_ hf hX; unfold q_postsAt; rw [if_pos h_12, vv_s hv9, iN_n (by omega), iN_n (by omega)])
end JPO
