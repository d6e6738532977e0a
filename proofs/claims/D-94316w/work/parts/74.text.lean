/-! ===== texts ===== -/
/-- an object that may lie among the old ones -/
def jit (M : Mm) (a c : Nat) : Prop := jm_K M a = c + 1 ∧ a < jm_Z M
theorem jis.t {M : Mm} {a c : Nat} (h : jis M a c) : jit M a c := ⟨h.1, h.2.1⟩
section JWY
variable {G : Gh} {mi : Mi} {d : Nat} {M0 : Mm} {pc : Nat} {ls : List (Option Value)} {st : List Value} {M : Mm} {P : Rs → Mm → Prop}
theorem jy_getIs {own : String} {idx c kk key a : Nat} {x : Int32} (hf : jFr own idx c kk) (ho : own = mi.1.cls) (hd : decode mi.2.1 pc = .ok (.getfield idx, 3)) (hq : (jlay.getD c [])[kk]? = some (key, 0)) (h : jit M a c) (hlt : c < 99) (hv : jm_I M a key = x) (k : jW G mi d M0 (pc + 3) ls (.int x :: st) M P) : jW G mi d M0 pc ls (jr (some a) :: st) M P := by
  subst hv
  exact jw_getI hf ho hd hq rfl h.1 hlt h.2 k
theorem jy_getRs {own : String} {idx c kk key a : Nat} {o : Option Nat} (hf : jFr own idx c kk) (ho : own = mi.1.cls) (hd : decode mi.2.1 pc = .ok (.getfield idx, 3)) (hq : (jlay.getD c [])[kk]? = some (key, 2)) (h : jit M a c) (hlt : c < 99) (hv : jm_R M a key = o) (k : jW G mi d M0 (pc + 3) ls (jr o :: st) M P) : jW G mi d M0 pc ls (jr (some a) :: st) M P := by
  subst hv
  exact jw_getR hf ho hd hq rfl h.1 hlt h.2 k
theorem jy_cV {own C : String} {idx : Nat} {mi1 : Mi} {d1 n c : Nat} {As rest : List Value} {b : Nat} {P1 : Rs → Mm → Prop} (ho : own = mi.1.cls) (hd : decode mi.2.1 pc = .ok (.invokevirtual idx, 3)) (hlk : GoodIn lw_all (wsV own idx C mi1.1 (ws_ mi1.1 mi1.2.1 mi1.2.2.1 mi1.2.2.2.1))) (hhh : mi1.2.2.2.2 = []) (hf : jfi mi1 n) (hC : mi1.1.cls = C) {r : vw_C} (hr : jcls[c]? = some r) (hrC : r.1 = C) (hc : c < 99) (hb : jit M b c) (hT : jT G mi1 d1 (jr (some b) :: As) M P1) (hdd : d1 + 1 ≤ d) (hAs : As.length = n) (hst : st = As.reverse ++ jr (some b) :: rest) (hcat : (rest.map fun v => v.category).sum ≤ 8)
    (k : ∀ v M1, P1 (.inl v) M1 → jW G mi d M0 (pc + 3) ls (v.toList ++ rest) M1 P) (kx : ∀ a M1, P1 (.inr a) M1 → jX G mi d M0 pc ls a M1 P) : jW G mi d M0 pc ls st M P :=
  jw_callV ho hd hlk hhh rfl hT ⟨hdd, hf⟩ hC hAs hst hcat hb.1 hc hb.2 hr hrC k kx
theorem jy_cVE {own C : String} {idx : Nat} {mi1 : Mi} {d1 n c : Nat} {As rest : List Value} {b : Nat} {w : Value} {M1 : Mm} (ho : own = mi.1.cls) (hd : decode mi.2.1 pc = .ok (.invokevirtual idx, 3)) (hlk : GoodIn lw_all (wsV own idx C mi1.1 (ws_ mi1.1 mi1.2.1 mi1.2.2.1 mi1.2.2.2.1))) (hhh : mi1.2.2.2.2 = []) (hf : jfi mi1 n) (hC : mi1.1.cls = C) {r : vw_C} (hr : jcls[c]? = some r) (hrC : r.1 = C) (hc : c < 99) (hb : jit M b c) (hT : jE G mi1 d1 (jr (some b) :: As) M (some w) M1) (hdd : d1 + 1 ≤ d) (hAs : As.length = n) (hst : st = As.reverse ++ jr (some b) :: rest) (hcat : (rest.map fun v => v.category).sum ≤ 8)
    (k : jW G mi d M0 (pc + 3) ls (w :: rest) M1 P) : jW G mi d M0 pc ls st M P :=
  jy_cV ho hd hlk hhh hf hC hr hrC hc hb hT hdd hAs hst hcat (fun v M2 q => by obtain ⟨q1, q2⟩ := q; cases q1; cases q2; exact k) (fun a M2 q => by obtain ⟨q1, q2⟩ := q; cases q1)
theorem jw_castB {own : String} {idx : Nat} {o : Option Nat} {a : Nat} (ho : own = mi.1.cls) (hlk : Cond.classLink own idx "[B" ∈ lw_all) (hd : decode mi.2.1 pc = .ok (.checkcast idx, 3)) (hoa : o = some a) (hk : jok M a 1) (h64 : 64 ≤ a) (k : jW G mi d M0 (pc + 3) ls (jr (some a) :: st) M P) : jW G mi d M0 pc ls (jr o :: st) M P := by
  subst ho; subst hoa
  refine jW.s0 (fun p e s m args below meth c H locs la R cells slots Q X hR hS hl w => va_castE X.x X.b X.own (X.ts _ hlk) ?_ hd w) k
  obtain ⟨cell, h1, h2, h3, -⟩ := jarr_get hR hk
  refine ⟨cell, h1, ?_, ?_⟩
  · cases hv : cell.vm <;> first | rfl | exact absurd hv (h3 _)
  · rw [h2]
    have e : jac G M a = jg_a G 1 := by unfold jac; rw [if_neg (by omega), hk.1]
    rw [e]
    exact (X.kn.2.1 1 .byte rfl).2
theorem jx_balds {i x : Int32} {a n N : Nat} (hd : decode mi.2.1 pc = .ok (.baload, 1)) (hk : jok M a 1) (hN : jm_N M a = N) (hi : i = nI n) (hn : n < N) (hv : jm_A M a n = x) (k : jW G mi d M0 (pc + 1) ls (.int x :: st) M P) : jW G mi d M0 pc ls (.int i :: jr (some a) :: st) M P := by
  subst hv
  exact jx_bald hd hk hN hi hn k
theorem jx_calds {i x : Int32} {a n N : Nat} (hd : decode mi.2.1 pc = .ok (.caload, 1)) (hk : jok M a 2) (hN : jm_N M a = N) (hi : i = nI n) (hn : n < N) (hv : jm_A M a n = x) (k : jW G mi d M0 (pc + 1) ls (.int x :: st) M P) : jW G mi d M0 pc ls (.int i :: jr (some a) :: st) M P := by
  subst hv
  exact jx_cald hd hk hN hi hn k
end JWY
/-- the statics that are asked for -/
def jGs (G : Gh) : Prop := jg_u G 0 = jv G (.int (nI 1)) ∧ (∃ o, jg_u G 1 = jv G (jr o)) ∧ (∃ o, jg_u G 2 = jv G (jr o)) ∧ ∃ o, jg_u G 3 = jv G (jr o)
/-- letters -/
def txl (f : Nat → Nat) (k : Nat) : Prop := k ≤ 8 ∧ ∀ i, i < k → 97 ≤ f i ∧ f i ≤ 122
def txc (f : Nat → Nat) (k : Nat) : Nat := codeN 32 k (fun i => f i - 96)
def hsF (f : Nat → Nat) : Nat → Int32
  | 0 => 0
  | n + 1 => nI 31 * hsF f n + nI (f n)
theorem txc_s (f : Nat → Nat) (k : Nat) : txc f (k + 1) = txc f k * 32 + (f k - 96) := rfl
theorem txc_inj {f g : Nat → Nat} : ∀ k j : Nat, (∀ i, i < k → 97 ≤ f i ∧ f i ≤ 122) → (∀ i, i < j → 97 ≤ g i ∧ g i ≤ 122) → txc f k = txc g j → k = j ∧ ∀ i, i < k → f i = g i
  | 0, 0, _, _, _ => ⟨rfl, fun i hi => absurd hi (Nat.not_lt_zero _)⟩
  | 0, j + 1, _, hg, h => by
    rw [txc_s] at h
    have := hg j (by omega)
    have h0 : txc f 0 = 0 := rfl
    omega
  | k + 1, 0, hf, _, h => by
    rw [txc_s] at h
    have := hf k (by omega)
    have h0 : txc g 0 = 0 := rfl
    omega
  | k + 1, j + 1, hf, hg, h => by
    rw [txc_s, txc_s] at h
    have a := hf k (by omega)
    have b := hg j (by omega)
    obtain ⟨e1, e2⟩ := txc_inj k j (fun i hi => hf i (by omega)) (fun i hi => hg i (by omega)) (by omega)
    refine ⟨by omega, fun i hi => ?_⟩
    by_cases e : i = k
    · subst e; rw [show f i = g j by omega, e1]
    · exact e2 i (by omega)
theorem hsF_cg {f g : Nat → Nat} : ∀ k : Nat, (∀ i, i < k → f i = g i) → hsF f k = hsF g k
  | 0, _ => rfl
  | k + 1, h => by
    show nI 31 * hsF f k + nI (f k) = nI 31 * hsF g k + nI (g k)
    rw [hsF_cg k (fun i hi => h i (by omega)), h k (by omega)]
/-- the bytes at b are the letters -/
def jBy (M : Mm) (b : Nat) (f : Nat → Nat) (k : Nat) : Prop := jok M b 1 ∧ jm_N M b = k ∧ ∀ i, i < k → jm_A M b i = nI (f i)
/-- the text at o has the code c -/
def jTx (M : Mm) (o c : Nat) : Prop := ∃ f k, txl f k ∧ txc f k = c ∧ jit M o 13 ∧ jm_I M o 166 = nI 0 ∧ ((jm_I M o 167 = 0 ∨ jm_I M o 167 = hsF f k) ∧ (jm_I M o 168 = nI 0 ∨ (jm_I M o 168 = nI 1 ∧ hsF f k = 0))) ∧ ∃ b, jm_R M o 165 = some b ∧ jBy M b f k ∧ (o ≠ 62 ∧ b ≠ 62) ∧ (64 ≤ o → 64 ≤ b)
theorem jit.al {M M1 : Mm} {a c : Nat} (h : jit M a c) (hal : jal M M1 a) (hZ : jm_Z M ≤ jm_Z M1) : jit M1 a c := ⟨by rw [hal.1]; exact h.1, Nat.lt_of_lt_of_le h.2 hZ⟩
theorem jBy.al {M M1 : Mm} {b k : Nat} {f : Nat → Nat} (h : jBy M b f k) (hal : jal M M1 b) (hZ : jm_Z M ≤ jm_Z M1) : jBy M1 b f k := ⟨h.1.al hal hZ, by rw [hal.2.1]; exact h.2.1, fun i hi => by rw [hal.2.2.2.2.2.1]; exact h.2.2 i hi⟩
theorem jTx.it {M : Mm} {o c : Nat} (h : jTx M o c) : jit M o 13 := by
  obtain ⟨f, k, -, -, h3, -⟩ := h; exact h3
/-- texts stay, where no text and no row of bytes is written -/
theorem jTx.fr {E : Nat → Prop} {M M1 : Mm} {o c : Nat} (h : jTx M o c) (g : jsm E M M1) (hE : ∀ a, E a → a ≠ 62 → a < jm_Z M → jm_K M a ≠ 14 ∧ jm_K M a ≠ 101) : jTx M1 o c := by
  obtain ⟨f, k, h1, h2, h3, h4, h5, b, h6, h7, h8⟩ := h
  have ao := g.2.2 o h3.2 (fun q => (hE o q h8.1.1 h3.2).1 h3.1)
  have ab := g.2.2 b h7.1.2.1 (fun q => (hE b q h8.1.2 h7.1.2.1).2 h7.1.1)
  exact ⟨f, k, h1, h2, h3.al ao g.1, by rw [ao.2.2.1]; exact h4, by rw [ao.2.2.1, ao.2.2.1]; exact h5, b, by rw [ao.2.2.2.2.1]; exact h6, h7.al ab g.1, h8⟩
section JTX
variable {G : Gh} {M : Mm}
theorem t_J3_isLatin1 {o : Nat} (hG : jGs G) (hK : jit M o 13) (hc : jm_I M o 166 = nI 0) : jE G mi_J3_isLatin1 1 [jr (some o)] M (some (.int (nI 1))) M := by
  have hg := hG.1
  refine jE.ofF pf_J3_isLatin1 rfl (Nat.le_of_ble_eq_true rfl) ?_
  refine jw_gets (i := 0) (pc := 0)  rfl hg rfl q583 dJ3_isLatin1_0 ?_
  first | refine jx_ifb_eq (pc := 3) (tgt := 17) dJ3_isLatin1_3 (by decide) ?_ ?_ | refine jx_if_eq (pc := 3) (tgt := 17) dJ3_isLatin1_3 (by decide) (by omega) ?_ ?_ | refine jw_if_eq (pc := 3) (tgt := 17) dJ3_isLatin1_3 (by decide) ?_ ?_
  · intro h_3
    first | exact absurd h_3 (by decide +kernel) | cases h_3
  · intro h_3
    refine jw_aload_n (pc := 6) dJ3_isLatin1_6 rfl ?_
    refine jy_getIs (pc := 7) (jf_J3_15_13.r) rfl dJ3_isLatin1_7 rfl (hK) (by decide) (hc) ?_
    first | refine jx_ifb_ne (pc := 10) (tgt := 17) dJ3_isLatin1_10 (by decide) ?_ ?_ | refine jx_if_ne (pc := 10) (tgt := 17) dJ3_isLatin1_10 (by decide) (by omega) ?_ ?_ | refine jw_if_ne (pc := 10) (tgt := 17) dJ3_isLatin1_10 (by decide) ?_ ?_
    · intro h_10
      first | exact absurd rfl h_10 | exact absurd h_10 (by decide +kernel)
    · intro h_10
      refine jw_iconst (pc := 13) dJ3_isLatin1_13 ic_1 ?_
      refine jw_goto (pc := 14) (tgt := 18) dJ3_isLatin1_14 (by decide) ?_
      refine jw_ireturn (pc := 18) dJ3_isLatin1_18 rfl (by first | exact jnar_b _ | exact jnar_0 | exact jnar_1 | decide +kernel) ?_
      exact ⟨rfl, rfl⟩
theorem t_J3_coder {o : Nat} (hG : jGs G) (hK : jit M o 13) (hc : jm_I M o 166 = nI 0) : jE G mi_J3_coder 1 [jr (some o)] M (some (.int (nI 0))) M := by
  have hg := hG.1
  refine jE.ofF pf_J3_coder rfl (Nat.le_of_ble_eq_true rfl) ?_
  refine jw_gets (i := 0) (pc := 0)  rfl hg rfl q583 dJ3_coder_0 ?_
  first | refine jx_ifb_eq (pc := 3) (tgt := 13) dJ3_coder_3 (by decide) ?_ ?_ | refine jx_if_eq (pc := 3) (tgt := 13) dJ3_coder_3 (by decide) (by omega) ?_ ?_ | refine jw_if_eq (pc := 3) (tgt := 13) dJ3_coder_3 (by decide) ?_ ?_
  · intro h_3
    first | exact absurd h_3 (by decide +kernel) | cases h_3
  · intro h_3
    refine jw_aload_n (pc := 6) dJ3_coder_6 rfl ?_
    refine jy_getIs (pc := 7) (jf_J3_15_13.r) rfl dJ3_coder_7 rfl (hK) (by decide) (hc) ?_
    refine jw_goto (pc := 10) (tgt := 14) dJ3_coder_10 (by decide) ?_
    refine jw_ireturn (pc := 14) dJ3_coder_14 rfl (by decide +kernel) ?_
    exact ⟨rfl, rfl⟩
theorem t_J3_length {o b k : Nat} {f : Nat → Nat} (hG : jGs G) (hK : jit M o 13) (hc : jm_I M o 166 = nI 0) (hv : jm_R M o 165 = some b) (hb : jBy M b f k) (hk : k ≤ 8) : jE G mi_J3_length 2 [jr (some o)] M (some (.int (nI k))) M := by
  refine jE.ofF pf_J3_length rfl (Nat.le_of_ble_eq_true rfl) ?_
  refine jw_aload_n (pc := 0) dJ3_length_0 rfl ?_
  refine jy_getRs (pc := 1) (jf_J3_9_13.r) rfl dJ3_length_1 rfl (hK) (by decide) (hv) ?_
  refine jw_alen (pc := 4) (by decide) dJ3_length_4 rfl (hb.1) ?_
  refine jw_aload_n (pc := 5) dJ3_length_5 rfl ?_
  refine jy_cVE (mi1 := mi_J3_coder) (pc := 6) rfl dJ3_length_6 lk_J3_335 rfl fi_J3_coder rfl rfl rfl (by decide) (hK) (t_J3_coder hG hK hc) (by first | decide | omega) rfl rfl (by simp only [List.map_cons, List.map_nil, List.sum_cons, List.sum_nil, Value.category]; decide) ?_
  rw [hb.2.1]
  refine jw_ishr (pc := 9) dJ3_length_9 ?_
  refine jw_ireturn (pc := 10) dJ3_length_10 rfl (rfl) ?_
  refine ⟨?_, rfl⟩
  rw [show nI 0 = nI 0 from rfl, j_shr (by omega) (by decide), Nat.pow_zero, Nat.div_one]
theorem t_J4_checkIndex {i n : Nat} {o : Option Nat} (hi : i < n) (hn : n < 2 ^ 30) : jE G mi_J4_checkIndex 2 [.int (nI i), .int (nI n), jr o] M (some (.int (nI i))) M := by
  refine jE.ofF pf_J4_checkIndex rfl (by cases o <;> exact Nat.le_of_ble_eq_true rfl) ?_
  refine jw_iload_n (pc := 0) dJ4_checkIndex_0 rfl ?_
  refine jw_if_lt (pc := 1) (tgt := 9) dJ4_checkIndex_1 (by decide) ?_ ?_
  · intro h_1
    exact absurd h_1 (nI_nn (by omega))
  · intro h_1
    refine jw_iload_n (pc := 4) dJ4_checkIndex_4 rfl ?_
    refine jw_iload_n (pc := 5) dJ4_checkIndex_5 rfl ?_
    first | refine jx_icmp_lt (pc := 6) (tgt := 16) dJ4_checkIndex_6 (by decide) (by omega) (by omega) ?_ ?_ | refine jw_icmp_lt (pc := 6) (tgt := 16) dJ4_checkIndex_6 (by decide) ?_ ?_
    · intro h_6
      refine jw_iload_n (pc := 16) dJ4_checkIndex_16 rfl ?_
      refine jw_ireturn (pc := 17) dJ4_checkIndex_17 rfl (rfl) ?_
      exact ⟨rfl, rfl⟩
    · intro h_6
      omega
theorem t_J3_checkIndex {i n : Nat} (hG : jGs G) (hi : i < n) (hn : n < 2 ^ 30) : jE G mi_J3_checkIndex 3 [.int (nI i), .int (nI n)] M none M := by
  obtain ⟨o, hg⟩ := hG.2.2.2
  refine jE.ofF pf_J3_checkIndex rfl (Nat.le_of_ble_eq_true rfl) ?_
  refine jw_iload_n (pc := 0) dJ3_checkIndex_0 rfl ?_
  refine jw_iload_n (pc := 1) dJ3_checkIndex_1 rfl ?_
  refine jw_gets (i := 3) (pc := 2)  rfl hg rfl q573 dJ3_checkIndex_2 ?_
  refine jx_cSE (mi1 := mi_J4_checkIndex) (pc := 5) rfl dJ3_checkIndex_5 lk_J3_1059 rfl fi_J4_checkIndex (t_J4_checkIndex hi hn) (by first | decide | omega) rfl rfl (by decide) ?_
  refine jw_pop (pc := 8) dJ3_checkIndex_8 (rfl) ?_
  refine jw_return (pc := 9) dJ3_checkIndex_9 rfl ?_
  exact ⟨rfl, rfl⟩
theorem nI_255 {n : Nat} (h : n ≤ 122) : nI n &&& nI 255 = nI n := by
  rw [nI_and', show (255 : Nat) = 2 ^ 8 - 1 from rfl, Nat.and_two_pow_sub_one_eq_mod, Nat.mod_eq_of_lt (by omega)]
theorem i2c_n {n : Nat} (h : n ≤ 122) : ((nI n).toUInt32 % 65536).toInt32 = nI n := by
  have : ∀ m, m < 123 → ((nI m).toUInt32 % 65536).toInt32 = nI m := by decide +kernel
  exact this n (by omega)
theorem nar_c {n : Nat} (h : n ≤ 122) : narrow .char (.int (nI n)) = .int (nI n) := by
  have : ∀ m, m < 123 → narrow .char (.int (nI m)) = .int (nI m) := by decide +kernel
  exact this n (by omega)
theorem t_J6_charAt {b i k : Nat} {f : Nat → Nat} (hG : jGs G) (hb : jBy M b f k) (hl : txl f k) (hi : i < k) : jE G mi_J6_charAt 4 [jr (some b), .int (nI i)] M (some (.int (nI (f i)))) M := by
  have hk := hl.1
  have hf := hl.2 i hi
  refine jE.ofF pf_J6_charAt rfl (Nat.le_of_ble_eq_true rfl) ?_
  refine jw_iload_n (pc := 0) dJ6_charAt_0 rfl ?_
  refine jw_aload_n (pc := 1) dJ6_charAt_1 rfl ?_
  refine jw_alen (pc := 2) (by decide) dJ6_charAt_2 rfl (hb.1) ?_
  rw [hb.2.1]
  refine jx_cSEv (mi1 := mi_J3_checkIndex) (pc := 3) rfl dJ6_charAt_3 lk_J6_9 rfl fi_J3_checkIndex (t_J3_checkIndex hG hi (by omega)) (by first | decide | omega) rfl rfl (by decide) ?_
  refine jw_aload_n (pc := 6) dJ6_charAt_6 rfl ?_
  refine jw_iload_n (pc := 7) dJ6_charAt_7 rfl ?_
  refine jx_balds (pc := 8) dJ6_charAt_8 (hb.1) (hb.2.1) rfl (by omega) (hb.2.2 i hi) ?_
  refine jw_sipush (pc := 9) dJ6_charAt_9 sp_255 ?_
  refine jw_iand (pc := 12) dJ6_charAt_12 ?_
  rw [nI_255 (by omega)]
  refine jw_i2c (pc := 13) dJ6_charAt_13 (by exact i2c_n (by omega)) ?_
  refine jw_ireturn (pc := 14) dJ6_charAt_14 rfl (nar_c (by omega)) ?_
  exact ⟨rfl, rfl⟩
theorem t_J3_charAt {o b i k : Nat} {f : Nat → Nat} (hG : jGs G) (hK : jit M o 13) (hc : jm_I M o 166 = nI 0) (hv : jm_R M o 165 = some b) (hb : jBy M b f k) (hl : txl f k) (hi : i < k) : jE G mi_J3_charAt 5 [jr (some o), .int (nI i)] M (some (.int (nI (f i)))) M := by
  have hk := hl.1
  have hf := hl.2 i hi
  refine jE.ofF pf_J3_charAt rfl (Nat.le_of_ble_eq_true rfl) ?_
  refine jw_aload_n (pc := 0) dJ3_charAt_0 rfl ?_
  refine jy_cVE (mi1 := mi_J3_isLatin1) (pc := 1) rfl dJ3_charAt_1 lk_J3_492 rfl fi_J3_isLatin1 rfl rfl rfl (by decide) (hK) (t_J3_isLatin1 hG hK hc) (by first | decide | omega) rfl rfl (by decide) ?_
  first | refine jx_ifb_eq (pc := 4) (tgt := 16) dJ3_charAt_4 (by decide) ?_ ?_ | refine jx_if_eq (pc := 4) (tgt := 16) dJ3_charAt_4 (by decide) (by omega) ?_ ?_ | refine jw_if_eq (pc := 4) (tgt := 16) dJ3_charAt_4 (by decide) ?_ ?_
  · intro h_4
    first | exact absurd h_4 (by decide +kernel) | cases h_4
  · intro h_4
    refine jw_aload_n (pc := 7) dJ3_charAt_7 rfl ?_
    refine jy_getRs (pc := 8) (jf_J3_9_13.r) rfl dJ3_charAt_8 rfl (hK) (by decide) (hv) ?_
    refine jw_iload_n (pc := 11) dJ3_charAt_11 rfl ?_
    refine jx_cSE (mi1 := mi_J6_charAt) (pc := 12) rfl dJ3_charAt_12 lk_J3_495 rfl fi_J6_charAt (t_J6_charAt hG hb hl hi) (by first | decide | omega) rfl rfl (by decide) ?_
    refine jw_ireturn (pc := 15) dJ3_charAt_15 rfl (nar_c (by omega)) ?_
    exact ⟨rfl, rfl⟩
/-- the code of a text, letter by letter -/
theorem t_X5_wordOf {o c : Nat} (hG : jGs G) (hT : jTx M o c) : jE G mi_X5_wordOf 6 [jr (some o)] M (some (.long (lN c))) M := by
  obtain ⟨f, k, hl, hc9, hK, hc, -, b, hv, hb, -⟩ := hT
  have hk := hl.1
  have J : ∀ n : Nat, n ≤ k → jW G mi_X5_wordOf 6 M 4 [some (jr (some o)), some (.long (lN (txc f n))), none, some (.int (nI n))] [] M (fun r M' => r = .inl (some (.long (lN c))) ∧ M' = M) := by
    refine jW.loop _ (fun n => k - n) _ (fun _ => []) (fun _ => M) (fun n hn ih => ?_)
    by_cases hkn : n < k
    · have hf := hl.2 n hkn
      refine jw_iload_n (pc := 4) dX5_wordOf_4 rfl ?_
      refine jw_aload_n (pc := 5) dX5_wordOf_5 rfl ?_
      refine jy_cVE (mi1 := mi_J3_length) (pc := 6) rfl dX5_wordOf_6 lk_X5_73 rfl fi_J3_length rfl rfl rfl (by decide) (hK) (t_J3_length hG hK hc hv hb hk) (by first | decide | omega) rfl rfl (by simp only [List.map_cons, List.map_nil, List.sum_cons, List.sum_nil, Value.category]; decide) ?_
      first | refine jx_icmp_ge (pc := 9) (tgt := 36) dX5_wordOf_9 (by decide) (by omega) (by omega) ?_ ?_ | refine jw_icmp_ge (pc := 9) (tgt := 36) dX5_wordOf_9 (by decide) ?_ ?_
      · intro h_9
        omega
      · intro h_9
        refine jw_ldc2 (pc := 12) q1721 rfl dX5_wordOf_12 ?_
        refine jw_lload_n (pc := 15) dX5_wordOf_15 rfl ?_
        refine jw_lmul (pc := 16) dX5_wordOf_16 ?_
        refine jw_aload_n (pc := 17) dX5_wordOf_17 rfl ?_
        refine jw_iload_n (pc := 18) dX5_wordOf_18 rfl ?_
        refine jy_cVE (mi1 := mi_J3_charAt) (pc := 19) rfl dX5_wordOf_19 lk_X5_81 rfl fi_J3_charAt rfl rfl rfl (by decide) (hK) (t_J3_charAt hG hK hc hv hb hl hkn) (by first | decide | omega) rfl rfl (by simp only [List.map_cons, List.map_nil, List.sum_cons, List.sum_nil, Value.category]; decide) ?_
        refine jw_bipush (pc := 22) dX5_wordOf_22 bp_97 ?_
        refine jw_isub (pc := 24) dX5_wordOf_24 ?_
        rw [show nI (f n) - nI 97 = nI (f n - 97) from pk_sub (by omega)]
        refine jw_iconst (pc := 25) dX5_wordOf_25 ic_1 ?_
        first | refine jx_iadd (pc := 26) dX5_wordOf_26 ?_ | refine jw_iadd (pc := 26) dX5_wordOf_26 ?_
        refine jw_i2l (pc := 27) dX5_wordOf_27 (rfl) ?_
        refine jw_ladd (pc := 28) dX5_wordOf_28 ?_
        refine jw_lstore_n (pc := 29) dX5_wordOf_29 (Nat.le_of_ble_eq_true rfl) rfl ?_
        try dsimp only [jput1, jput2, jkill, jclr, jis2_i, jis2_l, jis2_rs, jis2_rn, cond]
        first | refine jx_iinc (pc := 30) dX5_wordOf_30 rfl rfl ?_ | refine jw_iinc (pc := 30) dX5_wordOf_30 rfl rfl rfl ?_
        try dsimp only [jput1, jkill, jclr, jis2_i, jis2_l, jis2_rs, jis2_rn, cond]
        refine jw_goto (pc := 33) (tgt := 4) dX5_wordOf_33 (by decide) ?_
        refine jW.eq ?_ rfl rfl (ih (n + 1) hkn (by omega))
        rw [txc_s, nI_l (by omega), show (32 : Int64) = lN 32 from rfl, lN_mul, lN_add, Nat.mul_comm (txc f n) 32, show f n - 97 + 1 = f n - 96 by omega]
    · have hk' : n = k := by omega
      subst hk'
      refine jw_iload_n (pc := 4) dX5_wordOf_4 rfl ?_
      refine jw_aload_n (pc := 5) dX5_wordOf_5 rfl ?_
      refine jy_cVE (mi1 := mi_J3_length) (pc := 6) rfl dX5_wordOf_6 lk_X5_73 rfl fi_J3_length rfl rfl rfl (by decide) (hK) (t_J3_length hG hK hc hv hb hk) (by first | decide | omega) rfl rfl (by simp only [List.map_cons, List.map_nil, List.sum_cons, List.sum_nil, Value.category]; decide) ?_
      first | refine jx_icmp_ge (pc := 9) (tgt := 36) dX5_wordOf_9 (by decide) (by omega) (by omega) ?_ ?_ | refine jw_icmp_ge (pc := 9) (tgt := 36) dX5_wordOf_9 (by decide) ?_ ?_
      · intro h_9
        refine jw_lload_n (pc := 36) dX5_wordOf_36 rfl ?_
        refine jw_lreturn (pc := 37) dX5_wordOf_37 rfl ?_
        exact ⟨by rw [hc9], rfl⟩
      · intro h_9
        omega
  refine jE.of (by decide) rfl (Nat.le_of_ble_eq_true rfl) ?_
  refine jw_lconst (pc := 0) dX5_wordOf_0 rfl ?_
  refine jw_lstore_n (pc := 1) dX5_wordOf_1 (Nat.le_of_ble_eq_true rfl) rfl ?_
  try dsimp only [jput1, jput2, jkill, jclr, jis2_i, jis2_l, jis2_rs, jis2_rn, cond]
  refine jw_iconst (pc := 2) dX5_wordOf_2 ic_0 ?_
  refine jw_istore_n (pc := 3) dX5_wordOf_3 (Nat.le_of_ble_eq_true rfl) rfl ?_
  try dsimp only [jput1, jput2, jkill, jclr, jis2_i, jis2_l, jis2_rs, jis2_rn, cond]
  exact J 0 (Nat.zero_le _)
/-- equal rows of bytes -/
def eqY (M : Mm) (a b n m : Nat) : Bool := decide (n = m) && allB n (fun i => decide (jm_A M a i = jm_A M b i))
theorem t_J6_equals {a b n m : Nat} (ha : jok M a 1) (hb : jok M b 1) (hn : jm_N M a = n) (hm : jm_N M b = m) (hn9 : n < 2 ^ 30) (hm9 : m < 2 ^ 30) : jE G mi_J6_equals 1 [jr (some a), jr (some b)] M (some (.int (jb (eqY M a b n m)))) M := by
  have J : n = m → ∀ i : Nat, (i ≤ n ∧ ∀ j, j < i → jm_A M a j = jm_A M b j) → jW G mi_J6_equals 1 M 9 [some (jr (some a)), some (jr (some b)), some (.int (nI i))] [] M (fun r M' => r = .inl (some (.int (jb (eqY M a b n m)))) ∧ M' = M) := by
    intro hnm
    refine jW.loop _ (fun i => n - i) _ (fun _ => []) (fun _ => M) (fun i hi ih => ?_)
    obtain ⟨hi, h0⟩ := hi
    by_cases hkn : i < n
    ·
      refine jw_iload_n (pc := 9) dJ6_equals_9 rfl ?_
      refine jw_aload_n (pc := 10) dJ6_equals_10 rfl ?_
      refine jw_alen (pc := 11) (by decide) dJ6_equals_11 rfl (ha) ?_
      rw [hn]
      first | refine jx_icmp_ge (pc := 12) (tgt := 32) dJ6_equals_12 (by decide) (by omega) (by omega) ?_ ?_ | refine jw_icmp_ge (pc := 12) (tgt := 32) dJ6_equals_12 (by decide) ?_ ?_
      · intro h_12
        omega
      · intro h_12
        refine jw_aload_n (pc := 15) dJ6_equals_15 rfl ?_
        refine jw_iload_n (pc := 16) dJ6_equals_16 rfl ?_
        refine jx_bald (pc := 17) dJ6_equals_17 (ha) (hn) rfl (by omega) ?_
        refine jw_aload_n (pc := 18) dJ6_equals_18 rfl ?_
        refine jw_iload_n (pc := 19) dJ6_equals_19 rfl ?_
        refine jx_bald (pc := 20) dJ6_equals_20 (hb) (hm) rfl (by omega) ?_
        refine jw_icmp_eq (pc := 21) (tgt := 26) dJ6_equals_21 (by decide) ?_ ?_
        · intro h_21
          first | refine jx_iinc (pc := 26) dJ6_equals_26 rfl rfl ?_ | refine jw_iinc (pc := 26) dJ6_equals_26 rfl rfl rfl ?_
          try dsimp only [jput1, jkill, jclr, jis2_i, jis2_l, jis2_rs, jis2_rn, cond]
          refine jw_goto (pc := 29) (tgt := 9) dJ6_equals_29 (by decide) ?_
          exact ih (i + 1) ⟨hkn, fun j hj => by
            by_cases e : j = i
            · subst e; exact h_21
            · exact h0 j (by omega)⟩ (by omega)
        · intro h_21
          refine jw_iconst (pc := 24) dJ6_equals_24 ic_0 ?_
          refine jw_ireturn (pc := 25) dJ6_equals_25 rfl (by first | exact jnar_b _ | exact jnar_0 | exact jnar_1 | decide +kernel) ?_
          refine ⟨jret_f ?_, rfl⟩
          unfold eqY; rw [Bool.and_eq_false_iff]; right
          rw [← Bool.not_eq_true, allB_iff]
          exact fun q => h_21 (of_decide_eq_true (q i hkn))
    · have hk' : i = n := by omega
      subst hk'
      refine jw_iload_n (pc := 9) dJ6_equals_9 rfl ?_
      refine jw_aload_n (pc := 10) dJ6_equals_10 rfl ?_
      refine jw_alen (pc := 11) (by decide) dJ6_equals_11 rfl (ha) ?_
      rw [hn]
      first | refine jx_icmp_ge (pc := 12) (tgt := 32) dJ6_equals_12 (by decide) (by omega) (by omega) ?_ ?_ | refine jw_icmp_ge (pc := 12) (tgt := 32) dJ6_equals_12 (by decide) ?_ ?_
      · intro h_12
        refine jw_iconst (pc := 32) dJ6_equals_32 ic_1 ?_
        refine jw_ireturn (pc := 33) dJ6_equals_33 rfl (by first | exact jnar_b _ | exact jnar_0 | exact jnar_1 | decide +kernel) ?_
        refine ⟨jret_t ?_, rfl⟩
        unfold eqY; rw [decide_eq_true hnm, Bool.true_and, allB_iff]
        exact fun j hj => decide_eq_true (h0 j hj)
      · intro h_12
        omega
  refine jE.ofF pf_J6_equals rfl (Nat.le_of_ble_eq_true rfl) ?_
  refine jw_aload_n (pc := 0) dJ6_equals_0 rfl ?_
  refine jw_alen (pc := 1) (by decide) dJ6_equals_1 rfl (ha) ?_
  refine jw_aload_n (pc := 2) dJ6_equals_2 rfl ?_
  refine jw_alen (pc := 3) (by decide) dJ6_equals_3 rfl (hb) ?_
  rw [hn, hm]
  first | refine jx_icmp_ne (pc := 4) (tgt := 34) dJ6_equals_4 (by decide) (by omega) (by omega) ?_ ?_ | refine jw_icmp_ne (pc := 4) (tgt := 34) dJ6_equals_4 (by decide) ?_ ?_
  · intro h_4
    refine jw_iconst (pc := 34) dJ6_equals_34 ic_0 ?_
    refine jw_ireturn (pc := 35) dJ6_equals_35 rfl (by first | exact jnar_b _ | exact jnar_0 | exact jnar_1 | decide +kernel) ?_
    refine ⟨jret_f ?_, rfl⟩
    unfold eqY; rw [decide_eq_false h_4, Bool.false_and]
  · intro h_4
    refine jw_iconst (pc := 7) dJ6_equals_7 ic_0 ?_
    refine jw_istore_n (pc := 8) dJ6_equals_8 (Nat.le_of_ble_eq_true rfl) rfl ?_
    try dsimp only [jput1, jput2, jkill, jclr, jis2_i, jis2_l, jis2_rs, jis2_rn, cond]
    exact J h_4 0 ⟨Nat.zero_le _, fun j hj => absurd hj (Nat.not_lt_zero _)⟩
theorem tx_eq {a b c1 c2 k j : Nat} {f g : Nat → Nat} (h1 : txl f k) (h2 : txl g j) (e1 : txc f k = c1) (e2 : txc g j = c2) (hb1 : jBy M a f k) (hb2 : jBy M b g j) : eqY M a b k j = decide (c1 = c2) := by
  subst e1; subst e2
  unfold eqY
  by_cases e : txc f k = txc g j
  · obtain ⟨q1, q2⟩ := txc_inj k j h1.2 h2.2 e
    rw [decide_eq_true e, decide_eq_true q1, Bool.true_and, allB_iff]
    intro i hi
    rw [hb1.2.2 i hi, hb2.2.2 i (by omega), q2 i hi]
    exact decide_eq_true rfl
  · rw [decide_eq_false e, Bool.and_eq_false_iff]
    by_cases q1 : k = j
    · right
      rw [← Bool.not_eq_true, allB_iff]
      intro q
      subst q1
      refine e (codeN_cg (fun i hi => ?_))
      have := of_decide_eq_true (q i hi)
      rw [hb1.2.2 i hi, hb2.2.2 i hi] at this
      have a1 := h1.2 i hi
      have a2 := h2.2 i hi
      rw [(nI_eq (by omega) (by omega)).mp this]
    · left; exact decide_eq_false q1
theorem t_J3_equals {o1 o2 c1 c2 : Nat} (hG : jGs G) (h1 : jTx M o1 c1) (h2 : jTx M o2 c2) (h64 : 64 ≤ o1) : jE G mi_J3_equals 2 [jr (some o1), jr (some o2)] M (some (.int (jb (decide (c1 = c2))))) M := by
  obtain ⟨f, k, hl, hc9, hK, hc, -, b, hv, hb, -⟩ := h1
  obtain ⟨g, j, hl2, hc92, hK2, hc2, -, b2, hv2, hb2, -⟩ := h2
  have hk := hl.1
  have hk2 := hl2.1
  have hg := hG.1
  have he := tx_eq hl hl2 hc9 hc92 hb hb2
  refine jE.ofF pf_J3_equals rfl (Nat.le_of_ble_eq_true rfl) ?_
  refine jw_aload_n (pc := 0) dJ3_equals_0 rfl ?_
  refine jw_aload_n (pc := 1) dJ3_equals_1 rfl ?_
  refine jw_acmp_ne (pc := 2) (tgt := 7) dJ3_equals_2 (by decide) (by rw [hK.1]; decide) (by rw [hK2.1]; decide) (Or.inl h64) (fun hne => ?_) (fun heq => ?_)
  ·
    refine jw_aload_n (pc := 7) dJ3_equals_7 rfl ?_
    refine jw_instE (c := 13) (pc := 8)  rfl q714 dJ3_equals_8 rfl hK2.1 (by decide) hK2.2 rfl rfl ?_
    first | refine jx_ifb_eq (pc := 11) (tgt := 54) dJ3_equals_11 (by decide) ?_ ?_ | refine jx_if_eq (pc := 11) (tgt := 54) dJ3_equals_11 (by decide) (by omega) ?_ ?_ | refine jw_if_eq (pc := 11) (tgt := 54) dJ3_equals_11 (by decide) ?_ ?_
    · intro h_11
      first | exact absurd h_11 (by decide +kernel) | cases h_11
    · intro h_11
      refine jw_aload_n (pc := 14) dJ3_equals_14 rfl ?_
      refine jw_castE (c := 13) (pc := 15)  rfl q714 dJ3_equals_15 rfl hK2.1 (by decide) hK2.2 rfl rfl ?_
      refine jw_astore_n (pc := 18) dJ3_equals_18 (Nat.le_of_ble_eq_true rfl) rfl ?_
      try dsimp only [jput1, jput2, jkill, jclr, jis2_i, jis2_l, jis2_rs, jis2_rn, cond]
      refine jw_gets (i := 0) (pc := 19)  rfl hg rfl q583 dJ3_equals_19 ?_
      first | refine jx_ifb_eq (pc := 22) (tgt := 36) dJ3_equals_22 (by decide) ?_ ?_ | refine jx_if_eq (pc := 22) (tgt := 36) dJ3_equals_22 (by decide) (by omega) ?_ ?_ | refine jw_if_eq (pc := 22) (tgt := 36) dJ3_equals_22 (by decide) ?_ ?_
      · intro h_22
        first | exact absurd h_22 (by decide +kernel) | cases h_22
      · intro h_22
        refine jw_aload_n (pc := 25) dJ3_equals_25 rfl ?_
        refine jy_getIs (pc := 26) (jf_J3_15_13.r) rfl dJ3_equals_26 rfl (hK) (by decide) (hc) ?_
        refine jw_aload_n (pc := 29) dJ3_equals_29 rfl ?_
        refine jy_getIs (pc := 30) (jf_J3_15_13.r) rfl dJ3_equals_30 rfl (hK2) (by decide) (hc2) ?_
        first | refine jx_icmp_ne (pc := 33) (tgt := 54) dJ3_equals_33 (by decide) (by omega) (by omega) ?_ ?_ | refine jw_icmp_ne (pc := 33) (tgt := 54) dJ3_equals_33 (by decide) ?_ ?_
        · intro h_33
          first | exact absurd rfl h_33 | exact absurd h_33 (by decide +kernel)
        · intro h_33
          refine jw_aload_n (pc := 36) dJ3_equals_36 rfl ?_
          refine jy_getRs (pc := 37) (jf_J3_9_13.r) rfl dJ3_equals_37 rfl (hK) (by decide) (hv) ?_
          refine jw_aload_n (pc := 40) dJ3_equals_40 rfl ?_
          refine jy_getRs (pc := 41) (jf_J3_9_13.r) rfl dJ3_equals_41 rfl (hK2) (by decide) (hv2) ?_
          refine jx_cSE (mi1 := mi_J6_equals) (pc := 44) rfl dJ3_equals_44 lk_J3_541 rfl fi_J6_equals (t_J6_equals hb.1 hb2.1 hb.2.1 hb2.2.1 (by omega) (by omega)) (by first | decide | omega) rfl rfl (by decide) ?_
          rw [he]
          first | refine jx_ifb_eq (pc := 47) (tgt := 54) dJ3_equals_47 (by decide) ?_ ?_ | refine jx_if_eq (pc := 47) (tgt := 54) dJ3_equals_47 (by decide) (by omega) ?_ ?_ | refine jw_if_eq (pc := 47) (tgt := 54) dJ3_equals_47 (by decide) ?_ ?_
          · intro h_47
            refine jw_iconst (pc := 54) dJ3_equals_54 ic_0 ?_
            refine jw_ireturn (pc := 55) dJ3_equals_55 rfl (by first | exact jnar_b _ | exact jnar_0 | exact jnar_1 | decide +kernel) ?_
            refine ⟨jret_f ?_, rfl⟩
            exact h_47
          · intro h_47
            refine jw_iconst (pc := 50) dJ3_equals_50 ic_1 ?_
            refine jw_goto (pc := 51) (tgt := 55) dJ3_equals_51 (by decide) ?_
            refine jw_ireturn (pc := 55) dJ3_equals_55 rfl (by first | exact jnar_b _ | exact jnar_0 | exact jnar_1 | decide +kernel) ?_
            refine ⟨jret_t ?_, rfl⟩
            exact h_47
  · subst heq
    refine jw_iconst (pc := 5) dJ3_equals_5 ic_1 ?_
    refine jw_ireturn (pc := 6) dJ3_equals_6 rfl (by exact jnar_1) ?_
    refine ⟨jret_t (decide_eq_true ?_), rfl⟩
    have e : b = b2 := Option.some.inj (hv.symm.trans hv2)
    subst e
    have h0 : eqY M b b k j = true := by
      unfold eqY
      rw [decide_eq_true (hb.2.1.symm.trans hb2.2.1), Bool.true_and, allB_iff]
      exact fun i hi => decide_eq_true rfl
    rw [he] at h0
    exact of_decide_eq_true h0
end JTX
