/-! ===== x: find ===== -/
def hitB (L : Nat → Nat → Bool) (mb s n set' : Nat) : Bool := anyB n (fun set => L s set && decide (set ||| mb = set'))
theorem hitB_s (L : Nat → Nat → Bool) (mb s n set' : Nat) : hitB L mb s (n + 1) set' = (hitB L mb s n set' || (L s n && decide (n ||| mb = set'))) := rfl
section FU
variable (V : Vt) (σ : Sg) (people places t : Nat) (L : Nat → Nat → Bool)
def moreS (b : Nat) : Nat := lkS V people t b &&& places
def furS (n b set' : Nat) : Bool := lawS V σ people t b && anyB n (fun a => linkS V people a b && hitB L (moreS V people places t b) a 1024 set')
def furB (s b0 b set' : Nat) : Bool := if b < b0 then furS V σ people places t L (s + 1) b set' else furS V σ people places t L s b set'
def furK (s b0 k b set' : Nat) : Bool := furB V σ people places t L s b0 b set' || (decide (b = b0) && hitB L (moreS V people places t b0) s k set')
end FU
def lkR (V : Vt) (σ : Sg) (people places : Nat) (i s set : Nat) : Bool := match i with
  | 0 => decide (s = nowS V σ people) && decide (set = lkS V people (sn σ 0) (nowS V σ people) &&& places)
  | i + 1 => furS V σ people places (sn σ 0 + (i + 1)) (lkR V σ people places i) (V 0 0 ^ cnt people) s set
def findAt (V : Vt) (σ : Sg) (people places i : Nat) : Bool := anyB (V 0 0 ^ cnt people) (fun s => lkR V σ people places i s places)
def findN (V : Vt) (σ : Sg) (people places : Nat) : Nat := fstN 13 (findAt V σ people places)
def findI (V : Vt) (σ : Sg) (people places : Nat) : Int32 := if findN V σ people places < 13 then nI (findN V σ people places) else -2
def findW (o : Option Vt) (p q : Int32) : Int32 := if pplW o p 2 = 0 then (match o with | none => 1 | some V => if isIx (2 ^ V 0 0) q && decide (iN q ≠ 0) then 0 else 2) else pplW o p 2
def q_find (σ : Sg) (p q : Int32) : Int32 × Int32 := if findW (sv σ) p q = 0 then (findI (vv σ) (sgT σ 0 (-1)) (iN p) (iN q), 0) else (-1, findW (sv σ) p q)
theorem furS_s (V : Vt) (σ : Sg) (people places t : Nat) (L : Nat → Nat → Bool) (n b set' : Nat) : furS V σ people places t L (n + 1) b set' = (furS V σ people places t L n b set' || (lawS V σ people t b && (linkS V people n b && hitB L (moreS V people places t b) n 1024 set'))) := by
  unfold furS
  rw [anyB_s, Bool.and_or_distrib_left]
theorem fur_skip {V : Vt} {σ : Sg} {people places t s b : Nat} {L : Nat → Nat → Bool} (h : linkS V people s b = false) (set' : Nat) : furS V σ people places t L (s + 1) b set' = furS V σ people places t L s b set' := by
  rw [furS_s, h, Bool.false_and, Bool.and_false, Bool.or_false]
theorem fur_law {V : Vt} {σ : Sg} {people places t b : Nat} {L : Nat → Nat → Bool} (h : lawS V σ people t b = false) (n set' : Nat) : furS V σ people places t L n b set' = false := by
  unfold furS; rw [h, Bool.false_and]
theorem furB_to {V : Vt} {σ : Sg} {people places t s b0 b1 b set' : Nat} {L : Nat → Nat → Bool} (h : b0 ≤ b1) (hno : ∀ j, b0 ≤ j → j < b1 → linkS V people s j = false) : furB V σ people places t L s b1 b set' = furB V σ people places t L s b0 b set' := by
  unfold furB
  by_cases e : b < b0
  · rw [if_pos e, if_pos (by omega)]
  · rw [if_neg e]
    by_cases e2 : b < b1
    · rw [if_pos e2, fur_skip (hno b (by omega) e2)]
    · rw [if_neg e2]
theorem furB_0 {V : Vt} {σ : Sg} {people places t s b set' : Nat} {L : Nat → Nat → Bool} : furB V σ people places t L s 0 b set' = furS V σ people places t L s b set' := by unfold furB; rw [if_neg (Nat.not_lt_zero _)]
theorem furB_N {V : Vt} {σ : Sg} {people places t s b N set' : Nat} {L : Nat → Nat → Bool} (hb : b < N) : furB V σ people places t L s N b set' = furS V σ people places t L (s + 1) b set' := by unfold furB; rw [if_pos hb]
theorem furB_none {V : Vt} {σ : Sg} {people places t s b N set' : Nat} {L : Nat → Nat → Bool} (h : anyB 1024 (L s) = false) : furB V σ people places t L s N b set' = furS V σ people places t L s b set' := by
  unfold furB
  have hh : hitB L (moreS V people places t b) s 1024 set' = false := by
    cases hb : hitB L (moreS V people places t b) s 1024 set' with
    | false => rfl
    | true =>
      obtain ⟨k, k1, k2⟩ := anyB_iff.mp hb
      rw [Bool.and_eq_true] at k2
      have := anyB_iff.mpr ⟨k, k1, k2.1⟩
      rw [h] at this; cases this
  split
  · rw [furS_s, hh, Bool.and_false, Bool.and_false, Bool.or_false]
  · rfl
theorem furB_law {V : Vt} {σ : Sg} {people places t s b0 b set' : Nat} {L : Nat → Nat → Bool} (h : lawS V σ people t b0 = false) : furB V σ people places t L s (b0 + 1) b set' = furB V σ people places t L s b0 b set' := by
  unfold furB
  by_cases e : b < b0
  · rw [if_pos e, if_pos (by omega)]
  · rw [if_neg e]
    by_cases e2 : b < b0 + 1
    · rw [if_pos e2, show b = b0 by omega, fur_law h, fur_law h]
    · rw [if_neg e2]
theorem furK_0 {V : Vt} {σ : Sg} {people places t s b0 b set' : Nat} {L : Nat → Nat → Bool} : furK V σ people places t L s b0 0 b set' = furB V σ people places t L s b0 b set' := by
  unfold furK; rw [show hitB L (moreS V people places t b0) s 0 set' = false from rfl, Bool.and_false, Bool.or_false]
theorem furK_end {V : Vt} {σ : Sg} {people places t s b0 b set' : Nat} {L : Nat → Nat → Bool} (h : lawS V σ people t b0 = true) (hl : linkS V people s b0 = true) : furK V σ people places t L s b0 1024 b set' = furB V σ people places t L s (b0 + 1) b set' := by
  unfold furK furB
  by_cases e : b = b0
  · subst e
    rw [if_neg (Nat.lt_irrefl _), if_pos (Nat.lt_succ_self _), furS_s, h, hl, decide_eq_true rfl, Bool.true_and, Bool.true_and]
  · rw [decide_eq_false e, Bool.false_and, Bool.or_false]
    by_cases e2 : b < b0
    · rw [if_pos e2, if_pos (by omega)]
    · rw [if_neg e2, if_neg (by omega)]
theorem furK_t {M : Mm} {V : Vt} {σ : Sg} {people places t s b0 k N : Nat} {L : Nat → Nat → Bool} (hl : L s k = true) (hk : k ||| moreS V people places t b0 < 1024) (h : jLk M 89 N (furK V σ people places t L s b0 k)) : jLk (js_A M 89 (1024 * b0 + (k ||| moreS V people places t b0)) (nI 1)) 89 N (furK V σ people places t L s b0 (k + 1)) := by
  intro b set' hb hs'
  by_cases e : b = b0 ∧ k ||| moreS V people places t b0 = set'
  · obtain ⟨e1, e2⟩ := e
    subst e1
    rw [← e2, jA_same]
    unfold furK
    rw [hitB_s, hl, decide_eq_true rfl, decide_eq_true rfl, Bool.true_and, Bool.true_and, Bool.or_true, Bool.or_true]; rfl
  · rw [jA_oth (by omega), h b set' hb hs']
    unfold furK
    rw [hitB_s, hl, Bool.true_and]
    by_cases e1 : b = b0
    · rw [decide_eq_false (fun q => e ⟨e1, q⟩), Bool.or_false]
    · rw [decide_eq_false e1, Bool.false_and, Bool.false_and]
theorem furK_f {V : Vt} {σ : Sg} {people places t s b0 k b set' : Nat} {L : Nat → Nat → Bool} (hl : L s k = false) : furK V σ people places t L s b0 (k + 1) b set' = furK V σ people places t L s b0 k b set' := by
  unfold furK; rw [hitB_s, hl, Bool.false_and, Bool.or_false]
def mvf (a : Nat) : Prop := a = 79 ∨ a = 82 ∨ a = 83 ∨ a = 88 ∨ a = 89
theorem mvf_E {a : Nat} (h : mvf a) : mvE a := by unfold mvf at h; unfold mvE; omega
theorem fits_b (b : Bool) : fits .boolean (.int (jb b)) = true := by cases b <;> decide +kernel
section JXF2
variable {G : Gh} {M : Mm} {σ : Sg}
theorem lp_f100 {M9 Mb : Mm} {V : Vt} {people places t s b : Nat} {L : Nat → Nat → Bool} {P : Rs → Mm → Prop} (hSb : jSh Mb) (hs : s < 100) (hb : b < 100) (hNs : s < V 0 0 ^ cnt people) (hmo : moreS V people places t b < 1024) (hL : jLk Mb 88 (V 0 0 ^ cnt people) L)
    (fin : ∀ M', jsm (fun a => a = 89) Mb M' → jSh M' → jLk M' 89 (V 0 0 ^ cnt people) (furK V σ people places t L s b 1024) → jW G mi_X1_further 7 M9 148 [some (jr (some 64)), some (.int (nI places)), some (.int (nI t)), some (.int (nI s)), some (.int (nI b)), none, none] [] M' P) :
    ∀ x : Nat × Mm, (x.1 ≤ 1024 ∧ jsm (fun a => a = 89) Mb x.2 ∧ jSh x.2 ∧ jLk x.2 89 (V 0 0 ^ cnt people) (furK V σ people places t L s b x.1)) → jW G mi_X1_further 7 M9 100 [some (jr (some 64)), some (.int (nI places)), some (.int (nI t)), some (.int (nI s)), some (.int (nI b)), some (.int (nI (moreS V people places t b))), some (.int (nI x.1))] [] x.2 P := by
  refine jW.loop (σ := Nat × Mm) _ (fun x => 1024 - x.1) _ (fun _ => []) (fun x => x.2) (fun x hI ih => ?_)
  obtain ⟨k, M1⟩ := x
  obtain ⟨hk, hf, hS, hK⟩ := hI
  dsimp only at hk hf hS hK ih ⊢
  have hL1 := hL.fr (by decide) hSb hf (by decide)
  by_cases hkn : k < 1024
  · have hor : k ||| moreS V people places t b < 1024 := or1024 hkn hmo
    refine jw_iload (pc := 100) dX1_further_100 rfl ?_
    refine jw_sipush (pc := 102) dX1_further_102 sp_1024 ?_
    first | refine jx_icmp_ge (pc := 105) (tgt := 148) dX1_further_105 (by decide) (by omega) (by omega) ?_ ?_ | refine jw_icmp_ge (pc := 105) (tgt := 148) dX1_further_105 (by decide) ?_ ?_
    · intro h_105
      omega
    · intro h_105
      refine jw_aload_n (pc := 108) dX1_further_108 rfl ?_
      refine jx_getRs (pc := 109) (jf_X1_75_0.r) rfl dX1_further_109 rfl (is_64 hS) (by decide) (sr_64_26 hS) ?_
      refine jw_sipush (pc := 112) dX1_further_112 sp_1024 ?_
      refine jw_iload_n (pc := 115) dX1_further_115 rfl ?_
      first | refine jx_imul (pc := 116) dX1_further_116 ?_ | refine jw_imul (pc := 116) dX1_further_116 ?_
      refine jw_iload (pc := 117) dX1_further_117 rfl ?_
      first | refine jx_iadd (pc := 119) dX1_further_119 ?_ | refine jw_iadd (pc := 119) dX1_further_119 ?_
      refine jx_zalds (pc := 120) dX1_further_120 (ok_88 hS) (nn_88 hS) rfl (by omega) (hL1 s k hNs hkn) ?_
      first | refine jx_ifb_eq (pc := 121) (tgt := 142) dX1_further_121 (by decide) ?_ ?_ | refine jx_if_eq (pc := 121) (tgt := 142) dX1_further_121 (by decide) (by omega) ?_ ?_ | refine jw_if_eq (pc := 121) (tgt := 142) dX1_further_121 (by decide) ?_ ?_
      · intro h_121
        first | refine jx_iinc (pc := 142) dX1_further_142 rfl rfl ?_ | refine jw_iinc (pc := 142) dX1_further_142 rfl rfl rfl ?_
        try dsimp only [jput1, jkill, jclr, jis2_i, jis2_l, jis2_rs, jis2_rn, cond]
        refine jw_goto (pc := 145) (tgt := 100) dX1_further_145 (by decide) ?_
        first
          | exact ih (k + 1, js_A M1 89 (1024 * b + (k ||| moreS V people places t b)) (nI 1)) ⟨hkn, hf.tr (jsm.A rfl), hS, furK_t h_121 hor hK⟩ (by dsimp only; omega)
          | exact ih (k + 1, M1) ⟨hkn, hf, hS, fun b' set' q1 q2 => by dsimp only; rw [hK b' set' q1 q2, furK_f h_121]⟩ (by dsimp only; omega)
      · intro h_121
        refine jw_aload_n (pc := 124) dX1_further_124 rfl ?_
        refine jx_getRs (pc := 125) (jf_X1_78_0.r) rfl dX1_further_125 rfl (is_64 hS) (by decide) (sr_64_27 hS) ?_
        refine jw_sipush (pc := 128) dX1_further_128 sp_1024 ?_
        refine jw_iload (pc := 131) dX1_further_131 rfl ?_
        first | refine jx_imul (pc := 133) dX1_further_133 ?_ | refine jw_imul (pc := 133) dX1_further_133 ?_
        refine jw_iload (pc := 134) dX1_further_134 rfl ?_
        refine jw_iload (pc := 136) dX1_further_136 rfl ?_
        refine jw_ior (pc := 138) dX1_further_138 ?_
        rw [nI_or']
        first | refine jx_iadd (pc := 139) dX1_further_139 ?_ | refine jw_iadd (pc := 139) dX1_further_139 ?_
        refine jw_iconst (pc := 140) dX1_further_140 ic_1 ?_
        refine jx_zast (pc := 141) dX1_further_141 (by decide) (ok_89 hS) (nn_89 hS) rfl (by omega) (by exact jnar_1) ?_
        first | refine jx_iinc (pc := 142) dX1_further_142 rfl rfl ?_ | refine jw_iinc (pc := 142) dX1_further_142 rfl rfl rfl ?_
        try dsimp only [jput1, jkill, jclr, jis2_i, jis2_l, jis2_rs, jis2_rn, cond]
        refine jw_goto (pc := 145) (tgt := 100) dX1_further_145 (by decide) ?_
        first
          | exact ih (k + 1, js_A M1 89 (1024 * b + (k ||| moreS V people places t b)) (nI 1)) ⟨hkn, hf.tr (jsm.A rfl), hS, furK_t h_121 hor hK⟩ (by dsimp only; omega)
          | exact ih (k + 1, M1) ⟨hkn, hf, hS, fun b' set' q1 q2 => by dsimp only; rw [hK b' set' q1 q2, furK_f h_121]⟩ (by dsimp only; omega)
  · have hk' : k = 1024 := by omega
    subst hk'
    refine jw_iload (pc := 100) dX1_further_100 rfl ?_
    refine jw_sipush (pc := 102) dX1_further_102 sp_1024 ?_
    first | refine jx_icmp_ge (pc := 105) (tgt := 148) dX1_further_105 (by decide) (by omega) (by omega) ?_ ?_ | refine jw_icmp_ge (pc := 105) (tgt := 148) dX1_further_105 (by decide) ?_ ?_
    · intro h_105
      refine jW.sub ?_ (fin M1 hf hS hK)
      exact ⟨rfl, rfl, rfl, rfl, rfl, trivial⟩
    · intro h_105
      omega
theorem lp_f60 {M9 M0 : Mm} {V : Vt} {people places t s : Nat} {L : Nat → Nat → Bool} {P : Rs → Mm → Prop} (h : jXx M0 σ) (hv9 : sv σ = some V) (hm : jMv M0 V people) (hN : V 0 0 ^ cnt people ≤ 100) (ht : t < 200) (hpl : places < 1024) (hs : s < V 0 0 ^ cnt people)
    (fin : ∀ M', jsm mvf M0 M' → jSh M' → jLk M' 88 (V 0 0 ^ cnt people) L → jLk M' 89 (V 0 0 ^ cnt people) (furS V σ people places t L (s + 1)) → jW G mi_X1_further 7 M9 162 [some (jr (some 64)), some (.int (nI places)), some (.int (nI t)), some (.int (nI s)), none, none, none] [] M' P) :
    ∀ x : Nat × Mm, (x.1 ≤ V 0 0 ^ cnt people ∧ (jsm mvf M0 x.2 ∧ jSh x.2) ∧ jLk x.2 88 (V 0 0 ^ cnt people) L ∧ jLk x.2 89 (V 0 0 ^ cnt people) (furB V σ people places t L s x.1) ∧ (x.1 < V 0 0 ^ cnt people → linkS V people s x.1 = true)) → jW G mi_X1_further 7 M9 60 [some (jr (some 64)), some (.int (nI places)), some (.int (nI t)), some (.int (nI s)), some (.int (nI x.1)), none, none] [] x.2 P := by
  have hw9 := (h.2.1.2 V hv9).1
  have h0 : 0 < V 0 0 := (h.2.1.1.2 V hv9).1
  have ho := (h.2.1.2 V hv9).2.1
  refine jW.loop (σ := Nat × Mm) _ (fun x => V 0 0 ^ cnt people - x.1) _ (fun _ => []) (fun x => x.2) (fun x hI ih => ?_)
  obtain ⟨b, M1⟩ := x
  obtain ⟨hb, ⟨hf, hS⟩, hL1, hB1, hlk⟩ := hI
  dsimp only at hb hf hS hL1 hB1 hlk ih ⊢
  have hX1 := h.mv hf (fun a => mvf_E) hS
  have hm1 := hm.fr h.1 hf (fun a => mvf_E)
  by_cases hkn : b < V 0 0 ^ cnt people
  · have hlk := hlk hkn
    -- on to the next
    have next : ∀ M', jsm mvf M0 M' → jSh M' → jLk M' 88 (V 0 0 ^ cnt people) L → jLk M' 89 (V 0 0 ^ cnt people) (furB V σ people places t L s (b + 1)) → jW G mi_X1_further 7 M9 148 [some (jr (some 64)), some (.int (nI places)), some (.int (nI t)), some (.int (nI s)), some (.int (nI b)), none, none] [] M' P := by
      intro M' q1 q2 q3 q4
      have hS := q2
      have hX2 := h.mv q1 (fun a => mvf_E) q2
      have hm2 := hm.fr h.1 q1 (fun a => mvf_E)
      refine jw_aload_n (pc := 148) dX1_further_148 rfl ?_
      refine jw_iload_n (pc := 149) dX1_further_149 rfl ?_
      refine jw_iload (pc := 150) dX1_further_150 rfl ?_
      refine jw_iconst (pc := 152) dX1_further_152 ic_1 ?_
      first | refine jx_iadd (pc := 153) dX1_further_153 ?_ | refine jw_iadd (pc := 153) dX1_further_153 ?_
      refine jx_cVi (mi1 := mi_X1_nextFrom) (pc := 154) rfl dX1_further_154 lk_X1_344 rfl fi_X1_nextFrom rfl rfl rfl (by decide) (is_64 hS) (t_X1_nextFrom hX2 hv9 hm2 (by omega) hkn) (by first | decide | omega) rfl rfl (by decide) ?_
      intro x_154 M_154 q_154
      obtain ⟨b2, e1, r1, r2, r3, r4, r5, r6⟩ := q_154
      subst e1
      have r7 : jsm mvf M' M_154 := r5.wk (fun a z => by unfold mvf; omega)
      have hB2 := q4.fr (by decide) q2 r5 (by decide)
      have hL2 := q3.fr (by decide) q2 r5 (by decide)
      refine jw_istore (pc := 157) dX1_further_157 (Nat.le_of_ble_eq_true rfl) rfl ?_
      try dsimp only [jput1, jput2, jkill, jclr, jis2_i, jis2_l, jis2_rs, jis2_rn, cond]
      refine jw_goto (pc := 159) (tgt := 60) dX1_further_159 (by decide) ?_
      refine ih (b2, M_154) ⟨r2, ⟨q1.tr r7, r6⟩, hL2, fun b' set' z1 z2 => ?_, r4⟩ (by dsimp only; omega)
      dsimp only
      rw [hB2 b' set' z1 z2, furB_to r1 r3]
    have hmo : moreS V people places t b < 1024 := Nat.lt_of_le_of_lt Nat.and_le_right hpl
    have hg79 : jsm (fun a => a = 79) M1 (js_As M1 79 (allG M1 V σ people b (cnt people))) := jsm.As rfl
    have hE79 : ∀ a, a = 79 → mvE a := fun a q => by unfold mvE; omega
    have hX2 := hX1.mv hg79 hE79 hS
    have hm2 := hm1.fr hS hg79 hE79
    have hL2 := hL1.fr (by decide) hS hg79 (by decide)
    have hB2 := hB1.fr (by decide) hS hg79 (by decide)
    have hf2 : jsm mvf M0 (js_As M1 79 (allG M1 V σ people b (cnt people))) := hf.tr (hg79.wk (fun a z => by unfold mvf; omega))
    obtain ⟨v2, hs2, hN2⟩ := hX2.so hv9
    refine jw_iload (pc := 60) dX1_further_60 rfl ?_
    refine jw_aload_n (pc := 62) dX1_further_62 rfl ?_
    refine jx_getIs (pc := 63) (jf_X1_290_0.r) rfl dX1_further_63 rfl (is_64 hS) (by decide) (hm1.2.2.1) ?_
    first | refine jx_icmp_ge (pc := 66) (tgt := 162) dX1_further_66 (by decide) (by omega) (by omega) ?_ ?_ | refine jw_icmp_ge (pc := 66) (tgt := 162) dX1_further_66 (by decide) ?_ ?_
    · intro h_66
      omega
    · intro h_66
      refine jw_aload_n (pc := 69) dX1_further_69 rfl ?_
      refine jw_aload_n (pc := 70) dX1_further_70 rfl ?_
      refine jw_iload (pc := 71) dX1_further_71 rfl ?_
      refine jx_cVE (mi1 := mi_X1_allIn) (pc := 73) rfl dX1_further_73 lk_X1_307 rfl fi_X1_allIn rfl rfl rfl (by decide) (is_64 hS) (t_X1_allIn hX1 hv9 hm1 h0 (by omega)) (by first | decide | omega) rfl rfl (by simp only [List.map_cons, List.map_nil, List.sum_cons, List.sum_nil, cat_i, cat_l, jr_cat]; decide) ?_
      refine jw_iload_n (pc := 76) dX1_further_76 rfl ?_
      refine jx_cVE (mi1 := mi_X1_isLawfulAt) (pc := 77) rfl dX1_further_77 lk_X1_221 rfl fi_X1_isLawfulAt rfl rfl rfl (by decide) (is_64 hS) (t_X1_isLawfulAt (t := t) (pl := plS V σ people b) hs2 ⟨ok_79 hS, nn_79 hS, fun q hq => ⟨allG_r hq, plS_lt h0 ho hq⟩⟩ (by omega)) (by first | decide | omega) rfl rfl (by decide) ?_
      first | refine jx_ifb_ne (pc := 80) (tgt := 86) dX1_further_80 (by decide) ?_ ?_ | refine jx_if_ne (pc := 80) (tgt := 86) dX1_further_80 (by decide) (by omega) ?_ ?_ | refine jw_if_ne (pc := 80) (tgt := 86) dX1_further_80 (by decide) ?_ ?_
      · intro h_80
        refine jw_aload_n (pc := 86) dX1_further_86 rfl ?_
        refine jw_iload (pc := 87) dX1_further_87 rfl ?_
        refine jw_iload_n (pc := 89) dX1_further_89 rfl ?_
        refine jx_cVE (mi1 := mi_X1_lookedAt) (pc := 90) rfl dX1_further_90 lk_X1_347 rfl fi_X1_lookedAt rfl rfl rfl (by decide) (is_64 hS) (t_X1_lookedAt hX2 hv9 hm2 (by omega) (by omega)) (by first | decide | omega) rfl rfl (by decide) ?_
        refine jw_iload_n (pc := 93) dX1_further_93 rfl ?_
        refine jw_iand (pc := 94) dX1_further_94 ?_
        rw [nI_and', show lkS V people t b &&& places = moreS V people places t b from rfl]
        refine jw_istore (pc := 95) dX1_further_95 (Nat.le_of_ble_eq_true rfl) rfl ?_
        try dsimp only [jput1, jput2, jkill, jclr, jis2_i, jis2_l, jis2_rs, jis2_rn, cond]
        have hg83 : jsm (fun a => a = 83) (js_As M1 79 (allG M1 V σ people b (cnt people))) (js_As (js_As M1 79 (allG M1 V σ people b (cnt people))) 83 (plcG (js_As M1 79 (allG M1 V σ people b (cnt people))) 83 (V 0 0) (cnt people) b (cnt people))) := jsm.As rfl
        have hL3 := hL2.fr (by decide) hS hg83 (by decide)
        have hB3 := hB2.fr (by decide) hS hg83 (by decide)
        have hf3 := hf2.tr (hg83.wk (F := mvf) (fun a z => by unfold mvf; omega))
        have hS3 : jSh (js_As (js_As M1 79 (allG M1 V σ people b (cnt people))) 83 (plcG (js_As M1 79 (allG M1 V σ people b (cnt people))) 83 (V 0 0) (cnt people) b (cnt people))) := hS
        generalize js_As (js_As M1 79 (allG M1 V σ people b (cnt people))) 83 (plcG (js_As M1 79 (allG M1 V σ people b (cnt people))) 83 (V 0 0) (cnt people) b (cnt people)) = M3 at hL3 hB3 hf3 hS3 ⊢
        clear hS
        have hS := hS3
        refine jw_iconst (pc := 97) dX1_further_97 ic_0 ?_
        refine jw_istore (pc := 98) dX1_further_98 (Nat.le_of_ble_eq_true rfl) rfl ?_
        try dsimp only [jput1, jput2, jkill, jclr, jis2_i, jis2_l, jis2_rs, jis2_rn, cond]
        refine lp_f100 (V := V) (L := L) hS3 (by omega) (by omega) hs hmo hL3 (fun M' q1 q2 q3 => ?_) (0, M3) ⟨Nat.zero_le _, jsm.rf, hS3, fun b' set' z1 z2 => by dsimp only; rw [hB3 b' set' z1 z2, furK_0]⟩
        exact next M' (hf3.tr (q1.wk (fun a z => by unfold mvf; omega))) q2 (hL3.fr (by decide) hS3 q1 (by decide)) (fun b' set' z1 z2 => by rw [q3 b' set' z1 z2, furK_end h_80 hlk])
      · intro h_80
        refine jw_goto (pc := 83) (tgt := 148) dX1_further_83 (by decide) ?_
        exact next _ hf2 hS hL2 (fun b' set' z1 z2 => by rw [hB2 b' set' z1 z2, furB_law h_80])
  · have hk' : b = V 0 0 ^ cnt people := by omega
    subst hk'
    refine jw_iload (pc := 60) dX1_further_60 rfl ?_
    refine jw_aload_n (pc := 62) dX1_further_62 rfl ?_
    refine jx_getIs (pc := 63) (jf_X1_290_0.r) rfl dX1_further_63 rfl (is_64 hS) (by decide) (hm1.2.2.1) ?_
    first | refine jx_icmp_ge (pc := 66) (tgt := 162) dX1_further_66 (by decide) (by omega) (by omega) ?_ ?_ | refine jw_icmp_ge (pc := 66) (tgt := 162) dX1_further_66 (by decide) ?_ ?_
    · intro h_66
      refine jW.sub ?_ (fin M1 hf hS hL1 (fun b' set' z1 z2 => by rw [hB1 b' set' z1 z2, furB_N z1]))
      exact ⟨rfl, rfl, rfl, rfl, trivial⟩
    · intro h_66
      omega
theorem t_X1_further {V : Vt} {people places t : Nat} {L : Nat → Nat → Bool} (h : jXx M σ) (hv9 : sv σ = some V) (hm : jMv M V people) (hN : V 0 0 ^ cnt people ≤ 100) (ht : t < 200) (hpl : places < 1024) (hL : jLk M 88 (V 0 0 ^ cnt people) L) : jT G mi_X1_further 7 [jr (some 64), .int (nI places), .int (nI t)] M (jPv (fun M' => jsm mvf M M' ∧ jSh M' ∧ jLk M' 88 (V 0 0 ^ cnt people) (furS V σ people places t L (V 0 0 ^ cnt people)))) := by
  have hS := h.1
  have hw9 := (h.2.1.2 V hv9).1
  have h0 : 0 < V 0 0 := (h.2.1.1.2 V hv9).1
  refine jT.of (by decide) rfl (Nat.le_of_ble_eq_true rfl) ?_
  have K : ∀ x : Nat × Mm, (x.1 ≤ V 0 0 ^ cnt people ∧ jsm mvf M x.2 ∧ jSh x.2 ∧ jLk x.2 88 (V 0 0 ^ cnt people) L ∧ jLk x.2 89 (V 0 0 ^ cnt people) (furS V σ people places t L x.1)) → jW G mi_X1_further 7 M 29 [some (jr (some 64)), some (.int (nI places)), some (.int (nI t)), some (.int (nI x.1)), none, none, none] [] x.2 (jPv (fun M' => jsm mvf M M' ∧ jSh M' ∧ jLk M' 88 (V 0 0 ^ cnt people) (furS V σ people places t L (V 0 0 ^ cnt people)))) := by
    refine jW.loop (σ := Nat × Mm) _ (fun x => V 0 0 ^ cnt people - x.1) _ (fun _ => []) (fun x => x.2) (fun x hI ih => ?_)
    obtain ⟨s, M1⟩ := x
    obtain ⟨hs, hf, hS, hL1, hB1⟩ := hI
    dsimp only at hs hf hS hL1 hB1 ih ⊢
    have hX1 := h.mv hf (fun a => mvf_E) hS
    have hm1 := hm.fr h.1 hf (fun a => mvf_E)
    by_cases hkn : s < V 0 0 ^ cnt people
    · have fin : ∀ M', jsm mvf M M' → jSh M' → jLk M' 88 (V 0 0 ^ cnt people) L → jLk M' 89 (V 0 0 ^ cnt people) (furS V σ people places t L (s + 1)) → jW G mi_X1_further 7 M 162 [some (jr (some 64)), some (.int (nI places)), some (.int (nI t)), some (.int (nI s)), none, none, none] [] M' (jPv (fun M' => jsm mvf M M' ∧ jSh M' ∧ jLk M' 88 (V 0 0 ^ cnt people) (furS V σ people places t L (V 0 0 ^ cnt people)))) := by
        intro M' q1 q2 q3 q4
        have hS := q2
        first | refine jx_iinc (pc := 162) dX1_further_162 rfl rfl ?_ | refine jw_iinc (pc := 162) dX1_further_162 rfl rfl rfl ?_
        try dsimp only [jput1, jkill, jclr, jis2_i, jis2_l, jis2_rs, jis2_rn, cond]
        refine jw_goto (pc := 165) (tgt := 29) dX1_further_165 (by decide) ?_
        exact ih (s + 1, M') ⟨hkn, q1, q2, q3, q4⟩ (by dsimp only; omega)
      refine jw_iload_n (pc := 29) dX1_further_29 rfl ?_
      refine jw_aload_n (pc := 30) dX1_further_30 rfl ?_
      refine jx_getIs (pc := 31) (jf_X1_290_0.r) rfl dX1_further_31 rfl (is_64 hS) (by decide) (hm1.2.2.1) ?_
      first | refine jx_icmp_ge (pc := 34) (tgt := 168) dX1_further_34 (by decide) (by omega) (by omega) ?_ ?_ | refine jw_icmp_ge (pc := 34) (tgt := 168) dX1_further_34 (by decide) ?_ ?_
      · intro h_34
        omega
      · intro h_34
        refine jw_aload_n (pc := 37) dX1_further_37 rfl ?_
        refine jw_iload_n (pc := 38) dX1_further_38 rfl ?_
        refine jx_cVE (mi1 := mi_X1_isAny) (pc := 39) rfl dX1_further_39 lk_X1_341 rfl fi_X1_isAny rfl rfl rfl (by decide) (is_64 hS) (t_X1_isAny hX1 hN hkn hL1) (by first | decide | omega) rfl rfl (by decide) ?_
        first | refine jx_ifb_eq (pc := 42) (tgt := 54) dX1_further_42 (by decide) ?_ ?_ | refine jx_if_eq (pc := 42) (tgt := 54) dX1_further_42 (by decide) (by omega) ?_ ?_ | refine jw_if_eq (pc := 42) (tgt := 54) dX1_further_42 (by decide) ?_ ?_
        · intro h_42
          refine jw_aload_n (pc := 54) dX1_further_54 rfl ?_
          refine jx_getIs (pc := 55) (jf_X1_290_0.r) rfl dX1_further_55 rfl (is_64 hS) (by decide) (hm1.2.2.1) ?_
          refine jw_istore (pc := 58) dX1_further_58 (Nat.le_of_ble_eq_true rfl) rfl ?_
          try dsimp only [jput1, jput2, jkill, jclr, jis2_i, jis2_l, jis2_rs, jis2_rn, cond]
          first
            | exact lp_f60 h hv9 hm hN ht hpl hkn fin (b2, M_48) ⟨r2, ⟨hf2, r6⟩, hL2, hB3, r4⟩
            | exact lp_f60 h hv9 hm hN ht hpl hkn fin (V 0 0 ^ cnt people, M1) ⟨Nat.le_refl _, ⟨hf, hS⟩, hL1, fun b' set' z1 z2 => by dsimp only; rw [hB1 b' set' z1 z2, furB_none h_42], fun c => absurd c (Nat.lt_irrefl _)⟩
        · intro h_42
          refine jw_aload_n (pc := 45) dX1_further_45 rfl ?_
          refine jw_iload_n (pc := 46) dX1_further_46 rfl ?_
          refine jw_iconst (pc := 47) dX1_further_47 ic_0 ?_
          refine jx_cVi (mi1 := mi_X1_nextFrom) (pc := 48) rfl dX1_further_48 lk_X1_344 rfl fi_X1_nextFrom rfl rfl rfl (by decide) (is_64 hS) (t_X1_nextFrom hX1 hv9 hm1 (by omega) (Nat.zero_le _)) (by first | decide | omega) rfl rfl (by decide) ?_
          intro x_48 M_48 q_48
          obtain ⟨b2, e1, r1, r2, r3, r4, r5, r6⟩ := q_48
          subst e1
          have hB2 := hB1.fr (by decide) hS r5 (by decide)
          have hL2 := hL1.fr (by decide) hS r5 (by decide)
          have hf2 := hf.tr (r5.wk (F := mvf) (fun a z => by unfold mvf; omega))
          have hB3 : jLk M_48 89 (V 0 0 ^ cnt people) (furB V σ people places t L s b2) := fun b' set' z1 z2 => by rw [hB2 b' set' z1 z2, furB_to r1 r3, furB_0]
          refine jw_goto (pc := 51) (tgt := 58) dX1_further_51 (by decide) ?_
          refine jw_istore (pc := 58) dX1_further_58 (Nat.le_of_ble_eq_true rfl) rfl ?_
          try dsimp only [jput1, jput2, jkill, jclr, jis2_i, jis2_l, jis2_rs, jis2_rn, cond]
          first
            | exact lp_f60 h hv9 hm hN ht hpl hkn fin (b2, M_48) ⟨r2, ⟨hf2, r6⟩, hL2, hB3, r4⟩
            | exact lp_f60 h hv9 hm hN ht hpl hkn fin (V 0 0 ^ cnt people, M1) ⟨Nat.le_refl _, ⟨hf, hS⟩, hL1, fun b' set' z1 z2 => by dsimp only; rw [hB1 b' set' z1 z2, furB_none h_42], fun c => absurd c (Nat.lt_irrefl _)⟩
    · have hk' : s = V 0 0 ^ cnt people := by omega
      subst hk'
      have hbd : ∀ k, k < 1024 * V 0 0 ^ cnt people → ∃ c : Bool, jm_A M1 89 (0 + k) = jb c := fun k hk => by
        refine ⟨furS V σ people places t L (V 0 0 ^ cnt people) (k / 1024) (k % 1024), ?_⟩
        rw [← hB1 (k / 1024) (k % 1024) (by omega) (by omega), Nat.zero_add, Nat.div_add_mod]
      refine jw_iload_n (pc := 29) dX1_further_29 rfl ?_
      refine jw_aload_n (pc := 30) dX1_further_30 rfl ?_
      refine jx_getIs (pc := 31) (jf_X1_290_0.r) rfl dX1_further_31 rfl (is_64 hS) (by decide) (hm1.2.2.1) ?_
      first | refine jx_icmp_ge (pc := 34) (tgt := 168) dX1_further_34 (by decide) (by omega) (by omega) ?_ ?_ | refine jw_icmp_ge (pc := 34) (tgt := 168) dX1_further_34 (by decide) ?_ ?_
      · intro h_34
        refine jw_aload_n (pc := 168) dX1_further_168 rfl ?_
        refine jx_getRs (pc := 169) (jf_X1_78_0.r) rfl dX1_further_169 rfl (is_64 hS) (by decide) (sr_64_27 hS) ?_
        refine jw_iconst (pc := 172) dX1_further_172 ic_0 ?_
        refine jw_aload_n (pc := 173) dX1_further_173 rfl ?_
        refine jx_getRs (pc := 174) (jf_X1_75_0.r) rfl dX1_further_174 rfl (is_64 hS) (by decide) (sr_64_26 hS) ?_
        refine jw_iconst (pc := 177) dX1_further_177 ic_0 ?_
        refine jw_sipush (pc := 178) dX1_further_178 sp_1024 ?_
        refine jw_aload_n (pc := 181) dX1_further_181 rfl ?_
        refine jx_getIs (pc := 182) (jf_X1_290_0.r) rfl dX1_further_182 rfl (is_64 hS) (by decide) (hm1.2.2.1) ?_
        first | refine jx_imul (pc := 185) dX1_further_185 ?_ | refine jw_imul (pc := 185) dX1_further_185 ?_
        refine jw_copy (t := 3) (i' := 0) (j' := 0) (n' := 1024 * V 0 0 ^ cnt people) (a := 89) (b := 88) (pc := 186) rfl q1265 q1267 q1266 q175 dX1_further_186 rfl rfl (by decide) (by decide) (ok_89 hS) (ok_88 hS) rfl rfl rfl (by rw [nn_89 hS]; omega) (by rw [nn_88 hS]; omega) (fun ty hty k hk => by cases hty; obtain ⟨c, hc⟩ := hbd k hk; rw [hc]; exact fits_b c) (by decide) (by decide) ?_
        refine jw_return (pc := 189) dX1_further_189 rfl ?_
        refine ⟨rfl, hf.tr (jsm.As (by unfold mvf; omega)), hS, fun b' set' z1 z2 => ?_⟩
        rw [jA_rd, if_pos ⟨Nat.zero_le _, by omega⟩, Nat.zero_add, Nat.sub_zero]
        exact hB1 b' set' z1 z2
      · intro h_34
        omega
  have C : ∀ k : Nat, k ≤ 1024 * V 0 0 ^ cnt people → jW G mi_X1_further 7 M 2 [some (jr (some 64)), some (.int (nI places)), some (.int (nI t)), some (.int (nI k)), none, none, none] [] (js_As M 89 (fun j => if j < k then nI 0 else jm_A M 89 j)) (jPv (fun M' => jsm mvf M M' ∧ jSh M' ∧ jLk M' 88 (V 0 0 ^ cnt people) (furS V σ people places t L (V 0 0 ^ cnt people)))) := by
    refine jW.loop _ (fun k => 1024 * V 0 0 ^ cnt people - k) _ (fun _ => []) (fun k => js_As M 89 (fun j => if j < k then nI 0 else jm_A M 89 j)) (fun k hk ih => ?_)
    by_cases hkn : k < 1024 * V 0 0 ^ cnt people
    ·
      refine jw_iload_n (pc := 2) dX1_further_2 rfl ?_
      refine jw_sipush (pc := 3) dX1_further_3 sp_1024 ?_
      refine jw_aload_n (pc := 6) dX1_further_6 rfl ?_
      refine jx_getIs (pc := 7) (jf_X1_290_0.r) rfl dX1_further_7 rfl (is_64 hS) (by decide) (hm.2.2.1) ?_
      first | refine jx_imul (pc := 10) dX1_further_10 ?_ | refine jw_imul (pc := 10) dX1_further_10 ?_
      first | refine jx_icmp_ge (pc := 11) (tgt := 27) dX1_further_11 (by decide) (by omega) (by omega) ?_ ?_ | refine jw_icmp_ge (pc := 11) (tgt := 27) dX1_further_11 (by decide) ?_ ?_
      · intro h_11
        omega
      · intro h_11
        refine jw_aload_n (pc := 14) dX1_further_14 rfl ?_
        refine jx_getRs (pc := 15) (jf_X1_78_0.r) rfl dX1_further_15 rfl (is_64 hS) (by decide) (sr_64_27 hS) ?_
        refine jw_iload_n (pc := 18) dX1_further_18 rfl ?_
        refine jw_iconst (pc := 19) dX1_further_19 ic_0 ?_
        refine jx_zast (pc := 20) dX1_further_20 (by decide) (ok_89 hS) (nn_89 hS) rfl (by omega) (by exact jnar_0) ?_
        first | refine jx_iinc (pc := 21) dX1_further_21 rfl rfl ?_ | refine jw_iinc (pc := 21) dX1_further_21 rfl rfl rfl ?_
        try dsimp only [jput1, jkill, jclr, jis2_i, jis2_l, jis2_rs, jis2_rn, cond]
        refine jw_goto (pc := 24) (tgt := 2) dX1_further_24 (by decide) ?_
        refine jW.eq rfl rfl ?_ (ih (k + 1) hkn (by omega))
        rw [jAs_A]
        refine jAs_cg (fun i => ?_)
        by_cases e : i = k
        · rw [if_pos e, if_pos (by omega)]
        · rw [if_neg e]
          by_cases e2 : i < k
          · rw [if_pos e2, if_pos (by omega)]
          · rw [if_neg e2, if_neg (by omega)]
    · have hk' : k = 1024 * V 0 0 ^ cnt people := by omega
      subst hk'
      have hg : jsm (fun a => a = 89) M (js_As M 89 (fun j => if j < 1024 * V 0 0 ^ cnt people then nI 0 else jm_A M 89 j)) := jsm.As rfl
      refine jw_iload_n (pc := 2) dX1_further_2 rfl ?_
      refine jw_sipush (pc := 3) dX1_further_3 sp_1024 ?_
      refine jw_aload_n (pc := 6) dX1_further_6 rfl ?_
      refine jx_getIs (pc := 7) (jf_X1_290_0.r) rfl dX1_further_7 rfl (is_64 hS) (by decide) (hm.2.2.1) ?_
      first | refine jx_imul (pc := 10) dX1_further_10 ?_ | refine jw_imul (pc := 10) dX1_further_10 ?_
      first | refine jx_icmp_ge (pc := 11) (tgt := 27) dX1_further_11 (by decide) (by omega) (by omega) ?_ ?_ | refine jw_icmp_ge (pc := 11) (tgt := 27) dX1_further_11 (by decide) ?_ ?_
      · intro h_11
        refine jw_iconst (pc := 27) dX1_further_27 ic_0 ?_
        refine jw_istore_n (pc := 28) dX1_further_28 (Nat.le_of_ble_eq_true rfl) rfl ?_
        try dsimp only [jput1, jput2, jkill, jclr, jis2_i, jis2_l, jis2_rs, jis2_rn, cond]
        refine K (0, _) ⟨Nat.zero_le _, hg.wk (fun a z => by unfold mvf; omega), hS, hL.fr (by decide) hS hg (by decide), fun b' set' z1 z2 => ?_⟩
        show jm_A (js_As M 89 (fun j => if j < 1024 * V 0 0 ^ cnt people then nI 0 else jm_A M 89 j)) 89 (1024 * b' + set') = jb (furS V σ people places t L 0 b' set')
        rw [jA_rd, if_pos (by omega)]
        unfold furS
        rw [show anyB 0 (fun a => linkS V people a b' && hitB L (moreS V people places t b') a 1024 set') = false from rfl, Bool.and_false]; rfl
      · intro h_11
        omega
  refine jw_iconst (pc := 0) dX1_further_0 ic_0 ?_
  refine jw_istore_n (pc := 1) dX1_further_1 (Nat.le_of_ble_eq_true rfl) rfl ?_
  try dsimp only [jput1, jput2, jkill, jclr, jis2_i, jis2_l, jis2_rs, jis2_rn, cond]
  refine jW.eq rfl rfl ?_ (C 0 (Nat.zero_le _))
  exact jAs_0 (fun i => by rw [if_neg (Nat.not_lt_zero _)])
end JXF2
