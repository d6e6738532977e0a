/-! ===== tokens ===== -/
def nxtN (c : Nat → Int32) (n p : Nat) (P : Int32 → Bool) : Nat := fstN n (fun k => decide (p ≤ k) && P (c k))
theorem nxt_eq {c : Nat → Int32} {n p k : Nat} {P : Int32 → Bool} (hk : p ≤ k) (hn : k ≤ n) (hP : P (c k) = true) (h0 : ∀ j, p ≤ j → j < k → P (c j) = false) : nxtN c n p P = k := by
  have h1 : ∀ j, j < k → (decide (p ≤ j) && P (c j)) = false := fun j hj => by
    by_cases e : p ≤ j
    · rw [h0 j e hj, Bool.and_false]
    · rw [decide_eq_false e, Bool.false_and]
  by_cases e : k < n
  · exact fst_hit e (by rw [decide_eq_true hk, hP]; rfl) h1
  · have e2 : k = n := by omega
    subst e2; exact fst_none h1
theorem nxt_le (c : Nat → Int32) (n p : Nat) (P : Int32 → Bool) : nxtN c n p P ≤ n := fst_le _ _
theorem nxt_ge {c : Nat → Int32} {n p : Nat} {P : Int32 → Bool} (h : p ≤ n) : p ≤ nxtN c n p P := by
  by_cases e : nxtN c n p P < n
  · have := (fst_spec e).1
    rw [Bool.and_eq_true] at this
    exact of_decide_eq_true this.1
  · omega
theorem nxt_gt {c : Nat → Int32} {n p : Nat} {P : Int32 → Bool} (h : p < n) (hP : P (c p) = false) : p < nxtN c n p P := by
  have h1 := nxt_ge (c := c) (P := P) (Nat.le_of_lt h)
  by_cases e : nxtN c n p P < n
  · have h2 := (fst_spec e).1
    rw [Bool.and_eq_true] at h2
    have h3 := h2.2
    refine Nat.lt_of_le_of_ne h1 (fun q => ?_)
    rw [show fstN n (fun k => decide (p ≤ k) && P (c k)) = p from q.symm] at h3
    rw [hP] at h3; cases h3
  · omega
theorem nxt_fst {c : Nat → Int32} {n p j : Nat} {P : Int32 → Bool} (h1 : p ≤ j) (h2 : j < nxtN c n p P) : P (c j) = false := by
  have h3 : (decide (p ≤ j) && P (c j)) = false := by
    by_cases e : nxtN c n p P < n
    · exact (fst_spec e).2 j h2
    · have h4 : fstN n (fun k => decide (p ≤ k) && P (c k)) = n := by have := nxt_le c n p P; unfold nxtN at this e; omega
      exact fst_all (by rw [h4]; exact Nat.lt_irrefl _) j (by unfold nxtN at h2; omega)
  rw [decide_eq_true h1, Bool.true_and] at h3
  exact h3
def smlB (x : Int32) : Bool := inb x (nI 97) (nI 122)
def digB (x : Int32) : Bool := inb x (nI 48) (nI 57)
def cNt (x : Int32) : Nat := x.toNatClampNeg
section TK
variable (c : Nat → Int32) (n : Nat)
def tkA (p : Nat) : Nat := nxtN c n p (fun x => decide (x ≠ nI 32))
def tkE (p : Nat) : Nat := if c (tkA c n p) = -1 then tkA c n p else if smlB (c (tkA c n p)) then nxtN c n (tkA c n p) (fun x => !smlB x) else if digB (c (tkA c n p)) then nxtN c n (tkA c n p) (fun x => !digB x) else tkA c n p + 1
/-- 0 end, 1 bad, 2 word, 3 number, 59, 44 -/
def tkK (p : Nat) : Nat := if c (tkA c n p) = -1 then 0 else if smlB (c (tkA c n p)) then (if tkE c n p - tkA c n p ≤ 8 then 2 else 1) else if digB (c (tkA c n p)) then (if tkE c n p - tkA c n p ≤ 3 then 3 else 1) else if c (tkA c n p) = nI 59 then 59 else if c (tkA c n p) = nI 44 then 44 else 1
def tkV (p : Nat) : Nat := if smlB (c (tkA c n p)) then txc (fun i => cNt (c (tkA c n p + i))) (tkE c n p - tkA c n p) else codeN 10 (tkE c n p - tkA c n p) (fun i => cNt (c (tkA c n p + i)) - 48)
end TK
theorem ch_n {n : Nat} (h : n < 2 ^ 31) : cNt (nI n) = n := by
  show (nI n).toInt.toNat = n
  rw [nI_toInt h]; rfl
theorem in_n {x : Int32} {a b : Nat} (ha : a < 2 ^ 31) (hb : b < 2 ^ 31) (h : inb x (nI a) (nI b) = true) : a ≤ cNt x ∧ cNt x ≤ b ∧ x = nI (cNt x) := by
  unfold inb at h
  have h := of_decide_eq_true h
  have h1 := Int32.le_iff_toInt_le.mp h.1
  have h2 := Int32.le_iff_toInt_le.mp h.2
  rw [nI_toInt ha] at h1
  rw [nI_toInt hb] at h2
  have e : cNt x = x.toInt.toNat := rfl
  have e2 : x = nI x.toInt.toNat := by
    apply Int32.toInt_inj.mp
    rw [nI_toInt (by omega)]
    omega
  rw [e]
  exact ⟨by omega, by omega, e2⟩
theorem in_i {a b m : Nat} (ha : a < 2 ^ 31) (hb : b < 2 ^ 31) (h1 : a ≤ m) (h2 : m ≤ b) : inb (nI m) (nI a) (nI b) = true := decide_eq_true ⟨(nI_leI ha (by omega)).mpr h1, (nI_leI (by omega) hb).mpr h2⟩
theorem sml_n {x : Int32} (h : smlB x = true) : 97 ≤ cNt x ∧ cNt x ≤ 122 ∧ x = nI (cNt x) := in_n (by decide) (by decide) h
theorem dig_n {x : Int32} (h : digB x = true) : 48 ≤ cNt x ∧ cNt x ≤ 57 ∧ x = nI (cNt x) := in_n (by decide) (by decide) h
theorem sml_m : smlB (-1) = false := by decide +kernel
theorem dig_m : digB (-1) = false := by decide +kernel
theorem sd_n {x : Int32} (h : smlB x = true) : digB x = false := by
  cases e : digB x with
  | false => rfl
  | true => have a := sml_n h; have b := dig_n e; omega
theorem ch_lt {σ : Sg} {n i : Nat} (h : ¬ chI σ n i = -1) : i < n := by
  refine Classical.byContradiction (fun q => h ?_)
  unfold chI; rw [if_neg q]
theorem ch_end {σ : Sg} {n i : Nat} (h : n ≤ i) : chI σ n i = -1 := by unfold chI; rw [if_neg (by omega)]
theorem and255 (x : Int32) : ∃ m, m < 256 ∧ x &&& nI 255 = nI m := by
  refine ⟨(x &&& nI 255).toUInt32.toNat, ?_, ?_⟩
  · show (x.toBitVec &&& (nI 255).toBitVec).toNat < 256
    rw [BitVec.toNat_and]
    exact Nat.lt_of_le_of_lt Nat.and_le_right (by decide)
  · apply Int32.toBitVec_inj.mp
    show (x &&& nI 255).toBitVec = BitVec.ofNat 32 _
    apply BitVec.eq_of_toNat_eq
    rw [BitVec.toNat_ofNat, Nat.mod_eq_of_lt (by exact (x &&& nI 255).toBitVec.isLt)]
    rfl
theorem ch_ge {σ : Sg} {n i : Nat} (h : i < n) : ∃ m, m < 256 ∧ chI σ n i = nI m := by
  unfold chI; rw [if_pos h]; exact and255 _
theorem nI_nm {m : Nat} (h : m < 256) : ¬ nI m = -1 := by
  have : ∀ m, m < 256 → ¬ nI m = -1 := by decide +kernel
  exact this m h
theorem ch_ne {σ : Sg} {n i : Nat} (h : i < n) : ¬ chI σ n i = -1 := by
  obtain ⟨m, h1, h2⟩ := ch_ge (σ := σ) h
  rw [h2]; exact nI_nm h1
section TKL
variable {σ : Sg} {n p : Nat}
theorem tkA_ge (h : p ≤ n) : p ≤ tkA (chI σ n) n p := nxt_ge h
theorem tkA_le : tkA (chI σ n) n p ≤ n := nxt_le _ _ _ _
theorem tkA_eq {k : Nat} (hk : p ≤ k) (hn : k ≤ n) (hP : ¬ chI σ n k = nI 32) (h0 : ∀ j, p ≤ j → j < k → chI σ n j = nI 32) : tkA (chI σ n) n p = k := nxt_eq hk hn (decide_eq_true hP) (fun j h1 h2 => decide_eq_false (fun q => q (h0 j h1 h2)))
theorem tkE_le : tkE (chI σ n) n p ≤ n := by
  have := tkA_le (σ := σ) (n := n) (p := p)
  unfold tkE
  split
  · exact this
  · split
    · exact nxt_le _ _ _ _
    · split
      · exact nxt_le _ _ _ _
      · have := ch_lt ‹_›; omega
theorem tkE_ge : tkA (chI σ n) n p ≤ tkE (chI σ n) n p := by
  have h := tkA_le (σ := σ) (n := n) (p := p)
  unfold tkE
  split
  · exact Nat.le_refl _
  · split
    · exact nxt_ge h
    · split
      · exact nxt_ge h
      · omega
theorem tkE_gt (hk : tkK (chI σ n) n p ≠ 0) : tkA (chI σ n) n p < tkE (chI σ n) n p := by
  have h9 : ¬ chI σ n (tkA (chI σ n) n p) = -1 := fun q => hk (by unfold tkK; rw [if_pos q])
  have h8 := ch_lt h9
  unfold tkE
  rw [if_neg h9]
  split
  · exact nxt_gt h8 (by rw [‹smlB _ = true›]; rfl)
  · split
    · exact nxt_gt h8 (by rw [‹digB _ = true›]; rfl)
    · omega
theorem tkE_p (h : p ≤ n) : p ≤ tkE (chI σ n) n p := Nat.le_trans (tkA_ge h) tkE_ge
theorem tkE_pk (h : p ≤ n) (hk : tkK (chI σ n) n p ≠ 0) : p < tkE (chI σ n) n p := Nat.lt_of_le_of_lt (tkA_ge h) (tkE_gt hk)
/-- the kinds -/
theorem tk_end (h : chI σ n (tkA (chI σ n) n p) = -1) : tkK (chI σ n) n p = 0 ∧ tkE (chI σ n) n p = tkA (chI σ n) n p := ⟨by unfold tkK; rw [if_pos h], by unfold tkE; rw [if_pos h]⟩
theorem tk_wrd (h : smlB (chI σ n (tkA (chI σ n) n p)) = true) {e : Nat} (h1 : tkA (chI σ n) n p ≤ e) (h2 : e ≤ n) (h3 : smlB (chI σ n e) = false) (h0 : ∀ j, tkA (chI σ n) n p ≤ j → j < e → smlB (chI σ n j) = true) : tkE (chI σ n) n p = e ∧ tkK (chI σ n) n p = (if e - tkA (chI σ n) n p ≤ 8 then 2 else 1) ∧ tkV (chI σ n) n p = txc (fun i => cNt (chI σ n (tkA (chI σ n) n p + i))) (e - tkA (chI σ n) n p) := by
  have h9 : ¬ chI σ n (tkA (chI σ n) n p) = -1 := fun q => by rw [q, sml_m] at h; cases h
  have e1 : tkE (chI σ n) n p = e := by
    unfold tkE; rw [if_neg h9, if_pos h]
    exact nxt_eq h1 h2 (by rw [h3]; rfl) (fun j a b => by rw [h0 j a b]; rfl)
  refine ⟨e1, ?_, ?_⟩
  · unfold tkK; rw [if_neg h9, if_pos h, e1]
  · unfold tkV; rw [if_pos h, e1]
theorem tk_num (h : digB (chI σ n (tkA (chI σ n) n p)) = true) {e : Nat} (h1 : tkA (chI σ n) n p ≤ e) (h2 : e ≤ n) (h3 : digB (chI σ n e) = false) (h0 : ∀ j, tkA (chI σ n) n p ≤ j → j < e → digB (chI σ n j) = true) : tkE (chI σ n) n p = e ∧ tkK (chI σ n) n p = (if e - tkA (chI σ n) n p ≤ 3 then 3 else 1) ∧ tkV (chI σ n) n p = codeN 10 (e - tkA (chI σ n) n p) (fun i => cNt (chI σ n (tkA (chI σ n) n p + i)) - 48) := by
  have h9 : ¬ chI σ n (tkA (chI σ n) n p) = -1 := fun q => by rw [q, dig_m] at h; cases h
  have h8 : ¬ smlB (chI σ n (tkA (chI σ n) n p)) = true := fun q => by rw [sd_n q] at h; cases h
  have e1 : tkE (chI σ n) n p = e := by
    unfold tkE; rw [if_neg h9, if_neg h8, if_pos h]
    exact nxt_eq h1 h2 (by rw [h3]; rfl) (fun j a b => by rw [h0 j a b]; rfl)
  refine ⟨e1, ?_, ?_⟩
  · unfold tkK; rw [if_neg h9, if_neg h8, if_pos h, e1]
  · unfold tkV; rw [if_neg h8, e1]
theorem tk_oth (h9 : ¬ chI σ n (tkA (chI σ n) n p) = -1) (h8 : smlB (chI σ n (tkA (chI σ n) n p)) = false) (h7 : digB (chI σ n (tkA (chI σ n) n p)) = false) : tkE (chI σ n) n p = tkA (chI σ n) n p + 1 ∧ tkK (chI σ n) n p = (if chI σ n (tkA (chI σ n) n p) = nI 59 then 59 else if chI σ n (tkA (chI σ n) n p) = nI 44 then 44 else 1) := by
  have a8 : ¬ smlB (chI σ n (tkA (chI σ n) n p)) = true := by rw [h8]; decide
  have a7 : ¬ digB (chI σ n (tkA (chI σ n) n p)) = true := by rw [h7]; decide
  exact ⟨by unfold tkE; rw [if_neg h9, if_neg a8, if_neg a7], by unfold tkK; rw [if_neg h9, if_neg a8, if_neg a7]⟩
/-- numbers have at most three digits -/
theorem tkV_lt (h : tkK (chI σ n) n p = 3) : tkV (chI σ n) n p < 1000 := by
  have h9 : ¬ chI σ n (tkA (chI σ n) n p) = -1 := fun q => by unfold tkK at h; rw [if_pos q] at h; cases h
  have h8 : ¬ smlB (chI σ n (tkA (chI σ n) n p)) = true := fun q => by
    unfold tkK at h; rw [if_neg h9, if_pos q] at h; split at h <;> omega
  have h7 : digB (chI σ n (tkA (chI σ n) n p)) = true := Classical.byContradiction (fun q => by
    unfold tkK at h; rw [if_neg h9, if_neg h8, if_neg q] at h
    split at h
    · omega
    · split at h <;> omega)
  have hk : tkE (chI σ n) n p - tkA (chI σ n) n p ≤ 3 := Classical.byContradiction (fun q => by
    unfold tkK at h; rw [if_neg h9, if_neg h8, if_pos h7, if_neg q] at h; omega)
  have hl : ∀ i, i < tkE (chI σ n) n p - tkA (chI σ n) n p → cNt (chI σ n (tkA (chI σ n) n p + i)) - 48 < 10 := fun i hi => by
    have e : tkE (chI σ n) n p = nxtN (chI σ n) n (tkA (chI σ n) n p) (fun x => !digB x) := by unfold tkE; rw [if_neg h9, if_neg h8, if_pos h7]
    have hd : digB (chI σ n (tkA (chI σ n) n p + i)) = true := Classical.byContradiction (fun q => by
      have := nxt_fst (c := chI σ n) (n := n) (p := tkA (chI σ n) n p) (P := fun x => !digB x) (j := tkA (chI σ n) n p + i) (Nat.le_add_right _ _) (by rw [← e]; omega)
      rw [Bool.not_eq_true] at q
      rw [q] at this; cases this)
    have := dig_n hd
    omega
  unfold tkV; rw [if_neg h8]
  have := codeN_lt (B := 10) (n := tkE (chI σ n) n p - tkA (chI σ n) n p) hl
  exact Nat.lt_of_lt_of_le this (Nat.le_trans (Nat.pow_le_pow_right (by decide) hk) (by decide))
end TKL
