/-! ===== numbers as digits ===== -/
def codeN (B n : Nat) (f : Nat → Nat) : Nat := match n with
  | 0 => 0
  | n + 1 => codeN B n f * B + f n
def dig (B n s k : Nat) : Nat := s / B ^ (n - 1 - k) % B
theorem codeN_s (B n : Nat) (f : Nat → Nat) : codeN B (n + 1) f = codeN B n f * B + f n := rfl
theorem codeN_cg {B n : Nat} {f g : Nat → Nat} (h : ∀ k, k < n → f k = g k) : codeN B n f = codeN B n g := by
  induction n with
  | zero => rfl
  | succ n ih => rw [codeN_s, codeN_s, ih (fun k hk => h k (by omega)), h n (by omega)]
theorem codeN_lt {B n : Nat} {f : Nat → Nat} (h : ∀ k, k < n → f k < B) : codeN B n f < B ^ n := by
  induction n with
  | zero => show 0 < 1; decide
  | succ n ih =>
    have i := ih (fun k hk => h k (by omega))
    have j := h n (by omega)
    rw [codeN_s, Nat.pow_succ]
    have := Nat.mul_le_mul_right B (Nat.succ_le_of_lt i)
    rw [Nat.succ_mul] at this
    omega
theorem dig_l (B n s : Nat) : dig B (n + 1) s n = s % B := by
  unfold dig
  rw [show n + 1 - 1 - n = 0 by omega, Nat.pow_zero, Nat.div_one]
theorem dig_s {B n s k : Nat} (hk : k < n) : dig B (n + 1) s k = dig B n (s / B) k := by
  unfold dig
  rw [show n + 1 - 1 - k = (n - 1 - k) + 1 by omega, Nat.pow_succ, Nat.mul_comm, ← Nat.div_div_eq_div_mul]
theorem dig_lt {B n s k : Nat} (h : 0 < B) : dig B n s k < B := Nat.mod_lt _ h
theorem dig_code {B n : Nat} {f : Nat → Nat} (h : ∀ k, k < n → f k < B) {k : Nat} (hk : k < n) : dig B n (codeN B n f) k = f k := by
  induction n generalizing k with
  | zero => omega
  | succ n ih =>
    have j := h n (by omega)
    have hB : 0 < B := by omega
    rw [codeN_s]
    by_cases e : k = n
    · subst e
      rw [dig_l, Nat.mul_comm, Nat.mul_add_mod, Nat.mod_eq_of_lt j]
    · rw [dig_s (by omega), Nat.mul_comm, Nat.mul_add_div hB, Nat.div_eq_of_lt j, Nat.add_zero]
      exact ih (fun k hk => h k (by omega)) (by omega)
theorem code_dig {B n s : Nat} (hB : 0 < B) (h : s < B ^ n) : codeN B n (dig B n s) = s := by
  induction n generalizing s with
  | zero => have : s < 1 := h; show 0 = s; omega
  | succ n ih =>
    rw [Nat.pow_succ] at h
    have h2 : s / B < B ^ n := (Nat.div_lt_iff_lt_mul hB).mpr h
    rw [codeN_s, dig_l, codeN_cg (fun k hk => dig_s hk), ih h2, Nat.mul_comm]
    exact Nat.div_add_mod s B
theorem dig_ext {B n a b : Nat} (hB : 0 < B) (ha : a < B ^ n) (hb : b < B ^ n) (h : ∀ k, k < n → dig B n a k = dig B n b k) : a = b := by
  rw [← code_dig hB ha, ← code_dig hB hb]; exact codeN_cg h
/-- the number by tens of a number by P -/
def phi (P n s : Nat) : Nat := codeN 10 n (dig P n s)
theorem phi_s (P n s : Nat) : phi P (n + 1) s = phi P n (s / P) * 10 + s % P := by
  unfold phi
  rw [codeN_s, dig_l, codeN_cg (fun k hk => dig_s hk)]
theorem phi_lt {P n s : Nat} (h0 : 0 < P) (hP : P ≤ 10) : phi P n s < 10 ^ n := codeN_lt (fun k hk => Nat.lt_of_lt_of_le (dig_lt h0) hP)
theorem phi_mono {P n a b : Nat} (h0 : 0 < P) (hP : P ≤ 10) (h : a < b) (hb : b < P ^ n) : phi P n a < phi P n b := by
  induction n generalizing a b with
  | zero => have : b < 1 := hb; omega
  | succ n ih =>
    rw [Nat.pow_succ] at hb
    rw [phi_s, phi_s]
    have hbd : b / P < P ^ n := (Nat.div_lt_iff_lt_mul h0).mpr hb
    have hle : a / P ≤ b / P := Nat.div_le_div_right (Nat.le_of_lt h)
    have ma := Nat.mod_lt a h0
    have mb := Nat.mod_lt b h0
    by_cases e : a / P = b / P
    · have ea := Nat.div_add_mod a P
      have eb := Nat.div_add_mod b P
      rw [e] at ea ⊢
      omega
    · have := ih (show a / P < b / P by omega) hbd
      omega
theorem phi_inj {P n a b : Nat} (h0 : 0 < P) (hP : P ≤ 10) (ha : a < P ^ n) (hb : b < P ^ n) (h : phi P n a = phi P n b) : a = b := by
  rcases Nat.lt_trichotomy a b with q | q | q
  · have := phi_mono h0 hP q hb; omega
  · exact q
  · have := phi_mono h0 hP q ha; omega
theorem dig_phi {P n s k : Nat} (h0 : 0 < P) (hP : P ≤ 10) (hk : k < n) : dig 10 n (phi P n s) k = dig P n s k := dig_code (fun k _ => Nat.lt_of_lt_of_le (dig_lt h0) hP) hk
def valB (P n c : Nat) : Bool := allB n (fun k => decide (dig 10 n c k < P))
theorem valB_phi {P n s : Nat} (h0 : 0 < P) (hP : P ≤ 10) : valB P n (phi P n s) = true := allB_iff.mpr (fun k hk => decide_eq_true (by rw [dig_phi h0 hP hk]; exact dig_lt h0))
theorem valB_ex {P n c : Nat} (hP : P ≤ 10) (hc : c < 10 ^ n) (h : valB P n c = true) : ∃ s, s < P ^ n ∧ phi P n s = c := by
  have h1 : ∀ k, k < n → dig 10 n c k < P := fun k hk => of_decide_eq_true (allB_iff.mp h k hk)
  refine ⟨codeN P n (dig 10 n c), codeN_lt h1, ?_⟩
  unfold phi
  rw [codeN_cg (fun k hk => dig_code h1 hk)]
  exact code_dig (by decide) hc
/-- how many valid numbers lie ahead of one -/
def psi (P n c : Nat) : Nat := match c with
  | 0 => 0
  | c + 1 => if valB P n c then psi P n c + 1 else psi P n c
theorem psi_s (P n c : Nat) : psi P n (c + 1) = if valB P n c then psi P n c + 1 else psi P n c := rfl
theorem psi_ok {P n : Nat} (h0 : 0 < P) (hP : P ≤ 10) : ∀ c, c ≤ 10 ^ n → psi P n c ≤ P ^ n ∧ ∀ s, s < P ^ n → (phi P n s < c ↔ s < psi P n c) := by
  intro c
  induction c with
  | zero => exact fun _ => ⟨Nat.zero_le _, fun s _ => ⟨fun q => absurd q (Nat.not_lt_zero _), fun q => absurd q (Nat.not_lt_zero _)⟩⟩
  | succ c ih =>
    intro hc
    obtain ⟨i1, i2⟩ := ih (by omega)
    rw [psi_s]
    by_cases hv : valB P n c = true
    · obtain ⟨s0, s1, s2⟩ := valB_ex hP (by omega) hv
      have e : s0 = psi P n c := by
        rcases Nat.lt_trichotomy s0 (psi P n c) with q | q | q
        · have := (i2 s0 s1).mpr q; omega
        · exact q
        · have := phi_mono h0 hP q s1
          have := (i2 (psi P n c) (by omega)).mp (by omega)
          omega
      rw [if_pos hv]
      refine ⟨by omega, fun s hs => ?_⟩
      constructor
      · intro q
        by_cases q2 : phi P n s = c
        · have := phi_inj h0 hP hs s1 (q2.trans s2.symm); omega
        · have := (i2 s hs).mp (by omega); omega
      · intro q
        by_cases q2 : s = psi P n c
        · rw [q2, ← e, s2]; omega
        · have := (i2 s hs).mpr (by omega); omega
    · rw [if_neg hv]
      refine ⟨i1, fun s hs => ?_⟩
      have q2 : phi P n s ≠ c := fun e => hv (e ▸ valB_phi h0 hP)
      rw [← i2 s hs]
      omega
theorem psi_phi {P n c : Nat} (h0 : 0 < P) (hP : P ≤ 10) (hc : c < 10 ^ n) (hv : valB P n c = true) : psi P n c < P ^ n ∧ phi P n (psi P n c) = c := by
  obtain ⟨s0, s1, s2⟩ := valB_ex hP hc hv
  obtain ⟨i1, i2⟩ := psi_ok (n := n) h0 hP c (by omega)
  have e : s0 = psi P n c := by
    rcases Nat.lt_trichotomy s0 (psi P n c) with q | q | q
    · have := (i2 s0 s1).mpr q; omega
    · exact q
    · have := phi_mono h0 hP q s1
      have := (i2 (psi P n c) (by omega)).mp (by omega)
      omega
  rw [← e]; exact ⟨s1, s2⟩
theorem psi_of {P n s : Nat} (h0 : 0 < P) (hP : P ≤ 10) (hs : s < P ^ n) : psi P n (phi P n s) = s := by
  obtain ⟨q1, q2⟩ := psi_phi h0 hP (phi_lt h0 hP) (valB_phi (s := s) h0 hP)
  exact phi_inj h0 hP q1 hs q2
theorem psi_end {P n : Nat} (h0 : 0 < P) (hP : P ≤ 10) : psi P n (10 ^ n) = P ^ n := by
  obtain ⟨i1, i2⟩ := psi_ok (n := n) h0 hP _ (Nat.le_refl _)
  by_cases e : psi P n (10 ^ n) = P ^ n
  · exact e
  · exact absurd ((i2 (psi P n (10 ^ n)) (by omega)).mp (phi_lt h0 hP)) (Nat.lt_irrefl _)
theorem psi_mono {P n a b : Nat} (h : a ≤ b) : psi P n a ≤ psi P n b := by
  induction b with
  | zero => rw [show a = 0 by omega]; exact Nat.le_refl _
  | succ b ih =>
    by_cases e : a = b + 1
    · rw [e]; exact Nat.le_refl _
    · exact Nat.le_trans (ih (by omega)) (by rw [psi_s]; split <;> omega)
/-! ===== movers: who, where, which states they can come to ===== -/
theorem nth_of : ∀ s, s < 32 → ∀ p, p < 5 → s.testBit p = true → nthB s (cntN s p + 1) = p := by decide +kernel
theorem cntN_all : ∀ s, s < 32 → ∀ n, n ≤ 5 → s < 2 ^ n → cntN s n = cnt s := by decide +kernel
def mvP (people k : Nat) : Nat := nthB people (k + 1)
section MV
variable (V : Vt) (σ : Sg) (people : Nat)
/-- how many places, how many movers -/
abbrev mvn : Nat := cnt people
/-- where all are in a state -/
def plS (s : Nat) : Nat → Nat := fun p => if p < V 0 1 ∧ people.testBit p = true then dig (V 0 0) (cnt people) s (cntN people p) else sa σ 0 p
def lawS (t s : Nat) : Bool := lawfulV V (plS V σ people s) t
def linkS (s b : Nat) : Bool := allB (cnt people) (fun k => linkB V (dig (V 0 0) (cnt people) s k) (dig (V 0 0) (cnt people) b k))
def nowS : Nat := codeN (V 0 0) (cnt people) (fun k => sa σ 0 (mvP people k))
def rch (i : Nat) (s : Nat) : Bool := match i with
  | 0 => decide (s = nowS V σ people)
  | i + 1 => lawS V σ people (sn σ 0 + (i + 1)) s && anyB (V 0 0 ^ cnt people) (fun a => rch i a && linkS V people a s)
end MV
theorem rch_s (V : Vt) (σ : Sg) (people i s : Nat) : rch V σ people (i + 1) s = (lawS V σ people (sn σ 0 + (i + 1)) s && anyB (V 0 0 ^ cnt people) (fun a => rch V σ people i a && linkS V people a s)) := rfl
theorem linkB_self (V : Vt) (a : Nat) : linkB V a a = true := by unfold linkB; rw [decide_eq_true rfl]; rfl
theorem mv_ok {people : Nat} (h : people < 32) {k : Nat} (hk : k < cnt people) : mvP people k < 10 ∧ people.testBit (mvP people k) = true ∧ cntN people (mvP people k) = k := by
  obtain ⟨h1, h2, h3⟩ := nth_ok people (by omega) (k + 1) (by omega) (by omega)
  exact ⟨h1, h2, by show cntN people (nthB people (k + 1)) = k; omega⟩
theorem pw3 {P n : Nat} (hP : P ≤ 10) (hn : n ≤ 3) : P ^ n ≤ 1000 := Nat.le_trans (Nat.pow_le_pow_left hP n) (Nat.le_trans (Nat.pow_le_pow_right (n := 10) (by decide) hn) (by decide))
