/-! ===== m's states by tens and x's by places ===== -/
def glC (V : Vt) (τ : Sg) (people goal N j c : Nat) : Bool := match j with
  | 0 => decide (c = goal)
  | j + 1 => canC V τ people (N - (j + 1)) c && anyB (10 ^ cnt people) (fun b => stC V people c b && glC V τ people goal N j b)
theorem glC_s (V : Vt) (τ : Sg) (people goal N j c : Nat) : glC V τ people goal N (j + 1) c = (canC V τ people (N - (j + 1)) c && anyB (10 ^ cnt people) (fun b => stC V people c b && glC V τ people goal N j b)) := rfl
def nxQ (V : Vt) (τ : Sg) (people goal N i s b : Nat) : Bool := stC V people s b && glC V τ people goal N (N - (i + 1)) b
def pthC (V : Vt) (τ : Sg) (people goal N i : Nat) : Nat := match i with
  | 0 => nowC τ people
  | i + 1 => if fstN (10 ^ cnt people) (nxQ V τ people goal N i (pthC V τ people goal N i)) < 10 ^ cnt people then fstN (10 ^ cnt people) (nxQ V τ people goal N i (pthC V τ people goal N i)) else pthC V τ people goal N i
theorem pthC_s (V : Vt) (τ : Sg) (people goal N i : Nat) : pthC V τ people goal N (i + 1) = if fstN (10 ^ cnt people) (nxQ V τ people goal N i (pthC V τ people goal N i)) < 10 ^ cnt people then fstN (10 ^ cnt people) (nxQ V τ people goal N i (pthC V τ people goal N i)) else pthC V τ people goal N i := rfl
theorem any_phi {P n : Nat} {Q : Nat → Bool} (h0 : 0 < P) (hP : P ≤ 10) (hQ : ∀ a, a < 10 ^ n → Q a = true → valB P n a = true) : anyB (10 ^ n) Q = anyB (P ^ n) (fun s => Q (phi P n s)) := by
  rw [Bool.eq_iff_iff, anyB_iff, anyB_iff]
  constructor
  · rintro ⟨a, a1, a2⟩
    obtain ⟨s, s1, s2⟩ := valB_ex hP a1 (hQ a a1 a2)
    exact ⟨s, s1, by rw [s2]; exact a2⟩
  · rintro ⟨s, s1, s2⟩
    exact ⟨_, phi_lt h0 hP, s2⟩
theorem fst_phi {P n : Nat} {Q : Nat → Bool} (h0 : 0 < P) (hP : P ≤ 10) (hQ : ∀ a, a < 10 ^ n → Q a = true → valB P n a = true) (h : fstN (P ^ n) (fun s => Q (phi P n s)) < P ^ n) : fstN (10 ^ n) Q = phi P n (fstN (P ^ n) (fun s => Q (phi P n s))) := by
  obtain ⟨q1, q2⟩ := fst_spec h
  refine fst_hit (phi_lt h0 hP) q1 (fun j hj => ?_)
  cases e : Q j with
  | false => rfl
  | true =>
    have hj2 : j < 10 ^ n := Nat.lt_trans hj (phi_lt h0 hP)
    obtain ⟨s, s1, s2⟩ := valB_ex hP hj2 (hQ j hj2 e)
    have hs : s < fstN (P ^ n) (fun s => Q (phi P n s)) := by
      rcases Nat.lt_trichotomy s (fstN (P ^ n) (fun s => Q (phi P n s))) with q | q | q
      · exact q
      · rw [← q, s2] at hj; omega
      · have := phi_mono h0 hP q s1; omega
    have := q2 s hs
    rw [s2, e] at this
    cases this
section PLN
variable {V : Vt} {τ : Sg} {people : Nat}
theorem nowC_phi (hw : jWf V) (hp : people < 2 ^ V 0 1) (ho : ∀ p, p < V 0 1 → sa τ 0 p < V 0 0) : nowC τ people = phi (V 0 0) (cnt people) (nowS V τ people) := by
  unfold nowC phi nowS
  exact codeN_cg (fun k hk => (dig_code (fun k hk => ho _ (bit_lt hp (mv_ok (mv_n hw hp) hk).2.1)) hk).symm)
theorem plC_phi (hw : jWf V) (hp : people < 2 ^ V 0 1) (h0 : 0 < V 0 0) (s : Nat) : plC V τ people (phi (V 0 0) (cnt people) s) = plS V τ people s := by
  funext p
  unfold plC plS
  by_cases e : p < V 0 1 ∧ people.testBit p = true
  · rw [if_pos e, if_pos e, dig_phi h0 (wf_np hw) (cntN_bit (mv_n hw hp) (wf_nq hw) hp e.1 e.2)]
  · rw [if_neg e, if_neg e]
theorem lawC_phi (hw : jWf V) (hp : people < 2 ^ V 0 1) (h0 : 0 < V 0 0) (t s : Nat) : lawC V τ people t (phi (V 0 0) (cnt people) s) = lawS V τ people t s := by
  unfold lawC lawS; rw [plC_phi hw hp h0]
theorem linkC_phi (hw : jWf V) (h0 : 0 < V 0 0) (a b : Nat) : linkC V people (phi (V 0 0) (cnt people) a) (phi (V 0 0) (cnt people) b) = linkS V people a b := by
  unfold linkC linkS
  exact allB_congr (fun k hk => by rw [dig_phi h0 (wf_np hw) hk, dig_phi h0 (wf_np hw) hk])
theorem stC_phi (hw : jWf V) (h0 : 0 < V 0 0) (a b : Nat) : stC V people (phi (V 0 0) (cnt people) a) (phi (V 0 0) (cnt people) b) = linkS V people a b := by
  unfold stC; rw [valB_phi h0 (wf_np hw), Bool.true_and, linkC_phi hw h0]
theorem canC_phi (hw : jWf V) (hp : people < 2 ^ V 0 1) (h0 : 0 < V 0 0) (ho : ∀ p, p < V 0 1 → sa τ 0 p < V 0 0) : ∀ i s, s < V 0 0 ^ cnt people → canC V τ people i (phi (V 0 0) (cnt people) s) = rch V τ people i s := by
  have hnow : nowS V τ people < V 0 0 ^ cnt people := nowS_lt hw hp ho
  intro i
  induction i with
  | zero =>
    intro s hs
    show decide (_ = _) = decide (_ = _)
    rw [nowC_phi hw hp ho, decide_eq_decide]
    exact ⟨fun q => phi_inj h0 (wf_np hw) hs hnow q, fun q => by rw [q]⟩
  | succ i ih =>
    intro s hs
    rw [canC_s, rch_s, lawC_phi hw hp h0, Bool.and_comm, any_phi h0 (wf_np hw) (fun a ha q => by rw [Bool.and_eq_true] at q; exact canC_v hw hp ho q.1)]
    congr 1
    exact anyB_congr (fun a ha => by rw [ih a ha, stC_phi hw h0])
theorem hmJ_law {σ : Sg} {goal N j s : Nat} (h : lawR V σ people (N - j) s = false) : hmJ V σ people goal N j s = false := by
  cases j with
  | zero => show (decide (s = goal) && lawR V σ people N s) = false; rw [show lawR V σ people N s = false from h, Bool.and_false]
  | succ j => rw [hmJ_s, h, Bool.and_false]
theorem glC_v (hw : jWf V) (hp : people < 2 ^ V 0 1) (ho : ∀ p, p < V 0 1 → sa τ 0 p < V 0 0) {goal N j c : Nat} (hg : valB (V 0 0) (cnt people) goal = true) (h : glC V τ people goal N j c = true) : valB (V 0 0) (cnt people) c = true := by
  cases j with
  | zero => have e : c = goal := of_decide_eq_true h; rw [e]; exact hg
  | succ j => rw [glC_s, Bool.and_eq_true] at h; exact canC_v hw hp ho h.1
theorem gl_no (hw : jWf V) (hp : people < 2 ^ V 0 1) (h0 : 0 < V 0 0) (ho : ∀ p, p < V 0 1 → sa τ 0 p < V 0 0) {goal N j b : Nat} (hg : goal < V 0 0 ^ cnt people) (hb : b < V 0 0 ^ cnt people) (hr : rch V τ people N goal = true) (h : rch V τ people (N - j) b = false) : glC V τ people (phi (V 0 0) (cnt people) goal) N j (phi (V 0 0) (cnt people) b) = false := by
  cases j with
  | zero =>
    show decide (_ = _) = false
    refine decide_eq_false (fun q => ?_)
    have e := phi_inj h0 (wf_np hw) hb hg q
    rw [Nat.sub_zero, e, hr] at h; cases h
  | succ j => rw [glC_s, canC_phi hw hp h0 ho _ _ hb, h, Bool.false_and]
theorem gl_hm (hw : jWf V) (hp : people < 2 ^ V 0 1) (h0 : 0 < V 0 0) (ho : ∀ p, p < V 0 1 → sa τ 0 p < V 0 0) {goal N : Nat} (hg : goal < V 0 0 ^ cnt people) (hr : rch V τ people N goal = true) : ∀ j, j ≤ N → (∀ s, s < V 0 0 ^ cnt people → rch V τ people (N - j) s = true → glC V τ people (phi (V 0 0) (cnt people) goal) N j (phi (V 0 0) (cnt people) s) = hmJ V τ people goal N j s) ∧ (1 ≤ N - j → ∀ s b, s < V 0 0 ^ cnt people → b < V 0 0 ^ cnt people → rch V τ people (N - j - 1) s = true → linkS V people s b = true → glC V τ people (phi (V 0 0) (cnt people) goal) N j (phi (V 0 0) (cnt people) b) = hmJ V τ people goal N j b) := by
  have hgv : valB (V 0 0) (cnt people) (phi (V 0 0) (cnt people) goal) = true := valB_phi h0 (wf_np hw)
  have second : ∀ j, j ≤ N → (∀ s, s < V 0 0 ^ cnt people → rch V τ people (N - j) s = true → glC V τ people (phi (V 0 0) (cnt people) goal) N j (phi (V 0 0) (cnt people) s) = hmJ V τ people goal N j s) → (1 ≤ N - j → ∀ s b, s < V 0 0 ^ cnt people → b < V 0 0 ^ cnt people → rch V τ people (N - j - 1) s = true → linkS V people s b = true → glC V τ people (phi (V 0 0) (cnt people) goal) N j (phi (V 0 0) (cnt people) b) = hmJ V τ people goal N j b) := by
    intro j hj h1 hN s b hs hb hrs hl
    cases e : rch V τ people (N - j) b with
    | true => exact h1 b hb e
    | false =>
      rw [gl_no hw hp h0 ho hg hb hr e]
      refine (hmJ_law ?_).symm
      rw [show N - j = (N - j - 1) + 1 by omega, rch_s] at e
      have ha : anyB (V 0 0 ^ cnt people) (fun a => rch V τ people (N - j - 1) a && linkS V people a b) = true := anyB_iff.mpr ⟨s, hs, by rw [hrs, hl]; rfl⟩
      rw [ha, Bool.and_true] at e
      rw [show N - j = (N - j - 1) + 1 by omega, lawR_s]; exact e
  intro j
  induction j with
  | zero =>
    intro hj
    have h1 : ∀ s, s < V 0 0 ^ cnt people → rch V τ people (N - 0) s = true → glC V τ people (phi (V 0 0) (cnt people) goal) N 0 (phi (V 0 0) (cnt people) s) = hmJ V τ people goal N 0 s := by
      intro s hs q
      show decide (_ = _) = (decide (s = goal) && lawR V τ people N s)
      rw [rch_law (i := N) q, Bool.and_true, decide_eq_decide]
      exact ⟨fun z => phi_inj h0 (wf_np hw) hs hg z, fun z => by rw [z]⟩
    exact ⟨h1, second 0 hj h1⟩
  | succ j ih =>
    intro hj
    have i2 := (ih (by omega)).2 (by omega)
    rw [show N - j - 1 = N - (j + 1) by omega] at i2
    have h1 : ∀ s, s < V 0 0 ^ cnt people → rch V τ people (N - (j + 1)) s = true → glC V τ people (phi (V 0 0) (cnt people) goal) N (j + 1) (phi (V 0 0) (cnt people) s) = hmJ V τ people goal N (j + 1) s := by
      intro s hs q
      rw [glC_s, hmJ_s, rch_law q, Bool.and_true, canC_phi hw hp h0 ho _ _ hs, q, Bool.true_and, any_phi h0 (wf_np hw) (fun a ha z => by rw [Bool.and_eq_true] at z; exact stC_v z.1)]
      refine anyB_congr (fun b hb => ?_)
      rw [stC_phi hw h0]
      cases e : linkS V people s b with
      | false => rfl
      | true => rw [i2 s b hs hb q e]
    exact ⟨h1, second (j + 1) hj h1⟩
theorem pth_phi (hw : jWf V) (hp : people < 2 ^ V 0 1) (h0 : 0 < V 0 0) (ho : ∀ p, p < V 0 1 → sa τ 0 p < V 0 0) {goal N : Nat} (hg : goal < V 0 0 ^ cnt people) (hr : rch V τ people N goal = true) : ∀ i, i ≤ N → pthC V τ people (phi (V 0 0) (cnt people) goal) N i = phi (V 0 0) (cnt people) (pthS V τ people goal N i) := by
  have hnow : nowS V τ people < V 0 0 ^ cnt people := nowS_lt hw hp ho
  have hok := pth_ok hnow hg hr
  intro i
  induction i with
  | zero => exact fun _ => nowC_phi hw hp ho
  | succ i ih =>
    intro hi
    have e := ih (by omega)
    obtain ⟨o1, o2, o3⟩ := hok i (by omega)
    obtain ⟨p1, -, -⟩ := hok (i + 1) hi
    have i2 := (gl_hm hw hp h0 ho hg hr (N - (i + 1)) (by omega)).2 (by omega)
    rw [show N - (N - (i + 1)) - 1 = i by omega] at i2
    have hq : ∀ s, s < V 0 0 ^ cnt people → nxQ V τ people (phi (V 0 0) (cnt people) goal) N i (phi (V 0 0) (cnt people) (pthS V τ people goal N i)) (phi (V 0 0) (cnt people) s) = (linkS V people (pthS V τ people goal N i) s && hmJ V τ people goal N (N - (i + 1)) s) := by
      intro s hs
      unfold nxQ
      rw [stC_phi hw h0]
      cases q : linkS V people (pthS V τ people goal N i) s with
      | false => rfl
      | true => rw [i2 _ s o1 hs o3 q]
    have hf : fstN (V 0 0 ^ cnt people) (fun s => nxQ V τ people (phi (V 0 0) (cnt people) goal) N i (phi (V 0 0) (cnt people) (pthS V τ people goal N i)) (phi (V 0 0) (cnt people) s)) = pthS V τ people goal N (i + 1) := fst_cg hq
    have hv : ∀ a, a < 10 ^ cnt people → nxQ V τ people (phi (V 0 0) (cnt people) goal) N i (phi (V 0 0) (cnt people) (pthS V τ people goal N i)) a = true → valB (V 0 0) (cnt people) a = true := fun a ha z => by unfold nxQ at z; rw [Bool.and_eq_true] at z; exact stC_v z.1
    have := fst_phi h0 (wf_np hw) hv (by rw [hf]; exact p1)
    rw [hf] at this
    rw [pthC_s, e, this, if_pos (phi_lt h0 (wf_np hw))]
theorem all_phi (hw : jWf V) {place : Nat} (hpl : place < V 0 0) : allC people place = phi (V 0 0) (cnt people) (allS V people place) := by
  unfold allC phi allS
  exact codeN_cg (fun k hk => (dig_code (fun k hk => hpl) hk).symm)
end PLN
/-! a path is told from the last of the states -/
def selF (g : Nat → Bool) (s : Nat) (L : List Nat) : Nat := L.foldr (fun b a => if g b then b else a) s
theorem sel_drop {g : Nat → Bool} {s k : Nat} {L : List Nat} (h : k < L.length) : selF g s (L.drop k) = if g (L.getD k 0) then L.getD k 0 else selF g s (L.drop (k + 1)) := by
  rw [List.drop_eq_getElem_cons h, List.getD_eq_getElem?_getD, List.getElem?_eq_getElem h]; rfl
theorem sel_led {V : Vt} {people a : Nat} {g : Nat → Bool} : ∀ n s, selF g s (ledL V people a n) = if fstN n (fun b => stC V people a b && g b) < n then fstN n (fun b => stC V people a b && g b) else s := by
  intro n
  induction n with
  | zero => intro s; rfl
  | succ n ih =>
    intro s
    rw [ledL_s, fstN_s]
    by_cases h : stC V people a n = true
    · rw [if_pos h]
      unfold selF
      rw [List.foldr_append]
      have := ih (if g n then n else s)
      unfold selF at this
      rw [show List.foldr (fun b a => if g b = true then b else a) s [n] = (if g n then n else s) from rfl, this]
      by_cases e : fstN n (fun b => stC V people a b && g b) < n
      · rw [if_pos e, if_pos e, if_pos (by omega)]
      · rw [if_neg e, if_neg e, h, Bool.true_and]
        by_cases e2 : g n = true
        · rw [if_pos e2, if_pos e2, if_pos (by omega)]
        · rw [if_neg e2, if_neg e2, if_neg (by omega)]
    · rw [if_neg h, ih]
      have h2 : stC V people a n = false := by cases q : stC V people a n; rfl; exact absurd q h
      by_cases e : fstN n (fun b => stC V people a b && g b) < n
      · rw [if_pos e, if_pos e, if_pos (by omega)]
      · rw [if_neg e, if_neg e, h2, Bool.false_and, if_neg Bool.false_ne_true, if_neg (by omega)]
theorem led_any {V : Vt} {people a n : Nat} {g : Nat → Bool} : anyB (ledL V people a n).length (fun k => g ((ledL V people a n).getD k 0)) = anyB n (fun b => stC V people a b && g b) := by
  rw [Bool.eq_iff_iff, anyB_iff, anyB_iff]
  constructor
  · rintro ⟨k, k1, k2⟩
    obtain ⟨l1, l2⟩ := led_at k1
    exact ⟨_, l1, by rw [l2, k2]; rfl⟩
  · rintro ⟨b, b1, b2⟩
    rw [Bool.and_eq_true] at b2
    obtain ⟨k, k1, k2⟩ := List.mem_iff_getElem.mp (ledL_mem.mpr ⟨b1, b2.1⟩)
    refine ⟨k, k1, ?_⟩
    rw [List.getD_eq_getElem?_getD, List.getElem?_eq_getElem k1]
    show g _ = true
    rw [show (some ((ledL V people a n)[k])).getD 0 = b from k2]
    exact b2.2
