/-! ===== m: looking for somebody ===== -/
def lqK (V : Vt) (people t c n : Nat) : Nat := match n with
  | 0 => 0
  | n + 1 => lqK V people t c n ||| (if eyesB V (mvP people n) t then seesS V (rangeV V t) 0 0 (dig 10 (cnt people) c n) else 0)
theorem lqK_s (V : Vt) (people t c n : Nat) : lqK V people t c (n + 1) = lqK V people t c n ||| (if eyesB V (mvP people n) t then seesS V (rangeV V t) 0 0 (dig 10 (cnt people) c n) else 0) := rfl
def lqS (V : Vt) (people t c : Nat) : Nat := lqK V people t c (cnt people)
theorem lqK_lt {V : Vt} (hw : jWf V) (people t c n : Nat) : lqK V people t c n < 1024 := by
  induction n with
  | zero => show (0 : Nat) < 1024; decide
  | succ n ih =>
    rw [lqK_s]; split
    · exact or1024 ih (sees_lt hw _ _ _ _)
    · exact or1024 ih (by decide)
theorem lqK_phi {V : Vt} {people : Nat} (hw : jWf V) (h0 : 0 < V 0 0) (t s : Nat) : ∀ n, n ≤ cnt people → lqK V people t (phi (V 0 0) (cnt people) s) n = lkK V people t s n := by
  intro n
  induction n with
  | zero => exact fun _ => rfl
  | succ n ih =>
    intro hn
    rw [lqK_s, lkK_s, ih (by omega), dig_phi h0 (wf_np hw) (by omega)]
theorem lqS_phi {V : Vt} {people : Nat} (hw : jWf V) (h0 : 0 < V 0 0) (t s : Nat) : lqS V people t (phi (V 0 0) (cnt people) s) = lkS V people t s := lqK_phi hw h0 t s _ (Nat.le_refl _)
section FQ
variable (V : Vt) (σ : Sg) (people places t : Nat) (L : Nat → Nat → Bool)
def moreC (b : Nat) : Nat := lqS V people t b &&& places
def oneC (a b set' : Nat) : Bool := lawC V σ people t b && hitB L (moreC V people places t b) a (places + 1) set'
def furC (n b set' : Nat) : Bool := anyB n (fun a => valB (V 0 0) (cnt people) a && (stC V people a b && oneC V σ people places t L a b set'))
def furI (a idx b set' : Nat) : Bool := furC V σ people places t L a b set' || (memN (ledL V people a (10 ^ cnt people)) idx b && oneC V σ people places t L a b set')
def furJ (a idx b0 k b set' : Nat) : Bool := furI V σ people places t L a idx b set' || (decide (b = b0) && hitB L (moreC V people places t b0) a k set')
end FQ
def lkQ (V : Vt) (σ : Sg) (people places : Nat) (i c set : Nat) : Bool := match i with
  | 0 => decide (c = nowC σ people) && decide (set = lqS V people (sn σ 0) (nowC σ people) &&& places)
  | i + 1 => furC V σ people places (sn σ 0 + (i + 1)) (lkQ V σ people places i) (10 ^ cnt people) c set
theorem lkQ_s (V : Vt) (σ : Sg) (people places i : Nat) : lkQ V σ people places (i + 1) = furC V σ people places (sn σ 0 + (i + 1)) (lkQ V σ people places i) (10 ^ cnt people) := rfl
theorem furC_s (V : Vt) (σ : Sg) (people places t : Nat) (L : Nat → Nat → Bool) (n b set' : Nat) : furC V σ people places t L (n + 1) b set' = (furC V σ people places t L n b set' || (valB (V 0 0) (cnt people) n && (stC V people n b && oneC V σ people places t L n b set'))) := rfl
/-- what is seen lies within what is looked for -/
theorem lkR_sub {V : Vt} {σ : Sg} {people places : Nat} : ∀ i s set, lkR V σ people places i s set = true → set &&& places = set := by
  intro i
  induction i with
  | zero =>
    intro s set h
    have h2 : (decide (s = nowS V σ people) && decide (set = lkS V people (sn σ 0) (nowS V σ people) &&& places)) = true := h
    rw [Bool.and_eq_true, decide_eq_true_eq, decide_eq_true_eq] at h2
    rw [h2.2, Nat.and_assoc, Nat.and_self]
  | succ i ih =>
    intro s set h
    rw [lkR_s] at h
    unfold furS at h
    rw [Bool.and_eq_true, anyB_iff] at h
    obtain ⟨a, a1, a2⟩ := h.2
    rw [Bool.and_eq_true] at a2
    obtain ⟨k, k1, k2⟩ := anyB_iff.mp a2.2
    rw [Bool.and_eq_true, decide_eq_true_eq] at k2
    have e := ih a k k2.1
    rw [← k2.2]
    unfold moreS
    rw [Nat.and_or_distrib_right, e, Nat.and_assoc, Nat.and_self]
section PLQ
variable {V : Vt} {τ : Sg} {people places : Nat}
theorem hit_cg {L1 L2 : Nat → Nat → Bool} {mb a b n set' : Nat} (h : ∀ k, k < n → L1 a k = L2 b k) : hitB L1 mb a n set' = hitB L2 mb b n set' := by
  unfold hitB; exact anyB_congr (fun k hk => by rw [h k hk])
theorem hit_end {L : Nat → Nat → Bool} {mb a set' : Nat} (hpl : places < 1024) (h : ∀ k, L a k = true → k &&& places = k) : hitB L mb a (places + 1) set' = hitB L mb a 1024 set' := by
  unfold hitB
  rw [Bool.eq_iff_iff, anyB_iff, anyB_iff]
  constructor
  · rintro ⟨k, k1, k2⟩; exact ⟨k, by omega, k2⟩
  · rintro ⟨k, k1, k2⟩
    have k3 := k2
    rw [Bool.and_eq_true] at k3
    have e := h k k3.1
    have := Nat.and_le_right (n := k) (m := places)
    rw [e] at this
    exact ⟨k, by omega, k2⟩
theorem lkQ_v (hw : jWf V) (hp : people < 2 ^ V 0 1) (ho : ∀ p, p < V 0 1 → sa τ 0 p < V 0 0) {i c set : Nat} (h : lkQ V τ people places i c set = true) : valB (V 0 0) (cnt people) c = true := by
  cases i with
  | zero =>
    have h2 : (decide (c = nowC τ people) && decide (set = lqS V people (sn τ 0) (nowC τ people) &&& places)) = true := h
    rw [Bool.and_eq_true] at h2
    exact canC_v (i := 0) hw hp ho h2.1
  | succ i =>
    rw [lkQ_s] at h
    unfold furC at h
    obtain ⟨a, a1, a2⟩ := anyB_iff.mp h
    rw [Bool.and_eq_true, Bool.and_eq_true] at a2
    exact stC_v a2.2.1
theorem lkQ_phi (hw : jWf V) (hp : people < 2 ^ V 0 1) (h0 : 0 < V 0 0) (ho : ∀ p, p < V 0 1 → sa τ 0 p < V 0 0) (hpl : places < 1024) : ∀ i s set, s < V 0 0 ^ cnt people → lkQ V τ people places i (phi (V 0 0) (cnt people) s) set = lkR V τ people places i s set := by
  have hnow : nowS V τ people < V 0 0 ^ cnt people := nowS_lt hw hp ho
  intro i
  induction i with
  | zero =>
    intro s set hs
    show (decide (_ = _) && decide (_ = _)) = (decide (_ = _) && decide (_ = _))
    rw [nowC_phi hw hp ho, lqS_phi hw h0]
    congr 1
    rw [decide_eq_decide]
    exact ⟨fun q => phi_inj h0 (wf_np hw) hs hnow q, fun q => by rw [q]⟩
  | succ i ih =>
    intro s set hs
    rw [lkQ_s, lkR_s]
    unfold furC furS
    rw [any_phi h0 (wf_np hw) (fun a ha q => by rw [Bool.and_eq_true] at q; exact q.1)]
    have e1 : ∀ a, a < V 0 0 ^ cnt people → (valB (V 0 0) (cnt people) (phi (V 0 0) (cnt people) a) && (stC V people (phi (V 0 0) (cnt people) a) (phi (V 0 0) (cnt people) s) && oneC V τ people places (sn τ 0 + (i + 1)) (lkQ V τ people places i) (phi (V 0 0) (cnt people) a) (phi (V 0 0) (cnt people) s) set)) = (lawS V τ people (sn τ 0 + (i + 1)) s && (linkS V people a s && hitB (lkR V τ people places i) (moreS V people places (sn τ 0 + (i + 1)) s) a 1024 set)) := by
      intro a ha
      unfold oneC moreC moreS
      rw [valB_phi h0 (wf_np hw), Bool.true_and, stC_phi hw h0, lawC_phi hw hp h0, lqS_phi hw h0, hit_cg (fun k hk => ih a k ha), hit_end hpl (fun k q => lkR_sub i a k q)]
      cases linkS V people a s <;> cases lawS V τ people (sn τ 0 + (i + 1)) s <;> rfl
    rw [anyB_congr e1]
    cases lawS V τ people (sn τ 0 + (i + 1)) s with
    | true => rw [Bool.true_and]; exact anyB_congr (fun a ha => Bool.true_and _)
    | false =>
      rw [Bool.false_and]
      cases e : anyB (V 0 0 ^ cnt people) (fun a => false && (linkS V people a s && hitB (lkR V τ people places i) (moreS V people places (sn τ 0 + (i + 1)) s) a 1024 set)) with
      | false => rfl
      | true =>
        obtain ⟨a, a1, a2⟩ := anyB_iff.mp e
        cases a2
theorem found_q (hw : jWf V) (hp : people < 2 ^ V 0 1) (h0 : 0 < V 0 0) (ho : ∀ p, p < V 0 1 → sa τ 0 p < V 0 0) (hpl : places < 1024) (i : Nat) : anyB (10 ^ cnt people) (fun c => lkQ V τ people places i c places) = findAt V τ people places i := by
  rw [any_phi h0 (wf_np hw) (fun a ha q => lkQ_v hw hp ho q)]
  exact anyB_congr (fun s hs => lkQ_phi hw hp h0 ho hpl i s places hs)
end PLQ
theorem jLk.set {M : Mm} {a N b0 k0 : Nat} {R Q : Nat → Nat → Bool} {v : Int32} (h : jLk M a N R) (hk : k0 < 1024) (hv : v = jb (Q b0 k0)) (e : ∀ b k, b < N → k < 1024 → ¬ (b = b0 ∧ k = k0) → R b k = Q b k) : jLk (js_A M a (1024 * b0 + k0) v) a N Q := by
  intro b k hb hk2
  by_cases q : b = b0 ∧ k = k0
  · obtain ⟨e1, e2⟩ := q
    subst e1; subst e2
    rw [jA_same, hv]
  · rw [jA_oth (by omega), ← e b k hb hk2 q]; exact h b k hb hk2
theorem jLk.cg {M : Mm} {a N : Nat} {R Q : Nat → Nat → Bool} (h : jLk M a N R) (e : ∀ b k, b < N → k < 1024 → R b k = Q b k) : jLk M a N Q := fun b k hb hk => by rw [← e b k hb hk]; exact h b k hb hk
def lqE (a : Nat) : Prop := a = 93 ∨ a = 99 ∨ a = 101 ∨ a = 102
theorem lqE_k {a : Nat} (h : lqE a) : mkE a := by unfold lqE at h; unfold mkE; omega
section FJ
variable {V : Vt} {σ : Sg} {people places t a idx b0 k b set' : Nat} {L : Nat → Nat → Bool}
theorem furJ_0 : furJ V σ people places t L a idx b0 0 b set' = furI V σ people places t L a idx b set' := by
  unfold furJ; rw [show hitB L (moreC V people places t b0) a 0 set' = false from rfl, Bool.and_false, Bool.or_false]
theorem furI_0 : furI V σ people places t L a 0 b set' = furC V σ people places t L a b set' := by
  unfold furI; rw [show memN (ledL V people a (10 ^ cnt people)) 0 b = false from rfl, Bool.false_and, Bool.or_false]
theorem furI_end (hb : b < 10 ^ cnt people) (hv : valB (V 0 0) (cnt people) a = true) : furI V σ people places t L a (ledL V people a (10 ^ cnt people)).length b set' = furC V σ people places t L (a + 1) b set' := by
  unfold furI; rw [led_all hb, furC_s, hv, Bool.true_and]
theorem furC_no (hv : valB (V 0 0) (cnt people) a = false) : furC V σ people places t L (a + 1) b set' = furC V σ people places t L a b set' := by
  rw [furC_s, hv, Bool.false_and, Bool.or_false]
theorem memN_s (K : List Nat) (n j : Nat) : memN K (n + 1) j = (memN K n j || decide (K.getD n 0 = j)) := rfl
theorem furI_law (hl : lawC V σ people t ((ledL V people a (10 ^ cnt people)).getD idx 0) = false) : furI V σ people places t L a (idx + 1) b set' = furI V σ people places t L a idx b set' := by
  unfold furI
  rw [memN_s]
  by_cases e : (ledL V people a (10 ^ cnt people)).getD idx 0 = b
  · rw [e] at hl
    unfold oneC; rw [hl, Bool.false_and, Bool.and_false, Bool.and_false]
  · rw [decide_eq_false e, Bool.or_false]
theorem furJ_end (hl : lawC V σ people t ((ledL V people a (10 ^ cnt people)).getD idx 0) = true) : furJ V σ people places t L a idx ((ledL V people a (10 ^ cnt people)).getD idx 0) (places + 1) b set' = furI V σ people places t L a (idx + 1) b set' := by
  unfold furJ furI
  rw [memN_s]
  by_cases e : (ledL V people a (10 ^ cnt people)).getD idx 0 = b
  · rw [e] at hl ⊢
    unfold oneC
    rw [hl, decide_eq_true rfl, Bool.true_and, Bool.or_true, Bool.true_and]
    cases furC V σ people places t L a b set' <;> cases memN (ledL V people a (10 ^ cnt people)) idx b <;> cases hitB L (moreC V people places t b) a (places + 1) set' <;> rfl
  · rw [decide_eq_false (fun q => e q.symm), Bool.false_and, Bool.or_false, decide_eq_false e, Bool.or_false]
theorem furJ_f (hl : L a k = false) : furJ V σ people places t L a idx b0 (k + 1) b set' = furJ V σ people places t L a idx b0 k b set' := by
  unfold furJ; rw [hitB_s, hl, Bool.false_and, Bool.or_false]
end FJ
