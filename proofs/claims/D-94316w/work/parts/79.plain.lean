/-! ===== a valley is read: the plain law ===== -/
abbrev Fl : Type := Nat × Nat
def kwc (i : Nat) : Nat := txc (fun j => (jtxt.getD i []).getD j 0) (jtxt.getD i []).length
def vS (V : Vt) (i k x : Nat) : Vt := fun j m => if j = i ∧ m = k then x else V j m
theorem vS_eq (V : Vt) (i k x : Nat) : vS V i k x i k = x := if_pos ⟨rfl, rfl⟩
theorem vS_ne {V : Vt} {i k x j m : Nat} (h : ¬ (j = i ∧ m = k)) : vS V i k x j m = V j m := if_neg h
def resB (w : Nat) : Bool := anyB 12 (fun i => decide (w = kwc (i + 1)))
/-- the first name like w -/
def nmF (V : Vt) (w : Nat) : Nat := fstN (V 0 13) (fun k => decide (V 25 k = w))
def vName (V : Vt) (w s num : Nat) : Vt := vS (vS (vS (vS V 25 (V 0 13) w) 26 (V 0 13) s) 27 (V 0 13) num) 0 13 (V 0 13 + 1)
section PL
variable (c : Nat → Int32) (n : Nat)
def pMust (w p : Nat) : Except Fl Nat := if tkK c n p = 2 ∧ tkV c n p = w then .ok (tkE c n p) else .error (1, tkA c n p)
def pNum (lo hi : Int32) (p : Nat) : Except Fl (Nat × Nat) := if tkK c n p = 3 then (if inb (nI (tkV c n p)) lo hi = true then .ok (tkV c n p, tkE c n p) else .error (4, tkA c n p)) else .error (1, tkA c n p)
def pAfter (w : Nat) (lo hi : Int32) (p : Nat) : Except Fl (Nat × Nat) := (pMust c n w p).bind (pNum c n lo hi)
def pSign (s p : Nat) : Except Fl Nat := if tkK c n p = s then .ok (tkE c n p) else .error (1, tkA c n p)
def pBegin (b : Bool) (f p : Nat) : Except Fl Nat := if b = true then .ok (tkE c n p) else .error (f, tkA c n p)
def pName (p : Nat) : Except Fl Nat := if tkK c n p = 2 ∧ resB (tkV c n p) = false then .ok (tkV c n p) else .error (1, tkA c n p)
def pFresh (V : Vt) (p : Nat) : Except Fl (Nat × Nat) := (pName c n p).bind (fun w => if nmF V w < V 0 13 then .error (3, tkA c n p) else .ok (w, tkE c n p))
def pKnown (s : Nat) (V : Vt) (p : Nat) : Except Fl Nat := (pName c n p).bind (fun w => if nmF V w < V 0 13 ∧ V 26 (nmF V w) = s then .ok (V 27 (nmF V w)) else .error (2, tkA c n p))
def pKnownN (s : Nat) (V : Vt) (p : Nat) : Except Fl (Nat × Nat) := (pKnown c n s V p).bind (fun a => .ok (a, tkE c n p))
/-- the second of two -/
def pTwo (s i j : Nat) (V : Vt) (many p : Nat) : Except Fl (Nat × Nat × Nat) := (pKnownN c n s V p).bind (fun a => (pSign c n 44 a.2).bind (fun p2 => (pKnown c n s V p2).bind (fun b => if (decide (b = a.1) || anyB many (fun k => (decide (V i k = a.1) && decide (V j k = b)) || (decide (V i k = b) && decide (V j k = a.1)))) = true then .error (3, tkA c n p2) else .ok (a.1, b, tkE c n p2))))
/-- a place that isn't one of a row -/
def pOther (i : Nat) (V : Vt) (many p : Nat) : Except Fl (Nat × Nat) := (pKnown c n 0 V p).bind (fun a => if anyB many (fun k => decide (V i k = a)) = true then .error (3, tkA c n p) else .ok (a, tkE c n p))
def lLaw (V : Vt) (p : Nat) : Except Fl (Vt × Nat) :=
  (pBegin c n (decide (V 0 12 = 0)) 3 p).bind (fun p1 => (pAfter c n (kwc 13) (nI 0) (nI 19) p1).bind (fun a => (pAfter c n (kwc 14) (nI 0) (nI 19) a.2).bind (fun b => (pAfter c n (kwc 15) (nI 0) (nI 99) b.2).bind (fun f => (pAfter c n (kwc 16) (nI f.1) (nI 99) f.2).bind (fun t => (pAfter c n (kwc 17) (nI 1) (nI 99) t.2).bind (fun s =>
    .ok (vS (vS (vS (vS (vS V 0 8 a.1) 0 9 b.1) 0 10 f.1) 0 11 t.1) 0 12 s.1, s.2)))))))
def vPlace (V : Vt) (w x y : Nat) : Vt := vS (vS (vS (vS (vS (vName V w 0 (V 0 0)) 1 (V 0 0) x) 2 (V 0 0) y) 3 (V 0 0) 0) 23 (V 0 0) w) 0 0 (V 0 0 + 1)
def lPlace (V : Vt) (p : Nat) : Except Fl (Vt × Nat) :=
  (pBegin c n (decide (V 0 0 < 10)) 5 p).bind (fun p1 => (pFresh c n V p1).bind (fun w => (pAfter c n (kwc 18) (nI 0) (nI 19) w.2).bind (fun x => (pSign c n 44 x.2).bind (fun p4 => (pNum c n (nI 0) (nI 19) p4).bind (fun y =>
    .ok (vPlace V w.1 x.1 y.1, y.2))))))
def vWall (V : Vt) (a b : Nat) : Vt := vS (vS (vS V 4 (V 0 3) a) 5 (V 0 3) b) 0 3 (V 0 3 + 1)
def lWall (V : Vt) (p : Nat) : Except Fl (Vt × Nat) :=
  (pBegin c n (decide (V 0 3 < 10)) 5 p).bind (fun p1 => (pTwo c n 0 4 5 V (V 0 3) p1).bind (fun t => .ok (vWall V t.1 t.2.1, t.2.2)))
def vWay (V : Vt) (a b : Nat) : Vt := vS (vS (vS (vS (vS V 21 (V 0 4) a) 22 (V 0 4) b) 3 a (V 3 a ||| 2 ^ b)) 3 b (V 3 b ||| 2 ^ a)) 0 4 (V 0 4 + 1)
def lWay (V : Vt) (p : Nat) : Except Fl (Vt × Nat) :=
  (pBegin c n (decide (V 0 4 < 16)) 5 p).bind (fun p1 => (pTwo c n 0 21 22 V (V 0 4) p1).bind (fun t => .ok (vWay V t.1 t.2.1, t.2.2)))
def vMirror (V : Vt) (a : Nat) : Vt := vS (vS V 6 (V 0 5) a) 0 5 (V 0 5 + 1)
def lMirror (V : Vt) (p : Nat) : Except Fl (Vt × Nat) :=
  (pBegin c n (decide (V 0 5 < 4)) 5 p).bind (fun p1 => (pOther c n 6 V (V 0 5) p1).bind (fun t => .ok (vMirror V t.1, t.2)))
/-- a word that may stand there -/
def pTakes (w p : Nat) : Bool × Nat := if tkK c n p = 2 ∧ tkV c n p = w then (true, tkE c n p) else (false, p)
def pOpt (w : Nat) (f : Nat → Except Fl (Nat × Nat)) (p : Nat) : Except Fl (Nat × Nat) := if (pTakes c n w p).1 = true then f (pTakes c n w p).2 else .ok (0, p)
/-- sleep: from and to -/
def pSleep (p : Nat) : Except Fl (Nat × Nat × Nat) := if (pTakes c n (kwc 9) p).1 = true then (pNum c n (nI 0) (nI 99) (pTakes c n (kwc 9) p).2).bind (fun f => (pAfter c n (kwc 16) (nI (f.1 + 1)) (nI 99) f.2).bind (fun t => .ok (f.1, t.1, t.2))) else .ok (0, 0, p)
def vPerson (V : Vt) (w at' baby away from' to' : Nat) : Vt := vS (vS (vS (vS (vS (vS (vS (vName V w 1 (V 0 1)) 11 (V 0 1) at') 12 (V 0 1) baby) 13 (V 0 1) away) 14 (V 0 1) from') 15 (V 0 1) to') 24 (V 0 1) w) 0 1 (V 0 1 + 1)
def lPerson (V : Vt) (p : Nat) : Except Fl (Vt × Nat) :=
  (pBegin c n (decide (V 0 1 < 5)) 5 p).bind (fun p1 => (pFresh c n V p1).bind (fun w => (pMust c n (kwc 18) w.2).bind (fun p3 => (pKnownN c n 0 V p3).bind (fun a => (pOpt c n (kwc 8) (pNum c n (nI 2) (nI 9)) (pTakes c n (kwc 7) a.2).2).bind (fun aw => (pSleep c n aw.2).bind (fun sl =>
    .ok (vPerson V w.1 a.1 (pTakes c n (kwc 7) a.2).1.toNat aw.1 sl.1 sl.2.1, sl.2.2)))))))
def vPair (V : Vt) (a b : Nat) : Vt := vS (vS (vS V 7 (V 0 6) a) 8 (V 0 6) b) 0 6 (V 0 6 + 1)
def lPair (V : Vt) (p : Nat) : Except Fl (Vt × Nat) :=
  (pBegin c n (decide (V 0 6 < 3)) 5 p).bind (fun p1 => (pTwo c n 1 7 8 V (V 0 6) p1).bind (fun t => .ok (vPair V t.1 t.2.1, t.2.2)))
def vErrand (V : Vt) (who wh f t k : Nat) : Vt := vS (vS (vS (vS (vS (vS V 16 (V 0 2) who) 17 (V 0 2) wh) 18 (V 0 2) f) 19 (V 0 2) t) 20 (V 0 2) k) 0 2 (V 0 2 + 1)
def lErrand (V : Vt) (p : Nat) : Except Fl (Vt × Nat) :=
  (pBegin c n (decide (V 0 2 < 5)) 5 p).bind (fun p1 => (pKnownN c n 1 V p1).bind (fun q => (pMust c n (kwc 18) q.2).bind (fun p3 => (pKnownN c n 0 V p3).bind (fun a => (pAfter c n (kwc 15) (nI 0) (nI 99) a.2).bind (fun f => (pAfter c n (kwc 16) (nI (f.1 + 1)) (nI 99) f.2).bind (fun t => (pAfter c n (kwc 19) (nI 1) (nI t.1 - nI f.1) t.2).bind (fun k =>
    .ok (vErrand V q.1 a.1 f.1 t.1 k.1, k.2))))))))
def vFog (V : Vt) (a ch : Nat) : Vt := vS (vS (vS V 9 (V 0 7) a) 10 (V 0 7) ch) 0 7 (V 0 7 + 1)
def lFog (V : Vt) (p : Nat) : Except Fl (Vt × Nat) :=
  (pBegin c n (decide (V 0 7 < 4)) 5 p).bind (fun p1 => (pOther c n 9 V (V 0 7) p1).bind (fun a => (pAfter c n (kwc 20) (nI 1) (nI 99) a.2).bind (fun ch => .ok (vFog V a.1 ch.1, ch.2))))
def lLine (V : Vt) (p : Nat) : Except Fl (Vt × Nat) :=
  if tkK c n p = 2 ∧ tkV c n p = kwc 1 then lLaw c n V p else if tkK c n p = 2 ∧ tkV c n p = kwc 2 then lPlace c n V p else if tkK c n p = 2 ∧ tkV c n p = kwc 3 then lWall c n V p else if tkK c n p = 2 ∧ tkV c n p = kwc 4 then lWay c n V p else if tkK c n p = 2 ∧ tkV c n p = kwc 5 then lMirror c n V p else if tkK c n p = 2 ∧ tkV c n p = kwc 6 then lPerson c n V p else if tkK c n p = 2 ∧ tkV c n p = kwc 10 then lPair c n V p else if tkK c n p = 2 ∧ tkV c n p = kwc 11 then lErrand c n V p else if tkK c n p = 2 ∧ tkV c n p = kwc 12 then lFog c n V p else .error (1, tkA c n p)
def rdN : Nat → Vt → Nat → Except Fl (Vt × Nat)
  | 0, _, _ => .error (0, 0)
  | k + 1, V, p => (lLine c n V p).bind (fun r => if tkK c n r.2 = 59 then rdN k r.1 (tkE c n r.2) else .ok r)
def rdE (r : Vt × Nat) : Except Fl Vt := if tkK c n r.2 = 0 then (if r.1 0 12 = 0 ∨ r.1 0 0 = 0 ∨ r.1 0 1 = 0 then .error (6, tkA c n r.2) else .ok r.1) else .error (1, tkA c n r.2)
def rdV : Except Fl Vt := (rdN c n (n + 1) (fun _ _ => 0) 0).bind (rdE c n)
end PL
