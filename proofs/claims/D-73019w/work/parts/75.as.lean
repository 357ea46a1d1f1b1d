/-! WHAT SUMS AND ASKINGS MEAN: den h d b a M: the cell at a (of the cells h) is a sum (b) or an asking, of depth below d, whose value by names is M -/
def clB (x : Int64) : Int64 := if (if x < 1000000 then x else 1000000) < -1000000 then -1000000 else (if x < 1000000 then x else 1000000)
def opB (o : Int32) (x y : Int64) : Int64 := if o = 43 then x + y else if o = 45 then x - y else if o = 42 then x * y else if y = 0 then 0 else x / y
def chB (o : Nat → Int32) (Y : Nat → Int64) (k : Nat) (x : Int64) : Int64 := itr (fun i z => clB (opB (o i) z (Y i))) k x
def abB (x : Int64) : Int64 := if 0 < x then x else -x
def gpB (x y : Int64) : Int64 := if abB (x - y) < 1000000 then abB (x - y) else 1000000
def hdB (v : Nat → Int32) (c : Int64) : Int64 := if c < 0 ∨ 8 ≤ c then 0 else (v (10 + c.toInt.toNat)).toInt64
def cmB (o : Int32) (d : Int64) : Bool := if o = 60 then decide (d < 0) else if o = 62 then decide (0 < d) else if o = 61 then decide (d = 0) else if o = 35 then decide (d ≠ 0) else if o = 303 then decide (d ≤ 0) else decide (0 ≤ d)
def coB (Y : Nat → Int64) (k : Nat) : Nat := itr (fun i z => z + if Y i = 1 then 1 else 0) k 0
def alB (and : Bool) (k n : Nat) : Bool := if and then decide (n = k) else decide (0 < n)
def i1 (P : Prop) [Decidable P] : Int64 := if P then 1 else 0
def isCm (o : Int32) : Prop := o = 60 ∨ o = 62 ∨ o = 61 ∨ o = 35 ∨ o = 303 ∨ o = 304
def isOp (o : Int32) : Prop := o = 43 ∨ o = 45 ∨ o = 42 ∨ o = 47
/-- a list of k in the cells h -/
def lsD (E : gk_E) (h : gk_H) (a k : Nat) (x : Nat → Option Nat) : Prop := ∃ (mo : Int32) (b n : Nat), h a = some (.inr (17, [.int mo, .ref b, .int (nI k)])) ∧ h b = some (.inl (E.2.1 6, n, .inr (.inr (.inr (.inr x))))) ∧ k ≤ n ∧ n < 100000
abbrev mnB : Type := (Nat → Int32) → Int64
/-- one step of den, over that of the parts -/
def den1 (E : gk_E) (ic : Nat → Nat) (h : gk_H) (D : Bool → Nat → mnB → Prop) : Bool → Nat → mnB → Prop
  | true, a, M =>
    (∃ n : Nat, n ≤ 9999 ∧ h a = some (.inr (8, [.int (nI n)])) ∧ M = fun _ => (nI n).toInt64) ∨
    (∃ k : Nat, k < 10 ∧ h a = some (.inr (11, [.int (nI k)])) ∧ M = fun v => (v k).toInt64) ∨
    (∃ (b : Nat) (N : mnB), h a = some (.inr (13, [.ref b])) ∧ D true b N ∧ M = fun v => - N v) ∨
    (∃ (b : Nat) (N : mnB), h a = some (.inr (12, [.ref b])) ∧ D true b N ∧ M = fun v => hdB v (N v)) ∨
    (∃ (b c : Nat) (N P : mnB), h a = some (.inr (10, [.ref b, .ref c])) ∧ D true b N ∧ D true c P ∧ M = fun v => gpB (N v) (P v)) ∨
    (∃ (q b c : Nat) (K N P : mnB), h a = some (.inr (9, [.ref q, .ref b, .ref c])) ∧ D false q K ∧ D true b N ∧ D true c P ∧ M = fun v => if K v = 1 then N v else P v) ∨
    (∃ (b o1 o2 k : Nat) (N : mnB) (o : Nat → Int32) (Y : Nat → mnB) (x : Nat → Option Nat) (w : Nat → Option Nat), h a = some (.inr (7, [.ref b, .ref o1, .ref o2])) ∧ D true b N ∧ lsD E h o1 k x ∧ lsD E h o2 k w ∧
      (∀ i, i < k → (∃ q, x i = some q ∧ D true q (Y i)) ∧ isOp (o i) ∧ w i = some (ic (ix (o i)))) ∧ M = fun v => chB o (fun i => Y i v) k (N v))
  | false, a, M =>
    (∃ (b : Nat) (N : mnB), h a = some (.inr (6, [.ref b])) ∧ D false b N ∧ M = fun v => i1 (N v ≠ 1)) ∨
    (∃ (b c : Nat) (o : Int32) (N P : mnB), h a = some (.inr (14, [.int o, .ref b, .ref c])) ∧ isCm o ∧ D true b N ∧ D true c P ∧ M = fun v => i1 (cmB o (N v - P v) = true)) ∨
    (∃ (and : Bool) (o1 k : Nat) (Y : Nat → mnB) (x : Nat → Option Nat), h a = some (.inr (15, [.int (bP (and = true)), .ref o1])) ∧ lsD E h o1 k x ∧ (∀ i, i < k → ∃ q, x i = some q ∧ D false q (Y i)) ∧ M = fun v => i1 (alB and k (coB (fun i => Y i v) k) = true))
def den (E : gk_E) (ic : Nat → Nat) (h : gk_H) : Nat → Bool → Nat → mnB → Prop
  | 0 => fun _ _ _ => False
  | d + 1 => den1 E ic h (den E ic h d)
theorem lsD.mono {E : gk_E} {h h' : gk_H} {a k : Nat} {x : Nat → Option Nat} (hh : ∀ q e, h q = some e → h' q = some e) (z : lsD E h a k x) : lsD E h' a k x := by
  obtain ⟨mo, b, n, h1, h2, h3⟩ := z
  exact ⟨mo, b, n, hh _ _ h1, hh _ _ h2, h3⟩
theorem den1.mono {E : gk_E} {ic : Nat → Nat} {h h' : gk_H} {D D' : Bool → Nat → mnB → Prop} (hh : ∀ q e, h q = some e → h' q = some e) (hD : ∀ b a M, D b a M → D' b a M) : ∀ {b : Bool} {a : Nat} {M : mnB}, den1 E ic h D b a M → den1 E ic h' D' b a M
  | true, a, M, z => by
    rcases z with ⟨n, h1, h2, h3⟩ | ⟨k, h1, h2, h3⟩ | ⟨b, N, h1, h2, h3⟩ | ⟨b, N, h1, h2, h3⟩ | ⟨b, c, N, P, h1, h2, h3, h4⟩ | ⟨q, b, c, K, N, P, h1, h2, h3, h4, h5⟩ | ⟨b, o1, o2, k, N, o, Y, x, w, h1, h2, h3, h4, h5, h6⟩
    · exact Or.inl ⟨n, h1, hh _ _ h2, h3⟩
    · exact Or.inr (Or.inl ⟨k, h1, hh _ _ h2, h3⟩)
    · exact Or.inr (Or.inr (Or.inl ⟨b, N, hh _ _ h1, hD _ _ _ h2, h3⟩))
    · exact Or.inr (Or.inr (Or.inr (Or.inl ⟨b, N, hh _ _ h1, hD _ _ _ h2, h3⟩)))
    · exact Or.inr (Or.inr (Or.inr (Or.inr (Or.inl ⟨b, c, N, P, hh _ _ h1, hD _ _ _ h2, hD _ _ _ h3, h4⟩))))
    · exact Or.inr (Or.inr (Or.inr (Or.inr (Or.inr (Or.inl ⟨q, b, c, K, N, P, hh _ _ h1, hD _ _ _ h2, hD _ _ _ h3, hD _ _ _ h4, h5⟩)))))
    · exact Or.inr (Or.inr (Or.inr (Or.inr (Or.inr (Or.inr ⟨b, o1, o2, k, N, o, Y, x, w, hh _ _ h1, hD _ _ _ h2, h3.mono hh, h4.mono hh, fun i hi => ⟨(h5 i hi).1.imp fun q hq => ⟨hq.1, hD _ _ _ hq.2⟩, (h5 i hi).2⟩, h6⟩)))))
  | false, a, M, z => by
    rcases z with ⟨b, N, h1, h2, h3⟩ | ⟨b, c, o, N, P, h1, h2, h3, h4, h5⟩ | ⟨and, o1, k, Y, x, h1, h2, h3, h4⟩
    · exact Or.inl ⟨b, N, hh _ _ h1, hD _ _ _ h2, h3⟩
    · exact Or.inr (Or.inl ⟨b, c, o, N, P, hh _ _ h1, h2, hD _ _ _ h3, hD _ _ _ h4, h5⟩)
    · exact Or.inr (Or.inr ⟨and, o1, k, Y, x, hh _ _ h1, h2.mono hh, fun i hi => (h3 i hi).imp fun q hq => ⟨hq.1, hD _ _ _ hq.2⟩, h4⟩)
theorem den.mono {E : gk_E} {ic : Nat → Nat} {h h' : gk_H} (hh : ∀ q e, h q = some e → h' q = some e) : ∀ {d : Nat} {b : Bool} {a : Nat} {M : mnB}, den E ic h d b a M → den E ic h' d b a M
  | 0, _, _, _, z => z
  | _ + 1, _, _, _, z => den1.mono hh (fun _ _ _ z => den.mono hh z) z
theorem den.up {E : gk_E} {ic : Nat → Nat} {h : gk_H} : ∀ {d : Nat} {b : Bool} {a : Nat} {M : mnB}, den E ic h d b a M → den E ic h (d + 1) b a M
  | 0, _, _, _, z => z.elim
  | _ + 1, _, _, _, z => den1.mono (fun _ _ z => z) (fun _ _ _ z => den.up z) z
theorem den.le {E : gk_E} {ic : Nat → Nat} {h : gk_H} {d d' : Nat} (hd : d ≤ d') {b : Bool} {a : Nat} {M : mnB} (z : den E ic h d b a M) : den E ic h d' b a M := by
  obtain ⟨k, rfl⟩ := Nat.le.dest hd
  clear hd
  induction k with
  | zero => exact z
  | succ k ih => exact den.up ih
