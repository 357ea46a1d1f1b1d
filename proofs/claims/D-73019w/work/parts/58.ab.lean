/-- the ring that one comes to from i: (the ring, the next) -/
def rcS (g : Nat → Nat) (j i : Nat) : Nat × Nat := itr (fun _ q => if q.1.testBit q.2 = true then q else (q.1 ||| 2 ^ q.2, g q.2)) j (0, i)
def itg (g : Nat → Nat) (j i : Nat) : Nat := itr (fun _ p => g p) j i
def rgC (g : Nat → Nat) (i : Nat) : Nat := (rcS g 5 (itg g 5 i)).1
/-- the model's: (the set, the next, whether it's round) -/
def rmS (g : Nat → Nat) (i j : Nat) : Nat × Nat × Bool := itr (fun _ q => if q.2.2 = true then q else (q.1 ||| 2 ^ q.2.1, g q.2.1, Nat.beq (g q.2.1) i)) j (0, i, false)
def rgM (g : Nat → Nat) (n i : Nat) : Nat := if (rmS g i n).2.2 = true then (rmS g i n).1 else 0
def trC (g : Nat → Nat) (L n : Nat) : Nat × Nat := itr (fun i q => if (L &&& (31 ^^^ q.1)).testBit i = true then (if rgC g i &&& q.1 = 0 then (q.1 ||| rgC g i, q.2 + 1) else q) else q) n (0, 0)
def trM (g : Nat → Nat) (L nf n : Nat) : Nat × Nat := itr (fun i q => if L.testBit i = true ∧ q.1.testBit i = false then (if rgM g nf i = 0 then q else (q.1 ||| rgM g nf i, q.2 + 1)) else q) n (0, 0)
def gOf (G : Nat) (p : Nat) : Nat := G / 8 ^ p % 8
def allG (L : Nat) (P : Nat → Bool) : Nat → Nat → Bool
  | 0, a => P a
  | k + 1, a => if L.testBit k = true then (List.range 5).all (fun v => !L.testBit v || allG L P k (a * 8 + v)) else allG L P k (a * 8)
def trK (nf L G : Nat) : Bool := let c := trC (gOf G) L nf; let m := trM (gOf G) L nf nf; Nat.beq c.1 m.1 && Nat.beq c.2 m.2 && Nat.beq (c.1 &&& L) c.1 && (Nat.beq L 0 || !Nat.beq c.1 0)
theorem tr_3 : (List.range 4).all (fun nf => (List.range (2 ^ nf)).all (fun L => allG L (trK nf L) 5 0)) = true := by decide +kernel
theorem tr_4 : (List.range 16).all (fun L => allG L (trK 4 L) 5 0) = true := by decide +kernel
theorem tr_5 : (List.range 32).all (fun L => allG L (trK 5 L) 5 0) = true := by decide +kernel
