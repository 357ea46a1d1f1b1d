/-- the component's argument of one farmer in spring, on a row -/
def rfC (n : Nat) (f : Nat → Int32) (v i : Nat) (R : Nat → Int32) : (Nat → Int32) × Bool :=
  if n = 0 then (R, false)
  else if hs (R 2) (nI (v % n)) then (upd R 1 (nI (dwN v)), false)
  else if R (3 + v % n) = 0 ∧ wo n f ((R 2 &&& alC n) ||| one (nI (v % n))) ≠ 0 then (upd (upd R 1 (nI (dwN v))) 2 (R 2 ||| one (nI (v % n))), false)
  else (upd (if R (3 + v % n) = 0 then upd (upd R 1 (nI (dwN v))) (3 + v % n) (R 0 + 3) else upd R 1 (nI (dwN v))) (16 + i) (if R (16 + i) + 1 < 9999 then R (16 + i) + 1 else 9999), true)
theorem rfC_0 {n : Nat} {f : Nat → Int32} {v i : Nat} {R : Nat → Int32} (h : n = 0) : rfC n f v i R = (R, false) := if_pos h
theorem rfC_1 {n : Nat} {f : Nat → Int32} {v i : Nat} {R : Nat → Int32} (h : ¬ n = 0) (h1 : hs (R 2) (nI (v % n))) : rfC n f v i R = (upd R 1 (nI (dwN v)), false) := (if_neg h).trans (if_pos h1)
theorem rfC_2 {n : Nat} {f : Nat → Int32} {v i : Nat} {R : Nat → Int32} (h : ¬ n = 0) (h1 : ¬ hs (R 2) (nI (v % n))) (h2 : R (3 + v % n) = 0 ∧ wo n f ((R 2 &&& alC n) ||| one (nI (v % n))) ≠ 0) : rfC n f v i R = (upd (upd R 1 (nI (dwN v))) 2 (R 2 ||| one (nI (v % n))), false) := ((if_neg h).trans (if_neg h1)).trans (if_pos h2)
theorem rfC_3 {n : Nat} {f : Nat → Int32} {v i : Nat} {R : Nat → Int32} (h : ¬ n = 0) (h1 : ¬ hs (R 2) (nI (v % n))) (h2 : ¬ (R (3 + v % n) = 0 ∧ wo n f ((R 2 &&& alC n) ||| one (nI (v % n))) ≠ 0)) : rfC n f v i R = (upd (if R (3 + v % n) = 0 then upd (upd R 1 (nI (dwN v))) (3 + v % n) (R 0 + 3) else upd R 1 (nI (dwN v))) (16 + i) (if R (16 + i) + 1 < 9999 then R (16 + i) + 1 else 9999), true) := ((if_neg h).trans (if_neg h1)).trans (if_neg h2)
