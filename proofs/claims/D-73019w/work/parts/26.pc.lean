/-! HOW MANY BITS: the JDK's way, the model's way -/
set_option maxRecDepth 100000
def us (x y : Int32) : Int32 := (x.toUInt32 >>> (y.toUInt32 &&& Int32.toUInt32 31)).toInt32
def bcI (x : Int32) : Int32 :=
  let a := x - (us x 1 &&& 1431655765)
  let b := (a &&& 858993459) + (us a 2 &&& 858993459)
  let c := (b + us b 4) &&& 252645135
  let d := c + us c 8
  let e := d + us d 16
  e &&& 63
def bcN (x : Nat) : Nat :=
  let a := x - (x / 2 &&& 1431655765)
  let b := (a &&& 858993459) + (a / 4 &&& 858993459)
  let c := (b + b / 16) &&& 252645135
  let d := c + c / 256
  let e := d + d / 65536
  e &&& 63
theorem us_N {n : Nat} (hn : n < 2 ^ 32) (y : Int32) (k q : Nat) (hs : ((y.toUInt32 &&& Int32.toUInt32 31).toBitVec % 32).toNat = k) (hq : 2 ^ k = q) : us (nI n) y = nI (n / q) := by
  unfold us
  rw [pk_ushrN hn y k hs, hq]
theorem bcI_N {w : Nat} (h : w < 65536) : bcI (nI w) = nI (bcN w) := by
  have e1 : nI w - (us (nI w) 1 &&& 1431655765) = nI (w - (w / 2 &&& 1431655765)) := by
    rw [us_N (by omega) 1 1 2 (by decide) rfl]
    show nI w - (nI (w / 2) &&& nI 1431655765) = _
    rw [nx_and, pk_sub (Nat.le_trans Nat.and_le_left (by omega))]
  have h1 : w - (w / 2 &&& 1431655765) < 65536 := by omega
  unfold bcI bcN
  simp only [e1]
  generalize w - (w / 2 &&& 1431655765) = a at h1 ⊢
  have e2 : (nI a &&& 858993459) + (us (nI a) 2 &&& 858993459) = nI ((a &&& 858993459) + (a / 4 &&& 858993459)) := by
    rw [us_N (by omega) 2 2 4 (by decide) rfl]
    show (nI a &&& nI 858993459) + (nI (a / 4) &&& nI 858993459) = _
    rw [nx_and, nx_and, nI_add]
  have h2 : (a &&& 858993459) + (a / 4 &&& 858993459) < 131072 := by
    have q1 : a &&& 858993459 ≤ a := Nat.and_le_left
    have q2 : a / 4 &&& 858993459 ≤ a / 4 := Nat.and_le_left
    omega
  simp only [e2]
  generalize (a &&& 858993459) + (a / 4 &&& 858993459) = b at h2 ⊢
  have e3 : (nI b + us (nI b) 4) &&& 252645135 = nI ((b + b / 16) &&& 252645135) := by
    rw [us_N (by omega) 4 4 16 (by decide) rfl, nI_add]
    show nI (b + b / 16) &&& nI 252645135 = _
    rw [nx_and]
  have h3 : (b + b / 16) &&& 252645135 < 262144 := Nat.lt_of_le_of_lt Nat.and_le_left (by omega)
  simp only [e3]
  generalize (b + b / 16) &&& 252645135 = c at h3 ⊢
  have e4 : nI c + us (nI c) 8 = nI (c + c / 256) := by
    rw [us_N (by omega) 8 8 256 (by decide) rfl, nI_add]
  simp only [e4]
  have h4 : c + c / 256 < 524288 := by omega
  generalize c + c / 256 = d at h4 ⊢
  have e5 : nI d + us (nI d) 16 = nI (d + d / 65536) := by
    rw [us_N (by omega) 16 16 65536 (by decide) rfl, nI_add]
  rw [e5]
  show nI (d + d / 65536) &&& nI 63 = _
  rw [nx_and]
def bcK (w : Nat) : Bool := Nat.beq w 0 || Nat.beq (bcN (w &&& (w - 1)) + 1) (bcN w)
theorem bcK_all : (List.range 256).all (fun a => (List.range 256).all (fun b => bcK (256 * a + b))) = true := by decide +kernel
theorem bcN_step {w : Nat} (h : w < 65536) (h0 : w ≠ 0) : bcN (w &&& (w - 1)) + 1 = bcN w := by
  have h1 := List.all_eq_true.mp bcK_all (w / 256) (List.mem_range.mpr (by omega))
  have h2 := List.all_eq_true.mp h1 (w % 256) (List.mem_range.mpr (by omega))
  rw [show 256 * (w / 256) + w % 256 = w by omega] at h2
  unfold bcK at h2
  rcases (Bool.or_eq_true _ _).mp h2 with z | z
  · exact absurd (Nat.eq_of_beq_eq_true z) h0
  · exact Nat.eq_of_beq_eq_true z
theorem and_m1 {w : Nat} (h : w < 65536) (h0 : w ≠ 0) : nI w &&& (nI w - 1) = nI (w &&& (w - 1)) := by
  show nI w &&& (nI w - nI 1) = _
  rw [pk_sub (by omega), nx_and]
theorem bcN_0 : bcN 0 = 0 := by decide
theorem bcN_le {w : Nat} : bcN w ≤ 63 := by
  unfold bcN
  exact Nat.and_le_right
/-- the place of the lowest bit -/
def lowN : Nat → Nat → Nat
  | 0, _ => 0
  | f + 1, v => bif Nat.beq (v % 2) 1 then 0 else lowN f (v / 2) + 1
def lwK (v : Nat) : Bool := Nat.beq v 0 || (Nat.beq ((v ^^^ 4294967295) &&& (v - 1)) (2 ^ (lowN 16 v) - 1) && Nat.blt (lowN 16 v) 16)
theorem lwK_all : (List.range 256).all (fun a => (List.range 256).all (fun b => lwK (256 * a + b))) = true := by decide +kernel
theorem low_ok {w : Nat} (h : w < 65536) (h0 : w ≠ 0) : (w ^^^ 4294967295) &&& (w - 1) = 2 ^ (lowN 16 w) - 1 ∧ lowN 16 w < 16 := by
  have h1 := List.all_eq_true.mp lwK_all (w / 256) (List.mem_range.mpr (by omega))
  have h2 := List.all_eq_true.mp h1 (w % 256) (List.mem_range.mpr (by omega))
  rw [show 256 * (w / 256) + w % 256 = w by omega] at h2
  unfold lwK at h2
  rcases (Bool.or_eq_true _ _).mp h2 with z | z
  · exact absurd (Nat.eq_of_beq_eq_true z) h0
  · obtain ⟨z1, z2⟩ := (Bool.and_eq_true _ _).mp z
    exact ⟨Nat.eq_of_beq_eq_true z1, Nat.le_of_ble_eq_true z2⟩
theorem and_m1' {w : Nat} (h : w < 65536) : nI w &&& (nI w - 1) = nI (w &&& (w - 1)) := by
  rcases Nat.eq_zero_or_pos w with z | z
  · rw [z]; decide
  · exact and_m1 h (by omega)
/-- the lowest bits taken away, k times -/
def kzN (w k : Nat) : Nat := itr (fun _ v => v &&& (v - 1)) k w
theorem kzN_s {w k : Nat} : kzN w (k + 1) = kzN w k &&& (kzN w k - 1) := rfl
theorem kzN_lt {w : Nat} (h : w < 65536) (k : Nat) : kzN w k < 65536 := by
  induction k with
  | zero => exact h
  | succ k ih => exact Nat.lt_of_le_of_lt Nat.and_le_left ih
theorem kzN_bc {w : Nat} (h : w < 65536) (k : Nat) : kzN w k = 0 ↔ bcN w ≤ k := by
  have key : ∀ k, bcN (kzN w k) = bcN w - k := by
    intro k
    induction k with
    | zero => rfl
    | succ k ih =>
      by_cases z : kzN w k = 0
      · rw [kzN_s, z, show (0 &&& (0 - 1) : Nat) = 0 from rfl, bcN_0]
        rw [z, bcN_0] at ih
        omega
      · have := bcN_step (kzN_lt h k) z
        rw [kzN_s]
        omega
  constructor
  · intro z
    have := key k
    rw [z, bcN_0] at this
    omega
  · intro z
    rcases Nat.eq_zero_or_pos (kzN w k) with q | q
    · exact q
    · have h1 := bcN_step (kzN_lt h k) (by omega)
      have h2 := key k
      omega
theorem bcN_pos {w : Nat} (h : w < 65536) (h0 : w ≠ 0) : 0 < bcN w := by
  have := bcN_step h h0
  omega
