/-! BASE: truth values, reading the fixed cells, loops over the picture, small words -/
set_option maxRecDepth 100000
def bP (P : Prop) [Decidable P] : Int32 := if P then 1 else 0
theorem nb_bP {P : Prop} [Decidable P] : narrow .boolean (.int (bP P)) = .int (bP P) := by unfold bP; split <;> rfl
theorem bP_t {P : Prop} [Decidable P] (h : P) : bP P = 1 := if_pos h
theorem bP_f {P : Prop} [Decidable P] (h : ¬ P) : bP P = 0 := if_neg h
theorem bP_0 {P : Prop} [Decidable P] : bP P = 0 ↔ ¬ P := by unfold bP; split <;> simp_all
theorem bP_1 {P : Prop} [Decidable P] : bP P = 1 ↔ P := by unfold bP; split <;> simp_all
theorem bP_iff {P Q : Prop} [Decidable P] [Decidable Q] (h : P ↔ Q) : bP P = bP Q := by unfold bP; by_cases hp : P <;> simp [hp, ← h]
theorem lb_1 {P : Prop} [Decidable P] (h : P) : some (Value.int 1) = some (.int (bP P)) := by rw [bP_t h]
theorem lb_0 {P : Prop} [Decidable P] (h : ¬ P) : some (Value.int 0) = some (.int (bP P)) := by rw [bP_f h]
theorem lb_v {P Q : Prop} [Decidable P] [Decidable Q] (h : P ↔ Q) : some (Value.int (bP P)) = some (.int (bP Q)) := by rw [bP_iff h]
theorem lf_t {C : Prop} [Decidable C] {x a b : Int32} {U S1 S2 : gk_S} (h : C) (e1 : x = a) (e2 : U = S1) : some (Value.int x) = some (.int (if C then a else b)) ∧ U = if C then S1 else S2 := by rw [if_pos h, if_pos h, e1, e2]; exact ⟨rfl, rfl⟩
theorem lf_f {C : Prop} [Decidable C] {x a b : Int32} {U S1 S2 : gk_S} (h : ¬ C) (e1 : x = b) (e2 : U = S2) : some (Value.int x) = some (.int (if C then a else b)) ∧ U = if C then S1 else S2 := by rw [if_neg h, if_neg h, e1, e2]; exact ⟨rfl, rfl⟩
/-- a truth value and a new state -/
theorem lz_t {C : Prop} [Decidable C] {U S1 S2 : gk_S} (h : C) (e2 : U = S1) : some (Value.int 1) = some (.int (bP C)) ∧ U = if C then S1 else S2 := by rw [if_pos h, bP_t h, e2]; exact ⟨rfl, rfl⟩
theorem lz_f {C : Prop} [Decidable C] {U S1 S2 : gk_S} (h : ¬ C) (e2 : U = S2) : some (Value.int 0) = some (.int (bP C)) ∧ U = if C then S1 else S2 := by rw [if_neg h, bP_f h, e2]; exact ⟨rfl, rfl⟩
section GK4
variable {p : Program} {l : Launch} {e : Env} {R : Room} {s : State} {m : MethodId} {args : Array Value} {below : List Frame} {meth : Method} {c : Code} {Q : State → Prop} {E : gk_E} {nL : Nat} {S : gk_S} {cells slots pc : Nat} {L : List (Option Value)} {rest : List Value} {cc : ByteArray} {own : String}
theorem g_ifp_eq (X : gk_X p s m args meth c cc own nL E) {P : Prop} [Decidable P] {off : Int} {tgt : Nat} (hdg : decode cc pc = .ok (.ifCond .eq off, 3)) (ht : (pc : Int) + off = (tgt : Int)) (kt : ¬ P → gk_G p l e R s m args below meth c E nL S cells slots Q tgt L rest) (kf : P → gk_G p l e R s m args below meth c E nL S cells slots Q (pc + 3) L rest) : gk_G p l e R s m args below meth c E nL S cells slots Q pc L (.int (bP P) :: rest) :=
  g_if_eq X hdg ht (fun z => kt (bP_0.mp z)) (fun z => kf (Decidable.not_not.mp (fun h => z (bP_0.mpr h))))
theorem g_ifp_ne (X : gk_X p s m args meth c cc own nL E) {P : Prop} [Decidable P] {off : Int} {tgt : Nat} (hdg : decode cc pc = .ok (.ifCond .ne off, 3)) (ht : (pc : Int) + off = (tgt : Int)) (kt : P → gk_G p l e R s m args below meth c E nL S cells slots Q tgt L rest) (kf : ¬ P → gk_G p l e R s m args below meth c E nL S cells slots Q (pc + 3) L rest) : gk_G p l e R s m args below meth c E nL S cells slots Q pc L (.int (bP P) :: rest) :=
  g_if_ne X hdg ht (fun z => kt (Decidable.not_not.mp (fun h => z (bP_0.mpr h)))) (fun z => kf (bP_0.mp z))
/-! fewer locals; loops -/
def gk_le (L' L : List (Option Value)) : Prop := ∀ (i : Nat) (v : Value), L'[i]? = some (some v) → L[i]? = some (some v)
theorem le_n {L : List (Option Value)} : gk_le [] L := fun i v h => by simp at h
theorem le_0 {a b : List (Option Value)} {x : Option Value} (h : gk_le a b) : gk_le (none :: a) (x :: b) := by
  intro i v hi
  cases i with
  | zero => simp at hi
  | succ i => simpa using h i v (by simpa using hi)
theorem le_1 {a b : List (Option Value)} {x : Option Value} {v : Value} (e1 : x = some v) (h : gk_le a b) : gk_le (some v :: a) (x :: b) := by
  intro i w hi
  cases i with
  | zero => simp at hi; subst hi; simp [e1]
  | succ i => simpa using h i w (by simpa using hi)
theorem le_p {a : List (Option Value)} (h : gk_le a []) : gk_le (none :: a) [] := by
  intro i v hi
  cases i with
  | zero => simp at hi
  | succ i => simpa using h i v (by simpa using hi)
theorem le_e {a : List (Option Value)} : gk_le a a := fun _ _ h => h
theorem g_sub {L' : List (Option Value)} {st : List Value} (h : gk_le L' L) (k : gk_G p l e R s m args below meth c E nL S cells slots Q pc L' st) : gk_G p l e R s m args below meth c E nL S cells slots Q pc L st :=
  fun H locs ls hR hS hl => k H locs ls hR hS ⟨hl.1, hl.2.1, fun i v hv => hl.2.2 i v (h i v hv)⟩
theorem gk_ind {σ : Type} (P : σ → Prop) (μ : σ → Nat) (h : ∀ q, (∀ q', μ q' < μ q → P q') → P q) : ∀ q, P q := by
  intro q
  generalize hn : μ q = n
  induction n using Nat.strongRecOn generalizing q with
  | _ n ih => exact h q (fun q' hq' => ih (μ q') (by omega) q' rfl)
/-- a loop at its head: the states of its turns, their locals, what holds of them, what falls -/
theorem g_loop {σ : Type} (St : σ → gk_S) (Lf : σ → List (Option Value)) (I : σ → Prop) (μ : σ → Nat) (q0 : σ) (h0 : I q0) (e1 : S = St q0) (e2 : gk_le (Lf q0) L)
    (body : ∀ q, I q → (∀ q', I q' → μ q' < μ q → gk_G p l e R s m args below meth c E nL (St q') cells slots Q pc (Lf q') rest) → gk_G p l e R s m args below meth c E nL (St q) cells slots Q pc (Lf q) rest) : gk_G p l e R s m args below meth c E nL S cells slots Q pc L rest := by
  subst e1
  refine g_sub e2 ?_
  exact gk_ind (fun q => I q → gk_G p l e R s m args below meth c E nL (St q) cells slots Q pc (Lf q) rest) μ (fun q ih hI => body q hI (fun q' h1 h2 => ih q' h2 h1)) q0 h0
end GK4
/-! reading -/
theorem rdi {E : gk_E} {S : gk_S} (ho : E.2.2.2.2 = true) (i : Nat) {t n : Nat} (h : gk_kd i = some (t, n)) : gk_Rd E S (E.2.2.1 i) (.inl (E.2.1 t, n, .inl (S.1 i))) := rd_fx ho (by unfold gk_fx; rw [h])
theorem rd0 {E : gk_E} {S : gk_S} (ho : E.2.2.2.2 = true) : gk_Rd E S (E.2.2.1 0) (.inr (0, [.ref (E.2.2.1 1), .ref (E.2.2.1 2), .ref (E.2.2.1 300), .int (S.1 200 3), .int (S.1 200 4), .int (S.1 200 5), .ref (E.2.2.1 301), .ref (E.2.2.1 302), .ref (E.2.2.1 303), .ref (E.2.2.1 304), .ref (E.2.2.1 305), .ref (E.2.2.1 306), .ref (E.2.2.1 307)])) := rd_fx ho rfl
theorem rd1 {E : gk_E} {S : gk_S} (ho : E.2.2.2.2 = true) : gk_Rd E S (E.2.2.1 1) (.inr (1, [.ref (E.2.2.1 10), .ref (E.2.2.1 11), .ref (E.2.2.1 12), .ref (E.2.2.1 13), .ref (E.2.2.1 14), .ref (E.2.2.1 15), .ref (E.2.2.1 16), .ref (E.2.2.1 17)])) := rd_fx ho rfl
theorem rd2 {E : gk_E} {S : gk_S} (ho : E.2.2.2.2 = true) : gk_Rd E S (E.2.2.1 2) (.inr (1, [.ref (E.2.2.1 110), .ref (E.2.2.1 111), .ref (E.2.2.1 112), .ref (E.2.2.1 113), .ref (E.2.2.1 114), .ref (E.2.2.1 115), .ref (E.2.2.1 116), .ref (E.2.2.1 117)])) := rd_fx ho rfl
theorem rd3 {E : gk_E} {S : gk_S} (ho : E.2.2.2.2 = true) : gk_Rd E S (E.2.2.1 3) (.inr (2, [.ref (E.2.2.1 400), .ref (E.2.2.1 401), .ref (E.2.2.1 402), .ref (E.2.2.1 403), .int (S.1 201 4), .int (S.1 201 5), .int (S.1 201 6), .int (S.1 201 7), .int (S.1 201 8), .int (S.1 201 9), .int (S.1 201 10), .long (S.2.1 1 0), .int (S.1 201 12), .int (S.1 201 13), .int (S.1 201 14), .ref (E.2.2.1 404), .int (S.1 201 16), .int (S.1 201 17), .int (S.1 201 18), .int (S.1 201 19), .int (S.1 201 20), .ref (E.2.2.1 405), .ref (E.2.2.1 406), .ref (E.2.2.1 407), .int (S.1 201 24), .int (S.1 201 25), .int (S.1 201 26), .ref (E.2.2.1 408), .ref (E.2.2.1 409), .ref (E.2.2.1 410), .ref (E.2.2.1 411), .ref (E.2.2.1 412), .ref (E.2.2.1 413), .ref (E.2.2.1 414), .ref (E.2.2.1 415)])) := rd_fx ho rfl
theorem rd14 {E : gk_E} {S : gk_S} (ho : E.2.2.2.2 = true) : gk_Rd E S (E.2.2.1 14) (.inl (E.2.1 4, 5, .inr (.inr (.inr (.inr fun f => some (E.2.2.1 (20 + f))))))) := rd_fx ho rfl
theorem rd15 {E : gk_E} {S : gk_S} (ho : E.2.2.2.2 = true) : gk_Rd E S (E.2.2.1 15) (.inl (E.2.1 4, 8, .inr (.inr (.inr (.inr fun f => some (E.2.2.1 (30 + f))))))) := rd_fx ho rfl
theorem rd16 {E : gk_E} {S : gk_S} (ho : E.2.2.2.2 = true) : gk_Rd E S (E.2.2.1 16) (.inl (E.2.1 4, 30, .inr (.inr (.inr (.inr fun f => some (E.2.2.1 (40 + f))))))) := rd_fx ho rfl
theorem rd17 {E : gk_E} {S : gk_S} (ho : E.2.2.2.2 = true) : gk_Rd E S (E.2.2.1 17) (.inl (E.2.1 5, 4, .inr (.inr (.inr (.inr (S.2.2.1 0)))))) := rd_fx ho rfl
theorem rd114 {E : gk_E} {S : gk_S} (ho : E.2.2.2.2 = true) : gk_Rd E S (E.2.2.1 114) (.inl (E.2.1 4, 5, .inr (.inr (.inr (.inr fun f => some (E.2.2.1 (120 + f))))))) := rd_fx ho rfl
theorem rd115 {E : gk_E} {S : gk_S} (ho : E.2.2.2.2 = true) : gk_Rd E S (E.2.2.1 115) (.inl (E.2.1 4, 8, .inr (.inr (.inr (.inr fun f => some (E.2.2.1 (130 + f))))))) := rd_fx ho rfl
theorem rd116 {E : gk_E} {S : gk_S} (ho : E.2.2.2.2 = true) : gk_Rd E S (E.2.2.1 116) (.inl (E.2.1 4, 30, .inr (.inr (.inr (.inr fun f => some (E.2.2.1 (140 + f))))))) := rd_fx ho rfl
theorem rd117 {E : gk_E} {S : gk_S} (ho : E.2.2.2.2 = true) : gk_Rd E S (E.2.2.1 117) (.inl (E.2.1 5, 4, .inr (.inr (.inr (.inr (S.2.2.1 1)))))) := rd_fx ho rfl
theorem rd406 {E : gk_E} {S : gk_S} (ho : E.2.2.2.2 = true) : gk_Rd E S (E.2.2.1 406) (.inl (E.2.1 3, 330, .inr (.inl (S.2.1 0)))) := rd_fx ho rfl
theorem kd_want : ∀ {f : Nat}, f < 5 → gk_kd (20 + f) = some (0, 5) := by decide
theorem kd_told : ∀ {f : Nat}, f < 8 → gk_kd (30 + f) = some (0, 3) := by decide
theorem kd_step : ∀ {f : Nat}, f < 30 → gk_kd (40 + f) = some (0, 122) := by decide
theorem kd_want1 : ∀ {f : Nat}, f < 5 → gk_kd (120 + f) = some (0, 5) := by decide
theorem kd_told1 : ∀ {f : Nat}, f < 8 → gk_kd (130 + f) = some (0, 3) := by decide
theorem kd_step1 : ∀ {f : Nat}, f < 30 → gk_kd (140 + f) = some (0, 122) := by decide
/-! states -/
theorem si_s {S : gk_S} {i : Nat} {f : Nat → Int32} : (gk_si S i f).1 i = f := by simp [gk_si, va_up]
theorem si_n {S : gk_S} {i j : Nat} {f : Nat → Int32} (h : j ≠ i) : (gk_si S i f).1 j = S.1 j := by simp [gk_si, va_up, h]
theorem si_si {S : gk_S} {i : Nat} {f g : Nat → Int32} : gk_si (gk_si S i f) i g = gk_si S i g := by
  unfold gk_si
  congr 1
  funext j
  by_cases h : j = i <;> simp [va_up, h]
theorem si_co {S : gk_S} {i j : Nat} {f g : Nat → Int32} (h : i ≠ j) : gk_si (gk_si S i f) j g = gk_si (gk_si S j g) i f := by
  unfold gk_si
  congr 1
  funext k
  by_cases h1 : k = i
  · subst h1; simp [va_up, h]
  · by_cases h2 : k = j
    · subst h2; simp [va_up, h1]
    · simp [va_up, h1, h2]
theorem si_id {S : gk_S} {i : Nat} : gk_si S i (S.1 i) = S := by
  unfold gk_si
  conv => rhs; rw [← Prod.eta S]
  congr 1
  funext k
  by_cases h1 : k = i <;> simp [va_up, h1]
theorem upd_upd {f : Nat → Int32} {k : Nat} {x y : Int32} : upd (upd f k x) k y = upd f k y := by
  funext j
  by_cases h : j = k <;> simp [upd, h]
theorem upd_s {f : Nat → Int32} {k : Nat} {x : Int32} : upd f k x k = x := by simp [upd]
theorem upd_n {f : Nat → Int32} {k j : Nat} {x : Int32} (h : j ≠ k) : upd f k x j = f j := by simp [upd, h]
/-- n turns of a step that knows its number -/
def itr {α : Type} (f : Nat → α → α) : Nat → α → α
  | 0, a => a
  | n + 1, a => f n (itr f n a)
theorem itr_s {α : Type} {f : Nat → α → α} {n : Nat} {a : α} : itr f (n + 1) a = f n (itr f n a) := rfl
theorem itr_0 {α : Type} {f : Nat → α → α} {a : α} : itr f 0 a = a := rfl
/-- bit k of a set -/
abbrev hs (b k : Int32) : Prop := (b >>> (k &&& 31)) &&& 1 = 1
/-- the set of one -/
abbrev one (k : Int32) : Int32 := (1 : Int32) <<< (k &&& 31)
/-- an int as a place -/
abbrev ix (x : Int32) : Nat := x.toNatClampNeg
theorem ix_n {n : Nat} (h : n < 2 ^ 31) : ix (nI n) = n := nI_clamp h
theorem ix_i {x : Int32} (h : 0 ≤ x) : x = nI (ix x) := by
  obtain ⟨j, hj, rfl⟩ := nI_of (x := x) (by intro z; exact absurd (Int32.lt_iff_toInt_lt.mp z) (by have := Int32.le_iff_toInt_le.mp h; simp at this ⊢; omega))
  rw [ix_n hj]
theorem ix_le {x : Int32} (n : Nat) (hn : n < 2 ^ 31) (h0 : 0 ≤ x) (h : x ≤ nI n) : ix x ≤ n := by
  have e := ix_i h0
  have hb : ix x < 2 ^ 31 := by
    have := x.toNatClampNeg_lt
    omega
  rw [e] at h
  exact (nI_leI hb hn).mp h
theorem si2 {S : gk_S} {i j : Nat} {a b c d : Nat → Int32} (h : i ≠ j) : gk_si (gk_si (gk_si (gk_si S i a) j b) i c) j d = gk_si (gk_si S i c) j d := by
  rw [si_co (Ne.symm h), si_si, si_si, si_co h, si_co (Ne.symm h)]
theorem g_eq {p : Program} {l : Launch} {e : Env} {R : Room} {s : State} {m : MethodId} {args : Array Value} {below : List Frame} {meth : Method} {c : Code} {Q : State → Prop} {E : gk_E} {nL : Nat} {S S2 : gk_S} {cells slots pc : Nat} {L : List (Option Value)} {st : List Value} (h : S = S2) (k : gk_G p l e R s m args below meth c E nL S2 cells slots Q pc L st) : gk_G p l e R s m args below meth c E nL S cells slots Q pc L st := by rw [h]; exact k
theorem upd_id {f : Nat → Int32} {k : Nat} : upd f k (f k) = f := by
  funext j
  by_cases h : j = k <;> simp [upd, h]
theorem e_1 {i : Nat} : some (Value.int (nI i + 1)) = some (Value.int (nI (i + 1))) := by rw [nI_1]
theorem si_a {S : gk_S} {i j : Nat} {f : Nat → Int32} : (gk_si S i f).1 j = if j = i then f else S.1 j := rfl
theorem sl_a {S : gk_S} {i j : Nat} {f : Nat → Int64} : (gk_sl S i f).1 j = S.1 j := rfl
theorem si_ext {S S2 : gk_S} (h : S.2 = S2.2) (h1 : ∀ i, S.1 i = S2.1 i) : S = S2 := by
  obtain ⟨a, b⟩ := S
  obtain ⟨a2, b2⟩ := S2
  simp only at h h1
  rw [h, show a = a2 from funext h1]
