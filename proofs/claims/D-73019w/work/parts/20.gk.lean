/-! THE PICTURE OF THE WHOLE HEAP: one state for all that the law's objects hold; rows over it.
 gk_E: D (classes), the array classes, the addresses of the fixed cells by their numbers, the bound below which nothing is written, whether the fixed cells stand
 gk_S: int, byte and boolean arrays and scalar fields by number; long ones; arrays of Texts; all other cells by address -/
set_option maxRecDepth 100000
abbrev gk_H : Type := Nat → Option va_E
abbrev gk_E : Type := va_G × (Nat → ClassId) × (Nat → Nat) × Nat × Bool
abbrev gk_S : Type := (Nat → Nat → Int32) × (Nat → Nat → Int64) × (Nat → Nat → Option Nat) × gk_H
abbrev gk_cl : List vw_C := [(RX0, TX0, 13), (RX1, TX1, 8), (RX2, TX2, 35), (RX3, TX3, 8), (RX4, TX4, 5), (RX5, TX5, 8), (RX6, TX6, 1), (RX7, TX7, 3), (RX8, TX8, 1), (RX9, TX9, 3), (RX10, TX10, 2), (RX11, TX11, 1), (RX12, TX12, 1), (RX13, TX13, 1), (RX14, TX14, 3), (RX15, TX15, 2), (RX16, TX16, 5), (RJ3, TJ3, 3), (RJ13, TJ13, 1)]
def gk_tys (t : Nat → ClassId) : List (ClassId × FieldType) := [(t 0, .int), (t 1, .byte), (t 2, .boolean), (t 3, .long), (t 4, .array .int), (t 5, .object "SownByArgument$Text"), (t 6, .object "java/lang/Object"), (t 7, .object "java/lang/String")]
def gk_find : List (Nat × Nat × Nat × Nat) → Nat → Option (Nat × Nat)
  | [], _ => none
  | (a, b, t, n) :: l, i => bif Nat.ble a i && Nat.blt i b then some (t, n) else gk_find l i
/-- the fixed arrays of ints (type 0), bytes (1), booleans (2): first number, last + 1, type, length -/
def gk_tab : List (Nat × Nat × Nat × Nat) := [(10, 11, 0, 5), (11, 12, 0, 122), (12, 14, 0, 5), (20, 25, 0, 5), (30, 38, 0, 3), (40, 70, 0, 122), (110, 111, 0, 5), (111, 112, 0, 122), (112, 114, 0, 5), (120, 125, 0, 5), (130, 138, 0, 3), (140, 170, 0, 122), (300, 301, 1, 300), (301, 302, 0, 18), (302, 304, 0, 5), (304, 305, 0, 122), (305, 306, 2, 256), (306, 308, 0, 5), (400, 402, 0, 1366), (402, 403, 0, 2856), (403, 404, 0, 300), (404, 405, 0, 160), (405, 406, 0, 10), (407, 408, 2, 330), (408, 409, 0, 5), (409, 410, 0, 27), (410, 411, 2, 256), (411, 416, 0, 5)]
def gk_kd (i : Nat) : Option (Nat × Nat) := gk_find gk_tab i
/-- the other fixed cells: 0 the component, 1 its state, 2 its image, 3 the model, 14 to 17 and 114 to 117 arrays of references, 406 values -/
def gk_fo (E : gk_E) (c m : Nat → Int32) (lam : Nat → Nat → Int64) (tx : Nat → Nat → Option Nat) (i : Nat) : Option va_E :=
  bif Nat.beq i 0 then some (.inr (0, [.ref (E.2.2.1 1), .ref (E.2.2.1 2), .ref (E.2.2.1 300), .int (c 3), .int (c 4), .int (c 5), .ref (E.2.2.1 301), .ref (E.2.2.1 302), .ref (E.2.2.1 303), .ref (E.2.2.1 304), .ref (E.2.2.1 305), .ref (E.2.2.1 306), .ref (E.2.2.1 307)]))
  else bif Nat.beq i 1 then some (.inr (1, [.ref (E.2.2.1 10), .ref (E.2.2.1 11), .ref (E.2.2.1 12), .ref (E.2.2.1 13), .ref (E.2.2.1 14), .ref (E.2.2.1 15), .ref (E.2.2.1 16), .ref (E.2.2.1 17)]))
  else bif Nat.beq i 2 then some (.inr (1, [.ref (E.2.2.1 110), .ref (E.2.2.1 111), .ref (E.2.2.1 112), .ref (E.2.2.1 113), .ref (E.2.2.1 114), .ref (E.2.2.1 115), .ref (E.2.2.1 116), .ref (E.2.2.1 117)]))
  else bif Nat.beq i 3 then some (.inr (2, [.ref (E.2.2.1 400), .ref (E.2.2.1 401), .ref (E.2.2.1 402), .ref (E.2.2.1 403), .int (m 4), .int (m 5), .int (m 6), .int (m 7), .int (m 8), .int (m 9), .int (m 10), .long (lam 1 0), .int (m 12), .int (m 13), .int (m 14), .ref (E.2.2.1 404), .int (m 16), .int (m 17), .int (m 18), .int (m 19), .int (m 20), .ref (E.2.2.1 405), .ref (E.2.2.1 406), .ref (E.2.2.1 407), .int (m 24), .int (m 25), .int (m 26), .ref (E.2.2.1 408), .ref (E.2.2.1 409), .ref (E.2.2.1 410), .ref (E.2.2.1 411), .ref (E.2.2.1 412), .ref (E.2.2.1 413), .ref (E.2.2.1 414), .ref (E.2.2.1 415)]))
  else bif Nat.beq i 14 then some (.inl (E.2.1 4, 5, .inr (.inr (.inr (.inr fun f => some (E.2.2.1 (20 + f)))))))
  else bif Nat.beq i 15 then some (.inl (E.2.1 4, 8, .inr (.inr (.inr (.inr fun f => some (E.2.2.1 (30 + f)))))))
  else bif Nat.beq i 16 then some (.inl (E.2.1 4, 30, .inr (.inr (.inr (.inr fun f => some (E.2.2.1 (40 + f)))))))
  else bif Nat.beq i 17 then some (.inl (E.2.1 5, 4, .inr (.inr (.inr (.inr (tx 0))))))
  else bif Nat.beq i 114 then some (.inl (E.2.1 4, 5, .inr (.inr (.inr (.inr fun f => some (E.2.2.1 (120 + f)))))))
  else bif Nat.beq i 115 then some (.inl (E.2.1 4, 8, .inr (.inr (.inr (.inr fun f => some (E.2.2.1 (130 + f)))))))
  else bif Nat.beq i 116 then some (.inl (E.2.1 4, 30, .inr (.inr (.inr (.inr fun f => some (E.2.2.1 (140 + f)))))))
  else bif Nat.beq i 117 then some (.inl (E.2.1 5, 4, .inr (.inr (.inr (.inr (tx 1))))))
  else bif Nat.beq i 406 then some (.inl (E.2.1 3, 330, .inr (.inl (lam 0))))
  else none
def gk_dom (i : Nat) : Bool := match gk_kd i with
  | some _ => true
  | none => [0, 1, 2, 3, 14, 15, 16, 17, 114, 115, 116, 117, 406].any (Nat.beq i)
def gk_fx (E : gk_E) (S : gk_S) (i : Nat) : Option va_E := match gk_kd i with
  | some k => some (.inl (E.2.1 k.1, k.2, .inl (S.1 i)))
  | none => gk_fo E (S.1 200) (S.1 201) S.2.1 S.2.2.1 i
def gk_R (E : gk_E) (S : gk_S) (H : Heap) : Prop :=
  (E.2.2.2.2 = true → ∀ i e, gk_fx E S i = some e → va_at E.1 gk_cl (E.2.2.1 i, e) H) ∧
  ∀ q e, S.2.2.2 q = some e → va_at E.1 gk_cl (q, e) H ∧ (E.2.2.2.2 = true → ∀ i, gk_dom i = true → E.2.2.1 i ≠ q)
def gk_V (E : gk_E) : Prop := E.2.2.2.2 = true → (∀ i j, gk_dom i = true → gk_dom j = true → E.2.2.1 i = E.2.2.1 j → i = j) ∧ ∀ i, gk_dom i = true → E.2.2.2.1 ≤ E.2.2.1 i
/-- what a cell holds, whatever the heap of this picture -/
def gk_Rd (E : gk_E) (S : gk_S) (a : Nat) (e : va_E) : Prop := ∀ H, gk_R E S H → va_at E.1 gk_cl (a, e) H
theorem rd_fx {E : gk_E} {S : gk_S} {i : Nat} {e : va_E} (ho : E.2.2.2.2 = true) (h : gk_fx E S i = some e) : gk_Rd E S (E.2.2.1 i) e := fun _ hR => hR.1 ho i e h
theorem rd_dy {E : gk_E} {S : gk_S} {q : Nat} {e : va_E} (h : S.2.2.2 q = some e) : gk_Rd E S q e := fun _ hR => (hR.2 q e h).1
/-- the new states -/
def gk_si (S : gk_S) (i : Nat) (f : Nat → Int32) : gk_S := (va_up S.1 i f, S.2)
def gk_sl (S : gk_S) (i : Nat) (f : Nat → Int64) : gk_S := (S.1, va_up S.2.1 i f, S.2.2)
def gk_sq (S : gk_S) (i : Nat) (f : Nat → Option Nat) : gk_S := (S.1, S.2.1, va_up S.2.2.1 i f, S.2.2.2)
def gk_sd (S : gk_S) (q : Nat) (e : va_E) : gk_S := (S.1, S.2.1, S.2.2.1, va_up S.2.2.2 q (some e))
theorem gk_dom_kd {i : Nat} {k : Nat × Nat} (h : gk_kd i = some k) : gk_dom i = true := by unfold gk_dom; rw [h]
theorem gk_fx_dom {E : gk_E} {S : gk_S} {i : Nat} {e : va_E} (h : gk_fx E S i = some e) : gk_dom i = true := by
  unfold gk_fx at h
  unfold gk_dom
  cases hk : gk_kd i with
  | some k => rfl
  | none =>
    rw [hk] at h
    simp only [gk_fo, cond_eq_ite] at h
    simp only [List.any_cons, List.any_nil, Bool.or_false]
    by_cases h0 : Nat.beq i 0 = true
    · simp [h0]
    by_cases h1 : Nat.beq i 1 = true
    · simp [h1]
    by_cases h2 : Nat.beq i 2 = true
    · simp [h2]
    by_cases h3 : Nat.beq i 3 = true
    · simp [h3]
    by_cases h4 : Nat.beq i 14 = true
    · simp [h4]
    by_cases h5 : Nat.beq i 15 = true
    · simp [h5]
    by_cases h6 : Nat.beq i 16 = true
    · simp [h6]
    by_cases h7 : Nat.beq i 17 = true
    · simp [h7]
    by_cases h8 : Nat.beq i 114 = true
    · simp [h8]
    by_cases h9 : Nat.beq i 115 = true
    · simp [h9]
    by_cases h10 : Nat.beq i 116 = true
    · simp [h10]
    by_cases h11 : Nat.beq i 117 = true
    · simp [h11]
    by_cases h12 : Nat.beq i 406 = true
    · simp [h12]
    rw [if_neg h0, if_neg h1, if_neg h2, if_neg h3, if_neg h4, if_neg h5, if_neg h6, if_neg h7, if_neg h8, if_neg h9, if_neg h10, if_neg h11, if_neg h12] at h
    cases h
theorem gk_fx_si_self {E : gk_E} {S : gk_S} {i : Nat} {k : Nat × Nat} {f : Nat → Int32} (h : gk_kd i = some k) : gk_fx E (gk_si S i f) i = some (.inl (E.2.1 k.1, k.2, .inl f)) := by
  unfold gk_fx
  rw [h]
  simp [gk_si, va_up]
theorem gk_fx_si_ne {E : gk_E} {S : gk_S} {i j : Nat} {k : Nat × Nat} {f : Nat → Int32} (h : gk_kd i = some k) (hj : j ≠ i) : gk_fx E (gk_si S i f) j = gk_fx E S j := by
  have h200 : i ≠ 200 := fun z => by rw [z] at h; cases (show gk_kd 200 = none from rfl).symm.trans h
  have h201 : i ≠ 201 := fun z => by rw [z] at h; cases (show gk_kd 201 = none from rfl).symm.trans h
  unfold gk_fx
  cases hk : gk_kd j with
  | some k' => simp [gk_si, va_up, hj]
  | none => simp [gk_si, va_up, Ne.symm h200, Ne.symm h201]
/-- a fixed cell is written: what stands there is as the new state has it, the others stay -/
theorem gk_R.setx {E : gk_E} {S S' : gk_S} {H H1 : Heap} {i : Nat} {e' : va_E} (hV : gk_V E) (ho : E.2.2.2.2 = true) (hi : gk_dom i = true) (hR : gk_R E S H) (hs : gk_fx E S' i = some e') (hn : ∀ j, j ≠ i → gk_fx E S' j = gk_fx E S j) (hd : S'.2.2.2 = S.2.2.2) (hc : va_at E.1 gk_cl (E.2.2.1 i, e') H1) (oq : ∀ q : Nat, q ≠ E.2.2.1 i → H1[q]? = H[q]?) : gk_R E S' H1 := by
  refine ⟨fun _ j e hj => ?_, fun q e hq => ?_⟩
  · by_cases hji : j = i
    · subst hji
      rw [hs] at hj
      cases hj
      exact hc
    · rw [hn j hji] at hj
      exact (hR.1 ho j e hj).kept (oq _ (fun z => hji ((hV ho).1 j i (gk_fx_dom hj) hi z)))
  · rw [hd] at hq
    obtain ⟨h1, h2⟩ := hR.2 q e hq
    exact ⟨h1.kept (oq q (fun z => h2 ho i hi z.symm)), h2⟩
theorem gk_R.seti {E : gk_E} {S : gk_S} {H H1 : Heap} {i t n : Nat} {f : Nat → Int32} (hV : gk_V E) (ho : E.2.2.2.2 = true) (hk : gk_kd i = some (t, n)) (hR : gk_R E S H) (hc : va_at E.1 gk_cl (E.2.2.1 i, .inl (E.2.1 t, n, .inl f)) H1) (oq : ∀ q : Nat, q ≠ E.2.2.1 i → H1[q]? = H[q]?) : gk_R E (gk_si S i f) H1 :=
  hR.setx hV ho (gk_dom_kd hk) (gk_fx_si_self hk) (fun _ hj => gk_fx_si_ne hk hj) rfl hc oq
/-- another cell is written -/
theorem gk_R.setd {E : gk_E} {S : gk_S} {H H1 : Heap} {a : Nat} {e e' : va_E} (hR : gk_R E S H) (ha : S.2.2.2 a = some e) (hc : va_at E.1 gk_cl (a, e') H1) (oq : ∀ q : Nat, q ≠ a → H1[q]? = H[q]?) : gk_R E (gk_sd S a e') H1 := by
  refine ⟨fun ho j x hj => ?_, fun q x hq => ?_⟩
  · exact (hR.1 ho j x hj).kept (oq _ ((hR.2 a e ha).2 ho j (gk_fx_dom hj)))
  · by_cases hqa : q = a
    · subst hqa
      rw [show (gk_sd S q e').2.2.2 q = some e' by simp [gk_sd, va_up]] at hq
      cases hq
      exact ⟨hc, (hR.2 q e ha).2⟩
    · rw [show (gk_sd S a e').2.2.2 q = S.2.2.2 q by simp [gk_sd, va_up, hqa]] at hq
      obtain ⟨h1, h2⟩ := hR.2 q x hq
      exact ⟨h1.kept (oq q hqa), h2⟩
/-- a new cell -/
theorem gk_R.new {E : gk_E} {S : gk_S} {H H1 : Heap} {e' : va_E} (hR : gk_R E S H) (hc : va_at E.1 gk_cl (H.size, e') H1) (oq : ∀ q : Nat, q < H.size → H1[q]? = H[q]?) : gk_R E (gk_sd S H.size e') H1 ∧ S.2.2.2 H.size = none := by
  have hnone : S.2.2.2 H.size = none := by
    cases h : S.2.2.2 H.size with
    | none => rfl
    | some x => exact absurd (hR.2 _ x h).1.lt (Nat.lt_irrefl _)
  refine ⟨⟨fun ho j x hj => ?_, fun q x hq => ?_⟩, hnone⟩
  · exact (hR.1 ho j x hj).kept (oq _ (hR.1 ho j x hj).lt)
  · by_cases hqa : q = H.size
    · subst hqa
      rw [show (gk_sd S H.size e').2.2.2 H.size = some e' by simp [gk_sd, va_up]] at hq
      cases hq
      refine ⟨hc, fun ho i hi z => ?_⟩
      cases hx : gk_fx E S i with
      | some y =>
        have h4 := (hR.1 ho i y hx).lt
        dsimp only at h4
        omega
      | none =>
        exfalso
        revert hx
        unfold gk_fx
        unfold gk_dom at hi
        cases hk : gk_kd i with
        | some k => simp
        | none =>
          rw [hk] at hi
          simp only [List.any_cons, List.any_nil, Bool.or_false, Bool.or_eq_true] at hi
          rcases hi with h | h | h | h | h | h | h | h | h | h | h | h | h <;> (have h9 := Nat.eq_of_beq_eq_true h; subst h9; exact fun hx => absurd hx (Option.some_ne_none _))
    · rw [show (gk_sd S H.size e').2.2.2 q = S.2.2.2 q by simp [gk_sd, va_up, hqa]] at hq
      obtain ⟨h1, h2⟩ := hR.2 q x hq
      exact ⟨h1.kept (oq q h1.lt), h2⟩
/-! what holds of the tables and of what was there before -/
def gk_soft : Cond → Bool
  | .fieldLinkNest _ _ _ _ _ _ => true
  | .methodLinkNest _ _ _ _ => true
  | .castable _ _ => true
  | _ => false
theorem gk_soft_tab {w : Cond} (h : gk_soft w = true) : w.onTables = true := by
  cases w <;> first | rfl | cases h
theorem gk_soft_warm {w : Cond} {s U : State} (h : gk_soft w = true) (hW : s.WarmedH U.vm) (hZ : va_Nw w s) : va_Nw w U := by
  cases w <;> first | exact va_Nw.warmF hW hZ | exact va_Nw.warmM hW hZ | exact va_Nw.warmC hW hZ | cases h
def gk_st (E : gk_E) : List (String × String × String × Value) := [("SownByArgument", "NOTHING", "LSownByArgument$Text;", .ref (E.2.2.1 900)), ("SownByArgument$Tokens", "WORDS", "[Ljava/lang/String;", .ref (E.2.2.1 901)), ("SownByArgument$Tokens", "NAMED", "[I", .ref (E.2.2.1 902)), ("java/util/ArrayList", "DEFAULTCAPACITY_EMPTY_ELEMENTDATA", "[Ljava/lang/Object;", .ref (E.2.2.1 903)), ("java/lang/Integer$IntegerCache", "cache", "[Ljava/lang/Integer;", .ref (E.2.2.1 904)), ("java/lang/Integer$IntegerCache", "high", "I", .int 127), ("java/lang/String", "COMPACT_STRINGS", "Z", .int 1)]
def gk_ofT : MethodName := ⟨"SownByArgument$Sum", "of", "([I)J"⟩
def gk_isT : MethodName := ⟨"SownByArgument$Asked", "is", "([I)Z"⟩
def gk_fw : List (String × MethodName × MethodName) := [(RX7, gk_ofT, yX7_of), (RX8, gk_ofT, yX8_of), (RX9, gk_ofT, yX9_of), (RX10, gk_ofT, yX10_of), (RX11, gk_ofT, yX11_of), (RX12, gk_ofT, yX12_of), (RX13, gk_ofT, yX13_of), (RX6, gk_isT, yX6_is), (RX14, gk_isT, yX14_is), (RX15, gk_isT, yX15_is)]
def gk_ao : List String := ["SownByArgument$Text", "java/lang/Object", "java/lang/String"]
def gk_K (E : gk_E) (U : State) (H : Heap) : Prop :=
  va_K E.1 gk_cl (gk_tys E.2.1) U ∧ (∀ w ∈ lw_tbl, gk_soft w = true → va_Nw w U) ∧ (∀ q ∈ gk_st E, va_Z q.1 q.2.1 q.2.2.1 q.2.2.2 (fun a => E.2.2.2.1 ≤ a) U H) ∧ (∀ q ∈ gk_fw, va_Fw q.1 q.2.1 q.2.2 U) ∧ (∀ t ∈ gk_ao, va_AO t U) ∧ gk_V E
theorem gk_fw_cls : ∀ q ∈ gk_fw, q.2.1.cls ≠ "java/lang/invoke/MethodHandle" ∧ q.2.1.cls ≠ "java/lang/invoke/VarHandle" := by decide +kernel
theorem gk_K.warm {E : gk_E} {s U : State} {H : Heap} (hW : s.WarmedH U.vm) (h : gk_K E s H) : gk_K E U H :=
  ⟨va_K.moved hW.alike h.1, fun w hw hs => gk_soft_warm hs hW (h.2.1 w hw hs), fun q hq => va_Z.moved hW.alike (h.2.2.1 q hq), fun q hq => va_Fw.moved (gk_fw_cls q hq) hW.alike (h.2.2.2.1 q hq), fun t ht => va_AO.moved hW.alike (h.2.2.2.2.1 t ht), h.2.2.2.2.2⟩
theorem gk_K.alike {E : gk_E} {s U : State} {H : Heap} (hv : s.vm = U.vm) (h : gk_K E s H) : gk_K E U H :=
  have hA : s.vm.Alike U.vm := by rw [hv]; exact Vm.Alike.refl _
  ⟨va_K.moved hA h.1, fun w hw hs => va_Nw.same (gk_soft_tab hs) hv (h.2.1 w hw hs), fun q hq => va_Z.moved hA (h.2.2.1 q hq), fun q hq => va_Fw.moved (gk_fw_cls q hq) hA (h.2.2.2.1 q hq), fun t ht => va_AO.moved hA (h.2.2.2.2.1 t ht), h.2.2.2.2.2⟩
theorem gk_K.kept {E : gk_E} {U : State} {H H1 : Heap} (hq : ∀ a : Nat, a < H.size → ¬ E.2.2.2.1 ≤ a → H1[a]? = H[a]?) (h : gk_K E U H) : gk_K E U H1 :=
  ⟨h.1, h.2.1, fun q hq1 => va_Z.kept (h.2.2.1 q hq1) hq, h.2.2.2⟩
/-! locals by their places -/
def gk_L (ls : Array Slot) (nL : Nat) (L : List (Option Value)) : Prop := ls.size = nL ∧ lv_wf ls ∧ ∀ (i : Nat) (v : Value), L[i]? = some (some v) → ls[i]? = some (.val v)
def gk_pairs (L : List (Option Value)) : List (Nat × Value) := (List.range L.length).filterMap (fun i => (L[i]?.join).map (fun v => (i, v)))
theorem gk_pairs_mem {L : List (Option Value)} {i : Nat} {v : Value} : (i, v) ∈ gk_pairs L ↔ L[i]? = some (some v) := by
  unfold gk_pairs
  simp only [List.mem_filterMap, List.mem_range, Option.map_eq_some_iff, Option.join_eq_some_iff]
  constructor
  · rintro ⟨j, hj, w, h1, h2⟩
    cases h2
    exact h1
  · intro h
    exact ⟨i, (List.getElem?_eq_some_iff.mp h).1, v, h, rfl⟩
theorem gk_L.has {ls : Array Slot} {nL : Nat} {L : List (Option Value)} (h : gk_L ls nL L) : lv_has ls nL (gk_pairs L) := ⟨h.1, h.2.1, fun q hq => h.2.2 q.1 q.2 (gk_pairs_mem.mp hq)⟩
theorem gk_L.get {ls : Array Slot} {nL : Nat} {L : List (Option Value)} (h : gk_L ls nL L) {i : Nat} {v : Value} (hv : L[i]? = some (some v)) : ls[i]? = some (.val v) := h.2.2 i v hv
def gk_clr : Nat → List (Option Value) → List (Option Value)
  | 0, L => L
  | j + 1, L => match L[j]? with
    | some (some (.long _)) => L.set j none
    | some (some (.double _)) => L.set j none
    | _ => L
/-- the locals after a store of one word, of two -/
def gk_st1 (i : Nat) (v : Value) (L : List (Option Value)) : List (Option Value) := (gk_clr i L).set i (some v)
def gk_st2 (i : Nat) (v : Value) (L : List (Option Value)) : List (Option Value) := ((gk_clr i L).set i (some v)).set (i + 1) none
theorem gk_clr_get {i j : Nat} {v : Value} {L : List (Option Value)} (h : (gk_clr i L)[j]? = some (some v)) : L[j]? = some (some v) ∧ ¬ (j + 1 = i ∧ v.category = 2) := by
  cases i with
  | zero => exact ⟨h, fun z => by omega⟩
  | succ k =>
    simp only [gk_clr] at h
    split at h
    · rename_i x e
      by_cases hj : j = k
      · subst hj
        rw [List.getElem?_set_self (List.getElem?_eq_some_iff.mp e).1] at h
        cases h
      · rw [List.getElem?_set_ne (Ne.symm hj)] at h
        exact ⟨h, fun z => by omega⟩
    · rename_i x e
      by_cases hj : j = k
      · subst hj
        rw [List.getElem?_set_self (List.getElem?_eq_some_iff.mp e).1] at h
        cases h
      · rw [List.getElem?_set_ne (Ne.symm hj)] at h
        exact ⟨h, fun z => by omega⟩
    · rename_i n1 n2
      refine ⟨h, fun z => ?_⟩
      have hj : j = k := by omega
      subst hj
      cases v with
      | long y => exact n1 y h
      | double y => exact n2 y h
      | _ => exact absurd z.2 (by simp [Value.category])
theorem gk_L.st1 {ls : Array Slot} {nL : Nat} {L : List (Option Value)} (h : gk_L ls nL L) {i : Nat} {v : Value} (hi : i < nL) (hc : v.category = 1) : ∃ ls', storeLocals ls i v = some ls' ∧ gk_L ls' nL (gk_st1 i v L) := by
  obtain ⟨ls', e, h'⟩ := lv_store1 (v := v) h.has hi hc
  refine ⟨ls', e, h'.1, h'.2.1, fun j w hj => ?_⟩
  unfold gk_st1 at hj
  by_cases hji : j = i
  · subst hji
    have hl : j < (gk_clr j L).length := by
      have := (List.getElem?_eq_some_iff.mp hj).1
      simpa using this
    rw [List.getElem?_set_self hl] at hj
    cases hj
    exact h'.2.2 (j, v) List.mem_cons_self
  · rw [List.getElem?_set_ne (Ne.symm hji)] at hj
    obtain ⟨h1, h2⟩ := gk_clr_get hj
    refine h'.2.2 (j, w) (List.mem_cons_of_mem _ (List.mem_filter.mpr ⟨gk_pairs_mem.mpr h1, ?_⟩))
    simp only [Bool.and_eq_true, Bool.not_eq_true', beq_eq_false_iff_ne, ne_eq, Bool.and_eq_false_iff]
    exact ⟨hji, (Decidable.not_and_iff_or_not (p := j + 1 = i)).mp h2⟩
theorem gk_L.st2 {ls : Array Slot} {nL : Nat} {L : List (Option Value)} (h : gk_L ls nL L) {i : Nat} {v : Value} (hi : i + 1 < nL) (hc : v.category = 2) : ∃ ls', storeLocals ls i v = some ls' ∧ gk_L ls' nL (gk_st2 i v L) := by
  obtain ⟨ls', e, h'⟩ := lv_store2 (v := v) h.has hi hc
  refine ⟨ls', e, h'.1, h'.2.1, fun j w hj => ?_⟩
  unfold gk_st2 at hj
  by_cases hj1 : j = i + 1
  · subst hj1
    have hl : i + 1 < ((gk_clr i L).set i (some v)).length := by
      have := (List.getElem?_eq_some_iff.mp hj).1
      simpa using this
    rw [List.getElem?_set_self hl] at hj
    cases hj
  rw [List.getElem?_set_ne (Ne.symm hj1)] at hj
  by_cases hji : j = i
  · subst hji
    have hl : j < (gk_clr j L).length := by
      have := (List.getElem?_eq_some_iff.mp hj).1
      simpa using this
    rw [List.getElem?_set_self hl] at hj
    cases hj
    exact h'.2.2 (j, v) List.mem_cons_self
  · rw [List.getElem?_set_ne (Ne.symm hji)] at hj
    obtain ⟨h1, h2⟩ := gk_clr_get hj
    refine h'.2.2 (j, w) (List.mem_cons_of_mem _ (List.mem_filter.mpr ⟨gk_pairs_mem.mpr h1, ?_⟩))
    simp only [Bool.and_eq_true, Bool.not_eq_true', beq_eq_false_iff_ne, ne_eq, Bool.and_eq_false_iff]
    exact ⟨hji, hj1, (Decidable.not_and_iff_or_not (p := j + 1 = i)).mp h2⟩
def gk_args : List Value → List (Option Value)
  | [] => []
  | .long x :: l => some (.long x) :: none :: gk_args l
  | .double x :: l => some (.double x) :: none :: gk_args l
  | v :: l => some v :: gk_args l
theorem gk_args_mem : ∀ (vs : List Value) (o i : Nat) (v : Value), (gk_args vs)[i]? = some (some v) → (o + i, v) ∈ lv_args o vs
  | [], _, _, _, h => by simp [gk_args] at h
  | x :: l, o, i, v, h => by
    cases hx : x.category == 2 with
    | true =>
      have hc : x.category = 2 := by simpa using hx
      have h2 : gk_args (x :: l) = some x :: none :: gk_args l := by cases x <;> first | rfl | (simp [Value.category] at hc)
      rw [h2] at h
      simp only [lv_args, hc, if_true]
      match i, h with
      | 0, h =>
        rw [List.getElem?_cons_zero] at h
        cases h
        exact List.mem_cons_self
      | 1, h => simp at h
      | i + 2, h =>
        have h3 := gk_args_mem l (o + 2) i v (by simpa using h)
        rw [show o + (i + 2) = o + 2 + i by omega]
        exact List.mem_cons_of_mem _ h3
    | false =>
      have hc : ¬ x.category = 2 := by simpa using hx
      have h2 : gk_args (x :: l) = some x :: gk_args l := by cases x <;> first | rfl | (simp [Value.category] at hc)
      rw [h2] at h
      simp only [lv_args, hc, if_false]
      match i, h with
      | 0, h =>
        rw [List.getElem?_cons_zero] at h
        cases h
        exact List.mem_cons_self
      | i + 1, h =>
        have h3 := gk_args_mem l (o + 1) i v (by simpa using h)
        rw [show o + (i + 1) = o + 1 + i by omega]
        exact List.mem_cons_of_mem _ h3
/-! a frame's standing facts, the goal, the contract -/
def gk_X (p : Program) (s : State) (m : MethodId) (args : Array Value) (meth : Method) (c : Code) (cc : ByteArray) (own : String) (nL : Nat) (E : gk_E) : Prop :=
  p.tables.exec = Jvm.exec ∧ c.code = cc ∧ c.maxLocals = nL ∧ s.vm.findClass own = some m.cls ∧ (∀ w ∈ lw_all, w.before args s = true) ∧ gk_K E s s.heap ∧ E.2.2.2.1 ≤ s.heap.size ∧ meth.locks = false
def gk_G (p : Program) (l : Launch) (e : Env) (R : Room) (s : State) (m : MethodId) (args : Array Value) (below : List Frame) (meth : Method) (c : Code) (E : gk_E) (nL : Nat) (S : gk_S) (cells slots : Nat) (Q : State → Prop) (pc : Nat) (L : List (Option Value)) (st : List Value) : Prop :=
  ∀ (H : Heap) (locs : List Loc) (ls : Array Slot), gk_R E S H → va_S (fun q => E.2.2.2.1 ≤ q) s.heap H locs → gk_L ls nL L → W p l e R s m args below meth c H locs cells slots Q (F0 m pc ls st)
def gk_P (E : gk_E) (S : gk_S) (U : State) : Prop := gk_K E U U.heap ∧ gk_R E S U.heap ∧ E.2.2.2.1 ≤ U.heap.size
def gk_Q (E : gk_E) (post : Option Value → gk_S → Prop) : Array Value → State → Outcome → State → Prop := fun _ st oc t => (∃ (r : Option Value) (S' : gk_S), oc = .returned r ∧ post r S' ∧ gk_R E S' t.heap) ∧ va_F (fun q => E.2.2.2.1 ≤ q) st t
/-- THE CONTRACT: y, called with av over the picture S, answers r and leaves the picture S' with post r S' -/
def gk_T (l : Launch) (E : gk_E) (y : MethodName) (cc : ByteArray) (nL : Nat) (ret : Option FieldType) (fr lo mc ms : Nat) (av : List Value) (S : gk_S) (post : Option Value → gk_S → Prop) : Prop :=
  Met l y (ws_ y cc nL ret) ({ frames := fr, cells := mc, slots := ms, locals := lo }) (va_Pc av (gk_P E S)) (gk_Q E post) mc ms (fun q => E.2.2.2.1 ≤ q)
section GK1
variable {p : Program} {l : Launch} {e : Env} {R : Room} {s : State} {m : MethodId} {args : Array Value} {below : List Frame} {meth : Method} {c : Code} {Q : State → Prop} {E : gk_E} {nL : Nat} {S : gk_S} {cells slots pc : Nat} {L : List (Option Value)} {rest : List Value} {cc : ByteArray} {own : String}
theorem g_iload (X : gk_X p s m args meth c cc own nL E) {i : Nat} {x : Int32} (hdg : decode cc pc = .ok (.iload i, 2)) (hL : L[i]? = some (some (.int x))) (k : gk_G p l e R s m args below meth c E nL S cells slots Q (pc + 2) L (.int x :: rest)) : gk_G p l e R s m args below meth c E nL S cells slots Q pc L rest := fun H locs ls hR hS hl => lv_iload X.1 X.2.1 hdg (hl.get hL) (k H locs ls hR hS hl)
theorem g_iload_n (X : gk_X p s m args meth c cc own nL E) {j : Fin 4} {x : Int32} (hdg : decode cc pc = .ok (.iload_n j, 1)) (hL : L[(j : Nat)]? = some (some (.int x))) (k : gk_G p l e R s m args below meth c E nL S cells slots Q (pc + 1) L (.int x :: rest)) : gk_G p l e R s m args below meth c E nL S cells slots Q pc L rest := fun H locs ls hR hS hl => lv_iload_n X.1 X.2.1 hdg rfl (hl.get hL) (k H locs ls hR hS hl)
theorem g_lload (X : gk_X p s m args meth c cc own nL E) {i : Nat} {x : Int64} (hdg : decode cc pc = .ok (.lload i, 2)) (hL : L[i]? = some (some (.long x))) (k : gk_G p l e R s m args below meth c E nL S cells slots Q (pc + 2) L (.long x :: rest)) : gk_G p l e R s m args below meth c E nL S cells slots Q pc L rest := fun H locs ls hR hS hl => lv_lload X.1 X.2.1 hdg (hl.get hL) (k H locs ls hR hS hl)
theorem g_lload_n (X : gk_X p s m args meth c cc own nL E) {j : Fin 4} {x : Int64} (hdg : decode cc pc = .ok (.lload_n j, 1)) (hL : L[(j : Nat)]? = some (some (.long x))) (k : gk_G p l e R s m args below meth c E nL S cells slots Q (pc + 1) L (.long x :: rest)) : gk_G p l e R s m args below meth c E nL S cells slots Q pc L rest := fun H locs ls hR hS hl => lv_lload_n X.1 X.2.1 hdg rfl (hl.get hL) (k H locs ls hR hS hl)
theorem g_aload (X : gk_X p s m args meth c cc own nL E) {i x : Nat} (hdg : decode cc pc = .ok (.aload i, 2)) (hL : L[i]? = some (some (.ref x))) (k : gk_G p l e R s m args below meth c E nL S cells slots Q (pc + 2) L (.ref x :: rest)) : gk_G p l e R s m args below meth c E nL S cells slots Q pc L rest := fun H locs ls hR hS hl => lv_aload X.1 X.2.1 hdg (hl.get hL) (k H locs ls hR hS hl)
theorem g_aload_n (X : gk_X p s m args meth c cc own nL E) {j : Fin 4} {x : Nat} (hdg : decode cc pc = .ok (.aload_n j, 1)) (hL : L[(j : Nat)]? = some (some (.ref x))) (k : gk_G p l e R s m args below meth c E nL S cells slots Q (pc + 1) L (.ref x :: rest)) : gk_G p l e R s m args below meth c E nL S cells slots Q pc L rest := fun H locs ls hR hS hl => lv_aload_n X.1 X.2.1 hdg rfl (hl.get hL) (k H locs ls hR hS hl)
theorem g_aload_nN (X : gk_X p s m args meth c cc own nL E) {j : Fin 4} (hdg : decode cc pc = .ok (.aload_n j, 1)) (hL : L[(j : Nat)]? = some (some .null)) (k : gk_G p l e R s m args below meth c E nL S cells slots Q (pc + 1) L (.null :: rest)) : gk_G p l e R s m args below meth c E nL S cells slots Q pc L rest := fun H locs ls hR hS hl => lv_aload_nN X.1 X.2.1 hdg rfl (hl.get hL) (k H locs ls hR hS hl)
/-- a store by the raw machine step -/
theorem gk_sub_pairs {ls' : Array Slot} {nL : Nat} {L' : List (Option Value)} {l : List (Nat × Value)} (h : lv_has ls' nL l) (hs : ∀ (i : Nat) (v : Value), L'[i]? = some (some v) → (i, v) ∈ l) : gk_L ls' nL L' := ⟨h.1, h.2.1, fun i v hv => h.2.2 (i, v) (hs i v hv)⟩
theorem gk_in1 {i : Nat} {v : Value} {L : List (Option Value)} : ∀ (j : Nat) (w : Value), (gk_st1 i v L)[j]? = some (some w) → (j, w) ∈ (i, v) :: (gk_pairs L).filter (fun q => !(q.1 == i) && !(q.1 + 1 == i && q.2.category == 2)) := by
  intro j w hj
  unfold gk_st1 at hj
  by_cases hji : j = i
  · subst hji
    have hl : j < (gk_clr j L).length := by
      have := (List.getElem?_eq_some_iff.mp hj).1
      simpa using this
    rw [List.getElem?_set_self hl] at hj
    cases hj
    exact List.mem_cons_self
  · rw [List.getElem?_set_ne (Ne.symm hji)] at hj
    obtain ⟨h1, h2⟩ := gk_clr_get hj
    refine List.mem_cons_of_mem _ (List.mem_filter.mpr ⟨gk_pairs_mem.mpr h1, ?_⟩)
    simp only [Bool.and_eq_true, Bool.not_eq_true', beq_eq_false_iff_ne, ne_eq, Bool.and_eq_false_iff]
    exact ⟨hji, (Decidable.not_and_iff_or_not (p := j + 1 = i)).mp h2⟩
theorem gk_in2 {i : Nat} {v : Value} {L : List (Option Value)} : ∀ (j : Nat) (w : Value), (gk_st2 i v L)[j]? = some (some w) → (j, w) ∈ (i, v) :: (gk_pairs L).filter (fun q => !(q.1 == i) && (!(q.1 == i + 1) && !(q.1 + 1 == i && q.2.category == 2))) := by
  intro j w hj
  unfold gk_st2 at hj
  by_cases hj1 : j = i + 1
  · subst hj1
    have hl : i + 1 < ((gk_clr i L).set i (some v)).length := by
      have := (List.getElem?_eq_some_iff.mp hj).1
      simpa using this
    rw [List.getElem?_set_self hl] at hj
    cases hj
  rw [List.getElem?_set_ne (Ne.symm hj1)] at hj
  by_cases hji : j = i
  · subst hji
    have hl : j < (gk_clr j L).length := by
      have := (List.getElem?_eq_some_iff.mp hj).1
      simpa using this
    rw [List.getElem?_set_self hl] at hj
    cases hj
    exact List.mem_cons_self
  · rw [List.getElem?_set_ne (Ne.symm hji)] at hj
    obtain ⟨h1, h2⟩ := gk_clr_get hj
    refine List.mem_cons_of_mem _ (List.mem_filter.mpr ⟨gk_pairs_mem.mpr h1, ?_⟩)
    simp only [Bool.and_eq_true, Bool.not_eq_true', beq_eq_false_iff_ne, ne_eq, Bool.and_eq_false_iff]
    exact ⟨hji, hj1, (Decidable.not_and_iff_or_not (p := j + 1 = i)).mp h2⟩
theorem g_istore (X : gk_X p s m args meth c cc own nL E) {i : Nat} {x : Int32} (hdg : decode cc pc = .ok (.istore i, 2)) (hi : i < nL) (k : gk_G p l e R s m args below meth c E nL S cells slots Q (pc + 2) (gk_st1 i (.int x) L) rest) : gk_G p l e R s m args below meth c E nL S cells slots Q pc L (.int x :: rest) := fun H locs ls hR hS hl => lv_istore X.1 X.2.1 hdg hl.has hi rfl (fun ls' h' => k H locs ls' hR hS (gk_sub_pairs h' gk_in1))
theorem g_istore_n (X : gk_X p s m args meth c cc own nL E) {j : Fin 4} {x : Int32} (hdg : decode cc pc = .ok (.istore_n j, 1)) (hi : (j : Nat) < nL) (k : gk_G p l e R s m args below meth c E nL S cells slots Q (pc + 1) (gk_st1 j (.int x) L) rest) : gk_G p l e R s m args below meth c E nL S cells slots Q pc L (.int x :: rest) := fun H locs ls hR hS hl => lv_istore_n X.1 X.2.1 hdg rfl hl.has hi rfl (fun ls' h' => k H locs ls' hR hS (gk_sub_pairs h' gk_in1))
theorem g_astore (X : gk_X p s m args meth c cc own nL E) {i : Nat} {x : Nat} (hdg : decode cc pc = .ok (.astore i, 2)) (hi : i < nL) (k : gk_G p l e R s m args below meth c E nL S cells slots Q (pc + 2) (gk_st1 i (.ref x) L) rest) : gk_G p l e R s m args below meth c E nL S cells slots Q pc L (.ref x :: rest) := fun H locs ls hR hS hl => lv_astore X.1 X.2.1 hdg hl.has hi rfl (fun ls' h' => k H locs ls' hR hS (gk_sub_pairs h' gk_in1))
theorem g_astore_n (X : gk_X p s m args meth c cc own nL E) {j : Fin 4} {x : Nat} (hdg : decode cc pc = .ok (.astore_n j, 1)) (hi : (j : Nat) < nL) (k : gk_G p l e R s m args below meth c E nL S cells slots Q (pc + 1) (gk_st1 j (.ref x) L) rest) : gk_G p l e R s m args below meth c E nL S cells slots Q pc L (.ref x :: rest) := fun H locs ls hR hS hl => lv_astore_n X.1 X.2.1 hdg rfl hl.has hi rfl (fun ls' h' => k H locs ls' hR hS (gk_sub_pairs h' gk_in1))
theorem g_lstore (X : gk_X p s m args meth c cc own nL E) {i : Nat} {x : Int64} (hdg : decode cc pc = .ok (.lstore i, 2)) (hi : i + 1 < nL) (k : gk_G p l e R s m args below meth c E nL S cells slots Q (pc + 2) (gk_st2 i (.long x) L) rest) : gk_G p l e R s m args below meth c E nL S cells slots Q pc L (.long x :: rest) := fun H locs ls hR hS hl => lv_lstore X.1 X.2.1 hdg hl.has hi rfl (fun ls' h' => k H locs ls' hR hS (gk_sub_pairs h' gk_in2))
theorem g_lstore_n (X : gk_X p s m args meth c cc own nL E) {j : Fin 4} {x : Int64} (hdg : decode cc pc = .ok (.lstore_n j, 1)) (hi : (j : Nat) + 1 < nL) (k : gk_G p l e R s m args below meth c E nL S cells slots Q (pc + 1) (gk_st2 j (.long x) L) rest) : gk_G p l e R s m args below meth c E nL S cells slots Q pc L (.long x :: rest) := fun H locs ls hR hS hl => lv_lstore_n X.1 X.2.1 hdg rfl hl.has hi rfl (fun ls' h' => k H locs ls' hR hS (gk_sub_pairs h' gk_in2))
theorem gk_pairs_at {L : List (Option Value)} {i : Nat} {v : Value} (h : L[i]? = some (some v)) : ∃ k : Nat, (gk_pairs L)[k]? = some (i, v) := List.getElem?_of_mem (gk_pairs_mem.mpr h)
theorem g_iinc (X : gk_X p s m args meth c cc own nL E) {i : Nat} {n : Int} {x v : Int32} (hdg : decode cc pc = .ok (.iinc i n, 3)) (hL : L[i]? = some (some (.int x))) (hv : Int32.ofInt n = v) (hi : i < nL) (k : gk_G p l e R s m args below meth c E nL S cells slots Q (pc + 3) (gk_st1 i (.int (x + v)) L) rest) : gk_G p l e R s m args below meth c E nL S cells slots Q pc L rest := by
  intro H locs ls hR hS hl
  obtain ⟨j, hj⟩ := gk_pairs_at hL
  subst hv
  exact lv_iinc (k := j) X.1 X.2.1 hdg hl.has hj rfl hi rfl (fun ls' h' => k H locs ls' hR hS (gk_sub_pairs h' gk_in1))

theorem g_iconst (X : gk_X p s m args meth c cc own nL E) {n : Int} {v : Int32} (hdg : decode cc pc = .ok (.iconst n, 1)) (hv : Int32.ofInt n = v) (k : gk_G p l e R s m args below meth c E nL S cells slots Q (pc + 1) L (.int v :: rest)) : gk_G p l e R s m args below meth c E nL S cells slots Q pc L (rest) := fun H locs ls hR hS hl => lv_iconst X.1 X.2.1 hdg hv (k H locs ls hR hS hl)
theorem g_bipush (X : gk_X p s m args meth c cc own nL E) {n : Int} {v : Int32} (hdg : decode cc pc = .ok (.bipush n, 2)) (hv : (Int8.ofInt n).toInt32 = v) (k : gk_G p l e R s m args below meth c E nL S cells slots Q (pc + 2) L (.int v :: rest)) : gk_G p l e R s m args below meth c E nL S cells slots Q pc L (rest) := fun H locs ls hR hS hl => lv_bipush X.1 X.2.1 hdg hv (k H locs ls hR hS hl)
theorem g_sipush (X : gk_X p s m args meth c cc own nL E) {n : Int} {v : Int32} (hdg : decode cc pc = .ok (.sipush n, 3)) (hv : (Int16.ofInt n).toInt32 = v) (k : gk_G p l e R s m args below meth c E nL S cells slots Q (pc + 3) L (.int v :: rest)) : gk_G p l e R s m args below meth c E nL S cells slots Q pc L (rest) := fun H locs ls hR hS hl => lv_sipush X.1 X.2.1 hdg hv (k H locs ls hR hS hl)
theorem g_lconst (X : gk_X p s m args meth c cc own nL E) {n : Fin 2} {v : Int64} (hdg : decode cc pc = .ok (.lconst n, 1)) (hv : Int64.ofNat (n : Nat) = v) (k : gk_G p l e R s m args below meth c E nL S cells slots Q (pc + 1) L (.long v :: rest)) : gk_G p l e R s m args below meth c E nL S cells slots Q pc L (rest) := fun H locs ls hR hS hl => lv_lconst X.1 X.2.1 hdg hv (k H locs ls hR hS hl)
theorem g_iadd (X : gk_X p s m args meth c cc own nL E) {x y : Int32} (hdg : decode cc pc = .ok (.iadd, 1)) (k : gk_G p l e R s m args below meth c E nL S cells slots Q (pc + 1) L (.int (x + y) :: rest)) : gk_G p l e R s m args below meth c E nL S cells slots Q pc L (.int y :: .int x :: rest) := fun H locs ls hR hS hl => lv_iadd X.1 X.2.1 hdg (k H locs ls hR hS hl)
theorem g_isub (X : gk_X p s m args meth c cc own nL E) {x y : Int32} (hdg : decode cc pc = .ok (.isub, 1)) (k : gk_G p l e R s m args below meth c E nL S cells slots Q (pc + 1) L (.int (x - y) :: rest)) : gk_G p l e R s m args below meth c E nL S cells slots Q pc L (.int y :: .int x :: rest) := fun H locs ls hR hS hl => lv_isub X.1 X.2.1 hdg (k H locs ls hR hS hl)
theorem g_imul (X : gk_X p s m args meth c cc own nL E) {x y : Int32} (hdg : decode cc pc = .ok (.imul, 1)) (k : gk_G p l e R s m args below meth c E nL S cells slots Q (pc + 1) L (.int (x * y) :: rest)) : gk_G p l e R s m args below meth c E nL S cells slots Q pc L (.int y :: .int x :: rest) := fun H locs ls hR hS hl => lv_imul X.1 X.2.1 hdg (k H locs ls hR hS hl)
theorem g_iand (X : gk_X p s m args meth c cc own nL E) {x y : Int32} (hdg : decode cc pc = .ok (.iand, 1)) (k : gk_G p l e R s m args below meth c E nL S cells slots Q (pc + 1) L (.int (x &&& y) :: rest)) : gk_G p l e R s m args below meth c E nL S cells slots Q pc L (.int y :: .int x :: rest) := fun H locs ls hR hS hl => lv_iand X.1 X.2.1 hdg (k H locs ls hR hS hl)
theorem g_ior (X : gk_X p s m args meth c cc own nL E) {x y : Int32} (hdg : decode cc pc = .ok (.ior, 1)) (k : gk_G p l e R s m args below meth c E nL S cells slots Q (pc + 1) L (.int (x ||| y) :: rest)) : gk_G p l e R s m args below meth c E nL S cells slots Q pc L (.int y :: .int x :: rest) := fun H locs ls hR hS hl => lv_ior X.1 X.2.1 hdg (k H locs ls hR hS hl)
theorem g_ixor (X : gk_X p s m args meth c cc own nL E) {x y : Int32} (hdg : decode cc pc = .ok (.ixor, 1)) (k : gk_G p l e R s m args below meth c E nL S cells slots Q (pc + 1) L (.int (x ^^^ y) :: rest)) : gk_G p l e R s m args below meth c E nL S cells slots Q pc L (.int y :: .int x :: rest) := fun H locs ls hR hS hl => lv_ixor X.1 X.2.1 hdg (k H locs ls hR hS hl)
theorem g_idiv (X : gk_X p s m args meth c cc own nL E) {x y : Int32} (hdg : decode cc pc = .ok (.idiv, 1)) (hne : ¬ y = 0) (k : gk_G p l e R s m args below meth c E nL S cells slots Q (pc + 1) L (.int (x / y) :: rest)) : gk_G p l e R s m args below meth c E nL S cells slots Q pc L (.int y :: .int x :: rest) := fun H locs ls hR hS hl => lv_idiv X.1 X.2.1 hdg hne (k H locs ls hR hS hl)
theorem g_irem (X : gk_X p s m args meth c cc own nL E) {x y : Int32} (hdg : decode cc pc = .ok (.irem, 1)) (hne : ¬ y = 0) (k : gk_G p l e R s m args below meth c E nL S cells slots Q (pc + 1) L (.int (x - x / y * y) :: rest)) : gk_G p l e R s m args below meth c E nL S cells slots Q pc L (.int y :: .int x :: rest) := fun H locs ls hR hS hl => lv_irem X.1 X.2.1 hdg hne (k H locs ls hR hS hl)
theorem g_ineg (X : gk_X p s m args meth c cc own nL E) {x : Int32} (hdg : decode cc pc = .ok (.ineg, 1)) (k : gk_G p l e R s m args below meth c E nL S cells slots Q (pc + 1) L (.int (-x) :: rest)) : gk_G p l e R s m args below meth c E nL S cells slots Q pc L (.int x :: rest) := fun H locs ls hR hS hl => lv_ineg X.1 X.2.1 hdg (k H locs ls hR hS hl)
theorem g_ladd (X : gk_X p s m args meth c cc own nL E) {x y : Int64} (hdg : decode cc pc = .ok (.ladd, 1)) (k : gk_G p l e R s m args below meth c E nL S cells slots Q (pc + 1) L (.long (x + y) :: rest)) : gk_G p l e R s m args below meth c E nL S cells slots Q pc L (.long y :: .long x :: rest) := fun H locs ls hR hS hl => lv_ladd X.1 X.2.1 hdg (k H locs ls hR hS hl)
theorem g_lsub (X : gk_X p s m args meth c cc own nL E) {x y : Int64} (hdg : decode cc pc = .ok (.lsub, 1)) (k : gk_G p l e R s m args below meth c E nL S cells slots Q (pc + 1) L (.long (x - y) :: rest)) : gk_G p l e R s m args below meth c E nL S cells slots Q pc L (.long y :: .long x :: rest) := fun H locs ls hR hS hl => lv_lsub X.1 X.2.1 hdg (k H locs ls hR hS hl)
theorem g_lmul (X : gk_X p s m args meth c cc own nL E) {x y : Int64} (hdg : decode cc pc = .ok (.lmul, 1)) (k : gk_G p l e R s m args below meth c E nL S cells slots Q (pc + 1) L (.long (x * y) :: rest)) : gk_G p l e R s m args below meth c E nL S cells slots Q pc L (.long y :: .long x :: rest) := fun H locs ls hR hS hl => lv_lmul X.1 X.2.1 hdg (k H locs ls hR hS hl)
theorem g_land (X : gk_X p s m args meth c cc own nL E) {x y : Int64} (hdg : decode cc pc = .ok (.land, 1)) (k : gk_G p l e R s m args below meth c E nL S cells slots Q (pc + 1) L (.long (x &&& y) :: rest)) : gk_G p l e R s m args below meth c E nL S cells slots Q pc L (.long y :: .long x :: rest) := fun H locs ls hR hS hl => lv_land X.1 X.2.1 hdg (k H locs ls hR hS hl)
theorem g_lor (X : gk_X p s m args meth c cc own nL E) {x y : Int64} (hdg : decode cc pc = .ok (.lor, 1)) (k : gk_G p l e R s m args below meth c E nL S cells slots Q (pc + 1) L (.long (x ||| y) :: rest)) : gk_G p l e R s m args below meth c E nL S cells slots Q pc L (.long y :: .long x :: rest) := fun H locs ls hR hS hl => lv_lor X.1 X.2.1 hdg (k H locs ls hR hS hl)
theorem g_lxor (X : gk_X p s m args meth c cc own nL E) {x y : Int64} (hdg : decode cc pc = .ok (.lxor, 1)) (k : gk_G p l e R s m args below meth c E nL S cells slots Q (pc + 1) L (.long (x ^^^ y) :: rest)) : gk_G p l e R s m args below meth c E nL S cells slots Q pc L (.long y :: .long x :: rest) := fun H locs ls hR hS hl => lv_lxor X.1 X.2.1 hdg (k H locs ls hR hS hl)
theorem g_ldiv (X : gk_X p s m args meth c cc own nL E) {x y : Int64} (hdg : decode cc pc = .ok (.ldiv, 1)) (hne : ¬ y = 0) (k : gk_G p l e R s m args below meth c E nL S cells slots Q (pc + 1) L (.long (x / y) :: rest)) : gk_G p l e R s m args below meth c E nL S cells slots Q pc L (.long y :: .long x :: rest) := fun H locs ls hR hS hl => lv_ldiv X.1 X.2.1 hdg hne (k H locs ls hR hS hl)
theorem g_lrem (X : gk_X p s m args meth c cc own nL E) {x y : Int64} (hdg : decode cc pc = .ok (.lrem, 1)) (hne : ¬ y = 0) (k : gk_G p l e R s m args below meth c E nL S cells slots Q (pc + 1) L (.long (x - x / y * y) :: rest)) : gk_G p l e R s m args below meth c E nL S cells slots Q pc L (.long y :: .long x :: rest) := fun H locs ls hR hS hl => lv_lrem X.1 X.2.1 hdg hne (k H locs ls hR hS hl)
theorem g_lneg (X : gk_X p s m args meth c cc own nL E) {x : Int64} (hdg : decode cc pc = .ok (.lneg, 1)) (k : gk_G p l e R s m args below meth c E nL S cells slots Q (pc + 1) L (.long (-x) :: rest)) : gk_G p l e R s m args below meth c E nL S cells slots Q pc L (.long x :: rest) := fun H locs ls hR hS hl => lv_lneg X.1 X.2.1 hdg (k H locs ls hR hS hl)
theorem g_ishl (X : gk_X p s m args meth c cc own nL E) {x y : Int32} (hdg : decode cc pc = .ok (.ishl, 1)) (k : gk_G p l e R s m args below meth c E nL S cells slots Q (pc + 1) L (.int (x <<< (y &&& 31)) :: rest)) : gk_G p l e R s m args below meth c E nL S cells slots Q pc L (.int y :: .int x :: rest) := fun H locs ls hR hS hl => lv_ishl X.1 X.2.1 hdg (k H locs ls hR hS hl)
theorem g_ishr (X : gk_X p s m args meth c cc own nL E) {x y : Int32} (hdg : decode cc pc = .ok (.ishr, 1)) (k : gk_G p l e R s m args below meth c E nL S cells slots Q (pc + 1) L (.int (x >>> (y &&& 31)) :: rest)) : gk_G p l e R s m args below meth c E nL S cells slots Q pc L (.int y :: .int x :: rest) := fun H locs ls hR hS hl => lv_ishr X.1 X.2.1 hdg (k H locs ls hR hS hl)
theorem g_i2l (X : gk_X p s m args meth c cc own nL E) {x : Int32} {v : Int64} (hdg : decode cc pc = .ok (.i2l, 1)) (hv : x.toInt64 = v) (k : gk_G p l e R s m args below meth c E nL S cells slots Q (pc + 1) L (.long v :: rest)) : gk_G p l e R s m args below meth c E nL S cells slots Q pc L (.int x :: rest) := fun H locs ls hR hS hl => lv_i2l X.1 X.2.1 hdg hv (k H locs ls hR hS hl)
theorem g_l2i (X : gk_X p s m args meth c cc own nL E) {x : Int64} {v : Int32} (hdg : decode cc pc = .ok (.l2i, 1)) (hv : x.toInt32 = v) (k : gk_G p l e R s m args below meth c E nL S cells slots Q (pc + 1) L (.int v :: rest)) : gk_G p l e R s m args below meth c E nL S cells slots Q pc L (.long x :: rest) := fun H locs ls hR hS hl => lv_l2i X.1 X.2.1 hdg hv (k H locs ls hR hS hl)
theorem g_i2b (X : gk_X p s m args meth c cc own nL E) {x : Int32} {v : Int32} (hdg : decode cc pc = .ok (.i2b, 1)) (hv : x.toInt8.toInt32 = v) (k : gk_G p l e R s m args below meth c E nL S cells slots Q (pc + 1) L (.int v :: rest)) : gk_G p l e R s m args below meth c E nL S cells slots Q pc L (.int x :: rest) := fun H locs ls hR hS hl => lv_i2b X.1 X.2.1 hdg hv (k H locs ls hR hS hl)
theorem g_i2c (X : gk_X p s m args meth c cc own nL E) {x : Int32} {v : Int32} (hdg : decode cc pc = .ok (.i2c, 1)) (hv : (x.toUInt32 % 65536).toInt32 = v) (k : gk_G p l e R s m args below meth c E nL S cells slots Q (pc + 1) L (.int v :: rest)) : gk_G p l e R s m args below meth c E nL S cells slots Q pc L (.int x :: rest) := fun H locs ls hR hS hl => lv_i2c X.1 X.2.1 hdg hv (k H locs ls hR hS hl)
theorem g_iushr (X : gk_X p s m args meth c cc own nL E) {x y v : Int32} (hdg : decode cc pc = .ok (.iushr, 1)) (hv : (x.toUInt32 >>> (y.toUInt32 &&& Int32.toUInt32 31)).toInt32 = v) (k : gk_G p l e R s m args below meth c E nL S cells slots Q (pc + 1) L (.int v :: rest)) : gk_G p l e R s m args below meth c E nL S cells slots Q pc L (.int y :: .int x :: rest) := fun H locs ls hR hS hl => lv_iushr X.1 X.2.1 hdg hv (k H locs ls hR hS hl)
theorem g_lushr (X : gk_X p s m args meth c cc own nL E) {x v : Int64} {y : Int32} (hdg : decode cc pc = .ok (.lushr, 1)) (hv : (x.toUInt64 >>> (y.toInt64.toUInt64 &&& Int64.toUInt64 63)).toInt64 = v) (k : gk_G p l e R s m args below meth c E nL S cells slots Q (pc + 1) L (.long v :: rest)) : gk_G p l e R s m args below meth c E nL S cells slots Q pc L (.int y :: .long x :: rest) := fun H locs ls hR hS hl => lv_lushr X.1 X.2.1 hdg hv (k H locs ls hR hS hl)
theorem g_lshl (X : gk_X p s m args meth c cc own nL E) {x v : Int64} {y : Int32} (hdg : decode cc pc = .ok (.lshl, 1)) (hv : x <<< (y.toInt64 &&& 63) = v) (k : gk_G p l e R s m args below meth c E nL S cells slots Q (pc + 1) L (.long v :: rest)) : gk_G p l e R s m args below meth c E nL S cells slots Q pc L (.int y :: .long x :: rest) := fun H locs ls hR hS hl => lv_lshl X.1 X.2.1 hdg hv (k H locs ls hR hS hl)
theorem g_lshr (X : gk_X p s m args meth c cc own nL E) {x v : Int64} {y : Int32} (hdg : decode cc pc = .ok (.lshr, 1)) (hv : x >>> (y.toInt64 &&& 63) = v) (k : gk_G p l e R s m args below meth c E nL S cells slots Q (pc + 1) L (.long v :: rest)) : gk_G p l e R s m args below meth c E nL S cells slots Q pc L (.int y :: .long x :: rest) := fun H locs ls hR hS hl => lv_lshr X.1 X.2.1 hdg hv (k H locs ls hR hS hl)
theorem g_dup (X : gk_X p s m args meth c cc own nL E) {va : Value} (hdg : decode cc pc = .ok (.dup, 1)) (hva : va.category = 1) (k : gk_G p l e R s m args below meth c E nL S cells slots Q (pc + 1) L (va :: va :: rest)) : gk_G p l e R s m args below meth c E nL S cells slots Q pc L (va :: rest) := fun H locs ls hR hS hl => lv_dup X.1 X.2.1 hdg hva (k H locs ls hR hS hl)
theorem g_pop (X : gk_X p s m args meth c cc own nL E) {va : Value} (hdg : decode cc pc = .ok (.pop, 1)) (hva : va.category = 1) (k : gk_G p l e R s m args below meth c E nL S cells slots Q (pc + 1) L (rest)) : gk_G p l e R s m args below meth c E nL S cells slots Q pc L (va :: rest) := fun H locs ls hR hS hl => lv_pop X.1 X.2.1 hdg hva (k H locs ls hR hS hl)
theorem g_dup_x1 (X : gk_X p s m args meth c cc own nL E) {va vb : Value} (hdg : decode cc pc = .ok (.dup_x1, 1)) (hva : va.category = 1) (hvb : vb.category = 1) (k : gk_G p l e R s m args below meth c E nL S cells slots Q (pc + 1) L (va :: vb :: va :: rest)) : gk_G p l e R s m args below meth c E nL S cells slots Q pc L (va :: vb :: rest) := fun H locs ls hR hS hl => lv_dup_x1 X.1 X.2.1 hdg hva hvb (k H locs ls hR hS hl)
theorem g_dup_x2 (X : gk_X p s m args meth c cc own nL E) {va vb vd : Value} (hdg : decode cc pc = .ok (.dup_x2, 1)) (hva : va.category = 1) (hvb : vb.category = 1) (hvd : vd.category = 1) (k : gk_G p l e R s m args below meth c E nL S cells slots Q (pc + 1) L (va :: vb :: vd :: va :: rest)) : gk_G p l e R s m args below meth c E nL S cells slots Q pc L (va :: vb :: vd :: rest) := fun H locs ls hR hS hl => lv_dup_x2 X.1 X.2.1 hdg hva hvb hvd (k H locs ls hR hS hl)
theorem g_dup2_11 (X : gk_X p s m args meth c cc own nL E) {va vb : Value} (hdg : decode cc pc = .ok (.dup2, 1)) (hva : va.category = 1) (hvb : vb.category = 1) (k : gk_G p l e R s m args below meth c E nL S cells slots Q (pc + 1) L (va :: vb :: va :: vb :: rest)) : gk_G p l e R s m args below meth c E nL S cells slots Q pc L (va :: vb :: rest) := fun H locs ls hR hS hl => lv_dup2_11 X.1 X.2.1 hdg hva hvb (k H locs ls hR hS hl)
theorem g_dup2_2 (X : gk_X p s m args meth c cc own nL E) {va : Value} (hdg : decode cc pc = .ok (.dup2, 1)) (hva : va.category = 2) (k : gk_G p l e R s m args below meth c E nL S cells slots Q (pc + 1) L (va :: va :: rest)) : gk_G p l e R s m args below meth c E nL S cells slots Q pc L (va :: rest) := fun H locs ls hR hS hl => lv_dup2_2 X.1 X.2.1 hdg hva (k H locs ls hR hS hl)
theorem g_pop2_2 (X : gk_X p s m args meth c cc own nL E) {va : Value} (hdg : decode cc pc = .ok (.pop2, 1)) (hva : va.category = 2) (k : gk_G p l e R s m args below meth c E nL S cells slots Q (pc + 1) L (rest)) : gk_G p l e R s m args below meth c E nL S cells slots Q pc L (va :: rest) := fun H locs ls hR hS hl => lv_pop2_2 X.1 X.2.1 hdg hva (k H locs ls hR hS hl)
theorem g_if_eq (X : gk_X p s m args meth c cc own nL E) {x : Int32} {off : Int} {tgt : Nat} (hdg : decode cc pc = .ok (.ifCond .eq off, 3)) (ht : (pc : Int) + off = (tgt : Int)) (kt : x = 0 → gk_G p l e R s m args below meth c E nL S cells slots Q tgt L rest) (kf : ¬ x = 0 → gk_G p l e R s m args below meth c E nL S cells slots Q (pc + 3) L rest) : gk_G p l e R s m args below meth c E nL S cells slots Q pc L (.int x :: rest) := fun H locs ls hR hS hl => lv_if_eq X.1 X.2.1 hdg ht (fun z => kt z H locs ls hR hS hl) (fun z => kf z H locs ls hR hS hl)
theorem g_if_ne (X : gk_X p s m args meth c cc own nL E) {x : Int32} {off : Int} {tgt : Nat} (hdg : decode cc pc = .ok (.ifCond .ne off, 3)) (ht : (pc : Int) + off = (tgt : Int)) (kt : ¬ x = 0 → gk_G p l e R s m args below meth c E nL S cells slots Q tgt L rest) (kf : x = 0 → gk_G p l e R s m args below meth c E nL S cells slots Q (pc + 3) L rest) : gk_G p l e R s m args below meth c E nL S cells slots Q pc L (.int x :: rest) := fun H locs ls hR hS hl => lv_if_ne X.1 X.2.1 hdg ht (fun z => kt z H locs ls hR hS hl) (fun z => kf z H locs ls hR hS hl)
theorem g_if_lt (X : gk_X p s m args meth c cc own nL E) {x : Int32} {off : Int} {tgt : Nat} (hdg : decode cc pc = .ok (.ifCond .lt off, 3)) (ht : (pc : Int) + off = (tgt : Int)) (kt : x < 0 → gk_G p l e R s m args below meth c E nL S cells slots Q tgt L rest) (kf : ¬ x < 0 → gk_G p l e R s m args below meth c E nL S cells slots Q (pc + 3) L rest) : gk_G p l e R s m args below meth c E nL S cells slots Q pc L (.int x :: rest) := fun H locs ls hR hS hl => lv_if_lt X.1 X.2.1 hdg ht (fun z => kt z H locs ls hR hS hl) (fun z => kf z H locs ls hR hS hl)
theorem g_if_ge (X : gk_X p s m args meth c cc own nL E) {x : Int32} {off : Int} {tgt : Nat} (hdg : decode cc pc = .ok (.ifCond .ge off, 3)) (ht : (pc : Int) + off = (tgt : Int)) (kt : 0 ≤ x → gk_G p l e R s m args below meth c E nL S cells slots Q tgt L rest) (kf : ¬ 0 ≤ x → gk_G p l e R s m args below meth c E nL S cells slots Q (pc + 3) L rest) : gk_G p l e R s m args below meth c E nL S cells slots Q pc L (.int x :: rest) := fun H locs ls hR hS hl => lv_if_ge X.1 X.2.1 hdg ht (fun z => kt z H locs ls hR hS hl) (fun z => kf z H locs ls hR hS hl)
theorem g_if_gt (X : gk_X p s m args meth c cc own nL E) {x : Int32} {off : Int} {tgt : Nat} (hdg : decode cc pc = .ok (.ifCond .gt off, 3)) (ht : (pc : Int) + off = (tgt : Int)) (kt : 0 < x → gk_G p l e R s m args below meth c E nL S cells slots Q tgt L rest) (kf : ¬ 0 < x → gk_G p l e R s m args below meth c E nL S cells slots Q (pc + 3) L rest) : gk_G p l e R s m args below meth c E nL S cells slots Q pc L (.int x :: rest) := fun H locs ls hR hS hl => lv_if_gt X.1 X.2.1 hdg ht (fun z => kt z H locs ls hR hS hl) (fun z => kf z H locs ls hR hS hl)
theorem g_if_le (X : gk_X p s m args meth c cc own nL E) {x : Int32} {off : Int} {tgt : Nat} (hdg : decode cc pc = .ok (.ifCond .le off, 3)) (ht : (pc : Int) + off = (tgt : Int)) (kt : x ≤ 0 → gk_G p l e R s m args below meth c E nL S cells slots Q tgt L rest) (kf : ¬ x ≤ 0 → gk_G p l e R s m args below meth c E nL S cells slots Q (pc + 3) L rest) : gk_G p l e R s m args below meth c E nL S cells slots Q pc L (.int x :: rest) := fun H locs ls hR hS hl => lv_if_le X.1 X.2.1 hdg ht (fun z => kt z H locs ls hR hS hl) (fun z => kf z H locs ls hR hS hl)
theorem g_icmp_eq (X : gk_X p s m args meth c cc own nL E) {x y : Int32} {off : Int} {tgt : Nat} (hdg : decode cc pc = .ok (.if_icmp .eq off, 3)) (ht : (pc : Int) + off = (tgt : Int)) (kt : x = y → gk_G p l e R s m args below meth c E nL S cells slots Q tgt L rest) (kf : ¬ x = y → gk_G p l e R s m args below meth c E nL S cells slots Q (pc + 3) L rest) : gk_G p l e R s m args below meth c E nL S cells slots Q pc L (.int y :: .int x :: rest) := fun H locs ls hR hS hl => lv_icmp_eq X.1 X.2.1 hdg ht (fun z => kt z H locs ls hR hS hl) (fun z => kf z H locs ls hR hS hl)
theorem g_icmp_ne (X : gk_X p s m args meth c cc own nL E) {x y : Int32} {off : Int} {tgt : Nat} (hdg : decode cc pc = .ok (.if_icmp .ne off, 3)) (ht : (pc : Int) + off = (tgt : Int)) (kt : ¬ x = y → gk_G p l e R s m args below meth c E nL S cells slots Q tgt L rest) (kf : x = y → gk_G p l e R s m args below meth c E nL S cells slots Q (pc + 3) L rest) : gk_G p l e R s m args below meth c E nL S cells slots Q pc L (.int y :: .int x :: rest) := fun H locs ls hR hS hl => lv_icmp_ne X.1 X.2.1 hdg ht (fun z => kt z H locs ls hR hS hl) (fun z => kf z H locs ls hR hS hl)
theorem g_icmp_lt (X : gk_X p s m args meth c cc own nL E) {x y : Int32} {off : Int} {tgt : Nat} (hdg : decode cc pc = .ok (.if_icmp .lt off, 3)) (ht : (pc : Int) + off = (tgt : Int)) (kt : x < y → gk_G p l e R s m args below meth c E nL S cells slots Q tgt L rest) (kf : ¬ x < y → gk_G p l e R s m args below meth c E nL S cells slots Q (pc + 3) L rest) : gk_G p l e R s m args below meth c E nL S cells slots Q pc L (.int y :: .int x :: rest) := fun H locs ls hR hS hl => lv_icmp_lt X.1 X.2.1 hdg ht (fun z => kt z H locs ls hR hS hl) (fun z => kf z H locs ls hR hS hl)
theorem g_icmp_ge (X : gk_X p s m args meth c cc own nL E) {x y : Int32} {off : Int} {tgt : Nat} (hdg : decode cc pc = .ok (.if_icmp .ge off, 3)) (ht : (pc : Int) + off = (tgt : Int)) (kt : y ≤ x → gk_G p l e R s m args below meth c E nL S cells slots Q tgt L rest) (kf : ¬ y ≤ x → gk_G p l e R s m args below meth c E nL S cells slots Q (pc + 3) L rest) : gk_G p l e R s m args below meth c E nL S cells slots Q pc L (.int y :: .int x :: rest) := fun H locs ls hR hS hl => lv_icmp_ge X.1 X.2.1 hdg ht (fun z => kt z H locs ls hR hS hl) (fun z => kf z H locs ls hR hS hl)
theorem g_icmp_gt (X : gk_X p s m args meth c cc own nL E) {x y : Int32} {off : Int} {tgt : Nat} (hdg : decode cc pc = .ok (.if_icmp .gt off, 3)) (ht : (pc : Int) + off = (tgt : Int)) (kt : y < x → gk_G p l e R s m args below meth c E nL S cells slots Q tgt L rest) (kf : ¬ y < x → gk_G p l e R s m args below meth c E nL S cells slots Q (pc + 3) L rest) : gk_G p l e R s m args below meth c E nL S cells slots Q pc L (.int y :: .int x :: rest) := fun H locs ls hR hS hl => lv_icmp_gt X.1 X.2.1 hdg ht (fun z => kt z H locs ls hR hS hl) (fun z => kf z H locs ls hR hS hl)
theorem g_icmp_le (X : gk_X p s m args meth c cc own nL E) {x y : Int32} {off : Int} {tgt : Nat} (hdg : decode cc pc = .ok (.if_icmp .le off, 3)) (ht : (pc : Int) + off = (tgt : Int)) (kt : x ≤ y → gk_G p l e R s m args below meth c E nL S cells slots Q tgt L rest) (kf : ¬ x ≤ y → gk_G p l e R s m args below meth c E nL S cells slots Q (pc + 3) L rest) : gk_G p l e R s m args below meth c E nL S cells slots Q pc L (.int y :: .int x :: rest) := fun H locs ls hR hS hl => lv_icmp_le X.1 X.2.1 hdg ht (fun z => kt z H locs ls hR hS hl) (fun z => kf z H locs ls hR hS hl)
theorem g_goto (X : gk_X p s m args meth c cc own nL E) {off : Int} {tgt : Nat} (hdg : decode cc pc = .ok (.goto off, 3)) (ht : (pc : Int) + off = (tgt : Int)) (k : gk_G p l e R s m args below meth c E nL S cells slots Q tgt L rest) : gk_G p l e R s m args below meth c E nL S cells slots Q pc L rest := fun H locs ls hR hS hl => lv_goto X.1 X.2.1 hdg ht (k H locs ls hR hS hl)
theorem g_tableIn (X : gk_X p s m args meth c cc own nL E) {dflt lo hi : Int} {offs : Array Int} {len : Nat} {x : Int32} {off : Int} {tgt : Nat} (hdg : decode cc pc = .ok (.tableswitch dflt lo hi offs, len)) (h1 : ¬ x.toInt < lo) (h2 : ¬ hi < x.toInt) (ho : offs[(x.toInt - lo).toNat]? = some off) (ht : (pc : Int) + off = (tgt : Int)) (k : gk_G p l e R s m args below meth c E nL S cells slots Q tgt L rest) : gk_G p l e R s m args below meth c E nL S cells slots Q pc L (.int x :: rest) := fun H locs ls hR hS hl => lv_tableIn X.1 X.2.1 hdg h1 h2 ho ht (k H locs ls hR hS hl)
theorem g_tableOut (X : gk_X p s m args meth c cc own nL E) {dflt lo hi : Int} {offs : Array Int} {len : Nat} {x : Int32} {tgt : Nat} (hdg : decode cc pc = .ok (.tableswitch dflt lo hi offs, len)) (h : x.toInt < lo ∨ hi < x.toInt) (ht : (pc : Int) + dflt = (tgt : Int)) (k : gk_G p l e R s m args below meth c E nL S cells slots Q tgt L rest) : gk_G p l e R s m args below meth c E nL S cells slots Q pc L (.int x :: rest) := fun H locs ls hR hS hl => lv_tableOut X.1 X.2.1 hdg h ht (k H locs ls hR hS hl)
theorem g_lookup (X : gk_X p s m args meth c cc own nL E) {dflt : Int} {ps : Array (Int × Int)} {len : Nat} {x : Int32} {off : Int} {tgt : Nat} (hdg : decode cc pc = .ok (.lookupswitch dflt ps, len)) (hp : (ps.toList.zip (ps.toList.drop 1)).all (fun (a, next) => a.1 < next.1) = true) (ho : Op.lookupswitch.offset ps.toList dflt x.toInt = off) (ht : (pc : Int) + off = (tgt : Int)) (k : gk_G p l e R s m args below meth c E nL S cells slots Q tgt L rest) : gk_G p l e R s m args below meth c E nL S cells slots Q pc L (.int x :: rest) := fun H locs ls hR hS hl => lv_lookup X.1 X.2.1 hdg hp ho ht (k H locs ls hR hS hl)
theorem g_ifnull (X : gk_X p s m args meth c cc own nL E) {x : Nat} {off : Int} (hdg : decode cc pc = .ok (.ifnull off, 3)) (k : gk_G p l e R s m args below meth c E nL S cells slots Q (pc + 3) L rest) : gk_G p l e R s m args below meth c E nL S cells slots Q pc L (.ref x :: rest) := fun H locs ls hR hS hl => lv_ifnull X.1 X.2.1 hdg (k H locs ls hR hS hl)
theorem g_ifnonnull (X : gk_X p s m args meth c cc own nL E) {x : Nat} {off : Int} {tgt : Nat} (hdg : decode cc pc = .ok (.ifnonnull off, 3)) (ht : (pc : Int) + off = (tgt : Int)) (k : gk_G p l e R s m args below meth c E nL S cells slots Q tgt L rest) : gk_G p l e R s m args below meth c E nL S cells slots Q pc L (.ref x :: rest) := fun H locs ls hR hS hl => lv_ifnonnull X.1 X.2.1 hdg ht (k H locs ls hR hS hl)
theorem g_ifnullN (X : gk_X p s m args meth c cc own nL E) {off : Int} {tgt : Nat} (hdg : decode cc pc = .ok (.ifnull off, 3)) (ht : (pc : Int) + off = (tgt : Int)) (k : gk_G p l e R s m args below meth c E nL S cells slots Q tgt L rest) : gk_G p l e R s m args below meth c E nL S cells slots Q pc L (.null :: rest) := fun H locs ls hR hS hl => lv_ifnullN X.1 X.2.1 hdg ht (k H locs ls hR hS hl)
theorem g_ifnonnullN (X : gk_X p s m args meth c cc own nL E) {off : Int} (hdg : decode cc pc = .ok (.ifnonnull off, 3)) (k : gk_G p l e R s m args below meth c E nL S cells slots Q (pc + 3) L rest) : gk_G p l e R s m args below meth c E nL S cells slots Q pc L (.null :: rest) := fun H locs ls hR hS hl => lv_ifnonnullN X.1 X.2.1 hdg (k H locs ls hR hS hl)
theorem g_null (X : gk_X p s m args meth c cc own nL E) (hdg : decode cc pc = .ok (.aconst_null, 1)) (k : gk_G p l e R s m args below meth c E nL S cells slots Q (pc + 1) L (.null :: rest)) : gk_G p l e R s m args below meth c E nL S cells slots Q pc L rest := fun H locs ls hR hS hl => lv_null X.1 X.2.1 hdg (k H locs ls hR hS hl)
theorem g_acmp_eq (X : gk_X p s m args meth c cc own nL E) {rx ry : Option Nat} {off : Int} {tgt : Nat} (hdg : decode cc pc = .ok (.if_acmp .eq off, 3)) (ht : (pc : Int) + off = (tgt : Int)) (kt : rx = ry → gk_G p l e R s m args below meth c E nL S cells slots Q tgt L rest) (kf : ¬ rx = ry → gk_G p l e R s m args below meth c E nL S cells slots Q (pc + 3) L rest) : gk_G p l e R s m args below meth c E nL S cells slots Q pc L (va_rf ry :: va_rf rx :: rest) := fun H locs ls hR hS hl => lv_acmp_eq X.1 X.2.1 hdg ht (fun z => kt z H locs ls hR hS hl) (fun z => kf z H locs ls hR hS hl)
theorem g_acmp_ne (X : gk_X p s m args meth c cc own nL E) {rx ry : Option Nat} {off : Int} {tgt : Nat} (hdg : decode cc pc = .ok (.if_acmp .ne off, 3)) (ht : (pc : Int) + off = (tgt : Int)) (kt : ¬ rx = ry → gk_G p l e R s m args below meth c E nL S cells slots Q tgt L rest) (kf : rx = ry → gk_G p l e R s m args below meth c E nL S cells slots Q (pc + 3) L rest) : gk_G p l e R s m args below meth c E nL S cells slots Q pc L (va_rf ry :: va_rf rx :: rest) := fun H locs ls hR hS hl => lv_acmp_ne X.1 X.2.1 hdg ht (fun z => kt z H locs ls hR hS hl) (fun z => kf z H locs ls hR hS hl)
theorem g_lcmp (X : gk_X p s m args meth c cc own nL E) {x y : Int64} (hdg : decode cc pc = .ok (.lcmp, 1)) (k : gk_G p l e R s m args below meth c E nL S cells slots Q (pc + 1) L (.int (lg_cmp x y) :: rest)) : gk_G p l e R s m args below meth c E nL S cells slots Q pc L (.long y :: .long x :: rest) := fun H locs ls hR hS hl => W.lcmp X.1 X.2.1 hdg (k H locs ls hR hS hl)
end GK1
