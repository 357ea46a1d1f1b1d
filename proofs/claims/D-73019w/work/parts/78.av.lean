def frD : Nat → Nat
  | 0 => 0
  | d + 1 => frD d + 4
def loD : Nat → Nat
  | 0 => 0
  | d + 1 => loD d + 120
theorem frD_eq : ∀ d, frD d = 4 * d
  | 0 => rfl
  | d + 1 => by show frD d + 4 = _; rw [frD_eq d]; omega
theorem loD_eq : ∀ d, loD d = 120 * d
  | 0 => rfl
  | d + 1 => by show loD d + 120 = _; rw [loD_eq d]; omega
/-- what den says of a call of of / is -/
def imP (l : Launch) (E : gk_E) (S : gk_S) (a1 : Nat) (v : Nat → Int32) (d : Nat) : Bool → Nat → mnB → Prop
  | true, a, M => gk_Im l E gk_ofT (frD d) (loD d) a [.ref a1] S (fun r S' => r = some (.long (M v)) ∧ S' = S)
  | false, a, M => gk_Im l E gk_isT (frD d) (loD d) a [.ref a1] S (fun r S' => r = some (.int (bP (M v = 1))) ∧ S' = S)
theorem lsD.ls {E : gk_E} {S : gk_S} {h : gk_H} {a k : Nat} {x : Nat → Option Nat} (hh : ∀ q e, h q = some e → S.2.2.2 q = some e) (z : lsD E h a k x) : ∃ (mo : Int32) (b n : Nat), LsA E S a mo b n k x := by
  obtain ⟨mo, b, n, h1, h2, h3⟩ := z
  exact ⟨mo, b, n, hh _ _ h1, rd_dy (hh _ _ h2), h3⟩
set_option maxHeartbeats 1000000 in
theorem den_im {l : Launch} {E : gk_E} (ho : E.2.2.2.2 = true) {S : gk_S} {a1 : Nat} {v : Nat → Int32} {ic : Nat → Nat} {h : gk_H} (hh : ∀ q e, h q = some e → S.2.2.2 q = some e) (hv : gk_Rd E S a1 (.inl (E.2.1 0, 18, .inl v))) (hic : icA S ic) : ∀ {d : Nat} {b : Bool} {a : Nat} {M : mnB}, den E ic h d b a M → imP l E S a1 v d b a M
  | 0, _, _, _, z => z.elim
  | d + 1, true, a, M, z => by
    have ih : ∀ {b a M}, den E ic h d b a M → imP l E S a1 v d b a M := fun z => den_im ho hh hv hic z
    rcases z with ⟨n, h0, h1, rfl⟩ | ⟨k, h0, h1, rfl⟩ | ⟨b, N, h1, h2, rfl⟩ | ⟨b, N, h1, h2, rfl⟩ | ⟨b, c, N, P, h1, h2, h3, rfl⟩ | ⟨q, b, c, K, N, P, h1, h2, h3, h4, rfl⟩ | ⟨b, o1, o2, k, N, o, Y, x, w, h1, h2, h3, h4, h5, rfl⟩
    · exact ⟨yX8_of, cX8_of, 2, (some .long), RX8, TX8, 1, 8, _, List.mem_of_getElem? (i := 1) rfl, rfl, (rd_dy (hh _ _ h1)), k_X8_of ho (rd_dy (hh _ _ h1)), by decide, q933, q931, q156, q935⟩
    · exact ⟨yX11_of, cX11_of, 2, (some .long), RX11, TX11, 1, 11, _, List.mem_of_getElem? (i := 4) rfl, rfl, (rd_dy (hh _ _ h1)), k_X11_of ho (rd_dy (hh _ _ h1)) h0 hv, by decide, q927, q925, q159, q929⟩
    · exact ⟨yX13_of, cX13_of, 2, (some .long), RX13, TX13, 1, 13, _, List.mem_of_getElem? (i := 6) rfl, rfl, (rd_dy (hh _ _ h1)), k_X13_of ho (rd_dy (hh _ _ h1)) (ih h2), by decide, q919, q917, q161, q921⟩
    · exact ⟨yX12_of, cX12_of, 4, (some .long), RX12, TX12, 1, 12, _, List.mem_of_getElem? (i := 5) rfl, rfl, (rd_dy (hh _ _ h1)), k_X12_of ho (rd_dy (hh _ _ h1)) (ih h2) hv, by decide, q893, q891, q160, q895⟩
    · exact ⟨yX10_of, cX10_of, 2, (some .long), RX10, TX10, 2, 10, _, List.mem_of_getElem? (i := 3) rfl, rfl, (rd_dy (hh _ _ h1)), k_X10_of ho (rd_dy (hh _ _ h1)) (ih h2) (ih h3), by decide, q884, q882, q158, q886⟩
    · exact ⟨yX9_of, cX9_of, 2, (some .long), RX9, TX9, 3, 9, _, List.mem_of_getElem? (i := 2) rfl, rfl, (rd_dy (hh _ _ h1)), k_X9_of ho (rd_dy (hh _ _ h1)) (ih h2) (ih h3) (ih h4), by decide, q901, q899, q157, q903⟩
    · obtain ⟨mo2, b2, n2, l2⟩ := h3.ls hh
      obtain ⟨mo3, b3, n3, l3⟩ := h4.ls hh
      exact ⟨yX7_of, cX7_of, 10, (some .long), RX7, TX7, 3, 7, _, List.mem_of_getElem? (i := 0) rfl, rfl, (rd_dy (hh _ _ h1)), k_X7_of ho (rd_dy (hh _ _ h1)) (ih h2) l2 l3 (fun i hi => ⟨(h5 i hi).1.imp fun q hq => ⟨hq.1, show imP l E S a1 v d true q (Y i) from ih hq.2⟩, (h5 i hi).2⟩) hic, by decide, q876, q874, q155, q878⟩
  | d + 1, false, a, M, z => by
    have ih : ∀ {b a M}, den E ic h d b a M → imP l E S a1 v d b a M := fun z => den_im ho hh hv hic z
    rcases z with ⟨b, N, h1, h2, rfl⟩ | ⟨b, c, o, N, P, h1, h2, h3, h4, rfl⟩ | ⟨and, o1, k, Y, x, h1, h2, h3, rfl⟩
    · exact ⟨yX6_is, cX6_is, 2, (some .boolean), RX6, TX6, 1, 6, _, List.mem_of_getElem? (i := 7) rfl, rfl, (rd_dy (hh _ _ h1)), k_X6_is ho (rd_dy (hh _ _ h1)) (ih h2), by decide, q909, q907, q154, q911⟩
    · exact ⟨yX14_is, cX14_is, 4, (some .boolean), RX14, TX14, 3, 14, _, List.mem_of_getElem? (i := 8) rfl, rfl, (rd_dy (hh _ _ h1)), k_X14_is ho (rd_dy (hh _ _ h1)) h2 (ih h3) (ih h4), by decide, q866, q864, q166, q868⟩
    · obtain ⟨mo2, b2, n2, l2⟩ := h2.ls hh
      exact ⟨yX15_is, cX15_is, 4, (some .boolean), RX15, TX15, 2, 15, _, List.mem_of_getElem? (i := 9) rfl, rfl, (rd_dy (hh _ _ h1)), k_X15_is ho (rd_dy (hh _ _ h1)) l2 (fun i hi => (h3 i hi).imp fun q hq => ⟨hq.1, show imP l E S a1 v d false q (Y i) from ih hq.2⟩), by decide, q855, q853, q168, q857⟩
