set_option maxRecDepth 100000
/-! what the model's methods ask of its cells; the law's own rows -/
def MH (S : ST) : Prop := MU S ∧ MF S ∧ inN (S 513 0) 120
theorem MH.to {S X : ST} (h : MH S) (e : ∀ k, 513 ≤ k → k < 535 → X k = S k) : MH X := by
  obtain ⟨⟨a, b, c, d⟩, ⟨-, f, g⟩, i⟩ := h
  have e3 := e 513 (by decide) (by decide)
  have hI : MI X := a.to (by rw [e3]) (e 521 (by decide) (by decide)) (e 522 (by decide) (by decide))
  refine ⟨⟨hI, ?_, by rw [e3]; exact c, by rw [e3]; exact d⟩, ⟨hI, by rw [e3]; exact f, by rw [e3, e 530 (by decide) (by decide)]; exact g⟩, by rw [e3]; exact i⟩
  rw [e 527 (by decide) (by decide)]
  exact b.toS (by rw [e3]) (e 522 (by decide) (by decide))
theorem RL.mh {C M : ST} (h : RL C M) : MH M := by
  obtain ⟨h1, h2, ⟨c, -, hg⟩, h4, h5, ⟨n, a, hb, hf, u, w, hU⟩, ⟨k, k1, -, k2, k3⟩, ⟨l, l1, -, l2, -⟩, h9⟩ := h
  refine ⟨⟨h1.1, hg.2.1, inN.of hU.2.1.2 (by have := hU.1.2.1; omega) (by decide), inN.of hU.2.1.1 hU.1.1 (by decide)⟩, ⟨h1.1, inN.of k2 k1 (by decide), fun q hq => ?_⟩, inN.of l2 l1 (by decide)⟩
  rw [k2, nn_of (by omega)] at hq
  obtain ⟨t, m, ht, -, ⟨-, ht2⟩, -⟩ := k3 q hq
  have := h1.1.n
  exact inN.of ht2 (by omega) (by decide)
section VL
variable {G : GT} {x : VX} {own : String} {cc : ByteArray} {nL : Nat} {Q : State → Prop} {lv : List (Nat × Value)} {st : List Value} {N : Nat} {h : Nat → va_E} {a b pc sc L : Nat} {ys : Nat → Int32}
theorem v_slen (hX : va_X sc L ys (xs x) (xs x).heap) (hbl : sc < (xs x).heap.size) (hbZ : sc < gZ G) (hd : decode cc pc = .ok (.arraylength, 1)) (kk : V G x own cc nL Q (pc + 1) lv (.int (nI L) :: st) N h a b) : V G x own cc nL Q pc lv (.ref sc :: st) N h a b := fun C H locs ls w s l => va_slen C.1.1 C.1.2.1 hX hbl (Nat.not_le.mpr hbZ) s hd (kk C H locs ls w s l)
theorem v_sld {j : Nat} (hX : va_X sc L ys (xs x) (xs x).heap) (hbl : sc < (xs x).heap.size) (hbZ : sc < gZ G) (hj : j < L) (hL : L < 2 ^ 31) (hd : decode cc pc = .ok (.iaload, 1)) (kk : V G x own cc nL Q (pc + 1) lv (.int (ys j) :: st) N h a b) : V G x own cc nL Q pc lv (.int (nI j) :: .ref sc :: st) N h a b := fun C H locs ls w s l => va_sld C.1.1 C.1.2.1 hX hbl (Nat.not_le.mpr hbZ) s (nI_vp hj hL) hd (by rw [nI_clamp (by omega)]; exact kk C H locs ls w s l)
end VL
theorem law_lt {L i : Nat} (hL : L ≤ 256) (hi : i ≤ 300) : nI L - nI 4 < nI i ↔ L < i + 4 := by
  rcases Nat.lt_or_ge L 4 with h | h
  · refine ⟨fun _ => by omega, fun _ => ?_⟩
    have hz : nI L - nI 4 < nI 0 := by
      have : L = 0 ∨ L = 1 ∨ L = 2 ∨ L = 3 := by omega
      rcases this with rfl | rfl | rfl | rfl <;> decide
    exact Int32.lt_of_lt_of_le hz ((nI_leI (by omega) (by omega)).mpr (Nat.zero_le _))
  · obtain ⟨m, rfl⟩ : ∃ m, L = m + 4 := ⟨L - 4, by omega⟩
    have e : nI (m + 4) - nI 4 = nI m := by
      rw [show nI (m + 4) = nI m + nI 4 from (nI_add _ _).symm, Int32.add_sub_cancel]
    rw [e, nI_ltI (by omega) (by omega)]
    omega
