set_option maxRecDepth 100000
/-! SIM is kept: one task, a line of the trace, a code, the asked -/
theorem nn_of {z : Nat} (h : z < 2 ^ 31) : nn (nI z) = z := nI_clamp h
theorem Sim.task {M : ST} {c g c' g' : Nat → Int32} (h : Sim M c g) (hI : RI g) {t : Nat} (ht : t < 8) (hc : ∀ j, j < 18 * t ∨ 18 * t + 18 ≤ j → c' j = c j) (hg : ∀ j, j < 18 * t ∨ 18 * t + 18 ≤ j → g' j = g j) (h1 : S1 c' g' t) (hu : t < mN M) : Sim M c' g' := by
  obtain ⟨a, b, d, e, f, i⟩ := h
  refine ⟨fun q hq => ?_, fun q h2 h3 => ?_, ?_, ?_, ?_, fun k hk => ?_⟩
  · by_cases e : q = t
    · rw [e]; exact h1
    · exact (a q hq).frame (fun j hj => hc _ (by omega)) (fun j hj => hg _ (by omega)) (hg 144 (by omega)) (hI.2 q hq).2.2
  · rw [hg _ (by omega)]; exact b q h2 h3
  · rw [hc _ (by omega), hg _ (by omega)]; exact d
  · rw [hg _ (by omega)]; exact e
  · rw [hc _ (by omega), hg _ (by omega)]; exact f
  · rw [hg 145 (by omega)] at hk
    rw [hc _ (by omega), hg _ (by omega), hc _ (by omega), hg _ (by omega), hc _ (by omega), hg _ (by omega)]
    exact i k hk
theorem Sim.tr {M : ST} {c g : Nat → Int32} (h : Sim M c g) (hI : RI g) (t w : Int32) : Sim M (rTr c t w) (rTr g t w) := by
  have hh := h
  obtain ⟨a, b, d, e, f, i⟩ := h
  obtain ⟨k0, k1⟩ := hI.1
  unfold rTr
  rw [f, d]
  by_cases hc : g 145 < nI 60
  · rw [if_pos hc, if_pos hc]
    have hk : nn (g 145) < 60 := by rw [k0] at hc; exact (nI_ltI (by omega) (by decide)).mp hc
    have hE : g 145 + nI 1 = nI (nn (g 145) + 1) := nI_nat1 k0
    refine ⟨fun q hq => ?_, fun q h2 h3 => ?_, ?_, ?_, ?_, fun k hk2 => ?_⟩
    · exact (a q hq).frame (fun j hj => by rw [pk_un (by omega), pk_un (by omega), pk_un (by omega), pk_un (by omega)]) (fun j hj => by rw [pk_un (by omega), pk_un (by omega), pk_un (by omega), pk_un (by omega)]) (by rw [pk_un (by omega), pk_un (by omega), pk_un (by omega), pk_un (by omega)]) (hI.2 q hq).2.2
    · rw [pk_un (by omega), pk_un (by omega), pk_un (by omega), pk_un (by omega)]; exact b q h2 h3
    · rw [pk_un (by omega), pk_un (by omega), pk_un (by omega), pk_un (by omega), pk_un (by omega), pk_un (by omega), pk_un (by omega), pk_un (by omega)]; exact d
    · rw [pk_un (by omega), pk_un (by omega), pk_un (by omega), pk_un (by omega)]; exact e
    · rw [pk_us, pk_us]
    · rw [pk_us, hE, nn_of (by omega)] at hk2
      by_cases e2 : k = nn (g 145)
      · subst e2
        refine ⟨?_, ?_, ?_⟩
        · rw [pk_un (by omega), pk_un (by omega), pk_un (by omega), pk_us, pk_un (by omega), pk_un (by omega), pk_un (by omega), pk_us]
        · rw [pk_un (by omega), pk_un (by omega), pk_us, pk_un (by omega), pk_un (by omega), pk_us]
        · rw [pk_un (by omega), pk_us, pk_un (by omega), pk_us]
      · have hj := i k (by omega)
        have z : ∀ (r : Nat → Int32) (m : Nat), m < 3 → upd (upd (upd (upd r (146 + 3 * nn (g 145)) (g 144)) (146 + 3 * nn (g 145) + 1) t) (146 + 3 * nn (g 145) + 2) w) 145 (g 145 + nI 1) (146 + 3 * k + m) = r (146 + 3 * k + m) := fun r m hm => by rw [pk_un (by omega), pk_un (by omega), pk_un (by omega), pk_un (by omega)]
        exact ⟨(z c 0 (by decide)).trans (hj.1.trans (z g 0 (by decide)).symm), (z c 1 (by decide)).trans (hj.2.1.trans (z g 1 (by decide)).symm), (z c 2 (by decide)).trans (hj.2.2.trans (z g 2 (by decide)).symm)⟩
  · rw [if_neg hc, if_neg hc]; exact hh
theorem Sim.co {M : ST} {c g : Nat → Int32} (h : Sim M c g) (hI : RI g) {t : Nat} (ht : t < mN M) (h8 : mN M ≤ 8) (w : Int32) : Sim M (rCo c t w) (rCo g t w) := by
  have ht8 : t < 8 := by omega
  obtain ⟨⟨a0, a1, a2, a5, a8, a9⟩, b, d, e, f, i⟩ := h.1 t ht8
  obtain ⟨k0, k1⟩ := (hI.2 t ht8).2
  have h9 : inN (g (18 * t + 9)) 8 := ⟨k0, k1⟩
  have c9 : inN (c (18 * t + 9)) 8 := by rw [a9]; exact h9
  refine h.task hI ht8 (fun j hj => rCo_ne c9 (by omega)) (fun j hj => rCo_ne h9 (by omega)) ?_ ht
  unfold rCo
  rw [a9]
  by_cases hc : g (18 * t + 9) < nI 8
  · rw [if_pos hc, if_pos hc]
    have hk : nn (g (18 * t + 9)) < 8 := by rw [k0] at hc; exact (nI_ltI (by omega) (by decide)).mp hc
    have z : ∀ (r : Nat → Int32) (j : Nat), j < 9 → upd (upd r (18 * t + 10 + nn (g (18 * t + 9))) w) (18 * t + 9) (g (18 * t + 9) + nI 1) (18 * t + j) = r (18 * t + j) := fun r j hj => by rw [pk_un (by omega), pk_un (by omega)]
    have z0 : ∀ (r : Nat → Int32), upd (upd r (18 * t + 10 + nn (g (18 * t + 9))) w) (18 * t + 9) (g (18 * t + 9) + nI 1) (18 * t) = r (18 * t) := fun r => z r 0 (by decide)
    have z4 : upd (upd g (18 * t + 10 + nn (g (18 * t + 9))) w) (18 * t + 9) (g (18 * t + 9) + nI 1) 144 = g 144 := by rw [pk_un (by omega), pk_un (by omega)]
    refine ⟨⟨?_, ?_, ?_, ?_, ?_, ?_⟩, ?_, ?_, ?_, ?_, ?_⟩
    · rw [z0, z0]; exact a0
    · rw [z _ 1 (by decide), z _ 1 (by decide)]; exact a1
    · rw [z _ 2 (by decide), z _ 2 (by decide)]; exact a2
    · rw [z _ 5 (by decide), z _ 5 (by decide)]; exact a5
    · rw [z _ 8 (by decide), z _ 8 (by decide)]; exact a8
    · rw [pk_us, pk_us]
    · unfold Sb; rw [z0, z _ 5 (by decide)]; exact b
    · intro k hk2
      rw [pk_us, nI_nat1 k0, nn_of (by omega)] at hk2
      by_cases e2 : k = nn (g (18 * t + 9))
      · rw [e2, pk_un (by omega), pk_us, pk_un (by omega), pk_us]
      · rw [pk_un (by omega), pk_un (by omega), pk_un (by omega), pk_un (by omega)]; exact d k (by omega)
    · unfold Sw; rw [z0, z _ 3 (by decide), z _ 3 (by decide), z _ 6 (by decide)]; exact e
    · unfold Sd; rw [z0, z _ 4 (by decide), z _ 4 (by decide), z _ 7 (by decide), z _ 7 (by decide), z4]; exact f
    · unfold Se; rw [z0, z _ 8 (by decide), z4]; exact i
  · rw [if_neg hc, if_neg hc]; exact ⟨⟨a0, a1, a2, a5, a8, a9⟩, b, d, e, f, i⟩
