set_option maxRecDepth 100000
/-! SIM is kept: beginning a child -/
def ML (M : ST) : Prop := ∀ t, t < mN M → inN (M 524 t) 99
theorem dueR_min {a b a' b' : Int32} (h : dueR a b) (h' : dueR a' b') : dueR (if a' < a then a' else a) (if b' < b then b' else b) := by
  rcases h with ⟨rfl, rfl⟩ | ⟨rfl, e, k⟩ <;> rcases h' with ⟨rfl, rfl⟩ | ⟨rfl, e', k'⟩
  · rw [if_neg (by decide), if_neg (by decide)]; exact Or.inl ⟨rfl, rfl⟩
  · rw [if_pos (by rw [e']; exact (nI_ltI (by omega) (by decide)).mpr (by omega)), if_pos (by rw [e']; exact (nI_ltI (by omega) (by decide)).mpr (by omega))]
    exact Or.inr ⟨rfl, e', k'⟩
  · rw [if_neg (by rw [e]; exact fun z => absurd ((nI_ltI (by decide) (by omega)).mp z) (by omega)), if_neg (by rw [e]; exact fun z => absurd ((nI_ltI (by decide) (by omega)).mp z) (by omega))]
    exact Or.inr ⟨rfl, e, k⟩
  · split
    · exact Or.inr ⟨rfl, e', k'⟩
    · exact Or.inr ⟨rfl, e, k⟩
theorem dueR_new {T D : Int32} (hT : inN T 2000) (hD : inN D 99) : dueR (if D = nI 99 then nI 100000 else T + D) (if D = nI 99 then nI 9999 else T + D) := by
  by_cases e : D = nI 99
  · rw [if_pos e, if_pos e]; exact Or.inl ⟨rfl, rfl⟩
  · rw [if_neg e, if_neg e]
    refine Or.inr ⟨rfl, ?_⟩
    rw [hT.1, hD.1, nI_add]
    exact inN.of rfl (by have := hT.2; have := hD.2; omega) (by decide)
theorem Sim.beg {M : ST} (hM : MI M) (hL : ML M) {c g : Nat → Int32} (h : Sim M c g) (hI : RI g) {t q : Nat} (hq : q < mN M) (hp : M 521 q = nI t) (ht : t < q) (hr : ¬ g (18 * t) = nI 0) (h0 : g (18 * q) = nI 0) : Sim M (cBeg M c t q) (rBeg M g q) := by
  have h8 := hM.n
  have hq8 : q < 8 := by omega
  have ept : nn (M 521 q) = t := by rw [hp]; exact nn_of (by omega)
  have hpd := ((h.1 t (by omega)).2.2.2.2.1.2 hr).1
  obtain ⟨⟨a0, a1, a2, a5, a8, a9⟩, b, d, e, f, i⟩ := h.1 q hq8
  have t4 := h.2.2.1
  have tn := h.2.2.2.1
  unfold cBeg rBeg
  rw [ept]
  refine Sim.tr ?_ (((hI.up (by omega) (fun q _ => by omega) (fun q _ => by omega)).up (by omega) (fun q _ => by omega) (fun q _ => by omega)).up (by omega) (fun q _ => by omega) (fun q _ => by omega)) _ _
  have hD : dueR (cDue c (M 524 q) (c (18 * t + 4))) (if (if M 524 q = nI 99 then nI 9999 else g 144 + M 524 q) < g (18 * t + 4) then (if M 524 q = nI 99 then nI 9999 else g 144 + M 524 q) else g (18 * t + 4)) := by
    unfold cDue minI
    rw [t4]
    exact dueR_min hpd (dueR_new tn (hL q hq))
  generalize cDue c (M 524 q) (c (18 * t + 4)) = dc at hD ⊢
  generalize (if (if M 524 q = nI 99 then nI 9999 else g 144 + M 524 q) < g (18 * t + 4) then (if M 524 q = nI 99 then nI 9999 else g 144 + M 524 q) else g (18 * t + 4)) = dg at hD ⊢
  have z : ∀ (j : Nat), j ≠ 0 → j ≠ 4 → j ≠ 7 → upd (upd (upd c (18 * q) (nI 1)) (18 * q + 7) (c 144)) (18 * q + 4) dc (18 * q + j) = c (18 * q + j) := fun j h1 h2 h3 => by rw [pk_un (by omega), pk_un (by omega), pk_un (by omega)]
  have y : ∀ (j : Nat), j ≠ 0 → j ≠ 4 → j ≠ 7 → upd (upd (upd g (18 * q) (nI 1)) (18 * q + 4) dg) (18 * q + 7) (g 144) (18 * q + j) = g (18 * q + j) := fun j h1 h2 h3 => by rw [pk_un (by omega), pk_un (by omega), pk_un (by omega)]
  have y0 : upd (upd (upd g (18 * q) (nI 1)) (18 * q + 4) dg) (18 * q + 7) (g 144) (18 * q) = nI 1 := by rw [pk_un (by omega), pk_un (by omega), pk_us]
  have y4 : upd (upd (upd g (18 * q) (nI 1)) (18 * q + 4) dg) (18 * q + 7) (g 144) 144 = g 144 := by rw [pk_un (by omega), pk_un (by omega), pk_un (by omega)]
  refine h.task hI hq8 (fun j hj => by rw [pk_un (by omega), pk_un (by omega), pk_un (by omega)]) (fun j hj => by rw [pk_un (by omega), pk_un (by omega), pk_un (by omega)]) ?_ hq
  refine ⟨⟨?_, ?_, ?_, ?_, ?_, ?_⟩, ?_, ?_, ?_, ?_, ?_⟩
  · rw [y0, pk_un (by omega), pk_un (by omega), pk_us]
  · rw [z 1 (by decide) (by decide) (by decide), y 1 (by decide) (by decide) (by decide)]; exact a1
  · rw [z 2 (by decide) (by decide) (by decide), y 2 (by decide) (by decide) (by decide)]; exact a2
  · rw [z 5 (by decide) (by decide) (by decide), y 5 (by decide) (by decide) (by decide)]; exact a5
  · rw [z 8 (by decide) (by decide) (by decide), y 8 (by decide) (by decide) (by decide)]; exact a8
  · rw [z 9 (by decide) (by decide) (by decide), y 9 (by decide) (by decide) (by decide)]; exact a9
  · unfold Sb; rw [y0, y 5 (by decide) (by decide) (by decide)]; exact ⟨Or.inr (Or.inl rfl), b.2⟩
  · intro k hk
    rw [y 9 (by decide) (by decide) (by decide)] at hk
    rw [pk_un (by omega), pk_un (by omega), pk_un (by omega), pk_un (by omega), pk_un (by omega), pk_un (by omega)]; exact d k hk
  · unfold Sw
    rw [y0, z 3 (by decide) (by decide) (by decide), y 3 (by decide) (by decide) (by decide), y 6 (by decide) (by decide) (by decide)]
    exact ⟨fun _ => e.1 (Or.inl h0), fun z => absurd z (by decide)⟩
  · unfold Sd
    rw [y0, pk_us, pk_un (by omega : 18 * q + 4 ≠ 18 * q + 7), pk_us, pk_un (by omega : 18 * q + 7 ≠ 18 * q + 4), pk_us, pk_us, y4]
    exact ⟨fun z => absurd z (by decide), fun _ => ⟨hD, t4, ⟨tn.1, Nat.le_refl _⟩⟩⟩
  · unfold Se
    rw [y0, y 8 (by decide) (by decide) (by decide), y4]
    exact ⟨fun z => absurd z (by decide), fun _ => i.2 (by rw [h0]; decide)⟩
