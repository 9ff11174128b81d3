set_option maxRecDepth 100000
/-! SIM at the start; facts for the public methods -/
theorem rStL_val {j : Nat} : ∀ (m t : Nat) (g : Nat → Int32), rStL m t g j = if (18 * t ≤ j ∧ j < 18 * (t + m)) ∧ (j % 18 = 1 ∨ j % 18 = 8) then (-9) else g j := by
  intro m
  induction m with
  | zero => intro t g; rw [if_neg (by omega)]; rfl
  | succ m ih =>
    intro t g
    rw [rStL, ih]
    by_cases h : (18 * (t + 1) ≤ j ∧ j < 18 * (t + 1 + m)) ∧ (j % 18 = 1 ∨ j % 18 = 8)
    · rw [if_pos h, if_pos (by omega)]
    · rw [if_neg h]
      by_cases e8 : j = 18 * t + 8
      · subst e8; rw [pk_us, if_pos (by omega)]
      · rw [pk_un e8]
        by_cases e1 : j = 18 * t + 1
        · subst e1; rw [pk_us, if_pos (by omega)]
        · rw [pk_un e1, if_neg (by omega)]
theorem rSt_9 {M : ST} {t o : Nat} (ht : t < 8) (ho : o = 1 ∨ o = 8) : rSt M (18 * t + o) = (-9) := by
  unfold rSt
  rw [pk_un (by omega), pk_un (by omega), rStL_val, if_pos (by omega)]
theorem rSt_0 {M : ST} {j : Nat} (h0 : j ≠ 0) (h4 : j ≠ 4) (h : ¬ (j < 144 ∧ (j % 18 = 1 ∨ j % 18 = 8))) : rSt M j = nI 0 := by
  unfold rSt
  rw [pk_un h4, pk_un h0, rStL_val, if_neg (by omega)]
theorem rSt_how {M : ST} {t : Nat} (ht : t < 8) : rSt M (18 * t) = if t = 0 then nI 1 else nI 0 := by
  by_cases e : t = 0
  · subst e; unfold rSt; rw [if_pos rfl, pk_un (by decide), pk_us]
  · rw [if_neg e]; exact rSt_0 (by omega) (by omega) (by omega)
theorem rSt_4 {M : ST} : rSt M 4 = if M 524 0 = nI 99 then nI 9999 else M 524 0 := by unfold rSt; rw [pk_us]
theorem cSt_un {D : Int32} {c : Nat → Int32} {j : Nat} (h0 : j ≠ 0) (h4 : j ≠ 4) (h7 : j ≠ 7) : cSt D c j = cS0 c j := by
  unfold cSt
  rw [pk_un (by omega), pk_un (by omega), pk_un (by omega)]
theorem cS0_z {c : Nat → Int32} {j : Nat} (h : j < 144) (e : j % 18 = 0 ∨ j % 18 = 2 ∨ j % 18 = 3 ∨ j % 18 = 5 ∨ j % 18 = 9) : cS0 c j = nI 0 := by unfold cS0; rw [if_pos h, if_pos e]
theorem cS0_9 {c : Nat → Int32} {j : Nat} (h : j < 144) (e : j % 18 = 1 ∨ j % 18 = 4 ∨ j % 18 = 7 ∨ j % 18 = 8) : cS0 c j = (-9) := by unfold cS0; rw [if_pos h, if_neg (by omega), if_pos e]
theorem cS0_t {c : Nat → Int32} {j : Nat} (e : j = 144 ∨ j = 145) : cS0 c j = nI 0 := by unfold cS0; rw [if_neg (by omega), if_pos e]
theorem cSt_how {D : Int32} {c : Nat → Int32} {t : Nat} (ht : t < 8) : cSt D c (18 * t) = if t = 0 then nI 1 else nI 0 := by
  by_cases e : t = 0
  · subst e; unfold cSt; rw [if_pos rfl, pk_un (by decide), pk_un (by decide), pk_us]
  · rw [if_neg e, cSt_un (by omega) (by omega) (by omega)]; exact cS0_z (by omega) (by omega)
theorem dueR_0 {c : Nat → Int32} {D : Int32} (hD : inN D 99) : dueR (cDue (cS0 c) D (nI 100000)) (if D = nI 99 then nI 9999 else D) := by
  unfold cDue minI
  rw [cS0_t (Or.inl rfl)]
  by_cases e : D = nI 99
  · rw [if_pos e, if_pos e, if_neg (by decide)]; exact Or.inl ⟨rfl, rfl⟩
  · have e0 : nI 0 + D = D := by rw [hD.1, nI_add, Nat.zero_add]
    have := hD.2
    rw [if_neg e, if_neg e, e0, if_pos (by rw [hD.1]; exact (nI_ltI (by omega) (by decide)).mpr (by omega))]
    exact Or.inr ⟨rfl, hD.1, by omega⟩
theorem Sim.start {M : ST} (hM : MI M) (hL : ML M) (c : Nat → Int32) : Sim M (cSt (M 524 0) c) (rSt M) := by
  have h8 := hM.n
  have h1 := hM.2.1
  have z : nn (nI 0) = 0 := nn_of (by decide)
  have g4 : rSt M 144 = nI 0 := rSt_0 (by decide) (by decide) (by decide)
  have g5 : rSt M 145 = nI 0 := rSt_0 (by decide) (by decide) (by decide)
  refine ⟨fun t ht => ?_, fun t a1 a2 => ?_, ?_, ?_, ?_, fun k hk => ?_⟩
  · have hh : rSt M (18 * t) = if t = 0 then nI 1 else nI 0 := rSt_how ht
    have hc : cSt (M 524 0) c (18 * t) = if t = 0 then nI 1 else nI 0 := cSt_how ht
    have g9 : rSt M (18 * t + 9) = nI 0 := rSt_0 (by omega) (by omega) (by omega)
    have g8 : rSt M (18 * t + 8) = (-9) := rSt_9 ht (Or.inr rfl)
    have g5 : rSt M (18 * t + 5) = nI 0 := rSt_0 (by omega) (by omega) (by omega)
    have n3 : ¬ rSt M (18 * t) = nI 3 := by rw [hh]; split <;> decide
    have n2 : ¬ rSt M (18 * t) = nI 2 := by rw [hh]; split <;> decide
    refine ⟨⟨?_, ?_, ?_, ?_, ?_, ?_⟩, ⟨?_, ?_⟩, ?_, ⟨?_, ?_⟩, ⟨?_, ?_⟩, ⟨?_, ?_⟩⟩
    · rw [hc, hh]
    · rw [cSt_un (by omega) (by omega) (by omega), cS0_9 (by omega) (by omega), rSt_9 ht (Or.inl rfl)]
    · rw [cSt_un (by omega) (by omega) (by omega), cS0_z (by omega) (by omega), rSt_0 (by omega) (by omega) (by omega)]
    · rw [cSt_un (by omega) (by omega) (by omega), cS0_z (by omega) (by omega), g5]
    · rw [cSt_un (by omega) (by omega) (by omega), cS0_9 (by omega) (by omega), g8]
    · rw [cSt_un (by omega) (by omega) (by omega), cS0_z (by omega) (by omega), g9]
    · rw [hh]; split
      · exact Or.inr (Or.inl rfl)
      · exact Or.inl rfl
    · exact Or.inl g5
    · intro k hk; rw [g9, z] at hk; omega
    · intro _
      exact ⟨by rw [cSt_un (by omega) (by omega) (by omega), cS0_z (by omega) (by omega), rSt_0 (by omega) (by omega) (by omega)], rSt_0 (by omega) (by omega) (by omega)⟩
    · intro e; exact absurd e n2
    · intro e
      have h0 : t ≠ 0 := fun q => by rw [hh, if_pos q] at e; exact absurd e (by decide)
      rw [cSt_un (by omega) (by omega) (by omega), cSt_un (by omega) (by omega) (by omega)]
      exact ⟨cS0_9 (by omega) (by omega), cS0_9 (by omega) (by omega)⟩
    · intro e
      have h0 : t = 0 := Classical.not_not.mp (fun q => e (by rw [hh, if_neg q]))
      subst h0
      refine ⟨?_, ?_, ?_⟩
      · show dueR (cSt (M 524 0) c 4) (rSt M 4)
        rw [rSt_4]
        unfold cSt
        rw [pk_us]
        exact dueR_0 (hL 0 (by omega))
      · show cSt (M 524 0) c 7 = rSt M 7
        rw [rSt_0 (by decide) (by decide) (by decide)]
        unfold cSt
        rw [pk_un (by decide), pk_us]
      · show inN (rSt M 7) (nn (rSt M 144))
        rw [rSt_0 (by decide) (by decide) (by decide)]
        exact inN_nI (Nat.zero_le _) (by rw [g4, z]; decide)
    · intro e; exact absurd e n3
    · intro _; exact g8
  · rw [rSt_how a2, if_neg (by omega)]
  · rw [g4, cSt_un (by decide) (by decide) (by decide), cS0_t (Or.inl rfl)]
  · rw [g4]; exact inN_nI (by decide) (by decide)
  · rw [g5, cSt_un (by decide) (by decide) (by decide), cS0_t (Or.inr rfl)]
  · rw [g5, z] at hk; omega
theorem Sim.cong {M : ST} {c c' g : Nat → Int32} (hI : RI g) (h : Sim M c g) (e : ∀ j, j < 400 → c' j = c j) : Sim M c' g := by
  obtain ⟨a, b, d, f, i, k⟩ := h
  refine ⟨fun t ht => (a t ht).frame (fun j hj => e _ (by omega)) (fun _ _ => rfl) rfl (hI.2 t ht).2.2, b, by rw [e _ (by decide)]; exact d, f, by rw [e _ (by decide)]; exact i, fun q hq => ?_⟩
  have := hI.1.2
  rw [e _ (by omega), e _ (by omega), e _ (by omega)]
  exact k q hq
theorem Sim.cp {M : ST} {d c g : Nat → Int32} (hI : RI g) (h : Sim M d g) : Sim M (cpR d c) g := h.cong hI (fun j hj => pk_un (by omega))
/-- a fact: ended within n ticks, told by the end behind 60 -/
theorem fact_iff {M : ST} (hM : MI M) (hL : ML M) {t n : Nat} (ht : t < 8) (hn : n ≤ 60) (c : Nat → Int32) : cGo M t n (cSt (M 524 0) c) (18 * t) = nI 3 ↔ (¬ rGo M 60 (rSt M) (18 * t + 8) = (-9) ∧ rGo M 60 (rSt M) (18 * t + 8) ≤ nI n) := by
  have s0 := Sim.start hM hL c
  have j0 := RJ_rSt hM
  have g4 : rSt M 144 = nI 0 := rSt_0 (by decide) (by decide) (by decide)
  have z : nn (nI 0) = 0 := nn_of (by decide)
  rw [(s0.goT hM hL ht (m := n) j0 (by rw [g4, z]; omega)).1]
  have e : rGo M 60 (rSt M) = rGo M (60 - n) (rGo M n (rSt M)) := by rw [← rGo_add]; congr 1; omega
  have jn := RJ_rGo hM n _ j0
  obtain ⟨k, k1, k2, k3⟩ := rGo_144 hM n 0 _ j0 g4
  rw [Nat.zero_add] at k2
  obtain ⟨kn, q1, sn, -, q4⟩ := Sim.go hM hL (t := 0) (by decide) n _ _ s0 j0 (by rw [g4, z]; omega)
  have sS : ∃ c', Sim M c' (rGo M n (rSt M)) := ⟨_, s0.go0 hM hL (m := n) j0 (by rw [g4, z]; omega)⟩
  have sT : ∃ c', Sim M c' (rGo M 60 (rSt M)) := ⟨_, s0.go0 hM hL (m := 60) j0 (by rw [g4, z]; omega)⟩
  obtain ⟨cn, sS⟩ := sS
  obtain ⟨cT, sT⟩ := sT
  constructor
  · intro h
    obtain ⟨a, -, d⟩ := rGo_kept hM ht (60 - n) _ jn h
    rw [← e] at a d
    rw [d]
    have i := (sS.1 t ht).2.2.2.2.2.1 h
    rw [k2, nn_of (by omega)] at i
    exact ⟨inN_ne9 i, by rw [i.1]; exact (nI_leI (by have := i.2; omega) (by omega)).mpr (by have := i.2; omega)⟩
  · rintro ⟨h1, h2⟩
    by_cases h : rGo M n (rSt M) (18 * t) = nI 3
    · exact h
    · exfalso
      have hT : rGo M 60 (rSt M) (18 * t) = nI 3 := Classical.not_not.mp (fun q => h1 ((sT.1 t ht).2.2.2.2.2.2 q))
      by_cases h0 : rGo M n (rSt M) 0 = nI 3
      · rw [e, rGo_over h0] at hT; exact h hT
      · obtain ⟨q, q5, q6⟩ := rGo_late hM ht (60 - n) k _ jn k2 h (by rw [← e]; exact hT)
        rw [← e] at q5
        rw [q5] at h2
        have := (nI_leI (by omega) (by omega)).mp h2
        have := k3 h0
        omega
