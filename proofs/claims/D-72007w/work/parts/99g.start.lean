set_option maxRecDepth 100000
/-! AT THE START; the two sides behind tree() -/
def S00 : ST := taS (bgS SC)
theorem taS_lo {M : ST} {k : Nat} (h : k < 513 ∨ k = 514 ∨ 535 ≤ k) : taS M k = M k := by
  unfold taS taT
  rw [s2_nk (by omega), s2_nk (by omega), s2_nk (by omega), s2_nk (by omega), s1_ne (by omega), s1_ne (by omega), s1_ne (by omega), s1_ne (by omega), s1_ne (by omega), s1_ne (by omega), s1_ne (by omega), s2_nk (by omega), s2_nk (by omega)]
theorem bgS_lo {M : ST} {k : Nat} (h : k < 513 ∨ k = 514 ∨ 521 ≤ k) : bgS M k = M k := by
  unfold bgS
  rw [s1_ne (by omega), s1_ne (by omega), s1_ne (by omega), s1_ne (by omega), s1_ne (by omega), s2_nk (by omega), s2_nk (by omega)]
theorem S00_lo {k : Nat} (h : k < 513) : S00 k = SC k := by unfold S00; rw [taS_lo (by omega), bgS_lo (by omega)]
theorem SC_ne {k : Nat} (h : k < 55 ∨ 83 ≤ k) : SC k = cT0 k := by unfold SC; exact put_ne (by omega)
theorem SC_z {k : Nat} (h1 : k = 0 ∨ (4 ≤ k ∧ k < 22) ∨ 25 ≤ k) (h2 : k < 55 ∨ 83 ≤ k) (h3 : k ≠ 113) (h4 : k ≠ 114) : SC k = z0 := by rw [SC_ne h2, cT0_ne h1, fr_k h3 h4]
theorem bgS_c (M : ST) : bgS M 513 8 = nI 0 ∧ bgS M 515 = (fun _ => (-9)) ∧ bgS M 516 = (fun _ => nI 0) ∧ bgS M 518 = (fun _ => nI 99) ∧ bgS M 519 = (fun _ => nI 0) ∧ bgS M 520 = fun _ => nI 0 := by
  unfold bgS
  refine ⟨?_, ?_, ?_, ?_, ?_, ?_⟩
  · rw [s1_ne (by decide), s1_ne (by decide), s1_ne (by decide), s1_ne (by decide), s1_ne (by decide), s2_at]
  · rw [s1_ne (by decide), s1_ne (by decide), s1_ne (by decide), s1_ne (by decide), s1_at]
  · rw [s1_ne (by decide), s1_ne (by decide), s1_ne (by decide), s1_at]
  · rw [s1_ne (by decide), s1_ne (by decide), s1_at]
  · rw [s1_ne (by decide), s1_at]
  · rw [s1_at]
theorem bgS_j {M : ST} {j : Nat} (h : j ≠ 7 ∧ j ≠ 8) : bgS M 513 j = M 513 j := by
  unfold bgS
  rw [s1_ne (by decide), s1_ne (by decide), s1_ne (by decide), s1_ne (by decide), s1_ne (by decide), s2_nj h.2, s2_nj h.1]
theorem S00_HR {b : Nat} (h : b = 83 ∨ b = 116 ∨ b = 144 ∨ (177 ≤ b ∧ b + 28 ≤ 513)) : HR S00 b z0 := fun j hj => by rw [S00_lo (by omega), SC_z (by omega) (by omega) (by omega) (by omega), run_z0]
theorem QE_0 {S : ST} (h1 : S 53 = z0) (h2 : S 54 = z0) : QE S := ⟨0, by decide, by rw [h1], by rw [h1], h2⟩
theorem RL_S00 : RL S00 S00 := by
  obtain ⟨f15, f16, f1, f2, f3, f4, f5, f6⟩ := taS_f (bgS SC)
  obtain ⟨g7, g25, g28, g30, g31, gj⟩ := taS_g (bgS SC)
  obtain ⟨b8, b5, b6, b18, b19, b20⟩ := bgS_c SC
  have hK : mK (bgS SC) = 0 := by unfold mK; rw [bgS_7]; rfl
  rw [hK, if_neg (by decide)] at f15
  rw [b8] at f16; rw [b5] at f1; rw [b6] at f2; rw [b18] at f4; rw [b19] at f5; rw [b20] at f6
  have hN : mN S00 = 1 := by show nn (taS (bgS SC) 513 15) = 1; rw [f15]; rfl
  have lo : ∀ k, k < 513 → S00 k = SC k := fun k h => S00_lo h
  have zz : ∀ k, (k = 0 ∨ (4 ≤ k ∧ k < 22) ∨ 25 ≤ k) → (k < 55 ∨ 83 ≤ k) → k ≠ 113 → k ≠ 114 → k < 513 → S00 k = z0 := fun k a b c d e => by rw [lo k e]; exact SC_z a b c d
  have t0 : ∀ {t}, t < mN S00 → t = 0 := fun {t} h => by omega
  have hM : MI S00 := ⟨by show inN (taS (bgS SC) 513 15) 8; rw [f15]; exact inN_nI (by decide) (by decide), by omega, fun c a b => absurd b (by omega), fun t ht => by show inN (taS (bgS SC) 522 t) 6; rw [f2]; exact inN_nI (by decide) (by decide)⟩
  have hL : ML S00 := fun t ht => by show inN (taS (bgS SC) 524 t) 99; rw [f4]; exact inN_nI (by decide) (by decide)
  have e24 : S00 524 0 = nI 99 := by show taS (bgS SC) 524 0 = _; rw [f4]
  refine ⟨⟨hM, hL, ?_⟩, ?_, ⟨_, (show HR S00 55 (cSt (S00 524 0) z0) from ?_), ?_⟩, ⟨_, S00_HR (Or.inl rfl)⟩, ?_, ?_, ⟨0, by omega, ?_, g28, fun k hk => absurd hk (by omega)⟩, ⟨0, by omega, ?_, ?_, fun k hk => absurd hk (by omega)⟩, ⟨0, ?_⟩⟩
  · refine ⟨by show S00 1 0 = taS (bgS SC) 513 15; rw [f15, lo 1 (by decide), SC_ne (by decide)]; rfl, fun t ht => ?_, fun t ht => ?_, fun t ht => ?_, fun t ht => ?_, fun t ht => ?_, fun t k ht hk => ?_, 0, ⟨by rw [zz _ (by decide) (by decide) (by decide) (by decide) (by decide)], by decide, by rw [zz _ (by decide) (by decide) (by decide) (by decide) (by decide)]; rfl⟩, f16⟩
    · obtain rfl := t0 ht; show S00 2 0 = taS (bgS SC) 521 0; rw [f1, lo 2 (by decide), SC_ne (by decide)]; rfl
    · obtain rfl := t0 ht; show S00 3 0 = taS (bgS SC) 522 0; rw [f2, lo 3 (by decide), SC_ne (by decide)]; rfl
    · obtain rfl := t0 ht; show S00 22 0 = taS (bgS SC) 524 0; rw [f4, lo 22 (by decide), SC_ne (by decide)]; rfl
    · obtain rfl := t0 ht; show S00 23 0 = taS (bgS SC) 525 0; rw [f5, lo 23 (by decide), SC_ne (by decide)]; rfl
    · obtain rfl := t0 ht; show S00 24 0 = taS (bgS SC) 526 0; rw [f6, lo 24 (by decide), SC_ne (by decide)]; rfl
    · have hk2 : k < nn (taS (bgS SC) 522 t) := hk
      rw [f2] at hk2
      exact absurd hk2 (by show ¬ k < 0; omega)
  · exact QE_0 (zz 53 (by decide) (by decide) (by decide) (by decide) (by decide)) (zz 54 (by decide) (by decide) (by decide) (by decide) (by decide))
  · intro j hj
    rw [lo _ (by omega), e24]
    exact put_at hj
  · have e7 : S00 527 = rSt S00 := g7
    rw [e7]
    refine ⟨Sim.start hM hL z0, RJ_rSt hM, ?_⟩
    rw [rSt_0 (by decide) (by decide) (by decide)]; decide
  · intro i hi
    have hi2 : i = 0 ∨ i = 1 := by omega
    have z172 : S00 172 i = nI 0 := by rw [zz 172 (by decide) (by decide) (by decide) (by decide) (by decide)]
    rcases hi2 with rfl | rfl
    · exact ⟨Or.inl g30, z172.trans g30.symm, z0, S00_HR (Or.inr (Or.inl rfl)), fun z => absurd (g30.symm.trans z) (by decide)⟩
    · exact ⟨Or.inl g31, z172.trans g31.symm, z0, S00_HR (Or.inr (Or.inr (Or.inl rfl))), fun z => absurd (g31.symm.trans z) (by decide)⟩
  · have e113 : S00 113 = upd z0 2 (nI 12) := by rw [lo _ (by decide), SC_ne (by decide), cT0_ne (by decide)]; rfl
    have e114 : S00 114 = (fun j => if j < 12 then nI (177 + 28 * j + 1) else nI 0) := by rw [lo _ (by decide), SC_ne (by decide), cT0_ne (by decide)]; rfl
    have z3 : SC 513 = z0 := SC_z (by decide) (by decide) (by decide) (by decide)
    refine ⟨0, 0, 0, 0, fun _ => 0, fun p => p, ⟨by omega, by omega, by omega, by omega⟩, ⟨g25, by show taS (bgS SC) 513 26 = nI 0; rw [gj 26 (by decide) (by decide) (by decide) (by decide), bgS_j (by decide), z3]⟩, ⟨?_, ?_, ?_, ?_⟩, fun p hp => absurd hp (by omega), fun p hp => ⟨by omega, ?_⟩, ⟨fun p q hp => absurd hp (by omega), fun p q _ _ e => e, fun p q hp => absurd hp (by omega)⟩, fun i hi => ⟨z0, S00_HR (by omega)⟩, fun p hp => absurd hp (by omega)⟩
    · rw [zz 111 (by decide) (by decide) (by decide) (by decide) (by decide)]
    · rw [zz 111 (by decide) (by decide) (by decide) (by decide) (by decide)]
    · rw [e113]; rfl
    · rw [e113]; rfl
    · rw [e114, Nat.zero_add, Nat.mod_eq_of_lt (by omega)]; exact if_pos (by omega)
  · rw [zz 0 (by decide) (by decide) (by decide) (by decide) (by decide)]
  · rw [zz 0 (by decide) (by decide) (by decide) (by decide) (by decide)]
  · show taS (bgS SC) 513 0 = nI 0
    rw [gj 0 (by decide) (by decide) (by decide) (by decide), bgS_j (by decide), SC_z (by decide) (by decide) (by decide) (by decide)]
  · exact ⟨by rw [zz _ (by decide) (by decide) (by decide) (by decide) (by decide)], by decide, by rw [zz _ (by decide) (by decide) (by decide) (by decide) (by decide)]; rfl⟩
