set_option maxRecDepth 100000
/-! PUBLIC METHODS by the relation: text, facts, queries -/
theorem TE_513 {M : ST} {j : Nat} {v : Int32} (h1 : j ≠ 15) (h2 : j ≠ 16) : TE M (s2 M 513 j v) := ⟨s2_nj (Ne.symm h1), s2_nj (Ne.symm h2), fun k a b => s2_nk (by omega)⟩
theorem bN_and {v : Nat} (hv : v < 256) : bN (nI v) &&& nI 255 = nI v := by
  have : ∀ v : Fin 256, bN (nI v.val) &&& nI 255 = nI v.val := by decide +kernel
  exact this ⟨v, hv⟩
theorem RL_type {S M : ST} {n v : Nat} (h : RL S M) (hn : S 0 10 = nI n) (hm : M 513 0 = nI n) (hn12 : n < 120) (hv : v < 256) : RL (s2 (s2 S 173 n (bN (nI v))) 0 10 (nI (n + 1))) (s2 (s2 M 514 n (nI v)) 513 0 (nI (n + 1))) := by
  obtain ⟨h1, h2, h3, h4, h5, h6, h7, ⟨n', x1, x2, x3, x4⟩, h9⟩ := h
  obtain rfl : n' = n := nI_inj (by omega) (by omega) (x3.symm.trans hm)
  have eC : ∀ k, k ≠ 0 → k ≠ 173 → s2 (s2 S 173 n' (bN (nI v))) 0 10 (nI (n' + 1)) k = S k := fun k a b => by rw [s2_nk a, s2_nk b]
  have e0 : ∀ j, j ≠ 10 → s2 (s2 S 173 n' (bN (nI v))) 0 10 (nI (n' + 1)) 0 j = S 0 j := fun j a => by rw [s2_nj a, s2_nk (by decide)]
  have eM : ∀ k, k ≠ 513 → k ≠ 514 → s2 (s2 M 514 n' (nI v)) 513 0 (nI (n' + 1)) k = M k := fun k a b => by rw [s2_nk a, s2_nk b]
  have e5 : ∀ j, j ≠ 0 → s2 (s2 M 514 n' (nI v)) 513 0 (nI (n' + 1)) 513 j = M 513 j := fun j a => by rw [s2_nj a, s2_nk (by decide)]
  have te : TE M (s2 (s2 M 514 n' (nI v)) 513 0 (nI (n' + 1))) := ⟨e5 _ (by decide), e5 _ (by decide), fun k a b => eM k (by omega) (by omega)⟩
  refine ⟨(h1.toC (fun k a b => eC k (by omega) (by omega))).toM te, h2.to (fun k a => eC k (by omega) (by omega)), (h3.toC (fun k a b => eC k (by omega) (by omega))).toM te (eM _ (by decide) (by decide)), h4.toC (fun k a b => eC k (by omega) (by omega)), (h5.toC (fun k a b => eC k (by omega) (by omega))).toM te (eM _ (by decide) (by decide)) (eM _ (by decide) (by decide)), (h6.toC (fun k a => eC k (by omega) (by omega))).toM te (e5 _ (by decide)) (e5 _ (by decide)) (eM _ (by decide) (by decide)), (h7.toC (e0 _ (by decide)) (fun k a b => eC k (by omega) (by omega))).toM te (e5 _ (by decide)) (fun k a b => eM k (by omega) (by omega)), ⟨n' + 1, by omega, s2_at _ _ _ _, s2_at _ _ _ _, fun j hj => ?_⟩, h9.toC (fun k a => eC k (by omega) (by omega))⟩
  rw [s2_nk (q := 514) (by decide), s2_nk (q := 173) (by decide)]
  by_cases e : j = n'
  · subst e
    rw [s2_at, s2_at]
    exact ⟨⟨v, hv, rfl⟩, bN_and hv⟩
  · rw [s2_nj e, s2_nj e]; exact x4 j (by omega)
theorem RL_clear {S M : ST} (h : RL S M) : RL (s2 S 0 10 (nI 0)) (s2 M 513 0 (nI 0)) := by
  obtain ⟨h1, h2, h3, h4, h5, h6, h7, h8, h9⟩ := h
  have te := TE_513 (M := M) (j := 0) (v := nI 0) (by decide) (by decide)
  exact ⟨(h1.toC (fun k a b => s2_nk (by omega))).toM te, h2.to (fun k a => s2_nk (by omega)), (h3.toC (fun k a b => s2_nk (by omega))).toM te (s2_nk (by decide)), h4.toC (fun k a b => s2_nk (by omega)), (h5.toC (fun k a b => s2_nk (by omega))).toM te (s2_nk (by decide)) (s2_nk (by decide)), (h6.toC (fun k a => s2_nk (by omega))).toM te (s2_nj (by decide)) (s2_nj (by decide)) (s2_nk (by decide)), (h7.toC (s2_nj (by decide)) (fun k a b => s2_nk (by omega))).toM te (s2_nj (by decide)) (fun k a b => s2_nk (by omega)), ⟨0, by omega, s2_at _ _ _ _, s2_at _ _ _ _, fun j hj => absurd hj (by omega)⟩, h9.toC (fun k a => s2_nk (by omega))⟩
theorem RL_forget {S M : ST} (h : RL S M) : RL (s2 S 0 14 (nI 0)) (s2 M 513 28 (nI 0)) := by
  obtain ⟨h1, h2, h3, h4, h5, h6, h7, h8, h9⟩ := h
  have te := TE_513 (M := M) (j := 28) (v := nI 0) (by decide) (by decide)
  exact ⟨(h1.toC (fun k a b => s2_nk (by omega))).toM te, h2.to (fun k a => s2_nk (by omega)), (h3.toC (fun k a b => s2_nk (by omega))).toM te (s2_nk (by decide)), h4.toC (fun k a b => s2_nk (by omega)), (h5.toC (fun k a b => s2_nk (by omega))).toM te (s2_nk (by decide)) (s2_nk (by decide)), (h6.toC (fun k a => s2_nk (by omega))).toM te (s2_nj (by decide)) (s2_nj (by decide)) (s2_nk (by decide)), ⟨0, by omega, s2_at _ _ _ _, s2_at _ _ _ _, fun j hj => absurd hj (by omega)⟩, (h8.toC (s2_nj (by decide)) (s2_nk (by decide))).toM (s2_nj (by decide)) (s2_nk (by decide)), h9.toC (fun k a => s2_nk (by omega))⟩
theorem RL_sees {S M : ST} {k t n : Nat} {w : Int32} (h : RL S M) (hk : S 0 14 = nI k) (hm : M 513 28 = nI k) (hk6 : k < 6) (ht : t < mN M) (hn : n ≤ 60) (hw : w = nI 0 ∨ w = nI 1) : RL (s2 (s2 (s2 (s2 S 174 k (nI t)) 175 k (nI n)) 176 k w) 0 14 (nI (k + 1))) (s2 (s2 (s2 (s2 M 530 k (nI t)) 531 k (nI n)) 532 k w) 513 28 (nI (k + 1))) := by
  obtain ⟨h1, h2, h3, h4, h5, h6, ⟨k', x1, x2, x3, x4⟩, h8, h9⟩ := h
  obtain rfl : k' = k := nI_inj (by omega) (by omega) (x3.symm.trans hm)
  obtain ⟨X, hX⟩ : ∃ X, X = s2 (s2 (s2 (s2 S 174 k' (nI t)) 175 k' (nI n)) 176 k' w) 0 14 (nI (k' + 1)) := ⟨_, rfl⟩
  obtain ⟨M1, hM1⟩ : ∃ M1, M1 = s2 (s2 (s2 (s2 M 530 k' (nI t)) 531 k' (nI n)) 532 k' w) 513 28 (nI (k' + 1)) := ⟨_, rfl⟩
  rw [← hX, ← hM1]
  have eC : ∀ q, q ≠ 0 → (q < 174 ∨ 177 ≤ q) → X q = S q := fun q a b => by rw [hX, s2_nk a, s2_nk (by omega), s2_nk (by omega), s2_nk (by omega)]
  have e0 : ∀ j, j ≠ 14 → X 0 j = S 0 j := fun j a => by rw [hX, s2_nj a, s2_nk (by decide), s2_nk (by decide), s2_nk (by decide)]
  have eM : ∀ q, q ≠ 513 → (q < 530 ∨ 533 ≤ q) → M1 q = M q := fun q a b => by rw [hM1, s2_nk a, s2_nk (by omega), s2_nk (by omega), s2_nk (by omega)]
  have e5 : ∀ j, j ≠ 28 → M1 513 j = M 513 j := fun j a => by rw [hM1, s2_nj a, s2_nk (by decide), s2_nk (by decide), s2_nk (by decide)]
  have te : TE M M1 := ⟨e5 _ (by decide), e5 _ (by decide), fun k a b => eM k (by omega) (by omega)⟩
  refine ⟨(h1.toC (fun k a b => eC k (by omega) (by omega))).toM te, h2.to (fun k a => eC k (by omega) (by omega)), (h3.toC (fun k a b => eC k (by omega) (by omega))).toM te (eM _ (by decide) (by decide)), h4.toC (fun k a b => eC k (by omega) (by omega)), (h5.toC (fun k a b => eC k (by omega) (by omega))).toM te (eM _ (by decide) (by decide)) (eM _ (by decide) (by decide)), (h6.toC (fun k a => eC k (by omega) (by omega))).toM te (e5 _ (by decide)) (e5 _ (by decide)) (eM _ (by decide) (by decide)), ⟨k' + 1, by omega, by rw [hX, s2_at], by rw [hM1, s2_at], fun j hj => ?_⟩, (h8.toC (e0 _ (by decide)) (eC _ (by decide) (by decide))).toM (e5 _ (by decide)) (eM _ (by decide) (by decide)), h9.toC (fun k a => eC k (by omega) (by omega))⟩
  have x174 : X 174 = upd (S 174) k' (nI t) := by rw [hX, s2_nk (by decide), s2_nk (by decide), s2_nk (by decide)]; exact s1_at _ _ _
  have x175 : X 175 = upd (S 175) k' (nI n) := by rw [hX, s2_nk (by decide), s2_nk (by decide)]; unfold s2; rw [s1_at, s1_ne (by decide)]
  have x176 : X 176 = upd (S 176) k' w := by rw [hX, s2_nk (by decide)]; unfold s2; rw [s1_at, s1_ne (by decide), s1_ne (by decide)]
  have m530 : M1 530 = upd (M 530) k' (nI t) := by rw [hM1, s2_nk (by decide), s2_nk (by decide), s2_nk (by decide)]; exact s1_at _ _ _
  have m531 : M1 531 = upd (M 531) k' (nI n) := by rw [hM1, s2_nk (by decide), s2_nk (by decide)]; unfold s2; rw [s1_at, s1_ne (by decide)]
  have m532 : M1 532 = upd (M 532) k' w := by rw [hM1, s2_nk (by decide)]; unfold s2; rw [s1_at, s1_ne (by decide), s1_ne (by decide)]
  rw [x174, x175, x176, m530, m531, m532, te.n]
  by_cases e : j = k'
  · subst e
    rw [pk_us, pk_us, pk_us, pk_us, pk_us, pk_us]
    exact ⟨t, n, ht, hn, ⟨rfl, rfl⟩, ⟨rfl, rfl⟩, rfl, hw⟩
  · rw [pk_un e, pk_un e, pk_un e, pk_un e, pk_un e, pk_un e]
    exact x4 j (by omega)
section WR
variable {G : GT} {l : Launch} {N : Nat} {S M : ST}
theorem rl_type {w : Int32} (hRL : RL S M) (hN : 513 ≤ N) : CTiE G l yX0_type cX0_type 2 (some .int) 1 [.ref (gZ G + 0), .int w] N S (mTypeV M w) (fun X => RL X (mTypeS M w) ∧ UN S X) := by
  obtain ⟨n, x1, x2, x3, x4⟩ := id hRL.2.2.2.2.2.2.2.1
  have c := ct_X0_type (G := G) (l := l) (w := w) x2 x1 hN
  refine c.weaken ?_
  rintro v N' h' ⟨r, rfl, rfl, rfl, rfl⟩
  have hnn : nn (M 513 0) = n := by rw [x3]; exact nn_of (by omega)
  refine ⟨_, rfl, rfl, ?_, _, ⟨?_, ?_⟩, rfl⟩
  · unfold cTypeV mTypeV
    by_cases h : nI 0 ≤ w ∧ w ≤ nI 255
    · rw [if_pos h, if_pos h, hnn, x3]
      by_cases e : n = 120
      · rw [if_pos e, if_pos (by rw [e])]
      · rw [if_neg e, if_neg (fun z => e (nI_inj (by omega) (by omega) z))]
    · rw [if_neg h, if_neg h]
  · unfold cTypeS mTypeS
    by_cases h : nI 0 ≤ w ∧ w ≤ nI 255
    · rw [if_pos h, if_pos h, hnn, x3]
      by_cases e : n = 120
      · rw [if_pos e, if_pos (by rw [e])]; exact hRL
      · rw [if_neg e, if_neg (fun z => e (nI_inj (by omega) (by omega) z))]
        obtain ⟨v, hv, rfl⟩ := in_nat (by decide) h
        exact RL_type hRL x2 x3 (by omega) (by omega)
    · rw [if_neg h, if_neg h]; exact hRL
  · unfold cTypeS
    intro k hk
    split
    · split
      · rfl
      · rw [s2_nk (by omega), s2_nk (by omega)]
    · rfl
theorem rl_clear (hRL : RL S M) (hN : 513 ≤ N) : CTiE G l yX0_clear cX0_clear 2 (some .int) 0 [.ref (gZ G + 0)] N S (M 513 0) (fun X => RL X (s2 M 513 0 (nI 0)) ∧ UN S X) := by
  obtain ⟨n, x1, x2, x3, x4⟩ := id hRL.2.2.2.2.2.2.2.1
  refine (ct_X0_clear (G := G) (l := l) hN).weaken ?_
  rintro v N' h' ⟨r, rfl, rfl, rfl, rfl⟩
  exact ⟨_, rfl, rfl, x2.trans x3.symm, _, ⟨RL_clear hRL, fun k hk => s2_nk (by omega)⟩, rfl⟩
theorem rl_forget (hRL : RL S M) (hN : 513 ≤ N) : CTiE G l yX0_forget cX0_forget 2 (some .int) 0 [.ref (gZ G + 0)] N S (M 513 28) (fun X => RL X (s2 M 513 28 (nI 0)) ∧ UN S X) := by
  obtain ⟨n, x1, x2, x3, x4⟩ := id hRL.2.2.2.2.2.2.1
  refine (ct_X0_forget (G := G) (l := l) hN).weaken ?_
  rintro v N' h' ⟨r, rfl, rfl, rfl, rfl⟩
  exact ⟨_, rfl, rfl, x2.trans x3.symm, _, ⟨RL_forget hRL, fun k hk => s2_nk (by omega)⟩, rfl⟩
theorem rl_sees {t n w : Int32} (hRL : RL S M) (hN : 513 ≤ N) : CTiE G l yX0_sees cX0_sees 4 (some .int) 2 [.ref (gZ G + 0), .int t, .int n, .int w] N S (mSeesV M t n w) (fun X => RL X (mSeesS M t n w) ∧ UN S X) := by
  obtain ⟨k, x1, x2, x3, x4⟩ := id hRL.2.2.2.2.2.2.1
  refine (ct_X0_sees (G := G) (l := l) (t := t) (n := n) (w := w) hRL.1 x2 x1 hN).weaken ?_
  rintro v N' h' ⟨r, rfl, rfl, rfl, rfl⟩
  have hnn : nn (M 513 28) = k := by rw [x3]; exact nn_of (by omega)
  refine ⟨_, rfl, rfl, ?_, _, ⟨?_, ?_⟩, rfl⟩
  · unfold cSeesV mSeesV
    by_cases h : mSeeOk M t n w
    · rw [if_pos h, if_pos h, hnn, x3]
      by_cases e : k = 6
      · rw [if_pos e, if_pos (by rw [e])]
      · rw [if_neg e, if_neg (fun z => e (nI_inj (by omega) (by omega) z))]
    · rw [if_neg h, if_neg h]
  · unfold cSeesS mSeesS
    by_cases h : mSeeOk M t n w
    · rw [if_pos h, if_pos h, hnn, x3]
      by_cases e : k = 6
      · rw [if_pos e, if_pos (by rw [e])]; exact hRL
      · rw [if_neg e, if_neg (fun z => e (nI_inj (by omega) (by omega) z))]
        have h8 := hRL.1.1.n
        have h1 := hRL.1.1.2.1
        obtain ⟨a, b, d⟩ := h
        obtain ⟨i, hi, rfl⟩ := in_nat (n := mN M - 1) (by omega) a
        obtain ⟨q, hq1, hq2, rfl⟩ := in_nat1 (n := 60) (by decide) b
        obtain ⟨z, hz, rfl⟩ := in_nat (n := 1) (by decide) d
        have hz2 : z = 0 ∨ z = 1 := by omega
        exact RL_sees hRL x2 x3 (by omega) (by omega) hq2 (by rcases hz2 with rfl | rfl; exact Or.inl rfl; exact Or.inr rfl)
    · rw [if_neg h, if_neg h]; exact hRL
  · unfold cSeesS
    intro q hq
    split
    · split
      · rfl
      · rw [s2_nk (by omega), s2_nk (by omega), s2_nk (by omega), s2_nk (by omega)]
    · rfl
theorem rl_task {t w : Int32} (hRL : RL S M) (hN : 513 ≤ N) : CTi G l yX0_task cX0_task 3 (some .int) 3 [.ref (gZ G + 0), .int t, .int w] N S (mTaskV M t w) S := by
  obtain ⟨c, hc, hg⟩ := id hRL.2.2.1
  exact ct_X0_task hRL.1 hc hg hN
theorem rl_failure {t k : Int32} (hRL : RL S M) (hN : 513 ≤ N) : CTi G l yX0_failure cX0_failure 3 (some .int) 2 [.ref (gZ G + 0), .int t, .int k] N S (mFailV M t k) S := by
  obtain ⟨c, hc, hg⟩ := id hRL.2.2.1
  exact ct_X0_failure hRL.1 hc hg hN
theorem rl_trace {k w : Int32} (hRL : RL S M) (hN : 513 ≤ N) : CTi G l yX0_trace cX0_trace 3 (some .int) 1 [.ref (gZ G + 0), .int k, .int w] N S (mTraceV M k w) S := by
  obtain ⟨c, hc, hg⟩ := id hRL.2.2.1
  exact ct_X0_trace hc hg hN
theorem rl_count {w : Int32} (hRL : RL S M) (hN : 513 ≤ N) : CTi G l yX0_count cX0_count 2 (some .int) 2 [.ref (gZ G + 0), .int w] N S (mCountV M w) S := by
  obtain ⟨c, hc, hg⟩ := id hRL.2.2.1
  obtain ⟨n, x1, x2, x3, x4⟩ := id hRL.2.2.2.2.2.2.2.1
  obtain ⟨k, y1, y2, y3, y4⟩ := id hRL.2.2.2.2.2.2.1
  obtain ⟨m, a, hb, hf, u, w', ⟨z1, z2, z3, z4⟩, ⟨z5, z6⟩, ⟨z7, z8, z9, z10⟩, zz⟩ := id hRL.2.2.2.2.2.1
  exact ct_X0_count hRL.1 hc hg y2 y3 x2 x3 z7 z8 z5 z3 z1 hN
end WR
