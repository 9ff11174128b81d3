set_option maxRecDepth 100000
/-! WHAT WAS: the two rows of runs -/
theorem Sim.congG {M : ST} {c g g' : Nat → Int32} (hI : RI g) (h : Sim M c g) (e : ∀ j, j < 326 → g' j = g j) : Sim M c g' := by
  obtain ⟨a, b, d, f, i, k⟩ := h
  have hb := hI.1.2
  refine ⟨fun t ht => (a t ht).frame (fun _ _ => rfl) (fun j hj => e _ (by omega)) (e _ (by decide)) (hI.2 t ht).2.2, fun t h1 h2 => by rw [e _ (by omega)]; exact b t h1 h2, by rw [e _ (by decide)]; exact d, by rw [e _ (by decide)]; exact f, by rw [e _ (by decide)]; exact i, fun q hq => ?_⟩
  rw [e 145 (by decide)] at hq
  rw [e _ (by omega), e _ (by omega), e _ (by omega)]
  exact k q hq
theorem RJ.congG {M : ST} (hM : MI M) {g g' : Nat → Int32} (h : RJ M g) (e : ∀ j, j < 326 → g' j = g j) : RJ M g' := by
  have h8 := hM.n
  refine ⟨⟨by rw [e _ (by decide)]; exact h.1.1, fun t ht => ?_⟩, fun t ht => by rw [e _ (by omega)]; exact h.2 t ht⟩
  rw [e _ (by omega), e _ (by omega)]
  exact h.1.2 t ht
theorem Gd.congG {M : ST} (hM : MI M) {c g g' : Nat → Int32} (h : Gd M c g) (e : ∀ j, j < 326 → g' j = g j) : Gd M c g' := ⟨h.1.congG h.2.1.1 e, h.2.1.congG hM e, by rw [e _ (by decide)]; exact h.2.2⟩
/-- the component's part -/
def UC (C : ST) (n hb hf : Nat) (u w : Nat → Nat) : Prop :=
  (n ≤ 12 ∧ hb < 15 ∧ hf < 15) ∧ (C 111 1 = nI hb ∧ C 111 2 = nI ((hb + n) % 15) ∧ C 113 1 = nI hf ∧ C 113 2 = nI ((hf + (12 - n)) % 15)) ∧
  (∀ p, p < n → u p < 12 ∧ C 112 ((hb + p) % 15) = nI (177 + 28 * u p + 1)) ∧ (∀ p, p < 12 - n → w p < 12 ∧ C 114 ((hf + p) % 15) = nI (177 + 28 * w p + 1)) ∧
  ((∀ p q, p < n → q < n → u p = u q → p = q) ∧ (∀ p q, p < 12 - n → q < 12 - n → w p = w q → p = q) ∧ (∀ p q, p < n → q < 12 - n → u p ≠ w q)) ∧
  (∀ i, i < 12 → ∃ c, HR C (177 + 28 * i) c)
theorem UR.uc {C M : ST} {n a hb hf : Nat} {u w : Nat → Nat} (h : UR C M n a hb hf u w) : UC C n hb hf u w := ⟨⟨h.1.1, h.1.2.2.1, h.1.2.2.2⟩, h.2.2.1, h.2.2.2.1, h.2.2.2.2.1, h.2.2.2.2.2.1, h.2.2.2.2.2.2.1⟩
theorem UC.ur {C M : ST} {n a hb hf : Nat} {u w : Nat → Nat} (h : UC C n hb hf u w) (ha : a < 12) (h5 : M 513 25 = nI n) (h6 : M 513 26 = nI a) (hg : ∀ p, p < n → ∃ c, HR C (177 + 28 * u p) c ∧ Gd M c (fun k => M 529 (326 * ((a + 12 - n + p) % 12) + k))) : UR C M n a hb hf u w := ⟨⟨h.1.1, ha, h.1.2.1, h.1.2.2⟩, ⟨h5, h6⟩, h.2.1, h.2.2.1, h.2.2.2.1, h.2.2.2.2.1, h.2.2.2.2.2, hg⟩
theorem dinc_m {i n : Nat} (h : i < 15) : dinc i 15 = (i + 1) % 15 := by unfold dinc; split <;> omega
theorem ddec_m {i : Nat} (h : i < 15) : ddec i 15 = (i + 14) % 15 := by unfold ddec; split <;> omega
theorem RB_p {i : Nat} (h : i < 12) : RB (177 + 28 * i) := Or.inr (Or.inr (Or.inr (Or.inr ⟨i, h, rfl⟩)))
theorem RB_i {i : Nat} (h : i < 2) : RB (116 + 28 * i) := by
  have : i = 0 ∨ i = 1 := by omega
  rcases this with rfl | rfl
  · exact Or.inr (Or.inr (Or.inl rfl))
  · exact Or.inr (Or.inr (Or.inr (Or.inl rfl)))
/-- the last of the free ones, i, goes behind those before; its row is F -/
theorem UC_know1 {S X : ST} {n hb hf i : Nat} {u w : Nat → Nat} {F : Nat → Int32} (h : UC S n hb hf u w) (hn : n < 12) (hi : w (11 - n) = i) (e1 : X 111 1 = S 111 1) (e2 : X 111 2 = nI ((hb + n + 1) % 15)) (e3 : X 113 1 = S 113 1) (e4 : X 113 2 = nI ((hf + (11 - n)) % 15)) (e5 : X 112 ((hb + n) % 15) = nI (177 + 28 * i + 1)) (e6 : ∀ j, j ≠ (hb + n) % 15 → X 112 j = S 112 j) (e7 : ∀ j, j ≠ (hf + (11 - n)) % 15 → X 114 j = S 114 j) (e8 : HR X (177 + 28 * i) F) (e9 : ∀ k, 177 ≤ k → k < 513 → (k < 177 + 28 * i ∨ 177 + 28 * i + 28 ≤ k) → X k = S k) : UC X (n + 1) hb hf (upN u n i) w := by
  obtain ⟨⟨h1, h2, h3⟩, ⟨h4, h5, h6, h7⟩, h8, h9, ⟨h10, h11, h12⟩, h13⟩ := h
  have hi12 : i < 12 := by rw [← hi]; exact (h9 (11 - n) (by omega)).1
  refine ⟨⟨by omega, h2, h3⟩, ⟨e1.trans h4, by rw [e2, Nat.add_assoc], e3.trans h6, by rw [e4, show 12 - (n + 1) = 11 - n by omega]⟩, fun p hp => ?_, fun p hp => ?_, ⟨fun p q hp hq e => ?_, fun p q hp hq e => h11 p q (by omega) (by omega) e, fun p q hp hq => ?_⟩, fun q hq => ?_⟩
  · unfold upN
    by_cases e : p = n
    · subst e; rw [if_pos rfl]; exact ⟨hi12, e5⟩
    · rw [if_neg e, e6 _ (by omega)]; exact h8 p (by omega)
  · rw [e7 _ (by omega)]; exact h9 p (by omega)
  · unfold upN at e
    by_cases ep : p = n
    · by_cases eq : q = n
      · omega
      · rw [if_pos ep, if_neg eq] at e
        exact absurd (e.symm.trans hi.symm) (h12 q (11 - n) (by omega) (by omega))
    · by_cases eq : q = n
      · rw [if_neg ep, if_pos eq] at e
        exact absurd (e.trans hi.symm) (h12 p (11 - n) (by omega) (by omega))
      · rw [if_neg ep, if_neg eq] at e
        exact h10 p q (by omega) (by omega) e
  · unfold upN
    by_cases ep : p = n
    · rw [if_pos ep]
      intro e
      have := h11 (11 - n) q (by omega) (by omega) (hi.trans e)
      omega
    · rw [if_neg ep]; exact h12 p q (by omega) (by omega)
  · by_cases e : q = i
    · subst e; exact ⟨F, e8⟩
    · obtain ⟨c, hc⟩ := h13 q hq
      exact ⟨c, hc.to (fun k a b => e9 k (by omega) (by omega) (by omega))⟩
def rotN (u : Nat → Nat) : Nat → Nat := fun p => if p = 11 then u 0 else u (p + 1)
/-- none is free: the oldest, i, goes behind -/
theorem UC_know2 {S X : ST} {hb hf i : Nat} {u w : Nat → Nat} {F : Nat → Int32} (h : UC S 12 hb hf u w) (hi : u 0 = i) (e1 : X 111 1 = nI ((hb + 1) % 15)) (e2 : X 111 2 = nI ((hb + 13) % 15)) (e3 : X 113 = S 113) (e5 : X 112 ((hb + 12) % 15) = nI (177 + 28 * i + 1)) (e6 : ∀ j, j ≠ (hb + 12) % 15 → j ≠ hb → X 112 j = S 112 j) (e7 : X 114 = S 114) (e8 : HR X (177 + 28 * i) F) (e9 : ∀ k, 177 ≤ k → k < 513 → (k < 177 + 28 * i ∨ 177 + 28 * i + 28 ≤ k) → X k = S k) : UC X 12 ((hb + 1) % 15) hf (rotN u) w := by
  obtain ⟨⟨h1, h2, h3⟩, ⟨h4, h5, h6, h7⟩, h8, h9, ⟨h10, h11, h12⟩, h13⟩ := h
  have hi12 : i < 12 := by rw [← hi]; exact (h8 0 (by omega)).1
  refine ⟨⟨by omega, by omega, h3⟩, ⟨e1, by rw [e2]; congr 1; omega, by rw [e3]; exact h6, by rw [e3]; exact h7⟩, fun p hp => ?_, fun p hp => absurd hp (by omega), ⟨fun p q hp hq e => ?_, fun p q hp hq e => absurd hp (by omega), fun p q hp hq => absurd hq (by omega)⟩, fun q hq => ?_⟩
  · unfold rotN
    by_cases e : p = 11
    · subst e; rw [if_pos rfl, hi, show ((hb + 1) % 15 + 11) % 15 = (hb + 12) % 15 by omega]; exact ⟨hi12, e5⟩
    · rw [if_neg e, e6 _ (by omega) (by omega), show ((hb + 1) % 15 + p) % 15 = (hb + (p + 1)) % 15 by omega]; exact h8 (p + 1) (by omega)
  · unfold rotN at e
    by_cases ep : p = 11
    · by_cases eq : q = 11
      · omega
      · rw [if_pos ep, if_neg eq] at e
        have := h10 0 (q + 1) (by omega) (by omega) e; omega
    · by_cases eq : q = 11
      · rw [if_neg ep, if_pos eq] at e
        have := h10 (p + 1) 0 (by omega) (by omega) e; omega
      · rw [if_neg ep, if_neg eq] at e
        have := h10 (p + 1) (q + 1) (by omega) (by omega) e; omega
  · by_cases e : q = i
    · subst e; exact ⟨F, e8⟩
    · obtain ⟨c, hc⟩ := h13 q hq
      exact ⟨c, hc.to (fun k a b => e9 k (by omega) (by omega) (by omega))⟩
/-- the last of those before, i, goes to the free ones -/
theorem UC_pop {S X : ST} {n hb hf i : Nat} {u w : Nat → Nat} (h : UC S (n + 1) hb hf u w) (hi : u n = i) (e1 : X 111 1 = S 111 1) (e2 : X 111 2 = nI ((hb + n) % 15)) (e3 : X 113 1 = S 113 1) (e4 : X 113 2 = nI ((hf + (12 - n)) % 15)) (e5 : X 114 ((hf + (11 - n)) % 15) = nI (177 + 28 * i + 1)) (e6 : ∀ j, j ≠ (hf + (11 - n)) % 15 → X 114 j = S 114 j) (e7 : ∀ j, j ≠ (hb + n) % 15 → X 112 j = S 112 j) (e9 : ∀ k, 177 ≤ k → k < 513 → X k = S k) : UC X n hb hf u (upN w (11 - n) i) := by
  obtain ⟨⟨h1, h2, h3⟩, ⟨h4, h5, h6, h7⟩, h8, h9, ⟨h10, h11, h12⟩, h13⟩ := h
  have hi12 : i < 12 := by rw [← hi]; exact (h8 n (by omega)).1
  refine ⟨⟨by omega, h2, h3⟩, ⟨e1.trans h4, e2, e3.trans h6, e4⟩, fun p hp => ?_, fun p hp => ?_, ⟨fun p q hp hq e => h10 p q (by omega) (by omega) e, fun p q hp hq e => ?_, fun p q hp hq => ?_⟩, fun q hq => ?_⟩
  · rw [e7 _ (by omega)]; exact h8 p (by omega)
  · unfold upN
    by_cases e : p = 11 - n
    · subst e; rw [if_pos rfl]; exact ⟨hi12, e5⟩
    · rw [if_neg e, e6 _ (by omega)]; exact h9 p (by omega)
  · unfold upN at e
    by_cases ep : p = 11 - n
    · by_cases eq : q = 11 - n
      · omega
      · rw [if_pos ep, if_neg eq] at e
        exact absurd (hi.trans e) (h12 n q (by omega) (by omega))
    · by_cases eq : q = 11 - n
      · rw [if_neg ep, if_pos eq] at e
        exact absurd (hi.trans e.symm) (h12 n p (by omega) (by omega))
      · rw [if_neg ep, if_neg eq] at e
        exact h11 p q (by omega) (by omega) e
  · unfold upN
    by_cases eq : q = 11 - n
    · rw [if_pos eq]
      intro e
      have := h10 p n (by omega) (by omega) (e.trans hi.symm)
      omega
    · rw [if_neg eq]; exact h12 p q (by omega) (by omega)
  · obtain ⟨c, hc⟩ := h13 q hq
    exact ⟨c, hc.to (fun k a b => e9 k (by omega) (by omega))⟩
theorem TE_rem {M : ST} : TE M (mRem M) := ⟨mRem_513 (by decide) (by decide), mRem_513 (by decide) (by decide), fun k h1 h2 => mRem_ne (by omega) (by omega)⟩
theorem mRem_529 {M : ST} : mRem M 529 = blk (M 527) (M 529) (326 * nn (M 513 26)) 326 := by
  unfold mRem
  rw [s2_nk (by decide), s2_nk (by decide), s1_at]
theorem PU_know1 {S X M : ST} {n a hb hf i : Nat} {u w : Nat → Nat} {c F : Nat → Int32} (hM : MI M) (h : UR S M n a hb hf u w) (hX : UC X (n + 1) hb hf (upN u n i) w) (hn : n < 12) (hF : HR X (177 + 28 * i) F) (hG : Gd M F (M 527)) (hu : ∀ p, p < n → u p ≠ i) (e9 : ∀ k, 177 ≤ k → k < 513 → (k < 177 + 28 * i ∨ 177 + 28 * i + 28 ≤ k) → X k = S k) : UR X (mRem M) (n + 1) ((a + 1) % 12) hb hf (upN u n i) w := by
  obtain ⟨⟨h1, h2, h3⟩, ⟨h4, h5⟩, h6, h7, h8, h9, h10, h11⟩ := h
  have hna : nn (M 513 26) = a := by rw [h5]; exact nn_of (by omega)
  refine hX.ur (by omega) ?_ ?_ (fun p hp => ?_)
  · rw [mRem_25, h4, if_pos ((nI_ltI (by omega) (by decide)).mpr hn), nI_add]
  · rw [mRem_26, hna]
  · have hM' : MI (mRem M) := MI_rem hM
    unfold upN
    by_cases e : p = n
    · subst e
      rw [if_pos rfl]
      refine ⟨F, hF, (hG.to TE_rem).congG hM' (fun j hj => ?_)⟩
      rw [mRem_529, hna, show ((a + 1) % 12 + 12 - (p + 1) + p) % 12 = a by omega]
      exact blk_in hj
    · rw [if_neg e]
      obtain ⟨c, hc, hg⟩ := h11 p (by omega)
      have hp12 := (h7 p (by omega)).1
      have hne := hu p (by omega)
      refine ⟨c, hc.to (fun k a b => e9 k (by omega) (by omega) (by omega)), (hg.to TE_rem).congG hM' (fun j hj => ?_)⟩
      rw [mRem_529, hna, show ((a + 1) % 12 + 12 - (n + 1) + p) % 12 = (a + 12 - n + p) % 12 by omega]
      exact blk_out (by omega)
theorem PU_know2 {S X M : ST} {a hb hf i : Nat} {u w : Nat → Nat} {F : Nat → Int32} (hM : MI M) (h : UR S M 12 a hb hf u w) (hi : u 0 = i) (hX : UC X 12 ((hb + 1) % 15) hf (rotN u) w) (hF : HR X (177 + 28 * i) F) (hG : Gd M F (M 527)) (e9 : ∀ k, 177 ≤ k → k < 513 → (k < 177 + 28 * i ∨ 177 + 28 * i + 28 ≤ k) → X k = S k) : UR X (mRem M) 12 ((a + 1) % 12) ((hb + 1) % 15) hf (rotN u) w := by
  obtain ⟨⟨h1, h2, h3⟩, ⟨h4, h5⟩, h6, h7, h8, ⟨h9, -⟩, h10, h11⟩ := h
  have hna : nn (M 513 26) = a := by rw [h5]; exact nn_of (by omega)
  refine hX.ur (by omega) ?_ ?_ (fun p hp => ?_)
  · rw [mRem_25, h4, if_neg (by decide), nI_add]
  · rw [mRem_26, hna]
  · have hM' : MI (mRem M) := MI_rem hM
    unfold rotN
    by_cases e : p = 11
    · subst e
      rw [if_pos rfl, hi]
      refine ⟨F, hF, (hG.to TE_rem).congG hM' (fun j hj => ?_)⟩
      rw [mRem_529, hna, show ((a + 1) % 12 + 12 - 12 + 11) % 12 = a by omega]
      exact blk_in hj
    · rw [if_neg e]
      obtain ⟨c, hc, hg⟩ := h11 (p + 1) (by omega)
      have hp12 := (h7 (p + 1) (by omega)).1
      have hne : u (p + 1) ≠ i := fun z => by have := h9 (p + 1) 0 (by omega) (by omega) (z.trans hi.symm); omega
      refine ⟨c, hc.to (fun k a b => e9 k (by omega) (by omega) (by omega)), (hg.to TE_rem).congG hM' (fun j hj => ?_)⟩
      rw [mRem_529, hna, show ((a + 1) % 12 + 12 - 12 + p) % 12 = (a + 12 - 12 + (p + 1)) % 12 by omega]
      exact blk_out (by omega)
/-- all but the rows of what was stays -/
def UO (S X : ST) : Prop := ∀ k, ¬ ((111 ≤ k ∧ k < 115) ∨ (177 ≤ k ∧ k < 513)) → X k = S k
theorem RL.undo {S X M M' : ST} (h : RL S M) (o : UO S X) (hU : PU X M') (e : TE M M') (e7 : M' 527 = M 527) (e3 : M' 533 = M 533) (e4 : M' 534 = M 534) (e8 : M' 513 28 = M 513 28) (e0 : ∀ k, 530 ≤ k → k < 533 → M' k = M k) (et : M' 513 0 = M 513 0) (ex : M' 514 = M 514) : RL X M' := by
  obtain ⟨h1, h2, h3, h4, h5, h6, h7, h8, h9⟩ := h
  exact ⟨(h1.toC (fun k a b => o k (by omega))).toM e, h2.to (fun k a => o k (by omega)), (h3.toC (fun k a b => o k (by omega))).toM e e7, h4.toC (fun k a b => o k (by omega)), (h5.toC (fun k a b => o k (by omega))).toM e e3 e4, hU, (h7.toC (congrFun (o 0 (by omega)) _) (fun k a b => o k (by omega))).toM e e8 e0, (h8.toC (congrFun (o 0 (by omega)) _) (o 173 (by omega))).toM et ex, h9.toC (fun k a => o k (by omega))⟩
theorem RL.rem {S X M : ST} (h : RL S M) (o : UO S X) (hU : PU X (mRem M)) : RL X (mRem M) :=
  h.undo o hU TE_rem (mRem_ne (by decide) (by decide)) (mRem_ne (by decide) (by decide)) (mRem_ne (by decide) (by decide)) (mRem_513 (by decide) (by decide)) (fun k h1 h2 => mRem_ne (by omega) (by omega)) (mRem_513 (by decide) (by decide)) (mRem_ne (by decide) (by decide))
