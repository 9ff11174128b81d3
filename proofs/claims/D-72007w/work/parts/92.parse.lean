set_option maxRecDepth 100000
/-! THE READERS: the component's Reader at r, one token ahead, and the model's reading -/
def tsort (c : Int32) : Nat := if c = (-1) then 13 else if c = nI 0 then 11 else if c = (-2) then 14 else lsort (nn c)
abbrev TKL : List Int32 := [-1, nI 0, -2, nI 59, nI 98, nI 99, nI 100, nI 102, nI 103, nI 106, nI 114, nI 115, nI 116, nI 119, nI 120]
abbrev TK (c : Int32) : Prop := c ∈ TKL
theorem isTb_TK {c : Int32} (h : isTb c = true) : TK c := by
  unfold isTb at h
  simp only [Bool.or_eq_true, beq_iff_eq] at h
  rcases h with h | h | h | h | h | h | h | h | h | h | h | h <;> subst h <;> decide
theorem TK_tkT (X : Nat → Int32) (L p : Nat) : TK (tkT X L p) := by
  unfold tkT
  split
  · decide
  · split
    · split <;> decide
    · split
      next h => exact isTb_TK h
      next => decide
theorem tk_fin : ∀ v : Fin 256, lsort v.val = tsort (if isTb (nI v.val) = true then nI v.val else (-2)) ∧ ¬ (if isTb (nI v.val) = true then nI v.val else (-2)) = nI 0 := by decide +kernel
def LT8 (X : Nat → Int32) (L : Nat) : Prop := ∀ j, j < L → ∃ v, v < 256 ∧ X j = nI v
theorem TXT.lt {S : ST} {X : Nat → Int32} {L : Nat} (h : TXT S X L) : LT8 X L := fun j hj => (h.2.2 j hj).1
theorem srtT_eq {X : Nat → Int32} {L p : Nat} (h : LT8 X L) (hp : p ≤ L) : srtT X L p = tsort (tkT X L p) := by
  unfold srtT tkT
  by_cases c1 : sk X L p = L
  · rw [if_pos c1, if_pos c1]; rfl
  · rw [if_neg c1, if_neg c1]
    by_cases c2 : figP X L (sk X L p)
    · rw [if_pos c2, if_pos c2]
      by_cases c3 : 99 < (tkD X L p).1 ∨ (X (sk X L p) = nI 48 ∧ 1 < (tkD X L p).2 - sk X L p)
      · rw [if_pos c3, if_pos c3]; rfl
      · rw [if_neg c3, if_neg c3]; rfl
    · rw [if_neg c2, if_neg c2]
      have hs := sk_le (X := X) hp
      obtain ⟨v, hv, e⟩ := h (sk X L p) (by omega)
      rw [e, nn_of (by omega)]
      exact (tk_fin ⟨v, hv⟩).1
theorem cvT_eq {X : Nat → Int32} {L p : Nat} (h : LT8 X L) (hp : p ≤ L) (d : Int32) (e : tkT X L p = nI 0) : nI (cvT X L p) = tkV X L p d := by
  unfold tkT at e
  unfold cvT tkV
  by_cases c1 : sk X L p = L
  · rw [if_pos c1] at e; exact absurd e (by decide)
  · rw [if_neg c1] at e
    rw [if_neg c1, if_neg c1]
    by_cases c2 : figP X L (sk X L p)
    · rw [if_pos c2] at e
      rw [if_pos c2, if_pos c2]
      by_cases c3 : 99 < (tkD X L p).1 ∨ (X (sk X L p) = nI 48 ∧ 1 < (tkD X L p).2 - sk X L p)
      · rw [if_pos c3] at e; exact absurd e (by decide)
      · have : ¬ 99 < (tkD X L p).1 := fun z => c3 (Or.inl z)
        rw [Nat.min_eq_right (by omega)]
    · rw [if_neg c2] at e
      have hs := sk_le (X := X) hp
      obtain ⟨v, hv, e2⟩ := h (sk X L p) (by omega)
      rw [e2] at e
      exact absurd e (tk_fin ⟨v, hv⟩).2
/-- the model has not read the Reader's token yet; it has just read it -/
def LA0 (S M : ST) (r : Nat) : Prop := S r 0 = nI (tkE (M 514) (mL M) (mP M)) ∧ S r 1 = nI (sk (M 514) (mL M) (mP M)) ∧ S r 2 = nI (srtT (M 514) (mL M) (mP M)) ∧ S r 3 = nI (cvT (M 514) (mL M) (mP M))
def LA1 (S M : ST) (r : Nat) : Prop := S r 0 = M 513 2 ∧ S r 1 = M 513 3 ∧ S r 2 = nI (tsort (M 513 4)) ∧ (M 513 4 = nI 0 → S r 3 = M 513 5) ∧ TK (M 513 4)
theorem nxS_at (M : ST) : nxS M 513 = nx (M 514) (mL M) (mP M) (M 513) := by unfold nxS; rw [s1_at]
theorem LA0.nx {S M : ST} {r : Nat} (h : LA0 S M r) (hT : TXT S (M 514) (mL M)) (hM : MP M) : LA1 S (nxS M) r := by
  unfold LA1
  rw [nxS_at]
  refine ⟨h.1, h.2.1, ?_, fun e => ?_, TK_tkT _ _ _⟩
  · rw [h.2.2.1, srtT_eq hT.lt hM.p]; rfl
  · rw [h.2.2.2]; exact cvT_eq hT.lt hM.p _ e
theorem LA1.du {S M : ST} {r : Nat} (h : LA1 S M r) : LA0 (rdDu r (M 514) (mL M) S) M r := by
  unfold LA0 rdDu
  rw [s1_at, h.1]
  exact ⟨rfl, rfl, rfl, rfl⟩
theorem LA0.to {S M S' M' : ST} {r : Nat} (h : LA0 S M r) (e : S' r = S r) (e0 : M' 513 0 = M 513 0) (e2 : M' 513 2 = M 513 2) (e4 : M' 514 = M 514) : LA0 S' M' r := by
  unfold LA0 mL mP; rw [e, e0, e2, e4]; exact h
theorem LA1.to {S M S' M' : ST} {r : Nat} (h : LA1 S M r) (e : S' r = S r) (e0 : ∀ j, 2 ≤ j → j < 6 → M' 513 j = M 513 j) : LA1 S' M' r := by
  unfold LA1; rw [e, e0 2 (by omega) (by omega), e0 3 (by omega) (by omega), e0 4 (by omega) (by omega), e0 5 (by omega) (by omega)]; exact h
theorem tk_num : ∀ c ∈ TKL, tsort c = 11 ↔ c = nI 0 := by decide +kernel
theorem tk_stop : ∀ c ∈ TKL, tsort c = 12 ↔ c = nI 59 := by decide +kernel
theorem tk_op : ∀ c ∈ TKL, tsort c ≤ 4 ↔ opP c := by decide +kernel
theorem tk_wf : ∀ c ∈ TKL, (tsort c = 0 ∨ tsort c = 4) ↔ wfP c := by decide +kernel
theorem tk_opR : ∀ c ∈ TKL, tsort c ≤ 4 → (nI (tsort c) = nI 0 ∧ c = nI 119) ∨ (nI (tsort c) = nI 1 ∧ c = nI 98) ∨ (nI (tsort c) = nI 2 ∧ c = nI 106) ∨ (nI (tsort c) = nI 3 ∧ c = nI 120) ∨ (nI (tsort c) = nI 4 ∧ c = nI 102) := by decide +kernel
theorem tk_14 : ∀ c ∈ TKL, tsort c ≤ 14 := by decide +kernel
theorem tk_it : ∀ c ∈ TKL, (tsort c = 5 ↔ c = nI 114) ∧ (tsort c = 6 ↔ c = nI 116) ∧ (tsort c = 7 ↔ c = nI 100) ∧ (tsort c = 8 ↔ c = nI 115) ∧ (tsort c = 9 ↔ c = nI 99) ∧ (tsort c = 10 ↔ c = nI 103) := by decide +kernel
theorem num_iff {S M : ST} {r : Nat} (h : LA1 S M r) (lo hi : Int32) : numP r lo hi S ↔ nuP (M 513) lo hi := by
  unfold numP nuP
  rw [h.2.2.1]
  constructor
  · intro z
    have e := (tk_num _ h.2.2.2.2).mp (nI_inj (by have := tk_14 _ h.2.2.2.2; omega) (by decide) z.1)
    rw [h.2.2.2.1 e] at z
    exact ⟨e, z.2⟩
  · intro z
    rw [h.2.2.2.1 z.1, (tk_num _ h.2.2.2.2).mpr z.1]
    exact ⟨rfl, z.2⟩
theorem num_iff0 {S M : ST} {r : Nat} (h : LA1 S (nxS M) r) (lo hi : Int32) : numP r lo hi S ↔ nuB M lo hi := by
  rw [num_iff h, nxS_at]
theorem nuS_t {M : ST} {lo hi : Int32} (h : nuB M lo hi) : nuS M lo hi = nxS M := by unfold nuS nxS nu; rw [if_pos h]
theorem nuS_f {M : ST} {lo hi : Int32} (h : ¬ nuB M lo hi) : nuS M lo hi = flS (nxS M) := by
  unfold nuS flS nu; rw [if_neg h, nxS_at]; unfold nxS; rw [s1_s1]
theorem flS_6 (M : ST) : flS M 513 6 = M 513 3 := by unfold flS fl; rw [s1_at, pk_us]
theorem esS_t {M : ST} (h : esB M) : esS M = nxS M := by unfold esS nxS es; rw [if_pos h]
theorem esS_f {M : ST} (h : ¬ esB M) : esS M = flS (nxS M) := by
  unfold esS flS es; rw [if_neg h, nxS_at]; unfold nxS; rw [s1_s1]
theorem stop_iff {S M : ST} {r : Nat} (h : LA1 S M r) : S r 2 = nI 12 ↔ M 513 4 = nI 59 := by
  rw [h.2.2.1]
  constructor
  · intro z; exact (tk_stop _ h.2.2.2.2).mp (nI_inj (by have := tk_14 _ h.2.2.2.2; omega) (by decide) z)
  · intro z; rw [(tk_stop _ h.2.2.2.2).mpr z]
/-- the drafts -/
def DRl (S M : ST) : Prop := S 27 0 = M 513 7 ∧ (∀ t, t < mK M → S 28 t = M 515 t ∧ S 29 t = M 516 t ∧ S 48 t = M 518 t ∧ S 49 t = M 519 t ∧ S 50 t = M 520 t) ∧ (∀ t k, t < mK M → k < nn (M 516 t) → opR (S (31 + t) k) (M 517 (12 * t + 2 * k)) ∧ S (40 + t) k = M 517 (12 * t + 2 * k + 1)) ∧ ∃ v, BS S 51 v ∧ M 513 8 = nI v
def DM (M : ST) : Prop := (∀ t, mK M ≤ t → t < 8 → M 515 t = (-9) ∧ M 516 t = nI 0 ∧ M 518 t = nI 99 ∧ M 519 t = nI 0 ∧ M 520 t = nI 0) ∧ (0 < mK M → M 515 0 = (-9)) ∧ (∀ t, 0 < t → t < mK M → inN (M 515 t) 7 ∧ nn (M 515 t) < t) ∧ ∀ t, t < mK M → inN (M 518 t) 99
def DIv (S M : ST) (r : Nat) : Prop := TXT S (M 514) (mL M) ∧ MR M ∧ RdI S r (mL M) ∧ DRl S M ∧ DM M
/-- the model's cells of the draft are the same -/
theorem DM.to {M M' : ST} (h : DM M) (e7 : M' 513 7 = M 513 7) (e : ∀ k, 515 ≤ k → k < 521 → M' k = M k) : DM M' := by
  unfold DM mK
  rw [e7, e 515 (by omega) (by omega), e 516 (by omega) (by omega), e 518 (by omega) (by omega), e 519 (by omega) (by omega), e 520 (by omega) (by omega)]
  exact h
theorem DRl.toM {S M M' : ST} (h : DRl S M) (e7 : M' 513 7 = M 513 7) (e8 : M' 513 8 = M 513 8) (e : ∀ k, 515 ≤ k → k < 521 → M' k = M k) : DRl S M' := by
  unfold DRl mK
  rw [e7, e8, e 515 (by omega) (by omega), e 516 (by omega) (by omega), e 517 (by omega) (by omega), e 518 (by omega) (by omega), e 519 (by omega) (by omega), e 520 (by omega) (by omega)]
  exact h
theorem DRl.toC {S S' M : ST} (h : DRl S M) (hM : MR M) (e : ∀ k, 27 ≤ k → k < 53 → S' k = S k) : DRl S' M := by
  have h8 : mK M ≤ 8 := hM.2.1.2
  obtain ⟨h1, h2, h3, v, h4, h5⟩ := h
  refine ⟨by rw [e 27 (by omega) (by omega)]; exact h1, fun t ht => ?_, fun t k ht hk => ?_, v, ⟨by rw [e 52 (by omega) (by omega)]; exact h4.1, h4.2.1, by rw [e 51 (by omega) (by omega)]; exact h4.2.2⟩, h5⟩
  · rw [e 28 (by omega) (by omega), e 29 (by omega) (by omega), e 48 (by omega) (by omega), e 49 (by omega) (by omega), e 50 (by omega) (by omega)]; exact h2 t ht
  · rw [e (31 + t) (by omega) (by omega), e (40 + t) (by omega) (by omega)]; exact h3 t k ht hk
theorem RdI.to {S S' : ST} {r L : Nat} (h : RdI S r L) (e : S' r = S r) : RdI S' r L := by unfold RdI; rw [e]; exact h
theorem mL_nx (M : ST) : mL (nxS M) = mL M := by unfold mL; rw [nxS_j (by omega)]
theorem DIv.rd {S M : ST} {r : Nat} (h : DIv S M r) (hrr : 535 ≤ r) : DIv (rdDu r (M 514) (mL M) S) M r := by
  obtain ⟨h1, h2, h3, h4, h5⟩ := h
  refine ⟨h1.to (by unfold rdDu; rw [s1_ne (by omega)]) (by unfold rdDu; rw [s1_ne (by omega)]), h2, RdI_du h3 h1, h4.toC h2 (fun k a b => by unfold rdDu; rw [s1_ne (by omega)]), h5⟩
theorem DIv.nx {S M : ST} {r : Nat} (h : DIv S M r) : DIv S (nxS M) r := by
  obtain ⟨h1, h2, h3, h4, h5⟩ := h
  have e : ∀ k, 515 ≤ k → k < 521 → nxS M k = M k := fun k a b => nxS_ne (by omega)
  refine ⟨?_, MR_nx h2, by rw [mL_nx]; exact h3, h4.toM (nxS_j (by omega)) (nxS_j (by omega)) e, h5.to (nxS_j (by omega)) e⟩
  rw [mL_nx, nxS_ne (by decide)]; exact h1
/-- an operation's kind, laid behind the last one -/
theorem DIv.what {S M : ST} {r t k : Nat} {v : Int32} (h : DIv S M r) (hrr : 535 ≤ r) (ht : t < 8) (hk : nn (M 516 t) ≤ k) : DIv (s2 S (31 + t) k v) M r := by
  obtain ⟨h1, h2, h3, ⟨d1, d2, d3, u, d4, d5⟩, h5⟩ := h
  have e : ∀ q, q ≠ 31 + t → s2 S (31 + t) k v q = S q := fun q hq => s2_nk hq
  have h8 : mK M ≤ 8 := h2.2.1.2
  refine ⟨h1.to (by rw [e _ (by omega)]) (by rw [e _ (by omega)]), h2, h3.to (e _ (by omega)), ⟨by rw [e _ (by omega)]; exact d1, fun q hq => ?_, fun q i hq hi => ?_, u, BS_s2 d4 (by omega) (by omega), d5⟩, h5⟩
  · rw [e _ (by omega), e _ (by omega), e _ (by omega), e _ (by omega), e _ (by omega)]; exact d2 q hq
  · rw [e (40 + q) (by omega)]
    by_cases c : q = t
    · subst c
      rw [s2_nj (by omega)]; exact d3 q i hq hi
    · rw [e (31 + q) (by omega)]; exact d3 q i hq hi
/-- an operation laid whole -/
theorem DIv.op {S M : ST} {r t k : Nat} {c x : Int32} (h : DIv S M r) (hrr : 535 ≤ r) (ht : t < mK M) (hk : M 516 t = nI k) (hk6 : k < 6) (ho : opR (S (31 + t) k) c) : DIv (s2 (s2 S (40 + t) k x) 29 t (nI (k + 1))) (pgW M t c x) r := by
  obtain ⟨h1, h2, h3, ⟨d1, d2, d3, u, d4, d5⟩, h5⟩ := h
  have h8 : mK M ≤ 8 := h2.2.1.2
  have hn : nn (M 516 t) = k := by rw [hk]; exact nn_of (by omega)
  have e : ∀ q, q ≠ 40 + t → q ≠ 29 → s2 (s2 S (40 + t) k x) 29 t (nI (k + 1)) q = S q := fun q a b => by rw [s2_nk b, s2_nk a]
  have e9 : ∀ q, q ≠ t → s2 (s2 S (40 + t) k x) 29 t (nI (k + 1)) 29 q = S 29 q := fun q a => by rw [s2_nj a, s2_nk (by omega)]
  have m3 : pgW M t c x 513 = M 513 := by unfold pgW; rw [s2_nk (by decide), s2_nk (by decide), s2_nk (by decide)]
  have mm : ∀ q, q ≠ 516 → q ≠ 517 → pgW M t c x q = M q := fun q a b => by unfold pgW; rw [s2_nk a, s2_nk b, s2_nk b]
  have m6 : pgW M t c x 516 t = nI (k + 1) := by rw [pgW_516, hn]
  have m6n : ∀ q, q ≠ t → pgW M t c x 516 q = M 516 q := fun q a => by unfold pgW; rw [s2_nj a, s2_nk (by decide), s2_nk (by decide)]
  have m7 : ∀ q, pgW M t c x 517 q = if q = 12 * t + 2 * k + 1 then x else if q = 12 * t + 2 * k then c else M 517 q := fun q => by
    unfold pgW
    rw [s2_nk (by decide), hn, s2_val, s2_val]
    simp only [true_and]
  have hK : mK (pgW M t c x) = mK M := by unfold mK; rw [m3]
  have hL : mL (pgW M t c x) = mL M := by unfold mL; rw [m3]
  refine ⟨?_, ⟨h2.1.same (by rw [m3]) (by rw [m3]), by rw [m3]; exact h2.2.1, fun q hq => ?_⟩, by rw [hL]; exact h3.to (e _ (by omega) (by omega)), ⟨by rw [e _ (by omega) (by omega), m3]; exact d1, fun q hq => ?_, fun q i hq hi => ?_, u, ?_, by rw [m3]; exact d5⟩, ?_⟩
  · rw [hL, mm 514 (by decide) (by decide)]
    exact h1.to (by rw [e _ (by omega) (by omega)]) (by rw [e _ (by omega) (by omega)])
  · by_cases c0 : q = t
    · subst c0; rw [m6]; exact inN_nI (by omega) (by decide)
    · rw [m6n q c0]; exact h2.2.2 q hq
  · rw [hK] at hq
    rw [e 28 (by omega) (by omega), e 48 (by omega) (by omega), e 49 (by omega) (by omega), e 50 (by omega) (by omega), mm 515 (by decide) (by decide), mm 518 (by decide) (by decide), mm 519 (by decide) (by decide), mm 520 (by decide) (by decide)]
    have z := d2 q hq
    refine ⟨z.1, ?_, z.2.2⟩
    by_cases c0 : q = t
    · subst c0; rw [m6, s2_at]
    · rw [m6n q c0, e9 q c0]; exact z.2.1
  · rw [hK] at hq
    rw [m7, m7]
    by_cases c0 : q = t
    · subst c0
      rw [m6, nn_of (by omega)] at hi
      rw [e (31 + q) (by omega) (by omega), s2_nk (by omega)]
      by_cases c1 : i = k
      · subst c1
        rw [if_neg (by omega), if_pos rfl, if_pos rfl, s2_at]
        exact ⟨ho, rfl⟩
      · rw [if_neg (by omega), if_neg (by omega), if_neg (by omega), if_neg (by omega), s2_nj c1]
        exact d3 q i hq (by omega)
    · rw [m6n q c0] at hi
      have h6 : nn (M 516 q) ≤ 6 := (h2.2.2 q (by omega)).2
      rw [e (31 + q) (by omega) (by omega), e (40 + q) (by omega) (by omega), if_neg (by omega), if_neg (by omega), if_neg (by omega), if_neg (by omega)]
      exact d3 q i hq hi
  · exact BS_s2 (BS_s2 d4 (by omega) (by omega)) (by omega) (by omega)
  · obtain ⟨q1, q2, q3, q4⟩ := h5
    unfold DM
    rw [hK, mm 515 (by decide) (by decide), mm 518 (by decide) (by decide), mm 519 (by decide) (by decide), mm 520 (by decide) (by decide)]
    refine ⟨fun q a b => ?_, q2, q3, q4⟩
    rw [m6n q (by omega)]
    exact q1 q a b
/-- a task laid -/
def adS (S : ST) (n : Nat) (p : Int32) : ST := s2 (s2 (s2 (s2 (s2 (s2 S 28 n p) 29 n (nI 0)) 48 n (nI 99)) 49 n (nI 0)) 50 n (nI 0)) 27 0 (nI (n + 1))
def adM (M : ST) (n : Nat) (p : Int32) : ST := s2 (s2 M 515 n p) 513 7 (nI (n + 1))
theorem adS_ne {S : ST} {n k : Nat} {p : Int32} (h : k < 27 ∨ (30 ≤ k ∧ k < 48) ∨ 51 ≤ k) : adS S n p k = S k := by
  unfold adS
  rw [s2_nk (by omega), s2_nk (by omega), s2_nk (by omega), s2_nk (by omega), s2_nk (by omega), s2_nk (by omega)]
theorem adS_c (S : ST) (n q : Nat) (p : Int32) : adS S n p 28 q = (if q = n then p else S 28 q) ∧ adS S n p 29 q = (if q = n then nI 0 else S 29 q) ∧ adS S n p 48 q = (if q = n then nI 99 else S 48 q) ∧ adS S n p 49 q = (if q = n then nI 0 else S 49 q) ∧ adS S n p 50 q = (if q = n then nI 0 else S 50 q) ∧ adS S n p 27 0 = nI (n + 1) := by
  unfold adS
  simp only [s2_val]
  refine ⟨?_, ?_, ?_, ?_, ?_, ?_⟩ <;> simp
theorem DIv.add {S M : ST} {r n : Nat} {p : Int32} (h : DIv S M r) (hrr : 535 ≤ r) (hn : M 513 7 = nI n) (hn8 : n < 8) (hp : (n = 0 ∧ p = (-9)) ∨ (0 < n ∧ inN p 7 ∧ nn p < n)) : DIv (adS S n p) (adM M n p) r := by
  obtain ⟨h1, h2, h3, ⟨d1, d2, d3, u, d4, d5⟩, ⟨q1, q2, q3, q4⟩⟩ := h
  have hK : mK M = n := by unfold mK; rw [hn]; exact nn_of (by omega)
  have a7 : adM M n p 513 7 = nI (n + 1) := by unfold adM; rw [s2_at]
  have a3 : ∀ j, j ≠ 7 → adM M n p 513 j = M 513 j := fun j hj => by unfold adM; rw [s2_nj hj, s2_nk (by decide)]
  have ak : ∀ k, k ≠ 513 → k ≠ 515 → adM M n p k = M k := fun k a b => by unfold adM; rw [s2_nk a, s2_nk b]
  have a5 : ∀ q, adM M n p 515 q = if q = n then p else M 515 q := fun q => by unfold adM; rw [s2_nk (by decide), s2_val]; simp only [true_and]
  have hK' : mK (adM M n p) = n + 1 := by unfold mK; rw [a7]; exact nn_of (by omega)
  have hL : mL (adM M n p) = mL M := by unfold mL; rw [a3 0 (by decide)]
  rw [hK] at q1 q2 q3 q4 d2 d3
  have z := q1 n (Nat.le_refl _) hn8
  refine ⟨?_, ⟨h2.1.same (a3 0 (by decide)) (a3 2 (by decide)), by rw [a7]; exact inN_nI (by omega) (by decide), by rw [ak 516 (by decide) (by decide)]; exact h2.2.2⟩, by rw [hL]; exact h3.to (adS_ne (by omega)), ⟨by rw [(adS_c S n 0 p).2.2.2.2.2, a7], fun q hq => ?_, fun q i hq hi => ?_, u, ⟨by rw [adS_ne (by omega)]; exact d4.1, d4.2.1, by rw [adS_ne (by omega)]; exact d4.2.2⟩, by rw [a3 8 (by decide)]; exact d5⟩, ?_⟩
  · rw [hL, ak 514 (by decide) (by decide)]
    exact h1.to (by rw [adS_ne (by omega)]) (by rw [adS_ne (by omega)])
  · rw [hK'] at hq
    obtain ⟨w1, w2, w3, w4, w5, -⟩ := adS_c S n q p
    rw [w1, w2, w3, w4, w5, a5, ak 516 (by decide) (by decide), ak 518 (by decide) (by decide), ak 519 (by decide) (by decide), ak 520 (by decide) (by decide)]
    by_cases c : q = n
    · subst c
      rw [z.2.1, z.2.2.1, z.2.2.2.1, z.2.2.2.2]
      simp
    · rw [if_neg c, if_neg c, if_neg c, if_neg c, if_neg c, if_neg c]
      exact d2 q (by omega)
  · rw [hK'] at hq
    rw [ak 516 (by decide) (by decide)] at hi
    rw [ak 517 (by decide) (by decide), adS_ne (by omega), adS_ne (by omega)]
    by_cases c : q = n
    · subst c
      rw [z.2.1] at hi
      exact absurd hi (by decide +revert)
    · exact d3 q i (by omega) hi
  · unfold DM
    rw [hK', ak 516 (by decide) (by decide), ak 518 (by decide) (by decide), ak 519 (by decide) (by decide), ak 520 (by decide) (by decide)]
    refine ⟨fun q a b => ?_, fun _ => ?_, fun q a b => ?_, fun q a => ?_⟩
    · rw [a5, if_neg (by omega)]; exact q1 q (by omega) b
    · rw [a5]
      by_cases c : n = 0
      · rw [if_pos c.symm]
        rcases hp with hp | hp
        · exact hp.2
        · omega
      · rw [if_neg (by omega)]; exact q2 (by omega)
    · rw [a5]
      by_cases c : q = n
      · rw [if_pos c, c]
        rcases hp with hp | hp
        · omega
        · exact hp.2
      · rw [if_neg c]; exact q3 q a (by omega)
    · by_cases c : q = n
      · rw [c, z.2.2.1]; exact inN_nI (by decide) (by decide)
      · exact q4 q (by omega)
/-- a number laid into one of the three rows: a the component's cell, b the model's -/
theorem DIv.row {S M : ST} {r t a b : Nat} {v : Int32} (h : DIv S M r) (hrr : 535 ≤ r) (ht : t < mK M) (hab : (a = 48 ∧ b = 518) ∨ (a = 49 ∧ b = 519) ∨ (a = 50 ∧ b = 520)) (hv : inN v 99) : DIv (s2 S a t v) (s2 M b t v) r := by
  obtain ⟨h1, h2, h3, ⟨d1, d2, d3, u, d4, d5⟩, ⟨q1, q2, q3, q4⟩⟩ := h
  have h8 : mK M ≤ 8 := h2.2.1.2
  have e : ∀ k, k ≠ a → s2 S a t v k = S k := fun k x => s2_nk x
  have m : ∀ k, k ≠ b → s2 M b t v k = M k := fun k x => s2_nk x
  have m3 := m 513 (by omega)
  have hK : mK (s2 M b t v) = mK M := by unfold mK; rw [m3]
  have hL : mL (s2 M b t v) = mL M := by unfold mL; rw [m3]
  refine ⟨?_, ⟨h2.1.same (by rw [m3]) (by rw [m3]), by rw [m3]; exact h2.2.1, by rw [m 516 (by omega)]; exact h2.2.2⟩, by rw [hL]; exact h3.to (e _ (by omega)), ⟨by rw [e _ (by omega), m3]; exact d1, fun q hq => ?_, fun q i hq hi => ?_, u, BS_s2 d4 (by omega) (by omega), by rw [m3]; exact d5⟩, ?_⟩
  · rw [hL, m 514 (by omega)]; exact h1.to (by rw [e _ (by omega)]) (by rw [e _ (by omega)])
  · rw [hK] at hq
    rw [e 28 (by omega), e 29 (by omega), m 515 (by omega), m 516 (by omega)]
    have z := d2 q hq
    refine ⟨z.1, z.2.1, ?_⟩
    simp only [s2_val]
    rcases hab with ⟨rfl, rfl⟩ | ⟨rfl, rfl⟩ | ⟨rfl, rfl⟩ <;> (by_cases c : q = t <;> simp [c] <;> first | exact z.2.2 | (subst c; simp [z.2.2]))
  · rw [hK] at hq
    rw [m 516 (by omega)] at hi
    rw [e _ (by omega), e _ (by omega), m 517 (by omega)]
    exact d3 q i hq hi
  · unfold DM
    rw [hK, m 515 (by omega), m 516 (by omega)]
    refine ⟨fun q x y => ?_, q2, q3, fun q x => ?_⟩
    · have z := q1 q x y
      refine ⟨z.1, z.2.1, ?_⟩
      simp only [s2_val]
      have : ¬ q = t := by omega
      simp [this, z.2.2]
    · rw [s2_val]
      split
      · exact hv
      · exact q4 q x
theorem gor_fin : ∀ v : Fin 256, ∀ j : Fin 8, nI v.val ||| (nI 1 <<< (nI j.val &&& 31)) = nI (v.val ||| 2 ^ j.val) ∧ (v.val ||| 2 ^ j.val) < 256 := by decide +kernel
/-- a task that gathers -/
theorem DIv.gat {S M : ST} {r j v : Nat} (h : DIv S M r) (hrr : 535 ≤ r) (hj : j < 8) (hv : BS S 51 v) : DIv (bset S 51 (v ||| 2 ^ j)) (s2 M 513 8 (M 513 8 ||| (nI 1 <<< (nI j &&& 31)))) r := by
  obtain ⟨h1, h2, h3, ⟨d1, d2, d3, u, d4, d5⟩, h5⟩ := h
  have huv : u = v := nI_inj (by have := d4.2.1; omega) (by have := hv.2.1; omega) (d4.1.symm.trans hv.1)
  subst huv
  have g := gor_fin ⟨u, hv.2.1⟩ ⟨j, hj⟩
  have e : ∀ k, k ≠ 51 → k ≠ 52 → bset S 51 (u ||| 2 ^ j) k = S k := fun k a b => bset_ne a b
  have m3 : ∀ i, i ≠ 8 → s2 M 513 8 (M 513 8 ||| (nI 1 <<< (nI j &&& 31))) 513 i = M 513 i := fun i hi => s2_nj hi
  have m : ∀ k, 515 ≤ k → k < 521 → s2 M 513 8 (M 513 8 ||| (nI 1 <<< (nI j &&& 31))) k = M k := fun k a b => s2_nk (by omega)
  have h8 : mK M ≤ 8 := h2.2.1.2
  have hK : mK (s2 M 513 8 (M 513 8 ||| (nI 1 <<< (nI j &&& 31)))) = mK M := by unfold mK; rw [m3 7 (by decide)]
  have hL : mL (s2 M 513 8 (M 513 8 ||| (nI 1 <<< (nI j &&& 31)))) = mL M := by unfold mL; rw [m3 0 (by decide)]
  refine ⟨?_, MR_s8 h2 _, by rw [hL]; exact h3.to (e _ (by omega) (by omega)), ⟨by rw [e _ (by omega) (by omega), m3 7 (by decide)]; exact d1, fun q hq => ?_, fun q i hq hi => ?_, _, bset_BS g.2, by rw [s2_at, d5]; exact g.1⟩, h5.to (m3 7 (by decide)) m⟩
  · rw [hL, s2_nk (by decide)]; exact h1.to (by rw [e _ (by omega) (by omega)]) (by rw [e _ (by omega) (by omega)])
  · rw [hK] at hq
    rw [e 28 (by omega) (by omega), e 29 (by omega) (by omega), e 48 (by omega) (by omega), e 49 (by omega) (by omega), e 50 (by omega) (by omega), m 515 (by omega) (by omega), m 516 (by omega) (by omega), m 518 (by omega) (by omega), m 519 (by omega) (by omega), m 520 (by omega) (by omega)]
    exact d2 q hq
  · rw [hK] at hq
    rw [m 516 (by omega) (by omega)] at hi
    rw [e _ (by omega) (by omega), e _ (by omega) (by omega), m 517 (by omega) (by omega)]
    exact d3 q i hq hi
theorem DIv.pb {S M : ST} {r : Nat} (h : DIv S M r) : PB S := by
  obtain ⟨u, d, -⟩ := h.2.2.2.1.2.2.2
  exact ⟨u, d⟩
/-- what a reading leaves as it was -/
def FRm (S X : ST) (r : Nat) : Prop := (∀ k, k ≠ r → (k < 27 ∨ 53 ≤ k) → X k = S k) ∧ X r 4 = S r 4
theorem FRm.rf {S : ST} {r : Nat} : FRm S S r := ⟨fun _ _ _ => rfl, rfl⟩
theorem FRm.tr {S T U : ST} {r : Nat} (a : FRm S T r) (b : FRm T U r) : FRm S U r := ⟨fun k h1 h2 => (b.1 k h1 h2).trans (a.1 k h1 h2), b.2.trans a.2⟩
theorem FRm.rd {S : ST} {r L : Nat} {X : Nat → Int32} : FRm S (rdDu r X L S) r := ⟨fun k h1 _ => by unfold rdDu; rw [s1_ne h1], by unfold rdDu; rw [s1_at]; rfl⟩
theorem FRm.s2 {S : ST} {r k j : Nat} {v : Int32} (hrr : 535 ≤ r) (h1 : 27 ≤ k) (h2 : k < 53) : FRm S (s2 S k j v) r := ⟨fun q _ b => s2_nk (by omega), by rw [s2_nk (by omega)]⟩
theorem FRm.bs {S : ST} {r v : Nat} (hrr : 535 ≤ r) : FRm S (bset S 51 v) r := ⟨fun q _ b => bset_ne (by omega) (by omega), by rw [bset_ne (by omega) (by omega)]⟩
theorem FRm.ad {S : ST} {r n : Nat} {p : Int32} (hrr : 535 ≤ r) : FRm S (adS S n p) r := ⟨fun q _ b => adS_ne (by omega), by rw [adS_ne (by omega)]⟩
/-- how an item ends: the component one token ahead, the model's answer R -/
def IE (S T : ST) (r : Nat) (R : Bool × ST) : Prop := FRm S T r ∧ ((∃ X L, TXT T X L ∧ RdI T r L) ∧ PB T) ∧ ((T r 2 = nI 12 ∧ R.1 = true ∧ DIv T R.2 r ∧ LA1 T R.2 r) ∨ (¬ T r 2 = nI 12 ∧ R.1 = false ∧ T r 1 = R.2 513 6))
def IX (G : GT) (N : Nat) (S : ST) (r : Nat) (R : Bool × ST) (q N' : Nat) (h' : Nat → va_E) : Prop := ∃ T, (FRm S T r ∧ PB T) ∧ R.1 = false ∧ T r 1 = R.2 513 6 ∧ pxW G N T r q N' h'
theorem IE.fr {S T U : ST} {r : Nat} {R : Bool × ST} (a : FRm S T r) (b : IE T U r R) : IE S U r R := ⟨a.tr b.1, b.2⟩
theorem IX.fr {G : GT} {N : Nat} {S T : ST} {r : Nat} {R : Bool × ST} {q N' : Nat} {h' : Nat → va_E} (a : FRm S T r) (b : IX G N T r R q N' h') : IX G N S r R q N' h' := by
  obtain ⟨U, ⟨b1, bp⟩, b2⟩ := b
  exact ⟨U, ⟨a.tr b1, bp⟩, b2⟩
