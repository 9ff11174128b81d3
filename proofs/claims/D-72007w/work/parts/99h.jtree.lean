set_option maxRecDepth 100000
/-! THE MODEL's tree() sees the model's cells alone -/
def j3 (C M : ST) : ST := fun k => if 513 ≤ k ∧ k < 535 then M k else C k
theorem j3_at {C M : ST} {k : Nat} (h : 513 ≤ k ∧ k < 535) : j3 C M k = M k := by unfold j3; rw [if_pos h]
theorem j3_ne {C M : ST} {k : Nat} (h : ¬ (513 ≤ k ∧ k < 535)) : j3 C M k = C k := by unfold j3; rw [if_neg h]
section J3
variable {C M : ST}
theorem j3_s1 {k : Nat} {f : Nat → Int32} (h : 513 ≤ k ∧ k < 535) : s1 (j3 C M) k f = j3 C (s1 M k f) := by
  funext q
  by_cases e : q = k
  · subst e; rw [s1_at, j3_at h, s1_at]
  · rw [s1_ne e]
    by_cases g : 513 ≤ q ∧ q < 535
    · rw [j3_at g, j3_at g, s1_ne e]
    · rw [j3_ne g, j3_ne g]
theorem j3_s2 {k j : Nat} {v : Int32} (h : 513 ≤ k ∧ k < 535) : s2 (j3 C M) k j v = j3 C (s2 M k j v) := by unfold s2; rw [j3_at h, j3_s1 h]
theorem j3_13 : j3 C M 513 = M 513 := j3_at (by decide)
theorem j3_14 : j3 C M 514 = M 514 := j3_at (by decide)
theorem j3_nx : nxS (j3 C M) = j3 C (nxS M) := by unfold nxS mL mP; rw [j3_13, j3_14, j3_s1 (by decide)]
theorem j3_nB (lo hi : Int32) : nuB (j3 C M) lo hi = nuB M lo hi := by unfold nuB mL mP; rw [j3_13, j3_14]
theorem j3_nu (lo hi : Int32) : nuS (j3 C M) lo hi = j3 C (nuS M lo hi) := by unfold nuS mL mP; rw [j3_13, j3_14, j3_s1 (by decide)]
theorem j3_eB : esB (j3 C M) = esB M := by unfold esB mL mP; rw [j3_13, j3_14]
theorem j3_es : esS (j3 C M) = j3 C (esS M) := by unfold esS mL mP; rw [j3_13, j3_14, j3_s1 (by decide)]
theorem j3_fl : flS (j3 C M) = j3 C (flS M) := by unfold flS; rw [j3_13, j3_s1 (by decide)]
theorem j3_bl : blS (j3 C M) = j3 C (blS M) := by unfold blS mL mP; rw [j3_13, j3_14, j3_s1 (by decide)]
theorem j3_pW (t : Nat) (c v : Int32) : pgW (j3 C M) t c v = j3 C (pgW M t c v) := by
  unfold pgW
  rw [j3_at (k := 516) (by decide), j3_s2 (by decide), j3_s2 (by decide), j3_s2 (by decide)]
theorem j3_mK : mK (j3 C M) = mK M := by unfold mK; rw [j3_13]
end J3
/-- a reader's answer, its state within C -/
def P2 (C : ST) (R : Bool × ST) : Bool × ST := (R.1, j3 C R.2)
theorem j3_pL {C : ST} (t : Nat) : ∀ (m : Nat) (M : ST), pgL t m (j3 C M) = P2 C (pgL t m M) := by
  intro m
  induction m with
  | zero =>
    intro M
    unfold pgL
    rw [j3_13]
    by_cases h : M 513 4 = nI 59
    · rw [if_pos h, if_pos h]; rfl
    · rw [if_neg h, if_neg h, j3_fl]; rfl
  | succ m ih =>
    intro M
    have e4 : j3 C M 513 4 = M 513 4 := by rw [j3_13]
    unfold pgL
    by_cases h : M 513 4 = nI 59
    · rw [if_pos (e4.trans h), if_pos h]; rfl
    · rw [if_neg (fun z => h (e4.symm.trans z)), if_neg h]
      by_cases h2 : opP (M 513 4)
      · rw [if_pos (show opP (j3 C M 513 4) by rw [e4]; exact h2), if_pos h2]
        by_cases h3 : wfP (M 513 4)
        · rw [if_pos (show wfP (j3 C M 513 4) by rw [e4]; exact h3), if_pos h3]
          by_cases h4 : nuB M (nI 1) (nI 9)
          · rw [if_pos (by rw [j3_nB]; exact h4), if_pos h4, e4, j3_nu, j3_13, j3_pW, j3_nx, ih]
          · rw [if_neg (by rw [j3_nB]; exact h4), if_neg h4, j3_nu]; rfl
        · rw [if_neg (show ¬ wfP (j3 C M 513 4) by rw [e4]; exact h3), if_neg h3, e4, j3_pW, j3_nx, ih]
      · rw [if_neg (show ¬ opP (j3 C M 513 4) by rw [e4]; exact h2), if_neg h2, j3_fl]; rfl
section J4
variable {C M : ST}
theorem j3_pR (t : Nat) : pgR (j3 C M) t = P2 C (pgR M t) := by unfold pgR; rw [j3_at (k := 516) (by decide), j3_nx, j3_pL]
theorem j3_rt : rtR (j3 C M) = P2 C (rtR M) := by
  have e7 : j3 C M 513 7 = M 513 7 := by rw [j3_13]
  unfold rtR
  by_cases h : M 513 7 = nI 8
  · rw [if_pos (e7.trans h), if_pos h, j3_fl]; rfl
  · rw [if_neg (fun z => h (e7.symm.trans z)), if_neg h]
    by_cases h4 : nuB M (nI 0) (nI (mK M - 1))
    · rw [if_pos (by rw [j3_mK, j3_nB]; exact h4), if_pos h4, j3_mK, j3_nu, j3_13, j3_s2 (by decide), j3_s2 (by decide), j3_pR]
    · rw [if_neg (by rw [j3_mK, j3_nB]; exact h4), if_neg h4, j3_mK, j3_nu]; rfl
theorem j3_dec : decide (esB (j3 C M)) = decide (esB M) := decide_eq_decide.mpr (by rw [j3_eB])
theorem j3_ee : (decide (esB (j3 C M)), esS (j3 C M)) = P2 C (decide (esB M), esS M) := by
  rw [j3_dec, j3_es]; rfl
theorem j3_rG (j : Nat) : roG (j3 C M) j = P2 C (roG M j) := by
  have e8 : j3 C M 513 8 = M 513 8 := by rw [j3_13]
  unfold roG
  rw [e8]
  by_cases h : (M 513 8 >>> (nI j &&& 31)) &&& nI 1 = nI 1
  · rw [if_pos h, if_pos h, j3_fl]; rfl
  · rw [if_neg h, if_neg h, j3_s2 (by decide)]; exact j3_ee
theorem j3_rW (c : Int32) (j : Nat) : roW (j3 C M) c j = j3 C (roW M c j) := by
  unfold roW
  rw [j3_13, j3_at (k := 518) (by decide), j3_at (k := 519) (by decide), j3_at (k := 520) (by decide), j3_s2 (by decide), j3_s2 (by decide), j3_s2 (by decide)]
theorem j3_rN (c : Int32) (j : Nat) : roN (j3 C M) c j = P2 C (roN M c j) := by
  unfold roN
  by_cases h4 : nuB M (roLo c) (roHi c)
  · rw [if_pos (by rw [j3_nB]; exact h4), if_pos h4, j3_nu, j3_rW]; exact j3_ee
  · rw [if_neg (by rw [j3_nB]; exact h4), if_neg h4, j3_nu]; rfl
theorem j3_ro (c : Int32) : roR (j3 C M) c = P2 C (roR M c) := by
  unfold roR
  by_cases h4 : nuB M (nI 0) (nI (mK M - 1))
  · rw [if_pos (by rw [j3_mK, j3_nB]; exact h4), if_pos h4, j3_mK, j3_nu]
    have e5 : j3 C (nuS M (nI 0) (nI (mK M - 1))) 513 5 = nuS M (nI 0) (nI (mK M - 1)) 513 5 := by rw [j3_13]
    rw [e5]
    by_cases h : c = nI 103
    · rw [if_pos h, if_pos h, j3_rG]
    · rw [if_neg h, if_neg h, j3_rN]
  · rw [if_neg (by rw [j3_mK, j3_nB]; exact h4), if_neg h4, j3_mK, j3_nu]; rfl
theorem j3_rQ (c : Int32) : riQ (j3 C M) c = P2 C (riQ M c) := by
  unfold riQ
  rw [j3_mK, j3_fl, j3_s2 (by decide), j3_pR, j3_rt, j3_ro]
  by_cases h1 : c = nI 114
  · rw [if_pos h1, if_pos h1]
    by_cases h2 : 0 < mK M
    · rw [if_pos h2, if_pos h2]; rfl
    · rw [if_neg h2, if_neg h2]
  · rw [if_neg h1, if_neg h1]
    by_cases h2 : mK M = 0
    · rw [if_pos h2, if_pos h2]; rfl
    · rw [if_neg h2, if_neg h2]
      by_cases h3 : c = nI 116
      · rw [if_pos h3, if_pos h3]
      · rw [if_neg h3, if_neg h3]
        by_cases h4 : ofP c
        · rw [if_pos h4, if_pos h4]
        · rw [if_neg h4, if_neg h4]; rfl
theorem j3_ri : riR (j3 C M) = P2 C (riR M) := by unfold riR; rw [j3_nx, j3_13, j3_rQ]
end J4
theorem j3_tL {C : ST} : ∀ (m i : Nat) (M : ST), trL m i (j3 C M) = ((trL m i M).1, (trL m i M).2.1, j3 C (trL m i M).2.2) := by
  intro m
  induction m with
  | zero => intro i M; rfl
  | succ m ih =>
    intro i M
    unfold trL
    rw [j3_ri]
    have eP : mP (j3 C M) = mP M := by unfold mP; rw [j3_13]
    have eL : mL (j3 C M) = mL M := by unfold mL; rw [j3_13]
    rw [eP, eL]
    by_cases h : mP M < mL M
    · rw [if_pos h, if_pos h]
      by_cases h2 : (riR M).1 = true
      · rw [if_pos (show (P2 C (riR M)).1 = true from h2), if_pos h2]
        show trL m (i + 1) (blS (j3 C (riR M).2)) = _
        rw [j3_bl, ih]
      · rw [if_neg (show ¬ (P2 C (riR M)).1 = true from h2), if_neg h2]; rfl
    · rw [if_neg h, if_neg h]
section J5
variable {C M : ST}
theorem j3_bg : bgS (j3 C M) = j3 C (bgS M) := by
  unfold bgS
  rw [j3_s2 (by decide), j3_s2 (by decide), j3_s1 (by decide), j3_s1 (by decide), j3_s1 (by decide), j3_s1 (by decide), j3_s1 (by decide)]
theorem j3_tT : taT (j3 C M) = j3 C (taT M) := by
  unfold taT
  rw [j3_mK, j3_13, j3_at (k := 515) (by decide), j3_at (k := 516) (by decide), j3_at (k := 517) (by decide), j3_at (k := 518) (by decide), j3_at (k := 519) (by decide), j3_at (k := 520) (by decide), j3_s2 (by decide), j3_s2 (by decide), j3_s1 (by decide), j3_s1 (by decide), j3_s1 (by decide), j3_s1 (by decide), j3_s1 (by decide), j3_s1 (by decide)]
theorem j3_ta : taS (j3 C M) = j3 C (taS M) := by
  unfold taS
  have er : rSt (j3 C (taT M)) = rSt (taT M) := by unfold rSt; rw [j3_at (k := 524) (by decide)]
  rw [j3_tT, er, j3_s1 (by decide), j3_s2 (by decide), j3_s2 (by decide), j3_s2 (by decide), j3_s2 (by decide)]
theorem j3_t0 : trS0 (j3 C M) = j3 C (trS0 M) := by unfold trS0; rw [j3_bg, j3_s2 (by decide), j3_bl]
theorem j3_trT : trT (j3 C M) = ((trT M).1, (trT M).2.1, j3 C (trT M).2.2) := by
  unfold trT
  rw [j3_t0, j3_tL]
  have eP : mP (j3 C (trS0 M)) = mP (trS0 M) := by unfold mP; rw [j3_13]
  have eL : mL (j3 C M) = mL M := by unfold mL; rw [j3_13]
  rw [eP, eL]
theorem j3_treeV : mTreeV (j3 C M) = mTreeV M := by
  unfold mTreeV
  rw [j3_trT]
  show (if (trT M).1 = true then nI (trT M).2.1 else (-10) - j3 C (trT M).2.2 513 6) = _
  rw [j3_13]
theorem j3_treeS : mTreeS (j3 C M) = j3 C (mTreeS M) := by
  unfold mTreeS
  rw [j3_trT]
  show (if (trT M).1 = true then taS (s2 (j3 C (trT M).2.2) 513 0 (nI 0)) else j3 C (trT M).2.2) = _
  rw [j3_s2 (by decide), j3_ta]
  split <;> rfl
/-- behind tree(): the component's X, the model's answer at X -/
theorem RL_j3 {X M : ST} (h : RL X M) : RL (j3 X M) (j3 X M) := by
  have lo : ∀ k, k < 513 → j3 X M k = X k := fun k h => j3_ne (by omega)
  have hi : ∀ k, 513 ≤ k → k < 535 → j3 X M k = M k := fun k a b => j3_at ⟨a, b⟩
  have hC := h.toC lo
  obtain ⟨h1, h2, h3, h4, h5, h6, h7, h8, h9⟩ := hC
  have e3 := hi 513 (by omega) (by omega)
  have te : TE M (j3 X M) := ⟨congrFun e3 _, congrFun e3 _, fun k a b => hi k (by omega) (by omega)⟩
  exact ⟨h1.toM te, h2, h3.toM te (hi _ (by omega) (by omega)), h4, h5.toM te (hi _ (by omega) (by omega)) (hi _ (by omega) (by omega)), h6.toM te (congrFun e3 _) (congrFun e3 _) (hi _ (by omega) (by omega)), h7.toM te (congrFun e3 _) (fun k a b => hi k (by omega) (by omega)), h8.toM (congrFun e3 _) (hi _ (by omega) (by omega)), h9⟩
theorem UN_j3 {S X : ST} (h : ∀ k, 513 ≤ k → k < 535 → X k = S k) : X = j3 X S := by
  funext k
  by_cases c : 513 ≤ k ∧ k < 535
  · rw [j3_at c]; exact h k c.1 c.2
  · rw [j3_ne c]
end J5
