set_option maxRecDepth 100000
/-! THE TREE taken over: the relation at the end -/
def rd0 : Nat → Int32 := fun _ => nI 0
theorem taS_f (M : ST) : taS M 513 15 = (if 0 < mK M then M 513 7 else nI 1) ∧ taS M 513 16 = M 513 8 ∧ taS M 521 = M 515 ∧ taS M 522 = M 516 ∧ taS M 523 = M 517 ∧ taS M 524 = M 518 ∧ taS M 525 = M 519 ∧ taS M 526 = M 520 := by
  have a3 : ∀ j, j ≠ 25 → j ≠ 28 → taS M 513 j = taT M 513 j := fun j h1 h2 => by
    unfold taS; rw [s2_nk (by decide), s2_nk (by decide), s2_nj h2, s2_nj h1, s1_ne (by decide)]
  have ak : ∀ k, k ≠ 513 → k ≠ 533 → k ≠ 527 → taS M k = taT M k := fun k h1 h2 h3 => by
    unfold taS; rw [s2_nk h2, s2_nk h2, s2_nk h1, s2_nk h1, s1_ne h3]
  rw [a3 15 (by decide) (by decide), a3 16 (by decide) (by decide), ak 521 (by decide) (by decide) (by decide), ak 522 (by decide) (by decide) (by decide), ak 523 (by decide) (by decide) (by decide), ak 524 (by decide) (by decide) (by decide), ak 525 (by decide) (by decide) (by decide), ak 526 (by decide) (by decide) (by decide)]
  unfold taT
  refine ⟨?_, ?_, ?_, ?_, ?_, ?_, ?_, ?_⟩
  · rw [s1_ne (by decide), s1_ne (by decide), s1_ne (by decide), s1_ne (by decide), s1_ne (by decide), s1_ne (by decide), s2_nj (by decide), s2_at]
  · rw [s1_ne (by decide), s1_ne (by decide), s1_ne (by decide), s1_ne (by decide), s1_ne (by decide), s1_ne (by decide), s2_at]
  · rw [s1_ne (by decide), s1_ne (by decide), s1_ne (by decide), s1_ne (by decide), s1_ne (by decide), s1_at]
  · rw [s1_ne (by decide), s1_ne (by decide), s1_ne (by decide), s1_ne (by decide), s1_at]
  · rw [s1_at]
  · rw [s1_ne (by decide), s1_ne (by decide), s1_ne (by decide), s1_at]
  · rw [s1_ne (by decide), s1_ne (by decide), s1_at]
  · rw [s1_ne (by decide), s1_at]
theorem taS_g (M : ST) : taS M 527 = rSt (taS M) ∧ taS M 513 25 = nI 0 ∧ taS M 513 28 = nI 0 ∧ taS M 533 0 = nI 0 ∧ taS M 533 1 = nI 0 ∧ (∀ j, j ≠ 15 → j ≠ 16 → j ≠ 25 → j ≠ 28 → taS M 513 j = M 513 j) := by
  have e4 := (taS_f M).2.2.2.2.2.1
  have e4' : taT M 524 = M 518 := by unfold taT; rw [s1_ne (by decide), s1_ne (by decide), s1_ne (by decide), s1_at]
  have er : rSt (taS M) = rSt (taT M) := by unfold rSt; rw [e4, e4']
  rw [er]
  unfold taS
  refine ⟨?_, ?_, ?_, ?_, ?_, fun j h1 h2 h3 h4 => ?_⟩
  · rw [s2_nk (by decide), s2_nk (by decide), s2_nk (by decide), s2_nk (by decide), s1_at]
  · rw [s2_nk (by decide), s2_nk (by decide), s2_nj (by decide), s2_at]
  · rw [s2_nk (by decide), s2_nk (by decide), s2_at]
  · rw [s2_nj (by decide), s2_at]
  · rw [s2_at]
  · rw [s2_nk (by decide), s2_nk (by decide), s2_nj h4, s2_nj h3, s1_ne (by decide)]
    unfold taT
    rw [s1_ne (by decide), s1_ne (by decide), s1_ne (by decide), s1_ne (by decide), s1_ne (by decide), s1_ne (by decide), s2_nj h2, s2_nj h1]
theorem tree_ok {S M T M' X : ST} {c : Nat → Int32} {r v hb hf : Nat} {u w : Nat → Nat} (hRL : RL S M) (hfr : ∀ k, k < 27 ∨ 53 ≤ k → k < 535 → T k = S k) (hD : DIv T M' r) (h1 : 1 ≤ mK M') (hm7 : M' 513 7 = if 0 < mK (trT M).2.2 then (trT M).2.2 513 7 else nI 1) (hm8 : M' 513 8 = (trT M).2.2 513 8) (hmk : ∀ k, 515 ≤ k → k < 521 → M' k = (trT M).2.2 k) (hv : BS T 51 v) (hU : UC X 0 hb hf u w) (hX : ∀ k, (k < 111 ∨ 115 ≤ k) → X k = put (tcp T v) 55 (cSt (tcp T v 22 0) c) k) (ht : (trT M).1 = true) :
    RL (s2 (s2 (s2 (s2 X 0 14 (nI 0)) 172 0 (nI 0)) 172 1 (nI 0)) 0 10 (nI 0)) (mTreeS M) ∧ ∀ k, 513 ≤ k → k < 535 → s2 (s2 (s2 (s2 X 0 14 (nI 0)) 172 0 (nI 0)) 172 1 (nI 0)) 0 10 (nI 0) k = S k := by
  have hMS : mTreeS M = taS (s2 (trT M).2.2 513 0 (nI 0)) := by unfold mTreeS; rw [if_pos ht]
  rw [hMS]
  have hk := RK_trT M
  generalize (trT M).2.2 = M2 at hm7 hm8 hmk hk ⊢
  have n3 : ∀ j, j ≠ 0 → s2 M2 513 0 (nI 0) 513 j = M2 513 j := fun j hj => s2_nj hj
  have nk : ∀ k, k ≠ 513 → s2 M2 513 0 (nI 0) k = M2 k := fun k hk => s2_nk hk
  have hK : mK (s2 M2 513 0 (nI 0)) = mK M2 := by unfold mK; rw [n3 7 (by decide)]
  obtain ⟨f15, f16, f1, f2, f3, f4, f5, f6⟩ := taS_f (s2 M2 513 0 (nI 0))
  obtain ⟨g7, g25, g28, g30, g31, gj⟩ := taS_g (s2 M2 513 0 (nI 0))
  rw [hK, n3 7 (by decide)] at f15
  rw [n3 8 (by decide)] at f16
  rw [nk _ (by decide)] at f1 f2 f3 f4 f5 f6
  generalize taS (s2 M2 513 0 (nI 0)) = M3 at *
  have hZ : ∀ k, k ≠ 0 → k ≠ 172 → s2 (s2 (s2 (s2 X 0 14 (nI 0)) 172 0 (nI 0)) 172 1 (nI 0)) 0 10 (nI 0) k = X k := fun k a b => by rw [s2_nk a, s2_nk b, s2_nk b, s2_nk a]
  have hZt : ∀ k, k ≠ 0 → k ≠ 172 → (k < 111 ∨ 115 ≤ k) → (k < 55 ∨ 83 ≤ k) → s2 (s2 (s2 (s2 X 0 14 (nI 0)) 172 0 (nI 0)) 172 1 (nI 0)) 0 10 (nI 0) k = tcp T v k := fun k a b d e => by rw [hZ k a b, hX k d, put_ne (by omega)]
  have hZs : ∀ k, k ≠ 0 → k ≠ 172 → (k < 111 ∨ 115 ≤ k) → (k < 55 ∨ 83 ≤ k) → 53 ≤ k → k < 535 → s2 (s2 (s2 (s2 X 0 14 (nI 0)) 172 0 (nI 0)) 172 1 (nI 0)) 0 10 (nI 0) k = S k := fun k a b d e f g => by rw [hZt k a b d e, tcp_ne (by omega)]; exact hfr k (by omega) g
  have hD0 : tcp T v 22 0 = M3 524 0 := by
    rw [tcp_22 (by decide), f4, ← hmk 518 (by decide) (by decide)]; exact (hD.2.2.2.1.2.1 0 h1).2.2.1
  refine ⟨RL.tree (c := c) (hb := hb) (hf := hf) (u := u) (w := w) hRL (PT.new hD h1 hv (fun k a b => hZt k (by omega) (by omega) (by omega) (by omega)) (by rw [f15, hm7]) (by rw [f16, hm8]) (by rw [f1, hmk _ (by decide) (by decide)]) (by rw [f2, hmk _ (by decide) (by decide)]) (by rw [f3, hmk _ (by decide) (by decide)]) (by rw [f4, hmk _ (by decide) (by decide)]) (by rw [f5, hmk _ (by decide) (by decide)]) (by rw [f6, hmk _ (by decide) (by decide)]))
    (fun k a => hZs k (by omega) (by omega) (by omega) (by omega) (by omega) (by omega)) ?_ (fun k a b => hZs k (by omega) (by omega) (by omega) (by omega) (by omega) (by omega)) (fun k a b => hZs k (by omega) (by omega) (by omega) (by omega) (by omega) (by omega)) ⟨?_, ?_⟩ ?_ ⟨?_, ?_⟩ ?_ g7 g25 ?_ g28 ⟨g30, g31⟩ ?_, fun k a b => hZs k (by omega) (by omega) (by omega) (by omega) (by omega) b⟩
  · intro j hj
    rw [hZ _ (by omega) (by omega), hX _ (by omega), ← hD0]
    exact put_at hj
  · rw [s2_nk (by decide), s2_nj (by decide), s2_at]
  · rw [s2_nk (by decide), s2_at]
  · obtain ⟨u1, u2, u3, u4, u5, u6⟩ := hU
    refine ⟨u1, by rw [hZ 111 (by decide) (by decide), hZ 113 (by decide) (by decide)]; exact u2, fun p hp => by rw [hZ 112 (by decide) (by decide)]; exact u3 p hp, fun p hp => by rw [hZ 114 (by decide) (by decide)]; exact u4 p hp, u5, fun i hi => ?_⟩
    obtain ⟨c2, hc2⟩ := u6 i hi
    exact ⟨c2, hc2.to (fun k a b => hZ k (by omega) (by omega))⟩
  · rw [s2_nj (by decide), s2_nk (by decide), s2_nk (by decide), s2_at]
  · rw [s2_at]
  · exact ⟨v, by rw [hZt _ (by decide) (by decide) (by decide) (by decide), tcp_ne (by decide)]; exact hv.1, hv.2.1, by rw [hZt _ (by decide) (by decide) (by decide) (by decide), tcp_ne (by decide)]; exact hv.2.2⟩
  · rw [gj 26 (by decide) (by decide) (by decide) (by decide), n3 26 (by decide)]; exact hk.2 26 (by omega)
  · rw [gj 0 (by decide) (by decide) (by decide) (by decide), s2_at]
