set_option maxRecDepth 100000
/-! THE TREE: what a reading leaves of the model; the relation behind it -/
def RK (M M' : ST) : Prop := (∀ k, k < 513 ∨ k = 514 ∨ 521 ≤ k → M' k = M k) ∧ ∀ j, j < 2 ∨ 8 < j → M' 513 j = M 513 j
theorem RK.rf {M : ST} : RK M M := ⟨fun _ _ => rfl, fun _ _ => rfl⟩
theorem RK.tr {M M' M'' : ST} (a : RK M M') (b : RK M' M'') : RK M M'' := ⟨fun k h => (b.1 k h).trans (a.1 k h), fun j h => (b.2 j h).trans (a.2 j h)⟩
theorem RK_s1 {M : ST} {g : Nat → Int32} (h : ∀ j, j < 2 ∨ 8 < j → g j = M 513 j) : RK M (s1 M 513 g) := ⟨fun k hk => s1_ne (by omega), fun j hj => by rw [s1_at]; exact h j hj⟩
theorem RK_k {M : ST} {k j : Nat} {v : Int32} (h1 : 515 ≤ k) (h2 : k < 521) : RK M (s2 M k j v) := ⟨fun q hq => s2_nk (by omega), fun i _ => by rw [s2_nk (by omega)]⟩
theorem RK_j {M : ST} {j : Nat} {v : Int32} (h1 : 2 ≤ j) (h2 : j ≤ 8) : RK M (s2 M 513 j v) := ⟨fun q hq => s2_nk (by omega), fun i hi => s2_nj (by omega)⟩
theorem RK_nx (M : ST) : RK M (nxS M) := RK_s1 fun j hj => nx_ne (by omega)
theorem RK_nu (M : ST) (lo hi : Int32) : RK M (nuS M lo hi) := RK_s1 fun j hj => nu_ne (by omega)
theorem RK_es (M : ST) : RK M (esS M) := RK_s1 fun j hj => es_ne (by omega)
theorem RK_fl (M : ST) : RK M (flS M) := RK_s1 fun j hj => show upd (M 513) 6 (M 513 3) j = M 513 j from pk_un (by omega)
theorem RK_bl (M : ST) : RK M (blS M) := RK_s1 fun j hj => pk_un (by omega)
theorem RK_pgW (M : ST) (t : Nat) (c v : Int32) : RK M (pgW M t c v) := ((RK_k (by decide) (by decide)).tr (RK_k (by decide) (by decide))).tr (RK_k (by decide) (by decide))
theorem RK_pgL (t : Nat) : ∀ (m : Nat) (M : ST), RK M (pgL t m M).2 := by
  intro m
  induction m with
  | zero => intro M; unfold pgL; split; exact RK.rf; exact RK_fl M
  | succ m ih =>
    intro M
    unfold pgL
    split
    · exact RK.rf
    · split
      · split
        · split
          · exact (((RK_nu M _ _).tr (RK_pgW _ t _ _)).tr (RK_nx _)).tr (ih _)
          · exact RK_nu M _ _
        · exact ((RK_pgW M t _ _).tr (RK_nx _)).tr (ih _)
      · exact RK_fl M
theorem RK_pgR (M : ST) (t : Nat) : RK M (pgR M t).2 := (RK_nx M).tr (RK_pgL t _ _)
theorem RK_rtR (M : ST) : RK M (rtR M).2 := by
  unfold rtR
  split
  · exact RK_fl M
  · split
    · exact (((RK_nu M _ _).tr (RK_k (by decide) (by decide))).tr (RK_j (by decide) (by decide))).tr (RK_pgR _ _)
    · exact RK_nu M _ _
theorem RK_roW (M : ST) (c : Int32) (j : Nat) : RK M (roW M c j) := ((RK_k (by decide) (by decide)).tr (RK_k (by decide) (by decide))).tr (RK_k (by decide) (by decide))
theorem RK_roR (M : ST) (c : Int32) : RK M (roR M c).2 := by
  unfold roR
  split
  · split
    · unfold roG
      split
      · exact (RK_nu M _ _).tr (RK_fl _)
      · exact ((RK_nu M _ _).tr (RK_j (by decide) (by decide))).tr (RK_es _)
    · unfold roN
      split
      · exact (((RK_nu M _ _).tr (RK_nu _ _ _)).tr (RK_roW _ _ _)).tr (RK_es _)
      · exact (RK_nu M _ _).tr (RK_nu _ _ _)
  · exact RK_nu M _ _
theorem RK_riR (M : ST) : RK M (riR M).2 := by
  refine (RK_nx M).tr ?_
  show RK (nxS M) (riQ (nxS M) (nxS M 513 4)).2
  unfold riQ
  split
  · split
    · exact RK_fl _
    · exact (RK_j (by decide) (by decide)).tr (RK_pgR _ _)
  · split
    · exact RK_fl _
    · split
      · exact RK_rtR _
      · split
        · exact RK_roR _ _
        · exact RK_fl _
theorem RK_trL : ∀ (m i : Nat) (M : ST), RK M (trL m i M).2.2 := by
  intro m
  induction m with
  | zero => intro i M; exact RK.rf
  | succ m ih =>
    intro i M
    unfold trL
    split
    · split
      · exact ((RK_riR M).tr (RK_bl _)).tr (ih _ _)
      · exact RK_riR M
    · exact RK.rf
theorem RK_bg (M : ST) : RK M (bg2 M) := by
  refine ⟨fun k hk => ?_, fun j hj => bg2_j (by omega)⟩
  unfold bg2 bgS
  rw [s2_nk (by omega), s1_ne (by omega), s1_ne (by omega), s1_ne (by omega), s1_ne (by omega), s1_ne (by omega), s2_nk (by omega), s2_nk (by omega)]
theorem RK_trT (M : ST) : RK M (trT M).2.2 := ((RK_bg M).tr (RK_bl _)).tr (RK_trL _ _ _)
theorem RL.fail {S M X M' : ST} (h : RL S M) (e : ∀ k, k < 27 ∨ 53 ≤ k → k < 513 → X k = S k) (hp : PB X) (k : RK M M') : RL X M' := by
  obtain ⟨h1, h2, h3, h4, h5, h6, h7, h8, h9⟩ := h
  have te : TE M M' := ⟨k.2 15 (by omega), k.2 16 (by omega), fun q a b => k.1 q (by omega)⟩
  refine ⟨(h1.toC (fun q a b => e q (by omega) (by omega))).toM te, h2.to (fun q a => e q (by omega) (by omega)), (h3.toC (fun q a b => e q (by omega) (by omega))).toM te (k.1 _ (by omega)), h4.toC (fun q a b => e q (by omega) (by omega)), (h5.toC (fun q a b => e q (by omega) (by omega))).toM te (k.1 _ (by omega)) (k.1 _ (by omega)), (h6.toC (fun q a => e q (by omega) (by omega))).toM te (k.2 _ (by omega)) (k.2 _ (by omega)) (k.1 _ (by omega)), (h7.toC (congrFun (e 0 (by omega) (by omega)) _) (fun q a b => e q (by omega) (by omega))).toM te (k.2 _ (by omega)) (fun q a b => k.1 q (by omega)), (h8.toC (congrFun (e 0 (by omega) (by omega)) _) (e 173 (by omega) (by omega))).toM (k.2 _ (by omega)) (k.1 _ (by omega)), hp⟩
/-! the copy of the draft -/
theorem tcp_ne {S : ST} {v k : Nat} (h : k = 0 ∨ 27 ≤ k) : tcp S v k = S k := by unfold tcp; rw [bset_ne (by omega) (by omega), tcB_ne (by omega)]
theorem tcp_1 (S : ST) (v : Nat) : tcp S v 1 0 = S 27 0 := by
  unfold tcp tcB
  rw [bset_ne (by decide) (by decide), s1_ne (by decide), s1_ne (by decide), s1_ne (by decide), tl6_ne (by decide) (by decide)]
  unfold tcA
  rw [s1_ne (by decide), s1_ne (by decide), s2_at]
theorem tc1_at {S : ST} {k n j : Nat} (h : j < n) : tc1 S k n j = S (k + 26) j := by unfold tc1 va_cpy; rw [if_pos (by omega)]; congr 1; omega
theorem tcp_2 {S : ST} {v j : Nat} (h : j < 8) : tcp S v 2 j = S 28 j := by
  unfold tcp tcB
  rw [bset_ne (by decide) (by decide), s1_ne (by decide), s1_ne (by decide), s1_ne (by decide), tl6_ne (by decide) (by decide)]
  unfold tcA
  rw [s1_ne (by decide), s1_at]; exact tc1_at h
theorem tcp_3 {S : ST} {v j : Nat} (h : j < 8) : tcp S v 3 j = S 29 j := by
  unfold tcp tcB
  rw [bset_ne (by decide) (by decide), s1_ne (by decide), s1_ne (by decide), s1_ne (by decide), tl6_ne (by decide) (by decide)]
  unfold tcA
  rw [s1_at]; exact tc1_at h
theorem tcp_22 {S : ST} {v j : Nat} (h : j < 8) : tcp S v 22 j = S 48 j := by
  unfold tcp tcB
  rw [bset_ne (by decide) (by decide), s1_ne (by decide), s1_ne (by decide), s1_at]; exact tc1_at h
theorem tcp_23 {S : ST} {v j : Nat} (h : j < 8) : tcp S v 23 j = S 49 j := by
  unfold tcp tcB
  rw [bset_ne (by decide) (by decide), s1_ne (by decide), s1_at]; exact tc1_at h
theorem tcp_24 {S : ST} {v j : Nat} (h : j < 8) : tcp S v 24 j = S 50 j := by
  unfold tcp tcB
  rw [bset_ne (by decide) (by decide), s1_at]; exact tc1_at h
theorem tcp_6 {S : ST} {v k j : Nat} (hk : (5 ≤ k ∧ k < 13) ∨ (14 ≤ k ∧ k < 22)) (h : j < 6) : tcp S v k j = S (k + 26) j := by
  unfold tcp tcB
  rw [bset_ne (by omega) (by omega), s1_ne (by omega), s1_ne (by omega), s1_ne (by omega)]
  unfold tl6
  rw [if_pos (by omega), tc1_at h, tcA_ne (by omega)]
theorem tcp_25 {S : ST} {v : Nat} (hv : v < 256) : BS (tcp S v) 25 v := bset_BS hv
/-- the tree of the component is the model's -/
theorem PT.new {T X M M3 : ST} {r v : Nat} (hD : DIv T M r) (h1 : 1 ≤ mK M) (hv : BS T 51 v) (hX : ∀ k, 1 ≤ k → k < 27 → X k = tcp T v k)
    (e15 : M3 513 15 = M 513 7) (e16 : M3 513 16 = M 513 8) (e1 : M3 521 = M 515) (e2 : M3 522 = M 516) (e3 : M3 523 = M 517) (e4 : M3 524 = M 518) (e5 : M3 525 = M 519) (e6 : M3 526 = M 520) : PT X M3 := by
  obtain ⟨-, hMR, -, ⟨d1, d2, d3, u, d4, d5⟩, ⟨q1, q2, q3, q4⟩⟩ := hD
  have hN : mN M3 = mK M := by unfold mN mK; rw [e15]
  have h8 : mK M ≤ 8 := hMR.2.1.2
  have huv : u = v := nI_inj (by have := d4.2.1; omega) (by have := hv.2.1; omega) (d4.1.symm.trans hv.1)
  subst huv
  refine ⟨⟨by rw [e15]; exact hMR.2.1, by rw [hN]; exact h1, fun c a b => by rw [e1]; exact q3 c a (by rw [← hN]; exact b), fun t ht => by rw [e2]; exact hMR.2.2 t (by omega)⟩, fun t ht => by rw [e4]; exact q4 t (by rw [← hN]; exact ht), ?_⟩
  refine ⟨by rw [hX 1 (by omega) (by omega), tcp_1, e15]; exact d1, fun t ht => ?_, fun t ht => ?_, fun t ht => ?_, fun t ht => ?_, fun t ht => ?_, fun t k ht hk => ?_, u, ⟨by rw [hX _ (by omega) (by omega)]; exact (tcp_25 hv.2.1).1, hv.2.1, by rw [hX _ (by omega) (by omega)]; exact (tcp_25 hv.2.1).2.2⟩, by rw [e16]; exact d5⟩
  · rw [hN] at ht; rw [hX 2 (by omega) (by omega), tcp_2 (by omega), e1]; exact (d2 t ht).1
  · rw [hN] at ht; rw [hX 3 (by omega) (by omega), tcp_3 (by omega), e2]; exact (d2 t ht).2.1
  · rw [hN] at ht; rw [hX 22 (by omega) (by omega), tcp_22 (by omega), e4]; exact (d2 t ht).2.2.1
  · rw [hN] at ht; rw [hX 23 (by omega) (by omega), tcp_23 (by omega), e5]; exact (d2 t ht).2.2.2.1
  · rw [hN] at ht; rw [hX 24 (by omega) (by omega), tcp_24 (by omega), e6]; exact (d2 t ht).2.2.2.2
  · rw [hN] at ht
    rw [e2] at hk
    have h6 := (hMR.2.2 t (by omega)).2
    rw [hX _ (by omega) (by omega), hX _ (by omega) (by omega), tcp_6 (by omega) (by omega), tcp_6 (by omega) (by omega), e3, show 1 + 4 + t + 26 = 31 + t by omega, show 1 + 13 + t + 26 = 40 + t by omega]
    exact d3 t k ht hk
theorem RL.tree {S M X M3 : ST} {c : Nat → Int32} {hb hf : Nat} {u w : Nat → Nat} (h : RL S M) (hT : PT X M3) (x53 : ∀ k, k = 53 ∨ k = 54 → X k = S k) (x55 : HR X 55 (cSt (M3 524 0) c)) (x83 : ∀ k, 83 ≤ k → k < 111 → X k = S k) (x116 : ∀ k, 116 ≤ k → k < 172 → X k = S k) (x172 : X 172 0 = nI 0 ∧ X 172 1 = nI 0) (hU : UC X 0 hb hf u w) (x0 : X 0 14 = nI 0 ∧ X 0 10 = nI 0) (hp : PB X)
    (m527 : M3 527 = rSt M3) (m25 : M3 513 25 = nI 0) (m26 : M3 513 26 = M 513 26) (m28 : M3 513 28 = nI 0) (m533 : M3 533 0 = nI 0 ∧ M3 533 1 = nI 0) (m0 : M3 513 0 = nI 0) : RL X M3 := by
  obtain ⟨h1, h2, h3, h4, h5, h6, h7, h8, h9⟩ := h
  refine ⟨hT, h2.to x53, ⟨_, x55, ?_⟩, h4.toC x83, ?_, ?_, ⟨0, by omega, x0.1, m28, fun k hk => absurd hk (by omega)⟩, ⟨0, by omega, x0.2, m0, fun k hk => absurd hk (by omega)⟩, hp⟩
  · rw [m527]
    refine ⟨Sim.start hT.1 hT.2.1 c, RJ_rSt hT.1, ?_⟩
    rw [rSt_0 (by decide) (by decide) (by decide)]; decide
  · intro i hi
    have : i = 0 ∨ i = 1 := by omega
    obtain ⟨-, -, c2, h3', -⟩ := h5 i hi
    rcases this with rfl | rfl
    · exact ⟨Or.inl m533.1, by rw [x172.1, m533.1], c2, h3'.to (fun k a b => x116 k (by omega) (by omega)), fun z => absurd (m533.1.symm.trans z) (by decide)⟩
    · exact ⟨Or.inl m533.2, by rw [x172.2, m533.2], c2, h3'.to (fun k a b => x116 k (by omega) (by omega)), fun z => absurd (m533.2.symm.trans z) (by decide)⟩
  · obtain ⟨n, a, hb', hf', u', w', hU'⟩ := h6
    exact ⟨0, a, hb, hf, u, w, hU.ur hU'.1.2.1 m25 (m26.trans hU'.2.1.2) (fun p hp => absurd hp (by omega))⟩
