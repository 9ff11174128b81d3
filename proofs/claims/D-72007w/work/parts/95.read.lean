set_option maxRecDepth 100000
/-! ScopeTasks$Reader: read -/
theorem ls_fin : ∀ v : Fin 256, ¬ lsort v.val = 13 := by decide +kernel
theorem srt_13 {X : Nat → Int32} {L p : Nat} (h : LT8 X L) (hp : p ≤ L) : srtT X L p = 13 ↔ sk X L p = L := by
  unfold srtT
  by_cases c1 : sk X L p = L
  · rw [if_pos c1]; exact ⟨fun _ => c1, fun _ => rfl⟩
  · rw [if_neg c1]
    refine ⟨fun z => ?_, fun z => absurd z c1⟩
    by_cases c2 : figP X L (sk X L p)
    · rw [if_pos c2] at z; split at z <;> exact absurd z (by decide)
    · rw [if_neg c2] at z
      have hs := sk_le (X := X) hp
      obtain ⟨v, hv, e⟩ := h (sk X L p) (by omega)
      rw [e, nn_of (by omega)] at z
      exact absurd z (ls_fin ⟨v, hv⟩)
theorem skB_sk {X : Nat → Int32} {L : Nat} : ∀ m p, p + m = L → sk X L (skB X L m p) = skB X L m p := by
  intro m
  induction m with
  | zero => intro p hp; have : p = L := hp; subst this; exact sk_end
  | succ m ih =>
    intro p hp
    rw [skB]
    by_cases c : X p = nI 32
    · rw [if_pos c]; exact ih (p + 1) (by omega)
    · rw [if_neg c, sk_s (by omega), if_neg c]
theorem sk_sk {X : Nat → Int32} {L p : Nat} (h : p ≤ L) : sk X L (sk X L p) = sk X L p := skB_sk (L - p) p (by omega)
theorem bl_2 {M : ST} (hM : MP M) : mP (blS M) = sk (M 514) (mL M) (mP M) := by
  have := sk_le (X := M 514) hM.p
  have := hM.L
  show nn (blS M 513 2) = _
  unfold blS
  rw [s1_at, pk_us, nn_of (by omega)]
theorem bl_L (M : ST) : mL (blS M) = mL M := by unfold mL blS; rw [s1_at, pk_un (by omega)]
theorem bl_4 (M : ST) : blS M 514 = M 514 := by unfold blS; rw [s1_ne (by decide)]
theorem bl_k {M : ST} {k : Nat} (h : k ≠ 513) : blS M k = M k := s1_ne h
theorem bl_j {M : ST} {j : Nat} (h : j ≠ 2) : blS M 513 j = M 513 j := by unfold blS; rw [s1_at, pk_un h]
theorem LA0.bl {S M : ST} {r : Nat} (h : LA0 S M r) (hM : MP M) : LA0 S (blS M) r := by
  have e := sk_sk (X := M 514) hM.p
  unfold LA0
  rw [bl_2 hM, bl_L, bl_4]
  unfold tkE srtT cvT tkD
  rw [e]
  exact h
theorem DIv.bl {S M : ST} {r : Nat} (h : DIv S M r) : DIv S (blS M) r := by
  obtain ⟨h1, h2, h3, h4, h5⟩ := h
  have e : ∀ k, 515 ≤ k → k < 521 → blS M k = M k := fun k a b => bl_k (by omega)
  refine ⟨?_, MR_bl h2, by rw [bl_L]; exact h3, h4.toM (bl_j (by decide)) (bl_j (by decide)) e, h5.to (bl_j (by decide)) e⟩
  rw [bl_L, bl_4]; exact h1
abbrev mayM (M : ST) (w : Nat) : Prop := (w = 5 ∧ mK M = 0) ∨ (0 < mK M ∧ ((w = 6 ∧ mK M < 8) ∨ (7 ≤ w ∧ w ≤ 10)))
theorem may_f {M : ST} {c : Int32} (hM : MR M) (hc : TK c) (h : ¬ mayM M (tsort c)) : riQ M c = (false, flS M) := by
  obtain ⟨t5, t6, t7, t8, t9, t10⟩ := tk_it c hc
  have h8 : mK M ≤ 8 := hM.2.1.2
  unfold riQ
  by_cases c1 : c = nI 114
  · have := t5.mpr c1
    rw [if_pos c1, if_pos (by omega)]
  · have n5 : ¬ tsort c = 5 := fun z => c1 (t5.mp z)
    rw [if_neg c1]
    by_cases c2 : mK M = 0
    · rw [if_pos c2]
    · rw [if_neg c2]
      by_cases c3 : c = nI 116
      · have := t6.mpr c3
        rw [if_pos c3]
        unfold rtR
        rw [if_pos]
        have e8 : mK M = 8 := by omega
        rw [hM.2.1.1]; exact congrArg nI e8
      · rw [if_neg c3, if_neg]
        rintro (z | z | z | z)
        · have := t9.mpr z; omega
        · have := t7.mpr z; omega
        · have := t10.mpr z; omega
        · have := t8.mpr z; omega
theorem pgR_7 (M : ST) (t : Nat) : (pgR M t).2 513 7 = M 513 7 := by unfold pgR; rw [pgL_513 t (by omega), nxS_j (by omega)]
theorem esS_7 (M : ST) : esS M 513 7 = M 513 7 := by unfold esS; rw [s1_at]; exact es_ne (by omega)
def K7 (R : Bool × ST) : Prop := R.1 = true → 0 < nn (R.2 513 7)
theorem K7.f {S : ST} : K7 (false, S) := fun z => absurd z (by simp)
theorem K7.o {R : Bool × ST} {v : Int32} (h : R.2 513 7 = v) (hv : 0 < nn v) : K7 R := fun _ => by rw [h]; exact hv
theorem K7.e {b : Bool} {M : ST} (h : 0 < nn (M 513 7)) : K7 (b, esS M) := fun _ => by show 0 < nn (esS M 513 7); rw [esS_7]; exact h
theorem rtR_7 {M : ST} (h8 : mK M ≤ 8) : K7 (rtR M) := by
  unfold rtR
  split
  · exact K7.f
  · split
    · exact K7.o (v := nI (mK M + 1)) (by rw [pgR_7, s2_at]) (by rw [nn_of (by omega)]; omega)
    · exact K7.f
theorem roR_7 {M : ST} {c : Int32} (hk : 0 < mK M) : K7 (roR M c) := by
  unfold roR
  split
  · split
    · unfold roG
      split
      · exact K7.f
      · refine K7.e ?_; rw [s2_nj (by decide), nuS_j (by omega)]; exact hk
    · unfold roN
      split
      · refine K7.e ?_; rw [roW_513, nuS_j (by omega), nuS_j (by omega)]; exact hk
      · exact K7.f
  · exact K7.f
theorem riQ_7 {M : ST} {c : Int32} (hM : MR M) (h : 0 < mK M ∨ c = nI 114) : K7 (riQ M c) := by
  have h8 : mK M ≤ 8 := hM.2.1.2
  unfold riQ
  by_cases c1 : c = nI 114
  · rw [if_pos c1]
    by_cases c2 : 0 < mK M
    · rw [if_pos c2]; exact K7.f
    · rw [if_neg c2]; exact K7.o (v := nI 1) (by rw [pgR_7, s2_at]) (by decide)
  · rw [if_neg c1]
    have hk : 0 < mK M := h.resolve_right c1
    rw [if_neg (by omega)]
    by_cases c3 : c = nI 116
    · rw [if_pos c3]; exact rtR_7 h8
    · rw [if_neg c3]
      split
      · exact roR_7 hk
      · exact K7.f
def FRn (S X : ST) (r : Nat) : Prop := ∀ k, k ≠ r → (k < 27 ∨ 53 ≤ k) → X k = S k
theorem may_iff {S M : ST} {r w i : Nat} (h4 : S r 4 = nI i) (hi : i ≤ 120) (h7 : S 27 0 = nI (mK M)) (h8 : mK M ≤ 8) (hz : i = 0 ↔ mK M = 0) : mayP r w S ↔ mayM M w := by
  have e0 : S r 4 = 0 ↔ i = 0 := by rw [h4]; exact ⟨fun z => nI_inj (q := 0) (by omega) (by omega) z, fun z => by rw [z]; rfl⟩
  have e1 : S r 4 ≤ 0 ↔ i ≤ 0 := by rw [h4]; exact nI_leI (b := 0) (by omega) (by omega)
  have e2 : S 27 0 < nI 8 ↔ mK M < 8 := by rw [h7]; exact nI_ltI (by omega) (by omega)
  unfold mayP mayM
  rw [e0, e1, e2]
  omega
theorem DIv.it {S M : ST} {r : Nat} {v : Int32} (h : DIv S M r) (hrr : 535 ≤ r) : DIv (s2 S r 4 v) M r := by
  obtain ⟨h1, h2, h3, h4, h5⟩ := h
  refine ⟨h1.to (by rw [s2_nk (by omega)]) (by rw [s2_nk (by omega)]), h2, ?_, h4.toC h2 (fun k a b => s2_nk (by omega)), h5⟩
  unfold RdI
  rw [s2_nj (by decide), s2_nj (by decide), s2_nj (by decide), s2_nj (by decide)]
  exact h3
theorem LA0i {S M : ST} {r : Nat} {v : Int32} (h : LA0 S M r) : LA0 (s2 S r 4 v) M r := by
  unfold LA0
  rw [s2_nj (by decide), s2_nj (by decide), s2_nj (by decide), s2_nj (by decide)]
  exact h
set_option maxHeartbeats 8000000 in
theorem lp_rrd {G : GT} {x : VX} {N r : Nat} {S0 : ST} {Rt : Bool × Nat × ST} (hR : xR x = RM 9 1 7) (hr : (xM x).sig.returnType = none) (hout : ∀ z ∈ (xc x).exceptionTable.toList, False) (hrr : 535 ≤ r) (hrN : r < N) : ∀ (m i : Nat) (M S : ST), i + m ≤ 120 → mL M ≤ mP M + m → DIv S M r → LA0 S M r → sk (M 514) (mL M) (mP M) = mP M → S r 4 = nI i → (i = 0 ↔ mK M = 0) → FRn S0 S r → trL m i M = Rt → V G x "ScopeTasks$Reader" cX4_read 2 (QQX G x (fun u N' h' => u = none ∧ N' = N ∧ ∃ T, h' = hC G T ∧ Rt.1 = true ∧ FRn S0 T r ∧ T r 4 = nI Rt.2.1 ∧ DIv T Rt.2.2 r) (fun q N' h' => ∃ T, (FRn S0 T r ∧ PB T) ∧ Rt.1 = false ∧ T r 1 = Rt.2.2 513 6 ∧ pxW G N T r q N' h') 1 7) 14 [(0, .ref (gZ G + r))] [] N (hC G S) 0 0 := by
  intro m
  induction m with
  | zero =>
    intro i M S him hLP hD hA hsk h4 hz hF hE
    have hX := hD.1
    have hI := hD.2.2.1
    have hMR := hD.2.1
    have hB := hA.nx hX hMR.1
    have i1 := hI.1
    obtain ⟨s, hs⟩ : ∃ s, tsort (nxS M 513 4) = s := ⟨_, rfl⟩
    have hs14 : s ≤ 14 := hs ▸ tk_14 _ hB.2.2.2.2
    have i4 : S r 2 = nI s := by rw [← hs]; exact hB.2.2.1
    have h8 : mK M ≤ 8 := hMR.2.1.2
    have hS : S 27 0 = nI (mK M) := hD.2.2.2.1.1.trans hMR.2.1.1
    obtain ⟨n, hn⟩ : ∃ n, mK M = n := ⟨_, rfl⟩
    have hSn := hS
    rw [hn] at hSn
    have h13 : s = 13 ↔ ¬ mP M < mL M := by
      have hp := hMR.1.p
      have e := srt_13 (p := mP M) hX.lt hp
      rw [hsk] at e
      have e2 : s = srtT (M 514) (mL M) (mP M) := nI_inj (by omega) (by have := srtT_le hX hp; omega) (i4.symm.trans hA.2.2.1)
      rw [e2, e]; omega
    have hK1 : mK (nxS M) = mK M := by unfold mK; rw [nxS_j (by omega)]
    refine v_aload_n (pc := 14) 0 dX4_read_14 rfl rfl ?_
    refine gX4_36 (pc := 15) hrr i1 hrN dX4_read_15 ?_
    refine v_topi (v := nI s) i4 ?_
    refine v_bipush (pc := 18) (nI 13) dX4_read_18 (by decide) ?_
    refine v_ic_eqN (pc := 20) 75 (by omega) (by omega) dX4_read_20 (by decide) (fun c1 => ?_) (fun c1 => ?_)
    · skip
      have hRe : Rt = (true, i, M) := by rw [← hE, trL]
      exact v_ok (v_vret (pc := 75) hr (Nat.le_refl _) (Nat.le_refl _) dX4_read_75 ⟨rfl, rfl, S, rfl, by rw [hRe], hF, by rw [hRe]; exact h4, by rw [hRe]; exact hD⟩)
    · skip
      exact absurd (h13.mpr (by omega)) c1
  | succ m ih =>
    intro i M S him hLP hD hA hsk h4 hz hF hE
    have hX := hD.1
    have hI := hD.2.2.1
    have hMR := hD.2.1
    have hB := hA.nx hX hMR.1
    have i1 := hI.1
    obtain ⟨s, hs⟩ : ∃ s, tsort (nxS M 513 4) = s := ⟨_, rfl⟩
    have hs14 : s ≤ 14 := hs ▸ tk_14 _ hB.2.2.2.2
    have i4 : S r 2 = nI s := by rw [← hs]; exact hB.2.2.1
    have h8 : mK M ≤ 8 := hMR.2.1.2
    have hS : S 27 0 = nI (mK M) := hD.2.2.2.1.1.trans hMR.2.1.1
    obtain ⟨n, hn⟩ : ∃ n, mK M = n := ⟨_, rfl⟩
    have hSn := hS
    rw [hn] at hSn
    have h13 : s = 13 ↔ ¬ mP M < mL M := by
      have hp := hMR.1.p
      have e := srt_13 (p := mP M) hX.lt hp
      rw [hsk] at e
      have e2 : s = srtT (M 514) (mL M) (mP M) := nI_inj (by omega) (by have := srtT_le hX hp; omega) (i4.symm.trans hA.2.2.1)
      rw [e2, e]; omega
    have hK1 : mK (nxS M) = mK M := by unfold mK; rw [nxS_j (by omega)]
    refine v_aload_n (pc := 14) 0 dX4_read_14 rfl rfl ?_
    refine gX4_36 (pc := 15) hrr i1 hrN dX4_read_15 ?_
    refine v_topi (v := nI s) i4 ?_
    refine v_bipush (pc := 18) (nI 13) dX4_read_18 (by decide) ?_
    refine v_ic_eqN (pc := 20) 75 (by omega) (by omega) dX4_read_20 (by decide) (fun c1 => ?_) (fun c1 => ?_)
    · skip
      have hRe : Rt = (true, i, M) := by rw [← hE, trL, if_neg (h13.mp c1)]
      exact v_ok (v_vret (pc := 75) hr (Nat.le_refl _) (Nat.le_refl _) dX4_read_75 ⟨rfl, rfl, S, rfl, by rw [hRe], hF, by rw [hRe]; exact h4, by rw [hRe]; exact hD⟩)
    · skip
      have hlt : mP M < mL M := Classical.byContradiction fun z => c1 (h13.mpr z)
      refine v_aload_n (pc := 23) 0 dX4_read_23 rfl rfl ?_
      refine gX4_36 (pc := 24) hrr i1 hrN dX4_read_24 ?_
      refine v_topi (v := nI s) i4 ?_
      refine v_istore_n (pc := 27) (lv' := [(1, .int (nI s)), (0, .ref (gZ G + r))]) dX4_read_27 rfl (by decide) rfl ?_
      refine v_aload_n (pc := 28) 1 dX4_read_28 rfl rfl ?_
      refine v_aload_n (pc := 29) 1 dX4_read_29 rfl rfl ?_
      refine v_iload_n (pc := 30) 0 dX4_read_30 rfl rfl ?_
      refine c_callVi (pc := 31) (st := [.ref (gZ G + r)]) (ci := 4) (ct_X4_may (S := S) (r := r) (w := s) (n := n) hrr hrN i1 (by omega) hSn (by omega)) kVX4_129 kDX4_129 (rm_ok hR (Nat.le_of_ble_eq_true rfl) (Nat.le_of_ble_eq_true rfl)) ⟨Nat.zero_le _, Nat.zero_le _⟩ (by omega) (show hC G _ r = rdE G _ from cO_rd hrr i1) rfl rfl rfl rfl (Nat.le_of_ble_eq_true rfl) dX4_read_31 ?_
      refine c_callXX (pc := 34) (st := []) (kb := r) (ci := 4) (ct_X4_due (P := mayP r s S) hrr hrN hI hX) kVX4_65 kDX4_65 (rm_ok hR (Nat.le_of_ble_eq_true rfl) (Nat.le_of_ble_eq_true rfl)) (by rw [hR]; decide) hrN (show hC G _ r = rdE G _ from cO_rd hrr i1) rfl rfl rfl rfl (Nat.le_of_ble_eq_true rfl) dX4_read_34 hout (fun hF' q N' h' hP => ?_) (fun hT => ?_)
      · obtain ⟨hx, he⟩ := dueC_1f hF'
        rw [he] at hP
        have hq : riR M = (false, flS (nxS M)) := by
          unfold riR
          refine may_f (MR_nx hMR) hB.2.2.2.2 (fun z => hx ((may_iff h4 (by omega) hS h8 hz).mpr ?_))
          rw [hs] at z; unfold mayM at z ⊢; rw [hK1] at z; exact z
        have hRe : Rt = (false, i, flS (nxS M)) := by rw [← hE, trL, if_pos hlt, hq]; rfl
        exact ⟨S, ⟨hF, hD.pb⟩, by rw [hRe], by rw [hRe]; show S r 1 = flS (nxS M) 513 6; rw [flS_6]; exact hB.2.1, hP⟩
      · obtain ⟨hx, he⟩ := dueC_1t hT
        have hm : mayM (nxS M) s := by have z := (may_iff (w := s) h4 (by omega) hS h8 hz).mp hx; unfold mayM at z ⊢; rw [hK1]; exact z
        refine v_S (show _ = rdDu r (M 514) (mL M) S from congrArg Prod.snd he) ?_
        generalize hGS1 : rdDu r (M 514) (mL M) S = S1
        have hD1 : DIv S1 (nxS M) r := hGS1 ▸ (hD.rd hrr).nx
        have hA1 : LA0 S1 (nxS M) r := hGS1 ▸ hB.du0
        have hF1 : FRm S S1 r := hGS1 ▸ FRm.rd
        have k1 := hD1.2.2.1.1
        refine v_pop (pc := 37) dX4_read_37 rfl ?_
        refine v_aload_n (pc := 38) 1 dX4_read_38 rfl rfl ?_
        refine v_iload_n (pc := 39) 0 dX4_read_39 rfl rfl ?_
        obtain ⟨Q, hQ⟩ : ∃ Q, riR M = Q := ⟨_, rfl⟩
        have hQe : riQ (nxS M) (nxS M 513 4) = Q := hQ
        have hlt : mP M < mL M := Classical.byContradiction fun z => absurd (h13.mpr z) (by omega)
        refine v_callX (pc := 40) (mc := 1) (ms := 7) (mc' := 1) (ms' := 7) (st := []) (kb := r) (ci := 4) (ct_X4_item hrr hrN hD1 hA1 hB.2.2.2.2 hs hm hQe) kVX4_132 kDX4_132 (rm_ok hR (Nat.le_of_ble_eq_true rfl) (Nat.le_of_ble_eq_true rfl)) (by rw [hR]; decide) hrN (show hC G _ r = rdE G _ from cO_rd hrr k1) rfl rfl rfl rfl (Nat.le_of_ble_eq_true rfl) dX4_read_40 hout (fun q N' h' z => ?_) (by decide) (by decide) (fun v' N' h' z => ?_)
        · obtain ⟨T, ⟨t1, tp⟩, t2, t3, t4⟩ := z
          have hRe : Rt = (false, i, Q.2) := by rw [← hE, trL, if_pos hlt, hQ, if_neg (by rw [t2]; decide)]
          exact ⟨T, ⟨fun k a b => ((t1.1 k a b).trans (hF1.1 k a b)).trans (hF k a b), tp⟩, by rw [hRe], by rw [hRe]; exact t3, t4⟩
        · obtain ⟨rfl, rfl, T, rfl, hT1, ⟨⟨X, L, hTX, hTR⟩, hTp⟩, hT2⟩ := z
          have hFT : FRn S0 T r := fun k a b => ((hT1.1 k a b).trans (hF1.1 k a b)).trans (hF k a b)
          have hT4 : T r 4 = nI i := (hT1.2.trans hF1.2).trans h4
          have t9 := hTR.1
          rcases hT2 with ⟨z1, z2, z3, z4⟩ | ⟨z1, z2, z3⟩
          · skip
            refine v_aload_n (pc := 43) 1 dX4_read_43 rfl rfl ?_
            refine v_aload_n (pc := 44) 1 dX4_read_44 rfl rfl ?_
            refine gX4_36 (pc := 45) hrr t9 hrN dX4_read_45 ?_
            refine v_topi (v := nI 12) z1 ?_
            refine v_bipush (pc := 48) (nI 12) dX4_read_48 (by decide) ?_
            refine v_ic_neN (pc := 50) 57 (by omega) (by omega) dX4_read_50 (by decide) (fun h => absurd h (by omega)) (fun _ => ?_)
            refine v_iconst (pc := 53) (nI 1) dX4_read_53 (by decide) ?_
            refine v_goto (pc := 54) 58 dX4_read_54 (by decide) ?_
            refine v_topi (v := bI (T r 2 = nI 12)) (bI_t z1) ?_
            refine c_callXX (pc := 58) (st := []) (kb := r) (ci := 4) (ct_X4_due (P := T r 2 = nI 12) hrr hrN z3.2.2.1 z3.1) kVX4_65 kDX4_65 (rm_ok hR (Nat.le_of_ble_eq_true rfl) (Nat.le_of_ble_eq_true rfl)) (by rw [hR]; decide) hrN (show hC G _ r = rdE G _ from cO_rd hrr t9) rfl rfl rfl rfl (Nat.le_of_ble_eq_true rfl) dX4_read_58 hout (fun hF' q N' h' hP => ?_) (fun hT => ?_)
            · rw [dueC_t z1] at hF'; exact absurd hF' (by simp)
            · skip
              refine v_S (show _ = rdDu r (Q.2 514) (mL Q.2) T from congrArg Prod.snd (dueC_t z1)) ?_
              generalize hGS3 : rdDu r (Q.2 514) (mL Q.2) T = S3
              have hD3 : DIv S3 (blS Q.2) r := hGS3 ▸ (z3.rd hrr).bl
              have hA3 : LA0 S3 (blS Q.2) r := hGS3 ▸ z4.du.bl z3.2.1.1
              have hF3 : FRn S0 S3 r := fun k a b => by rw [← hGS3]; unfold rdDu; rw [s1_ne a]; exact hFT k a b
              have k3 := hD3.2.2.1.1
              have i3 : S3 r 4 = nI i := by rw [← hGS3]; unfold rdDu; rw [s1_at]; exact hT4
              refine v_pop (pc := 61) dX4_read_61 rfl ?_
              refine v_aload_n (pc := 62) 1 dX4_read_62 rfl rfl ?_
              refine v_dup (pc := 63) dX4_read_63 rfl ?_
              refine gX4_123 (pc := 64) hrr k3 hrN dX4_read_64 ?_
              refine v_topi (v := nI i) i3 ?_
              refine v_iconst (pc := 67) (nI 1) dX4_read_67 (by decide) ?_
              refine v_iaddN (pc := 68) dX4_read_68 ?_
              refine pX4_123 (pc := 69) hrr k3 hrN dX4_read_69 ?_
              refine v_goto (pc := 72) 14 dX4_read_72 (by decide) ?_
              refine v_S (show _ = s2 S3 r 4 (nI (i + 1)) from rfl) ?_
              have hgt := riR_gt hMR hlt
              have hfw := (MR_riR hMR).2
              rw [hQ] at hgt hfw
              have hbw := Fw_bl z3.2.1.1
              have hLQ : mL (blS Q.2) = mL M := by rw [bl_L]; unfold mL; rw [hfw.2.1]
              have hPQ : mP M < mP (blS Q.2) := Nat.lt_of_lt_of_le hgt hbw.2.2
              have hKQ : 0 < mK (blS Q.2) := by
                have z := riQ_7 (M := nxS M) (c := nxS M 513 4) (MR_nx hMR) (by rcases hm with z | z; exact Or.inr ((tk_it _ hB.2.2.2.2).1.mp (hs.trans z.1)); exact Or.inl z.1)
                rw [hQe] at z; unfold mK; rw [bl_j (by decide)]; exact z z2
              refine v_sub (lv' := [(0, .ref (gZ G + r))]) [1] rfl ?_
              exact ih (i + 1) (blS Q.2) _ (by omega) (by rw [hLQ]; omega) (hD3.it hrr) (LA0i hA3) (by rw [bl_2 z3.2.1.1, bl_L, bl_4]; exact sk_sk z3.2.1.1.p) (s2_at _ _ _ _) (by omega) (fun k a b => by rw [s2_nk a]; exact hF3 k a b) (by rw [← hE, trL, if_pos hlt, hQ, if_pos z2])
          · obtain ⟨y, hy⟩ : ∃ y, nn (T r 2) = y := ⟨_, rfl⟩
            obtain ⟨y4, y5⟩ := hTR.2.2.1
            rw [hy] at y4 y5
            have hy12 : ¬ y = 12 := fun z => z1 (by rw [y4, z])
            refine v_aload_n (pc := 43) 1 dX4_read_43 rfl rfl ?_
            refine v_aload_n (pc := 44) 1 dX4_read_44 rfl rfl ?_
            refine gX4_36 (pc := 45) hrr t9 hrN dX4_read_45 ?_
            refine v_topi (v := nI y) y4 ?_
            refine v_bipush (pc := 48) (nI 12) dX4_read_48 (by decide) ?_
            refine v_ic_neN (pc := 50) 57 (by omega) (by omega) dX4_read_50 (by decide) (fun c2 => ?_) (fun c2 => ?_)
            · skip
              refine v_iconst (pc := 57) (nI 0) dX4_read_57 (by decide) ?_
              refine v_topi (v := bI (T r 2 = nI 12)) (bI_f z1) ?_
              refine c_callXX (pc := 58) (st := []) (kb := r) (ci := 4) (ct_X4_due (P := T r 2 = nI 12) hrr hrN hTR hTX) kVX4_65 kDX4_65 (rm_ok hR (Nat.le_of_ble_eq_true rfl) (Nat.le_of_ble_eq_true rfl)) (by rw [hR]; decide) hrN (show hC G _ r = rdE G _ from cO_rd hrr t9) rfl rfl rfl rfl (Nat.le_of_ble_eq_true rfl) dX4_read_58 hout (fun hF' q N' h' hP => ?_) (fun hT => ?_)
              · rw [dueC_f z1] at hP
                have hRe : Rt = (false, i, Q.2) := by rw [← hE, trL, if_pos hlt, hQ, if_neg (by rw [z2]; decide)]
                exact ⟨T, ⟨hFT, hTp⟩, by rw [hRe], by rw [hRe]; exact z3, hP⟩
              · rw [dueC_f z1] at hT; exact absurd hT (by simp)
            · skip
              exact absurd c2 (by omega)

