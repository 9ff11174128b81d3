set_option maxRecDepth 100000
/-! ScopeTasks$Reader: read, whole -/
theorem LA_du {S M : ST} {r : Nat} (h : S r 0 = M 513 2) : LA0 (rdDu r (M 514) (mL M) S) M r := by
  unfold LA0 rdDu
  rw [s1_at, h]
  exact ⟨rfl, rfl, rfl, rfl⟩
def bg2 (M : ST) : ST := s2 (bgS M) 513 2 (nI 0)
theorem bg2_j {M : ST} {j : Nat} (h : j ≠ 2 ∧ j ≠ 7 ∧ j ≠ 8) : bg2 M 513 j = M 513 j := by
  unfold bg2 bgS
  rw [s2_nj h.1, s1_ne (by decide), s1_ne (by decide), s1_ne (by decide), s1_ne (by decide), s1_ne (by decide), s2_nj h.2.2, s2_nj h.2.1]
theorem bg2_c (M : ST) : bg2 M 513 2 = nI 0 ∧ bg2 M 513 7 = nI 0 ∧ bg2 M 513 8 = nI 0 ∧ bg2 M 514 = M 514 ∧ bg2 M 515 = (fun _ => (-9)) ∧ bg2 M 516 = (fun _ => nI 0) ∧ bg2 M 518 = (fun _ => nI 99) ∧ bg2 M 519 = (fun _ => nI 0) ∧ bg2 M 520 = fun _ => nI 0 := by
  unfold bg2 bgS
  refine ⟨s2_at _ _ _ _, ?_, ?_, ?_, ?_, ?_, ?_, ?_, ?_⟩
  · rw [s2_nj (by decide), s1_ne (by decide), s1_ne (by decide), s1_ne (by decide), s1_ne (by decide), s1_ne (by decide), s2_nj (by decide), s2_at]
  · rw [s2_nj (by decide), s1_ne (by decide), s1_ne (by decide), s1_ne (by decide), s1_ne (by decide), s1_ne (by decide), s2_at]
  · rw [s2_nk (by decide), s1_ne (by decide), s1_ne (by decide), s1_ne (by decide), s1_ne (by decide), s1_ne (by decide), s2_nk (by decide), s2_nk (by decide)]
  · rw [s2_nk (by decide), s1_ne (by decide), s1_ne (by decide), s1_ne (by decide), s1_ne (by decide), s1_at]
  · rw [s2_nk (by decide), s1_ne (by decide), s1_ne (by decide), s1_ne (by decide), s1_at]
  · rw [s2_nk (by decide), s1_ne (by decide), s1_ne (by decide), s1_at]
  · rw [s2_nk (by decide), s1_ne (by decide), s1_at]
  · rw [s2_nk (by decide), s1_at]
def RdN (S : ST) (r : Nat) : Prop := S r 9 = nI 0 ∧ S r 0 = nI 0 ∧ S r 2 = nI 0 ∧ S r 3 = nI 0 ∧ S r 4 = nI 0
theorem DIv.first {S M : ST} {r : Nat} (hrr : 535 ≤ r) (hX : TXT S (M 514) (mL M)) (hM : inN (M 513 0) 120) (hN : RdN S r) : DIv (bset (s2 S 27 0 (nI 0)) 51 0) (bg2 M) r ∧ bset (s2 S 27 0 (nI 0)) 51 0 r = S r := by
  obtain ⟨b2, b7, b8, b514, b515, b516, b518, b519, b520⟩ := bg2_c M
  have e0 : bg2 M 513 0 = M 513 0 := bg2_j (by decide)
  have e : ∀ k, k ≠ 27 → k ≠ 51 → k ≠ 52 → bset (s2 S 27 0 (nI 0)) 51 0 k = S k := fun k a b c => by rw [bset_ne b c, s2_nk a]
  have er := e r (by omega) (by omega) (by omega)
  have hL : mL (bg2 M) = mL M := by unfold mL; rw [e0]
  have hK : mK (bg2 M) = 0 := by unfold mK; rw [b7]; rfl
  have hMP : MP (bg2 M) := by unfold MP; rw [e0, b2]; exact ⟨hM, inN_nI (Nat.zero_le _) (by have := hM.2; rw [hL]; unfold mL; omega)⟩
  refine ⟨⟨?_, ⟨hMP, by rw [b7]; exact inN_nI (by decide) (by decide), fun t _ => by rw [b516]; exact inN_nI (by decide) (by decide)⟩, ?_, ⟨?_, fun t ht => absurd ht (by omega), fun t k ht => absurd ht (by omega), 0, bset_BS (by decide), b8⟩, ?_⟩, er⟩
  · rw [hL, b514]; exact hX.to (by rw [e 0 (by omega) (by omega) (by omega)]) (e 173 (by omega) (by omega) (by omega))
  · unfold RdI
    rw [er, hN.1, hN.2.1, hN.2.2.1, hN.2.2.2.1, hL]
    have := hX.1
    exact ⟨rfl, inN_nI (Nat.zero_le _) (by omega), inN_nI (by decide) (by decide), inN_nI (by decide) (by decide)⟩
  · rw [bset_ne (by decide) (by decide), s2_at, b7]
  · unfold DM
    rw [hK, b515, b516, b518, b519, b520]
    exact ⟨fun _ _ _ => ⟨rfl, rfl, rfl, rfl, rfl⟩, fun z => absurd z (by omega), fun t _ z => absurd z (by omega), fun t z => absurd z (by omega)⟩
set_option maxHeartbeats 8000000 in
theorem ct_X4_read {G : GT} {l : Launch} {N r v0 : Nat} {S M : ST} {Rt : Bool × Nat × ST} (hrr : 535 ≤ r) (hrN : r < N) (hX : TXT S (M 514) (mL M)) (hM : inN (M 513 0) 120) (hRd : RdN S r) (hv0 : BS S 51 v0) (hE : trT M = Rt) : CTX G l yX4_read cX4_read 2 none 9 1 7 [.ref (gZ G + r)] N (hC G S) (fun u N' h' => u = none ∧ N' = N ∧ ∃ T, h' = hC G T ∧ Rt.1 = true ∧ FRn S T r ∧ T r 4 = nI Rt.2.1 ∧ DIv T Rt.2.2 r) (fun q N' h' => ∃ T, (FRn S T r ∧ PB T) ∧ Rt.1 = false ∧ T r 1 = Rt.2.2 513 6 ∧ pxW G N T r q N' h') := by
  have i1 := hRd.1
  obtain ⟨hD1, he1⟩ := DIv.first hrr hX hM hRd
  have hfr : FRn S (bset (s2 S 27 0 (nI 0)) 51 0) r := fun k a b => by rw [bset_ne (by omega) (by omega), s2_nk (by omega)]
  refine CTX.mk "ScopeTasks$Reader" [(0, .ref (gZ G + r))] rfl (by decide) rfl (Nat.le_of_ble_eq_true rfl) ?_
  intro x hR hl hr hnm hout
  refine v_aload_n (pc := 0) 0 dX4_read_0 rfl rfl ?_
  refine gX4_3 (pc := 1) hrr i1 hrN dX4_read_1 ?_
  refine gX4_69 (pc := 4) (by omega) dX4_read_4 ?_
  refine c_callVv (pc := 7) (st := []) (ci := 1) (ct_X1_begin (S := S) (b := 27) (v := v0) TB_27 hv0 (by omega)) kVX4_126 kDX4_126 (rm_ok hR (Nat.le_of_ble_eq_true rfl) (Nat.le_of_ble_eq_true rfl)) ⟨Nat.zero_le _, Nat.zero_le _⟩ (by omega) (hC_tree (j := 0) TB_27 (by decide) rfl) rfl rfl rfl rfl (Nat.le_of_ble_eq_true rfl) dX4_read_7 ?_
  refine v_S (show _ = bset (s2 S 27 0 (nI 0)) 51 0 from rfl) ?_
  generalize hGS1 : bset (s2 S 27 0 (nI 0)) 51 0 = S1
  rw [hGS1] at hD1 he1 hfr
  have k9 : S1 r 9 = nI 0 := by rw [he1]; exact hRd.1
  have k0 : S1 r 0 = nI 0 := by rw [he1]; exact hRd.2.1
  refine v_aload_n (pc := 10) 0 dX4_read_10 rfl rfl ?_
  refine v_S (s1_self S1 r).symm ?_
  refine c_callVv (pc := 11) (st := []) (ci := 4) (ct_X4_step (S := S1) (r := r) (g := S1 r) (X := (bg2 M 514)) (L := (mL (bg2 M))) (p := 0) hrr hrN k9 k0 (Nat.zero_le _) hD1.1) kVX4_62 kDX4_62 (rm_ok hR (Nat.le_of_ble_eq_true rfl) (Nat.le_of_ble_eq_true rfl)) ⟨Nat.zero_le _, Nat.zero_le _⟩ (by omega) (show hC G _ r = rdE G _ from cO_rd hrr ((congrFun (s1_at _ _ _) _).trans k9)) rfl rfl rfl rfl (Nat.le_of_ble_eq_true rfl) dX4_read_11 ?_
  refine v_S (show _ = rdDu r (bg2 M 514) (mL (bg2 M)) S1 by unfold rdDu; rw [k0]; rfl) ?_
  have hP2 := bl_2 hD1.2.1.1
  have hsl := sk_le (X := bg2 M 514) hD1.2.1.1.p
  have hL1 : mL (bg2 M) = mL M := by unfold mL; rw [bg2_j (by decide)]
  have h120 := hD1.1.1
  exact lp_rrd hR hr hout hrr hrN (mL M - mP (trS0 M)) 0 (trS0 M) _ (by omega) (show mL (blS (bg2 M)) ≤ mP (blS (bg2 M)) + (mL M - mP (blS (bg2 M))) by rw [bl_L, hL1]; omega) (hD1.rd hrr).bl ((LA_du (by rw [k0, (bg2_c M).1])).bl hD1.2.1.1) (show sk (blS (bg2 M) 514) (mL (blS (bg2 M))) (mP (blS (bg2 M))) = mP (blS (bg2 M)) by rw [bl_2 hD1.2.1.1, bl_L, bl_4]; exact sk_sk hD1.2.1.1.p) (by unfold rdDu; rw [s1_at]; show S1 r 4 = nI 0; rw [he1]; exact hRd.2.2.2.2) (by refine ⟨fun _ => ?_, fun _ => rfl⟩; show nn (blS (bg2 M) 513 7) = 0; rw [bl_j (by decide), (bg2_c M).2.1]; rfl) (fun k a b => by unfold rdDu; rw [s1_ne a]; exact hfr k a b) hE

