set_option maxRecDepth 100000
/-! Reader.<init>; ScopeTasks.tree -/
set_option maxHeartbeats 4000000 in
theorem ct_X4_init {G : GT} {l : Launch} {N k : Nat} {h : Nat → va_E} (hk : k < N) (he : h k = .inr (4, [.int (nI 0), .int (nI 0), .int (nI 0), .int (nI 0), .int (nI 0), .null])) : CT G l yX4_init cX4_init 2 none 1 0 0 [.ref (gZ G + k), .ref (gZ G + 0)] N h (pV N (fun h' => h' = hu h k (rdE G rd0))) := by
  refine CT.mk "ScopeTasks$Reader" [(0, .ref (gZ G + k)), (1, .ref (gZ G + 0))] rfl (by decide) rfl (Nat.le_of_ble_eq_true rfl) ?_
  intro x hR hl hr hnm
  refine v_aload_n (pc := 0) 0 dX4_init_0 rfl rfl ?_
  refine v_aload_n (pc := 1) 1 dX4_init_1 rfl rfl ?_
  refine v_putF (pc := 2) (ci := 4) (j := 5) (fs := [.int (nI 0), .int (nI 0), .int (nI 0), .int (nI 0), .int (nI 0), .null]) (T := TX4) (M := 6) (C := RX4) rfl in_X4 tyX4 tyX4_ok nmX4 (by decide) q461 rfl rfl hnm rfl rfl rfl hk he (Nat.le_of_ble_eq_true rfl) dX4_init_2 ?_
  refine v_aload_n (pc := 5) 0 dX4_init_5 rfl rfl ?_
  refine v_objInit (pc := 6) q454 (by rw [hR]; decide) (by rw [hR]; decide) dX4_init_6 ?_
  exact v_vret (pc := 9) hr (Nat.le_refl _) (Nat.le_refl _) dX4_init_9 ⟨rfl, rfl, rfl⟩

set_option maxHeartbeats 16000000 in
theorem ct_X0_tree {G : GT} {l : Launch} {N : Nat} {S M : ST} (hRL : RL S M) (hN : 535 ≤ N) : CTW G l yX0_tree cX0_tree 3 (some .int) [(9, 13, 16, 114)] 10 2 13 [.ref (gZ G + 0)] N (hC G S) (fun u N' h' => u = some (.int (mTreeV M)) ∧ (N' = N + 1 ∨ N' = N + 2) ∧ ∃ X, h' = hC G X ∧ RL X (mTreeS M) ∧ ∀ k, 513 ≤ k → k < 535 → X k = S k) := by
  refine CTW.mk "ScopeTasks" [(0, .ref (gZ G + 0))] rfl (by decide) rfl (Nat.le_of_ble_eq_true rfl) ?_
  intro x hR hl hr hnm htb
  refine v_new (pc := 0) (C := RX4) (T := TX4) (M := 6) (ci := 4) (fs := [.int (nI 0), .int (nI 0), .int (nI 0), .int (nI 0), .int (nI 0), .null]) rfl in_X4 tyX4 tyX4_ok q449 q450 q70 (by decide) (by rw [hR]; decide) (by rw [hR]; decide) dX0_tree_0 ?_
  refine v_dup (pc := 3) dX0_tree_3 rfl ?_
  refine v_aload_n (pc := 4) 0 dX0_tree_4 rfl rfl ?_
  refine v_callIN (pc := 5) (st := [.ref (gZ G + N)]) (kb := N) (ct_X4_init (by omega) hu_at) (lw_meth q453) q70 q451 q452 rfl kDX0_110 (rm_ok hR (Nat.le_of_ble_eq_true rfl) (Nat.le_of_ble_eq_true rfl)) (by rw [hR]; decide) rfl rfl (Nat.le_of_ble_eq_true rfl) dX0_tree_5 (fun v' N' h' q => ?_)
  obtain ⟨rfl, rfl, rfl⟩ := q
  refine v_eq rfl rfl (hu_hu.trans (hC_s1 (S := S) (k := N) (f := rd0) (cO_rd (by omega) rfl))) ?_
  refine v_astore_n (pc := 8) (lv' := [(1, .ref (gZ G + N)), (0, .ref (gZ G + 0))]) dX0_tree_8 rfl (by decide) rfl ?_
  refine v_aload_n (pc := 9) 0 dX0_tree_9 rfl rfl ?_
  obtain ⟨L, hL, x10, m0, hx⟩ := id hRL.2.2.2.2.2.2.2.1
  have hmL : mL M = L := by unfold mL; rw [m0]; exact nn_of (by omega)
  obtain ⟨gv, hgv⟩ := id hRL.2.2.2.2.2.2.2.2
  have hS1 : ∀ k, k ≠ N → s1 S N rd0 k = S k := fun k hk => s1_ne hk
  have hRd : RdN (s1 S N rd0) N := by unfold RdN; rw [s1_at]; exact ⟨rfl, rfl, rfl, rfl, rfl⟩
  have hX1 : TXT (s1 S N rd0) (M 514) (mL M) := by rw [hmL]; exact ⟨hL, by rw [hS1 0 (by omega)]; exact x10, by rw [hS1 173 (by omega)]; exact hx⟩
  have hB1 : BS (s1 S N rd0) 51 gv := BS_s1 hgv (by omega) (by omega)
  have hM1 : inN (M 513 0) 120 := inN.of m0 hL (by decide)
  generalize hGS1 : s1 S N rd0 = S1 at *
  refine v_callC (pc := 10) (mc := 1) (ms := 7) (st := []) (kb := N) (ci := 4) (e := ⟨9, 13, 16, 114⟩) (ct_X4_read (r := N) (M := M) hN (by omega) hX1 hM1 hRd hB1 rfl) kVX0_111 kDX0_111 (rm_ok hR (Nat.le_of_ble_eq_true rfl) (Nat.le_of_ble_eq_true rfl)) (by rw [hR]; decide) (by omega) (show hC G _ N = rdE G _ from cO_rd hN hRd.1) rfl rfl rfl rfl (Nat.le_of_ble_eq_true rfl) dX0_tree_10 htb rfl (by decide) q448 q583 (fun q N' h' z => ?_) (fun v' N' h' z => ?_)
  · obtain ⟨T, ⟨t1, tp⟩, t2, t3, rfl, rfl, rfl⟩ := z
    refine v_astore_n (pc := 16) (lv' := [(2, .ref (gZ G + (N + 1))), (1, .ref (gZ G + N)), (0, .ref (gZ G + 0))]) dX0_tree_16 rfl (by decide) rfl ?_
    refine v_bipush (pc := 17) ((-10)) dX0_tree_17 (by decide) ?_
    refine v_aload_n (pc := 19) 0 dX0_tree_19 rfl rfl ?_
    refine gX0_116 (pc := 20) (by omega) (by rw [s1_at]; rfl) (by omega) dX0_tree_20 ?_
    refine v_topi (v := T N 1) (by rw [s1_at]; rfl) ?_
    refine v_isub (pc := 23) dX0_tree_23 ?_
    have hMS : mTreeS M = (trT M).2.2 := by unfold mTreeS; rw [if_neg (by rw [t2]; decide)]
    have hMV : (-10) - T N 1 = mTreeV M := by unfold mTreeV; rw [if_neg (by rw [t2]; decide), ← t3]
    exact v_iret (pc := 24) hr rfl (by decide) (by decide) dX0_tree_24 ⟨by rw [hMV], Or.inr rfl, _, rfl, by rw [hMS]; exact hRL.fail (fun k a b => by rw [s1_ne (by omega)]; exact (t1 k (by omega) a).trans (hS1 k (by omega))) (tp.toC (fun k a => s1_ne (by omega))) (RK_trT M), fun k a b => by rw [s1_ne (by omega)]; exact (t1 k (by omega) (by omega)).trans (hS1 k (by omega))⟩
  · obtain ⟨rfl, rfl, T, rfl, z1, z2, z3, z4⟩ := z
    obtain ⟨n, hn⟩ : ∃ n, mK (trT M).2.2 = n := ⟨_, rfl⟩
    have h8 : n ≤ 8 := by rw [← hn]; exact z4.2.1.2.1.2
    have hn7 : (trT M).2.2 513 7 = nI n := by rw [← hn]; exact z4.2.1.2.1.1
    have hTn : T 27 0 = nI n := z4.2.2.2.1.1.trans hn7
    have hF : ∀ k, k ≠ N → k < 27 ∨ 53 ≤ k → T k = S k := fun k a b => (z2 k a b).trans (hS1 k a)
    refine v_goto (pc := 13) 25 dX0_tree_13 (by decide) ?_
    refine v_aload_n (pc := 25) 1 dX0_tree_25 rfl rfl ?_
    refine gX0_50 (pc := 26) (by omega) dX0_tree_26 ?_
    refine gX0_119 (pc := 29) TB_27 (by omega) dX0_tree_29 ?_
    refine v_topi (v := nI n) hTn ?_
    refine v_if_neN (pc := 32) 45 (by omega) dX0_tree_32 (by decide) (fun c1 => ?_) (fun c1 => ?_)
    · skip
      have hTM : ∃ M', DIv T M' N ∧ 1 ≤ mK M' ∧ (M' 513 7 = if 0 < mK (trT M).2.2 then (trT M).2.2 513 7 else nI 1) ∧ M' 513 8 = (trT M).2.2 513 8 ∧ ∀ k, 515 ≤ k → k < 521 → M' k = (trT M).2.2 k := ⟨_, z4, by have := c1; omega, by have := c1; rw [if_pos (by omega)], rfl, fun _ _ _ => rfl⟩
      have hF2 := hF
      have hi2 := z3
      generalize T = T2 at hTM hF2 hi2 ⊢
      obtain ⟨M', hD', hK', hm7, hm8, hmk⟩ := hTM
      obtain ⟨v, hv, -⟩ := id hD'.2.2.2.1.2.2.2
      obtain ⟨v0, hv0, -⟩ := id hRL.1.2.2.2.2.2.2.2.2.2
      have hv0' : BS T2 25 v0 := ⟨by rw [hF2 _ (by omega) (by omega)]; exact hv0.1, hv0.2.1, by rw [hF2 _ (by omega) (by omega)]; exact hv0.2.2⟩
      obtain ⟨c, hc, -⟩ := id hRL.2.2.1
      obtain ⟨un, ua, hb, hf, u, uw, hUR⟩ := id hRL.2.2.2.2.2.1
      have j9 : T2 N 9 = nI 0 := hD'.2.2.1.1
      refine v_sub (lv' := [(0, .ref (gZ G + 0)), (1, .ref (gZ G + N))]) [1, 0] rfl ?_
      refine v_aload_n (pc := 45) 0 dX0_tree_45 rfl rfl ?_
      refine gX0_46 (pc := 46) (by omega) dX0_tree_46 ?_
      refine v_aload_n (pc := 49) 0 dX0_tree_49 rfl rfl ?_
      refine gX0_50 (pc := 50) (by omega) dX0_tree_50 ?_
      refine c_callVv (pc := 53) (st := []) (ci := 1) (ct_X1_copyOf (S := T2) (v := v) (v0 := v0) hv0' hv (by omega)) kVX0_122 kDX0_122 (rm_ok hR (Nat.le_of_ble_eq_true rfl) (Nat.le_of_ble_eq_true rfl)) (by rw [hR]; decide) (by omega) (hC_tree (j := 0) TB_1 (by decide) rfl) rfl rfl rfl rfl (Nat.le_of_ble_eq_true rfl) dX0_tree_53 ?_
      refine v_aload_n (pc := 56) 0 dX0_tree_56 rfl rfl ?_
      refine gX0_25 (pc := 57) (by omega) dX0_tree_57 ?_
      have hHc : HR (tcp T2 v) 55 c := hc.to (fun k a b => by rw [tcp_ne (by omega)]; exact hF2 k (by omega) (by omega))
      refine v_S hHc.put.symm ?_
      refine c_callVv (pc := 60) (st := []) (ci := 2) (ct_X2_start (S := tcp T2 v) (b := 55) (c := c) (D := tcp T2 v 22 0) RB_55 rfl (by omega)) kVX0_97 kDX0_97 (rm_ok hR (Nat.le_of_ble_eq_true rfl) (Nat.le_of_ble_eq_true rfl)) (by rw [hR]; decide) (by omega) (hC_run (j := 0) RB_55 (by decide) rfl) rfl rfl rfl rfl (Nat.le_of_ble_eq_true rfl) dX0_tree_60 ?_
      refine v_aload_n (pc := 63) 0 dX0_tree_63 rfl rfl ?_
      refine c_callVvE (pc := 64) (st := []) (ci := 0) (ct_X0_forgetAll (S := put (tcp T2 v) 55 (cSt (tcp T2 v 22 0) c)) (n := un) (hb := hb) (hf := hf) (u := u) (w := uw) ((hUR.toC (fun k a => by rw [put_ne (by omega), tcp_ne (by omega)]; exact hF2 k (by omega) (by omega))).uc) (by omega)) kVX0_125 kDX0_125 (rm_ok hR (Nat.le_of_ble_eq_true rfl) (Nat.le_of_ble_eq_true rfl)) (by rw [hR]; decide) (by omega) (rfl) rfl rfl rfl rfl (Nat.le_of_ble_eq_true rfl) dX0_tree_64 (fun X1 hX => ?_)
      obtain ⟨hY1, hY1o⟩ := hX
      have hX9 : X1 N 9 = nI 0 := by rw [hY1o N (by omega), put_ne (by omega), tcp_ne (by omega)]; exact j9
      have hX4 : X1 N 4 = nI (trT M).2.1 := by rw [hY1o N (by omega), put_ne (by omega), tcp_ne (by omega)]; exact hi2
      refine v_aload_n (pc := 67) 0 dX0_tree_67 rfl rfl ?_
      refine v_iconst (pc := 68) (nI 0) dX0_tree_68 (by decide) ?_
      refine pX0_128 (pc := 69) (by omega) dX0_tree_69 ?_
      refine v_aload_n (pc := 72) 0 dX0_tree_72 rfl rfl ?_
      refine gX0_69 (pc := 73) (by omega) dX0_tree_73 ?_
      refine v_iconst (pc := 76) (nI 0) dX0_tree_76 (by decide) ?_
      refine v_iconst (pc := 77) (nI 0) dX0_tree_77 (by decide) ?_
      refine c_zast (pc := 78) (k := 172) (j := 0) ZA_172 (by omega) rfl (by omega) (by decide) (by decide) dX0_tree_78 ?_
      refine v_aload_n (pc := 79) 0 dX0_tree_79 rfl rfl ?_
      refine gX0_69 (pc := 80) (by omega) dX0_tree_80 ?_
      refine v_iconst (pc := 83) (nI 1) dX0_tree_83 (by decide) ?_
      refine v_iconst (pc := 84) (nI 0) dX0_tree_84 (by decide) ?_
      refine c_zast (pc := 85) (k := 172) (j := 1) ZA_172 (by omega) rfl (by omega) (by decide) (by decide) dX0_tree_85 ?_
      refine v_aload_n (pc := 86) 0 dX0_tree_86 rfl rfl ?_
      refine v_iconst (pc := 87) (nI 0) dX0_tree_87 (by decide) ?_
      refine pX0_104 (pc := 88) (by omega) dX0_tree_88 ?_
      refine v_aload_n (pc := 91) 1 dX0_tree_91 rfl rfl ?_
      refine gX0_131 (pc := 92) hN ((congrFun (s2_nk (by omega)) _).trans ((congrFun (s2_nk (by omega)) _).trans ((congrFun (s2_nk (by omega)) _).trans ((congrFun (s2_nk (by omega)) _).trans hX9)))) (by omega) dX0_tree_92 ?_
      refine v_topi (v := nI ((trT M).2.1)) ((congrFun (s2_nk (by omega)) _).trans ((congrFun (s2_nk (by omega)) _).trans ((congrFun (s2_nk (by omega)) _).trans ((congrFun (s2_nk (by omega)) _).trans hX4)))) ?_
      obtain ⟨u', w', hUX⟩ := hY1
      have hok := tree_ok (c := c) (X := X1) hRL (fun k a b => hF2 k (by omega) a) hD' hK' hm7 hm8 hmk hv hUX hY1o z1
      have hMV : nI (trT M).2.1 = mTreeV M := by unfold mTreeV; rw [if_pos z1]
      exact v_iret (pc := 95) hr rfl (by decide) (by decide) dX0_tree_95 ⟨by rw [hMV], Or.inl rfl, _, rfl, hok.1, hok.2⟩
    · skip
      refine v_aload_n (pc := 35) 1 dX0_tree_35 rfl rfl ?_
      refine gX0_50 (pc := 36) (by omega) dX0_tree_36 ?_
      refine v_bipush (pc := 39) ((-9)) dX0_tree_39 (by decide) ?_
      refine c_callVi (pc := 41) (st := []) (ci := 1) (ct_X1_add (S := T) (b := 27) (p := (-9)) (n := n) TB_27 hTn (by omega) (by omega)) kVX0_94 kDX0_94 (rm_ok hR (Nat.le_of_ble_eq_true rfl) (Nat.le_of_ble_eq_true rfl)) (by rw [hR]; decide) (by omega) (hC_tree (j := 0) TB_27 (by decide) rfl) rfl rfl rfl rfl (Nat.le_of_ble_eq_true rfl) dX0_tree_41 ?_
      refine v_pop (pc := 44) dX0_tree_44 rfl ?_
      refine v_S (show _ = adS T n (-9) from rfl) ?_
      have hTM : ∃ M', DIv (adS T n (-9)) M' N ∧ 1 ≤ mK M' ∧ (M' 513 7 = if 0 < mK (trT M).2.2 then (trT M).2.2 513 7 else nI 1) ∧ M' 513 8 = (trT M).2.2 513 8 ∧ ∀ k, 515 ≤ k → k < 521 → M' k = (trT M).2.2 k := by
        have n0 : n = 0 := c1
        have h59 := (z4.2.2.2.2.1 0 (by omega) (by decide)).1
        refine ⟨adM (trT M).2.2 n (-9), z4.add hN hn7 (by omega) (Or.inl ⟨n0, rfl⟩), ?_, ?_, ?_, fun k a b => ?_⟩
        · unfold mK adM; rw [s2_at, nn_of (by omega)]; omega
        · rw [if_neg (by omega)]; unfold adM; rw [s2_at, n0]
        · unfold adM; rw [s2_nj (by decide), s2_nk (by decide)]
        · unfold adM; rw [s2_nk (by omega), n0, s2_id (k := 515) h59]
      have hF2 : ∀ k, k ≠ N → k < 27 ∨ 53 ≤ k → adS T n (-9) k = S k := fun k a b => by rw [adS_ne (by omega)]; exact hF k a b
      have hi2 : adS T n (-9) N 4 = nI (trT M).2.1 := by rw [adS_ne (by omega)]; exact z3
      generalize adS T n (-9) = T2 at hTM hF2 hi2 ⊢
      obtain ⟨M', hD', hK', hm7, hm8, hmk⟩ := hTM
      obtain ⟨v, hv, -⟩ := id hD'.2.2.2.1.2.2.2
      obtain ⟨v0, hv0, -⟩ := id hRL.1.2.2.2.2.2.2.2.2.2
      have hv0' : BS T2 25 v0 := ⟨by rw [hF2 _ (by omega) (by omega)]; exact hv0.1, hv0.2.1, by rw [hF2 _ (by omega) (by omega)]; exact hv0.2.2⟩
      obtain ⟨c, hc, -⟩ := id hRL.2.2.1
      obtain ⟨un, ua, hb, hf, u, uw, hUR⟩ := id hRL.2.2.2.2.2.1
      have j9 : T2 N 9 = nI 0 := hD'.2.2.1.1
      refine v_sub (lv' := [(0, .ref (gZ G + 0)), (1, .ref (gZ G + N))]) [1, 0] rfl ?_
      refine v_aload_n (pc := 45) 0 dX0_tree_45 rfl rfl ?_
      refine gX0_46 (pc := 46) (by omega) dX0_tree_46 ?_
      refine v_aload_n (pc := 49) 0 dX0_tree_49 rfl rfl ?_
      refine gX0_50 (pc := 50) (by omega) dX0_tree_50 ?_
      refine c_callVv (pc := 53) (st := []) (ci := 1) (ct_X1_copyOf (S := T2) (v := v) (v0 := v0) hv0' hv (by omega)) kVX0_122 kDX0_122 (rm_ok hR (Nat.le_of_ble_eq_true rfl) (Nat.le_of_ble_eq_true rfl)) (by rw [hR]; decide) (by omega) (hC_tree (j := 0) TB_1 (by decide) rfl) rfl rfl rfl rfl (Nat.le_of_ble_eq_true rfl) dX0_tree_53 ?_
      refine v_aload_n (pc := 56) 0 dX0_tree_56 rfl rfl ?_
      refine gX0_25 (pc := 57) (by omega) dX0_tree_57 ?_
      have hHc : HR (tcp T2 v) 55 c := hc.to (fun k a b => by rw [tcp_ne (by omega)]; exact hF2 k (by omega) (by omega))
      refine v_S hHc.put.symm ?_
      refine c_callVv (pc := 60) (st := []) (ci := 2) (ct_X2_start (S := tcp T2 v) (b := 55) (c := c) (D := tcp T2 v 22 0) RB_55 rfl (by omega)) kVX0_97 kDX0_97 (rm_ok hR (Nat.le_of_ble_eq_true rfl) (Nat.le_of_ble_eq_true rfl)) (by rw [hR]; decide) (by omega) (hC_run (j := 0) RB_55 (by decide) rfl) rfl rfl rfl rfl (Nat.le_of_ble_eq_true rfl) dX0_tree_60 ?_
      refine v_aload_n (pc := 63) 0 dX0_tree_63 rfl rfl ?_
      refine c_callVvE (pc := 64) (st := []) (ci := 0) (ct_X0_forgetAll (S := put (tcp T2 v) 55 (cSt (tcp T2 v 22 0) c)) (n := un) (hb := hb) (hf := hf) (u := u) (w := uw) ((hUR.toC (fun k a => by rw [put_ne (by omega), tcp_ne (by omega)]; exact hF2 k (by omega) (by omega))).uc) (by omega)) kVX0_125 kDX0_125 (rm_ok hR (Nat.le_of_ble_eq_true rfl) (Nat.le_of_ble_eq_true rfl)) (by rw [hR]; decide) (by omega) (rfl) rfl rfl rfl rfl (Nat.le_of_ble_eq_true rfl) dX0_tree_64 (fun X2 hX => ?_)
      obtain ⟨hY2, hY2o⟩ := hX
      have hX9 : X2 N 9 = nI 0 := by rw [hY2o N (by omega), put_ne (by omega), tcp_ne (by omega)]; exact j9
      have hX4 : X2 N 4 = nI (trT M).2.1 := by rw [hY2o N (by omega), put_ne (by omega), tcp_ne (by omega)]; exact hi2
      refine v_aload_n (pc := 67) 0 dX0_tree_67 rfl rfl ?_
      refine v_iconst (pc := 68) (nI 0) dX0_tree_68 (by decide) ?_
      refine pX0_128 (pc := 69) (by omega) dX0_tree_69 ?_
      refine v_aload_n (pc := 72) 0 dX0_tree_72 rfl rfl ?_
      refine gX0_69 (pc := 73) (by omega) dX0_tree_73 ?_
      refine v_iconst (pc := 76) (nI 0) dX0_tree_76 (by decide) ?_
      refine v_iconst (pc := 77) (nI 0) dX0_tree_77 (by decide) ?_
      refine c_zast (pc := 78) (k := 172) (j := 0) ZA_172 (by omega) rfl (by omega) (by decide) (by decide) dX0_tree_78 ?_
      refine v_aload_n (pc := 79) 0 dX0_tree_79 rfl rfl ?_
      refine gX0_69 (pc := 80) (by omega) dX0_tree_80 ?_
      refine v_iconst (pc := 83) (nI 1) dX0_tree_83 (by decide) ?_
      refine v_iconst (pc := 84) (nI 0) dX0_tree_84 (by decide) ?_
      refine c_zast (pc := 85) (k := 172) (j := 1) ZA_172 (by omega) rfl (by omega) (by decide) (by decide) dX0_tree_85 ?_
      refine v_aload_n (pc := 86) 0 dX0_tree_86 rfl rfl ?_
      refine v_iconst (pc := 87) (nI 0) dX0_tree_87 (by decide) ?_
      refine pX0_104 (pc := 88) (by omega) dX0_tree_88 ?_
      refine v_aload_n (pc := 91) 1 dX0_tree_91 rfl rfl ?_
      refine gX0_131 (pc := 92) hN ((congrFun (s2_nk (by omega)) _).trans ((congrFun (s2_nk (by omega)) _).trans ((congrFun (s2_nk (by omega)) _).trans ((congrFun (s2_nk (by omega)) _).trans hX9)))) (by omega) dX0_tree_92 ?_
      refine v_topi (v := nI ((trT M).2.1)) ((congrFun (s2_nk (by omega)) _).trans ((congrFun (s2_nk (by omega)) _).trans ((congrFun (s2_nk (by omega)) _).trans ((congrFun (s2_nk (by omega)) _).trans hX4)))) ?_
      obtain ⟨u', w', hUX⟩ := hY2
      have hok := tree_ok (c := c) (X := X2) hRL (fun k a b => hF2 k (by omega) a) hD' hK' hm7 hm8 hmk hv hUX hY2o z1
      have hMV : nI (trT M).2.1 = mTreeV M := by unfold mTreeV; rw [if_pos z1]
      exact v_iret (pc := 95) hr rfl (by decide) (by decide) dX0_tree_95 ⟨by rw [hMV], Or.inl rfl, _, rfl, hok.1, hok.2⟩

