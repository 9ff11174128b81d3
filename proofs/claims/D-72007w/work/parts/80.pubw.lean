set_option maxRecDepth 100000
/-! ScopeTasks: wellBy, isSo, fits -/
set_option maxHeartbeats 4000000 in
theorem lp_cwb {G : GT} {x : VX} {N : Nat} {Q : State → Prop} {wa : Int32} (hR : xR x = RM 9 0 0) (hN : 513 ≤ N) : ∀ (m d : Nat) (S M : ST), d + m = 61 → 1 ≤ d → RL S M → (∀ X v, v = mWbV m d M → RL X (mWbL m d M) → UN S X → V G x "ScopeTasks" cX0_wellBy 4 Q 83 [(2, .int (v)), (0, .ref (gZ G + 0)), (1, .int (wa))] [] N (hC G X) 0 0) → V G x "ScopeTasks" cX0_wellBy 4 Q 15 [(3, .int (nI d)), (2, .int ((-9))), (0, .ref (gZ G + 0)), (1, .int (wa))] [] N (hC G S) 0 0 := by
  intro m
  induction m with
  | zero =>
    intro d S M hm hd hRL hk
    refine v_iload_n (pc := 15) 0 dX0_wellBy_15 rfl rfl ?_
    refine v_bipush (pc := 16) (nI 60) dX0_wellBy_16 (by decide) ?_
    refine v_ic_gtN (pc := 18) 83 (by omega) (by omega) dX0_wellBy_18 (by decide) (fun c1 => ?_) (fun c1 => ?_)
    · skip
      refine v_sub (lv' := [(2, .int ((-9))), (0, .ref (gZ G + 0)), (1, .int (wa))]) [1, 2, 3] rfl ?_
      exact hk S _ rfl hRL UN.rf
    · skip
      exact absurd c1 (by omega)
  | succ m ih =>
    intro d S M hm hd hRL hk
    have h1 := hRL.1.1.2.1
    refine v_iload_n (pc := 15) 0 dX0_wellBy_15 rfl rfl ?_
    refine v_bipush (pc := 16) (nI 60) dX0_wellBy_16 (by decide) ?_
    refine v_ic_gtN (pc := 18) 83 (by omega) (by omega) dX0_wellBy_18 (by decide) (fun c1 => ?_) (fun c1 => ?_)
    · skip
      exact absurd c1 (by omega)
    · skip
      refine v_iload_n (pc := 21) 1 dX0_wellBy_21 rfl rfl ?_
      refine v_bipush (pc := 22) ((-9)) dX0_wellBy_22 (by decide) ?_
      refine v_ic_ne (pc := 24) 83 dX0_wellBy_24 (by decide) (fun c2 => ?_) (fun c2 => ?_)
      · skip
        exact absurd rfl c2
      · skip
        refine v_aload_n (pc := 27) 2 dX0_wellBy_27 rfl rfl ?_
        refine gX0_46 (pc := 28) hN dX0_wellBy_28 ?_
        refine gX0_217 (pc := 31) TB_1 hN dX0_wellBy_31 ?_
        refine v_iconst (pc := 34) (nI 0) dX0_wellBy_34 (by decide) ?_
        refine v_iload_n (pc := 35) 0 dX0_wellBy_35 rfl rfl ?_
        refine c_iast (pc := 36) (k := 1 + 21) (j := 0) (IA_tree8 TB_1 (by decide)) (by omega) rfl (by omega) (by decide) dX0_wellBy_36 ?_
        have hRd : RL (s2 S 22 0 (nI d)) (mDl M 0 d) := hRL.dl (t := 0) (d := d) (by omega) (by omega)
        obtain ⟨e, he⟩ := id hRd.2.2.2.1
        refine v_S he.put.symm ?_
        refine v_aload_n (pc := 37) 2 dX0_wellBy_37 rfl rfl ?_
        refine gX0_62 (pc := 38) hN dX0_wellBy_38 ?_
        refine c_callVv (pc := 41) (st := []) (ci := 2) (ct_X2_start (S := s2 S 22 0 (nI d)) (b := 83) (c := e) (D := nI d) RB_83 (s2_at _ _ _ _) (by omega)) kVX0_97 kDX0_97 (rm_ok hR (Nat.le_of_ble_eq_true rfl) (Nat.le_of_ble_eq_true rfl)) ⟨Nat.zero_le _, Nat.zero_le _⟩ (by omega) (hC_run (j := 0) RB_83 (by decide) rfl) rfl rfl rfl rfl (Nat.le_of_ble_eq_true rfl) dX0_wellBy_41 ?_
        refine v_aload_n (pc := 44) 2 dX0_wellBy_44 rfl rfl ?_
        refine gX0_62 (pc := 45) hN dX0_wellBy_45 ?_
        refine v_iconst (pc := 48) (nI 0) dX0_wellBy_48 (by decide) ?_
        refine v_sipush (pc := 49) (nI 200) dX0_wellBy_49 (by decide) ?_
        refine c_callViE (pc := 52) (st := []) (ci := 2) (ct_X2_goTill (S := s2 S 22 0 (nI d)) (b := 83) (t := 0) (n := 200) (c := cSt (nI d) e) (M := mDl M 0 d) (g := rSt (mDl M 0 d)) RB_83 (by omega) (by omega) hRd.1.2.2 hRd.1.1 hRd.1.2.1 (by have := Sim.start hRd.1.1 hRd.1.2.1 e; rw [show (mDl M 0 d) 524 0 = nI d from s2_at _ _ _ _] at this; exact this) (RJ_rSt hRd.1.1) (by rw [rSt_0 (by decide) (by decide) (by decide), nn_of (by decide)]; omega) hRd.2.1 (by omega)) kVX0_210 kDX0_210 (rm_ok hR (Nat.le_of_ble_eq_true rfl) (Nat.le_of_ble_eq_true rfl)) ⟨Nat.zero_le _, Nat.zero_le _⟩ (by omega) (hC_run (j := 0) RB_83 (by decide) rfl) rfl rfl rfl rfl (Nat.le_of_ble_eq_true rfl) dX0_wellBy_52 (fun X1 hX => ?_)
        obtain ⟨Y1, hY1, rfl⟩ := hX
        have s0 := Sim.start hRd.1.1 hRd.1.2.1 e
        have sG := s0.go0 (m := 200) hRd.1.1 hRd.1.2.1 (RJ_rSt hRd.1.1) (by rw [rSt_0 (by decide) (by decide) (by decide), nn_of (by decide)]; omega)
        rw [show (mDl M 0 d) 524 0 = nI d from s2_at _ _ _ _] at sG
        have k0 := sG.how (t := 0) (by decide)
        have k1 := (sG.1 0 (by decide)).1.2.1
        have hR2 : RL (put Y1 83 (cGo (mDl M 0 d) 0 200 (cSt (nI d) e))) (mTry M 0 d 200) := (QX.put83 hRd hY1).m528
        have hU2 : UN S (put Y1 83 (cGo (mDl M 0 d) 0 200 (cSt (nI d) e))) := UN.tr (fun k hk => s2_nk (by omega)) (qx_UN83 hY1)
        refine v_if_eqB (pc := 55) 74 dX0_wellBy_55 (by decide) (fun c3 => ?_) (fun c3 => ?_)
        · skip
          refine v_bipush (pc := 74) ((-9)) dX0_wellBy_74 (by decide) ?_
          refine v_istore_n (pc := 76) (lv' := [(2, .int ((-9))), (3, .int (nI d)), (0, .ref (gZ G + 0)), (1, .int (wa))]) dX0_wellBy_76 rfl (by decide) rfl ?_
          refine v_iincN (pc := 77) (k := 1) (lv' := [(3, .int (nI (d + 1))), (2, .int ((-9))), (0, .ref (gZ G + 0)), (1, .int (wa))]) dX0_wellBy_77 rfl (by decide) rfl ?_
          refine v_goto (pc := 80) 15 dX0_wellBy_80 (by decide) ?_
          refine v_sub (lv' := [(3, .int (nI (d + 1))), (2, .int ((-9))), (0, .ref (gZ G + 0)), (1, .int (wa))]) [0, 1, 2, 3] rfl ?_
          have hE : ¬ (mTry M 0 d 200 528 0 = nI 3 ∧ mTry M 0 d 200 528 1 = 0) := by rw [show mTry M 0 d 200 528 = rGo (mDl M 0 d) 200 (rSt (mDl M 0 d)) from s1_at _ _ _]; exact fun z => c3 (k0.trans z.1)
          rw [mWbV, mWbL, if_neg hE, if_neg hE] at hk
          exact ih (d + 1) _ _ (by omega) (by omega) hR2 (fun X v e r q => hk X v e r (hU2.tr q))
        · skip
          refine v_aload_n (pc := 58) 2 dX0_wellBy_58 rfl rfl ?_
          refine gX0_62 (pc := 59) hN dX0_wellBy_59 ?_
          refine gX0_181 (pc := 62) RB_83 hN dX0_wellBy_62 ?_
          refine v_iconst (pc := 65) (nI 0) dX0_wellBy_65 (by decide) ?_
          refine c_iald (pc := 66) (k := 83 + 9) (j := 0) (IA_run8 RB_83 (by decide) (by decide) (by decide)) (by omega) rfl (by omega) (by decide) dX0_wellBy_66 ?_
          refine v_topi (v := (cGo (mDl M 0 d) 0 200 (cSt (nI d) e)) (18 * 0 + 1)) (pr_9 (by omega)) ?_
          refine v_if_ne (pc := 67) 74 dX0_wellBy_67 (by decide) (fun c4 => ?_) (fun c4 => ?_)
          · skip
            refine v_bipush (pc := 74) ((-9)) dX0_wellBy_74 (by decide) ?_
            refine v_istore_n (pc := 76) (lv' := [(2, .int ((-9))), (3, .int (nI d)), (0, .ref (gZ G + 0)), (1, .int (wa))]) dX0_wellBy_76 rfl (by decide) rfl ?_
            refine v_iincN (pc := 77) (k := 1) (lv' := [(3, .int (nI (d + 1))), (2, .int ((-9))), (0, .ref (gZ G + 0)), (1, .int (wa))]) dX0_wellBy_77 rfl (by decide) rfl ?_
            refine v_goto (pc := 80) 15 dX0_wellBy_80 (by decide) ?_
            refine v_sub (lv' := [(3, .int (nI (d + 1))), (2, .int ((-9))), (0, .ref (gZ G + 0)), (1, .int (wa))]) [0, 1, 2, 3] rfl ?_
            have hE : ¬ (mTry M 0 d 200 528 0 = nI 3 ∧ mTry M 0 d 200 528 1 = 0) := by rw [show mTry M 0 d 200 528 = rGo (mDl M 0 d) 200 (rSt (mDl M 0 d)) from s1_at _ _ _]; exact fun z => c4 (k1.trans z.2)
            rw [mWbV, mWbL, if_neg hE, if_neg hE] at hk
            exact ih (d + 1) _ _ (by omega) (by omega) hR2 (fun X v e r q => hk X v e r (hU2.tr q))
          · skip
            refine v_iload_n (pc := 70) 0 dX0_wellBy_70 rfl rfl ?_
            refine v_goto (pc := 71) 76 dX0_wellBy_71 (by decide) ?_
            refine v_istore_n (pc := 76) (lv' := [(2, .int (nI d)), (3, .int (nI d)), (0, .ref (gZ G + 0)), (1, .int (wa))]) dX0_wellBy_76 rfl (by decide) rfl ?_
            refine v_iincN (pc := 77) (k := 1) (lv' := [(3, .int (nI (d + 1))), (2, .int (nI d)), (0, .ref (gZ G + 0)), (1, .int (wa))]) dX0_wellBy_77 rfl (by decide) rfl ?_
            refine v_goto (pc := 80) 15 dX0_wellBy_80 (by decide) ?_
            refine v_iload_n (pc := 15) 0 dX0_wellBy_15 rfl rfl ?_
            refine v_bipush (pc := 16) (nI 60) dX0_wellBy_16 (by decide) ?_
            refine v_ic_gtN (pc := 18) 83 (by omega) (by omega) dX0_wellBy_18 (by decide) (fun c5 => ?_) (fun c5 => ?_)
            · skip
              refine v_sub (lv' := [(2, .int (nI d)), (0, .ref (gZ G + 0)), (1, .int (wa))]) [1, 2, 3] rfl ?_
              have hE := (show mTry M 0 d 200 528 0 = nI 3 ∧ mTry M 0 d 200 528 1 = 0 by rw [show mTry M 0 d 200 528 = rGo (mDl M 0 d) 200 (rSt (mDl M 0 d)) from s1_at _ _ _]; exact ⟨k0.symm.trans c3, k1.symm.trans c4⟩)
              rw [mWbV, mWbL, if_pos hE, if_pos hE] at hk
              exact hk _ _ rfl hR2 hU2
            · skip
              refine v_iload_n (pc := 21) 1 dX0_wellBy_21 rfl rfl ?_
              refine v_bipush (pc := 22) ((-9)) dX0_wellBy_22 (by decide) ?_
              refine v_ic_ne (pc := 24) 83 dX0_wellBy_24 (by decide) (fun c6 => ?_) (fun c6 => ?_)
              · skip
                refine v_sub (lv' := [(2, .int (nI d)), (0, .ref (gZ G + 0)), (1, .int (wa))]) [1, 2, 3] rfl ?_
                have hE := (show mTry M 0 d 200 528 0 = nI 3 ∧ mTry M 0 d 200 528 1 = 0 by rw [show mTry M 0 d 200 528 = rGo (mDl M 0 d) 200 (rSt (mDl M 0 d)) from s1_at _ _ _]; exact ⟨k0.symm.trans c3, k1.symm.trans c4⟩)
                rw [mWbV, mWbL, if_pos hE, if_pos hE] at hk
                exact hk _ _ rfl hR2 hU2
              · skip
                exact absurd c6 (fun z => inN_ne9 (inN_nI (Nat.le_refl d) (by omega)) z)

theorem mTry_n {T : ST} {t d k : Nat} : mN (mTry T t d k) = mN T := congrArg nn ((congrFun (s1_ne (by decide)) _).trans (congrFun (s2_nk (by decide)) _))
theorem mWbL_n {M : ST} : ∀ (m d : Nat) (T : ST), (mN T = mN M) → mN (mWbL m d T) = mN M := by
  intro m
  induction m with
  | zero => intro d T h; exact h
  | succ m ih =>
    intro d T h
    have e : mN (mTry T 0 d 200) = mN M := mTry_n.trans h
    rw [mWbL]
    split
    · exact e
    · exact ih _ _ e
set_option maxHeartbeats 4000000 in
theorem ct_X0_wellBy {G : GT} {l : Launch} {N : Nat} {S M : ST} (hRL : RL S M) (hN : 513 ≤ N) : CTiE G l yX0_wellBy cX0_wellBy 4 (some .int) 9 [.ref (gZ G + 0)] N S (mWbV 60 1 M) (fun X => RL X (mWellS M) ∧ UN S X) := by
  refine CT.mk "ScopeTasks" [(0, .ref (gZ G + 0))] rfl (by decide) rfl (Nat.le_of_ble_eq_true rfl) ?_
  intro x hR hl hr hnm
  refine v_aload_n (pc := 0) 0 dX0_wellBy_0 rfl rfl ?_
  refine gX0_46 (pc := 1) hN dX0_wellBy_1 ?_
  refine gX0_217 (pc := 4) TB_1 hN dX0_wellBy_4 ?_
  refine v_iconst (pc := 7) (nI 0) dX0_wellBy_7 (by decide) ?_
  refine c_iald (pc := 8) (k := 1 + 21) (j := 0) (IA_tree8 TB_1 (by decide)) (by omega) rfl (by omega) (by decide) dX0_wellBy_8 ?_
  refine v_topi (v := M 524 0) (hRL.1.2.2.dl (by have := hRL.1.1.2.1; omega)) ?_
  refine v_istore_n (pc := 9) (lv' := [(1, .int (M 524 0)), (0, .ref (gZ G + 0))]) dX0_wellBy_9 rfl (by decide) rfl ?_
  refine v_bipush (pc := 10) ((-9)) dX0_wellBy_10 (by decide) ?_
  refine v_istore_n (pc := 12) (lv' := [(2, .int ((-9))), (1, .int (M 524 0)), (0, .ref (gZ G + 0))]) dX0_wellBy_12 rfl (by decide) rfl ?_
  refine v_iconst (pc := 13) (nI 1) dX0_wellBy_13 (by decide) ?_
  refine v_istore_n (pc := 14) (lv' := [(3, .int (nI 1)), (2, .int ((-9))), (1, .int (M 524 0)), (0, .ref (gZ G + 0))]) dX0_wellBy_14 rfl (by decide) rfl ?_
  refine v_sub (lv' := [(3, .int (nI 1)), (2, .int ((-9))), (0, .ref (gZ G + 0)), (1, .int (M 524 0))]) [0, 1, 3, 2] rfl ?_
  refine lp_cwb hR hN 60 1 S M (by omega) (by omega) hRL (fun X v hv hRX hUX => ?_)
  refine v_aload_n (pc := 83) 1 dX0_wellBy_83 rfl rfl ?_
  refine gX0_46 (pc := 84) hN dX0_wellBy_84 ?_
  refine gX0_217 (pc := 87) TB_1 hN dX0_wellBy_87 ?_
  refine v_iconst (pc := 90) (nI 0) dX0_wellBy_90 (by decide) ?_
  refine v_iload_n (pc := 91) 2 dX0_wellBy_91 rfl rfl ?_
  refine c_iast (pc := 92) (k := 1 + 21) (j := 0) (IA_tree8 TB_1 (by decide)) (by omega) rfl (by omega) (by decide) dX0_wellBy_92 ?_
  refine v_iload_n (pc := 93) 0 dX0_wellBy_93 rfl rfl ?_
  have hw9 := hRL.1.2.1 0 (by have := hRL.1.1.2.1; omega)
  have hRZ : RL (s2 X 22 0 (M 524 0)) (mWellS M) := by
    unfold mWellS
    have := hRX.dl (t := 0) (d := nn (M 524 0)) (by rw [mWbL_n (M := M) _ _ _ rfl]; have := hRL.1.1.2.1; omega) hw9.2
    rw [← hw9.1] at this
    exact this
  exact v_iret (pc := 94) hr rfl (Nat.le_refl _) (Nat.le_refl _) dX0_wellBy_94 ⟨_, rfl, rfl, hv, _, ⟨hRZ, (UN.tr hUX (fun k hk => s2_nk (by omega)))⟩, rfl⟩

set_option maxHeartbeats 4000000 in
theorem lp_so {G : GT} {x : VX} {N n : Nat} {Q : State → Prop} {M : ST} (hR : xR x = RM 9 0 0) (hN : 513 ≤ N) (hn6 : n ≤ 6) : ∀ (m k : Nat) (S : ST), k + m = n → RL S M → S 0 14 = nI n → (∀ k, k < n → ∃ t m, t < mN M ∧ m ≤ 60 ∧ (S 174 k = nI t ∧ M 530 k = nI t) ∧ (S 175 k = nI m ∧ M 531 k = nI m) ∧ S 176 k = M 532 k ∧ (M 532 k = nI 0 ∨ M 532 k = nI 1)) → (∀ X, RL X M → UN S X → V G x "ScopeTasks" cX0_isSo 4 Q 74 [(1, .int (bI (mFi M (rGo M 60 (rSt M)) n = true))), (0, .ref (gZ G + 0))] [] N (hC G X) 0 0) → V G x "ScopeTasks" cX0_isSo 4 Q 4 [(2, .int (nI k)), (1, .int (bI (mFi M (rGo M 60 (rSt M)) k = true))), (0, .ref (gZ G + 0))] [] N (hC G S) 0 0 := by
  intro m
  induction m with
  | zero =>
    intro k S hm hRL hn0 hF hk
    refine v_iload_n (pc := 4) 0 dX0_isSo_4 rfl rfl ?_
    refine v_aload_n (pc := 5) 2 dX0_isSo_5 rfl rfl ?_
    refine gX0_128 (pc := 6) hN dX0_isSo_6 ?_
    refine v_topi (v := nI n) hn0 ?_
    refine v_ic_geN (pc := 9) 74 (by omega) (by omega) dX0_isSo_9 (by decide) (fun c1 => ?_) (fun c1 => ?_)
    · skip
      refine v_sub (lv' := [(1, .int (bI (mFi M (rGo M 60 (rSt M)) k = true))), (0, .ref (gZ G + 0))]) [1, 2] rfl ?_
      obtain rfl : k = n := by omega
      exact hk S hRL UN.rf
    · skip
      exact absurd c1 (by omega)
  | succ m ih =>
    intro k S hm hRL hn0 hF hk
    refine v_iload_n (pc := 4) 0 dX0_isSo_4 rfl rfl ?_
    refine v_aload_n (pc := 5) 2 dX0_isSo_5 rfl rfl ?_
    refine gX0_128 (pc := 6) hN dX0_isSo_6 ?_
    refine v_topi (v := nI n) hn0 ?_
    refine v_ic_geN (pc := 9) 74 (by omega) (by omega) dX0_isSo_9 (by decide) (fun c1 => ?_) (fun c1 => ?_)
    · skip
      exact absurd c1 (by omega)
    · skip
      obtain ⟨t, q, ht, hq, ⟨a1, a2⟩, ⟨a3, a4⟩, a5, a6⟩ := hF k (by omega)
      have ht8 : t < 8 := by have := hRL.1.1.n; omega
      obtain ⟨e, he⟩ := id hRL.2.2.2.1
      refine v_S he.put.symm ?_
      refine v_aload_n (pc := 12) 2 dX0_isSo_12 rfl rfl ?_
      refine gX0_62 (pc := 13) hN dX0_isSo_13 ?_
      refine c_callVv (pc := 16) (st := []) (ci := 2) (ct_X2_start (S := S) (b := 83) (c := e) (D := M 524 0) RB_83 (hRL.1.2.2.dl (by have := hRL.1.1.2.1; omega)) (by omega)) kVX0_97 kDX0_97 (rm_ok hR (Nat.le_of_ble_eq_true rfl) (Nat.le_of_ble_eq_true rfl)) ⟨Nat.zero_le _, Nat.zero_le _⟩ (by omega) (hC_run (j := 0) RB_83 (by decide) rfl) rfl rfl rfl rfl (Nat.le_of_ble_eq_true rfl) dX0_isSo_16 ?_
      refine v_aload_n (pc := 19) 2 dX0_isSo_19 rfl rfl ?_
      refine gX0_62 (pc := 20) hN dX0_isSo_20 ?_
      refine v_aload_n (pc := 23) 2 dX0_isSo_23 rfl rfl ?_
      refine gX0_77 (pc := 24) hN dX0_isSo_24 ?_
      refine v_iload_n (pc := 27) 0 dX0_isSo_27 rfl rfl ?_
      refine c_iald (pc := 28) (k := 174) (j := k) IA_174 (by omega) rfl (by omega) (by decide) dX0_isSo_28 ?_
      refine v_topi (v := nI t) ((congrFun (put_ne (by omega)) _).trans a1) ?_
      refine v_aload_n (pc := 29) 2 dX0_isSo_29 rfl rfl ?_
      refine gX0_81 (pc := 30) hN dX0_isSo_30 ?_
      refine v_iload_n (pc := 33) 0 dX0_isSo_33 rfl rfl ?_
      refine c_iald (pc := 34) (k := 175) (j := k) IA_175 (by omega) rfl (by omega) (by decide) dX0_isSo_34 ?_
      refine v_topi (v := nI q) ((congrFun (put_ne (by omega)) _).trans a3) ?_
      refine c_callViE (pc := 35) (st := []) (ci := 2) (ct_X2_goTill (S := S) (b := 83) (t := t) (n := q) (c := cSt (M 524 0) e) (M := M) (g := rSt M) RB_83 (by omega) (by omega) hRL.1.2.2 hRL.1.1 hRL.1.2.1 (Sim.start hRL.1.1 hRL.1.2.1 e) (RJ_rSt hRL.1.1) (by rw [rSt_0 (by decide) (by decide) (by decide), nn_of (by decide)]; omega) hRL.2.1 (by omega)) kVX0_210 kDX0_210 (rm_ok hR (Nat.le_of_ble_eq_true rfl) (Nat.le_of_ble_eq_true rfl)) ⟨Nat.zero_le _, Nat.zero_le _⟩ (by omega) (hC_run (j := 0) RB_83 (by decide) rfl) rfl rfl rfl rfl (Nat.le_of_ble_eq_true rfl) dX0_isSo_35 (fun X1 hX => ?_)
      obtain ⟨Y1, hY1, rfl⟩ := hX
      have hf := fact_iff hRL.1.1 hRL.1.2.1 ht8 hq e
      refine v_istore_n (pc := 38) (lv' := [(3, .int (bI (cGo M t q (cSt (M 524 0) e) (18 * t) = nI 3))), (2, .int (nI k)), (1, .int (bI (mFi M (rGo M 60 (rSt M)) k = true))), (0, .ref (gZ G + 0))]) dX0_isSo_38 rfl (by decide) rfl ?_
      refine v_iload_n (pc := 39) 2 dX0_isSo_39 rfl rfl ?_
      refine v_if_eqB (pc := 40) 66 dX0_isSo_40 (by decide) (fun c2 => ?_) (fun c2 => ?_)
      · skip
        refine v_iconst (pc := 66) (nI 0) dX0_isSo_66 (by decide) ?_
        refine v_istore_n (pc := 67) (lv' := [(1, .int (nI 0)), (3, .int (bI (cGo M t q (cSt (M 524 0) e) (18 * t) = nI 3))), (2, .int (nI k)), (0, .ref (gZ G + 0))]) dX0_isSo_67 rfl (by decide) rfl ?_
        refine v_iincN (pc := 68) (k := 2) (lv' := [(2, .int (nI (k + 1))), (1, .int (nI 0)), (3, .int (bI (cGo M t q (cSt (M 524 0) e) (18 * t) = nI 3))), (0, .ref (gZ G + 0))]) dX0_isSo_68 rfl (by decide) rfl ?_
        refine v_goto (pc := 71) 4 dX0_isSo_71 (by decide) ?_
        refine v_sub (lv' := [(2, .int (nI (k + 1))), (1, .int (nI 0)), (0, .ref (gZ G + 0))]) [0, 1, 3] rfl ?_
        have e2 : nn (M 530 k) = t := by rw [a2]; exact nn_of (by omega)
        refine v_lv (lv' := [(2, .int (nI (k + 1))), (1, .int (bI (mFi M (rGo M 60 (rSt M)) (k + 1) = true))), (0, .ref (gZ G + 0))]) (by rw [bI_f (p := mFi M (rGo M 60 (rSt M)) (k + 1) = true) (by rw [mFi]; intro z; exact c2 (by simp only [Bool.and_eq_true] at z; exact z.1))]) ?_
        exact ih (k + 1) _ (by omega) (hY1.put83 hRL) (by rw [put_ne (by omega), hY1.1 0 (by omega) (by omega)]; exact hn0) (fun k hk => by rw [put_ne (by omega), put_ne (by omega), put_ne (by omega), hY1.1 174 (by omega) (by omega), hY1.1 175 (by omega) (by omega), hY1.1 176 (by omega) (by omega)]; exact hF k hk) (fun X r q => hk X r ((qx_UN83 hY1).tr q))
      · skip
        refine v_iload_n (pc := 43) 0 dX0_isSo_43 rfl rfl ?_
        refine v_aload_n (pc := 44) 3 dX0_isSo_44 rfl rfl ?_
        refine gX0_84 (pc := 45) hN dX0_isSo_45 ?_
        refine v_iload_n (pc := 48) 1 dX0_isSo_48 rfl rfl ?_
        refine c_iald (pc := 49) (k := 176) (j := k) IA_176 (by omega) rfl (by omega) (by decide) dX0_isSo_49 ?_
        refine v_topi (v := M 532 k) ((congrFun (put_ne (by omega)) _).trans ((congrFun (hY1.1 176 (by omega) (by omega)) _).trans a5)) ?_
        refine v_iconst (pc := 50) (nI 1) dX0_isSo_50 (by decide) ?_
        refine v_ic_ne (pc := 51) 58 dX0_isSo_51 (by decide) (fun c3 => ?_) (fun c3 => ?_)
        · skip
          refine v_iconst (pc := 58) (nI 0) dX0_isSo_58 (by decide) ?_
          refine v_ic_ne (pc := 59) 66 dX0_isSo_59 (by decide) (fun c4 => ?_) (fun c4 => ?_)
          · skip
            refine v_iconst (pc := 66) (nI 0) dX0_isSo_66 (by decide) ?_
            refine v_istore_n (pc := 67) (lv' := [(1, .int (nI 0)), (3, .int (bI (cGo M t q (cSt (M 524 0) e) (18 * t) = nI 3))), (2, .int (nI k)), (0, .ref (gZ G + 0))]) dX0_isSo_67 rfl (by decide) rfl ?_
            refine v_iincN (pc := 68) (k := 2) (lv' := [(2, .int (nI (k + 1))), (1, .int (nI 0)), (3, .int (bI (cGo M t q (cSt (M 524 0) e) (18 * t) = nI 3))), (0, .ref (gZ G + 0))]) dX0_isSo_68 rfl (by decide) rfl ?_
            refine v_goto (pc := 71) 4 dX0_isSo_71 (by decide) ?_
            refine v_sub (lv' := [(2, .int (nI (k + 1))), (1, .int (nI 0)), (0, .ref (gZ G + 0))]) [0, 1, 3] rfl ?_
            have e2 : nn (M 530 k) = t := by rw [a2]; exact nn_of (by omega)
            rw [← a4] at hf
            have e3 : M 532 k = nI 0 := a6.resolve_right c3
            have hI : (if ¬ rGo M 60 (rSt M) (18 * nn (M 530 k) + 8) = (-9) ∧ rGo M 60 (rSt M) (18 * nn (M 530 k) + 8) ≤ M 531 k then nI 1 else nI 0) = bI (cGo M t q (cSt (M 524 0) e) (18 * t) = nI 3) := by
              rw [e2, bI_c hf]; rfl
            refine v_lv (lv' := [(2, .int (nI (k + 1))), (1, .int (bI (mFi M (rGo M 60 (rSt M)) (k + 1) = true))), (0, .ref (gZ G + 0))]) (by rw [bI_f (p := mFi M (rGo M 60 (rSt M)) (k + 1) = true) (by rw [mFi, hI, e3]; simp only [Bool.and_eq_true, decide_eq_true_eq]; exact fun z => c4 z.2)]) ?_
            exact ih (k + 1) _ (by omega) (hY1.put83 hRL) (by rw [put_ne (by omega), hY1.1 0 (by omega) (by omega)]; exact hn0) (fun k hk => by rw [put_ne (by omega), put_ne (by omega), put_ne (by omega), hY1.1 174 (by omega) (by omega), hY1.1 175 (by omega) (by omega), hY1.1 176 (by omega) (by omega)]; exact hF k hk) (fun X r q => hk X r ((qx_UN83 hY1).tr q))
          · skip
            refine v_iconst (pc := 62) (nI 1) dX0_isSo_62 (by decide) ?_
            refine v_goto (pc := 63) 67 dX0_isSo_63 (by decide) ?_
            refine v_istore_n (pc := 67) (lv' := [(1, .int (nI 1)), (3, .int (bI (cGo M t q (cSt (M 524 0) e) (18 * t) = nI 3))), (2, .int (nI k)), (0, .ref (gZ G + 0))]) dX0_isSo_67 rfl (by decide) rfl ?_
            refine v_iincN (pc := 68) (k := 2) (lv' := [(2, .int (nI (k + 1))), (1, .int (nI 1)), (3, .int (bI (cGo M t q (cSt (M 524 0) e) (18 * t) = nI 3))), (0, .ref (gZ G + 0))]) dX0_isSo_68 rfl (by decide) rfl ?_
            refine v_goto (pc := 71) 4 dX0_isSo_71 (by decide) ?_
            refine v_sub (lv' := [(2, .int (nI (k + 1))), (1, .int (nI 1)), (0, .ref (gZ G + 0))]) [0, 1, 3] rfl ?_
            have e2 : nn (M 530 k) = t := by rw [a2]; exact nn_of (by omega)
            rw [← a4] at hf
            have e3 : M 532 k = nI 0 := a6.resolve_right c3
            have hI : (if ¬ rGo M 60 (rSt M) (18 * nn (M 530 k) + 8) = (-9) ∧ rGo M 60 (rSt M) (18 * nn (M 530 k) + 8) ≤ M 531 k then nI 1 else nI 0) = bI (cGo M t q (cSt (M 524 0) e) (18 * t) = nI 3) := by
              rw [e2, bI_c hf]; rfl
            refine v_lv (lv' := [(2, .int (nI (k + 1))), (1, .int (bI (mFi M (rGo M 60 (rSt M)) (k + 1) = true))), (0, .ref (gZ G + 0))]) (by rw [bI_t (p := mFi M (rGo M 60 (rSt M)) (k + 1) = true) (by rw [mFi, hI, e3]; simp only [Bool.and_eq_true, decide_eq_true_eq]; exact ⟨c2, c4⟩)]) ?_
            exact ih (k + 1) _ (by omega) (hY1.put83 hRL) (by rw [put_ne (by omega), hY1.1 0 (by omega) (by omega)]; exact hn0) (fun k hk => by rw [put_ne (by omega), put_ne (by omega), put_ne (by omega), hY1.1 174 (by omega) (by omega), hY1.1 175 (by omega) (by omega), hY1.1 176 (by omega) (by omega)]; exact hF k hk) (fun X r q => hk X r ((qx_UN83 hY1).tr q))
        · skip
          refine v_iconst (pc := 54) (nI 1) dX0_isSo_54 (by decide) ?_
          refine v_goto (pc := 55) 59 dX0_isSo_55 (by decide) ?_
          refine v_ic_ne (pc := 59) 66 dX0_isSo_59 (by decide) (fun c5 => ?_) (fun c5 => ?_)
          · skip
            refine v_iconst (pc := 66) (nI 0) dX0_isSo_66 (by decide) ?_
            refine v_istore_n (pc := 67) (lv' := [(1, .int (nI 0)), (3, .int (bI (cGo M t q (cSt (M 524 0) e) (18 * t) = nI 3))), (2, .int (nI k)), (0, .ref (gZ G + 0))]) dX0_isSo_67 rfl (by decide) rfl ?_
            refine v_iincN (pc := 68) (k := 2) (lv' := [(2, .int (nI (k + 1))), (1, .int (nI 0)), (3, .int (bI (cGo M t q (cSt (M 524 0) e) (18 * t) = nI 3))), (0, .ref (gZ G + 0))]) dX0_isSo_68 rfl (by decide) rfl ?_
            refine v_goto (pc := 71) 4 dX0_isSo_71 (by decide) ?_
            refine v_sub (lv' := [(2, .int (nI (k + 1))), (1, .int (nI 0)), (0, .ref (gZ G + 0))]) [0, 1, 3] rfl ?_
            have e2 : nn (M 530 k) = t := by rw [a2]; exact nn_of (by omega)
            rw [← a4] at hf
            have e3 : M 532 k = nI 1 := c3
            have hI : (if ¬ rGo M 60 (rSt M) (18 * nn (M 530 k) + 8) = (-9) ∧ rGo M 60 (rSt M) (18 * nn (M 530 k) + 8) ≤ M 531 k then nI 1 else nI 0) = bI (cGo M t q (cSt (M 524 0) e) (18 * t) = nI 3) := by
              rw [e2, bI_c hf]; rfl
            refine v_lv (lv' := [(2, .int (nI (k + 1))), (1, .int (bI (mFi M (rGo M 60 (rSt M)) (k + 1) = true))), (0, .ref (gZ G + 0))]) (by rw [bI_f (p := mFi M (rGo M 60 (rSt M)) (k + 1) = true) (by rw [mFi, hI, e3]; simp only [Bool.and_eq_true, decide_eq_true_eq]; exact fun z => c5 z.2)]) ?_
            exact ih (k + 1) _ (by omega) (hY1.put83 hRL) (by rw [put_ne (by omega), hY1.1 0 (by omega) (by omega)]; exact hn0) (fun k hk => by rw [put_ne (by omega), put_ne (by omega), put_ne (by omega), hY1.1 174 (by omega) (by omega), hY1.1 175 (by omega) (by omega), hY1.1 176 (by omega) (by omega)]; exact hF k hk) (fun X r q => hk X r ((qx_UN83 hY1).tr q))
          · skip
            refine v_iconst (pc := 62) (nI 1) dX0_isSo_62 (by decide) ?_
            refine v_goto (pc := 63) 67 dX0_isSo_63 (by decide) ?_
            refine v_istore_n (pc := 67) (lv' := [(1, .int (nI 1)), (3, .int (bI (cGo M t q (cSt (M 524 0) e) (18 * t) = nI 3))), (2, .int (nI k)), (0, .ref (gZ G + 0))]) dX0_isSo_67 rfl (by decide) rfl ?_
            refine v_iincN (pc := 68) (k := 2) (lv' := [(2, .int (nI (k + 1))), (1, .int (nI 1)), (3, .int (bI (cGo M t q (cSt (M 524 0) e) (18 * t) = nI 3))), (0, .ref (gZ G + 0))]) dX0_isSo_68 rfl (by decide) rfl ?_
            refine v_goto (pc := 71) 4 dX0_isSo_71 (by decide) ?_
            refine v_sub (lv' := [(2, .int (nI (k + 1))), (1, .int (nI 1)), (0, .ref (gZ G + 0))]) [0, 1, 3] rfl ?_
            have e2 : nn (M 530 k) = t := by rw [a2]; exact nn_of (by omega)
            rw [← a4] at hf
            have e3 : M 532 k = nI 1 := c3
            have hI : (if ¬ rGo M 60 (rSt M) (18 * nn (M 530 k) + 8) = (-9) ∧ rGo M 60 (rSt M) (18 * nn (M 530 k) + 8) ≤ M 531 k then nI 1 else nI 0) = bI (cGo M t q (cSt (M 524 0) e) (18 * t) = nI 3) := by
              rw [e2, bI_c hf]; rfl
            refine v_lv (lv' := [(2, .int (nI (k + 1))), (1, .int (bI (mFi M (rGo M 60 (rSt M)) (k + 1) = true))), (0, .ref (gZ G + 0))]) (by rw [bI_t (p := mFi M (rGo M 60 (rSt M)) (k + 1) = true) (by rw [mFi, hI, e3]; simp only [Bool.and_eq_true, decide_eq_true_eq]; exact ⟨c2, c5⟩)]) ?_
            exact ih (k + 1) _ (by omega) (hY1.put83 hRL) (by rw [put_ne (by omega), hY1.1 0 (by omega) (by omega)]; exact hn0) (fun k hk => by rw [put_ne (by omega), put_ne (by omega), put_ne (by omega), hY1.1 174 (by omega) (by omega), hY1.1 175 (by omega) (by omega), hY1.1 176 (by omega) (by omega)]; exact hF k hk) (fun X r q => hk X r ((qx_UN83 hY1).tr q))

set_option maxHeartbeats 4000000 in
theorem ct_X0_isSo {G : GT} {l : Launch} {N : Nat} {S M : ST} (hRL : RL S M) (hN : 513 ≤ N) : CTiE G l yX0_isSo cX0_isSo 4 (some .boolean) 9 [.ref (gZ G + 0)] N S (bI (mFi M (rGo M 60 (rSt M)) (nn (M 513 28)) = true)) (fun X => RL X M ∧ UN S X) := by
  obtain ⟨n, hn6, hn0, hn28, hF⟩ := id hRL.2.2.2.2.2.2.1
  refine CT.mk "ScopeTasks" [(0, .ref (gZ G + 0))] rfl (by decide) rfl (Nat.le_of_ble_eq_true rfl) ?_
  intro x hR hl hr hnm
  refine v_iconst (pc := 0) (nI 1) dX0_isSo_0 (by decide) ?_
  refine v_istore_n (pc := 1) (lv' := [(1, .int (nI 1)), (0, .ref (gZ G + 0))]) dX0_isSo_1 rfl (by decide) rfl ?_
  refine v_iconst (pc := 2) (nI 0) dX0_isSo_2 (by decide) ?_
  refine v_istore_n (pc := 3) (lv' := [(2, .int (nI 0)), (1, .int (nI 1)), (0, .ref (gZ G + 0))]) dX0_isSo_3 rfl (by decide) rfl ?_
  refine v_sub (lv' := [(2, .int (nI 0)), (1, .int (nI 1)), (0, .ref (gZ G + 0))]) [0, 1, 2] rfl ?_
  refine v_lv (lv' := [(2, .int (nI 0)), (1, .int (bI (mFi M (rGo M 60 (rSt M)) 0 = true))), (0, .ref (gZ G + 0))]) (by rw [bI_t (p := mFi M (rGo M 60 (rSt M)) 0 = true) rfl]) ?_
  refine lp_so hR hN hn6 n 0 S (by omega) hRL hn0 hF (fun X hRX hUX => ?_)
  refine v_iload_n (pc := 74) 0 dX0_isSo_74 rfl rfl ?_
  exact v_iret (pc := 75) hr bI_nar (Nat.le_refl _) (Nat.le_refl _) dX0_isSo_75 ⟨_, rfl, rfl, by rw [hn28, nn_of (by omega)], _, ⟨hRX, hUX⟩, rfl⟩

theorem mFi_cong {S T : ST} {g : Nat → Int32} (e0 : S 530 = T 530) (e1 : S 531 = T 531) (e2 : S 532 = T 532) : ∀ k, mFi S g k = mFi T g k := by
  intro k
  induction k with
  | zero => rfl
  | succ k ih => rw [mFi, mFi, ih, e0, e1, e2]
theorem mFi_try {M : ST} {t d n : Nat} : mFi (mTry M t d 60) (mTry M t d 60 528) n = mFi (mDl M t d) (rGo (mDl M t d) 60 (rSt (mDl M t d))) n := by
  rw [show mTry M t d 60 528 = rGo (mDl M t d) 60 (rSt (mDl M t d)) from s1_at _ _ _]
  exact mFi_cong (s1_ne (by decide)) (s1_ne (by decide)) (s1_ne (by decide)) n
theorem mFtL_n {M : ST} {t : Nat} : ∀ (m d : Nat) (T : ST), (mN T = mN M) → mN (mFtL t m d T) = mN M := by
  intro m
  induction m with
  | zero => intro d T h; exact h
  | succ m ih => intro d T h; rw [mFtL]; exact ih _ _ (mTry_n.trans h)
set_option maxHeartbeats 4000000 in
theorem lp_cft {G : GT} {x : VX} {N t : Nat} {Q : State → Prop} {wa : Int32} (hR : xR x = RM 10 0 0) (hN : 513 ≤ N) (ht8 : t < 8) : ∀ (m d : Nat) (s : Int32) (S M : ST), d + m = 31 → 1 ≤ d → t < mN M → RL S M → (∀ X v, v = mFtV t m d M s → RL X (mFtL t m d M) → UN S X → V G x "ScopeTasks" cX0_fits 5 Q 67 [(3, .int (v)), (0, .ref (gZ G + 0)), (1, .int (nI t)), (2, .int (wa))] [] N (hC G X) 0 0) → V G x "ScopeTasks" cX0_fits 5 Q 25 [(4, .int (nI d)), (3, .int (s)), (0, .ref (gZ G + 0)), (1, .int (nI t)), (2, .int (wa))] [] N (hC G S) 0 0 := by
  intro m
  induction m with
  | zero =>
    intro d s S M hm hd ht hRL hk
    refine v_iload (pc := 25) 0 dX0_fits_25 rfl ?_
    refine v_bipush (pc := 27) (nI 30) dX0_fits_27 (by decide) ?_
    refine v_ic_gtN (pc := 29) 67 (by omega) (by omega) dX0_fits_29 (by decide) (fun c1 => ?_) (fun c1 => ?_)
    · skip
      refine v_sub (lv' := [(3, .int (s)), (0, .ref (gZ G + 0)), (1, .int (nI t)), (2, .int (wa))]) [1, 2, 3, 4] rfl ?_
      exact hk S _ rfl hRL UN.rf
    · skip
      exact absurd c1 (by omega)
  | succ m ih =>
    intro d s S M hm hd ht hRL hk
    refine v_iload (pc := 25) 0 dX0_fits_25 rfl ?_
    refine v_bipush (pc := 27) (nI 30) dX0_fits_27 (by decide) ?_
    refine v_ic_gtN (pc := 29) 67 (by omega) (by omega) dX0_fits_29 (by decide) (fun c1 => ?_) (fun c1 => ?_)
    · skip
      exact absurd c1 (by omega)
    · skip
      refine v_aload_n (pc := 32) 2 dX0_fits_32 rfl rfl ?_
      refine gX0_46 (pc := 33) hN dX0_fits_33 ?_
      refine gX0_217 (pc := 36) TB_1 hN dX0_fits_36 ?_
      refine v_iload_n (pc := 39) 3 dX0_fits_39 rfl rfl ?_
      refine v_iload (pc := 40) 0 dX0_fits_40 rfl ?_
      refine c_iast (pc := 42) (k := 1 + 21) (j := t) (IA_tree8 TB_1 (by decide)) (by omega) rfl (by omega) (by decide) dX0_fits_42 ?_
      have hRd : RL (s2 S 22 t (nI d)) (mDl M t d) := hRL.dl ht (by omega)
      refine v_iload_n (pc := 43) 1 dX0_fits_43 rfl rfl ?_
      refine v_aload_n (pc := 44) 2 dX0_fits_44 rfl rfl ?_
      refine c_callViE (pc := 45) (st := [.int (s)]) (ci := 0) (ct_X0_isSo (S := s2 S 22 t (nI d)) (M := mDl M t d) hRd (by omega)) kVX0_221 kDX0_221 (rm_ok hR (Nat.le_of_ble_eq_true rfl) (Nat.le_of_ble_eq_true rfl)) ⟨Nat.zero_le _, Nat.zero_le _⟩ (by omega) (rfl) rfl rfl rfl rfl (Nat.le_of_ble_eq_true rfl) dX0_fits_45 (fun X1 hX => ?_)
      obtain ⟨hY1, hY1o⟩ := hX
      refine v_if_eqB (pc := 48) 58 dX0_fits_48 (by decide) (fun c2 => ?_) (fun c2 => ?_)
      · skip
        refine v_iconst (pc := 58) (nI 0) dX0_fits_58 (by decide) ?_
        refine v_ior (pc := 59) dX0_fits_59 ?_
        refine v_istore_n (pc := 60) (lv' := [(3, .int (s ||| (nI 0))), (4, .int (nI d)), (0, .ref (gZ G + 0)), (1, .int (nI t)), (2, .int (wa))]) dX0_fits_60 rfl (by decide) rfl ?_
        refine v_iincN (pc := 61) (k := 1) (lv' := [(4, .int (nI (d + 1))), (3, .int (s ||| (nI 0))), (0, .ref (gZ G + 0)), (1, .int (nI t)), (2, .int (wa))]) dX0_fits_61 rfl (by decide) rfl ?_
        refine v_goto (pc := 64) 25 dX0_fits_64 (by decide) ?_
        refine v_sub (lv' := [(4, .int (nI (d + 1))), (3, .int (s ||| (nI 0))), (0, .ref (gZ G + 0)), (1, .int (nI t)), (2, .int (wa))]) [0, 1, 2, 3, 4] rfl ?_
        have e5 : (mDl M t d) 513 28 = M 513 28 := congrFun (s2_nk (by decide)) _
        have hP := c2
        rw [e5, ← mFi_try] at hP
        rw [mFtV, mFtL, if_neg hP] at hk
        exact ih (d + 1) _ _ _ (by omega) (by omega) (by rw [mTry_n]; exact ht) hY1.m528 (fun X v e r q => hk X v e r (UN.tr (UN.tr (fun k hk => s2_nk (by omega)) hY1o) q))
      · skip
        refine v_iconst (pc := 51) (nI 1) dX0_fits_51 (by decide) ?_
        refine v_iload (pc := 52) 0 dX0_fits_52 rfl ?_
        refine v_ishl (pc := 54) dX0_fits_54 ?_
        refine v_goto (pc := 55) 59 dX0_fits_55 (by decide) ?_
        refine v_ior (pc := 59) dX0_fits_59 ?_
        refine v_istore_n (pc := 60) (lv' := [(3, .int (s ||| ((nI 1) <<< ((nI d) &&& 31)))), (4, .int (nI d)), (0, .ref (gZ G + 0)), (1, .int (nI t)), (2, .int (wa))]) dX0_fits_60 rfl (by decide) rfl ?_
        refine v_iincN (pc := 61) (k := 1) (lv' := [(4, .int (nI (d + 1))), (3, .int (s ||| ((nI 1) <<< ((nI d) &&& 31)))), (0, .ref (gZ G + 0)), (1, .int (nI t)), (2, .int (wa))]) dX0_fits_61 rfl (by decide) rfl ?_
        refine v_goto (pc := 64) 25 dX0_fits_64 (by decide) ?_
        refine v_sub (lv' := [(4, .int (nI (d + 1))), (3, .int (s ||| ((nI 1) <<< ((nI d) &&& 31)))), (0, .ref (gZ G + 0)), (1, .int (nI t)), (2, .int (wa))]) [0, 1, 2, 3, 4] rfl ?_
        have e5 : (mDl M t d) 513 28 = M 513 28 := congrFun (s2_nk (by decide)) _
        have hP := c2
        rw [e5, ← mFi_try] at hP
        rw [mFtV, mFtL, if_pos hP] at hk
        exact ih (d + 1) _ _ _ (by omega) (by omega) (by rw [mTry_n]; exact ht) hY1.m528 (fun X v e r q => hk X v e r (UN.tr (UN.tr (fun k hk => s2_nk (by omega)) hY1o) q))

set_option maxHeartbeats 4000000 in
theorem ct_X0_fits {G : GT} {l : Launch} {N : Nat} {S M : ST} {t : Int32} (hRL : RL S M) (hN : 513 ≤ N) : CTiE G l yX0_fits cX0_fits 5 (some .int) 10 [.ref (gZ G + 0), .int t] N S (mFitsV M t) (fun X => RL X (mFitsS M t) ∧ UN S X) := by
  have h8 := hRL.1.1.n
  have h1 := hRL.1.1.2.1
  refine CT.mk "ScopeTasks" [(0, .ref (gZ G + 0)), (1, .int (t))] rfl (by decide) rfl (Nat.le_of_ble_eq_true rfl) ?_
  intro x hR hl hr hnm
  refine v_aload_n (pc := 0) 0 dX0_fits_0 rfl rfl ?_
  refine v_iload_n (pc := 1) 1 dX0_fits_1 rfl rfl ?_
  refine c_callVi (pc := 2) (st := []) (ci := 0) (ct_X0_isTask (S := S) (t := t) (M := M) hRL.1 (by omega)) kVX0_146 kDX0_146 (rm_ok hR (Nat.le_of_ble_eq_true rfl) (Nat.le_of_ble_eq_true rfl)) ⟨Nat.zero_le _, Nat.zero_le _⟩ (by omega) (rfl) rfl rfl rfl rfl (Nat.le_of_ble_eq_true rfl) dX0_fits_2 ?_
  refine v_if_neB (pc := 5) 10 dX0_fits_5 (by decide) (fun c1 => ?_) (fun c1 => ?_)
  · skip
    obtain ⟨j, hjL, rfl⟩ := in_nat (n := mN M - 1) (by omega) c1
    have hj8 : j < 8 := by omega
    have hjm : j < mN M := by omega
    have hjn : nn (nI j) = j := nn_nI (by omega)
    refine v_aload_n (pc := 10) 0 dX0_fits_10 rfl rfl ?_
    refine gX0_46 (pc := 11) hN dX0_fits_11 ?_
    refine gX0_217 (pc := 14) TB_1 hN dX0_fits_14 ?_
    refine v_iload_n (pc := 17) 1 dX0_fits_17 rfl rfl ?_
    refine c_iald (pc := 18) (k := 1 + 21) (j := j) (IA_tree8 TB_1 (by decide)) (by omega) rfl (by omega) (by decide) dX0_fits_18 ?_
    refine v_topi (v := M 524 j) (hRL.1.2.2.dl hjm) ?_
    refine v_istore_n (pc := 19) (lv' := [(2, .int (M 524 j)), (0, .ref (gZ G + 0)), (1, .int (nI j))]) dX0_fits_19 rfl (by decide) rfl ?_
    refine v_iconst (pc := 20) (nI 0) dX0_fits_20 (by decide) ?_
    refine v_istore_n (pc := 21) (lv' := [(3, .int (nI 0)), (2, .int (M 524 j)), (0, .ref (gZ G + 0)), (1, .int (nI j))]) dX0_fits_21 rfl (by decide) rfl ?_
    refine v_iconst (pc := 22) (nI 1) dX0_fits_22 (by decide) ?_
    refine v_istore (pc := 23) (lv' := [(4, .int (nI 1)), (3, .int (nI 0)), (2, .int (M 524 j)), (0, .ref (gZ G + 0)), (1, .int (nI j))]) dX0_fits_23 (by decide) rfl ?_
    refine v_sub (lv' := [(4, .int (nI 1)), (3, .int (nI 0)), (0, .ref (gZ G + 0)), (1, .int (nI j)), (2, .int (M 524 j))]) [0, 1, 3, 4, 2] rfl ?_
    refine lp_cft hR hN hj8 30 1 (nI 0) S M (by omega) (by omega) hjm hRL (fun X v hv hRX hUX => ?_)
    refine v_aload_n (pc := 67) 1 dX0_fits_67 rfl rfl ?_
    refine gX0_46 (pc := 68) hN dX0_fits_68 ?_
    refine gX0_217 (pc := 71) TB_1 hN dX0_fits_71 ?_
    refine v_iload_n (pc := 74) 2 dX0_fits_74 rfl rfl ?_
    refine v_iload_n (pc := 75) 3 dX0_fits_75 rfl rfl ?_
    refine c_iast (pc := 76) (k := 1 + 21) (j := j) (IA_tree8 TB_1 (by decide)) (by omega) rfl (by omega) (by decide) dX0_fits_76 ?_
    refine v_iload_n (pc := 77) 0 dX0_fits_77 rfl rfl ?_
    have hw9 := hRL.1.2.1 j hjm
    have hRZ : RL (s2 X 22 j (M 524 j)) (mFitsS M (nI j)) := by
      unfold mFitsS; rw [if_pos c1, hjn]
      have := hRX.dl (t := j) (d := nn (M 524 j)) (by rw [mFtL_n (M := M) _ _ _ rfl]; exact hjm) hw9.2
      rw [← hw9.1] at this
      exact this
    exact v_iret (pc := 78) hr rfl (Nat.le_refl _) (Nat.le_refl _) dX0_fits_78 ⟨_, rfl, rfl, (by unfold mFitsV; rw [if_pos c1, hjn]; exact hv), _, ⟨hRZ, (UN.tr hUX (fun k hk => s2_nk (by omega)))⟩, rfl⟩
  · skip
    refine v_iconst (pc := 8) ((-1)) dX0_fits_8 (by decide) ?_
    exact v_iret (pc := 9) hr rfl (Nat.le_refl _) (Nat.le_refl _) dX0_fits_9 ⟨_, rfl, rfl, (by unfold mFitsV; rw [if_neg c1]), _, ⟨(by unfold mFitsS; rw [if_neg c1]; exact hRL), UN.rf⟩, rfl⟩

