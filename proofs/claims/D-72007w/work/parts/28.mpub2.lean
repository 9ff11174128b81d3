set_option maxRecDepth 100000
/-! ScopeTasksModel: remember, ticks, asks, undo, keep, back, ends, spares -/
set_option maxHeartbeats 4000000 in
theorem lp_rem {G : GT} {x : VX} {N : Nat} {Q : State → Prop} {S : ST} {p : Nat} (hN : 535 ≤ N) (hpE : S 513 26 = nI p) (hpL : p ≤ 11) : ∀ (m k : Nat), k + m = 326 → V G x "ScopeTasksModel" cX3_remember 2 Q 36 [(0, .ref (gZ G + 513))] [] N (hC G (s1 S 529 (blk (S 527) (S 529) (326 * p) 326))) 0 0 → V G x "ScopeTasksModel" cX3_remember 2 Q 2 [(1, .int (nI k)), (0, .ref (gZ G + 513))] [] N (hC G (s1 S 529 (blk (S 527) (S 529) (326 * p) k))) 0 0 := by
  intro m
  induction m with
  | zero =>
    intro k hkm hk
    refine v_iload_n (pc := 2) 0 dX3_remember_2 rfl rfl ?_
    refine v_sipush (pc := 3) (nI 326) dX3_remember_3 (by decide) ?_
    refine v_ic_geN (pc := 6) 36 (by omega) (by omega) dX3_remember_6 (by decide) (fun c1 => ?_) (fun c1 => ?_)
    · skip
      refine v_sub (lv' := [(0, .ref (gZ G + 513))]) [1] rfl ?_
      obtain rfl : k = 326 := by omega
      exact hk
    · skip
      exact absurd c1 (by omega)
  | succ m ih =>
    intro k hkm hk
    refine v_iload_n (pc := 2) 0 dX3_remember_2 rfl rfl ?_
    refine v_sipush (pc := 3) (nI 326) dX3_remember_3 (by decide) ?_
    refine v_ic_geN (pc := 6) 36 (by omega) (by omega) dX3_remember_6 (by decide) (fun c1 => ?_) (fun c1 => ?_)
    · skip
      exact absurd c1 (by omega)
    · skip
      refine v_aload_n (pc := 9) 1 dX3_remember_9 rfl rfl ?_
      refine gX3_55 (pc := 10) hN dX3_remember_10 ?_
      refine v_sipush (pc := 13) (nI 326) dX3_remember_13 (by decide) ?_
      refine v_aload_n (pc := 16) 1 dX3_remember_16 rfl rfl ?_
      refine gX3_205 (pc := 17) hN dX3_remember_17 ?_
      refine v_topi (v := nI p) ((congrFun (s1_ne (by omega)) _).trans hpE) ?_
      refine v_imulN (pc := 20) dX3_remember_20 ?_
      refine v_iload_n (pc := 21) 0 dX3_remember_21 rfl rfl ?_
      refine v_iaddN (pc := 22) dX3_remember_22 ?_
      refine v_aload_n (pc := 23) 1 dX3_remember_23 rfl rfl ?_
      refine gX3_49 (pc := 24) hN dX3_remember_24 ?_
      refine v_iload_n (pc := 27) 0 dX3_remember_27 rfl rfl ?_
      refine c_iald (pc := 28) (k := 527) (j := k) IA_527 (by omega) rfl (by omega) (by decide) dX3_remember_28 ?_
      refine v_topi (v := S 527 k) (congrFun (s1_ne (by omega)) _) ?_
      refine c_iast (pc := 29) (k := 529) (j := 326 * p + k) IA_529 (by omega) rfl (by omega) (by decide) dX3_remember_29 ?_
      refine v_S (s2_s1 _ _ _ _ _) ?_
      refine v_iincN (pc := 30) (k := 0) (lv' := [(1, .int (nI (k + 1))), (0, .ref (gZ G + 513))]) dX3_remember_30 rfl (by decide) rfl ?_
      refine v_goto (pc := 33) 2 dX3_remember_33 (by decide) ?_
      refine v_S (congrArg (s1 S 529) (blk_s _ _ _ _)) ?_
      refine v_sub (lv' := [(1, .int (nI (k + 1))), (0, .ref (gZ G + 513))]) [0, 1] rfl ?_
      exact ih (k + 1) (by omega) hk

set_option maxHeartbeats 4000000 in
theorem ct_X3_remember {G : GT} {l : Launch} {N : Nat} {S : ST}  (hu : inN (S 513 26) 11) (hm : inN (S 513 25) 12) (hN : 535 ≤ N) : CTv G l yX3_remember cX3_remember 2 none 0 [.ref (gZ G + 513)] N (S) (mRem S) := by
  obtain ⟨p, hpn⟩ : ∃ q, nn (S 513 26) = q := ⟨_, rfl⟩
  have hpE := (hu).1
  have hpL := (hu).2
  rw [hpn] at hpE hpL
  obtain ⟨q, hqn⟩ : ∃ q, nn (S 513 25) = q := ⟨_, rfl⟩
  have hqE := (hm).1
  have hqL := (hm).2
  rw [hqn] at hqE hqL
  refine CT.mk "ScopeTasksModel" [(0, .ref (gZ G + 513))] rfl (by decide) rfl (Nat.le_of_ble_eq_true rfl) ?_
  intro x hR hl hr hnm
  refine v_iconst (pc := 0) (nI 0) dX3_remember_0 (by decide) ?_
  refine v_istore_n (pc := 1) (lv' := [(1, .int (nI 0)), (0, .ref (gZ G + 513))]) dX3_remember_1 rfl (by decide) rfl ?_
  refine v_sub (lv' := [(1, .int (nI 0)), (0, .ref (gZ G + 513))]) [0, 1] rfl ?_
  refine v_S (s1_of (k := 529) (f := blk (S 527) (S 529) (326 * p) 0) (blk_0 _ _ _).symm) ?_
  refine lp_rem hN hpE hpL 326 0 (by omega) ?_
  refine v_aload_n (pc := 36) 0 dX3_remember_36 rfl rfl ?_
  refine v_aload_n (pc := 37) 0 dX3_remember_37 rfl rfl ?_
  refine gX3_205 (pc := 38) hN dX3_remember_38 ?_
  refine v_topi (v := nI p) ((congrFun (s1_ne (by omega)) _).trans hpE) ?_
  refine v_iconst (pc := 41) (nI 1) dX3_remember_41 (by decide) ?_
  refine v_iaddN (pc := 42) dX3_remember_42 ?_
  refine v_bipush (pc := 43) (nI 12) dX3_remember_43 (by decide) ?_
  refine v_iremN (pc := 45) (by omega) (by omega) (by omega) dX3_remember_45 ?_
  refine pX3_205 (pc := 46) hN dX3_remember_46 ?_
  refine v_aload_n (pc := 49) 0 dX3_remember_49 rfl rfl ?_
  refine v_dup (pc := 50) dX3_remember_50 rfl ?_
  refine gX3_152 (pc := 51) hN dX3_remember_51 ?_
  refine v_topi (v := nI q) ((s2_nj (by omega)).trans ((congrFun (s1_ne (by omega)) _).trans hqE)) ?_
  refine v_aload_n (pc := 54) 0 dX3_remember_54 rfl rfl ?_
  refine gX3_152 (pc := 55) hN dX3_remember_55 ?_
  refine v_topi (v := nI q) ((s2_nj (by omega)).trans ((congrFun (s1_ne (by omega)) _).trans hqE)) ?_
  refine v_bipush (pc := 58) (nI 12) dX3_remember_58 (by decide) ?_
  refine v_ic_geN (pc := 60) 67 (by omega) (by omega) dX3_remember_60 (by decide) (fun c1 => ?_) (fun c1 => ?_)
  · skip
    refine v_iconst (pc := 67) (nI 0) dX3_remember_67 (by decide) ?_
    refine v_iaddN (pc := 68) dX3_remember_68 ?_
    refine pX3_152 (pc := 69) hN dX3_remember_69 ?_
    exact v_vret (pc := 72) hr (Nat.le_refl _) (Nat.le_refl _) dX3_remember_72 (pV_mk (hC_c (by unfold mRem; rw [hpn, hqE, if_neg (fun z => absurd ((nI_ltI (by omega) (by decide)).mp z) (by omega)), nI_add])))
  · skip
    refine v_iconst (pc := 63) (nI 1) dX3_remember_63 (by decide) ?_
    refine v_goto (pc := 64) 68 dX3_remember_64 (by decide) ?_
    refine v_iaddN (pc := 68) dX3_remember_68 ?_
    refine pX3_152 (pc := 69) hN dX3_remember_69 ?_
    exact v_vret (pc := 72) hr (Nat.le_refl _) (Nat.le_refl _) dX3_remember_72 (pV_mk (hC_c (by unfold mRem; rw [hpn, hqE, if_pos ((nI_ltI (by omega) (by decide)).mpr (by omega)), nI_add])))

set_option maxHeartbeats 4000000 in
theorem lp_tks {G : GT} {x : VX} {N u : Nat} (hN : 535 ≤ N) (hu12 : u ≤ 12) (hR : xR x = RM 6 0 0) (hr : (xM x).sig.returnType = some .int) : ∀ (m k : Nat) (S : ST), k + m = u → MU S → V G x "ScopeTasksModel" cX3_ticks 3 (QQ G x (pI N (fun r h' => r = mTicksL m S 527 144 ∧ h' = hC G (mTicksL m S))) 0 0) 48 [(2, .int (nI k)), (0, .ref (gZ G + 513)), (1, .int (nI u))] [] N (hC G S) 0 0 := by
  intro m
  induction m with
  | zero =>
    intro k S hkm hU
    refine v_iload_n (pc := 48) 0 dX3_ticks_48 rfl rfl ?_
    refine v_iload_n (pc := 49) 2 dX3_ticks_49 rfl rfl ?_
    refine v_ic_geN (pc := 50) 83 (by omega) (by omega) dX3_ticks_50 (by decide) (fun c1 => ?_) (fun c1 => ?_)
    · skip
      refine v_aload_n (pc := 83) 1 dX3_ticks_83 rfl rfl ?_
      refine gX3_49 (pc := 84) hN dX3_ticks_84 ?_
      refine v_sipush (pc := 87) (nI 144) dX3_ticks_87 (by decide) ?_
      refine c_iald (pc := 90) (k := 527) (j := 144) IA_527 (by omega) rfl (by omega) (by decide) dX3_ticks_90 ?_
      exact v_iret (pc := 91) hr rfl (Nat.le_refl _) (Nat.le_refl _) dX3_ticks_91 (pI_mk rfl (hC_c rfl))
    · skip
      exact absurd c1 (by omega)
  | succ m ih =>
    intro k S hkm hU
    refine v_iload_n (pc := 48) 0 dX3_ticks_48 rfl rfl ?_
    refine v_iload_n (pc := 49) 2 dX3_ticks_49 rfl rfl ?_
    refine v_ic_geN (pc := 50) 83 (by omega) (by omega) dX3_ticks_50 (by decide) (fun c1 => ?_) (fun c1 => ?_)
    · skip
      exact absurd c1 (by omega)
    · skip
      refine v_aload_n (pc := 53) 1 dX3_ticks_53 rfl rfl ?_
      refine gX3_49 (pc := 54) hN dX3_ticks_54 ?_
      refine v_iconst (pc := 57) (nI 0) dX3_ticks_57 (by decide) ?_
      refine v_iconst (pc := 58) (nI 3) dX3_ticks_58 (by decide) ?_
      refine v_S (s1_of (k := 527) (f := S 527) rfl) ?_
      refine c_callSi (pc := 59) (st := []) (ct_X3_isHow (S := S) (a := 527) (t := 0) (w := nI 3) (g := S 527) (Or.inl rfl) (by omega) (by omega)) kVX3_165 kDX3_165 (rm_ok hR (Nat.le_of_ble_eq_true rfl) (Nat.le_of_ble_eq_true rfl)) ⟨Nat.zero_le _, Nat.zero_le _⟩ rfl rfl (Nat.le_of_ble_eq_true rfl) dX3_ticks_59 ?_
      refine v_S (s1_of (k := 527) (f := S 527) rfl).symm ?_
      refine v_if_neB (pc := 62) 83 dX3_ticks_62 (by decide) (fun c2 => ?_) (fun c2 => ?_)
      · skip
        refine v_aload_n (pc := 83) 1 dX3_ticks_83 rfl rfl ?_
        refine gX3_49 (pc := 84) hN dX3_ticks_84 ?_
        refine v_sipush (pc := 87) (nI 144) dX3_ticks_87 (by decide) ?_
        refine c_iald (pc := 90) (k := 527) (j := 144) IA_527 (by omega) rfl (by omega) (by decide) dX3_ticks_90 ?_
        exact v_iret (pc := 91) hr rfl (Nat.le_refl _) (Nat.le_refl _) dX3_ticks_91 (pI_mk (by rw [mTicksL, if_pos c2]) (hC_c (by rw [mTicksL, if_pos c2])))
      · skip
        refine v_aload_n (pc := 65) 1 dX3_ticks_65 rfl rfl ?_
        refine c_callVv (pc := 66) (st := []) (ci := 3) (ct_X3_remember (S := S)  hU.2.2.1 hU.2.2.2 (by omega)) kVX3_208 kDX3_208 (rm_ok hR (Nat.le_of_ble_eq_true rfl) (Nat.le_of_ble_eq_true rfl)) ⟨Nat.zero_le _, Nat.zero_le _⟩ (by omega) (rfl) rfl rfl rfl rfl (Nat.le_of_ble_eq_true rfl) dX3_ticks_66 ?_
        refine v_aload_n (pc := 69) 1 dX3_ticks_69 rfl rfl ?_
        refine v_aload_n (pc := 70) 1 dX3_ticks_70 rfl rfl ?_
        refine gX3_49 (pc := 71) hN dX3_ticks_71 ?_
        refine v_S (s1_of (k := 527) (f := S 527) (mRem_ne (by decide) (by decide))) ?_
        refine c_callVv (pc := 74) (st := []) (ci := 3) (ct_X3_tick (S := mRem S) (a := 527) (g := S 527) (Or.inl rfl) (MI_rem hU.1) (RJ_rem hU.2.1) (by omega)) kVX3_211 kDX3_211 (rm_ok hR (Nat.le_of_ble_eq_true rfl) (Nat.le_of_ble_eq_true rfl)) ⟨Nat.zero_le _, Nat.zero_le _⟩ (by omega) (rfl) rfl rfl rfl rfl (Nat.le_of_ble_eq_true rfl) dX3_ticks_74 ?_
        refine v_iincN (pc := 77) (k := 0) (lv' := [(2, .int (nI (k + 1))), (0, .ref (gZ G + 513)), (1, .int (nI u))]) dX3_ticks_77 rfl (by decide) rfl ?_
        refine v_goto (pc := 80) 48 dX3_ticks_80 (by decide) ?_
        refine v_sub (lv' := [(2, .int (nI (k + 1))), (0, .ref (gZ G + 513)), (1, .int (nI u))]) [0, 1, 2] rfl ?_
        rw [show mTicksL (m + 1) S = mTicksL m (s1 (mRem S) 527 (rTick (mRem S) (S 527))) from by rw [mTicksL, if_neg c2]]
        exact ih (k + 1) _ (by omega) (MU_step hU)

set_option maxHeartbeats 4000000 in
theorem ct_X3_ticks {G : GT} {l : Launch} {N : Nat} {S : ST} {n : Int32} (hU : MU S) (hN : 535 ≤ N) : CTi G l yX3_ticks cX3_ticks 3 (some .int) 6 [.ref (gZ G + 513), .int (n)] N (S) (mTicksV S n) (mTicksS S n) := by
  refine CT.mk "ScopeTasksModel" [(0, .ref (gZ G + 513)), (1, .int (n))] rfl (by decide) rfl (Nat.le_of_ble_eq_true rfl) ?_
  intro x hR hl hr hnm
  refine v_iload_n (pc := 0) 1 dX3_ticks_0 rfl rfl ?_
  refine v_iconst (pc := 1) (nI 1) dX3_ticks_1 (by decide) ?_
  refine v_bipush (pc := 2) (nI 12) dX3_ticks_2 (by decide) ?_
  refine c_callSi (pc := 4) (st := []) (ct_X3_in (S := S) (v := n) (lo := nI 1) (hi := nI 12) ) kVX3_80 kDX3_80 (rm_ok hR (Nat.le_of_ble_eq_true rfl) (Nat.le_of_ble_eq_true rfl)) ⟨Nat.zero_le _, Nat.zero_le _⟩ rfl rfl (Nat.le_of_ble_eq_true rfl) dX3_ticks_4 ?_
  refine v_if_neB (pc := 7) 12 dX3_ticks_7 (by decide) (fun c1 => ?_) (fun c1 => ?_)
  · skip
    obtain ⟨u, hu1, huH, rfl⟩ := in_nat1 (n := 12) (by decide) c1
    have hun : nn (nI u) = u := nn_nI (by omega)
    refine v_aload_n (pc := 12) 0 dX3_ticks_12 rfl rfl ?_
    refine gX3_49 (pc := 13) hN dX3_ticks_13 ?_
    refine v_iconst (pc := 16) (nI 0) dX3_ticks_16 (by decide) ?_
    refine v_iconst (pc := 17) (nI 3) dX3_ticks_17 (by decide) ?_
    refine v_S (s1_of (k := 527) (f := S 527) rfl) ?_
    refine c_callSi (pc := 18) (st := []) (ct_X3_isHow (S := S) (a := 527) (t := 0) (w := nI 3) (g := S 527) (Or.inl rfl) (by omega) (by omega)) kVX3_165 kDX3_165 (rm_ok hR (Nat.le_of_ble_eq_true rfl) (Nat.le_of_ble_eq_true rfl)) ⟨Nat.zero_le _, Nat.zero_le _⟩ rfl rfl (Nat.le_of_ble_eq_true rfl) dX3_ticks_18 ?_
    refine v_S (s1_of (k := 527) (f := S 527) rfl).symm ?_
    refine v_if_eqB (pc := 21) 27 dX3_ticks_21 (by decide) (fun c2 => ?_) (fun c2 => ?_)
    · skip
      refine v_aload_n (pc := 27) 0 dX3_ticks_27 rfl rfl ?_
      refine gX3_49 (pc := 28) hN dX3_ticks_28 ?_
      refine v_sipush (pc := 31) (nI 144) dX3_ticks_31 (by decide) ?_
      refine c_iald (pc := 34) (k := 527) (j := 144) IA_527 (by omega) rfl (by omega) (by decide) dX3_ticks_34 ?_
      refine v_iload_n (pc := 35) 1 dX3_ticks_35 rfl rfl ?_
      refine v_iadd (pc := 36) dX3_ticks_36 ?_
      refine v_sipush (pc := 37) (nI 999) dX3_ticks_37 (by decide) ?_
      refine v_ic_le (pc := 40) 46 dX3_ticks_40 (by decide) (fun c3 => ?_) (fun c3 => ?_)
      · skip
        refine v_iconst (pc := 46) (nI 0) dX3_ticks_46 (by decide) ?_
        refine v_istore_n (pc := 47) (lv' := [(2, .int (nI 0)), (0, .ref (gZ G + 513)), (1, .int (nI u))]) dX3_ticks_47 rfl (by decide) rfl ?_
        refine v_sub (lv' := [(2, .int (nI 0)), (0, .ref (gZ G + 513)), (1, .int (nI u))]) [0, 1, 2] rfl ?_
        have e1 : mTicksV S (nI u) = mTicksL u S 527 144 := by unfold mTicksV; rw [if_pos c1, if_neg c2, if_pos c3, hun]
        have e2 : mTicksS S (nI u) = mTicksL u S := by unfold mTicksS; rw [if_pos c1, if_neg c2, if_pos c3, hun]
        rw [e1, e2]
        exact lp_tks hN huH hR hr u 0 S (by omega) hU
      · skip
        refine v_bipush (pc := 43) ((-3)) dX3_ticks_43 (by decide) ?_
        exact v_iret (pc := 45) hr rfl (Nat.le_refl _) (Nat.le_refl _) dX3_ticks_45 (pI_mk (by unfold mTicksV; rw [if_pos c1, if_neg c2, if_neg c3]) (hC_c (by unfold mTicksS; rw [if_pos c1, if_neg c2, if_neg c3])))
    · skip
      refine v_bipush (pc := 24) ((-2)) dX3_ticks_24 (by decide) ?_
      exact v_iret (pc := 26) hr rfl (Nat.le_refl _) (Nat.le_refl _) dX3_ticks_26 (pI_mk (by unfold mTicksV; rw [if_pos c1, if_pos c2]) (hC_c (by unfold mTicksS; rw [if_pos c1, if_pos c2])))
  · skip
    refine v_iconst (pc := 10) ((-1)) dX3_ticks_10 (by decide) ?_
    exact v_iret (pc := 11) hr rfl (Nat.le_refl _) (Nat.le_refl _) dX3_ticks_11 (pI_mk (by unfold mTicksV; rw [if_neg c1]) (hC_c (by unfold mTicksS; rw [if_neg c1])))

set_option maxHeartbeats 4000000 in
theorem ct_X3_asks {G : GT} {l : Launch} {N : Nat} {S : ST} {t : Int32} (hU : MU S) (hN : 535 ≤ N) : CTi G l yX3_asks cX3_asks 2 (some .int) 2 [.ref (gZ G + 513), .int (t)] N (S) (mAsksV S t) (mAsksS S t) := by
  have hS := hU.1
  have hn8 := hS.n
  have hn1 := hS.2.1
  refine CT.mk "ScopeTasksModel" [(0, .ref (gZ G + 513)), (1, .int (t))] rfl (by decide) rfl (Nat.le_of_ble_eq_true rfl) ?_
  intro x hR hl hr hnm
  refine v_aload_n (pc := 0) 0 dX3_asks_0 rfl rfl ?_
  refine v_iload_n (pc := 1) 1 dX3_asks_1 rfl rfl ?_
  refine c_callVi (pc := 2) (st := []) (ci := 3) (ct_X3_isTask (S := S) (t := t) hS (by omega)) kVX3_214 kDX3_214 (rm_ok hR (Nat.le_of_ble_eq_true rfl) (Nat.le_of_ble_eq_true rfl)) ⟨Nat.zero_le _, Nat.zero_le _⟩ (by omega) (rfl) rfl rfl rfl rfl (Nat.le_of_ble_eq_true rfl) dX3_asks_2 ?_
  refine v_if_neB (pc := 5) 10 dX3_asks_5 (by decide) (fun c1 => ?_) (fun c1 => ?_)
  · skip
    obtain ⟨j, hjL, rfl⟩ := in_nat (n := mN S - 1) (by omega) c1
    have hj8 : j < 8 := by omega
    have hjn : nn (nI j) = j := nn_nI (by omega)
    refine v_aload_n (pc := 10) 0 dX3_asks_10 rfl rfl ?_
    refine gX3_49 (pc := 11) hN dX3_asks_11 ?_
    refine v_iload_n (pc := 14) 1 dX3_asks_14 rfl rfl ?_
    refine v_iconst (pc := 15) (nI 1) dX3_asks_15 (by decide) ?_
    refine v_S (s1_of (k := 527) (f := S 527) rfl) ?_
    refine c_callSi (pc := 16) (st := []) (ct_X3_isHow (S := S) (a := 527) (t := j) (w := nI 1) (g := S 527) (Or.inl rfl) (by omega) (by omega)) kVX3_165 kDX3_165 (rm_ok hR (Nat.le_of_ble_eq_true rfl) (Nat.le_of_ble_eq_true rfl)) ⟨Nat.zero_le _, Nat.zero_le _⟩ rfl rfl (Nat.le_of_ble_eq_true rfl) dX3_asks_16 ?_
    refine v_S (s1_of (k := 527) (f := S 527) rfl).symm ?_
    refine v_if_eqB (pc := 19) 35 dX3_asks_19 (by decide) (fun c2 => ?_) (fun c2 => ?_)
    · skip
      refine v_bipush (pc := 35) ((-2)) dX3_asks_35 (by decide) ?_
      exact v_iret (pc := 37) hr rfl (Nat.le_refl _) (Nat.le_refl _) dX3_asks_37 (pI_mk (by unfold mAsksV; rw [if_pos c1, if_neg (fun z => c2 (by have := z.1; rwa [hjn] at this))]) (hC_c (by unfold mAsksS; rw [if_pos c1, if_neg (fun z => c2 (by have := z.1; rwa [hjn] at this))])))
    · skip
      refine v_aload_n (pc := 22) 0 dX3_asks_22 rfl rfl ?_
      refine gX3_49 (pc := 23) hN dX3_asks_23 ?_
      refine v_iload_n (pc := 26) 1 dX3_asks_26 rfl rfl ?_
      refine v_iconst (pc := 27) (nI 5) dX3_asks_27 (by decide) ?_
      refine v_S (s1_of (k := 527) (f := S 527) rfl) ?_
      refine c_callSi (pc := 28) (st := []) (ct_X3_at (S := S) (a := 527) (t := j) (w := 5) (g := S 527) (Or.inl rfl) (by omega) (by omega)) kVX3_161 kDX3_161 (rm_ok hR (Nat.le_of_ble_eq_true rfl) (Nat.le_of_ble_eq_true rfl)) ⟨Nat.zero_le _, Nat.zero_le _⟩ rfl rfl (Nat.le_of_ble_eq_true rfl) dX3_asks_28 ?_
      refine v_S (s1_of (k := 527) (f := S 527) rfl).symm ?_
      refine v_iconst (pc := 31) (nI 1) dX3_asks_31 (by decide) ?_
      refine v_ic_ne (pc := 32) 38 dX3_asks_32 (by decide) (fun c3 => ?_) (fun c3 => ?_)
      · skip
        refine v_aload_n (pc := 38) 0 dX3_asks_38 rfl rfl ?_
        refine c_callVv (pc := 39) (st := []) (ci := 3) (ct_X3_remember (S := S)  hU.2.2.1 hU.2.2.2 (by omega)) kVX3_208 kDX3_208 (rm_ok hR (Nat.le_of_ble_eq_true rfl) (Nat.le_of_ble_eq_true rfl)) ⟨Nat.zero_le _, Nat.zero_le _⟩ (by omega) (rfl) rfl rfl rfl rfl (Nat.le_of_ble_eq_true rfl) dX3_asks_39 ?_
        refine v_S (s1_of (k := 527) (f := S 527) (mRem_ne (by decide) (by decide))) ?_
        refine v_aload_n (pc := 42) 0 dX3_asks_42 rfl rfl ?_
        refine gX3_49 (pc := 43) hN dX3_asks_43 ?_
        refine v_bipush (pc := 46) (nI 18) dX3_asks_46 (by decide) ?_
        refine v_iload_n (pc := 48) 1 dX3_asks_48 rfl rfl ?_
        refine v_imulN (pc := 49) dX3_asks_49 ?_
        refine v_iconst (pc := 50) (nI 5) dX3_asks_50 (by decide) ?_
        refine v_iaddN (pc := 51) dX3_asks_51 ?_
        refine v_iconst (pc := 52) (nI 1) dX3_asks_52 (by decide) ?_
        refine c_iast (pc := 53) (k := 527) (j := 18 * j + 5) IA_527 (by omega) rfl (by omega) (by decide) dX3_asks_53 ?_
        refine v_S (s2_s1 _ _ _ _ _) ?_
        refine v_aload_n (pc := 54) 0 dX3_asks_54 rfl rfl ?_
        refine gX3_49 (pc := 55) hN dX3_asks_55 ?_
        refine v_iload_n (pc := 58) 1 dX3_asks_58 rfl rfl ?_
        refine v_iconst (pc := 59) (nI 2) dX3_asks_59 (by decide) ?_
        refine c_callSi (pc := 60) (st := []) (ct_X3_at (S := mRem S) (a := 527) (t := j) (w := 2) (g := upd (S 527) (18 * j + 5) (nI 1)) (Or.inl rfl) (by omega) (by omega)) kVX3_161 kDX3_161 (rm_ok hR (Nat.le_of_ble_eq_true rfl) (Nat.le_of_ble_eq_true rfl)) ⟨Nat.zero_le _, Nat.zero_le _⟩ rfl rfl (Nat.le_of_ble_eq_true rfl) dX3_asks_60 ?_
        refine v_topi (v := (S 527) (18 * j + 2)) (pk_un (by omega)) ?_
        exact v_iret (pc := 63) hr rfl (Nat.le_refl _) (Nat.le_refl _) dX3_asks_63 (pI_mk (by unfold mAsksV; rw [if_pos c1, if_pos (show mAskOk S (nI j) from by unfold mAskOk; rw [hjn]; exact ⟨c2, c3⟩), hjn]) (hC_c (by unfold mAsksS; rw [if_pos c1, if_pos (show mAskOk S (nI j) from by unfold mAskOk; rw [hjn]; exact ⟨c2, c3⟩), hjn])))
      · skip
        refine v_bipush (pc := 35) ((-2)) dX3_asks_35 (by decide) ?_
        exact v_iret (pc := 37) hr rfl (Nat.le_refl _) (Nat.le_refl _) dX3_asks_37 (pI_mk (by unfold mAsksV; rw [if_pos c1, if_neg (fun z => z.2 (by rw [hjn]; exact c3))]) (hC_c (by unfold mAsksS; rw [if_pos c1, if_neg (fun z => z.2 (by rw [hjn]; exact c3))])))
  · skip
    refine v_iconst (pc := 8) ((-1)) dX3_asks_8 (by decide) ?_
    exact v_iret (pc := 9) hr rfl (Nat.le_refl _) (Nat.le_refl _) dX3_asks_9 (pI_mk (by unfold mAsksV; rw [if_neg c1]) (hC_c (by unfold mAsksS; rw [if_neg c1])))

set_option maxHeartbeats 4000000 in
theorem lp_und {G : GT} {x : VX} {N : Nat} {Q : State → Prop} {S : ST} {u : Nat} (hN : 535 ≤ N) (huE : S 513 26 = nI u) (huL : u ≤ 11) : ∀ (m k : Nat), k + m = 326 → V G x "ScopeTasksModel" cX3_undo 2 Q 72 [(0, .ref (gZ G + 513))] [] N (hC G (s1 S 527 (fun k => S 529 (326 * u + k)))) 0 0 → V G x "ScopeTasksModel" cX3_undo 2 Q 38 [(1, .int (nI k)), (0, .ref (gZ G + 513))] [] N (hC G (s1 S 527 (blk (fun k => S 529 (326 * u + k)) (S 527) 0 k))) 0 0 := by
  intro m
  induction m with
  | zero =>
    intro k hkm hk
    refine v_iload_n (pc := 38) 0 dX3_undo_38 rfl rfl ?_
    refine v_sipush (pc := 39) (nI 326) dX3_undo_39 (by decide) ?_
    refine v_ic_geN (pc := 42) 72 (by omega) (by omega) dX3_undo_42 (by decide) (fun c1 => ?_) (fun c1 => ?_)
    · skip
      refine v_sub (lv' := [(0, .ref (gZ G + 513))]) [1] rfl ?_
      obtain rfl : k = 326 := by omega
      refine v_row (g := fun k => S 529 (326 * u + k)) IA_527 (fun j hj => blk0_in hj) ?_
      exact hk
    · skip
      exact absurd c1 (by omega)
  | succ m ih =>
    intro k hkm hk
    refine v_iload_n (pc := 38) 0 dX3_undo_38 rfl rfl ?_
    refine v_sipush (pc := 39) (nI 326) dX3_undo_39 (by decide) ?_
    refine v_ic_geN (pc := 42) 72 (by omega) (by omega) dX3_undo_42 (by decide) (fun c1 => ?_) (fun c1 => ?_)
    · skip
      exact absurd c1 (by omega)
    · skip
      refine v_aload_n (pc := 45) 1 dX3_undo_45 rfl rfl ?_
      refine gX3_49 (pc := 46) hN dX3_undo_46 ?_
      refine v_iload_n (pc := 49) 0 dX3_undo_49 rfl rfl ?_
      refine v_aload_n (pc := 50) 1 dX3_undo_50 rfl rfl ?_
      refine gX3_55 (pc := 51) hN dX3_undo_51 ?_
      refine v_sipush (pc := 54) (nI 326) dX3_undo_54 (by decide) ?_
      refine v_aload_n (pc := 57) 1 dX3_undo_57 rfl rfl ?_
      refine gX3_205 (pc := 58) hN dX3_undo_58 ?_
      refine v_topi (v := nI u) ((congrFun (s1_ne (by omega)) _).trans huE) ?_
      refine v_imulN (pc := 61) dX3_undo_61 ?_
      refine v_iload_n (pc := 62) 0 dX3_undo_62 rfl rfl ?_
      refine v_iaddN (pc := 63) dX3_undo_63 ?_
      refine c_iald (pc := 64) (k := 529) (j := 326 * u + k) IA_529 (by omega) rfl (by omega) (by decide) dX3_undo_64 ?_
      refine v_topi (v := S 529 (326 * u + k)) (congrFun (s1_ne (by omega)) _) ?_
      refine c_iast (pc := 65) (k := 527) (j := k) IA_527 (by omega) rfl (by omega) (by decide) dX3_undo_65 ?_
      refine v_S (s2_s1 _ _ _ _ _) ?_
      refine v_iincN (pc := 66) (k := 0) (lv' := [(1, .int (nI (k + 1))), (0, .ref (gZ G + 513))]) dX3_undo_66 rfl (by decide) rfl ?_
      refine v_goto (pc := 69) 38 dX3_undo_69 (by decide) ?_
      refine v_S (congrArg (s1 S 527) (blk0_s (fun k => S 529 (326 * u + k)) _ _)) ?_
      refine v_sub (lv' := [(1, .int (nI (k + 1))), (0, .ref (gZ G + 513))]) [0, 1] rfl ?_
      exact ih (k + 1) (by omega) hk

set_option maxHeartbeats 4000000 in
theorem ct_X3_undo {G : GT} {l : Launch} {N : Nat} {S : ST}  (hu : inN (S 513 26) 11) (hm : inN (S 513 25) 12) (hN : 535 ≤ N) : CTi G l yX3_undo cX3_undo 2 (some .int) 0 [.ref (gZ G + 513)] N (S) (mUndoV S) (mUndoS S) := by
  obtain ⟨p, hpn⟩ : ∃ q, nn (S 513 26) = q := ⟨_, rfl⟩
  have hpE := (hu).1
  have hpL := (hu).2
  rw [hpn] at hpE hpL
  obtain ⟨q, hqn⟩ : ∃ q, nn (S 513 25) = q := ⟨_, rfl⟩
  have hqE := (hm).1
  have hqL := (hm).2
  rw [hqn] at hqE hqL
  refine CT.mk "ScopeTasksModel" [(0, .ref (gZ G + 513))] rfl (by decide) rfl (Nat.le_of_ble_eq_true rfl) ?_
  intro x hR hl hr hnm
  refine v_aload_n (pc := 0) 0 dX3_undo_0 rfl rfl ?_
  refine gX3_152 (pc := 1) hN dX3_undo_1 ?_
  refine v_topi (v := nI q) hqE ?_
  refine v_if_neN (pc := 4) 10 (by omega) dX3_undo_4 (by decide) (fun c1 => ?_) (fun c1 => ?_)
  · skip
    refine v_aload_n (pc := 10) 0 dX3_undo_10 rfl rfl ?_
    refine v_aload_n (pc := 11) 0 dX3_undo_11 rfl rfl ?_
    refine gX3_205 (pc := 12) hN dX3_undo_12 ?_
    refine v_topi (v := nI p) hpE ?_
    refine v_bipush (pc := 15) (nI 12) dX3_undo_15 (by decide) ?_
    refine v_iaddN (pc := 17) dX3_undo_17 ?_
    refine v_iconst (pc := 18) (nI 1) dX3_undo_18 (by decide) ?_
    refine v_isubN (pc := 19) (by omega) dX3_undo_19 ?_
    refine v_bipush (pc := 20) (nI 12) dX3_undo_20 (by decide) ?_
    refine v_iremN (pc := 22) (by omega) (by omega) (by omega) dX3_undo_22 ?_
    refine pX3_205 (pc := 23) hN dX3_undo_23 ?_
    refine v_aload_n (pc := 26) 0 dX3_undo_26 rfl rfl ?_
    refine v_dup (pc := 27) dX3_undo_27 rfl ?_
    refine gX3_152 (pc := 28) hN dX3_undo_28 ?_
    refine v_topi (v := nI q) ((s2_nj (by omega)).trans hqE) ?_
    refine v_iconst (pc := 31) (nI 1) dX3_undo_31 (by decide) ?_
    refine v_isubN (pc := 32) (by omega) dX3_undo_32 ?_
    refine pX3_152 (pc := 33) hN dX3_undo_33 ?_
    refine v_iconst (pc := 36) (nI 0) dX3_undo_36 (by decide) ?_
    refine v_istore_n (pc := 37) (lv' := [(1, .int (nI 0)), (0, .ref (gZ G + 513))]) dX3_undo_37 rfl (by decide) rfl ?_
    refine v_sub (lv' := [(1, .int (nI 0)), (0, .ref (gZ G + 513))]) [0, 1] rfl ?_
    have hue : (p + 12 - 1) % 12 = mUndoAt S := by unfold mUndoAt; rw [hpn]
    have hu12 : mUndoAt S ≤ 11 := by unfold mUndoAt; omega
    rw [hue]
    obtain ⟨S0, hS0⟩ : ∃ S0, S0 = s2 (s2 S 513 26 (nI (mUndoAt S))) 513 25 (nI (q - 1)) := ⟨_, rfl⟩
    have h26 : S0 513 26 = nI (mUndoAt S) := by rw [hS0, s2_nj (by decide), s2_at]
    have h25 : S0 513 25 = nI (q - 1) := by rw [hS0, s2_at]
    have h29 : S0 529 = S 529 := by rw [hS0, s2_nk (by decide), s2_nk (by decide)]
    rw [← hS0]
    refine v_S (s1_of (k := 527) (f := blk (fun k => S0 529 (326 * mUndoAt S + k)) (S0 527) 0 0) (blk_0 _ _ _).symm) ?_
    refine lp_und hN h26 hu12 326 0 (by omega) ?_
    refine v_aload_n (pc := 72) 0 dX3_undo_72 rfl rfl ?_
    refine gX3_152 (pc := 73) hN dX3_undo_73 ?_
    refine v_topi (v := nI (q - 1)) ((congrFun (s1_ne (by omega)) _).trans h25) ?_
    exact v_iret (pc := 76) hr rfl (Nat.le_refl _) (Nat.le_refl _) dX3_undo_76 (pI_mk (by unfold mUndoV; rw [if_neg (show ¬ S 513 25 = 0 from by rw [hqE]; exact nI_ne0 (by omega) (by omega)), hqn]) (hC_c (by unfold mUndoS; rw [if_neg (show ¬ S 513 25 = 0 from by rw [hqE]; exact nI_ne0 (by omega) (by omega)), hqn, h29, ← hS0])))
  · skip
    refine v_bipush (pc := 7) ((-2)) dX3_undo_7 (by decide) ?_
    exact v_iret (pc := 9) hr rfl (Nat.le_refl _) (Nat.le_refl _) dX3_undo_9 (pI_mk (by unfold mUndoV; rw [if_pos (show S 513 25 = 0 from by rw [hqE, c1]; rfl)]) (hC_c (by unfold mUndoS; rw [if_pos (show S 513 25 = 0 from by rw [hqE, c1]; rfl)])))

set_option maxHeartbeats 4000000 in
theorem lp_keep {G : GT} {x : VX} {N : Nat} {Q : State → Prop} {S : ST} {i : Nat} (hN : 535 ≤ N) (hi : i ≤ 1) : ∀ (m k : Nat), k + m = 326 → V G x "ScopeTasksModel" cX3_keep 3 Q 51 [(0, .ref (gZ G + 513)), (1, .int (nI i))] [] N (hC G (s1 S 534 (blk (S 527) (S 534) (326 * i) 326))) 0 0 → V G x "ScopeTasksModel" cX3_keep 3 Q 20 [(2, .int (nI k)), (0, .ref (gZ G + 513)), (1, .int (nI i))] [] N (hC G (s1 S 534 (blk (S 527) (S 534) (326 * i) k))) 0 0 := by
  intro m
  induction m with
  | zero =>
    intro k hkm hk
    refine v_iload_n (pc := 20) 0 dX3_keep_20 rfl rfl ?_
    refine v_sipush (pc := 21) (nI 326) dX3_keep_21 (by decide) ?_
    refine v_ic_geN (pc := 24) 51 (by omega) (by omega) dX3_keep_24 (by decide) (fun c1 => ?_) (fun c1 => ?_)
    · skip
      refine v_sub (lv' := [(0, .ref (gZ G + 513)), (1, .int (nI i))]) [1, 2] rfl ?_
      obtain rfl : k = 326 := by omega
      exact hk
    · skip
      exact absurd c1 (by omega)
  | succ m ih =>
    intro k hkm hk
    refine v_iload_n (pc := 20) 0 dX3_keep_20 rfl rfl ?_
    refine v_sipush (pc := 21) (nI 326) dX3_keep_21 (by decide) ?_
    refine v_ic_geN (pc := 24) 51 (by omega) (by omega) dX3_keep_24 (by decide) (fun c1 => ?_) (fun c1 => ?_)
    · skip
      exact absurd c1 (by omega)
    · skip
      refine v_aload_n (pc := 27) 1 dX3_keep_27 rfl rfl ?_
      refine gX3_71 (pc := 28) hN dX3_keep_28 ?_
      refine v_sipush (pc := 31) (nI 326) dX3_keep_31 (by decide) ?_
      refine v_iload_n (pc := 34) 2 dX3_keep_34 rfl rfl ?_
      refine v_imulN (pc := 35) dX3_keep_35 ?_
      refine v_iload_n (pc := 36) 0 dX3_keep_36 rfl rfl ?_
      refine v_iaddN (pc := 37) dX3_keep_37 ?_
      refine v_aload_n (pc := 38) 1 dX3_keep_38 rfl rfl ?_
      refine gX3_49 (pc := 39) hN dX3_keep_39 ?_
      refine v_iload_n (pc := 42) 0 dX3_keep_42 rfl rfl ?_
      refine c_iald (pc := 43) (k := 527) (j := k) IA_527 (by omega) rfl (by omega) (by decide) dX3_keep_43 ?_
      refine v_topi (v := S 527 k) (congrFun (s1_ne (by omega)) _) ?_
      refine c_iast (pc := 44) (k := 534) (j := 326 * i + k) IA_534 (by omega) rfl (by omega) (by decide) dX3_keep_44 ?_
      refine v_S (s2_s1 _ _ _ _ _) ?_
      refine v_iincN (pc := 45) (k := 0) (lv' := [(2, .int (nI (k + 1))), (0, .ref (gZ G + 513)), (1, .int (nI i))]) dX3_keep_45 rfl (by decide) rfl ?_
      refine v_goto (pc := 48) 20 dX3_keep_48 (by decide) ?_
      refine v_S (congrArg (s1 S 534) (blk_s _ _ _ _)) ?_
      refine v_sub (lv' := [(2, .int (nI (k + 1))), (0, .ref (gZ G + 513)), (1, .int (nI i))]) [0, 1, 2] rfl ?_
      exact ih (k + 1) (by omega) hk

set_option maxHeartbeats 4000000 in
theorem ct_X3_keep {G : GT} {l : Launch} {N : Nat} {S : ST} {w : Int32} (hN : 535 ≤ N) : CTi G l yX3_keep cX3_keep 3 (some .int) 1 [.ref (gZ G + 513), .int (w)] N (S) (mKeepV S w) (mKeepS S w) := by
  refine CT.mk "ScopeTasksModel" [(0, .ref (gZ G + 513)), (1, .int (w))] rfl (by decide) rfl (Nat.le_of_ble_eq_true rfl) ?_
  intro x hR hl hr hnm
  refine v_iload_n (pc := 0) 1 dX3_keep_0 rfl rfl ?_
  refine v_iconst (pc := 1) (nI 0) dX3_keep_1 (by decide) ?_
  refine v_iconst (pc := 2) (nI 1) dX3_keep_2 (by decide) ?_
  refine c_callSi (pc := 3) (st := []) (ct_X3_in (S := S) (v := w) (lo := nI 0) (hi := nI 1) ) kVX3_80 kDX3_80 (rm_ok hR (Nat.le_of_ble_eq_true rfl) (Nat.le_of_ble_eq_true rfl)) ⟨Nat.zero_le _, Nat.zero_le _⟩ rfl rfl (Nat.le_of_ble_eq_true rfl) dX3_keep_3 ?_
  refine v_if_neB (pc := 6) 11 dX3_keep_6 (by decide) (fun c1 => ?_) (fun c1 => ?_)
  · skip
    obtain ⟨i, hiL, rfl⟩ := in_nat (n := 1) (by decide) c1
    have hin : nn (nI i) = i := nn_nI (by omega)
    refine v_aload_n (pc := 11) 0 dX3_keep_11 rfl rfl ?_
    refine gX3_67 (pc := 12) hN dX3_keep_12 ?_
    refine v_iload_n (pc := 15) 1 dX3_keep_15 rfl rfl ?_
    refine v_iconst (pc := 16) (nI 1) dX3_keep_16 (by decide) ?_
    refine c_zast (pc := 17) (k := 533) (j := i) ZA_533 (by omega) rfl (by omega) (by decide) (by decide) dX3_keep_17 ?_
    refine v_iconst (pc := 18) (nI 0) dX3_keep_18 (by decide) ?_
    refine v_istore_n (pc := 19) (lv' := [(2, .int (nI 0)), (0, .ref (gZ G + 513)), (1, .int (nI i))]) dX3_keep_19 rfl (by decide) rfl ?_
    refine v_sub (lv' := [(2, .int (nI 0)), (0, .ref (gZ G + 513)), (1, .int (nI i))]) [0, 1, 2] rfl ?_
    obtain ⟨S0, hS0⟩ : ∃ S0, S0 = s2 S 533 i (nI 1) := ⟨_, rfl⟩
    have h27 : S0 527 = S 527 := by rw [hS0, s2_nk (by decide)]
    have h34 : S0 534 = S 534 := by rw [hS0, s2_nk (by decide)]
    rw [← hS0]
    refine v_S (s1_of (k := 534) (f := blk (S0 527) (S0 534) (326 * i) 0) (blk_0 _ _ _).symm) ?_
    refine lp_keep hN hiL 326 0 (by omega) ?_
    refine v_aload_n (pc := 51) 0 dX3_keep_51 rfl rfl ?_
    refine gX3_49 (pc := 52) hN dX3_keep_52 ?_
    refine v_sipush (pc := 55) (nI 144) dX3_keep_55 (by decide) ?_
    refine c_iald (pc := 58) (k := 527) (j := 144) IA_527 (by omega) rfl (by omega) (by decide) dX3_keep_58 ?_
    refine v_topi (v := S0 527 144) (congrFun (s1_ne (by omega)) _) ?_
    exact v_iret (pc := 59) hr rfl (Nat.le_refl _) (Nat.le_refl _) dX3_keep_59 (pI_mk (by unfold mKeepV; rw [if_pos c1, h27]) (hC_c (by unfold mKeepS; rw [if_pos c1, hin, h27, h34, ← hS0])))
  · skip
    refine v_iconst (pc := 9) ((-1)) dX3_keep_9 (by decide) ?_
    exact v_iret (pc := 10) hr rfl (Nat.le_refl _) (Nat.le_refl _) dX3_keep_10 (pI_mk (by unfold mKeepV; rw [if_neg c1]) (hC_c (by unfold mKeepS; rw [if_neg c1])))

set_option maxHeartbeats 4000000 in
theorem lp_back {G : GT} {x : VX} {N : Nat} {Q : State → Prop} {S : ST} {i : Nat} (hN : 535 ≤ N) (hi : i ≤ 1) : ∀ (m k : Nat), k + m = 326 → V G x "ScopeTasksModel" cX3_back 3 Q 56 [(0, .ref (gZ G + 513)), (1, .int (nI i))] [] N (hC G (s1 S 527 (fun k => S 534 (326 * i + k)))) 0 0 → V G x "ScopeTasksModel" cX3_back 3 Q 25 [(2, .int (nI k)), (0, .ref (gZ G + 513)), (1, .int (nI i))] [] N (hC G (s1 S 527 (blk (fun k => S 534 (326 * i + k)) (S 527) 0 k))) 0 0 := by
  intro m
  induction m with
  | zero =>
    intro k hkm hk
    refine v_iload_n (pc := 25) 0 dX3_back_25 rfl rfl ?_
    refine v_sipush (pc := 26) (nI 326) dX3_back_26 (by decide) ?_
    refine v_ic_geN (pc := 29) 56 (by omega) (by omega) dX3_back_29 (by decide) (fun c1 => ?_) (fun c1 => ?_)
    · skip
      refine v_sub (lv' := [(0, .ref (gZ G + 513)), (1, .int (nI i))]) [1, 2] rfl ?_
      obtain rfl : k = 326 := by omega
      refine v_row (g := fun k => S 534 (326 * i + k)) IA_527 (fun j hj => blk0_in hj) ?_
      exact hk
    · skip
      exact absurd c1 (by omega)
  | succ m ih =>
    intro k hkm hk
    refine v_iload_n (pc := 25) 0 dX3_back_25 rfl rfl ?_
    refine v_sipush (pc := 26) (nI 326) dX3_back_26 (by decide) ?_
    refine v_ic_geN (pc := 29) 56 (by omega) (by omega) dX3_back_29 (by decide) (fun c1 => ?_) (fun c1 => ?_)
    · skip
      exact absurd c1 (by omega)
    · skip
      refine v_aload_n (pc := 32) 1 dX3_back_32 rfl rfl ?_
      refine gX3_49 (pc := 33) hN dX3_back_33 ?_
      refine v_iload_n (pc := 36) 0 dX3_back_36 rfl rfl ?_
      refine v_aload_n (pc := 37) 1 dX3_back_37 rfl rfl ?_
      refine gX3_71 (pc := 38) hN dX3_back_38 ?_
      refine v_sipush (pc := 41) (nI 326) dX3_back_41 (by decide) ?_
      refine v_iload_n (pc := 44) 2 dX3_back_44 rfl rfl ?_
      refine v_imulN (pc := 45) dX3_back_45 ?_
      refine v_iload_n (pc := 46) 0 dX3_back_46 rfl rfl ?_
      refine v_iaddN (pc := 47) dX3_back_47 ?_
      refine c_iald (pc := 48) (k := 534) (j := 326 * i + k) IA_534 (by omega) rfl (by omega) (by decide) dX3_back_48 ?_
      refine v_topi (v := S 534 (326 * i + k)) (congrFun (s1_ne (by omega)) _) ?_
      refine c_iast (pc := 49) (k := 527) (j := k) IA_527 (by omega) rfl (by omega) (by decide) dX3_back_49 ?_
      refine v_S (s2_s1 _ _ _ _ _) ?_
      refine v_iincN (pc := 50) (k := 0) (lv' := [(2, .int (nI (k + 1))), (0, .ref (gZ G + 513)), (1, .int (nI i))]) dX3_back_50 rfl (by decide) rfl ?_
      refine v_goto (pc := 53) 25 dX3_back_53 (by decide) ?_
      refine v_S (congrArg (s1 S 527) (blk0_s (fun k => S 534 (326 * i + k)) _ _)) ?_
      refine v_sub (lv' := [(2, .int (nI (k + 1))), (0, .ref (gZ G + 513)), (1, .int (nI i))]) [0, 1, 2] rfl ?_
      exact ih (k + 1) (by omega) hk

set_option maxHeartbeats 4000000 in
theorem ct_X3_back {G : GT} {l : Launch} {N : Nat} {S : ST} {w : Int32} (hN : 535 ≤ N) : CTi G l yX3_back cX3_back 3 (some .int) 1 [.ref (gZ G + 513), .int (w)] N (S) (mBackV S w) (mBackS S w) := by
  refine CT.mk "ScopeTasksModel" [(0, .ref (gZ G + 513)), (1, .int (w))] rfl (by decide) rfl (Nat.le_of_ble_eq_true rfl) ?_
  intro x hR hl hr hnm
  refine v_iload_n (pc := 0) 1 dX3_back_0 rfl rfl ?_
  refine v_iconst (pc := 1) (nI 0) dX3_back_1 (by decide) ?_
  refine v_iconst (pc := 2) (nI 1) dX3_back_2 (by decide) ?_
  refine c_callSi (pc := 3) (st := []) (ct_X3_in (S := S) (v := w) (lo := nI 0) (hi := nI 1) ) kVX3_80 kDX3_80 (rm_ok hR (Nat.le_of_ble_eq_true rfl) (Nat.le_of_ble_eq_true rfl)) ⟨Nat.zero_le _, Nat.zero_le _⟩ rfl rfl (Nat.le_of_ble_eq_true rfl) dX3_back_3 ?_
  refine v_if_neB (pc := 6) 11 dX3_back_6 (by decide) (fun c1 => ?_) (fun c1 => ?_)
  · skip
    obtain ⟨i, hiL, rfl⟩ := in_nat (n := 1) (by decide) c1
    have hin : nn (nI i) = i := nn_nI (by omega)
    refine v_aload_n (pc := 11) 0 dX3_back_11 rfl rfl ?_
    refine gX3_67 (pc := 12) hN dX3_back_12 ?_
    refine v_iload_n (pc := 15) 1 dX3_back_15 rfl rfl ?_
    refine c_zald (pc := 16) (k := 533) (j := i) ZA_533 (by omega) rfl (by omega) (by decide) dX3_back_16 ?_
    refine v_if_ne (pc := 17) 23 dX3_back_17 (by decide) (fun c2 => ?_) (fun c2 => ?_)
    · skip
      refine v_iconst (pc := 23) (nI 0) dX3_back_23 (by decide) ?_
      refine v_istore_n (pc := 24) (lv' := [(2, .int (nI 0)), (0, .ref (gZ G + 513)), (1, .int (nI i))]) dX3_back_24 rfl (by decide) rfl ?_
      refine v_sub (lv' := [(2, .int (nI 0)), (0, .ref (gZ G + 513)), (1, .int (nI i))]) [0, 1, 2] rfl ?_
      refine v_S (s1_of (k := 527) (f := blk (fun k => S 534 (326 * i + k)) (S 527) 0 0) (blk_0 _ _ _).symm) ?_
      refine lp_back hN hiL 326 0 (by omega) ?_
      refine v_aload_n (pc := 56) 0 dX3_back_56 rfl rfl ?_
      refine v_iconst (pc := 57) (nI 0) dX3_back_57 (by decide) ?_
      refine pX3_152 (pc := 58) hN dX3_back_58 ?_
      refine v_aload_n (pc := 61) 0 dX3_back_61 rfl rfl ?_
      refine gX3_49 (pc := 62) hN dX3_back_62 ?_
      refine v_sipush (pc := 65) (nI 144) dX3_back_65 (by decide) ?_
      refine c_iald (pc := 68) (k := 527) (j := 144) IA_527 (by omega) rfl (by omega) (by decide) dX3_back_68 ?_
      refine v_topi (v := ((fun k => S 534 (326 * i + k))) 144) ((congrFun (s2_nk (by omega)) _).trans (congrFun (s1_at _ _ _) _)) ?_
      exact v_iret (pc := 69) hr rfl (Nat.le_refl _) (Nat.le_refl _) dX3_back_69 (pI_mk (by unfold mBackV; rw [if_pos c1, hin, if_neg c2]) (hC_c (by unfold mBackS; rw [if_pos c1, hin, if_neg c2])))
    · skip
      refine v_bipush (pc := 20) ((-2)) dX3_back_20 (by decide) ?_
      exact v_iret (pc := 22) hr rfl (Nat.le_refl _) (Nat.le_refl _) dX3_back_22 (pI_mk (by unfold mBackV; rw [if_pos c1, hin, if_pos c2]) (hC_c (by unfold mBackS; rw [if_pos c1, hin, if_pos c2])))
  · skip
    refine v_iconst (pc := 9) ((-1)) dX3_back_9 (by decide) ?_
    exact v_iret (pc := 10) hr rfl (Nat.le_refl _) (Nat.le_refl _) dX3_back_10 (pI_mk (by unfold mBackV; rw [if_neg c1]) (hC_c (by unfold mBackS; rw [if_neg c1])))

