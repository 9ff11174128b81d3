set_option maxRecDepth 100000
/-! ScopeTasksModel: public methods, walks -/
set_option maxHeartbeats 4000000 in
theorem ct_X3_isTask {G : GT} {l : Launch} {N : Nat} {S : ST} {t : Int32} (hS : MI S) (hN : 535 ≤ N) : CTi G l yX3_isTask cX3_isTask 2 (some .boolean) 1 [.ref (gZ G + 513), .int (t)] N (S) (bI (mIs S t)) (S) := by
  have hn8 := hS.n
  have hn1 := hS.2.1
  have hnE := hS.1.1
  obtain ⟨n, hn⟩ : ∃ n, mN S = n := ⟨_, rfl⟩
  rw [hn] at hn8 hn1
  rw [show nn (S 513 15) = n from hn] at hnE
  refine CT.mk "ScopeTasksModel" [(0, .ref (gZ G + 513)), (1, .int (t))] rfl (by decide) rfl (Nat.le_of_ble_eq_true rfl) ?_
  intro x hR hl hr hnm
  refine v_iload_n (pc := 0) 1 dX3_isTask_0 rfl rfl ?_
  refine v_iconst (pc := 1) (nI 0) dX3_isTask_1 (by decide) ?_
  refine v_aload_n (pc := 2) 0 dX3_isTask_2 rfl rfl ?_
  refine gX3_142 (pc := 3) hN dX3_isTask_3 ?_
  refine v_topi (v := nI n) hnE ?_
  refine v_iconst (pc := 6) (nI 1) dX3_isTask_6 (by decide) ?_
  refine v_isubN (pc := 7) (by omega) dX3_isTask_7 ?_
  refine c_callSi (pc := 8) (st := []) (ct_X3_in (S := S) (v := t) (lo := nI 0) (hi := nI (n - 1)) ) kVX3_80 kDX3_80 (rm_ok hR (Nat.le_of_ble_eq_true rfl) (Nat.le_of_ble_eq_true rfl)) ⟨Nat.zero_le _, Nat.zero_le _⟩ rfl rfl (Nat.le_of_ble_eq_true rfl) dX3_isTask_8 ?_
  exact v_iret (pc := 11) hr bI_nar (Nat.le_refl _) (Nat.le_refl _) dX3_isTask_11 (pI_mk (by unfold mIs; rw [hn]) (hC_c rfl))

set_option maxHeartbeats 4000000 in
theorem ct_X3_type {G : GT} {l : Launch} {N : Nat} {S : ST} {w : Int32} (h0 : inN (S 513 0) 120) (hN : 535 ≤ N) : CTi G l yX3_type cX3_type 2 (some .int) 1 [.ref (gZ G + 513), .int (w)] N (S) (mTypeV S w) (mTypeS S w) := by
  obtain ⟨k, hkn⟩ : ∃ q, nn (S 513 0) = q := ⟨_, rfl⟩
  have hkE := (h0).1
  have hkL := (h0).2
  rw [hkn] at hkE hkL
  refine CT.mk "ScopeTasksModel" [(0, .ref (gZ G + 513)), (1, .int (w))] rfl (by decide) rfl (Nat.le_of_ble_eq_true rfl) ?_
  intro x hR hl hr hnm
  refine v_iload_n (pc := 0) 1 dX3_type_0 rfl rfl ?_
  refine v_iconst (pc := 1) (nI 0) dX3_type_1 (by decide) ?_
  refine v_sipush (pc := 2) (nI 255) dX3_type_2 (by decide) ?_
  refine c_callSi (pc := 5) (st := []) (ct_X3_in (S := S) (v := w) (lo := nI 0) (hi := nI 255) ) kVX3_80 kDX3_80 (rm_ok hR (Nat.le_of_ble_eq_true rfl) (Nat.le_of_ble_eq_true rfl)) ⟨Nat.zero_le _, Nat.zero_le _⟩ rfl rfl (Nat.le_of_ble_eq_true rfl) dX3_type_5 ?_
  refine v_if_neB (pc := 8) 13 dX3_type_8 (by decide) (fun c1 => ?_) (fun c1 => ?_)
  · skip
    refine v_aload_n (pc := 13) 0 dX3_type_13 rfl rfl ?_
    refine gX3_84 (pc := 14) hN dX3_type_14 ?_
    refine v_topi (v := nI k) hkE ?_
    refine v_bipush (pc := 17) (nI 120) dX3_type_17 (by decide) ?_
    refine v_ic_neN (pc := 19) 25 (by omega) (by omega) dX3_type_19 (by decide) (fun c2 => ?_) (fun c2 => ?_)
    · skip
      refine v_aload_n (pc := 25) 0 dX3_type_25 rfl rfl ?_
      refine gX3_7 (pc := 26) hN dX3_type_26 ?_
      refine v_aload_n (pc := 29) 0 dX3_type_29 rfl rfl ?_
      refine gX3_84 (pc := 30) hN dX3_type_30 ?_
      refine v_topi (v := nI k) hkE ?_
      refine v_iload_n (pc := 33) 1 dX3_type_33 rfl rfl ?_
      refine c_iast (pc := 34) (k := 514) (j := k) IA_514 (by omega) rfl (by omega) (by decide) dX3_type_34 ?_
      refine v_aload_n (pc := 35) 0 dX3_type_35 rfl rfl ?_
      refine v_dup (pc := 36) dX3_type_36 rfl ?_
      refine gX3_84 (pc := 37) hN dX3_type_37 ?_
      refine v_topi (v := nI k) ((congrFun (s2_nk (by omega)) _).trans hkE) ?_
      refine v_iconst (pc := 40) (nI 1) dX3_type_40 (by decide) ?_
      refine v_iaddN (pc := 41) dX3_type_41 ?_
      refine pX3_84 (pc := 42) hN dX3_type_42 ?_
      refine v_aload_n (pc := 45) 0 dX3_type_45 rfl rfl ?_
      refine gX3_84 (pc := 46) hN dX3_type_46 ?_
      refine v_topi (v := nI (k + 1)) (s2_at _ _ _ _) ?_
      exact v_iret (pc := 49) hr rfl (Nat.le_refl _) (Nat.le_refl _) dX3_type_49 (pI_mk (by unfold mTypeV; rw [if_pos c1, if_neg (show ¬ S 513 0 = nI 120 from by rw [hkE]; exact fun z => c2 ((nI_eq (by omega) (by decide)).mp z)), hkn]) (hC_c (by unfold mTypeS; rw [if_pos c1, if_neg (show ¬ S 513 0 = nI 120 from by rw [hkE]; exact fun z => c2 ((nI_eq (by omega) (by decide)).mp z)), hkn])))
    · skip
      refine v_bipush (pc := 22) ((-3)) dX3_type_22 (by decide) ?_
      exact v_iret (pc := 24) hr rfl (Nat.le_refl _) (Nat.le_refl _) dX3_type_24 (pI_mk (by unfold mTypeV; rw [if_pos c1, if_pos (show S 513 0 = nI 120 from by rw [hkE, c2])]) (hC_c (by unfold mTypeS; rw [if_pos c1, if_pos (show S 513 0 = nI 120 from by rw [hkE, c2])])))
  · skip
    refine v_iconst (pc := 11) ((-1)) dX3_type_11 (by decide) ?_
    exact v_iret (pc := 12) hr rfl (Nat.le_refl _) (Nat.le_refl _) dX3_type_12 (pI_mk (by unfold mTypeV; rw [if_neg c1]) (hC_c (by unfold mTypeS; rw [if_neg c1])))

set_option maxHeartbeats 4000000 in
theorem ct_X3_clear {G : GT} {l : Launch} {N : Nat} {S : ST}  (hN : 535 ≤ N) : CTi G l yX3_clear cX3_clear 2 (some .int) 0 [.ref (gZ G + 513)] N (S) (S 513 0) (s2 S 513 0 (nI 0)) := by
  refine CT.mk "ScopeTasksModel" [(0, .ref (gZ G + 513))] rfl (by decide) rfl (Nat.le_of_ble_eq_true rfl) ?_
  intro x hR hl hr hnm
  refine v_aload_n (pc := 0) 0 dX3_clear_0 rfl rfl ?_
  refine gX3_84 (pc := 1) hN dX3_clear_1 ?_
  refine v_istore_n (pc := 4) (lv' := [(1, .int (S 513 0)), (0, .ref (gZ G + 513))]) dX3_clear_4 rfl (by decide) rfl ?_
  refine v_aload_n (pc := 5) 1 dX3_clear_5 rfl rfl ?_
  refine v_iconst (pc := 6) (nI 0) dX3_clear_6 (by decide) ?_
  refine pX3_84 (pc := 7) hN dX3_clear_7 ?_
  refine v_iload_n (pc := 10) 0 dX3_clear_10 rfl rfl ?_
  exact v_iret (pc := 11) hr rfl (Nat.le_refl _) (Nat.le_refl _) dX3_clear_11 (pI_mk rfl (hC_c rfl))

set_option maxHeartbeats 4000000 in
theorem ct_X3_forget {G : GT} {l : Launch} {N : Nat} {S : ST}  (hN : 535 ≤ N) : CTi G l yX3_forget cX3_forget 2 (some .int) 0 [.ref (gZ G + 513)] N (S) (S 513 28) (s2 S 513 28 (nI 0)) := by
  refine CT.mk "ScopeTasksModel" [(0, .ref (gZ G + 513))] rfl (by decide) rfl (Nat.le_of_ble_eq_true rfl) ?_
  intro x hR hl hr hnm
  refine v_aload_n (pc := 0) 0 dX3_forget_0 rfl rfl ?_
  refine gX3_155 (pc := 1) hN dX3_forget_1 ?_
  refine v_istore_n (pc := 4) (lv' := [(1, .int (S 513 28)), (0, .ref (gZ G + 513))]) dX3_forget_4 rfl (by decide) rfl ?_
  refine v_aload_n (pc := 5) 1 dX3_forget_5 rfl rfl ?_
  refine v_iconst (pc := 6) (nI 0) dX3_forget_6 (by decide) ?_
  refine pX3_155 (pc := 7) hN dX3_forget_7 ?_
  refine v_iload_n (pc := 10) 0 dX3_forget_10 rfl rfl ?_
  exact v_iret (pc := 11) hr rfl (Nat.le_refl _) (Nat.le_refl _) dX3_forget_11 (pI_mk rfl (hC_c rfl))

theorem ltNat {k v : Int32} {n : Nat} (h0 : 0 ≤ k) (h : k < v) (hv : inN v n) : ∃ q, q < n ∧ k = nI q := by
  obtain ⟨q, hq, e⟩ := nI_of (x := k) (Int32.not_lt.mpr h0)
  refine ⟨q, ?_, e⟩
  have h1 := Int32.lt_iff_toInt_lt.mp h
  have h2 := hv.2
  by_cases hb : nn v < 2 ^ 31
  · rw [e, hv.1, nI_toInt hq, nI_toInt hb] at h1
    omega
  · exfalso
    have : nn v < 2 ^ 31 := by
      unfold nn Int32.toNatClampNeg
      have := Int32.toInt_lt v
      omega
    exact hb this
set_option maxHeartbeats 4000000 in
theorem ct_X3_failure {G : GT} {l : Launch} {N : Nat} {S : ST} {t k : Int32} (hS : MI S) (hI : RI (S 527)) (hN : 535 ≤ N) : CTi G l yX3_failure cX3_failure 3 (some .int) 2 [.ref (gZ G + 513), .int (t), .int (k)] N (S) (mFailV S t k) (S) := by
  have hn8 := hS.n
  have hn1 := hS.2.1
  refine CT.mk "ScopeTasksModel" [(0, .ref (gZ G + 513)), (1, .int (t)), (2, .int (k))] rfl (by decide) rfl (Nat.le_of_ble_eq_true rfl) ?_
  intro x hR hl hr hnm
  refine v_aload_n (pc := 0) 0 dX3_failure_0 rfl rfl ?_
  refine v_iload_n (pc := 1) 1 dX3_failure_1 rfl rfl ?_
  refine c_callVi (pc := 2) (st := []) (ci := 3) (ct_X3_isTask (S := S) (t := t) hS (by omega)) kVX3_214 kDX3_214 (rm_ok hR (Nat.le_of_ble_eq_true rfl) (Nat.le_of_ble_eq_true rfl)) ⟨Nat.zero_le _, Nat.zero_le _⟩ (by omega) (rfl) rfl rfl rfl rfl (Nat.le_of_ble_eq_true rfl) dX3_failure_2 ?_
  refine v_if_eqB (pc := 5) 12 dX3_failure_5 (by decide) (fun c1 => ?_) (fun c1 => ?_)
  · skip
    refine v_iconst (pc := 12) ((-1)) dX3_failure_12 (by decide) ?_
    exact v_iret (pc := 13) hr rfl (Nat.le_refl _) (Nat.le_refl _) dX3_failure_13 (pI_mk (by unfold mFailV; rw [if_neg (fun z => c1 z.1)]) (hC_c rfl))
  · skip
    obtain ⟨j, hjL, rfl⟩ := in_nat (n := mN S - 1) (by omega) c1
    have hj8 : j < 8 := by omega
    have hjn : nn (nI j) = j := nn_nI (by omega)
    refine v_iload_n (pc := 8) 2 dX3_failure_8 rfl rfl ?_
    refine v_if_ge (pc := 9) 14 dX3_failure_9 (by decide) (fun c2 => ?_) (fun c2 => ?_)
    · skip
      refine v_iload_n (pc := 14) 2 dX3_failure_14 rfl rfl ?_
      refine v_aload_n (pc := 15) 0 dX3_failure_15 rfl rfl ?_
      refine gX3_49 (pc := 16) hN dX3_failure_16 ?_
      refine v_iload_n (pc := 19) 1 dX3_failure_19 rfl rfl ?_
      refine v_bipush (pc := 20) (nI 9) dX3_failure_20 (by decide) ?_
      refine v_S (s1_of (k := 527) (f := S 527) rfl) ?_
      refine c_callSi (pc := 22) (st := [.int (k)]) (ct_X3_at (S := S) (a := 527) (t := j) (w := 9) (g := S 527) (Or.inl rfl) (by omega) (by omega)) kVX3_161 kDX3_161 (rm_ok hR (Nat.le_of_ble_eq_true rfl) (Nat.le_of_ble_eq_true rfl)) ⟨Nat.zero_le _, Nat.zero_le _⟩ rfl rfl (Nat.le_of_ble_eq_true rfl) dX3_failure_22 ?_
      refine v_S (s1_of (k := 527) (f := S 527) rfl).symm ?_
      refine v_ic_ge (pc := 25) 43 dX3_failure_25 (by decide) (fun c3 => ?_) (fun c3 => ?_)
      · skip
        refine v_bipush (pc := 43) ((-9)) dX3_failure_43 (by decide) ?_
        exact v_iret (pc := 45) hr rfl (Nat.le_refl _) (Nat.le_refl _) dX3_failure_45 (pI_mk (by unfold mFailV; rw [if_pos ⟨c1, c2⟩, hjn, if_neg (Int32.not_lt.mpr c3)]) (hC_c rfl))
      · skip
        have hm := (hI.2 j hj8).2
        obtain ⟨q, hqL, hqE⟩ : ∃ q, q < 8 ∧ k = nI q := ltNat c2 (Int32.not_le.mp c3) hm
        have hqn : nn (nI q) = q := nn_nI (by omega)
        subst hqE
        refine v_aload_n (pc := 28) 0 dX3_failure_28 rfl rfl ?_
        refine gX3_49 (pc := 29) hN dX3_failure_29 ?_
        refine v_iload_n (pc := 32) 1 dX3_failure_32 rfl rfl ?_
        refine v_bipush (pc := 33) (nI 10) dX3_failure_33 (by decide) ?_
        refine v_iload_n (pc := 35) 2 dX3_failure_35 rfl rfl ?_
        refine v_iaddN (pc := 36) dX3_failure_36 ?_
        refine v_S (s1_of (k := 527) (f := S 527) rfl) ?_
        refine c_callSi (pc := 37) (st := []) (ct_X3_at (S := S) (a := 527) (t := j) (w := 10 + q) (g := S 527) (Or.inl rfl) (by omega) (by omega)) kVX3_161 kDX3_161 (rm_ok hR (Nat.le_of_ble_eq_true rfl) (Nat.le_of_ble_eq_true rfl)) ⟨Nat.zero_le _, Nat.zero_le _⟩ rfl rfl (Nat.le_of_ble_eq_true rfl) dX3_failure_37 ?_
        refine v_S (s1_of (k := 527) (f := S 527) rfl).symm ?_
        refine v_goto (pc := 40) 45 dX3_failure_40 (by decide) ?_
        exact v_iret (pc := 45) hr rfl (Nat.le_refl _) (Nat.le_refl _) dX3_failure_45 (pI_mk (by unfold mFailV; rw [if_pos ⟨c1, c2⟩, hjn, if_pos (Int32.not_le.mp c3), hqn]) (hC_c rfl))
    · skip
      refine v_iconst (pc := 12) ((-1)) dX3_failure_12 (by decide) ?_
      exact v_iret (pc := 13) hr rfl (Nat.le_refl _) (Nat.le_refl _) dX3_failure_13 (pI_mk (by unfold mFailV; rw [if_neg (fun z => c2 z.2)]) (hC_c rfl))

set_option maxHeartbeats 4000000 in
theorem ct_X3_trace {G : GT} {l : Launch} {N : Nat} {S : ST} {k w : Int32} (hI : RI (S 527)) (hN : 535 ≤ N) : CTi G l yX3_trace cX3_trace 3 (some .int) 1 [.ref (gZ G + 513), .int (k), .int (w)] N (S) (mTraceV S k w) (S) := by
  refine CT.mk "ScopeTasksModel" [(0, .ref (gZ G + 513)), (1, .int (k)), (2, .int (w))] rfl (by decide) rfl (Nat.le_of_ble_eq_true rfl) ?_
  intro x hR hl hr hnm
  refine v_iload_n (pc := 0) 1 dX3_trace_0 rfl rfl ?_
  refine v_if_lt (pc := 1) 13 dX3_trace_1 (by decide) (fun c1 => ?_) (fun c1 => ?_)
  · skip
    refine v_iconst (pc := 13) ((-1)) dX3_trace_13 (by decide) ?_
    exact v_iret (pc := 14) hr rfl (Nat.le_refl _) (Nat.le_refl _) dX3_trace_14 (pI_mk (by unfold mTraceV; rw [if_neg (fun z => z.1 c1)]) (hC_c rfl))
  · skip
    refine v_iload_n (pc := 4) 2 dX3_trace_4 rfl rfl ?_
    refine v_iconst (pc := 5) (nI 0) dX3_trace_5 (by decide) ?_
    refine v_iconst (pc := 6) (nI 2) dX3_trace_6 (by decide) ?_
    refine c_callSi (pc := 7) (st := []) (ct_X3_in (S := S) (v := w) (lo := nI 0) (hi := nI 2) ) kVX3_80 kDX3_80 (rm_ok hR (Nat.le_of_ble_eq_true rfl) (Nat.le_of_ble_eq_true rfl)) ⟨Nat.zero_le _, Nat.zero_le _⟩ rfl rfl (Nat.le_of_ble_eq_true rfl) dX3_trace_7 ?_
    refine v_if_neB (pc := 10) 15 dX3_trace_10 (by decide) (fun c2 => ?_) (fun c2 => ?_)
    · skip
      refine v_iload_n (pc := 15) 1 dX3_trace_15 rfl rfl ?_
      refine v_aload_n (pc := 16) 0 dX3_trace_16 rfl rfl ?_
      refine gX3_49 (pc := 17) hN dX3_trace_17 ?_
      refine v_sipush (pc := 20) (nI 145) dX3_trace_20 (by decide) ?_
      refine c_iald (pc := 23) (k := 527) (j := 145) IA_527 (by omega) rfl (by omega) (by decide) dX3_trace_23 ?_
      refine v_ic_ge (pc := 24) 44 dX3_trace_24 (by decide) (fun c3 => ?_) (fun c3 => ?_)
      · skip
        refine v_bipush (pc := 44) ((-9)) dX3_trace_44 (by decide) ?_
        exact v_iret (pc := 46) hr rfl (Nat.le_refl _) (Nat.le_refl _) dX3_trace_46 (pI_mk (by unfold mTraceV; rw [if_pos ⟨c1, c2⟩, if_neg (Int32.not_lt.mpr c3)]) (hC_c rfl))
      · skip
        obtain ⟨q, hqL, hqE⟩ : ∃ q, q < 60 ∧ k = nI q := ltNat (Int32.not_lt.mp c1) (Int32.not_le.mp c3) hI.1
        have hqn : nn (nI q) = q := nn_nI (by omega)
        obtain ⟨u, huL, huE⟩ := in_nat (n := 2) (by decide) c2
        have hun : nn (nI u) = u := nn_nI (by omega)
        subst hqE
        subst huE
        refine v_aload_n (pc := 27) 0 dX3_trace_27 rfl rfl ?_
        refine gX3_49 (pc := 28) hN dX3_trace_28 ?_
        refine v_sipush (pc := 31) (nI 146) dX3_trace_31 (by decide) ?_
        refine v_iconst (pc := 34) (nI 3) dX3_trace_34 (by decide) ?_
        refine v_iload_n (pc := 35) 1 dX3_trace_35 rfl rfl ?_
        refine v_imulN (pc := 36) dX3_trace_36 ?_
        refine v_iaddN (pc := 37) dX3_trace_37 ?_
        refine v_iload_n (pc := 38) 2 dX3_trace_38 rfl rfl ?_
        refine v_iaddN (pc := 39) dX3_trace_39 ?_
        refine c_iald (pc := 40) (k := 527) (j := 146 + 3 * q + u) IA_527 (by omega) rfl (by omega) (by decide) dX3_trace_40 ?_
        refine v_goto (pc := 41) 46 dX3_trace_41 (by decide) ?_
        exact v_iret (pc := 46) hr rfl (Nat.le_refl _) (Nat.le_refl _) dX3_trace_46 (pI_mk (by unfold mTraceV; rw [if_pos ⟨c1, c2⟩, if_pos (Int32.not_le.mp c3), hqn, hun]) (hC_c rfl))
    · skip
      refine v_iconst (pc := 13) ((-1)) dX3_trace_13 (by decide) ?_
      exact v_iret (pc := 14) hr rfl (Nat.le_refl _) (Nat.le_refl _) dX3_trace_14 (pI_mk (by unfold mTraceV; rw [if_neg (fun z => c2 z.2)]) (hC_c rfl))

set_option maxHeartbeats 4000000 in
theorem lp_bs {G : GT} {x : VX} {N : Nat} {Q : State → Prop} {S : ST} {n : Nat} {t : Int32} (hN : 535 ≤ N) (hnE : S 513 15 = nI n) (hn8 : n ≤ 8) (hR : xR x = RM 1 0 0) : ∀ (m c : Nat), c + 1 + m = n → V G x "ScopeTasksModel" cX3_busySet 4 Q 62 [(2, .int (mBs (S 521) (S 527) t (n - 1))), (0, .ref (gZ G + 513)), (1, .int (t))] [] N (hC G S) 0 0 → V G x "ScopeTasksModel" cX3_busySet 4 Q 4 [(3, .int (nI (c + 1))), (2, .int (mBs (S 521) (S 527) t c)), (0, .ref (gZ G + 513)), (1, .int (t))] [] N (hC G S) 0 0 := by
  intro m
  induction m with
  | zero =>
    intro c hcm hk
    refine v_iload_n (pc := 4) 0 dX3_busySet_4 rfl rfl ?_
    refine v_aload_n (pc := 5) 2 dX3_busySet_5 rfl rfl ?_
    refine gX3_142 (pc := 6) hN dX3_busySet_6 ?_
    refine v_topi (v := nI n) hnE ?_
    refine v_ic_geN (pc := 9) 62 (by omega) (by omega) dX3_busySet_9 (by decide) (fun c1 => ?_) (fun c1 => ?_)
    · skip
      refine v_sub (lv' := [(2, .int (mBs (S 521) (S 527) t c)), (0, .ref (gZ G + 513)), (1, .int (t))]) [1, 2, 3] rfl ?_
      rw [show n - 1 = c by omega] at hk
      exact hk
    · skip
      exact absurd c1 (by omega)
  | succ m ih =>
    intro c hcm hk
    refine v_iload_n (pc := 4) 0 dX3_busySet_4 rfl rfl ?_
    refine v_aload_n (pc := 5) 2 dX3_busySet_5 rfl rfl ?_
    refine gX3_142 (pc := 6) hN dX3_busySet_6 ?_
    refine v_topi (v := nI n) hnE ?_
    refine v_ic_geN (pc := 9) 62 (by omega) (by omega) dX3_busySet_9 (by decide) (fun c1 => ?_) (fun c1 => ?_)
    · skip
      exact absurd c1 (by omega)
    · skip
      refine v_iload_n (pc := 12) 1 dX3_busySet_12 rfl rfl ?_
      refine v_aload_n (pc := 13) 2 dX3_busySet_13 rfl rfl ?_
      refine gX3_31 (pc := 14) hN dX3_busySet_14 ?_
      refine v_iload_n (pc := 17) 0 dX3_busySet_17 rfl rfl ?_
      refine c_iald (pc := 18) (k := 521) (j := c + 1) IA_521 (by omega) rfl (by omega) (by decide) dX3_busySet_18 ?_
      refine v_iload_n (pc := 19) 3 dX3_busySet_19 rfl rfl ?_
      refine v_ic_ne (pc := 20) 53 dX3_busySet_20 (by decide) (fun c2 => ?_) (fun c2 => ?_)
      · skip
        refine v_iconst (pc := 53) (nI 0) dX3_busySet_53 (by decide) ?_
        refine v_ior (pc := 54) dX3_busySet_54 ?_
        refine v_istore_n (pc := 55) (lv' := [(2, .int ((mBs (S 521) (S 527) t c) ||| (nI 0))), (3, .int (nI (c + 1))), (0, .ref (gZ G + 513)), (1, .int (t))]) dX3_busySet_55 rfl (by decide) rfl ?_
        refine v_iincN (pc := 56) (k := 1) (lv' := [(3, .int (nI (c + 1 + 1))), (2, .int ((mBs (S 521) (S 527) t c) ||| (nI 0))), (0, .ref (gZ G + 513)), (1, .int (t))]) dX3_busySet_56 rfl (by decide) rfl ?_
        refine v_goto (pc := 59) 4 dX3_busySet_59 (by decide) ?_
        refine v_sub (lv' := [(3, .int (nI (c + 1 + 1))), (2, .int ((mBs (S 521) (S 527) t c) ||| (nI 0))), (0, .ref (gZ G + 513)), (1, .int (t))]) [0, 1, 2, 3] rfl ?_
        refine v_lv (lv' := [(3, .int (nI (c + 1 + 1))), (2, .int (mBs (S 521) (S 527) t (c + 1))), (0, .ref (gZ G + 513)), (1, .int (t))]) (by rw [mBs, if_neg (fun z => c2 z.1)]) ?_
        exact ih (c + 1) (by omega) hk
      · skip
        refine v_aload_n (pc := 23) 2 dX3_busySet_23 rfl rfl ?_
        refine gX3_49 (pc := 24) hN dX3_busySet_24 ?_
        refine v_iload_n (pc := 27) 0 dX3_busySet_27 rfl rfl ?_
        refine v_iconst (pc := 28) (nI 1) dX3_busySet_28 (by decide) ?_
        refine v_S (s1_of (k := 527) (f := S 527) rfl) ?_
        refine c_callSi (pc := 29) (st := [.int (mBs (S 521) (S 527) t c)]) (ct_X3_isHow (S := S) (a := 527) (t := c + 1) (w := nI 1) (g := S 527) (Or.inl rfl) (by omega) (by omega)) kVX3_165 kDX3_165 (rm_ok hR (Nat.le_of_ble_eq_true rfl) (Nat.le_of_ble_eq_true rfl)) ⟨Nat.zero_le _, Nat.zero_le _⟩ rfl rfl (Nat.le_of_ble_eq_true rfl) dX3_busySet_29 ?_
        refine v_S (s1_of (k := 527) (f := S 527) rfl).symm ?_
        refine v_if_neB (pc := 32) 47 dX3_busySet_32 (by decide) (fun c3 => ?_) (fun c3 => ?_)
        · skip
          refine v_iconst (pc := 47) (nI 1) dX3_busySet_47 (by decide) ?_
          refine v_iload_n (pc := 48) 0 dX3_busySet_48 rfl rfl ?_
          refine v_ishl (pc := 49) dX3_busySet_49 ?_
          refine v_goto (pc := 50) 54 dX3_busySet_50 (by decide) ?_
          refine v_ior (pc := 54) dX3_busySet_54 ?_
          refine v_istore_n (pc := 55) (lv' := [(2, .int ((mBs (S 521) (S 527) t c) ||| ((nI 1) <<< ((nI (c + 1)) &&& 31)))), (3, .int (nI (c + 1))), (0, .ref (gZ G + 513)), (1, .int (t))]) dX3_busySet_55 rfl (by decide) rfl ?_
          refine v_iincN (pc := 56) (k := 1) (lv' := [(3, .int (nI (c + 1 + 1))), (2, .int ((mBs (S 521) (S 527) t c) ||| ((nI 1) <<< ((nI (c + 1)) &&& 31)))), (0, .ref (gZ G + 513)), (1, .int (t))]) dX3_busySet_56 rfl (by decide) rfl ?_
          refine v_goto (pc := 59) 4 dX3_busySet_59 (by decide) ?_
          refine v_sub (lv' := [(3, .int (nI (c + 1 + 1))), (2, .int ((mBs (S 521) (S 527) t c) ||| ((nI 1) <<< ((nI (c + 1)) &&& 31)))), (0, .ref (gZ G + 513)), (1, .int (t))]) [0, 1, 2, 3] rfl ?_
          refine v_lv (lv' := [(3, .int (nI (c + 1 + 1))), (2, .int (mBs (S 521) (S 527) t (c + 1))), (0, .ref (gZ G + 513)), (1, .int (t))]) (by rw [mBs, if_pos ⟨c2, Or.inl c3⟩]) ?_
          exact ih (c + 1) (by omega) hk
        · skip
          refine v_aload_n (pc := 35) 2 dX3_busySet_35 rfl rfl ?_
          refine gX3_49 (pc := 36) hN dX3_busySet_36 ?_
          refine v_iload_n (pc := 39) 0 dX3_busySet_39 rfl rfl ?_
          refine v_iconst (pc := 40) (nI 2) dX3_busySet_40 (by decide) ?_
          refine v_S (s1_of (k := 527) (f := S 527) rfl) ?_
          refine c_callSi (pc := 41) (st := [.int (mBs (S 521) (S 527) t c)]) (ct_X3_isHow (S := S) (a := 527) (t := c + 1) (w := nI 2) (g := S 527) (Or.inl rfl) (by omega) (by omega)) kVX3_165 kDX3_165 (rm_ok hR (Nat.le_of_ble_eq_true rfl) (Nat.le_of_ble_eq_true rfl)) ⟨Nat.zero_le _, Nat.zero_le _⟩ rfl rfl (Nat.le_of_ble_eq_true rfl) dX3_busySet_41 ?_
          refine v_S (s1_of (k := 527) (f := S 527) rfl).symm ?_
          refine v_if_eqB (pc := 44) 53 dX3_busySet_44 (by decide) (fun c4 => ?_) (fun c4 => ?_)
          · skip
            refine v_iconst (pc := 53) (nI 0) dX3_busySet_53 (by decide) ?_
            refine v_ior (pc := 54) dX3_busySet_54 ?_
            refine v_istore_n (pc := 55) (lv' := [(2, .int ((mBs (S 521) (S 527) t c) ||| (nI 0))), (3, .int (nI (c + 1))), (0, .ref (gZ G + 513)), (1, .int (t))]) dX3_busySet_55 rfl (by decide) rfl ?_
            refine v_iincN (pc := 56) (k := 1) (lv' := [(3, .int (nI (c + 1 + 1))), (2, .int ((mBs (S 521) (S 527) t c) ||| (nI 0))), (0, .ref (gZ G + 513)), (1, .int (t))]) dX3_busySet_56 rfl (by decide) rfl ?_
            refine v_goto (pc := 59) 4 dX3_busySet_59 (by decide) ?_
            refine v_sub (lv' := [(3, .int (nI (c + 1 + 1))), (2, .int ((mBs (S 521) (S 527) t c) ||| (nI 0))), (0, .ref (gZ G + 513)), (1, .int (t))]) [0, 1, 2, 3] rfl ?_
            refine v_lv (lv' := [(3, .int (nI (c + 1 + 1))), (2, .int (mBs (S 521) (S 527) t (c + 1))), (0, .ref (gZ G + 513)), (1, .int (t))]) (by rw [mBs, if_neg (fun z => z.2.elim c3 c4)]) ?_
            exact ih (c + 1) (by omega) hk
          · skip
            refine v_iconst (pc := 47) (nI 1) dX3_busySet_47 (by decide) ?_
            refine v_iload_n (pc := 48) 0 dX3_busySet_48 rfl rfl ?_
            refine v_ishl (pc := 49) dX3_busySet_49 ?_
            refine v_goto (pc := 50) 54 dX3_busySet_50 (by decide) ?_
            refine v_ior (pc := 54) dX3_busySet_54 ?_
            refine v_istore_n (pc := 55) (lv' := [(2, .int ((mBs (S 521) (S 527) t c) ||| ((nI 1) <<< ((nI (c + 1)) &&& 31)))), (3, .int (nI (c + 1))), (0, .ref (gZ G + 513)), (1, .int (t))]) dX3_busySet_55 rfl (by decide) rfl ?_
            refine v_iincN (pc := 56) (k := 1) (lv' := [(3, .int (nI (c + 1 + 1))), (2, .int ((mBs (S 521) (S 527) t c) ||| ((nI 1) <<< ((nI (c + 1)) &&& 31)))), (0, .ref (gZ G + 513)), (1, .int (t))]) dX3_busySet_56 rfl (by decide) rfl ?_
            refine v_goto (pc := 59) 4 dX3_busySet_59 (by decide) ?_
            refine v_sub (lv' := [(3, .int (nI (c + 1 + 1))), (2, .int ((mBs (S 521) (S 527) t c) ||| ((nI 1) <<< ((nI (c + 1)) &&& 31)))), (0, .ref (gZ G + 513)), (1, .int (t))]) [0, 1, 2, 3] rfl ?_
            refine v_lv (lv' := [(3, .int (nI (c + 1 + 1))), (2, .int (mBs (S 521) (S 527) t (c + 1))), (0, .ref (gZ G + 513)), (1, .int (t))]) (by rw [mBs, if_pos ⟨c2, Or.inr c4⟩]) ?_
            exact ih (c + 1) (by omega) hk

set_option maxHeartbeats 4000000 in
theorem ct_X3_busySet {G : GT} {l : Launch} {N : Nat} {S : ST} {t : Int32} (hS : MI S) (hN : 535 ≤ N) : CTi G l yX3_busySet cX3_busySet 4 (some .int) 1 [.ref (gZ G + 513), .int (t)] N (S) (mBs (S 521) (S 527) t (mN S - 1)) (S) := by
  have hn8 := hS.n
  have hn1 := hS.2.1
  have hnE := hS.1.1
  obtain ⟨n, hn⟩ : ∃ n, mN S = n := ⟨_, rfl⟩
  rw [hn] at hn8 hn1
  rw [show nn (S 513 15) = n from hn] at hnE
  refine CT.mk "ScopeTasksModel" [(0, .ref (gZ G + 513)), (1, .int (t))] rfl (by decide) rfl (Nat.le_of_ble_eq_true rfl) ?_
  intro x hR hl hr hnm
  refine v_iconst (pc := 0) (nI 0) dX3_busySet_0 (by decide) ?_
  refine v_istore_n (pc := 1) (lv' := [(2, .int (nI 0)), (0, .ref (gZ G + 513)), (1, .int (t))]) dX3_busySet_1 rfl (by decide) rfl ?_
  refine v_iconst (pc := 2) (nI 1) dX3_busySet_2 (by decide) ?_
  refine v_istore_n (pc := 3) (lv' := [(3, .int (nI 1)), (2, .int (nI 0)), (0, .ref (gZ G + 513)), (1, .int (t))]) dX3_busySet_3 rfl (by decide) rfl ?_
  refine v_sub (lv' := [(3, .int (nI 1)), (2, .int (nI 0)), (0, .ref (gZ G + 513)), (1, .int (t))]) [0, 1, 2, 3] rfl ?_
  refine lp_bs hN hnE hn8 hR (n - 1) 0 (by omega) ?_
  refine v_iload_n (pc := 62) 0 dX3_busySet_62 rfl rfl ?_
  exact v_iret (pc := 63) hr rfl (Nat.le_refl _) (Nat.le_refl _) dX3_busySet_63 (pI_mk (by rw [hn]) (hC_c rfl))

set_option maxHeartbeats 4000000 in
theorem ct_X3_task {G : GT} {l : Launch} {N : Nat} {S : ST} {t w : Int32} (hS : MI S) (hN : 535 ≤ N) : CTi G l yX3_task cX3_task 3 (some .int) 2 [.ref (gZ G + 513), .int (t), .int (w)] N (S) (mTaskV S t w) (S) := by
  have hn8 := hS.n
  have hn1 := hS.2.1
  refine CT.mk "ScopeTasksModel" [(0, .ref (gZ G + 513)), (1, .int (t)), (2, .int (w))] rfl (by decide) rfl (Nat.le_of_ble_eq_true rfl) ?_
  intro x hR hl hr hnm
  refine v_aload_n (pc := 0) 0 dX3_task_0 rfl rfl ?_
  refine v_iload_n (pc := 1) 1 dX3_task_1 rfl rfl ?_
  refine c_callVi (pc := 2) (st := []) (ci := 3) (ct_X3_isTask (S := S) (t := t) hS (by omega)) kVX3_214 kDX3_214 (rm_ok hR (Nat.le_of_ble_eq_true rfl) (Nat.le_of_ble_eq_true rfl)) ⟨Nat.zero_le _, Nat.zero_le _⟩ (by omega) (rfl) rfl rfl rfl rfl (Nat.le_of_ble_eq_true rfl) dX3_task_2 ?_
  refine v_if_eqB (pc := 5) 18 dX3_task_5 (by decide) (fun c1 => ?_) (fun c1 => ?_)
  · skip
    refine v_iconst (pc := 18) ((-1)) dX3_task_18 (by decide) ?_
    exact v_iret (pc := 19) hr rfl (Nat.le_refl _) (Nat.le_refl _) dX3_task_19 (pI_mk (by unfold mTaskV; rw [if_neg (fun z => c1 z.1)]) (hC_c rfl))
  · skip
    obtain ⟨j, hjL, rfl⟩ := in_nat (n := mN S - 1) (by omega) c1
    have hj8 : j < 8 := by omega
    have hjn : nn (nI j) = j := nn_nI (by omega)
    refine v_iload_n (pc := 8) 2 dX3_task_8 rfl rfl ?_
    refine v_iconst (pc := 9) (nI 0) dX3_task_9 (by decide) ?_
    refine v_bipush (pc := 10) (nI 7) dX3_task_10 (by decide) ?_
    refine c_callSi (pc := 12) (st := []) (ct_X3_in (S := S) (v := w) (lo := nI 0) (hi := nI 7) ) kVX3_80 kDX3_80 (rm_ok hR (Nat.le_of_ble_eq_true rfl) (Nat.le_of_ble_eq_true rfl)) ⟨Nat.zero_le _, Nat.zero_le _⟩ rfl rfl (Nat.le_of_ble_eq_true rfl) dX3_task_12 ?_
    refine v_if_neB (pc := 15) 20 dX3_task_15 (by decide) (fun c2 => ?_) (fun c2 => ?_)
    · skip
      refine v_iload_n (pc := 20) 2 dX3_task_20 rfl rfl ?_
      rcases sw_in (w) 6 (by decide) with hsw | ⟨js, hjs, hsw⟩
      · skip
        refine v_tableOut (pc := 21) 164 dX3_task_21 hsw (by decide) ?_
        refine v_aload_n (pc := 164) 0 dX3_task_164 rfl rfl ?_
        refine v_iload_n (pc := 165) 1 dX3_task_165 rfl rfl ?_
        refine c_callVi (pc := 166) (st := []) (ci := 3) (ct_X3_busySet (S := S) (t := nI j) hS (by omega)) kVX3_217 kDX3_217 (rm_ok hR (Nat.le_of_ble_eq_true rfl) (Nat.le_of_ble_eq_true rfl)) ⟨Nat.zero_le _, Nat.zero_le _⟩ (by omega) (rfl) rfl rfl rfl rfl (Nat.le_of_ble_eq_true rfl) dX3_task_166 ?_
        exact v_iret (pc := 169) hr rfl (Nat.le_refl _) (Nat.le_refl _) dX3_task_169 (pI_mk (by unfold mTaskV; rw [if_pos ⟨c1, c2⟩, sw7 c2 hsw]; rw [if_neg (show ¬ nI 7 = nI 0 by decide), if_neg (show ¬ nI 7 = nI 1 by decide), if_neg (show ¬ nI 7 = nI 2 by decide), if_neg (show ¬ nI 7 = nI 3 by decide), if_neg (show ¬ nI 7 = nI 4 by decide), if_neg (show ¬ nI 7 = nI 5 by decide), if_neg (show ¬ nI 7 = nI 6 by decide)]) (hC_c rfl))
      · skip
        rcases Nat.lt_or_ge js 1 with h0s | h0s
        · skip
          have hjs : js = 0 := by omega
          subst hjs
          refine v_tableIn (pc := 21) 64 dX3_task_21 (by rw [hsw]; decide) (by rw [hsw]; decide) (by rw [hsw]; rfl) (by decide) ?_
          refine v_aload_n (pc := 64) 0 dX3_task_64 rfl rfl ?_
          refine gX3_31 (pc := 65) hN dX3_task_65 ?_
          refine v_iload_n (pc := 68) 1 dX3_task_68 rfl rfl ?_
          refine c_iald (pc := 69) (k := 521) (j := j) IA_521 (by omega) rfl (by omega) (by decide) dX3_task_69 ?_
          exact v_iret (pc := 70) hr rfl (Nat.le_refl _) (Nat.le_refl _) dX3_task_70 (pI_mk (by unfold mTaskV; rw [if_pos ⟨c1, c2⟩, hsw]; rw [if_pos rfl, hjn]) (hC_c rfl))
        · skip
          rcases Nat.lt_or_ge js 2 with h1s | h1s
          · skip
            have hjs : js = 1 := by omega
            subst hjs
            refine v_tableIn (pc := 21) 71 dX3_task_21 (by rw [hsw]; decide) (by rw [hsw]; decide) (by rw [hsw]; rfl) (by decide) ?_
            refine v_aload_n (pc := 71) 0 dX3_task_71 rfl rfl ?_
            refine gX3_49 (pc := 72) hN dX3_task_72 ?_
            refine v_iload_n (pc := 75) 1 dX3_task_75 rfl rfl ?_
            refine v_iconst (pc := 76) (nI 0) dX3_task_76 (by decide) ?_
            refine v_S (s1_of (k := 527) (f := S 527) rfl) ?_
            refine c_callSi (pc := 77) (st := []) (ct_X3_at (S := S) (a := 527) (t := j) (w := 0) (g := S 527) (Or.inl rfl) (by omega) (by omega)) kVX3_161 kDX3_161 (rm_ok hR (Nat.le_of_ble_eq_true rfl) (Nat.le_of_ble_eq_true rfl)) ⟨Nat.zero_le _, Nat.zero_le _⟩ rfl rfl (Nat.le_of_ble_eq_true rfl) dX3_task_77 ?_
            refine v_S (s1_of (k := 527) (f := S 527) rfl).symm ?_
            exact v_iret (pc := 80) hr rfl (Nat.le_refl _) (Nat.le_refl _) dX3_task_80 (pI_mk (by unfold mTaskV; rw [if_pos ⟨c1, c2⟩, hsw]; rw [if_neg (show ¬ nI 1 = nI 0 by decide), if_pos rfl, hjn]; rfl) (hC_c rfl))
          · skip
            rcases Nat.lt_or_ge js 3 with h2s | h2s
            · skip
              have hjs : js = 2 := by omega
              subst hjs
              refine v_tableIn (pc := 21) 81 dX3_task_21 (by rw [hsw]; decide) (by rw [hsw]; decide) (by rw [hsw]; rfl) (by decide) ?_
              refine v_aload_n (pc := 81) 0 dX3_task_81 rfl rfl ?_
              refine gX3_49 (pc := 82) hN dX3_task_82 ?_
              refine v_iload_n (pc := 85) 1 dX3_task_85 rfl rfl ?_
              refine v_iconst (pc := 86) (nI 1) dX3_task_86 (by decide) ?_
              refine v_S (s1_of (k := 527) (f := S 527) rfl) ?_
              refine c_callSi (pc := 87) (st := []) (ct_X3_at (S := S) (a := 527) (t := j) (w := 1) (g := S 527) (Or.inl rfl) (by omega) (by omega)) kVX3_161 kDX3_161 (rm_ok hR (Nat.le_of_ble_eq_true rfl) (Nat.le_of_ble_eq_true rfl)) ⟨Nat.zero_le _, Nat.zero_le _⟩ rfl rfl (Nat.le_of_ble_eq_true rfl) dX3_task_87 ?_
              refine v_S (s1_of (k := 527) (f := S 527) rfl).symm ?_
              exact v_iret (pc := 90) hr rfl (Nat.le_refl _) (Nat.le_refl _) dX3_task_90 (pI_mk (by unfold mTaskV; rw [if_pos ⟨c1, c2⟩, hsw]; rw [if_neg (show ¬ nI 2 = nI 0 by decide), if_neg (show ¬ nI 2 = nI 1 by decide), if_pos rfl, hjn]) (hC_c rfl))
            · skip
              rcases Nat.lt_or_ge js 4 with h3s | h3s
              · skip
                have hjs : js = 3 := by omega
                subst hjs
                refine v_tableIn (pc := 21) 91 dX3_task_21 (by rw [hsw]; decide) (by rw [hsw]; decide) (by rw [hsw]; rfl) (by decide) ?_
                refine v_aload_n (pc := 91) 0 dX3_task_91 rfl rfl ?_
                refine gX3_49 (pc := 92) hN dX3_task_92 ?_
                refine v_iload_n (pc := 95) 1 dX3_task_95 rfl rfl ?_
                refine v_iconst (pc := 96) (nI 2) dX3_task_96 (by decide) ?_
                refine v_S (s1_of (k := 527) (f := S 527) rfl) ?_
                refine c_callSi (pc := 97) (st := []) (ct_X3_at (S := S) (a := 527) (t := j) (w := 2) (g := S 527) (Or.inl rfl) (by omega) (by omega)) kVX3_161 kDX3_161 (rm_ok hR (Nat.le_of_ble_eq_true rfl) (Nat.le_of_ble_eq_true rfl)) ⟨Nat.zero_le _, Nat.zero_le _⟩ rfl rfl (Nat.le_of_ble_eq_true rfl) dX3_task_97 ?_
                refine v_S (s1_of (k := 527) (f := S 527) rfl).symm ?_
                exact v_iret (pc := 100) hr rfl (Nat.le_refl _) (Nat.le_refl _) dX3_task_100 (pI_mk (by unfold mTaskV; rw [if_pos ⟨c1, c2⟩, hsw]; rw [if_neg (show ¬ nI 3 = nI 0 by decide), if_neg (show ¬ nI 3 = nI 1 by decide), if_neg (show ¬ nI 3 = nI 2 by decide), if_pos rfl, hjn]) (hC_c rfl))
              · skip
                rcases Nat.lt_or_ge js 5 with h4s | h4s
                · skip
                  have hjs : js = 4 := by omega
                  subst hjs
                  refine v_tableIn (pc := 21) 101 dX3_task_21 (by rw [hsw]; decide) (by rw [hsw]; decide) (by rw [hsw]; rfl) (by decide) ?_
                  refine v_aload_n (pc := 101) 0 dX3_task_101 rfl rfl ?_
                  refine gX3_49 (pc := 102) hN dX3_task_102 ?_
                  refine v_iload_n (pc := 105) 1 dX3_task_105 rfl rfl ?_
                  refine v_iconst (pc := 106) (nI 0) dX3_task_106 (by decide) ?_
                  refine v_S (s1_of (k := 527) (f := S 527) rfl) ?_
                  refine c_callSi (pc := 107) (st := []) (ct_X3_isHow (S := S) (a := 527) (t := j) (w := nI 0) (g := S 527) (Or.inl rfl) (by omega) (by omega)) kVX3_165 kDX3_165 (rm_ok hR (Nat.le_of_ble_eq_true rfl) (Nat.le_of_ble_eq_true rfl)) ⟨Nat.zero_le _, Nat.zero_le _⟩ rfl rfl (Nat.le_of_ble_eq_true rfl) dX3_task_107 ?_
                  refine v_S (s1_of (k := 527) (f := S 527) rfl).symm ?_
                  refine v_if_neB (pc := 110) 128 dX3_task_110 (by decide) (fun c3 => ?_) (fun c3 => ?_)
                  · skip
                    refine v_bipush (pc := 128) ((-9)) dX3_task_128 (by decide) ?_
                    refine v_goto (pc := 130) 142 dX3_task_130 (by decide) ?_
                    exact v_iret (pc := 142) hr rfl (Nat.le_refl _) (Nat.le_refl _) dX3_task_142 (pI_mk (by unfold mTaskV; rw [if_pos ⟨c1, c2⟩, hsw]; rw [if_neg (show ¬ nI 4 = nI 0 by decide), if_neg (show ¬ nI 4 = nI 1 by decide), if_neg (show ¬ nI 4 = nI 2 by decide), if_neg (show ¬ nI 4 = nI 3 by decide), if_pos rfl, hjn, if_pos (Or.inl c3)]) (hC_c rfl))
                  · skip
                    refine v_aload_n (pc := 113) 0 dX3_task_113 rfl rfl ?_
                    refine gX3_49 (pc := 114) hN dX3_task_114 ?_
                    refine v_iload_n (pc := 117) 1 dX3_task_117 rfl rfl ?_
                    refine v_iconst (pc := 118) (nI 4) dX3_task_118 (by decide) ?_
                    refine v_S (s1_of (k := 527) (f := S 527) rfl) ?_
                    refine c_callSi (pc := 119) (st := []) (ct_X3_at (S := S) (a := 527) (t := j) (w := 4) (g := S 527) (Or.inl rfl) (by omega) (by omega)) kVX3_161 kDX3_161 (rm_ok hR (Nat.le_of_ble_eq_true rfl) (Nat.le_of_ble_eq_true rfl)) ⟨Nat.zero_le _, Nat.zero_le _⟩ rfl rfl (Nat.le_of_ble_eq_true rfl) dX3_task_119 ?_
                    refine v_S (s1_of (k := 527) (f := S 527) rfl).symm ?_
                    refine v_sipush (pc := 122) (nI 9999) dX3_task_122 (by decide) ?_
                    refine v_ic_ne (pc := 125) 133 dX3_task_125 (by decide) (fun c4 => ?_) (fun c4 => ?_)
                    · skip
                      refine v_aload_n (pc := 133) 0 dX3_task_133 rfl rfl ?_
                      refine gX3_49 (pc := 134) hN dX3_task_134 ?_
                      refine v_iload_n (pc := 137) 1 dX3_task_137 rfl rfl ?_
                      refine v_iconst (pc := 138) (nI 4) dX3_task_138 (by decide) ?_
                      refine v_S (s1_of (k := 527) (f := S 527) rfl) ?_
                      refine c_callSi (pc := 139) (st := []) (ct_X3_at (S := S) (a := 527) (t := j) (w := 4) (g := S 527) (Or.inl rfl) (by omega) (by omega)) kVX3_161 kDX3_161 (rm_ok hR (Nat.le_of_ble_eq_true rfl) (Nat.le_of_ble_eq_true rfl)) ⟨Nat.zero_le _, Nat.zero_le _⟩ rfl rfl (Nat.le_of_ble_eq_true rfl) dX3_task_139 ?_
                      refine v_S (s1_of (k := 527) (f := S 527) rfl).symm ?_
                      exact v_iret (pc := 142) hr rfl (Nat.le_refl _) (Nat.le_refl _) dX3_task_142 (pI_mk (by unfold mTaskV; rw [if_pos ⟨c1, c2⟩, hsw]; rw [if_neg (show ¬ nI 4 = nI 0 by decide), if_neg (show ¬ nI 4 = nI 1 by decide), if_neg (show ¬ nI 4 = nI 2 by decide), if_neg (show ¬ nI 4 = nI 3 by decide), if_pos rfl, hjn, if_neg (fun z => z.elim c3 c4)]) (hC_c rfl))
                    · skip
                      refine v_bipush (pc := 128) ((-9)) dX3_task_128 (by decide) ?_
                      refine v_goto (pc := 130) 142 dX3_task_130 (by decide) ?_
                      exact v_iret (pc := 142) hr rfl (Nat.le_refl _) (Nat.le_refl _) dX3_task_142 (pI_mk (by unfold mTaskV; rw [if_pos ⟨c1, c2⟩, hsw]; rw [if_neg (show ¬ nI 4 = nI 0 by decide), if_neg (show ¬ nI 4 = nI 1 by decide), if_neg (show ¬ nI 4 = nI 2 by decide), if_neg (show ¬ nI 4 = nI 3 by decide), if_pos rfl, hjn, if_pos (Or.inr c4)]) (hC_c rfl))
                · skip
                  rcases Nat.lt_or_ge js 6 with h5s | h5s
                  · skip
                    have hjs : js = 5 := by omega
                    subst hjs
                    refine v_tableIn (pc := 21) 143 dX3_task_21 (by rw [hsw]; decide) (by rw [hsw]; decide) (by rw [hsw]; rfl) (by decide) ?_
                    refine v_aload_n (pc := 143) 0 dX3_task_143 rfl rfl ?_
                    refine gX3_49 (pc := 144) hN dX3_task_144 ?_
                    refine v_iload_n (pc := 147) 1 dX3_task_147 rfl rfl ?_
                    refine v_iconst (pc := 148) (nI 5) dX3_task_148 (by decide) ?_
                    refine v_S (s1_of (k := 527) (f := S 527) rfl) ?_
                    refine c_callSi (pc := 149) (st := []) (ct_X3_at (S := S) (a := 527) (t := j) (w := 5) (g := S 527) (Or.inl rfl) (by omega) (by omega)) kVX3_161 kDX3_161 (rm_ok hR (Nat.le_of_ble_eq_true rfl) (Nat.le_of_ble_eq_true rfl)) ⟨Nat.zero_le _, Nat.zero_le _⟩ rfl rfl (Nat.le_of_ble_eq_true rfl) dX3_task_149 ?_
                    refine v_S (s1_of (k := 527) (f := S 527) rfl).symm ?_
                    exact v_iret (pc := 152) hr rfl (Nat.le_refl _) (Nat.le_refl _) dX3_task_152 (pI_mk (by unfold mTaskV; rw [if_pos ⟨c1, c2⟩, hsw]; rw [if_neg (show ¬ nI 5 = nI 0 by decide), if_neg (show ¬ nI 5 = nI 1 by decide), if_neg (show ¬ nI 5 = nI 2 by decide), if_neg (show ¬ nI 5 = nI 3 by decide), if_neg (show ¬ nI 5 = nI 4 by decide), if_pos rfl, hjn]) (hC_c rfl))
                  · skip
                    have h6s := hjs
                    have hjs : js = 6 := by omega
                    subst hjs
                    refine v_tableIn (pc := 21) 153 dX3_task_21 (by rw [hsw]; decide) (by rw [hsw]; decide) (by rw [hsw]; rfl) (by decide) ?_
                    refine v_aload_n (pc := 153) 0 dX3_task_153 rfl rfl ?_
                    refine gX3_49 (pc := 154) hN dX3_task_154 ?_
                    refine v_iload_n (pc := 157) 1 dX3_task_157 rfl rfl ?_
                    refine v_bipush (pc := 158) (nI 9) dX3_task_158 (by decide) ?_
                    refine v_S (s1_of (k := 527) (f := S 527) rfl) ?_
                    refine c_callSi (pc := 160) (st := []) (ct_X3_at (S := S) (a := 527) (t := j) (w := 9) (g := S 527) (Or.inl rfl) (by omega) (by omega)) kVX3_161 kDX3_161 (rm_ok hR (Nat.le_of_ble_eq_true rfl) (Nat.le_of_ble_eq_true rfl)) ⟨Nat.zero_le _, Nat.zero_le _⟩ rfl rfl (Nat.le_of_ble_eq_true rfl) dX3_task_160 ?_
                    refine v_S (s1_of (k := 527) (f := S 527) rfl).symm ?_
                    exact v_iret (pc := 163) hr rfl (Nat.le_refl _) (Nat.le_refl _) dX3_task_163 (pI_mk (by unfold mTaskV; rw [if_pos ⟨c1, c2⟩, hsw]; rw [if_neg (show ¬ nI 6 = nI 0 by decide), if_neg (show ¬ nI 6 = nI 1 by decide), if_neg (show ¬ nI 6 = nI 2 by decide), if_neg (show ¬ nI 6 = nI 3 by decide), if_neg (show ¬ nI 6 = nI 4 by decide), if_neg (show ¬ nI 6 = nI 5 by decide), if_pos rfl, hjn]) (hC_c rfl))
    · skip
      refine v_iconst (pc := 18) ((-1)) dX3_task_18 (by decide) ?_
      exact v_iret (pc := 19) hr rfl (Nat.le_refl _) (Nat.le_refl _) dX3_task_19 (pI_mk (by unfold mTaskV; rw [if_neg (fun z => c2 z.2)]) (hC_c rfl))

set_option maxHeartbeats 4000000 in
theorem lp_hm {G : GT} {x : VX} {N : Nat} {Q : State → Prop} {S : ST} {n : Nat} {w : Int32} (hN : 535 ≤ N) (hnE : S 513 15 = nI n) (hn8 : n ≤ 8) (hR : xR x = RM 1 0 0) : ∀ (m c : Nat), c + m = n → V G x "ScopeTasksModel" cX3_howMany 4 Q 38 [(2, .int (nI (mHm (S 527) w n))), (0, .ref (gZ G + 513)), (1, .int (w))] [] N (hC G S) 0 0 → V G x "ScopeTasksModel" cX3_howMany 4 Q 4 [(3, .int (nI c)), (2, .int (nI (mHm (S 527) w c))), (0, .ref (gZ G + 513)), (1, .int (w))] [] N (hC G S) 0 0 := by
  intro m
  induction m with
  | zero =>
    intro c hcm hk
    refine v_iload_n (pc := 4) 0 dX3_howMany_4 rfl rfl ?_
    refine v_aload_n (pc := 5) 2 dX3_howMany_5 rfl rfl ?_
    refine gX3_142 (pc := 6) hN dX3_howMany_6 ?_
    refine v_topi (v := nI n) hnE ?_
    refine v_ic_geN (pc := 9) 38 (by omega) (by omega) dX3_howMany_9 (by decide) (fun c1 => ?_) (fun c1 => ?_)
    · skip
      refine v_sub (lv' := [(2, .int (nI (mHm (S 527) w c))), (0, .ref (gZ G + 513)), (1, .int (w))]) [1, 2, 3] rfl ?_
      rw [show n = c by omega] at hk
      exact hk
    · skip
      exact absurd c1 (by omega)
  | succ m ih =>
    intro c hcm hk
    refine v_iload_n (pc := 4) 0 dX3_howMany_4 rfl rfl ?_
    refine v_aload_n (pc := 5) 2 dX3_howMany_5 rfl rfl ?_
    refine gX3_142 (pc := 6) hN dX3_howMany_6 ?_
    refine v_topi (v := nI n) hnE ?_
    refine v_ic_geN (pc := 9) 38 (by omega) (by omega) dX3_howMany_9 (by decide) (fun c1 => ?_) (fun c1 => ?_)
    · skip
      exact absurd c1 (by omega)
    · skip
      refine v_iload_n (pc := 12) 1 dX3_howMany_12 rfl rfl ?_
      refine v_aload_n (pc := 13) 2 dX3_howMany_13 rfl rfl ?_
      refine gX3_49 (pc := 14) hN dX3_howMany_14 ?_
      refine v_iload_n (pc := 17) 0 dX3_howMany_17 rfl rfl ?_
      refine v_iload_n (pc := 18) 3 dX3_howMany_18 rfl rfl ?_
      refine v_S (s1_of (k := 527) (f := S 527) rfl) ?_
      refine c_callSi (pc := 19) (st := [.int (nI (mHm (S 527) w c))]) (ct_X3_isHow (S := S) (a := 527) (t := c) (w := w) (g := S 527) (Or.inl rfl) (by omega) (by omega)) kVX3_165 kDX3_165 (rm_ok hR (Nat.le_of_ble_eq_true rfl) (Nat.le_of_ble_eq_true rfl)) ⟨Nat.zero_le _, Nat.zero_le _⟩ rfl rfl (Nat.le_of_ble_eq_true rfl) dX3_howMany_19 ?_
      refine v_S (s1_of (k := 527) (f := S 527) rfl).symm ?_
      refine v_if_eqB (pc := 22) 29 dX3_howMany_22 (by decide) (fun c2 => ?_) (fun c2 => ?_)
      · skip
        refine v_iconst (pc := 29) (nI 0) dX3_howMany_29 (by decide) ?_
        refine v_iaddN (pc := 30) dX3_howMany_30 ?_
        refine v_istore_n (pc := 31) (lv' := [(2, .int (nI (mHm (S 527) w c))), (3, .int (nI c)), (0, .ref (gZ G + 513)), (1, .int (w))]) dX3_howMany_31 rfl (by decide) rfl ?_
        refine v_iincN (pc := 32) (k := 1) (lv' := [(3, .int (nI (c + 1))), (2, .int (nI (mHm (S 527) w c))), (0, .ref (gZ G + 513)), (1, .int (w))]) dX3_howMany_32 rfl (by decide) rfl ?_
        refine v_goto (pc := 35) 4 dX3_howMany_35 (by decide) ?_
        refine v_sub (lv' := [(3, .int (nI (c + 1))), (2, .int (nI (mHm (S 527) w c))), (0, .ref (gZ G + 513)), (1, .int (w))]) [0, 1, 2, 3] rfl ?_
        refine v_lv (lv' := [(3, .int (nI (c + 1))), (2, .int (nI (mHm (S 527) w (c + 1)))), (0, .ref (gZ G + 513)), (1, .int (w))]) (by rw [mHm, if_neg c2]; rfl) ?_
        exact ih (c + 1) (by omega) hk
      · skip
        refine v_iconst (pc := 25) (nI 1) dX3_howMany_25 (by decide) ?_
        refine v_goto (pc := 26) 30 dX3_howMany_26 (by decide) ?_
        refine v_iaddN (pc := 30) dX3_howMany_30 ?_
        refine v_istore_n (pc := 31) (lv' := [(2, .int (nI (mHm (S 527) w c + 1))), (3, .int (nI c)), (0, .ref (gZ G + 513)), (1, .int (w))]) dX3_howMany_31 rfl (by decide) rfl ?_
        refine v_iincN (pc := 32) (k := 1) (lv' := [(3, .int (nI (c + 1))), (2, .int (nI (mHm (S 527) w c + 1))), (0, .ref (gZ G + 513)), (1, .int (w))]) dX3_howMany_32 rfl (by decide) rfl ?_
        refine v_goto (pc := 35) 4 dX3_howMany_35 (by decide) ?_
        refine v_sub (lv' := [(3, .int (nI (c + 1))), (2, .int (nI (mHm (S 527) w c + 1))), (0, .ref (gZ G + 513)), (1, .int (w))]) [0, 1, 2, 3] rfl ?_
        refine v_lv (lv' := [(3, .int (nI (c + 1))), (2, .int (nI (mHm (S 527) w (c + 1)))), (0, .ref (gZ G + 513)), (1, .int (w))]) (by rw [mHm, if_pos c2]) ?_
        exact ih (c + 1) (by omega) hk

set_option maxHeartbeats 4000000 in
theorem ct_X3_howMany {G : GT} {l : Launch} {N : Nat} {S : ST} {w : Int32} (hS : MI S) (hN : 535 ≤ N) : CTi G l yX3_howMany cX3_howMany 4 (some .int) 1 [.ref (gZ G + 513), .int (w)] N (S) (nI (mHm (S 527) w (mN S))) (S) := by
  have hn8 := hS.n
  have hn1 := hS.2.1
  have hnE := hS.1.1
  obtain ⟨n, hn⟩ : ∃ n, mN S = n := ⟨_, rfl⟩
  rw [hn] at hn8 hn1
  rw [show nn (S 513 15) = n from hn] at hnE
  refine CT.mk "ScopeTasksModel" [(0, .ref (gZ G + 513)), (1, .int (w))] rfl (by decide) rfl (Nat.le_of_ble_eq_true rfl) ?_
  intro x hR hl hr hnm
  refine v_iconst (pc := 0) (nI 0) dX3_howMany_0 (by decide) ?_
  refine v_istore_n (pc := 1) (lv' := [(2, .int (nI 0)), (0, .ref (gZ G + 513)), (1, .int (w))]) dX3_howMany_1 rfl (by decide) rfl ?_
  refine v_iconst (pc := 2) (nI 0) dX3_howMany_2 (by decide) ?_
  refine v_istore_n (pc := 3) (lv' := [(3, .int (nI 0)), (2, .int (nI 0)), (0, .ref (gZ G + 513)), (1, .int (w))]) dX3_howMany_3 rfl (by decide) rfl ?_
  refine v_sub (lv' := [(3, .int (nI 0)), (2, .int (nI 0)), (0, .ref (gZ G + 513)), (1, .int (w))]) [0, 1, 2, 3] rfl ?_
  refine lp_hm hN hnE hn8 hR n 0 (by omega) ?_
  refine v_iload_n (pc := 38) 0 dX3_howMany_38 rfl rfl ?_
  exact v_iret (pc := 39) hr rfl (Nat.le_refl _) (Nat.le_refl _) dX3_howMany_39 (pI_mk (by rw [hn]) (hC_c rfl))

set_option maxHeartbeats 4000000 in
theorem ct_X3_count {G : GT} {l : Launch} {N : Nat} {S : ST} {w : Int32} (hS : MI S) (hN : 535 ≤ N) : CTi G l yX3_count cX3_count 2 (some .int) 2 [.ref (gZ G + 513), .int (w)] N (S) (mCountV S w) (S) := by
  refine CT.mk "ScopeTasksModel" [(0, .ref (gZ G + 513)), (1, .int (w))] rfl (by decide) rfl (Nat.le_of_ble_eq_true rfl) ?_
  intro x hR hl hr hnm
  refine v_iload_n (pc := 0) 1 dX3_count_0 rfl rfl ?_
  rcases sw_in (w) 8 (by decide) with hsw | ⟨js, hjs, hsw⟩
  · skip
    refine v_tableOut (pc := 1) 108 dX3_count_1 hsw (by decide) ?_
    refine v_iconst (pc := 108) ((-1)) dX3_count_108 (by decide) ?_
    exact v_iret (pc := 109) hr rfl (Nat.le_refl _) (Nat.le_refl _) dX3_count_109 (pI_mk (by unfold mCountV; rw [if_neg (sw_out (hi := 8) hsw (j := 0) (by decide) (by decide)), if_neg (sw_out (hi := 8) hsw (j := 1) (by decide) (by decide)), if_neg (sw_out (hi := 8) hsw (j := 2) (by decide) (by decide)), if_neg (sw_out (hi := 8) hsw (j := 3) (by decide) (by decide)), if_neg (sw_out (hi := 8) hsw (j := 4) (by decide) (by decide)), if_neg (sw_out (hi := 8) hsw (j := 5) (by decide) (by decide)), if_neg (sw_out (hi := 8) hsw (j := 6) (by decide) (by decide)), if_neg (sw_out (hi := 8) hsw (j := 7) (by decide) (by decide)), if_neg (sw_out (hi := 8) hsw (j := 8) (by decide) (by decide))]) (hC_c rfl))
  · skip
    rcases Nat.lt_or_ge js 1 with h0s | h0s
    · skip
      have hjs : js = 0 := by omega
      subst hjs
      refine v_tableIn (pc := 1) 52 dX3_count_1 (by rw [hsw]; decide) (by rw [hsw]; decide) (by rw [hsw]; rfl) (by decide) ?_
      refine v_aload_n (pc := 52) 0 dX3_count_52 rfl rfl ?_
      refine gX3_142 (pc := 53) hN dX3_count_53 ?_
      exact v_iret (pc := 56) hr rfl (Nat.le_refl _) (Nat.le_refl _) dX3_count_56 (pI_mk (by unfold mCountV; rw [hsw]; rw [if_pos rfl]) (hC_c rfl))
    · skip
      rcases Nat.lt_or_ge js 2 with h1s | h1s
      · skip
        have hjs : js = 1 := by omega
        subst hjs
        refine v_tableIn (pc := 1) 57 dX3_count_1 (by rw [hsw]; decide) (by rw [hsw]; decide) (by rw [hsw]; rfl) (by decide) ?_
        refine v_aload_n (pc := 57) 0 dX3_count_57 rfl rfl ?_
        refine gX3_49 (pc := 58) hN dX3_count_58 ?_
        refine v_sipush (pc := 61) (nI 144) dX3_count_61 (by decide) ?_
        refine c_iald (pc := 64) (k := 527) (j := 144) IA_527 (by omega) rfl (by omega) (by decide) dX3_count_64 ?_
        exact v_iret (pc := 65) hr rfl (Nat.le_refl _) (Nat.le_refl _) dX3_count_65 (pI_mk (by unfold mCountV; rw [hsw]; rw [if_neg (show ¬ nI 1 = nI 0 by decide), if_pos rfl]) (hC_c rfl))
      · skip
        rcases Nat.lt_or_ge js 3 with h2s | h2s
        · skip
          have hjs : js = 2 := by omega
          subst hjs
          refine v_tableIn (pc := 1) 66 dX3_count_1 (by rw [hsw]; decide) (by rw [hsw]; decide) (by rw [hsw]; rfl) (by decide) ?_
          refine v_aload_n (pc := 66) 0 dX3_count_66 rfl rfl ?_
          refine v_iconst (pc := 67) (nI 1) dX3_count_67 (by decide) ?_
          refine c_callVi (pc := 68) (st := []) (ci := 3) (ct_X3_howMany (S := S) (w := nI 1) hS (by omega)) kVX3_230 kDX3_230 (rm_ok hR (Nat.le_of_ble_eq_true rfl) (Nat.le_of_ble_eq_true rfl)) ⟨Nat.zero_le _, Nat.zero_le _⟩ (by omega) (rfl) rfl rfl rfl rfl (Nat.le_of_ble_eq_true rfl) dX3_count_68 ?_
          exact v_iret (pc := 71) hr rfl (Nat.le_refl _) (Nat.le_refl _) dX3_count_71 (pI_mk (by unfold mCountV; rw [hsw]; rw [if_neg (show ¬ nI 2 = nI 0 by decide), if_neg (show ¬ nI 2 = nI 1 by decide), if_pos rfl]) (hC_c rfl))
        · skip
          rcases Nat.lt_or_ge js 4 with h3s | h3s
          · skip
            have hjs : js = 3 := by omega
            subst hjs
            refine v_tableIn (pc := 1) 72 dX3_count_1 (by rw [hsw]; decide) (by rw [hsw]; decide) (by rw [hsw]; rfl) (by decide) ?_
            refine v_aload_n (pc := 72) 0 dX3_count_72 rfl rfl ?_
            refine v_iconst (pc := 73) (nI 2) dX3_count_73 (by decide) ?_
            refine c_callVi (pc := 74) (st := []) (ci := 3) (ct_X3_howMany (S := S) (w := nI 2) hS (by omega)) kVX3_230 kDX3_230 (rm_ok hR (Nat.le_of_ble_eq_true rfl) (Nat.le_of_ble_eq_true rfl)) ⟨Nat.zero_le _, Nat.zero_le _⟩ (by omega) (rfl) rfl rfl rfl rfl (Nat.le_of_ble_eq_true rfl) dX3_count_74 ?_
            exact v_iret (pc := 77) hr rfl (Nat.le_refl _) (Nat.le_refl _) dX3_count_77 (pI_mk (by unfold mCountV; rw [hsw]; rw [if_neg (show ¬ nI 3 = nI 0 by decide), if_neg (show ¬ nI 3 = nI 1 by decide), if_neg (show ¬ nI 3 = nI 2 by decide), if_pos rfl]) (hC_c rfl))
          · skip
            rcases Nat.lt_or_ge js 5 with h4s | h4s
            · skip
              have hjs : js = 4 := by omega
              subst hjs
              refine v_tableIn (pc := 1) 78 dX3_count_1 (by rw [hsw]; decide) (by rw [hsw]; decide) (by rw [hsw]; rfl) (by decide) ?_
              refine v_aload_n (pc := 78) 0 dX3_count_78 rfl rfl ?_
              refine v_iconst (pc := 79) (nI 3) dX3_count_79 (by decide) ?_
              refine c_callVi (pc := 80) (st := []) (ci := 3) (ct_X3_howMany (S := S) (w := nI 3) hS (by omega)) kVX3_230 kDX3_230 (rm_ok hR (Nat.le_of_ble_eq_true rfl) (Nat.le_of_ble_eq_true rfl)) ⟨Nat.zero_le _, Nat.zero_le _⟩ (by omega) (rfl) rfl rfl rfl rfl (Nat.le_of_ble_eq_true rfl) dX3_count_80 ?_
              exact v_iret (pc := 83) hr rfl (Nat.le_refl _) (Nat.le_refl _) dX3_count_83 (pI_mk (by unfold mCountV; rw [hsw]; rw [if_neg (show ¬ nI 4 = nI 0 by decide), if_neg (show ¬ nI 4 = nI 1 by decide), if_neg (show ¬ nI 4 = nI 2 by decide), if_neg (show ¬ nI 4 = nI 3 by decide), if_pos rfl]) (hC_c rfl))
            · skip
              rcases Nat.lt_or_ge js 6 with h5s | h5s
              · skip
                have hjs : js = 5 := by omega
                subst hjs
                refine v_tableIn (pc := 1) 84 dX3_count_1 (by rw [hsw]; decide) (by rw [hsw]; decide) (by rw [hsw]; rfl) (by decide) ?_
                refine v_aload_n (pc := 84) 0 dX3_count_84 rfl rfl ?_
                refine gX3_49 (pc := 85) hN dX3_count_85 ?_
                refine v_sipush (pc := 88) (nI 145) dX3_count_88 (by decide) ?_
                refine c_iald (pc := 91) (k := 527) (j := 145) IA_527 (by omega) rfl (by omega) (by decide) dX3_count_91 ?_
                exact v_iret (pc := 92) hr rfl (Nat.le_refl _) (Nat.le_refl _) dX3_count_92 (pI_mk (by unfold mCountV; rw [hsw]; rw [if_neg (show ¬ nI 5 = nI 0 by decide), if_neg (show ¬ nI 5 = nI 1 by decide), if_neg (show ¬ nI 5 = nI 2 by decide), if_neg (show ¬ nI 5 = nI 3 by decide), if_neg (show ¬ nI 5 = nI 4 by decide), if_pos rfl]) (hC_c rfl))
              · skip
                rcases Nat.lt_or_ge js 7 with h6s | h6s
                · skip
                  have hjs : js = 6 := by omega
                  subst hjs
                  refine v_tableIn (pc := 1) 93 dX3_count_1 (by rw [hsw]; decide) (by rw [hsw]; decide) (by rw [hsw]; rfl) (by decide) ?_
                  refine v_aload_n (pc := 93) 0 dX3_count_93 rfl rfl ?_
                  refine gX3_155 (pc := 94) hN dX3_count_94 ?_
                  exact v_iret (pc := 97) hr rfl (Nat.le_refl _) (Nat.le_refl _) dX3_count_97 (pI_mk (by unfold mCountV; rw [hsw]; rw [if_neg (show ¬ nI 6 = nI 0 by decide), if_neg (show ¬ nI 6 = nI 1 by decide), if_neg (show ¬ nI 6 = nI 2 by decide), if_neg (show ¬ nI 6 = nI 3 by decide), if_neg (show ¬ nI 6 = nI 4 by decide), if_neg (show ¬ nI 6 = nI 5 by decide), if_pos rfl]) (hC_c rfl))
                · skip
                  rcases Nat.lt_or_ge js 8 with h7s | h7s
                  · skip
                    have hjs : js = 7 := by omega
                    subst hjs
                    refine v_tableIn (pc := 1) 98 dX3_count_1 (by rw [hsw]; decide) (by rw [hsw]; decide) (by rw [hsw]; rfl) (by decide) ?_
                    refine v_aload_n (pc := 98) 0 dX3_count_98 rfl rfl ?_
                    refine gX3_84 (pc := 99) hN dX3_count_99 ?_
                    exact v_iret (pc := 102) hr rfl (Nat.le_refl _) (Nat.le_refl _) dX3_count_102 (pI_mk (by unfold mCountV; rw [hsw]; rw [if_neg (show ¬ nI 7 = nI 0 by decide), if_neg (show ¬ nI 7 = nI 1 by decide), if_neg (show ¬ nI 7 = nI 2 by decide), if_neg (show ¬ nI 7 = nI 3 by decide), if_neg (show ¬ nI 7 = nI 4 by decide), if_neg (show ¬ nI 7 = nI 5 by decide), if_neg (show ¬ nI 7 = nI 6 by decide), if_pos rfl]) (hC_c rfl))
                  · skip
                    have h8s := hjs
                    have hjs : js = 8 := by omega
                    subst hjs
                    refine v_tableIn (pc := 1) 103 dX3_count_1 (by rw [hsw]; decide) (by rw [hsw]; decide) (by rw [hsw]; rfl) (by decide) ?_
                    refine v_aload_n (pc := 103) 0 dX3_count_103 rfl rfl ?_
                    refine gX3_152 (pc := 104) hN dX3_count_104 ?_
                    exact v_iret (pc := 107) hr rfl (Nat.le_refl _) (Nat.le_refl _) dX3_count_107 (pI_mk (by unfold mCountV; rw [hsw]; rw [if_neg (show ¬ nI 8 = nI 0 by decide), if_neg (show ¬ nI 8 = nI 1 by decide), if_neg (show ¬ nI 8 = nI 2 by decide), if_neg (show ¬ nI 8 = nI 3 by decide), if_neg (show ¬ nI 8 = nI 4 by decide), if_neg (show ¬ nI 8 = nI 5 by decide), if_neg (show ¬ nI 8 = nI 6 by decide), if_neg (show ¬ nI 8 = nI 7 by decide), if_pos rfl]) (hC_c rfl))

set_option maxHeartbeats 4000000 in
theorem ct_X3_sees {G : GT} {l : Launch} {N : Nat} {S : ST} {t n w : Int32} (hS : MI S) (h0 : inN (S 513 28) 6) (hN : 535 ≤ N) : CTi G l yX3_sees cX3_sees 4 (some .int) 2 [.ref (gZ G + 513), .int (t), .int (n), .int (w)] N (S) (mSeesV S t n w) (mSeesS S t n w) := by
  obtain ⟨k, hkn⟩ : ∃ q, nn (S 513 28) = q := ⟨_, rfl⟩
  have hkE := (h0).1
  have hkL := (h0).2
  rw [hkn] at hkE hkL
  refine CT.mk "ScopeTasksModel" [(0, .ref (gZ G + 513)), (1, .int (t)), (2, .int (n)), (3, .int (w))] rfl (by decide) rfl (Nat.le_of_ble_eq_true rfl) ?_
  intro x hR hl hr hnm
  refine v_aload_n (pc := 0) 0 dX3_sees_0 rfl rfl ?_
  refine v_iload_n (pc := 1) 1 dX3_sees_1 rfl rfl ?_
  refine c_callVi (pc := 2) (st := []) (ci := 3) (ct_X3_isTask (S := S) (t := t) hS (by omega)) kVX3_214 kDX3_214 (rm_ok hR (Nat.le_of_ble_eq_true rfl) (Nat.le_of_ble_eq_true rfl)) ⟨Nat.zero_le _, Nat.zero_le _⟩ (by omega) (rfl) rfl rfl rfl rfl (Nat.le_of_ble_eq_true rfl) dX3_sees_2 ?_
  refine v_if_eqB (pc := 5) 27 dX3_sees_5 (by decide) (fun c1 => ?_) (fun c1 => ?_)
  · skip
    refine v_iconst (pc := 27) ((-1)) dX3_sees_27 (by decide) ?_
    exact v_iret (pc := 28) hr rfl (Nat.le_refl _) (Nat.le_refl _) dX3_sees_28 (pI_mk (by unfold mSeesV; rw [if_neg (fun z => c1 z.1)]) (hC_c (by unfold mSeesS; rw [if_neg (fun z => c1 z.1)])))
  · skip
    refine v_iload_n (pc := 8) 2 dX3_sees_8 rfl rfl ?_
    refine v_iconst (pc := 9) (nI 1) dX3_sees_9 (by decide) ?_
    refine v_bipush (pc := 10) (nI 60) dX3_sees_10 (by decide) ?_
    refine c_callSi (pc := 12) (st := []) (ct_X3_in (S := S) (v := n) (lo := nI 1) (hi := nI 60) ) kVX3_80 kDX3_80 (rm_ok hR (Nat.le_of_ble_eq_true rfl) (Nat.le_of_ble_eq_true rfl)) ⟨Nat.zero_le _, Nat.zero_le _⟩ rfl rfl (Nat.le_of_ble_eq_true rfl) dX3_sees_12 ?_
    refine v_if_eqB (pc := 15) 27 dX3_sees_15 (by decide) (fun c2 => ?_) (fun c2 => ?_)
    · skip
      refine v_iconst (pc := 27) ((-1)) dX3_sees_27 (by decide) ?_
      exact v_iret (pc := 28) hr rfl (Nat.le_refl _) (Nat.le_refl _) dX3_sees_28 (pI_mk (by unfold mSeesV; rw [if_neg (fun z => c2 z.2.1)]) (hC_c (by unfold mSeesS; rw [if_neg (fun z => c2 z.2.1)])))
    · skip
      refine v_iload_n (pc := 18) 3 dX3_sees_18 rfl rfl ?_
      refine v_iconst (pc := 19) (nI 0) dX3_sees_19 (by decide) ?_
      refine v_iconst (pc := 20) (nI 1) dX3_sees_20 (by decide) ?_
      refine c_callSi (pc := 21) (st := []) (ct_X3_in (S := S) (v := w) (lo := nI 0) (hi := nI 1) ) kVX3_80 kDX3_80 (rm_ok hR (Nat.le_of_ble_eq_true rfl) (Nat.le_of_ble_eq_true rfl)) ⟨Nat.zero_le _, Nat.zero_le _⟩ rfl rfl (Nat.le_of_ble_eq_true rfl) dX3_sees_21 ?_
      refine v_if_neB (pc := 24) 29 dX3_sees_24 (by decide) (fun c3 => ?_) (fun c3 => ?_)
      · skip
        refine v_aload_n (pc := 29) 0 dX3_sees_29 rfl rfl ?_
        refine gX3_155 (pc := 30) hN dX3_sees_30 ?_
        refine v_topi (v := nI k) hkE ?_
        refine v_bipush (pc := 33) (nI 6) dX3_sees_33 (by decide) ?_
        refine v_ic_neN (pc := 35) 41 (by omega) (by omega) dX3_sees_35 (by decide) (fun c4 => ?_) (fun c4 => ?_)
        · skip
          refine v_aload_n (pc := 41) 0 dX3_sees_41 rfl rfl ?_
          refine gX3_58 (pc := 42) hN dX3_sees_42 ?_
          refine v_aload_n (pc := 45) 0 dX3_sees_45 rfl rfl ?_
          refine gX3_155 (pc := 46) hN dX3_sees_46 ?_
          refine v_topi (v := nI k) hkE ?_
          refine v_iload_n (pc := 49) 1 dX3_sees_49 rfl rfl ?_
          refine c_iast (pc := 50) (k := 530) (j := k) IA_530 (by omega) rfl (by omega) (by decide) dX3_sees_50 ?_
          refine v_aload_n (pc := 51) 0 dX3_sees_51 rfl rfl ?_
          refine gX3_61 (pc := 52) hN dX3_sees_52 ?_
          refine v_aload_n (pc := 55) 0 dX3_sees_55 rfl rfl ?_
          refine gX3_155 (pc := 56) hN dX3_sees_56 ?_
          refine v_topi (v := nI k) ((congrFun (s2_nk (by omega)) _).trans hkE) ?_
          refine v_iload_n (pc := 59) 2 dX3_sees_59 rfl rfl ?_
          refine c_iast (pc := 60) (k := 531) (j := k) IA_531 (by omega) rfl (by omega) (by decide) dX3_sees_60 ?_
          refine v_aload_n (pc := 61) 0 dX3_sees_61 rfl rfl ?_
          refine gX3_64 (pc := 62) hN dX3_sees_62 ?_
          refine v_aload_n (pc := 65) 0 dX3_sees_65 rfl rfl ?_
          refine gX3_155 (pc := 66) hN dX3_sees_66 ?_
          refine v_topi (v := nI k) ((congrFun (s2_nk (by omega)) _).trans ((congrFun (s2_nk (by omega)) _).trans hkE)) ?_
          refine v_iload_n (pc := 69) 3 dX3_sees_69 rfl rfl ?_
          refine c_iast (pc := 70) (k := 532) (j := k) IA_532 (by omega) rfl (by omega) (by decide) dX3_sees_70 ?_
          refine v_aload_n (pc := 71) 0 dX3_sees_71 rfl rfl ?_
          refine v_dup (pc := 72) dX3_sees_72 rfl ?_
          refine gX3_155 (pc := 73) hN dX3_sees_73 ?_
          refine v_topi (v := nI k) ((congrFun (s2_nk (by omega)) _).trans ((congrFun (s2_nk (by omega)) _).trans ((congrFun (s2_nk (by omega)) _).trans hkE))) ?_
          refine v_iconst (pc := 76) (nI 1) dX3_sees_76 (by decide) ?_
          refine v_iaddN (pc := 77) dX3_sees_77 ?_
          refine pX3_155 (pc := 78) hN dX3_sees_78 ?_
          refine v_aload_n (pc := 81) 0 dX3_sees_81 rfl rfl ?_
          refine gX3_155 (pc := 82) hN dX3_sees_82 ?_
          refine v_topi (v := nI (k + 1)) (s2_at _ _ _ _) ?_
          exact v_iret (pc := 85) hr rfl (Nat.le_refl _) (Nat.le_refl _) dX3_sees_85 (pI_mk (by unfold mSeesV; rw [if_pos ⟨c1, c2, c3⟩, if_neg (show ¬ S 513 28 = nI 6 from by rw [hkE]; exact fun z => c4 ((nI_eq (by omega) (by decide)).mp z)), hkn]) (hC_c (by unfold mSeesS; rw [if_pos ⟨c1, c2, c3⟩, if_neg (show ¬ S 513 28 = nI 6 from by rw [hkE]; exact fun z => c4 ((nI_eq (by omega) (by decide)).mp z)), hkn])))
        · skip
          refine v_bipush (pc := 38) ((-3)) dX3_sees_38 (by decide) ?_
          exact v_iret (pc := 40) hr rfl (Nat.le_refl _) (Nat.le_refl _) dX3_sees_40 (pI_mk (by unfold mSeesV; rw [if_pos ⟨c1, c2, c3⟩, if_pos (show S 513 28 = nI 6 from by rw [hkE, c4])]) (hC_c (by unfold mSeesS; rw [if_pos ⟨c1, c2, c3⟩, if_pos (show S 513 28 = nI 6 from by rw [hkE, c4])])))
      · skip
        refine v_iconst (pc := 27) ((-1)) dX3_sees_27 (by decide) ?_
        exact v_iret (pc := 28) hr rfl (Nat.le_refl _) (Nat.le_refl _) dX3_sees_28 (pI_mk (by unfold mSeesV; rw [if_neg (fun z => c3 z.2.2)]) (hC_c (by unfold mSeesS; rw [if_neg (fun z => c3 z.2.2)])))

