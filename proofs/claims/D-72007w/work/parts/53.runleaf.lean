set_option maxRecDepth 100000
/-! ScopeTasks$Run: leaves -/
set_option maxHeartbeats 4000000 in
theorem ct_X2_how {G : GT} {l : Launch} {N : Nat} {S : ST} {c : Nat → Int32} {b t : Nat} (hb : RB b) (ht : t < 8) (hh : c (18 * t) = nI 0 ∨ c (18 * t) = nI 1 ∨ c (18 * t) = nI 2 ∨ c (18 * t) = nI 3) (hN : 513 ≤ N) : CTi G l yX2_how cX2_how 2 (some .int) 2 [.ref (gZ G + b), .int (nI t)] N (put S b c) (c (18 * t)) (put S b c) := by
  have hbl := hb.le
  have hbg := hb.ge
  refine CT.mk "ScopeTasks$Run" [(0, .ref (gZ G + b)), (1, .int (nI t))] rfl (by decide) rfl (Nat.le_of_ble_eq_true rfl) ?_
  intro x hR hl hr hnm
  refine v_aload_n (pc := 0) 0 dX2_how_0 rfl rfl ?_
  refine gX2_20 (pc := 1) hb hN dX2_how_1 ?_
  refine v_iload_n (pc := 4) 1 dX2_how_4 rfl rfl ?_
  refine c_callVi (pc := 5) (st := []) (ci := 6) (ct_get1 (S := S) (b := b) (t := t) (c := c) hb (by omega) (by omega)) kVX2_103 kDX2_103 (rm_ok hR (Nat.le_of_ble_eq_true rfl) (Nat.le_of_ble_eq_true rfl)) ⟨Nat.zero_le _, Nat.zero_le _⟩ (by omega) ((BC_run hb (j := 1) (by decide)) G _).1 rfl rfl rfl rfl (Nat.le_of_ble_eq_true rfl) dX2_how_5 ?_
  refine v_if_eqB (pc := 8) 15 dX2_how_8 (by decide) (fun c1 => ?_) (fun c1 => ?_)
  · skip
    refine v_aload_n (pc := 15) 0 dX2_how_15 rfl rfl ?_
    refine gX2_24 (pc := 16) hb hN dX2_how_16 ?_
    refine v_iload_n (pc := 19) 1 dX2_how_19 rfl rfl ?_
    refine c_callVi (pc := 20) (st := []) (ci := 6) (ct_get3 (S := S) (b := b) (t := t) (c := c) hb (by omega) (by omega)) kVX2_103 kDX2_103 (rm_ok hR (Nat.le_of_ble_eq_true rfl) (Nat.le_of_ble_eq_true rfl)) ⟨Nat.zero_le _, Nat.zero_le _⟩ (by omega) ((BC_run hb (j := 3) (by decide)) G _).1 rfl rfl rfl rfl (Nat.le_of_ble_eq_true rfl) dX2_how_20 ?_
    refine v_if_eqB (pc := 23) 30 dX2_how_23 (by decide) (fun c2 => ?_) (fun c2 => ?_)
    · skip
      refine v_aload_n (pc := 30) 0 dX2_how_30 rfl rfl ?_
      refine gX2_27 (pc := 31) hb hN dX2_how_31 ?_
      refine v_iload_n (pc := 34) 1 dX2_how_34 rfl rfl ?_
      refine c_callVi (pc := 35) (st := []) (ci := 6) (ct_get5 (S := S) (b := b) (t := t) (c := c) hb (by omega) (by omega)) kVX2_103 kDX2_103 (rm_ok hR (Nat.le_of_ble_eq_true rfl) (Nat.le_of_ble_eq_true rfl)) ⟨Nat.zero_le _, Nat.zero_le _⟩ (by omega) ((BC_run hb (j := 5) (by decide)) G _).1 rfl rfl rfl rfl (Nat.le_of_ble_eq_true rfl) dX2_how_35 ?_
      refine v_if_eqB (pc := 38) 45 dX2_how_38 (by decide) (fun c3 => ?_) (fun c3 => ?_)
      · skip
        refine v_iconst (pc := 45) (nI 0) dX2_how_45 (by decide) ?_
        exact v_iret (pc := 46) hr rfl (Nat.le_refl _) (Nat.le_refl _) dX2_how_46 (pI_mk (by rcases hh with e | e | e | e; exact e.symm; exact absurd e c1; exact absurd e c2; exact absurd e c3) (hC_c rfl))
      · skip
        refine v_iconst (pc := 41) (nI 3) dX2_how_41 (by decide) ?_
        refine v_goto (pc := 42) 46 dX2_how_42 (by decide) ?_
        exact v_iret (pc := 46) hr rfl (Nat.le_refl _) (Nat.le_refl _) dX2_how_46 (pI_mk c3.symm (hC_c rfl))
    · skip
      refine v_iconst (pc := 26) (nI 2) dX2_how_26 (by decide) ?_
      refine v_goto (pc := 27) 46 dX2_how_27 (by decide) ?_
      exact v_iret (pc := 46) hr rfl (Nat.le_refl _) (Nat.le_refl _) dX2_how_46 (pI_mk c2.symm (hC_c rfl))
  · skip
    refine v_iconst (pc := 11) (nI 1) dX2_how_11 (by decide) ?_
    refine v_goto (pc := 12) 46 dX2_how_12 (by decide) ?_
    exact v_iret (pc := 46) hr rfl (Nat.le_refl _) (Nat.le_refl _) dX2_how_46 (pI_mk c1.symm (hC_c rfl))

set_option maxHeartbeats 4000000 in
theorem ct_X2_isOver {G : GT} {l : Launch} {N : Nat} {S : ST} {c : Nat → Int32} {b : Nat} (hb : RB b) (hN : 513 ≤ N) : CTi G l yX2_isOver cX2_isOver 1 (some .boolean) 2 [.ref (gZ G + b)] N (put S b c) (bI (c (18 * 0) = nI 3)) (put S b c) := by
  have hbl := hb.le
  have hbg := hb.ge
  refine CT.mk "ScopeTasks$Run" [(0, .ref (gZ G + b))] rfl (by decide) rfl (Nat.le_of_ble_eq_true rfl) ?_
  intro x hR hl hr hnm
  refine v_aload_n (pc := 0) 0 dX2_isOver_0 rfl rfl ?_
  refine gX2_27 (pc := 1) hb hN dX2_isOver_1 ?_
  refine v_iconst (pc := 4) (nI 0) dX2_isOver_4 (by decide) ?_
  refine c_callVi (pc := 5) (st := []) (ci := 6) (ct_get5 (S := S) (b := b) (t := 0) (c := c) hb (by omega) (by omega)) kVX2_103 kDX2_103 (rm_ok hR (Nat.le_of_ble_eq_true rfl) (Nat.le_of_ble_eq_true rfl)) ⟨Nat.zero_le _, Nat.zero_le _⟩ (by omega) ((BC_run hb (j := 5) (by decide)) G _).1 rfl rfl rfl rfl (Nat.le_of_ble_eq_true rfl) dX2_isOver_5 ?_
  exact v_iret (pc := 8) hr bI_nar (Nat.le_refl _) (Nat.le_refl _) dX2_isOver_8 (pI_mk rfl (hC_c rfl))

def cDue (c : Nat → Int32) (D : Int32) (bd : Int32) : Int32 := minI bd (if D = nI 99 then nI 100000 else c 144 + D)
set_option maxHeartbeats 4000000 in
theorem ct_X2_dueOf {G : GT} {l : Launch} {N : Nat} {S : ST} {c : Nat → Int32} {b t : Nat} {D bd : Int32} (hb : RB b) (ht : t < 8) (hD : S 22 t = D) (hN : 513 ≤ N) : CTi G l yX2_dueOf cX2_dueOf 4 (some .int) 1 [.ref (gZ G + b), .int (nI t), .int (bd)] N (put S b c) (cDue c D bd) (put S b c) := by
  have hbl := hb.le
  have hbg := hb.ge
  refine CT.mk "ScopeTasks$Run" [(0, .ref (gZ G + b)), (1, .int (nI t)), (2, .int (bd))] rfl (by decide) rfl (Nat.le_of_ble_eq_true rfl) ?_
  intro x hR hl hr hnm
  refine v_aload_n (pc := 0) 0 dX2_dueOf_0 rfl rfl ?_
  refine gX2_3 (pc := 1) hb hN dX2_dueOf_1 ?_
  refine gX2_107 (pc := 4) hN dX2_dueOf_4 ?_
  refine gX2_111 (pc := 7) TB_1 hN dX2_dueOf_7 ?_
  refine v_iload_n (pc := 10) 1 dX2_dueOf_10 rfl rfl ?_
  refine c_iald (pc := 11) (k := 1 + 21) (j := t) (IA_tree8 TB_1 (by decide)) (by omega) rfl (by omega) (by decide) dX2_dueOf_11 ?_
  refine v_topi (v := D) ((congrFun (put_ne (by omega)) _).trans hD) ?_
  refine v_istore_n (pc := 12) (lv' := [(3, .int (D)), (0, .ref (gZ G + b)), (1, .int (nI t)), (2, .int (bd))]) dX2_dueOf_12 rfl (by decide) rfl ?_
  refine v_iload_n (pc := 13) 3 dX2_dueOf_13 rfl rfl ?_
  refine v_iload_n (pc := 14) 0 dX2_dueOf_14 rfl rfl ?_
  refine v_bipush (pc := 15) (nI 99) dX2_dueOf_15 (by decide) ?_
  refine v_ic_ne (pc := 17) 25 dX2_dueOf_17 (by decide) (fun c1 => ?_) (fun c1 => ?_)
  · skip
    refine v_aload_n (pc := 25) 1 dX2_dueOf_25 rfl rfl ?_
    refine gX2_69 (pc := 26) hb hN dX2_dueOf_26 ?_
    refine v_topi (v := c 144) (pr_0) ?_
    refine v_iload_n (pc := 29) 0 dX2_dueOf_29 rfl rfl ?_
    refine v_iadd (pc := 30) dX2_dueOf_30 ?_
    refine v_mmin (pc := 31) q379 (by rw [hR]; decide) (by rw [hR]; exact Nat.le_of_ble_eq_true rfl) (Nat.zero_le _) (Nat.zero_le _) dX2_dueOf_31 ?_
    exact v_iret (pc := 34) hr rfl (Nat.le_refl _) (Nat.le_refl _) dX2_dueOf_34 (pI_mk (by unfold cDue; rw [if_neg c1]) (hC_c rfl))
  · skip
    refine v_ldc (pc := 20) q374 dX2_dueOf_20 ?_
    refine v_topi (v := nI 100000) (by decide) ?_
    refine v_goto (pc := 22) 31 dX2_dueOf_22 (by decide) ?_
    refine v_mmin (pc := 31) q379 (by rw [hR]; decide) (by rw [hR]; exact Nat.le_of_ble_eq_true rfl) (Nat.zero_le _) (Nat.zero_le _) dX2_dueOf_31 ?_
    exact v_iret (pc := 34) hr rfl (Nat.le_refl _) (Nat.le_refl _) dX2_dueOf_34 (pI_mk (by unfold cDue; rw [if_pos c1]) (hC_c rfl))

set_option maxHeartbeats 4000000 in
theorem ct_X2_trace {G : GT} {l : Launch} {N : Nat} {S : ST} {c : Nat → Int32} {b : Nat} {t w : Int32} (hb : RB b) (h5 : inN (c 145) 60) (hN : 513 ≤ N) : CTv G l yX2_trace cX2_trace 3 none 0 [.ref (gZ G + b), .int (t), .int (w)] N (put S b c) (put S b (rTr c t w)) := by
  have hbl := hb.le
  have hbg := hb.ge
  obtain ⟨h51, h52⟩ := h5
  generalize hk : nn (c 145) = k at h51 h52
  refine CT.mk "ScopeTasks$Run" [(0, .ref (gZ G + b)), (1, .int (t)), (2, .int (w))] rfl (by decide) rfl (Nat.le_of_ble_eq_true rfl) ?_
  intro x hR hl hr hnm
  refine v_aload_n (pc := 0) 0 dX2_trace_0 rfl rfl ?_
  refine gX2_76 (pc := 1) hb hN dX2_trace_1 ?_
  refine v_topi (v := nI k) ((pr_16).trans h51) ?_
  refine v_bipush (pc := 4) (nI 60) dX2_trace_4 (by decide) ?_
  refine v_ic_geN (pc := 6) 52 (by omega) (by omega) dX2_trace_6 (by decide) (fun c1 => ?_) (fun c1 => ?_)
  · skip
    exact v_vret (pc := 52) hr (Nat.le_refl _) (Nat.le_refl _) dX2_trace_52 (pV_mk (hC_c (congrArg (put S b) (by simp only [rTr, hk]; rw [h51]; rw [if_neg (fun z => absurd ((nI_ltI (by omega) (by decide)).mp z) (by omega))]))))
  · skip
    refine v_aload_n (pc := 9) 0 dX2_trace_9 rfl rfl ?_
    refine gX2_60 (pc := 10) hb hN dX2_trace_10 ?_
    refine v_aload_n (pc := 13) 0 dX2_trace_13 rfl rfl ?_
    refine gX2_76 (pc := 14) hb hN dX2_trace_14 ?_
    refine v_topi (v := nI k) ((pr_16).trans h51) ?_
    refine v_aload_n (pc := 17) 0 dX2_trace_17 rfl rfl ?_
    refine gX2_69 (pc := 18) hb hN dX2_trace_18 ?_
    refine v_topi (v := c 144) (pr_0) ?_
    refine c_iast (pc := 21) (k := b + 25) (j := k) (IA_run60 hb (by decide) (by decide)) (by omega) rfl (by omega) (by decide) dX2_trace_21 ?_
    refine v_S (pw_25 (by omega)) ?_
    refine v_aload_n (pc := 22) 0 dX2_trace_22 rfl rfl ?_
    refine gX2_63 (pc := 23) hb hN dX2_trace_23 ?_
    refine v_aload_n (pc := 26) 0 dX2_trace_26 rfl rfl ?_
    refine gX2_76 (pc := 27) hb hN dX2_trace_27 ?_
    refine v_topi (v := nI k) ((pr_16).trans ((pk_un (by omega)).trans h51)) ?_
    refine v_iload_n (pc := 30) 1 dX2_trace_30 rfl rfl ?_
    refine c_iast (pc := 31) (k := b + 26) (j := k) (IA_run60 hb (by decide) (by decide)) (by omega) rfl (by omega) (by decide) dX2_trace_31 ?_
    refine v_S (pw_26 (by omega)) ?_
    refine v_aload_n (pc := 32) 0 dX2_trace_32 rfl rfl ?_
    refine gX2_66 (pc := 33) hb hN dX2_trace_33 ?_
    refine v_aload_n (pc := 36) 0 dX2_trace_36 rfl rfl ?_
    refine gX2_76 (pc := 37) hb hN dX2_trace_37 ?_
    refine v_topi (v := nI k) ((pr_16).trans ((pk_un (by omega)).trans ((pk_un (by omega)).trans h51))) ?_
    refine v_iload_n (pc := 40) 2 dX2_trace_40 rfl rfl ?_
    refine c_iast (pc := 41) (k := b + 27) (j := k) (IA_run60 hb (by decide) (by decide)) (by omega) rfl (by omega) (by decide) dX2_trace_41 ?_
    refine v_S (pw_27 (by omega)) ?_
    refine v_aload_n (pc := 42) 0 dX2_trace_42 rfl rfl ?_
    refine v_dup (pc := 43) dX2_trace_43 rfl ?_
    refine gX2_76 (pc := 44) hb hN dX2_trace_44 ?_
    refine v_topi (v := nI k) ((pr_16).trans ((pk_un (by omega)).trans ((pk_un (by omega)).trans ((pk_un (by omega)).trans h51)))) ?_
    refine v_iconst (pc := 47) (nI 1) dX2_trace_47 (by decide) ?_
    refine v_iaddN (pc := 48) dX2_trace_48 ?_
    refine pX2_76 (pc := 49) hb hN dX2_trace_49 ?_
    refine v_S (pw_16) ?_
    exact v_vret (pc := 52) hr (Nat.le_refl _) (Nat.le_refl _) dX2_trace_52 (pV_mk (hC_c (congrArg (put S b) (by simp only [rTr, hk]; rw [h51]; rw [if_pos ((nI_ltI (by omega) (by decide)).mpr (by omega))]; simp only [nI_add]))))

set_option maxHeartbeats 4000000 in
theorem ct_X2_fail {G : GT} {l : Launch} {N : Nat} {S : ST} {c : Nat → Int32} {b t : Nat} {w : Int32} (hb : RB b) (ht : t < 8) (h5 : inN (c (18 * t + 9)) 8) (hN : 513 ≤ N) : CTv G l yX2_fail cX2_fail 3 none 0 [.ref (gZ G + b), .int (nI t), .int (w)] N (put S b c) (put S b (rCo c t w)) := by
  have hbl := hb.le
  have hbg := hb.ge
  obtain ⟨h51, h52⟩ := h5
  generalize hk : nn (c (18 * t + 9)) = k at h51 h52
  refine CT.mk "ScopeTasks$Run" [(0, .ref (gZ G + b)), (1, .int (nI t)), (2, .int (w))] rfl (by decide) rfl (Nat.le_of_ble_eq_true rfl) ?_
  intro x hR hl hr hnm
  refine v_aload_n (pc := 0) 0 dX2_fail_0 rfl rfl ?_
  refine gX2_52 (pc := 1) hb hN dX2_fail_1 ?_
  refine v_iload_n (pc := 4) 1 dX2_fail_4 rfl rfl ?_
  refine c_iald (pc := 5) (k := b + 15) (j := t) (IA_run8 hb (by decide) (by decide) (by decide)) (by omega) rfl (by omega) (by decide) dX2_fail_5 ?_
  refine v_topi (v := nI k) ((pr_15 (by omega)).trans h51) ?_
  refine v_bipush (pc := 6) (nI 8) dX2_fail_6 (by decide) ?_
  refine v_ic_geN (pc := 8) 35 (by omega) (by omega) dX2_fail_8 (by decide) (fun c1 => ?_) (fun c1 => ?_)
  · skip
    exact v_vret (pc := 35) hr (Nat.le_refl _) (Nat.le_refl _) dX2_fail_35 (pV_mk (hC_c (congrArg (put S b) (by simp only [rCo, hk]; rw [h51]; rw [if_neg (fun z => absurd ((nI_ltI (by omega) (by decide)).mp z) (by omega))]))))
  · skip
    refine v_aload_n (pc := 11) 0 dX2_fail_11 rfl rfl ?_
    refine gX2_57 (pc := 12) hb hN dX2_fail_12 ?_
    refine v_iload_n (pc := 15) 1 dX2_fail_15 rfl rfl ?_
    refine c_gridL (pc := 16) (b0 := b) (j := t) hb (by omega) rfl (by omega) dX2_fail_16 ?_
    refine v_aload_n (pc := 17) 0 dX2_fail_17 rfl rfl ?_
    refine gX2_52 (pc := 18) hb hN dX2_fail_18 ?_
    refine v_iload_n (pc := 21) 1 dX2_fail_21 rfl rfl ?_
    refine c_iald (pc := 22) (k := b + 15) (j := t) (IA_run8 hb (by decide) (by decide) (by decide)) (by omega) rfl (by omega) (by decide) dX2_fail_22 ?_
    refine v_topi (v := nI k) ((pr_15 (by omega)).trans h51) ?_
    refine v_iload_n (pc := 23) 2 dX2_fail_23 rfl rfl ?_
    refine c_iast (pc := 24) (k := b + 17 + t) (j := k) (IA_gridL hb (by omega)) (by omega) rfl (by omega) (by decide) dX2_fail_24 ?_
    refine v_S (pw_L (by omega) (by omega)) ?_
    refine v_aload_n (pc := 25) 0 dX2_fail_25 rfl rfl ?_
    refine gX2_52 (pc := 26) hb hN dX2_fail_26 ?_
    refine v_iload_n (pc := 29) 1 dX2_fail_29 rfl rfl ?_
    refine v_dup2 (pc := 30) dX2_fail_30 rfl rfl ?_
    refine c_iald (pc := 31) (k := b + 15) (j := t) (IA_run8 hb (by decide) (by decide) (by decide)) (by omega) rfl (by omega) (by decide) dX2_fail_31 ?_
    refine v_topi (v := nI k) ((pr_15 (by omega)).trans ((pk_un (by omega)).trans h51)) ?_
    refine v_iconst (pc := 32) (nI 1) dX2_fail_32 (by decide) ?_
    refine v_iaddN (pc := 33) dX2_fail_33 ?_
    refine c_iast (pc := 34) (k := b + 15) (j := t) (IA_run8 hb (by decide) (by decide) (by decide)) (by omega) rfl (by omega) (by decide) dX2_fail_34 ?_
    refine v_S (pw_15 (by omega)) ?_
    exact v_vret (pc := 35) hr (Nat.le_refl _) (Nat.le_refl _) dX2_fail_35 (pV_mk (hC_c (congrArg (put S b) (by simp only [rCo, hk]; rw [h51]; rw [if_pos ((nI_ltI (by omega) (by decide)).mpr (by omega))]; simp only [nI_add]))))

