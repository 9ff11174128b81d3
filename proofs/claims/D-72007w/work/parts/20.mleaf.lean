set_option maxRecDepth 100000
/-! ScopeTasksModel: leaves -/
theorem IA_514 : IA 514 120 := IA_m (by decide) (by decide) (by decide)
theorem IA_515 : IA 515 8 := IA_m (by decide) (by decide) (by decide)
theorem IA_516 : IA 516 8 := IA_m (by decide) (by decide) (by decide)
theorem IA_517 : IA 517 96 := IA_m (by decide) (by decide) (by decide)
theorem IA_518 : IA 518 8 := IA_m (by decide) (by decide) (by decide)
theorem IA_519 : IA 519 8 := IA_m (by decide) (by decide) (by decide)
theorem IA_520 : IA 520 8 := IA_m (by decide) (by decide) (by decide)
theorem IA_521 : IA 521 8 := IA_m (by decide) (by decide) (by decide)
theorem IA_522 : IA 522 8 := IA_m (by decide) (by decide) (by decide)
theorem IA_523 : IA 523 96 := IA_m (by decide) (by decide) (by decide)
theorem IA_524 : IA 524 8 := IA_m (by decide) (by decide) (by decide)
theorem IA_525 : IA 525 8 := IA_m (by decide) (by decide) (by decide)
theorem IA_526 : IA 526 8 := IA_m (by decide) (by decide) (by decide)
theorem IA_527 : IA 527 326 := IA_m (by decide) (by decide) (by decide)
theorem IA_528 : IA 528 326 := IA_m (by decide) (by decide) (by decide)
theorem IA_529 : IA 529 3912 := IA_m (by decide) (by decide) (by decide)
theorem IA_530 : IA 530 6 := IA_m (by decide) (by decide) (by decide)
theorem IA_531 : IA 531 6 := IA_m (by decide) (by decide) (by decide)
theorem IA_532 : IA 532 6 := IA_m (by decide) (by decide) (by decide)
theorem IA_534 : IA 534 652 := IA_m (by decide) (by decide) (by decide)
/-- the row of a run: the trace's next line -/
def rTr (g : Nat → Int32) (t w : Int32) : Nat → Int32 := if g 145 < nI 60 then upd (upd (upd (upd g (146 + 3 * nn (g 145)) (g 144)) (146 + 3 * nn (g 145) + 1) t) (146 + 3 * nn (g 145) + 2) w) 145 (g 145 + nI 1) else g
/-- a code more of a task, if there is room -/
def rCo (g : Nat → Int32) (t : Nat) (code : Int32) : Nat → Int32 := if g (18 * t + 9) < nI 8 then upd (upd g (18 * t + 10 + nn (g (18 * t + 9))) code) (18 * t + 9) (g (18 * t + 9) + nI 1) else g
set_option maxHeartbeats 4000000 in
theorem ct_X3_in {G : GT} {l : Launch} {N : Nat} {S : ST} {v lo hi : Int32}  : CTi G l yX3_in cX3_in 3 (some .boolean) 0 [.int (v), .int (lo), .int (hi)] N (S) (bI (lo ≤ v ∧ v ≤ hi)) (S) := by
  refine CT.mk "ScopeTasksModel" [(0, .int (v)), (1, .int (lo)), (2, .int (hi))] rfl (by decide) rfl (Nat.le_of_ble_eq_true rfl) ?_
  intro x hR hl hr hnm
  refine v_iload_n (pc := 0) 0 dX3_in_0 rfl rfl ?_
  refine v_iload_n (pc := 1) 1 dX3_in_1 rfl rfl ?_
  refine v_ic_lt (pc := 2) 14 dX3_in_2 (by decide) (fun c1 => ?_) (fun c1 => ?_)
  · skip
    refine v_iconst (pc := 14) (nI 0) dX3_in_14 (by decide) ?_
    exact v_iret (pc := 15) hr rfl (Nat.le_refl _) (Nat.le_refl _) dX3_in_15 (pI_mk (bI_f (by first | assumption | (simp only [Int32.le_iff_toInt_le, Int32.lt_iff_toInt_lt] at *; omega))) (hC_c rfl))
  · skip
    refine v_iload_n (pc := 5) 0 dX3_in_5 rfl rfl ?_
    refine v_iload_n (pc := 6) 2 dX3_in_6 rfl rfl ?_
    refine v_ic_gt (pc := 7) 14 dX3_in_7 (by decide) (fun c2 => ?_) (fun c2 => ?_)
    · skip
      refine v_iconst (pc := 14) (nI 0) dX3_in_14 (by decide) ?_
      exact v_iret (pc := 15) hr rfl (Nat.le_refl _) (Nat.le_refl _) dX3_in_15 (pI_mk (bI_f (by first | assumption | (simp only [Int32.le_iff_toInt_le, Int32.lt_iff_toInt_lt] at *; omega))) (hC_c rfl))
    · skip
      refine v_iconst (pc := 10) (nI 1) dX3_in_10 (by decide) ?_
      refine v_goto (pc := 11) 15 dX3_in_11 (by decide) ?_
      exact v_iret (pc := 15) hr rfl (Nat.le_refl _) (Nat.le_refl _) dX3_in_15 (pI_mk (bI_t (by first | assumption | (simp only [Int32.le_iff_toInt_le, Int32.lt_iff_toInt_lt] at *; omega))) (hC_c rfl))

set_option maxHeartbeats 4000000 in
theorem ct_X3_at {G : GT} {l : Launch} {N : Nat} {S : ST} {g : Nat → Int32} {a t w : Nat} (ha : RA a) (ht : 18 * t + w < 326) (hN : 535 ≤ N) : CTi G l yX3_at cX3_at 3 (some .int) 0 [.ref (gZ G + a), .int (nI t), .int (nI w)] N (s1 S a g) (g (18 * t + w)) (s1 S a g) := by
  have hal := ha.lt
  have hag := ha.ge
  refine CT.mk "ScopeTasksModel" [(0, .ref (gZ G + a)), (1, .int (nI t)), (2, .int (nI w))] rfl (by decide) rfl (Nat.le_of_ble_eq_true rfl) ?_
  intro x hR hl hr hnm
  refine v_aload_n (pc := 0) 0 dX3_at_0 rfl rfl ?_
  refine v_bipush (pc := 1) (nI 18) dX3_at_1 (by decide) ?_
  refine v_iload_n (pc := 3) 1 dX3_at_3 rfl rfl ?_
  refine v_imulN (pc := 4) dX3_at_4 ?_
  refine v_iload_n (pc := 5) 2 dX3_at_5 rfl rfl ?_
  refine v_iaddN (pc := 6) dX3_at_6 ?_
  refine c_iald (pc := 7) (k := a) (j := 18 * t + w) (IA_row ha) (by omega) rfl (by omega) (by decide) dX3_at_7 ?_
  refine v_topi (v := g (18 * t + w)) (congrFun (s1_at _ _ _) _) ?_
  exact v_iret (pc := 8) hr rfl (Nat.le_refl _) (Nat.le_refl _) dX3_at_8 (pI_mk rfl (hC_c rfl))

set_option maxHeartbeats 4000000 in
theorem ct_X3_isHow {G : GT} {l : Launch} {N : Nat} {S : ST} {g : Nat → Int32} {a t : Nat} {w : Int32} (ha : RA a) (ht : t < 8) (hN : 535 ≤ N) : CTi G l yX3_isHow cX3_isHow 3 (some .boolean) 0 [.ref (gZ G + a), .int (nI t), .int (w)] N (s1 S a g) (bI (g (18 * t) = w)) (s1 S a g) := by
  have hal := ha.lt
  have hag := ha.ge
  refine CT.mk "ScopeTasksModel" [(0, .ref (gZ G + a)), (1, .int (nI t)), (2, .int (w))] rfl (by decide) rfl (Nat.le_of_ble_eq_true rfl) ?_
  intro x hR hl hr hnm
  refine v_aload_n (pc := 0) 0 dX3_isHow_0 rfl rfl ?_
  refine v_bipush (pc := 1) (nI 18) dX3_isHow_1 (by decide) ?_
  refine v_iload_n (pc := 3) 1 dX3_isHow_3 rfl rfl ?_
  refine v_imulN (pc := 4) dX3_isHow_4 ?_
  refine v_iconst (pc := 5) (nI 0) dX3_isHow_5 (by decide) ?_
  refine v_iaddN (pc := 6) dX3_isHow_6 ?_
  refine c_iald (pc := 7) (k := a) (j := 18 * t) (IA_row ha) (by omega) rfl (by omega) (by decide) dX3_isHow_7 ?_
  refine v_topi (v := g (18 * t)) (congrFun (s1_at _ _ _) _) ?_
  refine v_iload_n (pc := 8) 2 dX3_isHow_8 rfl rfl ?_
  refine v_ic_ne (pc := 9) 16 dX3_isHow_9 (by decide) (fun c1 => ?_) (fun c1 => ?_)
  · skip
    refine v_iconst (pc := 16) (nI 0) dX3_isHow_16 (by decide) ?_
    exact v_iret (pc := 17) hr rfl (Nat.le_refl _) (Nat.le_refl _) dX3_isHow_17 (pI_mk (bI_f (by assumption)) (hC_c rfl))
  · skip
    refine v_iconst (pc := 12) (nI 1) dX3_isHow_12 (by decide) ?_
    refine v_goto (pc := 13) 17 dX3_isHow_13 (by decide) ?_
    exact v_iret (pc := 17) hr rfl (Nat.le_refl _) (Nat.le_refl _) dX3_isHow_17 (pI_mk (bI_t (by assumption)) (hC_c rfl))

set_option maxHeartbeats 4000000 in
theorem ct_X3_traces {G : GT} {l : Launch} {N : Nat} {S : ST} {g : Nat → Int32} {a : Nat} {t w : Int32} (ha : RA a) (h5 : inN (g 145) 60) (hN : 535 ≤ N) : CTv G l yX3_traces cX3_traces 4 none 0 [.ref (gZ G + a), .int (t), .int (w)] N (s1 S a g) (s1 S a (rTr g t w)) := by
  have hal := ha.lt
  have hag := ha.ge
  obtain ⟨h51, h52⟩ := h5
  generalize hk : nn (g 145) = k at h51 h52
  refine CT.mk "ScopeTasksModel" [(0, .ref (gZ G + a)), (1, .int (t)), (2, .int (w))] rfl (by decide) rfl (Nat.le_of_ble_eq_true rfl) ?_
  intro x hR hl hr hnm
  refine v_aload_n (pc := 0) 0 dX3_traces_0 rfl rfl ?_
  refine v_sipush (pc := 1) (nI 145) dX3_traces_1 (by decide) ?_
  refine c_iald (pc := 4) (k := a) (j := 145) (IA_row ha) (by omega) rfl (by omega) (by decide) dX3_traces_4 ?_
  refine v_topi (v := nI k) ((congrFun (s1_at _ _ _) _).trans h51) ?_
  refine v_bipush (pc := 5) (nI 60) dX3_traces_5 (by decide) ?_
  refine v_ic_geN (pc := 7) 51 (by omega) (by omega) dX3_traces_7 (by decide) (fun c1 => ?_) (fun c1 => ?_)
  · skip
    exact v_vret (pc := 51) hr (Nat.le_refl _) (Nat.le_refl _) dX3_traces_51 (pV_mk (hC_c (congrArg (s1 S a) (by simp only [rTr, hk]; rw [h51]; rw [if_neg (fun z => absurd ((nI_ltI (by omega) (by decide)).mp z) (by omega))]))))
  · skip
    refine v_sipush (pc := 10) (nI 146) dX3_traces_10 (by decide) ?_
    refine v_iconst (pc := 13) (nI 3) dX3_traces_13 (by decide) ?_
    refine v_aload_n (pc := 14) 0 dX3_traces_14 rfl rfl ?_
    refine v_sipush (pc := 15) (nI 145) dX3_traces_15 (by decide) ?_
    refine c_iald (pc := 18) (k := a) (j := 145) (IA_row ha) (by omega) rfl (by omega) (by decide) dX3_traces_18 ?_
    refine v_topi (v := nI k) ((congrFun (s1_at _ _ _) _).trans h51) ?_
    refine v_imulN (pc := 19) dX3_traces_19 ?_
    refine v_iaddN (pc := 20) dX3_traces_20 ?_
    refine v_istore_n (pc := 21) (lv' := [(3, .int (nI (146 + 3 * k))), (0, .ref (gZ G + a)), (1, .int (t)), (2, .int (w))]) dX3_traces_21 rfl (by decide) rfl ?_
    refine v_aload_n (pc := 22) 1 dX3_traces_22 rfl rfl ?_
    refine v_iload_n (pc := 23) 0 dX3_traces_23 rfl rfl ?_
    refine v_aload_n (pc := 24) 1 dX3_traces_24 rfl rfl ?_
    refine v_sipush (pc := 25) (nI 144) dX3_traces_25 (by decide) ?_
    refine c_iald (pc := 28) (k := a) (j := 144) (IA_row ha) (by omega) rfl (by omega) (by decide) dX3_traces_28 ?_
    refine v_topi (v := g 144) (congrFun (s1_at _ _ _) _) ?_
    refine c_iast (pc := 29) (k := a) (j := 146 + 3 * k) (IA_row ha) (by omega) rfl (by omega) (by decide) dX3_traces_29 ?_
    refine v_S (s2_s1 _ _ _ _ _) ?_
    refine v_aload_n (pc := 30) 1 dX3_traces_30 rfl rfl ?_
    refine v_iload_n (pc := 31) 0 dX3_traces_31 rfl rfl ?_
    refine v_iconst (pc := 32) (nI 1) dX3_traces_32 (by decide) ?_
    refine v_iaddN (pc := 33) dX3_traces_33 ?_
    refine v_iload_n (pc := 34) 2 dX3_traces_34 rfl rfl ?_
    refine c_iast (pc := 35) (k := a) (j := 146 + 3 * k + 1) (IA_row ha) (by omega) rfl (by omega) (by decide) dX3_traces_35 ?_
    refine v_S (s2_s1 _ _ _ _ _) ?_
    refine v_aload_n (pc := 36) 1 dX3_traces_36 rfl rfl ?_
    refine v_iload_n (pc := 37) 0 dX3_traces_37 rfl rfl ?_
    refine v_iconst (pc := 38) (nI 2) dX3_traces_38 (by decide) ?_
    refine v_iaddN (pc := 39) dX3_traces_39 ?_
    refine v_iload_n (pc := 40) 3 dX3_traces_40 rfl rfl ?_
    refine c_iast (pc := 41) (k := a) (j := 146 + 3 * k + 2) (IA_row ha) (by omega) rfl (by omega) (by decide) dX3_traces_41 ?_
    refine v_S (s2_s1 _ _ _ _ _) ?_
    refine v_aload_n (pc := 42) 1 dX3_traces_42 rfl rfl ?_
    refine v_sipush (pc := 43) (nI 145) dX3_traces_43 (by decide) ?_
    refine v_dup2 (pc := 46) dX3_traces_46 rfl rfl ?_
    refine c_iald (pc := 47) (k := a) (j := 145) (IA_row ha) (by omega) rfl (by omega) (by decide) dX3_traces_47 ?_
    refine v_topi (v := nI k) ((congrFun (s1_at _ _ _) _).trans ((pk_un (by omega)).trans ((pk_un (by omega)).trans ((pk_un (by omega)).trans h51)))) ?_
    refine v_iconst (pc := 48) (nI 1) dX3_traces_48 (by decide) ?_
    refine v_iaddN (pc := 49) dX3_traces_49 ?_
    refine c_iast (pc := 50) (k := a) (j := 145) (IA_row ha) (by omega) rfl (by omega) (by decide) dX3_traces_50 ?_
    refine v_S (s2_s1 _ _ _ _ _) ?_
    exact v_vret (pc := 51) hr (Nat.le_refl _) (Nat.le_refl _) dX3_traces_51 (pV_mk (hC_c (congrArg (s1 S a) (by simp only [rTr, hk]; rw [h51]; rw [if_pos ((nI_ltI (by omega) (by decide)).mpr (by omega))]; simp only [nI_add]))))

set_option maxHeartbeats 4000000 in
theorem ct_X3_codes {G : GT} {l : Launch} {N : Nat} {S : ST} {g : Nat → Int32} {a t : Nat} {code : Int32} (ha : RA a) (ht : t < 8) (h5 : inN (g (18 * t + 9)) 8) (hN : 535 ≤ N) : CTv G l yX3_codes cX3_codes 3 none 1 [.ref (gZ G + a), .int (nI t), .int (code)] N (s1 S a g) (s1 S a (rCo g t code)) := by
  have hal := ha.lt
  have hag := ha.ge
  obtain ⟨h51, h52⟩ := h5
  generalize hk : nn (g (18 * t + 9)) = k at h51 h52
  refine CT.mk "ScopeTasksModel" [(0, .ref (gZ G + a)), (1, .int (nI t)), (2, .int (code))] rfl (by decide) rfl (Nat.le_of_ble_eq_true rfl) ?_
  intro x hR hl hr hnm
  refine v_aload_n (pc := 0) 0 dX3_codes_0 rfl rfl ?_
  refine v_iload_n (pc := 1) 1 dX3_codes_1 rfl rfl ?_
  refine v_bipush (pc := 2) (nI 9) dX3_codes_2 (by decide) ?_
  refine c_callSi (pc := 4) (st := []) (ct_X3_at (S := S) (a := a) (t := t) (w := 9) (g := g) ha (by omega) (by omega)) kVX3_161 kDX3_161 (rm_ok hR (Nat.le_of_ble_eq_true rfl) (Nat.le_of_ble_eq_true rfl)) ⟨Nat.zero_le _, Nat.zero_le _⟩ rfl rfl (Nat.le_of_ble_eq_true rfl) dX3_codes_4 ?_
  refine v_topi (v := nI k) h51 ?_
  refine v_bipush (pc := 7) (nI 8) dX3_codes_7 (by decide) ?_
  refine v_ic_geN (pc := 9) 43 (by omega) (by omega) dX3_codes_9 (by decide) (fun c1 => ?_) (fun c1 => ?_)
  · skip
    exact v_vret (pc := 43) hr (Nat.le_refl _) (Nat.le_refl _) dX3_codes_43 (pV_mk (hC_c (congrArg (s1 S a) (by simp only [rCo, hk]; rw [h51]; rw [if_neg (fun z => absurd ((nI_ltI (by omega) (by decide)).mp z) (by omega))]))))
  · skip
    refine v_aload_n (pc := 12) 0 dX3_codes_12 rfl rfl ?_
    refine v_bipush (pc := 13) (nI 18) dX3_codes_13 (by decide) ?_
    refine v_iload_n (pc := 15) 1 dX3_codes_15 rfl rfl ?_
    refine v_imulN (pc := 16) dX3_codes_16 ?_
    refine v_bipush (pc := 17) (nI 10) dX3_codes_17 (by decide) ?_
    refine v_iaddN (pc := 19) dX3_codes_19 ?_
    refine v_aload_n (pc := 20) 0 dX3_codes_20 rfl rfl ?_
    refine v_iload_n (pc := 21) 1 dX3_codes_21 rfl rfl ?_
    refine v_bipush (pc := 22) (nI 9) dX3_codes_22 (by decide) ?_
    refine c_callSi (pc := 24) (st := [.int (nI (18 * t + 10)), .ref (gZ G + a)]) (ct_X3_at (S := S) (a := a) (t := t) (w := 9) (g := g) ha (by omega) (by omega)) kVX3_161 kDX3_161 (rm_ok hR (Nat.le_of_ble_eq_true rfl) (Nat.le_of_ble_eq_true rfl)) ⟨Nat.zero_le _, Nat.zero_le _⟩ rfl rfl (Nat.le_of_ble_eq_true rfl) dX3_codes_24 ?_
    refine v_topi (v := nI k) h51 ?_
    refine v_iaddN (pc := 27) dX3_codes_27 ?_
    refine v_iload_n (pc := 28) 2 dX3_codes_28 rfl rfl ?_
    refine c_iast (pc := 29) (k := a) (j := 18 * t + 10 + k) (IA_row ha) (by omega) rfl (by omega) (by decide) dX3_codes_29 ?_
    refine v_S (s2_s1 _ _ _ _ _) ?_
    refine v_aload_n (pc := 30) 0 dX3_codes_30 rfl rfl ?_
    refine v_bipush (pc := 31) (nI 18) dX3_codes_31 (by decide) ?_
    refine v_iload_n (pc := 33) 1 dX3_codes_33 rfl rfl ?_
    refine v_imulN (pc := 34) dX3_codes_34 ?_
    refine v_bipush (pc := 35) (nI 9) dX3_codes_35 (by decide) ?_
    refine v_iaddN (pc := 37) dX3_codes_37 ?_
    refine v_dup2 (pc := 38) dX3_codes_38 rfl rfl ?_
    refine c_iald (pc := 39) (k := a) (j := 18 * t + 9) (IA_row ha) (by omega) rfl (by omega) (by decide) dX3_codes_39 ?_
    refine v_topi (v := nI k) ((congrFun (s1_at _ _ _) _).trans ((pk_un (by omega)).trans h51)) ?_
    refine v_iconst (pc := 40) (nI 1) dX3_codes_40 (by decide) ?_
    refine v_iaddN (pc := 41) dX3_codes_41 ?_
    refine c_iast (pc := 42) (k := a) (j := 18 * t + 9) (IA_row ha) (by omega) rfl (by omega) (by decide) dX3_codes_42 ?_
    refine v_S (s2_s1 _ _ _ _ _) ?_
    exact v_vret (pc := 43) hr (Nat.le_refl _) (Nat.le_refl _) dX3_codes_43 (pV_mk (hC_c (congrArg (s1 S a) (by simp only [rCo, hk]; rw [h51]; rw [if_pos ((nI_ltI (by omega) (by decide)).mpr (by omega))]; simp only [nI_add]))))

