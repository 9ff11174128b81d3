set_option maxRecDepth 100000
/-! ScopeTasksModel: ends, spares, wellBy, fits -/
set_option maxHeartbeats 4000000 in
theorem ct_X3_ends_2 {G : GT} {l : Launch} {N : Nat} {S : ST} {t w : Int32} (hS : MI S) (hJ : RJ S (S 527)) (hN : 535 ≤ N) : CTi G l yX3_ends_2 cX3_ends_2 3 (some .int) 7 [.ref (gZ G + 513), .int (t), .int (w)] N (S) (mEndsV S t w) (mEndsS S t w) := by
  have hn8 := hS.n
  have hn1 := hS.2.1
  refine CT.mk "ScopeTasksModel" [(0, .ref (gZ G + 513)), (1, .int (t)), (2, .int (w))] rfl (by decide) rfl (Nat.le_of_ble_eq_true rfl) ?_
  intro x hR hl hr hnm
  refine v_aload_n (pc := 0) 0 dX3_ends_2_0 rfl rfl ?_
  refine v_iload_n (pc := 1) 1 dX3_ends_2_1 rfl rfl ?_
  refine c_callVi (pc := 2) (st := []) (ci := 3) (ct_X3_isTask (S := S) (t := t) hS (by omega)) kVX3_214 kDX3_214 (rm_ok hR (Nat.le_of_ble_eq_true rfl) (Nat.le_of_ble_eq_true rfl)) ⟨Nat.zero_le _, Nat.zero_le _⟩ (by omega) (rfl) rfl rfl rfl rfl (Nat.le_of_ble_eq_true rfl) dX3_ends_2_2 ?_
  refine v_if_eqB (pc := 5) 17 dX3_ends_2_5 (by decide) (fun c1 => ?_) (fun c1 => ?_)
  · skip
    refine v_iconst (pc := 17) ((-1)) dX3_ends_2_17 (by decide) ?_
    exact v_iret (pc := 18) hr rfl (Nat.le_refl _) (Nat.le_refl _) dX3_ends_2_18 (pI_mk (by unfold mEndsV; rw [if_neg (fun z => c1 z.1)]) (hC_c (by unfold mEndsS; rw [if_neg (fun z => c1 z.1)])))
  · skip
    obtain ⟨j, hjL, rfl⟩ := in_nat (n := mN S - 1) (by omega) c1
    have hj8 : j < 8 := by omega
    have hjn : nn (nI j) = j := nn_nI (by omega)
    refine v_iload_n (pc := 8) 2 dX3_ends_2_8 rfl rfl ?_
    refine v_iconst (pc := 9) (nI 0) dX3_ends_2_9 (by decide) ?_
    refine v_iconst (pc := 10) (nI 1) dX3_ends_2_10 (by decide) ?_
    refine c_callSi (pc := 11) (st := []) (ct_X3_in (S := S) (v := w) (lo := nI 0) (hi := nI 1) ) kVX3_80 kDX3_80 (rm_ok hR (Nat.le_of_ble_eq_true rfl) (Nat.le_of_ble_eq_true rfl)) ⟨Nat.zero_le _, Nat.zero_le _⟩ rfl rfl (Nat.le_of_ble_eq_true rfl) dX3_ends_2_11 ?_
    refine v_if_neB (pc := 14) 19 dX3_ends_2_14 (by decide) (fun c2 => ?_) (fun c2 => ?_)
    · skip
      refine v_aload_n (pc := 19) 0 dX3_ends_2_19 rfl rfl ?_
      refine gX3_49 (pc := 20) hN dX3_ends_2_20 ?_
      refine v_aload_n (pc := 23) 0 dX3_ends_2_23 rfl rfl ?_
      refine gX3_52 (pc := 24) hN dX3_ends_2_24 ?_
      refine v_S (s1_of (k := 528) (f := S 528) rfl) ?_
      refine c_callSv (pc := 27) (st := []) (ct_X3_copies (S := S) (g := S 528) (by omega)) kVX3_221 kDX3_221 (rm_ok hR (Nat.le_of_ble_eq_true rfl) (Nat.le_of_ble_eq_true rfl)) ⟨Nat.zero_le _, Nat.zero_le _⟩ rfl rfl (Nat.le_of_ble_eq_true rfl) dX3_ends_2_27 ?_
      refine v_aload_n (pc := 30) 0 dX3_ends_2_30 rfl rfl ?_
      refine v_sipush (pc := 31) (nI 200) dX3_ends_2_31 (by decide) ?_
      refine c_callVv (pc := 34) (st := []) (ci := 3) (ct_X3_goesOn (S := S) (w := 200) (g := S 527) hS hJ (by omega) (by omega)) kVX3_225 kDX3_225 (rm_ok hR (Nat.le_of_ble_eq_true rfl) (Nat.le_of_ble_eq_true rfl)) ⟨Nat.zero_le _, Nat.zero_le _⟩ (by omega) (rfl) rfl rfl rfl rfl (Nat.le_of_ble_eq_true rfl) dX3_ends_2_34 ?_
      refine v_aload_n (pc := 37) 0 dX3_ends_2_37 rfl rfl ?_
      refine gX3_52 (pc := 38) hN dX3_ends_2_38 ?_
      refine v_iload_n (pc := 41) 1 dX3_ends_2_41 rfl rfl ?_
      refine v_iconst (pc := 42) (nI 3) dX3_ends_2_42 (by decide) ?_
      refine c_callSi (pc := 43) (st := []) (ct_X3_isHow (S := S) (a := 528) (t := j) (w := nI 3) (g := rGo S 200 (S 527)) (Or.inr rfl) (by omega) (by omega)) kVX3_165 kDX3_165 (rm_ok hR (Nat.le_of_ble_eq_true rfl) (Nat.le_of_ble_eq_true rfl)) ⟨Nat.zero_le _, Nat.zero_le _⟩ rfl rfl (Nat.le_of_ble_eq_true rfl) dX3_ends_2_43 ?_
      refine v_if_neB (pc := 46) 54 dX3_ends_2_46 (by decide) (fun c3 => ?_) (fun c3 => ?_)
      · skip
        refine v_aload_n (pc := 54) 0 dX3_ends_2_54 rfl rfl ?_
        refine gX3_52 (pc := 55) hN dX3_ends_2_55 ?_
        refine v_iload_n (pc := 58) 1 dX3_ends_2_58 rfl rfl ?_
        refine v_iload_n (pc := 59) 2 dX3_ends_2_59 rfl rfl ?_
        refine v_if_ne (pc := 60) 68 dX3_ends_2_60 (by decide) (fun c4 => ?_) (fun c4 => ?_)
        · skip
          refine v_iconst (pc := 68) (nI 1) dX3_ends_2_68 (by decide) ?_
          refine c_callSi (pc := 69) (st := []) (ct_X3_at (S := S) (a := 528) (t := j) (w := 1) (g := rGo S 200 (S 527)) (Or.inr rfl) (by omega) (by omega)) kVX3_161 kDX3_161 (rm_ok hR (Nat.le_of_ble_eq_true rfl) (Nat.le_of_ble_eq_true rfl)) ⟨Nat.zero_le _, Nat.zero_le _⟩ rfl rfl (Nat.le_of_ble_eq_true rfl) dX3_ends_2_69 ?_
          exact v_iret (pc := 72) hr rfl (Nat.le_refl _) (Nat.le_refl _) dX3_ends_2_72 (pI_mk (by unfold mEndsV; rw [if_pos ⟨c1, c2⟩, hjn, if_pos c3, if_neg c4]) (hC_c (by unfold mEndsS; rw [if_pos ⟨c1, c2⟩])))
        · skip
          refine v_bipush (pc := 63) (nI 8) dX3_ends_2_63 (by decide) ?_
          refine v_goto (pc := 65) 69 dX3_ends_2_65 (by decide) ?_
          refine c_callSi (pc := 69) (st := []) (ct_X3_at (S := S) (a := 528) (t := j) (w := 8) (g := rGo S 200 (S 527)) (Or.inr rfl) (by omega) (by omega)) kVX3_161 kDX3_161 (rm_ok hR (Nat.le_of_ble_eq_true rfl) (Nat.le_of_ble_eq_true rfl)) ⟨Nat.zero_le _, Nat.zero_le _⟩ rfl rfl (Nat.le_of_ble_eq_true rfl) dX3_ends_2_69 ?_
          exact v_iret (pc := 72) hr rfl (Nat.le_refl _) (Nat.le_refl _) dX3_ends_2_72 (pI_mk (by unfold mEndsV; rw [if_pos ⟨c1, c2⟩, hjn, if_pos c3, if_pos c4]) (hC_c (by unfold mEndsS; rw [if_pos ⟨c1, c2⟩])))
      · skip
        refine v_bipush (pc := 49) ((-9)) dX3_ends_2_49 (by decide) ?_
        refine v_goto (pc := 51) 72 dX3_ends_2_51 (by decide) ?_
        exact v_iret (pc := 72) hr rfl (Nat.le_refl _) (Nat.le_refl _) dX3_ends_2_72 (pI_mk (by unfold mEndsV; rw [if_pos ⟨c1, c2⟩, hjn, if_neg c3]) (hC_c (by unfold mEndsS; rw [if_pos ⟨c1, c2⟩])))
    · skip
      refine v_iconst (pc := 17) ((-1)) dX3_ends_2_17 (by decide) ?_
      exact v_iret (pc := 18) hr rfl (Nat.le_refl _) (Nat.le_refl _) dX3_ends_2_18 (pI_mk (by unfold mEndsV; rw [if_neg (fun z => c2 z.2)]) (hC_c (by unfold mEndsS; rw [if_neg (fun z => c2 z.2)])))

set_option maxHeartbeats 4000000 in
theorem ct_X3_spares {G : GT} {l : Launch} {N : Nat} {S : ST} {t : Int32} (hS : MI S) (hJ : RJ S (S 527)) (hN : 535 ≤ N) : CTi G l yX3_spares cX3_spares 3 (some .int) 7 [.ref (gZ G + 513), .int (t)] N (S) (mSparesV S t) (mSparesS S t) := by
  have hn8 := hS.n
  have hn1 := hS.2.1
  refine CT.mk "ScopeTasksModel" [(0, .ref (gZ G + 513)), (1, .int (t))] rfl (by decide) rfl (Nat.le_of_ble_eq_true rfl) ?_
  intro x hR hl hr hnm
  refine v_aload_n (pc := 0) 0 dX3_spares_0 rfl rfl ?_
  refine v_iload_n (pc := 1) 1 dX3_spares_1 rfl rfl ?_
  refine c_callVi (pc := 2) (st := []) (ci := 3) (ct_X3_isTask (S := S) (t := t) hS (by omega)) kVX3_214 kDX3_214 (rm_ok hR (Nat.le_of_ble_eq_true rfl) (Nat.le_of_ble_eq_true rfl)) ⟨Nat.zero_le _, Nat.zero_le _⟩ (by omega) (rfl) rfl rfl rfl rfl (Nat.le_of_ble_eq_true rfl) dX3_spares_2 ?_
  refine v_if_eqB (pc := 5) 20 dX3_spares_5 (by decide) (fun c1 => ?_) (fun c1 => ?_)
  · skip
    refine v_ldc (pc := 20) q1216 dX3_spares_20 ?_
    exact v_iret (pc := 22) hr rfl (Nat.le_refl _) (Nat.le_refl _) dX3_spares_22 (pI_mk (by unfold mSparesV; rw [if_neg (fun z => c1 z.1)]) (hC_c (by unfold mSparesS; rw [if_neg (fun z => c1 z.1)])))
  · skip
    obtain ⟨j, hjL, rfl⟩ := in_nat (n := mN S - 1) (by omega) c1
    have hj8 : j < 8 := by omega
    have hjn : nn (nI j) = j := nn_nI (by omega)
    refine v_aload_n (pc := 8) 0 dX3_spares_8 rfl rfl ?_
    refine gX3_49 (pc := 9) hN dX3_spares_9 ?_
    refine v_iload_n (pc := 12) 1 dX3_spares_12 rfl rfl ?_
    refine v_iconst (pc := 13) (nI 1) dX3_spares_13 (by decide) ?_
    refine v_S (s1_of (k := 527) (f := S 527) rfl) ?_
    refine c_callSi (pc := 14) (st := []) (ct_X3_isHow (S := S) (a := 527) (t := j) (w := nI 1) (g := S 527) (Or.inl rfl) (by omega) (by omega)) kVX3_165 kDX3_165 (rm_ok hR (Nat.le_of_ble_eq_true rfl) (Nat.le_of_ble_eq_true rfl)) ⟨Nat.zero_le _, Nat.zero_le _⟩ rfl rfl (Nat.le_of_ble_eq_true rfl) dX3_spares_14 ?_
    refine v_S (s1_of (k := 527) (f := S 527) rfl).symm ?_
    refine v_if_neB (pc := 17) 23 dX3_spares_17 (by decide) (fun c2 => ?_) (fun c2 => ?_)
    · skip
      refine v_aload_n (pc := 23) 0 dX3_spares_23 rfl rfl ?_
      refine gX3_49 (pc := 24) hN dX3_spares_24 ?_
      refine v_aload_n (pc := 27) 0 dX3_spares_27 rfl rfl ?_
      refine gX3_52 (pc := 28) hN dX3_spares_28 ?_
      refine v_S (s1_of (k := 528) (f := S 528) rfl) ?_
      refine c_callSv (pc := 31) (st := []) (ct_X3_copies (S := S) (g := S 528) (by omega)) kVX3_221 kDX3_221 (rm_ok hR (Nat.le_of_ble_eq_true rfl) (Nat.le_of_ble_eq_true rfl)) ⟨Nat.zero_le _, Nat.zero_le _⟩ rfl rfl (Nat.le_of_ble_eq_true rfl) dX3_spares_31 ?_
      refine v_aload_n (pc := 34) 0 dX3_spares_34 rfl rfl ?_
      refine v_sipush (pc := 35) (nI 200) dX3_spares_35 (by decide) ?_
      refine c_callVv (pc := 38) (st := []) (ci := 3) (ct_X3_goesOn (S := S) (w := 200) (g := S 527) hS hJ (by omega) (by omega)) kVX3_225 kDX3_225 (rm_ok hR (Nat.le_of_ble_eq_true rfl) (Nat.le_of_ble_eq_true rfl)) ⟨Nat.zero_le _, Nat.zero_le _⟩ (by omega) (rfl) rfl rfl rfl rfl (Nat.le_of_ble_eq_true rfl) dX3_spares_38 ?_
      refine v_aload_n (pc := 41) 0 dX3_spares_41 rfl rfl ?_
      refine gX3_52 (pc := 42) hN dX3_spares_42 ?_
      refine v_bipush (pc := 45) (nI 8) dX3_spares_45 (by decide) ?_
      refine c_iald (pc := 47) (k := 528) (j := 8) IA_528 (by omega) rfl (by omega) (by decide) dX3_spares_47 ?_
      refine v_topi (v := (rGo S 200 (S 527)) 8) (congrFun (s1_at _ _ _) _) ?_
      refine v_istore_n (pc := 48) (lv' := [(2, .int ((rGo S 200 (S 527)) 8)), (0, .ref (gZ G + 513)), (1, .int (nI j))]) dX3_spares_48 rfl (by decide) rfl ?_
      refine v_aload_n (pc := 49) 1 dX3_spares_49 rfl rfl ?_
      refine gX3_49 (pc := 50) hN dX3_spares_50 ?_
      refine v_aload_n (pc := 53) 1 dX3_spares_53 rfl rfl ?_
      refine gX3_52 (pc := 54) hN dX3_spares_54 ?_
      refine c_callSv (pc := 57) (st := []) (ct_X3_copies (S := S) (g := rGo S 200 (S 527)) (by omega)) kVX3_221 kDX3_221 (rm_ok hR (Nat.le_of_ble_eq_true rfl) (Nat.le_of_ble_eq_true rfl)) ⟨Nat.zero_le _, Nat.zero_le _⟩ rfl rfl (Nat.le_of_ble_eq_true rfl) dX3_spares_57 ?_
      refine v_aload_n (pc := 60) 1 dX3_spares_60 rfl rfl ?_
      refine gX3_52 (pc := 61) hN dX3_spares_61 ?_
      refine v_bipush (pc := 64) (nI 18) dX3_spares_64 (by decide) ?_
      refine v_iload_n (pc := 66) 2 dX3_spares_66 rfl rfl ?_
      refine v_imulN (pc := 67) dX3_spares_67 ?_
      refine v_iconst (pc := 68) (nI 5) dX3_spares_68 (by decide) ?_
      refine v_iaddN (pc := 69) dX3_spares_69 ?_
      refine v_iconst (pc := 70) (nI 1) dX3_spares_70 (by decide) ?_
      refine c_iast (pc := 71) (k := 528) (j := 18 * j + 5) IA_528 (by omega) rfl (by omega) (by decide) dX3_spares_71 ?_
      refine v_S (s2_s1 _ _ _ _ _) ?_
      refine v_aload_n (pc := 72) 1 dX3_spares_72 rfl rfl ?_
      refine v_sipush (pc := 73) (nI 200) dX3_spares_73 (by decide) ?_
      refine c_callVv (pc := 76) (st := []) (ci := 3) (ct_X3_goesOn (S := S) (w := 200) (g := upd (S 527) (18 * j + 5) (nI 1)) hS (RJ_up5 hS hJ _) (by omega) (by omega)) kVX3_225 kDX3_225 (rm_ok hR (Nat.le_of_ble_eq_true rfl) (Nat.le_of_ble_eq_true rfl)) ⟨Nat.zero_le _, Nat.zero_le _⟩ (by omega) (rfl) rfl rfl rfl rfl (Nat.le_of_ble_eq_true rfl) dX3_spares_76 ?_
      refine v_iload_n (pc := 79) 0 dX3_spares_79 rfl rfl ?_
      refine v_bipush (pc := 80) ((-9)) dX3_spares_80 (by decide) ?_
      refine v_ic_eq (pc := 82) 97 dX3_spares_82 (by decide) (fun c3 => ?_) (fun c3 => ?_)
      · skip
        refine v_ldc (pc := 97) q1216 dX3_spares_97 ?_
        refine v_goto (pc := 99) 111 dX3_spares_99 (by decide) ?_
        exact v_iret (pc := 111) hr rfl (Nat.le_refl _) (Nat.le_refl _) dX3_spares_111 (pI_mk (by unfold mSparesV; rw [if_pos (show mSpOk S (nI j) from ⟨c1, by rw [hjn]; exact c2⟩), hjn, if_pos (Or.inl c3)]) (hC_c (by unfold mSparesS; rw [if_pos (show mSpOk S (nI j) from ⟨c1, by rw [hjn]; exact c2⟩), hjn])))
      · skip
        refine v_aload_n (pc := 85) 1 dX3_spares_85 rfl rfl ?_
        refine gX3_52 (pc := 86) hN dX3_spares_86 ?_
        refine v_bipush (pc := 89) (nI 8) dX3_spares_89 (by decide) ?_
        refine c_iald (pc := 91) (k := 528) (j := 8) IA_528 (by omega) rfl (by omega) (by decide) dX3_spares_91 ?_
        refine v_topi (v := (rGo S 200 (upd (S 527) (18 * j + 5) (nI 1))) 8) (congrFun (s1_at _ _ _) _) ?_
        refine v_bipush (pc := 92) ((-9)) dX3_spares_92 (by decide) ?_
        refine v_ic_ne (pc := 94) 102 dX3_spares_94 (by decide) (fun c4 => ?_) (fun c4 => ?_)
        · skip
          refine v_iload_n (pc := 102) 0 dX3_spares_102 rfl rfl ?_
          refine v_aload_n (pc := 103) 1 dX3_spares_103 rfl rfl ?_
          refine gX3_52 (pc := 104) hN dX3_spares_104 ?_
          refine v_bipush (pc := 107) (nI 8) dX3_spares_107 (by decide) ?_
          refine c_iald (pc := 109) (k := 528) (j := 8) IA_528 (by omega) rfl (by omega) (by decide) dX3_spares_109 ?_
          refine v_topi (v := (rGo S 200 (upd (S 527) (18 * j + 5) (nI 1))) 8) (congrFun (s1_at _ _ _) _) ?_
          refine v_isub (pc := 110) dX3_spares_110 ?_
          exact v_iret (pc := 111) hr rfl (Nat.le_refl _) (Nat.le_refl _) dX3_spares_111 (pI_mk (by unfold mSparesV; rw [if_pos (show mSpOk S (nI j) from ⟨c1, by rw [hjn]; exact c2⟩), hjn, if_neg (fun z => z.elim c3 c4)]) (hC_c (by unfold mSparesS; rw [if_pos (show mSpOk S (nI j) from ⟨c1, by rw [hjn]; exact c2⟩), hjn])))
        · skip
          refine v_ldc (pc := 97) q1216 dX3_spares_97 ?_
          refine v_goto (pc := 99) 111 dX3_spares_99 (by decide) ?_
          exact v_iret (pc := 111) hr rfl (Nat.le_refl _) (Nat.le_refl _) dX3_spares_111 (pI_mk (by unfold mSparesV; rw [if_pos (show mSpOk S (nI j) from ⟨c1, by rw [hjn]; exact c2⟩), hjn, if_pos (Or.inr c4)]) (hC_c (by unfold mSparesS; rw [if_pos (show mSpOk S (nI j) from ⟨c1, by rw [hjn]; exact c2⟩), hjn])))
    · skip
      refine v_ldc (pc := 20) q1216 dX3_spares_20 ?_
      exact v_iret (pc := 22) hr rfl (Nat.le_refl _) (Nat.le_refl _) dX3_spares_22 (pI_mk (by unfold mSparesV; rw [if_neg (fun z => c2 (by have := z.2; rwa [hjn] at this))]) (hC_c (by unfold mSparesS; rw [if_neg (fun z => c2 (by have := z.2; rwa [hjn] at this))])))

theorem nI_neg9 {d : Nat} (h : d < 2 ^ 31) : ¬ nI d = (-9) := by
  intro e
  have h1 := nI_toInt h
  rw [e] at h1
  have : (-9 : Int32).toInt = -9 := by decide
  omega
set_option maxHeartbeats 4000000 in
theorem lp_wb {G : GT} {x : VX} {N : Nat} {Q : State → Prop} {v0 : Int32} (hN : 535 ≤ N) (hR : xR x = RM 7 0 0) : ∀ (m d : Nat) (S : ST), d + m = 61 → MI S → V G x "ScopeTasksModel" cX3_wellBy 4 Q 80 [(2, .int (mWbV m d S)), (0, .ref (gZ G + 513)), (1, .int (v0))] [] N (hC G (mWbL m d S)) 0 0 → V G x "ScopeTasksModel" cX3_wellBy 4 Q 12 [(3, .int (nI d)), (2, .int ((-9))), (0, .ref (gZ G + 513)), (1, .int (v0))] [] N (hC G S) 0 0 := by
  intro m
  induction m with
  | zero =>
    intro d S hdm hS hk
    refine v_iload_n (pc := 12) 0 dX3_wellBy_12 rfl rfl ?_
    refine v_bipush (pc := 13) (nI 60) dX3_wellBy_13 (by decide) ?_
    refine v_ic_gtN (pc := 15) 80 (by omega) (by omega) dX3_wellBy_15 (by decide) (fun c1 => ?_) (fun c1 => ?_)
    · skip
      refine v_sub (lv' := [(2, .int ((-9))), (0, .ref (gZ G + 513)), (1, .int (v0))]) [1, 2, 3] rfl ?_
      exact hk
    · skip
      exact absurd c1 (by omega)
  | succ m ih =>
    intro d S hdm hS hk
    refine v_iload_n (pc := 12) 0 dX3_wellBy_12 rfl rfl ?_
    refine v_bipush (pc := 13) (nI 60) dX3_wellBy_13 (by decide) ?_
    refine v_ic_gtN (pc := 15) 80 (by omega) (by omega) dX3_wellBy_15 (by decide) (fun c1 => ?_) (fun c1 => ?_)
    · skip
      exact absurd c1 (by omega)
    · skip
      refine v_iload_n (pc := 18) 1 dX3_wellBy_18 rfl rfl ?_
      refine v_bipush (pc := 19) ((-9)) dX3_wellBy_19 (by decide) ?_
      refine v_ic_ne (pc := 21) 80 dX3_wellBy_21 (by decide) (fun c2 => ?_) (fun c2 => ?_)
      · skip
        exact absurd rfl c2
      · skip
        refine v_aload_n (pc := 24) 2 dX3_wellBy_24 rfl rfl ?_
        refine gX3_40 (pc := 25) hN dX3_wellBy_25 ?_
        refine v_iconst (pc := 28) (nI 0) dX3_wellBy_28 (by decide) ?_
        refine v_iload_n (pc := 29) 0 dX3_wellBy_29 rfl rfl ?_
        refine c_iast (pc := 30) (k := 524) (j := 0) IA_524 (by omega) rfl (by omega) (by decide) dX3_wellBy_30 ?_
        refine v_aload_n (pc := 31) 2 dX3_wellBy_31 rfl rfl ?_
        refine v_aload_n (pc := 32) 2 dX3_wellBy_32 rfl rfl ?_
        refine gX3_52 (pc := 33) hN dX3_wellBy_33 ?_
        refine v_S (s1_of (k := 528) (f := S 528) (s2_nk (by omega))) ?_
        refine c_callVv (pc := 36) (st := []) (ci := 3) (ct_X3_starts (S := s2 S 524 0 (nI d)) (a := 528) (g := S 528) (Or.inr rfl) (by omega)) kVX3_148 kDX3_148 (rm_ok hR (Nat.le_of_ble_eq_true rfl) (Nat.le_of_ble_eq_true rfl)) ⟨Nat.zero_le _, Nat.zero_le _⟩ (by omega) (rfl) rfl rfl rfl rfl (Nat.le_of_ble_eq_true rfl) dX3_wellBy_36 ?_
        refine v_aload_n (pc := 39) 2 dX3_wellBy_39 rfl rfl ?_
        refine v_sipush (pc := 40) (nI 200) dX3_wellBy_40 (by decide) ?_
        refine c_callVv (pc := 43) (st := []) (ci := 3) (ct_X3_goesOn (S := s2 S 524 0 (nI d)) (w := 200) (g := rSt (s2 S 524 0 (nI d))) (MI_Dl hS 0 d) (RJ_rSt (MI_Dl hS 0 d)) (by omega) (by omega)) kVX3_225 kDX3_225 (rm_ok hR (Nat.le_of_ble_eq_true rfl) (Nat.le_of_ble_eq_true rfl)) ⟨Nat.zero_le _, Nat.zero_le _⟩ (by omega) (rfl) rfl rfl rfl rfl (Nat.le_of_ble_eq_true rfl) dX3_wellBy_43 ?_
        refine v_aload_n (pc := 46) 2 dX3_wellBy_46 rfl rfl ?_
        refine gX3_52 (pc := 47) hN dX3_wellBy_47 ?_
        refine v_iconst (pc := 50) (nI 0) dX3_wellBy_50 (by decide) ?_
        refine v_iconst (pc := 51) (nI 3) dX3_wellBy_51 (by decide) ?_
        refine c_callSi (pc := 52) (st := []) (ct_X3_isHow (S := s2 S 524 0 (nI d)) (a := 528) (t := 0) (w := nI 3) (g := rGo (s2 S 524 0 (nI d)) 200 (rSt (s2 S 524 0 (nI d)))) (Or.inr rfl) (by omega) (by omega)) kVX3_165 kDX3_165 (rm_ok hR (Nat.le_of_ble_eq_true rfl) (Nat.le_of_ble_eq_true rfl)) ⟨Nat.zero_le _, Nat.zero_le _⟩ rfl rfl (Nat.le_of_ble_eq_true rfl) dX3_wellBy_52 ?_
        refine v_if_eqB (pc := 55) 71 dX3_wellBy_55 (by decide) (fun c3 => ?_) (fun c3 => ?_)
        · skip
          refine v_bipush (pc := 71) ((-9)) dX3_wellBy_71 (by decide) ?_
          refine v_istore_n (pc := 73) (lv' := [(2, .int ((-9))), (3, .int (nI d)), (0, .ref (gZ G + 513)), (1, .int (v0))]) dX3_wellBy_73 rfl (by decide) rfl ?_
          refine v_iincN (pc := 74) (k := 1) (lv' := [(3, .int (nI (d + 1))), (2, .int ((-9))), (0, .ref (gZ G + 513)), (1, .int (v0))]) dX3_wellBy_74 rfl (by decide) rfl ?_
          refine v_goto (pc := 77) 12 dX3_wellBy_77 (by decide) ?_
          rw [mWbL, mWbV, if_neg (fun z => c3 ((congrFun (s1_at _ _ _) _).symm.trans z.1)), if_neg (fun z => c3 ((congrFun (s1_at _ _ _) _).symm.trans z.1))] at hk
          refine v_sub (lv' := [(3, .int (nI (d + 1))), (2, .int ((-9))), (0, .ref (gZ G + 513)), (1, .int (v0))]) [0, 1, 2, 3] rfl ?_
          exact ih (d + 1) (mTry S 0 d 200) (by omega) (MI_Try hS 0 d 200) hk
        · skip
          refine v_aload_n (pc := 58) 2 dX3_wellBy_58 rfl rfl ?_
          refine gX3_52 (pc := 59) hN dX3_wellBy_59 ?_
          refine v_iconst (pc := 62) (nI 1) dX3_wellBy_62 (by decide) ?_
          refine c_iald (pc := 63) (k := 528) (j := 1) IA_528 (by omega) rfl (by omega) (by decide) dX3_wellBy_63 ?_
          refine v_topi (v := (rGo (s2 S 524 0 (nI d)) 200 (rSt (s2 S 524 0 (nI d)))) 1) (congrFun (s1_at _ _ _) _) ?_
          refine v_if_ne (pc := 64) 71 dX3_wellBy_64 (by decide) (fun c4 => ?_) (fun c4 => ?_)
          · skip
            refine v_bipush (pc := 71) ((-9)) dX3_wellBy_71 (by decide) ?_
            refine v_istore_n (pc := 73) (lv' := [(2, .int ((-9))), (3, .int (nI d)), (0, .ref (gZ G + 513)), (1, .int (v0))]) dX3_wellBy_73 rfl (by decide) rfl ?_
            refine v_iincN (pc := 74) (k := 1) (lv' := [(3, .int (nI (d + 1))), (2, .int ((-9))), (0, .ref (gZ G + 513)), (1, .int (v0))]) dX3_wellBy_74 rfl (by decide) rfl ?_
            refine v_goto (pc := 77) 12 dX3_wellBy_77 (by decide) ?_
            rw [mWbL, mWbV, if_neg (fun z => c4 ((congrFun (s1_at _ _ _) _).symm.trans z.2)), if_neg (fun z => c4 ((congrFun (s1_at _ _ _) _).symm.trans z.2))] at hk
            refine v_sub (lv' := [(3, .int (nI (d + 1))), (2, .int ((-9))), (0, .ref (gZ G + 513)), (1, .int (v0))]) [0, 1, 2, 3] rfl ?_
            exact ih (d + 1) (mTry S 0 d 200) (by omega) (MI_Try hS 0 d 200) hk
          · skip
            refine v_iload_n (pc := 67) 0 dX3_wellBy_67 rfl rfl ?_
            refine v_goto (pc := 68) 73 dX3_wellBy_68 (by decide) ?_
            refine v_istore_n (pc := 73) (lv' := [(2, .int (nI d)), (3, .int (nI d)), (0, .ref (gZ G + 513)), (1, .int (v0))]) dX3_wellBy_73 rfl (by decide) rfl ?_
            refine v_iincN (pc := 74) (k := 1) (lv' := [(3, .int (nI (d + 1))), (2, .int (nI d)), (0, .ref (gZ G + 513)), (1, .int (v0))]) dX3_wellBy_74 rfl (by decide) rfl ?_
            refine v_goto (pc := 77) 12 dX3_wellBy_77 (by decide) ?_
            rw [mWbL, mWbV, if_pos ⟨(show mTry S 0 d 200 528 0 = nI 3 from (congrFun (s1_at _ _ _) _).trans c3), (show mTry S 0 d 200 528 1 = 0 from (congrFun (s1_at _ _ _) _).trans c4)⟩, if_pos ⟨(show mTry S 0 d 200 528 0 = nI 3 from (congrFun (s1_at _ _ _) _).trans c3), (show mTry S 0 d 200 528 1 = 0 from (congrFun (s1_at _ _ _) _).trans c4)⟩] at hk
            refine v_iload_n (pc := 12) 0 dX3_wellBy_12 rfl rfl ?_
            refine v_bipush (pc := 13) (nI 60) dX3_wellBy_13 (by decide) ?_
            refine v_ic_gtN (pc := 15) 80 (by omega) (by omega) dX3_wellBy_15 (by decide) (fun c5 => ?_) (fun c5 => ?_)
            · skip
              refine v_sub (lv' := [(2, .int (nI d)), (0, .ref (gZ G + 513)), (1, .int (v0))]) [1, 2, 3] rfl ?_
              exact hk
            · skip
              refine v_iload_n (pc := 18) 1 dX3_wellBy_18 rfl rfl ?_
              refine v_bipush (pc := 19) ((-9)) dX3_wellBy_19 (by decide) ?_
              refine v_ic_ne (pc := 21) 80 dX3_wellBy_21 (by decide) (fun c6 => ?_) (fun c6 => ?_)
              · skip
                refine v_sub (lv' := [(2, .int (nI d)), (0, .ref (gZ G + 513)), (1, .int (v0))]) [1, 2, 3] rfl ?_
                exact hk
              · skip
                exact absurd c6 (nI_neg9 (by omega))

set_option maxHeartbeats 4000000 in
theorem ct_X3_wellBy {G : GT} {l : Launch} {N : Nat} {S : ST}  (hS : MI S) (hN : 535 ≤ N) : CTi G l yX3_wellBy cX3_wellBy 4 (some .int) 7 [.ref (gZ G + 513)] N (S) (mWbV 60 1 S) (mWellS S) := by
  refine CT.mk "ScopeTasksModel" [(0, .ref (gZ G + 513))] rfl (by decide) rfl (Nat.le_of_ble_eq_true rfl) ?_
  intro x hR hl hr hnm
  refine v_aload_n (pc := 0) 0 dX3_wellBy_0 rfl rfl ?_
  refine gX3_40 (pc := 1) hN dX3_wellBy_1 ?_
  refine v_iconst (pc := 4) (nI 0) dX3_wellBy_4 (by decide) ?_
  refine c_iald (pc := 5) (k := 524) (j := 0) IA_524 (by omega) rfl (by omega) (by decide) dX3_wellBy_5 ?_
  refine v_istore_n (pc := 6) (lv' := [(1, .int (S 524 0)), (0, .ref (gZ G + 513))]) dX3_wellBy_6 rfl (by decide) rfl ?_
  refine v_bipush (pc := 7) ((-9)) dX3_wellBy_7 (by decide) ?_
  refine v_istore_n (pc := 9) (lv' := [(2, .int ((-9))), (1, .int (S 524 0)), (0, .ref (gZ G + 513))]) dX3_wellBy_9 rfl (by decide) rfl ?_
  refine v_iconst (pc := 10) (nI 1) dX3_wellBy_10 (by decide) ?_
  refine v_istore_n (pc := 11) (lv' := [(3, .int (nI 1)), (2, .int ((-9))), (1, .int (S 524 0)), (0, .ref (gZ G + 513))]) dX3_wellBy_11 rfl (by decide) rfl ?_
  refine v_sub (lv' := [(3, .int (nI 1)), (2, .int ((-9))), (0, .ref (gZ G + 513)), (1, .int (S 524 0))]) [0, 1, 3, 2] rfl ?_
  refine lp_wb hN hR 60 1 S (by omega) hS ?_
  refine v_aload_n (pc := 80) 1 dX3_wellBy_80 rfl rfl ?_
  refine gX3_40 (pc := 81) hN dX3_wellBy_81 ?_
  refine v_iconst (pc := 84) (nI 0) dX3_wellBy_84 (by decide) ?_
  refine v_iload_n (pc := 85) 2 dX3_wellBy_85 rfl rfl ?_
  refine c_iast (pc := 86) (k := 524) (j := 0) IA_524 (by omega) rfl (by omega) (by decide) dX3_wellBy_86 ?_
  refine v_iload_n (pc := 87) 0 dX3_wellBy_87 rfl rfl ?_
  exact v_iret (pc := 88) hr rfl (Nat.le_refl _) (Nat.le_refl _) dX3_wellBy_88 (pI_mk rfl (hC_c rfl))

set_option maxHeartbeats 4000000 in
theorem lp_fi {G : GT} {x : VX} {N : Nat} {Q : State → Prop} {S : ST} {K d t : Nat} {s0 v0 : Int32} (hN : 535 ≤ N) (hKE : S 513 28 = nI K) (hK6 : K ≤ 6) (hT : ∀ k, k < K → inN (S 530 k) 7) (hR : xR x = RM 7 0 0) : ∀ (m k : Nat), k + m = K → V G x "ScopeTasksModel" cX3_fits 8 Q 136 [(5, .int (bI (mFi S (S 528) K = true))), (4, .int (nI d)), (3, .int (s0)), (0, .ref (gZ G + 513)), (1, .int (nI t)), (2, .int (v0))] [] N (hC G S) 0 0 → V G x "ScopeTasksModel" cX3_fits 8 Q 57 [(6, .int (nI k)), (5, .int (bI (mFi S (S 528) k = true))), (4, .int (nI d)), (3, .int (s0)), (0, .ref (gZ G + 513)), (1, .int (nI t)), (2, .int (v0))] [] N (hC G S) 0 0 := by
  intro m
  induction m with
  | zero =>
    intro k hkm hk
    refine v_iload (pc := 57) 0 dX3_fits_57 rfl ?_
    refine v_aload_n (pc := 59) 4 dX3_fits_59 rfl rfl ?_
    refine gX3_155 (pc := 60) hN dX3_fits_60 ?_
    refine v_topi (v := nI K) hKE ?_
    refine v_ic_geN (pc := 63) 136 (by omega) (by omega) dX3_fits_63 (by decide) (fun c1 => ?_) (fun c1 => ?_)
    · skip
      refine v_sub (lv' := [(5, .int (bI (mFi S (S 528) k = true))), (4, .int (nI d)), (3, .int (s0)), (0, .ref (gZ G + 513)), (1, .int (nI t)), (2, .int (v0))]) [1, 2, 3, 4, 5, 6] rfl ?_
      obtain rfl : k = K := by omega
      exact hk
    · skip
      exact absurd c1 (by omega)
  | succ m ih =>
    intro k hkm hk
    refine v_iload (pc := 57) 0 dX3_fits_57 rfl ?_
    refine v_aload_n (pc := 59) 4 dX3_fits_59 rfl rfl ?_
    refine gX3_155 (pc := 60) hN dX3_fits_60 ?_
    refine v_topi (v := nI K) hKE ?_
    refine v_ic_geN (pc := 63) 136 (by omega) (by omega) dX3_fits_63 (by decide) (fun c1 => ?_) (fun c1 => ?_)
    · skip
      exact absurd c1 (by omega)
    · skip
      have hq7 := hT k (by omega)
      obtain ⟨q, hqn⟩ : ∃ q, nn (S 530 k) = q := ⟨_, rfl⟩
      have hqE := hq7.1
      have hqL := hq7.2
      rw [hqn] at hqE hqL
      refine v_aload_n (pc := 66) 4 dX3_fits_66 rfl rfl ?_
      refine gX3_52 (pc := 67) hN dX3_fits_67 ?_
      refine v_aload_n (pc := 70) 4 dX3_fits_70 rfl rfl ?_
      refine gX3_58 (pc := 71) hN dX3_fits_71 ?_
      refine v_iload (pc := 74) 0 dX3_fits_74 rfl ?_
      refine c_iald (pc := 76) (k := 530) (j := k) IA_530 (by omega) rfl (by omega) (by decide) dX3_fits_76 ?_
      refine v_topi (v := nI q) hqE ?_
      refine v_bipush (pc := 77) (nI 8) dX3_fits_77 (by decide) ?_
      refine v_S (s1_of (k := 528) (f := S 528) rfl) ?_
      refine c_callSi (pc := 79) (st := []) (ct_X3_at (S := S) (a := 528) (t := q) (w := 8) (g := S 528) (Or.inr rfl) (by omega) (by omega)) kVX3_161 kDX3_161 (rm_ok hR (Nat.le_of_ble_eq_true rfl) (Nat.le_of_ble_eq_true rfl)) ⟨Nat.zero_le _, Nat.zero_le _⟩ rfl rfl (Nat.le_of_ble_eq_true rfl) dX3_fits_79 ?_
      refine v_S (s1_of (k := 528) (f := S 528) rfl).symm ?_
      refine v_istore (pc := 82) (lv' := [(7, .int ((S 528) (18 * q + 8))), (6, .int (nI k)), (5, .int (bI (mFi S (S 528) k = true))), (4, .int (nI d)), (3, .int (s0)), (0, .ref (gZ G + 513)), (1, .int (nI t)), (2, .int (v0))]) dX3_fits_82 (by decide) rfl ?_
      refine v_iload (pc := 84) 2 dX3_fits_84 rfl ?_
      refine v_if_eqB (pc := 86) 127 dX3_fits_86 (by decide) (fun c2 => ?_) (fun c2 => ?_)
      · skip
        refine v_iconst (pc := 127) (nI 0) dX3_fits_127 (by decide) ?_
        refine v_istore (pc := 128) (lv' := [(5, .int (nI 0)), (7, .int ((S 528) (18 * q + 8))), (6, .int (nI k)), (4, .int (nI d)), (3, .int (s0)), (0, .ref (gZ G + 513)), (1, .int (nI t)), (2, .int (v0))]) dX3_fits_128 (by decide) rfl ?_
        refine v_iincN (pc := 130) (k := 2) (lv' := [(6, .int (nI (k + 1))), (5, .int (nI 0)), (7, .int ((S 528) (18 * q + 8))), (4, .int (nI d)), (3, .int (s0)), (0, .ref (gZ G + 513)), (1, .int (nI t)), (2, .int (v0))]) dX3_fits_130 rfl (by decide) rfl ?_
        refine v_goto (pc := 133) 57 dX3_fits_133 (by decide) ?_
        refine v_sub (lv' := [(6, .int (nI (k + 1))), (5, .int (nI 0)), (4, .int (nI d)), (3, .int (s0)), (0, .ref (gZ G + 513)), (1, .int (nI t)), (2, .int (v0))]) [0, 1, 3, 4, 5, 6, 7] rfl ?_
        refine v_lv (lv' := [(6, .int (nI (k + 1))), (5, .int (bI (mFi S (S 528) (k + 1) = true))), (4, .int (nI d)), (3, .int (s0)), (0, .ref (gZ G + 513)), (1, .int (nI t)), (2, .int (v0))]) (by rw [bI_f (p := mFi S (S 528) (k + 1) = true) (by rw [mFi, Bool.and_eq_true]; exact fun z => c2 z.1)]) ?_
        exact ih (k + 1) (by omega) hk
      · skip
        refine v_iload (pc := 89) 0 dX3_fits_89 rfl ?_
        refine v_bipush (pc := 91) ((-9)) dX3_fits_91 (by decide) ?_
        refine v_ic_eq (pc := 93) 112 dX3_fits_93 (by decide) (fun c3 => ?_) (fun c3 => ?_)
        · skip
          refine v_iconst (pc := 112) (nI 0) dX3_fits_112 (by decide) ?_
          refine v_aload_n (pc := 113) 5 dX3_fits_113 rfl rfl ?_
          refine gX3_64 (pc := 114) hN dX3_fits_114 ?_
          refine v_iload (pc := 117) 1 dX3_fits_117 rfl ?_
          refine c_iald (pc := 119) (k := 532) (j := k) IA_532 (by omega) rfl (by omega) (by decide) dX3_fits_119 ?_
          refine v_ic_ne (pc := 120) 127 dX3_fits_120 (by decide) (fun c4 => ?_) (fun c4 => ?_)
          · skip
            refine v_iconst (pc := 127) (nI 0) dX3_fits_127 (by decide) ?_
            refine v_istore (pc := 128) (lv' := [(5, .int (nI 0)), (7, .int ((S 528) (18 * q + 8))), (6, .int (nI k)), (4, .int (nI d)), (3, .int (s0)), (0, .ref (gZ G + 513)), (1, .int (nI t)), (2, .int (v0))]) dX3_fits_128 (by decide) rfl ?_
            refine v_iincN (pc := 130) (k := 2) (lv' := [(6, .int (nI (k + 1))), (5, .int (nI 0)), (7, .int ((S 528) (18 * q + 8))), (4, .int (nI d)), (3, .int (s0)), (0, .ref (gZ G + 513)), (1, .int (nI t)), (2, .int (v0))]) dX3_fits_130 rfl (by decide) rfl ?_
            refine v_goto (pc := 133) 57 dX3_fits_133 (by decide) ?_
            refine v_sub (lv' := [(6, .int (nI (k + 1))), (5, .int (nI 0)), (4, .int (nI d)), (3, .int (s0)), (0, .ref (gZ G + 513)), (1, .int (nI t)), (2, .int (v0))]) [0, 1, 3, 4, 5, 6, 7] rfl ?_
            refine v_lv (lv' := [(6, .int (nI (k + 1))), (5, .int (bI (mFi S (S 528) (k + 1) = true))), (4, .int (nI d)), (3, .int (s0)), (0, .ref (gZ G + 513)), (1, .int (nI t)), (2, .int (v0))]) (by rw [bI_f (p := mFi S (S 528) (k + 1) = true) (by rw [mFi, Bool.and_eq_true, decide_eq_true_eq, hqn, if_neg (fun z => z.1 c3)]; exact fun z => c4 z.2)]) ?_
            exact ih (k + 1) (by omega) hk
          · skip
            refine v_iconst (pc := 123) (nI 1) dX3_fits_123 (by decide) ?_
            refine v_goto (pc := 124) 128 dX3_fits_124 (by decide) ?_
            refine v_istore (pc := 128) (lv' := [(5, .int (nI 1)), (7, .int ((S 528) (18 * q + 8))), (6, .int (nI k)), (4, .int (nI d)), (3, .int (s0)), (0, .ref (gZ G + 513)), (1, .int (nI t)), (2, .int (v0))]) dX3_fits_128 (by decide) rfl ?_
            refine v_iincN (pc := 130) (k := 2) (lv' := [(6, .int (nI (k + 1))), (5, .int (nI 1)), (7, .int ((S 528) (18 * q + 8))), (4, .int (nI d)), (3, .int (s0)), (0, .ref (gZ G + 513)), (1, .int (nI t)), (2, .int (v0))]) dX3_fits_130 rfl (by decide) rfl ?_
            refine v_goto (pc := 133) 57 dX3_fits_133 (by decide) ?_
            refine v_sub (lv' := [(6, .int (nI (k + 1))), (5, .int (nI 1)), (4, .int (nI d)), (3, .int (s0)), (0, .ref (gZ G + 513)), (1, .int (nI t)), (2, .int (v0))]) [0, 1, 3, 4, 5, 6, 7] rfl ?_
            refine v_lv (lv' := [(6, .int (nI (k + 1))), (5, .int (bI (mFi S (S 528) (k + 1) = true))), (4, .int (nI d)), (3, .int (s0)), (0, .ref (gZ G + 513)), (1, .int (nI t)), (2, .int (v0))]) (by rw [bI_t (p := mFi S (S 528) (k + 1) = true) (by rw [mFi, Bool.and_eq_true, decide_eq_true_eq, hqn, if_neg (fun z => z.1 c3)]; exact ⟨c2, c4⟩)]) ?_
            exact ih (k + 1) (by omega) hk
        · skip
          refine v_iload (pc := 96) 0 dX3_fits_96 rfl ?_
          refine v_aload_n (pc := 98) 5 dX3_fits_98 rfl rfl ?_
          refine gX3_61 (pc := 99) hN dX3_fits_99 ?_
          refine v_iload (pc := 102) 1 dX3_fits_102 rfl ?_
          refine c_iald (pc := 104) (k := 531) (j := k) IA_531 (by omega) rfl (by omega) (by decide) dX3_fits_104 ?_
          refine v_ic_gt (pc := 105) 112 dX3_fits_105 (by decide) (fun c5 => ?_) (fun c5 => ?_)
          · skip
            refine v_iconst (pc := 112) (nI 0) dX3_fits_112 (by decide) ?_
            refine v_aload_n (pc := 113) 5 dX3_fits_113 rfl rfl ?_
            refine gX3_64 (pc := 114) hN dX3_fits_114 ?_
            refine v_iload (pc := 117) 1 dX3_fits_117 rfl ?_
            refine c_iald (pc := 119) (k := 532) (j := k) IA_532 (by omega) rfl (by omega) (by decide) dX3_fits_119 ?_
            refine v_ic_ne (pc := 120) 127 dX3_fits_120 (by decide) (fun c6 => ?_) (fun c6 => ?_)
            · skip
              refine v_iconst (pc := 127) (nI 0) dX3_fits_127 (by decide) ?_
              refine v_istore (pc := 128) (lv' := [(5, .int (nI 0)), (7, .int ((S 528) (18 * q + 8))), (6, .int (nI k)), (4, .int (nI d)), (3, .int (s0)), (0, .ref (gZ G + 513)), (1, .int (nI t)), (2, .int (v0))]) dX3_fits_128 (by decide) rfl ?_
              refine v_iincN (pc := 130) (k := 2) (lv' := [(6, .int (nI (k + 1))), (5, .int (nI 0)), (7, .int ((S 528) (18 * q + 8))), (4, .int (nI d)), (3, .int (s0)), (0, .ref (gZ G + 513)), (1, .int (nI t)), (2, .int (v0))]) dX3_fits_130 rfl (by decide) rfl ?_
              refine v_goto (pc := 133) 57 dX3_fits_133 (by decide) ?_
              refine v_sub (lv' := [(6, .int (nI (k + 1))), (5, .int (nI 0)), (4, .int (nI d)), (3, .int (s0)), (0, .ref (gZ G + 513)), (1, .int (nI t)), (2, .int (v0))]) [0, 1, 3, 4, 5, 6, 7] rfl ?_
              refine v_lv (lv' := [(6, .int (nI (k + 1))), (5, .int (bI (mFi S (S 528) (k + 1) = true))), (4, .int (nI d)), (3, .int (s0)), (0, .ref (gZ G + 513)), (1, .int (nI t)), (2, .int (v0))]) (by rw [bI_f (p := mFi S (S 528) (k + 1) = true) (by rw [mFi, Bool.and_eq_true, decide_eq_true_eq, hqn, if_neg (fun z => absurd z.2 (Int32.not_le.mpr c5))]; exact fun z => c6 z.2)]) ?_
              exact ih (k + 1) (by omega) hk
            · skip
              refine v_iconst (pc := 123) (nI 1) dX3_fits_123 (by decide) ?_
              refine v_goto (pc := 124) 128 dX3_fits_124 (by decide) ?_
              refine v_istore (pc := 128) (lv' := [(5, .int (nI 1)), (7, .int ((S 528) (18 * q + 8))), (6, .int (nI k)), (4, .int (nI d)), (3, .int (s0)), (0, .ref (gZ G + 513)), (1, .int (nI t)), (2, .int (v0))]) dX3_fits_128 (by decide) rfl ?_
              refine v_iincN (pc := 130) (k := 2) (lv' := [(6, .int (nI (k + 1))), (5, .int (nI 1)), (7, .int ((S 528) (18 * q + 8))), (4, .int (nI d)), (3, .int (s0)), (0, .ref (gZ G + 513)), (1, .int (nI t)), (2, .int (v0))]) dX3_fits_130 rfl (by decide) rfl ?_
              refine v_goto (pc := 133) 57 dX3_fits_133 (by decide) ?_
              refine v_sub (lv' := [(6, .int (nI (k + 1))), (5, .int (nI 1)), (4, .int (nI d)), (3, .int (s0)), (0, .ref (gZ G + 513)), (1, .int (nI t)), (2, .int (v0))]) [0, 1, 3, 4, 5, 6, 7] rfl ?_
              refine v_lv (lv' := [(6, .int (nI (k + 1))), (5, .int (bI (mFi S (S 528) (k + 1) = true))), (4, .int (nI d)), (3, .int (s0)), (0, .ref (gZ G + 513)), (1, .int (nI t)), (2, .int (v0))]) (by rw [bI_t (p := mFi S (S 528) (k + 1) = true) (by rw [mFi, Bool.and_eq_true, decide_eq_true_eq, hqn, if_neg (fun z => absurd z.2 (Int32.not_le.mpr c5))]; exact ⟨c2, c6⟩)]) ?_
              exact ih (k + 1) (by omega) hk
          · skip
            refine v_iconst (pc := 108) (nI 1) dX3_fits_108 (by decide) ?_
            refine v_goto (pc := 109) 113 dX3_fits_109 (by decide) ?_
            refine v_aload_n (pc := 113) 5 dX3_fits_113 rfl rfl ?_
            refine gX3_64 (pc := 114) hN dX3_fits_114 ?_
            refine v_iload (pc := 117) 1 dX3_fits_117 rfl ?_
            refine c_iald (pc := 119) (k := 532) (j := k) IA_532 (by omega) rfl (by omega) (by decide) dX3_fits_119 ?_
            refine v_ic_ne (pc := 120) 127 dX3_fits_120 (by decide) (fun c7 => ?_) (fun c7 => ?_)
            · skip
              refine v_iconst (pc := 127) (nI 0) dX3_fits_127 (by decide) ?_
              refine v_istore (pc := 128) (lv' := [(5, .int (nI 0)), (7, .int ((S 528) (18 * q + 8))), (6, .int (nI k)), (4, .int (nI d)), (3, .int (s0)), (0, .ref (gZ G + 513)), (1, .int (nI t)), (2, .int (v0))]) dX3_fits_128 (by decide) rfl ?_
              refine v_iincN (pc := 130) (k := 2) (lv' := [(6, .int (nI (k + 1))), (5, .int (nI 0)), (7, .int ((S 528) (18 * q + 8))), (4, .int (nI d)), (3, .int (s0)), (0, .ref (gZ G + 513)), (1, .int (nI t)), (2, .int (v0))]) dX3_fits_130 rfl (by decide) rfl ?_
              refine v_goto (pc := 133) 57 dX3_fits_133 (by decide) ?_
              refine v_sub (lv' := [(6, .int (nI (k + 1))), (5, .int (nI 0)), (4, .int (nI d)), (3, .int (s0)), (0, .ref (gZ G + 513)), (1, .int (nI t)), (2, .int (v0))]) [0, 1, 3, 4, 5, 6, 7] rfl ?_
              refine v_lv (lv' := [(6, .int (nI (k + 1))), (5, .int (bI (mFi S (S 528) (k + 1) = true))), (4, .int (nI d)), (3, .int (s0)), (0, .ref (gZ G + 513)), (1, .int (nI t)), (2, .int (v0))]) (by rw [bI_f (p := mFi S (S 528) (k + 1) = true) (by rw [mFi, Bool.and_eq_true, decide_eq_true_eq, hqn, if_pos ⟨c3, Int32.not_lt.mp c5⟩]; exact fun z => c7 z.2)]) ?_
              exact ih (k + 1) (by omega) hk
            · skip
              refine v_iconst (pc := 123) (nI 1) dX3_fits_123 (by decide) ?_
              refine v_goto (pc := 124) 128 dX3_fits_124 (by decide) ?_
              refine v_istore (pc := 128) (lv' := [(5, .int (nI 1)), (7, .int ((S 528) (18 * q + 8))), (6, .int (nI k)), (4, .int (nI d)), (3, .int (s0)), (0, .ref (gZ G + 513)), (1, .int (nI t)), (2, .int (v0))]) dX3_fits_128 (by decide) rfl ?_
              refine v_iincN (pc := 130) (k := 2) (lv' := [(6, .int (nI (k + 1))), (5, .int (nI 1)), (7, .int ((S 528) (18 * q + 8))), (4, .int (nI d)), (3, .int (s0)), (0, .ref (gZ G + 513)), (1, .int (nI t)), (2, .int (v0))]) dX3_fits_130 rfl (by decide) rfl ?_
              refine v_goto (pc := 133) 57 dX3_fits_133 (by decide) ?_
              refine v_sub (lv' := [(6, .int (nI (k + 1))), (5, .int (nI 1)), (4, .int (nI d)), (3, .int (s0)), (0, .ref (gZ G + 513)), (1, .int (nI t)), (2, .int (v0))]) [0, 1, 3, 4, 5, 6, 7] rfl ?_
              refine v_lv (lv' := [(6, .int (nI (k + 1))), (5, .int (bI (mFi S (S 528) (k + 1) = true))), (4, .int (nI d)), (3, .int (s0)), (0, .ref (gZ G + 513)), (1, .int (nI t)), (2, .int (v0))]) (by rw [bI_t (p := mFi S (S 528) (k + 1) = true) (by rw [mFi, Bool.and_eq_true, decide_eq_true_eq, hqn, if_pos ⟨c3, Int32.not_lt.mp c5⟩]; exact ⟨c2, c7⟩)]) ?_
              exact ih (k + 1) (by omega) hk

set_option maxHeartbeats 4000000 in
theorem lp_fo {G : GT} {x : VX} {N : Nat} {Q : State → Prop} {t : Nat} {v0 : Int32} (hN : 535 ≤ N) (ht8 : t < 8) (hR : xR x = RM 7 0 0) : ∀ (m d : Nat) (S : ST) (s0 : Int32), d + m = 31 → MF S → V G x "ScopeTasksModel" cX3_fits 8 Q 158 [(3, .int (mFtV t m d S s0)), (0, .ref (gZ G + 513)), (1, .int (nI t)), (2, .int (v0))] [] N (hC G (mFtL t m d S)) 0 0 → V G x "ScopeTasksModel" cX3_fits 8 Q 22 [(4, .int (nI d)), (3, .int (s0)), (0, .ref (gZ G + 513)), (1, .int (nI t)), (2, .int (v0))] [] N (hC G S) 0 0 := by
  intro m
  induction m with
  | zero =>
    intro d S s0 hdm hF hk
    refine v_iload (pc := 22) 0 dX3_fits_22 rfl ?_
    refine v_bipush (pc := 24) (nI 30) dX3_fits_24 (by decide) ?_
    refine v_ic_gtN (pc := 26) 158 (by omega) (by omega) dX3_fits_26 (by decide) (fun c1 => ?_) (fun c1 => ?_)
    · skip
      refine v_sub (lv' := [(3, .int (s0)), (0, .ref (gZ G + 513)), (1, .int (nI t)), (2, .int (v0))]) [1, 2, 3, 4] rfl ?_
      exact hk
    · skip
      exact absurd c1 (by omega)
  | succ m ih =>
    intro d S s0 hdm hF hk
    refine v_iload (pc := 22) 0 dX3_fits_22 rfl ?_
    refine v_bipush (pc := 24) (nI 30) dX3_fits_24 (by decide) ?_
    refine v_ic_gtN (pc := 26) 158 (by omega) (by omega) dX3_fits_26 (by decide) (fun c1 => ?_) (fun c1 => ?_)
    · skip
      exact absurd c1 (by omega)
    · skip
      refine v_aload_n (pc := 29) 2 dX3_fits_29 rfl rfl ?_
      refine gX3_40 (pc := 30) hN dX3_fits_30 ?_
      refine v_iload_n (pc := 33) 3 dX3_fits_33 rfl rfl ?_
      refine v_iload (pc := 34) 0 dX3_fits_34 rfl ?_
      refine c_iast (pc := 36) (k := 524) (j := t) IA_524 (by omega) rfl (by omega) (by decide) dX3_fits_36 ?_
      refine v_aload_n (pc := 37) 2 dX3_fits_37 rfl rfl ?_
      refine v_aload_n (pc := 38) 2 dX3_fits_38 rfl rfl ?_
      refine gX3_52 (pc := 39) hN dX3_fits_39 ?_
      refine v_S (s1_of (k := 528) (f := S 528) (s2_nk (by omega))) ?_
      refine c_callVv (pc := 42) (st := []) (ci := 3) (ct_X3_starts (S := s2 S 524 t (nI d)) (a := 528) (g := S 528) (Or.inr rfl) (by omega)) kVX3_148 kDX3_148 (rm_ok hR (Nat.le_of_ble_eq_true rfl) (Nat.le_of_ble_eq_true rfl)) ⟨Nat.zero_le _, Nat.zero_le _⟩ (by omega) (rfl) rfl rfl rfl rfl (Nat.le_of_ble_eq_true rfl) dX3_fits_42 ?_
      refine v_aload_n (pc := 45) 2 dX3_fits_45 rfl rfl ?_
      refine v_bipush (pc := 46) (nI 60) dX3_fits_46 (by decide) ?_
      refine c_callVv (pc := 48) (st := []) (ci := 3) (ct_X3_goesOn (S := s2 S 524 t (nI d)) (w := 60) (g := rSt (s2 S 524 t (nI d))) (MI_Dl hF.1 t d) (RJ_rSt (MI_Dl hF.1 t d)) (by omega) (by omega)) kVX3_225 kDX3_225 (rm_ok hR (Nat.le_of_ble_eq_true rfl) (Nat.le_of_ble_eq_true rfl)) ⟨Nat.zero_le _, Nat.zero_le _⟩ (by omega) (rfl) rfl rfl rfl rfl (Nat.le_of_ble_eq_true rfl) dX3_fits_48 ?_
      refine v_iconst (pc := 51) (nI 1) dX3_fits_51 (by decide) ?_
      refine v_istore (pc := 52) (lv' := [(5, .int (nI 1)), (4, .int (nI d)), (3, .int (s0)), (0, .ref (gZ G + 513)), (1, .int (nI t)), (2, .int (v0))]) dX3_fits_52 (by decide) rfl ?_
      refine v_iconst (pc := 54) (nI 0) dX3_fits_54 (by decide) ?_
      refine v_istore (pc := 55) (lv' := [(6, .int (nI 0)), (5, .int (nI 1)), (4, .int (nI d)), (3, .int (s0)), (0, .ref (gZ G + 513)), (1, .int (nI t)), (2, .int (v0))]) dX3_fits_55 (by decide) rfl ?_
      refine v_sub (lv' := [(6, .int (nI 0)), (5, .int (nI 1)), (4, .int (nI d)), (3, .int (s0)), (0, .ref (gZ G + 513)), (1, .int (nI t)), (2, .int (v0))]) [0, 1, 2, 3, 4, 5, 6] rfl ?_
      have hF1 := MF_Try hF t d 60
      have hK1 : mTry S t d 60 513 28 = S 513 28 := congrFun ((s1_ne (by decide)).trans (s2_nk (by decide))) _
      obtain ⟨S1, hS1⟩ : ∃ S1, S1 = mTry S t d 60 := ⟨_, rfl⟩
      rw [show s1 (s2 S 524 t (nI d)) 528 (rGo (s2 S 524 t (nI d)) 60 (rSt (s2 S 524 t (nI d)))) = S1 from hS1.symm]
      rw [← hS1] at hF1 hK1
      rw [mFtL, mFtV, ← hS1] at hk
      refine v_lv (lv' := [(6, .int (nI 0)), (5, .int (bI (mFi S1 (S1 528) 0 = true))), (4, .int (nI d)), (3, .int (s0)), (0, .ref (gZ G + 513)), (1, .int (nI t)), (2, .int (v0))]) (by rw [bI_t (p := mFi S1 (S1 528) 0 = true) rfl]) ?_
      refine lp_fi (K := nn (S 513 28)) hN (hK1.trans hF.2.1.1) hF.2.1.2 (fun k hk => hF1.2.2 k (by rw [hK1]; exact hk)) hR (nn (S 513 28)) 0 (by omega) ?_
      refine v_iload_n (pc := 136) 2 dX3_fits_136 rfl rfl ?_
      refine v_iload (pc := 137) 0 dX3_fits_137 rfl ?_
      refine v_if_eqB (pc := 139) 149 dX3_fits_139 (by decide) (fun c2 => ?_) (fun c2 => ?_)
      · skip
        refine v_iconst (pc := 149) (nI 0) dX3_fits_149 (by decide) ?_
        refine v_ior (pc := 150) dX3_fits_150 ?_
        refine v_istore_n (pc := 151) (lv' := [(3, .int (s0 ||| (nI 0))), (5, .int (bI (mFi S1 (S1 528) (nn (S 513 28)) = true))), (4, .int (nI d)), (0, .ref (gZ G + 513)), (1, .int (nI t)), (2, .int (v0))]) dX3_fits_151 rfl (by decide) rfl ?_
        refine v_iincN (pc := 152) (k := 2) (lv' := [(4, .int (nI (d + 1))), (3, .int (s0 ||| (nI 0))), (5, .int (bI (mFi S1 (S1 528) (nn (S 513 28)) = true))), (0, .ref (gZ G + 513)), (1, .int (nI t)), (2, .int (v0))]) dX3_fits_152 rfl (by decide) rfl ?_
        refine v_goto (pc := 155) 22 dX3_fits_155 (by decide) ?_
        refine v_sub (lv' := [(4, .int (nI (d + 1))), (3, .int (s0 ||| (nI 0))), (0, .ref (gZ G + 513)), (1, .int (nI t)), (2, .int (v0))]) [0, 1, 3, 4, 5] rfl ?_
        rw [if_neg c2] at hk
        exact ih (d + 1) S1 _ (by omega) hF1 hk
      · skip
        refine v_iconst (pc := 142) (nI 1) dX3_fits_142 (by decide) ?_
        refine v_iload (pc := 143) 1 dX3_fits_143 rfl ?_
        refine v_ishl (pc := 145) dX3_fits_145 ?_
        refine v_goto (pc := 146) 150 dX3_fits_146 (by decide) ?_
        refine v_ior (pc := 150) dX3_fits_150 ?_
        refine v_istore_n (pc := 151) (lv' := [(3, .int (s0 ||| ((nI 1) <<< ((nI d) &&& 31)))), (5, .int (bI (mFi S1 (S1 528) (nn (S 513 28)) = true))), (4, .int (nI d)), (0, .ref (gZ G + 513)), (1, .int (nI t)), (2, .int (v0))]) dX3_fits_151 rfl (by decide) rfl ?_
        refine v_iincN (pc := 152) (k := 2) (lv' := [(4, .int (nI (d + 1))), (3, .int (s0 ||| ((nI 1) <<< ((nI d) &&& 31)))), (5, .int (bI (mFi S1 (S1 528) (nn (S 513 28)) = true))), (0, .ref (gZ G + 513)), (1, .int (nI t)), (2, .int (v0))]) dX3_fits_152 rfl (by decide) rfl ?_
        refine v_goto (pc := 155) 22 dX3_fits_155 (by decide) ?_
        refine v_sub (lv' := [(4, .int (nI (d + 1))), (3, .int (s0 ||| ((nI 1) <<< ((nI d) &&& 31)))), (0, .ref (gZ G + 513)), (1, .int (nI t)), (2, .int (v0))]) [0, 1, 3, 4, 5] rfl ?_
        rw [if_pos c2] at hk
        exact ih (d + 1) S1 _ (by omega) hF1 hk

set_option maxHeartbeats 4000000 in
theorem ct_X3_fits {G : GT} {l : Launch} {N : Nat} {S : ST} {t : Int32} (hF : MF S) (hN : 535 ≤ N) : CTi G l yX3_fits cX3_fits 8 (some .int) 7 [.ref (gZ G + 513), .int (t)] N (S) (mFitsV S t) (mFitsS S t) := by
  have hS := hF.1
  have hn8 := hS.n
  have hn1 := hS.2.1
  refine CT.mk "ScopeTasksModel" [(0, .ref (gZ G + 513)), (1, .int (t))] rfl (by decide) rfl (Nat.le_of_ble_eq_true rfl) ?_
  intro x hR hl hr hnm
  refine v_aload_n (pc := 0) 0 dX3_fits_0 rfl rfl ?_
  refine v_iload_n (pc := 1) 1 dX3_fits_1 rfl rfl ?_
  refine c_callVi (pc := 2) (st := []) (ci := 3) (ct_X3_isTask (S := S) (t := t) hS (by omega)) kVX3_214 kDX3_214 (rm_ok hR (Nat.le_of_ble_eq_true rfl) (Nat.le_of_ble_eq_true rfl)) ⟨Nat.zero_le _, Nat.zero_le _⟩ (by omega) (rfl) rfl rfl rfl rfl (Nat.le_of_ble_eq_true rfl) dX3_fits_2 ?_
  refine v_if_neB (pc := 5) 10 dX3_fits_5 (by decide) (fun c1 => ?_) (fun c1 => ?_)
  · skip
    obtain ⟨j, hjL, rfl⟩ := in_nat (n := mN S - 1) (by omega) c1
    have hj8 : j < 8 := by omega
    have hjn : nn (nI j) = j := nn_nI (by omega)
    refine v_aload_n (pc := 10) 0 dX3_fits_10 rfl rfl ?_
    refine gX3_40 (pc := 11) hN dX3_fits_11 ?_
    refine v_iload_n (pc := 14) 1 dX3_fits_14 rfl rfl ?_
    refine c_iald (pc := 15) (k := 524) (j := j) IA_524 (by omega) rfl (by omega) (by decide) dX3_fits_15 ?_
    refine v_istore_n (pc := 16) (lv' := [(2, .int (S 524 j)), (0, .ref (gZ G + 513)), (1, .int (nI j))]) dX3_fits_16 rfl (by decide) rfl ?_
    refine v_iconst (pc := 17) (nI 0) dX3_fits_17 (by decide) ?_
    refine v_istore_n (pc := 18) (lv' := [(3, .int (nI 0)), (2, .int (S 524 j)), (0, .ref (gZ G + 513)), (1, .int (nI j))]) dX3_fits_18 rfl (by decide) rfl ?_
    refine v_iconst (pc := 19) (nI 1) dX3_fits_19 (by decide) ?_
    refine v_istore (pc := 20) (lv' := [(4, .int (nI 1)), (3, .int (nI 0)), (2, .int (S 524 j)), (0, .ref (gZ G + 513)), (1, .int (nI j))]) dX3_fits_20 (by decide) rfl ?_
    refine v_sub (lv' := [(4, .int (nI 1)), (3, .int (nI 0)), (0, .ref (gZ G + 513)), (1, .int (nI j)), (2, .int (S 524 j))]) [0, 1, 3, 4, 2] rfl ?_
    refine lp_fo hN hj8 hR 30 1 S _ (by omega) hF ?_
    refine v_aload_n (pc := 158) 1 dX3_fits_158 rfl rfl ?_
    refine gX3_40 (pc := 159) hN dX3_fits_159 ?_
    refine v_iload_n (pc := 162) 2 dX3_fits_162 rfl rfl ?_
    refine v_iload_n (pc := 163) 3 dX3_fits_163 rfl rfl ?_
    refine c_iast (pc := 164) (k := 524) (j := j) IA_524 (by omega) rfl (by omega) (by decide) dX3_fits_164 ?_
    refine v_iload_n (pc := 165) 0 dX3_fits_165 rfl rfl ?_
    exact v_iret (pc := 166) hr rfl (Nat.le_refl _) (Nat.le_refl _) dX3_fits_166 (pI_mk (by unfold mFitsV; rw [if_pos c1, hjn]) (hC_c (by unfold mFitsS; rw [if_pos c1, hjn])))
  · skip
    refine v_iconst (pc := 8) ((-1)) dX3_fits_8 (by decide) ?_
    exact v_iret (pc := 9) hr rfl (Nat.le_refl _) (Nat.le_refl _) dX3_fits_9 (pI_mk (by unfold mFitsV; rw [if_neg c1]) (hC_c (by unfold mFitsS; rw [if_neg c1])))

