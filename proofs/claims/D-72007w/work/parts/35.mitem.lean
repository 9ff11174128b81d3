set_option maxRecDepth 100000
/-! ScopeTasksModel: items, begins, tellsAll, tree: walks -/
theorem bI_d {p : Prop} [Decidable p] {s : ST} : bI p = bI ((decide p, s).1 = true) := bI_c (by simp)
set_option maxHeartbeats 4000000 in
theorem ct_X3_readsTask {G : GT} {l : Launch} {N : Nat} {S : ST}  (hM : MR S) (h1 : 1 ≤ mK S) (hN : 535 ≤ N) : CTi G l yX3_readsTask cX3_readsTask 1 (some .boolean) 5 [.ref (gZ G + 513)] N (S) (bI ((rtR S).1 = true)) ((rtR S).2) := by
  obtain ⟨k, hkn⟩ : ∃ q, nn (S 513 7) = q := ⟨_, rfl⟩
  have hkE := (hM.2.1).1
  have hkL := (hM.2.1).2
  rw [hkn] at hkE hkL
  have h1 : 1 ≤ k := by rw [← hkn]; exact h1
  refine CT.mk "ScopeTasksModel" [(0, .ref (gZ G + 513))] rfl (by decide) rfl (Nat.le_of_ble_eq_true rfl) ?_
  intro x hR hl hr hnm
  refine v_aload_n (pc := 0) 0 dX3_readsTask_0 rfl rfl ?_
  refine gX3_120 (pc := 1) hN dX3_readsTask_1 ?_
  refine v_topi (v := nI k) hkE ?_
  refine v_bipush (pc := 4) (nI 8) dX3_readsTask_4 (by decide) ?_
  refine v_ic_neN (pc := 6) 14 (by omega) (by omega) dX3_readsTask_6 (by decide) (fun c1 => ?_) (fun c1 => ?_)
  · skip
    refine v_aload_n (pc := 14) 0 dX3_readsTask_14 rfl rfl ?_
    refine v_iconst (pc := 15) (nI 0) dX3_readsTask_15 (by decide) ?_
    refine v_aload_n (pc := 16) 0 dX3_readsTask_16 rfl rfl ?_
    refine gX3_120 (pc := 17) hN dX3_readsTask_17 ?_
    refine v_topi (v := nI k) hkE ?_
    refine v_iconst (pc := 20) (nI 1) dX3_readsTask_20 (by decide) ?_
    refine v_isubN (pc := 21) (by omega) dX3_readsTask_21 ?_
    refine c_callVi (pc := 22) (st := []) (ci := 3) (cs_X3_number (S := S) (lo := nI 0) (hi := nI (k - 1)) hM.1 (by omega)) kVX3_126 kDX3_126 (rm_ok hR (Nat.le_of_ble_eq_true rfl) (Nat.le_of_ble_eq_true rfl)) ⟨Nat.zero_le _, Nat.zero_le _⟩ (by omega) (rfl) rfl rfl rfl rfl (Nat.le_of_ble_eq_true rfl) dX3_readsTask_22 ?_
    refine v_if_neB (pc := 25) 30 dX3_readsTask_25 (by decide) (fun c2 => ?_) (fun c2 => ?_)
    · skip
      refine v_aload_n (pc := 30) 0 dX3_readsTask_30 rfl rfl ?_
      refine gX3_13 (pc := 31) hN dX3_readsTask_31 ?_
      refine v_aload_n (pc := 34) 0 dX3_readsTask_34 rfl rfl ?_
      refine gX3_120 (pc := 35) hN dX3_readsTask_35 ?_
      refine v_topi (v := nI k) ((nuS_j (by omega)).trans hkE) ?_
      refine v_aload_n (pc := 38) 0 dX3_readsTask_38 rfl rfl ?_
      refine gX3_104 (pc := 39) hN dX3_readsTask_39 ?_
      refine c_iast (pc := 42) (k := 515) (j := k) IA_515 (by omega) rfl (by omega) (by decide) dX3_readsTask_42 ?_
      refine v_aload_n (pc := 43) 0 dX3_readsTask_43 rfl rfl ?_
      refine v_dup (pc := 44) dX3_readsTask_44 rfl ?_
      refine gX3_120 (pc := 45) hN dX3_readsTask_45 ?_
      refine v_topi (v := nI k) ((congrFun (s2_nk (by omega)) _).trans ((nuS_j (by omega)).trans hkE)) ?_
      refine v_iconst (pc := 48) (nI 1) dX3_readsTask_48 (by decide) ?_
      refine v_iaddN (pc := 49) dX3_readsTask_49 ?_
      refine pX3_120 (pc := 50) hN dX3_readsTask_50 ?_
      refine v_aload_n (pc := 53) 0 dX3_readsTask_53 rfl rfl ?_
      refine v_aload_n (pc := 54) 0 dX3_readsTask_54 rfl rfl ?_
      refine gX3_120 (pc := 55) hN dX3_readsTask_55 ?_
      refine v_topi (v := nI (k + 1)) (s2_at _ _ _ _) ?_
      refine v_iconst (pc := 58) (nI 1) dX3_readsTask_58 (by decide) ?_
      refine v_isubN (pc := 59) (by omega) dX3_readsTask_59 ?_
      refine v_topi (v := nI k) rfl ?_
      refine c_callVi (pc := 60) (st := []) (ci := 3) (ct_X3_readsProgram (S := s2 (s2 (nuS S (nI 0) (nI (k - 1))) 515 k ((nuS S (nI 0) (nI (k - 1))) 513 5)) 513 7 (nI (k + 1))) (t := k) (MP.same (MP_nu hM.1 _ _) (by rw [s2_nj (by decide), s2_nk (by decide)]) (by rw [s2_nj (by decide), s2_nk (by decide)])) (by omega) (by rw [s2_nk (by decide), s2_nk (by decide), nuS_ne (by decide)]; exact hM.2.2 k (by omega)) (by omega)) kVX3_130 kDX3_130 (rm_ok hR (Nat.le_of_ble_eq_true rfl) (Nat.le_of_ble_eq_true rfl)) ⟨Nat.zero_le _, Nat.zero_le _⟩ (by omega) (rfl) rfl rfl rfl rfl (Nat.le_of_ble_eq_true rfl) dX3_readsTask_60 ?_
      exact v_iret (pc := 63) hr bI_nar (Nat.le_refl _) (Nat.le_refl _) dX3_readsTask_63 (pI_mk (by rw [(show rtR S = _ from by unfold rtR mK; rw [hkn, if_neg (show ¬ S 513 7 = nI 8 from by rw [hkE]; exact fun z => c1 ((nI_eq (by omega) (by decide)).mp z)), if_pos c2])]) (hC_c (by rw [(show rtR S = _ from by unfold rtR mK; rw [hkn, if_neg (show ¬ S 513 7 = nI 8 from by rw [hkE]; exact fun z => c1 ((nI_eq (by omega) (by decide)).mp z)), if_pos c2])])))
    · skip
      refine v_iconst (pc := 28) (nI 0) dX3_readsTask_28 (by decide) ?_
      exact v_iret (pc := 29) hr rfl (Nat.le_refl _) (Nat.le_refl _) dX3_readsTask_29 (pI_mk (by rw [(show rtR S = _ from by unfold rtR mK; rw [hkn, if_neg (show ¬ S 513 7 = nI 8 from by rw [hkE]; exact fun z => c1 ((nI_eq (by omega) (by decide)).mp z)), if_neg c2])]; exact bI_f Bool.false_ne_true) (hC_c (by rw [(show rtR S = _ from by unfold rtR mK; rw [hkn, if_neg (show ¬ S 513 7 = nI 8 from by rw [hkE]; exact fun z => c1 ((nI_eq (by omega) (by decide)).mp z)), if_neg c2])])))
  · skip
    refine v_aload_n (pc := 9) 0 dX3_readsTask_9 rfl rfl ?_
    refine c_callVi (pc := 10) (st := []) (ci := 3) (cs_X3_fails (S := S)  (by omega)) kVX3_117 kDX3_117 (rm_ok hR (Nat.le_of_ble_eq_true rfl) (Nat.le_of_ble_eq_true rfl)) ⟨Nat.zero_le _, Nat.zero_le _⟩ (by omega) (rfl) rfl rfl rfl rfl (Nat.le_of_ble_eq_true rfl) dX3_readsTask_10 ?_
    exact v_iret (pc := 13) hr rfl (Nat.le_refl _) (Nat.le_refl _) dX3_readsTask_13 (pI_mk (by rw [(show rtR S = _ from by unfold rtR; rw [if_pos (show S 513 7 = nI 8 from by rw [hkE, c1])])]; exact bI_f Bool.false_ne_true) (hC_c (by rw [(show rtR S = _ from by unfold rtR; rw [if_pos (show S 513 7 = nI 8 from by rw [hkE, c1])])])))

set_option maxHeartbeats 4000000 in
theorem ct_X3_readsOf {G : GT} {l : Launch} {N : Nat} {S : ST} {c : Int32} (hM : MR S) (h1 : 1 ≤ mK S) (hN : 535 ≤ N) : CTi G l yX3_readsOf cX3_readsOf 3 (some .boolean) 4 [.ref (gZ G + 513), .int (c)] N (S) (bI ((roR S c).1 = true)) ((roR S c).2) := by
  obtain ⟨k, hkn⟩ : ∃ q, nn (S 513 7) = q := ⟨_, rfl⟩
  have hkE := (hM.2.1).1
  have hkL := (hM.2.1).2
  rw [hkn] at hkE hkL
  have h1 : 1 ≤ k := by rw [← hkn]; exact h1
  refine CT.mk "ScopeTasksModel" [(0, .ref (gZ G + 513)), (1, .int (c))] rfl (by decide) rfl (Nat.le_of_ble_eq_true rfl) ?_
  intro x hR hl hr hnm
  refine v_aload_n (pc := 0) 0 dX3_readsOf_0 rfl rfl ?_
  refine v_iconst (pc := 1) (nI 0) dX3_readsOf_1 (by decide) ?_
  refine v_aload_n (pc := 2) 0 dX3_readsOf_2 rfl rfl ?_
  refine gX3_120 (pc := 3) hN dX3_readsOf_3 ?_
  refine v_topi (v := nI k) hkE ?_
  refine v_iconst (pc := 6) (nI 1) dX3_readsOf_6 (by decide) ?_
  refine v_isubN (pc := 7) (by omega) dX3_readsOf_7 ?_
  refine c_callVi (pc := 8) (st := []) (ci := 3) (cs_X3_number (S := S) (lo := nI 0) (hi := nI (k - 1)) hM.1 (by omega)) kVX3_126 kDX3_126 (rm_ok hR (Nat.le_of_ble_eq_true rfl) (Nat.le_of_ble_eq_true rfl)) ⟨Nat.zero_le _, Nat.zero_le _⟩ (by omega) (rfl) rfl rfl rfl rfl (Nat.le_of_ble_eq_true rfl) dX3_readsOf_8 ?_
  refine v_if_neB (pc := 11) 16 dX3_readsOf_11 (by decide) (fun c1 => ?_) (fun c1 => ?_)
  · skip
    obtain ⟨j, hjL, hjE0⟩ := in_nat (n := k - 1) (by omega) c1.2
    have hjE : nuS S (nI 0) (nI (k - 1)) 513 5 = nI j := by unfold nuS nu; rw [s1_at, if_pos c1]; exact hjE0
    have hM1 := MR_nu hM (nI 0) (nI (k - 1))
    obtain ⟨S1, hS1⟩ : ∃ q, q = nuS S (nI 0) (nI (k - 1)) := ⟨_, rfl⟩
    rw [← hS1] at hjE hM1 ⊢
    have hjn : nn (S1 513 5) = j := by rw [hjE]; exact nn_nI (by omega)
    refine v_aload_n (pc := 16) 0 dX3_readsOf_16 rfl rfl ?_
    refine gX3_104 (pc := 17) hN dX3_readsOf_17 ?_
    refine v_topi (v := nI j) hjE ?_
    refine v_istore_n (pc := 20) (lv' := [(2, .int (nI j)), (0, .ref (gZ G + 513)), (1, .int (c))]) dX3_readsOf_20 rfl (by decide) rfl ?_
    refine v_iload_n (pc := 21) 2 dX3_readsOf_21 rfl rfl ?_
    refine v_bipush (pc := 22) (nI 103) dX3_readsOf_22 (by decide) ?_
    refine v_ic_ne (pc := 24) 61 dX3_readsOf_24 (by decide) (fun c2 => ?_) (fun c2 => ?_)
    · skip
      refine v_aload_n (pc := 61) 1 dX3_readsOf_61 rfl rfl ?_
      refine v_iload_n (pc := 62) 2 dX3_readsOf_62 rfl rfl ?_
      refine v_bipush (pc := 63) (nI 100) dX3_readsOf_63 (by decide) ?_
      refine v_ic_ne (pc := 65) 72 dX3_readsOf_65 (by decide) (fun c3 => ?_) (fun c3 => ?_)
      · skip
        refine v_iconst (pc := 72) (nI 0) dX3_readsOf_72 (by decide) ?_
        refine v_iload_n (pc := 73) 2 dX3_readsOf_73 rfl rfl ?_
        refine v_bipush (pc := 74) (nI 100) dX3_readsOf_74 (by decide) ?_
        refine v_ic_ne (pc := 76) 84 dX3_readsOf_76 (by decide) (fun _ => ?_) (fun h => absurd h c3)
        refine v_iload_n (pc := 84) 2 dX3_readsOf_84 rfl rfl ?_
        refine v_bipush (pc := 85) (nI 115) dX3_readsOf_85 (by decide) ?_
        refine v_ic_ne (pc := 87) 95 dX3_readsOf_87 (by decide) (fun c4 => ?_) (fun c4 => ?_)
        · skip
          refine v_iconst (pc := 95) (nI 5) dX3_readsOf_95 (by decide) ?_
          refine c_callVi (pc := 96) (st := []) (ci := 3) (cs_X3_number (S := S1) (lo := nI 0) (hi := nI 5) hM1.1 (by omega)) kVX3_126 kDX3_126 (rm_ok hR (Nat.le_of_ble_eq_true rfl) (Nat.le_of_ble_eq_true rfl)) ⟨Nat.zero_le _, Nat.zero_le _⟩ (by omega) (rfl) rfl rfl rfl rfl (Nat.le_of_ble_eq_true rfl) dX3_readsOf_96 ?_
          refine v_if_neB (pc := 99) 104 dX3_readsOf_99 (by decide) (fun c5 => ?_) (fun c5 => ?_)
          · skip
            refine v_aload_n (pc := 104) 1 dX3_readsOf_104 rfl rfl ?_
            refine gX3_22 (pc := 105) hN dX3_readsOf_105 ?_
            refine v_iload_n (pc := 108) 0 dX3_readsOf_108 rfl rfl ?_
            refine v_iload_n (pc := 109) 2 dX3_readsOf_109 rfl rfl ?_
            refine v_bipush (pc := 110) (nI 100) dX3_readsOf_110 (by decide) ?_
            refine v_ic_ne (pc := 112) 122 dX3_readsOf_112 (by decide) (fun _ => ?_) (fun h => absurd h c3)
            refine v_aload_n (pc := 122) 1 dX3_readsOf_122 rfl rfl ?_
            refine gX3_22 (pc := 123) hN dX3_readsOf_123 ?_
            refine v_iload_n (pc := 126) 0 dX3_readsOf_126 rfl rfl ?_
            refine c_iald (pc := 127) (k := 518) (j := j) IA_518 (by omega) rfl (by omega) (by decide) dX3_readsOf_127 ?_
            refine c_iast (pc := 128) (k := 518) (j := j) IA_518 (by omega) rfl (by omega) (by decide) dX3_readsOf_128 ?_
            refine v_aload_n (pc := 129) 1 dX3_readsOf_129 rfl rfl ?_
            refine gX3_25 (pc := 130) hN dX3_readsOf_130 ?_
            refine v_iload_n (pc := 133) 0 dX3_readsOf_133 rfl rfl ?_
            refine v_iload_n (pc := 134) 2 dX3_readsOf_134 rfl rfl ?_
            refine v_bipush (pc := 135) (nI 115) dX3_readsOf_135 (by decide) ?_
            refine v_ic_ne (pc := 137) 147 dX3_readsOf_137 (by decide) (fun _ => ?_) (fun h => absurd h c4)
            refine v_aload_n (pc := 147) 1 dX3_readsOf_147 rfl rfl ?_
            refine gX3_25 (pc := 148) hN dX3_readsOf_148 ?_
            refine v_iload_n (pc := 151) 0 dX3_readsOf_151 rfl rfl ?_
            refine c_iald (pc := 152) (k := 519) (j := j) IA_519 (by omega) rfl (by omega) (by decide) dX3_readsOf_152 ?_
            refine v_topi (v := (nuS S1 (nI 0) (nI 5)) 519 j) (congrFun (s2_nk (by omega)) _) ?_
            refine c_iast (pc := 153) (k := 519) (j := j) IA_519 (by omega) rfl (by omega) (by decide) dX3_readsOf_153 ?_
            refine v_aload_n (pc := 154) 1 dX3_readsOf_154 rfl rfl ?_
            refine gX3_28 (pc := 155) hN dX3_readsOf_155 ?_
            refine v_iload_n (pc := 158) 0 dX3_readsOf_158 rfl rfl ?_
            refine v_iload_n (pc := 159) 2 dX3_readsOf_159 rfl rfl ?_
            refine v_bipush (pc := 160) (nI 99) dX3_readsOf_160 (by decide) ?_
            refine v_ic_ne (pc := 162) 172 dX3_readsOf_162 (by decide) (fun c6 => ?_) (fun c6 => ?_)
            · skip
              refine v_aload_n (pc := 172) 1 dX3_readsOf_172 rfl rfl ?_
              refine gX3_28 (pc := 173) hN dX3_readsOf_173 ?_
              refine v_iload_n (pc := 176) 0 dX3_readsOf_176 rfl rfl ?_
              refine c_iald (pc := 177) (k := 520) (j := j) IA_520 (by omega) rfl (by omega) (by decide) dX3_readsOf_177 ?_
              refine v_topi (v := (nuS S1 (nI 0) (nI 5)) 520 j) ((congrFun (s2_nk (by omega)) _).trans (congrFun (s2_nk (by omega)) _)) ?_
              refine c_iast (pc := 178) (k := 520) (j := j) IA_520 (by omega) rfl (by omega) (by decide) dX3_readsOf_178 ?_
              refine v_S (S' := roW (nuS S1 (nI 0) (nI 5)) c j) (by unfold roW; rw [if_neg c3, if_neg c4, if_neg c6]) ?_
              refine v_aload_n (pc := 179) 1 dX3_readsOf_179 rfl rfl ?_
              refine c_callVi (pc := 180) (st := []) (ci := 3) (cs_X3_ends (S := roW (nuS S1 (nI 0) (nI 5)) c j)  (MR_roW (MR_nu hM1 _ _) _ _).1 (by omega)) kVX3_133 kDX3_133 (rm_ok hR (Nat.le_of_ble_eq_true rfl) (Nat.le_of_ble_eq_true rfl)) ⟨Nat.zero_le _, Nat.zero_le _⟩ (by omega) (rfl) rfl rfl rfl rfl (Nat.le_of_ble_eq_true rfl) dX3_readsOf_180 ?_
              exact v_iret (pc := 183) hr bI_nar (Nat.le_refl _) (Nat.le_refl _) dX3_readsOf_183 (pI_mk (by rw [(show roR S c = (decide (esB (roW (nuS S1 (nI 0) (nI 5)) c j)), esS (roW (nuS S1 (nI 0) (nI 5)) c j)) from by unfold roR mK; rw [hkn, if_pos c1, ← hS1, hjn, if_neg c2]; unfold roN; rw [(show roLo c = (nI 0) from if_neg c3), (show roHi c = (nI 5) from by unfold roHi; rw [if_neg c3, if_neg c4]), if_pos c5])]; exact bI_d) (hC_c (by rw [(show roR S c = (decide (esB (roW (nuS S1 (nI 0) (nI 5)) c j)), esS (roW (nuS S1 (nI 0) (nI 5)) c j)) from by unfold roR mK; rw [hkn, if_pos c1, ← hS1, hjn, if_neg c2]; unfold roN; rw [(show roLo c = (nI 0) from if_neg c3), (show roHi c = (nI 5) from by unfold roHi; rw [if_neg c3, if_neg c4]), if_pos c5])])))
            · skip
              refine v_aload_n (pc := 165) 1 dX3_readsOf_165 rfl rfl ?_
              refine gX3_104 (pc := 166) hN dX3_readsOf_166 ?_
              refine v_topi (v := (nuS S1 (nI 0) (nI 5)) 513 5) ((congrFun (s2_nk (by omega)) _).trans (congrFun (s2_nk (by omega)) _)) ?_
              refine v_goto (pc := 169) 178 dX3_readsOf_169 (by decide) ?_
              refine c_iast (pc := 178) (k := 520) (j := j) IA_520 (by omega) rfl (by omega) (by decide) dX3_readsOf_178 ?_
              refine v_S (S' := roW (nuS S1 (nI 0) (nI 5)) c j) (by unfold roW; rw [if_neg c3, if_neg c4, if_pos c6]) ?_
              refine v_aload_n (pc := 179) 1 dX3_readsOf_179 rfl rfl ?_
              refine c_callVi (pc := 180) (st := []) (ci := 3) (cs_X3_ends (S := roW (nuS S1 (nI 0) (nI 5)) c j)  (MR_roW (MR_nu hM1 _ _) _ _).1 (by omega)) kVX3_133 kDX3_133 (rm_ok hR (Nat.le_of_ble_eq_true rfl) (Nat.le_of_ble_eq_true rfl)) ⟨Nat.zero_le _, Nat.zero_le _⟩ (by omega) (rfl) rfl rfl rfl rfl (Nat.le_of_ble_eq_true rfl) dX3_readsOf_180 ?_
              exact v_iret (pc := 183) hr bI_nar (Nat.le_refl _) (Nat.le_refl _) dX3_readsOf_183 (pI_mk (by rw [(show roR S c = (decide (esB (roW (nuS S1 (nI 0) (nI 5)) c j)), esS (roW (nuS S1 (nI 0) (nI 5)) c j)) from by unfold roR mK; rw [hkn, if_pos c1, ← hS1, hjn, if_neg c2]; unfold roN; rw [(show roLo c = (nI 0) from if_neg c3), (show roHi c = (nI 5) from by unfold roHi; rw [if_neg c3, if_neg c4]), if_pos c5])]; exact bI_d) (hC_c (by rw [(show roR S c = (decide (esB (roW (nuS S1 (nI 0) (nI 5)) c j)), esS (roW (nuS S1 (nI 0) (nI 5)) c j)) from by unfold roR mK; rw [hkn, if_pos c1, ← hS1, hjn, if_neg c2]; unfold roN; rw [(show roLo c = (nI 0) from if_neg c3), (show roHi c = (nI 5) from by unfold roHi; rw [if_neg c3, if_neg c4]), if_pos c5])])))
          · skip
            refine v_iconst (pc := 102) (nI 0) dX3_readsOf_102 (by decide) ?_
            exact v_iret (pc := 103) hr rfl (Nat.le_refl _) (Nat.le_refl _) dX3_readsOf_103 (pI_mk (by rw [(show roR S c = (false, nuS S1 (nI 0) (nI 5)) from by unfold roR mK; rw [hkn, if_pos c1, ← hS1, hjn, if_neg c2]; unfold roN; rw [(show roLo c = (nI 0) from if_neg c3), (show roHi c = (nI 5) from by unfold roHi; rw [if_neg c3, if_neg c4]), if_neg c5])]; exact bI_f Bool.false_ne_true) (hC_c (by rw [(show roR S c = (false, nuS S1 (nI 0) (nI 5)) from by unfold roR mK; rw [hkn, if_pos c1, ← hS1, hjn, if_neg c2]; unfold roN; rw [(show roLo c = (nI 0) from if_neg c3), (show roHi c = (nI 5) from by unfold roHi; rw [if_neg c3, if_neg c4]), if_neg c5])])))
        · skip
          refine v_bipush (pc := 90) (nI 6) dX3_readsOf_90 (by decide) ?_
          refine v_goto (pc := 92) 96 dX3_readsOf_92 (by decide) ?_
          refine c_callVi (pc := 96) (st := []) (ci := 3) (cs_X3_number (S := S1) (lo := nI 0) (hi := nI 6) hM1.1 (by omega)) kVX3_126 kDX3_126 (rm_ok hR (Nat.le_of_ble_eq_true rfl) (Nat.le_of_ble_eq_true rfl)) ⟨Nat.zero_le _, Nat.zero_le _⟩ (by omega) (rfl) rfl rfl rfl rfl (Nat.le_of_ble_eq_true rfl) dX3_readsOf_96 ?_
          refine v_if_neB (pc := 99) 104 dX3_readsOf_99 (by decide) (fun c7 => ?_) (fun c7 => ?_)
          · skip
            refine v_aload_n (pc := 104) 1 dX3_readsOf_104 rfl rfl ?_
            refine gX3_22 (pc := 105) hN dX3_readsOf_105 ?_
            refine v_iload_n (pc := 108) 0 dX3_readsOf_108 rfl rfl ?_
            refine v_iload_n (pc := 109) 2 dX3_readsOf_109 rfl rfl ?_
            refine v_bipush (pc := 110) (nI 100) dX3_readsOf_110 (by decide) ?_
            refine v_ic_ne (pc := 112) 122 dX3_readsOf_112 (by decide) (fun _ => ?_) (fun h => absurd h c3)
            refine v_aload_n (pc := 122) 1 dX3_readsOf_122 rfl rfl ?_
            refine gX3_22 (pc := 123) hN dX3_readsOf_123 ?_
            refine v_iload_n (pc := 126) 0 dX3_readsOf_126 rfl rfl ?_
            refine c_iald (pc := 127) (k := 518) (j := j) IA_518 (by omega) rfl (by omega) (by decide) dX3_readsOf_127 ?_
            refine c_iast (pc := 128) (k := 518) (j := j) IA_518 (by omega) rfl (by omega) (by decide) dX3_readsOf_128 ?_
            refine v_aload_n (pc := 129) 1 dX3_readsOf_129 rfl rfl ?_
            refine gX3_25 (pc := 130) hN dX3_readsOf_130 ?_
            refine v_iload_n (pc := 133) 0 dX3_readsOf_133 rfl rfl ?_
            refine v_iload_n (pc := 134) 2 dX3_readsOf_134 rfl rfl ?_
            refine v_bipush (pc := 135) (nI 115) dX3_readsOf_135 (by decide) ?_
            refine v_ic_ne (pc := 137) 147 dX3_readsOf_137 (by decide) (fun h => absurd c4 h) (fun _ => ?_)
            refine v_aload_n (pc := 140) 1 dX3_readsOf_140 rfl rfl ?_
            refine gX3_104 (pc := 141) hN dX3_readsOf_141 ?_
            refine v_topi (v := (nuS S1 (nI 0) (nI 6)) 513 5) (congrFun (s2_nk (by omega)) _) ?_
            refine v_goto (pc := 144) 153 dX3_readsOf_144 (by decide) ?_
            refine c_iast (pc := 153) (k := 519) (j := j) IA_519 (by omega) rfl (by omega) (by decide) dX3_readsOf_153 ?_
            refine v_aload_n (pc := 154) 1 dX3_readsOf_154 rfl rfl ?_
            refine gX3_28 (pc := 155) hN dX3_readsOf_155 ?_
            refine v_iload_n (pc := 158) 0 dX3_readsOf_158 rfl rfl ?_
            refine v_iload_n (pc := 159) 2 dX3_readsOf_159 rfl rfl ?_
            refine v_bipush (pc := 160) (nI 99) dX3_readsOf_160 (by decide) ?_
            refine v_ic_ne (pc := 162) 172 dX3_readsOf_162 (by decide) (fun _ => ?_) (fun h => absurd (c4.symm.trans h) (by decide))
            refine v_aload_n (pc := 172) 1 dX3_readsOf_172 rfl rfl ?_
            refine gX3_28 (pc := 173) hN dX3_readsOf_173 ?_
            refine v_iload_n (pc := 176) 0 dX3_readsOf_176 rfl rfl ?_
            refine c_iald (pc := 177) (k := 520) (j := j) IA_520 (by omega) rfl (by omega) (by decide) dX3_readsOf_177 ?_
            refine v_topi (v := (nuS S1 (nI 0) (nI 6)) 520 j) ((congrFun (s2_nk (by omega)) _).trans (congrFun (s2_nk (by omega)) _)) ?_
            refine c_iast (pc := 178) (k := 520) (j := j) IA_520 (by omega) rfl (by omega) (by decide) dX3_readsOf_178 ?_
            refine v_S (S' := roW (nuS S1 (nI 0) (nI 6)) c j) (by unfold roW; rw [if_neg c3, if_pos c4, if_neg (fun z => absurd (c4.symm.trans z) (by decide))]) ?_
            refine v_aload_n (pc := 179) 1 dX3_readsOf_179 rfl rfl ?_
            refine c_callVi (pc := 180) (st := []) (ci := 3) (cs_X3_ends (S := roW (nuS S1 (nI 0) (nI 6)) c j)  (MR_roW (MR_nu hM1 _ _) _ _).1 (by omega)) kVX3_133 kDX3_133 (rm_ok hR (Nat.le_of_ble_eq_true rfl) (Nat.le_of_ble_eq_true rfl)) ⟨Nat.zero_le _, Nat.zero_le _⟩ (by omega) (rfl) rfl rfl rfl rfl (Nat.le_of_ble_eq_true rfl) dX3_readsOf_180 ?_
            exact v_iret (pc := 183) hr bI_nar (Nat.le_refl _) (Nat.le_refl _) dX3_readsOf_183 (pI_mk (by rw [(show roR S c = (decide (esB (roW (nuS S1 (nI 0) (nI 6)) c j)), esS (roW (nuS S1 (nI 0) (nI 6)) c j)) from by unfold roR mK; rw [hkn, if_pos c1, ← hS1, hjn, if_neg c2]; unfold roN; rw [(show roLo c = (nI 0) from if_neg c3), (show roHi c = (nI 6) from by unfold roHi; rw [if_neg c3, if_pos c4]), if_pos c7])]; exact bI_d) (hC_c (by rw [(show roR S c = (decide (esB (roW (nuS S1 (nI 0) (nI 6)) c j)), esS (roW (nuS S1 (nI 0) (nI 6)) c j)) from by unfold roR mK; rw [hkn, if_pos c1, ← hS1, hjn, if_neg c2]; unfold roN; rw [(show roLo c = (nI 0) from if_neg c3), (show roHi c = (nI 6) from by unfold roHi; rw [if_neg c3, if_pos c4]), if_pos c7])])))
          · skip
            refine v_iconst (pc := 102) (nI 0) dX3_readsOf_102 (by decide) ?_
            exact v_iret (pc := 103) hr rfl (Nat.le_refl _) (Nat.le_refl _) dX3_readsOf_103 (pI_mk (by rw [(show roR S c = (false, nuS S1 (nI 0) (nI 6)) from by unfold roR mK; rw [hkn, if_pos c1, ← hS1, hjn, if_neg c2]; unfold roN; rw [(show roLo c = (nI 0) from if_neg c3), (show roHi c = (nI 6) from by unfold roHi; rw [if_neg c3, if_pos c4]), if_neg c7])]; exact bI_f Bool.false_ne_true) (hC_c (by rw [(show roR S c = (false, nuS S1 (nI 0) (nI 6)) from by unfold roR mK; rw [hkn, if_pos c1, ← hS1, hjn, if_neg c2]; unfold roN; rw [(show roLo c = (nI 0) from if_neg c3), (show roHi c = (nI 6) from by unfold roHi; rw [if_neg c3, if_pos c4]), if_neg c7])])))
      · skip
        refine v_iconst (pc := 68) (nI 1) dX3_readsOf_68 (by decide) ?_
        refine v_goto (pc := 69) 73 dX3_readsOf_69 (by decide) ?_
        refine v_iload_n (pc := 73) 2 dX3_readsOf_73 rfl rfl ?_
        refine v_bipush (pc := 74) (nI 100) dX3_readsOf_74 (by decide) ?_
        refine v_ic_ne (pc := 76) 84 dX3_readsOf_76 (by decide) (fun h => absurd c3 h) (fun _ => ?_)
        refine v_bipush (pc := 79) (nI 60) dX3_readsOf_79 (by decide) ?_
        refine v_goto (pc := 81) 96 dX3_readsOf_81 (by decide) ?_
        refine c_callVi (pc := 96) (st := []) (ci := 3) (cs_X3_number (S := S1) (lo := nI 1) (hi := nI 60) hM1.1 (by omega)) kVX3_126 kDX3_126 (rm_ok hR (Nat.le_of_ble_eq_true rfl) (Nat.le_of_ble_eq_true rfl)) ⟨Nat.zero_le _, Nat.zero_le _⟩ (by omega) (rfl) rfl rfl rfl rfl (Nat.le_of_ble_eq_true rfl) dX3_readsOf_96 ?_
        refine v_if_neB (pc := 99) 104 dX3_readsOf_99 (by decide) (fun c8 => ?_) (fun c8 => ?_)
        · skip
          refine v_aload_n (pc := 104) 1 dX3_readsOf_104 rfl rfl ?_
          refine gX3_22 (pc := 105) hN dX3_readsOf_105 ?_
          refine v_iload_n (pc := 108) 0 dX3_readsOf_108 rfl rfl ?_
          refine v_iload_n (pc := 109) 2 dX3_readsOf_109 rfl rfl ?_
          refine v_bipush (pc := 110) (nI 100) dX3_readsOf_110 (by decide) ?_
          refine v_ic_ne (pc := 112) 122 dX3_readsOf_112 (by decide) (fun h => absurd c3 h) (fun _ => ?_)
          refine v_aload_n (pc := 115) 1 dX3_readsOf_115 rfl rfl ?_
          refine gX3_104 (pc := 116) hN dX3_readsOf_116 ?_
          refine v_goto (pc := 119) 128 dX3_readsOf_119 (by decide) ?_
          refine c_iast (pc := 128) (k := 518) (j := j) IA_518 (by omega) rfl (by omega) (by decide) dX3_readsOf_128 ?_
          refine v_aload_n (pc := 129) 1 dX3_readsOf_129 rfl rfl ?_
          refine gX3_25 (pc := 130) hN dX3_readsOf_130 ?_
          refine v_iload_n (pc := 133) 0 dX3_readsOf_133 rfl rfl ?_
          refine v_iload_n (pc := 134) 2 dX3_readsOf_134 rfl rfl ?_
          refine v_bipush (pc := 135) (nI 115) dX3_readsOf_135 (by decide) ?_
          refine v_ic_ne (pc := 137) 147 dX3_readsOf_137 (by decide) (fun _ => ?_) (fun h => absurd (c3.symm.trans h) (by decide))
          refine v_aload_n (pc := 147) 1 dX3_readsOf_147 rfl rfl ?_
          refine gX3_25 (pc := 148) hN dX3_readsOf_148 ?_
          refine v_iload_n (pc := 151) 0 dX3_readsOf_151 rfl rfl ?_
          refine c_iald (pc := 152) (k := 519) (j := j) IA_519 (by omega) rfl (by omega) (by decide) dX3_readsOf_152 ?_
          refine v_topi (v := (nuS S1 (nI 1) (nI 60)) 519 j) (congrFun (s2_nk (by omega)) _) ?_
          refine c_iast (pc := 153) (k := 519) (j := j) IA_519 (by omega) rfl (by omega) (by decide) dX3_readsOf_153 ?_
          refine v_aload_n (pc := 154) 1 dX3_readsOf_154 rfl rfl ?_
          refine gX3_28 (pc := 155) hN dX3_readsOf_155 ?_
          refine v_iload_n (pc := 158) 0 dX3_readsOf_158 rfl rfl ?_
          refine v_iload_n (pc := 159) 2 dX3_readsOf_159 rfl rfl ?_
          refine v_bipush (pc := 160) (nI 99) dX3_readsOf_160 (by decide) ?_
          refine v_ic_ne (pc := 162) 172 dX3_readsOf_162 (by decide) (fun _ => ?_) (fun h => absurd (c3.symm.trans h) (by decide))
          refine v_aload_n (pc := 172) 1 dX3_readsOf_172 rfl rfl ?_
          refine gX3_28 (pc := 173) hN dX3_readsOf_173 ?_
          refine v_iload_n (pc := 176) 0 dX3_readsOf_176 rfl rfl ?_
          refine c_iald (pc := 177) (k := 520) (j := j) IA_520 (by omega) rfl (by omega) (by decide) dX3_readsOf_177 ?_
          refine v_topi (v := (nuS S1 (nI 1) (nI 60)) 520 j) ((congrFun (s2_nk (by omega)) _).trans (congrFun (s2_nk (by omega)) _)) ?_
          refine c_iast (pc := 178) (k := 520) (j := j) IA_520 (by omega) rfl (by omega) (by decide) dX3_readsOf_178 ?_
          refine v_S (S' := roW (nuS S1 (nI 1) (nI 60)) c j) (by unfold roW; rw [if_pos c3, if_neg (fun z => absurd (c3.symm.trans z) (by decide)), if_neg (fun z => absurd (c3.symm.trans z) (by decide))]) ?_
          refine v_aload_n (pc := 179) 1 dX3_readsOf_179 rfl rfl ?_
          refine c_callVi (pc := 180) (st := []) (ci := 3) (cs_X3_ends (S := roW (nuS S1 (nI 1) (nI 60)) c j)  (MR_roW (MR_nu hM1 _ _) _ _).1 (by omega)) kVX3_133 kDX3_133 (rm_ok hR (Nat.le_of_ble_eq_true rfl) (Nat.le_of_ble_eq_true rfl)) ⟨Nat.zero_le _, Nat.zero_le _⟩ (by omega) (rfl) rfl rfl rfl rfl (Nat.le_of_ble_eq_true rfl) dX3_readsOf_180 ?_
          exact v_iret (pc := 183) hr bI_nar (Nat.le_refl _) (Nat.le_refl _) dX3_readsOf_183 (pI_mk (by rw [(show roR S c = (decide (esB (roW (nuS S1 (nI 1) (nI 60)) c j)), esS (roW (nuS S1 (nI 1) (nI 60)) c j)) from by unfold roR mK; rw [hkn, if_pos c1, ← hS1, hjn, if_neg c2]; unfold roN; rw [(show roLo c = (nI 1) from if_pos c3), (show roHi c = (nI 60) from by unfold roHi; rw [if_pos c3]), if_pos c8])]; exact bI_d) (hC_c (by rw [(show roR S c = (decide (esB (roW (nuS S1 (nI 1) (nI 60)) c j)), esS (roW (nuS S1 (nI 1) (nI 60)) c j)) from by unfold roR mK; rw [hkn, if_pos c1, ← hS1, hjn, if_neg c2]; unfold roN; rw [(show roLo c = (nI 1) from if_pos c3), (show roHi c = (nI 60) from by unfold roHi; rw [if_pos c3]), if_pos c8])])))
        · skip
          refine v_iconst (pc := 102) (nI 0) dX3_readsOf_102 (by decide) ?_
          exact v_iret (pc := 103) hr rfl (Nat.le_refl _) (Nat.le_refl _) dX3_readsOf_103 (pI_mk (by rw [(show roR S c = (false, nuS S1 (nI 1) (nI 60)) from by unfold roR mK; rw [hkn, if_pos c1, ← hS1, hjn, if_neg c2]; unfold roN; rw [(show roLo c = (nI 1) from if_pos c3), (show roHi c = (nI 60) from by unfold roHi; rw [if_pos c3]), if_neg c8])]; exact bI_f Bool.false_ne_true) (hC_c (by rw [(show roR S c = (false, nuS S1 (nI 1) (nI 60)) from by unfold roR mK; rw [hkn, if_pos c1, ← hS1, hjn, if_neg c2]; unfold roN; rw [(show roLo c = (nI 1) from if_pos c3), (show roHi c = (nI 60) from by unfold roHi; rw [if_pos c3]), if_neg c8])])))
    · skip
      refine v_aload_n (pc := 27) 1 dX3_readsOf_27 rfl rfl ?_
      refine gX3_123 (pc := 28) hN dX3_readsOf_28 ?_
      refine v_iload_n (pc := 31) 0 dX3_readsOf_31 rfl rfl ?_
      refine v_ishr (pc := 32) dX3_readsOf_32 ?_
      refine v_iconst (pc := 33) (nI 1) dX3_readsOf_33 (by decide) ?_
      refine v_iand (pc := 34) dX3_readsOf_34 ?_
      refine v_iconst (pc := 35) (nI 1) dX3_readsOf_35 (by decide) ?_
      refine v_ic_ne (pc := 36) 44 dX3_readsOf_36 (by decide) (fun c9 => ?_) (fun c9 => ?_)
      · skip
        refine v_aload_n (pc := 44) 1 dX3_readsOf_44 rfl rfl ?_
        refine v_dup (pc := 45) dX3_readsOf_45 rfl ?_
        refine gX3_123 (pc := 46) hN dX3_readsOf_46 ?_
        refine v_iconst (pc := 49) (nI 1) dX3_readsOf_49 (by decide) ?_
        refine v_iload_n (pc := 50) 0 dX3_readsOf_50 rfl rfl ?_
        refine v_ishl (pc := 51) dX3_readsOf_51 ?_
        refine v_ior (pc := 52) dX3_readsOf_52 ?_
        refine pX3_123 (pc := 53) hN dX3_readsOf_53 ?_
        refine v_aload_n (pc := 56) 1 dX3_readsOf_56 rfl rfl ?_
        refine c_callVi (pc := 57) (st := []) (ci := 3) (cs_X3_ends (S := s2 S1 513 8 ((S1 513 8) ||| ((nI 1) <<< ((nI j) &&& 31))))  (MR_s8 hM1 _).1 (by omega)) kVX3_133 kDX3_133 (rm_ok hR (Nat.le_of_ble_eq_true rfl) (Nat.le_of_ble_eq_true rfl)) ⟨Nat.zero_le _, Nat.zero_le _⟩ (by omega) (rfl) rfl rfl rfl rfl (Nat.le_of_ble_eq_true rfl) dX3_readsOf_57 ?_
        exact v_iret (pc := 60) hr bI_nar (Nat.le_refl _) (Nat.le_refl _) dX3_readsOf_60 (pI_mk (by rw [(show roR S c = (decide (esB (s2 S1 513 8 ((S1 513 8) ||| ((nI 1) <<< ((nI j) &&& 31))))), esS (s2 S1 513 8 ((S1 513 8) ||| ((nI 1) <<< ((nI j) &&& 31))))) from by unfold roR mK; rw [hkn, if_pos c1, ← hS1, hjn, if_pos c2]; unfold roG; rw [if_neg c9])]; exact bI_d) (hC_c (by rw [(show roR S c = (decide (esB (s2 S1 513 8 ((S1 513 8) ||| ((nI 1) <<< ((nI j) &&& 31))))), esS (s2 S1 513 8 ((S1 513 8) ||| ((nI 1) <<< ((nI j) &&& 31))))) from by unfold roR mK; rw [hkn, if_pos c1, ← hS1, hjn, if_pos c2]; unfold roG; rw [if_neg c9])])))
      · skip
        refine v_aload_n (pc := 39) 1 dX3_readsOf_39 rfl rfl ?_
        refine c_callVi (pc := 40) (st := []) (ci := 3) (cs_X3_fails (S := S1)  (by omega)) kVX3_117 kDX3_117 (rm_ok hR (Nat.le_of_ble_eq_true rfl) (Nat.le_of_ble_eq_true rfl)) ⟨Nat.zero_le _, Nat.zero_le _⟩ (by omega) (rfl) rfl rfl rfl rfl (Nat.le_of_ble_eq_true rfl) dX3_readsOf_40 ?_
        exact v_iret (pc := 43) hr rfl (Nat.le_refl _) (Nat.le_refl _) dX3_readsOf_43 (pI_mk (by rw [(show roR S c = (false, flS S1) from by unfold roR mK; rw [hkn, if_pos c1, ← hS1, hjn, if_pos c2]; unfold roG; rw [if_pos c9])]; exact bI_f Bool.false_ne_true) (hC_c (by rw [(show roR S c = (false, flS S1) from by unfold roR mK; rw [hkn, if_pos c1, ← hS1, hjn, if_pos c2]; unfold roG; rw [if_pos c9])])))
  · skip
    refine v_iconst (pc := 14) (nI 0) dX3_readsOf_14 (by decide) ?_
    exact v_iret (pc := 15) hr rfl (Nat.le_refl _) (Nat.le_refl _) dX3_readsOf_15 (pI_mk (by rw [(show roR S c = (false, nuS S (nI 0) (nI (k - 1))) from by unfold roR mK; rw [hkn, if_neg c1])]; exact bI_f Bool.false_ne_true) (hC_c (by rw [(show roR S c = (false, nuS S (nI 0) (nI (k - 1))) from by unfold roR mK; rw [hkn, if_neg c1])])))

set_option maxHeartbeats 4000000 in
theorem ct_X3_readsItem {G : GT} {l : Launch} {N : Nat} {S : ST}  (hM : MR S) (hN : 535 ≤ N) : CTi G l yX3_readsItem cX3_readsItem 2 (some .boolean) 6 [.ref (gZ G + 513)] N (S) (bI ((riR S).1 = true)) ((riR S).2) := by
  refine CT.mk "ScopeTasksModel" [(0, .ref (gZ G + 513))] rfl (by decide) rfl (Nat.le_of_ble_eq_true rfl) ?_
  intro x hR hl hr hnm
  refine v_aload_n (pc := 0) 0 dX3_readsItem_0 rfl rfl ?_
  refine c_callVv (pc := 1) (st := []) (ci := 3) (cs_X3_next (S := S)  hM.1 (by omega)) kVX3_114 kDX3_114 (rm_ok hR (Nat.le_of_ble_eq_true rfl) (Nat.le_of_ble_eq_true rfl)) ⟨Nat.zero_le _, Nat.zero_le _⟩ (by omega) (rfl) rfl rfl rfl rfl (Nat.le_of_ble_eq_true rfl) dX3_readsItem_1 ?_
  have hM1 := MR_nx hM
  obtain ⟨S1, hS1⟩ : ∃ q, q = nxS S := ⟨_, rfl⟩
  rw [show riR S = riQ S1 (S1 513 4) from by unfold riR; rw [hS1]]
  rw [← hS1] at hM1 ⊢
  obtain ⟨k, hkn⟩ : ∃ q, nn (S1 513 7) = q := ⟨_, rfl⟩
  have hkE := (hM1.2.1).1
  have hkL := (hM1.2.1).2
  rw [hkn] at hkE hkL
  refine v_aload_n (pc := 4) 0 dX3_readsItem_4 rfl rfl ?_
  refine gX3_97 (pc := 5) hN dX3_readsItem_5 ?_
  refine v_istore_n (pc := 8) (lv' := [(1, .int (S1 513 4)), (0, .ref (gZ G + 513))]) dX3_readsItem_8 rfl (by decide) rfl ?_
  refine v_iload_n (pc := 9) 0 dX3_readsItem_9 rfl rfl ?_
  refine v_bipush (pc := 10) (nI 114) dX3_readsItem_10 (by decide) ?_
  refine v_ic_ne (pc := 12) 38 dX3_readsItem_12 (by decide) (fun c1 => ?_) (fun c1 => ?_)
  · skip
    refine v_aload_n (pc := 38) 1 dX3_readsItem_38 rfl rfl ?_
    refine gX3_120 (pc := 39) hN dX3_readsItem_39 ?_
    refine v_topi (v := nI k) hkE ?_
    refine v_if_neN (pc := 42) 50 (by omega) dX3_readsItem_42 (by decide) (fun c2 => ?_) (fun c2 => ?_)
    · skip
      refine v_iload_n (pc := 50) 0 dX3_readsItem_50 rfl rfl ?_
      by_cases e0 : S1 513 4 = nI 116
      · skip
        refine v_lookup (pc := 51) 100 dX3_readsItem_51 (by decide) (by rw [e0]) (by decide) ?_
        refine v_aload_n (pc := 100) 1 dX3_readsItem_100 rfl rfl ?_
        refine c_callVi (pc := 101) (st := []) (ci := 3) (ct_X3_readsTask (S := S1)  hM1 (by unfold mK; rw [hkn]; omega) (by omega)) kVX3_136 kDX3_136 (rm_ok hR (Nat.le_of_ble_eq_true rfl) (Nat.le_of_ble_eq_true rfl)) ⟨Nat.zero_le _, Nat.zero_le _⟩ (by omega) (rfl) rfl rfl rfl rfl (Nat.le_of_ble_eq_true rfl) dX3_readsItem_101 ?_
        exact v_iret (pc := 104) hr bI_nar (Nat.le_refl _) (Nat.le_refl _) dX3_readsItem_104 (pI_mk (by rw [(show riQ S1 (S1 513 4) = _ from by unfold riQ mK; rw [if_neg c1, hkn, if_neg c2, if_pos e0])]) (hC_c (by rw [(show riQ S1 (S1 513 4) = _ from by unfold riQ mK; rw [if_neg c1, hkn, if_neg c2, if_pos e0])])))
      · skip
        by_cases e1 : S1 513 4 = nI 99
        · skip
          refine v_lookup (pc := 51) 105 dX3_readsItem_51 (by decide) (by rw [e1]) (by decide) ?_
          refine v_aload_n (pc := 105) 1 dX3_readsItem_105 rfl rfl ?_
          refine v_iload_n (pc := 106) 0 dX3_readsItem_106 rfl rfl ?_
          refine c_callVi (pc := 107) (st := []) (ci := 3) (ct_X3_readsOf (S := S1) (c := S1 513 4) hM1 (by unfold mK; rw [hkn]; omega) (by omega)) kVX3_139 kDX3_139 (rm_ok hR (Nat.le_of_ble_eq_true rfl) (Nat.le_of_ble_eq_true rfl)) ⟨Nat.zero_le _, Nat.zero_le _⟩ (by omega) (rfl) rfl rfl rfl rfl (Nat.le_of_ble_eq_true rfl) dX3_readsItem_107 ?_
          exact v_iret (pc := 110) hr bI_nar (Nat.le_refl _) (Nat.le_refl _) dX3_readsItem_110 (pI_mk (by rw [(show riQ S1 (S1 513 4) = _ from by unfold riQ mK; rw [if_neg c1, hkn, if_neg c2, if_neg e0, if_pos (Or.inl e1)])]) (hC_c (by rw [(show riQ S1 (S1 513 4) = _ from by unfold riQ mK; rw [if_neg c1, hkn, if_neg c2, if_neg e0, if_pos (Or.inl e1)])])))
        · skip
          by_cases e2 : S1 513 4 = nI 100
          · skip
            refine v_lookup (pc := 51) 105 dX3_readsItem_51 (by decide) (by rw [e2]) (by decide) ?_
            refine v_aload_n (pc := 105) 1 dX3_readsItem_105 rfl rfl ?_
            refine v_iload_n (pc := 106) 0 dX3_readsItem_106 rfl rfl ?_
            refine c_callVi (pc := 107) (st := []) (ci := 3) (ct_X3_readsOf (S := S1) (c := S1 513 4) hM1 (by unfold mK; rw [hkn]; omega) (by omega)) kVX3_139 kDX3_139 (rm_ok hR (Nat.le_of_ble_eq_true rfl) (Nat.le_of_ble_eq_true rfl)) ⟨Nat.zero_le _, Nat.zero_le _⟩ (by omega) (rfl) rfl rfl rfl rfl (Nat.le_of_ble_eq_true rfl) dX3_readsItem_107 ?_
            exact v_iret (pc := 110) hr bI_nar (Nat.le_refl _) (Nat.le_refl _) dX3_readsItem_110 (pI_mk (by rw [(show riQ S1 (S1 513 4) = _ from by unfold riQ mK; rw [if_neg c1, hkn, if_neg c2, if_neg e0, if_pos (Or.inr (Or.inl e2))])]) (hC_c (by rw [(show riQ S1 (S1 513 4) = _ from by unfold riQ mK; rw [if_neg c1, hkn, if_neg c2, if_neg e0, if_pos (Or.inr (Or.inl e2))])])))
          · skip
            by_cases e3 : S1 513 4 = nI 103
            · skip
              refine v_lookup (pc := 51) 105 dX3_readsItem_51 (by decide) (by rw [e3]) (by decide) ?_
              refine v_aload_n (pc := 105) 1 dX3_readsItem_105 rfl rfl ?_
              refine v_iload_n (pc := 106) 0 dX3_readsItem_106 rfl rfl ?_
              refine c_callVi (pc := 107) (st := []) (ci := 3) (ct_X3_readsOf (S := S1) (c := S1 513 4) hM1 (by unfold mK; rw [hkn]; omega) (by omega)) kVX3_139 kDX3_139 (rm_ok hR (Nat.le_of_ble_eq_true rfl) (Nat.le_of_ble_eq_true rfl)) ⟨Nat.zero_le _, Nat.zero_le _⟩ (by omega) (rfl) rfl rfl rfl rfl (Nat.le_of_ble_eq_true rfl) dX3_readsItem_107 ?_
              exact v_iret (pc := 110) hr bI_nar (Nat.le_refl _) (Nat.le_refl _) dX3_readsItem_110 (pI_mk (by rw [(show riQ S1 (S1 513 4) = _ from by unfold riQ mK; rw [if_neg c1, hkn, if_neg c2, if_neg e0, if_pos (Or.inr (Or.inr (Or.inl e3)))])]) (hC_c (by rw [(show riQ S1 (S1 513 4) = _ from by unfold riQ mK; rw [if_neg c1, hkn, if_neg c2, if_neg e0, if_pos (Or.inr (Or.inr (Or.inl e3)))])])))
            · skip
              by_cases e4 : S1 513 4 = nI 115
              · skip
                refine v_lookup (pc := 51) 105 dX3_readsItem_51 (by decide) (by rw [e4]) (by decide) ?_
                refine v_aload_n (pc := 105) 1 dX3_readsItem_105 rfl rfl ?_
                refine v_iload_n (pc := 106) 0 dX3_readsItem_106 rfl rfl ?_
                refine c_callVi (pc := 107) (st := []) (ci := 3) (ct_X3_readsOf (S := S1) (c := S1 513 4) hM1 (by unfold mK; rw [hkn]; omega) (by omega)) kVX3_139 kDX3_139 (rm_ok hR (Nat.le_of_ble_eq_true rfl) (Nat.le_of_ble_eq_true rfl)) ⟨Nat.zero_le _, Nat.zero_le _⟩ (by omega) (rfl) rfl rfl rfl rfl (Nat.le_of_ble_eq_true rfl) dX3_readsItem_107 ?_
                exact v_iret (pc := 110) hr bI_nar (Nat.le_refl _) (Nat.le_refl _) dX3_readsItem_110 (pI_mk (by rw [(show riQ S1 (S1 513 4) = _ from by unfold riQ mK; rw [if_neg c1, hkn, if_neg c2, if_neg e0, if_pos (Or.inr (Or.inr (Or.inr e4)))])]) (hC_c (by rw [(show riQ S1 (S1 513 4) = _ from by unfold riQ mK; rw [if_neg c1, hkn, if_neg c2, if_neg e0, if_pos (Or.inr (Or.inr (Or.inr e4)))])])))
              · skip
                refine v_lookup (pc := 51) (off := 60) 111 dX3_readsItem_51 (by decide) (by have h116 := sw_ne e0 (by decide); have h99 := sw_ne e1 (by decide); have h100 := sw_ne e2 (by decide); have h103 := sw_ne e3 (by decide); have h115 := sw_ne e4 (by decide); generalize (S1 513 4).toInt = z at *; simp only [Op.lookupswitch.offset]; simp_all) (by decide) ?_
                refine v_aload_n (pc := 111) 1 dX3_readsItem_111 rfl rfl ?_
                refine c_callVi (pc := 112) (st := []) (ci := 3) (cs_X3_fails (S := S1)  (by omega)) kVX3_117 kDX3_117 (rm_ok hR (Nat.le_of_ble_eq_true rfl) (Nat.le_of_ble_eq_true rfl)) ⟨Nat.zero_le _, Nat.zero_le _⟩ (by omega) (rfl) rfl rfl rfl rfl (Nat.le_of_ble_eq_true rfl) dX3_readsItem_112 ?_
                exact v_iret (pc := 115) hr rfl (Nat.le_refl _) (Nat.le_refl _) dX3_readsItem_115 (pI_mk (by rw [(show riQ S1 (S1 513 4) = _ from by unfold riQ mK; rw [if_neg c1, hkn, if_neg c2, if_neg e0, if_neg (fun z => z.elim e1 (fun z => z.elim e2 (fun z => z.elim e3 e4)))])]; exact bI_f Bool.false_ne_true) (hC_c (by rw [(show riQ S1 (S1 513 4) = _ from by unfold riQ mK; rw [if_neg c1, hkn, if_neg c2, if_neg e0, if_neg (fun z => z.elim e1 (fun z => z.elim e2 (fun z => z.elim e3 e4)))])])))
    · skip
      refine v_aload_n (pc := 45) 1 dX3_readsItem_45 rfl rfl ?_
      refine c_callVi (pc := 46) (st := []) (ci := 3) (cs_X3_fails (S := S1)  (by omega)) kVX3_117 kDX3_117 (rm_ok hR (Nat.le_of_ble_eq_true rfl) (Nat.le_of_ble_eq_true rfl)) ⟨Nat.zero_le _, Nat.zero_le _⟩ (by omega) (rfl) rfl rfl rfl rfl (Nat.le_of_ble_eq_true rfl) dX3_readsItem_46 ?_
      exact v_iret (pc := 49) hr rfl (Nat.le_refl _) (Nat.le_refl _) dX3_readsItem_49 (pI_mk (by rw [(show riQ S1 (S1 513 4) = _ from by unfold riQ mK; rw [if_neg c1, hkn, if_pos c2])]; exact bI_f Bool.false_ne_true) (hC_c (by rw [(show riQ S1 (S1 513 4) = _ from by unfold riQ mK; rw [if_neg c1, hkn, if_pos c2])])))
  · skip
    refine v_aload_n (pc := 15) 1 dX3_readsItem_15 rfl rfl ?_
    refine gX3_120 (pc := 16) hN dX3_readsItem_16 ?_
    refine v_topi (v := nI k) hkE ?_
    refine v_if_leN (pc := 19) 27 (by omega) dX3_readsItem_19 (by decide) (fun c3 => ?_) (fun c3 => ?_)
    · skip
      refine v_aload_n (pc := 27) 1 dX3_readsItem_27 rfl rfl ?_
      refine v_iconst (pc := 28) (nI 1) dX3_readsItem_28 (by decide) ?_
      refine pX3_120 (pc := 29) hN dX3_readsItem_29 ?_
      refine v_aload_n (pc := 32) 1 dX3_readsItem_32 rfl rfl ?_
      refine v_iconst (pc := 33) (nI 0) dX3_readsItem_33 (by decide) ?_
      refine c_callVi (pc := 34) (st := []) (ci := 3) (ct_X3_readsProgram (S := s2 S1 513 7 (nI 1)) (t := 0) (MP.same hM1.1 (s2_nj (by decide)) (s2_nj (by decide))) (by omega) (by rw [s2_nk (by decide)]; exact hM1.2.2 0 (by decide)) (by omega)) kVX3_130 kDX3_130 (rm_ok hR (Nat.le_of_ble_eq_true rfl) (Nat.le_of_ble_eq_true rfl)) ⟨Nat.zero_le _, Nat.zero_le _⟩ (by omega) (rfl) rfl rfl rfl rfl (Nat.le_of_ble_eq_true rfl) dX3_readsItem_34 ?_
      exact v_iret (pc := 37) hr bI_nar (Nat.le_refl _) (Nat.le_refl _) dX3_readsItem_37 (pI_mk (by rw [(show riQ S1 (S1 513 4) = _ from by unfold riQ mK; rw [if_pos c1, hkn, if_neg (by omega)])]) (hC_c (by rw [(show riQ S1 (S1 513 4) = _ from by unfold riQ mK; rw [if_pos c1, hkn, if_neg (by omega)])])))
    · skip
      refine v_aload_n (pc := 22) 1 dX3_readsItem_22 rfl rfl ?_
      refine c_callVi (pc := 23) (st := []) (ci := 3) (cs_X3_fails (S := S1)  (by omega)) kVX3_117 kDX3_117 (rm_ok hR (Nat.le_of_ble_eq_true rfl) (Nat.le_of_ble_eq_true rfl)) ⟨Nat.zero_le _, Nat.zero_le _⟩ (by omega) (rfl) rfl rfl rfl rfl (Nat.le_of_ble_eq_true rfl) dX3_readsItem_23 ?_
      exact v_iret (pc := 26) hr rfl (Nat.le_refl _) (Nat.le_refl _) dX3_readsItem_26 (pI_mk (by rw [(show riQ S1 (S1 513 4) = _ from by unfold riQ mK; rw [if_pos c1, hkn, if_pos c3])]; exact bI_f Bool.false_ne_true) (hC_c (by rw [(show riQ S1 (S1 513 4) = _ from by unfold riQ mK; rw [if_pos c1, hkn, if_pos c3])])))

set_option maxHeartbeats 4000000 in
theorem lp_bg {G : GT} {x : VX} {N : Nat} {S : ST} (hN : 535 ≤ N) (hr : (xM x).sig.returnType = none) : ∀ (m t : Nat) (f1 f2 f3 f4 f5 : Nat → Int32), t + m = 8 → (∀ j, j < t → f1 j = (-9) ∧ f2 j = nI 0 ∧ f3 j = nI 99 ∧ f4 j = nI 0 ∧ f5 j = nI 0) → V G x "ScopeTasksModel" cX3_begins 2 (QQ G x (pV N (fun h' => h' = hC G (s1 (s1 (s1 (s1 (s1 S 515 ((fun _ => (-9)))) 516 ((fun _ => nI 0))) 518 ((fun _ => nI 99))) 519 ((fun _ => nI 0))) 520 ((fun _ => nI 0))))) 0 0) 12 [(1, .int (nI t)), (0, .ref (gZ G + 513))] [] N (hC G (s1 (s1 (s1 (s1 (s1 S 515 f1) 516 f2) 518 f3) 519 f4) 520 f5)) 0 0 := by
  intro m
  induction m with
  | zero =>
    intro t f1 f2 f3 f4 f5 htm hg
    refine v_iload_n (pc := 12) 0 dX3_begins_12 rfl rfl ?_
    refine v_bipush (pc := 13) (nI 8) dX3_begins_13 (by decide) ?_
    refine v_ic_geN (pc := 15) 61 (by omega) (by omega) dX3_begins_15 (by decide) (fun c1 => ?_) (fun c1 => ?_)
    · skip
      refine v_cells (S' := s1 (s1 (s1 (s1 (s1 S 515 ((fun _ => (-9)))) 516 ((fun _ => nI 0))) 518 ((fun _ => nI 99))) 519 ((fun _ => nI 0))) 520 ((fun _ => nI 0))) ?_ ?_
      · skip
        intro q hq
        rcases Nat.lt_or_ge q 515 with h | h
        · exact Or.inl (by simp only [s1, if_neg (show ¬ q = 520 by omega), if_neg (show ¬ q = 519 by omega), if_neg (show ¬ q = 518 by omega), if_neg (show ¬ q = 516 by omega), if_neg (show ¬ q = 515 by omega)])
        by_cases e1 : q = 515
        · subst e1; exact Or.inr ⟨8, IA_515, fun j hj => (hg j (by omega)).1⟩
        by_cases e2 : q = 516
        · subst e2; exact Or.inr ⟨8, IA_516, fun j hj => (hg j (by omega)).2.1⟩
        by_cases e3 : q = 518
        · subst e3; exact Or.inr ⟨8, IA_518, fun j hj => (hg j (by omega)).2.2.1⟩
        by_cases e4 : q = 519
        · subst e4; exact Or.inr ⟨8, IA_519, fun j hj => (hg j (by omega)).2.2.2.1⟩
        by_cases e5 : q = 520
        · subst e5; exact Or.inr ⟨8, IA_520, fun j hj => (hg j (by omega)).2.2.2.2⟩
        exact Or.inl (by simp only [s1, if_neg e1, if_neg e2, if_neg e3, if_neg e4, if_neg e5])
      · skip
        exact v_vret (pc := 61) hr (Nat.le_refl _) (Nat.le_refl _) dX3_begins_61 (pV_mk rfl)
    · skip
      exact absurd c1 (by omega)
  | succ m ih =>
    intro t f1 f2 f3 f4 f5 htm hg
    refine v_iload_n (pc := 12) 0 dX3_begins_12 rfl rfl ?_
    refine v_bipush (pc := 13) (nI 8) dX3_begins_13 (by decide) ?_
    refine v_ic_geN (pc := 15) 61 (by omega) (by omega) dX3_begins_15 (by decide) (fun c1 => ?_) (fun c1 => ?_)
    · skip
      exact absurd c1 (by omega)
    · skip
      refine v_aload_n (pc := 18) 1 dX3_begins_18 rfl rfl ?_
      refine gX3_13 (pc := 19) hN dX3_begins_19 ?_
      refine v_iload_n (pc := 22) 0 dX3_begins_22 rfl rfl ?_
      refine v_bipush (pc := 23) ((-9)) dX3_begins_23 (by decide) ?_
      refine c_iast (pc := 25) (k := 515) (j := t) IA_515 (by omega) rfl (by omega) (by decide) dX3_begins_25 ?_
      refine v_S ((s2_s1n (by decide) _ _ _).trans (congrArg (fun z => s1 z 520 f5) ((s2_s1n (by decide) _ _ _).trans (congrArg (fun z => s1 z 519 f4) ((s2_s1n (by decide) _ _ _).trans (congrArg (fun z => s1 z 518 f3) ((s2_s1n (by decide) _ _ _).trans (congrArg (fun z => s1 z 516 f2) (s2_s1 _ _ _ _ _))))))))) ?_
      refine v_aload_n (pc := 26) 1 dX3_begins_26 rfl rfl ?_
      refine gX3_16 (pc := 27) hN dX3_begins_27 ?_
      refine v_iload_n (pc := 30) 0 dX3_begins_30 rfl rfl ?_
      refine v_iconst (pc := 31) (nI 0) dX3_begins_31 (by decide) ?_
      refine c_iast (pc := 32) (k := 516) (j := t) IA_516 (by omega) rfl (by omega) (by decide) dX3_begins_32 ?_
      refine v_S ((s2_s1n (by decide) _ _ _).trans (congrArg (fun z => s1 z 520 f5) ((s2_s1n (by decide) _ _ _).trans (congrArg (fun z => s1 z 519 f4) ((s2_s1n (by decide) _ _ _).trans (congrArg (fun z => s1 z 518 f3) (s2_s1 _ _ _ _ _))))))) ?_
      refine v_aload_n (pc := 33) 1 dX3_begins_33 rfl rfl ?_
      refine gX3_22 (pc := 34) hN dX3_begins_34 ?_
      refine v_iload_n (pc := 37) 0 dX3_begins_37 rfl rfl ?_
      refine v_bipush (pc := 38) (nI 99) dX3_begins_38 (by decide) ?_
      refine c_iast (pc := 40) (k := 518) (j := t) IA_518 (by omega) rfl (by omega) (by decide) dX3_begins_40 ?_
      refine v_S ((s2_s1n (by decide) _ _ _).trans (congrArg (fun z => s1 z 520 f5) ((s2_s1n (by decide) _ _ _).trans (congrArg (fun z => s1 z 519 f4) (s2_s1 _ _ _ _ _))))) ?_
      refine v_aload_n (pc := 41) 1 dX3_begins_41 rfl rfl ?_
      refine gX3_25 (pc := 42) hN dX3_begins_42 ?_
      refine v_iload_n (pc := 45) 0 dX3_begins_45 rfl rfl ?_
      refine v_iconst (pc := 46) (nI 0) dX3_begins_46 (by decide) ?_
      refine c_iast (pc := 47) (k := 519) (j := t) IA_519 (by omega) rfl (by omega) (by decide) dX3_begins_47 ?_
      refine v_S ((s2_s1n (by decide) _ _ _).trans (congrArg (fun z => s1 z 520 f5) (s2_s1 _ _ _ _ _))) ?_
      refine v_aload_n (pc := 48) 1 dX3_begins_48 rfl rfl ?_
      refine gX3_28 (pc := 49) hN dX3_begins_49 ?_
      refine v_iload_n (pc := 52) 0 dX3_begins_52 rfl rfl ?_
      refine v_iconst (pc := 53) (nI 0) dX3_begins_53 (by decide) ?_
      refine c_iast (pc := 54) (k := 520) (j := t) IA_520 (by omega) rfl (by omega) (by decide) dX3_begins_54 ?_
      refine v_S (s2_s1 _ _ _ _ _) ?_
      refine v_iincN (pc := 55) (k := 0) (lv' := [(1, .int (nI (t + 1))), (0, .ref (gZ G + 513))]) dX3_begins_55 rfl (by decide) rfl ?_
      refine v_goto (pc := 58) 12 dX3_begins_58 (by decide) ?_
      refine v_sub (lv' := [(1, .int (nI (t + 1))), (0, .ref (gZ G + 513))]) [0, 1] rfl ?_
      refine ih (t + 1) _ _ _ _ _ (by omega) (fun j hj => ?_)
      rcases Nat.lt_or_ge j t with z | z
      · obtain ⟨a1, a2, a3, a4, a5⟩ := hg j z
        exact ⟨(pk_un (by omega)).trans a1, (pk_un (by omega)).trans a2, (pk_un (by omega)).trans a3, (pk_un (by omega)).trans a4, (pk_un (by omega)).trans a5⟩
      · obtain rfl : j = t := by omega
        exact ⟨pk_us, pk_us, pk_us, pk_us, pk_us⟩

set_option maxHeartbeats 4000000 in
theorem ct_X3_begins {G : GT} {l : Launch} {N : Nat} {S : ST}  (hN : 535 ≤ N) : CTv G l yX3_begins cX3_begins 2 none 0 [.ref (gZ G + 513)] N (S) (bgS S) := by
  refine CT.mk "ScopeTasksModel" [(0, .ref (gZ G + 513))] rfl (by decide) rfl (Nat.le_of_ble_eq_true rfl) ?_
  intro x hR hl hr hnm
  refine v_aload_n (pc := 0) 0 dX3_begins_0 rfl rfl ?_
  refine v_iconst (pc := 1) (nI 0) dX3_begins_1 (by decide) ?_
  refine pX3_120 (pc := 2) hN dX3_begins_2 ?_
  refine v_aload_n (pc := 5) 0 dX3_begins_5 rfl rfl ?_
  refine v_iconst (pc := 6) (nI 0) dX3_begins_6 (by decide) ?_
  refine pX3_123 (pc := 7) hN dX3_begins_7 ?_
  refine v_iconst (pc := 10) (nI 0) dX3_begins_10 (by decide) ?_
  refine v_istore_n (pc := 11) (lv' := [(1, .int (nI 0)), (0, .ref (gZ G + 513))]) dX3_begins_11 rfl (by decide) rfl ?_
  refine v_sub (lv' := [(1, .int (nI 0)), (0, .ref (gZ G + 513))]) [0, 1] rfl ?_
  unfold bgS
  obtain ⟨S0, hS0⟩ : ∃ q, q = s2 (s2 S 513 7 (nI 0)) 513 8 (nI 0) := ⟨_, rfl⟩
  rw [← hS0]
  refine v_S (S' := s1 (s1 (s1 (s1 (s1 S0 515 (S0 515)) 516 (S0 516)) 518 (S0 518)) 519 (S0 519)) 520 (S0 520)) (by rw [s1_self, s1_self, s1_self, s1_self, s1_self]) ?_
  exact lp_bg hN hr 8 0 _ _ _ _ _ (by omega) (fun j hj => absurd hj (by omega))

