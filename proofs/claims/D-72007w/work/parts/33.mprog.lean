set_option maxRecDepth 100000
/-! ScopeTasksModel: number, ends; whole states; programs -/
set_option maxHeartbeats 4000000 in
theorem ct_X3_number {G : GT} {l : Launch} {N : Nat} {S : ST} {g : Nat → Int32} {p L : Nat} {lo hi : Int32} (hp : g 2 = nI p) (hL : g 0 = nI L) (hpL : p ≤ L) (hL1 : L ≤ 120) (hN : 535 ≤ N) : CTi G l yX3_number cX3_number 3 (some .boolean) 3 [.ref (gZ G + 513), .int (lo), .int (hi)] N (s1 S 513 g) (bI (nuP (nx (S 514) L p g) lo hi)) (s1 S 513 (nu (S 514) L p g lo hi)) := by
  refine CT.mk "ScopeTasksModel" [(0, .ref (gZ G + 513)), (1, .int (lo)), (2, .int (hi))] rfl (by decide) rfl (Nat.le_of_ble_eq_true rfl) ?_
  intro x hR hl hr hnm
  refine v_aload_n (pc := 0) 0 dX3_number_0 rfl rfl ?_
  refine c_callVv (pc := 1) (st := []) (ci := 3) (ct_X3_next (S := S) (g := g) (p := p) (L := L) hp hL (by omega) (by omega) (by omega)) kVX3_114 kDX3_114 (rm_ok hR (Nat.le_of_ble_eq_true rfl) (Nat.le_of_ble_eq_true rfl)) ⟨Nat.zero_le _, Nat.zero_le _⟩ (by omega) (rfl) rfl rfl rfl rfl (Nat.le_of_ble_eq_true rfl) dX3_number_1 ?_
  refine v_aload_n (pc := 4) 0 dX3_number_4 rfl rfl ?_
  refine gX3_97 (pc := 5) hN dX3_number_5 ?_
  refine v_topi (v := (nx (S 514) L p g) 4) (congrFun (s1_at _ _ _) _) ?_
  refine v_if_ne (pc := 8) 23 dX3_number_8 (by decide) (fun c1 => ?_) (fun c1 => ?_)
  · skip
    refine v_aload_n (pc := 23) 0 dX3_number_23 rfl rfl ?_
    refine c_callVi (pc := 24) (st := []) (ci := 3) (ct_X3_fails (S := S) (g := nx (S 514) L p g) (by omega)) kVX3_117 kDX3_117 (rm_ok hR (Nat.le_of_ble_eq_true rfl) (Nat.le_of_ble_eq_true rfl)) ⟨Nat.zero_le _, Nat.zero_le _⟩ (by omega) (rfl) rfl rfl rfl rfl (Nat.le_of_ble_eq_true rfl) dX3_number_24 ?_
    refine v_if_eqN (pc := 27) 34 (by omega) dX3_number_27 (by decide) (fun _ => ?_) (fun h => absurd h (by decide))
    refine v_iconst (pc := 34) (nI 0) dX3_number_34 (by decide) ?_
    exact v_iret (pc := 35) hr rfl (Nat.le_refl _) (Nat.le_refl _) dX3_number_35 (pI_mk (bI_f (fun z => c1 z.1)) (hC_c (congrArg (s1 S 513) (by unfold nu; rw [if_neg (fun z => c1 z.1)]))))
  · skip
    refine v_aload_n (pc := 11) 0 dX3_number_11 rfl rfl ?_
    refine gX3_104 (pc := 12) hN dX3_number_12 ?_
    refine v_topi (v := (nx (S 514) L p g) 5) (congrFun (s1_at _ _ _) _) ?_
    refine v_iload_n (pc := 15) 1 dX3_number_15 rfl rfl ?_
    refine v_iload_n (pc := 16) 2 dX3_number_16 rfl rfl ?_
    refine c_callSi (pc := 17) (st := []) (ct_X3_in (S := s1 S 513 (nx (S 514) L p g)) (v := (nx (S 514) L p g) 5) (lo := lo) (hi := hi) ) kVX3_80 kDX3_80 (rm_ok hR (Nat.le_of_ble_eq_true rfl) (Nat.le_of_ble_eq_true rfl)) ⟨Nat.zero_le _, Nat.zero_le _⟩ rfl rfl (Nat.le_of_ble_eq_true rfl) dX3_number_17 ?_
    refine v_if_neB (pc := 20) 30 dX3_number_20 (by decide) (fun c2 => ?_) (fun c2 => ?_)
    · skip
      refine v_iconst (pc := 30) (nI 1) dX3_number_30 (by decide) ?_
      refine v_goto (pc := 31) 35 dX3_number_31 (by decide) ?_
      exact v_iret (pc := 35) hr rfl (Nat.le_refl _) (Nat.le_refl _) dX3_number_35 (pI_mk (bI_t ⟨c1, c2⟩) (hC_c (congrArg (s1 S 513) (by unfold nu; rw [if_pos ⟨c1, c2⟩]))))
    · skip
      refine v_aload_n (pc := 23) 0 dX3_number_23 rfl rfl ?_
      refine c_callVi (pc := 24) (st := []) (ci := 3) (ct_X3_fails (S := S) (g := nx (S 514) L p g) (by omega)) kVX3_117 kDX3_117 (rm_ok hR (Nat.le_of_ble_eq_true rfl) (Nat.le_of_ble_eq_true rfl)) ⟨Nat.zero_le _, Nat.zero_le _⟩ (by omega) (rfl) rfl rfl rfl rfl (Nat.le_of_ble_eq_true rfl) dX3_number_24 ?_
      refine v_if_eqN (pc := 27) 34 (by omega) dX3_number_27 (by decide) (fun _ => ?_) (fun h => absurd h (by decide))
      refine v_iconst (pc := 34) (nI 0) dX3_number_34 (by decide) ?_
      exact v_iret (pc := 35) hr rfl (Nat.le_refl _) (Nat.le_refl _) dX3_number_35 (pI_mk (bI_f (fun z => c2 z.2)) (hC_c (congrArg (s1 S 513) (by unfold nu; rw [if_neg (fun z => c2 z.2)]))))

set_option maxHeartbeats 4000000 in
theorem ct_X3_ends {G : GT} {l : Launch} {N : Nat} {S : ST} {g : Nat → Int32} {p L : Nat} (hp : g 2 = nI p) (hL : g 0 = nI L) (hpL : p ≤ L) (hL1 : L ≤ 120) (hN : 535 ≤ N) : CTi G l yX3_ends cX3_ends 1 (some .boolean) 3 [.ref (gZ G + 513)] N (s1 S 513 g) (bI (nx (S 514) L p g 4 = nI 59)) (s1 S 513 (es (S 514) L p g)) := by
  refine CT.mk "ScopeTasksModel" [(0, .ref (gZ G + 513))] rfl (by decide) rfl (Nat.le_of_ble_eq_true rfl) ?_
  intro x hR hl hr hnm
  refine v_aload_n (pc := 0) 0 dX3_ends_0 rfl rfl ?_
  refine c_callVv (pc := 1) (st := []) (ci := 3) (ct_X3_next (S := S) (g := g) (p := p) (L := L) hp hL (by omega) (by omega) (by omega)) kVX3_114 kDX3_114 (rm_ok hR (Nat.le_of_ble_eq_true rfl) (Nat.le_of_ble_eq_true rfl)) ⟨Nat.zero_le _, Nat.zero_le _⟩ (by omega) (rfl) rfl rfl rfl rfl (Nat.le_of_ble_eq_true rfl) dX3_ends_1 ?_
  refine v_aload_n (pc := 4) 0 dX3_ends_4 rfl rfl ?_
  refine gX3_97 (pc := 5) hN dX3_ends_5 ?_
  refine v_topi (v := (nx (S 514) L p g) 4) (congrFun (s1_at _ _ _) _) ?_
  refine v_bipush (pc := 8) (nI 59) dX3_ends_8 (by decide) ?_
  refine v_ic_eq (pc := 10) 20 dX3_ends_10 (by decide) (fun c1 => ?_) (fun c1 => ?_)
  · skip
    refine v_iconst (pc := 20) (nI 1) dX3_ends_20 (by decide) ?_
    refine v_goto (pc := 21) 25 dX3_ends_21 (by decide) ?_
    exact v_iret (pc := 25) hr rfl (Nat.le_refl _) (Nat.le_refl _) dX3_ends_25 (pI_mk (bI_t c1) (hC_c (congrArg (s1 S 513) (by unfold es; rw [if_pos c1]))))
  · skip
    refine v_aload_n (pc := 13) 0 dX3_ends_13 rfl rfl ?_
    refine c_callVi (pc := 14) (st := []) (ci := 3) (ct_X3_fails (S := S) (g := nx (S 514) L p g) (by omega)) kVX3_117 kDX3_117 (rm_ok hR (Nat.le_of_ble_eq_true rfl) (Nat.le_of_ble_eq_true rfl)) ⟨Nat.zero_le _, Nat.zero_le _⟩ (by omega) (rfl) rfl rfl rfl rfl (Nat.le_of_ble_eq_true rfl) dX3_ends_14 ?_
    refine v_if_eqN (pc := 17) 24 (by omega) dX3_ends_17 (by decide) (fun _ => ?_) (fun h => absurd h (by decide))
    refine v_iconst (pc := 24) (nI 0) dX3_ends_24 (by decide) ?_
    exact v_iret (pc := 25) hr rfl (Nat.le_refl _) (Nat.le_refl _) dX3_ends_25 (pI_mk (bI_f c1) (hC_c (congrArg (s1 S 513) (by unfold es; rw [if_neg c1]))))

theorem cs_X3_blanks {G : GT} {l : Launch} {N : Nat} {S : ST}  (hM : MP S) (hN : 535 ≤ N) : CTv G l yX3_blanks cX3_blanks 1 none 0 [.ref (gZ G + 513)] N S (blS S) := by
  have h := ct_X3_blanks (G := G) (l := l) (N := N) (S := S) (g := S 513) (hp := hM.2.1) (hL := hM.1.1) (hpL := hM.p) (hL1 := hM.L) (hN := hN)
  rw [s1_self] at h
  exact h
theorem cs_X3_next {G : GT} {l : Launch} {N : Nat} {S : ST}  (hM : MP S) (hN : 535 ≤ N) : CTv G l yX3_next cX3_next 1 none 2 [.ref (gZ G + 513)] N S (nxS S) := by
  have h := ct_X3_next (G := G) (l := l) (N := N) (S := S) (g := S 513) (hp := hM.2.1) (hL := hM.1.1) (hpL := hM.p) (hL1 := hM.L) (hN := hN)
  rw [s1_self] at h
  exact h
theorem cs_X3_number {G : GT} {l : Launch} {N : Nat} {S : ST} {lo hi : Int32} (hM : MP S) (hN : 535 ≤ N) : CTi G l yX3_number cX3_number 3 (some .boolean) 3 [.ref (gZ G + 513), .int lo, .int hi] N S (bI (nuB S lo hi)) (nuS S lo hi) := by
  have h := ct_X3_number (G := G) (l := l) (N := N) (S := S) (g := S 513) (lo := lo) (hi := hi) (hp := hM.2.1) (hL := hM.1.1) (hpL := hM.p) (hL1 := hM.L) (hN := hN)
  rw [s1_self] at h
  exact h
theorem cs_X3_ends {G : GT} {l : Launch} {N : Nat} {S : ST}  (hM : MP S) (hN : 535 ≤ N) : CTi G l yX3_ends cX3_ends 1 (some .boolean) 3 [.ref (gZ G + 513)] N S (bI (esB S)) (esS S) := by
  have h := ct_X3_ends (G := G) (l := l) (N := N) (S := S) (g := S 513) (hp := hM.2.1) (hL := hM.1.1) (hpL := hM.p) (hL1 := hM.L) (hN := hN)
  rw [s1_self] at h
  exact h
theorem cs_X3_fails {G : GT} {l : Launch} {N : Nat} {S : ST}  (hN : 535 ≤ N) : CTi G l yX3_fails cX3_fails 1 (some .boolean) 0 [.ref (gZ G + 513)] N S (nI 0) (flS S) := by
  have h := ct_X3_fails (G := G) (l := l) (N := N) (S := S) (g := S 513) hN
  rw [s1_self] at h
  exact h
set_option maxHeartbeats 4000000 in
theorem lp_pg {G : GT} {x : VX} {N t : Nat} (hN : 535 ≤ N) (ht : t < 8) (hR : xR x = RM 4 0 0) (hr : (xM x).sig.returnType = some .boolean) : ∀ (m z : Nat) (S : ST), z + m = 6 → MP S → S 516 t = nI z → V G x "ScopeTasksModel" cX3_readsProgram 5 (QQ G x (pI N (fun r h' => r = bI ((pgL t m S).1 = true) ∧ h' = hC G (pgL t m S).2)) 0 0) 4 [(0, .ref (gZ G + 513)), (1, .int (nI t))] [] N (hC G S) 0 0 := by
  intro m
  induction m with
  | zero =>
    intro z S hzm hM hzE
    have hzn : nn (S 516 t) = z := by rw [hzE]; exact nn_nI (by omega)
    refine v_aload_n (pc := 4) 0 dX3_readsProgram_4 rfl rfl ?_
    refine gX3_97 (pc := 5) hN dX3_readsProgram_5 ?_
    refine v_bipush (pc := 8) (nI 59) dX3_readsProgram_8 (by decide) ?_
    refine v_ic_eq (pc := 10) 167 dX3_readsProgram_10 (by decide) (fun c1 => ?_) (fun c1 => ?_)
    · skip
      refine v_iconst (pc := 167) (nI 1) dX3_readsProgram_167 (by decide) ?_
      exact v_iret (pc := 168) hr rfl (Nat.le_refl _) (Nat.le_refl _) dX3_readsProgram_168 (pI_mk (by rw [(show pgL t 0 S = _ from by rw [pgL, if_pos c1])]; exact bI_t rfl) (hC_c (by rw [(show pgL t 0 S = _ from by rw [pgL, if_pos c1])])))
    · skip
      refine v_aload_n (pc := 13) 0 dX3_readsProgram_13 rfl rfl ?_
      refine gX3_97 (pc := 14) hN dX3_readsProgram_14 ?_
      refine v_istore_n (pc := 17) (lv' := [(2, .int (S 513 4)), (0, .ref (gZ G + 513)), (1, .int (nI t))]) dX3_readsProgram_17 rfl (by decide) rfl ?_
      refine v_iload_n (pc := 18) 0 dX3_readsProgram_18 rfl rfl ?_
      refine v_bipush (pc := 19) (nI 119) dX3_readsProgram_19 (by decide) ?_
      refine v_ic_eq (pc := 21) 48 dX3_readsProgram_21 (by decide) (fun c2 => ?_) (fun c2 => ?_)
      · skip
        refine v_iconst (pc := 48) (nI 1) dX3_readsProgram_48 (by decide) ?_
        refine v_goto (pc := 49) 53 dX3_readsProgram_49 (by decide) ?_
        refine v_istore_n (pc := 53) (lv' := [(3, .int (nI 1)), (2, .int (S 513 4)), (0, .ref (gZ G + 513)), (1, .int (nI t))]) dX3_readsProgram_53 rfl (by decide) rfl ?_
        refine v_iload_n (pc := 54) 0 dX3_readsProgram_54 rfl rfl ?_
        refine v_if_eqN (pc := 55) 69 (by omega) dX3_readsProgram_55 (by decide) (fun h => absurd h (by decide)) (fun _ => ?_)
        refine v_aload_n (pc := 58) 2 dX3_readsProgram_58 rfl rfl ?_
        refine gX3_16 (pc := 59) hN dX3_readsProgram_59 ?_
        refine v_iload_n (pc := 62) 3 dX3_readsProgram_62 rfl rfl ?_
        refine c_iald (pc := 63) (k := 516) (j := t) IA_516 (by omega) rfl (by omega) (by decide) dX3_readsProgram_63 ?_
        refine v_topi (v := nI z) hzE ?_
        refine v_bipush (pc := 64) (nI 6) dX3_readsProgram_64 (by decide) ?_
        refine v_ic_neN (pc := 66) 74 (by omega) (by omega) dX3_readsProgram_66 (by decide) (fun c3 => ?_) (fun c3 => ?_)
        · skip
          exact absurd (by omega) c3
        · skip
          refine v_aload_n (pc := 69) 2 dX3_readsProgram_69 rfl rfl ?_
          refine c_callVi (pc := 70) (st := []) (ci := 3) (cs_X3_fails (S := S)  (by omega)) kVX3_117 kDX3_117 (rm_ok hR (Nat.le_of_ble_eq_true rfl) (Nat.le_of_ble_eq_true rfl)) ⟨Nat.zero_le _, Nat.zero_le _⟩ (by omega) (rfl) rfl rfl rfl rfl (Nat.le_of_ble_eq_true rfl) dX3_readsProgram_70 ?_
          exact v_iret (pc := 73) hr rfl (Nat.le_refl _) (Nat.le_refl _) dX3_readsProgram_73 (pI_mk (by rw [(show pgL t 0 S = _ from by rw [pgL, if_neg c1])]; exact bI_f Bool.false_ne_true) (hC_c (by rw [(show pgL t 0 S = _ from by rw [pgL, if_neg c1])])))
      · skip
        refine v_iload_n (pc := 24) 0 dX3_readsProgram_24 rfl rfl ?_
        refine v_bipush (pc := 25) (nI 98) dX3_readsProgram_25 (by decide) ?_
        refine v_ic_eq (pc := 27) 48 dX3_readsProgram_27 (by decide) (fun c4 => ?_) (fun c4 => ?_)
        · skip
          refine v_iconst (pc := 48) (nI 1) dX3_readsProgram_48 (by decide) ?_
          refine v_goto (pc := 49) 53 dX3_readsProgram_49 (by decide) ?_
          refine v_istore_n (pc := 53) (lv' := [(3, .int (nI 1)), (2, .int (S 513 4)), (0, .ref (gZ G + 513)), (1, .int (nI t))]) dX3_readsProgram_53 rfl (by decide) rfl ?_
          refine v_iload_n (pc := 54) 0 dX3_readsProgram_54 rfl rfl ?_
          refine v_if_eqN (pc := 55) 69 (by omega) dX3_readsProgram_55 (by decide) (fun h => absurd h (by decide)) (fun _ => ?_)
          refine v_aload_n (pc := 58) 2 dX3_readsProgram_58 rfl rfl ?_
          refine gX3_16 (pc := 59) hN dX3_readsProgram_59 ?_
          refine v_iload_n (pc := 62) 3 dX3_readsProgram_62 rfl rfl ?_
          refine c_iald (pc := 63) (k := 516) (j := t) IA_516 (by omega) rfl (by omega) (by decide) dX3_readsProgram_63 ?_
          refine v_topi (v := nI z) hzE ?_
          refine v_bipush (pc := 64) (nI 6) dX3_readsProgram_64 (by decide) ?_
          refine v_ic_neN (pc := 66) 74 (by omega) (by omega) dX3_readsProgram_66 (by decide) (fun c5 => ?_) (fun c5 => ?_)
          · skip
            exact absurd (by omega) c5
          · skip
            refine v_aload_n (pc := 69) 2 dX3_readsProgram_69 rfl rfl ?_
            refine c_callVi (pc := 70) (st := []) (ci := 3) (cs_X3_fails (S := S)  (by omega)) kVX3_117 kDX3_117 (rm_ok hR (Nat.le_of_ble_eq_true rfl) (Nat.le_of_ble_eq_true rfl)) ⟨Nat.zero_le _, Nat.zero_le _⟩ (by omega) (rfl) rfl rfl rfl rfl (Nat.le_of_ble_eq_true rfl) dX3_readsProgram_70 ?_
            exact v_iret (pc := 73) hr rfl (Nat.le_refl _) (Nat.le_refl _) dX3_readsProgram_73 (pI_mk (by rw [(show pgL t 0 S = _ from by rw [pgL, if_neg c1])]; exact bI_f Bool.false_ne_true) (hC_c (by rw [(show pgL t 0 S = _ from by rw [pgL, if_neg c1])])))
        · skip
          refine v_iload_n (pc := 30) 0 dX3_readsProgram_30 rfl rfl ?_
          refine v_bipush (pc := 31) (nI 106) dX3_readsProgram_31 (by decide) ?_
          refine v_ic_eq (pc := 33) 48 dX3_readsProgram_33 (by decide) (fun c6 => ?_) (fun c6 => ?_)
          · skip
            refine v_iconst (pc := 48) (nI 1) dX3_readsProgram_48 (by decide) ?_
            refine v_goto (pc := 49) 53 dX3_readsProgram_49 (by decide) ?_
            refine v_istore_n (pc := 53) (lv' := [(3, .int (nI 1)), (2, .int (S 513 4)), (0, .ref (gZ G + 513)), (1, .int (nI t))]) dX3_readsProgram_53 rfl (by decide) rfl ?_
            refine v_iload_n (pc := 54) 0 dX3_readsProgram_54 rfl rfl ?_
            refine v_if_eqN (pc := 55) 69 (by omega) dX3_readsProgram_55 (by decide) (fun h => absurd h (by decide)) (fun _ => ?_)
            refine v_aload_n (pc := 58) 2 dX3_readsProgram_58 rfl rfl ?_
            refine gX3_16 (pc := 59) hN dX3_readsProgram_59 ?_
            refine v_iload_n (pc := 62) 3 dX3_readsProgram_62 rfl rfl ?_
            refine c_iald (pc := 63) (k := 516) (j := t) IA_516 (by omega) rfl (by omega) (by decide) dX3_readsProgram_63 ?_
            refine v_topi (v := nI z) hzE ?_
            refine v_bipush (pc := 64) (nI 6) dX3_readsProgram_64 (by decide) ?_
            refine v_ic_neN (pc := 66) 74 (by omega) (by omega) dX3_readsProgram_66 (by decide) (fun c7 => ?_) (fun c7 => ?_)
            · skip
              exact absurd (by omega) c7
            · skip
              refine v_aload_n (pc := 69) 2 dX3_readsProgram_69 rfl rfl ?_
              refine c_callVi (pc := 70) (st := []) (ci := 3) (cs_X3_fails (S := S)  (by omega)) kVX3_117 kDX3_117 (rm_ok hR (Nat.le_of_ble_eq_true rfl) (Nat.le_of_ble_eq_true rfl)) ⟨Nat.zero_le _, Nat.zero_le _⟩ (by omega) (rfl) rfl rfl rfl rfl (Nat.le_of_ble_eq_true rfl) dX3_readsProgram_70 ?_
              exact v_iret (pc := 73) hr rfl (Nat.le_refl _) (Nat.le_refl _) dX3_readsProgram_73 (pI_mk (by rw [(show pgL t 0 S = _ from by rw [pgL, if_neg c1])]; exact bI_f Bool.false_ne_true) (hC_c (by rw [(show pgL t 0 S = _ from by rw [pgL, if_neg c1])])))
          · skip
            refine v_iload_n (pc := 36) 0 dX3_readsProgram_36 rfl rfl ?_
            refine v_bipush (pc := 37) (nI 120) dX3_readsProgram_37 (by decide) ?_
            refine v_ic_eq (pc := 39) 48 dX3_readsProgram_39 (by decide) (fun c8 => ?_) (fun c8 => ?_)
            · skip
              refine v_iconst (pc := 48) (nI 1) dX3_readsProgram_48 (by decide) ?_
              refine v_goto (pc := 49) 53 dX3_readsProgram_49 (by decide) ?_
              refine v_istore_n (pc := 53) (lv' := [(3, .int (nI 1)), (2, .int (S 513 4)), (0, .ref (gZ G + 513)), (1, .int (nI t))]) dX3_readsProgram_53 rfl (by decide) rfl ?_
              refine v_iload_n (pc := 54) 0 dX3_readsProgram_54 rfl rfl ?_
              refine v_if_eqN (pc := 55) 69 (by omega) dX3_readsProgram_55 (by decide) (fun h => absurd h (by decide)) (fun _ => ?_)
              refine v_aload_n (pc := 58) 2 dX3_readsProgram_58 rfl rfl ?_
              refine gX3_16 (pc := 59) hN dX3_readsProgram_59 ?_
              refine v_iload_n (pc := 62) 3 dX3_readsProgram_62 rfl rfl ?_
              refine c_iald (pc := 63) (k := 516) (j := t) IA_516 (by omega) rfl (by omega) (by decide) dX3_readsProgram_63 ?_
              refine v_topi (v := nI z) hzE ?_
              refine v_bipush (pc := 64) (nI 6) dX3_readsProgram_64 (by decide) ?_
              refine v_ic_neN (pc := 66) 74 (by omega) (by omega) dX3_readsProgram_66 (by decide) (fun c9 => ?_) (fun c9 => ?_)
              · skip
                exact absurd (by omega) c9
              · skip
                refine v_aload_n (pc := 69) 2 dX3_readsProgram_69 rfl rfl ?_
                refine c_callVi (pc := 70) (st := []) (ci := 3) (cs_X3_fails (S := S)  (by omega)) kVX3_117 kDX3_117 (rm_ok hR (Nat.le_of_ble_eq_true rfl) (Nat.le_of_ble_eq_true rfl)) ⟨Nat.zero_le _, Nat.zero_le _⟩ (by omega) (rfl) rfl rfl rfl rfl (Nat.le_of_ble_eq_true rfl) dX3_readsProgram_70 ?_
                exact v_iret (pc := 73) hr rfl (Nat.le_refl _) (Nat.le_refl _) dX3_readsProgram_73 (pI_mk (by rw [(show pgL t 0 S = _ from by rw [pgL, if_neg c1])]; exact bI_f Bool.false_ne_true) (hC_c (by rw [(show pgL t 0 S = _ from by rw [pgL, if_neg c1])])))
            · skip
              refine v_iload_n (pc := 42) 0 dX3_readsProgram_42 rfl rfl ?_
              refine v_bipush (pc := 43) (nI 102) dX3_readsProgram_43 (by decide) ?_
              refine v_ic_ne (pc := 45) 52 dX3_readsProgram_45 (by decide) (fun c10 => ?_) (fun c10 => ?_)
              · skip
                refine v_iconst (pc := 52) (nI 0) dX3_readsProgram_52 (by decide) ?_
                refine v_istore_n (pc := 53) (lv' := [(3, .int (nI 0)), (2, .int (S 513 4)), (0, .ref (gZ G + 513)), (1, .int (nI t))]) dX3_readsProgram_53 rfl (by decide) rfl ?_
                refine v_iload_n (pc := 54) 0 dX3_readsProgram_54 rfl rfl ?_
                refine v_if_eqN (pc := 55) 69 (by omega) dX3_readsProgram_55 (by decide) (fun _ => ?_) (fun h => absurd h (by decide))
                refine v_aload_n (pc := 69) 2 dX3_readsProgram_69 rfl rfl ?_
                refine c_callVi (pc := 70) (st := []) (ci := 3) (cs_X3_fails (S := S)  (by omega)) kVX3_117 kDX3_117 (rm_ok hR (Nat.le_of_ble_eq_true rfl) (Nat.le_of_ble_eq_true rfl)) ⟨Nat.zero_le _, Nat.zero_le _⟩ (by omega) (rfl) rfl rfl rfl rfl (Nat.le_of_ble_eq_true rfl) dX3_readsProgram_70 ?_
                exact v_iret (pc := 73) hr rfl (Nat.le_refl _) (Nat.le_refl _) dX3_readsProgram_73 (pI_mk (by rw [(show pgL t 0 S = _ from by rw [pgL, if_neg c1])]; exact bI_f Bool.false_ne_true) (hC_c (by rw [(show pgL t 0 S = _ from by rw [pgL, if_neg c1])])))
              · skip
                refine v_iconst (pc := 48) (nI 1) dX3_readsProgram_48 (by decide) ?_
                refine v_goto (pc := 49) 53 dX3_readsProgram_49 (by decide) ?_
                refine v_istore_n (pc := 53) (lv' := [(3, .int (nI 1)), (2, .int (S 513 4)), (0, .ref (gZ G + 513)), (1, .int (nI t))]) dX3_readsProgram_53 rfl (by decide) rfl ?_
                refine v_iload_n (pc := 54) 0 dX3_readsProgram_54 rfl rfl ?_
                refine v_if_eqN (pc := 55) 69 (by omega) dX3_readsProgram_55 (by decide) (fun h => absurd h (by decide)) (fun _ => ?_)
                refine v_aload_n (pc := 58) 2 dX3_readsProgram_58 rfl rfl ?_
                refine gX3_16 (pc := 59) hN dX3_readsProgram_59 ?_
                refine v_iload_n (pc := 62) 3 dX3_readsProgram_62 rfl rfl ?_
                refine c_iald (pc := 63) (k := 516) (j := t) IA_516 (by omega) rfl (by omega) (by decide) dX3_readsProgram_63 ?_
                refine v_topi (v := nI z) hzE ?_
                refine v_bipush (pc := 64) (nI 6) dX3_readsProgram_64 (by decide) ?_
                refine v_ic_neN (pc := 66) 74 (by omega) (by omega) dX3_readsProgram_66 (by decide) (fun c11 => ?_) (fun c11 => ?_)
                · skip
                  exact absurd (by omega) c11
                · skip
                  refine v_aload_n (pc := 69) 2 dX3_readsProgram_69 rfl rfl ?_
                  refine c_callVi (pc := 70) (st := []) (ci := 3) (cs_X3_fails (S := S)  (by omega)) kVX3_117 kDX3_117 (rm_ok hR (Nat.le_of_ble_eq_true rfl) (Nat.le_of_ble_eq_true rfl)) ⟨Nat.zero_le _, Nat.zero_le _⟩ (by omega) (rfl) rfl rfl rfl rfl (Nat.le_of_ble_eq_true rfl) dX3_readsProgram_70 ?_
                  exact v_iret (pc := 73) hr rfl (Nat.le_refl _) (Nat.le_refl _) dX3_readsProgram_73 (pI_mk (by rw [(show pgL t 0 S = _ from by rw [pgL, if_neg c1])]; exact bI_f Bool.false_ne_true) (hC_c (by rw [(show pgL t 0 S = _ from by rw [pgL, if_neg c1])])))
  | succ m ih =>
    intro z S hzm hM hzE
    have hzn : nn (S 516 t) = z := by rw [hzE]; exact nn_nI (by omega)
    refine v_aload_n (pc := 4) 0 dX3_readsProgram_4 rfl rfl ?_
    refine gX3_97 (pc := 5) hN dX3_readsProgram_5 ?_
    refine v_bipush (pc := 8) (nI 59) dX3_readsProgram_8 (by decide) ?_
    refine v_ic_eq (pc := 10) 167 dX3_readsProgram_10 (by decide) (fun c1 => ?_) (fun c1 => ?_)
    · skip
      refine v_iconst (pc := 167) (nI 1) dX3_readsProgram_167 (by decide) ?_
      exact v_iret (pc := 168) hr rfl (Nat.le_refl _) (Nat.le_refl _) dX3_readsProgram_168 (pI_mk (by rw [(show pgL t (m + 1) S = _ from by rw [pgL, if_pos c1])]; exact bI_t rfl) (hC_c (by rw [(show pgL t (m + 1) S = _ from by rw [pgL, if_pos c1])])))
    · skip
      refine v_aload_n (pc := 13) 0 dX3_readsProgram_13 rfl rfl ?_
      refine gX3_97 (pc := 14) hN dX3_readsProgram_14 ?_
      refine v_istore_n (pc := 17) (lv' := [(2, .int (S 513 4)), (0, .ref (gZ G + 513)), (1, .int (nI t))]) dX3_readsProgram_17 rfl (by decide) rfl ?_
      refine v_iload_n (pc := 18) 0 dX3_readsProgram_18 rfl rfl ?_
      refine v_bipush (pc := 19) (nI 119) dX3_readsProgram_19 (by decide) ?_
      refine v_ic_eq (pc := 21) 48 dX3_readsProgram_21 (by decide) (fun c2 => ?_) (fun c2 => ?_)
      · skip
        refine v_iconst (pc := 48) (nI 1) dX3_readsProgram_48 (by decide) ?_
        refine v_goto (pc := 49) 53 dX3_readsProgram_49 (by decide) ?_
        refine v_istore_n (pc := 53) (lv' := [(3, .int (nI 1)), (2, .int (S 513 4)), (0, .ref (gZ G + 513)), (1, .int (nI t))]) dX3_readsProgram_53 rfl (by decide) rfl ?_
        refine v_iload_n (pc := 54) 0 dX3_readsProgram_54 rfl rfl ?_
        refine v_if_eqN (pc := 55) 69 (by omega) dX3_readsProgram_55 (by decide) (fun h => absurd h (by decide)) (fun _ => ?_)
        refine v_aload_n (pc := 58) 2 dX3_readsProgram_58 rfl rfl ?_
        refine gX3_16 (pc := 59) hN dX3_readsProgram_59 ?_
        refine v_iload_n (pc := 62) 3 dX3_readsProgram_62 rfl rfl ?_
        refine c_iald (pc := 63) (k := 516) (j := t) IA_516 (by omega) rfl (by omega) (by decide) dX3_readsProgram_63 ?_
        refine v_topi (v := nI z) hzE ?_
        refine v_bipush (pc := 64) (nI 6) dX3_readsProgram_64 (by decide) ?_
        refine v_ic_neN (pc := 66) 74 (by omega) (by omega) dX3_readsProgram_66 (by decide) (fun c3 => ?_) (fun c3 => ?_)
        · skip
          refine v_iload_n (pc := 74) 1 dX3_readsProgram_74 rfl rfl ?_
          refine v_bipush (pc := 75) (nI 119) dX3_readsProgram_75 (by decide) ?_
          refine v_ic_eq (pc := 77) 86 dX3_readsProgram_77 (by decide) (fun _ => ?_) (fun h => absurd c2 h)
          refine v_aload_n (pc := 86) 2 dX3_readsProgram_86 rfl rfl ?_
          refine v_iconst (pc := 87) (nI 1) dX3_readsProgram_87 (by decide) ?_
          refine v_bipush (pc := 88) (nI 9) dX3_readsProgram_88 (by decide) ?_
          refine c_callVi (pc := 90) (st := []) (ci := 3) (cs_X3_number (S := S) (lo := nI 1) (hi := nI 9) hM (by omega)) kVX3_126 kDX3_126 (rm_ok hR (Nat.le_of_ble_eq_true rfl) (Nat.le_of_ble_eq_true rfl)) ⟨Nat.zero_le _, Nat.zero_le _⟩ (by omega) (rfl) rfl rfl rfl rfl (Nat.le_of_ble_eq_true rfl) dX3_readsProgram_90 ?_
          refine v_if_neB (pc := 93) 98 dX3_readsProgram_93 (by decide) (fun c4 => ?_) (fun c4 => ?_)
          · skip
            refine v_bipush (pc := 98) (nI 12) dX3_readsProgram_98 (by decide) ?_
            refine v_iload_n (pc := 100) 3 dX3_readsProgram_100 rfl rfl ?_
            refine v_imulN (pc := 101) dX3_readsProgram_101 ?_
            refine v_iconst (pc := 102) (nI 2) dX3_readsProgram_102 (by decide) ?_
            refine v_aload_n (pc := 103) 2 dX3_readsProgram_103 rfl rfl ?_
            refine gX3_16 (pc := 104) hN dX3_readsProgram_104 ?_
            refine v_iload_n (pc := 107) 3 dX3_readsProgram_107 rfl rfl ?_
            refine c_iald (pc := 108) (k := 516) (j := t) IA_516 (by omega) rfl (by omega) (by decide) dX3_readsProgram_108 ?_
            refine v_topi (v := nI z) ((congrFun (nuS_ne (by decide)) _).trans hzE) ?_
            refine v_imulN (pc := 109) dX3_readsProgram_109 ?_
            refine v_iaddN (pc := 110) dX3_readsProgram_110 ?_
            refine v_istore (pc := 111) (lv' := [(4, .int (nI (12 * t + 2 * z))), (3, .int (nI 1)), (2, .int (S 513 4)), (0, .ref (gZ G + 513)), (1, .int (nI t))]) dX3_readsProgram_111 (by decide) rfl ?_
            refine v_aload_n (pc := 113) 3 dX3_readsProgram_113 rfl rfl ?_
            refine gX3_19 (pc := 114) hN dX3_readsProgram_114 ?_
            refine v_iload (pc := 117) 0 dX3_readsProgram_117 rfl ?_
            refine v_iload_n (pc := 119) 2 dX3_readsProgram_119 rfl rfl ?_
            refine c_iast (pc := 120) (k := 517) (j := 12 * t + 2 * z) IA_517 (by omega) rfl (by omega) (by decide) dX3_readsProgram_120 ?_
            refine v_aload_n (pc := 121) 3 dX3_readsProgram_121 rfl rfl ?_
            refine gX3_19 (pc := 122) hN dX3_readsProgram_122 ?_
            refine v_iload (pc := 125) 0 dX3_readsProgram_125 rfl ?_
            refine v_iconst (pc := 127) (nI 1) dX3_readsProgram_127 (by decide) ?_
            refine v_iaddN (pc := 128) dX3_readsProgram_128 ?_
            refine v_iload_n (pc := 129) 2 dX3_readsProgram_129 rfl rfl ?_
            refine v_bipush (pc := 130) (nI 119) dX3_readsProgram_130 (by decide) ?_
            refine v_ic_eq (pc := 132) 141 dX3_readsProgram_132 (by decide) (fun _ => ?_) (fun h => absurd c2 h)
            refine v_aload_n (pc := 141) 3 dX3_readsProgram_141 rfl rfl ?_
            refine gX3_104 (pc := 142) hN dX3_readsProgram_142 ?_
            refine v_topi (v := (nuS S (nI 1) (nI 9)) 513 5) (congrFun (s2_nk (by omega)) _) ?_
            refine v_goto (pc := 145) 149 dX3_readsProgram_145 (by decide) ?_
            refine c_iast (pc := 149) (k := 517) (j := 12 * t + 2 * z + 1) IA_517 (by omega) rfl (by omega) (by decide) dX3_readsProgram_149 ?_
            refine v_aload_n (pc := 150) 3 dX3_readsProgram_150 rfl rfl ?_
            refine gX3_16 (pc := 151) hN dX3_readsProgram_151 ?_
            refine v_iload_n (pc := 154) 4 dX3_readsProgram_154 rfl rfl ?_
            refine v_dup2 (pc := 155) dX3_readsProgram_155 rfl rfl ?_
            refine c_iald (pc := 156) (k := 516) (j := t) IA_516 (by omega) rfl (by omega) (by decide) dX3_readsProgram_156 ?_
            refine v_topi (v := nI z) ((congrFun (s2_nk (by omega)) _).trans ((congrFun (s2_nk (by omega)) _).trans ((congrFun (nuS_ne (by decide)) _).trans hzE))) ?_
            refine v_iconst (pc := 157) (nI 1) dX3_readsProgram_157 (by decide) ?_
            refine v_iaddN (pc := 158) dX3_readsProgram_158 ?_
            refine c_iast (pc := 159) (k := 516) (j := t) IA_516 (by omega) rfl (by omega) (by decide) dX3_readsProgram_159 ?_
            refine v_S (S' := pgW (nuS S (nI 1) (nI 9)) t (S 513 4) (nuS S (nI 1) (nI 9) 513 5)) (by unfold pgW; rw [nuS_ne (k := 516) (by decide), hzn]) ?_
            refine v_aload_n (pc := 160) 3 dX3_readsProgram_160 rfl rfl ?_
            refine c_callVv (pc := 161) (st := []) (ci := 3) (cs_X3_next (S := pgW (nuS S (nI 1) (nI 9)) t (S 513 4) (nuS S (nI 1) (nI 9) 513 5))  (MP_pgW (MP_nu hM _ _) _ _ _) (by omega)) kVX3_114 kDX3_114 (rm_ok hR (Nat.le_of_ble_eq_true rfl) (Nat.le_of_ble_eq_true rfl)) ⟨Nat.zero_le _, Nat.zero_le _⟩ (by omega) (rfl) rfl rfl rfl rfl (Nat.le_of_ble_eq_true rfl) dX3_readsProgram_161 ?_
            refine v_goto (pc := 164) 4 dX3_readsProgram_164 (by decide) ?_
            refine v_sub (lv' := [(0, .ref (gZ G + 513)), (1, .int (nI t))]) [3, 4] rfl ?_
            have e : pgL t (m + 1) S = pgL t m (nxS (pgW (nuS S (nI 1) (nI 9)) t (S 513 4) (nuS S (nI 1) (nI 9) 513 5))) := by rw [pgL, if_neg c1, if_pos (Or.inl c2), if_pos (Or.inl c2), if_pos c4]
            rw [e]
            refine ih (z + 1) _ (by omega) (MP_nx (MP_pgW (MP_nu hM _ _) _ _ _)) ?_
            rw [nxS_ne (by decide), pgW_516, nuS_ne (k := 516) (by decide), hzn]
          · skip
            refine v_iconst (pc := 96) (nI 0) dX3_readsProgram_96 (by decide) ?_
            exact v_iret (pc := 97) hr rfl (Nat.le_refl _) (Nat.le_refl _) dX3_readsProgram_97 (pI_mk (by rw [(show pgL t (m + 1) S = _ from by rw [pgL, if_neg c1, if_pos (Or.inl c2), if_pos (Or.inl c2), if_neg c4])]; exact bI_f Bool.false_ne_true) (hC_c (by rw [(show pgL t (m + 1) S = _ from by rw [pgL, if_neg c1, if_pos (Or.inl c2), if_pos (Or.inl c2), if_neg c4])])))
        · skip
          exact absurd c3 (by omega)
      · skip
        refine v_iload_n (pc := 24) 0 dX3_readsProgram_24 rfl rfl ?_
        refine v_bipush (pc := 25) (nI 98) dX3_readsProgram_25 (by decide) ?_
        refine v_ic_eq (pc := 27) 48 dX3_readsProgram_27 (by decide) (fun c5 => ?_) (fun c5 => ?_)
        · skip
          refine v_iconst (pc := 48) (nI 1) dX3_readsProgram_48 (by decide) ?_
          refine v_goto (pc := 49) 53 dX3_readsProgram_49 (by decide) ?_
          refine v_istore_n (pc := 53) (lv' := [(3, .int (nI 1)), (2, .int (S 513 4)), (0, .ref (gZ G + 513)), (1, .int (nI t))]) dX3_readsProgram_53 rfl (by decide) rfl ?_
          refine v_iload_n (pc := 54) 0 dX3_readsProgram_54 rfl rfl ?_
          refine v_if_eqN (pc := 55) 69 (by omega) dX3_readsProgram_55 (by decide) (fun h => absurd h (by decide)) (fun _ => ?_)
          refine v_aload_n (pc := 58) 2 dX3_readsProgram_58 rfl rfl ?_
          refine gX3_16 (pc := 59) hN dX3_readsProgram_59 ?_
          refine v_iload_n (pc := 62) 3 dX3_readsProgram_62 rfl rfl ?_
          refine c_iald (pc := 63) (k := 516) (j := t) IA_516 (by omega) rfl (by omega) (by decide) dX3_readsProgram_63 ?_
          refine v_topi (v := nI z) hzE ?_
          refine v_bipush (pc := 64) (nI 6) dX3_readsProgram_64 (by decide) ?_
          refine v_ic_neN (pc := 66) 74 (by omega) (by omega) dX3_readsProgram_66 (by decide) (fun c6 => ?_) (fun c6 => ?_)
          · skip
            refine v_iload_n (pc := 74) 1 dX3_readsProgram_74 rfl rfl ?_
            refine v_bipush (pc := 75) (nI 119) dX3_readsProgram_75 (by decide) ?_
            refine v_ic_eq (pc := 77) 86 dX3_readsProgram_77 (by decide) (fun h => absurd h c2) (fun _ => ?_)
            refine v_iload_n (pc := 80) 1 dX3_readsProgram_80 rfl rfl ?_
            refine v_bipush (pc := 81) (nI 102) dX3_readsProgram_81 (by decide) ?_
            refine v_ic_ne (pc := 83) 98 dX3_readsProgram_83 (by decide) (fun _ => ?_) (fun h => absurd (c5.symm.trans h) (by decide))
            refine v_bipush (pc := 98) (nI 12) dX3_readsProgram_98 (by decide) ?_
            refine v_iload_n (pc := 100) 3 dX3_readsProgram_100 rfl rfl ?_
            refine v_imulN (pc := 101) dX3_readsProgram_101 ?_
            refine v_iconst (pc := 102) (nI 2) dX3_readsProgram_102 (by decide) ?_
            refine v_aload_n (pc := 103) 2 dX3_readsProgram_103 rfl rfl ?_
            refine gX3_16 (pc := 104) hN dX3_readsProgram_104 ?_
            refine v_iload_n (pc := 107) 3 dX3_readsProgram_107 rfl rfl ?_
            refine c_iald (pc := 108) (k := 516) (j := t) IA_516 (by omega) rfl (by omega) (by decide) dX3_readsProgram_108 ?_
            refine v_topi (v := nI z) hzE ?_
            refine v_imulN (pc := 109) dX3_readsProgram_109 ?_
            refine v_iaddN (pc := 110) dX3_readsProgram_110 ?_
            refine v_istore (pc := 111) (lv' := [(4, .int (nI (12 * t + 2 * z))), (3, .int (nI 1)), (2, .int (S 513 4)), (0, .ref (gZ G + 513)), (1, .int (nI t))]) dX3_readsProgram_111 (by decide) rfl ?_
            refine v_aload_n (pc := 113) 3 dX3_readsProgram_113 rfl rfl ?_
            refine gX3_19 (pc := 114) hN dX3_readsProgram_114 ?_
            refine v_iload (pc := 117) 0 dX3_readsProgram_117 rfl ?_
            refine v_iload_n (pc := 119) 2 dX3_readsProgram_119 rfl rfl ?_
            refine c_iast (pc := 120) (k := 517) (j := 12 * t + 2 * z) IA_517 (by omega) rfl (by omega) (by decide) dX3_readsProgram_120 ?_
            refine v_aload_n (pc := 121) 3 dX3_readsProgram_121 rfl rfl ?_
            refine gX3_19 (pc := 122) hN dX3_readsProgram_122 ?_
            refine v_iload (pc := 125) 0 dX3_readsProgram_125 rfl ?_
            refine v_iconst (pc := 127) (nI 1) dX3_readsProgram_127 (by decide) ?_
            refine v_iaddN (pc := 128) dX3_readsProgram_128 ?_
            refine v_iload_n (pc := 129) 2 dX3_readsProgram_129 rfl rfl ?_
            refine v_bipush (pc := 130) (nI 119) dX3_readsProgram_130 (by decide) ?_
            refine v_ic_eq (pc := 132) 141 dX3_readsProgram_132 (by decide) (fun h => absurd h c2) (fun _ => ?_)
            refine v_iload_n (pc := 135) 2 dX3_readsProgram_135 rfl rfl ?_
            refine v_bipush (pc := 136) (nI 102) dX3_readsProgram_136 (by decide) ?_
            refine v_ic_ne (pc := 138) 148 dX3_readsProgram_138 (by decide) (fun _ => ?_) (fun h => absurd (c5.symm.trans h) (by decide))
            refine v_iconst (pc := 148) (nI 0) dX3_readsProgram_148 (by decide) ?_
            refine c_iast (pc := 149) (k := 517) (j := 12 * t + 2 * z + 1) IA_517 (by omega) rfl (by omega) (by decide) dX3_readsProgram_149 ?_
            refine v_aload_n (pc := 150) 3 dX3_readsProgram_150 rfl rfl ?_
            refine gX3_16 (pc := 151) hN dX3_readsProgram_151 ?_
            refine v_iload_n (pc := 154) 4 dX3_readsProgram_154 rfl rfl ?_
            refine v_dup2 (pc := 155) dX3_readsProgram_155 rfl rfl ?_
            refine c_iald (pc := 156) (k := 516) (j := t) IA_516 (by omega) rfl (by omega) (by decide) dX3_readsProgram_156 ?_
            refine v_topi (v := nI z) ((congrFun (s2_nk (by omega)) _).trans ((congrFun (s2_nk (by omega)) _).trans hzE)) ?_
            refine v_iconst (pc := 157) (nI 1) dX3_readsProgram_157 (by decide) ?_
            refine v_iaddN (pc := 158) dX3_readsProgram_158 ?_
            refine c_iast (pc := 159) (k := 516) (j := t) IA_516 (by omega) rfl (by omega) (by decide) dX3_readsProgram_159 ?_
            refine v_S (S' := pgW S t (S 513 4) (nI 0)) (by unfold pgW; rw [hzn]) ?_
            refine v_aload_n (pc := 160) 3 dX3_readsProgram_160 rfl rfl ?_
            refine c_callVv (pc := 161) (st := []) (ci := 3) (cs_X3_next (S := pgW S t (S 513 4) (nI 0))  (MP_pgW hM _ _ _) (by omega)) kVX3_114 kDX3_114 (rm_ok hR (Nat.le_of_ble_eq_true rfl) (Nat.le_of_ble_eq_true rfl)) ⟨Nat.zero_le _, Nat.zero_le _⟩ (by omega) (rfl) rfl rfl rfl rfl (Nat.le_of_ble_eq_true rfl) dX3_readsProgram_161 ?_
            refine v_goto (pc := 164) 4 dX3_readsProgram_164 (by decide) ?_
            refine v_sub (lv' := [(0, .ref (gZ G + 513)), (1, .int (nI t))]) [3, 4] rfl ?_
            have e : pgL t (m + 1) S = pgL t m (nxS (pgW S t (S 513 4) (nI 0))) := by rw [pgL, if_neg c1, if_pos (Or.inr (Or.inl c5)), if_neg (fun z => z.elim (fun q => absurd (c5.symm.trans q) (by decide)) (fun q => absurd (c5.symm.trans q) (by decide)))]
            rw [e]
            refine ih (z + 1) _ (by omega) (MP_nx (MP_pgW hM _ _ _)) ?_
            rw [nxS_ne (by decide), pgW_516, hzn]
          · skip
            exact absurd c6 (by omega)
        · skip
          refine v_iload_n (pc := 30) 0 dX3_readsProgram_30 rfl rfl ?_
          refine v_bipush (pc := 31) (nI 106) dX3_readsProgram_31 (by decide) ?_
          refine v_ic_eq (pc := 33) 48 dX3_readsProgram_33 (by decide) (fun c7 => ?_) (fun c7 => ?_)
          · skip
            refine v_iconst (pc := 48) (nI 1) dX3_readsProgram_48 (by decide) ?_
            refine v_goto (pc := 49) 53 dX3_readsProgram_49 (by decide) ?_
            refine v_istore_n (pc := 53) (lv' := [(3, .int (nI 1)), (2, .int (S 513 4)), (0, .ref (gZ G + 513)), (1, .int (nI t))]) dX3_readsProgram_53 rfl (by decide) rfl ?_
            refine v_iload_n (pc := 54) 0 dX3_readsProgram_54 rfl rfl ?_
            refine v_if_eqN (pc := 55) 69 (by omega) dX3_readsProgram_55 (by decide) (fun h => absurd h (by decide)) (fun _ => ?_)
            refine v_aload_n (pc := 58) 2 dX3_readsProgram_58 rfl rfl ?_
            refine gX3_16 (pc := 59) hN dX3_readsProgram_59 ?_
            refine v_iload_n (pc := 62) 3 dX3_readsProgram_62 rfl rfl ?_
            refine c_iald (pc := 63) (k := 516) (j := t) IA_516 (by omega) rfl (by omega) (by decide) dX3_readsProgram_63 ?_
            refine v_topi (v := nI z) hzE ?_
            refine v_bipush (pc := 64) (nI 6) dX3_readsProgram_64 (by decide) ?_
            refine v_ic_neN (pc := 66) 74 (by omega) (by omega) dX3_readsProgram_66 (by decide) (fun c8 => ?_) (fun c8 => ?_)
            · skip
              refine v_iload_n (pc := 74) 1 dX3_readsProgram_74 rfl rfl ?_
              refine v_bipush (pc := 75) (nI 119) dX3_readsProgram_75 (by decide) ?_
              refine v_ic_eq (pc := 77) 86 dX3_readsProgram_77 (by decide) (fun h => absurd h c2) (fun _ => ?_)
              refine v_iload_n (pc := 80) 1 dX3_readsProgram_80 rfl rfl ?_
              refine v_bipush (pc := 81) (nI 102) dX3_readsProgram_81 (by decide) ?_
              refine v_ic_ne (pc := 83) 98 dX3_readsProgram_83 (by decide) (fun _ => ?_) (fun h => absurd (c7.symm.trans h) (by decide))
              refine v_bipush (pc := 98) (nI 12) dX3_readsProgram_98 (by decide) ?_
              refine v_iload_n (pc := 100) 3 dX3_readsProgram_100 rfl rfl ?_
              refine v_imulN (pc := 101) dX3_readsProgram_101 ?_
              refine v_iconst (pc := 102) (nI 2) dX3_readsProgram_102 (by decide) ?_
              refine v_aload_n (pc := 103) 2 dX3_readsProgram_103 rfl rfl ?_
              refine gX3_16 (pc := 104) hN dX3_readsProgram_104 ?_
              refine v_iload_n (pc := 107) 3 dX3_readsProgram_107 rfl rfl ?_
              refine c_iald (pc := 108) (k := 516) (j := t) IA_516 (by omega) rfl (by omega) (by decide) dX3_readsProgram_108 ?_
              refine v_topi (v := nI z) hzE ?_
              refine v_imulN (pc := 109) dX3_readsProgram_109 ?_
              refine v_iaddN (pc := 110) dX3_readsProgram_110 ?_
              refine v_istore (pc := 111) (lv' := [(4, .int (nI (12 * t + 2 * z))), (3, .int (nI 1)), (2, .int (S 513 4)), (0, .ref (gZ G + 513)), (1, .int (nI t))]) dX3_readsProgram_111 (by decide) rfl ?_
              refine v_aload_n (pc := 113) 3 dX3_readsProgram_113 rfl rfl ?_
              refine gX3_19 (pc := 114) hN dX3_readsProgram_114 ?_
              refine v_iload (pc := 117) 0 dX3_readsProgram_117 rfl ?_
              refine v_iload_n (pc := 119) 2 dX3_readsProgram_119 rfl rfl ?_
              refine c_iast (pc := 120) (k := 517) (j := 12 * t + 2 * z) IA_517 (by omega) rfl (by omega) (by decide) dX3_readsProgram_120 ?_
              refine v_aload_n (pc := 121) 3 dX3_readsProgram_121 rfl rfl ?_
              refine gX3_19 (pc := 122) hN dX3_readsProgram_122 ?_
              refine v_iload (pc := 125) 0 dX3_readsProgram_125 rfl ?_
              refine v_iconst (pc := 127) (nI 1) dX3_readsProgram_127 (by decide) ?_
              refine v_iaddN (pc := 128) dX3_readsProgram_128 ?_
              refine v_iload_n (pc := 129) 2 dX3_readsProgram_129 rfl rfl ?_
              refine v_bipush (pc := 130) (nI 119) dX3_readsProgram_130 (by decide) ?_
              refine v_ic_eq (pc := 132) 141 dX3_readsProgram_132 (by decide) (fun h => absurd h c2) (fun _ => ?_)
              refine v_iload_n (pc := 135) 2 dX3_readsProgram_135 rfl rfl ?_
              refine v_bipush (pc := 136) (nI 102) dX3_readsProgram_136 (by decide) ?_
              refine v_ic_ne (pc := 138) 148 dX3_readsProgram_138 (by decide) (fun _ => ?_) (fun h => absurd (c7.symm.trans h) (by decide))
              refine v_iconst (pc := 148) (nI 0) dX3_readsProgram_148 (by decide) ?_
              refine c_iast (pc := 149) (k := 517) (j := 12 * t + 2 * z + 1) IA_517 (by omega) rfl (by omega) (by decide) dX3_readsProgram_149 ?_
              refine v_aload_n (pc := 150) 3 dX3_readsProgram_150 rfl rfl ?_
              refine gX3_16 (pc := 151) hN dX3_readsProgram_151 ?_
              refine v_iload_n (pc := 154) 4 dX3_readsProgram_154 rfl rfl ?_
              refine v_dup2 (pc := 155) dX3_readsProgram_155 rfl rfl ?_
              refine c_iald (pc := 156) (k := 516) (j := t) IA_516 (by omega) rfl (by omega) (by decide) dX3_readsProgram_156 ?_
              refine v_topi (v := nI z) ((congrFun (s2_nk (by omega)) _).trans ((congrFun (s2_nk (by omega)) _).trans hzE)) ?_
              refine v_iconst (pc := 157) (nI 1) dX3_readsProgram_157 (by decide) ?_
              refine v_iaddN (pc := 158) dX3_readsProgram_158 ?_
              refine c_iast (pc := 159) (k := 516) (j := t) IA_516 (by omega) rfl (by omega) (by decide) dX3_readsProgram_159 ?_
              refine v_S (S' := pgW S t (S 513 4) (nI 0)) (by unfold pgW; rw [hzn]) ?_
              refine v_aload_n (pc := 160) 3 dX3_readsProgram_160 rfl rfl ?_
              refine c_callVv (pc := 161) (st := []) (ci := 3) (cs_X3_next (S := pgW S t (S 513 4) (nI 0))  (MP_pgW hM _ _ _) (by omega)) kVX3_114 kDX3_114 (rm_ok hR (Nat.le_of_ble_eq_true rfl) (Nat.le_of_ble_eq_true rfl)) ⟨Nat.zero_le _, Nat.zero_le _⟩ (by omega) (rfl) rfl rfl rfl rfl (Nat.le_of_ble_eq_true rfl) dX3_readsProgram_161 ?_
              refine v_goto (pc := 164) 4 dX3_readsProgram_164 (by decide) ?_
              refine v_sub (lv' := [(0, .ref (gZ G + 513)), (1, .int (nI t))]) [3, 4] rfl ?_
              have e : pgL t (m + 1) S = pgL t m (nxS (pgW S t (S 513 4) (nI 0))) := by rw [pgL, if_neg c1, if_pos (Or.inr (Or.inr (Or.inl c7))), if_neg (fun z => z.elim (fun q => absurd (c7.symm.trans q) (by decide)) (fun q => absurd (c7.symm.trans q) (by decide)))]
              rw [e]
              refine ih (z + 1) _ (by omega) (MP_nx (MP_pgW hM _ _ _)) ?_
              rw [nxS_ne (by decide), pgW_516, hzn]
            · skip
              exact absurd c8 (by omega)
          · skip
            refine v_iload_n (pc := 36) 0 dX3_readsProgram_36 rfl rfl ?_
            refine v_bipush (pc := 37) (nI 120) dX3_readsProgram_37 (by decide) ?_
            refine v_ic_eq (pc := 39) 48 dX3_readsProgram_39 (by decide) (fun c9 => ?_) (fun c9 => ?_)
            · skip
              refine v_iconst (pc := 48) (nI 1) dX3_readsProgram_48 (by decide) ?_
              refine v_goto (pc := 49) 53 dX3_readsProgram_49 (by decide) ?_
              refine v_istore_n (pc := 53) (lv' := [(3, .int (nI 1)), (2, .int (S 513 4)), (0, .ref (gZ G + 513)), (1, .int (nI t))]) dX3_readsProgram_53 rfl (by decide) rfl ?_
              refine v_iload_n (pc := 54) 0 dX3_readsProgram_54 rfl rfl ?_
              refine v_if_eqN (pc := 55) 69 (by omega) dX3_readsProgram_55 (by decide) (fun h => absurd h (by decide)) (fun _ => ?_)
              refine v_aload_n (pc := 58) 2 dX3_readsProgram_58 rfl rfl ?_
              refine gX3_16 (pc := 59) hN dX3_readsProgram_59 ?_
              refine v_iload_n (pc := 62) 3 dX3_readsProgram_62 rfl rfl ?_
              refine c_iald (pc := 63) (k := 516) (j := t) IA_516 (by omega) rfl (by omega) (by decide) dX3_readsProgram_63 ?_
              refine v_topi (v := nI z) hzE ?_
              refine v_bipush (pc := 64) (nI 6) dX3_readsProgram_64 (by decide) ?_
              refine v_ic_neN (pc := 66) 74 (by omega) (by omega) dX3_readsProgram_66 (by decide) (fun c10 => ?_) (fun c10 => ?_)
              · skip
                refine v_iload_n (pc := 74) 1 dX3_readsProgram_74 rfl rfl ?_
                refine v_bipush (pc := 75) (nI 119) dX3_readsProgram_75 (by decide) ?_
                refine v_ic_eq (pc := 77) 86 dX3_readsProgram_77 (by decide) (fun h => absurd h c2) (fun _ => ?_)
                refine v_iload_n (pc := 80) 1 dX3_readsProgram_80 rfl rfl ?_
                refine v_bipush (pc := 81) (nI 102) dX3_readsProgram_81 (by decide) ?_
                refine v_ic_ne (pc := 83) 98 dX3_readsProgram_83 (by decide) (fun _ => ?_) (fun h => absurd (c9.symm.trans h) (by decide))
                refine v_bipush (pc := 98) (nI 12) dX3_readsProgram_98 (by decide) ?_
                refine v_iload_n (pc := 100) 3 dX3_readsProgram_100 rfl rfl ?_
                refine v_imulN (pc := 101) dX3_readsProgram_101 ?_
                refine v_iconst (pc := 102) (nI 2) dX3_readsProgram_102 (by decide) ?_
                refine v_aload_n (pc := 103) 2 dX3_readsProgram_103 rfl rfl ?_
                refine gX3_16 (pc := 104) hN dX3_readsProgram_104 ?_
                refine v_iload_n (pc := 107) 3 dX3_readsProgram_107 rfl rfl ?_
                refine c_iald (pc := 108) (k := 516) (j := t) IA_516 (by omega) rfl (by omega) (by decide) dX3_readsProgram_108 ?_
                refine v_topi (v := nI z) hzE ?_
                refine v_imulN (pc := 109) dX3_readsProgram_109 ?_
                refine v_iaddN (pc := 110) dX3_readsProgram_110 ?_
                refine v_istore (pc := 111) (lv' := [(4, .int (nI (12 * t + 2 * z))), (3, .int (nI 1)), (2, .int (S 513 4)), (0, .ref (gZ G + 513)), (1, .int (nI t))]) dX3_readsProgram_111 (by decide) rfl ?_
                refine v_aload_n (pc := 113) 3 dX3_readsProgram_113 rfl rfl ?_
                refine gX3_19 (pc := 114) hN dX3_readsProgram_114 ?_
                refine v_iload (pc := 117) 0 dX3_readsProgram_117 rfl ?_
                refine v_iload_n (pc := 119) 2 dX3_readsProgram_119 rfl rfl ?_
                refine c_iast (pc := 120) (k := 517) (j := 12 * t + 2 * z) IA_517 (by omega) rfl (by omega) (by decide) dX3_readsProgram_120 ?_
                refine v_aload_n (pc := 121) 3 dX3_readsProgram_121 rfl rfl ?_
                refine gX3_19 (pc := 122) hN dX3_readsProgram_122 ?_
                refine v_iload (pc := 125) 0 dX3_readsProgram_125 rfl ?_
                refine v_iconst (pc := 127) (nI 1) dX3_readsProgram_127 (by decide) ?_
                refine v_iaddN (pc := 128) dX3_readsProgram_128 ?_
                refine v_iload_n (pc := 129) 2 dX3_readsProgram_129 rfl rfl ?_
                refine v_bipush (pc := 130) (nI 119) dX3_readsProgram_130 (by decide) ?_
                refine v_ic_eq (pc := 132) 141 dX3_readsProgram_132 (by decide) (fun h => absurd h c2) (fun _ => ?_)
                refine v_iload_n (pc := 135) 2 dX3_readsProgram_135 rfl rfl ?_
                refine v_bipush (pc := 136) (nI 102) dX3_readsProgram_136 (by decide) ?_
                refine v_ic_ne (pc := 138) 148 dX3_readsProgram_138 (by decide) (fun _ => ?_) (fun h => absurd (c9.symm.trans h) (by decide))
                refine v_iconst (pc := 148) (nI 0) dX3_readsProgram_148 (by decide) ?_
                refine c_iast (pc := 149) (k := 517) (j := 12 * t + 2 * z + 1) IA_517 (by omega) rfl (by omega) (by decide) dX3_readsProgram_149 ?_
                refine v_aload_n (pc := 150) 3 dX3_readsProgram_150 rfl rfl ?_
                refine gX3_16 (pc := 151) hN dX3_readsProgram_151 ?_
                refine v_iload_n (pc := 154) 4 dX3_readsProgram_154 rfl rfl ?_
                refine v_dup2 (pc := 155) dX3_readsProgram_155 rfl rfl ?_
                refine c_iald (pc := 156) (k := 516) (j := t) IA_516 (by omega) rfl (by omega) (by decide) dX3_readsProgram_156 ?_
                refine v_topi (v := nI z) ((congrFun (s2_nk (by omega)) _).trans ((congrFun (s2_nk (by omega)) _).trans hzE)) ?_
                refine v_iconst (pc := 157) (nI 1) dX3_readsProgram_157 (by decide) ?_
                refine v_iaddN (pc := 158) dX3_readsProgram_158 ?_
                refine c_iast (pc := 159) (k := 516) (j := t) IA_516 (by omega) rfl (by omega) (by decide) dX3_readsProgram_159 ?_
                refine v_S (S' := pgW S t (S 513 4) (nI 0)) (by unfold pgW; rw [hzn]) ?_
                refine v_aload_n (pc := 160) 3 dX3_readsProgram_160 rfl rfl ?_
                refine c_callVv (pc := 161) (st := []) (ci := 3) (cs_X3_next (S := pgW S t (S 513 4) (nI 0))  (MP_pgW hM _ _ _) (by omega)) kVX3_114 kDX3_114 (rm_ok hR (Nat.le_of_ble_eq_true rfl) (Nat.le_of_ble_eq_true rfl)) ⟨Nat.zero_le _, Nat.zero_le _⟩ (by omega) (rfl) rfl rfl rfl rfl (Nat.le_of_ble_eq_true rfl) dX3_readsProgram_161 ?_
                refine v_goto (pc := 164) 4 dX3_readsProgram_164 (by decide) ?_
                refine v_sub (lv' := [(0, .ref (gZ G + 513)), (1, .int (nI t))]) [3, 4] rfl ?_
                have e : pgL t (m + 1) S = pgL t m (nxS (pgW S t (S 513 4) (nI 0))) := by rw [pgL, if_neg c1, if_pos (Or.inr (Or.inr (Or.inr (Or.inl c9)))), if_neg (fun z => z.elim (fun q => absurd (c9.symm.trans q) (by decide)) (fun q => absurd (c9.symm.trans q) (by decide)))]
                rw [e]
                refine ih (z + 1) _ (by omega) (MP_nx (MP_pgW hM _ _ _)) ?_
                rw [nxS_ne (by decide), pgW_516, hzn]
              · skip
                exact absurd c10 (by omega)
            · skip
              refine v_iload_n (pc := 42) 0 dX3_readsProgram_42 rfl rfl ?_
              refine v_bipush (pc := 43) (nI 102) dX3_readsProgram_43 (by decide) ?_
              refine v_ic_ne (pc := 45) 52 dX3_readsProgram_45 (by decide) (fun c11 => ?_) (fun c11 => ?_)
              · skip
                refine v_iconst (pc := 52) (nI 0) dX3_readsProgram_52 (by decide) ?_
                refine v_istore_n (pc := 53) (lv' := [(3, .int (nI 0)), (2, .int (S 513 4)), (0, .ref (gZ G + 513)), (1, .int (nI t))]) dX3_readsProgram_53 rfl (by decide) rfl ?_
                refine v_iload_n (pc := 54) 0 dX3_readsProgram_54 rfl rfl ?_
                refine v_if_eqN (pc := 55) 69 (by omega) dX3_readsProgram_55 (by decide) (fun _ => ?_) (fun h => absurd h (by decide))
                refine v_aload_n (pc := 69) 2 dX3_readsProgram_69 rfl rfl ?_
                refine c_callVi (pc := 70) (st := []) (ci := 3) (cs_X3_fails (S := S)  (by omega)) kVX3_117 kDX3_117 (rm_ok hR (Nat.le_of_ble_eq_true rfl) (Nat.le_of_ble_eq_true rfl)) ⟨Nat.zero_le _, Nat.zero_le _⟩ (by omega) (rfl) rfl rfl rfl rfl (Nat.le_of_ble_eq_true rfl) dX3_readsProgram_70 ?_
                exact v_iret (pc := 73) hr rfl (Nat.le_refl _) (Nat.le_refl _) dX3_readsProgram_73 (pI_mk (by rw [(show pgL t (m + 1) S = _ from by rw [pgL, if_neg c1, if_neg (fun z => z.elim c2 (fun z => z.elim c5 (fun z => z.elim c7 (fun z => z.elim c9 c11))))])]; exact bI_f Bool.false_ne_true) (hC_c (by rw [(show pgL t (m + 1) S = _ from by rw [pgL, if_neg c1, if_neg (fun z => z.elim c2 (fun z => z.elim c5 (fun z => z.elim c7 (fun z => z.elim c9 c11))))])])))
              · skip
                refine v_iconst (pc := 48) (nI 1) dX3_readsProgram_48 (by decide) ?_
                refine v_goto (pc := 49) 53 dX3_readsProgram_49 (by decide) ?_
                refine v_istore_n (pc := 53) (lv' := [(3, .int (nI 1)), (2, .int (S 513 4)), (0, .ref (gZ G + 513)), (1, .int (nI t))]) dX3_readsProgram_53 rfl (by decide) rfl ?_
                refine v_iload_n (pc := 54) 0 dX3_readsProgram_54 rfl rfl ?_
                refine v_if_eqN (pc := 55) 69 (by omega) dX3_readsProgram_55 (by decide) (fun h => absurd h (by decide)) (fun _ => ?_)
                refine v_aload_n (pc := 58) 2 dX3_readsProgram_58 rfl rfl ?_
                refine gX3_16 (pc := 59) hN dX3_readsProgram_59 ?_
                refine v_iload_n (pc := 62) 3 dX3_readsProgram_62 rfl rfl ?_
                refine c_iald (pc := 63) (k := 516) (j := t) IA_516 (by omega) rfl (by omega) (by decide) dX3_readsProgram_63 ?_
                refine v_topi (v := nI z) hzE ?_
                refine v_bipush (pc := 64) (nI 6) dX3_readsProgram_64 (by decide) ?_
                refine v_ic_neN (pc := 66) 74 (by omega) (by omega) dX3_readsProgram_66 (by decide) (fun c12 => ?_) (fun c12 => ?_)
                · skip
                  refine v_iload_n (pc := 74) 1 dX3_readsProgram_74 rfl rfl ?_
                  refine v_bipush (pc := 75) (nI 119) dX3_readsProgram_75 (by decide) ?_
                  refine v_ic_eq (pc := 77) 86 dX3_readsProgram_77 (by decide) (fun h => absurd h c2) (fun _ => ?_)
                  refine v_iload_n (pc := 80) 1 dX3_readsProgram_80 rfl rfl ?_
                  refine v_bipush (pc := 81) (nI 102) dX3_readsProgram_81 (by decide) ?_
                  refine v_ic_ne (pc := 83) 98 dX3_readsProgram_83 (by decide) (fun h => absurd c11 h) (fun _ => ?_)
                  refine v_aload_n (pc := 86) 2 dX3_readsProgram_86 rfl rfl ?_
                  refine v_iconst (pc := 87) (nI 1) dX3_readsProgram_87 (by decide) ?_
                  refine v_bipush (pc := 88) (nI 9) dX3_readsProgram_88 (by decide) ?_
                  refine c_callVi (pc := 90) (st := []) (ci := 3) (cs_X3_number (S := S) (lo := nI 1) (hi := nI 9) hM (by omega)) kVX3_126 kDX3_126 (rm_ok hR (Nat.le_of_ble_eq_true rfl) (Nat.le_of_ble_eq_true rfl)) ⟨Nat.zero_le _, Nat.zero_le _⟩ (by omega) (rfl) rfl rfl rfl rfl (Nat.le_of_ble_eq_true rfl) dX3_readsProgram_90 ?_
                  refine v_if_neB (pc := 93) 98 dX3_readsProgram_93 (by decide) (fun c13 => ?_) (fun c13 => ?_)
                  · skip
                    refine v_bipush (pc := 98) (nI 12) dX3_readsProgram_98 (by decide) ?_
                    refine v_iload_n (pc := 100) 3 dX3_readsProgram_100 rfl rfl ?_
                    refine v_imulN (pc := 101) dX3_readsProgram_101 ?_
                    refine v_iconst (pc := 102) (nI 2) dX3_readsProgram_102 (by decide) ?_
                    refine v_aload_n (pc := 103) 2 dX3_readsProgram_103 rfl rfl ?_
                    refine gX3_16 (pc := 104) hN dX3_readsProgram_104 ?_
                    refine v_iload_n (pc := 107) 3 dX3_readsProgram_107 rfl rfl ?_
                    refine c_iald (pc := 108) (k := 516) (j := t) IA_516 (by omega) rfl (by omega) (by decide) dX3_readsProgram_108 ?_
                    refine v_topi (v := nI z) ((congrFun (nuS_ne (by decide)) _).trans hzE) ?_
                    refine v_imulN (pc := 109) dX3_readsProgram_109 ?_
                    refine v_iaddN (pc := 110) dX3_readsProgram_110 ?_
                    refine v_istore (pc := 111) (lv' := [(4, .int (nI (12 * t + 2 * z))), (3, .int (nI 1)), (2, .int (S 513 4)), (0, .ref (gZ G + 513)), (1, .int (nI t))]) dX3_readsProgram_111 (by decide) rfl ?_
                    refine v_aload_n (pc := 113) 3 dX3_readsProgram_113 rfl rfl ?_
                    refine gX3_19 (pc := 114) hN dX3_readsProgram_114 ?_
                    refine v_iload (pc := 117) 0 dX3_readsProgram_117 rfl ?_
                    refine v_iload_n (pc := 119) 2 dX3_readsProgram_119 rfl rfl ?_
                    refine c_iast (pc := 120) (k := 517) (j := 12 * t + 2 * z) IA_517 (by omega) rfl (by omega) (by decide) dX3_readsProgram_120 ?_
                    refine v_aload_n (pc := 121) 3 dX3_readsProgram_121 rfl rfl ?_
                    refine gX3_19 (pc := 122) hN dX3_readsProgram_122 ?_
                    refine v_iload (pc := 125) 0 dX3_readsProgram_125 rfl ?_
                    refine v_iconst (pc := 127) (nI 1) dX3_readsProgram_127 (by decide) ?_
                    refine v_iaddN (pc := 128) dX3_readsProgram_128 ?_
                    refine v_iload_n (pc := 129) 2 dX3_readsProgram_129 rfl rfl ?_
                    refine v_bipush (pc := 130) (nI 119) dX3_readsProgram_130 (by decide) ?_
                    refine v_ic_eq (pc := 132) 141 dX3_readsProgram_132 (by decide) (fun h => absurd h c2) (fun _ => ?_)
                    refine v_iload_n (pc := 135) 2 dX3_readsProgram_135 rfl rfl ?_
                    refine v_bipush (pc := 136) (nI 102) dX3_readsProgram_136 (by decide) ?_
                    refine v_ic_ne (pc := 138) 148 dX3_readsProgram_138 (by decide) (fun h => absurd c11 h) (fun _ => ?_)
                    refine v_aload_n (pc := 141) 3 dX3_readsProgram_141 rfl rfl ?_
                    refine gX3_104 (pc := 142) hN dX3_readsProgram_142 ?_
                    refine v_topi (v := (nuS S (nI 1) (nI 9)) 513 5) (congrFun (s2_nk (by omega)) _) ?_
                    refine v_goto (pc := 145) 149 dX3_readsProgram_145 (by decide) ?_
                    refine c_iast (pc := 149) (k := 517) (j := 12 * t + 2 * z + 1) IA_517 (by omega) rfl (by omega) (by decide) dX3_readsProgram_149 ?_
                    refine v_aload_n (pc := 150) 3 dX3_readsProgram_150 rfl rfl ?_
                    refine gX3_16 (pc := 151) hN dX3_readsProgram_151 ?_
                    refine v_iload_n (pc := 154) 4 dX3_readsProgram_154 rfl rfl ?_
                    refine v_dup2 (pc := 155) dX3_readsProgram_155 rfl rfl ?_
                    refine c_iald (pc := 156) (k := 516) (j := t) IA_516 (by omega) rfl (by omega) (by decide) dX3_readsProgram_156 ?_
                    refine v_topi (v := nI z) ((congrFun (s2_nk (by omega)) _).trans ((congrFun (s2_nk (by omega)) _).trans ((congrFun (nuS_ne (by decide)) _).trans hzE))) ?_
                    refine v_iconst (pc := 157) (nI 1) dX3_readsProgram_157 (by decide) ?_
                    refine v_iaddN (pc := 158) dX3_readsProgram_158 ?_
                    refine c_iast (pc := 159) (k := 516) (j := t) IA_516 (by omega) rfl (by omega) (by decide) dX3_readsProgram_159 ?_
                    refine v_S (S' := pgW (nuS S (nI 1) (nI 9)) t (S 513 4) (nuS S (nI 1) (nI 9) 513 5)) (by unfold pgW; rw [nuS_ne (k := 516) (by decide), hzn]) ?_
                    refine v_aload_n (pc := 160) 3 dX3_readsProgram_160 rfl rfl ?_
                    refine c_callVv (pc := 161) (st := []) (ci := 3) (cs_X3_next (S := pgW (nuS S (nI 1) (nI 9)) t (S 513 4) (nuS S (nI 1) (nI 9) 513 5))  (MP_pgW (MP_nu hM _ _) _ _ _) (by omega)) kVX3_114 kDX3_114 (rm_ok hR (Nat.le_of_ble_eq_true rfl) (Nat.le_of_ble_eq_true rfl)) ⟨Nat.zero_le _, Nat.zero_le _⟩ (by omega) (rfl) rfl rfl rfl rfl (Nat.le_of_ble_eq_true rfl) dX3_readsProgram_161 ?_
                    refine v_goto (pc := 164) 4 dX3_readsProgram_164 (by decide) ?_
                    refine v_sub (lv' := [(0, .ref (gZ G + 513)), (1, .int (nI t))]) [3, 4] rfl ?_
                    have e : pgL t (m + 1) S = pgL t m (nxS (pgW (nuS S (nI 1) (nI 9)) t (S 513 4) (nuS S (nI 1) (nI 9) 513 5))) := by rw [pgL, if_neg c1, if_pos (Or.inr (Or.inr (Or.inr (Or.inr (c11))))), if_pos (Or.inr c11), if_pos c13]
                    rw [e]
                    refine ih (z + 1) _ (by omega) (MP_nx (MP_pgW (MP_nu hM _ _) _ _ _)) ?_
                    rw [nxS_ne (by decide), pgW_516, nuS_ne (k := 516) (by decide), hzn]
                  · skip
                    refine v_iconst (pc := 96) (nI 0) dX3_readsProgram_96 (by decide) ?_
                    exact v_iret (pc := 97) hr rfl (Nat.le_refl _) (Nat.le_refl _) dX3_readsProgram_97 (pI_mk (by rw [(show pgL t (m + 1) S = _ from by rw [pgL, if_neg c1, if_pos (Or.inr (Or.inr (Or.inr (Or.inr (c11))))), if_pos (Or.inr c11), if_neg c13])]; exact bI_f Bool.false_ne_true) (hC_c (by rw [(show pgL t (m + 1) S = _ from by rw [pgL, if_neg c1, if_pos (Or.inr (Or.inr (Or.inr (Or.inr (c11))))), if_pos (Or.inr c11), if_neg c13])])))
                · skip
                  exact absurd c12 (by omega)

set_option maxHeartbeats 4000000 in
theorem ct_X3_readsProgram {G : GT} {l : Launch} {N : Nat} {S : ST} {t : Nat} (hM : MP S) (ht : t < 8) (hz : inN (S 516 t) 6) (hN : 535 ≤ N) : CTi G l yX3_readsProgram cX3_readsProgram 5 (some .boolean) 4 [.ref (gZ G + 513), .int (nI t)] N (S) (bI ((pgR S t).1 = true)) ((pgR S t).2) := by
  refine CT.mk "ScopeTasksModel" [(0, .ref (gZ G + 513)), (1, .int (nI t))] rfl (by decide) rfl (Nat.le_of_ble_eq_true rfl) ?_
  intro x hR hl hr hnm
  refine v_aload_n (pc := 0) 0 dX3_readsProgram_0 rfl rfl ?_
  refine c_callVv (pc := 1) (st := []) (ci := 3) (cs_X3_next (S := S)  hM (by omega)) kVX3_114 kDX3_114 (rm_ok hR (Nat.le_of_ble_eq_true rfl) (Nat.le_of_ble_eq_true rfl)) ⟨Nat.zero_le _, Nat.zero_le _⟩ (by omega) (rfl) rfl rfl rfl rfl (Nat.le_of_ble_eq_true rfl) dX3_readsProgram_1 ?_
  refine v_sub (lv' := [(0, .ref (gZ G + 513)), (1, .int (nI t))]) [0, 1] rfl ?_
  have hs := hz
  rw [show pgR S t = pgL t (6 - nn (S 516 t)) (nxS S) from rfl]
  exact lp_pg hN ht hR hr (6 - nn (S 516 t)) (nn (S 516 t)) (nxS S) (by have := hz.2; omega) (MP_nx hM) (by rw [nxS_ne (by decide)]; exact hz.1)

