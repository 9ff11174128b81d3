set_option maxRecDepth 100000
/-! java.util.BitSet, 8 bits: walks -/
set_option maxHeartbeats 4000000 in
theorem ct_J0_wordIndex {G : GT} {l : Launch} {N : Nat} {S : ST} {t : Nat} (ht : t < 16) : CTi G l yJ0_wordIndex cJ0_wordIndex 1 (some .int) 0 [.int (nI t)] N (S) (nI 0) (S) := by
  refine CT.mk "java/util/BitSet" [(0, .int (nI t))] rfl (by decide) rfl (Nat.le_of_ble_eq_true rfl) ?_
  intro x hR hl hr hnm
  refine v_iload_n (pc := 0) 0 dJ0_wordIndex_0 rfl rfl ?_
  refine v_bipush (pc := 1) (nI 6) dJ0_wordIndex_1 (by decide) ?_
  refine v_ishr (pc := 3) dJ0_wordIndex_3 ?_
  refine v_topi (v := nI 0) (bs_wi ht) ?_
  exact v_iret (pc := 4) hr rfl (Nat.le_refl _) (Nat.le_refl _) dJ0_wordIndex_4 (pI_mk rfl (hC_c rfl))

set_option maxHeartbeats 4000000 in
theorem ct_J0_checkInvariants {G : GT} {l : Launch} {N : Nat} {S : ST} {k : Nat} (hb : BC k) (hN : k + 1 < N) : CTv G l yJ0_checkInvariants cJ0_checkInvariants 1 none 0 [.ref (gZ G + k)] N (S) (S) := by
  refine CT.mk "java/util/BitSet" [(0, .ref (gZ G + k))] rfl (by decide) rfl (Nat.le_of_ble_eq_true rfl) ?_
  intro x hR hl hr hnm
  refine v_gets (pc := 0) (C := "java/util/BitSet") (v := .int 1) (fun C => C.2.2.2.2.2.1.1) q372 rfl dJ0_checkInvariants_0 ?_
  refine v_topi (v := nI 1) rfl ?_
  refine v_if_neN (pc := 3) 37 (by omega) dJ0_checkInvariants_3 (by decide) (fun _ => ?_) (fun h => absurd h (by decide))
  refine v_gets (pc := 37) (C := "java/util/BitSet") (v := .int 1) (fun C => C.2.2.2.2.2.1.1) q372 rfl dJ0_checkInvariants_37 ?_
  refine v_topi (v := nI 1) rfl ?_
  refine v_if_neN (pc := 40) 70 (by omega) dJ0_checkInvariants_40 (by decide) (fun _ => ?_) (fun h => absurd h (by decide))
  refine v_gets (pc := 70) (C := "java/util/BitSet") (v := .int 1) (fun C => C.2.2.2.2.2.1.1) q372 rfl dJ0_checkInvariants_70 ?_
  refine v_topi (v := nI 1) rfl ?_
  refine v_if_neN (pc := 73) 110 (by omega) dJ0_checkInvariants_73 (by decide) (fun _ => ?_) (fun h => absurd h (by decide))
  exact v_vret (pc := 110) hr (Nat.le_refl _) (Nat.le_refl _) dJ0_checkInvariants_110 (pV_mk (hC_c rfl))

set_option maxHeartbeats 4000000 in
theorem ct_J0_ensureCapacity {G : GT} {l : Launch} {N : Nat} {S : ST} {k : Nat} (hb : BC k) (hN : k + 1 < N) : CTv G l yJ0_ensureCapacity cJ0_ensureCapacity 3 none 0 [.ref (gZ G + k), .int (nI 1)] N (S) (S) := by
  refine CT.mk "java/util/BitSet" [(0, .ref (gZ G + k)), (1, .int (nI 1))] rfl (by decide) rfl (Nat.le_of_ble_eq_true rfl) ?_
  intro x hR hl hr hnm
  refine v_aload_n (pc := 0) 0 dJ0_ensureCapacity_0 rfl rfl ?_
  refine gJ0_11 (pc := 1) hb hN dJ0_ensureCapacity_1 ?_
  refine v_alen (pc := 4) (t0 := 1) rfl (by omega) (hb G _).2 rfl dJ0_ensureCapacity_4 ?_
  refine v_topi (v := nI 1) rfl ?_
  refine v_iload_n (pc := 5) 1 dJ0_ensureCapacity_5 rfl rfl ?_
  refine v_ic_geN (pc := 6) 38 (by omega) (by omega) dJ0_ensureCapacity_6 (by decide) (fun _ => ?_) (fun h => absurd h (by omega))
  exact v_vret (pc := 38) hr (Nat.le_refl _) (Nat.le_refl _) dJ0_ensureCapacity_38 (pV_mk (hC_c rfl))

set_option maxHeartbeats 4000000 in
theorem ct_J0_expandTo {G : GT} {l : Launch} {N : Nat} {S : ST} {k v : Nat} (hb : BC k) (hv : BS S k v) (hN : k + 1 < N) : CTv G l yJ0_expandTo cJ0_expandTo 3 none 1 [.ref (gZ G + k), .int (nI 0)] N (S) (s2 S k 1 (nI 1)) := by
  obtain ⟨hvE, hv8, hwE⟩ := hv
  have hw1 := wi_le v
  refine CT.mk "java/util/BitSet" [(0, .ref (gZ G + k)), (1, .int (nI 0))] rfl (by decide) rfl (Nat.le_of_ble_eq_true rfl) ?_
  intro x hR hl hr hnm
  refine v_iload_n (pc := 0) 1 dJ0_expandTo_0 rfl rfl ?_
  refine v_iconst (pc := 1) (nI 1) dJ0_expandTo_1 (by decide) ?_
  refine v_iaddN (pc := 2) dJ0_expandTo_2 ?_
  refine v_topi (v := nI 1) rfl ?_
  refine v_istore_n (pc := 3) (lv' := [(2, .int (nI 1)), (0, .ref (gZ G + k)), (1, .int (nI 0))]) dJ0_expandTo_3 rfl (by decide) rfl ?_
  refine v_aload_n (pc := 4) 1 dJ0_expandTo_4 rfl rfl ?_
  refine gJ0_7 (pc := 5) hb hN dJ0_expandTo_5 ?_
  refine v_topi (v := nI (wi v)) hwE ?_
  refine v_iload_n (pc := 8) 0 dJ0_expandTo_8 rfl rfl ?_
  refine v_ic_geN (pc := 9) 22 (by omega) (by omega) dJ0_expandTo_9 (by decide) (fun c1 => ?_) (fun c1 => ?_)
  · skip
    exact v_vret (pc := 22) hr (Nat.le_refl _) (Nat.le_refl _) dJ0_expandTo_22 (pV_mk (hC_c (s2_id (by rw [hwE, show wi v = 1 by omega])).symm))
  · skip
    refine v_aload_n (pc := 12) 1 dJ0_expandTo_12 rfl rfl ?_
    refine v_iload_n (pc := 13) 0 dJ0_expandTo_13 rfl rfl ?_
    refine c_callVv (pc := 14) (st := []) (ci := 6) (ct_J0_ensureCapacity (S := S) (k := k) hb (by omega)) kVJ0_139 kDJ0_139 (rm_ok hR (Nat.le_of_ble_eq_true rfl) (Nat.le_of_ble_eq_true rfl)) ⟨Nat.zero_le _, Nat.zero_le _⟩ (by omega) (hb G _).1 rfl rfl rfl rfl (Nat.le_of_ble_eq_true rfl) dJ0_expandTo_14 ?_
    refine v_aload_n (pc := 17) 1 dJ0_expandTo_17 rfl rfl ?_
    refine v_iload_n (pc := 18) 0 dJ0_expandTo_18 rfl rfl ?_
    refine pJ0_7 (pc := 19) hb hN dJ0_expandTo_19 ?_
    exact v_vret (pc := 22) hr (Nat.le_refl _) (Nat.le_refl _) dJ0_expandTo_22 (pV_mk (hC_c rfl))

set_option maxHeartbeats 4000000 in
theorem ct_J0_get {G : GT} {l : Launch} {N : Nat} {S : ST} {k v t : Nat} (hb : BC k) (hv : BS S k v) (ht : t < 8) (hN : k + 1 < N) : CTi G l yJ0_get cJ0_get 3 (some .boolean) 1 [.ref (gZ G + k), .int (nI t)] N (S) (bI (v.testBit t = true)) (S) := by
  obtain ⟨hvE, hv8, hwE⟩ := hv
  have hw1 := wi_le v
  refine CT.mk "java/util/BitSet" [(0, .ref (gZ G + k)), (1, .int (nI t))] rfl (by decide) rfl (Nat.le_of_ble_eq_true rfl) ?_
  intro x hR hl hr hnm
  refine v_iload_n (pc := 0) 1 dJ0_get_0 rfl rfl ?_
  refine v_if_geN (pc := 1) 31 (by omega) dJ0_get_1 (by decide) ?_
  refine v_aload_n (pc := 31) 0 dJ0_get_31 rfl rfl ?_
  refine c_callVv (pc := 32) (st := []) (ci := 6) (ct_J0_checkInvariants (S := S) (k := k) hb (by omega)) kVJ0_56 kDJ0_56 (rm_ok hR (Nat.le_of_ble_eq_true rfl) (Nat.le_of_ble_eq_true rfl)) ⟨Nat.zero_le _, Nat.zero_le _⟩ (by omega) (hb G _).1 rfl rfl rfl rfl (Nat.le_of_ble_eq_true rfl) dJ0_get_32 ?_
  refine v_iload_n (pc := 35) 1 dJ0_get_35 rfl rfl ?_
  refine c_callSi (pc := 36) (st := []) (ct_J0_wordIndex (S := S) (t := t) (by omega)) kVJ0_52 kDJ0_52 (rm_ok hR (Nat.le_of_ble_eq_true rfl) (Nat.le_of_ble_eq_true rfl)) ⟨Nat.zero_le _, Nat.zero_le _⟩ rfl rfl (Nat.le_of_ble_eq_true rfl) dJ0_get_36 ?_
  refine v_istore_n (pc := 39) (lv' := [(2, .int (nI 0)), (0, .ref (gZ G + k)), (1, .int (nI t))]) dJ0_get_39 rfl (by decide) rfl ?_
  refine v_iload_n (pc := 40) 0 dJ0_get_40 rfl rfl ?_
  refine v_aload_n (pc := 41) 1 dJ0_get_41 rfl rfl ?_
  refine gJ0_7 (pc := 42) hb hN dJ0_get_42 ?_
  refine v_topi (v := nI (wi v)) hwE ?_
  refine v_ic_geN (pc := 45) 67 (by omega) (by omega) dJ0_get_45 (by decide) (fun c1 => ?_) (fun c1 => ?_)
  · skip
    refine v_iconst (pc := 67) (nI 0) dJ0_get_67 (by decide) ?_
    exact v_iret (pc := 68) hr rfl (Nat.le_refl _) (Nat.le_refl _) dJ0_get_68 (pI_mk (bI_f (by rw [wi_0 (by omega : wi v = 0)]; simp)) (hC_c rfl))
  · skip
    refine v_aload_n (pc := 48) 1 dJ0_get_48 rfl rfl ?_
    refine gJ0_11 (pc := 49) hb hN dJ0_get_49 ?_
    refine v_iload_n (pc := 52) 0 dJ0_get_52 rfl rfl ?_
    refine c_lald (pc := 53) (k := k) (v := v) hb (by omega) rfl hvE (by omega) dJ0_get_53 ?_
    refine v_lconst (pc := 54) (lN 1) dJ0_get_54 rfl ?_
    refine v_iload_n (pc := 55) 2 dJ0_get_55 rfl rfl ?_
    refine v_lshl (pc := 56) dJ0_get_56 rfl ?_
    refine v_land (pc := 57) dJ0_get_57 ?_
    refine v_lconst (pc := 58) (lN 0) dJ0_get_58 rfl ?_
    refine v_lcmp (pc := 59) dJ0_get_59 rfl ?_
    refine v_if_eq (pc := 60) 67 dJ0_get_60 (by decide) (fun c2 => ?_) (fun c2 => ?_)
    · skip
      refine v_iconst (pc := 67) (nI 0) dJ0_get_67 (by decide) ?_
      exact v_iret (pc := 68) hr rfl (Nat.le_refl _) (Nat.le_refl _) dJ0_get_68 (pI_mk (bI_f ((bs_get hv8 ht).mp c2)) (hC_c rfl))
    · skip
      refine v_iconst (pc := 63) (nI 1) dJ0_get_63 (by decide) ?_
      refine v_goto (pc := 64) 68 dJ0_get_64 (by decide) ?_
      exact v_iret (pc := 68) hr rfl (Nat.le_refl _) (Nat.le_refl _) dJ0_get_68 (pI_mk (bI_t (Classical.not_not.mp (fun z => c2 ((bs_get hv8 ht).mpr z)))) (hC_c rfl))

set_option maxHeartbeats 4000000 in
theorem ct_J0_set {G : GT} {l : Launch} {N : Nat} {S : ST} {k v t : Nat} (hb : BC k) (hv : BS S k v) (ht : t < 8) (hN : k + 1 < N) : CTv G l yJ0_set cJ0_set 3 none 2 [.ref (gZ G + k), .int (nI t)] N (S) (bset S k (v ||| 2 ^ t)) := by
  have hv0 := hv
  obtain ⟨hvE, hv8, hwE⟩ := hv
  have hw1 := wi_le v
  refine CT.mk "java/util/BitSet" [(0, .ref (gZ G + k)), (1, .int (nI t))] rfl (by decide) rfl (Nat.le_of_ble_eq_true rfl) ?_
  intro x hR hl hr hnm
  refine v_iload_n (pc := 0) 1 dJ0_set_0 rfl rfl ?_
  refine v_if_geN (pc := 1) 31 (by omega) dJ0_set_1 (by decide) ?_
  refine v_iload_n (pc := 31) 1 dJ0_set_31 rfl rfl ?_
  refine c_callSi (pc := 32) (st := []) (ct_J0_wordIndex (S := S) (t := t) (by omega)) kVJ0_52 kDJ0_52 (rm_ok hR (Nat.le_of_ble_eq_true rfl) (Nat.le_of_ble_eq_true rfl)) ⟨Nat.zero_le _, Nat.zero_le _⟩ rfl rfl (Nat.le_of_ble_eq_true rfl) dJ0_set_32 ?_
  refine v_istore_n (pc := 35) (lv' := [(2, .int (nI 0)), (0, .ref (gZ G + k)), (1, .int (nI t))]) dJ0_set_35 rfl (by decide) rfl ?_
  refine v_aload_n (pc := 36) 1 dJ0_set_36 rfl rfl ?_
  refine v_iload_n (pc := 37) 0 dJ0_set_37 rfl rfl ?_
  refine c_callVv (pc := 38) (st := []) (ci := 6) (ct_J0_expandTo (S := S) (k := k) hb hv0 (by omega)) kVJ0_155 kDJ0_155 (rm_ok hR (Nat.le_of_ble_eq_true rfl) (Nat.le_of_ble_eq_true rfl)) ⟨Nat.zero_le _, Nat.zero_le _⟩ (by omega) (hb G _).1 rfl rfl rfl rfl (Nat.le_of_ble_eq_true rfl) dJ0_set_38 ?_
  refine v_aload_n (pc := 41) 1 dJ0_set_41 rfl rfl ?_
  refine gJ0_11 (pc := 42) hb hN dJ0_set_42 ?_
  refine v_iload_n (pc := 45) 0 dJ0_set_45 rfl rfl ?_
  refine v_dup2 (pc := 46) dJ0_set_46 rfl rfl ?_
  refine c_lald (pc := 47) (k := k) (v := v) hb (by omega) rfl ((congrFun (s2_nk (by omega)) _).trans hvE) (by omega) dJ0_set_47 ?_
  refine v_lconst (pc := 48) (lN 1) dJ0_set_48 rfl ?_
  refine v_iload_n (pc := 49) 2 dJ0_set_49 rfl rfl ?_
  refine v_lshl (pc := 50) dJ0_set_50 rfl ?_
  refine v_lor (pc := 51) dJ0_set_51 ?_
  refine v_topl (v := lN (v ||| 2 ^ t)) (bs_or hv8 ht) ?_
  refine c_last (pc := 52) (k := k) (v := v ||| 2 ^ t) hb (by omega) rfl (by first | omega | exact Nat.lt_trans (bs_orlt hv8 ht).1 (by decide) | exact Nat.lt_trans (bs_cllt hv8) (by decide)) dJ0_set_52 ?_
  refine v_aload_n (pc := 53) 1 dJ0_set_53 rfl rfl ?_
  refine c_callVv (pc := 54) (st := []) (ci := 6) (ct_J0_checkInvariants (S := s2 (s2 S k 1 (nI 1)) (k + 1) 0 (nI (v ||| 2 ^ t))) (k := k) hb (by omega)) kVJ0_56 kDJ0_56 (rm_ok hR (Nat.le_of_ble_eq_true rfl) (Nat.le_of_ble_eq_true rfl)) ⟨Nat.zero_le _, Nat.zero_le _⟩ (by omega) (hb G _).1 rfl rfl rfl rfl (Nat.le_of_ble_eq_true rfl) dJ0_set_54 ?_
  exact v_vret (pc := 57) hr (Nat.le_refl _) (Nat.le_refl _) dJ0_set_57 (pV_mk (hC_c (by unfold bset; rw [wi_1 (bs_orlt hv8 ht).2])))

set_option maxHeartbeats 4000000 in
theorem ct_J0_clear {G : GT} {l : Launch} {N : Nat} {S : ST} {k v : Nat} (hb : BC k) (hv : BS S k v) (hN : k + 1 < N) : CTv G l yJ0_clear cJ0_clear 1 none 0 [.ref (gZ G + k)] N (S) (bset S k 0) := by
  have hv0 := hv
  obtain ⟨hvE, hv8, hwE⟩ := hv
  have hw1 := wi_le v
  refine CT.mk "java/util/BitSet" [(0, .ref (gZ G + k))] rfl (by decide) rfl (Nat.le_of_ble_eq_true rfl) ?_
  intro x hR hl hr hnm
  refine v_aload_n (pc := 0) 0 dJ0_clear_0 rfl rfl ?_
  refine gJ0_7 (pc := 1) hb hN dJ0_clear_1 ?_
  refine v_topi (v := nI (wi v)) hwE ?_
  refine v_if_leN (pc := 4) 27 (by omega) dJ0_clear_4 (by decide) (fun c1 => ?_) (fun c1 => ?_)
  · skip
    exact v_vret (pc := 27) hr (Nat.le_refl _) (Nat.le_refl _) dJ0_clear_27 (pV_mk (hC_c (by obtain rfl := wi_0 (show wi v = 0 by omega); exact (bset_id hv0).symm)))
  · skip
    refine v_aload_n (pc := 7) 0 dJ0_clear_7 rfl rfl ?_
    refine gJ0_11 (pc := 8) hb hN dJ0_clear_8 ?_
    refine v_aload_n (pc := 11) 0 dJ0_clear_11 rfl rfl ?_
    refine v_dup (pc := 12) dJ0_clear_12 rfl ?_
    refine gJ0_7 (pc := 13) hb hN dJ0_clear_13 ?_
    refine v_topi (v := nI (wi v)) hwE ?_
    refine v_iconst (pc := 16) (nI 1) dJ0_clear_16 (by decide) ?_
    refine v_isubN (pc := 17) (by omega) dJ0_clear_17 ?_
    refine v_topi (v := nI 0) (by rw [show wi v - 1 = 0 by omega]) ?_
    refine v_dup_x1 (pc := 18) dJ0_clear_18 rfl rfl ?_
    refine pJ0_7 (pc := 19) hb hN dJ0_clear_19 ?_
    refine v_lconst (pc := 22) (lN 0) dJ0_clear_22 rfl ?_
    refine c_last (pc := 23) (k := k) (v := 0) hb (by omega) rfl (by first | omega | exact Nat.lt_trans (bs_orlt hv8 ht).1 (by decide) | exact Nat.lt_trans (bs_cllt hv8) (by decide)) dJ0_clear_23 ?_
    refine v_goto (pc := 24) 0 dJ0_clear_24 (by decide) ?_
    refine v_aload_n (pc := 0) 0 dJ0_clear_0 rfl rfl ?_
    refine gJ0_7 (pc := 1) hb hN dJ0_clear_1 ?_
    refine v_topi (v := nI 0) ((congrFun (s2_nk (by omega)) _).trans (s2_at _ _ _ _)) ?_
    refine v_if_leN (pc := 4) 27 (by omega) dJ0_clear_4 (by decide) (fun _ => ?_) (fun h => absurd h (by decide))
    exact v_vret (pc := 27) hr (Nat.le_refl _) (Nat.le_refl _) dJ0_clear_27 (pV_mk (hC_c rfl))

set_option maxHeartbeats 4000000 in
theorem ct_J0_recalculateWordsInUse {G : GT} {l : Launch} {N : Nat} {S : ST} {k v : Nat} (hb : BC k) (hvE : S (k + 1) 0 = nI v) (hv8 : v < 256) (hw1 : S k 1 = nI 1) (hN : k + 1 < N) : CTv G l yJ0_recalculateWordsInUse cJ0_recalculateWordsInUse 2 none 0 [.ref (gZ G + k)] N (S) (s2 S k 1 (nI (wi v))) := by
  refine CT.mk "java/util/BitSet" [(0, .ref (gZ G + k))] rfl (by decide) rfl (Nat.le_of_ble_eq_true rfl) ?_
  intro x hR hl hr hnm
  refine v_aload_n (pc := 0) 0 dJ0_recalculateWordsInUse_0 rfl rfl ?_
  refine gJ0_7 (pc := 1) hb hN dJ0_recalculateWordsInUse_1 ?_
  refine v_topi (v := nI 1) hw1 ?_
  refine v_iconst (pc := 4) (nI 1) dJ0_recalculateWordsInUse_4 (by decide) ?_
  refine v_isubN (pc := 5) (by omega) dJ0_recalculateWordsInUse_5 ?_
  refine v_topi (v := nI 0) rfl ?_
  refine v_istore_n (pc := 6) (lv' := [(1, .int (nI 0)), (0, .ref (gZ G + k))]) dJ0_recalculateWordsInUse_6 rfl (by decide) rfl ?_
  refine v_iload_n (pc := 7) 0 dJ0_recalculateWordsInUse_7 rfl rfl ?_
  refine v_if_ltN (pc := 8) (by omega) dJ0_recalculateWordsInUse_8 31 (by decide) ?_
  refine v_aload_n (pc := 11) 1 dJ0_recalculateWordsInUse_11 rfl rfl ?_
  refine gJ0_11 (pc := 12) hb hN dJ0_recalculateWordsInUse_12 ?_
  refine v_iload_n (pc := 15) 0 dJ0_recalculateWordsInUse_15 rfl rfl ?_
  refine c_lald (pc := 16) (k := k) (v := v) hb (by omega) rfl hvE (by omega) dJ0_recalculateWordsInUse_16 ?_
  refine v_lconst (pc := 17) (lN 0) dJ0_recalculateWordsInUse_17 rfl ?_
  refine v_lcmp (pc := 18) dJ0_recalculateWordsInUse_18 rfl ?_
  refine v_if_eq (pc := 19) 25 dJ0_recalculateWordsInUse_19 (by decide) (fun c1 => ?_) (fun c1 => ?_)
  · skip
    refine v_iinc (pc := 25) (k := 0) (lv' := [(1, .int (nI 0 + Int32.ofInt (-1))), (0, .ref (gZ G + k))]) dJ0_recalculateWordsInUse_25 rfl rfl (by decide) rfl ?_
    refine v_goto (pc := 28) 7 dJ0_recalculateWordsInUse_28 (by decide) ?_
    refine v_iload_n (pc := 7) 0 dJ0_recalculateWordsInUse_7 rfl rfl ?_
    refine v_if_lt (pc := 8) 31 dJ0_recalculateWordsInUse_8 (by decide) (fun c2 => ?_) (fun c2 => ?_)
    · skip
      refine v_aload_n (pc := 31) 1 dJ0_recalculateWordsInUse_31 rfl rfl ?_
      refine v_iload_n (pc := 32) 0 dJ0_recalculateWordsInUse_32 rfl rfl ?_
      refine v_iconst (pc := 33) (nI 1) dJ0_recalculateWordsInUse_33 (by decide) ?_
      refine v_iadd (pc := 34) dJ0_recalculateWordsInUse_34 ?_
      refine v_topi (v := nI 0) (by decide) ?_
      refine pJ0_7 (pc := 35) hb hN dJ0_recalculateWordsInUse_35 ?_
      exact v_vret (pc := 38) hr (Nat.le_refl _) (Nat.le_refl _) dJ0_recalculateWordsInUse_38 (pV_mk (hC_c (by rw [(bs_z hv8).mp c1]; rfl)))
    · skip
      exact absurd c2 (by decide)
  · skip
    refine v_goto (pc := 22) 31 dJ0_recalculateWordsInUse_22 (by decide) ?_
    refine v_aload_n (pc := 31) 1 dJ0_recalculateWordsInUse_31 rfl rfl ?_
    refine v_iload_n (pc := 32) 0 dJ0_recalculateWordsInUse_32 rfl rfl ?_
    refine v_iconst (pc := 33) (nI 1) dJ0_recalculateWordsInUse_33 (by decide) ?_
    refine v_iaddN (pc := 34) dJ0_recalculateWordsInUse_34 ?_
    refine v_topi (v := nI 1) rfl ?_
    refine pJ0_7 (pc := 35) hb hN dJ0_recalculateWordsInUse_35 ?_
    exact v_vret (pc := 38) hr (Nat.le_refl _) (Nat.le_refl _) dJ0_recalculateWordsInUse_38 (pV_mk (hC_c (by rw [wi_1 (fun z => c1 ((bs_z hv8).mpr z))])))

theorem s2_comm (S : ST) {k q : Nat} (j i : Nat) (v u : Int32) (h : k ≠ q) : s2 (s2 S k j v) q i u = s2 (s2 S q i u) k j v := by
  unfold s2
  rw [s1_ne (fun z => h z.symm), s1_ne h]
  exact s1_comm S _ _ h
set_option maxHeartbeats 4000000 in
theorem ct_J0_clear_2 {G : GT} {l : Launch} {N : Nat} {S : ST} {k v t : Nat} (hb : BC k) (hv : BS S k v) (ht : t < 8) (hN : k + 1 < N) : CTv G l yJ0_clear_2 cJ0_clear_2 3 none 1 [.ref (gZ G + k), .int (nI t)] N (S) (bset S k (v &&& (255 ^^^ 2 ^ t))) := by
  have hv0 := hv
  obtain ⟨hvE, hv8, hwE⟩ := hv
  have hw1 := wi_le v
  refine CT.mk "java/util/BitSet" [(0, .ref (gZ G + k)), (1, .int (nI t))] rfl (by decide) rfl (Nat.le_of_ble_eq_true rfl) ?_
  intro x hR hl hr hnm
  refine v_iload_n (pc := 0) 1 dJ0_clear_2_0 rfl rfl ?_
  refine v_if_geN (pc := 1) 31 (by omega) dJ0_clear_2_1 (by decide) ?_
  refine v_iload_n (pc := 31) 1 dJ0_clear_2_31 rfl rfl ?_
  refine c_callSi (pc := 32) (st := []) (ct_J0_wordIndex (S := S) (t := t) (by omega)) kVJ0_52 kDJ0_52 (rm_ok hR (Nat.le_of_ble_eq_true rfl) (Nat.le_of_ble_eq_true rfl)) ⟨Nat.zero_le _, Nat.zero_le _⟩ rfl rfl (Nat.le_of_ble_eq_true rfl) dJ0_clear_2_32 ?_
  refine v_istore_n (pc := 35) (lv' := [(2, .int (nI 0)), (0, .ref (gZ G + k)), (1, .int (nI t))]) dJ0_clear_2_35 rfl (by decide) rfl ?_
  refine v_iload_n (pc := 36) 0 dJ0_clear_2_36 rfl rfl ?_
  refine v_aload_n (pc := 37) 1 dJ0_clear_2_37 rfl rfl ?_
  refine gJ0_7 (pc := 38) hb hN dJ0_clear_2_38 ?_
  refine v_topi (v := nI (wi v)) hwE ?_
  refine v_ic_ltN (pc := 41) 45 (by omega) (by omega) dJ0_clear_2_41 (by decide) (fun c1 => ?_) (fun c1 => ?_)
  · skip
    refine v_aload_n (pc := 45) 1 dJ0_clear_2_45 rfl rfl ?_
    refine gJ0_11 (pc := 46) hb hN dJ0_clear_2_46 ?_
    refine v_iload_n (pc := 49) 0 dJ0_clear_2_49 rfl rfl ?_
    refine v_dup2 (pc := 50) dJ0_clear_2_50 rfl rfl ?_
    refine c_lald (pc := 51) (k := k) (v := v) hb (by omega) rfl hvE (by omega) dJ0_clear_2_51 ?_
    refine v_lconst (pc := 52) (lN 1) dJ0_clear_2_52 rfl ?_
    refine v_iload_n (pc := 53) 2 dJ0_clear_2_53 rfl rfl ?_
    refine v_lshl (pc := 54) dJ0_clear_2_54 rfl ?_
    refine v_ldc2 (pc := 55) q740 dJ0_clear_2_55 ?_
    refine v_lxor (pc := 58) dJ0_clear_2_58 ?_
    refine v_land (pc := 59) dJ0_clear_2_59 ?_
    refine v_topl (v := lN (v &&& (255 ^^^ 2 ^ t))) (bs_cl hv8 ht) ?_
    refine c_last (pc := 60) (k := k) (v := v &&& (255 ^^^ 2 ^ t)) hb (by omega) rfl (by first | omega | exact Nat.lt_trans (bs_orlt hv8 ht).1 (by decide) | exact Nat.lt_trans (bs_cllt hv8) (by decide)) dJ0_clear_2_60 ?_
    refine v_aload_n (pc := 61) 1 dJ0_clear_2_61 rfl rfl ?_
    refine c_callVv (pc := 62) (st := []) (ci := 6) (ct_J0_recalculateWordsInUse (S := s2 S (k + 1) 0 (nI (v &&& (255 ^^^ 2 ^ t)))) (k := k) (v := v &&& (255 ^^^ 2 ^ t)) hb (s2_at _ _ _ _) (bs_cllt hv8) ((congrFun (s2_nk (by omega)) _).trans (hwE.trans (by rw [show wi v = 1 by omega]))) (by omega)) kVJ0_158 kDJ0_158 (rm_ok hR (Nat.le_of_ble_eq_true rfl) (Nat.le_of_ble_eq_true rfl)) ⟨Nat.zero_le _, Nat.zero_le _⟩ (by omega) (hb G _).1 rfl rfl rfl rfl (Nat.le_of_ble_eq_true rfl) dJ0_clear_2_62 ?_
    refine v_aload_n (pc := 65) 1 dJ0_clear_2_65 rfl rfl ?_
    refine c_callVv (pc := 66) (st := []) (ci := 6) (ct_J0_checkInvariants (S := s2 (s2 S (k + 1) 0 (nI (v &&& (255 ^^^ 2 ^ t)))) k 1 (nI (wi (v &&& (255 ^^^ 2 ^ t))))) (k := k) hb (by omega)) kVJ0_56 kDJ0_56 (rm_ok hR (Nat.le_of_ble_eq_true rfl) (Nat.le_of_ble_eq_true rfl)) ⟨Nat.zero_le _, Nat.zero_le _⟩ (by omega) (hb G _).1 rfl rfl rfl rfl (Nat.le_of_ble_eq_true rfl) dJ0_clear_2_66 ?_
    exact v_vret (pc := 69) hr (Nat.le_refl _) (Nat.le_refl _) dJ0_clear_2_69 (pV_mk (hC_c (by unfold bset; exact s2_comm _ _ _ _ _ (by omega))))
  · skip
    exact v_vret (pc := 44) hr (Nat.le_refl _) (Nat.le_refl _) dJ0_clear_2_44 (pV_mk (hC_c (by obtain rfl := wi_0 (show wi v = 0 by omega); rw [Nat.zero_and]; exact (bset_id hv0).symm)))

def ntz (v : Nat) : Nat := if v.testBit 0 then 0 else if v.testBit 1 then 1 else if v.testBit 2 then 2 else if v.testBit 3 then 3 else if v.testBit 4 then 4 else if v.testBit 5 then 5 else if v.testBit 6 then 6 else 7
theorem ntz_lt (v : Nat) : ntz v < 8 := by unfold ntz; (repeat' split) <;> omega
theorem ntz_m {v : Nat} (h0 : 0 < v) (h : v < 256) : (nI v ^^^ (-1)) &&& nI (v - 1) = nI (2 ^ ntz v - 1) := by
  have : ∀ v : Fin 256, 0 < v.val → (nI v.val ^^^ (-1)) &&& nI (v.val - 1) = nI (2 ^ ntz v.val - 1) := by decide +kernel
  exact this ⟨v, h⟩ h0
theorem nat8 {z : Nat} (h : z < 8) : z = 0 ∨ z = 1 ∨ z = 2 ∨ z = 3 ∨ z = 4 ∨ z = 5 ∨ z = 6 ∨ z = 7 := by omega
set_option maxHeartbeats 4000000 in
theorem ct_J15_numberOfTrailingZeros {G : GT} {l : Launch} {N : Nat} {S : ST} {w : Nat} (h0 : 0 < w) (hw8 : w < 256) : CTi G l yJ15_numberOfTrailingZeros cJ15_numberOfTrailingZeros 2 (some .int) 0 [.int (nI w)] N (S) (nI (ntz w)) (S) := by
  refine CT.mk "java/lang/Integer" [(0, .int (nI w))] rfl (by decide) rfl (Nat.le_of_ble_eq_true rfl) ?_
  intro x hR hl hr hnm
  refine v_iload_n (pc := 0) 0 dJ15_numberOfTrailingZeros_0 rfl rfl ?_
  refine v_iconst (pc := 1) ((-1)) dJ15_numberOfTrailingZeros_1 (by decide) ?_
  refine v_ixor (pc := 2) dJ15_numberOfTrailingZeros_2 ?_
  refine v_iload_n (pc := 3) 0 dJ15_numberOfTrailingZeros_3 rfl rfl ?_
  refine v_iconst (pc := 4) (nI 1) dJ15_numberOfTrailingZeros_4 (by decide) ?_
  refine v_isubN (pc := 5) (by omega) dJ15_numberOfTrailingZeros_5 ?_
  refine v_iand (pc := 6) dJ15_numberOfTrailingZeros_6 ?_
  have hz := ntz_m h0 hw8
  obtain ⟨z, hzn⟩ : ∃ z, ntz w = z := ⟨_, rfl⟩
  have hz8 := ntz_lt w
  rw [hzn] at hz hz8
  rcases nat8 hz8 with rfl | rfl | rfl | rfl | rfl | rfl | rfl | rfl
  · skip
    refine v_topi (v := nI 0) (hz.trans rfl) ?_
    refine v_istore_n (pc := 7) (lv' := [(0, .int (nI 0))]) dJ15_numberOfTrailingZeros_7 rfl (by decide) rfl ?_
    refine v_iload_n (pc := 8) 0 dJ15_numberOfTrailingZeros_8 rfl rfl ?_
    refine v_if_gtN (pc := 9) 17 (by omega) dJ15_numberOfTrailingZeros_9 (by decide) (fun h => absurd h (by decide)) (fun _ => ?_)
    refine v_iload_n (pc := 12) 0 dJ15_numberOfTrailingZeros_12 rfl rfl ?_
    refine v_bipush (pc := 13) (nI 32) dJ15_numberOfTrailingZeros_13 (by decide) ?_
    refine v_iand (pc := 15) dJ15_numberOfTrailingZeros_15 ?_
    refine v_topi (v := nI 0) (by decide) ?_
    exact v_iret (pc := 16) hr rfl (Nat.le_refl _) (Nat.le_refl _) dJ15_numberOfTrailingZeros_16 (pI_mk (by rw [hzn]) (hC_c rfl))
  · skip
    refine v_topi (v := nI 1) (hz.trans rfl) ?_
    refine v_istore_n (pc := 7) (lv' := [(0, .int (nI 1))]) dJ15_numberOfTrailingZeros_7 rfl (by decide) rfl ?_
    refine v_iload_n (pc := 8) 0 dJ15_numberOfTrailingZeros_8 rfl rfl ?_
    refine v_if_gtN (pc := 9) 17 (by omega) dJ15_numberOfTrailingZeros_9 (by decide) (fun _ => ?_) (fun h => absurd h (by decide))
    refine v_iconst (pc := 17) (nI 1) dJ15_numberOfTrailingZeros_17 (by decide) ?_
    refine v_istore_n (pc := 18) (lv' := [(1, .int (nI 1)), (0, .int (nI 1))]) dJ15_numberOfTrailingZeros_18 rfl (by decide) rfl ?_
    refine v_iload_n (pc := 19) 1 dJ15_numberOfTrailingZeros_19 rfl rfl ?_
    refine v_ldcw (pc := 20) q747 dJ15_numberOfTrailingZeros_20 ?_
    refine v_topi (v := nI 65536) (by decide) ?_
    refine v_ic_leN (pc := 23) 34 (by omega) (by omega) dJ15_numberOfTrailingZeros_23 (by decide) (fun _ => ?_) (fun h => absurd h (by decide))
    refine v_iload_n (pc := 34) 1 dJ15_numberOfTrailingZeros_34 rfl rfl ?_
    refine v_sipush (pc := 35) (nI 256) dJ15_numberOfTrailingZeros_35 (by decide) ?_
    refine v_ic_leN (pc := 38) 49 (by omega) (by omega) dJ15_numberOfTrailingZeros_38 (by decide) (fun _ => ?_) (fun h => absurd h (by decide))
    refine v_iload_n (pc := 49) 1 dJ15_numberOfTrailingZeros_49 rfl rfl ?_
    refine v_bipush (pc := 50) (nI 16) dJ15_numberOfTrailingZeros_50 (by decide) ?_
    refine v_ic_leN (pc := 52) 62 (by omega) (by omega) dJ15_numberOfTrailingZeros_52 (by decide) (fun _ => ?_) (fun h => absurd h (by decide))
    refine v_iload_n (pc := 62) 1 dJ15_numberOfTrailingZeros_62 rfl rfl ?_
    refine v_iconst (pc := 63) (nI 4) dJ15_numberOfTrailingZeros_63 (by decide) ?_
    refine v_ic_leN (pc := 64) 74 (by omega) (by omega) dJ15_numberOfTrailingZeros_64 (by decide) (fun _ => ?_) (fun h => absurd h (by decide))
    refine v_iload_n (pc := 74) 0 dJ15_numberOfTrailingZeros_74 rfl rfl ?_
    refine v_iload_n (pc := 75) 1 dJ15_numberOfTrailingZeros_75 rfl rfl ?_
    refine v_iconst (pc := 76) (nI 1) dJ15_numberOfTrailingZeros_76 (by decide) ?_
    refine v_iushr (pc := 77) dJ15_numberOfTrailingZeros_77 rfl ?_
    refine v_topi (v := nI 0) (by decide) ?_
    refine v_iaddN (pc := 78) dJ15_numberOfTrailingZeros_78 ?_
    refine v_topi (v := nI 1) rfl ?_
    exact v_iret (pc := 79) hr rfl (Nat.le_refl _) (Nat.le_refl _) dJ15_numberOfTrailingZeros_79 (pI_mk (by rw [hzn]) (hC_c rfl))
  · skip
    refine v_topi (v := nI 3) (hz.trans rfl) ?_
    refine v_istore_n (pc := 7) (lv' := [(0, .int (nI 3))]) dJ15_numberOfTrailingZeros_7 rfl (by decide) rfl ?_
    refine v_iload_n (pc := 8) 0 dJ15_numberOfTrailingZeros_8 rfl rfl ?_
    refine v_if_gtN (pc := 9) 17 (by omega) dJ15_numberOfTrailingZeros_9 (by decide) (fun _ => ?_) (fun h => absurd h (by decide))
    refine v_iconst (pc := 17) (nI 1) dJ15_numberOfTrailingZeros_17 (by decide) ?_
    refine v_istore_n (pc := 18) (lv' := [(1, .int (nI 1)), (0, .int (nI 3))]) dJ15_numberOfTrailingZeros_18 rfl (by decide) rfl ?_
    refine v_iload_n (pc := 19) 1 dJ15_numberOfTrailingZeros_19 rfl rfl ?_
    refine v_ldcw (pc := 20) q747 dJ15_numberOfTrailingZeros_20 ?_
    refine v_topi (v := nI 65536) (by decide) ?_
    refine v_ic_leN (pc := 23) 34 (by omega) (by omega) dJ15_numberOfTrailingZeros_23 (by decide) (fun _ => ?_) (fun h => absurd h (by decide))
    refine v_iload_n (pc := 34) 1 dJ15_numberOfTrailingZeros_34 rfl rfl ?_
    refine v_sipush (pc := 35) (nI 256) dJ15_numberOfTrailingZeros_35 (by decide) ?_
    refine v_ic_leN (pc := 38) 49 (by omega) (by omega) dJ15_numberOfTrailingZeros_38 (by decide) (fun _ => ?_) (fun h => absurd h (by decide))
    refine v_iload_n (pc := 49) 1 dJ15_numberOfTrailingZeros_49 rfl rfl ?_
    refine v_bipush (pc := 50) (nI 16) dJ15_numberOfTrailingZeros_50 (by decide) ?_
    refine v_ic_leN (pc := 52) 62 (by omega) (by omega) dJ15_numberOfTrailingZeros_52 (by decide) (fun _ => ?_) (fun h => absurd h (by decide))
    refine v_iload_n (pc := 62) 1 dJ15_numberOfTrailingZeros_62 rfl rfl ?_
    refine v_iconst (pc := 63) (nI 4) dJ15_numberOfTrailingZeros_63 (by decide) ?_
    refine v_ic_leN (pc := 64) 74 (by omega) (by omega) dJ15_numberOfTrailingZeros_64 (by decide) (fun _ => ?_) (fun h => absurd h (by decide))
    refine v_iload_n (pc := 74) 0 dJ15_numberOfTrailingZeros_74 rfl rfl ?_
    refine v_iload_n (pc := 75) 1 dJ15_numberOfTrailingZeros_75 rfl rfl ?_
    refine v_iconst (pc := 76) (nI 1) dJ15_numberOfTrailingZeros_76 (by decide) ?_
    refine v_iushr (pc := 77) dJ15_numberOfTrailingZeros_77 rfl ?_
    refine v_topi (v := nI 1) (by decide) ?_
    refine v_iaddN (pc := 78) dJ15_numberOfTrailingZeros_78 ?_
    refine v_topi (v := nI 2) rfl ?_
    exact v_iret (pc := 79) hr rfl (Nat.le_refl _) (Nat.le_refl _) dJ15_numberOfTrailingZeros_79 (pI_mk (by rw [hzn]) (hC_c rfl))
  · skip
    refine v_topi (v := nI 7) (hz.trans rfl) ?_
    refine v_istore_n (pc := 7) (lv' := [(0, .int (nI 7))]) dJ15_numberOfTrailingZeros_7 rfl (by decide) rfl ?_
    refine v_iload_n (pc := 8) 0 dJ15_numberOfTrailingZeros_8 rfl rfl ?_
    refine v_if_gtN (pc := 9) 17 (by omega) dJ15_numberOfTrailingZeros_9 (by decide) (fun _ => ?_) (fun h => absurd h (by decide))
    refine v_iconst (pc := 17) (nI 1) dJ15_numberOfTrailingZeros_17 (by decide) ?_
    refine v_istore_n (pc := 18) (lv' := [(1, .int (nI 1)), (0, .int (nI 7))]) dJ15_numberOfTrailingZeros_18 rfl (by decide) rfl ?_
    refine v_iload_n (pc := 19) 1 dJ15_numberOfTrailingZeros_19 rfl rfl ?_
    refine v_ldcw (pc := 20) q747 dJ15_numberOfTrailingZeros_20 ?_
    refine v_topi (v := nI 65536) (by decide) ?_
    refine v_ic_leN (pc := 23) 34 (by omega) (by omega) dJ15_numberOfTrailingZeros_23 (by decide) (fun _ => ?_) (fun h => absurd h (by decide))
    refine v_iload_n (pc := 34) 1 dJ15_numberOfTrailingZeros_34 rfl rfl ?_
    refine v_sipush (pc := 35) (nI 256) dJ15_numberOfTrailingZeros_35 (by decide) ?_
    refine v_ic_leN (pc := 38) 49 (by omega) (by omega) dJ15_numberOfTrailingZeros_38 (by decide) (fun _ => ?_) (fun h => absurd h (by decide))
    refine v_iload_n (pc := 49) 1 dJ15_numberOfTrailingZeros_49 rfl rfl ?_
    refine v_bipush (pc := 50) (nI 16) dJ15_numberOfTrailingZeros_50 (by decide) ?_
    refine v_ic_leN (pc := 52) 62 (by omega) (by omega) dJ15_numberOfTrailingZeros_52 (by decide) (fun _ => ?_) (fun h => absurd h (by decide))
    refine v_iload_n (pc := 62) 1 dJ15_numberOfTrailingZeros_62 rfl rfl ?_
    refine v_iconst (pc := 63) (nI 4) dJ15_numberOfTrailingZeros_63 (by decide) ?_
    refine v_ic_leN (pc := 64) 74 (by omega) (by omega) dJ15_numberOfTrailingZeros_64 (by decide) (fun h => absurd h (by decide)) (fun _ => ?_)
    refine v_iinc (pc := 67) (k := 0) (v := nI 3) (lv' := [(1, .int (nI 3)), (0, .int (nI 7))]) dJ15_numberOfTrailingZeros_67 rfl (by decide) (by decide) rfl ?_
    refine v_iload_n (pc := 70) 1 dJ15_numberOfTrailingZeros_70 rfl rfl ?_
    refine v_iconst (pc := 71) (nI 2) dJ15_numberOfTrailingZeros_71 (by decide) ?_
    refine v_iushr (pc := 72) dJ15_numberOfTrailingZeros_72 rfl ?_
    refine v_topi (v := nI 1) (by decide) ?_
    refine v_istore_n (pc := 73) (lv' := [(0, .int (nI 1)), (1, .int (nI 3))]) dJ15_numberOfTrailingZeros_73 rfl (by decide) rfl ?_
    refine v_iload_n (pc := 74) 1 dJ15_numberOfTrailingZeros_74 rfl rfl ?_
    refine v_iload_n (pc := 75) 0 dJ15_numberOfTrailingZeros_75 rfl rfl ?_
    refine v_iconst (pc := 76) (nI 1) dJ15_numberOfTrailingZeros_76 (by decide) ?_
    refine v_iushr (pc := 77) dJ15_numberOfTrailingZeros_77 rfl ?_
    refine v_topi (v := nI 0) (by decide) ?_
    refine v_iaddN (pc := 78) dJ15_numberOfTrailingZeros_78 ?_
    refine v_topi (v := nI 3) rfl ?_
    exact v_iret (pc := 79) hr rfl (Nat.le_refl _) (Nat.le_refl _) dJ15_numberOfTrailingZeros_79 (pI_mk (by rw [hzn]) (hC_c rfl))
  · skip
    refine v_topi (v := nI 15) (hz.trans rfl) ?_
    refine v_istore_n (pc := 7) (lv' := [(0, .int (nI 15))]) dJ15_numberOfTrailingZeros_7 rfl (by decide) rfl ?_
    refine v_iload_n (pc := 8) 0 dJ15_numberOfTrailingZeros_8 rfl rfl ?_
    refine v_if_gtN (pc := 9) 17 (by omega) dJ15_numberOfTrailingZeros_9 (by decide) (fun _ => ?_) (fun h => absurd h (by decide))
    refine v_iconst (pc := 17) (nI 1) dJ15_numberOfTrailingZeros_17 (by decide) ?_
    refine v_istore_n (pc := 18) (lv' := [(1, .int (nI 1)), (0, .int (nI 15))]) dJ15_numberOfTrailingZeros_18 rfl (by decide) rfl ?_
    refine v_iload_n (pc := 19) 1 dJ15_numberOfTrailingZeros_19 rfl rfl ?_
    refine v_ldcw (pc := 20) q747 dJ15_numberOfTrailingZeros_20 ?_
    refine v_topi (v := nI 65536) (by decide) ?_
    refine v_ic_leN (pc := 23) 34 (by omega) (by omega) dJ15_numberOfTrailingZeros_23 (by decide) (fun _ => ?_) (fun h => absurd h (by decide))
    refine v_iload_n (pc := 34) 1 dJ15_numberOfTrailingZeros_34 rfl rfl ?_
    refine v_sipush (pc := 35) (nI 256) dJ15_numberOfTrailingZeros_35 (by decide) ?_
    refine v_ic_leN (pc := 38) 49 (by omega) (by omega) dJ15_numberOfTrailingZeros_38 (by decide) (fun _ => ?_) (fun h => absurd h (by decide))
    refine v_iload_n (pc := 49) 1 dJ15_numberOfTrailingZeros_49 rfl rfl ?_
    refine v_bipush (pc := 50) (nI 16) dJ15_numberOfTrailingZeros_50 (by decide) ?_
    refine v_ic_leN (pc := 52) 62 (by omega) (by omega) dJ15_numberOfTrailingZeros_52 (by decide) (fun _ => ?_) (fun h => absurd h (by decide))
    refine v_iload_n (pc := 62) 1 dJ15_numberOfTrailingZeros_62 rfl rfl ?_
    refine v_iconst (pc := 63) (nI 4) dJ15_numberOfTrailingZeros_63 (by decide) ?_
    refine v_ic_leN (pc := 64) 74 (by omega) (by omega) dJ15_numberOfTrailingZeros_64 (by decide) (fun h => absurd h (by decide)) (fun _ => ?_)
    refine v_iinc (pc := 67) (k := 0) (v := nI 3) (lv' := [(1, .int (nI 3)), (0, .int (nI 15))]) dJ15_numberOfTrailingZeros_67 rfl (by decide) (by decide) rfl ?_
    refine v_iload_n (pc := 70) 1 dJ15_numberOfTrailingZeros_70 rfl rfl ?_
    refine v_iconst (pc := 71) (nI 2) dJ15_numberOfTrailingZeros_71 (by decide) ?_
    refine v_iushr (pc := 72) dJ15_numberOfTrailingZeros_72 rfl ?_
    refine v_topi (v := nI 3) (by decide) ?_
    refine v_istore_n (pc := 73) (lv' := [(0, .int (nI 3)), (1, .int (nI 3))]) dJ15_numberOfTrailingZeros_73 rfl (by decide) rfl ?_
    refine v_iload_n (pc := 74) 1 dJ15_numberOfTrailingZeros_74 rfl rfl ?_
    refine v_iload_n (pc := 75) 0 dJ15_numberOfTrailingZeros_75 rfl rfl ?_
    refine v_iconst (pc := 76) (nI 1) dJ15_numberOfTrailingZeros_76 (by decide) ?_
    refine v_iushr (pc := 77) dJ15_numberOfTrailingZeros_77 rfl ?_
    refine v_topi (v := nI 1) (by decide) ?_
    refine v_iaddN (pc := 78) dJ15_numberOfTrailingZeros_78 ?_
    refine v_topi (v := nI 4) rfl ?_
    exact v_iret (pc := 79) hr rfl (Nat.le_refl _) (Nat.le_refl _) dJ15_numberOfTrailingZeros_79 (pI_mk (by rw [hzn]) (hC_c rfl))
  · skip
    refine v_topi (v := nI 31) (hz.trans rfl) ?_
    refine v_istore_n (pc := 7) (lv' := [(0, .int (nI 31))]) dJ15_numberOfTrailingZeros_7 rfl (by decide) rfl ?_
    refine v_iload_n (pc := 8) 0 dJ15_numberOfTrailingZeros_8 rfl rfl ?_
    refine v_if_gtN (pc := 9) 17 (by omega) dJ15_numberOfTrailingZeros_9 (by decide) (fun _ => ?_) (fun h => absurd h (by decide))
    refine v_iconst (pc := 17) (nI 1) dJ15_numberOfTrailingZeros_17 (by decide) ?_
    refine v_istore_n (pc := 18) (lv' := [(1, .int (nI 1)), (0, .int (nI 31))]) dJ15_numberOfTrailingZeros_18 rfl (by decide) rfl ?_
    refine v_iload_n (pc := 19) 1 dJ15_numberOfTrailingZeros_19 rfl rfl ?_
    refine v_ldcw (pc := 20) q747 dJ15_numberOfTrailingZeros_20 ?_
    refine v_topi (v := nI 65536) (by decide) ?_
    refine v_ic_leN (pc := 23) 34 (by omega) (by omega) dJ15_numberOfTrailingZeros_23 (by decide) (fun _ => ?_) (fun h => absurd h (by decide))
    refine v_iload_n (pc := 34) 1 dJ15_numberOfTrailingZeros_34 rfl rfl ?_
    refine v_sipush (pc := 35) (nI 256) dJ15_numberOfTrailingZeros_35 (by decide) ?_
    refine v_ic_leN (pc := 38) 49 (by omega) (by omega) dJ15_numberOfTrailingZeros_38 (by decide) (fun _ => ?_) (fun h => absurd h (by decide))
    refine v_iload_n (pc := 49) 1 dJ15_numberOfTrailingZeros_49 rfl rfl ?_
    refine v_bipush (pc := 50) (nI 16) dJ15_numberOfTrailingZeros_50 (by decide) ?_
    refine v_ic_leN (pc := 52) 62 (by omega) (by omega) dJ15_numberOfTrailingZeros_52 (by decide) (fun h => absurd h (by decide)) (fun _ => ?_)
    refine v_iinc (pc := 55) (k := 0) (v := nI 5) (lv' := [(1, .int (nI 5)), (0, .int (nI 31))]) dJ15_numberOfTrailingZeros_55 rfl (by decide) (by decide) rfl ?_
    refine v_iload_n (pc := 58) 1 dJ15_numberOfTrailingZeros_58 rfl rfl ?_
    refine v_iconst (pc := 59) (nI 4) dJ15_numberOfTrailingZeros_59 (by decide) ?_
    refine v_iushr (pc := 60) dJ15_numberOfTrailingZeros_60 rfl ?_
    refine v_topi (v := nI 1) (by decide) ?_
    refine v_istore_n (pc := 61) (lv' := [(0, .int (nI 1)), (1, .int (nI 5))]) dJ15_numberOfTrailingZeros_61 rfl (by decide) rfl ?_
    refine v_iload_n (pc := 62) 0 dJ15_numberOfTrailingZeros_62 rfl rfl ?_
    refine v_iconst (pc := 63) (nI 4) dJ15_numberOfTrailingZeros_63 (by decide) ?_
    refine v_ic_leN (pc := 64) 74 (by omega) (by omega) dJ15_numberOfTrailingZeros_64 (by decide) (fun _ => ?_) (fun h => absurd h (by decide))
    refine v_iload_n (pc := 74) 1 dJ15_numberOfTrailingZeros_74 rfl rfl ?_
    refine v_iload_n (pc := 75) 0 dJ15_numberOfTrailingZeros_75 rfl rfl ?_
    refine v_iconst (pc := 76) (nI 1) dJ15_numberOfTrailingZeros_76 (by decide) ?_
    refine v_iushr (pc := 77) dJ15_numberOfTrailingZeros_77 rfl ?_
    refine v_topi (v := nI 0) (by decide) ?_
    refine v_iaddN (pc := 78) dJ15_numberOfTrailingZeros_78 ?_
    refine v_topi (v := nI 5) rfl ?_
    exact v_iret (pc := 79) hr rfl (Nat.le_refl _) (Nat.le_refl _) dJ15_numberOfTrailingZeros_79 (pI_mk (by rw [hzn]) (hC_c rfl))
  · skip
    refine v_topi (v := nI 63) (hz.trans rfl) ?_
    refine v_istore_n (pc := 7) (lv' := [(0, .int (nI 63))]) dJ15_numberOfTrailingZeros_7 rfl (by decide) rfl ?_
    refine v_iload_n (pc := 8) 0 dJ15_numberOfTrailingZeros_8 rfl rfl ?_
    refine v_if_gtN (pc := 9) 17 (by omega) dJ15_numberOfTrailingZeros_9 (by decide) (fun _ => ?_) (fun h => absurd h (by decide))
    refine v_iconst (pc := 17) (nI 1) dJ15_numberOfTrailingZeros_17 (by decide) ?_
    refine v_istore_n (pc := 18) (lv' := [(1, .int (nI 1)), (0, .int (nI 63))]) dJ15_numberOfTrailingZeros_18 rfl (by decide) rfl ?_
    refine v_iload_n (pc := 19) 1 dJ15_numberOfTrailingZeros_19 rfl rfl ?_
    refine v_ldcw (pc := 20) q747 dJ15_numberOfTrailingZeros_20 ?_
    refine v_topi (v := nI 65536) (by decide) ?_
    refine v_ic_leN (pc := 23) 34 (by omega) (by omega) dJ15_numberOfTrailingZeros_23 (by decide) (fun _ => ?_) (fun h => absurd h (by decide))
    refine v_iload_n (pc := 34) 1 dJ15_numberOfTrailingZeros_34 rfl rfl ?_
    refine v_sipush (pc := 35) (nI 256) dJ15_numberOfTrailingZeros_35 (by decide) ?_
    refine v_ic_leN (pc := 38) 49 (by omega) (by omega) dJ15_numberOfTrailingZeros_38 (by decide) (fun _ => ?_) (fun h => absurd h (by decide))
    refine v_iload_n (pc := 49) 1 dJ15_numberOfTrailingZeros_49 rfl rfl ?_
    refine v_bipush (pc := 50) (nI 16) dJ15_numberOfTrailingZeros_50 (by decide) ?_
    refine v_ic_leN (pc := 52) 62 (by omega) (by omega) dJ15_numberOfTrailingZeros_52 (by decide) (fun h => absurd h (by decide)) (fun _ => ?_)
    refine v_iinc (pc := 55) (k := 0) (v := nI 5) (lv' := [(1, .int (nI 5)), (0, .int (nI 63))]) dJ15_numberOfTrailingZeros_55 rfl (by decide) (by decide) rfl ?_
    refine v_iload_n (pc := 58) 1 dJ15_numberOfTrailingZeros_58 rfl rfl ?_
    refine v_iconst (pc := 59) (nI 4) dJ15_numberOfTrailingZeros_59 (by decide) ?_
    refine v_iushr (pc := 60) dJ15_numberOfTrailingZeros_60 rfl ?_
    refine v_topi (v := nI 3) (by decide) ?_
    refine v_istore_n (pc := 61) (lv' := [(0, .int (nI 3)), (1, .int (nI 5))]) dJ15_numberOfTrailingZeros_61 rfl (by decide) rfl ?_
    refine v_iload_n (pc := 62) 0 dJ15_numberOfTrailingZeros_62 rfl rfl ?_
    refine v_iconst (pc := 63) (nI 4) dJ15_numberOfTrailingZeros_63 (by decide) ?_
    refine v_ic_leN (pc := 64) 74 (by omega) (by omega) dJ15_numberOfTrailingZeros_64 (by decide) (fun _ => ?_) (fun h => absurd h (by decide))
    refine v_iload_n (pc := 74) 1 dJ15_numberOfTrailingZeros_74 rfl rfl ?_
    refine v_iload_n (pc := 75) 0 dJ15_numberOfTrailingZeros_75 rfl rfl ?_
    refine v_iconst (pc := 76) (nI 1) dJ15_numberOfTrailingZeros_76 (by decide) ?_
    refine v_iushr (pc := 77) dJ15_numberOfTrailingZeros_77 rfl ?_
    refine v_topi (v := nI 1) (by decide) ?_
    refine v_iaddN (pc := 78) dJ15_numberOfTrailingZeros_78 ?_
    refine v_topi (v := nI 6) rfl ?_
    exact v_iret (pc := 79) hr rfl (Nat.le_refl _) (Nat.le_refl _) dJ15_numberOfTrailingZeros_79 (pI_mk (by rw [hzn]) (hC_c rfl))
  · skip
    refine v_topi (v := nI 127) (hz.trans rfl) ?_
    refine v_istore_n (pc := 7) (lv' := [(0, .int (nI 127))]) dJ15_numberOfTrailingZeros_7 rfl (by decide) rfl ?_
    refine v_iload_n (pc := 8) 0 dJ15_numberOfTrailingZeros_8 rfl rfl ?_
    refine v_if_gtN (pc := 9) 17 (by omega) dJ15_numberOfTrailingZeros_9 (by decide) (fun _ => ?_) (fun h => absurd h (by decide))
    refine v_iconst (pc := 17) (nI 1) dJ15_numberOfTrailingZeros_17 (by decide) ?_
    refine v_istore_n (pc := 18) (lv' := [(1, .int (nI 1)), (0, .int (nI 127))]) dJ15_numberOfTrailingZeros_18 rfl (by decide) rfl ?_
    refine v_iload_n (pc := 19) 1 dJ15_numberOfTrailingZeros_19 rfl rfl ?_
    refine v_ldcw (pc := 20) q747 dJ15_numberOfTrailingZeros_20 ?_
    refine v_topi (v := nI 65536) (by decide) ?_
    refine v_ic_leN (pc := 23) 34 (by omega) (by omega) dJ15_numberOfTrailingZeros_23 (by decide) (fun _ => ?_) (fun h => absurd h (by decide))
    refine v_iload_n (pc := 34) 1 dJ15_numberOfTrailingZeros_34 rfl rfl ?_
    refine v_sipush (pc := 35) (nI 256) dJ15_numberOfTrailingZeros_35 (by decide) ?_
    refine v_ic_leN (pc := 38) 49 (by omega) (by omega) dJ15_numberOfTrailingZeros_38 (by decide) (fun _ => ?_) (fun h => absurd h (by decide))
    refine v_iload_n (pc := 49) 1 dJ15_numberOfTrailingZeros_49 rfl rfl ?_
    refine v_bipush (pc := 50) (nI 16) dJ15_numberOfTrailingZeros_50 (by decide) ?_
    refine v_ic_leN (pc := 52) 62 (by omega) (by omega) dJ15_numberOfTrailingZeros_52 (by decide) (fun h => absurd h (by decide)) (fun _ => ?_)
    refine v_iinc (pc := 55) (k := 0) (v := nI 5) (lv' := [(1, .int (nI 5)), (0, .int (nI 127))]) dJ15_numberOfTrailingZeros_55 rfl (by decide) (by decide) rfl ?_
    refine v_iload_n (pc := 58) 1 dJ15_numberOfTrailingZeros_58 rfl rfl ?_
    refine v_iconst (pc := 59) (nI 4) dJ15_numberOfTrailingZeros_59 (by decide) ?_
    refine v_iushr (pc := 60) dJ15_numberOfTrailingZeros_60 rfl ?_
    refine v_topi (v := nI 7) (by decide) ?_
    refine v_istore_n (pc := 61) (lv' := [(0, .int (nI 7)), (1, .int (nI 5))]) dJ15_numberOfTrailingZeros_61 rfl (by decide) rfl ?_
    refine v_iload_n (pc := 62) 0 dJ15_numberOfTrailingZeros_62 rfl rfl ?_
    refine v_iconst (pc := 63) (nI 4) dJ15_numberOfTrailingZeros_63 (by decide) ?_
    refine v_ic_leN (pc := 64) 74 (by omega) (by omega) dJ15_numberOfTrailingZeros_64 (by decide) (fun h => absurd h (by decide)) (fun _ => ?_)
    refine v_iinc (pc := 67) (k := 1) (v := nI 7) (lv' := [(1, .int (nI 7)), (0, .int (nI 7))]) dJ15_numberOfTrailingZeros_67 rfl (by decide) (by decide) rfl ?_
    refine v_iload_n (pc := 70) 1 dJ15_numberOfTrailingZeros_70 rfl rfl ?_
    refine v_iconst (pc := 71) (nI 2) dJ15_numberOfTrailingZeros_71 (by decide) ?_
    refine v_iushr (pc := 72) dJ15_numberOfTrailingZeros_72 rfl ?_
    refine v_topi (v := nI 1) (by decide) ?_
    refine v_istore_n (pc := 73) (lv' := [(0, .int (nI 1)), (1, .int (nI 7))]) dJ15_numberOfTrailingZeros_73 rfl (by decide) rfl ?_
    refine v_iload_n (pc := 74) 1 dJ15_numberOfTrailingZeros_74 rfl rfl ?_
    refine v_iload_n (pc := 75) 0 dJ15_numberOfTrailingZeros_75 rfl rfl ?_
    refine v_iconst (pc := 76) (nI 1) dJ15_numberOfTrailingZeros_76 (by decide) ?_
    refine v_iushr (pc := 77) dJ15_numberOfTrailingZeros_77 rfl ?_
    refine v_topi (v := nI 0) (by decide) ?_
    refine v_iaddN (pc := 78) dJ15_numberOfTrailingZeros_78 ?_
    refine v_topi (v := nI 7) rfl ?_
    exact v_iret (pc := 79) hr rfl (Nat.le_refl _) (Nat.le_refl _) dJ15_numberOfTrailingZeros_79 (pI_mk (by rw [hzn]) (hC_c rfl))

set_option maxHeartbeats 4000000 in
theorem ct_J14_numberOfTrailingZeros {G : GT} {l : Launch} {N : Nat} {S : ST} {w : Nat} (h0 : 0 < w) (hw8 : w < 256) : CTi G l yJ14_numberOfTrailingZeros cJ14_numberOfTrailingZeros 3 (some .int) 1 [.long (lN w)] N (S) (nI (ntz w)) (S) := by
  refine CT.mk "java/lang/Long" [(0, .long (lN w))] rfl (by decide) rfl (Nat.le_of_ble_eq_true rfl) ?_
  intro x hR hl hr hnm
  refine v_lload_n (pc := 0) 0 dJ14_numberOfTrailingZeros_0 rfl rfl ?_
  refine v_l2i (pc := 1) dJ14_numberOfTrailingZeros_1 rfl ?_
  refine v_topi (v := nI w) (lN_i w) ?_
  refine v_istore_n (pc := 2) (lv' := [(2, .int (nI w)), (0, .long (lN w))]) dJ14_numberOfTrailingZeros_2 rfl (by decide) rfl ?_
  refine v_iload_n (pc := 3) 0 dJ14_numberOfTrailingZeros_3 rfl rfl ?_
  refine v_if_neN (pc := 4) 21 (by omega) dJ14_numberOfTrailingZeros_4 (by decide) (fun c1 => ?_) (fun c1 => ?_)
  · skip
    refine v_iload_n (pc := 21) 0 dJ14_numberOfTrailingZeros_21 rfl rfl ?_
    refine c_callSi (pc := 22) (st := []) (ct_J15_numberOfTrailingZeros (S := S) (w := w) (by omega) (by omega)) kVJ14_311 kDJ14_311 (rm_ok hR (Nat.le_of_ble_eq_true rfl) (Nat.le_of_ble_eq_true rfl)) ⟨Nat.zero_le _, Nat.zero_le _⟩ rfl rfl (Nat.le_of_ble_eq_true rfl) dJ14_numberOfTrailingZeros_22 ?_
    exact v_iret (pc := 25) hr rfl (Nat.le_refl _) (Nat.le_refl _) dJ14_numberOfTrailingZeros_25 (pI_mk rfl (hC_c rfl))
  · skip
    exact absurd c1 (by omega)

/-- the bits from f on -/
def bfr (v f : Nat) : Nat := (v >>> f) <<< f
theorem bs_fr {v f : Nat} (hv : v < 256) (hf : f < 9) : lN v &&& ((-1 : Int64) <<< ((nI f).toInt64 &&& 63)) = lN (bfr v f) ∧ bfr v f < 256 := by
  have : ∀ v : Fin 256, ∀ f : Fin 9, lN v.val &&& ((-1 : Int64) <<< ((nI f.val).toInt64 &&& 63)) = lN (bfr v.val f.val) ∧ bfr v.val f.val < 256 := by decide +kernel
  exact this ⟨v, hv⟩ ⟨f, hf⟩
/-- the next bit from f on, or -1 -/
def nsb (v f : Nat) : Int32 := if bfr v f = 0 then (-1) else nI (ntz (bfr v f))
theorem bfr_0 (f : Nat) : bfr 0 f = 0 := by unfold bfr; simp
set_option maxHeartbeats 4000000 in
theorem ct_J0_nextSetBit {G : GT} {l : Launch} {N : Nat} {S : ST} {k v f : Nat} (hb : BC k) (hv : BS S k v) (hf : f < 9) (hN : k + 1 < N) : CTi G l yJ0_nextSetBit cJ0_nextSetBit 5 (some .int) 2 [.ref (gZ G + k), .int (nI f)] N (S) (nsb v f) (S) := by
  obtain ⟨hvE, hv8, hwE⟩ := hv
  have hw1 := wi_le v
  refine CT.mk "java/util/BitSet" [(0, .ref (gZ G + k)), (1, .int (nI f))] rfl (by decide) rfl (Nat.le_of_ble_eq_true rfl) ?_
  intro x hR hl hr hnm
  refine v_iload_n (pc := 0) 1 dJ0_nextSetBit_0 rfl rfl ?_
  refine v_if_geN (pc := 1) 31 (by omega) dJ0_nextSetBit_1 (by decide) ?_
  refine v_aload_n (pc := 31) 0 dJ0_nextSetBit_31 rfl rfl ?_
  refine c_callVv (pc := 32) (st := []) (ci := 6) (ct_J0_checkInvariants (S := S) (k := k) hb (by omega)) kVJ0_56 kDJ0_56 (rm_ok hR (Nat.le_of_ble_eq_true rfl) (Nat.le_of_ble_eq_true rfl)) ⟨Nat.zero_le _, Nat.zero_le _⟩ (by omega) (hb G _).1 rfl rfl rfl rfl (Nat.le_of_ble_eq_true rfl) dJ0_nextSetBit_32 ?_
  refine v_iload_n (pc := 35) 1 dJ0_nextSetBit_35 rfl rfl ?_
  refine c_callSi (pc := 36) (st := []) (ct_J0_wordIndex (S := S) (t := f) (by omega)) kVJ0_52 kDJ0_52 (rm_ok hR (Nat.le_of_ble_eq_true rfl) (Nat.le_of_ble_eq_true rfl)) ⟨Nat.zero_le _, Nat.zero_le _⟩ rfl rfl (Nat.le_of_ble_eq_true rfl) dJ0_nextSetBit_36 ?_
  refine v_istore_n (pc := 39) (lv' := [(2, .int (nI 0)), (0, .ref (gZ G + k)), (1, .int (nI f))]) dJ0_nextSetBit_39 rfl (by decide) rfl ?_
  refine v_iload_n (pc := 40) 0 dJ0_nextSetBit_40 rfl rfl ?_
  refine v_aload_n (pc := 41) 1 dJ0_nextSetBit_41 rfl rfl ?_
  refine gJ0_7 (pc := 42) hb hN dJ0_nextSetBit_42 ?_
  refine v_topi (v := nI (wi v)) hwE ?_
  refine v_ic_ltN (pc := 45) 50 (by omega) (by omega) dJ0_nextSetBit_45 (by decide) (fun c1 => ?_) (fun c1 => ?_)
  · skip
    refine v_aload_n (pc := 50) 1 dJ0_nextSetBit_50 rfl rfl ?_
    refine gJ0_11 (pc := 51) hb hN dJ0_nextSetBit_51 ?_
    refine v_iload_n (pc := 54) 0 dJ0_nextSetBit_54 rfl rfl ?_
    refine c_lald (pc := 55) (k := k) (v := v) hb (by omega) rfl hvE (by omega) dJ0_nextSetBit_55 ?_
    refine v_ldc2 (pc := 56) q740 dJ0_nextSetBit_56 ?_
    refine v_iload_n (pc := 59) 2 dJ0_nextSetBit_59 rfl rfl ?_
    refine v_lshl (pc := 60) dJ0_nextSetBit_60 rfl ?_
    refine v_land (pc := 61) dJ0_nextSetBit_61 ?_
    refine v_topl (v := lN (bfr v f)) (bs_fr hv8 hf).1 ?_
    refine v_lstore_n (pc := 62) (lv' := [(3, .long (lN (bfr v f))), (2, .int (nI 0)), (0, .ref (gZ G + k)), (1, .int (nI f))]) dJ0_nextSetBit_62 rfl (by decide) rfl ?_
    refine v_lload_n (pc := 63) 0 dJ0_nextSetBit_63 rfl rfl ?_
    refine v_lconst (pc := 64) (lN 0) dJ0_nextSetBit_64 rfl ?_
    refine v_lcmp (pc := 65) dJ0_nextSetBit_65 rfl ?_
    refine v_if_eq (pc := 66) 79 dJ0_nextSetBit_66 (by decide) (fun c2 => ?_) (fun c2 => ?_)
    · skip
      refine v_iincN (pc := 79) (k := 1) (lv' := [(2, .int (nI (0 + 1))), (3, .long (lN (bfr v f))), (0, .ref (gZ G + k)), (1, .int (nI f))]) dJ0_nextSetBit_79 rfl (by decide) rfl ?_
      refine v_iload_n (pc := 82) 0 dJ0_nextSetBit_82 rfl rfl ?_
      refine v_aload_n (pc := 83) 2 dJ0_nextSetBit_83 rfl rfl ?_
      refine gJ0_7 (pc := 84) hb hN dJ0_nextSetBit_84 ?_
      refine v_topi (v := nI (wi v)) hwE ?_
      refine v_ic_neN (pc := 87) 92 (by omega) (by omega) dJ0_nextSetBit_87 (by decide) (fun c3 => ?_) (fun c3 => ?_)
      · skip
        exact absurd c3 (by omega)
      · skip
        refine v_iconst (pc := 90) ((-1)) dJ0_nextSetBit_90 (by decide) ?_
        exact v_iret (pc := 91) hr rfl (Nat.le_refl _) (Nat.le_refl _) dJ0_nextSetBit_91 (pI_mk (by unfold nsb; rw [if_pos ((bs_z (bs_fr hv8 hf).2).mp c2)]) (hC_c rfl))
    · skip
      refine v_iload_n (pc := 69) 1 dJ0_nextSetBit_69 rfl rfl ?_
      refine v_bipush (pc := 70) (nI 64) dJ0_nextSetBit_70 (by decide) ?_
      refine v_imulN (pc := 72) dJ0_nextSetBit_72 ?_
      refine v_topi (v := nI 0) rfl ?_
      refine v_lload_n (pc := 73) 0 dJ0_nextSetBit_73 rfl rfl ?_
      refine c_callSi (pc := 74) (st := [.int (nI 0)]) (ct_J14_numberOfTrailingZeros (S := S) (w := bfr v f) (Nat.pos_of_ne_zero (fun z => c2 ((bs_z (bs_fr hv8 hf).2).mpr z))) (bs_fr hv8 hf).2) kVJ0_182 kDJ0_182 (rm_ok hR (Nat.le_of_ble_eq_true rfl) (Nat.le_of_ble_eq_true rfl)) ⟨Nat.zero_le _, Nat.zero_le _⟩ rfl rfl (Nat.le_of_ble_eq_true rfl) dJ0_nextSetBit_74 ?_
      refine v_iaddN (pc := 77) dJ0_nextSetBit_77 ?_
      refine v_topi (v := nI (ntz (bfr v f))) (by rw [Nat.zero_add]) ?_
      exact v_iret (pc := 78) hr rfl (Nat.le_refl _) (Nat.le_refl _) dJ0_nextSetBit_78 (pI_mk (by unfold nsb; rw [if_neg (fun z => c2 ((bs_z (bs_fr hv8 hf).2).mpr z))]) (hC_c rfl))
  · skip
    refine v_iconst (pc := 48) ((-1)) dJ0_nextSetBit_48 (by decide) ?_
    exact v_iret (pc := 49) hr rfl (Nat.le_refl _) (Nat.le_refl _) dJ0_nextSetBit_49 (pI_mk (by obtain rfl := wi_0 (show wi v = 0 by omega); unfold nsb; rw [if_pos (bfr_0 f)]) (hC_c rfl))

