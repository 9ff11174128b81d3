set_option maxRecDepth 100000
/-! Math.min, BitSet.or, cardinality, Arrays.fill: walks -/
set_option maxHeartbeats 4000000 in
theorem ct_J0_or_0 {G : GT} {l : Launch} {N : Nat} {S : ST} {k q : Nat} (hb : BC k) (hq : BC q) (hv : BS S k 0) (hkq : k ≠ q) (hkq2 : k + 1 ≠ q) (hqk2 : q + 1 ≠ k) (hN : k + 1 < N) (hN2 : q + 1 < N) (hxE : S q 1 = nI 0) : CTv G l yJ0_or cJ0_or 4 none 1 [.ref (gZ G + k), .ref (gZ G + q)] N (S) (S) := by
  obtain ⟨hvE, -, hwE⟩ := hv
  have hwE : S k 1 = nI 0 := hwE
  refine CT.mk "java/util/BitSet" [(0, .ref (gZ G + k)), (1, .ref (gZ G + q))] rfl (by decide) rfl (Nat.le_of_ble_eq_true rfl) ?_
  intro x hR hl hr hnm
  refine v_aload_n (pc := 0) 0 dJ0_or_0 rfl rfl ?_
  refine v_aload_n (pc := 1) 1 dJ0_or_1 rfl rfl ?_
  refine v_acmp_neT (pc := 2) 6 (by omega) dJ0_or_2 (by decide) ?_
  refine v_aload_n (pc := 6) 0 dJ0_or_6 rfl rfl ?_
  refine gJ0_7 (pc := 7) hb (by omega) dJ0_or_7 ?_
  refine v_topi (v := nI 0) hwE ?_
  refine v_aload_n (pc := 10) 1 dJ0_or_10 rfl rfl ?_
  refine gJ0_7 (pc := 11) hq (by omega) dJ0_or_11 ?_
  refine v_topi (v := nI 0) hxE ?_
  refine v_mmin (pc := 14) q680 (by rw [hR]; decide) (by rw [hR]; exact Nat.le_of_ble_eq_true rfl) (Nat.zero_le _) (Nat.zero_le _) dJ0_or_14 ?_
  refine v_topi (v := nI 0) (by rw [minI_N (by decide) (by decide)]; rfl) ?_
  refine v_istore_n (pc := 17) (lv' := [(2, .int (nI 0)), (0, .ref (gZ G + k)), (1, .ref (gZ G + q))]) dJ0_or_17 rfl (by decide) rfl ?_
  refine v_aload_n (pc := 18) 1 dJ0_or_18 rfl rfl ?_
  refine gJ0_7 (pc := 19) hb (by omega) dJ0_or_19 ?_
  refine v_topi (v := nI 0) hwE ?_
  refine v_aload_n (pc := 22) 2 dJ0_or_22 rfl rfl ?_
  refine gJ0_7 (pc := 23) hq (by omega) dJ0_or_23 ?_
  refine v_topi (v := nI 0) hxE ?_
  refine v_ic_geN (pc := 26) 45 (by omega) (by omega) dJ0_or_26 (by decide) (fun _ => ?_) (fun h => absurd h (by omega))
  refine v_iconst (pc := 45) (nI 0) dJ0_or_45 (by decide) ?_
  refine v_istore_n (pc := 46) (lv' := [(3, .int (nI 0)), (2, .int (nI 0)), (0, .ref (gZ G + k)), (1, .ref (gZ G + q))]) dJ0_or_46 rfl (by decide) rfl ?_
  refine v_iload_n (pc := 47) 0 dJ0_or_47 rfl rfl ?_
  refine v_iload_n (pc := 48) 1 dJ0_or_48 rfl rfl ?_
  refine v_ic_geN (pc := 49) 73 (by omega) (by omega) dJ0_or_49 (by decide) (fun _ => ?_) (fun h => absurd h (by omega))
  refine v_iload_n (pc := 73) 1 dJ0_or_73 rfl rfl ?_
  refine v_aload_n (pc := 74) 3 dJ0_or_74 rfl rfl ?_
  refine gJ0_7 (pc := 75) hq (by omega) dJ0_or_75 ?_
  refine v_topi (v := nI 0) hxE ?_
  refine v_ic_geN (pc := 78) 100 (by omega) (by omega) dJ0_or_78 (by decide) (fun _ => ?_) (fun h => absurd h (by omega))
  refine v_aload_n (pc := 100) 2 dJ0_or_100 rfl rfl ?_
  refine c_callVv (pc := 101) (st := []) (ci := 6) (ct_J0_checkInvariants (S := S) (k := k) hb (by omega)) kVJ0_56 kDJ0_56 (rm_ok hR (Nat.le_of_ble_eq_true rfl) (Nat.le_of_ble_eq_true rfl)) ⟨Nat.zero_le _, Nat.zero_le _⟩ (by omega) (hb G _).1 rfl rfl rfl rfl (Nat.le_of_ble_eq_true rfl) dJ0_or_101 ?_
  exact v_vret (pc := 104) hr (Nat.le_refl _) (Nat.le_refl _) dJ0_or_104 (pV_mk (hC_c rfl))

set_option maxHeartbeats 4000000 in
theorem ct_J0_or_1 {G : GT} {l : Launch} {N : Nat} {S : ST} {k q v : Nat} (hb : BC k) (hq : BC q) (hv : BS S k 0) (hkq : k ≠ q) (hkq2 : k + 1 ≠ q) (hqk2 : q + 1 ≠ k) (hN : k + 1 < N) (hN2 : q + 1 < N) (huE : S (q + 1) 0 = nI v) (hxE : S q 1 = nI 1) : CTv G l yJ0_or cJ0_or 4 none 1 [.ref (gZ G + k), .ref (gZ G + q)] N (S) (s2 (s2 S k 1 (nI 1)) (k + 1) 0 (nI v)) := by
  obtain ⟨hvE, -, hwE⟩ := hv
  have hwE : S k 1 = nI 0 := hwE
  refine CT.mk "java/util/BitSet" [(0, .ref (gZ G + k)), (1, .ref (gZ G + q))] rfl (by decide) rfl (Nat.le_of_ble_eq_true rfl) ?_
  intro x hR hl hr hnm
  refine v_aload_n (pc := 0) 0 dJ0_or_0 rfl rfl ?_
  refine v_aload_n (pc := 1) 1 dJ0_or_1 rfl rfl ?_
  refine v_acmp_neT (pc := 2) 6 (by omega) dJ0_or_2 (by decide) ?_
  refine v_aload_n (pc := 6) 0 dJ0_or_6 rfl rfl ?_
  refine gJ0_7 (pc := 7) hb (by omega) dJ0_or_7 ?_
  refine v_topi (v := nI 0) hwE ?_
  refine v_aload_n (pc := 10) 1 dJ0_or_10 rfl rfl ?_
  refine gJ0_7 (pc := 11) hq (by omega) dJ0_or_11 ?_
  refine v_topi (v := nI 1) hxE ?_
  refine v_mmin (pc := 14) q680 (by rw [hR]; decide) (by rw [hR]; exact Nat.le_of_ble_eq_true rfl) (Nat.zero_le _) (Nat.zero_le _) dJ0_or_14 ?_
  refine v_topi (v := nI 0) (by rw [minI_N (by decide) (by decide)]; rfl) ?_
  refine v_istore_n (pc := 17) (lv' := [(2, .int (nI 0)), (0, .ref (gZ G + k)), (1, .ref (gZ G + q))]) dJ0_or_17 rfl (by decide) rfl ?_
  refine v_aload_n (pc := 18) 1 dJ0_or_18 rfl rfl ?_
  refine gJ0_7 (pc := 19) hb (by omega) dJ0_or_19 ?_
  refine v_topi (v := nI 0) hwE ?_
  refine v_aload_n (pc := 22) 2 dJ0_or_22 rfl rfl ?_
  refine gJ0_7 (pc := 23) hq (by omega) dJ0_or_23 ?_
  refine v_topi (v := nI 1) hxE ?_
  refine v_ic_geN (pc := 26) 45 (by omega) (by omega) dJ0_or_26 (by decide) (fun h => absurd h (by decide)) (fun _ => ?_)
  refine v_aload_n (pc := 29) 1 dJ0_or_29 rfl rfl ?_
  refine v_aload_n (pc := 30) 2 dJ0_or_30 rfl rfl ?_
  refine gJ0_7 (pc := 31) hq (by omega) dJ0_or_31 ?_
  refine v_topi (v := nI 1) hxE ?_
  refine c_callVv (pc := 34) (st := []) (ci := 6) (ct_J0_ensureCapacity (S := S) (k := k) hb (by omega)) kVJ0_139 kDJ0_139 (rm_ok hR (Nat.le_of_ble_eq_true rfl) (Nat.le_of_ble_eq_true rfl)) ⟨Nat.zero_le _, Nat.zero_le _⟩ (by omega) (hb G _).1 rfl rfl rfl rfl (Nat.le_of_ble_eq_true rfl) dJ0_or_34 ?_
  refine v_aload_n (pc := 37) 1 dJ0_or_37 rfl rfl ?_
  refine v_aload_n (pc := 38) 2 dJ0_or_38 rfl rfl ?_
  refine gJ0_7 (pc := 39) hq (by omega) dJ0_or_39 ?_
  refine v_topi (v := nI 1) hxE ?_
  refine pJ0_7 (pc := 42) hb (by omega) dJ0_or_42 ?_
  refine v_iconst (pc := 45) (nI 0) dJ0_or_45 (by decide) ?_
  refine v_istore_n (pc := 46) (lv' := [(3, .int (nI 0)), (2, .int (nI 0)), (0, .ref (gZ G + k)), (1, .ref (gZ G + q))]) dJ0_or_46 rfl (by decide) rfl ?_
  refine v_iload_n (pc := 47) 0 dJ0_or_47 rfl rfl ?_
  refine v_iload_n (pc := 48) 1 dJ0_or_48 rfl rfl ?_
  refine v_ic_geN (pc := 49) 73 (by omega) (by omega) dJ0_or_49 (by decide) (fun _ => ?_) (fun h => absurd h (by omega))
  refine v_iload_n (pc := 73) 1 dJ0_or_73 rfl rfl ?_
  refine v_aload_n (pc := 74) 3 dJ0_or_74 rfl rfl ?_
  refine gJ0_7 (pc := 75) hq (by omega) dJ0_or_75 ?_
  refine v_topi (v := nI 1) ((congrFun (s2_nk (by omega)) _).trans hxE) ?_
  refine v_ic_geN (pc := 78) 100 (by omega) (by omega) dJ0_or_78 (by decide) (fun h => absurd h (by decide)) (fun _ => ?_)
  refine v_aload_n (pc := 81) 3 dJ0_or_81 rfl rfl ?_
  refine gJ0_11 (pc := 82) hq (by omega) dJ0_or_82 ?_
  refine v_iload_n (pc := 85) 1 dJ0_or_85 rfl rfl ?_
  refine v_aload_n (pc := 86) 2 dJ0_or_86 rfl rfl ?_
  refine gJ0_11 (pc := 87) hb (by omega) dJ0_or_87 ?_
  refine v_iload_n (pc := 90) 1 dJ0_or_90 rfl rfl ?_
  refine v_aload_n (pc := 91) 2 dJ0_or_91 rfl rfl ?_
  refine gJ0_7 (pc := 92) hb (by omega) dJ0_or_92 ?_
  refine v_topi (v := nI 1) (s2_at _ _ _ _) ?_
  refine v_iload_n (pc := 95) 1 dJ0_or_95 rfl rfl ?_
  refine v_isubN (pc := 96) (by omega) dJ0_or_96 ?_
  refine v_topi (v := nI 1) rfl ?_
  refine c_copyw (pc := 97) (k := k) (q := q) (v := v) hb hq q681 (by omega) (by omega) ((congrFun (s2_nk (by omega)) _).trans huE) (by rw [hR]; decide) (by rw [hR]; decide) dJ0_or_97 ?_
  refine v_aload_n (pc := 100) 2 dJ0_or_100 rfl rfl ?_
  refine c_callVv (pc := 101) (st := []) (ci := 6) (ct_J0_checkInvariants (S := s2 (s2 S k 1 (nI 1)) (k + 1) 0 (nI v)) (k := k) hb (by omega)) kVJ0_56 kDJ0_56 (rm_ok hR (Nat.le_of_ble_eq_true rfl) (Nat.le_of_ble_eq_true rfl)) ⟨Nat.zero_le _, Nat.zero_le _⟩ (by omega) (hb G _).1 rfl rfl rfl rfl (Nat.le_of_ble_eq_true rfl) dJ0_or_101 ?_
  exact v_vret (pc := 104) hr (Nat.le_refl _) (Nat.le_refl _) dJ0_or_104 (pV_mk (hC_c rfl))

theorem ct_J0_or {G : GT} {l : Launch} {N : Nat} {S : ST} {k q v : Nat} (hb : BC k) (hq : BC q) (hv : BS S k 0) (hu : BS S q v) (hkq : k ≠ q) (hkq2 : k + 1 ≠ q) (hqk2 : q + 1 ≠ k) (hN : k + 1 < N) (hN2 : q + 1 < N) : CTv G l yJ0_or cJ0_or 4 none 1 [.ref (gZ G + k), .ref (gZ G + q)] N S (bset S k v) := by
  by_cases h0 : v = 0
  · subst h0
    have h := ct_J0_or_0 (G := G) (l := l) hb hq hv hkq hkq2 hqk2 hN hN2 hu.2.2
    rw [bset_id hv]
    exact h
  · have h := ct_J0_or_1 (G := G) (l := l) hb hq hv hkq hkq2 hqk2 hN hN2 hu.1 (hu.2.2.trans (by rw [wi_1 h0]))
    unfold bset
    rw [wi_1 h0]
    exact h
theorem bc_fin : ∀ w : Fin 256, ((((((((((lN w.val) - ((((lN w.val).toUInt64 >>> (((nI 1).toInt64).toUInt64 &&& Int64.toUInt64 63)).toInt64) &&& ((6148914691236517205 : Int64)))) &&& ((3689348814741910323 : Int64))) + (((((lN w.val) - ((((lN w.val).toUInt64 >>> (((nI 1).toInt64).toUInt64 &&& Int64.toUInt64 63)).toInt64) &&& ((6148914691236517205 : Int64)))).toUInt64 >>> (((nI 2).toInt64).toUInt64 &&& Int64.toUInt64 63)).toInt64) &&& ((3689348814741910323 : Int64)))) + ((((((lN w.val) - ((((lN w.val).toUInt64 >>> (((nI 1).toInt64).toUInt64 &&& Int64.toUInt64 63)).toInt64) &&& ((6148914691236517205 : Int64)))) &&& ((3689348814741910323 : Int64))) + (((((lN w.val) - ((((lN w.val).toUInt64 >>> (((nI 1).toInt64).toUInt64 &&& Int64.toUInt64 63)).toInt64) &&& ((6148914691236517205 : Int64)))).toUInt64 >>> (((nI 2).toInt64).toUInt64 &&& Int64.toUInt64 63)).toInt64) &&& ((3689348814741910323 : Int64)))).toUInt64 >>> (((nI 4).toInt64).toUInt64 &&& Int64.toUInt64 63)).toInt64)) &&& ((1085102592571150095 : Int64))) + ((((((((lN w.val) - ((((lN w.val).toUInt64 >>> (((nI 1).toInt64).toUInt64 &&& Int64.toUInt64 63)).toInt64) &&& ((6148914691236517205 : Int64)))) &&& ((3689348814741910323 : Int64))) + (((((lN w.val) - ((((lN w.val).toUInt64 >>> (((nI 1).toInt64).toUInt64 &&& Int64.toUInt64 63)).toInt64) &&& ((6148914691236517205 : Int64)))).toUInt64 >>> (((nI 2).toInt64).toUInt64 &&& Int64.toUInt64 63)).toInt64) &&& ((3689348814741910323 : Int64)))) + ((((((lN w.val) - ((((lN w.val).toUInt64 >>> (((nI 1).toInt64).toUInt64 &&& Int64.toUInt64 63)).toInt64) &&& ((6148914691236517205 : Int64)))) &&& ((3689348814741910323 : Int64))) + (((((lN w.val) - ((((lN w.val).toUInt64 >>> (((nI 1).toInt64).toUInt64 &&& Int64.toUInt64 63)).toInt64) &&& ((6148914691236517205 : Int64)))).toUInt64 >>> (((nI 2).toInt64).toUInt64 &&& Int64.toUInt64 63)).toInt64) &&& ((3689348814741910323 : Int64)))).toUInt64 >>> (((nI 4).toInt64).toUInt64 &&& Int64.toUInt64 63)).toInt64)) &&& ((1085102592571150095 : Int64))).toUInt64 >>> (((nI 8).toInt64).toUInt64 &&& Int64.toUInt64 63)).toInt64)) + (((((((((lN w.val) - ((((lN w.val).toUInt64 >>> (((nI 1).toInt64).toUInt64 &&& Int64.toUInt64 63)).toInt64) &&& ((6148914691236517205 : Int64)))) &&& ((3689348814741910323 : Int64))) + (((((lN w.val) - ((((lN w.val).toUInt64 >>> (((nI 1).toInt64).toUInt64 &&& Int64.toUInt64 63)).toInt64) &&& ((6148914691236517205 : Int64)))).toUInt64 >>> (((nI 2).toInt64).toUInt64 &&& Int64.toUInt64 63)).toInt64) &&& ((3689348814741910323 : Int64)))) + ((((((lN w.val) - ((((lN w.val).toUInt64 >>> (((nI 1).toInt64).toUInt64 &&& Int64.toUInt64 63)).toInt64) &&& ((6148914691236517205 : Int64)))) &&& ((3689348814741910323 : Int64))) + (((((lN w.val) - ((((lN w.val).toUInt64 >>> (((nI 1).toInt64).toUInt64 &&& Int64.toUInt64 63)).toInt64) &&& ((6148914691236517205 : Int64)))).toUInt64 >>> (((nI 2).toInt64).toUInt64 &&& Int64.toUInt64 63)).toInt64) &&& ((3689348814741910323 : Int64)))).toUInt64 >>> (((nI 4).toInt64).toUInt64 &&& Int64.toUInt64 63)).toInt64)) &&& ((1085102592571150095 : Int64))) + ((((((((lN w.val) - ((((lN w.val).toUInt64 >>> (((nI 1).toInt64).toUInt64 &&& Int64.toUInt64 63)).toInt64) &&& ((6148914691236517205 : Int64)))) &&& ((3689348814741910323 : Int64))) + (((((lN w.val) - ((((lN w.val).toUInt64 >>> (((nI 1).toInt64).toUInt64 &&& Int64.toUInt64 63)).toInt64) &&& ((6148914691236517205 : Int64)))).toUInt64 >>> (((nI 2).toInt64).toUInt64 &&& Int64.toUInt64 63)).toInt64) &&& ((3689348814741910323 : Int64)))) + ((((((lN w.val) - ((((lN w.val).toUInt64 >>> (((nI 1).toInt64).toUInt64 &&& Int64.toUInt64 63)).toInt64) &&& ((6148914691236517205 : Int64)))) &&& ((3689348814741910323 : Int64))) + (((((lN w.val) - ((((lN w.val).toUInt64 >>> (((nI 1).toInt64).toUInt64 &&& Int64.toUInt64 63)).toInt64) &&& ((6148914691236517205 : Int64)))).toUInt64 >>> (((nI 2).toInt64).toUInt64 &&& Int64.toUInt64 63)).toInt64) &&& ((3689348814741910323 : Int64)))).toUInt64 >>> (((nI 4).toInt64).toUInt64 &&& Int64.toUInt64 63)).toInt64)) &&& ((1085102592571150095 : Int64))).toUInt64 >>> (((nI 8).toInt64).toUInt64 &&& Int64.toUInt64 63)).toInt64)).toUInt64 >>> (((nI 16).toInt64).toUInt64 &&& Int64.toUInt64 63)).toInt64)) + ((((((((((lN w.val) - ((((lN w.val).toUInt64 >>> (((nI 1).toInt64).toUInt64 &&& Int64.toUInt64 63)).toInt64) &&& ((6148914691236517205 : Int64)))) &&& ((3689348814741910323 : Int64))) + (((((lN w.val) - ((((lN w.val).toUInt64 >>> (((nI 1).toInt64).toUInt64 &&& Int64.toUInt64 63)).toInt64) &&& ((6148914691236517205 : Int64)))).toUInt64 >>> (((nI 2).toInt64).toUInt64 &&& Int64.toUInt64 63)).toInt64) &&& ((3689348814741910323 : Int64)))) + ((((((lN w.val) - ((((lN w.val).toUInt64 >>> (((nI 1).toInt64).toUInt64 &&& Int64.toUInt64 63)).toInt64) &&& ((6148914691236517205 : Int64)))) &&& ((3689348814741910323 : Int64))) + (((((lN w.val) - ((((lN w.val).toUInt64 >>> (((nI 1).toInt64).toUInt64 &&& Int64.toUInt64 63)).toInt64) &&& ((6148914691236517205 : Int64)))).toUInt64 >>> (((nI 2).toInt64).toUInt64 &&& Int64.toUInt64 63)).toInt64) &&& ((3689348814741910323 : Int64)))).toUInt64 >>> (((nI 4).toInt64).toUInt64 &&& Int64.toUInt64 63)).toInt64)) &&& ((1085102592571150095 : Int64))) + ((((((((lN w.val) - ((((lN w.val).toUInt64 >>> (((nI 1).toInt64).toUInt64 &&& Int64.toUInt64 63)).toInt64) &&& ((6148914691236517205 : Int64)))) &&& ((3689348814741910323 : Int64))) + (((((lN w.val) - ((((lN w.val).toUInt64 >>> (((nI 1).toInt64).toUInt64 &&& Int64.toUInt64 63)).toInt64) &&& ((6148914691236517205 : Int64)))).toUInt64 >>> (((nI 2).toInt64).toUInt64 &&& Int64.toUInt64 63)).toInt64) &&& ((3689348814741910323 : Int64)))) + ((((((lN w.val) - ((((lN w.val).toUInt64 >>> (((nI 1).toInt64).toUInt64 &&& Int64.toUInt64 63)).toInt64) &&& ((6148914691236517205 : Int64)))) &&& ((3689348814741910323 : Int64))) + (((((lN w.val) - ((((lN w.val).toUInt64 >>> (((nI 1).toInt64).toUInt64 &&& Int64.toUInt64 63)).toInt64) &&& ((6148914691236517205 : Int64)))).toUInt64 >>> (((nI 2).toInt64).toUInt64 &&& Int64.toUInt64 63)).toInt64) &&& ((3689348814741910323 : Int64)))).toUInt64 >>> (((nI 4).toInt64).toUInt64 &&& Int64.toUInt64 63)).toInt64)) &&& ((1085102592571150095 : Int64))).toUInt64 >>> (((nI 8).toInt64).toUInt64 &&& Int64.toUInt64 63)).toInt64)) + (((((((((lN w.val) - ((((lN w.val).toUInt64 >>> (((nI 1).toInt64).toUInt64 &&& Int64.toUInt64 63)).toInt64) &&& ((6148914691236517205 : Int64)))) &&& ((3689348814741910323 : Int64))) + (((((lN w.val) - ((((lN w.val).toUInt64 >>> (((nI 1).toInt64).toUInt64 &&& Int64.toUInt64 63)).toInt64) &&& ((6148914691236517205 : Int64)))).toUInt64 >>> (((nI 2).toInt64).toUInt64 &&& Int64.toUInt64 63)).toInt64) &&& ((3689348814741910323 : Int64)))) + ((((((lN w.val) - ((((lN w.val).toUInt64 >>> (((nI 1).toInt64).toUInt64 &&& Int64.toUInt64 63)).toInt64) &&& ((6148914691236517205 : Int64)))) &&& ((3689348814741910323 : Int64))) + (((((lN w.val) - ((((lN w.val).toUInt64 >>> (((nI 1).toInt64).toUInt64 &&& Int64.toUInt64 63)).toInt64) &&& ((6148914691236517205 : Int64)))).toUInt64 >>> (((nI 2).toInt64).toUInt64 &&& Int64.toUInt64 63)).toInt64) &&& ((3689348814741910323 : Int64)))).toUInt64 >>> (((nI 4).toInt64).toUInt64 &&& Int64.toUInt64 63)).toInt64)) &&& ((1085102592571150095 : Int64))) + ((((((((lN w.val) - ((((lN w.val).toUInt64 >>> (((nI 1).toInt64).toUInt64 &&& Int64.toUInt64 63)).toInt64) &&& ((6148914691236517205 : Int64)))) &&& ((3689348814741910323 : Int64))) + (((((lN w.val) - ((((lN w.val).toUInt64 >>> (((nI 1).toInt64).toUInt64 &&& Int64.toUInt64 63)).toInt64) &&& ((6148914691236517205 : Int64)))).toUInt64 >>> (((nI 2).toInt64).toUInt64 &&& Int64.toUInt64 63)).toInt64) &&& ((3689348814741910323 : Int64)))) + ((((((lN w.val) - ((((lN w.val).toUInt64 >>> (((nI 1).toInt64).toUInt64 &&& Int64.toUInt64 63)).toInt64) &&& ((6148914691236517205 : Int64)))) &&& ((3689348814741910323 : Int64))) + (((((lN w.val) - ((((lN w.val).toUInt64 >>> (((nI 1).toInt64).toUInt64 &&& Int64.toUInt64 63)).toInt64) &&& ((6148914691236517205 : Int64)))).toUInt64 >>> (((nI 2).toInt64).toUInt64 &&& Int64.toUInt64 63)).toInt64) &&& ((3689348814741910323 : Int64)))).toUInt64 >>> (((nI 4).toInt64).toUInt64 &&& Int64.toUInt64 63)).toInt64)) &&& ((1085102592571150095 : Int64))).toUInt64 >>> (((nI 8).toInt64).toUInt64 &&& Int64.toUInt64 63)).toInt64)).toUInt64 >>> (((nI 16).toInt64).toUInt64 &&& Int64.toUInt64 63)).toInt64)).toUInt64 >>> (((nI 32).toInt64).toUInt64 &&& Int64.toUInt64 63)).toInt64)).toInt32) &&& (nI 127) = nI (pcn w.val) := by decide +kernel
set_option maxHeartbeats 4000000 in
theorem ct_J14_bitCount {G : GT} {l : Launch} {N : Nat} {S : ST} {w : Nat} (hw8 : w < 256) : CTi G l yJ14_bitCount cJ14_bitCount 2 (some .int) 0 [.long (lN w)] N (S) (nI (pcn w)) (S) := by
  refine CT.mk "java/lang/Long" [(0, .long (lN w))] rfl (by decide) rfl (Nat.le_of_ble_eq_true rfl) ?_
  intro x hR hl hr hnm
  refine v_lload_n (pc := 0) 0 dJ14_bitCount_0 rfl rfl ?_
  refine v_lload_n (pc := 1) 0 dJ14_bitCount_1 rfl rfl ?_
  refine v_iconst (pc := 2) (nI 1) dJ14_bitCount_2 (by decide) ?_
  refine v_lushr (pc := 3) dJ14_bitCount_3 rfl ?_
  refine v_ldc2 (pc := 4) q927 dJ14_bitCount_4 ?_
  refine v_land (pc := 7) dJ14_bitCount_7 ?_
  refine v_lsub (pc := 8) dJ14_bitCount_8 ?_
  refine v_lstore_n (pc := 9) (lv' := [(0, .long ((lN w) - ((((lN w).toUInt64 >>> (((nI 1).toInt64).toUInt64 &&& Int64.toUInt64 63)).toInt64) &&& ((6148914691236517205 : Int64)))))]) dJ14_bitCount_9 rfl (by decide) rfl ?_
  refine v_lload_n (pc := 10) 0 dJ14_bitCount_10 rfl rfl ?_
  refine v_ldc2 (pc := 11) q928 dJ14_bitCount_11 ?_
  refine v_land (pc := 14) dJ14_bitCount_14 ?_
  refine v_lload_n (pc := 15) 0 dJ14_bitCount_15 rfl rfl ?_
  refine v_iconst (pc := 16) (nI 2) dJ14_bitCount_16 (by decide) ?_
  refine v_lushr (pc := 17) dJ14_bitCount_17 rfl ?_
  refine v_ldc2 (pc := 18) q928 dJ14_bitCount_18 ?_
  refine v_land (pc := 21) dJ14_bitCount_21 ?_
  refine v_ladd (pc := 22) dJ14_bitCount_22 ?_
  refine v_lstore_n (pc := 23) (lv' := [(0, .long ((((lN w) - ((((lN w).toUInt64 >>> (((nI 1).toInt64).toUInt64 &&& Int64.toUInt64 63)).toInt64) &&& ((6148914691236517205 : Int64)))) &&& ((3689348814741910323 : Int64))) + (((((lN w) - ((((lN w).toUInt64 >>> (((nI 1).toInt64).toUInt64 &&& Int64.toUInt64 63)).toInt64) &&& ((6148914691236517205 : Int64)))).toUInt64 >>> (((nI 2).toInt64).toUInt64 &&& Int64.toUInt64 63)).toInt64) &&& ((3689348814741910323 : Int64)))))]) dJ14_bitCount_23 rfl (by decide) rfl ?_
  refine v_lload_n (pc := 24) 0 dJ14_bitCount_24 rfl rfl ?_
  refine v_lload_n (pc := 25) 0 dJ14_bitCount_25 rfl rfl ?_
  refine v_iconst (pc := 26) (nI 4) dJ14_bitCount_26 (by decide) ?_
  refine v_lushr (pc := 27) dJ14_bitCount_27 rfl ?_
  refine v_ladd (pc := 28) dJ14_bitCount_28 ?_
  refine v_ldc2 (pc := 29) q929 dJ14_bitCount_29 ?_
  refine v_land (pc := 32) dJ14_bitCount_32 ?_
  refine v_lstore_n (pc := 33) (lv' := [(0, .long ((((((lN w) - ((((lN w).toUInt64 >>> (((nI 1).toInt64).toUInt64 &&& Int64.toUInt64 63)).toInt64) &&& ((6148914691236517205 : Int64)))) &&& ((3689348814741910323 : Int64))) + (((((lN w) - ((((lN w).toUInt64 >>> (((nI 1).toInt64).toUInt64 &&& Int64.toUInt64 63)).toInt64) &&& ((6148914691236517205 : Int64)))).toUInt64 >>> (((nI 2).toInt64).toUInt64 &&& Int64.toUInt64 63)).toInt64) &&& ((3689348814741910323 : Int64)))) + ((((((lN w) - ((((lN w).toUInt64 >>> (((nI 1).toInt64).toUInt64 &&& Int64.toUInt64 63)).toInt64) &&& ((6148914691236517205 : Int64)))) &&& ((3689348814741910323 : Int64))) + (((((lN w) - ((((lN w).toUInt64 >>> (((nI 1).toInt64).toUInt64 &&& Int64.toUInt64 63)).toInt64) &&& ((6148914691236517205 : Int64)))).toUInt64 >>> (((nI 2).toInt64).toUInt64 &&& Int64.toUInt64 63)).toInt64) &&& ((3689348814741910323 : Int64)))).toUInt64 >>> (((nI 4).toInt64).toUInt64 &&& Int64.toUInt64 63)).toInt64)) &&& ((1085102592571150095 : Int64))))]) dJ14_bitCount_33 rfl (by decide) rfl ?_
  refine v_lload_n (pc := 34) 0 dJ14_bitCount_34 rfl rfl ?_
  refine v_lload_n (pc := 35) 0 dJ14_bitCount_35 rfl rfl ?_
  refine v_bipush (pc := 36) (nI 8) dJ14_bitCount_36 (by decide) ?_
  refine v_lushr (pc := 38) dJ14_bitCount_38 rfl ?_
  refine v_ladd (pc := 39) dJ14_bitCount_39 ?_
  refine v_lstore_n (pc := 40) (lv' := [(0, .long (((((((lN w) - ((((lN w).toUInt64 >>> (((nI 1).toInt64).toUInt64 &&& Int64.toUInt64 63)).toInt64) &&& ((6148914691236517205 : Int64)))) &&& ((3689348814741910323 : Int64))) + (((((lN w) - ((((lN w).toUInt64 >>> (((nI 1).toInt64).toUInt64 &&& Int64.toUInt64 63)).toInt64) &&& ((6148914691236517205 : Int64)))).toUInt64 >>> (((nI 2).toInt64).toUInt64 &&& Int64.toUInt64 63)).toInt64) &&& ((3689348814741910323 : Int64)))) + ((((((lN w) - ((((lN w).toUInt64 >>> (((nI 1).toInt64).toUInt64 &&& Int64.toUInt64 63)).toInt64) &&& ((6148914691236517205 : Int64)))) &&& ((3689348814741910323 : Int64))) + (((((lN w) - ((((lN w).toUInt64 >>> (((nI 1).toInt64).toUInt64 &&& Int64.toUInt64 63)).toInt64) &&& ((6148914691236517205 : Int64)))).toUInt64 >>> (((nI 2).toInt64).toUInt64 &&& Int64.toUInt64 63)).toInt64) &&& ((3689348814741910323 : Int64)))).toUInt64 >>> (((nI 4).toInt64).toUInt64 &&& Int64.toUInt64 63)).toInt64)) &&& ((1085102592571150095 : Int64))) + ((((((((lN w) - ((((lN w).toUInt64 >>> (((nI 1).toInt64).toUInt64 &&& Int64.toUInt64 63)).toInt64) &&& ((6148914691236517205 : Int64)))) &&& ((3689348814741910323 : Int64))) + (((((lN w) - ((((lN w).toUInt64 >>> (((nI 1).toInt64).toUInt64 &&& Int64.toUInt64 63)).toInt64) &&& ((6148914691236517205 : Int64)))).toUInt64 >>> (((nI 2).toInt64).toUInt64 &&& Int64.toUInt64 63)).toInt64) &&& ((3689348814741910323 : Int64)))) + ((((((lN w) - ((((lN w).toUInt64 >>> (((nI 1).toInt64).toUInt64 &&& Int64.toUInt64 63)).toInt64) &&& ((6148914691236517205 : Int64)))) &&& ((3689348814741910323 : Int64))) + (((((lN w) - ((((lN w).toUInt64 >>> (((nI 1).toInt64).toUInt64 &&& Int64.toUInt64 63)).toInt64) &&& ((6148914691236517205 : Int64)))).toUInt64 >>> (((nI 2).toInt64).toUInt64 &&& Int64.toUInt64 63)).toInt64) &&& ((3689348814741910323 : Int64)))).toUInt64 >>> (((nI 4).toInt64).toUInt64 &&& Int64.toUInt64 63)).toInt64)) &&& ((1085102592571150095 : Int64))).toUInt64 >>> (((nI 8).toInt64).toUInt64 &&& Int64.toUInt64 63)).toInt64)))]) dJ14_bitCount_40 rfl (by decide) rfl ?_
  refine v_lload_n (pc := 41) 0 dJ14_bitCount_41 rfl rfl ?_
  refine v_lload_n (pc := 42) 0 dJ14_bitCount_42 rfl rfl ?_
  refine v_bipush (pc := 43) (nI 16) dJ14_bitCount_43 (by decide) ?_
  refine v_lushr (pc := 45) dJ14_bitCount_45 rfl ?_
  refine v_ladd (pc := 46) dJ14_bitCount_46 ?_
  refine v_lstore_n (pc := 47) (lv' := [(0, .long ((((((((lN w) - ((((lN w).toUInt64 >>> (((nI 1).toInt64).toUInt64 &&& Int64.toUInt64 63)).toInt64) &&& ((6148914691236517205 : Int64)))) &&& ((3689348814741910323 : Int64))) + (((((lN w) - ((((lN w).toUInt64 >>> (((nI 1).toInt64).toUInt64 &&& Int64.toUInt64 63)).toInt64) &&& ((6148914691236517205 : Int64)))).toUInt64 >>> (((nI 2).toInt64).toUInt64 &&& Int64.toUInt64 63)).toInt64) &&& ((3689348814741910323 : Int64)))) + ((((((lN w) - ((((lN w).toUInt64 >>> (((nI 1).toInt64).toUInt64 &&& Int64.toUInt64 63)).toInt64) &&& ((6148914691236517205 : Int64)))) &&& ((3689348814741910323 : Int64))) + (((((lN w) - ((((lN w).toUInt64 >>> (((nI 1).toInt64).toUInt64 &&& Int64.toUInt64 63)).toInt64) &&& ((6148914691236517205 : Int64)))).toUInt64 >>> (((nI 2).toInt64).toUInt64 &&& Int64.toUInt64 63)).toInt64) &&& ((3689348814741910323 : Int64)))).toUInt64 >>> (((nI 4).toInt64).toUInt64 &&& Int64.toUInt64 63)).toInt64)) &&& ((1085102592571150095 : Int64))) + ((((((((lN w) - ((((lN w).toUInt64 >>> (((nI 1).toInt64).toUInt64 &&& Int64.toUInt64 63)).toInt64) &&& ((6148914691236517205 : Int64)))) &&& ((3689348814741910323 : Int64))) + (((((lN w) - ((((lN w).toUInt64 >>> (((nI 1).toInt64).toUInt64 &&& Int64.toUInt64 63)).toInt64) &&& ((6148914691236517205 : Int64)))).toUInt64 >>> (((nI 2).toInt64).toUInt64 &&& Int64.toUInt64 63)).toInt64) &&& ((3689348814741910323 : Int64)))) + ((((((lN w) - ((((lN w).toUInt64 >>> (((nI 1).toInt64).toUInt64 &&& Int64.toUInt64 63)).toInt64) &&& ((6148914691236517205 : Int64)))) &&& ((3689348814741910323 : Int64))) + (((((lN w) - ((((lN w).toUInt64 >>> (((nI 1).toInt64).toUInt64 &&& Int64.toUInt64 63)).toInt64) &&& ((6148914691236517205 : Int64)))).toUInt64 >>> (((nI 2).toInt64).toUInt64 &&& Int64.toUInt64 63)).toInt64) &&& ((3689348814741910323 : Int64)))).toUInt64 >>> (((nI 4).toInt64).toUInt64 &&& Int64.toUInt64 63)).toInt64)) &&& ((1085102592571150095 : Int64))).toUInt64 >>> (((nI 8).toInt64).toUInt64 &&& Int64.toUInt64 63)).toInt64)) + (((((((((lN w) - ((((lN w).toUInt64 >>> (((nI 1).toInt64).toUInt64 &&& Int64.toUInt64 63)).toInt64) &&& ((6148914691236517205 : Int64)))) &&& ((3689348814741910323 : Int64))) + (((((lN w) - ((((lN w).toUInt64 >>> (((nI 1).toInt64).toUInt64 &&& Int64.toUInt64 63)).toInt64) &&& ((6148914691236517205 : Int64)))).toUInt64 >>> (((nI 2).toInt64).toUInt64 &&& Int64.toUInt64 63)).toInt64) &&& ((3689348814741910323 : Int64)))) + ((((((lN w) - ((((lN w).toUInt64 >>> (((nI 1).toInt64).toUInt64 &&& Int64.toUInt64 63)).toInt64) &&& ((6148914691236517205 : Int64)))) &&& ((3689348814741910323 : Int64))) + (((((lN w) - ((((lN w).toUInt64 >>> (((nI 1).toInt64).toUInt64 &&& Int64.toUInt64 63)).toInt64) &&& ((6148914691236517205 : Int64)))).toUInt64 >>> (((nI 2).toInt64).toUInt64 &&& Int64.toUInt64 63)).toInt64) &&& ((3689348814741910323 : Int64)))).toUInt64 >>> (((nI 4).toInt64).toUInt64 &&& Int64.toUInt64 63)).toInt64)) &&& ((1085102592571150095 : Int64))) + ((((((((lN w) - ((((lN w).toUInt64 >>> (((nI 1).toInt64).toUInt64 &&& Int64.toUInt64 63)).toInt64) &&& ((6148914691236517205 : Int64)))) &&& ((3689348814741910323 : Int64))) + (((((lN w) - ((((lN w).toUInt64 >>> (((nI 1).toInt64).toUInt64 &&& Int64.toUInt64 63)).toInt64) &&& ((6148914691236517205 : Int64)))).toUInt64 >>> (((nI 2).toInt64).toUInt64 &&& Int64.toUInt64 63)).toInt64) &&& ((3689348814741910323 : Int64)))) + ((((((lN w) - ((((lN w).toUInt64 >>> (((nI 1).toInt64).toUInt64 &&& Int64.toUInt64 63)).toInt64) &&& ((6148914691236517205 : Int64)))) &&& ((3689348814741910323 : Int64))) + (((((lN w) - ((((lN w).toUInt64 >>> (((nI 1).toInt64).toUInt64 &&& Int64.toUInt64 63)).toInt64) &&& ((6148914691236517205 : Int64)))).toUInt64 >>> (((nI 2).toInt64).toUInt64 &&& Int64.toUInt64 63)).toInt64) &&& ((3689348814741910323 : Int64)))).toUInt64 >>> (((nI 4).toInt64).toUInt64 &&& Int64.toUInt64 63)).toInt64)) &&& ((1085102592571150095 : Int64))).toUInt64 >>> (((nI 8).toInt64).toUInt64 &&& Int64.toUInt64 63)).toInt64)).toUInt64 >>> (((nI 16).toInt64).toUInt64 &&& Int64.toUInt64 63)).toInt64)))]) dJ14_bitCount_47 rfl (by decide) rfl ?_
  refine v_lload_n (pc := 48) 0 dJ14_bitCount_48 rfl rfl ?_
  refine v_lload_n (pc := 49) 0 dJ14_bitCount_49 rfl rfl ?_
  refine v_bipush (pc := 50) (nI 32) dJ14_bitCount_50 (by decide) ?_
  refine v_lushr (pc := 52) dJ14_bitCount_52 rfl ?_
  refine v_ladd (pc := 53) dJ14_bitCount_53 ?_
  refine v_lstore_n (pc := 54) (lv' := [(0, .long (((((((((lN w) - ((((lN w).toUInt64 >>> (((nI 1).toInt64).toUInt64 &&& Int64.toUInt64 63)).toInt64) &&& ((6148914691236517205 : Int64)))) &&& ((3689348814741910323 : Int64))) + (((((lN w) - ((((lN w).toUInt64 >>> (((nI 1).toInt64).toUInt64 &&& Int64.toUInt64 63)).toInt64) &&& ((6148914691236517205 : Int64)))).toUInt64 >>> (((nI 2).toInt64).toUInt64 &&& Int64.toUInt64 63)).toInt64) &&& ((3689348814741910323 : Int64)))) + ((((((lN w) - ((((lN w).toUInt64 >>> (((nI 1).toInt64).toUInt64 &&& Int64.toUInt64 63)).toInt64) &&& ((6148914691236517205 : Int64)))) &&& ((3689348814741910323 : Int64))) + (((((lN w) - ((((lN w).toUInt64 >>> (((nI 1).toInt64).toUInt64 &&& Int64.toUInt64 63)).toInt64) &&& ((6148914691236517205 : Int64)))).toUInt64 >>> (((nI 2).toInt64).toUInt64 &&& Int64.toUInt64 63)).toInt64) &&& ((3689348814741910323 : Int64)))).toUInt64 >>> (((nI 4).toInt64).toUInt64 &&& Int64.toUInt64 63)).toInt64)) &&& ((1085102592571150095 : Int64))) + ((((((((lN w) - ((((lN w).toUInt64 >>> (((nI 1).toInt64).toUInt64 &&& Int64.toUInt64 63)).toInt64) &&& ((6148914691236517205 : Int64)))) &&& ((3689348814741910323 : Int64))) + (((((lN w) - ((((lN w).toUInt64 >>> (((nI 1).toInt64).toUInt64 &&& Int64.toUInt64 63)).toInt64) &&& ((6148914691236517205 : Int64)))).toUInt64 >>> (((nI 2).toInt64).toUInt64 &&& Int64.toUInt64 63)).toInt64) &&& ((3689348814741910323 : Int64)))) + ((((((lN w) - ((((lN w).toUInt64 >>> (((nI 1).toInt64).toUInt64 &&& Int64.toUInt64 63)).toInt64) &&& ((6148914691236517205 : Int64)))) &&& ((3689348814741910323 : Int64))) + (((((lN w) - ((((lN w).toUInt64 >>> (((nI 1).toInt64).toUInt64 &&& Int64.toUInt64 63)).toInt64) &&& ((6148914691236517205 : Int64)))).toUInt64 >>> (((nI 2).toInt64).toUInt64 &&& Int64.toUInt64 63)).toInt64) &&& ((3689348814741910323 : Int64)))).toUInt64 >>> (((nI 4).toInt64).toUInt64 &&& Int64.toUInt64 63)).toInt64)) &&& ((1085102592571150095 : Int64))).toUInt64 >>> (((nI 8).toInt64).toUInt64 &&& Int64.toUInt64 63)).toInt64)) + (((((((((lN w) - ((((lN w).toUInt64 >>> (((nI 1).toInt64).toUInt64 &&& Int64.toUInt64 63)).toInt64) &&& ((6148914691236517205 : Int64)))) &&& ((3689348814741910323 : Int64))) + (((((lN w) - ((((lN w).toUInt64 >>> (((nI 1).toInt64).toUInt64 &&& Int64.toUInt64 63)).toInt64) &&& ((6148914691236517205 : Int64)))).toUInt64 >>> (((nI 2).toInt64).toUInt64 &&& Int64.toUInt64 63)).toInt64) &&& ((3689348814741910323 : Int64)))) + ((((((lN w) - ((((lN w).toUInt64 >>> (((nI 1).toInt64).toUInt64 &&& Int64.toUInt64 63)).toInt64) &&& ((6148914691236517205 : Int64)))) &&& ((3689348814741910323 : Int64))) + (((((lN w) - ((((lN w).toUInt64 >>> (((nI 1).toInt64).toUInt64 &&& Int64.toUInt64 63)).toInt64) &&& ((6148914691236517205 : Int64)))).toUInt64 >>> (((nI 2).toInt64).toUInt64 &&& Int64.toUInt64 63)).toInt64) &&& ((3689348814741910323 : Int64)))).toUInt64 >>> (((nI 4).toInt64).toUInt64 &&& Int64.toUInt64 63)).toInt64)) &&& ((1085102592571150095 : Int64))) + ((((((((lN w) - ((((lN w).toUInt64 >>> (((nI 1).toInt64).toUInt64 &&& Int64.toUInt64 63)).toInt64) &&& ((6148914691236517205 : Int64)))) &&& ((3689348814741910323 : Int64))) + (((((lN w) - ((((lN w).toUInt64 >>> (((nI 1).toInt64).toUInt64 &&& Int64.toUInt64 63)).toInt64) &&& ((6148914691236517205 : Int64)))).toUInt64 >>> (((nI 2).toInt64).toUInt64 &&& Int64.toUInt64 63)).toInt64) &&& ((3689348814741910323 : Int64)))) + ((((((lN w) - ((((lN w).toUInt64 >>> (((nI 1).toInt64).toUInt64 &&& Int64.toUInt64 63)).toInt64) &&& ((6148914691236517205 : Int64)))) &&& ((3689348814741910323 : Int64))) + (((((lN w) - ((((lN w).toUInt64 >>> (((nI 1).toInt64).toUInt64 &&& Int64.toUInt64 63)).toInt64) &&& ((6148914691236517205 : Int64)))).toUInt64 >>> (((nI 2).toInt64).toUInt64 &&& Int64.toUInt64 63)).toInt64) &&& ((3689348814741910323 : Int64)))).toUInt64 >>> (((nI 4).toInt64).toUInt64 &&& Int64.toUInt64 63)).toInt64)) &&& ((1085102592571150095 : Int64))).toUInt64 >>> (((nI 8).toInt64).toUInt64 &&& Int64.toUInt64 63)).toInt64)).toUInt64 >>> (((nI 16).toInt64).toUInt64 &&& Int64.toUInt64 63)).toInt64)) + ((((((((((lN w) - ((((lN w).toUInt64 >>> (((nI 1).toInt64).toUInt64 &&& Int64.toUInt64 63)).toInt64) &&& ((6148914691236517205 : Int64)))) &&& ((3689348814741910323 : Int64))) + (((((lN w) - ((((lN w).toUInt64 >>> (((nI 1).toInt64).toUInt64 &&& Int64.toUInt64 63)).toInt64) &&& ((6148914691236517205 : Int64)))).toUInt64 >>> (((nI 2).toInt64).toUInt64 &&& Int64.toUInt64 63)).toInt64) &&& ((3689348814741910323 : Int64)))) + ((((((lN w) - ((((lN w).toUInt64 >>> (((nI 1).toInt64).toUInt64 &&& Int64.toUInt64 63)).toInt64) &&& ((6148914691236517205 : Int64)))) &&& ((3689348814741910323 : Int64))) + (((((lN w) - ((((lN w).toUInt64 >>> (((nI 1).toInt64).toUInt64 &&& Int64.toUInt64 63)).toInt64) &&& ((6148914691236517205 : Int64)))).toUInt64 >>> (((nI 2).toInt64).toUInt64 &&& Int64.toUInt64 63)).toInt64) &&& ((3689348814741910323 : Int64)))).toUInt64 >>> (((nI 4).toInt64).toUInt64 &&& Int64.toUInt64 63)).toInt64)) &&& ((1085102592571150095 : Int64))) + ((((((((lN w) - ((((lN w).toUInt64 >>> (((nI 1).toInt64).toUInt64 &&& Int64.toUInt64 63)).toInt64) &&& ((6148914691236517205 : Int64)))) &&& ((3689348814741910323 : Int64))) + (((((lN w) - ((((lN w).toUInt64 >>> (((nI 1).toInt64).toUInt64 &&& Int64.toUInt64 63)).toInt64) &&& ((6148914691236517205 : Int64)))).toUInt64 >>> (((nI 2).toInt64).toUInt64 &&& Int64.toUInt64 63)).toInt64) &&& ((3689348814741910323 : Int64)))) + ((((((lN w) - ((((lN w).toUInt64 >>> (((nI 1).toInt64).toUInt64 &&& Int64.toUInt64 63)).toInt64) &&& ((6148914691236517205 : Int64)))) &&& ((3689348814741910323 : Int64))) + (((((lN w) - ((((lN w).toUInt64 >>> (((nI 1).toInt64).toUInt64 &&& Int64.toUInt64 63)).toInt64) &&& ((6148914691236517205 : Int64)))).toUInt64 >>> (((nI 2).toInt64).toUInt64 &&& Int64.toUInt64 63)).toInt64) &&& ((3689348814741910323 : Int64)))).toUInt64 >>> (((nI 4).toInt64).toUInt64 &&& Int64.toUInt64 63)).toInt64)) &&& ((1085102592571150095 : Int64))).toUInt64 >>> (((nI 8).toInt64).toUInt64 &&& Int64.toUInt64 63)).toInt64)) + (((((((((lN w) - ((((lN w).toUInt64 >>> (((nI 1).toInt64).toUInt64 &&& Int64.toUInt64 63)).toInt64) &&& ((6148914691236517205 : Int64)))) &&& ((3689348814741910323 : Int64))) + (((((lN w) - ((((lN w).toUInt64 >>> (((nI 1).toInt64).toUInt64 &&& Int64.toUInt64 63)).toInt64) &&& ((6148914691236517205 : Int64)))).toUInt64 >>> (((nI 2).toInt64).toUInt64 &&& Int64.toUInt64 63)).toInt64) &&& ((3689348814741910323 : Int64)))) + ((((((lN w) - ((((lN w).toUInt64 >>> (((nI 1).toInt64).toUInt64 &&& Int64.toUInt64 63)).toInt64) &&& ((6148914691236517205 : Int64)))) &&& ((3689348814741910323 : Int64))) + (((((lN w) - ((((lN w).toUInt64 >>> (((nI 1).toInt64).toUInt64 &&& Int64.toUInt64 63)).toInt64) &&& ((6148914691236517205 : Int64)))).toUInt64 >>> (((nI 2).toInt64).toUInt64 &&& Int64.toUInt64 63)).toInt64) &&& ((3689348814741910323 : Int64)))).toUInt64 >>> (((nI 4).toInt64).toUInt64 &&& Int64.toUInt64 63)).toInt64)) &&& ((1085102592571150095 : Int64))) + ((((((((lN w) - ((((lN w).toUInt64 >>> (((nI 1).toInt64).toUInt64 &&& Int64.toUInt64 63)).toInt64) &&& ((6148914691236517205 : Int64)))) &&& ((3689348814741910323 : Int64))) + (((((lN w) - ((((lN w).toUInt64 >>> (((nI 1).toInt64).toUInt64 &&& Int64.toUInt64 63)).toInt64) &&& ((6148914691236517205 : Int64)))).toUInt64 >>> (((nI 2).toInt64).toUInt64 &&& Int64.toUInt64 63)).toInt64) &&& ((3689348814741910323 : Int64)))) + ((((((lN w) - ((((lN w).toUInt64 >>> (((nI 1).toInt64).toUInt64 &&& Int64.toUInt64 63)).toInt64) &&& ((6148914691236517205 : Int64)))) &&& ((3689348814741910323 : Int64))) + (((((lN w) - ((((lN w).toUInt64 >>> (((nI 1).toInt64).toUInt64 &&& Int64.toUInt64 63)).toInt64) &&& ((6148914691236517205 : Int64)))).toUInt64 >>> (((nI 2).toInt64).toUInt64 &&& Int64.toUInt64 63)).toInt64) &&& ((3689348814741910323 : Int64)))).toUInt64 >>> (((nI 4).toInt64).toUInt64 &&& Int64.toUInt64 63)).toInt64)) &&& ((1085102592571150095 : Int64))).toUInt64 >>> (((nI 8).toInt64).toUInt64 &&& Int64.toUInt64 63)).toInt64)).toUInt64 >>> (((nI 16).toInt64).toUInt64 &&& Int64.toUInt64 63)).toInt64)).toUInt64 >>> (((nI 32).toInt64).toUInt64 &&& Int64.toUInt64 63)).toInt64)))]) dJ14_bitCount_54 rfl (by decide) rfl ?_
  refine v_lload_n (pc := 55) 0 dJ14_bitCount_55 rfl rfl ?_
  refine v_l2i (pc := 56) dJ14_bitCount_56 rfl ?_
  refine v_bipush (pc := 57) (nI 127) dJ14_bitCount_57 (by decide) ?_
  refine v_iand (pc := 59) dJ14_bitCount_59 ?_
  refine v_topi (v := nI (pcn w)) (bc_fin ⟨w, hw8⟩) ?_
  exact v_iret (pc := 60) hr rfl (Nat.le_refl _) (Nat.le_refl _) dJ14_bitCount_60 (pI_mk rfl (hC_c rfl))

set_option maxHeartbeats 4000000 in
theorem ct_J0_cardinality {G : GT} {l : Launch} {N : Nat} {S : ST} {k v : Nat} (hb : BC k) (hv : BS S k v) (hN : k + 1 < N) : CTi G l yJ0_cardinality cJ0_cardinality 3 (some .int) 1 [.ref (gZ G + k)] N (S) (nI (pcn v)) (S) := by
  obtain ⟨hvE, hv8, hwE⟩ := hv
  have hw1 := wi_le v
  refine CT.mk "java/util/BitSet" [(0, .ref (gZ G + k))] rfl (by decide) rfl (Nat.le_of_ble_eq_true rfl) ?_
  intro x hR hl hr hnm
  refine v_iconst (pc := 0) (nI 0) dJ0_cardinality_0 (by decide) ?_
  refine v_istore_n (pc := 1) (lv' := [(1, .int (nI 0)), (0, .ref (gZ G + k))]) dJ0_cardinality_1 rfl (by decide) rfl ?_
  refine v_iconst (pc := 2) (nI 0) dJ0_cardinality_2 (by decide) ?_
  refine v_istore_n (pc := 3) (lv' := [(2, .int (nI 0)), (1, .int (nI 0)), (0, .ref (gZ G + k))]) dJ0_cardinality_3 rfl (by decide) rfl ?_
  refine v_iload_n (pc := 4) 0 dJ0_cardinality_4 rfl rfl ?_
  refine v_aload_n (pc := 5) 2 dJ0_cardinality_5 rfl rfl ?_
  refine gJ0_7 (pc := 6) hb hN dJ0_cardinality_6 ?_
  refine v_topi (v := nI (wi v)) hwE ?_
  refine v_ic_geN (pc := 9) 30 (by omega) (by omega) dJ0_cardinality_9 (by decide) (fun c1 => ?_) (fun c1 => ?_)
  · skip
    refine v_iload_n (pc := 30) 1 dJ0_cardinality_30 rfl rfl ?_
    exact v_iret (pc := 31) hr rfl (Nat.le_refl _) (Nat.le_refl _) dJ0_cardinality_31 (pI_mk (by obtain rfl := wi_0 (show wi v = 0 by omega); rfl) (hC_c rfl))
  · skip
    refine v_iload_n (pc := 12) 1 dJ0_cardinality_12 rfl rfl ?_
    refine v_aload_n (pc := 13) 2 dJ0_cardinality_13 rfl rfl ?_
    refine gJ0_11 (pc := 14) hb hN dJ0_cardinality_14 ?_
    refine v_iload_n (pc := 17) 0 dJ0_cardinality_17 rfl rfl ?_
    refine c_lald (pc := 18) (k := k) (v := v) hb (by omega) rfl hvE (by omega) dJ0_cardinality_18 ?_
    refine c_callSi (pc := 19) (st := [.int (nI 0)]) (ct_J14_bitCount (S := S) (w := v) (by omega)) kVJ0_196 kDJ0_196 (rm_ok hR (Nat.le_of_ble_eq_true rfl) (Nat.le_of_ble_eq_true rfl)) ⟨Nat.zero_le _, Nat.zero_le _⟩ rfl rfl (Nat.le_of_ble_eq_true rfl) dJ0_cardinality_19 ?_
    refine v_iaddN (pc := 22) dJ0_cardinality_22 ?_
    refine v_istore_n (pc := 23) (lv' := [(1, .int (nI (0 + pcn v))), (2, .int (nI 0)), (0, .ref (gZ G + k))]) dJ0_cardinality_23 rfl (by decide) rfl ?_
    refine v_iincN (pc := 24) (k := 1) (lv' := [(2, .int (nI (0 + 1))), (1, .int (nI (0 + pcn v))), (0, .ref (gZ G + k))]) dJ0_cardinality_24 rfl (by decide) rfl ?_
    refine v_goto (pc := 27) 4 dJ0_cardinality_27 (by decide) ?_
    refine v_iload_n (pc := 4) 0 dJ0_cardinality_4 rfl rfl ?_
    refine v_aload_n (pc := 5) 2 dJ0_cardinality_5 rfl rfl ?_
    refine gJ0_7 (pc := 6) hb hN dJ0_cardinality_6 ?_
    refine v_topi (v := nI (wi v)) hwE ?_
    refine v_ic_geN (pc := 9) 30 (by omega) (by omega) dJ0_cardinality_9 (by decide) (fun c2 => ?_) (fun c2 => ?_)
    · skip
      refine v_iload_n (pc := 30) 1 dJ0_cardinality_30 rfl rfl ?_
      exact v_iret (pc := 31) hr rfl (Nat.le_refl _) (Nat.le_refl _) dJ0_cardinality_31 (pI_mk (by rw [Nat.zero_add]) (hC_c rfl))
    · skip
      exact absurd c2 (by omega)

set_option maxHeartbeats 4000000 in
theorem lp_fill {G : GT} {x : VX} {N k : Nat} {S : ST} {c : Int32} (hk : IA k 8) (hN : k < N) (hr : (xM x).sig.returnType = none) : ∀ (m i : Nat) (g : Nat → Int32), i + m = 8 → (∀ j, j < i → g j = c) → V G x "java/util/Arrays" cJ3_fill 4 (QQ G x (pV N (fun h' => h' = hC G (s1 S k (fun _ => c)))) 0 0) 5 [(3, .int (nI 8)), (2, .int (nI i)), (0, .ref (gZ G + k)), (1, .int (c))] [] N (hC G (s1 S k g)) 0 0 := by
  intro m
  induction m with
  | zero =>
    intro i g him hg
    refine v_iload_n (pc := 5) 1 dJ3_fill_5 rfl rfl ?_
    refine v_iload_n (pc := 6) 0 dJ3_fill_6 rfl rfl ?_
    refine v_ic_geN (pc := 7) 20 (by omega) (by omega) dJ3_fill_7 (by decide) (fun c1 => ?_) (fun c1 => ?_)
    · skip
      refine v_row (g := fun _ => c) hk (fun j hj => hg j (by omega)) ?_
      exact v_vret (pc := 20) hr (Nat.le_refl _) (Nat.le_refl _) dJ3_fill_20 (pV_mk rfl)
    · skip
      exact absurd c1 (by omega)
  | succ m ih =>
    intro i g him hg
    refine v_iload_n (pc := 5) 1 dJ3_fill_5 rfl rfl ?_
    refine v_iload_n (pc := 6) 0 dJ3_fill_6 rfl rfl ?_
    refine v_ic_geN (pc := 7) 20 (by omega) (by omega) dJ3_fill_7 (by decide) (fun c1 => ?_) (fun c1 => ?_)
    · skip
      exact absurd c1 (by omega)
    · skip
      refine v_aload_n (pc := 10) 2 dJ3_fill_10 rfl rfl ?_
      refine v_iload_n (pc := 11) 1 dJ3_fill_11 rfl rfl ?_
      refine v_iload_n (pc := 12) 3 dJ3_fill_12 rfl rfl ?_
      refine c_iast (pc := 13) (k := k) (j := i) hk (by omega) rfl (by omega) (by decide) dJ3_fill_13 ?_
      refine v_S (s2_s1 _ _ _ _ _) ?_
      refine v_iincN (pc := 14) (k := 1) (lv' := [(2, .int (nI (i + 1))), (3, .int (nI 8)), (0, .ref (gZ G + k)), (1, .int (c))]) dJ3_fill_14 rfl (by decide) rfl ?_
      refine v_goto (pc := 17) 5 dJ3_fill_17 (by decide) ?_
      refine v_sub (lv' := [(3, .int (nI 8)), (2, .int (nI (i + 1))), (0, .ref (gZ G + k)), (1, .int (c))]) [1, 0, 2, 3] rfl ?_
      exact ih (i + 1) _ (by omega) (fun j hj => (Nat.lt_or_ge j i).elim (fun z => (pk_un (by omega)).trans (hg j z)) (fun z => by rw [show j = i by omega, pk_us]))

set_option maxHeartbeats 4000000 in
theorem ct_J3_fill {G : GT} {l : Launch} {N : Nat} {S : ST} {g : Nat → Int32} {k : Nat} {c : Int32} (hk : IA k 8) (hN : k < N) : CTv G l yJ3_fill cJ3_fill 4 none 0 [.ref (gZ G + k), .int (c)] N (s1 S k g) (s1 S k ((fun _ => c))) := by
  refine CT.mk "java/util/Arrays" [(0, .ref (gZ G + k)), (1, .int (c))] rfl (by decide) rfl (Nat.le_of_ble_eq_true rfl) ?_
  intro x hR hl hr hnm
  refine v_iconst (pc := 0) (nI 0) dJ3_fill_0 (by decide) ?_
  refine v_istore_n (pc := 1) (lv' := [(2, .int (nI 0)), (0, .ref (gZ G + k)), (1, .int (c))]) dJ3_fill_1 rfl (by decide) rfl ?_
  refine v_aload_n (pc := 2) 1 dJ3_fill_2 rfl rfl ?_
  refine v_alen (pc := 3) (t0 := 0) rfl (by omega) (hk G _) rfl dJ3_fill_3 ?_
  refine v_topi (v := nI 8) rfl ?_
  refine v_istore_n (pc := 4) (lv' := [(3, .int (nI 8)), (2, .int (nI 0)), (0, .ref (gZ G + k)), (1, .int (c))]) dJ3_fill_4 rfl (by decide) rfl ?_
  refine v_sub (lv' := [(3, .int (nI 8)), (2, .int (nI 0)), (0, .ref (gZ G + k)), (1, .int (c))]) [0, 1, 2, 3] rfl ?_
  exact lp_fill hk hN hr 8 0 g (by omega) (fun j hj => absurd hj (by omega))

