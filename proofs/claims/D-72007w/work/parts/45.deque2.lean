set_option maxRecDepth 100000
/-! java.util.ArrayDeque, java.lang.Integer: walks -/
set_option maxHeartbeats 4000000 in
theorem ct_J2_inc {G : GT} {l : Launch} {N : Nat} {S : ST} {i n : Nat} (hi : i < 100) (hn : n < 100) : CTi G l yJ2_inc cJ2_inc 2 (some .int) 0 [.int (nI i), .int (nI n)] N (S) (nI (dinc i n)) (S) := by
  refine CT.mk "java/util/ArrayDeque" [(0, .int (nI i)), (1, .int (nI n))] rfl (by decide) rfl (Nat.le_of_ble_eq_true rfl) ?_
  intro x hR hl hr hnm
  refine v_iincN (pc := 0) (k := 0) (lv' := [(0, .int (nI (i + 1))), (1, .int (nI n))]) dJ2_inc_0 rfl (by decide) rfl ?_
  refine v_iload_n (pc := 3) 0 dJ2_inc_3 rfl rfl ?_
  refine v_iload_n (pc := 4) 1 dJ2_inc_4 rfl rfl ?_
  refine v_ic_ltN (pc := 5) 10 (by omega) (by omega) dJ2_inc_5 (by decide) (fun c1 => ?_) (fun c1 => ?_)
  · skip
    refine v_iload_n (pc := 10) 0 dJ2_inc_10 rfl rfl ?_
    exact v_iret (pc := 11) hr rfl (Nat.le_refl _) (Nat.le_refl _) dJ2_inc_11 (pI_mk (by unfold dinc; rw [if_pos (by omega)]) (hC_c rfl))
  · skip
    refine v_iconst (pc := 8) (nI 0) dJ2_inc_8 (by decide) ?_
    refine v_istore_n (pc := 9) (lv' := [(0, .int (nI 0)), (1, .int (nI n))]) dJ2_inc_9 rfl (by decide) rfl ?_
    refine v_iload_n (pc := 10) 0 dJ2_inc_10 rfl rfl ?_
    exact v_iret (pc := 11) hr rfl (Nat.le_refl _) (Nat.le_refl _) dJ2_inc_11 (pI_mk (by unfold dinc; rw [if_neg (by omega)]) (hC_c rfl))

set_option maxHeartbeats 4000000 in
theorem ct_J2_dec {G : GT} {l : Launch} {N : Nat} {S : ST} {i n : Nat} (hi : i < 100) (hn0 : 0 < n) (hn : n < 100) : CTi G l yJ2_dec cJ2_dec 2 (some .int) 0 [.int (nI i), .int (nI n)] N (S) (nI (ddec i n)) (S) := by
  refine CT.mk "java/util/ArrayDeque" [(0, .int (nI i)), (1, .int (nI n))] rfl (by decide) rfl (Nat.le_of_ble_eq_true rfl) ?_
  intro x hR hl hr hnm
  rcases Nat.eq_zero_or_pos i with hi0 | hi0
  · skip
    subst hi0
    refine v_iinc (pc := 0) (k := 0) (v := (-1)) (lv' := [(0, .int ((-1))), (1, .int (nI n))]) dJ2_dec_0 rfl (by decide) (by decide) rfl ?_
    refine v_iload_n (pc := 3) 0 dJ2_dec_3 rfl rfl ?_
    refine v_if_ge (pc := 4) 11 dJ2_dec_4 (by decide) (fun c1 => ?_) (fun c1 => ?_)
    · skip
      exact absurd c1 (by decide)
    · skip
      refine v_iload_n (pc := 7) 1 dJ2_dec_7 rfl rfl ?_
      refine v_iconst (pc := 8) (nI 1) dJ2_dec_8 (by decide) ?_
      refine v_isubN (pc := 9) (by omega) dJ2_dec_9 ?_
      refine v_istore_n (pc := 10) (lv' := [(0, .int (nI (n - 1))), (1, .int (nI n))]) dJ2_dec_10 rfl (by decide) rfl ?_
      refine v_iload_n (pc := 11) 0 dJ2_dec_11 rfl rfl ?_
      exact v_iret (pc := 12) hr rfl (Nat.le_refl _) (Nat.le_refl _) dJ2_dec_12 (pI_mk (by unfold ddec; rw [if_pos rfl]) (hC_c rfl))
  · skip
    refine v_iinc (pc := 0) (k := 0) (v := nI (i - 1)) (lv' := [(0, .int (nI (i - 1))), (1, .int (nI n))]) dJ2_dec_0 rfl (dec1p hi0) (by decide) rfl ?_
    refine v_iload_n (pc := 3) 0 dJ2_dec_3 rfl rfl ?_
    refine v_if_geN (pc := 4) 11 (by omega) dJ2_dec_4 (by decide) ?_
    refine v_iload_n (pc := 11) 0 dJ2_dec_11 rfl rfl ?_
    exact v_iret (pc := 12) hr rfl (Nat.le_refl _) (Nat.le_refl _) dJ2_dec_12 (pI_mk (by unfold ddec; rw [if_neg (by omega)]) (hC_c rfl))

theorem sub_neg {i j : Nat} (h : i < j) (hj : j < 100) : nI i - nI j < 0 := by
  have : ∀ i : Fin 100, ∀ j : Fin 100, i.val < j.val → nI i.val - nI j.val < 0 := by decide +kernel
  exact this ⟨i, by omega⟩ ⟨j, hj⟩ h
theorem sub_wrap {i j n : Nat} (h : i < j) (hj : j < n) (hn : n < 100) : nI i - nI j + nI n = nI (i + n - j) := by
  rw [show nI (i + n - j) = nI i + nI n - nI j by rw [nI_add, pk_sub (by omega)]]
  rw [Int32.sub_eq_add_neg, Int32.sub_eq_add_neg, Int32.add_assoc, Int32.add_assoc, Int32.add_comm (-nI j)]
set_option maxHeartbeats 4000000 in
theorem ct_J2_sub {G : GT} {l : Launch} {N : Nat} {S : ST} {i j n : Nat} (hi : i < n) (hj : j < n) (hn : n < 100) : CTi G l yJ2_sub cJ2_sub 3 (some .int) 0 [.int (nI i), .int (nI j), .int (nI n)] N (S) (nI (dsub i j n)) (S) := by
  refine CT.mk "java/util/ArrayDeque" [(0, .int (nI i)), (1, .int (nI j)), (2, .int (nI n))] rfl (by decide) rfl (Nat.le_of_ble_eq_true rfl) ?_
  intro x hR hl hr hnm
  refine v_iload_n (pc := 0) 0 dJ2_sub_0 rfl rfl ?_
  refine v_iload_n (pc := 1) 1 dJ2_sub_1 rfl rfl ?_
  rcases Nat.lt_or_ge i j with hij | hij
  · skip
    refine v_isub (pc := 2) dJ2_sub_2 ?_
    refine v_dup (pc := 3) dJ2_sub_3 rfl ?_
    refine v_istore_n (pc := 4) (lv' := [(0, .int (nI i - nI j)), (1, .int (nI j)), (2, .int (nI n))]) dJ2_sub_4 rfl (by decide) rfl ?_
    refine v_if_ge (pc := 5) 12 dJ2_sub_5 (by decide) (fun c1 => ?_) (fun c1 => ?_)
    · skip
      exact absurd c1 (by have := sub_neg hij (by omega); simpa using this)
    · skip
      refine v_iload_n (pc := 8) 0 dJ2_sub_8 rfl rfl ?_
      refine v_iload_n (pc := 9) 2 dJ2_sub_9 rfl rfl ?_
      refine v_iadd (pc := 10) dJ2_sub_10 ?_
      refine v_istore_n (pc := 11) (lv' := [(0, .int ((nI i - nI j) + (nI n))), (1, .int (nI j)), (2, .int (nI n))]) dJ2_sub_11 rfl (by decide) rfl ?_
      refine v_iload_n (pc := 12) 0 dJ2_sub_12 rfl rfl ?_
      exact v_iret (pc := 13) hr rfl (Nat.le_refl _) (Nat.le_refl _) dJ2_sub_13 (pI_mk (by unfold dsub; rw [if_neg (by omega)]; exact sub_wrap hij hj hn) (hC_c rfl))
  · skip
    refine v_isubN (pc := 2) (by omega) dJ2_sub_2 ?_
    refine v_dup (pc := 3) dJ2_sub_3 rfl ?_
    refine v_istore_n (pc := 4) (lv' := [(0, .int (nI (i - j))), (1, .int (nI j)), (2, .int (nI n))]) dJ2_sub_4 rfl (by decide) rfl ?_
    refine v_if_geN (pc := 5) 12 (by omega) dJ2_sub_5 (by decide) ?_
    refine v_iload_n (pc := 12) 0 dJ2_sub_12 rfl rfl ?_
    exact v_iret (pc := 13) hr rfl (Nat.le_refl _) (Nat.le_refl _) dJ2_sub_13 (pI_mk (by unfold dsub; rw [if_pos hij]) (hC_c rfl))

set_option maxHeartbeats 4000000 in
theorem ct_J2_isEmpty {G : GT} {l : Launch} {N : Nat} {S : ST} {k hd tl : Nat} (hk : DC k) (hN : k + 1 < N) (hh : S k 1 = nI hd) (ht : S k 2 = nI tl) (hh2 : hd < 100) (ht2 : tl < 100) : CTi G l yJ2_isEmpty cJ2_isEmpty 1 (some .boolean) 0 [.ref (gZ G + k)] N (S) (bI (hd = tl)) (S) := by
  refine CT.mk "java/util/ArrayDeque" [(0, .ref (gZ G + k))] rfl (by decide) rfl (Nat.le_of_ble_eq_true rfl) ?_
  intro x hR hl hr hnm
  refine v_aload_n (pc := 0) 0 dJ2_isEmpty_0 rfl rfl ?_
  refine gJ2_24 (pc := 1) hk hN dJ2_isEmpty_1 ?_
  refine v_topi (v := nI hd) hh ?_
  refine v_aload_n (pc := 4) 0 dJ2_isEmpty_4 rfl rfl ?_
  refine gJ2_20 (pc := 5) hk hN dJ2_isEmpty_5 ?_
  refine v_topi (v := nI tl) ht ?_
  refine v_ic_neN (pc := 8) 15 (by omega) (by omega) dJ2_isEmpty_8 (by decide) (fun c1 => ?_) (fun c1 => ?_)
  · skip
    refine v_iconst (pc := 15) (nI 0) dJ2_isEmpty_15 (by decide) ?_
    exact v_iret (pc := 16) hr rfl (Nat.le_refl _) (Nat.le_refl _) dJ2_isEmpty_16 (pI_mk (bI_f c1) (hC_c rfl))
  · skip
    refine v_iconst (pc := 11) (nI 1) dJ2_isEmpty_11 (by decide) ?_
    refine v_goto (pc := 12) 16 dJ2_isEmpty_12 (by decide) ?_
    exact v_iret (pc := 16) hr rfl (Nat.le_refl _) (Nat.le_refl _) dJ2_isEmpty_16 (pI_mk (bI_t c1) (hC_c rfl))

set_option maxHeartbeats 4000000 in
theorem ct_J2_sizeR {G : GT} {l : Launch} {N : Nat} {S : ST} {k n hd tl : Nat} (hk : DR k n) (hn : n < 100) (hN : k + 1 < N) (hh : S k 1 = nI hd) (ht : S k 2 = nI tl) (hh2 : hd < n) (ht2 : tl < n) : CTi G l yJ2_size cJ2_size 1 (some .int) 1 [.ref (gZ G + k)] N (S) (nI (dsub tl hd n)) (S) := by
  refine CT.mk "java/util/ArrayDeque" [(0, .ref (gZ G + k))] rfl (by decide) rfl (Nat.le_of_ble_eq_true rfl) ?_
  intro x hR hl hr hnm
  refine v_aload_n (pc := 0) 0 dJ2_size_0 rfl rfl ?_
  refine gJ2_20 (pc := 1) hk.1 hN dJ2_size_1 ?_
  refine v_topi (v := nI tl) ht ?_
  refine v_aload_n (pc := 4) 0 dJ2_size_4 rfl rfl ?_
  refine gJ2_24 (pc := 5) hk.1 hN dJ2_size_5 ?_
  refine v_topi (v := nI hd) hh ?_
  refine v_aload_n (pc := 8) 0 dJ2_size_8 rfl rfl ?_
  refine gJ2_3 (pc := 9) hk.1 hN dJ2_size_9 ?_
  refine v_alen (pc := 12) (t0 := 5) rfl (by omega) (hk.2 G _) rfl dJ2_size_12 ?_
  refine v_topi (v := nI n) rfl ?_
  refine c_callSi (pc := 13) (st := []) (ct_J2_sub (S := S) (i := tl) (j := hd) (n := n) (by omega) (by omega) (by omega)) kVJ2_127 kDJ2_127 (rm_ok hR (Nat.le_of_ble_eq_true rfl) (Nat.le_of_ble_eq_true rfl)) ⟨Nat.zero_le _, Nat.zero_le _⟩ rfl rfl (Nat.le_of_ble_eq_true rfl) dJ2_size_13 ?_
  exact v_iret (pc := 16) hr rfl (Nat.le_refl _) (Nat.le_refl _) dJ2_size_16 (pI_mk rfl (hC_c rfl))

set_option maxHeartbeats 4000000 in
theorem ct_J2_elementAtR {G : GT} {l : Launch} {N : Nat} {S : ST} {k n i c : Nat} (hk : DR k n) (hn : n < 100) (hN : k + 1 < N) (hi : i < n) (he : S (k + 1) i = nI (c + 1)) (hcb : c < 1000) : CTa G l yJ2_elementAt cJ2_elementAt 2 (some (.object "java/lang/Object")) 0 [.ref (gZ G + (k + 1)), .int (nI i)] N (S) (.ref (gZ G + c)) (S) := by
  refine CT.mk "java/util/ArrayDeque" [(0, .ref (gZ G + (k + 1))), (1, .int (nI i))] rfl (by decide) rfl (Nat.le_of_ble_eq_true rfl) ?_
  intro x hR hl hr hnm
  refine v_aload_n (pc := 0) 0 dJ2_elementAt_0 rfl rfl ?_
  refine v_iload_n (pc := 1) 1 dJ2_elementAt_1 rfl rfl ?_
  refine c_aaldR (pc := 2) (k := k) (n := n) (j := i) (c := c) hk (by omega) rfl (by omega) (by omega) he (by omega) dJ2_elementAt_2 ?_
  exact v_aret (pc := 3) hr (Or.inl ⟨_, rfl⟩) (Or.inr ⟨_, rfl⟩) (Nat.le_refl _) (Nat.le_refl _) dJ2_elementAt_3 (pA_mk rfl (hC_c rfl))

set_option maxHeartbeats 4000000 in
theorem ct_J2_addLastR {G : GT} {l : Launch} {N : Nat} {S : ST} {k n hd tl c : Nat} (hk : DR k n) (hn : n < 100) (hN : k + 1 < N) (hh : S k 1 = nI hd) (ht : S k 2 = nI tl) (hh2 : hd < n) (ht2 : tl < n) (hfl : dinc tl n ≠ hd) (hc : RB c) (hcN : c < N) : CTv G l yJ2_addLast cJ2_addLast 3 none 1 [.ref (gZ G + k), .ref (gZ G + c)] N (S) (s2 (s2 S (k + 1) tl (nI (c + 1))) k 2 (nI (dinc tl n))) := by
  have hdi := dinc_lt (i := tl) (show 0 < n by omega)
  refine CT.mk "java/util/ArrayDeque" [(0, .ref (gZ G + k)), (1, .ref (gZ G + c))] rfl (by decide) rfl (Nat.le_of_ble_eq_true rfl) ?_
  intro x hR hl hr hnm
  refine v_aload_n (pc := 0) 1 dJ2_addLast_0 rfl rfl ?_
  refine v_ifnonnull (pc := 1) 12 dJ2_addLast_1 (by decide) ?_
  refine v_aload_n (pc := 12) 0 dJ2_addLast_12 rfl rfl ?_
  refine gJ2_3 (pc := 13) hk.1 hN dJ2_addLast_13 ?_
  refine v_astore_n (pc := 16) (lv' := [(2, .ref (gZ G + (k + 1))), (0, .ref (gZ G + k)), (1, .ref (gZ G + c))]) dJ2_addLast_16 rfl (by decide) rfl ?_
  refine v_aload_n (pc := 17) 0 dJ2_addLast_17 rfl rfl ?_
  refine v_aload_n (pc := 18) 1 dJ2_addLast_18 rfl rfl ?_
  refine gJ2_20 (pc := 19) hk.1 hN dJ2_addLast_19 ?_
  refine v_topi (v := nI tl) ht ?_
  refine v_aload_n (pc := 22) 2 dJ2_addLast_22 rfl rfl ?_
  refine c_aastR (pc := 23) (k := k) (n := n) (j := tl) (c := c) hk (by omega) rfl (by omega) (by omega) hc (by omega) dJ2_addLast_23 ?_
  refine v_aload_n (pc := 24) 1 dJ2_addLast_24 rfl rfl ?_
  refine gJ2_24 (pc := 25) hk.1 hN dJ2_addLast_25 ?_
  refine v_topi (v := nI hd) ((congrFun (s2_nk (by omega)) _).trans hh) ?_
  refine v_aload_n (pc := 28) 1 dJ2_addLast_28 rfl rfl ?_
  refine v_aload_n (pc := 29) 1 dJ2_addLast_29 rfl rfl ?_
  refine gJ2_20 (pc := 30) hk.1 hN dJ2_addLast_30 ?_
  refine v_topi (v := nI tl) ((congrFun (s2_nk (by omega)) _).trans ht) ?_
  refine v_aload_n (pc := 33) 0 dJ2_addLast_33 rfl rfl ?_
  refine v_alen (pc := 34) (t0 := 5) rfl (by omega) (hk.2 G _) rfl dJ2_addLast_34 ?_
  refine v_topi (v := nI n) rfl ?_
  refine c_callSi (pc := 35) (st := [.ref (gZ G + k), .int (nI hd)]) (ct_J2_inc (S := s2 S (k + 1) tl (nI (c + 1))) (i := tl) (n := n) (by omega) (by omega)) kVJ2_74 kDJ2_74 (rm_ok hR (Nat.le_of_ble_eq_true rfl) (Nat.le_of_ble_eq_true rfl)) ⟨Nat.zero_le _, Nat.zero_le _⟩ rfl rfl (Nat.le_of_ble_eq_true rfl) dJ2_addLast_35 ?_
  refine v_dup_x1 (pc := 38) dJ2_addLast_38 rfl rfl ?_
  refine pJ2_20 (pc := 39) hk.1 hN dJ2_addLast_39 ?_
  refine v_ic_neN (pc := 42) 50 (by omega) (by omega) dJ2_addLast_42 (by decide) (fun c1 => ?_) (fun c1 => ?_)
  · skip
    exact v_vret (pc := 50) hr (Nat.le_refl _) (Nat.le_refl _) dJ2_addLast_50 (pV_mk (hC_c rfl))
  · skip
    exact absurd c1 (by omega)

set_option maxHeartbeats 4000000 in
theorem ct_J2_pollFirstR {G : GT} {l : Launch} {N : Nat} {S : ST} {k n hd c : Nat} (hk : DR k n) (hn : n < 100) (hN : k + 1 < N) (hh : S k 1 = nI hd) (hh2 : hd < n) (he : S (k + 1) hd = nI (c + 1)) (hcb : c < 1000) : CTa G l yJ2_pollFirst cJ2_pollFirst 4 (some (.object "java/lang/Object")) 1 [.ref (gZ G + k)] N (S) (.ref (gZ G + c)) (s2 (s2 S (k + 1) hd (nI 0)) k 1 (nI (dinc hd n))) := by
  refine CT.mk "java/util/ArrayDeque" [(0, .ref (gZ G + k))] rfl (by decide) rfl (Nat.le_of_ble_eq_true rfl) ?_
  intro x hR hl hr hnm
  refine v_aload_n (pc := 0) 0 dJ2_pollFirst_0 rfl rfl ?_
  refine gJ2_3 (pc := 1) hk.1 hN dJ2_pollFirst_1 ?_
  refine v_dup (pc := 4) dJ2_pollFirst_4 rfl ?_
  refine v_astore_n (pc := 5) (lv' := [(1, .ref (gZ G + (k + 1))), (0, .ref (gZ G + k))]) dJ2_pollFirst_5 rfl (by decide) rfl ?_
  refine v_aload_n (pc := 6) 1 dJ2_pollFirst_6 rfl rfl ?_
  refine gJ2_24 (pc := 7) hk.1 hN dJ2_pollFirst_7 ?_
  refine v_topi (v := nI hd) hh ?_
  refine v_dup (pc := 10) dJ2_pollFirst_10 rfl ?_
  refine v_istore_n (pc := 11) (lv' := [(2, .int (nI hd)), (1, .ref (gZ G + (k + 1))), (0, .ref (gZ G + k))]) dJ2_pollFirst_11 rfl (by decide) rfl ?_
  refine c_callSa (pc := 12) (st := []) (ct_J2_elementAtR (S := S) (k := k) (i := hd) (c := c) hk (by omega) (by omega) (by omega) (by omega) (by omega)) kVJ2_103 kDJ2_103 (rm_ok hR (Nat.le_of_ble_eq_true rfl) (Nat.le_of_ble_eq_true rfl)) ⟨Nat.zero_le _, Nat.zero_le _⟩ rfl rfl (Nat.le_of_ble_eq_true rfl) dJ2_pollFirst_12 ?_
  refine v_astore_n (pc := 15) (lv' := [(3, .ref (gZ G + c)), (2, .int (nI hd)), (1, .ref (gZ G + (k + 1))), (0, .ref (gZ G + k))]) dJ2_pollFirst_15 rfl (by decide) rfl ?_
  refine v_aload_n (pc := 16) 0 dJ2_pollFirst_16 rfl rfl ?_
  refine v_ifnull (pc := 17) dJ2_pollFirst_17 ?_
  refine v_aload_n (pc := 20) 2 dJ2_pollFirst_20 rfl rfl ?_
  refine v_iload_n (pc := 21) 1 dJ2_pollFirst_21 rfl rfl ?_
  refine v_null (pc := 22) dJ2_pollFirst_22 ?_
  refine c_aastR0 (pc := 23) (k := k) (n := n) (j := hd) hk (by omega) rfl (by omega) (by omega) dJ2_pollFirst_23 ?_
  refine v_aload_n (pc := 24) 3 dJ2_pollFirst_24 rfl rfl ?_
  refine v_iload_n (pc := 25) 1 dJ2_pollFirst_25 rfl rfl ?_
  refine v_aload_n (pc := 26) 2 dJ2_pollFirst_26 rfl rfl ?_
  refine v_alen (pc := 27) (t0 := 5) rfl (by omega) (hk.2 G _) rfl dJ2_pollFirst_27 ?_
  refine v_topi (v := nI n) rfl ?_
  refine c_callSi (pc := 28) (st := [.ref (gZ G + k)]) (ct_J2_inc (S := s2 S (k + 1) hd (nI 0)) (i := hd) (n := n) (by omega) (by omega)) kVJ2_74 kDJ2_74 (rm_ok hR (Nat.le_of_ble_eq_true rfl) (Nat.le_of_ble_eq_true rfl)) ⟨Nat.zero_le _, Nat.zero_le _⟩ rfl rfl (Nat.le_of_ble_eq_true rfl) dJ2_pollFirst_28 ?_
  refine pJ2_24 (pc := 31) hk.1 hN dJ2_pollFirst_31 ?_
  refine v_aload_n (pc := 34) 0 dJ2_pollFirst_34 rfl rfl ?_
  exact v_aret (pc := 35) hr (Or.inl ⟨_, rfl⟩) (Or.inr ⟨_, rfl⟩) (Nat.le_refl _) (Nat.le_refl _) dJ2_pollFirst_35 (pA_mk rfl (hC_c rfl))

set_option maxHeartbeats 4000000 in
theorem ct_J2_pollLastR {G : GT} {l : Launch} {N : Nat} {S : ST} {k n tl c : Nat} (hk : DR k n) (hn : n < 100) (hN : k + 1 < N) (ht : S k 2 = nI tl) (ht2 : tl < n) (he : S (k + 1) (ddec tl n) = nI (c + 1)) (hcb : c < 1000) : CTa G l yJ2_pollLast cJ2_pollLast 4 (some (.object "java/lang/Object")) 1 [.ref (gZ G + k)] N (S) (.ref (gZ G + c)) (s2 (s2 S k 2 (nI (ddec tl n))) (k + 1) (ddec tl n) (nI 0)) := by
  have hdl := ddec_lt ht2
  refine CT.mk "java/util/ArrayDeque" [(0, .ref (gZ G + k))] rfl (by decide) rfl (Nat.le_of_ble_eq_true rfl) ?_
  intro x hR hl hr hnm
  refine v_aload_n (pc := 0) 0 dJ2_pollLast_0 rfl rfl ?_
  refine gJ2_3 (pc := 1) hk.1 hN dJ2_pollLast_1 ?_
  refine v_dup (pc := 4) dJ2_pollLast_4 rfl ?_
  refine v_astore_n (pc := 5) (lv' := [(1, .ref (gZ G + (k + 1))), (0, .ref (gZ G + k))]) dJ2_pollLast_5 rfl (by decide) rfl ?_
  refine v_aload_n (pc := 6) 1 dJ2_pollLast_6 rfl rfl ?_
  refine gJ2_20 (pc := 7) hk.1 hN dJ2_pollLast_7 ?_
  refine v_topi (v := nI tl) ht ?_
  refine v_aload_n (pc := 10) 0 dJ2_pollLast_10 rfl rfl ?_
  refine v_alen (pc := 11) (t0 := 5) rfl (by omega) (hk.2 G _) rfl dJ2_pollLast_11 ?_
  refine v_topi (v := nI n) rfl ?_
  refine c_callSi (pc := 12) (st := [.ref (gZ G + (k + 1))]) (ct_J2_dec (S := S) (i := tl) (n := n) (by omega) (by omega) (by omega)) kVJ2_68 kDJ2_68 (rm_ok hR (Nat.le_of_ble_eq_true rfl) (Nat.le_of_ble_eq_true rfl)) ⟨Nat.zero_le _, Nat.zero_le _⟩ rfl rfl (Nat.le_of_ble_eq_true rfl) dJ2_pollLast_12 ?_
  refine v_dup (pc := 15) dJ2_pollLast_15 rfl ?_
  refine v_istore_n (pc := 16) (lv' := [(2, .int (nI (ddec tl n))), (1, .ref (gZ G + (k + 1))), (0, .ref (gZ G + k))]) dJ2_pollLast_16 rfl (by decide) rfl ?_
  refine c_callSa (pc := 17) (st := []) (ct_J2_elementAtR (S := S) (k := k) (i := ddec tl n) (c := c) hk (by omega) (by omega) (by omega) (by omega) (by omega)) kVJ2_103 kDJ2_103 (rm_ok hR (Nat.le_of_ble_eq_true rfl) (Nat.le_of_ble_eq_true rfl)) ⟨Nat.zero_le _, Nat.zero_le _⟩ rfl rfl (Nat.le_of_ble_eq_true rfl) dJ2_pollLast_17 ?_
  refine v_astore_n (pc := 20) (lv' := [(3, .ref (gZ G + c)), (2, .int (nI (ddec tl n))), (1, .ref (gZ G + (k + 1))), (0, .ref (gZ G + k))]) dJ2_pollLast_20 rfl (by decide) rfl ?_
  refine v_aload_n (pc := 21) 0 dJ2_pollLast_21 rfl rfl ?_
  refine v_ifnull (pc := 22) dJ2_pollLast_22 ?_
  refine v_aload_n (pc := 25) 2 dJ2_pollLast_25 rfl rfl ?_
  refine v_aload_n (pc := 26) 3 dJ2_pollLast_26 rfl rfl ?_
  refine v_iload_n (pc := 27) 1 dJ2_pollLast_27 rfl rfl ?_
  refine v_dup_x1 (pc := 28) dJ2_pollLast_28 rfl rfl ?_
  refine pJ2_20 (pc := 29) hk.1 hN dJ2_pollLast_29 ?_
  refine v_null (pc := 32) dJ2_pollLast_32 ?_
  refine c_aastR0 (pc := 33) (k := k) (n := n) (j := ddec tl n) hk (by omega) rfl (by omega) (by omega) dJ2_pollLast_33 ?_
  refine v_aload_n (pc := 34) 0 dJ2_pollLast_34 rfl rfl ?_
  exact v_aret (pc := 35) hr (Or.inl ⟨_, rfl⟩) (Or.inr ⟨_, rfl⟩) (Nat.le_refl _) (Nat.le_refl _) dJ2_pollLast_35 (pA_mk rfl (hC_c rfl))

set_option maxHeartbeats 4000000 in
theorem ct_J2_removeLastR {G : GT} {l : Launch} {N : Nat} {S : ST} {k n tl c : Nat} (hk : DR k n) (hn : n < 100) (hN : k + 1 < N) (ht : S k 2 = nI tl) (ht2 : tl < n) (he : S (k + 1) (ddec tl n) = nI (c + 1)) (hcb : c < 1000) : CTa G l yJ2_removeLast cJ2_removeLast 2 (some (.object "java/lang/Object")) 2 [.ref (gZ G + k)] N (S) (.ref (gZ G + c)) (s2 (s2 S k 2 (nI (ddec tl n))) (k + 1) (ddec tl n) (nI 0)) := by
  refine CT.mk "java/util/ArrayDeque" [(0, .ref (gZ G + k))] rfl (by decide) rfl (Nat.le_of_ble_eq_true rfl) ?_
  intro x hR hl hr hnm
  refine v_aload_n (pc := 0) 0 dJ2_removeLast_0 rfl rfl ?_
  refine c_callVa (pc := 1) (st := []) (ci := 7) (ct_J2_pollLastR (S := S) (k := k) (tl := tl) (n := n) (c := c) hk (by omega) (by omega) ht (by omega) he (by omega)) kVJ2_100 kDJ2_100 (rm_ok hR (Nat.le_of_ble_eq_true rfl) (Nat.le_of_ble_eq_true rfl)) ⟨Nat.zero_le _, Nat.zero_le _⟩ (by omega) (hk.1 G _) rfl rfl rfl rfl (Nat.le_of_ble_eq_true rfl) dJ2_removeLast_1 ?_
  refine v_astore_n (pc := 4) (lv' := [(1, .ref (gZ G + c)), (0, .ref (gZ G + k))]) dJ2_removeLast_4 rfl (by decide) rfl ?_
  refine v_aload_n (pc := 5) 0 dJ2_removeLast_5 rfl rfl ?_
  refine v_ifnonnull (pc := 6) 17 dJ2_removeLast_6 (by decide) ?_
  refine v_aload_n (pc := 17) 0 dJ2_removeLast_17 rfl rfl ?_
  exact v_aret (pc := 18) hr (Or.inl ⟨_, rfl⟩) (Or.inr ⟨_, rfl⟩) (Nat.le_refl _) (Nat.le_refl _) dJ2_removeLast_18 (pA_mk rfl (hC_c rfl))

set_option maxHeartbeats 4000000 in
theorem ct_J2_removeFirstR {G : GT} {l : Launch} {N : Nat} {S : ST} {k n hd c : Nat} (hk : DR k n) (hn : n < 100) (hN : k + 1 < N) (hh : S k 1 = nI hd) (hh2 : hd < n) (he : S (k + 1) hd = nI (c + 1)) (hcb : c < 1000) : CTa G l yJ2_removeFirst cJ2_removeFirst 2 (some (.object "java/lang/Object")) 2 [.ref (gZ G + k)] N (S) (.ref (gZ G + c)) (s2 (s2 S (k + 1) hd (nI 0)) k 1 (nI (dinc hd n))) := by
  refine CT.mk "java/util/ArrayDeque" [(0, .ref (gZ G + k))] rfl (by decide) rfl (Nat.le_of_ble_eq_true rfl) ?_
  intro x hR hl hr hnm
  refine v_aload_n (pc := 0) 0 dJ2_removeFirst_0 rfl rfl ?_
  refine c_callVa (pc := 1) (st := []) (ci := 7) (ct_J2_pollFirstR (S := S) (k := k) (hd := hd) (n := n) (c := c) hk (by omega) (by omega) hh (by omega) he (by omega)) kVJ2_93 kDJ2_93 (rm_ok hR (Nat.le_of_ble_eq_true rfl) (Nat.le_of_ble_eq_true rfl)) ⟨Nat.zero_le _, Nat.zero_le _⟩ (by omega) (hk.1 G _) rfl rfl rfl rfl (Nat.le_of_ble_eq_true rfl) dJ2_removeFirst_1 ?_
  refine v_astore_n (pc := 4) (lv' := [(1, .ref (gZ G + c)), (0, .ref (gZ G + k))]) dJ2_removeFirst_4 rfl (by decide) rfl ?_
  refine v_aload_n (pc := 5) 0 dJ2_removeFirst_5 rfl rfl ?_
  refine v_ifnonnull (pc := 6) 17 dJ2_removeFirst_6 (by decide) ?_
  refine v_aload_n (pc := 17) 0 dJ2_removeFirst_17 rfl rfl ?_
  exact v_aret (pc := 18) hr (Or.inl ⟨_, rfl⟩) (Or.inr ⟨_, rfl⟩) (Nat.le_refl _) (Nat.le_refl _) dJ2_removeFirst_18 (pA_mk rfl (hC_c rfl))

set_option maxHeartbeats 4000000 in
theorem ct_J2_addR {G : GT} {l : Launch} {N : Nat} {S : ST} {k n hd tl c : Nat} (hk : DR k n) (hn : n < 100) (hN : k + 1 < N) (hh : S k 1 = nI hd) (ht : S k 2 = nI tl) (hh2 : hd < n) (ht2 : tl < n) (hfl : dinc tl n ≠ hd) (hc : RB c) (hcN : c < N) : CTi G l yJ2_add cJ2_add 2 (some .boolean) 2 [.ref (gZ G + k), .ref (gZ G + c)] N (S) (nI 1) (s2 (s2 S (k + 1) tl (nI (c + 1))) k 2 (nI (dinc tl n))) := by
  refine CT.mk "java/util/ArrayDeque" [(0, .ref (gZ G + k)), (1, .ref (gZ G + c))] rfl (by decide) rfl (Nat.le_of_ble_eq_true rfl) ?_
  intro x hR hl hr hnm
  refine v_aload_n (pc := 0) 0 dJ2_add_0 rfl rfl ?_
  refine v_aload_n (pc := 1) 1 dJ2_add_1 rfl rfl ?_
  refine c_callVv (pc := 2) (st := []) (ci := 7) (ct_J2_addLastR (S := S) (k := k) (c := c) (tl := tl) (hd := hd) (n := n) hk (by omega) (by omega) hh ht (by omega) (by omega) hfl hc (by omega)) kVJ2_90 kDJ2_90 (rm_ok hR (Nat.le_of_ble_eq_true rfl) (Nat.le_of_ble_eq_true rfl)) ⟨Nat.zero_le _, Nat.zero_le _⟩ (by omega) (hk.1 G _) rfl rfl rfl rfl (Nat.le_of_ble_eq_true rfl) dJ2_add_2 ?_
  refine v_iconst (pc := 5) (nI 1) dJ2_add_5 (by decide) ?_
  exact v_iret (pc := 6) hr rfl (Nat.le_refl _) (Nat.le_refl _) dJ2_add_6 (pI_mk rfl (hC_c rfl))

set_option maxHeartbeats 4000000 in
theorem ct_J2_elementAtI {G : GT} {l : Launch} {N : Nat} {S : ST} {k n i c : Nat} (hk : DI k n) (hn : n < 100) (hN : k + 1 < N) (hi : i < n) (he : S (k + 1) i = nI (c + 1)) (hcb : c < 1000) : CTa G l yJ2_elementAt cJ2_elementAt 2 (some (.object "java/lang/Object")) 0 [.ref (gZ G + (k + 1)), .int (nI i)] N (S) (.ref (gI G (c + 128))) (S) := by
  refine CT.mk "java/util/ArrayDeque" [(0, .ref (gZ G + (k + 1))), (1, .int (nI i))] rfl (by decide) rfl (Nat.le_of_ble_eq_true rfl) ?_
  intro x hR hl hr hnm
  refine v_aload_n (pc := 0) 0 dJ2_elementAt_0 rfl rfl ?_
  refine v_iload_n (pc := 1) 1 dJ2_elementAt_1 rfl rfl ?_
  refine c_aaldI (pc := 2) (k := k) (n := n) (j := i) (c := c) hk (by omega) rfl (by omega) (by omega) he (by omega) dJ2_elementAt_2 ?_
  exact v_aret (pc := 3) hr (Or.inl ⟨_, rfl⟩) (Or.inr ⟨_, rfl⟩) (Nat.le_refl _) (Nat.le_refl _) dJ2_elementAt_3 (pA_mk rfl (hC_c rfl))

set_option maxHeartbeats 4000000 in
theorem ct_J2_addLastI {G : GT} {l : Launch} {N : Nat} {S : ST} {k n hd tl c : Nat} (hk : DI k n) (hn : n < 100) (hN : k + 1 < N) (hh : S k 1 = nI hd) (ht : S k 2 = nI tl) (hh2 : hd < n) (ht2 : tl < n) (hfl : dinc tl n ≠ hd) (hc : c < 128) : CTv G l yJ2_addLast cJ2_addLast 3 none 1 [.ref (gZ G + k), .ref (gI G (c + 128))] N (S) (s2 (s2 S (k + 1) tl (nI (c + 1))) k 2 (nI (dinc tl n))) := by
  have hdi := dinc_lt (i := tl) (show 0 < n by omega)
  refine CT.mk "java/util/ArrayDeque" [(0, .ref (gZ G + k)), (1, .ref (gI G (c + 128)))] rfl (by decide) rfl (Nat.le_of_ble_eq_true rfl) ?_
  intro x hR hl hr hnm
  refine v_aload_n (pc := 0) 1 dJ2_addLast_0 rfl rfl ?_
  refine v_ifnonnull (pc := 1) 12 dJ2_addLast_1 (by decide) ?_
  refine v_aload_n (pc := 12) 0 dJ2_addLast_12 rfl rfl ?_
  refine gJ2_3 (pc := 13) hk.1 hN dJ2_addLast_13 ?_
  refine v_astore_n (pc := 16) (lv' := [(2, .ref (gZ G + (k + 1))), (0, .ref (gZ G + k)), (1, .ref (gI G (c + 128)))]) dJ2_addLast_16 rfl (by decide) rfl ?_
  refine v_aload_n (pc := 17) 0 dJ2_addLast_17 rfl rfl ?_
  refine v_aload_n (pc := 18) 1 dJ2_addLast_18 rfl rfl ?_
  refine gJ2_20 (pc := 19) hk.1 hN dJ2_addLast_19 ?_
  refine v_topi (v := nI tl) ht ?_
  refine v_aload_n (pc := 22) 2 dJ2_addLast_22 rfl rfl ?_
  refine c_aastI (pc := 23) (k := k) (n := n) (j := tl) (c := c) hk (by omega) rfl (by omega) (by omega) (by omega) dJ2_addLast_23 ?_
  refine v_aload_n (pc := 24) 1 dJ2_addLast_24 rfl rfl ?_
  refine gJ2_24 (pc := 25) hk.1 hN dJ2_addLast_25 ?_
  refine v_topi (v := nI hd) ((congrFun (s2_nk (by omega)) _).trans hh) ?_
  refine v_aload_n (pc := 28) 1 dJ2_addLast_28 rfl rfl ?_
  refine v_aload_n (pc := 29) 1 dJ2_addLast_29 rfl rfl ?_
  refine gJ2_20 (pc := 30) hk.1 hN dJ2_addLast_30 ?_
  refine v_topi (v := nI tl) ((congrFun (s2_nk (by omega)) _).trans ht) ?_
  refine v_aload_n (pc := 33) 0 dJ2_addLast_33 rfl rfl ?_
  refine v_alen (pc := 34) (t0 := 5) rfl (by omega) (hk.2 G _) rfl dJ2_addLast_34 ?_
  refine v_topi (v := nI n) rfl ?_
  refine c_callSi (pc := 35) (st := [.ref (gZ G + k), .int (nI hd)]) (ct_J2_inc (S := s2 S (k + 1) tl (nI (c + 1))) (i := tl) (n := n) (by omega) (by omega)) kVJ2_74 kDJ2_74 (rm_ok hR (Nat.le_of_ble_eq_true rfl) (Nat.le_of_ble_eq_true rfl)) ⟨Nat.zero_le _, Nat.zero_le _⟩ rfl rfl (Nat.le_of_ble_eq_true rfl) dJ2_addLast_35 ?_
  refine v_dup_x1 (pc := 38) dJ2_addLast_38 rfl rfl ?_
  refine pJ2_20 (pc := 39) hk.1 hN dJ2_addLast_39 ?_
  refine v_ic_neN (pc := 42) 50 (by omega) (by omega) dJ2_addLast_42 (by decide) (fun c1 => ?_) (fun c1 => ?_)
  · skip
    exact v_vret (pc := 50) hr (Nat.le_refl _) (Nat.le_refl _) dJ2_addLast_50 (pV_mk (hC_c rfl))
  · skip
    exact absurd c1 (by omega)

set_option maxHeartbeats 4000000 in
theorem ct_J2_pollFirstI {G : GT} {l : Launch} {N : Nat} {S : ST} {k n hd c : Nat} (hk : DI k n) (hn : n < 100) (hN : k + 1 < N) (hh : S k 1 = nI hd) (hh2 : hd < n) (he : S (k + 1) hd = nI (c + 1)) (hcb : c < 1000) : CTa G l yJ2_pollFirst cJ2_pollFirst 4 (some (.object "java/lang/Object")) 1 [.ref (gZ G + k)] N (S) (.ref (gI G (c + 128))) (s2 (s2 S (k + 1) hd (nI 0)) k 1 (nI (dinc hd n))) := by
  refine CT.mk "java/util/ArrayDeque" [(0, .ref (gZ G + k))] rfl (by decide) rfl (Nat.le_of_ble_eq_true rfl) ?_
  intro x hR hl hr hnm
  refine v_aload_n (pc := 0) 0 dJ2_pollFirst_0 rfl rfl ?_
  refine gJ2_3 (pc := 1) hk.1 hN dJ2_pollFirst_1 ?_
  refine v_dup (pc := 4) dJ2_pollFirst_4 rfl ?_
  refine v_astore_n (pc := 5) (lv' := [(1, .ref (gZ G + (k + 1))), (0, .ref (gZ G + k))]) dJ2_pollFirst_5 rfl (by decide) rfl ?_
  refine v_aload_n (pc := 6) 1 dJ2_pollFirst_6 rfl rfl ?_
  refine gJ2_24 (pc := 7) hk.1 hN dJ2_pollFirst_7 ?_
  refine v_topi (v := nI hd) hh ?_
  refine v_dup (pc := 10) dJ2_pollFirst_10 rfl ?_
  refine v_istore_n (pc := 11) (lv' := [(2, .int (nI hd)), (1, .ref (gZ G + (k + 1))), (0, .ref (gZ G + k))]) dJ2_pollFirst_11 rfl (by decide) rfl ?_
  refine c_callSa (pc := 12) (st := []) (ct_J2_elementAtI (S := S) (k := k) (i := hd) (c := c) hk (by omega) (by omega) (by omega) (by omega) (by omega)) kVJ2_103 kDJ2_103 (rm_ok hR (Nat.le_of_ble_eq_true rfl) (Nat.le_of_ble_eq_true rfl)) ⟨Nat.zero_le _, Nat.zero_le _⟩ rfl rfl (Nat.le_of_ble_eq_true rfl) dJ2_pollFirst_12 ?_
  refine v_astore_n (pc := 15) (lv' := [(3, .ref (gI G (c + 128))), (2, .int (nI hd)), (1, .ref (gZ G + (k + 1))), (0, .ref (gZ G + k))]) dJ2_pollFirst_15 rfl (by decide) rfl ?_
  refine v_aload_n (pc := 16) 0 dJ2_pollFirst_16 rfl rfl ?_
  refine v_ifnull (pc := 17) dJ2_pollFirst_17 ?_
  refine v_aload_n (pc := 20) 2 dJ2_pollFirst_20 rfl rfl ?_
  refine v_iload_n (pc := 21) 1 dJ2_pollFirst_21 rfl rfl ?_
  refine v_null (pc := 22) dJ2_pollFirst_22 ?_
  refine c_aastI0 (pc := 23) (k := k) (n := n) (j := hd) hk (by omega) rfl (by omega) (by omega) dJ2_pollFirst_23 ?_
  refine v_aload_n (pc := 24) 3 dJ2_pollFirst_24 rfl rfl ?_
  refine v_iload_n (pc := 25) 1 dJ2_pollFirst_25 rfl rfl ?_
  refine v_aload_n (pc := 26) 2 dJ2_pollFirst_26 rfl rfl ?_
  refine v_alen (pc := 27) (t0 := 5) rfl (by omega) (hk.2 G _) rfl dJ2_pollFirst_27 ?_
  refine v_topi (v := nI n) rfl ?_
  refine c_callSi (pc := 28) (st := [.ref (gZ G + k)]) (ct_J2_inc (S := s2 S (k + 1) hd (nI 0)) (i := hd) (n := n) (by omega) (by omega)) kVJ2_74 kDJ2_74 (rm_ok hR (Nat.le_of_ble_eq_true rfl) (Nat.le_of_ble_eq_true rfl)) ⟨Nat.zero_le _, Nat.zero_le _⟩ rfl rfl (Nat.le_of_ble_eq_true rfl) dJ2_pollFirst_28 ?_
  refine pJ2_24 (pc := 31) hk.1 hN dJ2_pollFirst_31 ?_
  refine v_aload_n (pc := 34) 0 dJ2_pollFirst_34 rfl rfl ?_
  exact v_aret (pc := 35) hr (Or.inl ⟨_, rfl⟩) (Or.inr ⟨_, rfl⟩) (Nat.le_refl _) (Nat.le_refl _) dJ2_pollFirst_35 (pA_mk rfl (hC_c rfl))

set_option maxHeartbeats 4000000 in
theorem ct_J2_circularClearI {G : GT} {l : Launch} {N : Nat} {S : ST} {k n i : Nat} (hk : DI k n) (hn : n < 100) (hN : k + 1 < N) (hi : i < n) : CTv G l yJ2_circularClear cJ2_circularClear 4 none 0 [.ref (gZ G + (k + 1)), .int (nI i), .int (nI i)] N (S) (S) := by
  refine CT.mk "java/util/ArrayDeque" [(0, .ref (gZ G + (k + 1))), (1, .int (nI i)), (2, .int (nI i))] rfl (by decide) rfl (Nat.le_of_ble_eq_true rfl) ?_
  intro x hR hl hr hnm
  refine v_iload_n (pc := 0) 1 dJ2_circularClear_0 rfl rfl ?_
  refine v_iload_n (pc := 1) 2 dJ2_circularClear_1 rfl rfl ?_
  refine v_ic_gtN (pc := 2) 9 (by omega) (by omega) dJ2_circularClear_2 (by decide) (fun h => absurd h (by omega)) (fun _ => ?_)
  refine v_iload_n (pc := 5) 2 dJ2_circularClear_5 rfl rfl ?_
  refine v_goto (pc := 6) 11 dJ2_circularClear_6 (by decide) ?_
  refine v_istore_n (pc := 11) (lv' := [(3, .int (nI i)), (0, .ref (gZ G + (k + 1))), (1, .int (nI i)), (2, .int (nI i))]) dJ2_circularClear_11 rfl (by decide) rfl ?_
  refine v_iload_n (pc := 12) 2 dJ2_circularClear_12 rfl rfl ?_
  refine v_iload_n (pc := 13) 0 dJ2_circularClear_13 rfl rfl ?_
  refine v_ic_geN (pc := 14) 27 (by omega) (by omega) dJ2_circularClear_14 (by decide) (fun _ => ?_) (fun h => absurd h (by omega))
  refine v_iload_n (pc := 27) 0 dJ2_circularClear_27 rfl rfl ?_
  refine v_iload_n (pc := 28) 3 dJ2_circularClear_28 rfl rfl ?_
  refine v_ic_neN (pc := 29) 35 (by omega) (by omega) dJ2_circularClear_29 (by decide) (fun h => absurd h (by omega)) (fun _ => ?_)
  refine v_goto (pc := 32) 42 dJ2_circularClear_32 (by decide) ?_
  exact v_vret (pc := 42) hr (Nat.le_refl _) (Nat.le_refl _) dJ2_circularClear_42 (pV_mk (hC_c rfl))

set_option maxHeartbeats 4000000 in
theorem ct_J2_clearI {G : GT} {l : Launch} {N : Nat} {S : ST} {k n hd : Nat} (hk : DI k n) (hn : n < 100) (hN : k + 1 < N) (hh : S k 1 = nI hd) (ht : S k 2 = nI hd) (hh2 : hd < n) : CTv G l yJ2_clear cJ2_clear 1 none 1 [.ref (gZ G + k)] N (S) (s2 (s2 S k 2 (nI 0)) k 1 (nI 0)) := by
  refine CT.mk "java/util/ArrayDeque" [(0, .ref (gZ G + k))] rfl (by decide) rfl (Nat.le_of_ble_eq_true rfl) ?_
  intro x hR hl hr hnm
  refine v_aload_n (pc := 0) 0 dJ2_clear_0 rfl rfl ?_
  refine gJ2_3 (pc := 1) hk.1 hN dJ2_clear_1 ?_
  refine v_aload_n (pc := 4) 0 dJ2_clear_4 rfl rfl ?_
  refine gJ2_24 (pc := 5) hk.1 hN dJ2_clear_5 ?_
  refine v_topi (v := nI hd) hh ?_
  refine v_aload_n (pc := 8) 0 dJ2_clear_8 rfl rfl ?_
  refine gJ2_20 (pc := 9) hk.1 hN dJ2_clear_9 ?_
  refine v_topi (v := nI hd) ht ?_
  refine c_callSv (pc := 12) (st := []) (ct_J2_circularClearI (S := S) (k := k) (i := hd) hk (by omega) (by omega) (by omega)) kVJ2_181 kDJ2_181 (rm_ok hR (Nat.le_of_ble_eq_true rfl) (Nat.le_of_ble_eq_true rfl)) ⟨Nat.zero_le _, Nat.zero_le _⟩ rfl rfl (Nat.le_of_ble_eq_true rfl) dJ2_clear_12 ?_
  refine v_aload_n (pc := 15) 0 dJ2_clear_15 rfl rfl ?_
  refine v_aload_n (pc := 16) 0 dJ2_clear_16 rfl rfl ?_
  refine v_iconst (pc := 17) (nI 0) dJ2_clear_17 (by decide) ?_
  refine v_dup_x1 (pc := 18) dJ2_clear_18 rfl rfl ?_
  refine pJ2_20 (pc := 19) hk.1 hN dJ2_clear_19 ?_
  refine pJ2_24 (pc := 22) hk.1 hN dJ2_clear_22 ?_
  exact v_vret (pc := 25) hr (Nat.le_refl _) (Nat.le_refl _) dJ2_clear_25 (pV_mk (hC_c rfl))

