set_option maxRecDepth 100000
/-! CONSTRUCTORS: the world told already holds what they make; one object is filled -/
theorem hu_ne {h : Nat → va_E} {k j : Nat} {e : va_E} (hj : j ≠ k) : hu h k e j = h j := by unfold hu; rw [if_neg hj]
abbrev z0 : Nat → Int32 := fun _ => nI 0
theorem cTree_r1 {G : GT} {b j : Nat} {f : Nat → Int32} (h : j < 8) : cTree G b (4 + j) f = iA G 6 f := by unfold cTree; rw [if_neg (by omega), if_neg (by omega), if_neg (by omega), if_pos (by omega)]
theorem cTree_r2 {G : GT} {b j : Nat} {f : Nat → Int32} (h : j < 8) : cTree G b (13 + j) f = iA G 6 f := by unfold cTree; rw [if_neg (by omega), if_neg (by omega), if_neg (by omega), if_neg (by omega), if_neg (by omega), if_pos (by omega)]
theorem cRun_r {G : GT} {b j : Nat} {f : Nat → Int32} (h : j < 8) : cRun G b (17 + j) f = iA G 8 f := by unfold cRun; rw [if_neg (by omega), if_neg (by omega), if_neg (by omega), if_neg (by omega), if_pos (by omega)]
theorem cw_J0_wordIndex {G : GT} {l : Launch} {N : Nat} {h : Nat → va_E} : CT G l yJ0_wordIndex cJ0_wordIndex 1 (some .int) 0 0 0 [.int (nI 7)] N h (fun v N' h' => v = some (.int (nI 0)) ∧ N' = N ∧ h' = h) := by
  refine CT.mk "java/util/BitSet" [(0, .int (nI 7))] rfl (by decide) rfl (Nat.le_of_ble_eq_true rfl) ?_
  intro x hR hl hr hnm
  refine v_iload_n (pc := 0) 0 dJ0_wordIndex_0 rfl rfl ?_
  refine v_bipush (pc := 1) (nI 6) dJ0_wordIndex_1 (by decide) ?_
  refine v_ishr (pc := 3) dJ0_wordIndex_3 ?_
  refine v_topi (v := nI 0) (by decide) ?_
  exact v_iret (pc := 4) hr rfl (Nat.le_refl _) (Nat.le_refl _) dJ0_wordIndex_4 ⟨rfl, rfl, rfl⟩
set_option maxHeartbeats 8000000 in
theorem cn_J0_initWords {G : GT} {l : Launch} {h : Nat → va_E} {k : Nat} (he : h k = .inr (6, [.null, .int (nI 0), .int (nI 0)])) (h1 : h (k + 1) = bsW G z0) : CT G l yJ0_initWords cJ0_initWords 2 none 1 1 1 [.ref (gZ G + k), .int (nI 8)] (k + 1) h (fun v N' h' => v = none ∧ N' = k + 2 ∧ h' = hu h k (.inr (6, [rf G (k + 1), .int (nI 0), .int (nI 0)]))) := by
  refine CT.mk "java/util/BitSet" [(0, .ref (gZ G + k)), (1, .int (nI 8))] rfl (by decide) rfl (Nat.le_of_ble_eq_true rfl) ?_
  intro x hR hl hr hnm
  refine v_eq rfl rfl (hu_id he).symm ?_
  refine v_aload_n (pc := 0) 0 dJ0_initWords_0 rfl rfl ?_
  refine v_iload_n (pc := 1) 1 dJ0_initWords_1 rfl rfl ?_
  refine v_iconst (pc := 2) (nI 1) dJ0_initWords_2 (by decide) ?_
  refine v_isub (pc := 3) dJ0_initWords_3 ?_
  refine v_topi (v := nI 7) (by decide) ?_
  refine v_callS (pc := 4) (st := [.ref (gZ G + k)]) cw_J0_wordIndex kVJ0_52 kDJ0_52 (rm_ok hR (Nat.le_of_ble_eq_true rfl) (Nat.le_of_ble_eq_true rfl)) (by rw [hR]; decide) rfl rfl (Nat.le_of_ble_eq_true rfl) dJ0_initWords_4 (fun v' N' h' z => ?_)
  obtain ⟨rfl, rfl, rfl⟩ := z
  refine v_iconst (pc := 7) (nI 1) dJ0_initWords_7 (by decide) ?_
  refine v_iadd (pc := 8) dJ0_initWords_8 ?_
  refine v_topi (v := nI 1) (by decide) ?_
  refine v_newa (pc := 9) (t0 := 1) (n := 1) (a0 := (1, .inr (.inl (fun j => lN (z0 j).toNatClampNeg)))) rfl rfl (fun _ z => z) q124 (fun _ => rfl) (by decide) (by decide) (by rw [hR]; decide) (by rw [hR]; decide) dJ0_initWords_9 ?_
  refine v_eq rfl rfl (hu_id ((hu_ne (by omega)).trans h1)) ?_
  show V G x "java/util/BitSet" cJ0_initWords 2 _ 11 [(0, .ref (gZ G + k)), (1, .int (nI 8))] [.ref (gZ G + (k + 1)), .ref (gZ G + k)] (k + 2) (hu h k (.inr (6, [.null, .int (nI 0), .int (nI 0)]))) 1 1
  refine v_put (pc := 11) (ci := 6) (j := 0) (fs := [.null, .int (nI 0), .int (nI 0)]) (T := TJ0) (M := 3) (C := RJ0) rfl in_J0 tyJ0 tyJ0_ok nmJ0 (by decide) q113 rfl rfl rfl rfl rfl (by omega) hu_at (Nat.le_of_ble_eq_true rfl) dJ0_initWords_11 ?_
  refine v_eq rfl rfl (show _ = hu h k (.inr (6, [.ref (gZ G + (k + 1)), .int (nI 0), .int (nI 0)])) from hu_hu) ?_
  exact v_vret (pc := 14) hr (Nat.le_refl _) (Nat.le_refl _) dJ0_initWords_14 ⟨rfl, rfl, rfl⟩
set_option maxHeartbeats 8000000 in
theorem cn_J0_init {G : GT} {l : Launch} {h : Nat → va_E} {k : Nat} (he : h k = .inr (6, [.null, .int (nI 0), .int (nI 0)])) (h1 : h (k + 1) = bsW G z0) : CT G l yJ0_init cJ0_init 2 none 2 1 1 [.ref (gZ G + k), .int (nI 8)] (k + 1) h (fun v N' h' => v = none ∧ N' = k + 2 ∧ h' = hu h k (bsO G k z0)) := by
  refine CT.mk "java/util/BitSet" [(0, .ref (gZ G + k)), (1, .int (nI 8))] rfl (by decide) rfl (Nat.le_of_ble_eq_true rfl) ?_
  intro x hR hl hr hnm
  refine v_eq rfl rfl (hu_id he).symm ?_
  refine v_aload_n (pc := 0) 0 dJ0_init_0 rfl rfl ?_
  refine v_objInit (pc := 1) q105 (by rw [hR]; decide) (by rw [hR]; decide) dJ0_init_1 ?_
  refine v_aload_n (pc := 4) 0 dJ0_init_4 rfl rfl ?_
  refine v_iconst (pc := 5) (nI 0) dJ0_init_5 (by decide) ?_
  refine v_put (pc := 6) (ci := 6) (j := 1) (fs := [.null, .int (nI 0), .int (nI 0)]) (T := TJ0) (M := 3) (C := RJ0) rfl in_J0 tyJ0 tyJ0_ok nmJ0 (by decide) q114 rfl rfl rfl rfl rfl (by omega) hu_at (Nat.le_of_ble_eq_true rfl) dJ0_init_6 ?_
  refine v_eq rfl rfl (show _ = hu h k (.inr (6, [.null, .int (nI 0), .int (nI 0)])) from hu_hu) ?_
  refine v_aload_n (pc := 9) 0 dJ0_init_9 rfl rfl ?_
  refine v_iconst (pc := 10) (nI 0) dJ0_init_10 (by decide) ?_
  refine v_put (pc := 11) (ci := 6) (j := 2) (fs := [.null, .int (nI 0), .int (nI 0)]) (T := TJ0) (M := 3) (C := RJ0) rfl in_J0 tyJ0 tyJ0_ok nmJ0 (by decide) q115 rfl rfl rfl rfl rfl (by omega) hu_at (Nat.le_of_ble_eq_true rfl) dJ0_init_11 ?_
  refine v_eq rfl rfl (show _ = hu h k (.inr (6, [.null, .int (nI 0), .int (nI 0)])) from hu_hu) ?_
  refine v_iload_n (pc := 14) 1 dJ0_init_14 rfl rfl ?_
  refine v_if_ge (pc := 15) 45 dJ0_init_15 (by decide) (fun _ => ?_) (fun z => absurd (by decide) z)
  refine v_aload_n (pc := 45) 0 dJ0_init_45 rfl rfl ?_
  refine v_iload_n (pc := 46) 1 dJ0_init_46 rfl rfl ?_
  refine v_callV (pc := 47) (st := []) (kb := k) (ci := 6) (cn_J0_initWords hu_at ((hu_ne (by omega)).trans h1)) kVJ0_27 kDJ0_27 (rm_ok hR (Nat.le_of_ble_eq_true rfl) (Nat.le_of_ble_eq_true rfl)) (by rw [hR]; decide) (by omega) hu_at rfl rfl rfl rfl (Nat.le_of_ble_eq_true rfl) dJ0_init_47 (fun v' N' h' z => ?_)
  obtain ⟨rfl, rfl, rfl⟩ := z
  refine v_eq rfl rfl (show _ = hu h k (.inr (6, [rf G (k + 1), .int (nI 0), .int (nI 0)])) from hu_hu) ?_
  show V G x "java/util/BitSet" cJ0_init 2 _ 50 [(0, .ref (gZ G + k)), (1, .int (nI 8))] [] (k + 2) (hu h k (.inr (6, [rf G (k + 1), .int (nI 0), .int (nI 0)]))) 1 1
  refine v_aload_n (pc := 50) 0 dJ0_init_50 rfl rfl ?_
  refine v_iconst (pc := 51) (nI 1) dJ0_init_51 (by decide) ?_
  refine v_put (pc := 52) (ci := 6) (j := 2) (fs := [rf G (k + 1), .int (nI 0), .int (nI 0)]) (T := TJ0) (M := 3) (C := RJ0) rfl in_J0 tyJ0 tyJ0_ok nmJ0 (by decide) q115 rfl rfl rfl rfl rfl (by omega) hu_at (Nat.le_of_ble_eq_true rfl) dJ0_init_52 ?_
  refine v_eq rfl rfl (show _ = hu h k (.inr (6, [rf G (k + 1), .int (nI 0), .int (nI 1)])) from hu_hu) ?_
  exact v_vret (pc := 55) hr (Nat.le_refl _) (Nat.le_refl _) dJ0_init_55 ⟨rfl, rfl, rfl⟩
theorem cn_J1_init {G : GT} {l : Launch} {N k : Nat} {h : Nat → va_E} : CT G l yJ1_init cJ1_init 1 none 1 0 0 [.ref (gZ G + k)] N h (fun v N' h' => v = none ∧ N' = N ∧ h' = h) := by
  refine CT.mk "java/util/AbstractCollection" [(0, .ref (gZ G + k))] rfl (by decide) rfl (Nat.le_of_ble_eq_true rfl) ?_
  intro x hR hl hr hnm
  refine v_aload_n (pc := 0) 0 dJ1_init_0 rfl rfl ?_
  refine v_objInit (pc := 1) q181 (by rw [hR]; decide) (by rw [hR]; decide) dJ1_init_1 ?_
  exact v_vret (pc := 4) hr (Nat.le_refl _) (Nat.le_refl _) dJ1_init_4 ⟨rfl, rfl, rfl⟩
set_option maxHeartbeats 8000000 in
theorem cn_J2_init16 {G : GT} {l : Launch} {h : Nat → va_E} {k : Nat} (he : h k = .inr (7, [.null, .int (nI 0), .int (nI 0)])) (h1 : h (k + 1) = .inl (gA G 5, 17, .inr (.inr (.inr (.inr (fun _ => none)))))) : CT G l yJ2_init cJ2_init 2 none 2 1 17 [.ref (gZ G + k), .int (nI 16)] (k + 1) h (fun v N' h' => v = none ∧ N' = k + 2 ∧ h' = hu h k (dqO G k z0)) := by
  refine CT.mk "java/util/ArrayDeque" [(0, .ref (gZ G + k)), (1, .int (nI 16))] rfl (by decide) rfl (Nat.le_of_ble_eq_true rfl) ?_
  intro x hR hl hr hnm
  refine v_eq rfl rfl (hu_id he).symm ?_
  refine v_aload_n (pc := 0) 0 dJ2_init_0 rfl rfl ?_
  refine v_callI (pc := 1) (st := []) (kb := k) cn_J1_init (lw_meth q180) q63 q178 q179 rfl kDJ2_42 (rm_ok hR (Nat.le_of_ble_eq_true rfl) (Nat.le_of_ble_eq_true rfl)) (by rw [hR]; decide) rfl rfl (Nat.le_of_ble_eq_true rfl) dJ2_init_1 (fun v' N' h' z => ?_)
  obtain ⟨rfl, rfl, rfl⟩ := z
  refine v_aload_n (pc := 4) 0 dJ2_init_4 rfl rfl ?_
  refine v_iload_n (pc := 5) 1 dJ2_init_5 rfl rfl ?_
  refine v_iconst (pc := 6) (nI 1) dJ2_init_6 (by decide) ?_
  refine v_ic_ge (pc := 7) 14 dJ2_init_7 (by decide) (fun _ => ?_) (fun z => absurd (by decide) z)
  refine v_iload_n (pc := 14) 1 dJ2_init_14 rfl rfl ?_
  refine v_ldc (pc := 15) q182 dJ2_init_15 ?_
  refine v_ic_ne (pc := 17) 25 dJ2_init_17 (by decide) (fun _ => ?_) (fun z => absurd z (by decide))
  refine v_iload_n (pc := 25) 1 dJ2_init_25 rfl rfl ?_
  refine v_iconst (pc := 26) (nI 1) dJ2_init_26 (by decide) ?_
  refine v_iadd (pc := 27) dJ2_init_27 ?_
  refine v_topi (v := nI 17) (by decide) ?_
  refine v_newq (pc := 28) (t0 := 5) (n := 17) rfl (fun C => C.2.2.2.2.1.2.1) q183 (by decide) (by decide) (by rw [hR]; decide) (by rw [hR]; decide) dJ2_init_28 ?_
  refine v_eq rfl rfl (hu_id ((hu_ne (by omega)).trans h1)) ?_
  show V G x "java/util/ArrayDeque" cJ2_init 2 _ 31 [(0, .ref (gZ G + k)), (1, .int (nI 16))] [.ref (gZ G + (k + 1)), .ref (gZ G + k)] (k + 2) (hu h k (.inr (7, [.null, .int (nI 0), .int (nI 0)]))) 1 17
  refine v_put (pc := 31) (ci := 7) (j := 0) (fs := [.null, .int (nI 0), .int (nI 0)]) (T := TJ2) (M := 3) (C := RJ2) rfl in_J2 tyJ2 tyJ2_ok nmJ2 (by decide) q185 rfl rfl rfl rfl rfl (by omega) hu_at (Nat.le_of_ble_eq_true rfl) dJ2_init_31 ?_
  refine v_eq rfl rfl (show _ = hu h k (.inr (7, [.ref (gZ G + (k + 1)), .int (nI 0), .int (nI 0)])) from hu_hu) ?_
  exact v_vret (pc := 34) hr (Nat.le_refl _) (Nat.le_refl _) dJ2_init_34 ⟨rfl, rfl, rfl⟩
set_option maxHeartbeats 8000000 in
theorem cn_J2_init14 {G : GT} {l : Launch} {h : Nat → va_E} {k : Nat} (he : h k = .inr (7, [.null, .int (nI 0), .int (nI 0)])) (h1 : h (k + 1) = .inl (gA G 5, 15, .inr (.inr (.inr (.inr (fun _ => none)))))) : CT G l yJ2_init cJ2_init 2 none 2 1 15 [.ref (gZ G + k), .int (nI 14)] (k + 1) h (fun v N' h' => v = none ∧ N' = k + 2 ∧ h' = hu h k (dqO G k z0)) := by
  refine CT.mk "java/util/ArrayDeque" [(0, .ref (gZ G + k)), (1, .int (nI 14))] rfl (by decide) rfl (Nat.le_of_ble_eq_true rfl) ?_
  intro x hR hl hr hnm
  refine v_eq rfl rfl (hu_id he).symm ?_
  refine v_aload_n (pc := 0) 0 dJ2_init_0 rfl rfl ?_
  refine v_callI (pc := 1) (st := []) (kb := k) cn_J1_init (lw_meth q180) q63 q178 q179 rfl kDJ2_42 (rm_ok hR (Nat.le_of_ble_eq_true rfl) (Nat.le_of_ble_eq_true rfl)) (by rw [hR]; decide) rfl rfl (Nat.le_of_ble_eq_true rfl) dJ2_init_1 (fun v' N' h' z => ?_)
  obtain ⟨rfl, rfl, rfl⟩ := z
  refine v_aload_n (pc := 4) 0 dJ2_init_4 rfl rfl ?_
  refine v_iload_n (pc := 5) 1 dJ2_init_5 rfl rfl ?_
  refine v_iconst (pc := 6) (nI 1) dJ2_init_6 (by decide) ?_
  refine v_ic_ge (pc := 7) 14 dJ2_init_7 (by decide) (fun _ => ?_) (fun z => absurd (by decide) z)
  refine v_iload_n (pc := 14) 1 dJ2_init_14 rfl rfl ?_
  refine v_ldc (pc := 15) q182 dJ2_init_15 ?_
  refine v_ic_ne (pc := 17) 25 dJ2_init_17 (by decide) (fun _ => ?_) (fun z => absurd z (by decide))
  refine v_iload_n (pc := 25) 1 dJ2_init_25 rfl rfl ?_
  refine v_iconst (pc := 26) (nI 1) dJ2_init_26 (by decide) ?_
  refine v_iadd (pc := 27) dJ2_init_27 ?_
  refine v_topi (v := nI 15) (by decide) ?_
  refine v_newq (pc := 28) (t0 := 5) (n := 15) rfl (fun C => C.2.2.2.2.1.2.1) q183 (by decide) (by decide) (by rw [hR]; decide) (by rw [hR]; decide) dJ2_init_28 ?_
  refine v_eq rfl rfl (hu_id ((hu_ne (by omega)).trans h1)) ?_
  show V G x "java/util/ArrayDeque" cJ2_init 2 _ 31 [(0, .ref (gZ G + k)), (1, .int (nI 14))] [.ref (gZ G + (k + 1)), .ref (gZ G + k)] (k + 2) (hu h k (.inr (7, [.null, .int (nI 0), .int (nI 0)]))) 1 15
  refine v_put (pc := 31) (ci := 7) (j := 0) (fs := [.null, .int (nI 0), .int (nI 0)]) (T := TJ2) (M := 3) (C := RJ2) rfl in_J2 tyJ2 tyJ2_ok nmJ2 (by decide) q185 rfl rfl rfl rfl rfl (by omega) hu_at (Nat.le_of_ble_eq_true rfl) dJ2_init_31 ?_
  refine v_eq rfl rfl (show _ = hu h k (.inr (7, [.ref (gZ G + (k + 1)), .int (nI 0), .int (nI 0)])) from hu_hu) ?_
  exact v_vret (pc := 34) hr (Nat.le_refl _) (Nat.le_refl _) dJ2_init_34 ⟨rfl, rfl, rfl⟩
set_option maxHeartbeats 8000000 in
theorem cn_X1_init {G : GT} {l : Launch} {h : Nat → va_E} {b : Nat} (he : h b = .inr (1, [.int (nI 0), .null, .null, .null, .null, .null, .null, .null, .null])) (hh : ∀ j, 1 ≤ j → j < 26 → h (b + j) = cTree G b j z0) : CT G l yX1_init cX1_init 1 none 3 25 156 [.ref (gZ G + b)] (b + 1) h (fun v N' h' => v = none ∧ N' = b + 26 ∧ h' = hu h b (cTree G b 0 z0)) := by
  refine CT.mk "ScopeTasks$Tree" [(0, .ref (gZ G + b))] rfl (by decide) rfl (Nat.le_of_ble_eq_true rfl) ?_
  intro x hR hl hr hnm
  refine v_eq rfl rfl (hu_id he).symm ?_
  refine v_aload_n (pc := 0) 0 dX1_init_0 rfl rfl ?_
  refine v_objInit (pc := 1) q97 (by rw [hR]; decide) (by rw [hR]; decide) dX1_init_1 ?_
  refine v_aload_n (pc := 4) 0 dX1_init_4 rfl rfl ?_
  refine v_bipush (pc := 5) (nI 8) dX1_init_5 (by decide) ?_
  refine v_newa (pc := 7) (t0 := 0) (n := 8) (a0 := (8, .inl (fun _ => nI 0))) rfl rfl (fun _ z => z) q123 (fun _ => rfl) (by decide) (by decide) (by rw [hR]; decide) (by rw [hR]; decide) dX1_init_7 ?_
  refine v_eq rfl rfl (hu_id ((hu_ne (by omega)).trans (hh 1 (by decide) (by decide)))) ?_
  show V G x "ScopeTasks$Tree" cX1_init 1 _ 9 [(0, .ref (gZ G + b))] [.ref (gZ G + (b + 1)), .ref (gZ G + b)] (b + 2) (hu h b (.inr (1, [.int (nI 0), .null, .null, .null, .null, .null, .null, .null, .null]))) 1 8
  refine v_putF (pc := 9) (ci := 1) (j := 1) (fs := [.int (nI 0), .null, .null, .null, .null, .null, .null, .null, .null]) (T := TX1) (M := 9) (C := RX1) rfl in_X1 tyX1 tyX1_ok nmX1 (by decide) q129 rfl rfl hnm rfl rfl rfl (by omega) hu_at (Nat.le_of_ble_eq_true rfl) dX1_init_9 ?_
  refine v_eq rfl rfl (show _ = hu h b (.inr (1, [.int (nI 0), .ref (gZ G + (b + 1)), .null, .null, .null, .null, .null, .null, .null])) from hu_hu) ?_
  refine v_aload_n (pc := 12) 0 dX1_init_12 rfl rfl ?_
  refine v_bipush (pc := 13) (nI 8) dX1_init_13 (by decide) ?_
  refine v_newa (pc := 15) (t0 := 0) (n := 8) (a0 := (8, .inl (fun _ => nI 0))) rfl rfl (fun _ z => z) q123 (fun _ => rfl) (by decide) (by decide) (by rw [hR]; decide) (by rw [hR]; decide) dX1_init_15 ?_
  refine v_eq rfl rfl (hu_id ((hu_ne (by omega)).trans (hh 2 (by decide) (by decide)))) ?_
  show V G x "ScopeTasks$Tree" cX1_init 1 _ 17 [(0, .ref (gZ G + b))] [.ref (gZ G + (b + 2)), .ref (gZ G + b)] (b + 3) (hu h b (.inr (1, [.int (nI 0), .ref (gZ G + (b + 1)), .null, .null, .null, .null, .null, .null, .null]))) 2 16
  refine v_putF (pc := 17) (ci := 1) (j := 2) (fs := [.int (nI 0), .ref (gZ G + (b + 1)), .null, .null, .null, .null, .null, .null, .null]) (T := TX1) (M := 9) (C := RX1) rfl in_X1 tyX1 tyX1_ok nmX1 (by decide) q132 rfl rfl hnm rfl rfl rfl (by omega) hu_at (Nat.le_of_ble_eq_true rfl) dX1_init_17 ?_
  refine v_eq rfl rfl (show _ = hu h b (.inr (1, [.int (nI 0), .ref (gZ G + (b + 1)), .ref (gZ G + (b + 2)), .null, .null, .null, .null, .null, .null])) from hu_hu) ?_
  refine v_aload_n (pc := 20) 0 dX1_init_20 rfl rfl ?_
  refine v_bipush (pc := 21) (nI 8) dX1_init_21 (by decide) ?_
  refine v_bipush (pc := 23) (nI 6) dX1_init_23 (by decide) ?_
  refine v_mul (pc := 25) (n := 8) (k := 6) q98 (by decide) (by decide) (by rw [hR]; decide) (by rw [hR]; decide) ((hu_ne (by omega)).trans (hh 3 (by decide) (by decide))) (fun j hj => by rw [show b + 3 + 1 + j = b + (4 + j) by omega, hu_ne (by omega), hh (4 + j) (by omega) (by omega)]; exact cTree_r1 hj) dX1_init_25 ?_
  show V G x "ScopeTasks$Tree" cX1_init 1 _ 29 [(0, .ref (gZ G + b))] [.ref (gZ G + (b + 3)), .ref (gZ G + b)] (b + 12) (hu h b (.inr (1, [.int (nI 0), .ref (gZ G + (b + 1)), .ref (gZ G + (b + 2)), .null, .null, .null, .null, .null, .null]))) 11 72
  refine v_putF (pc := 29) (ci := 1) (j := 3) (fs := [.int (nI 0), .ref (gZ G + (b + 1)), .ref (gZ G + (b + 2)), .null, .null, .null, .null, .null, .null]) (T := TX1) (M := 9) (C := RX1) rfl in_X1 tyX1 tyX1_ok nmX1 (by decide) q135 rfl rfl hnm rfl rfl rfl (by omega) hu_at (Nat.le_of_ble_eq_true rfl) dX1_init_29 ?_
  refine v_eq rfl rfl (show _ = hu h b (.inr (1, [.int (nI 0), .ref (gZ G + (b + 1)), .ref (gZ G + (b + 2)), .ref (gZ G + (b + 3)), .null, .null, .null, .null, .null])) from hu_hu) ?_
  refine v_aload_n (pc := 32) 0 dX1_init_32 rfl rfl ?_
  refine v_bipush (pc := 33) (nI 8) dX1_init_33 (by decide) ?_
  refine v_bipush (pc := 35) (nI 6) dX1_init_35 (by decide) ?_
  refine v_mul (pc := 37) (n := 8) (k := 6) q98 (by decide) (by decide) (by rw [hR]; decide) (by rw [hR]; decide) ((hu_ne (by omega)).trans (hh 12 (by decide) (by decide))) (fun j hj => by rw [show b + 12 + 1 + j = b + (13 + j) by omega, hu_ne (by omega), hh (13 + j) (by omega) (by omega)]; exact cTree_r2 hj) dX1_init_37 ?_
  show V G x "ScopeTasks$Tree" cX1_init 1 _ 41 [(0, .ref (gZ G + b))] [.ref (gZ G + (b + 12)), .ref (gZ G + b)] (b + 21) (hu h b (.inr (1, [.int (nI 0), .ref (gZ G + (b + 1)), .ref (gZ G + (b + 2)), .ref (gZ G + (b + 3)), .null, .null, .null, .null, .null]))) 20 128
  refine v_putF (pc := 41) (ci := 1) (j := 4) (fs := [.int (nI 0), .ref (gZ G + (b + 1)), .ref (gZ G + (b + 2)), .ref (gZ G + (b + 3)), .null, .null, .null, .null, .null]) (T := TX1) (M := 9) (C := RX1) rfl in_X1 tyX1 tyX1_ok nmX1 (by decide) q138 rfl rfl hnm rfl rfl rfl (by omega) hu_at (Nat.le_of_ble_eq_true rfl) dX1_init_41 ?_
  refine v_eq rfl rfl (show _ = hu h b (.inr (1, [.int (nI 0), .ref (gZ G + (b + 1)), .ref (gZ G + (b + 2)), .ref (gZ G + (b + 3)), .ref (gZ G + (b + 12)), .null, .null, .null, .null])) from hu_hu) ?_
  refine v_aload_n (pc := 44) 0 dX1_init_44 rfl rfl ?_
  refine v_bipush (pc := 45) (nI 8) dX1_init_45 (by decide) ?_
  refine v_newa (pc := 47) (t0 := 0) (n := 8) (a0 := (8, .inl (fun _ => nI 0))) rfl rfl (fun _ z => z) q123 (fun _ => rfl) (by decide) (by decide) (by rw [hR]; decide) (by rw [hR]; decide) dX1_init_47 ?_
  refine v_eq rfl rfl (hu_id ((hu_ne (by omega)).trans (hh 21 (by decide) (by decide)))) ?_
  show V G x "ScopeTasks$Tree" cX1_init 1 _ 49 [(0, .ref (gZ G + b))] [.ref (gZ G + (b + 21)), .ref (gZ G + b)] (b + 22) (hu h b (.inr (1, [.int (nI 0), .ref (gZ G + (b + 1)), .ref (gZ G + (b + 2)), .ref (gZ G + (b + 3)), .ref (gZ G + (b + 12)), .null, .null, .null, .null]))) 21 136
  refine v_putF (pc := 49) (ci := 1) (j := 5) (fs := [.int (nI 0), .ref (gZ G + (b + 1)), .ref (gZ G + (b + 2)), .ref (gZ G + (b + 3)), .ref (gZ G + (b + 12)), .null, .null, .null, .null]) (T := TX1) (M := 9) (C := RX1) rfl in_X1 tyX1 tyX1_ok nmX1 (by decide) q141 rfl rfl hnm rfl rfl rfl (by omega) hu_at (Nat.le_of_ble_eq_true rfl) dX1_init_49 ?_
  refine v_eq rfl rfl (show _ = hu h b (.inr (1, [.int (nI 0), .ref (gZ G + (b + 1)), .ref (gZ G + (b + 2)), .ref (gZ G + (b + 3)), .ref (gZ G + (b + 12)), .ref (gZ G + (b + 21)), .null, .null, .null])) from hu_hu) ?_
  refine v_aload_n (pc := 52) 0 dX1_init_52 rfl rfl ?_
  refine v_bipush (pc := 53) (nI 8) dX1_init_53 (by decide) ?_
  refine v_newa (pc := 55) (t0 := 0) (n := 8) (a0 := (8, .inl (fun _ => nI 0))) rfl rfl (fun _ z => z) q123 (fun _ => rfl) (by decide) (by decide) (by rw [hR]; decide) (by rw [hR]; decide) dX1_init_55 ?_
  refine v_eq rfl rfl (hu_id ((hu_ne (by omega)).trans (hh 22 (by decide) (by decide)))) ?_
  show V G x "ScopeTasks$Tree" cX1_init 1 _ 57 [(0, .ref (gZ G + b))] [.ref (gZ G + (b + 22)), .ref (gZ G + b)] (b + 23) (hu h b (.inr (1, [.int (nI 0), .ref (gZ G + (b + 1)), .ref (gZ G + (b + 2)), .ref (gZ G + (b + 3)), .ref (gZ G + (b + 12)), .ref (gZ G + (b + 21)), .null, .null, .null]))) 22 144
  refine v_putF (pc := 57) (ci := 1) (j := 6) (fs := [.int (nI 0), .ref (gZ G + (b + 1)), .ref (gZ G + (b + 2)), .ref (gZ G + (b + 3)), .ref (gZ G + (b + 12)), .ref (gZ G + (b + 21)), .null, .null, .null]) (T := TX1) (M := 9) (C := RX1) rfl in_X1 tyX1 tyX1_ok nmX1 (by decide) q145 rfl rfl hnm rfl rfl rfl (by omega) hu_at (Nat.le_of_ble_eq_true rfl) dX1_init_57 ?_
  refine v_eq rfl rfl (show _ = hu h b (.inr (1, [.int (nI 0), .ref (gZ G + (b + 1)), .ref (gZ G + (b + 2)), .ref (gZ G + (b + 3)), .ref (gZ G + (b + 12)), .ref (gZ G + (b + 21)), .ref (gZ G + (b + 22)), .null, .null])) from hu_hu) ?_
  refine v_aload_n (pc := 60) 0 dX1_init_60 rfl rfl ?_
  refine v_bipush (pc := 61) (nI 8) dX1_init_61 (by decide) ?_
  refine v_newa (pc := 63) (t0 := 0) (n := 8) (a0 := (8, .inl (fun _ => nI 0))) rfl rfl (fun _ z => z) q123 (fun _ => rfl) (by decide) (by decide) (by rw [hR]; decide) (by rw [hR]; decide) dX1_init_63 ?_
  refine v_eq rfl rfl (hu_id ((hu_ne (by omega)).trans (hh 23 (by decide) (by decide)))) ?_
  show V G x "ScopeTasks$Tree" cX1_init 1 _ 65 [(0, .ref (gZ G + b))] [.ref (gZ G + (b + 23)), .ref (gZ G + b)] (b + 24) (hu h b (.inr (1, [.int (nI 0), .ref (gZ G + (b + 1)), .ref (gZ G + (b + 2)), .ref (gZ G + (b + 3)), .ref (gZ G + (b + 12)), .ref (gZ G + (b + 21)), .ref (gZ G + (b + 22)), .null, .null]))) 23 152
  refine v_putF (pc := 65) (ci := 1) (j := 7) (fs := [.int (nI 0), .ref (gZ G + (b + 1)), .ref (gZ G + (b + 2)), .ref (gZ G + (b + 3)), .ref (gZ G + (b + 12)), .ref (gZ G + (b + 21)), .ref (gZ G + (b + 22)), .null, .null]) (T := TX1) (M := 9) (C := RX1) rfl in_X1 tyX1 tyX1_ok nmX1 (by decide) q148 rfl rfl hnm rfl rfl rfl (by omega) hu_at (Nat.le_of_ble_eq_true rfl) dX1_init_65 ?_
  refine v_eq rfl rfl (show _ = hu h b (.inr (1, [.int (nI 0), .ref (gZ G + (b + 1)), .ref (gZ G + (b + 2)), .ref (gZ G + (b + 3)), .ref (gZ G + (b + 12)), .ref (gZ G + (b + 21)), .ref (gZ G + (b + 22)), .ref (gZ G + (b + 23)), .null])) from hu_hu) ?_
  refine v_aload_n (pc := 68) 0 dX1_init_68 rfl rfl ?_
  refine v_new (pc := 69) (C := RJ0) (T := TJ0) (M := 3) (ci := 6) (fs := [.null, .int (nI 0), .int (nI 0)]) rfl in_J0 tyJ0 tyJ0_ok q100 q101 q62 (by decide) (by rw [hR]; decide) (by rw [hR]; decide) dX1_init_69 ?_
  refine v_dup (pc := 72) dX1_init_72 rfl ?_
  refine v_bipush (pc := 73) (nI 8) dX1_init_73 (by decide) ?_
  refine v_callI (pc := 75) (st := [.ref (gZ G + (b + 24)), .ref (gZ G + b)]) (kb := b + 24) (cn_J0_init (k := b + 24) hu_at ((hu_ne (by omega)).trans ((hu_ne (by omega)).trans (hh 25 (by decide) (by decide))))) (lw_meth q104) q62 q102 q103 rfl kDX1_37 (rm_ok hR (Nat.le_of_ble_eq_true rfl) (Nat.le_of_ble_eq_true rfl)) (by rw [hR]; decide) rfl rfl (Nat.le_of_ble_eq_true rfl) dX1_init_75 (fun v' N' h' z => ?_)
  obtain ⟨rfl, rfl, rfl⟩ := z
  refine v_eq rfl rfl (hu_hu.trans (hu_id ((hu_ne (by omega)).trans (hh 24 (by decide) (by decide))))) ?_
  show V G x "ScopeTasks$Tree" cX1_init 1 _ 78 [(0, .ref (gZ G + b))] [.ref (gZ G + (b + 24)), .ref (gZ G + b)] (b + 26) (hu h b (.inr (1, [.int (nI 0), .ref (gZ G + (b + 1)), .ref (gZ G + (b + 2)), .ref (gZ G + (b + 3)), .ref (gZ G + (b + 12)), .ref (gZ G + (b + 21)), .ref (gZ G + (b + 22)), .ref (gZ G + (b + 23)), .null]))) 25 156
  refine v_putF (pc := 78) (ci := 1) (j := 8) (fs := [.int (nI 0), .ref (gZ G + (b + 1)), .ref (gZ G + (b + 2)), .ref (gZ G + (b + 3)), .ref (gZ G + (b + 12)), .ref (gZ G + (b + 21)), .ref (gZ G + (b + 22)), .ref (gZ G + (b + 23)), .null]) (T := TX1) (M := 9) (C := RX1) rfl in_X1 tyX1 tyX1_ok nmX1 (by decide) q151 rfl rfl hnm rfl rfl rfl (by omega) hu_at (Nat.le_of_ble_eq_true rfl) dX1_init_78 ?_
  refine v_eq rfl rfl (show _ = hu h b (.inr (1, [.int (nI 0), .ref (gZ G + (b + 1)), .ref (gZ G + (b + 2)), .ref (gZ G + (b + 3)), .ref (gZ G + (b + 12)), .ref (gZ G + (b + 21)), .ref (gZ G + (b + 22)), .ref (gZ G + (b + 23)), .ref (gZ G + (b + 24))])) from hu_hu) ?_
  exact v_vret (pc := 81) hr (Nat.le_refl _) (Nat.le_refl _) dX1_init_81 ⟨rfl, rfl, rfl⟩
set_option maxHeartbeats 8000000 in
theorem cn_X2_init {G : GT} {l : Launch} {h : Nat → va_E} {b : Nat} (he : h b = .inr (2, [.int (nI 0), .null, .null, .null, .null, .null, .null, .null, .null, .null, .null, .null, .null, .null, .null, .null, .int (nI 0), .null])) (hh : ∀ j, 1 ≤ j → j < 28 → h (b + j) = cRun G b j z0) : CT G l yX2_init cX2_init 2 none 3 27 324 [.ref (gZ G + b), .ref (gZ G + 0)] (b + 1) h (fun v N' h' => v = none ∧ N' = b + 28 ∧ h' = hu h b (cRun G b 0 z0)) := by
  refine CT.mk "ScopeTasks$Run" [(0, .ref (gZ G + b)), (1, .ref (gZ G + 0))] rfl (by decide) rfl (Nat.le_of_ble_eq_true rfl) ?_
  intro x hR hl hr hnm
  refine v_eq rfl rfl (hu_id he).symm ?_
  refine v_aload_n (pc := 0) 0 dX2_init_0 rfl rfl ?_
  refine v_aload_n (pc := 1) 1 dX2_init_1 rfl rfl ?_
  refine v_putF (pc := 2) (ci := 2) (j := 17) (fs := [.int (nI 0), .null, .null, .null, .null, .null, .null, .null, .null, .null, .null, .null, .null, .null, .null, .null, .int (nI 0), .null]) (T := TX2) (M := 18) (C := RX2) rfl in_X2 tyX2 tyX2_ok nmX2 (by decide) q236 rfl rfl hnm rfl rfl rfl (by omega) hu_at (Nat.le_of_ble_eq_true rfl) dX2_init_2 ?_
  refine v_eq rfl rfl (show _ = hu h b (.inr (2, [.int (nI 0), .null, .null, .null, .null, .null, .null, .null, .null, .null, .null, .null, .null, .null, .null, .null, .int (nI 0), .ref (gZ G + 0)])) from hu_hu) ?_
  refine v_aload_n (pc := 5) 0 dX2_init_5 rfl rfl ?_
  refine v_objInit (pc := 6) q200 (by rw [hR]; decide) (by rw [hR]; decide) dX2_init_6 ?_
  refine v_aload_n (pc := 9) 0 dX2_init_9 rfl rfl ?_
  refine v_new (pc := 10) (C := RJ0) (T := TJ0) (M := 3) (ci := 6) (fs := [.null, .int (nI 0), .int (nI 0)]) rfl in_J0 tyJ0 tyJ0_ok q201 q101 q62 (by decide) (by rw [hR]; decide) (by rw [hR]; decide) dX2_init_10 ?_
  refine v_dup (pc := 13) dX2_init_13 rfl ?_
  refine v_bipush (pc := 14) (nI 8) dX2_init_14 (by decide) ?_
  refine v_callI (pc := 16) (st := [.ref (gZ G + (b + 1)), .ref (gZ G + b)]) (kb := b + 1) (cn_J0_init (k := b + 1) hu_at ((hu_ne (by omega)).trans ((hu_ne (by omega)).trans (hh 2 (by decide) (by decide))))) (lw_meth q104) q62 q202 q103 rfl kDX2_17 (rm_ok hR (Nat.le_of_ble_eq_true rfl) (Nat.le_of_ble_eq_true rfl)) (by rw [hR]; decide) rfl rfl (Nat.le_of_ble_eq_true rfl) dX2_init_16 (fun v' N' h' z => ?_)
  obtain ⟨rfl, rfl, rfl⟩ := z
  refine v_eq rfl rfl (hu_hu.trans (hu_id ((hu_ne (by omega)).trans (hh 1 (by decide) (by decide))))) ?_
  show V G x "ScopeTasks$Run" cX2_init 2 _ 19 [(0, .ref (gZ G + b)), (1, .ref (gZ G + 0))] [.ref (gZ G + (b + 1)), .ref (gZ G + b)] (b + 3) (hu h b (.inr (2, [.int (nI 0), .null, .null, .null, .null, .null, .null, .null, .null, .null, .null, .null, .null, .null, .null, .null, .int (nI 0), .ref (gZ G + 0)]))) 2 4
  refine v_putF (pc := 19) (ci := 2) (j := 1) (fs := [.int (nI 0), .null, .null, .null, .null, .null, .null, .null, .null, .null, .null, .null, .null, .null, .null, .null, .int (nI 0), .ref (gZ G + 0)]) (T := TX2) (M := 18) (C := RX2) rfl in_X2 tyX2 tyX2_ok nmX2 (by decide) q206 rfl rfl hnm rfl rfl rfl (by omega) hu_at (Nat.le_of_ble_eq_true rfl) dX2_init_19 ?_
  refine v_eq rfl rfl (show _ = hu h b (.inr (2, [.int (nI 0), .ref (gZ G + (b + 1)), .null, .null, .null, .null, .null, .null, .null, .null, .null, .null, .null, .null, .null, .null, .int (nI 0), .ref (gZ G + 0)])) from hu_hu) ?_
  refine v_aload_n (pc := 22) 0 dX2_init_22 rfl rfl ?_
  refine v_new (pc := 23) (C := RJ0) (T := TJ0) (M := 3) (ci := 6) (fs := [.null, .int (nI 0), .int (nI 0)]) rfl in_J0 tyJ0 tyJ0_ok q201 q101 q62 (by decide) (by rw [hR]; decide) (by rw [hR]; decide) dX2_init_23 ?_
  refine v_dup (pc := 26) dX2_init_26 rfl ?_
  refine v_bipush (pc := 27) (nI 8) dX2_init_27 (by decide) ?_
  refine v_callI (pc := 29) (st := [.ref (gZ G + (b + 3)), .ref (gZ G + b)]) (kb := b + 3) (cn_J0_init (k := b + 3) hu_at ((hu_ne (by omega)).trans ((hu_ne (by omega)).trans (hh 4 (by decide) (by decide))))) (lw_meth q104) q62 q202 q103 rfl kDX2_17 (rm_ok hR (Nat.le_of_ble_eq_true rfl) (Nat.le_of_ble_eq_true rfl)) (by rw [hR]; decide) rfl rfl (Nat.le_of_ble_eq_true rfl) dX2_init_29 (fun v' N' h' z => ?_)
  obtain ⟨rfl, rfl, rfl⟩ := z
  refine v_eq rfl rfl (hu_hu.trans (hu_id ((hu_ne (by omega)).trans (hh 3 (by decide) (by decide))))) ?_
  show V G x "ScopeTasks$Run" cX2_init 2 _ 32 [(0, .ref (gZ G + b)), (1, .ref (gZ G + 0))] [.ref (gZ G + (b + 3)), .ref (gZ G + b)] (b + 5) (hu h b (.inr (2, [.int (nI 0), .ref (gZ G + (b + 1)), .null, .null, .null, .null, .null, .null, .null, .null, .null, .null, .null, .null, .null, .null, .int (nI 0), .ref (gZ G + 0)]))) 4 8
  refine v_putF (pc := 32) (ci := 2) (j := 2) (fs := [.int (nI 0), .ref (gZ G + (b + 1)), .null, .null, .null, .null, .null, .null, .null, .null, .null, .null, .null, .null, .null, .null, .int (nI 0), .ref (gZ G + 0)]) (T := TX2) (M := 18) (C := RX2) rfl in_X2 tyX2 tyX2_ok nmX2 (by decide) q208 rfl rfl hnm rfl rfl rfl (by omega) hu_at (Nat.le_of_ble_eq_true rfl) dX2_init_32 ?_
  refine v_eq rfl rfl (show _ = hu h b (.inr (2, [.int (nI 0), .ref (gZ G + (b + 1)), .ref (gZ G + (b + 3)), .null, .null, .null, .null, .null, .null, .null, .null, .null, .null, .null, .null, .null, .int (nI 0), .ref (gZ G + 0)])) from hu_hu) ?_
  refine v_aload_n (pc := 35) 0 dX2_init_35 rfl rfl ?_
  refine v_new (pc := 36) (C := RJ0) (T := TJ0) (M := 3) (ci := 6) (fs := [.null, .int (nI 0), .int (nI 0)]) rfl in_J0 tyJ0 tyJ0_ok q201 q101 q62 (by decide) (by rw [hR]; decide) (by rw [hR]; decide) dX2_init_36 ?_
  refine v_dup (pc := 39) dX2_init_39 rfl ?_
  refine v_bipush (pc := 40) (nI 8) dX2_init_40 (by decide) ?_
  refine v_callI (pc := 42) (st := [.ref (gZ G + (b + 5)), .ref (gZ G + b)]) (kb := b + 5) (cn_J0_init (k := b + 5) hu_at ((hu_ne (by omega)).trans ((hu_ne (by omega)).trans (hh 6 (by decide) (by decide))))) (lw_meth q104) q62 q202 q103 rfl kDX2_17 (rm_ok hR (Nat.le_of_ble_eq_true rfl) (Nat.le_of_ble_eq_true rfl)) (by rw [hR]; decide) rfl rfl (Nat.le_of_ble_eq_true rfl) dX2_init_42 (fun v' N' h' z => ?_)
  obtain ⟨rfl, rfl, rfl⟩ := z
  refine v_eq rfl rfl (hu_hu.trans (hu_id ((hu_ne (by omega)).trans (hh 5 (by decide) (by decide))))) ?_
  show V G x "ScopeTasks$Run" cX2_init 2 _ 45 [(0, .ref (gZ G + b)), (1, .ref (gZ G + 0))] [.ref (gZ G + (b + 5)), .ref (gZ G + b)] (b + 7) (hu h b (.inr (2, [.int (nI 0), .ref (gZ G + (b + 1)), .ref (gZ G + (b + 3)), .null, .null, .null, .null, .null, .null, .null, .null, .null, .null, .null, .null, .null, .int (nI 0), .ref (gZ G + 0)]))) 6 12
  refine v_putF (pc := 45) (ci := 2) (j := 3) (fs := [.int (nI 0), .ref (gZ G + (b + 1)), .ref (gZ G + (b + 3)), .null, .null, .null, .null, .null, .null, .null, .null, .null, .null, .null, .null, .null, .int (nI 0), .ref (gZ G + 0)]) (T := TX2) (M := 18) (C := RX2) rfl in_X2 tyX2 tyX2_ok nmX2 (by decide) q210 rfl rfl hnm rfl rfl rfl (by omega) hu_at (Nat.le_of_ble_eq_true rfl) dX2_init_45 ?_
  refine v_eq rfl rfl (show _ = hu h b (.inr (2, [.int (nI 0), .ref (gZ G + (b + 1)), .ref (gZ G + (b + 3)), .ref (gZ G + (b + 5)), .null, .null, .null, .null, .null, .null, .null, .null, .null, .null, .null, .null, .int (nI 0), .ref (gZ G + 0)])) from hu_hu) ?_
  refine v_aload_n (pc := 48) 0 dX2_init_48 rfl rfl ?_
  refine v_new (pc := 49) (C := RJ0) (T := TJ0) (M := 3) (ci := 6) (fs := [.null, .int (nI 0), .int (nI 0)]) rfl in_J0 tyJ0 tyJ0_ok q201 q101 q62 (by decide) (by rw [hR]; decide) (by rw [hR]; decide) dX2_init_49 ?_
  refine v_dup (pc := 52) dX2_init_52 rfl ?_
  refine v_bipush (pc := 53) (nI 8) dX2_init_53 (by decide) ?_
  refine v_callI (pc := 55) (st := [.ref (gZ G + (b + 7)), .ref (gZ G + b)]) (kb := b + 7) (cn_J0_init (k := b + 7) hu_at ((hu_ne (by omega)).trans ((hu_ne (by omega)).trans (hh 8 (by decide) (by decide))))) (lw_meth q104) q62 q202 q103 rfl kDX2_17 (rm_ok hR (Nat.le_of_ble_eq_true rfl) (Nat.le_of_ble_eq_true rfl)) (by rw [hR]; decide) rfl rfl (Nat.le_of_ble_eq_true rfl) dX2_init_55 (fun v' N' h' z => ?_)
  obtain ⟨rfl, rfl, rfl⟩ := z
  refine v_eq rfl rfl (hu_hu.trans (hu_id ((hu_ne (by omega)).trans (hh 7 (by decide) (by decide))))) ?_
  show V G x "ScopeTasks$Run" cX2_init 2 _ 58 [(0, .ref (gZ G + b)), (1, .ref (gZ G + 0))] [.ref (gZ G + (b + 7)), .ref (gZ G + b)] (b + 9) (hu h b (.inr (2, [.int (nI 0), .ref (gZ G + (b + 1)), .ref (gZ G + (b + 3)), .ref (gZ G + (b + 5)), .null, .null, .null, .null, .null, .null, .null, .null, .null, .null, .null, .null, .int (nI 0), .ref (gZ G + 0)]))) 8 16
  refine v_putF (pc := 58) (ci := 2) (j := 4) (fs := [.int (nI 0), .ref (gZ G + (b + 1)), .ref (gZ G + (b + 3)), .ref (gZ G + (b + 5)), .null, .null, .null, .null, .null, .null, .null, .null, .null, .null, .null, .null, .int (nI 0), .ref (gZ G + 0)]) (T := TX2) (M := 18) (C := RX2) rfl in_X2 tyX2 tyX2_ok nmX2 (by decide) q212 rfl rfl hnm rfl rfl rfl (by omega) hu_at (Nat.le_of_ble_eq_true rfl) dX2_init_58 ?_
  refine v_eq rfl rfl (show _ = hu h b (.inr (2, [.int (nI 0), .ref (gZ G + (b + 1)), .ref (gZ G + (b + 3)), .ref (gZ G + (b + 5)), .ref (gZ G + (b + 7)), .null, .null, .null, .null, .null, .null, .null, .null, .null, .null, .null, .int (nI 0), .ref (gZ G + 0)])) from hu_hu) ?_
  refine v_aload_n (pc := 61) 0 dX2_init_61 rfl rfl ?_
  refine v_bipush (pc := 62) (nI 8) dX2_init_62 (by decide) ?_
  refine v_newa (pc := 64) (t0 := 0) (n := 8) (a0 := (8, .inl (fun _ => nI 0))) rfl rfl (fun _ z => z) q123 (fun _ => rfl) (by decide) (by decide) (by rw [hR]; decide) (by rw [hR]; decide) dX2_init_64 ?_
  refine v_eq rfl rfl (hu_id ((hu_ne (by omega)).trans (hh 9 (by decide) (by decide)))) ?_
  show V G x "ScopeTasks$Run" cX2_init 2 _ 66 [(0, .ref (gZ G + b)), (1, .ref (gZ G + 0))] [.ref (gZ G + (b + 9)), .ref (gZ G + b)] (b + 10) (hu h b (.inr (2, [.int (nI 0), .ref (gZ G + (b + 1)), .ref (gZ G + (b + 3)), .ref (gZ G + (b + 5)), .ref (gZ G + (b + 7)), .null, .null, .null, .null, .null, .null, .null, .null, .null, .null, .null, .int (nI 0), .ref (gZ G + 0)]))) 9 24
  refine v_putF (pc := 66) (ci := 2) (j := 5) (fs := [.int (nI 0), .ref (gZ G + (b + 1)), .ref (gZ G + (b + 3)), .ref (gZ G + (b + 5)), .ref (gZ G + (b + 7)), .null, .null, .null, .null, .null, .null, .null, .null, .null, .null, .null, .int (nI 0), .ref (gZ G + 0)]) (T := TX2) (M := 18) (C := RX2) rfl in_X2 tyX2 tyX2_ok nmX2 (by decide) q214 rfl rfl hnm rfl rfl rfl (by omega) hu_at (Nat.le_of_ble_eq_true rfl) dX2_init_66 ?_
  refine v_eq rfl rfl (show _ = hu h b (.inr (2, [.int (nI 0), .ref (gZ G + (b + 1)), .ref (gZ G + (b + 3)), .ref (gZ G + (b + 5)), .ref (gZ G + (b + 7)), .ref (gZ G + (b + 9)), .null, .null, .null, .null, .null, .null, .null, .null, .null, .null, .int (nI 0), .ref (gZ G + 0)])) from hu_hu) ?_
  refine v_aload_n (pc := 69) 0 dX2_init_69 rfl rfl ?_
  refine v_bipush (pc := 70) (nI 8) dX2_init_70 (by decide) ?_
  refine v_newa (pc := 72) (t0 := 0) (n := 8) (a0 := (8, .inl (fun _ => nI 0))) rfl rfl (fun _ z => z) q123 (fun _ => rfl) (by decide) (by decide) (by rw [hR]; decide) (by rw [hR]; decide) dX2_init_72 ?_
  refine v_eq rfl rfl (hu_id ((hu_ne (by omega)).trans (hh 10 (by decide) (by decide)))) ?_
  show V G x "ScopeTasks$Run" cX2_init 2 _ 74 [(0, .ref (gZ G + b)), (1, .ref (gZ G + 0))] [.ref (gZ G + (b + 10)), .ref (gZ G + b)] (b + 11) (hu h b (.inr (2, [.int (nI 0), .ref (gZ G + (b + 1)), .ref (gZ G + (b + 3)), .ref (gZ G + (b + 5)), .ref (gZ G + (b + 7)), .ref (gZ G + (b + 9)), .null, .null, .null, .null, .null, .null, .null, .null, .null, .null, .int (nI 0), .ref (gZ G + 0)]))) 10 32
  refine v_putF (pc := 74) (ci := 2) (j := 6) (fs := [.int (nI 0), .ref (gZ G + (b + 1)), .ref (gZ G + (b + 3)), .ref (gZ G + (b + 5)), .ref (gZ G + (b + 7)), .ref (gZ G + (b + 9)), .null, .null, .null, .null, .null, .null, .null, .null, .null, .null, .int (nI 0), .ref (gZ G + 0)]) (T := TX2) (M := 18) (C := RX2) rfl in_X2 tyX2 tyX2_ok nmX2 (by decide) q216 rfl rfl hnm rfl rfl rfl (by omega) hu_at (Nat.le_of_ble_eq_true rfl) dX2_init_74 ?_
  refine v_eq rfl rfl (show _ = hu h b (.inr (2, [.int (nI 0), .ref (gZ G + (b + 1)), .ref (gZ G + (b + 3)), .ref (gZ G + (b + 5)), .ref (gZ G + (b + 7)), .ref (gZ G + (b + 9)), .ref (gZ G + (b + 10)), .null, .null, .null, .null, .null, .null, .null, .null, .null, .int (nI 0), .ref (gZ G + 0)])) from hu_hu) ?_
  refine v_aload_n (pc := 77) 0 dX2_init_77 rfl rfl ?_
  refine v_bipush (pc := 78) (nI 8) dX2_init_78 (by decide) ?_
  refine v_newa (pc := 80) (t0 := 0) (n := 8) (a0 := (8, .inl (fun _ => nI 0))) rfl rfl (fun _ z => z) q123 (fun _ => rfl) (by decide) (by decide) (by rw [hR]; decide) (by rw [hR]; decide) dX2_init_80 ?_
  refine v_eq rfl rfl (hu_id ((hu_ne (by omega)).trans (hh 11 (by decide) (by decide)))) ?_
  show V G x "ScopeTasks$Run" cX2_init 2 _ 82 [(0, .ref (gZ G + b)), (1, .ref (gZ G + 0))] [.ref (gZ G + (b + 11)), .ref (gZ G + b)] (b + 12) (hu h b (.inr (2, [.int (nI 0), .ref (gZ G + (b + 1)), .ref (gZ G + (b + 3)), .ref (gZ G + (b + 5)), .ref (gZ G + (b + 7)), .ref (gZ G + (b + 9)), .ref (gZ G + (b + 10)), .null, .null, .null, .null, .null, .null, .null, .null, .null, .int (nI 0), .ref (gZ G + 0)]))) 11 40
  refine v_putF (pc := 82) (ci := 2) (j := 7) (fs := [.int (nI 0), .ref (gZ G + (b + 1)), .ref (gZ G + (b + 3)), .ref (gZ G + (b + 5)), .ref (gZ G + (b + 7)), .ref (gZ G + (b + 9)), .ref (gZ G + (b + 10)), .null, .null, .null, .null, .null, .null, .null, .null, .null, .int (nI 0), .ref (gZ G + 0)]) (T := TX2) (M := 18) (C := RX2) rfl in_X2 tyX2 tyX2_ok nmX2 (by decide) q218 rfl rfl hnm rfl rfl rfl (by omega) hu_at (Nat.le_of_ble_eq_true rfl) dX2_init_82 ?_
  refine v_eq rfl rfl (show _ = hu h b (.inr (2, [.int (nI 0), .ref (gZ G + (b + 1)), .ref (gZ G + (b + 3)), .ref (gZ G + (b + 5)), .ref (gZ G + (b + 7)), .ref (gZ G + (b + 9)), .ref (gZ G + (b + 10)), .ref (gZ G + (b + 11)), .null, .null, .null, .null, .null, .null, .null, .null, .int (nI 0), .ref (gZ G + 0)])) from hu_hu) ?_
  refine v_aload_n (pc := 85) 0 dX2_init_85 rfl rfl ?_
  refine v_bipush (pc := 86) (nI 8) dX2_init_86 (by decide) ?_
  refine v_newa (pc := 88) (t0 := 0) (n := 8) (a0 := (8, .inl (fun _ => nI 0))) rfl rfl (fun _ z => z) q123 (fun _ => rfl) (by decide) (by decide) (by rw [hR]; decide) (by rw [hR]; decide) dX2_init_88 ?_
  refine v_eq rfl rfl (hu_id ((hu_ne (by omega)).trans (hh 12 (by decide) (by decide)))) ?_
  show V G x "ScopeTasks$Run" cX2_init 2 _ 90 [(0, .ref (gZ G + b)), (1, .ref (gZ G + 0))] [.ref (gZ G + (b + 12)), .ref (gZ G + b)] (b + 13) (hu h b (.inr (2, [.int (nI 0), .ref (gZ G + (b + 1)), .ref (gZ G + (b + 3)), .ref (gZ G + (b + 5)), .ref (gZ G + (b + 7)), .ref (gZ G + (b + 9)), .ref (gZ G + (b + 10)), .ref (gZ G + (b + 11)), .null, .null, .null, .null, .null, .null, .null, .null, .int (nI 0), .ref (gZ G + 0)]))) 12 48
  refine v_putF (pc := 90) (ci := 2) (j := 8) (fs := [.int (nI 0), .ref (gZ G + (b + 1)), .ref (gZ G + (b + 3)), .ref (gZ G + (b + 5)), .ref (gZ G + (b + 7)), .ref (gZ G + (b + 9)), .ref (gZ G + (b + 10)), .ref (gZ G + (b + 11)), .null, .null, .null, .null, .null, .null, .null, .null, .int (nI 0), .ref (gZ G + 0)]) (T := TX2) (M := 18) (C := RX2) rfl in_X2 tyX2 tyX2_ok nmX2 (by decide) q219 rfl rfl hnm rfl rfl rfl (by omega) hu_at (Nat.le_of_ble_eq_true rfl) dX2_init_90 ?_
  refine v_eq rfl rfl (show _ = hu h b (.inr (2, [.int (nI 0), .ref (gZ G + (b + 1)), .ref (gZ G + (b + 3)), .ref (gZ G + (b + 5)), .ref (gZ G + (b + 7)), .ref (gZ G + (b + 9)), .ref (gZ G + (b + 10)), .ref (gZ G + (b + 11)), .ref (gZ G + (b + 12)), .null, .null, .null, .null, .null, .null, .null, .int (nI 0), .ref (gZ G + 0)])) from hu_hu) ?_
  refine v_aload_n (pc := 93) 0 dX2_init_93 rfl rfl ?_
  refine v_bipush (pc := 94) (nI 8) dX2_init_94 (by decide) ?_
  refine v_newa (pc := 96) (t0 := 0) (n := 8) (a0 := (8, .inl (fun _ => nI 0))) rfl rfl (fun _ z => z) q123 (fun _ => rfl) (by decide) (by decide) (by rw [hR]; decide) (by rw [hR]; decide) dX2_init_96 ?_
  refine v_eq rfl rfl (hu_id ((hu_ne (by omega)).trans (hh 13 (by decide) (by decide)))) ?_
  show V G x "ScopeTasks$Run" cX2_init 2 _ 98 [(0, .ref (gZ G + b)), (1, .ref (gZ G + 0))] [.ref (gZ G + (b + 13)), .ref (gZ G + b)] (b + 14) (hu h b (.inr (2, [.int (nI 0), .ref (gZ G + (b + 1)), .ref (gZ G + (b + 3)), .ref (gZ G + (b + 5)), .ref (gZ G + (b + 7)), .ref (gZ G + (b + 9)), .ref (gZ G + (b + 10)), .ref (gZ G + (b + 11)), .ref (gZ G + (b + 12)), .null, .null, .null, .null, .null, .null, .null, .int (nI 0), .ref (gZ G + 0)]))) 13 56
  refine v_putF (pc := 98) (ci := 2) (j := 9) (fs := [.int (nI 0), .ref (gZ G + (b + 1)), .ref (gZ G + (b + 3)), .ref (gZ G + (b + 5)), .ref (gZ G + (b + 7)), .ref (gZ G + (b + 9)), .ref (gZ G + (b + 10)), .ref (gZ G + (b + 11)), .ref (gZ G + (b + 12)), .null, .null, .null, .null, .null, .null, .null, .int (nI 0), .ref (gZ G + 0)]) (T := TX2) (M := 18) (C := RX2) rfl in_X2 tyX2 tyX2_ok nmX2 (by decide) q221 rfl rfl hnm rfl rfl rfl (by omega) hu_at (Nat.le_of_ble_eq_true rfl) dX2_init_98 ?_
  refine v_eq rfl rfl (show _ = hu h b (.inr (2, [.int (nI 0), .ref (gZ G + (b + 1)), .ref (gZ G + (b + 3)), .ref (gZ G + (b + 5)), .ref (gZ G + (b + 7)), .ref (gZ G + (b + 9)), .ref (gZ G + (b + 10)), .ref (gZ G + (b + 11)), .ref (gZ G + (b + 12)), .ref (gZ G + (b + 13)), .null, .null, .null, .null, .null, .null, .int (nI 0), .ref (gZ G + 0)])) from hu_hu) ?_
  refine v_aload_n (pc := 101) 0 dX2_init_101 rfl rfl ?_
  refine v_bipush (pc := 102) (nI 8) dX2_init_102 (by decide) ?_
  refine v_newa (pc := 104) (t0 := 0) (n := 8) (a0 := (8, .inl (fun _ => nI 0))) rfl rfl (fun _ z => z) q123 (fun _ => rfl) (by decide) (by decide) (by rw [hR]; decide) (by rw [hR]; decide) dX2_init_104 ?_
  refine v_eq rfl rfl (hu_id ((hu_ne (by omega)).trans (hh 14 (by decide) (by decide)))) ?_
  show V G x "ScopeTasks$Run" cX2_init 2 _ 106 [(0, .ref (gZ G + b)), (1, .ref (gZ G + 0))] [.ref (gZ G + (b + 14)), .ref (gZ G + b)] (b + 15) (hu h b (.inr (2, [.int (nI 0), .ref (gZ G + (b + 1)), .ref (gZ G + (b + 3)), .ref (gZ G + (b + 5)), .ref (gZ G + (b + 7)), .ref (gZ G + (b + 9)), .ref (gZ G + (b + 10)), .ref (gZ G + (b + 11)), .ref (gZ G + (b + 12)), .ref (gZ G + (b + 13)), .null, .null, .null, .null, .null, .null, .int (nI 0), .ref (gZ G + 0)]))) 14 64
  refine v_putF (pc := 106) (ci := 2) (j := 10) (fs := [.int (nI 0), .ref (gZ G + (b + 1)), .ref (gZ G + (b + 3)), .ref (gZ G + (b + 5)), .ref (gZ G + (b + 7)), .ref (gZ G + (b + 9)), .ref (gZ G + (b + 10)), .ref (gZ G + (b + 11)), .ref (gZ G + (b + 12)), .ref (gZ G + (b + 13)), .null, .null, .null, .null, .null, .null, .int (nI 0), .ref (gZ G + 0)]) (T := TX2) (M := 18) (C := RX2) rfl in_X2 tyX2 tyX2_ok nmX2 (by decide) q222 rfl rfl hnm rfl rfl rfl (by omega) hu_at (Nat.le_of_ble_eq_true rfl) dX2_init_106 ?_
  refine v_eq rfl rfl (show _ = hu h b (.inr (2, [.int (nI 0), .ref (gZ G + (b + 1)), .ref (gZ G + (b + 3)), .ref (gZ G + (b + 5)), .ref (gZ G + (b + 7)), .ref (gZ G + (b + 9)), .ref (gZ G + (b + 10)), .ref (gZ G + (b + 11)), .ref (gZ G + (b + 12)), .ref (gZ G + (b + 13)), .ref (gZ G + (b + 14)), .null, .null, .null, .null, .null, .int (nI 0), .ref (gZ G + 0)])) from hu_hu) ?_
  refine v_aload_n (pc := 109) 0 dX2_init_109 rfl rfl ?_
  refine v_bipush (pc := 110) (nI 8) dX2_init_110 (by decide) ?_
  refine v_newa (pc := 112) (t0 := 0) (n := 8) (a0 := (8, .inl (fun _ => nI 0))) rfl rfl (fun _ z => z) q123 (fun _ => rfl) (by decide) (by decide) (by rw [hR]; decide) (by rw [hR]; decide) dX2_init_112 ?_
  refine v_eq rfl rfl (hu_id ((hu_ne (by omega)).trans (hh 15 (by decide) (by decide)))) ?_
  show V G x "ScopeTasks$Run" cX2_init 2 _ 114 [(0, .ref (gZ G + b)), (1, .ref (gZ G + 0))] [.ref (gZ G + (b + 15)), .ref (gZ G + b)] (b + 16) (hu h b (.inr (2, [.int (nI 0), .ref (gZ G + (b + 1)), .ref (gZ G + (b + 3)), .ref (gZ G + (b + 5)), .ref (gZ G + (b + 7)), .ref (gZ G + (b + 9)), .ref (gZ G + (b + 10)), .ref (gZ G + (b + 11)), .ref (gZ G + (b + 12)), .ref (gZ G + (b + 13)), .ref (gZ G + (b + 14)), .null, .null, .null, .null, .null, .int (nI 0), .ref (gZ G + 0)]))) 15 72
  refine v_putF (pc := 114) (ci := 2) (j := 11) (fs := [.int (nI 0), .ref (gZ G + (b + 1)), .ref (gZ G + (b + 3)), .ref (gZ G + (b + 5)), .ref (gZ G + (b + 7)), .ref (gZ G + (b + 9)), .ref (gZ G + (b + 10)), .ref (gZ G + (b + 11)), .ref (gZ G + (b + 12)), .ref (gZ G + (b + 13)), .ref (gZ G + (b + 14)), .null, .null, .null, .null, .null, .int (nI 0), .ref (gZ G + 0)]) (T := TX2) (M := 18) (C := RX2) rfl in_X2 tyX2 tyX2_ok nmX2 (by decide) q224 rfl rfl hnm rfl rfl rfl (by omega) hu_at (Nat.le_of_ble_eq_true rfl) dX2_init_114 ?_
  refine v_eq rfl rfl (show _ = hu h b (.inr (2, [.int (nI 0), .ref (gZ G + (b + 1)), .ref (gZ G + (b + 3)), .ref (gZ G + (b + 5)), .ref (gZ G + (b + 7)), .ref (gZ G + (b + 9)), .ref (gZ G + (b + 10)), .ref (gZ G + (b + 11)), .ref (gZ G + (b + 12)), .ref (gZ G + (b + 13)), .ref (gZ G + (b + 14)), .ref (gZ G + (b + 15)), .null, .null, .null, .null, .int (nI 0), .ref (gZ G + 0)])) from hu_hu) ?_
  refine v_aload_n (pc := 117) 0 dX2_init_117 rfl rfl ?_
  refine v_bipush (pc := 118) (nI 8) dX2_init_118 (by decide) ?_
  refine v_bipush (pc := 120) (nI 8) dX2_init_120 (by decide) ?_
  refine v_mul (pc := 122) (n := 8) (k := 8) q203 (by decide) (by decide) (by rw [hR]; decide) (by rw [hR]; decide) ((hu_ne (by omega)).trans (hh 16 (by decide) (by decide))) (fun j hj => by rw [show b + 16 + 1 + j = b + (17 + j) by omega, hu_ne (by omega), hh (17 + j) (by omega) (by omega)]; exact cRun_r hj) dX2_init_122 ?_
  show V G x "ScopeTasks$Run" cX2_init 2 _ 126 [(0, .ref (gZ G + b)), (1, .ref (gZ G + 0))] [.ref (gZ G + (b + 16)), .ref (gZ G + b)] (b + 25) (hu h b (.inr (2, [.int (nI 0), .ref (gZ G + (b + 1)), .ref (gZ G + (b + 3)), .ref (gZ G + (b + 5)), .ref (gZ G + (b + 7)), .ref (gZ G + (b + 9)), .ref (gZ G + (b + 10)), .ref (gZ G + (b + 11)), .ref (gZ G + (b + 12)), .ref (gZ G + (b + 13)), .ref (gZ G + (b + 14)), .ref (gZ G + (b + 15)), .null, .null, .null, .null, .int (nI 0), .ref (gZ G + 0)]))) 24 144
  refine v_putF (pc := 126) (ci := 2) (j := 12) (fs := [.int (nI 0), .ref (gZ G + (b + 1)), .ref (gZ G + (b + 3)), .ref (gZ G + (b + 5)), .ref (gZ G + (b + 7)), .ref (gZ G + (b + 9)), .ref (gZ G + (b + 10)), .ref (gZ G + (b + 11)), .ref (gZ G + (b + 12)), .ref (gZ G + (b + 13)), .ref (gZ G + (b + 14)), .ref (gZ G + (b + 15)), .null, .null, .null, .null, .int (nI 0), .ref (gZ G + 0)]) (T := TX2) (M := 18) (C := RX2) rfl in_X2 tyX2 tyX2_ok nmX2 (by decide) q226 rfl rfl hnm rfl rfl rfl (by omega) hu_at (Nat.le_of_ble_eq_true rfl) dX2_init_126 ?_
  refine v_eq rfl rfl (show _ = hu h b (.inr (2, [.int (nI 0), .ref (gZ G + (b + 1)), .ref (gZ G + (b + 3)), .ref (gZ G + (b + 5)), .ref (gZ G + (b + 7)), .ref (gZ G + (b + 9)), .ref (gZ G + (b + 10)), .ref (gZ G + (b + 11)), .ref (gZ G + (b + 12)), .ref (gZ G + (b + 13)), .ref (gZ G + (b + 14)), .ref (gZ G + (b + 15)), .ref (gZ G + (b + 16)), .null, .null, .null, .int (nI 0), .ref (gZ G + 0)])) from hu_hu) ?_
  refine v_aload_n (pc := 129) 0 dX2_init_129 rfl rfl ?_
  refine v_bipush (pc := 130) (nI 60) dX2_init_130 (by decide) ?_
  refine v_newa (pc := 132) (t0 := 0) (n := 60) (a0 := (60, .inl (fun _ => nI 0))) rfl rfl (fun _ z => z) q123 (fun _ => rfl) (by decide) (by decide) (by rw [hR]; decide) (by rw [hR]; decide) dX2_init_132 ?_
  refine v_eq rfl rfl (hu_id ((hu_ne (by omega)).trans (hh 25 (by decide) (by decide)))) ?_
  show V G x "ScopeTasks$Run" cX2_init 2 _ 134 [(0, .ref (gZ G + b)), (1, .ref (gZ G + 0))] [.ref (gZ G + (b + 25)), .ref (gZ G + b)] (b + 26) (hu h b (.inr (2, [.int (nI 0), .ref (gZ G + (b + 1)), .ref (gZ G + (b + 3)), .ref (gZ G + (b + 5)), .ref (gZ G + (b + 7)), .ref (gZ G + (b + 9)), .ref (gZ G + (b + 10)), .ref (gZ G + (b + 11)), .ref (gZ G + (b + 12)), .ref (gZ G + (b + 13)), .ref (gZ G + (b + 14)), .ref (gZ G + (b + 15)), .ref (gZ G + (b + 16)), .null, .null, .null, .int (nI 0), .ref (gZ G + 0)]))) 25 204
  refine v_putF (pc := 134) (ci := 2) (j := 13) (fs := [.int (nI 0), .ref (gZ G + (b + 1)), .ref (gZ G + (b + 3)), .ref (gZ G + (b + 5)), .ref (gZ G + (b + 7)), .ref (gZ G + (b + 9)), .ref (gZ G + (b + 10)), .ref (gZ G + (b + 11)), .ref (gZ G + (b + 12)), .ref (gZ G + (b + 13)), .ref (gZ G + (b + 14)), .ref (gZ G + (b + 15)), .ref (gZ G + (b + 16)), .null, .null, .null, .int (nI 0), .ref (gZ G + 0)]) (T := TX2) (M := 18) (C := RX2) rfl in_X2 tyX2 tyX2_ok nmX2 (by decide) q228 rfl rfl hnm rfl rfl rfl (by omega) hu_at (Nat.le_of_ble_eq_true rfl) dX2_init_134 ?_
  refine v_eq rfl rfl (show _ = hu h b (.inr (2, [.int (nI 0), .ref (gZ G + (b + 1)), .ref (gZ G + (b + 3)), .ref (gZ G + (b + 5)), .ref (gZ G + (b + 7)), .ref (gZ G + (b + 9)), .ref (gZ G + (b + 10)), .ref (gZ G + (b + 11)), .ref (gZ G + (b + 12)), .ref (gZ G + (b + 13)), .ref (gZ G + (b + 14)), .ref (gZ G + (b + 15)), .ref (gZ G + (b + 16)), .ref (gZ G + (b + 25)), .null, .null, .int (nI 0), .ref (gZ G + 0)])) from hu_hu) ?_
  refine v_aload_n (pc := 137) 0 dX2_init_137 rfl rfl ?_
  refine v_bipush (pc := 138) (nI 60) dX2_init_138 (by decide) ?_
  refine v_newa (pc := 140) (t0 := 0) (n := 60) (a0 := (60, .inl (fun _ => nI 0))) rfl rfl (fun _ z => z) q123 (fun _ => rfl) (by decide) (by decide) (by rw [hR]; decide) (by rw [hR]; decide) dX2_init_140 ?_
  refine v_eq rfl rfl (hu_id ((hu_ne (by omega)).trans (hh 26 (by decide) (by decide)))) ?_
  show V G x "ScopeTasks$Run" cX2_init 2 _ 142 [(0, .ref (gZ G + b)), (1, .ref (gZ G + 0))] [.ref (gZ G + (b + 26)), .ref (gZ G + b)] (b + 27) (hu h b (.inr (2, [.int (nI 0), .ref (gZ G + (b + 1)), .ref (gZ G + (b + 3)), .ref (gZ G + (b + 5)), .ref (gZ G + (b + 7)), .ref (gZ G + (b + 9)), .ref (gZ G + (b + 10)), .ref (gZ G + (b + 11)), .ref (gZ G + (b + 12)), .ref (gZ G + (b + 13)), .ref (gZ G + (b + 14)), .ref (gZ G + (b + 15)), .ref (gZ G + (b + 16)), .ref (gZ G + (b + 25)), .null, .null, .int (nI 0), .ref (gZ G + 0)]))) 26 264
  refine v_putF (pc := 142) (ci := 2) (j := 14) (fs := [.int (nI 0), .ref (gZ G + (b + 1)), .ref (gZ G + (b + 3)), .ref (gZ G + (b + 5)), .ref (gZ G + (b + 7)), .ref (gZ G + (b + 9)), .ref (gZ G + (b + 10)), .ref (gZ G + (b + 11)), .ref (gZ G + (b + 12)), .ref (gZ G + (b + 13)), .ref (gZ G + (b + 14)), .ref (gZ G + (b + 15)), .ref (gZ G + (b + 16)), .ref (gZ G + (b + 25)), .null, .null, .int (nI 0), .ref (gZ G + 0)]) (T := TX2) (M := 18) (C := RX2) rfl in_X2 tyX2 tyX2_ok nmX2 (by decide) q230 rfl rfl hnm rfl rfl rfl (by omega) hu_at (Nat.le_of_ble_eq_true rfl) dX2_init_142 ?_
  refine v_eq rfl rfl (show _ = hu h b (.inr (2, [.int (nI 0), .ref (gZ G + (b + 1)), .ref (gZ G + (b + 3)), .ref (gZ G + (b + 5)), .ref (gZ G + (b + 7)), .ref (gZ G + (b + 9)), .ref (gZ G + (b + 10)), .ref (gZ G + (b + 11)), .ref (gZ G + (b + 12)), .ref (gZ G + (b + 13)), .ref (gZ G + (b + 14)), .ref (gZ G + (b + 15)), .ref (gZ G + (b + 16)), .ref (gZ G + (b + 25)), .ref (gZ G + (b + 26)), .null, .int (nI 0), .ref (gZ G + 0)])) from hu_hu) ?_
  refine v_aload_n (pc := 145) 0 dX2_init_145 rfl rfl ?_
  refine v_bipush (pc := 146) (nI 60) dX2_init_146 (by decide) ?_
  refine v_newa (pc := 148) (t0 := 0) (n := 60) (a0 := (60, .inl (fun _ => nI 0))) rfl rfl (fun _ z => z) q123 (fun _ => rfl) (by decide) (by decide) (by rw [hR]; decide) (by rw [hR]; decide) dX2_init_148 ?_
  refine v_eq rfl rfl (hu_id ((hu_ne (by omega)).trans (hh 27 (by decide) (by decide)))) ?_
  show V G x "ScopeTasks$Run" cX2_init 2 _ 150 [(0, .ref (gZ G + b)), (1, .ref (gZ G + 0))] [.ref (gZ G + (b + 27)), .ref (gZ G + b)] (b + 28) (hu h b (.inr (2, [.int (nI 0), .ref (gZ G + (b + 1)), .ref (gZ G + (b + 3)), .ref (gZ G + (b + 5)), .ref (gZ G + (b + 7)), .ref (gZ G + (b + 9)), .ref (gZ G + (b + 10)), .ref (gZ G + (b + 11)), .ref (gZ G + (b + 12)), .ref (gZ G + (b + 13)), .ref (gZ G + (b + 14)), .ref (gZ G + (b + 15)), .ref (gZ G + (b + 16)), .ref (gZ G + (b + 25)), .ref (gZ G + (b + 26)), .null, .int (nI 0), .ref (gZ G + 0)]))) 27 324
  refine v_putF (pc := 150) (ci := 2) (j := 15) (fs := [.int (nI 0), .ref (gZ G + (b + 1)), .ref (gZ G + (b + 3)), .ref (gZ G + (b + 5)), .ref (gZ G + (b + 7)), .ref (gZ G + (b + 9)), .ref (gZ G + (b + 10)), .ref (gZ G + (b + 11)), .ref (gZ G + (b + 12)), .ref (gZ G + (b + 13)), .ref (gZ G + (b + 14)), .ref (gZ G + (b + 15)), .ref (gZ G + (b + 16)), .ref (gZ G + (b + 25)), .ref (gZ G + (b + 26)), .null, .int (nI 0), .ref (gZ G + 0)]) (T := TX2) (M := 18) (C := RX2) rfl in_X2 tyX2 tyX2_ok nmX2 (by decide) q232 rfl rfl hnm rfl rfl rfl (by omega) hu_at (Nat.le_of_ble_eq_true rfl) dX2_init_150 ?_
  refine v_eq rfl rfl (show _ = hu h b (.inr (2, [.int (nI 0), .ref (gZ G + (b + 1)), .ref (gZ G + (b + 3)), .ref (gZ G + (b + 5)), .ref (gZ G + (b + 7)), .ref (gZ G + (b + 9)), .ref (gZ G + (b + 10)), .ref (gZ G + (b + 11)), .ref (gZ G + (b + 12)), .ref (gZ G + (b + 13)), .ref (gZ G + (b + 14)), .ref (gZ G + (b + 15)), .ref (gZ G + (b + 16)), .ref (gZ G + (b + 25)), .ref (gZ G + (b + 26)), .ref (gZ G + (b + 27)), .int (nI 0), .ref (gZ G + 0)])) from hu_hu) ?_
  exact v_vret (pc := 153) hr (Nat.le_refl _) (Nat.le_refl _) dX2_init_153 ⟨rfl, rfl, rfl⟩
