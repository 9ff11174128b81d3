set_option maxRecDepth 100000
/-! ScopeTasks$Reader: due, number, told, may -/
/-- the Reader at r, the text -/
def RdI (S : ST) (r L : Nat) : Prop := S r 9 = nI 0 ∧ inN (S r 0) L ∧ inN (S r 2) 14 ∧ inN (S r 3) 100
theorem lsort_le {v : Nat} (hv : v < 256) : lsort v ≤ 14 := by
  have : ∀ v : Fin 256, lsort v.val ≤ 14 := by decide +kernel
  exact this ⟨v, hv⟩
theorem srtT_le {S : ST} {X : Nat → Int32} {L p : Nat} (hX : TXT S X L) (hp : p ≤ L) : srtT X L p ≤ 14 := by
  unfold srtT
  split
  · omega
  · split
    · split <;> omega
    · have hs := sk_le (X := X) hp
      obtain ⟨v, hv, e⟩ := (hX.2.2 (sk X L p) (by omega)).1
      rw [e, nn_of (by omega)]
      exact lsort_le hv
theorem cvT_le {X : Nat → Int32} {L p : Nat} : cvT X L p ≤ 100 := by
  unfold cvT
  split
  · omega
  · split
    · exact Nat.min_le_left _ _
    · omega
theorem RdI_du {S : ST} {r L : Nat} {X : Nat → Int32} (h : RdI S r L) (hX : TXT S X L) : RdI (rdDu r X L S) r L := by
  unfold rdDu RdI
  rw [s1_at]
  have h12 := hX.1
  have hp := h.2.1.2
  refine ⟨h.1, inN.of rfl (tkE_le hp).2 (by omega), inN.of rfl (srtT_le hX hp) (by decide), inN.of rfl cvT_le (by decide)⟩
theorem TXT.to {S S' : ST} {X : Nat → Int32} {L : Nat} (h : TXT S X L) (e0 : S' 0 10 = S 0 10) (e1 : S' 173 = S 173) : TXT S' X L := ⟨h.1, by rw [e0]; exact h.2.1, by rw [e1]; exact h.2.2⟩
set_option maxHeartbeats 4000000 in
theorem ct_X4_due {G : GT} {l : Launch} {N r L : Nat} {S : ST} {X : Nat → Int32} {P : Prop} [Decidable P] (hrr : 535 ≤ r) (hrN : r < N) (hI : RdI S r L) (hX : TXT S X L) : CTXi G l yX4_due cX4_due 3 (some .int) 5 [.ref (gZ G + r), .int (bI P)] N r S (dueC r X L P S) (S r 3) := by
  have hL12 := hX.1
  obtain ⟨i1, ⟨i2, i3⟩, ⟨i4, i5⟩, ⟨i6, i7⟩⟩ := id hI
  obtain ⟨p, hp⟩ : ∃ p, nn (S r 0) = p := ⟨_, rfl⟩
  obtain ⟨s, hs⟩ : ∃ s, nn (S r 2) = s := ⟨_, rfl⟩
  obtain ⟨v, hv⟩ : ∃ v, nn (S r 3) = v := ⟨_, rfl⟩
  rw [hp] at i2 i3
  rw [hs] at i4 i5
  rw [hv] at i6 i7
  refine CTX.mk "ScopeTasks$Reader" [(0, .ref (gZ G + r)), (1, .int (bI (P)))] rfl (by decide) rfl (Nat.le_of_ble_eq_true rfl) ?_
  intro x hR hl hr hnm hout
  refine v_iload_n (pc := 0) 1 dX4_due_0 rfl rfl ?_
  refine v_if_neB (pc := 1) 16 dX4_due_1 (by decide) (fun c1 => ?_) (fun c1 => ?_)
  · skip
    refine v_aload_n (pc := 16) 0 dX4_due_16 rfl rfl ?_
    refine gX4_33 (pc := 17) hrr i1 hrN dX4_due_17 ?_
    refine v_topi (v := S r 3) rfl ?_
    refine v_istore_n (pc := 20) (lv' := [(2, .int (S r 3)), (0, .ref (gZ G + r)), (1, .int (bI (P)))]) dX4_due_20 rfl (by decide) rfl ?_
    refine v_aload_n (pc := 21) 1 dX4_due_21 rfl rfl ?_
    refine v_S (s1_self S r).symm ?_
    refine c_callVv (pc := 22) (st := []) (ci := 4) (ct_X4_step (S := S) (r := r) (g := S r) (L := L) (X := X) (p := p) hrr hrN i1 i2 (by omega) hX) kVX4_62 kDX4_62 (rm_ok hR (Nat.le_of_ble_eq_true rfl) (Nat.le_of_ble_eq_true rfl)) ⟨Nat.zero_le _, Nat.zero_le _⟩ (by omega) (show hC G _ r = rdE G _ from cO_rd hrr ((congrFun (s1_at _ _ _) _).trans i1)) rfl rfl rfl rfl (Nat.le_of_ble_eq_true rfl) dX4_due_22 ?_
    refine v_iload_n (pc := 25) 0 dX4_due_25 rfl rfl ?_
    exact v_ok (v_iret (pc := 26) hr rfl (Nat.le_refl _) (Nat.le_refl _) dX4_due_26 ⟨by rw [dueC_t c1], rfl, rfl, by rw [dueC_t c1]; exact hC_c (by unfold rdDu; rw [hp])⟩)
  · skip
    refine v_new (pc := 4) (C := RX5) (T := TX5) (M := 7) (ci := 5) (fs := [.null, .null, .null, .null, .null, .int (nI 0), .int (nI 0)]) rfl in_X5 tyX5 tyX5_ok q581 q582 q79 (by decide) (by rw [hR]; decide) (by rw [hR]; decide) dX4_due_4 ?_
    refine v_eq rfl rfl (hC_s1 (S := S) (k := N) (f := wrf (nI 0)) (cO_wr (by omega) rfl)) ?_
    refine v_dup (pc := 7) dX4_due_7 rfl ?_
    refine v_aload_n (pc := 8) 0 dX4_due_8 rfl rfl ?_
    refine gX4_30 (pc := 9) hrr ((congrFun (s1_ne (by omega)) _).trans i1) (by omega) dX4_due_9 ?_
    refine v_topi (v := S r 1) (congrFun (s1_ne (by omega)) _) ?_
    refine v_callI (pc := 12) (st := [.ref (gZ G + N)]) (kb := N) (ct_X5_init (by omega) (by show hC G _ N = _; unfold hC; rw [s1_at]; exact cO_wr (by omega) rfl)) (lw_meth q622) q79 q620 q621 rfl kDX4_59 (rm_ok hR (Nat.le_of_ble_eq_true rfl) (Nat.le_of_ble_eq_true rfl)) (by rw [hR]; decide) rfl rfl (Nat.le_of_ble_eq_true rfl) dX4_due_12 (fun v' N' h' q => ?_)
    obtain ⟨rfl, rfl, rfl⟩ := q
    refine v_eq rfl rfl ((hC_s1 (S := s1 S N (wrf (nI 0))) (k := N) (f := wrf (S r 1)) (cO_wr (by omega) rfl)).trans (hC_c (s1_s1 S N _ _))) ?_
    exact v_throw (pc := 15) (k := N) (by omega) (by show hC G _ N = _; unfold hC; rw [s1_at]; exact cO_wr (by omega) rfl) hout ⟨by rw [dueC_f c1], by rw [dueC_f c1]; exact ⟨rfl, rfl, rfl⟩⟩ (by decide) (by decide) dX4_due_15

set_option maxHeartbeats 4000000 in
theorem ct_X4_number {G : GT} {l : Launch} {N r L : Nat} {S : ST} {X : Nat → Int32} {lo hi : Int32} (hrr : 535 ≤ r) (hrN : r < N) (hI : RdI S r L) (hX : TXT S X L) : CTXi G l yX4_number cX4_number 3 (some .int) 6 [.ref (gZ G + r), .int lo, .int hi] N r S (dueC r X L (numP r lo hi S) S) (S r 3) := by
  have hL12 := hX.1
  obtain ⟨i1, ⟨i2, i3⟩, ⟨i4, i5⟩, ⟨i6, i7⟩⟩ := id hI
  obtain ⟨p, hp⟩ : ∃ p, nn (S r 0) = p := ⟨_, rfl⟩
  obtain ⟨s, hs⟩ : ∃ s, nn (S r 2) = s := ⟨_, rfl⟩
  obtain ⟨v, hv⟩ : ∃ v, nn (S r 3) = v := ⟨_, rfl⟩
  rw [hp] at i2 i3
  rw [hs] at i4 i5
  rw [hv] at i6 i7
  refine CTX.mk "ScopeTasks$Reader" [(0, .ref (gZ G + r)), (1, .int (lo)), (2, .int (hi))] rfl (by decide) rfl (Nat.le_of_ble_eq_true rfl) ?_
  intro x hR hl hr hnm hout
  refine v_aload_n (pc := 0) 0 dX4_number_0 rfl rfl ?_
  refine v_aload_n (pc := 1) 0 dX4_number_1 rfl rfl ?_
  refine gX4_36 (pc := 2) hrr i1 hrN dX4_number_2 ?_
  refine v_topi (v := nI s) i4 ?_
  refine v_bipush (pc := 5) (nI 11) dX4_number_5 (by decide) ?_
  refine v_ic_neN (pc := 7) 26 (by omega) (by omega) dX4_number_7 (by decide) (fun c1 => ?_) (fun c1 => ?_)
  · skip
    refine v_iconst (pc := 26) (nI 0) dX4_number_26 (by decide) ?_
    refine v_topi (v := bI (numP r lo hi S)) (bI_f (fun z => c1 (nI_inj (by omega) (by omega) (i4.symm.trans z.1)))) ?_
    refine c_callXX (pc := 27) (st := []) (kb := r) (ci := 4) (ct_X4_due (P := numP r lo hi S) hrr hrN hI hX) kVX4_65 kDX4_65 (rm_ok hR (Nat.le_of_ble_eq_true rfl) (Nat.le_of_ble_eq_true rfl)) (by rw [hR]; decide) hrN (show hC G _ r = rdE G _ from cO_rd hrr i1) rfl rfl rfl rfl (Nat.le_of_ble_eq_true rfl) dX4_number_27 hout (fun hF q N' h' hP => ⟨hF, hP⟩) (fun hT => ?_)
    exact v_ok (v_iret (pc := 30) hr rfl (Nat.le_refl _) (Nat.le_refl _) dX4_number_30 ⟨hT, rfl, rfl, rfl⟩)
  · skip
    refine v_aload_n (pc := 10) 0 dX4_number_10 rfl rfl ?_
    refine gX4_33 (pc := 11) hrr i1 hrN dX4_number_11 ?_
    refine v_topi (v := nI v) i6 ?_
    refine v_iload_n (pc := 14) 1 dX4_number_14 rfl rfl ?_
    refine v_iload_n (pc := 15) 2 dX4_number_15 rfl rfl ?_
    refine c_callSNi (pc := 16) (st := [.ref (gZ G + r)]) (ct_X0_in (S := S) (v := nI v) (lo := lo) (hi := hi) ) (lw_meth q439) q60 q488 q438 kDX4_39 (rm_ok hR (Nat.le_of_ble_eq_true rfl) (Nat.le_of_ble_eq_true rfl)) ⟨Nat.zero_le _, Nat.zero_le _⟩ rfl rfl (Nat.le_of_ble_eq_true rfl) dX4_number_16 ?_
    refine v_if_eqB (pc := 19) 26 dX4_number_19 (by decide) (fun c2 => ?_) (fun c2 => ?_)
    · skip
      refine v_iconst (pc := 26) (nI 0) dX4_number_26 (by decide) ?_
      refine v_topi (v := bI (numP r lo hi S)) (bI_f (fun z => c2 (by have := z.2; rw [i6] at this; exact this))) ?_
      refine c_callXX (pc := 27) (st := []) (kb := r) (ci := 4) (ct_X4_due (P := numP r lo hi S) hrr hrN hI hX) kVX4_65 kDX4_65 (rm_ok hR (Nat.le_of_ble_eq_true rfl) (Nat.le_of_ble_eq_true rfl)) (by rw [hR]; decide) hrN (show hC G _ r = rdE G _ from cO_rd hrr i1) rfl rfl rfl rfl (Nat.le_of_ble_eq_true rfl) dX4_number_27 hout (fun hF q N' h' hP => ⟨hF, hP⟩) (fun hT => ?_)
      exact v_ok (v_iret (pc := 30) hr rfl (Nat.le_refl _) (Nat.le_refl _) dX4_number_30 ⟨hT, rfl, rfl, rfl⟩)
    · skip
      refine v_iconst (pc := 22) (nI 1) dX4_number_22 (by decide) ?_
      refine v_goto (pc := 23) 27 dX4_number_23 (by decide) ?_
      refine v_topi (v := bI (numP r lo hi S)) (bI_t ⟨by rw [i4, c1], by rw [i6]; exact c2⟩) ?_
      refine c_callXX (pc := 27) (st := []) (kb := r) (ci := 4) (ct_X4_due (P := numP r lo hi S) hrr hrN hI hX) kVX4_65 kDX4_65 (rm_ok hR (Nat.le_of_ble_eq_true rfl) (Nat.le_of_ble_eq_true rfl)) (by rw [hR]; decide) hrN (show hC G _ r = rdE G _ from cO_rd hrr i1) rfl rfl rfl rfl (Nat.le_of_ble_eq_true rfl) dX4_number_27 hout (fun hF q N' h' hP => ⟨hF, hP⟩) (fun hT => ?_)
      exact v_ok (v_iret (pc := 30) hr rfl (Nat.le_refl _) (Nat.le_refl _) dX4_number_30 ⟨hT, rfl, rfl, rfl⟩)

set_option maxHeartbeats 4000000 in
theorem ct_X4_told {G : GT} {l : Launch} {N r L : Nat} {S : ST} {X : Nat → Int32} {n : Nat} (hrr : 535 ≤ r) (hrN : r < N) (hI : RdI S r L) (hX : TXT S X L) (hn : S 27 0 = nI n) (hn8 : n ≤ 8) : CTXi G l yX4_told cX4_told 1 (some .int) 6 [.ref (gZ G + r)] N r S (dueC r X L (tolP r S) S) (S r 3) := by
  have hL12 := hX.1
  obtain ⟨i1, ⟨i2, i3⟩, ⟨i4, i5⟩, ⟨i6, i7⟩⟩ := id hI
  obtain ⟨p, hp⟩ : ∃ p, nn (S r 0) = p := ⟨_, rfl⟩
  obtain ⟨s, hs⟩ : ∃ s, nn (S r 2) = s := ⟨_, rfl⟩
  obtain ⟨v, hv⟩ : ∃ v, nn (S r 3) = v := ⟨_, rfl⟩
  rw [hp] at i2 i3
  rw [hs] at i4 i5
  rw [hv] at i6 i7
  refine CTX.mk "ScopeTasks$Reader" [(0, .ref (gZ G + r))] rfl (by decide) rfl (Nat.le_of_ble_eq_true rfl) ?_
  intro x hR hl hr hnm hout
  refine v_aload_n (pc := 0) 0 dX4_told_0 rfl rfl ?_
  refine v_aload_n (pc := 1) 0 dX4_told_1 rfl rfl ?_
  refine gX4_36 (pc := 2) hrr i1 hrN dX4_told_2 ?_
  refine v_topi (v := nI s) i4 ?_
  refine v_bipush (pc := 5) (nI 11) dX4_told_5 (by decide) ?_
  refine v_ic_neN (pc := 7) 31 (by omega) (by omega) dX4_told_7 (by decide) (fun c1 => ?_) (fun c1 => ?_)
  · skip
    refine v_iconst (pc := 31) (nI 0) dX4_told_31 (by decide) ?_
    refine v_topi (v := bI (tolP r S)) (bI_f (fun z => c1 (nI_inj (by omega) (by omega) (i4.symm.trans z.1)))) ?_
    refine c_callXX (pc := 32) (st := []) (kb := r) (ci := 4) (ct_X4_due (P := tolP r S) hrr hrN hI hX) kVX4_65 kDX4_65 (rm_ok hR (Nat.le_of_ble_eq_true rfl) (Nat.le_of_ble_eq_true rfl)) (by rw [hR]; decide) hrN (show hC G _ r = rdE G _ from cO_rd hrr i1) rfl rfl rfl rfl (Nat.le_of_ble_eq_true rfl) dX4_told_32 hout (fun hF q N' h' hP => ⟨hF, hP⟩) (fun hT => ?_)
    exact v_ok (v_iret (pc := 35) hr rfl (Nat.le_refl _) (Nat.le_refl _) dX4_told_35 ⟨hT, rfl, rfl, rfl⟩)
  · skip
    refine v_aload_n (pc := 10) 0 dX4_told_10 rfl rfl ?_
    refine gX4_33 (pc := 11) hrr i1 hrN dX4_told_11 ?_
    refine v_topi (v := nI v) i6 ?_
    refine v_aload_n (pc := 14) 0 dX4_told_14 rfl rfl ?_
    refine gX4_3 (pc := 15) hrr i1 hrN dX4_told_15 ?_
    refine gX4_69 (pc := 18) (by omega) dX4_told_18 ?_
    refine gX4_73 (pc := 21) TB_27 (by omega) dX4_told_21 ?_
    refine v_topi (v := nI n) hn ?_
    refine v_ic_geN (pc := 24) 31 (by omega) (by omega) dX4_told_24 (by decide) (fun c2 => ?_) (fun c2 => ?_)
    · skip
      refine v_iconst (pc := 31) (nI 0) dX4_told_31 (by decide) ?_
      refine v_topi (v := bI (tolP r S)) (bI_f (fun z => absurd z.2 (by rw [i6, hn]; exact fun y => absurd ((nI_ltI (by omega) (by omega)).mp y) (by omega)))) ?_
      refine c_callXX (pc := 32) (st := []) (kb := r) (ci := 4) (ct_X4_due (P := tolP r S) hrr hrN hI hX) kVX4_65 kDX4_65 (rm_ok hR (Nat.le_of_ble_eq_true rfl) (Nat.le_of_ble_eq_true rfl)) (by rw [hR]; decide) hrN (show hC G _ r = rdE G _ from cO_rd hrr i1) rfl rfl rfl rfl (Nat.le_of_ble_eq_true rfl) dX4_told_32 hout (fun hF q N' h' hP => ⟨hF, hP⟩) (fun hT => ?_)
      exact v_ok (v_iret (pc := 35) hr rfl (Nat.le_refl _) (Nat.le_refl _) dX4_told_35 ⟨hT, rfl, rfl, rfl⟩)
    · skip
      refine v_iconst (pc := 27) (nI 1) dX4_told_27 (by decide) ?_
      refine v_goto (pc := 28) 32 dX4_told_28 (by decide) ?_
      refine v_topi (v := bI (tolP r S)) (bI_t ⟨by rw [i4, c1], by rw [i6, hn]; exact (nI_ltI (by omega) (by omega)).mpr c2⟩) ?_
      refine c_callXX (pc := 32) (st := []) (kb := r) (ci := 4) (ct_X4_due (P := tolP r S) hrr hrN hI hX) kVX4_65 kDX4_65 (rm_ok hR (Nat.le_of_ble_eq_true rfl) (Nat.le_of_ble_eq_true rfl)) (by rw [hR]; decide) hrN (show hC G _ r = rdE G _ from cO_rd hrr i1) rfl rfl rfl rfl (Nat.le_of_ble_eq_true rfl) dX4_told_32 hout (fun hF q N' h' hP => ⟨hF, hP⟩) (fun hT => ?_)
      exact v_ok (v_iret (pc := 35) hr rfl (Nat.le_refl _) (Nat.le_refl _) dX4_told_35 ⟨hT, rfl, rfl, rfl⟩)

abbrev mayP (r : Nat) (w : Nat) (S : ST) : Prop := (w = 5 ∧ S r 4 = 0) ∨ (¬ w = 5 ∧ ¬ S r 4 ≤ 0 ∧ ((w = 6 ∧ S 27 0 < nI 8) ∨ (7 ≤ w ∧ w ≤ 10)))
set_option maxHeartbeats 4000000 in
theorem ct_X4_may {G : GT} {l : Launch} {N : Nat} {S : ST} {r w n : Nat} (hrr : 535 ≤ r) (hrN : r < N) (i1 : S r 9 = nI 0) (hw : w ≤ 14) (hn : S 27 0 = nI n) (hn8 : n ≤ 8) : CTi G l yX4_may cX4_may 2 (some .boolean) 1 [.ref (gZ G + r), .int (nI w)] N (S) (bI (mayP r w S)) (S) := by
  refine CT.mk "ScopeTasks$Reader" [(0, .ref (gZ G + r)), (1, .int (nI w))] rfl (by decide) rfl (Nat.le_of_ble_eq_true rfl) ?_
  intro x hR hl hr hnm
  refine v_iload_n (pc := 0) 1 dX4_may_0 rfl rfl ?_
  refine v_iconst (pc := 1) (nI 5) dX4_may_1 (by decide) ?_
  refine v_ic_neN (pc := 2) 18 (by omega) (by omega) dX4_may_2 (by decide) (fun c1 => ?_) (fun c1 => ?_)
  · skip
    refine v_aload_n (pc := 18) 0 dX4_may_18 rfl rfl ?_
    refine gX4_123 (pc := 19) hrr i1 hrN dX4_may_19 ?_
    refine v_if_le (pc := 22) 61 dX4_may_22 (by decide) (fun c2 => ?_) (fun c2 => ?_)
    · skip
      refine v_iconst (pc := 61) (nI 0) dX4_may_61 (by decide) ?_
      exact v_iret (pc := 62) hr rfl (Nat.le_refl _) (Nat.le_refl _) dX4_may_62 (pI_mk (bI_f (fun z => z.elim (fun y => c1 y.1) (fun y => y.2.1 c2))) (hC_c rfl))
    · skip
      refine v_iload_n (pc := 25) 1 dX4_may_25 rfl rfl ?_
      refine v_bipush (pc := 26) (nI 6) dX4_may_26 (by decide) ?_
      refine v_ic_neN (pc := 28) 46 (by omega) (by omega) dX4_may_28 (by decide) (fun c3 => ?_) (fun c3 => ?_)
      · skip
        refine v_iload_n (pc := 46) 1 dX4_may_46 rfl rfl ?_
        refine v_bipush (pc := 47) (nI 7) dX4_may_47 (by decide) ?_
        refine v_bipush (pc := 49) (nI 10) dX4_may_49 (by decide) ?_
        refine c_callSNi (pc := 51) (st := []) (ct_X0_in (S := S) (v := nI w) (lo := nI 7) (hi := nI 10) ) (lw_meth q439) q60 q488 q438 kDX4_39 (rm_ok hR (Nat.le_of_ble_eq_true rfl) (Nat.le_of_ble_eq_true rfl)) ⟨Nat.zero_le _, Nat.zero_le _⟩ rfl rfl (Nat.le_of_ble_eq_true rfl) dX4_may_51 ?_
        refine v_if_eqB (pc := 54) 61 dX4_may_54 (by decide) (fun c4 => ?_) (fun c4 => ?_)
        · skip
          refine v_iconst (pc := 61) (nI 0) dX4_may_61 (by decide) ?_
          exact v_iret (pc := 62) hr rfl (Nat.le_refl _) (Nat.le_refl _) dX4_may_62 (pI_mk (bI_f (fun z => z.elim (fun y => c1 y.1) (fun y => y.2.2.elim (fun y => c3 y.1) (fun q => c4 ⟨(nI_leI (by omega) (by omega)).mpr q.1, (nI_leI (by omega) (by omega)).mpr q.2⟩)))) (hC_c rfl))
        · skip
          refine v_iconst (pc := 57) (nI 1) dX4_may_57 (by decide) ?_
          refine v_goto (pc := 58) 62 dX4_may_58 (by decide) ?_
          exact v_iret (pc := 62) hr rfl (Nat.le_refl _) (Nat.le_refl _) dX4_may_62 (pI_mk (bI_t (Or.inr ⟨c1, c2, Or.inr (show 7 ≤ w ∧ w ≤ 10 from ⟨(nI_leI (by omega) (by omega)).mp c4.1, (nI_leI (by omega) (by omega)).mp c4.2⟩)⟩)) (hC_c rfl))
      · skip
        refine v_aload_n (pc := 31) 0 dX4_may_31 rfl rfl ?_
        refine gX4_3 (pc := 32) hrr i1 hrN dX4_may_32 ?_
        refine gX4_69 (pc := 35) (by omega) dX4_may_35 ?_
        refine gX4_73 (pc := 38) TB_27 (by omega) dX4_may_38 ?_
        refine v_topi (v := nI n) hn ?_
        refine v_bipush (pc := 41) (nI 8) dX4_may_41 (by decide) ?_
        refine v_ic_ltN (pc := 43) 57 (by omega) (by omega) dX4_may_43 (by decide) (fun c5 => ?_) (fun c5 => ?_)
        · skip
          refine v_iconst (pc := 57) (nI 1) dX4_may_57 (by decide) ?_
          refine v_goto (pc := 58) 62 dX4_may_58 (by decide) ?_
          exact v_iret (pc := 62) hr rfl (Nat.le_refl _) (Nat.le_refl _) dX4_may_62 (pI_mk (bI_t (Or.inr ⟨c1, c2, Or.inl ⟨c3, by rw [hn]; exact (nI_ltI (by omega) (by omega)).mpr c5⟩⟩)) (hC_c rfl))
        · skip
          refine v_iload_n (pc := 46) 1 dX4_may_46 rfl rfl ?_
          refine v_bipush (pc := 47) (nI 7) dX4_may_47 (by decide) ?_
          refine v_bipush (pc := 49) (nI 10) dX4_may_49 (by decide) ?_
          refine c_callSNi (pc := 51) (st := []) (ct_X0_in (S := S) (v := nI w) (lo := nI 7) (hi := nI 10) ) (lw_meth q439) q60 q488 q438 kDX4_39 (rm_ok hR (Nat.le_of_ble_eq_true rfl) (Nat.le_of_ble_eq_true rfl)) ⟨Nat.zero_le _, Nat.zero_le _⟩ rfl rfl (Nat.le_of_ble_eq_true rfl) dX4_may_51 ?_
          refine v_if_eqB (pc := 54) 61 dX4_may_54 (by decide) (fun c6 => ?_) (fun c6 => ?_)
          · skip
            refine v_iconst (pc := 61) (nI 0) dX4_may_61 (by decide) ?_
            exact v_iret (pc := 62) hr rfl (Nat.le_refl _) (Nat.le_refl _) dX4_may_62 (pI_mk (bI_f (fun z => z.elim (fun y => c1 y.1) (fun y => y.2.2.elim (fun y => absurd y.2 (by rw [hn]; exact fun q => absurd ((nI_ltI (by omega) (by omega)).mp q) (by omega))) (fun q => c6 ⟨(nI_leI (by omega) (by omega)).mpr q.1, (nI_leI (by omega) (by omega)).mpr q.2⟩)))) (hC_c rfl))
          · skip
            refine v_iconst (pc := 57) (nI 1) dX4_may_57 (by decide) ?_
            refine v_goto (pc := 58) 62 dX4_may_58 (by decide) ?_
            exact v_iret (pc := 62) hr rfl (Nat.le_refl _) (Nat.le_refl _) dX4_may_62 (pI_mk (bI_t (Or.inr ⟨c1, c2, Or.inr (show 7 ≤ w ∧ w ≤ 10 from ⟨(nI_leI (by omega) (by omega)).mp c6.1, (nI_leI (by omega) (by omega)).mp c6.2⟩)⟩)) (hC_c rfl))
  · skip
    refine v_aload_n (pc := 5) 0 dX4_may_5 rfl rfl ?_
    refine gX4_123 (pc := 6) hrr i1 hrN dX4_may_6 ?_
    refine v_if_ne (pc := 9) 16 dX4_may_9 (by decide) (fun c7 => ?_) (fun c7 => ?_)
    · skip
      refine v_iconst (pc := 16) (nI 0) dX4_may_16 (by decide) ?_
      exact v_iret (pc := 17) hr rfl (Nat.le_refl _) (Nat.le_refl _) dX4_may_17 (pI_mk (bI_f (fun z => z.elim (fun y => c7 y.2) (fun y => y.1 c1))) (hC_c rfl))
    · skip
      refine v_iconst (pc := 12) (nI 1) dX4_may_12 (by decide) ?_
      refine v_goto (pc := 13) 17 dX4_may_13 (by decide) ?_
      exact v_iret (pc := 17) hr rfl (Nat.le_refl _) (Nat.le_refl _) dX4_may_17 (pI_mk (bI_t (Or.inl ⟨c1, c7⟩)) (hC_c rfl))

