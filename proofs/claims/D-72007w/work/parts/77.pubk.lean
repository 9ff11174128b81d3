set_option maxRecDepth 100000
/-! ScopeTasks: know, forgetAll, undo, asks, ticks, keep, back -/
/-! a run more is known -/
set_option maxHeartbeats 4000000 in
theorem ct_X0_know {G : GT} {l : Launch} {N : Nat} {S M : ST} (hRL : RL S M) (hN : 513 ≤ N) : CTvE G l yX0_know cX0_know 2 none 4 [.ref (gZ G + 0)] N S (fun X => RL X (mRem M) ∧ UO S X) := by
  obtain ⟨hP, hQ, ⟨c, hc, hg⟩, hD, hI, ⟨n, a, hb, hf, u, w, hU⟩, hF, hX, hB⟩ := hRL
  have hRL : RL S M := ⟨hP, hQ, ⟨c, hc, hg⟩, hD, hI, ⟨n, a, hb, hf, u, w, hU⟩, hF, hX, hB⟩
  obtain ⟨⟨hn, ha, hb15, hf15⟩, ⟨hm5, hm6⟩, ⟨hq1, hq2, hq3, hq4⟩, hu, hw, ⟨hd1, hd2, hd3⟩, hrun, hgd⟩ := id hU
  refine CT.mk "ScopeTasks" [(0, .ref (gZ G + 0))] rfl (by decide) rfl (Nat.le_of_ble_eq_true rfl) ?_
  intro x hR hl hr hnm
  refine v_aload_n (pc := 0) 0 dX0_know_0 rfl rfl ?_
  refine gX0_1 (pc := 1) hN dX0_know_1 ?_
  refine c_callVi (pc := 4) (st := []) (ci := 7) (ct_J2_isEmpty (S := S) (k := 113) (hd := hf) (tl := (hf + (12 - n)) % 15) DR_113.1 (by omega) hq3 hq4 (by omega) (by omega)) kVX0_7 kDX0_7 (rm_ok hR (Nat.le_of_ble_eq_true rfl) (Nat.le_of_ble_eq_true rfl)) ⟨Nat.zero_le _, Nat.zero_le _⟩ (by omega) (DR_113.1 G _) rfl rfl rfl rfl (Nat.le_of_ble_eq_true rfl) dX0_know_4 ?_
  refine v_if_eqB (pc := 7) 23 dX0_know_7 (by decide) (fun c1 => ?_) (fun c1 => ?_)
  · skip
    have hn12 : n < 12 := by omega
    obtain ⟨i, hi⟩ : ∃ i, w (11 - n) = i := ⟨_, rfl⟩
    obtain ⟨hi12, hwi⟩ := hw (11 - n) (by omega)
    rw [hi] at hi12 hwi
    have hdd : ddec ((hf + (12 - n)) % 15) 15 = (hf + (11 - n)) % 15 := by rw [ddec_m (by omega)]; omega
    obtain ⟨d, hd⟩ := hrun i hi12
    refine v_aload_n (pc := 23) 0 dX0_know_23 rfl rfl ?_
    refine gX0_1 (pc := 24) hN dX0_know_24 ?_
    refine c_callVa (pc := 27) (st := []) (ci := 7) (ct_J2_removeLastR (S := S) (k := 113) (n := 15) (tl := (hf + (12 - n)) % 15) (c := 177 + 28 * i) DR_113 (by omega) (by omega) hq4 (by omega) (by rw [hdd]; exact hwi) (by omega)) kVX0_22 kDX0_22 (rm_ok hR (Nat.le_of_ble_eq_true rfl) (Nat.le_of_ble_eq_true rfl)) ⟨Nat.zero_le _, Nat.zero_le _⟩ (by omega) (DR_113.1 G _) rfl rfl rfl rfl (Nat.le_of_ble_eq_true rfl) dX0_know_27 ?_
    refine v_S (show _ = s2 (s2 S 113 2 (nI ((hf + (11 - n)) % 15))) 114 ((hf + (11 - n)) % 15) (nI 0) by rw [hdd]) ?_
    refine v_castR (pc := 30) (RB_p hi12) (by omega) q195 dX0_know_30 ?_
    refine v_astore_n (pc := 33) (lv' := [(1, .ref (gZ G + (177 + 28 * i))), (0, .ref (gZ G + 0))]) dX0_know_33 rfl (by decide) rfl ?_
    refine v_aload_n (pc := 34) 1 dX0_know_34 rfl rfl ?_
    refine gX0_13 (pc := 35) hN dX0_know_35 ?_
    refine v_aload_n (pc := 38) 0 dX0_know_38 rfl rfl ?_
    refine v_aload_n (pc := 39) 1 dX0_know_39 rfl rfl ?_
    refine gX0_25 (pc := 40) hN dX0_know_40 ?_
    have hd1r : HR (s2 (s2 S 113 2 (nI ((hf + (11 - n)) % 15))) 114 ((hf + (11 - n)) % 15) (nI 0)) (177 + 28 * i) d := hd.to (fun k h1 h2 => by rw [s2_nk (by omega), s2_nk (by omega)])
    refine v_S hd1r.put.symm ?_
    refine c_callVa (pc := 43) (st := [.ref (gZ G + 111)]) (ci := 2) (ct_X2_copyOf (S := s2 (s2 S 113 2 (nI ((hf + (11 - n)) % 15))) 114 ((hf + (11 - n)) % 15) (nI 0)) (b := 177 + 28 * i) (a := 55) (c := d) (d := c) (RB_p hi12) RB_55 (by omega) (fun j hj => by rw [s2_nk (by omega), s2_nk (by omega)]; exact hc j hj) (by omega)) kVX0_29 kDX0_29 (rm_ok hR (Nat.le_of_ble_eq_true rfl) (Nat.le_of_ble_eq_true rfl)) ⟨Nat.zero_le _, Nat.zero_le _⟩ (by omega) (hC_run (j := 0) (RB_p hi12) (by decide) rfl) rfl rfl rfl rfl (Nat.le_of_ble_eq_true rfl) dX0_know_43 ?_
    refine c_callVv (pc := 46) (st := []) (ci := 7) (ct_J2_addLastR (S := put (s2 (s2 S 113 2 (nI ((hf + (11 - n)) % 15))) 114 ((hf + (11 - n)) % 15) (nI 0)) (177 + 28 * i) (cpR c d)) (k := 111) (c := 177 + 28 * i) (n := 15) (hd := hb) (tl := (hb + n) % 15) DR_111 (by omega) (by omega) (by rw [put_ne (by omega), s2_val, s2_val]; rw [if_neg (by omega), if_neg (by omega)]; exact hq1) (by rw [put_ne (by omega), s2_val, s2_val]; rw [if_neg (by omega), if_neg (by omega)]; exact hq2) (by omega) (by omega) (by rw [dinc_m (n := 15) (by omega)]; omega) (RB_p hi12) (by omega)) kVX0_33 kDX0_33 (rm_ok hR (Nat.le_of_ble_eq_true rfl) (Nat.le_of_ble_eq_true rfl)) ⟨Nat.zero_le _, Nat.zero_le _⟩ (by omega) (DR_111.1 G _) rfl rfl rfl rfl (Nat.le_of_ble_eq_true rfl) dX0_know_46 ?_
    refine v_S (show _ = kn1 S (177 + 28 * i) ((hf + (11 - n)) % 15) ((hb + n) % 15) (cpR c d) (nI ((hb + n + 1) % 15)) by rw [show dinc ((hb + n) % 15) 15 = (hb + n + 1) % 15 by rw [dinc_m (n := 15) (by omega)]; omega]; rfl) ?_
    exact v_vret (pc := 49) hr (Nat.le_refl _) (Nat.le_refl _) dX0_know_49 ⟨rfl, rfl, _, ⟨hRL.rem (kn1_UO hi12) ⟨_, _, _, _, _, _, PU_know1 (c := c) hP.1 hU (kn1_UC hU.uc hn12 hi) hn12 (kn1_run (by omega)) hg.cp (fun p hp z => hd3 p (11 - n) hp (by omega) (z.trans hi.symm)) (fun k h1 h2 h3 => kn1_o (by omega) h3)⟩, (kn1_UO hi12)⟩, rfl⟩
  · skip
    have hn12 : n = 12 := by omega
    subst hn12
    obtain ⟨i, hi⟩ : ∃ i, u 0 = i := ⟨_, rfl⟩
    obtain ⟨hi12, hwi⟩ := hu 0 (by omega)
    rw [hi, Nat.add_zero, Nat.mod_eq_of_lt hb15] at hwi
    rw [hi] at hi12
    have hdd : dinc hb 15 = (hb + 1) % 15 := dinc_m (n := 15) hb15
    obtain ⟨d, hd⟩ := hrun i hi12
    refine v_aload_n (pc := 10) 0 dX0_know_10 rfl rfl ?_
    refine gX0_13 (pc := 11) hN dX0_know_11 ?_
    refine c_callVa (pc := 14) (st := []) (ci := 7) (ct_J2_removeFirstR (S := S) (k := 111) (n := 15) (hd := hb) (c := 177 + 28 * i) DR_111 (by omega) (by omega) hq1 (by omega) hwi (by omega)) kVX0_16 kDX0_16 (rm_ok hR (Nat.le_of_ble_eq_true rfl) (Nat.le_of_ble_eq_true rfl)) ⟨Nat.zero_le _, Nat.zero_le _⟩ (by omega) (DR_111.1 G _) rfl rfl rfl rfl (Nat.le_of_ble_eq_true rfl) dX0_know_14 ?_
    refine v_S (show _ = s2 (s2 S 112 hb (nI 0)) 111 1 (nI ((hb + 1) % 15)) by rw [hdd]) ?_
    refine v_castR (pc := 17) (RB_p hi12) (by omega) q195 dX0_know_17 ?_
    refine v_goto (pc := 20) 33 dX0_know_20 (by decide) ?_
    refine v_astore_n (pc := 33) (lv' := [(1, .ref (gZ G + (177 + 28 * i))), (0, .ref (gZ G + 0))]) dX0_know_33 rfl (by decide) rfl ?_
    refine v_aload_n (pc := 34) 1 dX0_know_34 rfl rfl ?_
    refine gX0_13 (pc := 35) hN dX0_know_35 ?_
    refine v_aload_n (pc := 38) 0 dX0_know_38 rfl rfl ?_
    refine v_aload_n (pc := 39) 1 dX0_know_39 rfl rfl ?_
    refine gX0_25 (pc := 40) hN dX0_know_40 ?_
    have hd1r : HR (s2 (s2 S 112 hb (nI 0)) 111 1 (nI ((hb + 1) % 15))) (177 + 28 * i) d := hd.to (fun k h1 h2 => by rw [s2_nk (by omega), s2_nk (by omega)])
    refine v_S hd1r.put.symm ?_
    refine c_callVa (pc := 43) (st := [.ref (gZ G + 111)]) (ci := 2) (ct_X2_copyOf (S := s2 (s2 S 112 hb (nI 0)) 111 1 (nI ((hb + 1) % 15))) (b := 177 + 28 * i) (a := 55) (c := d) (d := c) (RB_p hi12) RB_55 (by omega) (fun j hj => by rw [s2_nk (by omega), s2_nk (by omega)]; exact hc j hj) (by omega)) kVX0_29 kDX0_29 (rm_ok hR (Nat.le_of_ble_eq_true rfl) (Nat.le_of_ble_eq_true rfl)) ⟨Nat.zero_le _, Nat.zero_le _⟩ (by omega) (hC_run (j := 0) (RB_p hi12) (by decide) rfl) rfl rfl rfl rfl (Nat.le_of_ble_eq_true rfl) dX0_know_43 ?_
    refine c_callVv (pc := 46) (st := []) (ci := 7) (ct_J2_addLastR (S := put (s2 (s2 S 112 hb (nI 0)) 111 1 (nI ((hb + 1) % 15))) (177 + 28 * i) (cpR c d)) (k := 111) (c := 177 + 28 * i) (n := 15) (hd := (hb + 1) % 15) (tl := (hb + 12) % 15) DR_111 (by omega) (by omega) (by rw [put_ne (by omega), s2_val, s2_val]; rw [if_pos (by omega)]) (by rw [put_ne (by omega), s2_val, s2_val]; rw [if_neg (by omega), if_neg (by omega)]; exact hq2) (by omega) (by omega) (by rw [dinc_m (n := 15) (by omega)]; omega) (RB_p hi12) (by omega)) kVX0_33 kDX0_33 (rm_ok hR (Nat.le_of_ble_eq_true rfl) (Nat.le_of_ble_eq_true rfl)) ⟨Nat.zero_le _, Nat.zero_le _⟩ (by omega) (DR_111.1 G _) rfl rfl rfl rfl (Nat.le_of_ble_eq_true rfl) dX0_know_46 ?_
    refine v_S (show _ = kn2 S (177 + 28 * i) hb ((hb + 12) % 15) (cpR c d) (nI ((hb + 1) % 15)) (nI ((hb + 13) % 15)) by rw [show dinc ((hb + 12) % 15) 15 = (hb + 13) % 15 by rw [dinc_m (n := 15) (by omega)]; omega]; rfl) ?_
    exact v_vret (pc := 49) hr (Nat.le_refl _) (Nat.le_refl _) dX0_know_49 ⟨rfl, rfl, _, ⟨hRL.rem (kn2_UO hi12) ⟨_, _, _, _, _, _, PU_know2 hP.1 hU hi (kn2_UC hU.uc hi) (kn2_run (by omega)) hg.cp (fun k h1 h2 h3 => kn2_o (by omega) h3)⟩, (kn2_UO hi12)⟩, rfl⟩

set_option maxHeartbeats 4000000 in
theorem lp_fa {G : GT} {x : VX} {N : Nat} {Q : State → Prop} {hb hf : Nat} (hR : xR x = RM 3 0 0) (hN : 513 ≤ N) : ∀ (m : Nat) (S : ST) (u w : Nat → Nat), UC S m hb hf u w → (∀ X u' w', UC X 0 hb hf u' w' → (∀ k, (k < 111 ∨ 115 ≤ k) → X k = S k) → V G x "ScopeTasks" cX0_forgetAll 1 Q 30 [(0, .ref (gZ G + 0))] [] N (hC G X) 0 0) → V G x "ScopeTasks" cX0_forgetAll 1 Q 0 [(0, .ref (gZ G + 0))] [] N (hC G S) 0 0 := by
  intro m
  induction m with
  | zero =>
    intro S u w hU hk
    have hb15 := hU.1.2.1
    have hf15 := hU.1.2.2
    refine v_aload_n (pc := 0) 0 dX0_forgetAll_0 rfl rfl ?_
    refine gX0_13 (pc := 1) hN dX0_forgetAll_1 ?_
    refine c_callVi (pc := 4) (st := []) (ci := 7) (ct_J2_isEmpty (S := S) (k := 111) (hd := hb) (tl := (hb + 0) % 15) DR_111.1 (by omega) hU.2.1.1 hU.2.1.2.1 (by omega) (by omega)) kVX0_7 kDX0_7 (rm_ok hR (Nat.le_of_ble_eq_true rfl) (Nat.le_of_ble_eq_true rfl)) ⟨Nat.zero_le _, Nat.zero_le _⟩ (by omega) (DR_111.1 G _) rfl rfl rfl rfl (Nat.le_of_ble_eq_true rfl) dX0_forgetAll_4 ?_
    refine v_if_neB (pc := 7) 30 dX0_forgetAll_7 (by decide) (fun c1 => ?_) (fun c1 => ?_)
    · skip
      exact hk S _ _ hU (fun _ _ => rfl)
    · skip
      exact absurd c1 (by omega)
  | succ m ih =>
    intro S u w hU hk
    have hb15 := hU.1.2.1
    have hf15 := hU.1.2.2
    have hm12 := hU.1.1
    refine v_aload_n (pc := 0) 0 dX0_forgetAll_0 rfl rfl ?_
    refine gX0_13 (pc := 1) hN dX0_forgetAll_1 ?_
    refine c_callVi (pc := 4) (st := []) (ci := 7) (ct_J2_isEmpty (S := S) (k := 111) (hd := hb) (tl := (hb + (m + 1)) % 15) DR_111.1 (by omega) hU.2.1.1 hU.2.1.2.1 (by omega) (by omega)) kVX0_7 kDX0_7 (rm_ok hR (Nat.le_of_ble_eq_true rfl) (Nat.le_of_ble_eq_true rfl)) ⟨Nat.zero_le _, Nat.zero_le _⟩ (by omega) (DR_111.1 G _) rfl rfl rfl rfl (Nat.le_of_ble_eq_true rfl) dX0_forgetAll_4 ?_
    refine v_if_neB (pc := 7) 30 dX0_forgetAll_7 (by decide) (fun c1 => ?_) (fun c1 => ?_)
    · skip
      exact absurd c1 (by omega)
    · skip
      obtain ⟨i, hi⟩ : ∃ i, u m = i := ⟨_, rfl⟩
      obtain ⟨hi12, hui⟩ := hU.2.2.1 m (by omega)
      rw [hi] at hi12 hui
      have hdd : ddec ((hb + (m + 1)) % 15) 15 = (hb + m) % 15 := by rw [ddec_m (by omega)]; omega
      refine v_aload_n (pc := 10) 0 dX0_forgetAll_10 rfl rfl ?_
      refine gX0_1 (pc := 11) hN dX0_forgetAll_11 ?_
      refine v_aload_n (pc := 14) 0 dX0_forgetAll_14 rfl rfl ?_
      refine gX0_13 (pc := 15) hN dX0_forgetAll_15 ?_
      refine c_callVa (pc := 18) (st := [.ref (gZ G + 113)]) (ci := 7) (ct_J2_removeLastR (S := S) (k := 111) (n := 15) (tl := (hb + (m + 1)) % 15) (c := 177 + 28 * i) DR_111 (by omega) (by omega) hU.2.1.2.1 (by omega) (by rw [hdd]; exact hui) (by omega)) kVX0_22 kDX0_22 (rm_ok hR (Nat.le_of_ble_eq_true rfl) (Nat.le_of_ble_eq_true rfl)) ⟨Nat.zero_le _, Nat.zero_le _⟩ (by omega) (DR_111.1 G _) rfl rfl rfl rfl (Nat.le_of_ble_eq_true rfl) dX0_forgetAll_18 ?_
      refine v_castR (pc := 21) (RB_p hi12) (by omega) q195 dX0_forgetAll_21 ?_
      refine c_callVv (pc := 24) (st := []) (ci := 7) (ct_J2_addLastR (S := s2 (s2 S 111 2 (nI (ddec ((hb + (m + 1)) % 15) 15))) (111 + 1) (ddec ((hb + (m + 1)) % 15) 15) (nI 0)) (k := 113) (c := 177 + 28 * i) (n := 15) (hd := hf) (tl := (hf + (12 - (m + 1))) % 15) DR_113 (by omega) (by omega) (by rw [s2_val, s2_val, if_neg (by omega), if_neg (by omega)]; exact hU.2.1.2.2.1) (by rw [s2_val, s2_val, if_neg (by omega), if_neg (by omega)]; exact hU.2.1.2.2.2) (by omega) (by omega) (by rw [dinc_m (n := 15) (by omega)]; omega) (RB_p hi12) (by omega)) kVX0_33 kDX0_33 (rm_ok hR (Nat.le_of_ble_eq_true rfl) (Nat.le_of_ble_eq_true rfl)) ⟨Nat.zero_le _, Nat.zero_le _⟩ (by omega) (DR_113.1 G _) rfl rfl rfl rfl (Nat.le_of_ble_eq_true rfl) dX0_forgetAll_24 ?_
      refine v_goto (pc := 27) 0 dX0_forgetAll_27 (by decide) ?_
      refine v_S (show _ = pop1 S (177 + 28 * i) ((hb + m) % 15) ((hf + (11 - m)) % 15) (nI ((hf + (12 - m)) % 15)) by rw [hdd, show 12 - (m + 1) = 11 - m by omega, show dinc ((hf + (11 - m)) % 15) 15 = (hf + (12 - m)) % 15 by rw [dinc_m (n := 15) (by omega)]; omega]; rfl) ?_
      exact ih _ _ _ (pop1_UC hU hi) (fun X u2 w2 h1 h2 => hk X u2 w2 h1 (fun k hk2 => (h2 k hk2).trans (pop1_o hk2)))

/-! none is known any more -/
set_option maxHeartbeats 4000000 in
theorem ct_X0_forgetAll {G : GT} {l : Launch} {N : Nat} {S : ST} {n hb hf : Nat} {u w : Nat → Nat} (hU : UC S n hb hf u w) (hN : 513 ≤ N) : CTvE G l yX0_forgetAll cX0_forgetAll 1 none 3 [.ref (gZ G + 0)] N S (fun X => (∃ u' w', UC X 0 hb hf u' w') ∧ ∀ k, (k < 111 ∨ 115 ≤ k) → X k = S k) := by
  refine CT.mk "ScopeTasks" [(0, .ref (gZ G + 0))] rfl (by decide) rfl (Nat.le_of_ble_eq_true rfl) ?_
  intro x hR hl hr hnm
  refine lp_fa hR hN n S u w hU (fun X u' w' h1 h2 => ?_)
  exact v_vret (pc := 30) hr (Nat.le_refl _) (Nat.le_refl _) dX0_forgetAll_30 ⟨rfl, rfl, _, ⟨⟨u', w', h1⟩, h2⟩, rfl⟩

theorem TE_527 {M : ST} {g : Nat → Int32} : TE M (s1 M 527 g) := ⟨congrFun (s1_ne (by decide)) _, congrFun (s1_ne (by decide)) _, fun k h1 h2 => s1_ne (by omega)⟩
theorem RL.now {X M : ST} (h : RL X M) {F g : Nat → Int32} (hG : Gd M F g) : RL (put X 55 F) (s1 M 527 g) := by
  obtain ⟨h1, h2, h3, h4, h5, h6, h7, h8, h9⟩ := h
  have te := TE_527 (M := M) (g := g)
  exact ⟨(h1.toC (fun k a b => put_ne (by omega))).toM te, h2.to (fun k a => put_ne (by omega)), ⟨F, HR_put, by rw [s1_at]; exact hG.to te⟩, h4.toC (fun k a b => put_ne (by omega)), (h5.toC (fun k a b => put_ne (by omega))).toM te (s1_ne (by decide)) (s1_ne (by decide)), (h6.toC (fun k a => put_ne (by omega))).toM te (congrFun (s1_ne (by decide)) _) (congrFun (s1_ne (by decide)) _) (s1_ne (by decide)), (h7.toC (congrFun (put_ne (by omega)) _) (fun k a b => put_ne (by omega))).toM te (congrFun (s1_ne (by decide)) _) (fun k a b => s1_ne (by omega)), (h8.toC (congrFun (put_ne (by omega)) _) (put_ne (by omega))).toM (congrFun (s1_ne (by decide)) _) (s1_ne (by decide)), h9.toC (fun k a => put_ne (by omega))⟩
theorem RL.qx {S Y M : ST} (h : RL S M) (q : QX S Y) : RL Y M := by
  obtain ⟨h1, h2, h3, h4, h5, h6, h7, h8, h9⟩ := h
  have e := q.1
  exact ⟨h1.toC (fun k a b => e k (by omega) (by omega)), q.2, h3.toC (fun k a b => e k (by omega) (by omega)), h4.toC (fun k a b => e k (by omega) (by omega)), h5.toC (fun k a b => e k (by omega) (by omega)), h6.toC (fun k a => e k (by omega) (by omega)), h7.toC (congrFun (e 0 (by omega) (by omega)) _) (fun k a b => e k (by omega) (by omega)), h8.toC (congrFun (e 0 (by omega) (by omega)) _) (e 173 (by omega) (by omega)), h9.toC (fun k a => e k (by omega) (by omega))⟩
theorem UO.UN {S X : ST} (h : UO S X) : UN S X := fun k hk => h k (by omega)
theorem QX.UN {S X : ST} (h : QX S X) : UN S X := fun k hk => h.1 k (by omega) (by omega)
theorem UN_put {S : ST} {b : Nat} {F : Nat → Int32} (hb : b + 28 ≤ 513) : UN S (put S b F) := fun k hk => put_ne (by omega)
theorem Gd.ask {M : ST} {c g : Nat → Int32} (hM : MI M) (h : Gd M c g) {t : Nat} (ht : t < mN M) : Gd M (upd c (18 * t + 5) (nI 1)) (upd g (18 * t + 5) (nI 1)) := by
  have h8 := hM.n
  exact ⟨h.1.ask1 h.2.1.1 ht h8, RJ_up5 hM h.2.1 _, by rw [pk_un (by omega)]; exact h.2.2⟩
theorem Gd.tick {M : ST} {c g : Nat → Int32} (hM : MI M) (hL : ML M) (h : Gd M c g) (hb : nn (g 144) + 1 ≤ 999) : Gd M (cTick M c) (rTick M g) ∧ nn (rTick M g 144) = nn (g 144) + 1 := by
  have e : rTick M g 144 = nI (nn (g 144) + 1) := by rw [rTick_144 hM h.2.1]; exact nI_nat1 h.1.2.2.2.1.1
  have e2 : nn (rTick M g 144) = nn (g 144) + 1 := by rw [e]; exact nn_of (by omega)
  exact ⟨⟨h.1.tick hM hL h.2.1 (by omega), RJ_rTick hM h.2.1, by omega⟩, e2⟩
set_option maxHeartbeats 4000000 in
theorem lp_ctk {G : GT} {x : VX} {N n : Nat} {Q : State → Prop} (hR : xR x = RM 8 0 0) (hN : 513 ≤ N) (hn : n ≤ 12) : ∀ (m k : Nat) (S M : ST), k + m = n → RL S M → nn (M 527 144) + m ≤ 999 → (∀ X, RL X (mTicksL m M) → UN S X → V G x "ScopeTasks" cX0_ticks 3 Q 77 [(0, .ref (gZ G + 0)), (1, .int (nI n))] [] N (hC G X) 0 0) → V G x "ScopeTasks" cX0_ticks 3 Q 45 [(2, .int (nI k)), (0, .ref (gZ G + 0)), (1, .int (nI n))] [] N (hC G S) 0 0 := by
  intro m
  induction m with
  | zero =>
    intro k S M hm hRL hb hk
    refine v_iload_n (pc := 45) 0 dX0_ticks_45 rfl rfl ?_
    refine v_iload_n (pc := 46) 2 dX0_ticks_46 rfl rfl ?_
    refine v_ic_geN (pc := 47) 77 (by omega) (by omega) dX0_ticks_47 (by decide) (fun c1 => ?_) (fun c1 => ?_)
    · skip
      refine v_sub (lv' := [(0, .ref (gZ G + 0)), (1, .int (nI n))]) [1, 2] rfl ?_
      exact hk S hRL UN.rf
    · skip
      exact absurd c1 (by omega)
  | succ m ih =>
    intro k S M hm hRL hb hk
    obtain ⟨c, hc, hg⟩ := id hRL.2.2.1
    refine v_iload_n (pc := 45) 0 dX0_ticks_45 rfl rfl ?_
    refine v_iload_n (pc := 46) 2 dX0_ticks_46 rfl rfl ?_
    refine v_ic_geN (pc := 47) 77 (by omega) (by omega) dX0_ticks_47 (by decide) (fun c1 => ?_) (fun c1 => ?_)
    · skip
      exact absurd c1 (by omega)
    · skip
      refine v_S hc.put.symm ?_
      refine v_aload_n (pc := 50) 1 dX0_ticks_50 rfl rfl ?_
      refine gX0_25 (pc := 51) hN dX0_ticks_51 ?_
      refine c_callVi (pc := 54) (st := []) (ci := 2) (ct_X2_isOver (S := S) (b := 55) (c := c) RB_55 (by omega)) kVX0_134 kDX0_134 (rm_ok hR (Nat.le_of_ble_eq_true rfl) (Nat.le_of_ble_eq_true rfl)) ⟨Nat.zero_le _, Nat.zero_le _⟩ (by omega) (hC_run (j := 0) RB_55 (by decide) rfl) rfl rfl rfl rfl (Nat.le_of_ble_eq_true rfl) dX0_ticks_54 ?_
      refine v_if_neB (pc := 57) 77 dX0_ticks_57 (by decide) (fun c2 => ?_) (fun c2 => ?_)
      · skip
        refine v_sub (lv' := [(0, .ref (gZ G + 0)), (1, .int (nI n))]) [1, 2] rfl ?_
        refine v_S hc.put ?_
        rw [mTicksL, if_pos ((hg.1.how (t := 0) (by decide)).symm.trans c2)] at hk
        exact hk S hRL UN.rf
      · skip
        refine v_S hc.put ?_
        refine v_aload_n (pc := 60) 1 dX0_ticks_60 rfl rfl ?_
        refine c_callVvE (pc := 61) (st := []) (ci := 0) (ct_X0_know (S := S) (M := M) hRL (by omega)) kVX0_140 kDX0_140 (rm_ok hR (Nat.le_of_ble_eq_true rfl) (Nat.le_of_ble_eq_true rfl)) ⟨Nat.zero_le _, Nat.zero_le _⟩ (by omega) (rfl) rfl rfl rfl rfl (Nat.le_of_ble_eq_true rfl) dX0_ticks_61 (fun X1 hX => ?_)
        obtain ⟨hY1, hY1o⟩ := hX
        obtain ⟨rw1, hc1, hg1⟩ := id hY1.2.2.1
        refine v_S hc1.put.symm ?_
        refine v_aload_n (pc := 64) 1 dX0_ticks_64 rfl rfl ?_
        refine gX0_25 (pc := 65) hN dX0_ticks_65 ?_
        refine c_callVvE (pc := 68) (st := []) (ci := 2) (ct_X2_pass (S := X1) (b := 55) (c := rw1) (M := mRem M) (g := mRem M 527) RB_55 hY1.1.2.2 hY1.1.1 hY1.1.2.1 hg1.1 hg1.2.1 (by have := hg1.2.2; omega) hY1.2.1 (by omega)) kVX0_143 kDX0_143 (rm_ok hR (Nat.le_of_ble_eq_true rfl) (Nat.le_of_ble_eq_true rfl)) ⟨Nat.zero_le _, Nat.zero_le _⟩ (by omega) (hC_run (j := 0) RB_55 (by decide) rfl) rfl rfl rfl rfl (Nat.le_of_ble_eq_true rfl) dX0_ticks_68 (fun X2 hX => ?_)
        obtain ⟨Y2, hY2, rfl⟩ := hX
        refine v_iincN (pc := 71) (k := 0) (lv' := [(2, .int (nI (k + 1))), (0, .ref (gZ G + 0)), (1, .int (nI n))]) dX0_ticks_71 rfl (by decide) rfl ?_
        refine v_goto (pc := 74) 45 dX0_ticks_74 (by decide) ?_
        refine v_sub (lv' := [(2, .int (nI (k + 1))), (0, .ref (gZ G + 0)), (1, .int (nI n))]) [0, 1, 2] rfl ?_
        rw [mTicksL, if_neg (fun z => c2 ((hg.1.how (t := 0) (by decide)).trans z))] at hk
        have e7 : mRem M 527 = M 527 := mRem_ne (by decide) (by decide)
        rw [e7] at hg1
        obtain ⟨g1, g2⟩ := Gd.tick hY1.1.1 hY1.1.2.1 hg1 (by omega)
        exact ih (k + 1) _ _ (by omega) ((hY1.qx hY2).now g1) (by rw [s1_at, g2]; omega) (fun X r q => hk X r ((hY1o.UN.tr (hY2.UN.tr (UN_put (by decide)))).tr q))

set_option maxHeartbeats 4000000 in
theorem ct_X0_ticks {G : GT} {l : Launch} {N : Nat} {S M : ST} {n : Int32} (hRL : RL S M) (hN : 513 ≤ N) : CTiE G l yX0_ticks cX0_ticks 3 (some .int) 8 [.ref (gZ G + 0), .int n] N S (mTicksV M n) (fun X => RL X (mTicksS M n) ∧ UN S X) := by
  obtain ⟨c, hc, hg⟩ := id hRL.2.2.1
  refine CT.mk "ScopeTasks" [(0, .ref (gZ G + 0)), (1, .int (n))] rfl (by decide) rfl (Nat.le_of_ble_eq_true rfl) ?_
  intro x hR hl hr hnm
  refine v_iload_n (pc := 0) 1 dX0_ticks_0 rfl rfl ?_
  refine v_iconst (pc := 1) (nI 1) dX0_ticks_1 (by decide) ?_
  refine v_bipush (pc := 2) (nI 12) dX0_ticks_2 (by decide) ?_
  refine c_callSi (pc := 4) (st := []) (ct_X0_in (S := S) (v := n) (lo := nI 1) (hi := nI 12) ) kVX0_100 kDX0_100 (rm_ok hR (Nat.le_of_ble_eq_true rfl) (Nat.le_of_ble_eq_true rfl)) ⟨Nat.zero_le _, Nat.zero_le _⟩ rfl rfl (Nat.le_of_ble_eq_true rfl) dX0_ticks_4 ?_
  refine v_if_neB (pc := 7) 12 dX0_ticks_7 (by decide) (fun c1 => ?_) (fun c1 => ?_)
  · skip
    obtain ⟨j, hj1, hj12, rfl⟩ := in_nat1 (n := 12) (by decide) c1
    have hjn : nn (nI j) = j := nn_nI (by omega)
    refine v_S hc.put.symm ?_
    refine v_aload_n (pc := 12) 0 dX0_ticks_12 rfl rfl ?_
    refine gX0_25 (pc := 13) hN dX0_ticks_13 ?_
    refine c_callVi (pc := 16) (st := []) (ci := 2) (ct_X2_isOver (S := S) (b := 55) (c := c) RB_55 (by omega)) kVX0_134 kDX0_134 (rm_ok hR (Nat.le_of_ble_eq_true rfl) (Nat.le_of_ble_eq_true rfl)) ⟨Nat.zero_le _, Nat.zero_le _⟩ (by omega) (hC_run (j := 0) RB_55 (by decide) rfl) rfl rfl rfl rfl (Nat.le_of_ble_eq_true rfl) dX0_ticks_16 ?_
    refine v_if_eqB (pc := 19) 25 dX0_ticks_19 (by decide) (fun c2 => ?_) (fun c2 => ?_)
    · skip
      refine v_aload_n (pc := 25) 0 dX0_ticks_25 rfl rfl ?_
      refine gX0_25 (pc := 26) hN dX0_ticks_26 ?_
      refine gX0_137 (pc := 29) RB_55 hN dX0_ticks_29 ?_
      refine v_topi (v := c 144) (pr_0) ?_
      refine v_iload_n (pc := 32) 1 dX0_ticks_32 rfl rfl ?_
      refine v_iadd (pc := 33) dX0_ticks_33 ?_
      refine v_sipush (pc := 34) (nI 999) dX0_ticks_34 (by decide) ?_
      refine v_ic_le (pc := 37) 43 dX0_ticks_37 (by decide) (fun c3 => ?_) (fun c3 => ?_)
      · skip
        refine v_iconst (pc := 43) (nI 0) dX0_ticks_43 (by decide) ?_
        refine v_istore_n (pc := 44) (lv' := [(2, .int (nI 0)), (0, .ref (gZ G + 0)), (1, .int (nI j))]) dX0_ticks_44 rfl (by decide) rfl ?_
        refine v_S hc.put ?_
        refine v_sub (lv' := [(2, .int (nI 0)), (0, .ref (gZ G + 0)), (1, .int (nI j))]) [0, 1, 2] rfl ?_
        have hb9 : nn (M 527 144) + j ≤ 999 := by have h := c3; rw [hg.1.2.2.1, hg.1.2.2.2.1.1, nI_add] at h; exact (nI_leI (by have := hg.2.2; omega) (by decide)).mp h
        refine lp_ctk hR hN hj12 j 0 S M (by omega) hRL hb9 (fun X hRX hUX => ?_)
        obtain ⟨rw2, hc2, hg2⟩ := id hRX.2.2.1
        refine v_S hc2.put.symm ?_
        refine v_aload_n (pc := 77) 0 dX0_ticks_77 rfl rfl ?_
        refine gX0_25 (pc := 78) hN dX0_ticks_78 ?_
        refine gX0_137 (pc := 81) RB_55 hN dX0_ticks_81 ?_
        refine v_topi (v := rw2 144) (pr_0) ?_
        refine v_S hc2.put ?_
        exact v_iret (pc := 84) hr rfl (Nat.le_refl _) (Nat.le_refl _) dX0_ticks_84 ⟨_, rfl, rfl, (by unfold mTicksV; rw [if_pos c1, if_neg (fun z => c2 ((hg.1.how (t := 0) (by decide)).trans z)), if_pos (by rw [← hg.1.2.2.1]; exact c3), hjn]; exact hg2.1.2.2.1), _, ⟨(by unfold mTicksS; rw [if_pos c1, if_neg (fun z => c2 ((hg.1.how (t := 0) (by decide)).trans z)), if_pos (by rw [← hg.1.2.2.1]; exact c3), hjn]; exact hRX), hUX⟩, rfl⟩
      · skip
        refine v_bipush (pc := 40) ((-3)) dX0_ticks_40 (by decide) ?_
        refine v_S hc.put ?_
        exact v_iret (pc := 42) hr rfl (Nat.le_refl _) (Nat.le_refl _) dX0_ticks_42 ⟨_, rfl, rfl, (by unfold mTicksV; rw [if_pos c1, if_neg (fun z => c2 ((hg.1.how (t := 0) (by decide)).trans z)), if_neg (fun z => c3 (by rw [hg.1.2.2.1]; exact z))]), _, ⟨(by unfold mTicksS; rw [if_pos c1, if_neg (fun z => c2 ((hg.1.how (t := 0) (by decide)).trans z)), if_neg (fun z => c3 (by rw [hg.1.2.2.1]; exact z))]; exact hRL), UN.rf⟩, rfl⟩
    · skip
      refine v_bipush (pc := 22) ((-2)) dX0_ticks_22 (by decide) ?_
      refine v_S hc.put ?_
      exact v_iret (pc := 24) hr rfl (Nat.le_refl _) (Nat.le_refl _) dX0_ticks_24 ⟨_, rfl, rfl, (by unfold mTicksV; rw [if_pos c1, if_pos ((hg.1.how (t := 0) (by decide)).symm.trans c2)]), _, ⟨(by unfold mTicksS; rw [if_pos c1, if_pos ((hg.1.how (t := 0) (by decide)).symm.trans c2)]; exact hRL), UN.rf⟩, rfl⟩
  · skip
    refine v_iconst (pc := 10) ((-1)) dX0_ticks_10 (by decide) ?_
    exact v_iret (pc := 11) hr rfl (Nat.le_refl _) (Nat.le_refl _) dX0_ticks_11 ⟨_, rfl, rfl, (by unfold mTicksV; rw [if_neg c1]), _, ⟨(by unfold mTicksS; rw [if_neg c1]; exact hRL), UN.rf⟩, rfl⟩

