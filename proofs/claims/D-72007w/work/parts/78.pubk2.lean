set_option maxRecDepth 100000
/-! ScopeTasks: asks, undo, keep, back -/
set_option maxHeartbeats 4000000 in
theorem ct_X0_asks {G : GT} {l : Launch} {N : Nat} {S M : ST} {t : Int32} (hRL : RL S M) (hN : 513 ≤ N) : CTiE G l yX0_asks cX0_asks 2 (some .int) 5 [.ref (gZ G + 0), .int t] N S (mAsksV M t) (fun X => RL X (mAsksS M t) ∧ UN S X) := by
  obtain ⟨c, hc, hg⟩ := id hRL.2.2.1
  have h8 := hRL.1.1.n
  have h1 := hRL.1.1.2.1
  refine CT.mk "ScopeTasks" [(0, .ref (gZ G + 0)), (1, .int (t))] rfl (by decide) rfl (Nat.le_of_ble_eq_true rfl) ?_
  intro x hR hl hr hnm
  refine v_aload_n (pc := 0) 0 dX0_asks_0 rfl rfl ?_
  refine v_iload_n (pc := 1) 1 dX0_asks_1 rfl rfl ?_
  refine c_callVi (pc := 2) (st := []) (ci := 0) (ct_X0_isTask (S := S) (t := t) (M := M) hRL.1 (by omega)) kVX0_146 kDX0_146 (rm_ok hR (Nat.le_of_ble_eq_true rfl) (Nat.le_of_ble_eq_true rfl)) ⟨Nat.zero_le _, Nat.zero_le _⟩ (by omega) (rfl) rfl rfl rfl rfl (Nat.le_of_ble_eq_true rfl) dX0_asks_2 ?_
  refine v_if_neB (pc := 5) 10 dX0_asks_5 (by decide) (fun c1 => ?_) (fun c1 => ?_)
  · skip
    obtain ⟨j, hjL, rfl⟩ := in_nat (n := mN M - 1) (by omega) c1
    have hj8 : j < 8 := by omega
    have hjm : j < mN M := by omega
    have hjn : nn (nI j) = j := nn_nI (by omega)
    refine v_S hc.put.symm ?_
    refine v_aload_n (pc := 10) 0 dX0_asks_10 rfl rfl ?_
    refine gX0_25 (pc := 11) hN dX0_asks_11 ?_
    refine gX0_150 (pc := 14) RB_55 hN dX0_asks_14 ?_
    refine v_iload_n (pc := 17) 1 dX0_asks_17 rfl rfl ?_
    refine c_callVi (pc := 18) (st := []) (ci := 6) (ct_get1 (S := S) (b := 55) (t := j) (c := c) RB_55 (by omega) (by omega)) kVX0_154 kDX0_154 (rm_ok hR (Nat.le_of_ble_eq_true rfl) (Nat.le_of_ble_eq_true rfl)) ⟨Nat.zero_le _, Nat.zero_le _⟩ (by omega) ((BC_run RB_55 (j := 1) (by decide)) G _).1 rfl rfl rfl rfl (Nat.le_of_ble_eq_true rfl) dX0_asks_18 ?_
    refine v_if_eqB (pc := 21) 38 dX0_asks_21 (by decide) (fun c2 => ?_) (fun c2 => ?_)
    · skip
      refine v_bipush (pc := 38) ((-2)) dX0_asks_38 (by decide) ?_
      refine v_S hc.put ?_
      exact v_iret (pc := 40) hr rfl (Nat.le_refl _) (Nat.le_refl _) dX0_asks_40 ⟨_, rfl, rfl, (by unfold mAsksV; rw [if_pos c1, if_neg (show ¬ mAskOk M (nI j) by unfold mAskOk; rw [hjn]; exact (fun z => c2 ((hg.1.how hj8).trans z.1)))]), _, ⟨(by unfold mAsksS; rw [if_pos c1, if_neg (show ¬ mAskOk M (nI j) by unfold mAskOk; rw [hjn]; exact (fun z => c2 ((hg.1.how hj8).trans z.1)))]; exact hRL), UN.rf⟩, rfl⟩
    · skip
      refine v_aload_n (pc := 24) 0 dX0_asks_24 rfl rfl ?_
      refine gX0_25 (pc := 25) hN dX0_asks_25 ?_
      refine gX0_159 (pc := 28) RB_55 hN dX0_asks_28 ?_
      refine v_iload_n (pc := 31) 1 dX0_asks_31 rfl rfl ?_
      refine c_callVi (pc := 32) (st := []) (ci := 6) (ct_get7 (S := S) (b := 55) (t := j) (c := c) RB_55 (by omega) (by omega)) kVX0_154 kDX0_154 (rm_ok hR (Nat.le_of_ble_eq_true rfl) (Nat.le_of_ble_eq_true rfl)) ⟨Nat.zero_le _, Nat.zero_le _⟩ (by omega) ((BC_run RB_55 (j := 7) (by decide)) G _).1 rfl rfl rfl rfl (Nat.le_of_ble_eq_true rfl) dX0_asks_32 ?_
      refine v_if_eqB (pc := 35) 41 dX0_asks_35 (by decide) (fun c3 => ?_) (fun c3 => ?_)
      · skip
        refine v_S hc.put ?_
        refine v_aload_n (pc := 41) 0 dX0_asks_41 rfl rfl ?_
        refine c_callVvE (pc := 42) (st := []) (ci := 0) (ct_X0_know (S := S) (M := M) hRL (by omega)) kVX0_140 kDX0_140 (rm_ok hR (Nat.le_of_ble_eq_true rfl) (Nat.le_of_ble_eq_true rfl)) ⟨Nat.zero_le _, Nat.zero_le _⟩ (by omega) (rfl) rfl rfl rfl rfl (Nat.le_of_ble_eq_true rfl) dX0_asks_42 (fun X1 hX => ?_)
        obtain ⟨hY1, hY1o⟩ := hX
        have hcX : HR X1 55 c := hc.to (fun k h1 h2 => hY1o k (by omega))
        refine v_S hcX.put.symm ?_
        refine v_aload_n (pc := 45) 0 dX0_asks_45 rfl rfl ?_
        refine gX0_25 (pc := 46) hN dX0_asks_46 ?_
        refine gX0_159 (pc := 49) RB_55 hN dX0_asks_49 ?_
        refine v_iload_n (pc := 52) 1 dX0_asks_52 rfl rfl ?_
        refine c_callVv (pc := 53) (st := []) (ci := 6) (ct_set7 (S := X1) (b := 55) (t := j) (c := c) RB_55 (by omega) (by omega)) kVX0_162 kDX0_162 (rm_ok hR (Nat.le_of_ble_eq_true rfl) (Nat.le_of_ble_eq_true rfl)) ⟨Nat.zero_le _, Nat.zero_le _⟩ (by omega) ((BC_run RB_55 (j := 7) (by decide)) G _).1 rfl rfl rfl rfl (Nat.le_of_ble_eq_true rfl) dX0_asks_53 ?_
        refine v_aload_n (pc := 56) 0 dX0_asks_56 rfl rfl ?_
        refine gX0_25 (pc := 57) hN dX0_asks_57 ?_
        refine gX0_165 (pc := 60) RB_55 hN dX0_asks_60 ?_
        refine v_iload_n (pc := 63) 1 dX0_asks_63 rfl rfl ?_
        refine c_iald (pc := 64) (k := 55 + 10) (j := j) (IA_run8 RB_55 (by decide) (by decide) (by decide)) (by omega) rfl (by omega) (by decide) dX0_asks_64 ?_
        refine v_topi (v := c (18 * j + 2)) ((pr_10 (by omega)).trans (pk_un (by omega))) ?_
        have hG := (hg.to TE_rem).ask hY1.1.1 (t := j) (by rw [TE_rem.n]; exact hjm)
        exact v_iret (pc := 65) hr rfl (Nat.le_refl _) (Nat.le_refl _) dX0_asks_65 ⟨_, rfl, rfl, (by unfold mAsksV; rw [if_pos c1, if_pos (show mAskOk M (nI j) by unfold mAskOk; rw [hjn]; exact ⟨(hg.1.how hj8).symm.trans c2, fun z => c3 ((hg.1.1 j hj8).1.2.2.2.1.trans z)⟩), hjn]; exact (hg.1.1 j hj8).1.2.2.1), _, ⟨(by unfold mAsksS; rw [if_pos c1, if_pos (show mAskOk M (nI j) by unfold mAskOk; rw [hjn]; exact ⟨(hg.1.how hj8).symm.trans c2, fun z => c3 ((hg.1.1 j hj8).1.2.2.2.1.trans z)⟩), hjn]; exact hY1.now hG), (hY1o.UN.tr (UN_put (by decide)))⟩, rfl⟩
      · skip
        refine v_bipush (pc := 38) ((-2)) dX0_asks_38 (by decide) ?_
        refine v_S hc.put ?_
        exact v_iret (pc := 40) hr rfl (Nat.le_refl _) (Nat.le_refl _) dX0_asks_40 ⟨_, rfl, rfl, (by unfold mAsksV; rw [if_pos c1, if_neg (show ¬ mAskOk M (nI j) by unfold mAskOk; rw [hjn]; exact (fun z => z.2 ((hg.1.1 j hj8).1.2.2.2.1.symm.trans c3)))]), _, ⟨(by unfold mAsksS; rw [if_pos c1, if_neg (show ¬ mAskOk M (nI j) by unfold mAskOk; rw [hjn]; exact (fun z => z.2 ((hg.1.1 j hj8).1.2.2.2.1.symm.trans c3)))]; exact hRL), UN.rf⟩, rfl⟩
  · skip
    refine v_iconst (pc := 8) ((-1)) dX0_asks_8 (by decide) ?_
    exact v_iret (pc := 9) hr rfl (Nat.le_refl _) (Nat.le_refl _) dX0_asks_9 ⟨_, rfl, rfl, (by unfold mAsksV; rw [if_neg c1]), _, ⟨(by unfold mAsksS; rw [if_neg c1]; exact hRL), UN.rf⟩, rfl⟩

theorem RL_undo {S M : ST} {m a hb hf i : Nat} {u w : Nat → Nat} {c d : Nat → Int32} (hRL : RL S M) (hU : UR S M (m + 1) a hb hf u w) (hi : u m = i) (hg : Gd M d (fun k => M 529 (326 * ((a + 12 - (m + 1) + m) % 12) + k))) : RL (put (pop1 S (177 + 28 * i) ((hb + m) % 15) ((hf + (11 - m)) % 15) (nI ((hf + (12 - m)) % 15))) 55 (cpR d c)) (mUndoS M) := by
  have hX := pop1_UC hU.uc hi
  obtain ⟨⟨h1, h2, h3⟩, ⟨h4, h5⟩, h6, h7, h8, h9, h10, h11⟩ := hU
  have hna : nn (M 513 26) = a := by rw [h5]; exact nn_of (by omega)
  have hnn : nn (M 513 25) = m + 1 := by rw [h4]; exact nn_of (by omega)
  have hat : mUndoAt M = (a + 11) % 12 := by unfold mUndoAt; rw [hna]; congr 1
  have hne : ¬ M 513 25 = 0 := by rw [h4]; exact nI_ne0 (by omega) (by omega)
  rw [show (a + 12 - (m + 1) + m) % 12 = (a + 11) % 12 by omega] at hg
  unfold mUndoS
  rw [if_neg hne, hnn, hat]
  obtain ⟨M1, hM1⟩ : ∃ M1, M1 = s2 (s2 M 513 26 (nI ((a + 11) % 12))) 513 25 (nI (m + 1 - 1)) := ⟨_, rfl⟩
  rw [← hM1]
  have f1 : ∀ k, k ≠ 513 → M1 k = M k := fun k hk => by rw [hM1, s2_nk hk, s2_nk hk]
  have f2 : ∀ j, j ≠ 25 → j ≠ 26 → M1 513 j = M 513 j := fun j h1 h2 => by rw [hM1, s2_nj h1, s2_nj h2]
  have te : TE M M1 := ⟨f2 _ (by decide) (by decide), f2 _ (by decide) (by decide), fun k h1 h2 => f1 k (by omega)⟩
  have hU1 : PU (pop1 S (177 + 28 * i) ((hb + m) % 15) ((hf + (11 - m)) % 15) (nI ((hf + (12 - m)) % 15))) M1 := by
    refine ⟨_, (a + 11) % 12, _, _, _, _, hX.ur (by omega) (by rw [hM1, s2_at]; rfl) (by rw [hM1, s2_nj (by decide), s2_at]) (fun p hp => ?_)⟩
    obtain ⟨e, he, hge⟩ := h11 p (by omega)
    have hp12 := (h7 p (by omega)).1
    refine ⟨e, he.to (fun k a b => pop1_o (by omega)), ?_⟩
    rw [f1 529 (by decide), show ((a + 11) % 12 + 12 - m + p) % 12 = (a + 12 - (m + 1) + p) % 12 by omega]
    exact hge.to te
  have hR1 : RL (pop1 S (177 + 28 * i) ((hb + m) % 15) ((hf + (11 - m)) % 15) (nI ((hf + (12 - m)) % 15))) M1 := hRL.undo pop1_UO hU1 te (f1 _ (by decide)) (f1 _ (by decide)) (f1 _ (by decide)) (f2 _ (by decide) (by decide)) (fun k h1 h2 => f1 k (by omega)) (f2 _ (by decide) (by decide)) (f1 _ (by decide))
  exact hR1.now (hg.to te).cp
set_option maxHeartbeats 4000000 in
theorem ct_X0_undo {G : GT} {l : Launch} {N : Nat} {S M : ST} (hRL : RL S M) (hN : 513 ≤ N) : CTiE G l yX0_undo cX0_undo 2 (some .int) 4 [.ref (gZ G + 0)] N S (mUndoV M) (fun X => RL X (mUndoS M) ∧ UN S X) := by
  obtain ⟨hP, hQ, ⟨c, hc, hg⟩, hD, hI, ⟨n, a, hb, hf, u, w, hU⟩, hF, hX, hB⟩ := hRL
  have hRL : RL S M := ⟨hP, hQ, ⟨c, hc, hg⟩, hD, hI, ⟨n, a, hb, hf, u, w, hU⟩, hF, hX, hB⟩
  obtain ⟨⟨hn, ha, hb15, hf15⟩, ⟨hm5, hm6⟩, ⟨hq1, hq2, hq3, hq4⟩, hu, hw, ⟨hd1, hd2, hd3⟩, hrun, hgd⟩ := id hU
  refine CT.mk "ScopeTasks" [(0, .ref (gZ G + 0))] rfl (by decide) rfl (Nat.le_of_ble_eq_true rfl) ?_
  intro x hR hl hr hnm
  refine v_aload_n (pc := 0) 0 dX0_undo_0 rfl rfl ?_
  refine gX0_13 (pc := 1) hN dX0_undo_1 ?_
  refine c_callVi (pc := 4) (st := []) (ci := 7) (ct_J2_isEmpty (S := S) (k := 111) (hd := hb) (tl := (hb + n) % 15) DR_111.1 (by omega) hq1 hq2 (by omega) (by omega)) kVX0_7 kDX0_7 (rm_ok hR (Nat.le_of_ble_eq_true rfl) (Nat.le_of_ble_eq_true rfl)) ⟨Nat.zero_le _, Nat.zero_le _⟩ (by omega) (DR_111.1 G _) rfl rfl rfl rfl (Nat.le_of_ble_eq_true rfl) dX0_undo_4 ?_
  refine v_if_eqB (pc := 7) 13 dX0_undo_7 (by decide) (fun c1 => ?_) (fun c1 => ?_)
  · skip
    obtain ⟨m, rfl⟩ : ∃ m, n = m + 1 := ⟨n - 1, by omega⟩
    obtain ⟨i, hi⟩ : ∃ i, u m = i := ⟨_, rfl⟩
    obtain ⟨hi12, hui⟩ := hu m (by omega)
    rw [hi] at hi12 hui
    have hdd : ddec ((hb + (m + 1)) % 15) 15 = (hb + m) % 15 := by rw [ddec_m (by omega)]; omega
    obtain ⟨d, hd, hgd2⟩ := hgd m (by omega)
    rw [hi] at hd
    clear hrun hgd hw
    refine v_aload_n (pc := 13) 0 dX0_undo_13 rfl rfl ?_
    refine gX0_13 (pc := 14) hN dX0_undo_14 ?_
    refine c_callVa (pc := 17) (st := []) (ci := 7) (ct_J2_removeLastR (S := S) (k := 111) (n := 15) (tl := (hb + (m + 1)) % 15) (c := 177 + 28 * i) DR_111 (by omega) (by omega) hq2 (by omega) (by rw [hdd]; exact hui) (by omega)) kVX0_22 kDX0_22 (rm_ok hR (Nat.le_of_ble_eq_true rfl) (Nat.le_of_ble_eq_true rfl)) ⟨Nat.zero_le _, Nat.zero_le _⟩ (by omega) (DR_111.1 G _) rfl rfl rfl rfl (Nat.le_of_ble_eq_true rfl) dX0_undo_17 ?_
    refine v_S (show _ = s2 (s2 S 111 2 (nI ((hb + m) % 15))) 112 ((hb + m) % 15) (nI 0) by rw [hdd]) ?_
    refine v_castR (pc := 20) (RB_p hi12) (by omega) q195 dX0_undo_20 ?_
    refine v_astore_n (pc := 23) (lv' := [(1, .ref (gZ G + (177 + 28 * i))), (0, .ref (gZ G + 0))]) dX0_undo_23 rfl (by decide) rfl ?_
    refine v_aload_n (pc := 24) 1 dX0_undo_24 rfl rfl ?_
    refine gX0_25 (pc := 25) hN dX0_undo_25 ?_
    refine v_aload_n (pc := 28) 0 dX0_undo_28 rfl rfl ?_
    have hcA : HR (s2 (s2 S 111 2 (nI ((hb + m) % 15))) 112 ((hb + m) % 15) (nI 0)) 55 c := hc.to (fun k h1 h2 => by rw [s2_nk (by omega), s2_nk (by omega)])
    refine v_S hcA.put.symm ?_
    refine c_callVa (pc := 29) (st := []) (ci := 2) (ct_X2_copyOf (S := s2 (s2 S 111 2 (nI ((hb + m) % 15))) 112 ((hb + m) % 15) (nI 0)) (b := 55) (a := 177 + 28 * i) (c := c) (d := d) RB_55 (RB_p hi12) (by omega) (fun j hj => by rw [s2_nk (by omega), s2_nk (by omega)]; exact hd j hj) (by omega)) kVX0_29 kDX0_29 (rm_ok hR (Nat.le_of_ble_eq_true rfl) (Nat.le_of_ble_eq_true rfl)) ⟨Nat.zero_le _, Nat.zero_le _⟩ (by omega) (hC_run (j := 0) RB_55 (by decide) rfl) rfl rfl rfl rfl (Nat.le_of_ble_eq_true rfl) dX0_undo_29 ?_
    refine v_pop (pc := 32) dX0_undo_32 rfl ?_
    refine v_aload_n (pc := 33) 1 dX0_undo_33 rfl rfl ?_
    refine gX0_1 (pc := 34) hN dX0_undo_34 ?_
    refine v_aload_n (pc := 37) 0 dX0_undo_37 rfl rfl ?_
    refine c_callVv (pc := 38) (st := []) (ci := 7) (ct_J2_addLastR (S := put (s2 (s2 S 111 2 (nI ((hb + m) % 15))) 112 ((hb + m) % 15) (nI 0)) 55 (cpR d c)) (k := 113) (c := 177 + 28 * i) (n := 15) (hd := hf) (tl := (hf + (12 - (m + 1))) % 15) DR_113 (by omega) (by omega) (by rw [put_ne (by omega), s2_val, s2_val, if_neg (by omega), if_neg (by omega)]; exact hq3) (by rw [put_ne (by omega), s2_val, s2_val, if_neg (by omega), if_neg (by omega)]; exact hq4) (by omega) (by omega) (by rw [dinc_m (n := 15) (by omega)]; omega) (RB_p hi12) (by omega)) kVX0_33 kDX0_33 (rm_ok hR (Nat.le_of_ble_eq_true rfl) (Nat.le_of_ble_eq_true rfl)) ⟨Nat.zero_le _, Nat.zero_le _⟩ (by omega) (DR_113.1 G _) rfl rfl rfl rfl (Nat.le_of_ble_eq_true rfl) dX0_undo_38 ?_
    refine v_S (show _ = put (pop1 S (177 + 28 * i) ((hb + m) % 15) ((hf + (11 - m)) % 15) (nI ((hf + (12 - m)) % 15))) 55 (cpR d c) by rw [show 12 - (m + 1) = 11 - m by omega, show dinc ((hf + (11 - m)) % 15) 15 = (hf + (12 - m)) % 15 by rw [dinc_m (n := 15) (by omega)]; omega, put_s2 (by omega), put_s2 (by omega)]; rfl) ?_
    refine v_aload_n (pc := 41) 1 dX0_undo_41 rfl rfl ?_
    refine gX0_13 (pc := 42) hN dX0_undo_42 ?_
    refine c_callVi (pc := 45) (st := []) (ci := 7) (ct_J2_sizeR (S := put (pop1 S (177 + 28 * i) ((hb + m) % 15) ((hf + (11 - m)) % 15) (nI ((hf + (12 - m)) % 15))) 55 (cpR d c)) (k := 111) (n := 15) (hd := hb) (tl := (hb + m) % 15) DR_111 (by omega) (by omega) (by rw [put_ne (by omega), pop1_at, if_neg (by omega), if_neg (by omega), if_neg (by omega), if_neg (by omega)]; exact hq1) (by rw [put_ne (by omega), pop1_at, if_neg (by omega), if_neg (by omega), if_neg (by omega), if_pos (by omega)]) (by omega) (by omega)) kVX0_168 kDX0_168 (rm_ok hR (Nat.le_of_ble_eq_true rfl) (Nat.le_of_ble_eq_true rfl)) ⟨Nat.zero_le _, Nat.zero_le _⟩ (by omega) (DR_111.1 G _) rfl rfl rfl rfl (Nat.le_of_ble_eq_true rfl) dX0_undo_45 ?_
    exact v_iret (pc := 48) hr rfl (Nat.le_refl _) (Nat.le_refl _) dX0_undo_48 ⟨_, rfl, rfl, (by unfold mUndoV; rw [if_neg (by rw [hm5]; exact nI_ne0 (by omega) (by omega)), dsub_n (by omega) (by omega), hm5, nn_of (by omega)]; rfl), _, ⟨(RL_undo hRL hU hi hgd2), ((UO.UN pop1_UO).tr (UN_put (by decide)))⟩, rfl⟩
  · skip
    have hn0 : n = 0 := by omega
    subst hn0
    refine v_bipush (pc := 10) ((-2)) dX0_undo_10 (by decide) ?_
    exact v_iret (pc := 12) hr rfl (Nat.le_refl _) (Nat.le_refl _) dX0_undo_12 ⟨_, rfl, rfl, (by unfold mUndoV; rw [if_pos (show M 513 25 = 0 from hm5)]), _, ⟨(by unfold mUndoS; rw [if_pos (show M 513 25 = 0 from hm5)]; exact hRL), UN.rf⟩, rfl⟩

section VI
variable {G : GT} {x : VX} {own : String} {cc : ByteArray} {nL : Nat} {Q : State → Prop} {lv lv' : List (Nat × Value)} {st : List Value} {N : Nat} {S : ST} {a b pc : Nat}
theorem c_aimg {j : Nat} (hN : 513 ≤ N) (hj : j < 2) (hd : decode cc pc = .ok (.aaload, 1)) (kk : V G x own cc nL Q (pc + 1) lv (.ref (gZ G + (116 + 28 * j)) :: st) N (hC G S) a b) : V G x own cc nL Q pc lv (.int (nI j) :: .ref (gZ G + 115) :: st) N (hC G S) a b :=
  v_aald (t0 := 6) (n := 2) (f := fun j => some (gZ G + (116 + 28 * j))) rfl (by omega) rfl rfl hj (by decide) rfl hd kk
end VI
theorem UN_keep {S : ST} {i : Nat} {F : Nat → Int32} (hi : i < 2) : UN S (s2 (put S (116 + 28 * i) F) 172 i (nI 1)) := fun k hk => by rw [s2_nk (by omega), put_ne (by omega)]
theorem RL_keep {S M : ST} {i : Nat} {c d : Nat → Int32} (hRL : RL S M) (hi : i < 2) (hg : Gd M c (M 527)) : RL (s2 (put S (116 + 28 * i) (cpR c d)) 172 i (nI 1)) (mKeepS M (nI i)) := by
  obtain ⟨h1, h2, h3, h4, h5, h6, h7, h8, h9⟩ := hRL
  have hin : nn (nI i) = i := nn_nI (by omega)
  unfold mKeepS
  rw [if_pos ⟨nI_pos' (by omega), (nI_leI (by omega) (by decide)).mpr (by omega)⟩, hin]
  have te : TE M (s1 (s2 M 533 i (nI 1)) 534 (blk (M 527) (M 534) (326 * i) 326)) := ⟨by rw [s1_ne (by decide), s2_nk (by decide)], by rw [s1_ne (by decide), s2_nk (by decide)], fun k a b => by rw [s1_ne (by omega), s2_nk (by omega)]⟩
  have hM' := h1.1.toE te
  have eC : ∀ k, ¬ (116 ≤ k ∧ k < 173) → s2 (put S (116 + 28 * i) (cpR c d)) 172 i (nI 1) k = S k := fun k hk => by rw [s2_nk (by omega), put_ne (by omega)]
  refine ⟨(h1.toC (fun k a b => eC k (by omega))).toM te, h2.to (fun k a => eC k (by omega)), (h3.toC (fun k a b => eC k (by omega))).toM te (by rw [s1_ne (by decide), s2_nk (by decide)]), h4.toC (fun k a b => eC k (by omega)), fun q hq => ?_, (h6.toC (fun k a => eC k (by omega))).toM te (by rw [s1_ne (by decide), s2_nk (by decide)]) (by rw [s1_ne (by decide), s2_nk (by decide)]) (by rw [s1_ne (by decide), s2_nk (by decide)]), (h7.toC (congrFun (eC 0 (by omega)) _) (fun k a b => eC k (by omega))).toM te (by rw [s1_ne (by decide), s2_nk (by decide)]) (fun k a b => by rw [s1_ne (by omega), s2_nk (by omega)]), (h8.toC (congrFun (eC 0 (by omega)) _) (eC 173 (by omega))).toM (by rw [s1_ne (by decide), s2_nk (by decide)]) (by rw [s1_ne (by decide), s2_nk (by decide)]), h9.toC (fun k a => eC k (by omega))⟩
  rw [s1_ne (by decide), s1_at]
  by_cases e : q = i
  · subst e
    rw [s2_at, s2_at]
    refine ⟨Or.inr rfl, rfl, cpR c d, fun j hj => by rw [s2_nk (by omega), put_at hj], fun _ => ?_⟩
    exact (hg.cp.to te).congG hM' (fun j hj => blk_in hj)
  · obtain ⟨a1, a2, e1, a3, a4⟩ := h5 q hq
    rw [s2_nj e, s2_nj e, put_ne (by omega)]
    refine ⟨a1, a2, e1, fun j hj => by rw [s2_nk (by omega), put_ne (by omega)]; exact a3 j hj, fun z => ?_⟩
    exact ((a4 z).to te).congG hM' (fun j hj => blk_out (by omega))
set_option maxHeartbeats 4000000 in
theorem ct_X0_keep {G : GT} {l : Launch} {N : Nat} {S M : ST} {w : Int32} (hRL : RL S M) (hN : 513 ≤ N) : CTiE G l yX0_keep cX0_keep 2 (some .int) 4 [.ref (gZ G + 0), .int w] N S (mKeepV M w) (fun X => RL X (mKeepS M w) ∧ UN S X) := by
  obtain ⟨c, hc, hg⟩ := id hRL.2.2.1
  refine CT.mk "ScopeTasks" [(0, .ref (gZ G + 0)), (1, .int (w))] rfl (by decide) rfl (Nat.le_of_ble_eq_true rfl) ?_
  intro x hR hl hr hnm
  refine v_iload_n (pc := 0) 1 dX0_keep_0 rfl rfl ?_
  refine v_iconst (pc := 1) (nI 0) dX0_keep_1 (by decide) ?_
  refine v_iconst (pc := 2) (nI 1) dX0_keep_2 (by decide) ?_
  refine c_callSi (pc := 3) (st := []) (ct_X0_in (S := S) (v := w) (lo := nI 0) (hi := nI 1) ) kVX0_100 kDX0_100 (rm_ok hR (Nat.le_of_ble_eq_true rfl) (Nat.le_of_ble_eq_true rfl)) ⟨Nat.zero_le _, Nat.zero_le _⟩ rfl rfl (Nat.le_of_ble_eq_true rfl) dX0_keep_3 ?_
  refine v_if_neB (pc := 6) 11 dX0_keep_6 (by decide) (fun c1 => ?_) (fun c1 => ?_)
  · skip
    obtain ⟨i, hi1, rfl⟩ := in_nat (n := 1) (by decide) c1
    have hin : nn (nI i) = i := nn_nI (by omega)
    obtain ⟨z1, z2, d, hd, hgd⟩ := hRL.2.2.2.2.1 i (by omega)
    refine v_aload_n (pc := 11) 0 dX0_keep_11 rfl rfl ?_
    refine gX0_65 (pc := 12) hN dX0_keep_12 ?_
    refine v_iload_n (pc := 15) 1 dX0_keep_15 rfl rfl ?_
    refine c_aimg (pc := 16) (j := i) hN (by omega) dX0_keep_16 ?_
    refine v_aload_n (pc := 17) 0 dX0_keep_17 rfl rfl ?_
    refine gX0_25 (pc := 18) hN dX0_keep_18 ?_
    refine v_S hd.put.symm ?_
    refine c_callVa (pc := 21) (st := []) (ci := 2) (ct_X2_copyOf (S := S) (b := 116 + 28 * i) (a := 55) (c := d) (d := c) (RB_i (by omega)) RB_55 (by omega) hc (by omega)) kVX0_29 kDX0_29 (rm_ok hR (Nat.le_of_ble_eq_true rfl) (Nat.le_of_ble_eq_true rfl)) ⟨Nat.zero_le _, Nat.zero_le _⟩ (by omega) (hC_run (j := 0) (RB_i (by omega)) (by decide) rfl) rfl rfl rfl rfl (Nat.le_of_ble_eq_true rfl) dX0_keep_21 ?_
    refine v_pop (pc := 24) dX0_keep_24 rfl ?_
    refine v_aload_n (pc := 25) 0 dX0_keep_25 rfl rfl ?_
    refine gX0_69 (pc := 26) hN dX0_keep_26 ?_
    refine v_iload_n (pc := 29) 1 dX0_keep_29 rfl rfl ?_
    refine v_iconst (pc := 30) (nI 1) dX0_keep_30 (by decide) ?_
    refine c_zast (pc := 31) (k := 172) (j := i) ZA_172 (by omega) rfl (by omega) (by decide) (by decide) dX0_keep_31 ?_
    refine v_S (put_s2 (by omega)) ?_
    refine v_aload_n (pc := 32) 0 dX0_keep_32 rfl rfl ?_
    refine gX0_25 (pc := 33) hN dX0_keep_33 ?_
    refine gX0_137 (pc := 36) RB_55 hN dX0_keep_36 ?_
    refine v_topi (v := c 144) ((congrFun (put_ne (by omega)) _).trans ((congrFun (s2_nk (by omega)) _).trans ((congrFun (hc 0 (by decide)) 0).trans rfl))) ?_
    refine v_S (put_s2 (S := S) (b := 116 + 28 * i) (k := 172) (j := i) (by omega)).symm ?_
    exact v_iret (pc := 39) hr rfl (Nat.le_refl _) (Nat.le_refl _) dX0_keep_39 ⟨_, rfl, rfl, (by unfold mKeepV; rw [if_pos c1]; exact hg.1.2.2.1), _, ⟨(RL_keep (i := i) (c := c) (d := d) hRL (by omega) hg), (UN_keep (by omega))⟩, rfl⟩
  · skip
    refine v_iconst (pc := 9) ((-1)) dX0_keep_9 (by decide) ?_
    exact v_iret (pc := 10) hr rfl (Nat.le_refl _) (Nat.le_refl _) dX0_keep_10 ⟨_, rfl, rfl, (by unfold mKeepV; rw [if_neg c1]), _, ⟨(by unfold mKeepS; rw [if_neg c1]; exact hRL), UN.rf⟩, rfl⟩

theorem RL_back {S X M : ST} {i n a hb hf : Nat} {u w : Nat → Nat} {F : Nat → Int32} (hRL : RL S M) (ha : a < 12) (h6 : M 513 26 = nI a) (hi : i < 2) (hU : UC X 0 hb hf u w) (e : ∀ k, (k < 111 ∨ 115 ≤ k) → X k = put S 55 F k) (hG : Gd M F (fun k => M 534 (326 * i + k))) : RL X (s2 (s1 M 527 (fun k => M 534 (326 * i + k))) 513 25 (nI 0)) := by
  have hr := hRL.now hG
  have te : TE (s1 M 527 (fun k => M 534 (326 * i + k))) (s2 (s1 M 527 (fun k => M 534 (326 * i + k))) 513 25 (nI 0)) := ⟨s2_nj (by decide), s2_nj (by decide), fun k a b => s2_nk (by omega)⟩
  refine hr.undo (fun k hk => e k (by omega)) ⟨0, a, _, _, _, _, hU.ur ha (by rw [s2_at]) (by rw [s2_nj (by decide), s1_ne (by decide)]; exact h6) (fun p hp => absurd hp (by omega))⟩ te (s2_nk (by decide)) (s2_nk (by decide)) (s2_nk (by decide)) (s2_nj (by decide)) (fun k a b => s2_nk (by omega)) (s2_nj (by decide)) (s2_nk (by decide))
set_option maxHeartbeats 4000000 in
theorem ct_X0_back {G : GT} {l : Launch} {N : Nat} {S M : ST} {w : Int32} (hRL : RL S M) (hN : 513 ≤ N) : CTiE G l yX0_back cX0_back 2 (some .int) 4 [.ref (gZ G + 0), .int w] N S (mBackV M w) (fun X => RL X (mBackS M w) ∧ UN S X) := by
  obtain ⟨hP, hQ, ⟨c, hc, hg⟩, hD, hI, ⟨n, a, hb, hf, u, w9, hU⟩, hF, hX, hB⟩ := hRL
  have hRL : RL S M := ⟨hP, hQ, ⟨c, hc, hg⟩, hD, hI, ⟨n, a, hb, hf, u, w9, hU⟩, hF, hX, hB⟩
  obtain ⟨⟨hn, ha, hb15, hf15⟩, ⟨hm5, hm6⟩, ⟨hq1, hq2, hq3, hq4⟩, hu, hw, ⟨hd1, hd2, hd3⟩, hrun, hgd⟩ := id hU
  refine CT.mk "ScopeTasks" [(0, .ref (gZ G + 0)), (1, .int (w))] rfl (by decide) rfl (Nat.le_of_ble_eq_true rfl) ?_
  intro x hR hl hr hnm
  refine v_iload_n (pc := 0) 1 dX0_back_0 rfl rfl ?_
  refine v_iconst (pc := 1) (nI 0) dX0_back_1 (by decide) ?_
  refine v_iconst (pc := 2) (nI 1) dX0_back_2 (by decide) ?_
  refine c_callSi (pc := 3) (st := []) (ct_X0_in (S := S) (v := w) (lo := nI 0) (hi := nI 1) ) kVX0_100 kDX0_100 (rm_ok hR (Nat.le_of_ble_eq_true rfl) (Nat.le_of_ble_eq_true rfl)) ⟨Nat.zero_le _, Nat.zero_le _⟩ rfl rfl (Nat.le_of_ble_eq_true rfl) dX0_back_3 ?_
  refine v_if_neB (pc := 6) 11 dX0_back_6 (by decide) (fun c1 => ?_) (fun c1 => ?_)
  · skip
    obtain ⟨i, hi1, rfl⟩ := in_nat (n := 1) (by decide) c1
    have hin : nn (nI i) = i := nn_nI (by omega)
    obtain ⟨z1, z2, d, hd, hgd⟩ := hRL.2.2.2.2.1 i (by omega)
    refine v_aload_n (pc := 11) 0 dX0_back_11 rfl rfl ?_
    refine gX0_69 (pc := 12) hN dX0_back_12 ?_
    refine v_iload_n (pc := 15) 1 dX0_back_15 rfl rfl ?_
    refine c_zald (pc := 16) (k := 172) (j := i) ZA_172 (by omega) rfl (by omega) (by decide) dX0_back_16 ?_
    refine v_topi (v := M 533 i) z2 ?_
    refine v_if_ne (pc := 17) 23 dX0_back_17 (by decide) (fun c2 => ?_) (fun c2 => ?_)
    · skip
      have hk1 : M 533 i = nI 1 := z1.resolve_left c2
      have hG := hgd hk1
      refine v_aload_n (pc := 23) 0 dX0_back_23 rfl rfl ?_
      refine gX0_25 (pc := 24) hN dX0_back_24 ?_
      refine v_aload_n (pc := 27) 0 dX0_back_27 rfl rfl ?_
      refine gX0_65 (pc := 28) hN dX0_back_28 ?_
      refine v_iload_n (pc := 31) 1 dX0_back_31 rfl rfl ?_
      refine c_aimg (pc := 32) (j := i) hN (by omega) dX0_back_32 ?_
      refine v_S hc.put.symm ?_
      refine c_callVa (pc := 33) (st := []) (ci := 2) (ct_X2_copyOf (S := S) (b := 55) (a := 116 + 28 * i) (c := c) (d := d) RB_55 (RB_i (by omega)) (by omega) hd (by omega)) kVX0_29 kDX0_29 (rm_ok hR (Nat.le_of_ble_eq_true rfl) (Nat.le_of_ble_eq_true rfl)) ⟨Nat.zero_le _, Nat.zero_le _⟩ (by omega) (hC_run (j := 0) RB_55 (by decide) rfl) rfl rfl rfl rfl (Nat.le_of_ble_eq_true rfl) dX0_back_33 ?_
      refine v_pop (pc := 36) dX0_back_36 rfl ?_
      refine v_aload_n (pc := 37) 0 dX0_back_37 rfl rfl ?_
      refine c_callVvE (pc := 38) (st := []) (ci := 0) (ct_X0_forgetAll (S := put S 55 (cpR d c)) (n := n) (hb := hb) (hf := hf) (u := u) (w := w9) (UR.uc (hU.toC (fun k hk => put_ne (by omega)))) (by omega)) kVX0_125 kDX0_125 (rm_ok hR (Nat.le_of_ble_eq_true rfl) (Nat.le_of_ble_eq_true rfl)) ⟨Nat.zero_le _, Nat.zero_le _⟩ (by omega) (rfl) rfl rfl rfl rfl (Nat.le_of_ble_eq_true rfl) dX0_back_38 (fun X1 hX => ?_)
      obtain ⟨hY1, hY1o⟩ := hX
      obtain ⟨⟨u2, w2, hU2⟩, hO2⟩ : (∃ u2 w2, UC X1 0 hb hf u2 w2) ∧ ∀ k, (k < 111 ∨ 115 ≤ k) → X1 k = put S 55 (cpR d c) k := ⟨hY1, hY1o⟩
      refine v_aload_n (pc := 41) 0 dX0_back_41 rfl rfl ?_
      refine gX0_25 (pc := 42) hN dX0_back_42 ?_
      refine gX0_137 (pc := 45) RB_55 hN dX0_back_45 ?_
      refine v_topi (v := d 144) ((congrFun (hO2 55 (by omega)) 0).trans (pr_0.trans (pk_un (by decide)))) ?_
      exact v_iret (pc := 48) hr rfl (Nat.le_refl _) (Nat.le_refl _) dX0_back_48 ⟨_, rfl, rfl, (by unfold mBackV; rw [if_pos c1, hin, if_neg (show ¬ M 533 i = 0 by rw [hk1]; decide)]; exact hG.1.2.2.1), _, ⟨(by unfold mBackS; rw [if_pos c1, hin, if_neg (show ¬ M 533 i = 0 by rw [hk1]; decide)]; exact RL_back (n := n) hRL ha hm6 (by omega) hU2 hO2 hG.cp), (fun k hk => by rw [hO2 k (by omega), put_ne (by omega)])⟩, rfl⟩
    · skip
      refine v_bipush (pc := 20) ((-2)) dX0_back_20 (by decide) ?_
      exact v_iret (pc := 22) hr rfl (Nat.le_refl _) (Nat.le_refl _) dX0_back_22 ⟨_, rfl, rfl, (by unfold mBackV; rw [if_pos c1, hin, if_pos c2]), _, ⟨(by unfold mBackS; rw [if_pos c1, hin, if_pos c2]; exact hRL), UN.rf⟩, rfl⟩
  · skip
    refine v_iconst (pc := 9) ((-1)) dX0_back_9 (by decide) ?_
    exact v_iret (pc := 10) hr rfl (Nat.le_refl _) (Nat.le_refl _) dX0_back_10 ⟨_, rfl, rfl, (by unfold mBackV; rw [if_neg c1]), _, ⟨(by unfold mBackS; rw [if_neg c1]; exact hRL), UN.rf⟩, rfl⟩

