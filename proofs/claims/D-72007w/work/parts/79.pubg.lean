set_option maxRecDepth 100000
/-! ScopeTasks: ends, spares, wellBy, isSo, fits -/
theorem TE_528 {M : ST} {g : Nat → Int32} : TE M (s1 M 528 g) := ⟨congrFun (s1_ne (by decide)) _, congrFun (s1_ne (by decide)) _, fun k h1 h2 => s1_ne (by omega)⟩
theorem RL.m528 {X M : ST} (h : RL X M) {g : Nat → Int32} : RL X (s1 M 528 g) := by
  obtain ⟨h1, h2, h3, h4, h5, h6, h7, h8, h9⟩ := h
  have te := TE_528 (M := M) (g := g)
  exact ⟨h1.toM te, h2, h3.toM te (s1_ne (by decide)), h4, h5.toM te (s1_ne (by decide)) (s1_ne (by decide)), h6.toM te (congrFun (s1_ne (by decide)) _) (congrFun (s1_ne (by decide)) _) (s1_ne (by decide)), h7.toM te (congrFun (s1_ne (by decide)) _) (fun k a b => s1_ne (by omega)), h8.toM (congrFun (s1_ne (by decide)) _) (s1_ne (by decide)), h9⟩
theorem RL.tried {X M : ST} (h : RL X M) {F : Nat → Int32} : RL (put X 83 F) M := by
  obtain ⟨h1, h2, h3, h4, h5, h6, h7, h8, h9⟩ := h
  exact ⟨h1.toC (fun k a b => put_ne (by omega)), h2.to (fun k a => put_ne (by omega)), h3.toC (fun k a b => put_ne (by omega)), ⟨F, HR_put⟩, h5.toC (fun k a b => put_ne (by omega)), h6.toC (fun k a => put_ne (by omega)), h7.toC (congrFun (put_ne (by omega)) _) (fun k a b => put_ne (by omega)), h8.toC (congrFun (put_ne (by omega)) _) (put_ne (by omega)), h9.toC (fun k a => put_ne (by omega))⟩
theorem RL.dl {X M : ST} (h : RL X M) {t d : Nat} (ht : t < mN M) (hd : d ≤ 99) : RL (s2 X 22 t (nI d)) (s2 M 524 t (nI d)) := by
  obtain ⟨⟨m1, m2, m3⟩, h2, h3, h4, h5, h6, h7, h8, h9⟩ := h
  have e5 : (s2 M 524 t (nI d)) 513 = M 513 := s2_nk (by decide)
  have en : mN (s2 M 524 t (nI d)) = mN M := by unfold mN; rw [e5]
  have hGd : ∀ {c g : Nat → Int32}, Gd M c g → Gd (s2 M 524 t (nI d)) c g := by
    intro c g hg
    obtain ⟨⟨a, b, e⟩, j, k⟩ := hg
    exact ⟨⟨a, fun q h1 h2 => b q (by rw [← en]; exact h1) h2, e⟩, j.toS (by rw [e5]) (s2_nk (by decide)), k⟩
  have hMI : MI (s2 M 524 t (nI d)) := m1.to (by rw [e5]) (s2_nk (by decide)) (s2_nk (by decide))
  have hv : ∀ q, s2 M 524 t (nI d) 524 q = if q = t then nI d else M 524 q := fun q => by rw [s2_val]; by_cases e : q = t <;> simp [e]
  refine ⟨⟨hMI, fun q hq => ?_, ?_⟩, h2.to (fun k a => s2_nk (by omega)), ?_, h4.toC (fun k a b => s2_nk (by omega)), ?_, ?_, ?_, ?_, h9.toC (fun k a => s2_nk (by omega))⟩
  · rw [hv]; split
    · exact inN_nI hd (by decide)
    · exact m2 q (by rw [← en]; exact hq)
  · obtain ⟨b1, b2, b3, b4, b5, b6, b7, v, ⟨c1, c2, c3⟩, b9⟩ := m3
    refine ⟨by rw [s2_nk (by decide), e5]; exact b1, fun q hq => ?_, fun q hq => ?_, fun q hq => ?_, fun q hq => ?_, fun q hq => ?_, fun q k hq hk => ?_, v, ⟨by rw [s2_nk (by decide)]; exact c1, c2, by rw [s2_nk (by decide)]; exact c3⟩, by rw [e5]; exact b9⟩
    · rw [s2_nk (by decide), s2_nk (by decide)]; exact b2 q (by rw [← en]; exact hq)
    · rw [s2_nk (by decide), s2_nk (by decide)]; exact b3 q (by rw [← en]; exact hq)
    · rw [hv, s2_val]
      by_cases e : q = t
      · rw [if_pos e, if_pos ⟨rfl, e⟩]
      · rw [if_neg e, if_neg (fun z => e z.2)]; exact b4 q (by rw [← en]; exact hq)
    · rw [s2_nk (by decide), s2_nk (by decide)]; exact b5 q (by rw [← en]; exact hq)
    · rw [s2_nk (by decide), s2_nk (by decide)]; exact b6 q (by rw [← en]; exact hq)
    · have h8 := m1.n
      have hq' : q < mN M := by rw [← en]; exact hq
      rw [s2_nk (by decide)] at hk
      rw [s2_nk (q := 1 + 4 + q) (by omega), s2_nk (q := 1 + 13 + q) (by omega), s2_nk (q := 523) (by decide)]
      exact b7 q k hq' hk
  · obtain ⟨c, a, b⟩ := h3.toC (C' := s2 X 22 t (nI d)) (fun k a b => s2_nk (by omega))
    exact ⟨c, a, by rw [s2_nk (by decide)]; exact hGd b⟩
  · intro i hi
    obtain ⟨a1, a2, c, a3, a4⟩ := (h5.toC (C' := s2 X 22 t (nI d)) (fun k a b => s2_nk (by omega))) i hi
    rw [s2_nk (by decide), s2_nk (by decide)]
    exact ⟨a1, a2, c, a3, fun z => hGd (a4 z)⟩
  · obtain ⟨n, a, hb, hf, u, w, q1, q2, q3, q4, q5, q6, q7, q8⟩ := h6.toC (C' := s2 X 22 t (nI d)) (fun k a => s2_nk (by omega))
    refine ⟨n, a, hb, hf, u, w, q1, by rw [e5]; exact q2, q3, q4, q5, q6, q7, fun p hp => ?_⟩
    obtain ⟨c, hc, hg⟩ := q8 p hp
    exact ⟨c, hc, by rw [s2_nk (by decide)]; exact hGd hg⟩
  · obtain ⟨n, q1, q2, q3, q4⟩ := h7.toC (C' := s2 X 22 t (nI d)) (congrFun (s2_nk (by decide)) _) (fun k a b => s2_nk (by omega))
    refine ⟨n, q1, q2, by rw [e5]; exact q3, fun k hk => ?_⟩
    rw [s2_nk (q := 530) (by decide), s2_nk (q := 531) (by decide), s2_nk (q := 532) (by decide), en]
    exact q4 k hk
  · exact (h8.toC (C' := s2 X 22 t (nI d)) (congrFun (s2_nk (by decide)) _) (s2_nk (by decide))).toM (by rw [e5]) (s2_nk (by decide))
theorem QX.put83 {S Y M : ST} (h : RL S M) (q : QX S Y) {F : Nat → Int32} : RL (put Y 83 F) M := (h.qx q).tried
theorem qx_UN83 {S Y : ST} (q : QX S Y) {F : Nat → Int32} : UN S (put Y 83 F) := q.UN.tr (UN_put (by decide))
set_option maxHeartbeats 4000000 in
theorem ct_X0_ends {G : GT} {l : Launch} {N : Nat} {S M : ST} {t w : Int32} (hRL : RL S M) (hN : 513 ≤ N) : CTiE G l yX0_ends cX0_ends 3 (some .int) 9 [.ref (gZ G + 0), .int t, .int w] N S (mEndsV M t w) (fun X => RL X (mEndsS M t w) ∧ UN S X) := by
  obtain ⟨c, hc, hg⟩ := id hRL.2.2.1
  have h8 := hRL.1.1.n
  have h1 := hRL.1.1.2.1
  refine CT.mk "ScopeTasks" [(0, .ref (gZ G + 0)), (1, .int (t)), (2, .int (w))] rfl (by decide) rfl (Nat.le_of_ble_eq_true rfl) ?_
  intro x hR hl hr hnm
  refine v_aload_n (pc := 0) 0 dX0_ends_0 rfl rfl ?_
  refine v_iload_n (pc := 1) 1 dX0_ends_1 rfl rfl ?_
  refine c_callVi (pc := 2) (st := []) (ci := 0) (ct_X0_isTask (S := S) (t := t) (M := M) hRL.1 (by omega)) kVX0_146 kDX0_146 (rm_ok hR (Nat.le_of_ble_eq_true rfl) (Nat.le_of_ble_eq_true rfl)) ⟨Nat.zero_le _, Nat.zero_le _⟩ (by omega) (rfl) rfl rfl rfl rfl (Nat.le_of_ble_eq_true rfl) dX0_ends_2 ?_
  refine v_if_eqB (pc := 5) 17 dX0_ends_5 (by decide) (fun c1 => ?_) (fun c1 => ?_)
  · skip
    refine v_iconst (pc := 17) ((-1)) dX0_ends_17 (by decide) ?_
    exact v_iret (pc := 18) hr rfl (Nat.le_refl _) (Nat.le_refl _) dX0_ends_18 ⟨_, rfl, rfl, (by unfold mEndsV; rw [if_neg (fun z => c1 z.1)]), _, ⟨(by unfold mEndsS; rw [if_neg (fun z => c1 z.1)]; exact hRL), UN.rf⟩, rfl⟩
  · skip
    obtain ⟨j, hjL, rfl⟩ := in_nat (n := mN M - 1) (by omega) c1
    have hj8 : j < 8 := by omega
    have hjm : j < mN M := by omega
    have hjn : nn (nI j) = j := nn_nI (by omega)
    refine v_iload_n (pc := 8) 2 dX0_ends_8 rfl rfl ?_
    refine v_iconst (pc := 9) (nI 0) dX0_ends_9 (by decide) ?_
    refine v_iconst (pc := 10) (nI 1) dX0_ends_10 (by decide) ?_
    refine c_callSi (pc := 11) (st := []) (ct_X0_in (S := S) (v := w) (lo := nI 0) (hi := nI 1) ) kVX0_100 kDX0_100 (rm_ok hR (Nat.le_of_ble_eq_true rfl) (Nat.le_of_ble_eq_true rfl)) ⟨Nat.zero_le _, Nat.zero_le _⟩ rfl rfl (Nat.le_of_ble_eq_true rfl) dX0_ends_11 ?_
    refine v_if_neB (pc := 14) 19 dX0_ends_14 (by decide) (fun c2 => ?_) (fun c2 => ?_)
    · skip
      obtain ⟨d, hd⟩ := id hRL.2.2.2.1
      refine v_S hd.put.symm ?_
      refine v_aload_n (pc := 19) 0 dX0_ends_19 rfl rfl ?_
      refine gX0_62 (pc := 20) hN dX0_ends_20 ?_
      refine v_aload_n (pc := 23) 0 dX0_ends_23 rfl rfl ?_
      refine gX0_25 (pc := 24) hN dX0_ends_24 ?_
      refine c_callVa (pc := 27) (st := []) (ci := 2) (ct_X2_copyOf (S := S) (b := 83) (a := 55) (c := d) (d := c) RB_83 RB_55 (by omega) hc (by omega)) kVX0_29 kDX0_29 (rm_ok hR (Nat.le_of_ble_eq_true rfl) (Nat.le_of_ble_eq_true rfl)) ⟨Nat.zero_le _, Nat.zero_le _⟩ (by omega) (hC_run (j := 0) RB_83 (by decide) rfl) rfl rfl rfl rfl (Nat.le_of_ble_eq_true rfl) dX0_ends_27 ?_
      refine v_pop (pc := 30) dX0_ends_30 rfl ?_
      refine v_aload_n (pc := 31) 0 dX0_ends_31 rfl rfl ?_
      refine gX0_62 (pc := 32) hN dX0_ends_32 ?_
      refine v_iload_n (pc := 35) 1 dX0_ends_35 rfl rfl ?_
      refine v_sipush (pc := 36) (nI 200) dX0_ends_36 (by decide) ?_
      refine c_callViE (pc := 39) (st := []) (ci := 2) (ct_X2_goTill (S := S) (b := 83) (t := j) (n := 200) (c := cpR c d) (M := M) (g := M 527) RB_83 (by omega) (by omega) hRL.1.2.2 hRL.1.1 hRL.1.2.1 hg.cp.1 hg.2.1 (by have := hg.2.2; omega) hRL.2.1 (by omega)) kVX0_210 kDX0_210 (rm_ok hR (Nat.le_of_ble_eq_true rfl) (Nat.le_of_ble_eq_true rfl)) ⟨Nat.zero_le _, Nat.zero_le _⟩ (by omega) (hC_run (j := 0) RB_83 (by decide) rfl) rfl rfl rfl rfl (Nat.le_of_ble_eq_true rfl) dX0_ends_39 (fun X1 hX => ?_)
      obtain ⟨Y1, hY1, rfl⟩ := hX
      refine v_if_neB (pc := 42) 48 dX0_ends_42 (by decide) (fun c3 => ?_) (fun c3 => ?_)
      · skip
        refine v_iload_n (pc := 48) 2 dX0_ends_48 rfl rfl ?_
        refine v_if_ne (pc := 49) 64 dX0_ends_49 (by decide) (fun c4 => ?_) (fun c4 => ?_)
        · skip
          refine v_aload_n (pc := 64) 0 dX0_ends_64 rfl rfl ?_
          refine gX0_62 (pc := 65) hN dX0_ends_65 ?_
          refine gX0_181 (pc := 68) RB_83 hN dX0_ends_68 ?_
          refine v_iload_n (pc := 71) 1 dX0_ends_71 rfl rfl ?_
          refine c_iald (pc := 72) (k := 83 + 9) (j := j) (IA_run8 RB_83 (by decide) (by decide) (by decide)) (by omega) rfl (by omega) (by decide) dX0_ends_72 ?_
          refine v_topi (v := (cGo M j 200 (cpR c d)) (18 * j + 1)) (pr_9 (by omega)) ?_
          have hgo := hg.cp.1.goT (c := cpR c d) hRL.1.1 hRL.1.2.1 hj8 (m := 200) hg.2.1 (by have := hg.2.2; omega)
          exact v_iret (pc := 73) hr rfl (Nat.le_refl _) (Nat.le_refl _) dX0_ends_73 ⟨_, rfl, rfl, (by unfold mEndsV; rw [if_pos ⟨c1, c2⟩, hjn, if_pos (hgo.1.mp c3), if_neg c4]; exact (hgo.2 (hgo.1.mp c3)).1), _, ⟨(by unfold mEndsS; rw [if_pos ⟨c1, c2⟩]; exact ((hY1.put83 hRL).m528)), (qx_UN83 hY1)⟩, rfl⟩
        · skip
          refine v_aload_n (pc := 52) 0 dX0_ends_52 rfl rfl ?_
          refine gX0_62 (pc := 53) hN dX0_ends_53 ?_
          refine gX0_214 (pc := 56) RB_83 hN dX0_ends_56 ?_
          refine v_iload_n (pc := 59) 1 dX0_ends_59 rfl rfl ?_
          refine c_iald (pc := 60) (k := 83 + 14) (j := j) (IA_run8 RB_83 (by decide) (by decide) (by decide)) (by omega) rfl (by omega) (by decide) dX0_ends_60 ?_
          refine v_topi (v := (cGo M j 200 (cpR c d)) (18 * j + 8)) (pr_14 (by omega)) ?_
          refine v_goto (pc := 61) 73 dX0_ends_61 (by decide) ?_
          have hgo := hg.cp.1.goT (c := cpR c d) hRL.1.1 hRL.1.2.1 hj8 (m := 200) hg.2.1 (by have := hg.2.2; omega)
          exact v_iret (pc := 73) hr rfl (Nat.le_refl _) (Nat.le_refl _) dX0_ends_73 ⟨_, rfl, rfl, (by unfold mEndsV; rw [if_pos ⟨c1, c2⟩, hjn, if_pos (hgo.1.mp c3), if_pos c4]; exact (hgo.2 (hgo.1.mp c3)).2), _, ⟨(by unfold mEndsS; rw [if_pos ⟨c1, c2⟩]; exact ((hY1.put83 hRL).m528)), (qx_UN83 hY1)⟩, rfl⟩
      · skip
        refine v_bipush (pc := 45) ((-9)) dX0_ends_45 (by decide) ?_
        have hgo := hg.cp.1.goT (c := cpR c d) hRL.1.1 hRL.1.2.1 hj8 (m := 200) hg.2.1 (by have := hg.2.2; omega)
        exact v_iret (pc := 47) hr rfl (Nat.le_refl _) (Nat.le_refl _) dX0_ends_47 ⟨_, rfl, rfl, (by unfold mEndsV; rw [if_pos ⟨c1, c2⟩, hjn, if_neg (fun z => c3 (hgo.1.mpr z))]), _, ⟨(by unfold mEndsS; rw [if_pos ⟨c1, c2⟩]; exact ((hY1.put83 hRL).m528)), (qx_UN83 hY1)⟩, rfl⟩
    · skip
      refine v_iconst (pc := 17) ((-1)) dX0_ends_17 (by decide) ?_
      exact v_iret (pc := 18) hr rfl (Nat.le_refl _) (Nat.le_refl _) dX0_ends_18 ⟨_, rfl, rfl, (by unfold mEndsV; rw [if_neg (fun z => c2 z.2)]), _, ⟨(by unfold mEndsS; rw [if_neg (fun z => c2 z.2)]; exact hRL), UN.rf⟩, rfl⟩

/-- how much is spared: by ticks as by ends -/
theorem spare_eq {M : ST} (hM : MI M) {g g' : Nat → Int32} (hJ : RJ M g) (hJ' : RJ M g') (e0 : g' 0 = g 0) (e4 : g' 144 = g 144) (e8 : g' 8 = g 8) (h : rGo M 200 g 0 = nI 3) (h' : rGo M 200 g' 0 = nI 3) : rGo M 200 g 144 - rGo M 200 g' 144 = rGo M 200 g 8 - rGo M 200 g' 8 := by
  by_cases k : g 0 = nI 3
  · rw [rGo_over k, rGo_over (e0.trans k), e4, e8, Int32.sub_self, Int32.sub_self]
  · rw [rGo_end0 hM 200 g hJ k h, rGo_end0 hM 200 g' hJ' (fun z => k (e0.symm.trans z)) h']
theorem end9 {M : ST} {c g : Nat → Int32} (h : Sim M c g) : g 8 = (-9) ↔ ¬ g 0 = nI 3 := by
  have i := (h.1 0 (by decide)).2.2.2.2.2
  constructor
  · intro e z; exact inN_ne9 (i.1 z) e
  · intro z; exact i.2 z
set_option maxHeartbeats 4000000 in
theorem ct_X0_spares {G : GT} {l : Launch} {N : Nat} {S M : ST} {t : Int32} (hRL : RL S M) (hN : 513 ≤ N) : CTiE G l yX0_spares cX0_spares 3 (some .int) 9 [.ref (gZ G + 0), .int t] N S (mSparesV M t) (fun X => RL X (mSparesS M t) ∧ UN S X) := by
  obtain ⟨c, hc, hg⟩ := id hRL.2.2.1
  have h8 := hRL.1.1.n
  have h1 := hRL.1.1.2.1
  refine CT.mk "ScopeTasks" [(0, .ref (gZ G + 0)), (1, .int (t))] rfl (by decide) rfl (Nat.le_of_ble_eq_true rfl) ?_
  intro x hR hl hr hnm
  refine v_aload_n (pc := 0) 0 dX0_spares_0 rfl rfl ?_
  refine v_iload_n (pc := 1) 1 dX0_spares_1 rfl rfl ?_
  refine c_callVi (pc := 2) (st := []) (ci := 0) (ct_X0_isTask (S := S) (t := t) (M := M) hRL.1 (by omega)) kVX0_146 kDX0_146 (rm_ok hR (Nat.le_of_ble_eq_true rfl) (Nat.le_of_ble_eq_true rfl)) ⟨Nat.zero_le _, Nat.zero_le _⟩ (by omega) (rfl) rfl rfl rfl rfl (Nat.le_of_ble_eq_true rfl) dX0_spares_2 ?_
  refine v_if_eqB (pc := 5) 22 dX0_spares_5 (by decide) (fun c1 => ?_) (fun c1 => ?_)
  · skip
    refine v_ldc (pc := 22) q891 dX0_spares_22 ?_
    exact v_iret (pc := 24) hr rfl (Nat.le_refl _) (Nat.le_refl _) dX0_spares_24 ⟨_, rfl, rfl, (by unfold mSparesV; rw [if_neg (fun z => c1 z.1)]), _, ⟨(by unfold mSparesS; rw [if_neg (fun z => c1 z.1)]; exact hRL), UN.rf⟩, rfl⟩
  · skip
    obtain ⟨j, hjL, rfl⟩ := in_nat (n := mN M - 1) (by omega) c1
    have hj8 : j < 8 := by omega
    have hjm : j < mN M := by omega
    have hjn : nn (nI j) = j := nn_nI (by omega)
    have hwj := hg.1.how hj8
    refine v_S hc.put.symm ?_
    refine v_aload_n (pc := 8) 0 dX0_spares_8 rfl rfl ?_
    refine gX0_25 (pc := 9) hN dX0_spares_9 ?_
    refine gX0_150 (pc := 12) RB_55 hN dX0_spares_12 ?_
    refine v_iload_n (pc := 15) 1 dX0_spares_15 rfl rfl ?_
    refine c_callVi (pc := 16) (st := []) (ci := 6) (ct_get1 (S := S) (b := 55) (t := j) (c := c) RB_55 (by omega) (by omega)) kVX0_154 kDX0_154 (rm_ok hR (Nat.le_of_ble_eq_true rfl) (Nat.le_of_ble_eq_true rfl)) ⟨Nat.zero_le _, Nat.zero_le _⟩ (by omega) ((BC_run RB_55 (j := 1) (by decide)) G _).1 rfl rfl rfl rfl (Nat.le_of_ble_eq_true rfl) dX0_spares_16 ?_
    refine v_if_neB (pc := 19) 25 dX0_spares_19 (by decide) (fun c2 => ?_) (fun c2 => ?_)
    · skip
      refine v_S hc.put ?_
      obtain ⟨d, hd⟩ := id hRL.2.2.2.1
      refine v_S hd.put.symm ?_
      refine v_aload_n (pc := 25) 0 dX0_spares_25 rfl rfl ?_
      refine gX0_62 (pc := 26) hN dX0_spares_26 ?_
      refine v_aload_n (pc := 29) 0 dX0_spares_29 rfl rfl ?_
      refine gX0_25 (pc := 30) hN dX0_spares_30 ?_
      refine c_callVa (pc := 33) (st := []) (ci := 2) (ct_X2_copyOf (S := S) (b := 83) (a := 55) (c := d) (d := c) RB_83 RB_55 (by omega) hc (by omega)) kVX0_29 kDX0_29 (rm_ok hR (Nat.le_of_ble_eq_true rfl) (Nat.le_of_ble_eq_true rfl)) ⟨Nat.zero_le _, Nat.zero_le _⟩ (by omega) (hC_run (j := 0) RB_83 (by decide) rfl) rfl rfl rfl rfl (Nat.le_of_ble_eq_true rfl) dX0_spares_33 ?_
      refine v_pop (pc := 36) dX0_spares_36 rfl ?_
      refine v_aload_n (pc := 37) 0 dX0_spares_37 rfl rfl ?_
      refine gX0_62 (pc := 38) hN dX0_spares_38 ?_
      refine v_iconst (pc := 41) (nI 0) dX0_spares_41 (by decide) ?_
      refine v_sipush (pc := 42) (nI 200) dX0_spares_42 (by decide) ?_
      refine c_callViE (pc := 45) (st := []) (ci := 2) (ct_X2_goTill (S := S) (b := 83) (t := 0) (n := 200) (c := cpR c d) (M := M) (g := M 527) RB_83 (by omega) (by omega) hRL.1.2.2 hRL.1.1 hRL.1.2.1 (hg.cp (c := d)).1 hg.2.1 (by have := hg.2.2; omega) hRL.2.1 (by omega)) kVX0_210 kDX0_210 (rm_ok hR (Nat.le_of_ble_eq_true rfl) (Nat.le_of_ble_eq_true rfl)) ⟨Nat.zero_le _, Nat.zero_le _⟩ (by omega) (hC_run (j := 0) RB_83 (by decide) rfl) rfl rfl rfl rfl (Nat.le_of_ble_eq_true rfl) dX0_spares_45 (fun X1 hX => ?_)
      obtain ⟨Y1, hY1, rfl⟩ := hX
      have s1 := (hg.cp (c := d)).1.go0 (m := 200) hRL.1.1 hRL.1.2.1 hg.2.1 (by have := hg.2.2; omega)
      have hcY : HR Y1 55 c := hc.to (fun k h1 h2 => hY1.1 k (by omega) (by omega))
      refine v_if_neB (pc := 48) 54 dX0_spares_48 (by decide) (fun c3 => ?_) (fun c3 => ?_)
      · skip
        refine v_aload_n (pc := 54) 0 dX0_spares_54 rfl rfl ?_
        refine gX0_62 (pc := 55) hN dX0_spares_55 ?_
        refine gX0_137 (pc := 58) RB_83 hN dX0_spares_58 ?_
        refine v_topi (v := (cGo M 0 200 (cpR c d)) 144) (pr_0) ?_
        refine v_istore_n (pc := 61) (lv' := [(2, .int ((cGo M 0 200 (cpR c d)) 144)), (0, .ref (gZ G + 0)), (1, .int (nI j))]) dX0_spares_61 rfl (by decide) rfl ?_
        refine v_aload_n (pc := 62) 1 dX0_spares_62 rfl rfl ?_
        refine gX0_62 (pc := 63) hN dX0_spares_63 ?_
        refine v_aload_n (pc := 66) 1 dX0_spares_66 rfl rfl ?_
        refine gX0_25 (pc := 67) hN dX0_spares_67 ?_
        refine c_callVa (pc := 70) (st := []) (ci := 2) (ct_X2_copyOf (S := Y1) (b := 83) (a := 55) (c := cGo M 0 200 (cpR c d)) (d := c) RB_83 RB_55 (by omega) hcY (by omega)) kVX0_29 kDX0_29 (rm_ok hR (Nat.le_of_ble_eq_true rfl) (Nat.le_of_ble_eq_true rfl)) ⟨Nat.zero_le _, Nat.zero_le _⟩ (by omega) (hC_run (j := 0) RB_83 (by decide) rfl) rfl rfl rfl rfl (Nat.le_of_ble_eq_true rfl) dX0_spares_70 ?_
        refine v_pop (pc := 73) dX0_spares_73 rfl ?_
        refine v_aload_n (pc := 74) 1 dX0_spares_74 rfl rfl ?_
        refine gX0_62 (pc := 75) hN dX0_spares_75 ?_
        refine gX0_159 (pc := 78) RB_83 hN dX0_spares_78 ?_
        refine v_iload_n (pc := 81) 2 dX0_spares_81 rfl rfl ?_
        refine c_callVv (pc := 82) (st := []) (ci := 6) (ct_set7 (S := Y1) (b := 83) (t := j) (c := cpR c (cGo M 0 200 (cpR c d))) RB_83 (by omega) (by omega)) kVX0_162 kDX0_162 (rm_ok hR (Nat.le_of_ble_eq_true rfl) (Nat.le_of_ble_eq_true rfl)) ⟨Nat.zero_le _, Nat.zero_le _⟩ (by omega) ((BC_run RB_83 (j := 7) (by decide)) G _).1 rfl rfl rfl rfl (Nat.le_of_ble_eq_true rfl) dX0_spares_82 ?_
        have hG5 := (hg.cp (c := cGo M 0 200 (cpR c d))).ask hRL.1.1 hjm
        refine v_aload_n (pc := 85) 1 dX0_spares_85 rfl rfl ?_
        refine gX0_62 (pc := 86) hN dX0_spares_86 ?_
        refine v_iconst (pc := 89) (nI 0) dX0_spares_89 (by decide) ?_
        refine v_sipush (pc := 90) (nI 200) dX0_spares_90 (by decide) ?_
        refine c_callViE (pc := 93) (st := []) (ci := 2) (ct_X2_goTill (S := Y1) (b := 83) (t := 0) (n := 200) (c := upd (cpR c (cGo M 0 200 (cpR c d))) (18 * j + 5) (nI 1)) (M := M) (g := upd (M 527) (18 * j + 5) (nI 1)) RB_83 (by omega) (by omega) (hY1.TR hRL.1.1 hRL.1.2.2) hRL.1.1 hRL.1.2.1 hG5.1 hG5.2.1 (by have := hG5.2.2; omega) hY1.2 (by omega)) kVX0_210 kDX0_210 (rm_ok hR (Nat.le_of_ble_eq_true rfl) (Nat.le_of_ble_eq_true rfl)) ⟨Nat.zero_le _, Nat.zero_le _⟩ (by omega) (hC_run (j := 0) RB_83 (by decide) rfl) rfl rfl rfl rfl (Nat.le_of_ble_eq_true rfl) dX0_spares_93 (fun X2 hX => ?_)
        obtain ⟨Y2, hY2, rfl⟩ := hX
        refine v_if_eqB (pc := 96) 111 dX0_spares_96 (by decide) (fun c4 => ?_) (fun c4 => ?_)
        · skip
          refine v_ldc (pc := 111) q891 dX0_spares_111 ?_
          have s2 := hG5.1.go0 (m := 200) hRL.1.1 hRL.1.2.1 hG5.2.1 (by have := hG5.2.2; omega)
          have k1 := s1.how (t := 0) (by decide)
          have k2 := s2.how (t := 0) (by decide)
          exact v_iret (pc := 113) hr rfl (Nat.le_refl _) (Nat.le_refl _) dX0_spares_113 ⟨_, rfl, rfl, (by unfold mSparesV; rw [if_pos (show mSpOk M (nI j) by unfold mSpOk; rw [hjn]; exact ⟨c1, hwj.symm.trans c2⟩), hjn, if_pos (Or.inr ((end9 s2).mpr (fun z => c4 (k2.trans z))))]), _, ⟨(by unfold mSparesS; rw [if_pos (show mSpOk M (nI j) by unfold mSpOk; rw [hjn]; exact ⟨c1, hwj.symm.trans c2⟩), hjn]; exact ((QX.put83 (hRL.qx hY1) hY2).m528)), (hY1.UN.tr (qx_UN83 hY2))⟩, rfl⟩
        · skip
          refine v_iload_n (pc := 99) 0 dX0_spares_99 rfl rfl ?_
          refine v_aload_n (pc := 100) 1 dX0_spares_100 rfl rfl ?_
          refine gX0_62 (pc := 101) hN dX0_spares_101 ?_
          refine gX0_137 (pc := 104) RB_83 hN dX0_spares_104 ?_
          refine v_topi (v := (cGo M 0 200 (upd (cpR c (cGo M 0 200 (cpR c d))) (18 * j + 5) (nI 1))) 144) (pr_0) ?_
          refine v_isub (pc := 107) dX0_spares_107 ?_
          refine v_goto (pc := 108) 113 dX0_spares_108 (by decide) ?_
          have s2 := hG5.1.go0 (m := 200) hRL.1.1 hRL.1.2.1 hG5.2.1 (by have := hG5.2.2; omega)
          have k1 := s1.how (t := 0) (by decide)
          have k2 := s2.how (t := 0) (by decide)
          exact v_iret (pc := 113) hr rfl (Nat.le_refl _) (Nat.le_refl _) dX0_spares_113 ⟨_, rfl, rfl, (by unfold mSparesV; rw [if_pos (show mSpOk M (nI j) by unfold mSpOk; rw [hjn]; exact ⟨c1, hwj.symm.trans c2⟩), hjn, if_neg (fun z => z.elim (fun y => (end9 s1).mp y (k1.symm.trans c3)) (fun y => (end9 s2).mp y (k2.symm.trans c4))), s1.2.2.1, s2.2.2.1]; exact spare_eq hRL.1.1 hg.2.1 hG5.2.1 (pk_un (by omega)) (pk_un (by omega)) (pk_un (by omega)) (k1.symm.trans c3) (k2.symm.trans c4)), _, ⟨(by unfold mSparesS; rw [if_pos (show mSpOk M (nI j) by unfold mSpOk; rw [hjn]; exact ⟨c1, hwj.symm.trans c2⟩), hjn]; exact ((QX.put83 (hRL.qx hY1) hY2).m528)), (hY1.UN.tr (qx_UN83 hY2))⟩, rfl⟩
      · skip
        refine v_ldc (pc := 51) q891 dX0_spares_51 ?_
        have k1 := s1.how (t := 0) (by decide)
        exact v_iret (pc := 53) hr rfl (Nat.le_refl _) (Nat.le_refl _) dX0_spares_53 ⟨_, rfl, rfl, (by unfold mSparesV; rw [if_pos (show mSpOk M (nI j) by unfold mSpOk; rw [hjn]; exact ⟨c1, hwj.symm.trans c2⟩), hjn, if_pos (Or.inl ((end9 s1).mpr (fun z => c3 (k1.trans z))))]), _, ⟨(by unfold mSparesS; rw [if_pos (show mSpOk M (nI j) by unfold mSpOk; rw [hjn]; exact ⟨c1, hwj.symm.trans c2⟩), hjn]; exact ((hY1.put83 hRL).m528)), (qx_UN83 hY1)⟩, rfl⟩
    · skip
      refine v_S hc.put ?_
      refine v_ldc (pc := 22) q891 dX0_spares_22 ?_
      exact v_iret (pc := 24) hr rfl (Nat.le_refl _) (Nat.le_refl _) dX0_spares_24 ⟨_, rfl, rfl, (by unfold mSparesV; rw [if_neg (show ¬ mSpOk M (nI j) by unfold mSpOk; rw [hjn]; exact fun z => c2 (hwj.trans z.2))]), _, ⟨(by unfold mSparesS; rw [if_neg (show ¬ mSpOk M (nI j) by unfold mSpOk; rw [hjn]; exact fun z => c2 (hwj.trans z.2))]; exact hRL), UN.rf⟩, rfl⟩

