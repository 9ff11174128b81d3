set_option maxRecDepth 100000
/-! ScopeTasks$Reader: program -/
theorem dueC_1t {r : Nat} {X : Nat → Int32} {L : Nat} {P : Prop} {S : ST} (h : (dueC r X L P S).1 = true) : P ∧ dueC r X L P S = (true, rdDu r X L S) := by
  by_cases c : P
  · exact ⟨c, dueC_t c⟩
  · rw [dueC_f c] at h; exact absurd h (by simp)
theorem dueC_1f {r : Nat} {X : Nat → Int32} {L : Nat} {P : Prop} {S : ST} (h : (dueC r X L P S).1 = false) : ¬ P ∧ dueC r X L P S = (false, S) := by
  by_cases c : P
  · rw [dueC_t c] at h; exact absurd h (by simp)
  · exact ⟨c, dueC_f c⟩
theorem LA1.du0 {S M : ST} {r : Nat} (h : LA1 S (nxS M) r) : LA0 (rdDu r (M 514) (mL M) S) (nxS M) r := by
  have z := h.du
  rw [mL_nx, show nxS M 514 = M 514 from nxS_ne (by decide)] at z
  exact z
theorem pg_next {S M : ST} {r t k : Nat} {c x : Int32} (hD : DIv S M r) (hA : LA0 S M r) (hrr : 535 ≤ r) (ht : t < mK M) (hk : M 516 t = nI k) (hk6 : k < 6) (ho : opR (S (31 + t) k) c) :
    DIv (s2 (s2 S (40 + t) k x) 29 t (nI (k + 1))) (nxS (pgW M t c x)) r ∧ LA1 (s2 (s2 S (40 + t) k x) 29 t (nI (k + 1))) (nxS (pgW M t c x)) r ∧ t < mK (nxS (pgW M t c x)) ∧ nxS (pgW M t c x) 516 t = nI (k + 1) ∧ FRm S (s2 (s2 S (40 + t) k x) 29 t (nI (k + 1))) r := by
  have hD4 := hD.op (x := x) hrr ht hk hk6 ho
  have m3 : pgW M t c x 513 = M 513 := by unfold pgW; rw [s2_nk (by decide), s2_nk (by decide), s2_nk (by decide)]
  have m4 : pgW M t c x 514 = M 514 := by unfold pgW; rw [s2_nk (by decide), s2_nk (by decide), s2_nk (by decide)]
  have h8 : mK M ≤ 8 := hD.2.1.2.1.2
  refine ⟨hD4.nx, (hA.to (by rw [s2_nk (by omega), s2_nk (by omega)]) (by rw [m3]) (by rw [m3]) m4).nx hD4.1 hD4.2.1.1, ?_, ?_, (FRm.s2 hrr (by omega) (by omega)).tr (FRm.s2 hrr (by omega) (by omega))⟩
  · unfold mK; rw [nxS_j (by omega), m3]; exact ht
  · rw [nxS_ne (by decide), pgW_516, hk, nn_of (by omega)]
set_option maxHeartbeats 8000000 in
theorem lp_rpg {G : GT} {x : VX} {N r t : Nat} {p : Int32} {S0 : ST} {Rm : Bool × ST} (hR : xR x = RM 7 1 7) (hr : (xM x).sig.returnType = none) (hout : ∀ z ∈ (xc x).exceptionTable.toList, False) (hrr : 535 ≤ r) (hrN : r < N) : ∀ (m k : Nat) (M S : ST), k + m = 6 → DIv S M r → LA1 S M r → t < mK M → M 516 t = nI k → FRm S0 S r → pgL t m M = Rm → V G x "ScopeTasks$Reader" cX4_program 5 (QQX G x (fun u N' h' => u = none ∧ N' = N ∧ ∃ T, h' = hC G T ∧ IE S0 T r Rm) (fun q N' h' => IX G N S0 r Rm q N' h') 1 7) 12 [(2, .int (nI t)), (0, .ref (gZ G + r)), (1, .int (p))] [] N (hC G S) 0 0 := by
  intro m
  induction m with
  | zero =>
    intro k M S hkm hD hA ht hk hF hE
    obtain ⟨s, hs⟩ : ∃ s, tsort (M 513 4) = s := ⟨_, rfl⟩
    have hs14 : s ≤ 14 := hs ▸ tk_14 _ hA.2.2.2.2
    have i4 : S r 2 = nI s := by rw [← hs]; exact hA.2.2.1
    have i1 := hD.2.2.1.1
    have hX := hD.1
    have hI := hD.2.2.1
    have hl : S 29 t = nI k := ((hD.2.2.2.1.2.1 t ht).2.1).trans hk
    have ht8 : t < 8 := Nat.lt_of_lt_of_le ht hD.2.1.2.1.2
    refine v_aload_n (pc := 12) 1 dX4_program_12 rfl rfl ?_
    refine gX4_36 (pc := 13) hrr i1 hrN dX4_program_13 ?_
    refine v_topi (v := nI s) i4 ?_
    refine v_bipush (pc := 16) (nI 12) dX4_program_16 (by decide) ?_
    refine v_ic_eqN (pc := 18) 132 (by omega) (by omega) dX4_program_18 (by decide) (fun c1 => ?_) (fun c1 => ?_)
    · skip
      have e59 : M 513 4 = nI 59 := (tk_stop _ hA.2.2.2.2).mp (hs.trans c1)
      have hRe : Rm = (true, M) := by rw [← hE, pgL, if_pos e59]
      exact v_ok (v_vret (pc := 132) hr (Nat.le_refl _) (Nat.le_refl _) dX4_program_132 ⟨rfl, rfl, S, rfl, hF, ⟨⟨_, _, hX, hI⟩, hD.pb⟩, Or.inl ⟨by rw [i4, c1], by rw [hRe], by rw [hRe]; exact hD, by rw [hRe]; exact hA⟩⟩)
    · skip
      refine v_aload_n (pc := 21) 1 dX4_program_21 rfl rfl ?_
      refine gX4_36 (pc := 22) hrr i1 hrN dX4_program_22 ?_
      refine v_topi (v := nI s) i4 ?_
      refine v_istore_n (pc := 25) (lv' := [(3, .int (nI s)), (2, .int (nI t)), (0, .ref (gZ G + r)), (1, .int (p))]) dX4_program_25 rfl (by decide) rfl ?_
      refine v_aload_n (pc := 26) 2 dX4_program_26 rfl rfl ?_
      refine gX4_3 (pc := 27) hrr i1 hrN dX4_program_27 ?_
      refine gX4_69 (pc := 30) (by omega) dX4_program_30 ?_
      refine gX4_81 (pc := 33) TB_27 (by omega) dX4_program_33 ?_
      refine v_iload_n (pc := 36) 1 dX4_program_36 rfl rfl ?_
      refine c_iald (pc := 37) (k := 27 + 2) (j := t) (IA_tree8 TB_27 (by decide)) (by omega) rfl (by omega) (by decide) dX4_program_37 ?_
      refine v_topi (v := nI k) hl ?_
      refine v_istore (pc := 38) (lv' := [(4, .int (nI k)), (3, .int (nI s)), (2, .int (nI t)), (0, .ref (gZ G + r)), (1, .int (p))]) dX4_program_38 (by decide) rfl ?_
      refine v_aload_n (pc := 40) 3 dX4_program_40 rfl rfl ?_
      refine v_iload_n (pc := 41) 1 dX4_program_41 rfl rfl ?_
      refine v_iconst (pc := 42) (nI 4) dX4_program_42 (by decide) ?_
      refine v_ic_gtN (pc := 43) 57 (by omega) (by omega) dX4_program_43 (by decide) (fun c2 => ?_) (fun c2 => ?_)
      · skip
        refine v_iconst (pc := 57) (nI 0) dX4_program_57 (by decide) ?_
        have h59 : ¬ M 513 4 = nI 59 := fun z => c1 (hs.symm.trans ((tk_stop _ hA.2.2.2.2).mpr z))
        refine v_topi (v := bI (s ≤ 4 ∧ k < 6)) (bI_f (by omega)) ?_
        refine c_callXX (pc := 58) (st := []) (kb := r) (ci := 4) (ct_X4_due (P := s ≤ 4 ∧ k < 6) hrr hrN hI hX) kVX4_65 kDX4_65 (rm_ok hR (Nat.le_of_ble_eq_true rfl) (Nat.le_of_ble_eq_true rfl)) (by rw [hR]; decide) hrN (show hC G _ r = rdE G _ from cO_rd hrr i1) rfl rfl rfl rfl (Nat.le_of_ble_eq_true rfl) dX4_program_58 hout (fun hF' q N' h' hP => ?_) (fun hT => ?_)
        · rw [dueC_f (by omega)] at hP
          have hRe : Rm = (false, flS M) := by rw [← hE, pgL, if_neg h59]
          exact ⟨S, ⟨hF, hD.pb⟩, by rw [hRe], by rw [hRe]; show S r 1 = flS M 513 6; rw [flS_6]; exact hA.2.1, hP⟩
        · rw [dueC_f (by omega)] at hT; exact absurd hT (by simp)
      · skip
        refine v_iload (pc := 46) 0 dX4_program_46 rfl ?_
        refine v_bipush (pc := 48) (nI 6) dX4_program_48 (by decide) ?_
        refine v_ic_geN (pc := 50) 57 (by omega) (by omega) dX4_program_50 (by decide) (fun c3 => ?_) (fun c3 => ?_)
        · skip
          refine v_iconst (pc := 57) (nI 0) dX4_program_57 (by decide) ?_
          have h59 : ¬ M 513 4 = nI 59 := fun z => c1 (hs.symm.trans ((tk_stop _ hA.2.2.2.2).mpr z))
          refine v_topi (v := bI (s ≤ 4 ∧ k < 6)) (bI_f (by omega)) ?_
          refine c_callXX (pc := 58) (st := []) (kb := r) (ci := 4) (ct_X4_due (P := s ≤ 4 ∧ k < 6) hrr hrN hI hX) kVX4_65 kDX4_65 (rm_ok hR (Nat.le_of_ble_eq_true rfl) (Nat.le_of_ble_eq_true rfl)) (by rw [hR]; decide) hrN (show hC G _ r = rdE G _ from cO_rd hrr i1) rfl rfl rfl rfl (Nat.le_of_ble_eq_true rfl) dX4_program_58 hout (fun hF' q N' h' hP => ?_) (fun hT => ?_)
          · rw [dueC_f (by omega)] at hP
            have hRe : Rm = (false, flS M) := by rw [← hE, pgL, if_neg h59]
            exact ⟨S, ⟨hF, hD.pb⟩, by rw [hRe], by rw [hRe]; show S r 1 = flS M 513 6; rw [flS_6]; exact hA.2.1, hP⟩
          · rw [dueC_f (by omega)] at hT; exact absurd hT (by simp)
        · skip
          exact absurd c3 (by omega)
  | succ m ih =>
    intro k M S hkm hD hA ht hk hF hE
    obtain ⟨s, hs⟩ : ∃ s, tsort (M 513 4) = s := ⟨_, rfl⟩
    have hs14 : s ≤ 14 := hs ▸ tk_14 _ hA.2.2.2.2
    have i4 : S r 2 = nI s := by rw [← hs]; exact hA.2.2.1
    have i1 := hD.2.2.1.1
    have hX := hD.1
    have hI := hD.2.2.1
    have hl : S 29 t = nI k := ((hD.2.2.2.1.2.1 t ht).2.1).trans hk
    have ht8 : t < 8 := Nat.lt_of_lt_of_le ht hD.2.1.2.1.2
    refine v_aload_n (pc := 12) 1 dX4_program_12 rfl rfl ?_
    refine gX4_36 (pc := 13) hrr i1 hrN dX4_program_13 ?_
    refine v_topi (v := nI s) i4 ?_
    refine v_bipush (pc := 16) (nI 12) dX4_program_16 (by decide) ?_
    refine v_ic_eqN (pc := 18) 132 (by omega) (by omega) dX4_program_18 (by decide) (fun c1 => ?_) (fun c1 => ?_)
    · skip
      have e59 : M 513 4 = nI 59 := (tk_stop _ hA.2.2.2.2).mp (hs.trans c1)
      have hRe : Rm = (true, M) := by rw [← hE, pgL, if_pos e59]
      exact v_ok (v_vret (pc := 132) hr (Nat.le_refl _) (Nat.le_refl _) dX4_program_132 ⟨rfl, rfl, S, rfl, hF, ⟨⟨_, _, hX, hI⟩, hD.pb⟩, Or.inl ⟨by rw [i4, c1], by rw [hRe], by rw [hRe]; exact hD, by rw [hRe]; exact hA⟩⟩)
    · skip
      refine v_aload_n (pc := 21) 1 dX4_program_21 rfl rfl ?_
      refine gX4_36 (pc := 22) hrr i1 hrN dX4_program_22 ?_
      refine v_topi (v := nI s) i4 ?_
      refine v_istore_n (pc := 25) (lv' := [(3, .int (nI s)), (2, .int (nI t)), (0, .ref (gZ G + r)), (1, .int (p))]) dX4_program_25 rfl (by decide) rfl ?_
      refine v_aload_n (pc := 26) 2 dX4_program_26 rfl rfl ?_
      refine gX4_3 (pc := 27) hrr i1 hrN dX4_program_27 ?_
      refine gX4_69 (pc := 30) (by omega) dX4_program_30 ?_
      refine gX4_81 (pc := 33) TB_27 (by omega) dX4_program_33 ?_
      refine v_iload_n (pc := 36) 1 dX4_program_36 rfl rfl ?_
      refine c_iald (pc := 37) (k := 27 + 2) (j := t) (IA_tree8 TB_27 (by decide)) (by omega) rfl (by omega) (by decide) dX4_program_37 ?_
      refine v_topi (v := nI k) hl ?_
      refine v_istore (pc := 38) (lv' := [(4, .int (nI k)), (3, .int (nI s)), (2, .int (nI t)), (0, .ref (gZ G + r)), (1, .int (p))]) dX4_program_38 (by decide) rfl ?_
      refine v_aload_n (pc := 40) 3 dX4_program_40 rfl rfl ?_
      refine v_iload_n (pc := 41) 1 dX4_program_41 rfl rfl ?_
      refine v_iconst (pc := 42) (nI 4) dX4_program_42 (by decide) ?_
      refine v_ic_gtN (pc := 43) 57 (by omega) (by omega) dX4_program_43 (by decide) (fun c2 => ?_) (fun c2 => ?_)
      · skip
        refine v_iconst (pc := 57) (nI 0) dX4_program_57 (by decide) ?_
        have h59 : ¬ M 513 4 = nI 59 := fun z => c1 (hs.symm.trans ((tk_stop _ hA.2.2.2.2).mpr z))
        refine v_topi (v := bI (s ≤ 4 ∧ k < 6)) (bI_f (by omega)) ?_
        refine c_callXX (pc := 58) (st := []) (kb := r) (ci := 4) (ct_X4_due (P := s ≤ 4 ∧ k < 6) hrr hrN hI hX) kVX4_65 kDX4_65 (rm_ok hR (Nat.le_of_ble_eq_true rfl) (Nat.le_of_ble_eq_true rfl)) (by rw [hR]; decide) hrN (show hC G _ r = rdE G _ from cO_rd hrr i1) rfl rfl rfl rfl (Nat.le_of_ble_eq_true rfl) dX4_program_58 hout (fun hF' q N' h' hP => ?_) (fun hT => ?_)
        · rw [dueC_f (by omega)] at hP
          have hRe : Rm = (false, flS M) := by rw [← hE, pgL, if_neg h59, if_neg (fun z => absurd ((tk_op _ hA.2.2.2.2).mpr z) (by omega))]
          exact ⟨S, ⟨hF, hD.pb⟩, by rw [hRe], by rw [hRe]; show S r 1 = flS M 513 6; rw [flS_6]; exact hA.2.1, hP⟩
        · rw [dueC_f (by omega)] at hT; exact absurd hT (by simp)
      · skip
        refine v_iload (pc := 46) 0 dX4_program_46 rfl ?_
        refine v_bipush (pc := 48) (nI 6) dX4_program_48 (by decide) ?_
        refine v_ic_geN (pc := 50) 57 (by omega) (by omega) dX4_program_50 (by decide) (fun c3 => ?_) (fun c3 => ?_)
        · skip
          exact absurd c3 (by omega)
        · skip
          refine v_iconst (pc := 53) (nI 1) dX4_program_53 (by decide) ?_
          refine v_goto (pc := 54) 58 dX4_program_54 (by decide) ?_
          have h59 : ¬ M 513 4 = nI 59 := fun z => c1 (hs.symm.trans ((tk_stop _ hA.2.2.2.2).mpr z))
          refine v_topi (v := bI (s ≤ 4 ∧ k < 6)) (bI_t ⟨by omega, by omega⟩) ?_
          refine c_callXX (pc := 58) (st := []) (kb := r) (ci := 4) (ct_X4_due (P := s ≤ 4 ∧ k < 6) hrr hrN hI hX) kVX4_65 kDX4_65 (rm_ok hR (Nat.le_of_ble_eq_true rfl) (Nat.le_of_ble_eq_true rfl)) (by rw [hR]; decide) hrN (show hC G _ r = rdE G _ from cO_rd hrr i1) rfl rfl rfl rfl (Nat.le_of_ble_eq_true rfl) dX4_program_58 hout (fun hF' q N' h' hP => ?_) (fun hT => ?_)
          · rw [dueC_t ⟨by omega, by omega⟩] at hF'; exact absurd hF' (by simp)
          · skip
            have hop : opP (M 513 4) := (tk_op _ hA.2.2.2.2).mp (by omega)
            refine v_S (show _ = rdDu r (M 514) (mL M) S from congrArg Prod.snd (dueC_t ⟨by omega, by omega⟩)) ?_
            generalize hGS1 : rdDu r (M 514) (mL M) S = S1
            have hD1 : DIv S1 M r := hGS1 ▸ hD.rd hrr
            have hA1 : LA0 S1 M r := hGS1 ▸ hA.du
            have hF1 : FRm S0 S1 r := hF.tr (hGS1 ▸ FRm.rd)
            have j1 := hD1.2.2.1.1
            refine v_pop (pc := 61) dX4_program_61 rfl ?_
            refine v_aload_n (pc := 62) 3 dX4_program_62 rfl rfl ?_
            refine gX4_3 (pc := 63) hrr j1 hrN dX4_program_63 ?_
            refine gX4_69 (pc := 66) (by omega) dX4_program_66 ?_
            refine gX4_85 (pc := 69) TB_27 (by omega) dX4_program_69 ?_
            refine v_iload_n (pc := 72) 2 dX4_program_72 rfl rfl ?_
            refine c_gridW (pc := 73) (b0 := 27) (j := t) TB_27 (by omega) rfl (by omega) dX4_program_73 ?_
            refine v_iload (pc := 74) 0 dX4_program_74 rfl ?_
            refine v_iload_n (pc := 76) 1 dX4_program_76 rfl rfl ?_
            refine c_iast (pc := 77) (k := 27 + 4 + t) (j := k) (IA_gridW TB_27 (by omega)) (by omega) rfl (by omega) (by decide) dX4_program_77 ?_
            refine v_S (show _ = s2 S1 (31 + t) k (nI s) by rw [show 27 + 4 + t = 31 + t by omega]) ?_
            generalize hGS2 : s2 S1 (31 + t) k (nI s) = S2
            have hD2 : DIv S2 M r := hGS2 ▸ hD1.what hrr ht8 (by rw [hk, nn_of (by omega)]; exact Nat.le_refl _)
            have hA2 : LA0 S2 M r := hGS2 ▸ hA1.to (s2_nk (by omega)) rfl rfl rfl
            have hF2 : FRm S0 S2 r := hF1.tr (hGS2 ▸ FRm.s2 hrr (by omega) (by omega))
            have w2 : S2 (31 + t) k = nI s := hGS2 ▸ s2_at _ _ _ _
            have j2 := hD2.2.2.1.1
            have l2 : S2 29 t = nI k := ((hD2.2.2.2.1.2.1 t ht).2.1).trans hk
            have ho2 : opR (S2 (31 + t) k) (M 513 4) := by rw [w2, ← hs]; exact tk_opR _ hA.2.2.2.2 (by omega)
            refine v_aload_n (pc := 78) 3 dX4_program_78 rfl rfl ?_
            refine gX4_3 (pc := 79) hrr j2 hrN dX4_program_79 ?_
            refine gX4_69 (pc := 82) (by omega) dX4_program_82 ?_
            refine gX4_89 (pc := 85) TB_27 (by omega) dX4_program_85 ?_
            refine v_iload_n (pc := 88) 2 dX4_program_88 rfl rfl ?_
            refine c_gridO (pc := 89) (b0 := 27) (j := t) TB_27 (by omega) rfl (by omega) dX4_program_89 ?_
            refine v_iload (pc := 90) 0 dX4_program_90 rfl ?_
            refine v_iload_n (pc := 92) 1 dX4_program_92 rfl rfl ?_
            refine v_if_eqN (pc := 93) 101 (by omega) dX4_program_93 (by decide) (fun c4 => ?_) (fun c4 => ?_)
            · skip
              refine v_aload_n (pc := 101) 3 dX4_program_101 rfl rfl ?_
              refine v_iconst (pc := 102) (nI 1) dX4_program_102 (by decide) ?_
              refine v_bipush (pc := 103) (nI 9) dX4_program_103 (by decide) ?_
              have hB2 := hA2.nx hD2.1 hD2.2.1.1
              have hwf : wfP (M 513 4) := (tk_wf _ hA.2.2.2.2).mp (by omega)
              refine c_callXX (pc := 105) (st := [.int (nI k), .ref (gZ G + (27 + 13 + t))]) (kb := r) (ci := 4) (ct_X4_number (lo := nI 1) (hi := nI 9) hrr hrN hD2.2.2.1 hD2.1) kVX4_92 kDX4_92 (rm_ok hR (Nat.le_of_ble_eq_true rfl) (Nat.le_of_ble_eq_true rfl)) (by rw [hR]; decide) hrN (show hC G _ r = rdE G _ from cO_rd hrr j2) rfl rfl rfl rfl (Nat.le_of_ble_eq_true rfl) dX4_program_105 hout (fun hF' q N' h' hP => ?_) (fun hT => ?_)
              · obtain ⟨hn, he⟩ := dueC_1f hF'
                rw [he] at hP
                have hb : ¬ nuB M (nI 1) (nI 9) := fun z => hn ((num_iff0 hB2 _ _).mpr z)
                have hRe : Rm = (false, nuS M (nI 1) (nI 9)) := by rw [← hE, pgL, if_neg h59, if_pos hop, if_pos hwf, if_neg hb]
                exact ⟨S2, ⟨hF2, hD2.pb⟩, by rw [hRe], by rw [hRe, nuS_f hb]; show S2 r 1 = flS (nxS M) 513 6; rw [flS_6]; exact hB2.2.1, hP⟩
              · obtain ⟨hn, he⟩ := dueC_1t hT
                have hb : nuB M (nI 1) (nI 9) := (num_iff0 hB2 _ _).mp hn
                refine v_S (show _ = rdDu r (M 514) (mL M) S2 from congrArg Prod.snd he) ?_
                refine v_topi (v := nxS M 513 5) (hB2.2.2.2.1 (by rw [nxS_at]; exact hb.1)) ?_
                generalize hGS3 : rdDu r (M 514) (mL M) S2 = S3
                have hD3 : DIv S3 (nxS M) r := hGS3 ▸ (hD2.rd hrr).nx
                have hA3 : LA0 S3 (nxS M) r := hGS3 ▸ hB2.du0
                have hF3 : FRm S0 S3 r := hF2.tr (hGS3 ▸ FRm.rd)
                have j3 := hD3.2.2.1.1
                have l3 : S3 29 t = nI k := by rw [← hGS3]; unfold rdDu; rw [s1_ne (by omega)]; exact l2
                have ho3 : opR (S3 (31 + t) k) (M 513 4) := by rw [← hGS3]; unfold rdDu; rw [s1_ne (by omega)]; exact ho2
                refine v_goto (pc := 108) 112 dX4_program_108 (by decide) ?_
                refine c_iast (pc := 112) (k := 27 + 13 + t) (j := k) (IA_gridO TB_27 (by omega)) (by omega) rfl (by omega) (by decide) dX4_program_112 ?_
                refine v_aload_n (pc := 113) 3 dX4_program_113 rfl rfl ?_
                refine gX4_3 (pc := 114) hrr ((congrFun (s2_nk (by omega)) _).trans j3) hrN dX4_program_114 ?_
                refine gX4_69 (pc := 117) (by omega) dX4_program_117 ?_
                refine gX4_81 (pc := 120) TB_27 (by omega) dX4_program_120 ?_
                refine v_iload_n (pc := 123) 2 dX4_program_123 rfl rfl ?_
                refine v_dup2 (pc := 124) dX4_program_124 rfl rfl ?_
                refine c_iald (pc := 125) (k := 27 + 2) (j := t) (IA_tree8 TB_27 (by decide)) (by omega) rfl (by omega) (by decide) dX4_program_125 ?_
                refine v_topi (v := nI k) ((congrFun (s2_nk (by omega)) _).trans l3) ?_
                refine v_iconst (pc := 126) (nI 1) dX4_program_126 (by decide) ?_
                refine v_iaddN (pc := 127) dX4_program_127 ?_
                refine c_iast (pc := 128) (k := 27 + 2) (j := t) (IA_tree8 TB_27 (by decide)) (by omega) rfl (by omega) (by decide) dX4_program_128 ?_
                refine v_goto (pc := 129) 12 dX4_program_129 (by decide) ?_
                refine v_S (show _ = s2 (s2 S3 (40 + t) k (nxS M 513 5)) 29 t (nI (k + 1)) by rw [show 27 + 13 + t = 40 + t by omega]) ?_
                obtain ⟨n1, n2, n3, n4, n5⟩ := pg_next (x := (nxS M 513 5)) hD3 hA3 hrr (by unfold mK; rw [nxS_j (by omega)]; exact ht) (by rw [nxS_ne (by decide)]; exact hk) (by omega) ho3
                refine v_sub (lv' := [(2, .int (nI t)), (0, .ref (gZ G + r)), (1, .int (p))]) [2, 3, 4] rfl ?_
                exact ih (k + 1) _ _ (by omega) n1 n2 n3 n4 (hF3.tr n5) (by rw [← hE, pgL, if_neg h59, if_pos hop, if_pos hwf, if_pos hb, nuS_t hb])
            · skip
              refine v_iload_n (pc := 96) 1 dX4_program_96 rfl rfl ?_
              refine v_iconst (pc := 97) (nI 4) dX4_program_97 (by decide) ?_
              refine v_ic_neN (pc := 98) 111 (by omega) (by omega) dX4_program_98 (by decide) (fun c5 => ?_) (fun c5 => ?_)
              · skip
                refine v_iconst (pc := 111) (nI 0) dX4_program_111 (by decide) ?_
                refine c_iast (pc := 112) (k := 27 + 13 + t) (j := k) (IA_gridO TB_27 (by omega)) (by omega) rfl (by omega) (by decide) dX4_program_112 ?_
                refine v_aload_n (pc := 113) 3 dX4_program_113 rfl rfl ?_
                refine gX4_3 (pc := 114) hrr ((congrFun (s2_nk (by omega)) _).trans j2) hrN dX4_program_114 ?_
                refine gX4_69 (pc := 117) (by omega) dX4_program_117 ?_
                refine gX4_81 (pc := 120) TB_27 (by omega) dX4_program_120 ?_
                refine v_iload_n (pc := 123) 2 dX4_program_123 rfl rfl ?_
                refine v_dup2 (pc := 124) dX4_program_124 rfl rfl ?_
                refine c_iald (pc := 125) (k := 27 + 2) (j := t) (IA_tree8 TB_27 (by decide)) (by omega) rfl (by omega) (by decide) dX4_program_125 ?_
                refine v_topi (v := nI k) ((congrFun (s2_nk (by omega)) _).trans l2) ?_
                refine v_iconst (pc := 126) (nI 1) dX4_program_126 (by decide) ?_
                refine v_iaddN (pc := 127) dX4_program_127 ?_
                refine c_iast (pc := 128) (k := 27 + 2) (j := t) (IA_tree8 TB_27 (by decide)) (by omega) rfl (by omega) (by decide) dX4_program_128 ?_
                refine v_goto (pc := 129) 12 dX4_program_129 (by decide) ?_
                refine v_S (show _ = s2 (s2 S2 (40 + t) k (nI 0)) 29 t (nI (k + 1)) by rw [show 27 + 13 + t = 40 + t by omega]) ?_
                have hwf : ¬ wfP (M 513 4) := fun z => absurd ((tk_wf _ hA.2.2.2.2).mpr z) (by omega)
                obtain ⟨n1, n2, n3, n4, n5⟩ := pg_next (x := (nI 0)) hD2 hA2 hrr ht hk (by omega) ho2
                refine v_sub (lv' := [(2, .int (nI t)), (0, .ref (gZ G + r)), (1, .int (p))]) [2, 3, 4] rfl ?_
                exact ih (k + 1) _ _ (by omega) n1 n2 n3 n4 (hF2.tr n5) (by rw [← hE, pgL, if_neg h59, if_pos hop, if_neg hwf])
              · skip
                refine v_aload_n (pc := 101) 3 dX4_program_101 rfl rfl ?_
                refine v_iconst (pc := 102) (nI 1) dX4_program_102 (by decide) ?_
                refine v_bipush (pc := 103) (nI 9) dX4_program_103 (by decide) ?_
                have hB2 := hA2.nx hD2.1 hD2.2.1.1
                have hwf : wfP (M 513 4) := (tk_wf _ hA.2.2.2.2).mp (by omega)
                refine c_callXX (pc := 105) (st := [.int (nI k), .ref (gZ G + (27 + 13 + t))]) (kb := r) (ci := 4) (ct_X4_number (lo := nI 1) (hi := nI 9) hrr hrN hD2.2.2.1 hD2.1) kVX4_92 kDX4_92 (rm_ok hR (Nat.le_of_ble_eq_true rfl) (Nat.le_of_ble_eq_true rfl)) (by rw [hR]; decide) hrN (show hC G _ r = rdE G _ from cO_rd hrr j2) rfl rfl rfl rfl (Nat.le_of_ble_eq_true rfl) dX4_program_105 hout (fun hF' q N' h' hP => ?_) (fun hT => ?_)
                · obtain ⟨hn, he⟩ := dueC_1f hF'
                  rw [he] at hP
                  have hb : ¬ nuB M (nI 1) (nI 9) := fun z => hn ((num_iff0 hB2 _ _).mpr z)
                  have hRe : Rm = (false, nuS M (nI 1) (nI 9)) := by rw [← hE, pgL, if_neg h59, if_pos hop, if_pos hwf, if_neg hb]
                  exact ⟨S2, ⟨hF2, hD2.pb⟩, by rw [hRe], by rw [hRe, nuS_f hb]; show S2 r 1 = flS (nxS M) 513 6; rw [flS_6]; exact hB2.2.1, hP⟩
                · obtain ⟨hn, he⟩ := dueC_1t hT
                  have hb : nuB M (nI 1) (nI 9) := (num_iff0 hB2 _ _).mp hn
                  refine v_S (show _ = rdDu r (M 514) (mL M) S2 from congrArg Prod.snd he) ?_
                  refine v_topi (v := nxS M 513 5) (hB2.2.2.2.1 (by rw [nxS_at]; exact hb.1)) ?_
                  generalize hGS3 : rdDu r (M 514) (mL M) S2 = S3
                  have hD3 : DIv S3 (nxS M) r := hGS3 ▸ (hD2.rd hrr).nx
                  have hA3 : LA0 S3 (nxS M) r := hGS3 ▸ hB2.du0
                  have hF3 : FRm S0 S3 r := hF2.tr (hGS3 ▸ FRm.rd)
                  have j3 := hD3.2.2.1.1
                  have l3 : S3 29 t = nI k := by rw [← hGS3]; unfold rdDu; rw [s1_ne (by omega)]; exact l2
                  have ho3 : opR (S3 (31 + t) k) (M 513 4) := by rw [← hGS3]; unfold rdDu; rw [s1_ne (by omega)]; exact ho2
                  refine v_goto (pc := 108) 112 dX4_program_108 (by decide) ?_
                  refine c_iast (pc := 112) (k := 27 + 13 + t) (j := k) (IA_gridO TB_27 (by omega)) (by omega) rfl (by omega) (by decide) dX4_program_112 ?_
                  refine v_aload_n (pc := 113) 3 dX4_program_113 rfl rfl ?_
                  refine gX4_3 (pc := 114) hrr ((congrFun (s2_nk (by omega)) _).trans j3) hrN dX4_program_114 ?_
                  refine gX4_69 (pc := 117) (by omega) dX4_program_117 ?_
                  refine gX4_81 (pc := 120) TB_27 (by omega) dX4_program_120 ?_
                  refine v_iload_n (pc := 123) 2 dX4_program_123 rfl rfl ?_
                  refine v_dup2 (pc := 124) dX4_program_124 rfl rfl ?_
                  refine c_iald (pc := 125) (k := 27 + 2) (j := t) (IA_tree8 TB_27 (by decide)) (by omega) rfl (by omega) (by decide) dX4_program_125 ?_
                  refine v_topi (v := nI k) ((congrFun (s2_nk (by omega)) _).trans l3) ?_
                  refine v_iconst (pc := 126) (nI 1) dX4_program_126 (by decide) ?_
                  refine v_iaddN (pc := 127) dX4_program_127 ?_
                  refine c_iast (pc := 128) (k := 27 + 2) (j := t) (IA_tree8 TB_27 (by decide)) (by omega) rfl (by omega) (by decide) dX4_program_128 ?_
                  refine v_goto (pc := 129) 12 dX4_program_129 (by decide) ?_
                  refine v_S (show _ = s2 (s2 S3 (40 + t) k (nxS M 513 5)) 29 t (nI (k + 1)) by rw [show 27 + 13 + t = 40 + t by omega]) ?_
                  obtain ⟨n1, n2, n3, n4, n5⟩ := pg_next (x := (nxS M 513 5)) hD3 hA3 hrr (by unfold mK; rw [nxS_j (by omega)]; exact ht) (by rw [nxS_ne (by decide)]; exact hk) (by omega) ho3
                  refine v_sub (lv' := [(2, .int (nI t)), (0, .ref (gZ G + r)), (1, .int (p))]) [2, 3, 4] rfl ?_
                  exact ih (k + 1) _ _ (by omega) n1 n2 n3 n4 (hF3.tr n5) (by rw [← hE, pgL, if_neg h59, if_pos hop, if_pos hwf, if_pos hb, nuS_t hb])

