set_option maxRecDepth 100000
/-! ScopeTasksModel: tokens, walks -/
set_option maxHeartbeats 4000000 in
theorem ct_X3_isFigure {G : GT} {l : Launch} {N : Nat} {S : ST} {g : Nat → Int32} {p L : Nat} (hp : g 2 = nI p) (hL : g 0 = nI L) (hpL : p ≤ L) (hL1 : L ≤ 120) (hN : 535 ≤ N) : CTi G l yX3_isFigure cX3_isFigure 1 (some .boolean) 1 [.ref (gZ G + 513)] N (s1 S 513 g) (bI (figP (S 514) L p)) (s1 S 513 g) := by
  refine CT.mk "ScopeTasksModel" [(0, .ref (gZ G + 513))] rfl (by decide) rfl (Nat.le_of_ble_eq_true rfl) ?_
  intro x hR hl hr hnm
  refine v_aload_n (pc := 0) 0 dX3_isFigure_0 rfl rfl ?_
  refine gX3_88 (pc := 1) hN dX3_isFigure_1 ?_
  refine v_topi (v := nI p) ((congrFun (s1_at _ _ _) _).trans hp) ?_
  refine v_aload_n (pc := 4) 0 dX3_isFigure_4 rfl rfl ?_
  refine gX3_84 (pc := 5) hN dX3_isFigure_5 ?_
  refine v_topi (v := nI L) ((congrFun (s1_at _ _ _) _).trans hL) ?_
  refine v_ic_geN (pc := 8) 34 (by omega) (by omega) dX3_isFigure_8 (by decide) (fun c1 => ?_) (fun c1 => ?_)
  · skip
    refine v_iconst (pc := 34) (nI 0) dX3_isFigure_34 (by decide) ?_
    exact v_iret (pc := 35) hr rfl (Nat.le_refl _) (Nat.le_refl _) dX3_isFigure_35 (pI_mk (bI_f (fun z => absurd z.1 (by omega))) (hC_c rfl))
  · skip
    refine v_aload_n (pc := 11) 0 dX3_isFigure_11 rfl rfl ?_
    refine gX3_7 (pc := 12) hN dX3_isFigure_12 ?_
    refine v_aload_n (pc := 15) 0 dX3_isFigure_15 rfl rfl ?_
    refine gX3_88 (pc := 16) hN dX3_isFigure_16 ?_
    refine v_topi (v := nI p) ((congrFun (s1_at _ _ _) _).trans hp) ?_
    refine c_iald (pc := 19) (k := 514) (j := p) IA_514 (by omega) rfl (by omega) (by decide) dX3_isFigure_19 ?_
    refine v_topi (v := S 514 p) (congrFun (s1_ne (by omega)) _) ?_
    refine v_bipush (pc := 20) (nI 48) dX3_isFigure_20 (by decide) ?_
    refine v_bipush (pc := 22) (nI 57) dX3_isFigure_22 (by decide) ?_
    refine c_callSi (pc := 24) (st := []) (ct_X3_in (S := s1 S 513 g) (v := S 514 p) (lo := nI 48) (hi := nI 57) ) kVX3_80 kDX3_80 (rm_ok hR (Nat.le_of_ble_eq_true rfl) (Nat.le_of_ble_eq_true rfl)) ⟨Nat.zero_le _, Nat.zero_le _⟩ rfl rfl (Nat.le_of_ble_eq_true rfl) dX3_isFigure_24 ?_
    refine v_if_eqB (pc := 27) 34 dX3_isFigure_27 (by decide) (fun c2 => ?_) (fun c2 => ?_)
    · skip
      refine v_iconst (pc := 34) (nI 0) dX3_isFigure_34 (by decide) ?_
      exact v_iret (pc := 35) hr rfl (Nat.le_refl _) (Nat.le_refl _) dX3_isFigure_35 (pI_mk (bI_f (fun z => c2 z.2)) (hC_c rfl))
    · skip
      refine v_iconst (pc := 30) (nI 1) dX3_isFigure_30 (by decide) ?_
      refine v_goto (pc := 31) 35 dX3_isFigure_31 (by decide) ?_
      exact v_iret (pc := 35) hr rfl (Nat.le_refl _) (Nat.le_refl _) dX3_isFigure_35 (pI_mk (bI_t ⟨c1, c2⟩) (hC_c rfl))

set_option maxHeartbeats 4000000 in
theorem lp_bl {G : GT} {x : VX} {N : Nat} {S : ST} {g : Nat → Int32} {L : Nat} (hN : 535 ≤ N) (hL : g 0 = nI L) (hL1 : L ≤ 120) (hr : (xM x).sig.returnType = none) : ∀ (m p : Nat), p + m = L → V G x "ScopeTasksModel" cX3_blanks 1 (QQ G x (pV N (fun h' => h' = hC G (s1 S 513 (upd g 2 (nI (skB (S 514) L m p)))))) 0 0) 0 [(0, .ref (gZ G + 513))] [] N (hC G (s1 S 513 (upd g 2 (nI p)))) 0 0 := by
  intro m
  induction m with
  | zero =>
    intro p hpm
    refine v_aload_n (pc := 0) 0 dX3_blanks_0 rfl rfl ?_
    refine gX3_88 (pc := 1) hN dX3_blanks_1 ?_
    refine v_topi (v := nI p) ((congrFun (s1_at _ _ _) _).trans pk_us) ?_
    refine v_aload_n (pc := 4) 0 dX3_blanks_4 rfl rfl ?_
    refine gX3_84 (pc := 5) hN dX3_blanks_5 ?_
    refine v_topi (v := nI L) ((congrFun (s1_at _ _ _) _).trans ((pk_un (by omega)).trans hL)) ?_
    refine v_ic_geN (pc := 8) 38 (by omega) (by omega) dX3_blanks_8 (by decide) (fun c1 => ?_) (fun c1 => ?_)
    · skip
      exact v_vret (pc := 38) hr (Nat.le_refl _) (Nat.le_refl _) dX3_blanks_38 (pV_mk rfl)
    · skip
      exact absurd c1 (by omega)
  | succ m ih =>
    intro p hpm
    refine v_aload_n (pc := 0) 0 dX3_blanks_0 rfl rfl ?_
    refine gX3_88 (pc := 1) hN dX3_blanks_1 ?_
    refine v_topi (v := nI p) ((congrFun (s1_at _ _ _) _).trans pk_us) ?_
    refine v_aload_n (pc := 4) 0 dX3_blanks_4 rfl rfl ?_
    refine gX3_84 (pc := 5) hN dX3_blanks_5 ?_
    refine v_topi (v := nI L) ((congrFun (s1_at _ _ _) _).trans ((pk_un (by omega)).trans hL)) ?_
    refine v_ic_geN (pc := 8) 38 (by omega) (by omega) dX3_blanks_8 (by decide) (fun c1 => ?_) (fun c1 => ?_)
    · skip
      exact absurd c1 (by omega)
    · skip
      refine v_aload_n (pc := 11) 0 dX3_blanks_11 rfl rfl ?_
      refine gX3_7 (pc := 12) hN dX3_blanks_12 ?_
      refine v_aload_n (pc := 15) 0 dX3_blanks_15 rfl rfl ?_
      refine gX3_88 (pc := 16) hN dX3_blanks_16 ?_
      refine v_topi (v := nI p) ((congrFun (s1_at _ _ _) _).trans pk_us) ?_
      refine c_iald (pc := 19) (k := 514) (j := p) IA_514 (by omega) rfl (by omega) (by decide) dX3_blanks_19 ?_
      refine v_topi (v := S 514 p) (congrFun (s1_ne (by omega)) _) ?_
      refine v_bipush (pc := 20) (nI 32) dX3_blanks_20 (by decide) ?_
      refine v_ic_ne (pc := 22) 38 dX3_blanks_22 (by decide) (fun c2 => ?_) (fun c2 => ?_)
      · skip
        exact v_vret (pc := 38) hr (Nat.le_refl _) (Nat.le_refl _) dX3_blanks_38 (pV_mk (hC_c (by rw [skB, if_neg c2])))
      · skip
        refine v_aload_n (pc := 25) 0 dX3_blanks_25 rfl rfl ?_
        refine v_dup (pc := 26) dX3_blanks_26 rfl ?_
        refine gX3_88 (pc := 27) hN dX3_blanks_27 ?_
        refine v_topi (v := nI p) ((congrFun (s1_at _ _ _) _).trans pk_us) ?_
        refine v_iconst (pc := 30) (nI 1) dX3_blanks_30 (by decide) ?_
        refine v_iaddN (pc := 31) dX3_blanks_31 ?_
        refine pX3_88 (pc := 32) hN dX3_blanks_32 ?_
        refine v_S (s2_s1 _ _ _ _ _) ?_
        refine v_goto (pc := 35) 0 dX3_blanks_35 (by decide) ?_
        refine v_S (congrArg (s1 S 513) (upd_upd _ _ _ _)) ?_
        rw [show skB (S 514) L (m + 1) p = skB (S 514) L m (p + 1) from by rw [skB, if_pos c2]]
        exact ih (p + 1) (by omega)

set_option maxHeartbeats 4000000 in
theorem ct_X3_blanks {G : GT} {l : Launch} {N : Nat} {S : ST} {g : Nat → Int32} {p L : Nat} (hp : g 2 = nI p) (hL : g 0 = nI L) (hpL : p ≤ L) (hL1 : L ≤ 120) (hN : 535 ≤ N) : CTv G l yX3_blanks cX3_blanks 1 none 0 [.ref (gZ G + 513)] N (s1 S 513 g) (s1 S 513 (upd g 2 (nI (sk (S 514) L p)))) := by
  refine CT.mk "ScopeTasksModel" [(0, .ref (gZ G + 513))] rfl (by decide) rfl (Nat.le_of_ble_eq_true rfl) ?_
  intro x hR hl hr hnm
  refine v_S (congrArg (s1 S 513) (upd_id hp)) ?_
  exact lp_bl hN hL hL1 hr (L - p) p (by omega)

set_option maxHeartbeats 4000000 in
theorem ct_X3_isToken {G : GT} {l : Launch} {N : Nat} {S : ST} {c : Int32}  : CTi G l yX3_isToken cX3_isToken 1 (some .boolean) 0 [.int (c)] N (S) (bI (isTb c = true)) (S) := by
  refine CT.mk "ScopeTasksModel" [(0, .int (c))] rfl (by decide) rfl (Nat.le_of_ble_eq_true rfl) ?_
  intro x hR hl hr hnm
  refine v_iload_n (pc := 0) 0 dX3_isToken_0 rfl rfl ?_
  by_cases e0 : c = nI 59
  · skip
    refine v_lookup (pc := 1) 108 dX3_isToken_1 (by decide) (by rw [e0]) (by decide) ?_
    refine v_iconst (pc := 108) (nI 1) dX3_isToken_108 (by decide) ?_
    exact v_iret (pc := 109) hr rfl (Nat.le_refl _) (Nat.le_refl _) dX3_isToken_109 (pI_mk (bI_t (by unfold isTb; rw [e0]; decide)) (hC_c rfl))
  · skip
    by_cases e1 : c = nI 98
    · skip
      refine v_lookup (pc := 1) 108 dX3_isToken_1 (by decide) (by rw [e1]) (by decide) ?_
      refine v_iconst (pc := 108) (nI 1) dX3_isToken_108 (by decide) ?_
      exact v_iret (pc := 109) hr rfl (Nat.le_refl _) (Nat.le_refl _) dX3_isToken_109 (pI_mk (bI_t (by unfold isTb; rw [e1]; decide)) (hC_c rfl))
    · skip
      by_cases e2 : c = nI 99
      · skip
        refine v_lookup (pc := 1) 108 dX3_isToken_1 (by decide) (by rw [e2]) (by decide) ?_
        refine v_iconst (pc := 108) (nI 1) dX3_isToken_108 (by decide) ?_
        exact v_iret (pc := 109) hr rfl (Nat.le_refl _) (Nat.le_refl _) dX3_isToken_109 (pI_mk (bI_t (by unfold isTb; rw [e2]; decide)) (hC_c rfl))
      · skip
        by_cases e3 : c = nI 100
        · skip
          refine v_lookup (pc := 1) 108 dX3_isToken_1 (by decide) (by rw [e3]) (by decide) ?_
          refine v_iconst (pc := 108) (nI 1) dX3_isToken_108 (by decide) ?_
          exact v_iret (pc := 109) hr rfl (Nat.le_refl _) (Nat.le_refl _) dX3_isToken_109 (pI_mk (bI_t (by unfold isTb; rw [e3]; decide)) (hC_c rfl))
        · skip
          by_cases e4 : c = nI 102
          · skip
            refine v_lookup (pc := 1) 108 dX3_isToken_1 (by decide) (by rw [e4]) (by decide) ?_
            refine v_iconst (pc := 108) (nI 1) dX3_isToken_108 (by decide) ?_
            exact v_iret (pc := 109) hr rfl (Nat.le_refl _) (Nat.le_refl _) dX3_isToken_109 (pI_mk (bI_t (by unfold isTb; rw [e4]; decide)) (hC_c rfl))
          · skip
            by_cases e5 : c = nI 103
            · skip
              refine v_lookup (pc := 1) 108 dX3_isToken_1 (by decide) (by rw [e5]) (by decide) ?_
              refine v_iconst (pc := 108) (nI 1) dX3_isToken_108 (by decide) ?_
              exact v_iret (pc := 109) hr rfl (Nat.le_refl _) (Nat.le_refl _) dX3_isToken_109 (pI_mk (bI_t (by unfold isTb; rw [e5]; decide)) (hC_c rfl))
            · skip
              by_cases e6 : c = nI 106
              · skip
                refine v_lookup (pc := 1) 108 dX3_isToken_1 (by decide) (by rw [e6]) (by decide) ?_
                refine v_iconst (pc := 108) (nI 1) dX3_isToken_108 (by decide) ?_
                exact v_iret (pc := 109) hr rfl (Nat.le_refl _) (Nat.le_refl _) dX3_isToken_109 (pI_mk (bI_t (by unfold isTb; rw [e6]; decide)) (hC_c rfl))
              · skip
                by_cases e7 : c = nI 114
                · skip
                  refine v_lookup (pc := 1) 108 dX3_isToken_1 (by decide) (by rw [e7]) (by decide) ?_
                  refine v_iconst (pc := 108) (nI 1) dX3_isToken_108 (by decide) ?_
                  exact v_iret (pc := 109) hr rfl (Nat.le_refl _) (Nat.le_refl _) dX3_isToken_109 (pI_mk (bI_t (by unfold isTb; rw [e7]; decide)) (hC_c rfl))
                · skip
                  by_cases e8 : c = nI 115
                  · skip
                    refine v_lookup (pc := 1) 108 dX3_isToken_1 (by decide) (by rw [e8]) (by decide) ?_
                    refine v_iconst (pc := 108) (nI 1) dX3_isToken_108 (by decide) ?_
                    exact v_iret (pc := 109) hr rfl (Nat.le_refl _) (Nat.le_refl _) dX3_isToken_109 (pI_mk (bI_t (by unfold isTb; rw [e8]; decide)) (hC_c rfl))
                  · skip
                    by_cases e9 : c = nI 116
                    · skip
                      refine v_lookup (pc := 1) 108 dX3_isToken_1 (by decide) (by rw [e9]) (by decide) ?_
                      refine v_iconst (pc := 108) (nI 1) dX3_isToken_108 (by decide) ?_
                      exact v_iret (pc := 109) hr rfl (Nat.le_refl _) (Nat.le_refl _) dX3_isToken_109 (pI_mk (bI_t (by unfold isTb; rw [e9]; decide)) (hC_c rfl))
                    · skip
                      by_cases e10 : c = nI 119
                      · skip
                        refine v_lookup (pc := 1) 108 dX3_isToken_1 (by decide) (by rw [e10]) (by decide) ?_
                        refine v_iconst (pc := 108) (nI 1) dX3_isToken_108 (by decide) ?_
                        exact v_iret (pc := 109) hr rfl (Nat.le_refl _) (Nat.le_refl _) dX3_isToken_109 (pI_mk (bI_t (by unfold isTb; rw [e10]; decide)) (hC_c rfl))
                      · skip
                        by_cases e11 : c = nI 120
                        · skip
                          refine v_lookup (pc := 1) 108 dX3_isToken_1 (by decide) (by rw [e11]) (by decide) ?_
                          refine v_iconst (pc := 108) (nI 1) dX3_isToken_108 (by decide) ?_
                          exact v_iret (pc := 109) hr rfl (Nat.le_refl _) (Nat.le_refl _) dX3_isToken_109 (pI_mk (bI_t (by unfold isTb; rw [e11]; decide)) (hC_c rfl))
                        · skip
                          refine v_lookup (pc := 1) (off := 109) 110 dX3_isToken_1 (by decide) (by have h59 := sw_ne e0 (by decide); have h98 := sw_ne e1 (by decide); have h99 := sw_ne e2 (by decide); have h100 := sw_ne e3 (by decide); have h102 := sw_ne e4 (by decide); have h103 := sw_ne e5 (by decide); have h106 := sw_ne e6 (by decide); have h114 := sw_ne e7 (by decide); have h115 := sw_ne e8 (by decide); have h116 := sw_ne e9 (by decide); have h119 := sw_ne e10 (by decide); have h120 := sw_ne e11 (by decide); generalize (c).toInt = z at *; simp only [Op.lookupswitch.offset]; simp_all) (by decide) ?_
                          refine v_iconst (pc := 110) (nI 0) dX3_isToken_110 (by decide) ?_
                          exact v_iret (pc := 111) hr rfl (Nat.le_refl _) (Nat.le_refl _) dX3_isToken_111 (pI_mk (bI_f (by unfold isTb; simp only [beq_eq_false_iff_ne.mpr e0, beq_eq_false_iff_ne.mpr e1, beq_eq_false_iff_ne.mpr e2, beq_eq_false_iff_ne.mpr e3, beq_eq_false_iff_ne.mpr e4, beq_eq_false_iff_ne.mpr e5, beq_eq_false_iff_ne.mpr e6, beq_eq_false_iff_ne.mpr e7, beq_eq_false_iff_ne.mpr e8, beq_eq_false_iff_ne.mpr e9, beq_eq_false_iff_ne.mpr e10, beq_eq_false_iff_ne.mpr e11, Bool.or_self]; decide)) (hC_c rfl))

set_option maxHeartbeats 4000000 in
theorem ct_X3_fails {G : GT} {l : Launch} {N : Nat} {S : ST} {g : Nat → Int32}  (hN : 535 ≤ N) : CTi G l yX3_fails cX3_fails 1 (some .boolean) 0 [.ref (gZ G + 513)] N (s1 S 513 g) (nI 0) (s1 S 513 (fl g)) := by
  refine CT.mk "ScopeTasksModel" [(0, .ref (gZ G + 513))] rfl (by decide) rfl (Nat.le_of_ble_eq_true rfl) ?_
  intro x hR hl hr hnm
  refine v_aload_n (pc := 0) 0 dX3_fails_0 rfl rfl ?_
  refine v_aload_n (pc := 1) 0 dX3_fails_1 rfl rfl ?_
  refine gX3_94 (pc := 2) hN dX3_fails_2 ?_
  refine v_topi (v := g 3) (congrFun (s1_at _ _ _) _) ?_
  refine pX3_111 (pc := 5) hN dX3_fails_5 ?_
  refine v_S (s2_s1 _ _ _ _ _) ?_
  refine v_iconst (pc := 8) (nI 0) dX3_fails_8 (by decide) ?_
  exact v_iret (pc := 9) hr rfl (Nat.le_refl _) (Nat.le_refl _) dX3_fails_9 (pI_mk rfl (hC_c rfl))

theorem set4_a {g : Nat → Int32} {a b : Nat} {c : Int32} : upd (upd (upd g 2 (nI a)) 3 (nI b)) 4 c = set4 g a b c (g 5) := by
  funext j
  unfold set4 upd
  by_cases h2 : j = 2
  · subst h2; rfl
  · by_cases h3 : j = 3
    · subst h3; rfl
    · by_cases h4 : j = 4
      · subst h4; rfl
      · by_cases h5 : j = 5
        · subst h5; rfl
        · simp [h2, h3, h4, h5]
theorem set4_b {g : Nat → Int32} {a b : Nat} {c z : Int32} : upd (upd (upd (upd g 2 z) 3 (nI b)) 4 c) 2 (nI a) = set4 g a b c (g 5) := by
  funext j
  unfold set4 upd
  by_cases h2 : j = 2
  · subst h2; rfl
  · by_cases h3 : j = 3
    · subst h3; rfl
    · by_cases h4 : j = 4
      · subst h4; rfl
      · by_cases h5 : j = 5
        · subst h5; rfl
        · simp [h2, h3, h4, h5]
theorem set4_c {g : Nat → Int32} {a b : Nat} {c d : Int32} : upd (upd (upd (upd g 3 (nI b)) 5 d) 2 (nI a)) 4 c = set4 g a b c d := by
  funext j
  unfold set4 upd
  by_cases h2 : j = 2
  · subst h2; rfl
  · by_cases h3 : j = 3
    · subst h3; rfl
    · by_cases h4 : j = 4
      · subst h4; rfl
      · by_cases h5 : j = 5
        · subst h5; rfl
        · simp [h2, h3, h4, h5]
theorem u5252 {f : Nat → Int32} {a b c d : Int32} : upd (upd (upd (upd f 5 a) 2 b) 5 c) 2 d = upd (upd f 5 c) 2 d := by
  funext j
  unfold upd
  by_cases h2 : j = 2
  · subst h2; rfl
  · by_cases h5 : j = 5
    · subst h5; rfl
    · simp [h2, h5]
theorem u235 {f : Nat → Int32} {a b c : Int32} : upd (upd (upd f 2 a) 3 b) 5 c = upd (upd (upd f 3 b) 5 c) 2 a := by
  funext j
  unfold upd
  by_cases h2 : j = 2
  · subst h2; rfl
  · by_cases h5 : j = 5
    · subst h5; rfl
    · simp [h2, h5]
theorem figN {u : Int32} (h : nI 48 ≤ u ∧ u ≤ nI 57) : ∃ c, 48 ≤ c ∧ c ≤ 57 ∧ u = nI c := by
  have h1 := Int32.le_iff_toInt_le.mp h.1
  have h2 := Int32.le_iff_toInt_le.mp h.2
  rw [nI_toInt (by decide)] at h1
  rw [nI_toInt (by decide)] at h2
  refine ⟨u.toInt.toNat, by omega, by omega, Int32.toInt_inj.mp ?_⟩
  rw [nI_toInt (by omega)]
  omega
set_option maxHeartbeats 4000000 in
theorem lp_dg {G : GT} {x : VX} {N : Nat} {Q : State → Prop} {S : ST} {g : Nat → Int32} {L b : Nat} (hN : 535 ≤ N) (hL : g 0 = nI L) (hL1 : L ≤ 120) (hR : xR x = RM 2 0 0) : ∀ (m q v : Nat), q + m = L → v ≤ 999 → V G x "ScopeTasksModel" cX3_next 1 Q 103 [(0, .ref (gZ G + 513))] [] N (hC G (s1 S 513 (upd (upd (upd g 3 (nI b)) 5 (nI ((dg (S 514) L m q v).1))) 2 (nI ((dg (S 514) L m q v).2))))) 0 0 → V G x "ScopeTasksModel" cX3_next 1 Q 43 [(0, .ref (gZ G + 513))] [] N (hC G (s1 S 513 (upd (upd (upd g 3 (nI b)) 5 (nI v)) 2 (nI q)))) 0 0 := by
  intro m
  induction m with
  | zero =>
    intro q v hqm hv hk
    refine v_aload_n (pc := 43) 0 dX3_next_43 rfl rfl ?_
    refine c_callVi (pc := 44) (st := []) (ci := 3) (ct_X3_isFigure (S := S) (g := upd (upd (upd g 3 (nI b)) 5 (nI v)) 2 (nI q)) (p := q) (L := L) pk_us ((pk_un (by omega)).trans ((pk_un (by omega)).trans ((pk_un (by omega)).trans hL))) (by omega) (by omega) (by omega)) kVX3_100 kDX3_100 (rm_ok hR (Nat.le_of_ble_eq_true rfl) (Nat.le_of_ble_eq_true rfl)) ⟨Nat.zero_le _, Nat.zero_le _⟩ (by omega) (rfl) rfl rfl rfl rfl (Nat.le_of_ble_eq_true rfl) dX3_next_44 ?_
    refine v_if_eqB (pc := 47) 103 dX3_next_47 (by decide) (fun c1 => ?_) (fun c1 => ?_)
    · skip
      exact hk
    · skip
      exact absurd c1.1 (by omega)
  | succ m ih =>
    intro q v hqm hv hk
    refine v_aload_n (pc := 43) 0 dX3_next_43 rfl rfl ?_
    refine c_callVi (pc := 44) (st := []) (ci := 3) (ct_X3_isFigure (S := S) (g := upd (upd (upd g 3 (nI b)) 5 (nI v)) 2 (nI q)) (p := q) (L := L) pk_us ((pk_un (by omega)).trans ((pk_un (by omega)).trans ((pk_un (by omega)).trans hL))) (by omega) (by omega) (by omega)) kVX3_100 kDX3_100 (rm_ok hR (Nat.le_of_ble_eq_true rfl) (Nat.le_of_ble_eq_true rfl)) ⟨Nat.zero_le _, Nat.zero_le _⟩ (by omega) (rfl) rfl rfl rfl rfl (Nat.le_of_ble_eq_true rfl) dX3_next_44 ?_
    refine v_if_eqB (pc := 47) 103 dX3_next_47 (by decide) (fun c1 => ?_) (fun c1 => ?_)
    · skip
      rw [dg, if_neg c1] at hk
      exact hk
    · skip
      obtain ⟨c, hc1, hc2, hcE⟩ := figN c1.2
      have hcn : nn (S 514 q) = c := by rw [hcE]; exact nn_nI (by omega)
      refine v_aload_n (pc := 50) 0 dX3_next_50 rfl rfl ?_
      refine v_aload_n (pc := 51) 0 dX3_next_51 rfl rfl ?_
      refine gX3_104 (pc := 52) hN dX3_next_52 ?_
      refine v_topi (v := nI v) ((congrFun (s1_at _ _ _) _).trans ((pk_un (by omega)).trans pk_us)) ?_
      refine v_bipush (pc := 55) (nI 99) dX3_next_55 (by decide) ?_
      refine v_ic_leN (pc := 57) 67 (by omega) (by omega) dX3_next_57 (by decide) (fun c2 => ?_) (fun c2 => ?_)
      · skip
        refine v_bipush (pc := 67) (nI 10) dX3_next_67 (by decide) ?_
        refine v_aload_n (pc := 69) 0 dX3_next_69 rfl rfl ?_
        refine gX3_104 (pc := 70) hN dX3_next_70 ?_
        refine v_topi (v := nI v) ((congrFun (s1_at _ _ _) _).trans ((pk_un (by omega)).trans pk_us)) ?_
        refine v_imulN (pc := 73) dX3_next_73 ?_
        refine v_aload_n (pc := 74) 0 dX3_next_74 rfl rfl ?_
        refine gX3_7 (pc := 75) hN dX3_next_75 ?_
        refine v_aload_n (pc := 78) 0 dX3_next_78 rfl rfl ?_
        refine gX3_88 (pc := 79) hN dX3_next_79 ?_
        refine v_topi (v := nI q) ((congrFun (s1_at _ _ _) _).trans pk_us) ?_
        refine c_iald (pc := 82) (k := 514) (j := q) IA_514 (by omega) rfl (by omega) (by decide) dX3_next_82 ?_
        refine v_topi (v := nI c) ((congrFun (s1_ne (by omega)) _).trans hcE) ?_
        refine v_iaddN (pc := 83) dX3_next_83 ?_
        refine v_bipush (pc := 84) (nI 48) dX3_next_84 (by decide) ?_
        refine v_isubN (pc := 86) (by omega) dX3_next_86 ?_
        refine pX3_104 (pc := 87) hN dX3_next_87 ?_
        refine v_S (s2_s1 _ _ _ _ _) ?_
        refine v_aload_n (pc := 90) 0 dX3_next_90 rfl rfl ?_
        refine v_dup (pc := 91) dX3_next_91 rfl ?_
        refine gX3_88 (pc := 92) hN dX3_next_92 ?_
        refine v_topi (v := nI q) ((congrFun (s1_at _ _ _) _).trans ((pk_un (by omega)).trans pk_us)) ?_
        refine v_iconst (pc := 95) (nI 1) dX3_next_95 (by decide) ?_
        refine v_iaddN (pc := 96) dX3_next_96 ?_
        refine pX3_88 (pc := 97) hN dX3_next_97 ?_
        refine v_S (s2_s1 _ _ _ _ _) ?_
        refine v_goto (pc := 100) 43 dX3_next_100 (by decide) ?_
        refine v_S (congrArg (s1 S 513) u5252) ?_
        rw [dg, if_pos c1, if_neg (by omega : ¬ 99 < v), hcn] at hk
        exact ih (q + 1) _ (by omega) (by omega) hk
      · skip
        refine v_aload_n (pc := 60) 0 dX3_next_60 rfl rfl ?_
        refine gX3_104 (pc := 61) hN dX3_next_61 ?_
        refine v_topi (v := nI v) ((congrFun (s1_at _ _ _) _).trans ((pk_un (by omega)).trans pk_us)) ?_
        refine v_goto (pc := 64) 87 dX3_next_64 (by decide) ?_
        refine pX3_104 (pc := 87) hN dX3_next_87 ?_
        refine v_S (s2_s1 _ _ _ _ _) ?_
        refine v_aload_n (pc := 90) 0 dX3_next_90 rfl rfl ?_
        refine v_dup (pc := 91) dX3_next_91 rfl ?_
        refine gX3_88 (pc := 92) hN dX3_next_92 ?_
        refine v_topi (v := nI q) ((congrFun (s1_at _ _ _) _).trans ((pk_un (by omega)).trans pk_us)) ?_
        refine v_iconst (pc := 95) (nI 1) dX3_next_95 (by decide) ?_
        refine v_iaddN (pc := 96) dX3_next_96 ?_
        refine pX3_88 (pc := 97) hN dX3_next_97 ?_
        refine v_S (s2_s1 _ _ _ _ _) ?_
        refine v_goto (pc := 100) 43 dX3_next_100 (by decide) ?_
        refine v_S (congrArg (s1 S 513) u5252) ?_
        rw [dg, if_pos c1, if_pos c2] at hk
        exact ih (q + 1) _ (by omega) (by omega) hk

set_option maxHeartbeats 4000000 in
theorem ct_X3_next {G : GT} {l : Launch} {N : Nat} {S : ST} {g : Nat → Int32} {p L : Nat} (hp : g 2 = nI p) (hL : g 0 = nI L) (hpL : p ≤ L) (hL1 : L ≤ 120) (hN : 535 ≤ N) : CTv G l yX3_next cX3_next 1 none 2 [.ref (gZ G + 513)] N (s1 S 513 g) (s1 S 513 (nx (S 514) L p g)) := by
  refine CT.mk "ScopeTasksModel" [(0, .ref (gZ G + 513))] rfl (by decide) rfl (Nat.le_of_ble_eq_true rfl) ?_
  intro x hR hl hr hnm
  refine v_aload_n (pc := 0) 0 dX3_next_0 rfl rfl ?_
  refine c_callVv (pc := 1) (st := []) (ci := 3) (ct_X3_blanks (S := S) (g := g) (p := p) (L := L) hp hL (by omega) (by omega) (by omega)) kVX3_91 kDX3_91 (rm_ok hR (Nat.le_of_ble_eq_true rfl) (Nat.le_of_ble_eq_true rfl)) ⟨Nat.zero_le _, Nat.zero_le _⟩ (by omega) (rfl) rfl rfl rfl rfl (Nat.le_of_ble_eq_true rfl) dX3_next_1 ?_
  obtain ⟨b, hb⟩ : ∃ q, sk (S 514) L p = q := ⟨_, rfl⟩
  have hbL := sk_le (X := S 514) hpL
  rw [hb] at hbL ⊢
  refine v_aload_n (pc := 4) 0 dX3_next_4 rfl rfl ?_
  refine v_aload_n (pc := 5) 0 dX3_next_5 rfl rfl ?_
  refine gX3_88 (pc := 6) hN dX3_next_6 ?_
  refine v_topi (v := nI b) ((congrFun (s1_at _ _ _) _).trans pk_us) ?_
  refine pX3_94 (pc := 9) hN dX3_next_9 ?_
  refine v_S (s2_s1 _ _ _ _ _) ?_
  refine v_aload_n (pc := 12) 0 dX3_next_12 rfl rfl ?_
  refine gX3_88 (pc := 13) hN dX3_next_13 ?_
  refine v_topi (v := nI b) ((congrFun (s1_at _ _ _) _).trans ((pk_un (by omega)).trans pk_us)) ?_
  refine v_aload_n (pc := 16) 0 dX3_next_16 rfl rfl ?_
  refine gX3_84 (pc := 17) hN dX3_next_17 ?_
  refine v_topi (v := nI L) ((congrFun (s1_at _ _ _) _).trans ((pk_un (by omega)).trans ((pk_un (by omega)).trans hL))) ?_
  refine v_ic_neN (pc := 20) 31 (by omega) (by omega) dX3_next_20 (by decide) (fun c1 => ?_) (fun c1 => ?_)
  · skip
    refine v_aload_n (pc := 31) 0 dX3_next_31 rfl rfl ?_
    refine c_callVi (pc := 32) (st := []) (ci := 3) (ct_X3_isFigure (S := S) (g := upd (upd g 2 (nI b)) 3 (nI b)) (p := b) (L := L) ((pk_un (by omega)).trans pk_us) ((pk_un (by omega)).trans ((pk_un (by omega)).trans hL)) (by omega) (by omega) (by omega)) kVX3_100 kDX3_100 (rm_ok hR (Nat.le_of_ble_eq_true rfl) (Nat.le_of_ble_eq_true rfl)) ⟨Nat.zero_le _, Nat.zero_le _⟩ (by omega) (rfl) rfl rfl rfl rfl (Nat.le_of_ble_eq_true rfl) dX3_next_32 ?_
    refine v_if_eqB (pc := 35) 152 dX3_next_35 (by decide) (fun c2 => ?_) (fun c2 => ?_)
    · skip
      refine v_aload_n (pc := 152) 0 dX3_next_152 rfl rfl ?_
      refine v_aload_n (pc := 153) 0 dX3_next_153 rfl rfl ?_
      refine gX3_7 (pc := 154) hN dX3_next_154 ?_
      refine v_aload_n (pc := 157) 0 dX3_next_157 rfl rfl ?_
      refine gX3_88 (pc := 158) hN dX3_next_158 ?_
      refine v_topi (v := nI b) ((congrFun (s1_at _ _ _) _).trans ((pk_un (by omega)).trans pk_us)) ?_
      refine c_iald (pc := 161) (k := 514) (j := b) IA_514 (by omega) rfl (by omega) (by decide) dX3_next_161 ?_
      refine v_topi (v := S 514 b) (congrFun (s1_ne (by omega)) _) ?_
      refine c_callSi (pc := 162) (st := [.ref (gZ G + 513)]) (ct_X3_isToken (S := s1 S 513 (upd (upd g 2 (nI b)) 3 (nI b))) (c := S 514 b) ) kVX3_107 kDX3_107 (rm_ok hR (Nat.le_of_ble_eq_true rfl) (Nat.le_of_ble_eq_true rfl)) ⟨Nat.zero_le _, Nat.zero_le _⟩ rfl rfl (Nat.le_of_ble_eq_true rfl) dX3_next_162 ?_
      refine v_if_eqB (pc := 165) 180 dX3_next_165 (by decide) (fun c3 => ?_) (fun c3 => ?_)
      · skip
        refine v_bipush (pc := 180) ((-2)) dX3_next_180 (by decide) ?_
        refine pX3_97 (pc := 182) hN dX3_next_182 ?_
        refine v_S (s2_s1 _ _ _ _ _) ?_
        refine v_aload_n (pc := 185) 0 dX3_next_185 rfl rfl ?_
        refine v_dup (pc := 186) dX3_next_186 rfl ?_
        refine gX3_88 (pc := 187) hN dX3_next_187 ?_
        refine v_topi (v := nI b) ((congrFun (s1_at _ _ _) _).trans ((pk_un (by omega)).trans ((pk_un (by omega)).trans pk_us))) ?_
        refine v_iconst (pc := 190) (nI 1) dX3_next_190 (by decide) ?_
        refine v_iaddN (pc := 191) dX3_next_191 ?_
        refine pX3_88 (pc := 192) hN dX3_next_192 ?_
        refine v_S (s2_s1 _ _ _ _ _) ?_
        exact v_vret (pc := 195) hr (Nat.le_refl _) (Nat.le_refl _) dX3_next_195 (pV_mk (hC_c (congrArg (s1 S 513) (by unfold nx tkE tkT tkV; rw [hb, if_neg c1, if_neg c1, if_neg c1, if_neg c2, if_neg c2, if_neg c2, if_neg c3]; exact set4_b))))
      · skip
        refine v_aload_n (pc := 168) 0 dX3_next_168 rfl rfl ?_
        refine gX3_7 (pc := 169) hN dX3_next_169 ?_
        refine v_aload_n (pc := 172) 0 dX3_next_172 rfl rfl ?_
        refine gX3_88 (pc := 173) hN dX3_next_173 ?_
        refine v_topi (v := nI b) ((congrFun (s1_at _ _ _) _).trans ((pk_un (by omega)).trans pk_us)) ?_
        refine c_iald (pc := 176) (k := 514) (j := b) IA_514 (by omega) rfl (by omega) (by decide) dX3_next_176 ?_
        refine v_topi (v := S 514 b) (congrFun (s1_ne (by omega)) _) ?_
        refine v_goto (pc := 177) 182 dX3_next_177 (by decide) ?_
        refine pX3_97 (pc := 182) hN dX3_next_182 ?_
        refine v_S (s2_s1 _ _ _ _ _) ?_
        refine v_aload_n (pc := 185) 0 dX3_next_185 rfl rfl ?_
        refine v_dup (pc := 186) dX3_next_186 rfl ?_
        refine gX3_88 (pc := 187) hN dX3_next_187 ?_
        refine v_topi (v := nI b) ((congrFun (s1_at _ _ _) _).trans ((pk_un (by omega)).trans ((pk_un (by omega)).trans pk_us))) ?_
        refine v_iconst (pc := 190) (nI 1) dX3_next_190 (by decide) ?_
        refine v_iaddN (pc := 191) dX3_next_191 ?_
        refine pX3_88 (pc := 192) hN dX3_next_192 ?_
        refine v_S (s2_s1 _ _ _ _ _) ?_
        exact v_vret (pc := 195) hr (Nat.le_refl _) (Nat.le_refl _) dX3_next_195 (pV_mk (hC_c (congrArg (s1 S 513) (by unfold nx tkE tkT tkV; rw [hb, if_neg c1, if_neg c1, if_neg c1, if_neg c2, if_neg c2, if_neg c2, if_pos c3]; exact set4_b))))
    · skip
      refine v_aload_n (pc := 38) 0 dX3_next_38 rfl rfl ?_
      refine v_iconst (pc := 39) (nI 0) dX3_next_39 (by decide) ?_
      refine pX3_104 (pc := 40) hN dX3_next_40 ?_
      refine v_S (s2_s1 _ _ _ _ _) ?_
      refine v_S (congrArg (s1 S 513) u235) ?_
      have hdl := dg_le (S 514) L (L - b) b 0 (by omega) (by omega)
      refine lp_dg hN hL hL1 hR (L - b) b 0 (by omega) (by omega) ?_
      have hdE : tkD (S 514) L p = dg (S 514) L (L - b) b 0 := by unfold tkD; rw [hb]
      obtain ⟨v, hv⟩ : ∃ v, (dg (S 514) L (L - b) b 0).1 = v := ⟨_, rfl⟩
      obtain ⟨q, hq⟩ : ∃ q, (dg (S 514) L (L - b) b 0).2 = q := ⟨_, rfl⟩
      rw [hv, hq] at hdl ⊢
      refine v_aload_n (pc := 103) 0 dX3_next_103 rfl rfl ?_
      refine v_aload_n (pc := 104) 0 dX3_next_104 rfl rfl ?_
      refine gX3_104 (pc := 105) hN dX3_next_105 ?_
      refine v_topi (v := nI v) ((congrFun (s1_at _ _ _) _).trans ((pk_un (by omega)).trans pk_us)) ?_
      refine v_bipush (pc := 108) (nI 99) dX3_next_108 (by decide) ?_
      refine v_ic_gtN (pc := 110) 140 (by omega) (by omega) dX3_next_110 (by decide) (fun c4 => ?_) (fun c4 => ?_)
      · skip
        refine v_bipush (pc := 140) ((-2)) dX3_next_140 (by decide) ?_
        refine v_goto (pc := 142) 146 dX3_next_142 (by decide) ?_
        refine pX3_97 (pc := 146) hN dX3_next_146 ?_
        refine v_S (s2_s1 _ _ _ _ _) ?_
        refine v_goto (pc := 149) 195 dX3_next_149 (by decide) ?_
        exact v_vret (pc := 195) hr (Nat.le_refl _) (Nat.le_refl _) dX3_next_195 (pV_mk (hC_c (congrArg (s1 S 513) (by unfold nx tkE tkT tkV; rw [hdE, hb, if_neg c1, if_neg c1, if_neg c1, if_pos c2, if_pos c2, if_pos c2, hv, hq, if_pos (Or.inl c4)]; exact set4_c))))
      · skip
        refine v_aload_n (pc := 113) 0 dX3_next_113 rfl rfl ?_
        refine gX3_7 (pc := 114) hN dX3_next_114 ?_
        refine v_aload_n (pc := 117) 0 dX3_next_117 rfl rfl ?_
        refine gX3_94 (pc := 118) hN dX3_next_118 ?_
        refine v_topi (v := nI b) ((congrFun (s1_at _ _ _) _).trans ((pk_un (by omega)).trans ((pk_un (by omega)).trans pk_us))) ?_
        refine c_iald (pc := 121) (k := 514) (j := b) IA_514 (by omega) rfl (by omega) (by decide) dX3_next_121 ?_
        refine v_topi (v := S 514 b) (congrFun (s1_ne (by omega)) _) ?_
        refine v_bipush (pc := 122) (nI 48) dX3_next_122 (by decide) ?_
        refine v_ic_ne (pc := 124) 145 dX3_next_124 (by decide) (fun c5 => ?_) (fun c5 => ?_)
        · skip
          refine v_iconst (pc := 145) (nI 0) dX3_next_145 (by decide) ?_
          refine pX3_97 (pc := 146) hN dX3_next_146 ?_
          refine v_S (s2_s1 _ _ _ _ _) ?_
          refine v_goto (pc := 149) 195 dX3_next_149 (by decide) ?_
          exact v_vret (pc := 195) hr (Nat.le_refl _) (Nat.le_refl _) dX3_next_195 (pV_mk (hC_c (congrArg (s1 S 513) (by unfold nx tkE tkT tkV; rw [hdE, hb, if_neg c1, if_neg c1, if_neg c1, if_pos c2, if_pos c2, if_pos c2, hv, hq, if_neg (fun z => z.elim (fun q => absurd q (by omega)) (fun q => c5 q.1))]; exact set4_c))))
        · skip
          refine v_aload_n (pc := 127) 0 dX3_next_127 rfl rfl ?_
          refine gX3_88 (pc := 128) hN dX3_next_128 ?_
          refine v_topi (v := nI q) ((congrFun (s1_at _ _ _) _).trans pk_us) ?_
          refine v_aload_n (pc := 131) 0 dX3_next_131 rfl rfl ?_
          refine gX3_94 (pc := 132) hN dX3_next_132 ?_
          refine v_topi (v := nI b) ((congrFun (s1_at _ _ _) _).trans ((pk_un (by omega)).trans ((pk_un (by omega)).trans pk_us))) ?_
          refine v_isubN (pc := 135) (by omega) dX3_next_135 ?_
          refine v_iconst (pc := 136) (nI 1) dX3_next_136 (by decide) ?_
          refine v_ic_leN (pc := 137) 145 (by omega) (by omega) dX3_next_137 (by decide) (fun c6 => ?_) (fun c6 => ?_)
          · skip
            refine v_iconst (pc := 145) (nI 0) dX3_next_145 (by decide) ?_
            refine pX3_97 (pc := 146) hN dX3_next_146 ?_
            refine v_S (s2_s1 _ _ _ _ _) ?_
            refine v_goto (pc := 149) 195 dX3_next_149 (by decide) ?_
            exact v_vret (pc := 195) hr (Nat.le_refl _) (Nat.le_refl _) dX3_next_195 (pV_mk (hC_c (congrArg (s1 S 513) (by unfold nx tkE tkT tkV; rw [hdE, hb, if_neg c1, if_neg c1, if_neg c1, if_pos c2, if_pos c2, if_pos c2, hv, hq, if_neg (fun z => z.elim (fun q => absurd q (by omega)) (fun q => absurd q.2 (by omega)))]; exact set4_c))))
          · skip
            refine v_bipush (pc := 140) ((-2)) dX3_next_140 (by decide) ?_
            refine v_goto (pc := 142) 146 dX3_next_142 (by decide) ?_
            refine pX3_97 (pc := 146) hN dX3_next_146 ?_
            refine v_S (s2_s1 _ _ _ _ _) ?_
            refine v_goto (pc := 149) 195 dX3_next_149 (by decide) ?_
            exact v_vret (pc := 195) hr (Nat.le_refl _) (Nat.le_refl _) dX3_next_195 (pV_mk (hC_c (congrArg (s1 S 513) (by unfold nx tkE tkT tkV; rw [hdE, hb, if_neg c1, if_neg c1, if_neg c1, if_pos c2, if_pos c2, if_pos c2, hv, hq, if_pos (Or.inr ⟨c5, c6⟩)]; exact set4_c))))
  · skip
    refine v_aload_n (pc := 23) 0 dX3_next_23 rfl rfl ?_
    refine v_iconst (pc := 24) ((-1)) dX3_next_24 (by decide) ?_
    refine pX3_97 (pc := 25) hN dX3_next_25 ?_
    refine v_S (s2_s1 _ _ _ _ _) ?_
    refine v_goto (pc := 28) 195 dX3_next_28 (by decide) ?_
    exact v_vret (pc := 195) hr (Nat.le_refl _) (Nat.le_refl _) dX3_next_195 (pV_mk (hC_c (congrArg (s1 S 513) (by unfold nx tkE tkT tkV; rw [hb, if_pos c1, if_pos c1, if_pos c1, c1]; exact set4_a))))

