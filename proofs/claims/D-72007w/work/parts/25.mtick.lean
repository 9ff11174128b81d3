set_option maxRecDepth 100000
/-! ScopeTasksModel: tick, copies, starts, goesOn -/
set_option maxHeartbeats 4000000 in
theorem lp_t1 {G : GT} {x : VX} {N : Nat} {Q : State → Prop} {S : ST} {a n : Nat} (ha : RA a) (hS : MI S) (hN : 535 ≤ N) (hn : mN S = n) (hnE : S 513 15 = nI n) (hn8 : n ≤ 8) (hR : xR x = RM 5 0 0) : ∀ (m t : Nat) (g : Nat → Int32), t + m = n → RJ S g → V G x "ScopeTasksModel" cX3_tick 3 Q 62 [(0, .ref (gZ G + 513)), (1, .ref (gZ G + a))] [] N (hC G (s1 S a (rUp (rT1 S) m t g))) 0 0 → V G x "ScopeTasksModel" cX3_tick 3 Q 11 [(2, .int (nI t)), (0, .ref (gZ G + 513)), (1, .ref (gZ G + a))] [] N (hC G (s1 S a g)) 0 0 := by
  have hal := ha.lt
  have hag := ha.ge
  intro m
  induction m with
  | zero =>
    intro t g htm hJ hk
    refine v_iload_n (pc := 11) 0 dX3_tick_11 rfl rfl ?_
    refine v_aload_n (pc := 12) 1 dX3_tick_12 rfl rfl ?_
    refine gX3_142 (pc := 13) hN dX3_tick_13 ?_
    refine v_topi (v := nI n) ((congrFun (s1_ne (by omega)) _).trans hnE) ?_
    refine v_ic_geN (pc := 16) 62 (by omega) (by omega) dX3_tick_16 (by decide) (fun c1 => ?_) (fun c1 => ?_)
    · skip
      refine v_sub (lv' := [(0, .ref (gZ G + 513)), (1, .ref (gZ G + a))]) [1, 2] rfl ?_
      exact hk
    · skip
      exact absurd c1 (by omega)
  | succ m ih =>
    intro t g htm hJ hk
    have hI := hJ.1
    have ht8 : t < 8 := by omega
    refine v_iload_n (pc := 11) 0 dX3_tick_11 rfl rfl ?_
    refine v_aload_n (pc := 12) 1 dX3_tick_12 rfl rfl ?_
    refine gX3_142 (pc := 13) hN dX3_tick_13 ?_
    refine v_topi (v := nI n) ((congrFun (s1_ne (by omega)) _).trans hnE) ?_
    refine v_ic_geN (pc := 16) 62 (by omega) (by omega) dX3_tick_16 (by decide) (fun c1 => ?_) (fun c1 => ?_)
    · skip
      exact absurd c1 (by omega)
    · skip
      refine v_aload_n (pc := 19) 2 dX3_tick_19 rfl rfl ?_
      refine v_iload_n (pc := 20) 0 dX3_tick_20 rfl rfl ?_
      refine v_iconst (pc := 21) (nI 1) dX3_tick_21 (by decide) ?_
      refine c_callSi (pc := 22) (st := []) (ct_X3_isHow (S := S) (a := a) (t := t) (w := nI 1) (g := g) ha (by omega) (by omega)) kVX3_165 kDX3_165 (rm_ok hR (Nat.le_of_ble_eq_true rfl) (Nat.le_of_ble_eq_true rfl)) ⟨Nat.zero_le _, Nat.zero_le _⟩ rfl rfl (Nat.le_of_ble_eq_true rfl) dX3_tick_22 ?_
      refine v_if_eqB (pc := 25) 56 dX3_tick_25 (by decide) (fun c2 => ?_) (fun c2 => ?_)
      · skip
        refine v_iincN (pc := 56) (k := 0) (lv' := [(2, .int (nI (t + 1))), (0, .ref (gZ G + 513)), (1, .ref (gZ G + a))]) dX3_tick_56 rfl (by decide) rfl ?_
        refine v_goto (pc := 59) 11 dX3_tick_59 (by decide) ?_
        refine v_sub (lv' := [(2, .int (nI (t + 1))), (0, .ref (gZ G + 513)), (1, .ref (gZ G + a))]) [0, 1, 2] rfl ?_
        have e1 : rT1 S g t = g := by unfold rT1; rw [if_neg (fun z => c2 z.1)]
        have hJ1 := RJ_rT1 hS hJ (t := t) (by omega)
        rw [rUp, e1] at hk
        rw [e1] at hJ1
        exact ih (t + 1) _ (by omega) hJ1 hk
      · skip
        refine v_aload_n (pc := 28) 2 dX3_tick_28 rfl rfl ?_
        refine v_sipush (pc := 29) (nI 144) dX3_tick_29 (by decide) ?_
        refine c_iald (pc := 32) (k := a) (j := 144) (IA_row ha) (by omega) rfl (by omega) (by decide) dX3_tick_32 ?_
        refine v_topi (v := g 144) (congrFun (s1_at _ _ _) _) ?_
        refine v_aload_n (pc := 33) 2 dX3_tick_33 rfl rfl ?_
        refine v_iload_n (pc := 34) 0 dX3_tick_34 rfl rfl ?_
        refine v_iconst (pc := 35) (nI 4) dX3_tick_35 (by decide) ?_
        refine c_callSi (pc := 36) (st := [.int (g 144)]) (ct_X3_at (S := S) (a := a) (t := t) (w := 4) (g := g) ha (by omega) (by omega)) kVX3_161 kDX3_161 (rm_ok hR (Nat.le_of_ble_eq_true rfl) (Nat.le_of_ble_eq_true rfl)) ⟨Nat.zero_le _, Nat.zero_le _⟩ rfl rfl (Nat.le_of_ble_eq_true rfl) dX3_tick_36 ?_
        refine v_ic_le (pc := 39) 56 dX3_tick_39 (by decide) (fun c3 => ?_) (fun c3 => ?_)
        · skip
          refine v_iincN (pc := 56) (k := 0) (lv' := [(2, .int (nI (t + 1))), (0, .ref (gZ G + 513)), (1, .ref (gZ G + a))]) dX3_tick_56 rfl (by decide) rfl ?_
          refine v_goto (pc := 59) 11 dX3_tick_59 (by decide) ?_
          refine v_sub (lv' := [(2, .int (nI (t + 1))), (0, .ref (gZ G + 513)), (1, .ref (gZ G + a))]) [0, 1, 2] rfl ?_
          have e1 : rT1 S g t = g := by unfold rT1; rw [if_neg (fun z => absurd z.2 (Int32.not_lt.mpr c3))]
          have hJ1 := RJ_rT1 hS hJ (t := t) (by omega)
          rw [rUp, e1] at hk
          rw [e1] at hJ1
          exact ih (t + 1) _ (by omega) hJ1 hk
        · skip
          refine v_aload_n (pc := 42) 2 dX3_tick_42 rfl rfl ?_
          refine v_iload_n (pc := 43) 0 dX3_tick_43 rfl rfl ?_
          refine v_bipush (pc := 44) (nI 10) dX3_tick_44 (by decide) ?_
          refine c_callSv (pc := 46) (st := []) (ct_X3_codes (S := S) (a := a) (t := t) (code := nI 10) (g := g) ha (by omega) (hI.2 t ht8).2 (by omega)) kVX3_187 kDX3_187 (rm_ok hR (Nat.le_of_ble_eq_true rfl) (Nat.le_of_ble_eq_true rfl)) ⟨Nat.zero_le _, Nat.zero_le _⟩ rfl rfl (Nat.le_of_ble_eq_true rfl) dX3_tick_46 ?_
          refine v_aload_n (pc := 49) 1 dX3_tick_49 rfl rfl ?_
          refine v_aload_n (pc := 50) 2 dX3_tick_50 rfl rfl ?_
          refine v_iload_n (pc := 51) 0 dX3_tick_51 rfl rfl ?_
          refine v_iconst (pc := 52) (nI 3) dX3_tick_52 (by decide) ?_
          refine c_callVv (pc := 53) (st := []) (ci := 3) (ct_X3_closes (S := S) (a := a) (t := t) (w := nI 3) (g := rCo g t (nI 10)) ha hS (RI_rCo hI ht8 _) (by omega) (by omega)) kVX3_190 kDX3_190 (rm_ok hR (Nat.le_of_ble_eq_true rfl) (Nat.le_of_ble_eq_true rfl)) ⟨Nat.zero_le _, Nat.zero_le _⟩ (by omega) (rfl) rfl rfl rfl rfl (Nat.le_of_ble_eq_true rfl) dX3_tick_53 ?_
          refine v_iincN (pc := 56) (k := 0) (lv' := [(2, .int (nI (t + 1))), (0, .ref (gZ G + 513)), (1, .ref (gZ G + a))]) dX3_tick_56 rfl (by decide) rfl ?_
          refine v_goto (pc := 59) 11 dX3_tick_59 (by decide) ?_
          refine v_sub (lv' := [(2, .int (nI (t + 1))), (0, .ref (gZ G + 513)), (1, .ref (gZ G + a))]) [0, 1, 2] rfl ?_
          have e1 : rT1 S g t = rClo S (rCo g t (nI 10)) t (nI 3) := by unfold rT1; rw [if_pos ⟨c2, Int32.not_le.mp c3⟩]
          have hJ1 := RJ_rT1 hS hJ (t := t) (by omega)
          rw [rUp, e1] at hk
          rw [e1] at hJ1
          exact ih (t + 1) _ (by omega) hJ1 hk

set_option maxHeartbeats 4000000 in
theorem lp_t2 {G : GT} {x : VX} {N : Nat} {Q : State → Prop} {S : ST} {a n : Nat} (ha : RA a) (hS : MI S) (hN : 535 ≤ N) (hn : mN S = n) (hnE : S 513 15 = nI n) (hn8 : n ≤ 8) (hR : xR x = RM 5 0 0) : ∀ (m t : Nat) (g : Nat → Int32), t + m = n → RJ S g → V G x "ScopeTasksModel" cX3_tick 3 Q 112 [(0, .ref (gZ G + 513)), (1, .ref (gZ G + a))] [] N (hC G (s1 S a (rUp (rT2 S) m t g))) 0 0 → V G x "ScopeTasksModel" cX3_tick 3 Q 64 [(2, .int (nI t)), (0, .ref (gZ G + 513)), (1, .ref (gZ G + a))] [] N (hC G (s1 S a g)) 0 0 := by
  have hal := ha.lt
  have hag := ha.ge
  intro m
  induction m with
  | zero =>
    intro t g htm hJ hk
    refine v_iload_n (pc := 64) 0 dX3_tick_64 rfl rfl ?_
    refine v_aload_n (pc := 65) 1 dX3_tick_65 rfl rfl ?_
    refine gX3_142 (pc := 66) hN dX3_tick_66 ?_
    refine v_topi (v := nI n) ((congrFun (s1_ne (by omega)) _).trans hnE) ?_
    refine v_ic_geN (pc := 69) 112 (by omega) (by omega) dX3_tick_69 (by decide) (fun c1 => ?_) (fun c1 => ?_)
    · skip
      refine v_sub (lv' := [(0, .ref (gZ G + 513)), (1, .ref (gZ G + a))]) [1, 2] rfl ?_
      exact hk
    · skip
      exact absurd c1 (by omega)
  | succ m ih =>
    intro t g htm hJ hk
    have hI := hJ.1
    have ht8 : t < 8 := by omega
    refine v_iload_n (pc := 64) 0 dX3_tick_64 rfl rfl ?_
    refine v_aload_n (pc := 65) 1 dX3_tick_65 rfl rfl ?_
    refine gX3_142 (pc := 66) hN dX3_tick_66 ?_
    refine v_topi (v := nI n) ((congrFun (s1_ne (by omega)) _).trans hnE) ?_
    refine v_ic_geN (pc := 69) 112 (by omega) (by omega) dX3_tick_69 (by decide) (fun c1 => ?_) (fun c1 => ?_)
    · skip
      exact absurd c1 (by omega)
    · skip
      refine v_aload_n (pc := 72) 2 dX3_tick_72 rfl rfl ?_
      refine v_iload_n (pc := 73) 0 dX3_tick_73 rfl rfl ?_
      refine v_iconst (pc := 74) (nI 1) dX3_tick_74 (by decide) ?_
      refine c_callSi (pc := 75) (st := []) (ct_X3_isHow (S := S) (a := a) (t := t) (w := nI 1) (g := g) ha (by omega) (by omega)) kVX3_165 kDX3_165 (rm_ok hR (Nat.le_of_ble_eq_true rfl) (Nat.le_of_ble_eq_true rfl)) ⟨Nat.zero_le _, Nat.zero_le _⟩ rfl rfl (Nat.le_of_ble_eq_true rfl) dX3_tick_75 ?_
      refine v_if_eqB (pc := 78) 106 dX3_tick_78 (by decide) (fun c2 => ?_) (fun c2 => ?_)
      · skip
        refine v_iincN (pc := 106) (k := 0) (lv' := [(2, .int (nI (t + 1))), (0, .ref (gZ G + 513)), (1, .ref (gZ G + a))]) dX3_tick_106 rfl (by decide) rfl ?_
        refine v_goto (pc := 109) 64 dX3_tick_109 (by decide) ?_
        refine v_sub (lv' := [(2, .int (nI (t + 1))), (0, .ref (gZ G + 513)), (1, .ref (gZ G + a))]) [0, 1, 2] rfl ?_
        have e1 : rT2 S g t = g := by unfold rT2; rw [if_neg (fun z => c2 z.1)]
        have hJ1 := RJ_rT2 hS hJ (t := t) (by omega)
        rw [rUp, e1] at hk
        rw [e1] at hJ1
        exact ih (t + 1) _ (by omega) hJ1 hk
      · skip
        refine v_iload_n (pc := 81) 0 dX3_tick_81 rfl rfl ?_
        refine v_if_eqN (pc := 82) 100 (by omega) dX3_tick_82 (by decide) (fun c3 => ?_) (fun c3 => ?_)
        · skip
          refine v_aload_n (pc := 100) 1 dX3_tick_100 rfl rfl ?_
          refine v_aload_n (pc := 101) 2 dX3_tick_101 rfl rfl ?_
          refine v_iload_n (pc := 102) 0 dX3_tick_102 rfl rfl ?_
          refine c_callVv (pc := 103) (st := []) (ci := 3) (ct_X3_moves (S := S) (a := a) (t := t) (g := g) ha hS hI (by omega) (hJ.2 t (by omega)) (by omega)) kVX3_199 kDX3_199 (rm_ok hR (Nat.le_of_ble_eq_true rfl) (Nat.le_of_ble_eq_true rfl)) ⟨Nat.zero_le _, Nat.zero_le _⟩ (by omega) (rfl) rfl rfl rfl rfl (Nat.le_of_ble_eq_true rfl) dX3_tick_103 ?_
          refine v_iincN (pc := 106) (k := 0) (lv' := [(2, .int (nI (t + 1))), (0, .ref (gZ G + 513)), (1, .ref (gZ G + a))]) dX3_tick_106 rfl (by decide) rfl ?_
          refine v_goto (pc := 109) 64 dX3_tick_109 (by decide) ?_
          refine v_sub (lv' := [(2, .int (nI (t + 1))), (0, .ref (gZ G + 513)), (1, .ref (gZ G + a))]) [0, 1, 2] rfl ?_
          have e1 : rT2 S g t = rMv S g t := by unfold rT2; rw [if_pos ⟨c2, Or.inl c3⟩]
          have hJ1 := RJ_rT2 hS hJ (t := t) (by omega)
          rw [rUp, e1] at hk
          rw [e1] at hJ1
          exact ih (t + 1) _ (by omega) hJ1 hk
        · skip
          refine v_aload_n (pc := 85) 2 dX3_tick_85 rfl rfl ?_
          refine v_iload_n (pc := 86) 0 dX3_tick_86 rfl rfl ?_
          refine v_bipush (pc := 87) (nI 7) dX3_tick_87 (by decide) ?_
          refine c_callSi (pc := 89) (st := []) (ct_X3_at (S := S) (a := a) (t := t) (w := 7) (g := g) ha (by omega) (by omega)) kVX3_161 kDX3_161 (rm_ok hR (Nat.le_of_ble_eq_true rfl) (Nat.le_of_ble_eq_true rfl)) ⟨Nat.zero_le _, Nat.zero_le _⟩ rfl rfl (Nat.le_of_ble_eq_true rfl) dX3_tick_89 ?_
          refine v_aload_n (pc := 92) 2 dX3_tick_92 rfl rfl ?_
          refine v_sipush (pc := 93) (nI 144) dX3_tick_93 (by decide) ?_
          refine c_iald (pc := 96) (k := a) (j := 144) (IA_row ha) (by omega) rfl (by omega) (by decide) dX3_tick_96 ?_
          refine v_topi (v := g 144) (congrFun (s1_at _ _ _) _) ?_
          refine v_ic_ge (pc := 97) 106 dX3_tick_97 (by decide) (fun c4 => ?_) (fun c4 => ?_)
          · skip
            refine v_iincN (pc := 106) (k := 0) (lv' := [(2, .int (nI (t + 1))), (0, .ref (gZ G + 513)), (1, .ref (gZ G + a))]) dX3_tick_106 rfl (by decide) rfl ?_
            refine v_goto (pc := 109) 64 dX3_tick_109 (by decide) ?_
            refine v_sub (lv' := [(2, .int (nI (t + 1))), (0, .ref (gZ G + 513)), (1, .ref (gZ G + a))]) [0, 1, 2] rfl ?_
            have e1 : rT2 S g t = g := by unfold rT2; rw [if_neg (fun z => z.2.elim c3 (fun q => absurd q (Int32.not_lt.mpr c4)))]
            have hJ1 := RJ_rT2 hS hJ (t := t) (by omega)
            rw [rUp, e1] at hk
            rw [e1] at hJ1
            exact ih (t + 1) _ (by omega) hJ1 hk
          · skip
            refine v_aload_n (pc := 100) 1 dX3_tick_100 rfl rfl ?_
            refine v_aload_n (pc := 101) 2 dX3_tick_101 rfl rfl ?_
            refine v_iload_n (pc := 102) 0 dX3_tick_102 rfl rfl ?_
            refine c_callVv (pc := 103) (st := []) (ci := 3) (ct_X3_moves (S := S) (a := a) (t := t) (g := g) ha hS hI (by omega) (hJ.2 t (by omega)) (by omega)) kVX3_199 kDX3_199 (rm_ok hR (Nat.le_of_ble_eq_true rfl) (Nat.le_of_ble_eq_true rfl)) ⟨Nat.zero_le _, Nat.zero_le _⟩ (by omega) (rfl) rfl rfl rfl rfl (Nat.le_of_ble_eq_true rfl) dX3_tick_103 ?_
            refine v_iincN (pc := 106) (k := 0) (lv' := [(2, .int (nI (t + 1))), (0, .ref (gZ G + 513)), (1, .ref (gZ G + a))]) dX3_tick_106 rfl (by decide) rfl ?_
            refine v_goto (pc := 109) 64 dX3_tick_109 (by decide) ?_
            refine v_sub (lv' := [(2, .int (nI (t + 1))), (0, .ref (gZ G + 513)), (1, .ref (gZ G + a))]) [0, 1, 2] rfl ?_
            have e1 : rT2 S g t = rMv S g t := by unfold rT2; rw [if_pos ⟨c2, Or.inr (Int32.not_le.mp c4)⟩]
            have hJ1 := RJ_rT2 hS hJ (t := t) (by omega)
            rw [rUp, e1] at hk
            rw [e1] at hJ1
            exact ih (t + 1) _ (by omega) hJ1 hk

set_option maxHeartbeats 4000000 in
theorem lp_t3 {G : GT} {x : VX} {N : Nat} {Q : State → Prop} {S : ST} {a n : Nat} (ha : RA a) (hS : MI S) (hN : 535 ≤ N) (hn : mN S = n) (hn8 : n ≤ 8) (hR : xR x = RM 5 0 0) : ∀ (m : Nat) (g : Nat → Int32), m ≤ n → RJ S g → V G x "ScopeTasksModel" cX3_tick 3 Q 153 [(0, .ref (gZ G + 513)), (1, .ref (gZ G + a))] [] N (hC G (s1 S a (rDn (rT3 S) m g))) 0 0 → V G x "ScopeTasksModel" cX3_tick 3 Q 119 [(2, .int (nI m + Int32.ofInt (-1))), (0, .ref (gZ G + 513)), (1, .ref (gZ G + a))] [] N (hC G (s1 S a g)) 0 0 := by
  have hal := ha.lt
  have hag := ha.ge
  intro m
  induction m with
  | zero =>
    intro g htm hJ hk
    refine v_iload_n (pc := 119) 0 dX3_tick_119 rfl rfl ?_
    refine v_if_lt (pc := 120) 153 dX3_tick_120 (by decide) (fun c1 => ?_) (fun c1 => ?_)
    · skip
      refine v_sub (lv' := [(0, .ref (gZ G + 513)), (1, .ref (gZ G + a))]) [1, 2] rfl ?_
      exact hk
    · skip
      exact absurd c1 (by decide)
  | succ m ih =>
    intro g htm hJ hk
    have hI := hJ.1
    refine v_lv (lv' := [(2, .int (nI m)), (0, .ref (gZ G + 513)), (1, .ref (gZ G + a))]) (by rw [dec1]) ?_
    refine v_iload_n (pc := 119) 0 dX3_tick_119 rfl rfl ?_
    refine v_if_ltN (pc := 120) (by omega) dX3_tick_120 153 (by decide) ?_
    refine v_aload_n (pc := 123) 2 dX3_tick_123 rfl rfl ?_
    refine v_iload_n (pc := 124) 0 dX3_tick_124 rfl rfl ?_
    refine v_iconst (pc := 125) (nI 2) dX3_tick_125 (by decide) ?_
    refine c_callSi (pc := 126) (st := []) (ct_X3_isHow (S := S) (a := a) (t := m) (w := nI 2) (g := g) ha (by omega) (by omega)) kVX3_165 kDX3_165 (rm_ok hR (Nat.le_of_ble_eq_true rfl) (Nat.le_of_ble_eq_true rfl)) ⟨Nat.zero_le _, Nat.zero_le _⟩ rfl rfl (Nat.le_of_ble_eq_true rfl) dX3_tick_126 ?_
    refine v_if_eqB (pc := 129) 147 dX3_tick_129 (by decide) (fun c1 => ?_) (fun c1 => ?_)
    · skip
      refine v_iinc (pc := 147) (k := 0) (lv' := [(2, .int (nI m + Int32.ofInt (-1))), (0, .ref (gZ G + 513)), (1, .ref (gZ G + a))]) dX3_tick_147 rfl rfl (by decide) rfl ?_
      refine v_goto (pc := 150) 119 dX3_tick_150 (by decide) ?_
      refine v_sub (lv' := [(2, .int (nI m + Int32.ofInt (-1))), (0, .ref (gZ G + 513)), (1, .ref (gZ G + a))]) [0, 1, 2] rfl ?_
      have e1 : rT3 S g m = g := by unfold rT3; rw [if_neg (fun z => c1 z.1)]
      have hJ1 := RJ_rT3 hS hJ (t := m) (by omega)
      rw [rDn, e1] at hk
      rw [e1] at hJ1
      exact ih _ (by omega) hJ1 hk
    · skip
      refine v_aload_n (pc := 132) 1 dX3_tick_132 rfl rfl ?_
      refine v_aload_n (pc := 133) 2 dX3_tick_133 rfl rfl ?_
      refine v_iload_n (pc := 134) 0 dX3_tick_134 rfl rfl ?_
      refine c_callVi (pc := 135) (st := []) (ci := 3) (ct_X3_isBusy (S := S) (a := a) (t := nI m) (g := g) ha hS (by omega)) kVX3_183 kDX3_183 (rm_ok hR (Nat.le_of_ble_eq_true rfl) (Nat.le_of_ble_eq_true rfl)) ⟨Nat.zero_le _, Nat.zero_le _⟩ (by omega) (rfl) rfl rfl rfl rfl (Nat.le_of_ble_eq_true rfl) dX3_tick_135 ?_
      refine v_if_neB (pc := 138) 147 dX3_tick_138 (by decide) (fun c2 => ?_) (fun c2 => ?_)
      · skip
        refine v_iinc (pc := 147) (k := 0) (lv' := [(2, .int (nI m + Int32.ofInt (-1))), (0, .ref (gZ G + 513)), (1, .ref (gZ G + a))]) dX3_tick_147 rfl rfl (by decide) rfl ?_
        refine v_goto (pc := 150) 119 dX3_tick_150 (by decide) ?_
        refine v_sub (lv' := [(2, .int (nI m + Int32.ofInt (-1))), (0, .ref (gZ G + 513)), (1, .ref (gZ G + a))]) [0, 1, 2] rfl ?_
        have e1 : rT3 S g m = g := by unfold rT3; rw [if_neg (fun z => z.2 c2)]
        have hJ1 := RJ_rT3 hS hJ (t := m) (by omega)
        rw [rDn, e1] at hk
        rw [e1] at hJ1
        exact ih _ (by omega) hJ1 hk
      · skip
        refine v_aload_n (pc := 141) 1 dX3_tick_141 rfl rfl ?_
        refine v_aload_n (pc := 142) 2 dX3_tick_142 rfl rfl ?_
        refine v_iload_n (pc := 143) 0 dX3_tick_143 rfl rfl ?_
        refine c_callVv (pc := 144) (st := []) (ci := 3) (ct_X3_cleansUp (S := S) (a := a) (t := m) (g := g) ha hS hI (by omega) (by omega)) kVX3_202 kDX3_202 (rm_ok hR (Nat.le_of_ble_eq_true rfl) (Nat.le_of_ble_eq_true rfl)) ⟨Nat.zero_le _, Nat.zero_le _⟩ (by omega) (rfl) rfl rfl rfl rfl (Nat.le_of_ble_eq_true rfl) dX3_tick_144 ?_
        refine v_iinc (pc := 147) (k := 0) (lv' := [(2, .int (nI m + Int32.ofInt (-1))), (0, .ref (gZ G + 513)), (1, .ref (gZ G + a))]) dX3_tick_147 rfl rfl (by decide) rfl ?_
        refine v_goto (pc := 150) 119 dX3_tick_150 (by decide) ?_
        refine v_sub (lv' := [(2, .int (nI m + Int32.ofInt (-1))), (0, .ref (gZ G + 513)), (1, .ref (gZ G + a))]) [0, 1, 2] rfl ?_
        have e1 : rT3 S g m = rCl S g m := by unfold rT3; rw [if_pos ⟨c1, c2⟩]
        have hJ1 := RJ_rT3 hS hJ (t := m) (by omega)
        rw [rDn, e1] at hk
        rw [e1] at hJ1
        exact ih _ (by omega) hJ1 hk

set_option maxHeartbeats 4000000 in
theorem ct_X3_tick {G : GT} {l : Launch} {N : Nat} {S : ST} {g : Nat → Int32} {a : Nat} (ha : RA a) (hS : MI S) (hJ : RJ S g) (hN : 535 ≤ N) : CTv G l yX3_tick cX3_tick 3 none 5 [.ref (gZ G + 513), .ref (gZ G + a)] N (s1 S a g) (s1 S a (rTick S g)) := by
  have hal := ha.lt
  have hag := ha.ge
  have hn8 := hS.n
  have hn1 := hS.2.1
  have hnE := hS.1.1
  obtain ⟨n, hn⟩ : ∃ n, mN S = n := ⟨_, rfl⟩
  rw [hn] at hn8 hn1
  rw [show nn (S 513 15) = n from hn] at hnE
  refine CT.mk "ScopeTasksModel" [(0, .ref (gZ G + 513)), (1, .ref (gZ G + a))] rfl (by decide) rfl (Nat.le_of_ble_eq_true rfl) ?_
  intro x hR hl hr hnm
  refine v_aload_n (pc := 0) 1 dX3_tick_0 rfl rfl ?_
  refine v_sipush (pc := 1) (nI 144) dX3_tick_1 (by decide) ?_
  refine v_dup2 (pc := 4) dX3_tick_4 rfl rfl ?_
  refine c_iald (pc := 5) (k := a) (j := 144) (IA_row ha) (by omega) rfl (by omega) (by decide) dX3_tick_5 ?_
  refine v_topi (v := g 144) (congrFun (s1_at _ _ _) _) ?_
  refine v_iconst (pc := 6) (nI 1) dX3_tick_6 (by decide) ?_
  refine v_iadd (pc := 7) dX3_tick_7 ?_
  refine c_iast (pc := 8) (k := a) (j := 144) (IA_row ha) (by omega) rfl (by omega) (by decide) dX3_tick_8 ?_
  refine v_S (s2_s1 _ _ _ _ _) ?_
  refine v_iconst (pc := 9) (nI 0) dX3_tick_9 (by decide) ?_
  refine v_istore_n (pc := 10) (lv' := [(2, .int (nI 0)), (0, .ref (gZ G + 513)), (1, .ref (gZ G + a))]) dX3_tick_10 rfl (by decide) rfl ?_
  refine v_sub (lv' := [(2, .int (nI 0)), (0, .ref (gZ G + 513)), (1, .ref (gZ G + a))]) [0, 1, 2] rfl ?_
  have hJ0 := RJ_144 hS hJ (g 144 + nI 1)
  refine lp_t1 ha hS hN hn hnE hn8 hR n 0 _ (by omega) hJ0 ?_
  have hJ1 := RJ_rUp (S := S) (f := rT1 S) (fun g t ht h => RJ_rT1 hS h ht) n 0 _ (by omega) hJ0
  have e : rTick S g = rDn (rT3 S) n (rUp (rT2 S) n 0 (rUp (rT1 S) n 0 (upd g 144 (g 144 + nI 1)))) := by rw [rTick, hn]
  rw [e]
  generalize rUp (rT1 S) n 0 (upd g 144 (g 144 + nI 1)) = g1 at hJ1 ⊢
  refine v_iconst (pc := 62) (nI 0) dX3_tick_62 (by decide) ?_
  refine v_istore_n (pc := 63) (lv' := [(2, .int (nI 0)), (0, .ref (gZ G + 513)), (1, .ref (gZ G + a))]) dX3_tick_63 rfl (by decide) rfl ?_
  refine v_sub (lv' := [(2, .int (nI 0)), (0, .ref (gZ G + 513)), (1, .ref (gZ G + a))]) [0, 1, 2] rfl ?_
  refine lp_t2 ha hS hN hn hnE hn8 hR n 0 _ (by omega) hJ1 ?_
  have hJ2 := RJ_rUp (S := S) (f := rT2 S) (fun g t ht h => RJ_rT2 hS h ht) n 0 _ (by omega) hJ1
  generalize rUp (rT2 S) n 0 g1 = g2 at hJ2 ⊢
  refine v_aload_n (pc := 112) 0 dX3_tick_112 rfl rfl ?_
  refine gX3_142 (pc := 113) hN dX3_tick_113 ?_
  refine v_topi (v := nI n) ((congrFun (s1_ne (by omega)) _).trans hnE) ?_
  refine v_iconst (pc := 116) (nI 1) dX3_tick_116 (by decide) ?_
  refine v_isubN (pc := 117) (by omega) dX3_tick_117 ?_
  refine v_istore_n (pc := 118) (lv' := [(2, .int (nI (n - 1))), (0, .ref (gZ G + 513)), (1, .ref (gZ G + a))]) dX3_tick_118 rfl (by decide) rfl ?_
  refine v_sub (lv' := [(2, .int (nI (n - 1))), (0, .ref (gZ G + 513)), (1, .ref (gZ G + a))]) [0, 1, 2] rfl ?_
  refine v_lv (lv' := [(2, .int (nI n + Int32.ofInt (-1))), (0, .ref (gZ G + 513)), (1, .ref (gZ G + a))]) (by rw [show nI n + Int32.ofInt (-1) = nI (n - 1) from by rw [show n = (n - 1) + 1 by omega, dec1]; rfl]) ?_
  refine lp_t3 ha hS hN hn hn8 hR n _ (Nat.le_refl _) hJ2 ?_
  exact v_vret (pc := 153) hr (Nat.le_refl _) (Nat.le_refl _) dX3_tick_153 (pV_mk rfl)

set_option maxHeartbeats 4000000 in
theorem lp_cp {G : GT} {x : VX} {N : Nat} {S : ST} (hN : 535 ≤ N) (hr : (xM x).sig.returnType = none) : ∀ (m k : Nat) (g : Nat → Int32), k + m = 326 → (∀ j, j < k → g j = S 527 j) → V G x "ScopeTasksModel" cX3_copies 3 (QQ G x (pV N (fun h' => h' = hC G (s1 S 528 (S 527)))) 0 0) 2 [(2, .int (nI k)), (0, .ref (gZ G + 527)), (1, .ref (gZ G + 528))] [] N (hC G (s1 S 528 g)) 0 0 := by
  intro m
  induction m with
  | zero =>
    intro k g hkm hg
    refine v_iload_n (pc := 2) 0 dX3_copies_2 rfl rfl ?_
    refine v_sipush (pc := 3) (nI 326) dX3_copies_3 (by decide) ?_
    refine v_ic_geN (pc := 6) 21 (by omega) (by omega) dX3_copies_6 (by decide) (fun c1 => ?_) (fun c1 => ?_)
    · skip
      refine v_row (g := S 527) IA_528 (fun j hj => hg j (by omega)) ?_
      exact v_vret (pc := 21) hr (Nat.le_refl _) (Nat.le_refl _) dX3_copies_21 (pV_mk rfl)
    · skip
      exact absurd c1 (by omega)
  | succ m ih =>
    intro k g hkm hg
    refine v_iload_n (pc := 2) 0 dX3_copies_2 rfl rfl ?_
    refine v_sipush (pc := 3) (nI 326) dX3_copies_3 (by decide) ?_
    refine v_ic_geN (pc := 6) 21 (by omega) (by omega) dX3_copies_6 (by decide) (fun c1 => ?_) (fun c1 => ?_)
    · skip
      exact absurd c1 (by omega)
    · skip
      refine v_aload_n (pc := 9) 2 dX3_copies_9 rfl rfl ?_
      refine v_iload_n (pc := 10) 0 dX3_copies_10 rfl rfl ?_
      refine v_aload_n (pc := 11) 1 dX3_copies_11 rfl rfl ?_
      refine v_iload_n (pc := 12) 0 dX3_copies_12 rfl rfl ?_
      refine c_iald (pc := 13) (k := 527) (j := k) IA_527 (by omega) rfl (by omega) (by decide) dX3_copies_13 ?_
      refine v_topi (v := S 527 k) (congrFun (s1_ne (by omega)) _) ?_
      refine c_iast (pc := 14) (k := 528) (j := k) IA_528 (by omega) rfl (by omega) (by decide) dX3_copies_14 ?_
      refine v_S (s2_s1 _ _ _ _ _) ?_
      refine v_iincN (pc := 15) (k := 0) (lv' := [(2, .int (nI (k + 1))), (0, .ref (gZ G + 527)), (1, .ref (gZ G + 528))]) dX3_copies_15 rfl (by decide) rfl ?_
      refine v_goto (pc := 18) 2 dX3_copies_18 (by decide) ?_
      refine v_sub (lv' := [(2, .int (nI (k + 1))), (0, .ref (gZ G + 527)), (1, .ref (gZ G + 528))]) [0, 1, 2] rfl ?_
      exact ih (k + 1) _ (by omega) (fun j hj => (Nat.lt_or_ge j k).elim (fun z => (pk_un (by omega)).trans (hg j z)) (fun z => by rw [show j = k by omega, pk_us]))

set_option maxHeartbeats 4000000 in
theorem ct_X3_copies {G : GT} {l : Launch} {N : Nat} {S : ST} {g : Nat → Int32}  (hN : 535 ≤ N) : CTv G l yX3_copies cX3_copies 3 none 0 [.ref (gZ G + 527), .ref (gZ G + 528)] N (s1 S 528 g) (s1 S 528 (S 527)) := by
  refine CT.mk "ScopeTasksModel" [(0, .ref (gZ G + 527)), (1, .ref (gZ G + 528))] rfl (by decide) rfl (Nat.le_of_ble_eq_true rfl) ?_
  intro x hR hl hr hnm
  refine v_iconst (pc := 0) (nI 0) dX3_copies_0 (by decide) ?_
  refine v_istore_n (pc := 1) (lv' := [(2, .int (nI 0)), (0, .ref (gZ G + 527)), (1, .ref (gZ G + 528))]) dX3_copies_1 rfl (by decide) rfl ?_
  refine v_sub (lv' := [(2, .int (nI 0)), (0, .ref (gZ G + 527)), (1, .ref (gZ G + 528))]) [0, 1, 2] rfl ?_
  exact lp_cp hN hr 326 0 g (by omega) (fun j hj => absurd hj (by omega))

set_option maxHeartbeats 4000000 in
theorem lp_st1 {G : GT} {x : VX} {N : Nat} {Q : State → Prop} {S : ST} {a : Nat} (ha : RA a) (hN : 535 ≤ N) : ∀ (m k : Nat) (g : Nat → Int32), k + m = 326 → (∀ j, j < k → g j = nI 0) → V G x "ScopeTasksModel" cX3_starts 3 Q 19 [(0, .ref (gZ G + 513)), (1, .ref (gZ G + a))] [] N (hC G (s1 S a (fun _ => nI 0))) 0 0 → V G x "ScopeTasksModel" cX3_starts 3 Q 2 [(2, .int (nI k)), (0, .ref (gZ G + 513)), (1, .ref (gZ G + a))] [] N (hC G (s1 S a g)) 0 0 := by
  have hal := ha.lt
  have hag := ha.ge
  intro m
  induction m with
  | zero =>
    intro k g hkm hg hk
    refine v_iload_n (pc := 2) 0 dX3_starts_2 rfl rfl ?_
    refine v_sipush (pc := 3) (nI 326) dX3_starts_3 (by decide) ?_
    refine v_ic_geN (pc := 6) 19 (by omega) (by omega) dX3_starts_6 (by decide) (fun c1 => ?_) (fun c1 => ?_)
    · skip
      refine v_sub (lv' := [(0, .ref (gZ G + 513)), (1, .ref (gZ G + a))]) [1, 2] rfl ?_
      refine v_row (g := fun _ => nI 0) (IA_row ha) (fun j hj => hg j (by omega)) ?_
      exact hk
    · skip
      exact absurd c1 (by omega)
  | succ m ih =>
    intro k g hkm hg hk
    refine v_iload_n (pc := 2) 0 dX3_starts_2 rfl rfl ?_
    refine v_sipush (pc := 3) (nI 326) dX3_starts_3 (by decide) ?_
    refine v_ic_geN (pc := 6) 19 (by omega) (by omega) dX3_starts_6 (by decide) (fun c1 => ?_) (fun c1 => ?_)
    · skip
      exact absurd c1 (by omega)
    · skip
      refine v_aload_n (pc := 9) 2 dX3_starts_9 rfl rfl ?_
      refine v_iload_n (pc := 10) 0 dX3_starts_10 rfl rfl ?_
      refine v_iconst (pc := 11) (nI 0) dX3_starts_11 (by decide) ?_
      refine c_iast (pc := 12) (k := a) (j := k) (IA_row ha) (by omega) rfl (by omega) (by decide) dX3_starts_12 ?_
      refine v_S (s2_s1 _ _ _ _ _) ?_
      refine v_iincN (pc := 13) (k := 0) (lv' := [(2, .int (nI (k + 1))), (0, .ref (gZ G + 513)), (1, .ref (gZ G + a))]) dX3_starts_13 rfl (by decide) rfl ?_
      refine v_goto (pc := 16) 2 dX3_starts_16 (by decide) ?_
      refine v_sub (lv' := [(2, .int (nI (k + 1))), (0, .ref (gZ G + 513)), (1, .ref (gZ G + a))]) [0, 1, 2] rfl ?_
      exact ih (k + 1) _ (by omega) (fun j hj => (Nat.lt_or_ge j k).elim (fun z => (pk_un (by omega)).trans (hg j z)) (fun z => by rw [show j = k by omega, pk_us])) hk

set_option maxHeartbeats 4000000 in
theorem lp_st2 {G : GT} {x : VX} {N : Nat} {Q : State → Prop} {S : ST} {a : Nat} (ha : RA a) (hN : 535 ≤ N) : ∀ (m t : Nat) (g : Nat → Int32), t + m = 8 → V G x "ScopeTasksModel" cX3_starts 3 Q 54 [(0, .ref (gZ G + 513)), (1, .ref (gZ G + a))] [] N (hC G (s1 S a (rStL m t g))) 0 0 → V G x "ScopeTasksModel" cX3_starts 3 Q 21 [(2, .int (nI t)), (0, .ref (gZ G + 513)), (1, .ref (gZ G + a))] [] N (hC G (s1 S a g)) 0 0 := by
  have hal := ha.lt
  have hag := ha.ge
  intro m
  induction m with
  | zero =>
    intro t g htm hk
    refine v_iload_n (pc := 21) 0 dX3_starts_21 rfl rfl ?_
    refine v_bipush (pc := 22) (nI 8) dX3_starts_22 (by decide) ?_
    refine v_ic_geN (pc := 24) 54 (by omega) (by omega) dX3_starts_24 (by decide) (fun c1 => ?_) (fun c1 => ?_)
    · skip
      refine v_sub (lv' := [(0, .ref (gZ G + 513)), (1, .ref (gZ G + a))]) [1, 2] rfl ?_
      exact hk
    · skip
      exact absurd c1 (by omega)
  | succ m ih =>
    intro t g htm hk
    refine v_iload_n (pc := 21) 0 dX3_starts_21 rfl rfl ?_
    refine v_bipush (pc := 22) (nI 8) dX3_starts_22 (by decide) ?_
    refine v_ic_geN (pc := 24) 54 (by omega) (by omega) dX3_starts_24 (by decide) (fun c1 => ?_) (fun c1 => ?_)
    · skip
      exact absurd c1 (by omega)
    · skip
      refine v_aload_n (pc := 27) 2 dX3_starts_27 rfl rfl ?_
      refine v_bipush (pc := 28) (nI 18) dX3_starts_28 (by decide) ?_
      refine v_iload_n (pc := 30) 0 dX3_starts_30 rfl rfl ?_
      refine v_imulN (pc := 31) dX3_starts_31 ?_
      refine v_iconst (pc := 32) (nI 1) dX3_starts_32 (by decide) ?_
      refine v_iaddN (pc := 33) dX3_starts_33 ?_
      refine v_bipush (pc := 34) ((-9)) dX3_starts_34 (by decide) ?_
      refine c_iast (pc := 36) (k := a) (j := 18 * t + 1) (IA_row ha) (by omega) rfl (by omega) (by decide) dX3_starts_36 ?_
      refine v_S (s2_s1 _ _ _ _ _) ?_
      refine v_aload_n (pc := 37) 2 dX3_starts_37 rfl rfl ?_
      refine v_bipush (pc := 38) (nI 18) dX3_starts_38 (by decide) ?_
      refine v_iload_n (pc := 40) 0 dX3_starts_40 rfl rfl ?_
      refine v_imulN (pc := 41) dX3_starts_41 ?_
      refine v_bipush (pc := 42) (nI 8) dX3_starts_42 (by decide) ?_
      refine v_iaddN (pc := 44) dX3_starts_44 ?_
      refine v_bipush (pc := 45) ((-9)) dX3_starts_45 (by decide) ?_
      refine c_iast (pc := 47) (k := a) (j := 18 * t + 8) (IA_row ha) (by omega) rfl (by omega) (by decide) dX3_starts_47 ?_
      refine v_S (s2_s1 _ _ _ _ _) ?_
      refine v_iincN (pc := 48) (k := 0) (lv' := [(2, .int (nI (t + 1))), (0, .ref (gZ G + 513)), (1, .ref (gZ G + a))]) dX3_starts_48 rfl (by decide) rfl ?_
      refine v_goto (pc := 51) 21 dX3_starts_51 (by decide) ?_
      refine v_sub (lv' := [(2, .int (nI (t + 1))), (0, .ref (gZ G + 513)), (1, .ref (gZ G + a))]) [0, 1, 2] rfl ?_
      exact ih (t + 1) _ (by omega) hk

set_option maxHeartbeats 4000000 in
theorem ct_X3_starts {G : GT} {l : Launch} {N : Nat} {S : ST} {g : Nat → Int32} {a : Nat} (ha : RA a) (hN : 535 ≤ N) : CTv G l yX3_starts cX3_starts 3 none 0 [.ref (gZ G + 513), .ref (gZ G + a)] N (s1 S a g) (s1 S a (rSt S)) := by
  have hal := ha.lt
  have hag := ha.ge
  refine CT.mk "ScopeTasksModel" [(0, .ref (gZ G + 513)), (1, .ref (gZ G + a))] rfl (by decide) rfl (Nat.le_of_ble_eq_true rfl) ?_
  intro x hR hl hr hnm
  refine v_iconst (pc := 0) (nI 0) dX3_starts_0 (by decide) ?_
  refine v_istore_n (pc := 1) (lv' := [(2, .int (nI 0)), (0, .ref (gZ G + 513)), (1, .ref (gZ G + a))]) dX3_starts_1 rfl (by decide) rfl ?_
  refine v_sub (lv' := [(2, .int (nI 0)), (0, .ref (gZ G + 513)), (1, .ref (gZ G + a))]) [0, 1, 2] rfl ?_
  refine lp_st1 ha hN 326 0 g (by omega) (fun j hj => absurd hj (by omega)) ?_
  refine v_iconst (pc := 19) (nI 0) dX3_starts_19 (by decide) ?_
  refine v_istore_n (pc := 20) (lv' := [(2, .int (nI 0)), (0, .ref (gZ G + 513)), (1, .ref (gZ G + a))]) dX3_starts_20 rfl (by decide) rfl ?_
  refine v_sub (lv' := [(2, .int (nI 0)), (0, .ref (gZ G + 513)), (1, .ref (gZ G + a))]) [0, 1, 2] rfl ?_
  refine lp_st2 ha hN 8 0 _ (by omega) ?_
  refine v_aload_n (pc := 54) 1 dX3_starts_54 rfl rfl ?_
  refine v_iconst (pc := 55) (nI 0) dX3_starts_55 (by decide) ?_
  refine v_iconst (pc := 56) (nI 1) dX3_starts_56 (by decide) ?_
  refine c_iast (pc := 57) (k := a) (j := 0) (IA_row ha) (by omega) rfl (by omega) (by decide) dX3_starts_57 ?_
  refine v_S (s2_s1 _ _ _ _ _) ?_
  refine v_aload_n (pc := 58) 1 dX3_starts_58 rfl rfl ?_
  refine v_iconst (pc := 59) (nI 4) dX3_starts_59 (by decide) ?_
  refine v_aload_n (pc := 60) 0 dX3_starts_60 rfl rfl ?_
  refine gX3_40 (pc := 61) hN dX3_starts_61 ?_
  refine v_iconst (pc := 64) (nI 0) dX3_starts_64 (by decide) ?_
  refine c_iald (pc := 65) (k := 524) (j := 0) IA_524 (by omega) rfl (by omega) (by decide) dX3_starts_65 ?_
  refine v_topi (v := S 524 0) (congrFun (s1_ne (by omega)) _) ?_
  refine v_bipush (pc := 66) (nI 99) dX3_starts_66 (by decide) ?_
  refine v_ic_ne (pc := 68) 77 dX3_starts_68 (by decide) (fun c1 => ?_) (fun c1 => ?_)
  · skip
    refine v_aload_n (pc := 77) 0 dX3_starts_77 rfl rfl ?_
    refine gX3_40 (pc := 78) hN dX3_starts_78 ?_
    refine v_iconst (pc := 81) (nI 0) dX3_starts_81 (by decide) ?_
    refine c_iald (pc := 82) (k := 524) (j := 0) IA_524 (by omega) rfl (by omega) (by decide) dX3_starts_82 ?_
    refine v_topi (v := S 524 0) (congrFun (s1_ne (by omega)) _) ?_
    refine c_iast (pc := 83) (k := a) (j := 4) (IA_row ha) (by omega) rfl (by omega) (by decide) dX3_starts_83 ?_
    refine v_S (s2_s1 _ _ _ _ _) ?_
    exact v_vret (pc := 84) hr (Nat.le_refl _) (Nat.le_refl _) dX3_starts_84 (pV_mk (hC_c (congrArg (s1 S a) (by unfold rSt; rw [if_neg c1]))))
  · skip
    refine v_sipush (pc := 71) (nI 9999) dX3_starts_71 (by decide) ?_
    refine v_goto (pc := 74) 83 dX3_starts_74 (by decide) ?_
    refine c_iast (pc := 83) (k := a) (j := 4) (IA_row ha) (by omega) rfl (by omega) (by decide) dX3_starts_83 ?_
    refine v_S (s2_s1 _ _ _ _ _) ?_
    exact v_vret (pc := 84) hr (Nat.le_refl _) (Nat.le_refl _) dX3_starts_84 (pV_mk (hC_c (congrArg (s1 S a) (by unfold rSt; rw [if_pos c1]))))

set_option maxHeartbeats 4000000 in
theorem lp_go {G : GT} {x : VX} {N : Nat} {S : ST} {w : Nat} (hS : MI S) (hN : 535 ≤ N) (hw : w < 2000) (hR : xR x = RM 6 0 0) (hr : (xM x).sig.returnType = none) : ∀ (m k : Nat) (g : Nat → Int32), k + m = w → RJ S g → V G x "ScopeTasksModel" cX3_goesOn 3 (QQ G x (pV N (fun h' => h' = hC G (s1 S 528 (rGo S m g)))) 0 0) 2 [(2, .int (nI k)), (0, .ref (gZ G + 513)), (1, .int (nI w))] [] N (hC G (s1 S 528 g)) 0 0 := by
  intro m
  induction m with
  | zero =>
    intro k g hkm hJ
    refine v_iload_n (pc := 2) 0 dX3_goesOn_2 rfl rfl ?_
    refine v_iload_n (pc := 3) 2 dX3_goesOn_3 rfl rfl ?_
    refine v_ic_geN (pc := 4) 33 (by omega) (by omega) dX3_goesOn_4 (by decide) (fun c1 => ?_) (fun c1 => ?_)
    · skip
      exact v_vret (pc := 33) hr (Nat.le_refl _) (Nat.le_refl _) dX3_goesOn_33 (pV_mk rfl)
    · skip
      exact absurd c1 (by omega)
  | succ m ih =>
    intro k g hkm hJ
    refine v_iload_n (pc := 2) 0 dX3_goesOn_2 rfl rfl ?_
    refine v_iload_n (pc := 3) 2 dX3_goesOn_3 rfl rfl ?_
    refine v_ic_geN (pc := 4) 33 (by omega) (by omega) dX3_goesOn_4 (by decide) (fun c1 => ?_) (fun c1 => ?_)
    · skip
      exact absurd c1 (by omega)
    · skip
      refine v_aload_n (pc := 7) 1 dX3_goesOn_7 rfl rfl ?_
      refine gX3_52 (pc := 8) hN dX3_goesOn_8 ?_
      refine v_iconst (pc := 11) (nI 0) dX3_goesOn_11 (by decide) ?_
      refine v_iconst (pc := 12) (nI 3) dX3_goesOn_12 (by decide) ?_
      refine c_callSi (pc := 13) (st := []) (ct_X3_isHow (S := S) (a := 528) (t := 0) (w := nI 3) (g := g) (Or.inr rfl) (by omega) (by omega)) kVX3_165 kDX3_165 (rm_ok hR (Nat.le_of_ble_eq_true rfl) (Nat.le_of_ble_eq_true rfl)) ⟨Nat.zero_le _, Nat.zero_le _⟩ rfl rfl (Nat.le_of_ble_eq_true rfl) dX3_goesOn_13 ?_
      refine v_if_neB (pc := 16) 33 dX3_goesOn_16 (by decide) (fun c2 => ?_) (fun c2 => ?_)
      · skip
        exact v_vret (pc := 33) hr (Nat.le_refl _) (Nat.le_refl _) dX3_goesOn_33 (pV_mk (hC_c (congrArg (s1 S 528) (by rw [rGo, if_pos c2]))))
      · skip
        refine v_aload_n (pc := 19) 1 dX3_goesOn_19 rfl rfl ?_
        refine v_aload_n (pc := 20) 1 dX3_goesOn_20 rfl rfl ?_
        refine gX3_52 (pc := 21) hN dX3_goesOn_21 ?_
        refine c_callVv (pc := 24) (st := []) (ci := 3) (ct_X3_tick (S := S) (a := 528) (g := g) (Or.inr rfl) hS hJ (by omega)) kVX3_211 kDX3_211 (rm_ok hR (Nat.le_of_ble_eq_true rfl) (Nat.le_of_ble_eq_true rfl)) ⟨Nat.zero_le _, Nat.zero_le _⟩ (by omega) (rfl) rfl rfl rfl rfl (Nat.le_of_ble_eq_true rfl) dX3_goesOn_24 ?_
        refine v_iincN (pc := 27) (k := 0) (lv' := [(2, .int (nI (k + 1))), (0, .ref (gZ G + 513)), (1, .int (nI w))]) dX3_goesOn_27 rfl (by decide) rfl ?_
        refine v_goto (pc := 30) 2 dX3_goesOn_30 (by decide) ?_
        refine v_sub (lv' := [(2, .int (nI (k + 1))), (0, .ref (gZ G + 513)), (1, .int (nI w))]) [0, 1, 2] rfl ?_
        rw [show rGo S (m + 1) g = rGo S m (rTick S g) from by rw [rGo, if_neg c2]]
        exact ih (k + 1) _ (by omega) (RJ_rTick hS hJ)

set_option maxHeartbeats 4000000 in
theorem ct_X3_goesOn {G : GT} {l : Launch} {N : Nat} {S : ST} {g : Nat → Int32} {w : Nat} (hS : MI S) (hJ : RJ S g) (hw : w < 2000) (hN : 535 ≤ N) : CTv G l yX3_goesOn cX3_goesOn 3 none 6 [.ref (gZ G + 513), .int (nI w)] N (s1 S 528 g) (s1 S 528 (rGo S w g)) := by
  refine CT.mk "ScopeTasksModel" [(0, .ref (gZ G + 513)), (1, .int (nI w))] rfl (by decide) rfl (Nat.le_of_ble_eq_true rfl) ?_
  intro x hR hl hr hnm
  refine v_iconst (pc := 0) (nI 0) dX3_goesOn_0 (by decide) ?_
  refine v_istore_n (pc := 1) (lv' := [(2, .int (nI 0)), (0, .ref (gZ G + 513)), (1, .int (nI w))]) dX3_goesOn_1 rfl (by decide) rfl ?_
  refine v_sub (lv' := [(2, .int (nI 0)), (0, .ref (gZ G + 513)), (1, .int (nI w))]) [0, 1, 2] rfl ?_
  exact lp_go hS hN hw hR hr w 0 g (by omega) hJ

