set_option maxRecDepth 100000
/-! ScopeTasksModel: walks of the methods over a row -/
set_option maxHeartbeats 4000000 in
theorem lp_asks {G : GT} {x : VX} {N : Nat} {Q : State → Prop} {S : ST} {a n : Nat} {t : Int32} (ha : RA a) (hN : 535 ≤ N) (hnE : S 513 15 = nI n) (hn8 : n ≤ 8) (hR : xR x = RM 1 0 0) : ∀ (m c : Nat) (g : Nat → Int32), c + m = n → 1 ≤ c → V G x "ScopeTasksModel" cX3_asksChildren 4 Q 44 [(0, .ref (gZ G + 513)), (1, .ref (gZ G + a)), (2, .int (t))] [] N (hC G (s1 S a (rAskL (S 521) t m c g))) 0 0 → V G x "ScopeTasksModel" cX3_asksChildren 4 Q 2 [(3, .int (nI c)), (0, .ref (gZ G + 513)), (1, .ref (gZ G + a)), (2, .int (t))] [] N (hC G (s1 S a g)) 0 0 := by
  have hal := ha.lt
  have hag := ha.ge
  intro m
  induction m with
  | zero =>
    intro c g hcm hc1 hk
    refine v_iload_n (pc := 2) 0 dX3_asksChildren_2 rfl rfl ?_
    refine v_aload_n (pc := 3) 1 dX3_asksChildren_3 rfl rfl ?_
    refine gX3_142 (pc := 4) hN dX3_asksChildren_4 ?_
    refine v_topi (v := nI n) ((congrFun (s1_ne (by omega)) _).trans hnE) ?_
    refine v_ic_geN (pc := 7) 44 (by omega) (by omega) dX3_asksChildren_7 (by decide) (fun c1 => ?_) (fun c1 => ?_)
    · skip
      refine v_sub (lv' := [(0, .ref (gZ G + 513)), (1, .ref (gZ G + a)), (2, .int (t))]) [1, 2, 3] rfl ?_
      exact hk
    · skip
      exact absurd c1 (by omega)
  | succ m ih =>
    intro c g hcm hc1 hk
    refine v_iload_n (pc := 2) 0 dX3_asksChildren_2 rfl rfl ?_
    refine v_aload_n (pc := 3) 1 dX3_asksChildren_3 rfl rfl ?_
    refine gX3_142 (pc := 4) hN dX3_asksChildren_4 ?_
    refine v_topi (v := nI n) ((congrFun (s1_ne (by omega)) _).trans hnE) ?_
    refine v_ic_geN (pc := 7) 44 (by omega) (by omega) dX3_asksChildren_7 (by decide) (fun c1 => ?_) (fun c1 => ?_)
    · skip
      exact absurd c1 (by omega)
    · skip
      refine v_aload_n (pc := 10) 1 dX3_asksChildren_10 rfl rfl ?_
      refine gX3_31 (pc := 11) hN dX3_asksChildren_11 ?_
      refine v_iload_n (pc := 14) 0 dX3_asksChildren_14 rfl rfl ?_
      refine c_iald (pc := 15) (k := 521) (j := c) IA_521 (by omega) rfl (by omega) (by decide) dX3_asksChildren_15 ?_
      refine v_topi (v := S 521 c) (congrFun (s1_ne (by omega)) _) ?_
      refine v_iload_n (pc := 16) 3 dX3_asksChildren_16 rfl rfl ?_
      refine v_ic_ne (pc := 17) 38 dX3_asksChildren_17 (by decide) (fun c2 => ?_) (fun c2 => ?_)
      · skip
        refine v_iincN (pc := 38) (k := 0) (lv' := [(3, .int (nI (c + 1))), (0, .ref (gZ G + 513)), (1, .ref (gZ G + a)), (2, .int (t))]) dX3_asksChildren_38 rfl (by decide) rfl ?_
        refine v_goto (pc := 41) 2 dX3_asksChildren_41 (by decide) ?_
        rw [rAskL_f (fun z => c2 z.1)] at hk
        refine v_sub (lv' := [(3, .int (nI (c + 1))), (0, .ref (gZ G + 513)), (1, .ref (gZ G + a)), (2, .int (t))]) [0, 1, 2, 3] rfl ?_
        exact ih (c + 1) _ (by omega) (by omega) hk
      · skip
        refine v_aload_n (pc := 20) 2 dX3_asksChildren_20 rfl rfl ?_
        refine v_iload_n (pc := 21) 0 dX3_asksChildren_21 rfl rfl ?_
        refine v_iconst (pc := 22) (nI 1) dX3_asksChildren_22 (by decide) ?_
        refine c_callSi (pc := 23) (st := []) (ct_X3_isHow (S := S) (a := a) (t := c) (w := nI 1) (g := g) ha (by omega) (by omega)) kVX3_165 kDX3_165 (rm_ok hR (Nat.le_of_ble_eq_true rfl) (Nat.le_of_ble_eq_true rfl)) ⟨Nat.zero_le _, Nat.zero_le _⟩ rfl rfl (Nat.le_of_ble_eq_true rfl) dX3_asksChildren_23 ?_
        refine v_if_eqB (pc := 26) 38 dX3_asksChildren_26 (by decide) (fun c3 => ?_) (fun c3 => ?_)
        · skip
          refine v_iincN (pc := 38) (k := 0) (lv' := [(3, .int (nI (c + 1))), (0, .ref (gZ G + 513)), (1, .ref (gZ G + a)), (2, .int (t))]) dX3_asksChildren_38 rfl (by decide) rfl ?_
          refine v_goto (pc := 41) 2 dX3_asksChildren_41 (by decide) ?_
          rw [rAskL_f (fun z => c3 z.2)] at hk
          refine v_sub (lv' := [(3, .int (nI (c + 1))), (0, .ref (gZ G + 513)), (1, .ref (gZ G + a)), (2, .int (t))]) [0, 1, 2, 3] rfl ?_
          exact ih (c + 1) _ (by omega) (by omega) hk
        · skip
          refine v_aload_n (pc := 29) 2 dX3_asksChildren_29 rfl rfl ?_
          refine v_bipush (pc := 30) (nI 18) dX3_asksChildren_30 (by decide) ?_
          refine v_iload_n (pc := 32) 0 dX3_asksChildren_32 rfl rfl ?_
          refine v_imulN (pc := 33) dX3_asksChildren_33 ?_
          refine v_iconst (pc := 34) (nI 5) dX3_asksChildren_34 (by decide) ?_
          refine v_iaddN (pc := 35) dX3_asksChildren_35 ?_
          refine v_iconst (pc := 36) (nI 1) dX3_asksChildren_36 (by decide) ?_
          refine c_iast (pc := 37) (k := a) (j := 18 * c + 5) (IA_row ha) (by omega) rfl (by omega) (by decide) dX3_asksChildren_37 ?_
          refine v_S (s2_s1 _ _ _ _ _) ?_
          refine v_iincN (pc := 38) (k := 0) (lv' := [(3, .int (nI (c + 1))), (0, .ref (gZ G + 513)), (1, .ref (gZ G + a)), (2, .int (t))]) dX3_asksChildren_38 rfl (by decide) rfl ?_
          refine v_goto (pc := 41) 2 dX3_asksChildren_41 (by decide) ?_
          rw [rAskL_t ⟨c2, c3⟩] at hk
          refine v_sub (lv' := [(3, .int (nI (c + 1))), (0, .ref (gZ G + 513)), (1, .ref (gZ G + a)), (2, .int (t))]) [0, 1, 2, 3] rfl ?_
          exact ih (c + 1) _ (by omega) (by omega) hk

set_option maxHeartbeats 4000000 in
theorem ct_X3_asksChildren {G : GT} {l : Launch} {N : Nat} {S : ST} {g : Nat → Int32} {a : Nat} {t : Int32} (ha : RA a) (hS : MI S) (hN : 535 ≤ N) : CTv G l yX3_asksChildren cX3_asksChildren 4 none 1 [.ref (gZ G + 513), .ref (gZ G + a), .int (t)] N (s1 S a g) (s1 S a (rAsk S t g)) := by
  have hal := ha.lt
  have hag := ha.ge
  have hn8 := hS.n
  have hn1 := hS.2.1
  have hnE := hS.1.1
  obtain ⟨n, hn⟩ : ∃ n, mN S = n := ⟨_, rfl⟩
  rw [hn] at hn8 hn1
  rw [show nn (S 513 15) = n from hn] at hnE
  refine CT.mk "ScopeTasksModel" [(0, .ref (gZ G + 513)), (1, .ref (gZ G + a)), (2, .int (t))] rfl (by decide) rfl (Nat.le_of_ble_eq_true rfl) ?_
  intro x hR hl hr hnm
  refine v_iconst (pc := 0) (nI 1) dX3_asksChildren_0 (by decide) ?_
  refine v_istore_n (pc := 1) (lv' := [(3, .int (nI 1)), (0, .ref (gZ G + 513)), (1, .ref (gZ G + a)), (2, .int (t))]) dX3_asksChildren_1 rfl (by decide) rfl ?_
  refine v_sub (lv' := [(3, .int (nI 1)), (0, .ref (gZ G + 513)), (1, .ref (gZ G + a)), (2, .int (t))]) [0, 1, 2, 3] rfl ?_
  refine lp_asks ha hN hnE hn8 hR (n - 1) 1 g (by omega) (by omega) ?_
  exact v_vret (pc := 44) hr (Nat.le_refl _) (Nat.le_refl _) dX3_asksChildren_44 (pV_mk (hC_c (by rw [rAsk, hn])))

set_option maxHeartbeats 4000000 in
theorem ct_X3_closes {G : GT} {l : Launch} {N : Nat} {S : ST} {g : Nat → Int32} {a t : Nat} {w : Int32} (ha : RA a) (hS : MI S) (hI : RI g) (ht : t < 8) (hN : 535 ≤ N) : CTv G l yX3_closes cX3_closes 5 none 2 [.ref (gZ G + 513), .ref (gZ G + a), .int (nI t), .int (w)] N (s1 S a g) (s1 S a (rClo S g t w)) := by
  have hal := ha.lt
  have hag := ha.ge
  have hn8 := hS.n
  have hn1 := hS.2.1
  have h9 := (hI.2 t ht).2.1
  have h98 := (hI.2 t ht).2.2
  generalize hk : nn (g (18 * t + 9)) = k at h9 h98
  refine CT.mk "ScopeTasksModel" [(0, .ref (gZ G + 513)), (1, .ref (gZ G + a)), (2, .int (nI t)), (3, .int (w))] rfl (by decide) rfl (Nat.le_of_ble_eq_true rfl) ?_
  intro x hR hl hr hnm
  refine v_aload_n (pc := 0) 1 dX3_closes_0 rfl rfl ?_
  refine v_iload_n (pc := 1) 2 dX3_closes_1 rfl rfl ?_
  refine v_bipush (pc := 2) (nI 9) dX3_closes_2 (by decide) ?_
  refine c_callSi (pc := 4) (st := []) (ct_X3_at (S := S) (a := a) (t := t) (w := 9) (g := g) ha (by omega) (by omega)) kVX3_161 kDX3_161 (rm_ok hR (Nat.le_of_ble_eq_true rfl) (Nat.le_of_ble_eq_true rfl)) ⟨Nat.zero_le _, Nat.zero_le _⟩ rfl rfl (Nat.le_of_ble_eq_true rfl) dX3_closes_4 ?_
  refine v_topi (v := nI k) h9 ?_
  refine v_if_leN (pc := 7) 14 (by omega) dX3_closes_7 (by decide) (fun c1 => ?_) (fun c1 => ?_)
  · skip
    refine v_iconst (pc := 14) (nI 0) dX3_closes_14 (by decide) ?_
    refine v_istore (pc := 15) (lv' := [(4, .int (nI 0)), (0, .ref (gZ G + 513)), (1, .ref (gZ G + a)), (2, .int (nI t)), (3, .int (w))]) dX3_closes_15 (by decide) rfl ?_
    refine v_aload_n (pc := 17) 2 dX3_closes_17 rfl rfl ?_
    refine v_bipush (pc := 18) (nI 18) dX3_closes_18 (by decide) ?_
    refine v_iload_n (pc := 20) 3 dX3_closes_20 rfl rfl ?_
    refine v_imulN (pc := 21) dX3_closes_21 ?_
    refine v_iconst (pc := 22) (nI 0) dX3_closes_22 (by decide) ?_
    refine v_iaddN (pc := 23) dX3_closes_23 ?_
    refine v_iconst (pc := 24) (nI 2) dX3_closes_24 (by decide) ?_
    refine c_iast (pc := 25) (k := a) (j := 18 * t) (IA_row ha) (by omega) rfl (by omega) (by decide) dX3_closes_25 ?_
    refine v_S (s2_s1 _ _ _ _ _) ?_
    refine v_aload_n (pc := 26) 2 dX3_closes_26 rfl rfl ?_
    refine v_bipush (pc := 27) (nI 18) dX3_closes_27 (by decide) ?_
    refine v_iload_n (pc := 29) 3 dX3_closes_29 rfl rfl ?_
    refine v_imulN (pc := 30) dX3_closes_30 ?_
    refine v_iconst (pc := 31) (nI 1) dX3_closes_31 (by decide) ?_
    refine v_iaddN (pc := 32) dX3_closes_32 ?_
    refine v_iload_n (pc := 33) 4 dX3_closes_33 rfl rfl ?_
    refine v_if_ne (pc := 34) 46 dX3_closes_34 (by decide) (fun c2 => ?_) (fun c2 => ?_)
    · skip
      refine v_iload_n (pc := 46) 4 dX3_closes_46 rfl rfl ?_
      refine c_iast (pc := 47) (k := a) (j := 18 * t + 1) (IA_row ha) (by omega) rfl (by omega) (by decide) dX3_closes_47 ?_
      refine v_S (s2_s1 _ _ _ _ _) ?_
      refine v_iload_n (pc := 48) 4 dX3_closes_48 rfl rfl ?_
      refine v_if_ne (pc := 49) 57 dX3_closes_49 (by decide) (fun _ => ?_) (fun h => absurd h c2)
      refine v_aload_n (pc := 57) 1 dX3_closes_57 rfl rfl ?_
      refine v_aload_n (pc := 58) 2 dX3_closes_58 rfl rfl ?_
      refine v_iload_n (pc := 59) 3 dX3_closes_59 rfl rfl ?_
      refine c_callVv (pc := 60) (st := []) (ci := 3) (ct_X3_asksChildren (S := S) (a := a) (t := nI t) (g := upd (upd g (18 * t) (nI 2)) (18 * t + 1) w) ha (by omega) (by omega)) kVX3_169 kDX3_169 (rm_ok hR (Nat.le_of_ble_eq_true rfl) (Nat.le_of_ble_eq_true rfl)) ⟨Nat.zero_le _, Nat.zero_le _⟩ (by omega) (rfl) rfl rfl rfl rfl (Nat.le_of_ble_eq_true rfl) dX3_closes_60 ?_
      refine v_aload_n (pc := 63) 2 dX3_closes_63 rfl rfl ?_
      refine v_iload_n (pc := 64) 3 dX3_closes_64 rfl rfl ?_
      refine v_iconst (pc := 65) (nI 1) dX3_closes_65 (by decide) ?_
      refine c_callSv (pc := 66) (st := []) (ct_X3_traces (S := S) (a := a) (t := nI t) (w := nI 1) (g := rAsk S (nI t) (upd (upd g (18 * t) (nI 2)) (18 * t + 1) w)) ha (by rw [rAsk, rAskL_ne _ _ _ (fun c' _ h2 => by omega), pk_un (by omega), pk_un (by omega)]; exact hI.1) (by omega)) kVX3_173 kDX3_173 (rm_ok hR (Nat.le_of_ble_eq_true rfl) (Nat.le_of_ble_eq_true rfl)) ⟨Nat.zero_le _, Nat.zero_le _⟩ rfl rfl (Nat.le_of_ble_eq_true rfl) dX3_closes_66 ?_
      exact v_vret (pc := 69) hr (Nat.le_refl _) (Nat.le_refl _) dX3_closes_69 (pV_mk (hC_c (congrArg (s1 S a) (by unfold rClo; rw [hk]; rw [if_neg (fun z => c2 z.1), if_neg c2]))))
    · skip
      refine v_iload (pc := 37) 0 dX3_closes_37 rfl ?_
      refine v_if_eqN (pc := 39) 46 (by omega) dX3_closes_39 (by decide) (fun _ => ?_) (fun h => absurd h (by decide))
      refine v_iload_n (pc := 46) 4 dX3_closes_46 rfl rfl ?_
      refine c_iast (pc := 47) (k := a) (j := 18 * t + 1) (IA_row ha) (by omega) rfl (by omega) (by decide) dX3_closes_47 ?_
      refine v_S (s2_s1 _ _ _ _ _) ?_
      refine v_iload_n (pc := 48) 4 dX3_closes_48 rfl rfl ?_
      refine v_if_ne (pc := 49) 57 dX3_closes_49 (by decide) (fun h => absurd c2 h) (fun _ => ?_)
      refine v_iload (pc := 52) 0 dX3_closes_52 rfl ?_
      refine v_if_eqN (pc := 54) 63 (by omega) dX3_closes_54 (by decide) (fun _ => ?_) (fun h => absurd h (by decide))
      refine v_aload_n (pc := 63) 2 dX3_closes_63 rfl rfl ?_
      refine v_iload_n (pc := 64) 3 dX3_closes_64 rfl rfl ?_
      refine v_iconst (pc := 65) (nI 1) dX3_closes_65 (by decide) ?_
      refine c_callSv (pc := 66) (st := []) (ct_X3_traces (S := S) (a := a) (t := nI t) (w := nI 1) (g := upd (upd g (18 * t) (nI 2)) (18 * t + 1) w) ha (by rw [pk_un (by omega), pk_un (by omega)]; exact hI.1) (by omega)) kVX3_173 kDX3_173 (rm_ok hR (Nat.le_of_ble_eq_true rfl) (Nat.le_of_ble_eq_true rfl)) ⟨Nat.zero_le _, Nat.zero_le _⟩ rfl rfl (Nat.le_of_ble_eq_true rfl) dX3_closes_66 ?_
      exact v_vret (pc := 69) hr (Nat.le_refl _) (Nat.le_refl _) dX3_closes_69 (pV_mk (hC_c (congrArg (s1 S a) (by unfold rClo; rw [hk]; rw [if_pos ⟨c2, c1⟩]))))
  · skip
    refine v_iconst (pc := 10) (nI 1) dX3_closes_10 (by decide) ?_
    refine v_goto (pc := 11) 15 dX3_closes_11 (by decide) ?_
    refine v_istore (pc := 15) (lv' := [(4, .int (nI 1)), (0, .ref (gZ G + 513)), (1, .ref (gZ G + a)), (2, .int (nI t)), (3, .int (w))]) dX3_closes_15 (by decide) rfl ?_
    refine v_aload_n (pc := 17) 2 dX3_closes_17 rfl rfl ?_
    refine v_bipush (pc := 18) (nI 18) dX3_closes_18 (by decide) ?_
    refine v_iload_n (pc := 20) 3 dX3_closes_20 rfl rfl ?_
    refine v_imulN (pc := 21) dX3_closes_21 ?_
    refine v_iconst (pc := 22) (nI 0) dX3_closes_22 (by decide) ?_
    refine v_iaddN (pc := 23) dX3_closes_23 ?_
    refine v_iconst (pc := 24) (nI 2) dX3_closes_24 (by decide) ?_
    refine c_iast (pc := 25) (k := a) (j := 18 * t) (IA_row ha) (by omega) rfl (by omega) (by decide) dX3_closes_25 ?_
    refine v_S (s2_s1 _ _ _ _ _) ?_
    refine v_aload_n (pc := 26) 2 dX3_closes_26 rfl rfl ?_
    refine v_bipush (pc := 27) (nI 18) dX3_closes_27 (by decide) ?_
    refine v_iload_n (pc := 29) 3 dX3_closes_29 rfl rfl ?_
    refine v_imulN (pc := 30) dX3_closes_30 ?_
    refine v_iconst (pc := 31) (nI 1) dX3_closes_31 (by decide) ?_
    refine v_iaddN (pc := 32) dX3_closes_32 ?_
    refine v_iload_n (pc := 33) 4 dX3_closes_33 rfl rfl ?_
    refine v_if_ne (pc := 34) 46 dX3_closes_34 (by decide) (fun c3 => ?_) (fun c3 => ?_)
    · skip
      refine v_iload_n (pc := 46) 4 dX3_closes_46 rfl rfl ?_
      refine c_iast (pc := 47) (k := a) (j := 18 * t + 1) (IA_row ha) (by omega) rfl (by omega) (by decide) dX3_closes_47 ?_
      refine v_S (s2_s1 _ _ _ _ _) ?_
      refine v_iload_n (pc := 48) 4 dX3_closes_48 rfl rfl ?_
      refine v_if_ne (pc := 49) 57 dX3_closes_49 (by decide) (fun _ => ?_) (fun h => absurd h c3)
      refine v_aload_n (pc := 57) 1 dX3_closes_57 rfl rfl ?_
      refine v_aload_n (pc := 58) 2 dX3_closes_58 rfl rfl ?_
      refine v_iload_n (pc := 59) 3 dX3_closes_59 rfl rfl ?_
      refine c_callVv (pc := 60) (st := []) (ci := 3) (ct_X3_asksChildren (S := S) (a := a) (t := nI t) (g := upd (upd g (18 * t) (nI 2)) (18 * t + 1) w) ha (by omega) (by omega)) kVX3_169 kDX3_169 (rm_ok hR (Nat.le_of_ble_eq_true rfl) (Nat.le_of_ble_eq_true rfl)) ⟨Nat.zero_le _, Nat.zero_le _⟩ (by omega) (rfl) rfl rfl rfl rfl (Nat.le_of_ble_eq_true rfl) dX3_closes_60 ?_
      refine v_aload_n (pc := 63) 2 dX3_closes_63 rfl rfl ?_
      refine v_iload_n (pc := 64) 3 dX3_closes_64 rfl rfl ?_
      refine v_iconst (pc := 65) (nI 1) dX3_closes_65 (by decide) ?_
      refine c_callSv (pc := 66) (st := []) (ct_X3_traces (S := S) (a := a) (t := nI t) (w := nI 1) (g := rAsk S (nI t) (upd (upd g (18 * t) (nI 2)) (18 * t + 1) w)) ha (by rw [rAsk, rAskL_ne _ _ _ (fun c' _ h2 => by omega), pk_un (by omega), pk_un (by omega)]; exact hI.1) (by omega)) kVX3_173 kDX3_173 (rm_ok hR (Nat.le_of_ble_eq_true rfl) (Nat.le_of_ble_eq_true rfl)) ⟨Nat.zero_le _, Nat.zero_le _⟩ rfl rfl (Nat.le_of_ble_eq_true rfl) dX3_closes_66 ?_
      exact v_vret (pc := 69) hr (Nat.le_refl _) (Nat.le_refl _) dX3_closes_69 (pV_mk (hC_c (congrArg (s1 S a) (by unfold rClo; rw [hk]; rw [if_neg (fun z => c3 z.1), if_neg c3]))))
    · skip
      refine v_iload (pc := 37) 0 dX3_closes_37 rfl ?_
      refine v_if_eqN (pc := 39) 46 (by omega) dX3_closes_39 (by decide) (fun h => absurd h (by decide)) (fun _ => ?_)
      refine v_iconst (pc := 42) (nI 1) dX3_closes_42 (by decide) ?_
      refine v_goto (pc := 43) 47 dX3_closes_43 (by decide) ?_
      refine c_iast (pc := 47) (k := a) (j := 18 * t + 1) (IA_row ha) (by omega) rfl (by omega) (by decide) dX3_closes_47 ?_
      refine v_S (s2_s1 _ _ _ _ _) ?_
      refine v_iload_n (pc := 48) 4 dX3_closes_48 rfl rfl ?_
      refine v_if_ne (pc := 49) 57 dX3_closes_49 (by decide) (fun h => absurd c3 h) (fun _ => ?_)
      refine v_iload (pc := 52) 0 dX3_closes_52 rfl ?_
      refine v_if_eqN (pc := 54) 63 (by omega) dX3_closes_54 (by decide) (fun h => absurd h (by decide)) (fun _ => ?_)
      refine v_aload_n (pc := 57) 1 dX3_closes_57 rfl rfl ?_
      refine v_aload_n (pc := 58) 2 dX3_closes_58 rfl rfl ?_
      refine v_iload_n (pc := 59) 3 dX3_closes_59 rfl rfl ?_
      refine c_callVv (pc := 60) (st := []) (ci := 3) (ct_X3_asksChildren (S := S) (a := a) (t := nI t) (g := upd (upd g (18 * t) (nI 2)) (18 * t + 1) (nI 1)) ha (by omega) (by omega)) kVX3_169 kDX3_169 (rm_ok hR (Nat.le_of_ble_eq_true rfl) (Nat.le_of_ble_eq_true rfl)) ⟨Nat.zero_le _, Nat.zero_le _⟩ (by omega) (rfl) rfl rfl rfl rfl (Nat.le_of_ble_eq_true rfl) dX3_closes_60 ?_
      refine v_aload_n (pc := 63) 2 dX3_closes_63 rfl rfl ?_
      refine v_iload_n (pc := 64) 3 dX3_closes_64 rfl rfl ?_
      refine v_iconst (pc := 65) (nI 1) dX3_closes_65 (by decide) ?_
      refine c_callSv (pc := 66) (st := []) (ct_X3_traces (S := S) (a := a) (t := nI t) (w := nI 1) (g := rAsk S (nI t) (upd (upd g (18 * t) (nI 2)) (18 * t + 1) (nI 1))) ha (by rw [rAsk, rAskL_ne _ _ _ (fun c' _ h2 => by omega), pk_un (by omega), pk_un (by omega)]; exact hI.1) (by omega)) kVX3_173 kDX3_173 (rm_ok hR (Nat.le_of_ble_eq_true rfl) (Nat.le_of_ble_eq_true rfl)) ⟨Nat.zero_le _, Nat.zero_le _⟩ rfl rfl (Nat.le_of_ble_eq_true rfl) dX3_closes_66 ?_
      exact v_vret (pc := 69) hr (Nat.le_refl _) (Nat.le_refl _) dX3_closes_69 (pV_mk (hC_c (congrArg (s1 S a) (by unfold rClo; rw [hk]; rw [if_neg (fun z => absurd z.2 (by omega)), if_pos c3]))))

set_option maxHeartbeats 4000000 in
theorem ct_X3_begin {G : GT} {l : Launch} {N : Nat} {S : ST} {g : Nat → Int32} {a t : Nat} (ha : RA a) (hS : MI S) (hI : RI g) (h0 : 0 < t) (ht : t < mN S) (hN : 535 ≤ N) : CTv G l yX3_begin cX3_begin 5 none 1 [.ref (gZ G + 513), .ref (gZ G + a), .int (nI t)] N (s1 S a g) (s1 S a (rBeg S g t)) := by
  have hal := ha.lt
  have hag := ha.ge
  have hpp := hS.2.2.1 t h0 ht
  have hn8 := hS.n
  have hp1 := hpp.1.1
  have hp2 := hpp.2
  generalize hp : nn (S 521 t) = p at hp1 hp2
  refine CT.mk "ScopeTasksModel" [(0, .ref (gZ G + 513)), (1, .ref (gZ G + a)), (2, .int (nI t))] rfl (by decide) rfl (Nat.le_of_ble_eq_true rfl) ?_
  intro x hR hl hr hnm
  refine v_aload_n (pc := 0) 0 dX3_begin_0 rfl rfl ?_
  refine gX3_40 (pc := 1) hN dX3_begin_1 ?_
  refine v_iload_n (pc := 4) 2 dX3_begin_4 rfl rfl ?_
  refine c_iald (pc := 5) (k := 524) (j := t) IA_524 (by omega) rfl (by omega) (by decide) dX3_begin_5 ?_
  refine v_topi (v := S 524 t) (congrFun (s1_ne (by omega)) _) ?_
  refine v_bipush (pc := 6) (nI 99) dX3_begin_6 (by decide) ?_
  refine v_ic_ne (pc := 8) 17 dX3_begin_8 (by decide) (fun c1 => ?_) (fun c1 => ?_)
  · skip
    refine v_aload_n (pc := 17) 1 dX3_begin_17 rfl rfl ?_
    refine v_sipush (pc := 18) (nI 144) dX3_begin_18 (by decide) ?_
    refine c_iald (pc := 21) (k := a) (j := 144) (IA_row ha) (by omega) rfl (by omega) (by decide) dX3_begin_21 ?_
    refine v_topi (v := g 144) (congrFun (s1_at _ _ _) _) ?_
    refine v_aload_n (pc := 22) 0 dX3_begin_22 rfl rfl ?_
    refine gX3_40 (pc := 23) hN dX3_begin_23 ?_
    refine v_iload_n (pc := 26) 2 dX3_begin_26 rfl rfl ?_
    refine c_iald (pc := 27) (k := 524) (j := t) IA_524 (by omega) rfl (by omega) (by decide) dX3_begin_27 ?_
    refine v_topi (v := S 524 t) (congrFun (s1_ne (by omega)) _) ?_
    refine v_iadd (pc := 28) dX3_begin_28 ?_
    refine v_istore_n (pc := 29) (lv' := [(3, .int ((g 144) + (S 524 t))), (0, .ref (gZ G + 513)), (1, .ref (gZ G + a)), (2, .int (nI t))]) dX3_begin_29 rfl (by decide) rfl ?_
    refine v_aload_n (pc := 30) 2 dX3_begin_30 rfl rfl ?_
    refine v_aload_n (pc := 31) 1 dX3_begin_31 rfl rfl ?_
    refine gX3_31 (pc := 32) hN dX3_begin_32 ?_
    refine v_iload_n (pc := 35) 3 dX3_begin_35 rfl rfl ?_
    refine c_iald (pc := 36) (k := 521) (j := t) IA_521 (by omega) rfl (by omega) (by decide) dX3_begin_36 ?_
    refine v_topi (v := nI p) ((congrFun (s1_ne (by omega)) _).trans hp1) ?_
    refine v_iconst (pc := 37) (nI 4) dX3_begin_37 (by decide) ?_
    refine c_callSi (pc := 38) (st := []) (ct_X3_at (S := S) (a := a) (t := p) (w := 4) (g := g) ha (by omega) (by omega)) kVX3_161 kDX3_161 (rm_ok hR (Nat.le_of_ble_eq_true rfl) (Nat.le_of_ble_eq_true rfl)) ⟨Nat.zero_le _, Nat.zero_le _⟩ rfl rfl (Nat.le_of_ble_eq_true rfl) dX3_begin_38 ?_
    refine v_istore (pc := 41) (lv' := [(4, .int (g (18 * p + 4))), (3, .int ((g 144) + (S 524 t))), (0, .ref (gZ G + 513)), (1, .ref (gZ G + a)), (2, .int (nI t))]) dX3_begin_41 (by decide) rfl ?_
    refine v_aload_n (pc := 43) 3 dX3_begin_43 rfl rfl ?_
    refine v_bipush (pc := 44) (nI 18) dX3_begin_44 (by decide) ?_
    refine v_iload_n (pc := 46) 4 dX3_begin_46 rfl rfl ?_
    refine v_imulN (pc := 47) dX3_begin_47 ?_
    refine v_iconst (pc := 48) (nI 0) dX3_begin_48 (by decide) ?_
    refine v_iaddN (pc := 49) dX3_begin_49 ?_
    refine v_iconst (pc := 50) (nI 1) dX3_begin_50 (by decide) ?_
    refine c_iast (pc := 51) (k := a) (j := 18 * t) (IA_row ha) (by omega) rfl (by omega) (by decide) dX3_begin_51 ?_
    refine v_S (s2_s1 _ _ _ _ _) ?_
    refine v_aload_n (pc := 52) 3 dX3_begin_52 rfl rfl ?_
    refine v_bipush (pc := 53) (nI 18) dX3_begin_53 (by decide) ?_
    refine v_iload_n (pc := 55) 4 dX3_begin_55 rfl rfl ?_
    refine v_imulN (pc := 56) dX3_begin_56 ?_
    refine v_iconst (pc := 57) (nI 4) dX3_begin_57 (by decide) ?_
    refine v_iaddN (pc := 58) dX3_begin_58 ?_
    refine v_iload_n (pc := 59) 1 dX3_begin_59 rfl rfl ?_
    refine v_iload (pc := 60) 0 dX3_begin_60 rfl ?_
    refine v_ic_ge (pc := 62) 69 dX3_begin_62 (by decide) (fun c2 => ?_) (fun c2 => ?_)
    · skip
      refine v_iload (pc := 69) 0 dX3_begin_69 rfl ?_
      refine c_iast (pc := 71) (k := a) (j := 18 * t + 4) (IA_row ha) (by omega) rfl (by omega) (by decide) dX3_begin_71 ?_
      refine v_S (s2_s1 _ _ _ _ _) ?_
      refine v_aload_n (pc := 72) 3 dX3_begin_72 rfl rfl ?_
      refine v_bipush (pc := 73) (nI 18) dX3_begin_73 (by decide) ?_
      refine v_iload_n (pc := 75) 4 dX3_begin_75 rfl rfl ?_
      refine v_imulN (pc := 76) dX3_begin_76 ?_
      refine v_bipush (pc := 77) (nI 7) dX3_begin_77 (by decide) ?_
      refine v_iaddN (pc := 79) dX3_begin_79 ?_
      refine v_aload_n (pc := 80) 3 dX3_begin_80 rfl rfl ?_
      refine v_sipush (pc := 81) (nI 144) dX3_begin_81 (by decide) ?_
      refine c_iald (pc := 84) (k := a) (j := 144) (IA_row ha) (by omega) rfl (by omega) (by decide) dX3_begin_84 ?_
      refine v_topi (v := g 144) ((congrFun (s1_at _ _ _) _).trans ((pk_un (by omega)).trans (pk_un (by omega)))) ?_
      refine c_iast (pc := 85) (k := a) (j := 18 * t + 7) (IA_row ha) (by omega) rfl (by omega) (by decide) dX3_begin_85 ?_
      refine v_S (s2_s1 _ _ _ _ _) ?_
      refine v_aload_n (pc := 86) 3 dX3_begin_86 rfl rfl ?_
      refine v_iload_n (pc := 87) 4 dX3_begin_87 rfl rfl ?_
      refine v_iconst (pc := 88) (nI 0) dX3_begin_88 (by decide) ?_
      refine c_callSv (pc := 89) (st := []) (ct_X3_traces (S := S) (a := a) (t := nI t) (w := nI 0) (g := upd (upd (upd g (18 * t) (nI 1)) (18 * t + 4) (g (18 * p + 4))) (18 * t + 7) (g 144)) ha (by rw [pk_un (by omega), pk_un (by omega), pk_un (by omega)]; exact hI.1) (by omega)) kVX3_173 kDX3_173 (rm_ok hR (Nat.le_of_ble_eq_true rfl) (Nat.le_of_ble_eq_true rfl)) ⟨Nat.zero_le _, Nat.zero_le _⟩ rfl rfl (Nat.le_of_ble_eq_true rfl) dX3_begin_89 ?_
      exact v_vret (pc := 92) hr (Nat.le_refl _) (Nat.le_refl _) dX3_begin_92 (pV_mk (hC_c (congrArg (s1 S a) (by unfold rBeg; simp only [hp, if_neg c1]; rw [if_neg (Int32.not_lt.mpr c2)]))))
    · skip
      refine v_iload_n (pc := 65) 1 dX3_begin_65 rfl rfl ?_
      refine v_goto (pc := 66) 71 dX3_begin_66 (by decide) ?_
      refine c_iast (pc := 71) (k := a) (j := 18 * t + 4) (IA_row ha) (by omega) rfl (by omega) (by decide) dX3_begin_71 ?_
      refine v_S (s2_s1 _ _ _ _ _) ?_
      refine v_aload_n (pc := 72) 3 dX3_begin_72 rfl rfl ?_
      refine v_bipush (pc := 73) (nI 18) dX3_begin_73 (by decide) ?_
      refine v_iload_n (pc := 75) 4 dX3_begin_75 rfl rfl ?_
      refine v_imulN (pc := 76) dX3_begin_76 ?_
      refine v_bipush (pc := 77) (nI 7) dX3_begin_77 (by decide) ?_
      refine v_iaddN (pc := 79) dX3_begin_79 ?_
      refine v_aload_n (pc := 80) 3 dX3_begin_80 rfl rfl ?_
      refine v_sipush (pc := 81) (nI 144) dX3_begin_81 (by decide) ?_
      refine c_iald (pc := 84) (k := a) (j := 144) (IA_row ha) (by omega) rfl (by omega) (by decide) dX3_begin_84 ?_
      refine v_topi (v := g 144) ((congrFun (s1_at _ _ _) _).trans ((pk_un (by omega)).trans (pk_un (by omega)))) ?_
      refine c_iast (pc := 85) (k := a) (j := 18 * t + 7) (IA_row ha) (by omega) rfl (by omega) (by decide) dX3_begin_85 ?_
      refine v_S (s2_s1 _ _ _ _ _) ?_
      refine v_aload_n (pc := 86) 3 dX3_begin_86 rfl rfl ?_
      refine v_iload_n (pc := 87) 4 dX3_begin_87 rfl rfl ?_
      refine v_iconst (pc := 88) (nI 0) dX3_begin_88 (by decide) ?_
      refine c_callSv (pc := 89) (st := []) (ct_X3_traces (S := S) (a := a) (t := nI t) (w := nI 0) (g := upd (upd (upd g (18 * t) (nI 1)) (18 * t + 4) ((g 144) + (S 524 t))) (18 * t + 7) (g 144)) ha (by rw [pk_un (by omega), pk_un (by omega), pk_un (by omega)]; exact hI.1) (by omega)) kVX3_173 kDX3_173 (rm_ok hR (Nat.le_of_ble_eq_true rfl) (Nat.le_of_ble_eq_true rfl)) ⟨Nat.zero_le _, Nat.zero_le _⟩ rfl rfl (Nat.le_of_ble_eq_true rfl) dX3_begin_89 ?_
      exact v_vret (pc := 92) hr (Nat.le_refl _) (Nat.le_refl _) dX3_begin_92 (pV_mk (hC_c (congrArg (s1 S a) (by unfold rBeg; simp only [hp, if_neg c1]; rw [if_pos (Int32.not_le.mp c2)]))))
  · skip
    refine v_sipush (pc := 11) (nI 9999) dX3_begin_11 (by decide) ?_
    refine v_goto (pc := 14) 29 dX3_begin_14 (by decide) ?_
    refine v_istore_n (pc := 29) (lv' := [(3, .int (nI 9999)), (0, .ref (gZ G + 513)), (1, .ref (gZ G + a)), (2, .int (nI t))]) dX3_begin_29 rfl (by decide) rfl ?_
    refine v_aload_n (pc := 30) 2 dX3_begin_30 rfl rfl ?_
    refine v_aload_n (pc := 31) 1 dX3_begin_31 rfl rfl ?_
    refine gX3_31 (pc := 32) hN dX3_begin_32 ?_
    refine v_iload_n (pc := 35) 3 dX3_begin_35 rfl rfl ?_
    refine c_iald (pc := 36) (k := 521) (j := t) IA_521 (by omega) rfl (by omega) (by decide) dX3_begin_36 ?_
    refine v_topi (v := nI p) ((congrFun (s1_ne (by omega)) _).trans hp1) ?_
    refine v_iconst (pc := 37) (nI 4) dX3_begin_37 (by decide) ?_
    refine c_callSi (pc := 38) (st := []) (ct_X3_at (S := S) (a := a) (t := p) (w := 4) (g := g) ha (by omega) (by omega)) kVX3_161 kDX3_161 (rm_ok hR (Nat.le_of_ble_eq_true rfl) (Nat.le_of_ble_eq_true rfl)) ⟨Nat.zero_le _, Nat.zero_le _⟩ rfl rfl (Nat.le_of_ble_eq_true rfl) dX3_begin_38 ?_
    refine v_istore (pc := 41) (lv' := [(4, .int (g (18 * p + 4))), (3, .int (nI 9999)), (0, .ref (gZ G + 513)), (1, .ref (gZ G + a)), (2, .int (nI t))]) dX3_begin_41 (by decide) rfl ?_
    refine v_aload_n (pc := 43) 3 dX3_begin_43 rfl rfl ?_
    refine v_bipush (pc := 44) (nI 18) dX3_begin_44 (by decide) ?_
    refine v_iload_n (pc := 46) 4 dX3_begin_46 rfl rfl ?_
    refine v_imulN (pc := 47) dX3_begin_47 ?_
    refine v_iconst (pc := 48) (nI 0) dX3_begin_48 (by decide) ?_
    refine v_iaddN (pc := 49) dX3_begin_49 ?_
    refine v_iconst (pc := 50) (nI 1) dX3_begin_50 (by decide) ?_
    refine c_iast (pc := 51) (k := a) (j := 18 * t) (IA_row ha) (by omega) rfl (by omega) (by decide) dX3_begin_51 ?_
    refine v_S (s2_s1 _ _ _ _ _) ?_
    refine v_aload_n (pc := 52) 3 dX3_begin_52 rfl rfl ?_
    refine v_bipush (pc := 53) (nI 18) dX3_begin_53 (by decide) ?_
    refine v_iload_n (pc := 55) 4 dX3_begin_55 rfl rfl ?_
    refine v_imulN (pc := 56) dX3_begin_56 ?_
    refine v_iconst (pc := 57) (nI 4) dX3_begin_57 (by decide) ?_
    refine v_iaddN (pc := 58) dX3_begin_58 ?_
    refine v_iload_n (pc := 59) 1 dX3_begin_59 rfl rfl ?_
    refine v_iload (pc := 60) 0 dX3_begin_60 rfl ?_
    refine v_ic_ge (pc := 62) 69 dX3_begin_62 (by decide) (fun c3 => ?_) (fun c3 => ?_)
    · skip
      refine v_iload (pc := 69) 0 dX3_begin_69 rfl ?_
      refine c_iast (pc := 71) (k := a) (j := 18 * t + 4) (IA_row ha) (by omega) rfl (by omega) (by decide) dX3_begin_71 ?_
      refine v_S (s2_s1 _ _ _ _ _) ?_
      refine v_aload_n (pc := 72) 3 dX3_begin_72 rfl rfl ?_
      refine v_bipush (pc := 73) (nI 18) dX3_begin_73 (by decide) ?_
      refine v_iload_n (pc := 75) 4 dX3_begin_75 rfl rfl ?_
      refine v_imulN (pc := 76) dX3_begin_76 ?_
      refine v_bipush (pc := 77) (nI 7) dX3_begin_77 (by decide) ?_
      refine v_iaddN (pc := 79) dX3_begin_79 ?_
      refine v_aload_n (pc := 80) 3 dX3_begin_80 rfl rfl ?_
      refine v_sipush (pc := 81) (nI 144) dX3_begin_81 (by decide) ?_
      refine c_iald (pc := 84) (k := a) (j := 144) (IA_row ha) (by omega) rfl (by omega) (by decide) dX3_begin_84 ?_
      refine v_topi (v := g 144) ((congrFun (s1_at _ _ _) _).trans ((pk_un (by omega)).trans (pk_un (by omega)))) ?_
      refine c_iast (pc := 85) (k := a) (j := 18 * t + 7) (IA_row ha) (by omega) rfl (by omega) (by decide) dX3_begin_85 ?_
      refine v_S (s2_s1 _ _ _ _ _) ?_
      refine v_aload_n (pc := 86) 3 dX3_begin_86 rfl rfl ?_
      refine v_iload_n (pc := 87) 4 dX3_begin_87 rfl rfl ?_
      refine v_iconst (pc := 88) (nI 0) dX3_begin_88 (by decide) ?_
      refine c_callSv (pc := 89) (st := []) (ct_X3_traces (S := S) (a := a) (t := nI t) (w := nI 0) (g := upd (upd (upd g (18 * t) (nI 1)) (18 * t + 4) (g (18 * p + 4))) (18 * t + 7) (g 144)) ha (by rw [pk_un (by omega), pk_un (by omega), pk_un (by omega)]; exact hI.1) (by omega)) kVX3_173 kDX3_173 (rm_ok hR (Nat.le_of_ble_eq_true rfl) (Nat.le_of_ble_eq_true rfl)) ⟨Nat.zero_le _, Nat.zero_le _⟩ rfl rfl (Nat.le_of_ble_eq_true rfl) dX3_begin_89 ?_
      exact v_vret (pc := 92) hr (Nat.le_refl _) (Nat.le_refl _) dX3_begin_92 (pV_mk (hC_c (congrArg (s1 S a) (by unfold rBeg; simp only [hp, if_pos c1]; rw [if_neg (Int32.not_lt.mpr c3)]))))
    · skip
      refine v_iload_n (pc := 65) 1 dX3_begin_65 rfl rfl ?_
      refine v_goto (pc := 66) 71 dX3_begin_66 (by decide) ?_
      refine c_iast (pc := 71) (k := a) (j := 18 * t + 4) (IA_row ha) (by omega) rfl (by omega) (by decide) dX3_begin_71 ?_
      refine v_S (s2_s1 _ _ _ _ _) ?_
      refine v_aload_n (pc := 72) 3 dX3_begin_72 rfl rfl ?_
      refine v_bipush (pc := 73) (nI 18) dX3_begin_73 (by decide) ?_
      refine v_iload_n (pc := 75) 4 dX3_begin_75 rfl rfl ?_
      refine v_imulN (pc := 76) dX3_begin_76 ?_
      refine v_bipush (pc := 77) (nI 7) dX3_begin_77 (by decide) ?_
      refine v_iaddN (pc := 79) dX3_begin_79 ?_
      refine v_aload_n (pc := 80) 3 dX3_begin_80 rfl rfl ?_
      refine v_sipush (pc := 81) (nI 144) dX3_begin_81 (by decide) ?_
      refine c_iald (pc := 84) (k := a) (j := 144) (IA_row ha) (by omega) rfl (by omega) (by decide) dX3_begin_84 ?_
      refine v_topi (v := g 144) ((congrFun (s1_at _ _ _) _).trans ((pk_un (by omega)).trans (pk_un (by omega)))) ?_
      refine c_iast (pc := 85) (k := a) (j := 18 * t + 7) (IA_row ha) (by omega) rfl (by omega) (by decide) dX3_begin_85 ?_
      refine v_S (s2_s1 _ _ _ _ _) ?_
      refine v_aload_n (pc := 86) 3 dX3_begin_86 rfl rfl ?_
      refine v_iload_n (pc := 87) 4 dX3_begin_87 rfl rfl ?_
      refine v_iconst (pc := 88) (nI 0) dX3_begin_88 (by decide) ?_
      refine c_callSv (pc := 89) (st := []) (ct_X3_traces (S := S) (a := a) (t := nI t) (w := nI 0) (g := upd (upd (upd g (18 * t) (nI 1)) (18 * t + 4) (nI 9999)) (18 * t + 7) (g 144)) ha (by rw [pk_un (by omega), pk_un (by omega), pk_un (by omega)]; exact hI.1) (by omega)) kVX3_173 kDX3_173 (rm_ok hR (Nat.le_of_ble_eq_true rfl) (Nat.le_of_ble_eq_true rfl)) ⟨Nat.zero_le _, Nat.zero_le _⟩ rfl rfl (Nat.le_of_ble_eq_true rfl) dX3_begin_89 ?_
      exact v_vret (pc := 92) hr (Nat.le_refl _) (Nat.le_refl _) dX3_begin_92 (pV_mk (hC_c (congrArg (s1 S a) (by unfold rBeg; simp only [hp, if_pos c1]; rw [if_pos (Int32.not_le.mp c3)]))))

set_option maxHeartbeats 4000000 in
theorem lp_bc {G : GT} {x : VX} {N : Nat} {S : ST} {a n : Nat} {t : Int32} {g : Nat → Int32} (ha : RA a) (hS : MI S) (hI : RI g) (hN : 535 ≤ N) (hn : mN S = n) (hnE : S 513 15 = nI n) (hn8 : n ≤ 8) (hR : xR x = RM 2 0 0) (hr : (xM x).sig.returnType = none) : ∀ (m c : Nat), c + m = n → 1 ≤ c → V G x "ScopeTasksModel" cX3_beginsChild 4 (QQ G x (pV N (fun h' => h' = hC G (s1 S a (rBCL S t m c g)))) 0 0) 2 [(3, .int (nI c)), (0, .ref (gZ G + 513)), (1, .ref (gZ G + a)), (2, .int (t))] [] N (hC G (s1 S a g)) 0 0 := by
  have hal := ha.lt
  have hag := ha.ge
  intro m
  induction m with
  | zero =>
    intro c hcm hc1
    refine v_iload_n (pc := 2) 0 dX3_beginsChild_2 rfl rfl ?_
    refine v_aload_n (pc := 3) 1 dX3_beginsChild_3 rfl rfl ?_
    refine gX3_142 (pc := 4) hN dX3_beginsChild_4 ?_
    refine v_topi (v := nI n) ((congrFun (s1_ne (by omega)) _).trans hnE) ?_
    refine v_ic_geN (pc := 7) 42 (by omega) (by omega) dX3_beginsChild_7 (by decide) (fun c1 => ?_) (fun c1 => ?_)
    · skip
      exact v_vret (pc := 42) hr (Nat.le_refl _) (Nat.le_refl _) dX3_beginsChild_42 (pV_mk rfl)
    · skip
      exact absurd c1 (by omega)
  | succ m ih =>
    intro c hcm hc1
    refine v_iload_n (pc := 2) 0 dX3_beginsChild_2 rfl rfl ?_
    refine v_aload_n (pc := 3) 1 dX3_beginsChild_3 rfl rfl ?_
    refine gX3_142 (pc := 4) hN dX3_beginsChild_4 ?_
    refine v_topi (v := nI n) ((congrFun (s1_ne (by omega)) _).trans hnE) ?_
    refine v_ic_geN (pc := 7) 42 (by omega) (by omega) dX3_beginsChild_7 (by decide) (fun c1 => ?_) (fun c1 => ?_)
    · skip
      exact absurd c1 (by omega)
    · skip
      refine v_aload_n (pc := 10) 1 dX3_beginsChild_10 rfl rfl ?_
      refine gX3_31 (pc := 11) hN dX3_beginsChild_11 ?_
      refine v_iload_n (pc := 14) 0 dX3_beginsChild_14 rfl rfl ?_
      refine c_iald (pc := 15) (k := 521) (j := c) IA_521 (by omega) rfl (by omega) (by decide) dX3_beginsChild_15 ?_
      refine v_topi (v := S 521 c) (congrFun (s1_ne (by omega)) _) ?_
      refine v_iload_n (pc := 16) 3 dX3_beginsChild_16 rfl rfl ?_
      refine v_ic_ne (pc := 17) 36 dX3_beginsChild_17 (by decide) (fun c2 => ?_) (fun c2 => ?_)
      · skip
        refine v_iincN (pc := 36) (k := 0) (lv' := [(3, .int (nI (c + 1))), (0, .ref (gZ G + 513)), (1, .ref (gZ G + a)), (2, .int (t))]) dX3_beginsChild_36 rfl (by decide) rfl ?_
        refine v_goto (pc := 39) 2 dX3_beginsChild_39 (by decide) ?_
        rw [show rBCL S t (m + 1) c g = rBCL S t m (c + 1) g from by rw [rBCL, if_neg (fun z => c2 z.1)]]
        refine v_sub (lv' := [(3, .int (nI (c + 1))), (0, .ref (gZ G + 513)), (1, .ref (gZ G + a)), (2, .int (t))]) [0, 1, 2, 3] rfl ?_
        exact ih (c + 1) (by omega) (by omega)
      · skip
        refine v_aload_n (pc := 20) 2 dX3_beginsChild_20 rfl rfl ?_
        refine v_iload_n (pc := 21) 0 dX3_beginsChild_21 rfl rfl ?_
        refine v_iconst (pc := 22) (nI 0) dX3_beginsChild_22 (by decide) ?_
        refine c_callSi (pc := 23) (st := []) (ct_X3_isHow (S := S) (a := a) (t := c) (w := nI 0) (g := g) ha (by omega) (by omega)) kVX3_165 kDX3_165 (rm_ok hR (Nat.le_of_ble_eq_true rfl) (Nat.le_of_ble_eq_true rfl)) ⟨Nat.zero_le _, Nat.zero_le _⟩ rfl rfl (Nat.le_of_ble_eq_true rfl) dX3_beginsChild_23 ?_
        refine v_if_eqB (pc := 26) 36 dX3_beginsChild_26 (by decide) (fun c3 => ?_) (fun c3 => ?_)
        · skip
          refine v_iincN (pc := 36) (k := 0) (lv' := [(3, .int (nI (c + 1))), (0, .ref (gZ G + 513)), (1, .ref (gZ G + a)), (2, .int (t))]) dX3_beginsChild_36 rfl (by decide) rfl ?_
          refine v_goto (pc := 39) 2 dX3_beginsChild_39 (by decide) ?_
          rw [show rBCL S t (m + 1) c g = rBCL S t m (c + 1) g from by rw [rBCL, if_neg (fun z => c3 z.2)]]
          refine v_sub (lv' := [(3, .int (nI (c + 1))), (0, .ref (gZ G + 513)), (1, .ref (gZ G + a)), (2, .int (t))]) [0, 1, 2, 3] rfl ?_
          exact ih (c + 1) (by omega) (by omega)
        · skip
          refine v_aload_n (pc := 29) 1 dX3_beginsChild_29 rfl rfl ?_
          refine v_aload_n (pc := 30) 2 dX3_beginsChild_30 rfl rfl ?_
          refine v_iload_n (pc := 31) 0 dX3_beginsChild_31 rfl rfl ?_
          refine c_callVv (pc := 32) (st := []) (ci := 3) (ct_X3_begin (S := S) (a := a) (t := c) (g := g) ha (by omega) (by omega) (by omega) (by rw [hn]; omega) (by omega)) kVX3_177 kDX3_177 (rm_ok hR (Nat.le_of_ble_eq_true rfl) (Nat.le_of_ble_eq_true rfl)) ⟨Nat.zero_le _, Nat.zero_le _⟩ (by omega) (rfl) rfl rfl rfl rfl (Nat.le_of_ble_eq_true rfl) dX3_beginsChild_32 ?_
          exact v_vret (pc := 35) hr (Nat.le_refl _) (Nat.le_refl _) dX3_beginsChild_35 (pV_mk (hC_c (congrArg (s1 S a) (by rw [rBCL, if_pos ⟨c2, c3⟩]))))

set_option maxHeartbeats 4000000 in
theorem ct_X3_beginsChild {G : GT} {l : Launch} {N : Nat} {S : ST} {g : Nat → Int32} {a : Nat} {t : Int32} (ha : RA a) (hS : MI S) (hI : RI g) (hN : 535 ≤ N) : CTv G l yX3_beginsChild cX3_beginsChild 4 none 2 [.ref (gZ G + 513), .ref (gZ G + a), .int (t)] N (s1 S a g) (s1 S a (rBC S t g)) := by
  have hal := ha.lt
  have hag := ha.ge
  have hn8 := hS.n
  have hn1 := hS.2.1
  have hnE := hS.1.1
  obtain ⟨n, hn⟩ : ∃ n, mN S = n := ⟨_, rfl⟩
  rw [hn] at hn8 hn1
  rw [show nn (S 513 15) = n from hn] at hnE
  refine CT.mk "ScopeTasksModel" [(0, .ref (gZ G + 513)), (1, .ref (gZ G + a)), (2, .int (t))] rfl (by decide) rfl (Nat.le_of_ble_eq_true rfl) ?_
  intro x hR hl hr hnm
  refine v_iconst (pc := 0) (nI 1) dX3_beginsChild_0 (by decide) ?_
  refine v_istore_n (pc := 1) (lv' := [(3, .int (nI 1)), (0, .ref (gZ G + 513)), (1, .ref (gZ G + a)), (2, .int (t))]) dX3_beginsChild_1 rfl (by decide) rfl ?_
  refine v_sub (lv' := [(3, .int (nI 1)), (0, .ref (gZ G + 513)), (1, .ref (gZ G + a)), (2, .int (t))]) [0, 1, 2, 3] rfl ?_
  rw [show rBC S t g = rBCL S t (n - 1) 1 g from by rw [rBC, hn]]
  exact lp_bc ha hS hI hN hn hnE hn8 hR hr (n - 1) 1 (by omega) (by omega)

set_option maxHeartbeats 4000000 in
theorem lp_bu {G : GT} {x : VX} {N : Nat} {Q : State → Prop} {S : ST} {a n : Nat} {t : Int32} {g : Nat → Int32} (ha : RA a) (hN : 535 ≤ N) (hnE : S 513 15 = nI n) (hn8 : n ≤ 8) (hR : xR x = RM 1 0 0) : ∀ (m c : Nat), c + 1 + m = n → V G x "ScopeTasksModel" cX3_isBusy 5 Q 61 [(3, .int (bI (rBu (S 521) t g (n - 1) = true))), (0, .ref (gZ G + 513)), (1, .ref (gZ G + a)), (2, .int (t))] [] N (hC G (s1 S a g)) 0 0 → V G x "ScopeTasksModel" cX3_isBusy 5 Q 5 [(4, .int (nI (c + 1))), (3, .int (bI (rBu (S 521) t g c = true))), (0, .ref (gZ G + 513)), (1, .ref (gZ G + a)), (2, .int (t))] [] N (hC G (s1 S a g)) 0 0 := by
  have hal := ha.lt
  have hag := ha.ge
  intro m
  induction m with
  | zero =>
    intro c hcm hk
    refine v_iload (pc := 5) 0 dX3_isBusy_5 rfl ?_
    refine v_aload_n (pc := 7) 2 dX3_isBusy_7 rfl rfl ?_
    refine gX3_142 (pc := 8) hN dX3_isBusy_8 ?_
    refine v_topi (v := nI n) ((congrFun (s1_ne (by omega)) _).trans hnE) ?_
    refine v_ic_geN (pc := 11) 61 (by omega) (by omega) dX3_isBusy_11 (by decide) (fun c1 => ?_) (fun c1 => ?_)
    · skip
      refine v_sub (lv' := [(3, .int (bI (rBu (S 521) t g c = true))), (0, .ref (gZ G + 513)), (1, .ref (gZ G + a)), (2, .int (t))]) [1, 2, 3, 4] rfl ?_
      rw [show n - 1 = c by omega] at hk
      exact hk
    · skip
      exact absurd c1 (by omega)
  | succ m ih =>
    intro c hcm hk
    refine v_iload (pc := 5) 0 dX3_isBusy_5 rfl ?_
    refine v_aload_n (pc := 7) 2 dX3_isBusy_7 rfl rfl ?_
    refine gX3_142 (pc := 8) hN dX3_isBusy_8 ?_
    refine v_topi (v := nI n) ((congrFun (s1_ne (by omega)) _).trans hnE) ?_
    refine v_ic_geN (pc := 11) 61 (by omega) (by omega) dX3_isBusy_11 (by decide) (fun c1 => ?_) (fun c1 => ?_)
    · skip
      exact absurd c1 (by omega)
    · skip
      refine v_iload_n (pc := 14) 1 dX3_isBusy_14 rfl rfl ?_
      refine v_if_neB (pc := 15) 49 dX3_isBusy_15 (by decide) (fun c2 => ?_) (fun c2 => ?_)
      · skip
        refine v_iconst (pc := 49) (nI 1) dX3_isBusy_49 (by decide) ?_
        refine v_goto (pc := 50) 54 dX3_isBusy_50 (by decide) ?_
        refine v_istore_n (pc := 54) (lv' := [(3, .int (nI 1)), (4, .int (nI (c + 1))), (0, .ref (gZ G + 513)), (1, .ref (gZ G + a)), (2, .int (t))]) dX3_isBusy_54 rfl (by decide) rfl ?_
        refine v_iincN (pc := 55) (k := 1) (lv' := [(4, .int (nI (c + 1 + 1))), (3, .int (nI 1)), (0, .ref (gZ G + 513)), (1, .ref (gZ G + a)), (2, .int (t))]) dX3_isBusy_55 rfl (by decide) rfl ?_
        refine v_goto (pc := 58) 5 dX3_isBusy_58 (by decide) ?_
        refine v_sub (lv' := [(4, .int (nI (c + 1 + 1))), (3, .int (nI 1)), (0, .ref (gZ G + 513)), (1, .ref (gZ G + a)), (2, .int (t))]) [0, 1, 2, 3, 4] rfl ?_
        refine v_lv (lv' := [(4, .int (nI (c + 1 + 1))), (3, .int (bI (rBu (S 521) t g (c + 1) = true))), (0, .ref (gZ G + 513)), (1, .ref (gZ G + a)), (2, .int (t))]) (by rw [bI_t (p := rBu (S 521) t g (c + 1) = true) (by simp [rBu, c2])]) ?_
        exact ih (c + 1) (by omega) hk
      · skip
        refine v_aload_n (pc := 18) 2 dX3_isBusy_18 rfl rfl ?_
        refine gX3_31 (pc := 19) hN dX3_isBusy_19 ?_
        refine v_iload (pc := 22) 0 dX3_isBusy_22 rfl ?_
        refine c_iald (pc := 24) (k := 521) (j := c + 1) IA_521 (by omega) rfl (by omega) (by decide) dX3_isBusy_24 ?_
        refine v_topi (v := S 521 (c + 1)) (congrFun (s1_ne (by omega)) _) ?_
        refine v_iload_n (pc := 25) 4 dX3_isBusy_25 rfl rfl ?_
        refine v_ic_ne (pc := 26) 53 dX3_isBusy_26 (by decide) (fun c3 => ?_) (fun c3 => ?_)
        · skip
          refine v_iconst (pc := 53) (nI 0) dX3_isBusy_53 (by decide) ?_
          refine v_istore_n (pc := 54) (lv' := [(3, .int (nI 0)), (4, .int (nI (c + 1))), (0, .ref (gZ G + 513)), (1, .ref (gZ G + a)), (2, .int (t))]) dX3_isBusy_54 rfl (by decide) rfl ?_
          refine v_iincN (pc := 55) (k := 1) (lv' := [(4, .int (nI (c + 1 + 1))), (3, .int (nI 0)), (0, .ref (gZ G + 513)), (1, .ref (gZ G + a)), (2, .int (t))]) dX3_isBusy_55 rfl (by decide) rfl ?_
          refine v_goto (pc := 58) 5 dX3_isBusy_58 (by decide) ?_
          refine v_sub (lv' := [(4, .int (nI (c + 1 + 1))), (3, .int (nI 0)), (0, .ref (gZ G + 513)), (1, .ref (gZ G + a)), (2, .int (t))]) [0, 1, 2, 3, 4] rfl ?_
          refine v_lv (lv' := [(4, .int (nI (c + 1 + 1))), (3, .int (bI (rBu (S 521) t g (c + 1) = true))), (0, .ref (gZ G + 513)), (1, .ref (gZ G + a)), (2, .int (t))]) (by rw [bI_f (p := rBu (S 521) t g (c + 1) = true) (by simp [rBu, c2, c3])]) ?_
          exact ih (c + 1) (by omega) hk
        · skip
          refine v_aload_n (pc := 29) 3 dX3_isBusy_29 rfl rfl ?_
          refine v_iload (pc := 30) 0 dX3_isBusy_30 rfl ?_
          refine v_iconst (pc := 32) (nI 1) dX3_isBusy_32 (by decide) ?_
          refine c_callSi (pc := 33) (st := []) (ct_X3_isHow (S := S) (a := a) (t := c + 1) (w := nI 1) (g := g) ha (by omega) (by omega)) kVX3_165 kDX3_165 (rm_ok hR (Nat.le_of_ble_eq_true rfl) (Nat.le_of_ble_eq_true rfl)) ⟨Nat.zero_le _, Nat.zero_le _⟩ rfl rfl (Nat.le_of_ble_eq_true rfl) dX3_isBusy_33 ?_
          refine v_if_neB (pc := 36) 49 dX3_isBusy_36 (by decide) (fun c4 => ?_) (fun c4 => ?_)
          · skip
            refine v_iconst (pc := 49) (nI 1) dX3_isBusy_49 (by decide) ?_
            refine v_goto (pc := 50) 54 dX3_isBusy_50 (by decide) ?_
            refine v_istore_n (pc := 54) (lv' := [(3, .int (nI 1)), (4, .int (nI (c + 1))), (0, .ref (gZ G + 513)), (1, .ref (gZ G + a)), (2, .int (t))]) dX3_isBusy_54 rfl (by decide) rfl ?_
            refine v_iincN (pc := 55) (k := 1) (lv' := [(4, .int (nI (c + 1 + 1))), (3, .int (nI 1)), (0, .ref (gZ G + 513)), (1, .ref (gZ G + a)), (2, .int (t))]) dX3_isBusy_55 rfl (by decide) rfl ?_
            refine v_goto (pc := 58) 5 dX3_isBusy_58 (by decide) ?_
            refine v_sub (lv' := [(4, .int (nI (c + 1 + 1))), (3, .int (nI 1)), (0, .ref (gZ G + 513)), (1, .ref (gZ G + a)), (2, .int (t))]) [0, 1, 2, 3, 4] rfl ?_
            refine v_lv (lv' := [(4, .int (nI (c + 1 + 1))), (3, .int (bI (rBu (S 521) t g (c + 1) = true))), (0, .ref (gZ G + 513)), (1, .ref (gZ G + a)), (2, .int (t))]) (by rw [bI_t (p := rBu (S 521) t g (c + 1) = true) (by simp [rBu, c2, c3, c4])]) ?_
            exact ih (c + 1) (by omega) hk
          · skip
            refine v_aload_n (pc := 39) 3 dX3_isBusy_39 rfl rfl ?_
            refine v_iload (pc := 40) 0 dX3_isBusy_40 rfl ?_
            refine v_iconst (pc := 42) (nI 2) dX3_isBusy_42 (by decide) ?_
            refine c_callSi (pc := 43) (st := []) (ct_X3_isHow (S := S) (a := a) (t := c + 1) (w := nI 2) (g := g) ha (by omega) (by omega)) kVX3_165 kDX3_165 (rm_ok hR (Nat.le_of_ble_eq_true rfl) (Nat.le_of_ble_eq_true rfl)) ⟨Nat.zero_le _, Nat.zero_le _⟩ rfl rfl (Nat.le_of_ble_eq_true rfl) dX3_isBusy_43 ?_
            refine v_if_eqB (pc := 46) 53 dX3_isBusy_46 (by decide) (fun c5 => ?_) (fun c5 => ?_)
            · skip
              refine v_iconst (pc := 53) (nI 0) dX3_isBusy_53 (by decide) ?_
              refine v_istore_n (pc := 54) (lv' := [(3, .int (nI 0)), (4, .int (nI (c + 1))), (0, .ref (gZ G + 513)), (1, .ref (gZ G + a)), (2, .int (t))]) dX3_isBusy_54 rfl (by decide) rfl ?_
              refine v_iincN (pc := 55) (k := 1) (lv' := [(4, .int (nI (c + 1 + 1))), (3, .int (nI 0)), (0, .ref (gZ G + 513)), (1, .ref (gZ G + a)), (2, .int (t))]) dX3_isBusy_55 rfl (by decide) rfl ?_
              refine v_goto (pc := 58) 5 dX3_isBusy_58 (by decide) ?_
              refine v_sub (lv' := [(4, .int (nI (c + 1 + 1))), (3, .int (nI 0)), (0, .ref (gZ G + 513)), (1, .ref (gZ G + a)), (2, .int (t))]) [0, 1, 2, 3, 4] rfl ?_
              refine v_lv (lv' := [(4, .int (nI (c + 1 + 1))), (3, .int (bI (rBu (S 521) t g (c + 1) = true))), (0, .ref (gZ G + 513)), (1, .ref (gZ G + a)), (2, .int (t))]) (by rw [bI_f (p := rBu (S 521) t g (c + 1) = true) (by simp [rBu, c2, c3, c4, c5])]) ?_
              exact ih (c + 1) (by omega) hk
            · skip
              refine v_iconst (pc := 49) (nI 1) dX3_isBusy_49 (by decide) ?_
              refine v_goto (pc := 50) 54 dX3_isBusy_50 (by decide) ?_
              refine v_istore_n (pc := 54) (lv' := [(3, .int (nI 1)), (4, .int (nI (c + 1))), (0, .ref (gZ G + 513)), (1, .ref (gZ G + a)), (2, .int (t))]) dX3_isBusy_54 rfl (by decide) rfl ?_
              refine v_iincN (pc := 55) (k := 1) (lv' := [(4, .int (nI (c + 1 + 1))), (3, .int (nI 1)), (0, .ref (gZ G + 513)), (1, .ref (gZ G + a)), (2, .int (t))]) dX3_isBusy_55 rfl (by decide) rfl ?_
              refine v_goto (pc := 58) 5 dX3_isBusy_58 (by decide) ?_
              refine v_sub (lv' := [(4, .int (nI (c + 1 + 1))), (3, .int (nI 1)), (0, .ref (gZ G + 513)), (1, .ref (gZ G + a)), (2, .int (t))]) [0, 1, 2, 3, 4] rfl ?_
              refine v_lv (lv' := [(4, .int (nI (c + 1 + 1))), (3, .int (bI (rBu (S 521) t g (c + 1) = true))), (0, .ref (gZ G + 513)), (1, .ref (gZ G + a)), (2, .int (t))]) (by rw [bI_t (p := rBu (S 521) t g (c + 1) = true) (by simp [rBu, c2, c3, c4, c5])]) ?_
              exact ih (c + 1) (by omega) hk

set_option maxHeartbeats 4000000 in
theorem ct_X3_isBusy {G : GT} {l : Launch} {N : Nat} {S : ST} {g : Nat → Int32} {a : Nat} {t : Int32} (ha : RA a) (hS : MI S) (hN : 535 ≤ N) : CTi G l yX3_isBusy cX3_isBusy 5 (some .boolean) 1 [.ref (gZ G + 513), .ref (gZ G + a), .int (t)] N (s1 S a g) (bI (rBusy S t g)) (s1 S a g) := by
  have hal := ha.lt
  have hag := ha.ge
  have hn8 := hS.n
  have hn1 := hS.2.1
  have hnE := hS.1.1
  obtain ⟨n, hn⟩ : ∃ n, mN S = n := ⟨_, rfl⟩
  rw [hn] at hn8 hn1
  rw [show nn (S 513 15) = n from hn] at hnE
  refine CT.mk "ScopeTasksModel" [(0, .ref (gZ G + 513)), (1, .ref (gZ G + a)), (2, .int (t))] rfl (by decide) rfl (Nat.le_of_ble_eq_true rfl) ?_
  intro x hR hl hr hnm
  refine v_iconst (pc := 0) (nI 0) dX3_isBusy_0 (by decide) ?_
  refine v_istore_n (pc := 1) (lv' := [(3, .int (nI 0)), (0, .ref (gZ G + 513)), (1, .ref (gZ G + a)), (2, .int (t))]) dX3_isBusy_1 rfl (by decide) rfl ?_
  refine v_iconst (pc := 2) (nI 1) dX3_isBusy_2 (by decide) ?_
  refine v_istore (pc := 3) (lv' := [(4, .int (nI 1)), (3, .int (nI 0)), (0, .ref (gZ G + 513)), (1, .ref (gZ G + a)), (2, .int (t))]) dX3_isBusy_3 (by decide) rfl ?_
  refine v_sub (lv' := [(4, .int (nI 1)), (3, .int (nI 0)), (0, .ref (gZ G + 513)), (1, .ref (gZ G + a)), (2, .int (t))]) [0, 1, 2, 3, 4] rfl ?_
  refine v_lv (lv' := [(4, .int (nI (0 + 1))), (3, .int (bI (rBu (S 521) t g 0 = true))), (0, .ref (gZ G + 513)), (1, .ref (gZ G + a)), (2, .int (t))]) (by rw [bI_f (p := rBu (S 521) t g 0 = true) (by simp [rBu])]) ?_
  refine lp_bu ha hN hnE hn8 hR (n - 1) 0 (by omega) ?_
  refine v_iload_n (pc := 61) 0 dX3_isBusy_61 rfl rfl ?_
  exact v_iret (pc := 62) hr bI_nar (Nat.le_refl _) (Nat.le_refl _) dX3_isBusy_62 (pI_mk (by unfold rBusy; rw [hn]) (hC_c rfl))

