set_option maxRecDepth 100000
/-! ScopeTasks$Run: pass, goTill -/
set_option maxHeartbeats 4000000 in
theorem lp_pa {G : GT} {x : VX} {N b : Nat} {Q : State → Prop} {S M : ST} (hR : xR x = RM 7 0 0) (hb : RB b) (hN : 513 ≤ N) (hT : TR S M) (hM : MI M) : ∀ (m f : Nat) (c g : Nat → Int32), (f ≤ 8 ∧ 8 ≤ f + m) → f ≤ 8 → Sim M c g → RJ M g → V G x "ScopeTasks$Run" cX2_pass 2 Q 63 [(0, .ref (gZ G + b))] [] N (hC G (put S b (rUp (cT1 M) (8 - f) f c))) 0 0 → V G x "ScopeTasks$Run" cX2_pass 2 Q 19 [(1, .int (nsb (msk c 0 1) f)), (0, .ref (gZ G + b))] [] N (hC G (put S b c)) 0 0 := by
  have hbl := hb.le
  have hbg := hb.ge
  have h8 := hM.n
  intro m
  induction m with
  | zero =>
    intro f c g hm hf h hJ hk
    obtain rfl : f = 8 := by omega
    rcases nsb_c (c := c) (f := 8) (by omega) with ⟨h1, h2⟩ | ⟨r, h1, h2, h3, -⟩
    · rw [h1]
      refine v_iload_n (pc := 19) 0 dX2_pass_19 rfl rfl ?_
      refine v_if_lt (pc := 20) 63 dX2_pass_20 (by decide) (fun c1 => ?_) (fun c1 => ?_)
      · skip
        refine v_sub (lv' := [(0, .ref (gZ G + b))]) [1] rfl ?_
        rw [rUp_skip (8 - 8) 8 (fun q a1 a2 => by unfold cT1; rw [if_neg (fun z => h2 q a1 (by omega) z.1)])] at hk
        exact hk
      · skip
        exact absurd c1 (by decide)
    · omega
  | succ m ih =>
    intro f c g hm hf h hJ hk
    have hu := h.UBc h8
    have hIc := h.RIc hJ.1
    rcases nsb_c (c := c) (f := f) (by omega) with ⟨h1, h2⟩ | ⟨r, h1, h2, h3, h5, h6⟩
    · rw [h1]
      refine v_iload_n (pc := 19) 0 dX2_pass_19 rfl rfl ?_
      refine v_if_lt (pc := 20) 63 dX2_pass_20 (by decide) (fun c1 => ?_) (fun c1 => ?_)
      · skip
        refine v_sub (lv' := [(0, .ref (gZ G + b))]) [1] rfl ?_
        rw [rUp_skip (8 - f) f (fun q a1 a2 => by unfold cT1; rw [if_neg (fun z => h2 q a1 (by omega) z.1)])] at hk
        exact hk
      · skip
        exact absurd c1 (by decide)
    · have hrm := hu.lt (n := 0) h3 h5 (by omega)
      have hG : rUp (cT1 M) (8 - f) f c = rUp (cT1 M) (7 - r + 1) r c := by
        rw [show 8 - f = (r - f) + (7 - r + 1) by omega, rUp_add (r - f) (7 - r + 1) f c, rUp_skip (r - f) f (fun q a1 a2 => by unfold cT1; rw [if_neg (fun z => h6 q a1 (by omega) z.1)]), show f + (r - f) = r by omega]
      rw [h1]
      refine v_iload_n (pc := 19) 0 dX2_pass_19 rfl rfl ?_
      refine v_if_ltN (pc := 20) (by omega) dX2_pass_20 63 (by decide) ?_
      refine v_aload_n (pc := 23) 1 dX2_pass_23 rfl rfl ?_
      refine gX2_69 (pc := 24) hb hN dX2_pass_24 ?_
      refine v_topi (v := c 144) (pr_0) ?_
      refine v_aload_n (pc := 27) 1 dX2_pass_27 rfl rfl ?_
      refine gX2_43 (pc := 28) hb hN dX2_pass_28 ?_
      refine v_iload_n (pc := 31) 0 dX2_pass_31 rfl rfl ?_
      refine c_iald (pc := 32) (k := b + 12) (j := r) (IA_run8 hb (by decide) (by decide) (by decide)) (by omega) rfl (by omega) (by decide) dX2_pass_32 ?_
      refine v_topi (v := c (18 * r + 4)) (pr_12 (by omega)) ?_
      refine v_ic_le (pc := 33) 49 dX2_pass_33 (by decide) (fun c1 => ?_) (fun c1 => ?_)
      · skip
        refine v_aload_n (pc := 49) 1 dX2_pass_49 rfl rfl ?_
        refine gX2_20 (pc := 50) hb hN dX2_pass_50 ?_
        refine v_iload_n (pc := 53) 0 dX2_pass_53 rfl rfl ?_
        refine v_iconst (pc := 54) (nI 1) dX2_pass_54 (by decide) ?_
        refine v_iaddN (pc := 55) dX2_pass_55 ?_
        refine c_callVi (pc := 56) (st := []) (ci := 6) (ct_nxt1 (S := S) (b := b) (f := r + 1) (c := c) hb (by omega) (by omega)) kVX2_121 kDX2_121 (rm_ok hR (Nat.le_of_ble_eq_true rfl) (Nat.le_of_ble_eq_true rfl)) ⟨Nat.zero_le _, Nat.zero_le _⟩ (by omega) ((BC_run hb (j := 1) (by decide)) G _).1 rfl rfl rfl rfl (Nat.le_of_ble_eq_true rfl) dX2_pass_56 ?_
        refine v_istore_n (pc := 59) (lv' := [(1, .int (nsb (msk c 0 1) (r + 1))), (0, .ref (gZ G + b))]) dX2_pass_59 rfl (by decide) rfl ?_
        refine v_goto (pc := 60) 19 dX2_pass_60 (by decide) ?_
        refine v_sub (lv' := [(1, .int (nsb (msk c 0 1) (r + 1))), (0, .ref (gZ G + b))]) [0, 1] rfl ?_
        have e1 : cT1 M c r = c := by unfold cT1; rw [if_neg (fun z => absurd z.2 (Int32.not_lt.mpr c1))]
        have s1 := h.T1 hM hJ.1 hrm
        rw [e1] at s1
        refine ih (r + 1) _ _ (by omega) (by omega) s1 (RJ_rT1 hM hJ hrm) ?_
        rw [hG, rUp, e1] at hk
        rw [show 8 - (r + 1) = 7 - r by omega]
        exact hk
      · skip
        refine v_aload_n (pc := 36) 1 dX2_pass_36 rfl rfl ?_
        refine v_iload_n (pc := 37) 0 dX2_pass_37 rfl rfl ?_
        refine v_bipush (pc := 38) (nI 10) dX2_pass_38 (by decide) ?_
        refine c_callVv (pc := 40) (st := []) (ci := 2) (ct_X2_fail (S := S) (b := b) (t := r) (w := nI 10) (c := c) hb (by omega) (hIc.2 r (by omega)).2 (by omega)) kVX2_152 kDX2_152 (rm_ok hR (Nat.le_of_ble_eq_true rfl) (Nat.le_of_ble_eq_true rfl)) ⟨Nat.zero_le _, Nat.zero_le _⟩ (by omega) (hC_run (j := 0) hb (by decide) rfl) rfl rfl rfl rfl (Nat.le_of_ble_eq_true rfl) dX2_pass_40 ?_
        refine v_aload_n (pc := 43) 1 dX2_pass_43 rfl rfl ?_
        refine v_iload_n (pc := 44) 0 dX2_pass_44 rfl rfl ?_
        refine v_iconst (pc := 45) (nI 3) dX2_pass_45 (by decide) ?_
        refine c_callVv (pc := 46) (st := []) (ci := 2) (ct_X2_close (S := S) (b := b) (t := r) (w := nI 3) (c := rCo c r (nI 10)) (M := M) hb (by omega) ((rCo_ne (hIc.2 r (by omega)).2 (by omega)).trans h5) (RI_rCo hIc (by omega) _).1 ((RI_rCo hIc (by omega) _).2 r (by omega)).2 hT hM (UB_co hu (by omega) (hIc.2 r (by omega)).2) (by omega)) kVX2_155 kDX2_155 (rm_ok hR (Nat.le_of_ble_eq_true rfl) (Nat.le_of_ble_eq_true rfl)) ⟨Nat.zero_le _, Nat.zero_le _⟩ (by omega) (hC_run (j := 0) hb (by decide) rfl) rfl rfl rfl rfl (Nat.le_of_ble_eq_true rfl) dX2_pass_46 ?_
        refine v_aload_n (pc := 49) 1 dX2_pass_49 rfl rfl ?_
        refine gX2_20 (pc := 50) hb hN dX2_pass_50 ?_
        refine v_iload_n (pc := 53) 0 dX2_pass_53 rfl rfl ?_
        refine v_iconst (pc := 54) (nI 1) dX2_pass_54 (by decide) ?_
        refine v_iaddN (pc := 55) dX2_pass_55 ?_
        refine c_callVi (pc := 56) (st := []) (ci := 6) (ct_nxt1 (S := S) (b := b) (f := r + 1) (c := cClo M (rCo c r (nI 10)) r (nI 3)) hb (by omega) (by omega)) kVX2_121 kDX2_121 (rm_ok hR (Nat.le_of_ble_eq_true rfl) (Nat.le_of_ble_eq_true rfl)) ⟨Nat.zero_le _, Nat.zero_le _⟩ (by omega) ((BC_run hb (j := 1) (by decide)) G _).1 rfl rfl rfl rfl (Nat.le_of_ble_eq_true rfl) dX2_pass_56 ?_
        refine v_istore_n (pc := 59) (lv' := [(1, .int (nsb (msk (cClo M (rCo c r (nI 10)) r (nI 3)) 0 1) (r + 1))), (0, .ref (gZ G + b))]) dX2_pass_59 rfl (by decide) rfl ?_
        refine v_goto (pc := 60) 19 dX2_pass_60 (by decide) ?_
        refine v_sub (lv' := [(1, .int (nsb (msk (cClo M (rCo c r (nI 10)) r (nI 3)) 0 1) (r + 1))), (0, .ref (gZ G + b))]) [0, 1] rfl ?_
        have e1 : cT1 M c r = cClo M (rCo c r (nI 10)) r (nI 3) := by unfold cT1; rw [if_pos ⟨h5, Int32.not_le.mp c1⟩]
        have s1 := h.T1 hM hJ.1 hrm
        rw [e1] at s1
        refine ih (r + 1) _ _ (by omega) (by omega) s1 (RJ_rT1 hM hJ hrm) ?_
        rw [hG, rUp, e1] at hk
        rw [show 8 - (r + 1) = 7 - r by omega]
        exact hk

theorem upN_lt {u : Nat → Nat} {tl r j : Nat} (hr : r < 8) (h : ∀ j, j < tl → u j < 8) (hj : j < tl + 1) : upN u tl r j < 8 := by
  unfold upN
  split
  · exact hr
  · exact h j (by omega)
set_option maxHeartbeats 4000000 in
theorem lp_pb {G : GT} {x : VX} {N b : Nat} {Q : State → Prop} {S M : ST} {c : Nat → Int32} (hR : xR x = RM 7 0 0) (hb : RB b) (hN : 513 ≤ N) (hT : TR S M) (hM : MI M) (hk : ∀ (u : Nat → Nat) (tl : Nat), tl ≤ 8 → (∀ j, j < tl → u j < 8) → (∀ d, pL M u tl 0 d = rUp (cT2 c M) 8 0 d) → V G x "ScopeTasks$Run" cX2_pass 2 Q 114 [(0, .ref (gZ G + b))] [] N (hC G (put (qs S u 0 tl) b c)) 0 0) : ∀ (m f : Nat) (u : Nat → Nat) (tl : Nat), (f ≤ 8 ∧ 8 ≤ f + m) → f ≤ 8 → tl ≤ f → (∀ j, j < tl → u j < 8) → (∀ d, pL M u tl 0 d = rUp (cT2 c M) f 0 d) → V G x "ScopeTasks$Run" cX2_pass 2 Q 82 [(1, .int (nsb (msk c 0 1) f)), (0, .ref (gZ G + b))] [] N (hC G (put (qs S u 0 tl) b c)) 0 0 := by
  have hbl := hb.le
  have hbg := hb.ge
  have h8 := hM.n
  intro m
  induction m with
  | zero =>
    intro f u tl hm hf htl hu8 hp
    obtain rfl : f = 8 := by omega
    rcases nsb_c (c := c) (f := 8) (by omega) with ⟨h1, h2⟩ | ⟨r, h1, h2, h3, -⟩
    · rw [h1]
      refine v_iload_n (pc := 82) 0 dX2_pass_82 rfl rfl ?_
      refine v_if_lt (pc := 83) 114 dX2_pass_83 (by decide) (fun c1 => ?_) (fun c1 => ?_)
      · skip
        refine v_sub (lv' := [(0, .ref (gZ G + b))]) [1] rfl ?_
        exact hk u tl (by omega) hu8 (pL_done hf hp h2)
      · skip
        exact absurd c1 (by decide)
    · omega
  | succ m ih =>
    intro f u tl hm hf htl hu8 hp
    rcases nsb_c (c := c) (f := f) (by omega) with ⟨h1, h2⟩ | ⟨r, h1, h2, h3, h5, h6⟩
    · rw [h1]
      refine v_iload_n (pc := 82) 0 dX2_pass_82 rfl rfl ?_
      refine v_if_lt (pc := 83) 114 dX2_pass_83 (by decide) (fun c1 => ?_) (fun c1 => ?_)
      · skip
        refine v_sub (lv' := [(0, .ref (gZ G + b))]) [1] rfl ?_
        exact hk u tl (by omega) hu8 (pL_done hf hp h2)
      · skip
        exact absurd c1 (by decide)
    · rw [h1]
      refine v_iload_n (pc := 82) 0 dX2_pass_82 rfl rfl ?_
      refine v_if_ltN (pc := 83) (by omega) dX2_pass_83 114 (by decide) ?_
      refine v_aload_n (pc := 86) 1 dX2_pass_86 rfl rfl ?_
      refine gX2_3 (pc := 87) hb hN dX2_pass_87 ?_
      refine gX2_175 (pc := 90) hN dX2_pass_90 ?_
      refine v_iload_n (pc := 93) 0 dX2_pass_93 rfl rfl ?_
      refine c_callSa (pc := 94) (st := [.ref (gZ G + 53)]) (ct_J15_valueOf (S := put (qs S u 0 tl) b c) (c := r) (by omega)) kVX2_182 kDX2_182 (rm_ok hR (Nat.le_of_ble_eq_true rfl) (Nat.le_of_ble_eq_true rfl)) ⟨Nat.zero_le _, Nat.zero_le _⟩ rfl rfl (Nat.le_of_ble_eq_true rfl) dX2_pass_94 ?_
      refine c_callVv (pc := 97) (st := []) (ci := 7) (ct_J2_addLastI (S := put (qs S u 0 tl) b c) (k := 53) (c := r) (n := 17) (hd := 0) (tl := tl) DI_53 (by omega) (by omega) ((congrFun (put_ne (by omega)) _).trans qs_1) ((congrFun (put_ne (by omega)) _).trans qs_2) (by omega) (by omega) (by unfold dinc; split <;> omega) (by omega)) kVX2_188 kDX2_188 (rm_ok hR (Nat.le_of_ble_eq_true rfl) (Nat.le_of_ble_eq_true rfl)) ⟨Nat.zero_le _, Nat.zero_le _⟩ (by omega) (DI_53.1 G _) rfl rfl rfl rfl (Nat.le_of_ble_eq_true rfl) dX2_pass_97 ?_
      refine v_S (show _ = _ from (congrArg (fun z => s2 (s2 (put (qs S u 0 tl) b c) 54 tl (nI (r + 1))) 53 2 (nI z)) (show dinc tl 17 = tl + 1 by unfold dinc; rw [if_pos (by omega)])).trans (qs_push (by omega) (by omega))) ?_
      refine v_aload_n (pc := 100) 1 dX2_pass_100 rfl rfl ?_
      refine gX2_20 (pc := 101) hb hN dX2_pass_101 ?_
      refine v_iload_n (pc := 104) 0 dX2_pass_104 rfl rfl ?_
      refine v_iconst (pc := 105) (nI 1) dX2_pass_105 (by decide) ?_
      refine v_iaddN (pc := 106) dX2_pass_106 ?_
      refine c_callVi (pc := 107) (st := []) (ci := 6) (ct_nxt1 (S := qs S (upN u tl r) 0 (tl + 1)) (b := b) (f := r + 1) (c := c) hb (by omega) (by omega)) kVX2_121 kDX2_121 (rm_ok hR (Nat.le_of_ble_eq_true rfl) (Nat.le_of_ble_eq_true rfl)) ⟨Nat.zero_le _, Nat.zero_le _⟩ (by omega) ((BC_run hb (j := 1) (by decide)) G _).1 rfl rfl rfl rfl (Nat.le_of_ble_eq_true rfl) dX2_pass_107 ?_
      refine v_istore_n (pc := 110) (lv' := [(1, .int (nsb (msk c 0 1) (r + 1))), (0, .ref (gZ G + b))]) dX2_pass_110 rfl (by decide) rfl ?_
      refine v_goto (pc := 111) 82 dX2_pass_111 (by decide) ?_
      refine v_sub (lv' := [(1, .int (nsb (msk c 0 1) (r + 1))), (0, .ref (gZ G + b))]) [0, 1] rfl ?_
      exact ih (r + 1) _ (tl + 1) (by omega) (by omega) (by omega) (fun j hj => upN_lt h3 hu8 hj) (pL_push hp h2 h6 h5)

set_option maxHeartbeats 4000000 in
theorem lp_pc {G : GT} {x : VX} {N b : Nat} {Q : State → Prop} {S M : ST} {u : Nat → Nat} {tl : Nat} (hR : xR x = RM 7 0 0) (hb : RB b) (hN : 513 ≤ N) (hT : TR S M) (hM : MI M) (hL : ML M) (htl : tl ≤ 8) (hu8 : ∀ j, j < tl → u j < 8) : ∀ (m h : Nat) (c g : Nat → Int32), h + m = tl → Sim M c g → RJ M g → V G x "ScopeTasks$Run" cX2_pass 2 Q 163 [(0, .ref (gZ G + b))] [] N (hC G (put (qs S u tl tl) b (pL M u m h c))) 0 0 → V G x "ScopeTasks$Run" cX2_pass 2 Q 114 [(0, .ref (gZ G + b))] [] N (hC G (put (qs S u h tl) b c)) 0 0 := by
  have hbl := hb.le
  have hbg := hb.ge
  have h8 := hM.n
  intro m
  induction m with
  | zero =>
    intro h c g hm hs hJ hk
    have hE : h = tl := hm
    refine v_aload_n (pc := 114) 0 dX2_pass_114 rfl rfl ?_
    refine gX2_3 (pc := 115) hb hN dX2_pass_115 ?_
    refine gX2_175 (pc := 118) hN dX2_pass_118 ?_
    refine c_callVi (pc := 121) (st := []) (ci := 7) (ct_J2_isEmpty (S := put (qs S u h tl) b c) (k := 53) (hd := h) (tl := tl) DI_53.1 (by omega) ((congrFun (put_ne (by omega)) _).trans qs_1) ((congrFun (put_ne (by omega)) _).trans qs_2) (by omega) (by omega)) kVX2_192 kDX2_192 (rm_ok hR (Nat.le_of_ble_eq_true rfl) (Nat.le_of_ble_eq_true rfl)) ⟨Nat.zero_le _, Nat.zero_le _⟩ (by omega) (DI_53.1 G _) rfl rfl rfl rfl (Nat.le_of_ble_eq_true rfl) dX2_pass_121 ?_
    refine v_if_neB (pc := 124) 163 dX2_pass_124 (by decide) (fun c1 => ?_) (fun c1 => ?_)
    · skip
      refine v_sub (lv' := [(0, .ref (gZ G + b))]) [0] rfl ?_
      subst hE
      exact hk
    · skip
      exact absurd c1 (by omega)
  | succ m ih =>
    intro h c g hm hs hJ hk
    have hub := hs.UBc h8
    have hIc := hs.RIc hJ.1
    have hu7 := hu8 h (by omega)
    refine v_aload_n (pc := 114) 0 dX2_pass_114 rfl rfl ?_
    refine gX2_3 (pc := 115) hb hN dX2_pass_115 ?_
    refine gX2_175 (pc := 118) hN dX2_pass_118 ?_
    refine c_callVi (pc := 121) (st := []) (ci := 7) (ct_J2_isEmpty (S := put (qs S u h tl) b c) (k := 53) (hd := h) (tl := tl) DI_53.1 (by omega) ((congrFun (put_ne (by omega)) _).trans qs_1) ((congrFun (put_ne (by omega)) _).trans qs_2) (by omega) (by omega)) kVX2_192 kDX2_192 (rm_ok hR (Nat.le_of_ble_eq_true rfl) (Nat.le_of_ble_eq_true rfl)) ⟨Nat.zero_le _, Nat.zero_le _⟩ (by omega) (DI_53.1 G _) rfl rfl rfl rfl (Nat.le_of_ble_eq_true rfl) dX2_pass_121 ?_
    refine v_if_neB (pc := 124) 163 dX2_pass_124 (by decide) (fun c1 => ?_) (fun c1 => ?_)
    · skip
      exact absurd c1 (by omega)
    · skip
      refine v_aload_n (pc := 127) 0 dX2_pass_127 rfl rfl ?_
      refine gX2_3 (pc := 128) hb hN dX2_pass_128 ?_
      refine gX2_175 (pc := 131) hN dX2_pass_131 ?_
      refine c_callVa (pc := 134) (st := []) (ci := 7) (ct_J2_pollFirstI (S := put (qs S u h tl) b c) (k := 53) (n := 17) (hd := h) (c := u h) DI_53 (by omega) (by omega) ((congrFun (put_ne (by omega)) _).trans qs_1) (by omega) ((congrFun (put_ne (by omega)) _).trans ((congrFun qs_54 _).trans (if_pos ⟨Nat.le_refl _, by omega⟩))) (by omega)) kVX2_196 kDX2_196 (rm_ok hR (Nat.le_of_ble_eq_true rfl) (Nat.le_of_ble_eq_true rfl)) ⟨Nat.zero_le _, Nat.zero_le _⟩ (by omega) (DI_53.1 G _) rfl rfl rfl rfl (Nat.le_of_ble_eq_true rfl) dX2_pass_134 ?_
      refine v_S (show _ = _ from (congrArg (fun z => s2 (s2 (put (qs S u h tl) b c) 54 h (nI 0)) 53 1 (nI z)) (show dinc h 17 = h + 1 by unfold dinc; rw [if_pos (by omega)])).trans (qs_pop (by omega))) ?_
      refine v_castI (pc := 137) (c := (u h)) (by omega) q802 dX2_pass_137 ?_
      refine c_callXi (pc := 140) (c := (u h)) (st := []) (ct_J15_intValue (S := put (qs S u (h + 1) tl) b c) (c := (u h)) (by omega)) kVX2_200 kDX2_200 (rm_ok hR (Nat.le_of_ble_eq_true rfl) (Nat.le_of_ble_eq_true rfl)) ⟨Nat.zero_le _, Nat.zero_le _⟩ (by omega) rfl rfl (Nat.le_of_ble_eq_true rfl) dX2_pass_140 ?_
      refine v_istore_n (pc := 143) (lv' := [(1, .int (nI (((u h))))), (0, .ref (gZ G + b))]) dX2_pass_143 rfl (by decide) rfl ?_
      refine v_aload_n (pc := 144) 1 dX2_pass_144 rfl rfl ?_
      refine gX2_20 (pc := 145) hb hN dX2_pass_145 ?_
      refine v_iload_n (pc := 148) 0 dX2_pass_148 rfl rfl ?_
      refine c_callVi (pc := 149) (st := []) (ci := 6) (ct_get1 (S := qs S u (h + 1) tl) (b := b) (t := ((u h))) (c := c) hb (by omega) (by omega)) kVX2_103 kDX2_103 (rm_ok hR (Nat.le_of_ble_eq_true rfl) (Nat.le_of_ble_eq_true rfl)) ⟨Nat.zero_le _, Nat.zero_le _⟩ (by omega) ((BC_run hb (j := 1) (by decide)) G _).1 rfl rfl rfl rfl (Nat.le_of_ble_eq_true rfl) dX2_pass_149 ?_
      refine v_if_eqB (pc := 152) 160 dX2_pass_152 (by decide) (fun c2 => ?_) (fun c2 => ?_)
      · skip
        refine v_goto (pc := 160) 114 dX2_pass_160 (by decide) ?_
        refine v_sub (lv' := [(0, .ref (gZ G + b))]) [1] rfl ?_
        rw [pL, if_neg c2] at hk
        exact ih (h + 1) c g (by omega) hs hJ hk
      · skip
        have htm := hub.lt (n := 0) hu7 c2 (by omega)
        refine v_aload_n (pc := 155) 1 dX2_pass_155 rfl rfl ?_
        refine v_iload_n (pc := 156) 0 dX2_pass_156 rfl rfl ?_
        refine c_callVv (pc := 157) (st := []) (ci := 2) (ct_X2_turn (S := qs S u (h + 1) tl) (b := b) (t := ((u h))) (c := c) (M := M) hb htm (TR_qs hM hT) hM c2 (hIc.2 _ hu7).1 (hs.le hM hJ htm) hIc.1 (hIc.2 _ hu7).2 hub hs.BG (by omega)) kVX2_204 kDX2_204 (rm_ok hR (Nat.le_of_ble_eq_true rfl) (Nat.le_of_ble_eq_true rfl)) ⟨Nat.zero_le _, Nat.zero_le _⟩ (by omega) (hC_run (j := 0) hb (by decide) rfl) rfl rfl rfl rfl (Nat.le_of_ble_eq_true rfl) dX2_pass_157 ?_
        refine v_goto (pc := 160) 114 dX2_pass_160 (by decide) ?_
        refine v_sub (lv' := [(0, .ref (gZ G + b))]) [1] rfl ?_
        rw [pL, if_pos c2] at hk
        exact ih (h + 1) _ _ (by omega) (hs.mv hM hL hJ htm ((hs.how hu7).symm.trans c2)) (RJ_rMv hM hJ htm) hk

set_option maxHeartbeats 4000000 in
theorem lp_pd {G : GT} {x : VX} {N b : Nat} {Q : State → Prop} {S M : ST} (hR : xR x = RM 7 0 0) (hb : RB b) (hN : 513 ≤ N) (hT : TR S M) (hM : MI M) : ∀ (m : Nat) (c g : Nat → Int32), m ≤ mN M → Sim M c g → RJ M g → V G x "ScopeTasks$Run" cX2_pass 2 Q 202 [(0, .ref (gZ G + b))] [] N (hC G (put S b (rDn (cT3 M) m c))) 0 0 → V G x "ScopeTasks$Run" cX2_pass 2 Q 176 [(1, .int (nI m + Int32.ofInt (-1))), (0, .ref (gZ G + b))] [] N (hC G (put S b c)) 0 0 := by
  have hbl := hb.le
  have hbg := hb.ge
  have h8 := hM.n
  intro m
  induction m with
  | zero =>
    intro c g hm hs hJ hk
    refine v_iload_n (pc := 176) 0 dX2_pass_176 rfl rfl ?_
    refine v_if_lt (pc := 177) 202 dX2_pass_177 (by decide) (fun c1 => ?_) (fun c1 => ?_)
    · skip
      refine v_sub (lv' := [(0, .ref (gZ G + b))]) [1] rfl ?_
      exact hk
    · skip
      exact absurd c1 (by decide)
  | succ m ih =>
    intro c g hm hs hJ hk
    have hub := hs.UBc h8
    have hIc := hs.RIc hJ.1
    refine v_lv (lv' := [(1, .int (nI m)), (0, .ref (gZ G + b))]) (by rw [dec1]) ?_
    refine v_iload_n (pc := 176) 0 dX2_pass_176 rfl rfl ?_
    refine v_if_ltN (pc := 177) (by omega) dX2_pass_177 202 (by decide) ?_
    refine v_aload_n (pc := 180) 1 dX2_pass_180 rfl rfl ?_
    refine gX2_24 (pc := 181) hb hN dX2_pass_181 ?_
    refine v_iload_n (pc := 184) 0 dX2_pass_184 rfl rfl ?_
    refine c_callVi (pc := 185) (st := []) (ci := 6) (ct_get3 (S := S) (b := b) (t := m) (c := c) hb (by omega) (by omega)) kVX2_103 kDX2_103 (rm_ok hR (Nat.le_of_ble_eq_true rfl) (Nat.le_of_ble_eq_true rfl)) ⟨Nat.zero_le _, Nat.zero_le _⟩ (by omega) ((BC_run hb (j := 3) (by decide)) G _).1 rfl rfl rfl rfl (Nat.le_of_ble_eq_true rfl) dX2_pass_185 ?_
    refine v_if_eqB (pc := 188) 196 dX2_pass_188 (by decide) (fun c1 => ?_) (fun c1 => ?_)
    · skip
      refine v_iinc (pc := 196) (k := 0) (lv' := [(1, .int (nI m + Int32.ofInt (-1))), (0, .ref (gZ G + b))]) dX2_pass_196 rfl rfl (by decide) rfl ?_
      refine v_goto (pc := 199) 176 dX2_pass_199 (by decide) ?_
      refine v_sub (lv' := [(1, .int (nI m + Int32.ofInt (-1))), (0, .ref (gZ G + b))]) [0, 1] rfl ?_
      have e1 : cT3 M c m = c := by unfold cT3; rw [if_neg c1]
      have s1 := hs.T3 hM hJ.1 (t := m) (by omega)
      rw [rDn, e1] at hk
      rw [e1] at s1
      exact ih _ _ (by omega) s1 (RJ_rT3 hM hJ (by omega)) hk
    · skip
      refine v_aload_n (pc := 191) 1 dX2_pass_191 rfl rfl ?_
      refine v_iload_n (pc := 192) 0 dX2_pass_192 rfl rfl ?_
      refine c_callVv (pc := 193) (st := []) (ci := 2) (ct_X2_cleanUp (S := S) (b := b) (t := m) (c := c) (M := M) hb (by omega) hT hM c1 hIc hub (by omega)) kVX2_207 kDX2_207 (rm_ok hR (Nat.le_of_ble_eq_true rfl) (Nat.le_of_ble_eq_true rfl)) ⟨Nat.zero_le _, Nat.zero_le _⟩ (by omega) (hC_run (j := 0) hb (by decide) rfl) rfl rfl rfl rfl (Nat.le_of_ble_eq_true rfl) dX2_pass_193 ?_
      refine v_iinc (pc := 196) (k := 0) (lv' := [(1, .int (nI m + Int32.ofInt (-1))), (0, .ref (gZ G + b))]) dX2_pass_196 rfl rfl (by decide) rfl ?_
      refine v_goto (pc := 199) 176 dX2_pass_199 (by decide) ?_
      refine v_sub (lv' := [(1, .int (nI m + Int32.ofInt (-1))), (0, .ref (gZ G + b))]) [0, 1] rfl ?_
      have e1 : cT3 M c m = cCl M c m := by unfold cT3; rw [if_pos c1]
      have s1 := hs.T3 hM hJ.1 (t := m) (by omega)
      rw [rDn, e1] at hk
      rw [e1] at s1
      exact ih _ _ (by omega) s1 (RJ_rT3 hM hJ (by omega)) hk

set_option maxHeartbeats 4000000 in
theorem ct_X2_pass {G : GT} {l : Launch} {N : Nat} {S : ST} {c : Nat → Int32} {b : Nat} {M : ST} {g : Nat → Int32} (hb : RB b) (hT : TR S M) (hM : MI M) (hL : ML M) (hs : Sim M c g) (hJ : RJ M g) (hb2 : nn (g 144) < 2000) (hq : QE S) (hN : 513 ≤ N) : CTvE G l yX2_pass cX2_pass 2 none 7 [.ref (gZ G + b)] N (put S b c) (PQ S b (cTick M c)) := by
  have hbl := hb.le
  have hbg := hb.ge
  obtain ⟨m0, hq0, hq1, hq2, hq4⟩ := hq
  have h1n := hM.2.1
  have h8n := hM.n
  obtain ⟨n, hn⟩ : ∃ n, mN M = n := ⟨_, rfl⟩
  have hnE : S 1 0 = nI n := by rw [hT.n, ← hn]; exact hM.1.1
  rw [hn] at h1n h8n
  refine CT.mk "ScopeTasks$Run" [(0, .ref (gZ G + b))] rfl (by decide) rfl (Nat.le_of_ble_eq_true rfl) ?_
  intro x hR hl hr hnm
  refine v_aload_n (pc := 0) 0 dX2_pass_0 rfl rfl ?_
  refine v_dup (pc := 1) dX2_pass_1 rfl ?_
  refine gX2_69 (pc := 2) hb hN dX2_pass_2 ?_
  refine v_topi (v := c 144) (pr_0) ?_
  refine v_iconst (pc := 5) (nI 1) dX2_pass_5 (by decide) ?_
  refine v_iadd (pc := 6) dX2_pass_6 ?_
  refine pX2_69 (pc := 7) hb hN dX2_pass_7 ?_
  refine v_S (pw_0) ?_
  refine v_aload_n (pc := 10) 0 dX2_pass_10 rfl rfl ?_
  refine gX2_20 (pc := 11) hb hN dX2_pass_11 ?_
  refine v_iconst (pc := 14) (nI 0) dX2_pass_14 (by decide) ?_
  refine c_callVi (pc := 15) (st := []) (ci := 6) (ct_nxt1 (S := S) (b := b) (f := 0) (c := upd c 144 ((c 144) + (nI 1))) hb (by omega) (by omega)) kVX2_121 kDX2_121 (rm_ok hR (Nat.le_of_ble_eq_true rfl) (Nat.le_of_ble_eq_true rfl)) ⟨Nat.zero_le _, Nat.zero_le _⟩ (by omega) ((BC_run hb (j := 1) (by decide)) G _).1 rfl rfl rfl rfl (Nat.le_of_ble_eq_true rfl) dX2_pass_15 ?_
  refine v_istore_n (pc := 18) (lv' := [(1, .int (nsb (msk (upd c 144 ((c 144) + (nI 1))) 0 1) 0)), (0, .ref (gZ G + b))]) dX2_pass_18 rfl (by decide) rfl ?_
  refine v_sub (lv' := [(1, .int (nsb (msk (upd c 144 ((c 144) + (nI 1))) 0 1) 0)), (0, .ref (gZ G + b))]) [0, 1] rfl ?_
  obtain ⟨s1, j1, k1⟩ := hs.tk1 hM hJ hb2
  refine lp_pa hR hb hN hT hM 8 0 _ _ (by omega) (by omega) (hs.T0 hJ.1 hb2) (RJ_144 hM hJ _) ?_
  rw [show rUp (cT1 M) (8 - 0) 0 (upd c 144 (c 144 + nI 1)) = cTk1 M c from tk1_8 hM.n (s1.UBc hM.n)]
  unfold cTick
  obtain ⟨c1, hc1⟩ : ∃ c1, cTk1 M c = c1 := ⟨_, rfl⟩
  rw [hc1] at s1 ⊢
  refine v_aload_n (pc := 63) 0 dX2_pass_63 rfl rfl ?_
  refine gX2_3 (pc := 64) hb hN dX2_pass_64 ?_
  refine gX2_175 (pc := 67) hN dX2_pass_67 ?_
  refine c_callVv (pc := 70) (st := []) (ci := 7) (ct_J2_clearI (S := put S b c1) (k := 53) (n := 17) (hd := m0) DI_53 (by omega) (by omega) ((congrFun (put_ne (by omega)) _).trans hq1) ((congrFun (put_ne (by omega)) _).trans hq2) (by omega)) kVX2_179 kDX2_179 (rm_ok hR (Nat.le_of_ble_eq_true rfl) (Nat.le_of_ble_eq_true rfl)) ⟨Nat.zero_le _, Nat.zero_le _⟩ (by omega) (DI_53.1 G _) rfl rfl rfl rfl (Nat.le_of_ble_eq_true rfl) dX2_pass_70 ?_
  refine v_S (show _ = _ from qs_zero (u := fun _ => 0) (by omega) hq4) ?_
  refine v_aload_n (pc := 73) 0 dX2_pass_73 rfl rfl ?_
  refine gX2_20 (pc := 74) hb hN dX2_pass_74 ?_
  refine v_iconst (pc := 77) (nI 0) dX2_pass_77 (by decide) ?_
  refine c_callVi (pc := 78) (st := []) (ci := 6) (ct_nxt1 (S := qs S (fun _ => 0) 0 0) (b := b) (f := 0) (c := c1) hb (by omega) (by omega)) kVX2_121 kDX2_121 (rm_ok hR (Nat.le_of_ble_eq_true rfl) (Nat.le_of_ble_eq_true rfl)) ⟨Nat.zero_le _, Nat.zero_le _⟩ (by omega) ((BC_run hb (j := 1) (by decide)) G _).1 rfl rfl rfl rfl (Nat.le_of_ble_eq_true rfl) dX2_pass_78 ?_
  refine v_istore_n (pc := 81) (lv' := [(1, .int (nsb (msk c1 0 1) 0)), (0, .ref (gZ G + b))]) dX2_pass_81 rfl (by decide) rfl ?_
  refine v_sub (lv' := [(1, .int (nsb (msk c1 0 1) 0)), (0, .ref (gZ G + b))]) [0, 1] rfl ?_
  refine lp_pb hR hb hN hT hM ?_ 8 0 _ 0 (by omega) (by omega) (by omega) (fun j hj => absurd hj (by omega)) (fun d => rfl)
  intro u tl htl hu8 hpl
  refine lp_pc hR hb hN hT hM hL htl hu8 tl 0 c1 _ (by omega) s1 j1 ?_
  obtain ⟨s2, j2⟩ := s1.tk2 hM hL j1 k1
  rw [hpl, tk2_8 hM.n (s1.UBc hM.n), qs_end]
  generalize cTk2 M c1 = c2 at s2 ⊢
  have hT2 : TR (qe S tl) M := hT.to hM (fun k h1 h2 => qe_ne (by omega) (by omega))
  refine v_aload_n (pc := 163) 0 dX2_pass_163 rfl rfl ?_
  refine gX2_3 (pc := 164) hb hN dX2_pass_164 ?_
  refine gX2_107 (pc := 167) hN dX2_pass_167 ?_
  refine gX2_137 (pc := 170) TB_1 hN dX2_pass_170 ?_
  refine v_topi (v := nI n) ((congrFun (put_ne (by omega)) _).trans ((congrFun (qe_ne (by omega) (by omega)) _).trans hnE)) ?_
  refine v_iconst (pc := 173) (nI 1) dX2_pass_173 (by decide) ?_
  refine v_isubN (pc := 174) (by omega) dX2_pass_174 ?_
  refine v_istore_n (pc := 175) (lv' := [(1, .int (nI (n - 1))), (0, .ref (gZ G + b))]) dX2_pass_175 rfl (by decide) rfl ?_
  refine v_sub (lv' := [(1, .int (nI (n - 1))), (0, .ref (gZ G + b))]) [0, 1] rfl ?_
  refine v_lv (lv' := [(1, .int (nI n + Int32.ofInt (-1))), (0, .ref (gZ G + b))]) (by rw [show nI n + Int32.ofInt (-1) = nI (n - 1) from by rw [show n = (n - 1) + 1 by omega, dec1]; rfl]) ?_
  refine lp_pd hR hb hN hT2 hM n _ _ (by omega) s2 j2 ?_
  rw [← hn]
  exact v_vret (pc := 202) hr (Nat.le_refl _) (Nat.le_refl _) dX2_pass_202 ⟨rfl, rfl, _, ⟨qe S tl, ⟨fun k h1 h2 => qe_ne h1 h2, qe_QE (by omega)⟩, rfl⟩, rfl⟩

set_option maxHeartbeats 4000000 in
theorem lp_got {G : GT} {x : VX} {N b t n : Nat} {Q : State → Prop} {M : ST} (hR : xR x = RM 8 0 0) (hb : RB b) (ht : t < 8) (hn : n ≤ 300) (hN : 513 ≤ N) (hM : MI M) (hL : ML M) : ∀ (m k : Nat) (c g : Nat → Int32) (S : ST), k + m = n → Sim M c g → RJ M g → nn (g 144) + m ≤ 2000 → TR S M → QE S → (∀ S', QX S S' → V G x "ScopeTasks$Run" cX2_goTill 4 Q 35 [(0, .ref (gZ G + b)), (1, .int (nI t))] [] N (hC G (put S' b (cGo M t m c))) 0 0) → V G x "ScopeTasks$Run" cX2_goTill 4 Q 2 [(3, .int (nI k)), (0, .ref (gZ G + b)), (1, .int (nI t)), (2, .int (nI n))] [] N (hC G (put S b c)) 0 0 := by
  have hbl := hb.le
  have hbg := hb.ge
  intro m
  induction m with
  | zero =>
    intro k c g S hm hs hJ hb2 hT hq hk
    refine v_iload_n (pc := 2) 0 dX2_goTill_2 rfl rfl ?_
    refine v_iload_n (pc := 3) 3 dX2_goTill_3 rfl rfl ?_
    refine v_ic_geN (pc := 4) 35 (by omega) (by omega) dX2_goTill_4 (by decide) (fun c1 => ?_) (fun c1 => ?_)
    · skip
      refine v_sub (lv' := [(0, .ref (gZ G + b)), (1, .int (nI t))]) [1, 2] rfl ?_
      exact hk S (QX.rf hq)
    · skip
      exact absurd c1 (by omega)
  | succ m ih =>
    intro k c g S hm hs hJ hb2 hT hq hk
    refine v_iload_n (pc := 2) 0 dX2_goTill_2 rfl rfl ?_
    refine v_iload_n (pc := 3) 3 dX2_goTill_3 rfl rfl ?_
    refine v_ic_geN (pc := 4) 35 (by omega) (by omega) dX2_goTill_4 (by decide) (fun c1 => ?_) (fun c1 => ?_)
    · skip
      exact absurd c1 (by omega)
    · skip
      refine v_aload_n (pc := 7) 1 dX2_goTill_7 rfl rfl ?_
      refine gX2_27 (pc := 8) hb hN dX2_goTill_8 ?_
      refine v_iload_n (pc := 11) 2 dX2_goTill_11 rfl rfl ?_
      refine c_callVi (pc := 12) (st := []) (ci := 6) (ct_get5 (S := S) (b := b) (t := t) (c := c) hb (by omega) (by omega)) kVX2_103 kDX2_103 (rm_ok hR (Nat.le_of_ble_eq_true rfl) (Nat.le_of_ble_eq_true rfl)) ⟨Nat.zero_le _, Nat.zero_le _⟩ (by omega) ((BC_run hb (j := 5) (by decide)) G _).1 rfl rfl rfl rfl (Nat.le_of_ble_eq_true rfl) dX2_goTill_12 ?_
      refine v_if_neB (pc := 15) 35 dX2_goTill_15 (by decide) (fun c2 => ?_) (fun c2 => ?_)
      · skip
        refine v_sub (lv' := [(0, .ref (gZ G + b)), (1, .int (nI t))]) [1, 2] rfl ?_
        rw [cGo, if_pos (Or.inl c2)] at hk
        exact hk S (QX.rf hq)
      · skip
        refine v_aload_n (pc := 18) 1 dX2_goTill_18 rfl rfl ?_
        refine c_callVi (pc := 19) (st := []) (ci := 2) (ct_X2_isOver (S := S) (b := b) (c := c) hb (by omega)) kVX2_209 kDX2_209 (rm_ok hR (Nat.le_of_ble_eq_true rfl) (Nat.le_of_ble_eq_true rfl)) ⟨Nat.zero_le _, Nat.zero_le _⟩ (by omega) (hC_run (j := 0) hb (by decide) rfl) rfl rfl rfl rfl (Nat.le_of_ble_eq_true rfl) dX2_goTill_19 ?_
        refine v_if_neB (pc := 22) 35 dX2_goTill_22 (by decide) (fun c3 => ?_) (fun c3 => ?_)
        · skip
          refine v_sub (lv' := [(0, .ref (gZ G + b)), (1, .int (nI t))]) [1, 2] rfl ?_
          rw [cGo, if_pos (Or.inr c3)] at hk
          exact hk S (QX.rf hq)
        · skip
          refine v_aload_n (pc := 25) 1 dX2_goTill_25 rfl rfl ?_
          refine c_callVvE (pc := 26) (st := []) (ci := 2) (ct_X2_pass (S := S) (b := b) (c := c) (M := M) (g := g) hb hT hM hL hs hJ (by omega) hq (by omega)) kVX2_212 kDX2_212 (rm_ok hR (Nat.le_of_ble_eq_true rfl) (Nat.le_of_ble_eq_true rfl)) ⟨Nat.zero_le _, Nat.zero_le _⟩ (by omega) (hC_run (j := 0) hb (by decide) rfl) rfl rfl rfl rfl (Nat.le_of_ble_eq_true rfl) dX2_goTill_26 (fun X1 hX => ?_)
          obtain ⟨Y1, hY1, rfl⟩ := hX
          refine v_iincN (pc := 29) (k := 0) (lv' := [(3, .int (nI (k + 1))), (0, .ref (gZ G + b)), (1, .int (nI t)), (2, .int (nI n))]) dX2_goTill_29 rfl (by decide) rfl ?_
          refine v_goto (pc := 32) 2 dX2_goTill_32 (by decide) ?_
          refine v_sub (lv' := [(3, .int (nI (k + 1))), (0, .ref (gZ G + b)), (1, .int (nI t)), (2, .int (nI n))]) [0, 1, 2, 3] rfl ?_
          rw [cGo, if_neg (fun z => z.elim c2 c3)] at hk
          have hE : rTick M g 144 = nI (nn (g 144) + 1) := by rw [rTick_144 hM hJ]; exact nI_nat1 hs.2.2.2.1.1
          exact ih (k + 1) _ _ Y1 (by omega) (hs.tick hM hL hJ (by omega)) (RJ_rTick hM hJ) (by rw [hE, nn_of (by omega)]; omega) (hY1.TR hM hT) hY1.2 (fun S2 q => hk S2 (hY1.tr q))

set_option maxHeartbeats 4000000 in
theorem ct_X2_goTill {G : GT} {l : Launch} {N : Nat} {S : ST} {c : Nat → Int32} {b t n : Nat} {M : ST} {g : Nat → Int32} (hb : RB b) (ht : t < 8) (hn : n ≤ 300) (hT : TR S M) (hM : MI M) (hL : ML M) (hs : Sim M c g) (hJ : RJ M g) (hb2 : nn (g 144) + n ≤ 2000) (hq : QE S) (hN : 513 ≤ N) : CTiE G l yX2_goTill cX2_goTill 4 (some .boolean) 8 [.ref (gZ G + b), .int (nI t), .int (nI n)] N (put S b c) (bI (cGo M t n c (18 * t) = nI 3)) (PQ S b (cGo M t n c)) := by
  have hbl := hb.le
  have hbg := hb.ge
  refine CT.mk "ScopeTasks$Run" [(0, .ref (gZ G + b)), (1, .int (nI t)), (2, .int (nI n))] rfl (by decide) rfl (Nat.le_of_ble_eq_true rfl) ?_
  intro x hR hl hr hnm
  refine v_iconst (pc := 0) (nI 0) dX2_goTill_0 (by decide) ?_
  refine v_istore_n (pc := 1) (lv' := [(3, .int (nI 0)), (0, .ref (gZ G + b)), (1, .int (nI t)), (2, .int (nI n))]) dX2_goTill_1 rfl (by decide) rfl ?_
  refine v_sub (lv' := [(3, .int (nI 0)), (0, .ref (gZ G + b)), (1, .int (nI t)), (2, .int (nI n))]) [0, 1, 2, 3] rfl ?_
  refine lp_got hR hb ht hn hN hM hL n 0 c g S (by omega) hs hJ hb2 hT hq (fun Y hY => ?_)
  refine v_aload_n (pc := 35) 0 dX2_goTill_35 rfl rfl ?_
  refine gX2_27 (pc := 36) hb hN dX2_goTill_36 ?_
  refine v_iload_n (pc := 39) 1 dX2_goTill_39 rfl rfl ?_
  refine c_callVi (pc := 40) (st := []) (ci := 6) (ct_get5 (S := Y) (b := b) (t := t) (c := cGo M t n c) hb (by omega) (by omega)) kVX2_103 kDX2_103 (rm_ok hR (Nat.le_of_ble_eq_true rfl) (Nat.le_of_ble_eq_true rfl)) ⟨Nat.zero_le _, Nat.zero_le _⟩ (by omega) ((BC_run hb (j := 5) (by decide)) G _).1 rfl rfl rfl rfl (Nat.le_of_ble_eq_true rfl) dX2_goTill_40 ?_
  exact v_iret (pc := 43) hr bI_nar (Nat.le_refl _) (Nat.le_refl _) dX2_goTill_43 ⟨_, rfl, rfl, rfl, _, ⟨Y, hY, rfl⟩, rfl⟩

