set_option maxRecDepth 100000
/-! ScopeTasks$Reader: here, step, may -/
set_option maxHeartbeats 4000000 in
theorem ct_X4_here {G : GT} {l : Launch} {N : Nat} {S : ST} {g : Nat → Int32} {r p L : Nat} {X : Nat → Int32} (hrr : 535 ≤ r) (hrN : r < N) (h9 : RDg g) (hp : g 0 = nI p) (hpL : p ≤ L) (hX : TXT S X L) : CTi G l yX4_here cX4_here 1 (some .int) 0 [.ref (gZ G + r)] N (s1 S r g) (hrV X L p) (s1 S r g) := by
  have hL12 := hX.1
  refine CT.mk "ScopeTasks$Reader" [(0, .ref (gZ G + r))] rfl (by decide) rfl (Nat.le_of_ble_eq_true rfl) ?_
  intro x hR hl hr hnm
  refine v_aload_n (pc := 0) 0 dX4_here_0 rfl rfl ?_
  refine gX4_15 (pc := 1) hrr ((congrFun (s1_at _ _ _) _).trans h9) hrN dX4_here_1 ?_
  refine v_topi (v := nI p) ((congrFun (s1_at _ _ _) _).trans hp) ?_
  refine v_aload_n (pc := 4) 0 dX4_here_4 rfl rfl ?_
  refine gX4_3 (pc := 5) hrr ((congrFun (s1_at _ _ _) _).trans h9) hrN dX4_here_5 ?_
  refine gX4_19 (pc := 8) (by omega) dX4_here_8 ?_
  refine v_topi (v := nI L) ((congrFun (s1_ne (by omega)) _).trans hX.2.1) ?_
  refine v_ic_geN (pc := 11) 33 (by omega) (by omega) dX4_here_11 (by decide) (fun c1 => ?_) (fun c1 => ?_)
  · skip
    refine v_iconst (pc := 33) ((-1)) dX4_here_33 (by decide) ?_
    exact v_iret (pc := 34) hr rfl (Nat.le_refl _) (Nat.le_refl _) dX4_here_34 (pI_mk (hrV_end (by omega)).symm (hC_c rfl))
  · skip
    refine v_aload_n (pc := 14) 0 dX4_here_14 rfl rfl ?_
    refine gX4_3 (pc := 15) hrr ((congrFun (s1_at _ _ _) _).trans h9) hrN dX4_here_15 ?_
    refine gX4_22 (pc := 18) (by omega) dX4_here_18 ?_
    refine v_aload_n (pc := 21) 0 dX4_here_21 rfl rfl ?_
    refine gX4_15 (pc := 22) hrr ((congrFun (s1_at _ _ _) _).trans h9) hrN dX4_here_22 ?_
    refine v_topi (v := nI p) ((congrFun (s1_at _ _ _) _).trans hp) ?_
    refine c_bald (pc := 25) (k := 173) (j := p) YA_173 (by omega) rfl (by omega) (by decide) dX4_here_25 ?_
    refine v_topi (v := S 173 p) (congrFun (s1_ne (by omega)) _) ?_
    refine v_sipush (pc := 26) (nI 255) dX4_here_26 (by decide) ?_
    refine v_iand (pc := 29) dX4_here_29 ?_
    refine v_goto (pc := 30) 34 dX4_here_30 (by decide) ?_
    exact v_iret (pc := 34) hr rfl (Nat.le_refl _) (Nat.le_refl _) dX4_here_34 (pI_mk (by unfold hrV; rw [if_pos c1]; exact (hX.2.2 p c1).2) (hC_c rfl))

set_option maxHeartbeats 4000000 in
theorem lp_rs1 {G : GT} {x : VX} {N r L : Nat} {Q : State → Prop} {S : ST} {X : Nat → Int32} {g : Nat → Int32} (hR : xR x = RM 4 0 0) (hrr : 535 ≤ r) (hrN : r < N) (hX : TXT S X L) (h9 : RDg g) : ∀ (m p : Nat), p + m = L → V G x "ScopeTasks$Reader" cX4_step 3 Q 22 [(0, .ref (gZ G + r))] [] N (hC G (s1 S r (upd g 0 (nI (sk X L p))))) 0 0 → V G x "ScopeTasks$Reader" cX4_step 3 Q 0 [(0, .ref (gZ G + r))] [] N (hC G (s1 S r (upd g 0 (nI p)))) 0 0 := by
  have hL12 := hX.1
  intro m
  induction m with
  | zero =>
    intro p hpm hk
    obtain rfl : p = L := hpm
    refine v_aload_n (pc := 0) 0 dX4_step_0 rfl rfl ?_
    refine c_callVi (pc := 1) (st := []) (ci := 4) (ct_X4_here (S := S) (r := r) (g := upd g 0 (nI p)) (L := p) (X := X) (p := p) hrr hrN ((pk_un (by omega)).trans h9) pk_us (by omega) hX) kVX4_26 kDX4_26 (rm_ok hR (Nat.le_of_ble_eq_true rfl) (Nat.le_of_ble_eq_true rfl)) ⟨Nat.zero_le _, Nat.zero_le _⟩ (by omega) (show hC G _ r = rdE G _ from cO_rd hrr ((congrFun (s1_at _ _ _) _).trans ((pk_un (by omega)).trans h9))) rfl rfl rfl rfl (Nat.le_of_ble_eq_true rfl) dX4_step_1 ?_
    refine v_topi (v := (-1)) (hrV_end (by omega)) ?_
    refine v_bipush (pc := 4) (nI 32) dX4_step_4 (by decide) ?_
    refine v_ic_ne (pc := 6) 22 dX4_step_6 (by decide) (fun c1 => ?_) (fun c1 => ?_)
    · skip
      refine v_sub (lv' := [(0, .ref (gZ G + r))]) [0] rfl ?_
      rw [sk_end] at hk
      exact hk
    · skip
      exact absurd c1 (by decide)
  | succ m ih =>
    intro p hpm hk
    have hpl : p < L := by omega
    obtain ⟨v, hv8, hv⟩ := (hX.2.2 p hpl).1
    refine v_aload_n (pc := 0) 0 dX4_step_0 rfl rfl ?_
    refine c_callVi (pc := 1) (st := []) (ci := 4) (ct_X4_here (S := S) (r := r) (g := upd g 0 (nI p)) (L := L) (X := X) (p := p) hrr hrN ((pk_un (by omega)).trans h9) pk_us (by omega) hX) kVX4_26 kDX4_26 (rm_ok hR (Nat.le_of_ble_eq_true rfl) (Nat.le_of_ble_eq_true rfl)) ⟨Nat.zero_le _, Nat.zero_le _⟩ (by omega) (show hC G _ r = rdE G _ from cO_rd hrr ((congrFun (s1_at _ _ _) _).trans ((pk_un (by omega)).trans h9))) rfl rfl rfl rfl (Nat.le_of_ble_eq_true rfl) dX4_step_1 ?_
    refine v_topi (v := nI v) (hrV_in hpl hv) ?_
    refine v_bipush (pc := 4) (nI 32) dX4_step_4 (by decide) ?_
    refine v_ic_neN (pc := 6) 22 (by omega) (by omega) dX4_step_6 (by decide) (fun c1 => ?_) (fun c1 => ?_)
    · skip
      refine v_sub (lv' := [(0, .ref (gZ G + r))]) [0] rfl ?_
      rw [sk_s hpl, if_neg (fun z => c1 (nI_inj (by omega) (by omega) (hv.symm.trans z)))] at hk
      exact hk
    · skip
      refine v_aload_n (pc := 9) 0 dX4_step_9 rfl rfl ?_
      refine v_dup (pc := 10) dX4_step_10 rfl ?_
      refine gX4_15 (pc := 11) hrr ((congrFun (s1_at _ _ _) _).trans ((pk_un (by omega)).trans h9)) hrN dX4_step_11 ?_
      refine v_topi (v := nI p) ((congrFun (s1_at _ _ _) _).trans pk_us) ?_
      refine v_iconst (pc := 14) (nI 1) dX4_step_14 (by decide) ?_
      refine v_iaddN (pc := 15) dX4_step_15 ?_
      refine pX4_15 (pc := 16) hrr ((congrFun (s1_at _ _ _) _).trans ((pk_un (by omega)).trans h9)) hrN dX4_step_16 ?_
      refine v_S (s2_s1 _ _ _ _ _) ?_
      refine v_goto (pc := 19) 0 dX4_step_19 (by decide) ?_
      refine v_sub (lv' := [(0, .ref (gZ G + r))]) [0] rfl ?_
      refine v_S (congrArg (s1 S r) (upd_upd g 0 _ _)) ?_
      rw [sk_s hpl, if_pos (by rw [hv, c1])] at hk
      exact ih (p + 1) (by omega) hk

theorem l2_up {g : Nat → Int32} {p v w : Nat} (hv : 48 ≤ v) : upd (upd (upd (upd g 3 (nI (min 100 w))) 0 (nI p)) 3 (nI (min 100 (10 * min 100 w + v - 48)))) 0 (nI (p + 1)) = upd (upd g 3 (nI (min 100 (if 99 < w then w else 10 * w + v - 48)))) 0 (nI (p + 1)) := by
  rw [show min 100 (10 * min 100 w + v - 48) = min 100 (if 99 < w then w else 10 * w + v - 48) by split <;> omega]
  rw [upd_comm (i := 0) (j := 3) (by decide), upd_upd, upd_upd]
set_option maxHeartbeats 4000000 in
theorem lp_rs2 {G : GT} {x : VX} {N r L : Nat} {Q : State → Prop} {S : ST} {X : Nat → Int32} {g : Nat → Int32} {cv : Int32} (hR : xR x = RM 4 0 0) (hrr : 535 ≤ r) (hrN : r < N) (hX : TXT S X L) (h9 : RDg g) : ∀ (m p w : Nat), p + m = L → w ≤ 999 → V G x "ScopeTasks$Reader" cX4_step 3 Q 115 [(0, .ref (gZ G + r)), (1, .int (cv))] [] N (hC G (s1 S r (upd (upd g 3 (nI (min 100 (dg X L m p w).1))) 0 (nI (dg X L m p w).2)))) 0 0 → V G x "ScopeTasks$Reader" cX4_step 3 Q 64 [(0, .ref (gZ G + r)), (1, .int (cv))] [] N (hC G (s1 S r (upd (upd g 3 (nI (min 100 w))) 0 (nI p)))) 0 0 := by
  have hL12 := hX.1
  intro m
  induction m with
  | zero =>
    intro p w hpm hw hk
    obtain rfl : p = L := hpm
    refine v_aload_n (pc := 64) 0 dX4_step_64 rfl rfl ?_
    refine c_callVi (pc := 65) (st := []) (ci := 4) (ct_X4_here (S := S) (r := r) (g := upd (upd g 3 (nI (min 100 w))) 0 (nI p)) (L := p) (X := X) (p := p) hrr hrN ((pk_un (by omega)).trans ((pk_un (by omega)).trans h9)) pk_us (by omega) hX) kVX4_26 kDX4_26 (rm_ok hR (Nat.le_of_ble_eq_true rfl) (Nat.le_of_ble_eq_true rfl)) ⟨Nat.zero_le _, Nat.zero_le _⟩ (by omega) (show hC G _ r = rdE G _ from cO_rd hrr ((congrFun (s1_at _ _ _) _).trans ((pk_un (by omega)).trans ((pk_un (by omega)).trans h9)))) rfl rfl rfl rfl (Nat.le_of_ble_eq_true rfl) dX4_step_65 ?_
    refine v_topi (v := (-1)) (hrV_end (by omega)) ?_
    refine v_bipush (pc := 68) (nI 48) dX4_step_68 (by decide) ?_
    refine v_bipush (pc := 70) (nI 57) dX4_step_70 (by decide) ?_
    refine c_callSNi (pc := 72) (st := []) (ct_X0_in (S := s1 S r (upd (upd g 3 (nI (min 100 w))) 0 (nI p))) (v := (-1)) (lo := nI 48) (hi := nI 57) ) (lw_meth q439) q60 q488 q438 kDX4_39 (rm_ok hR (Nat.le_of_ble_eq_true rfl) (Nat.le_of_ble_eq_true rfl)) ⟨Nat.zero_le _, Nat.zero_le _⟩ rfl rfl (Nat.le_of_ble_eq_true rfl) dX4_step_72 ?_
    refine v_if_eqB (pc := 75) 115 dX4_step_75 (by decide) (fun c1 => ?_) (fun c1 => ?_)
    · skip
      refine v_sub (lv' := [(0, .ref (gZ G + r)), (1, .int (cv))]) [0, 1] rfl ?_
      rw [dg] at hk
      exact hk
    · skip
      exact absurd c1 (by decide)
  | succ m ih =>
    intro p w hpm hw hk
    have hpl : p < L := by omega
    obtain ⟨v, hv8, hv⟩ := (hX.2.2 p hpl).1
    refine v_aload_n (pc := 64) 0 dX4_step_64 rfl rfl ?_
    refine c_callVi (pc := 65) (st := []) (ci := 4) (ct_X4_here (S := S) (r := r) (g := upd (upd g 3 (nI (min 100 w))) 0 (nI p)) (L := L) (X := X) (p := p) hrr hrN ((pk_un (by omega)).trans ((pk_un (by omega)).trans h9)) pk_us (by omega) hX) kVX4_26 kDX4_26 (rm_ok hR (Nat.le_of_ble_eq_true rfl) (Nat.le_of_ble_eq_true rfl)) ⟨Nat.zero_le _, Nat.zero_le _⟩ (by omega) (show hC G _ r = rdE G _ from cO_rd hrr ((congrFun (s1_at _ _ _) _).trans ((pk_un (by omega)).trans ((pk_un (by omega)).trans h9)))) rfl rfl rfl rfl (Nat.le_of_ble_eq_true rfl) dX4_step_65 ?_
    refine v_topi (v := nI v) (hrV_in hpl hv) ?_
    refine v_bipush (pc := 68) (nI 48) dX4_step_68 (by decide) ?_
    refine v_bipush (pc := 70) (nI 57) dX4_step_70 (by decide) ?_
    refine c_callSNi (pc := 72) (st := []) (ct_X0_in (S := s1 S r (upd (upd g 3 (nI (min 100 w))) 0 (nI p))) (v := nI v) (lo := nI 48) (hi := nI 57) ) (lw_meth q439) q60 q488 q438 kDX4_39 (rm_ok hR (Nat.le_of_ble_eq_true rfl) (Nat.le_of_ble_eq_true rfl)) ⟨Nat.zero_le _, Nat.zero_le _⟩ rfl rfl (Nat.le_of_ble_eq_true rfl) dX4_step_72 ?_
    refine v_if_eqB (pc := 75) 115 dX4_step_75 (by decide) (fun c1 => ?_) (fun c1 => ?_)
    · skip
      refine v_sub (lv' := [(0, .ref (gZ G + r)), (1, .int (cv))]) [0, 1] rfl ?_
      rw [dg_e (fun z => c1 ((figP_iff hpl hv).mp z))] at hk
      exact hk
    · skip
      have h48 : 48 ≤ v := (nI_leI (by omega) (by omega)).mp c1.1
      have h57 : v ≤ 57 := (nI_leI (by omega) (by omega)).mp c1.2
      refine v_aload_n (pc := 78) 0 dX4_step_78 rfl rfl ?_
      refine v_bipush (pc := 79) (nI 100) dX4_step_79 (by decide) ?_
      refine v_bipush (pc := 81) (nI 10) dX4_step_81 (by decide) ?_
      refine v_aload_n (pc := 83) 0 dX4_step_83 rfl rfl ?_
      refine gX4_33 (pc := 84) hrr ((congrFun (s1_at _ _ _) _).trans ((pk_un (by omega)).trans ((pk_un (by omega)).trans h9))) hrN dX4_step_84 ?_
      refine v_topi (v := nI (min 100 w)) ((congrFun (s1_at _ _ _) _).trans ((pk_un (by omega)).trans pk_us)) ?_
      refine v_imulN (pc := 87) dX4_step_87 ?_
      refine v_aload_n (pc := 88) 0 dX4_step_88 rfl rfl ?_
      refine c_callVi (pc := 89) (st := [.int (nI (10 * (min 100 w))), .int (nI 100), .ref (gZ G + r)]) (ci := 4) (ct_X4_here (S := S) (r := r) (g := upd (upd g 3 (nI (min 100 w))) 0 (nI p)) (L := L) (X := X) (p := p) hrr hrN ((pk_un (by omega)).trans ((pk_un (by omega)).trans h9)) pk_us (by omega) hX) kVX4_26 kDX4_26 (rm_ok hR (Nat.le_of_ble_eq_true rfl) (Nat.le_of_ble_eq_true rfl)) ⟨Nat.zero_le _, Nat.zero_le _⟩ (by omega) (show hC G _ r = rdE G _ from cO_rd hrr ((congrFun (s1_at _ _ _) _).trans ((pk_un (by omega)).trans ((pk_un (by omega)).trans h9)))) rfl rfl rfl rfl (Nat.le_of_ble_eq_true rfl) dX4_step_89 ?_
      refine v_topi (v := nI v) (hrV_in hpl hv) ?_
      refine v_iaddN (pc := 92) dX4_step_92 ?_
      refine v_bipush (pc := 93) (nI 48) dX4_step_93 (by decide) ?_
      refine v_isubN (pc := 95) (by omega) dX4_step_95 ?_
      refine v_mmin (pc := 96) q489 (by rw [hR]; decide) (by rw [hR]; exact Nat.le_of_ble_eq_true rfl) (Nat.zero_le _) (Nat.zero_le _) dX4_step_96 ?_
      refine v_topi (v := nI (min 100 (10 * min 100 w + v - 48))) (minI_N (by omega) (by omega)) ?_
      refine pX4_33 (pc := 99) hrr ((congrFun (s1_at _ _ _) _).trans ((pk_un (by omega)).trans ((pk_un (by omega)).trans h9))) hrN dX4_step_99 ?_
      refine v_S (s2_s1 _ _ _ _ _) ?_
      refine v_aload_n (pc := 102) 0 dX4_step_102 rfl rfl ?_
      refine v_dup (pc := 103) dX4_step_103 rfl ?_
      refine gX4_15 (pc := 104) hrr ((congrFun (s1_at _ _ _) _).trans ((pk_un (by omega)).trans ((pk_un (by omega)).trans ((pk_un (by omega)).trans h9)))) hrN dX4_step_104 ?_
      refine v_topi (v := nI p) ((congrFun (s1_at _ _ _) _).trans ((pk_un (by omega)).trans pk_us)) ?_
      refine v_iconst (pc := 107) (nI 1) dX4_step_107 (by decide) ?_
      refine v_iaddN (pc := 108) dX4_step_108 ?_
      refine pX4_15 (pc := 109) hrr ((congrFun (s1_at _ _ _) _).trans ((pk_un (by omega)).trans ((pk_un (by omega)).trans ((pk_un (by omega)).trans h9)))) hrN dX4_step_109 ?_
      refine v_S (s2_s1 _ _ _ _ _) ?_
      refine v_goto (pc := 112) 64 dX4_step_112 (by decide) ?_
      refine v_sub (lv' := [(0, .ref (gZ G + r)), (1, .int (cv))]) [0, 1] rfl ?_
      refine v_S (congrArg (s1 S r) (l2_up (v := v) (w := w) (by omega))) ?_
      rw [dg_s ((figP_iff hpl hv).mpr c1) hv hv8] at hk
      exact ih (p + 1) _ (by omega) (by split <;> omega) hk

set_option maxHeartbeats 4000000 in
theorem ct_X4_step {G : GT} {l : Launch} {N : Nat} {S : ST} {g : Nat → Int32} {r p L : Nat} {X : Nat → Int32} (hrr : 535 ≤ r) (hrN : r < N) (h9 : RDg g) (hp : g 0 = nI p) (hpL : p ≤ L) (hX : TXT S X L) : CTv G l yX4_step cX4_step 3 none 4 [.ref (gZ G + r)] N (s1 S r g) (s1 S r (stF X L p g)) := by
  have hL12 := hX.1
  refine CT.mk "ScopeTasks$Reader" [(0, .ref (gZ G + r))] rfl (by decide) rfl (Nat.le_of_ble_eq_true rfl) ?_
  intro x hR hl hr hnm
  refine v_S (congrArg (s1 S r) (upd_id hp)) ?_
  refine lp_rs1 hR hrr hrN hX h9 (L - p) p (by omega) ?_
  have hskl := sk_le (X := X) hpL
  obtain ⟨q, hq⟩ : ∃ q, sk X L p = q := ⟨_, rfl⟩
  rw [hq] at hskl ⊢
  refine v_aload_n (pc := 22) 0 dX4_step_22 rfl rfl ?_
  refine v_aload_n (pc := 23) 0 dX4_step_23 rfl rfl ?_
  refine gX4_15 (pc := 24) hrr ((congrFun (s1_at _ _ _) _).trans ((pk_un (by omega)).trans h9)) hrN dX4_step_24 ?_
  refine v_topi (v := nI q) ((congrFun (s1_at _ _ _) _).trans pk_us) ?_
  refine pX4_30 (pc := 27) hrr ((congrFun (s1_at _ _ _) _).trans ((pk_un (by omega)).trans h9)) hrN dX4_step_27 ?_
  refine v_S (s2_s1 _ _ _ _ _) ?_
  refine v_aload_n (pc := 30) 0 dX4_step_30 rfl rfl ?_
  refine v_iconst (pc := 31) (nI 0) dX4_step_31 (by decide) ?_
  refine pX4_33 (pc := 32) hrr ((congrFun (s1_at _ _ _) _).trans ((pk_un (by omega)).trans ((pk_un (by omega)).trans h9))) hrN dX4_step_32 ?_
  refine v_S (s2_s1 _ _ _ _ _) ?_
  rcases Nat.lt_or_ge q L with hqL | hqL
  · skip
    obtain ⟨v, hv8, hv⟩ := (hX.2.2 q hqL).1
    refine v_aload_n (pc := 35) 0 dX4_step_35 rfl rfl ?_
    refine c_callVi (pc := 36) (st := []) (ci := 4) (ct_X4_here (S := S) (r := r) (g := upd (upd (upd g 0 (nI q)) 1 (nI q)) 3 (nI 0)) (L := L) (X := X) (p := q) hrr hrN ((pk_un (by omega)).trans ((pk_un (by omega)).trans ((pk_un (by omega)).trans h9))) ((pk_un (by omega)).trans ((pk_un (by omega)).trans pk_us)) (by omega) hX) kVX4_26 kDX4_26 (rm_ok hR (Nat.le_of_ble_eq_true rfl) (Nat.le_of_ble_eq_true rfl)) ⟨Nat.zero_le _, Nat.zero_le _⟩ (by omega) (show hC G _ r = rdE G _ from cO_rd hrr ((congrFun (s1_at _ _ _) _).trans ((pk_un (by omega)).trans ((pk_un (by omega)).trans ((pk_un (by omega)).trans h9))))) rfl rfl rfl rfl (Nat.le_of_ble_eq_true rfl) dX4_step_36 ?_
    refine v_topi (v := nI v) (hrV_in hqL hv) ?_
    refine v_istore_n (pc := 39) (lv' := [(1, .int (nI v)), (0, .ref (gZ G + r))]) dX4_step_39 rfl (by decide) rfl ?_
    refine v_iload_n (pc := 40) 0 dX4_step_40 rfl rfl ?_
    refine v_if_geN (pc := 41) 53 (by omega) dX4_step_41 (by decide) ?_
    refine v_iload_n (pc := 53) 0 dX4_step_53 rfl rfl ?_
    refine v_bipush (pc := 54) (nI 48) dX4_step_54 (by decide) ?_
    refine v_bipush (pc := 56) (nI 57) dX4_step_56 (by decide) ?_
    refine c_callSNi (pc := 58) (st := []) (ct_X0_in (S := s1 S r (upd (upd (upd g 0 (nI q)) 1 (nI q)) 3 (nI 0))) (v := nI v) (lo := nI 48) (hi := nI 57) ) (lw_meth q439) q60 q488 q438 kDX4_39 (rm_ok hR (Nat.le_of_ble_eq_true rfl) (Nat.le_of_ble_eq_true rfl)) ⟨Nat.zero_le _, Nat.zero_le _⟩ rfl rfl (Nat.le_of_ble_eq_true rfl) dX4_step_58 ?_
    refine v_if_eqB (pc := 61) 157 dX4_step_61 (by decide) (fun c1 => ?_) (fun c1 => ?_)
    · skip
      refine v_aload_n (pc := 157) 1 dX4_step_157 rfl rfl ?_
      refine v_dup (pc := 158) dX4_step_158 rfl ?_
      refine gX4_15 (pc := 159) hrr ((congrFun (s1_at _ _ _) _).trans ((pk_un (by omega)).trans ((pk_un (by omega)).trans ((pk_un (by omega)).trans h9)))) hrN dX4_step_159 ?_
      refine v_topi (v := nI q) ((congrFun (s1_at _ _ _) _).trans ((pk_un (by omega)).trans ((pk_un (by omega)).trans pk_us))) ?_
      refine v_iconst (pc := 162) (nI 1) dX4_step_162 (by decide) ?_
      refine v_iaddN (pc := 163) dX4_step_163 ?_
      refine pX4_15 (pc := 164) hrr ((congrFun (s1_at _ _ _) _).trans ((pk_un (by omega)).trans ((pk_un (by omega)).trans ((pk_un (by omega)).trans h9)))) hrN dX4_step_164 ?_
      refine v_S (s2_s1 _ _ _ _ _) ?_
      refine v_ldcS (pc := 167) dX4_step_167 ?_
      refine v_iload_n (pc := 169) 0 dX4_step_169 rfl rfl ?_
      refine c_callTi (pc := 170) (st := []) (ct_J5_indexOf (S := s1 S r (upd (upd (upd (upd g 0 (nI q)) 1 (nI q)) 3 (nI 0)) 0 (nI (q + 1)))) (v := v) hv8) kVX4_51 kDX4_51 (rm_ok hR (Nat.le_of_ble_eq_true rfl) (Nat.le_of_ble_eq_true rfl)) ⟨Nat.zero_le _, Nat.zero_le _⟩ rfl rfl (Nat.le_of_ble_eq_true rfl) dX4_step_170 ?_
      refine v_istore_n (pc := 173) (lv' := [(2, .int (ioc v)), (1, .int (nI v)), (0, .ref (gZ G + r))]) dX4_step_173 rfl (by decide) rfl ?_
      refine v_aload_n (pc := 174) 2 dX4_step_174 rfl rfl ?_
      refine v_iload_n (pc := 175) 1 dX4_step_175 rfl rfl ?_
      refine v_bipush (pc := 176) (nI 59) dX4_step_176 (by decide) ?_
      refine v_ic_neN (pc := 178) 186 (by omega) (by omega) dX4_step_178 (by decide) (fun c2 => ?_) (fun c2 => ?_)
      · skip
        refine v_iload_n (pc := 186) 0 dX4_step_186 rfl rfl ?_
        refine v_if_lt (pc := 187) 194 dX4_step_187 (by decide) (fun c3 => ?_) (fun c3 => ?_)
        · skip
          refine v_bipush (pc := 194) (nI 14) dX4_step_194 (by decide) ?_
          refine pX4_36 (pc := 196) hrr ((congrFun (s1_at _ _ _) _).trans ((pk_un (by omega)).trans ((pk_un (by omega)).trans ((pk_un (by omega)).trans ((pk_un (by omega)).trans h9))))) hrN dX4_step_196 ?_
          refine v_S (s2_s1 _ _ _ _ _) ?_
          exact v_vret (pc := 199) hr (Nat.le_refl _) (Nat.le_refl _) dX4_step_199 (pV_mk (hC_c (congrArg (s1 S r) (by unfold stF; rw [(show tkE X L p = q + 1 by unfold tkE; rw [hq, if_neg (by omega), if_neg (fun z => c1 ((figP_iff hqL hv).mp z))]), hq, (show srtT X L p = 14 by unfold srtT; rw [hq, if_neg (by omega), if_neg (fun z => c1 ((figP_iff hqL hv).mp z)), hv, nn_of (by omega)]; unfold lsort; rw [if_neg c2, if_pos (Classical.not_not.mp (fun z => absurd ((ioc_fin ⟨v, hv8⟩).1.mpr z) (Int32.not_le.mpr c3)))]), (show cvT X L p = 0 by unfold cvT; rw [hq, if_neg (by omega), if_neg (fun z => c1 ((figP_iff hqL hv).mp z))])]; exact rd4_eq ((pk_un (by omega)).trans pk_us) ((pk_un (by omega)).trans ((pk_un (by omega)).trans ((pk_un (by omega)).trans pk_us))) pk_us ((pk_un (by omega)).trans ((pk_un (by omega)).trans pk_us)) (fun j hj => by rw [pk_un (by omega), pk_un (by omega), pk_un (by omega), pk_un (by omega), pk_un (by omega)])))))
        · skip
          refine v_iload_n (pc := 190) 0 dX4_step_190 rfl rfl ?_
          refine v_goto (pc := 191) 196 dX4_step_191 (by decide) ?_
          refine pX4_36 (pc := 196) hrr ((congrFun (s1_at _ _ _) _).trans ((pk_un (by omega)).trans ((pk_un (by omega)).trans ((pk_un (by omega)).trans ((pk_un (by omega)).trans h9))))) hrN dX4_step_196 ?_
          refine v_S (s2_s1 _ _ _ _ _) ?_
          exact v_vret (pc := 199) hr (Nat.le_refl _) (Nat.le_refl _) dX4_step_199 (pV_mk (hC_c (congrArg (s1 S r) (by unfold stF; rw [(show tkE X L p = q + 1 by unfold tkE; rw [hq, if_neg (by omega), if_neg (fun z => c1 ((figP_iff hqL hv).mp z))]), hq, (show srtT X L p = nn (ioc v) by unfold srtT; rw [hq, if_neg (by omega), if_neg (fun z => c1 ((figP_iff hqL hv).mp z)), hv, nn_of (by omega)]; unfold lsort; rw [if_neg c2, if_neg ((ioc_fin ⟨v, hv8⟩).1.mp (Int32.not_lt.mp c3))]), (show cvT X L p = 0 by unfold cvT; rw [hq, if_neg (by omega), if_neg (fun z => c1 ((figP_iff hqL hv).mp z))])]; exact rd4_eq ((pk_un (by omega)).trans pk_us) ((pk_un (by omega)).trans ((pk_un (by omega)).trans ((pk_un (by omega)).trans pk_us))) (pk_us.trans ((ioc_fin ⟨v, hv8⟩).2 ((ioc_fin ⟨v, hv8⟩).1.mp (Int32.not_lt.mp c3)))) ((pk_un (by omega)).trans ((pk_un (by omega)).trans pk_us)) (fun j hj => by rw [pk_un (by omega), pk_un (by omega), pk_un (by omega), pk_un (by omega), pk_un (by omega)])))))
      · skip
        refine v_bipush (pc := 181) (nI 12) dX4_step_181 (by decide) ?_
        refine v_goto (pc := 183) 196 dX4_step_183 (by decide) ?_
        refine pX4_36 (pc := 196) hrr ((congrFun (s1_at _ _ _) _).trans ((pk_un (by omega)).trans ((pk_un (by omega)).trans ((pk_un (by omega)).trans ((pk_un (by omega)).trans h9))))) hrN dX4_step_196 ?_
        refine v_S (s2_s1 _ _ _ _ _) ?_
        exact v_vret (pc := 199) hr (Nat.le_refl _) (Nat.le_refl _) dX4_step_199 (pV_mk (hC_c (congrArg (s1 S r) (by unfold stF; rw [(show tkE X L p = q + 1 by unfold tkE; rw [hq, if_neg (by omega), if_neg (fun z => c1 ((figP_iff hqL hv).mp z))]), hq, (show srtT X L p = 12 by unfold srtT; rw [hq, if_neg (by omega), if_neg (fun z => c1 ((figP_iff hqL hv).mp z)), hv, nn_of (by omega)]; unfold lsort; rw [if_pos c2]), (show cvT X L p = 0 by unfold cvT; rw [hq, if_neg (by omega), if_neg (fun z => c1 ((figP_iff hqL hv).mp z))])]; exact rd4_eq ((pk_un (by omega)).trans pk_us) ((pk_un (by omega)).trans ((pk_un (by omega)).trans ((pk_un (by omega)).trans pk_us))) pk_us ((pk_un (by omega)).trans ((pk_un (by omega)).trans pk_us)) (fun j hj => by rw [pk_un (by omega), pk_un (by omega), pk_un (by omega), pk_un (by omega), pk_un (by omega)])))))
    · skip
      refine v_sub (lv' := [(0, .ref (gZ G + r)), (1, .int (nI v))]) [1, 0] rfl ?_
      refine v_S (congrArg (s1 S r) (show _ = upd (upd (upd g 1 (nI q)) 3 (nI (min 100 0))) 0 (nI q) by rw [upd_comm (i := 0) (j := 1) (by decide), upd_comm (i := 0) (j := 3) (by decide)]; rfl)) ?_
      refine lp_rs2 hR hrr hrN hX (show RDg (upd g 1 (nI q)) from (pk_un (by decide)).trans h9) (L - q) q 0 (by omega) (by omega) ?_
      have hdg := dg_le X L (L - q) q 0 (by omega) (by omega)
      obtain ⟨z, hz⟩ : ∃ z, dg X L (L - q) q 0 = z := ⟨_, rfl⟩
      rw [hz] at hdg ⊢
      obtain ⟨dv, de⟩ := z
      dsimp only at hdg ⊢
      refine v_aload_n (pc := 115) 0 dX4_step_115 rfl rfl ?_
      refine v_aload_n (pc := 116) 0 dX4_step_116 rfl rfl ?_
      refine gX4_33 (pc := 117) hrr ((congrFun (s1_at _ _ _) _).trans ((pk_un (by omega)).trans ((pk_un (by omega)).trans ((pk_un (by omega)).trans h9)))) hrN dX4_step_117 ?_
      refine v_topi (v := nI (min 100 dv)) ((congrFun (s1_at _ _ _) _).trans ((pk_un (by omega)).trans pk_us)) ?_
      refine v_bipush (pc := 120) (nI 99) dX4_step_120 (by decide) ?_
      refine v_ic_gtN (pc := 122) 144 (by omega) (by omega) dX4_step_122 (by decide) (fun c4 => ?_) (fun c4 => ?_)
      · skip
        refine v_bipush (pc := 144) (nI 14) dX4_step_144 (by decide) ?_
        refine v_goto (pc := 146) 151 dX4_step_146 (by decide) ?_
        refine pX4_36 (pc := 151) hrr ((congrFun (s1_at _ _ _) _).trans ((pk_un (by omega)).trans ((pk_un (by omega)).trans ((pk_un (by omega)).trans h9)))) hrN dX4_step_151 ?_
        refine v_S (s2_s1 _ _ _ _ _) ?_
        refine v_goto (pc := 154) 199 dX4_step_154 (by decide) ?_
        exact v_vret (pc := 199) hr (Nat.le_refl _) (Nat.le_refl _) dX4_step_199 (pV_mk (hC_c (congrArg (s1 S r) (by unfold stF; rw [(show tkE X L p = de by unfold tkE; rw [hq, if_neg (by omega), if_pos ((figP_iff hqL hv).mpr c1), (show tkD X L p = (dv, de) by unfold tkD; rw [hq]; exact hz)]), hq, (show srtT X L p = 14 by unfold srtT; rw [hq, if_neg (by omega), if_pos ((figP_iff hqL hv).mpr c1), (show tkD X L p = (dv, de) by unfold tkD; rw [hq]; exact hz)]; dsimp only; rw [if_pos (Or.inl (by omega))]), (show cvT X L p = min 100 dv by unfold cvT; rw [hq, if_neg (by omega), if_pos ((figP_iff hqL hv).mpr c1), (show tkD X L p = (dv, de) by unfold tkD; rw [hq]; exact hz)])]; exact rd4_eq ((pk_un (by omega)).trans pk_us) ((pk_un (by omega)).trans ((pk_un (by omega)).trans ((pk_un (by omega)).trans pk_us))) pk_us ((pk_un (by omega)).trans ((pk_un (by omega)).trans pk_us)) (fun j hj => by rw [pk_un (by omega), pk_un (by omega), pk_un (by omega), pk_un (by omega)])))))
      · skip
        refine v_iload_n (pc := 125) 1 dX4_step_125 rfl rfl ?_
        refine v_bipush (pc := 126) (nI 48) dX4_step_126 (by decide) ?_
        refine v_ic_neN (pc := 128) 149 (by omega) (by omega) dX4_step_128 (by decide) (fun c5 => ?_) (fun c5 => ?_)
        · skip
          refine v_bipush (pc := 149) (nI 11) dX4_step_149 (by decide) ?_
          refine pX4_36 (pc := 151) hrr ((congrFun (s1_at _ _ _) _).trans ((pk_un (by omega)).trans ((pk_un (by omega)).trans ((pk_un (by omega)).trans h9)))) hrN dX4_step_151 ?_
          refine v_S (s2_s1 _ _ _ _ _) ?_
          refine v_goto (pc := 154) 199 dX4_step_154 (by decide) ?_
          exact v_vret (pc := 199) hr (Nat.le_refl _) (Nat.le_refl _) dX4_step_199 (pV_mk (hC_c (congrArg (s1 S r) (by unfold stF; rw [(show tkE X L p = de by unfold tkE; rw [hq, if_neg (by omega), if_pos ((figP_iff hqL hv).mpr c1), (show tkD X L p = (dv, de) by unfold tkD; rw [hq]; exact hz)]), hq, (show srtT X L p = 11 by unfold srtT; rw [hq, if_neg (by omega), if_pos ((figP_iff hqL hv).mpr c1), (show tkD X L p = (dv, de) by unfold tkD; rw [hq]; exact hz)]; dsimp only; rw [if_neg (fun z => z.elim (fun y => absurd y (by omega)) (fun y => c5 (nI_inj (by omega) (by omega) (hv.symm.trans y.1))))]), (show cvT X L p = min 100 dv by unfold cvT; rw [hq, if_neg (by omega), if_pos ((figP_iff hqL hv).mpr c1), (show tkD X L p = (dv, de) by unfold tkD; rw [hq]; exact hz)])]; exact rd4_eq ((pk_un (by omega)).trans pk_us) ((pk_un (by omega)).trans ((pk_un (by omega)).trans ((pk_un (by omega)).trans pk_us))) pk_us ((pk_un (by omega)).trans ((pk_un (by omega)).trans pk_us)) (fun j hj => by rw [pk_un (by omega), pk_un (by omega), pk_un (by omega), pk_un (by omega)])))))
        · skip
          refine v_aload_n (pc := 131) 0 dX4_step_131 rfl rfl ?_
          refine gX4_15 (pc := 132) hrr ((congrFun (s1_at _ _ _) _).trans ((pk_un (by omega)).trans ((pk_un (by omega)).trans ((pk_un (by omega)).trans h9)))) hrN dX4_step_132 ?_
          refine v_topi (v := nI de) ((congrFun (s1_at _ _ _) _).trans pk_us) ?_
          refine v_aload_n (pc := 135) 0 dX4_step_135 rfl rfl ?_
          refine gX4_30 (pc := 136) hrr ((congrFun (s1_at _ _ _) _).trans ((pk_un (by omega)).trans ((pk_un (by omega)).trans ((pk_un (by omega)).trans h9)))) hrN dX4_step_136 ?_
          refine v_topi (v := nI q) ((congrFun (s1_at _ _ _) _).trans ((pk_un (by omega)).trans ((pk_un (by omega)).trans pk_us))) ?_
          refine v_isubN (pc := 139) (by omega) dX4_step_139 ?_
          refine v_iconst (pc := 140) (nI 1) dX4_step_140 (by decide) ?_
          refine v_ic_leN (pc := 141) 149 (by omega) (by omega) dX4_step_141 (by decide) (fun c6 => ?_) (fun c6 => ?_)
          · skip
            refine v_bipush (pc := 149) (nI 11) dX4_step_149 (by decide) ?_
            refine pX4_36 (pc := 151) hrr ((congrFun (s1_at _ _ _) _).trans ((pk_un (by omega)).trans ((pk_un (by omega)).trans ((pk_un (by omega)).trans h9)))) hrN dX4_step_151 ?_
            refine v_S (s2_s1 _ _ _ _ _) ?_
            refine v_goto (pc := 154) 199 dX4_step_154 (by decide) ?_
            exact v_vret (pc := 199) hr (Nat.le_refl _) (Nat.le_refl _) dX4_step_199 (pV_mk (hC_c (congrArg (s1 S r) (by unfold stF; rw [(show tkE X L p = de by unfold tkE; rw [hq, if_neg (by omega), if_pos ((figP_iff hqL hv).mpr c1), (show tkD X L p = (dv, de) by unfold tkD; rw [hq]; exact hz)]), hq, (show srtT X L p = 11 by unfold srtT; rw [hq, if_neg (by omega), if_pos ((figP_iff hqL hv).mpr c1), (show tkD X L p = (dv, de) by unfold tkD; rw [hq]; exact hz)]; dsimp only; rw [if_neg (fun z => z.elim (fun y => absurd y (by omega)) (fun y => absurd y.2 (by omega)))]), (show cvT X L p = min 100 dv by unfold cvT; rw [hq, if_neg (by omega), if_pos ((figP_iff hqL hv).mpr c1), (show tkD X L p = (dv, de) by unfold tkD; rw [hq]; exact hz)])]; exact rd4_eq ((pk_un (by omega)).trans pk_us) ((pk_un (by omega)).trans ((pk_un (by omega)).trans ((pk_un (by omega)).trans pk_us))) pk_us ((pk_un (by omega)).trans ((pk_un (by omega)).trans pk_us)) (fun j hj => by rw [pk_un (by omega), pk_un (by omega), pk_un (by omega), pk_un (by omega)])))))
          · skip
            refine v_bipush (pc := 144) (nI 14) dX4_step_144 (by decide) ?_
            refine v_goto (pc := 146) 151 dX4_step_146 (by decide) ?_
            refine pX4_36 (pc := 151) hrr ((congrFun (s1_at _ _ _) _).trans ((pk_un (by omega)).trans ((pk_un (by omega)).trans ((pk_un (by omega)).trans h9)))) hrN dX4_step_151 ?_
            refine v_S (s2_s1 _ _ _ _ _) ?_
            refine v_goto (pc := 154) 199 dX4_step_154 (by decide) ?_
            exact v_vret (pc := 199) hr (Nat.le_refl _) (Nat.le_refl _) dX4_step_199 (pV_mk (hC_c (congrArg (s1 S r) (by unfold stF; rw [(show tkE X L p = de by unfold tkE; rw [hq, if_neg (by omega), if_pos ((figP_iff hqL hv).mpr c1), (show tkD X L p = (dv, de) by unfold tkD; rw [hq]; exact hz)]), hq, (show srtT X L p = 14 by unfold srtT; rw [hq, if_neg (by omega), if_pos ((figP_iff hqL hv).mpr c1), (show tkD X L p = (dv, de) by unfold tkD; rw [hq]; exact hz)]; dsimp only; rw [if_pos (Or.inr ⟨by rw [hv, c5], by omega⟩)]), (show cvT X L p = min 100 dv by unfold cvT; rw [hq, if_neg (by omega), if_pos ((figP_iff hqL hv).mpr c1), (show tkD X L p = (dv, de) by unfold tkD; rw [hq]; exact hz)])]; exact rd4_eq ((pk_un (by omega)).trans pk_us) ((pk_un (by omega)).trans ((pk_un (by omega)).trans ((pk_un (by omega)).trans pk_us))) pk_us ((pk_un (by omega)).trans ((pk_un (by omega)).trans pk_us)) (fun j hj => by rw [pk_un (by omega), pk_un (by omega), pk_un (by omega), pk_un (by omega)])))))
  · skip
    obtain rfl : q = L := by omega
    refine v_aload_n (pc := 35) 0 dX4_step_35 rfl rfl ?_
    refine c_callVi (pc := 36) (st := []) (ci := 4) (ct_X4_here (S := S) (r := r) (g := upd (upd (upd g 0 (nI q)) 1 (nI q)) 3 (nI 0)) (L := q) (X := X) (p := q) hrr hrN ((pk_un (by omega)).trans ((pk_un (by omega)).trans ((pk_un (by omega)).trans h9))) ((pk_un (by omega)).trans ((pk_un (by omega)).trans pk_us)) (by omega) hX) kVX4_26 kDX4_26 (rm_ok hR (Nat.le_of_ble_eq_true rfl) (Nat.le_of_ble_eq_true rfl)) ⟨Nat.zero_le _, Nat.zero_le _⟩ (by omega) (show hC G _ r = rdE G _ from cO_rd hrr ((congrFun (s1_at _ _ _) _).trans ((pk_un (by omega)).trans ((pk_un (by omega)).trans ((pk_un (by omega)).trans h9))))) rfl rfl rfl rfl (Nat.le_of_ble_eq_true rfl) dX4_step_36 ?_
    refine v_topi (v := (-1)) (hrV_end (by omega)) ?_
    refine v_istore_n (pc := 39) (lv' := [(1, .int ((-1))), (0, .ref (gZ G + r))]) dX4_step_39 rfl (by decide) rfl ?_
    refine v_iload_n (pc := 40) 0 dX4_step_40 rfl rfl ?_
    refine v_if_ge (pc := 41) 53 dX4_step_41 (by decide) (fun c7 => ?_) (fun c7 => ?_)
    · skip
      exact absurd c7 (by decide)
    · skip
      refine v_aload_n (pc := 44) 1 dX4_step_44 rfl rfl ?_
      refine v_bipush (pc := 45) (nI 13) dX4_step_45 (by decide) ?_
      refine pX4_36 (pc := 47) hrr ((congrFun (s1_at _ _ _) _).trans ((pk_un (by omega)).trans ((pk_un (by omega)).trans ((pk_un (by omega)).trans h9)))) hrN dX4_step_47 ?_
      refine v_S (s2_s1 _ _ _ _ _) ?_
      refine v_goto (pc := 50) 199 dX4_step_50 (by decide) ?_
      exact v_vret (pc := 199) hr (Nat.le_refl _) (Nat.le_refl _) dX4_step_199 (pV_mk (hC_c (congrArg (s1 S r) (by unfold stF; rw [(show tkE X q p = q by unfold tkE; rw [if_pos hq]), hq, (show srtT X q p = 13 by unfold srtT; rw [if_pos hq]), (show cvT X q p = 0 by unfold cvT; rw [if_pos hq])]; exact rd4_eq ((pk_un (by omega)).trans ((pk_un (by omega)).trans ((pk_un (by omega)).trans pk_us))) ((pk_un (by omega)).trans ((pk_un (by omega)).trans pk_us)) pk_us ((pk_un (by omega)).trans pk_us) (fun j hj => by rw [pk_un (by omega), pk_un (by omega), pk_un (by omega), pk_un (by omega)])))))

