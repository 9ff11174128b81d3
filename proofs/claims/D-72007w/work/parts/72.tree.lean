set_option maxRecDepth 100000
/-! ScopeTasks$Tree: begin, add, copyOf -/
theorem BS_s2 {S : ST} {k v a j : Nat} {x : Int32} (h : BS S k v) (h1 : k ≠ a) (h2 : k + 1 ≠ a) : BS (s2 S a j x) k v := ⟨by rw [s2_nk h2]; exact h.1, h.2.1, by rw [s2_nk h1]; exact h.2.2⟩
theorem BS_s1 {S : ST} {k v a : Nat} {f : Nat → Int32} (h : BS S k v) (h1 : k ≠ a) (h2 : k + 1 ≠ a) : BS (s1 S a f) k v := ⟨by rw [s1_ne h2]; exact h.1, h.2.1, by rw [s1_ne h1]; exact h.2.2⟩
set_option maxHeartbeats 4000000 in
theorem ct_X1_begin {G : GT} {l : Launch} {N : Nat} {S : ST} {b v : Nat} (hb : TB b) (hv : BS S (b + 24) v) (hN : 513 ≤ N) : CTv G l yX1_begin cX1_begin 1 none 1 [.ref (gZ G + b)] N (S) (bset (s2 S b 0 (nI 0)) (b + 24) 0) := by
  have hbl := hb.le
  have hbg := hb.ge
  refine CT.mk "ScopeTasks$Tree" [(0, .ref (gZ G + b))] rfl (by decide) rfl (Nat.le_of_ble_eq_true rfl) ?_
  intro x hR hl hr hnm
  refine v_aload_n (pc := 0) 0 dX1_begin_0 rfl rfl ?_
  refine v_iconst (pc := 1) (nI 0) dX1_begin_1 (by decide) ?_
  refine pX1_44 (pc := 2) hb hN dX1_begin_2 ?_
  refine v_aload_n (pc := 5) 0 dX1_begin_5 rfl rfl ?_
  refine gX1_40 (pc := 6) hb hN dX1_begin_6 ?_
  refine c_callVv (pc := 9) (st := []) (ci := 6) (ct_J0_clear (S := s2 S b 0 (nI 0)) (k := b + 24) (v := v) (BC_tree hb) (BS_s2 hv (by omega) (by omega)) (by omega)) kVX1_48 kDX1_48 (rm_ok hR (Nat.le_of_ble_eq_true rfl) (Nat.le_of_ble_eq_true rfl)) ⟨Nat.zero_le _, Nat.zero_le _⟩ (by omega) ((BC_tree hb) G _).1 rfl rfl rfl rfl (Nat.le_of_ble_eq_true rfl) dX1_begin_9 ?_
  exact v_vret (pc := 12) hr (Nat.le_refl _) (Nat.le_refl _) dX1_begin_12 (pV_mk (hC_c rfl))

set_option maxHeartbeats 4000000 in
theorem ct_X1_add {G : GT} {l : Launch} {N : Nat} {S : ST} {b n : Nat} {p : Int32} (hb : TB b) (hn : S b 0 = nI n) (hn8 : n < 8) (hN : 513 ≤ N) : CTi G l yX1_add cX1_add 2 (some .int) 0 [.ref (gZ G + b), .int (p)] N (S) (nI n) (s2 (s2 (s2 (s2 (s2 (s2 S (b + 1) n p) (b + 2) n (nI 0)) (b + 21) n (nI 99)) (b + 22) n (nI 0)) (b + 23) n (nI 0)) b 0 (nI (n + 1))) := by
  have hbl := hb.le
  have hbg := hb.ge
  refine CT.mk "ScopeTasks$Tree" [(0, .ref (gZ G + b)), (1, .int (p))] rfl (by decide) rfl (Nat.le_of_ble_eq_true rfl) ?_
  intro x hR hl hr hnm
  refine v_aload_n (pc := 0) 0 dX1_add_0 rfl rfl ?_
  refine gX1_9 (pc := 1) hb hN dX1_add_1 ?_
  refine v_aload_n (pc := 4) 0 dX1_add_4 rfl rfl ?_
  refine gX1_44 (pc := 5) hb hN dX1_add_5 ?_
  refine v_topi (v := nI n) hn ?_
  refine v_iload_n (pc := 8) 1 dX1_add_8 rfl rfl ?_
  refine c_iast (pc := 9) (k := b + 1) (j := n) (IA_tree8 hb (by decide)) (by omega) rfl (by omega) (by decide) dX1_add_9 ?_
  refine v_aload_n (pc := 10) 0 dX1_add_10 rfl rfl ?_
  refine gX1_15 (pc := 11) hb hN dX1_add_11 ?_
  refine v_aload_n (pc := 14) 0 dX1_add_14 rfl rfl ?_
  refine gX1_44 (pc := 15) hb hN dX1_add_15 ?_
  refine v_topi (v := nI n) ((congrFun (s2_nk (by omega)) _).trans hn) ?_
  refine v_iconst (pc := 18) (nI 0) dX1_add_18 (by decide) ?_
  refine c_iast (pc := 19) (k := b + 2) (j := n) (IA_tree8 hb (by decide)) (by omega) rfl (by omega) (by decide) dX1_add_19 ?_
  refine v_aload_n (pc := 20) 0 dX1_add_20 rfl rfl ?_
  refine gX1_26 (pc := 21) hb hN dX1_add_21 ?_
  refine v_aload_n (pc := 24) 0 dX1_add_24 rfl rfl ?_
  refine gX1_44 (pc := 25) hb hN dX1_add_25 ?_
  refine v_topi (v := nI n) ((congrFun (s2_nk (by omega)) _).trans ((congrFun (s2_nk (by omega)) _).trans hn)) ?_
  refine v_bipush (pc := 28) (nI 99) dX1_add_28 (by decide) ?_
  refine c_iast (pc := 30) (k := b + 21) (j := n) (IA_tree8 hb (by decide)) (by omega) rfl (by omega) (by decide) dX1_add_30 ?_
  refine v_aload_n (pc := 31) 0 dX1_add_31 rfl rfl ?_
  refine gX1_29 (pc := 32) hb hN dX1_add_32 ?_
  refine v_aload_n (pc := 35) 0 dX1_add_35 rfl rfl ?_
  refine gX1_44 (pc := 36) hb hN dX1_add_36 ?_
  refine v_topi (v := nI n) ((congrFun (s2_nk (by omega)) _).trans ((congrFun (s2_nk (by omega)) _).trans ((congrFun (s2_nk (by omega)) _).trans hn))) ?_
  refine v_iconst (pc := 39) (nI 0) dX1_add_39 (by decide) ?_
  refine c_iast (pc := 40) (k := b + 22) (j := n) (IA_tree8 hb (by decide)) (by omega) rfl (by omega) (by decide) dX1_add_40 ?_
  refine v_aload_n (pc := 41) 0 dX1_add_41 rfl rfl ?_
  refine gX1_32 (pc := 42) hb hN dX1_add_42 ?_
  refine v_aload_n (pc := 45) 0 dX1_add_45 rfl rfl ?_
  refine gX1_44 (pc := 46) hb hN dX1_add_46 ?_
  refine v_topi (v := nI n) ((congrFun (s2_nk (by omega)) _).trans ((congrFun (s2_nk (by omega)) _).trans ((congrFun (s2_nk (by omega)) _).trans ((congrFun (s2_nk (by omega)) _).trans hn)))) ?_
  refine v_iconst (pc := 49) (nI 0) dX1_add_49 (by decide) ?_
  refine c_iast (pc := 50) (k := b + 23) (j := n) (IA_tree8 hb (by decide)) (by omega) rfl (by omega) (by decide) dX1_add_50 ?_
  refine v_aload_n (pc := 51) 0 dX1_add_51 rfl rfl ?_
  refine v_dup (pc := 52) dX1_add_52 rfl ?_
  refine gX1_44 (pc := 53) hb hN dX1_add_53 ?_
  refine v_topi (v := nI n) ((congrFun (s2_nk (by omega)) _).trans ((congrFun (s2_nk (by omega)) _).trans ((congrFun (s2_nk (by omega)) _).trans ((congrFun (s2_nk (by omega)) _).trans ((congrFun (s2_nk (by omega)) _).trans hn))))) ?_
  refine v_iconst (pc := 56) (nI 1) dX1_add_56 (by decide) ?_
  refine v_iaddN (pc := 57) dX1_add_57 ?_
  refine pX1_44 (pc := 58) hb hN dX1_add_58 ?_
  refine v_aload_n (pc := 61) 0 dX1_add_61 rfl rfl ?_
  refine gX1_44 (pc := 62) hb hN dX1_add_62 ?_
  refine v_topi (v := nI (n + 1)) (s2_at _ _ _ _) ?_
  refine v_iconst (pc := 65) (nI 1) dX1_add_65 (by decide) ?_
  refine v_isubN (pc := 66) (by omega) dX1_add_66 ?_
  exact v_iret (pc := 67) hr rfl (Nat.le_refl _) (Nat.le_refl _) dX1_add_67 (pI_mk rfl (hC_c rfl))

def tc1 (S : ST) (k n : Nat) : Nat → Int32 := va_cpy (S (k + 26)) (S k) 0 0 n
def tl6 (S : ST) (t : Nat) : ST := fun k => if (5 ≤ k ∧ k < 5 + t) ∨ (14 ≤ k ∧ k < 14 + t) then tc1 S k 6 else S k
theorem tl6_0 (S : ST) : tl6 S 0 = S := by
  funext k; unfold tl6; rw [if_neg (by omega)]
theorem tl6_s {S : ST} {t : Nat} (ht : t < 8) : s1 (s1 (tl6 S t) (5 + t) (va_cpy (tl6 S t (31 + t)) (tl6 S t (5 + t)) 0 0 6)) (14 + t) (va_cpy (s1 (tl6 S t) (5 + t) (va_cpy (tl6 S t (31 + t)) (tl6 S t (5 + t)) 0 0 6) (40 + t)) (s1 (tl6 S t) (5 + t) (va_cpy (tl6 S t (31 + t)) (tl6 S t (5 + t)) 0 0 6) (14 + t)) 0 0 6) = tl6 S (t + 1) := by
  have e1 : tl6 S t (31 + t) = S (31 + t) := by unfold tl6; rw [if_neg (by omega)]
  have e2 : tl6 S t (5 + t) = S (5 + t) := by unfold tl6; rw [if_neg (by omega)]
  have e3 : tl6 S t (40 + t) = S (40 + t) := by unfold tl6; rw [if_neg (by omega)]
  have e4 : tl6 S t (14 + t) = S (14 + t) := by unfold tl6; rw [if_neg (by omega)]
  rw [s1_ne (q := 40 + t) (by omega), s1_ne (q := 14 + t) (by omega), e1, e2, e3, e4]
  funext k
  by_cases h1 : k = 14 + t
  · subst h1
    rw [s1_at]
    unfold tl6 tc1
    rw [if_pos (by omega), show 14 + t + 26 = 40 + t by omega]
  · rw [s1_ne h1]
    by_cases h2 : k = 5 + t
    · subst h2
      rw [s1_at]
      unfold tl6 tc1
      rw [if_pos (by omega), show 5 + t + 26 = 31 + t by omega]
    · rw [s1_ne h2]
      unfold tl6
      by_cases h3 : (5 ≤ k ∧ k < 5 + t) ∨ (14 ≤ k ∧ k < 14 + t)
      · rw [if_pos h3, if_pos (by omega)]
      · rw [if_neg h3, if_neg (by omega)]
def tcA (S : ST) : ST := s1 (s1 (s2 S 1 0 (S 27 0)) 2 (tc1 S 2 8)) 3 (tc1 S 3 8)
def tcB (S : ST) : ST := s1 (s1 (s1 (tl6 (tcA S) 8) 22 (tc1 S 22 8)) 23 (tc1 S 23 8)) 24 (tc1 S 24 8)
/-- the tree behind a copy of the draft, whose gathers are v -/
def tcp (S : ST) (v : Nat) : ST := bset (tcB S) 25 v
theorem tcA_ne {S : ST} {k : Nat} (h : k ≠ 1 ∧ k ≠ 2 ∧ k ≠ 3) : tcA S k = S k := by unfold tcA; rw [s1_ne h.2.2, s1_ne h.2.1, s2_nk h.1]
theorem tl6_ne {S : ST} {k t : Nat} (h : k < 5 ∨ 22 ≤ k) (ht : t ≤ 8) : tl6 S t k = S k := by unfold tl6; rw [if_neg (by omega)]
theorem tcB_ne {S : ST} {k : Nat} (h : k = 0 ∨ k = 4 ∨ k = 13 ∨ 25 ≤ k) : tcB S k = S k := by
  unfold tcB
  rw [s1_ne (by omega), s1_ne (by omega), s1_ne (by omega)]
  unfold tl6
  rw [if_neg (by omega), tcA_ne (by omega)]
theorem IA_t6 {k : Nat} (h : (5 ≤ k ∧ k < 13) ∨ (14 ≤ k ∧ k < 22) ∨ (31 ≤ k ∧ k < 39) ∨ (40 ≤ k ∧ k < 48)) : IA k 6 := by
  rcases h with h | h | h | h
  · have := IA_tree6 (j := k - 1) TB_1 (by omega); rwa [show 1 + (k - 1) = k by omega] at this
  · have := IA_tree6 (j := k - 1) TB_1 (by omega); rwa [show 1 + (k - 1) = k by omega] at this
  · have := IA_tree6 (j := k - 27) TB_27 (by omega); rwa [show 27 + (k - 27) = k by omega] at this
  · have := IA_tree6 (j := k - 27) TB_27 (by omega); rwa [show 27 + (k - 27) = k by omega] at this
set_option maxHeartbeats 4000000 in
theorem lp_tcl {G : GT} {x : VX} {N : Nat} {Q : State → Prop} {S : ST} (hR : xR x = RM 2 0 0) (hN : 513 ≤ N) : ∀ (m t : Nat), t + m = 8 → V G x "ScopeTasks$Tree" cX1_copyOf 3 Q 90 [(0, .ref (gZ G + 1)), (1, .ref (gZ G + 27))] [] N (hC G (tl6 S 8)) 0 0 → V G x "ScopeTasks$Tree" cX1_copyOf 3 Q 40 [(2, .int (nI t)), (0, .ref (gZ G + 1)), (1, .ref (gZ G + 27))] [] N (hC G (tl6 S t)) 0 0 := by
  intro m
  induction m with
  | zero =>
    intro t ht hk
    obtain rfl : t = 8 := ht
    refine v_iload_n (pc := 40) 0 dX1_copyOf_40 rfl rfl ?_
    refine v_bipush (pc := 41) (nI 8) dX1_copyOf_41 (by decide) ?_
    refine v_ic_geN (pc := 43) 90 (by omega) (by omega) dX1_copyOf_43 (by decide) (fun c1 => ?_) (fun c1 => ?_)
    · skip
      refine v_sub (lv' := [(0, .ref (gZ G + 1)), (1, .ref (gZ G + 27))]) [1, 2] rfl ?_
      exact hk
    · skip
      exact absurd c1 (by omega)
  | succ m ih =>
    intro t ht hk
    refine v_iload_n (pc := 40) 0 dX1_copyOf_40 rfl rfl ?_
    refine v_bipush (pc := 41) (nI 8) dX1_copyOf_41 (by decide) ?_
    refine v_ic_geN (pc := 43) 90 (by omega) (by omega) dX1_copyOf_43 (by decide) (fun c1 => ?_) (fun c1 => ?_)
    · skip
      exact absurd c1 (by omega)
    · skip
      refine v_aload_n (pc := 46) 2 dX1_copyOf_46 rfl rfl ?_
      refine gX1_20 (pc := 47) TB_27 hN dX1_copyOf_47 ?_
      refine v_iload_n (pc := 50) 0 dX1_copyOf_50 rfl rfl ?_
      refine c_gridW (pc := 51) (b0 := 27) (j := t) TB_27 (by omega) rfl (by omega) dX1_copyOf_51 ?_
      refine v_iconst (pc := 52) (nI 0) dX1_copyOf_52 (by decide) ?_
      refine v_aload_n (pc := 53) 1 dX1_copyOf_53 rfl rfl ?_
      refine gX1_20 (pc := 54) TB_1 hN dX1_copyOf_54 ?_
      refine v_iload_n (pc := 57) 0 dX1_copyOf_57 rfl rfl ?_
      refine c_gridW (pc := 58) (b0 := 1) (j := t) TB_1 (by omega) rfl (by omega) dX1_copyOf_58 ?_
      refine v_iconst (pc := 59) (nI 0) dX1_copyOf_59 (by decide) ?_
      refine v_bipush (pc := 60) (nI 6) dX1_copyOf_60 (by decide) ?_
      refine v_eq (st' := [.int (nI 6), .int (nI 0), .ref (gZ G + (5 + t)), .int (nI 0), .ref (gZ G + (31 + t))]) rfl (by rw [show 1 + 4 + t = 5 + t by omega, show 27 + 4 + t = 31 + t by omega]) rfl ?_
      refine c_copyi (pc := 62) q675 (IA_t6 (by omega)) (by omega) (IA_t6 (by omega)) (by omega) (by decide) (by decide) (by decide) (by rw [hR]; decide) (by rw [hR]; decide) dX1_copyOf_62 ?_
      refine v_aload_n (pc := 65) 2 dX1_copyOf_65 rfl rfl ?_
      refine gX1_23 (pc := 66) TB_27 hN dX1_copyOf_66 ?_
      refine v_iload_n (pc := 69) 0 dX1_copyOf_69 rfl rfl ?_
      refine c_gridO (pc := 70) (b0 := 27) (j := t) TB_27 (by omega) rfl (by omega) dX1_copyOf_70 ?_
      refine v_iconst (pc := 71) (nI 0) dX1_copyOf_71 (by decide) ?_
      refine v_aload_n (pc := 72) 1 dX1_copyOf_72 rfl rfl ?_
      refine gX1_23 (pc := 73) TB_1 hN dX1_copyOf_73 ?_
      refine v_iload_n (pc := 76) 0 dX1_copyOf_76 rfl rfl ?_
      refine c_gridO (pc := 77) (b0 := 1) (j := t) TB_1 (by omega) rfl (by omega) dX1_copyOf_77 ?_
      refine v_iconst (pc := 78) (nI 0) dX1_copyOf_78 (by decide) ?_
      refine v_bipush (pc := 79) (nI 6) dX1_copyOf_79 (by decide) ?_
      refine v_eq (st' := [.int (nI 6), .int (nI 0), .ref (gZ G + (14 + t)), .int (nI 0), .ref (gZ G + (40 + t))]) rfl (by rw [show 1 + 13 + t = 14 + t by omega, show 27 + 13 + t = 40 + t by omega]) rfl ?_
      refine c_copyi (pc := 81) q675 (IA_t6 (by omega)) (by omega) (IA_t6 (by omega)) (by omega) (by decide) (by decide) (by decide) (by rw [hR]; decide) (by rw [hR]; decide) dX1_copyOf_81 ?_
      refine v_S (tl6_s (by omega)) ?_
      refine v_iincN (pc := 84) (k := 0) (lv' := [(2, .int (nI (t + 1))), (0, .ref (gZ G + 1)), (1, .ref (gZ G + 27))]) dX1_copyOf_84 rfl (by decide) rfl ?_
      refine v_goto (pc := 87) 40 dX1_copyOf_87 (by decide) ?_
      refine v_sub (lv' := [(2, .int (nI (t + 1))), (0, .ref (gZ G + 1)), (1, .ref (gZ G + 27))]) [0, 1, 2] rfl ?_
      exact ih (t + 1) (by omega) hk

set_option maxHeartbeats 4000000 in
theorem ct_X1_copyOf {G : GT} {l : Launch} {N : Nat} {S : ST} {v v0 : Nat} (hv0 : BS S 25 v0) (hv : BS S 51 v) (hN : 513 ≤ N) : CTv G l yX1_copyOf cX1_copyOf 3 none 2 [.ref (gZ G + 1), .ref (gZ G + 27)] N (S) (tcp S v) := by
  refine CT.mk "ScopeTasks$Tree" [(0, .ref (gZ G + 1)), (1, .ref (gZ G + 27))] rfl (by decide) rfl (Nat.le_of_ble_eq_true rfl) ?_
  intro x hR hl hr hnm
  refine v_aload_n (pc := 0) 0 dX1_copyOf_0 rfl rfl ?_
  refine v_aload_n (pc := 1) 1 dX1_copyOf_1 rfl rfl ?_
  refine gX1_44 (pc := 2) TB_27 hN dX1_copyOf_2 ?_
  refine pX1_44 (pc := 5) TB_1 hN dX1_copyOf_5 ?_
  refine v_aload_n (pc := 8) 1 dX1_copyOf_8 rfl rfl ?_
  refine gX1_9 (pc := 9) TB_27 hN dX1_copyOf_9 ?_
  refine v_iconst (pc := 12) (nI 0) dX1_copyOf_12 (by decide) ?_
  refine v_aload_n (pc := 13) 0 dX1_copyOf_13 rfl rfl ?_
  refine gX1_9 (pc := 14) TB_1 hN dX1_copyOf_14 ?_
  refine v_iconst (pc := 17) (nI 0) dX1_copyOf_17 (by decide) ?_
  refine v_bipush (pc := 18) (nI 8) dX1_copyOf_18 (by decide) ?_
  refine c_copyi (pc := 20) q675 (IA_tree8 TB_27 (by decide)) (by omega) (IA_tree8 TB_1 (by decide)) (by omega) (by decide) (by decide) (by decide) (by rw [hR]; decide) (by rw [hR]; decide) dX1_copyOf_20 ?_
  refine v_S (show _ = s1 (s2 S 1 0 (S 27 0)) 2 (tc1 S 2 8) from rfl) ?_
  refine v_aload_n (pc := 23) 1 dX1_copyOf_23 rfl rfl ?_
  refine gX1_15 (pc := 24) TB_27 hN dX1_copyOf_24 ?_
  refine v_iconst (pc := 27) (nI 0) dX1_copyOf_27 (by decide) ?_
  refine v_aload_n (pc := 28) 0 dX1_copyOf_28 rfl rfl ?_
  refine gX1_15 (pc := 29) TB_1 hN dX1_copyOf_29 ?_
  refine v_iconst (pc := 32) (nI 0) dX1_copyOf_32 (by decide) ?_
  refine v_bipush (pc := 33) (nI 8) dX1_copyOf_33 (by decide) ?_
  refine c_copyi (pc := 35) q675 (IA_tree8 TB_27 (by decide)) (by omega) (IA_tree8 TB_1 (by decide)) (by omega) (by decide) (by decide) (by decide) (by rw [hR]; decide) (by rw [hR]; decide) dX1_copyOf_35 ?_
  refine v_S (show _ = tcA S from rfl) ?_
  refine v_iconst (pc := 38) (nI 0) dX1_copyOf_38 (by decide) ?_
  refine v_istore_n (pc := 39) (lv' := [(2, .int (nI 0)), (0, .ref (gZ G + 1)), (1, .ref (gZ G + 27))]) dX1_copyOf_39 rfl (by decide) rfl ?_
  refine v_sub (lv' := [(2, .int (nI 0)), (0, .ref (gZ G + 1)), (1, .ref (gZ G + 27))]) [0, 1, 2] rfl ?_
  refine v_S (tl6_0 (tcA S)).symm ?_
  refine lp_tcl hR hN 8 0 (by omega) ?_
  refine v_aload_n (pc := 90) 1 dX1_copyOf_90 rfl rfl ?_
  refine gX1_26 (pc := 91) TB_27 hN dX1_copyOf_91 ?_
  refine v_iconst (pc := 94) (nI 0) dX1_copyOf_94 (by decide) ?_
  refine v_aload_n (pc := 95) 0 dX1_copyOf_95 rfl rfl ?_
  refine gX1_26 (pc := 96) TB_1 hN dX1_copyOf_96 ?_
  refine v_iconst (pc := 99) (nI 0) dX1_copyOf_99 (by decide) ?_
  refine v_bipush (pc := 100) (nI 8) dX1_copyOf_100 (by decide) ?_
  refine c_copyi (pc := 102) q675 (IA_tree8 TB_27 (by decide)) (by omega) (IA_tree8 TB_1 (by decide)) (by omega) (by decide) (by decide) (by decide) (by rw [hR]; decide) (by rw [hR]; decide) dX1_copyOf_102 ?_
  refine v_S (show s1 (tl6 (tcA S) 8) 22 (va_cpy ((tl6 (tcA S) 8) 48) ((tl6 (tcA S) 8) 22) 0 0 8) = s1 (tl6 (tcA S) 8) 22 (tc1 S 22 8) by rw [show (tl6 (tcA S) 8) 48 = S 48 by rw [tl6_ne (by omega) (by decide), tcA_ne (by omega)], show (tl6 (tcA S) 8) 22 = S 22 by rw [tl6_ne (by omega) (by decide), tcA_ne (by omega)]]; rfl) ?_
  refine v_aload_n (pc := 105) 1 dX1_copyOf_105 rfl rfl ?_
  refine gX1_29 (pc := 106) TB_27 hN dX1_copyOf_106 ?_
  refine v_iconst (pc := 109) (nI 0) dX1_copyOf_109 (by decide) ?_
  refine v_aload_n (pc := 110) 0 dX1_copyOf_110 rfl rfl ?_
  refine gX1_29 (pc := 111) TB_1 hN dX1_copyOf_111 ?_
  refine v_iconst (pc := 114) (nI 0) dX1_copyOf_114 (by decide) ?_
  refine v_bipush (pc := 115) (nI 8) dX1_copyOf_115 (by decide) ?_
  refine c_copyi (pc := 117) q675 (IA_tree8 TB_27 (by decide)) (by omega) (IA_tree8 TB_1 (by decide)) (by omega) (by decide) (by decide) (by decide) (by rw [hR]; decide) (by rw [hR]; decide) dX1_copyOf_117 ?_
  refine v_S (show s1 (s1 (tl6 (tcA S) 8) 22 (tc1 S 22 8)) 23 (va_cpy ((s1 (tl6 (tcA S) 8) 22 (tc1 S 22 8)) 49) ((s1 (tl6 (tcA S) 8) 22 (tc1 S 22 8)) 23) 0 0 8) = s1 (s1 (tl6 (tcA S) 8) 22 (tc1 S 22 8)) 23 (tc1 S 23 8) by rw [show (s1 (tl6 (tcA S) 8) 22 (tc1 S 22 8)) 49 = S 49 by rw [s1_ne (by decide), tl6_ne (by omega) (by decide), tcA_ne (by omega)], show (s1 (tl6 (tcA S) 8) 22 (tc1 S 22 8)) 23 = S 23 by rw [s1_ne (by decide), tl6_ne (by omega) (by decide), tcA_ne (by omega)]]; rfl) ?_
  refine v_aload_n (pc := 120) 1 dX1_copyOf_120 rfl rfl ?_
  refine gX1_32 (pc := 121) TB_27 hN dX1_copyOf_121 ?_
  refine v_iconst (pc := 124) (nI 0) dX1_copyOf_124 (by decide) ?_
  refine v_aload_n (pc := 125) 0 dX1_copyOf_125 rfl rfl ?_
  refine gX1_32 (pc := 126) TB_1 hN dX1_copyOf_126 ?_
  refine v_iconst (pc := 129) (nI 0) dX1_copyOf_129 (by decide) ?_
  refine v_bipush (pc := 130) (nI 8) dX1_copyOf_130 (by decide) ?_
  refine c_copyi (pc := 132) q675 (IA_tree8 TB_27 (by decide)) (by omega) (IA_tree8 TB_1 (by decide)) (by omega) (by decide) (by decide) (by decide) (by rw [hR]; decide) (by rw [hR]; decide) dX1_copyOf_132 ?_
  refine v_S (show s1 (s1 (s1 (tl6 (tcA S) 8) 22 (tc1 S 22 8)) 23 (tc1 S 23 8)) 24 (va_cpy ((s1 (s1 (tl6 (tcA S) 8) 22 (tc1 S 22 8)) 23 (tc1 S 23 8)) 50) ((s1 (s1 (tl6 (tcA S) 8) 22 (tc1 S 22 8)) 23 (tc1 S 23 8)) 24) 0 0 8) = tcB S by rw [show (s1 (s1 (tl6 (tcA S) 8) 22 (tc1 S 22 8)) 23 (tc1 S 23 8)) 50 = S 50 by rw [s1_ne (by decide), s1_ne (by decide), tl6_ne (by omega) (by decide), tcA_ne (by omega)], show (s1 (s1 (tl6 (tcA S) 8) 22 (tc1 S 22 8)) 23 (tc1 S 23 8)) 24 = S 24 by rw [s1_ne (by decide), s1_ne (by decide), tl6_ne (by omega) (by decide), tcA_ne (by omega)]]; rfl) ?_
  refine v_aload_n (pc := 135) 0 dX1_copyOf_135 rfl rfl ?_
  refine gX1_40 (pc := 136) TB_1 hN dX1_copyOf_136 ?_
  refine c_callVv (pc := 139) (st := []) (ci := 6) (ct_J0_clear (S := tcB S) (k := 1 + 24) (v := v0) (BC_tree TB_1) ⟨by rw [tcB_ne (by omega)]; exact hv0.1, hv0.2.1, by rw [tcB_ne (by omega)]; exact hv0.2.2⟩ (by omega)) kVX1_48 kDX1_48 (rm_ok hR (Nat.le_of_ble_eq_true rfl) (Nat.le_of_ble_eq_true rfl)) ⟨Nat.zero_le _, Nat.zero_le _⟩ (by omega) ((BC_tree TB_1) G _).1 rfl rfl rfl rfl (Nat.le_of_ble_eq_true rfl) dX1_copyOf_139 ?_
  refine v_aload_n (pc := 142) 0 dX1_copyOf_142 rfl rfl ?_
  refine gX1_40 (pc := 143) TB_1 hN dX1_copyOf_143 ?_
  refine v_aload_n (pc := 146) 1 dX1_copyOf_146 rfl rfl ?_
  refine gX1_40 (pc := 147) TB_27 hN dX1_copyOf_147 ?_
  refine c_callVv (pc := 150) (st := []) (ci := 6) (ct_J0_or (S := bset (tcB S) (1 + 24) 0) (k := 1 + 24) (q := 27 + 24) (v := v) (BC_tree TB_1) (BC_tree TB_27) (bset_BS (by decide)) ⟨by rw [bset_ne (by decide) (by decide), tcB_ne (by omega)]; exact hv.1, hv.2.1, by rw [bset_ne (by decide) (by decide), tcB_ne (by omega)]; exact hv.2.2⟩ (by omega) (by omega) (by omega) (by omega) (by omega)) kVX1_57 kDX1_57 (rm_ok hR (Nat.le_of_ble_eq_true rfl) (Nat.le_of_ble_eq_true rfl)) ⟨Nat.zero_le _, Nat.zero_le _⟩ (by omega) ((BC_tree TB_1) G _).1 rfl rfl rfl rfl (Nat.le_of_ble_eq_true rfl) dX1_copyOf_150 ?_
  exact v_vret (pc := 153) hr (Nat.le_refl _) (Nat.le_refl _) dX1_copyOf_153 (pV_mk (hC_c (bset_bset _ _ _ _)))

