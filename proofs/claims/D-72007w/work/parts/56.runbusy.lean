set_option maxRecDepth 100000
/-! ScopeTasks$Run: hasChildren, begin -/
theorem rBu_low {M : ST} {c : Nat → Int32} {t : Nat} (hM : MI M) (ht : t < mN M) : ∀ m, m ≤ t → rBu (M 521) (nI t) c m = false := by
  intro m
  induction m with
  | zero => intro _; rfl
  | succ m ih =>
    intro hm
    have h8 := hM.n
    obtain ⟨⟨e3, e4⟩, e5⟩ := hM.2.2.1 (m + 1) (by omega) (by omega)
    rw [rBu, ih (by omega), e3]
    have : ¬ nI (nn (M 521 (m + 1))) = nI t := fun z => absurd (nI_inj (by omega) (by omega) z) (by omega)
    simp [this]
set_option maxHeartbeats 4000000 in
theorem lp_hc {G : GT} {x : VX} {N : Nat} {Q : State → Prop} {S M : ST} {b t n : Nat} {c : Nat → Int32} (hb : RB b) (hN : 513 ≤ N) (ht : t < 8) (hT : TR S M) (hn : mN M = n) (hnE : S 1 0 = nI n) (hn8 : n ≤ 8) (hR : xR x = RM 2 0 0) : ∀ (m q : Nat), q + 1 + m = n → V G x "ScopeTasks$Run" cX2_hasChildren 4 Q 74 [(2, .int (bI (rBu (M 521) (nI t) c (n - 1) = true))), (0, .ref (gZ G + b)), (1, .int (nI t))] [] N (hC G (put S b c)) 0 0 → V G x "ScopeTasks$Run" cX2_hasChildren 4 Q 6 [(3, .int (nI (q + 1))), (2, .int (bI (rBu (M 521) (nI t) c q = true))), (0, .ref (gZ G + b)), (1, .int (nI t))] [] N (hC G (put S b c)) 0 0 := by
  have hbl := hb.le
  have hbg := hb.ge
  intro m
  induction m with
  | zero =>
    intro q hcm hk
    refine v_iload_n (pc := 6) 0 dX2_hasChildren_6 rfl rfl ?_
    refine v_aload_n (pc := 7) 2 dX2_hasChildren_7 rfl rfl ?_
    refine gX2_3 (pc := 8) hb hN dX2_hasChildren_8 ?_
    refine gX2_107 (pc := 11) hN dX2_hasChildren_11 ?_
    refine gX2_137 (pc := 14) TB_1 hN dX2_hasChildren_14 ?_
    refine v_topi (v := nI n) ((congrFun (put_ne (by omega)) _).trans hnE) ?_
    refine v_ic_geN (pc := 17) 74 (by omega) (by omega) dX2_hasChildren_17 (by decide) (fun c1 => ?_) (fun c1 => ?_)
    · skip
      refine v_sub (lv' := [(2, .int (bI (rBu (M 521) (nI t) c q = true))), (0, .ref (gZ G + b)), (1, .int (nI t))]) [1, 2, 3] rfl ?_
      rw [show n - 1 = q by omega] at hk
      exact hk
    · skip
      exact absurd c1 (by omega)
  | succ m ih =>
    intro q hcm hk
    refine v_iload_n (pc := 6) 0 dX2_hasChildren_6 rfl rfl ?_
    refine v_aload_n (pc := 7) 2 dX2_hasChildren_7 rfl rfl ?_
    refine gX2_3 (pc := 8) hb hN dX2_hasChildren_8 ?_
    refine gX2_107 (pc := 11) hN dX2_hasChildren_11 ?_
    refine gX2_137 (pc := 14) TB_1 hN dX2_hasChildren_14 ?_
    refine v_topi (v := nI n) ((congrFun (put_ne (by omega)) _).trans hnE) ?_
    refine v_ic_geN (pc := 17) 74 (by omega) (by omega) dX2_hasChildren_17 (by decide) (fun c1 => ?_) (fun c1 => ?_)
    · skip
      exact absurd c1 (by omega)
    · skip
      refine v_iload_n (pc := 20) 1 dX2_hasChildren_20 rfl rfl ?_
      refine v_if_neB (pc := 21) 62 dX2_hasChildren_21 (by decide) (fun c2 => ?_) (fun c2 => ?_)
      · skip
        refine v_iconst (pc := 62) (nI 1) dX2_hasChildren_62 (by decide) ?_
        refine v_goto (pc := 63) 67 dX2_hasChildren_63 (by decide) ?_
        refine v_istore_n (pc := 67) (lv' := [(2, .int (nI 1)), (3, .int (nI (q + 1))), (0, .ref (gZ G + b)), (1, .int (nI t))]) dX2_hasChildren_67 rfl (by decide) rfl ?_
        refine v_iincN (pc := 68) (k := 1) (lv' := [(3, .int (nI (q + 1 + 1))), (2, .int (nI 1)), (0, .ref (gZ G + b)), (1, .int (nI t))]) dX2_hasChildren_68 rfl (by decide) rfl ?_
        refine v_goto (pc := 71) 6 dX2_hasChildren_71 (by decide) ?_
        refine v_sub (lv' := [(3, .int (nI (q + 1 + 1))), (2, .int (nI 1)), (0, .ref (gZ G + b)), (1, .int (nI t))]) [0, 1, 2, 3] rfl ?_
        refine v_lv (lv' := [(3, .int (nI (q + 1 + 1))), (2, .int (bI (rBu (M 521) (nI t) c (q + 1) = true))), (0, .ref (gZ G + b)), (1, .int (nI t))]) (by rw [bI_t (p := rBu (M 521) (nI t) c (q + 1) = true) (by simp [rBu, c2])]) ?_
        exact ih (q + 1) (by omega) hk
      · skip
        refine v_aload_n (pc := 24) 2 dX2_hasChildren_24 rfl rfl ?_
        refine gX2_3 (pc := 25) hb hN dX2_hasChildren_25 ?_
        refine gX2_107 (pc := 28) hN dX2_hasChildren_28 ?_
        refine gX2_125 (pc := 31) TB_1 hN dX2_hasChildren_31 ?_
        refine v_iload_n (pc := 34) 0 dX2_hasChildren_34 rfl rfl ?_
        refine c_iald (pc := 35) (k := 1 + 1) (j := q + 1) (IA_tree8 TB_1 (by decide)) (by omega) rfl (by omega) (by decide) dX2_hasChildren_35 ?_
        refine v_topi (v := M 521 (q + 1)) ((congrFun (put_ne (by omega)) _).trans (hT.par (by rw [hn]; omega))) ?_
        refine v_iload_n (pc := 36) 3 dX2_hasChildren_36 rfl rfl ?_
        refine v_ic_ne (pc := 37) 66 dX2_hasChildren_37 (by decide) (fun c3 => ?_) (fun c3 => ?_)
        · skip
          refine v_iconst (pc := 66) (nI 0) dX2_hasChildren_66 (by decide) ?_
          refine v_istore_n (pc := 67) (lv' := [(2, .int (nI 0)), (3, .int (nI (q + 1))), (0, .ref (gZ G + b)), (1, .int (nI t))]) dX2_hasChildren_67 rfl (by decide) rfl ?_
          refine v_iincN (pc := 68) (k := 1) (lv' := [(3, .int (nI (q + 1 + 1))), (2, .int (nI 0)), (0, .ref (gZ G + b)), (1, .int (nI t))]) dX2_hasChildren_68 rfl (by decide) rfl ?_
          refine v_goto (pc := 71) 6 dX2_hasChildren_71 (by decide) ?_
          refine v_sub (lv' := [(3, .int (nI (q + 1 + 1))), (2, .int (nI 0)), (0, .ref (gZ G + b)), (1, .int (nI t))]) [0, 1, 2, 3] rfl ?_
          refine v_lv (lv' := [(3, .int (nI (q + 1 + 1))), (2, .int (bI (rBu (M 521) (nI t) c (q + 1) = true))), (0, .ref (gZ G + b)), (1, .int (nI t))]) (by rw [bI_f (p := rBu (M 521) (nI t) c (q + 1) = true) (by simp [rBu, c2, c3])]) ?_
          exact ih (q + 1) (by omega) hk
        · skip
          refine v_aload_n (pc := 40) 2 dX2_hasChildren_40 rfl rfl ?_
          refine gX2_20 (pc := 41) hb hN dX2_hasChildren_41 ?_
          refine v_iload_n (pc := 44) 0 dX2_hasChildren_44 rfl rfl ?_
          refine c_callVi (pc := 45) (st := []) (ci := 6) (ct_get1 (S := S) (b := b) (t := q + 1) (c := c) hb (by omega) (by omega)) kVX2_103 kDX2_103 (rm_ok hR (Nat.le_of_ble_eq_true rfl) (Nat.le_of_ble_eq_true rfl)) ⟨Nat.zero_le _, Nat.zero_le _⟩ (by omega) ((BC_run hb (j := 1) (by decide)) G _).1 rfl rfl rfl rfl (Nat.le_of_ble_eq_true rfl) dX2_hasChildren_45 ?_
          refine v_if_neB (pc := 48) 62 dX2_hasChildren_48 (by decide) (fun c4 => ?_) (fun c4 => ?_)
          · skip
            refine v_iconst (pc := 62) (nI 1) dX2_hasChildren_62 (by decide) ?_
            refine v_goto (pc := 63) 67 dX2_hasChildren_63 (by decide) ?_
            refine v_istore_n (pc := 67) (lv' := [(2, .int (nI 1)), (3, .int (nI (q + 1))), (0, .ref (gZ G + b)), (1, .int (nI t))]) dX2_hasChildren_67 rfl (by decide) rfl ?_
            refine v_iincN (pc := 68) (k := 1) (lv' := [(3, .int (nI (q + 1 + 1))), (2, .int (nI 1)), (0, .ref (gZ G + b)), (1, .int (nI t))]) dX2_hasChildren_68 rfl (by decide) rfl ?_
            refine v_goto (pc := 71) 6 dX2_hasChildren_71 (by decide) ?_
            refine v_sub (lv' := [(3, .int (nI (q + 1 + 1))), (2, .int (nI 1)), (0, .ref (gZ G + b)), (1, .int (nI t))]) [0, 1, 2, 3] rfl ?_
            refine v_lv (lv' := [(3, .int (nI (q + 1 + 1))), (2, .int (bI (rBu (M 521) (nI t) c (q + 1) = true))), (0, .ref (gZ G + b)), (1, .int (nI t))]) (by rw [bI_t (p := rBu (M 521) (nI t) c (q + 1) = true) (by simp [rBu, c2, c3, c4])]) ?_
            exact ih (q + 1) (by omega) hk
          · skip
            refine v_aload_n (pc := 51) 2 dX2_hasChildren_51 rfl rfl ?_
            refine gX2_24 (pc := 52) hb hN dX2_hasChildren_52 ?_
            refine v_iload_n (pc := 55) 0 dX2_hasChildren_55 rfl rfl ?_
            refine c_callVi (pc := 56) (st := []) (ci := 6) (ct_get3 (S := S) (b := b) (t := q + 1) (c := c) hb (by omega) (by omega)) kVX2_103 kDX2_103 (rm_ok hR (Nat.le_of_ble_eq_true rfl) (Nat.le_of_ble_eq_true rfl)) ⟨Nat.zero_le _, Nat.zero_le _⟩ (by omega) ((BC_run hb (j := 3) (by decide)) G _).1 rfl rfl rfl rfl (Nat.le_of_ble_eq_true rfl) dX2_hasChildren_56 ?_
            refine v_if_eqB (pc := 59) 66 dX2_hasChildren_59 (by decide) (fun c5 => ?_) (fun c5 => ?_)
            · skip
              refine v_iconst (pc := 66) (nI 0) dX2_hasChildren_66 (by decide) ?_
              refine v_istore_n (pc := 67) (lv' := [(2, .int (nI 0)), (3, .int (nI (q + 1))), (0, .ref (gZ G + b)), (1, .int (nI t))]) dX2_hasChildren_67 rfl (by decide) rfl ?_
              refine v_iincN (pc := 68) (k := 1) (lv' := [(3, .int (nI (q + 1 + 1))), (2, .int (nI 0)), (0, .ref (gZ G + b)), (1, .int (nI t))]) dX2_hasChildren_68 rfl (by decide) rfl ?_
              refine v_goto (pc := 71) 6 dX2_hasChildren_71 (by decide) ?_
              refine v_sub (lv' := [(3, .int (nI (q + 1 + 1))), (2, .int (nI 0)), (0, .ref (gZ G + b)), (1, .int (nI t))]) [0, 1, 2, 3] rfl ?_
              refine v_lv (lv' := [(3, .int (nI (q + 1 + 1))), (2, .int (bI (rBu (M 521) (nI t) c (q + 1) = true))), (0, .ref (gZ G + b)), (1, .int (nI t))]) (by rw [bI_f (p := rBu (M 521) (nI t) c (q + 1) = true) (by simp [rBu, c2, c3, c4, c5])]) ?_
              exact ih (q + 1) (by omega) hk
            · skip
              refine v_iconst (pc := 62) (nI 1) dX2_hasChildren_62 (by decide) ?_
              refine v_goto (pc := 63) 67 dX2_hasChildren_63 (by decide) ?_
              refine v_istore_n (pc := 67) (lv' := [(2, .int (nI 1)), (3, .int (nI (q + 1))), (0, .ref (gZ G + b)), (1, .int (nI t))]) dX2_hasChildren_67 rfl (by decide) rfl ?_
              refine v_iincN (pc := 68) (k := 1) (lv' := [(3, .int (nI (q + 1 + 1))), (2, .int (nI 1)), (0, .ref (gZ G + b)), (1, .int (nI t))]) dX2_hasChildren_68 rfl (by decide) rfl ?_
              refine v_goto (pc := 71) 6 dX2_hasChildren_71 (by decide) ?_
              refine v_sub (lv' := [(3, .int (nI (q + 1 + 1))), (2, .int (nI 1)), (0, .ref (gZ G + b)), (1, .int (nI t))]) [0, 1, 2, 3] rfl ?_
              refine v_lv (lv' := [(3, .int (nI (q + 1 + 1))), (2, .int (bI (rBu (M 521) (nI t) c (q + 1) = true))), (0, .ref (gZ G + b)), (1, .int (nI t))]) (by rw [bI_t (p := rBu (M 521) (nI t) c (q + 1) = true) (by simp [rBu, c2, c3, c4, c5])]) ?_
              exact ih (q + 1) (by omega) hk

set_option maxHeartbeats 4000000 in
theorem ct_X2_hasChildren {G : GT} {l : Launch} {N : Nat} {S : ST} {c : Nat → Int32} {b t : Nat} {M : ST} (hb : RB b) (htm : t < mN M) (hT : TR S M) (hM : MI M) (hN : 513 ≤ N) : CTi G l yX2_hasChildren cX2_hasChildren 4 (some .boolean) 2 [.ref (gZ G + b), .int (nI t)] N (put S b c) (bI (rBusy M (nI t) c)) (put S b c) := by
  have hbl := hb.le
  have hbg := hb.ge
  have h1n := hM.2.1
  have h8n := hM.n
  obtain ⟨n, hn⟩ : ∃ n, mN M = n := ⟨_, rfl⟩
  have hnE : S 1 0 = nI n := by rw [hT.n, ← hn]; exact hM.1.1
  rw [hn] at h1n h8n
  have ht : t < 8 := by omega
  refine CT.mk "ScopeTasks$Run" [(0, .ref (gZ G + b)), (1, .int (nI t))] rfl (by decide) rfl (Nat.le_of_ble_eq_true rfl) ?_
  intro x hR hl hr hnm
  refine v_iconst (pc := 0) (nI 0) dX2_hasChildren_0 (by decide) ?_
  refine v_istore_n (pc := 1) (lv' := [(2, .int (nI 0)), (0, .ref (gZ G + b)), (1, .int (nI t))]) dX2_hasChildren_1 rfl (by decide) rfl ?_
  refine v_iload_n (pc := 2) 2 dX2_hasChildren_2 rfl rfl ?_
  refine v_iconst (pc := 3) (nI 1) dX2_hasChildren_3 (by decide) ?_
  refine v_iaddN (pc := 4) dX2_hasChildren_4 ?_
  refine v_istore_n (pc := 5) (lv' := [(3, .int (nI (t + 1))), (2, .int (nI 0)), (0, .ref (gZ G + b)), (1, .int (nI t))]) dX2_hasChildren_5 rfl (by decide) rfl ?_
  refine v_sub (lv' := [(3, .int (nI (t + 1))), (2, .int (nI 0)), (0, .ref (gZ G + b)), (1, .int (nI t))]) [0, 1, 2, 3] rfl ?_
  refine v_lv (lv' := [(3, .int (nI (t + 1))), (2, .int (bI (rBu (M 521) (nI t) c t = true))), (0, .ref (gZ G + b)), (1, .int (nI t))]) (by rw [bI_f (p := rBu (M 521) (nI t) c t = true) (by rw [rBu_low hM htm t (Nat.le_refl _)]; simp)]) ?_
  refine lp_hc hb hN ht hT hn hnE h8n hR (n - 1 - t) t (by omega) ?_
  refine v_iload_n (pc := 74) 0 dX2_hasChildren_74 rfl rfl ?_
  exact v_iret (pc := 75) hr bI_nar (Nat.le_refl _) (Nat.le_refl _) dX2_hasChildren_75 (pI_mk (by unfold rBusy; rw [hn]) (hC_c rfl))

def cBeg (M : ST) (c : Nat → Int32) (t q : Nat) : Nat → Int32 :=
  rTr (upd (upd (upd c (18 * q) (nI 1)) (18 * q + 7) (c 144)) (18 * q + 4) (cDue c (M 524 q) (c (18 * t + 4)))) (nI q) (nI 0)
def cBCL (M : ST) (t : Nat) (c : Nat → Int32) : Nat → Nat → Nat → Int32
  | 0, _ => c
  | m + 1, q => if M 521 q = nI t ∧ c (18 * q + 7) = (-9) then cBeg M c t q else cBCL M t c m (q + 1)
def cBC (M : ST) (t : Nat) (c : Nat → Int32) : Nat → Int32 := cBCL M t c (mN M - (t + 1)) (t + 1)
def BG (c : Nat → Int32) : Prop := ∀ q, q < 8 → c (18 * q + 7) = (-9) → c (18 * q) = nI 0
theorem cDue_un {c : Nat → Int32} {D bd v : Int32} {i : Nat} (h : i ≠ 144) : cDue (upd c i v) D bd = cDue c D bd := by unfold cDue; rw [pk_un (Ne.symm h)]
set_option maxHeartbeats 4000000 in
theorem lp_cbg {G : GT} {x : VX} {N : Nat} {S M : ST} {b t n : Nat} {c F : Nat → Int32} (hb : RB b) (hN : 513 ≤ N) (ht : t < 8) (hT : TR S M) (hn : mN M = n) (hnE : S 1 0 = nI n) (hn8 : n ≤ 8) (hg : BG c) (h5 : inN (c 145) 60) (hR : xR x = RM 3 0 0) (hr : (xM x).sig.returnType = none) : ∀ (m q : Nat), q + m = n → t < q → cBCL M t c m q = F → V G x "ScopeTasks$Run" cX2_begin 3 (QQ G x (pV N (fun h' => h' = hC G (put S b F))) 0 0) 4 [(2, .int (nI q)), (0, .ref (gZ G + b)), (1, .int (nI t))] [] N (hC G (put S b c)) 0 0 := by
  have hbl := hb.le
  have hbg := hb.ge
  intro m
  induction m with
  | zero =>
    intro q hcm htq hF
    refine v_iload_n (pc := 4) 0 dX2_begin_4 rfl rfl ?_
    refine v_aload_n (pc := 5) 1 dX2_begin_5 rfl rfl ?_
    refine gX2_3 (pc := 6) hb hN dX2_begin_6 ?_
    refine gX2_107 (pc := 9) hN dX2_begin_9 ?_
    refine gX2_137 (pc := 12) TB_1 hN dX2_begin_12 ?_
    refine v_topi (v := nI n) ((congrFun (put_ne (by omega)) _).trans hnE) ?_
    refine v_ic_geN (pc := 15) 51 (by omega) (by omega) dX2_begin_15 (by decide) (fun c1 => ?_) (fun c1 => ?_)
    · skip
      refine v_iload_n (pc := 51) 0 dX2_begin_51 rfl rfl ?_
      refine v_aload_n (pc := 52) 1 dX2_begin_52 rfl rfl ?_
      refine gX2_3 (pc := 53) hb hN dX2_begin_53 ?_
      refine gX2_107 (pc := 56) hN dX2_begin_56 ?_
      refine gX2_137 (pc := 59) TB_1 hN dX2_begin_59 ?_
      refine v_topi (v := nI n) ((congrFun (put_ne (by omega)) _).trans hnE) ?_
      refine v_ic_geN (pc := 62) 106 (by omega) (by omega) dX2_begin_62 (by decide) (fun c2 => ?_) (fun c2 => ?_)
      · skip
        subst hF
        exact v_vret (pc := 106) hr (Nat.le_refl _) (Nat.le_refl _) dX2_begin_106 (pV_mk rfl)
      · skip
        exact absurd c2 (by omega)
    · skip
      exact absurd c1 (by omega)
  | succ m ih =>
    intro q hcm htq hF
    refine v_iload_n (pc := 4) 0 dX2_begin_4 rfl rfl ?_
    refine v_aload_n (pc := 5) 1 dX2_begin_5 rfl rfl ?_
    refine gX2_3 (pc := 6) hb hN dX2_begin_6 ?_
    refine gX2_107 (pc := 9) hN dX2_begin_9 ?_
    refine gX2_137 (pc := 12) TB_1 hN dX2_begin_12 ?_
    refine v_topi (v := nI n) ((congrFun (put_ne (by omega)) _).trans hnE) ?_
    refine v_ic_geN (pc := 15) 51 (by omega) (by omega) dX2_begin_15 (by decide) (fun c1 => ?_) (fun c1 => ?_)
    · skip
      exact absurd c1 (by omega)
    · skip
      refine v_aload_n (pc := 18) 1 dX2_begin_18 rfl rfl ?_
      refine gX2_3 (pc := 19) hb hN dX2_begin_19 ?_
      refine gX2_107 (pc := 22) hN dX2_begin_22 ?_
      refine gX2_125 (pc := 25) TB_1 hN dX2_begin_25 ?_
      refine v_iload_n (pc := 28) 0 dX2_begin_28 rfl rfl ?_
      refine c_iald (pc := 29) (k := 1 + 1) (j := q) (IA_tree8 TB_1 (by decide)) (by omega) rfl (by omega) (by decide) dX2_begin_29 ?_
      refine v_topi (v := M 521 q) ((congrFun (put_ne (by omega)) _).trans (hT.par (by rw [hn]; omega))) ?_
      refine v_iload_n (pc := 30) 2 dX2_begin_30 rfl rfl ?_
      refine v_ic_ne (pc := 31) 45 dX2_begin_31 (by decide) (fun c2 => ?_) (fun c2 => ?_)
      · skip
        refine v_iincN (pc := 45) (k := 0) (lv' := [(2, .int (nI (q + 1))), (0, .ref (gZ G + b)), (1, .int (nI t))]) dX2_begin_45 rfl (by decide) rfl ?_
        refine v_goto (pc := 48) 4 dX2_begin_48 (by decide) ?_
        refine v_sub (lv' := [(2, .int (nI (q + 1))), (0, .ref (gZ G + b)), (1, .int (nI t))]) [0, 1, 2] rfl ?_
        exact ih (q + 1) (by omega) (by omega) (by rw [cBCL, if_neg (fun z => c2 z.1)] at hF; exact hF)
      · skip
        refine v_aload_n (pc := 34) 1 dX2_begin_34 rfl rfl ?_
        refine gX2_46 (pc := 35) hb hN dX2_begin_35 ?_
        refine v_iload_n (pc := 38) 0 dX2_begin_38 rfl rfl ?_
        refine c_iald (pc := 39) (k := b + 13) (j := q) (IA_run8 hb (by decide) (by decide) (by decide)) (by omega) rfl (by omega) (by decide) dX2_begin_39 ?_
        refine v_topi (v := c (18 * q + 7)) (pr_13 (by omega)) ?_
        refine v_bipush (pc := 40) ((-9)) dX2_begin_40 (by decide) ?_
        refine v_ic_eq (pc := 42) 51 dX2_begin_42 (by decide) (fun c3 => ?_) (fun c3 => ?_)
        · skip
          refine v_iload_n (pc := 51) 0 dX2_begin_51 rfl rfl ?_
          refine v_aload_n (pc := 52) 1 dX2_begin_52 rfl rfl ?_
          refine gX2_3 (pc := 53) hb hN dX2_begin_53 ?_
          refine gX2_107 (pc := 56) hN dX2_begin_56 ?_
          refine gX2_137 (pc := 59) TB_1 hN dX2_begin_59 ?_
          refine v_topi (v := nI n) ((congrFun (put_ne (by omega)) _).trans hnE) ?_
          refine v_ic_geN (pc := 62) 106 (by omega) (by omega) dX2_begin_62 (by decide) (fun c4 => ?_) (fun c4 => ?_)
          · skip
            exact absurd c4 (by omega)
          · skip
            refine v_aload_n (pc := 65) 1 dX2_begin_65 rfl rfl ?_
            refine gX2_20 (pc := 66) hb hN dX2_begin_66 ?_
            refine v_iload_n (pc := 69) 0 dX2_begin_69 rfl rfl ?_
            refine c_callVv (pc := 70) (st := []) (ci := 6) (ct_set1 (S := S) (b := b) (t := q) (c := c) hb (by omega) (hg q (by omega) c3) (by omega)) kVX2_85 kDX2_85 (rm_ok hR (Nat.le_of_ble_eq_true rfl) (Nat.le_of_ble_eq_true rfl)) ⟨Nat.zero_le _, Nat.zero_le _⟩ (by omega) ((BC_run hb (j := 1) (by decide)) G _).1 rfl rfl rfl rfl (Nat.le_of_ble_eq_true rfl) dX2_begin_70 ?_
            refine v_aload_n (pc := 73) 1 dX2_begin_73 rfl rfl ?_
            refine gX2_46 (pc := 74) hb hN dX2_begin_74 ?_
            refine v_iload_n (pc := 77) 0 dX2_begin_77 rfl rfl ?_
            refine v_aload_n (pc := 78) 1 dX2_begin_78 rfl rfl ?_
            refine gX2_69 (pc := 79) hb hN dX2_begin_79 ?_
            refine v_topi (v := c 144) ((pr_0).trans (pk_un (by omega))) ?_
            refine c_iast (pc := 82) (k := b + 13) (j := q) (IA_run8 hb (by decide) (by decide) (by decide)) (by omega) rfl (by omega) (by decide) dX2_begin_82 ?_
            refine v_S (pw_13 (by omega)) ?_
            refine v_aload_n (pc := 83) 1 dX2_begin_83 rfl rfl ?_
            refine gX2_43 (pc := 84) hb hN dX2_begin_84 ?_
            refine v_iload_n (pc := 87) 0 dX2_begin_87 rfl rfl ?_
            refine v_aload_n (pc := 88) 1 dX2_begin_88 rfl rfl ?_
            refine v_iload_n (pc := 89) 0 dX2_begin_89 rfl rfl ?_
            refine v_aload_n (pc := 90) 1 dX2_begin_90 rfl rfl ?_
            refine gX2_43 (pc := 91) hb hN dX2_begin_91 ?_
            refine v_iload_n (pc := 94) 2 dX2_begin_94 rfl rfl ?_
            refine c_iald (pc := 95) (k := b + 12) (j := t) (IA_run8 hb (by decide) (by decide) (by decide)) (by omega) rfl (by omega) (by decide) dX2_begin_95 ?_
            refine v_topi (v := c (18 * t + 4)) ((pr_12 (by omega)).trans ((pk_un (by omega)).trans (pk_un (by omega)))) ?_
            refine c_callVi (pc := 96) (st := [.int (nI q), .ref (gZ G + (b + 12))]) (ci := 2) (ct_X2_dueOf (S := S) (b := b) (t := q) (bd := c (18 * t + 4)) (c := upd (upd c (18 * q) (nI 1)) (18 * q + 7) (c 144)) (D := M 524 q) hb (by omega) (hT.dl (by rw [hn]; omega)) (by omega)) kVX2_89 kDX2_89 (rm_ok hR (Nat.le_of_ble_eq_true rfl) (Nat.le_of_ble_eq_true rfl)) ⟨Nat.zero_le _, Nat.zero_le _⟩ (by omega) (hC_run (j := 0) hb (by decide) rfl) rfl rfl rfl rfl (Nat.le_of_ble_eq_true rfl) dX2_begin_96 ?_
            refine c_iast (pc := 99) (k := b + 12) (j := q) (IA_run8 hb (by decide) (by decide) (by decide)) (by omega) rfl (by omega) (by decide) dX2_begin_99 ?_
            refine v_S (pw_12 (by omega)) ?_
            refine v_aload_n (pc := 100) 1 dX2_begin_100 rfl rfl ?_
            refine v_iload_n (pc := 101) 0 dX2_begin_101 rfl rfl ?_
            refine v_iconst (pc := 102) (nI 0) dX2_begin_102 (by decide) ?_
            refine c_callVv (pc := 103) (st := []) (ci := 2) (ct_X2_trace (S := S) (b := b) (t := nI q) (w := nI 0) (c := upd (upd (upd c (18 * q) (nI 1)) (18 * q + 7) (c 144)) (18 * q + 4) (cDue (upd (upd c (18 * q) (nI 1)) (18 * q + 7) (c 144)) (M 524 q) (c (18 * t + 4)))) hb (by rw [pk_un (by omega), pk_un (by omega), pk_un (by omega)]; exact h5) (by omega)) kVX2_130 kDX2_130 (rm_ok hR (Nat.le_of_ble_eq_true rfl) (Nat.le_of_ble_eq_true rfl)) ⟨Nat.zero_le _, Nat.zero_le _⟩ (by omega) (hC_run (j := 0) hb (by decide) rfl) rfl rfl rfl rfl (Nat.le_of_ble_eq_true rfl) dX2_begin_103 ?_
            rw [cBCL, if_pos ⟨c2, c3⟩] at hF
            subst hF
            exact v_vret (pc := 106) hr (Nat.le_refl _) (Nat.le_refl _) dX2_begin_106 (pV_mk (hC_c (congrArg (put S b) (by unfold cBeg; rw [cDue_un (by omega), cDue_un (by omega)]))))
        · skip
          refine v_iincN (pc := 45) (k := 0) (lv' := [(2, .int (nI (q + 1))), (0, .ref (gZ G + b)), (1, .int (nI t))]) dX2_begin_45 rfl (by decide) rfl ?_
          refine v_goto (pc := 48) 4 dX2_begin_48 (by decide) ?_
          refine v_sub (lv' := [(2, .int (nI (q + 1))), (0, .ref (gZ G + b)), (1, .int (nI t))]) [0, 1, 2] rfl ?_
          exact ih (q + 1) (by omega) (by omega) (by rw [cBCL, if_neg (fun z => c3 z.2)] at hF; exact hF)

set_option maxHeartbeats 4000000 in
theorem ct_X2_begin {G : GT} {l : Launch} {N : Nat} {S : ST} {c : Nat → Int32} {b t : Nat} {M : ST} (hb : RB b) (htm : t < mN M) (hT : TR S M) (hM : MI M) (hg : BG c) (h5 : inN (c 145) 60) (hN : 513 ≤ N) : CTv G l yX2_begin cX2_begin 3 none 3 [.ref (gZ G + b), .int (nI t)] N (put S b c) (put S b (cBC M t c)) := by
  have hbl := hb.le
  have hbg := hb.ge
  have h1n := hM.2.1
  have h8n := hM.n
  obtain ⟨n, hn⟩ : ∃ n, mN M = n := ⟨_, rfl⟩
  have hnE : S 1 0 = nI n := by rw [hT.n, ← hn]; exact hM.1.1
  rw [hn] at h1n h8n
  have ht : t < 8 := by omega
  refine CT.mk "ScopeTasks$Run" [(0, .ref (gZ G + b)), (1, .int (nI t))] rfl (by decide) rfl (Nat.le_of_ble_eq_true rfl) ?_
  intro x hR hl hr hnm
  refine v_iload_n (pc := 0) 1 dX2_begin_0 rfl rfl ?_
  refine v_iconst (pc := 1) (nI 1) dX2_begin_1 (by decide) ?_
  refine v_iaddN (pc := 2) dX2_begin_2 ?_
  refine v_istore_n (pc := 3) (lv' := [(2, .int (nI (t + 1))), (0, .ref (gZ G + b)), (1, .int (nI t))]) dX2_begin_3 rfl (by decide) rfl ?_
  refine v_sub (lv' := [(2, .int (nI (t + 1))), (0, .ref (gZ G + b)), (1, .int (nI t))]) [0, 1, 2] rfl ?_
  exact lp_cbg hb hN ht hT hn hnE h8n hg h5 hR hr (n - (t + 1)) (t + 1) (by omega) (by omega) (by unfold cBC; rw [hn])

