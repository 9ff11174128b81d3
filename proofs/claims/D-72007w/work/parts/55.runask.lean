set_option maxRecDepth 100000
/-! ScopeTasks$Run: askChildren, close, hasChildren, begin -/
set_option maxHeartbeats 4000000 in
theorem lp_ask {G : GT} {x : VX} {N b t : Nat} {S : ST} {F : Nat → Int32} (hR : xR x = RM 3 0 0) (hb : RB b) (ht : t < 8) (hN : 513 ≤ N) (hr : (xM x).sig.returnType = none) : ∀ (m f : Nat) (c : Nat → Int32), f + m = 8 ∨ (f ≤ 8 ∧ 8 ≤ f + m) → f ≤ 8 → rAskL (S 2) (nI t) (8 - f) f c = F → V G x "ScopeTasks$Run" cX2_askChildren 3 (QQ G x (pV N (fun h' => h' = hC G (put S b F))) 0 0) 11 [(2, .int (nsb (msk c 0 1) f)), (0, .ref (gZ G + b)), (1, .int (nI t))] [] N (hC G (put S b c)) 0 0 := by
  have hbl := hb.le
  have hbg := hb.ge
  intro m
  induction m with
  | zero =>
    intro f c hm hf hF
    obtain rfl : f = 8 := by omega
    rcases nsb_c (c := c) (f := 8) (by omega) with ⟨h1, h2⟩ | ⟨r, h1, h2, h3, -⟩
    · rw [h1]
      refine v_iload_n (pc := 11) 0 dX2_askChildren_11 rfl rfl ?_
      refine v_if_lt (pc := 12) 53 dX2_askChildren_12 (by decide) (fun c1 => ?_) (fun c1 => ?_)
      · skip
        subst hF
        rw [rAskL_skip _ _ _ (fun q a1 a2 e => h2 q a1 (by omega) e.2)]
        exact v_vret (pc := 53) hr (Nat.le_refl _) (Nat.le_refl _) dX2_askChildren_53 (pV_mk rfl)
      · skip
        exact absurd c1 (by decide)
    · omega
  | succ m ih =>
    intro f c hm hf hF
    rcases nsb_c (c := c) (f := f) (by omega) with ⟨h1, h2⟩ | ⟨r, h1, h2, h3, h5, h6⟩
    · rw [h1]
      refine v_iload_n (pc := 11) 0 dX2_askChildren_11 rfl rfl ?_
      refine v_if_lt (pc := 12) 53 dX2_askChildren_12 (by decide) (fun c1 => ?_) (fun c1 => ?_)
      · skip
        subst hF
        rw [rAskL_skip _ _ _ (fun q a1 a2 e => h2 q a1 (by omega) e.2)]
        exact v_vret (pc := 53) hr (Nat.le_refl _) (Nat.le_refl _) dX2_askChildren_53 (pV_mk rfl)
      · skip
        exact absurd c1 (by decide)
    · have hG : rAskL (S 2) (nI t) (7 - r + 1) r c = F := by
        rw [← hF, show 8 - f = (r - f) + (7 - r + 1) by omega, rAskL_add (r - f) (7 - r + 1) f c, rAskL_skip (r - f) f c (fun q a1 a2 e => h6 q a1 (by omega) e.2), show f + (r - f) = r by omega]
      rw [h1]
      refine v_iload_n (pc := 11) 0 dX2_askChildren_11 rfl rfl ?_
      refine v_if_ltN (pc := 12) (by omega) dX2_askChildren_12 53 (by decide) ?_
      refine v_aload_n (pc := 15) 1 dX2_askChildren_15 rfl rfl ?_
      refine gX2_3 (pc := 16) hb hN dX2_askChildren_16 ?_
      refine gX2_107 (pc := 19) hN dX2_askChildren_19 ?_
      refine gX2_125 (pc := 22) TB_1 hN dX2_askChildren_22 ?_
      refine v_iload_n (pc := 25) 0 dX2_askChildren_25 rfl rfl ?_
      refine c_iald (pc := 26) (k := 1 + 1) (j := r) (IA_tree8 TB_1 (by decide)) (by omega) rfl (by omega) (by decide) dX2_askChildren_26 ?_
      refine v_topi (v := S (1 + 1) r) (congrFun (put_ne (by omega)) _) ?_
      refine v_iload_n (pc := 27) 2 dX2_askChildren_27 rfl rfl ?_
      refine v_ic_ne (pc := 28) 39 dX2_askChildren_28 (by decide) (fun c1 => ?_) (fun c1 => ?_)
      · skip
        refine v_aload_n (pc := 39) 1 dX2_askChildren_39 rfl rfl ?_
        refine gX2_20 (pc := 40) hb hN dX2_askChildren_40 ?_
        refine v_iload_n (pc := 43) 0 dX2_askChildren_43 rfl rfl ?_
        refine v_iconst (pc := 44) (nI 1) dX2_askChildren_44 (by decide) ?_
        refine v_iaddN (pc := 45) dX2_askChildren_45 ?_
        refine c_callVi (pc := 46) (st := []) (ci := 6) (ct_nxt1 (S := S) (b := b) (f := r + 1) (c := c) hb (by omega) (by omega)) kVX2_121 kDX2_121 (rm_ok hR (Nat.le_of_ble_eq_true rfl) (Nat.le_of_ble_eq_true rfl)) ⟨Nat.zero_le _, Nat.zero_le _⟩ (by omega) ((BC_run hb (j := 1) (by decide)) G _).1 rfl rfl rfl rfl (Nat.le_of_ble_eq_true rfl) dX2_askChildren_46 ?_
        refine v_istore_n (pc := 49) (lv' := [(2, .int (nsb (msk c 0 1) (r + 1))), (0, .ref (gZ G + b)), (1, .int (nI t))]) dX2_askChildren_49 rfl (by decide) rfl ?_
        refine v_goto (pc := 50) 11 dX2_askChildren_50 (by decide) ?_
        refine v_sub (lv' := [(2, .int (nsb (msk c 0 1) (r + 1))), (0, .ref (gZ G + b)), (1, .int (nI t))]) [0, 1, 2] rfl ?_
        exact ih (r + 1) _ (by omega) (by omega) (((congrArg (fun z => rAskL (S 2) (nI t) z (r + 1) _) (by omega : 8 - (r + 1) = 7 - r)).trans (rAskL_f (fun z => c1 z.1)).symm).trans hG)
      · skip
        refine v_aload_n (pc := 31) 1 dX2_askChildren_31 rfl rfl ?_
        refine gX2_30 (pc := 32) hb hN dX2_askChildren_32 ?_
        refine v_iload_n (pc := 35) 0 dX2_askChildren_35 rfl rfl ?_
        refine c_callVv (pc := 36) (st := []) (ci := 6) (ct_set7 (S := S) (b := b) (t := r) (c := c) hb (by omega) (by omega)) kVX2_85 kDX2_85 (rm_ok hR (Nat.le_of_ble_eq_true rfl) (Nat.le_of_ble_eq_true rfl)) ⟨Nat.zero_le _, Nat.zero_le _⟩ (by omega) ((BC_run hb (j := 7) (by decide)) G _).1 rfl rfl rfl rfl (Nat.le_of_ble_eq_true rfl) dX2_askChildren_36 ?_
        refine v_aload_n (pc := 39) 1 dX2_askChildren_39 rfl rfl ?_
        refine gX2_20 (pc := 40) hb hN dX2_askChildren_40 ?_
        refine v_iload_n (pc := 43) 0 dX2_askChildren_43 rfl rfl ?_
        refine v_iconst (pc := 44) (nI 1) dX2_askChildren_44 (by decide) ?_
        refine v_iaddN (pc := 45) dX2_askChildren_45 ?_
        refine c_callVi (pc := 46) (st := []) (ci := 6) (ct_nxt1 (S := S) (b := b) (f := r + 1) (c := upd c (18 * r + 5) (nI 1)) hb (by omega) (by omega)) kVX2_121 kDX2_121 (rm_ok hR (Nat.le_of_ble_eq_true rfl) (Nat.le_of_ble_eq_true rfl)) ⟨Nat.zero_le _, Nat.zero_le _⟩ (by omega) ((BC_run hb (j := 1) (by decide)) G _).1 rfl rfl rfl rfl (Nat.le_of_ble_eq_true rfl) dX2_askChildren_46 ?_
        refine v_istore_n (pc := 49) (lv' := [(2, .int (nsb (msk (upd c (18 * r + 5) (nI 1)) 0 1) (r + 1))), (0, .ref (gZ G + b)), (1, .int (nI t))]) dX2_askChildren_49 rfl (by decide) rfl ?_
        refine v_goto (pc := 50) 11 dX2_askChildren_50 (by decide) ?_
        refine v_sub (lv' := [(2, .int (nsb (msk (upd c (18 * r + 5) (nI 1)) 0 1) (r + 1))), (0, .ref (gZ G + b)), (1, .int (nI t))]) [0, 1, 2] rfl ?_
        exact ih (r + 1) _ (by omega) (by omega) (((congrArg (fun z => rAskL (S 2) (nI t) z (r + 1) _) (by omega : 8 - (r + 1) = 7 - r)).trans (rAskL_t ⟨c1, h5⟩).symm).trans hG)

set_option maxHeartbeats 4000000 in
theorem ct_X2_askChildren {G : GT} {l : Launch} {N : Nat} {S : ST} {c : Nat → Int32} {b t : Nat} {M : ST} (hb : RB b) (ht : t < 8) (hT : TR S M) (hM : MI M) (hu : UB M c) (hN : 513 ≤ N) : CTv G l yX2_askChildren cX2_askChildren 3 none 3 [.ref (gZ G + b), .int (nI t)] N (put S b c) (put S b (rAsk M (nI t) c)) := by
  have hbl := hb.le
  have hbg := hb.ge
  refine CT.mk "ScopeTasks$Run" [(0, .ref (gZ G + b)), (1, .int (nI t))] rfl (by decide) rfl (Nat.le_of_ble_eq_true rfl) ?_
  intro x hR hl hr hnm
  refine v_aload_n (pc := 0) 0 dX2_askChildren_0 rfl rfl ?_
  refine gX2_20 (pc := 1) hb hN dX2_askChildren_1 ?_
  refine v_iload_n (pc := 4) 1 dX2_askChildren_4 rfl rfl ?_
  refine v_iconst (pc := 5) (nI 1) dX2_askChildren_5 (by decide) ?_
  refine v_iaddN (pc := 6) dX2_askChildren_6 ?_
  refine c_callVi (pc := 7) (st := []) (ci := 6) (ct_nxt1 (S := S) (b := b) (f := t + 1) (c := c) hb (by omega) (by omega)) kVX2_121 kDX2_121 (rm_ok hR (Nat.le_of_ble_eq_true rfl) (Nat.le_of_ble_eq_true rfl)) ⟨Nat.zero_le _, Nat.zero_le _⟩ (by omega) ((BC_run hb (j := 1) (by decide)) G _).1 rfl rfl rfl rfl (Nat.le_of_ble_eq_true rfl) dX2_askChildren_7 ?_
  refine v_istore_n (pc := 10) (lv' := [(2, .int (nsb (msk c 0 1) (t + 1))), (0, .ref (gZ G + b)), (1, .int (nI t))]) dX2_askChildren_10 rfl (by decide) rfl ?_
  refine v_sub (lv' := [(2, .int (nsb (msk c 0 1) (t + 1))), (0, .ref (gZ G + b)), (1, .int (nI t))]) [0, 1, 2] rfl ?_
  exact lp_ask hR hb ht hN hr 8 (t + 1) c (by omega) (by omega) (rAsk_eq hT hM hu ht)

theorem rTr_l5 {g : Nat → Int32} {t w : Int32} {j : Nat} (h : j < 145) : rTr g t w j = g j := by
  unfold rTr
  split
  · rw [pk_un (by omega), pk_un (by omega), pk_un (by omega), pk_un (by omega)]
  · rfl
theorem UB.up {M : ST} {c : Nat → Int32} (h : UB M c) {i : Nat} {v : Int32} (hi : ∀ q, mN M ≤ q → q < 8 → i ≠ 18 * q) : UB M (upd c i v) := fun q h1 h2 => by rw [pk_un (Ne.symm (hi q h1 h2))]; exact h q h1 h2
theorem UB.tr {M : ST} {c : Nat → Int32} (h : UB M c) {t w : Int32} : UB M (rTr c t w) := fun q h1 h2 => by rw [rTr_l5 (by omega)]; exact h q h1 h2
theorem UB.lt {M : ST} {c : Nat → Int32} (h : UB M c) {t n : Nat} (ht : t < 8) (e : c (18 * t) = nI (n + 1)) (hn : n < 3) : t < mN M := Nat.lt_of_not_le (fun z => by
  rw [h t z ht] at e
  exact absurd (nI_inj (by omega) (by omega) e) (by omega))
def cClo0 (c : Nat → Int32) (t : Nat) (out : Int32) : Nat → Int32 := rTr (upd (upd (upd (upd c (18 * t) (nI 0)) (18 * t) (nI 2)) (18 * t + 3) (nI 0)) (18 * t + 1) out) (nI t) (nI 1)
/-- a task closes -/
def cClo (M : ST) (c : Nat → Int32) (t : Nat) (out : Int32) : Nat → Int32 :=
  if out = 0 then (if nn (c (18 * t + 9)) = 0 then cClo0 c t (nI 0) else rAsk M (nI t) (cClo0 c t (nI 1))) else rAsk M (nI t) (cClo0 c t out)
theorem UB_clo0 {M : ST} {c : Nat → Int32} (h : UB M c) {t : Nat} {out : Int32} (ht : t < mN M) : UB M (cClo0 c t out) := ((((h.up (by omega)).up (by omega)).up (by omega)).up (by omega)).tr
set_option maxHeartbeats 4000000 in
theorem ct_X2_close {G : GT} {l : Launch} {N : Nat} {S : ST} {c : Nat → Int32} {b t : Nat} {M : ST} {w : Int32} (hb : RB b) (ht : t < 8) (hc : c (18 * t) = nI 1) (h5 : inN (c 145) 60) (h9 : inN (c (18 * t + 9)) 8) (hT : TR S M) (hM : MI M) (hu : UB M c) (hN : 513 ≤ N) : CTv G l yX2_close cX2_close 3 none 4 [.ref (gZ G + b), .int (nI t), .int (w)] N (put S b c) (put S b (cClo M c t w)) := by
  have hbl := hb.le
  have hbg := hb.ge
  have htm := hu.lt ht hc (by omega)
  obtain ⟨h91, h92⟩ := h9
  generalize hk : nn (c (18 * t + 9)) = k at h91 h92
  refine CT.mk "ScopeTasks$Run" [(0, .ref (gZ G + b)), (1, .int (nI t)), (2, .int (w))] rfl (by decide) rfl (Nat.le_of_ble_eq_true rfl) ?_
  intro x hR hl hr hnm
  refine v_aload_n (pc := 0) 0 dX2_close_0 rfl rfl ?_
  refine gX2_20 (pc := 1) hb hN dX2_close_1 ?_
  refine v_iload_n (pc := 4) 1 dX2_close_4 rfl rfl ?_
  refine c_callVv (pc := 5) (st := []) (ci := 6) (ct_clr1 (S := S) (b := b) (t := t) (c := c) hb (by omega) hc (by omega)) kVX2_128 kDX2_128 (rm_ok hR (Nat.le_of_ble_eq_true rfl) (Nat.le_of_ble_eq_true rfl)) ⟨Nat.zero_le _, Nat.zero_le _⟩ (by omega) ((BC_run hb (j := 1) (by decide)) G _).1 rfl rfl rfl rfl (Nat.le_of_ble_eq_true rfl) dX2_close_5 ?_
  refine v_aload_n (pc := 8) 0 dX2_close_8 rfl rfl ?_
  refine gX2_24 (pc := 9) hb hN dX2_close_9 ?_
  refine v_iload_n (pc := 12) 1 dX2_close_12 rfl rfl ?_
  refine c_callVv (pc := 13) (st := []) (ci := 6) (ct_set3 (S := S) (b := b) (t := t) (c := upd c (18 * t) (nI 0)) hb (by omega) pk_us (by omega)) kVX2_85 kDX2_85 (rm_ok hR (Nat.le_of_ble_eq_true rfl) (Nat.le_of_ble_eq_true rfl)) ⟨Nat.zero_le _, Nat.zero_le _⟩ (by omega) ((BC_run hb (j := 3) (by decide)) G _).1 rfl rfl rfl rfl (Nat.le_of_ble_eq_true rfl) dX2_close_13 ?_
  refine v_aload_n (pc := 16) 0 dX2_close_16 rfl rfl ?_
  refine gX2_40 (pc := 17) hb hN dX2_close_17 ?_
  refine v_iload_n (pc := 20) 1 dX2_close_20 rfl rfl ?_
  refine v_iconst (pc := 21) (nI 0) dX2_close_21 (by decide) ?_
  refine c_iast (pc := 22) (k := b + 11) (j := t) (IA_run8 hb (by decide) (by decide) (by decide)) (by omega) rfl (by omega) (by decide) dX2_close_22 ?_
  refine v_S (pw_11 (by omega)) ?_
  refine v_aload_n (pc := 23) 0 dX2_close_23 rfl rfl ?_
  refine gX2_33 (pc := 24) hb hN dX2_close_24 ?_
  refine v_iload_n (pc := 27) 1 dX2_close_27 rfl rfl ?_
  refine v_iload_n (pc := 28) 2 dX2_close_28 rfl rfl ?_
  refine v_if_ne (pc := 29) 45 dX2_close_29 (by decide) (fun c1 => ?_) (fun c1 => ?_)
  · skip
    refine v_iload_n (pc := 45) 2 dX2_close_45 rfl rfl ?_
    refine c_iast (pc := 46) (k := b + 9) (j := t) (IA_run8 hb (by decide) (by decide) (by decide)) (by omega) rfl (by omega) (by decide) dX2_close_46 ?_
    refine v_S (pw_9 (by omega)) ?_
    refine v_aload_n (pc := 47) 0 dX2_close_47 rfl rfl ?_
    refine v_iload_n (pc := 48) 1 dX2_close_48 rfl rfl ?_
    refine v_iconst (pc := 49) (nI 1) dX2_close_49 (by decide) ?_
    refine c_callVv (pc := 50) (st := []) (ci := 2) (ct_X2_trace (S := S) (b := b) (t := nI t) (w := nI 1) (c := upd (upd (upd (upd c (18 * t) (nI 0)) (18 * t) (nI 2)) (18 * t + 3) (nI 0)) (18 * t + 1) w) hb (by rw [pk_un (by omega), pk_un (by omega), pk_un (by omega), pk_un (by omega)]; exact h5) (by omega)) kVX2_130 kDX2_130 (rm_ok hR (Nat.le_of_ble_eq_true rfl) (Nat.le_of_ble_eq_true rfl)) ⟨Nat.zero_le _, Nat.zero_le _⟩ (by omega) (hC_run (j := 0) hb (by decide) rfl) rfl rfl rfl rfl (Nat.le_of_ble_eq_true rfl) dX2_close_50 ?_
    refine v_aload_n (pc := 53) 0 dX2_close_53 rfl rfl ?_
    refine gX2_33 (pc := 54) hb hN dX2_close_54 ?_
    refine v_iload_n (pc := 57) 1 dX2_close_57 rfl rfl ?_
    refine c_iald (pc := 58) (k := b + 9) (j := t) (IA_run8 hb (by decide) (by decide) (by decide)) (by omega) rfl (by omega) (by decide) dX2_close_58 ?_
    refine v_topi (v := w) ((pr_9 (by omega)).trans ((rTr_l5 (by omega)).trans pk_us)) ?_
    refine v_if_eq (pc := 59) 67 dX2_close_59 (by decide) (fun h => absurd h c1) (fun _ => ?_)
    refine v_aload_n (pc := 62) 0 dX2_close_62 rfl rfl ?_
    refine v_iload_n (pc := 63) 1 dX2_close_63 rfl rfl ?_
    refine c_callVv (pc := 64) (st := []) (ci := 2) (ct_X2_askChildren (S := S) (b := b) (t := t) (c := rTr (upd (upd (upd (upd c (18 * t) (nI 0)) (18 * t) (nI 2)) (18 * t + 3) (nI 0)) (18 * t + 1) w) (nI t) (nI 1)) (M := M) hb (by omega) hT hM (UB_clo0 hu htm) (by omega)) kVX2_134 kDX2_134 (rm_ok hR (Nat.le_of_ble_eq_true rfl) (Nat.le_of_ble_eq_true rfl)) ⟨Nat.zero_le _, Nat.zero_le _⟩ (by omega) (hC_run (j := 0) hb (by decide) rfl) rfl rfl rfl rfl (Nat.le_of_ble_eq_true rfl) dX2_close_64 ?_
    exact v_vret (pc := 67) hr (Nat.le_refl _) (Nat.le_refl _) dX2_close_67 (pV_mk (hC_c (congrArg (put S b) (by unfold cClo; rw [if_neg c1]; rfl))))
  · skip
    have w0 : w = 0 := c1
    refine v_aload_n (pc := 32) 0 dX2_close_32 rfl rfl ?_
    refine gX2_52 (pc := 33) hb hN dX2_close_33 ?_
    refine v_iload_n (pc := 36) 1 dX2_close_36 rfl rfl ?_
    refine c_iald (pc := 37) (k := b + 15) (j := t) (IA_run8 hb (by decide) (by decide) (by decide)) (by omega) rfl (by omega) (by decide) dX2_close_37 ?_
    refine v_topi (v := nI k) ((pr_15 (by omega)).trans ((pk_un (by omega)).trans ((pk_un (by omega)).trans ((pk_un (by omega)).trans h91)))) ?_
    refine v_if_leN (pc := 38) 45 (by omega) dX2_close_38 (by decide) (fun c2 => ?_) (fun c2 => ?_)
    · skip
      refine v_iload_n (pc := 45) 2 dX2_close_45 rfl rfl ?_
      refine c_iast (pc := 46) (k := b + 9) (j := t) (IA_run8 hb (by decide) (by decide) (by decide)) (by omega) rfl (by omega) (by decide) dX2_close_46 ?_
      refine v_S (pw_9 (by omega)) ?_
      refine v_aload_n (pc := 47) 0 dX2_close_47 rfl rfl ?_
      refine v_iload_n (pc := 48) 1 dX2_close_48 rfl rfl ?_
      refine v_iconst (pc := 49) (nI 1) dX2_close_49 (by decide) ?_
      refine c_callVv (pc := 50) (st := []) (ci := 2) (ct_X2_trace (S := S) (b := b) (t := nI t) (w := nI 1) (c := upd (upd (upd (upd c (18 * t) (nI 0)) (18 * t) (nI 2)) (18 * t + 3) (nI 0)) (18 * t + 1) w) hb (by rw [pk_un (by omega), pk_un (by omega), pk_un (by omega), pk_un (by omega)]; exact h5) (by omega)) kVX2_130 kDX2_130 (rm_ok hR (Nat.le_of_ble_eq_true rfl) (Nat.le_of_ble_eq_true rfl)) ⟨Nat.zero_le _, Nat.zero_le _⟩ (by omega) (hC_run (j := 0) hb (by decide) rfl) rfl rfl rfl rfl (Nat.le_of_ble_eq_true rfl) dX2_close_50 ?_
      refine v_aload_n (pc := 53) 0 dX2_close_53 rfl rfl ?_
      refine gX2_33 (pc := 54) hb hN dX2_close_54 ?_
      refine v_iload_n (pc := 57) 1 dX2_close_57 rfl rfl ?_
      refine c_iald (pc := 58) (k := b + 9) (j := t) (IA_run8 hb (by decide) (by decide) (by decide)) (by omega) rfl (by omega) (by decide) dX2_close_58 ?_
      refine v_topi (v := w) ((pr_9 (by omega)).trans ((rTr_l5 (by omega)).trans pk_us)) ?_
      refine v_if_eq (pc := 59) 67 dX2_close_59 (by decide) (fun _ => ?_) (fun h => absurd c1 h)
      exact v_vret (pc := 67) hr (Nat.le_refl _) (Nat.le_refl _) dX2_close_67 (pV_mk (hC_c (congrArg (put S b) (by unfold cClo; rw [if_pos w0, if_pos (by omega)]; subst w0; rfl))))
    · skip
      refine v_iconst (pc := 41) (nI 1) dX2_close_41 (by decide) ?_
      refine v_goto (pc := 42) 46 dX2_close_42 (by decide) ?_
      refine c_iast (pc := 46) (k := b + 9) (j := t) (IA_run8 hb (by decide) (by decide) (by decide)) (by omega) rfl (by omega) (by decide) dX2_close_46 ?_
      refine v_S (pw_9 (by omega)) ?_
      refine v_aload_n (pc := 47) 0 dX2_close_47 rfl rfl ?_
      refine v_iload_n (pc := 48) 1 dX2_close_48 rfl rfl ?_
      refine v_iconst (pc := 49) (nI 1) dX2_close_49 (by decide) ?_
      refine c_callVv (pc := 50) (st := []) (ci := 2) (ct_X2_trace (S := S) (b := b) (t := nI t) (w := nI 1) (c := upd (upd (upd (upd c (18 * t) (nI 0)) (18 * t) (nI 2)) (18 * t + 3) (nI 0)) (18 * t + 1) (nI 1)) hb (by rw [pk_un (by omega), pk_un (by omega), pk_un (by omega), pk_un (by omega)]; exact h5) (by omega)) kVX2_130 kDX2_130 (rm_ok hR (Nat.le_of_ble_eq_true rfl) (Nat.le_of_ble_eq_true rfl)) ⟨Nat.zero_le _, Nat.zero_le _⟩ (by omega) (hC_run (j := 0) hb (by decide) rfl) rfl rfl rfl rfl (Nat.le_of_ble_eq_true rfl) dX2_close_50 ?_
      refine v_aload_n (pc := 53) 0 dX2_close_53 rfl rfl ?_
      refine gX2_33 (pc := 54) hb hN dX2_close_54 ?_
      refine v_iload_n (pc := 57) 1 dX2_close_57 rfl rfl ?_
      refine c_iald (pc := 58) (k := b + 9) (j := t) (IA_run8 hb (by decide) (by decide) (by decide)) (by omega) rfl (by omega) (by decide) dX2_close_58 ?_
      refine v_topi (v := nI 1) ((pr_9 (by omega)).trans ((rTr_l5 (by omega)).trans pk_us)) ?_
      refine v_if_eqN (pc := 59) 67 (by omega) dX2_close_59 (by decide) (fun h => absurd h (by decide)) (fun _ => ?_)
      refine v_aload_n (pc := 62) 0 dX2_close_62 rfl rfl ?_
      refine v_iload_n (pc := 63) 1 dX2_close_63 rfl rfl ?_
      refine c_callVv (pc := 64) (st := []) (ci := 2) (ct_X2_askChildren (S := S) (b := b) (t := t) (c := rTr (upd (upd (upd (upd c (18 * t) (nI 0)) (18 * t) (nI 2)) (18 * t + 3) (nI 0)) (18 * t + 1) (nI 1)) (nI t) (nI 1)) (M := M) hb (by omega) hT hM (UB_clo0 hu htm) (by omega)) kVX2_134 kDX2_134 (rm_ok hR (Nat.le_of_ble_eq_true rfl) (Nat.le_of_ble_eq_true rfl)) ⟨Nat.zero_le _, Nat.zero_le _⟩ (by omega) (hC_run (j := 0) hb (by decide) rfl) rfl rfl rfl rfl (Nat.le_of_ble_eq_true rfl) dX2_close_64 ?_
      exact v_vret (pc := 67) hr (Nat.le_refl _) (Nat.le_refl _) dX2_close_67 (pV_mk (hC_c (congrArg (put S b) (by unfold cClo; rw [if_pos w0, if_neg (by omega)]; rfl))))

