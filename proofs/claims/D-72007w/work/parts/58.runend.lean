set_option maxRecDepth 100000
/-! ScopeTasks$Run: end, cleanUp -/
theorem gb_bit {v p : Nat} (hv : v < 256) (hp : p < 8) : (nI v >>> (nI p &&& 31)) &&& nI 1 = 0 ↔ ¬ v.testBit p = true := by
  have : ∀ v : Fin 256, ∀ p : Fin 8, (nI v.val >>> (nI p.val &&& 31)) &&& nI 1 = 0 ↔ ¬ v.val.testBit p.val = true := by decide +kernel
  exact this ⟨v, hv⟩ ⟨p, hp⟩
theorem BS_put {S : ST} {b k v : Nat} {c : Nat → Int32} (h : BS S k v) (hk : k + 1 < b) : BS (put S b c) k v := ⟨by rw [put_ne (by omega)]; exact h.1, h.2.1, by rw [put_ne (by omega)]; exact h.2.2⟩
def cGv2 (M : ST) (g : Nat → Int32) (p : Nat) : Nat → Int32 :=
  if g (18 * p) = nI 1 ∧ (M 513 16 >>> (nI p &&& 31)) &&& nI 1 = 0 then cClo M g p (nI 1) else if g (18 * p) = nI 2 ∧ g (18 * p + 1) = 0 then rAsk M (nI p) (upd g (18 * p + 1) (nI 1)) else g
def cEnd0 (c : Nat → Int32) (t : Nat) : Nat → Int32 := rTr (upd (upd (upd c (18 * t) (nI 0)) (18 * t) (nI 3)) (18 * t + 8) (c 144)) (nI t) (nI 2)
def cEnd (M : ST) (c : Nat → Int32) (t : Nat) : Nat → Int32 :=
  if 0 < t ∧ (c (18 * t + 1) = nI 1 ∨ c (18 * t + 1) = nI 3) then cGv2 M (rGvL t (nn (M 521 t)) (nn (c (18 * t + 9))) 0 (cEnd0 c t)) (nn (M 521 t)) else cEnd0 c t
set_option maxHeartbeats 4000000 in
theorem lp_ge {G : GT} {x : VX} {N : Nat} {Q : State → Prop} {S : ST} {b t p mm : Nat} (hb : RB b) (hN : 513 ≤ N) (ht : t < 8) (hp : p < t) (hm8 : mm ≤ 8) (hR : xR x = RM 5 0 0) : ∀ (m k : Nat) (c : Nat → Int32), k + m = mm → c (18 * t + 9) = nI mm → inN (c (18 * p + 9)) 8 → V G x "ScopeTasks$Run" cX2_end 4 Q 101 [(0, .ref (gZ G + b)), (1, .int (nI t)), (2, .int (nI p))] [] N (hC G (put S b (rGvL t p m k c))) 0 0 → V G x "ScopeTasks$Run" cX2_end 4 Q 72 [(3, .int (nI k)), (0, .ref (gZ G + b)), (1, .int (nI t)), (2, .int (nI p))] [] N (hC G (put S b c)) 0 0 := by
  have hbl := hb.le
  have hbg := hb.ge
  intro m
  induction m with
  | zero =>
    intro k c hkm hE h9 hk
    refine v_iload_n (pc := 72) 0 dX2_end_72 rfl rfl ?_
    refine v_aload_n (pc := 73) 1 dX2_end_73 rfl rfl ?_
    refine gX2_52 (pc := 74) hb hN dX2_end_74 ?_
    refine v_iload_n (pc := 77) 2 dX2_end_77 rfl rfl ?_
    refine c_iald (pc := 78) (k := b + 15) (j := t) (IA_run8 hb (by decide) (by decide) (by decide)) (by omega) rfl (by omega) (by decide) dX2_end_78 ?_
    refine v_topi (v := nI mm) ((pr_15 (by omega)).trans hE) ?_
    refine v_ic_geN (pc := 79) 101 (by omega) (by omega) dX2_end_79 (by decide) (fun c1 => ?_) (fun c1 => ?_)
    · skip
      refine v_sub (lv' := [(0, .ref (gZ G + b)), (1, .int (nI t)), (2, .int (nI p))]) [1, 2, 3] rfl ?_
      exact hk
    · skip
      exact absurd c1 (by omega)
  | succ m ih =>
    intro k c hkm hE h9 hk
    refine v_iload_n (pc := 72) 0 dX2_end_72 rfl rfl ?_
    refine v_aload_n (pc := 73) 1 dX2_end_73 rfl rfl ?_
    refine gX2_52 (pc := 74) hb hN dX2_end_74 ?_
    refine v_iload_n (pc := 77) 2 dX2_end_77 rfl rfl ?_
    refine c_iald (pc := 78) (k := b + 15) (j := t) (IA_run8 hb (by decide) (by decide) (by decide)) (by omega) rfl (by omega) (by decide) dX2_end_78 ?_
    refine v_topi (v := nI mm) ((pr_15 (by omega)).trans hE) ?_
    refine v_ic_geN (pc := 79) 101 (by omega) (by omega) dX2_end_79 (by decide) (fun c1 => ?_) (fun c1 => ?_)
    · skip
      exact absurd c1 (by omega)
    · skip
      refine v_aload_n (pc := 82) 1 dX2_end_82 rfl rfl ?_
      refine v_iload_n (pc := 83) 3 dX2_end_83 rfl rfl ?_
      refine v_aload_n (pc := 84) 1 dX2_end_84 rfl rfl ?_
      refine gX2_57 (pc := 85) hb hN dX2_end_85 ?_
      refine v_iload_n (pc := 88) 2 dX2_end_88 rfl rfl ?_
      refine c_gridL (pc := 89) (b0 := b) (j := t) hb (by omega) rfl (by omega) dX2_end_89 ?_
      refine v_iload_n (pc := 90) 0 dX2_end_90 rfl rfl ?_
      refine c_iald (pc := 91) (k := b + 17 + t) (j := k) (IA_gridL hb (by omega)) (by omega) rfl (by omega) (by decide) dX2_end_91 ?_
      refine v_topi (v := c (18 * t + 10 + k)) (pr_L (by omega) (by omega)) ?_
      refine c_callVv (pc := 92) (st := []) (ci := 2) (ct_X2_fail (S := S) (b := b) (t := p) (w := c (18 * t + 10 + k)) (c := c) hb (by omega) h9 (by omega)) kVX2_152 kDX2_152 (rm_ok hR (Nat.le_of_ble_eq_true rfl) (Nat.le_of_ble_eq_true rfl)) ⟨Nat.zero_le _, Nat.zero_le _⟩ (by omega) (hC_run (j := 0) hb (by decide) rfl) rfl rfl rfl rfl (Nat.le_of_ble_eq_true rfl) dX2_end_92 ?_
      refine v_iincN (pc := 95) (k := 0) (lv' := [(3, .int (nI (k + 1))), (0, .ref (gZ G + b)), (1, .int (nI t)), (2, .int (nI p))]) dX2_end_95 rfl (by decide) rfl ?_
      refine v_goto (pc := 98) 72 dX2_end_98 (by decide) ?_
      refine v_sub (lv' := [(3, .int (nI (k + 1))), (0, .ref (gZ G + b)), (1, .int (nI t)), (2, .int (nI p))]) [0, 1, 2, 3] rfl ?_
      exact ih (k + 1) _ (by omega) ((rCo_ne h9 (by omega)).trans hE) (RI_co9 h9) (by rw [rGvL, ← Nat.add_assoc] at hk; exact hk)

theorem RI_end0 {c : Nat → Int32} (h : RI c) {t : Nat} : RI (cEnd0 c t) := RI_rTr (((h.up (by omega) (by omega) (by omega)).up (by omega) (by omega) (by omega)).up (by omega) (by omega) (by omega)) _ _
theorem UB_end0 {M : ST} {c : Nat → Int32} (h : UB M c) {t : Nat} (ht : t < mN M) : UB M (cEnd0 c t) := (((h.up (by omega)).up (by omega)).up (by omega)).tr
theorem end0_1 {c : Nat → Int32} {t : Nat} (ht : t < 8) : cEnd0 c t (18 * t + 1) = c (18 * t + 1) := by
  unfold cEnd0; rw [rTr_l5 (by omega), pk_un (by omega), pk_un (by omega), pk_un (by omega)]
theorem end0_9 {c : Nat → Int32} {t : Nat} (ht : t < 8) : cEnd0 c t (18 * t + 9) = c (18 * t + 9) := by
  unfold cEnd0; rw [rTr_l5 (by omega), pk_un (by omega), pk_un (by omega), pk_un (by omega)]
set_option maxHeartbeats 4000000 in
theorem ct_X2_end {G : GT} {l : Launch} {N : Nat} {S : ST} {c : Nat → Int32} {b t : Nat} {M : ST} (hb : RB b) (htm : t < mN M) (hT : TR S M) (hM : MI M) (hc : c (18 * t) = nI 2) (hI : RI c) (hu : UB M c) (hN : 513 ≤ N) : CTv G l yX2_end cX2_end 4 none 5 [.ref (gZ G + b), .int (nI t)] N (put S b c) (put S b (cEnd M c t)) := by
  have hbl := hb.le
  have hbg := hb.ge
  have h1n := hM.2.1
  have h8n := hM.n
  obtain ⟨n, hn⟩ : ∃ n, mN M = n := ⟨_, rfl⟩
  have hnE : S 1 0 = nI n := by rw [hT.n, ← hn]; exact hM.1.1
  rw [hn] at h1n h8n
  have ht : t < 8 := by omega
  obtain ⟨gv, hgv, hgM⟩ := hT.ga
  refine CT.mk "ScopeTasks$Run" [(0, .ref (gZ G + b)), (1, .int (nI t))] rfl (by decide) rfl (Nat.le_of_ble_eq_true rfl) ?_
  intro x hR hl hr hnm
  refine v_aload_n (pc := 0) 0 dX2_end_0 rfl rfl ?_
  refine gX2_24 (pc := 1) hb hN dX2_end_1 ?_
  refine v_iload_n (pc := 4) 1 dX2_end_4 rfl rfl ?_
  refine c_callVv (pc := 5) (st := []) (ci := 6) (ct_clr3 (S := S) (b := b) (t := t) (c := c) hb (by omega) hc (by omega)) kVX2_128 kDX2_128 (rm_ok hR (Nat.le_of_ble_eq_true rfl) (Nat.le_of_ble_eq_true rfl)) ⟨Nat.zero_le _, Nat.zero_le _⟩ (by omega) ((BC_run hb (j := 3) (by decide)) G _).1 rfl rfl rfl rfl (Nat.le_of_ble_eq_true rfl) dX2_end_5 ?_
  refine v_aload_n (pc := 8) 0 dX2_end_8 rfl rfl ?_
  refine gX2_27 (pc := 9) hb hN dX2_end_9 ?_
  refine v_iload_n (pc := 12) 1 dX2_end_12 rfl rfl ?_
  refine c_callVv (pc := 13) (st := []) (ci := 6) (ct_set5 (S := S) (b := b) (t := t) (c := upd c (18 * t) (nI 0)) hb (by omega) pk_us (by omega)) kVX2_85 kDX2_85 (rm_ok hR (Nat.le_of_ble_eq_true rfl) (Nat.le_of_ble_eq_true rfl)) ⟨Nat.zero_le _, Nat.zero_le _⟩ (by omega) ((BC_run hb (j := 5) (by decide)) G _).1 rfl rfl rfl rfl (Nat.le_of_ble_eq_true rfl) dX2_end_13 ?_
  refine v_aload_n (pc := 16) 0 dX2_end_16 rfl rfl ?_
  refine gX2_49 (pc := 17) hb hN dX2_end_17 ?_
  refine v_iload_n (pc := 20) 1 dX2_end_20 rfl rfl ?_
  refine v_aload_n (pc := 21) 0 dX2_end_21 rfl rfl ?_
  refine gX2_69 (pc := 22) hb hN dX2_end_22 ?_
  refine v_topi (v := c 144) ((pr_0).trans ((pk_un (by omega)).trans (pk_un (by omega)))) ?_
  refine c_iast (pc := 25) (k := b + 14) (j := t) (IA_run8 hb (by decide) (by decide) (by decide)) (by omega) rfl (by omega) (by decide) dX2_end_25 ?_
  refine v_S (pw_14 (by omega)) ?_
  refine v_aload_n (pc := 26) 0 dX2_end_26 rfl rfl ?_
  refine v_iload_n (pc := 27) 1 dX2_end_27 rfl rfl ?_
  refine v_iconst (pc := 28) (nI 2) dX2_end_28 (by decide) ?_
  refine c_callVv (pc := 29) (st := []) (ci := 2) (ct_X2_trace (S := S) (b := b) (t := nI t) (w := nI 2) (c := upd (upd (upd c (18 * t) (nI 0)) (18 * t) (nI 3)) (18 * t + 8) (c 144)) hb (by rw [pk_un (by omega), pk_un (by omega), pk_un (by omega)]; exact hI.1) (by omega)) kVX2_130 kDX2_130 (rm_ok hR (Nat.le_of_ble_eq_true rfl) (Nat.le_of_ble_eq_true rfl)) ⟨Nat.zero_le _, Nat.zero_le _⟩ (by omega) (hC_run (j := 0) hb (by decide) rfl) rfl rfl rfl rfl (Nat.le_of_ble_eq_true rfl) dX2_end_29 ?_
  refine v_S (show put S b (rTr (upd (upd (upd c (18 * t) (nI 0)) (18 * t) (nI 3)) (18 * t + 8) (c 144)) (nI t) (nI 2)) = put S b (cEnd0 c t) from rfl) ?_
  refine v_iload_n (pc := 32) 1 dX2_end_32 rfl rfl ?_
  refine v_if_eqN (pc := 33) 56 (by omega) dX2_end_33 (by decide) (fun c1 => ?_) (fun c1 => ?_)
  · skip
    exact v_vret (pc := 56) hr (Nat.le_refl _) (Nat.le_refl _) dX2_end_56 (pV_mk (hC_c (congrArg (put S b) (by unfold cEnd; rw [if_neg (by omega)]))))
  · skip
    refine v_aload_n (pc := 36) 0 dX2_end_36 rfl rfl ?_
    refine gX2_33 (pc := 37) hb hN dX2_end_37 ?_
    refine v_iload_n (pc := 40) 1 dX2_end_40 rfl rfl ?_
    refine c_iald (pc := 41) (k := b + 9) (j := t) (IA_run8 hb (by decide) (by decide) (by decide)) (by omega) rfl (by omega) (by decide) dX2_end_41 ?_
    refine v_topi (v := c (18 * t + 1)) ((pr_9 (by omega)).trans (end0_1 ht)) ?_
    refine v_iconst (pc := 42) (nI 1) dX2_end_42 (by decide) ?_
    refine v_ic_eq (pc := 43) 57 dX2_end_43 (by decide) (fun c2 => ?_) (fun c2 => ?_)
    · skip
      obtain ⟨⟨hp1, hp2⟩, hp3⟩ := hM.2.2.1 t (by omega) htm
      obtain ⟨p, hpe⟩ : ∃ p, nn (M 521 t) = p := ⟨_, rfl⟩
      rw [hpe] at hp1 hp2 hp3
      refine v_aload_n (pc := 57) 0 dX2_end_57 rfl rfl ?_
      refine gX2_3 (pc := 58) hb hN dX2_end_58 ?_
      refine gX2_107 (pc := 61) hN dX2_end_61 ?_
      refine gX2_125 (pc := 64) TB_1 hN dX2_end_64 ?_
      refine v_iload_n (pc := 67) 1 dX2_end_67 rfl rfl ?_
      refine c_iald (pc := 68) (k := 1 + 1) (j := t) (IA_tree8 TB_1 (by decide)) (by omega) rfl (by omega) (by decide) dX2_end_68 ?_
      refine v_topi (v := nI p) ((congrFun (put_ne (by omega)) _).trans ((hT.par htm).trans hp1)) ?_
      refine v_istore_n (pc := 69) (lv' := [(2, .int (nI p)), (0, .ref (gZ G + b)), (1, .int (nI t))]) dX2_end_69 rfl (by decide) rfl ?_
      refine v_iconst (pc := 70) (nI 0) dX2_end_70 (by decide) ?_
      refine v_istore_n (pc := 71) (lv' := [(3, .int (nI 0)), (2, .int (nI p)), (0, .ref (gZ G + b)), (1, .int (nI t))]) dX2_end_71 rfl (by decide) rfl ?_
      refine v_sub (lv' := [(3, .int (nI 0)), (0, .ref (gZ G + b)), (1, .int (nI t)), (2, .int (nI p))]) [0, 2, 3, 1] rfl ?_
      have hI0 := RI_end0 hI (t := t)
      refine lp_ge hb hN ht hp3 (hI.2 t ht).2.2 hR (nn (c (18 * t + 9))) 0 _ (by omega) ((end0_9 ht).trans (hI.2 t ht).2.1) (hI0.2 p (by omega)).2 ?_
      have hRI := RI_rGvL (t := t) (by omega : p < 8) (nn (c (18 * t + 9))) 0 _ hI0
      have hRU : UB M (rGvL t p (nn (c (18 * t + 9))) 0 (cEnd0 c t)) := fun q h1 h2 => by rw [rGvL_ne (by omega) (by omega) _ _ _ hI0]; exact UB_end0 hu htm q h1 h2
      generalize hRr : rGvL t p (nn (c (18 * t + 9))) 0 (cEnd0 c t) = R at hRI hRU ⊢
      refine v_aload_n (pc := 101) 0 dX2_end_101 rfl rfl ?_
      refine gX2_20 (pc := 102) hb hN dX2_end_102 ?_
      refine v_iload_n (pc := 105) 2 dX2_end_105 rfl rfl ?_
      refine c_callVi (pc := 106) (st := []) (ci := 6) (ct_get1 (S := S) (b := b) (t := p) (c := R) hb (by omega) (by omega)) kVX2_103 kDX2_103 (rm_ok hR (Nat.le_of_ble_eq_true rfl) (Nat.le_of_ble_eq_true rfl)) ⟨Nat.zero_le _, Nat.zero_le _⟩ (by omega) ((BC_run hb (j := 1) (by decide)) G _).1 rfl rfl rfl rfl (Nat.le_of_ble_eq_true rfl) dX2_end_106 ?_
      refine v_if_eqB (pc := 109) 138 dX2_end_109 (by decide) (fun c3 => ?_) (fun c3 => ?_)
      · skip
        refine v_aload_n (pc := 138) 0 dX2_end_138 rfl rfl ?_
        refine gX2_24 (pc := 139) hb hN dX2_end_139 ?_
        refine v_iload_n (pc := 142) 2 dX2_end_142 rfl rfl ?_
        refine c_callVi (pc := 143) (st := []) (ci := 6) (ct_get3 (S := S) (b := b) (t := p) (c := R) hb (by omega) (by omega)) kVX2_103 kDX2_103 (rm_ok hR (Nat.le_of_ble_eq_true rfl) (Nat.le_of_ble_eq_true rfl)) ⟨Nat.zero_le _, Nat.zero_le _⟩ (by omega) ((BC_run hb (j := 3) (by decide)) G _).1 rfl rfl rfl rfl (Nat.le_of_ble_eq_true rfl) dX2_end_143 ?_
        refine v_if_eqB (pc := 146) 170 dX2_end_146 (by decide) (fun c4 => ?_) (fun c4 => ?_)
        · skip
          exact v_vret (pc := 170) hr (Nat.le_refl _) (Nat.le_refl _) dX2_end_170 (pV_mk (hC_c (congrArg (put S b) (by unfold cEnd; rw [if_pos ⟨by omega, Or.inl c2⟩, hpe, hRr]; unfold cGv2; rw [if_neg (fun z => c3 z.1), if_neg (fun z => c4 z.1)]))))
        · skip
          refine v_aload_n (pc := 149) 0 dX2_end_149 rfl rfl ?_
          refine gX2_33 (pc := 150) hb hN dX2_end_150 ?_
          refine v_iload_n (pc := 153) 2 dX2_end_153 rfl rfl ?_
          refine c_iald (pc := 154) (k := b + 9) (j := p) (IA_run8 hb (by decide) (by decide) (by decide)) (by omega) rfl (by omega) (by decide) dX2_end_154 ?_
          refine v_topi (v := R (18 * p + 1)) (pr_9 (by omega)) ?_
          refine v_if_ne (pc := 155) 170 dX2_end_155 (by decide) (fun c5 => ?_) (fun c5 => ?_)
          · skip
            exact v_vret (pc := 170) hr (Nat.le_refl _) (Nat.le_refl _) dX2_end_170 (pV_mk (hC_c (congrArg (put S b) (by unfold cEnd; rw [if_pos ⟨by omega, Or.inl c2⟩, hpe, hRr]; unfold cGv2; rw [if_neg (fun z => c3 z.1), if_neg (fun z => c5 z.2)]))))
          · skip
            refine v_aload_n (pc := 158) 0 dX2_end_158 rfl rfl ?_
            refine gX2_33 (pc := 159) hb hN dX2_end_159 ?_
            refine v_iload_n (pc := 162) 2 dX2_end_162 rfl rfl ?_
            refine v_iconst (pc := 163) (nI 1) dX2_end_163 (by decide) ?_
            refine c_iast (pc := 164) (k := b + 9) (j := p) (IA_run8 hb (by decide) (by decide) (by decide)) (by omega) rfl (by omega) (by decide) dX2_end_164 ?_
            refine v_S (pw_9 (by omega)) ?_
            refine v_aload_n (pc := 165) 0 dX2_end_165 rfl rfl ?_
            refine v_iload_n (pc := 166) 2 dX2_end_166 rfl rfl ?_
            refine c_callVv (pc := 167) (st := []) (ci := 2) (ct_X2_askChildren (S := S) (b := b) (t := p) (c := upd R (18 * p + 1) (nI 1)) (M := M) hb (by omega) hT hM (hRU.up (by omega)) (by omega)) kVX2_134 kDX2_134 (rm_ok hR (Nat.le_of_ble_eq_true rfl) (Nat.le_of_ble_eq_true rfl)) ⟨Nat.zero_le _, Nat.zero_le _⟩ (by omega) (hC_run (j := 0) hb (by decide) rfl) rfl rfl rfl rfl (Nat.le_of_ble_eq_true rfl) dX2_end_167 ?_
            exact v_vret (pc := 170) hr (Nat.le_refl _) (Nat.le_refl _) dX2_end_170 (pV_mk (hC_c (congrArg (put S b) (by unfold cEnd; rw [if_pos ⟨by omega, Or.inl c2⟩, hpe, hRr]; unfold cGv2; rw [if_neg (fun z => c3 z.1), if_pos ⟨c4, c5⟩]))))
      · skip
        refine v_aload_n (pc := 112) 0 dX2_end_112 rfl rfl ?_
        refine gX2_3 (pc := 113) hb hN dX2_end_113 ?_
        refine gX2_107 (pc := 116) hN dX2_end_116 ?_
        refine gX2_167 (pc := 119) TB_1 hN dX2_end_119 ?_
        refine v_iload_n (pc := 122) 2 dX2_end_122 rfl rfl ?_
        refine c_callVi (pc := 123) (st := []) (ci := 6) (ct_J0_get (S := put S b R) (k := 1 + 24) (t := p) (v := gv) (BC_tree TB_1) (BS_put hgv (by omega)) (by omega) (by omega)) kVX2_103 kDX2_103 (rm_ok hR (Nat.le_of_ble_eq_true rfl) (Nat.le_of_ble_eq_true rfl)) ⟨Nat.zero_le _, Nat.zero_le _⟩ (by omega) ((BC_tree TB_1) G _).1 rfl rfl rfl rfl (Nat.le_of_ble_eq_true rfl) dX2_end_123 ?_
        refine v_if_neB (pc := 126) 138 dX2_end_126 (by decide) (fun c6 => ?_) (fun c6 => ?_)
        · skip
          refine v_aload_n (pc := 138) 0 dX2_end_138 rfl rfl ?_
          refine gX2_24 (pc := 139) hb hN dX2_end_139 ?_
          refine v_iload_n (pc := 142) 2 dX2_end_142 rfl rfl ?_
          refine c_callVi (pc := 143) (st := []) (ci := 6) (ct_get3 (S := S) (b := b) (t := p) (c := R) hb (by omega) (by omega)) kVX2_103 kDX2_103 (rm_ok hR (Nat.le_of_ble_eq_true rfl) (Nat.le_of_ble_eq_true rfl)) ⟨Nat.zero_le _, Nat.zero_le _⟩ (by omega) ((BC_run hb (j := 3) (by decide)) G _).1 rfl rfl rfl rfl (Nat.le_of_ble_eq_true rfl) dX2_end_143 ?_
          refine v_if_eqB (pc := 146) 170 dX2_end_146 (by decide) (fun c7 => ?_) (fun c7 => ?_)
          · skip
            exact v_vret (pc := 170) hr (Nat.le_refl _) (Nat.le_refl _) dX2_end_170 (pV_mk (hC_c (congrArg (put S b) (by unfold cEnd; rw [if_pos ⟨by omega, Or.inl c2⟩, hpe, hRr]; unfold cGv2; rw [if_neg (fun z => (gb_bit hgv.2.1 (by omega)).mp (by rw [← hgM]; exact z.2) c6), if_neg (fun z => c7 z.1)]))))
          · skip
            refine v_aload_n (pc := 149) 0 dX2_end_149 rfl rfl ?_
            refine gX2_33 (pc := 150) hb hN dX2_end_150 ?_
            refine v_iload_n (pc := 153) 2 dX2_end_153 rfl rfl ?_
            refine c_iald (pc := 154) (k := b + 9) (j := p) (IA_run8 hb (by decide) (by decide) (by decide)) (by omega) rfl (by omega) (by decide) dX2_end_154 ?_
            refine v_topi (v := R (18 * p + 1)) (pr_9 (by omega)) ?_
            refine v_if_ne (pc := 155) 170 dX2_end_155 (by decide) (fun c8 => ?_) (fun c8 => ?_)
            · skip
              exact v_vret (pc := 170) hr (Nat.le_refl _) (Nat.le_refl _) dX2_end_170 (pV_mk (hC_c (congrArg (put S b) (by unfold cEnd; rw [if_pos ⟨by omega, Or.inl c2⟩, hpe, hRr]; unfold cGv2; rw [if_neg (fun z => (gb_bit hgv.2.1 (by omega)).mp (by rw [← hgM]; exact z.2) c6), if_neg (fun z => c8 z.2)]))))
            · skip
              refine v_aload_n (pc := 158) 0 dX2_end_158 rfl rfl ?_
              refine gX2_33 (pc := 159) hb hN dX2_end_159 ?_
              refine v_iload_n (pc := 162) 2 dX2_end_162 rfl rfl ?_
              refine v_iconst (pc := 163) (nI 1) dX2_end_163 (by decide) ?_
              refine c_iast (pc := 164) (k := b + 9) (j := p) (IA_run8 hb (by decide) (by decide) (by decide)) (by omega) rfl (by omega) (by decide) dX2_end_164 ?_
              refine v_S (pw_9 (by omega)) ?_
              refine v_aload_n (pc := 165) 0 dX2_end_165 rfl rfl ?_
              refine v_iload_n (pc := 166) 2 dX2_end_166 rfl rfl ?_
              refine c_callVv (pc := 167) (st := []) (ci := 2) (ct_X2_askChildren (S := S) (b := b) (t := p) (c := upd R (18 * p + 1) (nI 1)) (M := M) hb (by omega) hT hM (hRU.up (by omega)) (by omega)) kVX2_134 kDX2_134 (rm_ok hR (Nat.le_of_ble_eq_true rfl) (Nat.le_of_ble_eq_true rfl)) ⟨Nat.zero_le _, Nat.zero_le _⟩ (by omega) (hC_run (j := 0) hb (by decide) rfl) rfl rfl rfl rfl (Nat.le_of_ble_eq_true rfl) dX2_end_167 ?_
              exact v_vret (pc := 170) hr (Nat.le_refl _) (Nat.le_refl _) dX2_end_170 (pV_mk (hC_c (congrArg (put S b) (by unfold cEnd; rw [if_pos ⟨by omega, Or.inl c2⟩, hpe, hRr]; unfold cGv2; rw [if_neg (fun z => (gb_bit hgv.2.1 (by omega)).mp (by rw [← hgM]; exact z.2) c6), if_pos ⟨c7, c8⟩]))))
        · skip
          refine v_aload_n (pc := 129) 0 dX2_end_129 rfl rfl ?_
          refine v_iload_n (pc := 130) 2 dX2_end_130 rfl rfl ?_
          refine v_iconst (pc := 131) (nI 1) dX2_end_131 (by decide) ?_
          refine c_callVv (pc := 132) (st := []) (ci := 2) (ct_X2_close (S := S) (b := b) (t := p) (w := nI 1) (c := R) (M := M) hb (by omega) c3 hRI.1 (hRI.2 p (by omega)).2 hT hM hRU (by omega)) kVX2_155 kDX2_155 (rm_ok hR (Nat.le_of_ble_eq_true rfl) (Nat.le_of_ble_eq_true rfl)) ⟨Nat.zero_le _, Nat.zero_le _⟩ (by omega) (hC_run (j := 0) hb (by decide) rfl) rfl rfl rfl rfl (Nat.le_of_ble_eq_true rfl) dX2_end_132 ?_
          refine v_goto (pc := 135) 170 dX2_end_135 (by decide) ?_
          exact v_vret (pc := 170) hr (Nat.le_refl _) (Nat.le_refl _) dX2_end_170 (pV_mk (hC_c (congrArg (put S b) (by unfold cEnd; rw [if_pos ⟨by omega, Or.inl c2⟩, hpe, hRr]; unfold cGv2; rw [if_pos ⟨c3, (by rw [hgM]; exact (gb_bit hgv.2.1 (by omega)).mpr c6)⟩]))))
    · skip
      refine v_aload_n (pc := 46) 0 dX2_end_46 rfl rfl ?_
      refine gX2_33 (pc := 47) hb hN dX2_end_47 ?_
      refine v_iload_n (pc := 50) 1 dX2_end_50 rfl rfl ?_
      refine c_iald (pc := 51) (k := b + 9) (j := t) (IA_run8 hb (by decide) (by decide) (by decide)) (by omega) rfl (by omega) (by decide) dX2_end_51 ?_
      refine v_topi (v := c (18 * t + 1)) ((pr_9 (by omega)).trans (end0_1 ht)) ?_
      refine v_iconst (pc := 52) (nI 3) dX2_end_52 (by decide) ?_
      refine v_ic_eq (pc := 53) 57 dX2_end_53 (by decide) (fun c9 => ?_) (fun c9 => ?_)
      · skip
        obtain ⟨⟨hp1, hp2⟩, hp3⟩ := hM.2.2.1 t (by omega) htm
        obtain ⟨p, hpe⟩ : ∃ p, nn (M 521 t) = p := ⟨_, rfl⟩
        rw [hpe] at hp1 hp2 hp3
        refine v_aload_n (pc := 57) 0 dX2_end_57 rfl rfl ?_
        refine gX2_3 (pc := 58) hb hN dX2_end_58 ?_
        refine gX2_107 (pc := 61) hN dX2_end_61 ?_
        refine gX2_125 (pc := 64) TB_1 hN dX2_end_64 ?_
        refine v_iload_n (pc := 67) 1 dX2_end_67 rfl rfl ?_
        refine c_iald (pc := 68) (k := 1 + 1) (j := t) (IA_tree8 TB_1 (by decide)) (by omega) rfl (by omega) (by decide) dX2_end_68 ?_
        refine v_topi (v := nI p) ((congrFun (put_ne (by omega)) _).trans ((hT.par htm).trans hp1)) ?_
        refine v_istore_n (pc := 69) (lv' := [(2, .int (nI p)), (0, .ref (gZ G + b)), (1, .int (nI t))]) dX2_end_69 rfl (by decide) rfl ?_
        refine v_iconst (pc := 70) (nI 0) dX2_end_70 (by decide) ?_
        refine v_istore_n (pc := 71) (lv' := [(3, .int (nI 0)), (2, .int (nI p)), (0, .ref (gZ G + b)), (1, .int (nI t))]) dX2_end_71 rfl (by decide) rfl ?_
        refine v_sub (lv' := [(3, .int (nI 0)), (0, .ref (gZ G + b)), (1, .int (nI t)), (2, .int (nI p))]) [0, 2, 3, 1] rfl ?_
        have hI0 := RI_end0 hI (t := t)
        refine lp_ge hb hN ht hp3 (hI.2 t ht).2.2 hR (nn (c (18 * t + 9))) 0 _ (by omega) ((end0_9 ht).trans (hI.2 t ht).2.1) (hI0.2 p (by omega)).2 ?_
        have hRI := RI_rGvL (t := t) (by omega : p < 8) (nn (c (18 * t + 9))) 0 _ hI0
        have hRU : UB M (rGvL t p (nn (c (18 * t + 9))) 0 (cEnd0 c t)) := fun q h1 h2 => by rw [rGvL_ne (by omega) (by omega) _ _ _ hI0]; exact UB_end0 hu htm q h1 h2
        generalize hRr : rGvL t p (nn (c (18 * t + 9))) 0 (cEnd0 c t) = R at hRI hRU ⊢
        refine v_aload_n (pc := 101) 0 dX2_end_101 rfl rfl ?_
        refine gX2_20 (pc := 102) hb hN dX2_end_102 ?_
        refine v_iload_n (pc := 105) 2 dX2_end_105 rfl rfl ?_
        refine c_callVi (pc := 106) (st := []) (ci := 6) (ct_get1 (S := S) (b := b) (t := p) (c := R) hb (by omega) (by omega)) kVX2_103 kDX2_103 (rm_ok hR (Nat.le_of_ble_eq_true rfl) (Nat.le_of_ble_eq_true rfl)) ⟨Nat.zero_le _, Nat.zero_le _⟩ (by omega) ((BC_run hb (j := 1) (by decide)) G _).1 rfl rfl rfl rfl (Nat.le_of_ble_eq_true rfl) dX2_end_106 ?_
        refine v_if_eqB (pc := 109) 138 dX2_end_109 (by decide) (fun c10 => ?_) (fun c10 => ?_)
        · skip
          refine v_aload_n (pc := 138) 0 dX2_end_138 rfl rfl ?_
          refine gX2_24 (pc := 139) hb hN dX2_end_139 ?_
          refine v_iload_n (pc := 142) 2 dX2_end_142 rfl rfl ?_
          refine c_callVi (pc := 143) (st := []) (ci := 6) (ct_get3 (S := S) (b := b) (t := p) (c := R) hb (by omega) (by omega)) kVX2_103 kDX2_103 (rm_ok hR (Nat.le_of_ble_eq_true rfl) (Nat.le_of_ble_eq_true rfl)) ⟨Nat.zero_le _, Nat.zero_le _⟩ (by omega) ((BC_run hb (j := 3) (by decide)) G _).1 rfl rfl rfl rfl (Nat.le_of_ble_eq_true rfl) dX2_end_143 ?_
          refine v_if_eqB (pc := 146) 170 dX2_end_146 (by decide) (fun c11 => ?_) (fun c11 => ?_)
          · skip
            exact v_vret (pc := 170) hr (Nat.le_refl _) (Nat.le_refl _) dX2_end_170 (pV_mk (hC_c (congrArg (put S b) (by unfold cEnd; rw [if_pos ⟨by omega, Or.inr c9⟩, hpe, hRr]; unfold cGv2; rw [if_neg (fun z => c10 z.1), if_neg (fun z => c11 z.1)]))))
          · skip
            refine v_aload_n (pc := 149) 0 dX2_end_149 rfl rfl ?_
            refine gX2_33 (pc := 150) hb hN dX2_end_150 ?_
            refine v_iload_n (pc := 153) 2 dX2_end_153 rfl rfl ?_
            refine c_iald (pc := 154) (k := b + 9) (j := p) (IA_run8 hb (by decide) (by decide) (by decide)) (by omega) rfl (by omega) (by decide) dX2_end_154 ?_
            refine v_topi (v := R (18 * p + 1)) (pr_9 (by omega)) ?_
            refine v_if_ne (pc := 155) 170 dX2_end_155 (by decide) (fun c12 => ?_) (fun c12 => ?_)
            · skip
              exact v_vret (pc := 170) hr (Nat.le_refl _) (Nat.le_refl _) dX2_end_170 (pV_mk (hC_c (congrArg (put S b) (by unfold cEnd; rw [if_pos ⟨by omega, Or.inr c9⟩, hpe, hRr]; unfold cGv2; rw [if_neg (fun z => c10 z.1), if_neg (fun z => c12 z.2)]))))
            · skip
              refine v_aload_n (pc := 158) 0 dX2_end_158 rfl rfl ?_
              refine gX2_33 (pc := 159) hb hN dX2_end_159 ?_
              refine v_iload_n (pc := 162) 2 dX2_end_162 rfl rfl ?_
              refine v_iconst (pc := 163) (nI 1) dX2_end_163 (by decide) ?_
              refine c_iast (pc := 164) (k := b + 9) (j := p) (IA_run8 hb (by decide) (by decide) (by decide)) (by omega) rfl (by omega) (by decide) dX2_end_164 ?_
              refine v_S (pw_9 (by omega)) ?_
              refine v_aload_n (pc := 165) 0 dX2_end_165 rfl rfl ?_
              refine v_iload_n (pc := 166) 2 dX2_end_166 rfl rfl ?_
              refine c_callVv (pc := 167) (st := []) (ci := 2) (ct_X2_askChildren (S := S) (b := b) (t := p) (c := upd R (18 * p + 1) (nI 1)) (M := M) hb (by omega) hT hM (hRU.up (by omega)) (by omega)) kVX2_134 kDX2_134 (rm_ok hR (Nat.le_of_ble_eq_true rfl) (Nat.le_of_ble_eq_true rfl)) ⟨Nat.zero_le _, Nat.zero_le _⟩ (by omega) (hC_run (j := 0) hb (by decide) rfl) rfl rfl rfl rfl (Nat.le_of_ble_eq_true rfl) dX2_end_167 ?_
              exact v_vret (pc := 170) hr (Nat.le_refl _) (Nat.le_refl _) dX2_end_170 (pV_mk (hC_c (congrArg (put S b) (by unfold cEnd; rw [if_pos ⟨by omega, Or.inr c9⟩, hpe, hRr]; unfold cGv2; rw [if_neg (fun z => c10 z.1), if_pos ⟨c11, c12⟩]))))
        · skip
          refine v_aload_n (pc := 112) 0 dX2_end_112 rfl rfl ?_
          refine gX2_3 (pc := 113) hb hN dX2_end_113 ?_
          refine gX2_107 (pc := 116) hN dX2_end_116 ?_
          refine gX2_167 (pc := 119) TB_1 hN dX2_end_119 ?_
          refine v_iload_n (pc := 122) 2 dX2_end_122 rfl rfl ?_
          refine c_callVi (pc := 123) (st := []) (ci := 6) (ct_J0_get (S := put S b R) (k := 1 + 24) (t := p) (v := gv) (BC_tree TB_1) (BS_put hgv (by omega)) (by omega) (by omega)) kVX2_103 kDX2_103 (rm_ok hR (Nat.le_of_ble_eq_true rfl) (Nat.le_of_ble_eq_true rfl)) ⟨Nat.zero_le _, Nat.zero_le _⟩ (by omega) ((BC_tree TB_1) G _).1 rfl rfl rfl rfl (Nat.le_of_ble_eq_true rfl) dX2_end_123 ?_
          refine v_if_neB (pc := 126) 138 dX2_end_126 (by decide) (fun c13 => ?_) (fun c13 => ?_)
          · skip
            refine v_aload_n (pc := 138) 0 dX2_end_138 rfl rfl ?_
            refine gX2_24 (pc := 139) hb hN dX2_end_139 ?_
            refine v_iload_n (pc := 142) 2 dX2_end_142 rfl rfl ?_
            refine c_callVi (pc := 143) (st := []) (ci := 6) (ct_get3 (S := S) (b := b) (t := p) (c := R) hb (by omega) (by omega)) kVX2_103 kDX2_103 (rm_ok hR (Nat.le_of_ble_eq_true rfl) (Nat.le_of_ble_eq_true rfl)) ⟨Nat.zero_le _, Nat.zero_le _⟩ (by omega) ((BC_run hb (j := 3) (by decide)) G _).1 rfl rfl rfl rfl (Nat.le_of_ble_eq_true rfl) dX2_end_143 ?_
            refine v_if_eqB (pc := 146) 170 dX2_end_146 (by decide) (fun c14 => ?_) (fun c14 => ?_)
            · skip
              exact v_vret (pc := 170) hr (Nat.le_refl _) (Nat.le_refl _) dX2_end_170 (pV_mk (hC_c (congrArg (put S b) (by unfold cEnd; rw [if_pos ⟨by omega, Or.inr c9⟩, hpe, hRr]; unfold cGv2; rw [if_neg (fun z => (gb_bit hgv.2.1 (by omega)).mp (by rw [← hgM]; exact z.2) c13), if_neg (fun z => c14 z.1)]))))
            · skip
              refine v_aload_n (pc := 149) 0 dX2_end_149 rfl rfl ?_
              refine gX2_33 (pc := 150) hb hN dX2_end_150 ?_
              refine v_iload_n (pc := 153) 2 dX2_end_153 rfl rfl ?_
              refine c_iald (pc := 154) (k := b + 9) (j := p) (IA_run8 hb (by decide) (by decide) (by decide)) (by omega) rfl (by omega) (by decide) dX2_end_154 ?_
              refine v_topi (v := R (18 * p + 1)) (pr_9 (by omega)) ?_
              refine v_if_ne (pc := 155) 170 dX2_end_155 (by decide) (fun c15 => ?_) (fun c15 => ?_)
              · skip
                exact v_vret (pc := 170) hr (Nat.le_refl _) (Nat.le_refl _) dX2_end_170 (pV_mk (hC_c (congrArg (put S b) (by unfold cEnd; rw [if_pos ⟨by omega, Or.inr c9⟩, hpe, hRr]; unfold cGv2; rw [if_neg (fun z => (gb_bit hgv.2.1 (by omega)).mp (by rw [← hgM]; exact z.2) c13), if_neg (fun z => c15 z.2)]))))
              · skip
                refine v_aload_n (pc := 158) 0 dX2_end_158 rfl rfl ?_
                refine gX2_33 (pc := 159) hb hN dX2_end_159 ?_
                refine v_iload_n (pc := 162) 2 dX2_end_162 rfl rfl ?_
                refine v_iconst (pc := 163) (nI 1) dX2_end_163 (by decide) ?_
                refine c_iast (pc := 164) (k := b + 9) (j := p) (IA_run8 hb (by decide) (by decide) (by decide)) (by omega) rfl (by omega) (by decide) dX2_end_164 ?_
                refine v_S (pw_9 (by omega)) ?_
                refine v_aload_n (pc := 165) 0 dX2_end_165 rfl rfl ?_
                refine v_iload_n (pc := 166) 2 dX2_end_166 rfl rfl ?_
                refine c_callVv (pc := 167) (st := []) (ci := 2) (ct_X2_askChildren (S := S) (b := b) (t := p) (c := upd R (18 * p + 1) (nI 1)) (M := M) hb (by omega) hT hM (hRU.up (by omega)) (by omega)) kVX2_134 kDX2_134 (rm_ok hR (Nat.le_of_ble_eq_true rfl) (Nat.le_of_ble_eq_true rfl)) ⟨Nat.zero_le _, Nat.zero_le _⟩ (by omega) (hC_run (j := 0) hb (by decide) rfl) rfl rfl rfl rfl (Nat.le_of_ble_eq_true rfl) dX2_end_167 ?_
                exact v_vret (pc := 170) hr (Nat.le_refl _) (Nat.le_refl _) dX2_end_170 (pV_mk (hC_c (congrArg (put S b) (by unfold cEnd; rw [if_pos ⟨by omega, Or.inr c9⟩, hpe, hRr]; unfold cGv2; rw [if_neg (fun z => (gb_bit hgv.2.1 (by omega)).mp (by rw [← hgM]; exact z.2) c13), if_pos ⟨c14, c15⟩]))))
          · skip
            refine v_aload_n (pc := 129) 0 dX2_end_129 rfl rfl ?_
            refine v_iload_n (pc := 130) 2 dX2_end_130 rfl rfl ?_
            refine v_iconst (pc := 131) (nI 1) dX2_end_131 (by decide) ?_
            refine c_callVv (pc := 132) (st := []) (ci := 2) (ct_X2_close (S := S) (b := b) (t := p) (w := nI 1) (c := R) (M := M) hb (by omega) c10 hRI.1 (hRI.2 p (by omega)).2 hT hM hRU (by omega)) kVX2_155 kDX2_155 (rm_ok hR (Nat.le_of_ble_eq_true rfl) (Nat.le_of_ble_eq_true rfl)) ⟨Nat.zero_le _, Nat.zero_le _⟩ (by omega) (hC_run (j := 0) hb (by decide) rfl) rfl rfl rfl rfl (Nat.le_of_ble_eq_true rfl) dX2_end_132 ?_
            refine v_goto (pc := 135) 170 dX2_end_135 (by decide) ?_
            exact v_vret (pc := 170) hr (Nat.le_refl _) (Nat.le_refl _) dX2_end_170 (pV_mk (hC_c (congrArg (put S b) (by unfold cEnd; rw [if_pos ⟨by omega, Or.inr c9⟩, hpe, hRr]; unfold cGv2; rw [if_pos ⟨c10, (by rw [hgM]; exact (gb_bit hgv.2.1 (by omega)).mpr c13)⟩]))))
      · skip
        exact v_vret (pc := 56) hr (Nat.le_refl _) (Nat.le_refl _) dX2_end_56 (pV_mk (hC_c (congrArg (put S b) (by unfold cEnd; rw [if_neg (fun z => z.2.elim c2 c9)]))))

def cCl1 (M : ST) (d : Nat → Int32) (t : Nat) : Nat → Int32 := if d (18 * t + 3) = M 526 t then cEnd M d t else d
def cCl (M : ST) (c : Nat → Int32) (t : Nat) : Nat → Int32 := if rBusy M (nI t) c then c else cCl1 M (if c (18 * t + 3) < M 526 t then upd c (18 * t + 3) (c (18 * t + 3) + nI 1) else c) t
set_option maxHeartbeats 4000000 in
theorem ct_X2_cleanUp {G : GT} {l : Launch} {N : Nat} {S : ST} {c : Nat → Int32} {b t : Nat} {M : ST} (hb : RB b) (htm : t < mN M) (hT : TR S M) (hM : MI M) (hc : c (18 * t) = nI 2) (hI : RI c) (hu : UB M c) (hN : 513 ≤ N) : CTv G l yX2_cleanUp cX2_cleanUp 2 none 6 [.ref (gZ G + b), .int (nI t)] N (put S b c) (put S b (cCl M c t)) := by
  have hbl := hb.le
  have hbg := hb.ge
  have h1n := hM.2.1
  have h8n := hM.n
  obtain ⟨n, hn⟩ : ∃ n, mN M = n := ⟨_, rfl⟩
  have hnE : S 1 0 = nI n := by rw [hT.n, ← hn]; exact hM.1.1
  rw [hn] at h1n h8n
  have ht : t < 8 := by omega
  refine CT.mk "ScopeTasks$Run" [(0, .ref (gZ G + b)), (1, .int (nI t))] rfl (by decide) rfl (Nat.le_of_ble_eq_true rfl) ?_
  intro x hR hl hr hnm
  refine v_aload_n (pc := 0) 0 dX2_cleanUp_0 rfl rfl ?_
  refine v_iload_n (pc := 1) 1 dX2_cleanUp_1 rfl rfl ?_
  refine c_callVi (pc := 2) (st := []) (ci := 2) (ct_X2_hasChildren (S := S) (b := b) (t := t) (c := c) (M := M) hb htm hT hM (by omega)) kVX2_149 kDX2_149 (rm_ok hR (Nat.le_of_ble_eq_true rfl) (Nat.le_of_ble_eq_true rfl)) ⟨Nat.zero_le _, Nat.zero_le _⟩ (by omega) (hC_run (j := 0) hb (by decide) rfl) rfl rfl rfl rfl (Nat.le_of_ble_eq_true rfl) dX2_cleanUp_2 ?_
  refine v_if_eqB (pc := 5) 9 dX2_cleanUp_5 (by decide) (fun c1 => ?_) (fun c1 => ?_)
  · skip
    refine v_aload_n (pc := 9) 0 dX2_cleanUp_9 rfl rfl ?_
    refine gX2_40 (pc := 10) hb hN dX2_cleanUp_10 ?_
    refine v_iload_n (pc := 13) 1 dX2_cleanUp_13 rfl rfl ?_
    refine c_iald (pc := 14) (k := b + 11) (j := t) (IA_run8 hb (by decide) (by decide) (by decide)) (by omega) rfl (by omega) (by decide) dX2_cleanUp_14 ?_
    refine v_topi (v := c (18 * t + 3)) (pr_11 (by omega)) ?_
    refine v_aload_n (pc := 15) 0 dX2_cleanUp_15 rfl rfl ?_
    refine gX2_3 (pc := 16) hb hN dX2_cleanUp_16 ?_
    refine gX2_107 (pc := 19) hN dX2_cleanUp_19 ?_
    refine gX2_170 (pc := 22) TB_1 hN dX2_cleanUp_22 ?_
    refine v_iload_n (pc := 25) 1 dX2_cleanUp_25 rfl rfl ?_
    refine c_iald (pc := 26) (k := 1 + 23) (j := t) (IA_tree8 TB_1 (by decide)) (by omega) rfl (by omega) (by decide) dX2_cleanUp_26 ?_
    refine v_topi (v := M 526 t) ((congrFun (put_ne (by omega)) _).trans (hT.cu htm)) ?_
    refine v_ic_ge (pc := 27) 40 dX2_cleanUp_27 (by decide) (fun c2 => ?_) (fun c2 => ?_)
    · skip
      refine v_aload_n (pc := 40) 0 dX2_cleanUp_40 rfl rfl ?_
      refine gX2_40 (pc := 41) hb hN dX2_cleanUp_41 ?_
      refine v_iload_n (pc := 44) 1 dX2_cleanUp_44 rfl rfl ?_
      refine c_iald (pc := 45) (k := b + 11) (j := t) (IA_run8 hb (by decide) (by decide) (by decide)) (by omega) rfl (by omega) (by decide) dX2_cleanUp_45 ?_
      refine v_topi (v := c (18 * t + 3)) (pr_11 (by omega)) ?_
      refine v_aload_n (pc := 46) 0 dX2_cleanUp_46 rfl rfl ?_
      refine gX2_3 (pc := 47) hb hN dX2_cleanUp_47 ?_
      refine gX2_107 (pc := 50) hN dX2_cleanUp_50 ?_
      refine gX2_170 (pc := 53) TB_1 hN dX2_cleanUp_53 ?_
      refine v_iload_n (pc := 56) 1 dX2_cleanUp_56 rfl rfl ?_
      refine c_iald (pc := 57) (k := 1 + 23) (j := t) (IA_tree8 TB_1 (by decide)) (by omega) rfl (by omega) (by decide) dX2_cleanUp_57 ?_
      refine v_topi (v := M 526 t) ((congrFun (put_ne (by omega)) _).trans (hT.cu htm)) ?_
      refine v_ic_ne (pc := 58) 66 dX2_cleanUp_58 (by decide) (fun c3 => ?_) (fun c3 => ?_)
      · skip
        exact v_vret (pc := 66) hr (Nat.le_refl _) (Nat.le_refl _) dX2_cleanUp_66 (pV_mk (hC_c (congrArg (put S b) (by unfold cCl; rw [if_neg c1, if_neg (Int32.not_lt.mpr c2)]; unfold cCl1; rw [if_neg c3]))))
      · skip
        refine v_aload_n (pc := 61) 0 dX2_cleanUp_61 rfl rfl ?_
        refine v_iload_n (pc := 62) 1 dX2_cleanUp_62 rfl rfl ?_
        refine c_callVv (pc := 63) (st := []) (ci := 2) (ct_X2_end (S := S) (b := b) (t := t) (c := c) (M := M) hb htm hT hM hc hI hu (by omega)) kVX2_173 kDX2_173 (rm_ok hR (Nat.le_of_ble_eq_true rfl) (Nat.le_of_ble_eq_true rfl)) ⟨Nat.zero_le _, Nat.zero_le _⟩ (by omega) (hC_run (j := 0) hb (by decide) rfl) rfl rfl rfl rfl (Nat.le_of_ble_eq_true rfl) dX2_cleanUp_63 ?_
        exact v_vret (pc := 66) hr (Nat.le_refl _) (Nat.le_refl _) dX2_cleanUp_66 (pV_mk (hC_c (congrArg (put S b) (by unfold cCl; rw [if_neg c1, if_neg (Int32.not_lt.mpr c2)]; unfold cCl1; rw [if_pos c3]))))
    · skip
      refine v_aload_n (pc := 30) 0 dX2_cleanUp_30 rfl rfl ?_
      refine gX2_40 (pc := 31) hb hN dX2_cleanUp_31 ?_
      refine v_iload_n (pc := 34) 1 dX2_cleanUp_34 rfl rfl ?_
      refine v_dup2 (pc := 35) dX2_cleanUp_35 rfl rfl ?_
      refine c_iald (pc := 36) (k := b + 11) (j := t) (IA_run8 hb (by decide) (by decide) (by decide)) (by omega) rfl (by omega) (by decide) dX2_cleanUp_36 ?_
      refine v_topi (v := c (18 * t + 3)) (pr_11 (by omega)) ?_
      refine v_iconst (pc := 37) (nI 1) dX2_cleanUp_37 (by decide) ?_
      refine v_iadd (pc := 38) dX2_cleanUp_38 ?_
      refine c_iast (pc := 39) (k := b + 11) (j := t) (IA_run8 hb (by decide) (by decide) (by decide)) (by omega) rfl (by omega) (by decide) dX2_cleanUp_39 ?_
      refine v_S (pw_11 (by omega)) ?_
      refine v_aload_n (pc := 40) 0 dX2_cleanUp_40 rfl rfl ?_
      refine gX2_40 (pc := 41) hb hN dX2_cleanUp_41 ?_
      refine v_iload_n (pc := 44) 1 dX2_cleanUp_44 rfl rfl ?_
      refine c_iald (pc := 45) (k := b + 11) (j := t) (IA_run8 hb (by decide) (by decide) (by decide)) (by omega) rfl (by omega) (by decide) dX2_cleanUp_45 ?_
      refine v_topi (v := (c (18 * t + 3)) + (nI 1)) ((pr_11 (by omega)).trans pk_us) ?_
      refine v_aload_n (pc := 46) 0 dX2_cleanUp_46 rfl rfl ?_
      refine gX2_3 (pc := 47) hb hN dX2_cleanUp_47 ?_
      refine gX2_107 (pc := 50) hN dX2_cleanUp_50 ?_
      refine gX2_170 (pc := 53) TB_1 hN dX2_cleanUp_53 ?_
      refine v_iload_n (pc := 56) 1 dX2_cleanUp_56 rfl rfl ?_
      refine c_iald (pc := 57) (k := 1 + 23) (j := t) (IA_tree8 TB_1 (by decide)) (by omega) rfl (by omega) (by decide) dX2_cleanUp_57 ?_
      refine v_topi (v := M 526 t) ((congrFun (put_ne (by omega)) _).trans (hT.cu htm)) ?_
      refine v_ic_ne (pc := 58) 66 dX2_cleanUp_58 (by decide) (fun c4 => ?_) (fun c4 => ?_)
      · skip
        exact v_vret (pc := 66) hr (Nat.le_refl _) (Nat.le_refl _) dX2_cleanUp_66 (pV_mk (hC_c (congrArg (put S b) (by unfold cCl; rw [if_neg c1, if_pos (Int32.not_le.mp c2)]; unfold cCl1; rw [if_neg (fun z => c4 (pk_us.symm.trans z))]))))
      · skip
        refine v_aload_n (pc := 61) 0 dX2_cleanUp_61 rfl rfl ?_
        refine v_iload_n (pc := 62) 1 dX2_cleanUp_62 rfl rfl ?_
        refine c_callVv (pc := 63) (st := []) (ci := 2) (ct_X2_end (S := S) (b := b) (t := t) (c := upd c (18 * t + 3) ((c (18 * t + 3)) + (nI 1))) (M := M) hb htm hT hM ((pk_un (by omega)).trans hc) (hI.up (by omega) (by omega) (by omega)) (hu.up (by omega)) (by omega)) kVX2_173 kDX2_173 (rm_ok hR (Nat.le_of_ble_eq_true rfl) (Nat.le_of_ble_eq_true rfl)) ⟨Nat.zero_le _, Nat.zero_le _⟩ (by omega) (hC_run (j := 0) hb (by decide) rfl) rfl rfl rfl rfl (Nat.le_of_ble_eq_true rfl) dX2_cleanUp_63 ?_
        exact v_vret (pc := 66) hr (Nat.le_refl _) (Nat.le_refl _) dX2_cleanUp_66 (pV_mk (hC_c (congrArg (put S b) (by unfold cCl; rw [if_neg c1, if_pos (Int32.not_le.mp c2)]; unfold cCl1; rw [if_pos (pk_us.trans c4)]))))
  · skip
    exact v_vret (pc := 8) hr (Nat.le_refl _) (Nat.le_refl _) dX2_cleanUp_8 (pV_mk (hC_c (congrArg (put S b) (by unfold cCl; rw [if_pos c1]))))

