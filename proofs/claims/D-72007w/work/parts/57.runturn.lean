set_option maxRecDepth 100000
/-! ScopeTasks$Run: goOn, turn -/
def cWk (M : ST) (c : Nat → Int32) (t : Nat) : Nat → Int32 :=
  if M 523 (12 * t + 2 * nn (c (18 * t + 2))) = nI 119 then
    (if c (18 * t + 3) + nI 1 = M 523 (12 * t + 2 * nn (c (18 * t + 2)) + 1) then upd (upd (upd c (18 * t + 3) (c (18 * t + 3) + nI 1)) (18 * t + 3) (nI 0)) (18 * t + 2) (c (18 * t + 2) + nI 1)
     else upd c (18 * t + 3) (c (18 * t + 3) + nI 1))
  else if M 523 (12 * t + 2 * nn (c (18 * t + 2))) = nI 98 then cBC M t (upd c (18 * t + 2) (c (18 * t + 2) + nI 1))
  else if M 523 (12 * t + 2 * nn (c (18 * t + 2))) = nI 106 then upd c (18 * t + 2) (c (18 * t + 2) + (if rBusy M (nI t) c then nI 0 else nI 1))
  else if M 523 (12 * t + 2 * nn (c (18 * t + 2))) = nI 120 then rAsk M (nI t) (upd c (18 * t + 2) (c (18 * t + 2) + nI 1))
  else cClo M (rCo c t (M 523 (12 * t + 2 * nn (c (18 * t + 2)) + 1))) t (nI 1)
theorem BG.up {c : Nat → Int32} (h : BG c) {i : Nat} {v : Int32} (h1 : ∀ q, q < 8 → i ≠ 18 * q ∧ i ≠ 18 * q + 7) : BG (upd c i v) := fun q hq e => by
  rw [pk_un (Ne.symm (h1 q hq).2)] at e
  rw [pk_un (Ne.symm (h1 q hq).1)]
  exact h q hq e
theorem RI_co5 {c : Nat → Int32} {t : Nat} {v : Int32} (h9 : inN (c (18 * t + 9)) 8) (ht : t < 8) (h5 : inN (c 145) 60) : inN (rCo c t v 145) 60 := by rw [rCo_ne h9 (by omega)]; exact h5
theorem RI_co9 {c : Nat → Int32} {t : Nat} {v : Int32} (h9 : inN (c (18 * t + 9)) 8) : inN (rCo c t v (18 * t + 9)) 8 := by
  unfold rCo
  split
  next h =>
    obtain ⟨e, b⟩ := h9
    have hk : nn (c (18 * t + 9)) < 8 := by rw [e] at h; exact (nI_ltI (by omega) (by decide)).mp h
    rw [pk_us]; exact inN.of (nI_nat1 e) (by omega) (by decide)
  next => exact h9
theorem UB_co {M : ST} {c : Nat → Int32} (h : UB M c) {t : Nat} {v : Int32} (ht : t < 8) (h9 : inN (c (18 * t + 9)) 8) : UB M (rCo c t v) := fun q h1 h2 => by rw [rCo_ne h9 (by omega)]; exact h q h1 h2
set_option maxHeartbeats 4000000 in
theorem ct_X2_goOn {G : GT} {l : Launch} {N : Nat} {S : ST} {c : Nat → Int32} {b t : Nat} {M : ST} (hb : RB b) (htm : t < mN M) (hT : TR S M) (hM : MI M) (hc : c (18 * t) = nI 1) (h2 : inN (c (18 * t + 2)) 6) (hkl : nn (c (18 * t + 2)) < nn (M 522 t)) (h5 : inN (c 145) 60) (h9 : inN (c (18 * t + 9)) 8) (hu : UB M c) (hg : BG c) (hN : 513 ≤ N) : CTv G l yX2_goOn cX2_goOn 3 none 5 [.ref (gZ G + b), .int (nI t)] N (put S b c) (put S b (cWk M c t)) := by
  have hbl := hb.le
  have hbg := hb.ge
  have h1n := hM.2.1
  have h8n := hM.n
  obtain ⟨n, hn⟩ : ∃ n, mN M = n := ⟨_, rfl⟩
  have hnE : S 1 0 = nI n := by rw [hT.n, ← hn]; exact hM.1.1
  rw [hn] at h1n h8n
  have ht : t < 8 := by omega
  have h6 := (hM.2.2.2 t htm).2
  obtain ⟨h21, h22⟩ := h2
  generalize hkk : nn (c (18 * t + 2)) = k at h21 h22 hkl
  refine CT.mk "ScopeTasks$Run" [(0, .ref (gZ G + b)), (1, .int (nI t))] rfl (by decide) rfl (Nat.le_of_ble_eq_true rfl) ?_
  intro x hR hl hr hnm
  refine v_aload_n (pc := 0) 0 dX2_goOn_0 rfl rfl ?_
  refine gX2_37 (pc := 1) hb hN dX2_goOn_1 ?_
  refine v_iload_n (pc := 4) 1 dX2_goOn_4 rfl rfl ?_
  refine c_iald (pc := 5) (k := b + 10) (j := t) (IA_run8 hb (by decide) (by decide) (by decide)) (by omega) rfl (by omega) (by decide) dX2_goOn_5 ?_
  refine v_topi (v := nI k) ((pr_10 (by omega)).trans h21) ?_
  refine v_istore_n (pc := 6) (lv' := [(2, .int (nI k)), (0, .ref (gZ G + b)), (1, .int (nI t))]) dX2_goOn_6 rfl (by decide) rfl ?_
  refine v_aload_n (pc := 7) 1 dX2_goOn_7 rfl rfl ?_
  refine gX2_3 (pc := 8) hb hN dX2_goOn_8 ?_
  refine gX2_107 (pc := 11) hN dX2_goOn_11 ?_
  refine gX2_140 (pc := 14) TB_1 hN dX2_goOn_14 ?_
  refine v_iload_n (pc := 17) 2 dX2_goOn_17 rfl rfl ?_
  refine c_gridW (pc := 18) (b0 := 1) (j := t) TB_1 (by omega) rfl (by omega) dX2_goOn_18 ?_
  refine v_iload_n (pc := 19) 0 dX2_goOn_19 rfl rfl ?_
  refine c_iald (pc := 20) (k := 1 + 4 + t) (j := k) (IA_gridW TB_1 (by omega)) (by omega) rfl (by omega) (by decide) dX2_goOn_20 ?_
  refine v_topi (v := S (1 + 4 + t) k) (congrFun (put_ne (by omega)) _) ?_
  rcases (hT.op htm hkl).1 with ⟨hw, hl⟩ | ⟨hw, hl⟩ | ⟨hw, hl⟩ | ⟨hw, hl⟩ | ⟨hw, hl⟩
  · skip
    refine v_topi (v := nI 0) hw ?_
    refine v_tableIn (pc := 21) 52 dX2_goOn_21 (by decide) (by decide) rfl (by decide) ?_
    refine v_aload_n (pc := 52) 1 dX2_goOn_52 rfl rfl ?_
    refine gX2_40 (pc := 53) hb hN dX2_goOn_53 ?_
    refine v_iload_n (pc := 56) 2 dX2_goOn_56 rfl rfl ?_
    refine v_dup2 (pc := 57) dX2_goOn_57 rfl rfl ?_
    refine c_iald (pc := 58) (k := b + 11) (j := t) (IA_run8 hb (by decide) (by decide) (by decide)) (by omega) rfl (by omega) (by decide) dX2_goOn_58 ?_
    refine v_topi (v := c (18 * t + 3)) (pr_11 (by omega)) ?_
    refine v_iconst (pc := 59) (nI 1) dX2_goOn_59 (by decide) ?_
    refine v_iadd (pc := 60) dX2_goOn_60 ?_
    refine c_iast (pc := 61) (k := b + 11) (j := t) (IA_run8 hb (by decide) (by decide) (by decide)) (by omega) rfl (by omega) (by decide) dX2_goOn_61 ?_
    refine v_S (pw_11 (by omega)) ?_
    refine v_aload_n (pc := 62) 1 dX2_goOn_62 rfl rfl ?_
    refine gX2_40 (pc := 63) hb hN dX2_goOn_63 ?_
    refine v_iload_n (pc := 66) 2 dX2_goOn_66 rfl rfl ?_
    refine c_iald (pc := 67) (k := b + 11) (j := t) (IA_run8 hb (by decide) (by decide) (by decide)) (by omega) rfl (by omega) (by decide) dX2_goOn_67 ?_
    refine v_topi (v := (c (18 * t + 3)) + (nI 1)) ((pr_11 (by omega)).trans pk_us) ?_
    refine v_aload_n (pc := 68) 1 dX2_goOn_68 rfl rfl ?_
    refine gX2_3 (pc := 69) hb hN dX2_goOn_69 ?_
    refine gX2_107 (pc := 72) hN dX2_goOn_72 ?_
    refine gX2_143 (pc := 75) TB_1 hN dX2_goOn_75 ?_
    refine v_iload_n (pc := 78) 2 dX2_goOn_78 rfl rfl ?_
    refine c_gridO (pc := 79) (b0 := 1) (j := t) TB_1 (by omega) rfl (by omega) dX2_goOn_79 ?_
    refine v_iload_n (pc := 80) 0 dX2_goOn_80 rfl rfl ?_
    refine c_iald (pc := 81) (k := 1 + 13 + t) (j := k) (IA_gridO TB_1 (by omega)) (by omega) rfl (by omega) (by decide) dX2_goOn_81 ?_
    refine v_topi (v := M 523 (12 * t + 2 * k + 1)) ((congrFun (put_ne (by omega)) _).trans (hT.op htm hkl).2) ?_
    refine v_ic_ne (pc := 82) 191 dX2_goOn_82 (by decide) (fun c1 => ?_) (fun c1 => ?_)
    · skip
      exact v_vret (pc := 191) hr (Nat.le_refl _) (Nat.le_refl _) dX2_goOn_191 (pV_mk (hC_c (congrArg (put S b) (by unfold cWk; rw [hkk]; rw [if_pos hl]; rw [if_neg c1]))))
    · skip
      refine v_aload_n (pc := 85) 1 dX2_goOn_85 rfl rfl ?_
      refine gX2_40 (pc := 86) hb hN dX2_goOn_86 ?_
      refine v_iload_n (pc := 89) 2 dX2_goOn_89 rfl rfl ?_
      refine v_iconst (pc := 90) (nI 0) dX2_goOn_90 (by decide) ?_
      refine c_iast (pc := 91) (k := b + 11) (j := t) (IA_run8 hb (by decide) (by decide) (by decide)) (by omega) rfl (by omega) (by decide) dX2_goOn_91 ?_
      refine v_S (pw_11 (by omega)) ?_
      refine v_aload_n (pc := 92) 1 dX2_goOn_92 rfl rfl ?_
      refine gX2_37 (pc := 93) hb hN dX2_goOn_93 ?_
      refine v_iload_n (pc := 96) 2 dX2_goOn_96 rfl rfl ?_
      refine v_dup2 (pc := 97) dX2_goOn_97 rfl rfl ?_
      refine c_iald (pc := 98) (k := b + 10) (j := t) (IA_run8 hb (by decide) (by decide) (by decide)) (by omega) rfl (by omega) (by decide) dX2_goOn_98 ?_
      refine v_topi (v := nI k) ((pr_10 (by omega)).trans ((pk_un (by omega)).trans ((pk_un (by omega)).trans h21))) ?_
      refine v_iconst (pc := 99) (nI 1) dX2_goOn_99 (by decide) ?_
      refine v_iaddN (pc := 100) dX2_goOn_100 ?_
      refine c_iast (pc := 101) (k := b + 10) (j := t) (IA_run8 hb (by decide) (by decide) (by decide)) (by omega) rfl (by omega) (by decide) dX2_goOn_101 ?_
      refine v_S (pw_10 (by omega)) ?_
      refine v_goto (pc := 102) 191 dX2_goOn_102 (by decide) ?_
      exact v_vret (pc := 191) hr (Nat.le_refl _) (Nat.le_refl _) dX2_goOn_191 (pV_mk (hC_c (congrArg (put S b) (by unfold cWk; rw [hkk]; rw [if_pos hl]; rw [if_pos c1, h21]; rw [nI_add]))))
  · skip
    refine v_topi (v := nI 1) hw ?_
    refine v_tableIn (pc := 21) 105 dX2_goOn_21 (by decide) (by decide) rfl (by decide) ?_
    refine v_aload_n (pc := 105) 1 dX2_goOn_105 rfl rfl ?_
    refine gX2_37 (pc := 106) hb hN dX2_goOn_106 ?_
    refine v_iload_n (pc := 109) 2 dX2_goOn_109 rfl rfl ?_
    refine v_dup2 (pc := 110) dX2_goOn_110 rfl rfl ?_
    refine c_iald (pc := 111) (k := b + 10) (j := t) (IA_run8 hb (by decide) (by decide) (by decide)) (by omega) rfl (by omega) (by decide) dX2_goOn_111 ?_
    refine v_topi (v := nI k) ((pr_10 (by omega)).trans h21) ?_
    refine v_iconst (pc := 112) (nI 1) dX2_goOn_112 (by decide) ?_
    refine v_iaddN (pc := 113) dX2_goOn_113 ?_
    refine c_iast (pc := 114) (k := b + 10) (j := t) (IA_run8 hb (by decide) (by decide) (by decide)) (by omega) rfl (by omega) (by decide) dX2_goOn_114 ?_
    refine v_S (pw_10 (by omega)) ?_
    refine v_aload_n (pc := 115) 1 dX2_goOn_115 rfl rfl ?_
    refine v_iload_n (pc := 116) 2 dX2_goOn_116 rfl rfl ?_
    refine c_callVv (pc := 117) (st := []) (ci := 2) (ct_X2_begin (S := S) (b := b) (t := t) (c := upd c (18 * t + 2) (nI (k + 1))) (M := M) hb htm hT hM (hg.up (by omega)) (by rw [pk_un (by omega)]; exact h5) (by omega)) kVX2_146 kDX2_146 (rm_ok hR (Nat.le_of_ble_eq_true rfl) (Nat.le_of_ble_eq_true rfl)) ⟨Nat.zero_le _, Nat.zero_le _⟩ (by omega) (hC_run (j := 0) hb (by decide) rfl) rfl rfl rfl rfl (Nat.le_of_ble_eq_true rfl) dX2_goOn_117 ?_
    refine v_goto (pc := 120) 191 dX2_goOn_120 (by decide) ?_
    exact v_vret (pc := 191) hr (Nat.le_refl _) (Nat.le_refl _) dX2_goOn_191 (pV_mk (hC_c (congrArg (put S b) (by unfold cWk; rw [hkk]; rw [if_neg (by rw [hl]; decide), if_pos hl]; rw [h21, nI_add]))))
  · skip
    refine v_topi (v := nI 2) hw ?_
    refine v_tableIn (pc := 21) 123 dX2_goOn_21 (by decide) (by decide) rfl (by decide) ?_
    refine v_aload_n (pc := 123) 1 dX2_goOn_123 rfl rfl ?_
    refine gX2_37 (pc := 124) hb hN dX2_goOn_124 ?_
    refine v_iload_n (pc := 127) 2 dX2_goOn_127 rfl rfl ?_
    refine v_dup2 (pc := 128) dX2_goOn_128 rfl rfl ?_
    refine c_iald (pc := 129) (k := b + 10) (j := t) (IA_run8 hb (by decide) (by decide) (by decide)) (by omega) rfl (by omega) (by decide) dX2_goOn_129 ?_
    refine v_topi (v := nI k) ((pr_10 (by omega)).trans h21) ?_
    refine v_aload_n (pc := 130) 1 dX2_goOn_130 rfl rfl ?_
    refine v_iload_n (pc := 131) 2 dX2_goOn_131 rfl rfl ?_
    refine c_callVi (pc := 132) (st := [.int (nI k), .int (nI t), .ref (gZ G + (b + 10))]) (ci := 2) (ct_X2_hasChildren (S := S) (b := b) (t := t) (c := c) (M := M) hb htm hT hM (by omega)) kVX2_149 kDX2_149 (rm_ok hR (Nat.le_of_ble_eq_true rfl) (Nat.le_of_ble_eq_true rfl)) ⟨Nat.zero_le _, Nat.zero_le _⟩ (by omega) (hC_run (j := 0) hb (by decide) rfl) rfl rfl rfl rfl (Nat.le_of_ble_eq_true rfl) dX2_goOn_132 ?_
    refine v_if_eqB (pc := 135) 142 dX2_goOn_135 (by decide) (fun c2 => ?_) (fun c2 => ?_)
    · skip
      refine v_iconst (pc := 142) (nI 1) dX2_goOn_142 (by decide) ?_
      refine v_iaddN (pc := 143) dX2_goOn_143 ?_
      refine c_iast (pc := 144) (k := b + 10) (j := t) (IA_run8 hb (by decide) (by decide) (by decide)) (by omega) rfl (by omega) (by decide) dX2_goOn_144 ?_
      refine v_S (pw_10 (by omega)) ?_
      refine v_goto (pc := 145) 191 dX2_goOn_145 (by decide) ?_
      exact v_vret (pc := 191) hr (Nat.le_refl _) (Nat.le_refl _) dX2_goOn_191 (pV_mk (hC_c (congrArg (put S b) (by unfold cWk; rw [hkk]; rw [if_neg (by rw [hl]; decide), if_neg (by rw [hl]; decide), if_pos hl]; rw [if_neg c2, h21, nI_add]))))
    · skip
      refine v_iconst (pc := 138) (nI 0) dX2_goOn_138 (by decide) ?_
      refine v_goto (pc := 139) 143 dX2_goOn_139 (by decide) ?_
      refine v_iaddN (pc := 143) dX2_goOn_143 ?_
      refine c_iast (pc := 144) (k := b + 10) (j := t) (IA_run8 hb (by decide) (by decide) (by decide)) (by omega) rfl (by omega) (by decide) dX2_goOn_144 ?_
      refine v_S (pw_10 (by omega)) ?_
      refine v_goto (pc := 145) 191 dX2_goOn_145 (by decide) ?_
      exact v_vret (pc := 191) hr (Nat.le_refl _) (Nat.le_refl _) dX2_goOn_191 (pV_mk (hC_c (congrArg (put S b) (by unfold cWk; rw [hkk]; rw [if_neg (by rw [hl]; decide), if_neg (by rw [hl]; decide), if_pos hl]; rw [if_pos c2, h21, nI_add]))))
  · skip
    refine v_topi (v := nI 3) hw ?_
    refine v_tableIn (pc := 21) 148 dX2_goOn_21 (by decide) (by decide) rfl (by decide) ?_
    refine v_aload_n (pc := 148) 1 dX2_goOn_148 rfl rfl ?_
    refine gX2_37 (pc := 149) hb hN dX2_goOn_149 ?_
    refine v_iload_n (pc := 152) 2 dX2_goOn_152 rfl rfl ?_
    refine v_dup2 (pc := 153) dX2_goOn_153 rfl rfl ?_
    refine c_iald (pc := 154) (k := b + 10) (j := t) (IA_run8 hb (by decide) (by decide) (by decide)) (by omega) rfl (by omega) (by decide) dX2_goOn_154 ?_
    refine v_topi (v := nI k) ((pr_10 (by omega)).trans h21) ?_
    refine v_iconst (pc := 155) (nI 1) dX2_goOn_155 (by decide) ?_
    refine v_iaddN (pc := 156) dX2_goOn_156 ?_
    refine c_iast (pc := 157) (k := b + 10) (j := t) (IA_run8 hb (by decide) (by decide) (by decide)) (by omega) rfl (by omega) (by decide) dX2_goOn_157 ?_
    refine v_S (pw_10 (by omega)) ?_
    refine v_aload_n (pc := 158) 1 dX2_goOn_158 rfl rfl ?_
    refine v_iload_n (pc := 159) 2 dX2_goOn_159 rfl rfl ?_
    refine c_callVv (pc := 160) (st := []) (ci := 2) (ct_X2_askChildren (S := S) (b := b) (t := t) (c := upd c (18 * t + 2) (nI (k + 1))) (M := M) hb (by omega) hT hM (hu.up (by omega)) (by omega)) kVX2_134 kDX2_134 (rm_ok hR (Nat.le_of_ble_eq_true rfl) (Nat.le_of_ble_eq_true rfl)) ⟨Nat.zero_le _, Nat.zero_le _⟩ (by omega) (hC_run (j := 0) hb (by decide) rfl) rfl rfl rfl rfl (Nat.le_of_ble_eq_true rfl) dX2_goOn_160 ?_
    refine v_goto (pc := 163) 191 dX2_goOn_163 (by decide) ?_
    exact v_vret (pc := 191) hr (Nat.le_refl _) (Nat.le_refl _) dX2_goOn_191 (pV_mk (hC_c (congrArg (put S b) (by unfold cWk; rw [hkk]; rw [if_neg (by rw [hl]; decide), if_neg (by rw [hl]; decide), if_neg (by rw [hl]; decide), if_pos hl]; rw [h21, nI_add]))))
  · skip
    refine v_topi (v := nI 4) hw ?_
    refine v_tableOut (pc := 21) 166 dX2_goOn_21 (by decide) (by decide) ?_
    refine v_aload_n (pc := 166) 1 dX2_goOn_166 rfl rfl ?_
    refine v_iload_n (pc := 167) 2 dX2_goOn_167 rfl rfl ?_
    refine v_aload_n (pc := 168) 1 dX2_goOn_168 rfl rfl ?_
    refine gX2_3 (pc := 169) hb hN dX2_goOn_169 ?_
    refine gX2_107 (pc := 172) hN dX2_goOn_172 ?_
    refine gX2_143 (pc := 175) TB_1 hN dX2_goOn_175 ?_
    refine v_iload_n (pc := 178) 2 dX2_goOn_178 rfl rfl ?_
    refine c_gridO (pc := 179) (b0 := 1) (j := t) TB_1 (by omega) rfl (by omega) dX2_goOn_179 ?_
    refine v_iload_n (pc := 180) 0 dX2_goOn_180 rfl rfl ?_
    refine c_iald (pc := 181) (k := 1 + 13 + t) (j := k) (IA_gridO TB_1 (by omega)) (by omega) rfl (by omega) (by decide) dX2_goOn_181 ?_
    refine v_topi (v := M 523 (12 * t + 2 * k + 1)) ((congrFun (put_ne (by omega)) _).trans (hT.op htm hkl).2) ?_
    refine c_callVv (pc := 182) (st := []) (ci := 2) (ct_X2_fail (S := S) (b := b) (t := t) (w := M 523 (12 * t + 2 * k + 1)) (c := c) hb (by omega) h9 (by omega)) kVX2_152 kDX2_152 (rm_ok hR (Nat.le_of_ble_eq_true rfl) (Nat.le_of_ble_eq_true rfl)) ⟨Nat.zero_le _, Nat.zero_le _⟩ (by omega) (hC_run (j := 0) hb (by decide) rfl) rfl rfl rfl rfl (Nat.le_of_ble_eq_true rfl) dX2_goOn_182 ?_
    refine v_aload_n (pc := 185) 1 dX2_goOn_185 rfl rfl ?_
    refine v_iload_n (pc := 186) 2 dX2_goOn_186 rfl rfl ?_
    refine v_iconst (pc := 187) (nI 1) dX2_goOn_187 (by decide) ?_
    refine c_callVv (pc := 188) (st := []) (ci := 2) (ct_X2_close (S := S) (b := b) (t := t) (w := nI 1) (c := rCo c t (M 523 (12 * t + 2 * k + 1))) (M := M) hb (by omega) ((rCo_ne h9 (by omega)).trans hc) (RI_co5 h9 ht h5) (RI_co9 h9) hT hM (UB_co hu ht h9) (by omega)) kVX2_155 kDX2_155 (rm_ok hR (Nat.le_of_ble_eq_true rfl) (Nat.le_of_ble_eq_true rfl)) ⟨Nat.zero_le _, Nat.zero_le _⟩ (by omega) (hC_run (j := 0) hb (by decide) rfl) rfl rfl rfl rfl (Nat.le_of_ble_eq_true rfl) dX2_goOn_188 ?_
    exact v_vret (pc := 191) hr (Nat.le_refl _) (Nat.le_refl _) dX2_goOn_191 (pV_mk (hC_c (congrArg (put S b) (by unfold cWk; rw [hkk]; rw [if_neg (by rw [hl]; decide), if_neg (by rw [hl]; decide), if_neg (by rw [hl]; decide), if_neg (by rw [hl]; decide)]))))

def cMv (M : ST) (c : Nat → Int32) (t : Nat) : Nat → Int32 :=
  if c (18 * t + 5) = nI 1 ∧ ¬ c (18 * t + 2) < M 525 t then cClo M c t (nI 2) else if c (18 * t + 2) = M 522 t then cClo M c t (nI 0) else cWk M c t
set_option maxHeartbeats 4000000 in
theorem ct_X2_turn {G : GT} {l : Launch} {N : Nat} {S : ST} {c : Nat → Int32} {b t : Nat} {M : ST} (hb : RB b) (htm : t < mN M) (hT : TR S M) (hM : MI M) (hc : c (18 * t) = nI 1) (h2 : inN (c (18 * t + 2)) 6) (hkl : nn (c (18 * t + 2)) ≤ nn (M 522 t)) (h5 : inN (c 145) 60) (h9 : inN (c (18 * t + 9)) 8) (hu : UB M c) (hg : BG c) (hN : 513 ≤ N) : CTv G l yX2_turn cX2_turn 2 none 6 [.ref (gZ G + b), .int (nI t)] N (put S b c) (put S b (cMv M c t)) := by
  have hbl := hb.le
  have hbg := hb.ge
  have h1n := hM.2.1
  have h8n := hM.n
  obtain ⟨n, hn⟩ : ∃ n, mN M = n := ⟨_, rfl⟩
  have hnE : S 1 0 = nI n := by rw [hT.n, ← hn]; exact hM.1.1
  rw [hn] at h1n h8n
  have ht : t < 8 := by omega
  refine CT.mk "ScopeTasks$Run" [(0, .ref (gZ G + b)), (1, .int (nI t))] rfl (by decide) rfl (Nat.le_of_ble_eq_true rfl) ?_
  intro x hR hl hr hnm
  refine v_aload_n (pc := 0) 0 dX2_turn_0 rfl rfl ?_
  refine gX2_30 (pc := 1) hb hN dX2_turn_1 ?_
  refine v_iload_n (pc := 4) 1 dX2_turn_4 rfl rfl ?_
  refine c_callVi (pc := 5) (st := []) (ci := 6) (ct_get7 (S := S) (b := b) (t := t) (c := c) hb (by omega) (by omega)) kVX2_103 kDX2_103 (rm_ok hR (Nat.le_of_ble_eq_true rfl) (Nat.le_of_ble_eq_true rfl)) ⟨Nat.zero_le _, Nat.zero_le _⟩ (by omega) ((BC_run hb (j := 7) (by decide)) G _).1 rfl rfl rfl rfl (Nat.le_of_ble_eq_true rfl) dX2_turn_5 ?_
  refine v_if_eqB (pc := 8) 41 dX2_turn_8 (by decide) (fun c1 => ?_) (fun c1 => ?_)
  · skip
    refine v_aload_n (pc := 41) 0 dX2_turn_41 rfl rfl ?_
    refine gX2_37 (pc := 42) hb hN dX2_turn_42 ?_
    refine v_iload_n (pc := 45) 1 dX2_turn_45 rfl rfl ?_
    refine c_iald (pc := 46) (k := b + 10) (j := t) (IA_run8 hb (by decide) (by decide) (by decide)) (by omega) rfl (by omega) (by decide) dX2_turn_46 ?_
    refine v_topi (v := c (18 * t + 2)) (pr_10 (by omega)) ?_
    refine v_aload_n (pc := 47) 0 dX2_turn_47 rfl rfl ?_
    refine gX2_3 (pc := 48) hb hN dX2_turn_48 ?_
    refine gX2_107 (pc := 51) hN dX2_turn_51 ?_
    refine gX2_161 (pc := 54) TB_1 hN dX2_turn_54 ?_
    refine v_iload_n (pc := 57) 1 dX2_turn_57 rfl rfl ?_
    refine c_iald (pc := 58) (k := 1 + 2) (j := t) (IA_tree8 TB_1 (by decide)) (by omega) rfl (by omega) (by decide) dX2_turn_58 ?_
    refine v_topi (v := M 522 t) ((congrFun (put_ne (by omega)) _).trans (hT.len htm)) ?_
    refine v_ic_ne (pc := 59) 71 dX2_turn_59 (by decide) (fun c2 => ?_) (fun c2 => ?_)
    · skip
      refine v_aload_n (pc := 71) 0 dX2_turn_71 rfl rfl ?_
      refine v_iload_n (pc := 72) 1 dX2_turn_72 rfl rfl ?_
      refine c_callVv (pc := 73) (st := []) (ci := 2) (ct_X2_goOn (S := S) (b := b) (t := t) (c := c) (M := M) hb htm hT hM hc h2 (Nat.lt_of_le_of_ne hkl (fun z => c2 (by rw [h2.1, z, ← (hM.2.2.2 t htm).1]))) h5 h9 hu hg (by omega)) kVX2_164 kDX2_164 (rm_ok hR (Nat.le_of_ble_eq_true rfl) (Nat.le_of_ble_eq_true rfl)) ⟨Nat.zero_le _, Nat.zero_le _⟩ (by omega) (hC_run (j := 0) hb (by decide) rfl) rfl rfl rfl rfl (Nat.le_of_ble_eq_true rfl) dX2_turn_73 ?_
      exact v_vret (pc := 76) hr (Nat.le_refl _) (Nat.le_refl _) dX2_turn_76 (pV_mk (hC_c (congrArg (put S b) (by unfold cMv; rw [if_neg (fun z => c1 z.1), if_neg c2]))))
    · skip
      refine v_aload_n (pc := 62) 0 dX2_turn_62 rfl rfl ?_
      refine v_iload_n (pc := 63) 1 dX2_turn_63 rfl rfl ?_
      refine v_iconst (pc := 64) (nI 0) dX2_turn_64 (by decide) ?_
      refine c_callVv (pc := 65) (st := []) (ci := 2) (ct_X2_close (S := S) (b := b) (t := t) (w := nI 0) (c := c) (M := M) hb (by omega) hc h5 h9 hT hM hu (by omega)) kVX2_155 kDX2_155 (rm_ok hR (Nat.le_of_ble_eq_true rfl) (Nat.le_of_ble_eq_true rfl)) ⟨Nat.zero_le _, Nat.zero_le _⟩ (by omega) (hC_run (j := 0) hb (by decide) rfl) rfl rfl rfl rfl (Nat.le_of_ble_eq_true rfl) dX2_turn_65 ?_
      refine v_goto (pc := 68) 76 dX2_turn_68 (by decide) ?_
      exact v_vret (pc := 76) hr (Nat.le_refl _) (Nat.le_refl _) dX2_turn_76 (pV_mk (hC_c (congrArg (put S b) (by unfold cMv; rw [if_neg (fun z => c1 z.1), if_pos c2]))))
  · skip
    refine v_aload_n (pc := 11) 0 dX2_turn_11 rfl rfl ?_
    refine gX2_37 (pc := 12) hb hN dX2_turn_12 ?_
    refine v_iload_n (pc := 15) 1 dX2_turn_15 rfl rfl ?_
    refine c_iald (pc := 16) (k := b + 10) (j := t) (IA_run8 hb (by decide) (by decide) (by decide)) (by omega) rfl (by omega) (by decide) dX2_turn_16 ?_
    refine v_topi (v := c (18 * t + 2)) (pr_10 (by omega)) ?_
    refine v_aload_n (pc := 17) 0 dX2_turn_17 rfl rfl ?_
    refine gX2_3 (pc := 18) hb hN dX2_turn_18 ?_
    refine gX2_107 (pc := 21) hN dX2_turn_21 ?_
    refine gX2_158 (pc := 24) TB_1 hN dX2_turn_24 ?_
    refine v_iload_n (pc := 27) 1 dX2_turn_27 rfl rfl ?_
    refine c_iald (pc := 28) (k := 1 + 22) (j := t) (IA_tree8 TB_1 (by decide)) (by omega) rfl (by omega) (by decide) dX2_turn_28 ?_
    refine v_topi (v := M 525 t) ((congrFun (put_ne (by omega)) _).trans (hT.sh htm)) ?_
    refine v_ic_lt (pc := 29) 41 dX2_turn_29 (by decide) (fun c3 => ?_) (fun c3 => ?_)
    · skip
      refine v_aload_n (pc := 41) 0 dX2_turn_41 rfl rfl ?_
      refine gX2_37 (pc := 42) hb hN dX2_turn_42 ?_
      refine v_iload_n (pc := 45) 1 dX2_turn_45 rfl rfl ?_
      refine c_iald (pc := 46) (k := b + 10) (j := t) (IA_run8 hb (by decide) (by decide) (by decide)) (by omega) rfl (by omega) (by decide) dX2_turn_46 ?_
      refine v_topi (v := c (18 * t + 2)) (pr_10 (by omega)) ?_
      refine v_aload_n (pc := 47) 0 dX2_turn_47 rfl rfl ?_
      refine gX2_3 (pc := 48) hb hN dX2_turn_48 ?_
      refine gX2_107 (pc := 51) hN dX2_turn_51 ?_
      refine gX2_161 (pc := 54) TB_1 hN dX2_turn_54 ?_
      refine v_iload_n (pc := 57) 1 dX2_turn_57 rfl rfl ?_
      refine c_iald (pc := 58) (k := 1 + 2) (j := t) (IA_tree8 TB_1 (by decide)) (by omega) rfl (by omega) (by decide) dX2_turn_58 ?_
      refine v_topi (v := M 522 t) ((congrFun (put_ne (by omega)) _).trans (hT.len htm)) ?_
      refine v_ic_ne (pc := 59) 71 dX2_turn_59 (by decide) (fun c4 => ?_) (fun c4 => ?_)
      · skip
        refine v_aload_n (pc := 71) 0 dX2_turn_71 rfl rfl ?_
        refine v_iload_n (pc := 72) 1 dX2_turn_72 rfl rfl ?_
        refine c_callVv (pc := 73) (st := []) (ci := 2) (ct_X2_goOn (S := S) (b := b) (t := t) (c := c) (M := M) hb htm hT hM hc h2 (Nat.lt_of_le_of_ne hkl (fun z => c4 (by rw [h2.1, z, ← (hM.2.2.2 t htm).1]))) h5 h9 hu hg (by omega)) kVX2_164 kDX2_164 (rm_ok hR (Nat.le_of_ble_eq_true rfl) (Nat.le_of_ble_eq_true rfl)) ⟨Nat.zero_le _, Nat.zero_le _⟩ (by omega) (hC_run (j := 0) hb (by decide) rfl) rfl rfl rfl rfl (Nat.le_of_ble_eq_true rfl) dX2_turn_73 ?_
        exact v_vret (pc := 76) hr (Nat.le_refl _) (Nat.le_refl _) dX2_turn_76 (pV_mk (hC_c (congrArg (put S b) (by unfold cMv; rw [if_neg (fun z => z.2 c3), if_neg c4]))))
      · skip
        refine v_aload_n (pc := 62) 0 dX2_turn_62 rfl rfl ?_
        refine v_iload_n (pc := 63) 1 dX2_turn_63 rfl rfl ?_
        refine v_iconst (pc := 64) (nI 0) dX2_turn_64 (by decide) ?_
        refine c_callVv (pc := 65) (st := []) (ci := 2) (ct_X2_close (S := S) (b := b) (t := t) (w := nI 0) (c := c) (M := M) hb (by omega) hc h5 h9 hT hM hu (by omega)) kVX2_155 kDX2_155 (rm_ok hR (Nat.le_of_ble_eq_true rfl) (Nat.le_of_ble_eq_true rfl)) ⟨Nat.zero_le _, Nat.zero_le _⟩ (by omega) (hC_run (j := 0) hb (by decide) rfl) rfl rfl rfl rfl (Nat.le_of_ble_eq_true rfl) dX2_turn_65 ?_
        refine v_goto (pc := 68) 76 dX2_turn_68 (by decide) ?_
        exact v_vret (pc := 76) hr (Nat.le_refl _) (Nat.le_refl _) dX2_turn_76 (pV_mk (hC_c (congrArg (put S b) (by unfold cMv; rw [if_neg (fun z => z.2 c3), if_pos c4]))))
    · skip
      refine v_aload_n (pc := 32) 0 dX2_turn_32 rfl rfl ?_
      refine v_iload_n (pc := 33) 1 dX2_turn_33 rfl rfl ?_
      refine v_iconst (pc := 34) (nI 2) dX2_turn_34 (by decide) ?_
      refine c_callVv (pc := 35) (st := []) (ci := 2) (ct_X2_close (S := S) (b := b) (t := t) (w := nI 2) (c := c) (M := M) hb (by omega) hc h5 h9 hT hM hu (by omega)) kVX2_155 kDX2_155 (rm_ok hR (Nat.le_of_ble_eq_true rfl) (Nat.le_of_ble_eq_true rfl)) ⟨Nat.zero_le _, Nat.zero_le _⟩ (by omega) (hC_run (j := 0) hb (by decide) rfl) rfl rfl rfl rfl (Nat.le_of_ble_eq_true rfl) dX2_turn_35 ?_
      refine v_goto (pc := 38) 76 dX2_turn_38 (by decide) ?_
      exact v_vret (pc := 76) hr (Nat.le_refl _) (Nat.le_refl _) dX2_turn_76 (pV_mk (hC_c (congrArg (put S b) (by unfold cMv; rw [if_pos ⟨c1, c3⟩]))))

