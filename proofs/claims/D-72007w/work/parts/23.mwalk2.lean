set_option maxRecDepth 100000
/-! ScopeTasksModel: walks of the methods over a row, 2 -/
theorem sw_ne {u : Int32} {k : Nat} (h : ¬ u = nI k) (hk : k < 2 ^ 31) : ¬ ((k : Int) == u.toInt) = true := by
  intro z
  have z := eq_of_beq z
  exact h (Int32.toInt_inj.mp (by rw [nI_toInt hk]; exact z.symm))
set_option maxHeartbeats 4000000 in
theorem ct_X3_works {G : GT} {l : Launch} {N : Nat} {S : ST} {g : Nat → Int32} {a t : Nat} (ha : RA a) (hS : MI S) (hI : RI g) (ht : t < 8) (hb : nn (g (18 * t + 2)) < 6) (hN : 535 ≤ N) : CTv G l yX3_works cX3_works 5 none 3 [.ref (gZ G + 513), .ref (gZ G + a), .int (nI t)] N (s1 S a g) (s1 S a (rWk S g t)) := by
  have hal := ha.lt
  have hag := ha.ge
  have hn8 := hS.n
  have hn1 := hS.2.1
  have hb0 := (hI.2 t ht).1.1
  have hbb := hb
  obtain ⟨b, hbn⟩ : ∃ b, nn (g (18 * t + 2)) = b := ⟨_, rfl⟩
  rw [hbn] at hb0 hbb
  have hb1 := nI_nat1 hb0
  refine CT.mk "ScopeTasksModel" [(0, .ref (gZ G + 513)), (1, .ref (gZ G + a)), (2, .int (nI t))] rfl (by decide) rfl (Nat.le_of_ble_eq_true rfl) ?_
  intro x hR hl hr hnm
  refine v_bipush (pc := 0) (nI 18) dX3_works_0 (by decide) ?_
  refine v_iload_n (pc := 2) 2 dX3_works_2 rfl rfl ?_
  refine v_imulN (pc := 3) dX3_works_3 ?_
  refine v_istore_n (pc := 4) (lv' := [(3, .int (nI (18 * t))), (0, .ref (gZ G + 513)), (1, .ref (gZ G + a)), (2, .int (nI t))]) dX3_works_4 rfl (by decide) rfl ?_
  refine v_bipush (pc := 5) (nI 12) dX3_works_5 (by decide) ?_
  refine v_iload_n (pc := 7) 3 dX3_works_7 rfl rfl ?_
  refine v_imulN (pc := 8) dX3_works_8 ?_
  refine v_iconst (pc := 9) (nI 2) dX3_works_9 (by decide) ?_
  refine v_aload_n (pc := 10) 2 dX3_works_10 rfl rfl ?_
  refine v_iload_n (pc := 11) 0 dX3_works_11 rfl rfl ?_
  refine v_iconst (pc := 12) (nI 2) dX3_works_12 (by decide) ?_
  refine v_iaddN (pc := 13) dX3_works_13 ?_
  refine c_iald (pc := 14) (k := a) (j := 18 * t + 2) (IA_row ha) (by omega) rfl (by omega) (by decide) dX3_works_14 ?_
  refine v_topi (v := nI b) ((congrFun (s1_at _ _ _) _).trans hb0) ?_
  refine v_imulN (pc := 15) dX3_works_15 ?_
  refine v_iaddN (pc := 16) dX3_works_16 ?_
  refine v_istore (pc := 17) (lv' := [(4, .int (nI (12 * t + 2 * b))), (3, .int (nI (18 * t))), (0, .ref (gZ G + 513)), (1, .ref (gZ G + a)), (2, .int (nI t))]) dX3_works_17 (by decide) rfl ?_
  refine v_aload_n (pc := 19) 2 dX3_works_19 rfl rfl ?_
  refine gX3_37 (pc := 20) hN dX3_works_20 ?_
  refine v_iload (pc := 23) 0 dX3_works_23 rfl ?_
  refine c_iald (pc := 25) (k := 523) (j := 12 * t + 2 * b) IA_523 (by omega) rfl (by omega) (by decide) dX3_works_25 ?_
  refine v_topi (v := S 523 (12 * t + 2 * b)) (congrFun (s1_ne (by omega)) _) ?_
  by_cases e0 : S 523 (12 * t + 2 * b) = nI 119
  · skip
    refine v_lookup (pc := 26) 68 dX3_works_26 (by decide) (by rw [e0]) (by decide) ?_
    refine v_aload_n (pc := 68) 3 dX3_works_68 rfl rfl ?_
    refine v_iload_n (pc := 69) 1 dX3_works_69 rfl rfl ?_
    refine v_iconst (pc := 70) (nI 3) dX3_works_70 (by decide) ?_
    refine v_iaddN (pc := 71) dX3_works_71 ?_
    refine v_dup2 (pc := 72) dX3_works_72 rfl rfl ?_
    refine c_iald (pc := 73) (k := a) (j := 18 * t + 3) (IA_row ha) (by omega) rfl (by omega) (by decide) dX3_works_73 ?_
    refine v_topi (v := g (18 * t + 3)) (congrFun (s1_at _ _ _) _) ?_
    refine v_iconst (pc := 74) (nI 1) dX3_works_74 (by decide) ?_
    refine v_iadd (pc := 75) dX3_works_75 ?_
    refine c_iast (pc := 76) (k := a) (j := 18 * t + 3) (IA_row ha) (by omega) rfl (by omega) (by decide) dX3_works_76 ?_
    refine v_S (s2_s1 _ _ _ _ _) ?_
    refine v_aload_n (pc := 77) 3 dX3_works_77 rfl rfl ?_
    refine v_iload_n (pc := 78) 1 dX3_works_78 rfl rfl ?_
    refine v_iconst (pc := 79) (nI 3) dX3_works_79 (by decide) ?_
    refine v_iaddN (pc := 80) dX3_works_80 ?_
    refine c_iald (pc := 81) (k := a) (j := 18 * t + 3) (IA_row ha) (by omega) rfl (by omega) (by decide) dX3_works_81 ?_
    refine v_topi (v := (g (18 * t + 3)) + (nI 1)) ((congrFun (s1_at _ _ _) _).trans pk_us) ?_
    refine v_aload_n (pc := 82) 2 dX3_works_82 rfl rfl ?_
    refine gX3_37 (pc := 83) hN dX3_works_83 ?_
    refine v_iload (pc := 86) 0 dX3_works_86 rfl ?_
    refine v_iconst (pc := 88) (nI 1) dX3_works_88 (by decide) ?_
    refine v_iaddN (pc := 89) dX3_works_89 ?_
    refine c_iald (pc := 90) (k := 523) (j := 12 * t + 2 * b + 1) IA_523 (by omega) rfl (by omega) (by decide) dX3_works_90 ?_
    refine v_topi (v := S 523 (12 * t + 2 * b + 1)) (congrFun (s1_ne (by omega)) _) ?_
    refine v_ic_ne (pc := 91) 194 dX3_works_91 (by decide) (fun c1 => ?_) (fun c1 => ?_)
    · skip
      exact v_vret (pc := 194) hr (Nat.le_refl _) (Nat.le_refl _) dX3_works_194 (pV_mk (hC_c (congrArg (s1 S a) (by unfold rWk; rw [hbn, if_pos e0, if_neg c1]))))
    · skip
      refine v_aload_n (pc := 94) 3 dX3_works_94 rfl rfl ?_
      refine v_iload_n (pc := 95) 1 dX3_works_95 rfl rfl ?_
      refine v_iconst (pc := 96) (nI 3) dX3_works_96 (by decide) ?_
      refine v_iaddN (pc := 97) dX3_works_97 ?_
      refine v_iconst (pc := 98) (nI 0) dX3_works_98 (by decide) ?_
      refine c_iast (pc := 99) (k := a) (j := 18 * t + 3) (IA_row ha) (by omega) rfl (by omega) (by decide) dX3_works_99 ?_
      refine v_S (s2_s1 _ _ _ _ _) ?_
      refine v_aload_n (pc := 100) 3 dX3_works_100 rfl rfl ?_
      refine v_iload_n (pc := 101) 1 dX3_works_101 rfl rfl ?_
      refine v_iconst (pc := 102) (nI 2) dX3_works_102 (by decide) ?_
      refine v_iaddN (pc := 103) dX3_works_103 ?_
      refine v_dup2 (pc := 104) dX3_works_104 rfl rfl ?_
      refine c_iald (pc := 105) (k := a) (j := 18 * t + 2) (IA_row ha) (by omega) rfl (by omega) (by decide) dX3_works_105 ?_
      refine v_topi (v := nI b) ((congrFun (s1_at _ _ _) _).trans ((pk_un (by omega)).trans ((pk_un (by omega)).trans hb0))) ?_
      refine v_iconst (pc := 106) (nI 1) dX3_works_106 (by decide) ?_
      refine v_iaddN (pc := 107) dX3_works_107 ?_
      refine c_iast (pc := 108) (k := a) (j := 18 * t + 2) (IA_row ha) (by omega) rfl (by omega) (by decide) dX3_works_108 ?_
      refine v_S (s2_s1 _ _ _ _ _) ?_
      refine v_goto (pc := 109) 194 dX3_works_109 (by decide) ?_
      exact v_vret (pc := 194) hr (Nat.le_refl _) (Nat.le_refl _) dX3_works_194 (pV_mk (hC_c (congrArg (s1 S a) (by unfold rWk; rw [hbn, if_pos e0, if_pos c1, hb1]))))
  · skip
    by_cases e1 : S 523 (12 * t + 2 * b) = nI 98
    · skip
      refine v_lookup (pc := 26) 112 dX3_works_26 (by decide) (by rw [e1]) (by decide) ?_
      refine v_aload_n (pc := 112) 3 dX3_works_112 rfl rfl ?_
      refine v_iload_n (pc := 113) 1 dX3_works_113 rfl rfl ?_
      refine v_iconst (pc := 114) (nI 2) dX3_works_114 (by decide) ?_
      refine v_iaddN (pc := 115) dX3_works_115 ?_
      refine v_dup2 (pc := 116) dX3_works_116 rfl rfl ?_
      refine c_iald (pc := 117) (k := a) (j := 18 * t + 2) (IA_row ha) (by omega) rfl (by omega) (by decide) dX3_works_117 ?_
      refine v_topi (v := nI b) ((congrFun (s1_at _ _ _) _).trans hb0) ?_
      refine v_iconst (pc := 118) (nI 1) dX3_works_118 (by decide) ?_
      refine v_iaddN (pc := 119) dX3_works_119 ?_
      refine c_iast (pc := 120) (k := a) (j := 18 * t + 2) (IA_row ha) (by omega) rfl (by omega) (by decide) dX3_works_120 ?_
      refine v_S (s2_s1 _ _ _ _ _) ?_
      refine v_aload_n (pc := 121) 2 dX3_works_121 rfl rfl ?_
      refine v_aload_n (pc := 122) 3 dX3_works_122 rfl rfl ?_
      refine v_iload_n (pc := 123) 4 dX3_works_123 rfl rfl ?_
      refine c_callVv (pc := 124) (st := []) (ci := 3) (ct_X3_beginsChild (S := S) (a := a) (t := nI t) (g := upd g (18 * t + 2) (nI (b + 1))) ha hS (hI.up2 ht (by exact inN_nI (by omega) (by decide))) (by omega)) kVX3_180 kDX3_180 (rm_ok hR (Nat.le_of_ble_eq_true rfl) (Nat.le_of_ble_eq_true rfl)) ⟨Nat.zero_le _, Nat.zero_le _⟩ (by omega) (rfl) rfl rfl rfl rfl (Nat.le_of_ble_eq_true rfl) dX3_works_124 ?_
      refine v_goto (pc := 127) 194 dX3_works_127 (by decide) ?_
      exact v_vret (pc := 194) hr (Nat.le_refl _) (Nat.le_refl _) dX3_works_194 (pV_mk (hC_c (congrArg (s1 S a) (by unfold rWk; rw [hbn, if_neg e0, if_pos e1, hb1]))))
    · skip
      by_cases e2 : S 523 (12 * t + 2 * b) = nI 106
      · skip
        refine v_lookup (pc := 26) 130 dX3_works_26 (by decide) (by rw [e2]) (by decide) ?_
        refine v_aload_n (pc := 130) 3 dX3_works_130 rfl rfl ?_
        refine v_iload_n (pc := 131) 1 dX3_works_131 rfl rfl ?_
        refine v_iconst (pc := 132) (nI 2) dX3_works_132 (by decide) ?_
        refine v_iaddN (pc := 133) dX3_works_133 ?_
        refine v_dup2 (pc := 134) dX3_works_134 rfl rfl ?_
        refine c_iald (pc := 135) (k := a) (j := 18 * t + 2) (IA_row ha) (by omega) rfl (by omega) (by decide) dX3_works_135 ?_
        refine v_topi (v := nI b) ((congrFun (s1_at _ _ _) _).trans hb0) ?_
        refine v_aload_n (pc := 136) 2 dX3_works_136 rfl rfl ?_
        refine v_aload_n (pc := 137) 3 dX3_works_137 rfl rfl ?_
        refine v_iload_n (pc := 138) 4 dX3_works_138 rfl rfl ?_
        refine c_callVi (pc := 139) (st := [.int (nI b), .int (nI (18 * t + 2)), .ref (gZ G + a)]) (ci := 3) (ct_X3_isBusy (S := S) (a := a) (t := nI t) (g := g) ha hS (by omega)) kVX3_183 kDX3_183 (rm_ok hR (Nat.le_of_ble_eq_true rfl) (Nat.le_of_ble_eq_true rfl)) ⟨Nat.zero_le _, Nat.zero_le _⟩ (by omega) (rfl) rfl rfl rfl rfl (Nat.le_of_ble_eq_true rfl) dX3_works_139 ?_
        refine v_if_eqB (pc := 142) 149 dX3_works_142 (by decide) (fun c2 => ?_) (fun c2 => ?_)
        · skip
          refine v_iconst (pc := 149) (nI 1) dX3_works_149 (by decide) ?_
          refine v_iaddN (pc := 150) dX3_works_150 ?_
          refine c_iast (pc := 151) (k := a) (j := 18 * t + 2) (IA_row ha) (by omega) rfl (by omega) (by decide) dX3_works_151 ?_
          refine v_S (s2_s1 _ _ _ _ _) ?_
          refine v_goto (pc := 152) 194 dX3_works_152 (by decide) ?_
          exact v_vret (pc := 194) hr (Nat.le_refl _) (Nat.le_refl _) dX3_works_194 (pV_mk (hC_c (congrArg (s1 S a) (by unfold rWk; rw [hbn, if_neg e0, if_neg e1, if_pos e2, if_neg c2, hb1]))))
        · skip
          refine v_iconst (pc := 145) (nI 0) dX3_works_145 (by decide) ?_
          refine v_goto (pc := 146) 150 dX3_works_146 (by decide) ?_
          refine v_iaddN (pc := 150) dX3_works_150 ?_
          refine c_iast (pc := 151) (k := a) (j := 18 * t + 2) (IA_row ha) (by omega) rfl (by omega) (by decide) dX3_works_151 ?_
          refine v_S (s2_s1 _ _ _ _ _) ?_
          refine v_goto (pc := 152) 194 dX3_works_152 (by decide) ?_
          exact v_vret (pc := 194) hr (Nat.le_refl _) (Nat.le_refl _) dX3_works_194 (pV_mk (hC_c (congrArg (s1 S a) (by unfold rWk; rw [hbn, if_neg e0, if_neg e1, if_pos e2, if_pos c2, hb0, nI_add]))))
      · skip
        by_cases e3 : S 523 (12 * t + 2 * b) = nI 120
        · skip
          refine v_lookup (pc := 26) 155 dX3_works_26 (by decide) (by rw [e3]) (by decide) ?_
          refine v_aload_n (pc := 155) 3 dX3_works_155 rfl rfl ?_
          refine v_iload_n (pc := 156) 1 dX3_works_156 rfl rfl ?_
          refine v_iconst (pc := 157) (nI 2) dX3_works_157 (by decide) ?_
          refine v_iaddN (pc := 158) dX3_works_158 ?_
          refine v_dup2 (pc := 159) dX3_works_159 rfl rfl ?_
          refine c_iald (pc := 160) (k := a) (j := 18 * t + 2) (IA_row ha) (by omega) rfl (by omega) (by decide) dX3_works_160 ?_
          refine v_topi (v := nI b) ((congrFun (s1_at _ _ _) _).trans hb0) ?_
          refine v_iconst (pc := 161) (nI 1) dX3_works_161 (by decide) ?_
          refine v_iaddN (pc := 162) dX3_works_162 ?_
          refine c_iast (pc := 163) (k := a) (j := 18 * t + 2) (IA_row ha) (by omega) rfl (by omega) (by decide) dX3_works_163 ?_
          refine v_S (s2_s1 _ _ _ _ _) ?_
          refine v_aload_n (pc := 164) 2 dX3_works_164 rfl rfl ?_
          refine v_aload_n (pc := 165) 3 dX3_works_165 rfl rfl ?_
          refine v_iload_n (pc := 166) 4 dX3_works_166 rfl rfl ?_
          refine c_callVv (pc := 167) (st := []) (ci := 3) (ct_X3_asksChildren (S := S) (a := a) (t := nI t) (g := upd g (18 * t + 2) (nI (b + 1))) ha hS (by omega)) kVX3_169 kDX3_169 (rm_ok hR (Nat.le_of_ble_eq_true rfl) (Nat.le_of_ble_eq_true rfl)) ⟨Nat.zero_le _, Nat.zero_le _⟩ (by omega) (rfl) rfl rfl rfl rfl (Nat.le_of_ble_eq_true rfl) dX3_works_167 ?_
          refine v_goto (pc := 170) 194 dX3_works_170 (by decide) ?_
          exact v_vret (pc := 194) hr (Nat.le_refl _) (Nat.le_refl _) dX3_works_194 (pV_mk (hC_c (congrArg (s1 S a) (by unfold rWk; rw [hbn, if_neg e0, if_neg e1, if_neg e2, if_pos e3, hb1]))))
        · skip
          refine v_lookup (pc := 26) (off := 147) 173 dX3_works_26 (by decide) (by have h98 := sw_ne e1 (by decide); have h106 := sw_ne e2 (by decide); have h119 := sw_ne e0 (by decide); have h120 := sw_ne e3 (by decide); generalize (S 523 (12 * t + 2 * b)).toInt = z at *; simp only [Op.lookupswitch.offset]; simp_all) (by decide) ?_
          refine v_aload_n (pc := 173) 3 dX3_works_173 rfl rfl ?_
          refine v_iload_n (pc := 174) 4 dX3_works_174 rfl rfl ?_
          refine v_aload_n (pc := 175) 2 dX3_works_175 rfl rfl ?_
          refine gX3_37 (pc := 176) hN dX3_works_176 ?_
          refine v_iload (pc := 179) 0 dX3_works_179 rfl ?_
          refine v_iconst (pc := 181) (nI 1) dX3_works_181 (by decide) ?_
          refine v_iaddN (pc := 182) dX3_works_182 ?_
          refine c_iald (pc := 183) (k := 523) (j := 12 * t + 2 * b + 1) IA_523 (by omega) rfl (by omega) (by decide) dX3_works_183 ?_
          refine v_topi (v := S 523 (12 * t + 2 * b + 1)) (congrFun (s1_ne (by omega)) _) ?_
          refine c_callSv (pc := 184) (st := []) (ct_X3_codes (S := S) (a := a) (t := t) (code := S 523 (12 * t + 2 * b + 1)) (g := g) ha (by omega) (hI.2 t ht).2 (by omega)) kVX3_187 kDX3_187 (rm_ok hR (Nat.le_of_ble_eq_true rfl) (Nat.le_of_ble_eq_true rfl)) ⟨Nat.zero_le _, Nat.zero_le _⟩ rfl rfl (Nat.le_of_ble_eq_true rfl) dX3_works_184 ?_
          refine v_aload_n (pc := 187) 2 dX3_works_187 rfl rfl ?_
          refine v_aload_n (pc := 188) 3 dX3_works_188 rfl rfl ?_
          refine v_iload_n (pc := 189) 4 dX3_works_189 rfl rfl ?_
          refine v_iconst (pc := 190) (nI 1) dX3_works_190 (by decide) ?_
          refine c_callVv (pc := 191) (st := []) (ci := 3) (ct_X3_closes (S := S) (a := a) (t := t) (w := nI 1) (g := rCo g t (S 523 (12 * t + 2 * b + 1))) ha hS (RI_rCo hI ht _) (by omega) (by omega)) kVX3_190 kDX3_190 (rm_ok hR (Nat.le_of_ble_eq_true rfl) (Nat.le_of_ble_eq_true rfl)) ⟨Nat.zero_le _, Nat.zero_le _⟩ (by omega) (rfl) rfl rfl rfl rfl (Nat.le_of_ble_eq_true rfl) dX3_works_191 ?_
          exact v_vret (pc := 194) hr (Nat.le_refl _) (Nat.le_refl _) dX3_works_194 (pV_mk (hC_c (congrArg (s1 S a) (by unfold rWk; rw [hbn, if_neg e0, if_neg e1, if_neg e2, if_neg e3]))))

set_option maxHeartbeats 4000000 in
theorem ct_X3_moves {G : GT} {l : Launch} {N : Nat} {S : ST} {g : Nat → Int32} {a t : Nat} (ha : RA a) (hS : MI S) (hI : RI g) (ht : t < mN S) (hle : nn (g (18 * t + 2)) ≤ nn (S 522 t)) (hN : 535 ≤ N) : CTv G l yX3_moves cX3_moves 3 none 4 [.ref (gZ G + 513), .ref (gZ G + a), .int (nI t)] N (s1 S a g) (s1 S a (rMv S g t)) := by
  have hal := ha.lt
  have hag := ha.ge
  have hn8 := hS.n
  have ht8 : t < 8 := by omega
  refine CT.mk "ScopeTasksModel" [(0, .ref (gZ G + 513)), (1, .ref (gZ G + a)), (2, .int (nI t))] rfl (by decide) rfl (Nat.le_of_ble_eq_true rfl) ?_
  intro x hR hl hr hnm
  refine v_aload_n (pc := 0) 1 dX3_moves_0 rfl rfl ?_
  refine v_iload_n (pc := 1) 2 dX3_moves_1 rfl rfl ?_
  refine v_iconst (pc := 2) (nI 5) dX3_moves_2 (by decide) ?_
  refine c_callSi (pc := 3) (st := []) (ct_X3_at (S := S) (a := a) (t := t) (w := 5) (g := g) ha (by omega) (by omega)) kVX3_161 kDX3_161 (rm_ok hR (Nat.le_of_ble_eq_true rfl) (Nat.le_of_ble_eq_true rfl)) ⟨Nat.zero_le _, Nat.zero_le _⟩ rfl rfl (Nat.le_of_ble_eq_true rfl) dX3_moves_3 ?_
  refine v_iconst (pc := 6) (nI 1) dX3_moves_6 (by decide) ?_
  refine v_ic_ne (pc := 7) 35 dX3_moves_7 (by decide) (fun c1 => ?_) (fun c1 => ?_)
  · skip
    refine v_aload_n (pc := 35) 1 dX3_moves_35 rfl rfl ?_
    refine v_iload_n (pc := 36) 2 dX3_moves_36 rfl rfl ?_
    refine v_iconst (pc := 37) (nI 2) dX3_moves_37 (by decide) ?_
    refine c_callSi (pc := 38) (st := []) (ct_X3_at (S := S) (a := a) (t := t) (w := 2) (g := g) ha (by omega) (by omega)) kVX3_161 kDX3_161 (rm_ok hR (Nat.le_of_ble_eq_true rfl) (Nat.le_of_ble_eq_true rfl)) ⟨Nat.zero_le _, Nat.zero_le _⟩ rfl rfl (Nat.le_of_ble_eq_true rfl) dX3_moves_38 ?_
    refine v_aload_n (pc := 41) 0 dX3_moves_41 rfl rfl ?_
    refine gX3_34 (pc := 42) hN dX3_moves_42 ?_
    refine v_iload_n (pc := 45) 2 dX3_moves_45 rfl rfl ?_
    refine c_iald (pc := 46) (k := 522) (j := t) IA_522 (by omega) rfl (by omega) (by decide) dX3_moves_46 ?_
    refine v_topi (v := S 522 t) (congrFun (s1_ne (by omega)) _) ?_
    refine v_ic_ne (pc := 47) 60 dX3_moves_47 (by decide) (fun c2 => ?_) (fun c2 => ?_)
    · skip
      refine v_aload_n (pc := 60) 0 dX3_moves_60 rfl rfl ?_
      refine v_aload_n (pc := 61) 1 dX3_moves_61 rfl rfl ?_
      refine v_iload_n (pc := 62) 2 dX3_moves_62 rfl rfl ?_
      refine c_callVv (pc := 63) (st := []) (ci := 3) (ct_X3_works (S := S) (a := a) (t := t) (g := g) ha hS hI (by omega) (by have a1 := (hI.2 t ht8).1.1; have a2 := hS.2.2.2 t ht; have a3 := a2.2; refine (Nat.lt_or_ge (nn (g (18 * t + 2))) 6).elim id (fun q => absurd ?_ c2); rw [a1, a2.1, show nn (g (18 * t + 2)) = nn (S 522 t) by omega]) (by omega)) kVX3_193 kDX3_193 (rm_ok hR (Nat.le_of_ble_eq_true rfl) (Nat.le_of_ble_eq_true rfl)) ⟨Nat.zero_le _, Nat.zero_le _⟩ (by omega) (rfl) rfl rfl rfl rfl (Nat.le_of_ble_eq_true rfl) dX3_moves_63 ?_
      exact v_vret (pc := 66) hr (Nat.le_refl _) (Nat.le_refl _) dX3_moves_66 (pV_mk (hC_c (congrArg (s1 S a) (by unfold rMv; rw [if_neg (fun z => c1 z.1), if_neg c2]))))
    · skip
      refine v_aload_n (pc := 50) 0 dX3_moves_50 rfl rfl ?_
      refine v_aload_n (pc := 51) 1 dX3_moves_51 rfl rfl ?_
      refine v_iload_n (pc := 52) 2 dX3_moves_52 rfl rfl ?_
      refine v_iconst (pc := 53) (nI 0) dX3_moves_53 (by decide) ?_
      refine c_callVv (pc := 54) (st := []) (ci := 3) (ct_X3_closes (S := S) (a := a) (t := t) (w := nI 0) (g := g) ha hS hI (by omega) (by omega)) kVX3_190 kDX3_190 (rm_ok hR (Nat.le_of_ble_eq_true rfl) (Nat.le_of_ble_eq_true rfl)) ⟨Nat.zero_le _, Nat.zero_le _⟩ (by omega) (rfl) rfl rfl rfl rfl (Nat.le_of_ble_eq_true rfl) dX3_moves_54 ?_
      refine v_goto (pc := 57) 66 dX3_moves_57 (by decide) ?_
      exact v_vret (pc := 66) hr (Nat.le_refl _) (Nat.le_refl _) dX3_moves_66 (pV_mk (hC_c (congrArg (s1 S a) (by unfold rMv; rw [if_neg (fun z => c1 z.1), if_pos c2]))))
  · skip
    refine v_aload_n (pc := 10) 1 dX3_moves_10 rfl rfl ?_
    refine v_iload_n (pc := 11) 2 dX3_moves_11 rfl rfl ?_
    refine v_iconst (pc := 12) (nI 2) dX3_moves_12 (by decide) ?_
    refine c_callSi (pc := 13) (st := []) (ct_X3_at (S := S) (a := a) (t := t) (w := 2) (g := g) ha (by omega) (by omega)) kVX3_161 kDX3_161 (rm_ok hR (Nat.le_of_ble_eq_true rfl) (Nat.le_of_ble_eq_true rfl)) ⟨Nat.zero_le _, Nat.zero_le _⟩ rfl rfl (Nat.le_of_ble_eq_true rfl) dX3_moves_13 ?_
    refine v_aload_n (pc := 16) 0 dX3_moves_16 rfl rfl ?_
    refine gX3_43 (pc := 17) hN dX3_moves_17 ?_
    refine v_iload_n (pc := 20) 2 dX3_moves_20 rfl rfl ?_
    refine c_iald (pc := 21) (k := 525) (j := t) IA_525 (by omega) rfl (by omega) (by decide) dX3_moves_21 ?_
    refine v_topi (v := S 525 t) (congrFun (s1_ne (by omega)) _) ?_
    refine v_ic_lt (pc := 22) 35 dX3_moves_22 (by decide) (fun c3 => ?_) (fun c3 => ?_)
    · skip
      refine v_aload_n (pc := 35) 1 dX3_moves_35 rfl rfl ?_
      refine v_iload_n (pc := 36) 2 dX3_moves_36 rfl rfl ?_
      refine v_iconst (pc := 37) (nI 2) dX3_moves_37 (by decide) ?_
      refine c_callSi (pc := 38) (st := []) (ct_X3_at (S := S) (a := a) (t := t) (w := 2) (g := g) ha (by omega) (by omega)) kVX3_161 kDX3_161 (rm_ok hR (Nat.le_of_ble_eq_true rfl) (Nat.le_of_ble_eq_true rfl)) ⟨Nat.zero_le _, Nat.zero_le _⟩ rfl rfl (Nat.le_of_ble_eq_true rfl) dX3_moves_38 ?_
      refine v_aload_n (pc := 41) 0 dX3_moves_41 rfl rfl ?_
      refine gX3_34 (pc := 42) hN dX3_moves_42 ?_
      refine v_iload_n (pc := 45) 2 dX3_moves_45 rfl rfl ?_
      refine c_iald (pc := 46) (k := 522) (j := t) IA_522 (by omega) rfl (by omega) (by decide) dX3_moves_46 ?_
      refine v_topi (v := S 522 t) (congrFun (s1_ne (by omega)) _) ?_
      refine v_ic_ne (pc := 47) 60 dX3_moves_47 (by decide) (fun c4 => ?_) (fun c4 => ?_)
      · skip
        refine v_aload_n (pc := 60) 0 dX3_moves_60 rfl rfl ?_
        refine v_aload_n (pc := 61) 1 dX3_moves_61 rfl rfl ?_
        refine v_iload_n (pc := 62) 2 dX3_moves_62 rfl rfl ?_
        refine c_callVv (pc := 63) (st := []) (ci := 3) (ct_X3_works (S := S) (a := a) (t := t) (g := g) ha hS hI (by omega) (by have a1 := (hI.2 t ht8).1.1; have a2 := hS.2.2.2 t ht; have a3 := a2.2; refine (Nat.lt_or_ge (nn (g (18 * t + 2))) 6).elim id (fun q => absurd ?_ c4); rw [a1, a2.1, show nn (g (18 * t + 2)) = nn (S 522 t) by omega]) (by omega)) kVX3_193 kDX3_193 (rm_ok hR (Nat.le_of_ble_eq_true rfl) (Nat.le_of_ble_eq_true rfl)) ⟨Nat.zero_le _, Nat.zero_le _⟩ (by omega) (rfl) rfl rfl rfl rfl (Nat.le_of_ble_eq_true rfl) dX3_moves_63 ?_
        exact v_vret (pc := 66) hr (Nat.le_refl _) (Nat.le_refl _) dX3_moves_66 (pV_mk (hC_c (congrArg (s1 S a) (by unfold rMv; rw [if_neg (fun z => z.2 c3), if_neg c4]))))
      · skip
        refine v_aload_n (pc := 50) 0 dX3_moves_50 rfl rfl ?_
        refine v_aload_n (pc := 51) 1 dX3_moves_51 rfl rfl ?_
        refine v_iload_n (pc := 52) 2 dX3_moves_52 rfl rfl ?_
        refine v_iconst (pc := 53) (nI 0) dX3_moves_53 (by decide) ?_
        refine c_callVv (pc := 54) (st := []) (ci := 3) (ct_X3_closes (S := S) (a := a) (t := t) (w := nI 0) (g := g) ha hS hI (by omega) (by omega)) kVX3_190 kDX3_190 (rm_ok hR (Nat.le_of_ble_eq_true rfl) (Nat.le_of_ble_eq_true rfl)) ⟨Nat.zero_le _, Nat.zero_le _⟩ (by omega) (rfl) rfl rfl rfl rfl (Nat.le_of_ble_eq_true rfl) dX3_moves_54 ?_
        refine v_goto (pc := 57) 66 dX3_moves_57 (by decide) ?_
        exact v_vret (pc := 66) hr (Nat.le_refl _) (Nat.le_refl _) dX3_moves_66 (pV_mk (hC_c (congrArg (s1 S a) (by unfold rMv; rw [if_neg (fun z => z.2 c3), if_pos c4]))))
    · skip
      refine v_aload_n (pc := 25) 0 dX3_moves_25 rfl rfl ?_
      refine v_aload_n (pc := 26) 1 dX3_moves_26 rfl rfl ?_
      refine v_iload_n (pc := 27) 2 dX3_moves_27 rfl rfl ?_
      refine v_iconst (pc := 28) (nI 2) dX3_moves_28 (by decide) ?_
      refine c_callVv (pc := 29) (st := []) (ci := 3) (ct_X3_closes (S := S) (a := a) (t := t) (w := nI 2) (g := g) ha hS hI (by omega) (by omega)) kVX3_190 kDX3_190 (rm_ok hR (Nat.le_of_ble_eq_true rfl) (Nat.le_of_ble_eq_true rfl)) ⟨Nat.zero_le _, Nat.zero_le _⟩ (by omega) (rfl) rfl rfl rfl rfl (Nat.le_of_ble_eq_true rfl) dX3_moves_29 ?_
      refine v_goto (pc := 32) 66 dX3_moves_32 (by decide) ?_
      exact v_vret (pc := 66) hr (Nat.le_refl _) (Nat.le_refl _) dX3_moves_66 (pV_mk (hC_c (congrArg (s1 S a) (by unfold rMv; rw [if_pos ⟨c1, c3⟩]))))

theorem rCo_ne {g : Nat → Int32} {p j : Nat} {v : Int32} (h : inN (g (18 * p + 9)) 8) (h1 : j < 18 * p + 9 ∨ 18 * p + 18 ≤ j) : rCo g p v j = g j := by
  unfold rCo
  split
  next c =>
    have := h.2
    have hk : nn (g (18 * p + 9)) < 8 := by rw [h.1] at c; exact (nI_ltI (by omega) (by decide)).mp c
    rw [pk_un (by omega), pk_un (by omega)]
  next => rfl
set_option maxHeartbeats 4000000 in
theorem lp_gv {G : GT} {x : VX} {N : Nat} {Q : State → Prop} {S : ST} {a t p K : Nat} (ha : RA a) (hN : 535 ≤ N) (ht8 : t < 8) (hp8 : p < 8) (hpt : p ≠ t) (hK8 : K ≤ 8) (hR : xR x = RM 3 0 0) : ∀ (m k : Nat) (g : Nat → Int32), k + m = K → RI g → g (18 * t + 9) = nI K → V G x "ScopeTasksModel" cX3_gives 5 Q 43 [(3, .int (nI p)), (0, .ref (gZ G + 513)), (1, .ref (gZ G + a)), (2, .int (nI t))] [] N (hC G (s1 S a (rGvL t p m k g))) 0 0 → V G x "ScopeTasksModel" cX3_gives 5 Q 10 [(4, .int (nI k)), (3, .int (nI p)), (0, .ref (gZ G + 513)), (1, .ref (gZ G + a)), (2, .int (nI t))] [] N (hC G (s1 S a g)) 0 0 := by
  have hal := ha.lt
  have hag := ha.ge
  intro m
  induction m with
  | zero =>
    intro k g hkm hI hK hk
    refine v_iload (pc := 10) 0 dX3_gives_10 rfl ?_
    refine v_aload_n (pc := 12) 3 dX3_gives_12 rfl rfl ?_
    refine v_iload_n (pc := 13) 4 dX3_gives_13 rfl rfl ?_
    refine v_bipush (pc := 14) (nI 9) dX3_gives_14 (by decide) ?_
    refine c_callSi (pc := 16) (st := [.int (nI k)]) (ct_X3_at (S := S) (a := a) (t := t) (w := 9) (g := g) ha (by omega) (by omega)) kVX3_161 kDX3_161 (rm_ok hR (Nat.le_of_ble_eq_true rfl) (Nat.le_of_ble_eq_true rfl)) ⟨Nat.zero_le _, Nat.zero_le _⟩ rfl rfl (Nat.le_of_ble_eq_true rfl) dX3_gives_16 ?_
    refine v_topi (v := nI K) hK ?_
    refine v_ic_geN (pc := 19) 43 (by omega) (by omega) dX3_gives_19 (by decide) (fun c1 => ?_) (fun c1 => ?_)
    · skip
      refine v_sub (lv' := [(3, .int (nI p)), (0, .ref (gZ G + 513)), (1, .ref (gZ G + a)), (2, .int (nI t))]) [1, 2, 3, 4] rfl ?_
      exact hk
    · skip
      exact absurd c1 (by omega)
  | succ m ih =>
    intro k g hkm hI hK hk
    refine v_iload (pc := 10) 0 dX3_gives_10 rfl ?_
    refine v_aload_n (pc := 12) 3 dX3_gives_12 rfl rfl ?_
    refine v_iload_n (pc := 13) 4 dX3_gives_13 rfl rfl ?_
    refine v_bipush (pc := 14) (nI 9) dX3_gives_14 (by decide) ?_
    refine c_callSi (pc := 16) (st := [.int (nI k)]) (ct_X3_at (S := S) (a := a) (t := t) (w := 9) (g := g) ha (by omega) (by omega)) kVX3_161 kDX3_161 (rm_ok hR (Nat.le_of_ble_eq_true rfl) (Nat.le_of_ble_eq_true rfl)) ⟨Nat.zero_le _, Nat.zero_le _⟩ rfl rfl (Nat.le_of_ble_eq_true rfl) dX3_gives_16 ?_
    refine v_topi (v := nI K) hK ?_
    refine v_ic_geN (pc := 19) 43 (by omega) (by omega) dX3_gives_19 (by decide) (fun c1 => ?_) (fun c1 => ?_)
    · skip
      exact absurd c1 (by omega)
    · skip
      refine v_aload_n (pc := 22) 3 dX3_gives_22 rfl rfl ?_
      refine v_iload_n (pc := 23) 1 dX3_gives_23 rfl rfl ?_
      refine v_aload_n (pc := 24) 3 dX3_gives_24 rfl rfl ?_
      refine v_iload_n (pc := 25) 4 dX3_gives_25 rfl rfl ?_
      refine v_bipush (pc := 26) (nI 10) dX3_gives_26 (by decide) ?_
      refine v_iload (pc := 28) 0 dX3_gives_28 rfl ?_
      refine v_iaddN (pc := 30) dX3_gives_30 ?_
      refine c_callSi (pc := 31) (st := [.int (nI p), .ref (gZ G + a)]) (ct_X3_at (S := S) (a := a) (t := t) (w := 10 + k) (g := g) ha (by omega) (by omega)) kVX3_161 kDX3_161 (rm_ok hR (Nat.le_of_ble_eq_true rfl) (Nat.le_of_ble_eq_true rfl)) ⟨Nat.zero_le _, Nat.zero_le _⟩ rfl rfl (Nat.le_of_ble_eq_true rfl) dX3_gives_31 ?_
      refine c_callSv (pc := 34) (st := []) (ct_X3_codes (S := S) (a := a) (t := p) (code := g (18 * t + (10 + k))) (g := g) ha (by omega) (hI.2 p hp8).2 (by omega)) kVX3_187 kDX3_187 (rm_ok hR (Nat.le_of_ble_eq_true rfl) (Nat.le_of_ble_eq_true rfl)) ⟨Nat.zero_le _, Nat.zero_le _⟩ rfl rfl (Nat.le_of_ble_eq_true rfl) dX3_gives_34 ?_
      refine v_iincN (pc := 37) (k := 0) (lv' := [(4, .int (nI (k + 1))), (3, .int (nI p)), (0, .ref (gZ G + 513)), (1, .ref (gZ G + a)), (2, .int (nI t))]) dX3_gives_37 rfl (by decide) rfl ?_
      refine v_goto (pc := 40) 10 dX3_gives_40 (by decide) ?_
      refine v_sub (lv' := [(4, .int (nI (k + 1))), (3, .int (nI p)), (0, .ref (gZ G + 513)), (1, .ref (gZ G + a)), (2, .int (nI t))]) [0, 1, 2, 3, 4] rfl ?_
      exact ih (k + 1) _ (by omega) (RI_rCo hI hp8 _) (by rw [rCo_ne (hI.2 p hp8).2 (by omega)]; exact hK) hk

set_option maxHeartbeats 4000000 in
theorem ct_X3_gives {G : GT} {l : Launch} {N : Nat} {S : ST} {g : Nat → Int32} {a t : Nat} (ha : RA a) (hS : MI S) (hI : RI g) (h0 : 0 < t) (ht : t < mN S) (hN : 535 ≤ N) : CTv G l yX3_gives cX3_gives 5 none 3 [.ref (gZ G + 513), .ref (gZ G + a), .int (nI t)] N (s1 S a g) (s1 S a (rGv S g t)) := by
  have hal := ha.lt
  have hag := ha.ge
  have hpp := hS.2.2.1 t h0 ht
  have hn8 := hS.n
  have hp1 := hpp.1.1
  have hp2 := hpp.2
  generalize hp : nn (S 521 t) = p at hp1 hp2
  have ht8 : t < 8 := by omega
  have hp8 : p < 8 := by omega
  have hI9 := (hI.2 t ht8).2
  refine CT.mk "ScopeTasksModel" [(0, .ref (gZ G + 513)), (1, .ref (gZ G + a)), (2, .int (nI t))] rfl (by decide) rfl (Nat.le_of_ble_eq_true rfl) ?_
  intro x hR hl hr hnm
  refine v_aload_n (pc := 0) 0 dX3_gives_0 rfl rfl ?_
  refine gX3_31 (pc := 1) hN dX3_gives_1 ?_
  refine v_iload_n (pc := 4) 2 dX3_gives_4 rfl rfl ?_
  refine c_iald (pc := 5) (k := 521) (j := t) IA_521 (by omega) rfl (by omega) (by decide) dX3_gives_5 ?_
  refine v_topi (v := nI p) ((congrFun (s1_ne (by omega)) _).trans hp1) ?_
  refine v_istore_n (pc := 6) (lv' := [(3, .int (nI p)), (0, .ref (gZ G + 513)), (1, .ref (gZ G + a)), (2, .int (nI t))]) dX3_gives_6 rfl (by decide) rfl ?_
  refine v_iconst (pc := 7) (nI 0) dX3_gives_7 (by decide) ?_
  refine v_istore (pc := 8) (lv' := [(4, .int (nI 0)), (3, .int (nI p)), (0, .ref (gZ G + 513)), (1, .ref (gZ G + a)), (2, .int (nI t))]) dX3_gives_8 (by decide) rfl ?_
  refine v_sub (lv' := [(4, .int (nI 0)), (3, .int (nI p)), (0, .ref (gZ G + 513)), (1, .ref (gZ G + a)), (2, .int (nI t))]) [0, 1, 2, 3, 4] rfl ?_
  refine lp_gv ha hN ht8 hp8 (by omega) hI9.2 hR (nn (g (18 * t + 9))) 0 g (by omega) hI hI9.1 ?_
  have hI1 := RI_rGvL (t := t) hp8 (nn (g (18 * t + 9))) 0 g hI
  rw [show rGv S g t = rGv2 S (rGvL t p (nn (g (18 * t + 9))) 0 g) p from by rw [rGv, hp]]
  generalize rGvL t p (nn (g (18 * t + 9))) 0 g = g1 at hI1 ⊢
  refine v_aload_n (pc := 43) 2 dX3_gives_43 rfl rfl ?_
  refine v_iload_n (pc := 44) 0 dX3_gives_44 rfl rfl ?_
  refine v_iconst (pc := 45) (nI 1) dX3_gives_45 (by decide) ?_
  refine c_callSi (pc := 46) (st := []) (ct_X3_isHow (S := S) (a := a) (t := p) (w := nI 1) (g := g1) ha (by omega) (by omega)) kVX3_165 kDX3_165 (rm_ok hR (Nat.le_of_ble_eq_true rfl) (Nat.le_of_ble_eq_true rfl)) ⟨Nat.zero_le _, Nat.zero_le _⟩ rfl rfl (Nat.le_of_ble_eq_true rfl) dX3_gives_46 ?_
  refine v_if_eqB (pc := 49) 73 dX3_gives_49 (by decide) (fun c1 => ?_) (fun c1 => ?_)
  · skip
    refine v_aload_n (pc := 73) 2 dX3_gives_73 rfl rfl ?_
    refine v_iload_n (pc := 74) 0 dX3_gives_74 rfl rfl ?_
    refine v_iconst (pc := 75) (nI 2) dX3_gives_75 (by decide) ?_
    refine c_callSi (pc := 76) (st := []) (ct_X3_isHow (S := S) (a := a) (t := p) (w := nI 2) (g := g1) ha (by omega) (by omega)) kVX3_165 kDX3_165 (rm_ok hR (Nat.le_of_ble_eq_true rfl) (Nat.le_of_ble_eq_true rfl)) ⟨Nat.zero_le _, Nat.zero_le _⟩ rfl rfl (Nat.le_of_ble_eq_true rfl) dX3_gives_76 ?_
    refine v_if_eqB (pc := 79) 106 dX3_gives_79 (by decide) (fun c2 => ?_) (fun c2 => ?_)
    · skip
      exact v_vret (pc := 106) hr (Nat.le_refl _) (Nat.le_refl _) dX3_gives_106 (pV_mk (hC_c (congrArg (s1 S a) (by unfold rGv2; rw [if_neg (fun z => c1 z.1), if_neg (fun z => c2 z.1)]))))
    · skip
      refine v_aload_n (pc := 82) 2 dX3_gives_82 rfl rfl ?_
      refine v_iload_n (pc := 83) 0 dX3_gives_83 rfl rfl ?_
      refine v_iconst (pc := 84) (nI 1) dX3_gives_84 (by decide) ?_
      refine c_callSi (pc := 85) (st := []) (ct_X3_at (S := S) (a := a) (t := p) (w := 1) (g := g1) ha (by omega) (by omega)) kVX3_161 kDX3_161 (rm_ok hR (Nat.le_of_ble_eq_true rfl) (Nat.le_of_ble_eq_true rfl)) ⟨Nat.zero_le _, Nat.zero_le _⟩ rfl rfl (Nat.le_of_ble_eq_true rfl) dX3_gives_85 ?_
      refine v_if_ne (pc := 88) 106 dX3_gives_88 (by decide) (fun c3 => ?_) (fun c3 => ?_)
      · skip
        exact v_vret (pc := 106) hr (Nat.le_refl _) (Nat.le_refl _) dX3_gives_106 (pV_mk (hC_c (congrArg (s1 S a) (by unfold rGv2; rw [if_neg (fun z => c1 z.1), if_neg (fun z => c3 z.2)]))))
      · skip
        refine v_aload_n (pc := 91) 2 dX3_gives_91 rfl rfl ?_
        refine v_bipush (pc := 92) (nI 18) dX3_gives_92 (by decide) ?_
        refine v_iload_n (pc := 94) 0 dX3_gives_94 rfl rfl ?_
        refine v_imulN (pc := 95) dX3_gives_95 ?_
        refine v_iconst (pc := 96) (nI 1) dX3_gives_96 (by decide) ?_
        refine v_iaddN (pc := 97) dX3_gives_97 ?_
        refine v_iconst (pc := 98) (nI 1) dX3_gives_98 (by decide) ?_
        refine c_iast (pc := 99) (k := a) (j := 18 * p + 1) (IA_row ha) (by omega) rfl (by omega) (by decide) dX3_gives_99 ?_
        refine v_S (s2_s1 _ _ _ _ _) ?_
        refine v_aload_n (pc := 100) 1 dX3_gives_100 rfl rfl ?_
        refine v_aload_n (pc := 101) 2 dX3_gives_101 rfl rfl ?_
        refine v_iload_n (pc := 102) 0 dX3_gives_102 rfl rfl ?_
        refine c_callVv (pc := 103) (st := []) (ci := 3) (ct_X3_asksChildren (S := S) (a := a) (t := nI p) (g := upd g1 (18 * p + 1) (nI 1)) ha hS (by omega)) kVX3_169 kDX3_169 (rm_ok hR (Nat.le_of_ble_eq_true rfl) (Nat.le_of_ble_eq_true rfl)) ⟨Nat.zero_le _, Nat.zero_le _⟩ (by omega) (rfl) rfl rfl rfl rfl (Nat.le_of_ble_eq_true rfl) dX3_gives_103 ?_
        exact v_vret (pc := 106) hr (Nat.le_refl _) (Nat.le_refl _) dX3_gives_106 (pV_mk (hC_c (congrArg (s1 S a) (by unfold rGv2; rw [if_neg (fun z => c1 z.1), if_pos ⟨c2, c3⟩]))))
  · skip
    refine v_aload_n (pc := 52) 1 dX3_gives_52 rfl rfl ?_
    refine gX3_145 (pc := 53) hN dX3_gives_53 ?_
    refine v_topi (v := S 513 16) (congrFun (s1_ne (by omega)) _) ?_
    refine v_iload_n (pc := 56) 0 dX3_gives_56 rfl rfl ?_
    refine v_ishr (pc := 57) dX3_gives_57 ?_
    refine v_iconst (pc := 58) (nI 1) dX3_gives_58 (by decide) ?_
    refine v_iand (pc := 59) dX3_gives_59 ?_
    refine v_if_ne (pc := 60) 73 dX3_gives_60 (by decide) (fun c4 => ?_) (fun c4 => ?_)
    · skip
      refine v_aload_n (pc := 73) 2 dX3_gives_73 rfl rfl ?_
      refine v_iload_n (pc := 74) 0 dX3_gives_74 rfl rfl ?_
      refine v_iconst (pc := 75) (nI 2) dX3_gives_75 (by decide) ?_
      refine c_callSi (pc := 76) (st := []) (ct_X3_isHow (S := S) (a := a) (t := p) (w := nI 2) (g := g1) ha (by omega) (by omega)) kVX3_165 kDX3_165 (rm_ok hR (Nat.le_of_ble_eq_true rfl) (Nat.le_of_ble_eq_true rfl)) ⟨Nat.zero_le _, Nat.zero_le _⟩ rfl rfl (Nat.le_of_ble_eq_true rfl) dX3_gives_76 ?_
      refine v_if_eqB (pc := 79) 106 dX3_gives_79 (by decide) (fun c5 => ?_) (fun c5 => ?_)
      · skip
        exact v_vret (pc := 106) hr (Nat.le_refl _) (Nat.le_refl _) dX3_gives_106 (pV_mk (hC_c (congrArg (s1 S a) (by unfold rGv2; rw [if_neg (fun z => c4 z.2), if_neg (fun z => c5 z.1)]))))
      · skip
        refine v_aload_n (pc := 82) 2 dX3_gives_82 rfl rfl ?_
        refine v_iload_n (pc := 83) 0 dX3_gives_83 rfl rfl ?_
        refine v_iconst (pc := 84) (nI 1) dX3_gives_84 (by decide) ?_
        refine c_callSi (pc := 85) (st := []) (ct_X3_at (S := S) (a := a) (t := p) (w := 1) (g := g1) ha (by omega) (by omega)) kVX3_161 kDX3_161 (rm_ok hR (Nat.le_of_ble_eq_true rfl) (Nat.le_of_ble_eq_true rfl)) ⟨Nat.zero_le _, Nat.zero_le _⟩ rfl rfl (Nat.le_of_ble_eq_true rfl) dX3_gives_85 ?_
        refine v_if_ne (pc := 88) 106 dX3_gives_88 (by decide) (fun c6 => ?_) (fun c6 => ?_)
        · skip
          exact v_vret (pc := 106) hr (Nat.le_refl _) (Nat.le_refl _) dX3_gives_106 (pV_mk (hC_c (congrArg (s1 S a) (by unfold rGv2; rw [if_neg (fun z => c4 z.2), if_neg (fun z => c6 z.2)]))))
        · skip
          refine v_aload_n (pc := 91) 2 dX3_gives_91 rfl rfl ?_
          refine v_bipush (pc := 92) (nI 18) dX3_gives_92 (by decide) ?_
          refine v_iload_n (pc := 94) 0 dX3_gives_94 rfl rfl ?_
          refine v_imulN (pc := 95) dX3_gives_95 ?_
          refine v_iconst (pc := 96) (nI 1) dX3_gives_96 (by decide) ?_
          refine v_iaddN (pc := 97) dX3_gives_97 ?_
          refine v_iconst (pc := 98) (nI 1) dX3_gives_98 (by decide) ?_
          refine c_iast (pc := 99) (k := a) (j := 18 * p + 1) (IA_row ha) (by omega) rfl (by omega) (by decide) dX3_gives_99 ?_
          refine v_S (s2_s1 _ _ _ _ _) ?_
          refine v_aload_n (pc := 100) 1 dX3_gives_100 rfl rfl ?_
          refine v_aload_n (pc := 101) 2 dX3_gives_101 rfl rfl ?_
          refine v_iload_n (pc := 102) 0 dX3_gives_102 rfl rfl ?_
          refine c_callVv (pc := 103) (st := []) (ci := 3) (ct_X3_asksChildren (S := S) (a := a) (t := nI p) (g := upd g1 (18 * p + 1) (nI 1)) ha hS (by omega)) kVX3_169 kDX3_169 (rm_ok hR (Nat.le_of_ble_eq_true rfl) (Nat.le_of_ble_eq_true rfl)) ⟨Nat.zero_le _, Nat.zero_le _⟩ (by omega) (rfl) rfl rfl rfl rfl (Nat.le_of_ble_eq_true rfl) dX3_gives_103 ?_
          exact v_vret (pc := 106) hr (Nat.le_refl _) (Nat.le_refl _) dX3_gives_106 (pV_mk (hC_c (congrArg (s1 S a) (by unfold rGv2; rw [if_neg (fun z => c4 z.2), if_pos ⟨c5, c6⟩]))))
    · skip
      refine v_aload_n (pc := 63) 1 dX3_gives_63 rfl rfl ?_
      refine v_aload_n (pc := 64) 2 dX3_gives_64 rfl rfl ?_
      refine v_iload_n (pc := 65) 0 dX3_gives_65 rfl rfl ?_
      refine v_iconst (pc := 66) (nI 1) dX3_gives_66 (by decide) ?_
      refine c_callVv (pc := 67) (st := []) (ci := 3) (ct_X3_closes (S := S) (a := a) (t := p) (w := nI 1) (g := g1) ha hS hI1 (by omega) (by omega)) kVX3_190 kDX3_190 (rm_ok hR (Nat.le_of_ble_eq_true rfl) (Nat.le_of_ble_eq_true rfl)) ⟨Nat.zero_le _, Nat.zero_le _⟩ (by omega) (rfl) rfl rfl rfl rfl (Nat.le_of_ble_eq_true rfl) dX3_gives_67 ?_
      refine v_goto (pc := 70) 106 dX3_gives_70 (by decide) ?_
      exact v_vret (pc := 106) hr (Nat.le_refl _) (Nat.le_refl _) dX3_gives_106 (pV_mk (hC_c (congrArg (s1 S a) (by unfold rGv2; rw [if_pos ⟨c1, c4⟩]))))

set_option maxHeartbeats 4000000 in
theorem ct_X3_cleansUp {G : GT} {l : Launch} {N : Nat} {S : ST} {g : Nat → Int32} {a t : Nat} (ha : RA a) (hS : MI S) (hI : RI g) (ht : t < mN S) (hN : 535 ≤ N) : CTv G l yX3_cleansUp cX3_cleansUp 4 none 4 [.ref (gZ G + 513), .ref (gZ G + a), .int (nI t)] N (s1 S a g) (s1 S a (rCl S g t)) := by
  have hal := ha.lt
  have hag := ha.ge
  have hn8 := hS.n
  have ht8 : t < 8 := by omega
  refine CT.mk "ScopeTasksModel" [(0, .ref (gZ G + 513)), (1, .ref (gZ G + a)), (2, .int (nI t))] rfl (by decide) rfl (Nat.le_of_ble_eq_true rfl) ?_
  intro x hR hl hr hnm
  refine v_aload_n (pc := 0) 1 dX3_cleansUp_0 rfl rfl ?_
  refine v_iload_n (pc := 1) 2 dX3_cleansUp_1 rfl rfl ?_
  refine v_bipush (pc := 2) (nI 6) dX3_cleansUp_2 (by decide) ?_
  refine c_callSi (pc := 4) (st := []) (ct_X3_at (S := S) (a := a) (t := t) (w := 6) (g := g) ha (by omega) (by omega)) kVX3_161 kDX3_161 (rm_ok hR (Nat.le_of_ble_eq_true rfl) (Nat.le_of_ble_eq_true rfl)) ⟨Nat.zero_le _, Nat.zero_le _⟩ rfl rfl (Nat.le_of_ble_eq_true rfl) dX3_cleansUp_4 ?_
  refine v_aload_n (pc := 7) 0 dX3_cleansUp_7 rfl rfl ?_
  refine gX3_46 (pc := 8) hN dX3_cleansUp_8 ?_
  refine v_iload_n (pc := 11) 2 dX3_cleansUp_11 rfl rfl ?_
  refine c_iald (pc := 12) (k := 526) (j := t) IA_526 (by omega) rfl (by omega) (by decide) dX3_cleansUp_12 ?_
  refine v_topi (v := S 526 t) (congrFun (s1_ne (by omega)) _) ?_
  refine v_ic_ge (pc := 13) 29 dX3_cleansUp_13 (by decide) (fun c1 => ?_) (fun c1 => ?_)
  · skip
    refine v_aload_n (pc := 29) 1 dX3_cleansUp_29 rfl rfl ?_
    refine v_iload_n (pc := 30) 2 dX3_cleansUp_30 rfl rfl ?_
    refine v_bipush (pc := 31) (nI 6) dX3_cleansUp_31 (by decide) ?_
    refine c_callSi (pc := 33) (st := []) (ct_X3_at (S := S) (a := a) (t := t) (w := 6) (g := g) ha (by omega) (by omega)) kVX3_161 kDX3_161 (rm_ok hR (Nat.le_of_ble_eq_true rfl) (Nat.le_of_ble_eq_true rfl)) ⟨Nat.zero_le _, Nat.zero_le _⟩ rfl rfl (Nat.le_of_ble_eq_true rfl) dX3_cleansUp_33 ?_
    refine v_aload_n (pc := 36) 0 dX3_cleansUp_36 rfl rfl ?_
    refine gX3_46 (pc := 37) hN dX3_cleansUp_37 ?_
    refine v_iload_n (pc := 40) 2 dX3_cleansUp_40 rfl rfl ?_
    refine c_iald (pc := 41) (k := 526) (j := t) IA_526 (by omega) rfl (by omega) (by decide) dX3_cleansUp_41 ?_
    refine v_topi (v := S 526 t) (congrFun (s1_ne (by omega)) _) ?_
    refine v_ic_ne (pc := 42) 101 dX3_cleansUp_42 (by decide) (fun c2 => ?_) (fun c2 => ?_)
    · skip
      exact v_vret (pc := 101) hr (Nat.le_refl _) (Nat.le_refl _) dX3_cleansUp_101 (pV_mk (hC_c (congrArg (s1 S a) (by unfold rCl; rw [if_neg (Int32.not_lt.mpr c1)]; unfold rCl1; rw [if_neg c2]))))
    · skip
      refine v_aload_n (pc := 45) 1 dX3_cleansUp_45 rfl rfl ?_
      refine v_bipush (pc := 46) (nI 18) dX3_cleansUp_46 (by decide) ?_
      refine v_iload_n (pc := 48) 2 dX3_cleansUp_48 rfl rfl ?_
      refine v_imulN (pc := 49) dX3_cleansUp_49 ?_
      refine v_iconst (pc := 50) (nI 0) dX3_cleansUp_50 (by decide) ?_
      refine v_iaddN (pc := 51) dX3_cleansUp_51 ?_
      refine v_iconst (pc := 52) (nI 3) dX3_cleansUp_52 (by decide) ?_
      refine c_iast (pc := 53) (k := a) (j := 18 * t) (IA_row ha) (by omega) rfl (by omega) (by decide) dX3_cleansUp_53 ?_
      refine v_S (s2_s1 _ _ _ _ _) ?_
      refine v_aload_n (pc := 54) 1 dX3_cleansUp_54 rfl rfl ?_
      refine v_bipush (pc := 55) (nI 18) dX3_cleansUp_55 (by decide) ?_
      refine v_iload_n (pc := 57) 2 dX3_cleansUp_57 rfl rfl ?_
      refine v_imulN (pc := 58) dX3_cleansUp_58 ?_
      refine v_bipush (pc := 59) (nI 8) dX3_cleansUp_59 (by decide) ?_
      refine v_iaddN (pc := 61) dX3_cleansUp_61 ?_
      refine v_aload_n (pc := 62) 1 dX3_cleansUp_62 rfl rfl ?_
      refine v_sipush (pc := 63) (nI 144) dX3_cleansUp_63 (by decide) ?_
      refine c_iald (pc := 66) (k := a) (j := 144) (IA_row ha) (by omega) rfl (by omega) (by decide) dX3_cleansUp_66 ?_
      refine v_topi (v := g 144) ((congrFun (s1_at _ _ _) _).trans (pk_un (by omega))) ?_
      refine c_iast (pc := 67) (k := a) (j := 18 * t + 8) (IA_row ha) (by omega) rfl (by omega) (by decide) dX3_cleansUp_67 ?_
      refine v_S (s2_s1 _ _ _ _ _) ?_
      refine v_aload_n (pc := 68) 1 dX3_cleansUp_68 rfl rfl ?_
      refine v_iload_n (pc := 69) 2 dX3_cleansUp_69 rfl rfl ?_
      refine v_iconst (pc := 70) (nI 2) dX3_cleansUp_70 (by decide) ?_
      refine c_callSv (pc := 71) (st := []) (ct_X3_traces (S := S) (a := a) (t := nI t) (w := nI 2) (g := upd (upd g (18 * t) (nI 3)) (18 * t + 8) (g 144)) ha (by rw [pk_un (by omega), pk_un (by omega)]; exact hI.1) (by omega)) kVX3_173 kDX3_173 (rm_ok hR (Nat.le_of_ble_eq_true rfl) (Nat.le_of_ble_eq_true rfl)) ⟨Nat.zero_le _, Nat.zero_le _⟩ rfl rfl (Nat.le_of_ble_eq_true rfl) dX3_cleansUp_71 ?_
      refine v_aload_n (pc := 74) 1 dX3_cleansUp_74 rfl rfl ?_
      refine v_iload_n (pc := 75) 2 dX3_cleansUp_75 rfl rfl ?_
      refine v_iconst (pc := 76) (nI 1) dX3_cleansUp_76 (by decide) ?_
      refine c_callSi (pc := 77) (st := []) (ct_X3_at (S := S) (a := a) (t := t) (w := 1) (g := rTr (upd (upd g (18 * t) (nI 3)) (18 * t + 8) (g 144)) (nI t) (nI 2)) ha (by omega) (by omega)) kVX3_161 kDX3_161 (rm_ok hR (Nat.le_of_ble_eq_true rfl) (Nat.le_of_ble_eq_true rfl)) ⟨Nat.zero_le _, Nat.zero_le _⟩ rfl rfl (Nat.le_of_ble_eq_true rfl) dX3_cleansUp_77 ?_
      refine v_istore_n (pc := 80) (lv' := [(3, .int ((rTr (upd (upd g (18 * t) (nI 3)) (18 * t + 8) (g 144)) (nI t) (nI 2)) (18 * t + 1))), (0, .ref (gZ G + 513)), (1, .ref (gZ G + a)), (2, .int (nI t))]) dX3_cleansUp_80 rfl (by decide) rfl ?_
      refine v_iload_n (pc := 81) 3 dX3_cleansUp_81 rfl rfl ?_
      refine v_if_leN (pc := 82) 101 (by omega) dX3_cleansUp_82 (by decide) (fun c3 => ?_) (fun c3 => ?_)
      · skip
        exact v_vret (pc := 101) hr (Nat.le_refl _) (Nat.le_refl _) dX3_cleansUp_101 (pV_mk (hC_c (congrArg (s1 S a) (by unfold rCl; rw [if_neg (Int32.not_lt.mpr c1)]; unfold rCl1; rw [if_pos c2]; unfold rCl2; rw [if_neg (fun z => absurd z.1 (by omega))]))))
      · skip
        refine v_iload_n (pc := 85) 0 dX3_cleansUp_85 rfl rfl ?_
        refine v_iconst (pc := 86) (nI 1) dX3_cleansUp_86 (by decide) ?_
        refine v_ic_eq (pc := 87) 95 dX3_cleansUp_87 (by decide) (fun c4 => ?_) (fun c4 => ?_)
        · skip
          refine v_aload_n (pc := 95) 1 dX3_cleansUp_95 rfl rfl ?_
          refine v_aload_n (pc := 96) 2 dX3_cleansUp_96 rfl rfl ?_
          refine v_iload_n (pc := 97) 3 dX3_cleansUp_97 rfl rfl ?_
          refine c_callVv (pc := 98) (st := []) (ci := 3) (ct_X3_gives (S := S) (a := a) (t := t) (g := rTr (upd (upd g (18 * t) (nI 3)) (18 * t + 8) (g 144)) (nI t) (nI 2)) ha hS (RI_rTr (RI.up (RI.up hI (by omega) (fun q _ => by omega) (fun q _ => by omega)) (by omega) (fun q _ => by omega) (fun q _ => by omega)) _ _) (by omega) (by omega) (by omega)) kVX3_196 kDX3_196 (rm_ok hR (Nat.le_of_ble_eq_true rfl) (Nat.le_of_ble_eq_true rfl)) ⟨Nat.zero_le _, Nat.zero_le _⟩ (by omega) (rfl) rfl rfl rfl rfl (Nat.le_of_ble_eq_true rfl) dX3_cleansUp_98 ?_
          exact v_vret (pc := 101) hr (Nat.le_refl _) (Nat.le_refl _) dX3_cleansUp_101 (pV_mk (hC_c (congrArg (s1 S a) (by unfold rCl; rw [if_neg (Int32.not_lt.mpr c1)]; unfold rCl1; rw [if_pos c2]; unfold rCl2; rw [if_pos ⟨c3, Or.inl c4⟩]))))
        · skip
          refine v_iload_n (pc := 90) 0 dX3_cleansUp_90 rfl rfl ?_
          refine v_iconst (pc := 91) (nI 3) dX3_cleansUp_91 (by decide) ?_
          refine v_ic_ne (pc := 92) 101 dX3_cleansUp_92 (by decide) (fun c5 => ?_) (fun c5 => ?_)
          · skip
            exact v_vret (pc := 101) hr (Nat.le_refl _) (Nat.le_refl _) dX3_cleansUp_101 (pV_mk (hC_c (congrArg (s1 S a) (by unfold rCl; rw [if_neg (Int32.not_lt.mpr c1)]; unfold rCl1; rw [if_pos c2]; unfold rCl2; rw [if_neg (fun z => z.2.elim c4 c5)]))))
          · skip
            refine v_aload_n (pc := 95) 1 dX3_cleansUp_95 rfl rfl ?_
            refine v_aload_n (pc := 96) 2 dX3_cleansUp_96 rfl rfl ?_
            refine v_iload_n (pc := 97) 3 dX3_cleansUp_97 rfl rfl ?_
            refine c_callVv (pc := 98) (st := []) (ci := 3) (ct_X3_gives (S := S) (a := a) (t := t) (g := rTr (upd (upd g (18 * t) (nI 3)) (18 * t + 8) (g 144)) (nI t) (nI 2)) ha hS (RI_rTr (RI.up (RI.up hI (by omega) (fun q _ => by omega) (fun q _ => by omega)) (by omega) (fun q _ => by omega) (fun q _ => by omega)) _ _) (by omega) (by omega) (by omega)) kVX3_196 kDX3_196 (rm_ok hR (Nat.le_of_ble_eq_true rfl) (Nat.le_of_ble_eq_true rfl)) ⟨Nat.zero_le _, Nat.zero_le _⟩ (by omega) (rfl) rfl rfl rfl rfl (Nat.le_of_ble_eq_true rfl) dX3_cleansUp_98 ?_
            exact v_vret (pc := 101) hr (Nat.le_refl _) (Nat.le_refl _) dX3_cleansUp_101 (pV_mk (hC_c (congrArg (s1 S a) (by unfold rCl; rw [if_neg (Int32.not_lt.mpr c1)]; unfold rCl1; rw [if_pos c2]; unfold rCl2; rw [if_pos ⟨c3, Or.inr c5⟩]))))
  · skip
    refine v_aload_n (pc := 16) 1 dX3_cleansUp_16 rfl rfl ?_
    refine v_bipush (pc := 17) (nI 18) dX3_cleansUp_17 (by decide) ?_
    refine v_iload_n (pc := 19) 2 dX3_cleansUp_19 rfl rfl ?_
    refine v_imulN (pc := 20) dX3_cleansUp_20 ?_
    refine v_bipush (pc := 21) (nI 6) dX3_cleansUp_21 (by decide) ?_
    refine v_iaddN (pc := 23) dX3_cleansUp_23 ?_
    refine v_dup2 (pc := 24) dX3_cleansUp_24 rfl rfl ?_
    refine c_iald (pc := 25) (k := a) (j := 18 * t + 6) (IA_row ha) (by omega) rfl (by omega) (by decide) dX3_cleansUp_25 ?_
    refine v_topi (v := g (18 * t + 6)) (congrFun (s1_at _ _ _) _) ?_
    refine v_iconst (pc := 26) (nI 1) dX3_cleansUp_26 (by decide) ?_
    refine v_iadd (pc := 27) dX3_cleansUp_27 ?_
    refine c_iast (pc := 28) (k := a) (j := 18 * t + 6) (IA_row ha) (by omega) rfl (by omega) (by decide) dX3_cleansUp_28 ?_
    refine v_S (s2_s1 _ _ _ _ _) ?_
    refine v_aload_n (pc := 29) 1 dX3_cleansUp_29 rfl rfl ?_
    refine v_iload_n (pc := 30) 2 dX3_cleansUp_30 rfl rfl ?_
    refine v_bipush (pc := 31) (nI 6) dX3_cleansUp_31 (by decide) ?_
    refine c_callSi (pc := 33) (st := []) (ct_X3_at (S := S) (a := a) (t := t) (w := 6) (g := upd g (18 * t + 6) ((g (18 * t + 6)) + (nI 1))) ha (by omega) (by omega)) kVX3_161 kDX3_161 (rm_ok hR (Nat.le_of_ble_eq_true rfl) (Nat.le_of_ble_eq_true rfl)) ⟨Nat.zero_le _, Nat.zero_le _⟩ rfl rfl (Nat.le_of_ble_eq_true rfl) dX3_cleansUp_33 ?_
    refine v_topi (v := (g (18 * t + 6)) + (nI 1)) pk_us ?_
    refine v_aload_n (pc := 36) 0 dX3_cleansUp_36 rfl rfl ?_
    refine gX3_46 (pc := 37) hN dX3_cleansUp_37 ?_
    refine v_iload_n (pc := 40) 2 dX3_cleansUp_40 rfl rfl ?_
    refine c_iald (pc := 41) (k := 526) (j := t) IA_526 (by omega) rfl (by omega) (by decide) dX3_cleansUp_41 ?_
    refine v_topi (v := S 526 t) (congrFun (s1_ne (by omega)) _) ?_
    refine v_ic_ne (pc := 42) 101 dX3_cleansUp_42 (by decide) (fun c6 => ?_) (fun c6 => ?_)
    · skip
      exact v_vret (pc := 101) hr (Nat.le_refl _) (Nat.le_refl _) dX3_cleansUp_101 (pV_mk (hC_c (congrArg (s1 S a) (by unfold rCl; rw [if_pos (Int32.not_le.mp c1)]; unfold rCl1; rw [pk_us]; rw [if_neg c6]))))
    · skip
      refine v_aload_n (pc := 45) 1 dX3_cleansUp_45 rfl rfl ?_
      refine v_bipush (pc := 46) (nI 18) dX3_cleansUp_46 (by decide) ?_
      refine v_iload_n (pc := 48) 2 dX3_cleansUp_48 rfl rfl ?_
      refine v_imulN (pc := 49) dX3_cleansUp_49 ?_
      refine v_iconst (pc := 50) (nI 0) dX3_cleansUp_50 (by decide) ?_
      refine v_iaddN (pc := 51) dX3_cleansUp_51 ?_
      refine v_iconst (pc := 52) (nI 3) dX3_cleansUp_52 (by decide) ?_
      refine c_iast (pc := 53) (k := a) (j := 18 * t) (IA_row ha) (by omega) rfl (by omega) (by decide) dX3_cleansUp_53 ?_
      refine v_S (s2_s1 _ _ _ _ _) ?_
      refine v_aload_n (pc := 54) 1 dX3_cleansUp_54 rfl rfl ?_
      refine v_bipush (pc := 55) (nI 18) dX3_cleansUp_55 (by decide) ?_
      refine v_iload_n (pc := 57) 2 dX3_cleansUp_57 rfl rfl ?_
      refine v_imulN (pc := 58) dX3_cleansUp_58 ?_
      refine v_bipush (pc := 59) (nI 8) dX3_cleansUp_59 (by decide) ?_
      refine v_iaddN (pc := 61) dX3_cleansUp_61 ?_
      refine v_aload_n (pc := 62) 1 dX3_cleansUp_62 rfl rfl ?_
      refine v_sipush (pc := 63) (nI 144) dX3_cleansUp_63 (by decide) ?_
      refine c_iald (pc := 66) (k := a) (j := 144) (IA_row ha) (by omega) rfl (by omega) (by decide) dX3_cleansUp_66 ?_
      refine v_topi (v := g 144) ((congrFun (s1_at _ _ _) _).trans ((pk_un (by omega)).trans (pk_un (by omega)))) ?_
      refine c_iast (pc := 67) (k := a) (j := 18 * t + 8) (IA_row ha) (by omega) rfl (by omega) (by decide) dX3_cleansUp_67 ?_
      refine v_S (s2_s1 _ _ _ _ _) ?_
      refine v_aload_n (pc := 68) 1 dX3_cleansUp_68 rfl rfl ?_
      refine v_iload_n (pc := 69) 2 dX3_cleansUp_69 rfl rfl ?_
      refine v_iconst (pc := 70) (nI 2) dX3_cleansUp_70 (by decide) ?_
      refine c_callSv (pc := 71) (st := []) (ct_X3_traces (S := S) (a := a) (t := nI t) (w := nI 2) (g := upd (upd (upd g (18 * t + 6) ((g (18 * t + 6)) + (nI 1))) (18 * t) (nI 3)) (18 * t + 8) (g 144)) ha (by rw [pk_un (by omega), pk_un (by omega), pk_un (by omega)]; exact hI.1) (by omega)) kVX3_173 kDX3_173 (rm_ok hR (Nat.le_of_ble_eq_true rfl) (Nat.le_of_ble_eq_true rfl)) ⟨Nat.zero_le _, Nat.zero_le _⟩ rfl rfl (Nat.le_of_ble_eq_true rfl) dX3_cleansUp_71 ?_
      refine v_aload_n (pc := 74) 1 dX3_cleansUp_74 rfl rfl ?_
      refine v_iload_n (pc := 75) 2 dX3_cleansUp_75 rfl rfl ?_
      refine v_iconst (pc := 76) (nI 1) dX3_cleansUp_76 (by decide) ?_
      refine c_callSi (pc := 77) (st := []) (ct_X3_at (S := S) (a := a) (t := t) (w := 1) (g := rTr (upd (upd (upd g (18 * t + 6) ((g (18 * t + 6)) + (nI 1))) (18 * t) (nI 3)) (18 * t + 8) (g 144)) (nI t) (nI 2)) ha (by omega) (by omega)) kVX3_161 kDX3_161 (rm_ok hR (Nat.le_of_ble_eq_true rfl) (Nat.le_of_ble_eq_true rfl)) ⟨Nat.zero_le _, Nat.zero_le _⟩ rfl rfl (Nat.le_of_ble_eq_true rfl) dX3_cleansUp_77 ?_
      refine v_istore_n (pc := 80) (lv' := [(3, .int ((rTr (upd (upd (upd g (18 * t + 6) ((g (18 * t + 6)) + (nI 1))) (18 * t) (nI 3)) (18 * t + 8) (g 144)) (nI t) (nI 2)) (18 * t + 1))), (0, .ref (gZ G + 513)), (1, .ref (gZ G + a)), (2, .int (nI t))]) dX3_cleansUp_80 rfl (by decide) rfl ?_
      refine v_iload_n (pc := 81) 3 dX3_cleansUp_81 rfl rfl ?_
      refine v_if_leN (pc := 82) 101 (by omega) dX3_cleansUp_82 (by decide) (fun c7 => ?_) (fun c7 => ?_)
      · skip
        exact v_vret (pc := 101) hr (Nat.le_refl _) (Nat.le_refl _) dX3_cleansUp_101 (pV_mk (hC_c (congrArg (s1 S a) (by unfold rCl; rw [if_pos (Int32.not_le.mp c1)]; unfold rCl1; rw [pk_us]; rw [if_pos c6]; rw [pk_un (by omega)]; unfold rCl2; rw [if_neg (fun z => absurd z.1 (by omega))]))))
      · skip
        refine v_iload_n (pc := 85) 0 dX3_cleansUp_85 rfl rfl ?_
        refine v_iconst (pc := 86) (nI 1) dX3_cleansUp_86 (by decide) ?_
        refine v_ic_eq (pc := 87) 95 dX3_cleansUp_87 (by decide) (fun c8 => ?_) (fun c8 => ?_)
        · skip
          refine v_aload_n (pc := 95) 1 dX3_cleansUp_95 rfl rfl ?_
          refine v_aload_n (pc := 96) 2 dX3_cleansUp_96 rfl rfl ?_
          refine v_iload_n (pc := 97) 3 dX3_cleansUp_97 rfl rfl ?_
          refine c_callVv (pc := 98) (st := []) (ci := 3) (ct_X3_gives (S := S) (a := a) (t := t) (g := rTr (upd (upd (upd g (18 * t + 6) ((g (18 * t + 6)) + (nI 1))) (18 * t) (nI 3)) (18 * t + 8) (g 144)) (nI t) (nI 2)) ha hS (RI_rTr (RI.up (RI.up (RI.up hI (by omega) (fun q _ => by omega) (fun q _ => by omega)) (by omega) (fun q _ => by omega) (fun q _ => by omega)) (by omega) (fun q _ => by omega) (fun q _ => by omega)) _ _) (by omega) (by omega) (by omega)) kVX3_196 kDX3_196 (rm_ok hR (Nat.le_of_ble_eq_true rfl) (Nat.le_of_ble_eq_true rfl)) ⟨Nat.zero_le _, Nat.zero_le _⟩ (by omega) (rfl) rfl rfl rfl rfl (Nat.le_of_ble_eq_true rfl) dX3_cleansUp_98 ?_
          exact v_vret (pc := 101) hr (Nat.le_refl _) (Nat.le_refl _) dX3_cleansUp_101 (pV_mk (hC_c (congrArg (s1 S a) (by unfold rCl; rw [if_pos (Int32.not_le.mp c1)]; unfold rCl1; rw [pk_us]; rw [if_pos c6]; rw [pk_un (by omega)]; unfold rCl2; rw [if_pos ⟨c7, Or.inl c8⟩]))))
        · skip
          refine v_iload_n (pc := 90) 0 dX3_cleansUp_90 rfl rfl ?_
          refine v_iconst (pc := 91) (nI 3) dX3_cleansUp_91 (by decide) ?_
          refine v_ic_ne (pc := 92) 101 dX3_cleansUp_92 (by decide) (fun c9 => ?_) (fun c9 => ?_)
          · skip
            exact v_vret (pc := 101) hr (Nat.le_refl _) (Nat.le_refl _) dX3_cleansUp_101 (pV_mk (hC_c (congrArg (s1 S a) (by unfold rCl; rw [if_pos (Int32.not_le.mp c1)]; unfold rCl1; rw [pk_us]; rw [if_pos c6]; rw [pk_un (by omega)]; unfold rCl2; rw [if_neg (fun z => z.2.elim c8 c9)]))))
          · skip
            refine v_aload_n (pc := 95) 1 dX3_cleansUp_95 rfl rfl ?_
            refine v_aload_n (pc := 96) 2 dX3_cleansUp_96 rfl rfl ?_
            refine v_iload_n (pc := 97) 3 dX3_cleansUp_97 rfl rfl ?_
            refine c_callVv (pc := 98) (st := []) (ci := 3) (ct_X3_gives (S := S) (a := a) (t := t) (g := rTr (upd (upd (upd g (18 * t + 6) ((g (18 * t + 6)) + (nI 1))) (18 * t) (nI 3)) (18 * t + 8) (g 144)) (nI t) (nI 2)) ha hS (RI_rTr (RI.up (RI.up (RI.up hI (by omega) (fun q _ => by omega) (fun q _ => by omega)) (by omega) (fun q _ => by omega) (fun q _ => by omega)) (by omega) (fun q _ => by omega) (fun q _ => by omega)) _ _) (by omega) (by omega) (by omega)) kVX3_196 kDX3_196 (rm_ok hR (Nat.le_of_ble_eq_true rfl) (Nat.le_of_ble_eq_true rfl)) ⟨Nat.zero_le _, Nat.zero_le _⟩ (by omega) (rfl) rfl rfl rfl rfl (Nat.le_of_ble_eq_true rfl) dX3_cleansUp_98 ?_
            exact v_vret (pc := 101) hr (Nat.le_refl _) (Nat.le_refl _) dX3_cleansUp_101 (pV_mk (hC_c (congrArg (s1 S a) (by unfold rCl; rw [if_pos (Int32.not_le.mp c1)]; unfold rCl1; rw [pk_us]; rw [if_pos c6]; rw [pk_un (by omega)]; unfold rCl2; rw [if_pos ⟨c7, Or.inr c9⟩]))))

