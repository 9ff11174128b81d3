set_option maxRecDepth 100000
/-! THE LAW: its loop -/
abbrev lawR : Room := { frames := 16, cells := 601024, slots := 7293034, locals := 628 }
theorem tree_V : GoodIn lw_all (wsV "ScopeTasksLaw" 23 "ScopeTasks" yX0_tree (wsW_ yX0_tree cX0_tree 3 (some .int) [(9, 13, 16, 114)])) := lw_VW q444 q445 q446 q60 q447
theorem tree_D : yX0_tree.cls = "ScopeTasks" ∧ yX0_tree.cls ≠ "java/lang/invoke/MethodHandle" ∧ yX0_tree.cls ≠ "java/lang/invoke/VarHandle" ∧ (parseMethodDescriptor yX0_tree.desc).map (fun d => d.parameters.length) = some 0 := by decide +kernel
set_option maxHeartbeats 16000000 in
theorem lp_law {G : GT} {x : VX} {Q : State → Prop} {sc L : Nat} {ys : Nat → Int32} (hR : xR x = lawR) (hX : va_X sc L ys (xs x) (xs x).heap) (hbl : sc < (xs x).heap.size) (hbZ : sc < gZ G) (hL : L ≤ 256)
    (hQ : ∀ (lv : List (Nat × Value)) (N : Nat) (h : Nat → va_E) (a b : Nat), a ≤ 601024 → b ≤ 7293034 → V G x "ScopeTasksLaw" cL_law 4 Q 551 lv [.int (nI 1)] N h a b) :
    ∀ (m i N a b : Nat) (S : ST), L ≤ i + 4 * m + 3 → i ≤ 260 → 535 ≤ N → a + 2 * m ≤ 601024 → b + 13 * m ≤ 7293034 → RL S S → V G x "ScopeTasksLaw" cL_law 4 Q 18 [(3, .int (nI i)), (0, .ref sc), (1, .ref (gZ G + 0)), (2, .ref (gZ G + 513))] [] N (hC G S) a b := by
  intro m
  induction m with
  | zero =>
    intro i N a b S h1 h2 hN h3 h4 hRL
    refine v_iload_n (pc := 18) 0 dL_law_18 rfl rfl ?_
    refine v_aload_n (pc := 19) 1 dL_law_19 rfl rfl ?_
    refine v_slen (pc := 20) hX hbl hbZ dL_law_20 ?_
    refine v_iconst (pc := 21) (nI 4) dL_law_21 (by decide) ?_
    refine v_isub (pc := 22) dL_law_22 ?_
    refine v_ic_gt (pc := 23) 550 dL_law_23 (by decide) (fun _ => ?_) (fun z => absurd ((law_lt (by omega) (by omega)).mpr (by omega)) z)
    refine v_iconst (pc := 550) (nI 1) dL_law_550 (by decide) ?_
    exact hQ _ _ _ _ _ (by omega) (by omega)
  | succ m ih =>
    intro i N a b S h1 h2 hN h3 h4 hRL
    refine v_iload_n (pc := 18) 0 dL_law_18 rfl rfl ?_
    refine v_aload_n (pc := 19) 1 dL_law_19 rfl rfl ?_
    refine v_slen (pc := 20) hX hbl hbZ dL_law_20 ?_
    refine v_iconst (pc := 21) (nI 4) dL_law_21 (by decide) ?_
    refine v_isub (pc := 22) dL_law_22 ?_
    refine v_ic_gt (pc := 23) 550 dL_law_23 (by decide) (fun _ => ?_) (fun hc => ?_)
    · refine v_iconst (pc := 550) (nI 1) dL_law_550 (by decide) ?_
      exact hQ _ _ _ _ _ (by omega) (by omega)
    have hi4 : i + 4 ≤ L := by
      rcases Nat.lt_or_ge L (i + 4) with z | z
      · exact absurd ((law_lt (by omega) (by omega)).mpr z) hc
      · exact z
    refine v_aload_n (pc := 26) 1 dL_law_26 rfl rfl ?_
    refine v_iload_n (pc := 27) 0 dL_law_27 rfl rfl ?_
    refine v_sld (pc := 28) hX hbl hbZ (by omega) (by omega) dL_law_28 ?_
    refine v_bipush (pc := 29) (nI 31) dL_law_29 (by decide) ?_
    refine v_iand (pc := 31) dL_law_31 ?_
    have hmh := hRL.mh
    rcases sw_in (ys i &&& nI 31) 17 (by decide) with hsw | ⟨js, hjs, hsw⟩
    · refine v_tableOut (pc := 32) 544 dL_law_32 hsw (by decide) ?_
      refine v_iinc (pc := 544) (k := 0) (v := nI (i + 4)) (lv' := [(3, .int (nI (i + 4))), (0, .ref sc), (1, .ref (gZ G + 0)), (2, .ref (gZ G + 513))]) dL_law_544 rfl (nI_add i 4) (by decide) rfl ?_
      refine v_goto (pc := 547) 18 dL_law_547 (by decide) ?_
      exact ih (i + 4) _ _ _ _ (by omega) (by omega) (by omega) (by omega) (by omega) hRL
    rcases Nat.lt_or_ge js 1 with h0s | h0s
    · skip
      obtain rfl : js = 0 := by omega
      refine v_tableIn (pc := 32) 120 dL_law_32 (by rw [hsw]; decide) (by rw [hsw]; decide) (by rw [hsw]; rfl) (by decide) ?_
      refine v_aload_n (pc := 120) 2 dL_law_120 rfl rfl ?_
      refine v_aload_n (pc := 121) 1 dL_law_121 rfl rfl ?_
      refine v_iload_n (pc := 122) 0 dL_law_122 rfl rfl ?_
      refine v_iconst (pc := 123) (nI 1) dL_law_123 (by decide) ?_
      refine v_iaddN (pc := 124) dL_law_124 ?_
      refine v_sld (pc := 125) hX hbl hbZ (by omega) (by omega) dL_law_125 ?_
      refine c_callViE (pc := 126) (st := []) (ci := 0) (rl_type hRL (by omega)) kVL_13 kDL_13 (by rw [hR]; decide) (by rw [hR]; exact ⟨show _ ≤ 601024 by omega, show _ ≤ 7293034 by omega⟩) (by omega) rfl rfl rfl rfl rfl (Nat.le_of_ble_eq_true rfl) dL_law_126 (fun X hXX => ?_)
      obtain ⟨hX1, hX2⟩ := hXX
      have hm := hmh.to (fun k a _ => hX2 k a)
      refine v_aload_n (pc := 129) 3 dL_law_129 rfl rfl ?_
      refine v_aload_n (pc := 130) 1 dL_law_130 rfl rfl ?_
      refine v_iload_n (pc := 131) 0 dL_law_131 rfl rfl ?_
      refine v_iconst (pc := 132) (nI 1) dL_law_132 (by decide) ?_
      refine v_iaddN (pc := 133) dL_law_133 ?_
      refine v_sld (pc := 134) hX hbl hbZ (by omega) (by omega) dL_law_134 ?_
      refine c_callVi (pc := 135) (st := [.int (mTypeV S (ys (i + 1)))]) (ci := 3) (ct_X3_type (S := X) hm.2.2 hN) kVL_17 kDL_17 (by rw [hR]; decide) (by rw [hR]; exact ⟨show _ ≤ 601024 by omega, show _ ≤ 7293034 by omega⟩) (by omega) rfl rfl rfl rfl rfl (Nat.le_of_ble_eq_true rfl) dL_law_135 ?_
      have eX := UN_jn hX2
      refine v_ic_eq (pc := 138) 544 dL_law_138 (by decide) (fun _ => ?_) (fun z => absurd ((congrArg (fun Y => mTypeV Y (ys (i + 1))) eX).trans jn_typeV).symm z)
      refine v_S (show mTypeS X (ys (i + 1)) = jn X (mTypeS S (ys (i + 1))) from (congrArg (fun Y => mTypeS Y (ys (i + 1))) eX).trans jn_typeS) ?_
      refine v_iinc (pc := 544) (k := 0) (v := nI (i + 4)) (lv' := [(3, .int (nI (i + 4))), (0, .ref sc), (1, .ref (gZ G + 0)), (2, .ref (gZ G + 513))]) dL_law_544 rfl (nI_add i 4) (by decide) rfl ?_
      refine v_goto (pc := 547) 18 dL_law_547 (by decide) ?_
      exact ih (i + 4) _ _ _ _ (by omega) (by omega) (by omega) (by omega) (by omega) hX1.join
    rcases Nat.lt_or_ge js 2 with h1s | h1s
    · skip
      obtain rfl : js = 1 := by omega
      refine v_tableIn (pc := 32) 143 dL_law_32 (by rw [hsw]; decide) (by rw [hsw]; decide) (by rw [hsw]; rfl) (by decide) ?_
      refine v_aload_n (pc := 143) 2 dL_law_143 rfl rfl ?_
      refine c_callViE (pc := 144) (st := []) (ci := 0) (rl_clear hRL (by omega)) kVL_18 kDL_18 (by rw [hR]; decide) (by rw [hR]; exact ⟨show _ ≤ 601024 by omega, show _ ≤ 7293034 by omega⟩) (by omega) rfl rfl rfl rfl rfl (Nat.le_of_ble_eq_true rfl) dL_law_144 (fun X hXX => ?_)
      obtain ⟨hX1, hX2⟩ := hXX
      have hm := hmh.to (fun k a _ => hX2 k a)
      refine v_aload_n (pc := 147) 3 dL_law_147 rfl rfl ?_
      refine c_callVi (pc := 148) (st := [.int (S 513 0)]) (ci := 3) (ct_X3_clear (S := X)  hN) kVL_22 kDL_22 (by rw [hR]; decide) (by rw [hR]; exact ⟨show _ ≤ 601024 by omega, show _ ≤ 7293034 by omega⟩) (by omega) rfl rfl rfl rfl rfl (Nat.le_of_ble_eq_true rfl) dL_law_148 ?_
      have eX := UN_jn hX2
      refine v_ic_eq (pc := 151) 544 dL_law_151 (by decide) (fun _ => ?_) (fun z => absurd (congrFun (hX2 513 (by decide)) _).symm z)
      refine v_S (show s2 X 513 0 (nI 0) = jn X (s2 S 513 0 (nI 0)) from (congrArg (fun Y => s2 Y 513 0 (nI 0)) eX).trans (jn_s2 (by decide))) ?_
      refine v_iinc (pc := 544) (k := 0) (v := nI (i + 4)) (lv' := [(3, .int (nI (i + 4))), (0, .ref sc), (1, .ref (gZ G + 0)), (2, .ref (gZ G + 513))]) dL_law_544 rfl (nI_add i 4) (by decide) rfl ?_
      refine v_goto (pc := 547) 18 dL_law_547 (by decide) ?_
      exact ih (i + 4) _ _ _ _ (by omega) (by omega) (by omega) (by omega) (by omega) hX1.join
    rcases Nat.lt_or_ge js 3 with h2s | h2s
    · skip
      obtain rfl : js = 2 := by omega
      refine v_tableIn (pc := 32) 156 dL_law_32 (by rw [hsw]; decide) (by rw [hsw]; decide) (by rw [hsw]; rfl) (by decide) ?_
      refine v_aload_n (pc := 156) 2 dL_law_156 rfl rfl ?_
      refine v_callVW (pc := 157) (mc := 2) (ms := 13) (st := []) (kb := 0) (ci := 0) (ct_X0_tree hRL hN) tree_V tree_D (by rw [hR]; decide) (by rw [hR]; exact ⟨show _ ≤ 601024 by omega, show _ ≤ 7293034 by omega⟩) (by omega) rfl rfl rfl rfl rfl (Nat.le_of_ble_eq_true rfl) dL_law_157 (fun v' N' h' z => ?_)
      obtain ⟨rfl, hN', X, rfl, hX1, hX2⟩ := z
      have hN2 : 535 ≤ N' := by omega
      have hm := hmh.to hX2
      refine v_aload_n (pc := 160) 3 dL_law_160 rfl rfl ?_
      refine c_callVi (pc := 161) (st := [.int (mTreeV S)]) (ci := 3) (ct_X3_tree (S := X) hm.2.2 hN2) kVL_26 kDL_26 (by rw [hR]; decide) (by rw [hR]; exact ⟨show _ ≤ 601024 by omega, show _ ≤ 7293034 by omega⟩) (by omega) rfl rfl rfl rfl rfl (Nat.le_of_ble_eq_true rfl) dL_law_161 ?_
      have eX := UN_j3 hX2
      refine v_ic_eq (pc := 164) 544 dL_law_164 (by decide) (fun _ => ?_) (fun z => absurd ((congrArg mTreeV eX).trans j3_treeV).symm z)
      refine v_S (show mTreeS X = j3 X (mTreeS S) from (congrArg mTreeS eX).trans j3_treeS) ?_
      refine v_iinc (pc := 544) (k := 0) (v := nI (i + 4)) (lv' := [(3, .int (nI (i + 4))), (0, .ref sc), (1, .ref (gZ G + 0)), (2, .ref (gZ G + 513))]) dL_law_544 rfl (nI_add i 4) (by decide) rfl ?_
      refine v_goto (pc := 547) 18 dL_law_547 (by decide) ?_
      exact ih (i + 4) _ _ _ _ (by omega) (by omega) (by omega) (by omega) (by omega) (RL_j3 hX1)
    rcases Nat.lt_or_ge js 4 with h3s | h3s
    · skip
      obtain rfl : js = 3 := by omega
      refine v_tableIn (pc := 32) 169 dL_law_32 (by rw [hsw]; decide) (by rw [hsw]; decide) (by rw [hsw]; rfl) (by decide) ?_
      refine v_aload_n (pc := 169) 2 dL_law_169 rfl rfl ?_
      refine v_aload_n (pc := 170) 1 dL_law_170 rfl rfl ?_
      refine v_iload_n (pc := 171) 0 dL_law_171 rfl rfl ?_
      refine v_iconst (pc := 172) (nI 1) dL_law_172 (by decide) ?_
      refine v_iaddN (pc := 173) dL_law_173 ?_
      refine v_sld (pc := 174) hX hbl hbZ (by omega) (by omega) dL_law_174 ?_
      refine c_callViE (pc := 175) (st := []) (ci := 0) (ct_X0_ticks hRL (by omega)) kVL_27 kDL_27 (by rw [hR]; decide) (by rw [hR]; exact ⟨show _ ≤ 601024 by omega, show _ ≤ 7293034 by omega⟩) (by omega) rfl rfl rfl rfl rfl (Nat.le_of_ble_eq_true rfl) dL_law_175 (fun X hXX => ?_)
      obtain ⟨hX1, hX2⟩ := hXX
      have hm := hmh.to (fun k a _ => hX2 k a)
      refine v_aload_n (pc := 178) 3 dL_law_178 rfl rfl ?_
      refine v_aload_n (pc := 179) 1 dL_law_179 rfl rfl ?_
      refine v_iload_n (pc := 180) 0 dL_law_180 rfl rfl ?_
      refine v_iconst (pc := 181) (nI 1) dL_law_181 (by decide) ?_
      refine v_iaddN (pc := 182) dL_law_182 ?_
      refine v_sld (pc := 183) hX hbl hbZ (by omega) (by omega) dL_law_183 ?_
      refine c_callVi (pc := 184) (st := [.int (mTicksV S (ys (i + 1)))]) (ci := 3) (ct_X3_ticks (S := X) hm.1 hN) kVL_30 kDL_30 (by rw [hR]; decide) (by rw [hR]; exact ⟨show _ ≤ 601024 by omega, show _ ≤ 7293034 by omega⟩) (by omega) rfl rfl rfl rfl rfl (Nat.le_of_ble_eq_true rfl) dL_law_184 ?_
      have eX := UN_jn hX2
      refine v_ic_eq (pc := 187) 544 dL_law_187 (by decide) (fun _ => ?_) (fun z => absurd ((congrArg (fun Y => mTicksV Y (ys (i + 1))) eX).trans jn_ticksV).symm z)
      refine v_S (show mTicksS X (ys (i + 1)) = jn X (mTicksS S (ys (i + 1))) from (congrArg (fun Y => mTicksS Y (ys (i + 1))) eX).trans jn_ticksS) ?_
      refine v_iinc (pc := 544) (k := 0) (v := nI (i + 4)) (lv' := [(3, .int (nI (i + 4))), (0, .ref sc), (1, .ref (gZ G + 0)), (2, .ref (gZ G + 513))]) dL_law_544 rfl (nI_add i 4) (by decide) rfl ?_
      refine v_goto (pc := 547) 18 dL_law_547 (by decide) ?_
      exact ih (i + 4) _ _ _ _ (by omega) (by omega) (by omega) (by omega) (by omega) hX1.join
    rcases Nat.lt_or_ge js 5 with h4s | h4s
    · skip
      obtain rfl : js = 4 := by omega
      refine v_tableIn (pc := 32) 192 dL_law_32 (by rw [hsw]; decide) (by rw [hsw]; decide) (by rw [hsw]; rfl) (by decide) ?_
      refine v_aload_n (pc := 192) 2 dL_law_192 rfl rfl ?_
      refine v_aload_n (pc := 193) 1 dL_law_193 rfl rfl ?_
      refine v_iload_n (pc := 194) 0 dL_law_194 rfl rfl ?_
      refine v_iconst (pc := 195) (nI 1) dL_law_195 (by decide) ?_
      refine v_iaddN (pc := 196) dL_law_196 ?_
      refine v_sld (pc := 197) hX hbl hbZ (by omega) (by omega) dL_law_197 ?_
      refine c_callViE (pc := 198) (st := []) (ci := 0) (ct_X0_asks hRL (by omega)) kVL_31 kDL_31 (by rw [hR]; decide) (by rw [hR]; exact ⟨show _ ≤ 601024 by omega, show _ ≤ 7293034 by omega⟩) (by omega) rfl rfl rfl rfl rfl (Nat.le_of_ble_eq_true rfl) dL_law_198 (fun X hXX => ?_)
      obtain ⟨hX1, hX2⟩ := hXX
      have hm := hmh.to (fun k a _ => hX2 k a)
      refine v_aload_n (pc := 201) 3 dL_law_201 rfl rfl ?_
      refine v_aload_n (pc := 202) 1 dL_law_202 rfl rfl ?_
      refine v_iload_n (pc := 203) 0 dL_law_203 rfl rfl ?_
      refine v_iconst (pc := 204) (nI 1) dL_law_204 (by decide) ?_
      refine v_iaddN (pc := 205) dL_law_205 ?_
      refine v_sld (pc := 206) hX hbl hbZ (by omega) (by omega) dL_law_206 ?_
      refine c_callVi (pc := 207) (st := [.int (mAsksV S (ys (i + 1)))]) (ci := 3) (ct_X3_asks (S := X) hm.1 hN) kVL_34 kDL_34 (by rw [hR]; decide) (by rw [hR]; exact ⟨show _ ≤ 601024 by omega, show _ ≤ 7293034 by omega⟩) (by omega) rfl rfl rfl rfl rfl (Nat.le_of_ble_eq_true rfl) dL_law_207 ?_
      have eX := UN_jn hX2
      refine v_ic_eq (pc := 210) 544 dL_law_210 (by decide) (fun _ => ?_) (fun z => absurd ((congrArg (fun Y => mAsksV Y (ys (i + 1))) eX).trans jn_asksV).symm z)
      refine v_S (show mAsksS X (ys (i + 1)) = jn X (mAsksS S (ys (i + 1))) from (congrArg (fun Y => mAsksS Y (ys (i + 1))) eX).trans jn_asksS) ?_
      refine v_iinc (pc := 544) (k := 0) (v := nI (i + 4)) (lv' := [(3, .int (nI (i + 4))), (0, .ref sc), (1, .ref (gZ G + 0)), (2, .ref (gZ G + 513))]) dL_law_544 rfl (nI_add i 4) (by decide) rfl ?_
      refine v_goto (pc := 547) 18 dL_law_547 (by decide) ?_
      exact ih (i + 4) _ _ _ _ (by omega) (by omega) (by omega) (by omega) (by omega) hX1.join
    rcases Nat.lt_or_ge js 6 with h5s | h5s
    · skip
      obtain rfl : js = 5 := by omega
      refine v_tableIn (pc := 32) 215 dL_law_32 (by rw [hsw]; decide) (by rw [hsw]; decide) (by rw [hsw]; rfl) (by decide) ?_
      refine v_aload_n (pc := 215) 2 dL_law_215 rfl rfl ?_
      refine c_callViE (pc := 216) (st := []) (ci := 0) (ct_X0_undo hRL (by omega)) kVL_35 kDL_35 (by rw [hR]; decide) (by rw [hR]; exact ⟨show _ ≤ 601024 by omega, show _ ≤ 7293034 by omega⟩) (by omega) rfl rfl rfl rfl rfl (Nat.le_of_ble_eq_true rfl) dL_law_216 (fun X hXX => ?_)
      obtain ⟨hX1, hX2⟩ := hXX
      have hm := hmh.to (fun k a _ => hX2 k a)
      refine v_aload_n (pc := 219) 3 dL_law_219 rfl rfl ?_
      refine c_callVi (pc := 220) (st := [.int (mUndoV S)]) (ci := 3) (ct_X3_undo (S := X) hm.1.2.2.1 hm.1.2.2.2 hN) kVL_38 kDL_38 (by rw [hR]; decide) (by rw [hR]; exact ⟨show _ ≤ 601024 by omega, show _ ≤ 7293034 by omega⟩) (by omega) rfl rfl rfl rfl rfl (Nat.le_of_ble_eq_true rfl) dL_law_220 ?_
      have eX := UN_jn hX2
      refine v_ic_eq (pc := 223) 544 dL_law_223 (by decide) (fun _ => ?_) (fun z => absurd ((congrArg (fun Y => mUndoV Y) eX).trans jn_undoV).symm z)
      refine v_S (show mUndoS X = jn X (mUndoS S) from (congrArg (fun Y => mUndoS Y) eX).trans jn_undoS) ?_
      refine v_iinc (pc := 544) (k := 0) (v := nI (i + 4)) (lv' := [(3, .int (nI (i + 4))), (0, .ref sc), (1, .ref (gZ G + 0)), (2, .ref (gZ G + 513))]) dL_law_544 rfl (nI_add i 4) (by decide) rfl ?_
      refine v_goto (pc := 547) 18 dL_law_547 (by decide) ?_
      exact ih (i + 4) _ _ _ _ (by omega) (by omega) (by omega) (by omega) (by omega) hX1.join
    rcases Nat.lt_or_ge js 7 with h6s | h6s
    · skip
      obtain rfl : js = 6 := by omega
      refine v_tableIn (pc := 32) 228 dL_law_32 (by rw [hsw]; decide) (by rw [hsw]; decide) (by rw [hsw]; rfl) (by decide) ?_
      refine v_aload_n (pc := 228) 2 dL_law_228 rfl rfl ?_
      refine v_aload_n (pc := 229) 1 dL_law_229 rfl rfl ?_
      refine v_iload_n (pc := 230) 0 dL_law_230 rfl rfl ?_
      refine v_iconst (pc := 231) (nI 1) dL_law_231 (by decide) ?_
      refine v_iaddN (pc := 232) dL_law_232 ?_
      refine v_sld (pc := 233) hX hbl hbZ (by omega) (by omega) dL_law_233 ?_
      refine v_aload_n (pc := 234) 1 dL_law_234 rfl rfl ?_
      refine v_iload_n (pc := 235) 0 dL_law_235 rfl rfl ?_
      refine v_iconst (pc := 236) (nI 2) dL_law_236 (by decide) ?_
      refine v_iaddN (pc := 237) dL_law_237 ?_
      refine v_sld (pc := 238) hX hbl hbZ (by omega) (by omega) dL_law_238 ?_
      refine c_callVi (pc := 239) (st := []) (ci := 0) (rl_task hRL (by omega)) kVL_39 kDL_39 (by rw [hR]; decide) (by rw [hR]; exact ⟨show _ ≤ 601024 by omega, show _ ≤ 7293034 by omega⟩) (by omega) rfl rfl rfl rfl rfl (Nat.le_of_ble_eq_true rfl) dL_law_239 ?_
      have hm := hmh
      refine v_aload_n (pc := 242) 3 dL_law_242 rfl rfl ?_
      refine v_aload_n (pc := 243) 1 dL_law_243 rfl rfl ?_
      refine v_iload_n (pc := 244) 0 dL_law_244 rfl rfl ?_
      refine v_iconst (pc := 245) (nI 1) dL_law_245 (by decide) ?_
      refine v_iaddN (pc := 246) dL_law_246 ?_
      refine v_sld (pc := 247) hX hbl hbZ (by omega) (by omega) dL_law_247 ?_
      refine v_aload_n (pc := 248) 1 dL_law_248 rfl rfl ?_
      refine v_iload_n (pc := 249) 0 dL_law_249 rfl rfl ?_
      refine v_iconst (pc := 250) (nI 2) dL_law_250 (by decide) ?_
      refine v_iaddN (pc := 251) dL_law_251 ?_
      refine v_sld (pc := 252) hX hbl hbZ (by omega) (by omega) dL_law_252 ?_
      refine c_callVi (pc := 253) (st := [.int (mTaskV S (ys (i + 1)) (ys (i + 2)))]) (ci := 3) (ct_X3_task (S := S) hm.1.1 hN) kVL_43 kDL_43 (by rw [hR]; decide) (by rw [hR]; exact ⟨show _ ≤ 601024 by omega, show _ ≤ 7293034 by omega⟩) (by omega) rfl rfl rfl rfl rfl (Nat.le_of_ble_eq_true rfl) dL_law_253 ?_
      refine v_ic_eq (pc := 256) 544 dL_law_256 (by decide) (fun _ => ?_) (fun z => absurd rfl z)
      refine v_iinc (pc := 544) (k := 0) (v := nI (i + 4)) (lv' := [(3, .int (nI (i + 4))), (0, .ref sc), (1, .ref (gZ G + 0)), (2, .ref (gZ G + 513))]) dL_law_544 rfl (nI_add i 4) (by decide) rfl ?_
      refine v_goto (pc := 547) 18 dL_law_547 (by decide) ?_
      exact ih (i + 4) _ _ _ _ (by omega) (by omega) (by omega) (by omega) (by omega) hRL
    rcases Nat.lt_or_ge js 8 with h7s | h7s
    · skip
      obtain rfl : js = 7 := by omega
      refine v_tableIn (pc := 32) 261 dL_law_32 (by rw [hsw]; decide) (by rw [hsw]; decide) (by rw [hsw]; rfl) (by decide) ?_
      refine v_aload_n (pc := 261) 2 dL_law_261 rfl rfl ?_
      refine v_aload_n (pc := 262) 1 dL_law_262 rfl rfl ?_
      refine v_iload_n (pc := 263) 0 dL_law_263 rfl rfl ?_
      refine v_iconst (pc := 264) (nI 1) dL_law_264 (by decide) ?_
      refine v_iaddN (pc := 265) dL_law_265 ?_
      refine v_sld (pc := 266) hX hbl hbZ (by omega) (by omega) dL_law_266 ?_
      refine v_aload_n (pc := 267) 1 dL_law_267 rfl rfl ?_
      refine v_iload_n (pc := 268) 0 dL_law_268 rfl rfl ?_
      refine v_iconst (pc := 269) (nI 2) dL_law_269 (by decide) ?_
      refine v_iaddN (pc := 270) dL_law_270 ?_
      refine v_sld (pc := 271) hX hbl hbZ (by omega) (by omega) dL_law_271 ?_
      refine c_callVi (pc := 272) (st := []) (ci := 0) (rl_failure hRL (by omega)) kVL_44 kDL_44 (by rw [hR]; decide) (by rw [hR]; exact ⟨show _ ≤ 601024 by omega, show _ ≤ 7293034 by omega⟩) (by omega) rfl rfl rfl rfl rfl (Nat.le_of_ble_eq_true rfl) dL_law_272 ?_
      have hm := hmh
      refine v_aload_n (pc := 275) 3 dL_law_275 rfl rfl ?_
      refine v_aload_n (pc := 276) 1 dL_law_276 rfl rfl ?_
      refine v_iload_n (pc := 277) 0 dL_law_277 rfl rfl ?_
      refine v_iconst (pc := 278) (nI 1) dL_law_278 (by decide) ?_
      refine v_iaddN (pc := 279) dL_law_279 ?_
      refine v_sld (pc := 280) hX hbl hbZ (by omega) (by omega) dL_law_280 ?_
      refine v_aload_n (pc := 281) 1 dL_law_281 rfl rfl ?_
      refine v_iload_n (pc := 282) 0 dL_law_282 rfl rfl ?_
      refine v_iconst (pc := 283) (nI 2) dL_law_283 (by decide) ?_
      refine v_iaddN (pc := 284) dL_law_284 ?_
      refine v_sld (pc := 285) hX hbl hbZ (by omega) (by omega) dL_law_285 ?_
      refine c_callVi (pc := 286) (st := [.int (mFailV S (ys (i + 1)) (ys (i + 2)))]) (ci := 3) (ct_X3_failure (S := S) hm.1.1 hm.1.2.1.1 hN) kVL_47 kDL_47 (by rw [hR]; decide) (by rw [hR]; exact ⟨show _ ≤ 601024 by omega, show _ ≤ 7293034 by omega⟩) (by omega) rfl rfl rfl rfl rfl (Nat.le_of_ble_eq_true rfl) dL_law_286 ?_
      refine v_ic_eq (pc := 289) 544 dL_law_289 (by decide) (fun _ => ?_) (fun z => absurd rfl z)
      refine v_iinc (pc := 544) (k := 0) (v := nI (i + 4)) (lv' := [(3, .int (nI (i + 4))), (0, .ref sc), (1, .ref (gZ G + 0)), (2, .ref (gZ G + 513))]) dL_law_544 rfl (nI_add i 4) (by decide) rfl ?_
      refine v_goto (pc := 547) 18 dL_law_547 (by decide) ?_
      exact ih (i + 4) _ _ _ _ (by omega) (by omega) (by omega) (by omega) (by omega) hRL
    rcases Nat.lt_or_ge js 9 with h8s | h8s
    · skip
      obtain rfl : js = 8 := by omega
      refine v_tableIn (pc := 32) 294 dL_law_32 (by rw [hsw]; decide) (by rw [hsw]; decide) (by rw [hsw]; rfl) (by decide) ?_
      refine v_aload_n (pc := 294) 2 dL_law_294 rfl rfl ?_
      refine v_aload_n (pc := 295) 1 dL_law_295 rfl rfl ?_
      refine v_iload_n (pc := 296) 0 dL_law_296 rfl rfl ?_
      refine v_iconst (pc := 297) (nI 1) dL_law_297 (by decide) ?_
      refine v_iaddN (pc := 298) dL_law_298 ?_
      refine v_sld (pc := 299) hX hbl hbZ (by omega) (by omega) dL_law_299 ?_
      refine v_aload_n (pc := 300) 1 dL_law_300 rfl rfl ?_
      refine v_iload_n (pc := 301) 0 dL_law_301 rfl rfl ?_
      refine v_iconst (pc := 302) (nI 2) dL_law_302 (by decide) ?_
      refine v_iaddN (pc := 303) dL_law_303 ?_
      refine v_sld (pc := 304) hX hbl hbZ (by omega) (by omega) dL_law_304 ?_
      refine c_callVi (pc := 305) (st := []) (ci := 0) (rl_trace hRL (by omega)) kVL_48 kDL_48 (by rw [hR]; decide) (by rw [hR]; exact ⟨show _ ≤ 601024 by omega, show _ ≤ 7293034 by omega⟩) (by omega) rfl rfl rfl rfl rfl (Nat.le_of_ble_eq_true rfl) dL_law_305 ?_
      have hm := hmh
      refine v_aload_n (pc := 308) 3 dL_law_308 rfl rfl ?_
      refine v_aload_n (pc := 309) 1 dL_law_309 rfl rfl ?_
      refine v_iload_n (pc := 310) 0 dL_law_310 rfl rfl ?_
      refine v_iconst (pc := 311) (nI 1) dL_law_311 (by decide) ?_
      refine v_iaddN (pc := 312) dL_law_312 ?_
      refine v_sld (pc := 313) hX hbl hbZ (by omega) (by omega) dL_law_313 ?_
      refine v_aload_n (pc := 314) 1 dL_law_314 rfl rfl ?_
      refine v_iload_n (pc := 315) 0 dL_law_315 rfl rfl ?_
      refine v_iconst (pc := 316) (nI 2) dL_law_316 (by decide) ?_
      refine v_iaddN (pc := 317) dL_law_317 ?_
      refine v_sld (pc := 318) hX hbl hbZ (by omega) (by omega) dL_law_318 ?_
      refine c_callVi (pc := 319) (st := [.int (mTraceV S (ys (i + 1)) (ys (i + 2)))]) (ci := 3) (ct_X3_trace (S := S) hm.1.2.1.1 hN) kVL_51 kDL_51 (by rw [hR]; decide) (by rw [hR]; exact ⟨show _ ≤ 601024 by omega, show _ ≤ 7293034 by omega⟩) (by omega) rfl rfl rfl rfl rfl (Nat.le_of_ble_eq_true rfl) dL_law_319 ?_
      refine v_ic_eq (pc := 322) 544 dL_law_322 (by decide) (fun _ => ?_) (fun z => absurd rfl z)
      refine v_iinc (pc := 544) (k := 0) (v := nI (i + 4)) (lv' := [(3, .int (nI (i + 4))), (0, .ref sc), (1, .ref (gZ G + 0)), (2, .ref (gZ G + 513))]) dL_law_544 rfl (nI_add i 4) (by decide) rfl ?_
      refine v_goto (pc := 547) 18 dL_law_547 (by decide) ?_
      exact ih (i + 4) _ _ _ _ (by omega) (by omega) (by omega) (by omega) (by omega) hRL
    rcases Nat.lt_or_ge js 10 with h9s | h9s
    · skip
      obtain rfl : js = 9 := by omega
      refine v_tableIn (pc := 32) 327 dL_law_32 (by rw [hsw]; decide) (by rw [hsw]; decide) (by rw [hsw]; rfl) (by decide) ?_
      refine v_aload_n (pc := 327) 2 dL_law_327 rfl rfl ?_
      refine v_aload_n (pc := 328) 1 dL_law_328 rfl rfl ?_
      refine v_iload_n (pc := 329) 0 dL_law_329 rfl rfl ?_
      refine v_iconst (pc := 330) (nI 1) dL_law_330 (by decide) ?_
      refine v_iaddN (pc := 331) dL_law_331 ?_
      refine v_sld (pc := 332) hX hbl hbZ (by omega) (by omega) dL_law_332 ?_
      refine v_aload_n (pc := 333) 1 dL_law_333 rfl rfl ?_
      refine v_iload_n (pc := 334) 0 dL_law_334 rfl rfl ?_
      refine v_iconst (pc := 335) (nI 2) dL_law_335 (by decide) ?_
      refine v_iaddN (pc := 336) dL_law_336 ?_
      refine v_sld (pc := 337) hX hbl hbZ (by omega) (by omega) dL_law_337 ?_
      refine c_callViE (pc := 338) (st := []) (ci := 0) (ct_X0_ends hRL (by omega)) kVL_52 kDL_52 (by rw [hR]; decide) (by rw [hR]; exact ⟨show _ ≤ 601024 by omega, show _ ≤ 7293034 by omega⟩) (by omega) rfl rfl rfl rfl rfl (Nat.le_of_ble_eq_true rfl) dL_law_338 (fun X hXX => ?_)
      obtain ⟨hX1, hX2⟩ := hXX
      have hm := hmh.to (fun k a _ => hX2 k a)
      refine v_aload_n (pc := 341) 3 dL_law_341 rfl rfl ?_
      refine v_aload_n (pc := 342) 1 dL_law_342 rfl rfl ?_
      refine v_iload_n (pc := 343) 0 dL_law_343 rfl rfl ?_
      refine v_iconst (pc := 344) (nI 1) dL_law_344 (by decide) ?_
      refine v_iaddN (pc := 345) dL_law_345 ?_
      refine v_sld (pc := 346) hX hbl hbZ (by omega) (by omega) dL_law_346 ?_
      refine v_aload_n (pc := 347) 1 dL_law_347 rfl rfl ?_
      refine v_iload_n (pc := 348) 0 dL_law_348 rfl rfl ?_
      refine v_iconst (pc := 349) (nI 2) dL_law_349 (by decide) ?_
      refine v_iaddN (pc := 350) dL_law_350 ?_
      refine v_sld (pc := 351) hX hbl hbZ (by omega) (by omega) dL_law_351 ?_
      refine c_callVi (pc := 352) (st := [.int (mEndsV S (ys (i + 1)) (ys (i + 2)))]) (ci := 3) (ct_X3_ends_2 (S := X) hm.1.1 hm.1.2.1 hN) kVL_55 kDL_55 (by rw [hR]; decide) (by rw [hR]; exact ⟨show _ ≤ 601024 by omega, show _ ≤ 7293034 by omega⟩) (by omega) rfl rfl rfl rfl rfl (Nat.le_of_ble_eq_true rfl) dL_law_352 ?_
      have eX := UN_jn hX2
      refine v_ic_eq (pc := 355) 544 dL_law_355 (by decide) (fun _ => ?_) (fun z => absurd ((congrArg (fun Y => mEndsV Y (ys (i + 1)) (ys (i + 2))) eX).trans jn_endsV).symm z)
      refine v_S (show mEndsS X (ys (i + 1)) (ys (i + 2)) = jn X (mEndsS S (ys (i + 1)) (ys (i + 2))) from (congrArg (fun Y => mEndsS Y (ys (i + 1)) (ys (i + 2))) eX).trans jn_endsS) ?_
      refine v_iinc (pc := 544) (k := 0) (v := nI (i + 4)) (lv' := [(3, .int (nI (i + 4))), (0, .ref sc), (1, .ref (gZ G + 0)), (2, .ref (gZ G + 513))]) dL_law_544 rfl (nI_add i 4) (by decide) rfl ?_
      refine v_goto (pc := 547) 18 dL_law_547 (by decide) ?_
      exact ih (i + 4) _ _ _ _ (by omega) (by omega) (by omega) (by omega) (by omega) hX1.join
    rcases Nat.lt_or_ge js 11 with h10s | h10s
    · skip
      obtain rfl : js = 10 := by omega
      refine v_tableIn (pc := 32) 360 dL_law_32 (by rw [hsw]; decide) (by rw [hsw]; decide) (by rw [hsw]; rfl) (by decide) ?_
      refine v_aload_n (pc := 360) 2 dL_law_360 rfl rfl ?_
      refine c_callViE (pc := 361) (st := []) (ci := 0) (ct_X0_wellBy hRL (by omega)) kVL_56 kDL_56 (by rw [hR]; decide) (by rw [hR]; exact ⟨show _ ≤ 601024 by omega, show _ ≤ 7293034 by omega⟩) (by omega) rfl rfl rfl rfl rfl (Nat.le_of_ble_eq_true rfl) dL_law_361 (fun X hXX => ?_)
      obtain ⟨hX1, hX2⟩ := hXX
      have hm := hmh.to (fun k a _ => hX2 k a)
      refine v_aload_n (pc := 364) 3 dL_law_364 rfl rfl ?_
      refine c_callVi (pc := 365) (st := [.int (mWbV 60 1 S)]) (ci := 3) (ct_X3_wellBy (S := X) hm.1.1 hN) kVL_59 kDL_59 (by rw [hR]; decide) (by rw [hR]; exact ⟨show _ ≤ 601024 by omega, show _ ≤ 7293034 by omega⟩) (by omega) rfl rfl rfl rfl rfl (Nat.le_of_ble_eq_true rfl) dL_law_365 ?_
      have eX := UN_jn hX2
      refine v_ic_eq (pc := 368) 544 dL_law_368 (by decide) (fun _ => ?_) (fun z => absurd ((congrArg (fun Y => mWbV 60 1 Y) eX).trans (jn_wbV 60 1 S)).symm z)
      refine v_S (show mWellS X = jn X (mWellS S) from (congrArg (fun Y => mWellS Y) eX).trans jn_wellS) ?_
      refine v_iinc (pc := 544) (k := 0) (v := nI (i + 4)) (lv' := [(3, .int (nI (i + 4))), (0, .ref sc), (1, .ref (gZ G + 0)), (2, .ref (gZ G + 513))]) dL_law_544 rfl (nI_add i 4) (by decide) rfl ?_
      refine v_goto (pc := 547) 18 dL_law_547 (by decide) ?_
      exact ih (i + 4) _ _ _ _ (by omega) (by omega) (by omega) (by omega) (by omega) hX1.join
    rcases Nat.lt_or_ge js 12 with h11s | h11s
    · skip
      obtain rfl : js = 11 := by omega
      refine v_tableIn (pc := 32) 373 dL_law_32 (by rw [hsw]; decide) (by rw [hsw]; decide) (by rw [hsw]; rfl) (by decide) ?_
      refine v_aload_n (pc := 373) 2 dL_law_373 rfl rfl ?_
      refine v_aload_n (pc := 374) 1 dL_law_374 rfl rfl ?_
      refine v_iload_n (pc := 375) 0 dL_law_375 rfl rfl ?_
      refine v_iconst (pc := 376) (nI 1) dL_law_376 (by decide) ?_
      refine v_iaddN (pc := 377) dL_law_377 ?_
      refine v_sld (pc := 378) hX hbl hbZ (by omega) (by omega) dL_law_378 ?_
      refine c_callViE (pc := 379) (st := []) (ci := 0) (ct_X0_spares hRL (by omega)) kVL_60 kDL_60 (by rw [hR]; decide) (by rw [hR]; exact ⟨show _ ≤ 601024 by omega, show _ ≤ 7293034 by omega⟩) (by omega) rfl rfl rfl rfl rfl (Nat.le_of_ble_eq_true rfl) dL_law_379 (fun X hXX => ?_)
      obtain ⟨hX1, hX2⟩ := hXX
      have hm := hmh.to (fun k a _ => hX2 k a)
      refine v_aload_n (pc := 382) 3 dL_law_382 rfl rfl ?_
      refine v_aload_n (pc := 383) 1 dL_law_383 rfl rfl ?_
      refine v_iload_n (pc := 384) 0 dL_law_384 rfl rfl ?_
      refine v_iconst (pc := 385) (nI 1) dL_law_385 (by decide) ?_
      refine v_iaddN (pc := 386) dL_law_386 ?_
      refine v_sld (pc := 387) hX hbl hbZ (by omega) (by omega) dL_law_387 ?_
      refine c_callVi (pc := 388) (st := [.int (mSparesV S (ys (i + 1)))]) (ci := 3) (ct_X3_spares (S := X) hm.1.1 hm.1.2.1 hN) kVL_63 kDL_63 (by rw [hR]; decide) (by rw [hR]; exact ⟨show _ ≤ 601024 by omega, show _ ≤ 7293034 by omega⟩) (by omega) rfl rfl rfl rfl rfl (Nat.le_of_ble_eq_true rfl) dL_law_388 ?_
      have eX := UN_jn hX2
      refine v_ic_eq (pc := 391) 544 dL_law_391 (by decide) (fun _ => ?_) (fun z => absurd ((congrArg (fun Y => mSparesV Y (ys (i + 1))) eX).trans jn_sparesV).symm z)
      refine v_S (show mSparesS X (ys (i + 1)) = jn X (mSparesS S (ys (i + 1))) from (congrArg (fun Y => mSparesS Y (ys (i + 1))) eX).trans jn_sparesS) ?_
      refine v_iinc (pc := 544) (k := 0) (v := nI (i + 4)) (lv' := [(3, .int (nI (i + 4))), (0, .ref sc), (1, .ref (gZ G + 0)), (2, .ref (gZ G + 513))]) dL_law_544 rfl (nI_add i 4) (by decide) rfl ?_
      refine v_goto (pc := 547) 18 dL_law_547 (by decide) ?_
      exact ih (i + 4) _ _ _ _ (by omega) (by omega) (by omega) (by omega) (by omega) hX1.join
    rcases Nat.lt_or_ge js 13 with h12s | h12s
    · skip
      obtain rfl : js = 12 := by omega
      refine v_tableIn (pc := 32) 396 dL_law_32 (by rw [hsw]; decide) (by rw [hsw]; decide) (by rw [hsw]; rfl) (by decide) ?_
      refine v_aload_n (pc := 396) 2 dL_law_396 rfl rfl ?_
      refine v_aload_n (pc := 397) 1 dL_law_397 rfl rfl ?_
      refine v_iload_n (pc := 398) 0 dL_law_398 rfl rfl ?_
      refine v_iconst (pc := 399) (nI 1) dL_law_399 (by decide) ?_
      refine v_iaddN (pc := 400) dL_law_400 ?_
      refine v_sld (pc := 401) hX hbl hbZ (by omega) (by omega) dL_law_401 ?_
      refine v_aload_n (pc := 402) 1 dL_law_402 rfl rfl ?_
      refine v_iload_n (pc := 403) 0 dL_law_403 rfl rfl ?_
      refine v_iconst (pc := 404) (nI 2) dL_law_404 (by decide) ?_
      refine v_iaddN (pc := 405) dL_law_405 ?_
      refine v_sld (pc := 406) hX hbl hbZ (by omega) (by omega) dL_law_406 ?_
      refine v_aload_n (pc := 407) 1 dL_law_407 rfl rfl ?_
      refine v_iload_n (pc := 408) 0 dL_law_408 rfl rfl ?_
      refine v_iconst (pc := 409) (nI 3) dL_law_409 (by decide) ?_
      refine v_iaddN (pc := 410) dL_law_410 ?_
      refine v_sld (pc := 411) hX hbl hbZ (by omega) (by omega) dL_law_411 ?_
      refine c_callViE (pc := 412) (st := []) (ci := 0) (rl_sees hRL (by omega)) kVL_64 kDL_64 (by rw [hR]; decide) (by rw [hR]; exact ⟨show _ ≤ 601024 by omega, show _ ≤ 7293034 by omega⟩) (by omega) rfl rfl rfl rfl rfl (Nat.le_of_ble_eq_true rfl) dL_law_412 (fun X hXX => ?_)
      obtain ⟨hX1, hX2⟩ := hXX
      have hm := hmh.to (fun k a _ => hX2 k a)
      refine v_aload_n (pc := 415) 3 dL_law_415 rfl rfl ?_
      refine v_aload_n (pc := 416) 1 dL_law_416 rfl rfl ?_
      refine v_iload_n (pc := 417) 0 dL_law_417 rfl rfl ?_
      refine v_iconst (pc := 418) (nI 1) dL_law_418 (by decide) ?_
      refine v_iaddN (pc := 419) dL_law_419 ?_
      refine v_sld (pc := 420) hX hbl hbZ (by omega) (by omega) dL_law_420 ?_
      refine v_aload_n (pc := 421) 1 dL_law_421 rfl rfl ?_
      refine v_iload_n (pc := 422) 0 dL_law_422 rfl rfl ?_
      refine v_iconst (pc := 423) (nI 2) dL_law_423 (by decide) ?_
      refine v_iaddN (pc := 424) dL_law_424 ?_
      refine v_sld (pc := 425) hX hbl hbZ (by omega) (by omega) dL_law_425 ?_
      refine v_aload_n (pc := 426) 1 dL_law_426 rfl rfl ?_
      refine v_iload_n (pc := 427) 0 dL_law_427 rfl rfl ?_
      refine v_iconst (pc := 428) (nI 3) dL_law_428 (by decide) ?_
      refine v_iaddN (pc := 429) dL_law_429 ?_
      refine v_sld (pc := 430) hX hbl hbZ (by omega) (by omega) dL_law_430 ?_
      refine c_callVi (pc := 431) (st := [.int (mSeesV S (ys (i + 1)) (ys (i + 2)) (ys (i + 3)))]) (ci := 3) (ct_X3_sees (S := X) hm.1.1 hm.2.1.2.1 hN) kVL_68 kDL_68 (by rw [hR]; decide) (by rw [hR]; exact ⟨show _ ≤ 601024 by omega, show _ ≤ 7293034 by omega⟩) (by omega) rfl rfl rfl rfl rfl (Nat.le_of_ble_eq_true rfl) dL_law_431 ?_
      have eX := UN_jn hX2
      refine v_ic_eq (pc := 434) 544 dL_law_434 (by decide) (fun _ => ?_) (fun z => absurd ((congrArg (fun Y => mSeesV Y (ys (i + 1)) (ys (i + 2)) (ys (i + 3))) eX).trans jn_seesV).symm z)
      refine v_S (show mSeesS X (ys (i + 1)) (ys (i + 2)) (ys (i + 3)) = jn X (mSeesS S (ys (i + 1)) (ys (i + 2)) (ys (i + 3))) from (congrArg (fun Y => mSeesS Y (ys (i + 1)) (ys (i + 2)) (ys (i + 3))) eX).trans jn_seesS) ?_
      refine v_iinc (pc := 544) (k := 0) (v := nI (i + 4)) (lv' := [(3, .int (nI (i + 4))), (0, .ref sc), (1, .ref (gZ G + 0)), (2, .ref (gZ G + 513))]) dL_law_544 rfl (nI_add i 4) (by decide) rfl ?_
      refine v_goto (pc := 547) 18 dL_law_547 (by decide) ?_
      exact ih (i + 4) _ _ _ _ (by omega) (by omega) (by omega) (by omega) (by omega) hX1.join
    rcases Nat.lt_or_ge js 14 with h13s | h13s
    · skip
      obtain rfl : js = 13 := by omega
      refine v_tableIn (pc := 32) 439 dL_law_32 (by rw [hsw]; decide) (by rw [hsw]; decide) (by rw [hsw]; rfl) (by decide) ?_
      refine v_aload_n (pc := 439) 2 dL_law_439 rfl rfl ?_
      refine c_callViE (pc := 440) (st := []) (ci := 0) (rl_forget hRL (by omega)) kVL_69 kDL_69 (by rw [hR]; decide) (by rw [hR]; exact ⟨show _ ≤ 601024 by omega, show _ ≤ 7293034 by omega⟩) (by omega) rfl rfl rfl rfl rfl (Nat.le_of_ble_eq_true rfl) dL_law_440 (fun X hXX => ?_)
      obtain ⟨hX1, hX2⟩ := hXX
      have hm := hmh.to (fun k a _ => hX2 k a)
      refine v_aload_n (pc := 443) 3 dL_law_443 rfl rfl ?_
      refine c_callVi (pc := 444) (st := [.int (S 513 28)]) (ci := 3) (ct_X3_forget (S := X)  hN) kVL_72 kDL_72 (by rw [hR]; decide) (by rw [hR]; exact ⟨show _ ≤ 601024 by omega, show _ ≤ 7293034 by omega⟩) (by omega) rfl rfl rfl rfl rfl (Nat.le_of_ble_eq_true rfl) dL_law_444 ?_
      have eX := UN_jn hX2
      refine v_ic_eq (pc := 447) 544 dL_law_447 (by decide) (fun _ => ?_) (fun z => absurd (congrFun (hX2 513 (by decide)) _).symm z)
      refine v_S (show s2 X 513 28 (nI 0) = jn X (s2 S 513 28 (nI 0)) from (congrArg (fun Y => s2 Y 513 28 (nI 0)) eX).trans (jn_s2 (by decide))) ?_
      refine v_iinc (pc := 544) (k := 0) (v := nI (i + 4)) (lv' := [(3, .int (nI (i + 4))), (0, .ref sc), (1, .ref (gZ G + 0)), (2, .ref (gZ G + 513))]) dL_law_544 rfl (nI_add i 4) (by decide) rfl ?_
      refine v_goto (pc := 547) 18 dL_law_547 (by decide) ?_
      exact ih (i + 4) _ _ _ _ (by omega) (by omega) (by omega) (by omega) (by omega) hX1.join
    rcases Nat.lt_or_ge js 15 with h14s | h14s
    · skip
      obtain rfl : js = 14 := by omega
      refine v_tableIn (pc := 32) 452 dL_law_32 (by rw [hsw]; decide) (by rw [hsw]; decide) (by rw [hsw]; rfl) (by decide) ?_
      refine v_aload_n (pc := 452) 2 dL_law_452 rfl rfl ?_
      refine v_aload_n (pc := 453) 1 dL_law_453 rfl rfl ?_
      refine v_iload_n (pc := 454) 0 dL_law_454 rfl rfl ?_
      refine v_iconst (pc := 455) (nI 1) dL_law_455 (by decide) ?_
      refine v_iaddN (pc := 456) dL_law_456 ?_
      refine v_sld (pc := 457) hX hbl hbZ (by omega) (by omega) dL_law_457 ?_
      refine c_callViE (pc := 458) (st := []) (ci := 0) (ct_X0_fits hRL (by omega)) kVL_73 kDL_73 (by rw [hR]; decide) (by rw [hR]; exact ⟨show _ ≤ 601024 by omega, show _ ≤ 7293034 by omega⟩) (by omega) rfl rfl rfl rfl rfl (Nat.le_of_ble_eq_true rfl) dL_law_458 (fun X hXX => ?_)
      obtain ⟨hX1, hX2⟩ := hXX
      have hm := hmh.to (fun k a _ => hX2 k a)
      refine v_aload_n (pc := 461) 3 dL_law_461 rfl rfl ?_
      refine v_aload_n (pc := 462) 1 dL_law_462 rfl rfl ?_
      refine v_iload_n (pc := 463) 0 dL_law_463 rfl rfl ?_
      refine v_iconst (pc := 464) (nI 1) dL_law_464 (by decide) ?_
      refine v_iaddN (pc := 465) dL_law_465 ?_
      refine v_sld (pc := 466) hX hbl hbZ (by omega) (by omega) dL_law_466 ?_
      refine c_callVi (pc := 467) (st := [.int (mFitsV S (ys (i + 1)))]) (ci := 3) (ct_X3_fits (S := X) hm.2.1 hN) kVL_76 kDL_76 (by rw [hR]; decide) (by rw [hR]; exact ⟨show _ ≤ 601024 by omega, show _ ≤ 7293034 by omega⟩) (by omega) rfl rfl rfl rfl rfl (Nat.le_of_ble_eq_true rfl) dL_law_467 ?_
      have eX := UN_jn hX2
      refine v_ic_eq (pc := 470) 544 dL_law_470 (by decide) (fun _ => ?_) (fun z => absurd ((congrArg (fun Y => mFitsV Y (ys (i + 1))) eX).trans jn_fitsV).symm z)
      refine v_S (show mFitsS X (ys (i + 1)) = jn X (mFitsS S (ys (i + 1))) from (congrArg (fun Y => mFitsS Y (ys (i + 1))) eX).trans jn_fitsS) ?_
      refine v_iinc (pc := 544) (k := 0) (v := nI (i + 4)) (lv' := [(3, .int (nI (i + 4))), (0, .ref sc), (1, .ref (gZ G + 0)), (2, .ref (gZ G + 513))]) dL_law_544 rfl (nI_add i 4) (by decide) rfl ?_
      refine v_goto (pc := 547) 18 dL_law_547 (by decide) ?_
      exact ih (i + 4) _ _ _ _ (by omega) (by omega) (by omega) (by omega) (by omega) hX1.join
    rcases Nat.lt_or_ge js 16 with h15s | h15s
    · skip
      obtain rfl : js = 15 := by omega
      refine v_tableIn (pc := 32) 475 dL_law_32 (by rw [hsw]; decide) (by rw [hsw]; decide) (by rw [hsw]; rfl) (by decide) ?_
      refine v_aload_n (pc := 475) 2 dL_law_475 rfl rfl ?_
      refine v_aload_n (pc := 476) 1 dL_law_476 rfl rfl ?_
      refine v_iload_n (pc := 477) 0 dL_law_477 rfl rfl ?_
      refine v_iconst (pc := 478) (nI 1) dL_law_478 (by decide) ?_
      refine v_iaddN (pc := 479) dL_law_479 ?_
      refine v_sld (pc := 480) hX hbl hbZ (by omega) (by omega) dL_law_480 ?_
      refine c_callViE (pc := 481) (st := []) (ci := 0) (ct_X0_keep hRL (by omega)) kVL_77 kDL_77 (by rw [hR]; decide) (by rw [hR]; exact ⟨show _ ≤ 601024 by omega, show _ ≤ 7293034 by omega⟩) (by omega) rfl rfl rfl rfl rfl (Nat.le_of_ble_eq_true rfl) dL_law_481 (fun X hXX => ?_)
      obtain ⟨hX1, hX2⟩ := hXX
      have hm := hmh.to (fun k a _ => hX2 k a)
      refine v_aload_n (pc := 484) 3 dL_law_484 rfl rfl ?_
      refine v_aload_n (pc := 485) 1 dL_law_485 rfl rfl ?_
      refine v_iload_n (pc := 486) 0 dL_law_486 rfl rfl ?_
      refine v_iconst (pc := 487) (nI 1) dL_law_487 (by decide) ?_
      refine v_iaddN (pc := 488) dL_law_488 ?_
      refine v_sld (pc := 489) hX hbl hbZ (by omega) (by omega) dL_law_489 ?_
      refine c_callVi (pc := 490) (st := [.int (mKeepV S (ys (i + 1)))]) (ci := 3) (ct_X3_keep (S := X)  hN) kVL_80 kDL_80 (by rw [hR]; decide) (by rw [hR]; exact ⟨show _ ≤ 601024 by omega, show _ ≤ 7293034 by omega⟩) (by omega) rfl rfl rfl rfl rfl (Nat.le_of_ble_eq_true rfl) dL_law_490 ?_
      have eX := UN_jn hX2
      refine v_ic_eq (pc := 493) 544 dL_law_493 (by decide) (fun _ => ?_) (fun z => absurd ((congrArg (fun Y => mKeepV Y (ys (i + 1))) eX).trans jn_keepV).symm z)
      refine v_S (show mKeepS X (ys (i + 1)) = jn X (mKeepS S (ys (i + 1))) from (congrArg (fun Y => mKeepS Y (ys (i + 1))) eX).trans jn_keepS) ?_
      refine v_iinc (pc := 544) (k := 0) (v := nI (i + 4)) (lv' := [(3, .int (nI (i + 4))), (0, .ref sc), (1, .ref (gZ G + 0)), (2, .ref (gZ G + 513))]) dL_law_544 rfl (nI_add i 4) (by decide) rfl ?_
      refine v_goto (pc := 547) 18 dL_law_547 (by decide) ?_
      exact ih (i + 4) _ _ _ _ (by omega) (by omega) (by omega) (by omega) (by omega) hX1.join
    rcases Nat.lt_or_ge js 17 with h16s | h16s
    · skip
      obtain rfl : js = 16 := by omega
      refine v_tableIn (pc := 32) 498 dL_law_32 (by rw [hsw]; decide) (by rw [hsw]; decide) (by rw [hsw]; rfl) (by decide) ?_
      refine v_aload_n (pc := 498) 2 dL_law_498 rfl rfl ?_
      refine v_aload_n (pc := 499) 1 dL_law_499 rfl rfl ?_
      refine v_iload_n (pc := 500) 0 dL_law_500 rfl rfl ?_
      refine v_iconst (pc := 501) (nI 1) dL_law_501 (by decide) ?_
      refine v_iaddN (pc := 502) dL_law_502 ?_
      refine v_sld (pc := 503) hX hbl hbZ (by omega) (by omega) dL_law_503 ?_
      refine c_callViE (pc := 504) (st := []) (ci := 0) (ct_X0_back hRL (by omega)) kVL_81 kDL_81 (by rw [hR]; decide) (by rw [hR]; exact ⟨show _ ≤ 601024 by omega, show _ ≤ 7293034 by omega⟩) (by omega) rfl rfl rfl rfl rfl (Nat.le_of_ble_eq_true rfl) dL_law_504 (fun X hXX => ?_)
      obtain ⟨hX1, hX2⟩ := hXX
      have hm := hmh.to (fun k a _ => hX2 k a)
      refine v_aload_n (pc := 507) 3 dL_law_507 rfl rfl ?_
      refine v_aload_n (pc := 508) 1 dL_law_508 rfl rfl ?_
      refine v_iload_n (pc := 509) 0 dL_law_509 rfl rfl ?_
      refine v_iconst (pc := 510) (nI 1) dL_law_510 (by decide) ?_
      refine v_iaddN (pc := 511) dL_law_511 ?_
      refine v_sld (pc := 512) hX hbl hbZ (by omega) (by omega) dL_law_512 ?_
      refine c_callVi (pc := 513) (st := [.int (mBackV S (ys (i + 1)))]) (ci := 3) (ct_X3_back (S := X)  hN) kVL_84 kDL_84 (by rw [hR]; decide) (by rw [hR]; exact ⟨show _ ≤ 601024 by omega, show _ ≤ 7293034 by omega⟩) (by omega) rfl rfl rfl rfl rfl (Nat.le_of_ble_eq_true rfl) dL_law_513 ?_
      have eX := UN_jn hX2
      refine v_ic_eq (pc := 516) 544 dL_law_516 (by decide) (fun _ => ?_) (fun z => absurd ((congrArg (fun Y => mBackV Y (ys (i + 1))) eX).trans jn_backV).symm z)
      refine v_S (show mBackS X (ys (i + 1)) = jn X (mBackS S (ys (i + 1))) from (congrArg (fun Y => mBackS Y (ys (i + 1))) eX).trans jn_backS) ?_
      refine v_iinc (pc := 544) (k := 0) (v := nI (i + 4)) (lv' := [(3, .int (nI (i + 4))), (0, .ref sc), (1, .ref (gZ G + 0)), (2, .ref (gZ G + 513))]) dL_law_544 rfl (nI_add i 4) (by decide) rfl ?_
      refine v_goto (pc := 547) 18 dL_law_547 (by decide) ?_
      exact ih (i + 4) _ _ _ _ (by omega) (by omega) (by omega) (by omega) (by omega) hX1.join
    have h17s := hjs
    obtain rfl : js = 17 := by omega
    refine v_tableIn (pc := 32) 521 dL_law_32 (by rw [hsw]; decide) (by rw [hsw]; decide) (by rw [hsw]; rfl) (by decide) ?_
    refine v_aload_n (pc := 521) 2 dL_law_521 rfl rfl ?_
    refine v_aload_n (pc := 522) 1 dL_law_522 rfl rfl ?_
    refine v_iload_n (pc := 523) 0 dL_law_523 rfl rfl ?_
    refine v_iconst (pc := 524) (nI 1) dL_law_524 (by decide) ?_
    refine v_iaddN (pc := 525) dL_law_525 ?_
    refine v_sld (pc := 526) hX hbl hbZ (by omega) (by omega) dL_law_526 ?_
    refine c_callVi (pc := 527) (st := []) (ci := 0) (rl_count hRL (by omega)) kVL_85 kDL_85 (by rw [hR]; decide) (by rw [hR]; exact ⟨show _ ≤ 601024 by omega, show _ ≤ 7293034 by omega⟩) (by omega) rfl rfl rfl rfl rfl (Nat.le_of_ble_eq_true rfl) dL_law_527 ?_
    have hm := hmh
    refine v_aload_n (pc := 530) 3 dL_law_530 rfl rfl ?_
    refine v_aload_n (pc := 531) 1 dL_law_531 rfl rfl ?_
    refine v_iload_n (pc := 532) 0 dL_law_532 rfl rfl ?_
    refine v_iconst (pc := 533) (nI 1) dL_law_533 (by decide) ?_
    refine v_iaddN (pc := 534) dL_law_534 ?_
    refine v_sld (pc := 535) hX hbl hbZ (by omega) (by omega) dL_law_535 ?_
    refine c_callVi (pc := 536) (st := [.int (mCountV S (ys (i + 1)))]) (ci := 3) (ct_X3_count (S := S) hm.1.1 hN) kVL_88 kDL_88 (by rw [hR]; decide) (by rw [hR]; exact ⟨show _ ≤ 601024 by omega, show _ ≤ 7293034 by omega⟩) (by omega) rfl rfl rfl rfl rfl (Nat.le_of_ble_eq_true rfl) dL_law_536 ?_
    refine v_ic_eq (pc := 539) 544 dL_law_539 (by decide) (fun _ => ?_) (fun z => absurd rfl z)
    refine v_iinc (pc := 544) (k := 0) (v := nI (i + 4)) (lv' := [(3, .int (nI (i + 4))), (0, .ref sc), (1, .ref (gZ G + 0)), (2, .ref (gZ G + 513))]) dL_law_544 rfl (nI_add i 4) (by decide) rfl ?_
    refine v_goto (pc := 547) 18 dL_law_547 (by decide) ?_
    exact ih (i + 4) _ _ _ _ (by omega) (by omega) (by omega) (by omega) (by omega) hRL
