set_option maxRecDepth 100000
/-! Arrays.fill at rows of runs; ScopeTasks$Run: start, copyOf -/
set_option maxHeartbeats 4000000 in
theorem lp_fill2 {G : GT} {x : VX} {N k : Nat} {S : ST} {c : Int32} {g' : Nat → Int32} (hk : IA k 8) (hg' : ∀ j, j < 8 → g' j = c) (hN : k < N) (hr : (xM x).sig.returnType = none) : ∀ (m i : Nat) (g : Nat → Int32), i + m = 8 → (∀ j, j < i → g j = c) → V G x "java/util/Arrays" cJ3_fill 4 (QQ G x (pV N (fun h' => h' = hC G (s1 S k g'))) 0 0) 5 [(3, .int (nI 8)), (2, .int (nI i)), (0, .ref (gZ G + k)), (1, .int (c))] [] N (hC G (s1 S k g)) 0 0 := by
  intro m
  induction m with
  | zero =>
    intro i g him hg
    refine v_iload_n (pc := 5) 1 dJ3_fill_5 rfl rfl ?_
    refine v_iload_n (pc := 6) 0 dJ3_fill_6 rfl rfl ?_
    refine v_ic_geN (pc := 7) 20 (by omega) (by omega) dJ3_fill_7 (by decide) (fun c1 => ?_) (fun c1 => ?_)
    · skip
      refine v_row (g := g') hk (fun j hj => (hg j (by omega)).trans (hg' j hj).symm) ?_
      exact v_vret (pc := 20) hr (Nat.le_refl _) (Nat.le_refl _) dJ3_fill_20 (pV_mk rfl)
    · skip
      exact absurd c1 (by omega)
  | succ m ih =>
    intro i g him hg
    refine v_iload_n (pc := 5) 1 dJ3_fill_5 rfl rfl ?_
    refine v_iload_n (pc := 6) 0 dJ3_fill_6 rfl rfl ?_
    refine v_ic_geN (pc := 7) 20 (by omega) (by omega) dJ3_fill_7 (by decide) (fun c1 => ?_) (fun c1 => ?_)
    · skip
      exact absurd c1 (by omega)
    · skip
      refine v_aload_n (pc := 10) 2 dJ3_fill_10 rfl rfl ?_
      refine v_iload_n (pc := 11) 1 dJ3_fill_11 rfl rfl ?_
      refine v_iload_n (pc := 12) 3 dJ3_fill_12 rfl rfl ?_
      refine c_iast (pc := 13) (k := k) (j := i) hk (by omega) rfl (by omega) (by decide) dJ3_fill_13 ?_
      refine v_S (s2_s1 _ _ _ _ _) ?_
      refine v_iincN (pc := 14) (k := 1) (lv' := [(2, .int (nI (i + 1))), (3, .int (nI 8)), (0, .ref (gZ G + k)), (1, .int (c))]) dJ3_fill_14 rfl (by decide) rfl ?_
      refine v_goto (pc := 17) 5 dJ3_fill_17 (by decide) ?_
      refine v_sub (lv' := [(3, .int (nI 8)), (2, .int (nI (i + 1))), (0, .ref (gZ G + k)), (1, .int (c))]) [1, 0, 2, 3] rfl ?_
      exact ih (i + 1) _ (by omega) (fun j hj => (Nat.lt_or_ge j i).elim (fun z => (pk_un (by omega)).trans (hg j z)) (fun z => by rw [show j = i by omega, pk_us]))

set_option maxHeartbeats 4000000 in
theorem ct_fill2 {G : GT} {l : Launch} {N : Nat} {S : ST} {g : Nat → Int32} {k : Nat} {c : Int32} {g' : Nat → Int32} (hk : IA k 8) (hg' : ∀ j, j < 8 → g' j = c) (hN : k < N) : CTv G l yJ3_fill cJ3_fill 4 none 0 [.ref (gZ G + k), .int (c)] N (s1 S k g) (s1 S k g') := by
  refine CT.mk "java/util/Arrays" [(0, .ref (gZ G + k)), (1, .int (c))] rfl (by decide) rfl (Nat.le_of_ble_eq_true rfl) ?_
  intro x hR hl hr hnm
  refine v_iconst (pc := 0) (nI 0) dJ3_fill_0 (by decide) ?_
  refine v_istore_n (pc := 1) (lv' := [(2, .int (nI 0)), (0, .ref (gZ G + k)), (1, .int (c))]) dJ3_fill_1 rfl (by decide) rfl ?_
  refine v_aload_n (pc := 2) 1 dJ3_fill_2 rfl rfl ?_
  refine v_alen (pc := 3) (t0 := 0) rfl (by omega) (hk G _) rfl dJ3_fill_3 ?_
  refine v_topi (v := nI 8) rfl ?_
  refine v_istore_n (pc := 4) (lv' := [(3, .int (nI 8)), (2, .int (nI 0)), (0, .ref (gZ G + k)), (1, .int (c))]) dJ3_fill_4 rfl (by decide) rfl ?_
  refine v_sub (lv' := [(3, .int (nI 8)), (2, .int (nI 0)), (0, .ref (gZ G + k)), (1, .int (c))]) [0, 1, 2, 3] rfl ?_
  exact lp_fill2 hk hg' hN hr 8 0 g (by omega) (fun j hj => absurd hj (by omega))

theorem ct_fillr {G : GT} {l : Launch} {N : Nat} {S : ST} {b j o : Nat} {c : Nat → Int32} {v : Int32} (hb : RB b) (hj1 : 9 ≤ j) (hj2 : j < 16) (hr : ∀ p, p < 8 → ri j p = 18 * p + o) (h0 : o ≠ 0) (h5 : o ≠ 5) (h18 : o < 18) (hN : 513 ≤ N) : CTv G l yJ3_fill cJ3_fill 4 none 0 [.ref (gZ G + (b + j)), .int v] N (put S b c) (put S b (fw o v c)) := by
  have hle := hb.le
  have h := ct_fill2 (G := G) (l := l) (N := N) (S := put S b c) (k := b + j) (c := v) (g := runCell c j) (g' := runCell (fw o v c) j) (IA_run8 hb hj1 (by omega) (by omega)) (fw_cell hj1 hj2 hr h18) (by omega)
  rw [put_fw hj1 hj2 hr h0 h5 h18] at h
  rw [← s1_of (S := put S b c) (k := b + j) (put_at (by omega))] at h
  exact h
/-- a row at its start, over c -/
def cS0 (c : Nat → Int32) : Nat → Int32 := fun j => if j < 144 then (if j % 18 = 0 ∨ j % 18 = 2 ∨ j % 18 = 3 ∨ j % 18 = 5 ∨ j % 18 = 9 then nI 0 else if j % 18 = 1 ∨ j % 18 = 4 ∨ j % 18 = 7 ∨ j % 18 = 8 then (-9) else c j) else if j = 144 ∨ j = 145 then nI 0 else c j
def cSt (D : Int32) (c : Nat → Int32) : Nat → Int32 := upd (upd (upd (cS0 c) (18 * 0) (nI 1)) (18 * 0 + 7) (nI 0)) (18 * 0 + 4) (cDue (cS0 c) D (nI 100000))
theorem fw_un {o j : Nat} {v : Int32} {c : Nat → Int32} (h : ¬ (j % 18 = o ∧ j < 144)) : fw o v c j = c j := by unfold fw; rw [if_neg h]
theorem fw_us {o j : Nat} {v : Int32} {c : Nat → Int32} (h : j % 18 = o) (h2 : j < 144) : fw o v c j = v := by unfold fw; rw [if_pos ⟨h, h2⟩]
theorem zh_un {o h j : Nat} {c : Nat → Int32} (e : ¬ (j % 18 = o ∧ j < 144)) : zh o h c j = c j := by unfold zh; rw [if_neg (fun z => e ⟨z.1, z.2.1⟩)]
theorem st_norm {S : ST} {b : Nat} {c : Nat → Int32} : put S b (fw 7 ((-9)) (fw 4 ((-9)) (fw 8 ((-9)) (fw 1 ((-9)) (fw 3 (nI 0) (fw 2 (nI 0) (fw 9 (nI 0) (upd (zh 5 1 (zh 0 3 (zh 0 2 (zh 0 1 (upd c 144 (nI 0)))))) 145 (nI 0))))))))) = put S b (cS0 c) := by
  have z3 : ∀ (t : Nat), t < 8 → ∀ h, (h = 1 ∨ h = 2 ∨ h = 3) → ¬ zh 0 3 (zh 0 2 (zh 0 1 (upd c 144 (nI 0)))) (18 * t) = nI h := by
    intro t ht h hh e
    unfold zh at e
    simp only [show (18 * t) % 18 = 0 by omega, show 18 * t < 144 by omega, true_and] at e
    generalize upd c 144 (nI 0) (18 * t) = w at e
    by_cases w1 : w = nI 1
    · subst w1
      rw [if_pos rfl, if_neg (by decide), if_neg (by decide)] at e
      rcases hh with rfl | rfl | rfl <;> exact absurd e (by decide)
    · rw [if_neg w1] at e
      by_cases w2 : w = nI 2
      · subst w2
        rw [if_pos rfl, if_neg (by decide)] at e
        rcases hh with rfl | rfl | rfl <;> exact absurd e (by decide)
      · rw [if_neg w2] at e
        by_cases w3 : w = nI 3
        · subst w3
          rw [if_pos rfl] at e
          rcases hh with rfl | rfl | rfl <;> exact absurd e (by decide)
        · rw [if_neg w3] at e
          rcases hh with rfl | rfl | rfl
          · exact w1 e
          · exact w2 e
          · exact w3 e
  refine put_ext (fun t ht h hh => ?_) (fun t ht => ?_) (fun q p hq => ?_)
  · rw [fw_un (by omega), fw_un (by omega), fw_un (by omega), fw_un (by omega), fw_un (by omega), fw_un (by omega), fw_un (by omega), pk_un (by omega), zh_un (by omega)]
    constructor
    · intro e; exact absurd e (z3 t ht h hh)
    · intro e
      unfold cS0 at e
      rw [if_pos (by omega), if_pos (by omega)] at e
      rcases hh with rfl | rfl | rfl <;> exact absurd e (by decide)
  · rw [fw_un (by omega), fw_un (by omega), fw_un (by omega), fw_un (by omega), fw_un (by omega), fw_un (by omega), fw_un (by omega), pk_un (by omega)]
    constructor
    · intro e
      exfalso
      unfold zh at e
      by_cases w : (18 * t + 5) % 18 = 5 ∧ 18 * t + 5 < 144 ∧ zh 0 3 (zh 0 2 (zh 0 1 (upd c 144 (nI 0)))) (18 * t + 5) = nI 1
      · unfold zh at w; rw [if_pos w] at e; exact absurd e (by decide)
      · have w' := w; unfold zh at w'; rw [if_neg w'] at e; unfold zh at w; exact w ⟨by omega, by omega, e⟩
    · intro e
      unfold cS0 at e
      rw [if_pos (by omega), if_pos (by omega)] at e
      exact absurd e (by decide)
  · have hne : ∀ i, i < 8 → ri q p ≠ 18 * i ∧ ri q p ≠ 18 * i + 5 := fun i hi => ri_how hq hi
    generalize ri q p = r at hne ⊢
    by_cases h4 : r < 144
    · have h5 := hne (r / 18) (by omega)
      unfold cS0
      rw [if_pos h4]
      have hz : ∀ d : Nat → Int32, zh 5 1 (zh 0 3 (zh 0 2 (zh 0 1 d))) r = d r := fun d => by rw [zh_un (by omega), zh_un (by omega), zh_un (by omega), zh_un (by omega)]
      by_cases e7 : r % 18 = 7
      · rw [fw_us e7 h4, if_neg (by omega), if_pos (by omega)]
      rw [fw_un (by omega)]
      by_cases e4 : r % 18 = 4
      · rw [fw_us e4 h4, if_neg (by omega), if_pos (by omega)]
      rw [fw_un (by omega)]
      by_cases e8 : r % 18 = 8
      · rw [fw_us e8 h4, if_neg (by omega), if_pos (by omega)]
      rw [fw_un (by omega)]
      by_cases e1 : r % 18 = 1
      · rw [fw_us e1 h4, if_neg (by omega), if_pos (by omega)]
      rw [fw_un (by omega)]
      by_cases e3 : r % 18 = 3
      · rw [fw_us e3 h4, if_pos (by omega)]
      rw [fw_un (by omega)]
      by_cases e2 : r % 18 = 2
      · rw [fw_us e2 h4, if_pos (by omega)]
      rw [fw_un (by omega)]
      by_cases e9 : r % 18 = 9
      · rw [fw_us e9 h4, if_pos (by omega)]
      rw [fw_un (by omega), pk_un (by omega), hz, pk_un (by omega), if_neg (by omega), if_neg (by omega)]
    · rw [fw_un (by omega), fw_un (by omega), fw_un (by omega), fw_un (by omega), fw_un (by omega), fw_un (by omega), fw_un (by omega)]
      unfold cS0
      rw [if_neg h4]
      by_cases e5 : r = 145
      · subst e5; rw [pk_us, if_pos (by omega)]
      · rw [pk_un e5, zh_un (by omega), zh_un (by omega), zh_un (by omega), zh_un (by omega)]
        by_cases e4 : r = 144
        · subst e4; rw [pk_us, if_pos (by omega)]
        · rw [pk_un e4, if_neg (by omega)]
theorem cS0_0 {c : Nat → Int32} : cS0 c (18 * 0) = nI 0 := rfl
set_option maxHeartbeats 4000000 in
theorem ct_X2_start {G : GT} {l : Launch} {N : Nat} {S : ST} {c : Nat → Int32} {b : Nat} {D : Int32} (hb : RB b) (hD : S 22 0 = D) (hN : 513 ≤ N) : CTv G l yX2_start cX2_start 1 none 3 [.ref (gZ G + b)] N (put S b c) (put S b (cSt D c)) := by
  have hbl := hb.le
  have hbg := hb.ge
  refine CT.mk "ScopeTasks$Run" [(0, .ref (gZ G + b))] rfl (by decide) rfl (Nat.le_of_ble_eq_true rfl) ?_
  intro x hR hl hr hnm
  refine v_aload_n (pc := 0) 0 dX2_start_0 rfl rfl ?_
  refine v_iconst (pc := 1) (nI 0) dX2_start_1 (by decide) ?_
  refine pX2_69 (pc := 2) hb hN dX2_start_2 ?_
  refine v_S (pw_0) ?_
  refine v_aload_n (pc := 5) 0 dX2_start_5 rfl rfl ?_
  refine gX2_20 (pc := 6) hb hN dX2_start_6 ?_
  refine c_callVv (pc := 9) (st := []) (ci := 6) (ct_zh1 (S := S) (b := b) (c := upd c 144 (nI 0)) hb hN) kVX2_73 kDX2_73 (rm_ok hR (Nat.le_of_ble_eq_true rfl) (Nat.le_of_ble_eq_true rfl)) ⟨Nat.zero_le _, Nat.zero_le _⟩ (by omega) ((BC_run hb (j := 1) (by decide)) G _).1 rfl rfl rfl rfl (Nat.le_of_ble_eq_true rfl) dX2_start_9 ?_
  refine v_aload_n (pc := 12) 0 dX2_start_12 rfl rfl ?_
  refine gX2_24 (pc := 13) hb hN dX2_start_13 ?_
  refine c_callVv (pc := 16) (st := []) (ci := 6) (ct_zh3 (S := S) (b := b) (c := zh 0 1 (upd c 144 (nI 0))) hb hN) kVX2_73 kDX2_73 (rm_ok hR (Nat.le_of_ble_eq_true rfl) (Nat.le_of_ble_eq_true rfl)) ⟨Nat.zero_le _, Nat.zero_le _⟩ (by omega) ((BC_run hb (j := 3) (by decide)) G _).1 rfl rfl rfl rfl (Nat.le_of_ble_eq_true rfl) dX2_start_16 ?_
  refine v_aload_n (pc := 19) 0 dX2_start_19 rfl rfl ?_
  refine gX2_27 (pc := 20) hb hN dX2_start_20 ?_
  refine c_callVv (pc := 23) (st := []) (ci := 6) (ct_zh5 (S := S) (b := b) (c := zh 0 2 (zh 0 1 (upd c 144 (nI 0)))) hb hN) kVX2_73 kDX2_73 (rm_ok hR (Nat.le_of_ble_eq_true rfl) (Nat.le_of_ble_eq_true rfl)) ⟨Nat.zero_le _, Nat.zero_le _⟩ (by omega) ((BC_run hb (j := 5) (by decide)) G _).1 rfl rfl rfl rfl (Nat.le_of_ble_eq_true rfl) dX2_start_23 ?_
  refine v_aload_n (pc := 26) 0 dX2_start_26 rfl rfl ?_
  refine gX2_30 (pc := 27) hb hN dX2_start_27 ?_
  refine c_callVv (pc := 30) (st := []) (ci := 6) (ct_zh7 (S := S) (b := b) (c := zh 0 3 (zh 0 2 (zh 0 1 (upd c 144 (nI 0))))) hb hN) kVX2_73 kDX2_73 (rm_ok hR (Nat.le_of_ble_eq_true rfl) (Nat.le_of_ble_eq_true rfl)) ⟨Nat.zero_le _, Nat.zero_le _⟩ (by omega) ((BC_run hb (j := 7) (by decide)) G _).1 rfl rfl rfl rfl (Nat.le_of_ble_eq_true rfl) dX2_start_30 ?_
  refine v_aload_n (pc := 33) 0 dX2_start_33 rfl rfl ?_
  refine v_iconst (pc := 34) (nI 0) dX2_start_34 (by decide) ?_
  refine pX2_76 (pc := 35) hb hN dX2_start_35 ?_
  refine v_S (pw_16) ?_
  refine v_aload_n (pc := 38) 0 dX2_start_38 rfl rfl ?_
  refine gX2_52 (pc := 39) hb hN dX2_start_39 ?_
  refine v_iconst (pc := 42) (nI 0) dX2_start_42 (by decide) ?_
  refine c_callSv (pc := 43) (st := []) (ct_fillr (S := S) (b := b) (j := 15) (o := 9) (c := upd (zh 5 1 (zh 0 3 (zh 0 2 (zh 0 1 (upd c 144 (nI 0)))))) 145 (nI 0)) (v := nI 0) hb (by decide) (by decide) (fun p hp => ri_15 hp) (by decide) (by decide) (by decide) hN) kVX2_79 kDX2_79 (rm_ok hR (Nat.le_of_ble_eq_true rfl) (Nat.le_of_ble_eq_true rfl)) ⟨Nat.zero_le _, Nat.zero_le _⟩ rfl rfl (Nat.le_of_ble_eq_true rfl) dX2_start_43 ?_
  refine v_aload_n (pc := 46) 0 dX2_start_46 rfl rfl ?_
  refine gX2_37 (pc := 47) hb hN dX2_start_47 ?_
  refine v_iconst (pc := 50) (nI 0) dX2_start_50 (by decide) ?_
  refine c_callSv (pc := 51) (st := []) (ct_fillr (S := S) (b := b) (j := 10) (o := 2) (c := fw 9 (nI 0) (upd (zh 5 1 (zh 0 3 (zh 0 2 (zh 0 1 (upd c 144 (nI 0)))))) 145 (nI 0))) (v := nI 0) hb (by decide) (by decide) (fun p hp => ri_10 hp) (by decide) (by decide) (by decide) hN) kVX2_79 kDX2_79 (rm_ok hR (Nat.le_of_ble_eq_true rfl) (Nat.le_of_ble_eq_true rfl)) ⟨Nat.zero_le _, Nat.zero_le _⟩ rfl rfl (Nat.le_of_ble_eq_true rfl) dX2_start_51 ?_
  refine v_aload_n (pc := 54) 0 dX2_start_54 rfl rfl ?_
  refine gX2_40 (pc := 55) hb hN dX2_start_55 ?_
  refine v_iconst (pc := 58) (nI 0) dX2_start_58 (by decide) ?_
  refine c_callSv (pc := 59) (st := []) (ct_fillr (S := S) (b := b) (j := 11) (o := 3) (c := fw 2 (nI 0) (fw 9 (nI 0) (upd (zh 5 1 (zh 0 3 (zh 0 2 (zh 0 1 (upd c 144 (nI 0)))))) 145 (nI 0)))) (v := nI 0) hb (by decide) (by decide) (fun p hp => ri_11 hp) (by decide) (by decide) (by decide) hN) kVX2_79 kDX2_79 (rm_ok hR (Nat.le_of_ble_eq_true rfl) (Nat.le_of_ble_eq_true rfl)) ⟨Nat.zero_le _, Nat.zero_le _⟩ rfl rfl (Nat.le_of_ble_eq_true rfl) dX2_start_59 ?_
  refine v_aload_n (pc := 62) 0 dX2_start_62 rfl rfl ?_
  refine gX2_33 (pc := 63) hb hN dX2_start_63 ?_
  refine v_bipush (pc := 66) ((-9)) dX2_start_66 (by decide) ?_
  refine c_callSv (pc := 68) (st := []) (ct_fillr (S := S) (b := b) (j := 9) (o := 1) (c := fw 3 (nI 0) (fw 2 (nI 0) (fw 9 (nI 0) (upd (zh 5 1 (zh 0 3 (zh 0 2 (zh 0 1 (upd c 144 (nI 0)))))) 145 (nI 0))))) (v := (-9)) hb (by decide) (by decide) (fun p hp => ri_9 hp) (by decide) (by decide) (by decide) hN) kVX2_79 kDX2_79 (rm_ok hR (Nat.le_of_ble_eq_true rfl) (Nat.le_of_ble_eq_true rfl)) ⟨Nat.zero_le _, Nat.zero_le _⟩ rfl rfl (Nat.le_of_ble_eq_true rfl) dX2_start_68 ?_
  refine v_aload_n (pc := 71) 0 dX2_start_71 rfl rfl ?_
  refine gX2_49 (pc := 72) hb hN dX2_start_72 ?_
  refine v_bipush (pc := 75) ((-9)) dX2_start_75 (by decide) ?_
  refine c_callSv (pc := 77) (st := []) (ct_fillr (S := S) (b := b) (j := 14) (o := 8) (c := fw 1 ((-9)) (fw 3 (nI 0) (fw 2 (nI 0) (fw 9 (nI 0) (upd (zh 5 1 (zh 0 3 (zh 0 2 (zh 0 1 (upd c 144 (nI 0)))))) 145 (nI 0)))))) (v := (-9)) hb (by decide) (by decide) (fun p hp => ri_14 hp) (by decide) (by decide) (by decide) hN) kVX2_79 kDX2_79 (rm_ok hR (Nat.le_of_ble_eq_true rfl) (Nat.le_of_ble_eq_true rfl)) ⟨Nat.zero_le _, Nat.zero_le _⟩ rfl rfl (Nat.le_of_ble_eq_true rfl) dX2_start_77 ?_
  refine v_aload_n (pc := 80) 0 dX2_start_80 rfl rfl ?_
  refine gX2_43 (pc := 81) hb hN dX2_start_81 ?_
  refine v_bipush (pc := 84) ((-9)) dX2_start_84 (by decide) ?_
  refine c_callSv (pc := 86) (st := []) (ct_fillr (S := S) (b := b) (j := 12) (o := 4) (c := fw 8 ((-9)) (fw 1 ((-9)) (fw 3 (nI 0) (fw 2 (nI 0) (fw 9 (nI 0) (upd (zh 5 1 (zh 0 3 (zh 0 2 (zh 0 1 (upd c 144 (nI 0)))))) 145 (nI 0))))))) (v := (-9)) hb (by decide) (by decide) (fun p hp => ri_12 hp) (by decide) (by decide) (by decide) hN) kVX2_79 kDX2_79 (rm_ok hR (Nat.le_of_ble_eq_true rfl) (Nat.le_of_ble_eq_true rfl)) ⟨Nat.zero_le _, Nat.zero_le _⟩ rfl rfl (Nat.le_of_ble_eq_true rfl) dX2_start_86 ?_
  refine v_aload_n (pc := 89) 0 dX2_start_89 rfl rfl ?_
  refine gX2_46 (pc := 90) hb hN dX2_start_90 ?_
  refine v_bipush (pc := 93) ((-9)) dX2_start_93 (by decide) ?_
  refine c_callSv (pc := 95) (st := []) (ct_fillr (S := S) (b := b) (j := 13) (o := 7) (c := fw 4 ((-9)) (fw 8 ((-9)) (fw 1 ((-9)) (fw 3 (nI 0) (fw 2 (nI 0) (fw 9 (nI 0) (upd (zh 5 1 (zh 0 3 (zh 0 2 (zh 0 1 (upd c 144 (nI 0)))))) 145 (nI 0)))))))) (v := (-9)) hb (by decide) (by decide) (fun p hp => ri_13 hp) (by decide) (by decide) (by decide) hN) kVX2_79 kDX2_79 (rm_ok hR (Nat.le_of_ble_eq_true rfl) (Nat.le_of_ble_eq_true rfl)) ⟨Nat.zero_le _, Nat.zero_le _⟩ rfl rfl (Nat.le_of_ble_eq_true rfl) dX2_start_95 ?_
  refine v_S st_norm ?_
  refine v_aload_n (pc := 98) 0 dX2_start_98 rfl rfl ?_
  refine gX2_20 (pc := 99) hb hN dX2_start_99 ?_
  refine v_iconst (pc := 102) (nI 0) dX2_start_102 (by decide) ?_
  refine c_callVv (pc := 103) (st := []) (ci := 6) (ct_set1 (S := S) (b := b) (t := 0) (c := cS0 c) hb (by omega) cS0_0 (by omega)) kVX2_85 kDX2_85 (rm_ok hR (Nat.le_of_ble_eq_true rfl) (Nat.le_of_ble_eq_true rfl)) ⟨Nat.zero_le _, Nat.zero_le _⟩ (by omega) ((BC_run hb (j := 1) (by decide)) G _).1 rfl rfl rfl rfl (Nat.le_of_ble_eq_true rfl) dX2_start_103 ?_
  refine v_aload_n (pc := 106) 0 dX2_start_106 rfl rfl ?_
  refine gX2_46 (pc := 107) hb hN dX2_start_107 ?_
  refine v_iconst (pc := 110) (nI 0) dX2_start_110 (by decide) ?_
  refine v_iconst (pc := 111) (nI 0) dX2_start_111 (by decide) ?_
  refine c_iast (pc := 112) (k := b + 13) (j := 0) (IA_run8 hb (by decide) (by decide) (by decide)) (by omega) rfl (by omega) (by decide) dX2_start_112 ?_
  refine v_S (pw_13 (by omega)) ?_
  refine v_aload_n (pc := 113) 0 dX2_start_113 rfl rfl ?_
  refine gX2_43 (pc := 114) hb hN dX2_start_114 ?_
  refine v_iconst (pc := 117) (nI 0) dX2_start_117 (by decide) ?_
  refine v_aload_n (pc := 118) 0 dX2_start_118 rfl rfl ?_
  refine v_iconst (pc := 119) (nI 0) dX2_start_119 (by decide) ?_
  refine v_ldc (pc := 120) q374 dX2_start_120 ?_
  refine v_topi (v := nI 100000) (by decide) ?_
  refine c_callVi (pc := 122) (st := [.int (nI 0), .ref (gZ G + (b + 12))]) (ci := 2) (ct_X2_dueOf (S := S) (b := b) (t := 0) (bd := nI 100000) (c := upd (upd (cS0 c) (18 * 0) (nI 1)) (18 * 0 + 7) (nI 0)) (D := D) hb (by omega) hD (by omega)) kVX2_89 kDX2_89 (rm_ok hR (Nat.le_of_ble_eq_true rfl) (Nat.le_of_ble_eq_true rfl)) ⟨Nat.zero_le _, Nat.zero_le _⟩ (by omega) (hC_run (j := 0) hb (by decide) rfl) rfl rfl rfl rfl (Nat.le_of_ble_eq_true rfl) dX2_start_122 ?_
  refine c_iast (pc := 125) (k := b + 12) (j := 0) (IA_run8 hb (by decide) (by decide) (by decide)) (by omega) rfl (by omega) (by decide) dX2_start_125 ?_
  refine v_S (pw_12 (by omega)) ?_
  exact v_vret (pc := 126) hr (Nat.le_refl _) (Nat.le_refl _) dX2_start_126 (pV_mk (hC_c (congrArg (put S b) (by unfold cSt; rw [cDue_un (by decide), cDue_un (by decide)]))))

theorem BS_cp {S : ST} {a b j : Nat} {c d e : Nat → Int32} {n : Nat} (hj : j = 1 ∨ j = 3 ∨ j = 5 ∨ j = 7) (hab : a + 28 ≤ b ∨ b + 28 ≤ a) (hd0 : ∀ j, j < 28 → S (a + j) = runCell d j) : BS (bset (mx S b c e n) (b + j) 0) (a + j) (mk4 d j) := by
  have hm : mk4 d (j + 1) = mk4 d j := by rcases hj with rfl | rfl | rfl | rfl <;> rfl
  refine ⟨?_, ?_, ?_⟩
  · rw [bset_ne (by omega) (by omega), mx_ne (by omega), Nat.add_assoc, hd0 _ (by omega)]
    unfold runCell
    rw [if_pos (by omega), if_neg (by omega), if_pos rfl, hm]
  · rcases hj with rfl | rfl | rfl | rfl <;> exact msk_lt
  · rw [bset_ne (by omega) (by omega), mx_ne (by omega), hd0 _ (by omega)]
    unfold runCell
    rw [if_pos (by omega), if_pos (by omega), if_pos rfl]
set_option maxHeartbeats 4000000 in
theorem lp_cpl {G : GT} {x : VX} {N a b : Nat} {Q : State → Prop} {S : ST} {c d : Nat → Int32} (hR : xR x = RM 2 0 0) (hb : RB b) (ha : RB a) (hab : a + 28 ≤ b ∨ b + 28 ≤ a) (hd0 : ∀ j, j < 28 → S (a + j) = runCell d j) (hN : 513 ≤ N) : ∀ (m t : Nat), t + m = 8 → V G x "ScopeTasks$Run" cX2_copyOf 3 Q 218 [(0, .ref (gZ G + b)), (1, .ref (gZ G + a))] [] N (hC G (mx S b (upd c 144 (d 144)) (cpE d c) 25)) 0 0 → V G x "ScopeTasks$Run" cX2_copyOf 3 Q 187 [(2, .int (nI t)), (0, .ref (gZ G + b)), (1, .ref (gZ G + a))] [] N (hC G (mx S b (upd c 144 (d 144)) (cpE d c) (17 + t))) 0 0 := by
  have hbl := hb.le
  have hbg := hb.ge
  have hal := ha.le
  have hag := ha.ge
  intro m
  induction m with
  | zero =>
    intro t ht hk
    obtain rfl : t = 8 := ht
    refine v_iload_n (pc := 187) 0 dX2_copyOf_187 rfl rfl ?_
    refine v_bipush (pc := 188) (nI 8) dX2_copyOf_188 (by decide) ?_
    refine v_ic_geN (pc := 190) 218 (by omega) (by omega) dX2_copyOf_190 (by decide) (fun c1 => ?_) (fun c1 => ?_)
    · skip
      refine v_sub (lv' := [(0, .ref (gZ G + b)), (1, .ref (gZ G + a))]) [1, 2] rfl ?_
      exact hk
    · skip
      exact absurd c1 (by omega)
  | succ m ih =>
    intro t ht hk
    refine v_iload_n (pc := 187) 0 dX2_copyOf_187 rfl rfl ?_
    refine v_bipush (pc := 188) (nI 8) dX2_copyOf_188 (by decide) ?_
    refine v_ic_geN (pc := 190) 218 (by omega) (by omega) dX2_copyOf_190 (by decide) (fun c1 => ?_) (fun c1 => ?_)
    · skip
      exact absurd c1 (by omega)
    · skip
      refine v_aload_n (pc := 193) 2 dX2_copyOf_193 rfl rfl ?_
      refine gX2_57 (pc := 194) ha hN dX2_copyOf_194 ?_
      refine v_iload_n (pc := 197) 0 dX2_copyOf_197 rfl rfl ?_
      refine c_gridL (pc := 198) (b0 := a) (j := t) ha (by omega) rfl (by omega) dX2_copyOf_198 ?_
      refine v_iconst (pc := 199) (nI 0) dX2_copyOf_199 (by decide) ?_
      refine v_aload_n (pc := 200) 1 dX2_copyOf_200 rfl rfl ?_
      refine gX2_57 (pc := 201) hb hN dX2_copyOf_201 ?_
      refine v_iload_n (pc := 204) 0 dX2_copyOf_204 rfl rfl ?_
      refine c_gridL (pc := 205) (b0 := b) (j := t) hb (by omega) rfl (by omega) dX2_copyOf_205 ?_
      refine v_iconst (pc := 206) (nI 0) dX2_copyOf_206 (by decide) ?_
      refine v_bipush (pc := 207) (nI 8) dX2_copyOf_207 (by decide) ?_
      refine c_cpj (pc := 209) (j := 17 + t) (n := 8) (by omega) (by omega) q731 hab hd0 (IA_run8 ha (by omega) (by omega) (by omega)) (IA_run8 hb (by omega) (by omega) (by omega)) (by omega) (by omega) (by omega) (by omega) (by decide) (fun p => ri_8 (by omega)) (by rw [hR]; decide) (by rw [hR]; decide) dX2_copyOf_209 ?_
      refine v_S (show mx S b (upd c 144 (d 144)) (cpE d c) (17 + t + 1) = mx S b (upd c 144 (d 144)) (cpE d c) (17 + (t + 1)) by rw [Nat.add_assoc]) ?_
      refine v_iincN (pc := 212) (k := 0) (lv' := [(2, .int (nI (t + 1))), (0, .ref (gZ G + b)), (1, .ref (gZ G + a))]) dX2_copyOf_212 rfl (by decide) rfl ?_
      refine v_goto (pc := 215) 187 dX2_copyOf_215 (by decide) ?_
      refine v_sub (lv' := [(2, .int (nI (t + 1))), (0, .ref (gZ G + b)), (1, .ref (gZ G + a))]) [0, 1, 2] rfl ?_
      exact ih (t + 1) (by omega) hk

set_option maxHeartbeats 4000000 in
theorem ct_X2_copyOf {G : GT} {l : Launch} {N : Nat} {S : ST} {c : Nat → Int32} {a b : Nat} {d : Nat → Int32} (hb : RB b) (ha : RB a) (hab : a + 28 ≤ b ∨ b + 28 ≤ a) (hd0 : ∀ j, j < 28 → S (a + j) = runCell d j) (hN : 513 ≤ N) : CTa G l yX2_copyOf cX2_copyOf 3 (some (.object "ScopeTasks$Run")) 2 [.ref (gZ G + b), .ref (gZ G + a)] N (put S b c) (.ref (gZ G + b)) (put S b (cpR d c)) := by
  have hbl := hb.le
  have hbg := hb.ge
  have hal := ha.le
  have hag := ha.ge
  refine CT.mk "ScopeTasks$Run" [(0, .ref (gZ G + b)), (1, .ref (gZ G + a))] rfl (by decide) rfl (Nat.le_of_ble_eq_true rfl) ?_
  intro x hR hl hr hnm
  refine v_aload_n (pc := 0) 0 dX2_copyOf_0 rfl rfl ?_
  refine v_aload_n (pc := 1) 1 dX2_copyOf_1 rfl rfl ?_
  refine gX2_69 (pc := 2) ha hN dX2_copyOf_2 ?_
  refine v_topi (v := d 144) ((congrFun (put_ne (by omega)) _).trans ((congrFun (hd0 0 (by decide)) 0).trans rfl)) ?_
  refine pX2_69 (pc := 5) hb hN dX2_copyOf_5 ?_
  refine v_S (pw_0) ?_
  refine v_S (mx_1 (e := cpE d c) cpE_0) ?_
  refine v_aload_n (pc := 8) 0 dX2_copyOf_8 rfl rfl ?_
  refine gX2_20 (pc := 9) hb hN dX2_copyOf_9 ?_
  refine c_callVv (pc := 12) (st := []) (ci := 6) (ct_J0_clear (S := mx S b (upd c 144 (d 144)) (cpE d c) 1) (k := b + 1) (v := mk4 (upd c 144 (d 144)) 1) (BC_run hb (j := 1) (by decide)) (mx_BS (by decide) (Nat.le_refl _)) (by omega)) kVX2_73 kDX2_73 (rm_ok hR (Nat.le_of_ble_eq_true rfl) (Nat.le_of_ble_eq_true rfl)) ⟨Nat.zero_le _, Nat.zero_le _⟩ (by omega) ((BC_run hb (j := 1) (by decide)) G _).1 rfl rfl rfl rfl (Nat.le_of_ble_eq_true rfl) dX2_copyOf_12 ?_
  refine v_aload_n (pc := 15) 0 dX2_copyOf_15 rfl rfl ?_
  refine gX2_20 (pc := 16) hb hN dX2_copyOf_16 ?_
  refine v_aload_n (pc := 19) 1 dX2_copyOf_19 rfl rfl ?_
  refine gX2_20 (pc := 20) ha hN dX2_copyOf_20 ?_
  refine c_callVv (pc := 23) (st := []) (ci := 6) (ct_J0_or (S := bset (mx S b (upd c 144 (d 144)) (cpE d c) 1) (b + 1) 0) (k := b + 1) (q := a + 1) (v := mk4 d 1) (BC_run hb (j := 1) (by decide)) (BC_run ha (j := 1) (by decide)) (bset_BS (by decide)) (BS_cp (by decide) hab hd0) (by omega) (by omega) (by omega) (by omega) (by omega)) kVX2_93 kDX2_93 (rm_ok hR (Nat.le_of_ble_eq_true rfl) (Nat.le_of_ble_eq_true rfl)) ⟨Nat.zero_le _, Nat.zero_le _⟩ (by omega) ((BC_run hb (j := 1) (by decide)) G _).1 rfl rfl rfl rfl (Nat.le_of_ble_eq_true rfl) dX2_copyOf_23 ?_
  refine v_S (show _ = mx S b (upd c 144 (d 144)) (cpE d c) 3 by rw [bset_bset, ← cpE_mk (c := c), mx_bits (by decide)]) ?_
  refine v_aload_n (pc := 26) 0 dX2_copyOf_26 rfl rfl ?_
  refine gX2_24 (pc := 27) hb hN dX2_copyOf_27 ?_
  refine c_callVv (pc := 30) (st := []) (ci := 6) (ct_J0_clear (S := mx S b (upd c 144 (d 144)) (cpE d c) 3) (k := b + 3) (v := mk4 (upd c 144 (d 144)) 3) (BC_run hb (j := 3) (by decide)) (mx_BS (by decide) (Nat.le_refl _)) (by omega)) kVX2_73 kDX2_73 (rm_ok hR (Nat.le_of_ble_eq_true rfl) (Nat.le_of_ble_eq_true rfl)) ⟨Nat.zero_le _, Nat.zero_le _⟩ (by omega) ((BC_run hb (j := 3) (by decide)) G _).1 rfl rfl rfl rfl (Nat.le_of_ble_eq_true rfl) dX2_copyOf_30 ?_
  refine v_aload_n (pc := 33) 0 dX2_copyOf_33 rfl rfl ?_
  refine gX2_24 (pc := 34) hb hN dX2_copyOf_34 ?_
  refine v_aload_n (pc := 37) 1 dX2_copyOf_37 rfl rfl ?_
  refine gX2_24 (pc := 38) ha hN dX2_copyOf_38 ?_
  refine c_callVv (pc := 41) (st := []) (ci := 6) (ct_J0_or (S := bset (mx S b (upd c 144 (d 144)) (cpE d c) 3) (b + 3) 0) (k := b + 3) (q := a + 3) (v := mk4 d 3) (BC_run hb (j := 3) (by decide)) (BC_run ha (j := 3) (by decide)) (bset_BS (by decide)) (BS_cp (by decide) hab hd0) (by omega) (by omega) (by omega) (by omega) (by omega)) kVX2_93 kDX2_93 (rm_ok hR (Nat.le_of_ble_eq_true rfl) (Nat.le_of_ble_eq_true rfl)) ⟨Nat.zero_le _, Nat.zero_le _⟩ (by omega) ((BC_run hb (j := 3) (by decide)) G _).1 rfl rfl rfl rfl (Nat.le_of_ble_eq_true rfl) dX2_copyOf_41 ?_
  refine v_S (show _ = mx S b (upd c 144 (d 144)) (cpE d c) 5 by rw [bset_bset, ← cpE_mk (c := c), mx_bits (by decide)]) ?_
  refine v_aload_n (pc := 44) 0 dX2_copyOf_44 rfl rfl ?_
  refine gX2_27 (pc := 45) hb hN dX2_copyOf_45 ?_
  refine c_callVv (pc := 48) (st := []) (ci := 6) (ct_J0_clear (S := mx S b (upd c 144 (d 144)) (cpE d c) 5) (k := b + 5) (v := mk4 (upd c 144 (d 144)) 5) (BC_run hb (j := 5) (by decide)) (mx_BS (by decide) (Nat.le_refl _)) (by omega)) kVX2_73 kDX2_73 (rm_ok hR (Nat.le_of_ble_eq_true rfl) (Nat.le_of_ble_eq_true rfl)) ⟨Nat.zero_le _, Nat.zero_le _⟩ (by omega) ((BC_run hb (j := 5) (by decide)) G _).1 rfl rfl rfl rfl (Nat.le_of_ble_eq_true rfl) dX2_copyOf_48 ?_
  refine v_aload_n (pc := 51) 0 dX2_copyOf_51 rfl rfl ?_
  refine gX2_27 (pc := 52) hb hN dX2_copyOf_52 ?_
  refine v_aload_n (pc := 55) 1 dX2_copyOf_55 rfl rfl ?_
  refine gX2_27 (pc := 56) ha hN dX2_copyOf_56 ?_
  refine c_callVv (pc := 59) (st := []) (ci := 6) (ct_J0_or (S := bset (mx S b (upd c 144 (d 144)) (cpE d c) 5) (b + 5) 0) (k := b + 5) (q := a + 5) (v := mk4 d 5) (BC_run hb (j := 5) (by decide)) (BC_run ha (j := 5) (by decide)) (bset_BS (by decide)) (BS_cp (by decide) hab hd0) (by omega) (by omega) (by omega) (by omega) (by omega)) kVX2_93 kDX2_93 (rm_ok hR (Nat.le_of_ble_eq_true rfl) (Nat.le_of_ble_eq_true rfl)) ⟨Nat.zero_le _, Nat.zero_le _⟩ (by omega) ((BC_run hb (j := 5) (by decide)) G _).1 rfl rfl rfl rfl (Nat.le_of_ble_eq_true rfl) dX2_copyOf_59 ?_
  refine v_S (show _ = mx S b (upd c 144 (d 144)) (cpE d c) 7 by rw [bset_bset, ← cpE_mk (c := c), mx_bits (by decide)]) ?_
  refine v_aload_n (pc := 62) 0 dX2_copyOf_62 rfl rfl ?_
  refine gX2_30 (pc := 63) hb hN dX2_copyOf_63 ?_
  refine c_callVv (pc := 66) (st := []) (ci := 6) (ct_J0_clear (S := mx S b (upd c 144 (d 144)) (cpE d c) 7) (k := b + 7) (v := mk4 (upd c 144 (d 144)) 7) (BC_run hb (j := 7) (by decide)) (mx_BS (by decide) (Nat.le_refl _)) (by omega)) kVX2_73 kDX2_73 (rm_ok hR (Nat.le_of_ble_eq_true rfl) (Nat.le_of_ble_eq_true rfl)) ⟨Nat.zero_le _, Nat.zero_le _⟩ (by omega) ((BC_run hb (j := 7) (by decide)) G _).1 rfl rfl rfl rfl (Nat.le_of_ble_eq_true rfl) dX2_copyOf_66 ?_
  refine v_aload_n (pc := 69) 0 dX2_copyOf_69 rfl rfl ?_
  refine gX2_30 (pc := 70) hb hN dX2_copyOf_70 ?_
  refine v_aload_n (pc := 73) 1 dX2_copyOf_73 rfl rfl ?_
  refine gX2_30 (pc := 74) ha hN dX2_copyOf_74 ?_
  refine c_callVv (pc := 77) (st := []) (ci := 6) (ct_J0_or (S := bset (mx S b (upd c 144 (d 144)) (cpE d c) 7) (b + 7) 0) (k := b + 7) (q := a + 7) (v := mk4 d 7) (BC_run hb (j := 7) (by decide)) (BC_run ha (j := 7) (by decide)) (bset_BS (by decide)) (BS_cp (by decide) hab hd0) (by omega) (by omega) (by omega) (by omega) (by omega)) kVX2_93 kDX2_93 (rm_ok hR (Nat.le_of_ble_eq_true rfl) (Nat.le_of_ble_eq_true rfl)) ⟨Nat.zero_le _, Nat.zero_le _⟩ (by omega) ((BC_run hb (j := 7) (by decide)) G _).1 rfl rfl rfl rfl (Nat.le_of_ble_eq_true rfl) dX2_copyOf_77 ?_
  refine v_S (show _ = mx S b (upd c 144 (d 144)) (cpE d c) 9 by rw [bset_bset, ← cpE_mk (c := c), mx_bits (by decide)]) ?_
  refine v_aload_n (pc := 80) 1 dX2_copyOf_80 rfl rfl ?_
  refine gX2_33 (pc := 81) ha hN dX2_copyOf_81 ?_
  refine v_iconst (pc := 84) (nI 0) dX2_copyOf_84 (by decide) ?_
  refine v_aload_n (pc := 85) 0 dX2_copyOf_85 rfl rfl ?_
  refine gX2_33 (pc := 86) hb hN dX2_copyOf_86 ?_
  refine v_iconst (pc := 89) (nI 0) dX2_copyOf_89 (by decide) ?_
  refine v_bipush (pc := 90) (nI 8) dX2_copyOf_90 (by decide) ?_
  refine c_cpj (pc := 92) (j := 9) (n := 8) rfl rfl q731 hab hd0 (IA_run8 ha (by decide) (by decide) (by decide)) (IA_run8 hb (by decide) (by decide) (by decide)) (by omega) (by omega) (by decide) (by decide) (by decide) (fun p => ri_8 (by decide)) (by rw [hR]; decide) (by rw [hR]; decide) dX2_copyOf_92 ?_
  refine v_aload_n (pc := 95) 1 dX2_copyOf_95 rfl rfl ?_
  refine gX2_37 (pc := 96) ha hN dX2_copyOf_96 ?_
  refine v_iconst (pc := 99) (nI 0) dX2_copyOf_99 (by decide) ?_
  refine v_aload_n (pc := 100) 0 dX2_copyOf_100 rfl rfl ?_
  refine gX2_37 (pc := 101) hb hN dX2_copyOf_101 ?_
  refine v_iconst (pc := 104) (nI 0) dX2_copyOf_104 (by decide) ?_
  refine v_bipush (pc := 105) (nI 8) dX2_copyOf_105 (by decide) ?_
  refine c_cpj (pc := 107) (j := 10) (n := 8) rfl rfl q731 hab hd0 (IA_run8 ha (by decide) (by decide) (by decide)) (IA_run8 hb (by decide) (by decide) (by decide)) (by omega) (by omega) (by decide) (by decide) (by decide) (fun p => ri_8 (by decide)) (by rw [hR]; decide) (by rw [hR]; decide) dX2_copyOf_107 ?_
  refine v_aload_n (pc := 110) 1 dX2_copyOf_110 rfl rfl ?_
  refine gX2_40 (pc := 111) ha hN dX2_copyOf_111 ?_
  refine v_iconst (pc := 114) (nI 0) dX2_copyOf_114 (by decide) ?_
  refine v_aload_n (pc := 115) 0 dX2_copyOf_115 rfl rfl ?_
  refine gX2_40 (pc := 116) hb hN dX2_copyOf_116 ?_
  refine v_iconst (pc := 119) (nI 0) dX2_copyOf_119 (by decide) ?_
  refine v_bipush (pc := 120) (nI 8) dX2_copyOf_120 (by decide) ?_
  refine c_cpj (pc := 122) (j := 11) (n := 8) rfl rfl q731 hab hd0 (IA_run8 ha (by decide) (by decide) (by decide)) (IA_run8 hb (by decide) (by decide) (by decide)) (by omega) (by omega) (by decide) (by decide) (by decide) (fun p => ri_8 (by decide)) (by rw [hR]; decide) (by rw [hR]; decide) dX2_copyOf_122 ?_
  refine v_aload_n (pc := 125) 1 dX2_copyOf_125 rfl rfl ?_
  refine gX2_43 (pc := 126) ha hN dX2_copyOf_126 ?_
  refine v_iconst (pc := 129) (nI 0) dX2_copyOf_129 (by decide) ?_
  refine v_aload_n (pc := 130) 0 dX2_copyOf_130 rfl rfl ?_
  refine gX2_43 (pc := 131) hb hN dX2_copyOf_131 ?_
  refine v_iconst (pc := 134) (nI 0) dX2_copyOf_134 (by decide) ?_
  refine v_bipush (pc := 135) (nI 8) dX2_copyOf_135 (by decide) ?_
  refine c_cpj (pc := 137) (j := 12) (n := 8) rfl rfl q731 hab hd0 (IA_run8 ha (by decide) (by decide) (by decide)) (IA_run8 hb (by decide) (by decide) (by decide)) (by omega) (by omega) (by decide) (by decide) (by decide) (fun p => ri_8 (by decide)) (by rw [hR]; decide) (by rw [hR]; decide) dX2_copyOf_137 ?_
  refine v_aload_n (pc := 140) 1 dX2_copyOf_140 rfl rfl ?_
  refine gX2_46 (pc := 141) ha hN dX2_copyOf_141 ?_
  refine v_iconst (pc := 144) (nI 0) dX2_copyOf_144 (by decide) ?_
  refine v_aload_n (pc := 145) 0 dX2_copyOf_145 rfl rfl ?_
  refine gX2_46 (pc := 146) hb hN dX2_copyOf_146 ?_
  refine v_iconst (pc := 149) (nI 0) dX2_copyOf_149 (by decide) ?_
  refine v_bipush (pc := 150) (nI 8) dX2_copyOf_150 (by decide) ?_
  refine c_cpj (pc := 152) (j := 13) (n := 8) rfl rfl q731 hab hd0 (IA_run8 ha (by decide) (by decide) (by decide)) (IA_run8 hb (by decide) (by decide) (by decide)) (by omega) (by omega) (by decide) (by decide) (by decide) (fun p => ri_8 (by decide)) (by rw [hR]; decide) (by rw [hR]; decide) dX2_copyOf_152 ?_
  refine v_aload_n (pc := 155) 1 dX2_copyOf_155 rfl rfl ?_
  refine gX2_49 (pc := 156) ha hN dX2_copyOf_156 ?_
  refine v_iconst (pc := 159) (nI 0) dX2_copyOf_159 (by decide) ?_
  refine v_aload_n (pc := 160) 0 dX2_copyOf_160 rfl rfl ?_
  refine gX2_49 (pc := 161) hb hN dX2_copyOf_161 ?_
  refine v_iconst (pc := 164) (nI 0) dX2_copyOf_164 (by decide) ?_
  refine v_bipush (pc := 165) (nI 8) dX2_copyOf_165 (by decide) ?_
  refine c_cpj (pc := 167) (j := 14) (n := 8) rfl rfl q731 hab hd0 (IA_run8 ha (by decide) (by decide) (by decide)) (IA_run8 hb (by decide) (by decide) (by decide)) (by omega) (by omega) (by decide) (by decide) (by decide) (fun p => ri_8 (by decide)) (by rw [hR]; decide) (by rw [hR]; decide) dX2_copyOf_167 ?_
  refine v_aload_n (pc := 170) 1 dX2_copyOf_170 rfl rfl ?_
  refine gX2_52 (pc := 171) ha hN dX2_copyOf_171 ?_
  refine v_iconst (pc := 174) (nI 0) dX2_copyOf_174 (by decide) ?_
  refine v_aload_n (pc := 175) 0 dX2_copyOf_175 rfl rfl ?_
  refine gX2_52 (pc := 176) hb hN dX2_copyOf_176 ?_
  refine v_iconst (pc := 179) (nI 0) dX2_copyOf_179 (by decide) ?_
  refine v_bipush (pc := 180) (nI 8) dX2_copyOf_180 (by decide) ?_
  refine c_cpj (pc := 182) (j := 15) (n := 8) rfl rfl q731 hab hd0 (IA_run8 ha (by decide) (by decide) (by decide)) (IA_run8 hb (by decide) (by decide) (by decide)) (by omega) (by omega) (by decide) (by decide) (by decide) (fun p => ri_8 (by decide)) (by rw [hR]; decide) (by rw [hR]; decide) dX2_copyOf_182 ?_
  refine v_S (mx_16 (by rw [pk_un (by decide)]; unfold cpE; rw [pk_un (by decide), pk_us])) ?_
  refine v_iconst (pc := 185) (nI 0) dX2_copyOf_185 (by decide) ?_
  refine v_istore_n (pc := 186) (lv' := [(2, .int (nI 0)), (0, .ref (gZ G + b)), (1, .ref (gZ G + a))]) dX2_copyOf_186 rfl (by decide) rfl ?_
  refine v_sub (lv' := [(2, .int (nI 0)), (0, .ref (gZ G + b)), (1, .ref (gZ G + a))]) [0, 1, 2] rfl ?_
  refine lp_cpl hR hb ha hab hd0 hN 8 0 (by omega) ?_
  refine v_aload_n (pc := 218) 1 dX2_copyOf_218 rfl rfl ?_
  refine gX2_60 (pc := 219) ha hN dX2_copyOf_219 ?_
  refine v_iconst (pc := 222) (nI 0) dX2_copyOf_222 (by decide) ?_
  refine v_aload_n (pc := 223) 0 dX2_copyOf_223 rfl rfl ?_
  refine gX2_60 (pc := 224) hb hN dX2_copyOf_224 ?_
  refine v_iconst (pc := 227) (nI 0) dX2_copyOf_227 (by decide) ?_
  refine v_bipush (pc := 228) (nI 60) dX2_copyOf_228 (by decide) ?_
  refine c_cpj (pc := 230) (j := 25) (n := 60) rfl rfl q731 hab hd0 (IA_run60 ha (by decide) (by decide)) (IA_run60 hb (by decide) (by decide)) (by omega) (by omega) (by decide) (by decide) (by decide) (fun p => ri_60 (by decide)) (by rw [hR]; decide) (by rw [hR]; decide) dX2_copyOf_230 ?_
  refine v_aload_n (pc := 233) 1 dX2_copyOf_233 rfl rfl ?_
  refine gX2_63 (pc := 234) ha hN dX2_copyOf_234 ?_
  refine v_iconst (pc := 237) (nI 0) dX2_copyOf_237 (by decide) ?_
  refine v_aload_n (pc := 238) 0 dX2_copyOf_238 rfl rfl ?_
  refine gX2_63 (pc := 239) hb hN dX2_copyOf_239 ?_
  refine v_iconst (pc := 242) (nI 0) dX2_copyOf_242 (by decide) ?_
  refine v_bipush (pc := 243) (nI 60) dX2_copyOf_243 (by decide) ?_
  refine c_cpj (pc := 245) (j := 26) (n := 60) rfl rfl q731 hab hd0 (IA_run60 ha (by decide) (by decide)) (IA_run60 hb (by decide) (by decide)) (by omega) (by omega) (by decide) (by decide) (by decide) (fun p => ri_60 (by decide)) (by rw [hR]; decide) (by rw [hR]; decide) dX2_copyOf_245 ?_
  refine v_aload_n (pc := 248) 1 dX2_copyOf_248 rfl rfl ?_
  refine gX2_66 (pc := 249) ha hN dX2_copyOf_249 ?_
  refine v_iconst (pc := 252) (nI 0) dX2_copyOf_252 (by decide) ?_
  refine v_aload_n (pc := 253) 0 dX2_copyOf_253 rfl rfl ?_
  refine gX2_66 (pc := 254) hb hN dX2_copyOf_254 ?_
  refine v_iconst (pc := 257) (nI 0) dX2_copyOf_257 (by decide) ?_
  refine v_bipush (pc := 258) (nI 60) dX2_copyOf_258 (by decide) ?_
  refine c_cpj (pc := 260) (j := 27) (n := 60) rfl rfl q731 hab hd0 (IA_run60 ha (by decide) (by decide)) (IA_run60 hb (by decide) (by decide)) (by omega) (by omega) (by decide) (by decide) (by decide) (fun p => ri_60 (by decide)) (by rw [hR]; decide) (by rw [hR]; decide) dX2_copyOf_260 ?_
  refine v_S mx_28 ?_
  refine v_aload_n (pc := 263) 0 dX2_copyOf_263 rfl rfl ?_
  refine v_aload_n (pc := 264) 1 dX2_copyOf_264 rfl rfl ?_
  refine gX2_76 (pc := 265) ha hN dX2_copyOf_265 ?_
  refine v_topi (v := d 145) ((congrFun (put_ne (by omega)) _).trans ((congrFun (hd0 0 (by decide)) 16).trans rfl)) ?_
  refine pX2_76 (pc := 268) hb hN dX2_copyOf_268 ?_
  refine v_S (pw_16) ?_
  refine v_aload_n (pc := 271) 0 dX2_copyOf_271 rfl rfl ?_
  exact v_aret (pc := 272) hr (Or.inl ⟨_, rfl⟩) (Or.inr ⟨_, rfl⟩) (Nat.le_refl _) (Nat.le_refl _) dX2_copyOf_272 (pA_mk rfl (hC_c (congrArg (put S b) cpE_end)))

