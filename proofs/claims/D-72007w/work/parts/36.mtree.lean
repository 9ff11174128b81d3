set_option maxRecDepth 100000
/-! ScopeTasksModel: tellsAll, tree: walks -/
set_option maxHeartbeats 4000000 in
theorem lp_ta1 {G : GT} {x : VX} {N : Nat} {Q : State → Prop} {S : ST} {A B : Nat → Int32} {t : Nat} (hN : 535 ≤ N) (ht : t < 8) (hA : S 517 = A) : ∀ (m k : Nat), k + m = 12 * t + 12 → V G x "ScopeTasksModel" cX3_tellsAll 3 Q 129 [(1, .int (nI t)), (0, .ref (gZ G + 513))] [] N (hC G (s1 S 523 (blk A B 0 (12 * t + 12)))) 0 0 → V G x "ScopeTasksModel" cX3_tellsAll 3 Q 100 [(2, .int (nI k)), (1, .int (nI t)), (0, .ref (gZ G + 513))] [] N (hC G (s1 S 523 (blk A B 0 k))) 0 0 := by
  intro m
  induction m with
  | zero =>
    intro k hkm hk
    refine v_iload_n (pc := 100) 0 dX3_tellsAll_100 rfl rfl ?_
    refine v_bipush (pc := 101) (nI 12) dX3_tellsAll_101 (by decide) ?_
    refine v_iload_n (pc := 103) 1 dX3_tellsAll_103 rfl rfl ?_
    refine v_imulN (pc := 104) dX3_tellsAll_104 ?_
    refine v_bipush (pc := 105) (nI 12) dX3_tellsAll_105 (by decide) ?_
    refine v_iaddN (pc := 107) dX3_tellsAll_107 ?_
    refine v_ic_geN (pc := 108) 129 (by omega) (by omega) dX3_tellsAll_108 (by decide) (fun c1 => ?_) (fun c1 => ?_)
    · skip
      refine v_sub (lv' := [(1, .int (nI t)), (0, .ref (gZ G + 513))]) [1, 2] rfl ?_
      obtain rfl : k = 12 * t + 12 := by omega
      exact hk
    · skip
      exact absurd c1 (by omega)
  | succ m ih =>
    intro k hkm hk
    refine v_iload_n (pc := 100) 0 dX3_tellsAll_100 rfl rfl ?_
    refine v_bipush (pc := 101) (nI 12) dX3_tellsAll_101 (by decide) ?_
    refine v_iload_n (pc := 103) 1 dX3_tellsAll_103 rfl rfl ?_
    refine v_imulN (pc := 104) dX3_tellsAll_104 ?_
    refine v_bipush (pc := 105) (nI 12) dX3_tellsAll_105 (by decide) ?_
    refine v_iaddN (pc := 107) dX3_tellsAll_107 ?_
    refine v_ic_geN (pc := 108) 129 (by omega) (by omega) dX3_tellsAll_108 (by decide) (fun c1 => ?_) (fun c1 => ?_)
    · skip
      exact absurd c1 (by omega)
    · skip
      refine v_aload_n (pc := 111) 2 dX3_tellsAll_111 rfl rfl ?_
      refine gX3_37 (pc := 112) hN dX3_tellsAll_112 ?_
      refine v_iload_n (pc := 115) 0 dX3_tellsAll_115 rfl rfl ?_
      refine v_aload_n (pc := 116) 2 dX3_tellsAll_116 rfl rfl ?_
      refine gX3_19 (pc := 117) hN dX3_tellsAll_117 ?_
      refine v_iload_n (pc := 120) 0 dX3_tellsAll_120 rfl rfl ?_
      refine c_iald (pc := 121) (k := 517) (j := k) IA_517 (by omega) rfl (by omega) (by decide) dX3_tellsAll_121 ?_
      refine v_topi (v := A k) ((congrFun (s1_ne (by omega)) _).trans (congrFun hA k)) ?_
      refine c_iast (pc := 122) (k := 523) (j := k) IA_523 (by omega) rfl (by omega) (by decide) dX3_tellsAll_122 ?_
      refine v_S (s2_s1 _ _ _ _ _) ?_
      refine v_iincN (pc := 123) (k := 0) (lv' := [(2, .int (nI (k + 1))), (1, .int (nI t)), (0, .ref (gZ G + 513))]) dX3_tellsAll_123 rfl (by decide) rfl ?_
      refine v_goto (pc := 126) 100 dX3_tellsAll_126 (by decide) ?_
      refine v_S (congrArg (s1 S 523) (blk0_s _ _ _)) ?_
      refine v_sub (lv' := [(2, .int (nI (k + 1))), (1, .int (nI t)), (0, .ref (gZ G + 513))]) [0, 1, 2] rfl ?_
      exact ih (k + 1) (by omega) hk

set_option maxHeartbeats 4000000 in
theorem lp_ta2 {G : GT} {x : VX} {N : Nat} {Q : State → Prop} {S : ST} (hN : 535 ≤ N) : ∀ (m t : Nat), t + m = 8 → V G x "ScopeTasksModel" cX3_tellsAll 3 Q 135 [(0, .ref (gZ G + 513))] [] N (hC G (s1 (s1 (s1 (s1 (s1 (s1 S 521 ((S 515))) 522 ((S 516))) 524 ((S 518))) 525 ((S 519))) 526 ((S 520))) 523 ((S 517)))) 0 0 → V G x "ScopeTasksModel" cX3_tellsAll 3 Q 29 [(1, .int (nI t)), (0, .ref (gZ G + 513))] [] N (hC G (s1 (s1 (s1 (s1 (s1 (s1 S 521 (blk (S 515) (S 521) 0 t)) 522 (blk (S 516) (S 522) 0 t)) 524 (blk (S 518) (S 524) 0 t)) 525 (blk (S 519) (S 525) 0 t)) 526 (blk (S 520) (S 526) 0 t)) 523 (blk (S 517) (S 523) 0 (12 * t)))) 0 0 := by
  intro m
  induction m with
  | zero =>
    intro t htm hk
    refine v_iload_n (pc := 29) 0 dX3_tellsAll_29 rfl rfl ?_
    refine v_bipush (pc := 30) (nI 8) dX3_tellsAll_30 (by decide) ?_
    refine v_ic_geN (pc := 32) 135 (by omega) (by omega) dX3_tellsAll_32 (by decide) (fun c1 => ?_) (fun c1 => ?_)
    · skip
      refine v_sub (lv' := [(0, .ref (gZ G + 513))]) [1] rfl ?_
      obtain rfl : t = 8 := by omega
      refine v_cells (S' := s1 (s1 (s1 (s1 (s1 (s1 S 521 ((S 515))) 522 ((S 516))) 524 ((S 518))) 525 ((S 519))) 526 ((S 520))) 523 ((S 517))) ?_ hk
      intro q hq
      by_cases e521 : q = 521
      · subst e521; exact Or.inr ⟨8, IA_521, fun j hj => (show blk (S 515) (S 521) 0 8 j = S 515 j from blk0_in hj)⟩
      by_cases e522 : q = 522
      · subst e522; exact Or.inr ⟨8, IA_522, fun j hj => (show blk (S 516) (S 522) 0 8 j = S 516 j from blk0_in hj)⟩
      by_cases e524 : q = 524
      · subst e524; exact Or.inr ⟨8, IA_524, fun j hj => (show blk (S 518) (S 524) 0 8 j = S 518 j from blk0_in hj)⟩
      by_cases e525 : q = 525
      · subst e525; exact Or.inr ⟨8, IA_525, fun j hj => (show blk (S 519) (S 525) 0 8 j = S 519 j from blk0_in hj)⟩
      by_cases e526 : q = 526
      · subst e526; exact Or.inr ⟨8, IA_526, fun j hj => (show blk (S 520) (S 526) 0 8 j = S 520 j from blk0_in hj)⟩
      by_cases e523 : q = 523
      · subst e523; exact Or.inr ⟨96, IA_523, fun j hj => (show blk (S 517) (S 523) 0 (12 * 8) j = S 517 j from blk0_in hj)⟩
      exact Or.inl (by simp only [s1, if_neg e521, if_neg e522, if_neg e524, if_neg e525, if_neg e526, if_neg e523])
    · skip
      exact absurd c1 (by omega)
  | succ m ih =>
    intro t htm hk
    refine v_iload_n (pc := 29) 0 dX3_tellsAll_29 rfl rfl ?_
    refine v_bipush (pc := 30) (nI 8) dX3_tellsAll_30 (by decide) ?_
    refine v_ic_geN (pc := 32) 135 (by omega) (by omega) dX3_tellsAll_32 (by decide) (fun c1 => ?_) (fun c1 => ?_)
    · skip
      exact absurd c1 (by omega)
    · skip
      refine v_aload_n (pc := 35) 1 dX3_tellsAll_35 rfl rfl ?_
      refine gX3_31 (pc := 36) hN dX3_tellsAll_36 ?_
      refine v_iload_n (pc := 39) 0 dX3_tellsAll_39 rfl rfl ?_
      refine v_aload_n (pc := 40) 1 dX3_tellsAll_40 rfl rfl ?_
      refine gX3_13 (pc := 41) hN dX3_tellsAll_41 ?_
      refine v_iload_n (pc := 44) 0 dX3_tellsAll_44 rfl rfl ?_
      refine c_iald (pc := 45) (k := 515) (j := t) IA_515 (by omega) rfl (by omega) (by decide) dX3_tellsAll_45 ?_
      refine v_topi (v := S 515 t) ((congrFun (s1_ne (by omega)) _).trans ((congrFun (s1_ne (by omega)) _).trans ((congrFun (s1_ne (by omega)) _).trans ((congrFun (s1_ne (by omega)) _).trans ((congrFun (s1_ne (by omega)) _).trans (congrFun (s1_ne (by omega)) _)))))) ?_
      refine c_iast (pc := 46) (k := 521) (j := t) IA_521 (by omega) rfl (by omega) (by decide) dX3_tellsAll_46 ?_
      refine v_S ((s2_s1n (by decide) _ _ _).trans (congrArg (fun z => s1 z 523 (blk (S 517) (S 523) 0 (12 * t))) ((s2_s1n (by decide) _ _ _).trans (congrArg (fun z => s1 z 526 (blk (S 520) (S 526) 0 t)) ((s2_s1n (by decide) _ _ _).trans (congrArg (fun z => s1 z 525 (blk (S 519) (S 525) 0 t)) ((s2_s1n (by decide) _ _ _).trans (congrArg (fun z => s1 z 524 (blk (S 518) (S 524) 0 t)) ((s2_s1n (by decide) _ _ _).trans (congrArg (fun z => s1 z 522 (blk (S 516) (S 522) 0 t)) (s2_s1 _ _ _ _ _))))))))))) ?_
      refine v_aload_n (pc := 47) 1 dX3_tellsAll_47 rfl rfl ?_
      refine gX3_34 (pc := 48) hN dX3_tellsAll_48 ?_
      refine v_iload_n (pc := 51) 0 dX3_tellsAll_51 rfl rfl ?_
      refine v_aload_n (pc := 52) 1 dX3_tellsAll_52 rfl rfl ?_
      refine gX3_16 (pc := 53) hN dX3_tellsAll_53 ?_
      refine v_iload_n (pc := 56) 0 dX3_tellsAll_56 rfl rfl ?_
      refine c_iald (pc := 57) (k := 516) (j := t) IA_516 (by omega) rfl (by omega) (by decide) dX3_tellsAll_57 ?_
      refine v_topi (v := S 516 t) ((congrFun (s1_ne (by omega)) _).trans ((congrFun (s1_ne (by omega)) _).trans ((congrFun (s1_ne (by omega)) _).trans ((congrFun (s1_ne (by omega)) _).trans ((congrFun (s1_ne (by omega)) _).trans (congrFun (s1_ne (by omega)) _)))))) ?_
      refine c_iast (pc := 58) (k := 522) (j := t) IA_522 (by omega) rfl (by omega) (by decide) dX3_tellsAll_58 ?_
      refine v_S ((s2_s1n (by decide) _ _ _).trans (congrArg (fun z => s1 z 523 (blk (S 517) (S 523) 0 (12 * t))) ((s2_s1n (by decide) _ _ _).trans (congrArg (fun z => s1 z 526 (blk (S 520) (S 526) 0 t)) ((s2_s1n (by decide) _ _ _).trans (congrArg (fun z => s1 z 525 (blk (S 519) (S 525) 0 t)) ((s2_s1n (by decide) _ _ _).trans (congrArg (fun z => s1 z 524 (blk (S 518) (S 524) 0 t)) (s2_s1 _ _ _ _ _))))))))) ?_
      refine v_aload_n (pc := 59) 1 dX3_tellsAll_59 rfl rfl ?_
      refine gX3_40 (pc := 60) hN dX3_tellsAll_60 ?_
      refine v_iload_n (pc := 63) 0 dX3_tellsAll_63 rfl rfl ?_
      refine v_aload_n (pc := 64) 1 dX3_tellsAll_64 rfl rfl ?_
      refine gX3_22 (pc := 65) hN dX3_tellsAll_65 ?_
      refine v_iload_n (pc := 68) 0 dX3_tellsAll_68 rfl rfl ?_
      refine c_iald (pc := 69) (k := 518) (j := t) IA_518 (by omega) rfl (by omega) (by decide) dX3_tellsAll_69 ?_
      refine v_topi (v := S 518 t) ((congrFun (s1_ne (by omega)) _).trans ((congrFun (s1_ne (by omega)) _).trans ((congrFun (s1_ne (by omega)) _).trans ((congrFun (s1_ne (by omega)) _).trans ((congrFun (s1_ne (by omega)) _).trans (congrFun (s1_ne (by omega)) _)))))) ?_
      refine c_iast (pc := 70) (k := 524) (j := t) IA_524 (by omega) rfl (by omega) (by decide) dX3_tellsAll_70 ?_
      refine v_S ((s2_s1n (by decide) _ _ _).trans (congrArg (fun z => s1 z 523 (blk (S 517) (S 523) 0 (12 * t))) ((s2_s1n (by decide) _ _ _).trans (congrArg (fun z => s1 z 526 (blk (S 520) (S 526) 0 t)) ((s2_s1n (by decide) _ _ _).trans (congrArg (fun z => s1 z 525 (blk (S 519) (S 525) 0 t)) (s2_s1 _ _ _ _ _))))))) ?_
      refine v_aload_n (pc := 71) 1 dX3_tellsAll_71 rfl rfl ?_
      refine gX3_43 (pc := 72) hN dX3_tellsAll_72 ?_
      refine v_iload_n (pc := 75) 0 dX3_tellsAll_75 rfl rfl ?_
      refine v_aload_n (pc := 76) 1 dX3_tellsAll_76 rfl rfl ?_
      refine gX3_25 (pc := 77) hN dX3_tellsAll_77 ?_
      refine v_iload_n (pc := 80) 0 dX3_tellsAll_80 rfl rfl ?_
      refine c_iald (pc := 81) (k := 519) (j := t) IA_519 (by omega) rfl (by omega) (by decide) dX3_tellsAll_81 ?_
      refine v_topi (v := S 519 t) ((congrFun (s1_ne (by omega)) _).trans ((congrFun (s1_ne (by omega)) _).trans ((congrFun (s1_ne (by omega)) _).trans ((congrFun (s1_ne (by omega)) _).trans ((congrFun (s1_ne (by omega)) _).trans (congrFun (s1_ne (by omega)) _)))))) ?_
      refine c_iast (pc := 82) (k := 525) (j := t) IA_525 (by omega) rfl (by omega) (by decide) dX3_tellsAll_82 ?_
      refine v_S ((s2_s1n (by decide) _ _ _).trans (congrArg (fun z => s1 z 523 (blk (S 517) (S 523) 0 (12 * t))) ((s2_s1n (by decide) _ _ _).trans (congrArg (fun z => s1 z 526 (blk (S 520) (S 526) 0 t)) (s2_s1 _ _ _ _ _))))) ?_
      refine v_aload_n (pc := 83) 1 dX3_tellsAll_83 rfl rfl ?_
      refine gX3_46 (pc := 84) hN dX3_tellsAll_84 ?_
      refine v_iload_n (pc := 87) 0 dX3_tellsAll_87 rfl rfl ?_
      refine v_aload_n (pc := 88) 1 dX3_tellsAll_88 rfl rfl ?_
      refine gX3_28 (pc := 89) hN dX3_tellsAll_89 ?_
      refine v_iload_n (pc := 92) 0 dX3_tellsAll_92 rfl rfl ?_
      refine c_iald (pc := 93) (k := 520) (j := t) IA_520 (by omega) rfl (by omega) (by decide) dX3_tellsAll_93 ?_
      refine v_topi (v := S 520 t) ((congrFun (s1_ne (by omega)) _).trans ((congrFun (s1_ne (by omega)) _).trans ((congrFun (s1_ne (by omega)) _).trans ((congrFun (s1_ne (by omega)) _).trans ((congrFun (s1_ne (by omega)) _).trans (congrFun (s1_ne (by omega)) _)))))) ?_
      refine c_iast (pc := 94) (k := 526) (j := t) IA_526 (by omega) rfl (by omega) (by decide) dX3_tellsAll_94 ?_
      refine v_S ((s2_s1n (by decide) _ _ _).trans (congrArg (fun z => s1 z 523 (blk (S 517) (S 523) 0 (12 * t))) (s2_s1 _ _ _ _ _))) ?_
      refine v_bipush (pc := 95) (nI 12) dX3_tellsAll_95 (by decide) ?_
      refine v_iload_n (pc := 97) 0 dX3_tellsAll_97 rfl rfl ?_
      refine v_imulN (pc := 98) dX3_tellsAll_98 ?_
      refine v_istore_n (pc := 99) (lv' := [(2, .int (nI (12 * t))), (1, .int (nI t)), (0, .ref (gZ G + 513))]) dX3_tellsAll_99 rfl (by decide) rfl ?_
      refine v_sub (lv' := [(2, .int (nI (12 * t))), (1, .int (nI t)), (0, .ref (gZ G + 513))]) [0, 1, 2] rfl ?_
      refine lp_ta1 (A := S 517) (B := S 523) hN (by omega) (by simp [s1]) 12 (12 * t) (by omega) ?_
      refine v_iincN (pc := 129) (k := 0) (lv' := [(1, .int (nI (t + 1))), (0, .ref (gZ G + 513))]) dX3_tellsAll_129 rfl (by decide) rfl ?_
      refine v_goto (pc := 132) 29 dX3_tellsAll_132 (by decide) ?_
      refine v_sub (lv' := [(1, .int (nI (t + 1))), (0, .ref (gZ G + 513))]) [0, 1] rfl ?_
      refine v_S (S' := s1 (s1 (s1 (s1 (s1 (s1 S 521 (blk (S 515) (S 521) 0 (t + 1))) 522 (blk (S 516) (S 522) 0 (t + 1))) 524 (blk (S 518) (S 524) 0 (t + 1))) 525 (blk (S 519) (S 525) 0 (t + 1))) 526 (blk (S 520) (S 526) 0 (t + 1))) 523 (blk (S 517) (S 523) 0 (12 * (t + 1)))) (by rw [blk0_s, blk0_s, blk0_s, blk0_s, blk0_s, show 12 * (t + 1) = 12 * t + 12 by omega]) ?_
      exact ih (t + 1) (by omega) hk

set_option maxHeartbeats 4000000 in
theorem ct_X3_tellsAll {G : GT} {l : Launch} {N : Nat} {S : ST}  (h7 : inN (S 513 7) 8) (hN : 535 ≤ N) : CTv G l yX3_tellsAll cX3_tellsAll 3 none 1 [.ref (gZ G + 513)] N (S) (taS S) := by
  obtain ⟨k, hkn⟩ : ∃ q, nn (S 513 7) = q := ⟨_, rfl⟩
  have hkE := (h7).1
  have hkL := (h7).2
  rw [hkn] at hkE hkL
  refine CT.mk "ScopeTasksModel" [(0, .ref (gZ G + 513))] rfl (by decide) rfl (Nat.le_of_ble_eq_true rfl) ?_
  intro x hR hl hr hnm
  refine v_aload_n (pc := 0) 0 dX3_tellsAll_0 rfl rfl ?_
  refine v_aload_n (pc := 1) 0 dX3_tellsAll_1 rfl rfl ?_
  refine gX3_120 (pc := 2) hN dX3_tellsAll_2 ?_
  refine v_topi (v := nI k) hkE ?_
  refine v_if_leN (pc := 5) 15 (by omega) dX3_tellsAll_5 (by decide) (fun c1 => ?_) (fun c1 => ?_)
  · skip
    refine v_iconst (pc := 15) (nI 1) dX3_tellsAll_15 (by decide) ?_
    refine pX3_142 (pc := 16) hN dX3_tellsAll_16 ?_
    refine v_aload_n (pc := 19) 0 dX3_tellsAll_19 rfl rfl ?_
    refine v_aload_n (pc := 20) 0 dX3_tellsAll_20 rfl rfl ?_
    refine gX3_123 (pc := 21) hN dX3_tellsAll_21 ?_
    refine v_topi (v := S 513 8) (s2_nj (by omega)) ?_
    refine pX3_145 (pc := 24) hN dX3_tellsAll_24 ?_
    refine v_iconst (pc := 27) (nI 0) dX3_tellsAll_27 (by decide) ?_
    refine v_istore_n (pc := 28) (lv' := [(1, .int (nI 0)), (0, .ref (gZ G + 513))]) dX3_tellsAll_28 rfl (by decide) rfl ?_
    refine v_sub (lv' := [(1, .int (nI 0)), (0, .ref (gZ G + 513))]) [0, 1] rfl ?_
    obtain ⟨S0, hS0⟩ : ∃ q, q = s2 (s2 S 513 15 (nI 1)) 513 16 (S 513 8) := ⟨_, rfl⟩
    rw [← hS0]
    have e515 : S0 515 = S 515 := by rw [hS0, s2_nk (by decide), s2_nk (by decide)]
    have e516 : S0 516 = S 516 := by rw [hS0, s2_nk (by decide), s2_nk (by decide)]
    have e518 : S0 518 = S 518 := by rw [hS0, s2_nk (by decide), s2_nk (by decide)]
    have e519 : S0 519 = S 519 := by rw [hS0, s2_nk (by decide), s2_nk (by decide)]
    have e520 : S0 520 = S 520 := by rw [hS0, s2_nk (by decide), s2_nk (by decide)]
    have e517 : S0 517 = S 517 := by rw [hS0, s2_nk (by decide), s2_nk (by decide)]
    refine v_S (S' := s1 (s1 (s1 (s1 (s1 (s1 S0 521 (blk (S0 515) (S0 521) 0 0)) 522 (blk (S0 516) (S0 522) 0 0)) 524 (blk (S0 518) (S0 524) 0 0)) 525 (blk (S0 519) (S0 525) 0 0)) 526 (blk (S0 520) (S0 526) 0 0)) 523 (blk (S0 517) (S0 523) 0 (12 * 0))) (by simp only [blk_0, Nat.mul_zero, s1_self]) ?_
    refine lp_ta2 hN 8 0 (by omega) ?_
    refine v_S (S' := taT S) (by unfold taT mK; rw [e515, e516, e518, e519, e520, e517, hS0, hkn, if_neg (by omega)]) ?_
    refine v_aload_n (pc := 135) 0 dX3_tellsAll_135 rfl rfl ?_
    refine v_aload_n (pc := 136) 0 dX3_tellsAll_136 rfl rfl ?_
    refine gX3_49 (pc := 137) hN dX3_tellsAll_137 ?_
    refine v_S (s1_of (k := 527) (f := (taT S) 527) rfl) ?_
    refine c_callVv (pc := 140) (st := []) (ci := 3) (ct_X3_starts (S := taT S) (a := 527) (g := (taT S) 527) (Or.inl rfl) (by omega)) kVX3_148 kDX3_148 (rm_ok hR (Nat.le_of_ble_eq_true rfl) (Nat.le_of_ble_eq_true rfl)) ⟨Nat.zero_le _, Nat.zero_le _⟩ (by omega) (rfl) rfl rfl rfl rfl (Nat.le_of_ble_eq_true rfl) dX3_tellsAll_140 ?_
    refine v_aload_n (pc := 143) 0 dX3_tellsAll_143 rfl rfl ?_
    refine v_iconst (pc := 144) (nI 0) dX3_tellsAll_144 (by decide) ?_
    refine pX3_152 (pc := 145) hN dX3_tellsAll_145 ?_
    refine v_aload_n (pc := 148) 0 dX3_tellsAll_148 rfl rfl ?_
    refine v_iconst (pc := 149) (nI 0) dX3_tellsAll_149 (by decide) ?_
    refine pX3_155 (pc := 150) hN dX3_tellsAll_150 ?_
    refine v_aload_n (pc := 153) 0 dX3_tellsAll_153 rfl rfl ?_
    refine gX3_67 (pc := 154) hN dX3_tellsAll_154 ?_
    refine v_iconst (pc := 157) (nI 0) dX3_tellsAll_157 (by decide) ?_
    refine v_iconst (pc := 158) (nI 0) dX3_tellsAll_158 (by decide) ?_
    refine c_zast (pc := 159) (k := 533) (j := 0) ZA_533 (by omega) rfl (by omega) (by decide) (by decide) dX3_tellsAll_159 ?_
    refine v_aload_n (pc := 160) 0 dX3_tellsAll_160 rfl rfl ?_
    refine gX3_67 (pc := 161) hN dX3_tellsAll_161 ?_
    refine v_iconst (pc := 164) (nI 1) dX3_tellsAll_164 (by decide) ?_
    refine v_iconst (pc := 165) (nI 0) dX3_tellsAll_165 (by decide) ?_
    refine c_zast (pc := 166) (k := 533) (j := 1) ZA_533 (by omega) rfl (by omega) (by decide) (by decide) dX3_tellsAll_166 ?_
    exact v_vret (pc := 167) hr (Nat.le_refl _) (Nat.le_refl _) dX3_tellsAll_167 (pV_mk (hC_c rfl))
  · skip
    refine v_aload_n (pc := 8) 0 dX3_tellsAll_8 rfl rfl ?_
    refine gX3_120 (pc := 9) hN dX3_tellsAll_9 ?_
    refine v_topi (v := nI k) hkE ?_
    refine v_goto (pc := 12) 16 dX3_tellsAll_12 (by decide) ?_
    refine pX3_142 (pc := 16) hN dX3_tellsAll_16 ?_
    refine v_aload_n (pc := 19) 0 dX3_tellsAll_19 rfl rfl ?_
    refine v_aload_n (pc := 20) 0 dX3_tellsAll_20 rfl rfl ?_
    refine gX3_123 (pc := 21) hN dX3_tellsAll_21 ?_
    refine v_topi (v := S 513 8) (s2_nj (by omega)) ?_
    refine pX3_145 (pc := 24) hN dX3_tellsAll_24 ?_
    refine v_iconst (pc := 27) (nI 0) dX3_tellsAll_27 (by decide) ?_
    refine v_istore_n (pc := 28) (lv' := [(1, .int (nI 0)), (0, .ref (gZ G + 513))]) dX3_tellsAll_28 rfl (by decide) rfl ?_
    refine v_sub (lv' := [(1, .int (nI 0)), (0, .ref (gZ G + 513))]) [0, 1] rfl ?_
    obtain ⟨S0, hS0⟩ : ∃ q, q = s2 (s2 S 513 15 (nI k)) 513 16 (S 513 8) := ⟨_, rfl⟩
    rw [← hS0]
    have e515 : S0 515 = S 515 := by rw [hS0, s2_nk (by decide), s2_nk (by decide)]
    have e516 : S0 516 = S 516 := by rw [hS0, s2_nk (by decide), s2_nk (by decide)]
    have e518 : S0 518 = S 518 := by rw [hS0, s2_nk (by decide), s2_nk (by decide)]
    have e519 : S0 519 = S 519 := by rw [hS0, s2_nk (by decide), s2_nk (by decide)]
    have e520 : S0 520 = S 520 := by rw [hS0, s2_nk (by decide), s2_nk (by decide)]
    have e517 : S0 517 = S 517 := by rw [hS0, s2_nk (by decide), s2_nk (by decide)]
    refine v_S (S' := s1 (s1 (s1 (s1 (s1 (s1 S0 521 (blk (S0 515) (S0 521) 0 0)) 522 (blk (S0 516) (S0 522) 0 0)) 524 (blk (S0 518) (S0 524) 0 0)) 525 (blk (S0 519) (S0 525) 0 0)) 526 (blk (S0 520) (S0 526) 0 0)) 523 (blk (S0 517) (S0 523) 0 (12 * 0))) (by simp only [blk_0, Nat.mul_zero, s1_self]) ?_
    refine lp_ta2 hN 8 0 (by omega) ?_
    refine v_S (S' := taT S) (by unfold taT mK; rw [e515, e516, e518, e519, e520, e517, hS0, hkn, if_pos c1, hkE]) ?_
    refine v_aload_n (pc := 135) 0 dX3_tellsAll_135 rfl rfl ?_
    refine v_aload_n (pc := 136) 0 dX3_tellsAll_136 rfl rfl ?_
    refine gX3_49 (pc := 137) hN dX3_tellsAll_137 ?_
    refine v_S (s1_of (k := 527) (f := (taT S) 527) rfl) ?_
    refine c_callVv (pc := 140) (st := []) (ci := 3) (ct_X3_starts (S := taT S) (a := 527) (g := (taT S) 527) (Or.inl rfl) (by omega)) kVX3_148 kDX3_148 (rm_ok hR (Nat.le_of_ble_eq_true rfl) (Nat.le_of_ble_eq_true rfl)) ⟨Nat.zero_le _, Nat.zero_le _⟩ (by omega) (rfl) rfl rfl rfl rfl (Nat.le_of_ble_eq_true rfl) dX3_tellsAll_140 ?_
    refine v_aload_n (pc := 143) 0 dX3_tellsAll_143 rfl rfl ?_
    refine v_iconst (pc := 144) (nI 0) dX3_tellsAll_144 (by decide) ?_
    refine pX3_152 (pc := 145) hN dX3_tellsAll_145 ?_
    refine v_aload_n (pc := 148) 0 dX3_tellsAll_148 rfl rfl ?_
    refine v_iconst (pc := 149) (nI 0) dX3_tellsAll_149 (by decide) ?_
    refine pX3_155 (pc := 150) hN dX3_tellsAll_150 ?_
    refine v_aload_n (pc := 153) 0 dX3_tellsAll_153 rfl rfl ?_
    refine gX3_67 (pc := 154) hN dX3_tellsAll_154 ?_
    refine v_iconst (pc := 157) (nI 0) dX3_tellsAll_157 (by decide) ?_
    refine v_iconst (pc := 158) (nI 0) dX3_tellsAll_158 (by decide) ?_
    refine c_zast (pc := 159) (k := 533) (j := 0) ZA_533 (by omega) rfl (by omega) (by decide) (by decide) dX3_tellsAll_159 ?_
    refine v_aload_n (pc := 160) 0 dX3_tellsAll_160 rfl rfl ?_
    refine gX3_67 (pc := 161) hN dX3_tellsAll_161 ?_
    refine v_iconst (pc := 164) (nI 1) dX3_tellsAll_164 (by decide) ?_
    refine v_iconst (pc := 165) (nI 0) dX3_tellsAll_165 (by decide) ?_
    refine c_zast (pc := 166) (k := 533) (j := 1) ZA_533 (by omega) rfl (by omega) (by decide) (by decide) dX3_tellsAll_166 ?_
    exact v_vret (pc := 167) hr (Nat.le_refl _) (Nat.le_refl _) dX3_tellsAll_167 (pV_mk (hC_c rfl))

set_option maxHeartbeats 4000000 in
theorem lp_tree {G : GT} {x : VX} {N : Nat} {Q : State → Prop} (hN : 535 ≤ N) (hR : xR x = RM 7 0 0) : ∀ (m i : Nat) (S : ST), MR S → mL S ≤ mP S + m → ((trL m i S).1 = true → V G x "ScopeTasksModel" cX3_tree 2 Q 51 [(1, .int (nI (trL m i S).2.1)), (0, .ref (gZ G + 513))] [] N (hC G (trL m i S).2.2) 0 0) → ((trL m i S).1 = false → V G x "ScopeTasksModel" cX3_tree 2 Q 33 [(1, .int (nI (trL m i S).2.1)), (0, .ref (gZ G + 513))] [] N (hC G (trL m i S).2.2) 0 0) → V G x "ScopeTasksModel" cX3_tree 2 Q 15 [(1, .int (nI i)), (0, .ref (gZ G + 513))] [] N (hC G S) 0 0 := by
  intro m
  induction m with
  | zero =>
    intro i S hM hfu hk hf
    obtain ⟨p, hpn⟩ : ∃ q, nn (S 513 2) = q := ⟨_, rfl⟩
    have hpE := (hM.1.2).1
    have hpL := (hM.1.2).2
    rw [hpn] at hpE hpL
    obtain ⟨L, hLn⟩ : ∃ q, nn (S 513 0) = q := ⟨_, rfl⟩
    have hLE := (hM.1.1).1
    have hLL := (hM.1.1).2
    rw [hLn] at hLE hLL
    have hmp : mP S = p := hpn
    have hml : mL S = L := hLn
    rw [hmp, hml] at hfu
    rw [hml] at hpL
    refine v_aload_n (pc := 15) 1 dX3_tree_15 rfl rfl ?_
    refine gX3_88 (pc := 16) hN dX3_tree_16 ?_
    refine v_topi (v := nI p) hpE ?_
    refine v_aload_n (pc := 19) 1 dX3_tree_19 rfl rfl ?_
    refine gX3_84 (pc := 20) hN dX3_tree_20 ?_
    refine v_topi (v := nI L) hLE ?_
    refine v_ic_geN (pc := 23) 51 (by omega) (by omega) dX3_tree_23 (by decide) (fun c1 => ?_) (fun c1 => ?_)
    · skip
      refine v_sub (lv' := [(1, .int (nI i)), (0, .ref (gZ G + 513))]) [0, 1] rfl ?_
      exact hk rfl
    · skip
      exact absurd c1 (by omega)
  | succ m ih =>
    intro i S hM hfu hk hf
    obtain ⟨p, hpn⟩ : ∃ q, nn (S 513 2) = q := ⟨_, rfl⟩
    have hpE := (hM.1.2).1
    have hpL := (hM.1.2).2
    rw [hpn] at hpE hpL
    obtain ⟨L, hLn⟩ : ∃ q, nn (S 513 0) = q := ⟨_, rfl⟩
    have hLE := (hM.1.1).1
    have hLL := (hM.1.1).2
    rw [hLn] at hLE hLL
    have hmp : mP S = p := hpn
    have hml : mL S = L := hLn
    rw [hmp, hml] at hfu
    rw [hml] at hpL
    refine v_aload_n (pc := 15) 1 dX3_tree_15 rfl rfl ?_
    refine gX3_88 (pc := 16) hN dX3_tree_16 ?_
    refine v_topi (v := nI p) hpE ?_
    refine v_aload_n (pc := 19) 1 dX3_tree_19 rfl rfl ?_
    refine gX3_84 (pc := 20) hN dX3_tree_20 ?_
    refine v_topi (v := nI L) hLE ?_
    refine v_ic_geN (pc := 23) 51 (by omega) (by omega) dX3_tree_23 (by decide) (fun c1 => ?_) (fun c1 => ?_)
    · skip
      refine v_sub (lv' := [(1, .int (nI i)), (0, .ref (gZ G + 513))]) [0, 1] rfl ?_
      rw [trL, if_neg (by rw [hmp, hml]; omega : ¬ mP S < mL S)] at hk
      exact hk rfl
    · skip
      have hlt : mP S < mL S := by rw [hmp, hml]; exact c1
      refine v_aload_n (pc := 26) 1 dX3_tree_26 rfl rfl ?_
      refine c_callVi (pc := 27) (st := []) (ci := 3) (ct_X3_readsItem (S := S)  hM (by omega)) kVX3_158 kDX3_158 (rm_ok hR (Nat.le_of_ble_eq_true rfl) (Nat.le_of_ble_eq_true rfl)) ⟨Nat.zero_le _, Nat.zero_le _⟩ (by omega) (rfl) rfl rfl rfl rfl (Nat.le_of_ble_eq_true rfl) dX3_tree_27 ?_
      refine v_if_neB (pc := 30) 41 dX3_tree_30 (by decide) (fun c2 => ?_) (fun c2 => ?_)
      · skip
        refine v_iincN (pc := 41) (k := 0) (lv' := [(1, .int (nI (i + 1))), (0, .ref (gZ G + 513))]) dX3_tree_41 rfl (by decide) rfl ?_
        refine v_aload_n (pc := 44) 1 dX3_tree_44 rfl rfl ?_
        refine c_callVv (pc := 45) (st := []) (ci := 3) (cs_X3_blanks (S := (riR S).2)  (MR_riR hM).1.1 (by omega)) kVX3_91 kDX3_91 (rm_ok hR (Nat.le_of_ble_eq_true rfl) (Nat.le_of_ble_eq_true rfl)) ⟨Nat.zero_le _, Nat.zero_le _⟩ (by omega) (rfl) rfl rfl rfl rfl (Nat.le_of_ble_eq_true rfl) dX3_tree_45 ?_
        refine v_goto (pc := 48) 15 dX3_tree_48 (by decide) ?_
        refine v_sub (lv' := [(1, .int (nI (i + 1))), (0, .ref (gZ G + 513))]) [0, 1] rfl ?_
        rw [trL, if_pos hlt, if_pos c2] at hk hf
        have hp1 := riR_gt hM hlt
        have hF := (MR_riR hM).2.tr (Fw_bl (MR_riR hM).1.1)
        have hF2 := (Fw_bl (MR_riR hM).1.1).2.2
        exact ih (i + 1) _ (MR_bl (MR_riR hM).1) (by have e := congrArg nn hF.2.1; unfold mL at *; omega) hk hf
      · skip
        rw [trL, if_pos hlt, if_neg c2] at hk hf
        exact hf rfl

theorem bgS_513 (S : ST) {j : Nat} (h : j ≠ 7) (h8 : j ≠ 8) : bgS S 513 j = S 513 j := by
  unfold bgS
  rw [s1_ne (by decide), s1_ne (by decide), s1_ne (by decide), s1_ne (by decide), s1_ne (by decide), s2_nj h8, s2_nj h]
theorem bgS_7 (S : ST) : bgS S 513 7 = nI 0 := by
  unfold bgS
  rw [s1_ne (by decide), s1_ne (by decide), s1_ne (by decide), s1_ne (by decide), s1_ne (by decide), s2_nj (by decide), s2_at]
theorem bgS_516 (S : ST) : bgS S 516 = fun _ => nI 0 := by
  unfold bgS
  rw [s1_ne (by decide), s1_ne (by decide), s1_ne (by decide), s1_at]
theorem MR_bg {S : ST} (h : inN (S 513 0) 120) : MR (s2 (bgS S) 513 2 (nI 0)) := by
  refine ⟨⟨?_, ?_⟩, ?_, fun t _ => ?_⟩
  · rw [s2_nj (by decide), bgS_513 S (by decide) (by decide)]; exact h
  · rw [s2_at]
    refine inN_nI (Nat.zero_le _) ?_
    have := h.2
    unfold mL
    rw [s2_nj (by decide), bgS_513 S (by decide) (by decide)]; omega
  · rw [s2_nj (by decide), bgS_7]; exact inN_nI (by decide) (by decide)
  · rw [s2_nk (by decide), bgS_516]; exact inN_nI (by decide) (by decide)
theorem trS0_L {S : ST} (h : inN (S 513 0) 120) : mL (trS0 S) = mL S := by
  have := (Fw_bl (MR_bg h).1).2.1
  unfold mL trS0
  rw [this, s2_nj (by decide), bgS_513 S (by decide) (by decide)]
set_option maxHeartbeats 4000000 in
theorem ct_X3_tree {G : GT} {l : Launch} {N : Nat} {S : ST}  (h0 : inN (S 513 0) 120) (hN : 535 ≤ N) : CTi G l yX3_tree cX3_tree 2 (some .int) 7 [.ref (gZ G + 513)] N (S) (mTreeV S) (mTreeS S) := by
  refine CT.mk "ScopeTasksModel" [(0, .ref (gZ G + 513))] rfl (by decide) rfl (Nat.le_of_ble_eq_true rfl) ?_
  intro x hR hl hr hnm
  refine v_aload_n (pc := 0) 0 dX3_tree_0 rfl rfl ?_
  refine c_callVv (pc := 1) (st := []) (ci := 3) (ct_X3_begins (S := S)  (by omega)) kVX3_74 kDX3_74 (rm_ok hR (Nat.le_of_ble_eq_true rfl) (Nat.le_of_ble_eq_true rfl)) ⟨Nat.zero_le _, Nat.zero_le _⟩ (by omega) (rfl) rfl rfl rfl rfl (Nat.le_of_ble_eq_true rfl) dX3_tree_1 ?_
  refine v_aload_n (pc := 4) 0 dX3_tree_4 rfl rfl ?_
  refine v_iconst (pc := 5) (nI 0) dX3_tree_5 (by decide) ?_
  refine pX3_88 (pc := 6) hN dX3_tree_6 ?_
  refine v_iconst (pc := 9) (nI 0) dX3_tree_9 (by decide) ?_
  refine v_istore_n (pc := 10) (lv' := [(1, .int (nI 0)), (0, .ref (gZ G + 513))]) dX3_tree_10 rfl (by decide) rfl ?_
  refine v_aload_n (pc := 11) 1 dX3_tree_11 rfl rfl ?_
  refine c_callVv (pc := 12) (st := []) (ci := 3) (cs_X3_blanks (S := s2 (bgS S) 513 2 (nI 0))  (MR_bg h0).1 (by omega)) kVX3_91 kDX3_91 (rm_ok hR (Nat.le_of_ble_eq_true rfl) (Nat.le_of_ble_eq_true rfl)) ⟨Nat.zero_le _, Nat.zero_le _⟩ (by omega) (rfl) rfl rfl rfl rfl (Nat.le_of_ble_eq_true rfl) dX3_tree_12 ?_
  refine v_sub (lv' := [(1, .int (nI 0)), (0, .ref (gZ G + 513))]) [0, 1] rfl ?_
  have hM0 : MR (trS0 S) := MR_bl (MR_bg h0)
  have hL0 := trS0_L h0
  rw [show blS (s2 (bgS S) 513 2 (nI 0)) = trS0 S from rfl]
  have hMT := MR_trL (mL S - mP (trS0 S)) 0 (trS0 S) hM0
  refine lp_tree hN hR (mL S - mP (trS0 S)) 0 (trS0 S) hM0 (by omega) (fun hb => ?_) (fun hb => ?_)
  · skip
    obtain ⟨S1, hS1⟩ : ∃ q, q = (trT S).2.2 := ⟨_, rfl⟩
    rw [← hS1] at hMT ⊢
    refine v_aload_n (pc := 51) 1 dX3_tree_51 rfl rfl ?_
    refine v_iconst (pc := 52) (nI 0) dX3_tree_52 (by decide) ?_
    refine pX3_84 (pc := 53) hN dX3_tree_53 ?_
    refine v_aload_n (pc := 56) 1 dX3_tree_56 rfl rfl ?_
    refine c_callVv (pc := 57) (st := []) (ci := 3) (ct_X3_tellsAll (S := s2 S1 513 0 (nI 0))  (by rw [s2_nj (by decide)]; exact hMT.2.1) (by omega)) kVX3_77 kDX3_77 (rm_ok hR (Nat.le_of_ble_eq_true rfl) (Nat.le_of_ble_eq_true rfl)) ⟨Nat.zero_le _, Nat.zero_le _⟩ (by omega) (rfl) rfl rfl rfl rfl (Nat.le_of_ble_eq_true rfl) dX3_tree_57 ?_
    refine v_iload_n (pc := 60) 0 dX3_tree_60 rfl rfl ?_
    exact v_iret (pc := 61) hr rfl (Nat.le_refl _) (Nat.le_refl _) dX3_tree_61 (pI_mk (by unfold mTreeV; rw [if_pos hb]) (hC_c (by unfold mTreeS; rw [if_pos hb, ← hS1])))
  · skip
    obtain ⟨S1, hS1⟩ : ∃ q, q = (trT S).2.2 := ⟨_, rfl⟩
    rw [← hS1] at hMT ⊢
    refine v_bipush (pc := 33) ((-10)) dX3_tree_33 (by decide) ?_
    refine v_aload_n (pc := 35) 1 dX3_tree_35 rfl rfl ?_
    refine gX3_111 (pc := 36) hN dX3_tree_36 ?_
    refine v_isub (pc := 39) dX3_tree_39 ?_
    exact v_iret (pc := 40) hr rfl (Nat.le_refl _) (Nat.le_refl _) dX3_tree_40 (pI_mk (by unfold mTreeV; rw [if_neg (by rw [hb]; decide)]; rw [hS1]) (hC_c (by unfold mTreeS; rw [if_neg (by rw [hb]; decide), ← hS1])))

