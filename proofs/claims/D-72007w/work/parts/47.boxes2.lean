set_option maxRecDepth 100000
/-! java.lang.Integer: walks -/
theorem iv_lo {c : Nat} (h : c < 128) : ¬ nI c < (-128) := by
  have : ∀ c : Fin 128, ¬ nI c.val < (-128) := by decide +kernel
  exact this ⟨c, h⟩
set_option maxHeartbeats 4000000 in
theorem ct_J15_valueOf {G : GT} {l : Launch} {N : Nat} {S : ST} {c : Nat} (hc : c < 128) : CTa G l yJ15_valueOf cJ15_valueOf 1 (some (.object "java/lang/Integer")) 0 [.int (nI c)] N (S) (.ref (gI G (c + 128))) (S) := by
  refine CT.mk "java/lang/Integer" [(0, .int (nI c))] rfl (by decide) rfl (Nat.le_of_ble_eq_true rfl) ?_
  intro x hR hl hr hnm
  refine v_iload_n (pc := 0) 0 dJ15_valueOf_0 rfl rfl ?_
  refine v_bipush (pc := 1) ((-128)) dJ15_valueOf_1 (by decide) ?_
  refine v_ic_lt (pc := 3) 23 dJ15_valueOf_3 (by decide) (fun h => absurd h (iv_lo hc)) (fun _ => ?_)
  refine v_iload_n (pc := 6) 0 dJ15_valueOf_6 rfl rfl ?_
  refine v_gets (pc := 7) (C := "java/lang/Integer$IntegerCache") (v := .int 127) (fun C => C.2.2.2.2.2.1.2.1) q782 rfl dJ15_valueOf_7 ?_
  refine v_topi (v := nI 127) rfl ?_
  refine v_ic_gtN (pc := 10) 23 (by omega) (by omega) dJ15_valueOf_10 (by decide) (fun c1 => ?_) (fun c1 => ?_)
  · skip
    exact absurd c1 (by omega)
  · skip
    refine v_gets (pc := 13) (C := "java/lang/Integer$IntegerCache") (v := .ref (gX G 0)) (fun C => C.2.2.2.2.2.1.2.2.1) q784 rfl dJ15_valueOf_13 ?_
    refine v_iload_n (pc := 16) 0 dJ15_valueOf_16 rfl rfl ?_
    refine v_sipush (pc := 17) (nI 128) dJ15_valueOf_17 (by decide) ?_
    refine v_iaddN (pc := 20) dJ15_valueOf_20 ?_
    refine v_tq (pc := 21) (c := c) hc dJ15_valueOf_21 ?_
    exact v_aret (pc := 22) hr (Or.inl ⟨_, rfl⟩) (Or.inr ⟨_, rfl⟩) (Nat.le_refl _) (Nat.le_refl _) dJ15_valueOf_22 (pA_mk rfl (hC_c rfl))

set_option maxHeartbeats 4000000 in
theorem ct_J15_intValue {G : GT} {l : Launch} {N : Nat} {S : ST} {c : Nat} (hc : c < 128) : CTi G l yJ15_intValue cJ15_intValue 1 (some .int) 0 [.ref (gI G (c + 128))] N (S) (nI c) (S) := by
  refine CT.mk "java/lang/Integer" [(0, .ref (gI G (c + 128)))] rfl (by decide) rfl (Nat.le_of_ble_eq_true rfl) ?_
  intro x hR hl hr hnm
  refine v_aload_n (pc := 0) 0 dJ15_intValue_0 rfl rfl ?_
  refine v_getI (pc := 1) (c := c) hc q795 dJ15_intValue_1 ?_
  exact v_iret (pc := 4) hr rfl (Nat.le_refl _) (Nat.le_refl _) dJ15_intValue_4 (pI_mk rfl (hC_c rfl))

