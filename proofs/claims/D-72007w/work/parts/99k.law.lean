set_option maxRecDepth 100000
/-! THE LAW, from its entry -/
theorem SC_hi {k : Nat} (h : 513 ≤ k) : SC k = z0 := SC_z (by omega) (by omega) (by omega) (by omega)
set_option maxHeartbeats 8000000 in
theorem law_0 {G : GT} {x : VX} {Q : State → Prop} {sc L : Nat} {ys : Nat → Int32} (hR : xR x = lawR) (hX : va_X sc L ys (xs x) (xs x).heap) (hbl : sc < (xs x).heap.size) (hbZ : sc < gZ G) (hL : L ≤ 256)
    (hQ : ∀ (lv : List (Nat × Value)) (N : Nat) (h : Nat → va_E) (a b : Nat), a ≤ 601024 → b ≤ 7293034 → V G x "ScopeTasksLaw" cL_law 4 Q 551 lv [.int (nI 1)] N h a b) : V G x "ScopeTasksLaw" cL_law 4 Q 0 [(0, .ref sc)] [] 0 (hC G Z0) 0 0 := by
  refine v_new (pc := 0) (C := RX0) (T := TX0) (M := 15) (ci := 0) (fs := [.null, .null, .null, .null, .null, .null, .null, .null, .null, .null, .int (nI 0), .null, .null, .null, .int (nI 0)]) rfl in_X0 tyX0 tyX0_ok q84 q85 q60 (by decide) (by rw [hR]; decide) (by rw [hR]; decide) dL_law_0 ?_
  refine v_dup (pc := 3) dL_law_3 rfl ?_
  refine v_callI (pc := 4) (st := [.ref (gZ G + 0)]) (kb := 0) (cn_X0_init) (lw_meth q88) q60 q86 q87 rfl kDL_9 (by rw [hR]; decide) (by rw [hR]; decide) rfl rfl (Nat.le_of_ble_eq_true rfl) dL_law_4 (fun v' N' h' z => ?_)
  obtain ⟨rfl, rfl, rfl⟩ := z
  refine v_astore_n (pc := 7) (lv' := [(1, .ref (gZ G + 0)), (0, .ref sc)]) dL_law_7 rfl (by decide) rfl ?_
  refine v_new (pc := 8) (C := RX3) (T := TX3) (M := 34) (ci := 3) (fs := [.int (nI 0), .null, .int (nI 0), .int (nI 0), .int (nI 0), .int (nI 0), .int (nI 0), .int (nI 0), .int (nI 0), .null, .null, .null, .null, .null, .null, .int (nI 0), .int (nI 0), .null, .null, .null, .null, .null, .null, .null, .null, .int (nI 0), .int (nI 0), .null, .int (nI 0), .null, .null, .null, .null, .null]) rfl in_X3 tyX3 tyX3_ok q930 q931 q69 (by decide) (by rw [hR]; decide) (by rw [hR]; decide) dL_law_8 ?_
  refine v_dup (pc := 11) dL_law_11 rfl ?_
  refine v_callI (pc := 12) (st := [.ref (gZ G + 513)]) (kb := 513) (cn_X3_init (S := SC) (fun k h _ => SC_hi h)) (lw_meth q934) q69 q932 q933 rfl kDL_12 (by rw [hR]; decide) (by rw [hR]; decide) rfl rfl (Nat.le_of_ble_eq_true rfl) dL_law_12 (fun v' N' h' z => ?_)
  obtain ⟨rfl, rfl, rfl⟩ := z
  refine v_astore_n (pc := 15) (lv' := [(2, .ref (gZ G + 513)), (1, .ref (gZ G + 0)), (0, .ref sc)]) dL_law_15 rfl (by decide) rfl ?_
  refine v_iconst (pc := 16) (nI 0) dL_law_16 (by decide) ?_
  refine v_istore_n (pc := 17) (lv' := [(3, .int (nI 0)), (2, .ref (gZ G + 513)), (1, .ref (gZ G + 0)), (0, .ref sc)]) dL_law_17 rfl (by decide) rfl ?_
  refine v_sub (lv' := [(3, .int (nI 0)), (0, .ref sc), (1, .ref (gZ G + 0)), (2, .ref (gZ G + 513))]) [0, 3, 2, 1] rfl ?_
  refine v_num (N' := 535) (a' := 535) (b' := 11677) rfl rfl rfl ?_
  exact lp_law hR hX hbl hbZ hL hQ 64 0 535 535 11677 S00 (by omega) (by omega) (by omega) (by omega) (by omega) RL_S00
