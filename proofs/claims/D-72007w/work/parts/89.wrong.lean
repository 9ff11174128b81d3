set_option maxRecDepth 100000
/-! ScopeTasks$Wrong.<init>; rows for calls that throw -/
theorem hu_hu {h : Nat → va_E} {k : Nat} {e f : va_E} : hu (hu h k e) k f = hu h k f := by
  funext j; unfold hu; split <;> rfl
theorem hu_at {h : Nat → va_E} {k : Nat} {e : va_E} : hu h k e k = e := by unfold hu; rw [if_pos rfl]
theorem hu_id {h : Nat → va_E} {k : Nat} {e : va_E} (he : h k = e) : hu h k e = h := by
  funext j; unfold hu; split
  · next z => rw [z, he]
  · rfl
/-- a Wrong: cause, stack, suppressed, message; at -/
abbrev wE (c s u d : Value) (v : Int32) : va_E := .inr (5, [c, s, u, d, .null, .int (nI 0), .int v])
section VQ
variable {G : GT} {x : VX} {own : String} {cc : ByteArray} {nL : Nat} {Q : State → Prop} {lv lv' : List (Nat × Value)} {st st0 : List Value} {N : Nat} {h : Nat → va_E} {a b pc : Nat}
theorem v_getsq {index : Nat} {C n d ref : String} (hZ : Cx G x own cc nL → va_Zq C n d (AG G) (xs x) (xs x).heap) (hlink : Cond.fieldLink own index ref n d ∈ lw_all) (hs : C = ref) (hd : decode cc pc = .ok (.getstatic index, 3))
    (kk : ∀ v : Value, (v = .null ∨ ∃ t, v = .ref t) → V G x own cc nL Q (pc + 3) lv (v :: st) N h a b) : V G x own cc nL Q pc lv st N h a b := by
  intro C H locs ls w s l
  rcases hZ C with z | ⟨t, z⟩
  · exact va_gets C.1.1 C.1.2.1 z s C.1.2.2.2.1 (C.1.2.2.2.2 _ hlink) (fun _ h9 => by rw [← hs]; exact h9) hd (kk _ (Or.inl rfl) C H locs ls w s l)
  · exact va_gets C.1.1 C.1.2.1 z s C.1.2.2.2.1 (C.1.2.2.2.2 _ hlink) (fun _ h9 => by rw [← hs]; exact h9) hd (kk _ (Or.inr ⟨t, rfl⟩) C H locs ls w s l)
theorem v_aload_nN' {k : Fin 4} {i : Nat} (j : Nat) (hd : decode cc pc = .ok (.aload_n k, 1)) (hi : (k : Nat) = i) (hl : lv[j]? = some (i, .null)) (kk : V G x own cc nL Q (pc + 1) lv (.null :: st) N h a b) : V G x own cc nL Q pc lv st N h a b := v_aload_nN j hd hi hl kk
end VQ
set_option maxHeartbeats 4000000 in
theorem ct_J10_init_2 {G : GT} {l : Launch} {N k : Nat} {h : Nat → va_E} (hk : k < N) (he : h k = wE .null .null .null .null (nI 0)) : CT G l yJ10_init_2 cJ10_init_2 5 none 1 0 0 [.ref (gZ G + k), .null, .null, .int (nI 0), .int (nI 0)] N h (pV N (fun h' => h' = h)) := by
  refine CT.mk "java/lang/Throwable" [(0, .ref (gZ G + k)), (1, .null), (2, .null), (3, .int (nI 0)), (4, .int (nI 0))] rfl (by decide) rfl (Nat.le_of_ble_eq_true rfl) ?_
  intro x hR hl hr hnm
  refine v_aload_n (pc := 0) 0 dJ10_init_2_0 rfl rfl ?_
  refine v_objInit (pc := 1) q606 (by rw [hR]; decide) (by rw [hR]; decide) dJ10_init_2_1 ?_
  refine v_eq rfl rfl (hu_id he).symm ?_
  refine v_aload_n (pc := 4) 0 dJ10_init_2_4 rfl rfl ?_
  refine v_aload_n (pc := 5) 0 dJ10_init_2_5 rfl rfl ?_
  refine v_put (pc := 6) (ci := 5) (j := 0) (fs := [.null, .null, .null, .null, .null, .int (nI 0), .int (nI 0)]) (T := TX5) (M := 7) (C := RX5) rfl in_X5 tyX5 tyX5_ok nmX5 (by decide) q636 rfl rfl rfl rfl rfl hk hu_at (Nat.le_of_ble_eq_true rfl) dJ10_init_2_6 ?_
  refine v_eq rfl rfl (show _ = hu h k (wE (.ref (gZ G + k)) .null .null .null (nI 0)) from hu_hu) ?_
  refine v_aload_n (pc := 9) 0 dJ10_init_2_9 rfl rfl ?_
  refine v_getsq (pc := 10) (C := "java/lang/Throwable") (fun C => C.2.2.2.2.2.1.2.2.2.2.2.2.2.1) q607 rfl dJ10_init_2_10 (fun v1 hv1 => ?_)
  refine v_put (pc := 13) (ci := 5) (j := 1) (fs := [.ref (gZ G + k), .null, .null, .null, .null, .int (nI 0), .int (nI 0)]) (T := TX5) (M := 7) (C := RX5) rfl in_X5 tyX5 tyX5_ok nmX5 (by decide) q637 rfl rfl rfl (by rcases hv1 with rfl | ⟨t, rfl⟩ <;> rfl) (by rcases hv1 with rfl | ⟨t, rfl⟩ <;> rfl) hk hu_at (Nat.le_of_ble_eq_true rfl) dJ10_init_2_13 ?_
  refine v_eq rfl rfl (show _ = hu h k (wE (.ref (gZ G + k)) v1 .null .null (nI 0)) from hu_hu) ?_
  refine v_aload_n (pc := 16) 0 dJ10_init_2_16 rfl rfl ?_
  refine v_getsq (pc := 17) (C := "java/lang/Throwable") (fun C => C.2.2.2.2.2.1.2.2.2.2.2.2.2.2) q609 rfl dJ10_init_2_17 (fun v2 hv2 => ?_)
  refine v_put (pc := 20) (ci := 5) (j := 2) (fs := [.ref (gZ G + k), v1, .null, .null, .null, .int (nI 0), .int (nI 0)]) (T := TX5) (M := 7) (C := RX5) rfl in_X5 tyX5 tyX5_ok nmX5 (by decide) q638 rfl rfl rfl (by rcases hv2 with rfl | ⟨t, rfl⟩ <;> rfl) (by rcases hv2 with rfl | ⟨t, rfl⟩ <;> rfl) hk hu_at (Nat.le_of_ble_eq_true rfl) dJ10_init_2_20 ?_
  refine v_eq rfl rfl (show _ = hu h k (wE (.ref (gZ G + k)) v1 v2 .null (nI 0)) from hu_hu) ?_
  refine v_iload (pc := 23) 4 dJ10_init_2_23 rfl ?_
  refine v_if_eq (pc := 25) 36 dJ10_init_2_25 (by decide) (fun _ => ?_) (fun z => absurd rfl z)
  refine v_aload_n (pc := 36) 0 dJ10_init_2_36 rfl rfl ?_
  refine v_null (pc := 37) dJ10_init_2_37 ?_
  refine v_put (pc := 38) (ci := 5) (j := 1) (fs := [.ref (gZ G + k), v1, v2, .null, .null, .int (nI 0), .int (nI 0)]) (T := TX5) (M := 7) (C := RX5) rfl in_X5 tyX5 tyX5_ok nmX5 (by decide) q637 rfl rfl rfl rfl rfl hk hu_at (Nat.le_of_ble_eq_true rfl) dJ10_init_2_38 ?_
  refine v_eq rfl rfl (show _ = hu h k (wE (.ref (gZ G + k)) .null v2 .null (nI 0)) from hu_hu) ?_
  refine v_aload_n (pc := 41) 0 dJ10_init_2_41 rfl rfl ?_
  refine v_aload_nN (pc := 42) 1 dJ10_init_2_42 rfl rfl ?_
  refine v_put (pc := 43) (ci := 5) (j := 3) (fs := [.ref (gZ G + k), .null, v2, .null, .null, .int (nI 0), .int (nI 0)]) (T := TX5) (M := 7) (C := RX5) rfl in_X5 tyX5 tyX5_ok nmX5 (by decide) q635 rfl rfl rfl rfl rfl hk hu_at (Nat.le_of_ble_eq_true rfl) dJ10_init_2_43 ?_
  refine v_eq rfl rfl (show _ = hu h k (wE (.ref (gZ G + k)) .null v2 .null (nI 0)) from hu_hu) ?_
  refine v_aload_n (pc := 46) 0 dJ10_init_2_46 rfl rfl ?_
  refine v_aload_nN (pc := 47) 2 dJ10_init_2_47 rfl rfl ?_
  refine v_put (pc := 48) (ci := 5) (j := 0) (fs := [.ref (gZ G + k), .null, v2, .null, .null, .int (nI 0), .int (nI 0)]) (T := TX5) (M := 7) (C := RX5) rfl in_X5 tyX5 tyX5_ok nmX5 (by decide) q636 rfl rfl rfl rfl rfl hk hu_at (Nat.le_of_ble_eq_true rfl) dJ10_init_2_48 ?_
  refine v_eq rfl rfl (show _ = hu h k (wE .null .null v2 .null (nI 0)) from hu_hu) ?_
  refine v_iload_n (pc := 51) 3 dJ10_init_2_51 rfl rfl ?_
  refine v_if_ne (pc := 52) 60 dJ10_init_2_52 (by decide) (fun z => absurd rfl z) (fun _ => ?_)
  refine v_aload_n (pc := 55) 0 dJ10_init_2_55 rfl rfl ?_
  refine v_null (pc := 56) dJ10_init_2_56 ?_
  refine v_put (pc := 57) (ci := 5) (j := 2) (fs := [.null, .null, v2, .null, .null, .int (nI 0), .int (nI 0)]) (T := TX5) (M := 7) (C := RX5) rfl in_X5 tyX5 tyX5_ok nmX5 (by decide) q638 rfl rfl rfl rfl rfl hk hu_at (Nat.le_of_ble_eq_true rfl) dJ10_init_2_57 ?_
  refine v_eq rfl rfl (show _ = hu h k (wE .null .null .null .null (nI 0)) from hu_hu) ?_
  exact v_vret (pc := 60) hr (Nat.le_refl _) (Nat.le_refl _) dJ10_init_2_60 ⟨rfl, rfl, hu_id he⟩
set_option maxHeartbeats 4000000 in
theorem ct_J11_init {G : GT} {l : Launch} {N k : Nat} {h : Nat → va_E} (hk : k < N) (he : h k = wE .null .null .null .null (nI 0)) : CT G l yJ11_init cJ11_init 5 none 2 0 0 [.ref (gZ G + k), .null, .null, .int (nI 0), .int (nI 0)] N h (pV N (fun h' => h' = h)) := by
  refine CT.mk "java/lang/Exception" [(0, .ref (gZ G + k)), (1, .null), (2, .null), (3, .int (nI 0)), (4, .int (nI 0))] rfl (by decide) rfl (Nat.le_of_ble_eq_true rfl) ?_
  intro x hR hl hr hnm
  refine v_aload_n (pc := 0) 0 dJ11_init_0 rfl rfl ?_
  refine v_aload_nN (pc := 1) 1 dJ11_init_1 rfl rfl ?_
  refine v_aload_nN (pc := 2) 2 dJ11_init_2 rfl rfl ?_
  refine v_iload_n (pc := 3) 3 dJ11_init_3 rfl rfl ?_
  refine v_iload (pc := 4) 4 dJ11_init_4 rfl ?_
  refine v_callI (pc := 6) (st := []) (kb := k) (ct_J10_init_2 hk he) (lw_meth q631) q76 q629 q630 rfl kDJ11_16 (rm_ok hR (Nat.le_of_ble_eq_true rfl) (Nat.le_of_ble_eq_true rfl)) ⟨Nat.zero_le _, Nat.zero_le _⟩ rfl rfl (Nat.le_of_ble_eq_true rfl) dJ11_init_6 (fun v N' h' q => ?_)
  obtain ⟨rfl, rfl, rfl⟩ := q
  exact v_vret (pc := 9) hr (Nat.le_refl _) (Nat.le_refl _) dJ11_init_9 ⟨rfl, rfl, rfl⟩
set_option maxHeartbeats 4000000 in
theorem ct_J12_init {G : GT} {l : Launch} {N k : Nat} {h : Nat → va_E} (hk : k < N) (he : h k = wE .null .null .null .null (nI 0)) : CT G l yJ12_init cJ12_init 5 none 3 0 0 [.ref (gZ G + k), .null, .null, .int (nI 0), .int (nI 0)] N h (pV N (fun h' => h' = h)) := by
  refine CT.mk "java/lang/RuntimeException" [(0, .ref (gZ G + k)), (1, .null), (2, .null), (3, .int (nI 0)), (4, .int (nI 0))] rfl (by decide) rfl (Nat.le_of_ble_eq_true rfl) ?_
  intro x hR hl hr hnm
  refine v_aload_n (pc := 0) 0 dJ12_init_0 rfl rfl ?_
  refine v_aload_nN (pc := 1) 1 dJ12_init_1 rfl rfl ?_
  refine v_aload_nN (pc := 2) 2 dJ12_init_2 rfl rfl ?_
  refine v_iload_n (pc := 3) 3 dJ12_init_3 rfl rfl ?_
  refine v_iload (pc := 4) 4 dJ12_init_4 rfl ?_
  refine v_callI (pc := 6) (st := []) (kb := k) (ct_J11_init hk he) (lw_meth q628) q77 q626 q627 rfl kDJ12_16 (rm_ok hR (Nat.le_of_ble_eq_true rfl) (Nat.le_of_ble_eq_true rfl)) ⟨Nat.zero_le _, Nat.zero_le _⟩ rfl rfl (Nat.le_of_ble_eq_true rfl) dJ12_init_6 (fun v N' h' q => ?_)
  obtain ⟨rfl, rfl, rfl⟩ := q
  exact v_vret (pc := 9) hr (Nat.le_refl _) (Nat.le_refl _) dJ12_init_9 ⟨rfl, rfl, rfl⟩
set_option maxHeartbeats 4000000 in
theorem ct_X5_init {G : GT} {l : Launch} {N k : Nat} {h : Nat → va_E} {v : Int32} (hk : k < N) (he : h k = wE .null .null .null .null (nI 0)) : CT G l yX5_init cX5_init 2 none 4 0 0 [.ref (gZ G + k), .int v] N h (pV N (fun h' => h' = hu h k (wE .null .null .null .null v))) := by
  refine CT.mk "ScopeTasks$Wrong" [(0, .ref (gZ G + k)), (1, .int v)] rfl (by decide) rfl (Nat.le_of_ble_eq_true rfl) ?_
  intro x hR hl hr hnm
  refine v_aload_n (pc := 0) 0 dX5_init_0 rfl rfl ?_
  refine v_null (pc := 1) dX5_init_1 ?_
  refine v_null (pc := 2) dX5_init_2 ?_
  refine v_iconst (pc := 3) (nI 0) dX5_init_3 (by decide) ?_
  refine v_iconst (pc := 4) (nI 0) dX5_init_4 (by decide) ?_
  refine v_callI (pc := 5) (st := []) (kb := k) (ct_J12_init hk he) (lw_meth q625) q78 q623 q624 rfl kDX5_1 (rm_ok hR (Nat.le_of_ble_eq_true rfl) (Nat.le_of_ble_eq_true rfl)) ⟨Nat.zero_le _, Nat.zero_le _⟩ rfl rfl (Nat.le_of_ble_eq_true rfl) dX5_init_5 (fun v N' h' q => ?_)
  obtain ⟨rfl, rfl, rfl⟩ := q
  refine v_aload_n (pc := 8) 0 dX5_init_8 rfl rfl ?_
  refine v_iload_n (pc := 9) 1 dX5_init_9 rfl rfl ?_
  refine v_putF (pc := 10) (ci := 5) (j := 6) (fs := [.null, .null, .null, .null, .null, .int (nI 0), .int (nI 0)]) (T := TX5) (M := 7) (C := RX5) rfl in_X5 tyX5 tyX5_ok nmX5 (by decide) q632 rfl rfl hnm rfl rfl rfl hk he (Nat.le_of_ble_eq_true rfl) dX5_init_10 ?_
  exact v_vret (pc := 13) hr (Nat.le_refl _) (Nat.le_refl _) dX5_init_13 ⟨rfl, rfl, rfl⟩
