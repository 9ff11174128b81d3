set_option maxRecDepth 100000
/-! ScopeTasks.<init> -/
abbrev Z0 : ST := fun _ _ => nI 0
theorem dq0I {G : GT} {n : Nat} : dqI G n z0 = .inl (gA G 5, n, .inr (.inr (.inr (.inr (fun _ => none))))) := dq_ext (fun _ => if_pos rfl)
theorem dq0R {G : GT} {n : Nat} : dqR G n z0 = .inl (gA G 5, n, .inr (.inr (.inr (.inr (fun _ => none))))) := dq_ext (fun _ => if_pos rfl)
theorem RB_116 : RB 116 := RB_i (i := 0) (by decide)
theorem RB_144 : RB 144 := RB_i (i := 1) (by decide)
theorem at_extq {D : va_G} {q : Nat} {c : ClassId} {n : Nat} {f g : Nat → Option Nat} {H : Heap} (e : ∀ j, j < n → f j = g j) (h : va_at D clX (q, .inl (c, n, .inr (.inr (.inr (.inr f))))) H) : va_at D clX (q, .inl (c, n, .inr (.inr (.inr (.inr g))))) H := by
  show H[q]? = some (vp_cell c (n, .inr (.inr (.inr (.inr g)))))
  have h : H[q]? = some (vp_cell c (n, .inr (.inr (.inr (.inr f))))) := h
  rw [h, vp_cell_q, vp_cell_q]
  congr 1
  unfold arrV
  congr 1
  congr 1
  funext j
  show va_rf (f j.val) = va_rf (g j.val)
  rw [e j.val j.isLt]
section VI
variable {G : GT} {x : VX} {own : String} {cc : ByteArray} {nL : Nat} {Q : State → Prop} {lv : List (Nat × Value)} {st : List Value} {N : Nat} {h : Nat → va_E} {a b pc : Nat}
theorem v_refs {k n : Nat} {c : ClassId} {f g : Nat → Option Nat} (e : ∀ j, j < n → f j = g j) (kk : V G x own cc nL Q pc lv st N (hu h k (.inl (c, n, .inr (.inr (.inr (.inr g)))))) a b) : V G x own cc nL Q pc lv st N (hu h k (.inl (c, n, .inr (.inr (.inr (.inr f)))))) a b := by
  intro C H locs ls w s l
  refine kk C H locs ls ⟨w.1, hp_P.mpr fun j hj => ?_⟩ s l
  have h1 := hp_P.mp w.2 j hj
  by_cases hk : j = k
  · subst hk
    rw [hu_at] at h1 ⊢
    exact at_extq e h1
  · rw [hu_ne hk] at h1 ⊢
    exact h1
theorem v_num {N' a' b' : Nat} (e1 : N = N') (e2 : a = a') (e3 : b = b') (kk : V G x own cc nL Q pc lv st N' h a' b') : V G x own cc nL Q pc lv st N h a b := by subst e1; subst e2; subst e3; exact kk
end VI
/-- i runs in the row of free ones -/
def fr (i : Nat) : ST := fun k => if k = 113 then upd z0 2 (nI i) else if k = 114 then (fun j => if j < i then nI (177 + 28 * j + 1) else nI 0) else z0
theorem fr_0 : fr 0 = Z0 := by
  funext k j
  unfold fr
  by_cases h1 : k = 113
  · rw [if_pos h1]; unfold upd; split <;> rfl
  · rw [if_neg h1]
    by_cases h2 : k = 114
    · rw [if_pos h2]; rfl
    · rw [if_neg h2]
theorem fr_k {i k : Nat} (h1 : k ≠ 113) (h2 : k ≠ 114) : fr i k = z0 := by unfold fr; rw [if_neg h1, if_neg h2]
theorem fr_s {i : Nat} (hi : i < 12) : s2 (s2 (fr i) (113 + 1) i (nI (177 + 28 * i + 1))) 113 2 (nI (dinc i 15)) = fr (i + 1) := by
  have e : dinc i 15 = i + 1 := by unfold dinc; rw [if_pos (by omega)]
  rw [e]
  funext k j
  simp only [s2_val]
  by_cases h1 : k = 113
  · subst h1
    unfold fr upd
    by_cases h2 : j = 2 <;> simp [h2]
  · by_cases h2 : k = 114
    · subst h2
      unfold fr
      by_cases h3 : j = i
      · subst h3; simp
      · have : (j < i + 1) = (j < i) := by apply propext; omega
        simp [h3, this]
    · simp [h1, h2]
      rw [fr_k h1 h2, fr_k h1 h2]
theorem mk4_z : ∀ j : Fin 8, mk4 z0 (j.val + 1) = 0 := by decide +kernel
theorem run_z0 (j : Nat) : runCell z0 j = z0 := by
  funext p
  unfold runCell
  by_cases h : 1 ≤ j ∧ j < 9
  · obtain ⟨q, rfl⟩ : ∃ q, j = q + 1 := ⟨j - 1, by omega⟩
    rw [if_pos h, mk4_z ⟨q, by omega⟩]
    split <;> split <;> rfl
  · rw [if_neg h]
set_option maxHeartbeats 8000000 in
theorem lp_ct {G : GT} {x : VX} {Q : State → Prop} (hR : xR x = RM 6 512 6000) : ∀ (m i : Nat), i + m = 12 → V G x "ScopeTasks" cX0_init 2 Q 188 [(0, .ref (gZ G + 0))] [] 513 (hC G (fr 12)) 512 6000 → V G x "ScopeTasks" cX0_init 2 Q 160 [(1, .int (nI i)), (0, .ref (gZ G + 0))] [] (177 + 28 * i) (hC G (fr i)) (176 + 28 * i) (1896 + 342 * i) := by
  intro m
  induction m with
  | zero =>
    intro i hi hk
    obtain rfl : i = 12 := hi
    refine v_iload_n (pc := 160) 0 dX0_init_160 rfl rfl ?_
    refine v_bipush (pc := 161) (nI 12) dX0_init_161 (by decide) ?_
    refine v_ic_geN (pc := 163) 188 (by omega) (by omega) dX0_init_163 (by decide) (fun c1 => ?_) (fun c1 => ?_)
    · skip
      refine v_sub (lv' := [(0, .ref (gZ G + 0))]) [1] rfl ?_
      exact hk
    · skip
      exact absurd c1 (by omega)
  | succ m ih =>
    intro i hi hk
    refine v_iload_n (pc := 160) 0 dX0_init_160 rfl rfl ?_
    refine v_bipush (pc := 161) (nI 12) dX0_init_161 (by decide) ?_
    refine v_ic_geN (pc := 163) 188 (by omega) (by omega) dX0_init_163 (by decide) (fun c1 => ?_) (fun c1 => ?_)
    · skip
      exact absurd c1 (by omega)
    · skip
      refine v_aload_n (pc := 166) 1 dX0_init_166 rfl rfl ?_
      refine v_get (pc := 167) (ci := 0) (j := 6) (T := TX0) (M := 15) (C := RX0) rfl in_X0 (by decide) q389 rfl (by omega) rfl rfl dX0_init_167 ?_
      refine v_new (pc := 170) (C := RX2) (T := TX2) (M := 18) (ci := 2) (fs := [.int (nI 0), .null, .null, .null, .null, .null, .null, .null, .null, .null, .null, .null, .null, .null, .null, .null, .int (nI 0), .null]) rfl in_X2 tyX2 tyX2_ok q195 q196 q65 (by decide) (by rw [hR]; show _ ≤ 512; omega) (by rw [hR]; show _ ≤ 6000; omega) dX0_init_170 ?_
      refine v_dup (pc := 173) dX0_init_173 rfl ?_
      refine v_aload_n (pc := 174) 1 dX0_init_174 rfl rfl ?_
      refine v_callIN (pc := 175) (st := [.ref (gZ G + (177 + 28 * i)), .ref (gZ G + 113)]) (kb := 177 + 28 * i) (cn_X2_init (b := 177 + 28 * i) hu_at (fun j h1 h2 => (hu_ne (by omega)).trans (hC_run (RB_p (by omega)) h2 (by rw [fr_k (by omega) (by omega)])))) (lw_meth q199) q65 q197 q198 rfl kDX0_59 (rm_ok hR (Nat.le_of_ble_eq_true rfl) (Nat.le_of_ble_eq_true rfl)) (by rw [hR]; exact ⟨show _ ≤ 512 by omega, show _ ≤ 6000 by omega⟩) rfl rfl (Nat.le_of_ble_eq_true rfl) dX0_init_175 (fun v' N' h' z => ?_)
      obtain ⟨rfl, rfl, rfl⟩ := z
      refine v_eq rfl rfl (hu_hu.trans (hu_id (hC_run (b := 177 + 28 * i) (j := 0) (RB_p (by omega)) (by decide) (by rw [fr_k (by omega) (by omega)])))) ?_
      refine c_callVi (pc := 178) (st := []) (ci := 7) (ct_J2_addR (S := fr i) (k := 113) (c := 177 + 28 * i) (n := 15) (hd := 0) (tl := i) DR_113 (by omega) (by omega) rfl rfl (by omega) (by omega) (by unfold dinc; rw [if_pos (by omega)]; omega) (RB_p (by omega)) (by omega)) kVX0_87 kDX0_87 (rm_ok hR (Nat.le_of_ble_eq_true rfl) (Nat.le_of_ble_eq_true rfl)) (by rw [hR]; exact ⟨show _ ≤ 512 by omega, show _ ≤ 6000 by omega⟩) (by omega) (DR_113.1 G _) rfl rfl rfl rfl (Nat.le_of_ble_eq_true rfl) dX0_init_178 ?_
      refine v_pop (pc := 181) dX0_init_181 rfl ?_
      refine v_iincN (pc := 182) (k := 0) (lv' := [(1, .int (nI (i + 1))), (0, .ref (gZ G + 0))]) dX0_init_182 rfl (by decide) rfl ?_
      refine v_goto (pc := 185) 160 dX0_init_185 (by decide) ?_
      refine v_S (fr_s (by omega)) ?_
      refine v_num (N' := 177 + 28 * (i + 1)) (a' := 176 + 28 * (i + 1)) (b' := 1896 + 342 * (i + 1)) (by omega) (by omega) (by omega) ?_
      refine v_sub (lv' := [(1, .int (nI (i + 1))), (0, .ref (gZ G + 0))]) [0, 1] rfl ?_
      exact ih (i + 1) (by omega) hk

def cT0 : ST := s2 (s2 (s2 (s2 (s2 (s2 (fr 12) 2 0 (-9)) 3 0 (nI 0)) 22 0 (nI 99)) 23 0 (nI 0)) 24 0 (nI 0)) 1 0 (nI 1)
/-- the component as made -/
def SC : ST := put cT0 55 (cSt (nI 99) z0)
theorem cT0_ne {k : Nat} (h : k = 0 ∨ (4 ≤ k ∧ k < 22) ∨ 25 ≤ k) : cT0 k = fr 12 k := by
  unfold cT0
  rw [s2_nk (by omega), s2_nk (by omega), s2_nk (by omega), s2_nk (by omega), s2_nk (by omega), s2_nk (by omega)]
theorem cT0_H {b : Nat} (hb : 55 ≤ b) (h : b + 28 ≤ 111 ∨ 115 ≤ b) : HR cT0 b z0 := fun j hj => by rw [cT0_ne (by omega), fr_k (by omega) (by omega), run_z0]
set_option maxHeartbeats 8000000 in
theorem cn_X0_init {G : GT} {l : Launch} : CT G l yX0_init cX0_init 2 none 6 512 6000 [.ref (gZ G + 0)] 1 (hu (hC G Z0) 0 (.inr (0, [.null, .null, .null, .null, .null, .null, .null, .null, .null, .null, .int (nI 0), .null, .null, .null, .int (nI 0)]))) (fun v N' h' => v = none ∧ N' = 513 ∧ h' = hC G SC) := by
  refine CT.mk "ScopeTasks" [(0, .ref (gZ G + 0))] rfl (by decide) rfl (Nat.le_of_ble_eq_true rfl) ?_
  intro x hR hl hr hnm
  refine v_aload_n (pc := 0) 0 dX0_init_0 rfl rfl ?_
  refine v_objInit (pc := 1) q89 (by rw [hR]; decide) (by rw [hR]; decide) dX0_init_1 ?_
  refine v_aload_n (pc := 4) 0 dX0_init_4 rfl rfl ?_
  refine v_new (pc := 5) (C := RX1) (T := TX1) (M := 9) (ci := 1) (fs := [.int (nI 0), .null, .null, .null, .null, .null, .null, .null, .null]) rfl in_X1 tyX1 tyX1_ok q92 q93 q61 (by decide) (by rw [hR]; decide) (by rw [hR]; decide) dX0_init_5 ?_
  refine v_dup (pc := 8) dX0_init_8 rfl ?_
  refine v_callIN (pc := 9) (st := [.ref (gZ G + 1), .ref (gZ G + 0)]) (kb := 1) (cn_X1_init (b := 1) hu_at (fun j h1 h2 => ((hu_ne (by omega)).trans ((hu_ne (by omega)).trans (hC_tree TB_1 h2 rfl))))) (lw_meth q96) q61 q94 q95 rfl kDX0_45 (rm_ok hR (Nat.le_of_ble_eq_true rfl) (Nat.le_of_ble_eq_true rfl)) (by rw [hR]; decide) rfl rfl (Nat.le_of_ble_eq_true rfl) dX0_init_9 (fun v' N' h' z => ?_)
  obtain ⟨rfl, rfl, rfl⟩ := z
  refine v_eq rfl rfl (hu_hu.trans (hu_id ((hu_ne (by omega)).trans (show hC G Z0 1 = _ from rfl)))) ?_
  show V G x "ScopeTasks" cX0_init 2 _ 12 [(0, .ref (gZ G + 0))] [.ref (gZ G + 1), .ref (gZ G + 0)] (27) (hu (hC G Z0) 0 (.inr (0, [.null, .null, .null, .null, .null, .null, .null, .null, .null, .null, .int (nI 0), .null, .null, .null, .int (nI 0)]))) 26 165
  refine v_putF (pc := 12) (ci := 0) (j := 0) (fs := [.null, .null, .null, .null, .null, .null, .null, .null, .null, .null, .int (nI 0), .null, .null, .null, .int (nI 0)]) (T := TX0) (M := 15) (C := RX0) rfl in_X0 tyX0 tyX0_ok nmX0 (by decide) q380 rfl rfl hnm rfl rfl rfl (by omega) hu_at (Nat.le_of_ble_eq_true rfl) dX0_init_12 ?_
  refine v_eq rfl rfl (show _ = hu (hC G Z0) 0 (.inr (0, [.ref (gZ G + 1), .null, .null, .null, .null, .null, .null, .null, .null, .null, .int (nI 0), .null, .null, .null, .int (nI 0)])) from hu_hu) ?_
  refine v_aload_n (pc := 15) 0 dX0_init_15 rfl rfl ?_
  refine v_new (pc := 16) (C := RX1) (T := TX1) (M := 9) (ci := 1) (fs := [.int (nI 0), .null, .null, .null, .null, .null, .null, .null, .null]) rfl in_X1 tyX1 tyX1_ok q92 q93 q61 (by decide) (by rw [hR]; decide) (by rw [hR]; decide) dX0_init_16 ?_
  refine v_dup (pc := 19) dX0_init_19 rfl ?_
  refine v_callIN (pc := 20) (st := [.ref (gZ G + 27), .ref (gZ G + 0)]) (kb := 27) (cn_X1_init (b := 27) hu_at (fun j h1 h2 => ((hu_ne (by omega)).trans ((hu_ne (by omega)).trans (hC_tree TB_27 h2 rfl))))) (lw_meth q96) q61 q94 q95 rfl kDX0_45 (rm_ok hR (Nat.le_of_ble_eq_true rfl) (Nat.le_of_ble_eq_true rfl)) (by rw [hR]; decide) rfl rfl (Nat.le_of_ble_eq_true rfl) dX0_init_20 (fun v' N' h' z => ?_)
  obtain ⟨rfl, rfl, rfl⟩ := z
  refine v_eq rfl rfl (hu_hu.trans (hu_id ((hu_ne (by omega)).trans (show hC G Z0 27 = _ from rfl)))) ?_
  show V G x "ScopeTasks" cX0_init 2 _ 23 [(0, .ref (gZ G + 0))] [.ref (gZ G + 27), .ref (gZ G + 0)] (53) (hu (hC G Z0) 0 (.inr (0, [.ref (gZ G + 1), .null, .null, .null, .null, .null, .null, .null, .null, .null, .int (nI 0), .null, .null, .null, .int (nI 0)]))) 52 330
  refine v_putF (pc := 23) (ci := 0) (j := 1) (fs := [.ref (gZ G + 1), .null, .null, .null, .null, .null, .null, .null, .null, .null, .int (nI 0), .null, .null, .null, .int (nI 0)]) (T := TX0) (M := 15) (C := RX0) rfl in_X0 tyX0 tyX0_ok nmX0 (by decide) q382 rfl rfl hnm rfl rfl rfl (by omega) hu_at (Nat.le_of_ble_eq_true rfl) dX0_init_23 ?_
  refine v_eq rfl rfl (show _ = hu (hC G Z0) 0 (.inr (0, [.ref (gZ G + 1), .ref (gZ G + 27), .null, .null, .null, .null, .null, .null, .null, .null, .int (nI 0), .null, .null, .null, .int (nI 0)])) from hu_hu) ?_
  refine v_aload_n (pc := 26) 0 dX0_init_26 rfl rfl ?_
  refine v_new (pc := 27) (C := RJ2) (T := TJ2) (M := 3) (ci := 7) (fs := [.null, .int (nI 0), .int (nI 0)]) rfl in_J2 tyJ2 tyJ2_ok q173 q174 q64 (by decide) (by rw [hR]; decide) (by rw [hR]; decide) dX0_init_27 ?_
  refine v_dup (pc := 30) dX0_init_30 rfl ?_
  refine v_bipush (pc := 31) (nI 16) dX0_init_31 (by decide) ?_
  refine v_callI (pc := 33) (st := [.ref (gZ G + 53), .ref (gZ G + 0)]) (kb := 53) (cn_J2_init16 (k := 53) hu_at ((hu_ne (by omega)).trans ((hu_ne (by omega)).trans dq0I))) (lw_meth q177) q64 q175 q176 rfl kDX0_53 (rm_ok hR (Nat.le_of_ble_eq_true rfl) (Nat.le_of_ble_eq_true rfl)) (by rw [hR]; decide) rfl rfl (Nat.le_of_ble_eq_true rfl) dX0_init_33 (fun v' N' h' z => ?_)
  obtain ⟨rfl, rfl, rfl⟩ := z
  refine v_eq rfl rfl (hu_hu.trans (hu_id ((hu_ne (by omega)).trans (show hC G Z0 53 = _ from rfl)))) ?_
  show V G x "ScopeTasks" cX0_init 2 _ 36 [(0, .ref (gZ G + 0))] [.ref (gZ G + 53), .ref (gZ G + 0)] (55) (hu (hC G Z0) 0 (.inr (0, [.ref (gZ G + 1), .ref (gZ G + 27), .null, .null, .null, .null, .null, .null, .null, .null, .int (nI 0), .null, .null, .null, .int (nI 0)]))) 54 350
  refine v_putF (pc := 36) (ci := 0) (j := 2) (fs := [.ref (gZ G + 1), .ref (gZ G + 27), .null, .null, .null, .null, .null, .null, .null, .null, .int (nI 0), .null, .null, .null, .int (nI 0)]) (T := TX0) (M := 15) (C := RX0) rfl in_X0 tyX0 tyX0_ok nmX0 (by decide) q384 rfl rfl hnm rfl rfl rfl (by omega) hu_at (Nat.le_of_ble_eq_true rfl) dX0_init_36 ?_
  refine v_eq rfl rfl (show _ = hu (hC G Z0) 0 (.inr (0, [.ref (gZ G + 1), .ref (gZ G + 27), .ref (gZ G + 53), .null, .null, .null, .null, .null, .null, .null, .int (nI 0), .null, .null, .null, .int (nI 0)])) from hu_hu) ?_
  refine v_aload_n (pc := 39) 0 dX0_init_39 rfl rfl ?_
  refine v_new (pc := 40) (C := RX2) (T := TX2) (M := 18) (ci := 2) (fs := [.int (nI 0), .null, .null, .null, .null, .null, .null, .null, .null, .null, .null, .null, .null, .null, .null, .null, .int (nI 0), .null]) rfl in_X2 tyX2 tyX2_ok q195 q196 q65 (by decide) (by rw [hR]; decide) (by rw [hR]; decide) dX0_init_40 ?_
  refine v_dup (pc := 43) dX0_init_43 rfl ?_
  refine v_aload_n (pc := 44) 0 dX0_init_44 rfl rfl ?_
  refine v_callIN (pc := 45) (st := [.ref (gZ G + 55), .ref (gZ G + 0)]) (kb := 55) (cn_X2_init (b := 55) hu_at (fun j h1 h2 => ((hu_ne (by omega)).trans ((hu_ne (by omega)).trans (hC_run RB_55 h2 rfl))))) (lw_meth q199) q65 q197 q198 rfl kDX0_59 (rm_ok hR (Nat.le_of_ble_eq_true rfl) (Nat.le_of_ble_eq_true rfl)) (by rw [hR]; decide) rfl rfl (Nat.le_of_ble_eq_true rfl) dX0_init_45 (fun v' N' h' z => ?_)
  obtain ⟨rfl, rfl, rfl⟩ := z
  refine v_eq rfl rfl (hu_hu.trans (hu_id ((hu_ne (by omega)).trans (show hC G Z0 55 = _ from rfl)))) ?_
  show V G x "ScopeTasks" cX0_init 2 _ 48 [(0, .ref (gZ G + 0))] [.ref (gZ G + 55), .ref (gZ G + 0)] (83) (hu (hC G Z0) 0 (.inr (0, [.ref (gZ G + 1), .ref (gZ G + 27), .ref (gZ G + 53), .null, .null, .null, .null, .null, .null, .null, .int (nI 0), .null, .null, .null, .int (nI 0)]))) 82 692
  refine v_putF (pc := 48) (ci := 0) (j := 3) (fs := [.ref (gZ G + 1), .ref (gZ G + 27), .ref (gZ G + 53), .null, .null, .null, .null, .null, .null, .null, .int (nI 0), .null, .null, .null, .int (nI 0)]) (T := TX0) (M := 15) (C := RX0) rfl in_X0 tyX0 tyX0_ok nmX0 (by decide) q386 rfl rfl hnm rfl rfl rfl (by omega) hu_at (Nat.le_of_ble_eq_true rfl) dX0_init_48 ?_
  refine v_eq rfl rfl (show _ = hu (hC G Z0) 0 (.inr (0, [.ref (gZ G + 1), .ref (gZ G + 27), .ref (gZ G + 53), .ref (gZ G + 55), .null, .null, .null, .null, .null, .null, .int (nI 0), .null, .null, .null, .int (nI 0)])) from hu_hu) ?_
  refine v_aload_n (pc := 51) 0 dX0_init_51 rfl rfl ?_
  refine v_new (pc := 52) (C := RX2) (T := TX2) (M := 18) (ci := 2) (fs := [.int (nI 0), .null, .null, .null, .null, .null, .null, .null, .null, .null, .null, .null, .null, .null, .null, .null, .int (nI 0), .null]) rfl in_X2 tyX2 tyX2_ok q195 q196 q65 (by decide) (by rw [hR]; decide) (by rw [hR]; decide) dX0_init_52 ?_
  refine v_dup (pc := 55) dX0_init_55 rfl ?_
  refine v_aload_n (pc := 56) 0 dX0_init_56 rfl rfl ?_
  refine v_callIN (pc := 57) (st := [.ref (gZ G + 83), .ref (gZ G + 0)]) (kb := 83) (cn_X2_init (b := 83) hu_at (fun j h1 h2 => ((hu_ne (by omega)).trans ((hu_ne (by omega)).trans (hC_run RB_83 h2 rfl))))) (lw_meth q199) q65 q197 q198 rfl kDX0_59 (rm_ok hR (Nat.le_of_ble_eq_true rfl) (Nat.le_of_ble_eq_true rfl)) (by rw [hR]; decide) rfl rfl (Nat.le_of_ble_eq_true rfl) dX0_init_57 (fun v' N' h' z => ?_)
  obtain ⟨rfl, rfl, rfl⟩ := z
  refine v_eq rfl rfl (hu_hu.trans (hu_id ((hu_ne (by omega)).trans (show hC G Z0 83 = _ from rfl)))) ?_
  show V G x "ScopeTasks" cX0_init 2 _ 60 [(0, .ref (gZ G + 0))] [.ref (gZ G + 83), .ref (gZ G + 0)] (111) (hu (hC G Z0) 0 (.inr (0, [.ref (gZ G + 1), .ref (gZ G + 27), .ref (gZ G + 53), .ref (gZ G + 55), .null, .null, .null, .null, .null, .null, .int (nI 0), .null, .null, .null, .int (nI 0)]))) 110 1034
  refine v_putF (pc := 60) (ci := 0) (j := 4) (fs := [.ref (gZ G + 1), .ref (gZ G + 27), .ref (gZ G + 53), .ref (gZ G + 55), .null, .null, .null, .null, .null, .null, .int (nI 0), .null, .null, .null, .int (nI 0)]) (T := TX0) (M := 15) (C := RX0) rfl in_X0 tyX0 tyX0_ok nmX0 (by decide) q387 rfl rfl hnm rfl rfl rfl (by omega) hu_at (Nat.le_of_ble_eq_true rfl) dX0_init_60 ?_
  refine v_eq rfl rfl (show _ = hu (hC G Z0) 0 (.inr (0, [.ref (gZ G + 1), .ref (gZ G + 27), .ref (gZ G + 53), .ref (gZ G + 55), .ref (gZ G + 83), .null, .null, .null, .null, .null, .int (nI 0), .null, .null, .null, .int (nI 0)])) from hu_hu) ?_
  refine v_aload_n (pc := 63) 0 dX0_init_63 rfl rfl ?_
  refine v_new (pc := 64) (C := RJ2) (T := TJ2) (M := 3) (ci := 7) (fs := [.null, .int (nI 0), .int (nI 0)]) rfl in_J2 tyJ2 tyJ2_ok q173 q174 q64 (by decide) (by rw [hR]; decide) (by rw [hR]; decide) dX0_init_64 ?_
  refine v_dup (pc := 67) dX0_init_67 rfl ?_
  refine v_bipush (pc := 68) (nI 14) dX0_init_68 (by decide) ?_
  refine v_callI (pc := 70) (st := [.ref (gZ G + 111), .ref (gZ G + 0)]) (kb := 111) (cn_J2_init14 (k := 111) hu_at ((hu_ne (by omega)).trans ((hu_ne (by omega)).trans dq0R))) (lw_meth q177) q64 q175 q176 rfl kDX0_53 (rm_ok hR (Nat.le_of_ble_eq_true rfl) (Nat.le_of_ble_eq_true rfl)) (by rw [hR]; decide) rfl rfl (Nat.le_of_ble_eq_true rfl) dX0_init_70 (fun v' N' h' z => ?_)
  obtain ⟨rfl, rfl, rfl⟩ := z
  refine v_eq rfl rfl (hu_hu.trans (hu_id ((hu_ne (by omega)).trans (show hC G Z0 111 = _ from rfl)))) ?_
  show V G x "ScopeTasks" cX0_init 2 _ 73 [(0, .ref (gZ G + 0))] [.ref (gZ G + 111), .ref (gZ G + 0)] (113) (hu (hC G Z0) 0 (.inr (0, [.ref (gZ G + 1), .ref (gZ G + 27), .ref (gZ G + 53), .ref (gZ G + 55), .ref (gZ G + 83), .null, .null, .null, .null, .null, .int (nI 0), .null, .null, .null, .int (nI 0)]))) 112 1052
  refine v_putF (pc := 73) (ci := 0) (j := 5) (fs := [.ref (gZ G + 1), .ref (gZ G + 27), .ref (gZ G + 53), .ref (gZ G + 55), .ref (gZ G + 83), .null, .null, .null, .null, .null, .int (nI 0), .null, .null, .null, .int (nI 0)]) (T := TX0) (M := 15) (C := RX0) rfl in_X0 tyX0 tyX0_ok nmX0 (by decide) q388 rfl rfl hnm rfl rfl rfl (by omega) hu_at (Nat.le_of_ble_eq_true rfl) dX0_init_73 ?_
  refine v_eq rfl rfl (show _ = hu (hC G Z0) 0 (.inr (0, [.ref (gZ G + 1), .ref (gZ G + 27), .ref (gZ G + 53), .ref (gZ G + 55), .ref (gZ G + 83), .ref (gZ G + 111), .null, .null, .null, .null, .int (nI 0), .null, .null, .null, .int (nI 0)])) from hu_hu) ?_
  refine v_aload_n (pc := 76) 0 dX0_init_76 rfl rfl ?_
  refine v_new (pc := 77) (C := RJ2) (T := TJ2) (M := 3) (ci := 7) (fs := [.null, .int (nI 0), .int (nI 0)]) rfl in_J2 tyJ2 tyJ2_ok q173 q174 q64 (by decide) (by rw [hR]; decide) (by rw [hR]; decide) dX0_init_77 ?_
  refine v_dup (pc := 80) dX0_init_80 rfl ?_
  refine v_bipush (pc := 81) (nI 14) dX0_init_81 (by decide) ?_
  refine v_callI (pc := 83) (st := [.ref (gZ G + 113), .ref (gZ G + 0)]) (kb := 113) (cn_J2_init14 (k := 113) hu_at ((hu_ne (by omega)).trans ((hu_ne (by omega)).trans dq0R))) (lw_meth q177) q64 q175 q176 rfl kDX0_53 (rm_ok hR (Nat.le_of_ble_eq_true rfl) (Nat.le_of_ble_eq_true rfl)) (by rw [hR]; decide) rfl rfl (Nat.le_of_ble_eq_true rfl) dX0_init_83 (fun v' N' h' z => ?_)
  obtain ⟨rfl, rfl, rfl⟩ := z
  refine v_eq rfl rfl (hu_hu.trans (hu_id ((hu_ne (by omega)).trans (show hC G Z0 113 = _ from rfl)))) ?_
  show V G x "ScopeTasks" cX0_init 2 _ 86 [(0, .ref (gZ G + 0))] [.ref (gZ G + 113), .ref (gZ G + 0)] (115) (hu (hC G Z0) 0 (.inr (0, [.ref (gZ G + 1), .ref (gZ G + 27), .ref (gZ G + 53), .ref (gZ G + 55), .ref (gZ G + 83), .ref (gZ G + 111), .null, .null, .null, .null, .int (nI 0), .null, .null, .null, .int (nI 0)]))) 114 1070
  refine v_putF (pc := 86) (ci := 0) (j := 6) (fs := [.ref (gZ G + 1), .ref (gZ G + 27), .ref (gZ G + 53), .ref (gZ G + 55), .ref (gZ G + 83), .ref (gZ G + 111), .null, .null, .null, .null, .int (nI 0), .null, .null, .null, .int (nI 0)]) (T := TX0) (M := 15) (C := RX0) rfl in_X0 tyX0 tyX0_ok nmX0 (by decide) q389 rfl rfl hnm rfl rfl rfl (by omega) hu_at (Nat.le_of_ble_eq_true rfl) dX0_init_86 ?_
  refine v_eq rfl rfl (show _ = hu (hC G Z0) 0 (.inr (0, [.ref (gZ G + 1), .ref (gZ G + 27), .ref (gZ G + 53), .ref (gZ G + 55), .ref (gZ G + 83), .ref (gZ G + 111), .ref (gZ G + 113), .null, .null, .null, .int (nI 0), .null, .null, .null, .int (nI 0)])) from hu_hu) ?_
  refine v_aload_n (pc := 89) 0 dX0_init_89 rfl rfl ?_
  refine v_iconst (pc := 90) (nI 2) dX0_init_90 (by decide) ?_
  refine v_newq (pc := 91) (t0 := 6) (n := 2) rfl (fun C => C.2.2.2.2.1.2.2.1) q195 (by decide) (by decide) (by rw [hR]; decide) (by rw [hR]; decide) dX0_init_91 ?_
  show V G x "ScopeTasks" cX0_init 2 _ 94 [(0, .ref (gZ G + 0))] [.ref (gZ G + 115), .ref (gZ G + 0)] (116) (hu (hu (hC G Z0) 0 (.inr (0, [.ref (gZ G + 1), .ref (gZ G + 27), .ref (gZ G + 53), .ref (gZ G + 55), .ref (gZ G + 83), .ref (gZ G + 111), .ref (gZ G + 113), .null, .null, .null, .int (nI 0), .null, .null, .null, .int (nI 0)]))) 115 (.inl (gA G 6, 2, .inr (.inr (.inr (.inr (fun _ => none))))))) 115 1072
  refine v_dup (pc := 94) dX0_init_94 rfl ?_
  refine v_iconst (pc := 95) (nI 0) dX0_init_95 (by decide) ?_
  refine v_new (pc := 96) (C := RX2) (T := TX2) (M := 18) (ci := 2) (fs := [.int (nI 0), .null, .null, .null, .null, .null, .null, .null, .null, .null, .null, .null, .null, .null, .null, .null, .int (nI 0), .null]) rfl in_X2 tyX2 tyX2_ok q195 q196 q65 (by decide) (by rw [hR]; decide) (by rw [hR]; decide) dX0_init_96 ?_
  refine v_dup (pc := 99) dX0_init_99 rfl ?_
  refine v_aload_n (pc := 100) 0 dX0_init_100 rfl rfl ?_
  refine v_callIN (pc := 101) (st := [.ref (gZ G + 116), .int (nI 0), .ref (gZ G + 115), .ref (gZ G + 115), .ref (gZ G + 0)]) (kb := 116) (cn_X2_init (b := 116) hu_at (fun j h1 h2 => ((hu_ne (by omega)).trans ((hu_ne (by omega)).trans ((hu_ne (by omega)).trans (hC_run RB_116 h2 rfl)))))) (lw_meth q199) q65 q197 q198 rfl kDX0_59 (rm_ok hR (Nat.le_of_ble_eq_true rfl) (Nat.le_of_ble_eq_true rfl)) (by rw [hR]; decide) rfl rfl (Nat.le_of_ble_eq_true rfl) dX0_init_101 (fun v' N' h' z => ?_)
  obtain ⟨rfl, rfl, rfl⟩ := z
  refine v_eq rfl rfl (hu_hu.trans (hu_id ((hu_ne (by omega)).trans ((hu_ne (by omega)).trans (show hC G Z0 116 = _ from rfl))))) ?_
  show V G x "ScopeTasks" cX0_init 2 _ 104 [(0, .ref (gZ G + 0))] [.ref (gZ G + 116), .int (nI 0), .ref (gZ G + 115), .ref (gZ G + 115), .ref (gZ G + 0)] (144) (hu (hu (hC G Z0) 0 (.inr (0, [.ref (gZ G + 1), .ref (gZ G + 27), .ref (gZ G + 53), .ref (gZ G + 55), .ref (gZ G + 83), .ref (gZ G + 111), .ref (gZ G + 113), .null, .null, .null, .int (nI 0), .null, .null, .null, .int (nI 0)]))) 115 (.inl (gA G 6, 2, .inr (.inr (.inr (.inr (fun _ => none))))))) 143 1414
  refine v_aast (pc := 104) (t0 := 6) (k := 115) (n := 2) (j := 0) (v := gZ G + 116) (C := "ScopeTasks$Run") rfl (by decide) hu_at rfl (by decide) (by decide) (fun C H locs w s => va_recv (ci := 2) C.2.2.1 w.2 rfl (hp_e (by decide) ((hu_ne (by omega)).trans ((hu_ne (by omega)).trans (hC_run (b := 116) (j := 0) RB_116 (by decide) rfl))))) (fun comp c0 _ h1 h2 => vb_asgS comp c0 h1 h2) dX0_init_104 ?_
  refine v_eq rfl rfl (show _ = hu (hu (hC G Z0) 0 (.inr (0, [.ref (gZ G + 1), .ref (gZ G + 27), .ref (gZ G + 53), .ref (gZ G + 55), .ref (gZ G + 83), .ref (gZ G + 111), .ref (gZ G + 113), .null, .null, .null, .int (nI 0), .null, .null, .null, .int (nI 0)]))) 115 (.inl (gA G 6, 2, .inr (.inr (.inr (.inr (va_up (fun _ => none) 0 (some (gZ G + 116)))))))) from hu_hu) ?_
  show V G x "ScopeTasks" cX0_init 2 _ 105 [(0, .ref (gZ G + 0))] [.ref (gZ G + 115), .ref (gZ G + 0)] (144) (hu (hu (hC G Z0) 0 (.inr (0, [.ref (gZ G + 1), .ref (gZ G + 27), .ref (gZ G + 53), .ref (gZ G + 55), .ref (gZ G + 83), .ref (gZ G + 111), .ref (gZ G + 113), .null, .null, .null, .int (nI 0), .null, .null, .null, .int (nI 0)]))) 115 (.inl (gA G 6, 2, .inr (.inr (.inr (.inr (va_up (fun _ => none) 0 (some (gZ G + 116))))))))) 143 1414
  refine v_dup (pc := 105) dX0_init_105 rfl ?_
  refine v_iconst (pc := 106) (nI 1) dX0_init_106 (by decide) ?_
  refine v_new (pc := 107) (C := RX2) (T := TX2) (M := 18) (ci := 2) (fs := [.int (nI 0), .null, .null, .null, .null, .null, .null, .null, .null, .null, .null, .null, .null, .null, .null, .null, .int (nI 0), .null]) rfl in_X2 tyX2 tyX2_ok q195 q196 q65 (by decide) (by rw [hR]; decide) (by rw [hR]; decide) dX0_init_107 ?_
  refine v_dup (pc := 110) dX0_init_110 rfl ?_
  refine v_aload_n (pc := 111) 0 dX0_init_111 rfl rfl ?_
  refine v_callIN (pc := 112) (st := [.ref (gZ G + 144), .int (nI 1), .ref (gZ G + 115), .ref (gZ G + 115), .ref (gZ G + 0)]) (kb := 144) (cn_X2_init (b := 144) hu_at (fun j h1 h2 => ((hu_ne (by omega)).trans ((hu_ne (by omega)).trans ((hu_ne (by omega)).trans (hC_run RB_144 h2 rfl)))))) (lw_meth q199) q65 q197 q198 rfl kDX0_59 (rm_ok hR (Nat.le_of_ble_eq_true rfl) (Nat.le_of_ble_eq_true rfl)) (by rw [hR]; decide) rfl rfl (Nat.le_of_ble_eq_true rfl) dX0_init_112 (fun v' N' h' z => ?_)
  obtain ⟨rfl, rfl, rfl⟩ := z
  refine v_eq rfl rfl (hu_hu.trans (hu_id ((hu_ne (by omega)).trans ((hu_ne (by omega)).trans (show hC G Z0 144 = _ from rfl))))) ?_
  show V G x "ScopeTasks" cX0_init 2 _ 115 [(0, .ref (gZ G + 0))] [.ref (gZ G + 144), .int (nI 1), .ref (gZ G + 115), .ref (gZ G + 115), .ref (gZ G + 0)] (172) (hu (hu (hC G Z0) 0 (.inr (0, [.ref (gZ G + 1), .ref (gZ G + 27), .ref (gZ G + 53), .ref (gZ G + 55), .ref (gZ G + 83), .ref (gZ G + 111), .ref (gZ G + 113), .null, .null, .null, .int (nI 0), .null, .null, .null, .int (nI 0)]))) 115 (.inl (gA G 6, 2, .inr (.inr (.inr (.inr (va_up (fun _ => none) 0 (some (gZ G + 116))))))))) 171 1756
  refine v_aast (pc := 115) (t0 := 6) (k := 115) (n := 2) (j := 1) (v := gZ G + 144) (C := "ScopeTasks$Run") rfl (by decide) hu_at rfl (by decide) (by decide) (fun C H locs w s => va_recv (ci := 2) C.2.2.1 w.2 rfl (hp_e (by decide) ((hu_ne (by omega)).trans ((hu_ne (by omega)).trans (hC_run (b := 144) (j := 0) RB_144 (by decide) rfl))))) (fun comp c0 _ h1 h2 => vb_asgS comp c0 h1 h2) dX0_init_115 ?_
  refine v_eq rfl rfl (show _ = hu (hu (hC G Z0) 0 (.inr (0, [.ref (gZ G + 1), .ref (gZ G + 27), .ref (gZ G + 53), .ref (gZ G + 55), .ref (gZ G + 83), .ref (gZ G + 111), .ref (gZ G + 113), .null, .null, .null, .int (nI 0), .null, .null, .null, .int (nI 0)]))) 115 (.inl (gA G 6, 2, .inr (.inr (.inr (.inr (va_up (va_up (fun _ => none) 0 (some (gZ G + 116))) 1 (some (gZ G + 144)))))))) from hu_hu) ?_
  refine v_refs (g := fun j => some (gZ G + (116 + 28 * j))) (fun j hj => by have hj2 : j = 0 ∨ j = 1 := (by omega); rcases hj2 with rfl | rfl <;> rfl) ?_
  refine v_eq rfl rfl (hu_id ((hu_ne (by omega)).trans (show hC G Z0 115 = _ from rfl))) ?_
  show V G x "ScopeTasks" cX0_init 2 _ 116 [(0, .ref (gZ G + 0))] [.ref (gZ G + 115), .ref (gZ G + 0)] (172) (hu (hC G Z0) 0 (.inr (0, [.ref (gZ G + 1), .ref (gZ G + 27), .ref (gZ G + 53), .ref (gZ G + 55), .ref (gZ G + 83), .ref (gZ G + 111), .ref (gZ G + 113), .null, .null, .null, .int (nI 0), .null, .null, .null, .int (nI 0)]))) 171 1756
  refine v_putF (pc := 116) (ci := 0) (j := 7) (fs := [.ref (gZ G + 1), .ref (gZ G + 27), .ref (gZ G + 53), .ref (gZ G + 55), .ref (gZ G + 83), .ref (gZ G + 111), .ref (gZ G + 113), .null, .null, .null, .int (nI 0), .null, .null, .null, .int (nI 0)]) (T := TX0) (M := 15) (C := RX0) rfl in_X0 tyX0 tyX0_ok nmX0 (by decide) q390 rfl rfl hnm rfl rfl rfl (by omega) hu_at (Nat.le_of_ble_eq_true rfl) dX0_init_116 ?_
  refine v_eq rfl rfl (show _ = hu (hC G Z0) 0 (.inr (0, [.ref (gZ G + 1), .ref (gZ G + 27), .ref (gZ G + 53), .ref (gZ G + 55), .ref (gZ G + 83), .ref (gZ G + 111), .ref (gZ G + 113), .ref (gZ G + 115), .null, .null, .int (nI 0), .null, .null, .null, .int (nI 0)])) from hu_hu) ?_
  refine v_aload_n (pc := 119) 0 dX0_init_119 rfl rfl ?_
  refine v_iconst (pc := 120) (nI 2) dX0_init_120 (by decide) ?_
  refine v_newa (pc := 121) (t0 := 2) (n := 2) (a0 := (2, .inl (fun _ => nI 0))) rfl rfl (fun _ z => z) q431 (fun _ => rfl) (by decide) (by decide) (by rw [hR]; decide) (by rw [hR]; decide) dX0_init_121 ?_
  refine v_eq rfl rfl (hu_id ((hu_ne (by omega)).trans (show hC G Z0 172 = _ from rfl))) ?_
  show V G x "ScopeTasks" cX0_init 2 _ 123 [(0, .ref (gZ G + 0))] [.ref (gZ G + 172), .ref (gZ G + 0)] (173) (hu (hC G Z0) 0 (.inr (0, [.ref (gZ G + 1), .ref (gZ G + 27), .ref (gZ G + 53), .ref (gZ G + 55), .ref (gZ G + 83), .ref (gZ G + 111), .ref (gZ G + 113), .ref (gZ G + 115), .null, .null, .int (nI 0), .null, .null, .null, .int (nI 0)]))) 172 1758
  refine v_putF (pc := 123) (ci := 0) (j := 8) (fs := [.ref (gZ G + 1), .ref (gZ G + 27), .ref (gZ G + 53), .ref (gZ G + 55), .ref (gZ G + 83), .ref (gZ G + 111), .ref (gZ G + 113), .ref (gZ G + 115), .null, .null, .int (nI 0), .null, .null, .null, .int (nI 0)]) (T := TX0) (M := 15) (C := RX0) rfl in_X0 tyX0 tyX0_ok nmX0 (by decide) q391 rfl rfl hnm rfl rfl rfl (by omega) hu_at (Nat.le_of_ble_eq_true rfl) dX0_init_123 ?_
  refine v_eq rfl rfl (show _ = hu (hC G Z0) 0 (.inr (0, [.ref (gZ G + 1), .ref (gZ G + 27), .ref (gZ G + 53), .ref (gZ G + 55), .ref (gZ G + 83), .ref (gZ G + 111), .ref (gZ G + 113), .ref (gZ G + 115), .ref (gZ G + 172), .null, .int (nI 0), .null, .null, .null, .int (nI 0)])) from hu_hu) ?_
  refine v_aload_n (pc := 126) 0 dX0_init_126 rfl rfl ?_
  refine v_bipush (pc := 127) (nI 120) dX0_init_127 (by decide) ?_
  refine v_newa (pc := 129) (t0 := 3) (n := 120) (a0 := (120, .inl (fun _ => nI 0))) rfl rfl (fun _ z => z) q432 (fun _ => rfl) (by decide) (by decide) (by rw [hR]; decide) (by rw [hR]; decide) dX0_init_129 ?_
  refine v_eq rfl rfl (hu_id ((hu_ne (by omega)).trans (show hC G Z0 173 = _ from rfl))) ?_
  show V G x "ScopeTasks" cX0_init 2 _ 131 [(0, .ref (gZ G + 0))] [.ref (gZ G + 173), .ref (gZ G + 0)] (174) (hu (hC G Z0) 0 (.inr (0, [.ref (gZ G + 1), .ref (gZ G + 27), .ref (gZ G + 53), .ref (gZ G + 55), .ref (gZ G + 83), .ref (gZ G + 111), .ref (gZ G + 113), .ref (gZ G + 115), .ref (gZ G + 172), .null, .int (nI 0), .null, .null, .null, .int (nI 0)]))) 173 1878
  refine v_putF (pc := 131) (ci := 0) (j := 9) (fs := [.ref (gZ G + 1), .ref (gZ G + 27), .ref (gZ G + 53), .ref (gZ G + 55), .ref (gZ G + 83), .ref (gZ G + 111), .ref (gZ G + 113), .ref (gZ G + 115), .ref (gZ G + 172), .null, .int (nI 0), .null, .null, .null, .int (nI 0)]) (T := TX0) (M := 15) (C := RX0) rfl in_X0 tyX0 tyX0_ok nmX0 (by decide) q393 rfl rfl hnm rfl rfl rfl (by omega) hu_at (Nat.le_of_ble_eq_true rfl) dX0_init_131 ?_
  refine v_eq rfl rfl (show _ = hu (hC G Z0) 0 (.inr (0, [.ref (gZ G + 1), .ref (gZ G + 27), .ref (gZ G + 53), .ref (gZ G + 55), .ref (gZ G + 83), .ref (gZ G + 111), .ref (gZ G + 113), .ref (gZ G + 115), .ref (gZ G + 172), .ref (gZ G + 173), .int (nI 0), .null, .null, .null, .int (nI 0)])) from hu_hu) ?_
  refine v_aload_n (pc := 134) 0 dX0_init_134 rfl rfl ?_
  refine v_bipush (pc := 135) (nI 6) dX0_init_135 (by decide) ?_
  refine v_newa (pc := 137) (t0 := 0) (n := 6) (a0 := (6, .inl (fun _ => nI 0))) rfl rfl (fun _ z => z) q123 (fun _ => rfl) (by decide) (by decide) (by rw [hR]; decide) (by rw [hR]; decide) dX0_init_137 ?_
  refine v_eq rfl rfl (hu_id ((hu_ne (by omega)).trans (show hC G Z0 174 = _ from rfl))) ?_
  show V G x "ScopeTasks" cX0_init 2 _ 139 [(0, .ref (gZ G + 0))] [.ref (gZ G + 174), .ref (gZ G + 0)] (175) (hu (hC G Z0) 0 (.inr (0, [.ref (gZ G + 1), .ref (gZ G + 27), .ref (gZ G + 53), .ref (gZ G + 55), .ref (gZ G + 83), .ref (gZ G + 111), .ref (gZ G + 113), .ref (gZ G + 115), .ref (gZ G + 172), .ref (gZ G + 173), .int (nI 0), .null, .null, .null, .int (nI 0)]))) 174 1884
  refine v_putF (pc := 139) (ci := 0) (j := 11) (fs := [.ref (gZ G + 1), .ref (gZ G + 27), .ref (gZ G + 53), .ref (gZ G + 55), .ref (gZ G + 83), .ref (gZ G + 111), .ref (gZ G + 113), .ref (gZ G + 115), .ref (gZ G + 172), .ref (gZ G + 173), .int (nI 0), .null, .null, .null, .int (nI 0)]) (T := TX0) (M := 15) (C := RX0) rfl in_X0 tyX0 tyX0_ok nmX0 (by decide) q396 rfl rfl hnm rfl rfl rfl (by omega) hu_at (Nat.le_of_ble_eq_true rfl) dX0_init_139 ?_
  refine v_eq rfl rfl (show _ = hu (hC G Z0) 0 (.inr (0, [.ref (gZ G + 1), .ref (gZ G + 27), .ref (gZ G + 53), .ref (gZ G + 55), .ref (gZ G + 83), .ref (gZ G + 111), .ref (gZ G + 113), .ref (gZ G + 115), .ref (gZ G + 172), .ref (gZ G + 173), .int (nI 0), .ref (gZ G + 174), .null, .null, .int (nI 0)])) from hu_hu) ?_
  refine v_aload_n (pc := 142) 0 dX0_init_142 rfl rfl ?_
  refine v_bipush (pc := 143) (nI 6) dX0_init_143 (by decide) ?_
  refine v_newa (pc := 145) (t0 := 0) (n := 6) (a0 := (6, .inl (fun _ => nI 0))) rfl rfl (fun _ z => z) q123 (fun _ => rfl) (by decide) (by decide) (by rw [hR]; decide) (by rw [hR]; decide) dX0_init_145 ?_
  refine v_eq rfl rfl (hu_id ((hu_ne (by omega)).trans (show hC G Z0 175 = _ from rfl))) ?_
  show V G x "ScopeTasks" cX0_init 2 _ 147 [(0, .ref (gZ G + 0))] [.ref (gZ G + 175), .ref (gZ G + 0)] (176) (hu (hC G Z0) 0 (.inr (0, [.ref (gZ G + 1), .ref (gZ G + 27), .ref (gZ G + 53), .ref (gZ G + 55), .ref (gZ G + 83), .ref (gZ G + 111), .ref (gZ G + 113), .ref (gZ G + 115), .ref (gZ G + 172), .ref (gZ G + 173), .int (nI 0), .ref (gZ G + 174), .null, .null, .int (nI 0)]))) 175 1890
  refine v_putF (pc := 147) (ci := 0) (j := 12) (fs := [.ref (gZ G + 1), .ref (gZ G + 27), .ref (gZ G + 53), .ref (gZ G + 55), .ref (gZ G + 83), .ref (gZ G + 111), .ref (gZ G + 113), .ref (gZ G + 115), .ref (gZ G + 172), .ref (gZ G + 173), .int (nI 0), .ref (gZ G + 174), .null, .null, .int (nI 0)]) (T := TX0) (M := 15) (C := RX0) rfl in_X0 tyX0 tyX0_ok nmX0 (by decide) q397 rfl rfl hnm rfl rfl rfl (by omega) hu_at (Nat.le_of_ble_eq_true rfl) dX0_init_147 ?_
  refine v_eq rfl rfl (show _ = hu (hC G Z0) 0 (.inr (0, [.ref (gZ G + 1), .ref (gZ G + 27), .ref (gZ G + 53), .ref (gZ G + 55), .ref (gZ G + 83), .ref (gZ G + 111), .ref (gZ G + 113), .ref (gZ G + 115), .ref (gZ G + 172), .ref (gZ G + 173), .int (nI 0), .ref (gZ G + 174), .ref (gZ G + 175), .null, .int (nI 0)])) from hu_hu) ?_
  refine v_aload_n (pc := 150) 0 dX0_init_150 rfl rfl ?_
  refine v_bipush (pc := 151) (nI 6) dX0_init_151 (by decide) ?_
  refine v_newa (pc := 153) (t0 := 0) (n := 6) (a0 := (6, .inl (fun _ => nI 0))) rfl rfl (fun _ z => z) q123 (fun _ => rfl) (by decide) (by decide) (by rw [hR]; decide) (by rw [hR]; decide) dX0_init_153 ?_
  refine v_eq rfl rfl (hu_id ((hu_ne (by omega)).trans (show hC G Z0 176 = _ from rfl))) ?_
  show V G x "ScopeTasks" cX0_init 2 _ 155 [(0, .ref (gZ G + 0))] [.ref (gZ G + 176), .ref (gZ G + 0)] (177) (hu (hC G Z0) 0 (.inr (0, [.ref (gZ G + 1), .ref (gZ G + 27), .ref (gZ G + 53), .ref (gZ G + 55), .ref (gZ G + 83), .ref (gZ G + 111), .ref (gZ G + 113), .ref (gZ G + 115), .ref (gZ G + 172), .ref (gZ G + 173), .int (nI 0), .ref (gZ G + 174), .ref (gZ G + 175), .null, .int (nI 0)]))) 176 1896
  refine v_putF (pc := 155) (ci := 0) (j := 13) (fs := [.ref (gZ G + 1), .ref (gZ G + 27), .ref (gZ G + 53), .ref (gZ G + 55), .ref (gZ G + 83), .ref (gZ G + 111), .ref (gZ G + 113), .ref (gZ G + 115), .ref (gZ G + 172), .ref (gZ G + 173), .int (nI 0), .ref (gZ G + 174), .ref (gZ G + 175), .null, .int (nI 0)]) (T := TX0) (M := 15) (C := RX0) rfl in_X0 tyX0 tyX0_ok nmX0 (by decide) q398 rfl rfl hnm rfl rfl rfl (by omega) hu_at (Nat.le_of_ble_eq_true rfl) dX0_init_155 ?_
  refine v_eq rfl rfl (show _ = hu (hC G Z0) 0 (.inr (0, [.ref (gZ G + 1), .ref (gZ G + 27), .ref (gZ G + 53), .ref (gZ G + 55), .ref (gZ G + 83), .ref (gZ G + 111), .ref (gZ G + 113), .ref (gZ G + 115), .ref (gZ G + 172), .ref (gZ G + 173), .int (nI 0), .ref (gZ G + 174), .ref (gZ G + 175), .ref (gZ G + 176), .int (nI 0)])) from hu_hu) ?_
  refine v_eq rfl rfl (hu_id (show hC G Z0 0 = _ from rfl)) ?_
  refine v_S (show Z0 = fr 0 from fr_0.symm) ?_
  refine v_iconst (pc := 158) (nI 0) dX0_init_158 (by decide) ?_
  refine v_istore_n (pc := 159) (lv' := [(1, .int (nI 0)), (0, .ref (gZ G + 0))]) dX0_init_159 rfl (by decide) rfl ?_
  refine v_num (N' := 177 + 28 * 0) (a' := 176 + 28 * 0) (b' := 1896 + 342 * 0) rfl rfl rfl ?_
  refine lp_ct hR 12 0 rfl ?_
  refine v_aload_n (pc := 188) 0 dX0_init_188 rfl rfl ?_
  refine gX0_46 (pc := 189) (by omega) dX0_init_189 ?_
  refine c_callVv (pc := 192) (st := []) (ci := 1) (ct_X1_begin (S := fr 12) (b := 1) (v := 0) TB_1 ⟨rfl, by decide, rfl⟩ (by omega)) kVX0_91 kDX0_91 (rm_ok hR (Nat.le_of_ble_eq_true rfl) (Nat.le_of_ble_eq_true rfl)) (by rw [hR]; decide) (by omega) (hC_tree (j := 0) TB_1 (by decide) rfl) rfl rfl rfl rfl (Nat.le_of_ble_eq_true rfl) dX0_init_192 ?_
  refine v_S (show _ = fr 12 by rw [s2_id (show fr 12 1 0 = nI 0 from rfl)]; exact bset_id ⟨rfl, by decide, rfl⟩) ?_
  refine v_aload_n (pc := 195) 0 dX0_init_195 rfl rfl ?_
  refine gX0_46 (pc := 196) (by omega) dX0_init_196 ?_
  refine v_bipush (pc := 199) ((-9)) dX0_init_199 (by decide) ?_
  refine c_callVi (pc := 201) (st := []) (ci := 1) (ct_X1_add (S := fr 12) (b := 1) (p := (-9)) (n := 0) TB_1 rfl (by omega) (by omega)) kVX0_94 kDX0_94 (rm_ok hR (Nat.le_of_ble_eq_true rfl) (Nat.le_of_ble_eq_true rfl)) (by rw [hR]; decide) (by omega) (hC_tree (j := 0) TB_1 (by decide) rfl) rfl rfl rfl rfl (Nat.le_of_ble_eq_true rfl) dX0_init_201 ?_
  refine v_pop (pc := 204) dX0_init_204 rfl ?_
  refine v_S (show _ = cT0 from rfl) ?_
  refine v_aload_n (pc := 205) 0 dX0_init_205 rfl rfl ?_
  refine gX0_25 (pc := 206) (by omega) dX0_init_206 ?_
  refine v_S (cT0_H (b := 55) (by decide) (by decide)).put.symm ?_
  refine c_callVv (pc := 209) (st := []) (ci := 2) (ct_X2_start (S := cT0) (b := 55) (c := z0) (D := nI 99) RB_55 rfl (by omega)) kVX0_97 kDX0_97 (rm_ok hR (Nat.le_of_ble_eq_true rfl) (Nat.le_of_ble_eq_true rfl)) (by rw [hR]; decide) (by omega) (hC_run (j := 0) RB_55 (by decide) rfl) rfl rfl rfl rfl (Nat.le_of_ble_eq_true rfl) dX0_init_209 ?_
  exact v_vret (pc := 212) hr (Nat.le_refl _) (Nat.le_refl _) dX0_init_212 ⟨rfl, rfl, rfl⟩

