set_option maxRecDepth 100000
/-! ScopeTasks: queries, text, facts -/
theorem RB_55 : RB 55 := Or.inl rfl
theorem RB_83 : RB 83 := Or.inr (Or.inl rfl)
theorem IA_174 : IA 174 6 := fun _ _ => rfl
theorem IA_175 : IA 175 6 := fun _ _ => rfl
theorem IA_176 : IA 176 6 := fun _ _ => rfl
def YA (k n : Nat) : Prop := ∀ (G : GT) (f : Nat → Int32), cO G k f = .inl (gA G 3, n, .inl f)
theorem YA_173 : YA 173 120 := fun _ _ => rfl
section VY
variable {G : GT} {x : VX} {own : String} {cc : ByteArray} {nL : Nat} {Q : State → Prop} {lv lv' : List (Nat × Value)} {st : List Value} {N : Nat} {S : ST} {a b pc : Nat}
theorem c_bald {k n j : Nat} {i : Int32} (hk : YA k n) (hN : k < N) (hi : i = nI j) (hj : j < n) (hn : n < 2 ^ 31 := by decide) (hd : decode cc pc = .ok (.baload, 1)) (kk : V G x own cc nL Q (pc + 1) lv (.int (S k j) :: st) N (hC G S) a b) : V G x own cc nL Q pc lv (.int i :: .ref (gZ G + k) :: st) N (hC G S) a b := v_bald hN (hk G (S k)) hi hj hn hd kk
theorem c_bast {k n j : Nat} {i v v' : Int32} (hk : YA k n) (hN : k < N) (hi : i = nI j) (hj : j < n) (hv : vp_nar .byte v = v') (hn : n < 2 ^ 31 := by decide) (hd : decode cc pc = .ok (.bastore, 1)) (kk : V G x own cc nL Q (pc + 1) lv st N (hC G (s2 S k j v')) a b) : V G x own cc nL Q pc lv (.int v :: .int i :: .ref (gZ G + k) :: st) N (hC G S) a b := v_bast hN (hk G (S k)) hi hj hn hv hd (by rw [hC_s1 (hk G _)]; exact kk)
end VY
set_option maxHeartbeats 4000000 in
theorem ct_X0_in {G : GT} {l : Launch} {N : Nat} {S : ST} {v lo hi : Int32}  : CTi G l yX0_in cX0_in 3 (some .boolean) 0 [.int (v), .int (lo), .int (hi)] N (S) (bI (lo ≤ v ∧ v ≤ hi)) (S) := by
  refine CT.mk "ScopeTasks" [(0, .int (v)), (1, .int (lo)), (2, .int (hi))] rfl (by decide) rfl (Nat.le_of_ble_eq_true rfl) ?_
  intro x hR hl hr hnm
  refine v_iload_n (pc := 0) 0 dX0_in_0 rfl rfl ?_
  refine v_iload_n (pc := 1) 1 dX0_in_1 rfl rfl ?_
  refine v_ic_lt (pc := 2) 14 dX0_in_2 (by decide) (fun c1 => ?_) (fun c1 => ?_)
  · skip
    refine v_iconst (pc := 14) (nI 0) dX0_in_14 (by decide) ?_
    exact v_iret (pc := 15) hr rfl (Nat.le_refl _) (Nat.le_refl _) dX0_in_15 (pI_mk (bI_f (fun z => absurd c1 (Int32.not_lt.mpr z.1))) (hC_c rfl))
  · skip
    refine v_iload_n (pc := 5) 0 dX0_in_5 rfl rfl ?_
    refine v_iload_n (pc := 6) 2 dX0_in_6 rfl rfl ?_
    refine v_ic_gt (pc := 7) 14 dX0_in_7 (by decide) (fun c2 => ?_) (fun c2 => ?_)
    · skip
      refine v_iconst (pc := 14) (nI 0) dX0_in_14 (by decide) ?_
      exact v_iret (pc := 15) hr rfl (Nat.le_refl _) (Nat.le_refl _) dX0_in_15 (pI_mk (bI_f (fun z => absurd c2 (Int32.not_lt.mpr z.2))) (hC_c rfl))
    · skip
      refine v_iconst (pc := 10) (nI 1) dX0_in_10 (by decide) ?_
      refine v_goto (pc := 11) 15 dX0_in_11 (by decide) ?_
      exact v_iret (pc := 15) hr rfl (Nat.le_refl _) (Nat.le_refl _) dX0_in_15 (pI_mk (bI_t ⟨Int32.not_lt.mp c1, Int32.not_lt.mp c2⟩) (hC_c rfl))

set_option maxHeartbeats 4000000 in
theorem ct_X0_isTask {G : GT} {l : Launch} {N : Nat} {S : ST} {t : Int32} {M : ST} (hP : PT S M) (hN : 513 ≤ N) : CTi G l yX0_isTask cX0_isTask 2 (some .boolean) 1 [.ref (gZ G + 0), .int (t)] N (S) (bI (mIs M t)) (S) := by
  obtain ⟨hM, hL, hT⟩ := hP
  have h8 := hM.n
  have h1 := hM.2.1
  obtain ⟨n, hn⟩ : ∃ n, mN M = n := ⟨_, rfl⟩
  have hnE : S 1 0 = nI n := by rw [hT.n, ← hn]; exact hM.1.1
  refine CT.mk "ScopeTasks" [(0, .ref (gZ G + 0)), (1, .int (t))] rfl (by decide) rfl (Nat.le_of_ble_eq_true rfl) ?_
  intro x hR hl hr hnm
  refine v_iload_n (pc := 0) 1 dX0_isTask_0 rfl rfl ?_
  refine v_iconst (pc := 1) (nI 0) dX0_isTask_1 (by decide) ?_
  refine v_aload_n (pc := 2) 0 dX0_isTask_2 rfl rfl ?_
  refine gX0_46 (pc := 3) hN dX0_isTask_3 ?_
  refine gX0_119 (pc := 6) TB_1 hN dX0_isTask_6 ?_
  refine v_topi (v := nI n) hnE ?_
  refine v_iconst (pc := 9) (nI 1) dX0_isTask_9 (by decide) ?_
  refine v_isubN (pc := 10) (by omega) dX0_isTask_10 ?_
  refine c_callSi (pc := 11) (st := []) (ct_X0_in (S := S) (v := t) (lo := nI 0) (hi := nI (n - 1)) ) kVX0_100 kDX0_100 (rm_ok hR (Nat.le_of_ble_eq_true rfl) (Nat.le_of_ble_eq_true rfl)) ⟨Nat.zero_le _, Nat.zero_le _⟩ rfl rfl (Nat.le_of_ble_eq_true rfl) dX0_isTask_11 ?_
  exact v_iret (pc := 14) hr bI_nar (Nat.le_refl _) (Nat.le_refl _) dX0_isTask_14 (pI_mk (by unfold mIs; rw [hn]) (hC_c rfl))

theorem ltN {q n : Nat} {v v' : Int32} (h : nI q < v) (e : v = v') (hv : inN v' n) (hq : q < 2 ^ 31 := by omega) (hn : n < 2 ^ 31 := by decide) : q < nn v' := by
  rw [e, hv.1] at h
  exact (nI_ltI hq (by have := hv.2; omega)).mp h
theorem PT.put {S M : ST} {b : Nat} {c : Nat → Int32} (h : PT S M) (hb : 27 ≤ b) : PT (put S b c) M := h.toC (fun k h1 h2 => put_ne (by omega))
set_option maxHeartbeats 4000000 in
theorem ct_X0_failure {G : GT} {l : Launch} {N : Nat} {S : ST} {t k : Int32} {M : ST} {c : Nat → Int32} (hP : PT S M) (hc : HR S 55 c) (hg : Gd M c (M 527)) (hN : 513 ≤ N) : CTi G l yX0_failure cX0_failure 3 (some .int) 2 [.ref (gZ G + 0), .int (t), .int (k)] N (S) (mFailV M t k) (S) := by
  obtain ⟨hM, hL, hT⟩ := hP
  have h8 := hM.n
  have h1 := hM.2.1
  obtain ⟨n, hn⟩ : ∃ n, mN M = n := ⟨_, rfl⟩
  have hnE : S 1 0 = nI n := by rw [hT.n, ← hn]; exact hM.1.1
  obtain ⟨hs, hJ, hb9⟩ := hg
  refine CT.mk "ScopeTasks" [(0, .ref (gZ G + 0)), (1, .int (t)), (2, .int (k))] rfl (by decide) rfl (Nat.le_of_ble_eq_true rfl) ?_
  intro x hR hl hr hnm
  refine v_S hc.put.symm ?_
  refine v_aload_n (pc := 0) 0 dX0_failure_0 rfl rfl ?_
  refine v_iload_n (pc := 1) 1 dX0_failure_1 rfl rfl ?_
  refine c_callVi (pc := 2) (st := []) (ci := 0) (ct_X0_isTask (S := put S 55 c) (t := t) (M := M) (PT.put ⟨hM, hL, hT⟩ (by decide)) (by omega)) kVX0_146 kDX0_146 (rm_ok hR (Nat.le_of_ble_eq_true rfl) (Nat.le_of_ble_eq_true rfl)) ⟨Nat.zero_le _, Nat.zero_le _⟩ (by omega) (rfl) rfl rfl rfl rfl (Nat.le_of_ble_eq_true rfl) dX0_failure_2 ?_
  refine v_if_eqB (pc := 5) 12 dX0_failure_5 (by decide) (fun c1 => ?_) (fun c1 => ?_)
  · skip
    refine v_iconst (pc := 12) ((-1)) dX0_failure_12 (by decide) ?_
    exact v_iret (pc := 13) hr rfl (Nat.le_refl _) (Nat.le_refl _) dX0_failure_13 (pI_mk (by unfold mFailV; rw [if_neg (fun z => c1 z.1)]) (hC_c hc.put))
  · skip
    obtain ⟨j, hjL, rfl⟩ := in_nat (n := mN M - 1) (by omega) c1
    have hj8 : j < 8 := by omega
    have hjm : j < mN M := by omega
    have hjn : nn (nI j) = j := nn_nI (by omega)
    refine v_iload_n (pc := 8) 2 dX0_failure_8 rfl rfl ?_
    refine v_if_ge (pc := 9) 14 dX0_failure_9 (by decide) (fun c2 => ?_) (fun c2 => ?_)
    · skip
      refine v_iload_n (pc := 14) 2 dX0_failure_14 rfl rfl ?_
      refine v_aload_n (pc := 15) 0 dX0_failure_15 rfl rfl ?_
      refine gX0_25 (pc := 16) hN dX0_failure_16 ?_
      refine gX0_188 (pc := 19) RB_55 hN dX0_failure_19 ?_
      refine v_iload_n (pc := 22) 1 dX0_failure_22 rfl rfl ?_
      refine c_iald (pc := 23) (k := 55 + 15) (j := j) (IA_run8 RB_55 (by decide) (by decide) (by decide)) (by omega) rfl (by omega) (by decide) dX0_failure_23 ?_
      refine v_topi (v := c (18 * j + 9)) (pr_15 (by omega)) ?_
      refine v_ic_ge (pc := 24) 41 dX0_failure_24 (by decide) (fun c3 => ?_) (fun c3 => ?_)
      · skip
        refine v_bipush (pc := 41) ((-9)) dX0_failure_41 (by decide) ?_
        exact v_iret (pc := 43) hr rfl (Nat.le_refl _) (Nat.le_refl _) dX0_failure_43 (pI_mk (by unfold mFailV; rw [if_pos ⟨c1, c2⟩, hjn, ← (hs.1 j hj8).1.2.2.2.2.2, if_neg (Int32.not_lt.mpr c3)]) (hC_c hc.put))
      · skip
        have hm := (hs.RIc hJ.1).2 j hj8
        obtain ⟨q, hqL, hqE⟩ : ∃ q, q < 8 ∧ k = nI q := ltNat c2 (Int32.not_le.mp c3) hm.2
        have hqn : nn (nI q) = q := nn_nI (by omega)
        subst hqE
        refine v_aload_n (pc := 27) 0 dX0_failure_27 rfl rfl ?_
        refine gX0_25 (pc := 28) hN dX0_failure_28 ?_
        refine gX0_194 (pc := 31) RB_55 hN dX0_failure_31 ?_
        refine v_iload_n (pc := 34) 1 dX0_failure_34 rfl rfl ?_
        refine c_gridL (pc := 35) (b0 := 55) (j := j) RB_55 (by omega) rfl (by omega) dX0_failure_35 ?_
        refine v_iload_n (pc := 36) 2 dX0_failure_36 rfl rfl ?_
        refine c_iald (pc := 37) (k := 55 + 17 + j) (j := q) (IA_gridL RB_55 (by omega)) (by omega) rfl (by omega) (by decide) dX0_failure_37 ?_
        refine v_topi (v := c (18 * j + 10 + q)) (pr_L (by omega) (by omega)) ?_
        refine v_goto (pc := 38) 43 dX0_failure_38 (by decide) ?_
        exact v_iret (pc := 43) hr rfl (Nat.le_refl _) (Nat.le_refl _) dX0_failure_43 (pI_mk (by unfold mFailV; rw [if_pos ⟨c1, c2⟩, hjn, ← (hs.1 j hj8).1.2.2.2.2.2, if_pos (Int32.not_le.mp c3), hqn, ← Nat.add_assoc]; exact (hs.1 j hj8).2.2.1 q (ltN (Int32.not_le.mp c3) (hs.1 j hj8).1.2.2.2.2.2 ((hJ.1.2 j hj8).2))) (hC_c hc.put))
    · skip
      refine v_iconst (pc := 12) ((-1)) dX0_failure_12 (by decide) ?_
      exact v_iret (pc := 13) hr rfl (Nat.le_refl _) (Nat.le_refl _) dX0_failure_13 (pI_mk (by unfold mFailV; rw [if_neg (fun z => c2 z.2)]) (hC_c hc.put))

theorem tw2 {w : Int32} (h : nI 0 ≤ w ∧ w ≤ nI 2) (h0 : ¬ w = 0) (h1 : ¬ w = nI 1) : w = nI 2 := by
  obtain ⟨j, hj, rfl⟩ := in_nat (by decide) h
  have : j = 0 ∨ j = 1 ∨ j = 2 := by omega
  rcases this with rfl | rfl | rfl
  · exact absurd rfl h0
  · exact absurd rfl h1
  · rfl
set_option maxHeartbeats 4000000 in
theorem ct_X0_trace {G : GT} {l : Launch} {N : Nat} {S : ST} {k w : Int32} {M : ST} {c : Nat → Int32} (hc : HR S 55 c) (hg : Gd M c (M 527)) (hN : 513 ≤ N) : CTi G l yX0_trace cX0_trace 3 (some .int) 1 [.ref (gZ G + 0), .int (k), .int (w)] N (S) (mTraceV M k w) (S) := by
  obtain ⟨hs, hJ, hb9⟩ := hg
  refine CT.mk "ScopeTasks" [(0, .ref (gZ G + 0)), (1, .int (k)), (2, .int (w))] rfl (by decide) rfl (Nat.le_of_ble_eq_true rfl) ?_
  intro x hR hl hr hnm
  refine v_S hc.put.symm ?_
  refine v_iload_n (pc := 0) 1 dX0_trace_0 rfl rfl ?_
  refine v_if_lt (pc := 1) 13 dX0_trace_1 (by decide) (fun c1 => ?_) (fun c1 => ?_)
  · skip
    refine v_iconst (pc := 13) ((-1)) dX0_trace_13 (by decide) ?_
    exact v_iret (pc := 14) hr rfl (Nat.le_refl _) (Nat.le_refl _) dX0_trace_14 (pI_mk (by unfold mTraceV; rw [if_neg (fun z => z.1 c1)]) (hC_c hc.put))
  · skip
    refine v_iload_n (pc := 4) 2 dX0_trace_4 rfl rfl ?_
    refine v_iconst (pc := 5) (nI 0) dX0_trace_5 (by decide) ?_
    refine v_iconst (pc := 6) (nI 2) dX0_trace_6 (by decide) ?_
    refine c_callSi (pc := 7) (st := []) (ct_X0_in (S := put S 55 c) (v := w) (lo := nI 0) (hi := nI 2) ) kVX0_100 kDX0_100 (rm_ok hR (Nat.le_of_ble_eq_true rfl) (Nat.le_of_ble_eq_true rfl)) ⟨Nat.zero_le _, Nat.zero_le _⟩ rfl rfl (Nat.le_of_ble_eq_true rfl) dX0_trace_7 ?_
    refine v_if_neB (pc := 10) 15 dX0_trace_10 (by decide) (fun c2 => ?_) (fun c2 => ?_)
    · skip
      refine v_iload_n (pc := 15) 1 dX0_trace_15 rfl rfl ?_
      refine v_aload_n (pc := 16) 0 dX0_trace_16 rfl rfl ?_
      refine gX0_25 (pc := 17) hN dX0_trace_17 ?_
      refine gX0_198 (pc := 20) RB_55 hN dX0_trace_20 ?_
      refine v_topi (v := c 145) (pr_16) ?_
      refine v_ic_lt (pc := 23) 29 dX0_trace_23 (by decide) (fun c3 => ?_) (fun c3 => ?_)
      · skip
        obtain ⟨q, hqL, hqE⟩ : ∃ q, q < 60 ∧ k = nI q := ltNat (Int32.not_lt.mp c1) c3 (hs.RIc hJ.1).1
        have hqn : nn (nI q) = q := nn_nI (by omega)
        subst hqE
        refine v_iload_n (pc := 29) 2 dX0_trace_29 rfl rfl ?_
        refine v_if_ne (pc := 30) 45 dX0_trace_30 (by decide) (fun c4 => ?_) (fun c4 => ?_)
        · skip
          refine v_iload_n (pc := 45) 2 dX0_trace_45 rfl rfl ?_
          refine v_iconst (pc := 46) (nI 1) dX0_trace_46 (by decide) ?_
          refine v_ic_ne (pc := 47) 62 dX0_trace_47 (by decide) (fun c5 => ?_) (fun c5 => ?_)
          · skip
            refine v_aload_n (pc := 62) 0 dX0_trace_62 rfl rfl ?_
            refine gX0_25 (pc := 63) hN dX0_trace_63 ?_
            refine gX0_207 (pc := 66) RB_55 hN dX0_trace_66 ?_
            refine v_iload_n (pc := 69) 1 dX0_trace_69 rfl rfl ?_
            refine c_iald (pc := 70) (k := 55 + 27) (j := q) (IA_run60 RB_55 (by decide) (by decide)) (by omega) rfl (by omega) (by decide) dX0_trace_70 ?_
            refine v_topi (v := c (146 + 3 * q + 2)) (pr_27 (by omega)) ?_
            exact v_iret (pc := 71) hr rfl (Nat.le_refl _) (Nat.le_refl _) dX0_trace_71 (pI_mk (by unfold mTraceV; rw [if_pos ⟨c1, c2⟩, ← hs.2.2.2.2.1, if_pos c3, hqn]; rw [tw2 c2 c4 c5, show nn (nI 2) = 2 from rfl]; exact (hs.2.2.2.2.2 q (ltN c3 hs.2.2.2.2.1 hJ.1.1)).2.2) (hC_c hc.put))
          · skip
            refine v_aload_n (pc := 50) 0 dX0_trace_50 rfl rfl ?_
            refine gX0_25 (pc := 51) hN dX0_trace_51 ?_
            refine gX0_204 (pc := 54) RB_55 hN dX0_trace_54 ?_
            refine v_iload_n (pc := 57) 1 dX0_trace_57 rfl rfl ?_
            refine c_iald (pc := 58) (k := 55 + 26) (j := q) (IA_run60 RB_55 (by decide) (by decide)) (by omega) rfl (by omega) (by decide) dX0_trace_58 ?_
            refine v_topi (v := c (146 + 3 * q + 1)) (pr_26 (by omega)) ?_
            refine v_goto (pc := 59) 71 dX0_trace_59 (by decide) ?_
            exact v_iret (pc := 71) hr rfl (Nat.le_refl _) (Nat.le_refl _) dX0_trace_71 (pI_mk (by unfold mTraceV; rw [if_pos ⟨c1, c2⟩, ← hs.2.2.2.2.1, if_pos c3, hqn]; rw [c5, show nn (nI 1) = 1 from rfl]; exact (hs.2.2.2.2.2 q (ltN c3 hs.2.2.2.2.1 hJ.1.1)).2.1) (hC_c hc.put))
        · skip
          refine v_aload_n (pc := 33) 0 dX0_trace_33 rfl rfl ?_
          refine gX0_25 (pc := 34) hN dX0_trace_34 ?_
          refine gX0_201 (pc := 37) RB_55 hN dX0_trace_37 ?_
          refine v_iload_n (pc := 40) 1 dX0_trace_40 rfl rfl ?_
          refine c_iald (pc := 41) (k := 55 + 25) (j := q) (IA_run60 RB_55 (by decide) (by decide)) (by omega) rfl (by omega) (by decide) dX0_trace_41 ?_
          refine v_topi (v := c (146 + 3 * q)) (pr_25 (by omega)) ?_
          refine v_goto (pc := 42) 71 dX0_trace_42 (by decide) ?_
          exact v_iret (pc := 71) hr rfl (Nat.le_refl _) (Nat.le_refl _) dX0_trace_71 (pI_mk (by unfold mTraceV; rw [if_pos ⟨c1, c2⟩, ← hs.2.2.2.2.1, if_pos c3, hqn]; rw [show w = nI 0 from c4, show nn (nI 0) = 0 from rfl, Nat.add_zero]; exact (hs.2.2.2.2.2 q (ltN c3 hs.2.2.2.2.1 hJ.1.1)).1) (hC_c hc.put))
      · skip
        refine v_bipush (pc := 26) ((-9)) dX0_trace_26 (by decide) ?_
        exact v_iret (pc := 28) hr rfl (Nat.le_refl _) (Nat.le_refl _) dX0_trace_28 (pI_mk (by unfold mTraceV; rw [if_pos ⟨c1, c2⟩, ← hs.2.2.2.2.1, if_neg c3]) (hC_c hc.put))
    · skip
      refine v_iconst (pc := 13) ((-1)) dX0_trace_13 (by decide) ?_
      exact v_iret (pc := 14) hr rfl (Nat.le_refl _) (Nat.le_refl _) dX0_trace_14 (pI_mk (by unfold mTraceV; rw [if_neg (fun z => c2 z.2)]) (hC_c hc.put))

theorem mBs_low {M : ST} {g : Nat → Int32} {t : Nat} (hM : MI M) (ht : t < mN M) : ∀ m, m ≤ t → mBs (M 521) g (nI t) m = nI 0 := by
  intro m
  induction m with
  | zero => intro _; rfl
  | succ m ih =>
    intro hm
    have h8 := hM.n
    obtain ⟨⟨e3, e4⟩, e5⟩ := hM.2.2.1 (m + 1) (by omega) (by omega)
    rw [mBs, ih (by omega), if_neg (fun z => by have z1 := z.1; rw [e3] at z1; exact absurd (nI_inj (by omega) (by omega) z1) (by omega))]
    rfl
set_option maxHeartbeats 4000000 in
theorem lp_chi {G : GT} {x : VX} {N : Nat} {Q : State → Prop} {S M : ST} {n t : Nat} {c : Nat → Int32} (hN : 513 ≤ N) (hT : TR S M) (hn : mN M = n) (hs : Sim M c (M 527)) (hnE : S 1 0 = nI n) (hn8 : n ≤ 8) (ht : t < 8) (hR : xR x = RM 2 0 0) : ∀ (m q : Nat), q + 1 + m = n → V G x "ScopeTasks" cX0_childrenOf 5 Q 86 [(2, .int (mBs (M 521) (M 527) (nI t) (n - 1))), (0, .ref (gZ G + 0)), (1, .int (nI t))] [] N (hC G (put S 55 c)) 0 0 → V G x "ScopeTasks" cX0_childrenOf 5 Q 6 [(3, .int (nI (q + 1))), (2, .int (mBs (M 521) (M 527) (nI t) q)), (0, .ref (gZ G + 0)), (1, .int (nI t))] [] N (hC G (put S 55 c)) 0 0 := by
  intro m
  induction m with
  | zero =>
    intro q hcm hk
    refine v_iload_n (pc := 6) 0 dX0_childrenOf_6 rfl rfl ?_
    refine v_aload_n (pc := 7) 2 dX0_childrenOf_7 rfl rfl ?_
    refine gX0_46 (pc := 8) hN dX0_childrenOf_8 ?_
    refine gX0_119 (pc := 11) TB_1 hN dX0_childrenOf_11 ?_
    refine v_topi (v := nI n) ((congrFun (put_ne (by omega)) _).trans hnE) ?_
    refine v_ic_geN (pc := 14) 86 (by omega) (by omega) dX0_childrenOf_14 (by decide) (fun c1 => ?_) (fun c1 => ?_)
    · skip
      refine v_sub (lv' := [(2, .int (mBs (M 521) (M 527) (nI t) q)), (0, .ref (gZ G + 0)), (1, .int (nI t))]) [1, 2, 3] rfl ?_
      rw [show n - 1 = q by omega] at hk
      exact hk
    · skip
      exact absurd c1 (by omega)
  | succ m ih =>
    intro q hcm hk
    refine v_iload_n (pc := 6) 0 dX0_childrenOf_6 rfl rfl ?_
    refine v_aload_n (pc := 7) 2 dX0_childrenOf_7 rfl rfl ?_
    refine gX0_46 (pc := 8) hN dX0_childrenOf_8 ?_
    refine gX0_119 (pc := 11) TB_1 hN dX0_childrenOf_11 ?_
    refine v_topi (v := nI n) ((congrFun (put_ne (by omega)) _).trans hnE) ?_
    refine v_ic_geN (pc := 14) 86 (by omega) (by omega) dX0_childrenOf_14 (by decide) (fun c1 => ?_) (fun c1 => ?_)
    · skip
      exact absurd c1 (by omega)
    · skip
      refine v_aload_n (pc := 17) 2 dX0_childrenOf_17 rfl rfl ?_
      refine gX0_46 (pc := 18) hN dX0_childrenOf_18 ?_
      refine gX0_172 (pc := 21) TB_1 hN dX0_childrenOf_21 ?_
      refine v_iload_n (pc := 24) 0 dX0_childrenOf_24 rfl rfl ?_
      refine c_iald (pc := 25) (k := 1 + 1) (j := q + 1) (IA_tree8 TB_1 (by decide)) (by omega) rfl (by omega) (by decide) dX0_childrenOf_25 ?_
      refine v_topi (v := M 521 (q + 1)) ((congrFun (put_ne (by omega)) _).trans (hT.par (by rw [hn]; omega))) ?_
      refine v_iload_n (pc := 26) 3 dX0_childrenOf_26 rfl rfl ?_
      refine v_ic_ne (pc := 27) 62 dX0_childrenOf_27 (by decide) (fun c2 => ?_) (fun c2 => ?_)
      · skip
        refine v_iconst (pc := 62) (nI 0) dX0_childrenOf_62 (by decide) ?_
        refine v_istore (pc := 63) (lv' := [(4, .int (nI 0)), (3, .int (nI (q + 1))), (2, .int (mBs (M 521) (M 527) (nI t) q)), (0, .ref (gZ G + 0)), (1, .int (nI t))]) dX0_childrenOf_63 (by decide) rfl ?_
        refine v_iload_n (pc := 65) 2 dX0_childrenOf_65 rfl rfl ?_
        refine v_iload (pc := 66) 0 dX0_childrenOf_66 rfl ?_
        refine v_if_eqN (pc := 68) 77 (by omega) dX0_childrenOf_68 (by decide) (fun _ => ?_) (fun h => absurd h (by decide))
        refine v_iconst (pc := 77) (nI 0) dX0_childrenOf_77 (by decide) ?_
        refine v_ior (pc := 78) dX0_childrenOf_78 ?_
        refine v_istore_n (pc := 79) (lv' := [(2, .int ((mBs (M 521) (M 527) (nI t) q) ||| (nI 0))), (4, .int (nI 0)), (3, .int (nI (q + 1))), (0, .ref (gZ G + 0)), (1, .int (nI t))]) dX0_childrenOf_79 rfl (by decide) rfl ?_
        refine v_iincN (pc := 80) (k := 2) (lv' := [(3, .int (nI (q + 1 + 1))), (2, .int ((mBs (M 521) (M 527) (nI t) q) ||| (nI 0))), (4, .int (nI 0)), (0, .ref (gZ G + 0)), (1, .int (nI t))]) dX0_childrenOf_80 rfl (by decide) rfl ?_
        refine v_goto (pc := 83) 6 dX0_childrenOf_83 (by decide) ?_
        refine v_sub (lv' := [(3, .int (nI (q + 1 + 1))), (2, .int ((mBs (M 521) (M 527) (nI t) q) ||| (nI 0))), (0, .ref (gZ G + 0)), (1, .int (nI t))]) [0, 1, 3, 4] rfl ?_
        refine v_lv (lv' := [(3, .int (nI (q + 1 + 1))), (2, .int (mBs (M 521) (M 527) (nI t) (q + 1))), (0, .ref (gZ G + 0)), (1, .int (nI t))]) (by rw [mBs, if_neg (fun z => c2 z.1)]) ?_
        exact ih (q + 1) (by omega) hk
      · skip
        refine v_aload_n (pc := 30) 2 dX0_childrenOf_30 rfl rfl ?_
        refine gX0_25 (pc := 31) hN dX0_childrenOf_31 ?_
        refine gX0_150 (pc := 34) RB_55 hN dX0_childrenOf_34 ?_
        refine v_iload_n (pc := 37) 0 dX0_childrenOf_37 rfl rfl ?_
        refine c_callVi (pc := 38) (st := []) (ci := 6) (ct_get1 (S := S) (b := 55) (t := q + 1) (c := c) RB_55 (by omega) (by omega)) kVX0_154 kDX0_154 (rm_ok hR (Nat.le_of_ble_eq_true rfl) (Nat.le_of_ble_eq_true rfl)) ⟨Nat.zero_le _, Nat.zero_le _⟩ (by omega) ((BC_run RB_55 (j := 1) (by decide)) G _).1 rfl rfl rfl rfl (Nat.le_of_ble_eq_true rfl) dX0_childrenOf_38 ?_
        refine v_if_neB (pc := 41) 58 dX0_childrenOf_41 (by decide) (fun c3 => ?_) (fun c3 => ?_)
        · skip
          refine v_iconst (pc := 58) (nI 1) dX0_childrenOf_58 (by decide) ?_
          refine v_goto (pc := 59) 63 dX0_childrenOf_59 (by decide) ?_
          refine v_istore (pc := 63) (lv' := [(4, .int (nI 1)), (3, .int (nI (q + 1))), (2, .int (mBs (M 521) (M 527) (nI t) q)), (0, .ref (gZ G + 0)), (1, .int (nI t))]) dX0_childrenOf_63 (by decide) rfl ?_
          refine v_iload_n (pc := 65) 2 dX0_childrenOf_65 rfl rfl ?_
          refine v_iload (pc := 66) 0 dX0_childrenOf_66 rfl ?_
          refine v_if_eqN (pc := 68) 77 (by omega) dX0_childrenOf_68 (by decide) (fun h => absurd h (by decide)) (fun _ => ?_)
          refine v_iconst (pc := 71) (nI 1) dX0_childrenOf_71 (by decide) ?_
          refine v_iload_n (pc := 72) 1 dX0_childrenOf_72 rfl rfl ?_
          refine v_ishl (pc := 73) dX0_childrenOf_73 ?_
          refine v_goto (pc := 74) 78 dX0_childrenOf_74 (by decide) ?_
          refine v_ior (pc := 78) dX0_childrenOf_78 ?_
          refine v_istore_n (pc := 79) (lv' := [(2, .int ((mBs (M 521) (M 527) (nI t) q) ||| ((nI 1) <<< ((nI (q + 1)) &&& 31)))), (4, .int (nI 1)), (3, .int (nI (q + 1))), (0, .ref (gZ G + 0)), (1, .int (nI t))]) dX0_childrenOf_79 rfl (by decide) rfl ?_
          refine v_iincN (pc := 80) (k := 2) (lv' := [(3, .int (nI (q + 1 + 1))), (2, .int ((mBs (M 521) (M 527) (nI t) q) ||| ((nI 1) <<< ((nI (q + 1)) &&& 31)))), (4, .int (nI 1)), (0, .ref (gZ G + 0)), (1, .int (nI t))]) dX0_childrenOf_80 rfl (by decide) rfl ?_
          refine v_goto (pc := 83) 6 dX0_childrenOf_83 (by decide) ?_
          refine v_sub (lv' := [(3, .int (nI (q + 1 + 1))), (2, .int ((mBs (M 521) (M 527) (nI t) q) ||| ((nI 1) <<< ((nI (q + 1)) &&& 31)))), (0, .ref (gZ G + 0)), (1, .int (nI t))]) [0, 1, 3, 4] rfl ?_
          refine v_lv (lv' := [(3, .int (nI (q + 1 + 1))), (2, .int (mBs (M 521) (M 527) (nI t) (q + 1))), (0, .ref (gZ G + 0)), (1, .int (nI t))]) (by rw [mBs, if_pos ⟨c2, Or.inl ((hs.how (show q + 1 < 8 by omega)).symm.trans c3)⟩]) ?_
          exact ih (q + 1) (by omega) hk
        · skip
          refine v_aload_n (pc := 44) 2 dX0_childrenOf_44 rfl rfl ?_
          refine gX0_25 (pc := 45) hN dX0_childrenOf_45 ?_
          refine gX0_175 (pc := 48) RB_55 hN dX0_childrenOf_48 ?_
          refine v_iload_n (pc := 51) 0 dX0_childrenOf_51 rfl rfl ?_
          refine c_callVi (pc := 52) (st := []) (ci := 6) (ct_get3 (S := S) (b := 55) (t := q + 1) (c := c) RB_55 (by omega) (by omega)) kVX0_154 kDX0_154 (rm_ok hR (Nat.le_of_ble_eq_true rfl) (Nat.le_of_ble_eq_true rfl)) ⟨Nat.zero_le _, Nat.zero_le _⟩ (by omega) ((BC_run RB_55 (j := 3) (by decide)) G _).1 rfl rfl rfl rfl (Nat.le_of_ble_eq_true rfl) dX0_childrenOf_52 ?_
          refine v_if_eqB (pc := 55) 62 dX0_childrenOf_55 (by decide) (fun c4 => ?_) (fun c4 => ?_)
          · skip
            refine v_iconst (pc := 62) (nI 0) dX0_childrenOf_62 (by decide) ?_
            refine v_istore (pc := 63) (lv' := [(4, .int (nI 0)), (3, .int (nI (q + 1))), (2, .int (mBs (M 521) (M 527) (nI t) q)), (0, .ref (gZ G + 0)), (1, .int (nI t))]) dX0_childrenOf_63 (by decide) rfl ?_
            refine v_iload_n (pc := 65) 2 dX0_childrenOf_65 rfl rfl ?_
            refine v_iload (pc := 66) 0 dX0_childrenOf_66 rfl ?_
            refine v_if_eqN (pc := 68) 77 (by omega) dX0_childrenOf_68 (by decide) (fun _ => ?_) (fun h => absurd h (by decide))
            refine v_iconst (pc := 77) (nI 0) dX0_childrenOf_77 (by decide) ?_
            refine v_ior (pc := 78) dX0_childrenOf_78 ?_
            refine v_istore_n (pc := 79) (lv' := [(2, .int ((mBs (M 521) (M 527) (nI t) q) ||| (nI 0))), (4, .int (nI 0)), (3, .int (nI (q + 1))), (0, .ref (gZ G + 0)), (1, .int (nI t))]) dX0_childrenOf_79 rfl (by decide) rfl ?_
            refine v_iincN (pc := 80) (k := 2) (lv' := [(3, .int (nI (q + 1 + 1))), (2, .int ((mBs (M 521) (M 527) (nI t) q) ||| (nI 0))), (4, .int (nI 0)), (0, .ref (gZ G + 0)), (1, .int (nI t))]) dX0_childrenOf_80 rfl (by decide) rfl ?_
            refine v_goto (pc := 83) 6 dX0_childrenOf_83 (by decide) ?_
            refine v_sub (lv' := [(3, .int (nI (q + 1 + 1))), (2, .int ((mBs (M 521) (M 527) (nI t) q) ||| (nI 0))), (0, .ref (gZ G + 0)), (1, .int (nI t))]) [0, 1, 3, 4] rfl ?_
            refine v_lv (lv' := [(3, .int (nI (q + 1 + 1))), (2, .int (mBs (M 521) (M 527) (nI t) (q + 1))), (0, .ref (gZ G + 0)), (1, .int (nI t))]) (by rw [mBs, if_neg (fun z => z.2.elim (fun y => c3 ((hs.how (show q + 1 < 8 by omega)).trans y)) (fun y => c4 ((hs.how (show q + 1 < 8 by omega)).trans y)))]) ?_
            exact ih (q + 1) (by omega) hk
          · skip
            refine v_iconst (pc := 58) (nI 1) dX0_childrenOf_58 (by decide) ?_
            refine v_goto (pc := 59) 63 dX0_childrenOf_59 (by decide) ?_
            refine v_istore (pc := 63) (lv' := [(4, .int (nI 1)), (3, .int (nI (q + 1))), (2, .int (mBs (M 521) (M 527) (nI t) q)), (0, .ref (gZ G + 0)), (1, .int (nI t))]) dX0_childrenOf_63 (by decide) rfl ?_
            refine v_iload_n (pc := 65) 2 dX0_childrenOf_65 rfl rfl ?_
            refine v_iload (pc := 66) 0 dX0_childrenOf_66 rfl ?_
            refine v_if_eqN (pc := 68) 77 (by omega) dX0_childrenOf_68 (by decide) (fun h => absurd h (by decide)) (fun _ => ?_)
            refine v_iconst (pc := 71) (nI 1) dX0_childrenOf_71 (by decide) ?_
            refine v_iload_n (pc := 72) 1 dX0_childrenOf_72 rfl rfl ?_
            refine v_ishl (pc := 73) dX0_childrenOf_73 ?_
            refine v_goto (pc := 74) 78 dX0_childrenOf_74 (by decide) ?_
            refine v_ior (pc := 78) dX0_childrenOf_78 ?_
            refine v_istore_n (pc := 79) (lv' := [(2, .int ((mBs (M 521) (M 527) (nI t) q) ||| ((nI 1) <<< ((nI (q + 1)) &&& 31)))), (4, .int (nI 1)), (3, .int (nI (q + 1))), (0, .ref (gZ G + 0)), (1, .int (nI t))]) dX0_childrenOf_79 rfl (by decide) rfl ?_
            refine v_iincN (pc := 80) (k := 2) (lv' := [(3, .int (nI (q + 1 + 1))), (2, .int ((mBs (M 521) (M 527) (nI t) q) ||| ((nI 1) <<< ((nI (q + 1)) &&& 31)))), (4, .int (nI 1)), (0, .ref (gZ G + 0)), (1, .int (nI t))]) dX0_childrenOf_80 rfl (by decide) rfl ?_
            refine v_goto (pc := 83) 6 dX0_childrenOf_83 (by decide) ?_
            refine v_sub (lv' := [(3, .int (nI (q + 1 + 1))), (2, .int ((mBs (M 521) (M 527) (nI t) q) ||| ((nI 1) <<< ((nI (q + 1)) &&& 31)))), (0, .ref (gZ G + 0)), (1, .int (nI t))]) [0, 1, 3, 4] rfl ?_
            refine v_lv (lv' := [(3, .int (nI (q + 1 + 1))), (2, .int (mBs (M 521) (M 527) (nI t) (q + 1))), (0, .ref (gZ G + 0)), (1, .int (nI t))]) (by rw [mBs, if_pos ⟨c2, Or.inr ((hs.how (show q + 1 < 8 by omega)).symm.trans c4)⟩]) ?_
            exact ih (q + 1) (by omega) hk

set_option maxHeartbeats 4000000 in
theorem ct_X0_childrenOf {G : GT} {l : Launch} {N : Nat} {S : ST} {t : Nat} {M : ST} {c : Nat → Int32} (hP : PT S M) (hc : HR S 55 c) (hs : Sim M c (M 527)) (ht : t < mN M) (hN : 513 ≤ N) : CTi G l yX0_childrenOf cX0_childrenOf 5 (some .int) 2 [.ref (gZ G + 0), .int (nI t)] N (S) (mBs (M 521) (M 527) (nI t) (mN M - 1)) (S) := by
  obtain ⟨hM, hL, hT⟩ := hP
  have h8 := hM.n
  have h1 := hM.2.1
  obtain ⟨n, hn⟩ : ∃ n, mN M = n := ⟨_, rfl⟩
  have hnE : S 1 0 = nI n := by rw [hT.n, ← hn]; exact hM.1.1
  refine CT.mk "ScopeTasks" [(0, .ref (gZ G + 0)), (1, .int (nI t))] rfl (by decide) rfl (Nat.le_of_ble_eq_true rfl) ?_
  intro x hR hl hr hnm
  refine v_S hc.put.symm ?_
  refine v_iconst (pc := 0) (nI 0) dX0_childrenOf_0 (by decide) ?_
  refine v_istore_n (pc := 1) (lv' := [(2, .int (nI 0)), (0, .ref (gZ G + 0)), (1, .int (nI t))]) dX0_childrenOf_1 rfl (by decide) rfl ?_
  refine v_iload_n (pc := 2) 2 dX0_childrenOf_2 rfl rfl ?_
  refine v_iconst (pc := 3) (nI 1) dX0_childrenOf_3 (by decide) ?_
  refine v_iaddN (pc := 4) dX0_childrenOf_4 ?_
  refine v_istore_n (pc := 5) (lv' := [(3, .int (nI (t + 1))), (2, .int (nI 0)), (0, .ref (gZ G + 0)), (1, .int (nI t))]) dX0_childrenOf_5 rfl (by decide) rfl ?_
  refine v_sub (lv' := [(3, .int (nI (t + 1))), (2, .int (nI 0)), (0, .ref (gZ G + 0)), (1, .int (nI t))]) [0, 1, 2, 3] rfl ?_
  refine v_lv (lv' := [(3, .int (nI (t + 1))), (2, .int (mBs (M 521) (M 527) (nI t) t)), (0, .ref (gZ G + 0)), (1, .int (nI t))]) (by rw [mBs_low hM ht t (Nat.le_refl _)]) ?_
  refine lp_chi hN hT hn hs hnE (by omega) (by omega) hR (n - 1 - t) t (by omega) ?_
  refine v_iload_n (pc := 86) 0 dX0_childrenOf_86 rfl rfl ?_
  exact v_iret (pc := 87) hr rfl (Nat.le_refl _) (Nat.le_refl _) dX0_childrenOf_87 (pI_mk (by rw [hn]) (hC_c hc.put))

theorem sw_no {w : Int32} (hs : w.toInt < 0 ∨ ((7 : Nat) : Int) < w.toInt) (h : nI 0 ≤ w ∧ w ≤ nI 7) : False := by
  obtain ⟨j, hj, rfl⟩ := in_nat (by decide) h
  rw [nI_toInt (by omega)] at hs
  omega
theorem due_n {c g : Nat → Int32} {j : Nat} (h : S1 c g j) (n : ¬ c (18 * j + 4) = nI 100000) : c (18 * j + 4) = if g (18 * j) = nI 0 ∨ g (18 * j + 4) = nI 9999 then (-9) else g (18 * j + 4) := by
  have f := h.2.2.2.2.1
  by_cases e : g (18 * j) = nI 0
  · rw [if_pos (Or.inl e)]; exact (f.1 e).1
  · rcases (f.2 e).1 with ⟨a, -⟩ | ⟨a, b⟩
    · exact absurd a n
    · rw [if_neg]
      · exact a
      · rintro (z | z)
        · exact e z
        · rw [z] at b; exact absurd b.2 (by decide)
theorem due_y {c g : Nat → Int32} {j : Nat} (h : S1 c g j) (y : c (18 * j + 4) = nI 100000) : (-9) = if g (18 * j) = nI 0 ∨ g (18 * j + 4) = nI 9999 then (-9) else g (18 * j + 4) := by
  have f := h.2.2.2.2.1
  by_cases e : g (18 * j) = nI 0
  · rw [if_pos (Or.inl e)]
  · rcases (f.2 e).1 with ⟨-, a⟩ | ⟨a, b⟩
    · rw [if_pos (Or.inr a)]
    · rw [← a, y] at b; exact absurd b.2 (by decide)
theorem ask_n {c g : Nat → Int32} {j : Nat} (h : S1 c g j) (n : ¬ c (18 * j + 5) = nI 1) : nI 0 = g (18 * j + 5) := by
  rcases h.2.1.2 with e | e
  · exact e.symm
  · exact absurd (h.1.2.2.2.1.trans e) n
set_option maxHeartbeats 4000000 in
theorem ct_X0_task {G : GT} {l : Launch} {N : Nat} {S : ST} {t w : Int32} {M : ST} {c : Nat → Int32} (hP : PT S M) (hc : HR S 55 c) (hg : Gd M c (M 527)) (hN : 513 ≤ N) : CTi G l yX0_task cX0_task 3 (some .int) 3 [.ref (gZ G + 0), .int (t), .int (w)] N (S) (mTaskV M t w) (S) := by
  obtain ⟨hM, hL, hT⟩ := hP
  have h8 := hM.n
  have h1 := hM.2.1
  obtain ⟨n, hn⟩ : ∃ n, mN M = n := ⟨_, rfl⟩
  have hnE : S 1 0 = nI n := by rw [hT.n, ← hn]; exact hM.1.1
  obtain ⟨hs, hJ, hb9⟩ := hg
  refine CT.mk "ScopeTasks" [(0, .ref (gZ G + 0)), (1, .int (t)), (2, .int (w))] rfl (by decide) rfl (Nat.le_of_ble_eq_true rfl) ?_
  intro x hR hl hr hnm
  refine v_S hc.put.symm ?_
  refine v_aload_n (pc := 0) 0 dX0_task_0 rfl rfl ?_
  refine v_iload_n (pc := 1) 1 dX0_task_1 rfl rfl ?_
  refine c_callVi (pc := 2) (st := []) (ci := 0) (ct_X0_isTask (S := put S 55 c) (t := t) (M := M) (PT.put ⟨hM, hL, hT⟩ (by decide)) (by omega)) kVX0_146 kDX0_146 (rm_ok hR (Nat.le_of_ble_eq_true rfl) (Nat.le_of_ble_eq_true rfl)) ⟨Nat.zero_le _, Nat.zero_le _⟩ (by omega) (rfl) rfl rfl rfl rfl (Nat.le_of_ble_eq_true rfl) dX0_task_2 ?_
  refine v_if_neB (pc := 5) 10 dX0_task_5 (by decide) (fun c1 => ?_) (fun c1 => ?_)
  · skip
    obtain ⟨j, hjL, rfl⟩ := in_nat (n := mN M - 1) (by omega) c1
    have hj8 : j < 8 := by omega
    have hjm : j < mN M := by omega
    have hjn : nn (nI j) = j := nn_nI (by omega)
    refine v_iload_n (pc := 10) 2 dX0_task_10 rfl rfl ?_
    rcases sw_in (w) 7 (by decide) with hsw | ⟨js, hjs, hsw⟩
    · skip
      refine v_tableOut (pc := 11) 160 dX0_task_11 hsw (by decide) ?_
      refine v_iconst (pc := 160) ((-1)) dX0_task_160 (by decide) ?_
      exact v_iret (pc := 161) hr rfl (Nat.le_refl _) (Nat.le_refl _) dX0_task_161 (pI_mk (by unfold mTaskV; rw [if_neg (fun z => sw_no hsw z.2)]) (hC_c hc.put))
    · skip
      rcases Nat.lt_or_ge js 1 with h0s | h0s
      · skip
        have hjs : js = 0 := by omega
        subst hjs
        refine v_tableIn (pc := 11) 56 dX0_task_11 (by rw [hsw]; decide) (by rw [hsw]; decide) (by rw [hsw]; rfl) (by decide) ?_
        refine v_aload_n (pc := 56) 0 dX0_task_56 rfl rfl ?_
        refine gX0_46 (pc := 57) hN dX0_task_57 ?_
        refine gX0_172 (pc := 60) TB_1 hN dX0_task_60 ?_
        refine v_iload_n (pc := 63) 1 dX0_task_63 rfl rfl ?_
        refine c_iald (pc := 64) (k := 1 + 1) (j := j) (IA_tree8 TB_1 (by decide)) (by omega) rfl (by omega) (by decide) dX0_task_64 ?_
        refine v_topi (v := M 521 j) ((congrFun (put_ne (by omega)) _).trans (hT.par hjm)) ?_
        exact v_iret (pc := 65) hr rfl (Nat.le_refl _) (Nat.le_refl _) dX0_task_65 (pI_mk (by unfold mTaskV; rw [hsw, if_pos ⟨c1, by decide⟩]; rw [if_pos rfl, hjn]) (hC_c hc.put))
      · skip
        rcases Nat.lt_or_ge js 2 with h1s | h1s
        · skip
          have hjs : js = 1 := by omega
          subst hjs
          refine v_tableIn (pc := 11) 66 dX0_task_11 (by rw [hsw]; decide) (by rw [hsw]; decide) (by rw [hsw]; rfl) (by decide) ?_
          refine v_aload_n (pc := 66) 0 dX0_task_66 rfl rfl ?_
          refine gX0_25 (pc := 67) hN dX0_task_67 ?_
          refine v_iload_n (pc := 70) 1 dX0_task_70 rfl rfl ?_
          refine c_callVi (pc := 71) (st := []) (ci := 2) (ct_X2_how (S := S) (b := 55) (t := j) (c := c) RB_55 (by omega) ((hs.1 j hj8).1.1 ▸ (hs.1 j hj8).2.1.1) (by omega)) kVX0_178 kDX0_178 (rm_ok hR (Nat.le_of_ble_eq_true rfl) (Nat.le_of_ble_eq_true rfl)) ⟨Nat.zero_le _, Nat.zero_le _⟩ (by omega) (hC_run (j := 0) RB_55 (by decide) rfl) rfl rfl rfl rfl (Nat.le_of_ble_eq_true rfl) dX0_task_71 ?_
          exact v_iret (pc := 74) hr rfl (Nat.le_refl _) (Nat.le_refl _) dX0_task_74 (pI_mk (by unfold mTaskV; rw [hsw, if_pos ⟨c1, by decide⟩]; rw [if_neg (show ¬ nI 1 = nI 0 by decide), if_pos rfl, hjn]; exact (hs.1 j hj8).1.1) (hC_c hc.put))
        · skip
          rcases Nat.lt_or_ge js 3 with h2s | h2s
          · skip
            have hjs : js = 2 := by omega
            subst hjs
            refine v_tableIn (pc := 11) 75 dX0_task_11 (by rw [hsw]; decide) (by rw [hsw]; decide) (by rw [hsw]; rfl) (by decide) ?_
            refine v_aload_n (pc := 75) 0 dX0_task_75 rfl rfl ?_
            refine gX0_25 (pc := 76) hN dX0_task_76 ?_
            refine gX0_181 (pc := 79) RB_55 hN dX0_task_79 ?_
            refine v_iload_n (pc := 82) 1 dX0_task_82 rfl rfl ?_
            refine c_iald (pc := 83) (k := 55 + 9) (j := j) (IA_run8 RB_55 (by decide) (by decide) (by decide)) (by omega) rfl (by omega) (by decide) dX0_task_83 ?_
            refine v_topi (v := c (18 * j + 1)) (pr_9 (by omega)) ?_
            exact v_iret (pc := 84) hr rfl (Nat.le_refl _) (Nat.le_refl _) dX0_task_84 (pI_mk (by unfold mTaskV; rw [hsw, if_pos ⟨c1, by decide⟩]; rw [if_neg (show ¬ nI 2 = nI 0 by decide), if_neg (show ¬ nI 2 = nI 1 by decide), if_pos rfl, hjn]; exact (hs.1 j hj8).1.2.1) (hC_c hc.put))
          · skip
            rcases Nat.lt_or_ge js 4 with h3s | h3s
            · skip
              have hjs : js = 3 := by omega
              subst hjs
              refine v_tableIn (pc := 11) 85 dX0_task_11 (by rw [hsw]; decide) (by rw [hsw]; decide) (by rw [hsw]; rfl) (by decide) ?_
              refine v_aload_n (pc := 85) 0 dX0_task_85 rfl rfl ?_
              refine gX0_25 (pc := 86) hN dX0_task_86 ?_
              refine gX0_165 (pc := 89) RB_55 hN dX0_task_89 ?_
              refine v_iload_n (pc := 92) 1 dX0_task_92 rfl rfl ?_
              refine c_iald (pc := 93) (k := 55 + 10) (j := j) (IA_run8 RB_55 (by decide) (by decide) (by decide)) (by omega) rfl (by omega) (by decide) dX0_task_93 ?_
              refine v_topi (v := c (18 * j + 2)) (pr_10 (by omega)) ?_
              exact v_iret (pc := 94) hr rfl (Nat.le_refl _) (Nat.le_refl _) dX0_task_94 (pI_mk (by unfold mTaskV; rw [hsw, if_pos ⟨c1, by decide⟩]; rw [if_neg (show ¬ nI 3 = nI 0 by decide), if_neg (show ¬ nI 3 = nI 1 by decide), if_neg (show ¬ nI 3 = nI 2 by decide), if_pos rfl, hjn]; exact (hs.1 j hj8).1.2.2.1) (hC_c hc.put))
            · skip
              rcases Nat.lt_or_ge js 5 with h4s | h4s
              · skip
                have hjs : js = 4 := by omega
                subst hjs
                refine v_tableIn (pc := 11) 95 dX0_task_11 (by rw [hsw]; decide) (by rw [hsw]; decide) (by rw [hsw]; rfl) (by decide) ?_
                refine v_aload_n (pc := 95) 0 dX0_task_95 rfl rfl ?_
                refine gX0_25 (pc := 96) hN dX0_task_96 ?_
                refine gX0_184 (pc := 99) RB_55 hN dX0_task_99 ?_
                refine v_iload_n (pc := 102) 1 dX0_task_102 rfl rfl ?_
                refine c_iald (pc := 103) (k := 55 + 12) (j := j) (IA_run8 RB_55 (by decide) (by decide) (by decide)) (by omega) rfl (by omega) (by decide) dX0_task_103 ?_
                refine v_topi (v := c (18 * j + 4)) (pr_12 (by omega)) ?_
                refine v_ldc (pc := 104) q860 dX0_task_104 ?_
                refine v_topi (v := nI 100000) (by decide) ?_
                refine v_ic_ne (pc := 106) 114 dX0_task_106 (by decide) (fun c2 => ?_) (fun c2 => ?_)
                · skip
                  refine v_aload_n (pc := 114) 0 dX0_task_114 rfl rfl ?_
                  refine gX0_25 (pc := 115) hN dX0_task_115 ?_
                  refine gX0_184 (pc := 118) RB_55 hN dX0_task_118 ?_
                  refine v_iload_n (pc := 121) 1 dX0_task_121 rfl rfl ?_
                  refine c_iald (pc := 122) (k := 55 + 12) (j := j) (IA_run8 RB_55 (by decide) (by decide) (by decide)) (by omega) rfl (by omega) (by decide) dX0_task_122 ?_
                  refine v_topi (v := c (18 * j + 4)) (pr_12 (by omega)) ?_
                  exact v_iret (pc := 123) hr rfl (Nat.le_refl _) (Nat.le_refl _) dX0_task_123 (pI_mk (by unfold mTaskV; rw [hsw, if_pos ⟨c1, by decide⟩]; rw [if_neg (show ¬ nI 4 = nI 0 by decide), if_neg (show ¬ nI 4 = nI 1 by decide), if_neg (show ¬ nI 4 = nI 2 by decide), if_neg (show ¬ nI 4 = nI 3 by decide), if_pos rfl, hjn]; exact due_n (hs.1 j hj8) c2) (hC_c hc.put))
                · skip
                  refine v_bipush (pc := 109) ((-9)) dX0_task_109 (by decide) ?_
                  refine v_goto (pc := 111) 123 dX0_task_111 (by decide) ?_
                  exact v_iret (pc := 123) hr rfl (Nat.le_refl _) (Nat.le_refl _) dX0_task_123 (pI_mk (by unfold mTaskV; rw [hsw, if_pos ⟨c1, by decide⟩]; rw [if_neg (show ¬ nI 4 = nI 0 by decide), if_neg (show ¬ nI 4 = nI 1 by decide), if_neg (show ¬ nI 4 = nI 2 by decide), if_neg (show ¬ nI 4 = nI 3 by decide), if_pos rfl, hjn]; exact due_y (hs.1 j hj8) c2) (hC_c hc.put))
              · skip
                rcases Nat.lt_or_ge js 6 with h5s | h5s
                · skip
                  have hjs : js = 5 := by omega
                  subst hjs
                  refine v_tableIn (pc := 11) 124 dX0_task_11 (by rw [hsw]; decide) (by rw [hsw]; decide) (by rw [hsw]; rfl) (by decide) ?_
                  refine v_aload_n (pc := 124) 0 dX0_task_124 rfl rfl ?_
                  refine gX0_25 (pc := 125) hN dX0_task_125 ?_
                  refine gX0_159 (pc := 128) RB_55 hN dX0_task_128 ?_
                  refine v_iload_n (pc := 131) 1 dX0_task_131 rfl rfl ?_
                  refine c_callVi (pc := 132) (st := []) (ci := 6) (ct_get7 (S := S) (b := 55) (t := j) (c := c) RB_55 (by omega) (by omega)) kVX0_154 kDX0_154 (rm_ok hR (Nat.le_of_ble_eq_true rfl) (Nat.le_of_ble_eq_true rfl)) ⟨Nat.zero_le _, Nat.zero_le _⟩ (by omega) ((BC_run RB_55 (j := 7) (by decide)) G _).1 rfl rfl rfl rfl (Nat.le_of_ble_eq_true rfl) dX0_task_132 ?_
                  refine v_if_eqB (pc := 135) 142 dX0_task_135 (by decide) (fun c3 => ?_) (fun c3 => ?_)
                  · skip
                    refine v_iconst (pc := 142) (nI 0) dX0_task_142 (by decide) ?_
                    exact v_iret (pc := 143) hr rfl (Nat.le_refl _) (Nat.le_refl _) dX0_task_143 (pI_mk (by unfold mTaskV; rw [hsw, if_pos ⟨c1, by decide⟩]; rw [if_neg (show ¬ nI 5 = nI 0 by decide), if_neg (show ¬ nI 5 = nI 1 by decide), if_neg (show ¬ nI 5 = nI 2 by decide), if_neg (show ¬ nI 5 = nI 3 by decide), if_neg (show ¬ nI 5 = nI 4 by decide), if_pos rfl, hjn]; exact ask_n (hs.1 j hj8) c3) (hC_c hc.put))
                  · skip
                    refine v_iconst (pc := 138) (nI 1) dX0_task_138 (by decide) ?_
                    refine v_goto (pc := 139) 143 dX0_task_139 (by decide) ?_
                    exact v_iret (pc := 143) hr rfl (Nat.le_refl _) (Nat.le_refl _) dX0_task_143 (pI_mk (by unfold mTaskV; rw [hsw, if_pos ⟨c1, by decide⟩]; rw [if_neg (show ¬ nI 5 = nI 0 by decide), if_neg (show ¬ nI 5 = nI 1 by decide), if_neg (show ¬ nI 5 = nI 2 by decide), if_neg (show ¬ nI 5 = nI 3 by decide), if_neg (show ¬ nI 5 = nI 4 by decide), if_pos rfl, hjn]; exact ((hs.1 j hj8).1.2.2.2.1.symm.trans c3).symm) (hC_c hc.put))
                · skip
                  rcases Nat.lt_or_ge js 7 with h6s | h6s
                  · skip
                    have hjs : js = 6 := by omega
                    subst hjs
                    refine v_tableIn (pc := 11) 144 dX0_task_11 (by rw [hsw]; decide) (by rw [hsw]; decide) (by rw [hsw]; rfl) (by decide) ?_
                    refine v_aload_n (pc := 144) 0 dX0_task_144 rfl rfl ?_
                    refine gX0_25 (pc := 145) hN dX0_task_145 ?_
                    refine gX0_188 (pc := 148) RB_55 hN dX0_task_148 ?_
                    refine v_iload_n (pc := 151) 1 dX0_task_151 rfl rfl ?_
                    refine c_iald (pc := 152) (k := 55 + 15) (j := j) (IA_run8 RB_55 (by decide) (by decide) (by decide)) (by omega) rfl (by omega) (by decide) dX0_task_152 ?_
                    refine v_topi (v := c (18 * j + 9)) (pr_15 (by omega)) ?_
                    exact v_iret (pc := 153) hr rfl (Nat.le_refl _) (Nat.le_refl _) dX0_task_153 (pI_mk (by unfold mTaskV; rw [hsw, if_pos ⟨c1, by decide⟩]; rw [if_neg (show ¬ nI 6 = nI 0 by decide), if_neg (show ¬ nI 6 = nI 1 by decide), if_neg (show ¬ nI 6 = nI 2 by decide), if_neg (show ¬ nI 6 = nI 3 by decide), if_neg (show ¬ nI 6 = nI 4 by decide), if_neg (show ¬ nI 6 = nI 5 by decide), if_pos rfl, hjn]; exact (hs.1 j hj8).1.2.2.2.2.2) (hC_c hc.put))
                  · skip
                    have h7s := hjs
                    have hjs : js = 7 := by omega
                    subst hjs
                    refine v_tableIn (pc := 11) 154 dX0_task_11 (by rw [hsw]; decide) (by rw [hsw]; decide) (by rw [hsw]; rfl) (by decide) ?_
                    refine v_aload_n (pc := 154) 0 dX0_task_154 rfl rfl ?_
                    refine v_iload_n (pc := 155) 1 dX0_task_155 rfl rfl ?_
                    refine c_callVi (pc := 156) (st := []) (ci := 0) (ct_X0_childrenOf (S := put S 55 c) (t := j) (M := M) (c := c) (PT.put ⟨hM, hL, hT⟩ (by decide)) HR_put hs hjm (by omega)) kVX0_191 kDX0_191 (rm_ok hR (Nat.le_of_ble_eq_true rfl) (Nat.le_of_ble_eq_true rfl)) ⟨Nat.zero_le _, Nat.zero_le _⟩ (by omega) (rfl) rfl rfl rfl rfl (Nat.le_of_ble_eq_true rfl) dX0_task_156 ?_
                    exact v_iret (pc := 159) hr rfl (Nat.le_refl _) (Nat.le_refl _) dX0_task_159 (pI_mk (by unfold mTaskV; rw [hsw, if_pos ⟨c1, by decide⟩]; rw [if_neg (show ¬ nI 7 = nI 0 by decide), if_neg (show ¬ nI 7 = nI 1 by decide), if_neg (show ¬ nI 7 = nI 2 by decide), if_neg (show ¬ nI 7 = nI 3 by decide), if_neg (show ¬ nI 7 = nI 4 by decide), if_neg (show ¬ nI 7 = nI 5 by decide), if_neg (show ¬ nI 7 = nI 6 by decide)]) (hC_c hc.put))
  · skip
    refine v_iconst (pc := 8) ((-1)) dX0_task_8 (by decide) ?_
    exact v_iret (pc := 9) hr rfl (Nat.le_refl _) (Nat.le_refl _) dX0_task_9 (pI_mk (by unfold mTaskV; rw [if_neg (fun z => c1 z.1)]) (hC_c hc.put))

theorem pcn_hm {c : Nat → Int32} {h : Nat} : pcn (msk c 0 h) = mHm c (nI h) 8 := by
  have e : ∀ t, t < 8 → (msk c 0 h).testBit t = decide (c (18 * t) = nI h) := fun t ht => msk_bit ht
  unfold pcn
  rw [e 0 (by decide), e 1 (by decide), e 2 (by decide), e 3 (by decide), e 4 (by decide), e 5 (by decide), e 6 (by decide), e 7 (by decide)]
  simp only [mHm, decide_eq_true_eq, Nat.zero_add]
theorem mHm_cong {c g : Nat → Int32} {w : Int32} : ∀ m, (∀ t, t < m → c (18 * t) = g (18 * t)) → mHm c w m = mHm g w m := by
  intro m
  induction m with
  | zero => intro _; rfl
  | succ m ih => intro e; rw [mHm, mHm, ih (fun t ht => e t (by omega)), e m (by omega)]
theorem mHm_add {g : Nat → Int32} {w : Int32} {m : Nat} : ∀ k, (∀ t, m ≤ t → t < m + k → ¬ g (18 * t) = w) → mHm g w (m + k) = mHm g w m := by
  intro k
  induction k with
  | zero => intro _; rfl
  | succ k ih => intro e; rw [← Nat.add_assoc, mHm, if_neg (e (m + k) (by omega) (by omega)), ih (fun t h1 h2 => e t h1 (by omega))]; rfl
theorem Sim.hm {M : ST} (hM : MI M) {c g : Nat → Int32} (h : Sim M c g) {w : Nat} (h0 : nI 0 ≠ nI w) : pcn (msk c 0 w) = mHm g (nI w) (mN M) := by
  have h8 := hM.n
  rw [pcn_hm, mHm_cong (g := g) 8 (fun t ht => h.how ht), show 8 = mN M + (8 - mN M) by omega]
  exact mHm_add _ (fun t h1 h2 e => h0 ((h.2.1 t h1 (by omega)).symm.trans e))
theorem dsub_n {hb n : Nat} (h1 : hb < 15) (h2 : n ≤ 12) : dsub ((hb + n) % 15) hb 15 = n := by
  unfold dsub
  split <;> omega
set_option maxHeartbeats 4000000 in
theorem ct_X0_count {G : GT} {l : Launch} {N : Nat} {S : ST} {w : Int32} {M : ST} {c : Nat → Int32} {k hb : Nat} {nf nt : Int32} (hP : PT S M) (hc : HR S 55 c) (hg : Gd M c (M 527)) (hf1 : S 0 14 = nf) (hf2 : M 513 28 = nf) (hx1 : S 0 10 = nt) (hx2 : M 513 0 = nt) (hu1 : S 111 1 = nI hb) (hu2 : S 111 2 = nI ((hb + k) % 15)) (hu3 : M 513 25 = nI k) (hhb : hb < 15) (hk : k ≤ 12) (hN : 513 ≤ N) : CTi G l yX0_count cX0_count 2 (some .int) 2 [.ref (gZ G + 0), .int (w)] N (S) (mCountV M w) (S) := by
  obtain ⟨hM, hL, hT⟩ := hP
  have h8 := hM.n
  have h1 := hM.2.1
  obtain ⟨n, hn⟩ : ∃ n, mN M = n := ⟨_, rfl⟩
  have hnE : S 1 0 = nI n := by rw [hT.n, ← hn]; exact hM.1.1
  obtain ⟨hs, hJ, hb9⟩ := hg
  refine CT.mk "ScopeTasks" [(0, .ref (gZ G + 0)), (1, .int (w))] rfl (by decide) rfl (Nat.le_of_ble_eq_true rfl) ?_
  intro x hR hl hr hnm
  refine v_S hc.put.symm ?_
  refine v_iload_n (pc := 0) 1 dX0_count_0 rfl rfl ?_
  rcases sw_in (w) 8 (by decide) with hsw | ⟨js, hjs, hsw⟩
  · skip
    refine v_tableOut (pc := 1) 127 dX0_count_1 hsw (by decide) ?_
    refine v_iconst (pc := 127) ((-1)) dX0_count_127 (by decide) ?_
    exact v_iret (pc := 128) hr rfl (Nat.le_refl _) (Nat.le_refl _) dX0_count_128 (pI_mk (by unfold mCountV; rw [if_neg (sw_out hsw (j := 0) (by decide) (by decide)), if_neg (sw_out hsw (j := 1) (by decide) (by decide)), if_neg (sw_out hsw (j := 2) (by decide) (by decide)), if_neg (sw_out hsw (j := 3) (by decide) (by decide)), if_neg (sw_out hsw (j := 4) (by decide) (by decide)), if_neg (sw_out hsw (j := 5) (by decide) (by decide)), if_neg (sw_out hsw (j := 6) (by decide) (by decide)), if_neg (sw_out hsw (j := 7) (by decide) (by decide)), if_neg (sw_out hsw (j := 8) (by decide) (by decide))]) (hC_c hc.put))
  · skip
    rcases Nat.lt_or_ge js 1 with h0s | h0s
    · skip
      have hjs : js = 0 := by omega
      subst hjs
      refine v_tableIn (pc := 1) 52 dX0_count_1 (by rw [hsw]; decide) (by rw [hsw]; decide) (by rw [hsw]; rfl) (by decide) ?_
      refine v_aload_n (pc := 52) 0 dX0_count_52 rfl rfl ?_
      refine gX0_46 (pc := 53) hN dX0_count_53 ?_
      refine gX0_119 (pc := 56) TB_1 hN dX0_count_56 ?_
      refine v_topi (v := nI n) ((congrFun (put_ne (by omega)) _).trans hnE) ?_
      exact v_iret (pc := 59) hr rfl (Nat.le_refl _) (Nat.le_refl _) dX0_count_59 (pI_mk (by unfold mCountV; rw [hsw]; rw [if_pos rfl]; rw [← hT.n]; exact hnE.symm) (hC_c hc.put))
    · skip
      rcases Nat.lt_or_ge js 2 with h1s | h1s
      · skip
        have hjs : js = 1 := by omega
        subst hjs
        refine v_tableIn (pc := 1) 60 dX0_count_1 (by rw [hsw]; decide) (by rw [hsw]; decide) (by rw [hsw]; rfl) (by decide) ?_
        refine v_aload_n (pc := 60) 0 dX0_count_60 rfl rfl ?_
        refine gX0_25 (pc := 61) hN dX0_count_61 ?_
        refine gX0_137 (pc := 64) RB_55 hN dX0_count_64 ?_
        refine v_topi (v := c 144) (pr_0) ?_
        exact v_iret (pc := 67) hr rfl (Nat.le_refl _) (Nat.le_refl _) dX0_count_67 (pI_mk (by unfold mCountV; rw [hsw]; rw [if_neg (show ¬ nI 1 = nI 0 by decide), if_pos rfl]; exact hs.2.2.1) (hC_c hc.put))
      · skip
        rcases Nat.lt_or_ge js 3 with h2s | h2s
        · skip
          have hjs : js = 2 := by omega
          subst hjs
          refine v_tableIn (pc := 1) 68 dX0_count_1 (by rw [hsw]; decide) (by rw [hsw]; decide) (by rw [hsw]; rfl) (by decide) ?_
          refine v_aload_n (pc := 68) 0 dX0_count_68 rfl rfl ?_
          refine gX0_25 (pc := 69) hN dX0_count_69 ?_
          refine gX0_150 (pc := 72) RB_55 hN dX0_count_72 ?_
          refine c_callVi (pc := 75) (st := []) (ci := 6) (ct_car1 (S := S) (b := 55) (c := c) RB_55 (by omega)) kVX0_224 kDX0_224 (rm_ok hR (Nat.le_of_ble_eq_true rfl) (Nat.le_of_ble_eq_true rfl)) ⟨Nat.zero_le _, Nat.zero_le _⟩ (by omega) ((BC_run RB_55 (j := 1) (by decide)) G _).1 rfl rfl rfl rfl (Nat.le_of_ble_eq_true rfl) dX0_count_75 ?_
          exact v_iret (pc := 78) hr rfl (Nat.le_refl _) (Nat.le_refl _) dX0_count_78 (pI_mk (by unfold mCountV; rw [hsw]; rw [if_neg (show ¬ nI 2 = nI 0 by decide), if_neg (show ¬ nI 2 = nI 1 by decide), if_pos rfl]; rw [hs.hm hM (by decide)]) (hC_c hc.put))
        · skip
          rcases Nat.lt_or_ge js 4 with h3s | h3s
          · skip
            have hjs : js = 3 := by omega
            subst hjs
            refine v_tableIn (pc := 1) 79 dX0_count_1 (by rw [hsw]; decide) (by rw [hsw]; decide) (by rw [hsw]; rfl) (by decide) ?_
            refine v_aload_n (pc := 79) 0 dX0_count_79 rfl rfl ?_
            refine gX0_25 (pc := 80) hN dX0_count_80 ?_
            refine gX0_175 (pc := 83) RB_55 hN dX0_count_83 ?_
            refine c_callVi (pc := 86) (st := []) (ci := 6) (ct_car3 (S := S) (b := 55) (c := c) RB_55 (by omega)) kVX0_224 kDX0_224 (rm_ok hR (Nat.le_of_ble_eq_true rfl) (Nat.le_of_ble_eq_true rfl)) ⟨Nat.zero_le _, Nat.zero_le _⟩ (by omega) ((BC_run RB_55 (j := 3) (by decide)) G _).1 rfl rfl rfl rfl (Nat.le_of_ble_eq_true rfl) dX0_count_86 ?_
            exact v_iret (pc := 89) hr rfl (Nat.le_refl _) (Nat.le_refl _) dX0_count_89 (pI_mk (by unfold mCountV; rw [hsw]; rw [if_neg (show ¬ nI 3 = nI 0 by decide), if_neg (show ¬ nI 3 = nI 1 by decide), if_neg (show ¬ nI 3 = nI 2 by decide), if_pos rfl]; rw [hs.hm hM (by decide)]) (hC_c hc.put))
          · skip
            rcases Nat.lt_or_ge js 5 with h4s | h4s
            · skip
              have hjs : js = 4 := by omega
              subst hjs
              refine v_tableIn (pc := 1) 90 dX0_count_1 (by rw [hsw]; decide) (by rw [hsw]; decide) (by rw [hsw]; rfl) (by decide) ?_
              refine v_aload_n (pc := 90) 0 dX0_count_90 rfl rfl ?_
              refine gX0_25 (pc := 91) hN dX0_count_91 ?_
              refine gX0_227 (pc := 94) RB_55 hN dX0_count_94 ?_
              refine c_callVi (pc := 97) (st := []) (ci := 6) (ct_car5 (S := S) (b := 55) (c := c) RB_55 (by omega)) kVX0_224 kDX0_224 (rm_ok hR (Nat.le_of_ble_eq_true rfl) (Nat.le_of_ble_eq_true rfl)) ⟨Nat.zero_le _, Nat.zero_le _⟩ (by omega) ((BC_run RB_55 (j := 5) (by decide)) G _).1 rfl rfl rfl rfl (Nat.le_of_ble_eq_true rfl) dX0_count_97 ?_
              exact v_iret (pc := 100) hr rfl (Nat.le_refl _) (Nat.le_refl _) dX0_count_100 (pI_mk (by unfold mCountV; rw [hsw]; rw [if_neg (show ¬ nI 4 = nI 0 by decide), if_neg (show ¬ nI 4 = nI 1 by decide), if_neg (show ¬ nI 4 = nI 2 by decide), if_neg (show ¬ nI 4 = nI 3 by decide), if_pos rfl]; rw [hs.hm hM (by decide)]) (hC_c hc.put))
            · skip
              rcases Nat.lt_or_ge js 6 with h5s | h5s
              · skip
                have hjs : js = 5 := by omega
                subst hjs
                refine v_tableIn (pc := 1) 101 dX0_count_1 (by rw [hsw]; decide) (by rw [hsw]; decide) (by rw [hsw]; rfl) (by decide) ?_
                refine v_aload_n (pc := 101) 0 dX0_count_101 rfl rfl ?_
                refine gX0_25 (pc := 102) hN dX0_count_102 ?_
                refine gX0_198 (pc := 105) RB_55 hN dX0_count_105 ?_
                refine v_topi (v := c 145) (pr_16) ?_
                exact v_iret (pc := 108) hr rfl (Nat.le_refl _) (Nat.le_refl _) dX0_count_108 (pI_mk (by unfold mCountV; rw [hsw]; rw [if_neg (show ¬ nI 5 = nI 0 by decide), if_neg (show ¬ nI 5 = nI 1 by decide), if_neg (show ¬ nI 5 = nI 2 by decide), if_neg (show ¬ nI 5 = nI 3 by decide), if_neg (show ¬ nI 5 = nI 4 by decide), if_pos rfl]; exact hs.2.2.2.2.1) (hC_c hc.put))
              · skip
                rcases Nat.lt_or_ge js 7 with h6s | h6s
                · skip
                  have hjs : js = 6 := by omega
                  subst hjs
                  refine v_tableIn (pc := 1) 109 dX0_count_1 (by rw [hsw]; decide) (by rw [hsw]; decide) (by rw [hsw]; rfl) (by decide) ?_
                  refine v_aload_n (pc := 109) 0 dX0_count_109 rfl rfl ?_
                  refine gX0_128 (pc := 110) hN dX0_count_110 ?_
                  refine v_topi (v := nf) ((congrFun (put_ne (by omega)) _).trans hf1) ?_
                  exact v_iret (pc := 113) hr rfl (Nat.le_refl _) (Nat.le_refl _) dX0_count_113 (pI_mk (by unfold mCountV; rw [hsw]; rw [if_neg (show ¬ nI 6 = nI 0 by decide), if_neg (show ¬ nI 6 = nI 1 by decide), if_neg (show ¬ nI 6 = nI 2 by decide), if_neg (show ¬ nI 6 = nI 3 by decide), if_neg (show ¬ nI 6 = nI 4 by decide), if_neg (show ¬ nI 6 = nI 5 by decide), if_pos rfl]; rw [hf2, ← hf1]) (hC_c hc.put))
                · skip
                  rcases Nat.lt_or_ge js 8 with h7s | h7s
                  · skip
                    have hjs : js = 7 := by omega
                    subst hjs
                    refine v_tableIn (pc := 1) 114 dX0_count_1 (by rw [hsw]; decide) (by rw [hsw]; decide) (by rw [hsw]; rfl) (by decide) ?_
                    refine v_aload_n (pc := 114) 0 dX0_count_114 rfl rfl ?_
                    refine gX0_104 (pc := 115) hN dX0_count_115 ?_
                    refine v_topi (v := nt) ((congrFun (put_ne (by omega)) _).trans hx1) ?_
                    exact v_iret (pc := 118) hr rfl (Nat.le_refl _) (Nat.le_refl _) dX0_count_118 (pI_mk (by unfold mCountV; rw [hsw]; rw [if_neg (show ¬ nI 7 = nI 0 by decide), if_neg (show ¬ nI 7 = nI 1 by decide), if_neg (show ¬ nI 7 = nI 2 by decide), if_neg (show ¬ nI 7 = nI 3 by decide), if_neg (show ¬ nI 7 = nI 4 by decide), if_neg (show ¬ nI 7 = nI 5 by decide), if_neg (show ¬ nI 7 = nI 6 by decide), if_pos rfl]; rw [hx2, ← hx1]) (hC_c hc.put))
                  · skip
                    have h8s := hjs
                    have hjs : js = 8 := by omega
                    subst hjs
                    refine v_tableIn (pc := 1) 119 dX0_count_1 (by rw [hsw]; decide) (by rw [hsw]; decide) (by rw [hsw]; rfl) (by decide) ?_
                    refine v_aload_n (pc := 119) 0 dX0_count_119 rfl rfl ?_
                    refine gX0_13 (pc := 120) hN dX0_count_120 ?_
                    refine c_callVi (pc := 123) (st := []) (ci := 7) (ct_J2_sizeR (S := put S 55 c) (k := 111) (n := 15) (hd := hb) (tl := (hb + k) % 15) DR_111 (by omega) (by omega) ((congrFun (put_ne (by omega)) _).trans hu1) ((congrFun (put_ne (by omega)) _).trans hu2) hhb (by omega)) kVX0_168 kDX0_168 (rm_ok hR (Nat.le_of_ble_eq_true rfl) (Nat.le_of_ble_eq_true rfl)) ⟨Nat.zero_le _, Nat.zero_le _⟩ (by omega) (DR_111.1 G _) rfl rfl rfl rfl (Nat.le_of_ble_eq_true rfl) dX0_count_123 ?_
                    exact v_iret (pc := 126) hr rfl (Nat.le_refl _) (Nat.le_refl _) dX0_count_126 (pI_mk (by unfold mCountV; rw [hsw]; rw [if_neg (show ¬ nI 8 = nI 0 by decide), if_neg (show ¬ nI 8 = nI 1 by decide), if_neg (show ¬ nI 8 = nI 2 by decide), if_neg (show ¬ nI 8 = nI 3 by decide), if_neg (show ¬ nI 8 = nI 4 by decide), if_neg (show ¬ nI 8 = nI 5 by decide), if_neg (show ¬ nI 8 = nI 6 by decide), if_neg (show ¬ nI 8 = nI 7 by decide), if_pos rfl]; rw [hu3]; exact congrArg nI (dsub_n (by omega) (by omega))) (hC_c hc.put))

def bN (w : Int32) : Int32 := vp_nar .byte (w.toInt8.toInt32)
def cTypeV (n : Nat) (w : Int32) : Int32 := if nI 0 ≤ w ∧ w ≤ nI 255 then (if n = 120 then (-3) else nI (n + 1)) else (-1)
def cTypeS (S : ST) (n : Nat) (w : Int32) : ST := if nI 0 ≤ w ∧ w ≤ nI 255 then (if n = 120 then S else s2 (s2 S 173 n (bN w)) 0 10 (nI (n + 1))) else S
set_option maxHeartbeats 4000000 in
theorem ct_X0_type {G : GT} {l : Launch} {N : Nat} {S : ST} {w : Int32} {n : Nat} (h0 : S 0 10 = nI n) (h12 : n ≤ 120) (hN : 513 ≤ N) : CTi G l yX0_type cX0_type 2 (some .int) 1 [.ref (gZ G + 0), .int (w)] N (S) (cTypeV n w) (cTypeS S n w) := by
  refine CT.mk "ScopeTasks" [(0, .ref (gZ G + 0)), (1, .int (w))] rfl (by decide) rfl (Nat.le_of_ble_eq_true rfl) ?_
  intro x hR hl hr hnm
  refine v_iload_n (pc := 0) 1 dX0_type_0 rfl rfl ?_
  refine v_iconst (pc := 1) (nI 0) dX0_type_1 (by decide) ?_
  refine v_sipush (pc := 2) (nI 255) dX0_type_2 (by decide) ?_
  refine c_callSi (pc := 5) (st := []) (ct_X0_in (S := S) (v := w) (lo := nI 0) (hi := nI 255) ) kVX0_100 kDX0_100 (rm_ok hR (Nat.le_of_ble_eq_true rfl) (Nat.le_of_ble_eq_true rfl)) ⟨Nat.zero_le _, Nat.zero_le _⟩ rfl rfl (Nat.le_of_ble_eq_true rfl) dX0_type_5 ?_
  refine v_if_neB (pc := 8) 13 dX0_type_8 (by decide) (fun c1 => ?_) (fun c1 => ?_)
  · skip
    refine v_aload_n (pc := 13) 0 dX0_type_13 rfl rfl ?_
    refine gX0_104 (pc := 14) hN dX0_type_14 ?_
    refine v_topi (v := nI n) h0 ?_
    refine v_bipush (pc := 17) (nI 120) dX0_type_17 (by decide) ?_
    refine v_ic_neN (pc := 19) 25 (by omega) (by omega) dX0_type_19 (by decide) (fun c2 => ?_) (fun c2 => ?_)
    · skip
      refine v_aload_n (pc := 25) 0 dX0_type_25 rfl rfl ?_
      refine gX0_73 (pc := 26) hN dX0_type_26 ?_
      refine v_aload_n (pc := 29) 0 dX0_type_29 rfl rfl ?_
      refine gX0_104 (pc := 30) hN dX0_type_30 ?_
      refine v_topi (v := nI n) h0 ?_
      refine v_iload_n (pc := 33) 1 dX0_type_33 rfl rfl ?_
      refine v_i2b (pc := 34) dX0_type_34 rfl ?_
      refine c_bast (pc := 35) (k := 173) (j := n) (v' := bN w) YA_173 (by omega) rfl (by omega) rfl (by decide) dX0_type_35 ?_
      refine v_aload_n (pc := 36) 0 dX0_type_36 rfl rfl ?_
      refine v_dup (pc := 37) dX0_type_37 rfl ?_
      refine gX0_104 (pc := 38) hN dX0_type_38 ?_
      refine v_topi (v := nI n) ((congrFun (s2_nk (by omega)) _).trans h0) ?_
      refine v_iconst (pc := 41) (nI 1) dX0_type_41 (by decide) ?_
      refine v_iaddN (pc := 42) dX0_type_42 ?_
      refine pX0_104 (pc := 43) hN dX0_type_43 ?_
      refine v_aload_n (pc := 46) 0 dX0_type_46 rfl rfl ?_
      refine gX0_104 (pc := 47) hN dX0_type_47 ?_
      refine v_topi (v := nI (n + 1)) (s2_at _ _ _ _) ?_
      exact v_iret (pc := 50) hr rfl (Nat.le_refl _) (Nat.le_refl _) dX0_type_50 (pI_mk (by unfold cTypeV; rw [if_pos c1, if_neg c2]) (hC_c (by unfold cTypeS; rw [if_pos c1, if_neg c2])))
    · skip
      refine v_bipush (pc := 22) ((-3)) dX0_type_22 (by decide) ?_
      exact v_iret (pc := 24) hr rfl (Nat.le_refl _) (Nat.le_refl _) dX0_type_24 (pI_mk (by unfold cTypeV; rw [if_pos c1, if_pos c2]) (hC_c (by unfold cTypeS; rw [if_pos c1, if_pos c2])))
  · skip
    refine v_iconst (pc := 11) ((-1)) dX0_type_11 (by decide) ?_
    exact v_iret (pc := 12) hr rfl (Nat.le_refl _) (Nat.le_refl _) dX0_type_12 (pI_mk (by unfold cTypeV; rw [if_neg c1]) (hC_c (by unfold cTypeS; rw [if_neg c1])))

set_option maxHeartbeats 4000000 in
theorem ct_X0_clear {G : GT} {l : Launch} {N : Nat} {S : ST}  (hN : 513 ≤ N) : CTi G l yX0_clear cX0_clear 2 (some .int) 0 [.ref (gZ G + 0)] N (S) (S 0 10) (s2 S 0 10 (nI 0)) := by
  refine CT.mk "ScopeTasks" [(0, .ref (gZ G + 0))] rfl (by decide) rfl (Nat.le_of_ble_eq_true rfl) ?_
  intro x hR hl hr hnm
  refine v_aload_n (pc := 0) 0 dX0_clear_0 rfl rfl ?_
  refine gX0_104 (pc := 1) hN dX0_clear_1 ?_
  refine v_istore_n (pc := 4) (lv' := [(1, .int (S 0 10)), (0, .ref (gZ G + 0))]) dX0_clear_4 rfl (by decide) rfl ?_
  refine v_aload_n (pc := 5) 1 dX0_clear_5 rfl rfl ?_
  refine v_iconst (pc := 6) (nI 0) dX0_clear_6 (by decide) ?_
  refine pX0_104 (pc := 7) hN dX0_clear_7 ?_
  refine v_iload_n (pc := 10) 0 dX0_clear_10 rfl rfl ?_
  exact v_iret (pc := 11) hr rfl (Nat.le_refl _) (Nat.le_refl _) dX0_clear_11 (pI_mk rfl (hC_c rfl))

set_option maxHeartbeats 4000000 in
theorem ct_X0_forget {G : GT} {l : Launch} {N : Nat} {S : ST}  (hN : 513 ≤ N) : CTi G l yX0_forget cX0_forget 2 (some .int) 0 [.ref (gZ G + 0)] N (S) (S 0 14) (s2 S 0 14 (nI 0)) := by
  refine CT.mk "ScopeTasks" [(0, .ref (gZ G + 0))] rfl (by decide) rfl (Nat.le_of_ble_eq_true rfl) ?_
  intro x hR hl hr hnm
  refine v_aload_n (pc := 0) 0 dX0_forget_0 rfl rfl ?_
  refine gX0_128 (pc := 1) hN dX0_forget_1 ?_
  refine v_istore_n (pc := 4) (lv' := [(1, .int (S 0 14)), (0, .ref (gZ G + 0))]) dX0_forget_4 rfl (by decide) rfl ?_
  refine v_aload_n (pc := 5) 1 dX0_forget_5 rfl rfl ?_
  refine v_iconst (pc := 6) (nI 0) dX0_forget_6 (by decide) ?_
  refine pX0_128 (pc := 7) hN dX0_forget_7 ?_
  refine v_iload_n (pc := 10) 0 dX0_forget_10 rfl rfl ?_
  exact v_iret (pc := 11) hr rfl (Nat.le_refl _) (Nat.le_refl _) dX0_forget_11 (pI_mk rfl (hC_c rfl))

def cSeesV (M : ST) (k : Nat) (t n w : Int32) : Int32 := if mSeeOk M t n w then (if k = 6 then (-3) else nI (k + 1)) else (-1)
def cSeesS (S M : ST) (k : Nat) (t n w : Int32) : ST := if mSeeOk M t n w then (if k = 6 then S else s2 (s2 (s2 (s2 S 174 k t) 175 k n) 176 k w) 0 14 (nI (k + 1))) else S
set_option maxHeartbeats 4000000 in
theorem ct_X0_sees {G : GT} {l : Launch} {N : Nat} {S : ST} {t n w : Int32} {M : ST} {k : Nat} (hP : PT S M) (h0 : S 0 14 = nI k) (hk6 : k ≤ 6) (hN : 513 ≤ N) : CTi G l yX0_sees cX0_sees 4 (some .int) 2 [.ref (gZ G + 0), .int (t), .int (n), .int (w)] N (S) (cSeesV M k t n w) (cSeesS S M k t n w) := by
  refine CT.mk "ScopeTasks" [(0, .ref (gZ G + 0)), (1, .int (t)), (2, .int (n)), (3, .int (w))] rfl (by decide) rfl (Nat.le_of_ble_eq_true rfl) ?_
  intro x hR hl hr hnm
  refine v_aload_n (pc := 0) 0 dX0_sees_0 rfl rfl ?_
  refine v_iload_n (pc := 1) 1 dX0_sees_1 rfl rfl ?_
  refine c_callVi (pc := 2) (st := []) (ci := 0) (ct_X0_isTask (S := S) (t := t) (M := M) hP (by omega)) kVX0_146 kDX0_146 (rm_ok hR (Nat.le_of_ble_eq_true rfl) (Nat.le_of_ble_eq_true rfl)) ⟨Nat.zero_le _, Nat.zero_le _⟩ (by omega) (rfl) rfl rfl rfl rfl (Nat.le_of_ble_eq_true rfl) dX0_sees_2 ?_
  refine v_if_eqB (pc := 5) 27 dX0_sees_5 (by decide) (fun c1 => ?_) (fun c1 => ?_)
  · skip
    refine v_iconst (pc := 27) ((-1)) dX0_sees_27 (by decide) ?_
    exact v_iret (pc := 28) hr rfl (Nat.le_refl _) (Nat.le_refl _) dX0_sees_28 (pI_mk (by unfold cSeesV; rw [if_neg (fun z => c1 z.1)]) (hC_c (by unfold cSeesS; rw [if_neg (fun z => c1 z.1)])))
  · skip
    refine v_iload_n (pc := 8) 2 dX0_sees_8 rfl rfl ?_
    refine v_iconst (pc := 9) (nI 1) dX0_sees_9 (by decide) ?_
    refine v_bipush (pc := 10) (nI 60) dX0_sees_10 (by decide) ?_
    refine c_callSi (pc := 12) (st := []) (ct_X0_in (S := S) (v := n) (lo := nI 1) (hi := nI 60) ) kVX0_100 kDX0_100 (rm_ok hR (Nat.le_of_ble_eq_true rfl) (Nat.le_of_ble_eq_true rfl)) ⟨Nat.zero_le _, Nat.zero_le _⟩ rfl rfl (Nat.le_of_ble_eq_true rfl) dX0_sees_12 ?_
    refine v_if_eqB (pc := 15) 27 dX0_sees_15 (by decide) (fun c2 => ?_) (fun c2 => ?_)
    · skip
      refine v_iconst (pc := 27) ((-1)) dX0_sees_27 (by decide) ?_
      exact v_iret (pc := 28) hr rfl (Nat.le_refl _) (Nat.le_refl _) dX0_sees_28 (pI_mk (by unfold cSeesV; rw [if_neg (fun z => c2 z.2.1)]) (hC_c (by unfold cSeesS; rw [if_neg (fun z => c2 z.2.1)])))
    · skip
      refine v_iload_n (pc := 18) 3 dX0_sees_18 rfl rfl ?_
      refine v_iconst (pc := 19) (nI 0) dX0_sees_19 (by decide) ?_
      refine v_iconst (pc := 20) (nI 1) dX0_sees_20 (by decide) ?_
      refine c_callSi (pc := 21) (st := []) (ct_X0_in (S := S) (v := w) (lo := nI 0) (hi := nI 1) ) kVX0_100 kDX0_100 (rm_ok hR (Nat.le_of_ble_eq_true rfl) (Nat.le_of_ble_eq_true rfl)) ⟨Nat.zero_le _, Nat.zero_le _⟩ rfl rfl (Nat.le_of_ble_eq_true rfl) dX0_sees_21 ?_
      refine v_if_neB (pc := 24) 29 dX0_sees_24 (by decide) (fun c3 => ?_) (fun c3 => ?_)
      · skip
        refine v_aload_n (pc := 29) 0 dX0_sees_29 rfl rfl ?_
        refine gX0_128 (pc := 30) hN dX0_sees_30 ?_
        refine v_topi (v := nI k) h0 ?_
        refine v_bipush (pc := 33) (nI 6) dX0_sees_33 (by decide) ?_
        refine v_ic_neN (pc := 35) 41 (by omega) (by omega) dX0_sees_35 (by decide) (fun c4 => ?_) (fun c4 => ?_)
        · skip
          refine v_aload_n (pc := 41) 0 dX0_sees_41 rfl rfl ?_
          refine gX0_77 (pc := 42) hN dX0_sees_42 ?_
          refine v_aload_n (pc := 45) 0 dX0_sees_45 rfl rfl ?_
          refine gX0_128 (pc := 46) hN dX0_sees_46 ?_
          refine v_topi (v := nI k) h0 ?_
          refine v_iload_n (pc := 49) 1 dX0_sees_49 rfl rfl ?_
          refine c_iast (pc := 50) (k := 174) (j := k) IA_174 (by omega) rfl (by omega) (by decide) dX0_sees_50 ?_
          refine v_aload_n (pc := 51) 0 dX0_sees_51 rfl rfl ?_
          refine gX0_81 (pc := 52) hN dX0_sees_52 ?_
          refine v_aload_n (pc := 55) 0 dX0_sees_55 rfl rfl ?_
          refine gX0_128 (pc := 56) hN dX0_sees_56 ?_
          refine v_topi (v := nI k) ((congrFun (s2_nk (by omega)) _).trans h0) ?_
          refine v_iload_n (pc := 59) 2 dX0_sees_59 rfl rfl ?_
          refine c_iast (pc := 60) (k := 175) (j := k) IA_175 (by omega) rfl (by omega) (by decide) dX0_sees_60 ?_
          refine v_aload_n (pc := 61) 0 dX0_sees_61 rfl rfl ?_
          refine gX0_84 (pc := 62) hN dX0_sees_62 ?_
          refine v_aload_n (pc := 65) 0 dX0_sees_65 rfl rfl ?_
          refine gX0_128 (pc := 66) hN dX0_sees_66 ?_
          refine v_topi (v := nI k) ((congrFun (s2_nk (by omega)) _).trans ((congrFun (s2_nk (by omega)) _).trans h0)) ?_
          refine v_iload_n (pc := 69) 3 dX0_sees_69 rfl rfl ?_
          refine c_iast (pc := 70) (k := 176) (j := k) IA_176 (by omega) rfl (by omega) (by decide) dX0_sees_70 ?_
          refine v_aload_n (pc := 71) 0 dX0_sees_71 rfl rfl ?_
          refine v_dup (pc := 72) dX0_sees_72 rfl ?_
          refine gX0_128 (pc := 73) hN dX0_sees_73 ?_
          refine v_topi (v := nI k) ((congrFun (s2_nk (by omega)) _).trans ((congrFun (s2_nk (by omega)) _).trans ((congrFun (s2_nk (by omega)) _).trans h0))) ?_
          refine v_iconst (pc := 76) (nI 1) dX0_sees_76 (by decide) ?_
          refine v_iaddN (pc := 77) dX0_sees_77 ?_
          refine pX0_128 (pc := 78) hN dX0_sees_78 ?_
          refine v_aload_n (pc := 81) 0 dX0_sees_81 rfl rfl ?_
          refine gX0_128 (pc := 82) hN dX0_sees_82 ?_
          refine v_topi (v := nI (k + 1)) (s2_at _ _ _ _) ?_
          exact v_iret (pc := 85) hr rfl (Nat.le_refl _) (Nat.le_refl _) dX0_sees_85 (pI_mk (by unfold cSeesV; rw [if_pos ⟨c1, c2, c3⟩, if_neg c4]) (hC_c (by unfold cSeesS; rw [if_pos ⟨c1, c2, c3⟩, if_neg c4])))
        · skip
          refine v_bipush (pc := 38) ((-3)) dX0_sees_38 (by decide) ?_
          exact v_iret (pc := 40) hr rfl (Nat.le_refl _) (Nat.le_refl _) dX0_sees_40 (pI_mk (by unfold cSeesV; rw [if_pos ⟨c1, c2, c3⟩, if_pos c4]) (hC_c (by unfold cSeesS; rw [if_pos ⟨c1, c2, c3⟩, if_pos c4])))
      · skip
        refine v_iconst (pc := 27) ((-1)) dX0_sees_27 (by decide) ?_
        exact v_iret (pc := 28) hr rfl (Nat.le_refl _) (Nat.le_refl _) dX0_sees_28 (pI_mk (by unfold cSeesV; rw [if_neg (fun z => c3 z.2.2)]) (hC_c (by unfold cSeesS; rw [if_neg (fun z => c3 z.2.2)])))

