set_option maxRecDepth 100000
/-! ScopeTasks$Reader: program, item -/
set_option maxHeartbeats 8000000 in
theorem ct_X4_program {G : GT} {l : Launch} {N r : Nat} {S M : ST} {Rm : Bool × ST} {n : Nat} {p : Int32} (hrr : 535 ≤ r) (hrN : r < N) (hD : DIv S M r) (hA : LA0 S M r) (hn : M 513 7 = nI n) (hn8 : n < 8) (hp : (n = 0 ∧ p = (-9)) ∨ (0 < n ∧ inN p 7 ∧ nn p < n)) (hE : pgR (adM M n p) n = Rm) : CTX G l yX4_program cX4_program 5 none 7 1 7 [.ref (gZ G + r), .int p] N (hC G S) (fun u N' h' => u = none ∧ N' = N ∧ ∃ T, h' = hC G T ∧ IE S T r Rm) (fun q N' h' => IX G N S r Rm q N' h') := by
  have i1 := hD.2.2.1.1
  have hS : S 27 0 = nI n := hD.2.2.2.1.1.trans hn
  refine CTX.mk "ScopeTasks$Reader" [(0, .ref (gZ G + r)), (1, .int (p))] rfl (by decide) rfl (Nat.le_of_ble_eq_true rfl) ?_
  intro x hR hl hr hnm hout
  refine v_aload_n (pc := 0) 0 dX4_program_0 rfl rfl ?_
  refine gX4_3 (pc := 1) hrr i1 hrN dX4_program_1 ?_
  refine gX4_69 (pc := 4) (by omega) dX4_program_4 ?_
  refine v_iload_n (pc := 7) 1 dX4_program_7 rfl rfl ?_
  refine c_callVi (pc := 8) (st := []) (ci := 1) (ct_X1_add (S := S) (b := 27) (p := p) (n := n) TB_27 hS (by omega) (by omega)) kVX4_78 kDX4_78 (rm_ok hR (Nat.le_of_ble_eq_true rfl) (Nat.le_of_ble_eq_true rfl)) ⟨Nat.zero_le _, Nat.zero_le _⟩ (by omega) (hC_tree (j := 0) TB_27 (by decide) rfl) rfl rfl rfl rfl (Nat.le_of_ble_eq_true rfl) dX4_program_8 ?_
  refine v_istore_n (pc := 11) (lv' := [(2, .int (nI n)), (0, .ref (gZ G + r)), (1, .int (p))]) dX4_program_11 rfl (by decide) rfl ?_
  refine v_S (show _ = adS S n p from rfl) ?_
  have hDa := hD.add (p := p) hrr hn hn8 hp
  have a3 : ∀ j, j ≠ 7 → adM M n p 513 j = M 513 j := fun j hj => by unfold adM; rw [s2_nj hj, s2_nk (by decide)]
  have a6 : adM M n p 516 n = nI 0 := by unfold adM; rw [s2_nk (by decide), s2_nk (by decide)]; exact (hD.2.2.2.2.1 n (by unfold mK; rw [hn, nn_of (by omega)]; exact Nat.le_refl _) hn8).2.1
  have hAa : LA0 (adS S n p) (adM M n p) r := hA.to (adS_ne (by omega)) (a3 0 (by decide)) (a3 2 (by decide)) (by unfold adM; rw [s2_nk (by decide), s2_nk (by decide)])
  refine v_sub (lv' := [(2, .int (nI n)), (0, .ref (gZ G + r)), (1, .int (p))]) [0, 1, 2] rfl ?_
  exact lp_rpg hR hr hout hrr hrN 6 0 (nxS (adM M n p)) _ rfl hDa.nx (hAa.nx hDa.1 hDa.2.1.1) (by unfold mK; rw [nxS_j (by omega)]; unfold adM; rw [s2_at, nn_of (by omega)]; omega) (by rw [nxS_ne (by decide)]; exact a6) (FRm.ad hrr) (by rw [← hE]; unfold pgR; rw [a6]; rfl)

theorem tol_iff {S M : ST} {r n L : Nat} (hB : LA1 S (nxS M) r) (hI : RdI S r L) (hS : S 27 0 = nI n) (h1 : 1 ≤ n) (h8 : n ≤ 8) : tolP r S ↔ nuB M (nI 0) (nI (n - 1)) := by
  rw [← num_iff0 hB]
  unfold tolP numP
  obtain ⟨-, -, -, ⟨e, he⟩⟩ := hI
  rw [hS, e]
  refine and_congr_right fun _ => ?_
  rw [nI_ltI (by omega) (by omega), nI_leI (by omega) (by omega), nI_leI (by omega) (by omega)]
  omega
theorem IE_es {S T M : ST} {r : Nat} (hF : FRm S T r) (hD : DIv T M r) (hA : LA0 T M r) : IE S T r (decide (esB M), esS M) := by
  have hB := hA.nx hD.1 hD.2.1.1
  refine ⟨hF, ⟨⟨_, _, hD.1, hD.2.2.1⟩, hD.pb⟩, ?_⟩
  by_cases c : esB M
  · refine Or.inl ⟨(stop_iff hB).mpr (by rw [nxS_at]; exact c), decide_eq_true c, ?_, ?_⟩
    · show DIv T (esS M) r; rw [esS_t c]; exact hD.nx
    · show LA1 T (esS M) r; rw [esS_t c]; exact hB
  · refine Or.inr ⟨fun z => c (by have := (stop_iff hB).mp z; rw [nxS_at] at this; exact this), decide_eq_false c, ?_⟩
    show T r 1 = esS M 513 6
    rw [esS_f c, flS_6]; exact hB.2.1
theorem IX.mk {G : GT} {N : Nat} {S T M : ST} {r : Nat} {q N' : Nat} {h' : Nat → va_E} (hF : FRm S T r ∧ PB T) (hB : LA1 T M r) (hP : pxW G N T r q N' h') : IX G N S r (false, flS M) q N' h' := ⟨T, hF, rfl, by show T r 1 = flS M 513 6; rw [flS_6]; exact hB.2.1, hP⟩
theorem s2_nk' {M : ST} {k q j i : Nat} {v : Int32} (h : q ≠ k) : s2 M k j v q i = M q i := by rw [s2_nk h]
theorem roW_d {M : ST} {j : Nat} : roW M (nI 100) j = s2 M 518 j (M 513 5) := by
  unfold roW; rw [if_pos rfl, if_neg (by decide), if_neg (by decide), s2_id (k := 519) (s2_nk' (by decide)), s2_id (k := 520) (s2_nk' (by decide))]
theorem roW_s {M : ST} {j : Nat} : roW M (nI 115) j = s2 M 519 j (M 513 5) := by
  unfold roW; rw [if_neg (by decide), if_pos rfl, if_neg (by decide), s2_id (k := 518) rfl, s2_id (k := 520) (s2_nk' (by decide))]
theorem roW_c {M : ST} {j : Nat} : roW M (nI 99) j = s2 M 520 j (M 513 5) := by
  unfold roW; rw [if_neg (by decide), if_neg (by decide), if_pos rfl, s2_id (k := 518) rfl, s2_id (k := 519) rfl]
/-- behind a number told for a task -/
theorem row_next {S M : ST} {r t a b : Nat} {v : Int32} (hD : DIv S M r) (hA : LA0 S M r) (hrr : 535 ≤ r) (ht : t < mK M) (hab : (a = 48 ∧ b = 518) ∨ (a = 49 ∧ b = 519) ∨ (a = 50 ∧ b = 520)) (hv : inN v 99) : DIv (s2 S a t v) (s2 M b t v) r ∧ LA0 (s2 S a t v) (s2 M b t v) r ∧ FRm S (s2 S a t v) r :=
  ⟨hD.row hrr ht hab hv, hA.to (s2_nk (by omega)) (by rw [s2_nk (by omega)]) (by rw [s2_nk (by omega)]) (s2_nk (by omega)), FRm.s2 hrr (by omega) (by omega)⟩
theorem gb_1 {v j : Nat} (hv : v < 256) (hj : j < 8) : (nI v >>> (nI j &&& 31)) &&& nI 1 = nI 1 ↔ v.testBit j = true := by
  have : ∀ v : Fin 256, ∀ p : Fin 8, (nI v.val >>> (nI p.val &&& 31)) &&& nI 1 = nI 1 ↔ v.val.testBit p.val = true := by decide +kernel
  exact this ⟨v, hv⟩ ⟨j, hj⟩
set_option maxHeartbeats 16000000 in
theorem ct_X4_item {G : GT} {l : Launch} {N r : Nat} {S M : ST} {Rm : Bool × ST} {w : Nat} {c : Int32} (hrr : 535 ≤ r) (hrN : r < N) (hD : DIv S M r) (hA : LA0 S M r) (hc : TK c) (hw : tsort c = w) (hm : (w = 5 ∧ mK M = 0) ∨ (0 < mK M ∧ ((w = 6 ∧ mK M < 8) ∨ (7 ≤ w ∧ w ≤ 10)))) (hE : riQ M c = Rm) : CTX G l yX4_item cX4_item 3 none 8 1 7 [.ref (gZ G + r), .int (nI w)] N (hC G S) (fun u N' h' => u = none ∧ N' = N ∧ ∃ T, h' = hC G T ∧ IE S T r Rm) (fun q N' h' => IX G N S r Rm q N' h') := by
  have i1 := hD.2.2.1.1
  have hX := hD.1
  have hI := hD.2.2.1
  have hB := hA.nx hX hD.2.1.1
  have h8 : mK M ≤ 8 := hD.2.1.2.1.2
  obtain ⟨n, hn⟩ : ∃ n, mK M = n := ⟨_, rfl⟩
  have hn7 : M 513 7 = nI n := by rw [← hn]; exact hD.2.1.2.1.1
  rw [hn] at hm h8
  have hS : S 27 0 = nI n := hD.2.2.2.1.1.trans hn7
  obtain ⟨j1, ⟨j2, j3⟩, ⟨j4, j5⟩, ⟨j6, j7⟩⟩ := id hI
  obtain ⟨s, hs⟩ : ∃ s, nn (S r 2) = s := ⟨_, rfl⟩
  obtain ⟨v, hv⟩ : ∃ v, nn (S r 3) = v := ⟨_, rfl⟩
  rw [hs] at j4 j5
  rw [hv] at j6 j7
  have hit := tk_it c hc
  rw [hw] at hit
  refine CTX.mk "ScopeTasks$Reader" [(0, .ref (gZ G + r)), (1, .int (nI w))] rfl (by decide) rfl (Nat.le_of_ble_eq_true rfl) ?_
  intro x hR hl hr hnm hout
  refine v_iload_n (pc := 0) 1 dX4_item_0 rfl rfl ?_
  have hsw : w = 5 ∨ w = 6 ∨ w = 7 ∨ w = 8 ∨ w = 9 ∨ w = 10 := by omega
  rcases hsw with e5 | e5 | e5 | e5 | e5 | e5
  · skip
    refine v_tableIn (pc := 1) 36 dX4_item_1 (by rw [e5]; decide) (by rw [e5]; decide) (by rw [e5]; rfl) (by decide) ?_
    refine v_aload_n (pc := 36) 0 dX4_item_36 rfl rfl ?_
    refine v_bipush (pc := 37) ((-9)) dX4_item_37 (by decide) ?_
    have hRe : pgR (adM M 0 (-9)) 0 = Rm := by
      rw [← hE]; unfold riQ adM
      rw [if_pos (hit.1.mp e5), if_neg (by omega), s2_id (k := 515) (hD.2.2.2.2.1 0 (by omega) (by decide)).1]
    refine v_callX (pc := 39) (mc := 1) (ms := 7) (mc' := 1) (ms' := 7) (st := []) (kb := r) (ci := 4) (ct_X4_program hrr hrN hD hA (show M 513 7 = nI 0 by rw [hn7]; congr 1; omega) (by decide) (Or.inl ⟨rfl, rfl⟩) hRe) kVX4_95 kDX4_95 (rm_ok hR (Nat.le_of_ble_eq_true rfl) (Nat.le_of_ble_eq_true rfl)) (by rw [hR]; decide) hrN (show hC G _ r = rdE G _ from cO_rd hrr i1) rfl rfl rfl rfl (Nat.le_of_ble_eq_true rfl) dX4_item_39 hout (fun q N' h' z => z) (by decide) (by decide) (fun v' N' h' z => ?_)
    obtain ⟨rfl, rfl, T, rfl, hIE⟩ := z
    refine v_goto (pc := 42) 206 dX4_item_42 (by decide) ?_
    exact v_ok (v_vret (pc := 206) hr (Nat.le_refl _) (Nat.le_refl _) dX4_item_206 ⟨rfl, rfl, _, rfl, hIE⟩)
  · skip
    have hc14 : ¬ c = nI 114 := fun z => absurd (hit.1.mpr z) (by omega)
    have h78 : ¬ M 513 7 = nI 8 := by rw [hn7]; exact fun z => absurd (nI_inj (by omega) (by omega) z) (by omega)
    have hq6 : riQ M c = rtR M := by unfold riQ; rw [if_neg hc14, if_neg (by omega), if_pos (hit.2.1.mp e5)]
    refine v_tableIn (pc := 1) 45 dX4_item_1 (by rw [e5]; decide) (by rw [e5]; decide) (by rw [e5]; rfl) (by decide) ?_
    refine v_aload_n (pc := 45) 0 dX4_item_45 rfl rfl ?_
    refine v_aload_n (pc := 46) 0 dX4_item_46 rfl rfl ?_
    refine c_callXX (pc := 47) (st := [.ref (gZ G + r)]) (kb := r) (ci := 4) (ct_X4_told (n := n) hrr hrN hI hX hS h8) kVX4_98 kDX4_98 (rm_ok hR (Nat.le_of_ble_eq_true rfl) (Nat.le_of_ble_eq_true rfl)) (by rw [hR]; decide) hrN (show hC G _ r = rdE G _ from cO_rd hrr i1) rfl rfl rfl rfl (Nat.le_of_ble_eq_true rfl) dX4_item_47 hout (fun hF' q N' h' hP => ?_) (fun hT => ?_)
    · obtain ⟨hx, he⟩ := dueC_1f hF'
      rw [he] at hP
      have hb : ¬ nuB M (nI 0) (nI (mK M - 1)) := fun z => hx ((tol_iff hB hI hS (by omega) h8).mpr (by rw [← hn]; exact z))
      have hRe : Rm = (false, flS (nxS M)) := by rw [← hE, hq6]; unfold rtR; rw [if_neg h78, if_neg hb, nuS_f hb]
      rw [hRe]; exact IX.mk ⟨FRm.rf, hD.pb⟩ hB hP
    · obtain ⟨hx, he⟩ := dueC_1t hT
      have hb : nuB M (nI 0) (nI (mK M - 1)) := by rw [hn]; exact (tol_iff hB hI hS (by omega) h8).mp hx
      have hvn : v < n := by have := hx.2; rw [j6, hS] at this; exact (nI_ltI (by omega) (by omega)).mp this
      have hv5 : S r 3 = nxS M 513 5 := hB.2.2.2.1 (by rw [nxS_at]; exact hb.1)
      refine v_S (show _ = rdDu r (M 514) (mL M) S from congrArg Prod.snd he) ?_
      refine v_topi (v := nI v) j6 ?_
      generalize hGS1 : rdDu r (M 514) (mL M) S = S1
      have hD1 : DIv S1 (nxS M) r := hGS1 ▸ (hD.rd hrr).nx
      have hA1 : LA0 S1 (nxS M) r := hGS1 ▸ hB.du0
      have hF1 : FRm S S1 r := hGS1 ▸ FRm.rd
      have k1 := hD1.2.2.1.1
      have hK1 : mK (nxS M) = n := by unfold mK; rw [nxS_j (by omega)]; exact hn
      have hRe : pgR (adM (nxS M) n (nI v)) n = Rm := by
        rw [← hE, hq6]; unfold rtR; rw [if_neg h78, if_pos hb, nuS_t hb, hn, ← hv5, j6]; rfl
      refine v_callX (pc := 50) (mc := 1) (ms := 7) (mc' := 1) (ms' := 7) (st := []) (kb := r) (ci := 4) (ct_X4_program hrr hrN hD1 hA1 (show nxS M 513 7 = nI n by rw [nxS_j (by omega)]; exact hn7) (by omega) (Or.inr ⟨by omega, inN_nI (by omega) (by decide), by rw [nn_of (by omega)]; exact hvn⟩) hRe) kVX4_95 kDX4_95 (rm_ok hR (Nat.le_of_ble_eq_true rfl) (Nat.le_of_ble_eq_true rfl)) (by rw [hR]; decide) hrN (show hC G _ r = rdE G _ from cO_rd hrr k1) rfl rfl rfl rfl (Nat.le_of_ble_eq_true rfl) dX4_item_50 hout (fun q N' h' z => IX.fr hF1 z) (by decide) (by decide) (fun v' N' h' z => ?_)
      obtain ⟨rfl, rfl, T, rfl, hIE⟩ := z
      refine v_goto (pc := 53) 206 dX4_item_53 (by decide) ?_
      exact v_ok (v_vret (pc := 206) hr (Nat.le_refl _) (Nat.le_refl _) dX4_item_206 ⟨rfl, rfl, _, rfl, hIE.fr hF1⟩)
  · skip
    have hc14 : ¬ c = nI 114 := fun z => absurd (hit.1.mpr z) (by omega)
    have hcc : c = nI 100 := hit.2.2.1.mp e5
    have hqo : riQ M c = roR M c := by unfold riQ; rw [if_neg hc14, if_neg (by omega), if_neg (fun z => absurd (hit.2.1.mpr z) (by omega)), if_pos (Or.inr (Or.inl hcc))]
    refine v_tableIn (pc := 1) 56 dX4_item_1 (by rw [e5]; decide) (by rw [e5]; decide) (by rw [e5]; rfl) (by decide) ?_
    refine v_aload_n (pc := 56) 0 dX4_item_56 rfl rfl ?_
    refine c_callXX (pc := 57) (st := []) (kb := r) (ci := 4) (ct_X4_told (n := n) hrr hrN hI hX hS h8) kVX4_98 kDX4_98 (rm_ok hR (Nat.le_of_ble_eq_true rfl) (Nat.le_of_ble_eq_true rfl)) (by rw [hR]; decide) hrN (show hC G _ r = rdE G _ from cO_rd hrr i1) rfl rfl rfl rfl (Nat.le_of_ble_eq_true rfl) dX4_item_57 hout (fun hF' q N' h' hP => ?_) (fun hT => ?_)
    · obtain ⟨hx, he⟩ := dueC_1f hF'
      rw [he] at hP
      have hb : ¬ nuB M (nI 0) (nI (mK M - 1)) := fun z => hx ((tol_iff hB hI hS (by omega) h8).mpr (by rw [← hn]; exact z))
      have hRe : Rm = (false, flS (nxS M)) := by rw [← hE, hqo]; unfold roR; rw [if_neg hb, nuS_f hb]
      rw [hRe]; exact IX.mk ⟨FRm.rf, hD.pb⟩ hB hP
    · obtain ⟨hx, he⟩ := dueC_1t hT
      have hb : nuB M (nI 0) (nI (mK M - 1)) := by rw [hn]; exact (tol_iff hB hI hS (by omega) h8).mp hx
      have hvn : v < n := by have := hx.2; rw [j6, hS] at this; exact (nI_ltI (by omega) (by omega)).mp this
      have hv5 : S r 3 = nxS M 513 5 := hB.2.2.2.1 (by rw [nxS_at]; exact hb.1)
      refine v_S (show _ = rdDu r (M 514) (mL M) S from congrArg Prod.snd he) ?_
      refine v_topi (v := nI v) j6 ?_
      generalize hGS1 : rdDu r (M 514) (mL M) S = S1
      have hD1 : DIv S1 (nxS M) r := hGS1 ▸ (hD.rd hrr).nx
      have hA1 : LA0 S1 (nxS M) r := hGS1 ▸ hB.du0
      have hF1 : FRm S S1 r := hGS1 ▸ FRm.rd
      have k1 := hD1.2.2.1.1
      have hK1 : mK (nxS M) = n := by unfold mK; rw [nxS_j (by omega)]; exact hn
      refine v_istore_n (pc := 60) (lv' := [(2, .int (nI v)), (0, .ref (gZ G + r)), (1, .int (nI w))]) dX4_item_60 rfl (by decide) rfl ?_
      refine v_aload_n (pc := 61) 1 dX4_item_61 rfl rfl ?_
      refine gX4_3 (pc := 62) hrr k1 hrN dX4_item_62 ?_
      refine gX4_69 (pc := 65) (by omega) dX4_item_65 ?_
      refine gX4_101 (pc := 68) TB_27 (by omega) dX4_item_68 ?_
      refine v_iload_n (pc := 71) 0 dX4_item_71 rfl rfl ?_
      refine v_aload_n (pc := 72) 1 dX4_item_72 rfl rfl ?_
      refine v_iconst (pc := 73) (nI 1) dX4_item_73 (by decide) ?_
      refine v_bipush (pc := 74) (nI 60) dX4_item_74 (by decide) ?_
      have hB1 := hA1.nx hD1.1 hD1.2.1.1
      have hlo : roLo (nI 100) = nI 1 := by decide
      have hhi : roHi (nI 100) = nI 60 := by decide
      have hq : Rm = roN (nxS M) (nI 100) v := by rw [← hE, hqo, hcc]; unfold roR; rw [if_pos hb, if_neg (by decide), nuS_t hb, ← hv5, hv]
      unfold roN at hq
      rw [hlo, hhi] at hq
      refine c_callXX (pc := 76) (st := [.int (nI v), .ref (gZ G + (27 + 21))]) (kb := r) (ci := 4) (ct_X4_number (lo := nI 1) (hi := nI 60) hrr hrN hD1.2.2.1 hD1.1) kVX4_92 kDX4_92 (rm_ok hR (Nat.le_of_ble_eq_true rfl) (Nat.le_of_ble_eq_true rfl)) (by rw [hR]; decide) hrN (show hC G _ r = rdE G _ from cO_rd hrr k1) rfl rfl rfl rfl (Nat.le_of_ble_eq_true rfl) dX4_item_76 hout (fun hF' q N' h' hP => ?_) (fun hT => ?_)
      · obtain ⟨hx2, he2⟩ := dueC_1f hF'
        rw [he2] at hP
        have hb2 : ¬ nuB (nxS M) (nI 1) (nI 60) := fun z => hx2 ((num_iff0 hB1 _ _).mpr z)
        rw [if_neg hb2, nuS_f hb2] at hq
        rw [hq]; exact IX.mk ⟨hF1, hD1.pb⟩ hB1 hP
      · obtain ⟨hx2, he2⟩ := dueC_1t hT
        have hb2 : nuB (nxS M) (nI 1) (nI 60) := (num_iff0 hB1 _ _).mp hx2
        rw [if_pos hb2, nuS_t hb2] at hq
        have hw5 : S1 r 3 = nxS (nxS M) 513 5 := hB1.2.2.2.1 (by rw [nxS_at]; exact hb2.1)
        have hw9 : inN (nxS (nxS M) 513 5) 99 := by rw [← hw5]; have z := hx2.2.2; obtain ⟨y1, y2⟩ := hD1.2.2.1.2.2.2; rw [y1, nI_leI (by omega) (by omega)] at z; exact ⟨y1, by omega⟩
        refine v_S (show _ = rdDu r (nxS M 514) (mL (nxS M)) S1 from congrArg Prod.snd he2) ?_
        refine v_topi (v := nxS (nxS M) 513 5) hw5 ?_
        generalize hGS2 : rdDu r (nxS M 514) (mL (nxS M)) S1 = S2
        have hD2 : DIv S2 (nxS (nxS M)) r := hGS2 ▸ (hD1.rd hrr).nx
        have hA2 : LA0 S2 (nxS (nxS M)) r := hGS2 ▸ hB1.du0
        have hF2 : FRm S S2 r := hF1.tr (hGS2 ▸ FRm.rd)
        have k2 := hD2.2.2.1.1
        have hK2 : mK (nxS (nxS M)) = n := by unfold mK; rw [nxS_j (by omega)]; exact hK1
        refine c_iast (pc := 79) (k := 27 + 21) (j := v) (IA_tree8 TB_27 (by decide)) (by omega) rfl (by omega) (by decide) dX4_item_79 ?_
        refine v_goto (pc := 80) 206 dX4_item_80 (by decide) ?_
        refine v_S (show _ = s2 S2 48 v (nxS (nxS M) 513 5) from rfl) ?_
        obtain ⟨n1, n2, n3⟩ := row_next (t := v) (v := nxS (nxS M) 513 5) hD2 hA2 hrr (by omega) (show (48 = 48 ∧ 518 = 518) ∨ (48 = 49 ∧ 518 = 519) ∨ (48 = 50 ∧ 518 = 520) from Or.inl ⟨rfl, rfl⟩) hw9
        rw [roW_d] at hq
        rw [hq]
        exact v_ok (v_vret (pc := 206) hr (Nat.le_refl _) (Nat.le_refl _) dX4_item_206 ⟨rfl, rfl, _, rfl, IE_es (hF2.tr n3) n1 n2⟩)
  · skip
    have hc14 : ¬ c = nI 114 := fun z => absurd (hit.1.mpr z) (by omega)
    have hcc : c = nI 115 := hit.2.2.2.1.mp e5
    have hqo : riQ M c = roR M c := by unfold riQ; rw [if_neg hc14, if_neg (by omega), if_neg (fun z => absurd (hit.2.1.mpr z) (by omega)), if_pos (Or.inr (Or.inr (Or.inr hcc)))]
    refine v_tableIn (pc := 1) 83 dX4_item_1 (by rw [e5]; decide) (by rw [e5]; decide) (by rw [e5]; rfl) (by decide) ?_
    refine v_aload_n (pc := 83) 0 dX4_item_83 rfl rfl ?_
    refine c_callXX (pc := 84) (st := []) (kb := r) (ci := 4) (ct_X4_told (n := n) hrr hrN hI hX hS h8) kVX4_98 kDX4_98 (rm_ok hR (Nat.le_of_ble_eq_true rfl) (Nat.le_of_ble_eq_true rfl)) (by rw [hR]; decide) hrN (show hC G _ r = rdE G _ from cO_rd hrr i1) rfl rfl rfl rfl (Nat.le_of_ble_eq_true rfl) dX4_item_84 hout (fun hF' q N' h' hP => ?_) (fun hT => ?_)
    · obtain ⟨hx, he⟩ := dueC_1f hF'
      rw [he] at hP
      have hb : ¬ nuB M (nI 0) (nI (mK M - 1)) := fun z => hx ((tol_iff hB hI hS (by omega) h8).mpr (by rw [← hn]; exact z))
      have hRe : Rm = (false, flS (nxS M)) := by rw [← hE, hqo]; unfold roR; rw [if_neg hb, nuS_f hb]
      rw [hRe]; exact IX.mk ⟨FRm.rf, hD.pb⟩ hB hP
    · obtain ⟨hx, he⟩ := dueC_1t hT
      have hb : nuB M (nI 0) (nI (mK M - 1)) := by rw [hn]; exact (tol_iff hB hI hS (by omega) h8).mp hx
      have hvn : v < n := by have := hx.2; rw [j6, hS] at this; exact (nI_ltI (by omega) (by omega)).mp this
      have hv5 : S r 3 = nxS M 513 5 := hB.2.2.2.1 (by rw [nxS_at]; exact hb.1)
      refine v_S (show _ = rdDu r (M 514) (mL M) S from congrArg Prod.snd he) ?_
      refine v_topi (v := nI v) j6 ?_
      generalize hGS1 : rdDu r (M 514) (mL M) S = S1
      have hD1 : DIv S1 (nxS M) r := hGS1 ▸ (hD.rd hrr).nx
      have hA1 : LA0 S1 (nxS M) r := hGS1 ▸ hB.du0
      have hF1 : FRm S S1 r := hGS1 ▸ FRm.rd
      have k1 := hD1.2.2.1.1
      have hK1 : mK (nxS M) = n := by unfold mK; rw [nxS_j (by omega)]; exact hn
      refine v_istore_n (pc := 87) (lv' := [(2, .int (nI v)), (0, .ref (gZ G + r)), (1, .int (nI w))]) dX4_item_87 rfl (by decide) rfl ?_
      refine v_aload_n (pc := 88) 1 dX4_item_88 rfl rfl ?_
      refine gX4_3 (pc := 89) hrr k1 hrN dX4_item_89 ?_
      refine gX4_69 (pc := 92) (by omega) dX4_item_92 ?_
      refine gX4_104 (pc := 95) TB_27 (by omega) dX4_item_95 ?_
      refine v_iload_n (pc := 98) 0 dX4_item_98 rfl rfl ?_
      refine v_aload_n (pc := 99) 1 dX4_item_99 rfl rfl ?_
      refine v_iconst (pc := 100) (nI 0) dX4_item_100 (by decide) ?_
      refine v_bipush (pc := 101) (nI 6) dX4_item_101 (by decide) ?_
      have hB1 := hA1.nx hD1.1 hD1.2.1.1
      have hlo : roLo (nI 115) = nI 0 := by decide
      have hhi : roHi (nI 115) = nI 6 := by decide
      have hq : Rm = roN (nxS M) (nI 115) v := by rw [← hE, hqo, hcc]; unfold roR; rw [if_pos hb, if_neg (by decide), nuS_t hb, ← hv5, hv]
      unfold roN at hq
      rw [hlo, hhi] at hq
      refine c_callXX (pc := 103) (st := [.int (nI v), .ref (gZ G + (27 + 22))]) (kb := r) (ci := 4) (ct_X4_number (lo := nI 0) (hi := nI 6) hrr hrN hD1.2.2.1 hD1.1) kVX4_92 kDX4_92 (rm_ok hR (Nat.le_of_ble_eq_true rfl) (Nat.le_of_ble_eq_true rfl)) (by rw [hR]; decide) hrN (show hC G _ r = rdE G _ from cO_rd hrr k1) rfl rfl rfl rfl (Nat.le_of_ble_eq_true rfl) dX4_item_103 hout (fun hF' q N' h' hP => ?_) (fun hT => ?_)
      · obtain ⟨hx2, he2⟩ := dueC_1f hF'
        rw [he2] at hP
        have hb2 : ¬ nuB (nxS M) (nI 0) (nI 6) := fun z => hx2 ((num_iff0 hB1 _ _).mpr z)
        rw [if_neg hb2, nuS_f hb2] at hq
        rw [hq]; exact IX.mk ⟨hF1, hD1.pb⟩ hB1 hP
      · obtain ⟨hx2, he2⟩ := dueC_1t hT
        have hb2 : nuB (nxS M) (nI 0) (nI 6) := (num_iff0 hB1 _ _).mp hx2
        rw [if_pos hb2, nuS_t hb2] at hq
        have hw5 : S1 r 3 = nxS (nxS M) 513 5 := hB1.2.2.2.1 (by rw [nxS_at]; exact hb2.1)
        have hw9 : inN (nxS (nxS M) 513 5) 99 := by rw [← hw5]; have z := hx2.2.2; obtain ⟨y1, y2⟩ := hD1.2.2.1.2.2.2; rw [y1, nI_leI (by omega) (by omega)] at z; exact ⟨y1, by omega⟩
        refine v_S (show _ = rdDu r (nxS M 514) (mL (nxS M)) S1 from congrArg Prod.snd he2) ?_
        refine v_topi (v := nxS (nxS M) 513 5) hw5 ?_
        generalize hGS2 : rdDu r (nxS M 514) (mL (nxS M)) S1 = S2
        have hD2 : DIv S2 (nxS (nxS M)) r := hGS2 ▸ (hD1.rd hrr).nx
        have hA2 : LA0 S2 (nxS (nxS M)) r := hGS2 ▸ hB1.du0
        have hF2 : FRm S S2 r := hF1.tr (hGS2 ▸ FRm.rd)
        have k2 := hD2.2.2.1.1
        have hK2 : mK (nxS (nxS M)) = n := by unfold mK; rw [nxS_j (by omega)]; exact hK1
        refine c_iast (pc := 106) (k := 27 + 22) (j := v) (IA_tree8 TB_27 (by decide)) (by omega) rfl (by omega) (by decide) dX4_item_106 ?_
        refine v_goto (pc := 107) 206 dX4_item_107 (by decide) ?_
        refine v_S (show _ = s2 S2 49 v (nxS (nxS M) 513 5) from rfl) ?_
        obtain ⟨n1, n2, n3⟩ := row_next (t := v) (v := nxS (nxS M) 513 5) hD2 hA2 hrr (by omega) (show (49 = 48 ∧ 519 = 518) ∨ (49 = 49 ∧ 519 = 519) ∨ (49 = 50 ∧ 519 = 520) from Or.inr (Or.inl ⟨rfl, rfl⟩)) hw9
        rw [roW_s] at hq
        rw [hq]
        exact v_ok (v_vret (pc := 206) hr (Nat.le_refl _) (Nat.le_refl _) dX4_item_206 ⟨rfl, rfl, _, rfl, IE_es (hF2.tr n3) n1 n2⟩)
  · skip
    have hc14 : ¬ c = nI 114 := fun z => absurd (hit.1.mpr z) (by omega)
    have hcc : c = nI 99 := hit.2.2.2.2.1.mp e5
    have hqo : riQ M c = roR M c := by unfold riQ; rw [if_neg hc14, if_neg (by omega), if_neg (fun z => absurd (hit.2.1.mpr z) (by omega)), if_pos (Or.inl hcc)]
    refine v_tableIn (pc := 1) 110 dX4_item_1 (by rw [e5]; decide) (by rw [e5]; decide) (by rw [e5]; rfl) (by decide) ?_
    refine v_aload_n (pc := 110) 0 dX4_item_110 rfl rfl ?_
    refine c_callXX (pc := 111) (st := []) (kb := r) (ci := 4) (ct_X4_told (n := n) hrr hrN hI hX hS h8) kVX4_98 kDX4_98 (rm_ok hR (Nat.le_of_ble_eq_true rfl) (Nat.le_of_ble_eq_true rfl)) (by rw [hR]; decide) hrN (show hC G _ r = rdE G _ from cO_rd hrr i1) rfl rfl rfl rfl (Nat.le_of_ble_eq_true rfl) dX4_item_111 hout (fun hF' q N' h' hP => ?_) (fun hT => ?_)
    · obtain ⟨hx, he⟩ := dueC_1f hF'
      rw [he] at hP
      have hb : ¬ nuB M (nI 0) (nI (mK M - 1)) := fun z => hx ((tol_iff hB hI hS (by omega) h8).mpr (by rw [← hn]; exact z))
      have hRe : Rm = (false, flS (nxS M)) := by rw [← hE, hqo]; unfold roR; rw [if_neg hb, nuS_f hb]
      rw [hRe]; exact IX.mk ⟨FRm.rf, hD.pb⟩ hB hP
    · obtain ⟨hx, he⟩ := dueC_1t hT
      have hb : nuB M (nI 0) (nI (mK M - 1)) := by rw [hn]; exact (tol_iff hB hI hS (by omega) h8).mp hx
      have hvn : v < n := by have := hx.2; rw [j6, hS] at this; exact (nI_ltI (by omega) (by omega)).mp this
      have hv5 : S r 3 = nxS M 513 5 := hB.2.2.2.1 (by rw [nxS_at]; exact hb.1)
      refine v_S (show _ = rdDu r (M 514) (mL M) S from congrArg Prod.snd he) ?_
      refine v_topi (v := nI v) j6 ?_
      generalize hGS1 : rdDu r (M 514) (mL M) S = S1
      have hD1 : DIv S1 (nxS M) r := hGS1 ▸ (hD.rd hrr).nx
      have hA1 : LA0 S1 (nxS M) r := hGS1 ▸ hB.du0
      have hF1 : FRm S S1 r := hGS1 ▸ FRm.rd
      have k1 := hD1.2.2.1.1
      have hK1 : mK (nxS M) = n := by unfold mK; rw [nxS_j (by omega)]; exact hn
      refine v_istore_n (pc := 114) (lv' := [(2, .int (nI v)), (0, .ref (gZ G + r)), (1, .int (nI w))]) dX4_item_114 rfl (by decide) rfl ?_
      refine v_aload_n (pc := 115) 1 dX4_item_115 rfl rfl ?_
      refine gX4_3 (pc := 116) hrr k1 hrN dX4_item_116 ?_
      refine gX4_69 (pc := 119) (by omega) dX4_item_119 ?_
      refine gX4_107 (pc := 122) TB_27 (by omega) dX4_item_122 ?_
      refine v_iload_n (pc := 125) 0 dX4_item_125 rfl rfl ?_
      refine v_aload_n (pc := 126) 1 dX4_item_126 rfl rfl ?_
      refine v_iconst (pc := 127) (nI 0) dX4_item_127 (by decide) ?_
      refine v_iconst (pc := 128) (nI 5) dX4_item_128 (by decide) ?_
      have hB1 := hA1.nx hD1.1 hD1.2.1.1
      have hlo : roLo (nI 99) = nI 0 := by decide
      have hhi : roHi (nI 99) = nI 5 := by decide
      have hq : Rm = roN (nxS M) (nI 99) v := by rw [← hE, hqo, hcc]; unfold roR; rw [if_pos hb, if_neg (by decide), nuS_t hb, ← hv5, hv]
      unfold roN at hq
      rw [hlo, hhi] at hq
      refine c_callXX (pc := 129) (st := [.int (nI v), .ref (gZ G + (27 + 23))]) (kb := r) (ci := 4) (ct_X4_number (lo := nI 0) (hi := nI 5) hrr hrN hD1.2.2.1 hD1.1) kVX4_92 kDX4_92 (rm_ok hR (Nat.le_of_ble_eq_true rfl) (Nat.le_of_ble_eq_true rfl)) (by rw [hR]; decide) hrN (show hC G _ r = rdE G _ from cO_rd hrr k1) rfl rfl rfl rfl (Nat.le_of_ble_eq_true rfl) dX4_item_129 hout (fun hF' q N' h' hP => ?_) (fun hT => ?_)
      · obtain ⟨hx2, he2⟩ := dueC_1f hF'
        rw [he2] at hP
        have hb2 : ¬ nuB (nxS M) (nI 0) (nI 5) := fun z => hx2 ((num_iff0 hB1 _ _).mpr z)
        rw [if_neg hb2, nuS_f hb2] at hq
        rw [hq]; exact IX.mk ⟨hF1, hD1.pb⟩ hB1 hP
      · obtain ⟨hx2, he2⟩ := dueC_1t hT
        have hb2 : nuB (nxS M) (nI 0) (nI 5) := (num_iff0 hB1 _ _).mp hx2
        rw [if_pos hb2, nuS_t hb2] at hq
        have hw5 : S1 r 3 = nxS (nxS M) 513 5 := hB1.2.2.2.1 (by rw [nxS_at]; exact hb2.1)
        have hw9 : inN (nxS (nxS M) 513 5) 99 := by rw [← hw5]; have z := hx2.2.2; obtain ⟨y1, y2⟩ := hD1.2.2.1.2.2.2; rw [y1, nI_leI (by omega) (by omega)] at z; exact ⟨y1, by omega⟩
        refine v_S (show _ = rdDu r (nxS M 514) (mL (nxS M)) S1 from congrArg Prod.snd he2) ?_
        refine v_topi (v := nxS (nxS M) 513 5) hw5 ?_
        generalize hGS2 : rdDu r (nxS M 514) (mL (nxS M)) S1 = S2
        have hD2 : DIv S2 (nxS (nxS M)) r := hGS2 ▸ (hD1.rd hrr).nx
        have hA2 : LA0 S2 (nxS (nxS M)) r := hGS2 ▸ hB1.du0
        have hF2 : FRm S S2 r := hF1.tr (hGS2 ▸ FRm.rd)
        have k2 := hD2.2.2.1.1
        have hK2 : mK (nxS (nxS M)) = n := by unfold mK; rw [nxS_j (by omega)]; exact hK1
        refine c_iast (pc := 132) (k := 27 + 23) (j := v) (IA_tree8 TB_27 (by decide)) (by omega) rfl (by omega) (by decide) dX4_item_132 ?_
        refine v_goto (pc := 133) 206 dX4_item_133 (by decide) ?_
        refine v_S (show _ = s2 S2 50 v (nxS (nxS M) 513 5) from rfl) ?_
        obtain ⟨n1, n2, n3⟩ := row_next (t := v) (v := nxS (nxS M) 513 5) hD2 hA2 hrr (by omega) (show (50 = 48 ∧ 520 = 518) ∨ (50 = 49 ∧ 520 = 519) ∨ (50 = 50 ∧ 520 = 520) from Or.inr (Or.inr ⟨rfl, rfl⟩)) hw9
        rw [roW_c] at hq
        rw [hq]
        exact v_ok (v_vret (pc := 206) hr (Nat.le_refl _) (Nat.le_refl _) dX4_item_206 ⟨rfl, rfl, _, rfl, IE_es (hF2.tr n3) n1 n2⟩)
  · skip
    have hc14 : ¬ c = nI 114 := fun z => absurd (hit.1.mpr z) (by omega)
    have hcc : c = nI 103 := hit.2.2.2.2.2.mp e5
    have hqo : riQ M c = roR M c := by unfold riQ; rw [if_neg hc14, if_neg (by omega), if_neg (fun z => absurd (hit.2.1.mpr z) (by omega)), if_pos (Or.inr (Or.inr (Or.inl hcc)))]
    obtain ⟨gv, hgv, hg8⟩ := hD.2.2.2.1.2.2.2
    refine v_tableOut (pc := 1) 136 dX4_item_1 (by rw [e5]; decide) (by decide) ?_
    refine v_aload_n (pc := 136) 0 dX4_item_136 rfl rfl ?_
    refine v_aload_n (pc := 137) 0 dX4_item_137 rfl rfl ?_
    refine gX4_36 (pc := 138) hrr i1 hrN dX4_item_138 ?_
    refine v_topi (v := nI s) j4 ?_
    refine v_bipush (pc := 141) (nI 11) dX4_item_141 (by decide) ?_
    refine v_ic_neN (pc := 143) 187 (by omega) (by omega) dX4_item_143 (by decide) (fun c1 => ?_) (fun c1 => ?_)
    · skip
      refine v_iconst (pc := 187) (nI 0) dX4_item_187 (by decide) ?_
      refine v_topi (v := bI (gatP r S)) (bI_f (fun z => c1 (nI_inj (by omega) (by omega) (j4.symm.trans z.1)))) ?_
      refine c_callXX (pc := 188) (st := []) (kb := r) (ci := 4) (ct_X4_due (P := gatP r S) hrr hrN hI hX) kVX4_65 kDX4_65 (rm_ok hR (Nat.le_of_ble_eq_true rfl) (Nat.le_of_ble_eq_true rfl)) (by rw [hR]; decide) hrN (show hC G _ r = rdE G _ from cO_rd hrr i1) rfl rfl rfl rfl (Nat.le_of_ble_eq_true rfl) dX4_item_188 hout (fun hF' q N' h' hP => ?_) (fun hT => ?_)
      · obtain ⟨hx, he⟩ := dueC_1f hF'
        rw [he] at hP
        have hRe : Rm = (false, flS (nxS M)) := by
          rw [← hE, hqo]; unfold roR
          by_cases hb : nuB M (nI 0) (nI (mK M - 1))
          · have hxx : tolP r S := (tol_iff hB hI hS (by omega) h8).mpr (by rw [← hn]; exact hb)
            have hvn : v < n := by have := hxx.2; rw [j6, hS] at this; exact (nI_ltI (by omega) (by omega)).mp this
            have hv5 : S r 3 = nxS M 513 5 := hB.2.2.2.1 (by rw [nxS_at]; exact hb.1)
            rw [if_pos hb, if_pos hcc, nuS_t hb, ← hv5, hv]; unfold roG
            rw [if_pos]
            rw [nxS_j (by omega), hg8, gb_1 hgv.2.1 (by omega)]
            exact Classical.byContradiction fun z => hx ⟨hxx.1, hxx.2, by rw [(show nn (S 52 0) = gv by rw [hgv.1]; exact nn_of (by have := hgv.2.1; omega)), hv]; exact z⟩
          · rw [if_neg hb, nuS_f hb]
        rw [hRe]; exact IX.mk ⟨FRm.rf, hD.pb⟩ hB hP
      · exact absurd (dueC_1t hT).1 (fun z => c1 (nI_inj (by omega) (by omega) (j4.symm.trans z.1)))
    · skip
      refine v_aload_n (pc := 146) 0 dX4_item_146 rfl rfl ?_
      refine gX4_33 (pc := 147) hrr i1 hrN dX4_item_147 ?_
      refine v_topi (v := nI v) j6 ?_
      refine v_aload_n (pc := 150) 0 dX4_item_150 rfl rfl ?_
      refine gX4_3 (pc := 151) hrr i1 hrN dX4_item_151 ?_
      refine gX4_69 (pc := 154) (by omega) dX4_item_154 ?_
      refine gX4_73 (pc := 157) TB_27 (by omega) dX4_item_157 ?_
      refine v_topi (v := nI n) hS ?_
      refine v_ic_geN (pc := 160) 187 (by omega) (by omega) dX4_item_160 (by decide) (fun c2 => ?_) (fun c2 => ?_)
      · skip
        refine v_iconst (pc := 187) (nI 0) dX4_item_187 (by decide) ?_
        refine v_topi (v := bI (gatP r S)) (bI_f (fun z => absurd z.2.1 (by rw [j6, hS]; exact fun y => absurd ((nI_ltI (by omega) (by omega)).mp y) (by omega)))) ?_
        refine c_callXX (pc := 188) (st := []) (kb := r) (ci := 4) (ct_X4_due (P := gatP r S) hrr hrN hI hX) kVX4_65 kDX4_65 (rm_ok hR (Nat.le_of_ble_eq_true rfl) (Nat.le_of_ble_eq_true rfl)) (by rw [hR]; decide) hrN (show hC G _ r = rdE G _ from cO_rd hrr i1) rfl rfl rfl rfl (Nat.le_of_ble_eq_true rfl) dX4_item_188 hout (fun hF' q N' h' hP => ?_) (fun hT => ?_)
        · obtain ⟨hx, he⟩ := dueC_1f hF'
          rw [he] at hP
          have hRe : Rm = (false, flS (nxS M)) := by
            rw [← hE, hqo]; unfold roR
            by_cases hb : nuB M (nI 0) (nI (mK M - 1))
            · have hxx : tolP r S := (tol_iff hB hI hS (by omega) h8).mpr (by rw [← hn]; exact hb)
              have hvn : v < n := by have := hxx.2; rw [j6, hS] at this; exact (nI_ltI (by omega) (by omega)).mp this
              have hv5 : S r 3 = nxS M 513 5 := hB.2.2.2.1 (by rw [nxS_at]; exact hb.1)
              rw [if_pos hb, if_pos hcc, nuS_t hb, ← hv5, hv]; unfold roG
              rw [if_pos]
              rw [nxS_j (by omega), hg8, gb_1 hgv.2.1 (by omega)]
              exact Classical.byContradiction fun z => hx ⟨hxx.1, hxx.2, by rw [(show nn (S 52 0) = gv by rw [hgv.1]; exact nn_of (by have := hgv.2.1; omega)), hv]; exact z⟩
            · rw [if_neg hb, nuS_f hb]
          rw [hRe]; exact IX.mk ⟨FRm.rf, hD.pb⟩ hB hP
        · exact absurd (dueC_1t hT).1 (fun z => absurd z.2.1 (by rw [j6, hS]; exact fun y => absurd ((nI_ltI (by omega) (by omega)).mp y) (by omega)))
      · skip
        refine v_aload_n (pc := 163) 0 dX4_item_163 rfl rfl ?_
        refine gX4_3 (pc := 164) hrr i1 hrN dX4_item_164 ?_
        refine gX4_69 (pc := 167) (by omega) dX4_item_167 ?_
        refine gX4_110 (pc := 170) TB_27 (by omega) dX4_item_170 ?_
        refine v_aload_n (pc := 173) 0 dX4_item_173 rfl rfl ?_
        refine gX4_33 (pc := 174) hrr i1 hrN dX4_item_174 ?_
        refine v_topi (v := nI v) j6 ?_
        refine c_callVi (pc := 177) (st := [.ref (gZ G + r)]) (ci := 6) (ct_J0_get (S := S) (k := 27 + 24) (t := v) (v := gv) (BC_tree TB_27) hgv (by omega) (by omega)) kVX4_114 kDX4_114 (rm_ok hR (Nat.le_of_ble_eq_true rfl) (Nat.le_of_ble_eq_true rfl)) ⟨Nat.zero_le _, Nat.zero_le _⟩ (by omega) ((BC_tree TB_27) G _).1 rfl rfl rfl rfl (Nat.le_of_ble_eq_true rfl) dX4_item_177 ?_
        refine v_if_neB (pc := 180) 187 dX4_item_180 (by decide) (fun c3 => ?_) (fun c3 => ?_)
        · skip
          refine v_iconst (pc := 187) (nI 0) dX4_item_187 (by decide) ?_
          refine v_topi (v := bI (gatP r S)) (bI_f (fun z => z.2.2 (by rw [(show nn (S 52 0) = gv by rw [hgv.1]; exact nn_of (by have := hgv.2.1; omega)), hv]; exact c3))) ?_
          refine c_callXX (pc := 188) (st := []) (kb := r) (ci := 4) (ct_X4_due (P := gatP r S) hrr hrN hI hX) kVX4_65 kDX4_65 (rm_ok hR (Nat.le_of_ble_eq_true rfl) (Nat.le_of_ble_eq_true rfl)) (by rw [hR]; decide) hrN (show hC G _ r = rdE G _ from cO_rd hrr i1) rfl rfl rfl rfl (Nat.le_of_ble_eq_true rfl) dX4_item_188 hout (fun hF' q N' h' hP => ?_) (fun hT => ?_)
          · obtain ⟨hx, he⟩ := dueC_1f hF'
            rw [he] at hP
            have hRe : Rm = (false, flS (nxS M)) := by
              rw [← hE, hqo]; unfold roR
              by_cases hb : nuB M (nI 0) (nI (mK M - 1))
              · have hxx : tolP r S := (tol_iff hB hI hS (by omega) h8).mpr (by rw [← hn]; exact hb)
                have hvn : v < n := by have := hxx.2; rw [j6, hS] at this; exact (nI_ltI (by omega) (by omega)).mp this
                have hv5 : S r 3 = nxS M 513 5 := hB.2.2.2.1 (by rw [nxS_at]; exact hb.1)
                rw [if_pos hb, if_pos hcc, nuS_t hb, ← hv5, hv]; unfold roG
                rw [if_pos]
                rw [nxS_j (by omega), hg8, gb_1 hgv.2.1 (by omega)]
                exact Classical.byContradiction fun z => hx ⟨hxx.1, hxx.2, by rw [(show nn (S 52 0) = gv by rw [hgv.1]; exact nn_of (by have := hgv.2.1; omega)), hv]; exact z⟩
              · rw [if_neg hb, nuS_f hb]
            rw [hRe]; exact IX.mk ⟨FRm.rf, hD.pb⟩ hB hP
          · exact absurd (dueC_1t hT).1 (fun z => z.2.2 (by rw [(show nn (S 52 0) = gv by rw [hgv.1]; exact nn_of (by have := hgv.2.1; omega)), hv]; exact c3))
        · skip
          refine v_iconst (pc := 183) (nI 1) dX4_item_183 (by decide) ?_
          refine v_goto (pc := 184) 188 dX4_item_184 (by decide) ?_
          refine v_topi (v := bI (gatP r S)) (bI_t ⟨by rw [j4, c1], by rw [j6, hS]; exact (nI_ltI (by omega) (by omega)).mpr (by omega), by rw [(show nn (S 52 0) = gv by rw [hgv.1]; exact nn_of (by have := hgv.2.1; omega)), hv]; exact c3⟩) ?_
          refine c_callXX (pc := 188) (st := []) (kb := r) (ci := 4) (ct_X4_due (P := gatP r S) hrr hrN hI hX) kVX4_65 kDX4_65 (rm_ok hR (Nat.le_of_ble_eq_true rfl) (Nat.le_of_ble_eq_true rfl)) (by rw [hR]; decide) hrN (show hC G _ r = rdE G _ from cO_rd hrr i1) rfl rfl rfl rfl (Nat.le_of_ble_eq_true rfl) dX4_item_188 hout (fun hF' q N' h' hP => ?_) (fun hT => ?_)
          · obtain ⟨hx, he⟩ := dueC_1f hF'
            rw [he] at hP
            have hRe : Rm = (false, flS (nxS M)) := by
              rw [← hE, hqo]; unfold roR
              by_cases hb : nuB M (nI 0) (nI (mK M - 1))
              · have hxx : tolP r S := (tol_iff hB hI hS (by omega) h8).mpr (by rw [← hn]; exact hb)
                have hvn : v < n := by have := hxx.2; rw [j6, hS] at this; exact (nI_ltI (by omega) (by omega)).mp this
                have hv5 : S r 3 = nxS M 513 5 := hB.2.2.2.1 (by rw [nxS_at]; exact hb.1)
                rw [if_pos hb, if_pos hcc, nuS_t hb, ← hv5, hv]; unfold roG
                rw [if_pos]
                rw [nxS_j (by omega), hg8, gb_1 hgv.2.1 (by omega)]
                exact Classical.byContradiction fun z => hx ⟨hxx.1, hxx.2, by rw [(show nn (S 52 0) = gv by rw [hgv.1]; exact nn_of (by have := hgv.2.1; omega)), hv]; exact z⟩
              · rw [if_neg hb, nuS_f hb]
            rw [hRe]; exact IX.mk ⟨FRm.rf, hD.pb⟩ hB hP
          · obtain ⟨hx, he⟩ := dueC_1t hT
            have hb : nuB M (nI 0) (nI (mK M - 1)) := by rw [hn]; exact (tol_iff hB hI hS (by omega) h8).mp ⟨hx.1, hx.2.1⟩
            have hvn : v < n := by have := hx.2.1; rw [j6, hS] at this; exact (nI_ltI (by omega) (by omega)).mp this
            have hv5 : S r 3 = nxS M 513 5 := hB.2.2.2.1 (by rw [nxS_at]; exact hb.1)
            refine v_S (show _ = rdDu r (M 514) (mL M) S from congrArg Prod.snd he) ?_
            refine v_topi (v := nI v) j6 ?_
            generalize hGS1 : rdDu r (M 514) (mL M) S = S1
            have hD1 : DIv S1 (nxS M) r := hGS1 ▸ (hD.rd hrr).nx
            have hA1 : LA0 S1 (nxS M) r := hGS1 ▸ hB.du0
            have hF1 : FRm S S1 r := hGS1 ▸ FRm.rd
            have k1 := hD1.2.2.1.1
            have hg1 : BS S1 51 gv := by rw [← hGS1]; exact BS_s1 hgv (by omega) (by omega)
            refine v_istore_n (pc := 191) (lv' := [(2, .int (nI v)), (0, .ref (gZ G + r)), (1, .int (nI w))]) dX4_item_191 rfl (by decide) rfl ?_
            refine v_aload_n (pc := 192) 1 dX4_item_192 rfl rfl ?_
            refine gX4_3 (pc := 193) hrr k1 hrN dX4_item_193 ?_
            refine gX4_69 (pc := 196) (by omega) dX4_item_196 ?_
            refine gX4_110 (pc := 199) TB_27 (by omega) dX4_item_199 ?_
            refine v_iload_n (pc := 202) 0 dX4_item_202 rfl rfl ?_
            refine c_callVv (pc := 203) (st := []) (ci := 6) (ct_J0_set (S := S1) (k := 27 + 24) (t := v) (v := gv) (BC_tree TB_27) hg1 (by omega) (by omega)) kVX4_120 kDX4_120 (rm_ok hR (Nat.le_of_ble_eq_true rfl) (Nat.le_of_ble_eq_true rfl)) ⟨Nat.zero_le _, Nat.zero_le _⟩ (by omega) ((BC_tree TB_27) G _).1 rfl rfl rfl rfl (Nat.le_of_ble_eq_true rfl) dX4_item_203 ?_
            have hD2 := hD1.gat (j := v) hrr (by omega) hg1
            have hA2 := hA1.to (S' := bset S1 51 (gv ||| 2 ^ v)) (M' := s2 (nxS M) 513 8 (nxS M 513 8 ||| (nI 1 <<< (nI v &&& 31)))) (bset_ne (by omega) (by omega)) (s2_nj (by decide)) (s2_nj (by decide)) (s2_nk (by decide))
            have hRe : Rm = (decide (esB (s2 (nxS M) 513 8 (nxS M 513 8 ||| (nI 1 <<< (nI v &&& 31))))), esS (s2 (nxS M) 513 8 (nxS M 513 8 ||| (nI 1 <<< (nI v &&& 31))))) := by
              rw [← hE, hqo]; unfold roR
              rw [if_pos hb, if_pos hcc, nuS_t hb, ← hv5, hv]; unfold roG
              rw [if_neg]
              rw [nxS_j (by omega), hg8, gb_1 hgv.2.1 (by omega)]
              exact c3
            rw [hRe]
            exact v_ok (v_vret (pc := 206) hr (Nat.le_refl _) (Nat.le_refl _) dX4_item_206 ⟨rfl, rfl, _, rfl, IE_es (hF1.tr (FRm.bs hrr)) hD2 hA2⟩)

