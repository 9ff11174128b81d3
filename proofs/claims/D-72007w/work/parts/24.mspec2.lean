set_option maxRecDepth 100000
/-! rows: the place 'operations behind' stays below the size; starting, going on -/
theorem rTr_lt {g : Nat → Int32} {t w : Int32} {j : Nat} (h : j < 145) : rTr g t w j = g j := by
  unfold rTr
  split
  · rw [pk_un (by omega), pk_un (by omega), pk_un (by omega), pk_un (by omega)]
  · rfl
theorem rAsk_ne {S : ST} (hS : MI S) {g : Nat → Int32} {t : Int32} {j : Nat} (h : ∀ c, 1 ≤ c → c < mN S → j ≠ 18 * c + 5) : rAsk S t g j = g j := rAskL_ne _ _ _ (fun c' h1 h2 => h c' h1 (by have := hS.2.1; omega))
theorem rClo_ne {S : ST} (hS : MI S) {g : Nat → Int32} {t j : Nat} {out : Int32} (h : j < 145) (h0 : j ≠ 18 * t) (h1 : j ≠ 18 * t + 1) (h5 : ∀ c, 1 ≤ c → c < mN S → j ≠ 18 * c + 5) : rClo S g t out j = g j := by
  unfold rClo
  rw [rTr_lt h]
  split
  · rw [pk_un h1, pk_un h0]
  · rw [rAsk_ne hS h5, pk_un h1, pk_un h0]
theorem rBeg_ne {S : ST} {g : Nat → Int32} {t j : Nat} (h : j < 145) (h0 : j ≠ 18 * t) (h1 : j ≠ 18 * t + 4) (h2 : j ≠ 18 * t + 7) : rBeg S g t j = g j := by
  unfold rBeg
  rw [rTr_lt h, pk_un h2, pk_un h1, pk_un h0]
theorem rBCL_ne {S : ST} {t : Int32} {g : Nat → Int32} {j : Nat} (h : j < 145) : ∀ (m c : Nat), (∀ c', c ≤ c' → c' < c + m → j ≠ 18 * c' ∧ j ≠ 18 * c' + 4 ∧ j ≠ 18 * c' + 7) → rBCL S t m c g j = g j := by
  intro m
  induction m with
  | zero => intro c _; rfl
  | succ m ih =>
    intro c hc
    rw [rBCL]
    split
    · obtain ⟨a, b, d⟩ := hc c (by omega) (by omega)
      exact rBeg_ne h a b d
    · exact ih (c + 1) (fun c' h1 h2 => hc c' (by omega) (by omega))
theorem rGvL_ne {t p j : Nat} (hp : p < 8) (h1 : j < 18 * p + 9 ∨ 18 * p + 18 ≤ j) : ∀ (m k : Nat) (g : Nat → Int32), RI g → rGvL t p m k g j = g j := by
  intro m
  induction m with
  | zero => intro k g _; rfl
  | succ m ih =>
    intro k g h
    rw [rGvL, ih (k + 1) _ (RI_rCo h hp _), rCo_ne (h.2 p hp).2 h1]
theorem rGv2_ne {S : ST} (hS : MI S) {g : Nat → Int32} {p j : Nat} (h : j < 145) (h0 : j ≠ 18 * p) (h1 : j ≠ 18 * p + 1) (h5 : ∀ c, 1 ≤ c → c < mN S → j ≠ 18 * c + 5) : rGv2 S g p j = g j := by
  unfold rGv2
  split
  · exact rClo_ne hS h h0 h1 h5
  · split
    · rw [rAsk_ne hS h5, pk_un h1]
    · rfl
theorem rGv_ne {S : ST} (hS : MI S) {g : Nat → Int32} (hI : RI g) {t j : Nat} (h0 : 0 < t) (ht : t < mN S) (h : j < 145) (hj : j ≠ 18 * nn (S 521 t)) (hj1 : j ≠ 18 * nn (S 521 t) + 1) (h9 : j < 18 * nn (S 521 t) + 9 ∨ 18 * nn (S 521 t) + 18 ≤ j) (h5 : ∀ c, 1 ≤ c → c < mN S → j ≠ 18 * c + 5) : rGv S g t j = g j := by
  have hp := hS.2.2.1 t h0 ht
  have := hp.1.2
  unfold rGv
  rw [rGv2_ne hS h hj hj1 h5, rGvL_ne (by omega) h9 _ _ _ hI]
def RJ (S : ST) (g : Nat → Int32) : Prop := RI g ∧ ∀ t, t < mN S → nn (g (18 * t + 2)) ≤ nn (S 522 t)
theorem RJ.to {S : ST} {g g' : Nat → Int32} (h : RJ S g) (hI : RI g') (e : ∀ t, t < mN S → g' (18 * t + 2) = g (18 * t + 2)) : RJ S g' := ⟨hI, fun t ht => by rw [e t ht]; exact h.2 t ht⟩
theorem RJ_144 {S : ST} {g : Nat → Int32} (hS : MI S) (h : RJ S g) (v : Int32) : RJ S (upd g 144 v) := h.to (h.1.up (by omega) (fun q _ => by omega) (fun q _ => by omega)) (fun t ht => by have := hS.n; rw [pk_un (by omega)])
theorem RJ_rT1 {S : ST} (hS : MI S) {g : Nat → Int32} (h : RJ S g) {t : Nat} (ht : t < mN S) : RJ S (rT1 S g t) := by
  have hn := hS.n
  unfold rT1
  split
  · refine h.to (RI_rClo hS (RI_rCo h.1 (by omega) _) (by omega) _) (fun q hq => ?_)
    rw [rClo_ne hS (by omega) (by omega) (by omega) (fun c _ _ => by omega), rCo_ne (h.1.2 t (by omega)).2 (by omega)]
  · exact h
theorem rWk_2 {S : ST} (hS : MI S) {g : Nat → Int32} (hI : RI g) {t q : Nat} (ht : t < 8) (hq : q < 8) : nn (rWk S g t (18 * q + 2)) ≤ nn (g (18 * q + 2)) + (if q = t then 1 else 0) := by
  have hn := hS.n
  have hn1 := hS.2.1
  have hb := (hI.2 t ht).1
  have h1 : nn (g (18 * t + 2) + nI 1) = nn (g (18 * t + 2)) + 1 := by
    rw [nI_nat1 hb.1]; exact nn_nI (by have := hb.2; omega)
  have key : ∀ v, nn v ≤ nn (g (18 * t + 2)) + 1 → nn (upd g (18 * t + 2) v (18 * q + 2)) ≤ nn (g (18 * q + 2)) + (if q = t then 1 else 0) := by
    intro v hv
    by_cases e : q = t
    · subst e; rw [pk_us, if_pos rfl]; exact hv
    · rw [pk_un (by omega)]; omega
  unfold rWk
  split
  · split
    · by_cases e : q = t
      · subst e; rw [pk_us, if_pos rfl]; omega
      · rw [pk_un (by omega), pk_un (by omega), pk_un (by omega)]; omega
    · rw [pk_un (by omega)]; omega
  · split
    · unfold rBC
      rw [rBCL_ne (by omega) _ _ (fun c' _ _ => by omega)]
      exact key _ (by omega)
    · split
      · refine key _ ?_
        split
        · rw [hb.1, nI_add, nn_nI (by have := hb.2; omega), nn_nI (by have := hb.2; omega)]; omega
        · omega
      · split
        · rw [rAsk_ne hS (fun c _ _ => by omega)]
          exact key _ (by omega)
        · rw [rClo_ne hS (by omega) (by omega) (by omega) (fun c _ _ => by omega), rCo_ne (hI.2 t ht).2 (by omega)]; omega
theorem RJ_rT2 {S : ST} (hS : MI S) {g : Nat → Int32} (h : RJ S g) {t : Nat} (ht : t < mN S) : RJ S (rT2 S g t) := by
  have hn := hS.n
  unfold rT2
  split
  · refine ⟨RI_rMv hS h.1 ht (h.2 t ht), fun q hq => ?_⟩
    have hq2 := h.2 q hq
    unfold rMv
    split
    · rw [rClo_ne hS (by omega) (by omega) (by omega) (fun c _ _ => by omega)]; exact hq2
    · split
      · rw [rClo_ne hS (by omega) (by omega) (by omega) (fun c _ _ => by omega)]; exact hq2
      · next c =>
        have := rWk_2 hS h.1 (t := t) (q := q) (by omega) (by omega)
        by_cases e : q = t
        · subst e
          rw [if_pos rfl] at this
          have a1 := (h.1.2 q (by omega)).1.1
          have a2 := hS.2.2.2 q ht
          have : nn (g (18 * q + 2)) ≠ nn (S 522 q) := fun z => c (by rw [a1, a2.1, z])
          omega
        · rw [if_neg e] at this
          omega
  · exact h
theorem rCl_2 {S : ST} (hS : MI S) {g : Nat → Int32} (hI : RI g) {t q : Nat} (ht : t < mN S) (hq : q < 8) : rCl S g t (18 * q + 2) = g (18 * q + 2) := by
  have hn := hS.n
  have key : ∀ g : Nat → Int32, RI g → rCl1 S g t (18 * q + 2) = g (18 * q + 2) := by
    intro g hI
    unfold rCl1
    split
    · have e2 : rTr (upd (upd g (18 * t) (nI 3)) (18 * t + 8) (g 144)) (nI t) (nI 2) (18 * q + 2) = g (18 * q + 2) := by
        rw [rTr_lt (by omega), pk_un (by omega), pk_un (by omega)]
      have hI2 : RI (rTr (upd (upd g (18 * t) (nI 3)) (18 * t + 8) (g 144)) (nI t) (nI 2)) := RI_rTr (RI.up (RI.up hI (by omega) (fun q _ => by omega) (fun q _ => by omega)) (by omega) (fun q _ => by omega) (fun q _ => by omega)) _ _
      unfold rCl2
      split
      · next c => rw [rGv_ne hS hI2 c.1 ht (by omega) (by omega) (by omega) (by omega) (fun c _ _ => by omega)]; exact e2
      · exact e2
    · rfl
  unfold rCl
  split
  · rw [key _ (RI.up hI (by omega) (fun q _ => by omega) (fun q _ => by omega)), pk_un (by omega)]
  · exact key _ hI
theorem RJ_rT3 {S : ST} (hS : MI S) {g : Nat → Int32} (h : RJ S g) {t : Nat} (ht : t < mN S) : RJ S (rT3 S g t) := by
  have hn := hS.n
  unfold rT3
  split
  · exact h.to (RI_rCl hS h.1 ht) (fun q hq => rCl_2 hS h.1 ht (by omega))
  · exact h
theorem RJ_rUp {S : ST} {f : (Nat → Int32) → Nat → Nat → Int32} (hf : ∀ g t, t < mN S → RJ S g → RJ S (f g t)) : ∀ (m t : Nat) (g : Nat → Int32), t + m = mN S → RJ S g → RJ S (rUp f m t g) := by
  intro m
  induction m with
  | zero => intro t g _ h; exact h
  | succ m ih => intro t g ht h; rw [rUp]; exact ih (t + 1) _ (by omega) (hf g t (by omega) h)
theorem RJ_rDn {S : ST} {f : (Nat → Int32) → Nat → Nat → Int32} (hf : ∀ g t, t < mN S → RJ S g → RJ S (f g t)) : ∀ (m : Nat) (g : Nat → Int32), m ≤ mN S → RJ S g → RJ S (rDn f m g) := by
  intro m
  induction m with
  | zero => intro g _ h; exact h
  | succ m ih => intro g hm h; rw [rDn]; exact ih _ (by omega) (hf g m (by omega) h)
theorem RJ_rTick {S : ST} (hS : MI S) {g : Nat → Int32} (h : RJ S g) : RJ S (rTick S g) := by
  unfold rTick
  refine RJ_rDn (fun g t ht h => RJ_rT3 hS h ht) _ _ (Nat.le_refl _) ?_
  refine RJ_rUp (fun g t ht h => RJ_rT2 hS h ht) _ _ _ (by omega) ?_
  refine RJ_rUp (fun g t ht h => RJ_rT1 hS h ht) _ _ _ (by omega) ?_
  exact RJ_144 hS h _
/-- so many ticks, till the root is ended -/
def rGo (S : ST) : Nat → (Nat → Int32) → Nat → Int32
  | 0, g => g
  | m + 1, g => if g 0 = nI 3 then g else rGo S m (rTick S g)
theorem RJ_rGo {S : ST} (hS : MI S) : ∀ (m : Nat) (g : Nat → Int32), RJ S g → RJ S (rGo S m g) := by
  intro m
  induction m with
  | zero => intro g h; exact h
  | succ m ih =>
    intro g h
    rw [rGo]
    split
    · exact h
    · exact ih _ (RJ_rTick hS h)
/-- a row at its start -/
def rStL : Nat → Nat → (Nat → Int32) → Nat → Int32
  | 0, _, g => g
  | m + 1, t, g => rStL m (t + 1) (upd (upd g (18 * t + 1) (-9)) (18 * t + 8) (-9))
def rSt (S : ST) : Nat → Int32 := upd (upd (rStL 8 0 (fun _ => nI 0)) 0 (nI 1)) 4 (if S 524 0 = nI 99 then nI 9999 else S 524 0)
theorem rStL_ne {j : Nat} (hj : ∀ t, j ≠ 18 * t + 1 ∧ j ≠ 18 * t + 8) : ∀ (m t : Nat) (g : Nat → Int32), rStL m t g j = g j := by
  intro m
  induction m with
  | zero => intro t g; rfl
  | succ m ih => intro t g; rw [rStL, ih, pk_un (hj t).2, pk_un (hj t).1]
theorem RJ_rSt {S : ST} (hS : MI S) : RJ S (rSt S) := by
  have e : ∀ j, (∀ t, j ≠ 18 * t + 1 ∧ j ≠ 18 * t + 8) → j ≠ 0 → j ≠ 4 → rSt S j = nI 0 := by
    intro j h h0 h4
    unfold rSt
    rw [pk_un h4, pk_un h0, rStL_ne h]
  have z : nn (nI 0) = 0 := nn_nI (by decide)
  refine ⟨⟨?_, fun t ht => ⟨?_, ?_⟩⟩, fun t ht => ?_⟩
  · have : rSt S 145 = nI 0 := by
      unfold rSt
      rw [pk_un (by omega), pk_un (by omega)]
      have : ∀ (m t : Nat) (g : Nat → Int32), t + m ≤ 8 → rStL m t g 145 = g 145 := by
        intro m
        induction m with
        | zero => intro t g _; rfl
        | succ m ih => intro t g h; rw [rStL, ih _ _ (by omega), pk_un (by omega), pk_un (by omega)]
      rw [this 8 0 _ (by omega)]
    rw [this]; exact inN_nI (by omega) (by decide)
  · rw [e _ (fun q => by omega) (by omega) (by omega)]; exact inN_nI (by omega) (by decide)
  · rw [e _ (fun q => by omega) (by omega) (by omega)]; exact inN_nI (by omega) (by decide)
  · rw [e _ (fun q => by omega) (by omega) (by omega), z]; exact Nat.zero_le _
/-! a row of V: what lies beyond an array's length doesn't count -/
theorem at_ext {D : va_G} {q : Nat} {c : ClassId} {n : Nat} {f g : Nat → Int32} {H : Heap} (e : ∀ j, j < n → f j = g j) (h : va_at D clX (q, .inl (c, n, .inl f)) H) : va_at D clX (q, .inl (c, n, .inl g)) H := by
  show H[q]? = some (vp_cell c (n, .inl g))
  have h : H[q]? = some (vp_cell c (n, .inl f)) := h
  rw [h, vp_cell_i, vp_cell_i]
  congr 1
  unfold arrV
  congr 1
  congr 1
  funext j
  show Value.int (f j.val) = Value.int (g j.val)
  rw [e j.val j.isLt]
theorem v_row {G : GT} {x : VX} {own : String} {cc : ByteArray} {nL : Nat} {Q : State → Prop} {lv : List (Nat × Value)} {st : List Value} {N : Nat} {S : ST} {a b : Nat} {pc k n : Nat} {f g : Nat → Int32} (hk : IA k n) (e : ∀ j, j < n → f j = g j) (kk : V G x own cc nL Q pc lv st N (hC G (s1 S k g)) a b) : V G x own cc nL Q pc lv st N (hC G (s1 S k f)) a b := by
  intro C H locs ls w s l
  refine kk C H locs ls ⟨w.1, hp_P.mpr fun j hj => ?_⟩ s l
  have h1 := hp_P.mp w.2 j hj
  by_cases hjk : j = k
  · subst hjk
    have e1 : hC G (s1 S j f) j = iA G n f := by unfold hC; rw [s1_at]; exact hk G f
    have e2 : hC G (s1 S j g) j = iA G n g := by unfold hC; rw [s1_at]; exact hk G g
    rw [e1] at h1
    rw [e2]
    exact at_ext e h1
  · have e1 : hC G (s1 S k f) j = hC G (s1 S k g) j := by unfold hC; rw [s1_ne hjk, s1_ne hjk]
    rw [← e1]
    exact h1
theorem dec1 (m : Nat) : nI (m + 1) + Int32.ofInt (-1) = nI m := pk_m1 m
