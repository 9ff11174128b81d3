set_option maxRecDepth 100000
/-! ScopeTasksModel: what its methods do to a row g (18 places a task, 144 tick, 145 lines, 146.. lines) -/
def rAskL (P : Nat → Int32) (t : Int32) : Nat → Nat → (Nat → Int32) → Nat → Int32
  | 0, _, g => g
  | m + 1, c, g => rAskL P t m (c + 1) (if P c = t ∧ g (18 * c) = nI 1 then upd g (18 * c + 5) (nI 1) else g)
theorem rAskL_t {P : Nat → Int32} {t : Int32} {m c : Nat} {g : Nat → Int32} (h : P c = t ∧ g (18 * c) = nI 1) : rAskL P t (m + 1) c g = rAskL P t m (c + 1) (upd g (18 * c + 5) (nI 1)) := by rw [rAskL, if_pos h]
theorem rAskL_f {P : Nat → Int32} {t : Int32} {m c : Nat} {g : Nat → Int32} (h : ¬ (P c = t ∧ g (18 * c) = nI 1)) : rAskL P t (m + 1) c g = rAskL P t m (c + 1) g := by rw [rAskL, if_neg h]
theorem rAskL_ne {P : Nat → Int32} {t : Int32} {j : Nat} : ∀ (m c : Nat) (g : Nat → Int32), (∀ c', c ≤ c' → c' < c + m → j ≠ 18 * c' + 5) → rAskL P t m c g j = g j := by
  intro m
  induction m with
  | zero => intro c g _; rfl
  | succ m ih =>
    intro c g hj
    rw [rAskL, ih (c + 1) _ (fun c' h1 h2 => hj c' (by omega) (by omega))]
    split
    · exact pk_un (hj c (by omega) (by omega))
    · rfl
abbrev mN (S : ST) : Nat := nn (S 513 15)
def rAsk (S : ST) (t : Int32) (g : Nat → Int32) : Nat → Int32 := rAskL (S 521) t (mN S - 1) 1 g
def rClo (S : ST) (g : Nat → Int32) (t : Nat) (out : Int32) : Nat → Int32 :=
  rTr (if out = 0 ∧ nn (g (18 * t + 9)) = 0 then upd (upd g (18 * t) (nI 2)) (18 * t + 1) out
       else rAsk S (nI t) (upd (upd g (18 * t) (nI 2)) (18 * t + 1) (if out = 0 then nI 1 else out))) (nI t) (nI 1)
def rBeg (S : ST) (g : Nat → Int32) (t : Nat) : Nat → Int32 :=
  rTr (upd (upd (upd g (18 * t) (nI 1)) (18 * t + 4)
    (if (if S 524 t = nI 99 then nI 9999 else g 144 + S 524 t) < g (18 * nn (S 521 t) + 4) then (if S 524 t = nI 99 then nI 9999 else g 144 + S 524 t) else g (18 * nn (S 521 t) + 4))) (18 * t + 7) (g 144)) (nI t) (nI 0)
def rBCL (S : ST) (t : Int32) : Nat → Nat → (Nat → Int32) → Nat → Int32
  | 0, _, g => g
  | m + 1, c, g => if S 521 c = t ∧ g (18 * c) = nI 0 then rBeg S g c else rBCL S t m (c + 1) g
def rBC (S : ST) (t : Int32) (g : Nat → Int32) : Nat → Int32 := rBCL S t (mN S - 1) 1 g
/-- whether one of the children 1 .. m runs or closes -/
def rBu (P : Nat → Int32) (t : Int32) (g : Nat → Int32) : Nat → Bool
  | 0 => false
  | m + 1 => rBu P t g m || (decide (P (m + 1) = t) && (decide (g (18 * (m + 1)) = nI 1) || decide (g (18 * (m + 1)) = nI 2)))
abbrev rBusy (S : ST) (t : Int32) (g : Nat → Int32) : Prop := rBu (S 521) t g (mN S - 1) = true
def rWk (S : ST) (g : Nat → Int32) (t : Nat) : Nat → Int32 :=
  if S 523 (12 * t + 2 * nn (g (18 * t + 2))) = nI 119 then
    (if g (18 * t + 3) + nI 1 = S 523 (12 * t + 2 * nn (g (18 * t + 2)) + 1) then upd (upd (upd g (18 * t + 3) (g (18 * t + 3) + nI 1)) (18 * t + 3) (nI 0)) (18 * t + 2) (g (18 * t + 2) + nI 1)
     else upd g (18 * t + 3) (g (18 * t + 3) + nI 1))
  else if S 523 (12 * t + 2 * nn (g (18 * t + 2))) = nI 98 then rBC S (nI t) (upd g (18 * t + 2) (g (18 * t + 2) + nI 1))
  else if S 523 (12 * t + 2 * nn (g (18 * t + 2))) = nI 106 then upd g (18 * t + 2) (g (18 * t + 2) + (if rBusy S (nI t) g then nI 0 else nI 1))
  else if S 523 (12 * t + 2 * nn (g (18 * t + 2))) = nI 120 then rAsk S (nI t) (upd g (18 * t + 2) (g (18 * t + 2) + nI 1))
  else rClo S (rCo g t (S 523 (12 * t + 2 * nn (g (18 * t + 2)) + 1))) t (nI 1)
def rMv (S : ST) (g : Nat → Int32) (t : Nat) : Nat → Int32 :=
  if g (18 * t + 5) = nI 1 ∧ ¬ g (18 * t + 2) < S 525 t then rClo S g t (nI 2) else if g (18 * t + 2) = S 522 t then rClo S g t (nI 0) else rWk S g t
def rGvL (t p : Nat) : Nat → Nat → (Nat → Int32) → Nat → Int32
  | 0, _, g => g
  | m + 1, k, g => rGvL t p m (k + 1) (rCo g p (g (18 * t + (10 + k))))
/-- what comes of a list that was given to p -/
def rGv2 (S : ST) (g : Nat → Int32) (p : Nat) : Nat → Int32 :=
  if g (18 * p) = nI 1 ∧ (S 513 16 >>> (nI p &&& 31)) &&& nI 1 = 0 then rClo S g p (nI 1) else if g (18 * p) = nI 2 ∧ g (18 * p + 1) = 0 then rAsk S (nI p) (upd g (18 * p + 1) (nI 1)) else g
def rGv (S : ST) (g : Nat → Int32) (t : Nat) : Nat → Int32 := rGv2 S (rGvL t (nn (S 521 t)) (nn (g (18 * t + 9))) 0 g) (nn (S 521 t))
def rCl2 (S : ST) (g : Nat → Int32) (t : Nat) : Nat → Int32 :=
  if 0 < t ∧ (g (18 * t + 1) = nI 1 ∨ g (18 * t + 1) = nI 3) then rGv S g t else g
def rCl1 (S : ST) (g : Nat → Int32) (t : Nat) : Nat → Int32 :=
  if g (18 * t + 6) = S 526 t then rCl2 S (rTr (upd (upd g (18 * t) (nI 3)) (18 * t + 8) (g 144)) (nI t) (nI 2)) t else g
def rCl (S : ST) (g : Nat → Int32) (t : Nat) : Nat → Int32 := rCl1 S (if g (18 * t + 6) < S 526 t then upd g (18 * t + 6) (g (18 * t + 6) + nI 1) else g) t
def rT1 (S : ST) (g : Nat → Int32) (t : Nat) : Nat → Int32 := if g (18 * t) = nI 1 ∧ g (18 * t + 4) < g 144 then rClo S (rCo g t (nI 10)) t (nI 3) else g
def rT2 (S : ST) (g : Nat → Int32) (t : Nat) : Nat → Int32 := if g (18 * t) = nI 1 ∧ (t = 0 ∨ g (18 * t + 7) < g 144) then rMv S g t else g
def rT3 (S : ST) (g : Nat → Int32) (t : Nat) : Nat → Int32 := if g (18 * t) = nI 2 ∧ ¬ rBusy S (nI t) g then rCl S g t else g
/-- tasks t, t + 1 .. one behind another -/
def rUp (f : (Nat → Int32) → Nat → Nat → Int32) : Nat → Nat → (Nat → Int32) → Nat → Int32
  | 0, _, g => g
  | m + 1, t, g => rUp f m (t + 1) (f g t)
/-- tasks m - 1, m - 2 .. 0 -/
def rDn (f : (Nat → Int32) → Nat → Nat → Int32) : Nat → (Nat → Int32) → Nat → Int32
  | 0, g => g
  | m + 1, g => rDn f m (f g m)
def rTick (S : ST) (g : Nat → Int32) : Nat → Int32 := rDn (rT3 S) (mN S) (rUp (rT2 S) (mN S) 0 (rUp (rT1 S) (mN S) 0 (upd g 144 (g 144 + nI 1))))
/-! what holds of a row all through -/
def RI (g : Nat → Int32) : Prop := inN (g 145) 60 ∧ ∀ t, t < 8 → inN (g (18 * t + 2)) 6 ∧ inN (g (18 * t + 9)) 8
def MI (S : ST) : Prop := inN (S 513 15) 8 ∧ 1 ≤ mN S ∧ (∀ c, 0 < c → c < mN S → inN (S 521 c) 7 ∧ nn (S 521 c) < c) ∧ ∀ t, t < mN S → inN (S 522 t) 6
theorem nI_nat1 {v : Int32} {k : Nat} (e : v = nI k) : v + nI 1 = nI (k + 1) := by rw [e, nI_add]
theorem RI.up {g : Nat → Int32} (h : RI g) {j : Nat} {v : Int32} (h1 : j ≠ 145) (h2 : ∀ t, t < 8 → j ≠ 18 * t + 2) (h3 : ∀ t, t < 8 → j ≠ 18 * t + 9) : RI (upd g j v) := by
  refine ⟨by rw [pk_un (Ne.symm h1)]; exact h.1, fun t ht => ?_⟩
  rw [pk_un (Ne.symm (h2 t ht)), pk_un (Ne.symm (h3 t ht))]
  exact h.2 t ht
theorem RI.up2 {g : Nat → Int32} (h : RI g) {t : Nat} {v : Int32} (ht : t < 8) (hv : inN v 6) : RI (upd g (18 * t + 2) v) := by
  refine ⟨by rw [pk_un (by omega)]; exact h.1, fun q hq => ?_⟩
  rw [pk_un (by omega : 18 * q + 9 ≠ 18 * t + 2)]
  refine ⟨?_, (h.2 q hq).2⟩
  by_cases e : q = t
  · subst e; rw [pk_us]; exact hv
  · rw [pk_un (by omega)]; exact (h.2 q hq).1
theorem RI_rTr {g : Nat → Int32} (h : RI g) (t w : Int32) : RI (rTr g t w) := by
  unfold rTr
  split
  next c =>
    obtain ⟨e, b⟩ := h.1
    have hk : nn (g 145) < 60 := by rw [e] at c; exact (nI_ltI (by omega) (by decide)).mp c
    refine ⟨?_, fun q hq => ?_⟩
    · rw [pk_us]; exact inN.of (nI_nat1 e) (by omega) (by decide)
    · rw [pk_un (by omega), pk_un (by omega), pk_un (by omega), pk_un (by omega), pk_un (by omega), pk_un (by omega), pk_un (by omega), pk_un (by omega)]
      exact h.2 q hq
  next => exact h
theorem RI_rCo {g : Nat → Int32} (h : RI g) {t : Nat} (ht : t < 8) (code : Int32) : RI (rCo g t code) := by
  unfold rCo
  split
  next c =>
    obtain ⟨e, b⟩ := (h.2 t ht).2
    have hk : nn (g (18 * t + 9)) < 8 := by rw [e] at c; exact (nI_ltI (by omega) (by decide)).mp c
    refine ⟨?_, fun q hq => ?_⟩
    · rw [pk_un (by omega), pk_un (by omega)]; exact h.1
    · refine ⟨by rw [pk_un (by omega), pk_un (by omega)]; exact (h.2 q hq).1, ?_⟩
      by_cases eq : q = t
      · subst eq; rw [pk_us]; exact inN.of (nI_nat1 e) (by omega) (by decide)
      · rw [pk_un (by omega), pk_un (by omega)]; exact (h.2 q hq).2
  next => exact h
theorem RI_rAskL {P : Nat → Int32} {t : Int32} : ∀ (m c : Nat) (g : Nat → Int32), c + m ≤ 8 → RI g → RI (rAskL P t m c g) := by
  intro m
  induction m with
  | zero => intro c g _ h; exact h
  | succ m ih =>
    intro c g hc h
    rw [rAskL]
    refine ih (c + 1) _ (by omega) ?_
    split
    · exact h.up (by omega) (fun t _ => by omega) (fun t _ => by omega)
    · exact h
theorem MI.n {S : ST} (h : MI S) : mN S ≤ 8 := h.1.2
theorem RI_rAsk {S : ST} (hS : MI S) {g : Nat → Int32} (h : RI g) (t : Int32) : RI (rAsk S t g) := RI_rAskL _ _ _ (by have := hS.n; have := hS.2.1; omega) h
theorem RI_rClo {S : ST} (hS : MI S) {g : Nat → Int32} (h : RI g) {t : Nat} (ht : t < 8) (out : Int32) : RI (rClo S g t out) := by
  unfold rClo
  refine RI_rTr ?_ _ _
  split
  · exact (h.up (by omega) (fun q _ => by omega) (fun q _ => by omega)).up (by omega) (fun q _ => by omega) (fun q _ => by omega)
  · exact RI_rAsk hS ((h.up (by omega) (fun q _ => by omega) (fun q _ => by omega)).up (by omega) (fun q _ => by omega) (fun q _ => by omega)) _
theorem RI_rBeg {S : ST} {g : Nat → Int32} (h : RI g) {t : Nat} (ht : t < 8) : RI (rBeg S g t) := by
  unfold rBeg
  refine RI_rTr ?_ _ _
  exact ((h.up (by omega) (fun q _ => by omega) (fun q _ => by omega)).up (by omega) (fun q _ => by omega) (fun q _ => by omega)).up (by omega) (fun q _ => by omega) (fun q _ => by omega)
theorem RI_rBCL {S : ST} {t : Int32} : ∀ (m c : Nat) (g : Nat → Int32), c + m ≤ 8 → RI g → RI (rBCL S t m c g) := by
  intro m
  induction m with
  | zero => intro c g _ h; exact h
  | succ m ih =>
    intro c g hc h
    rw [rBCL]
    split
    · exact RI_rBeg h (by omega)
    · exact ih (c + 1) g (by omega) h
theorem RI_rWk {S : ST} (hS : MI S) {g : Nat → Int32} (h : RI g) {t : Nat} (ht : t < 8) (hb : nn (g (18 * t + 2)) < 6) : RI (rWk S g t) := by
  have e := (h.2 t ht).1.1
  have h1 : inN (g (18 * t + 2) + nI 1) 6 := inN.of (nI_nat1 e) (by omega) (by decide)
  have hn := hS.n
  have hn1 := hS.2.1
  unfold rWk
  split
  · split
    · have h3 := ((h.up (j := 18 * t + 3) (v := g (18 * t + 3) + nI 1) (by omega) (fun q _ => by omega) (fun q _ => by omega)).up (j := 18 * t + 3) (v := nI 0) (by omega) (fun q _ => by omega) (fun q _ => by omega))
      exact h3.up2 ht h1
    · exact h.up (by omega) (fun q _ => by omega) (fun q _ => by omega)
  · split
    · exact RI_rBCL _ _ _ (by omega) (h.up2 ht h1)
    · split
      · refine h.up2 ht ?_
        split
        · rw [e, nI_add]; exact inN_nI (by omega) (by decide)
        · exact h1
      · split
        · exact RI_rAsk hS (h.up2 ht h1) _
        · exact RI_rClo hS (RI_rCo h ht _) ht _
theorem RI_rMv {S : ST} (hS : MI S) {g : Nat → Int32} (h : RI g) {t : Nat} (ht : t < mN S) (hle : nn (g (18 * t + 2)) ≤ nn (S 522 t)) : RI (rMv S g t) := by
  have hn := hS.n
  unfold rMv
  split
  · exact RI_rClo hS h (by omega) _
  · split
    · exact RI_rClo hS h (by omega) _
    · next c =>
      have a1 := (h.2 t (by omega)).1.1
      have a2 := hS.2.2.2 t ht
      refine RI_rWk hS h (by omega) ?_
      rcases Nat.lt_or_ge (nn (g (18 * t + 2))) 6 with q | q
      · exact q
      · exact absurd (by rw [a1, a2.1, show nn (g (18 * t + 2)) = nn (S 522 t) by have := a2.2; omega]) c
theorem RI_rGvL {t p : Nat} (hp : p < 8) : ∀ (m k : Nat) (g : Nat → Int32), RI g → RI (rGvL t p m k g) := by
  intro m
  induction m with
  | zero => intro k g h; exact h
  | succ m ih => intro k g h; rw [rGvL]; exact ih _ _ (RI_rCo h hp _)
theorem RI_rGv2 {S : ST} (hS : MI S) {g : Nat → Int32} (h : RI g) {p : Nat} (hp : p < 8) : RI (rGv2 S g p) := by
  unfold rGv2
  split
  · exact RI_rClo hS h hp _
  · split
    · exact RI_rAsk hS (h.up (by omega) (fun q _ => by omega) (fun q _ => by omega)) _
    · exact h
theorem RI_rGv {S : ST} (hS : MI S) {g : Nat → Int32} (h : RI g) {t : Nat} (h0 : 0 < t) (ht : t < mN S) : RI (rGv S g t) := by
  have := hS.2.2.1 t h0 ht
  have hp : nn (S 521 t) < 8 := by have := this.1.2; omega
  exact RI_rGv2 hS (RI_rGvL hp _ _ _ h) hp
theorem RI_rCl {S : ST} (hS : MI S) {g : Nat → Int32} (h : RI g) {t : Nat} (ht : t < mN S) : RI (rCl S g t) := by
  have hn := hS.n
  have key : ∀ g : Nat → Int32, RI g → RI (rCl1 S g t) := by
    intro g h
    unfold rCl1
    split
    · have h2 : RI (rTr (upd (upd g (18 * t) (nI 3)) (18 * t + 8) (g 144)) (nI t) (nI 2)) := RI_rTr ((h.up (by omega) (fun q _ => by omega) (fun q _ => by omega)).up (by omega) (fun q _ => by omega) (fun q _ => by omega)) _ _
      unfold rCl2
      split
      · next c => exact RI_rGv hS h2 c.1 ht
      · exact h2
    · exact h
  unfold rCl
  refine key _ ?_
  split
  · exact h.up (by omega) (fun q _ => by omega) (fun q _ => by omega)
  · exact h
