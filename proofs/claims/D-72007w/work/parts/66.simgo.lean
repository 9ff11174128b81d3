set_option maxRecDepth 100000
/-! what is ended stays; when it ends; going on -/
def En1 (q : Nat) (r r' : Nat → Int32) : Prop := r' 144 = r 144 ∧ (r (18 * q) = nI 3 → r' (18 * q) = nI 3 ∧ r' (18 * q + 1) = r (18 * q + 1) ∧ r' (18 * q + 8) = r (18 * q + 8)) ∧ (¬ r (18 * q) = nI 3 → r' (18 * q) = nI 3 → r' (18 * q + 8) = r 144)
theorem En1.same {q : Nat} {r r' : Nat → Int32} (h4 : r' 144 = r 144) (h0 : r' (18 * q) = r (18 * q)) (h1 : r' (18 * q + 1) = r (18 * q + 1)) (h8 : r' (18 * q + 8) = r (18 * q + 8)) : En1 q r r' := ⟨h4, fun e => ⟨h0.trans e, h1, h8⟩, fun n e => absurd (h0.symm.trans e) n⟩
theorem En1.refl {q : Nat} {r : Nat → Int32} : En1 q r r := En1.same rfl rfl rfl rfl
theorem En1.trans {q : Nat} {r s u : Nat → Int32} (a : En1 q r s) (b : En1 q s u) : En1 q r u := by
  refine ⟨b.1.trans a.1, fun e => ?_, fun n e => ?_⟩
  · obtain ⟨x1, x2, x3⟩ := a.2.1 e
    obtain ⟨y1, y2, y3⟩ := b.2.1 x1
    exact ⟨y1, y2.trans x2, y3.trans x3⟩
  · by_cases k : s (18 * q) = nI 3
    · rw [(b.2.1 k).2.2]; exact a.2.2 n k
    · rw [b.2.2 k e, a.1]
theorem En1.off {q : Nat} {r r' : Nat → Int32} (h4 : r' 144 = r 144) (n : ¬ r (18 * q) = nI 3) (n' : ¬ r' (18 * q) = nI 3) : En1 q r r' := ⟨h4, fun e => absurd e n, fun _ e => absurd e n'⟩
theorem En1_clo {M : ST} (hM : MI M) {g : Nat → Int32} {t q : Nat} (ht : t < 8) (hq : q < 8) (hn : ¬ g (18 * t) = nI 3) (o : Int32) : En1 q g (rClo M g t o) := by
  have h8 := hM.n
  by_cases e : q = t
  · subst e
    exact En1.off (rClo_144 hM ht o) hn (by rw [rClo_how hM ht]; decide)
  · exact En1.same (rClo_144 hM ht o) (rClo_ne hM (by omega) (by omega) (by omega) (fun c _ _ => by omega)) (rClo_ne hM (by omega) (by omega) (by omega) (fun c _ _ => by omega)) (rClo_ne hM (by omega) (by omega) (by omega) (fun c _ _ => by omega))
theorem En1_co {g : Nat → Int32} {t q : Nat} (ht : t < 8) (hq : q < 8) (h9 : inN (g (18 * t + 9)) 8) (v : Int32) : En1 q g (rCo g t v) := En1.same (rCo_ne h9 (by omega)) (rCo_ne h9 (by omega)) (rCo_ne h9 (by omega)) (rCo_ne h9 (by omega))
theorem En1_ask {M : ST} (hM : MI M) {g : Nat → Int32} {q : Nat} (hq : q < 8) (t : Int32) : En1 q g (rAsk M t g) := by
  have h8 := hM.n
  exact En1.same (rAsk_ne hM (fun c _ _ => by omega)) (rAsk_ne hM (fun c _ _ => by omega)) (rAsk_ne hM (fun c _ _ => by omega)) (rAsk_ne hM (fun c _ _ => by omega))
theorem En1_up {g : Nat → Int32} {q j : Nat} {v : Int32} (h4 : j ≠ 144) (h0 : j ≠ 18 * q) (h1 : j ≠ 18 * q + 1) (h8 : j ≠ 18 * q + 8) : En1 q g (upd g j v) := En1.same (pk_un (Ne.symm h4)) (pk_un (Ne.symm h0)) (pk_un (Ne.symm h1)) (pk_un (Ne.symm h8))
theorem En1_beg {M : ST} {g : Nat → Int32} {t q : Nat} (ht : t < 8) (hq : q < 8) (hn : ¬ g (18 * t) = nI 3) : En1 q g (rBeg M g t) := by
  by_cases e : q = t
  · subst e
    refine En1.off (rBeg_ne (by omega) (by omega) (by omega) (by omega)) hn ?_
    unfold rBeg
    rw [rTr_lt (by omega), pk_un (by omega), pk_un (by omega), pk_us]
    decide
  · exact En1.same (rBeg_ne (by omega) (by omega) (by omega) (by omega)) (rBeg_ne (by omega) (by omega) (by omega) (by omega)) (rBeg_ne (by omega) (by omega) (by omega) (by omega)) (rBeg_ne (by omega) (by omega) (by omega) (by omega))
theorem En1_bcL {M : ST} {t : Int32} {g : Nat → Int32} {q : Nat} (hq : q < 8) : ∀ (m c : Nat), c + m ≤ 8 → En1 q g (rBCL M t m c g) := by
  intro m
  induction m with
  | zero => intro c _; exact En1.refl
  | succ m ih =>
    intro c hc
    rw [rBCL]
    split
    · next e => exact En1_beg (by omega) hq (by rw [e.2]; decide)
    · exact ih (c + 1) (by omega)
theorem En1_wk {M : ST} (hM : MI M) {g : Nat → Int32} (hI : RI g) {t q : Nat} (ht : t < 8) (hq : q < 8) (hr : g (18 * t) = nI 1) : En1 q g (rWk M g t) := by
  have h8 := hM.n
  have h1 := hM.2.1
  unfold rWk
  split
  · split
    · exact ((En1_up (by omega) (by omega) (by omega) (by omega)).trans (En1_up (by omega) (by omega) (by omega) (by omega))).trans (En1_up (by omega) (by omega) (by omega) (by omega))
    · exact En1_up (by omega) (by omega) (by omega) (by omega)
  · split
    · exact (En1_up (by omega) (by omega) (by omega) (by omega)).trans (En1_bcL hq _ _ (by omega))
    · split
      · exact En1_up (by omega) (by omega) (by omega) (by omega)
      · split
        · exact (En1_up (by omega) (by omega) (by omega) (by omega)).trans (En1_ask hM hq _)
        · exact (En1_co ht hq (hI.2 t ht).2 _).trans (En1_clo hM ht hq (by rw [rCo_ne (hI.2 t ht).2 (by omega), hr]; decide) _)
theorem En1_mv {M : ST} (hM : MI M) {g : Nat → Int32} (hI : RI g) {t q : Nat} (ht : t < 8) (hq : q < 8) (hr : g (18 * t) = nI 1) : En1 q g (rMv M g t) := by
  unfold rMv
  split
  · exact En1_clo hM ht hq (by rw [hr]; decide) _
  · split
    · exact En1_clo hM ht hq (by rw [hr]; decide) _
    · exact En1_wk hM hI ht hq hr
theorem En1_gvL {t p q : Nat} (hp : p < 8) (hq : q < 8) : ∀ (m k : Nat) (g : Nat → Int32), RI g → En1 q g (rGvL t p m k g) := by
  intro m
  induction m with
  | zero => intro k g _; exact En1.refl
  | succ m ih => intro k g hI; rw [rGvL]; exact (En1_co hp hq (hI.2 p hp).2 _).trans (ih _ _ (RI_rCo hI hp _))
theorem En1_gv2 {M : ST} (hM : MI M) {g : Nat → Int32} {p q : Nat} (hp : p < 8) (hq : q < 8) : En1 q g (rGv2 M g p) := by
  unfold rGv2
  split
  · next e => exact En1_clo hM hp hq (by rw [e.1]; decide) _
  · split
    · next e =>
      refine En1.trans ?_ (En1_ask hM hq _)
      by_cases k : q = p
      · subst k
        exact En1.off (pk_un (by omega)) (by rw [e.1]; decide) (by rw [pk_un (by omega), e.1]; decide)
      · exact En1_up (by omega) (by omega) (by omega) (by omega)
    · exact En1.refl
theorem En1_cl {M : ST} (hM : MI M) {g : Nat → Int32} (hI : RI g) {t q : Nat} (ht : t < mN M) (hq : q < 8) (hr : g (18 * t) = nI 2) : En1 q g (rCl M g t) := by
  have hn := hM.n
  have key : ∀ g : Nat → Int32, RI g → g (18 * t) = nI 2 → En1 q g (rCl1 M g t) := by
    intro g hI hr
    unfold rCl1
    split
    · have hI2 : RI (rTr (upd (upd g (18 * t) (nI 3)) (18 * t + 8) (g 144)) (nI t) (nI 2)) := RI_rTr (RI.up (RI.up hI (by omega) (fun q _ => by omega) (fun q _ => by omega)) (by omega) (fun q _ => by omega) (fun q _ => by omega)) _ _
      have e0 : En1 q g (rTr (upd (upd g (18 * t) (nI 3)) (18 * t + 8) (g 144)) (nI t) (nI 2)) := by
        have e4 : rTr (upd (upd g (18 * t) (nI 3)) (18 * t + 8) (g 144)) (nI t) (nI 2) 144 = g 144 := by rw [rTr_lt (by omega), pk_un (by omega), pk_un (by omega)]
        by_cases e : q = t
        · subst e
          exact ⟨e4, fun z => absurd (hr.symm.trans z) (by decide), fun _ _ => by rw [rTr_lt (by omega), pk_us]⟩
        · exact En1.same e4 (by rw [rTr_lt (by omega), pk_un (by omega), pk_un (by omega)]) (by rw [rTr_lt (by omega), pk_un (by omega), pk_un (by omega)]) (by rw [rTr_lt (by omega), pk_un (by omega), pk_un (by omega)])
      unfold rCl2
      split
      · next c =>
        obtain ⟨⟨p1, p2⟩, p3⟩ := hM.2.2.1 t c.1 ht
        unfold rGv
        exact (e0.trans (En1_gvL (by omega) hq _ _ _ hI2)).trans (En1_gv2 hM (by omega) hq)
      · exact e0
    · exact En1.refl
  unfold rCl
  split
  · exact (En1_up (by omega) (by omega) (by omega) (by omega)).trans (key _ (RI.up hI (by omega) (fun q _ => by omega) (fun q _ => by omega)) (by rw [pk_un (by omega)]; exact hr))
  · exact key _ hI hr
theorem rTick_en {M : ST} (hM : MI M) {g : Nat → Int32} (hJ : RJ M g) {q : Nat} (hq : q < 8) : En1 q (upd g 144 (g 144 + nI 1)) (rTick M g) := by
  have h8 := hM.n
  refine rTick_keep hM (P := fun r => En1 q (upd g 144 (g 144 + nI 1)) r) (fun r t ht hJ p => ?_) (fun r t ht hJ p => ?_) (fun r t ht hJ p => ?_) hJ En1.refl
  · unfold rT1
    split
    · next e => exact p.trans ((En1_co (by omega) hq (hJ.1.2 t (by omega)).2 _).trans (En1_clo hM (by omega) hq (by rw [rCo_ne (hJ.1.2 t (by omega)).2 (by omega), e.1]; decide) _))
    · exact p
  · unfold rT2
    split
    · next e => exact p.trans (En1_mv hM hJ.1 (by omega) hq e.1)
    · exact p
  · unfold rT3
    split
    · next e => exact p.trans (En1_cl hM hJ.1 ht hq e.1)
    · exact p
theorem rTick_kept {M : ST} (hM : MI M) {g : Nat → Int32} (hJ : RJ M g) {q : Nat} (hq : q < 8) (h : g (18 * q) = nI 3) : rTick M g (18 * q) = nI 3 ∧ rTick M g (18 * q + 1) = g (18 * q + 1) ∧ rTick M g (18 * q + 8) = g (18 * q + 8) := by
  have := (rTick_en hM hJ hq).2.1 (by rw [pk_un (by omega)]; exact h)
  rw [pk_un (by omega), pk_un (by omega)] at this
  exact this
theorem rTick_new {M : ST} (hM : MI M) {g : Nat → Int32} (hJ : RJ M g) {q : Nat} (hq : q < 8) (h : ¬ g (18 * q) = nI 3) (e : rTick M g (18 * q) = nI 3) : rTick M g (18 * q + 8) = g 144 + nI 1 := by
  have := (rTick_en hM hJ hq).2.2 (by rw [pk_un (by omega)]; exact h) e
  rw [pk_us] at this
  exact this
theorem rGo_over {M : ST} {g : Nat → Int32} (h : g 0 = nI 3) : ∀ m, rGo M m g = g := by
  intro m
  cases m with
  | zero => rfl
  | succ m => rw [rGo, if_pos h]
theorem rGo_s {M : ST} {g : Nat → Int32} (h : ¬ g 0 = nI 3) (m : Nat) : rGo M (m + 1) g = rGo M m (rTick M g) := by rw [rGo, if_neg h]
theorem rGo_add {M : ST} : ∀ (m k : Nat) (g : Nat → Int32), rGo M (m + k) g = rGo M k (rGo M m g) := by
  intro m
  induction m with
  | zero => intro k g; rw [Nat.zero_add]; rfl
  | succ m ih =>
    intro k g
    by_cases h : g 0 = nI 3
    · rw [rGo_over h, rGo_over h, rGo_over h]
    · rw [Nat.add_right_comm, rGo_s h, rGo_s h, ih]
theorem rGo_kept {M : ST} (hM : MI M) {q : Nat} (hq : q < 8) : ∀ (m : Nat) (g : Nat → Int32), RJ M g → g (18 * q) = nI 3 → rGo M m g (18 * q) = nI 3 ∧ rGo M m g (18 * q + 1) = g (18 * q + 1) ∧ rGo M m g (18 * q + 8) = g (18 * q + 8) := by
  intro m
  induction m with
  | zero => intro g _ h; exact ⟨h, rfl, rfl⟩
  | succ m ih =>
    intro g hJ h
    by_cases k : g 0 = nI 3
    · rw [rGo_over k]; exact ⟨h, rfl, rfl⟩
    · rw [rGo_s k]
      obtain ⟨a, b, d⟩ := rTick_kept hM hJ hq h
      obtain ⟨a', b', d'⟩ := ih _ (RJ_rTick hM hJ) a
      exact ⟨a', b'.trans b, d'.trans d⟩
/-- the tick goes up by one as long as the root isn't ended -/
theorem rGo_144 {M : ST} (hM : MI M) : ∀ (m T : Nat) (g : Nat → Int32), RJ M g → g 144 = nI T → ∃ k, k ≤ m ∧ rGo M m g 144 = nI (T + k) ∧ (¬ rGo M m g 0 = nI 3 → k = m) := by
  intro m
  induction m with
  | zero => intro T g _ h; exact ⟨0, Nat.le_refl _, h, fun _ => rfl⟩
  | succ m ih =>
    intro T g hJ h
    by_cases k : g 0 = nI 3
    · rw [rGo_over k]; exact ⟨0, Nat.zero_le _, h, fun z => absurd k z⟩
    · rw [rGo_s k]
      obtain ⟨j, h1, h2, h3⟩ := ih (T + 1) _ (RJ_rTick hM hJ) (by rw [rTick_144 hM hJ, h, nI_add])
      exact ⟨j + 1, by omega, by rw [h2]; congr 1; omega, fun z => by rw [h3 z]⟩
/-- the root's end is the tick at which it ends -/
theorem rGo_end0 {M : ST} (hM : MI M) : ∀ (m : Nat) (g : Nat → Int32), RJ M g → ¬ g 0 = nI 3 → rGo M m g 0 = nI 3 → rGo M m g 8 = rGo M m g 144 := by
  intro m
  induction m with
  | zero => intro g _ h e; exact absurd e h
  | succ m ih =>
    intro g hJ h e
    rw [rGo_s h] at e ⊢
    by_cases k : rTick M g 0 = nI 3
    · rw [rGo_over k, rTick_144 hM hJ]
      exact rTick_new hM hJ (q := 0) (by decide) h k
    · exact ih _ (RJ_rTick hM hJ) k e
/-- what ends later has a later end -/
theorem rGo_late {M : ST} (hM : MI M) {q : Nat} (hq : q < 8) : ∀ (m T : Nat) (g : Nat → Int32), RJ M g → g 144 = nI T → ¬ g (18 * q) = nI 3 → rGo M m g (18 * q) = nI 3 → ∃ k, rGo M m g (18 * q + 8) = nI (T + 1 + k) ∧ k < m := by
  intro m
  induction m with
  | zero => intro T g _ _ h e; exact absurd e h
  | succ m ih =>
    intro T g hJ hT h e
    by_cases k : g 0 = nI 3
    · rw [rGo_over k] at e; exact absurd e h
    · rw [rGo_s k] at e ⊢
      have h4 : rTick M g 144 = nI (T + 1) := by rw [rTick_144 hM hJ, hT, nI_add]
      by_cases k2 : rTick M g (18 * q) = nI 3
      · rw [(rGo_kept hM hq m _ (RJ_rTick hM hJ) k2).2.2, rTick_new hM hJ hq h k2, hT, nI_add]
        exact ⟨0, rfl, by omega⟩
      · obtain ⟨j, h1, h2⟩ := ih (T + 1) _ (RJ_rTick hM hJ) h4 k2 e
        exact ⟨j + 1, by rw [h1]; congr 1; omega, by omega⟩
/-! the component goes on till a task is ended -/
def cGo (M : ST) (t : Nat) : Nat → (Nat → Int32) → Nat → Int32
  | 0, c => c
  | m + 1, c => if c (18 * t) = nI 3 ∨ c (18 * 0) = nI 3 then c else cGo M t m (cTick M c)
theorem Sim.go {M : ST} (hM : MI M) (hL : ML M) {t : Nat} (ht : t < 8) : ∀ (m : Nat) (c g : Nat → Int32), Sim M c g → RJ M g → nn (g 144) + m ≤ 2000 → ∃ k, k ≤ m ∧ Sim M (cGo M t m c) (rGo M k g) ∧ RJ M (rGo M k g) ∧ (rGo M k g (18 * t) = nI 3 ∨ rGo M k g = rGo M m g) := by
  intro m
  induction m with
  | zero => intro c g h hJ _; exact ⟨0, Nat.le_refl _, h, hJ, Or.inr rfl⟩
  | succ m ih =>
    intro c g h hJ hb
    rw [cGo, h.how ht, h.how (t := 0) (by decide)]
    by_cases e1 : g (18 * t) = nI 3
    · rw [if_pos (Or.inl e1)]
      exact ⟨0, Nat.zero_le _, h, hJ, Or.inl e1⟩
    · by_cases e0 : g (18 * 0) = nI 3
      · rw [if_pos (Or.inr e0)]
        exact ⟨0, Nat.zero_le _, h, hJ, Or.inr (by rw [rGo_over e0 (m + 1)]; rfl)⟩
      · rw [if_neg (fun z => z.elim e1 e0)]
        have hE : rTick M g 144 = nI (nn (g 144) + 1) := by rw [rTick_144 hM hJ]; exact nI_nat1 h.2.2.2.1.1
        obtain ⟨k, h1, h2, h3, h4⟩ := ih _ _ (h.tick hM hL hJ (by omega)) (RJ_rTick hM hJ) (by rw [hE, nn_of (by omega)]; omega)
        refine ⟨k + 1, by omega, ?_, ?_, ?_⟩
        · rw [rGo_s e0]; exact h2
        · rw [rGo_s e0]; exact h3
        · rw [rGo_s e0, rGo_s e0]; exact h4
/-- both know the same of the task t at the end -/
theorem Sim.goT {M : ST} (hM : MI M) (hL : ML M) {t : Nat} (ht : t < 8) {m : Nat} {c g : Nat → Int32} (h : Sim M c g) (hJ : RJ M g) (hb : nn (g 144) + m ≤ 2000) : (cGo M t m c (18 * t) = nI 3 ↔ rGo M m g (18 * t) = nI 3) ∧ (rGo M m g (18 * t) = nI 3 → cGo M t m c (18 * t + 1) = rGo M m g (18 * t + 1) ∧ cGo M t m c (18 * t + 8) = rGo M m g (18 * t + 8)) := by
  obtain ⟨k, h1, h2, h3, h4⟩ := Sim.go hM hL ht m c g h hJ hb
  have hs := (h2.1 t ht).1
  have hw := h2.how ht
  have e : rGo M m g = rGo M (m - k) (rGo M k g) := by rw [← rGo_add]; congr 1; omega
  rcases h4 with h4 | h4
  · obtain ⟨a, b, d⟩ := rGo_kept hM ht (m - k) _ h3 h4
    rw [e]
    refine ⟨⟨fun _ => a, fun _ => by rw [hw]; exact h4⟩, fun _ => ⟨?_, ?_⟩⟩
    · rw [b]; exact hs.2.1
    · rw [d]; exact hs.2.2.2.2.1
  · rw [h4] at hw hs
    rw [hw]
    exact ⟨Iff.rfl, fun _ => ⟨hs.2.1, hs.2.2.2.2.1⟩⟩
/-- till the root is ended: all is alike -/
theorem Sim.go0 {M : ST} (hM : MI M) (hL : ML M) {m : Nat} {c g : Nat → Int32} (h : Sim M c g) (hJ : RJ M g) (hb : nn (g 144) + m ≤ 2000) : Sim M (cGo M 0 m c) (rGo M m g) := by
  obtain ⟨k, h1, h2, h3, h4⟩ := Sim.go hM hL (t := 0) (by decide) m c g h hJ hb
  have e : rGo M m g = rGo M (m - k) (rGo M k g) := by rw [← rGo_add]; congr 1; omega
  rcases h4 with h4 | h4
  · rw [e, rGo_over h4]; exact h2
  · rw [← h4]; exact h2
