set_option maxRecDepth 100000
/-! SIM is kept: the asked, closing -/
/-- a change at one task's places 0..9 that both rows bear -/
theorem Sim.ask1 {M : ST} {c g : Nat → Int32} (h : Sim M c g) (hI : RI g) {t : Nat} (ht : t < mN M) (h8 : mN M ≤ 8) : Sim M (upd c (18 * t + 5) (nI 1)) (upd g (18 * t + 5) (nI 1)) := by
  have ht8 : t < 8 := by omega
  obtain ⟨⟨a0, a1, a2, a5, a8, a9⟩, b, d, e, f, i⟩ := h.1 t ht8
  have k1 := (hI.2 t ht8).2.2
  have z : ∀ (r : Nat → Int32) (j : Nat), j ≠ 5 → upd r (18 * t + 5) (nI 1) (18 * t + j) = r (18 * t + j) := fun r j hj => pk_un (by omega)
  have z0 : ∀ (r : Nat → Int32), upd r (18 * t + 5) (nI 1) (18 * t) = r (18 * t) := fun r => pk_un (by omega)
  refine h.task hI ht8 (fun j hj => pk_un (by omega)) (fun j hj => pk_un (by omega)) ?_ ht
  refine ⟨⟨?_, ?_, ?_, ?_, ?_, ?_⟩, ?_, ?_, ?_, ?_, ?_⟩
  · rw [z0, z0]; exact a0
  · rw [z _ 1 (by decide), z _ 1 (by decide)]; exact a1
  · rw [z _ 2 (by decide), z _ 2 (by decide)]; exact a2
  · rw [pk_us, pk_us]
  · rw [z _ 8 (by decide), z _ 8 (by decide)]; exact a8
  · rw [z _ 9 (by decide), z _ 9 (by decide)]; exact a9
  · unfold Sb; rw [z0, pk_us]; exact ⟨b.1, Or.inr rfl⟩
  · intro k hk
    rw [z _ 9 (by decide)] at hk
    rw [pk_un (by omega), pk_un (by omega)]; exact d k hk
  · unfold Sw; rw [z0, z _ 3 (by decide), z _ 3 (by decide), z _ 6 (by decide)]; exact e
  · unfold Sd; rw [z0, z _ 4 (by decide), z _ 4 (by decide), z _ 7 (by decide), z _ 7 (by decide), pk_un (by omega : 144 ≠ 18 * t + 5)]; exact f
  · unfold Se; rw [z0, z _ 8 (by decide), pk_un (by omega : 144 ≠ 18 * t + 5)]; exact i
theorem Sim.how {M : ST} {c g : Nat → Int32} (h : Sim M c g) {t : Nat} (ht : t < 8) : c (18 * t) = g (18 * t) := (h.1 t ht).1.1
theorem Sim.askL {M : ST} (h8 : mN M ≤ 8) {P : Nat → Int32} {t : Int32} : ∀ (m q : Nat) (c g : Nat → Int32), q + m ≤ mN M → Sim M c g → RI g → Sim M (rAskL P t m q c) (rAskL P t m q g) := by
  intro m
  induction m with
  | zero => intro q c g _ h _; exact h
  | succ m ih =>
    intro q c g hq h hI
    rw [rAskL, rAskL, h.how (by omega)]
    by_cases e : P q = t ∧ g (18 * q) = nI 1
    · rw [if_pos e, if_pos e]
      exact ih (q + 1) _ _ (by omega) (h.ask1 hI (by omega) h8) (hI.up (by omega) (fun t _ => by omega) (fun t _ => by omega))
    · rw [if_neg e, if_neg e]
      exact ih (q + 1) _ _ (by omega) h hI
theorem Sim.ask {M : ST} (hM : MI M) {c g : Nat → Int32} (h : Sim M c g) (hI : RI g) (t : Int32) : Sim M (rAsk M t c) (rAsk M t g) := Sim.askL hM.n _ _ _ _ (by have := hM.2.1; omega) h hI
theorem upd_comm {g : Nat → Int32} {i j : Nat} {a b : Int32} (h : i ≠ j) : upd (upd g i a) j b = upd (upd g j b) i a := by
  funext q
  unfold upd
  by_cases e : q = j
  · subst e; rw [if_pos rfl, if_neg (fun z => h z.symm), if_pos rfl]
  · rw [if_neg e, if_neg e]
theorem rAsk_tr {M : ST} (hM : MI M) {g : Nat → Int32} {t u w : Int32} : rAsk M t (rTr g u w) = rTr (rAsk M t g) u w := by
  have h8 := hM.n
  have key : ∀ (m q : Nat) (g : Nat → Int32), q + m ≤ 8 → rAskL (M 521) t m q (rTr g u w) = rTr (rAskL (M 521) t m q g) u w := by
    intro m
    induction m with
    | zero => intro q g _; rfl
    | succ m ih =>
      intro q g hq
      rw [rAskL, rAskL, rTr_l5 (by omega : 18 * q < 145)]
      by_cases e : M 521 q = t ∧ g (18 * q) = nI 1
      · rw [if_pos e, if_pos e, ← ih (q + 1) _ (by omega)]
        congr 1
        unfold rTr
        rw [pk_un (by omega : 145 ≠ 18 * q + 5), pk_un (by omega : 144 ≠ 18 * q + 5)]
        split
        · rw [upd_comm (i := 145) (j := 18 * q + 5) (by omega), upd_comm (i := 146 + 3 * nn (g 145) + 2) (j := 18 * q + 5) (by omega), upd_comm (i := 146 + 3 * nn (g 145) + 1) (j := 18 * q + 5) (by omega), upd_comm (i := 146 + 3 * nn (g 145)) (j := 18 * q + 5) (by omega)]
        · rfl
      · rw [if_neg e, if_neg e, ih (q + 1) _ (by omega)]
  exact key _ _ _ (by have := hM.2.1; omega)
/-- closing a running task -/
theorem Sim.clo0 {M : ST} {c g : Nat → Int32} (h : Sim M c g) (hI : RI g) {t : Nat} (ht : t < mN M) (h8 : mN M ≤ 8) (hr : g (18 * t) = nI 1) (o : Int32) : Sim M (upd (upd (upd (upd c (18 * t) (nI 0)) (18 * t) (nI 2)) (18 * t + 3) (nI 0)) (18 * t + 1) o) (upd (upd g (18 * t) (nI 2)) (18 * t + 1) o) := by
  have ht8 : t < 8 := by omega
  obtain ⟨⟨a0, a1, a2, a5, a8, a9⟩, b, d, e, f, i⟩ := h.1 t ht8
  have z : ∀ (j : Nat), j ≠ 0 → j ≠ 1 → j ≠ 3 → upd (upd (upd (upd c (18 * t) (nI 0)) (18 * t) (nI 2)) (18 * t + 3) (nI 0)) (18 * t + 1) o (18 * t + j) = c (18 * t + j) := fun j h1 h2 h3 => by rw [pk_un (by omega), pk_un (by omega), pk_un (by omega), pk_un (by omega)]
  have y : ∀ (j : Nat), j ≠ 0 → j ≠ 1 → upd (upd g (18 * t) (nI 2)) (18 * t + 1) o (18 * t + j) = g (18 * t + j) := fun j h1 h2 => by rw [pk_un (by omega), pk_un (by omega)]
  have y0 : upd (upd g (18 * t) (nI 2)) (18 * t + 1) o (18 * t) = nI 2 := by rw [pk_un (by omega), pk_us]
  have y4 : upd (upd g (18 * t) (nI 2)) (18 * t + 1) o 144 = g 144 := by rw [pk_un (by omega), pk_un (by omega)]
  refine h.task hI ht8 (fun j hj => by rw [pk_un (by omega), pk_un (by omega), pk_un (by omega), pk_un (by omega)]) (fun j hj => by rw [pk_un (by omega), pk_un (by omega)]) ?_ ht
  refine ⟨⟨?_, ?_, ?_, ?_, ?_, ?_⟩, ?_, ?_, ?_, ?_, ?_⟩
  · rw [y0, pk_un (by omega), pk_un (by omega), pk_us]
  · rw [pk_us, pk_us]
  · rw [z 2 (by decide) (by decide) (by decide), y 2 (by decide) (by decide)]; exact a2
  · rw [z 5 (by decide) (by decide) (by decide), y 5 (by decide) (by decide)]; exact a5
  · rw [z 8 (by decide) (by decide) (by decide), y 8 (by decide) (by decide)]; exact a8
  · rw [z 9 (by decide) (by decide) (by decide), y 9 (by decide) (by decide)]; exact a9
  · unfold Sb; rw [y0, y 5 (by decide) (by decide)]; exact ⟨Or.inr (Or.inr (Or.inl rfl)), b.2⟩
  · intro k hk
    rw [y 9 (by decide) (by decide)] at hk
    rw [pk_un (by omega), pk_un (by omega), pk_un (by omega), pk_un (by omega), pk_un (by omega), pk_un (by omega)]; exact d k hk
  · unfold Sw
    rw [y0, pk_un (by omega : 18 * t + 3 ≠ 18 * t + 1), pk_us, y 6 (by decide) (by decide)]
    exact ⟨fun z => absurd z (by decide), fun _ => (e.1 (Or.inr hr)).2.symm⟩
  · unfold Sd
    rw [y0, z 4 (by decide) (by decide) (by decide), y 4 (by decide) (by decide), z 7 (by decide) (by decide) (by decide), y 7 (by decide) (by decide), y4]
    exact ⟨fun z => absurd z (by decide), fun _ => f.2 (by rw [hr]; decide)⟩
  · unfold Se
    rw [y0, y 8 (by decide) (by decide), y4]
    exact ⟨fun z => absurd z (by decide), fun _ => i.2 (by rw [hr]; decide)⟩
theorem RI.clo0 {g : Nat → Int32} (hI : RI g) {t : Nat} {o : Int32} (ht : t < 8) : RI (upd (upd g (18 * t) (nI 2)) (18 * t + 1) o) := (hI.up (by omega) (fun q _ => by omega) (fun q _ => by omega)).up (by omega) (fun q _ => by omega) (fun q _ => by omega)
theorem Sim.clo {M : ST} (hM : MI M) {c g : Nat → Int32} (h : Sim M c g) (hI : RI g) {t : Nat} (ht : t < mN M) (hr : g (18 * t) = nI 1) (o : Int32) : Sim M (cClo M c t o) (rClo M g t o) := by
  have h8 := hM.n
  have a9 := (h.1 t (by omega)).1.2.2.2.2.2
  unfold cClo rClo
  rw [a9]
  by_cases e : o = 0
  · by_cases k : nn (g (18 * t + 9)) = 0
    · rw [if_pos e, if_pos k, if_pos ⟨e, k⟩, e]
      exact (h.clo0 hI ht h8 hr _).tr (hI.clo0 (by omega)) _ _
    · rw [if_pos e, if_neg k, if_neg (fun z => k z.2), if_pos e, ← rAsk_tr hM]
      exact ((h.clo0 hI ht h8 hr _).tr (hI.clo0 (by omega)) _ _).ask hM (RI_rTr (hI.clo0 (by omega)) _ _) _
  · rw [if_neg e, if_neg (fun z => e z.1), if_neg e, ← rAsk_tr hM]
    exact ((h.clo0 hI ht h8 hr _).tr (hI.clo0 (by omega)) _ _).ask hM (RI_rTr (hI.clo0 (by omega)) _ _) _
