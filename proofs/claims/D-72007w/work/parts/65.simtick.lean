set_option maxRecDepth 100000
/-! SIM is kept by a tick -/
def cT1 (M : ST) (c : Nat → Int32) (t : Nat) : Nat → Int32 := if c (18 * t) = nI 1 ∧ c (18 * t + 4) < c 144 then cClo M (rCo c t (nI 10)) t (nI 3) else c
def cT2 (c1 : Nat → Int32) (M : ST) (c : Nat → Int32) (t : Nat) : Nat → Int32 := if c1 (18 * t) = nI 1 ∧ c (18 * t) = nI 1 then cMv M c t else c
def cT3 (M : ST) (c : Nat → Int32) (t : Nat) : Nat → Int32 := if c (18 * t) = nI 2 then cCl M c t else c
def cTk1 (M : ST) (c : Nat → Int32) : Nat → Int32 := rUp (cT1 M) (mN M) 0 (upd c 144 (c 144 + nI 1))
def cTk2 (M : ST) (c1 : Nat → Int32) : Nat → Int32 := rUp (cT2 c1 M) (mN M) 0 c1
def cTick (M : ST) (c : Nat → Int32) : Nat → Int32 := rDn (cT3 M) (mN M) (cTk2 M (cTk1 M c))
theorem Sim.T0 {M : ST} {c g : Nat → Int32} (h : Sim M c g) (hI : RI g) (hb : nn (g 144) < 2000) : Sim M (upd c 144 (c 144 + nI 1)) (upd g 144 (g 144 + nI 1)) := by
  obtain ⟨a, b, d, e, f, i⟩ := h
  have hE : g 144 + nI 1 = nI (nn (g 144) + 1) := nI_nat1 e.1
  have hn : nn (g 144 + nI 1) = nn (g 144) + 1 := by rw [hE]; exact nn_of (by omega)
  have up : ∀ {v : Int32}, inN v (nn (g 144)) → inN v (nn (g 144 + nI 1)) := fun hv => ⟨hv.1, by rw [hn]; have := hv.2; omega⟩
  refine ⟨fun q hq => ?_, fun q h2 h3 => ?_, ?_, ?_, ?_, fun k hk => ?_⟩
  · obtain ⟨⟨a0, a1, a2, a5, a8, a9⟩, b, d, e, f, i⟩ := a q hq
    have z : ∀ (r : Nat → Int32) (w : Int32) (j : Nat), j < 18 → upd r 144 w (18 * q + j) = r (18 * q + j) := fun r w j hj => pk_un (by omega)
    have z0 : ∀ (r : Nat → Int32) (w : Int32), upd r 144 w (18 * q) = r (18 * q) := fun r w => pk_un (by omega)
    have h9 := (hI.2 q hq).2.2
    refine ⟨⟨?_, ?_, ?_, ?_, ?_, ?_⟩, ?_, ?_, ?_, ?_, ?_⟩
    · rw [z0, z0]; exact a0
    · rw [z _ _ 1 (by decide), z _ _ 1 (by decide)]; exact a1
    · rw [z _ _ 2 (by decide), z _ _ 2 (by decide)]; exact a2
    · rw [z _ _ 5 (by decide), z _ _ 5 (by decide)]; exact a5
    · rw [z _ _ 8 (by decide), z _ _ 8 (by decide)]; exact a8
    · rw [z _ _ 9 (by decide), z _ _ 9 (by decide)]; exact a9
    · unfold Sb; rw [z0, z _ _ 5 (by decide)]; exact b
    · intro k hk
      rw [z _ _ 9 (by decide)] at hk
      rw [pk_un (by omega), pk_un (by omega)]; exact d k hk
    · unfold Sw; rw [z0, z _ _ 3 (by decide), z _ _ 3 (by decide), z _ _ 6 (by decide)]; exact e
    · unfold Sd; rw [z0, z _ _ 4 (by decide), z _ _ 4 (by decide), z _ _ 7 (by decide), z _ _ 7 (by decide), pk_us]
      exact ⟨f.1, fun q => ⟨(f.2 q).1, (f.2 q).2.1, up (f.2 q).2.2⟩⟩
    · unfold Se; rw [z0, z _ _ 8 (by decide), pk_us]
      exact ⟨fun q => up (i.1 q), i.2⟩
  · rw [pk_un (by omega)]; exact b q h2 h3
  · rw [pk_us, pk_us, d]
  · rw [pk_us]; exact inN.of hE (by omega) (by decide)
  · rw [pk_un (by omega), pk_un (by omega)]; exact f
  · rw [pk_un (by omega)] at hk
    rw [pk_un (by omega), pk_un (by omega), pk_un (by omega), pk_un (by omega), pk_un (by omega), pk_un (by omega)]
    exact i k hk
theorem dueR_lt {a b T : Int32} (h : dueR a b) (hT : inN T 2000) : a < T ↔ b < T := by
  rcases h with ⟨rfl, rfl⟩ | ⟨rfl, -⟩
  · rw [hT.1]
    have := hT.2
    constructor
    · intro z; exact absurd ((nI_ltI (by decide) (by omega)).mp z) (by omega)
    · intro z; exact absurd ((nI_ltI (by decide) (by omega)).mp z) (by omega)
  · exact Iff.rfl
theorem Sim.T1 {M : ST} (hM : MI M) {c g : Nat → Int32} (h : Sim M c g) (hI : RI g) {t : Nat} (ht : t < mN M) : Sim M (cT1 M c t) (rT1 M g t) := by
  have h8 := hM.n
  have ht8 : t < 8 := by omega
  have hh := h.how ht8
  unfold cT1 rT1
  rw [hh, h.2.2.1]
  by_cases k : g (18 * t) = nI 1
  · have hd := dueR_lt ((h.1 t ht8).2.2.2.2.1.2 (by rw [k]; decide)).1 h.2.2.2.1
    by_cases k2 : g (18 * t + 4) < g 144
    · rw [if_pos ⟨k, hd.mpr k2⟩, if_pos ⟨k, k2⟩]
      exact (h.co hI ht h8 _).clo hM (RI_rCo hI ht8 _) ht (by rw [rCo_ne (hI.2 t ht8).2 (by omega)]; exact k) _
    · rw [if_neg (fun z => k2 (hd.mp z.2)), if_neg (fun z => k2 z.2)]; exact h
  · rw [if_neg (fun z => k z.1), if_neg (fun z => k z.1)]; exact h
/-! what a tick does to how, begun and the tick itself -/
theorem rClo_how {M : ST} (hM : MI M) {g : Nat → Int32} {t : Nat} (ht : t < 8) (o : Int32) : rClo M g t o (18 * t) = nI 2 := by
  have h8 := hM.n
  unfold rClo
  rw [rTr_lt (by omega)]
  split
  · rw [pk_un (by omega), pk_us]
  · rw [rAsk_ne hM (fun c _ _ => by omega), pk_un (by omega), pk_us]
theorem rClo_144 {M : ST} (hM : MI M) {g : Nat → Int32} {t : Nat} (ht : t < 8) (o : Int32) : rClo M g t o 144 = g 144 := by
  have h8 := hM.n
  exact rClo_ne hM (by omega) (by omega) (by omega) (fun c _ _ => by omega)
/-- the tick stands; a task's begun stands and it runs only if it ran, or it is begun just now -/
def Mv1 (g g' : Nat → Int32) : Prop := g' 144 = g 144 ∧ ∀ q, q < 8 → (g' (18 * q + 7) = g (18 * q + 7) ∧ (g' (18 * q) = nI 1 → g (18 * q) = nI 1) ∧ (¬ g (18 * q) = nI 0 → ¬ g' (18 * q) = nI 0)) ∨ (g (18 * q) = nI 0 ∧ q ≠ 0 ∧ g' (18 * q + 7) = g 144)
theorem Mv1.refl (g : Nat → Int32) : Mv1 g g := ⟨rfl, fun q _ => Or.inl ⟨rfl, id, id⟩⟩
theorem Mv1.same {g g' : Nat → Int32} (h4 : g' 144 = g 144) (h : ∀ q, q < 8 → g' (18 * q + 7) = g (18 * q + 7) ∧ g' (18 * q) = g (18 * q)) : Mv1 g g' := ⟨h4, fun q hq => Or.inl ⟨(h q hq).1, fun e => by rw [← (h q hq).2]; exact e, fun e => by rw [(h q hq).2]; exact e⟩⟩
/-- behind a change that leaves these places as they are -/
theorem Mv1.pre {g f g' : Nat → Int32} (h4 : f 144 = g 144) (h : ∀ q, q < 8 → f (18 * q + 7) = g (18 * q + 7) ∧ f (18 * q) = g (18 * q)) (m : Mv1 f g') : Mv1 g g' := by
  refine ⟨m.1.trans h4, fun q hq => ?_⟩
  obtain ⟨h7, h0⟩ := h q hq
  have := m.2 q hq
  rw [h7, h0, h4] at this
  exact this
theorem Mv1_clo {M : ST} (hM : MI M) {g : Nat → Int32} {t : Nat} (ht : t < 8) (o : Int32) : Mv1 g (rClo M g t o) := by
  have h8 := hM.n
  refine ⟨rClo_144 hM ht o, fun q hq => Or.inl ⟨?_, ?_, ?_⟩⟩
  · exact rClo_ne hM (by omega) (by omega) (by omega) (fun c _ _ => by omega)
  · by_cases e : q = t
    · subst e; rw [rClo_how hM ht]; intro z; exact absurd z (by decide)
    · rw [rClo_ne hM (by omega) (by omega) (by omega) (fun c _ _ => by omega)]; exact id
  · by_cases e : q = t
    · subst e; rw [rClo_how hM ht]; intro _; decide
    · rw [rClo_ne hM (by omega) (by omega) (by omega) (fun c _ _ => by omega)]; exact id
theorem Mv1_beg {M : ST} {g : Nat → Int32} {t : Nat} (ht : t < 8) (h0 : 0 < t) (hu : g (18 * t) = nI 0) : Mv1 g (rBeg M g t) := by
  refine ⟨rBeg_ne (by omega) (by omega) (by omega) (by omega), fun q hq => ?_⟩
  by_cases e : q = t
  · subst e
    refine Or.inr ⟨hu, by omega, ?_⟩
    unfold rBeg
    rw [rTr_lt (by omega), pk_us]
  · refine Or.inl ⟨rBeg_ne (by omega) (by omega) (by omega) (by omega), ?_, ?_⟩
    · rw [rBeg_ne (by omega) (by omega) (by omega) (by omega)]; exact id
    · rw [rBeg_ne (by omega) (by omega) (by omega) (by omega)]; exact id
theorem Mv1_bcL {M : ST} {t : Int32} {g : Nat → Int32} : ∀ (m q : Nat), 0 < q → q + m ≤ 8 → Mv1 g (rBCL M t m q g) := by
  intro m
  induction m with
  | zero => intro q _ _; exact Mv1.refl g
  | succ m ih =>
    intro q h0 hq
    rw [rBCL]
    split
    · next e => exact Mv1_beg (by omega) h0 e.2
    · exact ih (q + 1) (by omega) (by omega)
theorem Mv1_wk {M : ST} (hM : MI M) {g : Nat → Int32} (hI : RI g) {t : Nat} (ht : t < 8) : Mv1 g (rWk M g t) := by
  have h8 := hM.n
  have h1 := hM.2.1
  unfold rWk
  split
  · split
    · exact Mv1.same (by rw [pk_un (by omega), pk_un (by omega), pk_un (by omega)]) (fun q hq => ⟨by rw [pk_un (by omega), pk_un (by omega), pk_un (by omega)], by rw [pk_un (by omega), pk_un (by omega), pk_un (by omega)]⟩)
    · exact Mv1.same (by rw [pk_un (by omega)]) (fun q hq => ⟨by rw [pk_un (by omega)], by rw [pk_un (by omega)]⟩)
  · split
    · exact Mv1.pre (pk_un (by omega)) (fun q hq => ⟨pk_un (by omega), pk_un (by omega)⟩) (Mv1_bcL _ _ (by omega) (by omega))
    · split
      · exact Mv1.same (by rw [pk_un (by omega)]) (fun q hq => ⟨by rw [pk_un (by omega)], by rw [pk_un (by omega)]⟩)
      · split
        · exact Mv1.same (by rw [rAsk_ne hM (fun c _ _ => by omega), pk_un (by omega)]) (fun q hq => ⟨by rw [rAsk_ne hM (fun c _ _ => by omega), pk_un (by omega)], by rw [rAsk_ne hM (fun c _ _ => by omega), pk_un (by omega)]⟩)
        · exact Mv1.pre (rCo_ne (hI.2 t ht).2 (by omega)) (fun q hq => ⟨rCo_ne (hI.2 t ht).2 (by omega), rCo_ne (hI.2 t ht).2 (by omega)⟩) (Mv1_clo hM ht _)
theorem Mv1_mv {M : ST} (hM : MI M) {g : Nat → Int32} (hI : RI g) {t : Nat} (ht : t < 8) : Mv1 g (rMv M g t) := by
  unfold rMv
  split
  · exact Mv1_clo hM ht _
  · split
    · exact Mv1_clo hM ht _
    · exact Mv1_wk hM hI ht
def K0 (g : Nat → Int32) : Prop := ∀ q, q < 8 → g (18 * q) = nI 1 → g (18 * q + 7) < g 144
theorem K0_T0 {M : ST} {c g : Nat → Int32} (h : Sim M c g) (hb : nn (g 144) < 2000) : K0 (upd g 144 (g 144 + nI 1)) := by
  intro q hq e
  rw [pk_un (by omega)] at e
  have f := ((h.1 q hq).2.2.2.2.1.2 (by rw [e]; decide)).2.2
  rw [pk_un (by omega), pk_us, f.1, nI_nat1 h.2.2.2.1.1]
  exact (nI_ltI (by have := f.2; omega) (by omega)).mpr (by have := f.2; omega)
theorem K0_T1 {M : ST} (hM : MI M) {g : Nat → Int32} (hI : RI g) (h : K0 g) {t : Nat} (ht : t < mN M) : K0 (rT1 M g t) := by
  have h8 := hM.n
  unfold rT1
  split
  · intro q hq e
    have h9 := (hI.2 t (by omega)).2
    by_cases e2 : q = t
    · subst e2; rw [rClo_how hM (by omega)] at e; exact absurd e (by decide)
    · rw [rClo_ne hM (by omega) (by omega) (by omega) (fun c _ _ => by omega), rCo_ne h9 (by omega)] at e
      rw [rClo_ne hM (by omega) (by omega) (by omega) (fun c _ _ => by omega), rCo_ne h9 (by omega), rClo_144 hM (by omega), rCo_ne h9 (by omega)]
      exact h q hq e
  · exact h
def K2 (c1 g : Nat → Int32) : Prop := ∀ q, q < 8 → (c1 (18 * q) = nI 1 → ¬ g (18 * q) = nI 0 ∧ g (18 * q + 7) < g 144) ∧ (¬ c1 (18 * q) = nI 1 → g (18 * q) = nI 1 → q ≠ 0 ∧ g (18 * q + 7) = g 144)
theorem K2.start {M : ST} {c1 g : Nat → Int32} (h : Sim M c1 g) (k : K0 g) : K2 c1 g := by
  intro q hq
  rw [h.how hq]
  exact ⟨fun e => ⟨by rw [e]; decide, k q hq e⟩, fun n e => absurd e n⟩
theorem K2.step {c1 g g' : Nat → Int32} (h : K2 c1 g) (m : Mv1 g g') : K2 c1 g' := by
  intro q hq
  obtain ⟨h1, h2⟩ := h q hq
  rw [m.1]
  rcases m.2 q hq with ⟨m1, m2, m3⟩ | ⟨m1, m2, m3⟩
  · rw [m1]
    exact ⟨fun e => ⟨m3 (h1 e).1, (h1 e).2⟩, fun n e => h2 n (m2 e)⟩
  · exact ⟨fun e => absurd m1 (h1 e).1, fun _ _ => ⟨m2, m3⟩⟩
theorem Sim.T2 {M : ST} (hM : MI M) (hL : ML M) {c1 c g : Nat → Int32} (h : Sim M c g) (hJ : RJ M g) (k : K2 c1 g) {t : Nat} (ht : t < mN M) : Sim M (cT2 c1 M c t) (rT2 M g t) := by
  have h8 := hM.n
  have ht8 : t < 8 := by omega
  have hh := h.how ht8
  obtain ⟨k1, k2⟩ := k t ht8
  unfold cT2 rT2
  rw [hh]
  by_cases e : g (18 * t) = nI 1
  · by_cases e1 : c1 (18 * t) = nI 1
    · rw [if_pos ⟨e1, e⟩, if_pos ⟨e, Or.inr (k1 e1).2⟩]
      exact h.mv hM hL hJ ht e
    · obtain ⟨k3, k4⟩ := k2 e1 e
      rw [if_neg (fun z => e1 z.1), if_neg (fun z => z.2.elim k3 (fun w => by rw [k4] at w; exact Int32.lt_irrefl w))]
      exact h
  · rw [if_neg (fun z => e z.2), if_neg (fun z => e z.1)]; exact h
theorem K2_T2 {M : ST} (hM : MI M) {c1 g : Nat → Int32} (hI : RI g) (k : K2 c1 g) {t : Nat} (ht : t < mN M) : K2 c1 (rT2 M g t) := by
  have h8 := hM.n
  unfold rT2
  split
  · exact k.step (Mv1_mv hM hI (by omega))
  · exact k
theorem Sim.T3 {M : ST} (hM : MI M) {c g : Nat → Int32} (h : Sim M c g) (hI : RI g) {t : Nat} (ht : t < mN M) : Sim M (cT3 M c t) (rT3 M g t) := by
  have h8 := hM.n
  have hh := h.how (t := t) (by omega)
  unfold cT3 rT3
  rw [hh]
  by_cases e : g (18 * t) = nI 2
  · rw [if_pos e]
    by_cases b : rBusy M (nI t) g
    · rw [if_neg (fun z => z.2 b)]
      unfold cCl
      rw [if_pos ((h.busy hM _).mpr b)]
      exact h
    · rw [if_pos ⟨e, b⟩]; exact h.cl hM hI ht e b
  · rw [if_neg e, if_neg (fun z => e z.1)]; exact h
theorem Sim.up {M : ST} {P : (Nat → Int32) → Prop} {fc fg : (Nat → Int32) → Nat → Nat → Int32} (hf : ∀ c g t, t < mN M → Sim M c g → RJ M g → P g → Sim M (fc c t) (fg g t) ∧ RJ M (fg g t) ∧ P (fg g t)) : ∀ (m t : Nat) (c g : Nat → Int32), t + m = mN M → Sim M c g → RJ M g → P g → Sim M (rUp fc m t c) (rUp fg m t g) ∧ RJ M (rUp fg m t g) ∧ P (rUp fg m t g) := by
  intro m
  induction m with
  | zero => intro t c g _ h1 h2 h3; exact ⟨h1, h2, h3⟩
  | succ m ih =>
    intro t c g ht h1 h2 h3
    obtain ⟨a, b, d⟩ := hf c g t (by omega) h1 h2 h3
    rw [rUp, rUp]
    exact ih (t + 1) _ _ (by omega) a b d
theorem Sim.dn {M : ST} {fc fg : (Nat → Int32) → Nat → Nat → Int32} (hf : ∀ c g t, t < mN M → Sim M c g → RJ M g → Sim M (fc c t) (fg g t) ∧ RJ M (fg g t)) : ∀ (m : Nat) (c g : Nat → Int32), m ≤ mN M → Sim M c g → RJ M g → Sim M (rDn fc m c) (rDn fg m g) ∧ RJ M (rDn fg m g) := by
  intro m
  induction m with
  | zero => intro c g _ h1 h2; exact ⟨h1, h2⟩
  | succ m ih =>
    intro c g hm h1 h2
    obtain ⟨a, b⟩ := hf c g m (by omega) h1 h2
    rw [rDn, rDn]
    exact ih _ _ (by omega) a b
def gT1 (M : ST) (g : Nat → Int32) : Nat → Int32 := rUp (rT1 M) (mN M) 0 (upd g 144 (g 144 + nI 1))
def gT2 (M : ST) (g : Nat → Int32) : Nat → Int32 := rUp (rT2 M) (mN M) 0 g
theorem Sim.tk1 {M : ST} (hM : MI M) {c g : Nat → Int32} (h : Sim M c g) (hJ : RJ M g) (hb : nn (g 144) < 2000) : Sim M (cTk1 M c) (gT1 M g) ∧ RJ M (gT1 M g) ∧ K0 (gT1 M g) :=
  Sim.up (P := K0) (fc := cT1 M) (fg := rT1 M) (fun c g t ht h hJ k => ⟨h.T1 hM hJ.1 ht, RJ_rT1 hM hJ ht, K0_T1 hM hJ.1 k ht⟩) (mN M) 0 _ _ (by omega) (h.T0 hJ.1 hb) (RJ_144 hM hJ _) (K0_T0 h hb)
theorem Sim.tk2 {M : ST} (hM : MI M) (hL : ML M) {c g : Nat → Int32} (h : Sim M c g) (hJ : RJ M g) (k : K0 g) : Sim M (cTk2 M c) (gT2 M g) ∧ RJ M (gT2 M g) := by
  have := Sim.up (P := K2 c) (fc := cT2 c M) (fg := rT2 M) (fun c' g' t ht h' hJ' k' => ⟨h'.T2 hM hL hJ' k' ht, RJ_rT2 hM hJ' ht, K2_T2 hM hJ'.1 k' ht⟩) (mN M) 0 c g (by omega) h hJ (K2.start h k)
  exact ⟨this.1, this.2.1⟩
theorem Sim.tk3 {M : ST} (hM : MI M) {c g : Nat → Int32} (h : Sim M c g) (hJ : RJ M g) : Sim M (rDn (cT3 M) (mN M) c) (rDn (rT3 M) (mN M) g) :=
  (Sim.dn (fc := cT3 M) (fg := rT3 M) (fun c g t ht h hJ => ⟨h.T3 hM hJ.1 ht, RJ_rT3 hM hJ ht⟩) _ _ _ (Nat.le_refl _) h hJ).1
theorem Sim.tick {M : ST} (hM : MI M) (hL : ML M) {c g : Nat → Int32} (h : Sim M c g) (hJ : RJ M g) (hb : nn (g 144) < 2000) : Sim M (cTick M c) (rTick M g) := by
  obtain ⟨s1, j1, k1⟩ := h.tk1 hM hJ hb
  obtain ⟨s2, j2⟩ := s1.tk2 hM hL j1 k1
  exact s2.tk3 hM j2
/-! a tick's number; what is ended stays -/
theorem rCl_144 {M : ST} (hM : MI M) {g : Nat → Int32} (hI : RI g) {t : Nat} (ht : t < mN M) : rCl M g t 144 = g 144 := by
  have hn := hM.n
  have key : ∀ g : Nat → Int32, RI g → rCl1 M g t 144 = g 144 := by
    intro g hI
    unfold rCl1
    split
    · have e2 : rTr (upd (upd g (18 * t) (nI 3)) (18 * t + 8) (g 144)) (nI t) (nI 2) 144 = g 144 := by
        rw [rTr_lt (by omega), pk_un (by omega), pk_un (by omega)]
      have hI2 : RI (rTr (upd (upd g (18 * t) (nI 3)) (18 * t + 8) (g 144)) (nI t) (nI 2)) := RI_rTr (RI.up (RI.up hI (by omega) (fun q _ => by omega) (fun q _ => by omega)) (by omega) (fun q _ => by omega) (fun q _ => by omega)) _ _
      unfold rCl2
      split
      · next c =>
        have := (hM.2.2.1 t c.1 ht).1.2
        rw [rGv_ne hM hI2 c.1 ht (by omega) (by omega) (by omega) (by omega) (fun c _ _ => by omega)]; exact e2
      · exact e2
    · rfl
  unfold rCl
  split
  · rw [key _ (RI.up hI (by omega) (fun q _ => by omega) (fun q _ => by omega)), pk_un (by omega)]
  · exact key _ hI
/-- a row's invariant through a tick's loops, by steps that keep a place -/
theorem rUp_keep {M : ST} {P : (Nat → Int32) → Prop} {f : (Nat → Int32) → Nat → Nat → Int32} (hf : ∀ g t, t < mN M → RJ M g → P g → RJ M (f g t) ∧ P (f g t)) : ∀ (m t : Nat) (g : Nat → Int32), t + m = mN M → RJ M g → P g → RJ M (rUp f m t g) ∧ P (rUp f m t g) := by
  intro m
  induction m with
  | zero => intro t g _ h1 h2; exact ⟨h1, h2⟩
  | succ m ih =>
    intro t g ht h1 h2
    obtain ⟨a, b⟩ := hf g t (by omega) h1 h2
    rw [rUp]
    exact ih (t + 1) _ (by omega) a b
theorem rDn_keep {M : ST} {P : (Nat → Int32) → Prop} {f : (Nat → Int32) → Nat → Nat → Int32} (hf : ∀ g t, t < mN M → RJ M g → P g → RJ M (f g t) ∧ P (f g t)) : ∀ (m : Nat) (g : Nat → Int32), m ≤ mN M → RJ M g → P g → RJ M (rDn f m g) ∧ P (rDn f m g) := by
  intro m
  induction m with
  | zero => intro g _ h1 h2; exact ⟨h1, h2⟩
  | succ m ih =>
    intro g hm h1 h2
    obtain ⟨a, b⟩ := hf g m (by omega) h1 h2
    rw [rDn]
    exact ih _ (by omega) a b
theorem rTick_keep {M : ST} (hM : MI M) {P : (Nat → Int32) → Prop} (h1 : ∀ g t, t < mN M → RJ M g → P g → P (rT1 M g t)) (h2 : ∀ g t, t < mN M → RJ M g → P g → P (rT2 M g t)) (h3 : ∀ g t, t < mN M → RJ M g → P g → P (rT3 M g t)) {g : Nat → Int32} (hJ : RJ M g) (h0 : P (upd g 144 (g 144 + nI 1))) : P (rTick M g) := by
  obtain ⟨a1, b1⟩ := rUp_keep (P := P) (fun g t ht hJ p => ⟨RJ_rT1 hM hJ ht, h1 g t ht hJ p⟩) (mN M) 0 _ (by omega) (RJ_144 hM hJ (g 144 + nI 1)) h0
  obtain ⟨a2, b2⟩ := rUp_keep (P := P) (fun g t ht hJ p => ⟨RJ_rT2 hM hJ ht, h2 g t ht hJ p⟩) (mN M) 0 _ (by omega) a1 b1
  exact (rDn_keep (P := P) (fun g t ht hJ p => ⟨RJ_rT3 hM hJ ht, h3 g t ht hJ p⟩) (mN M) _ (Nat.le_refl _) a2 b2).2
theorem rTick_144 {M : ST} (hM : MI M) {g : Nat → Int32} (hJ : RJ M g) : rTick M g 144 = g 144 + nI 1 := by
  have h8 := hM.n
  refine rTick_keep hM (P := fun r => r 144 = g 144 + nI 1) (fun r t ht hJ p => ?_) (fun r t ht hJ p => ?_) (fun r t ht hJ p => ?_) hJ pk_us
  · unfold rT1
    split
    · rw [rClo_144 hM (by omega), rCo_ne (hJ.1.2 t (by omega)).2 (by omega)]; exact p
    · exact p
  · unfold rT2
    split
    · rw [(Mv1_mv hM hJ.1 (by omega)).1]; exact p
    · exact p
  · unfold rT3
    split
    · rw [rCl_144 hM hJ.1 ht]; exact p
    · exact p
