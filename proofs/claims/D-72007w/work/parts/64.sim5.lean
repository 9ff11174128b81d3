set_option maxRecDepth 100000
/-! SIM is kept: single places, beginning, working, moving -/
theorem Sim.up1 {M : ST} {c g : Nat → Int32} (h : Sim M c g) (hI : RI g) {t : Nat} (ht : t < mN M) (h8 : mN M ≤ 8) (v : Int32) : Sim M (upd c (18 * t + 1) v) (upd g (18 * t + 1) v) := by
  have ht8 : t < 8 := by omega
  obtain ⟨⟨a0, a1, a2, a5, a8, a9⟩, b, d, e, f, i⟩ := h.1 t ht8
  have k1 := (hI.2 t ht8).2.2
  have z : ∀ (r : Nat → Int32) (j : Nat), j ≠ 1 → upd r (18 * t + 1) v (18 * t + j) = r (18 * t + j) := fun r j hj => pk_un (by omega)
  have z0 : ∀ (r : Nat → Int32), upd r (18 * t + 1) v (18 * t) = r (18 * t) := fun r => pk_un (by omega)
  refine h.task hI ht8 (fun j hj => pk_un (by omega)) (fun j hj => pk_un (by omega)) ?_ ht
  refine ⟨⟨?_, ?_, ?_, ?_, ?_, ?_⟩, ?_, ?_, ?_, ?_, ?_⟩
  · rw [z0, z0]; exact a0
  · rw [pk_us, pk_us]
  · rw [z _ 2 (by decide), z _ 2 (by decide)]; exact a2
  · rw [z _ 5 (by decide), z _ 5 (by decide)]; exact a5
  · rw [z _ 8 (by decide), z _ 8 (by decide)]; exact a8
  · rw [z _ 9 (by decide), z _ 9 (by decide)]; exact a9
  · unfold Sb; rw [z0, z _ 5 (by decide)]; exact b
  · intro k hk
    rw [z _ 9 (by decide)] at hk
    rw [pk_un (by omega), pk_un (by omega)]; exact d k hk
  · unfold Sw; rw [z0, z _ 3 (by decide), z _ 3 (by decide), z _ 6 (by decide)]; exact e
  · unfold Sd; rw [z0, z _ 4 (by decide), z _ 4 (by decide), z _ 7 (by decide), z _ 7 (by decide), pk_un (by omega : 144 ≠ 18 * t + 1)]; exact f
  · unfold Se; rw [z0, z _ 8 (by decide), pk_un (by omega : 144 ≠ 18 * t + 1)]; exact i
theorem Sim.up2 {M : ST} {c g : Nat → Int32} (h : Sim M c g) (hI : RI g) {t : Nat} (ht : t < mN M) (h8 : mN M ≤ 8) (v : Int32) : Sim M (upd c (18 * t + 2) v) (upd g (18 * t + 2) v) := by
  have ht8 : t < 8 := by omega
  obtain ⟨⟨a0, a1, a2, a5, a8, a9⟩, b, d, e, f, i⟩ := h.1 t ht8
  have k1 := (hI.2 t ht8).2.2
  have z : ∀ (r : Nat → Int32) (j : Nat), j ≠ 2 → upd r (18 * t + 2) v (18 * t + j) = r (18 * t + j) := fun r j hj => pk_un (by omega)
  have z0 : ∀ (r : Nat → Int32), upd r (18 * t + 2) v (18 * t) = r (18 * t) := fun r => pk_un (by omega)
  refine h.task hI ht8 (fun j hj => pk_un (by omega)) (fun j hj => pk_un (by omega)) ?_ ht
  refine ⟨⟨?_, ?_, ?_, ?_, ?_, ?_⟩, ?_, ?_, ?_, ?_, ?_⟩
  · rw [z0, z0]; exact a0
  · rw [z _ 1 (by decide), z _ 1 (by decide)]; exact a1
  · rw [pk_us, pk_us]
  · rw [z _ 5 (by decide), z _ 5 (by decide)]; exact a5
  · rw [z _ 8 (by decide), z _ 8 (by decide)]; exact a8
  · rw [z _ 9 (by decide), z _ 9 (by decide)]; exact a9
  · unfold Sb; rw [z0, z _ 5 (by decide)]; exact b
  · intro k hk
    rw [z _ 9 (by decide)] at hk
    rw [pk_un (by omega), pk_un (by omega)]; exact d k hk
  · unfold Sw; rw [z0, z _ 3 (by decide), z _ 3 (by decide), z _ 6 (by decide)]; exact e
  · unfold Sd; rw [z0, z _ 4 (by decide), z _ 4 (by decide), z _ 7 (by decide), z _ 7 (by decide), pk_un (by omega : 144 ≠ 18 * t + 2)]; exact f
  · unfold Se; rw [z0, z _ 8 (by decide), pk_un (by omega : 144 ≠ 18 * t + 2)]; exact i
/-- a running task: what it has worked -/
theorem Sim.up3 {M : ST} {c g : Nat → Int32} (h : Sim M c g) (hI : RI g) {t : Nat} (ht : t < mN M) (h8 : mN M ≤ 8) (hr : g (18 * t) = nI 1) (v : Int32) : Sim M (upd c (18 * t + 3) v) (upd g (18 * t + 3) v) := by
  have ht8 : t < 8 := by omega
  obtain ⟨⟨a0, a1, a2, a5, a8, a9⟩, b, d, e, f, i⟩ := h.1 t ht8
  have k1 := (hI.2 t ht8).2.2
  have z : ∀ (r : Nat → Int32) (j : Nat), j ≠ 3 → upd r (18 * t + 3) v (18 * t + j) = r (18 * t + j) := fun r j hj => pk_un (by omega)
  have z0 : ∀ (r : Nat → Int32), upd r (18 * t + 3) v (18 * t) = r (18 * t) := fun r => pk_un (by omega)
  refine h.task hI ht8 (fun j hj => pk_un (by omega)) (fun j hj => pk_un (by omega)) ?_ ht
  refine ⟨⟨?_, ?_, ?_, ?_, ?_, ?_⟩, ?_, ?_, ?_, ?_, ?_⟩
  · rw [z0, z0]; exact a0
  · rw [z _ 1 (by decide), z _ 1 (by decide)]; exact a1
  · rw [z _ 2 (by decide), z _ 2 (by decide)]; exact a2
  · rw [z _ 5 (by decide), z _ 5 (by decide)]; exact a5
  · rw [z _ 8 (by decide), z _ 8 (by decide)]; exact a8
  · rw [z _ 9 (by decide), z _ 9 (by decide)]; exact a9
  · unfold Sb; rw [z0, z _ 5 (by decide)]; exact b
  · intro k hk
    rw [z _ 9 (by decide)] at hk
    rw [pk_un (by omega), pk_un (by omega)]; exact d k hk
  · unfold Sw
    rw [z0, pk_us, pk_us, z _ 6 (by decide)]
    exact ⟨fun _ => ⟨rfl, (e.1 (Or.inr hr)).2⟩, fun q => absurd (hr.symm.trans q) (by decide)⟩
  · unfold Sd; rw [z0, z _ 4 (by decide), z _ 4 (by decide), z _ 7 (by decide), z _ 7 (by decide), pk_un (by omega : 144 ≠ 18 * t + 3)]; exact f
  · unfold Se; rw [z0, z _ 8 (by decide), pk_un (by omega : 144 ≠ 18 * t + 3)]; exact i
/-- a closing task: what it has cleaned -/
theorem Sim.up36 {M : ST} {c g : Nat → Int32} (h : Sim M c g) (hI : RI g) {t : Nat} (ht : t < mN M) (h8 : mN M ≤ 8) (hr : g (18 * t) = nI 2) (v : Int32) : Sim M (upd c (18 * t + 3) v) (upd g (18 * t + 6) v) := by
  have ht8 : t < 8 := by omega
  obtain ⟨⟨a0, a1, a2, a5, a8, a9⟩, b, d, e, f, i⟩ := h.1 t ht8
  have k1 := (hI.2 t ht8).2.2
  have z : ∀ (j : Nat), j ≠ 3 → upd c (18 * t + 3) v (18 * t + j) = c (18 * t + j) := fun j hj => pk_un (by omega)
  have z0 : upd c (18 * t + 3) v (18 * t) = c (18 * t) := pk_un (by omega)
  have y : ∀ (j : Nat), j ≠ 6 → upd g (18 * t + 6) v (18 * t + j) = g (18 * t + j) := fun j hj => pk_un (by omega)
  have y0 : upd g (18 * t + 6) v (18 * t) = g (18 * t) := pk_un (by omega)
  refine h.task hI ht8 (fun j hj => pk_un (by omega)) (fun j hj => pk_un (by omega)) ?_ ht
  refine ⟨⟨?_, ?_, ?_, ?_, ?_, ?_⟩, ?_, ?_, ?_, ?_, ?_⟩
  · rw [z0, y0]; exact a0
  · rw [z 1 (by decide), y 1 (by decide)]; exact a1
  · rw [z 2 (by decide), y 2 (by decide)]; exact a2
  · rw [z 5 (by decide), y 5 (by decide)]; exact a5
  · rw [z 8 (by decide), y 8 (by decide)]; exact a8
  · rw [z 9 (by decide), y 9 (by decide)]; exact a9
  · unfold Sb; rw [y0, y 5 (by decide)]; exact b
  · intro k hk
    rw [y 9 (by decide)] at hk
    rw [pk_un (by omega), pk_un (by omega)]; exact d k hk
  · unfold Sw
    rw [y0, pk_us, pk_us]
    exact ⟨fun q => by rcases q with q | q <;> exact absurd (hr.symm.trans q) (by decide), fun _ => rfl⟩
  · unfold Sd; rw [y0, z 4 (by decide), y 4 (by decide), z 7 (by decide), y 7 (by decide), pk_un (by omega : 144 ≠ 18 * t + 6)]; exact f
  · unfold Se; rw [y0, y 8 (by decide), pk_un (by omega : 144 ≠ 18 * t + 6)]; exact i
theorem inN_ne9 {v : Int32} {n : Nat} (h : inN v n) : ¬ v = (-9) := fun e => by
  have := h.1
  rw [e] at this
  exact absurd this (by decide)
theorem Sim.un9 {M : ST} {c g : Nat → Int32} (h : Sim M c g) {q : Nat} (hq : q < 8) : c (18 * q + 7) = (-9) ↔ g (18 * q) = nI 0 := by
  have f := (h.1 q hq).2.2.2.2.1
  constructor
  · intro e
    by_cases z : g (18 * q) = nI 0
    · exact z
    · obtain ⟨-, f2, f3⟩ := f.2 z
      rw [f2] at e
      exact absurd e (inN_ne9 f3)
  · intro e
    exact (f.1 e).2
theorem Sim.BG {M : ST} {c g : Nat → Int32} (h : Sim M c g) : BG c := fun q hq e => by
  rw [h.how hq]; exact (h.un9 hq).mp e
theorem rBCL_add {M : ST} {t : Int32} {g : Nat → Int32} : ∀ (m k f : Nat), (∀ q, f ≤ q → q < f + m → ¬ (M 521 q = t ∧ g (18 * q) = nI 0)) → rBCL M t (m + k) f g = rBCL M t k (f + m) g := by
  intro m
  induction m with
  | zero => intro k f _; rw [Nat.zero_add]; rfl
  | succ m ih =>
    intro k f hq
    rw [Nat.add_right_comm, rBCL, if_neg (hq f (Nat.le_refl _) (by omega)), ih k (f + 1) (fun q h1 h2 => hq q (by omega) (by omega)), show f + 1 + m = f + (m + 1) by omega]
theorem Sim.bc {M : ST} (hM : MI M) (hL : ML M) {c g : Nat → Int32} (h : Sim M c g) (hI : RI g) {t : Nat} (ht : t < mN M) (hr : ¬ g (18 * t) = nI 0) : Sim M (cBC M t c) (rBC M (nI t) g) := by
  have h8 := hM.n
  have key : ∀ m q, q + m = mN M → t < q → Sim M (cBCL M t c m q) (rBCL M (nI t) m q g) := by
    intro m
    induction m with
    | zero => intro q _ _; exact h
    | succ m ih =>
      intro q hq htq
      rw [cBCL, rBCL]
      by_cases e : M 521 q = nI t ∧ g (18 * q) = nI 0
      · rw [if_pos e, if_pos ⟨e.1, (h.un9 (by omega)).mpr e.2⟩]
        exact h.beg hM hL hI (by omega) e.1 htq hr e.2
      · rw [if_neg e, if_neg (fun z => e ⟨z.1, (h.un9 (by omega)).mp z.2⟩)]
        exact ih (q + 1) (by omega) (by omega)
  unfold cBC rBC
  rw [show mN M - 1 = t + (mN M - (t + 1)) by omega, rBCL_add t _ 1 (fun q h1 h2 e => by
    obtain ⟨⟨e3, e4⟩, e5⟩ := hM.2.2.1 q (by omega) (by omega)
    have e1 := e.1
    rw [e3] at e1
    exact absurd (nI_inj (by omega) (by omega) e1) (by omega)), Nat.add_comm 1 t]
  exact key _ _ (by omega) (by omega)
theorem rBu_cong {P : Nat → Int32} {t : Int32} {c g : Nat → Int32} : ∀ m, (∀ q, q ≤ m → c (18 * q) = g (18 * q)) → rBu P t c m = rBu P t g m := by
  intro m
  induction m with
  | zero => intro _; rfl
  | succ m ih => intro e; rw [rBu, rBu, ih (fun q h => e q (by omega)), e (m + 1) (Nat.le_refl _)]
theorem Sim.busy {M : ST} (hM : MI M) {c g : Nat → Int32} (h : Sim M c g) (t : Int32) : rBusy M t c ↔ rBusy M t g := by
  have h8 := hM.n
  have h1 := hM.2.1
  unfold rBusy
  rw [rBu_cong (g := g) _ (fun q hq => h.how (by omega))]
theorem Sim.wk {M : ST} (hM : MI M) (hL : ML M) {c g : Nat → Int32} (h : Sim M c g) (hI : RI g) {t : Nat} (ht : t < mN M) (hr : g (18 * t) = nI 1) (hb : nn (g (18 * t + 2)) < 6) : Sim M (cWk M c t) (rWk M g t) := by
  have h8 := hM.n
  have ht8 : t < 8 := by omega
  obtain ⟨⟨a0, a1, a2, a5, a8, a9⟩, b, d, e, f, i⟩ := h.1 t ht8
  have a3 := (e.1 (Or.inr hr)).1
  have e2 := (hI.2 t ht8).1.1
  have h1 : inN (g (18 * t + 2) + nI 1) 6 := inN.of (nI_nat1 e2) (by omega) (by decide)
  have hI2 : RI (upd g (18 * t + 2) (g (18 * t + 2) + nI 1)) := hI.up2 ht8 h1
  unfold cWk rWk
  rw [a2, a3]
  by_cases k1 : M 523 (12 * t + 2 * nn (g (18 * t + 2))) = nI 119
  · rw [if_pos k1, if_pos k1]
    by_cases k2 : g (18 * t + 3) + nI 1 = M 523 (12 * t + 2 * nn (g (18 * t + 2)) + 1)
    · rw [if_pos k2, if_pos k2]
      have s1 := h.up3 hI ht h8 hr (g (18 * t + 3) + nI 1)
      have I1 : RI (upd g (18 * t + 3) (g (18 * t + 3) + nI 1)) := hI.up (by omega) (fun q _ => by omega) (fun q _ => by omega)
      have s2 := s1.up3 I1 ht h8 (by rw [pk_un (by omega)]; exact hr) (nI 0)
      have I2 : RI (upd (upd g (18 * t + 3) (g (18 * t + 3) + nI 1)) (18 * t + 3) (nI 0)) := I1.up (by omega) (fun q _ => by omega) (fun q _ => by omega)
      exact s2.up2 I2 ht h8 _
    · rw [if_neg k2, if_neg k2]
      exact h.up3 hI ht h8 hr _
  · rw [if_neg k1, if_neg k1]
    by_cases k2 : M 523 (12 * t + 2 * nn (g (18 * t + 2))) = nI 98
    · rw [if_pos k2, if_pos k2]
      exact (h.up2 hI ht h8 _).bc hM hL hI2 ht (by rw [pk_un (by omega), hr]; decide)
    · rw [if_neg k2, if_neg k2]
      by_cases k3 : M 523 (12 * t + 2 * nn (g (18 * t + 2))) = nI 106
      · rw [if_pos k3, if_pos k3]
        have hbu := h.busy hM (nI t)
        by_cases k4 : rBusy M (nI t) g
        · rw [if_pos k4, if_pos (hbu.mpr k4)]
          exact h.up2 hI ht h8 _
        · rw [if_neg k4, if_neg (fun z => k4 (hbu.mp z))]
          exact h.up2 hI ht h8 _
      · rw [if_neg k3, if_neg k3]
        by_cases k4 : M 523 (12 * t + 2 * nn (g (18 * t + 2))) = nI 120
        · rw [if_pos k4, if_pos k4]
          exact (h.up2 hI ht h8 _).ask hM hI2 _
        · rw [if_neg k4, if_neg k4]
          exact (h.co hI ht h8 _).clo hM (RI_rCo hI ht8 _) ht (by rw [rCo_ne (hI.2 t ht8).2 (by omega)]; exact hr) _
theorem Sim.mv {M : ST} (hM : MI M) (hL : ML M) {c g : Nat → Int32} (h : Sim M c g) (hJ : RJ M g) {t : Nat} (ht : t < mN M) (hr : g (18 * t) = nI 1) : Sim M (cMv M c t) (rMv M g t) := by
  have h8 := hM.n
  have ht8 : t < 8 := by omega
  obtain ⟨⟨a0, a1, a2, a5, a8, a9⟩, b, d, e, f, i⟩ := h.1 t ht8
  unfold cMv rMv
  rw [a2, a5]
  by_cases k1 : g (18 * t + 5) = nI 1 ∧ ¬ g (18 * t + 2) < M 525 t
  · rw [if_pos k1, if_pos k1]; exact h.clo hM hJ.1 ht hr _
  · rw [if_neg k1, if_neg k1]
    by_cases k2 : g (18 * t + 2) = M 522 t
    · rw [if_pos k2, if_pos k2]; exact h.clo hM hJ.1 ht hr _
    · rw [if_neg k2, if_neg k2]
      refine h.wk hM hL hJ.1 ht hr ?_
      have b1 := (hJ.1.2 t ht8).1
      have b2 := hM.2.2.2 t ht
      have b3 := hJ.2 t ht
      have : nn (g (18 * t + 2)) ≠ nn (M 522 t) := fun z => k2 (by rw [b1.1, b2.1, z])
      have := b2.2
      omega
/-! ending, cleaning up -/
theorem Sim.end0 {M : ST} {c g : Nat → Int32} (h : Sim M c g) (hI : RI g) {t : Nat} (ht : t < mN M) (h8 : mN M ≤ 8) (hr : g (18 * t) = nI 2) : Sim M (cEnd0 c t) (rTr (upd (upd g (18 * t) (nI 3)) (18 * t + 8) (g 144)) (nI t) (nI 2)) := by
  have ht8 : t < 8 := by omega
  obtain ⟨⟨a0, a1, a2, a5, a8, a9⟩, b, d, e, f, i⟩ := h.1 t ht8
  have t4 := h.2.2.1
  have tn := h.2.2.2.1
  unfold cEnd0
  refine Sim.tr ?_ ((hI.up (by omega) (fun q _ => by omega) (fun q _ => by omega)).up (by omega) (fun q _ => by omega) (fun q _ => by omega)) _ _
  have z : ∀ (j : Nat), j ≠ 0 → j ≠ 8 → upd (upd (upd c (18 * t) (nI 0)) (18 * t) (nI 3)) (18 * t + 8) (c 144) (18 * t + j) = c (18 * t + j) := fun j h1 h2 => by rw [pk_un (by omega), pk_un (by omega), pk_un (by omega)]
  have y : ∀ (j : Nat), j ≠ 0 → j ≠ 8 → upd (upd g (18 * t) (nI 3)) (18 * t + 8) (g 144) (18 * t + j) = g (18 * t + j) := fun j h1 h2 => by rw [pk_un (by omega), pk_un (by omega)]
  have y0 : upd (upd g (18 * t) (nI 3)) (18 * t + 8) (g 144) (18 * t) = nI 3 := by rw [pk_un (by omega), pk_us]
  have y4 : upd (upd g (18 * t) (nI 3)) (18 * t + 8) (g 144) 144 = g 144 := by rw [pk_un (by omega), pk_un (by omega)]
  refine h.task hI ht8 (fun j hj => by rw [pk_un (by omega), pk_un (by omega), pk_un (by omega)]) (fun j hj => by rw [pk_un (by omega), pk_un (by omega)]) ?_ ht
  refine ⟨⟨?_, ?_, ?_, ?_, ?_, ?_⟩, ?_, ?_, ?_, ?_, ?_⟩
  · rw [y0, pk_un (by omega), pk_us]
  · rw [z 1 (by decide) (by decide), y 1 (by decide) (by decide)]; exact a1
  · rw [z 2 (by decide) (by decide), y 2 (by decide) (by decide)]; exact a2
  · rw [z 5 (by decide) (by decide), y 5 (by decide) (by decide)]; exact a5
  · rw [pk_us, pk_us]; exact t4
  · rw [z 9 (by decide) (by decide), y 9 (by decide) (by decide)]; exact a9
  · unfold Sb; rw [y0, y 5 (by decide) (by decide)]; exact ⟨Or.inr (Or.inr (Or.inr rfl)), b.2⟩
  · intro k hk
    rw [y 9 (by decide) (by decide)] at hk
    rw [pk_un (by omega), pk_un (by omega), pk_un (by omega), pk_un (by omega), pk_un (by omega)]; exact d k hk
  · unfold Sw
    rw [y0]
    exact ⟨fun q => by rcases q with q | q <;> exact absurd q (by decide), fun q => absurd q (by decide)⟩
  · unfold Sd
    rw [y0, z 4 (by decide) (by decide), y 4 (by decide) (by decide), z 7 (by decide) (by decide), y 7 (by decide) (by decide), y4]
    exact ⟨fun z => absurd z (by decide), fun _ => f.2 (by rw [hr]; decide)⟩
  · unfold Se
    rw [y0, pk_us, y4]
    exact ⟨fun _ => ⟨tn.1, Nat.le_refl _⟩, fun q => absurd rfl q⟩
theorem Sim.gvL {M : ST} (hM : MI M) {t p : Nat} (ht : t < 8) (hp : p < t) (hpm : p < mN M) : ∀ (m k : Nat) (c g : Nat → Int32), k + m ≤ nn (g (18 * t + 9)) → RI g → Sim M c g → Sim M (rGvL t p m k c) (rGvL t p m k g) := by
  have h8 := hM.n
  intro m
  induction m with
  | zero => intro k c g _ _ h; exact h
  | succ m ih =>
    intro k c g hk hI h
    have hl := (h.1 t ht).2.2.1 k (by omega)
    rw [rGvL, rGvL, ← Nat.add_assoc, hl]
    exact ih (k + 1) _ _ (by rw [rCo_ne (hI.2 p (by omega)).2 (by omega)]; omega) (RI_rCo hI (by omega) _) (h.co hI hpm h8 _)
theorem Sim.gv2 {M : ST} (hM : MI M) {c g : Nat → Int32} (h : Sim M c g) (hI : RI g) {p : Nat} (hp : p < mN M) : Sim M (cGv2 M c p) (rGv2 M g p) := by
  have h8 := hM.n
  obtain ⟨⟨a0, a1, a2, a5, a8, a9⟩, -⟩ := h.1 p (by omega)
  unfold cGv2 rGv2
  rw [a0, a1]
  by_cases k1 : g (18 * p) = nI 1 ∧ (M 513 16 >>> (nI p &&& 31)) &&& nI 1 = 0
  · rw [if_pos k1, if_pos k1]; exact h.clo hM hI hp k1.1 _
  · rw [if_neg k1, if_neg k1]
    by_cases k2 : g (18 * p) = nI 2 ∧ g (18 * p + 1) = 0
    · rw [if_pos k2, if_pos k2]
      exact (h.up1 hI hp h8 _).ask hM (hI.up (by omega) (fun q _ => by omega) (fun q _ => by omega)) _
    · rw [if_neg k2, if_neg k2]; exact h
theorem Sim.en {M : ST} (hM : MI M) {c g : Nat → Int32} (h : Sim M c g) (hI : RI g) {t : Nat} (ht : t < mN M) (hr : g (18 * t) = nI 2) : Sim M (cEnd M c t) (rCl2 M (rTr (upd (upd g (18 * t) (nI 3)) (18 * t + 8) (g 144)) (nI t) (nI 2)) t) := by
  have h8 := hM.n
  have ht8 : t < 8 := by omega
  obtain ⟨⟨a0, a1, a2, a5, a8, a9⟩, -⟩ := h.1 t ht8
  have s0 := h.end0 hI ht h8 hr
  have I0 : RI (rTr (upd (upd g (18 * t) (nI 3)) (18 * t + 8) (g 144)) (nI t) (nI 2)) := RI_rTr ((hI.up (by omega) (fun q _ => by omega) (fun q _ => by omega)).up (by omega) (fun q _ => by omega) (fun q _ => by omega)) _ _
  have y1 : rTr (upd (upd g (18 * t) (nI 3)) (18 * t + 8) (g 144)) (nI t) (nI 2) (18 * t + 1) = g (18 * t + 1) := by rw [rTr_lt (by omega), pk_un (by omega), pk_un (by omega)]
  have y9 : rTr (upd (upd g (18 * t) (nI 3)) (18 * t + 8) (g 144)) (nI t) (nI 2) (18 * t + 9) = g (18 * t + 9) := by rw [rTr_lt (by omega), pk_un (by omega), pk_un (by omega)]
  unfold cEnd rCl2
  rw [y1, a1, a9]
  by_cases k1 : 0 < t ∧ (g (18 * t + 1) = nI 1 ∨ g (18 * t + 1) = nI 3)
  · rw [if_pos k1, if_pos k1]
    obtain ⟨⟨p1, p2⟩, p3⟩ := hM.2.2.1 t k1.1 ht
    unfold rGv
    rw [y9]
    exact (Sim.gvL hM ht8 p3 (by omega) _ _ _ _ (by rw [y9]; omega) I0 s0).gv2 hM (RI_rGvL (by omega) _ _ _ I0) (by omega)
  · rw [if_neg k1, if_neg k1]; exact s0
theorem Sim.cl {M : ST} (hM : MI M) {c g : Nat → Int32} (h : Sim M c g) (hI : RI g) {t : Nat} (ht : t < mN M) (hr : g (18 * t) = nI 2) (hb : ¬ rBusy M (nI t) g) : Sim M (cCl M c t) (rCl M g t) := by
  have h8 := hM.n
  have ht8 : t < 8 := by omega
  have e := (h.1 t ht8).2.2.2.1.2 hr
  have key : ∀ c g : Nat → Int32, Sim M c g → RI g → g (18 * t) = nI 2 → Sim M (cCl1 M c t) (rCl1 M g t) := by
    intro c g h hI hr
    have e := (h.1 t ht8).2.2.2.1.2 hr
    unfold cCl1 rCl1
    rw [e]
    by_cases k : g (18 * t + 6) = M 526 t
    · rw [if_pos k, if_pos k]; exact h.en hM hI ht hr
    · rw [if_neg k, if_neg k]; exact h
  unfold cCl rCl
  rw [if_neg (fun z => hb ((h.busy hM _).mp z)), e]
  by_cases k : g (18 * t + 6) < M 526 t
  · rw [if_pos k, if_pos k]
    exact key _ _ (h.up36 hI ht h8 hr _) (hI.up (by omega) (fun q _ => by omega) (fun q _ => by omega)) (by rw [pk_un (by omega)]; exact hr)
  · rw [if_neg k, if_neg k]
    exact key _ _ h hI hr
