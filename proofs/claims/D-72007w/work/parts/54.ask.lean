set_option maxRecDepth 100000
/-! asked children: the range is free of those that do not run -/
theorem rAskL_add {P : Nat → Int32} {t : Int32} : ∀ (m k f : Nat) (g : Nat → Int32), rAskL P t (m + k) f g = rAskL P t k (f + m) (rAskL P t m f g) := by
  intro m
  induction m with
  | zero => intro k f g; rw [Nat.zero_add]; rfl
  | succ m ih =>
    intro k f g
    rw [Nat.add_right_comm, rAskL, rAskL, ih, show f + 1 + m = f + (m + 1) by omega]
theorem rAskL_skip {P : Nat → Int32} {t : Int32} : ∀ (m f : Nat) (g : Nat → Int32), (∀ q, f ≤ q → q < f + m → ¬ (P q = t ∧ g (18 * q) = nI 1)) → rAskL P t m f g = g := by
  intro m
  induction m with
  | zero => intro f g _; rfl
  | succ m ih =>
    intro f g h
    rw [rAskL, if_neg (h f (Nat.le_refl _) (by omega))]
    exact ih (f + 1) g (fun q h1 h2 => h q (by omega) (by omega))
theorem rAskL_cong {P P' : Nat → Int32} {t : Int32} : ∀ (m f : Nat) (g : Nat → Int32), (∀ q, f ≤ q → q < f + m → g (18 * q) = nI 1 → P q = P' q) → rAskL P t m f g = rAskL P' t m f g := by
  intro m
  induction m with
  | zero => intro f g _; rfl
  | succ m ih =>
    intro f g h
    rw [rAskL, rAskL]
    have e : (P f = t ∧ g (18 * f) = nI 1) ↔ (P' f = t ∧ g (18 * f) = nI 1) := by
      constructor
      · rintro ⟨a, b⟩; exact ⟨(h f (Nat.le_refl _) (by omega) b).symm.trans a, b⟩
      · rintro ⟨a, b⟩; exact ⟨(h f (Nat.le_refl _) (by omega) b).trans a, b⟩
    by_cases c : P f = t ∧ g (18 * f) = nI 1
    · rw [if_pos c, if_pos (e.mp c)]
      exact ih (f + 1) _ (fun q h1 h2 h3 => h q (by omega) (by omega) (by rw [pk_un (by omega)] at h3; exact h3))
    · rw [if_neg c, if_neg (fun z => c (e.mpr z))]
      exact ih (f + 1) _ (fun q h1 h2 h3 => h q (by omega) (by omega) h3)
/-- tasks behind the tree's are unbegun -/
def UB (M : ST) (c : Nat → Int32) : Prop := ∀ t, mN M ≤ t → t < 8 → c (18 * t) = nI 0
theorem nI_inj {p q : Nat} (hp : p < 2 ^ 31) (hq : q < 2 ^ 31) (h : nI p = nI q) : p = q := by
  have := congrArg Int32.toNatClampNeg h
  rwa [nI_clamp hp, nI_clamp hq] at this
theorem rAsk_eq {S M : ST} {c : Nat → Int32} {t : Nat} (hT : TR S M) (hM : MI M) (hu : UB M c) (ht : t < 8) : rAskL (S 2) (nI t) (8 - (t + 1)) (t + 1) c = rAsk M (nI t) c := by
  have h8 := hM.n
  have h1 := hM.2.1
  unfold rAsk
  have nr : ∀ q, mN M ≤ q → q < 8 → ¬ c (18 * q) = nI 1 := fun q a b e => by rw [hu q a b] at e; exact absurd e (by decide)
  rw [rAskL_cong (P' := M 521) _ _ _ (fun q a b e => hT.par (Nat.lt_of_not_le (fun z => nr q z (by omega) e)))]
  have e1 : rAskL (M 521) (nI t) 7 1 c = rAskL (M 521) (nI t) (mN M - 1) 1 c := by
    rw [show 7 = (mN M - 1) + (8 - mN M) by omega, rAskL_add]
    refine rAskL_skip _ _ _ (fun q a b e => ?_)
    have e2 := e.2
    rw [rAskL_ne _ _ _ (fun c' _ _ => by omega)] at e2
    exact nr q (by omega) (by omega) e2
  have e2 : rAskL (M 521) (nI t) 7 1 c = rAskL (M 521) (nI t) (8 - (t + 1)) (t + 1) c := by
    rw [show 7 = t + (8 - (t + 1)) by omega, rAskL_add, Nat.add_comm 1 t]
    congr 1
    refine rAskL_skip _ _ _ (fun q a b e => ?_)
    by_cases hq : q < mN M
    · obtain ⟨⟨e3, e4⟩, e5⟩ := hM.2.2.1 q (by omega) hq
      rw [e3] at e
      exact absurd (nI_inj (by omega) (by omega) e.1) (by omega)
    · exact nr q (by omega) (by omega) e.2
  rw [← e1, e2]
