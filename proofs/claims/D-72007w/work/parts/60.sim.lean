set_option maxRecDepth 100000
/-! SIM: a row c of the component tells what a row g of the model tells -/
def dueR (a b : Int32) : Prop := (a = nI 100000 ∧ b = nI 9999) ∨ (a = b ∧ inN b 5000)
def Sa (c g : Nat → Int32) (t : Nat) : Prop := c (18 * t) = g (18 * t) ∧ c (18 * t + 1) = g (18 * t + 1) ∧ c (18 * t + 2) = g (18 * t + 2) ∧ c (18 * t + 5) = g (18 * t + 5) ∧ c (18 * t + 8) = g (18 * t + 8) ∧ c (18 * t + 9) = g (18 * t + 9)
def Sb (g : Nat → Int32) (t : Nat) : Prop := (g (18 * t) = nI 0 ∨ g (18 * t) = nI 1 ∨ g (18 * t) = nI 2 ∨ g (18 * t) = nI 3) ∧ (g (18 * t + 5) = nI 0 ∨ g (18 * t + 5) = nI 1)
def Sl (c g : Nat → Int32) (t : Nat) : Prop := ∀ k, k < nn (g (18 * t + 9)) → c (18 * t + 10 + k) = g (18 * t + 10 + k)
def Sw (c g : Nat → Int32) (t : Nat) : Prop := ((g (18 * t) = nI 0 ∨ g (18 * t) = nI 1) → c (18 * t + 3) = g (18 * t + 3) ∧ g (18 * t + 6) = nI 0) ∧ (g (18 * t) = nI 2 → c (18 * t + 3) = g (18 * t + 6))
def Sd (c g : Nat → Int32) (t : Nat) : Prop := (g (18 * t) = nI 0 → c (18 * t + 4) = (-9) ∧ c (18 * t + 7) = (-9)) ∧ (¬ g (18 * t) = nI 0 → dueR (c (18 * t + 4)) (g (18 * t + 4)) ∧ c (18 * t + 7) = g (18 * t + 7) ∧ inN (g (18 * t + 7)) (nn (g 144)))
def Se (g : Nat → Int32) (t : Nat) : Prop := (g (18 * t) = nI 3 → inN (g (18 * t + 8)) (nn (g 144))) ∧ (¬ g (18 * t) = nI 3 → g (18 * t + 8) = (-9))
def S1 (c g : Nat → Int32) (t : Nat) : Prop := Sa c g t ∧ Sb g t ∧ Sl c g t ∧ Sw c g t ∧ Sd c g t ∧ Se g t
def Sim (M : ST) (c g : Nat → Int32) : Prop := (∀ t, t < 8 → S1 c g t) ∧ UB M g ∧ c 144 = g 144 ∧ inN (g 144) 2000 ∧ c 145 = g 145 ∧ ∀ k, k < nn (g 145) → c (146 + 3 * k) = g (146 + 3 * k) ∧ c (146 + 3 * k + 1) = g (146 + 3 * k + 1) ∧ c (146 + 3 * k + 2) = g (146 + 3 * k + 2)
theorem S1.frame {c g c' g' : Nat → Int32} {t : Nat} (h : S1 c g t) (hc : ∀ j, j < 18 → c' (18 * t + j) = c (18 * t + j)) (hg : ∀ j, j < 18 → g' (18 * t + j) = g (18 * t + j)) (h4 : g' 144 = g 144) (h9 : nn (g (18 * t + 9)) ≤ 8) : S1 c' g' t := by
  obtain ⟨a, b, d, e, f, i⟩ := h
  have c0 : c' (18 * t) = c (18 * t) := hc 0 (by decide)
  have g0 : g' (18 * t) = g (18 * t) := hg 0 (by decide)
  refine ⟨?_, ?_, ?_, ?_, ?_, ?_⟩
  · unfold Sa
    rw [c0, g0, hc 1 (by decide), hg 1 (by decide), hc 2 (by decide), hg 2 (by decide), hc 5 (by decide), hg 5 (by decide), hc 8 (by decide), hg 8 (by decide), hc 9 (by decide), hg 9 (by decide)]
    exact a
  · unfold Sb; rw [g0, hg 5 (by decide)]; exact b
  · intro k hk
    rw [hg 9 (by decide)] at hk
    rw [Nat.add_assoc, hc (10 + k) (by omega), hg (10 + k) (by omega), ← Nat.add_assoc]
    exact d k hk
  · unfold Sw; rw [g0, hc 3 (by decide), hg 3 (by decide), hg 6 (by decide)]; exact e
  · unfold Sd; rw [g0, hc 4 (by decide), hg 4 (by decide), hc 7 (by decide), hg 7 (by decide), h4]; exact f
  · unfold Se; rw [g0, hg 8 (by decide), h4]; exact i
