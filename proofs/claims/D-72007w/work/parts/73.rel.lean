set_option maxRecDepth 100000
/-! THE RELATION between the component's cells (of C) and the model's cells (of M) -/
def HR (C : ST) (b : Nat) (c : Nat → Int32) : Prop := ∀ j, j < 28 → C (b + j) = runCell c j
theorem HR.put {C : ST} {b : Nat} {c : Nat → Int32} (h : HR C b c) : put C b c = C := put_self h
theorem HR.to {C C' : ST} {b : Nat} {c : Nat → Int32} (h : HR C b c) (e : ∀ k, b ≤ k → k < b + 28 → C' k = C k) : HR C' b c := fun j hj => by rw [e (b + j) (by omega) (by omega)]; exact h j hj
theorem HR_put {C : ST} {b : Nat} {c : Nat → Int32} : HR (put C b c) b c := fun j hj => put_at hj
/-- a run of the component and a row of the model -/
def Gd (M : ST) (c g : Nat → Int32) : Prop := Sim M c g ∧ RJ M g ∧ nn (g 144) ≤ 999
def PT (C M : ST) : Prop := MI M ∧ ML M ∧ TR C M
def PN (C M : ST) : Prop := ∃ c, HR C 55 c ∧ Gd M c (M 527)
def PD (C : ST) : Prop := ∃ c, HR C 83 c
def PI (C M : ST) : Prop := ∀ i, i < 2 → (M 533 i = nI 0 ∨ M 533 i = nI 1) ∧ C 172 i = M 533 i ∧ ∃ c, HR C (116 + 28 * i) c ∧ (M 533 i = nI 1 → Gd M c (fun k => M 534 (326 * i + k)))
/-- what was: n runs u of the pool from hb on in the one row, the others w from hf on in the other -/
def UR (C M : ST) (n a hb hf : Nat) (u w : Nat → Nat) : Prop :=
  (n ≤ 12 ∧ a < 12 ∧ hb < 15 ∧ hf < 15) ∧ (M 513 25 = nI n ∧ M 513 26 = nI a) ∧ (C 111 1 = nI hb ∧ C 111 2 = nI ((hb + n) % 15) ∧ C 113 1 = nI hf ∧ C 113 2 = nI ((hf + (12 - n)) % 15)) ∧
  (∀ p, p < n → u p < 12 ∧ C 112 ((hb + p) % 15) = nI (177 + 28 * u p + 1)) ∧ (∀ p, p < 12 - n → w p < 12 ∧ C 114 ((hf + p) % 15) = nI (177 + 28 * w p + 1)) ∧
  ((∀ p q, p < n → q < n → u p = u q → p = q) ∧ (∀ p q, p < 12 - n → q < 12 - n → w p = w q → p = q) ∧ (∀ p q, p < n → q < 12 - n → u p ≠ w q)) ∧
  (∀ i, i < 12 → ∃ c, HR C (177 + 28 * i) c) ∧ (∀ p, p < n → ∃ c, HR C (177 + 28 * u p) c ∧ Gd M c (fun k => M 529 (326 * ((a + 12 - n + p) % 12) + k)))
def PU (C M : ST) : Prop := ∃ (n a hb hf : Nat) (u w : Nat → Nat), UR C M n a hb hf u w
def PF (C M : ST) : Prop := ∃ n, n ≤ 6 ∧ C 0 14 = nI n ∧ M 513 28 = nI n ∧ ∀ k, k < n → ∃ t m, t < mN M ∧ m ≤ 60 ∧ (C 174 k = nI t ∧ M 530 k = nI t) ∧ (C 175 k = nI m ∧ M 531 k = nI m) ∧ C 176 k = M 532 k ∧ (M 532 k = nI 0 ∨ M 532 k = nI 1)
def PX (C M : ST) : Prop := ∃ n, n ≤ 120 ∧ C 0 10 = nI n ∧ M 513 0 = nI n ∧ ∀ j, j < n → (∃ v, v < 256 ∧ M 514 j = nI v) ∧ C 173 j &&& nI 255 = M 514 j
def PB (C : ST) : Prop := ∃ v, BS C 51 v
def RL (C M : ST) : Prop := PT C M ∧ QE C ∧ PN C M ∧ PD C ∧ PI C M ∧ PU C M ∧ PF C M ∧ PX C M ∧ PB C
/-- the model's cells are as they were -/
def UN (S X : ST) : Prop := ∀ k, 513 ≤ k → X k = S k
theorem UN.rf {S : ST} : UN S S := fun _ _ => rfl
theorem UN.tr {S T U : ST} (a : UN S T) (b : UN T U) : UN S U := fun k h => (b k h).trans (a k h)
/-- the tree's arrays are as they were -/
def TE (M M' : ST) : Prop := M' 513 15 = M 513 15 ∧ M' 513 16 = M 513 16 ∧ ∀ k, 521 ≤ k → k < 527 → M' k = M k
theorem TE.rf {M : ST} : TE M M := ⟨rfl, rfl, fun _ _ _ => rfl⟩
theorem TE.n {M M' : ST} (h : TE M M') : mN M' = mN M := by unfold mN; rw [h.1]
theorem Gd.to {M M' : ST} {c g : Nat → Int32} (h : Gd M c g) (e : TE M M') : Gd M' c g := by
  obtain ⟨⟨a, b, d⟩, j, k⟩ := h
  refine ⟨⟨a, fun t h1 h2 => b t (by rw [← e.n]; exact h1) h2, d⟩, j.toS e.1 (e.2.2 522 (by decide) (by decide)), k⟩
theorem Gd.cp {M : ST} {d c g : Nat → Int32} (h : Gd M d g) : Gd M (cpR d c) g := ⟨h.1.cp h.2.1.1, h.2⟩
theorem MI.toE {M M' : ST} (h : MI M) (e : TE M M') : MI M' := h.to e.1 (e.2.2 521 (by decide) (by decide)) (e.2.2 522 (by decide) (by decide))
theorem ML.toE {M M' : ST} (h : ML M) (e : TE M M') : ML M' := fun t ht => by rw [e.2.2 524 (by decide) (by decide)]; exact h t (by rw [← e.n]; exact ht)
theorem TR.toE {C M M' : ST} (h : TR C M) (e : TE M M') : TR C M' := by
  obtain ⟨h1, h2, h3, h4, h5, h6, h7, v, h8, h9⟩ := h
  have en := e.n
  refine ⟨by rw [e.1]; exact h1, fun t ht => ?_, fun t ht => ?_, fun t ht => ?_, fun t ht => ?_, fun t ht => ?_, fun t k ht hk => ?_, v, h8, by rw [e.2.1]; exact h9⟩
  · rw [e.2.2 521 (by decide) (by decide)]; exact h2 t (by rw [← en]; exact ht)
  · rw [e.2.2 522 (by decide) (by decide)]; exact h3 t (by rw [← en]; exact ht)
  · rw [e.2.2 524 (by decide) (by decide)]; exact h4 t (by rw [← en]; exact ht)
  · rw [e.2.2 525 (by decide) (by decide)]; exact h5 t (by rw [← en]; exact ht)
  · rw [e.2.2 526 (by decide) (by decide)]; exact h6 t (by rw [← en]; exact ht)
  · rw [e.2.2 522 (by decide) (by decide)] at hk
    rw [e.2.2 523 (by decide) (by decide)]
    exact h7 t k (by rw [← en]; exact ht) hk
theorem PT.toC {C C' M : ST} (h : PT C M) (e : ∀ k, 1 ≤ k → k < 27 → C' k = C k) : PT C' M := ⟨h.1, h.2.1, h.2.2.to h.1 e⟩
theorem PT.toM {C M M' : ST} (h : PT C M) (e : TE M M') : PT C M' := ⟨h.1.toE e, h.2.1.toE e, h.2.2.toE e⟩
theorem QE.to {C C' : ST} (h : QE C) (e : ∀ k, k = 53 ∨ k = 54 → C' k = C k) : QE C' := by
  obtain ⟨m, h1, h2, h3, h4⟩ := h
  exact ⟨m, h1, by rw [e 53 (by omega)]; exact h2, by rw [e 53 (by omega)]; exact h3, by rw [e 54 (by omega)]; exact h4⟩
theorem PN.toC {C C' M : ST} (h : PN C M) (e : ∀ k, 55 ≤ k → k < 83 → C' k = C k) : PN C' M := by
  obtain ⟨c, h1, h2⟩ := h
  exact ⟨c, h1.to (fun k a b => e k a (by omega)), h2⟩
theorem PN.toM {C M M' : ST} (h : PN C M) (e : TE M M') (e7 : M' 527 = M 527) : PN C M' := by
  obtain ⟨c, h1, h2⟩ := h
  exact ⟨c, h1, by rw [e7]; exact h2.to e⟩
theorem PD.toC {C C' : ST} (h : PD C) (e : ∀ k, 83 ≤ k → k < 111 → C' k = C k) : PD C' := by
  obtain ⟨c, h1⟩ := h
  exact ⟨c, h1.to (fun k a b => e k a (by omega))⟩
theorem PI.toC {C C' M : ST} (h : PI C M) (e : ∀ k, 116 ≤ k → k < 173 → C' k = C k) : PI C' M := by
  intro i hi
  obtain ⟨h1, h2, c, h3, h4⟩ := h i hi
  exact ⟨h1, by rw [e 172 (by decide) (by decide)]; exact h2, c, h3.to (fun k a b => e k (by omega) (by omega)), h4⟩
theorem PI.toM {C M M' : ST} (h : PI C M) (e : TE M M') (e3 : M' 533 = M 533) (e4 : M' 534 = M 534) : PI C M' := by
  intro i hi
  obtain ⟨h1, h2, c, h3, h4⟩ := h i hi
  rw [e3, e4]
  exact ⟨h1, h2, c, h3, fun z => (h4 z).to e⟩
theorem UR.toC {C C' M : ST} {n a hb hf : Nat} {u w : Nat → Nat} (h : UR C M n a hb hf u w) (e : ∀ k, (111 ≤ k ∧ k < 115) ∨ (177 ≤ k ∧ k < 513) → C' k = C k) : UR C' M n a hb hf u w := by
  obtain ⟨h1, h2, h3, h4, h5, h6, h7, h8⟩ := h
  refine ⟨h1, h2, ?_, fun p hp => ?_, fun p hp => ?_, h6, fun i hi => ?_, fun p hp => ?_⟩
  · rw [e 111 (by omega), e 113 (by omega)]; exact h3
  · rw [e 112 (by omega)]; exact h4 p hp
  · rw [e 114 (by omega)]; exact h5 p hp
  · obtain ⟨c, hc⟩ := h7 i hi
    exact ⟨c, hc.to (fun k a b => e k (by omega))⟩
  · obtain ⟨c, hc, hg⟩ := h8 p hp
    have := (h4 p hp).1
    exact ⟨c, hc.to (fun k a b => e k (by omega)), hg⟩
theorem PU.toC {C C' M : ST} (h : PU C M) (e : ∀ k, (111 ≤ k ∧ k < 115) ∨ (177 ≤ k ∧ k < 513) → C' k = C k) : PU C' M := by
  obtain ⟨n, a, hb, hf, u, w, h⟩ := h
  exact ⟨n, a, hb, hf, u, w, h.toC e⟩
theorem PU.toM {C M M' : ST} (h : PU C M) (e : TE M M') (e5 : M' 513 25 = M 513 25) (e6 : M' 513 26 = M 513 26) (e9 : M' 529 = M 529) : PU C M' := by
  obtain ⟨n, a, hb, hf, u, w, h1, h2, h3, h4, h5, h6, h7, h8⟩ := h
  refine ⟨n, a, hb, hf, u, w, h1, by rw [e5, e6]; exact h2, h3, h4, h5, h6, h7, fun p hp => ?_⟩
  obtain ⟨c, hc, hg⟩ := h8 p hp
  exact ⟨c, hc, by rw [e9]; exact hg.to e⟩
theorem PF.toC {C C' M : ST} (h : PF C M) (e0 : C' 0 14 = C 0 14) (e : ∀ k, 174 ≤ k → k < 177 → C' k = C k) : PF C' M := by
  obtain ⟨n, h1, h2, h3, h4⟩ := h
  refine ⟨n, h1, by rw [e0]; exact h2, h3, fun k hk => ?_⟩
  rw [e 174 (by decide) (by decide), e 175 (by decide) (by decide), e 176 (by decide) (by decide)]
  exact h4 k hk
theorem PF.toM {C M M' : ST} (h : PF C M) (e : TE M M') (e8 : M' 513 28 = M 513 28) (e0 : ∀ k, 530 ≤ k → k < 533 → M' k = M k) : PF C M' := by
  obtain ⟨n, h1, h2, h3, h4⟩ := h
  refine ⟨n, h1, h2, by rw [e8]; exact h3, fun k hk => ?_⟩
  rw [e0 530 (by decide) (by decide), e0 531 (by decide) (by decide), e0 532 (by decide) (by decide), e.n]
  exact h4 k hk
theorem PX.toC {C C' M : ST} (h : PX C M) (e0 : C' 0 10 = C 0 10) (e : C' 173 = C 173) : PX C' M := by
  obtain ⟨n, h1, h2, h3, h4⟩ := h
  exact ⟨n, h1, by rw [e0]; exact h2, h3, by rw [e]; exact h4⟩
theorem PX.toM {C M M' : ST} (h : PX C M) (e0 : M' 513 0 = M 513 0) (e4 : M' 514 = M 514) : PX C M' := by
  obtain ⟨n, h1, h2, h3, h4⟩ := h
  exact ⟨n, h1, h2, by rw [e0]; exact h3, by rw [e4]; exact h4⟩
theorem PB.toC {C C' : ST} (h : PB C) (e : ∀ k, k = 51 ∨ k = 52 → C' k = C k) : PB C' := by
  obtain ⟨v, h1, h2, h3⟩ := h
  exact ⟨v, by rw [e (51 + 1) (by omega)]; exact h1, h2, by rw [e 51 (by omega)]; exact h3⟩
/-! the two sides in one state -/
def jn (C M : ST) : ST := fun k => if k < 513 then C k else M k
theorem jn_lo {C M : ST} {k : Nat} (h : k < 513) : jn C M k = C k := by unfold jn; rw [if_pos h]
theorem jn_hi {C M : ST} {k : Nat} (h : 513 ≤ k) : jn C M k = M k := by unfold jn; rw [if_neg (by omega)]
theorem RL.toC {C C' M : ST} (h : RL C M) (e : ∀ k, k < 513 → C' k = C k) : RL C' M := by
  obtain ⟨h1, h2, h3, h4, h5, h6, h7, h8, h9⟩ := h
  exact ⟨h1.toC (fun k a b => e k (by omega)), h2.to (fun k a => e k (by omega)), h3.toC (fun k a b => e k (by omega)), h4.toC (fun k a b => e k (by omega)), h5.toC (fun k a b => e k (by omega)), h6.toC (fun k a => e k (by omega)), h7.toC (congrFun (e 0 (by omega)) _) (fun k a b => e k (by omega)), h8.toC (congrFun (e 0 (by omega)) _) (e 173 (by omega)), h9.toC (fun k a => e k (by omega))⟩
theorem RL.toM {C M M' : ST} (h : RL C M) (e : ∀ k, 513 ≤ k → M' k = M k) : RL C M' := by
  obtain ⟨h1, h2, h3, h4, h5, h6, h7, h8, h9⟩ := h
  have e3 := e 513 (by omega)
  have te : TE M M' := ⟨congrFun e3 _, congrFun e3 _, fun k a b => e k (by omega)⟩
  exact ⟨h1.toM te, h2, h3.toM te (e _ (by omega)), h4, h5.toM te (e _ (by omega)) (e _ (by omega)), h6.toM te (congrFun e3 _) (congrFun e3 _) (e _ (by omega)), h7.toM te (congrFun e3 _) (fun k a b => e k (by omega)), h8.toM (congrFun e3 _) (e _ (by omega)), h9⟩
