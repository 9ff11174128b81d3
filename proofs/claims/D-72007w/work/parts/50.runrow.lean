set_option maxRecDepth 100000
/-! A RUN's CELLS AS ONE ROW c: 18 places a task (0 how, 1 out, 2 gone, 3 worked, 4 due, 5 asked, 7 begun, 8 end, 9 many, 10.. list), 144 tick, 145 traced, 146.. trace -/
/-- the bits below m of a predicate -/
def bmL (p : Nat → Bool) : Nat → Nat
  | 0 => 0
  | m + 1 => bmL p m + (if p m then 2 ^ m else 0)
def bm (p : Nat → Bool) : Nat := bmL p 8
theorem bmL_lt (p : Nat → Bool) : ∀ m, bmL p m < 2 ^ m := by
  intro m
  induction m with
  | zero => exact Nat.zero_lt_one
  | succ m ih => rw [bmL, Nat.pow_succ]; split <;> omega
theorem bmL_bit (p : Nat → Bool) : ∀ (m t : Nat), (bmL p m).testBit t = (decide (t < m) && p t) := by
  intro m
  induction m with
  | zero => intro t; simp [bmL]
  | succ m ih =>
    intro t
    rw [bmL]
    have hlt := bmL_lt p m
    by_cases hp : p m = true
    · rw [if_pos hp, Nat.add_comm]
      by_cases e : t = m
      · subst e
        rw [Nat.testBit_two_pow_add_eq, ih]
        simp [hp]
      · by_cases h : t < m
        · rw [Nat.testBit_two_pow_add_gt h, ih]
          simp [h, Nat.lt_succ_of_lt h]
        · have h1 : ¬ t < m + 1 := by omega
          rw [Nat.testBit_lt_two_pow]
          · simp [h1]
          · have h2 : 2 ^ (m + 1) ≤ 2 ^ t := Nat.pow_le_pow_right (by decide) (by omega)
            rw [Nat.pow_succ] at h2
            omega
    · rw [if_neg hp, Nat.add_zero, ih]
      by_cases e : t = m
      · subst e; simp [hp]
      · have : (t < m + 1) ↔ t < m := by omega
        simp [this]
theorem bm_lt (p : Nat → Bool) : bm p < 256 := bmL_lt p 8
theorem bm_bit {p : Nat → Bool} {t : Nat} (ht : t < 8) : (bm p).testBit t = p t := by unfold bm; rw [bmL_bit]; simp [ht]
theorem bm_ext {p q : Nat → Bool} (h : ∀ t, t < 8 → p t = q t) : bm p = bm q := by
  have : ∀ m, m ≤ 8 → bmL p m = bmL q m := by
    intro m
    induction m with
    | zero => intro _; rfl
    | succ m ih => intro hm; rw [bmL, bmL, ih (by omega), h m (by omega)]
  exact this 8 (by decide)
theorem bm_or {p : Nat → Bool} {t : Nat} (ht : t < 8) : bm p ||| 2 ^ t = bm (fun q => decide (q = t) || p q) := by
  unfold bm
  apply Nat.eq_of_testBit_eq
  intro i
  rw [Nat.testBit_or, bmL_bit, bmL_bit, Nat.testBit_two_pow]
  by_cases e : i = t
  · subst e; simp [ht]
  · have e' : ¬ t = i := fun z => e z.symm
    simp [e, e']
theorem bm_cl {p : Nat → Bool} {t : Nat} (ht : t < 8) : bm p &&& (255 ^^^ 2 ^ t) = bm (fun q => !decide (q = t) && p q) := by
  unfold bm
  apply Nat.eq_of_testBit_eq
  intro i
  rw [Nat.testBit_and, Nat.testBit_xor, bmL_bit, bmL_bit, Nat.testBit_two_pow, show 255 = 2 ^ 8 - 1 from rfl, Nat.testBit_two_pow_sub_one]
  by_cases e : i = t
  · subst e; simp [ht]
  · have e' : ¬ t = i := fun z => e z.symm
    by_cases h8 : i < 8 <;> simp [e, e', h8]
/-- the tasks whose place o holds h, as bits -/
def msk (c : Nat → Int32) (o h : Nat) : Nat := bm (fun t => decide (c (18 * t + o) = nI h))
def mk4 (c : Nat → Int32) (j : Nat) : Nat := if j < 7 then msk c 0 ((j + 1) / 2) else msk c 5 1
/-- which place of the row lies at place p of the cell j; 400: none -/
def ri (j p : Nat) : Nat :=
  if j = 0 then (if p = 0 then 144 else if p = 16 then 145 else 400)
  else if j < 16 then (if p < 8 then 18 * p + (if j < 13 then j - 8 else j - 6) else 400)
  else if j = 16 then 400
  else if j < 25 then (if p < 8 then 18 * (j - 17) + 10 + p else 400)
  else (if p < 60 then 146 + 3 * p + (j - 25) else 400)
def runCell (c : Nat → Int32) (j p : Nat) : Int32 :=
  if 1 ≤ j ∧ j < 9 then (if j % 2 = 1 then (if p = 1 then nI (wi (mk4 c j)) else 0) else (if p = 0 then nI (mk4 c j) else 0)) else c (ri j p)
def put (S : ST) (b : Nat) (c : Nat → Int32) : ST := fun k => if b ≤ k ∧ k < b + 28 then runCell c (k - b) else S k
theorem put_at {S : ST} {b j : Nat} {c : Nat → Int32} (hj : j < 28) : put S b c (b + j) = runCell c j := by
  unfold put
  rw [if_pos ⟨by omega, by omega⟩, Nat.add_sub_cancel_left]
theorem put_ne {S : ST} {b k : Nat} {c : Nat → Int32} (h : k < b ∨ b + 28 ≤ k) : put S b c k = S k := by
  unfold put
  rw [if_neg (by omega)]
theorem put_put {S : ST} {b : Nat} {c c' : Nat → Int32} : put (put S b c) b c' = put S b c' := by
  funext k; unfold put; split <;> rfl
theorem put_self {S : ST} {b : Nat} {c : Nat → Int32} (h : ∀ j, j < 28 → S (b + j) = runCell c j) : put S b c = S := by
  funext k; unfold put; split
  · next e => rw [← h (k - b) (by omega)]; congr 1; omega
  · rfl
theorem put_comm {S : ST} {b q : Nat} {c d : Nat → Int32} (h : b + 28 ≤ q ∨ q + 28 ≤ b) : put (put S b c) q d = put (put S q d) b c := by
  funext k; unfold put
  by_cases h1 : q ≤ k ∧ k < q + 28
  · rw [if_pos h1, if_neg (by omega), if_pos h1]
  · rw [if_neg h1]
    by_cases h2 : b ≤ k ∧ k < b + 28
    · rw [if_pos h2, if_pos h2]
    · rw [if_neg h2, if_neg h2, if_neg h1]
theorem put_s1 {S : ST} {b k : Nat} {c f : Nat → Int32} (h : k < b ∨ b + 28 ≤ k) : s1 (put S b c) k f = put (s1 S k f) b c := by
  funext q; unfold s1 put; dsimp only
  by_cases e : q = k
  · subst e; rw [if_pos rfl, if_neg (by omega), if_pos rfl]
  · rw [if_neg e, if_neg e]
theorem put_s2 {S : ST} {b k j : Nat} {c : Nat → Int32} {v : Int32} (h : k < b ∨ b + 28 ≤ k) : s2 (put S b c) k j v = put (s2 S k j v) b c := by
  unfold s2
  rw [put_ne h, put_s1 h]
theorem ri_inj {j p j' p' : Nat} (h0 : j = 0 ∨ 9 ≤ j) (h1 : j < 28) (h0' : j' = 0 ∨ 9 ≤ j') (h1' : j' < 28) (hn : ri j p ≠ 400) (e : ri j' p' = ri j p) : j' = j ∧ p' = p := by
  have hd : ∀ j p, (j = 0 ∨ 9 ≤ j) → j < 28 → ri j p ≠ 400 → (ri j p = 144 ∧ j = 0 ∧ p = 0) ∨ (ri j p = 145 ∧ j = 0 ∧ p = 16) ∨ (ri j p < 144 ∧ p = ri j p / 18 ∧ j < 16 ∧ 9 ≤ j ∧ ri j p % 18 < 10 ∧ ri j p % 18 = (if j < 13 then j - 8 else j - 6)) ∨ (ri j p < 144 ∧ 10 ≤ ri j p % 18 ∧ j = 17 + ri j p / 18 ∧ p = ri j p % 18 - 10) ∨ (146 ≤ ri j p ∧ p = (ri j p - 146) / 3 ∧ j = 25 + (ri j p - 146) % 3) := by
    intro j p h0 h1 hn
    unfold ri at hn ⊢
    by_cases c1 : j = 0
    · rw [if_pos c1] at hn ⊢
      by_cases c2 : p = 0
      · rw [if_pos c2]; exact Or.inl ⟨rfl, c1, c2⟩
      · rw [if_neg c2] at hn ⊢
        by_cases c3 : p = 16
        · rw [if_pos c3]; exact Or.inr (Or.inl ⟨rfl, c1, c3⟩)
        · rw [if_neg c3] at hn; exact absurd rfl hn
    · rw [if_neg c1] at hn ⊢
      by_cases c2 : j < 16
      · rw [if_pos c2] at hn ⊢
        by_cases c3 : p < 8
        · rw [if_pos c3] at hn ⊢
          refine Or.inr (Or.inr (Or.inl ?_))
          split <;> omega
        · rw [if_neg c3] at hn; exact absurd rfl hn
      · rw [if_neg c2] at hn ⊢
        by_cases c3 : j = 16
        · rw [if_pos c3] at hn; exact absurd rfl hn
        · rw [if_neg c3] at hn ⊢
          by_cases c4 : j < 25
          · rw [if_pos c4] at hn ⊢
            by_cases c5 : p < 8
            · rw [if_pos c5] at hn ⊢; omega
            · rw [if_neg c5] at hn; exact absurd rfl hn
          · rw [if_neg c4] at hn ⊢
            by_cases c5 : p < 60
            · rw [if_pos c5] at hn ⊢; omega
            · rw [if_neg c5] at hn; exact absurd rfl hn
  have a1 := hd j p h0 h1 hn
  have a2 := hd j' p' h0' h1' (by rw [e]; exact hn)
  rw [e] at a2
  generalize ri j p = r at a1 a2
  rcases a1 with a1 | a1 | a1 | a1 | a1 <;> rcases a2 with a2 | a2 | a2 | a2 | a2 <;> first | omega | skip
  obtain ⟨-, b1, b2, b3, -, b4⟩ := a1
  obtain ⟨-, d1, d2, d3, -, d4⟩ := a2
  refine ⟨?_, by omega⟩
  rw [b4] at d4
  split at d4 <;> split at d4 <;> omega
theorem ri_nm {j p : Nat} (h0 : j = 0 ∨ 9 ≤ j) (h1 : j < 28) (hn : ri j p ≠ 400) : ∀ t, t < 8 → ri j p ≠ 18 * t + 0 ∧ ri j p ≠ 18 * t + 5 := by
  intro t ht
  unfold ri at hn ⊢
  by_cases c1 : j = 0
  · rw [if_pos c1] at hn ⊢
    by_cases c2 : p = 0
    · rw [if_pos c2]; omega
    · rw [if_neg c2] at hn ⊢
      by_cases c3 : p = 16
      · rw [if_pos c3]; omega
      · rw [if_neg c3] at hn; exact absurd rfl hn
  · rw [if_neg c1] at hn ⊢
    by_cases c2 : j < 16
    · rw [if_pos c2] at hn ⊢
      by_cases c3 : p < 8
      · rw [if_pos c3]; split <;> omega
      · rw [if_neg c3] at hn; exact absurd rfl hn
    · rw [if_neg c2] at hn ⊢
      by_cases c3 : j = 16
      · rw [if_pos c3] at hn; exact absurd rfl hn
      · rw [if_neg c3] at hn ⊢
        by_cases c4 : j < 25
        · rw [if_pos c4] at hn ⊢
          by_cases c5 : p < 8
          · rw [if_pos c5]; omega
          · rw [if_neg c5] at hn; exact absurd rfl hn
        · rw [if_neg c4] at hn ⊢
          by_cases c5 : p < 60
          · rw [if_pos c5]; omega
          · rw [if_neg c5] at hn; exact absurd rfl hn
theorem msk_ext {c d : Nat → Int32} {o h : Nat} (e : ∀ t, t < 8 → c (18 * t + o) = d (18 * t + o)) : msk c o h = msk d o h := by unfold msk; exact bm_ext (fun t ht => by rw [e t ht])
theorem mk4_un {c : Nat → Int32} {i j : Nat} {v : Int32} (h : ∀ t, t < 8 → i ≠ 18 * t + 0 ∧ i ≠ 18 * t + 5) : mk4 (upd c i v) j = mk4 c j := by
  unfold mk4
  split
  · exact msk_ext (fun t ht => pk_un (Ne.symm (h t ht).1))
  · exact msk_ext (fun t ht => pk_un (Ne.symm (h t ht).2))
theorem put_w {S : ST} {b j p : Nat} {c : Nat → Int32} {v : Int32} (h0 : j = 0 ∨ 9 ≤ j) (h1 : j < 28) (hn : ri j p ≠ 400) : s2 (put S b c) (b + j) p v = put S b (upd c (ri j p) v) := by
  funext k q
  rw [s2_val]
  unfold put
  by_cases hk : b ≤ k ∧ k < b + 28
  · rw [if_pos hk, if_pos hk]
    obtain ⟨j', rfl⟩ : ∃ j', k = b + j' := ⟨k - b, by omega⟩
    rw [Nat.add_sub_cancel_left]
    unfold runCell
    by_cases hb : 1 ≤ j' ∧ j' < 9
    · rw [if_pos hb, if_pos hb, mk4_un (ri_nm h0 h1 hn), if_neg (by omega)]
    · rw [if_neg hb, if_neg hb]
      unfold upd
      by_cases e : ri j' q = ri j p
      · obtain ⟨rfl, rfl⟩ := ri_inj h0 h1 (by omega) (by omega) hn e
        rw [if_pos ⟨rfl, rfl⟩, if_pos rfl]
      · rw [if_neg e, if_neg]
        rintro ⟨e1, rfl⟩
        exact e (by rw [show j' = j by omega])
  · rw [if_neg hk, if_neg hk, if_neg (by omega)]
theorem put_r {S : ST} {b j p : Nat} {c : Nat → Int32} (h0 : j = 0 ∨ 9 ≤ j) (h1 : j < 28) : put S b c (b + j) p = c (ri j p) := by
  rw [put_at h1]
  unfold runCell
  rw [if_neg (by omega)]
