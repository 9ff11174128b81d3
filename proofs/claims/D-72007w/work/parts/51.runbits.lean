set_option maxRecDepth 100000
/-! ROWS OF RUNS: reads, writes, bit sets -/
section PR
variable {S : ST} {b t k : Nat} {c : Nat → Int32} {v : Int32}
theorem pr_0 : put S b c b 0 = c 144 := put_r (j := 0) (Or.inl rfl) (by decide)
theorem pr_16 : put S b c b 16 = c 145 := put_r (j := 0) (Or.inl rfl) (by decide)
theorem pw_0 : s2 (put S b c) b 0 v = put S b (upd c 144 v) := put_w (j := 0) (p := 0) (Or.inl rfl) (by decide) (by decide)
theorem pw_16 : s2 (put S b c) b 16 v = put S b (upd c 145 v) := put_w (j := 0) (p := 16) (Or.inl rfl) (by decide) (by decide)
theorem ri_9 (ht : t < 8) : ri 9 t = 18 * t + 1 := by unfold ri; rw [if_neg (by decide), if_pos (by decide), if_pos ht]; rfl
theorem ri_10 (ht : t < 8) : ri 10 t = 18 * t + 2 := by unfold ri; rw [if_neg (by decide), if_pos (by decide), if_pos ht]; rfl
theorem ri_11 (ht : t < 8) : ri 11 t = 18 * t + 3 := by unfold ri; rw [if_neg (by decide), if_pos (by decide), if_pos ht]; rfl
theorem ri_12 (ht : t < 8) : ri 12 t = 18 * t + 4 := by unfold ri; rw [if_neg (by decide), if_pos (by decide), if_pos ht]; rfl
theorem ri_13 (ht : t < 8) : ri 13 t = 18 * t + 7 := by unfold ri; rw [if_neg (by decide), if_pos (by decide), if_pos ht]; rfl
theorem ri_14 (ht : t < 8) : ri 14 t = 18 * t + 8 := by unfold ri; rw [if_neg (by decide), if_pos (by decide), if_pos ht]; rfl
theorem ri_15 (ht : t < 8) : ri 15 t = 18 * t + 9 := by unfold ri; rw [if_neg (by decide), if_pos (by decide), if_pos ht]; rfl
theorem ri_25 (ht : t < 60) : ri 25 t = 146 + 3 * t := by unfold ri; rw [if_neg (by decide), if_neg (by decide), if_neg (by decide), if_neg (by decide), if_pos ht]; rfl
theorem ri_26 (ht : t < 60) : ri 26 t = 146 + 3 * t + 1 := by unfold ri; rw [if_neg (by decide), if_neg (by decide), if_neg (by decide), if_neg (by decide), if_pos ht]
theorem ri_27 (ht : t < 60) : ri 27 t = 146 + 3 * t + 2 := by unfold ri; rw [if_neg (by decide), if_neg (by decide), if_neg (by decide), if_neg (by decide), if_pos ht]
theorem ri_L (ht : t < 8) (hk : k < 8) : ri (17 + t) k = 18 * t + 10 + k := by unfold ri; rw [if_neg (by omega), if_neg (by omega), if_neg (by omega), if_pos (by omega), if_pos hk, Nat.add_sub_cancel_left]
theorem pr_9 (ht : t < 8) : put S b c (b + 9) t = c (18 * t + 1) := (put_r (Or.inr (by decide)) (by decide)).trans (by rw [ri_9 ht])
theorem pw_9 (ht : t < 8) : s2 (put S b c) (b + 9) t v = put S b (upd c (18 * t + 1) v) := (put_w (Or.inr (by decide)) (by decide) (by rw [ri_9 ht]; omega)).trans (by rw [ri_9 ht])
theorem pr_10 (ht : t < 8) : put S b c (b + 10) t = c (18 * t + 2) := (put_r (Or.inr (by decide)) (by decide)).trans (by rw [ri_10 ht])
theorem pw_10 (ht : t < 8) : s2 (put S b c) (b + 10) t v = put S b (upd c (18 * t + 2) v) := (put_w (Or.inr (by decide)) (by decide) (by rw [ri_10 ht]; omega)).trans (by rw [ri_10 ht])
theorem pr_11 (ht : t < 8) : put S b c (b + 11) t = c (18 * t + 3) := (put_r (Or.inr (by decide)) (by decide)).trans (by rw [ri_11 ht])
theorem pw_11 (ht : t < 8) : s2 (put S b c) (b + 11) t v = put S b (upd c (18 * t + 3) v) := (put_w (Or.inr (by decide)) (by decide) (by rw [ri_11 ht]; omega)).trans (by rw [ri_11 ht])
theorem pr_12 (ht : t < 8) : put S b c (b + 12) t = c (18 * t + 4) := (put_r (Or.inr (by decide)) (by decide)).trans (by rw [ri_12 ht])
theorem pw_12 (ht : t < 8) : s2 (put S b c) (b + 12) t v = put S b (upd c (18 * t + 4) v) := (put_w (Or.inr (by decide)) (by decide) (by rw [ri_12 ht]; omega)).trans (by rw [ri_12 ht])
theorem pr_13 (ht : t < 8) : put S b c (b + 13) t = c (18 * t + 7) := (put_r (Or.inr (by decide)) (by decide)).trans (by rw [ri_13 ht])
theorem pw_13 (ht : t < 8) : s2 (put S b c) (b + 13) t v = put S b (upd c (18 * t + 7) v) := (put_w (Or.inr (by decide)) (by decide) (by rw [ri_13 ht]; omega)).trans (by rw [ri_13 ht])
theorem pr_14 (ht : t < 8) : put S b c (b + 14) t = c (18 * t + 8) := (put_r (Or.inr (by decide)) (by decide)).trans (by rw [ri_14 ht])
theorem pw_14 (ht : t < 8) : s2 (put S b c) (b + 14) t v = put S b (upd c (18 * t + 8) v) := (put_w (Or.inr (by decide)) (by decide) (by rw [ri_14 ht]; omega)).trans (by rw [ri_14 ht])
theorem pr_15 (ht : t < 8) : put S b c (b + 15) t = c (18 * t + 9) := (put_r (Or.inr (by decide)) (by decide)).trans (by rw [ri_15 ht])
theorem pw_15 (ht : t < 8) : s2 (put S b c) (b + 15) t v = put S b (upd c (18 * t + 9) v) := (put_w (Or.inr (by decide)) (by decide) (by rw [ri_15 ht]; omega)).trans (by rw [ri_15 ht])
theorem pr_25 (ht : t < 60) : put S b c (b + 25) t = c (146 + 3 * t) := (put_r (Or.inr (by decide)) (by decide)).trans (by rw [ri_25 ht])
theorem pw_25 (ht : t < 60) : s2 (put S b c) (b + 25) t v = put S b (upd c (146 + 3 * t) v) := (put_w (Or.inr (by decide)) (by decide) (by rw [ri_25 ht]; omega)).trans (by rw [ri_25 ht])
theorem pr_26 (ht : t < 60) : put S b c (b + 26) t = c (146 + 3 * t + 1) := (put_r (Or.inr (by decide)) (by decide)).trans (by rw [ri_26 ht])
theorem pw_26 (ht : t < 60) : s2 (put S b c) (b + 26) t v = put S b (upd c (146 + 3 * t + 1) v) := (put_w (Or.inr (by decide)) (by decide) (by rw [ri_26 ht]; omega)).trans (by rw [ri_26 ht])
theorem pr_27 (ht : t < 60) : put S b c (b + 27) t = c (146 + 3 * t + 2) := (put_r (Or.inr (by decide)) (by decide)).trans (by rw [ri_27 ht])
theorem pw_27 (ht : t < 60) : s2 (put S b c) (b + 27) t v = put S b (upd c (146 + 3 * t + 2) v) := (put_w (Or.inr (by decide)) (by decide) (by rw [ri_27 ht]; omega)).trans (by rw [ri_27 ht])
theorem pr_L (ht : t < 8) (hk : k < 8) : put S b c (b + 17 + t) k = c (18 * t + 10 + k) := by rw [Nat.add_assoc]; exact (put_r (by omega) (by omega)).trans (by rw [ri_L ht hk])
theorem pw_L (ht : t < 8) (hk : k < 8) : s2 (put S b c) (b + 17 + t) k v = put S b (upd c (18 * t + 10 + k) v) := by rw [Nat.add_assoc]; exact (put_w (by omega) (by omega) (by rw [ri_L ht hk]; omega)).trans (by rw [ri_L ht hk])
theorem put_bits {j : Nat} {c' : Nat → Int32} (hj : j = 1 ∨ j = 3 ∨ j = 5 ∨ j = 7) (h1 : ∀ q, 1 ≤ q → q < 9 → q ≠ j → q ≠ j + 1 → mk4 c' q = mk4 c q) (h2 : ∀ q p, (q = 0 ∨ 9 ≤ q) → c' (ri q p) = c (ri q p)) : bset (put S b c) (b + j) (mk4 c' j) = put S b c' := by
  have hm : mk4 c' (j + 1) = mk4 c' j := by rcases hj with rfl | rfl | rfl | rfl <;> rfl
  funext k p
  unfold bset
  rw [s2_val, s2_val]
  unfold put
  by_cases hk : b ≤ k ∧ k < b + 28
  · rw [if_pos hk, if_pos hk]
    obtain ⟨q, rfl⟩ : ∃ q, k = b + q := ⟨k - b, by omega⟩
    rw [Nat.add_sub_cancel_left]
    unfold runCell
    by_cases e1 : q = j
    · subst e1
      have h9 : 1 ≤ q ∧ q < 9 := by omega
      have ho : q % 2 = 1 := by omega
      rw [if_neg (by omega)]
      by_cases hp : p = 1
      · rw [if_pos ⟨rfl, hp⟩, if_pos h9, if_pos ho, if_pos hp]
      · rw [if_neg (fun z => hp z.2), if_pos h9, if_pos ho, if_neg hp, if_pos h9, if_pos ho, if_neg hp]
    · by_cases e2 : q = j + 1
      · subst e2
        have h9 : 1 ≤ j + 1 ∧ j + 1 < 9 := by omega
        have ho : ¬ (j + 1) % 2 = 1 := by omega
        by_cases hp : p = 0
        · rw [if_pos ⟨by omega, hp⟩, if_pos h9, if_neg ho, if_pos hp, hm]
        · rw [if_neg (fun z => hp z.2), if_neg (by omega), if_pos h9, if_neg ho, if_neg hp, if_pos h9, if_neg ho, if_neg hp]
      · rw [if_neg (by omega), if_neg (by omega)]
        by_cases hb : 1 ≤ q ∧ q < 9
        · rw [if_pos hb, if_pos hb, h1 q hb.1 hb.2 e1 e2]
        · rw [if_neg hb, if_neg hb, h2 q p (by omega)]
  · rw [if_neg hk, if_neg hk, if_neg (by omega), if_neg (by omega)]
theorem ri_how {q p i : Nat} (h0 : q = 0 ∨ 9 ≤ q) (hi : i < 8) : ri q p ≠ 18 * i ∧ ri q p ≠ 18 * i + 5 := by
  by_cases hn : ri q p = 400
  · rw [hn]; omega
  · unfold ri at hn ⊢
    by_cases c1 : q = 0
    · rw [if_pos c1]; (repeat' split) <;> omega
    · rw [if_neg c1] at hn ⊢
      by_cases c2 : q < 16
      · rw [if_pos c2]; (repeat' split) <;> omega
      · rw [if_neg c2] at hn ⊢
        by_cases c3 : q = 16
        · rw [if_pos c3]; omega
        · rw [if_neg c3]; (repeat' split) <;> omega
theorem msk_lt {o h : Nat} : msk c o h < 256 := by unfold msk; exact bm_lt _
theorem msk_bit {o h : Nat} (ht : t < 8) : (msk c o h).testBit t = decide (c (18 * t + o) = nI h) := by unfold msk; rw [bm_bit ht]
theorem mk4_1 : mk4 c 1 = msk c 0 1 := rfl
theorem mk4_2 : mk4 c 2 = msk c 0 1 := rfl
theorem mk4_3 : mk4 c 3 = msk c 0 2 := rfl
theorem mk4_4 : mk4 c 4 = msk c 0 2 := rfl
theorem mk4_5 : mk4 c 5 = msk c 0 3 := rfl
theorem mk4_6 : mk4 c 6 = msk c 0 3 := rfl
theorem mk4_7 : mk4 c 7 = msk c 5 1 := rfl
theorem mk4_8 : mk4 c 8 = msk c 5 1 := rfl
theorem msk_un {o h i : Nat} (hne : ∀ q, q < 8 → i ≠ 18 * q + o) : msk (upd c i v) o h = msk c o h := msk_ext (fun q hq => pk_un (Ne.symm (hne q hq)))
theorem msk_how {h old w : Nat} (ht : t < 8) (h1 : c (18 * t) = nI old) (h2 : nI old ≠ nI h) (h3 : nI w ≠ nI h) : msk (upd c (18 * t) (nI w)) 0 h = msk c 0 h := by
  unfold msk
  refine bm_ext (fun q hq => ?_)
  by_cases e : q = t
  · subst e
    rw [Nat.add_zero, pk_us, h1]
    simp [h2, h3]
  · rw [pk_un (by omega)]
theorem msk_set {o h : Nat} (ht : t < 8) : msk (upd c (18 * t + o) (nI h)) o h = msk c o h ||| 2 ^ t := by
  unfold msk
  rw [bm_or ht]
  refine bm_ext (fun q hq => ?_)
  by_cases e : q = t
  · subst e; rw [pk_us]; simp
  · rw [pk_un (by omega)]; simp [e]
theorem msk_clr {o h w : Nat} (ht : t < 8) (hw : nI w ≠ nI h) : msk (upd c (18 * t + o) (nI w)) o h = msk c o h &&& (255 ^^^ 2 ^ t) := by
  unfold msk
  rw [bm_cl ht]
  refine bm_ext (fun q hq => ?_)
  by_cases e : q = t
  · subst e; rw [pk_us]; simp [hw]
  · rw [pk_un (by omega)]; simp [e]
theorem bsr_1 : BS (put S b c) (b + 1) (msk c 0 1) := ⟨by show put S b c (b + 2) 0 = _; rw [put_at (by decide)]; exact congrArg nI mk4_2, msk_lt, by rw [put_at (by decide)]; exact congrArg (fun z => nI (wi z)) mk4_1⟩
theorem pset_1 (ht : t < 8) (hc : c (18 * t) = nI 0) : bset (put S b c) (b + 1) (msk c 0 1 ||| 2 ^ t) = put S b (upd c (18 * t) (nI 1)) := by
  rw [← msk_set (o := 0) ht, Nat.add_zero]
  rw [← mk4_1]
  exact put_bits (c' := upd c (18 * t) (nI 1)) (by decide) (fun q q1 q2 q3 q4 => by
    have q5 : q = 1 ∨ q = 2 ∨ q = 3 ∨ q = 4 ∨ q = 5 ∨ q = 6 ∨ q = 7 ∨ q = 8 := by omega
    rcases q5 with rfl | rfl | rfl | rfl | rfl | rfl | rfl | rfl
    · exact absurd rfl q3
    · exact absurd rfl q4
    · rw [mk4_3, mk4_3]; exact msk_how ht hc (by decide) (by decide)
    · rw [mk4_4, mk4_4]; exact msk_how ht hc (by decide) (by decide)
    · rw [mk4_5, mk4_5]; exact msk_how ht hc (by decide) (by decide)
    · rw [mk4_6, mk4_6]; exact msk_how ht hc (by decide) (by decide)
    · rw [mk4_7, mk4_7]; exact msk_un (fun q hq => by omega)
    · rw [mk4_8, mk4_8]; exact msk_un (fun q hq => by omega)) (fun q p hq => pk_un (ri_how hq ht).1)
theorem pclr_1 (ht : t < 8) (hc : c (18 * t) = nI 1) : bset (put S b c) (b + 1) (msk c 0 1 &&& (255 ^^^ 2 ^ t)) = put S b (upd c (18 * t) (nI 0)) := by
  rw [← msk_clr (o := 0) (w := 0) ht (by decide), Nat.add_zero]
  rw [← mk4_1]
  exact put_bits (c' := upd c (18 * t) (nI 0)) (by decide) (fun q q1 q2 q3 q4 => by
    have q5 : q = 1 ∨ q = 2 ∨ q = 3 ∨ q = 4 ∨ q = 5 ∨ q = 6 ∨ q = 7 ∨ q = 8 := by omega
    rcases q5 with rfl | rfl | rfl | rfl | rfl | rfl | rfl | rfl
    · exact absurd rfl q3
    · exact absurd rfl q4
    · rw [mk4_3, mk4_3]; exact msk_how ht hc (by decide) (by decide)
    · rw [mk4_4, mk4_4]; exact msk_how ht hc (by decide) (by decide)
    · rw [mk4_5, mk4_5]; exact msk_how ht hc (by decide) (by decide)
    · rw [mk4_6, mk4_6]; exact msk_how ht hc (by decide) (by decide)
    · rw [mk4_7, mk4_7]; exact msk_un (fun q hq => by omega)
    · rw [mk4_8, mk4_8]; exact msk_un (fun q hq => by omega)) (fun q p hq => pk_un (ri_how hq ht).1)
theorem bsr_3 : BS (put S b c) (b + 3) (msk c 0 2) := ⟨by show put S b c (b + 4) 0 = _; rw [put_at (by decide)]; exact congrArg nI mk4_4, msk_lt, by rw [put_at (by decide)]; exact congrArg (fun z => nI (wi z)) mk4_3⟩
theorem pset_3 (ht : t < 8) (hc : c (18 * t) = nI 0) : bset (put S b c) (b + 3) (msk c 0 2 ||| 2 ^ t) = put S b (upd c (18 * t) (nI 2)) := by
  rw [← msk_set (o := 0) ht, Nat.add_zero]
  rw [← mk4_3]
  exact put_bits (c' := upd c (18 * t) (nI 2)) (by decide) (fun q q1 q2 q3 q4 => by
    have q5 : q = 1 ∨ q = 2 ∨ q = 3 ∨ q = 4 ∨ q = 5 ∨ q = 6 ∨ q = 7 ∨ q = 8 := by omega
    rcases q5 with rfl | rfl | rfl | rfl | rfl | rfl | rfl | rfl
    · rw [mk4_1, mk4_1]; exact msk_how ht hc (by decide) (by decide)
    · rw [mk4_2, mk4_2]; exact msk_how ht hc (by decide) (by decide)
    · exact absurd rfl q3
    · exact absurd rfl q4
    · rw [mk4_5, mk4_5]; exact msk_how ht hc (by decide) (by decide)
    · rw [mk4_6, mk4_6]; exact msk_how ht hc (by decide) (by decide)
    · rw [mk4_7, mk4_7]; exact msk_un (fun q hq => by omega)
    · rw [mk4_8, mk4_8]; exact msk_un (fun q hq => by omega)) (fun q p hq => pk_un (ri_how hq ht).1)
theorem pclr_3 (ht : t < 8) (hc : c (18 * t) = nI 2) : bset (put S b c) (b + 3) (msk c 0 2 &&& (255 ^^^ 2 ^ t)) = put S b (upd c (18 * t) (nI 0)) := by
  rw [← msk_clr (o := 0) (w := 0) ht (by decide), Nat.add_zero]
  rw [← mk4_3]
  exact put_bits (c' := upd c (18 * t) (nI 0)) (by decide) (fun q q1 q2 q3 q4 => by
    have q5 : q = 1 ∨ q = 2 ∨ q = 3 ∨ q = 4 ∨ q = 5 ∨ q = 6 ∨ q = 7 ∨ q = 8 := by omega
    rcases q5 with rfl | rfl | rfl | rfl | rfl | rfl | rfl | rfl
    · rw [mk4_1, mk4_1]; exact msk_how ht hc (by decide) (by decide)
    · rw [mk4_2, mk4_2]; exact msk_how ht hc (by decide) (by decide)
    · exact absurd rfl q3
    · exact absurd rfl q4
    · rw [mk4_5, mk4_5]; exact msk_how ht hc (by decide) (by decide)
    · rw [mk4_6, mk4_6]; exact msk_how ht hc (by decide) (by decide)
    · rw [mk4_7, mk4_7]; exact msk_un (fun q hq => by omega)
    · rw [mk4_8, mk4_8]; exact msk_un (fun q hq => by omega)) (fun q p hq => pk_un (ri_how hq ht).1)
theorem bsr_5 : BS (put S b c) (b + 5) (msk c 0 3) := ⟨by show put S b c (b + 6) 0 = _; rw [put_at (by decide)]; exact congrArg nI mk4_6, msk_lt, by rw [put_at (by decide)]; exact congrArg (fun z => nI (wi z)) mk4_5⟩
theorem pset_5 (ht : t < 8) (hc : c (18 * t) = nI 0) : bset (put S b c) (b + 5) (msk c 0 3 ||| 2 ^ t) = put S b (upd c (18 * t) (nI 3)) := by
  rw [← msk_set (o := 0) ht, Nat.add_zero]
  rw [← mk4_5]
  exact put_bits (c' := upd c (18 * t) (nI 3)) (by decide) (fun q q1 q2 q3 q4 => by
    have q5 : q = 1 ∨ q = 2 ∨ q = 3 ∨ q = 4 ∨ q = 5 ∨ q = 6 ∨ q = 7 ∨ q = 8 := by omega
    rcases q5 with rfl | rfl | rfl | rfl | rfl | rfl | rfl | rfl
    · rw [mk4_1, mk4_1]; exact msk_how ht hc (by decide) (by decide)
    · rw [mk4_2, mk4_2]; exact msk_how ht hc (by decide) (by decide)
    · rw [mk4_3, mk4_3]; exact msk_how ht hc (by decide) (by decide)
    · rw [mk4_4, mk4_4]; exact msk_how ht hc (by decide) (by decide)
    · exact absurd rfl q3
    · exact absurd rfl q4
    · rw [mk4_7, mk4_7]; exact msk_un (fun q hq => by omega)
    · rw [mk4_8, mk4_8]; exact msk_un (fun q hq => by omega)) (fun q p hq => pk_un (ri_how hq ht).1)
theorem bsr_7 : BS (put S b c) (b + 7) (msk c 5 1) := ⟨by show put S b c (b + 8) 0 = _; rw [put_at (by decide)]; exact congrArg nI mk4_8, msk_lt, by rw [put_at (by decide)]; exact congrArg (fun z => nI (wi z)) mk4_7⟩
theorem pset_7 (ht : t < 8) : bset (put S b c) (b + 7) (msk c 5 1 ||| 2 ^ t) = put S b (upd c (18 * t + 5) (nI 1)) := by
  rw [← msk_set ht, ← mk4_7]
  exact put_bits (c' := upd c (18 * t + 5) (nI 1)) (by decide) (fun q q1 q2 q3 q4 => by
    have q5 : q = 1 ∨ q = 2 ∨ q = 3 ∨ q = 4 ∨ q = 5 ∨ q = 6 ∨ q = 7 ∨ q = 8 := by omega
    rcases q5 with rfl | rfl | rfl | rfl | rfl | rfl | rfl | rfl
    · rw [mk4_1, mk4_1]; exact msk_un (fun q hq => by omega)
    · rw [mk4_2, mk4_2]; exact msk_un (fun q hq => by omega)
    · rw [mk4_3, mk4_3]; exact msk_un (fun q hq => by omega)
    · rw [mk4_4, mk4_4]; exact msk_un (fun q hq => by omega)
    · rw [mk4_5, mk4_5]; exact msk_un (fun q hq => by omega)
    · rw [mk4_6, mk4_6]; exact msk_un (fun q hq => by omega)
    · exact absurd rfl q3
    · exact absurd rfl q4) (fun q p hq => pk_un (ri_how hq ht).2)
end PR
theorem ct_get1 {G : GT} {l : Launch} {N : Nat} {S : ST} {b : Nat} {c : Nat → Int32} {t : Nat} (hb : RB b) (ht : t < 8) (hN : 513 ≤ N) : CTi G l yJ0_get cJ0_get 3 (some .boolean) 1 [.ref (gZ G + (b + 1)), .int (nI t)] N (put S b c) (bI (c (18 * t) = nI 1)) (put S b c) := by
  have hle := hb.le
  rw [bI_c (q := (msk c 0 1).testBit t = true) (by rw [msk_bit ht]; simp)]
  exact ct_J0_get (BC_run hb (by decide)) bsr_1 ht (by omega)
theorem ct_set1 {G : GT} {l : Launch} {N : Nat} {S : ST} {b : Nat} {c : Nat → Int32} {t : Nat} (hb : RB b) (ht : t < 8) (hc : c (18 * t) = nI 0) (hN : 513 ≤ N) : CTv G l yJ0_set cJ0_set 3 none 2 [.ref (gZ G + (b + 1)), .int (nI t)] N (put S b c) (put S b (upd c (18 * t) (nI 1))) := by
  have hle := hb.le
  rw [← pset_1 ht hc]
  exact ct_J0_set (BC_run hb (by decide)) bsr_1 ht (by omega)
theorem ct_clr1 {G : GT} {l : Launch} {N : Nat} {S : ST} {b : Nat} {c : Nat → Int32} {t : Nat} (hb : RB b) (ht : t < 8) (hc : c (18 * t) = nI 1) (hN : 513 ≤ N) : CTv G l yJ0_clear_2 cJ0_clear_2 3 none 1 [.ref (gZ G + (b + 1)), .int (nI t)] N (put S b c) (put S b (upd c (18 * t) (nI 0))) := by
  have hle := hb.le
  rw [← pclr_1 ht hc]
  exact ct_J0_clear_2 (BC_run hb (by decide)) bsr_1 ht (by omega)
theorem ct_car1 {G : GT} {l : Launch} {N : Nat} {S : ST} {b : Nat} {c : Nat → Int32} (hb : RB b) (hN : 513 ≤ N) : CTi G l yJ0_cardinality cJ0_cardinality 3 (some .int) 1 [.ref (gZ G + (b + 1))] N (put S b c) (nI (pcn (msk c 0 1))) (put S b c) := by
  have hle := hb.le
  exact ct_J0_cardinality (BC_run hb (by decide)) bsr_1 (by omega)
theorem ct_get3 {G : GT} {l : Launch} {N : Nat} {S : ST} {b : Nat} {c : Nat → Int32} {t : Nat} (hb : RB b) (ht : t < 8) (hN : 513 ≤ N) : CTi G l yJ0_get cJ0_get 3 (some .boolean) 1 [.ref (gZ G + (b + 3)), .int (nI t)] N (put S b c) (bI (c (18 * t) = nI 2)) (put S b c) := by
  have hle := hb.le
  rw [bI_c (q := (msk c 0 2).testBit t = true) (by rw [msk_bit ht]; simp)]
  exact ct_J0_get (BC_run hb (by decide)) bsr_3 ht (by omega)
theorem ct_set3 {G : GT} {l : Launch} {N : Nat} {S : ST} {b : Nat} {c : Nat → Int32} {t : Nat} (hb : RB b) (ht : t < 8) (hc : c (18 * t) = nI 0) (hN : 513 ≤ N) : CTv G l yJ0_set cJ0_set 3 none 2 [.ref (gZ G + (b + 3)), .int (nI t)] N (put S b c) (put S b (upd c (18 * t) (nI 2))) := by
  have hle := hb.le
  rw [← pset_3 ht hc]
  exact ct_J0_set (BC_run hb (by decide)) bsr_3 ht (by omega)
theorem ct_clr3 {G : GT} {l : Launch} {N : Nat} {S : ST} {b : Nat} {c : Nat → Int32} {t : Nat} (hb : RB b) (ht : t < 8) (hc : c (18 * t) = nI 2) (hN : 513 ≤ N) : CTv G l yJ0_clear_2 cJ0_clear_2 3 none 1 [.ref (gZ G + (b + 3)), .int (nI t)] N (put S b c) (put S b (upd c (18 * t) (nI 0))) := by
  have hle := hb.le
  rw [← pclr_3 ht hc]
  exact ct_J0_clear_2 (BC_run hb (by decide)) bsr_3 ht (by omega)
theorem ct_car3 {G : GT} {l : Launch} {N : Nat} {S : ST} {b : Nat} {c : Nat → Int32} (hb : RB b) (hN : 513 ≤ N) : CTi G l yJ0_cardinality cJ0_cardinality 3 (some .int) 1 [.ref (gZ G + (b + 3))] N (put S b c) (nI (pcn (msk c 0 2))) (put S b c) := by
  have hle := hb.le
  exact ct_J0_cardinality (BC_run hb (by decide)) bsr_3 (by omega)
theorem ct_get5 {G : GT} {l : Launch} {N : Nat} {S : ST} {b : Nat} {c : Nat → Int32} {t : Nat} (hb : RB b) (ht : t < 8) (hN : 513 ≤ N) : CTi G l yJ0_get cJ0_get 3 (some .boolean) 1 [.ref (gZ G + (b + 5)), .int (nI t)] N (put S b c) (bI (c (18 * t) = nI 3)) (put S b c) := by
  have hle := hb.le
  rw [bI_c (q := (msk c 0 3).testBit t = true) (by rw [msk_bit ht]; simp)]
  exact ct_J0_get (BC_run hb (by decide)) bsr_5 ht (by omega)
theorem ct_set5 {G : GT} {l : Launch} {N : Nat} {S : ST} {b : Nat} {c : Nat → Int32} {t : Nat} (hb : RB b) (ht : t < 8) (hc : c (18 * t) = nI 0) (hN : 513 ≤ N) : CTv G l yJ0_set cJ0_set 3 none 2 [.ref (gZ G + (b + 5)), .int (nI t)] N (put S b c) (put S b (upd c (18 * t) (nI 3))) := by
  have hle := hb.le
  rw [← pset_5 ht hc]
  exact ct_J0_set (BC_run hb (by decide)) bsr_5 ht (by omega)
theorem ct_car5 {G : GT} {l : Launch} {N : Nat} {S : ST} {b : Nat} {c : Nat → Int32} (hb : RB b) (hN : 513 ≤ N) : CTi G l yJ0_cardinality cJ0_cardinality 3 (some .int) 1 [.ref (gZ G + (b + 5))] N (put S b c) (nI (pcn (msk c 0 3))) (put S b c) := by
  have hle := hb.le
  exact ct_J0_cardinality (BC_run hb (by decide)) bsr_5 (by omega)
theorem ct_get7 {G : GT} {l : Launch} {N : Nat} {S : ST} {b : Nat} {c : Nat → Int32} {t : Nat} (hb : RB b) (ht : t < 8) (hN : 513 ≤ N) : CTi G l yJ0_get cJ0_get 3 (some .boolean) 1 [.ref (gZ G + (b + 7)), .int (nI t)] N (put S b c) (bI (c (18 * t + 5) = nI 1)) (put S b c) := by
  have hle := hb.le
  rw [bI_c (q := (msk c 5 1).testBit t = true) (by rw [msk_bit ht]; simp)]
  exact ct_J0_get (BC_run hb (by decide)) bsr_7 ht (by omega)
theorem ct_set7 {G : GT} {l : Launch} {N : Nat} {S : ST} {b : Nat} {c : Nat → Int32} {t : Nat} (hb : RB b) (ht : t < 8) (hN : 513 ≤ N) : CTv G l yJ0_set cJ0_set 3 none 2 [.ref (gZ G + (b + 7)), .int (nI t)] N (put S b c) (put S b (upd c (18 * t + 5) (nI 1))) := by
  have hle := hb.le
  rw [← pset_7 ht]
  exact ct_J0_set (BC_run hb (by decide)) bsr_7 ht (by omega)
theorem ct_nxt1 {G : GT} {l : Launch} {N : Nat} {S : ST} {b : Nat} {c : Nat → Int32} {f : Nat} (hb : RB b) (hf : f < 9) (hN : 513 ≤ N) : CTi G l yJ0_nextSetBit cJ0_nextSetBit 5 (some .int) 2 [.ref (gZ G + (b + 1)), .int (nI f)] N (put S b c) (nsb (msk c 0 1) f) (put S b c) := by
  have hle := hb.le
  exact ct_J0_nextSetBit (BC_run hb (by decide)) bsr_1 hf (by omega)
def nxL (p : Nat → Bool) : Nat → Nat → Nat
  | 0, f => f
  | m + 1, f => if p f then f else nxL p m (f + 1)
theorem nsb_nx {v f : Nat} (hv : v < 256) (hf : f < 9) : nsb v f = if nxL v.testBit (8 - f) f = 8 then (-1) else nI (nxL v.testBit (8 - f) f) := by
  have : ∀ v : Fin 256, ∀ f : Fin 9, nsb v.val f.val = if nxL v.val.testBit (8 - f.val) f.val = 8 then (-1) else nI (nxL v.val.testBit (8 - f.val) f.val) := by decide +kernel
  exact this ⟨v, hv⟩ ⟨f, hf⟩
theorem nxL_s (p : Nat → Bool) : ∀ (m f : Nat), (nxL p m f = f + m ∧ ∀ t, f ≤ t → t < f + m → p t = false) ∨ (f ≤ nxL p m f ∧ nxL p m f < f + m ∧ p (nxL p m f) = true ∧ ∀ t, f ≤ t → t < nxL p m f → p t = false) := by
  intro m
  induction m with
  | zero => intro f; exact Or.inl ⟨rfl, fun t h1 h2 => absurd h2 (by omega)⟩
  | succ m ih =>
    intro f
    rw [nxL]
    by_cases hp : p f = true
    · rw [if_pos hp]
      exact Or.inr ⟨Nat.le_refl _, by omega, hp, fun t h1 h2 => absurd h2 (by omega)⟩
    · rw [if_neg hp]
      have hp' : p f = false := by simpa using hp
      rcases ih (f + 1) with ⟨h1, h2⟩ | ⟨h1, h2, h3, h4⟩
      · refine Or.inl ⟨by rw [h1]; omega, fun t h3 h4 => ?_⟩
        by_cases e : t = f
        · rw [e]; exact hp'
        · exact h2 t (by omega) (by omega)
      · refine Or.inr ⟨by omega, by omega, h3, fun t h5 h6 => ?_⟩
        by_cases e : t = f
        · rw [e]; exact hp'
        · exact h4 t (by omega) h6
/-- the next task of a row from f on whose how is h: none, or r -/
theorem nsb_c {c : Nat → Int32} {f : Nat} (hf : f < 9) : (nsb (msk c 0 1) f = (-1) ∧ ∀ t, f ≤ t → t < 8 → ¬ c (18 * t) = nI 1) ∨ ∃ r, nsb (msk c 0 1) f = nI r ∧ f ≤ r ∧ r < 8 ∧ c (18 * r) = nI 1 ∧ ∀ t, f ≤ t → t < r → ¬ c (18 * t) = nI 1 := by
  rw [nsb_nx (msk_lt) hf]
  rcases nxL_s (msk c 0 1).testBit (8 - f) f with ⟨h1, h2⟩ | ⟨h1, h2, h3, h4⟩
  · refine Or.inl ⟨by rw [if_pos (by omega)], fun t a1 a2 e => ?_⟩
    have := h2 t a1 (by omega)
    rw [msk_bit a2] at this
    simp [e] at this
  · have h8 : nxL (msk c 0 1).testBit (8 - f) f < 8 := by omega
    rw [msk_bit h8] at h3
    refine Or.inr ⟨_, by rw [if_neg (by omega)], h1, h8, by simpa using h3, fun t a1 a2 e => ?_⟩
    have := h4 t a1 a2
    rw [msk_bit (by omega)] at this
    simp [e] at this
