set_option maxRecDepth 100000
/-! ROWS OF RUNS: cleared, filled, copied -/
def zh (o h : Nat) (c : Nat → Int32) : Nat → Int32 := fun j => if j % 18 = o ∧ j < 144 ∧ c j = nI h then nI 0 else c j
def fw (o : Nat) (v : Int32) (c : Nat → Int32) : Nat → Int32 := fun j => if j % 18 = o ∧ j < 144 then v else c j
theorem bm_zero {p : Nat → Bool} (h : ∀ t, t < 8 → p t = false) : bm p = 0 := (bm_ext (q := fun _ => false) h).trans (by decide)
theorem zh_ri {o h q p : Nat} {c : Nat → Int32} (ho : o = 0 ∨ o = 5) (hq : q = 0 ∨ 9 ≤ q) : zh o h c (ri q p) = c (ri q p) := by
  unfold zh
  rw [if_neg]
  rintro ⟨a, b, -⟩
  have := ri_how (q := q) (p := p) (i := ri q p / 18) hq (by omega)
  omega
theorem msk_zh0 {o h : Nat} {c : Nat → Int32} (ho : o < 18) (h0 : nI 0 ≠ nI h) : msk (zh o h c) o h = 0 := by
  unfold msk
  refine bm_zero (fun t ht => ?_)
  unfold zh
  by_cases e : c (18 * t + o) = nI h
  · rw [if_pos ⟨by omega, by omega, e⟩]; simp [h0]
  · rw [if_neg (fun z => e z.2.2)]; simp [e]
theorem msk_zh {o h o' h' : Nat} {c : Nat → Int32} (ho : o < 18) (ho' : o' < 18) (hne : o ≠ o' ∨ nI h ≠ nI h') (h0 : nI 0 ≠ nI h') : msk (zh o h c) o' h' = msk c o' h' := by
  unfold msk
  refine bm_ext (fun t ht => ?_)
  unfold zh
  by_cases e : (18 * t + o') % 18 = o ∧ 18 * t + o' < 144 ∧ c (18 * t + o') = nI h
  · rw [if_pos e]
    have : nI h ≠ nI h' := hne.resolve_left (fun z => z (by omega))
    rw [e.2.2]
    simp [h0, this]
  · rw [if_neg e]
theorem pzh_1 {S : ST} {b : Nat} {c : Nat → Int32} : bset (put S b c) (b + 1) 0 = put S b (zh 0 1 c) := by
  have e := put_bits (S := S) (b := b) (c := c) (j := 1) (c' := zh 0 1 c) (by decide) (fun q q1 q2 q3 q4 => by
    have q5 : q = 1 ∨ q = 2 ∨ q = 3 ∨ q = 4 ∨ q = 5 ∨ q = 6 ∨ q = 7 ∨ q = 8 := by omega
    rcases q5 with rfl | rfl | rfl | rfl | rfl | rfl | rfl | rfl
    · exact absurd rfl q3
    · exact absurd rfl q4
    · rw [mk4_3, mk4_3]; exact msk_zh (by decide) (by decide) (by decide) (by decide)
    · rw [mk4_4, mk4_4]; exact msk_zh (by decide) (by decide) (by decide) (by decide)
    · rw [mk4_5, mk4_5]; exact msk_zh (by decide) (by decide) (by decide) (by decide)
    · rw [mk4_6, mk4_6]; exact msk_zh (by decide) (by decide) (by decide) (by decide)
    · rw [mk4_7, mk4_7]; exact msk_zh (by decide) (by decide) (by decide) (by decide)
    · rw [mk4_8, mk4_8]; exact msk_zh (by decide) (by decide) (by decide) (by decide)) (fun q p hq => zh_ri (by decide) hq)
  rw [show mk4 (zh 0 1 c) 1 = 0 from msk_zh0 (by decide) (by decide)] at e
  exact e
theorem ct_zh1 {G : GT} {l : Launch} {N : Nat} {S : ST} {b : Nat} {c : Nat → Int32} (hb : RB b) (hN : 513 ≤ N) : CTv G l yJ0_clear cJ0_clear 1 none 0 [.ref (gZ G + (b + 1))] N (put S b c) (put S b (zh 0 1 c)) := by
  have hle := hb.le
  rw [← pzh_1]
  exact ct_J0_clear (BC_run hb (by decide)) bsr_1 (by omega)
theorem pzh_3 {S : ST} {b : Nat} {c : Nat → Int32} : bset (put S b c) (b + 3) 0 = put S b (zh 0 2 c) := by
  have e := put_bits (S := S) (b := b) (c := c) (j := 3) (c' := zh 0 2 c) (by decide) (fun q q1 q2 q3 q4 => by
    have q5 : q = 1 ∨ q = 2 ∨ q = 3 ∨ q = 4 ∨ q = 5 ∨ q = 6 ∨ q = 7 ∨ q = 8 := by omega
    rcases q5 with rfl | rfl | rfl | rfl | rfl | rfl | rfl | rfl
    · rw [mk4_1, mk4_1]; exact msk_zh (by decide) (by decide) (by decide) (by decide)
    · rw [mk4_2, mk4_2]; exact msk_zh (by decide) (by decide) (by decide) (by decide)
    · exact absurd rfl q3
    · exact absurd rfl q4
    · rw [mk4_5, mk4_5]; exact msk_zh (by decide) (by decide) (by decide) (by decide)
    · rw [mk4_6, mk4_6]; exact msk_zh (by decide) (by decide) (by decide) (by decide)
    · rw [mk4_7, mk4_7]; exact msk_zh (by decide) (by decide) (by decide) (by decide)
    · rw [mk4_8, mk4_8]; exact msk_zh (by decide) (by decide) (by decide) (by decide)) (fun q p hq => zh_ri (by decide) hq)
  rw [show mk4 (zh 0 2 c) 3 = 0 from msk_zh0 (by decide) (by decide)] at e
  exact e
theorem ct_zh3 {G : GT} {l : Launch} {N : Nat} {S : ST} {b : Nat} {c : Nat → Int32} (hb : RB b) (hN : 513 ≤ N) : CTv G l yJ0_clear cJ0_clear 1 none 0 [.ref (gZ G + (b + 3))] N (put S b c) (put S b (zh 0 2 c)) := by
  have hle := hb.le
  rw [← pzh_3]
  exact ct_J0_clear (BC_run hb (by decide)) bsr_3 (by omega)
theorem pzh_5 {S : ST} {b : Nat} {c : Nat → Int32} : bset (put S b c) (b + 5) 0 = put S b (zh 0 3 c) := by
  have e := put_bits (S := S) (b := b) (c := c) (j := 5) (c' := zh 0 3 c) (by decide) (fun q q1 q2 q3 q4 => by
    have q5 : q = 1 ∨ q = 2 ∨ q = 3 ∨ q = 4 ∨ q = 5 ∨ q = 6 ∨ q = 7 ∨ q = 8 := by omega
    rcases q5 with rfl | rfl | rfl | rfl | rfl | rfl | rfl | rfl
    · rw [mk4_1, mk4_1]; exact msk_zh (by decide) (by decide) (by decide) (by decide)
    · rw [mk4_2, mk4_2]; exact msk_zh (by decide) (by decide) (by decide) (by decide)
    · rw [mk4_3, mk4_3]; exact msk_zh (by decide) (by decide) (by decide) (by decide)
    · rw [mk4_4, mk4_4]; exact msk_zh (by decide) (by decide) (by decide) (by decide)
    · exact absurd rfl q3
    · exact absurd rfl q4
    · rw [mk4_7, mk4_7]; exact msk_zh (by decide) (by decide) (by decide) (by decide)
    · rw [mk4_8, mk4_8]; exact msk_zh (by decide) (by decide) (by decide) (by decide)) (fun q p hq => zh_ri (by decide) hq)
  rw [show mk4 (zh 0 3 c) 5 = 0 from msk_zh0 (by decide) (by decide)] at e
  exact e
theorem ct_zh5 {G : GT} {l : Launch} {N : Nat} {S : ST} {b : Nat} {c : Nat → Int32} (hb : RB b) (hN : 513 ≤ N) : CTv G l yJ0_clear cJ0_clear 1 none 0 [.ref (gZ G + (b + 5))] N (put S b c) (put S b (zh 0 3 c)) := by
  have hle := hb.le
  rw [← pzh_5]
  exact ct_J0_clear (BC_run hb (by decide)) bsr_5 (by omega)
theorem pzh_7 {S : ST} {b : Nat} {c : Nat → Int32} : bset (put S b c) (b + 7) 0 = put S b (zh 5 1 c) := by
  have e := put_bits (S := S) (b := b) (c := c) (j := 7) (c' := zh 5 1 c) (by decide) (fun q q1 q2 q3 q4 => by
    have q5 : q = 1 ∨ q = 2 ∨ q = 3 ∨ q = 4 ∨ q = 5 ∨ q = 6 ∨ q = 7 ∨ q = 8 := by omega
    rcases q5 with rfl | rfl | rfl | rfl | rfl | rfl | rfl | rfl
    · rw [mk4_1, mk4_1]; exact msk_zh (by decide) (by decide) (by decide) (by decide)
    · rw [mk4_2, mk4_2]; exact msk_zh (by decide) (by decide) (by decide) (by decide)
    · rw [mk4_3, mk4_3]; exact msk_zh (by decide) (by decide) (by decide) (by decide)
    · rw [mk4_4, mk4_4]; exact msk_zh (by decide) (by decide) (by decide) (by decide)
    · rw [mk4_5, mk4_5]; exact msk_zh (by decide) (by decide) (by decide) (by decide)
    · rw [mk4_6, mk4_6]; exact msk_zh (by decide) (by decide) (by decide) (by decide)
    · exact absurd rfl q3
    · exact absurd rfl q4) (fun q p hq => zh_ri (by decide) hq)
  rw [show mk4 (zh 5 1 c) 7 = 0 from msk_zh0 (by decide) (by decide)] at e
  exact e
theorem ct_zh7 {G : GT} {l : Launch} {N : Nat} {S : ST} {b : Nat} {c : Nat → Int32} (hb : RB b) (hN : 513 ≤ N) : CTv G l yJ0_clear cJ0_clear 1 none 0 [.ref (gZ G + (b + 7))] N (put S b c) (put S b (zh 5 1 c)) := by
  have hle := hb.le
  rw [← pzh_7]
  exact ct_J0_clear (BC_run hb (by decide)) bsr_7 (by omega)
theorem put_ext {S : ST} {b : Nat} {c c' : Nat → Int32} (h1 : ∀ t, t < 8 → ∀ h, (h = 1 ∨ h = 2 ∨ h = 3) → (c (18 * t) = nI h ↔ c' (18 * t) = nI h)) (h5 : ∀ t, t < 8 → (c (18 * t + 5) = nI 1 ↔ c' (18 * t + 5) = nI 1)) (h2 : ∀ q p, (q = 0 ∨ 9 ≤ q) → c (ri q p) = c' (ri q p)) : put S b c = put S b c' := by
  have hm : ∀ j, 1 ≤ j → j < 9 → mk4 c j = mk4 c' j := by
    intro j hj1 hj2
    unfold mk4
    split
    · unfold msk
      refine bm_ext (fun t ht => decide_eq_decide.mpr ?_)
      exact h1 t ht _ (by omega)
    · unfold msk
      exact bm_ext (fun t ht => decide_eq_decide.mpr (h5 t ht))
  funext k p
  unfold put
  by_cases hk : b ≤ k ∧ k < b + 28
  · rw [if_pos hk, if_pos hk]
    unfold runCell
    by_cases hb : 1 ≤ k - b ∧ k - b < 9
    · rw [if_pos hb, if_pos hb, hm _ hb.1 hb.2]
    · rw [if_neg hb, if_neg hb]; exact h2 _ _ (by omega)
  · rw [if_neg hk, if_neg hk]
theorem ri_o {j q p o : Nat} (hj1 : 9 ≤ j) (hj2 : j < 16) (hr : ∀ p, p < 8 → ri j p = 18 * p + o) (hq : q = 0 ∨ 9 ≤ q) (hq2 : q < 28) (e : ri q p % 18 = o) (e2 : ri q p < 144) : q = j := by
  have e3 : ri q p = ri j (ri q p / 18) := by rw [hr _ (by omega)]; omega
  exact (ri_inj (j := j) (p := ri q p / 18) (Or.inr hj1) (by omega) hq hq2 (by rw [← e3]; omega) e3).1
/-- an array of a run, filled -/
theorem put_fw {S : ST} {b j o : Nat} {c : Nat → Int32} {v : Int32} (hj1 : 9 ≤ j) (hj2 : j < 16) (hr : ∀ p, p < 8 → ri j p = 18 * p + o) (h0 : o ≠ 0) (h5 : o ≠ 5) (h18 : o < 18) : s1 (put S b c) (b + j) (runCell (fw o v c) j) = put S b (fw o v c) := by
  have hm : ∀ q, mk4 (fw o v c) q = mk4 c q := by
    intro q
    unfold mk4
    split
    · exact msk_ext (fun t ht => by unfold fw; rw [if_neg (by omega)])
    · exact msk_ext (fun t ht => by unfold fw; rw [if_neg (by omega)])
  funext k p
  by_cases hk : k = b + j
  · subst hk; rw [s1_at, put_at (by omega)]
  · rw [s1_ne hk]
    unfold put
    by_cases hb : b ≤ k ∧ k < b + 28
    · rw [if_pos hb, if_pos hb]
      unfold runCell
      by_cases h9 : 1 ≤ k - b ∧ k - b < 9
      · rw [if_pos h9, if_pos h9, hm]
      · rw [if_neg h9, if_neg h9]
        unfold fw
        rw [if_neg]
        rintro ⟨e1, e2⟩
        have := ri_o hj1 hj2 hr (by omega) (by omega) e1 e2
        omega
    · rw [if_neg hb, if_neg hb]
theorem fw_cell {j o : Nat} {c : Nat → Int32} {v : Int32} (hj1 : 9 ≤ j) (hj2 : j < 16) (hr : ∀ p, p < 8 → ri j p = 18 * p + o) (h18 : o < 18) : ∀ p, p < 8 → runCell (fw o v c) j p = v := by
  intro p hp
  unfold runCell
  rw [if_neg (by omega), hr p hp]
  unfold fw
  rw [if_pos (by omega)]
/-! copying a run, cell by cell: the cells below n are of e, the others of c -/
def mx (S : ST) (b : Nat) (c e : Nat → Int32) (n : Nat) : ST := fun k => if b ≤ k ∧ k < b + 28 then (if k - b < n then runCell e (k - b) else runCell c (k - b)) else S k
theorem mx_at {S : ST} {b n j : Nat} {c e : Nat → Int32} (hj : j < 28) (hn : n ≤ j) : mx S b c e n (b + j) = runCell c j := by
  unfold mx
  rw [if_pos ⟨by omega, by omega⟩, Nat.add_sub_cancel_left, if_neg (by omega)]
theorem mx_ne {S : ST} {b n k : Nat} {c e : Nat → Int32} (h : k < b ∨ b + 28 ≤ k) : mx S b c e n k = S k := by
  unfold mx
  rw [if_neg (by omega)]
theorem mx_1 {S : ST} {b : Nat} {c e : Nat → Int32} (h0 : runCell c 0 = runCell e 0) : put S b c = mx S b c e 1 := by
  funext k
  unfold put mx
  by_cases hk : b ≤ k ∧ k < b + 28
  · rw [if_pos hk, if_pos hk]
    by_cases h : k - b < 1
    · rw [if_pos h, show k - b = 0 by omega]; exact h0
    · rw [if_neg h]
  · rw [if_neg hk, if_neg hk]
theorem mx_28 {S : ST} {b : Nat} {c e : Nat → Int32} : mx S b c e 28 = put S b e := by
  funext k
  unfold put mx
  by_cases hk : b ≤ k ∧ k < b + 28
  · rw [if_pos hk, if_pos hk, if_pos (by omega)]
  · rw [if_neg hk, if_neg hk]
theorem mx_s {S : ST} {b n : Nat} {c e : Nat → Int32} (hn : n < 28) : s1 (mx S b c e n) (b + n) (runCell e n) = mx S b c e (n + 1) := by
  funext k
  by_cases hk : k = b + n
  · subst hk
    rw [s1_at]
    unfold mx
    rw [if_pos ⟨by omega, by omega⟩, Nat.add_sub_cancel_left, if_pos (by omega)]
  · rw [s1_ne hk]
    unfold mx
    by_cases h : b ≤ k ∧ k < b + 28
    · rw [if_pos h, if_pos h]
      by_cases h2 : k - b < n
      · rw [if_pos h2, if_pos (by omega)]
      · rw [if_neg h2, if_neg (by omega)]
    · rw [if_neg h, if_neg h]
theorem mx_16 {S : ST} {b : Nat} {c e : Nat → Int32} (h4 : c 400 = e 400) : mx S b c e 16 = mx S b c e 17 := by
  refine (s1_of (S := mx S b c e 16) (k := b + 16) (f := runCell e 16) ?_).trans (mx_s (by decide))
  rw [mx_at (by decide) (by decide)]
  funext p
  show c (ri 16 p) = e (ri 16 p)
  rw [show ri 16 p = 400 from rfl]
  exact h4
theorem mx_BS {S : ST} {b n j : Nat} {c e : Nat → Int32} (hj : j = 1 ∨ j = 3 ∨ j = 5 ∨ j = 7) (hn : n ≤ j) : BS (mx S b c e n) (b + j) (mk4 c j) := by
  have hm : mk4 c (j + 1) = mk4 c j := by rcases hj with rfl | rfl | rfl | rfl <;> rfl
  refine ⟨?_, ?_, ?_⟩
  · rw [Nat.add_assoc, mx_at (by omega) (by omega)]
    unfold runCell
    rw [if_pos (by omega), if_neg (by omega), if_pos rfl, hm]
  · rcases hj with rfl | rfl | rfl | rfl <;> exact msk_lt
  · rw [mx_at (by omega) hn]
    unfold runCell
    rw [if_pos (by omega), if_pos (by omega), if_pos rfl]
theorem mx_bits {S : ST} {b j : Nat} {c e : Nat → Int32} (hj : j = 1 ∨ j = 3 ∨ j = 5 ∨ j = 7) : bset (mx S b c e j) (b + j) (mk4 e j) = mx S b c e (j + 2) := by
  have hm : mk4 e (j + 1) = mk4 e j := by rcases hj with rfl | rfl | rfl | rfl <;> rfl
  have r1 : ∀ (d : Nat → Int32) (p : Nat), runCell d (j + 1) p = if p = 0 then nI (mk4 d (j + 1)) else 0 := fun d p => by
    unfold runCell
    rw [if_pos (by omega), if_neg (by omega)]
  have r0 : ∀ (d : Nat → Int32) (p : Nat), runCell d j p = if p = 1 then nI (wi (mk4 d j)) else 0 := fun d p => by
    unfold runCell
    rw [if_pos (by omega), if_pos (by omega)]
  have e2 : mx S b c e (j + 2) = s1 (s1 (mx S b c e j) (b + j) (runCell e j)) (b + (j + 1)) (runCell e (j + 1)) := by
    rw [mx_s (n := j) (by omega), mx_s (n := j + 1) (by omega)]
  rw [e2]
  have a1 : mx S b c e j (b + j) = runCell c j := mx_at (by omega) (Nat.le_refl _)
  have a2 : mx S b c e j (b + (j + 1)) = runCell c (j + 1) := mx_at (by omega) (by omega)
  refine st_ext fun k p => ?_
  unfold bset
  rw [s2_val, s2_val]
  by_cases k2 : k = b + (j + 1)
  · subst k2
    rw [s1_at, a2, r1, r1, hm]
    by_cases p0 : p = 0
    · rw [if_pos ⟨rfl, p0⟩, if_pos p0]
    · rw [if_neg (fun z => p0 z.2), if_neg (fun z => absurd z.1 (by omega)), if_neg p0, if_neg p0]
  · rw [s1_ne k2, if_neg (fun z => k2 z.1)]
    by_cases k1 : k = b + j
    · subst k1
      rw [s1_at, a1, r0, r0]
      by_cases p1 : p = 1
      · rw [if_pos ⟨rfl, p1⟩, if_pos p1]
      · rw [if_neg (fun z => p1 z.2), if_neg p1, if_neg p1]
    · rw [s1_ne k1, if_neg (fun z => k1 z.1)]
/-- the row that a run holds behind a copy of d over c -/
abbrev cpR (d c : Nat → Int32) : Nat → Int32 := upd d 400 (c 400)
def cpE (d c : Nat → Int32) : Nat → Int32 := upd (upd d 400 (c 400)) 145 (c 145)
theorem cpE_mk {d c : Nat → Int32} {j : Nat} : mk4 (cpE d c) j = mk4 d j := by
  unfold cpE
  rw [mk4_un (fun t ht => by omega), mk4_un (fun t ht => by omega)]
theorem cpE_0 {d c : Nat → Int32} : runCell (upd c 144 (d 144)) 0 = runCell (cpE d c) 0 := by
  funext p
  show upd c 144 (d 144) (ri 0 p) = cpE d c (ri 0 p)
  rw [show ri 0 p = if p = 0 then 144 else if p = 16 then 145 else 400 from rfl]
  unfold cpE
  by_cases p0 : p = 0
  · rw [if_pos p0, pk_us, pk_un (by decide), pk_un (by decide)]
  · rw [if_neg p0]
    by_cases p1 : p = 16
    · rw [if_pos p1, pk_un (by decide), pk_us]
    · rw [if_neg p1, pk_un (by decide), pk_un (by decide), pk_us]
theorem cpE_end {d c : Nat → Int32} : upd (cpE d c) 145 (d 145) = cpR d c := by
  unfold cpE cpR
  funext j
  by_cases h : j = 145
  · subst h; rw [pk_us, pk_un (by decide)]
  · rw [pk_un h, pk_un h]
theorem ri_8 {j p : Nat} (hj : (9 ≤ j ∧ j < 16) ∨ (17 ≤ j ∧ j < 25)) : (p < 8 → ri j p ≠ 400 ∧ ri j p ≠ 145 ∧ ri j p ≠ 144) ∧ (¬ p < 8 → ri j p = 400) := by
  unfold ri
  rw [if_neg (by omega)]
  rcases hj with hj | hj
  · rw [if_pos (by omega)]
    constructor
    · intro hp; rw [if_pos hp]; split <;> omega
    · intro hp; rw [if_neg hp]
  · rw [if_neg (by omega), if_neg (by omega), if_pos (by omega)]
    constructor
    · intro hp; rw [if_pos hp]; omega
    · intro hp; rw [if_neg hp]
theorem ri_60 {j p : Nat} (hj : 25 ≤ j ∧ j < 28) : (p < 60 → ri j p ≠ 400 ∧ ri j p ≠ 145 ∧ ri j p ≠ 144) ∧ (¬ p < 60 → ri j p = 400) := by
  unfold ri
  rw [if_neg (by omega), if_neg (by omega), if_neg (by omega), if_neg (by omega)]
  constructor
  · intro hp; rw [if_pos hp]; omega
  · intro hp; rw [if_neg hp]
theorem cpy_cell {d c : Nat → Int32} {j n : Nat} (hj : j < 28) (h9 : 9 ≤ j) (h1 : ∀ p, (p < n → ri j p ≠ 400 ∧ ri j p ≠ 145 ∧ ri j p ≠ 144) ∧ (¬ p < n → ri j p = 400)) : va_cpy (runCell d j) (runCell (upd c 144 (d 144)) j) 0 0 n = runCell (cpE d c) j := by
  funext p
  unfold va_cpy
  by_cases hp : p < n
  · obtain ⟨a1, a2, a3⟩ := (h1 p).1 hp
    rw [if_pos (by omega), Nat.zero_add, Nat.sub_zero]
    unfold runCell cpE
    rw [if_neg (by omega), if_neg (by omega), pk_un a2, pk_un a1]
  · rw [if_neg (by omega)]
    unfold runCell cpE
    rw [if_neg (by omega), if_neg (by omega), (h1 p).2 hp, pk_un (by decide), pk_un (by decide), pk_us]
section VCP
variable {G : GT} {x : VX} {own : String} {cc : ByteArray} {nL : Nat} {Q : State → Prop} {lv lv' : List (Nat × Value)} {st : List Value} {N : Nat} {S : ST} {a b pc : Nat}
/-- System.arraycopy of int arrays of the world -/
theorem c_copyi {index k0 k1 n0 n1 m : Nat} (hlink : Cond.methodLink own index arraycopyName ∈ lw_all) (i0 : IA k0 n0) (h0 : k0 < N) (i1 : IA k1 n1) (h1 : k1 < N) (hm0 : m ≤ n0) (hm1 : m ≤ n1) (hmm : m < 2 ^ 31) (hframes : 1 ≤ (xR x).frames) (hlocals : (st.map fun v => v.category).sum + (nativeFrameWords "java/lang/System" "arraycopy" 5 + 11) ≤ (xR x).locals) (hd : decode cc pc = .ok (.invokestatic index, 3))
    (kk : V G x own cc nL Q (pc + 3) lv st N (hC G (s1 S k1 (va_cpy (S k0) (S k1) 0 0 m))) a b) : V G x own cc nL Q pc lv (.int (nI m) :: .int (nI 0) :: .ref (gZ G + k1) :: .int (nI 0) :: .ref (gZ G + k0) :: st) N (hC G S) a b :=
  v_copyi hlink h0 (i0.at G S) h1 (i1.at G S) rfl hm0 hm1 hmm hframes hlocals hd (by rw [hC_s1 (i1 G _)]; exact kk)
/-- an array of the run b becomes what it is in the run a -/
theorem c_cpj {a0 b0 j n index : Nat} {d c : Nat → Int32} {r0 r1 : Nat} (e0 : r0 = a0 + j) (e1 : r1 = b0 + j) (hlink : Cond.methodLink own index arraycopyName ∈ lw_all) (hab : a0 + 28 ≤ b0 ∨ b0 + 28 ≤ a0) (hd0 : ∀ j, j < 28 → S (a0 + j) = runCell d j) (i0 : IA (a0 + j) n) (i1 : IA (b0 + j) n) (hN0 : a0 + 28 ≤ N) (hN1 : b0 + 28 ≤ N) (hj : j < 28) (h9 : 9 ≤ j) (hn : n < 2 ^ 31) (h1 : ∀ p, (p < n → ri j p ≠ 400 ∧ ri j p ≠ 145 ∧ ri j p ≠ 144) ∧ (¬ p < n → ri j p = 400)) (hframes : 1 ≤ (xR x).frames) (hlocals : (st.map fun v => v.category).sum + (nativeFrameWords "java/lang/System" "arraycopy" 5 + 11) ≤ (xR x).locals) (hd : decode cc pc = .ok (.invokestatic index, 3))
    (kk : V G x own cc nL Q (pc + 3) lv st N (hC G (mx S b0 (upd c 144 (d 144)) (cpE d c) (j + 1))) a b) : V G x own cc nL Q pc lv (.int (nI n) :: .int (nI 0) :: .ref (gZ G + r1) :: .int (nI 0) :: .ref (gZ G + r0) :: st) N (hC G (mx S b0 (upd c 144 (d 144)) (cpE d c) j)) a b := by
  subst e0; subst e1
  refine c_copyi hlink i0 (by omega) i1 (by omega) (Nat.le_refl _) (Nat.le_refl _) hn hframes hlocals hd ?_
  rw [mx_ne (by omega), hd0 j hj, mx_at hj (Nat.le_refl _), cpy_cell hj h9 h1, mx_s hj]
  exact kk
end VCP
