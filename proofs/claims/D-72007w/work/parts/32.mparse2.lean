set_option maxRecDepth 100000
/-! ScopeTasksModel: reading, on whole states -/
abbrev mL (S : ST) : Nat := nn (S 513 0)
abbrev mP (S : ST) : Nat := nn (S 513 2)
def MP (S : ST) : Prop := inN (S 513 0) 120 ∧ inN (S 513 2) (mL S)
def blS (S : ST) : ST := s1 S 513 (upd (S 513) 2 (nI (sk (S 514) (mL S) (mP S))))
def nxS (S : ST) : ST := s1 S 513 (nx (S 514) (mL S) (mP S) (S 513))
abbrev nuB (S : ST) (lo hi : Int32) : Prop := nuP (nx (S 514) (mL S) (mP S) (S 513)) lo hi
def nuS (S : ST) (lo hi : Int32) : ST := s1 S 513 (nu (S 514) (mL S) (mP S) (S 513) lo hi)
abbrev esB (S : ST) : Prop := nx (S 514) (mL S) (mP S) (S 513) 4 = nI 59
def esS (S : ST) : ST := s1 S 513 (es (S 514) (mL S) (mP S) (S 513))
def flS (S : ST) : ST := s1 S 513 (fl (S 513))
theorem nx_ne {X : Nat → Int32} {L p j : Nat} {g : Nat → Int32} (h : j < 2 ∨ 5 < j) : nx X L p g j = g j := by
  unfold nx set4
  rw [if_neg (by omega), if_neg (by omega), if_neg (by omega), if_neg (by omega)]
theorem nx_2 {X : Nat → Int32} {L p : Nat} {g : Nat → Int32} : nx X L p g 2 = nI (tkE X L p) := rfl
theorem nx_3 {X : Nat → Int32} {L p : Nat} {g : Nat → Int32} : nx X L p g 3 = nI (sk X L p) := rfl
theorem nu_ne {X : Nat → Int32} {L p j : Nat} {g : Nat → Int32} {lo hi : Int32} (h : j < 2 ∨ 6 < j) : nu X L p g lo hi j = g j := by
  unfold nu
  split
  · exact nx_ne (by omega)
  · unfold fl; rw [pk_un (by omega)]; exact nx_ne (by omega)
theorem nu_2 {X : Nat → Int32} {L p : Nat} {g : Nat → Int32} {lo hi : Int32} : nu X L p g lo hi 2 = nI (tkE X L p) := by
  unfold nu
  split
  · rfl
  · unfold fl; rw [pk_un (by omega)]; rfl
theorem es_ne {X : Nat → Int32} {L p j : Nat} {g : Nat → Int32} (h : j < 2 ∨ 6 < j) : es X L p g j = g j := by
  unfold es
  split
  · exact nx_ne (by omega)
  · unfold fl; rw [pk_un (by omega)]; exact nx_ne (by omega)
theorem es_2 {X : Nat → Int32} {L p : Nat} {g : Nat → Int32} : es X L p g 2 = nI (tkE X L p) := by
  unfold es
  split
  · rfl
  · unfold fl; rw [pk_un (by omega)]; rfl
theorem MP.L {S : ST} (h : MP S) : mL S ≤ 120 := h.1.2
theorem MP.p {S : ST} (h : MP S) : mP S ≤ mL S := h.2.2
/-- a state whose text ends where it did, at a place in it -/
theorem MP.to {S S' : ST} (h : MP S) (e0 : S' 513 0 = S 513 0) {q : Nat} (e2 : S' 513 2 = nI q) (hq : q ≤ mL S) : MP S' := by
  have := h.L
  unfold MP mL
  rw [e0, e2]
  exact ⟨h.1, inN_nI hq (by unfold mL at *; omega)⟩
theorem MP_nx {S : ST} (h : MP S) : MP (nxS S) := h.to (by unfold nxS; rw [s1_at]; exact nx_ne (by omega)) (by unfold nxS; rw [s1_at]; exact nx_2) (tkE_le h.p).2
theorem MP_nu {S : ST} (h : MP S) (lo hi : Int32) : MP (nuS S lo hi) := h.to (by unfold nuS; rw [s1_at]; exact nu_ne (by omega)) (by unfold nuS; rw [s1_at]; exact nu_2) (tkE_le h.p).2
theorem MP_es {S : ST} (h : MP S) : MP (esS S) := h.to (by unfold esS; rw [s1_at]; exact es_ne (by omega)) (by unfold esS; rw [s1_at]; exact es_2) (tkE_le h.p).2
theorem MP_bl {S : ST} (h : MP S) : MP (blS S) := h.to (by unfold blS; rw [s1_at, pk_un (by omega)]) (by unfold blS; rw [s1_at, pk_us]) (sk_le h.p).2
theorem MP_fl {S : ST} (h : MP S) : MP (flS S) := h.to (by unfold flS fl; rw [s1_at, pk_un (by omega)]) (by unfold flS fl; rw [s1_at, pk_un (by omega)]; exact h.2.1) h.p
/-- a state alike in the text's end and place -/
theorem MP.same {S S' : ST} (h : MP S) (e0 : S' 513 0 = S 513 0) (e2 : S' 513 2 = S 513 2) : MP S' := by
  unfold MP mL; rw [e0, e2]; exact h
theorem nxS_ne {S : ST} {k : Nat} (h : k ≠ 513) : nxS S k = S k := s1_ne h
theorem nuS_ne {S : ST} {k : Nat} {lo hi : Int32} (h : k ≠ 513) : nuS S lo hi k = S k := s1_ne h
theorem nxS_j {S : ST} {j : Nat} (h : j < 2 ∨ 5 < j) : nxS S 513 j = S 513 j := by unfold nxS; rw [s1_at]; exact nx_ne h
theorem nuS_j {S : ST} {j : Nat} {lo hi : Int32} (h : j < 2 ∨ 6 < j) : nuS S lo hi 513 j = S 513 j := by unfold nuS; rw [s1_at]; exact nu_ne h
abbrev opP (c : Int32) : Prop := c = nI 119 ∨ c = nI 98 ∨ c = nI 106 ∨ c = nI 120 ∨ c = nI 102
abbrev wfP (c : Int32) : Prop := c = nI 119 ∨ c = nI 102
def pgW (S : ST) (t : Nat) (c v : Int32) : ST := s2 (s2 (s2 S 517 (12 * t + 2 * nn (S 516 t)) c) 517 (12 * t + 2 * nn (S 516 t) + 1) v) 516 t (nI (nn (S 516 t) + 1))
def pgL (t : Nat) : Nat → ST → Bool × ST
  | 0, S => if S 513 4 = nI 59 then (true, S) else (false, flS S)
  | m + 1, S => if S 513 4 = nI 59 then (true, S) else if opP (S 513 4) then
      (if wfP (S 513 4) then (if nuB S (nI 1) (nI 9) then pgL t m (nxS (pgW (nuS S (nI 1) (nI 9)) t (S 513 4) (nuS S (nI 1) (nI 9) 513 5))) else (false, nuS S (nI 1) (nI 9)))
       else pgL t m (nxS (pgW S t (S 513 4) (nI 0)))) else (false, flS S)
def pgR (S : ST) (t : Nat) : Bool × ST := pgL t (6 - nn (S 516 t)) (nxS S)
theorem MP_pgW {S : ST} (h : MP S) (t : Nat) (c v : Int32) : MP (pgW S t c v) := h.same (by unfold pgW; rw [s2_nk (by decide), s2_nk (by decide), s2_nk (by decide)]) (by unfold pgW; rw [s2_nk (by decide), s2_nk (by decide), s2_nk (by decide)])
theorem pgW_516 (S : ST) (t : Nat) (c v : Int32) : pgW S t c v 516 t = nI (nn (S 516 t) + 1) := by unfold pgW; rw [s2_at]
theorem MP_pgL (t : Nat) : ∀ (m : Nat) (S : ST), MP S → MP (pgL t m S).2 := by
  intro m
  induction m with
  | zero => intro S h; rw [pgL]; split; exact h; exact MP_fl h
  | succ m ih =>
    intro S h
    rw [pgL]
    split
    · exact h
    · split
      · split
        · split
          · exact ih _ (MP_nx (MP_pgW (MP_nu h _ _) _ _ _))
          · exact MP_nu h _ _
        · exact ih _ (MP_nx (MP_pgW h _ _ _))
      · exact MP_fl h
/-- what the program reader leaves as it was -/
theorem pgL_513 (t : Nat) {j : Nat} (hj : j < 2 ∨ 6 < j) : ∀ (m : Nat) (S : ST), (pgL t m S).2 513 j = S 513 j := by
  have hfl : ∀ S : ST, flS S 513 j = S 513 j := fun S => by unfold flS fl; rw [s1_at, pk_un (by omega)]
  have hpw : ∀ (S : ST) (c v : Int32), pgW S t c v 513 j = S 513 j := fun S c v => by unfold pgW; rw [s2_nk (by decide), s2_nk (by decide), s2_nk (by decide)]
  intro m
  induction m with
  | zero => intro S; rw [pgL]; split; rfl; exact hfl S
  | succ m ih =>
    intro S
    rw [pgL]
    split
    · rfl
    · split
      · split
        · split
          · rw [ih, nxS_j (by omega), hpw, nuS_j hj]
          · exact nuS_j hj
        · rw [ih, nxS_j (by omega), hpw]
      · exact hfl S
theorem pgL_ne (t : Nat) {k : Nat} (h1 : k ≠ 513) (h2 : k ≠ 516) (h3 : k ≠ 517) : ∀ (m : Nat) (S : ST), (pgL t m S).2 k = S k := by
  have hfl : ∀ S : ST, flS S k = S k := fun S => s1_ne h1
  have hpw : ∀ (S : ST) (c v : Int32), pgW S t c v k = S k := fun S c v => by unfold pgW; rw [s2_nk h2, s2_nk h3, s2_nk h3]
  intro m
  induction m with
  | zero => intro S; rw [pgL]; split; rfl; exact hfl S
  | succ m ih =>
    intro S
    rw [pgL]
    split
    · rfl
    · split
      · split
        · split
          · rw [ih, nxS_ne h1, hpw, nuS_ne h1]
          · exact nuS_ne h1
        · rw [ih, nxS_ne h1, hpw]
      · exact hfl S
theorem pgL_516 (t : Nat) {q : Nat} (hq : q ≠ t) : ∀ (m : Nat) (S : ST), (pgL t m S).2 516 q = S 516 q := by
  have hfl : ∀ S : ST, flS S 516 q = S 516 q := fun S => congrFun (s1_ne (by decide)) q
  have hpw : ∀ (S : ST) (c v : Int32), pgW S t c v 516 q = S 516 q := fun S c v => by unfold pgW; rw [s2_nj hq, s2_nk (by decide), s2_nk (by decide)]
  intro m
  induction m with
  | zero => intro S; rw [pgL]; split; rfl; exact hfl S
  | succ m ih =>
    intro S
    rw [pgL]
    split
    · rfl
    · split
      · split
        · split
          · rw [ih, nxS_ne (by decide), hpw, nuS_ne (by decide)]
          · show nuS S (nI 1) (nI 9) 516 q = S 516 q
            rw [nuS_ne (by decide)]
        · rw [ih, nxS_ne (by decide), hpw]
      · exact hfl S
theorem pgL_in (t : Nat) : ∀ (m : Nat) (S : ST), S 516 t = nI (6 - m) → m ≤ 6 → inN ((pgL t m S).2 516 t) 6 := by
  have hb : ∀ {S : ST} {m : Nat}, S 516 t = nI (6 - m) → inN (S 516 t) 6 := fun h => by rw [h]; exact inN_nI (by omega) (by decide)
  have hfl : ∀ S : ST, flS S 516 t = S 516 t := fun S => congrFun (s1_ne (by decide)) t
  intro m
  induction m with
  | zero => intro S h _; rw [pgL]; split; exact hb h; show inN (flS S 516 t) 6; rw [hfl]; exact hb h
  | succ m ih =>
    intro S h hm
    have hn : nn (S 516 t) = 6 - (m + 1) := by rw [h]; exact nn_nI (by omega)
    rw [pgL]
    split
    · exact hb h
    · split
      · split
        · split
          · refine ih _ ?_ (by omega)
            rw [nxS_ne (by decide), pgW_516, nuS_ne (by decide), hn]; congr 1; omega
          · show inN (nuS S (nI 1) (nI 9) 516 t) 6
            rw [nuS_ne (by decide)]; exact hb h
        · refine ih _ ?_ (by omega)
          rw [nxS_ne (by decide), pgW_516, hn]; congr 1; omega
      · show inN (flS S 516 t) 6
        rw [hfl]; exact hb h
