set_option maxRecDepth 100000
/-! ScopeTasksModel: items; the tree told -/
theorem dg_gt {X : Nat → Int32} {L p v : Nat} {m : Nat} (h : figP X L p) (hm : p + (m + 1) ≤ L) (hv : v ≤ 999) : p < (dg X L (m + 1) p v).2 := by
  rw [dg, if_pos h]
  have hc : nn (X p) ≤ 57 := by
    obtain ⟨c, -, h2, e⟩ := figN h.2
    rw [e, nn_nI (by omega)]
    exact h2
  have := dg_le X L m (p + 1) (if 99 < v then v else 10 * v + nn (X p) - 48) (by omega) (by split <;> omega)
  omega
theorem tkE_gt {X : Nat → Int32} {L p : Nat} (h : p < L) : p < tkE X L p := by
  have h1 := sk_le (X := X) (Nat.le_of_lt h)
  unfold tkE
  split
  · exact h
  · split
    next c =>
      unfold tkD
      rw [show L - sk X L p = (L - sk X L p - 1) + 1 by omega]
      have := dg_gt (v := 0) (m := L - sk X L p - 1) c (by omega) (by omega)
      omega
    next => omega
/-- forward: the text's end the same, the place no smaller -/
def Fw (S S' : ST) : Prop := MP S' ∧ S' 513 0 = S 513 0 ∧ mP S ≤ mP S'
theorem Fw.rf {S : ST} (h : MP S) : Fw S S := ⟨h, rfl, Nat.le_refl _⟩
theorem Fw.tr {S S' S'' : ST} (h : Fw S S') (h2 : Fw S' S'') : Fw S S'' := ⟨h2.1, h2.2.1.trans h.2.1, Nat.le_trans h.2.2 h2.2.2⟩
theorem Fw.same {S S' S'' : ST} (h : Fw S S') (e0 : S'' 513 0 = S' 513 0) (e2 : S'' 513 2 = S' 513 2) : Fw S S'' := ⟨h.1.same e0 e2, e0.trans h.2.1, by unfold mP at *; rw [e2]; exact h.2.2⟩
theorem Fw_at {S S' : ST} (h : MP S) (e0 : S' 513 0 = S 513 0) {q : Nat} (e2 : S' 513 2 = nI q) (hq : q ≤ mL S) (hp : mP S ≤ q) : Fw S S' := ⟨h.to e0 e2 hq, e0, by have := h.L; unfold mP at *; rw [e2, nn_nI (by omega)]; exact hp⟩
theorem Fw_nx {S : ST} (h : MP S) : Fw S (nxS S) := Fw_at h (nxS_j (by omega)) (by unfold nxS; rw [s1_at]; exact nx_2) (tkE_le h.p).2 (by have := tkE_le (X := S 514) h.p; have := sk_le (X := S 514) h.p; omega)
theorem Fw_nu {S : ST} (h : MP S) (lo hi : Int32) : Fw S (nuS S lo hi) := Fw_at h (nuS_j (by omega)) (by unfold nuS; rw [s1_at]; exact nu_2) (tkE_le h.p).2 (by have := tkE_le (X := S 514) h.p; have := sk_le (X := S 514) h.p; omega)
theorem Fw_es {S : ST} (h : MP S) : Fw S (esS S) := Fw_at h (by unfold esS; rw [s1_at]; exact es_ne (by omega)) (by unfold esS; rw [s1_at]; exact es_2) (tkE_le h.p).2 (by have := tkE_le (X := S 514) h.p; have := sk_le (X := S 514) h.p; omega)
theorem Fw_bl {S : ST} (h : MP S) : Fw S (blS S) := Fw_at h (by unfold blS; rw [s1_at, pk_un (by omega)]) (by unfold blS; rw [s1_at, pk_us]) (sk_le h.p).2 (sk_le h.p).1
theorem Fw_fl {S : ST} (h : MP S) : Fw S (flS S) := (Fw.rf h).same (by unfold flS fl; rw [s1_at, pk_un (by omega)]) (by unfold flS fl; rw [s1_at, pk_un (by omega)])
theorem Fw_pgW {S : ST} (h : MP S) (t : Nat) (c v : Int32) : Fw S (pgW S t c v) := (Fw.rf h).same (by unfold pgW; rw [s2_nk (by decide), s2_nk (by decide), s2_nk (by decide)]) (by unfold pgW; rw [s2_nk (by decide), s2_nk (by decide), s2_nk (by decide)])
theorem Fw_pgL (t : Nat) : ∀ (m : Nat) (S : ST), MP S → Fw S (pgL t m S).2 := by
  intro m
  induction m with
  | zero => intro S h; rw [pgL]; split; exact Fw.rf h; exact Fw_fl h
  | succ m ih =>
    intro S h
    rw [pgL]
    split
    · exact Fw.rf h
    · split
      · split
        · split
          · have a := Fw_nu h (nI 1) (nI 9)
            have b := Fw_pgW a.1 t (S 513 4) (nuS S (nI 1) (nI 9) 513 5)
            exact ((a.tr b).tr (Fw_nx b.1)).tr (ih _ (Fw_nx b.1).1)
          · exact Fw_nu h _ _
        · have b := Fw_pgW h t (S 513 4) (nI 0)
          exact (b.tr (Fw_nx b.1)).tr (ih _ (Fw_nx b.1).1)
      · exact Fw_fl h
theorem Fw_pgR {S : ST} (h : MP S) (t : Nat) : Fw S (pgR S t).2 := (Fw_nx h).tr (Fw_pgL t _ _ (Fw_nx h).1)
/-- what holds while a tree is read -/
def MR (S : ST) : Prop := MP S ∧ inN (S 513 7) 8 ∧ ∀ t, t < 8 → inN (S 516 t) 6
abbrev mK (S : ST) : Nat := nn (S 513 7)
def rtR (S : ST) : Bool × ST := if S 513 7 = nI 8 then (false, flS S) else if nuB S (nI 0) (nI (mK S - 1)) then
  pgR (s2 (s2 (nuS S (nI 0) (nI (mK S - 1))) 515 (mK S) (nuS S (nI 0) (nI (mK S - 1)) 513 5)) 513 7 (nI (mK S + 1))) (mK S) else (false, nuS S (nI 0) (nI (mK S - 1)))
def roG (S : ST) (j : Nat) : Bool × ST := if (S 513 8 >>> (nI j &&& 31)) &&& nI 1 = nI 1 then (false, flS S) else
  (decide (esB (s2 S 513 8 (S 513 8 ||| (nI 1 <<< (nI j &&& 31))))), esS (s2 S 513 8 (S 513 8 ||| (nI 1 <<< (nI j &&& 31)))))
abbrev roLo (c : Int32) : Int32 := if c = nI 100 then nI 1 else nI 0
abbrev roHi (c : Int32) : Int32 := if c = nI 100 then nI 60 else if c = nI 115 then nI 6 else nI 5
def roW (S : ST) (c : Int32) (j : Nat) : ST := s2 (s2 (s2 S 518 j (if c = nI 100 then S 513 5 else S 518 j)) 519 j (if c = nI 115 then S 513 5 else S 519 j)) 520 j (if c = nI 99 then S 513 5 else S 520 j)
def roN (S : ST) (c : Int32) (j : Nat) : Bool × ST := if nuB S (roLo c) (roHi c) then (decide (esB (roW (nuS S (roLo c) (roHi c)) c j)), esS (roW (nuS S (roLo c) (roHi c)) c j)) else (false, nuS S (roLo c) (roHi c))
def roR (S : ST) (c : Int32) : Bool × ST := if nuB S (nI 0) (nI (mK S - 1)) then
  (if c = nI 103 then roG (nuS S (nI 0) (nI (mK S - 1))) (nn (nuS S (nI 0) (nI (mK S - 1)) 513 5)) else roN (nuS S (nI 0) (nI (mK S - 1))) c (nn (nuS S (nI 0) (nI (mK S - 1)) 513 5))) else (false, nuS S (nI 0) (nI (mK S - 1)))
abbrev ofP (c : Int32) : Prop := c = nI 99 ∨ c = nI 100 ∨ c = nI 103 ∨ c = nI 115
/-- an item behind its first token -/
def riQ (S : ST) (c : Int32) : Bool × ST := if c = nI 114 then (if 0 < mK S then (false, flS S) else pgR (s2 S 513 7 (nI 1)) 0) else if mK S = 0 then (false, flS S) else if c = nI 116 then rtR S else if ofP c then roR S c else (false, flS S)
def riR (S : ST) : Bool × ST := riQ (nxS S) (nxS S 513 4)
def trL : Nat → Nat → ST → Bool × Nat × ST
  | 0, i, S => (true, i, S)
  | m + 1, i, S => if mP S < mL S then (if (riR S).1 = true then trL m (i + 1) (blS (riR S).2) else (false, i, (riR S).2)) else (true, i, S)
theorem MR.P {S : ST} (h : MR S) : MP S := h.1
theorem MR.to {S S' : ST} (h : MR S) (hP : MP S') (e7 : S' 513 7 = S 513 7) (e6 : S' 516 = S 516) : MR S' := ⟨hP, by rw [e7]; exact h.2.1, by rw [e6]; exact h.2.2⟩
theorem MR_nx {S : ST} (h : MR S) : MR (nxS S) := h.to (MP_nx h.1) (nxS_j (by omega)) (nxS_ne (by decide))
theorem MR_nu {S : ST} (h : MR S) (lo hi : Int32) : MR (nuS S lo hi) := h.to (MP_nu h.1 _ _) (nuS_j (by omega)) (nuS_ne (by decide))
theorem MR_es {S : ST} (h : MR S) : MR (esS S) := h.to (MP_es h.1) (by unfold esS; rw [s1_at]; exact es_ne (by omega)) (s1_ne (by decide))
theorem MR_bl {S : ST} (h : MR S) : MR (blS S) := h.to (MP_bl h.1) (by unfold blS; rw [s1_at, pk_un (by omega)]) (s1_ne (by decide))
theorem MR_fl {S : ST} (h : MR S) : MR (flS S) := h.to (MP_fl h.1) (by unfold flS fl; rw [s1_at, pk_un (by omega)]) (s1_ne (by decide))
theorem MR_pgR {S : ST} (h : MR S) {t : Nat} (ht : t < 8) : MR (pgR S t).2 := by
  have hz := h.2.2 t ht
  refine ⟨(Fw_pgR h.1 t).1, ?_, fun q hq => ?_⟩
  · unfold pgR; rw [pgL_513 t (by omega), nxS_j (by omega)]; exact h.2.1
  · unfold pgR
    by_cases e : q = t
    · subst e
      exact pgL_in q _ _ (by rw [nxS_ne (by decide)]; rw [show 6 - (6 - nn (S 516 q)) = nn (S 516 q) by have := hz.2; omega]; exact hz.1) (by omega)
    · rw [pgL_516 t e, nxS_ne (by decide)]; exact h.2.2 q hq
theorem MR_rtR {S : ST} (h : MR S) : MR (rtR S).2 ∧ Fw S (rtR S).2 := by
  unfold rtR
  split
  · exact ⟨MR_fl h, Fw_fl h.1⟩
  · next c =>
    have hk : mK S < 8 := by
      have := h.2.1.2
      rcases Nat.lt_or_ge (mK S) 8 with q | q
      · exact q
      · exact absurd (by rw [h.2.1.1]; congr 1; unfold mK at *; omega) c
    split
    · have a := MR_nu h (nI 0) (nI (mK S - 1))
      have b : MR (s2 (s2 (nuS S (nI 0) (nI (mK S - 1))) 515 (mK S) (nuS S (nI 0) (nI (mK S - 1)) 513 5)) 513 7 (nI (mK S + 1))) := by
        refine ⟨a.1.same (by rw [s2_nj (by decide), s2_nk (by decide)]) (by rw [s2_nj (by decide), s2_nk (by decide)]), by rw [s2_at]; exact inN_nI (by omega) (by decide), ?_⟩
        rw [s2_nk (by decide), s2_nk (by decide)]
        exact a.2.2
      have f : Fw S (s2 (s2 (nuS S (nI 0) (nI (mK S - 1))) 515 (mK S) (nuS S (nI 0) (nI (mK S - 1)) 513 5)) 513 7 (nI (mK S + 1))) := (Fw_nu h.1 _ _).same (by rw [s2_nj (by decide), s2_nk (by decide)]) (by rw [s2_nj (by decide), s2_nk (by decide)])
      exact ⟨MR_pgR b hk, f.tr (Fw_pgR b.1 _)⟩
    · exact ⟨MR_nu h _ _, Fw_nu h.1 _ _⟩
theorem roW_513 (S : ST) (c : Int32) (j q : Nat) : roW S c j 513 q = S 513 q := by unfold roW; rw [s2_nk (by decide), s2_nk (by decide), s2_nk (by decide)]
theorem roW_516 (S : ST) (c : Int32) (j : Nat) : roW S c j 516 = S 516 := by unfold roW; rw [s2_nk (by decide), s2_nk (by decide), s2_nk (by decide)]
theorem MR_roW {S : ST} (h : MR S) (c : Int32) (j : Nat) : MR (roW S c j) := h.to (h.1.same (roW_513 ..) (roW_513 ..)) (roW_513 ..) (roW_516 ..)
theorem MR_s8 {S : ST} (h : MR S) (v : Int32) : MR (s2 S 513 8 v) := h.to (h.1.same (s2_nj (by decide)) (s2_nj (by decide))) (s2_nj (by decide)) (s2_nk (by decide))
theorem MR_roR {S : ST} (h : MR S) (c : Int32) : MR (roR S c).2 ∧ Fw S (roR S c).2 := by
  have a := MR_nu h (nI 0) (nI (mK S - 1))
  have f := Fw_nu h.1 (nI 0) (nI (mK S - 1))
  unfold roR
  split
  · split
    · unfold roG
      split
      · exact ⟨MR_fl a, f.tr (Fw_fl a.1)⟩
      · have b := MR_s8 a (nuS S (nI 0) (nI (mK S - 1)) 513 8 ||| (nI 1 <<< (nI (nn (nuS S (nI 0) (nI (mK S - 1)) 513 5)) &&& 31)))
        exact ⟨MR_es b, (f.same (s2_nj (by decide)) (s2_nj (by decide))).tr (Fw_es b.1)⟩
    · unfold roN
      have a2 := MR_nu a (roLo c) (roHi c)
      have f2 := f.tr (Fw_nu a.1 (roLo c) (roHi c))
      split
      · have b := MR_roW a2 c (nn (nuS S (nI 0) (nI (mK S - 1)) 513 5))
        exact ⟨MR_es b, (f2.same (roW_513 ..) (roW_513 ..)).tr (Fw_es b.1)⟩
      · exact ⟨a2, f2⟩
  · exact ⟨a, f⟩
theorem MR_riQ {S : ST} (h : MR S) (c : Int32) : MR (riQ S c).2 ∧ Fw S (riQ S c).2 := by
  unfold riQ
  split
  · split
    · exact ⟨MR_fl h, Fw_fl h.1⟩
    · have b : MR (s2 S 513 7 (nI 1)) := ⟨h.1.same (s2_nj (by decide)) (s2_nj (by decide)), by rw [s2_at]; exact inN_nI (by omega) (by decide), by rw [s2_nk (by decide)]; exact h.2.2⟩
      exact ⟨MR_pgR b (by omega), ((Fw.rf h.1).same (s2_nj (by decide)) (s2_nj (by decide))).tr (Fw_pgR b.1 _)⟩
  · split
    · exact ⟨MR_fl h, Fw_fl h.1⟩
    · split
      · exact MR_rtR h
      · split
        · exact MR_roR h c
        · exact ⟨MR_fl h, Fw_fl h.1⟩
theorem MR_riR {S : ST} (h : MR S) : MR (riR S).2 ∧ Fw S (riR S).2 := by
  have a := MR_riQ (MR_nx h) (nxS S 513 4)
  exact ⟨a.1, (Fw_nx h.1).tr a.2⟩
theorem riR_gt {S : ST} (h : MR S) (hp : mP S < mL S) : mP S < mP (riR S).2 := by
  have a := (MR_riQ (MR_nx h) (nxS S 513 4)).2.2.2
  have b : mP (nxS S) = tkE (S 514) (mL S) (mP S) := by
    have := (tkE_le (X := S 514) h.1.p).2
    have := h.1.L
    show nn (nxS S 513 2) = _
    unfold nxS
    rw [s1_at, nx_2]
    exact nn_nI (by omega)
  have c := tkE_gt (X := S 514) hp
  have : mP (nxS S) ≤ mP (riR S).2 := a
  omega
theorem MR_trL : ∀ (m i : Nat) (S : ST), MR S → MR (trL m i S).2.2 := by
  intro m
  induction m with
  | zero => intro i S h; exact h
  | succ m ih =>
    intro i S h
    rw [trL]
    split
    · split
      · exact ih _ _ (MR_bl (MR_riR h).1)
      · exact (MR_riR h).1
    · exact h
/-- the start of a reading -/
def bgS (S : ST) : ST := s1 (s1 (s1 (s1 (s1 (s2 (s2 S 513 7 (nI 0)) 513 8 (nI 0)) 515 (fun _ => (-9))) 516 (fun _ => nI 0)) 518 (fun _ => nI 99)) 519 (fun _ => nI 0)) 520 (fun _ => nI 0)
/-- all is told: the tree as read, the run at its start -/
def taT (S : ST) : ST := s1 (s1 (s1 (s1 (s1 (s1 (s2 (s2 S 513 15 (if 0 < mK S then S 513 7 else nI 1)) 513 16 (S 513 8)) 521 (S 515)) 522 (S 516)) 524 (S 518)) 525 (S 519)) 526 (S 520)) 523 (S 517)
def taS (S : ST) : ST := s2 (s2 (s2 (s2 (s1 (taT S) 527 (rSt (taT S))) 513 25 (nI 0)) 513 28 (nI 0)) 533 0 (nI 0)) 533 1 (nI 0)
def trS0 (S : ST) : ST := blS (s2 (bgS S) 513 2 (nI 0))
abbrev trT (S : ST) : Bool × Nat × ST := trL (mL S - mP (trS0 S)) 0 (trS0 S)
def mTreeV (S : ST) : Int32 := if (trT S).1 = true then nI (trT S).2.1 else (-10) - (trT S).2.2 513 6
def mTreeS (S : ST) : ST := if (trT S).1 = true then taS (s2 (trT S).2.2 513 0 (nI 0)) else (trT S).2.2
