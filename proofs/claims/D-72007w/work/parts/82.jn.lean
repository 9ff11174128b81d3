set_option maxRecDepth 100000
/-! THE MODEL's functions see the model's cells alone -/
section JT
variable {M M' : ST}
theorem rAsk_te (e : TE M M') (t : Int32) (g : Nat → Int32) : rAsk M' t g = rAsk M t g := by unfold rAsk; rw [e.n, e.2.2 521 (by decide) (by decide)]
theorem rClo_te (e : TE M M') (g : Nat → Int32) (t : Nat) (o : Int32) : rClo M' g t o = rClo M g t o := by unfold rClo; rw [rAsk_te e]
theorem rBeg_te (e : TE M M') (g : Nat → Int32) (t : Nat) : rBeg M' g t = rBeg M g t := by unfold rBeg; rw [e.2.2 521 (by decide) (by decide), e.2.2 524 (by decide) (by decide)]
theorem rBCL_te (e : TE M M') (t : Int32) (g : Nat → Int32) : ∀ m c, rBCL M' t m c g = rBCL M t m c g := by
  intro m
  induction m with
  | zero => intro c; rfl
  | succ m ih => intro c; rw [rBCL, rBCL, ih, rBeg_te e, e.2.2 521 (by decide) (by decide)]
theorem rBC_te (e : TE M M') (t : Int32) (g : Nat → Int32) : rBC M' t g = rBC M t g := by unfold rBC; rw [rBCL_te e, e.n]
theorem rBusy_te (e : TE M M') (t : Int32) (g : Nat → Int32) : rBusy M' t g ↔ rBusy M t g := by unfold rBusy; rw [e.n, e.2.2 521 (by decide) (by decide)]
theorem rWk_te (e : TE M M') (g : Nat → Int32) (t : Nat) : rWk M' g t = rWk M g t := by
  unfold rWk
  rw [e.2.2 523 (by decide) (by decide), rBC_te e, rAsk_te e, rClo_te e]
  simp only [rBusy_te e]
theorem rMv_te (e : TE M M') (g : Nat → Int32) (t : Nat) : rMv M' g t = rMv M g t := by unfold rMv; rw [e.2.2 525 (by decide) (by decide), e.2.2 522 (by decide) (by decide), rClo_te e, rClo_te e, rWk_te e]
theorem rGv2_te (e : TE M M') (g : Nat → Int32) (p : Nat) : rGv2 M' g p = rGv2 M g p := by unfold rGv2; rw [e.2.1, rClo_te e, rAsk_te e]
theorem rGv_te (e : TE M M') (g : Nat → Int32) (t : Nat) : rGv M' g t = rGv M g t := by unfold rGv; rw [e.2.2 521 (by decide) (by decide), rGv2_te e]
theorem rCl2_te (e : TE M M') (g : Nat → Int32) (t : Nat) : rCl2 M' g t = rCl2 M g t := by unfold rCl2; rw [rGv_te e]
theorem rCl1_te (e : TE M M') (g : Nat → Int32) (t : Nat) : rCl1 M' g t = rCl1 M g t := by unfold rCl1; rw [e.2.2 526 (by decide) (by decide), rCl2_te e]
theorem rCl_te (e : TE M M') (g : Nat → Int32) (t : Nat) : rCl M' g t = rCl M g t := by unfold rCl; rw [e.2.2 526 (by decide) (by decide), rCl1_te e]
theorem rT1_te (e : TE M M') : rT1 M' = rT1 M := by funext g t; unfold rT1; rw [rClo_te e]
theorem rT2_te (e : TE M M') : rT2 M' = rT2 M := by funext g t; unfold rT2; rw [rMv_te e]
theorem rT3_te (e : TE M M') : rT3 M' = rT3 M := by
  funext g t
  unfold rT3
  rw [rCl_te e]
  simp only [rBusy_te e]
theorem rTick_te (e : TE M M') (g : Nat → Int32) : rTick M' g = rTick M g := by unfold rTick; rw [rT1_te e, rT2_te e, rT3_te e, e.n]
theorem rGo_te (e : TE M M') : ∀ m g, rGo M' m g = rGo M m g := by
  intro m
  induction m with
  | zero => intro g; rfl
  | succ m ih => intro g; rw [rGo, rGo, ih, rTick_te e]
theorem rSt_te (e : TE M M') : rSt M' = rSt M := by unfold rSt; rw [e.2.2 524 (by decide) (by decide)]
end JT
section JN
variable {C M : ST}
theorem TE_jn : TE M (jn C M) := ⟨congrFun (jn_hi (by decide)) _, congrFun (jn_hi (by decide)) _, fun k a b => jn_hi (by omega)⟩
theorem jn_s1 {k : Nat} {f : Nat → Int32} (h : 513 ≤ k) : s1 (jn C M) k f = jn C (s1 M k f) := by
  funext q
  by_cases e : q = k
  · subst e; rw [s1_at, jn_hi h, s1_at]
  · rw [s1_ne e]
    unfold jn
    rw [s1_ne e]
theorem jn_s2 {k j : Nat} {v : Int32} (h : 513 ≤ k) : s2 (jn C M) k j v = jn C (s2 M k j v) := by unfold s2; rw [jn_hi h, jn_s1 h]
theorem jn_rem : mRem (jn C M) = jn C (mRem M) := by
  unfold mRem
  rw [jn_s1 (by decide), jn_s2 (by decide), jn_s2 (by decide), jn_hi (by decide), jn_hi (by decide), jn_hi (by decide)]
theorem jn_527 : (jn C M) 527 = M 527 := jn_hi (by decide)
theorem jn_513 : (jn C M) 513 = M 513 := jn_hi (by decide)
theorem jn_ticksL : ∀ m (M : ST), mTicksL m (jn C M) = jn C (mTicksL m M) := by
  intro m
  induction m with
  | zero => intro M; rfl
  | succ m ih =>
    intro M
    rw [mTicksL, mTicksL, jn_527]
    split
    · rfl
    · rw [jn_rem, rTick_te TE_jn, jn_s1 (by decide), ih]
theorem jn_ticksS {n : Int32} : mTicksS (jn C M) n = jn C (mTicksS M n) := by
  unfold mTicksS
  rw [jn_527, jn_ticksL]
  split
  · split
    · rfl
    · split <;> rfl
  · rfl
theorem jn_ticksV {n : Int32} : mTicksV (jn C M) n = mTicksV M n := by
  unfold mTicksV
  rw [jn_527, jn_ticksL, jn_527]
theorem mIs_jn {t : Int32} : mIs (jn C M) t ↔ mIs M t := by unfold mIs mN; rw [jn_513]
theorem mAskOk_jn {t : Int32} : mAskOk (jn C M) t ↔ mAskOk M t := by unfold mAskOk; rw [jn_527]
theorem jn_asksS {t : Int32} : mAsksS (jn C M) t = jn C (mAsksS M t) := by
  unfold mAsksS
  simp only [mIs_jn, mAskOk_jn]
  rw [jn_rem, jn_527, jn_s1 (by decide)]
  split
  · split <;> rfl
  · rfl
theorem jn_asksV {t : Int32} : mAsksV (jn C M) t = mAsksV M t := by
  unfold mAsksV
  simp only [mIs_jn, mAskOk_jn]
  rw [jn_527]
theorem jn_undoS : mUndoS (jn C M) = jn C (mUndoS M) := by
  unfold mUndoS mUndoAt
  rw [jn_513, jn_hi (k := 529) (by decide), jn_s2 (by decide), jn_s2 (by decide), jn_s1 (by decide)]
  split <;> rfl
theorem jn_undoV : mUndoV (jn C M) = mUndoV M := by unfold mUndoV; rw [jn_513]
theorem jn_taskV {t w : Int32} : mTaskV (jn C M) t w = mTaskV M t w := by
  unfold mTaskV
  simp only [mIs_jn]
  unfold mN
  rw [jn_527, jn_513, jn_hi (k := 521) (by decide)]
theorem jn_failV {t k : Int32} : mFailV (jn C M) t k = mFailV M t k := by
  unfold mFailV
  simp only [mIs_jn]
  rw [jn_527]
theorem jn_traceV {k w : Int32} : mTraceV (jn C M) k w = mTraceV M k w := by unfold mTraceV; rw [jn_527]
theorem jn_countV {w : Int32} : mCountV (jn C M) w = mCountV M w := by unfold mCountV mN; rw [jn_527, jn_513]
theorem jn_endsS {t w : Int32} : mEndsS (jn C M) t w = jn C (mEndsS M t w) := by
  unfold mEndsS
  simp only [mIs_jn]
  unfold mRun
  rw [rGo_te TE_jn, jn_527, jn_s1 (by decide)]
  split <;> rfl
theorem jn_endsV {t w : Int32} : mEndsV (jn C M) t w = mEndsV M t w := by
  unfold mEndsV
  simp only [mIs_jn]
  rw [rGo_te TE_jn, jn_527]
theorem mSpOk_jn {t : Int32} : mSpOk (jn C M) t ↔ mSpOk M t := by unfold mSpOk; rw [mIs_jn, jn_527]
theorem jn_sparesS {t : Int32} : mSparesS (jn C M) t = jn C (mSparesS M t) := by
  unfold mSparesS
  simp only [mSpOk_jn]
  unfold mRun
  rw [rGo_te TE_jn, jn_527, jn_s1 (by decide)]
  split <;> rfl
theorem jn_sparesV {t : Int32} : mSparesV (jn C M) t = mSparesV M t := by
  unfold mSparesV
  simp only [mSpOk_jn]
  rw [rGo_te TE_jn, rGo_te TE_jn, jn_527]
theorem mSeeOk_jn {t n w : Int32} : mSeeOk (jn C M) t n w ↔ mSeeOk M t n w := by unfold mSeeOk; rw [mIs_jn]
theorem jn_seesS {t n w : Int32} : mSeesS (jn C M) t n w = jn C (mSeesS M t n w) := by
  unfold mSeesS
  simp only [mSeeOk_jn]
  rw [jn_513, jn_s2 (by decide), jn_s2 (by decide), jn_s2 (by decide), jn_s2 (by decide)]
  split
  · split <;> rfl
  · rfl
theorem jn_seesV {t n w : Int32} : mSeesV (jn C M) t n w = mSeesV M t n w := by
  unfold mSeesV
  simp only [mSeeOk_jn]
  rw [jn_513]
theorem jn_keepS {i : Int32} : mKeepS (jn C M) i = jn C (mKeepS M i) := by
  unfold mKeepS
  rw [jn_527, jn_hi (k := 534) (by decide), jn_s2 (by decide), jn_s1 (by decide)]
  split <;> rfl
theorem jn_keepV {i : Int32} : mKeepV (jn C M) i = mKeepV M i := by unfold mKeepV; rw [jn_527]
theorem jn_backS {i : Int32} : mBackS (jn C M) i = jn C (mBackS M i) := by
  unfold mBackS
  rw [jn_hi (k := 533) (by decide), jn_hi (k := 534) (by decide), jn_s1 (by decide), jn_s2 (by decide)]
  split
  · split <;> rfl
  · rfl
theorem jn_backV {i : Int32} : mBackV (jn C M) i = mBackV M i := by unfold mBackV; rw [jn_hi (k := 533) (by decide), jn_hi (k := 534) (by decide)]
theorem jn_typeS {w : Int32} : mTypeS (jn C M) w = jn C (mTypeS M w) := by
  unfold mTypeS
  rw [jn_513, jn_s2 (by decide), jn_s2 (by decide)]
  split
  · split <;> rfl
  · rfl
theorem jn_typeV {w : Int32} : mTypeV (jn C M) w = mTypeV M w := by unfold mTypeV; rw [jn_513]
theorem jn_try {t d k : Nat} : mTry (jn C M) t d k = jn C (mTry M t d k) := by
  unfold mTry mDl
  rw [jn_s2 (by decide), rGo_te TE_jn, rSt_te TE_jn, jn_s1 (by decide)]
theorem jn_wbL : ∀ m d (M : ST), mWbL m d (jn C M) = jn C (mWbL m d M) := by
  intro m
  induction m with
  | zero => intro d M; rfl
  | succ m ih =>
    intro d M
    rw [mWbL, mWbL, jn_try, jn_hi (k := 528) (by decide), ih]
    split <;> rfl
theorem jn_wbV : ∀ m d (M : ST), mWbV m d (jn C M) = mWbV m d M := by
  intro m
  induction m with
  | zero => intro d M; rfl
  | succ m ih =>
    intro d M
    rw [mWbV, mWbV, jn_try, jn_hi (k := 528) (by decide), ih]
theorem jn_wellS : mWellS (jn C M) = jn C (mWellS M) := by unfold mWellS; rw [jn_wbL, jn_hi (k := 524) (by decide), jn_s2 (by decide)]
theorem jn_ftL {t : Nat} : ∀ m d (M : ST), mFtL t m d (jn C M) = jn C (mFtL t m d M) := by
  intro m
  induction m with
  | zero => intro d M; rfl
  | succ m ih => intro d M; rw [mFtL, mFtL, jn_try, ih]
theorem jn_fi {g : Nat → Int32} {k : Nat} : mFi (jn C M) g k = mFi M g k := mFi_cong (jn_hi (by decide)) (jn_hi (by decide)) (jn_hi (by decide)) k
theorem jn_ftV {t : Nat} : ∀ m d (M : ST) (s : Int32), mFtV t m d (jn C M) s = mFtV t m d M s := by
  intro m
  induction m with
  | zero => intro d M s; rfl
  | succ m ih => intro d M s; rw [mFtV, mFtV, jn_try, jn_hi (k := 528) (by decide), jn_fi, jn_513, ih]
theorem jn_fitsS {t : Int32} : mFitsS (jn C M) t = jn C (mFitsS M t) := by
  unfold mFitsS
  simp only [mIs_jn]
  rw [jn_ftL, jn_hi (k := 524) (by decide), jn_s2 (by decide)]
  split <;> rfl
theorem jn_fitsV {t : Int32} : mFitsV (jn C M) t = mFitsV M t := by
  unfold mFitsV
  simp only [mIs_jn]
  rw [jn_ftV]
end JN
theorem UN_jn {S X : ST} (h : UN S X) : X = jn X S := by
  funext k
  unfold jn
  split
  · rfl
  · exact h k (by omega)
theorem RL.join {X M : ST} (h : RL X M) : RL (jn X M) (jn X M) := (h.toC (fun k hk => jn_lo hk)).toM (fun k hk => jn_hi hk)
