set_option maxRecDepth 100000
/-! ScopeTasksModel: the public methods, what they answer and do -/
theorem s1_of {S : ST} {k : Nat} {f : Nat → Int32} (e : S k = f) : S = s1 S k f := by rw [← e]; exact (s1_self S k).symm
def ZA (k n : Nat) : Prop := ∀ (G : GT) (f : Nat → Int32), cO G k f = .inl (gA G 2, n, .inl f)
theorem ZA_533 : ZA 533 2 := fun _ _ => rfl
theorem ZA_172 : ZA 172 2 := fun _ _ => rfl
section VZ
variable {G : GT} {x : VX} {own : String} {cc : ByteArray} {nL : Nat} {Q : State → Prop} {lv lv' : List (Nat × Value)} {st : List Value} {N : Nat} {S : ST} {a b pc : Nat}
theorem c_zald {k n j : Nat} {i : Int32} (hk : ZA k n) (hN : k < N) (hi : i = nI j) (hj : j < n) (hn : n < 2 ^ 31 := by decide) (hd : decode cc pc = .ok (.baload, 1)) (kk : V G x own cc nL Q (pc + 1) lv (.int (S k j) :: st) N (hC G S) a b) : V G x own cc nL Q pc lv (.int i :: .ref (gZ G + k) :: st) N (hC G S) a b := v_zald hN (hk G (S k)) hi hj hn hd kk
theorem c_zast {k n j : Nat} {i v : Int32} (hk : ZA k n) (hN : k < N) (hi : i = nI j) (hj : j < n) (hv : vp_nar .boolean v = v) (hn : n < 2 ^ 31 := by decide) (hd : decode cc pc = .ok (.bastore, 1)) (kk : V G x own cc nL Q (pc + 1) lv st N (hC G (s2 S k j v)) a b) : V G x own cc nL Q pc lv (.int v :: .int i :: .ref (gZ G + k) :: st) N (hC G S) a b := v_zast hN (hk G (S k)) hi hj hn hv hd (by rw [hC_s1 (hk G _)]; exact kk)
theorem v_iremN {h : Nat → va_E} {u v : Nat} (hu : u < 2 ^ 31) (h0 : 0 < v) (hv : v < 2 ^ 31) (hd : decode cc pc = .ok (.irem, 1)) (kk : V G x own cc nL Q (pc + 1) lv (.int (nI (u % v)) :: st) N h a b) : V G x own cc nL Q pc lv (.int (nI v) :: .int (nI u) :: st) N h a b := v_irem hd (nI_ne0 h0 hv) (by rw [pk_rem hu h0 hv]; exact kk)
end VZ
theorem sw_in (u : Int32) (hi : Nat) (h : hi < 2 ^ 30) : (u.toInt < 0 ∨ (hi : Int) < u.toInt) ∨ ∃ j, j ≤ hi ∧ u = nI j := by
  rcases Int.lt_or_le u.toInt 0 with a | a
  · exact Or.inl (Or.inl a)
  · rcases Int.lt_or_le (hi : Int) u.toInt with b | b
    · exact Or.inl (Or.inr b)
    · refine Or.inr ⟨u.toInt.toNat, by omega, Int32.toInt_inj.mp ?_⟩
      rw [nI_toInt (by omega)]
      omega
theorem in_nat {u : Int32} {n : Nat} (hn : n < 2 ^ 31) (h : nI 0 ≤ u ∧ u ≤ nI n) : ∃ j, j ≤ n ∧ u = nI j := by
  have h1 := Int32.le_iff_toInt_le.mp h.1
  have h2 := Int32.le_iff_toInt_le.mp h.2
  rw [nI_toInt (by decide)] at h1
  rw [nI_toInt hn] at h2
  refine ⟨u.toInt.toNat, by omega, Int32.toInt_inj.mp ?_⟩
  rw [nI_toInt (by omega)]
  omega
/-- f's first k places, laid at p -/
def blk (f g : Nat → Int32) (p k : Nat) : Nat → Int32 := fun j => if p ≤ j ∧ j < p + k then f (j - p) else g j
theorem blk_0 (f g : Nat → Int32) (p : Nat) : blk f g p 0 = g := by funext j; unfold blk; rw [if_neg (by omega)]
theorem blk_s (f g : Nat → Int32) (p k : Nat) : upd (blk f g p k) (p + k) (f k) = blk f g p (k + 1) := by
  funext j
  unfold upd blk
  by_cases h : j = p + k
  · subst h; rw [if_pos rfl, if_pos (by omega)]; congr 1; omega
  · rw [if_neg h]
    by_cases h2 : p ≤ j ∧ j < p + k
    · rw [if_pos h2, if_pos (by omega)]
    · rw [if_neg h2, if_neg (by omega)]
theorem blk_in {f g : Nat → Int32} {p k j : Nat} (h : j < k) : blk f g p k (p + j) = f j := by unfold blk; rw [if_pos (by omega)]; congr 1; omega
theorem blk_out {f g : Nat → Int32} {p k j : Nat} (h : j < p ∨ p + k ≤ j) : blk f g p k j = g j := by unfold blk; rw [if_neg (by omega)]
abbrev mIs (S : ST) (t : Int32) : Prop := nI 0 ≤ t ∧ t ≤ nI (mN S - 1)
/-- remember -/
def mRem (S : ST) : ST := s2 (s2 (s1 S 529 (blk (S 527) (S 529) (326 * nn (S 513 26)) 326)) 513 26 (nI ((nn (S 513 26) + 1) % 12))) 513 25 (S 513 25 + (if S 513 25 < nI 12 then nI 1 else nI 0))
def mTicksL : Nat → ST → ST
  | 0, S => S
  | m + 1, S => if S 527 0 = nI 3 then S else mTicksL m (s1 (mRem S) 527 (rTick (mRem S) (S 527)))
def mTicksS (S : ST) (n : Int32) : ST := if nI 1 ≤ n ∧ n ≤ nI 12 then (if S 527 0 = nI 3 then S else if S 527 144 + n ≤ nI 999 then mTicksL (nn n) S else S) else S
def mTicksV (S : ST) (n : Int32) : Int32 := if nI 1 ≤ n ∧ n ≤ nI 12 then (if S 527 0 = nI 3 then (-2) else if S 527 144 + n ≤ nI 999 then mTicksL (nn n) S 527 144 else (-3)) else (-1)
abbrev mAskOk (S : ST) (t : Int32) : Prop := S 527 (18 * nn t) = nI 1 ∧ ¬ S 527 (18 * nn t + 5) = nI 1
def mAsksV (S : ST) (t : Int32) : Int32 := if mIs S t then (if mAskOk S t then S 527 (18 * nn t + 2) else (-2)) else (-1)
def mAsksS (S : ST) (t : Int32) : ST := if mIs S t then (if mAskOk S t then s1 (mRem S) 527 (upd (S 527) (18 * nn t + 5) (nI 1)) else S) else S
def mUndoAt (S : ST) : Nat := (nn (S 513 26) + 12 - 1) % 12
def mUndoV (S : ST) : Int32 := if S 513 25 = 0 then (-2) else nI (nn (S 513 25) - 1)
def mUndoS (S : ST) : ST := if S 513 25 = 0 then S else s1 (s2 (s2 S 513 26 (nI (mUndoAt S))) 513 25 (nI (nn (S 513 25) - 1))) 527 (fun k => S 529 (326 * mUndoAt S + k))
def mBs (P g : Nat → Int32) (t : Int32) : Nat → Int32
  | 0 => nI 0
  | m + 1 => mBs P g t m ||| (if P (m + 1) = t ∧ (g (18 * (m + 1)) = nI 1 ∨ g (18 * (m + 1)) = nI 2) then nI 1 <<< (nI (m + 1) &&& 31) else nI 0)
def mTaskV (S : ST) (t w : Int32) : Int32 := if mIs S t ∧ (nI 0 ≤ w ∧ w ≤ nI 7) then
  (if w = nI 0 then S 521 (nn t) else if w = nI 1 then S 527 (18 * nn t) else if w = nI 2 then S 527 (18 * nn t + 1) else if w = nI 3 then S 527 (18 * nn t + 2)
   else if w = nI 4 then (if S 527 (18 * nn t) = nI 0 ∨ S 527 (18 * nn t + 4) = nI 9999 then (-9) else S 527 (18 * nn t + 4)) else if w = nI 5 then S 527 (18 * nn t + 5) else if w = nI 6 then S 527 (18 * nn t + 9) else mBs (S 521) (S 527) t (mN S - 1)) else (-1)
def mFailV (S : ST) (t k : Int32) : Int32 := if mIs S t ∧ 0 ≤ k then (if k < S 527 (18 * nn t + 9) then S 527 (18 * nn t + (10 + nn k)) else (-9)) else (-1)
def mTraceV (S : ST) (k w : Int32) : Int32 := if ¬ k < 0 ∧ (nI 0 ≤ w ∧ w ≤ nI 2) then (if k < S 527 145 then S 527 (146 + 3 * nn k + nn w) else (-9)) else (-1)
/-- the row tried, behind a run on from f -/
abbrev mRun (S : ST) (m : Nat) (f : Nat → Int32) : ST := s1 S 528 (rGo S m f)
def mEndsV (S : ST) (t w : Int32) : Int32 := if mIs S t ∧ (nI 0 ≤ w ∧ w ≤ nI 1) then (if rGo S 200 (S 527) (18 * nn t) = nI 3 then (if w = 0 then rGo S 200 (S 527) (18 * nn t + 8) else rGo S 200 (S 527) (18 * nn t + 1)) else (-9)) else (-1)
def mEndsS (S : ST) (t w : Int32) : ST := if mIs S t ∧ (nI 0 ≤ w ∧ w ≤ nI 1) then mRun S 200 (S 527) else S
abbrev mSpOk (S : ST) (t : Int32) : Prop := mIs S t ∧ S 527 (18 * nn t) = nI 1
def mSparesV (S : ST) (t : Int32) : Int32 := if mSpOk S t then
  (if rGo S 200 (S 527) 8 = (-9) ∨ rGo S 200 (upd (S 527) (18 * nn t + 5) (nI 1)) 8 = (-9) then (-1000000) else rGo S 200 (S 527) 8 - rGo S 200 (upd (S 527) (18 * nn t + 5) (nI 1)) 8) else (-1000000)
def mSparesS (S : ST) (t : Int32) : ST := if mSpOk S t then mRun S 200 (upd (S 527) (18 * nn t + 5) (nI 1)) else S
abbrev mSeeOk (S : ST) (t n w : Int32) : Prop := mIs S t ∧ (nI 1 ≤ n ∧ n ≤ nI 60) ∧ (nI 0 ≤ w ∧ w ≤ nI 1)
def mSeesV (S : ST) (t n w : Int32) : Int32 := if mSeeOk S t n w then (if S 513 28 = nI 6 then (-3) else nI (nn (S 513 28) + 1)) else (-1)
def mSeesS (S : ST) (t n w : Int32) : ST := if mSeeOk S t n w then (if S 513 28 = nI 6 then S else s2 (s2 (s2 (s2 S 530 (nn (S 513 28)) t) 531 (nn (S 513 28)) n) 532 (nn (S 513 28)) w) 513 28 (nI (nn (S 513 28) + 1))) else S
def mKeepS (S : ST) (i : Int32) : ST := if nI 0 ≤ i ∧ i ≤ nI 1 then s1 (s2 S 533 (nn i) (nI 1)) 534 (blk (S 527) (S 534) (326 * nn i) 326) else S
def mKeepV (S : ST) (i : Int32) : Int32 := if nI 0 ≤ i ∧ i ≤ nI 1 then S 527 144 else (-1)
def mBackS (S : ST) (i : Int32) : ST := if nI 0 ≤ i ∧ i ≤ nI 1 then (if S 533 (nn i) = 0 then S else s2 (s1 S 527 (fun k => S 534 (326 * nn i + k))) 513 25 (nI 0)) else S
def mBackV (S : ST) (i : Int32) : Int32 := if nI 0 ≤ i ∧ i ≤ nI 1 then (if S 533 (nn i) = 0 then (-2) else S 534 (326 * nn i + 144)) else (-1)
def mHm (g : Nat → Int32) (w : Int32) : Nat → Nat
  | 0 => 0
  | m + 1 => mHm g w m + (if g (18 * m) = w then 1 else 0)
def mCountV (S : ST) (w : Int32) : Int32 := if w = nI 0 then S 513 15 else if w = nI 1 then S 527 144 else if w = nI 2 then nI (mHm (S 527) (nI 1) (mN S)) else if w = nI 3 then nI (mHm (S 527) (nI 2) (mN S)) else if w = nI 4 then nI (mHm (S 527) (nI 3) (mN S)) else if w = nI 5 then S 527 145 else if w = nI 6 then S 513 28 else if w = nI 7 then S 513 0 else if w = nI 8 then S 513 25 else (-1)
def mTypeOk (w : Int32) : Prop := nI 0 ≤ w ∧ w ≤ nI 255
def mTypeV (S : ST) (w : Int32) : Int32 := if nI 0 ≤ w ∧ w ≤ nI 255 then (if S 513 0 = nI 120 then (-3) else nI (nn (S 513 0) + 1)) else (-1)
def mTypeS (S : ST) (w : Int32) : ST := if nI 0 ≤ w ∧ w ≤ nI 255 then (if S 513 0 = nI 120 then S else s2 (s2 S 514 (nn (S 513 0)) w) 513 0 (nI (nn (S 513 0) + 1))) else S
theorem in_nat1 {u : Int32} {n : Nat} (hn : n < 2 ^ 31) (h : nI 1 ≤ u ∧ u ≤ nI n) : ∃ j, 1 ≤ j ∧ j ≤ n ∧ u = nI j := by
  have h1 := Int32.le_iff_toInt_le.mp h.1
  have h2 := Int32.le_iff_toInt_le.mp h.2
  rw [nI_toInt (by decide)] at h1
  rw [nI_toInt hn] at h2
  refine ⟨u.toInt.toNat, by omega, by omega, Int32.toInt_inj.mp ?_⟩
  rw [nI_toInt (by omega)]
  omega
theorem sw7 {w : Int32} (h : nI 0 ≤ w ∧ w ≤ nI 7) (hs : w.toInt < 0 ∨ (6 : Int) < w.toInt) : w = nI 7 := by
  obtain ⟨j, hj, e⟩ := in_nat (by decide) h
  subst e
  rw [nI_toInt (by omega)] at hs
  rw [show j = 7 by omega]
theorem sw_out {w : Int32} {hi : Nat} (hs : w.toInt < 0 ∨ (hi : Int) < w.toInt) {j : Nat} (hj : j ≤ hi) (hb : hi < 2 ^ 30) : ¬ w = nI j := by
  intro e
  rw [e, nI_toInt (by omega)] at hs
  omega
theorem MI.to {S S' : ST} (h : MI S) (e1 : S' 513 15 = S 513 15) (e2 : S' 521 = S 521) (e3 : S' 522 = S 522) : MI S' := by
  unfold MI mN at *
  rw [e1, e2, e3]
  exact h
theorem RJ.toS {S S' : ST} {g : Nat → Int32} (h : RJ S g) (e1 : S' 513 15 = S 513 15) (e3 : S' 522 = S 522) : RJ S' g := by
  unfold RJ mN at *
  rw [e1, e3]
  exact h
theorem mRem_ne {S : ST} {k : Nat} (h1 : k ≠ 529) (h2 : k ≠ 513) : mRem S k = S k := by
  unfold mRem
  rw [s2_nk h2, s2_nk h2, s1_ne h1]
theorem mRem_513 {S : ST} {j : Nat} (h1 : j ≠ 25) (h2 : j ≠ 26) : mRem S 513 j = S 513 j := by
  unfold mRem
  rw [s2_nj h1, s2_nj h2, s1_ne (by decide)]
theorem blk0_s (f g : Nat → Int32) (k : Nat) : upd (blk f g 0 k) k (f k) = blk f g 0 (k + 1) := by
  have := blk_s f g 0 k
  rwa [Nat.zero_add] at this
theorem blk0_in {f g : Nat → Int32} {k j : Nat} (h : j < k) : blk f g 0 k j = f j := by
  have := blk_in (f := f) (g := g) (p := 0) h
  rwa [Nat.zero_add] at this
theorem mRem_26 (S : ST) : mRem S 513 26 = nI ((nn (S 513 26) + 1) % 12) := by
  unfold mRem
  rw [s2_nj (by decide), s2_at]
theorem mRem_25 (S : ST) : mRem S 513 25 = S 513 25 + (if S 513 25 < nI 12 then nI 1 else nI 0) := by
  unfold mRem
  rw [s2_at]
def MU (S : ST) : Prop := MI S ∧ RJ S (S 527) ∧ inN (S 513 26) 11 ∧ inN (S 513 25) 12
theorem mRem_in25 {S : ST} (h : inN (S 513 25) 12) : inN (mRem S 513 25) 12 := by
  rw [mRem_25]
  split
  next c =>
    have := h.2
    have hk : nn (S 513 25) < 12 := by rw [h.1] at c; exact (nI_ltI (by omega) (by decide)).mp c
    exact inN.of (nI_nat1 h.1) (by omega) (by decide)
  next => rw [h.1, nI_add]; exact inN_nI h.2 (by decide)
theorem MI_rem {S : ST} (h : MI S) : MI (mRem S) := h.to (mRem_513 (by decide) (by decide)) (mRem_ne (by decide) (by decide)) (mRem_ne (by decide) (by decide))
theorem RJ_rem {S : ST} {g : Nat → Int32} (h : RJ S g) : RJ (mRem S) g := h.toS (mRem_513 (by decide) (by decide)) (mRem_ne (by decide) (by decide))
theorem MU_step {S : ST} (h : MU S) : MU (s1 (mRem S) 527 (rTick (mRem S) (S 527))) := by
  obtain ⟨h1, h2, h3, h4⟩ := h
  refine ⟨(MI_rem h1).to (by rw [s1_ne (by decide)]) (s1_ne (by decide)) (s1_ne (by decide)), ?_, ?_, ?_⟩
  · rw [s1_at]
    exact (RJ_rTick (MI_rem h1) (RJ_rem h2)).toS (by rw [s1_ne (by decide)]) (s1_ne (by decide))
  · rw [s1_ne (by decide), mRem_26]; exact inN_nI (by omega) (by decide)
  · rw [s1_ne (by decide)]; exact mRem_in25 h4
theorem RJ_up5 {S : ST} {g : Nat → Int32} (hS : MI S) (h : RJ S g) {t : Nat} (v : Int32) : RJ S (upd g (18 * t + 5) v) := h.to (h.1.up (by omega) (fun q _ => by omega) (fun q _ => by omega)) (fun q hq => by rw [pk_un (by omega)])
abbrev mDl (S : ST) (t d : Nat) : ST := s2 S 524 t (nI d)
abbrev mTry (S : ST) (t d k : Nat) : ST := s1 (mDl S t d) 528 (rGo (mDl S t d) k (rSt (mDl S t d)))
theorem MI_Dl {S : ST} (h : MI S) (t d : Nat) : MI (mDl S t d) := h.to (congrFun (s2_nk (by decide)) _) (s2_nk (by decide)) (s2_nk (by decide))
theorem MI_Try {S : ST} (h : MI S) (t d k : Nat) : MI (mTry S t d k) := (MI_Dl h t d).to (congrFun (s1_ne (by decide)) _) (s1_ne (by decide)) (s1_ne (by decide))
def mWbL : Nat → Nat → ST → ST
  | 0, _, S => S
  | m + 1, d, S => if mTry S 0 d 200 528 0 = nI 3 ∧ mTry S 0 d 200 528 1 = 0 then mTry S 0 d 200 else mWbL m (d + 1) (mTry S 0 d 200)
def mWbV : Nat → Nat → ST → Int32
  | 0, _, _ => (-9)
  | m + 1, d, S => if mTry S 0 d 200 528 0 = nI 3 ∧ mTry S 0 d 200 528 1 = 0 then nI d else mWbV m (d + 1) (mTry S 0 d 200)
def mWellS (S : ST) : ST := s2 (mWbL 60 1 S) 524 0 (S 524 0)
/-- whether the facts 0 .. k - 1 hold in the row g -/
def mFi (S : ST) (g : Nat → Int32) : Nat → Bool
  | 0 => true
  | k + 1 => mFi S g k && decide ((if ¬ g (18 * nn (S 530 k) + 8) = (-9) ∧ g (18 * nn (S 530 k) + 8) ≤ S 531 k then nI 1 else nI 0) = S 532 k)
def mFtL (t : Nat) : Nat → Nat → ST → ST
  | 0, _, S => S
  | m + 1, d, S => mFtL t m (d + 1) (mTry S t d 60)
def mFtV (t : Nat) : Nat → Nat → ST → Int32 → Int32
  | 0, _, _, s => s
  | m + 1, d, S, s => mFtV t m (d + 1) (mTry S t d 60) (s ||| (if mFi (mTry S t d 60) (mTry S t d 60 528) (nn (S 513 28)) = true then nI 1 <<< (nI d &&& 31) else nI 0))
def mFitsV (S : ST) (t : Int32) : Int32 := if mIs S t then mFtV (nn t) 30 1 S (nI 0) else (-1)
def mFitsS (S : ST) (t : Int32) : ST := if mIs S t then s2 (mFtL (nn t) 30 1 S) 524 (nn t) (S 524 (nn t)) else S
def MF (S : ST) : Prop := MI S ∧ inN (S 513 28) 6 ∧ ∀ k, k < nn (S 513 28) → inN (S 530 k) 7
theorem MF_Try {S : ST} (h : MF S) (t d k : Nat) : MF (mTry S t d k) := by
  refine ⟨MI_Try h.1 t d k, ?_⟩
  have e1 : mTry S t d k 513 = S 513 := (s1_ne (by decide)).trans (s2_nk (by decide))
  have e2 : mTry S t d k 530 = S 530 := (s1_ne (by decide)).trans (s2_nk (by decide))
  rw [e1, e2]
  exact h.2
