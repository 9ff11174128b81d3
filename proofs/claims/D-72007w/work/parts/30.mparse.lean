set_option maxRecDepth 100000
/-! ScopeTasksModel: reading the tree: what its methods do to the ints g of its object (0 letters, 2 readAt, 3 tokenAt, 4 token, 5 value, 6 faultAt, 7 readMany, 8 readGathers) -/
theorem s2_s1n {S : ST} {k q : Nat} (h : q ≠ k) (f : Nat → Int32) (j : Nat) (v : Int32) : s2 (s1 S k f) q j v = s1 (s2 S q j v) k f := by
  unfold s2
  rw [s1_ne h]
  exact s1_comm S f _ (fun z => h z.symm)
theorem upd_upd (f : Nat → Int32) (k : Nat) (v w : Int32) : upd (upd f k v) k w = upd f k w := by
  funext j; unfold upd; split <;> rfl
theorem upd_self (f : Nat → Int32) (k : Nat) : upd f k (f k) = f := by
  funext j; unfold upd; split
  · next h => rw [h]
  · rfl
theorem upd_id {f : Nat → Int32} {k : Nat} {v : Int32} (e : f k = v) : f = upd f k v := by rw [← e]; exact (upd_self f k).symm
theorem v_cells {G : GT} {x : VX} {own : String} {cc : ByteArray} {nL : Nat} {Q : State → Prop} {lv : List (Nat × Value)} {st : List Value} {N : Nat} {S S' : ST} {a b : Nat} {pc : Nat} (e : ∀ k, k < N → S k = S' k ∨ ∃ n, IA k n ∧ ∀ j, j < n → S k j = S' k j) (kk : V G x own cc nL Q pc lv st N (hC G S') a b) : V G x own cc nL Q pc lv st N (hC G S) a b := by
  intro C H locs ls w s l
  refine kk C H locs ls ⟨w.1, hp_P.mpr fun k hk => ?_⟩ s l
  have h1 := hp_P.mp w.2 k hk
  rcases e k hk with e | ⟨n, hI, e⟩
  · unfold hC at h1 ⊢
    rw [← e]
    exact h1
  · unfold hC at h1 ⊢
    rw [hI G] at h1 ⊢
    exact at_ext e h1
/-- blanks from p on -/
def skB (X : Nat → Int32) (L : Nat) : Nat → Nat → Nat
  | 0, p => p
  | m + 1, p => if X p = nI 32 then skB X L m (p + 1) else p
def sk (X : Nat → Int32) (L p : Nat) : Nat := skB X L (L - p) p
theorem skB_le (X : Nat → Int32) (L : Nat) : ∀ m p, p ≤ skB X L m p ∧ skB X L m p ≤ p + m := by
  intro m
  induction m with
  | zero => intro p; exact ⟨Nat.le_refl _, Nat.le_refl _⟩
  | succ m ih =>
    intro p
    rw [skB]
    split
    · have := ih (p + 1); omega
    · omega
theorem sk_le {X : Nat → Int32} {L p : Nat} (h : p ≤ L) : p ≤ sk X L p ∧ sk X L p ≤ L := by
  have := skB_le X L (L - p) p
  unfold sk
  omega
abbrev figP (X : Nat → Int32) (L p : Nat) : Prop := p < L ∧ (nI 48 ≤ X p ∧ X p ≤ nI 57)
/-- figures from p on: their number (it stays where it is over 99), and the place behind -/
def dg (X : Nat → Int32) (L : Nat) : Nat → Nat → Nat → Nat × Nat
  | 0, p, v => (v, p)
  | m + 1, p, v => if figP X L p then dg X L m (p + 1) (if 99 < v then v else 10 * v + nn (X p) - 48) else (v, p)
theorem dg_le (X : Nat → Int32) (L : Nat) : ∀ m p v, p + m ≤ L → v ≤ 999 → p ≤ (dg X L m p v).2 ∧ (dg X L m p v).2 ≤ L ∧ (dg X L m p v).1 ≤ 999 := by
  intro m
  induction m with
  | zero => intro p v h hv; exact ⟨Nat.le_refl _, h, hv⟩
  | succ m ih =>
    intro p v h hv
    rw [dg]
    split
    next c =>
      have hc : nn (X p) ≤ 57 := by
        obtain ⟨j, h1, e⟩ := in_nat (u := X p) (n := 57) (by decide) ⟨by have := c.2.1; rw [Int32.le_iff_toInt_le] at *; rw [nI_toInt (by decide)] at *; omega, c.2.2⟩
        rw [e, nn_nI (by omega)]
        exact h1
      have := ih (p + 1) (if 99 < v then v else 10 * v + nn (X p) - 48) (by omega) (by split <;> omega)
      omega
    next => exact ⟨Nat.le_refl _, by omega, hv⟩
def isTb (c : Int32) : Bool := c == nI 59 || (c == nI 98 || (c == nI 99 || (c == nI 100 || (c == nI 102 || (c == nI 103 || (c == nI 106 || (c == nI 114 || (c == nI 115 || (c == nI 116 || (c == nI 119 || c == nI 120))))))))))
/-- the token from p on: where it is, where it ends, what it is, its number (d: the number before) -/
def tkD (X : Nat → Int32) (L p : Nat) : Nat × Nat := dg X L (L - sk X L p) (sk X L p) 0
def tkE (X : Nat → Int32) (L p : Nat) : Nat := if sk X L p = L then L else if figP X L (sk X L p) then (tkD X L p).2 else sk X L p + 1
def tkT (X : Nat → Int32) (L p : Nat) : Int32 := if sk X L p = L then (-1) else if figP X L (sk X L p) then (if 99 < (tkD X L p).1 ∨ (X (sk X L p) = nI 48 ∧ 1 < (tkD X L p).2 - sk X L p) then (-2) else nI 0) else if isTb (X (sk X L p)) = true then X (sk X L p) else (-2)
def tkV (X : Nat → Int32) (L p : Nat) (d : Int32) : Int32 := if sk X L p = L then d else if figP X L (sk X L p) then nI (tkD X L p).1 else d
def set4 (g : Nat → Int32) (a b : Nat) (c d : Int32) : Nat → Int32 := fun j => if j = 2 then nI a else if j = 3 then nI b else if j = 4 then c else if j = 5 then d else g j
def nx (X : Nat → Int32) (L p : Nat) (g : Nat → Int32) : Nat → Int32 := set4 g (tkE X L p) (sk X L p) (tkT X L p) (tkV X L p (g 5))
theorem tkE_le {X : Nat → Int32} {L p : Nat} (h : p ≤ L) : sk X L p ≤ tkE X L p ∧ tkE X L p ≤ L := by
  have h1 := sk_le (X := X) h
  unfold tkE
  split
  · omega
  · split
    · have := dg_le X L (L - sk X L p) (sk X L p) 0 (by omega) (by omega); unfold tkD; omega
    · omega
def fl (g : Nat → Int32) : Nat → Int32 := upd g 6 (g 3)
abbrev nuP (g : Nat → Int32) (lo hi : Int32) : Prop := g 4 = 0 ∧ (lo ≤ g 5 ∧ g 5 ≤ hi)
def nu (X : Nat → Int32) (L p : Nat) (g : Nat → Int32) (lo hi : Int32) : Nat → Int32 := if nuP (nx X L p g) lo hi then nx X L p g else fl (nx X L p g)
def es (X : Nat → Int32) (L p : Nat) (g : Nat → Int32) : Nat → Int32 := if nx X L p g 4 = nI 59 then nx X L p g else fl (nx X L p g)
