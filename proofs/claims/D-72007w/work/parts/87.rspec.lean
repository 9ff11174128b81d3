set_option maxRecDepth 100000
/-! ScopeTasks$Reader: what its methods do to the ints g of its object (0 at, 1 from, 2 sort, 3 value, 4 items) -/
def TXT (S : ST) (X : Nat → Int32) (L : Nat) : Prop := L ≤ 120 ∧ S 0 10 = nI L ∧ ∀ j, j < L → (∃ v, v < 256 ∧ X j = nI v) ∧ S 173 j &&& nI 255 = X j
def RDg (g : Nat → Int32) : Prop := g 9 = nI 0
def hrV (X : Nat → Int32) (L p : Nat) : Int32 := if p < L then X p else (-1)
theorem hrV_in {X : Nat → Int32} {L p v : Nat} (h : p < L) (e : X p = nI v) : hrV X L p = nI v := by unfold hrV; rw [if_pos h, e]
theorem hrV_end {X : Nat → Int32} {L p : Nat} (h : ¬ p < L) : hrV X L p = (-1) := by unfold hrV; rw [if_neg h]
def rd4 (g : Nat → Int32) (a f s v : Nat) : Nat → Int32 := fun j => if j = 0 then nI a else if j = 1 then nI f else if j = 2 then nI s else if j = 3 then nI v else g j
def lsort (v : Nat) : Nat := if v = 59 then 12 else if ioc v = (-1) then 14 else nn (ioc v)
def srtT (X : Nat → Int32) (L p : Nat) : Nat := if sk X L p = L then 13 else if figP X L (sk X L p) then (if 99 < (tkD X L p).1 ∨ (X (sk X L p) = nI 48 ∧ 1 < (tkD X L p).2 - sk X L p) then 14 else 11) else lsort (nn (X (sk X L p)))
def cvT (X : Nat → Int32) (L p : Nat) : Nat := if sk X L p = L then 0 else if figP X L (sk X L p) then min 100 (tkD X L p).1 else 0
def stF (X : Nat → Int32) (L p : Nat) (g : Nat → Int32) : Nat → Int32 := rd4 g (tkE X L p) (sk X L p) (srtT X L p) (cvT X L p)
theorem sk_s {X : Nat → Int32} {L p : Nat} (h : p < L) : sk X L p = if X p = nI 32 then sk X L (p + 1) else p := by
  unfold sk
  rw [show L - p = (L - (p + 1)) + 1 by omega, skB]
theorem sk_end {X : Nat → Int32} {L : Nat} : sk X L L = L := by unfold sk; rw [Nat.sub_self]; rfl
theorem ioc_fin : ∀ v : Fin 256, (0 ≤ ioc v.val ↔ ¬ ioc v.val = (-1)) ∧ (¬ ioc v.val = (-1) → ioc v.val = nI (nn (ioc v.val))) := by decide +kernel
theorem figP_iff {X : Nat → Int32} {L p v : Nat} (h : p < L) (e : X p = nI v) : figP X L p ↔ (nI 48 ≤ nI v ∧ nI v ≤ nI 57) := by unfold figP; rw [e]; exact ⟨fun z => z.2, fun z => ⟨h, z⟩⟩
theorem dg_s {X : Nat → Int32} {L m p w v : Nat} (h : figP X L p) (e : X p = nI v) (hv : v < 256) : dg X L (m + 1) p w = dg X L m (p + 1) (if 99 < w then w else 10 * w + v - 48) := by rw [dg, if_pos h, e, nn_of (by omega)]
theorem dg_e {X : Nat → Int32} {L m p w : Nat} (h : ¬ figP X L p) : dg X L m p w = (w, p) := by
  cases m with
  | zero => rfl
  | succ m => rw [dg, if_neg h]
theorem rd4_eq {g f : Nat → Int32} {a b c d : Nat} (h0 : f 0 = nI a) (h1 : f 1 = nI b) (h2 : f 2 = nI c) (h3 : f 3 = nI d) (h : ∀ j, 4 ≤ j → f j = g j) : f = rd4 g a b c d := by
  funext j
  unfold rd4
  by_cases e0 : j = 0
  · rw [if_pos e0, e0]; exact h0
  · rw [if_neg e0]
    by_cases e1 : j = 1
    · rw [if_pos e1, e1]; exact h1
    · rw [if_neg e1]
      by_cases e2 : j = 2
      · rw [if_pos e2, e2]; exact h2
      · rw [if_neg e2]
        by_cases e3 : j = 3
        · rw [if_pos e3, e3]; exact h3
        · rw [if_neg e3]; exact h j (by omega)
