set_option maxRecDepth 100000
/-! GRIDS: the rows of list, what, of -/
theorem IA_gridL {b t : Nat} (hb : RB b) (ht : t < 8) : IA (b + 17 + t) 8 := by rw [Nat.add_assoc]; exact IA_run8 hb (by omega) (by omega) (by omega)
theorem IA_gridW {b t : Nat} (hb : TB b) (ht : t < 8) : IA (b + 4 + t) 6 := by rw [Nat.add_assoc]; exact IA_tree6 hb (by omega)
theorem IA_gridO {b t : Nat} (hb : TB b) (ht : t < 8) : IA (b + 13 + t) 6 := by rw [Nat.add_assoc]; exact IA_tree6 hb (by omega)
section VG
variable {G : GT} {x : VX} {own : String} {cc : ByteArray} {nL : Nat} {Q : State → Prop} {lv lv' : List (Nat × Value)} {st st0 : List Value} {N : Nat} {S S' : ST} {a b pc : Nat}
theorem c_gridL {b0 j : Nat} {i : Int32} (hb : RB b0) (hN : 513 ≤ N) (hi : i = nI j) (hj : j < 8) (hd : decode cc pc = .ok (.aaload, 1)) (kk : V G x own cc nL Q (pc + 1) lv (.ref (gZ G + (b0 + 17 + j)) :: st) N (hC G S) a b) : V G x own cc nL Q pc lv (.int i :: .ref (gZ G + (b0 + 16)) :: st) N (hC G S) a b := by
  have := hb.le
  exact v_gald (by omega) (hC_run (j := 16) hb (by decide) rfl) hi hj (by decide) rfl hd kk
theorem c_gridW {b0 j : Nat} {i : Int32} (hb : TB b0) (hN : 513 ≤ N) (hi : i = nI j) (hj : j < 8) (hd : decode cc pc = .ok (.aaload, 1)) (kk : V G x own cc nL Q (pc + 1) lv (.ref (gZ G + (b0 + 4 + j)) :: st) N (hC G S) a b) : V G x own cc nL Q pc lv (.int i :: .ref (gZ G + (b0 + 3)) :: st) N (hC G S) a b := by
  have := hb.le
  exact v_gald (by omega) (hC_tree (j := 3) hb (by decide) rfl) hi hj (by decide) rfl hd kk
theorem c_gridO {b0 j : Nat} {i : Int32} (hb : TB b0) (hN : 513 ≤ N) (hi : i = nI j) (hj : j < 8) (hd : decode cc pc = .ok (.aaload, 1)) (kk : V G x own cc nL Q (pc + 1) lv (.ref (gZ G + (b0 + 13 + j)) :: st) N (hC G S) a b) : V G x own cc nL Q pc lv (.int i :: .ref (gZ G + (b0 + 12)) :: st) N (hC G S) a b := by
  have := hb.le
  exact v_gald (by omega) (hC_tree (j := 12) hb (by decide) rfl) hi hj (by decide) rfl hd kk
end VG
theorem TB_1 : TB 1 := Or.inl rfl
theorem TB_27 : TB 27 := Or.inr rfl
/-- the component's tree (cells 1..26 of S) tells what the model's arrays of M tell -/
def opR (w l : Int32) : Prop := (w = nI 0 ∧ l = nI 119) ∨ (w = nI 1 ∧ l = nI 98) ∨ (w = nI 2 ∧ l = nI 106) ∨ (w = nI 3 ∧ l = nI 120) ∨ (w = nI 4 ∧ l = nI 102)
def TR (S M : ST) : Prop := S 1 0 = M 513 15 ∧ (∀ t, t < mN M → S 2 t = M 521 t) ∧ (∀ t, t < mN M → S 3 t = M 522 t) ∧ (∀ t, t < mN M → S 22 t = M 524 t) ∧ (∀ t, t < mN M → S 23 t = M 525 t) ∧ (∀ t, t < mN M → S 24 t = M 526 t) ∧ (∀ t k, t < mN M → k < nn (M 522 t) → opR (S (1 + 4 + t) k) (M 523 (12 * t + 2 * k)) ∧ S (1 + 13 + t) k = M 523 (12 * t + 2 * k + 1)) ∧ ∃ v, BS S 25 v ∧ M 513 16 = nI v
theorem TR.n {S M : ST} (h : TR S M) : S 1 0 = M 513 15 := h.1
theorem TR.par {S M : ST} (h : TR S M) {t : Nat} (ht : t < mN M) : S 2 t = M 521 t := h.2.1 t ht
theorem TR.len {S M : ST} (h : TR S M) {t : Nat} (ht : t < mN M) : S 3 t = M 522 t := h.2.2.1 t ht
theorem TR.dl {S M : ST} (h : TR S M) {t : Nat} (ht : t < mN M) : S 22 t = M 524 t := h.2.2.2.1 t ht
theorem TR.sh {S M : ST} (h : TR S M) {t : Nat} (ht : t < mN M) : S 23 t = M 525 t := h.2.2.2.2.1 t ht
theorem TR.cu {S M : ST} (h : TR S M) {t : Nat} (ht : t < mN M) : S 24 t = M 526 t := h.2.2.2.2.2.1 t ht
theorem TR.op {S M : ST} (h : TR S M) {t k : Nat} (ht : t < mN M) (hk : k < nn (M 522 t)) : opR (S (1 + 4 + t) k) (M 523 (12 * t + 2 * k)) ∧ S (1 + 13 + t) k = M 523 (12 * t + 2 * k + 1) := h.2.2.2.2.2.2.1 t k ht hk
theorem TR.ga {S M : ST} (h : TR S M) : ∃ v, BS S 25 v ∧ M 513 16 = nI v := h.2.2.2.2.2.2.2
