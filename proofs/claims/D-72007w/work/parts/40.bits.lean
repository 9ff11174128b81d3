set_option maxRecDepth 100000
/-! BITSETS of 8 bits: the cells k (its ints: 1 words in use), k + 1 (its word) -/
theorem BC_run {b j : Nat} (hb : RB b) (h : j = 1 ∨ j = 3 ∨ j = 5 ∨ j = 7) : BC (b + j) := by
  intro G f
  rcases h with rfl | rfl | rfl | rfl
  · exact ⟨(cO_run hb (by decide)).trans rfl, (cO_run (j := 2) hb (by decide)).trans rfl⟩
  · exact ⟨(cO_run hb (by decide)).trans rfl, (cO_run (j := 4) hb (by decide)).trans rfl⟩
  · exact ⟨(cO_run hb (by decide)).trans rfl, (cO_run (j := 6) hb (by decide)).trans rfl⟩
  · exact ⟨(cO_run hb (by decide)).trans rfl, (cO_run (j := 8) hb (by decide)).trans rfl⟩
theorem BC_tree {b : Nat} (hb : TB b) : BC (b + 24) := fun G f => ⟨(cO_tree hb (by decide)).trans rfl, (cO_tree (j := 25) hb (by decide)).trans rfl⟩
def wi (v : Nat) : Nat := if v = 0 then 0 else 1
theorem wi_le (v : Nat) : wi v ≤ 1 := by unfold wi; split <;> omega
theorem wi_0 {v : Nat} (h : wi v = 0) : v = 0 := by
  unfold wi at h
  split at h
  · assumption
  · omega
theorem wi_1 {v : Nat} (h : v ≠ 0) : wi v = 1 := if_neg h
def BS (S : ST) (k v : Nat) : Prop := S (k + 1) 0 = nI v ∧ v < 256 ∧ S k 1 = nI (wi v)
def bset (S : ST) (k v : Nat) : ST := s2 (s2 S k 1 (nI (wi v))) (k + 1) 0 (nI v)
theorem s2_id {S : ST} {k j : Nat} {v : Int32} (e : S k j = v) : s2 S k j v = S := by
  unfold s2
  rw [← e, upd_self, s1_self]
theorem bset_BS {S : ST} {k v : Nat} (hv : v < 256) : BS (bset S k v) k v := by
  unfold bset
  refine ⟨s2_at _ _ _ _, hv, ?_⟩
  rw [s2_nk (by omega), s2_at]
theorem bset_ne {S : ST} {k v q : Nat} (h1 : q ≠ k) (h2 : q ≠ k + 1) : bset S k v q = S q := by
  unfold bset
  rw [s2_nk h2, s2_nk h1]
theorem bset_id {S : ST} {k v : Nat} (h : BS S k v) : bset S k v = S := by
  unfold bset
  rw [s2_id h.2.2, s2_id h.1]
theorem bset_bset (S : ST) (k v w : Nat) : bset (bset S k v) k w = bset S k w := by
  unfold bset
  funext q
  unfold s2 s1
  by_cases h1 : q = k + 1
  · subst h1
    simp [upd_upd]
  · by_cases h2 : q = k
    · subst h2
      simp [upd_upd]
    · simp [h1, h2]
theorem bs_or0 : ∀ v : Fin 256, ∀ t : Fin 8, lN v.val ||| (lN 1 <<< ((nI t.val).toInt64 &&& 63)) = lN (v.val ||| 2 ^ t.val) := by decide +kernel
theorem bs_cl0 : ∀ v : Fin 256, ∀ t : Fin 8, lN v.val &&& ((lN 1 <<< ((nI t.val).toInt64 &&& 63)) ^^^ (-1)) = lN (v.val &&& (255 ^^^ 2 ^ t.val)) := by decide +kernel
theorem bs_get0 : ∀ v : Fin 256, ∀ t : Fin 8, (lg_cmp (lN v.val &&& (lN 1 <<< ((nI t.val).toInt64 &&& 63))) (lN 0) = 0) ↔ ¬ v.val.testBit t.val = true := by decide +kernel
theorem bs_z0 : ∀ v : Fin 256, (lg_cmp (lN v.val) (lN 0) = 0) ↔ v.val = 0 := by decide +kernel
theorem bs_wi0 : ∀ t : Fin 16, nI t.val >>> (nI 6 &&& 31) = nI 0 := by decide +kernel
theorem bs_or {v t : Nat} (hv : v < 256) (ht : t < 8) : lN v ||| (lN 1 <<< ((nI t).toInt64 &&& 63)) = lN (v ||| 2 ^ t) := bs_or0 ⟨v, hv⟩ ⟨t, ht⟩
theorem bs_cl {v t : Nat} (hv : v < 256) (ht : t < 8) : lN v &&& ((lN 1 <<< ((nI t).toInt64 &&& 63)) ^^^ (-1)) = lN (v &&& (255 ^^^ 2 ^ t)) := bs_cl0 ⟨v, hv⟩ ⟨t, ht⟩
theorem bs_get {v t : Nat} (hv : v < 256) (ht : t < 8) : (lg_cmp (lN v &&& (lN 1 <<< ((nI t).toInt64 &&& 63))) (lN 0) = 0) ↔ ¬ v.testBit t = true := bs_get0 ⟨v, hv⟩ ⟨t, ht⟩
theorem bs_z {v : Nat} (hv : v < 256) : (lg_cmp (lN v) (lN 0) = 0) ↔ v = 0 := bs_z0 ⟨v, hv⟩
theorem bs_wi {t : Nat} (ht : t < 16) : nI t >>> (nI 6 &&& 31) = nI 0 := bs_wi0 ⟨t, ht⟩
theorem bs_orlt {v t : Nat} (hv : v < 256) (ht : t < 8) : v ||| 2 ^ t < 256 ∧ v ||| 2 ^ t ≠ 0 := by
  have : ∀ v : Fin 256, ∀ t : Fin 8, v.val ||| 2 ^ t.val < 256 ∧ v.val ||| 2 ^ t.val ≠ 0 := by decide +kernel
  exact this ⟨v, hv⟩ ⟨t, ht⟩
theorem bs_cllt {v t : Nat} (hv : v < 256) : v &&& (255 ^^^ 2 ^ t) < 256 := Nat.lt_of_le_of_lt Nat.and_le_left hv
section VB
variable {G : GT} {x : VX} {own : String} {cc : ByteArray} {nL : Nat} {Q : State → Prop} {lv lv' : List (Nat × Value)} {st : List Value} {N : Nat} {S : ST} {a b pc : Nat}
theorem c_lald {k v : Nat} {i : Int32} (hk : BC k) (hN : k + 1 < N) (hi : i = nI 0) (hv : S (k + 1) 0 = nI v) (hb : v < 2 ^ 31) (hd : decode cc pc = .ok (.laload, 1)) (kk : V G x own cc nL Q (pc + 1) lv (.long (lN v) :: st) N (hC G S) a b) : V G x own cc nL Q pc lv (.int i :: .ref (gZ G + (k + 1)) :: st) N (hC G S) a b := by
  refine v_lald (f := fun j => lN (S (k + 1) j).toNatClampNeg) (n := 1) (j := 0) hN (hk G (S (k + 1))).2 hi (by decide) (by decide) hd ?_
  show V G x own cc nL Q (pc + 1) lv (.long (lN (S (k + 1) 0).toNatClampNeg) :: st) N (hC G S) a b
  rw [hv, nI_clamp hb]
  exact kk
theorem c_last {k v : Nat} {i : Int32} (hk : BC k) (hN : k + 1 < N) (hi : i = nI 0) (hb : v < 2 ^ 31) (hd : decode cc pc = .ok (.lastore, 1)) (kk : V G x own cc nL Q (pc + 1) lv st N (hC G (s2 S (k + 1) 0 (nI v))) a b) : V G x own cc nL Q pc lv (.long (lN v) :: .int i :: .ref (gZ G + (k + 1)) :: st) N (hC G S) a b := by
  refine v_last (f := fun j => lN (S (k + 1) j).toNatClampNeg) (n := 1) (j := 0) hN (hk G (S (k + 1))).2 hi (by decide) (by decide) hd (v_eq rfl rfl ?_ kk)
  refine hC_s1 (f := upd (S (k + 1)) 0 (nI v)) ?_
  rw [(hk G _).2]
  unfold bsW
  congr 5
  funext j
  unfold vp_updL upd
  by_cases h : j = 0
  · rw [if_pos h, if_pos h, nI_clamp hb]
  · rw [if_neg h, if_neg h]
end VB
