set_option maxRecDepth 100000
/-! the states behind know, behind a pop -/
def kn1 (S : ST) (R tf tb : Nat) (F : Nat → Int32) (v : Int32) : ST := s2 (s2 (put (s2 (s2 S 113 2 (nI tf)) 114 tf (nI 0)) R F) 112 tb (nI (R + 1))) 111 2 v
theorem kn1_at {S : ST} {R tf tb k j : Nat} {F : Nat → Int32} {v : Int32} (hR : 177 ≤ R) (hk : k < 177) : kn1 S R tf tb F v k j = if k = 111 ∧ j = 2 then v else if k = 112 ∧ j = tb then nI (R + 1) else if k = 114 ∧ j = tf then nI 0 else if k = 113 ∧ j = 2 then nI tf else S k j := by
  unfold kn1
  rw [s2_val, s2_val, put_ne (by omega), s2_val, s2_val]
theorem kn1_run {S : ST} {R tf tb : Nat} {F : Nat → Int32} {v : Int32} (hR : 177 ≤ R) : HR (kn1 S R tf tb F v) R F := by
  intro j hj
  unfold kn1
  rw [s2_nk (by omega), s2_nk (by omega), put_at hj]
theorem kn1_o {S : ST} {R tf tb k : Nat} {F : Nat → Int32} {v : Int32} (hk : k < 111 ∨ 115 ≤ k) (h : k < R ∨ R + 28 ≤ k) : kn1 S R tf tb F v k = S k := by
  unfold kn1
  rw [s2_nk (by omega), s2_nk (by omega), put_ne h, s2_nk (by omega), s2_nk (by omega)]
theorem kn1_UC {S : ST} {n hb hf i : Nat} {u w : Nat → Nat} {F : Nat → Int32} (h : UC S n hb hf u w) (hn : n < 12) (hi : w (11 - n) = i) : UC (kn1 S (177 + 28 * i) ((hf + (11 - n)) % 15) ((hb + n) % 15) F (nI ((hb + n + 1) % 15))) (n + 1) hb hf (upN u n i) w := by
  have hR : 177 ≤ 177 + 28 * i := by omega
  refine UC_know1 h hn hi ?_ ?_ ?_ ?_ ?_ (fun j hj => ?_) (fun j hj => ?_) (kn1_run hR) (fun k h1 h2 h3 => kn1_o (by omega) h3)
  · rw [kn1_at hR (by decide), if_neg (by omega), if_neg (by omega), if_neg (by omega), if_neg (by omega)]
  · rw [kn1_at hR (by decide), if_pos (by omega)]
  · rw [kn1_at hR (by decide), if_neg (by omega), if_neg (by omega), if_neg (by omega), if_neg (by omega)]
  · rw [kn1_at hR (by decide), if_neg (by omega), if_neg (by omega), if_neg (by omega), if_pos (by omega)]
  · rw [kn1_at hR (by decide), if_neg (by omega), if_pos (by omega)]
  · rw [kn1_at hR (by decide), if_neg (by omega), if_neg (by omega), if_neg (by omega), if_neg (by omega)]
  · rw [kn1_at hR (by decide), if_neg (by omega), if_neg (by omega), if_neg (by omega), if_neg (by omega)]
theorem kn1_UO {S : ST} {i tf tb : Nat} {F : Nat → Int32} {v : Int32} (hi : i < 12) : UO S (kn1 S (177 + 28 * i) tf tb F v) := fun k hk => kn1_o (by omega) (by omega)
def kn2 (S : ST) (R h tb : Nat) (F : Nat → Int32) (v v' : Int32) : ST := s2 (s2 (put (s2 (s2 S 112 h (nI 0)) 111 1 v) R F) 112 tb (nI (R + 1))) 111 2 v'
theorem kn2_at {S : ST} {R h tb k j : Nat} {F : Nat → Int32} {v v' : Int32} (hR : 177 ≤ R) (hk : k < 177) : kn2 S R h tb F v v' k j = if k = 111 ∧ j = 2 then v' else if k = 112 ∧ j = tb then nI (R + 1) else if k = 111 ∧ j = 1 then v else if k = 112 ∧ j = h then nI 0 else S k j := by
  unfold kn2
  rw [s2_val, s2_val, put_ne (by omega), s2_val, s2_val]
theorem kn2_run {S : ST} {R h tb : Nat} {F : Nat → Int32} {v v' : Int32} (hR : 177 ≤ R) : HR (kn2 S R h tb F v v') R F := by
  intro j hj
  unfold kn2
  rw [s2_nk (by omega), s2_nk (by omega), put_at hj]
theorem kn2_o {S : ST} {R h tb k : Nat} {F : Nat → Int32} {v v' : Int32} (hk : k ≠ 111 ∧ k ≠ 112) (hr : k < R ∨ R + 28 ≤ k) : kn2 S R h tb F v v' k = S k := by
  unfold kn2
  rw [s2_nk hk.1, s2_nk hk.2, put_ne hr, s2_nk hk.1, s2_nk hk.2]
theorem kn2_UC {S : ST} {hb hf i : Nat} {u w : Nat → Nat} {F : Nat → Int32} (h : UC S 12 hb hf u w) (hi : u 0 = i) : UC (kn2 S (177 + 28 * i) hb ((hb + 12) % 15) F (nI ((hb + 1) % 15)) (nI ((hb + 13) % 15))) 12 ((hb + 1) % 15) hf (rotN u) w := by
  have hR : 177 ≤ 177 + 28 * i := by omega
  have hb15 := h.1.2.1
  refine UC_know2 h hi ?_ ?_ ?_ ?_ (fun j hj hj2 => ?_) ?_ (kn2_run hR) (fun k h1 h2 h3 => kn2_o (by omega) h3)
  · rw [kn2_at hR (by decide), if_neg (by omega), if_neg (by omega), if_pos (by omega)]
  · rw [kn2_at hR (by decide), if_pos (by omega)]
  · exact kn2_o (by omega) (by omega)
  · rw [kn2_at hR (by decide), if_neg (by omega), if_pos (by omega)]
  · rw [kn2_at hR (by decide), if_neg (by omega), if_neg (by omega), if_neg (by omega), if_neg (by omega)]
  · exact kn2_o (by omega) (by omega)
theorem kn2_UO {S : ST} {i h tb : Nat} {F : Nat → Int32} {v v' : Int32} (hi : i < 12) : UO S (kn2 S (177 + 28 * i) h tb F v v') := fun k hk => kn2_o (by omega) (by omega)
/-- behind a pop: the last of before to the free ones -/
def pop1 (S : ST) (R tb tf : Nat) (v : Int32) : ST := s2 (s2 (s2 (s2 S 111 2 (nI tb)) 112 tb (nI 0)) 114 tf (nI (R + 1))) 113 2 v
theorem pop1_at {S : ST} {R tb tf k j : Nat} {v : Int32} : pop1 S R tb tf v k j = if k = 113 ∧ j = 2 then v else if k = 114 ∧ j = tf then nI (R + 1) else if k = 112 ∧ j = tb then nI 0 else if k = 111 ∧ j = 2 then nI tb else S k j := by
  unfold pop1
  rw [s2_val, s2_val, s2_val, s2_val]
theorem pop1_o {S : ST} {R tb tf k : Nat} {v : Int32} (hk : k < 111 ∨ 115 ≤ k) : pop1 S R tb tf v k = S k := by
  unfold pop1
  rw [s2_nk (by omega), s2_nk (by omega), s2_nk (by omega), s2_nk (by omega)]
theorem pop1_UC {S : ST} {n hb hf i : Nat} {u w : Nat → Nat} (h : UC S (n + 1) hb hf u w) (hi : u n = i) : UC (pop1 S (177 + 28 * i) ((hb + n) % 15) ((hf + (11 - n)) % 15) (nI ((hf + (12 - n)) % 15))) n hb hf u (upN w (11 - n) i) := by
  have hn := h.1.1
  refine UC_pop h hi ?_ ?_ ?_ ?_ ?_ (fun j hj => ?_) (fun j hj => ?_) (fun k h1 h2 => pop1_o (by omega))
  · rw [pop1_at, if_neg (by omega), if_neg (by omega), if_neg (by omega), if_neg (by omega)]
  · rw [pop1_at, if_neg (by omega), if_neg (by omega), if_neg (by omega), if_pos (by omega)]
  · rw [pop1_at, if_neg (by omega), if_neg (by omega), if_neg (by omega), if_neg (by omega)]
  · rw [pop1_at, if_pos (by omega)]
  · rw [pop1_at, if_neg (by omega), if_pos (by omega)]
  · rw [pop1_at, if_neg (by omega), if_neg (by omega), if_neg (by omega), if_neg (by omega)]
  · rw [pop1_at, if_neg (by omega), if_neg (by omega), if_neg (by omega), if_neg (by omega)]
theorem pop1_UO {S : ST} {R tb tf : Nat} {v : Int32} : UO S (pop1 S R tb tf v) := fun k hk => pop1_o (by omega)
