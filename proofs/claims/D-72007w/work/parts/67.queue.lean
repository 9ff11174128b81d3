set_option maxRecDepth 100000
/-! THE ROW OF TURNS (cells 53, 54), and what pass does, by its loops -/
def upN (u : Nat → Nat) (i r : Nat) : Nat → Nat := fun j => if j = i then r else u j
def qc (u : Nat → Nat) (h tl : Nat) : Nat → Int32 := fun j => if h ≤ j ∧ j < tl then nI (u j + 1) else nI 0
def qs (S : ST) (u : Nat → Nat) (h tl : Nat) : ST := s1 (s2 (s2 S 53 1 (nI h)) 53 2 (nI tl)) 54 (qc u h tl)
def qe (S : ST) (m : Nat) : ST := s1 (s2 (s2 S 53 1 (nI m)) 53 2 (nI m)) 54 (fun _ => nI 0)
/-- no turns wait -/
def QE (S : ST) : Prop := ∃ m, m < 17 ∧ S 53 1 = nI m ∧ S 53 2 = nI m ∧ S 54 = fun _ => nI 0
theorem qs_1 {S : ST} {u : Nat → Nat} {h tl : Nat} : qs S u h tl 53 1 = nI h := by unfold qs; rw [s1_ne (by decide), s2_nj (by decide), s2_at]
theorem qs_2 {S : ST} {u : Nat → Nat} {h tl : Nat} : qs S u h tl 53 2 = nI tl := by unfold qs; rw [s1_ne (by decide), s2_at]
theorem qs_54 {S : ST} {u : Nat → Nat} {h tl : Nat} : qs S u h tl 54 = qc u h tl := by unfold qs; rw [s1_at]
theorem qs_ne {S : ST} {u : Nat → Nat} {h tl k : Nat} (h1 : k ≠ 53) (h2 : k ≠ 54) : qs S u h tl k = S k := by unfold qs; rw [s1_ne h2, s2_nk h1, s2_nk h1]
theorem qe_ne {S : ST} {m k : Nat} (h1 : k ≠ 53) (h2 : k ≠ 54) : qe S m k = S k := by unfold qe; rw [s1_ne h2, s2_nk h1, s2_nk h1]
theorem qe_QE {S : ST} {m : Nat} (hm : m < 17) : QE (qe S m) := ⟨m, hm, by unfold qe; rw [s1_ne (by decide), s2_nj (by decide), s2_at], by unfold qe; rw [s1_ne (by decide), s2_at], by unfold qe; rw [s1_at]⟩
theorem qs_end {S : ST} {u : Nat → Nat} {m : Nat} : qs S u m m = qe S m := by
  unfold qs qe
  congr 1
  funext j
  unfold qc
  rw [if_neg (by omega)]
theorem st_ext {S S' : ST} (h : ∀ k j, S k j = S' k j) : S = S' := funext fun k => funext fun j => h k j
theorem qs_val {S : ST} {u : Nat → Nat} {h tl k j : Nat} : qs S u h tl k j = if k = 54 then qc u h tl j else if k = 53 ∧ j = 2 then nI tl else if k = 53 ∧ j = 1 then nI h else S k j := by
  by_cases h54 : k = 54
  · subst h54; rw [qs_54, if_pos rfl]
  · rw [if_neg h54]
    unfold qs
    rw [s1_ne h54, s2_val, s2_val]
theorem qs_push {S : ST} {u : Nat → Nat} {h tl r b : Nat} {c : Nat → Int32} (hb : 55 ≤ b) (hh : h ≤ tl) : s2 (s2 (put (qs S u h tl) b c) 54 tl (nI (r + 1))) 53 2 (nI (tl + 1)) = put (qs S (upN u tl r) h (tl + 1)) b c := by
  rw [put_s2 (by omega), put_s2 (by omega)]
  congr 1
  refine st_ext fun k j => ?_
  rw [s2_val, s2_val, qs_val, qs_val]
  by_cases h54 : k = 54
  · subst h54
    rw [if_neg (by omega), if_pos rfl, if_pos rfl]
    unfold qc upN
    by_cases ej : j = tl
    · subst ej; rw [if_pos ⟨rfl, rfl⟩, if_pos (by omega), if_pos rfl]
    · rw [if_neg (fun z => ej z.2)]
      by_cases e2 : h ≤ j ∧ j < tl
      · rw [if_pos e2, if_pos (by omega), if_neg ej]
      · rw [if_neg e2, if_neg (by omega)]
  · rw [if_neg (fun z : k = 54 ∧ j = tl => h54 z.1), if_neg h54, if_neg h54]
    by_cases e2 : k = 53 ∧ j = 2
    · rw [if_pos e2, if_pos e2]
    · rw [if_neg e2, if_neg e2, if_neg e2]
theorem qs_pop {S : ST} {u : Nat → Nat} {h tl b : Nat} {c : Nat → Int32} (hb : 55 ≤ b) : s2 (s2 (put (qs S u h tl) b c) 54 h (nI 0)) 53 1 (nI (h + 1)) = put (qs S u (h + 1) tl) b c := by
  rw [put_s2 (by omega), put_s2 (by omega)]
  congr 1
  refine st_ext fun k j => ?_
  rw [s2_val, s2_val, qs_val, qs_val]
  by_cases h54 : k = 54
  · subst h54
    rw [if_neg (by omega), if_pos rfl, if_pos rfl]
    unfold qc
    by_cases ej : j = h
    · subst ej; rw [if_pos ⟨rfl, rfl⟩, if_neg (by omega)]
    · rw [if_neg (fun z => ej z.2)]
      by_cases e2 : h ≤ j ∧ j < tl
      · rw [if_pos e2, if_pos (by omega)]
      · rw [if_neg e2, if_neg (by omega)]
  · rw [if_neg (fun z : k = 54 ∧ j = h => h54 z.1), if_neg h54, if_neg h54]
    by_cases e1 : k = 53 ∧ j = 1
    · rw [if_pos e1, if_neg (by omega), if_pos e1]
    · rw [if_neg e1, if_neg e1, if_neg e1]
theorem qs_zero {S : ST} {u : Nat → Nat} {b : Nat} {c : Nat → Int32} (hb : 55 ≤ b) (h54 : S 54 = fun _ => nI 0) : s2 (s2 (put S b c) 53 2 (nI 0)) 53 1 (nI 0) = put (qs S u 0 0) b c := by
  rw [put_s2 (by omega), put_s2 (by omega)]
  congr 1
  refine st_ext fun k j => ?_
  rw [s2_val, s2_val, qs_val]
  by_cases e : k = 54
  · subst e
    rw [if_neg (by omega), if_neg (by omega), if_pos rfl, h54]
    unfold qc
    rw [if_neg (by omega)]
  · rw [if_neg e]
    by_cases e1 : k = 53 ∧ j = 1
    · rw [if_pos e1, if_neg (by omega), if_pos e1]
    · rw [if_neg e1, if_neg e1]
theorem TR.to {S S' M : ST} (hM : MI M) (h : TR S M) (e : ∀ k, 1 ≤ k → k < 27 → S' k = S k) : TR S' M := by
  have h8 := hM.n
  obtain ⟨h1, h2, h3, h4, h5, h6, h7, v, ⟨b1, b2, b3⟩, b4⟩ := h
  refine ⟨by rw [e 1 (by omega) (by omega)]; exact h1, fun t ht => by rw [e 2 (by omega) (by omega)]; exact h2 t ht, fun t ht => by rw [e 3 (by omega) (by omega)]; exact h3 t ht, fun t ht => by rw [e 22 (by omega) (by omega)]; exact h4 t ht, fun t ht => by rw [e 23 (by omega) (by omega)]; exact h5 t ht, fun t ht => by rw [e 24 (by omega) (by omega)]; exact h6 t ht, fun t k ht hk => ?_, v, ⟨?_, b2, ?_⟩, b4⟩
  · rw [e (1 + 4 + t) (by omega) (by omega), e (1 + 13 + t) (by omega) (by omega)]; exact h7 t k ht hk
  · rw [e (25 + 1) (by omega) (by omega)]; exact b1
  · rw [e 25 (by omega) (by omega)]; exact b3
theorem TR_qs {S M : ST} (hM : MI M) (h : TR S M) {u : Nat → Nat} {p q : Nat} : TR (qs S u p q) M := h.to hM (fun k h1 h2 => qs_ne (by omega) (by omega))
theorem rUp_add {fn : (Nat → Int32) → Nat → Nat → Int32} : ∀ (m k f : Nat) (c : Nat → Int32), rUp fn (m + k) f c = rUp fn k (f + m) (rUp fn m f c) := by
  intro m
  induction m with
  | zero => intro k f c; rw [Nat.zero_add]; rfl
  | succ m ih => intro k f c; rw [Nat.add_right_comm, rUp, rUp, ih, show f + 1 + m = f + (m + 1) by omega]
theorem rUp_skip {fn : (Nat → Int32) → Nat → Nat → Int32} {c : Nat → Int32} : ∀ (m f : Nat), (∀ q, f ≤ q → q < f + m → fn c q = c) → rUp fn m f c = c := by
  intro m
  induction m with
  | zero => intro f _; rfl
  | succ m ih => intro f h; rw [rUp, h f (Nat.le_refl _) (by omega)]; exact ih (f + 1) (fun q h1 h2 => h q (by omega) (by omega))
/-- turns u h, u (h + 1) .. -/
def pL (M : ST) (u : Nat → Nat) : Nat → Nat → (Nat → Int32) → Nat → Int32
  | 0, _, c => c
  | m + 1, h, c => pL M u m (h + 1) (if c (18 * u h) = nI 1 then cMv M c (u h) else c)
theorem pL_add {M : ST} {u : Nat → Nat} : ∀ (m k h : Nat) (c : Nat → Int32), pL M u (m + k) h c = pL M u k (h + m) (pL M u m h c) := by
  intro m
  induction m with
  | zero => intro k h c; rw [Nat.zero_add]; rfl
  | succ m ih => intro k h c; rw [Nat.add_right_comm, pL, pL, ih, show h + 1 + m = h + (m + 1) by omega]
theorem pL_cong {M : ST} {u w : Nat → Nat} : ∀ (m h : Nat) (c : Nat → Int32), (∀ j, h ≤ j → j < h + m → u j = w j) → pL M u m h c = pL M w m h c := by
  intro m
  induction m with
  | zero => intro h c _; rfl
  | succ m ih => intro h c e; rw [pL, pL, e h (Nat.le_refl _) (by omega)]; exact ih (h + 1) _ (fun j h1 h2 => e j (by omega) (by omega))
/-- one turn more waits: the task r, the next that runs from f on -/
theorem pL_push {M : ST} {c1 : Nat → Int32} {u : Nat → Nat} {f tl r : Nat} (hp : ∀ c, pL M u tl 0 c = rUp (cT2 c1 M) f 0 c) (hfr : f ≤ r) (hs : ∀ q, f ≤ q → q < r → ¬ c1 (18 * q) = nI 1) (hr : c1 (18 * r) = nI 1) : ∀ c, pL M (upN u tl r) (tl + 1) 0 c = rUp (cT2 c1 M) (r + 1) 0 c := by
  intro c
  rw [pL_add tl 1 0 c, pL_cong (w := u) tl 0 c (fun j h1 h2 => by unfold upN; rw [if_neg (by omega)]), hp, show r + 1 = f + ((r - f) + 1) by omega, rUp_add f, rUp_add (r - f), rUp_skip (r - f) (0 + f) (fun q h1 h2 => by unfold cT2; rw [if_neg (fun z => hs q (by omega) (by omega) z.1)]), Nat.zero_add, Nat.zero_add, show f + (r - f) = r by omega]
  generalize rUp (cT2 c1 M) f 0 c = d
  show (if d (18 * upN u tl r tl) = nI 1 then cMv M d (upN u tl r tl) else d) = cT2 c1 M d r
  rw [show upN u tl r tl = r from if_pos rfl]
  unfold cT2
  by_cases e : d (18 * r) = nI 1
  · rw [if_pos e, if_pos ⟨hr, e⟩]
  · rw [if_neg e, if_neg (fun z => e z.2)]
theorem pL_done {M : ST} {c1 : Nat → Int32} {u : Nat → Nat} {f tl : Nat} (hf : f ≤ 8) (hp : ∀ c, pL M u tl 0 c = rUp (cT2 c1 M) f 0 c) (hs : ∀ q, f ≤ q → q < 8 → ¬ c1 (18 * q) = nI 1) : ∀ c, pL M u tl 0 c = rUp (cT2 c1 M) 8 0 c := by
  intro c
  rw [hp, show 8 = f + (8 - f) by omega, rUp_add f (8 - f), rUp_skip (8 - f) (0 + f) (fun q h1 h2 => by unfold cT2; rw [if_neg (fun z => hs q (by omega) (by omega) z.1)])]
theorem tk1_8 {M : ST} (h8 : mN M ≤ 8) {c : Nat → Int32} (hu : UB M (rUp (cT1 M) (mN M) 0 c)) : rUp (cT1 M) 8 0 c = rUp (cT1 M) (mN M) 0 c := by
  conv => lhs; rw [show 8 = mN M + (8 - mN M) by omega, rUp_add (mN M)]
  generalize rUp (cT1 M) (mN M) 0 c = d at hu ⊢
  exact rUp_skip _ _ (fun q h1 h2 => by unfold cT1; rw [if_neg (fun z => by rw [hu q (by omega) (by omega)] at z; exact absurd z.1 (by decide))])
theorem tk2_8 {M : ST} (h8 : mN M ≤ 8) {c1 : Nat → Int32} (hu : UB M c1) : rUp (cT2 c1 M) 8 0 c1 = cTk2 M c1 := by
  unfold cTk2
  conv => lhs; rw [show 8 = mN M + (8 - mN M) by omega, rUp_add (mN M)]
  exact rUp_skip _ _ (fun q h1 h2 => by unfold cT2; rw [if_neg (fun z => by rw [hu q (by omega) (by omega)] at z; exact absurd z.1 (by decide))])
theorem RJ_rMv {S : ST} (hS : MI S) {g : Nat → Int32} (h : RJ S g) {t : Nat} (ht : t < mN S) : RJ S (rMv S g t) := by
  have hn := hS.n
  refine ⟨RI_rMv hS h.1 ht (h.2 t ht), fun q hq => ?_⟩
  have hq2 := h.2 q hq
  unfold rMv
  split
  · rw [rClo_ne hS (by omega) (by omega) (by omega) (fun c _ _ => by omega)]; exact hq2
  · split
    · rw [rClo_ne hS (by omega) (by omega) (by omega) (fun c _ _ => by omega)]; exact hq2
    · next c =>
      have := rWk_2 hS h.1 (t := t) (q := q) (by omega) (by omega)
      by_cases e : q = t
      · subst e
        rw [if_pos rfl] at this
        have a1 := (h.1.2 q (by omega)).1.1
        have a2 := hS.2.2.2 q ht
        have : nn (g (18 * q + 2)) ≠ nn (S 522 q) := fun z => c (by rw [a1, a2.1, z])
        omega
      · rw [if_neg e] at this
        omega
theorem Sim.UBc {M : ST} (h8 : mN M ≤ 8) {c g : Nat → Int32} (h : Sim M c g) : UB M c := fun q h1 h2 => by rw [h.how h2]; exact h.2.1 q h1 h2
theorem Sim.RIc {M : ST} {c g : Nat → Int32} (h : Sim M c g) (hI : RI g) : RI c := by
  refine ⟨by rw [h.2.2.2.2.1]; exact hI.1, fun t ht => ?_⟩
  obtain ⟨⟨a0, a1, a2, a5, a8, a9⟩, -⟩ := h.1 t ht
  rw [a2, a9]
  exact hI.2 t ht
theorem Sim.le {M : ST} (hM : MI M) {c g : Nat → Int32} (h : Sim M c g) (hJ : RJ M g) {t : Nat} (ht : t < mN M) : nn (c (18 * t + 2)) ≤ nn (M 522 t) := by
  have h8 := hM.n
  rw [(h.1 t (by omega)).1.2.2.1]
  exact hJ.2 t ht
/-- the same but for the row of turns, which is empty again -/
def QX (S S' : ST) : Prop := (∀ k, k ≠ 53 → k ≠ 54 → S' k = S k) ∧ QE S'
theorem QX.rf {S : ST} (h : QE S) : QX S S := ⟨fun _ _ _ => rfl, h⟩
theorem QX.tr {S T U : ST} (a : QX S T) (b : QX T U) : QX S U := ⟨fun k h1 h2 => (b.1 k h1 h2).trans (a.1 k h1 h2), b.2⟩
theorem QX.TR {S S' M : ST} (a : QX S S') (hM : MI M) (h : TR S M) : TR S' M := h.to hM (fun k h1 h2 => a.1 k (by omega) (by omega))
/-- a run at b, behind passes -/
def PQ (S : ST) (b : Nat) (F : Nat → Int32) : ST → Prop := fun X => ∃ S', QX S S' ∧ X = put S' b F
abbrev CTvE (G : GT) (l : Launch) (y : MethodName) (cc : ByteArray) (nL : Nat) (ret : Option FieldType) (d : Nat) (As : List Value) (N : Nat) (S : ST) (P : ST → Prop) : Prop := CT G l y cc nL ret d 0 0 As N (hC G S) (pV N (fun h' => ∃ X, P X ∧ h' = hC G X))
abbrev CTiE (G : GT) (l : Launch) (y : MethodName) (cc : ByteArray) (nL : Nat) (ret : Option FieldType) (d : Nat) (As : List Value) (N : Nat) (S : ST) (e : Int32) (P : ST → Prop) : Prop := CT G l y cc nL ret d 0 0 As N (hC G S) (pI N (fun r h' => r = e ∧ ∃ X, P X ∧ h' = hC G X))
section VE
variable {G : GT} {x : VX} {own : String} {cc : ByteArray} {nL : Nat} {Q : State → Prop} {lv lv' : List (Nat × Value)} {st st0 : List Value} {N : Nat} {S : ST} {a b pc : Nat} {P : ST → Prop}
theorem c_callVvE {y : MethodName} {bytes : ByteArray} {maxL d index n kb ci : Nat} {ret : Option FieldType} {C : String} {r : vw_C} {fs As : List Value} (hM : CTvE G (xl x) y bytes maxL ret d (.ref (gZ G + kb) :: As) N S P) (hV : GoodIn lw_all (wsV own index C y (ws_ y bytes maxL ret))) (hd4 : y.cls = C ∧ y.cls ≠ "java/lang/invoke/MethodHandle" ∧ y.cls ≠ "java/lang/invoke/VarHandle" ∧ (parseMethodDescriptor y.desc).map (fun d => d.parameters.length) = some n)
    (hR : d + 1 ≤ (xR x).frames ∧ 8 + (maxL + 11) + 39 * d ≤ (xR x).locals) (hf : a ≤ (xR x).cells ∧ b ≤ (xR x).slots) (hkb : kb < N) (he : hC G S kb = .inr (ci, fs)) (hc : clX[ci]? = some r) (hrC : r.1 = C) (hn : As.length = n) (hst : st0 = As.reverse ++ .ref (gZ G + kb) :: st) (hrest : (st.map fun v => v.category).sum ≤ 8) (hdg : decode cc pc = .ok (.invokevirtual index, 3))
    (kk : ∀ X, P X → V G x own cc nL Q (pc + 3) lv st N (hC G X) a b) : V G x own cc nL Q pc lv st0 N (hC G S) a b :=
  v_callV hM hV hd4 hR hf hkb he hc hrC hn hst hrest hdg (fun v N' h' q => by obtain ⟨rfl, rfl, X, hX, rfl⟩ := q; exact kk X hX)
theorem c_callViE {y : MethodName} {bytes : ByteArray} {maxL d index n kb ci : Nat} {ret : Option FieldType} {C : String} {r : vw_C} {fs As : List Value} {e : Int32} (hM : CTiE G (xl x) y bytes maxL ret d (.ref (gZ G + kb) :: As) N S e P) (hV : GoodIn lw_all (wsV own index C y (ws_ y bytes maxL ret))) (hd4 : y.cls = C ∧ y.cls ≠ "java/lang/invoke/MethodHandle" ∧ y.cls ≠ "java/lang/invoke/VarHandle" ∧ (parseMethodDescriptor y.desc).map (fun d => d.parameters.length) = some n)
    (hR : d + 1 ≤ (xR x).frames ∧ 8 + (maxL + 11) + 39 * d ≤ (xR x).locals) (hf : a ≤ (xR x).cells ∧ b ≤ (xR x).slots) (hkb : kb < N) (he : hC G S kb = .inr (ci, fs)) (hc : clX[ci]? = some r) (hrC : r.1 = C) (hn : As.length = n) (hst : st0 = As.reverse ++ .ref (gZ G + kb) :: st) (hrest : (st.map fun v => v.category).sum ≤ 8) (hdg : decode cc pc = .ok (.invokevirtual index, 3))
    (kk : ∀ X, P X → V G x own cc nL Q (pc + 3) lv (.int e :: st) N (hC G X) a b) : V G x own cc nL Q pc lv st0 N (hC G S) a b :=
  v_callV hM hV hd4 hR hf hkb he hc hrC hn hst hrest hdg (fun v N' h' q => by obtain ⟨r, rfl, rfl, rfl, X, hX, rfl⟩ := q; exact kk X hX)
end VE
