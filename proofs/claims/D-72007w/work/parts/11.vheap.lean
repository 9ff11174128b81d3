set_option maxRecDepth 100000
/-! ROWS OF V ON THE HEAP -/
theorem hp_e {z N k : Nat} {h : Nat → va_E} {e : va_E} (hk : k < N) (he : h k = e) : (hp z N h)[k]? = some (z + k, e) := by rw [hp_at hk, he]
theorem WH.at {G : GT} {N k : Nat} {h : Nat → va_E} {H : Heap} {e : va_E} (w : WH G N h H) (hk : k < N) (he : h k = e) : va_at G.1 clX (gZ G + k, e) H := by
  have := hp_P.mp w.2 k hk
  rw [he] at this
  exact this
theorem WH.put {G : GT} {N k : Nat} {h : Nat → va_E} {H H1 : Heap} {e : va_E} (w : WH G N h H) (hk : k < N) (he : va_at G.1 clX (gZ G + k, e) H1) (z : H1.size = H.size) (oq : ∀ q : Nat, q ≠ gZ G + k → H1[q]? = H[q]?) : WH G N (hu h k e) H1 := by
  refine ⟨by rw [z]; exact w.1, hp_P.mpr fun j hj => ?_⟩
  by_cases hjk : j = k
  · subst hjk
    simp only [hu, if_pos rfl]
    exact he
  · simp only [hu, if_neg hjk]
    exact (hp_P.mp w.2 j hj).kept (oq _ (fun q => hjk (Nat.add_left_cancel q)))
theorem nI_vp {j n : Nat} (hj : j < n) (hn : n < 2 ^ 31) : vp_in (nI j) n := vp_in_nI hj hn
section VH
variable {G : GT} {x : VX} {own : String} {cc : ByteArray} {nL : Nat} {Q : State → Prop} {lv lv' : List (Nat × Value)} {st : List Value} {N : Nat} {h : Nat → va_E} {a b : Nat}
theorem v_get {pc index k j M ci : Nat} {ref C : String} {T : u_T} {fs : List Value} {v : Value} (hc : clX[ci]? = some (C, T, M)) (hin : ∀ w ∈ u_ws C T M, w ∈ lw_all) (hj : j < M) (hlink : Cond.fieldLink own index ref (T j).2.1 (T j).2.2.1 ∈ lw_all) (hs : (T j).1 = ref) (hk : k < N) (he : h k = .inr (ci, fs)) (hv : fs[j]? = some v) (hd : decode cc pc = .ok (.getfield index, 3))
    (kk : V G x own cc nL Q (pc + 3) lv (v :: st) N h a b) : V G x own cc nL Q pc lv (.ref (gZ G + k) :: st) N h a b := fun C H locs ls w s l =>
  va_get C.1.1 C.1.2.1 C.1.2.2.2.2 hin C.1.2.2.2.1 C.2.2.1 w.2 k (hp_e hk he) hc j hj (C.1.2.2.2.2 _ hlink) (fun _ h9 => by rw [← hs]; exact h9) hv hd (kk C H locs ls w s l)
theorem v_getN {pc index k j M ci : Nat} {ref C host : String} {T : u_T} {fs : List Value} {v : Value} (hc : clX[ci]? = some (C, T, M)) (hin : ∀ w ∈ u_ws C T M, w ∈ lw_all) (hj : j < M) (hlink : Cond.fieldLinkNest own index ref (T j).2.1 (T j).2.2.1 host ∈ lw_tbl) (hs : (T j).1 = ref) (hk : k < N) (he : h k = .inr (ci, fs)) (hv : fs[j]? = some v) (hd : decode cc pc = .ok (.getfield index, 3))
    (kk : V G x own cc nL Q (pc + 3) lv (v :: st) N h a b) : V G x own cc nL Q pc lv (.ref (gZ G + k) :: st) N h a b := fun C H locs ls w s l =>
  va_getN C.1.1 C.1.2.1 C.1.2.2.2.2 hin C.1.2.2.2.1 C.2.2.1 w.2 k (hp_e hk he) hc j hj (C.2.2.2.1.use hlink rfl) (fun _ h9 => by rw [← hs]; exact h9) hv hd (kk C H locs ls w s l)
theorem v_put {pc index k j M ci : Nat} {ref C : String} {T : u_T} {fs : List Value} {v : Value} {ty : FieldType} (hc : clX[ci]? = some (C, T, M)) (hin : ∀ w ∈ u_ws C T M, w ∈ lw_all) (ty0 : Nat → FieldType) (hty : ∀ k, k < M → parseFieldDescriptor (T k).2.2.1 = some (ty0 k)) (hnm : ∀ a, a < M → ∀ b, b < M → a ≠ b → (T a).2.1 ≠ (T b).2.1) (hj : j < M) (hlink : Cond.fieldLink own index ref (T j).2.1 (T j).2.2.1 ∈ lw_all) (hs : (T j).1 = ref) (hfin : (T j).2.2.2 = false) (hty1 : ty0 j = ty) (hn : narrow ty v = v) (hfit : fits ty v = true) (hk : k < N) (he : h k = .inr (ci, fs)) (hl : j < fs.length) (hd : decode cc pc = .ok (.putfield index, 3))
    (kk : V G x own cc nL Q (pc + 3) lv st N (hu h k (.inr (ci, fs.set j v))) a b) : V G x own cc nL Q pc lv (v :: .ref (gZ G + k) :: st) N h a b := by
  intro C H locs ls w s l
  subst hty1
  have hK := C.2.2.1
  have hap := va_apart (own := own) C.1.2.2.2.2 hin ty0 hty hnm hK hc
  obtain ⟨r, h1, cell, q1, q2, q3, q4⟩ := w.at hk he
  have hr : r = (_, T, M) := Option.some.inj (h1.symm.trans hc)
  subst hr
  obtain ⟨hS, hfc, kC, hkC, hkind⟩ := hK.1 ci _ hc
  obtain ⟨cf, kf, fi, f, hi, hsl⟩ := hS j hj
  have hlay := C.1.2.2.2.2 _ (hin _ (u_in_lay hj))
  unfold u_lay at hlay
  rw [if_neg (by rw [hfin]; decide)] at hlay
  have hst := (u_facts hfc hkC (u_lays C.1.2.2.2.2 hin hj) hi).1
  have h6 := u_store hfc hkC hkind hlay hi (hty j hj) hn hfit
  refine W.putK C.1.1 C.1.2.1 (f := f) ⟨C.1.2.2.2.1, C.1.2.2.2.2 _ hlink, ⟨_, _, _, by rw [← hs]; exact hi⟩, hst⟩ (by rw [q2]; exact h6) q1 q3 (by rw [hsl]; exact k2_hasslot (q4 j hj)) rfl rfl hd fun H' e1 e2 e3 => ?_
  rw [hsl] at e1 ⊢
  exact kk C H' _ ls (w.put hk ⟨_, hc, t_OB.to (V := updV (vp_V fs) j v) ⟨_, e1, q2, q3, t_set q4 hap hj v⟩ (fun j _ => vp_updV_set hl v j)⟩ e2 e3) (s.put e2 e3 (Nat.le_add_right _ _)) l
theorem v_putN {pc index k j M ci : Nat} {ref C host : String} {T : u_T} {fs : List Value} {v : Value} {ty : FieldType} (hc : clX[ci]? = some (C, T, M)) (hin : ∀ w ∈ u_ws C T M, w ∈ lw_all) (ty0 : Nat → FieldType) (hty : ∀ k, k < M → parseFieldDescriptor (T k).2.2.1 = some (ty0 k)) (hnm : ∀ a, a < M → ∀ b, b < M → a ≠ b → (T a).2.1 ≠ (T b).2.1) (hj : j < M) (hlink : Cond.fieldLinkNest own index ref (T j).2.1 (T j).2.2.1 host ∈ lw_tbl) (hs : (T j).1 = ref) (hfin : (T j).2.2.2 = false) (hty1 : ty0 j = ty) (hn : narrow ty v = v) (hfit : fits ty v = true) (hk : k < N) (he : h k = .inr (ci, fs)) (hl : j < fs.length) (hd : decode cc pc = .ok (.putfield index, 3))
    (kk : V G x own cc nL Q (pc + 3) lv st N (hu h k (.inr (ci, fs.set j v))) a b) : V G x own cc nL Q pc lv (v :: .ref (gZ G + k) :: st) N h a b := by
  intro C H locs ls w s l
  subst hty1
  have hK := C.2.2.1
  have hap := va_apart (own := own) C.1.2.2.2.2 hin ty0 hty hnm hK hc
  obtain ⟨r, h1, cell, q1, q2, q3, q4⟩ := w.at hk he
  have hr : r = (_, T, M) := Option.some.inj (h1.symm.trans hc)
  subst hr
  obtain ⟨hS, hfc, kC, hkC, hkind⟩ := hK.1 ci _ hc
  obtain ⟨cf, kf, fi, f, hi, hsl⟩ := hS j hj
  have hlay := C.1.2.2.2.2 _ (hin _ (u_in_lay hj))
  unfold u_lay at hlay
  rw [if_neg (by rw [hfin]; decide)] at hlay
  have hst := (u_facts hfc hkC (u_lays C.1.2.2.2.2 hin hj) hi).1
  have h6 := u_store hfc hkC hkind hlay hi (hty j hj) hn hfit
  refine va_WputK C.1.1 C.1.2.1 (f := f) C.1.2.2.2.1 (C.2.2.2.1.use hlink rfl) (by rw [← hs]; exact hi) hst (by rw [q2]; exact h6) q1 q3 (by rw [hsl]; exact k2_hasslot (q4 j hj)) rfl rfl hd fun H' e1 e2 e3 => ?_
  rw [hsl] at e1 ⊢
  exact kk C H' _ ls (w.put hk ⟨_, hc, t_OB.to (V := updV (vp_V fs) j v) ⟨_, e1, q2, q3, t_set q4 hap hj v⟩ (fun j _ => vp_updV_set hl v j)⟩ e2 e3) (s.put e2 e3 (Nat.le_add_right _ _)) l
theorem v_putF {pc index k j M ci : Nat} {C : String} {T : u_T} {fs : List Value} {v : Value} {ty : FieldType} (hc : clX[ci]? = some (C, T, M)) (hin : ∀ w ∈ u_ws C T M, w ∈ lw_all) (ty0 : Nat → FieldType) (hty : ∀ k, k < M → parseFieldDescriptor (T k).2.2.1 = some (ty0 k)) (hnm : ∀ a, a < M → ∀ b, b < M → a ≠ b → (T a).2.1 ≠ (T b).2.1) (hj : j < M) (hlink : Cond.fieldLink own index own (T j).2.1 (T j).2.2.1 ∈ lw_all) (hs : (T j).1 = own) (hfin : (T j).2.2.2 = true) (hin2 : (xM x).name = "<init>") (hty1 : ty0 j = ty) (hn : narrow ty v = v) (hfit : fits ty v = true) (hk : k < N) (he : h k = .inr (ci, fs)) (hl : j < fs.length) (hd : decode cc pc = .ok (.putfield index, 3))
    (kk : V G x own cc nL Q (pc + 3) lv st N (hu h k (.inr (ci, fs.set j v))) a b) : V G x own cc nL Q pc lv (v :: .ref (gZ G + k) :: st) N h a b := by
  intro C H locs ls w s l
  subst hty1
  have hK := C.2.2.1
  have hap := va_apart (own := own) C.1.2.2.2.2 hin ty0 hty hnm hK hc
  obtain ⟨r, h1, cell, q1, q2, q3, q4⟩ := w.at hk he
  have hr : r = (_, T, M) := Option.some.inj (h1.symm.trans hc)
  subst hr
  obtain ⟨hS, hfc, kC, hkC, hkind⟩ := hK.1 ci _ hc
  obtain ⟨cf, kf, fi, f, hi, hsl⟩ := hS j hj
  have hlay := C.1.2.2.2.2 _ (hin _ (u_in_lay hj))
  unfold u_lay at hlay
  rw [if_pos hfin] at hlay
  have hst := (u_facts hfc hkC (u_lays C.1.2.2.2.2 hin hj) hi).1
  have hcf : (xm x).cls = cf := by
    obtain ⟨_, _, c', _, _, _, -, -, hf', -, -, -, hown2, -⟩ := Cond.laysFinal_spec hlay
    have e1 : c' = cf := by have := hi.symm.trans hf'; simp at this; exact this.1.symm
    rw [hs] at hown2
    rw [← e1]; exact Option.some.inj (C.1.2.2.2.1.symm.trans hown2)
  have h6 := u_fits hfc hkC hkind (Or.inr hlay) hi (hty j hj) hn hfit
  refine W.putFinK C.1.1 C.1.2.1 C.1.2.2.2.1 (C.1.2.2.2.2 _ hlink) (by rw [← hs]; exact hi) hst hcf hin2 (by rw [q2]; exact h6) q1 q3 (by rw [hsl]; exact k2_hasslot (q4 j hj)) rfl rfl hd fun H' e1 e2 e3 => ?_
  rw [hsl] at e1 ⊢
  exact kk C H' _ ls (w.put hk ⟨_, hc, t_OB.to (V := updV (vp_V fs) j v) ⟨_, e1, q2, q3, t_set q4 hap hj v⟩ (fun j _ => vp_updV_set hl v j)⟩ e2 e3) (s.put e2 e3 (Nat.le_add_right _ _)) l
theorem v_iald {pc k n j : Nat} {f : Nat → Int32} {i : Int32} (hk : k < N) (he : h k = .inl (gA G 0, n, .inl f)) (hi : i = nI j) (hj : j < n) (hn : n < 2 ^ 31) (hd : decode cc pc = .ok (.iaload, 1))
    (kk : V G x own cc nL Q (pc + 1) lv (.int (f j) :: st) N h a b) : V G x own cc nL Q pc lv (.int i :: .ref (gZ G + k) :: st) N h a b := by
  intro C H locs ls w s l
  subst hi
  refine va_iald C.1.1 C.1.2.1 C.2.2.1 w.2 k 0 (hp_e hk he) rfl (nI_vp hj hn) hd ?_
  rw [nI_clamp (by omega)]
  exact kk C H locs ls w s l
theorem v_zald {pc k n j : Nat} {f : Nat → Int32} {i : Int32} (hk : k < N) (he : h k = .inl (gA G 2, n, .inl f)) (hi : i = nI j) (hj : j < n) (hn : n < 2 ^ 31) (hd : decode cc pc = .ok (.baload, 1))
    (kk : V G x own cc nL Q (pc + 1) lv (.int (f j) :: st) N h a b) : V G x own cc nL Q pc lv (.int i :: .ref (gZ G + k) :: st) N h a b := by
  intro C H locs ls w s l
  subst hi
  refine va_zald C.1.1 C.1.2.1 C.2.2.1 w.2 k 2 (hp_e hk he) rfl (nI_vp hj hn) hd ?_
  rw [nI_clamp (by omega)]
  exact kk C H locs ls w s l
theorem v_bald {pc k n j : Nat} {f : Nat → Int32} {i : Int32} (hk : k < N) (he : h k = .inl (gA G 3, n, .inl f)) (hi : i = nI j) (hj : j < n) (hn : n < 2 ^ 31) (hd : decode cc pc = .ok (.baload, 1))
    (kk : V G x own cc nL Q (pc + 1) lv (.int (f j) :: st) N h a b) : V G x own cc nL Q pc lv (.int i :: .ref (gZ G + k) :: st) N h a b := by
  intro C H locs ls w s l
  subst hi
  refine va_bald C.1.1 C.1.2.1 C.2.2.1 w.2 k 3 (hp_e hk he) rfl (nI_vp hj hn) hd ?_
  rw [nI_clamp (by omega)]
  exact kk C H locs ls w s l
theorem v_lald {pc k n j : Nat} {f : Nat → Int64} {i : Int32} (hk : k < N) (he : h k = .inl (gA G 1, n, .inr (.inl f))) (hi : i = nI j) (hj : j < n) (hn : n < 2 ^ 31) (hd : decode cc pc = .ok (.laload, 1))
    (kk : V G x own cc nL Q (pc + 1) lv (.long (f j) :: st) N h a b) : V G x own cc nL Q pc lv (.int i :: .ref (gZ G + k) :: st) N h a b := by
  intro C H locs ls w s l
  subst hi
  refine va_lald C.1.1 C.1.2.1 C.2.2.1 w.2 k 1 (hp_e hk he) rfl (nI_vp hj hn) hd ?_
  rw [nI_clamp (by omega)]
  exact kk C H locs ls w s l
theorem v_aald {pc k n j : Nat} {t0 : Nat} {C : String} {f : Nat → Option Nat} {i : Int32} {v : Value} (ht : (tyG G)[t0]? = some (gA G t0, .object C)) (hk : k < N) (he : h k = .inl (gA G t0, n, .inr (.inr (.inr (.inr f))))) (hi : i = nI j) (hj : j < n) (hn : n < 2 ^ 31) (hv : va_rf (f j) = v) (hd : decode cc pc = .ok (.aaload, 1))
    (kk : V G x own cc nL Q (pc + 1) lv (v :: st) N h a b) : V G x own cc nL Q pc lv (.int i :: .ref (gZ G + k) :: st) N h a b := by
  intro C H locs ls w s l
  subst hi
  refine va_aldq C.1.1 C.1.2.1 C.2.2.1 w.2 k t0 (hp_e hk he) ht (nI_vp hj hn) hd ?_
  rw [nI_clamp (by omega), hv]
  exact kk C H locs ls w s l
/-- an array of int arrays -/
theorem v_gald {pc k n j : Nat} {f : Nat → Option Nat} {i : Int32} {v : Value} (hk : k < N) (he : h k = .inl (gA G 4, n, .inr (.inr (.inr (.inr f))))) (hi : i = nI j) (hj : j < n) (hn : n < 2 ^ 31) (hv : va_rf (f j) = v) (hd : decode cc pc = .ok (.aaload, 1))
    (kk : V G x own cc nL Q (pc + 1) lv (v :: st) N h a b) : V G x own cc nL Q pc lv (.int i :: .ref (gZ G + k) :: st) N h a b := by
  intro C H locs ls w s l
  subst hi
  have hin := nI_vp hj hn
  refine W.aald (v := v) (ty := .array .int) C.1.1 C.1.2.1 (w.at hk he) ((C.2.2.1.2 4 _ rfl).1 n (fun j => va_rf (f j))) rfl (fun q => by cases q) (by show ¬ (nI j < 0 ∨ (arrV _ _ _).slots.size ≤ _); rw [arrV_size]; exact hin) (by show (arrV _ _ _).slots[_]? = _; rw [nI_clamp (by omega), arrV_read _ _ hj, hv]) rfl rfl hd (kk C H locs ls w s l)
theorem v_alen {pc k : Nat} {t0 : Nat} {ty : FieldType} {e : vp_A} {v : Int32} (ht : (tyG G)[t0]? = some (gA G t0, ty)) (hk : k < N) (he : h k = .inl (gA G t0, e)) (hv : Int32.ofNat e.1 = v) (hd : decode cc pc = .ok (.arraylength, 1))
    (kk : V G x own cc nL Q (pc + 1) lv (.int v :: st) N h a b) : V G x own cc nL Q pc lv (.ref (gZ G + k) :: st) N h a b := fun C H locs ls w s l =>
  va_alen C.1.1 C.1.2.1 C.2.2.1 w.2 k t0 (hp_e hk he) ht hv hd (kk C H locs ls w s l)
theorem v_iast {pc k n j : Nat} {f : Nat → Int32} {i v : Int32} (hk : k < N) (he : h k = .inl (gA G 0, n, .inl f)) (hi : i = nI j) (hj : j < n) (hn : n < 2 ^ 31) (hd : decode cc pc = .ok (.iastore, 1))
    (kk : V G x own cc nL Q (pc + 1) lv st N (hu h k (.inl (gA G 0, n, .inl (upd f j v)))) a b) : V G x own cc nL Q pc lv (.int v :: .int i :: .ref (gZ G + k) :: st) N h a b := by
  intro C H locs ls w s l
  subst hi
  have hin := nI_vp hj hn
  refine W.iast C.1.1 C.1.2.1 (w.at hk he) ((C.2.2.1.2 0 _ rfl).1 n (fun j => .int (f j))) (fun q => by cases q) (by show ¬ (nI j < 0 ∨ (arrV _ _ _).slots.size ≤ _); rw [arrV_size]; exact hin) rfl rfl hd fun H1 e z oq => ?_
  refine kk C H1 _ ls (w.put hk ?_ z oq) (s.put z oq (Nat.le_add_right _ _)) l
  show H1[_]? = some (vp_cell _ _)
  rw [e, vp_cell_i, vp_cell_i, arrV_store, nI_clamp (by omega)]
  congr 2
  funext q
  by_cases hq : q = j
  · subst hq
    simp [updV, upd]
  · simp [updV, upd, hq]
theorem v_zast {pc k n j : Nat} {f : Nat → Int32} {i v v' : Int32} (hk : k < N) (he : h k = .inl (gA G 2, n, .inl f)) (hi : i = nI j) (hj : j < n) (hn : n < 2 ^ 31) (hv : vp_nar .boolean v = v') (hd : decode cc pc = .ok (.bastore, 1))
    (kk : V G x own cc nL Q (pc + 1) lv st N (hu h k (.inl (gA G 2, n, .inl (upd f j v')))) a b) : V G x own cc nL Q pc lv (.int v :: .int i :: .ref (gZ G + k) :: st) N h a b := by
  intro C H locs ls w s l
  subst hi; subst hv
  have hin := nI_vp hj hn
  refine W.zast C.1.1 C.1.2.1 (w.at hk he) ((C.2.2.1.2 2 _ rfl).1 n (fun j => .int (f j))) (fun q => by cases q) (by show ¬ (nI j < 0 ∨ (arrV _ _ _).slots.size ≤ _); rw [arrV_size]; exact hin) rfl rfl hd fun H1 e z oq => ?_
  refine kk C H1 _ ls (w.put hk ?_ z oq) (s.put z oq (Nat.le_add_right _ _)) l
  show H1[_]? = some (vp_cell _ _)
  rw [e, vp_cell_i, vp_cell_i, arrV_store, nI_clamp (by omega)]
  congr 2
  funext q
  by_cases hq : q = j
  · subst hq
    simp [updV, upd, vp_nar]
    try rfl
  · simp [updV, upd, hq]
theorem v_bast {pc k n j : Nat} {f : Nat → Int32} {i v v' : Int32} (hk : k < N) (he : h k = .inl (gA G 3, n, .inl f)) (hi : i = nI j) (hj : j < n) (hn : n < 2 ^ 31) (hv : vp_nar .byte v = v') (hd : decode cc pc = .ok (.bastore, 1))
    (kk : V G x own cc nL Q (pc + 1) lv st N (hu h k (.inl (gA G 3, n, .inl (upd f j v')))) a b) : V G x own cc nL Q pc lv (.int v :: .int i :: .ref (gZ G + k) :: st) N h a b := by
  intro C H locs ls w s l
  subst hi; subst hv
  have hin := nI_vp hj hn
  refine W.bast C.1.1 C.1.2.1 (w.at hk he) ((C.2.2.1.2 3 _ rfl).1 n (fun j => .int (f j))) (fun q => by cases q) (by show ¬ (nI j < 0 ∨ (arrV _ _ _).slots.size ≤ _); rw [arrV_size]; exact hin) rfl rfl hd fun H1 e z oq => ?_
  refine kk C H1 _ ls (w.put hk ?_ z oq) (s.put z oq (Nat.le_add_right _ _)) l
  show H1[_]? = some (vp_cell _ _)
  rw [e, vp_cell_i, vp_cell_i, arrV_store, nI_clamp (by omega)]
  congr 2
  funext q
  by_cases hq : q = j
  · subst hq
    simp [updV, upd, vp_nar]
    try rfl
  · simp [updV, upd, hq]
theorem v_last {pc k n j : Nat} {f : Nat → Int64} {i : Int32} {v : Int64} (hk : k < N) (he : h k = .inl (gA G 1, n, .inr (.inl f))) (hi : i = nI j) (hj : j < n) (hn : n < 2 ^ 31) (hd : decode cc pc = .ok (.lastore, 1))
    (kk : V G x own cc nL Q (pc + 1) lv st N (hu h k (.inl (gA G 1, n, .inr (.inl (vp_updL f j v))))) a b) : V G x own cc nL Q pc lv (.long v :: .int i :: .ref (gZ G + k) :: st) N h a b := by
  intro C H locs ls w s l
  subst hi
  have hin := nI_vp hj hn
  refine W.last C.1.1 C.1.2.1 (w.at hk he) ((C.2.2.1.2 1 _ rfl).1 n (fun j => .long (f j))) (fun q => by cases q) (by show ¬ (nI j < 0 ∨ (arrV _ _ _).slots.size ≤ _); rw [arrV_size]; exact hin) rfl rfl hd fun H1 e z oq => ?_
  refine kk C H1 _ ls (w.put hk ?_ z oq) (s.put z oq (Nat.le_add_right _ _)) l
  show H1[_]? = some (vp_cell _ _)
  rw [e, vp_cell_l, vp_cell_l, arrV_store, nI_clamp (by omega)]
  congr 2
  funext q
  by_cases hq : q = j
  · subst hq
    simp [updV, vp_updL]
  · simp [updV, vp_updL, hq]
theorem v_aast {pc k n j v : Nat} {t0 : Nat} {C E : String} {f : Nat → Option Nat} {i : Int32} (ht : (tyG G)[t0]? = some (gA G t0, .object E)) (hk : k < N) (he : h k = .inl (gA G t0, n, .inr (.inr (.inr (.inr f))))) (hi : i = nI j) (hj : j < n) (hn : n < 2 ^ 31)
    (hr : Cx G x own cc nL → ∀ (H : Heap) (locs : List Loc), WH G N h H → va_S (AG G) (xs x).heap H locs → ∃ cellV : Cell, H[v]? = some cellV ∧ cellV.vm.isStatics = false ∧ (xs x).vm.findClass C = some cellV.cls)
    (hasg : ∀ comp c0 : ClassId, NW (xs x) → (xs x).vm.findClass E = some comp → (xs x).vm.findClass C = some c0 → (xs x).vm.assignable c0 comp = true) (hd : decode cc pc = .ok (.aastore, 1))
    (kk : V G x own cc nL Q (pc + 1) lv st N (hu h k (.inl (gA G t0, n, .inr (.inr (.inr (.inr (va_up f j (some v)))))))) a b) : V G x own cc nL Q pc lv (.ref v :: .int i :: .ref (gZ G + k) :: st) N h a b := by
  intro C H locs ls w s l
  subst hi
  obtain ⟨cellV, g1, g3, g2⟩ := hr C H locs w s
  obtain ⟨kA, comp, k1, k2, k3, -⟩ := (C.2.2.1.2 t0 _ ht).2
  obtain ⟨kE, hkE, -⟩ := Vm.findClass_spec k3
  obtain ⟨kC, hkC, -⟩ := Vm.findClass_spec g2
  have h0 : ¬ nI j < 0 := nI_pos (by omega)
  refine W.aast C.1.1 C.1.2.1 (w.at hk he) (fun q h => by cases h) (fun h => by cases h) k1 k2 rfl hkE ⟨h0, by show _ < (arrV _ _ _).slots.size; rw [arrV_size, nI_clamp (by omega)]; exact hj⟩ g1 (fun q h => by rw [h] at g3; cases g3) hkC (hasg _ _ C.2.2.2.1 k3 g2) rfl rfl hd fun H1 e z oq => ?_
  refine kk C H1 _ ls (w.put hk ?_ z oq) (s.put z oq (Nat.le_add_right _ _)) l
  show H1[_]? = some (vp_cell _ _)
  rw [e, vp_cell_q, vp_cell_q, arrV_store, nI_clamp (by omega)]
  congr 2
  funext q
  by_cases hq : q = j
  · subst hq
    simp [updV, va_up, va_rf]
  · simp [updV, va_up, hq]
theorem v_aastN {pc k n j : Nat} {t0 : Nat} {E : String} {f : Nat → Option Nat} {i : Int32} (ht : (tyG G)[t0]? = some (gA G t0, .object E)) (hk : k < N) (he : h k = .inl (gA G t0, n, .inr (.inr (.inr (.inr f))))) (hi : i = nI j) (hj : j < n) (hn : n < 2 ^ 31) (hd : decode cc pc = .ok (.aastore, 1))
    (kk : V G x own cc nL Q (pc + 1) lv st N (hu h k (.inl (gA G t0, n, .inr (.inr (.inr (.inr (va_up f j none))))))) a b) : V G x own cc nL Q pc lv (.null :: .int i :: .ref (gZ G + k) :: st) N h a b := by
  intro C H locs ls w s l
  subst hi
  have hin := nI_vp hj hn
  refine va_WaastN (C := E) C.1.1 C.1.2.1 (w.at hk he) ((C.2.2.1.2 t0 _ ht).1 n (fun j => va_rf (f j))) (fun h => by cases h) (by show ¬ (nI j < 0 ∨ (arrV _ _ _).slots.size ≤ _); rw [arrV_size]; exact hin) rfl rfl hd fun H1 e z oq => ?_
  refine kk C H1 _ ls (w.put hk ?_ z oq) (s.put z oq (Nat.le_add_right _ _)) l
  show H1[_]? = some (vp_cell _ _)
  rw [e, vp_cell_q, vp_cell_q, arrV_store, nI_clamp (by omega)]
  congr 2
  funext q
  by_cases hq : q = j
  · subst hq
    simp [updV, va_up, va_rf]
  · simp [updV, va_up, hq]
theorem v_gets {pc index : Nat} {C n d ref : String} {v : Value} (hZ : Cx G x own cc nL → va_Z C n d v (AG G) (xs x) (xs x).heap) (hlink : Cond.fieldLink own index ref n d ∈ lw_all) (hs : C = ref) (hd : decode cc pc = .ok (.getstatic index, 3))
    (kk : V G x own cc nL Q (pc + 3) lv (v :: st) N h a b) : V G x own cc nL Q pc lv st N h a b := fun C H locs ls w s l =>
  va_gets C.1.1 C.1.2.1 (hZ C) s C.1.2.2.2.1 (C.1.2.2.2.2 _ hlink) (fun _ h9 => by rw [← hs]; exact h9) hd (kk C H locs ls w s l)
/-- System.arraycopy of ints, whole from 0 to 0 -/
theorem v_copyi {pc index k0 k1 n0 n1 m : Nat} {f g : Nat → Int32} {n : Int32} (hlink : Cond.methodLink own index arraycopyName ∈ lw_all) (h0 : k0 < N) (e0 : h k0 = .inl (gA G 0, n0, .inl f)) (h1 : k1 < N) (e1 : h k1 = .inl (gA G 0, n1, .inl g)) (hm : n = nI m) (hm0 : m ≤ n0) (hm1 : m ≤ n1) (hmm : m < 2 ^ 31)
    (hframes : 1 ≤ (xR x).frames) (hlocals : (st.map fun v => v.category).sum + (nativeFrameWords "java/lang/System" "arraycopy" 5 + 11) ≤ (xR x).locals) (hd : decode cc pc = .ok (.invokestatic index, 3))
    (kk : V G x own cc nL Q (pc + 3) lv st N (hu h k1 (.inl (gA G 0, n1, .inl (va_cpy f g 0 0 m)))) a b) : V G x own cc nL Q pc lv (.int n :: .int 0 :: .ref (gZ G + k1) :: .int 0 :: .ref (gZ G + k0) :: st) N h a b := by
  intro C H locs ls w s l
  subst hm
  have nn : ∀ z : Int32, ¬ z < 0 → z.toInt = (z.toNatClampNeg : Int) := by
    intro z hz
    have hz0 : (0 : Int) ≤ z.toInt := by
      have := Int32.not_lt.mp hz
      simpa using Int32.le_iff_toInt_le.mp this
    show z.toInt = ((z.toInt.toNat : Nat) : Int)
    omega
  intro T hT X
  have hc0 := w.at h0 e0
  have hc1 := w.at h1 e1
  have hz : (0 : Int32).toNatClampNeg = 0 := rfl
  have hmc : (nI m).toNatClampNeg = m := nI_clamp hmm
  obtain ⟨-, q0, hk0, cm0, hkk0⟩ := (C.2.2.1.2 0 _ rfl).1 n0 (fun j => .int (f j))
  obtain ⟨-, q1, hk1, cm1, hkk1⟩ := (C.2.2.1.2 0 _ rfl).1 n1 (fun j => .int (g j))
  obtain ⟨vm', X', step⟩ := X.arraycopy C.1.1 C.1.2.2.2.1 (C.1.2.2.2.2 _ hlink) (C.1.2.2.2.2 _ q321) (C.1.2.2.2.2 _ q320) (C.1.2.2.2.2 _ q68) (src := gZ G + k0) (dst := gZ G + k1) (cs := vp_cell (gA G 0) (n0, .inl f)) (cd := vp_cell (gA G 0) (n1, .inl g)) (srcPos := 0) (destPos := 0) (n := nI m) (by rw [hT]; exact hc0) (by rw [hT]; exact hc1)
    (fun _ h => by cases h) (fun _ h => by cases h) (fun h => by cases h) (fun h => by cases h) hk0 hk1 hkk0 hkk1 rfl (by decide) (by decide) (nI_pos hmm)
    (by rw [nn 0 (by decide), nn (nI m) (nI_pos hmm), hmc, hz]; show ¬ _ > ((arrV (gA G 0) n0 (fun j => Value.int (f j))).slots.size : Int); rw [arrV_size]; omega)
    (by rw [nn 0 (by decide), nn (nI m) (nI_pos hmm), hmc, hz]; show ¬ _ > ((arrV (gA G 0) n1 (fun j => Value.int (g j))).slots.size : Int); rw [arrV_size]; omega)
    (fun vm₁ hal i hi => by
      have e : (vp_cell (gA G 0) (n0, .inl f)).slots.getD ((0 : Int32).toNatClampNeg + i) .null = .int (f i) := by
        show (arrV (gA G 0) n0 (fun j => Value.int (f j))).slots.getD _ _ = _
        rw [hmc] at hi
        rw [hz, Nat.zero_add, Array.getD_eq_getD_getElem?, arrV_read _ _ (by omega)]
        rfl
      rw [e]
      first | exact ⟨rfl, trivial⟩ | exact rfl | simp [fits])
    (g := F0 (xm x) pc ls (.int (nI m) :: .int 0 :: .ref (gZ G + k1) :: .int 0 :: .ref (gZ G + k0) :: st)) rfl (by rw [C.1.2.2.1]; exact l.1) (rest := st) rfl (by rw [C.1.2.1]; exact hd) hframes (by show 2 * 0 + _ + _ ≤ _; omega)
  have e1' : copied (vp_cell (gA G 0) (n0, .inl f)) (vp_cell (gA G 0) (n1, .inl g)) 0 0 (nI m) = vp_cell (gA G 0) (n1, .inl (va_cpy f g 0 0 m)) := by
    rw [vp_cell_i, vp_cell_i, vp_cell_i]
    have := va_copied (sp := 0) (dp := 0) (n := m) (n0 := n0) (n1 := n1) (fun z => Value.int z) (gA G 0) (gA G 0) f g (by omega)
    rw [← this]
    unfold copied
    rw [hmc, hz]
  rw [e1'] at X' step
  have hl : gZ G + k1 < H.size := (Array.getElem?_eq_some_iff.mp hc1).1
  have hheap : ((T.setVm vm').setCell (gZ G + k1) (vp_cell (gA G 0) (n1, .inl (va_cpy f g 0 0 m)))).heap = H.setIfInBounds (gZ G + k1) (vp_cell (gA G 0) (n1, .inl (va_cpy f g 0 0 m))) := by rw [← hT]; rfl
  have oq : ∀ q : Nat, q ≠ gZ G + k1 → (H.setIfInBounds (gZ G + k1) (vp_cell (gA G 0) (n1, .inl (va_cpy f g 0 0 m))))[q]? = H[q]? := fun q hq => by simp [Array.getElem?_setIfInBounds, Ne.symm hq]
  obtain ⟨t, a1, b1⟩ := kk C _ _ ls (w.put h1 (show (H.setIfInBounds (gZ G + k1) _)[gZ G + k1]? = some _ by simp [Array.getElem?_setIfInBounds, hl]) (by simp) oq) ⟨by simp; exact s.1, fun q g1 g2 => by
      rw [oq q (fun e => g2 (by rw [e]; exact Nat.le_add_right _ _))]
      exact s.2.1 q g1 g2, fun q hq => by
      rcases List.mem_append.mp hq with h | h
      · exact s.2.2 q h
      · obtain ⟨z, -, hz⟩ := List.mem_map.mp h
        rw [← hz]
        exact Nat.le_add_right _ _⟩ l _ hheap X'
  exact ⟨t, step t a1, b1⟩
end VH
