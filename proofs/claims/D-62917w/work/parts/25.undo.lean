/-! ===== what a step keeps, and that its note takes it back ===== -/
/-- what a note tells of the cells -/
def NIx (s s' t : SS) (c : Nat) : Prop := (∃ q, q < 32 ∧ 0 < c ∧ t.c 0 = nI (100 + q) ∧ t.s 0 = s.c q ∧ ∀ j, j ≠ q → s'.c j = s.c j) ∨ ((c = 0 ∨ t.c 0 < 100) ∧ s'.c = s.c)
/-- the note t takes s' back to s -/
def Und (s s' t : SS) : Prop := ∃ c, c ≤ 2 ∧ t.n = nI c ∧ undoOk t c ∧ undoS s' t c = s ∧ NIx s s' t c
theorem upd_back {f : TF} {k : Nat} {v w : Int32} (h : v = f k) : upd (upd f k w) k v = f := by
  funext j
  by_cases hj : j = k
  · subst hj; rw [pk_us, h]
  · rw [pk_un hj, pk_un hj]
theorem undo_fin {s s' t : SS} {c : Nat} (e0 : t.2.2.2.2.1 = s.h) (e1 : t.1 = s.p) (e2 : t.2.1 = s.f) (e3 : t.2.2.1 = s.x) (e4 : t.2.2.2.1 = s.k) (et : (undoN t c s').t = s.t + 1) (ec : (undoN t c s').c = s.c) (es : (undoN t c s').s = s.s) : undoS s' t c = s := by
  unfold undoS
  rw [e0, e1, e2, e3, e4, et, ec, es, add1sub1]
theorem undo1_k {s t : SS} {k q : Nat} {v : Int32} (hq : q < 24) (h1 : t.c k = nI q) (h2 : t.s k = v) : undo1 s t k = qs s (upd s.s q v) := by
  unfold undo1
  rw [h1, h2, if_pos (show nI q < 100 from nI_lt (b := 100) (by omega) (by decide))]
  show qs s (upd s.s (nI q).toNatClampNeg v) = _
  rw [nI_clamp (by omega)]
theorem undo1_c {s t : SS} {k q : Nat} {v : Int32} (hq : q < 32) (h1 : t.c k = nI (100 + q)) (h2 : t.s k = v) : undo1 s t k = qc s (upd s.c q v) := by
  unfold undo1
  rw [h1, h2, if_neg (show ¬ nI (100 + q) < 100 from nI_nlt (b := 100) (by omega) (by omega))]
  show qc s (upd s.c (nI (100 + q) - nI 100).toNatClampNeg v) = _
  rw [pk_sub (by omega), Nat.add_sub_cancel_left, nI_clamp (by omega)]
theorem fin0 {s s' T : SS} (et : s'.t = s.t + 1) (ec : s'.c = s.c) (es : s'.s = s.s) : Und s s' (begT s T) :=
  ⟨0, by omega, rfl, fun k hk => absurd hk (Nat.not_lt_zero k), undo_fin rfl rfl rfl rfl rfl et ec es, Or.inr ⟨Or.inl rfl, ec⟩⟩
theorem add_c {t : SS} {p v : Int32} {k : Nat} (h : t.n = nI k) (hk : k < 4) : (addT t p v).c k = p := by
  show upd t.c t.n.toNatClampNeg p k = p
  rw [h, nI_clamp (by omega), pk_us]
theorem add_s {t : SS} {p v : Int32} {k : Nat} (h : t.n = nI k) (hk : k < 4) : (addT t p v).s k = v := by
  show upd t.s t.n.toNatClampNeg v k = v
  rw [h, nI_clamp (by omega), pk_us]
theorem add_c' {t : SS} {p v : Int32} {k j : Nat} (h : t.n = nI k) (hk : k < 4) (hj : j ≠ k) : (addT t p v).c j = t.c j := by
  show upd t.c t.n.toNatClampNeg p j = _
  rw [h, nI_clamp (by omega), pk_un hj]
theorem add_s' {t : SS} {p v : Int32} {k j : Nat} (h : t.n = nI k) (hk : k < 4) (hj : j ≠ k) : (addT t p v).s j = t.s j := by
  show upd t.s t.n.toNatClampNeg v j = _
  rw [h, nI_clamp (by omega), pk_un hj]
theorem add_n {t : SS} {p v : Int32} {k : Nat} (h : t.n = nI k) : (addT t p v).n = nI (k + 1) := by
  show t.n + 1 = _
  rw [h, nI_1]
theorem ok_k {t : SS} {k q : Nat} (hq : q < 24) (h : t.c k = nI q) : (t.c k < 100 → vp_in (t.c k) 24) ∧ (¬ t.c k < 100 → vp_in (t.c k - 100) 32) := by
  rw [h]
  exact ⟨fun _ => vp_in_nI hq (by decide), fun g => absurd (nI_lt (b := 100) (by omega) (by decide)) g⟩
theorem ok_c {t : SS} {k q : Nat} (hq : q < 32) (h : t.c k = nI (100 + q)) : (t.c k < 100 → vp_in (t.c k) 24) ∧ (¬ t.c k < 100 → vp_in (t.c k - 100) 32) := by
  rw [h]
  refine ⟨fun g => absurd g (nI_nlt (b := 100) (by omega) (by omega)), fun _ => ?_⟩
  show vp_in (nI (100 + q) - nI 100) 32
  rw [pk_sub (by omega), Nat.add_sub_cancel_left]
  exact vp_in_nI hq (by decide)
theorem fin1 {s s' T : SS} {q : Nat} {p v w : Int32} (hq : q < 24) (hp : p = nI q) (hv : v = s.s q) (et : s'.t = s.t + 1) (ec : s'.c = s.c) (es : s'.s = upd s.s q w) : Und s s' (addT (begT s T) p v) := by
  have n0 : (begT s T).n = nI 0 := rfl
  have c0 : (addT (begT s T) p v).c 0 = nI q := by rw [add_c n0 (by omega), hp]
  have e : undoN (addT (begT s T) p v) 1 s' = qs s' (upd s'.s q v) := undo1_k hq c0 (add_s n0 (by decide))
  refine ⟨1, by omega, add_n n0, fun k hk => ?_, undo_fin rfl rfl rfl rfl rfl (by rw [e]; exact et) (by rw [e]; exact ec) (by rw [e]; show upd s'.s q v = _; rw [es, upd_back hv]), Or.inr ⟨Or.inr (by rw [c0]; exact nI_lt (b := 100) (by omega) (by decide)), ec⟩⟩
  obtain rfl : k = 0 := by omega
  exact ok_k hq c0
theorem fin1c {s s' T : SS} {q : Nat} {p v w : Int32} (hq : q < 32) (hp : p = nI (100 + q)) (hv : v = s.c q) (et : s'.t = s.t + 1) (ec : s'.c = upd s.c q w) (es : s'.s = s.s) : Und s s' (addT (begT s T) p v) := by
  have n0 : (begT s T).n = nI 0 := rfl
  have c0 : (addT (begT s T) p v).c 0 = nI (100 + q) := by rw [add_c n0 (by omega), hp]
  have e : undoN (addT (begT s T) p v) 1 s' = qc s' (upd s'.c q v) := undo1_c hq c0 (add_s n0 (by decide))
  refine ⟨1, by omega, add_n n0, fun k hk => ?_, undo_fin rfl rfl rfl rfl rfl (by rw [e]; exact et) (by rw [e]; show upd s'.c q v = _; rw [ec, upd_back hv]) (by rw [e]; exact es), Or.inl ⟨q, hq, by omega, c0, by rw [add_s n0 (by omega), hv], fun j hj => by rw [ec, pk_un hj]⟩⟩
  obtain rfl : k = 0 := by omega
  exact ok_c hq c0
theorem fin2 {s s' T : SS} {q r : Nat} {p v w p2 v2 w2 : Int32} (hq : q < 24) (hr : r < 24) (hp : p = nI q) (hv : v = s.s q) (hp2 : p2 = nI r) (hv2 : v2 = upd s.s q w r) (et : s'.t = s.t + 1) (ec : s'.c = s.c) (es : s'.s = upd (upd s.s q w) r w2) : Und s s' (addT (addT (begT s T) p v) p2 v2) := by
  have n0 : (begT s T).n = nI 0 := rfl
  have n1 : (addT (begT s T) p v).n = nI 1 := add_n n0
  have c1 : (addT (addT (begT s T) p v) p2 v2).c 1 = nI r := by rw [add_c n1 (by omega), hp2]
  have c0 : (addT (addT (begT s T) p v) p2 v2).c 0 = nI q := by rw [add_c' n1 (by omega) (by omega), add_c n0 (by omega), hp]
  have s0 : (addT (addT (begT s T) p v) p2 v2).s 0 = v := by rw [add_s' n1 (by omega) (by omega), add_s n0 (by omega)]
  have e : undoN (addT (addT (begT s T) p v) p2 v2) 2 s' = qs s' (upd (upd s'.s r v2) q v) := by
    show undo1 (undo1 s' _ 1) _ 0 = _
    rw [undo1_k hr c1 (add_s n1 (by omega)), undo1_k hq c0 s0]
    rfl
  refine ⟨2, by omega, add_n n1, fun k hk => ?_, undo_fin rfl rfl rfl rfl rfl (by rw [e]; exact et) (by rw [e]; exact ec) (by rw [e]; show upd (upd s'.s r v2) q v = _; rw [es, upd_back hv2, upd_back hv]), Or.inr ⟨Or.inr (by rw [c0]; exact nI_lt (b := 100) (by omega) (by decide)), ec⟩⟩
  rcases (by omega : k = 0 ∨ k = 1) with rfl | rfl
  · exact ok_k hq c0
  · exact ok_k hr c1
theorem op_cases {op : Nat} (h : op < 21) (h0 : ¬ op = 0) : op = 1 ∨ op = 2 ∨ op = 3 ∨ op = 4 ∨ op = 5 ∨ op = 6 ∨ op = 7 ∨ op = 8 ∨ op = 9 ∨ op = 10 ∨ op = 11 ∨ op = 12 ∨ op = 13 ∨ op = 14 ∨ op = 15 ∨ op = 16 ∨ op = 17 ∨ op = 18 ∨ op = 19 ∨ op = 20 := by omega
