/-! ===== moving: the plain laws ===== -/
theorem down_loop (P : Nat → Prop) (step : ∀ k, (∀ j, k = j + 1 → P j) → P k) : ∀ k, P k := by
  intro k
  induction k with
  | zero => exact step 0 (fun j h => by omega)
  | succ k ih => exact step (k + 1) (fun j h => by rw [show j = k by omega]; exact ih)
theorem ex_pred {k : Nat} (h : ¬ k = 0) : ∃ j, k = j + 1 := ⟨k - 1, by omega⟩
def mvU (t u e v : Nat) : Nat := if v < t ∧ t - v ≤ u then u - (t - v) else if v < t ∨ t < v / ev e * ev e then min 32 (v - v / ev e * ev e) else min 32 (u + (v - t))
def mvC (t u c e v : Nat) : Nat := if v < t ∧ t - v ≤ u then c else if v < t ∨ t < v / ev e * ev e then c + (v - v / ev e * ev e) else c + (v - t)
theorem watB_comm {w a b : TF} : watB w a b = watB w b a := by
  unfold watB
  congr 1
  funext c
  rw [show (a c == b c) = (b c == a c) from Bool.beq_comm]
section MV
variable {cd ip : TF} {x0 : Int32} {g t r u c e q : Nat} {σ v : SGG}
theorem rc_kt (h : RC cd ip x0 g t r u c e σ) {k : Nat} (hk : k ≤ r / ev e) : k < 8 ∧ k * ev e ≤ r ∧ (tr cd ip x0 (k * ev e)).t = nI (k * ev e) := by
  have q1 : k * ev e ≤ r := Nat.le_trans (Nat.mul_le_mul_right _ hk) (Nat.div_mul_le_self r (ev e))
  have z : r / ev e < 8 := Nat.div_lt_of_lt_mul (Nat.mul_comm 8 _ ▸ h.2.1.2.2.1)
  exact ⟨by omega, q1, (tr_wf h.2.2.1 h.2.2.2.2.2.1 _ q1).2.2⟩
theorem up32_min {u : Nat} (h : u ≤ 32) : up32 u = min 32 (u + 1) := by unfold up32; split <;> omega
/-- a step of the earlier state -/
theorem rc_replay (h : RC cd ip x0 g t r 0 c e σ) {nw : Nat} {a b : Int32} {s T : SS} (hnw : nw < 32) : RC cd ip x0 g t r 0 c e (sJ (P2 (sJ (sJ σ 0 (nI nw)) 1 a) 1 b.toNatClampNeg s T) 1 0) := by
  obtain ⟨⟨n1, n2, n3, n4, n5, n6, n7, -⟩, ⟨k1, k2, k3, k4, k5, k6, k7⟩, h3, h4, h5, h6, h7⟩ := h
  refine ⟨⟨n1, n2, n3, ?_, n5, n6, ?_, nw, hnw, ?_, fun j hj => absurd hj (Nat.not_lt_zero j)⟩, ⟨k1, k2, k3, k4, k5, k6, fun k hk => ?_⟩, h3, h4, h5, h6, h7⟩
  · exact (sS_Sn (by decide)).trans n4
  · exact sJ_Js
  · rw [sJ_Jn (by decide), P2_J, sJJ0]
  · have z : r / ev e < 8 := Nat.div_lt_of_lt_mul (Nat.mul_comm 8 _ ▸ k3)
    have := k1.1 k (by omega)
    exact (sS_Sn (show σ.κ k ≠ 1 by omega)).trans (k7 k hk)
theorem rc_undo (h : RC cd ip x0 g (t + 1) r (u + 1) c e σ) (hN : Now cd ip x0 g t u v) (hF : Fx σ v) : RC cd ip x0 g t r u c e v := by
  obtain ⟨h1, h2, h3, h4, h5, h6, h7⟩ := h
  exact ⟨hN, h2.fx hF, h3, by omega, h5, h6, by rw [hF.2.1]; exact h7⟩
/-- a checkpoint is taken for the now -/
theorem rc_restore (h : RC cd ip x0 g t r u c e σ) (hq : q ≤ r) : RC cd ip x0 g q r 0 c e (sJ (sS σ 0 (tr cd ip x0 q)) 1 0) := by
  obtain ⟨⟨n1, n2, n3, n4, n5, n6, n7, nw, n8, n9, n10⟩, ⟨k1, k2, k3, k4, k5, k6, k7⟩, h3, h4, h5, h6, h7⟩ := h
  refine ⟨⟨n1, n2, n3, sS_S, by omega, by omega, sJ_Js, nw, n8, ?_, fun j hj => absurd hj (Nat.not_lt_zero j)⟩, ⟨k1, k2, k3, k4, k5, k6, fun k hk => ?_⟩, h3, hq, h5, h6, h7⟩
  · rw [sJ_Jn (by decide)]; exact n9
  · have z : r / ev e < 8 := Nat.div_lt_of_lt_mul (Nat.mul_comm 8 _ ▸ k3)
    have := k1.1 k (by omega)
    exact (sS_Sn (show σ.κ k ≠ 0 by omega)).trans (k7 k hk)
theorem eN_le (h : t + 1 ≤ r) : eN t r e = e := if_neg (by omega)
/-- what the newest note tells -/
theorem wat_note {s s' T : SS} {w : TF} {n : Nat} (h : NIx s s' T n) : (∃ q, q < 32 ∧ 0 < n ∧ T.c 0 = nI (100 + q) ∧ T.s 0 = s.c q ∧ (¬ (¬ w q = 0 ∧ ¬ s'.c q = s.c q) → watB w s'.c s.c = false)) ∨ ((n = 0 ∨ T.c 0 < 100) ∧ watB w s'.c s.c = false) := by
  rcases h with ⟨q, h1, h2, h3, h4, h5⟩ | ⟨h1, h2⟩
  · refine Or.inl ⟨q, h1, h2, h3, h4, fun z => watB_f (fun c hc y => ?_)⟩
    by_cases e : c = q
    · subst e; exact z y
    · exact y.2 (h5 c e)
  · exact Or.inr ⟨h1, watB_f (fun c hc y => y.2 (by rw [h2]))⟩
end MV
