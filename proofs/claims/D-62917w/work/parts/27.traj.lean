/-! ===== the trajectory, and what the component keeps of it ===== -/
def tr (cd ip : TF) (x0 : Int32) : Nat → SS
  | 0 => (0, 0, 0, x0, 0, 0, fun _ => 0, fun _ => 0)
  | t + 1 => stp cd ip (tr cd ip x0 t)
def RunOk (cd ip : TF) (x0 : Int32) (g r : Nat) : Prop := ∀ t, t < r → chk cd (nI g) (tr cd ip x0 t) = 0
def WfS (g t : Nat) (s : SS) : Prop := (∃ h, h ≤ 24 ∧ s.h = nI h) ∧ (∃ k, k ≤ g ∧ s.k = nI k) ∧ s.t = nI t
section TR
variable {cd ip ip2 : TF} {x0 : Int32} {g g2 t r : Nat}
theorem tr_wf (hg : g ≤ 40) (h : RunOk cd ip x0 g r) : ∀ t, t ≤ r → WfS g t (tr cd ip x0 t) := by
  intro t
  induction t with
  | zero => intro _; exact ⟨⟨0, by omega, rfl⟩, ⟨0, by omega, rfl⟩, rfl⟩
  | succ t ih =>
    intro ht
    obtain ⟨⟨a, a1, a2⟩, ⟨b, b1, b2⟩, e⟩ := ih (by omega)
    obtain ⟨c1, c2, c3, -⟩ := stp_all (ip := ip) a2 a1 b2 b1 hg (h t (by omega)) (tr cd ip x0 0)
    exact ⟨c1, c2, by show (stp cd ip (tr cd ip x0 t)).t = _; rw [c3, e, nI_1]⟩
theorem tr_und (hg : g ≤ 40) (h : RunOk cd ip x0 g r) (ht : t < r) (T : SS) : Und (tr cd ip x0 t) (tr cd ip x0 (t + 1)) (stpT cd (tr cd ip x0 t) T) := by
  obtain ⟨⟨a, a1, a2⟩, ⟨b, b1, b2⟩, e⟩ := tr_wf hg h t (by omega)
  exact (stp_all (ip := ip) a2 a1 b2 b1 hg (h t ht) T).2.2.2
theorem tr_more (hg : g ≤ g2) (hg2 : g2 ≤ 40) (hi : ∀ j, j < g → ip2 j = ip j) (h : RunOk cd ip x0 g r) : (∀ t, t ≤ r → tr cd ip2 x0 t = tr cd ip x0 t) ∧ RunOk cd ip2 x0 g2 r := by
  have k1 : ∀ t, t ≤ r → tr cd ip2 x0 t = tr cd ip x0 t := by
    intro t
    induction t with
    | zero => intro _; rfl
    | succ t ih =>
      intro ht
      obtain ⟨-, ⟨b, b1, b2⟩, -⟩ := tr_wf (by omega : g ≤ 40) h t (by omega)
      show stp cd ip2 (tr cd ip2 x0 t) = stp cd ip (tr cd ip x0 t)
      rw [ih (by omega)]
      exact (stp_more b2 b1 hg hg2 hi (h t (by omega))).2
  refine ⟨k1, fun t ht => ?_⟩
  obtain ⟨-, ⟨b, b1, b2⟩, -⟩ := tr_wf (by omega : g ≤ 40) h t (by omega)
  rw [k1 t (by omega)]
  exact (stp_more b2 b1 hg hg2 hi (h t ht)).1
theorem RunOk.le (h : RunOk cd ip x0 g r) {q : Nat} (hq : q ≤ r) : RunOk cd ip x0 g q := fun t ht => h t (by omega)
theorem RunOk.snoc (h : RunOk cd ip x0 g r) (hc : chk cd (nI g) (tr cd ip x0 r) = 0) : RunOk cd ip x0 g (r + 1) := fun t ht => by
  rcases Nat.lt_or_ge t r with q | q
  · exact h t q
  · rw [show t = r by omega]; exact hc
end TR
def ev (e : Nat) : Nat := 16 * 2 ^ e
theorem ev_pos (e : Nat) : 0 < ev e := Nat.mul_pos (by decide) (Nat.pow_pos (by decide))
theorem ev_16 (e : Nat) : 16 ≤ ev e := Nat.le_mul_of_pos_right 16 (Nat.pow_pos (by decide))
theorem ev_succ (e : Nat) : ev (e + 1) = 2 * ev e := by unfold ev; rw [Nat.pow_succ]; omega
theorem ev_le {e : Nat} (h : e ≤ 5) : ev e ≤ 512 := by
  unfold ev
  have : 2 ^ e ≤ 2 ^ 5 := Nat.pow_le_pow_right (by decide) h
  omega
theorem ev_e {e : Nat} (h : 8 * ev e ≤ 3000) : e ≤ 4 := by
  rcases Nat.lt_or_ge 4 e with q | q
  · have : 2 ^ 5 ≤ 2 ^ e := Nat.pow_le_pow_right (by decide) q
    unfold ev at h
    omega
  · exact q
/-- the ring's note of j steps ago -/
def bk (nw j : Nat) : Nat := (nw + 32 - j) % 32
theorem bk_lt (nw j : Nat) : bk nw j < 32 := Nat.mod_lt _ (by decide)
def Perm (κ : Nat → Nat) : Prop := (∀ k, k < 8 → 2 ≤ κ k ∧ κ k < 10) ∧ ∀ i j, i < 8 → j < 8 → κ i = κ j → i = j
theorem Perm.swap {κ : Nat → Nat} (h : Perm κ) {a b : Nat} (ha : a < 8) (hb : b < 8) : Perm (va_up (va_up κ a (κ b)) b (κ a)) := by
  have e : ∀ k, va_up (va_up κ a (κ b)) b (κ a) k = if k = b then κ a else if k = a then κ b else κ k := fun k => rfl
  refine ⟨fun k hk => ?_, fun i j hi hj hij => ?_⟩
  · rw [e]
    split
    · exact h.1 a ha
    · split
      · exact h.1 b hb
      · exact h.1 k hk
  · rw [e, e] at hij
    have q := h.2
    by_cases h1 : i = b
    · by_cases h2 : j = b
      · omega
      · rw [if_pos h1, if_neg h2] at hij
        by_cases h3 : j = a
        · rw [if_pos h3] at hij
          have := q a b ha hb hij
          omega
        · rw [if_neg h3] at hij
          have := q a j ha hj hij
          omega
    · rw [if_neg h1] at hij
      by_cases h2 : j = b
      · rw [if_pos h2] at hij
        by_cases h3 : i = a
        · rw [if_pos h3] at hij
          have := q b a hb ha hij
          omega
        · rw [if_neg h3] at hij
          have := q i a hi ha hij
          omega
      · rw [if_neg h2] at hij
        by_cases h3 : i = a
        · rw [if_pos h3] at hij
          by_cases h4 : j = a
          · omega
          · rw [if_neg h4] at hij
            have := q b j hb hj hij
            omega
        · rw [if_neg h3] at hij
          by_cases h4 : j = a
          · rw [if_pos h4] at hij
            have := q i b hi hb hij
            omega
          · rw [if_neg h4] at hij
            exact q i j hi hj hij
/-- now, and the notes of the last u steps to it -/
def Now (cd ip : TF) (x0 : Int32) (g t u : Nat) (σ : SGG) : Prop :=
  σ.F 0 = cd ∧ σ.F 1 = ip ∧ σ.I 0 = nI g ∧ σ.S 0 = tr cd ip x0 t ∧ u ≤ 32 ∧ u ≤ t ∧ σ.J 1 = nI u ∧ ∃ nw, nw < 32 ∧ σ.J 0 = nI nw ∧ ∀ j, j < u → ∃ T, σ.T (bk nw j) = stpT cd (tr cd ip x0 (t - 1 - j)) T
/-- the checkpoints -/
def Kp (cd ip : TF) (x0 : Int32) (r e : Nat) (σ : SGG) : Prop :=
  Perm σ.κ ∧ e ≤ 5 ∧ r < 8 * ev e ∧ σ.I 1 = nI (r / ev e + 1) ∧ σ.I 2 = nI (ev e) ∧ σ.I 3 = nI r ∧ ∀ k, k ≤ r / ev e → σ.S (σ.κ k) = tr cd ip x0 (k * ev e)
def RC (cd ip : TF) (x0 : Int32) (g t r u c e : Nat) (σ : SGG) : Prop :=
  Now cd ip x0 g t u σ ∧ Kp cd ip x0 r e σ ∧ g ≤ 40 ∧ t ≤ r ∧ r ≤ 3000 ∧ RunOk cd ip x0 g r ∧ σ.I 4 = nI c
/-- what the debugger's moves leave alone -/
def fr (σ v : SGG) : Prop := v.F = σ.F ∧ v.2 = σ.2
theorem fr.refl (σ : SGG) : fr σ σ := ⟨rfl, rfl⟩
theorem fr.trans {a b c : SGG} (h : fr a b) (k : fr b c) : fr a c := ⟨k.1.trans h.1, k.2.trans h.2⟩
/-- .. and what the steps of the now leave alone -/
def Fx (σ v : SGG) : Prop := fr σ v ∧ v.I = σ.I ∧ v.κ = σ.κ ∧ ∀ i, i ≠ 0 → v.S i = σ.S i
theorem Fx.refl (σ : SGG) : Fx σ σ := ⟨fr.refl σ, rfl, rfl, fun _ _ => rfl⟩
theorem Fx.trans {a b c : SGG} (h : Fx a b) (k : Fx b c) : Fx a c := ⟨h.1.trans k.1, k.2.1.trans h.2.1, k.2.2.1.trans h.2.2.1, fun i hi => (k.2.2.2 i hi).trans (h.2.2.2 i hi)⟩
section NW
variable {cd ip : TF} {x0 : Int32} {g t r u c e : Nat} {σ v : SGG}
theorem Kp.fx (h : Kp cd ip x0 r e σ) (f : Fx σ v) : Kp cd ip x0 r e v := by
  obtain ⟨h1, h2, h3, h4, h5, h6, h7⟩ := h
  obtain ⟨-, f1, f2, f3⟩ := f
  refine ⟨by rw [f2]; exact h1, h2, h3, by rw [f1]; exact h4, by rw [f1]; exact h5, by rw [f1]; exact h6, fun k hk => ?_⟩
  have : k < 8 := by
    have := Nat.div_lt_of_lt_mul (Nat.mul_comm 8 _ ▸ h3)
    omega
  rw [f2, f3 _ (by have := h1.1 k this; omega)]
  exact h7 k hk
theorem sJJ1 {a b : Int32} : (sJ (sJ σ 0 a) 1 b).J 1 = b := va_up_self (va_up σ.J 0 a) 1 b
theorem sJJ0 {a b : Int32} : (sJ (sJ σ 0 a) 1 b).J 0 = a := by
  show va_up (va_up σ.J 0 a) 1 b 0 = a
  rw [va_up_ne _ _ (by decide), va_up_self]
theorem P2_J {i j : Nat} {s T : SS} : (P2 σ i j s T).J = σ.J := rfl
theorem sS_J {i : Nat} {s : SS} : (sS σ i s).J = σ.J := rfl
theorem P2_F {a b : Int32} {i j : Nat} {s T : SS} : (P2 (sJ (sJ σ 0 a) 1 b) i j s T).F = σ.F := rfl
theorem now_perf (h : Now cd ip x0 g t u σ) {nw : Nat} (hnw : nw < 32) (hJ : σ.J 0 = nI nw) (hv : v = P2 (sJ (sJ σ 0 (nI (nx32 nw))) 1 (nI (up32 u))) 0 (nx32 nw) (stp (σ.F 0) (σ.F 1) (tr cd ip x0 t)) (stpT (σ.F 0) (tr cd ip x0 t) (σ.T (nx32 nw)))) : Now cd ip x0 g (t + 1) (up32 u) v ∧ Fx σ v := by
  obtain ⟨h1, h2, h3, h4, h5, h6, h7, nw', g1, g2, g3⟩ := h
  have : nw' = nw := (nI_eq (by omega) (by omega)).mp (g2.symm.trans hJ)
  subst this
  subst hv
  have eT : ∀ j, (P2 (sJ (sJ σ 0 (nI (nx32 nw'))) 1 (nI (up32 u))) 0 (nx32 nw') (stp (σ.F 0) (σ.F 1) (tr cd ip x0 t)) (stpT (σ.F 0) (tr cd ip x0 t) (σ.T (nx32 nw')))).T j = if j = nx32 nw' then stpT (σ.F 0) (tr cd ip x0 t) (σ.T (nx32 nw')) else σ.T j := fun _ => rfl
  refine ⟨⟨h1, h2, h3, ?_, ?_, ?_, ?_, nx32 nw', Nat.mod_lt _ (by decide), ?_, fun j hj => ?_⟩, ⟨rfl, rfl⟩, rfl, rfl, fun i hi => ?_⟩
  · rw [P2_S, h1, h2]; rfl
  · unfold up32; split <;> omega
  · unfold up32; split <;> omega
  · rw [P2_J, sJJ1]
  · rw [P2_J, sJJ0]
  · rw [eT]
    have hj32 : j < 32 := by unfold up32 at hj; split at hj <;> omega
    rcases Nat.eq_zero_or_pos j with q | q
    · subst q
      rw [if_pos (by unfold bk nx32; omega), h1]
      exact ⟨_, by rw [show t + 1 - 1 - 0 = t by omega]⟩
    · rw [if_neg (by unfold bk nx32; omega)]
      obtain ⟨T, hT⟩ := g3 (j - 1) (by unfold up32 at hj; split at hj <;> omega)
      refine ⟨T, ?_⟩
      rw [show bk (nx32 nw') j = bk nw' (j - 1) by unfold bk nx32; omega, hT, show t + 1 - 1 - j = t - 1 - (j - 1) by omega]
  · exact va_up_ne _ _ hi
theorem now_undo (h : Now cd ip x0 g (t + 1) (u + 1) σ) {nw k : Nat} (hnw : nw < 32) (hJ : σ.J 0 = nI nw) (hu : undoS (tr cd ip x0 (t + 1)) (σ.T nw) k = tr cd ip x0 t) (hv : v = sS (sJ (sJ σ 0 (nI (pv32 nw))) 1 (σ.J 1 - 1)) 0 (undoS (tr cd ip x0 (t + 1)) (σ.T nw) k)) : Now cd ip x0 g t u v ∧ Fx σ v := by
  obtain ⟨h1, h2, h3, h4, h5, h6, h7, nw', g1, g2, g3⟩ := h
  have : nw' = nw := (nI_eq (by omega) (by omega)).mp (g2.symm.trans hJ)
  subst this
  subst hv
  refine ⟨⟨h1, h2, h3, by rw [sS_S]; exact hu, by omega, by omega, ?_, pv32 nw', Nat.mod_lt _ (by decide), ?_, fun j hj => ?_⟩, ⟨rfl, rfl⟩, rfl, rfl, fun i hi => ?_⟩
  · show (sJ (sJ σ 0 (nI (pv32 nw'))) 1 (σ.J 1 - 1)).J 1 = _
    rw [sJJ1, h7, nI_pred]
  · rw [sS_J, sJJ0]
  · obtain ⟨T, hT⟩ := g3 (j + 1) (by omega)
    refine ⟨T, ?_⟩
    show σ.T (bk (pv32 nw') j) = _
    rw [show bk (pv32 nw') j = bk nw' (j + 1) by unfold bk pv32; omega, hT, show t + 1 - 1 - (j + 1) = t - 1 - j by omega]
  · exact va_up_ne _ _ hi
end NW
