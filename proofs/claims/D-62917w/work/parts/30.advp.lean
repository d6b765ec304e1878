/-! ===== advance: the plain laws ===== -/
def eN (t r e : Nat) : Nat := if r < t + 1 ∧ t + 1 = 8 * ev e then e + 1 else e
section AD
variable {cd ip : TF} {x0 : Int32} {g t r u c e : Nat} {σ v : SGG}
theorem Now.of (h : Now cd ip x0 g t u σ) (e1 : v.F = σ.F) (e2 : v.I 0 = σ.I 0) (e3 : v.S 0 = σ.S 0) (e4 : v.J = σ.J) (e5 : v.T = σ.T) : Now cd ip x0 g t u v := by
  unfold Now
  rw [e1, e2, e3, e4, e5]
  exact h
theorem div8 {r E m : Nat} (h : r = m * E) (hE : 0 < E) : r / E = m := by rw [h]; exact Nat.mul_div_cancel m hE
theorem div_succ_ne {t E : Nat} (hE : 0 < E) (h : ¬ (t + 1) % E = 0) : (t + 1) / E = t / E := by
  rw [Nat.succ_div, if_neg (fun q => h (Nat.mod_eq_zero_of_dvd q)), Nat.add_zero]
theorem div_succ_eq {t E : Nat} (hE : 0 < E) (h : (t + 1) % E = 0) : (t + 1) / E = t / E + 1 := by
  rw [Nat.succ_div, if_pos (Nat.dvd_of_mod_eq_zero h)]
theorem mul_of_mod {t E : Nat} (h : t % E = 0) : t = t / E * E := (Nat.div_mul_cancel (Nat.dvd_of_mod_eq_zero h)).symm
/-- a step to a time that there was -/
theorem adv_a (h : RC cd ip x0 g t r u c e σ) (ht : t + 1 ≤ r) (hN : Now cd ip x0 g (t + 1) (up32 u) v) (hF : Fx σ v) : RC cd ip x0 g (t + 1) (max r (t + 1)) (up32 u) c (eN t r e) v ∧ fr σ v := by
  obtain ⟨h1, h2, h3, h4, h5, h6, h7⟩ := h
  rw [Nat.max_eq_left ht, show eN t r e = e from if_neg (by omega)]
  exact ⟨⟨hN, h2.fx hF, h3, ht, h5, h6, by rw [hF.2.1]; exact h7⟩, hF.1⟩
/-- a step to a new time that is not kept -/
theorem adv_b (h : RC cd ip x0 g t r u c e σ) (ht : r < t + 1) (hm : ¬ (t + 1) % ev e = 0) (h3k : t < 3000) (hc : chk cd (nI g) (tr cd ip x0 t) = 0) (hN : Now cd ip x0 g (t + 1) (up32 u) v) (hF : Fx σ v) : RC cd ip x0 g (t + 1) (max r (t + 1)) (up32 u) c (eN t r e) (sI v 3 (nI (t + 1))) ∧ fr σ (sI v 3 (nI (t + 1))) := by
  obtain ⟨h1, h2, h3, h4, h5, h6, h7⟩ := h
  obtain rfl : t = r := by omega
  have hE : ¬ (t < t + 1 ∧ t + 1 = 8 * ev e) := fun q => hm (by rw [q.2]; exact Nat.mul_mod_left 8 (ev e))
  rw [Nat.max_eq_right (by omega), show eN t t e = e from if_neg hE]
  obtain ⟨k1, k2, k3, k4, k5, k6, k7⟩ := h2.fx hF
  refine ⟨⟨hN.of rfl (sI_In (by decide)) rfl rfl rfl, ⟨k1, k2, ?_, ?_, ?_, sI_I, ?_⟩, h3, Nat.le_refl _, by omega, h6.snoc hc, ?_⟩, hF.1⟩
  · rcases Nat.lt_or_ge (t + 1) (8 * ev e) with q | q
    · exact q
    · exact absurd ⟨by omega, by omega⟩ hE
  · rw [sI_In (by decide), div_succ_ne (ev_pos e) hm]; exact k4
  · rw [sI_In (by decide)]; exact k5
  · rw [div_succ_ne (ev_pos e) hm]; exact k7
  · rw [sI_In (by decide), hF.2.1]; exact h7
/-- what stands when the new time is to be kept -/
def AdvJ (cd ip : TF) (x0 : Int32) (g t r u c e m : Nat) (σ v : SGG) : Prop :=
  Now cd ip x0 g (t + 1) (up32 u) v ∧ fr σ v ∧ Perm v.κ ∧ eN t r e ≤ 5 ∧ t + 1 = m * ev (eN t r e) ∧ m < 8 ∧ v.I 1 = nI m ∧ v.I 2 = nI (ev (eN t r e)) ∧ v.I 3 = nI (t + 1) ∧ v.I 4 = nI c ∧ ∀ k, k < m → v.S (v.κ k) = tr cd ip x0 (k * ev (eN t r e))
theorem adv_j1 (h : RC cd ip x0 g t r u c e σ) (ht : r < t + 1) (hm : (t + 1) % ev e = 0) (h8 : ¬ r / ev e + 1 = 8) (hN : Now cd ip x0 g (t + 1) (up32 u) v) (hF : Fx σ v) : AdvJ cd ip x0 g t r u c e (r / ev e + 1) σ (sI v 3 (nI (t + 1))) := by
  obtain ⟨h1, h2, h3, h4, h5, h6, h7⟩ := h
  obtain rfl : t = r := by omega
  have e1 : (t + 1) / ev e = t / ev e + 1 := div_succ_eq (ev_pos e) hm
  have e2 := mul_of_mod hm
  rw [e1] at e2
  obtain ⟨k1, k2, k3, k4, k5, k6, k7⟩ := h2.fx hF
  have z : t / ev e < 8 := Nat.div_lt_of_lt_mul (Nat.mul_comm 8 _ ▸ k3)
  have hE : eN t t e = e := if_neg (fun q => h8 (by
    have w : (t / ev e + 1) * ev e = 8 * ev e := by rw [← e2]; exact q.2
    exact Nat.eq_of_mul_eq_mul_right (ev_pos e) w))
  unfold AdvJ
  rw [hE]
  refine ⟨hN.of rfl (sI_In (by decide)) rfl rfl rfl, hF.1, k1, k2, e2, by omega, ?_, ?_, sI_I, ?_, fun k hk => k7 k (by omega)⟩
  · rw [sI_In (by decide)]; exact k4
  · rw [sI_In (by decide)]; exact k5
  · rw [sI_In (by decide), hF.2.1]; exact h7
theorem adv_j2 (h : RC cd ip x0 g t r u c e σ) (ht : r < t + 1) (hm : (t + 1) % ev e = 0) (h8 : r / ev e + 1 = 8) (h3k : t < 3000) (hN : Now cd ip x0 g (t + 1) (up32 u) v) (hF : Fx σ v) {κ : Nat → Nat} (hP : Perm κ) (hκ : ∀ k, k < 4 → κ k = v.κ (2 * k)) : AdvJ cd ip x0 g t r u c e 4 σ (sI (sQ (sI (sI v 3 (nI (t + 1))) 2 (nI (2 * ev e))) κ) 1 (nI 4)) := by
  obtain ⟨h1, h2, h3, h4, h5, h6, h7⟩ := h
  obtain rfl : t = r := by omega
  have e1 : (t + 1) / ev e = t / ev e + 1 := div_succ_eq (ev_pos e) hm
  have e2 := mul_of_mod hm
  rw [e1, h8] at e2
  obtain ⟨k1, k2, k3, k4, k5, k6, k7⟩ := h2.fx hF
  have hE : eN t t e = e + 1 := if_pos ⟨by omega, e2⟩
  have e4 : e ≤ 4 := ev_e (by omega)
  unfold AdvJ
  rw [hE, ev_succ]
  refine ⟨hN.of rfl ?_ rfl rfl rfl, hF.1, hP, by omega, by omega, by omega, sI_I, ?_, ?_, ?_, fun k hk => ?_⟩
  · rw [sI_In (by decide)]
    show (sI (sI v 3 (nI (t + 1))) 2 (nI (2 * ev e))).I 0 = _
    rw [sI_In (by decide), sI_In (by decide)]
  · rw [sI_In (by decide)]
    show (sI (sI v 3 (nI (t + 1))) 2 (nI (2 * ev e))).I 2 = _
    rw [sI_I]
  · rw [sI_In (by decide)]
    show (sI (sI v 3 (nI (t + 1))) 2 (nI (2 * ev e))).I 3 = _
    rw [sI_In (by decide), sI_I]
  · rw [sI_In (by decide)]
    show (sI (sI v 3 (nI (t + 1))) 2 (nI (2 * ev e))).I 4 = _
    rw [sI_In (by decide), sI_In (by decide), hF.2.1]
    exact h7
  · show v.S (κ k) = _
    rw [hκ k hk, k7 (2 * k) (by omega), show 2 * k * ev e = k * (2 * ev e) by rw [Nat.mul_comm 2 k, Nat.mul_assoc]]
theorem adv_c {m : Nat} (h : RC cd ip x0 g t r u c e σ) (ht : r < t + 1) (h3k : t < 3000) (hc : chk cd (nI g) (tr cd ip x0 t) = 0) (hJ : AdvJ cd ip x0 g t r u c e m σ v) : RC cd ip x0 g (t + 1) (max r (t + 1)) (up32 u) c (eN t r e) (sI (sS v (v.κ m) (tr cd ip x0 (t + 1))) 1 (nI (m + 1))) ∧ fr σ (sI (sS v (v.κ m) (tr cd ip x0 (t + 1))) 1 (nI (m + 1))) := by
  obtain ⟨h1, h2, h3, h4, h5, h6, h7⟩ := h
  obtain rfl : t = r := by omega
  obtain ⟨j1, j2, j3, j4, j5, j6, j7, j8, j9, j10, j11⟩ := hJ
  rw [Nat.max_eq_right (by omega)]
  have w := j3.1 m j6
  have hd : (t + 1) / ev (eN t t e) = m := div8 j5 (ev_pos _)
  refine ⟨⟨j1.of rfl (sI_In (by decide)) (sS_Sn (by omega)) rfl rfl, ⟨j3, j4, ?_, ?_, ?_, ?_, fun k hk => ?_⟩, h3, Nat.le_refl _, by omega, h6.snoc hc, ?_⟩, j2⟩
  · have : m * ev (eN t t e) < 8 * ev (eN t t e) := Nat.mul_lt_mul_of_pos_right j6 (ev_pos _)
    omega
  · rw [sI_I, hd]
  · rw [sI_In (by decide)]; exact j8
  · rw [sI_In (by decide)]; exact j9
  · rw [hd] at hk
    show (sS v (v.κ m) (tr cd ip x0 (t + 1))).S (v.κ k) = _
    rcases Nat.lt_or_ge k m with q | q
    · rw [sS_Sn (fun z => by have := j3.2 k m (by omega) j6 z; omega)]
      exact j11 k q
    · obtain rfl : k = m := by omega
      rw [sS_S, j5]
  · rw [sI_In (by decide)]; exact j10
end AD
