/-! ===== pure words of the debugger ===== -/
theorem up_loop (P : Nat → Prop) (n : Nat) (step : ∀ k, k ≤ n → (k < n → P (k + 1)) → P k) : ∀ k, k ≤ n → P k := by
  have key : ∀ m k, k + m = n → P k := by
    intro m
    induction m with
    | zero => intro k hk; exact step k (by omega) (fun h => absurd h (by omega))
    | succ m ih => intro k hk; exact step k (by omega) (fun _ => ih (k + 1) (by omega))
  intro k hk
  exact key (n - k) k (by omega)
def cellS (s : SS) (a : Int32) : Int32 := if a < 0 then 0 else if a < 32 then s.c a.toNatClampNeg else 0
abbrev brkP (b : TF) (p : Int32) : Prop := ¬ p < 0 ∧ p < 64 ∧ ¬ b p.toNatClampNeg = 0
def watB (w c1 c0 : TF) : Bool := (List.range 32).any fun c => !(w c == 0) && !(c1 c == c0 c)
theorem watB_t {w c1 c0 : TF} {c : Nat} (h : c < 32) (h1 : ¬ w c = 0) (h2 : ¬ c1 c = c0 c) : watB w c1 c0 = true := List.any_eq_true.mpr ⟨c, List.mem_range.mpr h, by simp [h1, h2]⟩
theorem watB_f {w c1 c0 : TF} (h : ∀ c, c < 32 → ¬ (¬ w c = 0 ∧ ¬ c1 c = c0 c)) : watB w c1 c0 = false := by
  apply Bool.eq_false_iff.mpr
  intro q
  obtain ⟨c, h1, h2⟩ := List.any_eq_true.mp q
  exact h c (List.mem_range.mp h1) (by simpa using h2)
def anyB (w : TF) : Bool := (List.range 32).any fun c => !(w c == 0)
theorem anyB_t {w : TF} {c : Nat} (h : c < 32) (h1 : ¬ w c = 0) : anyB w = true := List.any_eq_true.mpr ⟨c, List.mem_range.mpr h, by simp [h1]⟩
theorem anyB_f {w : TF} (h : ∀ c, c < 32 → w c = 0) : anyB w = false := by
  apply Bool.eq_false_iff.mpr
  intro q
  obtain ⟨c, h1, h2⟩ := List.any_eq_true.mp q
  simp [h c (List.mem_range.mp h1)] at h2
theorem anyB_watB {w c1 c0 : TF} (h : anyB w = false) : watB w c1 c0 = false := watB_f (fun c hc q => by rw [anyB_t hc q.1] at h; cases h)
def stopS (b w : TF) (p : Int32) (c1 c0 : TF) : Int32 := if brkP b p then 9 else if watB w c1 c0 = true then 10 else 0
theorem stopS_b {b w : TF} {p : Int32} {c1 c0 : TF} (h : brkP b p) : stopS b w p c1 c0 = 9 := if_pos h
theorem stopS_w {b w : TF} {p : Int32} {c1 c0 : TF} (h : ¬ brkP b p) (h2 : watB w c1 c0 = true) : stopS b w p c1 c0 = 10 := by unfold stopS; rw [if_neg h, if_pos h2]
theorem stopS_n {b w : TF} {p : Int32} {c1 c0 : TF} (h : ¬ brkP b p) (h2 : watB w c1 c0 = false) : stopS b w p c1 c0 = 0 := by unfold stopS; rw [if_neg h, h2]; rfl
theorem nn_lt {a b : Nat} (ha : a < 2 ^ 31) (h : ¬ nI b ≤ nI a) : a < b := by
  rcases Nat.lt_or_ge a b with q | q
  · exact q
  · exact absurd (nI_le q ha) h
theorem nn_le {a b : Nat} (hb : b < 2 ^ 31) (h : ¬ nI a < nI b) : b ≤ a := by
  rcases Nat.lt_or_ge a b with q | q
  · exact absurd (nI_lt q hb) h
  · exact q
theorem sI_I {σ : SGG} {j : Nat} {v : Int32} : (sI σ j v).I j = v := va_up_self σ.I j v
theorem sI_In {σ : SGG} {j k : Nat} {v : Int32} (h : k ≠ j) : (sI σ j v).I k = σ.I k := va_up_ne _ _ h
theorem sMI_I {σ : SGG} {j : Nat} {v : Int32} : (sMI σ j v).MI j = v := va_up_self σ.MI j v
theorem sMI_In {σ : SGG} {j k : Nat} {v : Int32} (h : k ≠ j) : (sMI σ j v).MI k = σ.MI k := va_up_ne _ _ h
theorem sJ_Js {σ : SGG} {j : Nat} {v : Int32} : (sJ σ j v).J j = v := va_up_self σ.J j v
theorem sJ_Jn {σ : SGG} {j k : Nat} {v : Int32} (h : k ≠ j) : (sJ σ j v).J k = σ.J k := va_up_ne _ _ h
theorem sMF_F {σ : SGG} {j : Nat} {v : TF} : (sMF σ j v).MF j = v := va_up_self σ.MF j v
theorem sMF_Fn {σ : SGG} {j k : Nat} {v : TF} (h : k ≠ j) : (sMF σ j v).MF k = σ.MF k := va_up_ne _ _ h
theorem sF_F {σ : SGG} {j : Nat} {v : TF} : (sF σ j v).F j = v := va_up_self σ.F j v
theorem sF_Fn {σ : SGG} {j k : Nat} {v : TF} (h : k ≠ j) : (sF σ j v).F k = σ.F k := va_up_ne _ _ h
theorem sS_Sn {σ : SGG} {j k : Nat} {v : SS} (h : k ≠ j) : (sS σ j v).S k = σ.S k := va_up_ne _ _ h
