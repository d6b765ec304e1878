/-! ===== the model: what it keeps ===== -/
/-- a mark holds a state -/
def Mk (f f2 : TF) (k : Nat) (s : SS) : Prop := (∀ i, i < 32 → f (56 * k + i) = s.c i) ∧ (∀ i, i < 24 → f (56 * k + 32 + i) = s.s i) ∧ f2 (5 * k) = s.p ∧ f2 (5 * k + 1) = s.f ∧ f2 (5 * k + 2) = s.x ∧ f2 (5 * k + 3) = s.k ∧ f2 (5 * k + 4) = s.h
def Bd (cd ip : TF) (x0 : Int32) (g t r u e : Nat) : Prop := g ≤ 40 ∧ t ≤ r ∧ r ≤ 3000 ∧ RunOk cd ip x0 g r ∧ u ≤ 32 ∧ e ≤ 5 ∧ r < 8 * ev e
def Mg (cd ip : TF) (x0 : Int32) (g t : Nat) (σ : SGG) : Prop := σ.MF 0 = cd ∧ σ.MF 1 = ip ∧ σ.MI 1 = nI g ∧ mS σ = tr cd ip x0 t
def Mn (r u c e : Nat) (σ : SGG) : Prop := σ.MI 8 = nI r ∧ σ.MI 9 = nI u ∧ σ.MI 10 = nI c ∧ σ.MI 11 = nI (ev e) ∧ σ.MI 12 = nI (r / ev e + 1)
def Mq (r e : Nat) (σ : SGG) : Prop := ∀ k, k ≤ r / ev e → σ.MF 9 k = nI (k * ev e)
def Mm (cd ip : TF) (x0 : Int32) (r : Nat) (σ : SGG) : Prop := ∀ k, 250 * k ≤ r → Mk (σ.MF 7) (σ.MF 8) k (tr cd ip x0 (250 * k))
def RD (cd ip : TF) (x0 : Int32) (g t r u c e : Nat) (σ : SGG) : Prop := Bd cd ip x0 g t r u e ∧ Mg cd ip x0 g t σ ∧ Mn r u c e σ ∧ Mq r e σ ∧ Mm cd ip x0 r σ
/-- what the model's moves leave alone -/
def frm (σ v : SGG) : Prop := v.1 = σ.1 ∧ v.O = σ.O ∧ v.MF 2 = σ.MF 2 ∧ v.MF 3 = σ.MF 3 ∧ v.MI 0 = σ.MI 0
theorem frm.refl (σ : SGG) : frm σ σ := ⟨rfl, rfl, rfl, rfl, rfl⟩
theorem frm.trans {a b c : SGG} (h : frm a b) (k : frm b c) : frm a c := ⟨k.1.trans h.1, k.2.1.trans h.2.1, k.2.2.1.trans h.2.2.1, k.2.2.2.1.trans h.2.2.2.1, k.2.2.2.2.trans h.2.2.2.2⟩
section MD
variable {cd ip : TF} {x0 : Int32} {g t r u c e : Nat} {σ v : SGG}
theorem sMF_sMF {k : Nat} {a b : TF} : sMF (sMF σ k a) k b = sMF σ k b := by
  show (σ.1, (σ.MI, va_up (va_up σ.MF k a) k b), σ.O) = (σ.1, (σ.MI, va_up σ.MF k b), σ.O)
  rw [bx_uu]
theorem sMI_sMI {k : Nat} {a b : Int32} : sMI (sMI σ k a) k b = sMI σ k b := by
  show (σ.1, (va_up (va_up σ.MI k a) k b, σ.MF), σ.O) = (σ.1, (va_up σ.MI k b, σ.MF), σ.O)
  rw [bx_uu]
theorem sMF_same {k : Nat} {f : TF} (h : σ.MF k = f) : sMF σ k f = σ := by
  show (σ.1, (σ.MI, va_up σ.MF k f), σ.O) = σ
  rw [show va_up σ.MF k f = σ.MF from funext fun n => by unfold va_up; by_cases e : n = k <;> simp [e, ← h]]
theorem mS_sMI {j : Nat} {w : Int32} (h : j < 2 ∨ 8 ≤ j) : mS (sMI σ j w) = mS σ := by
  unfold mS
  rw [sMI_In (by omega), sMI_In (by omega), sMI_In (by omega), sMI_In (by omega), sMI_In (by omega), sMI_In (by omega)]
  rfl
theorem mS_sMF {k : Nat} {f : TF} (h : k < 4 ∨ 6 ≤ k) : mS (sMF σ k f) = mS σ := by
  unfold mS
  rw [sMF_Fn (by omega), sMF_Fn (by omega)]
  rfl
theorem frm_sMI {j : Nat} {w : Int32} (h : j ≠ 0) : frm σ (sMI σ j w) := ⟨rfl, rfl, rfl, rfl, sMI_In (Ne.symm h)⟩
theorem frm_sMF {k : Nat} {f : TF} (h : k < 2 ∨ 4 ≤ k) : frm σ (sMF σ k f) := ⟨rfl, rfl, sMF_Fn (by omega), sMF_Fn (by omega), rfl⟩
theorem frm_mM {s : SS} : frm σ (mM σ s) := ⟨rfl, rfl, rfl, rfl, rfl⟩
theorem mS_t (h : mS σ = tr cd ip x0 t) : σ.MI 2 = (tr cd ip x0 t).t := by rw [← h]; rfl
theorem mS_p (h : mS σ = tr cd ip x0 t) : σ.MI 3 = (tr cd ip x0 t).p := by rw [← h]; rfl
theorem mS_f (h : mS σ = tr cd ip x0 t) : σ.MI 4 = (tr cd ip x0 t).f := by rw [← h]; rfl
theorem mS_x (h : mS σ = tr cd ip x0 t) : σ.MI 5 = (tr cd ip x0 t).x := by rw [← h]; rfl
theorem mS_k (h : mS σ = tr cd ip x0 t) : σ.MI 6 = (tr cd ip x0 t).k := by rw [← h]; rfl
theorem mS_h (h : mS σ = tr cd ip x0 t) : σ.MI 7 = (tr cd ip x0 t).h := by rw [← h]; rfl
theorem mS_c (h : mS σ = tr cd ip x0 t) : σ.MF 4 = (tr cd ip x0 t).c := by rw [← h]; rfl
theorem mS_s (h : mS σ = tr cd ip x0 t) : σ.MF 5 = (tr cd ip x0 t).s := by rw [← h]; rfl
theorem mM_of (h : mS σ = tr cd ip x0 t) : σ = mM σ (tr cd ip x0 t) := by rw [← h]; exact mM_eta.symm
theorem rd_T (h : RD cd ip x0 g t r u c e σ) : σ.MI 2 = nI t := by rw [mS_t h.2.1.2.2.2]; exact (tr_wf h.1.1 h.1.2.2.2.1 t h.1.2.1).2.2
/-- other numbers of UNDO and cost -/
theorem rd_uc (h : RD cd ip x0 g t r u c e σ) {u2 c2 : Nat} (hu : u2 ≤ 32) : RD cd ip x0 g t r u2 c2 e (sMI (sMI σ 9 (nI u2)) 10 (nI c2)) ∧ frm σ (sMI (sMI σ 9 (nI u2)) 10 (nI c2)) := by
  obtain ⟨⟨b1, b2, b3, b4, b5, b6, b7⟩, ⟨m1, m2, m3, m4⟩, ⟨k1, k2, k3, k4, k5⟩, h4, h5⟩ := h
  refine ⟨⟨⟨b1, b2, b3, b4, hu, b6, b7⟩, ⟨m1, m2, ?_, ?_⟩, ⟨?_, ?_, sMI_I, ?_, ?_⟩, h4, h5⟩, (frm_sMI (by decide)).trans (frm_sMI (by decide))⟩
  · rw [sMI_In (by decide), sMI_In (by decide)]; exact m3
  · rw [mS_sMI (by decide), mS_sMI (by decide)]; exact m4
  · rw [sMI_In (by decide), sMI_In (by decide)]; exact k1
  · rw [sMI_In (by decide), sMI_I]
  · rw [sMI_In (by decide), sMI_In (by decide)]; exact k4
  · rw [sMI_In (by decide), sMI_In (by decide)]; exact k5
theorem rd_u (h : RD cd ip x0 g t r u c e σ) {u2 : Nat} (hu : u2 ≤ 32) : RD cd ip x0 g t r u2 c e (sMI σ 9 (nI u2)) ∧ frm σ (sMI σ 9 (nI u2)) := by
  have k := rd_uc (c2 := c) h hu
  rw [sMI_same ((sMI_In (by decide)).trans h.2.2.1.2.2.1)] at k
  exact k
theorem rd_c (h : RD cd ip x0 g t r u c e σ) {c2 : Nat} : RD cd ip x0 g t r u c2 e (sMI σ 10 (nI c2)) ∧ frm σ (sMI σ 10 (nI c2)) := by
  have k := rd_uc (u2 := u) (c2 := c2) h h.1.2.2.2.2.1
  rw [sMI_same h.2.2.1.2.1] at k
  exact k
/-- the word for what was thrown is of no account -/
theorem rd_0 (h : RD cd ip x0 g t r u c e σ) {w : Int32} : RD cd ip x0 g t r u c e (sMI σ 0 w) := by
  obtain ⟨h1, ⟨m1, m2, m3, m4⟩, ⟨k1, k2, k3, k4, k5⟩, h4, h5⟩ := h
  refine ⟨h1, ⟨m1, m2, ?_, ?_⟩, ⟨?_, ?_, ?_, ?_, ?_⟩, h4, h5⟩
  · rw [sMI_In (by decide)]; exact m3
  · rw [mS_sMI (by decide)]; exact m4
  · rw [sMI_In (by decide)]; exact k1
  · rw [sMI_In (by decide)]; exact k2
  · rw [sMI_In (by decide)]; exact k3
  · rw [sMI_In (by decide)]; exact k4
  · rw [sMI_In (by decide)]; exact k5
theorem rd_6 (h : RD cd ip x0 g t r u c e σ) {f : TF} : RD cd ip x0 g t r u c e (sMF σ 6 f) := by
  obtain ⟨h1, ⟨m1, m2, m3, m4⟩, h3, h4, h5⟩ := h
  refine ⟨h1, ⟨?_, ?_, m3, ?_⟩, h3, fun k hk => ?_, fun k hk => ?_⟩
  · rw [sMF_Fn (by decide)]; exact m1
  · rw [sMF_Fn (by decide)]; exact m2
  · rw [mS_sMF (by decide)]; exact m4
  · rw [sMF_Fn (by decide)]; exact h4 k hk
  · rw [sMF_Fn (by decide), sMF_Fn (by decide)]; exact h5 k hk
/-- another time is the now -/
theorem rd_mM (h : RD cd ip x0 g t r u c e σ) {q : Nat} (hq : q ≤ r) : RD cd ip x0 g q r u c e (mM σ (tr cd ip x0 q)) := by
  obtain ⟨⟨b1, b2, b3, b4, b5, b6, b7⟩, ⟨m1, m2, m3, m4⟩, h3, h4, h5⟩ := h
  exact ⟨⟨b1, hq, b3, b4, b5, b6, b7⟩, ⟨m1, m2, m3, mM_mS⟩, h3, h4, h5⟩
/-- an array of the model, beyond its length -/
theorem v_arrG {x : CT} {γ : GH} {κ : Nat × Nat} {Q : State → Prop} {pc : Nat} {L : List (Option Value)} {st : List Value} {k : Nat} {f : TF} (hk : k < 10) (hf : ∀ j, j < lenG k → σ.MF k j = f j) (kk : V x γ κ Q (enc γ (sMF σ k f)) pc L st) : V x γ κ Q (enc γ σ) pc L st :=
  v_arr (en_G hk) hf (by rw [up_G hk]; exact kk)
end MD
/-! the answers of a run forth and back -/
abbrev N4 : Type := Nat × Nat × Nat × Nat
def fwd (cd ip b w : TF) (x0 : Int32) (g : Nat) : Nat → Nat → Nat → Nat → Nat → Int32 × N4
  | 0, t, r, u, e => (11, t, r, u, e)
  | n + 1, t, r, u, e => if chk cd (nI g) (tr cd ip x0 t) = 0 ∧ t < 3000 then
      (if stopS b w (tr cd ip x0 (t + 1)).p (tr cd ip x0 (t + 1)).c (tr cd ip x0 t).c = 0 then fwd cd ip b w x0 g n (t + 1) (max r (t + 1)) (up32 u) (eN t r e)
      else (stopS b w (tr cd ip x0 (t + 1)).p (tr cd ip x0 (t + 1)).c (tr cd ip x0 t).c, t + 1, max r (t + 1), up32 u, eN t r e))
    else (tryR cd (nI g) (tr cd ip x0 t), t, r, u, e)
abbrev N3 : Type := Nat × Nat × Nat
def bkw (cd ip b w : TF) (x0 : Int32) (e : Nat) : Nat → Nat → Nat → Nat → Int32 × N3
  | 0, t, u, c => (11, t, u, c)
  | n + 1, t, u, c => if t - 1 = 0 then (12, t - 1, mvU t u e (t - 1), mvC t u c e (t - 1))
    else if stopS b w (tr cd ip x0 (t - 1)).p (tr cd ip x0 (t - 1)).c (tr cd ip x0 (t - 1 - 1)).c = 0 then bkw cd ip b w x0 e n (t - 1) (mvU t u e (t - 1)) (mvC t u c e (t - 1))
    else (stopS b w (tr cd ip x0 (t - 1)).p (tr cd ip x0 (t - 1)).c (tr cd ip x0 (t - 1 - 1)).c, t - 1, mvU t u e (t - 1), mvC t u c e (t - 1))
def bck (cd ip b w : TF) (x0 : Int32) (e n t u c : Nat) : Int32 × N3 := if t = 0 then (12, t, u, c) else bkw cd ip b w x0 e n t u c
