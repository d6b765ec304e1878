/-! ===== the typed state of the whole system, and the cells that hold it ===== -/
abbrev TF : Type := Nat → Int32
/-- a State: height, pc, frame, x, taken, time, cells, stack; a Note: pc, frame, x, taken, height, changes, places, values -/
abbrev SS : Type := Int32 × Int32 × Int32 × Int32 × Int32 × Int32 × TF × TF
abbrev SXX : Type := TF × TF × (Nat → TF) × (Nat → Nat) × (Nat → SS) × (Nat → SS)
abbrev SMM : Type := TF × (Nat → TF)
abbrev SGG : Type := SXX × SMM × (Nat → Int64)
abbrev SS.c (s : SS) : TF := s.2.2.2.2.2.2.1
abbrev SS.s (s : SS) : TF := s.2.2.2.2.2.2.2
def q0 (s : SS) (v : Int32) : SS := (v, s.2.1, s.2.2.1, s.2.2.2.1, s.2.2.2.2.1, s.2.2.2.2.2.1, s.c, s.s)
def q1 (s : SS) (v : Int32) : SS := (s.1, v, s.2.2.1, s.2.2.2.1, s.2.2.2.2.1, s.2.2.2.2.2.1, s.c, s.s)
def q2 (s : SS) (v : Int32) : SS := (s.1, s.2.1, v, s.2.2.2.1, s.2.2.2.2.1, s.2.2.2.2.2.1, s.c, s.s)
def q3 (s : SS) (v : Int32) : SS := (s.1, s.2.1, s.2.2.1, v, s.2.2.2.2.1, s.2.2.2.2.2.1, s.c, s.s)
def q4 (s : SS) (v : Int32) : SS := (s.1, s.2.1, s.2.2.1, s.2.2.2.1, v, s.2.2.2.2.2.1, s.c, s.s)
def q5 (s : SS) (v : Int32) : SS := (s.1, s.2.1, s.2.2.1, s.2.2.2.1, s.2.2.2.2.1, v, s.c, s.s)
def qc (s : SS) (f : TF) : SS := (s.1, s.2.1, s.2.2.1, s.2.2.2.1, s.2.2.2.2.1, s.2.2.2.2.2.1, f, s.s)
def qs (s : SS) (f : TF) : SS := (s.1, s.2.1, s.2.2.1, s.2.2.2.1, s.2.2.2.2.1, s.2.2.2.2.2.1, s.c, f)
/-- given 0, keptCount 1, every 2, reached 3, cost 4 -/
abbrev SGG.I (σ : SGG) : TF := σ.1.1
/-- newest 0, many 1 -/
abbrev SGG.J (σ : SGG) : TF := σ.1.2.1
/-- code 0, inputs 1, breaks 2, watches 3, were 4 -/
abbrev SGG.F (σ : SGG) : Nat → TF := σ.1.2.2.1
/-- kept k is the state of that number -/
abbrev SGG.κ (σ : SGG) : Nat → Nat := σ.1.2.2.2.1
/-- now 0, earlier 1, kept ones 2..9 -/
abbrev SGG.S (σ : SGG) : Nat → SS := σ.1.2.2.2.2.1
abbrev SGG.T (σ : SGG) : Nat → SS := σ.1.2.2.2.2.2
/-- the model: code 0, given 1, time 2, pc 3, frame 4, x 5, taken 6, height 7, reached 8, undo 9, cost 10, every 11, kept 12 -/
abbrev SGG.MI (σ : SGG) : TF := σ.2.1.1
/-- program 0, inputs 1, breaks 2, watches 3, cells 4, stack 5, were 6, markWords 7, markOthers 8, keptAt 9 -/
abbrev SGG.MF (σ : SGG) : Nat → TF := σ.2.1.2
abbrev SGG.O (σ : SGG) : Nat → Int64 := σ.2.2
def sI (σ : SGG) (j : Nat) (v : Int32) : SGG := ((va_up σ.I j v, σ.1.2), σ.2)
def sJ (σ : SGG) (j : Nat) (v : Int32) : SGG := ((σ.I, va_up σ.J j v, σ.1.2.2), σ.2)
def sF (σ : SGG) (k : Nat) (f : TF) : SGG := ((σ.I, σ.J, va_up σ.F k f, σ.1.2.2.2), σ.2)
def sQ (σ : SGG) (q : Nat → Nat) : SGG := ((σ.I, σ.J, σ.F, q, σ.1.2.2.2.2), σ.2)
def sS (σ : SGG) (i : Nat) (s : SS) : SGG := ((σ.I, σ.J, σ.F, σ.κ, va_up σ.S i s, σ.T), σ.2)
def sT (σ : SGG) (j : Nat) (t : SS) : SGG := ((σ.I, σ.J, σ.F, σ.κ, σ.S, va_up σ.T j t), σ.2)
def sMI (σ : SGG) (j : Nat) (v : Int32) : SGG := (σ.1, (va_up σ.MI j v, σ.MF), σ.O)
def sMF (σ : SGG) (k : Nat) (f : TF) : SGG := (σ.1, (σ.MI, va_up σ.MF k f), σ.O)
def sO (σ : SGG) (f : Nat → Int64) : SGG := (σ.1, σ.2.1, f)
def aM (γ : GH) : Nat := γ.ad 0
def aF (γ : GH) (k : Nat) : Nat := γ.ad (1 + k)
def aB (γ : GH) : Nat := γ.ad 6
def aR (γ : GH) : Nat := γ.ad 7
def aQ (γ : GH) : Nat := γ.ad 8
def aS (γ : GH) (i : Nat) : Nat := γ.ad (9 + 3 * i)
def aC (γ : GH) (i : Nat) : Nat := γ.ad (10 + 3 * i)
def aK (γ : GH) (i : Nat) : Nat := γ.ad (11 + 3 * i)
def aN (γ : GH) (j : Nat) : Nat := γ.ad (39 + 3 * j)
def aP (γ : GH) (j : Nat) : Nat := γ.ad (40 + 3 * j)
def aV (γ : GH) (j : Nat) : Nat := γ.ad (41 + 3 * j)
def aU (γ : GH) : Nat := γ.ad 135
def aG (γ : GH) (k : Nat) : Nat := γ.ad (136 + k)
def aJ (γ : GH) : Nat := γ.ad 146
def lenF : Nat → Nat
  | 0 => 64
  | 1 => 40
  | 2 => 64
  | _ => 32
def lenG : Nat → Nat
  | 0 => 64
  | 1 => 40
  | 2 => 64
  | 3 => 32
  | 4 => 32
  | 5 => 24
  | 6 => 32
  | 7 => 728
  | 8 => 65
  | _ => 9
def cFG : Nat → Nat
  | 2 => 1
  | 3 => 1
  | _ => 0
def fsM (γ : GH) (σ : SGG) : List Value := [.ref (aF γ 0), .ref (aF γ 1), .int (σ.I 0), .ref (aS γ 0), .ref (aB γ), .ref (aQ γ), .int (σ.I 1), .int (σ.I 2), .int (σ.I 3), .int (σ.I 4), .ref (aF γ 2), .ref (aF γ 3), .ref (aF γ 4), .ref (aS γ 1)]
def fsB (γ : GH) (σ : SGG) : List Value := [.ref (aR γ), .int (σ.J 0), .int (σ.J 1)]
def fsS (γ : GH) (i : Nat) (s : SS) : List Value := [.ref (aC γ i), .ref (aK γ i), .int s.1, .int s.2.1, .int s.2.2.1, .int s.2.2.2.1, .int s.2.2.2.2.1, .int s.2.2.2.2.2.1]
def fsT (γ : GH) (j : Nat) (s : SS) : List Value := [.ref (aP γ j), .ref (aV γ j), .int s.1, .int s.2.1, .int s.2.2.1, .int s.2.2.2.1, .int s.2.2.2.2.1, .int s.2.2.2.2.2.1]
def fsO (γ : GH) (σ : SGG) : List Value := [.ref (aG γ 0), .ref (aG γ 1), .ref (aG γ 2), .ref (aG γ 3), .ref (aG γ 4), .ref (aG γ 5), .ref (aG γ 6), .ref (aG γ 7), .ref (aG γ 8), .ref (aG γ 9), .int (σ.MI 0), .int (σ.MI 1), .int (σ.MI 2), .int (σ.MI 3), .int (σ.MI 4), .int (σ.MI 5), .int (σ.MI 6), .int (σ.MI 7), .int (σ.MI 8), .int (σ.MI 9), .int (σ.MI 10), .int (σ.MI 11), .int (σ.MI 12)]
def enc (γ : GH) (σ : SGG) (n : Nat) : va_E :=
  if n = 0 then .inr (0, fsM γ σ)
  else if n < 6 then .inl (γ.cA (cFG (n - 1)), lenF (n - 1), .inl (σ.F (n - 1)))
  else if n = 6 then .inr (2, fsB γ σ)
  else if n = 7 then .inl (γ.cA 3, 32, .inr (.inr (.inr (.inr (fun j => some (aN γ j))))))
  else if n = 8 then .inl (γ.cA 2, 8, .inr (.inr (.inr (.inr (fun k => some (aS γ (σ.κ k)))))))
  else if n < 39 then (if (n - 9) % 3 = 0 then .inr (3, fsS γ ((n - 9) / 3) (σ.S ((n - 9) / 3))) else if (n - 9) % 3 = 1 then .inl (γ.cA 0, 32, .inl (σ.S ((n - 9) / 3)).c) else .inl (γ.cA 0, 24, .inl (σ.S ((n - 9) / 3)).s))
  else if n < 135 then (if (n - 39) % 3 = 0 then .inr (1, fsT γ ((n - 39) / 3) (σ.T ((n - 39) / 3))) else if (n - 39) % 3 = 1 then .inl (γ.cA 0, 4, .inl (σ.T ((n - 39) / 3)).c) else .inl (γ.cA 0, 4, .inl (σ.T ((n - 39) / 3)).s))
  else if n = 135 then .inr (4, fsO γ σ)
  else if n < 146 then .inl (γ.cA (cFG (n - 136)), lenG (n - 136), .inl (σ.MF (n - 136)))
  else if n = 146 then .inl (γ.cA 4, 1, .inr (.inl σ.O))
  else .inr (0, [])
section EN
variable {γ : GH} {σ : SGG}
theorem en_M : enc γ σ 0 = .inr (0, fsM γ σ) := rfl
theorem en_F {k : Nat} (hk : k < 5) : enc γ σ (1 + k) = .inl (γ.cA (cFG k), lenF k, .inl (σ.F k)) := by
  unfold enc
  rw [if_neg (by omega), if_pos (by omega), Nat.add_sub_cancel_left]
theorem en_B : enc γ σ 6 = .inr (2, fsB γ σ) := rfl
theorem en_R : enc γ σ 7 = .inl (γ.cA 3, 32, .inr (.inr (.inr (.inr (fun j => some (aN γ j)))))) := rfl
theorem en_Q : enc γ σ 8 = .inl (γ.cA 2, 8, .inr (.inr (.inr (.inr (fun k => some (aS γ (σ.κ k))))))) := rfl
theorem en_S {i : Nat} (hi : i < 10) : enc γ σ (9 + 3 * i) = .inr (3, fsS γ i (σ.S i)) := by
  unfold enc
  rw [if_neg (by omega), if_neg (by omega), if_neg (by omega), if_neg (by omega), if_neg (by omega), if_pos (by omega), if_pos (by omega)]
  rw [show (9 + 3 * i - 9) / 3 = i by omega]
theorem en_C {i : Nat} (hi : i < 10) : enc γ σ (10 + 3 * i) = .inl (γ.cA 0, 32, .inl (σ.S i).c) := by
  unfold enc
  rw [if_neg (by omega), if_neg (by omega), if_neg (by omega), if_neg (by omega), if_neg (by omega), if_pos (by omega), if_neg (by omega), if_pos (by omega)]
  rw [show (10 + 3 * i - 9) / 3 = i by omega]
theorem en_K {i : Nat} (hi : i < 10) : enc γ σ (11 + 3 * i) = .inl (γ.cA 0, 24, .inl (σ.S i).s) := by
  unfold enc
  rw [if_neg (by omega), if_neg (by omega), if_neg (by omega), if_neg (by omega), if_neg (by omega), if_pos (by omega), if_neg (by omega), if_neg (by omega)]
  rw [show (11 + 3 * i - 9) / 3 = i by omega]
theorem en_N {j : Nat} (hj : j < 32) : enc γ σ (39 + 3 * j) = .inr (1, fsT γ j (σ.T j)) := by
  unfold enc
  rw [if_neg (by omega), if_neg (by omega), if_neg (by omega), if_neg (by omega), if_neg (by omega), if_neg (by omega), if_pos (by omega), if_pos (by omega)]
  rw [show (39 + 3 * j - 39) / 3 = j by omega]
theorem en_P {j : Nat} (hj : j < 32) : enc γ σ (40 + 3 * j) = .inl (γ.cA 0, 4, .inl (σ.T j).c) := by
  unfold enc
  rw [if_neg (by omega), if_neg (by omega), if_neg (by omega), if_neg (by omega), if_neg (by omega), if_neg (by omega), if_pos (by omega), if_neg (by omega), if_pos (by omega)]
  rw [show (40 + 3 * j - 39) / 3 = j by omega]
theorem en_V {j : Nat} (hj : j < 32) : enc γ σ (41 + 3 * j) = .inl (γ.cA 0, 4, .inl (σ.T j).s) := by
  unfold enc
  rw [if_neg (by omega), if_neg (by omega), if_neg (by omega), if_neg (by omega), if_neg (by omega), if_neg (by omega), if_pos (by omega), if_neg (by omega), if_neg (by omega)]
  rw [show (41 + 3 * j - 39) / 3 = j by omega]
theorem en_U : enc γ σ 135 = .inr (4, fsO γ σ) := rfl
theorem en_G {k : Nat} (hk : k < 10) : enc γ σ (136 + k) = .inl (γ.cA (cFG k), lenG k, .inl (σ.MF k)) := by
  unfold enc
  rw [if_neg (by omega), if_neg (by omega), if_neg (by omega), if_neg (by omega), if_neg (by omega), if_neg (by omega), if_neg (by omega), if_neg (by omega), if_pos (by omega), Nat.add_sub_cancel_left]
theorem en_J : enc γ σ 146 = .inl (γ.cA 4, 1, .inr (.inl σ.O)) := rfl
theorem en_f {n : Nat} (h0 : ¬ n = 0) (h6 : n < 6) : enc γ σ n = .inl (γ.cA (cFG (n - 1)), lenF (n - 1), .inl (σ.F (n - 1))) := by
  unfold enc
  rw [if_neg h0, if_pos h6]
theorem en_st {n : Nat} (h : ¬ n < 9) (h2 : n < 39) : enc γ σ n = (if (n - 9) % 3 = 0 then .inr (3, fsS γ ((n - 9) / 3) (σ.S ((n - 9) / 3))) else if (n - 9) % 3 = 1 then .inl (γ.cA 0, 32, .inl (σ.S ((n - 9) / 3)).c) else .inl (γ.cA 0, 24, .inl (σ.S ((n - 9) / 3)).s)) := by
  unfold enc
  rw [if_neg (show ¬ n = 0 by omega), if_neg (show ¬ n < 6 by omega), if_neg (show ¬ n = 6 by omega), if_neg (show ¬ n = 7 by omega), if_neg (show ¬ n = 8 by omega), if_pos h2]
theorem en_nt {n : Nat} (h : ¬ n < 39) (h2 : n < 135) : enc γ σ n = (if (n - 39) % 3 = 0 then .inr (1, fsT γ ((n - 39) / 3) (σ.T ((n - 39) / 3))) else if (n - 39) % 3 = 1 then .inl (γ.cA 0, 4, .inl (σ.T ((n - 39) / 3)).c) else .inl (γ.cA 0, 4, .inl (σ.T ((n - 39) / 3)).s)) := by
  unfold enc
  rw [if_neg (show ¬ n = 0 by omega), if_neg (show ¬ n < 6 by omega), if_neg (show ¬ n = 6 by omega), if_neg (show ¬ n = 7 by omega), if_neg (show ¬ n = 8 by omega), if_neg h, if_pos h2]
theorem en_g {n : Nat} (h : ¬ n < 135) (h5 : ¬ n = 135) (h2 : n < 146) : enc γ σ n = .inl (γ.cA (cFG (n - 136)), lenG (n - 136), .inl (σ.MF (n - 136))) := by
  unfold enc
  rw [if_neg (show ¬ n = 0 by omega), if_neg (show ¬ n < 6 by omega), if_neg (show ¬ n = 6 by omega), if_neg (show ¬ n = 7 by omega), if_neg (show ¬ n = 8 by omega), if_neg (show ¬ n < 39 by omega), if_neg h, if_neg h5, if_pos h2]
theorem en_z {n : Nat} (h : ¬ n < 147) : enc γ σ n = .inr (0, []) := by
  unfold enc
  rw [if_neg (show ¬ n = 0 by omega), if_neg (show ¬ n < 6 by omega), if_neg (show ¬ n = 6 by omega), if_neg (show ¬ n = 7 by omega), if_neg (show ¬ n = 8 by omega), if_neg (show ¬ n < 39 by omega), if_neg (show ¬ n < 135 by omega), if_neg (show ¬ n = 135 by omega), if_neg (show ¬ n < 146 by omega), if_neg (show ¬ n = 146 by omega)]
/-- two states whose parts at n agree -/
theorem en_ext {σ' : SGG} {n : Nat} (hM : n = 0 → fsM γ σ' = fsM γ σ) (hF : ∀ k, n = 1 + k → k < 5 → σ'.F k = σ.F k) (hB : n = 6 → fsB γ σ' = fsB γ σ) (hQ : n = 8 → σ'.κ = σ.κ) (hS : ¬ n < 9 → n < 39 → σ'.S ((n - 9) / 3) = σ.S ((n - 9) / 3)) (hT : ¬ n < 39 → n < 135 → σ'.T ((n - 39) / 3) = σ.T ((n - 39) / 3)) (hU : n = 135 → fsO γ σ' = fsO γ σ) (hG : ∀ k, n = 136 + k → k < 10 → σ'.MF k = σ.MF k) (hO : n = 146 → σ'.O = σ.O) : enc γ σ' n = enc γ σ n := by
  by_cases h0 : n = 0
  · subst h0; rw [en_M, en_M, hM rfl]
  · by_cases h6 : n < 6
    · rw [en_f h0 h6, en_f h0 h6, hF (n - 1) (by omega) (by omega)]
    · by_cases h7 : n = 6
      · subst h7; rw [en_B, en_B, hB rfl]
      · by_cases h8 : n = 7
        · subst h8; rfl
        · by_cases h9 : n = 8
          · subst h9; rw [en_Q, en_Q, hQ rfl]
          · by_cases h39 : n < 39
            · rw [en_st (by omega) h39, en_st (by omega) h39, hS (by omega) h39]
            · by_cases h135 : n < 135
              · rw [en_nt h39 h135, en_nt h39 h135, hT h39 h135]
              · by_cases h5 : n = 135
                · subst h5; rw [en_U, en_U, hU rfl]
                · by_cases h146 : n < 146
                  · rw [en_g h135 h5 h146, en_g h135 h5 h146, hG (n - 136) (by omega) (by omega)]
                  · by_cases h6' : n = 146
                    · subst h6'; rw [en_J, en_J, hO rfl]
                    · rw [en_z (by omega), en_z (by omega)]
theorem up_eq {σ' : SGG} {k : Nat} {e : va_E} (hk : enc γ σ' k = e) (ho : ∀ n, n ≠ k → enc γ σ' n = enc γ σ n) : va_up (enc γ σ) k e = enc γ σ' := by
  funext n
  by_cases h : n = k
  · subst h; rw [va_up_self, hk]
  · rw [va_up_ne _ _ h, ho n h]
theorem up_M {j : Nat} {v : Int32} {fs : List Value} (hf : fs = fsM γ (sI σ j v)) : va_up (enc γ σ) 0 (.inr (0, fs)) = enc γ (sI σ j v) := by
  subst hf
  exact up_eq en_M (fun n h => en_ext (fun q => absurd q h) (fun _ _ _ => rfl) (fun _ => rfl) (fun _ => rfl) (fun _ _ => rfl) (fun _ _ => rfl) (fun _ => rfl) (fun _ _ _ => rfl) (fun _ => rfl))
theorem up_F {k : Nat} {f : TF} (hk : k < 5) : va_up (enc γ σ) (1 + k) (.inl (γ.cA (cFG k), lenF k, .inl f)) = enc γ (sF σ k f) := by
  refine up_eq ?_ (fun n h => en_ext (fun _ => rfl) (fun q hq _ => va_up_ne _ _ (by omega)) (fun _ => rfl) (fun _ => rfl) (fun _ _ => rfl) (fun _ _ => rfl) (fun _ => rfl) (fun _ _ _ => rfl) (fun _ => rfl))
  rw [en_F hk]
  show Sum.inl (γ.cA (cFG k), lenF k, Sum.inl (va_up σ.F k f k)) = _
  rw [va_up_self]
theorem up_B {j : Nat} {v : Int32} {fs : List Value} (hf : fs = fsB γ (sJ σ j v)) : va_up (enc γ σ) 6 (.inr (2, fs)) = enc γ (sJ σ j v) := by
  subst hf
  exact up_eq en_B (fun n h => en_ext (fun _ => rfl) (fun _ _ _ => rfl) (fun q => absurd q h) (fun _ => rfl) (fun _ _ => rfl) (fun _ _ => rfl) (fun _ => rfl) (fun _ _ _ => rfl) (fun _ => rfl))
theorem up_Q {k m : Nat} : va_up (enc γ σ) 8 (.inl (γ.cA 2, 8, .inr (.inr (.inr (.inr (va_up (fun k => some (aS γ (σ.κ k))) k (some (aS γ m)))))))) = enc γ (sQ σ (va_up σ.κ k m)) := by
  refine up_eq ?_ (fun n h => en_ext (fun _ => rfl) (fun _ _ _ => rfl) (fun _ => rfl) (fun q => absurd q h) (fun _ _ => rfl) (fun _ _ => rfl) (fun _ => rfl) (fun _ _ _ => rfl) (fun _ => rfl))
  rw [en_Q]
  have e : (fun q => some (aS γ ((sQ σ (va_up σ.κ k m)).κ q))) = va_up (fun k => some (aS γ (σ.κ k))) k (some (aS γ m)) := by
    funext q
    show some (aS γ (va_up σ.κ k m q)) = _
    unfold va_up
    by_cases hq : q = k
    · rw [if_pos hq, if_pos hq]
    · rw [if_neg hq, if_neg hq]
  rw [e]
/-- a cell of another kind doesn't see the states -/
theorem en_sS {i n : Nat} {s : SS} (h : n < 9 ∨ 39 ≤ n ∨ (n - 9) / 3 ≠ i) : enc γ (sS σ i s) n = enc γ σ n :=
  en_ext (fun _ => rfl) (fun _ _ _ => rfl) (fun _ => rfl) (fun _ => rfl) (fun h1 h2 => va_up_ne _ _ (by omega)) (fun _ _ => rfl) (fun _ => rfl) (fun _ _ _ => rfl) (fun _ => rfl)
theorem en_sT {j n : Nat} {s : SS} (h : n < 39 ∨ 135 ≤ n ∨ (n - 39) / 3 ≠ j) : enc γ (sT σ j s) n = enc γ σ n :=
  en_ext (fun _ => rfl) (fun _ _ _ => rfl) (fun _ => rfl) (fun _ => rfl) (fun _ _ => rfl) (fun h1 h2 => va_up_ne _ _ (by omega)) (fun _ => rfl) (fun _ _ _ => rfl) (fun _ => rfl)
theorem sS_S {i : Nat} {s : SS} : (sS σ i s).S i = s := va_up_self _ _ _
theorem sT_T {j : Nat} {s : SS} : (sT σ j s).T j = s := va_up_self _ _ _
theorem up_S {i : Nat} {s : SS} (hi : i < 10) (hc : s.c = (σ.S i).c ∧ s.s = (σ.S i).s) : va_up (enc γ σ) (9 + 3 * i) (.inr (3, fsS γ i s)) = enc γ (sS σ i s) := by
  refine up_eq (by rw [en_S hi, sS_S]) (fun n h => ?_)
  by_cases hn : n < 9 ∨ 39 ≤ n ∨ (n - 9) / 3 ≠ i
  · exact en_sS hn
  · have : n = 10 + 3 * i ∨ n = 11 + 3 * i := by omega
    rcases this with rfl | rfl
    · rw [en_C hi, en_C hi, sS_S, hc.1]
    · rw [en_K hi, en_K hi, sS_S, hc.2]
theorem up_C {i : Nat} {f : TF} (hi : i < 10) : va_up (enc γ σ) (10 + 3 * i) (.inl (γ.cA 0, 32, .inl f)) = enc γ (sS σ i (qc (σ.S i) f)) := by
  refine up_eq (by rw [en_C hi, sS_S]; rfl) (fun n h => ?_)
  by_cases hn : n < 9 ∨ 39 ≤ n ∨ (n - 9) / 3 ≠ i
  · exact en_sS hn
  · have : n = 9 + 3 * i ∨ n = 11 + 3 * i := by omega
    rcases this with rfl | rfl
    · rw [en_S hi, en_S hi, sS_S]; rfl
    · rw [en_K hi, en_K hi, sS_S]; rfl
theorem up_K {i : Nat} {f : TF} (hi : i < 10) : va_up (enc γ σ) (11 + 3 * i) (.inl (γ.cA 0, 24, .inl f)) = enc γ (sS σ i (qs (σ.S i) f)) := by
  refine up_eq (by rw [en_K hi, sS_S]; rfl) (fun n h => ?_)
  by_cases hn : n < 9 ∨ 39 ≤ n ∨ (n - 9) / 3 ≠ i
  · exact en_sS hn
  · have : n = 9 + 3 * i ∨ n = 10 + 3 * i := by omega
    rcases this with rfl | rfl
    · rw [en_S hi, en_S hi, sS_S]; rfl
    · rw [en_C hi, en_C hi, sS_S]; rfl
theorem up_N {j : Nat} {s : SS} (hj : j < 32) (hc : s.c = (σ.T j).c ∧ s.s = (σ.T j).s) : va_up (enc γ σ) (39 + 3 * j) (.inr (1, fsT γ j s)) = enc γ (sT σ j s) := by
  refine up_eq (by rw [en_N hj, sT_T]) (fun n h => ?_)
  by_cases hn : n < 39 ∨ 135 ≤ n ∨ (n - 39) / 3 ≠ j
  · exact en_sT hn
  · have : n = 40 + 3 * j ∨ n = 41 + 3 * j := by omega
    rcases this with rfl | rfl
    · rw [en_P hj, en_P hj, sT_T, hc.1]
    · rw [en_V hj, en_V hj, sT_T, hc.2]
theorem up_P {j : Nat} {f : TF} (hj : j < 32) : va_up (enc γ σ) (40 + 3 * j) (.inl (γ.cA 0, 4, .inl f)) = enc γ (sT σ j (qc (σ.T j) f)) := by
  refine up_eq (by rw [en_P hj, sT_T]; rfl) (fun n h => ?_)
  by_cases hn : n < 39 ∨ 135 ≤ n ∨ (n - 39) / 3 ≠ j
  · exact en_sT hn
  · have : n = 39 + 3 * j ∨ n = 41 + 3 * j := by omega
    rcases this with rfl | rfl
    · rw [en_N hj, en_N hj, sT_T]; rfl
    · rw [en_V hj, en_V hj, sT_T]; rfl
theorem up_V {j : Nat} {f : TF} (hj : j < 32) : va_up (enc γ σ) (41 + 3 * j) (.inl (γ.cA 0, 4, .inl f)) = enc γ (sT σ j (qs (σ.T j) f)) := by
  refine up_eq (by rw [en_V hj, sT_T]; rfl) (fun n h => ?_)
  by_cases hn : n < 39 ∨ 135 ≤ n ∨ (n - 39) / 3 ≠ j
  · exact en_sT hn
  · have : n = 39 + 3 * j ∨ n = 40 + 3 * j := by omega
    rcases this with rfl | rfl
    · rw [en_N hj, en_N hj, sT_T]; rfl
    · rw [en_P hj, en_P hj, sT_T]; rfl
theorem up_U {j : Nat} {v : Int32} {fs : List Value} (hf : fs = fsO γ (sMI σ j v)) : va_up (enc γ σ) 135 (.inr (4, fs)) = enc γ (sMI σ j v) := by
  subst hf
  exact up_eq en_U (fun n h => en_ext (fun _ => rfl) (fun _ _ _ => rfl) (fun _ => rfl) (fun _ => rfl) (fun _ _ => rfl) (fun _ _ => rfl) (fun q => absurd q h) (fun _ _ _ => rfl) (fun _ => rfl))
theorem up_G {k : Nat} {f : TF} (hk : k < 10) : va_up (enc γ σ) (136 + k) (.inl (γ.cA (cFG k), lenG k, .inl f)) = enc γ (sMF σ k f) := by
  refine up_eq ?_ (fun n h => en_ext (fun _ => rfl) (fun _ _ _ => rfl) (fun _ => rfl) (fun _ => rfl) (fun _ _ => rfl) (fun _ _ => rfl) (fun _ => rfl) (fun q hq _ => va_up_ne _ _ (by omega)) (fun _ => rfl))
  rw [en_G hk]
  show Sum.inl (γ.cA (cFG k), lenG k, Sum.inl (va_up σ.MF k f k)) = _
  rw [va_up_self]
theorem up_J {f : Nat → Int64} : va_up (enc γ σ) 146 (.inl (γ.cA 4, 1, .inr (.inl f))) = enc γ (sO σ f) :=
  up_eq en_J (fun n h => en_ext (fun _ => rfl) (fun _ _ _ => rfl) (fun _ => rfl) (fun _ => rfl) (fun _ _ => rfl) (fun _ _ => rfl) (fun _ => rfl) (fun _ _ _ => rfl) (fun q => absurd q h))
theorem sS_eta {i : Nat} : sS σ i (σ.S i) = σ := by
  show ((σ.I, σ.J, σ.F, σ.κ, va_up σ.S i (σ.S i), σ.T), σ.2) = σ
  rw [show va_up σ.S i (σ.S i) = σ.S from funext fun n => by unfold va_up; by_cases h : n = i <;> simp [h]]
theorem sT_eta {j : Nat} : sT σ j (σ.T j) = σ := by
  show ((σ.I, σ.J, σ.F, σ.κ, σ.S, va_up σ.T j (σ.T j)), σ.2) = σ
  rw [show va_up σ.T j (σ.T j) = σ.T from funext fun n => by unfold va_up; by_cases h : n = j <;> simp [h]]
theorem sS_sS {i : Nat} {a b : SS} : sS (sS σ i a) i b = sS σ i b := by
  show ((σ.I, σ.J, σ.F, σ.κ, va_up (va_up σ.S i a) i b, σ.T), σ.2) = ((σ.I, σ.J, σ.F, σ.κ, va_up σ.S i b, σ.T), σ.2)
  rw [bx_uu]
theorem sT_sT {j : Nat} {a b : SS} : sT (sT σ j a) j b = sT σ j b := by
  show ((σ.I, σ.J, σ.F, σ.κ, σ.S, va_up (va_up σ.T j a) j b), σ.2) = ((σ.I, σ.J, σ.F, σ.κ, σ.S, va_up σ.T j b), σ.2)
  rw [bx_uu]
end EN
