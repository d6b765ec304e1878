/-! ===== the model's machine state as an SS ===== -/
def mMI (σ : SGG) (s : SS) : TF := fun j => if j = 7 then s.h else if j = 3 then s.p else if j = 4 then s.f else if j = 5 then s.x else if j = 6 then s.k else if j = 2 then s.t else σ.MI j
def mMF (σ : SGG) (s : SS) : Nat → TF := fun k => if k = 4 then s.c else if k = 5 then s.s else σ.MF k
def mM (σ : SGG) (s : SS) : SGG := (σ.1, (mMI σ s, mMF σ s), σ.O)
def mS (σ : SGG) : SS := (σ.MI 7, σ.MI 3, σ.MI 4, σ.MI 5, σ.MI 6, σ.MI 2, σ.MF 4, σ.MF 5)
section UM
variable {σ : SGG} {s : SS} {v : Int32} {f : TF}
theorem mM_eta : mM σ (mS σ) = σ := by
  show (σ.1, (mMI σ (mS σ), mMF σ (mS σ)), σ.O) = σ
  rw [show mMI σ (mS σ) = σ.MI from funext fun j => by
    unfold mMI
    by_cases h7 : j = 7
    · subst h7; rfl
    · by_cases h3 : j = 3
      · subst h3; rfl
      · by_cases h4 : j = 4
        · subst h4; rfl
        · by_cases h5 : j = 5
          · subst h5; rfl
          · by_cases h6 : j = 6
            · subst h6; rfl
            · by_cases h2 : j = 2
              · subst h2; rfl
              · simp [h7, h3, h4, h5, h6, h2],
    show mMF σ (mS σ) = σ.MF from funext fun k => by
    unfold mMF
    by_cases h4 : k = 4
    · subst h4; rfl
    · by_cases h5 : k = 5
      · subst h5; rfl
      · simp [h4, h5]]
theorem mM_mS : mS (mM σ s) = s := rfl
theorem mM_mM {s2 : SS} : mM (mM σ s) s2 = mM σ s2 := by
  show (σ.1, (mMI (mM σ s) s2, mMF (mM σ s) s2), σ.O) = (σ.1, (mMI σ s2, mMF σ s2), σ.O)
  rw [show mMI (mM σ s) s2 = mMI σ s2 from funext fun j => by
    unfold mMI
    by_cases h7 : j = 7
    · simp [h7]
    · by_cases h3 : j = 3
      · simp [h3]
      · by_cases h4 : j = 4
        · simp [h4]
        · by_cases h5 : j = 5
          · simp [h5]
          · by_cases h6 : j = 6
            · simp [h6]
            · by_cases h2 : j = 2
              · simp [h2]
              · simp only [h7, h3, h4, h5, h6, h2, if_false]
                show mMI σ s j = σ.MI j
                unfold mMI
                simp [h7, h3, h4, h5, h6, h2],
    show mMF (mM σ s) s2 = mMF σ s2 from funext fun k => by
    unfold mMF
    by_cases h4 : k = 4
    · simp [h4]
    · by_cases h5 : k = 5
      · simp [h5]
      · simp only [h4, h5, if_false]
        show mMF σ s k = σ.MF k
        unfold mMF
        simp [h4, h5]]
theorem mM_code : sMI (mM σ s) 0 v = mM (sMI σ 0 v) s := by
  show (σ.1, (va_up (mMI σ s) 0 v, mMF σ s), σ.O) = (σ.1, (mMI (sMI σ 0 v) s, mMF σ s), σ.O)
  rw [show va_up (mMI σ s) 0 v = mMI (sMI σ 0 v) s from funext fun j => by unfold va_up mMI sMI; by_cases h : j = 0 <;> simp [h, va_up, SGG.MI, SGG.MF]]
theorem mM_given : sMI (mM σ s) 1 v = mM (sMI σ 1 v) s := by
  show (σ.1, (va_up (mMI σ s) 1 v, mMF σ s), σ.O) = (σ.1, (mMI (sMI σ 1 v) s, mMF σ s), σ.O)
  rw [show va_up (mMI σ s) 1 v = mMI (sMI σ 1 v) s from funext fun j => by unfold va_up mMI sMI; by_cases h : j = 1 <;> simp [h, va_up, SGG.MI, SGG.MF]]
theorem mM_time : sMI (mM σ s) 2 v = mM σ (q5 s v) := by
  show (σ.1, (va_up (mMI σ s) 2 v, mMF σ s), σ.O) = (σ.1, (mMI σ (q5 s v), mMF σ (q5 s v)), σ.O)
  rw [show va_up (mMI σ s) 2 v = mMI σ (q5 s v) from funext fun j => by unfold va_up mMI; by_cases h : j = 2 <;> simp [h, q5]]
  rfl
theorem mM_pc : sMI (mM σ s) 3 v = mM σ (q1 s v) := by
  show (σ.1, (va_up (mMI σ s) 3 v, mMF σ s), σ.O) = (σ.1, (mMI σ (q1 s v), mMF σ (q1 s v)), σ.O)
  rw [show va_up (mMI σ s) 3 v = mMI σ (q1 s v) from funext fun j => by unfold va_up mMI; by_cases h : j = 3 <;> simp [h, q1]]
  rfl
theorem mM_frame : sMI (mM σ s) 4 v = mM σ (q2 s v) := by
  show (σ.1, (va_up (mMI σ s) 4 v, mMF σ s), σ.O) = (σ.1, (mMI σ (q2 s v), mMF σ (q2 s v)), σ.O)
  rw [show va_up (mMI σ s) 4 v = mMI σ (q2 s v) from funext fun j => by unfold va_up mMI; by_cases h : j = 4 <;> simp [h, q2]]
  rfl
theorem mM_x : sMI (mM σ s) 5 v = mM σ (q3 s v) := by
  show (σ.1, (va_up (mMI σ s) 5 v, mMF σ s), σ.O) = (σ.1, (mMI σ (q3 s v), mMF σ (q3 s v)), σ.O)
  rw [show va_up (mMI σ s) 5 v = mMI σ (q3 s v) from funext fun j => by unfold va_up mMI; by_cases h : j = 5 <;> simp [h, q3]]
  rfl
theorem mM_taken : sMI (mM σ s) 6 v = mM σ (q4 s v) := by
  show (σ.1, (va_up (mMI σ s) 6 v, mMF σ s), σ.O) = (σ.1, (mMI σ (q4 s v), mMF σ (q4 s v)), σ.O)
  rw [show va_up (mMI σ s) 6 v = mMI σ (q4 s v) from funext fun j => by unfold va_up mMI; by_cases h : j = 6 <;> simp [h, q4]]
  rfl
theorem mM_height : sMI (mM σ s) 7 v = mM σ (q0 s v) := by
  show (σ.1, (va_up (mMI σ s) 7 v, mMF σ s), σ.O) = (σ.1, (mMI σ (q0 s v), mMF σ (q0 s v)), σ.O)
  rw [show va_up (mMI σ s) 7 v = mMI σ (q0 s v) from funext fun j => by unfold va_up mMI; by_cases h : j = 7 <;> simp [h, q0]]
  rfl
theorem mM_reached : sMI (mM σ s) 8 v = mM (sMI σ 8 v) s := by
  show (σ.1, (va_up (mMI σ s) 8 v, mMF σ s), σ.O) = (σ.1, (mMI (sMI σ 8 v) s, mMF σ s), σ.O)
  rw [show va_up (mMI σ s) 8 v = mMI (sMI σ 8 v) s from funext fun j => by unfold va_up mMI sMI; by_cases h : j = 8 <;> simp [h, va_up, SGG.MI, SGG.MF]]
theorem mM_undo : sMI (mM σ s) 9 v = mM (sMI σ 9 v) s := by
  show (σ.1, (va_up (mMI σ s) 9 v, mMF σ s), σ.O) = (σ.1, (mMI (sMI σ 9 v) s, mMF σ s), σ.O)
  rw [show va_up (mMI σ s) 9 v = mMI (sMI σ 9 v) s from funext fun j => by unfold va_up mMI sMI; by_cases h : j = 9 <;> simp [h, va_up, SGG.MI, SGG.MF]]
theorem mM_cost : sMI (mM σ s) 10 v = mM (sMI σ 10 v) s := by
  show (σ.1, (va_up (mMI σ s) 10 v, mMF σ s), σ.O) = (σ.1, (mMI (sMI σ 10 v) s, mMF σ s), σ.O)
  rw [show va_up (mMI σ s) 10 v = mMI (sMI σ 10 v) s from funext fun j => by unfold va_up mMI sMI; by_cases h : j = 10 <;> simp [h, va_up, SGG.MI, SGG.MF]]
theorem mM_every : sMI (mM σ s) 11 v = mM (sMI σ 11 v) s := by
  show (σ.1, (va_up (mMI σ s) 11 v, mMF σ s), σ.O) = (σ.1, (mMI (sMI σ 11 v) s, mMF σ s), σ.O)
  rw [show va_up (mMI σ s) 11 v = mMI (sMI σ 11 v) s from funext fun j => by unfold va_up mMI sMI; by_cases h : j = 11 <;> simp [h, va_up, SGG.MI, SGG.MF]]
theorem mM_kept : sMI (mM σ s) 12 v = mM (sMI σ 12 v) s := by
  show (σ.1, (va_up (mMI σ s) 12 v, mMF σ s), σ.O) = (σ.1, (mMI (sMI σ 12 v) s, mMF σ s), σ.O)
  rw [show va_up (mMI σ s) 12 v = mMI (sMI σ 12 v) s from funext fun j => by unfold va_up mMI sMI; by_cases h : j = 12 <;> simp [h, va_up, SGG.MI, SGG.MF]]
theorem mMF_program : sMF (mM σ s) 0 f = mM (sMF σ 0 f) s := by
  show (σ.1, (mMI σ s, va_up (mMF σ s) 0 f), σ.O) = (σ.1, (mMI σ s, mMF (sMF σ 0 f) s), σ.O)
  rw [show va_up (mMF σ s) 0 f = mMF (sMF σ 0 f) s from funext fun j => by unfold va_up mMF sMF; by_cases h : j = 0 <;> simp [h, va_up, SGG.MI, SGG.MF]]
theorem mMF_inputs : sMF (mM σ s) 1 f = mM (sMF σ 1 f) s := by
  show (σ.1, (mMI σ s, va_up (mMF σ s) 1 f), σ.O) = (σ.1, (mMI σ s, mMF (sMF σ 1 f) s), σ.O)
  rw [show va_up (mMF σ s) 1 f = mMF (sMF σ 1 f) s from funext fun j => by unfold va_up mMF sMF; by_cases h : j = 1 <;> simp [h, va_up, SGG.MI, SGG.MF]]
theorem mMF_breaks : sMF (mM σ s) 2 f = mM (sMF σ 2 f) s := by
  show (σ.1, (mMI σ s, va_up (mMF σ s) 2 f), σ.O) = (σ.1, (mMI σ s, mMF (sMF σ 2 f) s), σ.O)
  rw [show va_up (mMF σ s) 2 f = mMF (sMF σ 2 f) s from funext fun j => by unfold va_up mMF sMF; by_cases h : j = 2 <;> simp [h, va_up, SGG.MI, SGG.MF]]
theorem mMF_watches : sMF (mM σ s) 3 f = mM (sMF σ 3 f) s := by
  show (σ.1, (mMI σ s, va_up (mMF σ s) 3 f), σ.O) = (σ.1, (mMI σ s, mMF (sMF σ 3 f) s), σ.O)
  rw [show va_up (mMF σ s) 3 f = mMF (sMF σ 3 f) s from funext fun j => by unfold va_up mMF sMF; by_cases h : j = 3 <;> simp [h, va_up, SGG.MI, SGG.MF]]
theorem mMF_cells : sMF (mM σ s) 4 f = mM σ (qc s f) := by
  show (σ.1, (mMI σ s, va_up (mMF σ s) 4 f), σ.O) = (σ.1, (mMI σ (qc s f), mMF σ (qc s f)), σ.O)
  rw [show va_up (mMF σ s) 4 f = mMF σ (qc s f) from funext fun j => by unfold va_up mMF; by_cases h : j = 4 <;> simp [h, qc]]
  rfl
theorem mMF_stack : sMF (mM σ s) 5 f = mM σ (qs s f) := by
  show (σ.1, (mMI σ s, va_up (mMF σ s) 5 f), σ.O) = (σ.1, (mMI σ (qs s f), mMF σ (qs s f)), σ.O)
  rw [show va_up (mMF σ s) 5 f = mMF σ (qs s f) from funext fun j => by unfold va_up mMF; by_cases h : j = 5 <;> simp [h, qs]]
  rfl
theorem mMF_were : sMF (mM σ s) 6 f = mM (sMF σ 6 f) s := by
  show (σ.1, (mMI σ s, va_up (mMF σ s) 6 f), σ.O) = (σ.1, (mMI σ s, mMF (sMF σ 6 f) s), σ.O)
  rw [show va_up (mMF σ s) 6 f = mMF (sMF σ 6 f) s from funext fun j => by unfold va_up mMF sMF; by_cases h : j = 6 <;> simp [h, va_up, SGG.MI, SGG.MF]]
theorem mMF_markWords : sMF (mM σ s) 7 f = mM (sMF σ 7 f) s := by
  show (σ.1, (mMI σ s, va_up (mMF σ s) 7 f), σ.O) = (σ.1, (mMI σ s, mMF (sMF σ 7 f) s), σ.O)
  rw [show va_up (mMF σ s) 7 f = mMF (sMF σ 7 f) s from funext fun j => by unfold va_up mMF sMF; by_cases h : j = 7 <;> simp [h, va_up, SGG.MI, SGG.MF]]
theorem mMF_markOthers : sMF (mM σ s) 8 f = mM (sMF σ 8 f) s := by
  show (σ.1, (mMI σ s, va_up (mMF σ s) 8 f), σ.O) = (σ.1, (mMI σ s, mMF (sMF σ 8 f) s), σ.O)
  rw [show va_up (mMF σ s) 8 f = mMF (sMF σ 8 f) s from funext fun j => by unfold va_up mMF sMF; by_cases h : j = 8 <;> simp [h, va_up, SGG.MI, SGG.MF]]
theorem mMF_keptAt : sMF (mM σ s) 9 f = mM (sMF σ 9 f) s := by
  show (σ.1, (mMI σ s, va_up (mMF σ s) 9 f), σ.O) = (σ.1, (mMI σ s, mMF (sMF σ 9 f) s), σ.O)
  rw [show va_up (mMF σ s) 9 f = mMF (sMF σ 9 f) s from funext fun j => by unfold va_up mMF sMF; by_cases h : j = 9 <;> simp [h, va_up, SGG.MI, SGG.MF]]
end UM
section UR
variable {x : CT} {γ : GH} {cc : ByteArray} {own : String} {ret : Option FieldType} {rm : Room} {κ : Nat × Nat} {Q : State → Prop} {σ : SGG} {s : SS} {pc : Nat} {L : List (Option Value)} {st : List Value}
theorem gU_program (C : Cx x γ cc own ret rm) (hY : 146 ≤ γ.N) {idx : Nat} (hd : decode cc pc = .ok (.getfield idx, 3)) (hl : Cond.fieldLink own idx (F_MO 0).1 (F_MO 0).2.1 (F_MO 0).2.2.1 ∈ TB) (kk : V x γ κ Q (enc γ (mM σ s)) (pc + 3) L (.ref (aG γ 0) :: st)) : V x γ κ Q (enc γ (mM σ s)) pc L (.ref (aU γ) :: st) := gO_program C hY hd hl kk
theorem gU_inputs (C : Cx x γ cc own ret rm) (hY : 146 ≤ γ.N) {idx : Nat} (hd : decode cc pc = .ok (.getfield idx, 3)) (hl : Cond.fieldLink own idx (F_MO 1).1 (F_MO 1).2.1 (F_MO 1).2.2.1 ∈ TB) (kk : V x γ κ Q (enc γ (mM σ s)) (pc + 3) L (.ref (aG γ 1) :: st)) : V x γ κ Q (enc γ (mM σ s)) pc L (.ref (aU γ) :: st) := gO_inputs C hY hd hl kk
theorem gU_breaks (C : Cx x γ cc own ret rm) (hY : 146 ≤ γ.N) {idx : Nat} (hd : decode cc pc = .ok (.getfield idx, 3)) (hl : Cond.fieldLink own idx (F_MO 2).1 (F_MO 2).2.1 (F_MO 2).2.2.1 ∈ TB) (kk : V x γ κ Q (enc γ (mM σ s)) (pc + 3) L (.ref (aG γ 2) :: st)) : V x γ κ Q (enc γ (mM σ s)) pc L (.ref (aU γ) :: st) := gO_breaks C hY hd hl kk
theorem gU_watches (C : Cx x γ cc own ret rm) (hY : 146 ≤ γ.N) {idx : Nat} (hd : decode cc pc = .ok (.getfield idx, 3)) (hl : Cond.fieldLink own idx (F_MO 3).1 (F_MO 3).2.1 (F_MO 3).2.2.1 ∈ TB) (kk : V x γ κ Q (enc γ (mM σ s)) (pc + 3) L (.ref (aG γ 3) :: st)) : V x γ κ Q (enc γ (mM σ s)) pc L (.ref (aU γ) :: st) := gO_watches C hY hd hl kk
theorem gU_cells (C : Cx x γ cc own ret rm) (hY : 146 ≤ γ.N) {idx : Nat} (hd : decode cc pc = .ok (.getfield idx, 3)) (hl : Cond.fieldLink own idx (F_MO 4).1 (F_MO 4).2.1 (F_MO 4).2.2.1 ∈ TB) (kk : V x γ κ Q (enc γ (mM σ s)) (pc + 3) L (.ref (aG γ 4) :: st)) : V x γ κ Q (enc γ (mM σ s)) pc L (.ref (aU γ) :: st) := gO_cells C hY hd hl kk
theorem gU_stack (C : Cx x γ cc own ret rm) (hY : 146 ≤ γ.N) {idx : Nat} (hd : decode cc pc = .ok (.getfield idx, 3)) (hl : Cond.fieldLink own idx (F_MO 5).1 (F_MO 5).2.1 (F_MO 5).2.2.1 ∈ TB) (kk : V x γ κ Q (enc γ (mM σ s)) (pc + 3) L (.ref (aG γ 5) :: st)) : V x γ κ Q (enc γ (mM σ s)) pc L (.ref (aU γ) :: st) := gO_stack C hY hd hl kk
theorem gU_were (C : Cx x γ cc own ret rm) (hY : 146 ≤ γ.N) {idx : Nat} (hd : decode cc pc = .ok (.getfield idx, 3)) (hl : Cond.fieldLink own idx (F_MO 6).1 (F_MO 6).2.1 (F_MO 6).2.2.1 ∈ TB) (kk : V x γ κ Q (enc γ (mM σ s)) (pc + 3) L (.ref (aG γ 6) :: st)) : V x γ κ Q (enc γ (mM σ s)) pc L (.ref (aU γ) :: st) := gO_were C hY hd hl kk
theorem gU_markWords (C : Cx x γ cc own ret rm) (hY : 146 ≤ γ.N) {idx : Nat} (hd : decode cc pc = .ok (.getfield idx, 3)) (hl : Cond.fieldLink own idx (F_MO 7).1 (F_MO 7).2.1 (F_MO 7).2.2.1 ∈ TB) (kk : V x γ κ Q (enc γ (mM σ s)) (pc + 3) L (.ref (aG γ 7) :: st)) : V x γ κ Q (enc γ (mM σ s)) pc L (.ref (aU γ) :: st) := gO_markWords C hY hd hl kk
theorem gU_markOthers (C : Cx x γ cc own ret rm) (hY : 146 ≤ γ.N) {idx : Nat} (hd : decode cc pc = .ok (.getfield idx, 3)) (hl : Cond.fieldLink own idx (F_MO 8).1 (F_MO 8).2.1 (F_MO 8).2.2.1 ∈ TB) (kk : V x γ κ Q (enc γ (mM σ s)) (pc + 3) L (.ref (aG γ 8) :: st)) : V x γ κ Q (enc γ (mM σ s)) pc L (.ref (aU γ) :: st) := gO_markOthers C hY hd hl kk
theorem gU_keptAt (C : Cx x γ cc own ret rm) (hY : 146 ≤ γ.N) {idx : Nat} (hd : decode cc pc = .ok (.getfield idx, 3)) (hl : Cond.fieldLink own idx (F_MO 9).1 (F_MO 9).2.1 (F_MO 9).2.2.1 ∈ TB) (kk : V x γ κ Q (enc γ (mM σ s)) (pc + 3) L (.ref (aG γ 9) :: st)) : V x γ κ Q (enc γ (mM σ s)) pc L (.ref (aU γ) :: st) := gO_keptAt C hY hd hl kk
theorem gU_code (C : Cx x γ cc own ret rm) (hY : 146 ≤ γ.N) {idx : Nat} (hd : decode cc pc = .ok (.getfield idx, 3)) (hl : Cond.fieldLink own idx (F_MO 10).1 (F_MO 10).2.1 (F_MO 10).2.2.1 ∈ TB) (kk : V x γ κ Q (enc γ (mM σ s)) (pc + 3) L (.int (σ.MI 0) :: st)) : V x γ κ Q (enc γ (mM σ s)) pc L (.ref (aU γ) :: st) := gO_code C hY hd hl kk
theorem pU_code (C : Cx x γ cc own ret rm) (hY : 146 ≤ γ.N) {v : Int32} {idx : Nat} (hd : decode cc pc = .ok (.putfield idx, 3)) (hl : Cond.fieldLink own idx (F_MO 10).1 (F_MO 10).2.1 (F_MO 10).2.2.1 ∈ TB) (kk : V x γ κ Q (enc γ (mM (sMI σ 0 v) s)) (pc + 3) L (st)) : V x γ κ Q (enc γ (mM σ s)) pc L (.int v :: .ref (aU γ) :: st) := pO_code C hY hd hl (v_w mM_code kk)
theorem gU_given (C : Cx x γ cc own ret rm) (hY : 146 ≤ γ.N) {idx : Nat} (hd : decode cc pc = .ok (.getfield idx, 3)) (hl : Cond.fieldLink own idx (F_MO 11).1 (F_MO 11).2.1 (F_MO 11).2.2.1 ∈ TB) (kk : V x γ κ Q (enc γ (mM σ s)) (pc + 3) L (.int (σ.MI 1) :: st)) : V x γ κ Q (enc γ (mM σ s)) pc L (.ref (aU γ) :: st) := gO_given C hY hd hl kk
theorem pU_given (C : Cx x γ cc own ret rm) (hY : 146 ≤ γ.N) {v : Int32} {idx : Nat} (hd : decode cc pc = .ok (.putfield idx, 3)) (hl : Cond.fieldLink own idx (F_MO 11).1 (F_MO 11).2.1 (F_MO 11).2.2.1 ∈ TB) (kk : V x γ κ Q (enc γ (mM (sMI σ 1 v) s)) (pc + 3) L (st)) : V x γ κ Q (enc γ (mM σ s)) pc L (.int v :: .ref (aU γ) :: st) := pO_given C hY hd hl (v_w mM_given kk)
theorem gU_time (C : Cx x γ cc own ret rm) (hY : 146 ≤ γ.N) {idx : Nat} (hd : decode cc pc = .ok (.getfield idx, 3)) (hl : Cond.fieldLink own idx (F_MO 12).1 (F_MO 12).2.1 (F_MO 12).2.2.1 ∈ TB) (kk : V x γ κ Q (enc γ (mM σ s)) (pc + 3) L (.int s.t :: st)) : V x γ κ Q (enc γ (mM σ s)) pc L (.ref (aU γ) :: st) := gO_time C hY hd hl kk
theorem pU_time (C : Cx x γ cc own ret rm) (hY : 146 ≤ γ.N) {v : Int32} {idx : Nat} (hd : decode cc pc = .ok (.putfield idx, 3)) (hl : Cond.fieldLink own idx (F_MO 12).1 (F_MO 12).2.1 (F_MO 12).2.2.1 ∈ TB) (kk : V x γ κ Q (enc γ (mM σ (q5 s v))) (pc + 3) L (st)) : V x γ κ Q (enc γ (mM σ s)) pc L (.int v :: .ref (aU γ) :: st) := pO_time C hY hd hl (v_w mM_time kk)
theorem gU_pc (C : Cx x γ cc own ret rm) (hY : 146 ≤ γ.N) {idx : Nat} (hd : decode cc pc = .ok (.getfield idx, 3)) (hl : Cond.fieldLink own idx (F_MO 13).1 (F_MO 13).2.1 (F_MO 13).2.2.1 ∈ TB) (kk : V x γ κ Q (enc γ (mM σ s)) (pc + 3) L (.int s.p :: st)) : V x γ κ Q (enc γ (mM σ s)) pc L (.ref (aU γ) :: st) := gO_pc C hY hd hl kk
theorem pU_pc (C : Cx x γ cc own ret rm) (hY : 146 ≤ γ.N) {v : Int32} {idx : Nat} (hd : decode cc pc = .ok (.putfield idx, 3)) (hl : Cond.fieldLink own idx (F_MO 13).1 (F_MO 13).2.1 (F_MO 13).2.2.1 ∈ TB) (kk : V x γ κ Q (enc γ (mM σ (q1 s v))) (pc + 3) L (st)) : V x γ κ Q (enc γ (mM σ s)) pc L (.int v :: .ref (aU γ) :: st) := pO_pc C hY hd hl (v_w mM_pc kk)
theorem gU_frame (C : Cx x γ cc own ret rm) (hY : 146 ≤ γ.N) {idx : Nat} (hd : decode cc pc = .ok (.getfield idx, 3)) (hl : Cond.fieldLink own idx (F_MO 14).1 (F_MO 14).2.1 (F_MO 14).2.2.1 ∈ TB) (kk : V x γ κ Q (enc γ (mM σ s)) (pc + 3) L (.int s.f :: st)) : V x γ κ Q (enc γ (mM σ s)) pc L (.ref (aU γ) :: st) := gO_frame C hY hd hl kk
theorem pU_frame (C : Cx x γ cc own ret rm) (hY : 146 ≤ γ.N) {v : Int32} {idx : Nat} (hd : decode cc pc = .ok (.putfield idx, 3)) (hl : Cond.fieldLink own idx (F_MO 14).1 (F_MO 14).2.1 (F_MO 14).2.2.1 ∈ TB) (kk : V x γ κ Q (enc γ (mM σ (q2 s v))) (pc + 3) L (st)) : V x γ κ Q (enc γ (mM σ s)) pc L (.int v :: .ref (aU γ) :: st) := pO_frame C hY hd hl (v_w mM_frame kk)
theorem gU_x (C : Cx x γ cc own ret rm) (hY : 146 ≤ γ.N) {idx : Nat} (hd : decode cc pc = .ok (.getfield idx, 3)) (hl : Cond.fieldLink own idx (F_MO 15).1 (F_MO 15).2.1 (F_MO 15).2.2.1 ∈ TB) (kk : V x γ κ Q (enc γ (mM σ s)) (pc + 3) L (.int s.x :: st)) : V x γ κ Q (enc γ (mM σ s)) pc L (.ref (aU γ) :: st) := gO_x C hY hd hl kk
theorem pU_x (C : Cx x γ cc own ret rm) (hY : 146 ≤ γ.N) {v : Int32} {idx : Nat} (hd : decode cc pc = .ok (.putfield idx, 3)) (hl : Cond.fieldLink own idx (F_MO 15).1 (F_MO 15).2.1 (F_MO 15).2.2.1 ∈ TB) (kk : V x γ κ Q (enc γ (mM σ (q3 s v))) (pc + 3) L (st)) : V x γ κ Q (enc γ (mM σ s)) pc L (.int v :: .ref (aU γ) :: st) := pO_x C hY hd hl (v_w mM_x kk)
theorem gU_taken (C : Cx x γ cc own ret rm) (hY : 146 ≤ γ.N) {idx : Nat} (hd : decode cc pc = .ok (.getfield idx, 3)) (hl : Cond.fieldLink own idx (F_MO 16).1 (F_MO 16).2.1 (F_MO 16).2.2.1 ∈ TB) (kk : V x γ κ Q (enc γ (mM σ s)) (pc + 3) L (.int s.k :: st)) : V x γ κ Q (enc γ (mM σ s)) pc L (.ref (aU γ) :: st) := gO_taken C hY hd hl kk
theorem pU_taken (C : Cx x γ cc own ret rm) (hY : 146 ≤ γ.N) {v : Int32} {idx : Nat} (hd : decode cc pc = .ok (.putfield idx, 3)) (hl : Cond.fieldLink own idx (F_MO 16).1 (F_MO 16).2.1 (F_MO 16).2.2.1 ∈ TB) (kk : V x γ κ Q (enc γ (mM σ (q4 s v))) (pc + 3) L (st)) : V x γ κ Q (enc γ (mM σ s)) pc L (.int v :: .ref (aU γ) :: st) := pO_taken C hY hd hl (v_w mM_taken kk)
theorem gU_height (C : Cx x γ cc own ret rm) (hY : 146 ≤ γ.N) {idx : Nat} (hd : decode cc pc = .ok (.getfield idx, 3)) (hl : Cond.fieldLink own idx (F_MO 17).1 (F_MO 17).2.1 (F_MO 17).2.2.1 ∈ TB) (kk : V x γ κ Q (enc γ (mM σ s)) (pc + 3) L (.int s.h :: st)) : V x γ κ Q (enc γ (mM σ s)) pc L (.ref (aU γ) :: st) := gO_height C hY hd hl kk
theorem pU_height (C : Cx x γ cc own ret rm) (hY : 146 ≤ γ.N) {v : Int32} {idx : Nat} (hd : decode cc pc = .ok (.putfield idx, 3)) (hl : Cond.fieldLink own idx (F_MO 17).1 (F_MO 17).2.1 (F_MO 17).2.2.1 ∈ TB) (kk : V x γ κ Q (enc γ (mM σ (q0 s v))) (pc + 3) L (st)) : V x γ κ Q (enc γ (mM σ s)) pc L (.int v :: .ref (aU γ) :: st) := pO_height C hY hd hl (v_w mM_height kk)
theorem gU_reached (C : Cx x γ cc own ret rm) (hY : 146 ≤ γ.N) {idx : Nat} (hd : decode cc pc = .ok (.getfield idx, 3)) (hl : Cond.fieldLink own idx (F_MO 18).1 (F_MO 18).2.1 (F_MO 18).2.2.1 ∈ TB) (kk : V x γ κ Q (enc γ (mM σ s)) (pc + 3) L (.int (σ.MI 8) :: st)) : V x γ κ Q (enc γ (mM σ s)) pc L (.ref (aU γ) :: st) := gO_reached C hY hd hl kk
theorem pU_reached (C : Cx x γ cc own ret rm) (hY : 146 ≤ γ.N) {v : Int32} {idx : Nat} (hd : decode cc pc = .ok (.putfield idx, 3)) (hl : Cond.fieldLink own idx (F_MO 18).1 (F_MO 18).2.1 (F_MO 18).2.2.1 ∈ TB) (kk : V x γ κ Q (enc γ (mM (sMI σ 8 v) s)) (pc + 3) L (st)) : V x γ κ Q (enc γ (mM σ s)) pc L (.int v :: .ref (aU γ) :: st) := pO_reached C hY hd hl (v_w mM_reached kk)
theorem gU_undo (C : Cx x γ cc own ret rm) (hY : 146 ≤ γ.N) {idx : Nat} (hd : decode cc pc = .ok (.getfield idx, 3)) (hl : Cond.fieldLink own idx (F_MO 19).1 (F_MO 19).2.1 (F_MO 19).2.2.1 ∈ TB) (kk : V x γ κ Q (enc γ (mM σ s)) (pc + 3) L (.int (σ.MI 9) :: st)) : V x γ κ Q (enc γ (mM σ s)) pc L (.ref (aU γ) :: st) := gO_undo C hY hd hl kk
theorem pU_undo (C : Cx x γ cc own ret rm) (hY : 146 ≤ γ.N) {v : Int32} {idx : Nat} (hd : decode cc pc = .ok (.putfield idx, 3)) (hl : Cond.fieldLink own idx (F_MO 19).1 (F_MO 19).2.1 (F_MO 19).2.2.1 ∈ TB) (kk : V x γ κ Q (enc γ (mM (sMI σ 9 v) s)) (pc + 3) L (st)) : V x γ κ Q (enc γ (mM σ s)) pc L (.int v :: .ref (aU γ) :: st) := pO_undo C hY hd hl (v_w mM_undo kk)
theorem gU_cost (C : Cx x γ cc own ret rm) (hY : 146 ≤ γ.N) {idx : Nat} (hd : decode cc pc = .ok (.getfield idx, 3)) (hl : Cond.fieldLink own idx (F_MO 20).1 (F_MO 20).2.1 (F_MO 20).2.2.1 ∈ TB) (kk : V x γ κ Q (enc γ (mM σ s)) (pc + 3) L (.int (σ.MI 10) :: st)) : V x γ κ Q (enc γ (mM σ s)) pc L (.ref (aU γ) :: st) := gO_cost C hY hd hl kk
theorem pU_cost (C : Cx x γ cc own ret rm) (hY : 146 ≤ γ.N) {v : Int32} {idx : Nat} (hd : decode cc pc = .ok (.putfield idx, 3)) (hl : Cond.fieldLink own idx (F_MO 20).1 (F_MO 20).2.1 (F_MO 20).2.2.1 ∈ TB) (kk : V x γ κ Q (enc γ (mM (sMI σ 10 v) s)) (pc + 3) L (st)) : V x γ κ Q (enc γ (mM σ s)) pc L (.int v :: .ref (aU γ) :: st) := pO_cost C hY hd hl (v_w mM_cost kk)
theorem gU_every (C : Cx x γ cc own ret rm) (hY : 146 ≤ γ.N) {idx : Nat} (hd : decode cc pc = .ok (.getfield idx, 3)) (hl : Cond.fieldLink own idx (F_MO 21).1 (F_MO 21).2.1 (F_MO 21).2.2.1 ∈ TB) (kk : V x γ κ Q (enc γ (mM σ s)) (pc + 3) L (.int (σ.MI 11) :: st)) : V x γ κ Q (enc γ (mM σ s)) pc L (.ref (aU γ) :: st) := gO_every C hY hd hl kk
theorem pU_every (C : Cx x γ cc own ret rm) (hY : 146 ≤ γ.N) {v : Int32} {idx : Nat} (hd : decode cc pc = .ok (.putfield idx, 3)) (hl : Cond.fieldLink own idx (F_MO 21).1 (F_MO 21).2.1 (F_MO 21).2.2.1 ∈ TB) (kk : V x γ κ Q (enc γ (mM (sMI σ 11 v) s)) (pc + 3) L (st)) : V x γ κ Q (enc γ (mM σ s)) pc L (.int v :: .ref (aU γ) :: st) := pO_every C hY hd hl (v_w mM_every kk)
theorem gU_kept (C : Cx x γ cc own ret rm) (hY : 146 ≤ γ.N) {idx : Nat} (hd : decode cc pc = .ok (.getfield idx, 3)) (hl : Cond.fieldLink own idx (F_MO 22).1 (F_MO 22).2.1 (F_MO 22).2.2.1 ∈ TB) (kk : V x γ κ Q (enc γ (mM σ s)) (pc + 3) L (.int (σ.MI 12) :: st)) : V x γ κ Q (enc γ (mM σ s)) pc L (.ref (aU γ) :: st) := gO_kept C hY hd hl kk
theorem pU_kept (C : Cx x γ cc own ret rm) (hY : 146 ≤ γ.N) {v : Int32} {idx : Nat} (hd : decode cc pc = .ok (.putfield idx, 3)) (hl : Cond.fieldLink own idx (F_MO 22).1 (F_MO 22).2.1 (F_MO 22).2.2.1 ∈ TB) (kk : V x γ κ Q (enc γ (mM (sMI σ 12 v) s)) (pc + 3) L (st)) : V x γ κ Q (enc γ (mM σ s)) pc L (.int v :: .ref (aU γ) :: st) := pO_kept C hY hd hl (v_w mM_kept kk)
theorem lU_program (C : Cx x γ cc own ret rm) (hY : 146 ≤ γ.N) {a : Int32} (hd : decode cc pc = .ok (.iaload, 1)) (hin : vp_in a 64) (kk : V x γ κ Q (enc γ (mM σ s)) (pc + 1) L (.int (σ.MF 0 a.toNatClampNeg) :: st)) : V x γ κ Q (enc γ (mM σ s)) pc L (.int a :: .ref (aG γ 0) :: st) := lO_program C hY hd hin kk
theorem stU_program (C : Cx x γ cc own ret rm) (hY : 146 ≤ γ.N) {a : Int32} {v : Int32} (hd : decode cc pc = .ok (.iastore, 1)) (hin : vp_in a 64) (kk : V x γ κ Q (enc γ (mM (sMF σ 0 (upd (σ.MF 0) a.toNatClampNeg v)) s)) (pc + 1) L (st)) : V x γ κ Q (enc γ (mM σ s)) pc L (.int v :: .int a :: .ref (aG γ 0) :: st) := stO_program C hY hd hin (v_w mMF_program kk)
theorem lU_programN (C : Cx x γ cc own ret rm) (hY : 146 ≤ γ.N) {a : Nat} (hd : decode cc pc = .ok (.iaload, 1)) (ha : a < 64) (kk : V x γ κ Q (enc γ (mM σ s)) (pc + 1) L (.int (σ.MF 0 a) :: st)) : V x γ κ Q (enc γ (mM σ s)) pc L (.int (nI a) :: .ref (aG γ 0) :: st) := lO_programN C hY hd ha kk
theorem stU_programN (C : Cx x γ cc own ret rm) (hY : 146 ≤ γ.N) {a : Nat} {v : Int32} (hd : decode cc pc = .ok (.iastore, 1)) (ha : a < 64) (kk : V x γ κ Q (enc γ (mM (sMF σ 0 (upd (σ.MF 0) a v)) s)) (pc + 1) L (st)) : V x γ κ Q (enc γ (mM σ s)) pc L (.int v :: .int (nI a) :: .ref (aG γ 0) :: st) := stO_programN C hY hd ha (v_w mMF_program kk)
theorem lU_inputs (C : Cx x γ cc own ret rm) (hY : 146 ≤ γ.N) {a : Int32} (hd : decode cc pc = .ok (.iaload, 1)) (hin : vp_in a 40) (kk : V x γ κ Q (enc γ (mM σ s)) (pc + 1) L (.int (σ.MF 1 a.toNatClampNeg) :: st)) : V x γ κ Q (enc γ (mM σ s)) pc L (.int a :: .ref (aG γ 1) :: st) := lO_inputs C hY hd hin kk
theorem stU_inputs (C : Cx x γ cc own ret rm) (hY : 146 ≤ γ.N) {a : Int32} {v : Int32} (hd : decode cc pc = .ok (.iastore, 1)) (hin : vp_in a 40) (kk : V x γ κ Q (enc γ (mM (sMF σ 1 (upd (σ.MF 1) a.toNatClampNeg v)) s)) (pc + 1) L (st)) : V x γ κ Q (enc γ (mM σ s)) pc L (.int v :: .int a :: .ref (aG γ 1) :: st) := stO_inputs C hY hd hin (v_w mMF_inputs kk)
theorem lU_inputsN (C : Cx x γ cc own ret rm) (hY : 146 ≤ γ.N) {a : Nat} (hd : decode cc pc = .ok (.iaload, 1)) (ha : a < 40) (kk : V x γ κ Q (enc γ (mM σ s)) (pc + 1) L (.int (σ.MF 1 a) :: st)) : V x γ κ Q (enc γ (mM σ s)) pc L (.int (nI a) :: .ref (aG γ 1) :: st) := lO_inputsN C hY hd ha kk
theorem stU_inputsN (C : Cx x γ cc own ret rm) (hY : 146 ≤ γ.N) {a : Nat} {v : Int32} (hd : decode cc pc = .ok (.iastore, 1)) (ha : a < 40) (kk : V x γ κ Q (enc γ (mM (sMF σ 1 (upd (σ.MF 1) a v)) s)) (pc + 1) L (st)) : V x γ κ Q (enc γ (mM σ s)) pc L (.int v :: .int (nI a) :: .ref (aG γ 1) :: st) := stO_inputsN C hY hd ha (v_w mMF_inputs kk)
theorem lU_breaks (C : Cx x γ cc own ret rm) (hY : 146 ≤ γ.N) {a : Int32} (hd : decode cc pc = .ok (.baload, 1)) (hin : vp_in a 64) (kk : V x γ κ Q (enc γ (mM σ s)) (pc + 1) L (.int (σ.MF 2 a.toNatClampNeg) :: st)) : V x γ κ Q (enc γ (mM σ s)) pc L (.int a :: .ref (aG γ 2) :: st) := lO_breaks C hY hd hin kk
theorem stU_breaks (C : Cx x γ cc own ret rm) (hY : 146 ≤ γ.N) {a : Int32} {v : Int32} (hd : decode cc pc = .ok (.bastore, 1)) (hin : vp_in a 64) (kk : V x γ κ Q (enc γ (mM (sMF σ 2 (upd (σ.MF 2) a.toNatClampNeg (vp_nar .boolean v))) s)) (pc + 1) L (st)) : V x γ κ Q (enc γ (mM σ s)) pc L (.int v :: .int a :: .ref (aG γ 2) :: st) := stO_breaks C hY hd hin (v_w mMF_breaks kk)
theorem lU_breaksN (C : Cx x γ cc own ret rm) (hY : 146 ≤ γ.N) {a : Nat} (hd : decode cc pc = .ok (.baload, 1)) (ha : a < 64) (kk : V x γ κ Q (enc γ (mM σ s)) (pc + 1) L (.int (σ.MF 2 a) :: st)) : V x γ κ Q (enc γ (mM σ s)) pc L (.int (nI a) :: .ref (aG γ 2) :: st) := lO_breaksN C hY hd ha kk
theorem stU_breaksN (C : Cx x γ cc own ret rm) (hY : 146 ≤ γ.N) {a : Nat} {v : Int32} (hd : decode cc pc = .ok (.bastore, 1)) (ha : a < 64) (kk : V x γ κ Q (enc γ (mM (sMF σ 2 (upd (σ.MF 2) a (vp_nar .boolean v))) s)) (pc + 1) L (st)) : V x γ κ Q (enc γ (mM σ s)) pc L (.int v :: .int (nI a) :: .ref (aG γ 2) :: st) := stO_breaksN C hY hd ha (v_w mMF_breaks kk)
theorem lU_watches (C : Cx x γ cc own ret rm) (hY : 146 ≤ γ.N) {a : Int32} (hd : decode cc pc = .ok (.baload, 1)) (hin : vp_in a 32) (kk : V x γ κ Q (enc γ (mM σ s)) (pc + 1) L (.int (σ.MF 3 a.toNatClampNeg) :: st)) : V x γ κ Q (enc γ (mM σ s)) pc L (.int a :: .ref (aG γ 3) :: st) := lO_watches C hY hd hin kk
theorem stU_watches (C : Cx x γ cc own ret rm) (hY : 146 ≤ γ.N) {a : Int32} {v : Int32} (hd : decode cc pc = .ok (.bastore, 1)) (hin : vp_in a 32) (kk : V x γ κ Q (enc γ (mM (sMF σ 3 (upd (σ.MF 3) a.toNatClampNeg (vp_nar .boolean v))) s)) (pc + 1) L (st)) : V x γ κ Q (enc γ (mM σ s)) pc L (.int v :: .int a :: .ref (aG γ 3) :: st) := stO_watches C hY hd hin (v_w mMF_watches kk)
theorem lU_watchesN (C : Cx x γ cc own ret rm) (hY : 146 ≤ γ.N) {a : Nat} (hd : decode cc pc = .ok (.baload, 1)) (ha : a < 32) (kk : V x γ κ Q (enc γ (mM σ s)) (pc + 1) L (.int (σ.MF 3 a) :: st)) : V x γ κ Q (enc γ (mM σ s)) pc L (.int (nI a) :: .ref (aG γ 3) :: st) := lO_watchesN C hY hd ha kk
theorem stU_watchesN (C : Cx x γ cc own ret rm) (hY : 146 ≤ γ.N) {a : Nat} {v : Int32} (hd : decode cc pc = .ok (.bastore, 1)) (ha : a < 32) (kk : V x γ κ Q (enc γ (mM (sMF σ 3 (upd (σ.MF 3) a (vp_nar .boolean v))) s)) (pc + 1) L (st)) : V x γ κ Q (enc γ (mM σ s)) pc L (.int v :: .int (nI a) :: .ref (aG γ 3) :: st) := stO_watchesN C hY hd ha (v_w mMF_watches kk)
theorem lU_cells (C : Cx x γ cc own ret rm) (hY : 146 ≤ γ.N) {a : Int32} (hd : decode cc pc = .ok (.iaload, 1)) (hin : vp_in a 32) (kk : V x γ κ Q (enc γ (mM σ s)) (pc + 1) L (.int (s.c a.toNatClampNeg) :: st)) : V x γ κ Q (enc γ (mM σ s)) pc L (.int a :: .ref (aG γ 4) :: st) := lO_cells C hY hd hin kk
theorem stU_cells (C : Cx x γ cc own ret rm) (hY : 146 ≤ γ.N) {a : Int32} {v : Int32} (hd : decode cc pc = .ok (.iastore, 1)) (hin : vp_in a 32) (kk : V x γ κ Q (enc γ (mM σ (qc s (upd (s.c) a.toNatClampNeg v)))) (pc + 1) L (st)) : V x γ κ Q (enc γ (mM σ s)) pc L (.int v :: .int a :: .ref (aG γ 4) :: st) := stO_cells C hY hd hin (v_w mMF_cells kk)
theorem lU_cellsN (C : Cx x γ cc own ret rm) (hY : 146 ≤ γ.N) {a : Nat} (hd : decode cc pc = .ok (.iaload, 1)) (ha : a < 32) (kk : V x γ κ Q (enc γ (mM σ s)) (pc + 1) L (.int (s.c a) :: st)) : V x γ κ Q (enc γ (mM σ s)) pc L (.int (nI a) :: .ref (aG γ 4) :: st) := lO_cellsN C hY hd ha kk
theorem stU_cellsN (C : Cx x γ cc own ret rm) (hY : 146 ≤ γ.N) {a : Nat} {v : Int32} (hd : decode cc pc = .ok (.iastore, 1)) (ha : a < 32) (kk : V x γ κ Q (enc γ (mM σ (qc s (upd (s.c) a v)))) (pc + 1) L (st)) : V x γ κ Q (enc γ (mM σ s)) pc L (.int v :: .int (nI a) :: .ref (aG γ 4) :: st) := stO_cellsN C hY hd ha (v_w mMF_cells kk)
theorem lU_stack (C : Cx x γ cc own ret rm) (hY : 146 ≤ γ.N) {a : Int32} (hd : decode cc pc = .ok (.iaload, 1)) (hin : vp_in a 24) (kk : V x γ κ Q (enc γ (mM σ s)) (pc + 1) L (.int (s.s a.toNatClampNeg) :: st)) : V x γ κ Q (enc γ (mM σ s)) pc L (.int a :: .ref (aG γ 5) :: st) := lO_stack C hY hd hin kk
theorem stU_stack (C : Cx x γ cc own ret rm) (hY : 146 ≤ γ.N) {a : Int32} {v : Int32} (hd : decode cc pc = .ok (.iastore, 1)) (hin : vp_in a 24) (kk : V x γ κ Q (enc γ (mM σ (qs s (upd (s.s) a.toNatClampNeg v)))) (pc + 1) L (st)) : V x γ κ Q (enc γ (mM σ s)) pc L (.int v :: .int a :: .ref (aG γ 5) :: st) := stO_stack C hY hd hin (v_w mMF_stack kk)
theorem lU_stackN (C : Cx x γ cc own ret rm) (hY : 146 ≤ γ.N) {a : Nat} (hd : decode cc pc = .ok (.iaload, 1)) (ha : a < 24) (kk : V x γ κ Q (enc γ (mM σ s)) (pc + 1) L (.int (s.s a) :: st)) : V x γ κ Q (enc γ (mM σ s)) pc L (.int (nI a) :: .ref (aG γ 5) :: st) := lO_stackN C hY hd ha kk
theorem stU_stackN (C : Cx x γ cc own ret rm) (hY : 146 ≤ γ.N) {a : Nat} {v : Int32} (hd : decode cc pc = .ok (.iastore, 1)) (ha : a < 24) (kk : V x γ κ Q (enc γ (mM σ (qs s (upd (s.s) a v)))) (pc + 1) L (st)) : V x γ κ Q (enc γ (mM σ s)) pc L (.int v :: .int (nI a) :: .ref (aG γ 5) :: st) := stO_stackN C hY hd ha (v_w mMF_stack kk)
theorem lU_were (C : Cx x γ cc own ret rm) (hY : 146 ≤ γ.N) {a : Int32} (hd : decode cc pc = .ok (.iaload, 1)) (hin : vp_in a 32) (kk : V x γ κ Q (enc γ (mM σ s)) (pc + 1) L (.int (σ.MF 6 a.toNatClampNeg) :: st)) : V x γ κ Q (enc γ (mM σ s)) pc L (.int a :: .ref (aG γ 6) :: st) := lO_were C hY hd hin kk
theorem stU_were (C : Cx x γ cc own ret rm) (hY : 146 ≤ γ.N) {a : Int32} {v : Int32} (hd : decode cc pc = .ok (.iastore, 1)) (hin : vp_in a 32) (kk : V x γ κ Q (enc γ (mM (sMF σ 6 (upd (σ.MF 6) a.toNatClampNeg v)) s)) (pc + 1) L (st)) : V x γ κ Q (enc γ (mM σ s)) pc L (.int v :: .int a :: .ref (aG γ 6) :: st) := stO_were C hY hd hin (v_w mMF_were kk)
theorem lU_wereN (C : Cx x γ cc own ret rm) (hY : 146 ≤ γ.N) {a : Nat} (hd : decode cc pc = .ok (.iaload, 1)) (ha : a < 32) (kk : V x γ κ Q (enc γ (mM σ s)) (pc + 1) L (.int (σ.MF 6 a) :: st)) : V x γ κ Q (enc γ (mM σ s)) pc L (.int (nI a) :: .ref (aG γ 6) :: st) := lO_wereN C hY hd ha kk
theorem stU_wereN (C : Cx x γ cc own ret rm) (hY : 146 ≤ γ.N) {a : Nat} {v : Int32} (hd : decode cc pc = .ok (.iastore, 1)) (ha : a < 32) (kk : V x γ κ Q (enc γ (mM (sMF σ 6 (upd (σ.MF 6) a v)) s)) (pc + 1) L (st)) : V x γ κ Q (enc γ (mM σ s)) pc L (.int v :: .int (nI a) :: .ref (aG γ 6) :: st) := stO_wereN C hY hd ha (v_w mMF_were kk)
theorem lU_markWords (C : Cx x γ cc own ret rm) (hY : 146 ≤ γ.N) {a : Int32} (hd : decode cc pc = .ok (.iaload, 1)) (hin : vp_in a 728) (kk : V x γ κ Q (enc γ (mM σ s)) (pc + 1) L (.int (σ.MF 7 a.toNatClampNeg) :: st)) : V x γ κ Q (enc γ (mM σ s)) pc L (.int a :: .ref (aG γ 7) :: st) := lO_markWords C hY hd hin kk
theorem stU_markWords (C : Cx x γ cc own ret rm) (hY : 146 ≤ γ.N) {a : Int32} {v : Int32} (hd : decode cc pc = .ok (.iastore, 1)) (hin : vp_in a 728) (kk : V x γ κ Q (enc γ (mM (sMF σ 7 (upd (σ.MF 7) a.toNatClampNeg v)) s)) (pc + 1) L (st)) : V x γ κ Q (enc γ (mM σ s)) pc L (.int v :: .int a :: .ref (aG γ 7) :: st) := stO_markWords C hY hd hin (v_w mMF_markWords kk)
theorem lU_markWordsN (C : Cx x γ cc own ret rm) (hY : 146 ≤ γ.N) {a : Nat} (hd : decode cc pc = .ok (.iaload, 1)) (ha : a < 728) (kk : V x γ κ Q (enc γ (mM σ s)) (pc + 1) L (.int (σ.MF 7 a) :: st)) : V x γ κ Q (enc γ (mM σ s)) pc L (.int (nI a) :: .ref (aG γ 7) :: st) := lO_markWordsN C hY hd ha kk
theorem stU_markWordsN (C : Cx x γ cc own ret rm) (hY : 146 ≤ γ.N) {a : Nat} {v : Int32} (hd : decode cc pc = .ok (.iastore, 1)) (ha : a < 728) (kk : V x γ κ Q (enc γ (mM (sMF σ 7 (upd (σ.MF 7) a v)) s)) (pc + 1) L (st)) : V x γ κ Q (enc γ (mM σ s)) pc L (.int v :: .int (nI a) :: .ref (aG γ 7) :: st) := stO_markWordsN C hY hd ha (v_w mMF_markWords kk)
theorem lU_markOthers (C : Cx x γ cc own ret rm) (hY : 146 ≤ γ.N) {a : Int32} (hd : decode cc pc = .ok (.iaload, 1)) (hin : vp_in a 65) (kk : V x γ κ Q (enc γ (mM σ s)) (pc + 1) L (.int (σ.MF 8 a.toNatClampNeg) :: st)) : V x γ κ Q (enc γ (mM σ s)) pc L (.int a :: .ref (aG γ 8) :: st) := lO_markOthers C hY hd hin kk
theorem stU_markOthers (C : Cx x γ cc own ret rm) (hY : 146 ≤ γ.N) {a : Int32} {v : Int32} (hd : decode cc pc = .ok (.iastore, 1)) (hin : vp_in a 65) (kk : V x γ κ Q (enc γ (mM (sMF σ 8 (upd (σ.MF 8) a.toNatClampNeg v)) s)) (pc + 1) L (st)) : V x γ κ Q (enc γ (mM σ s)) pc L (.int v :: .int a :: .ref (aG γ 8) :: st) := stO_markOthers C hY hd hin (v_w mMF_markOthers kk)
theorem lU_markOthersN (C : Cx x γ cc own ret rm) (hY : 146 ≤ γ.N) {a : Nat} (hd : decode cc pc = .ok (.iaload, 1)) (ha : a < 65) (kk : V x γ κ Q (enc γ (mM σ s)) (pc + 1) L (.int (σ.MF 8 a) :: st)) : V x γ κ Q (enc γ (mM σ s)) pc L (.int (nI a) :: .ref (aG γ 8) :: st) := lO_markOthersN C hY hd ha kk
theorem stU_markOthersN (C : Cx x γ cc own ret rm) (hY : 146 ≤ γ.N) {a : Nat} {v : Int32} (hd : decode cc pc = .ok (.iastore, 1)) (ha : a < 65) (kk : V x γ κ Q (enc γ (mM (sMF σ 8 (upd (σ.MF 8) a v)) s)) (pc + 1) L (st)) : V x γ κ Q (enc γ (mM σ s)) pc L (.int v :: .int (nI a) :: .ref (aG γ 8) :: st) := stO_markOthersN C hY hd ha (v_w mMF_markOthers kk)
theorem lU_keptAt (C : Cx x γ cc own ret rm) (hY : 146 ≤ γ.N) {a : Int32} (hd : decode cc pc = .ok (.iaload, 1)) (hin : vp_in a 9) (kk : V x γ κ Q (enc γ (mM σ s)) (pc + 1) L (.int (σ.MF 9 a.toNatClampNeg) :: st)) : V x γ κ Q (enc γ (mM σ s)) pc L (.int a :: .ref (aG γ 9) :: st) := lO_keptAt C hY hd hin kk
theorem stU_keptAt (C : Cx x γ cc own ret rm) (hY : 146 ≤ γ.N) {a : Int32} {v : Int32} (hd : decode cc pc = .ok (.iastore, 1)) (hin : vp_in a 9) (kk : V x γ κ Q (enc γ (mM (sMF σ 9 (upd (σ.MF 9) a.toNatClampNeg v)) s)) (pc + 1) L (st)) : V x γ κ Q (enc γ (mM σ s)) pc L (.int v :: .int a :: .ref (aG γ 9) :: st) := stO_keptAt C hY hd hin (v_w mMF_keptAt kk)
theorem lU_keptAtN (C : Cx x γ cc own ret rm) (hY : 146 ≤ γ.N) {a : Nat} (hd : decode cc pc = .ok (.iaload, 1)) (ha : a < 9) (kk : V x γ κ Q (enc γ (mM σ s)) (pc + 1) L (.int (σ.MF 9 a) :: st)) : V x γ κ Q (enc γ (mM σ s)) pc L (.int (nI a) :: .ref (aG γ 9) :: st) := lO_keptAtN C hY hd ha kk
theorem stU_keptAtN (C : Cx x γ cc own ret rm) (hY : 146 ≤ γ.N) {a : Nat} {v : Int32} (hd : decode cc pc = .ok (.iastore, 1)) (ha : a < 9) (kk : V x γ κ Q (enc γ (mM (sMF σ 9 (upd (σ.MF 9) a v)) s)) (pc + 1) L (st)) : V x γ κ Q (enc γ (mM σ s)) pc L (.int v :: .int (nI a) :: .ref (aG γ 9) :: st) := stO_keptAtN C hY hd ha (v_w mMF_keptAt kk)
end UR
