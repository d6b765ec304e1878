theorem c_RM_input (l : Launch) {γ : GH} (hX : 135 ≤ γ.N) {σ : SGG} {v : Int32} {g : Nat} (hg : σ.I 0 = nI g) (h40 : g ≤ 40) : Ct l y_RM_input b_RM_input 2 (some .int) rm_RM_input γ (enc γ σ) [.ref (aM γ), .int v] (PI γ (fun r u => (g = 40 ∧ r = -1 ∧ u = σ) ∨ (g < 40 ∧ r = nI (g + 1) ∧ u = sI (sF σ 1 (upd (σ.F 1) g v)) 0 (nI (g + 1))))) := by
  refine ct_of "ReplayMachine" (by decide) rfl rfl (Nat.le_of_ble_eq_true rfl) (fun x hl C => ?_)
  subst hl
  show V x γ (0, 0) _ _ 0 [some (.ref (aM γ)), some (.int v)] []
  refine v_aload_n (pc := 0) C d_RM_input_0 rfl ?_
  refine gM_given (pc := 1) C hX d_RM_input_1 fl_RM_77 ?_
  refine v_top (b := nI g) hg ?_
  refine v_bipush (pc := 4) (v := 40) C d_RM_input_4 (by decide) ?_
  refine v_icmp_lt (pc := 6) C 11 d_RM_input_6 (by decide) (fun c6 => ?_) (fun c6 => ?_)
  · have z : g < 40 := (nI_ltI (b := 40) (by omega) (by decide)).mp c6
    refine v_aload_n (pc := 11) C d_RM_input_11 rfl ?_
    refine gM_inputs (pc := 12) C hX d_RM_input_12 fl_RM_13 ?_
    refine v_aload_n (pc := 15) C d_RM_input_15 rfl ?_
    refine gM_given (pc := 16) C hX d_RM_input_16 fl_RM_77 ?_
    refine v_top (b := nI g) hg ?_
    refine v_iload_n (pc := 19) C d_RM_input_19 rfl ?_
    refine stM_inputsN (pc := 20) C hX d_RM_input_20 (z) ?_
    refine v_aload_n (pc := 21) C d_RM_input_21 rfl ?_
    refine v_dup (pc := 22) C d_RM_input_22 rfl ?_
    refine gM_given (pc := 23) C hX d_RM_input_23 fl_RM_77 ?_
    refine v_iconst (pc := 26) (v := 1) C d_RM_input_26 (by decide) ?_
    refine v_iadd (pc := 27) C d_RM_input_27 ?_
    refine v_top (b := nI (g + 1)) (show σ.I 0 + 1 = _ by rw [hg, nI_1]) ?_
    refine pM_given (pc := 28) C hX d_RM_input_28 fl_RM_77 ?_
    refine v_aload_n (pc := 31) C d_RM_input_31 rfl ?_
    refine gM_given (pc := 32) C hX d_RM_input_32 fl_RM_77 ?_
    refine v_top (b := nI (g + 1)) sI_I ?_
    refine r_i (pc := 35) C d_RM_input_35 ?_
    exact Or.inr ⟨z, rfl, rfl⟩
  · have z : g = 40 := Nat.le_antisymm h40 (nn_le (b := 40) (by decide) c6)
    refine v_iconst (pc := 9) (v := (-1)) C d_RM_input_9 (by decide) ?_
    refine r_i (pc := 10) C d_RM_input_10 ?_
    exact Or.inl ⟨z, rfl, rfl⟩
theorem c_RM_cell (l : Launch) {γ : GH} (hX : 135 ≤ γ.N) {σ : SGG} {a : Int32} : Ct l y_RM_cell b_RM_cell 2 (some .int) rm_RM_cell γ (enc γ σ) [.ref (aM γ), .int a] (PI γ (fun r u => r = cellS (σ.S 0) a ∧ u = σ)) := by
  refine ct_of "ReplayMachine" (by decide) rfl rfl (Nat.le_of_ble_eq_true rfl) (fun x hl C => ?_)
  subst hl
  show V x γ (0, 0) _ _ 0 [some (.ref (aM γ)), some (.int a)] []
  refine v_iload_n (pc := 0) C d_RM_cell_0 rfl ?_
  refine v_if_lt (pc := 1) C 22 d_RM_cell_1 (by decide) (fun c1 => ?_) (fun c1 => ?_)
  · have z : cellS (σ.S 0) a = 0 := if_pos c1
    refine v_iconst (pc := 22) (v := 0) C d_RM_cell_22 (by decide) ?_
    refine r_i (pc := 23) C d_RM_cell_23 ?_
    exact ⟨z.symm, rfl⟩
  · refine v_iload_n (pc := 4) C d_RM_cell_4 rfl ?_
    refine v_bipush (pc := 5) (v := 32) C d_RM_cell_5 (by decide) ?_
    refine v_icmp_ge (pc := 7) C 22 d_RM_cell_7 (by decide) (fun c7 => ?_) (fun c7 => ?_)
    · have z : cellS (σ.S 0) a = 0 := by unfold cellS; rw [if_neg c1, if_neg (k2_nlt c7)]
      refine v_iconst (pc := 22) (v := 0) C d_RM_cell_22 (by decide) ?_
      refine r_i (pc := 23) C d_RM_cell_23 ?_
      exact ⟨z.symm, rfl⟩
    · have z : cellS (σ.S 0) a = (σ.S 0).c a.toNatClampNeg := by unfold cellS; rw [if_neg c1, if_pos (k2_lt c7)]
      refine v_aload_n (pc := 10) C d_RM_cell_10 rfl ?_
      refine gM_now (pc := 11) C hX d_RM_cell_11 fl_RM_19 ?_
      refine gS_cells (pc := 14) C hX (by first | assumption | omega) (by first | assumption | exact P2_S | exact sS_S | rfl) d_RM_cell_14 fl_RM_142 ?_
      refine v_iload_n (pc := 17) C d_RM_cell_17 rfl ?_
      refine lS_cells (pc := 18) C hX (by first | assumption | omega) (by first | assumption | exact P2_S | exact sS_S | rfl) d_RM_cell_18 ?_ ?_
      · exact in_vp c1 (k2_lt c7) (by decide)
      refine v_goto (pc := 19) C 23 d_RM_cell_19 (by decide) ?_
      refine r_i (pc := 23) C d_RM_cell_23 ?_
      exact ⟨z.symm, rfl⟩
theorem c_RM_watchesAny (l : Launch) {γ : GH} (hX : 135 ≤ γ.N) {σ : SGG} : Ct l y_RM_watchesAny b_RM_watchesAny 2 (some .boolean) rm_RM_watchesAny γ (enc γ σ) [.ref (aM γ)] (PI γ (fun r u => r = (if anyB (σ.F 3) = true then 1 else 0) ∧ u = σ)) := by
  refine ct_of "ReplayMachine" (by decide) rfl rfl (Nat.le_of_ble_eq_true rfl) (fun x hl C => ?_)
  subst hl
  show V x γ (0, 0) _ _ 0 [some (.ref (aM γ)), none] []
  have loop : ∀ k, k ≤ 32 → ((∀ c, c < k → σ.F 3 c = 0) → V x γ (0, 0) (QM x γ (PI γ (fun r u => r = (if anyB (σ.F 3) = true then 1 else 0) ∧ u = σ))) (enc γ σ) 2 [some (.ref (aM γ)), some (.int (nI k))] []) := by
    refine up_loop _ 32 (fun k hk ih hinv => ?_)
    refine v_iload_n (pc := 2) C d_RM_watchesAny_2 rfl ?_
    refine v_bipush (pc := 3) (v := 32) C d_RM_watchesAny_3 (by decide) ?_
    refine v_icmp_ge (pc := 5) C 25 d_RM_watchesAny_5 (by decide) (fun c5 => ?_) (fun c5 => ?_)
    · have z : anyB (σ.F 3) = false := anyB_f (fun c hc => hinv c (by have := (nI_leI (a := 32) (by decide) (by omega)).mp c5; omega))
      refine v_iconst (pc := 25) (v := 0) C d_RM_watchesAny_25 (by decide) ?_
      refine r_z (pc := 26) C d_RM_watchesAny_26 ?_ ?_
      · rfl
      exact ⟨by rw [z]; rfl, rfl⟩
    · have z : k < 32 := nn_lt (b := 32) (by omega) c5
      refine v_aload_n (pc := 8) C d_RM_watchesAny_8 rfl ?_
      refine gM_watches (pc := 9) C hX d_RM_watchesAny_9 fl_RM_45 ?_
      refine v_iload_n (pc := 12) C d_RM_watchesAny_12 rfl ?_
      refine lM_watchesN (pc := 13) C hX d_RM_watchesAny_13 (z) ?_
      refine v_if_eq (pc := 14) C 19 d_RM_watchesAny_14 (by decide) (fun c14 => ?_) (fun c14 => ?_)
      · refine v_iinc (pc := 19) C d_RM_watchesAny_19 rfl (nI_1' k) ?_
        refine v_goto (pc := 22) C 2 d_RM_watchesAny_22 (by decide) ?_
        exact ih z (fun c hc => (Nat.lt_or_ge c k).elim (hinv c) (fun q => by rw [show c = k by omega]; exact c14))
      · refine v_iconst (pc := 17) (v := 1) C d_RM_watchesAny_17 (by decide) ?_
        refine r_z (pc := 18) C d_RM_watchesAny_18 ?_ ?_
        · rfl
        exact ⟨by rw [if_pos (anyB_t z c14)], rfl⟩
  refine v_iconst (pc := 0) (v := 0) C d_RM_watchesAny_0 (by decide) ?_
  refine v_istore_n (pc := 1) C d_RM_watchesAny_1 (Nat.le_of_ble_eq_true rfl) ?_
  exact loop 0 (by decide) (fun c hc => absurd hc (Nat.not_lt_zero c))
theorem c_RM_stop (l : Launch) {γ : GH} (hX : 135 ≤ γ.N) {σ : SGG} : Ct l y_RM_stop b_RM_stop 2 (some .int) rm_RM_stop γ (enc γ σ) [.ref (aM γ)] (PI γ (fun r u => r = stopS (σ.F 2) (σ.F 3) (σ.S 0).p (σ.S 0).c (σ.F 4) ∧ u = σ)) := by
  refine ct_of "ReplayMachine" (by decide) rfl rfl (Nat.le_of_ble_eq_true rfl) (fun x hl C => ?_)
  subst hl
  show V x γ (0, 0) _ _ 0 [some (.ref (aM γ)), none] []
  have loop : ¬ brkP (σ.F 2) (σ.S 0).p → ∀ k, k ≤ 32 → ((∀ c, c < k → ¬ (¬ σ.F 3 c = 0 ∧ ¬ (σ.S 0).c c = σ.F 4 c)) → V x γ (0, 0) (QM x γ (PI γ (fun r u => r = stopS (σ.F 2) (σ.F 3) (σ.S 0).p (σ.S 0).c (σ.F 4) ∧ u = σ))) (enc γ σ) 42 [some (.ref (aM γ)), some (.int (nI k))] []) := by
    intro hb
    refine up_loop _ 32 (fun k hk ih hinv => ?_)
    have J : k < 32 → ¬ (¬ σ.F 3 k = 0 ∧ ¬ (σ.S 0).c k = σ.F 4 k) → V x γ (0, 0) (QM x γ (PI γ (fun r u => r = stopS (σ.F 2) (σ.F 3) (σ.S 0).p (σ.S 0).c (σ.F 4) ∧ u = σ))) (enc γ σ) 78 [some (.ref (aM γ)), some (.int (nI k))] [] := by
      intro z q
      refine v_iinc (pc := 78) C d_RM_stop_78 rfl (nI_1' k) ?_
      refine v_goto (pc := 81) C 42 d_RM_stop_81 (by decide) ?_
      exact ih z (fun c hc => (Nat.lt_or_ge c k).elim (hinv c) (fun w => by rw [show c = k by omega]; exact q))
    refine v_iload_n (pc := 42) C d_RM_stop_42 rfl ?_
    refine v_bipush (pc := 43) (v := 32) C d_RM_stop_43 (by decide) ?_
    refine v_icmp_ge (pc := 45) C 84 d_RM_stop_45 (by decide) (fun c45 => ?_) (fun c45 => ?_)
    · have z := (nI_leI (a := 32) (by decide) (by omega)).mp c45
      refine v_iconst (pc := 84) (v := 0) C d_RM_stop_84 (by decide) ?_
      refine r_i (pc := 85) C d_RM_stop_85 ?_
      exact ⟨(stopS_n hb (watB_f (fun c hc => hinv c (by omega)))).symm, rfl⟩
    · have z : k < 32 := nn_lt (b := 32) (by omega) c45
      refine v_aload_n (pc := 48) C d_RM_stop_48 rfl ?_
      refine gM_watches (pc := 49) C hX d_RM_stop_49 fl_RM_45 ?_
      refine v_iload_n (pc := 52) C d_RM_stop_52 rfl ?_
      refine lM_watchesN (pc := 53) C hX d_RM_stop_53 (z) ?_
      refine v_if_eq (pc := 54) C 78 d_RM_stop_54 (by decide) (fun c54 => ?_) (fun c54 => ?_)
      · exact J z (fun q => q.1 c54)
      · refine v_aload_n (pc := 57) C d_RM_stop_57 rfl ?_
        refine gM_now (pc := 58) C hX d_RM_stop_58 fl_RM_19 ?_
        refine gS_cells (pc := 61) C hX (by first | assumption | omega) rfl d_RM_stop_61 fl_RM_142 ?_
        refine v_iload_n (pc := 64) C d_RM_stop_64 rfl ?_
        refine lS_cellsN (pc := 65) C hX (by first | assumption | omega) rfl d_RM_stop_65 (z) ?_
        refine v_aload_n (pc := 66) C d_RM_stop_66 rfl ?_
        refine gM_were (pc := 67) C hX d_RM_stop_67 fl_RM_48 ?_
        refine v_iload_n (pc := 70) C d_RM_stop_70 rfl ?_
        refine lM_wereN (pc := 71) C hX d_RM_stop_71 (z) ?_
        refine v_icmp_eq (pc := 72) C 78 d_RM_stop_72 (by decide) (fun c72 => ?_) (fun c72 => ?_)
        · exact J z (fun q => q.2 c72)
        · refine v_bipush (pc := 75) (v := 10) C d_RM_stop_75 (by decide) ?_
          refine r_i (pc := 77) C d_RM_stop_77 ?_
          exact ⟨(stopS_w hb (watB_t z c54 c72)).symm, rfl⟩
  have JJ : ¬ brkP (σ.F 2) (σ.S 0).p → V x γ (0, 0) (QM x γ (PI γ (fun r u => r = stopS (σ.F 2) (σ.F 3) (σ.S 0).p (σ.S 0).c (σ.F 4) ∧ u = σ))) (enc γ σ) 40 [some (.ref (aM γ)), none] [] := by
    intro hb
    refine v_iconst (pc := 40) (v := 0) C d_RM_stop_40 (by decide) ?_
    refine v_istore_n (pc := 41) C d_RM_stop_41 (Nat.le_of_ble_eq_true rfl) ?_
    exact loop hb 0 (by decide) (fun c hc => absurd hc (Nat.not_lt_zero c))
  refine v_aload_n (pc := 0) C d_RM_stop_0 rfl ?_
  refine gM_now (pc := 1) C hX d_RM_stop_1 fl_RM_19 ?_
  refine gS_pc (pc := 4) C hX (by first | assumption | omega) rfl d_RM_stop_4 fl_RM_80 ?_
  refine v_if_lt (pc := 7) C 40 d_RM_stop_7 (by decide) (fun c7 => ?_) (fun c7 => ?_)
  · exact JJ (fun q => q.1 c7)
  · refine v_aload_n (pc := 10) C d_RM_stop_10 rfl ?_
    refine gM_now (pc := 11) C hX d_RM_stop_11 fl_RM_19 ?_
    refine gS_pc (pc := 14) C hX (by first | assumption | omega) rfl d_RM_stop_14 fl_RM_80 ?_
    refine v_bipush (pc := 17) (v := 64) C d_RM_stop_17 (by decide) ?_
    refine v_icmp_ge (pc := 19) C 40 d_RM_stop_19 (by decide) (fun c19 => ?_) (fun c19 => ?_)
    · exact JJ (fun q => (k2_nlt c19) q.2.1)
    · refine v_aload_n (pc := 22) C d_RM_stop_22 rfl ?_
      refine gM_breaks (pc := 23) C hX d_RM_stop_23 fl_RM_41 ?_
      refine v_aload_n (pc := 26) C d_RM_stop_26 rfl ?_
      refine gM_now (pc := 27) C hX d_RM_stop_27 fl_RM_19 ?_
      refine gS_pc (pc := 30) C hX (by first | assumption | omega) rfl d_RM_stop_30 fl_RM_80 ?_
      refine lM_breaks (pc := 33) C hX d_RM_stop_33 ?_ ?_
      · exact in_vp c7 (k2_lt c19) (by decide)
      refine v_if_eq (pc := 34) C 40 d_RM_stop_34 (by decide) (fun c34 => ?_) (fun c34 => ?_)
      · exact JJ (fun q => q.2.2 c34)
      · refine v_bipush (pc := 37) (v := 9) C d_RM_stop_37 (by decide) ?_
        refine r_i (pc := 39) C d_RM_stop_39 ?_
        exact ⟨(stopS_b ⟨c7, k2_lt c19, c34⟩).symm, rfl⟩
