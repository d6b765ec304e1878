theorem c_MO_thrown (l : Launch) {γ : GH} (hY : 146 ≤ γ.N) {σ : SGG} : Ct l y_MO_thrown b_MO_thrown 1 (some .int) rm_MO_thrown γ (enc γ σ) [.ref (aU γ)] (PI γ (fun r u => r = σ.MI 0 ∧ u = σ)) := by
  refine ct_of "ReplayMachineModel" (by decide) rfl rfl (Nat.le_of_ble_eq_true rfl) (fun x hl C => ?_)
  subst hl
  show V x γ (0, 0) _ _ 0 [some (.ref (aU γ))] []
  refine v_aload_n (pc := 0) C d_MO_thrown_0 rfl ?_
  refine gO_code (pc := 1) C hY d_MO_thrown_1 fl_MO_54 ?_
  refine r_i (pc := 4) C d_MO_thrown_4 ?_
  exact ⟨rfl, rfl⟩
theorem c_MO_fail (l : Launch) {γ : GH} (hY : 146 ≤ γ.N) {σ : SGG} {c : Int32} : Ct l y_MO_fail b_MO_fail 2 (some .int) rm_MO_fail γ (enc γ σ) [.ref (aU γ), .int c] (PI γ (fun r u => r = 0 ∧ u = sMI σ 0 c)) := by
  refine ct_of "ReplayMachineModel" (by decide) rfl rfl (Nat.le_of_ble_eq_true rfl) (fun x hl C => ?_)
  subst hl
  show V x γ (0, 0) _ _ 0 [some (.ref (aU γ)), some (.int c)] []
  refine v_aload_n (pc := 0) C d_MO_fail_0 rfl ?_
  refine v_iload_n (pc := 1) C d_MO_fail_1 rfl ?_
  refine pO_code (pc := 2) C hY d_MO_fail_2 fl_MO_54 ?_
  refine v_iconst (pc := 5) (v := 0) C d_MO_fail_5 (by decide) ?_
  refine r_i (pc := 6) C d_MO_fail_6 ?_
  exact ⟨rfl, rfl⟩
theorem c_MO_outside (l : Launch) {γ : GH} {σ : SGG} {a n : Int32} : Ct l y_MO_outside b_MO_outside 2 (some .boolean) rm_MO_outside γ (enc γ σ) [.int a, .int n] (PI γ (fun r u => r = (if a < 0 ∨ ¬ a < n then 1 else 0) ∧ u = σ)) := by
  refine ct_of "ReplayMachineModel" (by decide) rfl rfl (Nat.le_of_ble_eq_true rfl) (fun x hl C => ?_)
  subst hl
  show V x γ (0, 0) _ _ 0 [some (.int a), some (.int n)] []
  refine v_iload_n (pc := 0) C d_MO_outside_0 rfl ?_
  refine v_if_lt (pc := 1) C 9 d_MO_outside_1 (by decide) (fun c1 => ?_) (fun c1 => ?_)
  · have z : (if a < 0 ∨ ¬ a < n then (1 : Int32) else 0) = 1 := if_pos (Or.inl c1)
    refine v_iconst (pc := 9) (v := 1) C d_MO_outside_9 (by decide) ?_
    refine v_goto (pc := 10) C 14 d_MO_outside_10 (by decide) ?_
    refine r_z (pc := 14) C d_MO_outside_14 ?_ ?_
    · rfl
    exact ⟨z.symm, rfl⟩
  · refine v_iload_n (pc := 4) C d_MO_outside_4 rfl ?_
    refine v_iload_n (pc := 5) C d_MO_outside_5 rfl ?_
    refine v_icmp_lt (pc := 6) C 13 d_MO_outside_6 (by decide) (fun c6 => ?_) (fun c6 => ?_)
    · have z : (if a < 0 ∨ ¬ a < n then (1 : Int32) else 0) = 0 := if_neg (fun q => q.elim c1 (fun w => w c6))
      refine v_iconst (pc := 13) (v := 0) C d_MO_outside_13 (by decide) ?_
      refine r_z (pc := 14) C d_MO_outside_14 ?_ ?_
      · rfl
      exact ⟨z.symm, rfl⟩
    · have z : (if a < 0 ∨ ¬ a < n then (1 : Int32) else 0) = 1 := if_pos (Or.inr c6)
      refine v_iconst (pc := 9) (v := 1) C d_MO_outside_9 (by decide) ?_
      refine v_goto (pc := 10) C 14 d_MO_outside_10 (by decide) ?_
      refine r_z (pc := 14) C d_MO_outside_14 ?_ ?_
      · rfl
      exact ⟨z.symm, rfl⟩
theorem c_MO_poke (l : Launch) {γ : GH} (hY : 146 ≤ γ.N) {σ : SGG} {p w : Int32} {r : Nat} (hr : σ.MI 8 = nI r) (hr3 : r ≤ 3000) : Ct l y_MO_poke b_MO_poke 3 none rm_MO_poke γ (enc γ σ) [.ref (aU γ), .int p, .int w] (PV γ (fun v => ((p < 0 ∨ ¬ p < 64) ∧ v = sMI σ 0 1) ∨ (¬ (p < 0 ∨ ¬ p < 64) ∧ 0 < r ∧ v = sMI σ 0 2) ∨ (¬ (p < 0 ∨ ¬ p < 64) ∧ r = 0 ∧ v = sMF (sMI σ 0 0) 0 (upd (σ.MF 0) p.toNatClampNeg w)))) := by
  refine ct_of "ReplayMachineModel" (by decide) rfl rfl (Nat.le_of_ble_eq_true rfl) (fun x hl C => ?_)
  subst hl
  show V x γ (0, 0) _ _ 0 [some (.ref (aU γ)), some (.int p), some (.int w)] []
  have J1 : (p < 0 ∨ ¬ p < 64) → V x γ (0, 0) (QM x γ (PV γ (fun v => ((p < 0 ∨ ¬ p < 64) ∧ v = sMI σ 0 1) ∨ (¬ (p < 0 ∨ ¬ p < 64) ∧ 0 < r ∧ v = sMI σ 0 2) ∨ (¬ (p < 0 ∨ ¬ p < 64) ∧ r = 0 ∧ v = sMF (sMI σ 0 0) 0 (upd (σ.MF 0) p.toNatClampNeg w))))) (enc γ σ) 11 [some (.ref (aU γ)), some (.int p), some (.int w)] [.ref (aU γ)] := by
    intro z
    refine v_iconst (pc := 11) (v := 1) C d_MO_poke_11 (by decide) ?_
    refine v_goto (pc := 12) C 27 d_MO_poke_12 (by decide) ?_
    refine pO_code (pc := 27) C hY d_MO_poke_27 fl_MO_54 ?_
    refine v_aload_n (pc := 30) C d_MO_poke_30 rfl ?_
    refine gO_code (pc := 31) C hY d_MO_poke_31 fl_MO_54 ?_
    refine v_top (b := 1) sMI_I ?_
    refine v_if_ne (pc := 34) C 44 d_MO_poke_34 (by decide) (fun c34 => ?_) (fun c34 => ?_)
    · refine r_v (pc := 44) C d_MO_poke_44 ?_
      exact Or.inl ⟨z, rfl⟩
    · exact absurd c34 (by decide)
  have J22 : ¬ (p < 0 ∨ ¬ p < 64) → 0 < r → V x γ (0, 0) (QM x γ (PV γ (fun v => ((p < 0 ∨ ¬ p < 64) ∧ v = sMI σ 0 1) ∨ (¬ (p < 0 ∨ ¬ p < 64) ∧ 0 < r ∧ v = sMI σ 0 2) ∨ (¬ (p < 0 ∨ ¬ p < 64) ∧ r = 0 ∧ v = sMF (sMI σ 0 0) 0 (upd (σ.MF 0) p.toNatClampNeg w))))) (enc γ σ) 22 [some (.ref (aU γ)), some (.int p), some (.int w)] [.ref (aU γ)] := by
    intro z y
    refine v_iconst (pc := 22) (v := 2) C d_MO_poke_22 (by decide) ?_
    refine v_goto (pc := 23) C 27 d_MO_poke_23 (by decide) ?_
    refine pO_code (pc := 27) C hY d_MO_poke_27 fl_MO_54 ?_
    refine v_aload_n (pc := 30) C d_MO_poke_30 rfl ?_
    refine gO_code (pc := 31) C hY d_MO_poke_31 fl_MO_54 ?_
    refine v_top (b := 2) sMI_I ?_
    refine v_if_ne (pc := 34) C 44 d_MO_poke_34 (by decide) (fun c34 => ?_) (fun c34 => ?_)
    · refine r_v (pc := 44) C d_MO_poke_44 ?_
      exact Or.inr (Or.inl ⟨z, y, rfl⟩)
    · exact absurd c34 (by decide)
  have J26 : ¬ (p < 0 ∨ ¬ p < 64) → r = 0 → V x γ (0, 0) (QM x γ (PV γ (fun v => ((p < 0 ∨ ¬ p < 64) ∧ v = sMI σ 0 1) ∨ (¬ (p < 0 ∨ ¬ p < 64) ∧ 0 < r ∧ v = sMI σ 0 2) ∨ (¬ (p < 0 ∨ ¬ p < 64) ∧ r = 0 ∧ v = sMF (sMI σ 0 0) 0 (upd (σ.MF 0) p.toNatClampNeg w))))) (enc γ σ) 26 [some (.ref (aU γ)), some (.int p), some (.int w)] [.ref (aU γ)] := by
    intro z y
    refine v_iconst (pc := 26) (v := 0) C d_MO_poke_26 (by decide) ?_
    refine pO_code (pc := 27) C hY d_MO_poke_27 fl_MO_54 ?_
    refine v_aload_n (pc := 30) C d_MO_poke_30 rfl ?_
    refine gO_code (pc := 31) C hY d_MO_poke_31 fl_MO_54 ?_
    refine v_top (b := 0) sMI_I ?_
    refine v_if_ne (pc := 34) C 44 d_MO_poke_34 (by decide) (fun c34 => ?_) (fun c34 => ?_)
    · exact absurd rfl c34
    · refine v_aload_n (pc := 37) C d_MO_poke_37 rfl ?_
      refine gO_program (pc := 38) C hY d_MO_poke_38 fl_MO_7 ?_
      refine v_iload_n (pc := 41) C d_MO_poke_41 rfl ?_
      refine v_iload_n (pc := 42) C d_MO_poke_42 rfl ?_
      refine stO_program (pc := 43) C hY d_MO_poke_43 ?_ ?_
      · exact in_vp (fun q => z (Or.inl q)) (Decidable.byContradiction (fun q => z (Or.inr q))) (by decide)
      refine r_v (pc := 44) C d_MO_poke_44 ?_
      exact Or.inr (Or.inr ⟨z, y, rfl⟩)
  refine v_aload_n (pc := 0) C d_MO_poke_0 rfl ?_
  refine v_iload_n (pc := 1) C d_MO_poke_1 rfl ?_
  refine v_if_lt (pc := 2) C 11 d_MO_poke_2 (by decide) (fun c2 => ?_) (fun c2 => ?_)
  · exact J1 (Or.inl c2)
  · refine v_iload_n (pc := 5) C d_MO_poke_5 rfl ?_
    refine v_bipush (pc := 6) (v := 64) C d_MO_poke_6 (by decide) ?_
    refine v_icmp_lt (pc := 8) C 15 d_MO_poke_8 (by decide) (fun c8 => ?_) (fun c8 => ?_)
    · have z : ¬ (p < 0 ∨ ¬ p < 64) := fun q => q.elim c2 (fun w => w c8)
      refine v_aload_n (pc := 15) C d_MO_poke_15 rfl ?_
      refine gO_reached (pc := 16) C hY d_MO_poke_16 fl_MO_57 ?_
      refine v_top (b := nI r) hr ?_
      refine v_if_le (pc := 19) C 26 d_MO_poke_19 (by decide) (fun c19 => ?_) (fun c19 => ?_)
      · have y : r = 0 := by
          rcases Nat.eq_zero_or_pos r with q | q
          · exact q
          · exact absurd c19 (nI_nle q (by omega))
        exact J26 z y
      · have y : 0 < r := by
          rcases Nat.eq_zero_or_pos r with q | q
          · subst q; exact absurd (Int32.le_refl 0) c19
          · exact q
        exact J22 z y
    · exact J1 (Or.inr c8)
theorem c_MO_input (l : Launch) {γ : GH} (hY : 146 ≤ γ.N) {σ : SGG} {v : Int32} {g : Nat} (hg : σ.MI 1 = nI g) (h40 : g ≤ 40) : Ct l y_MO_input b_MO_input 2 (some .int) rm_MO_input γ (enc γ σ) [.ref (aU γ), .int v] (PI γ (fun r u => (g = 40 ∧ r = -1 ∧ u = sMI σ 0 0) ∨ (g < 40 ∧ r = nI (g + 1) ∧ u = sMI (sMF (sMI σ 0 0) 1 (upd (σ.MF 1) g v)) 1 (nI (g + 1))))) := by
  refine ct_of "ReplayMachineModel" (by decide) rfl rfl (Nat.le_of_ble_eq_true rfl) (fun x hl C => ?_)
  subst hl
  show V x γ (0, 0) _ _ 0 [some (.ref (aU γ)), some (.int v)] []
  refine v_aload_n (pc := 0) C d_MO_input_0 rfl ?_
  refine v_iconst (pc := 1) (v := 0) C d_MO_input_1 (by decide) ?_
  refine pO_code (pc := 2) C hY d_MO_input_2 fl_MO_54 ?_
  refine v_aload_n (pc := 5) C d_MO_input_5 rfl ?_
  refine gO_given (pc := 6) C hY d_MO_input_6 fl_MO_60 ?_
  refine v_top (b := nI g) (show (sMI σ 0 0).MI 1 = _ from (sMI_In (by decide)).trans hg) ?_
  refine v_bipush (pc := 9) (v := 40) C d_MO_input_9 (by decide) ?_
  refine v_icmp_ne (pc := 11) C 16 d_MO_input_11 (by decide) (fun c11 => ?_) (fun c11 => ?_)
  · have z : g < 40 := by rcases Nat.lt_or_ge g 40 with q | q; exact q; exact absurd (show nI g = nI 40 by rw [show g = 40 by omega]) c11
    refine v_aload_n (pc := 16) C d_MO_input_16 rfl ?_
    refine gO_inputs (pc := 17) C hY d_MO_input_17 fl_MO_13 ?_
    refine v_aload_n (pc := 20) C d_MO_input_20 rfl ?_
    refine gO_given (pc := 21) C hY d_MO_input_21 fl_MO_60 ?_
    refine v_top (b := nI g) (show (sMI σ 0 0).MI 1 = _ from (sMI_In (by decide)).trans hg) ?_
    refine v_iload_n (pc := 24) C d_MO_input_24 rfl ?_
    refine stO_inputsN (pc := 25) C hY d_MO_input_25 (z) ?_
    refine v_aload_n (pc := 26) C d_MO_input_26 rfl ?_
    refine v_dup (pc := 27) C d_MO_input_27 rfl ?_
    refine gO_given (pc := 28) C hY d_MO_input_28 fl_MO_60 ?_
    refine v_iconst (pc := 31) (v := 1) C d_MO_input_31 (by decide) ?_
    refine v_iadd (pc := 32) C d_MO_input_32 ?_
    refine v_top (b := nI (g + 1)) (show (sMI σ 0 0).MI 1 + 1 = _ by rw [sMI_In (by decide), hg, nI_1]) ?_
    refine pO_given (pc := 33) C hY d_MO_input_33 fl_MO_60 ?_
    refine v_aload_n (pc := 36) C d_MO_input_36 rfl ?_
    refine gO_given (pc := 37) C hY d_MO_input_37 fl_MO_60 ?_
    refine v_top (b := nI (g + 1)) sMI_I ?_
    refine r_i (pc := 40) C d_MO_input_40 ?_
    exact Or.inr ⟨z, rfl, rfl⟩
  · have z : g = 40 := (nI_eq (b := 40) (by omega) (by decide)).mp c11
    refine v_iconst (pc := 14) (v := (-1)) C d_MO_input_14 (by decide) ?_
    refine r_i (pc := 15) C d_MO_input_15 ?_
    exact Or.inl ⟨z, rfl, rfl⟩
theorem c_MO_remember (l : Launch) {γ : GH} (hY : 146 ≤ γ.N) {σ : SGG} : Ct l y_MO_remember b_MO_remember 2 none rm_MO_remember γ (enc γ σ) [.ref (aU γ)] (PV γ (fun u => u = sMF σ 6 (σ.MF 4))) := by
  refine ct_of "ReplayMachineModel" (by decide) rfl rfl (Nat.le_of_ble_eq_true rfl) (fun x hl C => ?_)
  subst hl
  show V x γ (0, 0) _ _ 0 [some (.ref (aU γ)), none] []
  have loop : ∀ k, k ≤ 32 → (∀ f : TF, (∀ j, j < k → f j = σ.MF 4 j) → V x γ (0, 0) (QM x γ (PV γ (fun u => u = sMF σ 6 (σ.MF 4)))) (enc γ (sMF σ 6 f)) 2 [some (.ref (aU γ)), some (.int (nI k))] []) := by
    refine up_loop _ 32 (fun k hk ih f hinv => ?_)
    refine v_iload_n (pc := 2) C d_MO_remember_2 rfl ?_
    refine v_bipush (pc := 3) (v := 32) C d_MO_remember_3 (by decide) ?_
    refine v_icmp_ge (pc := 5) C 26 d_MO_remember_5 (by decide) (fun c5 => ?_) (fun c5 => ?_)
    · have z := (nI_leI (a := 32) (by decide) (by omega)).mp c5
      refine v_arrG (k := 6) (f := σ.MF 4) (by decide) (fun j hj => by rw [sMF_F]; exact hinv j (Nat.lt_of_lt_of_le hj z)) ?_
      refine v_w (σ2 := sMF σ 6 (σ.MF 4)) sMF_sMF ?_
      refine r_v (pc := 26) C d_MO_remember_26 ?_
      rfl
    · have z : k < 32 := nn_lt (b := 32) (by omega) c5
      refine v_aload_n (pc := 8) C d_MO_remember_8 rfl ?_
      refine gO_were (pc := 9) C hY d_MO_remember_9 fl_MO_29 ?_
      refine v_iload_n (pc := 12) C d_MO_remember_12 rfl ?_
      refine v_aload_n (pc := 13) C d_MO_remember_13 rfl ?_
      refine gO_cells (pc := 14) C hY d_MO_remember_14 fl_MO_23 ?_
      refine v_iload_n (pc := 17) C d_MO_remember_17 rfl ?_
      refine lO_cellsN (pc := 18) C hY d_MO_remember_18 (z) ?_
      refine stO_wereN (pc := 19) C hY d_MO_remember_19 (z) ?_
      refine v_w (σ2 := sMF σ 6 (upd f k (σ.MF 4 k))) (by rw [sMF_F, sMF_sMF, sMF_Fn (by decide)]) ?_
      refine v_iinc (pc := 20) C d_MO_remember_20 rfl (nI_1' k) ?_
      refine v_goto (pc := 23) C 2 d_MO_remember_23 (by decide) ?_
      refine ih z _ (fun j hj => ?_)
      by_cases q : j = k
      · rw [q, pk_us]
      · rw [pk_un q]; exact hinv j (by omega)
  refine v_iconst (pc := 0) (v := 0) C d_MO_remember_0 (by decide) ?_
  refine v_istore_n (pc := 1) C d_MO_remember_1 (Nat.le_of_ble_eq_true rfl) ?_
  refine v_w (σ2 := sMF σ 6 (σ.MF 6)) (sMF_same rfl).symm ?_
  exact loop 0 (by decide) _ (fun j hj => absurd hj (Nat.not_lt_zero j))
theorem c_MO_stop (l : Launch) {γ : GH} (hY : 146 ≤ γ.N) {σ : SGG} : Ct l y_MO_stop b_MO_stop 3 (some .int) rm_MO_stop γ (enc γ σ) [.ref (aU γ)] (PI γ (fun r u => r = stopS (σ.MF 2) (σ.MF 3) (σ.MI 3) (σ.MF 4) (σ.MF 6) ∧ u = σ)) := by
  refine ct_of "ReplayMachineModel" (by decide) rfl rfl (Nat.le_of_ble_eq_true rfl) (fun x hl C => ?_)
  subst hl
  show V x γ (0, 0) _ _ 0 [some (.ref (aU γ)), none, none] []
  have loop : ¬ brkP (σ.MF 2) (σ.MI 3) → ∀ k, k ≤ 32 → (∀ o : Int32, ((o = 1 ∧ ∃ c, c < k ∧ ¬ σ.MF 3 c = 0 ∧ ¬ σ.MF 4 c = σ.MF 6 c) ∨ (o = 0 ∧ ∀ c, c < k → ¬ (¬ σ.MF 3 c = 0 ∧ ¬ σ.MF 4 c = σ.MF 6 c))) → V x γ (0, 0) (QM x γ (PI γ (fun r u => r = stopS (σ.MF 2) (σ.MF 3) (σ.MI 3) (σ.MF 4) (σ.MF 6) ∧ u = σ))) (enc γ σ) 35 [some (.ref (aU γ)), some (.int o), some (.int (nI k))] []) := by
    intro hb
    refine up_loop _ 32 (fun k hk ih o hinv => ?_)
    have J : k < 32 → ∀ o : Int32, ((o = 1 ∧ ∃ c, c < k + 1 ∧ ¬ σ.MF 3 c = 0 ∧ ¬ σ.MF 4 c = σ.MF 6 c) ∨ (o = 0 ∧ ∀ c, c < k + 1 → ¬ (¬ σ.MF 3 c = 0 ∧ ¬ σ.MF 4 c = σ.MF 6 c))) → ∀ oo : Int32, V x γ (0, 0) (QM x γ (PI γ (fun r u => r = stopS (σ.MF 2) (σ.MF 3) (σ.MI 3) (σ.MF 4) (σ.MF 6) ∧ u = σ))) (enc γ σ) 74 [some (.ref (aU γ)), some (.int oo), some (.int (nI k))] [.int o] := by
      intro z o ho oo
      refine v_istore_n (pc := 74) C d_MO_stop_74 (Nat.le_of_ble_eq_true rfl) ?_
      refine v_iinc (pc := 75) C d_MO_stop_75 rfl (nI_1' k) ?_
      refine v_goto (pc := 78) C 35 d_MO_stop_78 (by decide) ?_
      exact ih z o ho
    refine v_iload_n (pc := 35) C d_MO_stop_35 rfl ?_
    refine v_bipush (pc := 36) (v := 32) C d_MO_stop_36 (by decide) ?_
    refine v_icmp_ge (pc := 38) C 81 d_MO_stop_38 (by decide) (fun c38 => ?_) (fun c38 => ?_)
    · have z := (nI_leI (a := 32) (by decide) (by omega)).mp c38
      refine v_iload_n (pc := 81) C d_MO_stop_81 rfl ?_
      refine v_if_eq (pc := 82) C 90 d_MO_stop_82 (by decide) (fun c82 => ?_) (fun c82 => ?_)
      · have y : watB (σ.MF 3) (σ.MF 4) (σ.MF 6) = false := by
          rcases hinv with ⟨rfl, -⟩ | ⟨-, h⟩
          · exact absurd c82 (by decide)
          · exact watB_f (fun c hc => h c (by omega))
        refine v_iconst (pc := 90) (v := 0) C d_MO_stop_90 (by decide) ?_
        refine r_i (pc := 91) C d_MO_stop_91 ?_
        first | exact ⟨(stopS_w hb y).symm, rfl⟩ | exact ⟨(stopS_n hb y).symm, rfl⟩
      · have y : watB (σ.MF 3) (σ.MF 4) (σ.MF 6) = true := by
          rcases hinv with ⟨-, c, c1, c2, c3⟩ | ⟨h, -⟩
          · exact watB_t (by omega) c2 c3
          · exact absurd h c82
        refine v_bipush (pc := 85) (v := 10) C d_MO_stop_85 (by decide) ?_
        refine v_goto (pc := 87) C 91 d_MO_stop_87 (by decide) ?_
        refine r_i (pc := 91) C d_MO_stop_91 ?_
        first | exact ⟨(stopS_w hb y).symm, rfl⟩ | exact ⟨(stopS_n hb y).symm, rfl⟩
    · have z : k < 32 := nn_lt (b := 32) (by omega) c38
      refine v_iload_n (pc := 41) C d_MO_stop_41 rfl ?_
      refine v_if_ne (pc := 42) C 69 d_MO_stop_42 (by decide) (fun c42 => ?_) (fun c42 => ?_)
      · have y : ∃ c, c < k + 1 ∧ ¬ σ.MF 3 c = 0 ∧ ¬ σ.MF 4 c = σ.MF 6 c := by
          rcases hinv with ⟨-, c, c1, c2, c3⟩ | ⟨h, -⟩
          · exact ⟨c, by omega, c2, c3⟩
          · exact absurd h c42
        refine v_iconst (pc := 69) (v := 1) C d_MO_stop_69 (by decide) ?_
        refine v_goto (pc := 70) C 74 d_MO_stop_70 (by decide) ?_
        exact J z 1 (Or.inl ⟨rfl, y⟩) _
      · have hno : ∀ c, c < k → ¬ (¬ σ.MF 3 c = 0 ∧ ¬ σ.MF 4 c = σ.MF 6 c) := by
          rcases hinv with ⟨h, -⟩ | ⟨-, h⟩
          · rw [h] at c42; exact absurd c42 (by decide)
          · exact h
        refine v_aload_n (pc := 45) C d_MO_stop_45 rfl ?_
        refine gO_watches (pc := 46) C hY d_MO_stop_46 fl_MO_20 ?_
        refine v_iload_n (pc := 49) C d_MO_stop_49 rfl ?_
        refine lO_watchesN (pc := 50) C hY d_MO_stop_50 (z) ?_
        refine v_if_eq (pc := 51) C 73 d_MO_stop_51 (by decide) (fun c51 => ?_) (fun c51 => ?_)
        · refine v_iconst (pc := 73) (v := 0) C d_MO_stop_73 (by decide) ?_
          exact J z 0 (Or.inr ⟨rfl, fun c hc => (Nat.lt_or_ge c k).elim (hno c) (fun w => by rw [show c = k by omega]; exact (fun q => q.1 c51))⟩) _
        · refine v_aload_n (pc := 54) C d_MO_stop_54 rfl ?_
          refine gO_cells (pc := 55) C hY d_MO_stop_55 fl_MO_23 ?_
          refine v_iload_n (pc := 58) C d_MO_stop_58 rfl ?_
          refine lO_cellsN (pc := 59) C hY d_MO_stop_59 (z) ?_
          refine v_aload_n (pc := 60) C d_MO_stop_60 rfl ?_
          refine gO_were (pc := 61) C hY d_MO_stop_61 fl_MO_29 ?_
          refine v_iload_n (pc := 64) C d_MO_stop_64 rfl ?_
          refine lO_wereN (pc := 65) C hY d_MO_stop_65 (z) ?_
          refine v_icmp_eq (pc := 66) C 73 d_MO_stop_66 (by decide) (fun c66 => ?_) (fun c66 => ?_)
          · refine v_iconst (pc := 73) (v := 0) C d_MO_stop_73 (by decide) ?_
            exact J z 0 (Or.inr ⟨rfl, fun c hc => (Nat.lt_or_ge c k).elim (hno c) (fun w => by rw [show c = k by omega]; exact (fun q => q.2 c66))⟩) _
          · have y : ∃ c, c < k + 1 ∧ ¬ σ.MF 3 c = 0 ∧ ¬ σ.MF 4 c = σ.MF 6 c := ⟨k, by omega, c51, c66⟩
            refine v_iconst (pc := 69) (v := 1) C d_MO_stop_69 (by decide) ?_
            refine v_goto (pc := 70) C 74 d_MO_stop_70 (by decide) ?_
            exact J z 1 (Or.inl ⟨rfl, y⟩) _
  have J31 : ¬ brkP (σ.MF 2) (σ.MI 3) → V x γ (0, 0) (QM x γ (PI γ (fun r u => r = stopS (σ.MF 2) (σ.MF 3) (σ.MI 3) (σ.MF 4) (σ.MF 6) ∧ u = σ))) (enc γ σ) 31 [some (.ref (aU γ)), none, none] [] := by
    intro hb
    refine v_iconst (pc := 31) (v := 0) C d_MO_stop_31 (by decide) ?_
    refine v_istore_n (pc := 32) C d_MO_stop_32 (Nat.le_of_ble_eq_true rfl) ?_
    refine v_iconst (pc := 33) (v := 0) C d_MO_stop_33 (by decide) ?_
    refine v_istore_n (pc := 34) C d_MO_stop_34 (Nat.le_of_ble_eq_true rfl) ?_
    exact loop hb 0 (by decide) 0 (Or.inr ⟨rfl, fun c hc => absurd hc (Nat.not_lt_zero c)⟩)
  refine v_aload_n (pc := 0) C d_MO_stop_0 rfl ?_
  refine gO_pc (pc := 1) C hY d_MO_stop_1 fl_MO_66 ?_
  refine v_if_lt (pc := 4) C 31 d_MO_stop_4 (by decide) (fun c4 => ?_) (fun c4 => ?_)
  · exact J31 (fun q => q.1 c4)
  · refine v_aload_n (pc := 7) C d_MO_stop_7 rfl ?_
    refine gO_pc (pc := 8) C hY d_MO_stop_8 fl_MO_66 ?_
    refine v_bipush (pc := 11) (v := 64) C d_MO_stop_11 (by decide) ?_
    refine v_icmp_ge (pc := 13) C 31 d_MO_stop_13 (by decide) (fun c13 => ?_) (fun c13 => ?_)
    · exact J31 (fun q => (k2_nlt c13) q.2.1)
    · refine v_aload_n (pc := 16) C d_MO_stop_16 rfl ?_
      refine gO_breaks (pc := 17) C hY d_MO_stop_17 fl_MO_16 ?_
      refine v_aload_n (pc := 20) C d_MO_stop_20 rfl ?_
      refine gO_pc (pc := 21) C hY d_MO_stop_21 fl_MO_66 ?_
      refine lO_breaks (pc := 24) C hY d_MO_stop_24 ?_ ?_
      · exact in_vp c4 (k2_lt c13) (by decide)
      refine v_if_eq (pc := 25) C 31 d_MO_stop_25 (by decide) (fun c25 => ?_) (fun c25 => ?_)
      · exact J31 (fun q => q.2.2 c25)
      · refine v_bipush (pc := 28) (v := 9) C d_MO_stop_28 (by decide) ?_
        refine r_i (pc := 30) C d_MO_stop_30 ?_
        exact ⟨(stopS_b ⟨c4, k2_lt c13, c25⟩).symm, rfl⟩
theorem c_MO_cell (l : Launch) {γ : GH} (hY : 146 ≤ γ.N) {σ : SGG} {a : Int32} : Ct l y_MO_cell b_MO_cell 2 (some .int) rm_MO_cell γ (enc γ σ) [.ref (aU γ), .int a] (PI γ (fun r u => r = cellS (mS σ) a ∧ u = sMI σ 0 0)) := by
  refine ct_of "ReplayMachineModel" (by decide) rfl rfl (Nat.le_of_ble_eq_true rfl) (fun x hl C => ?_)
  subst hl
  show V x γ (0, 0) _ _ 0 [some (.ref (aU γ)), some (.int a)] []
  refine v_aload_n (pc := 0) C d_MO_cell_0 rfl ?_
  refine v_iconst (pc := 1) (v := 0) C d_MO_cell_1 (by decide) ?_
  refine pO_code (pc := 2) C hY d_MO_cell_2 fl_MO_54 ?_
  refine v_iload_n (pc := 5) C d_MO_cell_5 rfl ?_
  refine v_bipush (pc := 6) (v := 32) C d_MO_cell_6 (by decide) ?_
  refine kk2i (pc := 8) C cb_MO_149 sm_MO_outside rk_MO_cell_MO_outside d_MO_cell_8 ⟨Nat.zero_le _, Nat.zero_le _⟩ (c_MO_outside x.l) (Nat.le_of_ble_eq_true rfl) (fun r8 σ8 h8 => ?_)
  obtain ⟨e8, w8⟩ := h8
  subst e8
  rw [w8]
  refine v_top (b := (if a < 0 ∨ ¬ a < 32 then (1 : Int32) else 0)) rfl ?_
  refine v_if_eq (pc := 11) C 18 d_MO_cell_11 (by decide) (fun c11 => ?_) (fun c11 => ?_)
  · have z : ¬ (a < 0 ∨ ¬ a < 32) := fun q => by rw [if_pos q] at c11; exact absurd c11 (by decide)
    have z1 : ¬ a < 0 := fun q => z (Or.inl q)
    have z2 : a < 32 := Decidable.byContradiction (fun q => z (Or.inr q))
    refine v_aload_n (pc := 18) C d_MO_cell_18 rfl ?_
    refine gO_cells (pc := 19) C hY d_MO_cell_19 fl_MO_23 ?_
    refine v_iload_n (pc := 22) C d_MO_cell_22 rfl ?_
    refine lO_cells (pc := 23) C hY d_MO_cell_23 ?_ ?_
    · exact in_vp z1 z2 (by decide)
    refine r_i (pc := 24) C d_MO_cell_24 ?_
    refine ⟨?_, rfl⟩
    unfold cellS
    first | (rw [if_neg z1, if_pos z2]; rfl) | (rcases z with q | q; rw [if_pos q]; rw [if_neg q]; split; rfl; rfl)
  · have z : a < 0 ∨ ¬ a < 32 := Decidable.byContradiction (fun q => c11 (if_neg q))
    refine v_iconst (pc := 14) (v := 0) C d_MO_cell_14 (by decide) ?_
    refine v_goto (pc := 15) C 24 d_MO_cell_15 (by decide) ?_
    refine r_i (pc := 24) C d_MO_cell_24 ?_
    refine ⟨?_, rfl⟩
    unfold cellS
    first | (rw [if_neg z1, if_pos z2]; rfl) | (rcases z with q | q; rw [if_pos q]; rw [if_neg q]; split; rfl; rfl)
theorem c_MO_stack (l : Launch) {γ : GH} (hY : 146 ≤ γ.N) {σ : SGG} {a : Int32} (hin : ∀ a : Int32, ¬ a < 0 → a < σ.MI 7 → vp_in a 24) : Ct l y_MO_stack b_MO_stack 2 (some .int) rm_MO_stack γ (enc γ σ) [.ref (aU γ), .int a] (PI γ (fun r u => ((a < 0 ∨ ¬ a < σ.MI 7) ∧ u = sMI σ 0 1) ∨ (¬ a < 0 ∧ a < σ.MI 7 ∧ r = σ.MF 5 a.toNatClampNeg ∧ u = sMI σ 0 0))) := by
  refine ct_of "ReplayMachineModel" (by decide) rfl rfl (Nat.le_of_ble_eq_true rfl) (fun x hl C => ?_)
  subst hl
  show V x γ (0, 0) _ _ 0 [some (.ref (aU γ)), some (.int a)] []
  refine v_aload_n (pc := 0) C d_MO_stack_0 rfl ?_
  refine v_iconst (pc := 1) (v := 0) C d_MO_stack_1 (by decide) ?_
  refine pO_code (pc := 2) C hY d_MO_stack_2 fl_MO_54 ?_
  refine v_iload_n (pc := 5) C d_MO_stack_5 rfl ?_
  refine v_aload_n (pc := 6) C d_MO_stack_6 rfl ?_
  refine gO_height (pc := 7) C hY d_MO_stack_7 fl_MO_75 ?_
  refine v_top (b := σ.MI 7) (sMI_In (by decide)) ?_
  refine kk2i (pc := 10) C cb_MO_149 sm_MO_outside rk_MO_stack_MO_outside d_MO_stack_10 ⟨Nat.zero_le _, Nat.zero_le _⟩ (c_MO_outside x.l) (Nat.le_of_ble_eq_true rfl) (fun r10 σ10 h10 => ?_)
  obtain ⟨e10, w10⟩ := h10
  subst e10
  rw [w10]
  refine v_top (b := (if a < 0 ∨ ¬ a < σ.MI 7 then (1 : Int32) else 0)) rfl ?_
  refine v_if_eq (pc := 13) C 24 d_MO_stack_13 (by decide) (fun c13 => ?_) (fun c13 => ?_)
  · have z : ¬ (a < 0 ∨ ¬ a < σ.MI 7) := fun q => by rw [if_pos q] at c13; exact absurd c13 (by decide)
    have z1 : ¬ a < 0 := fun q => z (Or.inl q)
    have z2 : a < σ.MI 7 := Decidable.byContradiction (fun q => z (Or.inr q))
    refine v_aload_n (pc := 24) C d_MO_stack_24 rfl ?_
    refine gO_stack (pc := 25) C hY d_MO_stack_25 fl_MO_26 ?_
    refine v_iload_n (pc := 28) C d_MO_stack_28 rfl ?_
    refine lO_stack (pc := 29) C hY d_MO_stack_29 ?_ ?_
    · exact hin a z1 z2
    refine r_i (pc := 30) C d_MO_stack_30 ?_
    first | exact Or.inl ⟨z, rfl⟩ | exact Or.inr ⟨z1, z2, rfl, rfl⟩
  · have z : a < 0 ∨ ¬ a < σ.MI 7 := Decidable.byContradiction (fun q => c13 (if_neg q))
    refine v_aload_n (pc := 16) C d_MO_stack_16 rfl ?_
    refine v_iconst (pc := 17) (v := 1) C d_MO_stack_17 (by decide) ?_
    refine kU1i (pc := 18) C hY cb_MO_153 ⟨im_MO_fail, sl_MO_fail⟩ rfl rk_MO_stack_MO_fail d_MO_stack_18 ⟨Nat.zero_le _, Nat.zero_le _⟩ (c_MO_fail x.l hY) (Nat.le_of_ble_eq_true rfl) (fun r18 σ18 h18 => ?_)
    obtain ⟨e18, w18⟩ := h18
    rw [w18]
    refine v_w (σ2 := sMI σ 0 1) sMI_sMI ?_
    refine v_goto (pc := 21) C 30 d_MO_stack_21 (by decide) ?_
    refine r_i (pc := 30) C d_MO_stack_30 ?_
    first | exact Or.inl ⟨z, rfl⟩ | exact Or.inr ⟨z1, z2, rfl, rfl⟩
theorem c_MO_checkpoint (l : Launch) {γ : GH} (hY : 146 ≤ γ.N) {σ : SGG} {a : Int32} (hin : ∀ a : Int32, ¬ a < 0 → a < σ.MI 12 → vp_in a 9) : Ct l y_MO_checkpoint b_MO_checkpoint 2 (some .int) rm_MO_checkpoint γ (enc γ σ) [.ref (aU γ), .int a] (PI γ (fun r u => ((a < 0 ∨ ¬ a < σ.MI 12) ∧ u = sMI σ 0 1) ∨ (¬ a < 0 ∧ a < σ.MI 12 ∧ r = σ.MF 9 a.toNatClampNeg ∧ u = sMI σ 0 0))) := by
  refine ct_of "ReplayMachineModel" (by decide) rfl rfl (Nat.le_of_ble_eq_true rfl) (fun x hl C => ?_)
  subst hl
  show V x γ (0, 0) _ _ 0 [some (.ref (aU γ)), some (.int a)] []
  refine v_aload_n (pc := 0) C d_MO_checkpoint_0 rfl ?_
  refine v_iconst (pc := 1) (v := 0) C d_MO_checkpoint_1 (by decide) ?_
  refine pO_code (pc := 2) C hY d_MO_checkpoint_2 fl_MO_54 ?_
  refine v_iload_n (pc := 5) C d_MO_checkpoint_5 rfl ?_
  refine v_aload_n (pc := 6) C d_MO_checkpoint_6 rfl ?_
  refine gO_kept (pc := 7) C hY d_MO_checkpoint_7 fl_MO_51 ?_
  refine v_top (b := σ.MI 12) (sMI_In (by decide)) ?_
  refine kk2i (pc := 10) C cb_MO_149 sm_MO_outside rk_MO_checkpoint_MO_outside d_MO_checkpoint_10 ⟨Nat.zero_le _, Nat.zero_le _⟩ (c_MO_outside x.l) (Nat.le_of_ble_eq_true rfl) (fun r10 σ10 h10 => ?_)
  obtain ⟨e10, w10⟩ := h10
  subst e10
  rw [w10]
  refine v_top (b := (if a < 0 ∨ ¬ a < σ.MI 12 then (1 : Int32) else 0)) rfl ?_
  refine v_if_eq (pc := 13) C 24 d_MO_checkpoint_13 (by decide) (fun c13 => ?_) (fun c13 => ?_)
  · have z : ¬ (a < 0 ∨ ¬ a < σ.MI 12) := fun q => by rw [if_pos q] at c13; exact absurd c13 (by decide)
    have z1 : ¬ a < 0 := fun q => z (Or.inl q)
    have z2 : a < σ.MI 12 := Decidable.byContradiction (fun q => z (Or.inr q))
    refine v_aload_n (pc := 24) C d_MO_checkpoint_24 rfl ?_
    refine gO_keptAt (pc := 25) C hY d_MO_checkpoint_25 fl_MO_42 ?_
    refine v_iload_n (pc := 28) C d_MO_checkpoint_28 rfl ?_
    refine lO_keptAt (pc := 29) C hY d_MO_checkpoint_29 ?_ ?_
    · exact hin a z1 z2
    refine r_i (pc := 30) C d_MO_checkpoint_30 ?_
    first | exact Or.inl ⟨z, rfl⟩ | exact Or.inr ⟨z1, z2, rfl, rfl⟩
  · have z : a < 0 ∨ ¬ a < σ.MI 12 := Decidable.byContradiction (fun q => c13 (if_neg q))
    refine v_aload_n (pc := 16) C d_MO_checkpoint_16 rfl ?_
    refine v_iconst (pc := 17) (v := 1) C d_MO_checkpoint_17 (by decide) ?_
    refine kU1i (pc := 18) C hY cb_MO_153 ⟨im_MO_fail, sl_MO_fail⟩ rfl rk_MO_checkpoint_MO_fail d_MO_checkpoint_18 ⟨Nat.zero_le _, Nat.zero_le _⟩ (c_MO_fail x.l hY) (Nat.le_of_ble_eq_true rfl) (fun r18 σ18 h18 => ?_)
    obtain ⟨e18, w18⟩ := h18
    rw [w18]
    refine v_w (σ2 := sMI σ 0 1) sMI_sMI ?_
    refine v_goto (pc := 21) C 30 d_MO_checkpoint_21 (by decide) ?_
    refine r_i (pc := 30) C d_MO_checkpoint_30 ?_
    first | exact Or.inl ⟨z, rfl⟩ | exact Or.inr ⟨z1, z2, rfl, rfl⟩
