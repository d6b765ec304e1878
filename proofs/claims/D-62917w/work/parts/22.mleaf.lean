theorem c_MO_needs (l : Launch) {γ : GH} {σ : SGG} {op : Nat} (ho : op < 21) : Ct l y_MO_needs b_MO_needs 1 (some .int) rm_MO_needs γ (enc γ σ) [.int (nI op)] (PI γ (fun r u => r = opTakes.getD op 0 ∧ u = σ)) := by
  refine ct_of "ReplayMachineModel" (by decide) rfl rfl (Nat.le_of_ble_eq_true rfl) (fun x hl C => ?_)
  subst hl
  show V x γ (0, 0) _ _ 0 [some (.int (nI op))] []
  have hcase : op = 0 ∨ op = 1 ∨ op = 2 ∨ op = 3 ∨ op = 4 ∨ op = 5 ∨ op = 6 ∨ op = 7 ∨ op = 8 ∨ op = 9 ∨ op = 10 ∨ op = 11 ∨ op = 12 ∨ op = 13 ∨ op = 14 ∨ op = 15 ∨ op = 16 ∨ op = 17 ∨ op = 18 ∨ op = 19 ∨ op = 20 := by omega
  rcases hcase with rfl | rfl | rfl | rfl | rfl | rfl | rfl | rfl | rfl | rfl | rfl | rfl | rfl | rfl | rfl | rfl | rfl | rfl | rfl | rfl | rfl
  · refine v_iload_n (pc := 0) C d_MO_needs_0 rfl ?_
    refine v_table (pc := 1) C 80 d_MO_needs_1 rfl (by decide) ?_
    refine v_iconst (pc := 80) (v := 0) C d_MO_needs_80 (by decide) ?_
    refine r_i (pc := 81) C d_MO_needs_81 ?_
    exact ⟨rfl, rfl⟩
  · refine v_iload_n (pc := 0) C d_MO_needs_0 rfl ?_
    refine v_table (pc := 1) C 80 d_MO_needs_1 rfl (by decide) ?_
    refine v_iconst (pc := 80) (v := 0) C d_MO_needs_80 (by decide) ?_
    refine r_i (pc := 81) C d_MO_needs_81 ?_
    exact ⟨rfl, rfl⟩
  · refine v_iload_n (pc := 0) C d_MO_needs_0 rfl ?_
    refine v_table (pc := 1) C 76 d_MO_needs_1 rfl (by decide) ?_
    refine v_iconst (pc := 76) (v := 1) C d_MO_needs_76 (by decide) ?_
    refine r_i (pc := 77) C d_MO_needs_77 ?_
    exact ⟨rfl, rfl⟩
  · refine v_iload_n (pc := 0) C d_MO_needs_0 rfl ?_
    refine v_table (pc := 1) C 76 d_MO_needs_1 rfl (by decide) ?_
    refine v_iconst (pc := 76) (v := 1) C d_MO_needs_76 (by decide) ?_
    refine r_i (pc := 77) C d_MO_needs_77 ?_
    exact ⟨rfl, rfl⟩
  · refine v_iload_n (pc := 0) C d_MO_needs_0 rfl ?_
    refine v_table (pc := 1) C 78 d_MO_needs_1 rfl (by decide) ?_
    refine v_iconst (pc := 78) (v := 2) C d_MO_needs_78 (by decide) ?_
    refine r_i (pc := 79) C d_MO_needs_79 ?_
    exact ⟨rfl, rfl⟩
  · refine v_iload_n (pc := 0) C d_MO_needs_0 rfl ?_
    refine v_table (pc := 1) C 78 d_MO_needs_1 rfl (by decide) ?_
    refine v_iconst (pc := 78) (v := 2) C d_MO_needs_78 (by decide) ?_
    refine r_i (pc := 79) C d_MO_needs_79 ?_
    exact ⟨rfl, rfl⟩
  · refine v_iload_n (pc := 0) C d_MO_needs_0 rfl ?_
    refine v_table (pc := 1) C 78 d_MO_needs_1 rfl (by decide) ?_
    refine v_iconst (pc := 78) (v := 2) C d_MO_needs_78 (by decide) ?_
    refine r_i (pc := 79) C d_MO_needs_79 ?_
    exact ⟨rfl, rfl⟩
  · refine v_iload_n (pc := 0) C d_MO_needs_0 rfl ?_
    refine v_table (pc := 1) C 78 d_MO_needs_1 rfl (by decide) ?_
    refine v_iconst (pc := 78) (v := 2) C d_MO_needs_78 (by decide) ?_
    refine r_i (pc := 79) C d_MO_needs_79 ?_
    exact ⟨rfl, rfl⟩
  · refine v_iload_n (pc := 0) C d_MO_needs_0 rfl ?_
    refine v_table (pc := 1) C 78 d_MO_needs_1 rfl (by decide) ?_
    refine v_iconst (pc := 78) (v := 2) C d_MO_needs_78 (by decide) ?_
    refine r_i (pc := 79) C d_MO_needs_79 ?_
    exact ⟨rfl, rfl⟩
  · refine v_iload_n (pc := 0) C d_MO_needs_0 rfl ?_
    refine v_table (pc := 1) C 78 d_MO_needs_1 rfl (by decide) ?_
    refine v_iconst (pc := 78) (v := 2) C d_MO_needs_78 (by decide) ?_
    refine r_i (pc := 79) C d_MO_needs_79 ?_
    exact ⟨rfl, rfl⟩
  · refine v_iload_n (pc := 0) C d_MO_needs_0 rfl ?_
    refine v_table (pc := 1) C 76 d_MO_needs_1 rfl (by decide) ?_
    refine v_iconst (pc := 76) (v := 1) C d_MO_needs_76 (by decide) ?_
    refine r_i (pc := 77) C d_MO_needs_77 ?_
    exact ⟨rfl, rfl⟩
  · refine v_iload_n (pc := 0) C d_MO_needs_0 rfl ?_
    refine v_table (pc := 1) C 78 d_MO_needs_1 rfl (by decide) ?_
    refine v_iconst (pc := 78) (v := 2) C d_MO_needs_78 (by decide) ?_
    refine r_i (pc := 79) C d_MO_needs_79 ?_
    exact ⟨rfl, rfl⟩
  · refine v_iload_n (pc := 0) C d_MO_needs_0 rfl ?_
    refine v_table (pc := 1) C 80 d_MO_needs_1 rfl (by decide) ?_
    refine v_iconst (pc := 80) (v := 0) C d_MO_needs_80 (by decide) ?_
    refine r_i (pc := 81) C d_MO_needs_81 ?_
    exact ⟨rfl, rfl⟩
  · refine v_iload_n (pc := 0) C d_MO_needs_0 rfl ?_
    refine v_table (pc := 1) C 76 d_MO_needs_1 rfl (by decide) ?_
    refine v_iconst (pc := 76) (v := 1) C d_MO_needs_76 (by decide) ?_
    refine r_i (pc := 77) C d_MO_needs_77 ?_
    exact ⟨rfl, rfl⟩
  · refine v_iload_n (pc := 0) C d_MO_needs_0 rfl ?_
    refine v_table (pc := 1) C 76 d_MO_needs_1 rfl (by decide) ?_
    refine v_iconst (pc := 76) (v := 1) C d_MO_needs_76 (by decide) ?_
    refine r_i (pc := 77) C d_MO_needs_77 ?_
    exact ⟨rfl, rfl⟩
  · refine v_iload_n (pc := 0) C d_MO_needs_0 rfl ?_
    refine v_table (pc := 1) C 80 d_MO_needs_1 rfl (by decide) ?_
    refine v_iconst (pc := 80) (v := 0) C d_MO_needs_80 (by decide) ?_
    refine r_i (pc := 81) C d_MO_needs_81 ?_
    exact ⟨rfl, rfl⟩
  · refine v_iload_n (pc := 0) C d_MO_needs_0 rfl ?_
    refine v_table (pc := 1) C 76 d_MO_needs_1 rfl (by decide) ?_
    refine v_iconst (pc := 76) (v := 1) C d_MO_needs_76 (by decide) ?_
    refine r_i (pc := 77) C d_MO_needs_77 ?_
    exact ⟨rfl, rfl⟩
  · refine v_iload_n (pc := 0) C d_MO_needs_0 rfl ?_
    refine v_table (pc := 1) C 80 d_MO_needs_1 rfl (by decide) ?_
    refine v_iconst (pc := 80) (v := 0) C d_MO_needs_80 (by decide) ?_
    refine r_i (pc := 81) C d_MO_needs_81 ?_
    exact ⟨rfl, rfl⟩
  · refine v_iload_n (pc := 0) C d_MO_needs_0 rfl ?_
    refine v_table (pc := 1) C 80 d_MO_needs_1 rfl (by decide) ?_
    refine v_iconst (pc := 80) (v := 0) C d_MO_needs_80 (by decide) ?_
    refine r_i (pc := 81) C d_MO_needs_81 ?_
    exact ⟨rfl, rfl⟩
  · refine v_iload_n (pc := 0) C d_MO_needs_0 rfl ?_
    refine v_table (pc := 1) C 80 d_MO_needs_1 rfl (by decide) ?_
    refine v_iconst (pc := 80) (v := 0) C d_MO_needs_80 (by decide) ?_
    refine r_i (pc := 81) C d_MO_needs_81 ?_
    exact ⟨rfl, rfl⟩
  · refine v_iload_n (pc := 0) C d_MO_needs_0 rfl ?_
    refine v_table (pc := 1) C 80 d_MO_needs_1 rfl (by decide) ?_
    refine v_iconst (pc := 80) (v := 0) C d_MO_needs_80 (by decide) ?_
    refine r_i (pc := 81) C d_MO_needs_81 ?_
    exact ⟨rfl, rfl⟩
theorem c_MO_grows (l : Launch) {γ : GH} {σ : SGG} {op : Nat} (ho : op < 21) : Ct l y_MO_grows b_MO_grows 1 (some .int) rm_MO_grows γ (enc γ σ) [.int (nI op)] (PI γ (fun r u => r = growsL.getD op 0 ∧ u = σ)) := by
  refine ct_of "ReplayMachineModel" (by decide) rfl rfl (Nat.le_of_ble_eq_true rfl) (fun x hl C => ?_)
  subst hl
  show V x γ (0, 0) _ _ 0 [some (.int (nI op))] []
  have hcase : op = 0 ∨ op = 1 ∨ op = 2 ∨ op = 3 ∨ op = 4 ∨ op = 5 ∨ op = 6 ∨ op = 7 ∨ op = 8 ∨ op = 9 ∨ op = 10 ∨ op = 11 ∨ op = 12 ∨ op = 13 ∨ op = 14 ∨ op = 15 ∨ op = 16 ∨ op = 17 ∨ op = 18 ∨ op = 19 ∨ op = 20 := by omega
  rcases hcase with rfl | rfl | rfl | rfl | rfl | rfl | rfl | rfl | rfl | rfl | rfl | rfl | rfl | rfl | rfl | rfl | rfl | rfl | rfl | rfl | rfl
  · refine v_iload_n (pc := 0) C d_MO_grows_0 rfl ?_
    refine v_table (pc := 1) C 105 d_MO_grows_1 rfl (by decide) ?_
    refine v_iconst (pc := 105) (v := 0) C d_MO_grows_105 (by decide) ?_
    refine r_i (pc := 106) C d_MO_grows_106 ?_
    exact ⟨rfl, rfl⟩
  · refine v_iload_n (pc := 0) C d_MO_grows_0 rfl ?_
    refine v_table (pc := 1) C 96 d_MO_grows_1 rfl (by decide) ?_
    refine v_iconst (pc := 96) (v := 1) C d_MO_grows_96 (by decide) ?_
    refine r_i (pc := 97) C d_MO_grows_97 ?_
    exact ⟨rfl, rfl⟩
  · refine v_iload_n (pc := 0) C d_MO_grows_0 rfl ?_
    refine v_table (pc := 1) C 100 d_MO_grows_1 rfl (by decide) ?_
    refine v_iconst (pc := 100) (v := (-1)) C d_MO_grows_100 (by decide) ?_
    refine r_i (pc := 101) C d_MO_grows_101 ?_
    exact ⟨rfl, rfl⟩
  · refine v_iload_n (pc := 0) C d_MO_grows_0 rfl ?_
    refine v_table (pc := 1) C 96 d_MO_grows_1 rfl (by decide) ?_
    refine v_iconst (pc := 96) (v := 1) C d_MO_grows_96 (by decide) ?_
    refine r_i (pc := 97) C d_MO_grows_97 ?_
    exact ⟨rfl, rfl⟩
  · refine v_iload_n (pc := 0) C d_MO_grows_0 rfl ?_
    refine v_table (pc := 1) C 105 d_MO_grows_1 rfl (by decide) ?_
    refine v_iconst (pc := 105) (v := 0) C d_MO_grows_105 (by decide) ?_
    refine r_i (pc := 106) C d_MO_grows_106 ?_
    exact ⟨rfl, rfl⟩
  · refine v_iload_n (pc := 0) C d_MO_grows_0 rfl ?_
    refine v_table (pc := 1) C 100 d_MO_grows_1 rfl (by decide) ?_
    refine v_iconst (pc := 100) (v := (-1)) C d_MO_grows_100 (by decide) ?_
    refine r_i (pc := 101) C d_MO_grows_101 ?_
    exact ⟨rfl, rfl⟩
  · refine v_iload_n (pc := 0) C d_MO_grows_0 rfl ?_
    refine v_table (pc := 1) C 100 d_MO_grows_1 rfl (by decide) ?_
    refine v_iconst (pc := 100) (v := (-1)) C d_MO_grows_100 (by decide) ?_
    refine r_i (pc := 101) C d_MO_grows_101 ?_
    exact ⟨rfl, rfl⟩
  · refine v_iload_n (pc := 0) C d_MO_grows_0 rfl ?_
    refine v_table (pc := 1) C 100 d_MO_grows_1 rfl (by decide) ?_
    refine v_iconst (pc := 100) (v := (-1)) C d_MO_grows_100 (by decide) ?_
    refine r_i (pc := 101) C d_MO_grows_101 ?_
    exact ⟨rfl, rfl⟩
  · refine v_iload_n (pc := 0) C d_MO_grows_0 rfl ?_
    refine v_table (pc := 1) C 100 d_MO_grows_1 rfl (by decide) ?_
    refine v_iconst (pc := 100) (v := (-1)) C d_MO_grows_100 (by decide) ?_
    refine r_i (pc := 101) C d_MO_grows_101 ?_
    exact ⟨rfl, rfl⟩
  · refine v_iload_n (pc := 0) C d_MO_grows_0 rfl ?_
    refine v_table (pc := 1) C 100 d_MO_grows_1 rfl (by decide) ?_
    refine v_iconst (pc := 100) (v := (-1)) C d_MO_grows_100 (by decide) ?_
    refine r_i (pc := 101) C d_MO_grows_101 ?_
    exact ⟨rfl, rfl⟩
  · refine v_iload_n (pc := 0) C d_MO_grows_0 rfl ?_
    refine v_table (pc := 1) C 105 d_MO_grows_1 rfl (by decide) ?_
    refine v_iconst (pc := 105) (v := 0) C d_MO_grows_105 (by decide) ?_
    refine r_i (pc := 106) C d_MO_grows_106 ?_
    exact ⟨rfl, rfl⟩
  · refine v_iload_n (pc := 0) C d_MO_grows_0 rfl ?_
    refine v_table (pc := 1) C 102 d_MO_grows_1 rfl (by decide) ?_
    refine v_bipush (pc := 102) (v := (-2)) C d_MO_grows_102 (by decide) ?_
    refine r_i (pc := 104) C d_MO_grows_104 ?_
    exact ⟨rfl, rfl⟩
  · refine v_iload_n (pc := 0) C d_MO_grows_0 rfl ?_
    refine v_table (pc := 1) C 105 d_MO_grows_1 rfl (by decide) ?_
    refine v_iconst (pc := 105) (v := 0) C d_MO_grows_105 (by decide) ?_
    refine r_i (pc := 106) C d_MO_grows_106 ?_
    exact ⟨rfl, rfl⟩
  · refine v_iload_n (pc := 0) C d_MO_grows_0 rfl ?_
    refine v_table (pc := 1) C 100 d_MO_grows_1 rfl (by decide) ?_
    refine v_iconst (pc := 100) (v := (-1)) C d_MO_grows_100 (by decide) ?_
    refine r_i (pc := 101) C d_MO_grows_101 ?_
    exact ⟨rfl, rfl⟩
  · refine v_iload_n (pc := 0) C d_MO_grows_0 rfl ?_
    refine v_table (pc := 1) C 100 d_MO_grows_1 rfl (by decide) ?_
    refine v_iconst (pc := 100) (v := (-1)) C d_MO_grows_100 (by decide) ?_
    refine r_i (pc := 101) C d_MO_grows_101 ?_
    exact ⟨rfl, rfl⟩
  · refine v_iload_n (pc := 0) C d_MO_grows_0 rfl ?_
    refine v_table (pc := 1) C 98 d_MO_grows_1 rfl (by decide) ?_
    refine v_iconst (pc := 98) (v := 2) C d_MO_grows_98 (by decide) ?_
    refine r_i (pc := 99) C d_MO_grows_99 ?_
    exact ⟨rfl, rfl⟩
  · refine v_iload_n (pc := 0) C d_MO_grows_0 rfl ?_
    refine v_table (pc := 1) C 105 d_MO_grows_1 rfl (by decide) ?_
    refine v_iconst (pc := 105) (v := 0) C d_MO_grows_105 (by decide) ?_
    refine r_i (pc := 106) C d_MO_grows_106 ?_
    exact ⟨rfl, rfl⟩
  · refine v_iload_n (pc := 0) C d_MO_grows_0 rfl ?_
    refine v_table (pc := 1) C 96 d_MO_grows_1 rfl (by decide) ?_
    refine v_iconst (pc := 96) (v := 1) C d_MO_grows_96 (by decide) ?_
    refine r_i (pc := 97) C d_MO_grows_97 ?_
    exact ⟨rfl, rfl⟩
  · refine v_iload_n (pc := 0) C d_MO_grows_0 rfl ?_
    refine v_table (pc := 1) C 96 d_MO_grows_1 rfl (by decide) ?_
    refine v_iconst (pc := 96) (v := 1) C d_MO_grows_96 (by decide) ?_
    refine r_i (pc := 97) C d_MO_grows_97 ?_
    exact ⟨rfl, rfl⟩
  · refine v_iload_n (pc := 0) C d_MO_grows_0 rfl ?_
    refine v_table (pc := 1) C 96 d_MO_grows_1 rfl (by decide) ?_
    refine v_iconst (pc := 96) (v := 1) C d_MO_grows_96 (by decide) ?_
    refine r_i (pc := 97) C d_MO_grows_97 ?_
    exact ⟨rfl, rfl⟩
  · refine v_iload_n (pc := 0) C d_MO_grows_0 rfl ?_
    refine v_table (pc := 1) C 96 d_MO_grows_1 rfl (by decide) ?_
    refine v_iconst (pc := 96) (v := 1) C d_MO_grows_96 (by decide) ?_
    refine r_i (pc := 97) C d_MO_grows_97 ?_
    exact ⟨rfl, rfl⟩
theorem c_MO_isArgument (l : Launch) {γ : GH} (hY : 146 ≤ γ.N) {σ : SGG} {s : SS} {n : Int32} : Ct l y_MO_isArgument b_MO_isArgument 3 (some .boolean) rm_MO_isArgument γ (enc γ (mM σ s)) [.ref (aU γ), .int n] (PI γ (fun r u => r = isArgM s.f s.h n ∧ u = mM σ s)) := by
  refine ct_of "ReplayMachineModel" (by decide) rfl rfl (Nat.le_of_ble_eq_true rfl) (fun x hl C => ?_)
  subst hl
  show V x γ (0, 0) _ _ 0 [some (.ref (aU γ)), some (.int n), none] []
  refine v_aload_n (pc := 0) C d_MO_isArgument_0 rfl ?_
  refine gU_frame (pc := 1) C hY d_MO_isArgument_1 fl_MO_69 ?_
  refine v_iconst (pc := 4) (v := 3) C d_MO_isArgument_4 (by decide) ?_
  refine v_isub (pc := 5) C d_MO_isArgument_5 ?_
  refine v_istore_n (pc := 6) C d_MO_isArgument_6 (Nat.le_of_ble_eq_true rfl) ?_
  refine v_iload_n (pc := 7) C d_MO_isArgument_7 rfl ?_
  refine v_iload_n (pc := 8) C d_MO_isArgument_8 rfl ?_
  refine v_icmp_gt (pc := 9) C 26 d_MO_isArgument_9 (by decide) (fun c9 => ?_) (fun c9 => ?_)
  · refine v_iconst (pc := 26) (v := 0) C d_MO_isArgument_26 (by decide) ?_
    refine r_z (pc := 27) C d_MO_isArgument_27 ?_ ?_
    · rfl
    exact ⟨by unfold isArgM; first | rw [if_pos c9] | rw [if_neg c9, if_pos c19] | rw [if_neg c9, if_neg c19], rfl⟩
  · refine v_iload_n (pc := 12) C d_MO_isArgument_12 rfl ?_
    refine v_iload_n (pc := 13) C d_MO_isArgument_13 rfl ?_
    refine v_aload_n (pc := 14) C d_MO_isArgument_14 rfl ?_
    refine gU_height (pc := 15) C hY d_MO_isArgument_15 fl_MO_75 ?_
    refine v_isub (pc := 18) C d_MO_isArgument_18 ?_
    refine v_icmp_le (pc := 19) C 26 d_MO_isArgument_19 (by decide) (fun c19 => ?_) (fun c19 => ?_)
    · refine v_iconst (pc := 26) (v := 0) C d_MO_isArgument_26 (by decide) ?_
      refine r_z (pc := 27) C d_MO_isArgument_27 ?_ ?_
      · rfl
      exact ⟨by unfold isArgM; first | rw [if_pos c9] | rw [if_neg c9, if_pos c19] | rw [if_neg c9, if_neg c19], rfl⟩
    · refine v_iconst (pc := 22) (v := 1) C d_MO_isArgument_22 (by decide) ?_
      refine v_goto (pc := 23) C 27 d_MO_isArgument_23 (by decide) ?_
      refine r_z (pc := 27) C d_MO_isArgument_27 ?_ ?_
      · rfl
      exact ⟨by unfold isArgM; first | rw [if_pos c9] | rw [if_neg c9, if_pos c19] | rw [if_neg c9, if_neg c19], rfl⟩
theorem c_MO_push (l : Launch) {γ : GH} (hY : 146 ≤ γ.N) {σ : SGG} {s : SS} {v : Int32} (hh : vp_in s.h 24) : Ct l y_MO_push b_MO_push 2 none rm_MO_push γ (enc γ (mM σ s)) [.ref (aU γ), .int v] (PV γ (fun u => u = mM σ (pushS s v))) := by
  refine ct_of "ReplayMachineModel" (by decide) rfl rfl (Nat.le_of_ble_eq_true rfl) (fun x hl C => ?_)
  subst hl
  show V x γ (0, 0) _ _ 0 [some (.ref (aU γ)), some (.int v)] []
  refine v_aload_n (pc := 0) C d_MO_push_0 rfl ?_
  refine gU_stack (pc := 1) C hY d_MO_push_1 fl_MO_26 ?_
  refine v_aload_n (pc := 4) C d_MO_push_4 rfl ?_
  refine gU_height (pc := 5) C hY d_MO_push_5 fl_MO_75 ?_
  refine v_iload_n (pc := 8) C d_MO_push_8 rfl ?_
  refine stU_stack (pc := 9) C hY d_MO_push_9 ?_ ?_
  · exact hh
  refine v_aload_n (pc := 10) C d_MO_push_10 rfl ?_
  refine v_dup (pc := 11) C d_MO_push_11 rfl ?_
  refine gU_height (pc := 12) C hY d_MO_push_12 fl_MO_75 ?_
  refine v_iconst (pc := 15) (v := 1) C d_MO_push_15 (by decide) ?_
  refine v_iadd (pc := 16) C d_MO_push_16 ?_
  refine pU_height (pc := 17) C hY d_MO_push_17 fl_MO_75 ?_
  refine r_v (pc := 20) C d_MO_push_20 ?_
  rfl
theorem c_MO_pop (l : Launch) {γ : GH} (hY : 146 ≤ γ.N) {σ : SGG} {s : SS} (hh : vp_in (s.h - 1) 24) : Ct l y_MO_pop b_MO_pop 1 (some .int) rm_MO_pop γ (enc γ (mM σ s)) [.ref (aU γ)] (PI γ (fun r u => r = topS s ∧ u = mM σ (popS s))) := by
  refine ct_of "ReplayMachineModel" (by decide) rfl rfl (Nat.le_of_ble_eq_true rfl) (fun x hl C => ?_)
  subst hl
  show V x γ (0, 0) _ _ 0 [some (.ref (aU γ))] []
  refine v_aload_n (pc := 0) C d_MO_pop_0 rfl ?_
  refine v_dup (pc := 1) C d_MO_pop_1 rfl ?_
  refine gU_height (pc := 2) C hY d_MO_pop_2 fl_MO_75 ?_
  refine v_iconst (pc := 5) (v := 1) C d_MO_pop_5 (by decide) ?_
  refine v_isub (pc := 6) C d_MO_pop_6 ?_
  refine pU_height (pc := 7) C hY d_MO_pop_7 fl_MO_75 ?_
  refine v_aload_n (pc := 10) C d_MO_pop_10 rfl ?_
  refine gU_stack (pc := 11) C hY d_MO_pop_11 fl_MO_26 ?_
  refine v_aload_n (pc := 14) C d_MO_pop_14 rfl ?_
  refine gU_height (pc := 15) C hY d_MO_pop_15 fl_MO_75 ?_
  refine lU_stack (pc := 18) C hY d_MO_pop_18 ?_ ?_
  · exact hh
  refine r_i (pc := 19) C d_MO_pop_19 ?_
  exact ⟨rfl, rfl⟩
theorem c_MO_reckon (l : Launch) {γ : GH} {σ : SGG} {op : Nat} (h5 : 5 ≤ op) (h9 : op ≤ 9) {a b : Int32} (hb : op = 8 → ¬ b = 0) : Ct l y_MO_reckon b_MO_reckon 3 (some .int) rm_MO_reckon γ (enc γ σ) [.int (nI op), .int a, .int b] (PI γ (fun r u => r = reck op a b ∧ u = σ)) := by
  refine ct_of "ReplayMachineModel" (by decide) rfl rfl (Nat.le_of_ble_eq_true rfl) (fun x hl C => ?_)
  subst hl
  show V x γ (0, 0) _ _ 0 [some (.int (nI op)), some (.int a), some (.int b)] []
  have hcase : op = 5 ∨ op = 6 ∨ op = 7 ∨ op = 8 ∨ op = 9 := by omega
  rcases hcase with rfl | rfl | rfl | rfl | rfl
  · refine v_iload_n (pc := 0) C d_MO_reckon_0 rfl ?_
    refine v_table (pc := 1) C 32 d_MO_reckon_1 rfl (by decide) ?_
    refine v_iload_n (pc := 32) C d_MO_reckon_32 rfl ?_
    refine v_iload_n (pc := 33) C d_MO_reckon_33 rfl ?_
    refine v_iadd (pc := 34) C d_MO_reckon_34 ?_
    refine r_i (pc := 35) C d_MO_reckon_35 ?_
    exact ⟨rfl, rfl⟩
  · refine v_iload_n (pc := 0) C d_MO_reckon_0 rfl ?_
    refine v_table (pc := 1) C 36 d_MO_reckon_1 rfl (by decide) ?_
    refine v_iload_n (pc := 36) C d_MO_reckon_36 rfl ?_
    refine v_iload_n (pc := 37) C d_MO_reckon_37 rfl ?_
    refine v_isub (pc := 38) C d_MO_reckon_38 ?_
    refine r_i (pc := 39) C d_MO_reckon_39 ?_
    exact ⟨rfl, rfl⟩
  · refine v_iload_n (pc := 0) C d_MO_reckon_0 rfl ?_
    refine v_table (pc := 1) C 40 d_MO_reckon_1 rfl (by decide) ?_
    refine v_iload_n (pc := 40) C d_MO_reckon_40 rfl ?_
    refine v_iload_n (pc := 41) C d_MO_reckon_41 rfl ?_
    refine v_imul (pc := 42) C d_MO_reckon_42 ?_
    refine r_i (pc := 43) C d_MO_reckon_43 ?_
    exact ⟨rfl, rfl⟩
  · refine v_iload_n (pc := 0) C d_MO_reckon_0 rfl ?_
    refine v_table (pc := 1) C 44 d_MO_reckon_1 rfl (by decide) ?_
    refine v_iload_n (pc := 44) C d_MO_reckon_44 rfl ?_
    refine v_iload_n (pc := 45) C d_MO_reckon_45 rfl ?_
    refine v_idiv (pc := 46) C d_MO_reckon_46 ?_ ?_
    · exact hb rfl
    refine r_i (pc := 47) C d_MO_reckon_47 ?_
    exact ⟨rfl, rfl⟩
  · refine v_iload_n (pc := 0) C d_MO_reckon_0 rfl ?_
    refine v_table (pc := 1) C 48 d_MO_reckon_1 rfl (by decide) ?_
    refine v_iload_n (pc := 48) C d_MO_reckon_48 rfl ?_
    refine v_iload_n (pc := 49) C d_MO_reckon_49 rfl ?_
    refine v_icmp_ge (pc := 50) C 57 d_MO_reckon_50 (by decide) (fun c50 => ?_) (fun c50 => ?_)
    · refine v_iconst (pc := 57) (v := 0) C d_MO_reckon_57 (by decide) ?_
      refine r_i (pc := 58) C d_MO_reckon_58 ?_
      exact ⟨by show _ = (if a < b then (1 : Int32) else 0); first | rw [if_pos (k2_lt c50)] | rw [if_neg (k2_nlt c50)], rfl⟩
    · refine v_iconst (pc := 53) (v := 1) C d_MO_reckon_53 (by decide) ?_
      refine v_goto (pc := 54) C 58 d_MO_reckon_54 (by decide) ?_
      refine r_i (pc := 58) C d_MO_reckon_58 ?_
      exact ⟨by show _ = (if a < b then (1 : Int32) else 0); first | rw [if_pos (k2_lt c50)] | rw [if_neg (k2_nlt c50)], rfl⟩
theorem c_MO_branch (l : Launch) {γ : GH} (hY : 146 ≤ γ.N) {σ : SGG} {s : SS} {op : Nat} (h5 : 12 ≤ op) (h9 : op ≤ 14) {n : Int32} (hh : op ≠ 12 → vp_in (s.h - 1) 24) : Ct l y_MO_branch b_MO_branch 4 none rm_MO_branch γ (enc γ (mM σ s)) [.ref (aU γ), .int (nI op), .int n] (PV γ (fun u => u = mM σ (brS op n s))) := by
  refine ct_of "ReplayMachineModel" (by decide) rfl rfl (Nat.le_of_ble_eq_true rfl) (fun x hl C => ?_)
  subst hl
  show V x γ (0, 0) _ _ 0 [some (.ref (aU γ)), some (.int (nI op)), some (.int n), none] []
  have hcase : op = 12 ∨ op = 13 ∨ op = 14 := by omega
  rcases hcase with rfl | rfl | rfl
  · refine v_iload_n (pc := 0) C d_MO_branch_0 rfl ?_
    refine v_bipush (pc := 1) (v := 12) C d_MO_branch_1 (by decide) ?_
    refine v_icmp_ne (pc := 3) C 10 d_MO_branch_3 (by decide) (fun c3 => ?_) (fun c3 => ?_)
    · exact absurd rfl c3
    · refine v_iconst (pc := 6) (v := 0) C d_MO_branch_6 (by decide) ?_
      refine v_goto (pc := 7) C 14 d_MO_branch_7 (by decide) ?_
      refine v_istore_n (pc := 14) C d_MO_branch_14 (Nat.le_of_ble_eq_true rfl) ?_
      refine v_iload_n (pc := 15) C d_MO_branch_15 rfl ?_
      refine v_bipush (pc := 16) (v := 12) C d_MO_branch_16 (by decide) ?_
      refine v_icmp_eq (pc := 18) C 41 d_MO_branch_18 (by decide) (fun c18 => ?_) (fun c18 => ?_)
      · refine v_aload_n (pc := 41) C d_MO_branch_41 rfl ?_
        refine v_iload_n (pc := 42) C d_MO_branch_42 rfl ?_
        refine pU_pc (pc := 43) C hY d_MO_branch_43 fl_MO_66 ?_
        refine r_v (pc := 46) C d_MO_branch_46 ?_
        rfl
      · exact absurd rfl c18
  · refine v_iload_n (pc := 0) C d_MO_branch_0 rfl ?_
    refine v_bipush (pc := 1) (v := 12) C d_MO_branch_1 (by decide) ?_
    refine v_icmp_ne (pc := 3) C 10 d_MO_branch_3 (by decide) (fun c3 => ?_) (fun c3 => ?_)
    · refine v_aload_n (pc := 10) C d_MO_branch_10 rfl ?_
      refine kU0i (pc := 11) C hY cb_MO_92 ⟨im_MO_pop, sl_MO_pop⟩ rfl rk_MO_branch_MO_pop d_MO_branch_11 ⟨Nat.zero_le _, Nat.zero_le _⟩ (c_MO_pop x.l hY (hh (by decide))) (Nat.le_of_ble_eq_true rfl) (fun r11 σ11 h11 => ?_)
      obtain ⟨rfl, rfl⟩ := h11
      refine v_istore_n (pc := 14) C d_MO_branch_14 (Nat.le_of_ble_eq_true rfl) ?_
      refine v_iload_n (pc := 15) C d_MO_branch_15 rfl ?_
      refine v_bipush (pc := 16) (v := 12) C d_MO_branch_16 (by decide) ?_
      refine v_icmp_eq (pc := 18) C 41 d_MO_branch_18 (by decide) (fun c18 => ?_) (fun c18 => ?_)
      · exact absurd c18 (by decide)
      · refine v_iload_n (pc := 21) C d_MO_branch_21 rfl ?_
        refine v_bipush (pc := 22) (v := 13) C d_MO_branch_22 (by decide) ?_
        refine v_icmp_ne (pc := 24) C 31 d_MO_branch_24 (by decide) (fun c24 => ?_) (fun c24 => ?_)
        · exact absurd rfl c24
        · refine v_iload_n (pc := 27) C d_MO_branch_27 rfl ?_
          refine v_if_eq (pc := 28) C 41 d_MO_branch_28 (by decide) (fun c28 => ?_) (fun c28 => ?_)
          · refine v_aload_n (pc := 41) C d_MO_branch_41 rfl ?_
            refine v_iload_n (pc := 42) C d_MO_branch_42 rfl ?_
            refine pU_pc (pc := 43) C hY d_MO_branch_43 fl_MO_66 ?_
            refine r_v (pc := 46) C d_MO_branch_46 ?_
            show mM σ _ = mM σ (if topS s = 0 then _ else _); first | (rw [if_pos c28]; rfl) | (rw [if_neg c28]; rfl)
          · refine v_iload_n (pc := 31) C d_MO_branch_31 rfl ?_
            refine v_bipush (pc := 32) (v := 14) C d_MO_branch_32 (by decide) ?_
            refine v_icmp_ne (pc := 34) C 46 d_MO_branch_34 (by decide) (fun c34 => ?_) (fun c34 => ?_)
            · refine r_v (pc := 46) C d_MO_branch_46 ?_
              show mM σ _ = mM σ (if topS s = 0 then _ else _); first | (rw [if_pos c28]; rfl) | (rw [if_neg c28]; rfl)
            · exact absurd c34 (by decide)
    · exact absurd c3 (by decide)
  · refine v_iload_n (pc := 0) C d_MO_branch_0 rfl ?_
    refine v_bipush (pc := 1) (v := 12) C d_MO_branch_1 (by decide) ?_
    refine v_icmp_ne (pc := 3) C 10 d_MO_branch_3 (by decide) (fun c3 => ?_) (fun c3 => ?_)
    · refine v_aload_n (pc := 10) C d_MO_branch_10 rfl ?_
      refine kU0i (pc := 11) C hY cb_MO_92 ⟨im_MO_pop, sl_MO_pop⟩ rfl rk_MO_branch_MO_pop d_MO_branch_11 ⟨Nat.zero_le _, Nat.zero_le _⟩ (c_MO_pop x.l hY (hh (by decide))) (Nat.le_of_ble_eq_true rfl) (fun r11 σ11 h11 => ?_)
      obtain ⟨rfl, rfl⟩ := h11
      refine v_istore_n (pc := 14) C d_MO_branch_14 (Nat.le_of_ble_eq_true rfl) ?_
      refine v_iload_n (pc := 15) C d_MO_branch_15 rfl ?_
      refine v_bipush (pc := 16) (v := 12) C d_MO_branch_16 (by decide) ?_
      refine v_icmp_eq (pc := 18) C 41 d_MO_branch_18 (by decide) (fun c18 => ?_) (fun c18 => ?_)
      · exact absurd c18 (by decide)
      · refine v_iload_n (pc := 21) C d_MO_branch_21 rfl ?_
        refine v_bipush (pc := 22) (v := 13) C d_MO_branch_22 (by decide) ?_
        refine v_icmp_ne (pc := 24) C 31 d_MO_branch_24 (by decide) (fun c24 => ?_) (fun c24 => ?_)
        · refine v_iload_n (pc := 31) C d_MO_branch_31 rfl ?_
          refine v_bipush (pc := 32) (v := 14) C d_MO_branch_32 (by decide) ?_
          refine v_icmp_ne (pc := 34) C 46 d_MO_branch_34 (by decide) (fun c34 => ?_) (fun c34 => ?_)
          · exact absurd rfl c34
          · refine v_iload_n (pc := 37) C d_MO_branch_37 rfl ?_
            refine v_if_ge (pc := 38) C 46 d_MO_branch_38 (by decide) (fun c38 => ?_) (fun c38 => ?_)
            · refine r_v (pc := 46) C d_MO_branch_46 ?_
              show mM σ _ = mM σ (if topS s < 0 then _ else _); first | (rw [if_neg (k2_nlt c38)]; rfl) | (rw [if_pos (k2_lt c38)]; rfl)
            · refine v_aload_n (pc := 41) C d_MO_branch_41 rfl ?_
              refine v_iload_n (pc := 42) C d_MO_branch_42 rfl ?_
              refine pU_pc (pc := 43) C hY d_MO_branch_43 fl_MO_66 ?_
              refine r_v (pc := 46) C d_MO_branch_46 ?_
              show mM σ _ = mM σ (if topS s < 0 then _ else _); first | (rw [if_neg (k2_nlt c38)]; rfl) | (rw [if_pos (k2_lt c38)]; rfl)
        · exact absurd c24 (by decide)
    · exact absurd c3 (by decide)
theorem c_MO_giveBack (l : Launch) {γ : GH} (hY : 146 ≤ γ.N) {σ : SGG} {s : SS} (h1 : vp_in (s.h - 1) 24) (h2 : vp_in (s.f - 1) 24) (h3 : vp_in (s.f - 2) 24) : Ct l y_MO_giveBack b_MO_giveBack 2 none rm_MO_giveBack γ (enc γ (mM σ s)) [.ref (aU γ)] (PV γ (fun u => u = mM σ (retS s))) := by
  refine ct_of "ReplayMachineModel" (by decide) rfl rfl (Nat.le_of_ble_eq_true rfl) (fun x hl C => ?_)
  subst hl
  show V x γ (0, 0) _ _ 0 [some (.ref (aU γ)), none] []
  refine v_aload_n (pc := 0) C d_MO_giveBack_0 rfl ?_
  refine gU_stack (pc := 1) C hY d_MO_giveBack_1 fl_MO_26 ?_
  refine v_aload_n (pc := 4) C d_MO_giveBack_4 rfl ?_
  refine gU_height (pc := 5) C hY d_MO_giveBack_5 fl_MO_75 ?_
  refine v_iconst (pc := 8) (v := 1) C d_MO_giveBack_8 (by decide) ?_
  refine v_isub (pc := 9) C d_MO_giveBack_9 ?_
  refine lU_stack (pc := 10) C hY d_MO_giveBack_10 ?_ ?_
  · exact h1
  refine v_istore_n (pc := 11) C d_MO_giveBack_11 (Nat.le_of_ble_eq_true rfl) ?_
  refine v_aload_n (pc := 12) C d_MO_giveBack_12 rfl ?_
  refine v_aload_n (pc := 13) C d_MO_giveBack_13 rfl ?_
  refine gU_frame (pc := 14) C hY d_MO_giveBack_14 fl_MO_69 ?_
  refine pU_height (pc := 17) C hY d_MO_giveBack_17 fl_MO_75 ?_
  refine v_aload_n (pc := 20) C d_MO_giveBack_20 rfl ?_
  refine v_aload_n (pc := 21) C d_MO_giveBack_21 rfl ?_
  refine kU0i (pc := 22) C hY cb_MO_92 ⟨im_MO_pop, sl_MO_pop⟩ rfl rk_MO_giveBack_MO_pop d_MO_giveBack_22 ⟨Nat.zero_le _, Nat.zero_le _⟩ (c_MO_pop x.l hY (s := mo_r1 s) h2) (Nat.le_of_ble_eq_true rfl) (fun r22 σ22 h22 => ?_)
  obtain ⟨rfl, rfl⟩ := h22
  refine pU_frame (pc := 25) C hY d_MO_giveBack_25 fl_MO_69 ?_
  refine v_aload_n (pc := 28) C d_MO_giveBack_28 rfl ?_
  refine v_aload_n (pc := 29) C d_MO_giveBack_29 rfl ?_
  refine kU0i (pc := 30) C hY cb_MO_92 ⟨im_MO_pop, sl_MO_pop⟩ rfl rk_MO_giveBack_MO_pop d_MO_giveBack_30 ⟨Nat.zero_le _, Nat.zero_le _⟩ (c_MO_pop x.l hY (s := mo_r2 s) (by show vp_in (s.f - 1 - 1) 24; rw [sub11]; exact h3)) (Nat.le_of_ble_eq_true rfl) (fun r30 σ30 h30 => ?_)
  obtain ⟨rfl, rfl⟩ := h30
  refine pU_pc (pc := 33) C hY d_MO_giveBack_33 fl_MO_66 ?_
  refine v_w (σ2 := mM σ (mo_r3 s)) rfl ?_
  refine v_aload_n (pc := 36) C d_MO_giveBack_36 rfl ?_
  refine v_iload_n (pc := 37) C d_MO_giveBack_37 rfl ?_
  refine kU1v (pc := 38) C hY cb_MO_96 ⟨im_MO_push, sl_MO_push⟩ rfl rk_MO_giveBack_MO_push d_MO_giveBack_38 ⟨Nat.zero_le _, Nat.zero_le _⟩ (c_MO_push x.l hY (s := mo_r3 s) (by rw [mo_r3_eq]; exact h3)) (Nat.le_of_ble_eq_true rfl) (fun σ38 h38 => ?_)
  subst h38
  refine r_v (pc := 41) C d_MO_giveBack_41 ?_
  exact congrArg (mM σ) mo_ret
theorem c_MO_call (l : Launch) {γ : GH} (hY : 146 ≤ γ.N) {σ : SGG} {s : SS} {n : Int32} (h1 : vp_in s.h 24) (h2 : vp_in (s.h + 1) 24) : Ct l y_MO_call b_MO_call 2 none rm_MO_call γ (enc γ (mM σ s)) [.ref (aU γ), .int n] (PV γ (fun u => u = mM σ (jsrS s n))) := by
  refine ct_of "ReplayMachineModel" (by decide) rfl rfl (Nat.le_of_ble_eq_true rfl) (fun x hl C => ?_)
  subst hl
  show V x γ (0, 0) _ _ 0 [some (.ref (aU γ)), some (.int n)] []
  refine v_aload_n (pc := 0) C d_MO_call_0 rfl ?_
  refine v_aload_n (pc := 1) C d_MO_call_1 rfl ?_
  refine gU_pc (pc := 2) C hY d_MO_call_2 fl_MO_66 ?_
  refine kU1v (pc := 5) C hY cb_MO_96 ⟨im_MO_push, sl_MO_push⟩ rfl rk_MO_call_MO_push d_MO_call_5 ⟨Nat.zero_le _, Nat.zero_le _⟩ (c_MO_push x.l hY h1) (Nat.le_of_ble_eq_true rfl) (fun σ5 h5 => ?_)
  subst h5
  refine v_aload_n (pc := 8) C d_MO_call_8 rfl ?_
  refine v_aload_n (pc := 9) C d_MO_call_9 rfl ?_
  refine gU_frame (pc := 10) C hY d_MO_call_10 fl_MO_69 ?_
  refine kU1v (pc := 13) C hY cb_MO_96 ⟨im_MO_push, sl_MO_push⟩ rfl rk_MO_call_MO_push d_MO_call_13 ⟨Nat.zero_le _, Nat.zero_le _⟩ (c_MO_push x.l hY (s := jsrS1 s) (by rw [jsrS1_h]; exact h2)) (Nat.le_of_ble_eq_true rfl) (fun σ13 h13 => ?_)
  subst h13
  refine v_aload_n (pc := 16) C d_MO_call_16 rfl ?_
  refine v_aload_n (pc := 17) C d_MO_call_17 rfl ?_
  refine gU_height (pc := 18) C hY d_MO_call_18 fl_MO_75 ?_
  refine pU_frame (pc := 21) C hY d_MO_call_21 fl_MO_69 ?_
  refine v_aload_n (pc := 24) C d_MO_call_24 rfl ?_
  refine v_iload_n (pc := 25) C d_MO_call_25 rfl ?_
  refine pU_pc (pc := 26) C hY d_MO_call_26 fl_MO_66 ?_
  refine r_v (pc := 29) C d_MO_call_29 ?_
  rfl
theorem c_MO_draw (l : Launch) {γ : GH} (hY : 146 ≤ γ.N) {σ : SGG} {s : SS} {n : Int32} (hn : ¬ n = 0) : Ct l y_MO_draw b_MO_draw 2 (some .int) rm_MO_draw γ (enc γ (mM σ s)) [.ref (aU γ), .int n] (PI γ (fun r u => r = jrem (ush16 (nextX s.x)) n ∧ u = mM σ (setX s (nextX s.x)))) := by
  refine ct_of "ReplayMachineModel" (by decide) rfl rfl (Nat.le_of_ble_eq_true rfl) (fun x hl C => ?_)
  subst hl
  show V x γ (0, 0) _ _ 0 [some (.ref (aU γ)), some (.int n)] []
  refine v_aload_n (pc := 0) C d_MO_draw_0 rfl ?_
  refine v_ldc (pc := 1) C d_MO_draw_1 kc_MO_100 ?_
  refine v_aload_n (pc := 3) C d_MO_draw_3 rfl ?_
  refine gU_x (pc := 4) C hY d_MO_draw_4 fl_MO_45 ?_
  refine v_imul (pc := 7) C d_MO_draw_7 ?_
  refine v_sipush (pc := 8) (v := 12345) C d_MO_draw_8 (by decide) ?_
  refine v_iadd (pc := 11) C d_MO_draw_11 ?_
  refine v_top (b := nextX s.x) rfl ?_
  refine pU_x (pc := 12) C hY d_MO_draw_12 fl_MO_45 ?_
  refine v_w (σ2 := mM σ (setX s (nextX s.x))) rfl ?_
  refine v_aload_n (pc := 15) C d_MO_draw_15 rfl ?_
  refine gU_x (pc := 16) C hY d_MO_draw_16 fl_MO_45 ?_
  refine v_top (b := nextX s.x) rfl ?_
  refine v_bipush (pc := 19) (v := 16) C d_MO_draw_19 (by decide) ?_
  refine v_ishr (pc := 21) C d_MO_draw_21 ?_
  refine v_ldc (pc := 22) C d_MO_draw_22 kc_MO_101 ?_
  refine v_iand (pc := 24) C d_MO_draw_24 ?_
  refine v_top (b := ush16 (nextX s.x)) (shr16 _) ?_
  refine v_iload_n (pc := 25) C d_MO_draw_25 rfl ?_
  refine v_irem (pc := 26) C d_MO_draw_26 ?_ ?_
  · exact hn
  refine r_i (pc := 27) C d_MO_draw_27 ?_
  exact ⟨rfl, rfl⟩
