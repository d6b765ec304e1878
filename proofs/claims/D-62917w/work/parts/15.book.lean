/-- Notebook.begin -/
theorem c_NB_begin (l : Launch) {γ : GH} (hX : 135 ≤ γ.N) {σ : SGG} {i : Nat} (hi : i < 10) {s : SS} (hs : σ.S i = s) {nw mn : Nat} (hw : σ.J 0 = nI nw) (hnw : nw < 32) (hm : σ.J 1 = nI mn) (hmn : mn ≤ 32) : Ct l y_NB_begin b_NB_begin 3 (some (.object "ReplayMachine$Note")) rm_NB_begin γ (enc γ σ) [.ref (aB γ), .ref (aS γ i)] (PR γ (fun r u => r = aN γ (nx32 nw) ∧ u = sT (sJ (sJ σ 0 (nI (nx32 nw))) 1 (nI (up32 mn))) (nx32 nw) (begT s (σ.T (nx32 nw))))) := by
  refine ct_of "ReplayMachine$Notebook" (by decide) rfl rfl (Nat.le_of_ble_eq_true rfl) (fun x hl C => ?_)
  subst hl
  show V x γ (0, 0) _ _ 0 [some (.ref (aB γ)), some (.ref (aS γ i)), none] []
  have hj : nx32 nw < 32 := Nat.mod_lt _ (by decide)
  have J32 : V x γ (0, 0) (QM x γ (PR γ (fun r u => r = aN γ (nx32 nw) ∧ u = sT (sJ (sJ σ 0 (nI (nx32 nw))) 1 (nI (up32 mn))) (nx32 nw) (begT s (σ.T (nx32 nw)))))) (enc γ (sJ (sJ σ 0 (nI (nx32 nw))) 1 (nI (up32 mn)))) 32 [some (.ref (aB γ)), some (.ref (aS γ i)), none] [] := by
    refine v_aload_n (pc := 32) C d_NB_begin_32 rfl ?_
    refine gB_ring (pc := 33) C hX d_NB_begin_33 fl_NB_11 ?_
    refine v_aload_n (pc := 36) C d_NB_begin_36 rfl ?_
    refine gB_newest (pc := 37) C hX d_NB_begin_37 fl_NB_18 ?_
    refine v_top (b := nI (nx32 nw)) rfl ?_
    refine lRN (pc := 40) C hX d_NB_begin_40 (hj) ?_
    refine v_astore_n (pc := 41) C d_NB_begin_41 (Nat.le_of_ble_eq_true rfl) ?_
    refine v_aload_n (pc := 42) C d_NB_begin_42 rfl ?_
    refine v_aload_n (pc := 43) C d_NB_begin_43 rfl ?_
    refine gS_pc (pc := 44) C hX (by first | assumption | omega) (by first | assumption | exact P2_S | exact sS_S | rfl) d_NB_begin_44 fl_NB_25 ?_
    refine pT_pc (pc := 47) C hX (by first | assumption | omega) (by first | assumption | exact P2_T | exact sT_T | rfl) (by first | assumption | exact P2_setT | exact sT_sT | rfl) d_NB_begin_47 fl_NB_30 ?_
    refine v_aload_n (pc := 50) C d_NB_begin_50 rfl ?_
    refine v_aload_n (pc := 51) C d_NB_begin_51 rfl ?_
    refine gS_frame (pc := 52) C hX (by first | assumption | omega) (by first | assumption | exact P2_S | exact sS_S | rfl) d_NB_begin_52 fl_NB_31 ?_
    refine pT_frame (pc := 55) C hX (by first | assumption | omega) (by first | assumption | exact P2_T | exact sT_T | rfl) (by first | assumption | exact P2_setT | exact sT_sT | rfl) d_NB_begin_55 fl_NB_34 ?_
    refine v_aload_n (pc := 58) C d_NB_begin_58 rfl ?_
    refine v_aload_n (pc := 59) C d_NB_begin_59 rfl ?_
    refine gS_x (pc := 60) C hX (by first | assumption | omega) (by first | assumption | exact P2_S | exact sS_S | rfl) d_NB_begin_60 fl_NB_35 ?_
    refine pT_x (pc := 63) C hX (by first | assumption | omega) (by first | assumption | exact P2_T | exact sT_T | rfl) (by first | assumption | exact P2_setT | exact sT_sT | rfl) d_NB_begin_63 fl_NB_38 ?_
    refine v_aload_n (pc := 66) C d_NB_begin_66 rfl ?_
    refine v_aload_n (pc := 67) C d_NB_begin_67 rfl ?_
    refine gS_taken (pc := 68) C hX (by first | assumption | omega) (by first | assumption | exact P2_S | exact sS_S | rfl) d_NB_begin_68 fl_NB_39 ?_
    refine pT_taken (pc := 71) C hX (by first | assumption | omega) (by first | assumption | exact P2_T | exact sT_T | rfl) (by first | assumption | exact P2_setT | exact sT_sT | rfl) d_NB_begin_71 fl_NB_42 ?_
    refine v_aload_n (pc := 74) C d_NB_begin_74 rfl ?_
    refine v_aload_n (pc := 75) C d_NB_begin_75 rfl ?_
    refine gS_height (pc := 76) C hX (by first | assumption | omega) (by first | assumption | exact P2_S | exact sS_S | rfl) d_NB_begin_76 fl_NB_43 ?_
    refine pT_height (pc := 79) C hX (by first | assumption | omega) (by first | assumption | exact P2_T | exact sT_T | rfl) (by first | assumption | exact P2_setT | exact sT_sT | rfl) d_NB_begin_79 fl_NB_46 ?_
    refine v_aload_n (pc := 82) C d_NB_begin_82 rfl ?_
    refine v_iconst (pc := 83) (v := 0) C d_NB_begin_83 (by decide) ?_
    refine pT_changes (pc := 84) C hX (by first | assumption | omega) (by first | assumption | exact P2_T | exact sT_T | rfl) (by first | assumption | exact P2_setT | exact sT_sT | rfl) d_NB_begin_84 fl_NB_47 ?_
    refine v_aload_n (pc := 87) C d_NB_begin_87 rfl ?_
    refine r_a (pc := 88) C rfl d_NB_begin_88 ?_
    exact ⟨rfl, rfl⟩
  refine v_aload_n (pc := 0) C d_NB_begin_0 rfl ?_
  refine v_aload_n (pc := 1) C d_NB_begin_1 rfl ?_
  refine gB_newest (pc := 2) C hX d_NB_begin_2 fl_NB_18 ?_
  refine v_iconst (pc := 5) (v := 1) C d_NB_begin_5 (by decide) ?_
  refine v_iadd (pc := 6) C d_NB_begin_6 ?_
  refine v_bipush (pc := 7) (v := 32) C d_NB_begin_7 (by decide) ?_
  refine v_irem (pc := 9) C d_NB_begin_9 ?_ ?_
  · decide
  refine v_top (b := nI (nx32 nw)) (by rw [hw, nI_1]; exact rem32 (by omega)) ?_
  refine pB_newest (pc := 10) C hX d_NB_begin_10 fl_NB_18 ?_
  refine v_aload_n (pc := 13) C d_NB_begin_13 rfl ?_
  refine gB_many (pc := 14) C hX d_NB_begin_14 fl_NB_22 ?_
  refine v_bipush (pc := 17) (v := 32) C d_NB_begin_17 (by decide) ?_
  refine v_icmp_ge (pc := 19) C 32 d_NB_begin_19 (by decide) (fun c19 => ?_) (fun c19 => ?_)
  · have hq : mn = 32 := by
      have h1 : ¬ mn < 32 := fun h => absurd c19 (show ¬ (32 : Int32) ≤ σ.J 1 by rw [hm]; exact nI_ge h (by decide))
      omega
    refine v_w (sJ_same (σ := sJ σ 0 (nI (nx32 nw))) (j := 1) (v := nI (up32 mn)) (show σ.J 1 = _ by rw [hm, hq]; rfl)).symm ?_
    exact J32
  · have hq : mn < 32 := by
      rcases Nat.lt_or_ge mn 32 with h | h
      · exact h
      · exact absurd (show (32 : Int32) ≤ σ.J 1 by rw [hm]; exact nI_le h (by omega)) c19
    refine v_aload_n (pc := 22) C d_NB_begin_22 rfl ?_
    refine v_dup (pc := 23) C d_NB_begin_23 rfl ?_
    refine gB_many (pc := 24) C hX d_NB_begin_24 fl_NB_22 ?_
    refine v_iconst (pc := 27) (v := 1) C d_NB_begin_27 (by decide) ?_
    refine v_iadd (pc := 28) C d_NB_begin_28 ?_
    refine v_top (b := nI (up32 mn)) (show σ.J 1 + 1 = _ by rw [hm, nI_1]; unfold up32; rw [if_pos hq]) ?_
    refine pB_many (pc := 29) C hX d_NB_begin_29 fl_NB_22 ?_
    exact J32
theorem c_NB_clear (l : Launch) {γ : GH} (hX : 135 ≤ γ.N) {σ : SGG} : Ct l y_NB_clear b_NB_clear 1 none rm_NB_clear γ (enc γ σ) [.ref (aB γ)] (PV γ (fun u => u = sJ σ 1 0)) := by
  refine ct_of "ReplayMachine$Notebook" (by decide) rfl rfl (Nat.le_of_ble_eq_true rfl) (fun x hl C => ?_)
  subst hl
  show V x γ (0, 0) _ _ 0 [some (.ref (aB γ))] []
  refine v_aload_n (pc := 0) C d_NB_clear_0 rfl ?_
  refine v_iconst (pc := 1) (v := 0) C d_NB_clear_1 (by decide) ?_
  refine pB_many (pc := 2) C hX d_NB_clear_2 fl_NB_22 ?_
  refine r_v (pc := 5) C d_NB_clear_5 ?_
  rfl
/-- Notebook.undo -/
theorem c_NB_undo (l : Launch) {γ : GH} (hX : 135 ≤ γ.N) {σ : SGG} {i : Nat} (hi : i < 10) {s : SS} (hs : σ.S i = s) {nw c : Nat} (hw : σ.J 0 = nI nw) (hnw : nw < 32) {t : SS} (ht : σ.T nw = t) (hc : t.n = nI c) (hc4 : c ≤ 4) (hok : undoOk t c) : Ct l y_NB_undo b_NB_undo 4 none rm_NB_undo γ (enc γ σ) [.ref (aB γ), .ref (aS γ i)] (PV γ (fun u => u = sS (sJ (sJ σ 0 (nI (pv32 nw))) 1 (σ.J 1 - 1)) i (undoS s t c))) := by
  refine ct_of "ReplayMachine$Notebook" (by decide) rfl rfl (Nat.le_of_ble_eq_true rfl) (fun x hl C => ?_)
  subst hl
  show V x γ (0, 0) _ _ 0 [some (.ref (aB γ)), some (.ref (aS γ i)), none, none] []
  have loop : ∀ (n : Nat) (u : SS), n ≤ c → undoN t n u = undoN t c s → V x γ (0, 0) (QM x γ (PV γ (fun u => u = sS (sJ (sJ σ 0 (nI (pv32 nw))) 1 (σ.J 1 - 1)) i (undoS s t c)))) (enc γ (sS (sJ (sJ σ 0 (nI (pv32 nw))) 1 (σ.J 1 - 1)) i u)) 43 [some (.ref (aB γ)), some (.ref (aS γ i)), some (.ref (aN γ nw)), some (.int (nI n - 1))] [] := by
    intro n
    induction n with
    | zero =>
      intro u hn hinv
      have hinv : u = undoN t c s := hinv
      refine v_iload_n (pc := 43) C d_NB_undo_43 rfl ?_
      refine v_if_lt (pc := 44) C 104 d_NB_undo_44 (by decide) (fun c44 => ?_) (fun c44 => ?_)
      · refine v_aload_n (pc := 104) C d_NB_undo_104 rfl ?_
        refine v_aload_n (pc := 105) C d_NB_undo_105 rfl ?_
        refine gT_pc (pc := 106) C hX (by first | assumption | omega) (by first | assumption | exact P2_T | exact sT_T | rfl) d_NB_undo_106 fl_NB_30 ?_
        refine pS_pc (pc := 109) C hX (by first | assumption | omega) (by first | assumption | exact P2_S | exact sS_S | rfl) (by first | assumption | exact P2_setS | exact sS_sS | rfl) d_NB_undo_109 fl_NB_25 ?_
        refine v_aload_n (pc := 112) C d_NB_undo_112 rfl ?_
        refine v_aload_n (pc := 113) C d_NB_undo_113 rfl ?_
        refine gT_frame (pc := 114) C hX (by first | assumption | omega) (by first | assumption | exact P2_T | exact sT_T | rfl) d_NB_undo_114 fl_NB_34 ?_
        refine pS_frame (pc := 117) C hX (by first | assumption | omega) (by first | assumption | exact P2_S | exact sS_S | rfl) (by first | assumption | exact P2_setS | exact sS_sS | rfl) d_NB_undo_117 fl_NB_31 ?_
        refine v_aload_n (pc := 120) C d_NB_undo_120 rfl ?_
        refine v_aload_n (pc := 121) C d_NB_undo_121 rfl ?_
        refine gT_x (pc := 122) C hX (by first | assumption | omega) (by first | assumption | exact P2_T | exact sT_T | rfl) d_NB_undo_122 fl_NB_38 ?_
        refine pS_x (pc := 125) C hX (by first | assumption | omega) (by first | assumption | exact P2_S | exact sS_S | rfl) (by first | assumption | exact P2_setS | exact sS_sS | rfl) d_NB_undo_125 fl_NB_35 ?_
        refine v_aload_n (pc := 128) C d_NB_undo_128 rfl ?_
        refine v_aload_n (pc := 129) C d_NB_undo_129 rfl ?_
        refine gT_taken (pc := 130) C hX (by first | assumption | omega) (by first | assumption | exact P2_T | exact sT_T | rfl) d_NB_undo_130 fl_NB_42 ?_
        refine pS_taken (pc := 133) C hX (by first | assumption | omega) (by first | assumption | exact P2_S | exact sS_S | rfl) (by first | assumption | exact P2_setS | exact sS_sS | rfl) d_NB_undo_133 fl_NB_39 ?_
        refine v_aload_n (pc := 136) C d_NB_undo_136 rfl ?_
        refine v_aload_n (pc := 137) C d_NB_undo_137 rfl ?_
        refine gT_height (pc := 138) C hX (by first | assumption | omega) (by first | assumption | exact P2_T | exact sT_T | rfl) d_NB_undo_138 fl_NB_46 ?_
        refine pS_height (pc := 141) C hX (by first | assumption | omega) (by first | assumption | exact P2_S | exact sS_S | rfl) (by first | assumption | exact P2_setS | exact sS_sS | rfl) d_NB_undo_141 fl_NB_43 ?_
        refine v_aload_n (pc := 144) C d_NB_undo_144 rfl ?_
        refine v_dup (pc := 145) C d_NB_undo_145 rfl ?_
        refine gS_time (pc := 146) C hX (by first | assumption | omega) (by first | assumption | exact P2_S | exact sS_S | rfl) d_NB_undo_146 fl_NB_63 ?_
        refine v_iconst (pc := 149) (v := 1) C d_NB_undo_149 (by decide) ?_
        refine v_isub (pc := 150) C d_NB_undo_150 ?_
        refine pS_time (pc := 151) C hX (by first | assumption | omega) (by first | assumption | exact P2_S | exact sS_S | rfl) (by first | assumption | exact P2_setS | exact sS_sS | rfl) d_NB_undo_151 fl_NB_63 ?_
        refine r_v (pc := 154) C d_NB_undo_154 ?_
        subst hinv
        rfl
      · exact absurd (show nI 0 - 1 < 0 by decide) c44
    | succ n ih =>
      intro u hn hinv
      have hn4 : n < 4 := by omega
      have hk := hok n (by omega)
      refine v_loc (L2 := [some (.ref (aB γ)), some (.ref (aS γ i)), some (.ref (aN γ nw)), some (.int (nI n))]) (by rw [nI_pred]) ?_
      refine v_iload_n (pc := 43) C d_NB_undo_43 rfl ?_
      refine v_if_lt (pc := 44) C 104 d_NB_undo_44 (by decide) (fun c44 => ?_) (fun c44 => ?_)
      · exact absurd c44 (nI_pos (by omega))
      · refine v_aload_n (pc := 47) C d_NB_undo_47 rfl ?_
        refine gT_places (pc := 48) C hX (by first | assumption | omega) (by first | assumption | exact P2_T | exact sT_T | rfl) d_NB_undo_48 fl_NB_50 ?_
        refine v_iload_n (pc := 51) C d_NB_undo_51 rfl ?_
        refine lT_placesN (pc := 52) C hX (by first | assumption | omega) (by first | assumption | exact P2_T | exact sT_T | rfl) d_NB_undo_52 (hn4) ?_
        refine v_bipush (pc := 53) (v := 100) C d_NB_undo_53 (by decide) ?_
        refine v_icmp_ge (pc := 55) C 78 d_NB_undo_55 (by decide) (fun c55 => ?_) (fun c55 => ?_)
        · have e1 : undo1 u t n = setC u (t.c n - 100) (t.s n) := if_neg (fun q => absurd c55 (k2_nle q))
          have hin := hk.2 (fun q => absurd c55 (k2_nle q))
          refine v_aload_n (pc := 78) C d_NB_undo_78 rfl ?_
          refine gS_cells (pc := 79) C hX (by first | assumption | omega) (by first | assumption | exact P2_S | exact sS_S | rfl) d_NB_undo_79 fl_NB_60 ?_
          refine v_aload_n (pc := 82) C d_NB_undo_82 rfl ?_
          refine gT_places (pc := 83) C hX (by first | assumption | omega) (by first | assumption | exact P2_T | exact sT_T | rfl) d_NB_undo_83 fl_NB_50 ?_
          refine v_iload_n (pc := 86) C d_NB_undo_86 rfl ?_
          refine lT_placesN (pc := 87) C hX (by first | assumption | omega) (by first | assumption | exact P2_T | exact sT_T | rfl) d_NB_undo_87 (hn4) ?_
          refine v_bipush (pc := 88) (v := 100) C d_NB_undo_88 (by decide) ?_
          refine v_isub (pc := 90) C d_NB_undo_90 ?_
          refine v_aload_n (pc := 91) C d_NB_undo_91 rfl ?_
          refine gT_values (pc := 92) C hX (by first | assumption | omega) (by first | assumption | exact P2_T | exact sT_T | rfl) d_NB_undo_92 fl_NB_57 ?_
          refine v_iload_n (pc := 95) C d_NB_undo_95 rfl ?_
          refine lT_valuesN (pc := 96) C hX (by first | assumption | omega) (by first | assumption | exact P2_T | exact sT_T | rfl) d_NB_undo_96 (hn4) ?_
          refine stS_cells (pc := 97) C hX (by first | assumption | omega) (by first | assumption | exact P2_S | exact sS_S | rfl) (by first | assumption | exact P2_setS | exact sS_sS | rfl) d_NB_undo_97 ?_ ?_
          · exact hin
          refine v_iinc (pc := 98) C d_NB_undo_98 rfl (i_m1 _) ?_
          refine v_goto (pc := 101) C 43 d_NB_undo_101 (by decide) ?_
          refine v_w (σ2 := sS (sJ (sJ σ 0 (nI (pv32 nw))) 1 (σ.J 1 - 1)) i (undo1 u t n)) (by rw [e1]) ?_
          exact ih (undo1 u t n) (by omega) hinv
        · have e1 : undo1 u t n = setK u (t.c n) (t.s n) := if_pos (k2_lt c55)
          have hin := hk.1 (k2_lt c55)
          refine v_aload_n (pc := 58) C d_NB_undo_58 rfl ?_
          refine gS_stack (pc := 59) C hX (by first | assumption | omega) (by first | assumption | exact P2_S | exact sS_S | rfl) d_NB_undo_59 fl_NB_54 ?_
          refine v_aload_n (pc := 62) C d_NB_undo_62 rfl ?_
          refine gT_places (pc := 63) C hX (by first | assumption | omega) (by first | assumption | exact P2_T | exact sT_T | rfl) d_NB_undo_63 fl_NB_50 ?_
          refine v_iload_n (pc := 66) C d_NB_undo_66 rfl ?_
          refine lT_placesN (pc := 67) C hX (by first | assumption | omega) (by first | assumption | exact P2_T | exact sT_T | rfl) d_NB_undo_67 (hn4) ?_
          refine v_aload_n (pc := 68) C d_NB_undo_68 rfl ?_
          refine gT_values (pc := 69) C hX (by first | assumption | omega) (by first | assumption | exact P2_T | exact sT_T | rfl) d_NB_undo_69 fl_NB_57 ?_
          refine v_iload_n (pc := 72) C d_NB_undo_72 rfl ?_
          refine lT_valuesN (pc := 73) C hX (by first | assumption | omega) (by first | assumption | exact P2_T | exact sT_T | rfl) d_NB_undo_73 (hn4) ?_
          refine stS_stack (pc := 74) C hX (by first | assumption | omega) (by first | assumption | exact P2_S | exact sS_S | rfl) (by first | assumption | exact P2_setS | exact sS_sS | rfl) d_NB_undo_74 ?_ ?_
          · exact hin
          refine v_goto (pc := 75) C 98 d_NB_undo_75 (by decide) ?_
          refine v_iinc (pc := 98) C d_NB_undo_98 rfl (i_m1 _) ?_
          refine v_goto (pc := 101) C 43 d_NB_undo_101 (by decide) ?_
          refine v_w (σ2 := sS (sJ (sJ σ 0 (nI (pv32 nw))) 1 (σ.J 1 - 1)) i (undo1 u t n)) (by rw [e1]) ?_
          exact ih (undo1 u t n) (by omega) hinv
  refine v_aload_n (pc := 0) C d_NB_undo_0 rfl ?_
  refine gB_ring (pc := 1) C hX d_NB_undo_1 fl_NB_11 ?_
  refine v_aload_n (pc := 4) C d_NB_undo_4 rfl ?_
  refine gB_newest (pc := 5) C hX d_NB_undo_5 fl_NB_18 ?_
  refine v_top (b := nI nw) hw ?_
  refine lRN (pc := 8) C hX d_NB_undo_8 (hnw) ?_
  refine v_astore_n (pc := 9) C d_NB_undo_9 (Nat.le_of_ble_eq_true rfl) ?_
  refine v_aload_n (pc := 10) C d_NB_undo_10 rfl ?_
  refine v_aload_n (pc := 11) C d_NB_undo_11 rfl ?_
  refine gB_newest (pc := 12) C hX d_NB_undo_12 fl_NB_18 ?_
  refine v_bipush (pc := 15) (v := 32) C d_NB_undo_15 (by decide) ?_
  refine v_iadd (pc := 17) C d_NB_undo_17 ?_
  refine v_iconst (pc := 18) (v := 1) C d_NB_undo_18 (by decide) ?_
  refine v_isub (pc := 19) C d_NB_undo_19 ?_
  refine v_bipush (pc := 20) (v := 32) C d_NB_undo_20 (by decide) ?_
  refine v_irem (pc := 22) C d_NB_undo_22 ?_ ?_
  · decide
  refine v_top (b := nI (pv32 nw)) (by rw [hw]; rw [show nI nw + 32 - 1 = nI (nw + 31) from by rw [show (32 : Int32) = nI 32 from rfl, nI_add, show nw + 32 = (nw + 31) + 1 from rfl, nI_pred]]; exact rem32 (by omega)) ?_
  refine pB_newest (pc := 23) C hX d_NB_undo_23 fl_NB_18 ?_
  refine v_aload_n (pc := 26) C d_NB_undo_26 rfl ?_
  refine v_dup (pc := 27) C d_NB_undo_27 rfl ?_
  refine gB_many (pc := 28) C hX d_NB_undo_28 fl_NB_22 ?_
  refine v_iconst (pc := 31) (v := 1) C d_NB_undo_31 (by decide) ?_
  refine v_isub (pc := 32) C d_NB_undo_32 ?_
  refine pB_many (pc := 33) C hX d_NB_undo_33 fl_NB_22 ?_
  refine v_aload_n (pc := 36) C d_NB_undo_36 rfl ?_
  refine gT_changes (pc := 37) C hX (by first | assumption | omega) (by first | assumption | exact P2_T | exact sT_T | rfl) d_NB_undo_37 fl_NB_47 ?_
  refine v_iconst (pc := 40) (v := 1) C d_NB_undo_40 (by decide) ?_
  refine v_isub (pc := 41) C d_NB_undo_41 ?_
  refine v_top (b := nI c - 1) (show t.n - 1 = _ by rw [hc]) ?_
  refine v_istore_n (pc := 42) C d_NB_undo_42 (Nat.le_of_ble_eq_true rfl) ?_
  refine v_w (σ2 := sS (sJ (sJ σ 0 (nI (pv32 nw))) 1 (σ.J 1 - 1)) i s) (by rw [← hs]; exact sS_eta.symm) ?_
  exact loop c s (Nat.le_refl c) rfl
/-- State.become -/
theorem c_ST_become (l : Launch) {γ : GH} (hX : 135 ≤ γ.N) {σ : SGG} {i j : Nat} (hi : i < 10) (hj : j < 10) (hij : i ≠ j) {s : SS} (hs : σ.S j = s) : Ct l y_ST_become b_ST_become 2 none rm_ST_become γ (enc γ σ) [.ref (aS γ i), .ref (aS γ j)] (PV γ (fun u => u = sS σ i s)) := by
  refine ct_of "ReplayMachine$State" (by decide) rfl rfl (Nat.le_of_ble_eq_true rfl) (fun x hl C => ?_)
  subst hl
  show V x γ (0, 0) _ _ 0 [some (.ref (aS γ i)), some (.ref (aS γ j))] []
  refine v_aload_n (pc := 0) C d_ST_become_0 rfl ?_
  refine gS_cells (pc := 1) C hX (by first | assumption | omega) rfl d_ST_become_1 fl_ST_9 ?_
  refine v_iconst (pc := 4) (v := 0) C d_ST_become_4 (by decide) ?_
  refine v_aload_n (pc := 5) C d_ST_become_5 rfl ?_
  refine gS_cells (pc := 6) C hX (by first | assumption | omega) rfl d_ST_become_6 fl_ST_9 ?_
  refine v_iconst (pc := 9) (v := 0) C d_ST_become_9 (by decide) ?_
  refine v_bipush (pc := 10) (v := 32) C d_ST_become_10 (by decide) ?_
  refine cpC (pc := 12) C hX hi hj rfl hs rfl d_ST_become_12 ml_ST_18 (by decide) (Nat.le_of_ble_eq_true rfl) ?_
  refine v_aload_n (pc := 15) C d_ST_become_15 rfl ?_
  refine gS_stack (pc := 16) C hX (by first | assumption | omega) (by first | exact (show (sS σ i _).S j = s from (va_up_ne _ _ (Ne.symm hij)).trans hs) | rfl) d_ST_become_16 fl_ST_15 ?_
  refine v_iconst (pc := 19) (v := 0) C d_ST_become_19 (by decide) ?_
  refine v_aload_n (pc := 20) C d_ST_become_20 rfl ?_
  refine gS_stack (pc := 21) C hX (by first | assumption | omega) (by first | exact (show (sS σ i _).S j = s from (va_up_ne _ _ (Ne.symm hij)).trans hs) | rfl) d_ST_become_21 fl_ST_15 ?_
  refine v_iconst (pc := 24) (v := 0) C d_ST_become_24 (by decide) ?_
  refine v_bipush (pc := 25) (v := 24) C d_ST_become_25 (by decide) ?_
  refine cpK (pc := 27) C hX hi hj sS_S (show (sS σ i _).S j = s from (va_up_ne _ _ (Ne.symm hij)).trans hs) sS_sS d_ST_become_27 ml_ST_18 (by decide) (Nat.le_of_ble_eq_true rfl) ?_
  refine v_aload_n (pc := 30) C d_ST_become_30 rfl ?_
  refine v_aload_n (pc := 31) C d_ST_become_31 rfl ?_
  refine gS_height (pc := 32) C hX (by first | assumption | omega) (show (sS σ i _).S j = s from (va_up_ne _ _ (Ne.symm hij)).trans hs) d_ST_become_32 fl_ST_24 ?_
  refine pS_height (pc := 35) C hX (by first | assumption | omega) sS_S sS_sS d_ST_become_35 fl_ST_24 ?_
  refine v_aload_n (pc := 38) C d_ST_become_38 rfl ?_
  refine v_aload_n (pc := 39) C d_ST_become_39 rfl ?_
  refine gS_pc (pc := 40) C hX (by first | assumption | omega) (show (sS σ i _).S j = s from (va_up_ne _ _ (Ne.symm hij)).trans hs) d_ST_become_40 fl_ST_28 ?_
  refine pS_pc (pc := 43) C hX (by first | assumption | omega) sS_S sS_sS d_ST_become_43 fl_ST_28 ?_
  refine v_aload_n (pc := 46) C d_ST_become_46 rfl ?_
  refine v_aload_n (pc := 47) C d_ST_become_47 rfl ?_
  refine gS_frame (pc := 48) C hX (by first | assumption | omega) (show (sS σ i _).S j = s from (va_up_ne _ _ (Ne.symm hij)).trans hs) d_ST_become_48 fl_ST_31 ?_
  refine pS_frame (pc := 51) C hX (by first | assumption | omega) sS_S sS_sS d_ST_become_51 fl_ST_31 ?_
  refine v_aload_n (pc := 54) C d_ST_become_54 rfl ?_
  refine v_aload_n (pc := 55) C d_ST_become_55 rfl ?_
  refine gS_x (pc := 56) C hX (by first | assumption | omega) (show (sS σ i _).S j = s from (va_up_ne _ _ (Ne.symm hij)).trans hs) d_ST_become_56 fl_ST_34 ?_
  refine pS_x (pc := 59) C hX (by first | assumption | omega) sS_S sS_sS d_ST_become_59 fl_ST_34 ?_
  refine v_aload_n (pc := 62) C d_ST_become_62 rfl ?_
  refine v_aload_n (pc := 63) C d_ST_become_63 rfl ?_
  refine gS_taken (pc := 64) C hX (by first | assumption | omega) (show (sS σ i _).S j = s from (va_up_ne _ _ (Ne.symm hij)).trans hs) d_ST_become_64 fl_ST_37 ?_
  refine pS_taken (pc := 67) C hX (by first | assumption | omega) sS_S sS_sS d_ST_become_67 fl_ST_37 ?_
  refine v_aload_n (pc := 70) C d_ST_become_70 rfl ?_
  refine v_aload_n (pc := 71) C d_ST_become_71 rfl ?_
  refine gS_time (pc := 72) C hX (by first | assumption | omega) (show (sS σ i _).S j = s from (va_up_ne _ _ (Ne.symm hij)).trans hs) d_ST_become_72 fl_ST_40 ?_
  refine pS_time (pc := 75) C hX (by first | assumption | omega) sS_S sS_sS d_ST_become_75 fl_ST_40 ?_
  refine r_v (pc := 78) C d_ST_become_78 ?_
  show sS σ i _ = sS σ i s; rfl
theorem c_RM_remember (l : Launch) {γ : GH} (hX : 135 ≤ γ.N) {σ : SGG} : Ct l y_RM_remember b_RM_remember 1 none rm_RM_remember γ (enc γ σ) [.ref (aM γ)] (PV γ (fun u => u = sF σ 4 (σ.S 0).c)) := by
  refine ct_of "ReplayMachine" (by decide) rfl rfl (Nat.le_of_ble_eq_true rfl) (fun x hl C => ?_)
  subst hl
  show V x γ (0, 0) _ _ 0 [some (.ref (aM γ))] []
  refine v_aload_n (pc := 0) C d_RM_remember_0 rfl ?_
  refine gM_now (pc := 1) C hX d_RM_remember_1 fl_RM_19 ?_
  refine gS_cells (pc := 4) C hX (by first | assumption | omega) (by first | assumption | exact P2_S | exact sS_S | rfl) d_RM_remember_4 fl_RM_142 ?_
  refine v_iconst (pc := 7) (v := 0) C d_RM_remember_7 (by decide) ?_
  refine v_aload_n (pc := 8) C d_RM_remember_8 rfl ?_
  refine gM_were (pc := 9) C hX d_RM_remember_9 fl_RM_48 ?_
  refine v_iconst (pc := 12) (v := 0) C d_RM_remember_12 (by decide) ?_
  refine v_bipush (pc := 13) (v := 32) C d_RM_remember_13 (by decide) ?_
  refine cpW (pc := 15) C hX d_RM_remember_15 ml_RM_188 (by decide) (Nat.le_of_ble_eq_true rfl) ?_
  refine r_v (pc := 18) C d_RM_remember_18 ?_
  rfl
theorem c_RM_branch (l : Launch) {γ : GH} (hX : 135 ≤ γ.N) {σ σ2 : SGG} {i : Nat} (hi : i < 10) {s : SS} (hs : σ.S i = s) {to d : Int32} (hσ : sS σ i (if d = 0 then setH s (s.h - 1) else setP (setH s (s.h - 1)) to) = σ2) : Ct l y_RM_branch b_RM_branch 3 none rm_RM_branch γ (enc γ σ) [.ref (aS γ i), .int to, .int d] (PV γ (fun u => u = σ2)) := by
  refine ct_of "ReplayMachine" (by decide) rfl rfl (Nat.le_of_ble_eq_true rfl) (fun x hl C => ?_)
  subst hl
  show V x γ (0, 0) _ _ 0 [some (.ref (aS γ i)), some (.int to), some (.int d)] []
  subst hσ
  refine v_aload_n (pc := 0) C d_RM_branch_0 rfl ?_
  refine v_dup (pc := 1) C d_RM_branch_1 rfl ?_
  refine gS_height (pc := 2) C hX (by first | assumption | omega) (by first | assumption | exact P2_S | exact sS_S | rfl) d_RM_branch_2 fl_RM_93 ?_
  refine v_iconst (pc := 5) (v := 1) C d_RM_branch_5 (by decide) ?_
  refine v_isub (pc := 6) C d_RM_branch_6 ?_
  refine pS_height (pc := 7) C hX (by first | assumption | omega) (by first | assumption | exact P2_S | exact sS_S | rfl) (by first | assumption | exact P2_setS | exact sS_sS | rfl) d_RM_branch_7 fl_RM_93 ?_
  refine v_iload_n (pc := 10) C d_RM_branch_10 rfl ?_
  refine v_if_eq (pc := 11) C 19 d_RM_branch_11 (by decide) (fun c11 => ?_) (fun c11 => ?_)
  · rw [if_pos c11]
    refine r_v (pc := 19) C d_RM_branch_19 ?_
    rfl
  · rw [if_neg c11]
    refine v_aload_n (pc := 14) C d_RM_branch_14 rfl ?_
    refine v_iload_n (pc := 15) C d_RM_branch_15 rfl ?_
    refine pS_pc (pc := 16) C hX (by first | assumption | omega) (by first | assumption | exact P2_S | exact sS_S | rfl) (by first | assumption | exact P2_setS | exact sS_sS | rfl) d_RM_branch_16 fl_RM_80 ?_
    refine r_v (pc := 19) C d_RM_branch_19 ?_
    rfl
