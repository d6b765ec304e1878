theorem c_RM_replay (l : Launch) {γ : GH} (hX : 135 ≤ γ.N) {cd ip : TF} {x0 : Int32} {g t r c e : Nat} {σ : SGG} {q : Nat} (h : RC cd ip x0 g t r 0 c e σ) (hq : σ.S 1 = tr cd ip x0 q) (hqr : q < r) : Ct l y_RM_replay b_RM_replay 1 none rm_RM_replay γ (enc γ σ) [.ref (aM γ)] (PV γ (fun v => RC cd ip x0 g t r 0 c e v ∧ fr σ v ∧ v.S 1 = tr cd ip x0 (q + 1))) := by
  refine ct_of "ReplayMachine" (by decide) rfl rfl (Nat.le_of_ble_eq_true rfl) (fun x hl C => ?_)
  subst hl
  show V x γ (0, 0) _ _ 0 [some (.ref (aM γ))] []
  obtain ⟨⟨n1, n2, n3, n4, n5, n6, n7, nw, n8, n9, n10⟩, hK, hg, htr, hr, hrun, hcost⟩ := id h
  obtain ⟨⟨a, a1, a2⟩, ⟨b, b1, b2⟩, -⟩ := tr_wf hg hrun q (by omega)
  refine v_aload_n (pc := 0) C d_RM_replay_0 rfl ?_
  refine v_aload_n (pc := 1) C d_RM_replay_1 rfl ?_
  refine gM_earlier (pc := 2) C hX d_RM_replay_2 fl_RM_51 ?_
  refine kM1v (pc := 5) C hX cb_RM_169 ⟨im_RM_perform, sl_RM_perform⟩ rfl rk_RM_replay_RM_perform d_RM_replay_5 ⟨Nat.zero_le _, Nat.zero_le _⟩ (c_RM_perform x.l hX (i := 1) (by decide) hq n9 n8 n7 n5 a2 a1 b2 n3 b1 hg (by rw [n1, n3]; exact hrun q hqr)) (Nat.le_of_ble_eq_true rfl) (fun σ5 h5 => ?_)
  subst h5
  refine v_aload_n (pc := 8) C d_RM_replay_8 rfl ?_
  refine gM_notebook (pc := 9) C hX d_RM_replay_9 fl_RM_26 ?_
  refine kB0v (pc := 12) C hX cb_RM_209 ⟨im_NB_clear, sl_NB_clear⟩ rfl rk_RM_replay_NB_clear d_RM_replay_12 ⟨Nat.zero_le _, Nat.zero_le _⟩ (c_NB_clear x.l hX) (Nat.le_of_ble_eq_true rfl) (fun σ12 h12 => ?_)
  subst h12
  refine r_v (pc := 15) C d_RM_replay_15 ?_
  have w : nx32 nw < 32 := Nat.mod_lt _ (by decide)
  have R := rc_replay (a := nI (up32 0)) (b := nI (nx32 nw)) (s := stp (σ.F 0) (σ.F 1) (tr cd ip x0 q)) (T := stpT (σ.F 0) (tr cd ip x0 q) (σ.T (nx32 nw))) h w
  rw [nI_clamp (by omega)] at R
  refine ⟨R, ⟨rfl, rfl⟩, ?_⟩
  show (P2 (sJ (sJ σ 0 (nI (nx32 nw))) 1 (nI (up32 0))) 1 (nx32 nw) (stp (σ.F 0) (σ.F 1) (tr cd ip x0 q)) (stpT (σ.F 0) (tr cd ip x0 q) (σ.T (nx32 nw)))).S 1 = _
  rw [P2_S, n1, n2]
  rfl
theorem rc_early {cd ip : TF} {x0 : Int32} {g t r c e : Nat} {σ : SGG} {s : SS} (h : RC cd ip x0 g t r 0 c e σ) : RC cd ip x0 g t r 0 c e (sS σ 1 s) := by
  obtain ⟨h1, ⟨k1, k2, k3, k4, k5, k6, k7⟩, h3⟩ := h
  refine ⟨h1.of rfl rfl (sS_Sn (by decide)) rfl rfl, ⟨k1, k2, k3, k4, k5, k6, fun k hk => ?_⟩, h3⟩
  have z : r / ev e < 8 := Nat.div_lt_of_lt_mul (Nat.mul_comm 8 _ ▸ k3)
  have := k1.1 k (by omega)
  exact (sS_Sn (show σ.κ k ≠ 1 by omega)).trans (k7 k hk)
theorem c_RM_changedBefore (l : Launch) {γ : GH} (hX : 135 ≤ γ.N) {cd ip : TF} {x0 : Int32} {g t r c e : Nat} {σ : SGG} (h : RC cd ip x0 g t r 0 c e σ) (h0 : 0 < t) : Ct l y_RM_changedBefore b_RM_changedBefore 3 (some .boolean) rm_RM_changedBefore γ (enc γ σ) [.ref (aM γ)] (PI γ (fun q v => q = (if watB (σ.F 3) (tr cd ip x0 t).c (tr cd ip x0 (t - 1)).c = true then 1 else 0) ∧ RC cd ip x0 g t r 0 c e v ∧ fr σ v)) := by
  refine ct_of "ReplayMachine" (by decide) rfl rfl (Nat.le_of_ble_eq_true rfl) (fun x hl C => ?_)
  subst hl
  show V x γ (0, 0) _ _ 0 [some (.ref (aM γ)), none, none] []
  obtain ⟨hN, hK, hg, htr, hr, hrun, hcost⟩ := id h
  have hT := (tr_wf hg hrun t htr).2.2
  have hE := ev_le hK.2.1
  have hE0 := ev_pos e
  have L3 : ∀ (kk : Nat) (w : SGG), RC cd ip x0 g t r 0 c e w → fr σ w → w.S 1 = tr cd ip x0 (t - 1) → ∀ k, k ≤ 32 → ((∀ c, c < k → ¬ (¬ σ.F 3 c = 0 ∧ ¬ (tr cd ip x0 (t - 1)).c c = (tr cd ip x0 t).c c)) → V x γ (0, 0) (QM x γ (PI γ (fun q v => q = (if watB (σ.F 3) (tr cd ip x0 t).c (tr cd ip x0 (t - 1)).c = true then 1 else 0) ∧ RC cd ip x0 g t r 0 c e v ∧ fr σ v))) (enc γ w) 73 [some (.ref (aM γ)), some (.int (nI kk)), some (.int (nI k))] []) := by
    intro kk w hR hf hS1
    refine up_loop _ 32 (fun k hk ih hinv => ?_)
    have hw3 : w.F 3 = σ.F 3 := by rw [hf.1]
    have J : k < 32 → ¬ (¬ σ.F 3 k = 0 ∧ ¬ (tr cd ip x0 (t - 1)).c k = (tr cd ip x0 t).c k) → V x γ (0, 0) (QM x γ (PI γ (fun q v => q = (if watB (σ.F 3) (tr cd ip x0 t).c (tr cd ip x0 (t - 1)).c = true then 1 else 0) ∧ RC cd ip x0 g t r 0 c e v ∧ fr σ v))) (enc γ w) 111 [some (.ref (aM γ)), some (.int (nI kk)), some (.int (nI k))] [] := by
      intro z q
      refine v_iinc (pc := 111) C d_RM_changedBefore_111 rfl (nI_1' k) ?_
      refine v_goto (pc := 114) C 73 d_RM_changedBefore_114 (by decide) ?_
      exact ih z (fun c hc => (Nat.lt_or_ge c k).elim (hinv c) (fun w => by rw [show c = k by omega]; exact q))
    refine v_iload_n (pc := 73) C d_RM_changedBefore_73 rfl ?_
    refine v_bipush (pc := 74) (v := 32) C d_RM_changedBefore_74 (by decide) ?_
    refine v_icmp_ge (pc := 76) C 117 d_RM_changedBefore_76 (by decide) (fun c76 => ?_) (fun c76 => ?_)
    · have z := (nI_leI (a := 32) (by decide) (by omega)).mp c76
      refine v_iconst (pc := 117) (v := 0) C d_RM_changedBefore_117 (by decide) ?_
      refine r_z (pc := 118) C d_RM_changedBefore_118 ?_ ?_
      · rfl
      exact ⟨by rw [watB_comm, watB_f (fun c hc => hinv c (by omega))]; rfl, hR, hf⟩
    · have z : k < 32 := nn_lt (b := 32) (by omega) c76
      refine v_aload_n (pc := 79) C d_RM_changedBefore_79 rfl ?_
      refine gM_watches (pc := 80) C hX d_RM_changedBefore_80 fl_RM_45 ?_
      refine v_iload_n (pc := 83) C d_RM_changedBefore_83 rfl ?_
      refine lM_watchesN (pc := 84) C hX d_RM_changedBefore_84 (z) ?_
      refine v_top (b := σ.F 3 k) (by rw [hw3]) ?_
      refine v_if_eq (pc := 85) C 111 d_RM_changedBefore_85 (by decide) (fun c85 => ?_) (fun c85 => ?_)
      · exact J z (fun q => q.1 c85)
      · refine v_aload_n (pc := 88) C d_RM_changedBefore_88 rfl ?_
        refine gM_earlier (pc := 89) C hX d_RM_changedBefore_89 fl_RM_51 ?_
        refine gS_cells (pc := 92) C hX (by first | assumption | omega) hS1 d_RM_changedBefore_92 fl_RM_142 ?_
        refine v_iload_n (pc := 95) C d_RM_changedBefore_95 rfl ?_
        refine lS_cellsN (pc := 96) C hX (by first | assumption | omega) hS1 d_RM_changedBefore_96 (z) ?_
        refine v_aload_n (pc := 97) C d_RM_changedBefore_97 rfl ?_
        refine gM_now (pc := 98) C hX d_RM_changedBefore_98 fl_RM_19 ?_
        refine gS_cells (pc := 101) C hX (by first | assumption | omega) hR.1.2.2.2.1 d_RM_changedBefore_101 fl_RM_142 ?_
        refine v_iload_n (pc := 104) C d_RM_changedBefore_104 rfl ?_
        refine lS_cellsN (pc := 105) C hX (by first | assumption | omega) hR.1.2.2.2.1 d_RM_changedBefore_105 (z) ?_
        refine v_icmp_eq (pc := 106) C 111 d_RM_changedBefore_106 (by decide) (fun c106 => ?_) (fun c106 => ?_)
        · exact J z (fun q => q.2 c106)
        · refine v_iconst (pc := 109) (v := 1) C d_RM_changedBefore_109 (by decide) ?_
          refine r_z (pc := 110) C d_RM_changedBefore_110 ?_ ?_
          · rfl
          exact ⟨by rw [watB_comm, watB_t z c85 c106]; rfl, hR, hf⟩
  have L2 : ∀ kk : Nat, ∀ q, q ≤ t - 1 → (∀ w : SGG, RC cd ip x0 g t r 0 c e w → fr σ w → w.S 1 = tr cd ip x0 q → V x γ (0, 0) (QM x γ (PI γ (fun q v => q = (if watB (σ.F 3) (tr cd ip x0 t).c (tr cd ip x0 (t - 1)).c = true then 1 else 0) ∧ RC cd ip x0 g t r 0 c e v ∧ fr σ v))) (enc γ w) 45 [some (.ref (aM γ)), some (.int (nI kk)), none] []) := by
    intro kk
    refine up_loop _ (t - 1) (fun q hq ih w hR hf hS1 => ?_)
    have hTq := (tr_wf hg hrun q (by omega)).2.2
    refine v_aload_n (pc := 45) C d_RM_changedBefore_45 rfl ?_
    refine gM_earlier (pc := 46) C hX d_RM_changedBefore_46 fl_RM_51 ?_
    refine gS_time (pc := 49) C hX (by first | assumption | omega) hS1 d_RM_changedBefore_49 fl_RM_125 ?_
    refine v_aload_n (pc := 52) C d_RM_changedBefore_52 rfl ?_
    refine gM_now (pc := 53) C hX d_RM_changedBefore_53 fl_RM_19 ?_
    refine gS_time (pc := 56) C hX (by first | assumption | omega) hR.1.2.2.2.1 d_RM_changedBefore_56 fl_RM_125 ?_
    refine v_iconst (pc := 59) (v := 1) C d_RM_changedBefore_59 (by decide) ?_
    refine v_isub (pc := 60) C d_RM_changedBefore_60 ?_
    refine v_top (b := nI (t - 1)) (show (tr cd ip x0 t).t - 1 = _ by rw [hT]; exact pk_sub (b := 1) (by omega)) ?_
    refine v_top2 (b := nI q) hTq ?_
    refine v_icmp_ge (pc := 61) C 71 d_RM_changedBefore_61 (by decide) (fun c61 => ?_) (fun c61 => ?_)
    · have z := (nI_leI (by omega) (by omega)).mp c61
      refine v_iconst (pc := 71) (v := 0) C d_RM_changedBefore_71 (by decide) ?_
      refine v_istore_n (pc := 72) C d_RM_changedBefore_72 (Nat.le_of_ble_eq_true rfl) ?_
      exact L3 kk w hR hf (by rw [hS1, show q = t - 1 by omega]) 0 (by decide) (fun c hc => absurd hc (Nat.not_lt_zero c))
    · have z : q < t - 1 := nn_lt (by omega) c61
      refine v_aload_n (pc := 64) C d_RM_changedBefore_64 rfl ?_
      refine kM0v (pc := 65) C hX cb_RM_244 ⟨im_RM_replay, sl_RM_replay⟩ rfl rk_RM_changedBefore_RM_replay d_RM_changedBefore_65 ⟨Nat.zero_le _, Nat.zero_le _⟩ (c_RM_replay x.l hX hR hS1 (by omega)) (Nat.le_of_ble_eq_true rfl) (fun σ65 h65 => ?_)
      obtain ⟨m1, m2, m3⟩ := h65
      refine v_goto (pc := 68) C 45 d_RM_changedBefore_68 (by decide) ?_
      exact ih z _ m1 (hf.trans m2) m3
  have L1 : ∀ k, k ≤ r / ev e → V x γ (0, 0) (QM x γ (PI γ (fun q v => q = (if watB (σ.F 3) (tr cd ip x0 t).c (tr cd ip x0 (t - 1)).c = true then 1 else 0) ∧ RC cd ip x0 g t r 0 c e v ∧ fr σ v))) (enc γ σ) 7 [some (.ref (aM γ)), some (.int (nI k)), none] [] := by
    refine down_loop _ (fun k ih hk => ?_)
    obtain ⟨y1, y2, y3⟩ := rc_kt h hk
    have y4 := hK.1.1 k y1
    have y5 := hK.2.2.2.2.2.2 k hk
    refine v_aload_n (pc := 7) C d_RM_changedBefore_7 rfl ?_
    refine gM_kept (pc := 8) C hX d_RM_changedBefore_8 fl_RM_30 ?_
    refine v_iload_n (pc := 11) C d_RM_changedBefore_11 rfl ?_
    refine lQN (pc := 12) C hX d_RM_changedBefore_12 (y1) ?_
    refine gS_time (pc := 13) C hX y4.2 y5 d_RM_changedBefore_13 fl_RM_125 ?_
    refine v_aload_n (pc := 16) C d_RM_changedBefore_16 rfl ?_
    refine gM_now (pc := 17) C hX d_RM_changedBefore_17 fl_RM_19 ?_
    refine gS_time (pc := 20) C hX (by first | assumption | omega) hN.2.2.2.1 d_RM_changedBefore_20 fl_RM_125 ?_
    refine v_top (b := nI t) hT ?_
    refine v_top2 (b := nI (k * ev e)) y3 ?_
    refine v_icmp_lt (pc := 23) C 32 d_RM_changedBefore_23 (by decide) (fun c23 => ?_) (fun c23 => ?_)
    · have z : k * ev e < t := (nI_ltI (by omega) (by omega)).mp c23
      refine v_aload_n (pc := 32) C d_RM_changedBefore_32 rfl ?_
      refine gM_earlier (pc := 33) C hX d_RM_changedBefore_33 fl_RM_51 ?_
      refine v_aload_n (pc := 36) C d_RM_changedBefore_36 rfl ?_
      refine gM_kept (pc := 37) C hX d_RM_changedBefore_37 fl_RM_30 ?_
      refine v_iload_n (pc := 40) C d_RM_changedBefore_40 rfl ?_
      refine lQN (pc := 41) C hX d_RM_changedBefore_41 (y1) ?_
      refine kS1v (pc := 42) C hX (by first | assumption | omega) cb_RM_57 ⟨im_ST_become, sl_ST_become⟩ rfl rk_RM_changedBefore_ST_become d_RM_changedBefore_42 ⟨Nat.zero_le _, Nat.zero_le _⟩ (c_ST_become x.l hX (by decide) y4.2 (by omega) y5) (Nat.le_of_ble_eq_true rfl) (fun σ42 h42 => ?_)
      subst h42
      refine L2 k (k * ev e) (by omega) _ ?_ ⟨rfl, rfl⟩ sS_S
      exact rc_early h
    · have z := nn_le (by omega) c23
      obtain ⟨j, rfl⟩ : ∃ j, k = j + 1 := ex_pred (fun q => by rw [q, Nat.zero_mul] at z; omega)
      refine v_iinc (pc := 26) C d_RM_changedBefore_26 rfl ((i_m1 _).trans (nI_pred j)) ?_
      refine v_goto (pc := 29) C 7 d_RM_changedBefore_29 (by decide) ?_
      exact ih j rfl (by omega)
  refine v_aload_n (pc := 0) C d_RM_changedBefore_0 rfl ?_
  refine gM_keptCount (pc := 1) C hX d_RM_changedBefore_1 fl_RM_34 ?_
  refine v_iconst (pc := 4) (v := 1) C d_RM_changedBefore_4 (by decide) ?_
  refine v_isub (pc := 5) C d_RM_changedBefore_5 ?_
  refine v_top (b := nI (r / ev e)) (show σ.I 1 - 1 = _ by rw [hK.2.2.2.1, nI_pred]) ?_
  refine v_istore_n (pc := 6) C d_RM_changedBefore_6 (Nat.le_of_ble_eq_true rfl) ?_
  exact L1 _ (Nat.le_refl _)
theorem c_RM_stopHere (l : Launch) {γ : GH} (hX : 135 ≤ γ.N) {cd ip : TF} {x0 : Int32} {g t r u c e : Nat} {σ : SGG} (h : RC cd ip x0 g t r u c e σ) (h0 : 0 < t) : Ct l y_RM_stopHere b_RM_stopHere 2 (some .int) rm_RM_stopHere γ (enc γ σ) [.ref (aM γ)] (PI γ (fun q v => q = stopS (σ.F 2) (σ.F 3) (tr cd ip x0 t).p (tr cd ip x0 t).c (tr cd ip x0 (t - 1)).c ∧ RC cd ip x0 g t r u c e v ∧ fr σ v)) := by
  refine ct_of "ReplayMachine" (by decide) rfl rfl (Nat.le_of_ble_eq_true rfl) (fun x hl C => ?_)
  subst hl
  show V x γ (0, 0) _ _ 0 [some (.ref (aM γ)), none] []
  obtain ⟨hN, hK, hg, htr, hr, hrun, hcost⟩ := id h
  obtain ⟨n1, n2, n3, n4, n5, n6, n7, nw, n8, n9, n10⟩ := id hN
  have J141 : ∀ o : Option Value, ¬ brkP (σ.F 2) (tr cd ip x0 t).p → watB (σ.F 3) (tr cd ip x0 t).c (tr cd ip x0 (t - 1)).c = false → V x γ (0, 0) (QM x γ (PI γ (fun q v => q = stopS (σ.F 2) (σ.F 3) (tr cd ip x0 t).p (tr cd ip x0 t).c (tr cd ip x0 (t - 1)).c ∧ RC cd ip x0 g t r u c e v ∧ fr σ v))) (enc γ σ) 141 [some (.ref (aM γ)), o] [] := by
    intro o hb z
    refine v_iconst (pc := 141) (v := 0) C d_RM_stopHere_141 (by decide) ?_
    refine r_i (pc := 142) C d_RM_stopHere_142 ?_
    exact ⟨(stopS_n hb z).symm, h, fr.refl σ⟩
  have J40 : ¬ brkP (σ.F 2) (tr cd ip x0 t).p → V x γ (0, 0) (QM x γ (PI γ (fun q v => q = stopS (σ.F 2) (σ.F 3) (tr cd ip x0 t).p (tr cd ip x0 t).c (tr cd ip x0 (t - 1)).c ∧ RC cd ip x0 g t r u c e v ∧ fr σ v))) (enc γ σ) 40 [some (.ref (aM γ)), none] [] := by
    intro hb
    refine v_aload_n (pc := 40) C d_RM_stopHere_40 rfl ?_
    refine kM0i (pc := 41) C hX cb_RM_219 ⟨im_RM_watchesAny, sl_RM_watchesAny⟩ rfl rk_RM_stopHere_RM_watchesAny d_RM_stopHere_41 ⟨Nat.zero_le _, Nat.zero_le _⟩ (c_RM_watchesAny x.l hX) (Nat.le_of_ble_eq_true rfl) (fun r41 σ41 h41 => ?_)
    obtain ⟨e41, w41⟩ := h41
    subst e41
    rw [w41]
    refine v_if_ne (pc := 44) C 49 d_RM_stopHere_44 (by decide) (fun c44 => ?_) (fun c44 => ?_)
    · refine v_aload_n (pc := 49) C d_RM_stopHere_49 rfl ?_
      refine gM_notebook (pc := 50) C hX d_RM_stopHere_50 fl_RM_26 ?_
      refine gBN_many (pc := 53) C hX d_RM_stopHere_53 fl_RM_203 ?_
      refine v_top (b := nI u) n7 ?_
      refine v_if_le (pc := 56) C 143 d_RM_stopHere_56 (by decide) (fun c56 => ?_) (fun c56 => ?_)
      · have z : u = 0 := by
          rcases Nat.eq_zero_or_pos u with q | q
          · exact q
          · exact absurd c56 (nI_nle q (by omega))
        subst z
        refine v_aload_n (pc := 143) C d_RM_stopHere_143 rfl ?_
        refine kM0i (pc := 144) C hX cb_RM_241 ⟨im_RM_changedBefore, sl_RM_changedBefore⟩ rfl rk_RM_stopHere_RM_changedBefore d_RM_stopHere_144 ⟨Nat.zero_le _, Nat.zero_le _⟩ (c_RM_changedBefore x.l hX h h0) (Nat.le_of_ble_eq_true rfl) (fun r144 σ144 h144 => ?_)
        obtain ⟨m1, m2, m3⟩ := h144
        refine v_top (b := if watB (σ.F 3) (tr cd ip x0 t).c (tr cd ip x0 (t - 1)).c = true then 1 else 0) m1 ?_
        refine v_if_eq (pc := 147) C 155 d_RM_stopHere_147 (by decide) (fun c147 => ?_) (fun c147 => ?_)
        · have y : watB (σ.F 3) (tr cd ip x0 t).c (tr cd ip x0 (t - 1)).c = false := by
            cases ha : watB (σ.F 3) (tr cd ip x0 t).c (tr cd ip x0 (t - 1)).c
            · rfl
            · rw [ha] at c147; exact absurd c147 (by decide)
          refine v_iconst (pc := 155) (v := 0) C d_RM_stopHere_155 (by decide) ?_
          refine r_i (pc := 156) C d_RM_stopHere_156 ?_
          first | exact ⟨(stopS_w hb y).symm, m2, m3⟩ | exact ⟨(stopS_n hb y).symm, m2, m3⟩
        · have y : watB (σ.F 3) (tr cd ip x0 t).c (tr cd ip x0 (t - 1)).c = true := by
            cases ha : watB (σ.F 3) (tr cd ip x0 t).c (tr cd ip x0 (t - 1)).c
            · rw [ha] at c147; exact absurd rfl c147
            · rfl
          refine v_bipush (pc := 150) (v := 10) C d_RM_stopHere_150 (by decide) ?_
          refine v_goto (pc := 152) C 156 d_RM_stopHere_152 (by decide) ?_
          refine r_i (pc := 156) C d_RM_stopHere_156 ?_
          first | exact ⟨(stopS_w hb y).symm, m2, m3⟩ | exact ⟨(stopS_n hb y).symm, m2, m3⟩
      · have z : 0 < u := by
          rcases Nat.eq_zero_or_pos u with q | q
          · subst q; exact absurd (Int32.le_refl 0) c56
          · exact q
        obtain ⟨T, hT⟩ := n10 0 z
        rw [show bk nw 0 = nw by unfold bk; omega, show t - 1 - 0 = t - 1 by omega] at hT
        obtain ⟨cn, d1, d2, d3, d4, d5⟩ := tr_und hg hrun (show t - 1 < r by omega) T
        rw [show t - 1 + 1 = t by omega] at d4 d5
        have W := wat_note (w := σ.F 3) d5
        generalize stpT cd (tr cd ip x0 (t - 1)) T = N at hT d2 d3 d4 d5 W
        refine v_aload_n (pc := 59) C d_RM_stopHere_59 rfl ?_
        refine gM_notebook (pc := 60) C hX d_RM_stopHere_60 fl_RM_26 ?_
        refine gBN_ring (pc := 63) C hX d_RM_stopHere_63 fl_RM_223 ?_
        refine v_aload_n (pc := 66) C d_RM_stopHere_66 rfl ?_
        refine gM_notebook (pc := 67) C hX d_RM_stopHere_67 fl_RM_26 ?_
        refine gBN_newest (pc := 70) C hX d_RM_stopHere_70 fl_RM_227 ?_
        refine v_top (b := nI nw) n9 ?_
        refine lRN (pc := 73) C hX d_RM_stopHere_73 (n8) ?_
        refine v_astore_n (pc := 74) C d_RM_stopHere_74 (Nat.le_of_ble_eq_true rfl) ?_
        refine v_aload_n (pc := 75) C d_RM_stopHere_75 rfl ?_
        refine gT_changes (pc := 76) C hX (by first | assumption | omega) hT d_RM_stopHere_76 fl_RM_230 ?_
        refine v_top (b := nI cn) d2 ?_
        refine v_if_le (pc := 79) C 141 d_RM_stopHere_79 (by decide) (fun c79 => ?_) (fun c79 => ?_)
        · have z2 : cn = 0 := by
            rcases Nat.eq_zero_or_pos cn with q | q
            · exact q
            · exact absurd c79 (nI_nle q (by omega))
          refine J141 _ hb ?_
          rcases W with ⟨q, w1, w2, -⟩ | ⟨-, w⟩
          · omega
          · exact w
        · have z2 : 0 < cn := by
            rcases Nat.eq_zero_or_pos cn with q | q
            · subst q; exact absurd (Int32.le_refl 0) c79
            · exact q
          refine v_aload_n (pc := 82) C d_RM_stopHere_82 rfl ?_
          refine gT_places (pc := 83) C hX (by first | assumption | omega) hT d_RM_stopHere_83 fl_RM_235 ?_
          refine v_iconst (pc := 86) (v := 0) C d_RM_stopHere_86 (by decide) ?_
          refine v_top (b := nI 0) rfl ?_
          refine lT_placesN (pc := 87) C hX (by first | assumption | omega) hT d_RM_stopHere_87 (by decide) ?_
          refine v_bipush (pc := 88) (v := 100) C d_RM_stopHere_88 (by decide) ?_
          refine v_icmp_lt (pc := 90) C 141 d_RM_stopHere_90 (by decide) (fun c90 => ?_) (fun c90 => ?_)
          · refine J141 _ hb ?_
            rcases W with ⟨q, w1, w2, w3, -⟩ | ⟨-, w⟩
            · rw [w3] at c90; exact absurd c90 (nI_nlt (b := 100) (by omega) (by omega))
            · exact w
          · obtain ⟨q, w1, w2, w3, w4, w5⟩ : ∃ q, q < 32 ∧ 0 < cn ∧ N.c 0 = nI (100 + q) ∧ N.s 0 = (tr cd ip x0 (t - 1)).c q ∧ (¬ (¬ σ.F 3 q = 0 ∧ ¬ (tr cd ip x0 t).c q = (tr cd ip x0 (t - 1)).c q) → watB (σ.F 3) (tr cd ip x0 t).c (tr cd ip x0 (t - 1)).c = false) := by
              rcases W with W | ⟨w | w, -⟩
              · exact W
              · omega
              · exact absurd w c90
            have w6 : N.c 0 - 100 = nI q := by rw [w3]; show nI (100 + q) - nI 100 = _; rw [pk_sub (by omega), Nat.add_sub_cancel_left]
            refine v_aload_n (pc := 93) C d_RM_stopHere_93 rfl ?_
            refine gM_watches (pc := 94) C hX d_RM_stopHere_94 fl_RM_45 ?_
            refine v_aload_n (pc := 97) C d_RM_stopHere_97 rfl ?_
            refine gT_places (pc := 98) C hX (by first | assumption | omega) hT d_RM_stopHere_98 fl_RM_235 ?_
            refine v_iconst (pc := 101) (v := 0) C d_RM_stopHere_101 (by decide) ?_
            refine v_top (b := nI 0) rfl ?_
            refine lT_placesN (pc := 102) C hX (by first | assumption | omega) hT d_RM_stopHere_102 (by decide) ?_
            refine v_bipush (pc := 103) (v := 100) C d_RM_stopHere_103 (by decide) ?_
            refine v_isub (pc := 105) C d_RM_stopHere_105 ?_
            refine v_top (b := nI q) w6 ?_
            refine lM_watchesN (pc := 106) C hX d_RM_stopHere_106 (w1) ?_
            refine v_if_eq (pc := 107) C 141 d_RM_stopHere_107 (by decide) (fun c107 => ?_) (fun c107 => ?_)
            · exact J141 _ hb (w5 (fun y => y.1 c107))
            · refine v_aload_n (pc := 110) C d_RM_stopHere_110 rfl ?_
              refine gM_now (pc := 111) C hX d_RM_stopHere_111 fl_RM_19 ?_
              refine gS_cells (pc := 114) C hX (by first | assumption | omega) n4 d_RM_stopHere_114 fl_RM_142 ?_
              refine v_aload_n (pc := 117) C d_RM_stopHere_117 rfl ?_
              refine gT_places (pc := 118) C hX (by first | assumption | omega) hT d_RM_stopHere_118 fl_RM_235 ?_
              refine v_iconst (pc := 121) (v := 0) C d_RM_stopHere_121 (by decide) ?_
              refine v_top (b := nI 0) rfl ?_
              refine lT_placesN (pc := 122) C hX (by first | assumption | omega) hT d_RM_stopHere_122 (by decide) ?_
              refine v_bipush (pc := 123) (v := 100) C d_RM_stopHere_123 (by decide) ?_
              refine v_isub (pc := 125) C d_RM_stopHere_125 ?_
              refine v_top (b := nI q) w6 ?_
              refine lS_cellsN (pc := 126) C hX (by first | assumption | omega) n4 d_RM_stopHere_126 (w1) ?_
              refine v_aload_n (pc := 127) C d_RM_stopHere_127 rfl ?_
              refine gT_values (pc := 128) C hX (by first | assumption | omega) hT d_RM_stopHere_128 fl_RM_238 ?_
              refine v_iconst (pc := 131) (v := 0) C d_RM_stopHere_131 (by decide) ?_
              refine v_top (b := nI 0) rfl ?_
              refine lT_valuesN (pc := 132) C hX (by first | assumption | omega) hT d_RM_stopHere_132 (by decide) ?_
              refine v_top (b := (tr cd ip x0 (t - 1)).c q) w4 ?_
              refine v_icmp_eq (pc := 133) C 141 d_RM_stopHere_133 (by decide) (fun c133 => ?_) (fun c133 => ?_)
              · exact J141 _ hb (w5 (fun y => y.2 c133))
              · refine v_bipush (pc := 136) (v := 10) C d_RM_stopHere_136 (by decide) ?_
                refine v_goto (pc := 138) C 142 d_RM_stopHere_138 (by decide) ?_
                refine r_i (pc := 142) C d_RM_stopHere_142 ?_
                exact ⟨(stopS_w hb (watB_t w1 c107 c133)).symm, h, fr.refl σ⟩
    · have z0 : anyB (σ.F 3) = false := by
        cases ha : anyB (σ.F 3)
        · rfl
        · rw [ha] at c44; exact absurd c44 (by decide)
      have z := anyB_watB (c1 := (tr cd ip x0 t).c) (c0 := (tr cd ip x0 (t - 1)).c) z0
      refine v_iconst (pc := 47) (v := 0) C d_RM_stopHere_47 (by decide) ?_
      refine r_i (pc := 48) C d_RM_stopHere_48 ?_
      exact ⟨(stopS_n hb z).symm, h, fr.refl σ⟩
  refine v_aload_n (pc := 0) C d_RM_stopHere_0 rfl ?_
  refine gM_now (pc := 1) C hX d_RM_stopHere_1 fl_RM_19 ?_
  refine gS_pc (pc := 4) C hX (by first | assumption | omega) n4 d_RM_stopHere_4 fl_RM_80 ?_
  refine v_if_lt (pc := 7) C 40 d_RM_stopHere_7 (by decide) (fun c7 => ?_) (fun c7 => ?_)
  · exact J40 (fun q => q.1 c7)
  · refine v_aload_n (pc := 10) C d_RM_stopHere_10 rfl ?_
    refine gM_now (pc := 11) C hX d_RM_stopHere_11 fl_RM_19 ?_
    refine gS_pc (pc := 14) C hX (by first | assumption | omega) n4 d_RM_stopHere_14 fl_RM_80 ?_
    refine v_bipush (pc := 17) (v := 64) C d_RM_stopHere_17 (by decide) ?_
    refine v_icmp_ge (pc := 19) C 40 d_RM_stopHere_19 (by decide) (fun c19 => ?_) (fun c19 => ?_)
    · exact J40 (fun q => (k2_nlt c19) q.2.1)
    · refine v_aload_n (pc := 22) C d_RM_stopHere_22 rfl ?_
      refine gM_breaks (pc := 23) C hX d_RM_stopHere_23 fl_RM_41 ?_
      refine v_aload_n (pc := 26) C d_RM_stopHere_26 rfl ?_
      refine gM_now (pc := 27) C hX d_RM_stopHere_27 fl_RM_19 ?_
      refine gS_pc (pc := 30) C hX (by first | assumption | omega) n4 d_RM_stopHere_30 fl_RM_80 ?_
      refine lM_breaks (pc := 33) C hX d_RM_stopHere_33 ?_ ?_
      · exact in_vp c7 (k2_lt c19) (by decide)
      refine v_if_eq (pc := 34) C 40 d_RM_stopHere_34 (by decide) (fun c34 => ?_) (fun c34 => ?_)
      · exact J40 (fun q => q.2.2 c34)
      · refine v_bipush (pc := 37) (v := 9) C d_RM_stopHere_37 (by decide) ?_
        refine r_i (pc := 39) C d_RM_stopHere_39 ?_
        exact ⟨(stopS_b ⟨c7, k2_lt c19, c34⟩).symm, h, fr.refl σ⟩
theorem c_RM_moveTo (l : Launch) {γ : GH} (hX : 135 ≤ γ.N) {cd ip : TF} {x0 : Int32} {g t r u c e : Nat} {σ : SGG} {v : Nat} (h : RC cd ip x0 g t r u c e σ) (hv : v ≤ r) : Ct l y_RM_moveTo b_RM_moveTo 3 none rm_RM_moveTo γ (enc γ σ) [.ref (aM γ), .int (nI v)] (PV γ (fun w => RC cd ip x0 g v r (mvU t u e v) (mvC t u c e v) e w ∧ fr σ w)) := by
  refine ct_of "ReplayMachine" (by decide) rfl rfl (Nat.le_of_ble_eq_true rfl) (fun x hl C => ?_)
  subst hl
  show V x γ (0, 0) _ _ 0 [some (.ref (aM γ)), some (.int (nI v)), none] []
  obtain ⟨hN, hK, hg, htr, hr, hrun, hcost⟩ := id h
  obtain ⟨n1, n2, n3, n4, n5, n6, n7, nw, n8, n9, n10⟩ := id hN
  have hT := (tr_wf hg hrun t htr).2.2
  have hE := ev_le hK.2.1
  have hE0 := ev_pos e
  have LU : (v < t ∧ t - v ≤ u) → ∀ d, (∀ w, RC cd ip x0 g (v + d) r (u - (t - v) + d) c e w → fr σ w → V x γ (0, 0) (QM x γ (PV γ (fun w => RC cd ip x0 g v r (mvU t u e v) (mvC t u c e v) e w ∧ fr σ w))) (enc γ w) 30 [some (.ref (aM γ)), some (.int (nI v)), none] []) := by
    intro hcond
    refine down_loop _ (fun d ih w hR hf => ?_)
    have hTd := (tr_wf hg hrun (v + d) hR.2.2.2.1).2.2
    have bnd := hR.2.2.2.1
    refine v_aload_n (pc := 30) C d_RM_moveTo_30 rfl ?_
    refine gM_now (pc := 31) C hX d_RM_moveTo_31 fl_RM_19 ?_
    refine gS_time (pc := 34) C hX (by first | assumption | omega) hR.1.2.2.2.1 d_RM_moveTo_34 fl_RM_125 ?_
    refine v_iload_n (pc := 37) C d_RM_moveTo_37 rfl ?_
    refine v_top2 (b := nI (v + d)) hTd ?_
    refine v_icmp_le (pc := 38) C 55 d_RM_moveTo_38 (by decide) (fun c38 => ?_) (fun c38 => ?_)
    · have z := (nI_leI (by omega) (by omega)).mp c38
      refine r_v (pc := 55) C d_RM_moveTo_55 ?_
      have d0 : d = 0 := by omega
      subst d0
      rw [show mvU t u e v = u - (t - v) from if_pos hcond, show mvC t u c e v = c from if_pos hcond]
      exact ⟨hR, hf⟩
    · obtain ⟨j, rfl⟩ : ∃ j, d = j + 1 := ex_pred (fun q => by subst q; exact absurd (Int32.le_refl _) c38)
      obtain ⟨p1, p2, p3, p4, p5, p6, p7, pw, p8, p9, p10⟩ := id hR.1
      obtain ⟨T, hT⟩ := p10 0 (by omega)
      rw [show bk pw 0 = pw by unfold bk; omega, show v + (j + 1) - 1 - 0 = v + j by omega] at hT
      obtain ⟨cn, d1, d2, d3, d4, d5⟩ := tr_und hg hrun (show v + j < r by omega) T
      refine v_aload_n (pc := 41) C d_RM_moveTo_41 rfl ?_
      refine gM_notebook (pc := 42) C hX d_RM_moveTo_42 fl_RM_26 ?_
      refine v_aload_n (pc := 45) C d_RM_moveTo_45 rfl ?_
      refine gM_now (pc := 46) C hX d_RM_moveTo_46 fl_RM_19 ?_
      refine kB1v (pc := 49) C hX cb_RM_206 ⟨im_NB_undo, sl_NB_undo⟩ rfl rk_RM_moveTo_NB_undo d_RM_moveTo_49 ⟨Nat.zero_le _, Nat.zero_le _⟩ (c_NB_undo x.l hX (by decide) p4 p9 p8 hT d2 (by omega) d3) (Nat.le_of_ble_eq_true rfl) (fun σ49 h49 => ?_)
      obtain ⟨q1, q2⟩ := now_undo (v := σ49) (t := v + j) (u := u - (t - v) + j) hR.1 p8 p9 (k := cn) (by rw [hT]; exact d4) (by rw [h49, hT]; rfl)
      refine v_goto (pc := 52) C 30 d_RM_moveTo_52 (by decide) ?_
      exact ih j rfl _ (rc_undo (t := v + j) (u := u - (t - v) + j) hR q1 q2) (hf.trans q2.1)
  have L132 : ∀ k : Nat, ∀ q, q ≤ v → (∀ (w : SGG) (u2 c2 : Nat), RC cd ip x0 g q r u2 c2 e w → fr σ w → mvU t u e v = min 32 (u2 + (v - q)) → mvC t u c e v = c2 + (v - q) → V x γ (0, 0) (QM x γ (PV γ (fun w => RC cd ip x0 g v r (mvU t u e v) (mvC t u c e v) e w ∧ fr σ w))) (enc γ w) 132 [some (.ref (aM γ)), some (.int (nI v)), some (.int (nI k))] []) := by
    intro k
    refine up_loop _ v (fun q hq ih w u2 c2 hR hf e1 e2 => ?_)
    have hTq := (tr_wf hg hrun q (by omega)).2.2
    have u32 := hR.1.2.2.2.2.1
    refine v_aload_n (pc := 132) C d_RM_moveTo_132 rfl ?_
    refine gM_now (pc := 133) C hX d_RM_moveTo_133 fl_RM_19 ?_
    refine gS_time (pc := 136) C hX (by first | assumption | omega) hR.1.2.2.2.1 d_RM_moveTo_136 fl_RM_125 ?_
    refine v_iload_n (pc := 139) C d_RM_moveTo_139 rfl ?_
    refine v_top2 (b := nI q) hTq ?_
    refine v_icmp_ge (pc := 140) C 160 d_RM_moveTo_140 (by decide) (fun c140 => ?_) (fun c140 => ?_)
    · have z := (nI_leI (by omega) (by omega)).mp c140
      refine r_v (pc := 160) C d_RM_moveTo_160 ?_
      have q0 : q = v := by omega
      subst q0
      rw [e1, e2, show min 32 (u2 + (q - q)) = u2 by omega, show c2 + (q - q) = c2 by omega]
      exact ⟨hR, hf⟩
    · have z : q < v := nn_lt (by omega) c140
      refine v_aload_n (pc := 143) C d_RM_moveTo_143 rfl ?_
      refine kM0v (pc := 144) C hX cb_RM_179 ⟨im_RM_advance, sl_RM_advance⟩ rfl rk_RM_moveTo_RM_advance d_RM_moveTo_144 ⟨Nat.zero_le _, Nat.zero_le _⟩ (c_RM_advance x.l hX hR (hrun q (by omega)) (by omega)) (Nat.le_of_ble_eq_true rfl) (fun σ144 h144 => ?_)
      obtain ⟨m1, m2⟩ := h144
      rw [Nat.max_eq_left (show q + 1 ≤ r by omega), eN_le (show q + 1 ≤ r by omega)] at m1
      refine v_aload_n (pc := 147) C d_RM_moveTo_147 rfl ?_
      refine v_dup (pc := 148) C d_RM_moveTo_148 rfl ?_
      refine gM_cost (pc := 149) C hX d_RM_moveTo_149 fl_RM_182 ?_
      refine v_iconst (pc := 152) (v := 1) C d_RM_moveTo_152 (by decide) ?_
      refine v_iadd (pc := 153) C d_RM_moveTo_153 ?_
      refine v_top (b := nI (c2 + 1)) (show σ144.I 4 + 1 = _ by rw [m1.2.2.2.2.2.2, nI_1]) ?_
      refine pM_cost (pc := 154) C hX d_RM_moveTo_154 fl_RM_182 ?_
      refine v_goto (pc := 157) C 132 d_RM_moveTo_157 (by decide) ?_
      exact ih z _ (up32 u2) (c2 + 1) (m1.cost (c2 + 1)) (hf.trans m2) (by rw [e1, up32_min u32]; omega) (by rw [e2]; omega)
  have L63 : ¬ (v < t ∧ t - v ≤ u) → ∀ k, v / ev e ≤ k → k ≤ r / ev e → V x γ (0, 0) (QM x γ (PV γ (fun w => RC cd ip x0 g v r (mvU t u e v) (mvC t u c e v) e w ∧ fr σ w))) (enc γ σ) 63 [some (.ref (aM γ)), some (.int (nI v)), some (.int (nI k))] [] := by
    intro hcond
    refine down_loop _ (fun k ih hvk hk => ?_)
    obtain ⟨y1, y2, y3⟩ := rc_kt h hk
    have y4 := hK.1.1 k y1
    have y5 := hK.2.2.2.2.2.2 k hk
    have J112 : k = v / ev e → (v < t ∨ t < k * ev e) → V x γ (0, 0) (QM x γ (PV γ (fun w => RC cd ip x0 g v r (mvU t u e v) (mvC t u c e v) e w ∧ fr σ w))) (enc γ σ) 112 [some (.ref (aM γ)), some (.int (nI v)), some (.int (nI k))] [] := by
      intro ek hor
      have zk : k * ev e ≤ v := by rw [ek]; exact Nat.div_mul_le_self v (ev e)
      refine v_aload_n (pc := 112) C d_RM_moveTo_112 rfl ?_
      refine gM_now (pc := 113) C hX d_RM_moveTo_113 fl_RM_19 ?_
      refine v_aload_n (pc := 116) C d_RM_moveTo_116 rfl ?_
      refine gM_kept (pc := 117) C hX d_RM_moveTo_117 fl_RM_30 ?_
      refine v_iload_n (pc := 120) C d_RM_moveTo_120 rfl ?_
      refine lQN (pc := 121) C hX d_RM_moveTo_121 (y1) ?_
      refine kS1v (pc := 122) C hX (by first | assumption | omega) cb_RM_57 ⟨im_ST_become, sl_ST_become⟩ rfl rk_RM_moveTo_ST_become d_RM_moveTo_122 ⟨Nat.zero_le _, Nat.zero_le _⟩ (c_ST_become x.l hX (by decide) y4.2 (by omega) y5) (Nat.le_of_ble_eq_true rfl) (fun σ122 h122 => ?_)
      subst h122
      refine v_aload_n (pc := 125) C d_RM_moveTo_125 rfl ?_
      refine gM_notebook (pc := 126) C hX d_RM_moveTo_126 fl_RM_26 ?_
      refine kB0v (pc := 129) C hX cb_RM_209 ⟨im_NB_clear, sl_NB_clear⟩ rfl rk_RM_moveTo_NB_clear d_RM_moveTo_129 ⟨Nat.zero_le _, Nat.zero_le _⟩ (c_NB_clear x.l hX) (Nat.le_of_ble_eq_true rfl) (fun σ129 h129 => ?_)
      subst h129
      refine L132 k (k * ev e) zk _ 0 c (rc_restore h y2) ⟨rfl, rfl⟩ ?_ ?_
      · rw [show mvU t u e v = _ from if_neg hcond, ← ek, if_pos hor, Nat.zero_add]
      · rw [show mvC t u c e v = _ from if_neg hcond, ← ek, if_pos hor]
    refine v_aload_n (pc := 63) C d_RM_moveTo_63 rfl ?_
    refine gM_kept (pc := 64) C hX d_RM_moveTo_64 fl_RM_30 ?_
    refine v_iload_n (pc := 67) C d_RM_moveTo_67 rfl ?_
    refine lQN (pc := 68) C hX d_RM_moveTo_68 (y1) ?_
    refine gS_time (pc := 69) C hX y4.2 y5 d_RM_moveTo_69 fl_RM_125 ?_
    refine v_iload_n (pc := 72) C d_RM_moveTo_72 rfl ?_
    refine v_top2 (b := nI (k * ev e)) y3 ?_
    refine v_icmp_le (pc := 73) C 82 d_RM_moveTo_73 (by decide) (fun c73 => ?_) (fun c73 => ?_)
    · have z := (nI_leI (by omega) (by omega)).mp c73
      have ek : k = v / ev e := Nat.le_antisymm ((Nat.le_div_iff_mul_le hE0).mpr z) hvk
      refine v_iload_n (pc := 82) C d_RM_moveTo_82 rfl ?_
      refine v_aload_n (pc := 83) C d_RM_moveTo_83 rfl ?_
      refine gM_now (pc := 84) C hX d_RM_moveTo_84 fl_RM_19 ?_
      refine gS_time (pc := 87) C hX (by first | assumption | omega) n4 d_RM_moveTo_87 fl_RM_125 ?_
      refine v_top (b := nI t) hT ?_
      refine v_icmp_lt (pc := 90) C 112 d_RM_moveTo_90 (by decide) (fun c90 => ?_) (fun c90 => ?_)
      · exact J112 ek (Or.inl ((nI_ltI (by omega) (by omega)).mp c90))
      · have z2 := nn_le (by omega) c90
        refine v_aload_n (pc := 93) C d_RM_moveTo_93 rfl ?_
        refine gM_kept (pc := 94) C hX d_RM_moveTo_94 fl_RM_30 ?_
        refine v_iload_n (pc := 97) C d_RM_moveTo_97 rfl ?_
        refine lQN (pc := 98) C hX d_RM_moveTo_98 (y1) ?_
        refine gS_time (pc := 99) C hX y4.2 y5 d_RM_moveTo_99 fl_RM_125 ?_
        refine v_aload_n (pc := 102) C d_RM_moveTo_102 rfl ?_
        refine gM_now (pc := 103) C hX d_RM_moveTo_103 fl_RM_19 ?_
        refine gS_time (pc := 106) C hX (by first | assumption | omega) n4 d_RM_moveTo_106 fl_RM_125 ?_
        refine v_top (b := nI t) hT ?_
        refine v_top2 (b := nI (k * ev e)) y3 ?_
        refine v_icmp_le (pc := 109) C 132 d_RM_moveTo_109 (by decide) (fun c109 => ?_) (fun c109 => ?_)
        · have z3 := (nI_leI (by omega) (by omega)).mp c109
          have hor : ¬ (v < t ∨ t < v / ev e * ev e) := by rw [← ek]; omega
          refine L132 k t z2 σ u c h (fr.refl σ) ?_ ?_
          · rw [show mvU t u e v = _ from if_neg hcond, if_neg hor]
          · rw [show mvC t u c e v = _ from if_neg hcond, if_neg hor]
        · exact J112 ek (Or.inr (nn_lt (by omega) c109))
    · have z : v < k * ev e := by
        rcases Nat.lt_or_ge v (k * ev e) with q | q
        · exact q
        · exact absurd (nI_le q (by omega)) c73
      have ek : v / ev e < k := Nat.div_lt_of_lt_mul (Nat.mul_comm k _ ▸ z)
      obtain ⟨j, rfl⟩ : ∃ j, k = j + 1 := ex_pred (fun q => by subst q; exact absurd ek (Nat.not_lt_zero _))
      refine v_iinc (pc := 76) C d_RM_moveTo_76 rfl ((i_m1 _).trans (nI_pred j)) ?_
      refine v_goto (pc := 79) C 63 d_RM_moveTo_79 (by decide) ?_
      exact ih j rfl (by omega) (by omega)
  have J56 : ¬ (v < t ∧ t - v ≤ u) → V x γ (0, 0) (QM x γ (PV γ (fun w => RC cd ip x0 g v r (mvU t u e v) (mvC t u c e v) e w ∧ fr σ w))) (enc γ σ) 56 [some (.ref (aM γ)), some (.int (nI v)), none] [] := by
    intro hcond
    refine v_aload_n (pc := 56) C d_RM_moveTo_56 rfl ?_
    refine gM_keptCount (pc := 57) C hX d_RM_moveTo_57 fl_RM_34 ?_
    refine v_iconst (pc := 60) (v := 1) C d_RM_moveTo_60 (by decide) ?_
    refine v_isub (pc := 61) C d_RM_moveTo_61 ?_
    refine v_top (b := nI (r / ev e)) (show σ.I 1 - 1 = _ by rw [hK.2.2.2.1, nI_pred]) ?_
    refine v_istore_n (pc := 62) C d_RM_moveTo_62 (Nat.le_of_ble_eq_true rfl) ?_
    exact L63 hcond _ (Nat.div_le_div_right hv) (Nat.le_refl _)
  refine v_iload_n (pc := 0) C d_RM_moveTo_0 rfl ?_
  refine v_aload_n (pc := 1) C d_RM_moveTo_1 rfl ?_
  refine gM_now (pc := 2) C hX d_RM_moveTo_2 fl_RM_19 ?_
  refine gS_time (pc := 5) C hX (by first | assumption | omega) n4 d_RM_moveTo_5 fl_RM_125 ?_
  refine v_top (b := nI t) hT ?_
  refine v_icmp_ge (pc := 8) C 56 d_RM_moveTo_8 (by decide) (fun c8 => ?_) (fun c8 => ?_)
  · have z := (nI_leI (by omega) (by omega)).mp c8
    exact J56 (by omega)
  · have z : v < t := nn_lt (by omega) c8
    refine v_aload_n (pc := 11) C d_RM_moveTo_11 rfl ?_
    refine gM_now (pc := 12) C hX d_RM_moveTo_12 fl_RM_19 ?_
    refine gS_time (pc := 15) C hX (by first | assumption | omega) n4 d_RM_moveTo_15 fl_RM_125 ?_
    refine v_iload_n (pc := 18) C d_RM_moveTo_18 rfl ?_
    refine v_isub (pc := 19) C d_RM_moveTo_19 ?_
    refine v_top (b := nI (t - v)) (show (tr cd ip x0 t).t - nI v = _ by rw [hT]; exact pk_sub (by omega)) ?_
    refine v_aload_n (pc := 20) C d_RM_moveTo_20 rfl ?_
    refine gM_notebook (pc := 21) C hX d_RM_moveTo_21 fl_RM_26 ?_
    refine gBN_many (pc := 24) C hX d_RM_moveTo_24 fl_RM_203 ?_
    refine v_top (b := nI u) n7 ?_
    refine v_icmp_gt (pc := 27) C 56 d_RM_moveTo_27 (by decide) (fun c27 => ?_) (fun c27 => ?_)
    · have z2 := (nI_ltI (by omega) (by omega)).mp c27
      exact J56 (by omega)
    · have z2 := nn_le (by omega) c27
      exact LU ⟨z, z2⟩ (t - v) σ (by rw [show v + (t - v) = t by omega, show u - (t - v) + (t - v) = u by omega]; exact h) (fr.refl σ)
