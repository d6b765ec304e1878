theorem c_RM_thin (l : Launch) {γ : GH} (hX : 135 ≤ γ.N) {σ : SGG} {E : Nat} (h0 : 0 < E) (h512 : E ≤ 512) (hP : Perm σ.κ) (h1 : σ.I 1 = nI 8) (h2 : σ.I 2 = nI E) (hk8 : ∀ k, k < 8 → (σ.S (σ.κ k)).t = nI (k * E)) : Ct l y_RM_thin b_RM_thin 4 none rm_RM_thin γ (enc γ σ) [.ref (aM γ)] (PV γ (fun u => ∃ κ, Perm κ ∧ (∀ k, k < 4 → κ k = σ.κ (2 * k)) ∧ u = sI (sQ (sI σ 2 (nI (2 * E))) κ) 1 (nI 4))) := by
  refine ct_of "ReplayMachine" (by decide) rfl rfl (Nat.le_of_ble_eq_true rfl) (fun x hl C => ?_)
  subst hl
  show V x γ (0, 0) _ _ 0 [some (.ref (aM γ)), none, none, none] []
  have h8p : 0 < 8 := by decide
  have loop : ∀ k, k ≤ 8 → (∀ (κ : Nat → Nat) (o : Option Value), Perm κ ∧ (∀ m, m < (k + 1) / 2 → κ m = σ.κ (2 * m)) ∧ (∀ m, k ≤ m → m < 8 → κ m = σ.κ m) → V x γ (0, 0) (QM x γ (PV γ (fun u => ∃ κ, Perm κ ∧ (∀ k, k < 4 → κ k = σ.κ (2 * k)) ∧ u = sI (sQ (sI σ 2 (nI (2 * E))) κ) 1 (nI 4)))) (enc γ (sQ (sI σ 2 (nI (2 * E))) κ)) 14 [some (.ref (aM γ)), some (.int (nI ((k + 1) / 2))), some (.int (nI k)), o] []) := by
    refine up_loop _ 8 (fun k hk ih κ o hinv => ?_)
    obtain ⟨i1, i2, i3⟩ := hinv
    have J : ∀ (κ : Nat → Nat) (o : Option Value), k < 8 → Perm κ ∧ (∀ m, m < ((k + 1) + 1) / 2 → κ m = σ.κ (2 * m)) ∧ (∀ m, (k + 1) ≤ m → m < 8 → κ m = σ.κ m) → V x γ (0, 0) (QM x γ (PV γ (fun u => ∃ κ, Perm κ ∧ (∀ k, k < 4 → κ k = σ.κ (2 * k)) ∧ u = sI (sQ (sI σ 2 (nI (2 * E))) κ) 1 (nI 4)))) (enc γ (sQ (sI σ 2 (nI (2 * E))) κ)) 71 [some (.ref (aM γ)), some (.int (nI ((k + 1 + 1) / 2))), some (.int (nI k)), o] [] := by
      intro κ o z h
      refine v_iinc (pc := 71) C d_RM_thin_71 rfl (nI_1' k) ?_
      refine v_goto (pc := 74) C 14 d_RM_thin_74 (by decide) ?_
      exact ih z κ o h
    refine v_iload_n (pc := 14) C d_RM_thin_14 rfl ?_
    refine v_aload_n (pc := 15) C d_RM_thin_15 rfl ?_
    refine gM_keptCount (pc := 16) C hX d_RM_thin_16 fl_RM_34 ?_
    refine v_top (b := nI 8) (show (sI σ 2 (nI (2 * E))).I 1 = _ from (sI_In (by decide)).trans h1) ?_
    refine v_icmp_ge (pc := 19) C 77 d_RM_thin_19 (by decide) (fun c19 => ?_) (fun c19 => ?_)
    · have z := (nI_leI (a := 8) (by decide) (by omega)).mp c19
      refine v_aload_n (pc := 77) C d_RM_thin_77 rfl ?_
      refine v_iload_n (pc := 78) C d_RM_thin_78 rfl ?_
      refine pM_keptCount (pc := 79) C hX d_RM_thin_79 fl_RM_34 ?_
      refine r_v (pc := 82) C d_RM_thin_82 ?_
      exact ⟨κ, i1, fun m hm => i2 m (by omega), by rw [show (k + 1) / 2 = 4 by omega]⟩
    · have z : k < 8 := nn_lt (b := 8) (by omega) c19
      have zk := i1.1 k z
      refine v_aload_n (pc := 22) C d_RM_thin_22 rfl ?_
      refine gM_kept (pc := 23) C hX d_RM_thin_23 fl_RM_30 ?_
      refine v_iload_n (pc := 26) C d_RM_thin_26 rfl ?_
      refine lQN (pc := 27) C hX d_RM_thin_27 (z) ?_
      refine gS_time (pc := 28) C hX zk.2 (show σ.S (κ k) = σ.S (σ.κ k) by rw [i3 k (Nat.le_refl k) z]) d_RM_thin_28 fl_RM_125 ?_
      refine v_aload_n (pc := 31) C d_RM_thin_31 rfl ?_
      refine gM_every (pc := 32) C hX d_RM_thin_32 fl_RM_38 ?_
      refine v_top (b := nI (2 * E)) (show (sI σ 2 (nI (2 * E))).I 2 = _ from sI_I) ?_
      refine v_top2 (b := nI (k * E)) (hk8 k z) ?_
      refine v_irem (pc := 35) C d_RM_thin_35 ?_ ?_
      · exact nI_ne0 (by omega) (by omega)
      refine v_top (b := nI (k % 2 * E)) (by rw [pk_rem (by have := Nat.mul_le_mul (Nat.le_of_lt z) h512; omega) (by omega) (by omega), Nat.mul_mod_mul_right]) ?_
      refine v_if_eq (pc := 36) C 42 d_RM_thin_36 (by decide) (fun c36 => ?_) (fun c36 => ?_)
      · have y : k % 2 = 0 := by
          rcases (by omega : k % 2 = 0 ∨ k % 2 = 1) with q | q
          · exact q
          · rw [q, Nat.one_mul] at c36; exact absurd c36 (nI_ne0 h0 (by omega))
        have zn := i1.1 ((k + 1) / 2) (by omega)
        refine v_aload_n (pc := 42) C d_RM_thin_42 rfl ?_
        refine gM_kept (pc := 43) C hX d_RM_thin_43 fl_RM_30 ?_
        refine v_iload_n (pc := 46) C d_RM_thin_46 rfl ?_
        refine lQN (pc := 47) C hX d_RM_thin_47 ((show (k + 1) / 2 < 8 by omega)) ?_
        refine v_astore_n (pc := 48) C d_RM_thin_48 (Nat.le_of_ble_eq_true rfl) ?_
        refine v_aload_n (pc := 49) C d_RM_thin_49 rfl ?_
        refine gM_kept (pc := 50) C hX d_RM_thin_50 fl_RM_30 ?_
        refine v_iload_n (pc := 53) C d_RM_thin_53 rfl ?_
        refine v_aload_n (pc := 54) C d_RM_thin_54 rfl ?_
        refine gM_kept (pc := 55) C hX d_RM_thin_55 fl_RM_30 ?_
        refine v_iload_n (pc := 58) C d_RM_thin_58 rfl ?_
        refine lQN (pc := 59) C hX d_RM_thin_59 (z) ?_
        refine stQN (pc := 60) C hX zk.2 d_RM_thin_60 ((show (k + 1) / 2 < 8 by omega)) ?_
        refine v_aload_n (pc := 61) C d_RM_thin_61 rfl ?_
        refine gM_kept (pc := 62) C hX d_RM_thin_62 fl_RM_30 ?_
        refine v_iload_n (pc := 65) C d_RM_thin_65 rfl ?_
        refine v_aload_n (pc := 66) C d_RM_thin_66 rfl ?_
        refine stQN (pc := 67) C hX zn.2 d_RM_thin_67 (z) ?_
        refine v_iinc (pc := 68) C d_RM_thin_68 rfl (nI_1' _) ?_
        first
          | (refine v_loc (L2 := [some (.ref (aM γ)), some (.int (nI ((k + 1 + 1) / 2))), some (.int (nI k)), o]) (by rw [show (k + 1 + 1) / 2 = (k + 1) / 2 by omega]) ?_
             exact J κ o z ⟨i1, fun m hm => i2 m (by omega), fun m h9 h8 => i3 m (by omega) h8⟩)
          | (refine v_loc (L2 := [some (.ref (aM γ)), some (.int (nI ((k + 1 + 1) / 2))), some (.int (nI k)), some (.ref (aS γ (κ ((k + 1) / 2))))]) (by rw [show (k + 1 + 1) / 2 = (k + 1) / 2 + 1 by omega]; rfl) ?_
             refine J (va_up (va_up κ ((k + 1) / 2) (κ k)) k (κ ((k + 1) / 2))) _ z ⟨i1.swap (by omega) z, fun m hm => ?_, fun m h9 h8 => ?_⟩
             · by_cases e : m = k
               · subst e; rw [va_up_self, show (m + 1) / 2 = m by omega]; have : m = 0 := by omega
                 subst this; exact i3 0 (Nat.le_refl 0) h8p
               · rw [va_up_ne _ _ e]
                 by_cases e2 : m = (k + 1) / 2
                 · rw [e2, va_up_self, i3 k (Nat.le_refl k) z, show 2 * ((k + 1) / 2) = k by omega]
                 · rw [va_up_ne _ _ e2]; exact i2 m (by omega)
             · rw [va_up_ne _ _ (by omega), va_up_ne _ _ (by omega)]; exact i3 m (by omega) h8)
      · have y : k % 2 = 1 := by
          rcases (by omega : k % 2 = 0 ∨ k % 2 = 1) with q | q
          · rw [q, Nat.zero_mul] at c36; exact absurd rfl c36
          · exact q
        refine v_goto (pc := 39) C 71 d_RM_thin_39 (by decide) ?_
        first
          | (refine v_loc (L2 := [some (.ref (aM γ)), some (.int (nI ((k + 1 + 1) / 2))), some (.int (nI k)), o]) (by rw [show (k + 1 + 1) / 2 = (k + 1) / 2 by omega]) ?_
             exact J κ o z ⟨i1, fun m hm => i2 m (by omega), fun m h9 h8 => i3 m (by omega) h8⟩)
          | (refine v_loc (L2 := [some (.ref (aM γ)), some (.int (nI ((k + 1 + 1) / 2))), some (.int (nI k)), some (.ref (aS γ (κ ((k + 1) / 2))))]) (by rw [show (k + 1 + 1) / 2 = (k + 1) / 2 + 1 by omega]; rfl) ?_
             refine J (va_up (va_up κ ((k + 1) / 2) (κ k)) k (κ ((k + 1) / 2))) _ z ⟨i1.swap (by omega) z, fun m hm => ?_, fun m h9 h8 => ?_⟩
             · by_cases e : m = k
               · subst e; rw [va_up_self, show (m + 1) / 2 = m by omega]; have : m = 0 := by omega
                 subst this; exact i3 0 (Nat.le_refl 0) h8p
               · rw [va_up_ne _ _ e]
                 by_cases e2 : m = (k + 1) / 2
                 · rw [e2, va_up_self, i3 k (Nat.le_refl k) z, show 2 * ((k + 1) / 2) = k by omega]
                 · rw [va_up_ne _ _ e2]; exact i2 m (by omega)
             · rw [va_up_ne _ _ (by omega), va_up_ne _ _ (by omega)]; exact i3 m (by omega) h8)
  refine v_aload_n (pc := 0) C d_RM_thin_0 rfl ?_
  refine v_dup (pc := 1) C d_RM_thin_1 rfl ?_
  refine gM_every (pc := 2) C hX d_RM_thin_2 fl_RM_38 ?_
  refine v_iconst (pc := 5) (v := 2) C d_RM_thin_5 (by decide) ?_
  refine v_imul (pc := 6) C d_RM_thin_6 ?_
  refine v_top (b := nI (2 * E)) (show σ.I 2 * 2 = _ by rw [h2, show (2 : Int32) = nI 2 from rfl, pk_mul, Nat.mul_comm]) ?_
  refine pM_every (pc := 7) C hX d_RM_thin_7 fl_RM_38 ?_
  refine v_iconst (pc := 10) (v := 0) C d_RM_thin_10 (by decide) ?_
  refine v_istore_n (pc := 11) C d_RM_thin_11 (Nat.le_of_ble_eq_true rfl) ?_
  refine v_iconst (pc := 12) (v := 0) C d_RM_thin_12 (by decide) ?_
  refine v_istore_n (pc := 13) C d_RM_thin_13 (Nat.le_of_ble_eq_true rfl) ?_
  exact loop 0 (by decide) σ.κ none ⟨hP, fun m hm => absurd hm (by omega), fun m _ _ => rfl⟩
theorem c_RM_advance (l : Launch) {γ : GH} (hX : 135 ≤ γ.N) {cd ip : TF} {x0 : Int32} {g t r u c e : Nat} {σ : SGG} (h : RC cd ip x0 g t r u c e σ) (hc : chk cd (nI g) (tr cd ip x0 t) = 0) (h3k : t < 3000) : Ct l y_RM_advance b_RM_advance 1 none rm_RM_advance γ (enc γ σ) [.ref (aM γ)] (PV γ (fun v => RC cd ip x0 g (t + 1) (max r (t + 1)) (up32 u) c (eN t r e) v ∧ fr σ v)) := by
  refine ct_of "ReplayMachine" (by decide) rfl rfl (Nat.le_of_ble_eq_true rfl) (fun x hl C => ?_)
  subst hl
  show V x γ (0, 0) _ _ 0 [some (.ref (aM γ))] []
  obtain ⟨⟨n1, n2, n3, n4, n5, n6, n7, nw, n8, n9, n10⟩, hK, hg, htr, hr, hrun, hcost⟩ := id h
  obtain ⟨⟨a, a1, a2⟩, ⟨b, b1, b2⟩, -⟩ := tr_wf hg hrun t htr
  have hrun2 : RunOk cd ip x0 g (t + 1) := (hrun.le htr).snoc hc
  have hT := (tr_wf hg hrun2 (t + 1) (Nat.le_refl _)).2.2
  have hE := ev_le hK.2.1
  have hE0 := ev_pos e
  have J60 : ∀ (m : Nat) (w : SGG), r < t + 1 → AdvJ cd ip x0 g t r u c e m σ w → V x γ (0, 0) (QM x γ (PV γ (fun v => RC cd ip x0 g (t + 1) (max r (t + 1)) (up32 u) c (eN t r e) v ∧ fr σ v))) (enc γ w) 60 [some (.ref (aM γ))] [] := by
    intro m w hlt hJ
    obtain ⟨j1, j2, j3, j4, j5, j6, j7, j8, j9, j10, j11⟩ := id hJ
    have hE2 := ev_le j4
    have hE3 := ev_pos (eN t r e)
    have hz := j3.1 m j6
    refine v_aload_n (pc := 60) C d_RM_advance_60 rfl ?_
    refine gM_reached (pc := 61) C hX d_RM_advance_61 fl_RM_71 ?_
    refine v_aload_n (pc := 64) C d_RM_advance_64 rfl ?_
    refine gM_every (pc := 65) C hX d_RM_advance_65 fl_RM_38 ?_
    refine v_top (b := nI (ev (eN t r e))) j8 ?_
    refine v_top2 (b := nI (t + 1)) j9 ?_
    refine v_irem (pc := 68) C d_RM_advance_68 ?_ ?_
    · exact nI_ne0 hE3 (by omega)
    refine v_top (b := 0) (by rw [pk_rem (by omega) hE3 (by omega), j5, Nat.mul_mod_left]; rfl) ?_
    refine v_if_eq (pc := 69) C 73 d_RM_advance_69 (by decide) (fun c69 => ?_) (fun c69 => ?_)
    · refine v_aload_n (pc := 73) C d_RM_advance_73 rfl ?_
      refine gM_kept (pc := 74) C hX d_RM_advance_74 fl_RM_30 ?_
      refine v_aload_n (pc := 77) C d_RM_advance_77 rfl ?_
      refine gM_keptCount (pc := 78) C hX d_RM_advance_78 fl_RM_34 ?_
      refine v_top (b := nI m) j7 ?_
      refine lQN (pc := 81) C hX d_RM_advance_81 (j6) ?_
      refine v_aload_n (pc := 82) C d_RM_advance_82 rfl ?_
      refine gM_now (pc := 83) C hX d_RM_advance_83 fl_RM_19 ?_
      refine kS1v (pc := 86) C hX hz.2 cb_RM_57 ⟨im_ST_become, sl_ST_become⟩ rfl rk_RM_advance_ST_become d_RM_advance_86 ⟨Nat.zero_le _, Nat.zero_le _⟩ (c_ST_become x.l hX hz.2 (by decide) (by omega) j1.2.2.2.1) (Nat.le_of_ble_eq_true rfl) (fun σ86 h86 => ?_)
      subst h86
      refine v_aload_n (pc := 89) C d_RM_advance_89 rfl ?_
      refine v_dup (pc := 90) C d_RM_advance_90 rfl ?_
      refine gM_keptCount (pc := 91) C hX d_RM_advance_91 fl_RM_34 ?_
      refine v_iconst (pc := 94) (v := 1) C d_RM_advance_94 (by decide) ?_
      refine v_iadd (pc := 95) C d_RM_advance_95 ?_
      refine v_top (b := nI (m + 1)) (show w.I 1 + 1 = _ by rw [j7, nI_1]) ?_
      refine pM_keptCount (pc := 96) C hX d_RM_advance_96 fl_RM_34 ?_
      refine r_v (pc := 99) C d_RM_advance_99 ?_
      exact adv_c h hlt h3k hc hJ
    · exact absurd rfl c69
  refine v_aload_n (pc := 0) C d_RM_advance_0 rfl ?_
  refine v_aload_n (pc := 1) C d_RM_advance_1 rfl ?_
  refine gM_now (pc := 2) C hX d_RM_advance_2 fl_RM_19 ?_
  refine kM1v (pc := 5) C hX cb_RM_169 ⟨im_RM_perform, sl_RM_perform⟩ rfl rk_RM_advance_RM_perform d_RM_advance_5 ⟨Nat.zero_le _, Nat.zero_le _⟩ (c_RM_perform x.l hX (by decide) n4 n9 n8 n7 n5 a2 a1 b2 n3 b1 hg (by rw [n1, n3]; exact hc)) (Nat.le_of_ble_eq_true rfl) (fun σ5 h5 => ?_)
  obtain ⟨hN, hF⟩ := now_perf h.1 n8 n9 h5
  have hK5 := hK.fx hF
  refine v_aload_n (pc := 8) C d_RM_advance_8 rfl ?_
  refine gM_now (pc := 9) C hX d_RM_advance_9 fl_RM_19 ?_
  refine gS_time (pc := 12) C hX (by first | assumption | omega) hN.2.2.2.1 d_RM_advance_12 fl_RM_125 ?_
  refine v_aload_n (pc := 15) C d_RM_advance_15 rfl ?_
  refine gM_reached (pc := 16) C hX d_RM_advance_16 fl_RM_71 ?_
  refine v_top (b := nI r) hK5.2.2.2.2.2.1 ?_
  refine v_top2 (b := nI (t + 1)) hT ?_
  refine v_icmp_gt (pc := 19) C 23 d_RM_advance_19 (by decide) (fun c19 => ?_) (fun c19 => ?_)
  · have z : r < t + 1 := (nI_ltI (by omega) (by omega)).mp c19
    refine v_aload_n (pc := 23) C d_RM_advance_23 rfl ?_
    refine v_aload_n (pc := 24) C d_RM_advance_24 rfl ?_
    refine gM_now (pc := 25) C hX d_RM_advance_25 fl_RM_19 ?_
    refine gS_time (pc := 28) C hX (by first | assumption | omega) hN.2.2.2.1 d_RM_advance_28 fl_RM_125 ?_
    refine v_top (b := nI (t + 1)) hT ?_
    refine pM_reached (pc := 31) C hX d_RM_advance_31 fl_RM_71 ?_
    refine v_aload_n (pc := 34) C d_RM_advance_34 rfl ?_
    refine gM_reached (pc := 35) C hX d_RM_advance_35 fl_RM_71 ?_
    refine v_aload_n (pc := 38) C d_RM_advance_38 rfl ?_
    refine gM_every (pc := 39) C hX d_RM_advance_39 fl_RM_38 ?_
    refine v_top (b := nI (ev e)) ((sI_In (by decide)).trans hK5.2.2.2.2.1) ?_
    refine v_top2 (b := nI (t + 1)) sI_I ?_
    refine v_irem (pc := 42) C d_RM_advance_42 ?_ ?_
    · exact nI_ne0 hE0 (by omega)
    refine v_top (b := nI ((t + 1) % ev e)) (pk_rem (by omega) hE0 (by omega)) ?_
    refine v_if_eq (pc := 43) C 47 d_RM_advance_43 (by decide) (fun c43 => ?_) (fun c43 => ?_)
    · have y : (t + 1) % ev e = 0 := (nI_eq (b := 0) (by have := Nat.mod_lt (t + 1) hE0; omega) (by decide)).mp c43
      refine v_aload_n (pc := 47) C d_RM_advance_47 rfl ?_
      refine gM_keptCount (pc := 48) C hX d_RM_advance_48 fl_RM_34 ?_
      refine v_top (b := nI (r / ev e + 1)) ((sI_In (by decide)).trans hK5.2.2.2.1) ?_
      refine v_bipush (pc := 51) (v := 8) C d_RM_advance_51 (by decide) ?_
      refine v_icmp_ne (pc := 53) C 60 d_RM_advance_53 (by decide) (fun c53 => ?_) (fun c53 => ?_)
      · exact J60 _ _ z (adv_j1 h z y (fun q => c53 (by rw [q]; rfl)) hN hF)
      · have y8 : r / ev e + 1 = 8 := (nI_eq (b := 8) (by have := Nat.div_le_self r (ev e); omega) (by decide)).mp c53
        refine v_aload_n (pc := 56) C d_RM_advance_56 rfl ?_
        refine kM0v (pc := 57) C hX cb_RM_172 ⟨im_RM_thin, sl_RM_thin⟩ rfl rk_RM_advance_RM_thin d_RM_advance_57 ⟨Nat.zero_le _, Nat.zero_le _⟩ (c_RM_thin x.l hX hE0 hE hK5.1 (by rw [sI_In (by decide), hK5.2.2.2.1, y8]) ((sI_In (by decide)).trans hK5.2.2.2.2.1) (fun k hk => by show (σ5.S (σ5.κ k)).t = _; rw [hK5.2.2.2.2.2.2 k (by omega)]; have q1 : k * ev e ≤ r := Nat.le_trans (Nat.mul_le_mul_right _ (show k ≤ r / ev e by omega)) (Nat.div_mul_le_self r (ev e)); exact (tr_wf hg hrun (k * ev e) q1).2.2)) (Nat.le_of_ble_eq_true rfl) (fun σ57 h57 => ?_)
        obtain ⟨κ, p1, p2, rfl⟩ := h57
        exact J60 _ _ z (adv_j2 h z y y8 h3k hN hF p1 p2)
    · refine r_v (pc := 46) C d_RM_advance_46 ?_
      exact adv_b h z (fun q => c43 (by rw [q]; rfl)) h3k hc hN hF
  · refine r_v (pc := 22) C d_RM_advance_22 ?_
    exact adv_a h (nn_le (by omega) c19) hN hF
/-- what a step that is not done answers -/
def tryR (cd : TF) (g : Int32) (s : SS) : Int32 := if chk cd g s = 0 then 8 else chk cd g s
theorem c_RM_tryStep (l : Launch) {γ : GH} (hX : 135 ≤ γ.N) {cd ip : TF} {x0 : Int32} {g t r u c e : Nat} {σ : SGG} (h : RC cd ip x0 g t r u c e σ) : Ct l y_RM_tryStep b_RM_tryStep 2 (some .int) rm_RM_tryStep γ (enc γ σ) [.ref (aM γ)] (PI γ (fun q v => (chk cd (nI g) (tr cd ip x0 t) = 0 ∧ t < 3000 ∧ q = 0 ∧ RC cd ip x0 g (t + 1) (max r (t + 1)) (up32 u) c (eN t r e) v ∧ fr σ v) ∨ (¬ (chk cd (nI g) (tr cd ip x0 t) = 0 ∧ t < 3000) ∧ q = tryR cd (nI g) (tr cd ip x0 t) ∧ v = σ))) := by
  refine ct_of "ReplayMachine" (by decide) rfl rfl (Nat.le_of_ble_eq_true rfl) (fun x hl C => ?_)
  subst hl
  show V x γ (0, 0) _ _ 0 [some (.ref (aM γ)), none] []
  obtain ⟨⟨n1, n2, n3, n4, n5, n6, n7, nw, n8, n9, n10⟩, hK, hg, htr, hr, hrun, hcost⟩ := id h
  obtain ⟨⟨a, a1, a2⟩, ⟨b, b1, b2⟩, hT⟩ := tr_wf hg hrun t htr
  refine v_aload_n (pc := 0) C d_RM_tryStep_0 rfl ?_
  refine v_aload_n (pc := 1) C d_RM_tryStep_1 rfl ?_
  refine gM_now (pc := 2) C hX d_RM_tryStep_2 fl_RM_19 ?_
  refine kM1i (pc := 5) C hX cb_RM_175 ⟨im_RM_check, sl_RM_check⟩ rfl rk_RM_tryStep_RM_check d_RM_tryStep_5 ⟨Nat.zero_le _, Nat.zero_le _⟩ (c_RM_check x.l hX (by decide) n4 a2 a1) (Nat.le_of_ble_eq_true rfl) (fun r5 σ5 h5 => ?_)
  obtain ⟨rfl, rfl⟩ := h5
  refine v_top (b := chk cd (nI g) (tr cd ip x0 t)) (by rw [n1, n3]) ?_
  refine v_istore_n (pc := 8) C d_RM_tryStep_8 (Nat.le_of_ble_eq_true rfl) ?_
  refine v_iload_n (pc := 9) C d_RM_tryStep_9 rfl ?_
  refine v_if_eq (pc := 10) C 15 d_RM_tryStep_10 (by decide) (fun c10 => ?_) (fun c10 => ?_)
  · refine v_aload_n (pc := 15) C d_RM_tryStep_15 rfl ?_
    refine gM_now (pc := 16) C hX d_RM_tryStep_16 fl_RM_19 ?_
    refine gS_time (pc := 19) C hX (by first | assumption | omega) n4 d_RM_tryStep_19 fl_RM_125 ?_
    refine v_top (b := nI t) hT ?_
    refine v_sipush (pc := 22) (v := 3000) C d_RM_tryStep_22 (by decide) ?_
    refine v_icmp_lt (pc := 25) C 31 d_RM_tryStep_25 (by decide) (fun c25 => ?_) (fun c25 => ?_)
    · have z : t < 3000 := (nI_ltI (b := 3000) (by omega) (by decide)).mp c25
      refine v_aload_n (pc := 31) C d_RM_tryStep_31 rfl ?_
      refine kM0v (pc := 32) C hX cb_RM_179 ⟨im_RM_advance, sl_RM_advance⟩ rfl rk_RM_tryStep_RM_advance d_RM_tryStep_32 ⟨Nat.zero_le _, Nat.zero_le _⟩ (c_RM_advance x.l hX h c10 z) (Nat.le_of_ble_eq_true rfl) (fun σ32 h32 => ?_)
      skip
      refine v_iconst (pc := 35) (v := 0) C d_RM_tryStep_35 (by decide) ?_
      refine r_i (pc := 36) C d_RM_tryStep_36 ?_
      exact Or.inl ⟨c10, z, rfl, h32⟩
    · refine v_bipush (pc := 28) (v := 8) C d_RM_tryStep_28 (by decide) ?_
      refine r_i (pc := 30) C d_RM_tryStep_30 ?_
      exact Or.inr ⟨fun q => c25 (nI_lt (b := 3000) q.2 (by decide)), by unfold tryR; rw [if_pos c10], rfl⟩
  · refine v_iload_n (pc := 13) C d_RM_tryStep_13 rfl ?_
    refine r_i (pc := 14) C d_RM_tryStep_14 ?_
    exact Or.inr ⟨fun q => c10 q.1, by unfold tryR; rw [if_neg c10], rfl⟩
theorem RC.cost {cd ip : TF} {x0 : Int32} {g t r u c e : Nat} {σ : SGG} (h : RC cd ip x0 g t r u c e σ) (c2 : Nat) : RC cd ip x0 g t r u c2 e (sI σ 4 (nI c2)) := by
  obtain ⟨h1, ⟨k1, k2, k3, k4, k5, k6, k7⟩, h3, h4, h5, h6, h7⟩ := h
  exact ⟨h1.of rfl (sI_In (by decide)) rfl rfl rfl, ⟨k1, k2, k3, (sI_In (by decide)).trans k4, (sI_In (by decide)).trans k5, (sI_In (by decide)).trans k6, k7⟩, h3, h4, h5, h6, sI_I⟩
theorem c_RM_step (l : Launch) {γ : GH} (hX : 135 ≤ γ.N) {cd ip : TF} {x0 : Int32} {g t r u c e : Nat} {σ : SGG} (h : RC cd ip x0 g t r u c e σ) : Ct l y_RM_step b_RM_step 1 (some .int) rm_RM_step γ (enc γ σ) [.ref (aM γ)] (PI γ (fun q v => (chk cd (nI g) (tr cd ip x0 t) = 0 ∧ t < 3000 ∧ q = 0 ∧ RC cd ip x0 g (t + 1) (max r (t + 1)) (up32 u) 0 (eN t r e) v ∧ fr σ v) ∨ (¬ (chk cd (nI g) (tr cd ip x0 t) = 0 ∧ t < 3000) ∧ q = tryR cd (nI g) (tr cd ip x0 t) ∧ RC cd ip x0 g t r u 0 e v ∧ fr σ v))) := by
  refine ct_of "ReplayMachine" (by decide) rfl rfl (Nat.le_of_ble_eq_true rfl) (fun x hl C => ?_)
  subst hl
  show V x γ (0, 0) _ _ 0 [some (.ref (aM γ))] []
  refine v_aload_n (pc := 0) C d_RM_step_0 rfl ?_
  refine v_iconst (pc := 1) (v := 0) C d_RM_step_1 (by decide) ?_
  refine pM_cost (pc := 2) C hX d_RM_step_2 fl_RM_182 ?_
  refine v_aload_n (pc := 5) C d_RM_step_5 rfl ?_
  refine kM0i (pc := 6) C hX cb_RM_185 ⟨im_RM_tryStep, sl_RM_tryStep⟩ rfl rk_RM_step_RM_tryStep d_RM_step_6 ⟨Nat.zero_le _, Nat.zero_le _⟩ (c_RM_tryStep x.l hX (h.cost 0)) (Nat.le_of_ble_eq_true rfl) (fun r6 σ6 h6 => ?_)
  skip
  refine r_i (pc := 9) C d_RM_step_9 ?_
  rcases h6 with ⟨q1, q2, q3, q4, q5⟩ | ⟨q1, q2, q3⟩
  · exact Or.inl ⟨q1, q2, q3, q4, q5⟩
  · subst q3; exact Or.inr ⟨q1, q2, h.cost 0, rfl, rfl⟩
