theorem chkOp_ne {g : Int32} {s : SS} {w : Int32} : chkW g s w = 0 ∨ ¬ chkW g s w = 0 := Decidable.em _
theorem tryR_ne {cd : TF} {g : Int32} {s : SS} {t : Nat} (h : ¬ (chk cd g s = 0 ∧ t < 3000)) : ¬ tryR cd g s = 0 := by
  unfold tryR
  split
  · decide
  · next q => exact q
theorem c_MO_forth (l : Launch) {γ : GH} (hY : 146 ≤ γ.N) {cd ip : TF} {x0 : Int32} {g t r u c e : Nat} {σ : SGG} {a : Int32} (h : RD cd ip x0 g t r u c e σ) : Ct l y_MO_forth b_MO_forth 4 (some .int) rm_MO_forth γ (enc γ σ) [.ref (aU γ), .int a] (PI γ (fun q v => ((a < 0 ∨ ¬ a ≤ 1000) ∧ v = sMI σ 0 1) ∨ (∃ n, a = nI n ∧ n ≤ 1000 ∧ ∃ t2 r2 u2 e2, fwd cd ip (σ.MF 2) (σ.MF 3) x0 g n t r u e = (q, t2, r2, u2, e2) ∧ RD cd ip x0 g t2 r2 u2 0 e2 v ∧ frm (sMI σ 0 0) v))) := by
  refine ct_of "ReplayMachineModel" (by decide) rfl rfl (Nat.le_of_ble_eq_true rfl) (fun x hl C => ?_)
  subst hl
  show V x γ (0, 0) _ _ 0 [some (.ref (aU γ)), some (.int a), none, none] []
  have J12 : (a < 0 ∨ ¬ a ≤ 1000) → V x γ (0, 0) (QM x γ (PI γ (fun q v => ((a < 0 ∨ ¬ a ≤ 1000) ∧ v = sMI σ 0 1) ∨ (∃ n, a = nI n ∧ n ≤ 1000 ∧ ∃ t2 r2 u2 e2, fwd cd ip (σ.MF 2) (σ.MF 3) x0 g n t r u e = (q, t2, r2, u2, e2) ∧ RD cd ip x0 g t2 r2 u2 0 e2 v ∧ frm (sMI σ 0 0) v)))) (enc γ σ) 12 [some (.ref (aU γ)), some (.int a), none, none] [.ref (aU γ)] := by
    intro z
    refine v_iconst (pc := 12) (v := 1) C d_MO_forth_12 (by decide) ?_
    refine v_goto (pc := 13) C 17 d_MO_forth_13 (by decide) ?_
    refine pO_code (pc := 17) C hY d_MO_forth_17 fl_MO_54 ?_
    refine v_aload_n (pc := 20) C d_MO_forth_20 rfl ?_
    refine gO_code (pc := 21) C hY d_MO_forth_21 fl_MO_54 ?_
    refine v_top (b := 1) sMI_I ?_
    refine v_if_le (pc := 24) C 29 d_MO_forth_24 (by decide) (fun c24 => ?_) (fun c24 => ?_)
    · exact absurd c24 (by decide)
    · refine v_iconst (pc := 27) (v := 0) C d_MO_forth_27 (by decide) ?_
      refine r_i (pc := 28) C d_MO_forth_28 ?_
      exact Or.inl ⟨z, rfl⟩
  have JE : ∀ (n k : Nat) (why : Int32) (w : SGG) (t2 r2 u2 e2 : Nat), a = nI n → n ≤ 1000 → ¬ why = 0 → fwd cd ip (σ.MF 2) (σ.MF 3) x0 g n t r u e = (why, t2, r2, u2, e2) → RD cd ip x0 g t2 r2 u2 0 e2 w → frm (sMI σ 0 0) w → V x γ (0, 0) (QM x γ (PI γ (fun q v => ((a < 0 ∨ ¬ a ≤ 1000) ∧ v = sMI σ 0 1) ∨ (∃ n, a = nI n ∧ n ≤ 1000 ∧ ∃ t2 r2 u2 e2, fwd cd ip (σ.MF 2) (σ.MF 3) x0 g n t r u e = (q, t2, r2, u2, e2) ∧ RD cd ip x0 g t2 r2 u2 0 e2 v ∧ frm (sMI σ 0 0) v)))) (enc γ w) 38 [some (.ref (aU γ)), some (.int a), some (.int why), some (.int (nI k))] [] := by
    intro n k why w t2 r2 u2 e2 ha hn hw hf hR hfr
    have J71 : V x γ (0, 0) (QM x γ (PI γ (fun q v => ((a < 0 ∨ ¬ a ≤ 1000) ∧ v = sMI σ 0 1) ∨ (∃ n, a = nI n ∧ n ≤ 1000 ∧ ∃ t2 r2 u2 e2, fwd cd ip (σ.MF 2) (σ.MF 3) x0 g n t r u e = (q, t2, r2, u2, e2) ∧ RD cd ip x0 g t2 r2 u2 0 e2 v ∧ frm (sMI σ 0 0) v)))) (enc γ w) 71 [some (.ref (aU γ)), some (.int a), some (.int why), some (.int (nI k))] [] := by
      refine v_iload_n (pc := 71) C d_MO_forth_71 rfl ?_
      refine v_if_ne (pc := 72) C 80 d_MO_forth_72 (by decide) (fun c72 => ?_) (fun c72 => ?_)
      · refine v_iload_n (pc := 80) C d_MO_forth_80 rfl ?_
        refine r_i (pc := 81) C d_MO_forth_81 ?_
        exact Or.inr ⟨n, ha, hn, t2, r2, u2, e2, hf, hR, hfr⟩
      · exact absurd c72 hw
    refine v_iload_n (pc := 38) C d_MO_forth_38 rfl ?_
    refine v_iload_n (pc := 39) C d_MO_forth_39 rfl ?_
    refine v_icmp_ge (pc := 40) C 71 d_MO_forth_40 (by decide) (fun c40 => ?_) (fun c40 => ?_)
    · exact J71
    · refine v_iload_n (pc := 43) C d_MO_forth_43 rfl ?_
      refine v_if_ne (pc := 44) C 71 d_MO_forth_44 (by decide) (fun c44 => ?_) (fun c44 => ?_)
      · exact J71
      · exact absurd c44 hw
  have L : ∀ n : Nat, a = nI n → n ≤ 1000 → ∀ k, k ≤ n → (∀ (w : SGG) (t2 r2 u2 e2 : Nat), fwd cd ip (σ.MF 2) (σ.MF 3) x0 g n t r u e = fwd cd ip (σ.MF 2) (σ.MF 3) x0 g (n - k) t2 r2 u2 e2 → RD cd ip x0 g t2 r2 u2 0 e2 w → frm (sMI σ 0 0) w → V x γ (0, 0) (QM x γ (PI γ (fun q v => ((a < 0 ∨ ¬ a ≤ 1000) ∧ v = sMI σ 0 1) ∨ (∃ n, a = nI n ∧ n ≤ 1000 ∧ ∃ t2 r2 u2 e2, fwd cd ip (σ.MF 2) (σ.MF 3) x0 g n t r u e = (q, t2, r2, u2, e2) ∧ RD cd ip x0 g t2 r2 u2 0 e2 v ∧ frm (sMI σ 0 0) v)))) (enc γ w) 38 [some (.ref (aU γ)), some (.int a), some (.int 0), some (.int (nI k))] []) := by
    intro n ha hn
    refine up_loop _ n (fun k hk ih w t2 r2 u2 e2 hf hR hfr => ?_)
    have f2 : w.MF 2 = σ.MF 2 := hfr.2.2.1
    have f3 : w.MF 3 = σ.MF 3 := hfr.2.2.2.1
    refine v_iload_n (pc := 38) C d_MO_forth_38 rfl ?_
    refine v_iload_n (pc := 39) C d_MO_forth_39 rfl ?_
    refine v_top (b := nI n) ha ?_
    refine v_icmp_ge (pc := 40) C 71 d_MO_forth_40 (by decide) (fun c40 => ?_) (fun c40 => ?_)
    · have z := (nI_leI (by omega) (by omega)).mp c40
      refine v_iload_n (pc := 71) C d_MO_forth_71 rfl ?_
      skip
      refine v_if_ne (pc := 72) C 80 d_MO_forth_72 (by decide) (fun c72 => ?_) (fun c72 => ?_)
      · exact absurd rfl c72
      · refine v_bipush (pc := 75) (v := 11) C d_MO_forth_75 (by decide) ?_
        refine v_goto (pc := 77) C 81 d_MO_forth_77 (by decide) ?_
        refine r_i (pc := 81) C d_MO_forth_81 ?_
        have kn : k = n := by omega
        subst kn
        rw [Nat.sub_self] at hf
        exact Or.inr ⟨k, ha, hn, t2, r2, u2, e2, hf, hR, hfr⟩
    · have z : k < n := nn_lt (by omega) c40
      obtain ⟨m, hm⟩ : ∃ m, n - k = m + 1 := ⟨n - k - 1, by omega⟩
      refine v_iload_n (pc := 43) C d_MO_forth_43 rfl ?_
      refine v_if_ne (pc := 44) C 71 d_MO_forth_44 (by decide) (fun c44 => ?_) (fun c44 => ?_)
      · exact absurd rfl c44
      · refine v_aload_n (pc := 47) C d_MO_forth_47 rfl ?_
        refine kU0v (pc := 48) C hY cb_MO_134 ⟨im_MO_remember, sl_MO_remember⟩ rfl rk_MO_forth_MO_remember d_MO_forth_48 ⟨Nat.zero_le _, Nat.zero_le _⟩ (c_MO_remember x.l hY) (Nat.le_of_ble_eq_true rfl) (fun σ48 h48 => ?_)
        subst h48
        refine v_aload_n (pc := 51) C d_MO_forth_51 rfl ?_
        refine kU0i (pc := 52) C hY cb_MO_131 ⟨im_MO_advance, sl_MO_advance⟩ rfl rk_MO_forth_MO_advance d_MO_forth_52 ⟨Nat.zero_le _, Nat.zero_le _⟩ (c_MO_advance x.l hY (rd_6 hR)) (Nat.le_of_ble_eq_true rfl) (fun r52 σ52 h52 => ?_)
        skip
        refine v_istore_n (pc := 55) C d_MO_forth_55 (Nat.le_of_ble_eq_true rfl) ?_
        refine v_iload_n (pc := 56) C d_MO_forth_56 rfl ?_
        refine v_if_ne (pc := 57) C 65 d_MO_forth_57 (by decide) (fun c57 => ?_) (fun c57 => ?_)
        · rcases h52 with ⟨q1, q2, q3, q4, q5⟩ | ⟨q1, q2, q3⟩
          · exact absurd q3 c57
          subst q3
          refine v_iinc (pc := 65) C d_MO_forth_65 rfl (nI_1' k) ?_
          refine v_goto (pc := 68) C 38 d_MO_forth_68 (by decide) ?_
          refine JE n (k + 1) _ _ t2 r2 u2 e2 ha hn c57 ?_ (rd_6 hR) (hfr.trans (frm_sMF (by decide)))
          rw [hf, hm]
          show (if _ then _ else _) = _
          rw [if_neg q1, q2]
        · rcases h52 with ⟨q1, q2, q3, q4, q5, q6⟩ | ⟨q1, q2, q3⟩
          case inr => exact absurd (q2.symm.trans c57) (tryR_ne q1)
          refine v_aload_n (pc := 60) C d_MO_forth_60 rfl ?_
          refine kU0i (pc := 61) C hY cb_MO_137 ⟨im_MO_stop, sl_MO_stop⟩ rfl rk_MO_forth_MO_stop d_MO_forth_61 ⟨Nat.zero_le _, Nat.zero_le _⟩ (c_MO_stop x.l hY) (Nat.le_of_ble_eq_true rfl) (fun r61 σ61 h61 => ?_)
          obtain ⟨e61, w61⟩ := h61
          rw [w61]
          refine v_istore_n (pc := 64) C d_MO_forth_64 (Nat.le_of_ble_eq_true rfl) ?_
          refine v_iinc (pc := 65) C d_MO_forth_65 rfl (nI_1' k) ?_
          refine v_goto (pc := 68) C 38 d_MO_forth_68 (by decide) ?_
          have es : r61 = stopS (σ.MF 2) (σ.MF 3) (tr cd ip x0 (t2 + 1)).p (tr cd ip x0 (t2 + 1)).c (tr cd ip x0 t2).c := by
            rw [e61, mS_p q4.2.1.2.2.2, mS_c q4.2.1.2.2.2, q6, sMF_F, mS_c hR.2.1.2.2.2, q5.2.2.1, q5.2.2.2.1]
            show stopS (w.MF 2) (w.MF 3) _ _ _ = _
            rw [f2, f3]
          have hfr2 : frm (sMI σ 0 0) σ52 := hfr.trans ((frm_sMF (by decide)).trans q5)
          have hstep : fwd cd ip (σ.MF 2) (σ.MF 3) x0 g (m + 1) t2 r2 u2 e2 = if r61 = 0 then fwd cd ip (σ.MF 2) (σ.MF 3) x0 g m (t2 + 1) (max r2 (t2 + 1)) (up32 u2) (eN t2 r2 e2) else (r61, t2 + 1, max r2 (t2 + 1), up32 u2, eN t2 r2 e2) := by
            rw [es]
            show (if _ then _ else _) = _
            rw [if_pos ⟨q1, q2⟩]
          by_cases y : r61 = 0
          · rw [if_pos y] at hstep
            rw [y]
            exact ih z σ52 _ _ _ _ (by rw [hf, hm, hstep, show n - (k + 1) = m by omega]) q4 hfr2
          · rw [if_neg y] at hstep
            exact JE n (k + 1) _ _ _ _ _ _ ha hn y (by rw [hf, hm, hstep]) q4 hfr2
  refine v_aload_n (pc := 0) C d_MO_forth_0 rfl ?_
  refine v_iload_n (pc := 1) C d_MO_forth_1 rfl ?_
  refine v_if_lt (pc := 2) C 12 d_MO_forth_2 (by decide) (fun c2 => ?_) (fun c2 => ?_)
  · exact J12 (Or.inl c2)
  · refine v_iload_n (pc := 5) C d_MO_forth_5 rfl ?_
    refine v_sipush (pc := 6) (v := 1000) C d_MO_forth_6 (by decide) ?_
    refine v_icmp_le (pc := 9) C 16 d_MO_forth_9 (by decide) (fun c9 => ?_) (fun c9 => ?_)
    · obtain ⟨n, hn, ha⟩ : ∃ n, n ≤ 1000 ∧ a = nI n := by
        obtain ⟨j, j1, rfl⟩ := nI_of c2
        exact ⟨j, (nI_leI (b := 1000) j1 (by decide)).mp c9, rfl⟩
      refine v_iconst (pc := 16) (v := 0) C d_MO_forth_16 (by decide) ?_
      refine pO_code (pc := 17) C hY d_MO_forth_17 fl_MO_54 ?_
      refine v_aload_n (pc := 20) C d_MO_forth_20 rfl ?_
      refine gO_code (pc := 21) C hY d_MO_forth_21 fl_MO_54 ?_
      refine v_top (b := 0) sMI_I ?_
      refine v_if_le (pc := 24) C 29 d_MO_forth_24 (by decide) (fun c24 => ?_) (fun c24 => ?_)
      · refine v_aload_n (pc := 29) C d_MO_forth_29 rfl ?_
        refine v_iconst (pc := 30) (v := 0) C d_MO_forth_30 (by decide) ?_
        refine pO_cost (pc := 31) C hY d_MO_forth_31 fl_MO_128 ?_
        refine v_iconst (pc := 34) (v := 0) C d_MO_forth_34 (by decide) ?_
        refine v_istore_n (pc := 35) C d_MO_forth_35 (Nat.le_of_ble_eq_true rfl) ?_
        refine v_iconst (pc := 36) (v := 0) C d_MO_forth_36 (by decide) ?_
        refine v_istore_n (pc := 37) C d_MO_forth_37 (Nat.le_of_ble_eq_true rfl) ?_
        have h2 := rd_c (c2 := 0) (rd_0 (w := 0) h)
        exact L n ha hn 0 (Nat.zero_le n) _ t r u e rfl h2.1 h2.2
      · exact absurd (by decide) c24
    · exact J12 (Or.inr c9)
theorem c_MO_back (l : Launch) {γ : GH} (hY : 146 ≤ γ.N) {cd ip : TF} {x0 : Int32} {g t r u c e : Nat} {σ : SGG} {a : Int32} (h : RD cd ip x0 g t r u c e σ) : Ct l y_MO_back b_MO_back 4 (some .int) rm_MO_back γ (enc γ σ) [.ref (aU γ), .int a] (PI γ (fun q v => ((a < 0 ∨ ¬ a ≤ 1000) ∧ v = sMI σ 0 1) ∨ (∃ n, a = nI n ∧ n ≤ 1000 ∧ ∃ t2 u2 c2, bck cd ip (σ.MF 2) (σ.MF 3) x0 e n t u 0 = (q, t2, u2, c2) ∧ RD cd ip x0 g t2 r u2 c2 e v ∧ frm (sMI σ 0 0) v))) := by
  refine ct_of "ReplayMachineModel" (by decide) rfl rfl (Nat.le_of_ble_eq_true rfl) (fun x hl C => ?_)
  subst hl
  show V x γ (0, 0) _ _ 0 [some (.ref (aU γ)), some (.int a), none, none] []
  have J12 : (a < 0 ∨ ¬ a ≤ 1000) → V x γ (0, 0) (QM x γ (PI γ (fun q v => ((a < 0 ∨ ¬ a ≤ 1000) ∧ v = sMI σ 0 1) ∨ (∃ n, a = nI n ∧ n ≤ 1000 ∧ ∃ t2 u2 c2, bck cd ip (σ.MF 2) (σ.MF 3) x0 e n t u 0 = (q, t2, u2, c2) ∧ RD cd ip x0 g t2 r u2 c2 e v ∧ frm (sMI σ 0 0) v)))) (enc γ σ) 12 [some (.ref (aU γ)), some (.int a), none, none] [.ref (aU γ)] := by
    intro z
    refine v_iconst (pc := 12) (v := 1) C d_MO_back_12 (by decide) ?_
    refine v_goto (pc := 13) C 17 d_MO_back_13 (by decide) ?_
    refine pO_code (pc := 17) C hY d_MO_back_17 fl_MO_54 ?_
    refine v_aload_n (pc := 20) C d_MO_back_20 rfl ?_
    refine gO_code (pc := 21) C hY d_MO_back_21 fl_MO_54 ?_
    refine v_top (b := 1) sMI_I ?_
    refine v_if_le (pc := 24) C 29 d_MO_back_24 (by decide) (fun c24 => ?_) (fun c24 => ?_)
    · exact absurd c24 (by decide)
    · refine v_iconst (pc := 27) (v := 0) C d_MO_back_27 (by decide) ?_
      refine r_i (pc := 28) C d_MO_back_28 ?_
      exact Or.inl ⟨z, rfl⟩
  have JE : ∀ (n k : Nat) (why : Int32) (w : SGG) (t2 u2 c2 : Nat), a = nI n → n ≤ 1000 → ¬ why = 0 → bck cd ip (σ.MF 2) (σ.MF 3) x0 e n t u 0 = (why, t2, u2, c2) → RD cd ip x0 g t2 r u2 c2 e w → frm (sMI σ 0 0) w → V x γ (0, 0) (QM x γ (PI γ (fun q v => ((a < 0 ∨ ¬ a ≤ 1000) ∧ v = sMI σ 0 1) ∨ (∃ n, a = nI n ∧ n ≤ 1000 ∧ ∃ t2 u2 c2, bck cd ip (σ.MF 2) (σ.MF 3) x0 e n t u 0 = (q, t2, u2, c2) ∧ RD cd ip x0 g t2 r u2 c2 e v ∧ frm (sMI σ 0 0) v)))) (enc γ w) 50 [some (.ref (aU γ)), some (.int a), some (.int why), some (.int (nI k))] [] := by
    intro n k why w t2 u2 c2 ha hn hw hf hR hfr
    have J70 : V x γ (0, 0) (QM x γ (PI γ (fun q v => ((a < 0 ∨ ¬ a ≤ 1000) ∧ v = sMI σ 0 1) ∨ (∃ n, a = nI n ∧ n ≤ 1000 ∧ ∃ t2 u2 c2, bck cd ip (σ.MF 2) (σ.MF 3) x0 e n t u 0 = (q, t2, u2, c2) ∧ RD cd ip x0 g t2 r u2 c2 e v ∧ frm (sMI σ 0 0) v)))) (enc γ w) 70 [some (.ref (aU γ)), some (.int a), some (.int why), some (.int (nI k))] [] := by
      refine v_iload_n (pc := 70) C d_MO_back_70 rfl ?_
      refine v_if_ne (pc := 71) C 79 d_MO_back_71 (by decide) (fun c71 => ?_) (fun c71 => ?_)
      · refine v_iload_n (pc := 79) C d_MO_back_79 rfl ?_
        refine r_i (pc := 80) C d_MO_back_80 ?_
        exact Or.inr ⟨n, ha, hn, t2, u2, c2, hf, hR, hfr⟩
      · exact absurd c71 hw
    refine v_iload_n (pc := 50) C d_MO_back_50 rfl ?_
    refine v_iload_n (pc := 51) C d_MO_back_51 rfl ?_
    refine v_icmp_ge (pc := 52) C 70 d_MO_back_52 (by decide) (fun c52 => ?_) (fun c52 => ?_)
    · exact J70
    · refine v_iload_n (pc := 55) C d_MO_back_55 rfl ?_
      refine v_if_ne (pc := 56) C 70 d_MO_back_56 (by decide) (fun c56 => ?_) (fun c56 => ?_)
      · exact J70
      · exact absurd c56 hw
  have L : ∀ n : Nat, a = nI n → n ≤ 1000 → ∀ k, k ≤ n → (∀ (w : SGG) (t2 u2 c2 : Nat), 0 < t2 → bck cd ip (σ.MF 2) (σ.MF 3) x0 e n t u 0 = bkw cd ip (σ.MF 2) (σ.MF 3) x0 e (n - k) t2 u2 c2 → RD cd ip x0 g t2 r u2 c2 e w → frm (sMI σ 0 0) w → V x γ (0, 0) (QM x γ (PI γ (fun q v => ((a < 0 ∨ ¬ a ≤ 1000) ∧ v = sMI σ 0 1) ∨ (∃ n, a = nI n ∧ n ≤ 1000 ∧ ∃ t2 u2 c2, bck cd ip (σ.MF 2) (σ.MF 3) x0 e n t u 0 = (q, t2, u2, c2) ∧ RD cd ip x0 g t2 r u2 c2 e v ∧ frm (sMI σ 0 0) v)))) (enc γ w) 50 [some (.ref (aU γ)), some (.int a), some (.int 0), some (.int (nI k))] []) := by
    intro n ha hn
    refine up_loop _ n (fun k hk ih w t2 u2 c2 h0 hf hR hfr => ?_)
    have f2 : w.MF 2 = σ.MF 2 := hfr.2.2.1
    have f3 : w.MF 3 = σ.MF 3 := hfr.2.2.2.1
    refine v_iload_n (pc := 50) C d_MO_back_50 rfl ?_
    refine v_iload_n (pc := 51) C d_MO_back_51 rfl ?_
    refine v_top (b := nI n) ha ?_
    refine v_icmp_ge (pc := 52) C 70 d_MO_back_52 (by decide) (fun c52 => ?_) (fun c52 => ?_)
    · have z := (nI_leI (by omega) (by omega)).mp c52
      refine v_iload_n (pc := 70) C d_MO_back_70 rfl ?_
      refine v_if_ne (pc := 71) C 79 d_MO_back_71 (by decide) (fun c71 => ?_) (fun c71 => ?_)
      · exact absurd rfl c71
      · refine v_bipush (pc := 74) (v := 11) C d_MO_back_74 (by decide) ?_
        refine v_goto (pc := 76) C 80 d_MO_back_76 (by decide) ?_
        refine r_i (pc := 80) C d_MO_back_80 ?_
        have kn : k = n := by omega
        subst kn
        rw [Nat.sub_self] at hf
        exact Or.inr ⟨k, ha, hn, t2, u2, c2, hf, hR, hfr⟩
    · have z : k < n := nn_lt (by omega) c52
      obtain ⟨m, hm⟩ : ∃ m, n - k = m + 1 := ⟨n - k - 1, by omega⟩
      refine v_iload_n (pc := 55) C d_MO_back_55 rfl ?_
      refine v_if_ne (pc := 56) C 70 d_MO_back_56 (by decide) (fun c56 => ?_) (fun c56 => ?_)
      · exact absurd rfl c56
      · refine v_aload_n (pc := 59) C d_MO_back_59 rfl ?_
        refine kU0i (pc := 60) C hY cb_MO_146 ⟨im_MO_backOne, sl_MO_backOne⟩ rfl rk_MO_back_MO_backOne d_MO_back_60 ⟨Nat.zero_le _, Nat.zero_le _⟩ (c_MO_backOne x.l hY hR h0) (Nat.le_of_ble_eq_true rfl) (fun r60 σ60 h60 => ?_)
        obtain ⟨q1, q2, q3⟩ := h60
        rw [f2, f3] at q3
        refine v_istore_n (pc := 63) C d_MO_back_63 (Nat.le_of_ble_eq_true rfl) ?_
        refine v_iinc (pc := 64) C d_MO_back_64 rfl (nI_1' k) ?_
        refine v_goto (pc := 67) C 50 d_MO_back_67 (by decide) ?_
        have hfr2 : frm (sMI σ 0 0) σ60 := hfr.trans q2
        have hstep : bkw cd ip (σ.MF 2) (σ.MF 3) x0 e (m + 1) t2 u2 c2 = if t2 - 1 = 0 then (12, t2 - 1, mvU t2 u2 e (t2 - 1), mvC t2 u2 c2 e (t2 - 1)) else if stopS (σ.MF 2) (σ.MF 3) (tr cd ip x0 (t2 - 1)).p (tr cd ip x0 (t2 - 1)).c (tr cd ip x0 (t2 - 1 - 1)).c = 0 then bkw cd ip (σ.MF 2) (σ.MF 3) x0 e m (t2 - 1) (mvU t2 u2 e (t2 - 1)) (mvC t2 u2 c2 e (t2 - 1)) else (stopS (σ.MF 2) (σ.MF 3) (tr cd ip x0 (t2 - 1)).p (tr cd ip x0 (t2 - 1)).c (tr cd ip x0 (t2 - 1 - 1)).c, t2 - 1, mvU t2 u2 e (t2 - 1), mvC t2 u2 c2 e (t2 - 1)) := rfl
        by_cases y0 : t2 - 1 = 0
        · rw [if_pos y0] at hstep q3
          exact JE n (k + 1) _ _ _ _ _ ha hn (by rw [q3]; decide) (by rw [hf, hm, hstep, q3]) q1 hfr2
        · rw [if_neg y0] at hstep q3
          rw [← q3] at hstep
          by_cases y : r60 = 0
          · rw [if_pos y] at hstep
            rw [y]
            exact ih z σ60 _ _ _ (by omega) (by rw [hf, hm, hstep, show n - (k + 1) = m by omega]) q1 hfr2
          · rw [if_neg y] at hstep
            exact JE n (k + 1) _ _ _ _ _ ha hn y (by rw [hf, hm, hstep]) q1 hfr2
  refine v_aload_n (pc := 0) C d_MO_back_0 rfl ?_
  refine v_iload_n (pc := 1) C d_MO_back_1 rfl ?_
  refine v_if_lt (pc := 2) C 12 d_MO_back_2 (by decide) (fun c2 => ?_) (fun c2 => ?_)
  · exact J12 (Or.inl c2)
  · refine v_iload_n (pc := 5) C d_MO_back_5 rfl ?_
    refine v_sipush (pc := 6) (v := 1000) C d_MO_back_6 (by decide) ?_
    refine v_icmp_le (pc := 9) C 16 d_MO_back_9 (by decide) (fun c9 => ?_) (fun c9 => ?_)
    · obtain ⟨n, hn, ha⟩ : ∃ n, n ≤ 1000 ∧ a = nI n := by
        obtain ⟨j, j1, rfl⟩ := nI_of c2
        exact ⟨j, (nI_leI (b := 1000) j1 (by decide)).mp c9, rfl⟩
      refine v_iconst (pc := 16) (v := 0) C d_MO_back_16 (by decide) ?_
      refine pO_code (pc := 17) C hY d_MO_back_17 fl_MO_54 ?_
      refine v_aload_n (pc := 20) C d_MO_back_20 rfl ?_
      refine gO_code (pc := 21) C hY d_MO_back_21 fl_MO_54 ?_
      refine v_top (b := 0) sMI_I ?_
      refine v_if_le (pc := 24) C 29 d_MO_back_24 (by decide) (fun c24 => ?_) (fun c24 => ?_)
      · refine v_aload_n (pc := 29) C d_MO_back_29 rfl ?_
        refine v_iconst (pc := 30) (v := 0) C d_MO_back_30 (by decide) ?_
        refine pO_cost (pc := 31) C hY d_MO_back_31 fl_MO_128 ?_
        have h2 := rd_c (c2 := 0) (rd_0 (w := 0) h)
        refine v_aload_n (pc := 34) C d_MO_back_34 rfl ?_
        refine gO_time (pc := 35) C hY d_MO_back_35 fl_MO_63 ?_
        refine v_top (b := nI t) (rd_T h2.1) ?_
        refine v_if_ne (pc := 38) C 46 d_MO_back_38 (by decide) (fun c38 => ?_) (fun c38 => ?_)
        · have y : ¬ t = 0 := fun q => c38 (by rw [q]; rfl)
          refine v_iconst (pc := 46) (v := 0) C d_MO_back_46 (by decide) ?_
          refine v_istore_n (pc := 47) C d_MO_back_47 (Nat.le_of_ble_eq_true rfl) ?_
          refine v_iconst (pc := 48) (v := 0) C d_MO_back_48 (by decide) ?_
          refine v_istore_n (pc := 49) C d_MO_back_49 (Nat.le_of_ble_eq_true rfl) ?_
          first
            | exact L n ha hn 0 (Nat.zero_le n) _ t u 0 (by omega) (if_neg y) h2.1 h2.2
            | exact JE n 0 12 _ t u 0 ha hn (by decide) (if_pos y) h2.1 h2.2
        · have y : t = 0 := (nI_eq (b := 0) (by have := h.1.2.1; have := h.1.2.2.1; omega) (by decide)).mp c38
          refine v_bipush (pc := 41) (v := 12) C d_MO_back_41 (by decide) ?_
          refine v_goto (pc := 43) C 47 d_MO_back_43 (by decide) ?_
          refine v_istore_n (pc := 47) C d_MO_back_47 (Nat.le_of_ble_eq_true rfl) ?_
          refine v_iconst (pc := 48) (v := 0) C d_MO_back_48 (by decide) ?_
          refine v_istore_n (pc := 49) C d_MO_back_49 (Nat.le_of_ble_eq_true rfl) ?_
          first
            | exact L n ha hn 0 (Nat.zero_le n) _ t u 0 (by omega) (if_neg y) h2.1 h2.2
            | exact JE n 0 12 _ t u 0 ha hn (by decide) (if_pos y) h2.1 h2.2
      · exact absurd (by decide) c24
    · exact J12 (Or.inr c9)
theorem c_MO_setBreak (l : Launch) {γ : GH} (hY : 146 ≤ γ.N) {σ : SGG} {a : Int32} : Ct l y_MO_setBreak b_MO_setBreak 2 (some .boolean) rm_MO_setBreak γ (enc γ σ) [.ref (aU γ), .int a] (PI γ (fun q v => ((a < 0 ∨ ¬ a < 64) ∧ v = sMI σ 0 1) ∨ (¬ a < 0 ∧ a < 64 ∧ ((¬ σ.MF 2 a.toNatClampNeg = 0 ∧ q = 0 ∧ v = sMI σ 0 0) ∨ (σ.MF 2 a.toNatClampNeg = 0 ∧ q = 1 ∧ v = sMF (sMI σ 0 0) 2 (upd (σ.MF 2) a.toNatClampNeg 1)))))) := by
  refine ct_of "ReplayMachineModel" (by decide) rfl rfl (Nat.le_of_ble_eq_true rfl) (fun x hl C => ?_)
  subst hl
  show V x γ (0, 0) _ _ 0 [some (.ref (aU γ)), some (.int a)] []
  have J10 : (a < 0 ∨ ¬ a < 64) → V x γ (0, 0) (QM x γ (PI γ (fun q v => ((a < 0 ∨ ¬ a < 64) ∧ v = sMI σ 0 1) ∨ (¬ a < 0 ∧ a < 64 ∧ ((¬ σ.MF 2 a.toNatClampNeg = 0 ∧ q = 0 ∧ v = sMI σ 0 0) ∨ (σ.MF 2 a.toNatClampNeg = 0 ∧ q = 1 ∧ v = sMF (sMI σ 0 0) 2 (upd (σ.MF 2) a.toNatClampNeg 1))))))) (enc γ σ) 10 [some (.ref (aU γ)), some (.int a)] [.ref (aU γ)] := by
    intro z
    refine v_iconst (pc := 10) (v := 1) C d_MO_setBreak_10 (by decide) ?_
    refine v_goto (pc := 11) C 15 d_MO_setBreak_11 (by decide) ?_
    refine pO_code (pc := 15) C hY d_MO_setBreak_15 fl_MO_54 ?_
    refine v_aload_n (pc := 18) C d_MO_setBreak_18 rfl ?_
    refine gO_code (pc := 19) C hY d_MO_setBreak_19 fl_MO_54 ?_
    refine v_top (b := 1) sMI_I ?_
    refine v_if_gt (pc := 22) C 34 d_MO_setBreak_22 (by decide) (fun c22 => ?_) (fun c22 => ?_)
    · refine v_iconst (pc := 34) (v := 0) C d_MO_setBreak_34 (by decide) ?_
      refine r_z (pc := 35) C d_MO_setBreak_35 ?_ ?_
      · rfl
      exact Or.inl ⟨z, rfl⟩
    · exact absurd (by decide) c22
  have J14 : ¬ a < 0 → a < 64 → V x γ (0, 0) (QM x γ (PI γ (fun q v => ((a < 0 ∨ ¬ a < 64) ∧ v = sMI σ 0 1) ∨ (¬ a < 0 ∧ a < 64 ∧ ((¬ σ.MF 2 a.toNatClampNeg = 0 ∧ q = 0 ∧ v = sMI σ 0 0) ∨ (σ.MF 2 a.toNatClampNeg = 0 ∧ q = 1 ∧ v = sMF (sMI σ 0 0) 2 (upd (σ.MF 2) a.toNatClampNeg 1))))))) (enc γ σ) 14 [some (.ref (aU γ)), some (.int a)] [.ref (aU γ)] := by
    intro z1 z2
    refine v_iconst (pc := 14) (v := 0) C d_MO_setBreak_14 (by decide) ?_
    refine pO_code (pc := 15) C hY d_MO_setBreak_15 fl_MO_54 ?_
    refine v_aload_n (pc := 18) C d_MO_setBreak_18 rfl ?_
    refine gO_code (pc := 19) C hY d_MO_setBreak_19 fl_MO_54 ?_
    refine v_top (b := 0) sMI_I ?_
    refine v_if_gt (pc := 22) C 34 d_MO_setBreak_22 (by decide) (fun c22 => ?_) (fun c22 => ?_)
    · exact absurd c22 (by decide)
    · refine v_aload_n (pc := 25) C d_MO_setBreak_25 rfl ?_
      refine gO_breaks (pc := 26) C hY d_MO_setBreak_26 fl_MO_16 ?_
      refine v_iload_n (pc := 29) C d_MO_setBreak_29 rfl ?_
      refine lO_breaks (pc := 30) C hY d_MO_setBreak_30 ?_ ?_
      · exact in_vp z1 z2 (by decide)
      refine v_if_eq (pc := 31) C 36 d_MO_setBreak_31 (by decide) (fun c31 => ?_) (fun c31 => ?_)
      · refine v_aload_n (pc := 36) C d_MO_setBreak_36 rfl ?_
        refine gO_breaks (pc := 37) C hY d_MO_setBreak_37 fl_MO_16 ?_
        refine v_iload_n (pc := 40) C d_MO_setBreak_40 rfl ?_
        refine v_iconst (pc := 41) (v := 1) C d_MO_setBreak_41 (by decide) ?_
        refine stO_breaks (pc := 42) C hY d_MO_setBreak_42 ?_ ?_
        · exact in_vp z1 z2 (by decide)
        refine v_iconst (pc := 43) (v := 1) C d_MO_setBreak_43 (by decide) ?_
        refine r_z (pc := 44) C d_MO_setBreak_44 ?_ ?_
        · rfl
        exact Or.inr ⟨z1, z2, Or.inr ⟨c31, rfl, rfl⟩⟩
      · refine v_iconst (pc := 34) (v := 0) C d_MO_setBreak_34 (by decide) ?_
        refine r_z (pc := 35) C d_MO_setBreak_35 ?_ ?_
        · rfl
        exact Or.inr ⟨z1, z2, Or.inl ⟨c31, rfl, rfl⟩⟩
  refine v_aload_n (pc := 0) C d_MO_setBreak_0 rfl ?_
  refine v_iload_n (pc := 1) C d_MO_setBreak_1 rfl ?_
  refine v_bipush (pc := 2) (v := 64) C d_MO_setBreak_2 (by decide) ?_
  refine kk2i (pc := 4) C cb_MO_149 sm_MO_outside rk_MO_setBreak_MO_outside d_MO_setBreak_4 ⟨Nat.zero_le _, Nat.zero_le _⟩ (c_MO_outside x.l) (Nat.le_of_ble_eq_true rfl) (fun r4 σ4 h4 => ?_)
  obtain ⟨e4, w4⟩ := h4
  subst e4
  rw [w4]
  refine v_top (b := (if a < 0 ∨ ¬ a < 64 then (1 : Int32) else 0)) rfl ?_
  refine v_if_eq (pc := 7) C 14 d_MO_setBreak_7 (by decide) (fun c7 => ?_) (fun c7 => ?_)
  · have z : ¬ (a < 0 ∨ ¬ a < 64) := fun q => by rw [if_pos q] at c7; exact absurd c7 (by decide)
    have z1 : ¬ a < 0 := fun q => z (Or.inl q)
    have z2 : a < 64 := Decidable.byContradiction (fun q => z (Or.inr q))
    exact J14 z1 z2
  · have z : a < 0 ∨ ¬ a < 64 := Decidable.byContradiction (fun q => c7 (if_neg q))
    exact J10 z
theorem c_MO_clearBreak (l : Launch) {γ : GH} (hY : 146 ≤ γ.N) {σ : SGG} {a : Int32} : Ct l y_MO_clearBreak b_MO_clearBreak 2 (some .boolean) rm_MO_clearBreak γ (enc γ σ) [.ref (aU γ), .int a] (PI γ (fun q v => ((a < 0 ∨ ¬ a < 64) ∧ v = sMI σ 0 1) ∨ (¬ a < 0 ∧ a < 64 ∧ ((σ.MF 2 a.toNatClampNeg = 0 ∧ q = 0 ∧ v = sMI σ 0 0) ∨ (¬ σ.MF 2 a.toNatClampNeg = 0 ∧ q = 1 ∧ v = sMF (sMI σ 0 0) 2 (upd (σ.MF 2) a.toNatClampNeg 0)))))) := by
  refine ct_of "ReplayMachineModel" (by decide) rfl rfl (Nat.le_of_ble_eq_true rfl) (fun x hl C => ?_)
  subst hl
  show V x γ (0, 0) _ _ 0 [some (.ref (aU γ)), some (.int a)] []
  have J10 : (a < 0 ∨ ¬ a < 64) → V x γ (0, 0) (QM x γ (PI γ (fun q v => ((a < 0 ∨ ¬ a < 64) ∧ v = sMI σ 0 1) ∨ (¬ a < 0 ∧ a < 64 ∧ ((σ.MF 2 a.toNatClampNeg = 0 ∧ q = 0 ∧ v = sMI σ 0 0) ∨ (¬ σ.MF 2 a.toNatClampNeg = 0 ∧ q = 1 ∧ v = sMF (sMI σ 0 0) 2 (upd (σ.MF 2) a.toNatClampNeg 0))))))) (enc γ σ) 10 [some (.ref (aU γ)), some (.int a)] [.ref (aU γ)] := by
    intro z
    refine v_iconst (pc := 10) (v := 1) C d_MO_clearBreak_10 (by decide) ?_
    refine v_goto (pc := 11) C 15 d_MO_clearBreak_11 (by decide) ?_
    refine pO_code (pc := 15) C hY d_MO_clearBreak_15 fl_MO_54 ?_
    refine v_aload_n (pc := 18) C d_MO_clearBreak_18 rfl ?_
    refine gO_code (pc := 19) C hY d_MO_clearBreak_19 fl_MO_54 ?_
    refine v_top (b := 1) sMI_I ?_
    refine v_if_gt (pc := 22) C 34 d_MO_clearBreak_22 (by decide) (fun c22 => ?_) (fun c22 => ?_)
    · refine v_iconst (pc := 34) (v := 0) C d_MO_clearBreak_34 (by decide) ?_
      refine r_z (pc := 35) C d_MO_clearBreak_35 ?_ ?_
      · rfl
      exact Or.inl ⟨z, rfl⟩
    · exact absurd (by decide) c22
  have J14 : ¬ a < 0 → a < 64 → V x γ (0, 0) (QM x γ (PI γ (fun q v => ((a < 0 ∨ ¬ a < 64) ∧ v = sMI σ 0 1) ∨ (¬ a < 0 ∧ a < 64 ∧ ((σ.MF 2 a.toNatClampNeg = 0 ∧ q = 0 ∧ v = sMI σ 0 0) ∨ (¬ σ.MF 2 a.toNatClampNeg = 0 ∧ q = 1 ∧ v = sMF (sMI σ 0 0) 2 (upd (σ.MF 2) a.toNatClampNeg 0))))))) (enc γ σ) 14 [some (.ref (aU γ)), some (.int a)] [.ref (aU γ)] := by
    intro z1 z2
    refine v_iconst (pc := 14) (v := 0) C d_MO_clearBreak_14 (by decide) ?_
    refine pO_code (pc := 15) C hY d_MO_clearBreak_15 fl_MO_54 ?_
    refine v_aload_n (pc := 18) C d_MO_clearBreak_18 rfl ?_
    refine gO_code (pc := 19) C hY d_MO_clearBreak_19 fl_MO_54 ?_
    refine v_top (b := 0) sMI_I ?_
    refine v_if_gt (pc := 22) C 34 d_MO_clearBreak_22 (by decide) (fun c22 => ?_) (fun c22 => ?_)
    · exact absurd c22 (by decide)
    · refine v_aload_n (pc := 25) C d_MO_clearBreak_25 rfl ?_
      refine gO_breaks (pc := 26) C hY d_MO_clearBreak_26 fl_MO_16 ?_
      refine v_iload_n (pc := 29) C d_MO_clearBreak_29 rfl ?_
      refine lO_breaks (pc := 30) C hY d_MO_clearBreak_30 ?_ ?_
      · exact in_vp z1 z2 (by decide)
      refine v_if_ne (pc := 31) C 36 d_MO_clearBreak_31 (by decide) (fun c31 => ?_) (fun c31 => ?_)
      · refine v_aload_n (pc := 36) C d_MO_clearBreak_36 rfl ?_
        refine gO_breaks (pc := 37) C hY d_MO_clearBreak_37 fl_MO_16 ?_
        refine v_iload_n (pc := 40) C d_MO_clearBreak_40 rfl ?_
        refine v_iconst (pc := 41) (v := 0) C d_MO_clearBreak_41 (by decide) ?_
        refine stO_breaks (pc := 42) C hY d_MO_clearBreak_42 ?_ ?_
        · exact in_vp z1 z2 (by decide)
        refine v_iconst (pc := 43) (v := 1) C d_MO_clearBreak_43 (by decide) ?_
        refine r_z (pc := 44) C d_MO_clearBreak_44 ?_ ?_
        · rfl
        exact Or.inr ⟨z1, z2, Or.inr ⟨c31, rfl, rfl⟩⟩
      · refine v_iconst (pc := 34) (v := 0) C d_MO_clearBreak_34 (by decide) ?_
        refine r_z (pc := 35) C d_MO_clearBreak_35 ?_ ?_
        · rfl
        exact Or.inr ⟨z1, z2, Or.inl ⟨c31, rfl, rfl⟩⟩
  refine v_aload_n (pc := 0) C d_MO_clearBreak_0 rfl ?_
  refine v_iload_n (pc := 1) C d_MO_clearBreak_1 rfl ?_
  refine v_bipush (pc := 2) (v := 64) C d_MO_clearBreak_2 (by decide) ?_
  refine kk2i (pc := 4) C cb_MO_149 sm_MO_outside rk_MO_clearBreak_MO_outside d_MO_clearBreak_4 ⟨Nat.zero_le _, Nat.zero_le _⟩ (c_MO_outside x.l) (Nat.le_of_ble_eq_true rfl) (fun r4 σ4 h4 => ?_)
  obtain ⟨e4, w4⟩ := h4
  subst e4
  rw [w4]
  refine v_top (b := (if a < 0 ∨ ¬ a < 64 then (1 : Int32) else 0)) rfl ?_
  refine v_if_eq (pc := 7) C 14 d_MO_clearBreak_7 (by decide) (fun c7 => ?_) (fun c7 => ?_)
  · have z : ¬ (a < 0 ∨ ¬ a < 64) := fun q => by rw [if_pos q] at c7; exact absurd c7 (by decide)
    have z1 : ¬ a < 0 := fun q => z (Or.inl q)
    have z2 : a < 64 := Decidable.byContradiction (fun q => z (Or.inr q))
    exact J14 z1 z2
  · have z : a < 0 ∨ ¬ a < 64 := Decidable.byContradiction (fun q => c7 (if_neg q))
    exact J10 z
theorem c_MO_setWatch (l : Launch) {γ : GH} (hY : 146 ≤ γ.N) {σ : SGG} {a : Int32} : Ct l y_MO_setWatch b_MO_setWatch 2 (some .boolean) rm_MO_setWatch γ (enc γ σ) [.ref (aU γ), .int a] (PI γ (fun q v => ((a < 0 ∨ ¬ a < 32) ∧ v = sMI σ 0 1) ∨ (¬ a < 0 ∧ a < 32 ∧ ((¬ σ.MF 3 a.toNatClampNeg = 0 ∧ q = 0 ∧ v = sMI σ 0 0) ∨ (σ.MF 3 a.toNatClampNeg = 0 ∧ q = 1 ∧ v = sMF (sMI σ 0 0) 3 (upd (σ.MF 3) a.toNatClampNeg 1)))))) := by
  refine ct_of "ReplayMachineModel" (by decide) rfl rfl (Nat.le_of_ble_eq_true rfl) (fun x hl C => ?_)
  subst hl
  show V x γ (0, 0) _ _ 0 [some (.ref (aU γ)), some (.int a)] []
  have J10 : (a < 0 ∨ ¬ a < 32) → V x γ (0, 0) (QM x γ (PI γ (fun q v => ((a < 0 ∨ ¬ a < 32) ∧ v = sMI σ 0 1) ∨ (¬ a < 0 ∧ a < 32 ∧ ((¬ σ.MF 3 a.toNatClampNeg = 0 ∧ q = 0 ∧ v = sMI σ 0 0) ∨ (σ.MF 3 a.toNatClampNeg = 0 ∧ q = 1 ∧ v = sMF (sMI σ 0 0) 3 (upd (σ.MF 3) a.toNatClampNeg 1))))))) (enc γ σ) 10 [some (.ref (aU γ)), some (.int a)] [.ref (aU γ)] := by
    intro z
    refine v_iconst (pc := 10) (v := 1) C d_MO_setWatch_10 (by decide) ?_
    refine v_goto (pc := 11) C 15 d_MO_setWatch_11 (by decide) ?_
    refine pO_code (pc := 15) C hY d_MO_setWatch_15 fl_MO_54 ?_
    refine v_aload_n (pc := 18) C d_MO_setWatch_18 rfl ?_
    refine gO_code (pc := 19) C hY d_MO_setWatch_19 fl_MO_54 ?_
    refine v_top (b := 1) sMI_I ?_
    refine v_if_gt (pc := 22) C 34 d_MO_setWatch_22 (by decide) (fun c22 => ?_) (fun c22 => ?_)
    · refine v_iconst (pc := 34) (v := 0) C d_MO_setWatch_34 (by decide) ?_
      refine r_z (pc := 35) C d_MO_setWatch_35 ?_ ?_
      · rfl
      exact Or.inl ⟨z, rfl⟩
    · exact absurd (by decide) c22
  have J14 : ¬ a < 0 → a < 32 → V x γ (0, 0) (QM x γ (PI γ (fun q v => ((a < 0 ∨ ¬ a < 32) ∧ v = sMI σ 0 1) ∨ (¬ a < 0 ∧ a < 32 ∧ ((¬ σ.MF 3 a.toNatClampNeg = 0 ∧ q = 0 ∧ v = sMI σ 0 0) ∨ (σ.MF 3 a.toNatClampNeg = 0 ∧ q = 1 ∧ v = sMF (sMI σ 0 0) 3 (upd (σ.MF 3) a.toNatClampNeg 1))))))) (enc γ σ) 14 [some (.ref (aU γ)), some (.int a)] [.ref (aU γ)] := by
    intro z1 z2
    refine v_iconst (pc := 14) (v := 0) C d_MO_setWatch_14 (by decide) ?_
    refine pO_code (pc := 15) C hY d_MO_setWatch_15 fl_MO_54 ?_
    refine v_aload_n (pc := 18) C d_MO_setWatch_18 rfl ?_
    refine gO_code (pc := 19) C hY d_MO_setWatch_19 fl_MO_54 ?_
    refine v_top (b := 0) sMI_I ?_
    refine v_if_gt (pc := 22) C 34 d_MO_setWatch_22 (by decide) (fun c22 => ?_) (fun c22 => ?_)
    · exact absurd c22 (by decide)
    · refine v_aload_n (pc := 25) C d_MO_setWatch_25 rfl ?_
      refine gO_watches (pc := 26) C hY d_MO_setWatch_26 fl_MO_20 ?_
      refine v_iload_n (pc := 29) C d_MO_setWatch_29 rfl ?_
      refine lO_watches (pc := 30) C hY d_MO_setWatch_30 ?_ ?_
      · exact in_vp z1 z2 (by decide)
      refine v_if_eq (pc := 31) C 36 d_MO_setWatch_31 (by decide) (fun c31 => ?_) (fun c31 => ?_)
      · refine v_aload_n (pc := 36) C d_MO_setWatch_36 rfl ?_
        refine gO_watches (pc := 37) C hY d_MO_setWatch_37 fl_MO_20 ?_
        refine v_iload_n (pc := 40) C d_MO_setWatch_40 rfl ?_
        refine v_iconst (pc := 41) (v := 1) C d_MO_setWatch_41 (by decide) ?_
        refine stO_watches (pc := 42) C hY d_MO_setWatch_42 ?_ ?_
        · exact in_vp z1 z2 (by decide)
        refine v_iconst (pc := 43) (v := 1) C d_MO_setWatch_43 (by decide) ?_
        refine r_z (pc := 44) C d_MO_setWatch_44 ?_ ?_
        · rfl
        exact Or.inr ⟨z1, z2, Or.inr ⟨c31, rfl, rfl⟩⟩
      · refine v_iconst (pc := 34) (v := 0) C d_MO_setWatch_34 (by decide) ?_
        refine r_z (pc := 35) C d_MO_setWatch_35 ?_ ?_
        · rfl
        exact Or.inr ⟨z1, z2, Or.inl ⟨c31, rfl, rfl⟩⟩
  refine v_aload_n (pc := 0) C d_MO_setWatch_0 rfl ?_
  refine v_iload_n (pc := 1) C d_MO_setWatch_1 rfl ?_
  refine v_bipush (pc := 2) (v := 32) C d_MO_setWatch_2 (by decide) ?_
  refine kk2i (pc := 4) C cb_MO_149 sm_MO_outside rk_MO_setWatch_MO_outside d_MO_setWatch_4 ⟨Nat.zero_le _, Nat.zero_le _⟩ (c_MO_outside x.l) (Nat.le_of_ble_eq_true rfl) (fun r4 σ4 h4 => ?_)
  obtain ⟨e4, w4⟩ := h4
  subst e4
  rw [w4]
  refine v_top (b := (if a < 0 ∨ ¬ a < 32 then (1 : Int32) else 0)) rfl ?_
  refine v_if_eq (pc := 7) C 14 d_MO_setWatch_7 (by decide) (fun c7 => ?_) (fun c7 => ?_)
  · have z : ¬ (a < 0 ∨ ¬ a < 32) := fun q => by rw [if_pos q] at c7; exact absurd c7 (by decide)
    have z1 : ¬ a < 0 := fun q => z (Or.inl q)
    have z2 : a < 32 := Decidable.byContradiction (fun q => z (Or.inr q))
    exact J14 z1 z2
  · have z : a < 0 ∨ ¬ a < 32 := Decidable.byContradiction (fun q => c7 (if_neg q))
    exact J10 z
theorem c_MO_clearWatch (l : Launch) {γ : GH} (hY : 146 ≤ γ.N) {σ : SGG} {a : Int32} : Ct l y_MO_clearWatch b_MO_clearWatch 2 (some .boolean) rm_MO_clearWatch γ (enc γ σ) [.ref (aU γ), .int a] (PI γ (fun q v => ((a < 0 ∨ ¬ a < 32) ∧ v = sMI σ 0 1) ∨ (¬ a < 0 ∧ a < 32 ∧ ((σ.MF 3 a.toNatClampNeg = 0 ∧ q = 0 ∧ v = sMI σ 0 0) ∨ (¬ σ.MF 3 a.toNatClampNeg = 0 ∧ q = 1 ∧ v = sMF (sMI σ 0 0) 3 (upd (σ.MF 3) a.toNatClampNeg 0)))))) := by
  refine ct_of "ReplayMachineModel" (by decide) rfl rfl (Nat.le_of_ble_eq_true rfl) (fun x hl C => ?_)
  subst hl
  show V x γ (0, 0) _ _ 0 [some (.ref (aU γ)), some (.int a)] []
  have J10 : (a < 0 ∨ ¬ a < 32) → V x γ (0, 0) (QM x γ (PI γ (fun q v => ((a < 0 ∨ ¬ a < 32) ∧ v = sMI σ 0 1) ∨ (¬ a < 0 ∧ a < 32 ∧ ((σ.MF 3 a.toNatClampNeg = 0 ∧ q = 0 ∧ v = sMI σ 0 0) ∨ (¬ σ.MF 3 a.toNatClampNeg = 0 ∧ q = 1 ∧ v = sMF (sMI σ 0 0) 3 (upd (σ.MF 3) a.toNatClampNeg 0))))))) (enc γ σ) 10 [some (.ref (aU γ)), some (.int a)] [.ref (aU γ)] := by
    intro z
    refine v_iconst (pc := 10) (v := 1) C d_MO_clearWatch_10 (by decide) ?_
    refine v_goto (pc := 11) C 15 d_MO_clearWatch_11 (by decide) ?_
    refine pO_code (pc := 15) C hY d_MO_clearWatch_15 fl_MO_54 ?_
    refine v_aload_n (pc := 18) C d_MO_clearWatch_18 rfl ?_
    refine gO_code (pc := 19) C hY d_MO_clearWatch_19 fl_MO_54 ?_
    refine v_top (b := 1) sMI_I ?_
    refine v_if_gt (pc := 22) C 34 d_MO_clearWatch_22 (by decide) (fun c22 => ?_) (fun c22 => ?_)
    · refine v_iconst (pc := 34) (v := 0) C d_MO_clearWatch_34 (by decide) ?_
      refine r_z (pc := 35) C d_MO_clearWatch_35 ?_ ?_
      · rfl
      exact Or.inl ⟨z, rfl⟩
    · exact absurd (by decide) c22
  have J14 : ¬ a < 0 → a < 32 → V x γ (0, 0) (QM x γ (PI γ (fun q v => ((a < 0 ∨ ¬ a < 32) ∧ v = sMI σ 0 1) ∨ (¬ a < 0 ∧ a < 32 ∧ ((σ.MF 3 a.toNatClampNeg = 0 ∧ q = 0 ∧ v = sMI σ 0 0) ∨ (¬ σ.MF 3 a.toNatClampNeg = 0 ∧ q = 1 ∧ v = sMF (sMI σ 0 0) 3 (upd (σ.MF 3) a.toNatClampNeg 0))))))) (enc γ σ) 14 [some (.ref (aU γ)), some (.int a)] [.ref (aU γ)] := by
    intro z1 z2
    refine v_iconst (pc := 14) (v := 0) C d_MO_clearWatch_14 (by decide) ?_
    refine pO_code (pc := 15) C hY d_MO_clearWatch_15 fl_MO_54 ?_
    refine v_aload_n (pc := 18) C d_MO_clearWatch_18 rfl ?_
    refine gO_code (pc := 19) C hY d_MO_clearWatch_19 fl_MO_54 ?_
    refine v_top (b := 0) sMI_I ?_
    refine v_if_gt (pc := 22) C 34 d_MO_clearWatch_22 (by decide) (fun c22 => ?_) (fun c22 => ?_)
    · exact absurd c22 (by decide)
    · refine v_aload_n (pc := 25) C d_MO_clearWatch_25 rfl ?_
      refine gO_watches (pc := 26) C hY d_MO_clearWatch_26 fl_MO_20 ?_
      refine v_iload_n (pc := 29) C d_MO_clearWatch_29 rfl ?_
      refine lO_watches (pc := 30) C hY d_MO_clearWatch_30 ?_ ?_
      · exact in_vp z1 z2 (by decide)
      refine v_if_ne (pc := 31) C 36 d_MO_clearWatch_31 (by decide) (fun c31 => ?_) (fun c31 => ?_)
      · refine v_aload_n (pc := 36) C d_MO_clearWatch_36 rfl ?_
        refine gO_watches (pc := 37) C hY d_MO_clearWatch_37 fl_MO_20 ?_
        refine v_iload_n (pc := 40) C d_MO_clearWatch_40 rfl ?_
        refine v_iconst (pc := 41) (v := 0) C d_MO_clearWatch_41 (by decide) ?_
        refine stO_watches (pc := 42) C hY d_MO_clearWatch_42 ?_ ?_
        · exact in_vp z1 z2 (by decide)
        refine v_iconst (pc := 43) (v := 1) C d_MO_clearWatch_43 (by decide) ?_
        refine r_z (pc := 44) C d_MO_clearWatch_44 ?_ ?_
        · rfl
        exact Or.inr ⟨z1, z2, Or.inr ⟨c31, rfl, rfl⟩⟩
      · refine v_iconst (pc := 34) (v := 0) C d_MO_clearWatch_34 (by decide) ?_
        refine r_z (pc := 35) C d_MO_clearWatch_35 ?_ ?_
        · rfl
        exact Or.inr ⟨z1, z2, Or.inl ⟨c31, rfl, rfl⟩⟩
  refine v_aload_n (pc := 0) C d_MO_clearWatch_0 rfl ?_
  refine v_iload_n (pc := 1) C d_MO_clearWatch_1 rfl ?_
  refine v_bipush (pc := 2) (v := 32) C d_MO_clearWatch_2 (by decide) ?_
  refine kk2i (pc := 4) C cb_MO_149 sm_MO_outside rk_MO_clearWatch_MO_outside d_MO_clearWatch_4 ⟨Nat.zero_le _, Nat.zero_le _⟩ (c_MO_outside x.l) (Nat.le_of_ble_eq_true rfl) (fun r4 σ4 h4 => ?_)
  obtain ⟨e4, w4⟩ := h4
  subst e4
  rw [w4]
  refine v_top (b := (if a < 0 ∨ ¬ a < 32 then (1 : Int32) else 0)) rfl ?_
  refine v_if_eq (pc := 7) C 14 d_MO_clearWatch_7 (by decide) (fun c7 => ?_) (fun c7 => ?_)
  · have z : ¬ (a < 0 ∨ ¬ a < 32) := fun q => by rw [if_pos q] at c7; exact absurd c7 (by decide)
    have z1 : ¬ a < 0 := fun q => z (Or.inl q)
    have z2 : a < 32 := Decidable.byContradiction (fun q => z (Or.inr q))
    exact J14 z1 z2
  · have z : a < 0 ∨ ¬ a < 32 := Decidable.byContradiction (fun q => c7 (if_neg q))
    exact J10 z
def stV (t r u c e : Nat) (s : SS) (n : Nat) : Int32 := match n with
  | 0 => nI t
  | 1 => nI r
  | 2 => s.p
  | 3 => s.f
  | 4 => s.x
  | 5 => s.k
  | 6 => s.h
  | 7 => nI c
  | 8 => nI u
  | 9 => nI (ev e)
  | _ => nI (r / ev e + 1)
theorem c_MO_state (l : Launch) {γ : GH} (hY : 146 ≤ γ.N) {cd ip : TF} {x0 : Int32} {g t r u c e : Nat} {σ : SGG} {a : Int32} (h : RD cd ip x0 g t r u c e σ) : Ct l y_MO_state b_MO_state 2 (some .int) rm_MO_state γ (enc γ σ) [.ref (aU γ), .int a] (PI γ (fun q v => ((a < 0 ∨ ¬ a < 11) ∧ v = sMI σ 0 1) ∨ (∃ n, n < 11 ∧ a = nI n ∧ q = stV t r u c e (tr cd ip x0 t) n ∧ v = sMI σ 0 0))) := by
  refine ct_of "ReplayMachineModel" (by decide) rfl rfl (Nat.le_of_ble_eq_true rfl) (fun x hl C => ?_)
  subst hl
  show V x γ (0, 0) _ _ 0 [some (.ref (aU γ)), some (.int a)] []
  refine v_aload_n (pc := 0) C d_MO_state_0 rfl ?_
  refine v_iconst (pc := 1) (v := 0) C d_MO_state_1 (by decide) ?_
  refine pO_code (pc := 2) C hY d_MO_state_2 fl_MO_54 ?_
  refine v_iload_n (pc := 5) C d_MO_state_5 rfl ?_
  skip
  rcases pk_ix a (n := 11) (by decide) with z | z | ⟨n, hn, rfl⟩
  · have zz : a.toInt < 0 ∨ 10 < a.toInt := Or.inl (Int32.lt_iff_toInt_lt.mp z)
    refine v_table (pc := 6) C 119 d_MO_state_6 rfl (by unfold tsw; rw [if_pos zz]; rfl) ?_
    refine v_aload_n (pc := 119) C d_MO_state_119 rfl ?_
    refine v_iconst (pc := 120) (v := 1) C d_MO_state_120 (by decide) ?_
    refine kU1i (pc := 121) C hY cb_MO_153 ⟨im_MO_fail, sl_MO_fail⟩ rfl rk_MO_state_MO_fail d_MO_state_121 ⟨Nat.zero_le _, Nat.zero_le _⟩ (c_MO_fail x.l hY) (Nat.le_of_ble_eq_true rfl) (fun r121 σ121 h121 => ?_)
    obtain ⟨e121, w121⟩ := h121
    rw [w121]
    refine v_w (σ2 := sMI σ 0 1) sMI_sMI ?_
    refine r_i (pc := 124) C d_MO_state_124 ?_
    exact Or.inl ⟨Or.inl z, rfl⟩
  · have zz : a.toInt < 0 ∨ 10 < a.toInt := Or.inr (Int.lt_of_lt_of_le (show (10 : Int) < (nI 11).toInt by decide) (Int32.le_iff_toInt_le.mp z))
    refine v_table (pc := 6) C 119 d_MO_state_6 rfl (by unfold tsw; rw [if_pos zz]; rfl) ?_
    refine v_aload_n (pc := 119) C d_MO_state_119 rfl ?_
    refine v_iconst (pc := 120) (v := 1) C d_MO_state_120 (by decide) ?_
    refine kU1i (pc := 121) C hY cb_MO_153 ⟨im_MO_fail, sl_MO_fail⟩ rfl rk_MO_state_MO_fail d_MO_state_121 ⟨Nat.zero_le _, Nat.zero_le _⟩ (c_MO_fail x.l hY) (Nat.le_of_ble_eq_true rfl) (fun r121 σ121 h121 => ?_)
    obtain ⟨e121, w121⟩ := h121
    rw [w121]
    refine v_w (σ2 := sMI σ 0 1) sMI_sMI ?_
    refine r_i (pc := 124) C d_MO_state_124 ?_
    exact Or.inl ⟨Or.inr (k2_nlt z), rfl⟩
  · rcases (by omega : n = 0 ∨ n = 1 ∨ n = 2 ∨ n = 3 ∨ n = 4 ∨ n = 5 ∨ n = 6 ∨ n = 7 ∨ n = 8 ∨ n = 9 ∨ n = 10) with rfl | rfl | rfl | rfl | rfl | rfl | rfl | rfl | rfl | rfl | rfl
    · refine v_table (pc := 6) C 64 d_MO_state_6 rfl (by decide) ?_
      refine v_aload_n (pc := 64) C d_MO_state_64 rfl ?_
      refine gO_time (pc := 65) C hY d_MO_state_65 fl_MO_63 ?_
      refine r_i (pc := 68) C d_MO_state_68 ?_
      exact Or.inr ⟨0, by decide, rfl, (sMI_In (by decide)).trans (rd_T h), rfl⟩
    · refine v_table (pc := 6) C 69 d_MO_state_6 rfl (by decide) ?_
      refine v_aload_n (pc := 69) C d_MO_state_69 rfl ?_
      refine gO_reached (pc := 70) C hY d_MO_state_70 fl_MO_57 ?_
      refine r_i (pc := 73) C d_MO_state_73 ?_
      exact Or.inr ⟨1, by decide, rfl, (sMI_In (by decide)).trans (h.2.2.1.1), rfl⟩
    · refine v_table (pc := 6) C 74 d_MO_state_6 rfl (by decide) ?_
      refine v_aload_n (pc := 74) C d_MO_state_74 rfl ?_
      refine gO_pc (pc := 75) C hY d_MO_state_75 fl_MO_66 ?_
      refine r_i (pc := 78) C d_MO_state_78 ?_
      exact Or.inr ⟨2, by decide, rfl, (sMI_In (by decide)).trans (mS_p h.2.1.2.2.2), rfl⟩
    · refine v_table (pc := 6) C 79 d_MO_state_6 rfl (by decide) ?_
      refine v_aload_n (pc := 79) C d_MO_state_79 rfl ?_
      refine gO_frame (pc := 80) C hY d_MO_state_80 fl_MO_69 ?_
      refine r_i (pc := 83) C d_MO_state_83 ?_
      exact Or.inr ⟨3, by decide, rfl, (sMI_In (by decide)).trans (mS_f h.2.1.2.2.2), rfl⟩
    · refine v_table (pc := 6) C 84 d_MO_state_6 rfl (by decide) ?_
      refine v_aload_n (pc := 84) C d_MO_state_84 rfl ?_
      refine gO_x (pc := 85) C hY d_MO_state_85 fl_MO_45 ?_
      refine r_i (pc := 88) C d_MO_state_88 ?_
      exact Or.inr ⟨4, by decide, rfl, (sMI_In (by decide)).trans (mS_x h.2.1.2.2.2), rfl⟩
    · refine v_table (pc := 6) C 89 d_MO_state_6 rfl (by decide) ?_
      refine v_aload_n (pc := 89) C d_MO_state_89 rfl ?_
      refine gO_taken (pc := 90) C hY d_MO_state_90 fl_MO_72 ?_
      refine r_i (pc := 93) C d_MO_state_93 ?_
      exact Or.inr ⟨5, by decide, rfl, (sMI_In (by decide)).trans (mS_k h.2.1.2.2.2), rfl⟩
    · refine v_table (pc := 6) C 94 d_MO_state_6 rfl (by decide) ?_
      refine v_aload_n (pc := 94) C d_MO_state_94 rfl ?_
      refine gO_height (pc := 95) C hY d_MO_state_95 fl_MO_75 ?_
      refine r_i (pc := 98) C d_MO_state_98 ?_
      exact Or.inr ⟨6, by decide, rfl, (sMI_In (by decide)).trans (mS_h h.2.1.2.2.2), rfl⟩
    · refine v_table (pc := 6) C 99 d_MO_state_6 rfl (by decide) ?_
      refine v_aload_n (pc := 99) C d_MO_state_99 rfl ?_
      refine gO_cost (pc := 100) C hY d_MO_state_100 fl_MO_128 ?_
      refine r_i (pc := 103) C d_MO_state_103 ?_
      exact Or.inr ⟨7, by decide, rfl, (sMI_In (by decide)).trans (h.2.2.1.2.2.1), rfl⟩
    · refine v_table (pc := 6) C 104 d_MO_state_6 rfl (by decide) ?_
      refine v_aload_n (pc := 104) C d_MO_state_104 rfl ?_
      refine gO_undo (pc := 105) C hY d_MO_state_105 fl_MO_122 ?_
      refine r_i (pc := 108) C d_MO_state_108 ?_
      exact Or.inr ⟨8, by decide, rfl, (sMI_In (by decide)).trans (h.2.2.1.2.1), rfl⟩
    · refine v_table (pc := 6) C 109 d_MO_state_6 rfl (by decide) ?_
      refine v_aload_n (pc := 109) C d_MO_state_109 rfl ?_
      refine gO_every (pc := 110) C hY d_MO_state_110 fl_MO_38 ?_
      refine r_i (pc := 113) C d_MO_state_113 ?_
      exact Or.inr ⟨9, by decide, rfl, (sMI_In (by decide)).trans (h.2.2.1.2.2.2.1), rfl⟩
    · refine v_table (pc := 6) C 114 d_MO_state_6 rfl (by decide) ?_
      refine v_aload_n (pc := 114) C d_MO_state_114 rfl ?_
      refine gO_kept (pc := 115) C hY d_MO_state_115 fl_MO_51 ?_
      refine r_i (pc := 118) C d_MO_state_118 ?_
      exact Or.inr ⟨10, by decide, rfl, (sMI_In (by decide)).trans (h.2.2.1.2.2.2.2), rfl⟩
