theorem c_MO_mark (l : Launch) {γ : GH} (hY : 146 ≤ γ.N) {σ : SGG} {k : Nat} (hk : k ≤ 12) (ht : σ.MI 2 = nI (250 * k)) : Ct l y_MO_mark b_MO_mark 3 none rm_MO_mark γ (enc γ σ) [.ref (aU γ)] (PV γ (fun v => ∃ f f2, v = sMF (sMF σ 7 f) 8 f2 ∧ (∀ j, j < 56 * k → f j = σ.MF 7 j) ∧ (∀ j, j < 5 * k → f2 j = σ.MF 8 j) ∧ Mk f f2 k (mS σ))) := by
  refine ct_of "ReplayMachineModel" (by decide) rfl rfl (Nat.le_of_ble_eq_true rfl) (fun x hl C => ?_)
  subst hl
  show V x γ (0, 0) _ _ 0 [some (.ref (aU γ)), none, none] []
  have T : ∀ f : TF, (∀ j, j < 56 * k → f j = σ.MF 7 j) → (∀ j, j < 32 → f (56 * k + j) = σ.MF 4 j) → (∀ j, j < 24 → f (56 * k + 32 + j) = σ.MF 5 j) → ∀ i : Nat, V x γ (0, 0) (QM x γ (PV γ (fun v => ∃ f f2, v = sMF (sMF σ 7 f) 8 f2 ∧ (∀ j, j < 56 * k → f j = σ.MF 7 j) ∧ (∀ j, j < 5 * k → f2 j = σ.MF 8 j) ∧ Mk f f2 k (mS σ)))) (enc γ (sMF σ 7 f)) 74 [some (.ref (aU γ)), some (.int (nI k)), some (.int (nI i))] [] := by
    intro f f1 f2 f3 i
    refine v_aload_n (pc := 74) C d_MO_mark_74 rfl ?_
    refine gO_markOthers (pc := 75) C hY d_MO_mark_75 fl_MO_35 ?_
    refine v_iconst (pc := 78) (v := 5) C d_MO_mark_78 (by decide) ?_
    refine v_iload_n (pc := 79) C d_MO_mark_79 rfl ?_
    refine v_imul (pc := 80) C d_MO_mark_80 ?_
    refine v_top (b := nI (5 * k)) (pk_mul 5 k) ?_
    refine v_aload_n (pc := 81) C d_MO_mark_81 rfl ?_
    refine gO_pc (pc := 82) C hY d_MO_mark_82 fl_MO_66 ?_
    refine stO_markOthersN (pc := 85) C hY d_MO_mark_85 ((by omega)) ?_
    refine v_w (σ2 := sMF (sMF σ 7 f) 8 (upd (σ.MF 8) (5 * k) (σ.MI 3))) (by first | (rw [sMF_F, sMF_sMF]; rfl) | (rw [sMF_Fn (k := 8) (j := 7) (by decide)]; rfl)) ?_
    refine v_aload_n (pc := 86) C d_MO_mark_86 rfl ?_
    refine gO_markOthers (pc := 87) C hY d_MO_mark_87 fl_MO_35 ?_
    refine v_iconst (pc := 90) (v := 5) C d_MO_mark_90 (by decide) ?_
    refine v_iload_n (pc := 91) C d_MO_mark_91 rfl ?_
    refine v_imul (pc := 92) C d_MO_mark_92 ?_
    refine v_iconst (pc := 93) (v := 1) C d_MO_mark_93 (by decide) ?_
    refine v_iadd (pc := 94) C d_MO_mark_94 ?_
    refine v_top (b := nI (5 * k + 1)) (mk_mul 5 k 1) ?_
    refine v_aload_n (pc := 95) C d_MO_mark_95 rfl ?_
    refine gO_frame (pc := 96) C hY d_MO_mark_96 fl_MO_69 ?_
    refine stO_markOthersN (pc := 99) C hY d_MO_mark_99 ((by omega)) ?_
    refine v_w (σ2 := sMF (sMF σ 7 f) 8 (upd (upd (σ.MF 8) (5 * k) (σ.MI 3)) (5 * k + 1) (σ.MI 4))) (by first | (rw [sMF_F, sMF_sMF]; rfl) | (rw [sMF_Fn (k := 8) (j := 7) (by decide)]; rfl)) ?_
    refine v_aload_n (pc := 100) C d_MO_mark_100 rfl ?_
    refine gO_markOthers (pc := 101) C hY d_MO_mark_101 fl_MO_35 ?_
    refine v_iconst (pc := 104) (v := 5) C d_MO_mark_104 (by decide) ?_
    refine v_iload_n (pc := 105) C d_MO_mark_105 rfl ?_
    refine v_imul (pc := 106) C d_MO_mark_106 ?_
    refine v_iconst (pc := 107) (v := 2) C d_MO_mark_107 (by decide) ?_
    refine v_iadd (pc := 108) C d_MO_mark_108 ?_
    refine v_top (b := nI (5 * k + 2)) (mk_mul 5 k 2) ?_
    refine v_aload_n (pc := 109) C d_MO_mark_109 rfl ?_
    refine gO_x (pc := 110) C hY d_MO_mark_110 fl_MO_45 ?_
    refine stO_markOthersN (pc := 113) C hY d_MO_mark_113 ((by omega)) ?_
    refine v_w (σ2 := sMF (sMF σ 7 f) 8 (upd (upd (upd (σ.MF 8) (5 * k) (σ.MI 3)) (5 * k + 1) (σ.MI 4)) (5 * k + 2) (σ.MI 5))) (by first | (rw [sMF_F, sMF_sMF]; rfl) | (rw [sMF_Fn (k := 8) (j := 7) (by decide)]; rfl)) ?_
    refine v_aload_n (pc := 114) C d_MO_mark_114 rfl ?_
    refine gO_markOthers (pc := 115) C hY d_MO_mark_115 fl_MO_35 ?_
    refine v_iconst (pc := 118) (v := 5) C d_MO_mark_118 (by decide) ?_
    refine v_iload_n (pc := 119) C d_MO_mark_119 rfl ?_
    refine v_imul (pc := 120) C d_MO_mark_120 ?_
    refine v_iconst (pc := 121) (v := 3) C d_MO_mark_121 (by decide) ?_
    refine v_iadd (pc := 122) C d_MO_mark_122 ?_
    refine v_top (b := nI (5 * k + 3)) (mk_mul 5 k 3) ?_
    refine v_aload_n (pc := 123) C d_MO_mark_123 rfl ?_
    refine gO_taken (pc := 124) C hY d_MO_mark_124 fl_MO_72 ?_
    refine stO_markOthersN (pc := 127) C hY d_MO_mark_127 ((by omega)) ?_
    refine v_w (σ2 := sMF (sMF σ 7 f) 8 (upd (upd (upd (upd (σ.MF 8) (5 * k) (σ.MI 3)) (5 * k + 1) (σ.MI 4)) (5 * k + 2) (σ.MI 5)) (5 * k + 3) (σ.MI 6))) (by first | (rw [sMF_F, sMF_sMF]; rfl) | (rw [sMF_Fn (k := 8) (j := 7) (by decide)]; rfl)) ?_
    refine v_aload_n (pc := 128) C d_MO_mark_128 rfl ?_
    refine gO_markOthers (pc := 129) C hY d_MO_mark_129 fl_MO_35 ?_
    refine v_iconst (pc := 132) (v := 5) C d_MO_mark_132 (by decide) ?_
    refine v_iload_n (pc := 133) C d_MO_mark_133 rfl ?_
    refine v_imul (pc := 134) C d_MO_mark_134 ?_
    refine v_iconst (pc := 135) (v := 4) C d_MO_mark_135 (by decide) ?_
    refine v_iadd (pc := 136) C d_MO_mark_136 ?_
    refine v_top (b := nI (5 * k + 4)) (mk_mul 5 k 4) ?_
    refine v_aload_n (pc := 137) C d_MO_mark_137 rfl ?_
    refine gO_height (pc := 138) C hY d_MO_mark_138 fl_MO_75 ?_
    refine stO_markOthersN (pc := 141) C hY d_MO_mark_141 ((by omega)) ?_
    refine v_w (σ2 := sMF (sMF σ 7 f) 8 (upd (upd (upd (upd (upd (σ.MF 8) (5 * k) (σ.MI 3)) (5 * k + 1) (σ.MI 4)) (5 * k + 2) (σ.MI 5)) (5 * k + 3) (σ.MI 6)) (5 * k + 4) (σ.MI 7))) (by first | (rw [sMF_F, sMF_sMF]; rfl) | (rw [sMF_Fn (k := 8) (j := 7) (by decide)]; rfl)) ?_
    refine r_v (pc := 142) C d_MO_mark_142 ?_
    refine ⟨f, _, rfl, f1, fun j hj => ?_, f2, f3, ?_, ?_, ?_, ?_, ?_⟩
    · rw [pk_un (by omega), pk_un (by omega), pk_un (by omega), pk_un (by omega), pk_un (by omega)]
    · rw [pk_un (by omega), pk_un (by omega), pk_un (by omega), pk_un (by omega), pk_us]; rfl
    · rw [pk_un (by omega), pk_un (by omega), pk_un (by omega), pk_us]; rfl
    · rw [pk_un (by omega), pk_un (by omega), pk_us]; rfl
    · rw [pk_un (by omega), pk_us]; rfl
    · rw [pk_us]; rfl
  have L2 : ∀ i, i ≤ 24 → (∀ f : TF, (∀ j, j < 56 * k → f j = σ.MF 7 j) ∧ (∀ j, j < 32 → f (56 * k + j) = σ.MF 4 j) ∧ (∀ j, j < i → f (56 * k + 32 + j) = σ.MF 5 j) → V x γ (0, 0) (QM x γ (PV γ (fun v => ∃ f f2, v = sMF (sMF σ 7 f) 8 f2 ∧ (∀ j, j < 56 * k → f j = σ.MF 7 j) ∧ (∀ j, j < 5 * k → f2 j = σ.MF 8 j) ∧ Mk f f2 k (mS σ)))) (enc γ (sMF σ 7 f)) 42 [some (.ref (aU γ)), some (.int (nI k)), some (.int (nI i))] []) := by
    refine up_loop _ 24 (fun i hi ih f hinv => ?_)
    obtain ⟨f1, f2, f3⟩ := hinv
    refine v_iload_n (pc := 42) C d_MO_mark_42 rfl ?_
    refine v_bipush (pc := 43) (v := 24) C d_MO_mark_43 (by decide) ?_
    refine v_icmp_ge (pc := 45) C 74 d_MO_mark_45 (by decide) (fun c45 => ?_) (fun c45 => ?_)
    · have z := (nI_leI (a := 24) (by decide) (by omega)).mp c45
      exact T f f1 f2 (fun j hj => f3 j (by omega)) i
    · have z : i < 24 := nn_lt (b := 24) (by omega) c45
      refine v_aload_n (pc := 48) C d_MO_mark_48 rfl ?_
      refine gO_markWords (pc := 49) C hY d_MO_mark_49 fl_MO_32 ?_
      refine v_bipush (pc := 52) (v := 56) C d_MO_mark_52 (by decide) ?_
      refine v_iload_n (pc := 54) C d_MO_mark_54 rfl ?_
      refine v_imul (pc := 55) C d_MO_mark_55 ?_
      refine v_bipush (pc := 56) (v := 32) C d_MO_mark_56 (by decide) ?_
      refine v_iadd (pc := 58) C d_MO_mark_58 ?_
      refine v_iload_n (pc := 59) C d_MO_mark_59 rfl ?_
      refine v_iadd (pc := 60) C d_MO_mark_60 ?_
      refine v_top (b := nI (56 * k + 32 + i)) (by show nI 56 * nI k + nI 32 + nI i = _; rw [mk_mul, nI_add]) ?_
      refine v_aload_n (pc := 61) C d_MO_mark_61 rfl ?_
      refine gO_stack (pc := 62) C hY d_MO_mark_62 fl_MO_26 ?_
      refine v_iload_n (pc := 65) C d_MO_mark_65 rfl ?_
      refine lO_stackN (pc := 66) C hY d_MO_mark_66 (z) ?_
      refine stO_markWordsN (pc := 67) C hY d_MO_mark_67 ((by omega)) ?_
      refine v_w (σ2 := sMF σ 7 (upd f (56 * k + 32 + i) (σ.MF 5 i))) (by rw [sMF_F, sMF_sMF, sMF_Fn (by decide)]) ?_
      refine v_iinc (pc := 68) C d_MO_mark_68 rfl (nI_1' i) ?_
      refine v_goto (pc := 71) C 42 d_MO_mark_71 (by decide) ?_
      refine ih z _ ⟨fun j hj => ?_, fun j hj => ?_, fun j hj => ?_⟩
      · rw [pk_un (by omega)]; exact f1 j hj
      · rw [pk_un (by omega)]; exact f2 j hj
      · by_cases q : j = i
        · rw [q, pk_us]
        · rw [pk_un (by omega)]; exact f3 j (by omega)
  have L1 : ∀ i, i ≤ 32 → (∀ f : TF, (∀ j, j < 56 * k → f j = σ.MF 7 j) ∧ (∀ j, j < i → f (56 * k + j) = σ.MF 4 j) → V x γ (0, 0) (QM x γ (PV γ (fun v => ∃ f f2, v = sMF (sMF σ 7 f) 8 f2 ∧ (∀ j, j < 56 * k → f j = σ.MF 7 j) ∧ (∀ j, j < 5 * k → f2 j = σ.MF 8 j) ∧ Mk f f2 k (mS σ)))) (enc γ (sMF σ 7 f)) 11 [some (.ref (aU γ)), some (.int (nI k)), some (.int (nI i))] []) := by
    refine up_loop _ 32 (fun i hi ih f hinv => ?_)
    obtain ⟨f1, f2⟩ := hinv
    refine v_iload_n (pc := 11) C d_MO_mark_11 rfl ?_
    refine v_bipush (pc := 12) (v := 32) C d_MO_mark_12 (by decide) ?_
    refine v_icmp_ge (pc := 14) C 40 d_MO_mark_14 (by decide) (fun c14 => ?_) (fun c14 => ?_)
    · have z := (nI_leI (a := 32) (by decide) (by omega)).mp c14
      refine v_iconst (pc := 40) (v := 0) C d_MO_mark_40 (by decide) ?_
      refine v_istore_n (pc := 41) C d_MO_mark_41 (Nat.le_of_ble_eq_true rfl) ?_
      exact L2 0 (by decide) f ⟨f1, fun j hj => f2 j (by omega), fun j hj => absurd hj (Nat.not_lt_zero j)⟩
    · have z : i < 32 := nn_lt (b := 32) (by omega) c14
      refine v_aload_n (pc := 17) C d_MO_mark_17 rfl ?_
      refine gO_markWords (pc := 18) C hY d_MO_mark_18 fl_MO_32 ?_
      refine v_bipush (pc := 21) (v := 56) C d_MO_mark_21 (by decide) ?_
      refine v_iload_n (pc := 23) C d_MO_mark_23 rfl ?_
      refine v_imul (pc := 24) C d_MO_mark_24 ?_
      refine v_iload_n (pc := 25) C d_MO_mark_25 rfl ?_
      refine v_iadd (pc := 26) C d_MO_mark_26 ?_
      refine v_top (b := nI (56 * k + i)) (mk_mul 56 k i) ?_
      refine v_aload_n (pc := 27) C d_MO_mark_27 rfl ?_
      refine gO_cells (pc := 28) C hY d_MO_mark_28 fl_MO_23 ?_
      refine v_iload_n (pc := 31) C d_MO_mark_31 rfl ?_
      refine lO_cellsN (pc := 32) C hY d_MO_mark_32 (z) ?_
      refine stO_markWordsN (pc := 33) C hY d_MO_mark_33 ((by omega)) ?_
      refine v_w (σ2 := sMF σ 7 (upd f (56 * k + i) (σ.MF 4 i))) (by rw [sMF_F, sMF_sMF, sMF_Fn (by decide)]) ?_
      refine v_iinc (pc := 34) C d_MO_mark_34 rfl (nI_1' i) ?_
      refine v_goto (pc := 37) C 11 d_MO_mark_37 (by decide) ?_
      refine ih z _ ⟨fun j hj => ?_, fun j hj => ?_⟩
      · rw [pk_un (by omega)]; exact f1 j hj
      · by_cases q : j = i
        · rw [q, pk_us]
        · rw [pk_un (by omega)]; exact f2 j (by omega)
  refine v_aload_n (pc := 0) C d_MO_mark_0 rfl ?_
  refine gO_time (pc := 1) C hY d_MO_mark_1 fl_MO_63 ?_
  refine v_top (b := nI (250 * k)) ht ?_
  refine v_sipush (pc := 4) (v := 250) C d_MO_mark_4 (by decide) ?_
  refine v_idiv (pc := 7) C d_MO_mark_7 ?_ ?_
  · decide
  refine v_top (b := nI k) (by show nI (250 * k) / nI 250 = _; rw [pk_div (by omega) (by decide) (by decide), Nat.mul_div_cancel_left k (by decide)]) ?_
  refine v_istore_n (pc := 8) C d_MO_mark_8 (Nat.le_of_ble_eq_true rfl) ?_
  refine v_iconst (pc := 9) (v := 0) C d_MO_mark_9 (by decide) ?_
  refine v_istore_n (pc := 10) C d_MO_mark_10 (Nat.le_of_ble_eq_true rfl) ?_
  refine v_w (σ2 := sMF σ 7 (σ.MF 7)) (sMF_same rfl).symm ?_
  exact L1 0 (by decide) _ ⟨fun j hj => rfl, fun j hj => absurd hj (Nat.not_lt_zero j)⟩
theorem seek_w (σ : SGG) (s : SS) : sMI (sMI (sMI (sMI (sMI (sMI (sMF (sMF σ 4 s.c) 5 s.s) 3 s.p) 4 s.f) 5 s.x) 6 s.k) 7 s.h) 2 s.t = mM σ s := by
  show (σ.1, (va_up (va_up (va_up (va_up (va_up (va_up σ.MI 3 s.p) 4 s.f) 5 s.x) 6 s.k) 7 s.h) 2 s.t, va_up (va_up σ.MF 4 s.c) 5 s.s), σ.O) = (σ.1, (mMI σ s, mMF σ s), σ.O)
  have e1 : va_up (va_up (va_up (va_up (va_up (va_up σ.MI 3 s.p) 4 s.f) 5 s.x) 6 s.k) 7 s.h) 2 s.t = mMI σ s := by
    funext j
    unfold va_up mMI
    by_cases h2 : j = 2
    · subst h2; rfl
    · by_cases h7 : j = 7
      · subst h7; rfl
      · by_cases h6 : j = 6
        · subst h6; rfl
        · by_cases h5 : j = 5
          · subst h5; rfl
          · by_cases h4 : j = 4
            · subst h4; rfl
            · by_cases h3 : j = 3
              · subst h3; rfl
              · simp [h2, h3, h4, h5, h6, h7]
  have e2 : va_up (va_up σ.MF 4 s.c) 5 s.s = mMF σ s := by
    funext j
    unfold va_up mMF
    by_cases h4 : j = 4
    · subst h4; rfl
    · by_cases h5 : j = 5
      · subst h5; rfl
      · simp [h4, h5]
  rw [e1, e2]
theorem c_MO_seek (l : Launch) {γ : GH} (hY : 146 ≤ γ.N) {cd ip : TF} {x0 : Int32} {g t r u c e : Nat} {σ : SGG} {v : Nat} (h : RD cd ip x0 g t r u c e σ) (hv : v ≤ r) : Ct l y_MO_seek b_MO_seek 4 none rm_MO_seek γ (enc γ σ) [.ref (aU γ), .int (nI v)] (PV γ (fun w => RD cd ip x0 g v r u c e w ∧ frm σ w ∧ w.MF 6 = σ.MF 6)) := by
  refine ct_of "ReplayMachineModel" (by decide) rfl rfl (Nat.le_of_ble_eq_true rfl) (fun x hl C => ?_)
  subst hl
  show V x γ (0, 0) _ _ 0 [some (.ref (aU γ)), some (.int (nI v)), none, none] []
  obtain ⟨⟨b1, b2, b3, b4, b5, b6, b7⟩, ⟨m1, m2, m3, m4⟩, hn, hq, hm⟩ := id h
  have LP : ∀ (o1 o2 : Option Value), ∀ q, q ≤ v → (∀ w, RD cd ip x0 g q r u c e w → frm σ w → w.MF 6 = σ.MF 6 → V x γ (0, 0) (QM x γ (PV γ (fun w => RD cd ip x0 g v r u c e w ∧ frm σ w ∧ w.MF 6 = σ.MF 6))) (enc γ w) 156 [some (.ref (aU γ)), some (.int (nI v)), o1, o2] []) := by
    intro o1 o2
    refine up_loop _ v (fun q hq ih w hR hf hw6 => ?_)
    obtain ⟨⟨a, a1, a2⟩, ⟨b, b1, b2⟩, -⟩ := tr_wf b1 b4 q (by omega)
    have hw := hR.2.1
    refine v_aload_n (pc := 156) C d_MO_seek_156 rfl ?_
    refine gO_time (pc := 157) C hY d_MO_seek_157 fl_MO_63 ?_
    refine v_top (b := nI q) (rd_T hR) ?_
    refine v_iload_n (pc := 160) C d_MO_seek_160 rfl ?_
    refine v_icmp_ge (pc := 161) C 171 d_MO_seek_161 (by decide) (fun c161 => ?_) (fun c161 => ?_)
    · have z := (nI_leI (by omega) (by omega)).mp c161
      refine r_v (pc := 171) C d_MO_seek_171 ?_
      obtain rfl : q = v := by omega
      exact ⟨hR, hf, hw6⟩
    · have z : q < v := nn_lt (by omega) c161
      refine v_w (σ2 := mM w (tr cd ip x0 q)) (mM_of hw.2.2.2) ?_
      refine v_aload_n (pc := 164) C d_MO_seek_164 rfl ?_
      refine kU0v (pc := 165) C hY cb_MO_78 ⟨im_MO_perform, sl_MO_perform⟩ rfl rk_MO_seek_MO_perform d_MO_seek_165 ⟨Nat.zero_le _, Nat.zero_le _⟩ (c_MO_perform x.l hY a2 a1 b2 hw.2.2.1 b1 hR.1.1 (by rw [hw.1, hw.2.2.1]; exact b4 q (by omega))) (Nat.le_of_ble_eq_true rfl) (fun σ165 h165 => ?_)
      rw [hw.1, hw.2.1] at h165
      subst h165
      refine v_goto (pc := 168) C 156 d_MO_seek_168 (by decide) ?_
      exact ih z _ (rd_mM (q := q + 1) hR (by omega)) (hf.trans frm_mM) hw6
  have T : ∀ k : Nat, 250 * k ≤ v → ∀ i : Nat, V x γ (0, 0) (QM x γ (PV γ (fun w => RD cd ip x0 g v r u c e w ∧ frm σ w ∧ w.MF 6 = σ.MF 6))) (enc γ (sMF (sMF σ 4 (tr cd ip x0 (250 * k)).c) 5 (tr cd ip x0 (250 * k)).s)) 79 [some (.ref (aU γ)), some (.int (nI v)), some (.int (nI k)), some (.int (nI i))] [] := by
    intro k hk i
    obtain ⟨a1, a2, a3, a4, a5, a6, a7⟩ := hm k (by omega)
    have hTk := (tr_wf b1 b4 (250 * k) (by omega)).2.2
    refine v_aload_n (pc := 79) C d_MO_seek_79 rfl ?_
    refine v_aload_n (pc := 80) C d_MO_seek_80 rfl ?_
    refine gO_markOthers (pc := 81) C hY d_MO_seek_81 fl_MO_35 ?_
    refine v_iconst (pc := 84) (v := 5) C d_MO_seek_84 (by decide) ?_
    refine v_iload_n (pc := 85) C d_MO_seek_85 rfl ?_
    refine v_imul (pc := 86) C d_MO_seek_86 ?_
    refine v_top (b := nI (5 * k)) (pk_mul 5 k) ?_
    refine lO_markOthersN (pc := 87) C hY d_MO_seek_87 ((by omega)) ?_
    refine v_top (b := (tr cd ip x0 (250 * k)).p) (show (sMF (sMF σ 4 (tr cd ip x0 (250 * k)).c) 5 (tr cd ip x0 (250 * k)).s).MF 8 (5 * k) = _ by rw [sMF_Fn (by decide), sMF_Fn (by decide)]; exact a3) ?_
    refine pO_pc (pc := 88) C hY d_MO_seek_88 fl_MO_66 ?_
    refine v_aload_n (pc := 91) C d_MO_seek_91 rfl ?_
    refine v_aload_n (pc := 92) C d_MO_seek_92 rfl ?_
    refine gO_markOthers (pc := 93) C hY d_MO_seek_93 fl_MO_35 ?_
    refine v_iconst (pc := 96) (v := 5) C d_MO_seek_96 (by decide) ?_
    refine v_iload_n (pc := 97) C d_MO_seek_97 rfl ?_
    refine v_imul (pc := 98) C d_MO_seek_98 ?_
    refine v_iconst (pc := 99) (v := 1) C d_MO_seek_99 (by decide) ?_
    refine v_iadd (pc := 100) C d_MO_seek_100 ?_
    refine v_top (b := nI (5 * k + 1)) (mk_mul 5 k 1) ?_
    refine lO_markOthersN (pc := 101) C hY d_MO_seek_101 ((by omega)) ?_
    refine v_top (b := (tr cd ip x0 (250 * k)).f) (show (sMF (sMF σ 4 (tr cd ip x0 (250 * k)).c) 5 (tr cd ip x0 (250 * k)).s).MF 8 (5 * k + 1) = _ by rw [sMF_Fn (by decide), sMF_Fn (by decide)]; exact a4) ?_
    refine pO_frame (pc := 102) C hY d_MO_seek_102 fl_MO_69 ?_
    refine v_aload_n (pc := 105) C d_MO_seek_105 rfl ?_
    refine v_aload_n (pc := 106) C d_MO_seek_106 rfl ?_
    refine gO_markOthers (pc := 107) C hY d_MO_seek_107 fl_MO_35 ?_
    refine v_iconst (pc := 110) (v := 5) C d_MO_seek_110 (by decide) ?_
    refine v_iload_n (pc := 111) C d_MO_seek_111 rfl ?_
    refine v_imul (pc := 112) C d_MO_seek_112 ?_
    refine v_iconst (pc := 113) (v := 2) C d_MO_seek_113 (by decide) ?_
    refine v_iadd (pc := 114) C d_MO_seek_114 ?_
    refine v_top (b := nI (5 * k + 2)) (mk_mul 5 k 2) ?_
    refine lO_markOthersN (pc := 115) C hY d_MO_seek_115 ((by omega)) ?_
    refine v_top (b := (tr cd ip x0 (250 * k)).x) (show (sMF (sMF σ 4 (tr cd ip x0 (250 * k)).c) 5 (tr cd ip x0 (250 * k)).s).MF 8 (5 * k + 2) = _ by rw [sMF_Fn (by decide), sMF_Fn (by decide)]; exact a5) ?_
    refine pO_x (pc := 116) C hY d_MO_seek_116 fl_MO_45 ?_
    refine v_aload_n (pc := 119) C d_MO_seek_119 rfl ?_
    refine v_aload_n (pc := 120) C d_MO_seek_120 rfl ?_
    refine gO_markOthers (pc := 121) C hY d_MO_seek_121 fl_MO_35 ?_
    refine v_iconst (pc := 124) (v := 5) C d_MO_seek_124 (by decide) ?_
    refine v_iload_n (pc := 125) C d_MO_seek_125 rfl ?_
    refine v_imul (pc := 126) C d_MO_seek_126 ?_
    refine v_iconst (pc := 127) (v := 3) C d_MO_seek_127 (by decide) ?_
    refine v_iadd (pc := 128) C d_MO_seek_128 ?_
    refine v_top (b := nI (5 * k + 3)) (mk_mul 5 k 3) ?_
    refine lO_markOthersN (pc := 129) C hY d_MO_seek_129 ((by omega)) ?_
    refine v_top (b := (tr cd ip x0 (250 * k)).k) (show (sMF (sMF σ 4 (tr cd ip x0 (250 * k)).c) 5 (tr cd ip x0 (250 * k)).s).MF 8 (5 * k + 3) = _ by rw [sMF_Fn (by decide), sMF_Fn (by decide)]; exact a6) ?_
    refine pO_taken (pc := 130) C hY d_MO_seek_130 fl_MO_72 ?_
    refine v_aload_n (pc := 133) C d_MO_seek_133 rfl ?_
    refine v_aload_n (pc := 134) C d_MO_seek_134 rfl ?_
    refine gO_markOthers (pc := 135) C hY d_MO_seek_135 fl_MO_35 ?_
    refine v_iconst (pc := 138) (v := 5) C d_MO_seek_138 (by decide) ?_
    refine v_iload_n (pc := 139) C d_MO_seek_139 rfl ?_
    refine v_imul (pc := 140) C d_MO_seek_140 ?_
    refine v_iconst (pc := 141) (v := 4) C d_MO_seek_141 (by decide) ?_
    refine v_iadd (pc := 142) C d_MO_seek_142 ?_
    refine v_top (b := nI (5 * k + 4)) (mk_mul 5 k 4) ?_
    refine lO_markOthersN (pc := 143) C hY d_MO_seek_143 ((by omega)) ?_
    refine v_top (b := (tr cd ip x0 (250 * k)).h) (show (sMF (sMF σ 4 (tr cd ip x0 (250 * k)).c) 5 (tr cd ip x0 (250 * k)).s).MF 8 (5 * k + 4) = _ by rw [sMF_Fn (by decide), sMF_Fn (by decide)]; exact a7) ?_
    refine pO_height (pc := 144) C hY d_MO_seek_144 fl_MO_75 ?_
    refine v_aload_n (pc := 147) C d_MO_seek_147 rfl ?_
    refine v_sipush (pc := 148) (v := 250) C d_MO_seek_148 (by decide) ?_
    refine v_iload_n (pc := 151) C d_MO_seek_151 rfl ?_
    refine v_imul (pc := 152) C d_MO_seek_152 ?_
    refine v_top (b := (tr cd ip x0 (250 * k)).t) (by rw [hTk]; exact pk_mul 250 k) ?_
    refine pO_time (pc := 153) C hY d_MO_seek_153 fl_MO_63 ?_
    refine v_w (σ2 := mM σ (tr cd ip x0 (250 * k))) (seek_w σ (tr cd ip x0 (250 * k))) ?_
    exact LP _ _ (250 * k) hk _ (rd_mM h (by omega)) frm_mM rfl
  have L2 : ∀ k : Nat, 250 * k ≤ v → ∀ i, i ≤ 24 → (∀ f : TF, (∀ j, j < i → f j = (tr cd ip x0 (250 * k)).s j) → V x γ (0, 0) (QM x γ (PV γ (fun w => RD cd ip x0 g v r u c e w ∧ frm σ w ∧ w.MF 6 = σ.MF 6))) (enc γ (sMF (sMF σ 4 (tr cd ip x0 (250 * k)).c) 5 f)) 47 [some (.ref (aU γ)), some (.int (nI v)), some (.int (nI k)), some (.int (nI i))] []) := by
    intro k hk
    refine up_loop _ 24 (fun i hi ih f hinv => ?_)
    obtain ⟨a1, a2, a3, a4, a5, a6, a7⟩ := hm k (by omega)
    refine v_iload_n (pc := 47) C d_MO_seek_47 rfl ?_
    refine v_bipush (pc := 48) (v := 24) C d_MO_seek_48 (by decide) ?_
    refine v_icmp_ge (pc := 50) C 79 d_MO_seek_50 (by decide) (fun c50 => ?_) (fun c50 => ?_)
    · have z := (nI_leI (a := 24) (by decide) (by omega)).mp c50
      refine v_arrG (k := 5) (f := (tr cd ip x0 (250 * k)).s) (by decide) (fun j hj => by rw [sMF_F]; exact hinv j (Nat.lt_of_lt_of_le hj z)) ?_
      refine v_w (σ2 := sMF (sMF σ 4 (tr cd ip x0 (250 * k)).c) 5 (tr cd ip x0 (250 * k)).s) sMF_sMF ?_
      exact T k hk i
    · have z : i < 24 := nn_lt (b := 24) (by omega) c50
      refine v_aload_n (pc := 53) C d_MO_seek_53 rfl ?_
      refine gO_stack (pc := 54) C hY d_MO_seek_54 fl_MO_26 ?_
      refine v_iload_n (pc := 57) C d_MO_seek_57 rfl ?_
      refine v_aload_n (pc := 58) C d_MO_seek_58 rfl ?_
      refine gO_markWords (pc := 59) C hY d_MO_seek_59 fl_MO_32 ?_
      refine v_bipush (pc := 62) (v := 56) C d_MO_seek_62 (by decide) ?_
      refine v_iload_n (pc := 64) C d_MO_seek_64 rfl ?_
      refine v_imul (pc := 65) C d_MO_seek_65 ?_
      refine v_bipush (pc := 66) (v := 32) C d_MO_seek_66 (by decide) ?_
      refine v_iadd (pc := 68) C d_MO_seek_68 ?_
      refine v_iload_n (pc := 69) C d_MO_seek_69 rfl ?_
      refine v_iadd (pc := 70) C d_MO_seek_70 ?_
      refine v_top (b := nI (56 * k + 32 + i)) (by show nI 56 * nI k + nI 32 + nI i = _; rw [mk_mul, nI_add]) ?_
      refine lO_markWordsN (pc := 71) C hY d_MO_seek_71 ((by omega)) ?_
      refine v_top (b := (tr cd ip x0 (250 * k)).s i) (by rw [sMF_Fn (by decide), sMF_Fn (by decide)]; exact a2 i z) ?_
      refine stO_stackN (pc := 72) C hY d_MO_seek_72 (z) ?_
      refine v_w (σ2 := sMF (sMF σ 4 (tr cd ip x0 (250 * k)).c) 5 (upd f i ((tr cd ip x0 (250 * k)).s i))) (by rw [sMF_F, sMF_sMF]) ?_
      refine v_iinc (pc := 73) C d_MO_seek_73 rfl (nI_1' i) ?_
      refine v_goto (pc := 76) C 47 d_MO_seek_76 (by decide) ?_
      refine ih z _ (fun j hj => ?_)
      by_cases q : j = i
      · rw [q, pk_us]
      · rw [pk_un q]; exact hinv j (by omega)
  have L1 : ∀ k : Nat, 250 * k ≤ v → ∀ i, i ≤ 32 → (∀ f : TF, (∀ j, j < i → f j = (tr cd ip x0 (250 * k)).c j) → V x γ (0, 0) (QM x γ (PV γ (fun w => RD cd ip x0 g v r u c e w ∧ frm σ w ∧ w.MF 6 = σ.MF 6))) (enc γ (sMF σ 4 f)) 16 [some (.ref (aU γ)), some (.int (nI v)), some (.int (nI k)), some (.int (nI i))] []) := by
    intro k hk
    refine up_loop _ 32 (fun i hi ih f hinv => ?_)
    obtain ⟨a1, a2, a3, a4, a5, a6, a7⟩ := hm k (by omega)
    refine v_iload_n (pc := 16) C d_MO_seek_16 rfl ?_
    refine v_bipush (pc := 17) (v := 32) C d_MO_seek_17 (by decide) ?_
    refine v_icmp_ge (pc := 19) C 45 d_MO_seek_19 (by decide) (fun c19 => ?_) (fun c19 => ?_)
    · have z := (nI_leI (a := 32) (by decide) (by omega)).mp c19
      refine v_arrG (k := 4) (f := (tr cd ip x0 (250 * k)).c) (by decide) (fun j hj => by rw [sMF_F]; exact hinv j (Nat.lt_of_lt_of_le hj z)) ?_
      refine v_w (σ2 := sMF σ 4 (tr cd ip x0 (250 * k)).c) sMF_sMF ?_
      refine v_iconst (pc := 45) (v := 0) C d_MO_seek_45 (by decide) ?_
      refine v_istore_n (pc := 46) C d_MO_seek_46 (Nat.le_of_ble_eq_true rfl) ?_
      refine v_w (σ2 := sMF (sMF σ 4 (tr cd ip x0 (250 * k)).c) 5 (σ.MF 5)) (sMF_same (sMF_Fn (by decide))).symm ?_
      exact L2 k hk 0 (by decide) _ (fun j hj => absurd hj (Nat.not_lt_zero j))
    · have z : i < 32 := nn_lt (b := 32) (by omega) c19
      refine v_aload_n (pc := 22) C d_MO_seek_22 rfl ?_
      refine gO_cells (pc := 23) C hY d_MO_seek_23 fl_MO_23 ?_
      refine v_iload_n (pc := 26) C d_MO_seek_26 rfl ?_
      refine v_aload_n (pc := 27) C d_MO_seek_27 rfl ?_
      refine gO_markWords (pc := 28) C hY d_MO_seek_28 fl_MO_32 ?_
      refine v_bipush (pc := 31) (v := 56) C d_MO_seek_31 (by decide) ?_
      refine v_iload_n (pc := 33) C d_MO_seek_33 rfl ?_
      refine v_imul (pc := 34) C d_MO_seek_34 ?_
      refine v_iload_n (pc := 35) C d_MO_seek_35 rfl ?_
      refine v_iadd (pc := 36) C d_MO_seek_36 ?_
      refine v_top (b := nI (56 * k + i)) (mk_mul 56 k i) ?_
      refine lO_markWordsN (pc := 37) C hY d_MO_seek_37 ((by omega)) ?_
      refine v_top (b := (tr cd ip x0 (250 * k)).c i) (by rw [sMF_Fn (by decide)]; exact a1 i z) ?_
      refine stO_cellsN (pc := 38) C hY d_MO_seek_38 (z) ?_
      refine v_w (σ2 := sMF σ 4 (upd f i ((tr cd ip x0 (250 * k)).c i))) (by rw [sMF_F, sMF_sMF]) ?_
      refine v_iinc (pc := 39) C d_MO_seek_39 rfl (nI_1' i) ?_
      refine v_goto (pc := 42) C 16 d_MO_seek_42 (by decide) ?_
      refine ih z _ (fun j hj => ?_)
      by_cases q : j = i
      · rw [q, pk_us]
      · rw [pk_un q]; exact hinv j (by omega)
  refine v_iload_n (pc := 0) C d_MO_seek_0 rfl ?_
  refine v_aload_n (pc := 1) C d_MO_seek_1 rfl ?_
  refine gO_time (pc := 2) C hY d_MO_seek_2 fl_MO_63 ?_
  refine v_top (b := nI t) (rd_T h) ?_
  refine v_icmp_ge (pc := 5) C 156 d_MO_seek_5 (by decide) (fun c5 => ?_) (fun c5 => ?_)
  · have z := (nI_leI (by omega) (by omega)).mp c5
    exact LP _ _ t z σ h (frm.refl σ) rfl
  · have z : v < t := nn_lt (by omega) c5
    refine v_iload_n (pc := 8) C d_MO_seek_8 rfl ?_
    refine v_sipush (pc := 9) (v := 250) C d_MO_seek_9 (by decide) ?_
    refine v_idiv (pc := 12) C d_MO_seek_12 ?_ ?_
    · decide
    refine v_top (b := nI (v / 250)) (pk_div (d := 250) (by omega) (by decide) (by decide)) ?_
    refine v_istore_n (pc := 13) C d_MO_seek_13 (Nat.le_of_ble_eq_true rfl) ?_
    refine v_iconst (pc := 14) (v := 0) C d_MO_seek_14 (by decide) ?_
    refine v_istore_n (pc := 15) C d_MO_seek_15 (Nat.le_of_ble_eq_true rfl) ?_
    refine v_w (σ2 := sMF σ 4 (σ.MF 4)) (sMF_same rfl).symm ?_
    exact L1 (v / 250) (by omega) 0 (by decide) _ (fun j hj => absurd hj (Nat.not_lt_zero j))
