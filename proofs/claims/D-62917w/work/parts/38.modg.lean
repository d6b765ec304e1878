theorem c_MO_grow (l : Launch) {γ : GH} (hY : 146 ≤ γ.N) {cd ip : TF} {x0 : Int32} {g r u c e : Nat} {σ : SGG} (hb : Bd cd ip x0 g r r u e) (hc : chk cd (nI g) (tr cd ip x0 r) = 0) (h3k : r < 3000) (hm : Mg cd ip x0 g (r + 1) σ) (hn : Mn r u c e σ) (hq : Mq r e σ) (hk : Mm cd ip x0 r σ) : Ct l y_MO_grow b_MO_grow 2 none rm_MO_grow γ (enc γ σ) [.ref (aU γ)] (PV γ (fun v => RD cd ip x0 g (r + 1) (r + 1) u c (eN r r e) v ∧ frm σ v ∧ v.MF 6 = σ.MF 6)) := by
  refine ct_of "ReplayMachineModel" (by decide) rfl rfl (Nat.le_of_ble_eq_true rfl) (fun x hl C => ?_)
  subst hl
  show V x γ (0, 0) _ _ 0 [some (.ref (aU γ)), none] []
  obtain ⟨b1, b2, b3, b4, b5, b6, b7⟩ := id hb
  obtain ⟨k1, k2, k3, k4, k5⟩ := id hn
  have hE := ev_le b6
  have hE0 := ev_pos e
  have z8 : r / ev e < 8 := Nat.div_lt_of_lt_mul (Nat.mul_comm 8 _ ▸ b7)
  have hrun2 : RunOk cd ip x0 g (r + 1) := b4.snoc hc
  have hTt := (tr_wf b1 hrun2 (r + 1) (Nat.le_refl _)).2.2
  have hT : σ.MI 2 = nI (r + 1) := (mS_t hm.2.2.2).trans hTt
  have L : ∀ w, (r + 1) % ev e = 0 → r / ev e + 1 = 8 → GJ cd ip x0 g r u c e σ w → ∀ k, k ≤ 9 → (∀ f : TF, (∀ m, m < (k + 1) / 2 → f m = nI (m * (2 * ev e))) ∧ (∀ m, k ≤ m → m < 9 → f m = nI (m * ev e)) → V x γ (0, 0) (QM x γ (PV γ (fun v => RD cd ip x0 g (r + 1) (r + 1) u c (eN r r e) v ∧ frm σ v ∧ v.MF 6 = σ.MF 6))) (enc γ (sMI (sMF (sMI (sMI w 12 (nI (r / ev e + 1 + 1))) 11 (nI (2 * ev e))) 9 f) 12 (nI ((k + 1) / 2)))) 86 [some (.ref (aU γ)), some (.int (nI k))] []) := by
    intro w hm0 h8 hG
    refine up_loop _ 9 (fun k hk ih f hinv => ?_)
    obtain ⟨i1, i2⟩ := hinv
    have J : k < 9 → ∀ f : TF, (∀ m, m < ((k + 1) + 1) / 2 → f m = nI (m * (2 * ev e))) ∧ (∀ m, (k + 1) ≤ m → m < 9 → f m = nI (m * ev e)) → V x γ (0, 0) (QM x γ (PV γ (fun v => RD cd ip x0 g (r + 1) (r + 1) u c (eN r r e) v ∧ frm σ v ∧ v.MF 6 = σ.MF 6))) (enc γ (sMI (sMF (sMI (sMI w 12 (nI (r / ev e + 1 + 1))) 11 (nI (2 * ev e))) 9 f) 12 (nI ((k + 1 + 1) / 2)))) 134 [some (.ref (aU γ)), some (.int (nI k))] [] := by
      intro z f h
      refine v_iinc (pc := 134) C d_MO_grow_134 rfl (nI_1' k) ?_
      refine v_goto (pc := 137) C 86 d_MO_grow_137 (by decide) ?_
      exact ih z f h
    refine v_iload_n (pc := 86) C d_MO_grow_86 rfl ?_
    refine v_bipush (pc := 87) (v := 9) C d_MO_grow_87 (by decide) ?_
    refine v_icmp_ge (pc := 89) C 140 d_MO_grow_89 (by decide) (fun c89 => ?_) (fun c89 => ?_)
    · have z := (nI_leI (a := 9) (by decide) (by omega)).mp c89
      refine r_v (pc := 140) C d_MO_grow_140 ?_
      have k9 : k = 9 := by omega
      subst k9
      exact gj_c hb hc h3k hm0 h8 hG (a := nI (r / ev e + 1 + 1)) (b := 0) (fun m hm => i1 m (by omega))
    · have z : k < 9 := nn_lt (b := 9) (by omega) c89
      refine v_aload_n (pc := 92) C d_MO_grow_92 rfl ?_
      refine gO_keptAt (pc := 93) C hY d_MO_grow_93 fl_MO_42 ?_
      refine v_iload_n (pc := 96) C d_MO_grow_96 rfl ?_
      refine lO_keptAtN (pc := 97) C hY d_MO_grow_97 (z) ?_
      refine v_top (b := nI (k * ev e)) (show (sMF (sMI (sMI w 12 (nI (r / ev e + 1 + 1))) 11 (nI (2 * ev e))) 9 f).MF 9 k = _ by rw [sMF_F]; exact i2 k (Nat.le_refl k) z) ?_
      refine v_aload_n (pc := 98) C d_MO_grow_98 rfl ?_
      refine gO_every (pc := 99) C hY d_MO_grow_99 fl_MO_38 ?_
      refine v_top (b := nI (2 * ev e)) (by rw [sMI_In (by decide)]; exact sMI_I (σ := sMI w 12 (nI (r / ev e + 1 + 1))) (j := 11) (v := nI (2 * ev e))) ?_
      refine v_irem (pc := 102) C d_MO_grow_102 ?_ ?_
      · exact nI_ne0 (by omega) (by omega)
      refine v_top (b := nI (k % 2 * ev e)) (by rw [pk_rem (by have := Nat.mul_le_mul (Nat.le_of_lt z) hE; omega) (by omega) (by omega), Nat.mul_mod_mul_right]) ?_
      refine v_if_eq (pc := 103) C 109 d_MO_grow_103 (by decide) (fun c103 => ?_) (fun c103 => ?_)
      · have y : k % 2 = 0 := by
          rcases (by omega : k % 2 = 0 ∨ k % 2 = 1) with q | q
          · exact q
          · rw [q, Nat.one_mul] at c103; exact absurd c103 (nI_ne0 hE0 (by omega))
        refine v_aload_n (pc := 109) C d_MO_grow_109 rfl ?_
        refine gO_keptAt (pc := 110) C hY d_MO_grow_110 fl_MO_42 ?_
        refine v_aload_n (pc := 113) C d_MO_grow_113 rfl ?_
        refine gO_kept (pc := 114) C hY d_MO_grow_114 fl_MO_51 ?_
        refine v_top (b := nI ((k + 1) / 2)) sMI_I ?_
        refine v_aload_n (pc := 117) C d_MO_grow_117 rfl ?_
        refine gO_keptAt (pc := 118) C hY d_MO_grow_118 fl_MO_42 ?_
        refine v_iload_n (pc := 121) C d_MO_grow_121 rfl ?_
        refine lO_keptAtN (pc := 122) C hY d_MO_grow_122 (z) ?_
        refine v_top (b := nI (k * ev e)) (show (sMF (sMI (sMI w 12 (nI (r / ev e + 1 + 1))) 11 (nI (2 * ev e))) 9 f).MF 9 k = _ by rw [sMF_F]; exact i2 k (Nat.le_refl k) z) ?_
        refine stO_keptAtN (pc := 123) C hY d_MO_grow_123 ((show (k + 1) / 2 < 9 by omega)) ?_
        refine v_w (σ2 := (sMI (sMF (sMI (sMI w 12 (nI (r / ev e + 1 + 1))) 11 (nI (2 * ev e))) 9 (upd f ((k + 1) / 2) (nI (k * ev e)))) 12 (nI ((k + 1) / 2)))) (by show sMI (sMF (sMF (sMI (sMI w 12 (nI (r / ev e + 1 + 1))) 11 (nI (2 * ev e))) 9 f) 9 (upd ((sMF (sMI (sMI w 12 (nI (r / ev e + 1 + 1))) 11 (nI (2 * ev e))) 9 f).MF 9) ((k + 1) / 2) (nI (k * ev e)))) 12 (nI ((k + 1) / 2)) = _; rw [sMF_F, sMF_sMF]) ?_
        refine v_aload_n (pc := 124) C d_MO_grow_124 rfl ?_
        refine v_dup (pc := 125) C d_MO_grow_125 rfl ?_
        refine gO_kept (pc := 126) C hY d_MO_grow_126 fl_MO_51 ?_
        refine v_iconst (pc := 129) (v := 1) C d_MO_grow_129 (by decide) ?_
        refine v_iadd (pc := 130) C d_MO_grow_130 ?_
        refine v_top (b := nI ((k + 1) / 2 + 1)) (by rw [sMI_I]; exact nI_1 _) ?_
        refine pO_kept (pc := 131) C hY d_MO_grow_131 fl_MO_51 ?_
        first
          | (refine v_w (σ2 := (sMI (sMF (sMI (sMI w 12 (nI (r / ev e + 1 + 1))) 11 (nI (2 * ev e))) 9 f) 12 (nI ((k + 1 + 1) / 2)))) (by rw [show (k + 1 + 1) / 2 = (k + 1) / 2 by omega]) ?_
             exact J z f ⟨fun m hm => i1 m (by omega), fun m h9 h8 => i2 m (by omega) h8⟩)
          | (refine v_w (σ2 := (sMI (sMF (sMI (sMI w 12 (nI (r / ev e + 1 + 1))) 11 (nI (2 * ev e))) 9 (upd f ((k + 1) / 2) (nI (k * ev e)))) 12 (nI ((k + 1 + 1) / 2)))) (by rw [sMI_sMI, show (k + 1 + 1) / 2 = (k + 1) / 2 + 1 by omega]) ?_
             refine J z _ ⟨fun m hm => ?_, fun m h9 h8 => ?_⟩
             · by_cases q : m = (k + 1) / 2
               · rw [q, pk_us, show (k + 1) / 2 * (2 * ev e) = k * ev e by rw [← Nat.mul_assoc, show (k + 1) / 2 * 2 = k by omega]]
               · rw [pk_un q]; exact i1 m (by omega)
             · rw [pk_un (by omega)]; exact i2 m (by omega) h8)
      · have y : k % 2 = 1 := by
          rcases (by omega : k % 2 = 0 ∨ k % 2 = 1) with q | q
          · rw [q, Nat.zero_mul] at c103; exact absurd rfl c103
          · exact q
        refine v_goto (pc := 106) C 134 d_MO_grow_106 (by decide) ?_
        first
          | (refine v_w (σ2 := (sMI (sMF (sMI (sMI w 12 (nI (r / ev e + 1 + 1))) 11 (nI (2 * ev e))) 9 f) 12 (nI ((k + 1 + 1) / 2)))) (by rw [show (k + 1 + 1) / 2 = (k + 1) / 2 by omega]) ?_
             exact J z f ⟨fun m hm => i1 m (by omega), fun m h9 h8 => i2 m (by omega) h8⟩)
          | (refine v_w (σ2 := (sMI (sMF (sMI (sMI w 12 (nI (r / ev e + 1 + 1))) 11 (nI (2 * ev e))) 9 (upd f ((k + 1) / 2) (nI (k * ev e)))) 12 (nI ((k + 1 + 1) / 2)))) (by rw [sMI_sMI, show (k + 1 + 1) / 2 = (k + 1) / 2 + 1 by omega]) ?_
             refine J z _ ⟨fun m hm => ?_, fun m h9 h8 => ?_⟩
             · by_cases q : m = (k + 1) / 2
               · rw [q, pk_us, show (k + 1) / 2 * (2 * ev e) = k * ev e by rw [← Nat.mul_assoc, show (k + 1) / 2 * 2 = k by omega]]
               · rw [pk_un q]; exact i1 m (by omega)
             · rw [pk_un (by omega)]; exact i2 m (by omega) h8)
  have J23 : ∀ w, GJ cd ip x0 g r u c e σ w → V x γ (0, 0) (QM x γ (PV γ (fun v => RD cd ip x0 g (r + 1) (r + 1) u c (eN r r e) v ∧ frm σ v ∧ v.MF 6 = σ.MF 6))) (enc γ w) 23 [some (.ref (aU γ)), none] [] := by
    intro w hG
    obtain ⟨g1, g2, g3, g4, g5, g6, g7, g8, g9⟩ := id hG
    have hT2 : w.MI 2 = nI (r + 1) := (mS_t g1.2.2.2).trans hTt
    refine v_aload_n (pc := 23) C d_MO_grow_23 rfl ?_
    refine gO_time (pc := 24) C hY d_MO_grow_24 fl_MO_63 ?_
    refine v_aload_n (pc := 27) C d_MO_grow_27 rfl ?_
    refine gO_every (pc := 28) C hY d_MO_grow_28 fl_MO_38 ?_
    refine v_top (b := nI (ev e)) g5 ?_
    refine v_top2 (b := nI (r + 1)) hT2 ?_
    refine v_irem (pc := 31) C d_MO_grow_31 ?_ ?_
    · exact nI_ne0 hE0 (by omega)
    refine v_top (b := nI ((r + 1) % ev e)) (pk_rem (by omega) hE0 (by omega)) ?_
    refine v_if_eq (pc := 32) C 36 d_MO_grow_32 (by decide) (fun c32 => ?_) (fun c32 => ?_)
    · have y : (r + 1) % ev e = 0 := (nI_eq (b := 0) (by have := Nat.mod_lt (r + 1) hE0; omega) (by decide)).mp c32
      refine v_aload_n (pc := 36) C d_MO_grow_36 rfl ?_
      refine gO_keptAt (pc := 37) C hY d_MO_grow_37 fl_MO_42 ?_
      refine v_aload_n (pc := 40) C d_MO_grow_40 rfl ?_
      refine gO_kept (pc := 41) C hY d_MO_grow_41 fl_MO_51 ?_
      refine v_top (b := nI (r / ev e + 1)) g6 ?_
      refine v_aload_n (pc := 44) C d_MO_grow_44 rfl ?_
      refine gO_time (pc := 45) C hY d_MO_grow_45 fl_MO_63 ?_
      refine v_top (b := nI (r + 1)) hT2 ?_
      refine stO_keptAtN (pc := 48) C hY d_MO_grow_48 ((show r / ev e + 1 < 9 by omega)) ?_
      refine v_aload_n (pc := 49) C d_MO_grow_49 rfl ?_
      refine v_dup (pc := 50) C d_MO_grow_50 rfl ?_
      refine gO_kept (pc := 51) C hY d_MO_grow_51 fl_MO_51 ?_
      refine v_iconst (pc := 54) (v := 1) C d_MO_grow_54 (by decide) ?_
      refine v_iadd (pc := 55) C d_MO_grow_55 ?_
      refine v_top (b := nI (r / ev e + 1 + 1)) (show w.MI 12 + 1 = _ by rw [g6, nI_1]) ?_
      refine pO_kept (pc := 56) C hY d_MO_grow_56 fl_MO_51 ?_
      refine v_aload_n (pc := 59) C d_MO_grow_59 rfl ?_
      refine gO_kept (pc := 60) C hY d_MO_grow_60 fl_MO_51 ?_
      refine v_top (b := nI (r / ev e + 1 + 1)) sMI_I ?_
      refine v_bipush (pc := 63) (v := 9) C d_MO_grow_63 (by decide) ?_
      refine v_icmp_ge (pc := 65) C 69 d_MO_grow_65 (by decide) (fun c65 => ?_) (fun c65 => ?_)
      · have y8 : r / ev e + 1 = 8 := by have := (nI_leI (a := 9) (by decide) (by omega)).mp c65; omega
        refine v_aload_n (pc := 69) C d_MO_grow_69 rfl ?_
        refine v_iconst (pc := 70) (v := 2) C d_MO_grow_70 (by decide) ?_
        refine v_aload_n (pc := 71) C d_MO_grow_71 rfl ?_
        refine gO_every (pc := 72) C hY d_MO_grow_72 fl_MO_38 ?_
        refine v_top (b := nI (ev e)) ((sMI_In (by decide)).trans g5) ?_
        refine v_imul (pc := 75) C d_MO_grow_75 ?_
        refine v_top (b := nI (2 * ev e)) (pk_mul 2 _) ?_
        refine pO_every (pc := 76) C hY d_MO_grow_76 fl_MO_38 ?_
        refine v_aload_n (pc := 79) C d_MO_grow_79 rfl ?_
        refine v_iconst (pc := 80) (v := 0) C d_MO_grow_80 (by decide) ?_
        refine pO_kept (pc := 81) C hY d_MO_grow_81 fl_MO_51 ?_
        refine v_iconst (pc := 84) (v := 0) C d_MO_grow_84 (by decide) ?_
        refine v_istore_n (pc := 85) C d_MO_grow_85 (Nat.le_of_ble_eq_true rfl) ?_
        refine v_w (σ2 := (sMI (sMF (sMI (sMI w 12 (nI (r / ev e + 1 + 1))) 11 (nI (2 * ev e))) 9 (upd (w.MF 9) (r / ev e + 1) (nI (r + 1)))) 12 (nI ((0 + 1) / 2)))) rfl ?_
        refine L w y y8 hG 0 (by decide) _ ⟨fun m hm => absurd hm (by omega), fun m _ h9 => ?_⟩
        by_cases q : m = r / ev e + 1
        · rw [q, pk_us]
          have e2 := mul_of_mod y
          rw [div_succ_eq hE0 y] at e2
          rw [← e2]
        · rw [pk_un q]; exact g7 m (by omega)
      · have y8 : ¬ r / ev e + 1 = 8 := by have := nn_lt (b := 9) (by omega) c65; omega
        refine r_v (pc := 68) C d_MO_grow_68 ?_
        exact gj_b hb hc h3k y y8 hG
    · refine r_v (pc := 35) C d_MO_grow_35 ?_
      exact gj_a hb hc h3k (fun q => c32 (by rw [q]; rfl)) hG
  refine v_aload_n (pc := 0) C d_MO_grow_0 rfl ?_
  refine v_aload_n (pc := 1) C d_MO_grow_1 rfl ?_
  refine gO_time (pc := 2) C hY d_MO_grow_2 fl_MO_63 ?_
  refine v_top (b := nI (r + 1)) hT ?_
  refine pO_reached (pc := 5) C hY d_MO_grow_5 fl_MO_57 ?_
  refine v_aload_n (pc := 8) C d_MO_grow_8 rfl ?_
  refine gO_time (pc := 9) C hY d_MO_grow_9 fl_MO_63 ?_
  refine v_top (b := nI (r + 1)) ((sMI_In (by decide)).trans hT) ?_
  refine v_sipush (pc := 12) (v := 250) C d_MO_grow_12 (by decide) ?_
  refine v_irem (pc := 15) C d_MO_grow_15 ?_ ?_
  · decide
  refine v_top (b := nI ((r + 1) % 250)) (pk_rem (d := 250) (by omega) (by decide) (by decide)) ?_
  refine v_if_ne (pc := 16) C 23 d_MO_grow_16 (by decide) (fun c16 => ?_) (fun c16 => ?_)
  · exact J23 _ ⟨⟨hm.1, hm.2.1, (sMI_In (by decide)).trans hm.2.2.1, (mS_sMI (by decide)).trans hm.2.2.2⟩, sMI_I, (sMI_In (by decide)).trans k2, (sMI_In (by decide)).trans k3, (sMI_In (by decide)).trans k4, (sMI_In (by decide)).trans k5, hq, mm_no hk (fun q => c16 (by rw [q]; rfl)), frm_sMI (by decide), rfl⟩
  · have y : (r + 1) % 250 = 0 := (nI_eq (b := 0) (by omega) (by decide)).mp c16
    refine v_aload_n (pc := 19) C d_MO_grow_19 rfl ?_
    refine kU0v (pc := 20) C hY cb_MO_48 ⟨im_MO_mark, sl_MO_mark⟩ rfl rk_MO_grow_MO_mark d_MO_grow_20 ⟨Nat.zero_le _, Nat.zero_le _⟩ (c_MO_mark x.l hY (k := (r + 1) / 250) (by omega) (by rw [sMI_In (by decide), hT, show 250 * ((r + 1) / 250) = r + 1 by omega])) (Nat.le_of_ble_eq_true rfl) (fun σ20 h20 => ?_)
    obtain ⟨f, f2, rfl, e1, e2, e3⟩ := h20
    refine J23 _ ⟨⟨hm.1, hm.2.1, ?_, ?_⟩, ?_, ?_, ?_, ?_, ?_, hq, ?_, (frm_sMI (by decide)).trans ((frm_sMF (by decide)).trans (frm_sMF (by decide))), rfl⟩
    · exact (sMI_In (σ := σ) (j := 8) (v := nI (r + 1)) (by decide)).trans hm.2.2.1
    · rw [mS_sMF (by decide), mS_sMF (by decide), mS_sMI (by decide)]; exact hm.2.2.2
    · exact sMI_I (σ := σ) (j := 8) (v := nI (r + 1))
    · exact (sMI_In (σ := σ) (j := 8) (v := nI (r + 1)) (by decide)).trans k2
    · exact (sMI_In (σ := σ) (j := 8) (v := nI (r + 1)) (by decide)).trans k3
    · exact (sMI_In (σ := σ) (j := 8) (v := nI (r + 1)) (by decide)).trans k4
    · exact (sMI_In (σ := σ) (j := 8) (v := nI (r + 1)) (by decide)).trans k5
    · have q := mm_mark hk (k := (r + 1) / 250) (by omega) e1 e2 (by rw [mS_sMI (by decide), hm.2.2.2] at e3; exact e3)
      exact q
