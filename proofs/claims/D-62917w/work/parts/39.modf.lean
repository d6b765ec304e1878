theorem c_MO_advance (l : Launch) {γ : GH} (hY : 146 ≤ γ.N) {cd ip : TF} {x0 : Int32} {g t r u c e : Nat} {σ : SGG} (h : RD cd ip x0 g t r u c e σ) : Ct l y_MO_advance b_MO_advance 2 (some .int) rm_MO_advance γ (enc γ σ) [.ref (aU γ)] (PI γ (fun q v => (chk cd (nI g) (tr cd ip x0 t) = 0 ∧ t < 3000 ∧ q = 0 ∧ RD cd ip x0 g (t + 1) (max r (t + 1)) (up32 u) c (eN t r e) v ∧ frm σ v ∧ v.MF 6 = σ.MF 6) ∨ (¬ (chk cd (nI g) (tr cd ip x0 t) = 0 ∧ t < 3000) ∧ q = tryR cd (nI g) (tr cd ip x0 t) ∧ v = σ))) := by
  refine ct_of "ReplayMachineModel" (by decide) rfl rfl (Nat.le_of_ble_eq_true rfl) (fun x hl C => ?_)
  subst hl
  show V x γ (0, 0) _ _ 0 [some (.ref (aU γ)), none] []
  obtain ⟨⟨b1, b2, b3, b4, b5, b6, b7⟩, ⟨m1, m2, m3, m4⟩, ⟨k1, k2, k3, k4, k5⟩, hq, hk⟩ := id h
  obtain ⟨⟨a, a1, a2⟩, ⟨b, d1, d2⟩, hT⟩ := tr_wf b1 b4 t b2
  have u32 : up32 u ≤ 32 := by unfold up32; split <;> omega
  have J49 : ∀ o : Option Value, chk cd (nI g) (tr cd ip x0 t) = 0 → t < 3000 → V x γ (0, 0) (QM x γ (PI γ (fun q v => (chk cd (nI g) (tr cd ip x0 t) = 0 ∧ t < 3000 ∧ q = 0 ∧ RD cd ip x0 g (t + 1) (max r (t + 1)) (up32 u) c (eN t r e) v ∧ frm σ v ∧ v.MF 6 = σ.MF 6) ∨ (¬ (chk cd (nI g) (tr cd ip x0 t) = 0 ∧ t < 3000) ∧ q = tryR cd (nI g) (tr cd ip x0 t) ∧ v = σ)))) (enc γ (mM σ (tr cd ip x0 (t + 1)))) 49 [some (.ref (aU γ)), o] [.int (nI (up32 u)), .ref (aU γ)] := by
    intro o hc z
    have hT1 := (tr_wf b1 ((b4.le b2).snoc hc) (t + 1) (Nat.le_refl _)).2.2
    refine pO_undo (pc := 49) C hY d_MO_advance_49 fl_MO_122 ?_
    refine v_aload_n (pc := 52) C d_MO_advance_52 rfl ?_
    refine gO_time (pc := 53) C hY d_MO_advance_53 fl_MO_63 ?_
    refine v_top (b := nI (t + 1)) (show (sMI (mM σ (tr cd ip x0 (t + 1))) 9 (nI (up32 u))).MI 2 = _ from (sMI_In (by decide)).trans hT1) ?_
    refine v_aload_n (pc := 56) C d_MO_advance_56 rfl ?_
    refine gO_reached (pc := 57) C hY d_MO_advance_57 fl_MO_57 ?_
    refine v_top (b := nI r) (show (sMI (mM σ (tr cd ip x0 (t + 1))) 9 (nI (up32 u))).MI 8 = _ from (sMI_In (by decide)).trans k1) ?_
    refine v_icmp_le (pc := 60) C 67 d_MO_advance_60 (by decide) (fun c60 => ?_) (fun c60 => ?_)
    · have y := (nI_leI (by omega) (by omega)).mp c60
      refine v_iconst (pc := 67) (v := 0) C d_MO_advance_67 (by decide) ?_
      refine r_i (pc := 68) C d_MO_advance_68 ?_
      first
        | (rw [show max r (t + 1) = r by omega, eN_le y]; exact Or.inl ⟨hc, z, rfl, (rd_u (rd_mM h y) u32).1, frm_mM.trans (rd_u (rd_mM h y) u32).2, rfl⟩)
        | (rw [show max t (t + 1) = t + 1 by omega]; exact Or.inl ⟨hc, z, rfl, p1, frm_mM.trans ((frm_sMI (by decide)).trans p2), p3⟩)
    · have y : r < t + 1 := nn_lt (by omega) c60
      obtain rfl : t = r := by omega
      refine v_aload_n (pc := 63) C d_MO_advance_63 rfl ?_
      refine kU0v (pc := 64) C hY cb_MO_125 ⟨im_MO_grow, sl_MO_grow⟩ rfl rk_MO_advance_MO_grow d_MO_advance_64 ⟨Nat.zero_le _, Nat.zero_le _⟩ (c_MO_grow x.l hY (u := up32 u) (c := c) (e := e) ⟨b1, Nat.le_refl _, b3, b4, u32, b6, b7⟩ hc z ⟨m1, m2, (sMI_In (by decide)).trans m3, (mS_sMI (by decide)).trans mM_mS⟩ ⟨(sMI_In (by decide)).trans k1, sMI_I, (sMI_In (by decide)).trans k3, (sMI_In (by decide)).trans k4, (sMI_In (by decide)).trans k5⟩ hq hk) (Nat.le_of_ble_eq_true rfl) (fun σ64 h64 => ?_)
      obtain ⟨p1, p2, p3⟩ := h64
      skip
      refine v_iconst (pc := 67) (v := 0) C d_MO_advance_67 (by decide) ?_
      refine r_i (pc := 68) C d_MO_advance_68 ?_
      first
        | (rw [show max r (t + 1) = r by omega, eN_le y]; exact Or.inl ⟨hc, z, rfl, (rd_u (rd_mM h y) u32).1, frm_mM.trans (rd_u (rd_mM h y) u32).2, rfl⟩)
        | (rw [show max t (t + 1) = t + 1 by omega]; exact Or.inl ⟨hc, z, rfl, p1, frm_mM.trans ((frm_sMI (by decide)).trans p2), p3⟩)
  refine v_aload_n (pc := 0) C d_MO_advance_0 rfl ?_
  refine v_w (σ2 := mM σ (tr cd ip x0 t)) (mM_of m4) ?_
  refine kU0i (pc := 1) C hY cb_MO_119 ⟨im_MO_check, sl_MO_check⟩ rfl rk_MO_advance_MO_check d_MO_advance_1 ⟨Nat.zero_le _, Nat.zero_le _⟩ (c_MO_check x.l hY a2 a1 d2 m3 d1 b1) (Nat.le_of_ble_eq_true rfl) (fun r1 σ1 h1 => ?_)
  obtain ⟨e1, w1⟩ := h1
  rw [w1, ← mM_of m4]
  refine v_top (b := chk cd (nI g) (tr cd ip x0 t)) (by rw [e1, m1, m3]) ?_
  refine v_istore_n (pc := 4) C d_MO_advance_4 (Nat.le_of_ble_eq_true rfl) ?_
  refine v_iload_n (pc := 5) C d_MO_advance_5 rfl ?_
  refine v_if_eq (pc := 6) C 11 d_MO_advance_6 (by decide) (fun c6 => ?_) (fun c6 => ?_)
  · refine v_aload_n (pc := 11) C d_MO_advance_11 rfl ?_
    refine gO_time (pc := 12) C hY d_MO_advance_12 fl_MO_63 ?_
    refine v_top (b := nI t) (rd_T h) ?_
    refine v_sipush (pc := 15) (v := 3000) C d_MO_advance_15 (by decide) ?_
    refine v_icmp_ne (pc := 18) C 24 d_MO_advance_18 (by decide) (fun c18 => ?_) (fun c18 => ?_)
    · have z : t < 3000 := by
        rcases Nat.lt_or_ge t 3000 with q | q
        · exact q
        · exact absurd (show nI t = nI 3000 by rw [show t = 3000 by omega]) c18
      refine v_aload_n (pc := 24) C d_MO_advance_24 rfl ?_
      refine v_w (σ2 := mM σ (tr cd ip x0 t)) (mM_of m4) ?_
      refine kU0v (pc := 25) C hY cb_MO_78 ⟨im_MO_perform, sl_MO_perform⟩ rfl rk_MO_advance_MO_perform d_MO_advance_25 ⟨Nat.zero_le _, Nat.zero_le _⟩ (c_MO_perform x.l hY a2 a1 d2 m3 d1 b1 (by rw [m1, m3]; exact c6)) (Nat.le_of_ble_eq_true rfl) (fun σ25 h25 => ?_)
      rw [m1, m2] at h25
      subst h25
      refine v_aload_n (pc := 28) C d_MO_advance_28 rfl ?_
      refine v_aload_n (pc := 29) C d_MO_advance_29 rfl ?_
      refine gO_undo (pc := 30) C hY d_MO_advance_30 fl_MO_122 ?_
      refine v_top (b := nI u) k2 ?_
      refine v_bipush (pc := 33) (v := 32) C d_MO_advance_33 (by decide) ?_
      refine v_icmp_ge (pc := 35) C 47 d_MO_advance_35 (by decide) (fun c35 => ?_) (fun c35 => ?_)
      · have y := (nI_leI (a := 32) (by decide) (by omega)).mp c35
        refine v_bipush (pc := 47) (v := 32) C d_MO_advance_47 (by decide) ?_
        refine v_top (b := nI (up32 u)) (by unfold up32; first | (rw [if_pos y]; exact nI_1 u) | (rw [if_neg (by omega)]; rfl)) ?_
        exact J49 _ c6 z
      · have y : u < 32 := nn_lt (b := 32) (by omega) c35
        refine v_aload_n (pc := 38) C d_MO_advance_38 rfl ?_
        refine gO_undo (pc := 39) C hY d_MO_advance_39 fl_MO_122 ?_
        refine v_top (b := nI u) k2 ?_
        refine v_iconst (pc := 42) (v := 1) C d_MO_advance_42 (by decide) ?_
        refine v_iadd (pc := 43) C d_MO_advance_43 ?_
        refine v_goto (pc := 44) C 49 d_MO_advance_44 (by decide) ?_
        refine v_top (b := nI (up32 u)) (by unfold up32; first | (rw [if_pos y]; exact nI_1 u) | (rw [if_neg (by omega)]; rfl)) ?_
        exact J49 _ c6 z
    · have z : t = 3000 := (nI_eq (b := 3000) (by omega) (by decide)).mp c18
      refine v_bipush (pc := 21) (v := 8) C d_MO_advance_21 (by decide) ?_
      refine r_i (pc := 23) C d_MO_advance_23 ?_
      exact Or.inr ⟨fun q => absurd q.2 (by omega), by unfold tryR; rw [if_pos c6], rfl⟩
  · refine v_iload_n (pc := 9) C d_MO_advance_9 rfl ?_
    refine r_i (pc := 10) C d_MO_advance_10 ?_
    exact Or.inr ⟨fun q => c6 q.1, by unfold tryR; rw [if_neg c6], rfl⟩
theorem c_MO_step (l : Launch) {γ : GH} (hY : 146 ≤ γ.N) {cd ip : TF} {x0 : Int32} {g t r u c e : Nat} {σ : SGG} (h : RD cd ip x0 g t r u c e σ) : Ct l y_MO_step b_MO_step 1 (some .int) rm_MO_step γ (enc γ σ) [.ref (aU γ)] (PI γ (fun q v => v.MI 0 = 0 ∧ ((chk cd (nI g) (tr cd ip x0 t) = 0 ∧ t < 3000 ∧ q = 0 ∧ RD cd ip x0 g (t + 1) (max r (t + 1)) (up32 u) 0 (eN t r e) v ∧ frm (sMI σ 0 0) v) ∨ (¬ (chk cd (nI g) (tr cd ip x0 t) = 0 ∧ t < 3000) ∧ q = tryR cd (nI g) (tr cd ip x0 t) ∧ RD cd ip x0 g t r u 0 e v ∧ frm (sMI σ 0 0) v)))) := by
  refine ct_of "ReplayMachineModel" (by decide) rfl rfl (Nat.le_of_ble_eq_true rfl) (fun x hl C => ?_)
  subst hl
  show V x γ (0, 0) _ _ 0 [some (.ref (aU γ))] []
  have h2 := rd_c (c2 := 0) (rd_0 (w := 0) h)
  refine v_aload_n (pc := 0) C d_MO_step_0 rfl ?_
  refine v_iconst (pc := 1) (v := 0) C d_MO_step_1 (by decide) ?_
  refine pO_code (pc := 2) C hY d_MO_step_2 fl_MO_54 ?_
  refine v_aload_n (pc := 5) C d_MO_step_5 rfl ?_
  refine v_iconst (pc := 6) (v := 0) C d_MO_step_6 (by decide) ?_
  refine pO_cost (pc := 7) C hY d_MO_step_7 fl_MO_128 ?_
  refine v_aload_n (pc := 10) C d_MO_step_10 rfl ?_
  refine kU0i (pc := 11) C hY cb_MO_131 ⟨im_MO_advance, sl_MO_advance⟩ rfl rk_MO_step_MO_advance d_MO_step_11 ⟨Nat.zero_le _, Nat.zero_le _⟩ (c_MO_advance x.l hY h2.1) (Nat.le_of_ble_eq_true rfl) (fun r11 σ11 h11 => ?_)
  skip
  refine r_i (pc := 14) C d_MO_step_14 ?_
  rcases h11 with ⟨q1, q2, q3, q4, q5, -⟩ | ⟨q1, q2, q3⟩
  · exact ⟨(h2.2.trans q5).2.2.2.2.trans sMI_I, Or.inl ⟨q1, q2, q3, q4, h2.2.trans q5⟩⟩
  · subst q3; exact ⟨h2.2.2.2.2.2.trans sMI_I, Or.inr ⟨q1, q2, h2.1, h2.2⟩⟩
theorem c_MO_account (l : Launch) {γ : GH} (hY : 146 ≤ γ.N) {cd ip : TF} {x0 : Int32} {g t r u c e : Nat} {σ : SGG} {v : Nat} (h : RD cd ip x0 g t r u c e σ) (hv : v ≤ r) : Ct l y_MO_account b_MO_account 5 none rm_MO_account γ (enc γ σ) [.ref (aU γ), .int (nI v)] (PV γ (fun w => RD cd ip x0 g t r (mvU t u e v) (mvC t u c e v) e w ∧ frm σ w)) := by
  refine ct_of "ReplayMachineModel" (by decide) rfl rfl (Nat.le_of_ble_eq_true rfl) (fun x hl C => ?_)
  subst hl
  show V x γ (0, 0) _ _ 0 [some (.ref (aU γ)), some (.int (nI v)), none, none, none] []
  obtain ⟨⟨b1, b2, b3, b4, b5, b6, b7⟩, ⟨m1, m2, m3, m4⟩, ⟨k1, k2, k3, k4, k5⟩, hq, hk⟩ := id h
  have hT := rd_T h
  have hE := ev_le b6
  have hE0 := ev_pos e
  have z8 : r / ev e < 8 := Nat.div_lt_of_lt_mul (Nat.mul_comm 8 _ ▸ b7)
  have hve : v / ev e * ev e ≤ v := Nat.div_mul_le_self v (ev e)
  have J132 : ∀ (u0 s : Nat) (o2 o3 : Option Value), u0 ≤ 32 → s ≤ 3000 → mvU t u e v = min 32 (u0 + s) → mvC t u c e v = c + s → V x γ (0, 0) (QM x γ (PV γ (fun w => RD cd ip x0 g t r (mvU t u e v) (mvC t u c e v) e w ∧ frm σ w))) (enc γ σ) 131 [some (.ref (aU γ)), some (.int (nI v)), o2, o3, some (.int (nI s))] [.int (nI s), .int (nI u0), .ref (aU γ)] := by
    intro u0 s o2 o3 hu0 hs e1 e2
    have J154 : ∀ a : Int32, a = nI (min 32 (u0 + s)) → V x γ (0, 0) (QM x γ (PV γ (fun w => RD cd ip x0 g t r (mvU t u e v) (mvC t u c e v) e w ∧ frm σ w))) (enc γ (sMI σ 9 (nI (u0 + s)))) 154 [some (.ref (aU γ)), some (.int (nI v)), o2, o3, some (.int (nI s))] [.int a, .ref (aU γ)] := by
      intro a ha
      subst ha
      refine pO_undo (pc := 154) C hY d_MO_account_154 fl_MO_122 ?_
      refine v_w (σ2 := sMI σ 9 (nI (min 32 (u0 + s)))) sMI_sMI ?_
      refine v_aload_n (pc := 157) C d_MO_account_157 rfl ?_
      refine v_dup (pc := 158) C d_MO_account_158 rfl ?_
      refine gO_cost (pc := 159) C hY d_MO_account_159 fl_MO_128 ?_
      skip
      refine v_iload (pc := 162) C d_MO_account_162 rfl ?_
      refine v_iadd (pc := 164) C d_MO_account_164 ?_
      refine v_top (b := nI (c + s)) (show (sMI σ 9 (nI (min 32 (u0 + s)))).MI 10 + nI s = _ by rw [sMI_In (by decide), k3, nI_add]) ?_
      refine pO_cost (pc := 165) C hY d_MO_account_165 fl_MO_128 ?_
      refine r_v (pc := 168) C d_MO_account_168 ?_
      rw [e1, e2]
      exact rd_uc h (by omega)
    refine v_iadd (pc := 131) C d_MO_account_131 ?_
    refine v_top (b := nI (u0 + s)) (nI_add u0 s) ?_
    refine pO_undo (pc := 132) C hY d_MO_account_132 fl_MO_122 ?_
    refine v_aload_n (pc := 135) C d_MO_account_135 rfl ?_
    refine v_aload_n (pc := 136) C d_MO_account_136 rfl ?_
    refine gO_undo (pc := 137) C hY d_MO_account_137 fl_MO_122 ?_
    refine v_top (b := nI (u0 + s)) sMI_I ?_
    refine v_bipush (pc := 140) (v := 32) C d_MO_account_140 (by decide) ?_
    refine v_icmp_le (pc := 142) C 150 d_MO_account_142 (by decide) (fun c142 => ?_) (fun c142 => ?_)
    · have z := (nI_leI (b := 32) (by omega) (by decide)).mp c142
      refine v_aload_n (pc := 150) C d_MO_account_150 rfl ?_
      refine gO_undo (pc := 151) C hY d_MO_account_151 fl_MO_122 ?_
      refine J154 _ ?_
      first | (rw [show min 32 (u0 + s) = u0 + s by omega]; exact sMI_I) | (rw [show min 32 (u0 + s) = 32 by omega]; rfl)
    · have z : 32 < u0 + s := nn_lt (a := 32) (by decide) c142
      refine v_bipush (pc := 145) (v := 32) C d_MO_account_145 (by decide) ?_
      refine v_goto (pc := 147) C 154 d_MO_account_147 (by decide) ?_
      refine J154 _ ?_
      first | (rw [show min 32 (u0 + s) = u0 + s by omega]; exact sMI_I) | (rw [show min 32 (u0 + s) = 32 by omega]; rfl)
  have JR : ∀ o3 : Option Value, ¬ (v < t ∧ t - v ≤ u) → (v < t ∨ t < v / ev e * ev e) → V x γ (0, 0) (QM x γ (PV γ (fun w => RD cd ip x0 g t r (mvU t u e v) (mvC t u c e v) e w ∧ frm σ w))) (enc γ σ) 97 [some (.ref (aU γ)), some (.int (nI v)), some (.int (nI (v / ev e * ev e))), o3, none] [.int 1] := by
    intro o3 hco ho
    refine v_istore_n (pc := 97) C d_MO_account_97 (Nat.le_of_ble_eq_true rfl) ?_
    refine v_iload_n (pc := 98) C d_MO_account_98 rfl ?_
    refine v_if_eq (pc := 99) C 108 d_MO_account_99 (by decide) (fun c99 => ?_) (fun c99 => ?_)
    · exact absurd c99 (by decide)
    · refine v_iload_n (pc := 102) C d_MO_account_102 rfl ?_
      refine v_iload_n (pc := 103) C d_MO_account_103 rfl ?_
      refine v_isub (pc := 104) C d_MO_account_104 ?_
      refine v_goto (pc := 105) C 114 d_MO_account_105 (by decide) ?_
      refine v_top (b := nI (v - v / ev e * ev e)) (pk_sub hve) ?_
      refine v_istore (pc := 114) C d_MO_account_114 (Nat.le_of_ble_eq_true rfl) ?_
      refine v_aload_n (pc := 116) C d_MO_account_116 rfl ?_
      refine v_iload_n (pc := 117) C d_MO_account_117 rfl ?_
      refine v_if_eq (pc := 118) C 125 d_MO_account_118 (by decide) (fun c118 => ?_) (fun c118 => ?_)
      · exact absurd c118 (by decide)
      · refine v_iconst (pc := 121) (v := 0) C d_MO_account_121 (by decide) ?_
        refine v_goto (pc := 122) C 129 d_MO_account_122 (by decide) ?_
        refine v_iload (pc := 129) C d_MO_account_129 rfl ?_
        refine J132 0 (v - v / ev e * ev e) _ _ (by omega) (by omega) ?_ ?_
        · rw [show mvU t u e v = _ from if_neg hco, if_pos ho, Nat.zero_add]
        · rw [show mvC t u c e v = _ from if_neg hco, if_pos ho]
  have JN : ∀ o3 : Option Value, ¬ (v < t ∧ t - v ≤ u) → ¬ (v < t ∨ t < v / ev e * ev e) → V x γ (0, 0) (QM x γ (PV γ (fun w => RD cd ip x0 g t r (mvU t u e v) (mvC t u c e v) e w ∧ frm σ w))) (enc γ σ) 97 [some (.ref (aU γ)), some (.int (nI v)), some (.int (nI (v / ev e * ev e))), o3, none] [.int 0] := by
    intro o3 hco ho
    refine v_istore_n (pc := 97) C d_MO_account_97 (Nat.le_of_ble_eq_true rfl) ?_
    refine v_iload_n (pc := 98) C d_MO_account_98 rfl ?_
    refine v_if_eq (pc := 99) C 108 d_MO_account_99 (by decide) (fun c99 => ?_) (fun c99 => ?_)
    · refine v_iload_n (pc := 108) C d_MO_account_108 rfl ?_
      refine v_aload_n (pc := 109) C d_MO_account_109 rfl ?_
      refine gO_time (pc := 110) C hY d_MO_account_110 fl_MO_63 ?_
      refine v_isub (pc := 113) C d_MO_account_113 ?_
      refine v_top (b := nI (v - t)) (show nI v - σ.MI 2 = _ by rw [hT]; exact pk_sub (by omega)) ?_
      refine v_istore (pc := 114) C d_MO_account_114 (Nat.le_of_ble_eq_true rfl) ?_
      refine v_aload_n (pc := 116) C d_MO_account_116 rfl ?_
      refine v_iload_n (pc := 117) C d_MO_account_117 rfl ?_
      refine v_if_eq (pc := 118) C 125 d_MO_account_118 (by decide) (fun c118 => ?_) (fun c118 => ?_)
      · refine v_aload_n (pc := 125) C d_MO_account_125 rfl ?_
        refine gO_undo (pc := 126) C hY d_MO_account_126 fl_MO_122 ?_
        refine v_top (b := nI u) k2 ?_
        refine v_iload (pc := 129) C d_MO_account_129 rfl ?_
        refine J132 u (v - t) _ _ (by omega) (by omega) ?_ ?_
        · rw [show mvU t u e v = _ from if_neg hco, if_neg ho]
        · rw [show mvC t u c e v = _ from if_neg hco, if_neg ho]
      · exact absurd rfl c118
    · exact absurd rfl c99
  have J76 : ∀ o3 : Option Value, ¬ (v < t ∧ t - v ≤ u) → V x γ (0, 0) (QM x γ (PV γ (fun w => RD cd ip x0 g t r (mvU t u e v) (mvC t u c e v) e w ∧ frm σ w))) (enc γ σ) 76 [some (.ref (aU γ)), some (.int (nI v)), some (.int (nI (v / ev e * ev e))), o3, none] [] := by
    intro o3 hco
    refine v_iload_n (pc := 76) C d_MO_account_76 rfl ?_
    refine v_aload_n (pc := 77) C d_MO_account_77 rfl ?_
    refine gO_time (pc := 78) C hY d_MO_account_78 fl_MO_63 ?_
    refine v_top (b := nI t) hT ?_
    refine v_icmp_lt (pc := 81) C 92 d_MO_account_81 (by decide) (fun c81 => ?_) (fun c81 => ?_)
    · have ho : (v < t ∨ t < v / ev e * ev e) := Or.inl ((nI_ltI (by omega) (by omega)).mp c81)
      refine v_iconst (pc := 92) (v := 1) C d_MO_account_92 (by decide) ?_
      refine v_goto (pc := 93) C 97 d_MO_account_93 (by decide) ?_
      first | exact JR _ hco ho | exact JN _ hco ho
    · have z1 := nn_le (by omega) c81
      refine v_iload_n (pc := 84) C d_MO_account_84 rfl ?_
      refine v_aload_n (pc := 85) C d_MO_account_85 rfl ?_
      refine gO_time (pc := 86) C hY d_MO_account_86 fl_MO_63 ?_
      refine v_top (b := nI t) hT ?_
      refine v_icmp_le (pc := 89) C 96 d_MO_account_89 (by decide) (fun c89 => ?_) (fun c89 => ?_)
      · have ho : ¬ (v < t ∨ t < v / ev e * ev e) := by have := (nI_leI (by omega) (by omega)).mp c89; omega
        refine v_iconst (pc := 96) (v := 0) C d_MO_account_96 (by decide) ?_
        first | exact JR _ hco ho | exact JN _ hco ho
      · have ho : (v < t ∨ t < v / ev e * ev e) := Or.inr (nn_lt (by omega) c89)
        refine v_iconst (pc := 92) (v := 1) C d_MO_account_92 (by decide) ?_
        refine v_goto (pc := 93) C 97 d_MO_account_93 (by decide) ?_
        first | exact JR _ hco ho | exact JN _ hco ho
  have L : ¬ (v < t ∧ t - v ≤ u) → ∀ k, k ≤ r / ev e + 1 → V x γ (0, 0) (QM x γ (PV γ (fun w => RD cd ip x0 g t r (mvU t u e v) (mvC t u c e v) e w ∧ frm σ w))) (enc γ σ) 41 [some (.ref (aU γ)), some (.int (nI v)), some (.int (nI (min (k - 1) (v / ev e) * ev e))), some (.int (nI k)), none] [] := by
    intro hco
    refine up_loop _ (r / ev e + 1) (fun k hkr ih => ?_)
    have hvr : v / ev e ≤ r / ev e := Nat.div_le_div_right hv
    refine v_iload_n (pc := 41) C d_MO_account_41 rfl ?_
    refine v_aload_n (pc := 42) C d_MO_account_42 rfl ?_
    refine gO_kept (pc := 43) C hY d_MO_account_43 fl_MO_51 ?_
    refine v_top (b := nI (r / ev e + 1)) k5 ?_
    refine v_icmp_ge (pc := 46) C 76 d_MO_account_46 (by decide) (fun c46 => ?_) (fun c46 => ?_)
    · have z := (nI_leI (by omega) (by omega)).mp c46
      have zz : min (k - 1) (v / ev e) = v / ev e := by omega
      rw [zz]
      exact J76 _ hco
    · have z : k < r / ev e + 1 := nn_lt (by omega) c46
      have kk9 := hq k (by omega)
      have kb : k * ev e ≤ r := Nat.le_trans (Nat.mul_le_mul_right _ (show k ≤ r / ev e by omega)) (Nat.div_mul_le_self r (ev e))
      refine v_aload_n (pc := 49) C d_MO_account_49 rfl ?_
      refine gO_keptAt (pc := 50) C hY d_MO_account_50 fl_MO_42 ?_
      refine v_iload_n (pc := 53) C d_MO_account_53 rfl ?_
      refine lO_keptAtN (pc := 54) C hY d_MO_account_54 ((by omega)) ?_
      refine v_top (b := nI (k * ev e)) kk9 ?_
      refine v_iload_n (pc := 55) C d_MO_account_55 rfl ?_
      refine v_icmp_gt (pc := 56) C 68 d_MO_account_56 (by decide) (fun c56 => ?_) (fun c56 => ?_)
      · have y0 : v < k * ev e := (nI_ltI (by omega) (by omega)).mp c56
        have y1 : v / ev e < k := Nat.div_lt_of_lt_mul (Nat.mul_comm k _ ▸ y0)
        have y : min (k - 1) (v / ev e) = min (k + 1 - 1) (v / ev e) := by omega
        refine v_iload_n (pc := 68) C d_MO_account_68 rfl ?_
        refine v_top (b := nI (min (k + 1 - 1) (v / ev e) * ev e)) (by rw [← y]) ?_
        refine v_istore_n (pc := 69) C d_MO_account_69 (Nat.le_of_ble_eq_true rfl) ?_
        refine v_iinc (pc := 70) C d_MO_account_70 rfl (nI_1' k) ?_
        refine v_goto (pc := 73) C 41 d_MO_account_73 (by decide) ?_
        exact ih z
      · have y0 := nn_le (by omega) c56
        have y1 : k ≤ v / ev e := (Nat.le_div_iff_mul_le hE0).mpr y0
        have y : k = min (k + 1 - 1) (v / ev e) := by omega
        refine v_aload_n (pc := 59) C d_MO_account_59 rfl ?_
        refine gO_keptAt (pc := 60) C hY d_MO_account_60 fl_MO_42 ?_
        refine v_iload_n (pc := 63) C d_MO_account_63 rfl ?_
        refine lO_keptAtN (pc := 64) C hY d_MO_account_64 ((by omega)) ?_
        refine v_top (b := nI (k * ev e)) kk9 ?_
        refine v_goto (pc := 65) C 69 d_MO_account_65 (by decide) ?_
        refine v_top (b := nI (min (k + 1 - 1) (v / ev e) * ev e)) (by rw [← y]) ?_
        refine v_istore_n (pc := 69) C d_MO_account_69 (Nat.le_of_ble_eq_true rfl) ?_
        refine v_iinc (pc := 70) C d_MO_account_70 rfl (nI_1' k) ?_
        refine v_goto (pc := 73) C 41 d_MO_account_73 (by decide) ?_
        exact ih z
  have J37 : ¬ (v < t ∧ t - v ≤ u) → V x γ (0, 0) (QM x γ (PV γ (fun w => RD cd ip x0 g t r (mvU t u e v) (mvC t u c e v) e w ∧ frm σ w))) (enc γ σ) 37 [some (.ref (aU γ)), some (.int (nI v)), none, none, none] [] := by
    intro hco
    refine v_iconst (pc := 37) (v := 0) C d_MO_account_37 (by decide) ?_
    refine v_istore_n (pc := 38) C d_MO_account_38 (Nat.le_of_ble_eq_true rfl) ?_
    refine v_iconst (pc := 39) (v := 0) C d_MO_account_39 (by decide) ?_
    refine v_istore_n (pc := 40) C d_MO_account_40 (Nat.le_of_ble_eq_true rfl) ?_
    refine v_loc (L2 := [some (.ref (aU γ)), some (.int (nI v)), some (.int (nI (min (0 - 1) (v / ev e) * ev e))), some (.int (nI 0)), none]) (by rw [show min (0 - 1) (v / ev e) = 0 from Nat.zero_min _, Nat.zero_mul]; rfl) ?_
    exact L hco 0 (Nat.zero_le _)
  refine v_iload_n (pc := 0) C d_MO_account_0 rfl ?_
  refine v_aload_n (pc := 1) C d_MO_account_1 rfl ?_
  refine gO_time (pc := 2) C hY d_MO_account_2 fl_MO_63 ?_
  refine v_top (b := nI t) hT ?_
  refine v_icmp_ge (pc := 5) C 37 d_MO_account_5 (by decide) (fun c5 => ?_) (fun c5 => ?_)
  · exact J37 (by have := (nI_leI (by omega) (by omega)).mp c5; omega)
  · have z : v < t := nn_lt (by omega) c5
    refine v_aload_n (pc := 8) C d_MO_account_8 rfl ?_
    refine gO_time (pc := 9) C hY d_MO_account_9 fl_MO_63 ?_
    refine v_iload_n (pc := 12) C d_MO_account_12 rfl ?_
    refine v_isub (pc := 13) C d_MO_account_13 ?_
    refine v_top (b := nI (t - v)) (show σ.MI 2 - nI v = _ by rw [hT]; exact pk_sub (by omega)) ?_
    refine v_aload_n (pc := 14) C d_MO_account_14 rfl ?_
    refine gO_undo (pc := 15) C hY d_MO_account_15 fl_MO_122 ?_
    refine v_top (b := nI u) k2 ?_
    refine v_icmp_gt (pc := 18) C 37 d_MO_account_18 (by decide) (fun c18 => ?_) (fun c18 => ?_)
    · exact J37 (by have := (nI_ltI (by omega) (by omega)).mp c18; omega)
    · have z2 := nn_le (by omega) c18
      refine v_aload_n (pc := 21) C d_MO_account_21 rfl ?_
      refine v_dup (pc := 22) C d_MO_account_22 rfl ?_
      refine gO_undo (pc := 23) C hY d_MO_account_23 fl_MO_122 ?_
      refine v_aload_n (pc := 26) C d_MO_account_26 rfl ?_
      refine gO_time (pc := 27) C hY d_MO_account_27 fl_MO_63 ?_
      refine v_iload_n (pc := 30) C d_MO_account_30 rfl ?_
      refine v_isub (pc := 31) C d_MO_account_31 ?_
      refine v_isub (pc := 32) C d_MO_account_32 ?_
      refine v_top (b := nI (u - (t - v))) (show σ.MI 9 - (σ.MI 2 - nI v) = _ by rw [hT, k2, pk_sub (show v ≤ t by omega)]; exact pk_sub z2) ?_
      refine pO_undo (pc := 33) C hY d_MO_account_33 fl_MO_122 ?_
      refine r_v (pc := 36) C d_MO_account_36 ?_
      rw [show mvU t u e v = u - (t - v) from if_pos ⟨z, z2⟩, show mvC t u c e v = c from if_pos ⟨z, z2⟩]
      exact rd_u h (by omega)
def goU (t u e q : Nat) : Nat := if q = t then u else mvU t u e q
def goC (t u e q : Nat) : Nat := if q = t then 0 else mvC t u 0 e q
theorem c_MO_go (l : Launch) {γ : GH} (hY : 146 ≤ γ.N) {cd ip : TF} {x0 : Int32} {g t r u c e : Nat} {σ : SGG} {a : Int32} (h : RD cd ip x0 g t r u c e σ) : Ct l y_MO_go b_MO_go 2 none rm_MO_go γ (enc γ σ) [.ref (aU γ), .int a] (PV γ (fun v => ((a < 0 ∨ ¬ a ≤ nI r) ∧ v = sMI σ 0 1) ∨ (∃ q, a = nI q ∧ q ≤ r ∧ RD cd ip x0 g q r (goU t u e q) (goC t u e q) e v ∧ frm (sMI σ 0 0) v))) := by
  refine ct_of "ReplayMachineModel" (by decide) rfl rfl (Nat.le_of_ble_eq_true rfl) (fun x hl C => ?_)
  subst hl
  show V x γ (0, 0) _ _ 0 [some (.ref (aU γ)), some (.int a)] []
  have h2 := rd_c (c2 := 0) (rd_0 (w := 0) h)
  have r3 := h.1.2.2.1
  have J13 : (a < 0 ∨ ¬ a ≤ nI r) → V x γ (0, 0) (QM x γ (PV γ (fun v => ((a < 0 ∨ ¬ a ≤ nI r) ∧ v = sMI σ 0 1) ∨ (∃ q, a = nI q ∧ q ≤ r ∧ RD cd ip x0 g q r (goU t u e q) (goC t u e q) e v ∧ frm (sMI σ 0 0) v)))) (enc γ σ) 13 [some (.ref (aU γ)), some (.int a)] [.ref (aU γ)] := by
    intro z
    refine v_iconst (pc := 13) (v := 1) C d_MO_go_13 (by decide) ?_
    refine v_goto (pc := 14) C 18 d_MO_go_14 (by decide) ?_
    refine pO_code (pc := 18) C hY d_MO_go_18 fl_MO_54 ?_
    refine v_aload_n (pc := 21) C d_MO_go_21 rfl ?_
    refine gO_code (pc := 22) C hY d_MO_go_22 fl_MO_54 ?_
    refine v_top (b := 1) sMI_I ?_
    refine v_if_le (pc := 25) C 29 d_MO_go_25 (by decide) (fun c25 => ?_) (fun c25 => ?_)
    · exact absurd c25 (by decide)
    · refine r_v (pc := 28) C d_MO_go_28 ?_
      exact Or.inl ⟨z, rfl⟩
  refine v_aload_n (pc := 0) C d_MO_go_0 rfl ?_
  refine v_iload_n (pc := 1) C d_MO_go_1 rfl ?_
  refine v_if_lt (pc := 2) C 13 d_MO_go_2 (by decide) (fun c2 => ?_) (fun c2 => ?_)
  · exact J13 (Or.inl c2)
  · refine v_iload_n (pc := 5) C d_MO_go_5 rfl ?_
    refine v_aload_n (pc := 6) C d_MO_go_6 rfl ?_
    refine gO_reached (pc := 7) C hY d_MO_go_7 fl_MO_57 ?_
    refine v_top (b := nI r) h.2.2.1.1 ?_
    refine v_icmp_le (pc := 10) C 17 d_MO_go_10 (by decide) (fun c10 => ?_) (fun c10 => ?_)
    · obtain ⟨q, hq, rfl⟩ : ∃ q, q ≤ r ∧ a = nI q := by
        obtain ⟨j, j1, rfl⟩ := nI_of c2
        exact ⟨j, (nI_leI j1 (by omega)).mp c10, rfl⟩
      refine v_iconst (pc := 17) (v := 0) C d_MO_go_17 (by decide) ?_
      refine pO_code (pc := 18) C hY d_MO_go_18 fl_MO_54 ?_
      refine v_aload_n (pc := 21) C d_MO_go_21 rfl ?_
      refine gO_code (pc := 22) C hY d_MO_go_22 fl_MO_54 ?_
      refine v_top (b := 0) sMI_I ?_
      refine v_if_le (pc := 25) C 29 d_MO_go_25 (by decide) (fun c25 => ?_) (fun c25 => ?_)
      · refine v_aload_n (pc := 29) C d_MO_go_29 rfl ?_
        refine v_iconst (pc := 30) (v := 0) C d_MO_go_30 (by decide) ?_
        refine pO_cost (pc := 31) C hY d_MO_go_31 fl_MO_128 ?_
        refine v_iload_n (pc := 34) C d_MO_go_34 rfl ?_
        refine v_aload_n (pc := 35) C d_MO_go_35 rfl ?_
        refine gO_time (pc := 36) C hY d_MO_go_36 fl_MO_63 ?_
        refine v_top (b := nI t) (rd_T h2.1) ?_
        refine v_icmp_eq (pc := 39) C 47 d_MO_go_39 (by decide) (fun c39 => ?_) (fun c39 => ?_)
        · have y : q = t := (nI_eq (by omega) (by have := h.1.2.1; omega)).mp c39
          have hh := h2.1
          refine v_aload_n (pc := 47) C d_MO_go_47 rfl ?_
          refine v_iload_n (pc := 48) C d_MO_go_48 rfl ?_
          refine kU1v (pc := 49) C hY cb_MO_143 ⟨im_MO_seek, sl_MO_seek⟩ rfl rk_MO_go_MO_seek d_MO_go_49 ⟨Nat.zero_le _, Nat.zero_le _⟩ (c_MO_seek x.l hY hh hq) (Nat.le_of_ble_eq_true rfl) (fun σ49 h49 => ?_)
          obtain ⟨p1, p2, -⟩ := h49
          refine r_v (pc := 52) C d_MO_go_52 ?_
          first
            | (refine Or.inr ⟨q, rfl, hq, ?_, h2.2.trans p2⟩; unfold goU goC; rw [if_pos y, if_pos y]; exact p1)
            | (refine Or.inr ⟨q, rfl, hq, ?_, h2.2.trans (hf.trans p2)⟩; unfold goU goC; rw [if_neg y, if_neg y]; exact p1)
        · have y : ¬ q = t := fun w => c39 (by rw [w])
          refine v_aload_n (pc := 42) C d_MO_go_42 rfl ?_
          refine v_iload_n (pc := 43) C d_MO_go_43 rfl ?_
          refine kU1v (pc := 44) C hY cb_MO_140 ⟨im_MO_account, sl_MO_account⟩ rfl rk_MO_go_MO_account d_MO_go_44 ⟨Nat.zero_le _, Nat.zero_le _⟩ (c_MO_account x.l hY h2.1 hq) (Nat.le_of_ble_eq_true rfl) (fun σ44 h44 => ?_)
          obtain ⟨hh, hf⟩ := h44
          refine v_aload_n (pc := 47) C d_MO_go_47 rfl ?_
          refine v_iload_n (pc := 48) C d_MO_go_48 rfl ?_
          refine kU1v (pc := 49) C hY cb_MO_143 ⟨im_MO_seek, sl_MO_seek⟩ rfl rk_MO_go_MO_seek d_MO_go_49 ⟨Nat.zero_le _, Nat.zero_le _⟩ (c_MO_seek x.l hY hh hq) (Nat.le_of_ble_eq_true rfl) (fun σ49 h49 => ?_)
          obtain ⟨p1, p2, -⟩ := h49
          refine r_v (pc := 52) C d_MO_go_52 ?_
          first
            | (refine Or.inr ⟨q, rfl, hq, ?_, h2.2.trans p2⟩; unfold goU goC; rw [if_pos y, if_pos y]; exact p1)
            | (refine Or.inr ⟨q, rfl, hq, ?_, h2.2.trans (hf.trans p2)⟩; unfold goU goC; rw [if_neg y, if_neg y]; exact p1)
      · exact absurd (by decide) c25
    · exact J13 (Or.inr c10)
theorem c_MO_backOne (l : Launch) {γ : GH} (hY : 146 ≤ γ.N) {cd ip : TF} {x0 : Int32} {g t r u c e : Nat} {σ : SGG} (h : RD cd ip x0 g t r u c e σ) (h0 : 0 < t) : Ct l y_MO_backOne b_MO_backOne 2 (some .int) rm_MO_backOne γ (enc γ σ) [.ref (aU γ)] (PI γ (fun q v => RD cd ip x0 g (t - 1) r (mvU t u e (t - 1)) (mvC t u c e (t - 1)) e v ∧ frm σ v ∧ q = (if t - 1 = 0 then 12 else stopS (σ.MF 2) (σ.MF 3) (tr cd ip x0 (t - 1)).p (tr cd ip x0 (t - 1)).c (tr cd ip x0 (t - 1 - 1)).c))) := by
  refine ct_of "ReplayMachineModel" (by decide) rfl rfl (Nat.le_of_ble_eq_true rfl) (fun x hl C => ?_)
  subst hl
  show V x γ (0, 0) _ _ 0 [some (.ref (aU γ)), none] []
  have b2 := h.1.2.1
  have b3 := h.1.2.2.1
  refine v_aload_n (pc := 0) C d_MO_backOne_0 rfl ?_
  refine gO_time (pc := 1) C hY d_MO_backOne_1 fl_MO_63 ?_
  refine v_iconst (pc := 4) (v := 1) C d_MO_backOne_4 (by decide) ?_
  refine v_isub (pc := 5) C d_MO_backOne_5 ?_
  refine v_top (b := nI (t - 1)) (show σ.MI 2 - 1 = _ by rw [rd_T h]; exact pk_sub (b := 1) (by omega)) ?_
  refine v_istore_n (pc := 6) C d_MO_backOne_6 (Nat.le_of_ble_eq_true rfl) ?_
  refine v_aload_n (pc := 7) C d_MO_backOne_7 rfl ?_
  refine v_iload_n (pc := 8) C d_MO_backOne_8 rfl ?_
  refine kU1v (pc := 9) C hY cb_MO_140 ⟨im_MO_account, sl_MO_account⟩ rfl rk_MO_backOne_MO_account d_MO_backOne_9 ⟨Nat.zero_le _, Nat.zero_le _⟩ (c_MO_account x.l hY h (by omega)) (Nat.le_of_ble_eq_true rfl) (fun σ9 h9 => ?_)
  obtain ⟨p1, p2⟩ := h9
  refine v_iload_n (pc := 12) C d_MO_backOne_12 rfl ?_
  refine v_if_ne (pc := 13) C 24 d_MO_backOne_13 (by decide) (fun c13 => ?_) (fun c13 => ?_)
  · have y : ¬ t - 1 = 0 := fun q => c13 (by rw [q]; rfl)
    refine v_aload_n (pc := 24) C d_MO_backOne_24 rfl ?_
    refine v_iload_n (pc := 25) C d_MO_backOne_25 rfl ?_
    refine v_iconst (pc := 26) (v := 1) C d_MO_backOne_26 (by decide) ?_
    refine v_isub (pc := 27) C d_MO_backOne_27 ?_
    refine v_top (b := nI (t - 1 - 1)) (pk_sub (b := 1) (by omega)) ?_
    refine kU1v (pc := 28) C hY cb_MO_143 ⟨im_MO_seek, sl_MO_seek⟩ rfl rk_MO_backOne_MO_seek d_MO_backOne_28 ⟨Nat.zero_le _, Nat.zero_le _⟩ (c_MO_seek x.l hY p1 (v := t - 1 - 1) (by omega)) (Nat.le_of_ble_eq_true rfl) (fun σ28 h28 => ?_)
    obtain ⟨p3, p4, -⟩ := h28
    refine v_aload_n (pc := 31) C d_MO_backOne_31 rfl ?_
    refine kU0v (pc := 32) C hY cb_MO_134 ⟨im_MO_remember, sl_MO_remember⟩ rfl rk_MO_backOne_MO_remember d_MO_backOne_32 ⟨Nat.zero_le _, Nat.zero_le _⟩ (c_MO_remember x.l hY) (Nat.le_of_ble_eq_true rfl) (fun σ32 h32 => ?_)
    subst h32
    refine v_aload_n (pc := 35) C d_MO_backOne_35 rfl ?_
    refine v_iload_n (pc := 36) C d_MO_backOne_36 rfl ?_
    refine kU1v (pc := 37) C hY cb_MO_143 ⟨im_MO_seek, sl_MO_seek⟩ rfl rk_MO_backOne_MO_seek d_MO_backOne_37 ⟨Nat.zero_le _, Nat.zero_le _⟩ (c_MO_seek x.l hY (rd_6 p3 (f := σ28.MF 4)) (by omega)) (Nat.le_of_ble_eq_true rfl) (fun σ37 h37 => ?_)
    obtain ⟨p5, p6, p7⟩ := h37
    refine v_aload_n (pc := 40) C d_MO_backOne_40 rfl ?_
    refine kU0i (pc := 41) C hY cb_MO_137 ⟨im_MO_stop, sl_MO_stop⟩ rfl rk_MO_backOne_MO_stop d_MO_backOne_41 ⟨Nat.zero_le _, Nat.zero_le _⟩ (c_MO_stop x.l hY) (Nat.le_of_ble_eq_true rfl) (fun r41 σ41 h41 => ?_)
    obtain ⟨e41, w41⟩ := h41
    rw [w41]
    refine r_i (pc := 44) C d_MO_backOne_44 ?_
    refine ⟨p5, p2.trans (p4.trans ((frm_sMF (by decide)).trans p6)), ?_⟩
    rw [e41, if_neg y, mS_p p5.2.1.2.2.2, mS_c p5.2.1.2.2.2, p7, sMF_F, mS_c p3.2.1.2.2.2]
    rw [p6.2.2.1, p6.2.2.2.1]
    show stopS (σ28.MF 2) (σ28.MF 3) _ _ _ = _
    rw [p4.2.2.1, p4.2.2.2.1, p2.2.2.1, p2.2.2.2.1]
  · have y : t - 1 = 0 := (nI_eq (b := 0) (by omega) (by decide)).mp c13
    refine v_aload_n (pc := 16) C d_MO_backOne_16 rfl ?_
    refine v_iconst (pc := 17) (v := 0) C d_MO_backOne_17 (by decide) ?_
    refine v_top (b := nI (t - 1)) (by rw [y]; rfl) ?_
    refine kU1v (pc := 18) C hY cb_MO_143 ⟨im_MO_seek, sl_MO_seek⟩ rfl rk_MO_backOne_MO_seek d_MO_backOne_18 ⟨Nat.zero_le _, Nat.zero_le _⟩ (c_MO_seek x.l hY p1 (by omega)) (Nat.le_of_ble_eq_true rfl) (fun σ18 h18 => ?_)
    obtain ⟨p3, p4, -⟩ := h18
    refine v_bipush (pc := 21) (v := 12) C d_MO_backOne_21 (by decide) ?_
    refine r_i (pc := 23) C d_MO_backOne_23 ?_
    exact ⟨p3, p2.trans p4, (if_pos y).symm⟩
