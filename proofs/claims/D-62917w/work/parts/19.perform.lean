theorem pushT_setX {s t : SS} {v : Int32} : pushT (setX s v) t = pushT s t := rfl
theorem hm11 {h : Nat} (h1 : 2 ≤ h) (h24 : h ≤ 24) : vp_in (nI h - 1 - 1) 24 := by
  obtain ⟨k, rfl⟩ : ∃ k, h = k + 1 + 1 := ⟨h - 2, by omega⟩
  rw [nI_pred, nI_pred]
  exact vp_in_nI (by omega) (by decide)
theorem hinLS {s : SS} (g4 : (if topS s < 0 then (4 : Int32) else if topS s < 32 then 0 else 4) = 0) : vp_in (topS s) 32 := by
  split at g4
  · exact absurd g4 (by decide)
  · next a =>
    split at g4
    · next b => exact in_vp a b (by decide)
    · exact absurd g4 (by decide)
theorem hin10 {given : Int32} {s : SS} {n : Int32} (g4 : chkOp given s 10 n = 0) : vp_in (topS s) 32 := by
  unfold chkOp at g4
  rw [if_neg (by decide), if_neg (by decide), if_pos (by decide)] at g4
  exact hinLS g4
theorem hin11 {given : Int32} {s : SS} {n : Int32} (g4 : chkOp given s 11 n = 0) : vp_in (topS s) 32 := by
  unfold chkOp at g4
  rw [if_neg (by decide), if_neg (by decide), if_pos (by decide)] at g4
  exact hinLS g4
theorem hin16 {given : Int32} {s : SS} {n : Int32} {h : Nat} (hh : s.h = nI h) (h24 : h ≤ 24) (g4 : chkOp given s 16 n = 0) : ∃ fr, 2 ≤ fr ∧ fr < h ∧ s.f = nI fr := by
  unfold chkOp at g4
  rw [if_pos rfl] at g4
  split at g4
  · exact absurd g4 (by decide)
  · next a =>
    split at g4
    · next b =>
      rw [hh] at b
      have h0 : ¬ s.f < 0 := fun q => a (Int32.lt_trans q (by decide))
      obtain ⟨j, hj, ej⟩ := in_ex h0 b (by omega)
      refine ⟨j, ?_, hj, ej⟩
      rcases Nat.lt_or_ge j 2 with q | q
      · exact absurd (by rw [ej]; exact nI_lt q (by decide)) a
      · exact q
    · exact absurd g4 (by decide)
theorem hin17 {given : Int32} {s : SS} {n : Int32} {h : Nat} (hh : s.h = nI h) (h24 : h ≤ 24) (g4 : chkOp given s 17 n = 0) : ∃ j, j < h ∧ s.f - 3 - n = nI j := by
  unfold chkOp at g4
  rw [if_neg (by decide), if_pos rfl] at g4
  split at g4
  · exact absurd g4 (by decide)
  · next a => exact argJ h24 (by rw [← hh]; exact a)
theorem hin18 {given : Int32} {s : SS} {n : Int32} {tk gv : Nat} (hk : s.k = nI tk) (hg : given = nI gv) (h1 : tk < 2 ^ 31) (h2 : gv < 2 ^ 31) (g4 : chkOp given s 18 n = 0) : tk < gv := by
  unfold chkOp at g4
  rw [if_neg (by decide), if_neg (by decide), if_neg (by decide), if_neg (by decide), if_neg (by decide), if_pos rfl] at g4
  split at g4
  · next a => rw [hk, hg] at a; exact (nI_ltI h1 h2).mp a
  · exact absurd g4 (by decide)
theorem hin19 {given : Int32} {s : SS} {n : Int32} (g4 : chkOp given s 19 n = 0) : ¬ n = 0 := by
  unfold chkOp at g4
  rw [if_neg (by decide), if_neg (by decide), if_neg (by decide), if_neg (by decide), if_pos rfl] at g4
  split at g4
  · next a => intro e; rw [e] at a; exact absurd a (by decide)
  · exact absurd g4 (by decide)
/-- perform(s) -/
theorem c_RM_perform (l : Launch) {γ : GH} (hX : 135 ≤ γ.N) {σ : SGG} {i : Nat} (hi : i < 10) {s : SS} (hs : σ.S i = s) {nw mn : Nat} (hw : σ.J 0 = nI nw) (hnw : nw < 32) (hm : σ.J 1 = nI mn) (hmn : mn ≤ 32) {h tk gv : Nat} (hh : s.h = nI h) (h24 : h ≤ 24) (hk : s.k = nI tk) (hg : σ.I 0 = nI gv) (htk : tk ≤ gv) (hgv : gv ≤ 40) (hc : chk (σ.F 0) (σ.I 0) s = 0) : Ct l y_RM_perform b_RM_perform 5 none rm_RM_perform γ (enc γ σ) [.ref (aM γ), .ref (aS γ i)] (PV γ (fun u => u = P2 (sJ (sJ σ 0 (nI (nx32 nw))) 1 (nI (up32 mn))) i (nx32 nw) (stp (σ.F 0) (σ.F 1) s) (stpT (σ.F 0) s (σ.T (nx32 nw))))) := by
  refine ct_of "ReplayMachine" (by decide) rfl rfl (Nat.le_of_ble_eq_true rfl) (fun x hl C => ?_)
  subst hl
  show V x γ (0, 0) _ _ 0 [some (.ref (aM γ)), some (.ref (aS γ i)), none, none, none] []
  obtain ⟨p0, p1, g1, g2, g3, g4, g5⟩ := chk_inv hc
  obtain ⟨w, ew⟩ : ∃ w, w = wAt (σ.F 0) s := ⟨_, rfl⟩
  rw [← ew] at g1 g2 g3 g4 g5
  have hj : nx32 nw < 32 := Nat.mod_lt _ (by decide)
  obtain ⟨σb, eb⟩ : ∃ σb, σb = (sJ (sJ σ 0 (nI (nx32 nw))) 1 (nI (up32 mn))) := ⟨_, rfl⟩
  have ebF : σb.F = σ.F := by rw [eb]; rfl
  have ebI : σb.I = σ.I := by rw [eb]; rfl
  obtain ⟨t1, et⟩ : ∃ t1, t1 = (begT s (σ.T (nx32 nw))) := ⟨_, rfl⟩
  have tn : t1.n = 0 := by rw [et]; rfl
  have tc : vp_in t1.n 4 := by rw [tn]; exact vp_in_nI (n := 0) (by decide) (by decide)
  have tc2 : vp_in (t1.n + 1) 4 := by rw [tn]; exact vp_in_nI (n := 1) (by decide) (by decide)
  obtain ⟨s1, es⟩ : ∃ s1, s1 = adv s := ⟨_, rfl⟩
  have s1h : s1.h = nI h := by rw [es]; exact hh
  have s1k : s1.k = nI tk := by rw [es]; exact hk
  have s1f : s1.f = s.f := by rw [es]; rfl
  have s1t : topS s1 = topS s := by rw [es]; rfl
  have fin : ∀ (op : Nat), opOf w = op → P2 σb i (nx32 nw) (stpOp (σ.F 1) op (argOf w) s1) (stpOpT op s1 t1) = P2 σb i (nx32 nw) (stp (σ.F 0) (σ.F 1) s) (stpT (σ.F 0) s (σ.T (nx32 nw))) := by
    intro op eo
    unfold stp stpT
    rw [← ew, eo, ← et, ← es]
  refine v_aload_n (pc := 0) C d_RM_perform_0 rfl ?_
  refine gM_notebook (pc := 1) C hX d_RM_perform_1 fl_RM_26 ?_
  refine v_aload_n (pc := 4) C d_RM_perform_4 rfl ?_
  refine kB1r (pc := 5) C hX cb_RM_121 ⟨im_NB_begin, sl_NB_begin⟩ rfl rk_RM_perform_NB_begin d_RM_perform_5 ⟨Nat.zero_le _, Nat.zero_le _⟩ (c_NB_begin x.l hX hi hs hw hnw hm hmn) (Nat.le_of_ble_eq_true rfl) (fun r5 σ5 h5 => ?_)
  obtain ⟨rfl, rfl⟩ := h5
  rw [← eb, ← et]
  refine v_w (σ2 := P2 σb i (nx32 nw) s t1) (by unfold P2; rw [show s = (sT σb (nx32 nw) t1).S i from by rw [← hs, eb]; rfl]; exact sS_eta.symm) ?_
  refine v_astore_n (pc := 8) C d_RM_perform_8 (Nat.le_of_ble_eq_true rfl) ?_
  refine v_aload_n (pc := 9) C d_RM_perform_9 rfl ?_
  refine gM_code (pc := 10) C hX d_RM_perform_10 fl_RM_7 ?_
  refine v_aload_n (pc := 13) C d_RM_perform_13 rfl ?_
  refine gS_pc (pc := 14) C hX hi P2_S d_RM_perform_14 fl_RM_80 ?_
  refine lM_code (pc := 17) C hX d_RM_perform_17 ?_ ?_
  · exact in_vp p0 p1 (by decide)
  refine v_top (b := w) (by rw [show (P2 σb i (nx32 nw) s t1).F = σ.F from ebF]; exact ew.symm) ?_
  refine v_istore_n (pc := 18) C d_RM_perform_18 (Nat.le_of_ble_eq_true rfl) ?_
  refine v_iload_n (pc := 19) C d_RM_perform_19 rfl ?_
  refine v_iconst (pc := 20) (v := 5) C d_RM_perform_20 (by decide) ?_
  refine v_ishr (pc := 21) C d_RM_perform_21 ?_
  refine v_top (b := argOf w) rfl ?_
  refine v_istore (pc := 22) C d_RM_perform_22 (Nat.le_of_ble_eq_true rfl) ?_
  refine v_aload_n (pc := 24) C d_RM_perform_24 rfl ?_
  refine v_dup (pc := 25) C d_RM_perform_25 rfl ?_
  refine gS_pc (pc := 26) C hX hi P2_S d_RM_perform_26 fl_RM_80 ?_
  refine v_iconst (pc := 29) (v := 1) C d_RM_perform_29 (by decide) ?_
  refine v_iadd (pc := 30) C d_RM_perform_30 ?_
  refine pS_pc (pc := 31) C hX hi P2_S P2_setS d_RM_perform_31 fl_RM_80 ?_
  refine v_aload_n (pc := 34) C d_RM_perform_34 rfl ?_
  refine v_dup (pc := 35) C d_RM_perform_35 rfl ?_
  refine gS_time (pc := 36) C hX hi P2_S d_RM_perform_36 fl_RM_125 ?_
  refine v_iconst (pc := 39) (v := 1) C d_RM_perform_39 (by decide) ?_
  refine v_iadd (pc := 40) C d_RM_perform_40 ?_
  refine pS_time (pc := 41) C hX hi P2_S P2_setS d_RM_perform_41 fl_RM_125 ?_
  refine v_w (σ2 := P2 σb i (nx32 nw) s1 t1) (by rw [es]; rfl) ?_
  refine v_getOPS (pc := 44) C d_RM_perform_44 fl_RM_83 ?_
  refine v_iload_n (pc := 47) C d_RM_perform_47 rfl ?_
  refine v_bipush (pc := 48) (v := 31) C d_RM_perform_48 (by decide) ?_
  refine v_iand (pc := 50) C d_RM_perform_50 ?_
  refine v_top (b := nI (opOf w)) (and31 w) ?_
  refine v_opsAtN (pc := 51) C  d_RM_perform_51 (g1) ?_
  refine k_ordinal (pc := 52) C g1 ml_RM_99 rk_RM_perform_EN_ordinal d_RM_perform_52 ⟨Nat.zero_le _, Nat.zero_le _⟩ (Nat.le_of_ble_eq_true rfl) ?_
  have hcase : opOf w = 1 ∨ opOf w = 2 ∨ opOf w = 3 ∨ opOf w = 4 ∨ opOf w = 5 ∨ opOf w = 6 ∨ opOf w = 7 ∨ opOf w = 8 ∨ opOf w = 9 ∨ opOf w = 10 ∨ opOf w = 11 ∨ opOf w = 12 ∨ opOf w = 13 ∨ opOf w = 14 ∨ opOf w = 15 ∨ opOf w = 16 ∨ opOf w = 17 ∨ opOf w = 18 ∨ opOf w = 19 ∨ opOf w = 20 := by omega
  rcases hcase with e | e | e | e | e | e | e | e | e | e | e | e | e | e | e | e | e | e | e | e
  · have hx := chk_h (tk := 0) (lv := 1) hh h24 (by decide) (by decide) (by rw [e] at g3; exact g3) (by rw [e] at g5; exact g5)
    refine v_top (b := nI 1) (by rw [e]) ?_
    refine v_table (pc := 55) C 144 d_RM_perform_55 rfl (by decide) ?_
    refine v_aload_n (pc := 144) C d_RM_perform_144 rfl ?_
    refine v_aload_n (pc := 145) C d_RM_perform_145 rfl ?_
    refine v_iload (pc := 146) C d_RM_perform_146 rfl ?_
    refine kS2v (pc := 148) C hX hi cb_RM_128 ⟨im_ST_push, sl_ST_push⟩ rfl rk_RM_perform_ST_push d_RM_perform_148 ⟨Nat.zero_le _, Nat.zero_le _⟩ (c_ST_push x.l hX hi hj (by rw [s1h]; exact vp_in_nI (by omega) (by decide)) tc) (Nat.le_of_ble_eq_true rfl) (fun σ148 h148 => ?_)
    subst h148
    refine v_goto (pc := 151) C 451 d_RM_perform_151 (by decide) ?_
    refine r_v (pc := 451) C d_RM_perform_451 ?_
    exact fin 1 e
  · have hx := chk_h (tk := 1) (lv := 0) hh h24 (by decide) (by decide) (by rw [e] at g3; exact g3) (by rw [e] at g5; exact g5)
    refine v_top (b := nI 2) (by rw [e]) ?_
    refine v_table (pc := 55) C 154 d_RM_perform_55 rfl (by decide) ?_
    refine v_aload_n (pc := 154) C d_RM_perform_154 rfl ?_
    refine v_dup (pc := 155) C d_RM_perform_155 rfl ?_
    refine gS_height (pc := 156) C hX hi P2_S d_RM_perform_156 fl_RM_93 ?_
    refine v_iconst (pc := 159) (v := 1) C d_RM_perform_159 (by decide) ?_
    refine v_isub (pc := 160) C d_RM_perform_160 ?_
    refine pS_height (pc := 161) C hX hi P2_S P2_setS d_RM_perform_161 fl_RM_93 ?_
    refine v_goto (pc := 164) C 451 d_RM_perform_164 (by decide) ?_
    refine r_v (pc := 451) C d_RM_perform_451 ?_
    exact fin 2 e
  · have hx := chk_h (tk := 1) (lv := 2) hh h24 (by decide) (by decide) (by rw [e] at g3; exact g3) (by rw [e] at g5; exact g5)
    refine v_top (b := nI 3) (by rw [e]) ?_
    refine v_table (pc := 55) C 167 d_RM_perform_55 rfl (by decide) ?_
    refine v_aload_n (pc := 167) C d_RM_perform_167 rfl ?_
    refine v_aload_n (pc := 168) C d_RM_perform_168 rfl ?_
    refine v_aload_n (pc := 169) C d_RM_perform_169 rfl ?_
    refine kS0i (pc := 170) C hX hi cb_RM_110 ⟨im_ST_top, sl_ST_top⟩ rfl rk_RM_perform_ST_top d_RM_perform_170 ⟨Nat.zero_le _, Nat.zero_le _⟩ (c_ST_top x.l hX hi P2_S (by rw [s1h]; exact hm1 (by omega) h24)) (Nat.le_of_ble_eq_true rfl) (fun r170 σ170 h170 => ?_)
    obtain ⟨rfl, rfl⟩ := h170
    refine kS2v (pc := 173) C hX hi cb_RM_128 ⟨im_ST_push, sl_ST_push⟩ rfl rk_RM_perform_ST_push d_RM_perform_173 ⟨Nat.zero_le _, Nat.zero_le _⟩ (c_ST_push x.l hX hi hj (by rw [s1h]; exact vp_in_nI (by omega) (by decide)) tc) (Nat.le_of_ble_eq_true rfl) (fun σ173 h173 => ?_)
    subst h173
    refine v_goto (pc := 176) C 451 d_RM_perform_176 (by decide) ?_
    refine r_v (pc := 451) C d_RM_perform_451 ?_
    exact fin 3 e
  · have hx := chk_h (tk := 2) (lv := 2) hh h24 (by decide) (by decide) (by rw [e] at g3; exact g3) (by rw [e] at g5; exact g5)
    refine v_top (b := nI 4) (by rw [e]) ?_
    refine v_table (pc := 55) C 179 d_RM_perform_55 rfl (by decide) ?_
    refine v_aload_n (pc := 179) C d_RM_perform_179 rfl ?_
    refine v_aload_n (pc := 180) C d_RM_perform_180 rfl ?_
    refine kS1v (pc := 181) C hX hi cb_RM_132 ⟨im_ST_swap, sl_ST_swap⟩ rfl rk_RM_perform_ST_swap d_RM_perform_181 ⟨Nat.zero_le _, Nat.zero_le _⟩ (c_ST_swap x.l hX hi hj (by rw [s1h]; exact hm1 (by omega) h24) (by rw [s1h]; exact hm2 (by omega) h24) tc tc2) (Nat.le_of_ble_eq_true rfl) (fun σ181 h181 => ?_)
    subst h181
    refine v_goto (pc := 184) C 451 d_RM_perform_184 (by decide) ?_
    refine r_v (pc := 451) C d_RM_perform_451 ?_
    exact fin 4 e
  · have hx := chk_h (tk := 2) (lv := 1) hh h24 (by decide) (by decide) (by rw [e] at g3; exact g3) (by rw [e] at g5; exact g5)
    refine v_top (b := nI 5) (by rw [e]) ?_
    refine v_table (pc := 55) C 187 d_RM_perform_55 rfl (by decide) ?_
    refine v_aload_n (pc := 187) C d_RM_perform_187 rfl ?_
    refine v_aload_n (pc := 188) C d_RM_perform_188 rfl ?_
    refine v_aload_n (pc := 189) C d_RM_perform_189 rfl ?_
    refine kS0i (pc := 190) C hX hi cb_RM_136 ⟨im_ST_below, sl_ST_below⟩ rfl rk_RM_perform_ST_below d_RM_perform_190 ⟨Nat.zero_le _, Nat.zero_le _⟩ (c_ST_below x.l hX hi P2_S (by rw [s1h]; exact hm2 (by omega) h24)) (Nat.le_of_ble_eq_true rfl) (fun r190 σ190 h190 => ?_)
    obtain ⟨rfl, rfl⟩ := h190
    refine v_aload_n (pc := 193) C d_RM_perform_193 rfl ?_
    refine kS0i (pc := 194) C hX hi cb_RM_110 ⟨im_ST_top, sl_ST_top⟩ rfl rk_RM_perform_ST_top d_RM_perform_194 ⟨Nat.zero_le _, Nat.zero_le _⟩ (c_ST_top x.l hX hi P2_S (by rw [s1h]; exact hm1 (by omega) h24)) (Nat.le_of_ble_eq_true rfl) (fun r194 σ194 h194 => ?_)
    obtain ⟨rfl, rfl⟩ := h194
    refine v_iadd (pc := 197) C d_RM_perform_197 ?_
    refine kS2v (pc := 198) C hX hi cb_RM_139 ⟨im_ST_join, sl_ST_join⟩ rfl rk_RM_perform_ST_join d_RM_perform_198 ⟨Nat.zero_le _, Nat.zero_le _⟩ (c_ST_join x.l hX hi hj (by rw [s1h]; exact hm11 (by omega) h24) tc) (Nat.le_of_ble_eq_true rfl) (fun σ198 h198 => ?_)
    subst h198
    refine v_goto (pc := 201) C 451 d_RM_perform_201 (by decide) ?_
    refine r_v (pc := 451) C d_RM_perform_451 ?_
    exact fin 5 e
  · have hx := chk_h (tk := 2) (lv := 1) hh h24 (by decide) (by decide) (by rw [e] at g3; exact g3) (by rw [e] at g5; exact g5)
    refine v_top (b := nI 6) (by rw [e]) ?_
    refine v_table (pc := 55) C 204 d_RM_perform_55 rfl (by decide) ?_
    refine v_aload_n (pc := 204) C d_RM_perform_204 rfl ?_
    refine v_aload_n (pc := 205) C d_RM_perform_205 rfl ?_
    refine v_aload_n (pc := 206) C d_RM_perform_206 rfl ?_
    refine kS0i (pc := 207) C hX hi cb_RM_136 ⟨im_ST_below, sl_ST_below⟩ rfl rk_RM_perform_ST_below d_RM_perform_207 ⟨Nat.zero_le _, Nat.zero_le _⟩ (c_ST_below x.l hX hi P2_S (by rw [s1h]; exact hm2 (by omega) h24)) (Nat.le_of_ble_eq_true rfl) (fun r207 σ207 h207 => ?_)
    obtain ⟨rfl, rfl⟩ := h207
    refine v_aload_n (pc := 210) C d_RM_perform_210 rfl ?_
    refine kS0i (pc := 211) C hX hi cb_RM_110 ⟨im_ST_top, sl_ST_top⟩ rfl rk_RM_perform_ST_top d_RM_perform_211 ⟨Nat.zero_le _, Nat.zero_le _⟩ (c_ST_top x.l hX hi P2_S (by rw [s1h]; exact hm1 (by omega) h24)) (Nat.le_of_ble_eq_true rfl) (fun r211 σ211 h211 => ?_)
    obtain ⟨rfl, rfl⟩ := h211
    refine v_isub (pc := 214) C d_RM_perform_214 ?_
    refine kS2v (pc := 215) C hX hi cb_RM_139 ⟨im_ST_join, sl_ST_join⟩ rfl rk_RM_perform_ST_join d_RM_perform_215 ⟨Nat.zero_le _, Nat.zero_le _⟩ (c_ST_join x.l hX hi hj (by rw [s1h]; exact hm11 (by omega) h24) tc) (Nat.le_of_ble_eq_true rfl) (fun σ215 h215 => ?_)
    subst h215
    refine v_goto (pc := 218) C 451 d_RM_perform_218 (by decide) ?_
    refine r_v (pc := 451) C d_RM_perform_451 ?_
    exact fin 6 e
  · have hx := chk_h (tk := 2) (lv := 1) hh h24 (by decide) (by decide) (by rw [e] at g3; exact g3) (by rw [e] at g5; exact g5)
    refine v_top (b := nI 7) (by rw [e]) ?_
    refine v_table (pc := 55) C 221 d_RM_perform_55 rfl (by decide) ?_
    refine v_aload_n (pc := 221) C d_RM_perform_221 rfl ?_
    refine v_aload_n (pc := 222) C d_RM_perform_222 rfl ?_
    refine v_aload_n (pc := 223) C d_RM_perform_223 rfl ?_
    refine kS0i (pc := 224) C hX hi cb_RM_136 ⟨im_ST_below, sl_ST_below⟩ rfl rk_RM_perform_ST_below d_RM_perform_224 ⟨Nat.zero_le _, Nat.zero_le _⟩ (c_ST_below x.l hX hi P2_S (by rw [s1h]; exact hm2 (by omega) h24)) (Nat.le_of_ble_eq_true rfl) (fun r224 σ224 h224 => ?_)
    obtain ⟨rfl, rfl⟩ := h224
    refine v_aload_n (pc := 227) C d_RM_perform_227 rfl ?_
    refine kS0i (pc := 228) C hX hi cb_RM_110 ⟨im_ST_top, sl_ST_top⟩ rfl rk_RM_perform_ST_top d_RM_perform_228 ⟨Nat.zero_le _, Nat.zero_le _⟩ (c_ST_top x.l hX hi P2_S (by rw [s1h]; exact hm1 (by omega) h24)) (Nat.le_of_ble_eq_true rfl) (fun r228 σ228 h228 => ?_)
    obtain ⟨rfl, rfl⟩ := h228
    refine v_imul (pc := 231) C d_RM_perform_231 ?_
    refine kS2v (pc := 232) C hX hi cb_RM_139 ⟨im_ST_join, sl_ST_join⟩ rfl rk_RM_perform_ST_join d_RM_perform_232 ⟨Nat.zero_le _, Nat.zero_le _⟩ (c_ST_join x.l hX hi hj (by rw [s1h]; exact hm11 (by omega) h24) tc) (Nat.le_of_ble_eq_true rfl) (fun σ232 h232 => ?_)
    subst h232
    refine v_goto (pc := 235) C 451 d_RM_perform_235 (by decide) ?_
    refine r_v (pc := 451) C d_RM_perform_451 ?_
    exact fin 7 e
  · have hx := chk_h (tk := 2) (lv := 1) hh h24 (by decide) (by decide) (by rw [e] at g3; exact g3) (by rw [e] at g5; exact g5)
    have hz : ¬ topS s = 0 := fun q => by rw [e] at g4; unfold chkOp at g4; rw [if_neg (by decide), if_neg (by decide), if_neg (by decide), if_pos rfl, if_pos q] at g4; exact absurd g4 (by decide)
    refine v_top (b := nI 8) (by rw [e]) ?_
    refine v_table (pc := 55) C 238 d_RM_perform_55 rfl (by decide) ?_
    refine v_aload_n (pc := 238) C d_RM_perform_238 rfl ?_
    refine v_aload_n (pc := 239) C d_RM_perform_239 rfl ?_
    refine v_aload_n (pc := 240) C d_RM_perform_240 rfl ?_
    refine kS0i (pc := 241) C hX hi cb_RM_136 ⟨im_ST_below, sl_ST_below⟩ rfl rk_RM_perform_ST_below d_RM_perform_241 ⟨Nat.zero_le _, Nat.zero_le _⟩ (c_ST_below x.l hX hi P2_S (by rw [s1h]; exact hm2 (by omega) h24)) (Nat.le_of_ble_eq_true rfl) (fun r241 σ241 h241 => ?_)
    obtain ⟨rfl, rfl⟩ := h241
    refine v_aload_n (pc := 244) C d_RM_perform_244 rfl ?_
    refine kS0i (pc := 245) C hX hi cb_RM_110 ⟨im_ST_top, sl_ST_top⟩ rfl rk_RM_perform_ST_top d_RM_perform_245 ⟨Nat.zero_le _, Nat.zero_le _⟩ (c_ST_top x.l hX hi P2_S (by rw [s1h]; exact hm1 (by omega) h24)) (Nat.le_of_ble_eq_true rfl) (fun r245 σ245 h245 => ?_)
    obtain ⟨rfl, rfl⟩ := h245
    refine v_idiv (pc := 248) C d_RM_perform_248 ?_ ?_
    · rw [s1t]; exact hz
    refine kS2v (pc := 249) C hX hi cb_RM_139 ⟨im_ST_join, sl_ST_join⟩ rfl rk_RM_perform_ST_join d_RM_perform_249 ⟨Nat.zero_le _, Nat.zero_le _⟩ (c_ST_join x.l hX hi hj (by rw [s1h]; exact hm11 (by omega) h24) tc) (Nat.le_of_ble_eq_true rfl) (fun σ249 h249 => ?_)
    subst h249
    refine v_goto (pc := 252) C 451 d_RM_perform_252 (by decide) ?_
    refine r_v (pc := 451) C d_RM_perform_451 ?_
    exact fin 8 e
  · have hx := chk_h (tk := 2) (lv := 1) hh h24 (by decide) (by decide) (by rw [e] at g3; exact g3) (by rw [e] at g5; exact g5)
    refine v_top (b := nI 9) (by rw [e]) ?_
    refine v_table (pc := 55) C 255 d_RM_perform_55 rfl (by decide) ?_
    refine v_aload_n (pc := 255) C d_RM_perform_255 rfl ?_
    refine v_aload_n (pc := 256) C d_RM_perform_256 rfl ?_
    refine v_aload_n (pc := 257) C d_RM_perform_257 rfl ?_
    refine kS0i (pc := 258) C hX hi cb_RM_136 ⟨im_ST_below, sl_ST_below⟩ rfl rk_RM_perform_ST_below d_RM_perform_258 ⟨Nat.zero_le _, Nat.zero_le _⟩ (c_ST_below x.l hX hi P2_S (by rw [s1h]; exact hm2 (by omega) h24)) (Nat.le_of_ble_eq_true rfl) (fun r258 σ258 h258 => ?_)
    obtain ⟨rfl, rfl⟩ := h258
    refine v_aload_n (pc := 261) C d_RM_perform_261 rfl ?_
    refine kS0i (pc := 262) C hX hi cb_RM_110 ⟨im_ST_top, sl_ST_top⟩ rfl rk_RM_perform_ST_top d_RM_perform_262 ⟨Nat.zero_le _, Nat.zero_le _⟩ (c_ST_top x.l hX hi P2_S (by rw [s1h]; exact hm1 (by omega) h24)) (Nat.le_of_ble_eq_true rfl) (fun r262 σ262 h262 => ?_)
    obtain ⟨rfl, rfl⟩ := h262
    refine v_icmp_ge (pc := 265) C 272 d_RM_perform_265 (by decide) (fun c265 => ?_) (fun c265 => ?_)
    · refine v_iconst (pc := 272) (v := 0) C d_RM_perform_272 (by decide) ?_
      refine kS2v (pc := 273) C hX hi cb_RM_139 ⟨im_ST_join, sl_ST_join⟩ rfl rk_RM_perform_ST_join d_RM_perform_273 ⟨Nat.zero_le _, Nat.zero_le _⟩ (c_ST_join x.l hX hi hj (by rw [s1h]; exact hm11 (by omega) h24) tc) (Nat.le_of_ble_eq_true rfl) (fun σ273 h273 => ?_)
      subst h273
      refine v_goto (pc := 276) C 451 d_RM_perform_276 (by decide) ?_
      refine r_v (pc := 451) C d_RM_perform_451 ?_
      rw [← fin 9 e]
      first | (show P2 σb i (nx32 nw) (joinS s1 1) _ = P2 σb i (nx32 nw) (joinS s1 (if belS s1 < topS s1 then 1 else 0)) _; rw [if_pos (k2_lt c265)]; rfl) | (show P2 σb i (nx32 nw) (joinS s1 0) _ = P2 σb i (nx32 nw) (joinS s1 (if belS s1 < topS s1 then 1 else 0)) _; rw [if_neg (k2_nlt c265)]; rfl)
    · refine v_iconst (pc := 268) (v := 1) C d_RM_perform_268 (by decide) ?_
      refine v_goto (pc := 269) C 273 d_RM_perform_269 (by decide) ?_
      refine kS2v (pc := 273) C hX hi cb_RM_139 ⟨im_ST_join, sl_ST_join⟩ rfl rk_RM_perform_ST_join d_RM_perform_273 ⟨Nat.zero_le _, Nat.zero_le _⟩ (c_ST_join x.l hX hi hj (by rw [s1h]; exact hm11 (by omega) h24) tc) (Nat.le_of_ble_eq_true rfl) (fun σ273 h273 => ?_)
      subst h273
      refine v_goto (pc := 276) C 451 d_RM_perform_276 (by decide) ?_
      refine r_v (pc := 451) C d_RM_perform_451 ?_
      rw [← fin 9 e]
      first | (show P2 σb i (nx32 nw) (joinS s1 1) _ = P2 σb i (nx32 nw) (joinS s1 (if belS s1 < topS s1 then 1 else 0)) _; rw [if_pos (k2_lt c265)]; rfl) | (show P2 σb i (nx32 nw) (joinS s1 0) _ = P2 σb i (nx32 nw) (joinS s1 (if belS s1 < topS s1 then 1 else 0)) _; rw [if_neg (k2_nlt c265)]; rfl)
  · have hx := chk_h (tk := 1) (lv := 1) hh h24 (by decide) (by decide) (by rw [e] at g3; exact g3) (by rw [e] at g5; exact g5)
    have hz : vp_in (topS s1) 32 := by rw [s1t]; exact hin10 (by rw [e] at g4; exact g4)
    refine v_top (b := nI 10) (by rw [e]) ?_
    refine v_table (pc := 55) C 279 d_RM_perform_55 rfl (by decide) ?_
    refine v_aload_n (pc := 279) C d_RM_perform_279 rfl ?_
    refine v_aload_n (pc := 280) C d_RM_perform_280 rfl ?_
    refine v_aload_n (pc := 281) C d_RM_perform_281 rfl ?_
    refine gS_height (pc := 282) C hX hi P2_S d_RM_perform_282 fl_RM_93 ?_
    refine v_iconst (pc := 285) (v := 1) C d_RM_perform_285 (by decide) ?_
    refine v_isub (pc := 286) C d_RM_perform_286 ?_
    refine v_aload_n (pc := 287) C d_RM_perform_287 rfl ?_
    refine gS_cells (pc := 288) C hX hi P2_S d_RM_perform_288 fl_RM_142 ?_
    refine v_aload_n (pc := 291) C d_RM_perform_291 rfl ?_
    refine kS0i (pc := 292) C hX hi cb_RM_110 ⟨im_ST_top, sl_ST_top⟩ rfl rk_RM_perform_ST_top d_RM_perform_292 ⟨Nat.zero_le _, Nat.zero_le _⟩ (c_ST_top x.l hX hi P2_S (by rw [s1h]; exact hm1 (by omega) h24)) (Nat.le_of_ble_eq_true rfl) (fun r292 σ292 h292 => ?_)
    obtain ⟨rfl, rfl⟩ := h292
    refine lS_cells (pc := 295) C hX hi P2_S d_RM_perform_295 ?_ ?_
    · exact hz
    refine kSN3v (pc := 296) C hX hi ml_RM_145 ⟨cd_ST_write, in_ST, by decide +kernel⟩ ⟨im_ST_write, sl_ST_write⟩ rfl rk_RM_perform_ST_write d_RM_perform_296 ⟨Nat.zero_le _, Nat.zero_le _⟩ (c_ST_write x.l hX hi hj (by show vp_in (s1.h - 1) 24; rw [s1h]; exact hm1 (by omega) h24) tc) (Nat.le_of_ble_eq_true rfl) (fun σ296 h296 => ?_)
    subst h296
    refine v_goto (pc := 299) C 451 d_RM_perform_299 (by decide) ?_
    refine r_v (pc := 451) C d_RM_perform_451 ?_
    exact fin 10 e
  · have hx := chk_h (tk := 2) (lv := 0) hh h24 (by decide) (by decide) (by rw [e] at g3; exact g3) (by rw [e] at g5; exact g5)
    have hz : vp_in (topS s1) 32 := by rw [s1t]; exact hin11 (by rw [e] at g4; exact g4)
    refine v_top (b := nI 11) (by rw [e]) ?_
    refine v_table (pc := 55) C 302 d_RM_perform_55 rfl (by decide) ?_
    refine v_aload_n (pc := 302) C d_RM_perform_302 rfl ?_
    refine v_aload_n (pc := 303) C d_RM_perform_303 rfl ?_
    refine kS1v (pc := 304) C hX hi cb_RM_149 ⟨im_ST_store, sl_ST_store⟩ rfl rk_RM_perform_ST_store d_RM_perform_304 ⟨Nat.zero_le _, Nat.zero_le _⟩ (c_ST_store x.l hX hi hj (by rw [s1h]; exact hm1 (by omega) h24) (by rw [s1h]; exact hm2 (by omega) h24) hz tc) (Nat.le_of_ble_eq_true rfl) (fun σ304 h304 => ?_)
    subst h304
    refine v_goto (pc := 307) C 451 d_RM_perform_307 (by decide) ?_
    refine r_v (pc := 451) C d_RM_perform_451 ?_
    exact fin 11 e
  · have hx := chk_h (tk := 0) (lv := 0) hh h24 (by decide) (by decide) (by rw [e] at g3; exact g3) (by rw [e] at g5; exact g5)
    refine v_top (b := nI 12) (by rw [e]) ?_
    refine v_table (pc := 55) C 310 d_RM_perform_55 rfl (by decide) ?_
    refine v_aload_n (pc := 310) C d_RM_perform_310 rfl ?_
    refine v_iload (pc := 311) C d_RM_perform_311 rfl ?_
    refine pS_pc (pc := 313) C hX hi P2_S P2_setS d_RM_perform_313 fl_RM_80 ?_
    refine v_goto (pc := 316) C 451 d_RM_perform_316 (by decide) ?_
    refine r_v (pc := 451) C d_RM_perform_451 ?_
    exact fin 12 e
  · have hx := chk_h (tk := 1) (lv := 0) hh h24 (by decide) (by decide) (by rw [e] at g3; exact g3) (by rw [e] at g5; exact g5)
    refine v_top (b := nI 13) (by rw [e]) ?_
    refine v_table (pc := 55) C 319 d_RM_perform_55 rfl (by decide) ?_
    refine v_aload_n (pc := 319) C d_RM_perform_319 rfl ?_
    refine v_iload (pc := 320) C d_RM_perform_320 rfl ?_
    refine v_aload_n (pc := 322) C d_RM_perform_322 rfl ?_
    refine kS0i (pc := 323) C hX hi cb_RM_110 ⟨im_ST_top, sl_ST_top⟩ rfl rk_RM_perform_ST_top d_RM_perform_323 ⟨Nat.zero_le _, Nat.zero_le _⟩ (c_ST_top x.l hX hi P2_S (by rw [s1h]; exact hm1 (by omega) h24)) (Nat.le_of_ble_eq_true rfl) (fun r323 σ323 h323 => ?_)
    obtain ⟨rfl, rfl⟩ := h323
    refine v_if_ne (pc := 326) C 333 d_RM_perform_326 (by decide) (fun c326 => ?_) (fun c326 => ?_)
    · refine v_iconst (pc := 333) (v := 0) C d_RM_perform_333 (by decide) ?_
      refine kk3v (pc := 334) C cb_RM_152 sm_RM_branch rk_RM_perform_RM_branch d_RM_perform_334 ⟨Nat.zero_le _, Nat.zero_le _⟩ (c_RM_branch x.l hX hi P2_S P2_setS) (Nat.le_of_ble_eq_true rfl) (fun σ334 h334 => ?_)
      subst h334
      refine v_goto (pc := 337) C 451 d_RM_perform_337 (by decide) ?_
      refine r_v (pc := 451) C d_RM_perform_451 ?_
      rw [← fin 13 e]
      first | (show P2 σb i (nx32 nw) (if (1 : Int32) = 0 then _ else _) _ = P2 σb i (nx32 nw) (if topS s1 = 0 then _ else _) _; rw [if_neg (by decide), if_pos c326]; rfl) | (show P2 σb i (nx32 nw) (if (0 : Int32) = 0 then _ else _) _ = P2 σb i (nx32 nw) (if topS s1 = 0 then _ else _) _; rw [if_pos rfl, if_neg c326]; rfl)
    · refine v_iconst (pc := 329) (v := 1) C d_RM_perform_329 (by decide) ?_
      refine v_goto (pc := 330) C 334 d_RM_perform_330 (by decide) ?_
      refine kk3v (pc := 334) C cb_RM_152 sm_RM_branch rk_RM_perform_RM_branch d_RM_perform_334 ⟨Nat.zero_le _, Nat.zero_le _⟩ (c_RM_branch x.l hX hi P2_S P2_setS) (Nat.le_of_ble_eq_true rfl) (fun σ334 h334 => ?_)
      subst h334
      refine v_goto (pc := 337) C 451 d_RM_perform_337 (by decide) ?_
      refine r_v (pc := 451) C d_RM_perform_451 ?_
      rw [← fin 13 e]
      first | (show P2 σb i (nx32 nw) (if (1 : Int32) = 0 then _ else _) _ = P2 σb i (nx32 nw) (if topS s1 = 0 then _ else _) _; rw [if_neg (by decide), if_pos c326]; rfl) | (show P2 σb i (nx32 nw) (if (0 : Int32) = 0 then _ else _) _ = P2 σb i (nx32 nw) (if topS s1 = 0 then _ else _) _; rw [if_pos rfl, if_neg c326]; rfl)
  · have hx := chk_h (tk := 1) (lv := 0) hh h24 (by decide) (by decide) (by rw [e] at g3; exact g3) (by rw [e] at g5; exact g5)
    refine v_top (b := nI 14) (by rw [e]) ?_
    refine v_table (pc := 55) C 340 d_RM_perform_55 rfl (by decide) ?_
    refine v_aload_n (pc := 340) C d_RM_perform_340 rfl ?_
    refine v_iload (pc := 341) C d_RM_perform_341 rfl ?_
    refine v_aload_n (pc := 343) C d_RM_perform_343 rfl ?_
    refine kS0i (pc := 344) C hX hi cb_RM_110 ⟨im_ST_top, sl_ST_top⟩ rfl rk_RM_perform_ST_top d_RM_perform_344 ⟨Nat.zero_le _, Nat.zero_le _⟩ (c_ST_top x.l hX hi P2_S (by rw [s1h]; exact hm1 (by omega) h24)) (Nat.le_of_ble_eq_true rfl) (fun r344 σ344 h344 => ?_)
    obtain ⟨rfl, rfl⟩ := h344
    refine v_if_ge (pc := 347) C 354 d_RM_perform_347 (by decide) (fun c347 => ?_) (fun c347 => ?_)
    · refine v_iconst (pc := 354) (v := 0) C d_RM_perform_354 (by decide) ?_
      refine kk3v (pc := 355) C cb_RM_152 sm_RM_branch rk_RM_perform_RM_branch d_RM_perform_355 ⟨Nat.zero_le _, Nat.zero_le _⟩ (c_RM_branch x.l hX hi P2_S P2_setS) (Nat.le_of_ble_eq_true rfl) (fun σ355 h355 => ?_)
      subst h355
      refine v_goto (pc := 358) C 451 d_RM_perform_358 (by decide) ?_
      refine r_v (pc := 451) C d_RM_perform_451 ?_
      rw [← fin 14 e]
      first | (show P2 σb i (nx32 nw) (if (1 : Int32) = 0 then _ else _) _ = P2 σb i (nx32 nw) (if topS s1 < 0 then _ else _) _; rw [if_neg (by decide), if_pos (k2_lt c347)]; rfl) | (show P2 σb i (nx32 nw) (if (0 : Int32) = 0 then _ else _) _ = P2 σb i (nx32 nw) (if topS s1 < 0 then _ else _) _; rw [if_pos rfl, if_neg (k2_nlt c347)]; rfl)
    · refine v_iconst (pc := 350) (v := 1) C d_RM_perform_350 (by decide) ?_
      refine v_goto (pc := 351) C 355 d_RM_perform_351 (by decide) ?_
      refine kk3v (pc := 355) C cb_RM_152 sm_RM_branch rk_RM_perform_RM_branch d_RM_perform_355 ⟨Nat.zero_le _, Nat.zero_le _⟩ (c_RM_branch x.l hX hi P2_S P2_setS) (Nat.le_of_ble_eq_true rfl) (fun σ355 h355 => ?_)
      subst h355
      refine v_goto (pc := 358) C 451 d_RM_perform_358 (by decide) ?_
      refine r_v (pc := 451) C d_RM_perform_451 ?_
      rw [← fin 14 e]
      first | (show P2 σb i (nx32 nw) (if (1 : Int32) = 0 then _ else _) _ = P2 σb i (nx32 nw) (if topS s1 < 0 then _ else _) _; rw [if_neg (by decide), if_pos (k2_lt c347)]; rfl) | (show P2 σb i (nx32 nw) (if (0 : Int32) = 0 then _ else _) _ = P2 σb i (nx32 nw) (if topS s1 < 0 then _ else _) _; rw [if_pos rfl, if_neg (k2_nlt c347)]; rfl)
  · have hx := chk_h (tk := 0) (lv := 2) hh h24 (by decide) (by decide) (by rw [e] at g3; exact g3) (by rw [e] at g5; exact g5)
    refine v_top (b := nI 15) (by rw [e]) ?_
    refine v_table (pc := 55) C 361 d_RM_perform_55 rfl (by decide) ?_
    refine v_aload_n (pc := 361) C d_RM_perform_361 rfl ?_
    refine v_aload_n (pc := 362) C d_RM_perform_362 rfl ?_
    refine v_iload (pc := 363) C d_RM_perform_363 rfl ?_
    refine kS2v (pc := 365) C hX hi cb_RM_156 ⟨im_ST_call, sl_ST_call⟩ rfl rk_RM_perform_ST_call d_RM_perform_365 ⟨Nat.zero_le _, Nat.zero_le _⟩ (c_ST_call x.l hX hi hj (by rw [s1h]; exact vp_in_nI (by omega) (by decide)) (by rw [s1h, nI_1]; exact vp_in_nI (by omega) (by decide)) tc tc2) (Nat.le_of_ble_eq_true rfl) (fun σ365 h365 => ?_)
    subst h365
    refine v_goto (pc := 368) C 451 d_RM_perform_368 (by decide) ?_
    refine r_v (pc := 451) C d_RM_perform_451 ?_
    exact fin 15 e
  · have hx := chk_h (tk := 1) (lv := 1) hh h24 (by decide) (by decide) (by rw [e] at g3; exact g3) (by rw [e] at g5; exact g5)
    obtain ⟨fr, hfr, hf2, efr⟩ := hin16 hh h24 (by rw [e] at g4; exact g4)
    refine v_top (b := nI 16) (by rw [e]) ?_
    refine v_table (pc := 55) C 371 d_RM_perform_55 rfl (by decide) ?_
    refine v_aload_n (pc := 371) C d_RM_perform_371 rfl ?_
    refine v_aload_n (pc := 372) C d_RM_perform_372 rfl ?_
    refine kS1v (pc := 373) C hX hi cb_RM_159 ⟨im_ST_giveBack, sl_ST_giveBack⟩ rfl rk_RM_perform_ST_giveBack d_RM_perform_373 ⟨Nat.zero_le _, Nat.zero_le _⟩ (c_ST_giveBack x.l hX hi hj (by rw [s1h]; exact hm1 (by omega) h24) (by rw [s1f, efr]; exact hm1 (by omega) (by omega)) (by rw [s1f, efr]; exact hm2 (by omega) (by omega)) tc) (Nat.le_of_ble_eq_true rfl) (fun σ373 h373 => ?_)
    subst h373
    refine v_goto (pc := 376) C 451 d_RM_perform_376 (by decide) ?_
    refine r_v (pc := 451) C d_RM_perform_451 ?_
    exact fin 16 e
  · have hx := chk_h (tk := 0) (lv := 1) hh h24 (by decide) (by decide) (by rw [e] at g3; exact g3) (by rw [e] at g5; exact g5)
    obtain ⟨ja, hja, eja⟩ := hin17 hh h24 (by rw [e] at g4; exact g4)
    refine v_top (b := nI 17) (by rw [e]) ?_
    refine v_table (pc := 55) C 379 d_RM_perform_55 rfl (by decide) ?_
    refine v_aload_n (pc := 379) C d_RM_perform_379 rfl ?_
    refine v_aload_n (pc := 380) C d_RM_perform_380 rfl ?_
    refine v_aload_n (pc := 381) C d_RM_perform_381 rfl ?_
    refine gS_stack (pc := 382) C hX hi P2_S d_RM_perform_382 fl_RM_162 ?_
    refine v_aload_n (pc := 385) C d_RM_perform_385 rfl ?_
    refine gS_frame (pc := 386) C hX hi P2_S d_RM_perform_386 fl_RM_103 ?_
    refine v_iconst (pc := 389) (v := 3) C d_RM_perform_389 (by decide) ?_
    refine v_isub (pc := 390) C d_RM_perform_390 ?_
    refine v_iload (pc := 391) C d_RM_perform_391 rfl ?_
    refine v_isub (pc := 393) C d_RM_perform_393 ?_
    refine lS_stack (pc := 394) C hX hi P2_S d_RM_perform_394 ?_ ?_
    · show vp_in (s1.f - 3 - argOf w) 24; rw [s1f, eja]; exact vp_in_nI (by omega) (by decide)
    refine kS2v (pc := 395) C hX hi cb_RM_128 ⟨im_ST_push, sl_ST_push⟩ rfl rk_RM_perform_ST_push d_RM_perform_395 ⟨Nat.zero_le _, Nat.zero_le _⟩ (c_ST_push x.l hX hi hj (by rw [s1h]; exact vp_in_nI (by omega) (by decide)) tc) (Nat.le_of_ble_eq_true rfl) (fun σ395 h395 => ?_)
    subst h395
    refine v_goto (pc := 398) C 451 d_RM_perform_398 (by decide) ?_
    refine r_v (pc := 451) C d_RM_perform_451 ?_
    exact fin 17 e
  · have hx := chk_h (tk := 0) (lv := 1) hh h24 (by decide) (by decide) (by rw [e] at g3; exact g3) (by rw [e] at g5; exact g5)
    have hz : tk < gv := hin18 hk hg (by omega) (by omega) (by rw [e] at g4; exact g4)
    refine v_top (b := nI 18) (by rw [e]) ?_
    refine v_table (pc := 55) C 401 d_RM_perform_55 rfl (by decide) ?_
    refine v_aload_n (pc := 401) C d_RM_perform_401 rfl ?_
    refine v_aload_n (pc := 402) C d_RM_perform_402 rfl ?_
    refine v_aload_n (pc := 403) C d_RM_perform_403 rfl ?_
    refine gM_inputs (pc := 404) C hX d_RM_perform_404 fl_RM_13 ?_
    refine v_aload_n (pc := 407) C d_RM_perform_407 rfl ?_
    refine gS_taken (pc := 408) C hX hi P2_S d_RM_perform_408 fl_RM_113 ?_
    refine lM_inputs (pc := 411) C hX d_RM_perform_411 ?_ ?_
    · show vp_in s1.k 40; rw [s1k]; exact vp_in_nI (by omega) (by decide)
    refine kS2v (pc := 412) C hX hi cb_RM_128 ⟨im_ST_push, sl_ST_push⟩ rfl rk_RM_perform_ST_push d_RM_perform_412 ⟨Nat.zero_le _, Nat.zero_le _⟩ (c_ST_push x.l hX hi hj (by rw [s1h]; exact vp_in_nI (by omega) (by decide)) tc) (Nat.le_of_ble_eq_true rfl) (fun σ412 h412 => ?_)
    subst h412
    refine v_aload_n (pc := 415) C d_RM_perform_415 rfl ?_
    refine v_dup (pc := 416) C d_RM_perform_416 rfl ?_
    refine gS_taken (pc := 417) C hX hi P2_S d_RM_perform_417 fl_RM_113 ?_
    refine v_iconst (pc := 420) (v := 1) C d_RM_perform_420 (by decide) ?_
    refine v_iadd (pc := 421) C d_RM_perform_421 ?_
    refine pS_taken (pc := 422) C hX hi P2_S P2_setS d_RM_perform_422 fl_RM_113 ?_
    refine v_goto (pc := 425) C 451 d_RM_perform_425 (by decide) ?_
    refine r_v (pc := 451) C d_RM_perform_451 ?_
    rw [← fin 18 e]
    show P2 σb i (nx32 nw) (q4 (pushS s1 (σb.F 1 s1.k.toNatClampNeg)) (s1.k + 1)) _ = P2 σb i (nx32 nw) (setTk (pushS s1 (σ.F 1 s1.k.toNatClampNeg)) (s1.k + 1)) _
    rw [ebF]
    rfl
  · have hx := chk_h (tk := 0) (lv := 1) hh h24 (by decide) (by decide) (by rw [e] at g3; exact g3) (by rw [e] at g5; exact g5)
    have hz : ¬ argOf w = 0 := hin19 (by rw [e] at g4; exact g4)
    refine v_top (b := nI 19) (by rw [e]) ?_
    refine v_table (pc := 55) C 428 d_RM_perform_55 rfl (by decide) ?_
    refine v_aload_n (pc := 428) C d_RM_perform_428 rfl ?_
    refine v_aload_n (pc := 429) C d_RM_perform_429 rfl ?_
    refine v_aload_n (pc := 430) C d_RM_perform_430 rfl ?_
    refine v_iload (pc := 431) C d_RM_perform_431 rfl ?_
    refine kS1i (pc := 433) C hX hi cb_RM_165 ⟨im_ST_draw, sl_ST_draw⟩ rfl rk_RM_perform_ST_draw d_RM_perform_433 ⟨Nat.zero_le _, Nat.zero_le _⟩ (c_ST_draw x.l hX hi P2_S hz P2_setS) (Nat.le_of_ble_eq_true rfl) (fun r433 σ433 h433 => ?_)
    obtain ⟨rfl, rfl⟩ := h433
    refine kS2v (pc := 436) C hX hi cb_RM_128 ⟨im_ST_push, sl_ST_push⟩ rfl rk_RM_perform_ST_push d_RM_perform_436 ⟨Nat.zero_le _, Nat.zero_le _⟩ (c_ST_push x.l hX hi hj (s := setX s1 (nextX s1.x)) (by rw [q3_h, s1h]; exact vp_in_nI (by omega) (by decide)) tc) (Nat.le_of_ble_eq_true rfl) (fun σ436 h436 => ?_)
    subst h436
    refine v_goto (pc := 439) C 451 d_RM_perform_439 (by decide) ?_
    refine r_v (pc := 451) C d_RM_perform_451 ?_
    rw [← fin 19 e]
    show P2 σb i (nx32 nw) (pushS (setX s1 (nextX s1.x)) (jrem (ush16 (nextX s1.x)) (argOf w))) (pushT (setX s1 (nextX s1.x)) t1) = P2 σb i (nx32 nw) (pushS (setX s1 (nextX s1.x)) (jrem (ush16 (nextX s1.x)) (argOf w))) (pushT s1 t1)
    rw [pushT_setX]
  · have hx := chk_h (tk := 0) (lv := 1) hh h24 (by decide) (by decide) (by rw [e] at g3; exact g3) (by rw [e] at g5; exact g5)
    refine v_top (b := nI 20) (by rw [e]) ?_
    refine v_table (pc := 55) C 442 d_RM_perform_55 rfl (by decide) ?_
    refine v_aload_n (pc := 442) C d_RM_perform_442 rfl ?_
    refine v_aload_n (pc := 443) C d_RM_perform_443 rfl ?_
    refine v_aload_n (pc := 444) C d_RM_perform_444 rfl ?_
    refine gS_frame (pc := 445) C hX hi P2_S d_RM_perform_445 fl_RM_103 ?_
    refine kS2v (pc := 448) C hX hi cb_RM_128 ⟨im_ST_push, sl_ST_push⟩ rfl rk_RM_perform_ST_push d_RM_perform_448 ⟨Nat.zero_le _, Nat.zero_le _⟩ (c_ST_push x.l hX hi hj (by rw [s1h]; exact vp_in_nI (by omega) (by decide)) tc) (Nat.le_of_ble_eq_true rfl) (fun σ448 h448 => ?_)
    subst h448
    refine r_v (pc := 451) C d_RM_perform_451 ?_
    exact fin 20 e
