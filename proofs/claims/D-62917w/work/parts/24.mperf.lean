/-- the model's perform -/
theorem c_MO_perform (l : Launch) {γ : GH} (hY : 146 ≤ γ.N) {σ : SGG} {s : SS} {h tk gv : Nat} (hh : s.h = nI h) (h24 : h ≤ 24) (hk : s.k = nI tk) (hg : σ.MI 1 = nI gv) (htk : tk ≤ gv) (hgv : gv ≤ 40) (hc : chk (σ.MF 0) (σ.MI 1) s = 0) : Ct l y_MO_perform b_MO_perform 4 none rm_MO_perform γ (enc γ (mM σ s)) [.ref (aU γ)] (PV γ (fun u => u = mM σ (stp (σ.MF 0) (σ.MF 1) s))) := by
  refine ct_of "ReplayMachineModel" (by decide) rfl rfl (Nat.le_of_ble_eq_true rfl) (fun x hl C => ?_)
  subst hl
  show V x γ (0, 0) _ _ 0 [some (.ref (aU γ)), none, none, none] []
  obtain ⟨p0, p1, g1, g2, g3, g4, g5⟩ := chk_inv hc
  obtain ⟨w, ew⟩ : ∃ w, w = σ.MF 0 s.p.toNatClampNeg := ⟨_, rfl⟩
  have ew2 : wAt (σ.MF 0) s = w := ew.symm
  rw [ew2] at g1 g2 g3 g4 g5
  obtain ⟨s1, es⟩ : ∃ s1, s1 = adv s := ⟨_, rfl⟩
  have s1h : s1.h = nI h := by rw [es]; exact hh
  have s1k : s1.k = nI tk := by rw [es]; exact hk
  have s1f : s1.f = s.f := by rw [es]; rfl
  have s1t : topS s1 = topS s := by rw [es]; rfl
  have fin : ∀ (op : Nat), opOf w = op → mM σ (stpOp (σ.MF 1) op (argOf w) s1) = mM σ (stp (σ.MF 0) (σ.MF 1) s) := by
    intro op eo
    unfold stp
    rw [ew2, eo, ← es]
  refine v_aload_n (pc := 0) C d_MO_perform_0 rfl ?_
  refine gU_program (pc := 1) C hY d_MO_perform_1 fl_MO_7 ?_
  refine v_aload_n (pc := 4) C d_MO_perform_4 rfl ?_
  refine gU_pc (pc := 5) C hY d_MO_perform_5 fl_MO_66 ?_
  refine lU_program (pc := 8) C hY d_MO_perform_8 ?_ ?_
  · exact in_vp p0 p1 (by decide)
  refine v_bipush (pc := 9) (v := 31) C d_MO_perform_9 (by decide) ?_
  refine v_iand (pc := 11) C d_MO_perform_11 ?_
  refine v_top (b := nI (opOf w)) (by rw [← and31, ew]) ?_
  refine v_istore_n (pc := 12) C d_MO_perform_12 (Nat.le_of_ble_eq_true rfl) ?_
  refine v_aload_n (pc := 13) C d_MO_perform_13 rfl ?_
  refine gU_program (pc := 14) C hY d_MO_perform_14 fl_MO_7 ?_
  refine v_aload_n (pc := 17) C d_MO_perform_17 rfl ?_
  refine gU_pc (pc := 18) C hY d_MO_perform_18 fl_MO_66 ?_
  refine lU_program (pc := 21) C hY d_MO_perform_21 ?_ ?_
  · exact in_vp p0 p1 (by decide)
  refine v_iconst (pc := 22) (v := 5) C d_MO_perform_22 (by decide) ?_
  refine v_ishr (pc := 23) C d_MO_perform_23 ?_
  refine v_top (b := argOf w) (by rw [ew]; rfl) ?_
  refine v_istore_n (pc := 24) C d_MO_perform_24 (Nat.le_of_ble_eq_true rfl) ?_
  refine v_aload_n (pc := 25) C d_MO_perform_25 rfl ?_
  refine v_dup (pc := 26) C d_MO_perform_26 rfl ?_
  refine gU_pc (pc := 27) C hY d_MO_perform_27 fl_MO_66 ?_
  refine v_iconst (pc := 30) (v := 1) C d_MO_perform_30 (by decide) ?_
  refine v_iadd (pc := 31) C d_MO_perform_31 ?_
  refine pU_pc (pc := 32) C hY d_MO_perform_32 fl_MO_66 ?_
  refine v_aload_n (pc := 35) C d_MO_perform_35 rfl ?_
  refine v_dup (pc := 36) C d_MO_perform_36 rfl ?_
  refine gU_time (pc := 37) C hY d_MO_perform_37 fl_MO_63 ?_
  refine v_iconst (pc := 40) (v := 1) C d_MO_perform_40 (by decide) ?_
  refine v_iadd (pc := 41) C d_MO_perform_41 ?_
  refine pU_time (pc := 42) C hY d_MO_perform_42 fl_MO_63 ?_
  refine v_w (σ2 := mM σ s1) (by rw [es]; rfl) ?_
  have hcase : opOf w = 1 ∨ opOf w = 2 ∨ opOf w = 3 ∨ opOf w = 4 ∨ opOf w = 5 ∨ opOf w = 6 ∨ opOf w = 7 ∨ opOf w = 8 ∨ opOf w = 9 ∨ opOf w = 10 ∨ opOf w = 11 ∨ opOf w = 12 ∨ opOf w = 13 ∨ opOf w = 14 ∨ opOf w = 15 ∨ opOf w = 16 ∨ opOf w = 17 ∨ opOf w = 18 ∨ opOf w = 19 ∨ opOf w = 20 := by omega
  rcases hcase with e | e | e | e | e | e | e | e | e | e | e | e | e | e | e | e | e | e | e | e
  · have hx := chk_h (tk := 0) (lv := 1) hh h24 (by decide) (by decide) (by rw [e] at g3; exact g3) (by rw [e] at g5; exact g5)
    refine v_loc (L2 := [some (.ref (aU γ)), some (.int (nI 1)), some (.int (argOf w)), none]) (by rw [e]; rfl) ?_
    refine v_iload_n (pc := 45) C d_MO_perform_45 rfl ?_
    refine v_table (pc := 46) C 140 d_MO_perform_46 rfl (by decide) ?_
    refine v_aload_n (pc := 140) C d_MO_perform_140 rfl ?_
    refine v_iload_n (pc := 141) C d_MO_perform_141 rfl ?_
    refine kU1v (pc := 142) C hY cb_MO_96 ⟨im_MO_push, sl_MO_push⟩ rfl rk_MO_perform_MO_push d_MO_perform_142 ⟨Nat.zero_le _, Nat.zero_le _⟩ (c_MO_push x.l hY (by rw [s1h]; exact vp_in_nI (by omega) (by decide))) (Nat.le_of_ble_eq_true rfl) (fun σ142 h142 => ?_)
    subst h142
    refine v_goto (pc := 145) C 375 d_MO_perform_145 (by decide) ?_
    refine r_v (pc := 375) C d_MO_perform_375 ?_
    exact fin 1 e
  · have hx := chk_h (tk := 1) (lv := 0) hh h24 (by decide) (by decide) (by rw [e] at g3; exact g3) (by rw [e] at g5; exact g5)
    refine v_loc (L2 := [some (.ref (aU γ)), some (.int (nI 2)), some (.int (argOf w)), none]) (by rw [e]; rfl) ?_
    refine v_iload_n (pc := 45) C d_MO_perform_45 rfl ?_
    refine v_table (pc := 46) C 148 d_MO_perform_46 rfl (by decide) ?_
    refine v_aload_n (pc := 148) C d_MO_perform_148 rfl ?_
    refine v_dup (pc := 149) C d_MO_perform_149 rfl ?_
    refine gU_height (pc := 150) C hY d_MO_perform_150 fl_MO_75 ?_
    refine v_iconst (pc := 153) (v := 1) C d_MO_perform_153 (by decide) ?_
    refine v_isub (pc := 154) C d_MO_perform_154 ?_
    refine pU_height (pc := 155) C hY d_MO_perform_155 fl_MO_75 ?_
    refine v_goto (pc := 158) C 375 d_MO_perform_158 (by decide) ?_
    refine r_v (pc := 375) C d_MO_perform_375 ?_
    exact fin 2 e
  · have hx := chk_h (tk := 1) (lv := 2) hh h24 (by decide) (by decide) (by rw [e] at g3; exact g3) (by rw [e] at g5; exact g5)
    refine v_loc (L2 := [some (.ref (aU γ)), some (.int (nI 3)), some (.int (argOf w)), none]) (by rw [e]; rfl) ?_
    refine v_iload_n (pc := 45) C d_MO_perform_45 rfl ?_
    refine v_table (pc := 46) C 161 d_MO_perform_46 rfl (by decide) ?_
    refine v_aload_n (pc := 161) C d_MO_perform_161 rfl ?_
    refine v_aload_n (pc := 162) C d_MO_perform_162 rfl ?_
    refine gU_stack (pc := 163) C hY d_MO_perform_163 fl_MO_26 ?_
    refine v_aload_n (pc := 166) C d_MO_perform_166 rfl ?_
    refine gU_height (pc := 167) C hY d_MO_perform_167 fl_MO_75 ?_
    refine v_iconst (pc := 170) (v := 1) C d_MO_perform_170 (by decide) ?_
    refine v_isub (pc := 171) C d_MO_perform_171 ?_
    refine lU_stack (pc := 172) C hY d_MO_perform_172 ?_ ?_
    · show vp_in (s1.h - 1) 24; rw [s1h]; exact hm1 (by omega) h24
    refine kU1v (pc := 173) C hY cb_MO_96 ⟨im_MO_push, sl_MO_push⟩ rfl rk_MO_perform_MO_push d_MO_perform_173 ⟨Nat.zero_le _, Nat.zero_le _⟩ (c_MO_push x.l hY (by rw [s1h]; exact vp_in_nI (by omega) (by decide))) (Nat.le_of_ble_eq_true rfl) (fun σ173 h173 => ?_)
    subst h173
    refine v_goto (pc := 176) C 375 d_MO_perform_176 (by decide) ?_
    refine r_v (pc := 375) C d_MO_perform_375 ?_
    exact fin 3 e
  · have hx := chk_h (tk := 2) (lv := 2) hh h24 (by decide) (by decide) (by rw [e] at g3; exact g3) (by rw [e] at g5; exact g5)
    refine v_loc (L2 := [some (.ref (aU γ)), some (.int (nI 4)), some (.int (argOf w)), none]) (by rw [e]; rfl) ?_
    refine v_iload_n (pc := 45) C d_MO_perform_45 rfl ?_
    refine v_table (pc := 46) C 179 d_MO_perform_46 rfl (by decide) ?_
    refine v_aload_n (pc := 179) C d_MO_perform_179 rfl ?_
    refine gU_stack (pc := 180) C hY d_MO_perform_180 fl_MO_26 ?_
    refine v_aload_n (pc := 183) C d_MO_perform_183 rfl ?_
    refine gU_height (pc := 184) C hY d_MO_perform_184 fl_MO_75 ?_
    refine v_iconst (pc := 187) (v := 1) C d_MO_perform_187 (by decide) ?_
    refine v_isub (pc := 188) C d_MO_perform_188 ?_
    refine lU_stack (pc := 189) C hY d_MO_perform_189 ?_ ?_
    · show vp_in (s1.h - 1) 24; rw [s1h]; exact hm1 (by omega) h24
    refine v_istore_n (pc := 190) C d_MO_perform_190 (Nat.le_of_ble_eq_true rfl) ?_
    refine v_aload_n (pc := 191) C d_MO_perform_191 rfl ?_
    refine gU_stack (pc := 192) C hY d_MO_perform_192 fl_MO_26 ?_
    refine v_aload_n (pc := 195) C d_MO_perform_195 rfl ?_
    refine gU_height (pc := 196) C hY d_MO_perform_196 fl_MO_75 ?_
    refine v_iconst (pc := 199) (v := 1) C d_MO_perform_199 (by decide) ?_
    refine v_isub (pc := 200) C d_MO_perform_200 ?_
    refine v_aload_n (pc := 201) C d_MO_perform_201 rfl ?_
    refine gU_stack (pc := 202) C hY d_MO_perform_202 fl_MO_26 ?_
    refine v_aload_n (pc := 205) C d_MO_perform_205 rfl ?_
    refine gU_height (pc := 206) C hY d_MO_perform_206 fl_MO_75 ?_
    refine v_iconst (pc := 209) (v := 2) C d_MO_perform_209 (by decide) ?_
    refine v_isub (pc := 210) C d_MO_perform_210 ?_
    refine lU_stack (pc := 211) C hY d_MO_perform_211 ?_ ?_
    · show vp_in (s1.h - 2) 24; rw [s1h]; exact hm2 (by omega) h24
    refine stU_stack (pc := 212) C hY d_MO_perform_212 ?_ ?_
    · show vp_in (s1.h - 1) 24; rw [s1h]; exact hm1 (by omega) h24
    refine v_aload_n (pc := 213) C d_MO_perform_213 rfl ?_
    refine gU_stack (pc := 214) C hY d_MO_perform_214 fl_MO_26 ?_
    refine v_aload_n (pc := 217) C d_MO_perform_217 rfl ?_
    refine gU_height (pc := 218) C hY d_MO_perform_218 fl_MO_75 ?_
    refine v_iconst (pc := 221) (v := 2) C d_MO_perform_221 (by decide) ?_
    refine v_isub (pc := 222) C d_MO_perform_222 ?_
    refine v_iload_n (pc := 223) C d_MO_perform_223 rfl ?_
    refine stU_stack (pc := 224) C hY d_MO_perform_224 ?_ ?_
    · show vp_in (s1.h - 2) 24; rw [s1h]; exact hm2 (by omega) h24
    refine v_goto (pc := 225) C 375 d_MO_perform_225 (by decide) ?_
    refine r_v (pc := 375) C d_MO_perform_375 ?_
    exact fin 4 e
  · have hx := chk_h (tk := 2) (lv := 1) hh h24 (by decide) (by decide) (by rw [e] at g3; exact g3) (by rw [e] at g5; exact g5)
    refine v_loc (L2 := [some (.ref (aU γ)), some (.int (nI 5)), some (.int (argOf w)), none]) (by rw [e]; rfl) ?_
    refine v_iload_n (pc := 45) C d_MO_perform_45 rfl ?_
    refine v_table (pc := 46) C 357 d_MO_perform_46 rfl (by decide) ?_
    refine v_aload_n (pc := 357) C d_MO_perform_357 rfl ?_
    refine kU0i (pc := 358) C hY cb_MO_92 ⟨im_MO_pop, sl_MO_pop⟩ rfl rk_MO_perform_MO_pop d_MO_perform_358 ⟨Nat.zero_le _, Nat.zero_le _⟩ (c_MO_pop x.l hY (by rw [s1h]; exact hm1 (by omega) h24)) (Nat.le_of_ble_eq_true rfl) (fun r358 σ358 h358 => ?_)
    obtain ⟨rfl, rfl⟩ := h358
    refine v_istore_n (pc := 361) C d_MO_perform_361 (Nat.le_of_ble_eq_true rfl) ?_
    refine v_aload_n (pc := 362) C d_MO_perform_362 rfl ?_
    refine v_iload_n (pc := 363) C d_MO_perform_363 rfl ?_
    refine v_aload_n (pc := 364) C d_MO_perform_364 rfl ?_
    refine kU0i (pc := 365) C hY cb_MO_92 ⟨im_MO_pop, sl_MO_pop⟩ rfl rk_MO_perform_MO_pop d_MO_perform_365 ⟨Nat.zero_le _, Nat.zero_le _⟩ (c_MO_pop x.l hY (s := popS s1) (by show vp_in (s1.h - 1 - 1) 24; rw [s1h]; exact hm11 (by omega) h24)) (Nat.le_of_ble_eq_true rfl) (fun r365 σ365 h365 => ?_)
    obtain ⟨rfl, rfl⟩ := h365
    refine v_iload_n (pc := 368) C d_MO_perform_368 rfl ?_
    refine kk3i (pc := 369) C cb_MO_115 sm_MO_reckon rk_MO_perform_MO_reckon d_MO_perform_369 ⟨Nat.zero_le _, Nat.zero_le _⟩ (c_MO_reckon x.l (op := 5) (by decide) (by decide) (fun q => absurd q (by decide))) (Nat.le_of_ble_eq_true rfl) (fun r369 σ369 h369 => ?_)
    obtain ⟨rfl, rfl⟩ := h369
    refine kU1v (pc := 372) C hY cb_MO_96 ⟨im_MO_push, sl_MO_push⟩ rfl rk_MO_perform_MO_push d_MO_perform_372 ⟨Nat.zero_le _, Nat.zero_le _⟩ (c_MO_push x.l hY (s := popS (popS s1)) (by show vp_in (s1.h - 1 - 1) 24; rw [s1h]; exact hm11 (by omega) h24)) (Nat.le_of_ble_eq_true rfl) (fun σ372 h372 => ?_)
    subst h372
    refine r_v (pc := 375) C d_MO_perform_375 ?_
    rw [← fin 5 e, mo_join, mo_bel]
    rfl
  · have hx := chk_h (tk := 2) (lv := 1) hh h24 (by decide) (by decide) (by rw [e] at g3; exact g3) (by rw [e] at g5; exact g5)
    refine v_loc (L2 := [some (.ref (aU γ)), some (.int (nI 6)), some (.int (argOf w)), none]) (by rw [e]; rfl) ?_
    refine v_iload_n (pc := 45) C d_MO_perform_45 rfl ?_
    refine v_table (pc := 46) C 357 d_MO_perform_46 rfl (by decide) ?_
    refine v_aload_n (pc := 357) C d_MO_perform_357 rfl ?_
    refine kU0i (pc := 358) C hY cb_MO_92 ⟨im_MO_pop, sl_MO_pop⟩ rfl rk_MO_perform_MO_pop d_MO_perform_358 ⟨Nat.zero_le _, Nat.zero_le _⟩ (c_MO_pop x.l hY (by rw [s1h]; exact hm1 (by omega) h24)) (Nat.le_of_ble_eq_true rfl) (fun r358 σ358 h358 => ?_)
    obtain ⟨rfl, rfl⟩ := h358
    refine v_istore_n (pc := 361) C d_MO_perform_361 (Nat.le_of_ble_eq_true rfl) ?_
    refine v_aload_n (pc := 362) C d_MO_perform_362 rfl ?_
    refine v_iload_n (pc := 363) C d_MO_perform_363 rfl ?_
    refine v_aload_n (pc := 364) C d_MO_perform_364 rfl ?_
    refine kU0i (pc := 365) C hY cb_MO_92 ⟨im_MO_pop, sl_MO_pop⟩ rfl rk_MO_perform_MO_pop d_MO_perform_365 ⟨Nat.zero_le _, Nat.zero_le _⟩ (c_MO_pop x.l hY (s := popS s1) (by show vp_in (s1.h - 1 - 1) 24; rw [s1h]; exact hm11 (by omega) h24)) (Nat.le_of_ble_eq_true rfl) (fun r365 σ365 h365 => ?_)
    obtain ⟨rfl, rfl⟩ := h365
    refine v_iload_n (pc := 368) C d_MO_perform_368 rfl ?_
    refine kk3i (pc := 369) C cb_MO_115 sm_MO_reckon rk_MO_perform_MO_reckon d_MO_perform_369 ⟨Nat.zero_le _, Nat.zero_le _⟩ (c_MO_reckon x.l (op := 6) (by decide) (by decide) (fun q => absurd q (by decide))) (Nat.le_of_ble_eq_true rfl) (fun r369 σ369 h369 => ?_)
    obtain ⟨rfl, rfl⟩ := h369
    refine kU1v (pc := 372) C hY cb_MO_96 ⟨im_MO_push, sl_MO_push⟩ rfl rk_MO_perform_MO_push d_MO_perform_372 ⟨Nat.zero_le _, Nat.zero_le _⟩ (c_MO_push x.l hY (s := popS (popS s1)) (by show vp_in (s1.h - 1 - 1) 24; rw [s1h]; exact hm11 (by omega) h24)) (Nat.le_of_ble_eq_true rfl) (fun σ372 h372 => ?_)
    subst h372
    refine r_v (pc := 375) C d_MO_perform_375 ?_
    rw [← fin 6 e, mo_join, mo_bel]
    rfl
  · have hx := chk_h (tk := 2) (lv := 1) hh h24 (by decide) (by decide) (by rw [e] at g3; exact g3) (by rw [e] at g5; exact g5)
    refine v_loc (L2 := [some (.ref (aU γ)), some (.int (nI 7)), some (.int (argOf w)), none]) (by rw [e]; rfl) ?_
    refine v_iload_n (pc := 45) C d_MO_perform_45 rfl ?_
    refine v_table (pc := 46) C 357 d_MO_perform_46 rfl (by decide) ?_
    refine v_aload_n (pc := 357) C d_MO_perform_357 rfl ?_
    refine kU0i (pc := 358) C hY cb_MO_92 ⟨im_MO_pop, sl_MO_pop⟩ rfl rk_MO_perform_MO_pop d_MO_perform_358 ⟨Nat.zero_le _, Nat.zero_le _⟩ (c_MO_pop x.l hY (by rw [s1h]; exact hm1 (by omega) h24)) (Nat.le_of_ble_eq_true rfl) (fun r358 σ358 h358 => ?_)
    obtain ⟨rfl, rfl⟩ := h358
    refine v_istore_n (pc := 361) C d_MO_perform_361 (Nat.le_of_ble_eq_true rfl) ?_
    refine v_aload_n (pc := 362) C d_MO_perform_362 rfl ?_
    refine v_iload_n (pc := 363) C d_MO_perform_363 rfl ?_
    refine v_aload_n (pc := 364) C d_MO_perform_364 rfl ?_
    refine kU0i (pc := 365) C hY cb_MO_92 ⟨im_MO_pop, sl_MO_pop⟩ rfl rk_MO_perform_MO_pop d_MO_perform_365 ⟨Nat.zero_le _, Nat.zero_le _⟩ (c_MO_pop x.l hY (s := popS s1) (by show vp_in (s1.h - 1 - 1) 24; rw [s1h]; exact hm11 (by omega) h24)) (Nat.le_of_ble_eq_true rfl) (fun r365 σ365 h365 => ?_)
    obtain ⟨rfl, rfl⟩ := h365
    refine v_iload_n (pc := 368) C d_MO_perform_368 rfl ?_
    refine kk3i (pc := 369) C cb_MO_115 sm_MO_reckon rk_MO_perform_MO_reckon d_MO_perform_369 ⟨Nat.zero_le _, Nat.zero_le _⟩ (c_MO_reckon x.l (op := 7) (by decide) (by decide) (fun q => absurd q (by decide))) (Nat.le_of_ble_eq_true rfl) (fun r369 σ369 h369 => ?_)
    obtain ⟨rfl, rfl⟩ := h369
    refine kU1v (pc := 372) C hY cb_MO_96 ⟨im_MO_push, sl_MO_push⟩ rfl rk_MO_perform_MO_push d_MO_perform_372 ⟨Nat.zero_le _, Nat.zero_le _⟩ (c_MO_push x.l hY (s := popS (popS s1)) (by show vp_in (s1.h - 1 - 1) 24; rw [s1h]; exact hm11 (by omega) h24)) (Nat.le_of_ble_eq_true rfl) (fun σ372 h372 => ?_)
    subst h372
    refine r_v (pc := 375) C d_MO_perform_375 ?_
    rw [← fin 7 e, mo_join, mo_bel]
    rfl
  · have hx := chk_h (tk := 2) (lv := 1) hh h24 (by decide) (by decide) (by rw [e] at g3; exact g3) (by rw [e] at g5; exact g5)
    have hz : ¬ topS s1 = 0 := by rw [s1t]; exact fun q => by rw [e, ck8, if_pos q] at g4; exact absurd g4 (by decide)
    refine v_loc (L2 := [some (.ref (aU γ)), some (.int (nI 8)), some (.int (argOf w)), none]) (by rw [e]; rfl) ?_
    refine v_iload_n (pc := 45) C d_MO_perform_45 rfl ?_
    refine v_table (pc := 46) C 357 d_MO_perform_46 rfl (by decide) ?_
    refine v_aload_n (pc := 357) C d_MO_perform_357 rfl ?_
    refine kU0i (pc := 358) C hY cb_MO_92 ⟨im_MO_pop, sl_MO_pop⟩ rfl rk_MO_perform_MO_pop d_MO_perform_358 ⟨Nat.zero_le _, Nat.zero_le _⟩ (c_MO_pop x.l hY (by rw [s1h]; exact hm1 (by omega) h24)) (Nat.le_of_ble_eq_true rfl) (fun r358 σ358 h358 => ?_)
    obtain ⟨rfl, rfl⟩ := h358
    refine v_istore_n (pc := 361) C d_MO_perform_361 (Nat.le_of_ble_eq_true rfl) ?_
    refine v_aload_n (pc := 362) C d_MO_perform_362 rfl ?_
    refine v_iload_n (pc := 363) C d_MO_perform_363 rfl ?_
    refine v_aload_n (pc := 364) C d_MO_perform_364 rfl ?_
    refine kU0i (pc := 365) C hY cb_MO_92 ⟨im_MO_pop, sl_MO_pop⟩ rfl rk_MO_perform_MO_pop d_MO_perform_365 ⟨Nat.zero_le _, Nat.zero_le _⟩ (c_MO_pop x.l hY (s := popS s1) (by show vp_in (s1.h - 1 - 1) 24; rw [s1h]; exact hm11 (by omega) h24)) (Nat.le_of_ble_eq_true rfl) (fun r365 σ365 h365 => ?_)
    obtain ⟨rfl, rfl⟩ := h365
    refine v_iload_n (pc := 368) C d_MO_perform_368 rfl ?_
    refine kk3i (pc := 369) C cb_MO_115 sm_MO_reckon rk_MO_perform_MO_reckon d_MO_perform_369 ⟨Nat.zero_le _, Nat.zero_le _⟩ (c_MO_reckon x.l (op := 8) (by decide) (by decide) (fun _ => hz)) (Nat.le_of_ble_eq_true rfl) (fun r369 σ369 h369 => ?_)
    obtain ⟨rfl, rfl⟩ := h369
    refine kU1v (pc := 372) C hY cb_MO_96 ⟨im_MO_push, sl_MO_push⟩ rfl rk_MO_perform_MO_push d_MO_perform_372 ⟨Nat.zero_le _, Nat.zero_le _⟩ (c_MO_push x.l hY (s := popS (popS s1)) (by show vp_in (s1.h - 1 - 1) 24; rw [s1h]; exact hm11 (by omega) h24)) (Nat.le_of_ble_eq_true rfl) (fun σ372 h372 => ?_)
    subst h372
    refine r_v (pc := 375) C d_MO_perform_375 ?_
    rw [← fin 8 e, mo_join, mo_bel]
    rfl
  · have hx := chk_h (tk := 2) (lv := 1) hh h24 (by decide) (by decide) (by rw [e] at g3; exact g3) (by rw [e] at g5; exact g5)
    refine v_loc (L2 := [some (.ref (aU γ)), some (.int (nI 9)), some (.int (argOf w)), none]) (by rw [e]; rfl) ?_
    refine v_iload_n (pc := 45) C d_MO_perform_45 rfl ?_
    refine v_table (pc := 46) C 357 d_MO_perform_46 rfl (by decide) ?_
    refine v_aload_n (pc := 357) C d_MO_perform_357 rfl ?_
    refine kU0i (pc := 358) C hY cb_MO_92 ⟨im_MO_pop, sl_MO_pop⟩ rfl rk_MO_perform_MO_pop d_MO_perform_358 ⟨Nat.zero_le _, Nat.zero_le _⟩ (c_MO_pop x.l hY (by rw [s1h]; exact hm1 (by omega) h24)) (Nat.le_of_ble_eq_true rfl) (fun r358 σ358 h358 => ?_)
    obtain ⟨rfl, rfl⟩ := h358
    refine v_istore_n (pc := 361) C d_MO_perform_361 (Nat.le_of_ble_eq_true rfl) ?_
    refine v_aload_n (pc := 362) C d_MO_perform_362 rfl ?_
    refine v_iload_n (pc := 363) C d_MO_perform_363 rfl ?_
    refine v_aload_n (pc := 364) C d_MO_perform_364 rfl ?_
    refine kU0i (pc := 365) C hY cb_MO_92 ⟨im_MO_pop, sl_MO_pop⟩ rfl rk_MO_perform_MO_pop d_MO_perform_365 ⟨Nat.zero_le _, Nat.zero_le _⟩ (c_MO_pop x.l hY (s := popS s1) (by show vp_in (s1.h - 1 - 1) 24; rw [s1h]; exact hm11 (by omega) h24)) (Nat.le_of_ble_eq_true rfl) (fun r365 σ365 h365 => ?_)
    obtain ⟨rfl, rfl⟩ := h365
    refine v_iload_n (pc := 368) C d_MO_perform_368 rfl ?_
    refine kk3i (pc := 369) C cb_MO_115 sm_MO_reckon rk_MO_perform_MO_reckon d_MO_perform_369 ⟨Nat.zero_le _, Nat.zero_le _⟩ (c_MO_reckon x.l (op := 9) (by decide) (by decide) (fun q => absurd q (by decide))) (Nat.le_of_ble_eq_true rfl) (fun r369 σ369 h369 => ?_)
    obtain ⟨rfl, rfl⟩ := h369
    refine kU1v (pc := 372) C hY cb_MO_96 ⟨im_MO_push, sl_MO_push⟩ rfl rk_MO_perform_MO_push d_MO_perform_372 ⟨Nat.zero_le _, Nat.zero_le _⟩ (c_MO_push x.l hY (s := popS (popS s1)) (by show vp_in (s1.h - 1 - 1) 24; rw [s1h]; exact hm11 (by omega) h24)) (Nat.le_of_ble_eq_true rfl) (fun σ372 h372 => ?_)
    subst h372
    refine r_v (pc := 375) C d_MO_perform_375 ?_
    rw [← fin 9 e, mo_join, mo_bel]
    rfl
  · have hx := chk_h (tk := 1) (lv := 1) hh h24 (by decide) (by decide) (by rw [e] at g3; exact g3) (by rw [e] at g5; exact g5)
    have hz : vp_in (topS s1) 32 := by rw [s1t]; exact hin10 (by rw [e] at g4; exact g4)
    refine v_loc (L2 := [some (.ref (aU γ)), some (.int (nI 10)), some (.int (argOf w)), none]) (by rw [e]; rfl) ?_
    refine v_iload_n (pc := 45) C d_MO_perform_45 rfl ?_
    refine v_table (pc := 46) C 228 d_MO_perform_46 rfl (by decide) ?_
    refine v_aload_n (pc := 228) C d_MO_perform_228 rfl ?_
    refine v_aload_n (pc := 229) C d_MO_perform_229 rfl ?_
    refine gU_cells (pc := 230) C hY d_MO_perform_230 fl_MO_23 ?_
    refine v_aload_n (pc := 233) C d_MO_perform_233 rfl ?_
    refine kU0i (pc := 234) C hY cb_MO_92 ⟨im_MO_pop, sl_MO_pop⟩ rfl rk_MO_perform_MO_pop d_MO_perform_234 ⟨Nat.zero_le _, Nat.zero_le _⟩ (c_MO_pop x.l hY (by rw [s1h]; exact hm1 (by omega) h24)) (Nat.le_of_ble_eq_true rfl) (fun r234 σ234 h234 => ?_)
    obtain ⟨rfl, rfl⟩ := h234
    refine lU_cells (pc := 237) C hY d_MO_perform_237 ?_ ?_
    · exact hz
    refine kU1v (pc := 238) C hY cb_MO_96 ⟨im_MO_push, sl_MO_push⟩ rfl rk_MO_perform_MO_push d_MO_perform_238 ⟨Nat.zero_le _, Nat.zero_le _⟩ (c_MO_push x.l hY (s := popS s1) (by show vp_in (s1.h - 1) 24; rw [s1h]; exact hm1 (by omega) h24)) (Nat.le_of_ble_eq_true rfl) (fun σ238 h238 => ?_)
    subst h238
    refine v_goto (pc := 241) C 375 d_MO_perform_241 (by decide) ?_
    refine r_v (pc := 375) C d_MO_perform_375 ?_
    rw [← fin 10 e, mo_load]
    rfl
  · have hx := chk_h (tk := 2) (lv := 0) hh h24 (by decide) (by decide) (by rw [e] at g3; exact g3) (by rw [e] at g5; exact g5)
    have hz : vp_in (topS s1) 32 := by rw [s1t]; exact hin11 (by rw [e] at g4; exact g4)
    refine v_loc (L2 := [some (.ref (aU γ)), some (.int (nI 11)), some (.int (argOf w)), none]) (by rw [e]; rfl) ?_
    refine v_iload_n (pc := 45) C d_MO_perform_45 rfl ?_
    refine v_table (pc := 46) C 244 d_MO_perform_46 rfl (by decide) ?_
    refine v_aload_n (pc := 244) C d_MO_perform_244 rfl ?_
    refine kU0i (pc := 245) C hY cb_MO_92 ⟨im_MO_pop, sl_MO_pop⟩ rfl rk_MO_perform_MO_pop d_MO_perform_245 ⟨Nat.zero_le _, Nat.zero_le _⟩ (c_MO_pop x.l hY (by rw [s1h]; exact hm1 (by omega) h24)) (Nat.le_of_ble_eq_true rfl) (fun r245 σ245 h245 => ?_)
    obtain ⟨rfl, rfl⟩ := h245
    refine v_istore_n (pc := 248) C d_MO_perform_248 (Nat.le_of_ble_eq_true rfl) ?_
    refine v_aload_n (pc := 249) C d_MO_perform_249 rfl ?_
    refine gU_cells (pc := 250) C hY d_MO_perform_250 fl_MO_23 ?_
    refine v_iload_n (pc := 253) C d_MO_perform_253 rfl ?_
    refine v_aload_n (pc := 254) C d_MO_perform_254 rfl ?_
    refine kU0i (pc := 255) C hY cb_MO_92 ⟨im_MO_pop, sl_MO_pop⟩ rfl rk_MO_perform_MO_pop d_MO_perform_255 ⟨Nat.zero_le _, Nat.zero_le _⟩ (c_MO_pop x.l hY (s := popS s1) (by show vp_in (s1.h - 1 - 1) 24; rw [s1h]; exact hm11 (by omega) h24)) (Nat.le_of_ble_eq_true rfl) (fun r255 σ255 h255 => ?_)
    obtain ⟨rfl, rfl⟩ := h255
    refine v_top mo_bel ?_
    refine stU_cells (pc := 258) C hY d_MO_perform_258 ?_ ?_
    · exact hz
    refine v_goto (pc := 259) C 375 d_MO_perform_259 (by decide) ?_
    refine r_v (pc := 375) C d_MO_perform_375 ?_
    rw [← fin 11 e]
    show mM σ (setC (popS (popS s1)) (topS s1) (belS s1)) = mM σ (storeS s1)
    rw [mo_store]
  · have hx := chk_h (tk := 0) (lv := 0) hh h24 (by decide) (by decide) (by rw [e] at g3; exact g3) (by rw [e] at g5; exact g5)
    refine v_loc (L2 := [some (.ref (aU γ)), some (.int (nI 12)), some (.int (argOf w)), none]) (by rw [e]; rfl) ?_
    refine v_iload_n (pc := 45) C d_MO_perform_45 rfl ?_
    refine v_table (pc := 46) C 262 d_MO_perform_46 rfl (by decide) ?_
    refine v_aload_n (pc := 262) C d_MO_perform_262 rfl ?_
    refine v_iload_n (pc := 263) C d_MO_perform_263 rfl ?_
    refine v_iload_n (pc := 264) C d_MO_perform_264 rfl ?_
    refine kU2v (pc := 265) C hY cb_MO_102 ⟨im_MO_branch, sl_MO_branch⟩ rfl rk_MO_perform_MO_branch d_MO_perform_265 ⟨Nat.zero_le _, Nat.zero_le _⟩ (c_MO_branch x.l hY (op := 12) (by decide) (by decide) (fun q => absurd rfl q)) (Nat.le_of_ble_eq_true rfl) (fun σ265 h265 => ?_)
    subst h265
    refine v_goto (pc := 268) C 375 d_MO_perform_268 (by decide) ?_
    refine r_v (pc := 375) C d_MO_perform_375 ?_
    exact fin 12 e
  · have hx := chk_h (tk := 1) (lv := 0) hh h24 (by decide) (by decide) (by rw [e] at g3; exact g3) (by rw [e] at g5; exact g5)
    refine v_loc (L2 := [some (.ref (aU γ)), some (.int (nI 13)), some (.int (argOf w)), none]) (by rw [e]; rfl) ?_
    refine v_iload_n (pc := 45) C d_MO_perform_45 rfl ?_
    refine v_table (pc := 46) C 262 d_MO_perform_46 rfl (by decide) ?_
    refine v_aload_n (pc := 262) C d_MO_perform_262 rfl ?_
    refine v_iload_n (pc := 263) C d_MO_perform_263 rfl ?_
    refine v_iload_n (pc := 264) C d_MO_perform_264 rfl ?_
    refine kU2v (pc := 265) C hY cb_MO_102 ⟨im_MO_branch, sl_MO_branch⟩ rfl rk_MO_perform_MO_branch d_MO_perform_265 ⟨Nat.zero_le _, Nat.zero_le _⟩ (c_MO_branch x.l hY (op := 13) (by decide) (by decide) (fun q => (by rw [s1h]; exact hm1 (by omega) h24))) (Nat.le_of_ble_eq_true rfl) (fun σ265 h265 => ?_)
    subst h265
    refine v_goto (pc := 268) C 375 d_MO_perform_268 (by decide) ?_
    refine r_v (pc := 375) C d_MO_perform_375 ?_
    exact fin 13 e
  · have hx := chk_h (tk := 1) (lv := 0) hh h24 (by decide) (by decide) (by rw [e] at g3; exact g3) (by rw [e] at g5; exact g5)
    refine v_loc (L2 := [some (.ref (aU γ)), some (.int (nI 14)), some (.int (argOf w)), none]) (by rw [e]; rfl) ?_
    refine v_iload_n (pc := 45) C d_MO_perform_45 rfl ?_
    refine v_table (pc := 46) C 262 d_MO_perform_46 rfl (by decide) ?_
    refine v_aload_n (pc := 262) C d_MO_perform_262 rfl ?_
    refine v_iload_n (pc := 263) C d_MO_perform_263 rfl ?_
    refine v_iload_n (pc := 264) C d_MO_perform_264 rfl ?_
    refine kU2v (pc := 265) C hY cb_MO_102 ⟨im_MO_branch, sl_MO_branch⟩ rfl rk_MO_perform_MO_branch d_MO_perform_265 ⟨Nat.zero_le _, Nat.zero_le _⟩ (c_MO_branch x.l hY (op := 14) (by decide) (by decide) (fun q => (by rw [s1h]; exact hm1 (by omega) h24))) (Nat.le_of_ble_eq_true rfl) (fun σ265 h265 => ?_)
    subst h265
    refine v_goto (pc := 268) C 375 d_MO_perform_268 (by decide) ?_
    refine r_v (pc := 375) C d_MO_perform_375 ?_
    exact fin 14 e
  · have hx := chk_h (tk := 0) (lv := 2) hh h24 (by decide) (by decide) (by rw [e] at g3; exact g3) (by rw [e] at g5; exact g5)
    refine v_loc (L2 := [some (.ref (aU γ)), some (.int (nI 15)), some (.int (argOf w)), none]) (by rw [e]; rfl) ?_
    refine v_iload_n (pc := 45) C d_MO_perform_45 rfl ?_
    refine v_table (pc := 46) C 271 d_MO_perform_46 rfl (by decide) ?_
    refine v_aload_n (pc := 271) C d_MO_perform_271 rfl ?_
    refine v_iload_n (pc := 272) C d_MO_perform_272 rfl ?_
    refine kU1v (pc := 273) C hY cb_MO_106 ⟨im_MO_call, sl_MO_call⟩ rfl rk_MO_perform_MO_call d_MO_perform_273 ⟨Nat.zero_le _, Nat.zero_le _⟩ (c_MO_call x.l hY (by rw [s1h]; exact vp_in_nI (by omega) (by decide)) (by rw [s1h, nI_1]; exact vp_in_nI (by omega) (by decide))) (Nat.le_of_ble_eq_true rfl) (fun σ273 h273 => ?_)
    subst h273
    refine v_goto (pc := 276) C 375 d_MO_perform_276 (by decide) ?_
    refine r_v (pc := 375) C d_MO_perform_375 ?_
    exact fin 15 e
  · have hx := chk_h (tk := 1) (lv := 1) hh h24 (by decide) (by decide) (by rw [e] at g3; exact g3) (by rw [e] at g5; exact g5)
    obtain ⟨fr, hfr, hf2, efr⟩ := hin16 hh h24 (by rw [e] at g4; exact g4)
    refine v_loc (L2 := [some (.ref (aU γ)), some (.int (nI 16)), some (.int (argOf w)), none]) (by rw [e]; rfl) ?_
    refine v_iload_n (pc := 45) C d_MO_perform_45 rfl ?_
    refine v_table (pc := 46) C 279 d_MO_perform_46 rfl (by decide) ?_
    refine v_aload_n (pc := 279) C d_MO_perform_279 rfl ?_
    refine kU0v (pc := 280) C hY cb_MO_109 ⟨im_MO_giveBack, sl_MO_giveBack⟩ rfl rk_MO_perform_MO_giveBack d_MO_perform_280 ⟨Nat.zero_le _, Nat.zero_le _⟩ (c_MO_giveBack x.l hY (by rw [s1h]; exact hm1 (by omega) h24) (by rw [s1f, efr]; exact hm1 (by omega) (by omega)) (by rw [s1f, efr]; exact hm2 (by omega) (by omega))) (Nat.le_of_ble_eq_true rfl) (fun σ280 h280 => ?_)
    subst h280
    refine v_goto (pc := 283) C 375 d_MO_perform_283 (by decide) ?_
    refine r_v (pc := 375) C d_MO_perform_375 ?_
    exact fin 16 e
  · have hx := chk_h (tk := 0) (lv := 1) hh h24 (by decide) (by decide) (by rw [e] at g3; exact g3) (by rw [e] at g5; exact g5)
    obtain ⟨ja, hja, eja⟩ := hin17 hh h24 (by rw [e] at g4; exact g4)
    refine v_loc (L2 := [some (.ref (aU γ)), some (.int (nI 17)), some (.int (argOf w)), none]) (by rw [e]; rfl) ?_
    refine v_iload_n (pc := 45) C d_MO_perform_45 rfl ?_
    refine v_table (pc := 46) C 286 d_MO_perform_46 rfl (by decide) ?_
    refine v_aload_n (pc := 286) C d_MO_perform_286 rfl ?_
    refine v_aload_n (pc := 287) C d_MO_perform_287 rfl ?_
    refine gU_stack (pc := 288) C hY d_MO_perform_288 fl_MO_26 ?_
    refine v_aload_n (pc := 291) C d_MO_perform_291 rfl ?_
    refine gU_frame (pc := 292) C hY d_MO_perform_292 fl_MO_69 ?_
    refine v_iconst (pc := 295) (v := 3) C d_MO_perform_295 (by decide) ?_
    refine v_isub (pc := 296) C d_MO_perform_296 ?_
    refine v_iload_n (pc := 297) C d_MO_perform_297 rfl ?_
    refine v_isub (pc := 298) C d_MO_perform_298 ?_
    refine lU_stack (pc := 299) C hY d_MO_perform_299 ?_ ?_
    · show vp_in (s1.f - 3 - argOf w) 24; rw [s1f, eja]; exact vp_in_nI (by omega) (by decide)
    refine kU1v (pc := 300) C hY cb_MO_96 ⟨im_MO_push, sl_MO_push⟩ rfl rk_MO_perform_MO_push d_MO_perform_300 ⟨Nat.zero_le _, Nat.zero_le _⟩ (c_MO_push x.l hY (by rw [s1h]; exact vp_in_nI (by omega) (by decide))) (Nat.le_of_ble_eq_true rfl) (fun σ300 h300 => ?_)
    subst h300
    refine v_goto (pc := 303) C 375 d_MO_perform_303 (by decide) ?_
    refine r_v (pc := 375) C d_MO_perform_375 ?_
    exact fin 17 e
  · have hx := chk_h (tk := 0) (lv := 1) hh h24 (by decide) (by decide) (by rw [e] at g3; exact g3) (by rw [e] at g5; exact g5)
    have hz : tk < gv := hin18 hk hg (by omega) (by omega) (by rw [e] at g4; exact g4)
    refine v_loc (L2 := [some (.ref (aU γ)), some (.int (nI 18)), some (.int (argOf w)), none]) (by rw [e]; rfl) ?_
    refine v_iload_n (pc := 45) C d_MO_perform_45 rfl ?_
    refine v_table (pc := 46) C 306 d_MO_perform_46 rfl (by decide) ?_
    refine v_aload_n (pc := 306) C d_MO_perform_306 rfl ?_
    refine v_dup (pc := 307) C d_MO_perform_307 rfl ?_
    refine gU_taken (pc := 308) C hY d_MO_perform_308 fl_MO_72 ?_
    refine v_iconst (pc := 311) (v := 1) C d_MO_perform_311 (by decide) ?_
    refine v_iadd (pc := 312) C d_MO_perform_312 ?_
    refine pU_taken (pc := 313) C hY d_MO_perform_313 fl_MO_72 ?_
    refine v_aload_n (pc := 316) C d_MO_perform_316 rfl ?_
    refine v_aload_n (pc := 317) C d_MO_perform_317 rfl ?_
    refine gU_inputs (pc := 318) C hY d_MO_perform_318 fl_MO_13 ?_
    refine v_aload_n (pc := 321) C d_MO_perform_321 rfl ?_
    refine gU_taken (pc := 322) C hY d_MO_perform_322 fl_MO_72 ?_
    refine v_iconst (pc := 325) (v := 1) C d_MO_perform_325 (by decide) ?_
    refine v_isub (pc := 326) C d_MO_perform_326 ?_
    refine v_top (b := s1.k) (add1sub1 _) ?_
    refine lU_inputs (pc := 327) C hY d_MO_perform_327 ?_ ?_
    · show vp_in s1.k 40; rw [s1k]; exact vp_in_nI (by omega) (by decide)
    refine kU1v (pc := 328) C hY cb_MO_96 ⟨im_MO_push, sl_MO_push⟩ rfl rk_MO_perform_MO_push d_MO_perform_328 ⟨Nat.zero_le _, Nat.zero_le _⟩ (c_MO_push x.l hY (s := setTk s1 (s1.k + 1)) (by rw [q4_h, s1h]; exact vp_in_nI (by omega) (by decide))) (Nat.le_of_ble_eq_true rfl) (fun σ328 h328 => ?_)
    subst h328
    refine v_goto (pc := 331) C 375 d_MO_perform_331 (by decide) ?_
    refine r_v (pc := 375) C d_MO_perform_375 ?_
    rw [← fin 18 e, mo_input]
    rfl
  · have hx := chk_h (tk := 0) (lv := 1) hh h24 (by decide) (by decide) (by rw [e] at g3; exact g3) (by rw [e] at g5; exact g5)
    have hz : ¬ argOf w = 0 := hin19 (by rw [e] at g4; exact g4)
    refine v_loc (L2 := [some (.ref (aU γ)), some (.int (nI 19)), some (.int (argOf w)), none]) (by rw [e]; rfl) ?_
    refine v_iload_n (pc := 45) C d_MO_perform_45 rfl ?_
    refine v_table (pc := 46) C 334 d_MO_perform_46 rfl (by decide) ?_
    refine v_aload_n (pc := 334) C d_MO_perform_334 rfl ?_
    refine v_aload_n (pc := 335) C d_MO_perform_335 rfl ?_
    refine v_iload_n (pc := 336) C d_MO_perform_336 rfl ?_
    refine kU1i (pc := 337) C hY cb_MO_112 ⟨im_MO_draw, sl_MO_draw⟩ rfl rk_MO_perform_MO_draw d_MO_perform_337 ⟨Nat.zero_le _, Nat.zero_le _⟩ (c_MO_draw x.l hY hz) (Nat.le_of_ble_eq_true rfl) (fun r337 σ337 h337 => ?_)
    obtain ⟨rfl, rfl⟩ := h337
    refine kU1v (pc := 340) C hY cb_MO_96 ⟨im_MO_push, sl_MO_push⟩ rfl rk_MO_perform_MO_push d_MO_perform_340 ⟨Nat.zero_le _, Nat.zero_le _⟩ (c_MO_push x.l hY (s := setX s1 (nextX s1.x)) (by rw [q3_h, s1h]; exact vp_in_nI (by omega) (by decide))) (Nat.le_of_ble_eq_true rfl) (fun σ340 h340 => ?_)
    subst h340
    refine v_goto (pc := 343) C 375 d_MO_perform_343 (by decide) ?_
    refine r_v (pc := 375) C d_MO_perform_375 ?_
    rw [← fin 19 e]
    rfl
  · have hx := chk_h (tk := 0) (lv := 1) hh h24 (by decide) (by decide) (by rw [e] at g3; exact g3) (by rw [e] at g5; exact g5)
    refine v_loc (L2 := [some (.ref (aU γ)), some (.int (nI 20)), some (.int (argOf w)), none]) (by rw [e]; rfl) ?_
    refine v_iload_n (pc := 45) C d_MO_perform_45 rfl ?_
    refine v_table (pc := 46) C 346 d_MO_perform_46 rfl (by decide) ?_
    refine v_aload_n (pc := 346) C d_MO_perform_346 rfl ?_
    refine v_aload_n (pc := 347) C d_MO_perform_347 rfl ?_
    refine gU_frame (pc := 348) C hY d_MO_perform_348 fl_MO_69 ?_
    refine kU1v (pc := 351) C hY cb_MO_96 ⟨im_MO_push, sl_MO_push⟩ rfl rk_MO_perform_MO_push d_MO_perform_351 ⟨Nat.zero_le _, Nat.zero_le _⟩ (c_MO_push x.l hY (by rw [s1h]; exact vp_in_nI (by omega) (by decide))) (Nat.le_of_ble_eq_true rfl) (fun σ351 h351 => ?_)
    subst h351
    refine v_goto (pc := 354) C 375 d_MO_perform_354 (by decide) ?_
    refine r_v (pc := 375) C d_MO_perform_375 ?_
    exact fin 20 e
