/-- Note.add -/
theorem c_NT_add (l : Launch) {γ : GH} (hX : 135 ≤ γ.N) {σ σ2 : SGG} {j : Nat} (hj : j < 32) {t : SS} (ht : σ.T j = t) {p v : Int32} (hc : vp_in t.n 4) (hσ : sT σ j (addT t p v) = σ2) : Ct l y_NT_add b_NT_add 3 none rm_NT_add γ (enc γ σ) [.ref (aN γ j), .int p, .int v] (PV γ (fun u => u = σ2)) := by
  refine ct_of "ReplayMachine$Note" (by decide) rfl rfl (Nat.le_of_ble_eq_true rfl) (fun x hl C => ?_)
  subst hl
  show V x γ (0, 0) _ _ 0 [some (.ref (aN γ j)), some (.int p), some (.int v)] []
  refine v_aload_n (pc := 0) C d_NT_add_0 rfl ?_
  refine gT_places (pc := 1) C hX (by first | assumption | omega) (by first | assumption | exact P2_T | exact sT_T | rfl) d_NT_add_1 fl_NT_7 ?_
  refine v_aload_n (pc := 4) C d_NT_add_4 rfl ?_
  refine gT_changes (pc := 5) C hX (by first | assumption | omega) (by first | assumption | exact P2_T | exact sT_T | rfl) d_NT_add_5 fl_NT_16 ?_
  refine v_iload_n (pc := 8) C d_NT_add_8 rfl ?_
  refine stT_places (pc := 9) C hX (by first | assumption | omega) (by first | assumption | exact P2_T | exact sT_T | rfl) (by first | assumption | exact P2_setT | exact sT_sT | rfl) d_NT_add_9 ?_ ?_
  · exact hc
  refine v_aload_n (pc := 10) C d_NT_add_10 rfl ?_
  refine gT_values (pc := 11) C hX (by first | assumption | omega) (by first | assumption | exact P2_T | exact sT_T | rfl) d_NT_add_11 fl_NT_13 ?_
  refine v_aload_n (pc := 14) C d_NT_add_14 rfl ?_
  refine gT_changes (pc := 15) C hX (by first | assumption | omega) (by first | assumption | exact P2_T | exact sT_T | rfl) d_NT_add_15 fl_NT_16 ?_
  refine v_iload_n (pc := 18) C d_NT_add_18 rfl ?_
  refine stT_values (pc := 19) C hX (by first | assumption | omega) (by first | assumption | exact P2_T | exact sT_T | rfl) (by first | assumption | exact P2_setT | exact sT_sT | rfl) d_NT_add_19 ?_ ?_
  · exact hc
  refine v_aload_n (pc := 20) C d_NT_add_20 rfl ?_
  refine v_dup (pc := 21) C d_NT_add_21 rfl ?_
  refine gT_changes (pc := 22) C hX (by first | assumption | omega) (by first | assumption | exact P2_T | exact sT_T | rfl) d_NT_add_22 fl_NT_16 ?_
  refine v_iconst (pc := 25) (v := 1) C d_NT_add_25 (by decide) ?_
  refine v_iadd (pc := 26) C d_NT_add_26 ?_
  refine pT_changes (pc := 27) C hX (by first | assumption | omega) (by first | assumption | exact P2_T | exact sT_T | rfl) (by first | assumption | exact P2_setT | exact sT_sT | rfl) d_NT_add_27 fl_NT_16 ?_
  refine r_v (pc := 30) C d_NT_add_30 ?_
  exact hσ
theorem c_ST_top (l : Launch) {γ : GH} (hX : 135 ≤ γ.N) {σ : SGG} {i : Nat} (hi : i < 10) {s : SS} (hs : σ.S i = s) (hh : vp_in (s.h - 1) 24) : Ct l y_ST_top b_ST_top 1 (some .int) rm_ST_top γ (enc γ σ) [.ref (aS γ i)] (PI γ (fun r u => r = topS s ∧ u = σ)) := by
  refine ct_of "ReplayMachine$State" (by decide) rfl rfl (Nat.le_of_ble_eq_true rfl) (fun x hl C => ?_)
  subst hl
  show V x γ (0, 0) _ _ 0 [some (.ref (aS γ i))] []
  refine v_aload_n (pc := 0) C d_ST_top_0 rfl ?_
  refine gS_stack (pc := 1) C hX (by first | assumption | omega) (by first | assumption | exact P2_S | exact sS_S | rfl) d_ST_top_1 fl_ST_15 ?_
  refine v_aload_n (pc := 4) C d_ST_top_4 rfl ?_
  refine gS_height (pc := 5) C hX (by first | assumption | omega) (by first | assumption | exact P2_S | exact sS_S | rfl) d_ST_top_5 fl_ST_24 ?_
  refine v_iconst (pc := 8) (v := 1) C d_ST_top_8 (by decide) ?_
  refine v_isub (pc := 9) C d_ST_top_9 ?_
  refine lS_stack (pc := 10) C hX (by first | assumption | omega) (by first | assumption | exact P2_S | exact sS_S | rfl) d_ST_top_10 ?_ ?_
  · exact hh
  refine r_i (pc := 11) C d_ST_top_11 ?_
  exact ⟨rfl, rfl⟩
theorem c_ST_below (l : Launch) {γ : GH} (hX : 135 ≤ γ.N) {σ : SGG} {i : Nat} (hi : i < 10) {s : SS} (hs : σ.S i = s) (hh : vp_in (s.h - 2) 24) : Ct l y_ST_below b_ST_below 1 (some .int) rm_ST_below γ (enc γ σ) [.ref (aS γ i)] (PI γ (fun r u => r = belS s ∧ u = σ)) := by
  refine ct_of "ReplayMachine$State" (by decide) rfl rfl (Nat.le_of_ble_eq_true rfl) (fun x hl C => ?_)
  subst hl
  show V x γ (0, 0) _ _ 0 [some (.ref (aS γ i))] []
  refine v_aload_n (pc := 0) C d_ST_below_0 rfl ?_
  refine gS_stack (pc := 1) C hX (by first | assumption | omega) (by first | assumption | exact P2_S | exact sS_S | rfl) d_ST_below_1 fl_ST_15 ?_
  refine v_aload_n (pc := 4) C d_ST_below_4 rfl ?_
  refine gS_height (pc := 5) C hX (by first | assumption | omega) (by first | assumption | exact P2_S | exact sS_S | rfl) d_ST_below_5 fl_ST_24 ?_
  refine v_iconst (pc := 8) (v := 2) C d_ST_below_8 (by decide) ?_
  refine v_isub (pc := 9) C d_ST_below_9 ?_
  refine lS_stack (pc := 10) C hX (by first | assumption | omega) (by first | assumption | exact P2_S | exact sS_S | rfl) d_ST_below_10 ?_ ?_
  · exact hh
  refine r_i (pc := 11) C d_ST_below_11 ?_
  exact ⟨rfl, rfl⟩
theorem c_ST_write (l : Launch) {γ : GH} (hX : 135 ≤ γ.N) {σ : SGG} {i j : Nat} (hi : i < 10) (hj : j < 32) {s t : SS} {k v : Int32} (hk : vp_in k 24) (hc : vp_in t.n 4) : Ct l y_ST_write b_ST_write 4 none rm_ST_write γ (enc γ (P2 σ i j s t)) [.ref (aS γ i), .ref (aN γ j), .int k, .int v] (PV γ (fun u => u = P2 σ i j (setK s k v) (addT t k (s.s k.toNatClampNeg)))) := by
  refine ct_of "ReplayMachine$State" (by decide) rfl rfl (Nat.le_of_ble_eq_true rfl) (fun x hl C => ?_)
  subst hl
  show V x γ (0, 0) _ _ 0 [some (.ref (aS γ i)), some (.ref (aN γ j)), some (.int k), some (.int v)] []
  refine v_aload_n (pc := 0) C d_ST_write_0 rfl ?_
  refine v_iload_n (pc := 1) C d_ST_write_1 rfl ?_
  refine v_aload_n (pc := 2) C d_ST_write_2 rfl ?_
  refine gS_stack (pc := 3) C hX (by first | assumption | omega) (by first | assumption | exact P2_S | exact sS_S | rfl) d_ST_write_3 fl_ST_15 ?_
  refine v_iload_n (pc := 6) C d_ST_write_6 rfl ?_
  refine lS_stack (pc := 7) C hX (by first | assumption | omega) (by first | assumption | exact P2_S | exact sS_S | rfl) d_ST_write_7 ?_ ?_
  · exact hk
  refine kN2v (pc := 8) C hX (by first | assumption | omega) cb_ST_43 ⟨im_NT_add, sl_NT_add⟩ rfl rk_ST_write_NT_add d_ST_write_8 ⟨Nat.zero_le _, Nat.zero_le _⟩ (c_NT_add x.l hX hj P2_T hc P2_setT) (Nat.le_of_ble_eq_true rfl) (fun σ8 h8 => ?_)
  subst h8
  refine v_aload_n (pc := 11) C d_ST_write_11 rfl ?_
  refine gS_stack (pc := 12) C hX (by first | assumption | omega) (by first | assumption | exact P2_S | exact sS_S | rfl) d_ST_write_12 fl_ST_15 ?_
  refine v_iload_n (pc := 15) C d_ST_write_15 rfl ?_
  refine v_iload_n (pc := 16) C d_ST_write_16 rfl ?_
  refine stS_stack (pc := 17) C hX (by first | assumption | omega) (by first | assumption | exact P2_S | exact sS_S | rfl) (by first | assumption | exact P2_setS | exact sS_sS | rfl) d_ST_write_17 ?_ ?_
  · exact hk
  refine r_v (pc := 18) C d_ST_write_18 ?_
  rfl
theorem c_ST_push (l : Launch) {γ : GH} (hX : 135 ≤ γ.N) {σ : SGG} {i j : Nat} (hi : i < 10) (hj : j < 32) {s t : SS} {v : Int32} (hk : vp_in s.h 24) (hc : vp_in t.n 4) : Ct l y_ST_push b_ST_push 3 none rm_ST_push γ (enc γ (P2 σ i j s t)) [.ref (aS γ i), .ref (aN γ j), .int v] (PV γ (fun u => u = P2 σ i j (pushS s v) (pushT s t))) := by
  refine ct_of "ReplayMachine$State" (by decide) rfl rfl (Nat.le_of_ble_eq_true rfl) (fun x hl C => ?_)
  subst hl
  show V x γ (0, 0) _ _ 0 [some (.ref (aS γ i)), some (.ref (aN γ j)), some (.int v)] []
  refine v_aload_n (pc := 0) C d_ST_push_0 rfl ?_
  refine v_aload_n (pc := 1) C d_ST_push_1 rfl ?_
  refine v_aload_n (pc := 2) C d_ST_push_2 rfl ?_
  refine gS_height (pc := 3) C hX (by first | assumption | omega) (by first | assumption | exact P2_S | exact sS_S | rfl) d_ST_push_3 fl_ST_24 ?_
  refine v_iload_n (pc := 6) C d_ST_push_6 rfl ?_
  refine kS3v (pc := 7) C hX (by first | assumption | omega) cb_ST_49 ⟨im_ST_write, sl_ST_write⟩ rfl rk_ST_push_ST_write d_ST_push_7 ⟨Nat.zero_le _, Nat.zero_le _⟩ (c_ST_write x.l hX hi hj hk hc) (Nat.le_of_ble_eq_true rfl) (fun σ7 h7 => ?_)
  subst h7
  refine v_aload_n (pc := 10) C d_ST_push_10 rfl ?_
  refine v_dup (pc := 11) C d_ST_push_11 rfl ?_
  refine gS_height (pc := 12) C hX (by first | assumption | omega) (by first | assumption | exact P2_S | exact sS_S | rfl) d_ST_push_12 fl_ST_24 ?_
  refine v_iconst (pc := 15) (v := 1) C d_ST_push_15 (by decide) ?_
  refine v_iadd (pc := 16) C d_ST_push_16 ?_
  refine pS_height (pc := 17) C hX (by first | assumption | omega) (by first | assumption | exact P2_S | exact sS_S | rfl) (by first | assumption | exact P2_setS | exact sS_sS | rfl) d_ST_push_17 fl_ST_24 ?_
  refine r_v (pc := 20) C d_ST_push_20 ?_
  rfl
theorem c_ST_join (l : Launch) {γ : GH} (hX : 135 ≤ γ.N) {σ : SGG} {i j : Nat} (hi : i < 10) (hj : j < 32) {s t : SS} {v : Int32} (hk : vp_in (s.h - 1 - 1) 24) (hc : vp_in t.n 4) : Ct l y_ST_join b_ST_join 3 none rm_ST_join γ (enc γ (P2 σ i j s t)) [.ref (aS γ i), .ref (aN γ j), .int v] (PV γ (fun u => u = P2 σ i j (joinS s v) (joinT s t))) := by
  refine ct_of "ReplayMachine$State" (by decide) rfl rfl (Nat.le_of_ble_eq_true rfl) (fun x hl C => ?_)
  subst hl
  show V x γ (0, 0) _ _ 0 [some (.ref (aS γ i)), some (.ref (aN γ j)), some (.int v)] []
  refine v_aload_n (pc := 0) C d_ST_join_0 rfl ?_
  refine v_dup (pc := 1) C d_ST_join_1 rfl ?_
  refine gS_height (pc := 2) C hX (by first | assumption | omega) (by first | assumption | exact P2_S | exact sS_S | rfl) d_ST_join_2 fl_ST_24 ?_
  refine v_iconst (pc := 5) (v := 1) C d_ST_join_5 (by decide) ?_
  refine v_isub (pc := 6) C d_ST_join_6 ?_
  refine pS_height (pc := 7) C hX (by first | assumption | omega) (by first | assumption | exact P2_S | exact sS_S | rfl) (by first | assumption | exact P2_setS | exact sS_sS | rfl) d_ST_join_7 fl_ST_24 ?_
  refine v_aload_n (pc := 10) C d_ST_join_10 rfl ?_
  refine v_aload_n (pc := 11) C d_ST_join_11 rfl ?_
  refine v_aload_n (pc := 12) C d_ST_join_12 rfl ?_
  refine gS_height (pc := 13) C hX (by first | assumption | omega) (by first | assumption | exact P2_S | exact sS_S | rfl) d_ST_join_13 fl_ST_24 ?_
  refine v_iconst (pc := 16) (v := 1) C d_ST_join_16 (by decide) ?_
  refine v_isub (pc := 17) C d_ST_join_17 ?_
  refine v_iload_n (pc := 18) C d_ST_join_18 rfl ?_
  refine kS3v (pc := 19) C hX (by first | assumption | omega) cb_ST_49 ⟨im_ST_write, sl_ST_write⟩ rfl rk_ST_join_ST_write d_ST_join_19 ⟨Nat.zero_le _, Nat.zero_le _⟩ (c_ST_write x.l hX hi hj hk hc) (Nat.le_of_ble_eq_true rfl) (fun σ19 h19 => ?_)
  subst h19
  refine r_v (pc := 22) C d_ST_join_22 ?_
  rfl
theorem c_ST_store (l : Launch) {γ : GH} (hX : 135 ≤ γ.N) {σ : SGG} {i j : Nat} (hi : i < 10) (hj : j < 32) {s t : SS} (h1 : vp_in (s.h - 1) 24) (h2 : vp_in (s.h - 2) 24) (h3 : vp_in (topS s) 32) (hc : vp_in t.n 4) : Ct l y_ST_store b_ST_store 3 none rm_ST_store γ (enc γ (P2 σ i j s t)) [.ref (aS γ i), .ref (aN γ j)] (PV γ (fun u => u = P2 σ i j (storeS s) (storeT s t))) := by
  refine ct_of "ReplayMachine$State" (by decide) rfl rfl (Nat.le_of_ble_eq_true rfl) (fun x hl C => ?_)
  subst hl
  show V x γ (0, 0) _ _ 0 [some (.ref (aS γ i)), some (.ref (aN γ j)), none] []
  refine v_aload_n (pc := 0) C d_ST_store_0 rfl ?_
  refine kS0i (pc := 1) C hX (by first | assumption | omega) cb_ST_53 ⟨im_ST_top, sl_ST_top⟩ rfl rk_ST_store_ST_top d_ST_store_1 ⟨Nat.zero_le _, Nat.zero_le _⟩ (c_ST_top x.l hX hi P2_S h1) (Nat.le_of_ble_eq_true rfl) (fun r1 σ1 h1 => ?_)
  obtain ⟨rfl, rfl⟩ := h1
  refine v_istore_n (pc := 4) C d_ST_store_4 (Nat.le_of_ble_eq_true rfl) ?_
  refine v_aload_n (pc := 5) C d_ST_store_5 rfl ?_
  refine v_bipush (pc := 6) (v := 100) C d_ST_store_6 (by decide) ?_
  refine v_iload_n (pc := 8) C d_ST_store_8 rfl ?_
  refine v_iadd (pc := 9) C d_ST_store_9 ?_
  refine v_aload_n (pc := 10) C d_ST_store_10 rfl ?_
  refine gS_cells (pc := 11) C hX (by first | assumption | omega) (by first | assumption | exact P2_S | exact sS_S | rfl) d_ST_store_11 fl_ST_9 ?_
  refine v_iload_n (pc := 14) C d_ST_store_14 rfl ?_
  refine lS_cells (pc := 15) C hX (by first | assumption | omega) (by first | assumption | exact P2_S | exact sS_S | rfl) d_ST_store_15 ?_ ?_
  · exact h3
  refine kN2v (pc := 16) C hX (by first | assumption | omega) cb_ST_43 ⟨im_NT_add, sl_NT_add⟩ rfl rk_ST_store_NT_add d_ST_store_16 ⟨Nat.zero_le _, Nat.zero_le _⟩ (c_NT_add x.l hX hj P2_T hc P2_setT) (Nat.le_of_ble_eq_true rfl) (fun σ16 h16 => ?_)
  subst h16
  refine v_aload_n (pc := 19) C d_ST_store_19 rfl ?_
  refine gS_cells (pc := 20) C hX (by first | assumption | omega) (by first | assumption | exact P2_S | exact sS_S | rfl) d_ST_store_20 fl_ST_9 ?_
  refine v_iload_n (pc := 23) C d_ST_store_23 rfl ?_
  refine v_aload_n (pc := 24) C d_ST_store_24 rfl ?_
  refine kS0i (pc := 25) C hX (by first | assumption | omega) cb_ST_57 ⟨im_ST_below, sl_ST_below⟩ rfl rk_ST_store_ST_below d_ST_store_25 ⟨Nat.zero_le _, Nat.zero_le _⟩ (c_ST_below x.l hX hi P2_S h2) (Nat.le_of_ble_eq_true rfl) (fun r25 σ25 h25 => ?_)
  obtain ⟨rfl, rfl⟩ := h25
  refine stS_cells (pc := 28) C hX (by first | assumption | omega) (by first | assumption | exact P2_S | exact sS_S | rfl) (by first | assumption | exact P2_setS | exact sS_sS | rfl) d_ST_store_28 ?_ ?_
  · exact h3
  refine v_aload_n (pc := 29) C d_ST_store_29 rfl ?_
  refine v_dup (pc := 30) C d_ST_store_30 rfl ?_
  refine gS_height (pc := 31) C hX (by first | assumption | omega) (by first | assumption | exact P2_S | exact sS_S | rfl) d_ST_store_31 fl_ST_24 ?_
  refine v_iconst (pc := 34) (v := 2) C d_ST_store_34 (by decide) ?_
  refine v_isub (pc := 35) C d_ST_store_35 ?_
  refine pS_height (pc := 36) C hX (by first | assumption | omega) (by first | assumption | exact P2_S | exact sS_S | rfl) (by first | assumption | exact P2_setS | exact sS_sS | rfl) d_ST_store_36 fl_ST_24 ?_
  refine r_v (pc := 39) C d_ST_store_39 ?_
  rfl
theorem c_ST_swap (l : Launch) {γ : GH} (hX : 135 ≤ γ.N) {σ : SGG} {i j : Nat} (hi : i < 10) (hj : j < 32) {s t : SS} (h1 : vp_in (s.h - 1) 24) (h2 : vp_in (s.h - 2) 24) (hc : vp_in t.n 4) (hc2 : vp_in (t.n + 1) 4) : Ct l y_ST_swap b_ST_swap 4 none rm_ST_swap γ (enc γ (P2 σ i j s t)) [.ref (aS γ i), .ref (aN γ j)] (PV γ (fun u => u = P2 σ i j (swapS s) (swapT s t))) := by
  refine ct_of "ReplayMachine$State" (by decide) rfl rfl (Nat.le_of_ble_eq_true rfl) (fun x hl C => ?_)
  subst hl
  show V x γ (0, 0) _ _ 0 [some (.ref (aS γ i)), some (.ref (aN γ j)), none, none] []
  refine v_aload_n (pc := 0) C d_ST_swap_0 rfl ?_
  refine kS0i (pc := 1) C hX (by first | assumption | omega) cb_ST_53 ⟨im_ST_top, sl_ST_top⟩ rfl rk_ST_swap_ST_top d_ST_swap_1 ⟨Nat.zero_le _, Nat.zero_le _⟩ (c_ST_top x.l hX hi P2_S h1) (Nat.le_of_ble_eq_true rfl) (fun r1 σ1 h1 => ?_)
  obtain ⟨rfl, rfl⟩ := h1
  refine v_istore_n (pc := 4) C d_ST_swap_4 (Nat.le_of_ble_eq_true rfl) ?_
  refine v_aload_n (pc := 5) C d_ST_swap_5 rfl ?_
  refine kS0i (pc := 6) C hX (by first | assumption | omega) cb_ST_57 ⟨im_ST_below, sl_ST_below⟩ rfl rk_ST_swap_ST_below d_ST_swap_6 ⟨Nat.zero_le _, Nat.zero_le _⟩ (c_ST_below x.l hX hi P2_S h2) (Nat.le_of_ble_eq_true rfl) (fun r6 σ6 h6 => ?_)
  obtain ⟨rfl, rfl⟩ := h6
  refine v_istore_n (pc := 9) C d_ST_swap_9 (Nat.le_of_ble_eq_true rfl) ?_
  refine v_aload_n (pc := 10) C d_ST_swap_10 rfl ?_
  refine v_aload_n (pc := 11) C d_ST_swap_11 rfl ?_
  refine v_aload_n (pc := 12) C d_ST_swap_12 rfl ?_
  refine gS_height (pc := 13) C hX (by first | assumption | omega) (by first | assumption | exact P2_S | exact sS_S | rfl) d_ST_swap_13 fl_ST_24 ?_
  refine v_iconst (pc := 16) (v := 1) C d_ST_swap_16 (by decide) ?_
  refine v_isub (pc := 17) C d_ST_swap_17 ?_
  refine v_iload_n (pc := 18) C d_ST_swap_18 rfl ?_
  refine kS3v (pc := 19) C hX (by first | assumption | omega) cb_ST_49 ⟨im_ST_write, sl_ST_write⟩ rfl rk_ST_swap_ST_write d_ST_swap_19 ⟨Nat.zero_le _, Nat.zero_le _⟩ (c_ST_write x.l hX hi hj h1 hc) (Nat.le_of_ble_eq_true rfl) (fun σ19 h19 => ?_)
  subst h19
  refine v_aload_n (pc := 22) C d_ST_swap_22 rfl ?_
  refine v_aload_n (pc := 23) C d_ST_swap_23 rfl ?_
  refine v_aload_n (pc := 24) C d_ST_swap_24 rfl ?_
  refine gS_height (pc := 25) C hX (by first | assumption | omega) (by first | assumption | exact P2_S | exact sS_S | rfl) d_ST_swap_25 fl_ST_24 ?_
  refine v_iconst (pc := 28) (v := 2) C d_ST_swap_28 (by decide) ?_
  refine v_isub (pc := 29) C d_ST_swap_29 ?_
  refine v_iload_n (pc := 30) C d_ST_swap_30 rfl ?_
  refine kS3v (pc := 31) C hX (by first | assumption | omega) cb_ST_49 ⟨im_ST_write, sl_ST_write⟩ rfl rk_ST_swap_ST_write d_ST_swap_31 ⟨Nat.zero_le _, Nat.zero_le _⟩ (c_ST_write x.l hX hi hj h2 hc2) (Nat.le_of_ble_eq_true rfl) (fun σ31 h31 => ?_)
  subst h31
  refine r_v (pc := 34) C d_ST_swap_34 ?_
  rfl
theorem c_ST_call (l : Launch) {γ : GH} (hX : 135 ≤ γ.N) {σ : SGG} {i j : Nat} (hi : i < 10) (hj : j < 32) {s t : SS} {to : Int32} (h1 : vp_in s.h 24) (h2 : vp_in (s.h + 1) 24) (hc : vp_in t.n 4) (hc2 : vp_in (t.n + 1) 4) : Ct l y_ST_call b_ST_call 3 none rm_ST_call γ (enc γ (P2 σ i j s t)) [.ref (aS γ i), .ref (aN γ j), .int to] (PV γ (fun u => u = P2 σ i j (jsrS s to) (jsrT s t))) := by
  refine ct_of "ReplayMachine$State" (by decide) rfl rfl (Nat.le_of_ble_eq_true rfl) (fun x hl C => ?_)
  subst hl
  show V x γ (0, 0) _ _ 0 [some (.ref (aS γ i)), some (.ref (aN γ j)), some (.int to)] []
  refine v_aload_n (pc := 0) C d_ST_call_0 rfl ?_
  refine v_aload_n (pc := 1) C d_ST_call_1 rfl ?_
  refine v_aload_n (pc := 2) C d_ST_call_2 rfl ?_
  refine gS_pc (pc := 3) C hX (by first | assumption | omega) (by first | assumption | exact P2_S | exact sS_S | rfl) d_ST_call_3 fl_ST_28 ?_
  refine kS2v (pc := 6) C hX (by first | assumption | omega) cb_ST_60 ⟨im_ST_push, sl_ST_push⟩ rfl rk_ST_call_ST_push d_ST_call_6 ⟨Nat.zero_le _, Nat.zero_le _⟩ (c_ST_push x.l hX hi hj h1 hc) (Nat.le_of_ble_eq_true rfl) (fun σ6 h6 => ?_)
  subst h6
  refine v_aload_n (pc := 9) C d_ST_call_9 rfl ?_
  refine v_aload_n (pc := 10) C d_ST_call_10 rfl ?_
  refine v_aload_n (pc := 11) C d_ST_call_11 rfl ?_
  refine gS_frame (pc := 12) C hX (by first | assumption | omega) (by first | assumption | exact P2_S | exact sS_S | rfl) d_ST_call_12 fl_ST_31 ?_
  refine kS2v (pc := 15) C hX (by first | assumption | omega) cb_ST_60 ⟨im_ST_push, sl_ST_push⟩ rfl rk_ST_call_ST_push d_ST_call_15 ⟨Nat.zero_le _, Nat.zero_le _⟩ (c_ST_push x.l hX hi hj (s := jsrS1 s) (t := pushT s t) (by rw [jsrS1_h]; exact h2) (by rw [pushT_n]; exact hc2)) (Nat.le_of_ble_eq_true rfl) (fun σ15 h15 => ?_)
  subst h15
  refine v_aload_n (pc := 18) C d_ST_call_18 rfl ?_
  refine v_aload_n (pc := 19) C d_ST_call_19 rfl ?_
  refine gS_height (pc := 20) C hX (by first | assumption | omega) (by first | assumption | exact P2_S | exact sS_S | rfl) d_ST_call_20 fl_ST_24 ?_
  refine pS_frame (pc := 23) C hX (by first | assumption | omega) (by first | assumption | exact P2_S | exact sS_S | rfl) (by first | assumption | exact P2_setS | exact sS_sS | rfl) d_ST_call_23 fl_ST_31 ?_
  refine v_aload_n (pc := 26) C d_ST_call_26 rfl ?_
  refine v_iload_n (pc := 27) C d_ST_call_27 rfl ?_
  refine pS_pc (pc := 28) C hX (by first | assumption | omega) (by first | assumption | exact P2_S | exact sS_S | rfl) (by first | assumption | exact P2_setS | exact sS_sS | rfl) d_ST_call_28 fl_ST_28 ?_
  refine r_v (pc := 31) C d_ST_call_31 ?_
  rfl
theorem c_ST_giveBack (l : Launch) {γ : GH} (hX : 135 ≤ γ.N) {σ : SGG} {i j : Nat} (hi : i < 10) (hj : j < 32) {s t : SS} (h1 : vp_in (s.h - 1) 24) (h2 : vp_in (s.f - 1) 24) (h3 : vp_in (s.f - 2) 24) (hc : vp_in t.n 4) : Ct l y_ST_giveBack b_ST_giveBack 3 none rm_ST_giveBack γ (enc γ (P2 σ i j s t)) [.ref (aS γ i), .ref (aN γ j)] (PV γ (fun u => u = P2 σ i j (retS s) (retT s t))) := by
  refine ct_of "ReplayMachine$State" (by decide) rfl rfl (Nat.le_of_ble_eq_true rfl) (fun x hl C => ?_)
  subst hl
  show V x γ (0, 0) _ _ 0 [some (.ref (aS γ i)), some (.ref (aN γ j)), none] []
  refine v_aload_n (pc := 0) C d_ST_giveBack_0 rfl ?_
  refine kS0i (pc := 1) C hX (by first | assumption | omega) cb_ST_53 ⟨im_ST_top, sl_ST_top⟩ rfl rk_ST_giveBack_ST_top d_ST_giveBack_1 ⟨Nat.zero_le _, Nat.zero_le _⟩ (c_ST_top x.l hX hi P2_S h1) (Nat.le_of_ble_eq_true rfl) (fun r1 σ1 h1 => ?_)
  obtain ⟨rfl, rfl⟩ := h1
  refine v_istore_n (pc := 4) C d_ST_giveBack_4 (Nat.le_of_ble_eq_true rfl) ?_
  refine v_aload_n (pc := 5) C d_ST_giveBack_5 rfl ?_
  refine v_aload_n (pc := 6) C d_ST_giveBack_6 rfl ?_
  refine gS_frame (pc := 7) C hX (by first | assumption | omega) (by first | assumption | exact P2_S | exact sS_S | rfl) d_ST_giveBack_7 fl_ST_31 ?_
  refine pS_height (pc := 10) C hX (by first | assumption | omega) (by first | assumption | exact P2_S | exact sS_S | rfl) (by first | assumption | exact P2_setS | exact sS_sS | rfl) d_ST_giveBack_10 fl_ST_24 ?_
  refine v_aload_n (pc := 13) C d_ST_giveBack_13 rfl ?_
  refine v_aload_n (pc := 14) C d_ST_giveBack_14 rfl ?_
  refine kS0i (pc := 15) C hX (by first | assumption | omega) cb_ST_53 ⟨im_ST_top, sl_ST_top⟩ rfl rk_ST_giveBack_ST_top d_ST_giveBack_15 ⟨Nat.zero_le _, Nat.zero_le _⟩ (c_ST_top x.l hX hi (s := retS1 s) P2_S h2) (Nat.le_of_ble_eq_true rfl) (fun r15 σ15 h15 => ?_)
  obtain ⟨rfl, rfl⟩ := h15
  refine pS_frame (pc := 18) C hX (by first | assumption | omega) (by first | assumption | exact P2_S | exact sS_S | rfl) (by first | assumption | exact P2_setS | exact sS_sS | rfl) d_ST_giveBack_18 fl_ST_31 ?_
  refine v_aload_n (pc := 21) C d_ST_giveBack_21 rfl ?_
  refine v_aload_n (pc := 22) C d_ST_giveBack_22 rfl ?_
  refine kS0i (pc := 23) C hX (by first | assumption | omega) cb_ST_57 ⟨im_ST_below, sl_ST_below⟩ rfl rk_ST_giveBack_ST_below d_ST_giveBack_23 ⟨Nat.zero_le _, Nat.zero_le _⟩ (c_ST_below x.l hX hi (s := retS2 s) P2_S h3) (Nat.le_of_ble_eq_true rfl) (fun r23 σ23 h23 => ?_)
  obtain ⟨rfl, rfl⟩ := h23
  refine pS_pc (pc := 26) C hX (by first | assumption | omega) (by first | assumption | exact P2_S | exact sS_S | rfl) (by first | assumption | exact P2_setS | exact sS_sS | rfl) d_ST_giveBack_26 fl_ST_28 ?_
  refine v_aload_n (pc := 29) C d_ST_giveBack_29 rfl ?_
  refine v_dup (pc := 30) C d_ST_giveBack_30 rfl ?_
  refine gS_height (pc := 31) C hX (by first | assumption | omega) (by first | assumption | exact P2_S | exact sS_S | rfl) d_ST_giveBack_31 fl_ST_24 ?_
  refine v_iconst (pc := 34) (v := 2) C d_ST_giveBack_34 (by decide) ?_
  refine v_isub (pc := 35) C d_ST_giveBack_35 ?_
  refine pS_height (pc := 36) C hX (by first | assumption | omega) (by first | assumption | exact P2_S | exact sS_S | rfl) (by first | assumption | exact P2_setS | exact sS_sS | rfl) d_ST_giveBack_36 fl_ST_24 ?_
  refine v_aload_n (pc := 39) C d_ST_giveBack_39 rfl ?_
  refine v_aload_n (pc := 40) C d_ST_giveBack_40 rfl ?_
  refine v_iload_n (pc := 41) C d_ST_giveBack_41 rfl ?_
  refine kS2v (pc := 42) C hX (by first | assumption | omega) cb_ST_60 ⟨im_ST_push, sl_ST_push⟩ rfl rk_ST_giveBack_ST_push d_ST_giveBack_42 ⟨Nat.zero_le _, Nat.zero_le _⟩ (c_ST_push x.l hX hi hj (s := retS4 s) h3 hc) (Nat.le_of_ble_eq_true rfl) (fun σ42 h42 => ?_)
  subst h42
  refine r_v (pc := 45) C d_ST_giveBack_45 ?_
  rfl
theorem c_ST_draw (l : Launch) {γ : GH} (hX : 135 ≤ γ.N) {σ σ2 : SGG} {i : Nat} (hi : i < 10) {s : SS} (hs : σ.S i = s) {n : Int32} (hn : ¬ n = 0) (hσ : sS σ i (setX s (nextX s.x)) = σ2) : Ct l y_ST_draw b_ST_draw 2 (some .int) rm_ST_draw γ (enc γ σ) [.ref (aS γ i), .int n] (PI γ (fun r u => r = jrem (ush16 (nextX s.x)) n ∧ u = σ2)) := by
  refine ct_of "ReplayMachine$State" (by decide) rfl rfl (Nat.le_of_ble_eq_true rfl) (fun x hl C => ?_)
  subst hl
  show V x γ (0, 0) _ _ 0 [some (.ref (aS γ i)), some (.int n)] []
  subst hσ
  refine v_aload_n (pc := 0) C d_ST_draw_0 rfl ?_
  refine v_ldc (pc := 1) C d_ST_draw_1 kc_ST_64 ?_
  refine v_aload_n (pc := 3) C d_ST_draw_3 rfl ?_
  refine gS_x (pc := 4) C hX (by first | assumption | omega) (by first | assumption | exact P2_S | exact sS_S | rfl) d_ST_draw_4 fl_ST_34 ?_
  refine v_imul (pc := 7) C d_ST_draw_7 ?_
  refine v_sipush (pc := 8) (v := 12345) C d_ST_draw_8 (by decide) ?_
  refine v_iadd (pc := 11) C d_ST_draw_11 ?_
  refine pS_x (pc := 12) C hX (by first | assumption | omega) (by first | assumption | exact P2_S | exact sS_S | rfl) (by first | assumption | exact P2_setS | exact sS_sS | rfl) d_ST_draw_12 fl_ST_34 ?_
  refine v_aload_n (pc := 15) C d_ST_draw_15 rfl ?_
  refine gS_x (pc := 16) C hX (by first | assumption | omega) (by first | assumption | exact P2_S | exact sS_S | rfl) d_ST_draw_16 fl_ST_34 ?_
  refine v_bipush (pc := 19) (v := 16) C d_ST_draw_19 (by decide) ?_
  refine v_iushr (pc := 21) C d_ST_draw_21 ?_
  refine v_iload_n (pc := 22) C d_ST_draw_22 rfl ?_
  refine v_irem (pc := 23) C d_ST_draw_23 ?_ ?_
  · exact hn
  refine r_i (pc := 24) C d_ST_draw_24 ?_
  exact ⟨rfl, rfl⟩
