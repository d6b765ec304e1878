/-- check(s) -/
theorem c_RM_check (l : Launch) {γ : GH} (hX : 135 ≤ γ.N) {σ : SGG} {i : Nat} (hi : i < 10) {s : SS} (hs : σ.S i = s) {h : Nat} (hh : s.h = nI h) (h24 : h ≤ 24) : Ct l y_RM_check b_RM_check 5 (some .int) rm_RM_check γ (enc γ σ) [.ref (aM γ), .ref (aS γ i)] (PI γ (fun r u => r = chk (σ.F 0) (σ.I 0) s ∧ u = σ)) := by
  refine ct_of "ReplayMachine" (by decide) rfl rfl (Nat.le_of_ble_eq_true rfl) (fun x hl C => ?_)
  subst hl
  show V x γ (0, 0) _ _ 0 [some (.ref (aM γ)), some (.ref (aS γ i)), none, none, none] []
  obtain ⟨w, ew⟩ : ∃ w, w = σ.F 0 s.p.toNatClampNeg := ⟨_, rfl⟩
  have J227 : ¬ s.p < 0 → s.p < 64 → opOf w < 21 → ¬ opOf w = 0 → ¬ s.h < opTakes.getD (opOf w) 0 → chkOp (σ.I 0) s (opOf w) (argOf w) = 0 → V x γ (0, 0) (QM x γ (PI γ (fun r u => r = chk (σ.F 0) (σ.I 0) s ∧ u = σ))) (enc γ σ) 227 [some (.ref (aM γ)), some (.ref (aS γ i)), some (.int w), some (.ref (γ.aO (opOf w))), some (.int (argOf w))] [] := by
    intro p0 p1 g1 g2 g3 g4
    refine v_aload_n (pc := 227) C d_RM_check_227 rfl ?_
    refine gS_height (pc := 228) C hX (by first | assumption | omega) (by first | assumption | exact P2_S | exact sS_S | rfl) d_RM_check_228 fl_RM_93 ?_
    refine v_aload_n (pc := 231) C d_RM_check_231 rfl ?_
    refine v_opGet (pc := 232) (q := ("ReplayMachine$Op", "takes", "I", opTakes)) C (List.mem_cons_of_mem _ List.mem_cons_self) (by first | assumption | omega) d_RM_check_232 fl_RM_96 ?_
    refine v_isub (pc := 235) C d_RM_check_235 ?_
    refine v_aload_n (pc := 236) C d_RM_check_236 rfl ?_
    refine v_opGet (pc := 237) (q := ("ReplayMachine$Op", "leaves", "I", opLeaves)) C (List.mem_cons_of_mem _ (List.mem_cons_of_mem _ List.mem_cons_self)) (by first | assumption | omega) d_RM_check_237 fl_RM_116 ?_
    refine v_iadd (pc := 240) C d_RM_check_240 ?_
    refine v_bipush (pc := 241) (v := 24) C d_RM_check_241 (by decide) ?_
    refine v_icmp_le (pc := 243) C 250 d_RM_check_243 (by decide) (fun c243 => ?_) (fun c243 => ?_)
    · refine v_iconst (pc := 250) (v := 0) C d_RM_check_250 (by decide) ?_
      refine r_i (pc := 251) C d_RM_check_251 ?_
      exact ⟨by unfold chk; rw [if_neg p0, if_pos p1, ← ew]; unfold chkW; rw [if_neg (fun q => q g1), if_neg g2, if_neg g3, if_pos g4]; first | rw [if_pos c243] | rw [if_neg c243], rfl⟩
    · refine v_iconst (pc := 246) (v := 3) C d_RM_check_246 (by decide) ?_
      refine v_goto (pc := 247) C 251 d_RM_check_247 (by decide) ?_
      refine r_i (pc := 251) C d_RM_check_251 ?_
      exact ⟨by unfold chk; rw [if_neg p0, if_pos p1, ← ew]; unfold chkW; rw [if_neg (fun q => q g1), if_neg g2, if_neg g3, if_pos g4]; first | rw [if_pos c243] | rw [if_neg c243], rfl⟩
  have R : ∀ v : Int32, ¬ s.p < 0 → s.p < 64 → opOf w < 21 → ¬ opOf w = 0 → ¬ s.h < opTakes.getD (opOf w) 0 → ¬ v = 0 → chkOp (σ.I 0) s (opOf w) (argOf w) = v → v = chk (σ.F 0) (σ.I 0) s := by
    intro v p0 p1 g1 g2 g3 g4 g5
    unfold chk
    rw [if_neg p0, if_pos p1, ← ew]
    unfold chkW
    rw [if_neg (fun q => q g1), if_neg g2, if_neg g3, g5, if_neg g4]
  refine v_aload_n (pc := 0) C d_RM_check_0 rfl ?_
  refine gS_pc (pc := 1) C hX (by first | assumption | omega) (by first | assumption | exact P2_S | exact sS_S | rfl) d_RM_check_1 fl_RM_80 ?_
  refine v_if_lt (pc := 4) C 16 d_RM_check_4 (by decide) (fun c4 => ?_) (fun c4 => ?_)
  · refine v_iconst (pc := 16) (v := 4) C d_RM_check_16 (by decide) ?_
    refine r_i (pc := 17) C d_RM_check_17 ?_
    exact ⟨by unfold chk; first | rw [if_pos c4] | rw [if_neg c4, if_neg c13], rfl⟩
  · refine v_aload_n (pc := 7) C d_RM_check_7 rfl ?_
    refine gS_pc (pc := 8) C hX (by first | assumption | omega) (by first | assumption | exact P2_S | exact sS_S | rfl) d_RM_check_8 fl_RM_80 ?_
    refine v_bipush (pc := 11) (v := 64) C d_RM_check_11 (by decide) ?_
    refine v_icmp_lt (pc := 13) C 18 d_RM_check_13 (by decide) (fun c13 => ?_) (fun c13 => ?_)
    · refine v_aload_n (pc := 18) C d_RM_check_18 rfl ?_
      refine gM_code (pc := 19) C hX d_RM_check_19 fl_RM_7 ?_
      refine v_aload_n (pc := 22) C d_RM_check_22 rfl ?_
      refine gS_pc (pc := 23) C hX (by first | assumption | omega) (by first | assumption | exact P2_S | exact sS_S | rfl) d_RM_check_23 fl_RM_80 ?_
      refine lM_code (pc := 26) C hX d_RM_check_26 ?_ ?_
      · exact in_vp c4 c13 (by decide)
      refine v_top (b := w) ew.symm ?_
      refine v_istore_n (pc := 27) C d_RM_check_27 (Nat.le_of_ble_eq_true rfl) ?_
      refine v_iload_n (pc := 28) C d_RM_check_28 rfl ?_
      refine v_bipush (pc := 29) (v := 31) C d_RM_check_29 (by decide) ?_
      refine v_iand (pc := 31) C d_RM_check_31 ?_
      refine v_top (b := nI (opOf w)) (and31 w) ?_
      refine v_getOPS (pc := 32) C d_RM_check_32 fl_RM_83 ?_
      refine v_opsLen (pc := 35) C d_RM_check_35 ?_
      refine v_icmp_lt (pc := 36) C 41 d_RM_check_36 (by decide) (fun c36 => ?_) (fun c36 => ?_)
      · have g1 : opOf w < 21 := by have h9 := opOf_lt w; exact (nI_ltI (b := 21) (by omega) (by decide)).mp c36
        refine v_getOPS (pc := 41) C d_RM_check_41 fl_RM_83 ?_
        refine v_iload_n (pc := 44) C d_RM_check_44 rfl ?_
        refine v_bipush (pc := 45) (v := 31) C d_RM_check_45 (by decide) ?_
        refine v_iand (pc := 47) C d_RM_check_47 ?_
        refine v_top (b := nI (opOf w)) (and31 w) ?_
        refine v_opsAtN (pc := 48) C  d_RM_check_48 (g1) ?_
        refine v_astore_n (pc := 49) C d_RM_check_49 (Nat.le_of_ble_eq_true rfl) ?_
        refine v_iload_n (pc := 50) C d_RM_check_50 rfl ?_
        refine v_iconst (pc := 51) (v := 5) C d_RM_check_51 (by decide) ?_
        refine v_ishr (pc := 52) C d_RM_check_52 ?_
        refine v_top (b := argOf w) rfl ?_
        refine v_istore (pc := 53) C d_RM_check_53 (Nat.le_of_ble_eq_true rfl) ?_
        refine v_aload_n (pc := 55) C d_RM_check_55 rfl ?_
        refine v_getOp0 (pc := 56) C d_RM_check_56 fl_RM_87 ?_
        refine v_opNe (pc := 59) C 64 (by first | assumption | omega) (by decide) d_RM_check_59 (by decide) (fun c59 => ?_) (fun c59 => ?_)
        · refine v_aload_n (pc := 64) C d_RM_check_64 rfl ?_
          refine gS_height (pc := 65) C hX (by first | assumption | omega) (by first | assumption | exact P2_S | exact sS_S | rfl) d_RM_check_65 fl_RM_93 ?_
          refine v_aload_n (pc := 68) C d_RM_check_68 rfl ?_
          refine v_opGet (pc := 69) (q := ("ReplayMachine$Op", "takes", "I", opTakes)) C (List.mem_cons_of_mem _ List.mem_cons_self) (by first | assumption | omega) d_RM_check_69 fl_RM_96 ?_
          refine v_icmp_ge (pc := 72) C 77 d_RM_check_72 (by decide) (fun c72 => ?_) (fun c72 => ?_)
          · have p0 := c4
            have p1 : s.p < 64 := c13
            have g2 := c59
            have g3 : ¬ s.h < opTakes.getD (opOf w) 0 := k2_nlt c72
            refine v_aload_n (pc := 77) C d_RM_check_77 rfl ?_
            refine k_ordinal (pc := 78) C (by first | assumption | omega) ml_RM_99 rk_RM_check_EN_ordinal d_RM_check_78 ⟨Nat.zero_le _, Nat.zero_le _⟩ (Nat.le_of_ble_eq_true rfl) ?_
            have hge : ∀ k, opTakes.getD (opOf w) 0 = nI k → k ≤ 24 → k ≤ h := fun k hk hk2 => by
              rcases Nat.lt_or_ge h k with q | q
              · exact absurd (by rw [hh, hk]; exact nI_lt q (by omega)) g3
              · exact q
            have hcase : opOf w = 1 ∨ opOf w = 2 ∨ opOf w = 3 ∨ opOf w = 4 ∨ opOf w = 5 ∨ opOf w = 6 ∨ opOf w = 7 ∨ opOf w = 8 ∨ opOf w = 9 ∨ opOf w = 10 ∨ opOf w = 11 ∨ opOf w = 12 ∨ opOf w = 13 ∨ opOf w = 14 ∨ opOf w = 15 ∨ opOf w = 16 ∨ opOf w = 17 ∨ opOf w = 18 ∨ opOf w = 19 ∨ opOf w = 20 := by omega
            rcases hcase with e | e | e | e | e | e | e | e | e | e | e | e | e | e | e | e | e | e | e | e
            · refine v_top (b := nI 1) (by rw [e]) ?_
              refine v_table (pc := 81) C 227 d_RM_check_81 rfl (by decide) ?_
              exact J227 p0 p1 g1 g2 g3 (by rw [e]; rfl)
            · refine v_top (b := nI 2) (by rw [e]) ?_
              refine v_table (pc := 81) C 227 d_RM_check_81 rfl (by decide) ?_
              exact J227 p0 p1 g1 g2 g3 (by rw [e]; rfl)
            · refine v_top (b := nI 3) (by rw [e]) ?_
              refine v_table (pc := 81) C 227 d_RM_check_81 rfl (by decide) ?_
              exact J227 p0 p1 g1 g2 g3 (by rw [e]; rfl)
            · refine v_top (b := nI 4) (by rw [e]) ?_
              refine v_table (pc := 81) C 227 d_RM_check_81 rfl (by decide) ?_
              exact J227 p0 p1 g1 g2 g3 (by rw [e]; rfl)
            · refine v_top (b := nI 5) (by rw [e]) ?_
              refine v_table (pc := 81) C 227 d_RM_check_81 rfl (by decide) ?_
              exact J227 p0 p1 g1 g2 g3 (by rw [e]; rfl)
            · refine v_top (b := nI 6) (by rw [e]) ?_
              refine v_table (pc := 81) C 227 d_RM_check_81 rfl (by decide) ?_
              exact J227 p0 p1 g1 g2 g3 (by rw [e]; rfl)
            · refine v_top (b := nI 7) (by rw [e]) ?_
              refine v_table (pc := 81) C 227 d_RM_check_81 rfl (by decide) ?_
              exact J227 p0 p1 g1 g2 g3 (by rw [e]; rfl)
            · refine v_top (b := nI 8) (by rw [e]) ?_
              refine v_table (pc := 81) C 194 d_RM_check_81 rfl (by decide) ?_
              refine v_aload_n (pc := 194) C d_RM_check_194 rfl ?_
              refine kS0i (pc := 195) C hX (by first | assumption | omega) cb_RM_110 ⟨im_ST_top, sl_ST_top⟩ rfl rk_RM_check_ST_top d_RM_check_195 ⟨Nat.zero_le _, Nat.zero_le _⟩ (c_ST_top x.l hX hi hs (by rw [hh]; exact hm1 (Nat.le_trans (by decide : 1 ≤ 2) (hge 2 (by rw [e]; rfl) (by decide))) h24)) (Nat.le_of_ble_eq_true rfl) (fun r195 σ195 h195 => ?_)
              obtain ⟨rfl, rfl⟩ := h195
              refine v_if_ne (pc := 198) C 227 d_RM_check_198 (by decide) (fun c198 => ?_) (fun c198 => ?_)
              · exact J227 p0 p1 g1 g2 g3 (by rw [e]; unfold chkOp; rw [if_neg (by decide), if_neg (by decide), if_neg (by decide), if_pos rfl, if_neg c198])
              · refine v_bipush (pc := 201) (v := 6) C d_RM_check_201 (by decide) ?_
                refine r_i (pc := 203) C d_RM_check_203 ?_
                exact ⟨R _ p0 p1 g1 g2 g3 (by decide) (by rw [e]; unfold chkOp; rw [if_neg (by decide), if_neg (by decide), if_neg (by decide), if_pos rfl, if_pos c198]), rfl⟩
            · refine v_top (b := nI 9) (by rw [e]) ?_
              refine v_table (pc := 81) C 227 d_RM_check_81 rfl (by decide) ?_
              exact J227 p0 p1 g1 g2 g3 (by rw [e]; rfl)
            · refine v_top (b := nI 10) (by rw [e]) ?_
              refine v_table (pc := 81) C 176 d_RM_check_81 rfl (by decide) ?_
              refine v_aload_n (pc := 176) C d_RM_check_176 rfl ?_
              refine kS0i (pc := 177) C hX (by first | assumption | omega) cb_RM_110 ⟨im_ST_top, sl_ST_top⟩ rfl rk_RM_check_ST_top d_RM_check_177 ⟨Nat.zero_le _, Nat.zero_le _⟩ (c_ST_top x.l hX hi hs (by rw [hh]; exact hm1 (Nat.le_trans (by decide : 1 ≤ 1) (hge 1 (by rw [e]; rfl) (by decide))) h24)) (Nat.le_of_ble_eq_true rfl) (fun r177 σ177 h177 => ?_)
              obtain ⟨rfl, rfl⟩ := h177
              refine v_if_lt (pc := 180) C 192 d_RM_check_180 (by decide) (fun c180 => ?_) (fun c180 => ?_)
              · refine v_iconst (pc := 192) (v := 4) C d_RM_check_192 (by decide) ?_
                refine r_i (pc := 193) C d_RM_check_193 ?_
                exact ⟨R _ p0 p1 g1 g2 g3 (by decide) (by rw [e]; unfold chkOp; rw [if_neg (by decide), if_neg (by decide), if_pos (by decide)]; first | rw [if_pos c180] | rw [if_neg c180, if_neg c189]), rfl⟩
              · refine v_aload_n (pc := 183) C d_RM_check_183 rfl ?_
                refine kS0i (pc := 184) C hX (by first | assumption | omega) cb_RM_110 ⟨im_ST_top, sl_ST_top⟩ rfl rk_RM_check_ST_top d_RM_check_184 ⟨Nat.zero_le _, Nat.zero_le _⟩ (c_ST_top x.l hX hi hs (by rw [hh]; exact hm1 (Nat.le_trans (by decide : 1 ≤ 1) (hge 1 (by rw [e]; rfl) (by decide))) h24)) (Nat.le_of_ble_eq_true rfl) (fun r184 σ184 h184 => ?_)
                obtain ⟨rfl, rfl⟩ := h184
                refine v_bipush (pc := 187) (v := 32) C d_RM_check_187 (by decide) ?_
                refine v_icmp_lt (pc := 189) C 227 d_RM_check_189 (by decide) (fun c189 => ?_) (fun c189 => ?_)
                · exact J227 p0 p1 g1 g2 g3 (by rw [e]; unfold chkOp; rw [if_neg (by decide), if_neg (by decide), if_pos (by decide), if_neg c180, if_pos c189])
                · refine v_iconst (pc := 192) (v := 4) C d_RM_check_192 (by decide) ?_
                  refine r_i (pc := 193) C d_RM_check_193 ?_
                  exact ⟨R _ p0 p1 g1 g2 g3 (by decide) (by rw [e]; unfold chkOp; rw [if_neg (by decide), if_neg (by decide), if_pos (by decide)]; first | rw [if_pos c180] | rw [if_neg c180, if_neg c189]), rfl⟩
            · refine v_top (b := nI 11) (by rw [e]) ?_
              refine v_table (pc := 81) C 176 d_RM_check_81 rfl (by decide) ?_
              refine v_aload_n (pc := 176) C d_RM_check_176 rfl ?_
              refine kS0i (pc := 177) C hX (by first | assumption | omega) cb_RM_110 ⟨im_ST_top, sl_ST_top⟩ rfl rk_RM_check_ST_top d_RM_check_177 ⟨Nat.zero_le _, Nat.zero_le _⟩ (c_ST_top x.l hX hi hs (by rw [hh]; exact hm1 (Nat.le_trans (by decide : 1 ≤ 2) (hge 2 (by rw [e]; rfl) (by decide))) h24)) (Nat.le_of_ble_eq_true rfl) (fun r177 σ177 h177 => ?_)
              obtain ⟨rfl, rfl⟩ := h177
              refine v_if_lt (pc := 180) C 192 d_RM_check_180 (by decide) (fun c180 => ?_) (fun c180 => ?_)
              · refine v_iconst (pc := 192) (v := 4) C d_RM_check_192 (by decide) ?_
                refine r_i (pc := 193) C d_RM_check_193 ?_
                exact ⟨R _ p0 p1 g1 g2 g3 (by decide) (by rw [e]; unfold chkOp; rw [if_neg (by decide), if_neg (by decide), if_pos (by decide)]; first | rw [if_pos c180] | rw [if_neg c180, if_neg c189]), rfl⟩
              · refine v_aload_n (pc := 183) C d_RM_check_183 rfl ?_
                refine kS0i (pc := 184) C hX (by first | assumption | omega) cb_RM_110 ⟨im_ST_top, sl_ST_top⟩ rfl rk_RM_check_ST_top d_RM_check_184 ⟨Nat.zero_le _, Nat.zero_le _⟩ (c_ST_top x.l hX hi hs (by rw [hh]; exact hm1 (Nat.le_trans (by decide : 1 ≤ 2) (hge 2 (by rw [e]; rfl) (by decide))) h24)) (Nat.le_of_ble_eq_true rfl) (fun r184 σ184 h184 => ?_)
                obtain ⟨rfl, rfl⟩ := h184
                refine v_bipush (pc := 187) (v := 32) C d_RM_check_187 (by decide) ?_
                refine v_icmp_lt (pc := 189) C 227 d_RM_check_189 (by decide) (fun c189 => ?_) (fun c189 => ?_)
                · exact J227 p0 p1 g1 g2 g3 (by rw [e]; unfold chkOp; rw [if_neg (by decide), if_neg (by decide), if_pos (by decide), if_neg c180, if_pos c189])
                · refine v_iconst (pc := 192) (v := 4) C d_RM_check_192 (by decide) ?_
                  refine r_i (pc := 193) C d_RM_check_193 ?_
                  exact ⟨R _ p0 p1 g1 g2 g3 (by decide) (by rw [e]; unfold chkOp; rw [if_neg (by decide), if_neg (by decide), if_pos (by decide)]; first | rw [if_pos c180] | rw [if_neg c180, if_neg c189]), rfl⟩
            · refine v_top (b := nI 12) (by rw [e]) ?_
              refine v_table (pc := 81) C 227 d_RM_check_81 rfl (by decide) ?_
              exact J227 p0 p1 g1 g2 g3 (by rw [e]; rfl)
            · refine v_top (b := nI 13) (by rw [e]) ?_
              refine v_table (pc := 81) C 227 d_RM_check_81 rfl (by decide) ?_
              exact J227 p0 p1 g1 g2 g3 (by rw [e]; rfl)
            · refine v_top (b := nI 14) (by rw [e]) ?_
              refine v_table (pc := 81) C 227 d_RM_check_81 rfl (by decide) ?_
              exact J227 p0 p1 g1 g2 g3 (by rw [e]; rfl)
            · refine v_top (b := nI 15) (by rw [e]) ?_
              refine v_table (pc := 81) C 227 d_RM_check_81 rfl (by decide) ?_
              exact J227 p0 p1 g1 g2 g3 (by rw [e]; rfl)
            · refine v_top (b := nI 16) (by rw [e]) ?_
              refine v_table (pc := 81) C 144 d_RM_check_81 rfl (by decide) ?_
              refine v_aload_n (pc := 144) C d_RM_check_144 rfl ?_
              refine gS_frame (pc := 145) C hX (by first | assumption | omega) (by first | assumption | exact P2_S | exact sS_S | rfl) d_RM_check_145 fl_RM_103 ?_
              refine v_iconst (pc := 148) (v := 2) C d_RM_check_148 (by decide) ?_
              refine v_icmp_lt (pc := 149) C 163 d_RM_check_149 (by decide) (fun c149 => ?_) (fun c149 => ?_)
              · refine v_iconst (pc := 163) (v := 2) C d_RM_check_163 (by decide) ?_
                refine r_i (pc := 164) C d_RM_check_164 ?_
                exact ⟨R _ p0 p1 g1 g2 g3 (by decide) (by rw [e]; unfold chkOp; rw [if_pos rfl]; first | rw [if_pos c149] | rw [if_neg c149, if_neg c160]), rfl⟩
              · refine v_aload_n (pc := 152) C d_RM_check_152 rfl ?_
                refine gS_frame (pc := 153) C hX (by first | assumption | omega) (by first | assumption | exact P2_S | exact sS_S | rfl) d_RM_check_153 fl_RM_103 ?_
                refine v_aload_n (pc := 156) C d_RM_check_156 rfl ?_
                refine gS_height (pc := 157) C hX (by first | assumption | omega) (by first | assumption | exact P2_S | exact sS_S | rfl) d_RM_check_157 fl_RM_93 ?_
                refine v_icmp_lt (pc := 160) C 227 d_RM_check_160 (by decide) (fun c160 => ?_) (fun c160 => ?_)
                · exact J227 p0 p1 g1 g2 g3 (by rw [e]; unfold chkOp; rw [if_pos rfl, if_neg c149, if_pos c160])
                · refine v_iconst (pc := 163) (v := 2) C d_RM_check_163 (by decide) ?_
                  refine r_i (pc := 164) C d_RM_check_164 ?_
                  exact ⟨R _ p0 p1 g1 g2 g3 (by decide) (by rw [e]; unfold chkOp; rw [if_pos rfl]; first | rw [if_pos c149] | rw [if_neg c149, if_neg c160]), rfl⟩
            · refine v_top (b := nI 17) (by rw [e]) ?_
              refine v_table (pc := 81) C 165 d_RM_check_81 rfl (by decide) ?_
              refine v_aload_n (pc := 165) C d_RM_check_165 rfl ?_
              refine v_iload (pc := 166) C d_RM_check_166 rfl ?_
              refine kk2i (pc := 168) C cb_RM_106 sm_RM_isArgument rk_RM_check_RM_isArgument d_RM_check_168 ⟨Nat.zero_le _, Nat.zero_le _⟩ (c_RM_isArgument x.l hX hi hs) (Nat.le_of_ble_eq_true rfl) (fun r168 σ168 h168 => ?_)
              obtain ⟨rfl, rfl⟩ := h168
              refine v_if_ne (pc := 171) C 227 d_RM_check_171 (by decide) (fun c171 => ?_) (fun c171 => ?_)
              · exact J227 p0 p1 g1 g2 g3 (by rw [e]; unfold chkOp; rw [if_neg (by decide), if_pos rfl, if_neg c171])
              · refine v_iconst (pc := 174) (v := 2) C d_RM_check_174 (by decide) ?_
                refine r_i (pc := 175) C d_RM_check_175 ?_
                exact ⟨R _ p0 p1 g1 g2 g3 (by decide) (by rw [e]; unfold chkOp; rw [if_neg (by decide), if_pos rfl, if_pos c171]), rfl⟩
            · refine v_top (b := nI 18) (by rw [e]) ?_
              refine v_table (pc := 81) C 213 d_RM_check_81 rfl (by decide) ?_
              refine v_aload_n (pc := 213) C d_RM_check_213 rfl ?_
              refine gS_taken (pc := 214) C hX (by first | assumption | omega) (by first | assumption | exact P2_S | exact sS_S | rfl) d_RM_check_214 fl_RM_113 ?_
              refine v_aload_n (pc := 217) C d_RM_check_217 rfl ?_
              refine gM_given (pc := 218) C hX d_RM_check_218 fl_RM_77 ?_
              refine v_icmp_lt (pc := 221) C 227 d_RM_check_221 (by decide) (fun c221 => ?_) (fun c221 => ?_)
              · exact J227 p0 p1 g1 g2 g3 (by rw [e]; unfold chkOp; rw [if_neg (by decide), if_neg (by decide), if_neg (by decide), if_neg (by decide), if_neg (by decide), if_pos rfl, if_pos c221])
              · refine v_bipush (pc := 224) (v := 7) C d_RM_check_224 (by decide) ?_
                refine r_i (pc := 226) C d_RM_check_226 ?_
                exact ⟨R _ p0 p1 g1 g2 g3 (by decide) (by rw [e]; unfold chkOp; rw [if_neg (by decide), if_neg (by decide), if_neg (by decide), if_neg (by decide), if_neg (by decide), if_pos rfl, if_neg c221]), rfl⟩
            · refine v_top (b := nI 19) (by rw [e]) ?_
              refine v_table (pc := 81) C 204 d_RM_check_81 rfl (by decide) ?_
              refine v_iload (pc := 204) C d_RM_check_204 rfl ?_
              refine v_iconst (pc := 206) (v := 1) C d_RM_check_206 (by decide) ?_
              refine v_icmp_ge (pc := 207) C 227 d_RM_check_207 (by decide) (fun c207 => ?_) (fun c207 => ?_)
              · exact J227 p0 p1 g1 g2 g3 (by rw [e]; unfold chkOp; rw [if_neg (by decide), if_neg (by decide), if_neg (by decide), if_neg (by decide), if_pos rfl, if_pos c207])
              · refine v_bipush (pc := 210) (v := 6) C d_RM_check_210 (by decide) ?_
                refine r_i (pc := 212) C d_RM_check_212 ?_
                exact ⟨R _ p0 p1 g1 g2 g3 (by decide) (by rw [e]; unfold chkOp; rw [if_neg (by decide), if_neg (by decide), if_neg (by decide), if_neg (by decide), if_pos rfl, if_neg c207]), rfl⟩
            · refine v_top (b := nI 20) (by rw [e]) ?_
              refine v_table (pc := 81) C 227 d_RM_check_81 rfl (by decide) ?_
              exact J227 p0 p1 g1 g2 g3 (by rw [e]; rfl)
          · refine v_iconst (pc := 75) (v := 2) C d_RM_check_75 (by decide) ?_
            refine r_i (pc := 76) C d_RM_check_76 ?_
            exact ⟨by unfold chk; rw [if_neg c4, if_pos c13, ← ew]; unfold chkW; rw [if_neg (fun q => q g1), if_neg c59, if_pos (k2_lt c72)], rfl⟩
        · refine v_iconst (pc := 62) (v := 1) C d_RM_check_62 (by decide) ?_
          refine r_i (pc := 63) C d_RM_check_63 ?_
          exact ⟨by unfold chk; rw [if_neg c4, if_pos c13, ← ew]; unfold chkW; rw [if_neg (fun q => q g1), if_pos c59], rfl⟩
      · have g1 : ¬ opOf w < 21 := fun q => c36 (nI_lt q (by decide))
        refine v_iconst (pc := 39) (v := 5) C d_RM_check_39 (by decide) ?_
        refine r_i (pc := 40) C d_RM_check_40 ?_
        exact ⟨by unfold chk; rw [if_neg c4, if_pos c13, ← ew]; unfold chkW; rw [if_pos g1], rfl⟩
    · refine v_iconst (pc := 16) (v := 4) C d_RM_check_16 (by decide) ?_
      refine r_i (pc := 17) C d_RM_check_17 ?_
      exact ⟨by unfold chk; first | rw [if_pos c4] | rw [if_neg c4, if_neg c13], rfl⟩
