section CK
variable {g : Int32} {s : SS} {n : Int32}
theorem ck16 : chkOp g s 16 n = (if s.f < 2 then 2 else if s.f < s.h then 0 else 2) := by unfold chkOp; rw [if_pos rfl]
theorem ck17 : chkOp g s 17 n = (if isArgB s.f s.h n = 0 then 2 else 0) := by unfold chkOp; rw [if_neg (by decide), if_pos rfl]
theorem ck10 : chkOp g s 10 n = (if topS s < 0 then 4 else if topS s < 32 then 0 else 4) := by unfold chkOp; rw [if_neg (by decide), if_neg (by decide), if_pos (by decide)]
theorem ck11 : chkOp g s 11 n = (if topS s < 0 then 4 else if topS s < 32 then 0 else 4) := by unfold chkOp; rw [if_neg (by decide), if_neg (by decide), if_pos (by decide)]
theorem ck8 : chkOp g s 8 n = (if topS s = 0 then 6 else 0) := by unfold chkOp; rw [if_neg (by decide), if_neg (by decide), if_neg (by decide), if_pos rfl]
theorem ck19 : chkOp g s 19 n = (if 1 ≤ n then 0 else 6) := by unfold chkOp; rw [if_neg (by decide), if_neg (by decide), if_neg (by decide), if_neg (by decide), if_pos rfl]
theorem ck18 : chkOp g s 18 n = (if s.k < g then 0 else 7) := by unfold chkOp; rw [if_neg (by decide), if_neg (by decide), if_neg (by decide), if_neg (by decide), if_neg (by decide), if_pos rfl]
theorem ckno {op : Nat} (h16 : op ≠ 16) (h17 : op ≠ 17) (h10 : op ≠ 10) (h11 : op ≠ 11) (h8 : op ≠ 8) (h19 : op ≠ 19) (h18 : op ≠ 18) : chkOp g s op n = 0 := by
  unfold chkOp
  rw [if_neg h16, if_neg h17, if_neg (fun q => q.elim h10 h11), if_neg h8, if_neg h19, if_neg h18]
end CK
theorem grow_eq : ∀ op, op < 21 → -(opTakes.getD op 0) + opLeaves.getD op 0 = growsL.getD op 0 := by decide +kernel
theorem grow_h {op : Nat} (ho : op < 21) (a : Int32) : a + growsL.getD op 0 = a - opTakes.getD op 0 + opLeaves.getD op 0 := by
  rw [← grow_eq op ho, Int32.sub_eq_add_neg, Int32.add_assoc]
theorem nIk {a b : Nat} (ha : a < 32) (hb : b < 32) : nI a = nI b ↔ a = b := nI_eq (by omega) (by omega)
/-- the model's check -/
theorem c_MO_check (l : Launch) {γ : GH} (hY : 146 ≤ γ.N) {σ : SGG} {s : SS} {h tk gv : Nat} (hh : s.h = nI h) (h24 : h ≤ 24) (hk : s.k = nI tk) (hg : σ.MI 1 = nI gv) (htk : tk ≤ gv) (hgv : gv ≤ 40) : Ct l y_MO_check b_MO_check 4 (some .int) rm_MO_check γ (enc γ (mM σ s)) [.ref (aU γ)] (PI γ (fun r u => r = chk (σ.MF 0) (σ.MI 1) s ∧ u = mM σ s)) := by
  refine ct_of "ReplayMachineModel" (by decide) rfl rfl (Nat.le_of_ble_eq_true rfl) (fun x hl C => ?_)
  subst hl
  show V x γ (0, 0) _ _ 0 [some (.ref (aU γ)), none, none, none] []
  obtain ⟨w, ew⟩ : ∃ w, w = σ.MF 0 s.p.toNatClampNeg := ⟨_, rfl⟩
  obtain ⟨op, eo⟩ : ∃ op, opOf w = op := ⟨_, rfl⟩
  obtain ⟨n, en⟩ : ∃ n, argOf w = n := ⟨_, rfl⟩
  have n12 := argOf_in w
  rw [en] at n12
  obtain ⟨n1, n2⟩ := n12
  have ol : op < 32 := by rw [← eo]; exact opOf_lt w
  refine v_aload_n (pc := 0) C d_MO_check_0 rfl ?_
  refine gU_pc (pc := 1) C hY d_MO_check_1 fl_MO_66 ?_
  refine v_if_lt (pc := 4) C 16 d_MO_check_4 (by decide) (fun c4 => ?_) (fun c4 => ?_)
  · refine v_iconst (pc := 16) (v := 4) C d_MO_check_16 (by decide) ?_
    refine r_i (pc := 17) C d_MO_check_17 ?_
    exact ⟨by unfold chk; first | rw [if_pos c4] | rw [if_neg c4, if_neg c13], rfl⟩
  · refine v_aload_n (pc := 7) C d_MO_check_7 rfl ?_
    refine gU_pc (pc := 8) C hY d_MO_check_8 fl_MO_66 ?_
    refine v_bipush (pc := 11) (v := 64) C d_MO_check_11 (by decide) ?_
    refine v_icmp_lt (pc := 13) C 18 d_MO_check_13 (by decide) (fun c13 => ?_) (fun c13 => ?_)
    · refine v_aload_n (pc := 18) C d_MO_check_18 rfl ?_
      refine gU_program (pc := 19) C hY d_MO_check_19 fl_MO_7 ?_
      refine v_aload_n (pc := 22) C d_MO_check_22 rfl ?_
      refine gU_pc (pc := 23) C hY d_MO_check_23 fl_MO_66 ?_
      refine lU_program (pc := 26) C hY d_MO_check_26 ?_ ?_
      · exact in_vp c4 c13 (by decide)
      refine v_bipush (pc := 27) (v := 31) C d_MO_check_27 (by decide) ?_
      refine v_iand (pc := 29) C d_MO_check_29 ?_
      refine v_top (b := nI op) (by rw [← eo, ← and31, ew]) ?_
      refine v_istore_n (pc := 30) C d_MO_check_30 (Nat.le_of_ble_eq_true rfl) ?_
      refine v_aload_n (pc := 31) C d_MO_check_31 rfl ?_
      refine gU_program (pc := 32) C hY d_MO_check_32 fl_MO_7 ?_
      refine v_aload_n (pc := 35) C d_MO_check_35 rfl ?_
      refine gU_pc (pc := 36) C hY d_MO_check_36 fl_MO_66 ?_
      refine lU_program (pc := 39) C hY d_MO_check_39 ?_ ?_
      · exact in_vp c4 c13 (by decide)
      refine v_iconst (pc := 40) (v := 5) C d_MO_check_40 (by decide) ?_
      refine v_ishr (pc := 41) C d_MO_check_41 ?_
      refine v_top (b := n) (by rw [← en, ew]; rfl) ?_
      refine v_istore_n (pc := 42) C d_MO_check_42 (Nat.le_of_ble_eq_true rfl) ?_
      refine v_iload_n (pc := 43) C d_MO_check_43 rfl ?_
      refine v_bipush (pc := 44) (v := 20) C d_MO_check_44 (by decide) ?_
      refine v_icmp_le (pc := 46) C 51 d_MO_check_46 (by decide) (fun c46 => ?_) (fun c46 => ?_)
      · have g1 : op < 21 := by have := (nI_leI (b := 20) (by omega) (by decide)).mp c46; omega
        refine v_iload_n (pc := 51) C d_MO_check_51 rfl ?_
        refine v_if_ne (pc := 52) C 57 d_MO_check_52 (by decide) (fun c52 => ?_) (fun c52 => ?_)
        · have g2 : ¬ op = 0 := fun q => c52 (by rw [q]; rfl)
          have E : chk (σ.MF 0) (σ.MI 1) s = (if s.h < opTakes.getD op 0 then 2 else if chkOp (σ.MI 1) s op n = 0 then (if s.h - opTakes.getD op 0 + opLeaves.getD op 0 ≤ 24 then 0 else 3) else chkOp (σ.MI 1) s op n) := by
            unfold chk
            rw [if_neg c4, if_pos c13, ← ew]
            unfold chkW
            rw [eo, en, if_neg (fun q => q g1), if_neg g2]
          have R : ∀ v : Int32, ¬ s.h < opTakes.getD op 0 → chkOp (σ.MI 1) s op n = v → ¬ v = 0 → v = chk (σ.MF 0) (σ.MI 1) s := by
            intro v g3 g4 g5
            rw [E, if_neg g3, g4, if_neg g5]
          have h1e : ∀ k, opTakes.getD op 0 = nI k → k ≤ 24 → ¬ s.h < opTakes.getD op 0 → k ≤ h := fun k hk hk2 g3 => by
            rcases Nat.lt_or_ge h k with q | q
            · exact absurd (by rw [hh, hk]; exact nI_lt q (by omega)) g3
            · exact q
          have J200 : ∀ b : Int32, ¬ s.h < opTakes.getD op 0 → chkOp (σ.MI 1) s op n = 0 → V x γ (0, 0) (QM x γ (PI γ (fun r u => r = chk (σ.MF 0) (σ.MI 1) s ∧ u = mM σ s))) (enc γ (mM σ s)) 200 [some (.ref (aU γ)), some (.int (nI op)), some (.int n), some (.int b)] [] := by
            intro b g3 g4
            refine v_aload_n (pc := 200) C d_MO_check_200 rfl ?_
            refine gU_height (pc := 201) C hY d_MO_check_201 fl_MO_75 ?_
            refine v_iload_n (pc := 204) C d_MO_check_204 rfl ?_
            refine kk1i (pc := 205) C cb_MO_89 sm_MO_grows rk_MO_check_MO_grows d_MO_check_205 ⟨Nat.zero_le _, Nat.zero_le _⟩ (c_MO_grows x.l g1) (Nat.le_of_ble_eq_true rfl) (fun r205 σ205 h205 => ?_)
            obtain ⟨rfl, rfl⟩ := h205
            refine v_iadd (pc := 208) C d_MO_check_208 ?_
            refine v_bipush (pc := 209) (v := 24) C d_MO_check_209 (by decide) ?_
            refine v_icmp_le (pc := 211) C 218 d_MO_check_211 (by decide) (fun c211 => ?_) (fun c211 => ?_)
            · refine v_iconst (pc := 218) (v := 0) C d_MO_check_218 (by decide) ?_
              refine r_i (pc := 219) C d_MO_check_219 ?_
              exact ⟨by rw [E, if_neg g3, if_pos g4, ← grow_h g1]; first | rw [if_pos c211] | rw [if_neg c211], rfl⟩
            · refine v_iconst (pc := 214) (v := 3) C d_MO_check_214 (by decide) ?_
              refine v_goto (pc := 215) C 219 d_MO_check_215 (by decide) ?_
              refine r_i (pc := 219) C d_MO_check_219 ?_
              exact ⟨by rw [E, if_neg g3, if_pos g4, ← grow_h g1]; first | rw [if_pos c211] | rw [if_neg c211], rfl⟩
          have J180 : ∀ b : Int32, ¬ s.h < opTakes.getD op 0 → (op ≠ 18 → chkOp (σ.MI 1) s op n = 0) → V x γ (0, 0) (QM x γ (PI γ (fun r u => r = chk (σ.MF 0) (σ.MI 1) s ∧ u = mM σ s))) (enc γ (mM σ s)) 180 [some (.ref (aU γ)), some (.int (nI op)), some (.int n), some (.int b)] [] := by
            intro b g3 B
            refine v_iload_n (pc := 180) C d_MO_check_180 rfl ?_
            refine v_bipush (pc := 181) (v := 18) C d_MO_check_181 (by decide) ?_
            refine v_icmp_ne (pc := 183) C 200 d_MO_check_183 (by decide) (fun c183 => ?_) (fun c183 => ?_)
            · exact J200 b g3 (B (fun q => c183 (by rw [q]; rfl)))
            · have e18 : op = 18 := (nIk (b := 18) (by omega) (by decide)).mp c183
              refine v_aload_n (pc := 186) C d_MO_check_186 rfl ?_
              refine gU_taken (pc := 187) C hY d_MO_check_187 fl_MO_72 ?_
              refine v_aload_n (pc := 190) C d_MO_check_190 rfl ?_
              refine gU_given (pc := 191) C hY d_MO_check_191 fl_MO_60 ?_
              refine v_icmp_ne (pc := 194) C 200 d_MO_check_194 (by decide) (fun c194 => ?_) (fun c194 => ?_)
              · exact J200 b g3 (by rw [e18, ck18, if_pos]; rw [hk, hg]; exact nI_lt (Nat.lt_of_le_of_ne htk (fun q => c194 (by show s.k = σ.MI 1; rw [hk, hg, q]))) (by omega))
              · refine v_bipush (pc := 197) (v := 7) C d_MO_check_197 (by decide) ?_
                refine r_i (pc := 199) C d_MO_check_199 ?_
                exact ⟨R _ g3 (by rw [e18, ck18, if_neg]; rw [c194]; exact Int32.lt_irrefl) (by decide), rfl⟩
          have J166 : ∀ b : Int32, ¬ s.h < opTakes.getD op 0 → (op ≠ 19 → op ≠ 18 → chkOp (σ.MI 1) s op n = 0) → V x γ (0, 0) (QM x γ (PI γ (fun r u => r = chk (σ.MF 0) (σ.MI 1) s ∧ u = mM σ s))) (enc γ (mM σ s)) 166 [some (.ref (aU γ)), some (.int (nI op)), some (.int n), some (.int b)] [] := by
            intro b g3 B
            refine v_iload_n (pc := 166) C d_MO_check_166 rfl ?_
            refine v_bipush (pc := 167) (v := 19) C d_MO_check_167 (by decide) ?_
            refine v_icmp_ne (pc := 169) C 180 d_MO_check_169 (by decide) (fun c169 => ?_) (fun c169 => ?_)
            · exact J180 b g3 (B (fun q => c169 (by rw [q]; rfl)))
            · have e19 : op = 19 := (nIk (b := 19) (by omega) (by decide)).mp c169
              refine v_iload_n (pc := 172) C d_MO_check_172 rfl ?_
              refine v_iconst (pc := 173) (v := 1) C d_MO_check_173 (by decide) ?_
              refine v_icmp_ge (pc := 174) C 180 d_MO_check_174 (by decide) (fun c174 => ?_) (fun c174 => ?_)
              · exact J180 b g3 (fun _ => by rw [e19, ck19, if_pos c174])
              · refine v_bipush (pc := 177) (v := 6) C d_MO_check_177 (by decide) ?_
                refine r_i (pc := 179) C d_MO_check_179 ?_
                exact ⟨R _ g3 (by rw [e19, ck19, if_neg c174]) (by decide), rfl⟩
          have J156 : ∀ b : Int32, ¬ s.h < opTakes.getD op 0 → (1 ≤ h → b = topS s) → (op ≠ 8 → op ≠ 19 → op ≠ 18 → chkOp (σ.MI 1) s op n = 0) → V x γ (0, 0) (QM x γ (PI γ (fun r u => r = chk (σ.MF 0) (σ.MI 1) s ∧ u = mM σ s))) (enc γ (mM σ s)) 156 [some (.ref (aU γ)), some (.int (nI op)), some (.int n), some (.int b)] [] := by
            intro b g3 hb B
            refine v_iload_n (pc := 156) C d_MO_check_156 rfl ?_
            refine v_bipush (pc := 157) (v := 8) C d_MO_check_157 (by decide) ?_
            refine v_icmp_ne (pc := 159) C 166 d_MO_check_159 (by decide) (fun c159 => ?_) (fun c159 => ?_)
            · exact J166 b g3 (B (fun q => c159 (by rw [q]; rfl)))
            · have e8 : op = 8 := (nIk (b := 8) (by omega) (by decide)).mp c159
              have hb := hb (Nat.le_trans (by decide) (h1e 2 (by rw [e8]; rfl) (by decide) g3))
              refine v_iload_n (pc := 162) C d_MO_check_162 rfl ?_
              refine v_if_eq (pc := 163) C 177 d_MO_check_163 (by decide) (fun c163 => ?_) (fun c163 => ?_)
              · refine v_bipush (pc := 177) (v := 6) C d_MO_check_177 (by decide) ?_
                refine r_i (pc := 179) C d_MO_check_179 ?_
                exact ⟨R _ g3 (by rw [e8, ck8, if_pos (by rw [← hb]; exact c163)]) (by decide), rfl⟩
              · exact J166 b g3 (fun _ _ => by rw [e8, ck8, if_neg (by rw [← hb]; exact c163)])
          have J132 : ∀ b : Int32, ¬ s.h < opTakes.getD op 0 → (1 ≤ h → b = topS s) → (op ≠ 10 → op ≠ 11 → op ≠ 8 → op ≠ 19 → op ≠ 18 → chkOp (σ.MI 1) s op n = 0) → V x γ (0, 0) (QM x γ (PI γ (fun r u => r = chk (σ.MF 0) (σ.MI 1) s ∧ u = mM σ s))) (enc γ (mM σ s)) 132 [some (.ref (aU γ)), some (.int (nI op)), some (.int n), some (.int b)] [] := by
            intro b g3 hb B
            have K : chkOp (σ.MI 1) s op n = (if topS s < 0 then 4 else if topS s < 32 then 0 else 4) → 1 ≤ h → V x γ (0, 0) (QM x γ (PI γ (fun r u => r = chk (σ.MF 0) (σ.MI 1) s ∧ u = mM σ s))) (enc γ (mM σ s)) 144 [some (.ref (aU γ)), some (.int (nI op)), some (.int n), some (.int b)] [] := by
              intro ek h1
              have hb1 := hb h1
              refine v_iload_n (pc := 144) C d_MO_check_144 rfl ?_
              refine v_if_lt (pc := 145) C 154 d_MO_check_145 (by decide) (fun c145 => ?_) (fun c145 => ?_)
              · refine v_iconst (pc := 154) (v := 4) C d_MO_check_154 (by decide) ?_
                refine r_i (pc := 155) C d_MO_check_155 ?_
                exact ⟨R _ g3 (by rw [ek, ← hb1]; first | rw [if_pos c145] | rw [if_neg c145, if_neg c151]) (by decide), rfl⟩
              · refine v_iload_n (pc := 148) C d_MO_check_148 rfl ?_
                refine v_bipush (pc := 149) (v := 32) C d_MO_check_149 (by decide) ?_
                refine v_icmp_lt (pc := 151) C 156 d_MO_check_151 (by decide) (fun c151 => ?_) (fun c151 => ?_)
                · exact J156 b g3 hb (fun _ _ _ => by rw [ek, ← hb1, if_neg c145, if_pos c151])
                · refine v_iconst (pc := 154) (v := 4) C d_MO_check_154 (by decide) ?_
                  refine r_i (pc := 155) C d_MO_check_155 ?_
                  exact ⟨R _ g3 (by rw [ek, ← hb1]; first | rw [if_pos c145] | rw [if_neg c145, if_neg c151]) (by decide), rfl⟩
            refine v_iload_n (pc := 132) C d_MO_check_132 rfl ?_
            refine v_bipush (pc := 133) (v := 10) C d_MO_check_133 (by decide) ?_
            refine v_icmp_eq (pc := 135) C 144 d_MO_check_135 (by decide) (fun c135 => ?_) (fun c135 => ?_)
            · have e10 : op = 10 := (nIk (b := 10) (by omega) (by decide)).mp c135
              exact K (by rw [e10, ck10]) (h1e 1 (by rw [e10]; rfl) (by decide) g3)
              skip
            · refine v_iload_n (pc := 138) C d_MO_check_138 rfl ?_
              refine v_bipush (pc := 139) (v := 11) C d_MO_check_139 (by decide) ?_
              refine v_icmp_ne (pc := 141) C 156 d_MO_check_141 (by decide) (fun c141 => ?_) (fun c141 => ?_)
              · exact J156 b g3 hb (B (fun q => c135 (by rw [q]; rfl)) (fun q => c141 (by rw [q]; rfl)))
              · have e11 : op = 11 := (nIk (b := 11) (by omega) (by decide)).mp c141
                exact K (by rw [e11, ck11]) (Nat.le_trans (by decide) (h1e 2 (by rw [e11]; rfl) (by decide) g3))
                skip
          have J109 : ¬ s.h < opTakes.getD op 0 → (op ≠ 10 → op ≠ 11 → op ≠ 8 → op ≠ 19 → op ≠ 18 → chkOp (σ.MI 1) s op n = 0) → V x γ (0, 0) (QM x γ (PI γ (fun r u => r = chk (σ.MF 0) (σ.MI 1) s ∧ u = mM σ s))) (enc γ (mM σ s)) 109 [some (.ref (aU γ)), some (.int (nI op)), some (.int n), none] [] := by
            intro g3 B
            refine v_aload_n (pc := 109) C d_MO_check_109 rfl ?_
            refine gU_height (pc := 110) C hY d_MO_check_110 fl_MO_75 ?_
            refine v_if_le (pc := 113) C 130 d_MO_check_113 (by decide) (fun c113 => ?_) (fun c113 => ?_)
            · have h0 : ¬ 1 ≤ h := fun q => absurd c113 (by show ¬ s.h ≤ 0; rw [hh]; exact nI_nle (by omega) (by omega))
              refine v_iconst (pc := 130) (v := 0) C d_MO_check_130 (by decide) ?_
              refine v_istore_n (pc := 131) C d_MO_check_131 (Nat.le_of_ble_eq_true rfl) ?_
              first | exact J132 _ g3 (fun q => absurd q h0) B | exact J132 _ g3 (fun _ => rfl) B
            · have h0 : 1 ≤ h := by
                rcases Nat.eq_zero_or_pos h with q | q
                · exact absurd (show s.h ≤ 0 by rw [hh, q]; decide) c113
                · exact q
              refine v_aload_n (pc := 116) C d_MO_check_116 rfl ?_
              refine gU_stack (pc := 117) C hY d_MO_check_117 fl_MO_26 ?_
              refine v_aload_n (pc := 120) C d_MO_check_120 rfl ?_
              refine gU_height (pc := 121) C hY d_MO_check_121 fl_MO_75 ?_
              refine v_iconst (pc := 124) (v := 1) C d_MO_check_124 (by decide) ?_
              refine v_isub (pc := 125) C d_MO_check_125 ?_
              refine lU_stack (pc := 126) C hY d_MO_check_126 ?_ ?_
              · rw [hh]; exact hm1 h0 h24
              refine v_goto (pc := 127) C 131 d_MO_check_127 (by decide) ?_
              refine v_istore_n (pc := 131) C d_MO_check_131 (Nat.le_of_ble_eq_true rfl) ?_
              first | exact J132 _ g3 (fun q => absurd q h0) B | exact J132 _ g3 (fun _ => rfl) B
          have J93 : ¬ s.h < opTakes.getD op 0 → (op ≠ 17 → op ≠ 10 → op ≠ 11 → op ≠ 8 → op ≠ 19 → op ≠ 18 → chkOp (σ.MI 1) s op n = 0) → V x γ (0, 0) (QM x γ (PI γ (fun r u => r = chk (σ.MF 0) (σ.MI 1) s ∧ u = mM σ s))) (enc γ (mM σ s)) 93 [some (.ref (aU γ)), some (.int (nI op)), some (.int n), none] [] := by
            intro g3 B
            refine v_iload_n (pc := 93) C d_MO_check_93 rfl ?_
            refine v_bipush (pc := 94) (v := 17) C d_MO_check_94 (by decide) ?_
            refine v_icmp_ne (pc := 96) C 109 d_MO_check_96 (by decide) (fun c96 => ?_) (fun c96 => ?_)
            · exact J109 g3 (B (fun q => c96 (by rw [q]; rfl)))
            · have e17 : op = 17 := (nIk (b := 17) (by omega) (by decide)).mp c96
              refine v_aload_n (pc := 99) C d_MO_check_99 rfl ?_
              refine v_iload_n (pc := 100) C d_MO_check_100 rfl ?_
              refine kU1i (pc := 101) C hY cb_MO_85 ⟨im_MO_isArgument, sl_MO_isArgument⟩ rfl rk_MO_check_MO_isArgument d_MO_check_101 ⟨Nat.zero_le _, Nat.zero_le _⟩ (c_MO_isArgument x.l hY) (Nat.le_of_ble_eq_true rfl) (fun r101 σ101 h101 => ?_)
              obtain ⟨rfl, rfl⟩ := h101
              refine v_if_ne (pc := 104) C 109 d_MO_check_104 (by decide) (fun c104 => ?_) (fun c104 => ?_)
              · exact J109 g3 (fun _ _ _ _ _ => by rw [e17, ck17, if_neg]; rw [hh, ← isArg_eq h24 n1 n2, ← hh]; exact c104)
              · refine v_iconst (pc := 107) (v := 2) C d_MO_check_107 (by decide) ?_
                refine r_i (pc := 108) C d_MO_check_108 ?_
                exact ⟨R _ g3 (by rw [e17, ck17, if_pos]; rw [hh, ← isArg_eq h24 n1 n2, ← hh]; exact c104) (by decide), rfl⟩
          refine v_aload_n (pc := 57) C d_MO_check_57 rfl ?_
          refine gU_height (pc := 58) C hY d_MO_check_58 fl_MO_75 ?_
          refine v_iload_n (pc := 61) C d_MO_check_61 rfl ?_
          refine kk1i (pc := 62) C cb_MO_81 sm_MO_needs rk_MO_check_MO_needs d_MO_check_62 ⟨Nat.zero_le _, Nat.zero_le _⟩ (c_MO_needs x.l g1) (Nat.le_of_ble_eq_true rfl) (fun r62 σ62 h62 => ?_)
          obtain ⟨rfl, rfl⟩ := h62
          refine v_icmp_lt (pc := 65) C 107 d_MO_check_65 (by decide) (fun c65 => ?_) (fun c65 => ?_)
          · have g3 := c65
            refine v_iconst (pc := 107) (v := 2) C d_MO_check_107 (by decide) ?_
            refine r_i (pc := 108) C d_MO_check_108 ?_
            exact ⟨by first | (rw [E, if_pos g3]; done) | exact R _ g3 (by rw [e16, ck16]; first | rw [if_pos c79] | rw [if_neg c79, if_neg (k2_nlt c90)]) (by decide), rfl⟩
          · have g3 := c65
            refine v_iload_n (pc := 68) C d_MO_check_68 rfl ?_
            refine v_bipush (pc := 69) (v := 16) C d_MO_check_69 (by decide) ?_
            refine v_icmp_ne (pc := 71) C 93 d_MO_check_71 (by decide) (fun c71 => ?_) (fun c71 => ?_)
            · exact J93 g3 (ckno (fun q => c71 (by rw [q]; rfl)))
            · have e16 : op = 16 := (nIk (b := 16) (by omega) (by decide)).mp c71
              refine v_aload_n (pc := 74) C d_MO_check_74 rfl ?_
              refine gU_frame (pc := 75) C hY d_MO_check_75 fl_MO_69 ?_
              refine v_iconst (pc := 78) (v := 2) C d_MO_check_78 (by decide) ?_
              refine v_icmp_lt (pc := 79) C 107 d_MO_check_79 (by decide) (fun c79 => ?_) (fun c79 => ?_)
              · refine v_iconst (pc := 107) (v := 2) C d_MO_check_107 (by decide) ?_
                refine r_i (pc := 108) C d_MO_check_108 ?_
                exact ⟨by first | (rw [E, if_pos g3]; done) | exact R _ g3 (by rw [e16, ck16]; first | rw [if_pos c79] | rw [if_neg c79, if_neg (k2_nlt c90)]) (by decide), rfl⟩
              · refine v_aload_n (pc := 82) C d_MO_check_82 rfl ?_
                refine gU_frame (pc := 83) C hY d_MO_check_83 fl_MO_69 ?_
                refine v_aload_n (pc := 86) C d_MO_check_86 rfl ?_
                refine gU_height (pc := 87) C hY d_MO_check_87 fl_MO_75 ?_
                refine v_icmp_ge (pc := 90) C 107 d_MO_check_90 (by decide) (fun c90 => ?_) (fun c90 => ?_)
                · refine v_iconst (pc := 107) (v := 2) C d_MO_check_107 (by decide) ?_
                  refine r_i (pc := 108) C d_MO_check_108 ?_
                  exact ⟨by first | (rw [E, if_pos g3]; done) | exact R _ g3 (by rw [e16, ck16]; first | rw [if_pos c79] | rw [if_neg c79, if_neg (k2_nlt c90)]) (by decide), rfl⟩
                · exact J93 g3 (fun _ _ _ _ _ _ => by rw [e16, ck16, if_neg c79, if_pos (k2_lt c90)])
        · have g2 : op = 0 := (nIk (b := 0) (by omega) (by decide)).mp c52
          refine v_iconst (pc := 55) (v := 1) C d_MO_check_55 (by decide) ?_
          refine r_i (pc := 56) C d_MO_check_56 ?_
          exact ⟨by unfold chk; rw [if_neg c4, if_pos c13, ← ew]; unfold chkW; rw [eo, if_neg (fun q => q g1), if_pos g2], rfl⟩
      · have g1 : ¬ op < 21 := fun q => c46 (nI_le (b := 20) (by omega) (by decide))
        refine v_iconst (pc := 49) (v := 5) C d_MO_check_49 (by decide) ?_
        refine r_i (pc := 50) C d_MO_check_50 ?_
        exact ⟨by unfold chk; rw [if_neg c4, if_pos c13, ← ew]; unfold chkW; rw [eo, if_pos g1], rfl⟩
    · refine v_iconst (pc := 16) (v := 4) C d_MO_check_16 (by decide) ?_
      refine r_i (pc := 17) C d_MO_check_17 ?_
      exact ⟨by unfold chk; first | rw [if_pos c4] | rw [if_neg c4, if_neg c13], rfl⟩
