section TN
variable {x : CT} {γ : GH} {cc : ByteArray} {own : String} {ret : Option FieldType} {rm : Room} {κ : Nat × Nat} {Q : State → Prop} {σ : SGG} {w : Nat → va_E} {pc : Nat} {L : List (Option Value)} {st : List Value}
theorem v_top {a b : Int32} (h : a = b) (k : V x γ κ Q w pc L (.int b :: st)) : V x γ κ Q w pc L (.int a :: st) := h ▸ k
theorem v_top2 {a b : Int32} {c : Value} (h : a = b) (k : V x γ κ Q w pc L (c :: .int b :: st)) : V x γ κ Q w pc L (c :: .int a :: st) := h ▸ k
theorem v_st {st2 : List Value} (h : st = st2) (k : V x γ κ Q w pc L st2) : V x γ κ Q w pc L st := h ▸ k
theorem v_loc {L2 : List (Option Value)} (h : L = L2) (k : V x γ κ Q w pc L2 st) : V x γ κ Q w pc L st := h ▸ k
theorem v_w {σ2 : SGG} (h : σ = σ2) (k : V x γ κ Q (enc γ σ2) pc L st) : V x γ κ Q (enc γ σ) pc L st := h ▸ k
theorem clamp_nI {k n : Nat} (h : k < n) (hn : n < 2 ^ 31) : (nI k).toNatClampNeg = k := nI_clamp (by omega)

theorem lM_codeN (C : Cx x γ cc own ret rm) (hX : 135 ≤ γ.N) {a : Nat} (hd : decode cc pc = .ok (.iaload, 1)) (ha : a < 64) (kk : V x γ κ Q (enc γ σ) (pc + 1) L (.int (σ.F 0 a) :: st)) : V x γ κ Q (enc γ σ) pc L (.int (nI a) :: .ref (aF γ 0) :: st) :=
  lM_code C hX hd (vp_in_nI ha (by decide)) (by rw [clamp_nI ha (by decide)]; exact kk)
theorem stM_codeN (C : Cx x γ cc own ret rm) (hX : 135 ≤ γ.N) {a : Nat} {v : Int32} (hd : decode cc pc = .ok (.iastore, 1)) (ha : a < 64) (kk : V x γ κ Q (enc γ (sF σ 0 (upd (σ.F 0) a (v)))) (pc + 1) L (st)) : V x γ κ Q (enc γ σ) pc L (.int v :: .int (nI a) :: .ref (aF γ 0) :: st) :=
  stM_code C hX hd (vp_in_nI ha (by decide)) (by rw [clamp_nI ha (by decide)]; exact kk)
theorem lM_inputsN (C : Cx x γ cc own ret rm) (hX : 135 ≤ γ.N) {a : Nat} (hd : decode cc pc = .ok (.iaload, 1)) (ha : a < 40) (kk : V x γ κ Q (enc γ σ) (pc + 1) L (.int (σ.F 1 a) :: st)) : V x γ κ Q (enc γ σ) pc L (.int (nI a) :: .ref (aF γ 1) :: st) :=
  lM_inputs C hX hd (vp_in_nI ha (by decide)) (by rw [clamp_nI ha (by decide)]; exact kk)
theorem stM_inputsN (C : Cx x γ cc own ret rm) (hX : 135 ≤ γ.N) {a : Nat} {v : Int32} (hd : decode cc pc = .ok (.iastore, 1)) (ha : a < 40) (kk : V x γ κ Q (enc γ (sF σ 1 (upd (σ.F 1) a (v)))) (pc + 1) L (st)) : V x γ κ Q (enc γ σ) pc L (.int v :: .int (nI a) :: .ref (aF γ 1) :: st) :=
  stM_inputs C hX hd (vp_in_nI ha (by decide)) (by rw [clamp_nI ha (by decide)]; exact kk)
theorem lM_breaksN (C : Cx x γ cc own ret rm) (hX : 135 ≤ γ.N) {a : Nat} (hd : decode cc pc = .ok (.baload, 1)) (ha : a < 64) (kk : V x γ κ Q (enc γ σ) (pc + 1) L (.int (σ.F 2 a) :: st)) : V x γ κ Q (enc γ σ) pc L (.int (nI a) :: .ref (aF γ 2) :: st) :=
  lM_breaks C hX hd (vp_in_nI ha (by decide)) (by rw [clamp_nI ha (by decide)]; exact kk)
theorem stM_breaksN (C : Cx x γ cc own ret rm) (hX : 135 ≤ γ.N) {a : Nat} {v : Int32} (hd : decode cc pc = .ok (.bastore, 1)) (ha : a < 64) (kk : V x γ κ Q (enc γ (sF σ 2 (upd (σ.F 2) a (vp_nar .boolean v)))) (pc + 1) L (st)) : V x γ κ Q (enc γ σ) pc L (.int v :: .int (nI a) :: .ref (aF γ 2) :: st) :=
  stM_breaks C hX hd (vp_in_nI ha (by decide)) (by rw [clamp_nI ha (by decide)]; exact kk)
theorem lM_watchesN (C : Cx x γ cc own ret rm) (hX : 135 ≤ γ.N) {a : Nat} (hd : decode cc pc = .ok (.baload, 1)) (ha : a < 32) (kk : V x γ κ Q (enc γ σ) (pc + 1) L (.int (σ.F 3 a) :: st)) : V x γ κ Q (enc γ σ) pc L (.int (nI a) :: .ref (aF γ 3) :: st) :=
  lM_watches C hX hd (vp_in_nI ha (by decide)) (by rw [clamp_nI ha (by decide)]; exact kk)
theorem stM_watchesN (C : Cx x γ cc own ret rm) (hX : 135 ≤ γ.N) {a : Nat} {v : Int32} (hd : decode cc pc = .ok (.bastore, 1)) (ha : a < 32) (kk : V x γ κ Q (enc γ (sF σ 3 (upd (σ.F 3) a (vp_nar .boolean v)))) (pc + 1) L (st)) : V x γ κ Q (enc γ σ) pc L (.int v :: .int (nI a) :: .ref (aF γ 3) :: st) :=
  stM_watches C hX hd (vp_in_nI ha (by decide)) (by rw [clamp_nI ha (by decide)]; exact kk)
theorem lM_wereN (C : Cx x γ cc own ret rm) (hX : 135 ≤ γ.N) {a : Nat} (hd : decode cc pc = .ok (.iaload, 1)) (ha : a < 32) (kk : V x γ κ Q (enc γ σ) (pc + 1) L (.int (σ.F 4 a) :: st)) : V x γ κ Q (enc γ σ) pc L (.int (nI a) :: .ref (aF γ 4) :: st) :=
  lM_were C hX hd (vp_in_nI ha (by decide)) (by rw [clamp_nI ha (by decide)]; exact kk)
theorem stM_wereN (C : Cx x γ cc own ret rm) (hX : 135 ≤ γ.N) {a : Nat} {v : Int32} (hd : decode cc pc = .ok (.iastore, 1)) (ha : a < 32) (kk : V x γ κ Q (enc γ (sF σ 4 (upd (σ.F 4) a (v)))) (pc + 1) L (st)) : V x γ κ Q (enc γ σ) pc L (.int v :: .int (nI a) :: .ref (aF γ 4) :: st) :=
  stM_were C hX hd (vp_in_nI ha (by decide)) (by rw [clamp_nI ha (by decide)]; exact kk)
theorem lO_programN (C : Cx x γ cc own ret rm) (hY : 146 ≤ γ.N) {a : Nat} (hd : decode cc pc = .ok (.iaload, 1)) (ha : a < 64) (kk : V x γ κ Q (enc γ σ) (pc + 1) L (.int (σ.MF 0 a) :: st)) : V x γ κ Q (enc γ σ) pc L (.int (nI a) :: .ref (aG γ 0) :: st) :=
  lO_program C hY hd (vp_in_nI ha (by decide)) (by rw [clamp_nI ha (by decide)]; exact kk)
theorem stO_programN (C : Cx x γ cc own ret rm) (hY : 146 ≤ γ.N) {a : Nat} {v : Int32} (hd : decode cc pc = .ok (.iastore, 1)) (ha : a < 64) (kk : V x γ κ Q (enc γ (sMF σ 0 (upd (σ.MF 0) a (v)))) (pc + 1) L (st)) : V x γ κ Q (enc γ σ) pc L (.int v :: .int (nI a) :: .ref (aG γ 0) :: st) :=
  stO_program C hY hd (vp_in_nI ha (by decide)) (by rw [clamp_nI ha (by decide)]; exact kk)
theorem lO_inputsN (C : Cx x γ cc own ret rm) (hY : 146 ≤ γ.N) {a : Nat} (hd : decode cc pc = .ok (.iaload, 1)) (ha : a < 40) (kk : V x γ κ Q (enc γ σ) (pc + 1) L (.int (σ.MF 1 a) :: st)) : V x γ κ Q (enc γ σ) pc L (.int (nI a) :: .ref (aG γ 1) :: st) :=
  lO_inputs C hY hd (vp_in_nI ha (by decide)) (by rw [clamp_nI ha (by decide)]; exact kk)
theorem stO_inputsN (C : Cx x γ cc own ret rm) (hY : 146 ≤ γ.N) {a : Nat} {v : Int32} (hd : decode cc pc = .ok (.iastore, 1)) (ha : a < 40) (kk : V x γ κ Q (enc γ (sMF σ 1 (upd (σ.MF 1) a (v)))) (pc + 1) L (st)) : V x γ κ Q (enc γ σ) pc L (.int v :: .int (nI a) :: .ref (aG γ 1) :: st) :=
  stO_inputs C hY hd (vp_in_nI ha (by decide)) (by rw [clamp_nI ha (by decide)]; exact kk)
theorem lO_breaksN (C : Cx x γ cc own ret rm) (hY : 146 ≤ γ.N) {a : Nat} (hd : decode cc pc = .ok (.baload, 1)) (ha : a < 64) (kk : V x γ κ Q (enc γ σ) (pc + 1) L (.int (σ.MF 2 a) :: st)) : V x γ κ Q (enc γ σ) pc L (.int (nI a) :: .ref (aG γ 2) :: st) :=
  lO_breaks C hY hd (vp_in_nI ha (by decide)) (by rw [clamp_nI ha (by decide)]; exact kk)
theorem stO_breaksN (C : Cx x γ cc own ret rm) (hY : 146 ≤ γ.N) {a : Nat} {v : Int32} (hd : decode cc pc = .ok (.bastore, 1)) (ha : a < 64) (kk : V x γ κ Q (enc γ (sMF σ 2 (upd (σ.MF 2) a (vp_nar .boolean v)))) (pc + 1) L (st)) : V x γ κ Q (enc γ σ) pc L (.int v :: .int (nI a) :: .ref (aG γ 2) :: st) :=
  stO_breaks C hY hd (vp_in_nI ha (by decide)) (by rw [clamp_nI ha (by decide)]; exact kk)
theorem lO_watchesN (C : Cx x γ cc own ret rm) (hY : 146 ≤ γ.N) {a : Nat} (hd : decode cc pc = .ok (.baload, 1)) (ha : a < 32) (kk : V x γ κ Q (enc γ σ) (pc + 1) L (.int (σ.MF 3 a) :: st)) : V x γ κ Q (enc γ σ) pc L (.int (nI a) :: .ref (aG γ 3) :: st) :=
  lO_watches C hY hd (vp_in_nI ha (by decide)) (by rw [clamp_nI ha (by decide)]; exact kk)
theorem stO_watchesN (C : Cx x γ cc own ret rm) (hY : 146 ≤ γ.N) {a : Nat} {v : Int32} (hd : decode cc pc = .ok (.bastore, 1)) (ha : a < 32) (kk : V x γ κ Q (enc γ (sMF σ 3 (upd (σ.MF 3) a (vp_nar .boolean v)))) (pc + 1) L (st)) : V x γ κ Q (enc γ σ) pc L (.int v :: .int (nI a) :: .ref (aG γ 3) :: st) :=
  stO_watches C hY hd (vp_in_nI ha (by decide)) (by rw [clamp_nI ha (by decide)]; exact kk)
theorem lO_cellsN (C : Cx x γ cc own ret rm) (hY : 146 ≤ γ.N) {a : Nat} (hd : decode cc pc = .ok (.iaload, 1)) (ha : a < 32) (kk : V x γ κ Q (enc γ σ) (pc + 1) L (.int (σ.MF 4 a) :: st)) : V x γ κ Q (enc γ σ) pc L (.int (nI a) :: .ref (aG γ 4) :: st) :=
  lO_cells C hY hd (vp_in_nI ha (by decide)) (by rw [clamp_nI ha (by decide)]; exact kk)
theorem stO_cellsN (C : Cx x γ cc own ret rm) (hY : 146 ≤ γ.N) {a : Nat} {v : Int32} (hd : decode cc pc = .ok (.iastore, 1)) (ha : a < 32) (kk : V x γ κ Q (enc γ (sMF σ 4 (upd (σ.MF 4) a (v)))) (pc + 1) L (st)) : V x γ κ Q (enc γ σ) pc L (.int v :: .int (nI a) :: .ref (aG γ 4) :: st) :=
  stO_cells C hY hd (vp_in_nI ha (by decide)) (by rw [clamp_nI ha (by decide)]; exact kk)
theorem lO_stackN (C : Cx x γ cc own ret rm) (hY : 146 ≤ γ.N) {a : Nat} (hd : decode cc pc = .ok (.iaload, 1)) (ha : a < 24) (kk : V x γ κ Q (enc γ σ) (pc + 1) L (.int (σ.MF 5 a) :: st)) : V x γ κ Q (enc γ σ) pc L (.int (nI a) :: .ref (aG γ 5) :: st) :=
  lO_stack C hY hd (vp_in_nI ha (by decide)) (by rw [clamp_nI ha (by decide)]; exact kk)
theorem stO_stackN (C : Cx x γ cc own ret rm) (hY : 146 ≤ γ.N) {a : Nat} {v : Int32} (hd : decode cc pc = .ok (.iastore, 1)) (ha : a < 24) (kk : V x γ κ Q (enc γ (sMF σ 5 (upd (σ.MF 5) a (v)))) (pc + 1) L (st)) : V x γ κ Q (enc γ σ) pc L (.int v :: .int (nI a) :: .ref (aG γ 5) :: st) :=
  stO_stack C hY hd (vp_in_nI ha (by decide)) (by rw [clamp_nI ha (by decide)]; exact kk)
theorem lO_wereN (C : Cx x γ cc own ret rm) (hY : 146 ≤ γ.N) {a : Nat} (hd : decode cc pc = .ok (.iaload, 1)) (ha : a < 32) (kk : V x γ κ Q (enc γ σ) (pc + 1) L (.int (σ.MF 6 a) :: st)) : V x γ κ Q (enc γ σ) pc L (.int (nI a) :: .ref (aG γ 6) :: st) :=
  lO_were C hY hd (vp_in_nI ha (by decide)) (by rw [clamp_nI ha (by decide)]; exact kk)
theorem stO_wereN (C : Cx x γ cc own ret rm) (hY : 146 ≤ γ.N) {a : Nat} {v : Int32} (hd : decode cc pc = .ok (.iastore, 1)) (ha : a < 32) (kk : V x γ κ Q (enc γ (sMF σ 6 (upd (σ.MF 6) a (v)))) (pc + 1) L (st)) : V x γ κ Q (enc γ σ) pc L (.int v :: .int (nI a) :: .ref (aG γ 6) :: st) :=
  stO_were C hY hd (vp_in_nI ha (by decide)) (by rw [clamp_nI ha (by decide)]; exact kk)
theorem lO_markWordsN (C : Cx x γ cc own ret rm) (hY : 146 ≤ γ.N) {a : Nat} (hd : decode cc pc = .ok (.iaload, 1)) (ha : a < 728) (kk : V x γ κ Q (enc γ σ) (pc + 1) L (.int (σ.MF 7 a) :: st)) : V x γ κ Q (enc γ σ) pc L (.int (nI a) :: .ref (aG γ 7) :: st) :=
  lO_markWords C hY hd (vp_in_nI ha (by decide)) (by rw [clamp_nI ha (by decide)]; exact kk)
theorem stO_markWordsN (C : Cx x γ cc own ret rm) (hY : 146 ≤ γ.N) {a : Nat} {v : Int32} (hd : decode cc pc = .ok (.iastore, 1)) (ha : a < 728) (kk : V x γ κ Q (enc γ (sMF σ 7 (upd (σ.MF 7) a (v)))) (pc + 1) L (st)) : V x γ κ Q (enc γ σ) pc L (.int v :: .int (nI a) :: .ref (aG γ 7) :: st) :=
  stO_markWords C hY hd (vp_in_nI ha (by decide)) (by rw [clamp_nI ha (by decide)]; exact kk)
theorem lO_markOthersN (C : Cx x γ cc own ret rm) (hY : 146 ≤ γ.N) {a : Nat} (hd : decode cc pc = .ok (.iaload, 1)) (ha : a < 65) (kk : V x γ κ Q (enc γ σ) (pc + 1) L (.int (σ.MF 8 a) :: st)) : V x γ κ Q (enc γ σ) pc L (.int (nI a) :: .ref (aG γ 8) :: st) :=
  lO_markOthers C hY hd (vp_in_nI ha (by decide)) (by rw [clamp_nI ha (by decide)]; exact kk)
theorem stO_markOthersN (C : Cx x γ cc own ret rm) (hY : 146 ≤ γ.N) {a : Nat} {v : Int32} (hd : decode cc pc = .ok (.iastore, 1)) (ha : a < 65) (kk : V x γ κ Q (enc γ (sMF σ 8 (upd (σ.MF 8) a (v)))) (pc + 1) L (st)) : V x γ κ Q (enc γ σ) pc L (.int v :: .int (nI a) :: .ref (aG γ 8) :: st) :=
  stO_markOthers C hY hd (vp_in_nI ha (by decide)) (by rw [clamp_nI ha (by decide)]; exact kk)
theorem lO_keptAtN (C : Cx x γ cc own ret rm) (hY : 146 ≤ γ.N) {a : Nat} (hd : decode cc pc = .ok (.iaload, 1)) (ha : a < 9) (kk : V x γ κ Q (enc γ σ) (pc + 1) L (.int (σ.MF 9 a) :: st)) : V x γ κ Q (enc γ σ) pc L (.int (nI a) :: .ref (aG γ 9) :: st) :=
  lO_keptAt C hY hd (vp_in_nI ha (by decide)) (by rw [clamp_nI ha (by decide)]; exact kk)
theorem stO_keptAtN (C : Cx x γ cc own ret rm) (hY : 146 ≤ γ.N) {a : Nat} {v : Int32} (hd : decode cc pc = .ok (.iastore, 1)) (ha : a < 9) (kk : V x γ κ Q (enc γ (sMF σ 9 (upd (σ.MF 9) a (v)))) (pc + 1) L (st)) : V x γ κ Q (enc γ σ) pc L (.int v :: .int (nI a) :: .ref (aG γ 9) :: st) :=
  stO_keptAt C hY hd (vp_in_nI ha (by decide)) (by rw [clamp_nI ha (by decide)]; exact kk)
theorem lS_cellsN (C : Cx x γ cc own ret rm) (hX : 135 ≤ γ.N) {i : Nat} (hi : i < 10) {s : SS} (hs : σ.S i = s) {a : Nat} (hd : decode cc pc = .ok (.iaload, 1)) (ha : a < 32) (kk : V x γ κ Q (enc γ σ) (pc + 1) L (.int (s.c a) :: st)) : V x γ κ Q (enc γ σ) pc L (.int (nI a) :: .ref (aC γ i) :: st) :=
  lS_cells C hX hi hs hd (vp_in_nI ha (by decide)) (by rw [clamp_nI ha (by decide)]; exact kk)
theorem stS_cellsN (C : Cx x γ cc own ret rm) (hX : 135 ≤ γ.N) {a : Nat} {v : Int32} {i : Nat} (hi : i < 10) {s : SS} (hs : σ.S i = s) {σ2 : SGG} (hσ : sS σ i (qc s (upd s.c a v)) = σ2) (hd : decode cc pc = .ok (.iastore, 1)) (ha : a < 32) (kk : V x γ κ Q (enc γ σ2) (pc + 1) L (st)) : V x γ κ Q (enc γ σ) pc L (.int v :: .int (nI a) :: .ref (aC γ i) :: st) :=
  stS_cells C hX hi hs (by rw [clamp_nI ha (by decide)]; exact hσ) hd (vp_in_nI ha (by decide)) kk
theorem lS_stackN (C : Cx x γ cc own ret rm) (hX : 135 ≤ γ.N) {i : Nat} (hi : i < 10) {s : SS} (hs : σ.S i = s) {a : Nat} (hd : decode cc pc = .ok (.iaload, 1)) (ha : a < 24) (kk : V x γ κ Q (enc γ σ) (pc + 1) L (.int (s.s a) :: st)) : V x γ κ Q (enc γ σ) pc L (.int (nI a) :: .ref (aK γ i) :: st) :=
  lS_stack C hX hi hs hd (vp_in_nI ha (by decide)) (by rw [clamp_nI ha (by decide)]; exact kk)
theorem stS_stackN (C : Cx x γ cc own ret rm) (hX : 135 ≤ γ.N) {a : Nat} {v : Int32} {i : Nat} (hi : i < 10) {s : SS} (hs : σ.S i = s) {σ2 : SGG} (hσ : sS σ i (qs s (upd s.s a v)) = σ2) (hd : decode cc pc = .ok (.iastore, 1)) (ha : a < 24) (kk : V x γ κ Q (enc γ σ2) (pc + 1) L (st)) : V x γ κ Q (enc γ σ) pc L (.int v :: .int (nI a) :: .ref (aK γ i) :: st) :=
  stS_stack C hX hi hs (by rw [clamp_nI ha (by decide)]; exact hσ) hd (vp_in_nI ha (by decide)) kk
theorem lT_placesN (C : Cx x γ cc own ret rm) (hX : 135 ≤ γ.N) {i : Nat} (hi : i < 32) {s : SS} (hs : σ.T i = s) {a : Nat} (hd : decode cc pc = .ok (.iaload, 1)) (ha : a < 4) (kk : V x γ κ Q (enc γ σ) (pc + 1) L (.int (s.c a) :: st)) : V x γ κ Q (enc γ σ) pc L (.int (nI a) :: .ref (aP γ i) :: st) :=
  lT_places C hX hi hs hd (vp_in_nI ha (by decide)) (by rw [clamp_nI ha (by decide)]; exact kk)
theorem stT_placesN (C : Cx x γ cc own ret rm) (hX : 135 ≤ γ.N) {a : Nat} {v : Int32} {i : Nat} (hi : i < 32) {s : SS} (hs : σ.T i = s) {σ2 : SGG} (hσ : sT σ i (qc s (upd s.c a v)) = σ2) (hd : decode cc pc = .ok (.iastore, 1)) (ha : a < 4) (kk : V x γ κ Q (enc γ σ2) (pc + 1) L (st)) : V x γ κ Q (enc γ σ) pc L (.int v :: .int (nI a) :: .ref (aP γ i) :: st) :=
  stT_places C hX hi hs (by rw [clamp_nI ha (by decide)]; exact hσ) hd (vp_in_nI ha (by decide)) kk
theorem lT_valuesN (C : Cx x γ cc own ret rm) (hX : 135 ≤ γ.N) {i : Nat} (hi : i < 32) {s : SS} (hs : σ.T i = s) {a : Nat} (hd : decode cc pc = .ok (.iaload, 1)) (ha : a < 4) (kk : V x γ κ Q (enc γ σ) (pc + 1) L (.int (s.s a) :: st)) : V x γ κ Q (enc γ σ) pc L (.int (nI a) :: .ref (aV γ i) :: st) :=
  lT_values C hX hi hs hd (vp_in_nI ha (by decide)) (by rw [clamp_nI ha (by decide)]; exact kk)
theorem stT_valuesN (C : Cx x γ cc own ret rm) (hX : 135 ≤ γ.N) {a : Nat} {v : Int32} {i : Nat} (hi : i < 32) {s : SS} (hs : σ.T i = s) {σ2 : SGG} (hσ : sT σ i (qs s (upd s.s a v)) = σ2) (hd : decode cc pc = .ok (.iastore, 1)) (ha : a < 4) (kk : V x γ κ Q (enc γ σ2) (pc + 1) L (st)) : V x γ κ Q (enc γ σ) pc L (.int v :: .int (nI a) :: .ref (aV γ i) :: st) :=
  stT_values C hX hi hs (by rw [clamp_nI ha (by decide)]; exact hσ) hd (vp_in_nI ha (by decide)) kk
theorem lRN (C : Cx x γ cc own ret rm) (hX : 135 ≤ γ.N) {a : Nat} (hd : decode cc pc = .ok (.aaload, 1)) (ha : a < 32) (kk : V x γ κ Q (enc γ σ) (pc + 1) L (.ref (aN γ a) :: st)) : V x γ κ Q (enc γ σ) pc L (.int (nI a) :: .ref (aR γ) :: st) :=
  lR C hX hd (vp_in_nI ha (by decide)) (by rw [clamp_nI ha (by decide)]; exact kk)
theorem lQN (C : Cx x γ cc own ret rm) (hX : 135 ≤ γ.N) {a : Nat} (hd : decode cc pc = .ok (.aaload, 1)) (ha : a < 8) (kk : V x γ κ Q (enc γ σ) (pc + 1) L (.ref (aS γ (σ.κ a)) :: st)) : V x γ κ Q (enc γ σ) pc L (.int (nI a) :: .ref (aQ γ) :: st) :=
  lQ C hX hd (vp_in_nI ha (by decide)) (by rw [clamp_nI ha (by decide)]; exact kk)
theorem stQN (C : Cx x γ cc own ret rm) (hX : 135 ≤ γ.N) {i : Nat} (hi : i < 10) {a : Nat} (hd : decode cc pc = .ok (.aastore, 1)) (ha : a < 8) (kk : V x γ κ Q (enc γ (sQ σ (va_up σ.κ a i))) (pc + 1) L (st)) : V x γ κ Q (enc γ σ) pc L (.ref (aS γ i) :: .int (nI a) :: .ref (aQ γ) :: st) :=
  stQ C hX hi hd (vp_in_nI ha (by decide)) (by rw [clamp_nI ha (by decide)]; exact kk)
theorem v_opsAtN (C : Cx x γ cc own ret rm) {a : Nat} (hd : decode cc pc = .ok (.aaload, 1)) (ha : a < 21) (kk : V x γ κ Q (enc γ σ) (pc + 1) L (.ref (γ.aO a) :: st)) : V x γ κ Q (enc γ σ) pc L (.int (nI a) :: .ref γ.tO :: st) :=
  v_opsAt C hd (vp_in_nI ha (by decide)) (by rw [clamp_nI ha (by decide)]; exact kk)
/-- an array's contents beyond its length are of no account -/
theorem v_arr {k n : Nat} {cA : ClassId} {f g : Nat → Int32} (hw : w k = .inl (cA, n, .inl f)) (hfg : ∀ j, j < n → f j = g j) (kk : V x γ κ Q (va_up w k (.inl (cA, n, .inl g))) pc L st) : V x γ κ Q w pc L st := by
  intro H locs ls h1 h2 h3
  refine kk H locs ls (plP_of fun m hm => ?_) h2 h3
  have h := plP h1 hm
  by_cases hk : m = k
  · subst hk
    rw [va_up_self]
    rw [hw] at h
    have e : vp_cell cA (n, .inl f) = vp_cell cA (n, .inl g) := by
      rw [vp_cell_i, vp_cell_i]
      unfold arrV
      congr 2
      funext j
      exact congrArg Value.int (hfg j.val j.isLt)
    show H[γ.ad m]? = some (vp_cell cA (n, .inl g))
    rw [← e]
    exact h
  · rw [va_up_ne _ _ hk]
    exact h
theorem sJ_same {j : Nat} {v : Int32} (h : σ.J j = v) : sJ σ j v = σ := by
  show ((σ.I, va_up σ.J j v, σ.1.2.2), σ.2) = σ
  rw [show va_up σ.J j v = σ.J from funext fun n => by unfold va_up; by_cases e : n = j <;> simp [e, ← h]]
theorem sI_same {j : Nat} {v : Int32} (h : σ.I j = v) : sI σ j v = σ := by
  show ((va_up σ.I j v, σ.1.2), σ.2) = σ
  rw [show va_up σ.I j v = σ.I from funext fun n => by unfold va_up; by_cases e : n = j <;> simp [e, ← h]]
theorem sMI_same {j : Nat} {v : Int32} (h : σ.MI j = v) : sMI σ j v = σ := by
  show (σ.1, (va_up σ.MI j v, σ.MF), σ.O) = σ
  rw [show va_up σ.MI j v = σ.MI from funext fun n => by unfold va_up; by_cases e : n = j <;> simp [e, ← h]]
end TN
