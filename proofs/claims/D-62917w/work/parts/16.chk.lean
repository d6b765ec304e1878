/-! ===== why the machine would stop: the pure word ===== -/
def opOf (w : Int32) : Nat := w.toBitVec.toNat % 32
def argOf (w : Int32) : Int32 := w >>> ((5 : Int32) &&& 31)
theorem opOf_lt (w : Int32) : opOf w < 32 := Nat.mod_lt _ (by decide)
theorem and31 (w : Int32) : w &&& 31 = nI (opOf w) := pk_and w (m := 31) 5 (by decide)
def chkOp (given : Int32) (s : SS) (op : Nat) (n : Int32) : Int32 :=
  if op = 16 then (if s.f < 2 then 2 else if s.f < s.h then 0 else 2)
  else if op = 17 then (if isArgB s.f s.h n = 0 then 2 else 0)
  else if op = 10 ∨ op = 11 then (if topS s < 0 then 4 else if topS s < 32 then 0 else 4)
  else if op = 8 then (if topS s = 0 then 6 else 0)
  else if op = 19 then (if 1 ≤ n then 0 else 6)
  else if op = 18 then (if s.k < given then 0 else 7)
  else 0
def chkW (given : Int32) (s : SS) (w : Int32) : Int32 :=
  if ¬ opOf w < 21 then 5 else if opOf w = 0 then 1 else if s.h < opTakes.getD (opOf w) 0 then 2
  else if chkOp given s (opOf w) (argOf w) = 0 then (if s.h - opTakes.getD (opOf w) 0 + opLeaves.getD (opOf w) 0 ≤ 24 then 0 else 3)
  else chkOp given s (opOf w) (argOf w)
def chk (code : TF) (given : Int32) (s : SS) : Int32 := if s.p < 0 then 4 else if s.p < 64 then chkW given s (code s.p.toNatClampNeg) else 4
theorem in_vp {x : Int32} {n : Nat} (h0 : ¬ x < 0) (h1 : x < nI n) (hn : n < 2 ^ 31) : vp_in x n := by
  rcases pk_ix x hn with h | h | ⟨j, hj, rfl⟩
  · exact absurd h h0
  · exact absurd h1 (k2_nlt h)
  · exact vp_in_nI hj hn
theorem in_ex {x : Int32} {n : Nat} (h0 : ¬ x < 0) (h1 : x < nI n) (hn : n < 2 ^ 31) : ∃ j, j < n ∧ x = nI j := by
  rcases pk_ix x hn with h | h | h
  · exact absurd h h0
  · exact absurd h1 (k2_nlt h)
  · exact h
theorem hm1 {h : Nat} (h1 : 1 ≤ h) (h24 : h ≤ 24) : vp_in (nI h - 1) 24 := by
  obtain ⟨k, rfl⟩ : ∃ k, h = k + 1 := ⟨h - 1, by omega⟩
  rw [nI_pred]
  exact vp_in_nI (by omega) (by decide)
theorem hm2 {h : Nat} (h1 : 2 ≤ h) (h24 : h ≤ 24) : vp_in (nI h - 2) 24 := by
  rw [show (2 : Int32) = nI 2 from rfl, pk_sub h1]
  exact vp_in_nI (by omega) (by decide)
/-- isArgument(s, n) -/
theorem c_RM_isArgument (l : Launch) {γ : GH} (hX : 135 ≤ γ.N) {σ : SGG} {i : Nat} (hi : i < 10) {s : SS} (hs : σ.S i = s) {n : Int32} : Ct l y_RM_isArgument b_RM_isArgument 4 (some .boolean) rm_RM_isArgument γ (enc γ σ) [.ref (aS γ i), .int n] (PI γ (fun r u => r = isArgB s.f s.h n ∧ u = σ)) := by
  refine ct_of "ReplayMachine" (by decide) rfl rfl (Nat.le_of_ble_eq_true rfl) (fun x hl C => ?_)
  subst hl
  show V x γ (0, 0) _ _ 0 [some (.ref (aS γ i)), some (.int n), none, none] []
  refine v_aload_n (pc := 0) C d_RM_isArgument_0 rfl ?_
  refine gS_frame (pc := 1) C hX hi hs d_RM_isArgument_1 fl_RM_103 ?_
  refine v_i2l (pc := 4) C d_RM_isArgument_4 ?_
  intro H locs ls h1 h2 h3
  have hl : lv_has ls x.c.maxLocals [(0, .ref (aS γ i)), (1, .int n)] := ⟨h3.1, h3.2.1, fun q hq => by
    rcases List.mem_cons.mp hq with rfl | hq
    · exact h3.at (i := 0) rfl
    · rcases List.mem_cons.mp hq with rfl | hq
      · exact h3.at (i := 1) rfl
      · cases hq⟩
  have hb2 : 3 < x.c.maxLocals := h3.2.2.1
  refine lv_ldc2 (pc := 5) (v := 3) C.ex C.cd C.ow (C.ts _ kc_RM_119) d_RM_isArgument_5 ?_
  refine lv_lsub (pc := 8) C.ex C.cd d_RM_isArgument_8 ?_
  refine lv_iload_n (pc := 9) C.ex C.cd d_RM_isArgument_9 rfl (lv_at hl 1 rfl) ?_
  refine lv_i2l (pc := 10) C.ex C.cd d_RM_isArgument_10 rfl ?_
  refine lv_lsub (pc := 11) C.ex C.cd d_RM_isArgument_11 ?_
  refine lv_lstore_n (pc := 12) (lv' := [(2, .long (s.f.toInt64 - 3 - n.toInt64)), (0, .ref (aS γ i)), (1, .int n)]) C.ex C.cd d_RM_isArgument_12 rfl hl hb2 rfl (fun ls hl => ?_)
  refine lv_lload_n (pc := 13) C.ex C.cd d_RM_isArgument_13 rfl (lv_at hl 0 rfl) ?_
  refine lv_lconst (pc := 14) (v := 0) C.ex C.cd d_RM_isArgument_14 (by decide) ?_
  refine W.lcmp (pc := 15) C.ex C.cd d_RM_isArgument_15 ?_
  refine lv_if_lt (pc := 16) (tgt := 33) C.ex C.cd d_RM_isArgument_16 (by decide) (fun c => ?_) (fun c => ?_)
  · refine lv_iconst (pc := 33) (v := 0) C.ex C.cd d_RM_isArgument_33 (by decide) ?_
    exact W.zret C.ex C.cd C.rt rfl (fun t ht _ => qw_of (P := PI γ (fun r u => r = isArgB s.f s.h n ∧ u = σ)) ⟨0, σ, rfl, rfl, (if_pos c).symm, rfl⟩ h1 h2 t ht) h2.2.2 d_RM_isArgument_34 C.lk
  · refine lv_lload_n (pc := 19) C.ex C.cd d_RM_isArgument_19 rfl (lv_at hl 0 rfl) ?_
    refine lv_aload_n (pc := 20) C.ex C.cd d_RM_isArgument_20 rfl (lv_at hl 1 rfl) ?_
    refine va_get (pc := 21) C.ex C.cd C.ts i_ST C.ow C.K h1 (9 + 3 * i) (a := aS γ i) (ci := 3) (fs := fsS γ i s) (v := .int s.h) (by rw [pl_get (by omega), en_S hi, hs]; rfl) rfl 2 (by decide) (C.ts _ fl_RM_93) (fun _ h9 => h9) rfl d_RM_isArgument_21 ?_
    refine lv_i2l (pc := 24) C.ex C.cd d_RM_isArgument_24 rfl ?_
    refine W.lcmp (pc := 25) C.ex C.cd d_RM_isArgument_25 ?_
    refine lv_if_ge (pc := 26) (tgt := 33) C.ex C.cd d_RM_isArgument_26 (by decide) (fun c2 => ?_) (fun c2 => ?_)
    · refine lv_iconst (pc := 33) (v := 0) C.ex C.cd d_RM_isArgument_33 (by decide) ?_
      exact W.zret C.ex C.cd C.rt rfl (fun t ht _ => qw_of (P := PI γ (fun r u => r = isArgB s.f s.h n ∧ u = σ)) ⟨0, σ, rfl, rfl, by unfold isArgB; rw [if_neg c, if_pos c2], rfl⟩ h1 h2 t ht) h2.2.2 d_RM_isArgument_34 C.lk
    · refine lv_iconst (pc := 29) (v := 1) C.ex C.cd d_RM_isArgument_29 (by decide) ?_
      refine lv_goto (pc := 30) (tgt := 34) C.ex C.cd d_RM_isArgument_30 (by decide) ?_
      exact W.zret C.ex C.cd C.rt rfl (fun t ht _ => qw_of (P := PI γ (fun r u => r = isArgB s.f s.h n ∧ u = σ)) ⟨1, σ, rfl, rfl, by unfold isArgB; rw [if_neg c, if_neg c2], rfl⟩ h1 h2 t ht) h2.2.2 d_RM_isArgument_34 C.lk
