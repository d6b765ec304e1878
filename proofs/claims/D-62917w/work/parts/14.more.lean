/-! ===== ordinal, a nest mate's method, copies of whole arrays ===== -/
theorem ord_nI : ∀ i, i < 21 → opOrd.getD i 0 = nI i := by decide +kernel
theorem c_EN_ordinal (l : Launch) {γ : GH} {σ : SGG} {i : Nat} (hi : i < 21) : Ct l y_EN_ordinal b_EN_ordinal 1 (some .int) rm_EN_ordinal γ (enc γ σ) [.ref (γ.aO i)] (PI γ (fun r u => r = nI i ∧ u = σ)) := by
  refine ct_of "java/lang/Enum" (by decide) rfl rfl (Nat.le_of_ble_eq_true rfl) (fun x hl C => ?_)
  subst hl
  show V x γ (0, 0) _ _ 0 [some (.ref (γ.aO i))] []
  refine v_aload_n (pc := 0) C d_EN_ordinal_0 rfl ?_
  refine v_opGet (pc := 1) (q := ("java/lang/Enum", "ordinal", "I", opOrd)) C List.mem_cons_self hi d_EN_ordinal_1 fl_EN_7 ?_
  refine r_i (pc := 4) C d_EN_ordinal_4 ?_
  exact ⟨ord_nI i hi, rfl⟩
section MR
variable {x : CT} {γ : GH} {cc : ByteArray} {own : String} {ret : Option FieldType} {rm : Room} {κ : Nat × Nat} {Q : State → Prop} {σ : SGG} {pc : Nat} {L : List (Option Value)} {st : List Value}
variable {y : MethodName} {b : ByteArray} {n idx : Nat} {rt : Option FieldType} {rc : Room}
theorem k_ordinal (C : Cx x γ cc own ret rm) {i : Nat} (hi : i < 21) (hl : Cond.methodLink own idx y_OP_ordinal ∈ TB) (hR : RmOk rm_EN_ordinal rm 1) (hd : decode cc pc = .ok (.invokevirtual idx, 3)) (hκ : κ.1 ≤ rm.cells ∧ κ.2 ≤ rm.slots) (hW : (st.map fun v => v.category).sum ≤ 8) (kk : V x γ κ Q (enc γ σ) (pc + 3) L (.int (nI i) :: st)) : V x γ κ Q (enc γ σ) pc L (.ref (γ.aO i) :: st) := by
  intro H locs ls h1 h2 h3
  have hrec := va_recvE C.sf.2.2.1 (i := i) hi h2
  have hcu : va_CU x.R x.s x.a own "ReplayMachine$Op" "java/lang/Enum" idx y_OP_ordinal y_EN_ordinal b_EN_ordinal 1 (some .int) (.code y_EN_ordinal b_EN_ordinal 1 (some .int) :: TB) rm_EN_ordinal 0 0 0 := by
    refine ⟨⟨hR.2.2.1, hR.2.2.2, by rw [C.room]; exact hR.1, by rw [C.room]; exact hR.2.1, fun w hw a' U hW => ?_, List.mem_cons_self⟩, C.ts _ cd_EN_ordinal, C.ts _ in_EN, ⟨by decide, by decide⟩, fun sig h => ?_, C.ts _ hl, C.ts _ sa_OP_ordinal, va_Decl.of (C.ts _ im_EN_ordinal) (C.ts _ cd_EN_ordinal), C.ts _ sl_OP_EN_ordinal, C.ts _ im_EN_ordinal⟩
    · rcases List.mem_cons.mp hw with rfl | h
      · exact tb_warm hW C.ts _ cd_EN_ordinal
      · exact tb_warm hW C.ts _ h
    · have h2 : (parseMethodDescriptor y_OP_ordinal.desc).map (fun d => d.parameters.length) = some 0 := by decide +kernel
      rw [h] at h2
      exact (Option.some.inj h2).symm
  exact v_back C h2 h3 rfl (va_runU (nL := x.c.maxLocals) (As := []) (rest := st) ⟨C.ex, C.cd, rfl, C.ow, C.ts⟩ (c_EN_ordinal x.l hi H.size) hcu ⟨PW.blind _ _ _ _, hrec, fun U hU hW => pw_at C h1 h2 U hU hW⟩ rfl rfl h3.1 rfl (lv_room hW) hd (by rw [C.room]; exact hκ))
    (fun v w2 hp => by obtain ⟨r, σ2, rfl, rfl, rfl, rfl⟩ := hp; exact kk)
theorem kSN3v (C : Cx x γ cc own ret rm) (hX : 135 ≤ γ.N) {i : Nat} (hi : i < 10) {host : String} (hl : Cond.methodLinkNest own idx y host ∈ TB) (hB : Cond.code y b n rt ∈ TB ∧ Cond.initialized y.cls ∈ TB ∧ (y.cls ≠ "java/lang/invoke/MethodHandle" ∧ y.cls ≠ "java/lang/invoke/VarHandle" ∧ (parseMethodDescriptor y.desc).map (fun d => d.parameters.length) = some 3)) (hs : Cond.instanceMethod y ∈ TB ∧ Cond.selects y.cls y y ∈ TB) (hq : R_ST = y.cls) (hR : RmOk rc rm n) (hd : decode cc pc = .ok (.invokevirtual idx, 3)) (hκ : κ.1 ≤ rm.cells ∧ κ.2 ≤ rm.slots) {a1 a2 a3 : Value} {Φ : SGG → Prop} (hM : Ct x.l y b n rt rc γ (enc γ σ) [.ref (aS γ i), a1, a2, a3] (PV γ Φ)) (hW : (st.map fun v => v.category).sum ≤ 8)
    (kk : ∀ σ2 : SGG, Φ σ2 → V x γ κ Q (enc γ σ2) (pc + 3) L st) : V x γ κ Q (enc γ σ) pc L (a3 :: a2 :: a1 :: .ref (aS γ i) :: st) :=
  v_callVN C hl hB hs hR hd hκ (k := 9 + 3 * i) (by omega) (en_S hi) rfl hq (As := [a1, a2, a3]) hM rfl hW (fun v w2 hp => by obtain ⟨σ2, rfl, rfl, h⟩ := hp; exact kk σ2 h)
theorem cpy_all {f g : Nat → Int32} {n : Nat} (j : Nat) (hj : j < n) : va_cpy f g 0 0 n j = f j := by
  unfold va_cpy
  rw [if_pos ⟨Nat.zero_le _, by omega⟩]
  congr 1
  omega
/-- System.arraycopy(s.cells, 0, cells, 0, 32) -/
theorem cpC (C : Cx x γ cc own ret rm) (hX : 135 ≤ γ.N) {i j : Nat} (hi : i < 10) (hj : j < 10) {s t : SS} (hs : σ.S i = s) (ht : σ.S j = t) {σ2 : SGG} (hσ : sS σ i (qc s t.c) = σ2) (hd : decode cc pc = .ok (.invokestatic idx, 3)) (hl : Cond.methodLink own idx arraycopyName ∈ TB) (hf : 1 ≤ rm.frames) (hlo : (st.map fun v => v.category).sum + (nativeFrameWords "java/lang/System" "arraycopy" 5 + 11) ≤ rm.locals) (kk : V x γ κ Q (enc γ σ2) (pc + 3) L st) : V x γ κ Q (enc γ σ) pc L (.int 32 :: .int 0 :: .ref (aC γ i) :: .int 0 :: .ref (aC γ j) :: st) := by
  subst hs ht hσ
  refine v_copy C (k0 := 10 + 3 * j) (k1 := 10 + 3 * i) hd hl (by omega) (by omega) (en_C hj) (en_C hi) (by decide) (by decide) (by decide) (by decide) (by decide) hf hlo ?_
  refine v_arr (k := 10 + 3 * i) (n := 32) (cA := γ.cA 0) (g := (σ.S j).c) (va_up_self _ _ _) (fun q hq => cpy_all q hq) ?_
  rw [bx_uu]
  exact vcast (up_C hi) kk
theorem cpK (C : Cx x γ cc own ret rm) (hX : 135 ≤ γ.N) {i j : Nat} (hi : i < 10) (hj : j < 10) {s t : SS} (hs : σ.S i = s) (ht : σ.S j = t) {σ2 : SGG} (hσ : sS σ i (qs s t.s) = σ2) (hd : decode cc pc = .ok (.invokestatic idx, 3)) (hl : Cond.methodLink own idx arraycopyName ∈ TB) (hf : 1 ≤ rm.frames) (hlo : (st.map fun v => v.category).sum + (nativeFrameWords "java/lang/System" "arraycopy" 5 + 11) ≤ rm.locals) (kk : V x γ κ Q (enc γ σ2) (pc + 3) L st) : V x γ κ Q (enc γ σ) pc L (.int 24 :: .int 0 :: .ref (aK γ i) :: .int 0 :: .ref (aK γ j) :: st) := by
  subst hs ht hσ
  refine v_copy C (k0 := 11 + 3 * j) (k1 := 11 + 3 * i) hd hl (by omega) (by omega) (en_K hj) (en_K hi) (by decide) (by decide) (by decide) (by decide) (by decide) hf hlo ?_
  refine v_arr (k := 11 + 3 * i) (n := 24) (cA := γ.cA 0) (g := (σ.S j).s) (va_up_self _ _ _) (fun q hq => cpy_all q hq) ?_
  rw [bx_uu]
  exact vcast (up_K hi) kk
/-- System.arraycopy(now.cells, 0, were, 0, 32) -/
theorem cpW (C : Cx x γ cc own ret rm) (hX : 135 ≤ γ.N) (hd : decode cc pc = .ok (.invokestatic idx, 3)) (hl : Cond.methodLink own idx arraycopyName ∈ TB) (hf : 1 ≤ rm.frames) (hlo : (st.map fun v => v.category).sum + (nativeFrameWords "java/lang/System" "arraycopy" 5 + 11) ≤ rm.locals) (kk : V x γ κ Q (enc γ (sF σ 4 (σ.S 0).c)) (pc + 3) L st) : V x γ κ Q (enc γ σ) pc L (.int 32 :: .int 0 :: .ref (aF γ 4) :: .int 0 :: .ref (aC γ 0) :: st) := by
  refine v_copy C (k0 := 10 + 3 * 0) (k1 := 1 + 4) hd hl (by omega) (by omega) (en_C (by decide)) (en_F (k := 4) (by decide)) (by decide) (by decide) (by decide) (by decide) (by decide) hf hlo ?_
  refine v_arr (k := 1 + 4) (n := 32) (cA := γ.cA 0) (g := (σ.S 0).c) (va_up_self _ _ _) (fun q hq => cpy_all q hq) ?_
  rw [bx_uu]
  exact vcast (up_F (k := 4) (by decide)) kk
end MR
