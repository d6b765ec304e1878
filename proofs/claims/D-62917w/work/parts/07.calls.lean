/-! ===== contracts and calls over the whole world ===== -/
def PW (γ : GH) (sz : Nat) (w : Nat → va_E) (av : List Value) : Array Value → State → Prop :=
  va_Pc av (fun U => U.heap.size = sz ∧ va_P γ.D classes (pl γ.ad γ.N w) U.heap ∧ va_K γ.D classes (tyl γ) U ∧ Inj γ ∧ SF γ (AA γ sz) U U.heap)
def QW (γ : GH) (P : Option Value → (Nat → va_E) → Prop) : Array Value → State → Outcome → State → Prop := fun _ st o t =>
  (∃ (v : Option Value) (w : Nat → va_E), o = .returned v ∧ P v w ∧ va_P γ.D classes (pl γ.ad γ.N w) t.heap) ∧ va_F (AA γ st.heap.size) st t
theorem PW.blind (γ : GH) (sz : Nat) (w : Nat → va_E) (av : List Value) : FrameBlind (PW γ sz w av) := fun a U g mk q => by
  obtain ⟨q0, q1, qP, qK, qI, qS⟩ := q
  exact ⟨q0, q1, qP, va_K.moved (u := U) (U := U.calling g mk a) (Vm.Alike.refl U.vm) qK, qI, SF.moved (u := U) (U := U.calling g mk a) (Vm.Alike.refl U.vm) qS⟩
/-- the contract of a method: in any world w (of the ghost γ) with the arguments av it returns, with a value and a world of P -/
def Ct (l : Launch) (y : MethodName) (b : ByteArray) (n : Nat) (ret : Option FieldType) (rm : Room) (γ : GH) (w : Nat → va_E) (av : List Value) (P : Option Value → (Nat → va_E) → Prop) : Prop :=
  ∀ sz : Nat, Met l y (.code y b n ret :: TB) rm (PW γ sz w av) (QW γ P) 0 0 (AA γ sz)
abbrev QM (x : CT) (γ : GH) (P : Option Value → (Nat → va_E) → Prop) : State → Prop := MQ x.b (QW γ P) x.a x.s 0 0 (AA γ x.s.heap.size)
def L0 (av : List Value) (n : Nat) : List (Option Value) := av.map some ++ List.replicate (n - av.length) none
theorem lg_sl_1 : ∀ (vs : List Value), (∀ v ∈ vs, v.category = 1) → lg_sl vs = vs.map Slot.val := by
  intro vs
  induction vs with
  | nil => intro _; rfl
  | cons v t ih =>
    intro h
    have h1 : ¬ v.category = 2 := by have := h v List.mem_cons_self; omega
    have h2 := ih (fun u hu => h u (List.mem_cons_of_mem _ hu))
    simp only [lg_sl, List.flatMap_cons, if_neg h1, List.map_cons, List.singleton_append]
    rw [← h2]; rfl
theorem LH0 (av : List Value) (n : Nat) (hc : ∀ v ∈ av, v.category = 1) (hn : av.length ≤ n) : LH ((lg_sl av ++ List.replicate (n - (lg_sl av).length) Slot.unset).toArray) n (L0 av n) := by
  have e := lg_sl_1 av hc
  have hl := lv_entry av (n := n) (by rw [e]; simpa using hn)
  refine ⟨hl.1, hl.2.1, by simp [L0]; omega, fun i v hi => ?_⟩
  unfold L0 at hi
  by_cases h : i < av.length
  · rw [List.getElem?_append_left (by simpa using h)] at hi
    simp only [List.getElem?_map] at hi
    have hv : av[i]? = some v := by
      cases ha : av[i]? with
      | none => rw [ha] at hi; cases hi
      | some u => rw [ha] at hi; simp at hi; rw [hi]
    refine ⟨?_, hc v (List.mem_of_getElem? hv)⟩
    rw [e]
    simp only [List.getElem?_toArray]
    rw [List.getElem?_append_left (by simpa using h), List.getElem?_map, hv]
    rfl
  · rw [List.getElem?_append_right (by simp; omega)] at hi
    have := List.eq_of_mem_replicate (List.mem_of_getElem? hi)
    cases this
theorem ct_of {l : Launch} {y : MethodName} {b : ByteArray} {n : Nat} {ret : Option FieldType} {rm : Room} {γ : GH} {w : Nat → va_E} {av : List Value} {P : Option Value → (Nat → va_E) → Prop} (own : String)
    (hy : plainName y.cls = true) (hown : y.cls = own) (hc : av.all (fun v => v.category == 1) = true) (hn : av.length ≤ n)
    (body : ∀ x : CT, x.l = l → Cx x γ b own ret rm → V x γ (0, 0) (QM x γ P) w 0 (L0 av n) []) : Ct l y b n ret rm γ w av P := by
  intro sz
  have hc' : ∀ v ∈ av, v.category = 1 := fun v hv => by simpa using List.all_eq_true.mp hc v hv
  refine Met.ofW (cc := b) (maxL := n) (ret := ret) hy rfl ?_
  intro p e s m args below meth c s₁ B hml hv
  obtain ⟨rfl, hsz, hP, hK, hI, hSF⟩ := hv
  subst hsz
  have hts := atoms_spec (ws := Cond.code y b n ret :: TB) B.pre
  have hw : s.vm.findClass own = some m.cls := by rw [← hown]; exact findClass_of_methodNamed B.named
  have h := body (p, l, e, rm, s, m, av.toArray, below, meth, c) rfl ⟨B.exec, B.bytes, hw, fun w h => hts w (List.mem_cons_of_mem _ h), hK, hI, hSF, B.notSynchronized, B.returns, rfl⟩
  rw [lg_entry_eq]
  exact h s.heap [] _ hP va_S.rf (by show LH _ c.maxLocals _; rw [hml]; exact LH0 av n hc' hn)
/-! returns -/
section RT
variable {x : CT} {γ : GH} {cc : ByteArray} {own : String} {ret : Option FieldType} {rm : Room} {w : Nat → va_E} {pc : Nat} {L : List (Option Value)} {P : Option Value → (Nat → va_E) → Prop}
theorem qw_of {H : Heap} {locs : List Loc} {v : Option Value} (hp : P v w) (h1 : va_P γ.D classes (pl γ.ad γ.N w) H) (h2 : va_S (AA γ x.s.heap.size) x.s.heap H locs) (t : State) (ht : t.heap = H) : QW γ P x.a x.s (.returned v) t := ⟨⟨v, w, rfl, hp, by rw [ht]; exact h1⟩, h2.F ht⟩
theorem v_iret (C : Cx x γ cc own (some .int) rm) {v : Int32} (hd : decode cc pc = .ok (.ireturn, 1)) (hp : P (some (.int v)) w) : V x γ (0, 0) (QM x γ P) w pc L [.int v] :=
  fun H locs ls h1 h2 h3 => W.iret C.ex C.cd C.rt (fun t ht _ => qw_of hp h1 h2 t ht) h2.2.2 hd C.lk
theorem v_zret (C : Cx x γ cc own (some .boolean) rm) {v : Int32} (hd : decode cc pc = .ok (.ireturn, 1)) (hn : narrow .boolean (.int v) = .int v) (hp : P (some (.int v)) w) : V x γ (0, 0) (QM x γ P) w pc L [.int v] :=
  fun H locs ls h1 h2 h3 => W.zret C.ex C.cd C.rt hn (fun t ht _ => qw_of hp h1 h2 t ht) h2.2.2 hd C.lk
theorem v_vret (C : Cx x γ cc own none rm) (hd : decode cc pc = .ok (.return_, 1)) (hp : P none w) : V x γ (0, 0) (QM x γ P) w pc L [] :=
  fun H locs ls h1 h2 h3 => W.vret C.ex C.cd C.rt (fun t ht _ => qw_of hp h1 h2 t ht) h2.2.2 hd C.lk
theorem v_aret (C : Cx x γ cc own ret rm) {n : String} (hr : ret = some (.object n)) {a : Nat} (hd : decode cc pc = .ok (.areturn, 1)) (hp : P (some (.ref a)) w) : V x γ (0, 0) (QM x γ P) w pc L [.ref a] :=
  fun H locs ls h1 h2 h3 => W.aret C.ex C.cd (C.rt.trans hr) (Or.inl ⟨n, rfl⟩) (Or.inr ⟨a, rfl⟩) (fun t ht _ => qw_of hp h1 h2 t ht) h2.2.2 hd C.lk
end RT
/-! calls -/
section CL
variable {x : CT} {γ : GH} {cc : ByteArray} {own : String} {ret : Option FieldType} {rm : Room} {κ : Nat × Nat} {Q : State → Prop} {w : Nat → va_E} {pc : Nat} {L : List (Option Value)} {P : Option Value → (Nat → va_E) → Prop}
variable {y : MethodName} {b : ByteArray} {n idx : Nat} {rt : Option FieldType} {rc : Room}
/-- the caller's own frame, at a call -/
theorem pw_at (C : Cx x γ cc own ret rm) {H : Heap} {locs : List Loc} {av : List Value} (h1 : va_P γ.D classes (pl γ.ad γ.N w) H) (h2 : va_S (AA γ x.s.heap.size) x.s.heap H locs) (U : State) (hU : U.heap = H) (hW : x.s.WarmedH U.vm) : PW γ H.size w av av.toArray U :=
  ⟨rfl, by rw [hU], by rw [hU]; exact h1, va_K.moved hW.alike C.K, C.I, by rw [hU]; exact ((C.sf.kept h2.2.1).moved hW.alike).narrow (AA.mono h2.1)⟩
/-- behind a call -/
theorem v_back (C : Cx x γ cc own ret rm) {H : Heap} {locs : List Loc} {ls : Array Slot} {g : JFrame} {rest : List Value} {Qa : Array Value} (h2 : va_S (AA γ x.s.heap.size) x.s.heap H locs) (h3 : LH ls x.c.maxLocals L) (hg : g = F0 x.m pc ls g.stack)
    (hr : va_Run x.p x.l x.e x.R x.s x.m x.a x.b x.mt x.c H locs κ.1 κ.2 0 0 g rest (QW γ P Qa) (AA γ H.size))
    (kk : ∀ (v : Option Value) (w' : Nat → va_E), P v w' → V x γ κ Q w' (pc + 3) L (v.toList ++ rest)) : W x.p x.l x.e x.R x.s x.m x.a x.b x.mt x.c H locs κ.1 κ.2 Q g := by
  intro T hT X
  obtain ⟨v, st₀, t, T', Lc, h0, X', hL, e1, e2, ⟨⟨v', w', hv, hp, hb⟩, hz, hk⟩, st⟩ := hr T hT X
  cases hv
  rw [h0] at hz hk
  have hS' : va_S (AA γ x.s.heap.size) x.s.heap t.heap (locs ++ Lc) := ⟨Nat.le_trans h2.1 hz, fun q g1 g2 => by
      rw [hk q (Nat.lt_of_lt_of_le g1 h2.1) (fun z => g2 (AA.mono h2.1 q z))]
      exact h2.2.1 q g1 g2, fun q hq => by
      rcases List.mem_append.mp hq with h | h
      · exact h2.2.2 q h
      · exact AA.mono h2.1 _ (hL q h)⟩
  obtain ⟨t2, a1, b1⟩ := kk v w' hp t.heap _ ls hb hS' h3 T' e1 X'
  rw [hg] at st
  rw [hg]
  exact ⟨t2, st t2 a1, b1⟩
/-- the words of a method that is called -/
def CB (own : String) (idx : Nat) (y : MethodName) (b : ByteArray) (n : Nat) (rt : Option FieldType) (na : Nat) : Prop :=
  Cond.methodLink own idx y ∈ TB ∧ Cond.code y b n rt ∈ TB ∧ Cond.initialized y.cls ∈ TB ∧ (y.cls ≠ "java/lang/invoke/MethodHandle" ∧ y.cls ≠ "java/lang/invoke/VarHandle" ∧ (parseMethodDescriptor y.desc).map (fun d => d.parameters.length) = some na)
def RmOk (rc rm : Room) (n : Nat) : Prop := rc.frames + 1 ≤ rm.frames ∧ 8 + (n + 11) + rc.locals ≤ rm.locals ∧ rc.cells = 0 ∧ rc.slots = 0
theorem cb_of (C : Cx x γ cc own ret rm) {na : Nat} (hB : CB own idx y b n rt na) (hR : RmOk rc rm n) : CallB x.R x.s x.a own idx y b n rt (.code y b n rt :: TB) rc 0 0 na := by
  refine ⟨hR.2.2.1, hR.2.2.2, by rw [C.room]; exact hR.1, by rw [C.room]; exact hR.2.1, fun w hw a' U hW => ?_, List.mem_cons_self, C.ts _ hB.2.1, C.ts _ hB.2.2.1, ⟨hB.2.2.2.1, hB.2.2.2.2.1⟩, fun sig h => ?_, C.ts _ hB.1⟩
  · rcases List.mem_cons.mp hw with rfl | h
    · exact tb_warm hW C.ts _ hB.2.1
    · exact tb_warm hW C.ts _ h
  · have h2 := hB.2.2.2.2.2
    rw [h] at h2
    exact (Option.some.inj h2).symm
theorem v_callS (C : Cx x γ cc own ret rm) {na : Nat} (hB : CB own idx y b n rt na) (hs : Cond.static y ∈ TB) (hR : RmOk rc rm n) (hd : decode cc pc = .ok (.invokestatic idx, 3)) (hκ : κ.1 ≤ rm.cells ∧ κ.2 ≤ rm.slots) {As rest : List Value} (hM : Ct x.l y b n rt rc γ w As P) (hn : As.length = na) (hW : (rest.map fun v => v.category).sum ≤ 8)
    (kk : ∀ (v : Option Value) (w' : Nat → va_E), P v w' → V x γ κ Q w' (pc + 3) L (v.toList ++ rest)) : V x γ κ Q w pc L (As.reverse ++ rest) := by
  intro H locs ls h1 h2 h3
  exact v_back C h2 h3 rfl (va_runS (nL := x.c.maxLocals) ⟨C.ex, C.cd, rfl, C.ow, C.ts⟩ (hM H.size) ⟨cb_of C hB hR, C.ts _ hs⟩ ⟨PW.blind _ _ _ _, fun U hU hW => pw_at C h1 h2 U hU hW⟩ rfl hn h3.1 rfl (lv_room hW) hd (by rw [C.room]; exact hκ)) kk
theorem v_callV (C : Cx x γ cc own ret rm) {na : Nat} (hB : CB own idx y b n rt na) (hs : Cond.instanceMethod y ∈ TB ∧ Cond.selects y.cls y y ∈ TB) (hR : RmOk rc rm n) (hd : decode cc pc = .ok (.invokevirtual idx, 3)) (hκ : κ.1 ≤ rm.cells ∧ κ.2 ≤ rm.slots) {k ci : Nat} {q : vw_C} {fs : List Value} (hk : k < γ.N) (hw : w k = .inr (ci, fs)) (hc : classes[ci]? = some q) (hq : q.1 = y.cls) {As rest : List Value} (hM : Ct x.l y b n rt rc γ w (.ref (γ.ad k) :: As) P) (hn : As.length = na) (hW : (rest.map fun v => v.category).sum ≤ 8)
    (kk : ∀ (v : Option Value) (w' : Nat → va_E), P v w' → V x γ κ Q w' (pc + 3) L (v.toList ++ rest)) : V x γ κ Q w pc L (As.reverse ++ .ref (γ.ad k) :: rest) := by
  intro H locs ls h1 h2 h3
  have hrec := va_recv (q0 := k) C.K h1 hc (by rw [pl_get hk, hw])
  rw [hq] at hrec
  exact v_back C h2 h3 rfl (va_runV (nL := x.c.maxLocals) ⟨C.ex, C.cd, rfl, C.ow, C.ts⟩ (hM H.size) ⟨cb_of C hB hR, C.ts _ hs.1, C.ts _ hs.2⟩ ⟨PW.blind _ _ _ _, hrec, fun U hU hW => pw_at C h1 h2 U hU hW⟩ rfl hn h3.1 rfl (lv_room hW) hd (by rw [C.room]; exact hκ)) kk
/-- a nest mate's private method -/
theorem v_callVN (C : Cx x γ cc own ret rm) {na : Nat} {host : String} (hl : Cond.methodLinkNest own idx y host ∈ TB) (hB : Cond.code y b n rt ∈ TB ∧ Cond.initialized y.cls ∈ TB ∧ (y.cls ≠ "java/lang/invoke/MethodHandle" ∧ y.cls ≠ "java/lang/invoke/VarHandle" ∧ (parseMethodDescriptor y.desc).map (fun d => d.parameters.length) = some na)) (hs : Cond.instanceMethod y ∈ TB ∧ Cond.selects y.cls y y ∈ TB) (hR : RmOk rc rm n) (hd : decode cc pc = .ok (.invokevirtual idx, 3)) (hκ : κ.1 ≤ rm.cells ∧ κ.2 ≤ rm.slots) {k ci : Nat} {q : vw_C} {fs : List Value} (hk : k < γ.N) (hw : w k = .inr (ci, fs)) (hc : classes[ci]? = some q) (hq : q.1 = y.cls) {As rest : List Value} (hM : Ct x.l y b n rt rc γ w (.ref (γ.ad k) :: As) P) (hn : As.length = na) (hW : (rest.map fun v => v.category).sum ≤ 8)
    (kk : ∀ (v : Option Value) (w' : Nat → va_E), P v w' → V x γ κ Q w' (pc + 3) L (v.toList ++ rest)) : V x γ κ Q w pc L (As.reverse ++ .ref (γ.ad k) :: rest) := by
  intro H locs ls h1 h2 h3
  have hrec := va_recv (q0 := k) C.K h1 hc (by rw [pl_get hk, hw])
  rw [hq] at hrec
  have hcn : va_CN x.R x.s x.a own idx y host b n rt (.code y b n rt :: TB) rc 0 0 na := by
    refine ⟨⟨hR.2.2.1, hR.2.2.2, by rw [C.room]; exact hR.1, by rw [C.room]; exact hR.2.1, fun w hw a' U hW => ?_, List.mem_cons_self⟩, C.ts _ hB.1, C.ts _ hB.2.1, ⟨hB.2.2.1, hB.2.2.2.1⟩, fun sig h => ?_, C.ts _ hl⟩
    · rcases List.mem_cons.mp hw with rfl | h
      · exact tb_warm hW C.ts _ hB.1
      · exact tb_warm hW C.ts _ h
    · have h2 := hB.2.2.2.2
      rw [h] at h2
      exact (Option.some.inj h2).symm
  exact v_back C h2 h3 rfl (va_runVN (nL := x.c.maxLocals) ⟨C.ex, C.cd, rfl, C.ow, C.ts⟩ (hM H.size) ⟨hcn, C.ts _ hs.1, C.ts _ hs.2⟩ ⟨PW.blind _ _ _ _, hrec, fun U hU hW => pw_at C h1 h2 U hU hW⟩ rfl hn h3.1 rfl (lv_room hW) hd (by rw [C.room]; exact hκ)) kk
end CL
