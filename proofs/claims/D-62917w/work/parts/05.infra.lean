/-! ===== the machine's tuple, the ghost's tuple, the world as a function of cell numbers ===== -/
abbrev CT : Type := Program × Launch × Env × Room × State × MethodId × Array Value × List Frame × Method × Code
abbrev CT.p (x : CT) : Program := x.1
abbrev CT.l (x : CT) : Launch := x.2.1
abbrev CT.e (x : CT) : Env := x.2.2.1
abbrev CT.R (x : CT) : Room := x.2.2.2.1
abbrev CT.s (x : CT) : State := x.2.2.2.2.1
abbrev CT.m (x : CT) : MethodId := x.2.2.2.2.2.1
abbrev CT.a (x : CT) : Array Value := x.2.2.2.2.2.2.1
abbrev CT.b (x : CT) : List Frame := x.2.2.2.2.2.2.2.1
abbrev CT.mt (x : CT) : Method := x.2.2.2.2.2.2.2.2.1
abbrev CT.c (x : CT) : Code := x.2.2.2.2.2.2.2.2.2
abbrev GH : Type := va_G × (Nat → ClassId) × (Nat → Nat) × Nat × Nat × (Nat → Nat)
abbrev GH.D (γ : GH) : va_G := γ.1
abbrev GH.cA (γ : GH) : Nat → ClassId := γ.2.1
abbrev GH.ad (γ : GH) : Nat → Nat := γ.2.2.1
abbrev GH.N (γ : GH) : Nat := γ.2.2.2.1
abbrev GH.tO (γ : GH) : Nat := γ.2.2.2.2.1
abbrev GH.aO (γ : GH) : Nat → Nat := γ.2.2.2.2.2
def tyl (γ : GH) : List (ClassId × FieldType) := [(γ.cA 0, .int), (γ.cA 1, .boolean), (γ.cA 2, .object "ReplayMachine$State"), (γ.cA 3, .object "ReplayMachine$Note"), (γ.cA 4, .long)]
def pl (ad : Nat → Nat) (N : Nat) (w : Nat → va_E) : va_W := (List.range N).map fun k => (ad k, w k)
theorem pl_get {ad : Nat → Nat} {N : Nat} {w : Nat → va_E} {k : Nat} (h : k < N) : (pl ad N w)[k]? = some (ad k, w k) := by simp [pl, h]
theorem pl_inv {ad : Nat → Nat} {N : Nat} {w : Nat → va_E} {k : Nat} {q : Nat × va_E} (h : (pl ad N w)[k]? = some q) : k < N ∧ q = (ad k, w k) := by
  by_cases hk : k < N
  · rw [pl_get hk] at h
    exact ⟨hk, (Option.some.inj h).symm⟩
  · have : (pl ad N w)[k]? = none := by simp [pl]; omega
    rw [this] at h; cases h
theorem pl_set {ad : Nat → Nat} {N : Nat} {w : Nat → va_E} {k : Nat} {e : va_E} : (pl ad N w).set k (ad k, e) = pl ad N (va_up w k e) := by
  apply List.ext_getElem?
  intro i
  rw [List.getElem?_set]
  by_cases hi : i < N
  · rw [pl_get hi, pl_get hi]
    by_cases hk : k = i
    · subst hk
      simp [va_up, pl, hi]
    · simp [hk, va_up, Ne.symm hk]
  · have h1 : (pl ad N w)[i]? = none := by simp [pl]; omega
    have h2 : (pl ad N (va_up w k e))[i]? = none := by simp [pl]; omega
    rw [h1, h2]
    by_cases hk : k = i
    · subst hk
      simp [pl, hi]
    · simp [hk]
theorem plP {D : va_G} {cl : List vw_C} {ad : Nat → Nat} {N : Nat} {w : Nat → va_E} {H : Heap} (h : va_P D cl (pl ad N w) H) {k : Nat} (hk : k < N) : va_at D cl (ad k, w k) H := h k _ (pl_get hk)
theorem plP_of {D : va_G} {cl : List vw_C} {ad : Nat → Nat} {N : Nat} {w : Nat → va_E} {H : Heap} (h : ∀ k, k < N → va_at D cl (ad k, w k) H) : va_P D cl (pl ad N w) H := by
  intro k q hq
  obtain ⟨h1, rfl⟩ := pl_inv hq
  exact h k h1
def AA (γ : GH) (sz : Nat) : Nat → Prop := fun q => (∃ k, k < γ.N ∧ q = γ.ad k) ∨ sz ≤ q
def Inj (γ : GH) : Prop := ∀ i j, i < γ.N → j < γ.N → γ.ad i = γ.ad j → i = j
theorem AA.mono {γ : GH} {a b : Nat} (h : a ≤ b) : ∀ q, AA γ b q → AA γ a q := fun q hq => hq.elim Or.inl (fun z => Or.inr (Nat.le_trans h z))
theorem plD {γ : GH} (h : Inj γ) (sz : Nat) (w : Nat → va_E) : va_D (AA γ sz) (pl γ.ad γ.N w) := by
  refine ⟨fun i j p q hp hq he => ?_, fun k q hq => ?_⟩
  · obtain ⟨h1, rfl⟩ := pl_inv hp
    obtain ⟨h2, rfl⟩ := pl_inv hq
    exact h i j h1 h2 he
  · obtain ⟨h1, rfl⟩ := pl_inv hq
    exact Or.inl ⟨k, h1, rfl⟩
/-! ===== the statics: OPS, the constants of Op, Throwable's two ===== -/
def opN : List String := ["HALT", "PUSH", "DROP", "AGAIN", "SWAP", "ADD", "SUBTRACT", "MULTIPLY", "DIVIDE", "LESS", "LOAD", "STORE", "JUMP", "IF_ZERO", "IF_BELOW", "CALL", "RETURN", "ARGUMENT", "INPUT", "RANDOM", "FRAME"]
def opTakes : List Int32 := [0, 0, 1, 1, 2, 2, 2, 2, 2, 2, 1, 2, 0, 1, 1, 0, 1, 0, 0, 0, 0]
def opLeaves : List Int32 := [0, 1, 0, 2, 2, 1, 1, 1, 1, 1, 1, 0, 0, 0, 0, 2, 1, 1, 1, 1, 1]
def opOrd : List Int32 := [0, 1, 2, 3, 4, 5, 6, 7, 8, 9, 10, 11, 12, 13, 14, 15, 16, 17, 18, 19, 20]
def opF : List (String × String × String × List Int32) := [("java/lang/Enum", "ordinal", "I", opOrd), ("ReplayMachine$Op", "takes", "I", opTakes), ("ReplayMachine$Op", "leaves", "I", opLeaves)]
def SF (γ : GH) (A : Nat → Prop) (U : State) (H : Heap) : Prop :=
  va_Z "ReplayMachine" "OPS" "[LReplayMachine$Op;" (.ref γ.tO) A U H ∧ va_T (.object "ReplayMachine$Op") γ.tO 21 (fun j => .ref (γ.aO j)) A U H ∧
  va_En "ReplayMachine$Op" "LReplayMachine$Op;" opN opF γ.aO A U H ∧
  va_Zq "java/lang/Throwable" "UNASSIGNED_STACK" "[Ljava/lang/StackTraceElement;" A U H ∧ va_Zq "java/lang/Throwable" "SUPPRESSED_SENTINEL" "Ljava/util/List;" A U H ∧ va_AO "ReplayMachine$State" U ∧ va_AO "ReplayMachine$Note" U
theorem SF.moved {γ : GH} {A : Nat → Prop} {u U : State} {H : Heap} (hvm : u.vm.Alike U.vm) (h : SF γ A u H) : SF γ A U H :=
  ⟨va_Z.moved hvm h.1, va_T.moved hvm h.2.1, va_En.moved hvm h.2.2.1, va_Zq.moved hvm h.2.2.2.1, va_Zq.moved hvm h.2.2.2.2.1, va_AO.moved hvm h.2.2.2.2.2.1, va_AO.moved hvm h.2.2.2.2.2.2⟩
theorem SF.kept {γ : GH} {A : Nat → Prop} {U : State} {H H1 : Heap} (h : SF γ A U H) (hq : ∀ a : Nat, a < H.size → ¬ A a → H1[a]? = H[a]?) : SF γ A U H1 :=
  ⟨h.1.kept hq, h.2.1.kept hq, h.2.2.1.kept hq, h.2.2.2.1.kept hq, h.2.2.2.2.1.kept hq, h.2.2.2.2.2⟩
theorem SF.narrow {γ : GH} {A B : Nat → Prop} {U : State} {H : Heap} (h : SF γ A U H) (hAB : ∀ q, B q → A q) : SF γ B U H :=
  ⟨h.1.narrow hAB, h.2.1.narrow hAB, h.2.2.1.narrow hAB, h.2.2.2.1.narrow hAB, h.2.2.2.2.1.narrow hAB, h.2.2.2.2.2⟩
/-! ===== the tables' words stay under warming ===== -/
theorem okw_warm {args a' : Array Value} {s U : State} (hW : s.WarmedH U.vm) {w : Cond} (hw : okw w = true) (h : w.before args s = true) : w.before a' U = true := by
  have key : ∀ w : Cond, w.onTables = true → w.before args (s.setVm U.vm) = true → w.before a' U = true := fun w ho hh => va_tabs ho (rfl : (s.setVm U.vm).vm = U.vm) hh
  cases w with
  | castable a b => exact key _ rfl (by rw [Cond.castable_setVm hW.alike]; exact h)
  | declares y => exact key _ rfl (by rw [Cond.declares_setVm hW.alike]; exact h)
  | privateMethod y => exact key _ rfl (by rw [Cond.privateMethod_setVm hW.alike]; exact h)
  | methodLinkNest a i y o => exact va_Nw.use rfl (va_Nw.warmM hW (va_Nw.of rfl h))
  | fieldLinkNest a i b n d o => exact va_Nw.use rfl (va_Nw.warmF hW (va_Nw.of rfl h))
  | _ => exact word_at hW (good_of_word hw) h
theorem tb_warm {args a' : Array Value} {s U : State} (hW : s.WarmedH U.vm) (h : ∀ w ∈ TB, w.before args s = true) : ∀ w ∈ TB, w.before a' U = true :=
  fun w hw => okw_warm hW (List.mem_filter.mp hw).2 (h w hw)
/-! ===== what a walk knows of its method ===== -/
def Cx (x : CT) (γ : GH) (cc : ByteArray) (own : String) (ret : Option FieldType) (rm : Room) : Prop :=
  x.p.tables.exec = Jvm.exec ∧ x.c.code = cc ∧ x.s.vm.findClass own = some x.m.cls ∧ (∀ w ∈ TB, w.before x.a x.s = true) ∧ va_K γ.D classes (tyl γ) x.s ∧ Inj γ ∧ SF γ (AA γ x.s.heap.size) x.s x.s.heap ∧ x.mt.locks = false ∧ x.mt.sig.returnType = ret ∧ x.R = rm
section CXS
variable {x : CT} {γ : GH} {cc : ByteArray} {own : String} {ret : Option FieldType} {rm : Room}
theorem Cx.ex (C : Cx x γ cc own ret rm) : x.p.tables.exec = Jvm.exec := C.1
theorem Cx.cd (C : Cx x γ cc own ret rm) : x.c.code = cc := C.2.1
theorem Cx.ow (C : Cx x γ cc own ret rm) : x.s.vm.findClass own = some x.m.cls := C.2.2.1
theorem Cx.ts (C : Cx x γ cc own ret rm) : ∀ w ∈ TB, w.before x.a x.s = true := C.2.2.2.1
theorem Cx.K (C : Cx x γ cc own ret rm) : va_K γ.D classes (tyl γ) x.s := C.2.2.2.2.1
theorem Cx.I (C : Cx x γ cc own ret rm) : Inj γ := C.2.2.2.2.2.1
theorem Cx.sf (C : Cx x γ cc own ret rm) : SF γ (AA γ x.s.heap.size) x.s x.s.heap := C.2.2.2.2.2.2.1
theorem Cx.lk (C : Cx x γ cc own ret rm) : x.mt.locks = false := C.2.2.2.2.2.2.2.1
theorem Cx.rt (C : Cx x γ cc own ret rm) : x.mt.sig.returnType = ret := C.2.2.2.2.2.2.2.2.1
theorem Cx.room (C : Cx x γ cc own ret rm) : x.R = rm := C.2.2.2.2.2.2.2.2.2
end CXS
/-! ===== locals ===== -/
def LH (ls : Array Slot) (n : Nat) (L : List (Option Value)) : Prop := ls.size = n ∧ lv_wf ls ∧ L.length ≤ n ∧ ∀ (i : Nat) (v : Value), L[i]? = some (some v) → ls[i]? = some (.val v) ∧ v.category = 1
def lvl (L : List (Option Value)) : List (Nat × Value) := (List.range L.length).filterMap fun i => match L[i]? with
  | some (some v) => some (i, v)
  | _ => none
theorem lvl_mem {L : List (Option Value)} {q : Nat × Value} (h : q ∈ lvl L) : L[q.1]? = some (some q.2) := by
  obtain ⟨i, -, hi⟩ := List.mem_filterMap.mp h
  split at hi
  next v hv => cases hi; exact hv
  next => cases hi
theorem mem_lvl {L : List (Option Value)} {i : Nat} {v : Value} (h : L[i]? = some (some v)) : (i, v) ∈ lvl L := by
  refine List.mem_filterMap.mpr ⟨i, List.mem_range.mpr (List.getElem?_eq_some_iff.mp h).1, ?_⟩
  simp [h]
theorem LH.at {ls : Array Slot} {n : Nat} {L : List (Option Value)} (h : LH ls n L) {i : Nat} {v : Value} (hi : L[i]? = some (some v)) : ls[i]? = some (.val v) := (h.2.2.2 i v hi).1
theorem LH.has {ls : Array Slot} {n : Nat} {L : List (Option Value)} (h : LH ls n L) : lv_has ls n (lvl L) := ⟨h.1, h.2.1, fun q hq => h.at (lvl_mem hq)⟩
theorem LH.of {ls ls' : Array Slot} {n : Nat} {L : List (Option Value)} {i : Nat} {v : Value} (h : LH ls n L) (hc : v.category = 1) (h' : lv_has ls' n ((i, v) :: (lvl L).filter (fun q => !(q.1 == i) && !(q.1 + 1 == i && q.2.category == 2)))) : LH ls' n (L.set i (some v)) := by
  refine ⟨h'.1, h'.2.1, by simpa using h.2.2.1, fun j u hj => ?_⟩
  rw [List.getElem?_set] at hj
  by_cases hij : i = j
  · subst hij
    simp only [if_true] at hj
    split at hj
    · cases hj
      exact ⟨h'.2.2 (i, v) List.mem_cons_self, hc⟩
    · cases hj
  · rw [if_neg hij] at hj
    have hu := (h.2.2.2 j u hj).2
    refine ⟨h'.2.2 (j, u) (List.mem_cons_of_mem _ (List.mem_filter.mpr ⟨mem_lvl hj, ?_⟩)), hu⟩
    simp [hu, Ne.symm hij]
/-! ===== the judgement ===== -/
def V (x : CT) (γ : GH) (κ : Nat × Nat) (Q : State → Prop) (w : Nat → va_E) (pc : Nat) (L : List (Option Value)) (st : List Value) : Prop :=
  ∀ (H : Heap) (locs : List Loc) (ls : Array Slot), va_P γ.D classes (pl γ.ad γ.N w) H → va_S (AA γ x.s.heap.size) x.s.heap H locs → LH ls x.c.maxLocals L →
    W x.p x.l x.e x.R x.s x.m x.a x.b x.mt x.c H locs κ.1 κ.2 Q (F0 x.m pc ls st)
