section VR
variable {x : CT} {γ : GH} {cc : ByteArray} {own : String} {ret : Option FieldType} {rm : Room} {κ : Nat × Nat} {Q : State → Prop} {w : Nat → va_E} {pc : Nat} {L : List (Option Value)} {st : List Value}

theorem v_iconst (C : Cx x γ cc own ret rm) {n : Int} {v : Int32} (hd : decode cc pc = .ok (.iconst n, 1)) (hv : Int32.ofInt n = v) (k : V x γ κ Q w (pc + 1) L (.int v :: st)) : V x γ κ Q w pc L (st) :=
  fun H locs ls h1 h2 h3 => lv_iconst C.ex C.cd hd hv (k H locs ls h1 h2 h3)
theorem v_bipush (C : Cx x γ cc own ret rm) {n : Int} {v : Int32} (hd : decode cc pc = .ok (.bipush n, 2)) (hv : (Int8.ofInt n).toInt32 = v) (k : V x γ κ Q w (pc + 2) L (.int v :: st)) : V x γ κ Q w pc L (st) :=
  fun H locs ls h1 h2 h3 => lv_bipush C.ex C.cd hd hv (k H locs ls h1 h2 h3)
theorem v_sipush (C : Cx x γ cc own ret rm) {n : Int} {v : Int32} (hd : decode cc pc = .ok (.sipush n, 3)) (hv : (Int16.ofInt n).toInt32 = v) (k : V x γ κ Q w (pc + 3) L (.int v :: st)) : V x γ κ Q w pc L (st) :=
  fun H locs ls h1 h2 h3 => lv_sipush C.ex C.cd hd hv (k H locs ls h1 h2 h3)
theorem v_lconst (C : Cx x γ cc own ret rm) {n : Fin 2} {v : Int64} (hd : decode cc pc = .ok (.lconst n, 1)) (hv : Int64.ofNat (n : Nat) = v) (k : V x γ κ Q w (pc + 1) L (.long v :: st)) : V x γ κ Q w pc L (st) :=
  fun H locs ls h1 h2 h3 => lv_lconst C.ex C.cd hd hv (k H locs ls h1 h2 h3)
theorem v_iload_n (C : Cx x γ cc own ret rm) {j : Fin 4} {v : Int32} (hd : decode cc pc = .ok (.iload_n j, 1)) (hl : L[(j : Nat)]? = some (some (.int v))) (k : V x γ κ Q w (pc + 1) L (.int v :: st)) : V x γ κ Q w pc L (st) :=
  fun H locs ls h1 h2 h3 => lv_iload_n C.ex C.cd hd rfl (h3.at hl) (k H locs ls h1 h2 h3)
theorem v_iload (C : Cx x γ cc own ret rm) {i : Nat} {v : Int32} (hd : decode cc pc = .ok (.iload i, 2)) (hl : L[i]? = some (some (.int v))) (k : V x γ κ Q w (pc + 2) L (.int v :: st)) : V x γ κ Q w pc L (st) :=
  fun H locs ls h1 h2 h3 => lv_iload C.ex C.cd hd (h3.at hl) (k H locs ls h1 h2 h3)
theorem v_istore_n (C : Cx x γ cc own ret rm) {j : Fin 4} {v : Int32} (hd : decode cc pc = .ok (.istore_n j, 1)) (hi : (j : Nat) < L.length) (k : V x γ κ Q w (pc + 1) (L.set (j : Nat) (some (.int v))) st) : V x γ κ Q w pc L (.int v :: st) :=
  fun H locs ls h1 h2 h3 => lv_istore_n C.ex C.cd hd rfl h3.has (Nat.lt_of_lt_of_le hi h3.2.2.1) rfl (fun ls2 hl2 => k H locs ls2 h1 h2 (h3.of rfl hl2))
theorem v_istore (C : Cx x γ cc own ret rm) {i : Nat} {v : Int32} (hd : decode cc pc = .ok (.istore i, 2)) (hi : i < L.length) (k : V x γ κ Q w (pc + 2) (L.set i (some (.int v))) st) : V x γ κ Q w pc L (.int v :: st) :=
  fun H locs ls h1 h2 h3 => lv_istore C.ex C.cd hd h3.has (Nat.lt_of_lt_of_le hi h3.2.2.1) rfl (fun ls2 hl2 => k H locs ls2 h1 h2 (h3.of rfl hl2))
theorem v_aload_n (C : Cx x γ cc own ret rm) {j : Fin 4} {v : Nat} (hd : decode cc pc = .ok (.aload_n j, 1)) (hl : L[(j : Nat)]? = some (some (.ref v))) (k : V x γ κ Q w (pc + 1) L (.ref v :: st)) : V x γ κ Q w pc L (st) :=
  fun H locs ls h1 h2 h3 => lv_aload_n C.ex C.cd hd rfl (h3.at hl) (k H locs ls h1 h2 h3)
theorem v_aload (C : Cx x γ cc own ret rm) {i : Nat} {v : Nat} (hd : decode cc pc = .ok (.aload i, 2)) (hl : L[i]? = some (some (.ref v))) (k : V x γ κ Q w (pc + 2) L (.ref v :: st)) : V x γ κ Q w pc L (st) :=
  fun H locs ls h1 h2 h3 => lv_aload C.ex C.cd hd (h3.at hl) (k H locs ls h1 h2 h3)
theorem v_astore_n (C : Cx x γ cc own ret rm) {j : Fin 4} {v : Nat} (hd : decode cc pc = .ok (.astore_n j, 1)) (hi : (j : Nat) < L.length) (k : V x γ κ Q w (pc + 1) (L.set (j : Nat) (some (.ref v))) st) : V x γ κ Q w pc L (.ref v :: st) :=
  fun H locs ls h1 h2 h3 => lv_astore_n C.ex C.cd hd rfl h3.has (Nat.lt_of_lt_of_le hi h3.2.2.1) rfl (fun ls2 hl2 => k H locs ls2 h1 h2 (h3.of rfl hl2))
theorem v_astore (C : Cx x γ cc own ret rm) {i : Nat} {v : Nat} (hd : decode cc pc = .ok (.astore i, 2)) (hi : i < L.length) (k : V x γ κ Q w (pc + 2) (L.set i (some (.ref v))) st) : V x γ κ Q w pc L (.ref v :: st) :=
  fun H locs ls h1 h2 h3 => lv_astore C.ex C.cd hd h3.has (Nat.lt_of_lt_of_le hi h3.2.2.1) rfl (fun ls2 hl2 => k H locs ls2 h1 h2 (h3.of rfl hl2))
theorem v_iinc (C : Cx x γ cc own ret rm) {i : Nat} {n : Int} {v v' : Int32} (hd : decode cc pc = .ok (.iinc i n, 3)) (hl : L[i]? = some (some (.int v))) (hv : v + Int32.ofInt n = v') (k : V x γ κ Q w (pc + 3) (L.set i (some (.int v'))) st) : V x γ κ Q w pc L st := by
  intro H locs ls h1 h2 h3
  obtain ⟨q, hq⟩ := List.getElem?_of_mem (mem_lvl hl)
  exact lv_iinc C.ex C.cd hd h3.has hq hv (Nat.lt_of_lt_of_le (List.getElem?_eq_some_iff.mp hl).1 h3.2.2.1) rfl (fun ls2 hl2 => k H locs ls2 h1 h2 (h3.of rfl hl2))
theorem v_iadd (C : Cx x γ cc own ret rm) {a b : Int32} (hd : decode cc pc = .ok (.iadd, 1))  (k : V x γ κ Q w (pc + 1) L (.int (a + b) :: st)) : V x γ κ Q w pc L (.int b :: .int a :: st) :=
  fun H locs ls h1 h2 h3 => lv_iadd C.ex C.cd hd  (k H locs ls h1 h2 h3)
theorem v_isub (C : Cx x γ cc own ret rm) {a b : Int32} (hd : decode cc pc = .ok (.isub, 1))  (k : V x γ κ Q w (pc + 1) L (.int (a - b) :: st)) : V x γ κ Q w pc L (.int b :: .int a :: st) :=
  fun H locs ls h1 h2 h3 => lv_isub C.ex C.cd hd  (k H locs ls h1 h2 h3)
theorem v_imul (C : Cx x γ cc own ret rm) {a b : Int32} (hd : decode cc pc = .ok (.imul, 1))  (k : V x γ κ Q w (pc + 1) L (.int (a * b) :: st)) : V x γ κ Q w pc L (.int b :: .int a :: st) :=
  fun H locs ls h1 h2 h3 => lv_imul C.ex C.cd hd  (k H locs ls h1 h2 h3)
theorem v_iand (C : Cx x γ cc own ret rm) {a b : Int32} (hd : decode cc pc = .ok (.iand, 1))  (k : V x γ κ Q w (pc + 1) L (.int (a &&& b) :: st)) : V x γ κ Q w pc L (.int b :: .int a :: st) :=
  fun H locs ls h1 h2 h3 => lv_iand C.ex C.cd hd  (k H locs ls h1 h2 h3)
theorem v_ishr (C : Cx x γ cc own ret rm) {a b : Int32} (hd : decode cc pc = .ok (.ishr, 1))  (k : V x γ κ Q w (pc + 1) L (.int (a >>> (b &&& 31)) :: st)) : V x γ κ Q w pc L (.int b :: .int a :: st) :=
  fun H locs ls h1 h2 h3 => lv_ishr C.ex C.cd hd  (k H locs ls h1 h2 h3)
theorem v_idiv (C : Cx x γ cc own ret rm) {a b : Int32} (hd : decode cc pc = .ok (.idiv, 1)) (hne : ¬ b = 0) (k : V x γ κ Q w (pc + 1) L (.int (a / b) :: st)) : V x γ κ Q w pc L (.int b :: .int a :: st) :=
  fun H locs ls h1 h2 h3 => lv_idiv C.ex C.cd hd hne (k H locs ls h1 h2 h3)
theorem v_irem (C : Cx x γ cc own ret rm) {a b : Int32} (hd : decode cc pc = .ok (.irem, 1)) (hne : ¬ b = 0) (k : V x γ κ Q w (pc + 1) L (.int (a - a / b * b) :: st)) : V x γ κ Q w pc L (.int b :: .int a :: st) :=
  fun H locs ls h1 h2 h3 => lv_irem C.ex C.cd hd hne (k H locs ls h1 h2 h3)
theorem v_iushr (C : Cx x γ cc own ret rm) {a b : Int32} (hd : decode cc pc = .ok (.iushr, 1))  (k : V x γ κ Q w (pc + 1) L (.int ((a.toUInt32 >>> (b.toUInt32 &&& Int32.toUInt32 31)).toInt32) :: st)) : V x γ κ Q w pc L (.int b :: .int a :: st) :=
  fun H locs ls h1 h2 h3 => lv_iushr C.ex C.cd hd rfl (k H locs ls h1 h2 h3)
theorem v_i2l (C : Cx x γ cc own ret rm) {a : Int32} (hd : decode cc pc = .ok (.i2l, 1))  (k : V x γ κ Q w (pc + 1) L (.long a.toInt64 :: st)) : V x γ κ Q w pc L (.int a :: st) :=
  fun H locs ls h1 h2 h3 => lv_i2l C.ex C.cd hd rfl (k H locs ls h1 h2 h3)
theorem v_lcmp (C : Cx x γ cc own ret rm) {a b : Int64} (hd : decode cc pc = .ok (.lcmp, 1))  (k : V x γ κ Q w (pc + 1) L (.int (lg_cmp a b) :: st)) : V x γ κ Q w pc L (.long b :: .long a :: st) :=
  fun H locs ls h1 h2 h3 => W.lcmp C.ex C.cd hd  (k H locs ls h1 h2 h3)
theorem v_dup (C : Cx x γ cc own ret rm) {a : Value} (hd : decode cc pc = .ok (.dup, 1)) (ha : a.category = 1) (k : V x γ κ Q w (pc + 1) L (a :: a :: st)) : V x γ κ Q w pc L (a :: st) :=
  fun H locs ls h1 h2 h3 => lv_dup C.ex C.cd hd ha (k H locs ls h1 h2 h3)
theorem v_pop (C : Cx x γ cc own ret rm) {a : Value} (hd : decode cc pc = .ok (.pop, 1)) (ha : a.category = 1) (k : V x γ κ Q w (pc + 1) L (st)) : V x γ κ Q w pc L (a :: st) :=
  fun H locs ls h1 h2 h3 => lv_pop C.ex C.cd hd ha (k H locs ls h1 h2 h3)
theorem v_if_eq (C : Cx x γ cc own ret rm) {a : Int32} {off : Int} (tgt : Nat) (hd : decode cc pc = .ok (.ifCond .eq off, 3)) (ht : (pc : Int) + off = (tgt : Int)) (kt : a = 0 → V x γ κ Q w tgt L st) (kf : ¬ a = 0 → V x γ κ Q w (pc + 3) L st) : V x γ κ Q w pc L (.int a :: st) :=
  fun H locs ls h1 h2 h3 => lv_if_eq C.ex C.cd hd ht (fun q => kt q H locs ls h1 h2 h3) (fun q => kf q H locs ls h1 h2 h3)
theorem v_icmp_eq (C : Cx x γ cc own ret rm) {a b : Int32} {off : Int} (tgt : Nat) (hd : decode cc pc = .ok (.if_icmp .eq off, 3)) (ht : (pc : Int) + off = (tgt : Int)) (kt : a = b → V x γ κ Q w tgt L st) (kf : ¬ a = b → V x γ κ Q w (pc + 3) L st) : V x γ κ Q w pc L (.int b :: .int a :: st) :=
  fun H locs ls h1 h2 h3 => lv_icmp_eq C.ex C.cd hd ht (fun q => kt q H locs ls h1 h2 h3) (fun q => kf q H locs ls h1 h2 h3)
theorem v_if_ne (C : Cx x γ cc own ret rm) {a : Int32} {off : Int} (tgt : Nat) (hd : decode cc pc = .ok (.ifCond .ne off, 3)) (ht : (pc : Int) + off = (tgt : Int)) (kt : ¬ a = 0 → V x γ κ Q w tgt L st) (kf : a = 0 → V x γ κ Q w (pc + 3) L st) : V x γ κ Q w pc L (.int a :: st) :=
  fun H locs ls h1 h2 h3 => lv_if_ne C.ex C.cd hd ht (fun q => kt q H locs ls h1 h2 h3) (fun q => kf q H locs ls h1 h2 h3)
theorem v_icmp_ne (C : Cx x γ cc own ret rm) {a b : Int32} {off : Int} (tgt : Nat) (hd : decode cc pc = .ok (.if_icmp .ne off, 3)) (ht : (pc : Int) + off = (tgt : Int)) (kt : ¬ a = b → V x γ κ Q w tgt L st) (kf : a = b → V x γ κ Q w (pc + 3) L st) : V x γ κ Q w pc L (.int b :: .int a :: st) :=
  fun H locs ls h1 h2 h3 => lv_icmp_ne C.ex C.cd hd ht (fun q => kt q H locs ls h1 h2 h3) (fun q => kf q H locs ls h1 h2 h3)
theorem v_if_lt (C : Cx x γ cc own ret rm) {a : Int32} {off : Int} (tgt : Nat) (hd : decode cc pc = .ok (.ifCond .lt off, 3)) (ht : (pc : Int) + off = (tgt : Int)) (kt : a < 0 → V x γ κ Q w tgt L st) (kf : ¬ a < 0 → V x γ κ Q w (pc + 3) L st) : V x γ κ Q w pc L (.int a :: st) :=
  fun H locs ls h1 h2 h3 => lv_if_lt C.ex C.cd hd ht (fun q => kt q H locs ls h1 h2 h3) (fun q => kf q H locs ls h1 h2 h3)
theorem v_icmp_lt (C : Cx x γ cc own ret rm) {a b : Int32} {off : Int} (tgt : Nat) (hd : decode cc pc = .ok (.if_icmp .lt off, 3)) (ht : (pc : Int) + off = (tgt : Int)) (kt : a < b → V x γ κ Q w tgt L st) (kf : ¬ a < b → V x γ κ Q w (pc + 3) L st) : V x γ κ Q w pc L (.int b :: .int a :: st) :=
  fun H locs ls h1 h2 h3 => lv_icmp_lt C.ex C.cd hd ht (fun q => kt q H locs ls h1 h2 h3) (fun q => kf q H locs ls h1 h2 h3)
theorem v_if_ge (C : Cx x γ cc own ret rm) {a : Int32} {off : Int} (tgt : Nat) (hd : decode cc pc = .ok (.ifCond .ge off, 3)) (ht : (pc : Int) + off = (tgt : Int)) (kt : 0 ≤ a → V x γ κ Q w tgt L st) (kf : ¬ 0 ≤ a → V x γ κ Q w (pc + 3) L st) : V x γ κ Q w pc L (.int a :: st) :=
  fun H locs ls h1 h2 h3 => lv_if_ge C.ex C.cd hd ht (fun q => kt q H locs ls h1 h2 h3) (fun q => kf q H locs ls h1 h2 h3)
theorem v_icmp_ge (C : Cx x γ cc own ret rm) {a b : Int32} {off : Int} (tgt : Nat) (hd : decode cc pc = .ok (.if_icmp .ge off, 3)) (ht : (pc : Int) + off = (tgt : Int)) (kt : b ≤ a → V x γ κ Q w tgt L st) (kf : ¬ b ≤ a → V x γ κ Q w (pc + 3) L st) : V x γ κ Q w pc L (.int b :: .int a :: st) :=
  fun H locs ls h1 h2 h3 => lv_icmp_ge C.ex C.cd hd ht (fun q => kt q H locs ls h1 h2 h3) (fun q => kf q H locs ls h1 h2 h3)
theorem v_if_gt (C : Cx x γ cc own ret rm) {a : Int32} {off : Int} (tgt : Nat) (hd : decode cc pc = .ok (.ifCond .gt off, 3)) (ht : (pc : Int) + off = (tgt : Int)) (kt : 0 < a → V x γ κ Q w tgt L st) (kf : ¬ 0 < a → V x γ κ Q w (pc + 3) L st) : V x γ κ Q w pc L (.int a :: st) :=
  fun H locs ls h1 h2 h3 => lv_if_gt C.ex C.cd hd ht (fun q => kt q H locs ls h1 h2 h3) (fun q => kf q H locs ls h1 h2 h3)
theorem v_icmp_gt (C : Cx x γ cc own ret rm) {a b : Int32} {off : Int} (tgt : Nat) (hd : decode cc pc = .ok (.if_icmp .gt off, 3)) (ht : (pc : Int) + off = (tgt : Int)) (kt : b < a → V x γ κ Q w tgt L st) (kf : ¬ b < a → V x γ κ Q w (pc + 3) L st) : V x γ κ Q w pc L (.int b :: .int a :: st) :=
  fun H locs ls h1 h2 h3 => lv_icmp_gt C.ex C.cd hd ht (fun q => kt q H locs ls h1 h2 h3) (fun q => kf q H locs ls h1 h2 h3)
theorem v_if_le (C : Cx x γ cc own ret rm) {a : Int32} {off : Int} (tgt : Nat) (hd : decode cc pc = .ok (.ifCond .le off, 3)) (ht : (pc : Int) + off = (tgt : Int)) (kt : a ≤ 0 → V x γ κ Q w tgt L st) (kf : ¬ a ≤ 0 → V x γ κ Q w (pc + 3) L st) : V x γ κ Q w pc L (.int a :: st) :=
  fun H locs ls h1 h2 h3 => lv_if_le C.ex C.cd hd ht (fun q => kt q H locs ls h1 h2 h3) (fun q => kf q H locs ls h1 h2 h3)
theorem v_icmp_le (C : Cx x γ cc own ret rm) {a b : Int32} {off : Int} (tgt : Nat) (hd : decode cc pc = .ok (.if_icmp .le off, 3)) (ht : (pc : Int) + off = (tgt : Int)) (kt : a ≤ b → V x γ κ Q w tgt L st) (kf : ¬ a ≤ b → V x γ κ Q w (pc + 3) L st) : V x γ κ Q w pc L (.int b :: .int a :: st) :=
  fun H locs ls h1 h2 h3 => lv_icmp_le C.ex C.cd hd ht (fun q => kt q H locs ls h1 h2 h3) (fun q => kf q H locs ls h1 h2 h3)
theorem v_goto (C : Cx x γ cc own ret rm) {off : Int} (tgt : Nat) (hd : decode cc pc = .ok (.goto off, 3)) (ht : (pc : Int) + off = (tgt : Int)) (k : V x γ κ Q w tgt L st) : V x γ κ Q w pc L st :=
  fun H locs ls h1 h2 h3 => lv_goto C.ex C.cd hd ht (k H locs ls h1 h2 h3)
def tsw (dflt lo hi : Int) (offs : Array Int) (z : Int) : Int := if z < lo ∨ hi < z then dflt else offs.getD (z - lo).toNat dflt
theorem v_table (C : Cx x γ cc own ret rm) {dflt lo hi : Int} {offs : Array Int} {len : Nat} {a : Int32} (tgt : Nat) (hd : decode cc pc = .ok (.tableswitch dflt lo hi offs, len)) (hs : offs.size = (hi - lo + 1).toNat) (ht : (pc : Int) + tsw dflt lo hi offs a.toInt = (tgt : Int)) (k : V x γ κ Q w tgt L st) : V x γ κ Q w pc L (.int a :: st) := by
  intro H locs ls h1 h2 h3
  by_cases h : a.toInt < lo ∨ hi < a.toInt
  · rw [tsw, if_pos h] at ht
    exact lv_tableOut C.ex C.cd hd h ht (k H locs ls h1 h2 h3)
  · rw [tsw, if_neg h] at ht
    have h4 : ¬ a.toInt < lo := fun q => h (Or.inl q)
    have h5 : ¬ hi < a.toInt := fun q => h (Or.inr q)
    have h6 : (a.toInt - lo).toNat < offs.size := by rw [hs]; omega
    refine lv_tableIn C.ex C.cd hd h4 h5 (off := offs.getD (a.toInt - lo).toNat dflt) ?_ ht (k H locs ls h1 h2 h3)
    simp [Array.getD, h6]
theorem v_widen {κ2 : Nat × Nat} (h : κ.1 ≤ κ2.1 ∧ κ.2 ≤ κ2.2) (k : V x γ κ2 Q w pc L st) : V x γ κ Q w pc L st := fun H locs ls h1 h2 h3 => W.widen h.1 h.2 (k H locs ls h1 h2 h3)
theorem v_ldc (C : Cx x γ cc own ret rm) {i : Nat} {v : Int32} (hd : decode cc pc = .ok (.ldc i, 2)) (hw : Cond.constant own i v ∈ TB) (k : V x γ κ Q w (pc + 2) L (.int v :: st)) : V x γ κ Q w pc L st :=
  fun H locs ls h1 h2 h3 => lv_ldc C.ex C.cd C.ow (C.ts _ hw) hd (k H locs ls h1 h2 h3)
/-! fields of the world's objects -/
theorem v_get (C : Cx x γ cc own ret rm) {k j ci idx NF : Nat} {fs : List Value} {v : Value} {T : u_T} {Cn : String} (hk : k < γ.N) (hw : w k = .inr (ci, fs)) (hc : classes[ci]? = some (Cn, T, NF)) (hin : ∀ w ∈ u_ws Cn T NF, w ∈ TB) (hj : j < NF) (hd : decode cc pc = .ok (.getfield idx, 3)) (hl : Cond.fieldLink own idx (T j).1 (T j).2.1 (T j).2.2.1 ∈ TB) (hv : fs[j]? = some v) (kk : V x γ κ Q w (pc + 3) L (v :: st)) : V x γ κ Q w pc L (.ref (γ.ad k) :: st) :=
  fun H locs ls h1 h2 h3 => va_get C.ex C.cd C.ts hin C.ow C.K h1 k (by rw [pl_get hk, hw]) hc j hj (C.ts _ hl) (fun _ h9 => h9) hv hd (kk H locs ls h1 h2 h3)
theorem v_getN (C : Cx x γ cc own ret rm) {k j ci idx NF : Nat} {fs : List Value} {v : Value} {T : u_T} {Cn host : String} (hk : k < γ.N) (hw : w k = .inr (ci, fs)) (hc : classes[ci]? = some (Cn, T, NF)) (hin : ∀ w ∈ u_ws Cn T NF, w ∈ TB) (hj : j < NF) (hd : decode cc pc = .ok (.getfield idx, 3)) (hl : Cond.fieldLinkNest own idx (T j).1 (T j).2.1 (T j).2.2.1 host ∈ TB) (hv : fs[j]? = some v) (kk : V x γ κ Q w (pc + 3) L (v :: st)) : V x γ κ Q w pc L (.ref (γ.ad k) :: st) :=
  fun H locs ls h1 h2 h3 => va_getN C.ex C.cd C.ts hin C.ow C.K h1 k (by rw [pl_get hk, hw]) hc j hj (C.ts _ hl) (fun _ h9 => h9) hv hd (kk H locs ls h1 h2 h3)
theorem v_put (C : Cx x γ cc own ret rm) {k j ci idx NF : Nat} {fs : List Value} {v : Value} {T : u_T} {Cn : String} {ty : FieldType} (hk : k < γ.N) (hw : w k = .inr (ci, fs)) (hc : classes[ci]? = some (Cn, T, NF)) (hin : ∀ w ∈ u_ws Cn T NF, w ∈ TB) (ty0 : Nat → FieldType) (hty : ∀ k, k < NF → parseFieldDescriptor (T k).2.2.1 = some (ty0 k)) (hnm : ∀ a, a < NF → ∀ b, b < NF → a ≠ b → (T a).2.1 ≠ (T b).2.1) (hj : j < NF) (hd : decode cc pc = .ok (.putfield idx, 3)) (hl : Cond.fieldLink own idx (T j).1 (T j).2.1 (T j).2.2.1 ∈ TB) (hfin : (T j).2.2.2 = false) (hty2 : parseFieldDescriptor (T j).2.2.1 = some ty) (hn : narrow ty v = v) (hf : fits ty v = true) (hlen : j < fs.length) (kk : V x γ κ Q (va_up w k (.inr (ci, fs.set j v))) (pc + 3) L st) : V x γ κ Q w pc L (v :: .ref (γ.ad k) :: st) :=
  fun H locs ls h1 h2 h3 => va_put C.ex C.cd C.ts hin ty0 hty hnm C.ow C.K h1 (plD C.I _ w) h2 k (by rw [pl_get hk, hw]) hc j hj (C.ts _ hl) (fun _ h9 => h9) hfin hty2 hn hf hlen hd (fun H1 locs1 p1 _ s1 => kk H1 locs1 ls (by rw [pl_set] at p1; exact p1) s1 h3)
/-! arrays of the world -/
theorem v_alen (C : Cx x γ cc own ret rm) {k : Nat} {cA : ClassId} {a : vp_A} {ty : FieldType} {t0 : Nat} {v : Int32} (hk : k < γ.N) (hw : w k = .inl (cA, a)) (ht : (tyl γ)[t0]? = some (cA, ty)) (hv : Int32.ofNat a.1 = v) (hd : decode cc pc = .ok (.arraylength, 1)) (kk : V x γ κ Q w (pc + 1) L (.int v :: st)) : V x γ κ Q w pc L (.ref (γ.ad k) :: st) :=
  fun H locs ls h1 h2 h3 => va_alen C.ex C.cd C.K h1 k t0 (by rw [pl_get hk, hw]) ht hv hd (kk H locs ls h1 h2 h3)
theorem v_iald (C : Cx x γ cc own ret rm) {k n : Nat} {f : Nat → Int32} {i : Int32} (hd : decode cc pc = .ok (.iaload, 1)) (hk : k < γ.N) (hw : w k = .inl (γ.cA 0, n, .inl f)) (hin : vp_in i n) (kk : V x γ κ Q w (pc + 1) L (.int (f i.toNatClampNeg) :: st)) : V x γ κ Q w pc L (.int i :: .ref (γ.ad k) :: st) :=
  fun H locs ls h1 h2 h3 => va_iald C.ex C.cd C.K h1 k 0 (by rw [pl_get hk, hw]) rfl hin hd (kk H locs ls h1 h2 h3)
theorem v_zald (C : Cx x γ cc own ret rm) {k n : Nat} {f : Nat → Int32} {i : Int32} (hd : decode cc pc = .ok (.baload, 1)) (hk : k < γ.N) (hw : w k = .inl (γ.cA 1, n, .inl f)) (hin : vp_in i n) (kk : V x γ κ Q w (pc + 1) L (.int (f i.toNatClampNeg) :: st)) : V x γ κ Q w pc L (.int i :: .ref (γ.ad k) :: st) :=
  fun H locs ls h1 h2 h3 => va_zald C.ex C.cd C.K h1 k 1 (by rw [pl_get hk, hw]) rfl hin hd (kk H locs ls h1 h2 h3)
theorem v_lald (C : Cx x γ cc own ret rm) {k n : Nat} {f : Nat → Int64} {i : Int32} (hd : decode cc pc = .ok (.laload, 1)) (hk : k < γ.N) (hw : w k = .inl (γ.cA 4, n, .inr (.inl f))) (hin : vp_in i n) (kk : V x γ κ Q w (pc + 1) L (.long (f i.toNatClampNeg) :: st)) : V x γ κ Q w pc L (.int i :: .ref (γ.ad k) :: st) :=
  fun H locs ls h1 h2 h3 => va_lald C.ex C.cd C.K h1 k 4 (by rw [pl_get hk, hw]) rfl hin hd (kk H locs ls h1 h2 h3)
theorem v_aald (C : Cx x γ cc own ret rm) {k n t0 : Nat} {Cn : String} {f : Nat → Option Nat} {i : Int32} {cA : ClassId} (ht : (tyl γ)[t0]? = some (cA, .object Cn)) (hd : decode cc pc = .ok (.aaload, 1)) (hk : k < γ.N) (hw : w k = .inl (cA, n, .inr (.inr (.inr (.inr f))))) (hin : vp_in i n) (kk : V x γ κ Q w (pc + 1) L (va_rf (f i.toNatClampNeg) :: st)) : V x γ κ Q w pc L (.int i :: .ref (γ.ad k) :: st) :=
  fun H locs ls h1 h2 h3 => va_aldq C.ex C.cd C.K h1 k t0 (by rw [pl_get hk, hw]) ht hin hd (kk H locs ls h1 h2 h3)
theorem v_iast (C : Cx x γ cc own ret rm) {k n : Nat} {f : Nat → Int32} {i v : Int32} (hd : decode cc pc = .ok (.iastore, 1)) (hk : k < γ.N) (hw : w k = .inl (γ.cA 0, n, .inl f)) (hin : vp_in i n) (kk : V x γ κ Q (va_up w k (.inl (γ.cA 0, n, .inl (upd f i.toNatClampNeg v)))) (pc + 1) L st) : V x γ κ Q w pc L (.int v :: .int i :: .ref (γ.ad k) :: st) :=
  fun H locs ls h1 h2 h3 => va_iast C.ex C.cd C.K h1 (plD C.I _ w) h2 k 0 (by rw [pl_get hk, hw]) rfl hin hd (fun H1 locs1 p1 _ s1 => kk H1 locs1 ls (by rw [pl_set] at p1; exact p1) s1 h3)
theorem v_zast (C : Cx x γ cc own ret rm) {k n : Nat} {f : Nat → Int32} {i v : Int32} (hd : decode cc pc = .ok (.bastore, 1)) (hk : k < γ.N) (hw : w k = .inl (γ.cA 1, n, .inl f)) (hin : vp_in i n) (kk : V x γ κ Q (va_up w k (.inl (γ.cA 1, n, .inl (upd f i.toNatClampNeg (vp_nar .boolean v))))) (pc + 1) L st) : V x γ κ Q w pc L (.int v :: .int i :: .ref (γ.ad k) :: st) :=
  fun H locs ls h1 h2 h3 => va_zast C.ex C.cd C.K h1 (plD C.I _ w) h2 k 1 (by rw [pl_get hk, hw]) rfl hin hd (fun H1 locs1 p1 _ s1 => kk H1 locs1 ls (by rw [pl_set] at p1; exact p1) s1 h3)
theorem v_last (C : Cx x γ cc own ret rm) {k n : Nat} {f : Nat → Int64} {i : Int32} {v : Int64} (hd : decode cc pc = .ok (.lastore, 1)) (hk : k < γ.N) (hw : w k = .inl (γ.cA 4, n, .inr (.inl f))) (hin : vp_in i n) (kk : V x γ κ Q (va_up w k (.inl (γ.cA 4, n, .inr (.inl (vp_updL f i.toNatClampNeg v))))) (pc + 1) L st) : V x γ κ Q w pc L (.long v :: .int i :: .ref (γ.ad k) :: st) :=
  fun H locs ls h1 h2 h3 => va_last C.ex C.cd C.K h1 (plD C.I _ w) h2 k 4 (by rw [pl_get hk, hw]) rfl hin hd (fun H1 locs1 p1 _ s1 => kk H1 locs1 ls (by rw [pl_set] at p1; exact p1) s1 h3)
theorem v_aast (C : Cx x γ cc own ret rm) {k n t0 qk ci : Nat} {r : vw_C} {vs : List Value} {f : Nat → Option Nat} {i : Int32} {cA : ClassId} (ht : (tyl γ)[t0]? = some (cA, .object r.1)) (hd : decode cc pc = .ok (.aastore, 1)) (hk : k < γ.N) (hw : w k = .inl (cA, n, .inr (.inr (.inr (.inr f))))) (hq : qk < γ.N) (hwq : w qk = .inr (ci, vs)) (hc : classes[ci]? = some r) (hin : vp_in i n) (kk : V x γ κ Q (va_up w k (.inl (cA, n, .inr (.inr (.inr (.inr (va_up f i.toNatClampNeg (some (γ.ad qk))))))))) (pc + 1) L st) : V x γ κ Q w pc L (.ref (γ.ad qk) :: .int i :: .ref (γ.ad k) :: st) :=
  fun H locs ls h1 h2 h3 => va_astq C.ex C.cd C.K h1 (plD C.I _ w) h2 k t0 qk ci (by rw [pl_get hk, hw]) ht (by rw [pl_get hq, hwq]) hc hin hd (fun H1 locs1 p1 _ s1 => kk H1 locs1 ls (by rw [pl_set] at p1; exact p1) s1 h3)
theorem v_copy (C : Cx x γ cc own ret rm) {k0 k1 n0 n1 idx : Nat} {f g : Nat → Int32} {sp dp n : Int32} (hd : decode cc pc = .ok (.invokestatic idx, 3)) (hl : Cond.methodLink own idx arraycopyName ∈ TB) (hk0 : k0 < γ.N) (hk1 : k1 < γ.N) (hw0 : w k0 = .inl (γ.cA 0, n0, .inl f)) (hw1 : w k1 = .inl (γ.cA 0, n1, .inl g)) (q1 : ¬ sp < 0) (q2 : ¬ dp < 0) (q3 : ¬ n < 0) (q4 : sp.toNatClampNeg + n.toNatClampNeg ≤ n0) (q5 : dp.toNatClampNeg + n.toNatClampNeg ≤ n1) (hf : 1 ≤ rm.frames) (hlo : (st.map fun v => v.category).sum + (nativeFrameWords "java/lang/System" "arraycopy" 5 + 11) ≤ rm.locals)
    (kk : V x γ κ Q (va_up w k1 (.inl (γ.cA 0, n1, .inl (va_cpy f g sp.toNatClampNeg dp.toNatClampNeg n.toNatClampNeg)))) (pc + 3) L st) : V x γ κ Q w pc L (.int n :: .int dp :: .ref (γ.ad k1) :: .int sp :: .ref (γ.ad k0) :: st) :=
  fun H locs ls h1 h2 h3 => va_copyi C.ex C.cd h3.1.symm C.ow (C.ts _ hl) (C.ts _ nv_SY_arraycopy) (C.ts _ sm_SY_arraycopy) (C.ts _ in_SY) C.K h1 (plD C.I _ w) h2 k0 k1 0 0 (by rw [pl_get hk0, hw0]) (by rw [pl_get hk1, hw1]) rfl rfl rfl q1 q2 q3 q4 q5 (fun _ _ => rfl) (by rw [C.room]; exact hf) (by rw [C.room]; exact hlo) hd (fun H1 locs1 p1 _ s1 => kk H1 locs1 ls (by rw [pl_set] at p1; exact p1) s1 h3)
/-! statics and constants -/
theorem v_getOPS (C : Cx x γ cc own ret rm) {idx : Nat} (hd : decode cc pc = .ok (.getstatic idx, 3)) (hl : Cond.fieldLink own idx "ReplayMachine" "OPS" "[LReplayMachine$Op;" ∈ TB) (kk : V x γ κ Q w (pc + 3) L (.ref γ.tO :: st)) : V x γ κ Q w pc L st :=
  fun H locs ls h1 h2 h3 => va_gets C.ex C.cd C.sf.1 h2 C.ow (C.ts _ hl) (fun _ h9 => h9) hd (kk H locs ls h1 h2 h3)
theorem v_getOp0 (C : Cx x γ cc own ret rm) {idx : Nat} (hd : decode cc pc = .ok (.getstatic idx, 3)) (hl : Cond.fieldLink own idx "ReplayMachine$Op" "HALT" "LReplayMachine$Op;" ∈ TB) (kk : V x γ κ Q w (pc + 3) L (.ref (γ.aO 0) :: st)) : V x γ κ Q w pc L st :=
  fun H locs ls h1 h2 h3 => va_gets C.ex C.cd (C.sf.2.2.1.1 0 (by decide)).1 h2 C.ow (C.ts _ hl) (fun _ h9 => h9) hd (kk H locs ls h1 h2 h3)
theorem v_opsLen (C : Cx x γ cc own ret rm) (hd : decode cc pc = .ok (.arraylength, 1)) (kk : V x γ κ Q w (pc + 1) L (.int 21 :: st)) : V x γ κ Q w pc L (.ref γ.tO :: st) :=
  fun H locs ls h1 h2 h3 => va_tlen C.ex C.cd C.sf.2.1 h2 rfl hd (kk H locs ls h1 h2 h3)
theorem v_opsAt (C : Cx x γ cc own ret rm) {i : Int32} (hd : decode cc pc = .ok (.aaload, 1)) (hin : vp_in i 21) (kk : V x γ κ Q w (pc + 1) L (.ref (γ.aO i.toNatClampNeg) :: st)) : V x γ κ Q w pc L (.int i :: .ref γ.tO :: st) :=
  fun H locs ls h1 h2 h3 => vb_tq C.ex C.cd C.sf.2.1 h2 hin rfl hd (kk H locs ls h1 h2 h3)
theorem v_opGet (C : Cx x γ cc own ret rm) {idx i : Nat} {q : String × String × String × List Int32} (hq : q ∈ opF) (hi : i < 21) (hd : decode cc pc = .ok (.getfield idx, 3)) (hl : Cond.fieldLink own idx q.1 q.2.1 q.2.2.1 ∈ TB) (kk : V x γ κ Q w (pc + 3) L (.int (q.2.2.2.getD i 0) :: st)) : V x γ κ Q w pc L (.ref (γ.aO i) :: st) :=
  fun H locs ls h1 h2 h3 => va_getE C.ex C.cd C.sf.2.2.1 hi h2 C.ow hq (C.ts _ hl) (fun _ h9 => h9) hd (kk H locs ls h1 h2 h3)
theorem v_opNe (C : Cx x γ cc own ret rm) {i j : Nat} {off : Int} (tgt : Nat) (hi : i < 21) (hj : j < 21) (hd : decode cc pc = .ok (.if_acmp .ne off, 3)) (ht : (pc : Int) + off = (tgt : Int)) (kt : ¬ i = j → V x γ κ Q w tgt L st) (kf : i = j → V x γ κ Q w (pc + 3) L st) : V x γ κ Q w pc L (.ref (γ.aO j) :: .ref (γ.aO i) :: st) :=
  fun H locs ls h1 h2 h3 => lv_acmp_ne (rx := some (γ.aO i)) (ry := some (γ.aO j)) C.ex C.cd hd ht (fun q => kt (fun e => q (by rw [e])) H locs ls h1 h2 h3) (fun q => kf (C.sf.2.2.1.2 i j hi hj (Option.some.inj q)) H locs ls h1 h2 h3)
end VR
