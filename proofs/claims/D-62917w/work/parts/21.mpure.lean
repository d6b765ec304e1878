/-! ===== the model's own words, and that they are the machine's ===== -/
/-! rows of kit/laws/BITS.to-paste -/
def bt (x : Int32) (i : Nat) : Bool := x.toBitVec.getLsbD i
theorem b_ext {x y : Int32} (h : ∀ i, i < 32 → bt x i = bt y i) : x = y := Int32.toBitVec_inj.mp (BitVec.eq_of_getLsbD_eq (fun i hi => h i hi))
theorem b_and (x y : Int32) (i : Nat) : bt (x &&& y) i = (bt x i && bt y i) := by unfold bt; rw [Int32.toBitVec_and, BitVec.getLsbD_and]
theorem b_big {x : Int32} {i : Nat} (h : 32 ≤ i) : bt x i = false := BitVec.getLsbD_of_ge _ _ h
theorem b_65535 (i : Nat) : bt 65535 i = decide (i < 16) := by
  rcases Nat.lt_or_ge i 32 with h | h
  · exact (by decide +kernel : ∀ i, i < 32 → bt 65535 i = decide (i < 16)) i h
  · rw [b_big h, decide_eq_false (by omega)]
theorem s_l : ∀ n, n < 32 → ((nI n &&& 31).toBitVec.smod 32).toNat = n := by decide +kernel
theorem s_u : ∀ n, n < 32 → (((nI n).toUInt32 &&& Int32.toUInt32 31).toBitVec % 32).toNat = n := by decide +kernel
theorem b_ushr (n : Nat) (hn : n < 32) (x : Int32) (i : Nat) : bt ((x.toUInt32 >>> ((nI n).toUInt32 &&& Int32.toUInt32 31)).toInt32) i = bt x (n + i) := by
  show (x.toUInt32 >>> ((nI n).toUInt32 &&& Int32.toUInt32 31)).toBitVec.getLsbD i = x.toUInt32.toBitVec.getLsbD (n + i)
  rw [UInt32.toBitVec_shiftRight]
  show (x.toUInt32.toBitVec >>> (((nI n).toUInt32 &&& Int32.toUInt32 31).toBitVec % 32).toNat).getLsbD i = _
  rw [s_u n hn, BitVec.getLsbD_ushiftRight]
theorem b_sshr (n : Nat) (hn : n < 32) (x : Int32) {i : Nat} (hi : i < 32) : bt (x >>> (nI n &&& 31)) i = if n + i < 32 then bt x (n + i) else bt x 31 := by
  unfold bt
  rw [Int32.toBitVec_shiftRight]
  show (x.toBitVec.sshiftRight ((nI n &&& 31).toBitVec.smod 32).toNat).getLsbD i = _
  rw [s_l n hn, BitVec.getLsbD_sshiftRight, BitVec.msb_eq_getLsbD_last]
  simp [hi]
theorem shr16 (x : Int32) : (x >>> ((16 : Int32) &&& 31)) &&& 65535 = ush16 x := by
  refine b_ext (fun i hi => ?_)
  rw [b_and, b_65535]
  show (bt (x >>> (nI 16 &&& 31)) i && decide (i < 16)) = bt ((x.toUInt32 >>> ((nI 16).toUInt32 &&& Int32.toUInt32 31)).toInt32) i
  rw [b_sshr 16 (by decide) x hi, b_ushr 16 (by decide)]
  rcases Nat.lt_or_ge i 16 with h | h
  · rw [if_pos (by omega), decide_eq_true h, Bool.and_true]
  · rw [decide_eq_false (by omega), Bool.and_false, b_big (by omega)]
/-! -/
theorem sub11 (a : Int32) : a - 1 - 1 = a - 2 := by
  rw [Int32.sub_eq_add_neg, Int32.sub_eq_add_neg, Int32.sub_eq_add_neg, Int32.add_assoc]
  rfl
theorem sub1add1 (a : Int32) : a - 1 + 1 = a := by
  rw [Int32.sub_eq_add_neg, Int32.add_assoc, show (-1 : Int32) + 1 = 0 from rfl, Int32.add_zero]
theorem add1sub1 (a : Int32) : a + 1 - 1 = a := by
  rw [Int32.sub_eq_add_neg, Int32.add_assoc, show (1 : Int32) + -1 = 0 from rfl, Int32.add_zero]
def popS (s : SS) : SS := setH s (s.h - 1)
theorem ss_eta (s : SS) : (s.1, s.2.1, s.2.2.1, s.2.2.2.1, s.2.2.2.2.1, s.2.2.2.2.2.1, s.2.2.2.2.2.2.1, s.2.2.2.2.2.2.2) = s := rfl
theorem q0_q0 {s : SS} {a b : Int32} : q0 (q0 s a) b = q0 s b := rfl
theorem q0_h' {s : SS} : q0 s s.h = s := rfl
theorem q0_qs {s : SS} {a : Int32} {f : TF} : qs (q0 s a) f = q0 (qs s f) a := rfl
theorem q0_qc {s : SS} {a : Int32} {f : TF} : qc (q0 s a) f = q0 (qc s f) a := rfl
/-- LOAD -/
theorem mo_load {s : SS} {v : Int32} : pushS (popS s) v = setK s (s.h - 1) v := by
  unfold pushS popS
  rw [q0_h, sub1add1]
  rfl
/-- the arithmetic ones -/
theorem mo_join {s : SS} {v : Int32} : pushS (popS (popS s)) v = joinS s v := by
  unfold pushS joinS popS
  rw [q0_h, q0_h, sub1add1]
  rfl
theorem mo_bel {s : SS} : topS (popS s) = belS s := by
  show s.s (s.h - 1 - 1).toNatClampNeg = s.s (s.h - 2).toNatClampNeg
  rw [sub11]
/-- STORE -/
theorem mo_store {s : SS} : setC (popS (popS s)) (topS s) (belS s) = storeS s := by
  unfold storeS popS
  rw [show (setH s (s.h - 1)).h - 1 = s.h - 2 from sub11 s.h]
  rfl
/-- RETURN -/
def mo_r1 (s : SS) : SS := setH s s.f
def mo_r2 (s : SS) : SS := setFr (popS (mo_r1 s)) (topS (mo_r1 s))
def mo_r3 (s : SS) : SS := setP (popS (mo_r2 s)) (topS (mo_r2 s))
theorem mo_r3_eq {s : SS} : mo_r3 s = retS4 s := by
  have e1 : (popS (mo_r2 s)).h = s.f - 2 := by
    show s.f - 1 - 1 = _
    rw [sub11]
  have e2 : topS (mo_r2 s) = belS (retS2 s) := by
    show s.s (s.f - 1 - 1).toNatClampNeg = s.s (s.f - 2).toNatClampNeg
    rw [sub11]
  unfold mo_r3
  rw [e2]
  show q1 (q0 (mo_r2 s) ((mo_r2 s).h - 1)) _ = q0 (q1 (retS2 s) _) (s.f - 2)
  rw [show (mo_r2 s).h - 1 = s.f - 2 from e1]
  rfl
theorem mo_ret {s : SS} : pushS (mo_r3 s) (topS s) = retS s := by rw [mo_r3_eq]; rfl
/-- INPUT -/
theorem mo_input {s : SS} {v : Int32} : pushS (setTk s (s.k + 1)) v = setTk (pushS s v) (s.k + 1) := rfl
def isArgM (f h n : Int32) : Int32 := if f - 3 < n then 0 else if n ≤ f - 3 - h then 0 else 1
theorem argOf_in (w : Int32) : -67108864 ≤ (argOf w).toInt ∧ (argOf w).toInt < 67108864 := by
  have h := pk_shr w ((5 : Int32) &&& 31) 5 (by decide)
  have h1 := w.le_toInt
  have h2 := w.toInt_lt
  unfold argOf
  rw [h, Int.shiftRight_eq_div_pow]
  omega
theorem isArgB_01 (f h n : Int32) : isArgB f h n = 0 ∨ isArgB f h n = 1 := by
  unfold isArgB
  split
  · exact Or.inl rfl
  · split
    · exact Or.inl rfl
    · exact Or.inr rfl
theorem isArg_eq {f n : Int32} {h : Nat} (h24 : h ≤ 24) (n1 : -67108864 ≤ n.toInt) (n2 : n.toInt < 67108864) : isArgM f (nI h) n = isArgB f (nI h) n := by
  have f1 := f.le_toInt
  have f2 := f.toInt_lt
  have e1 : (f.toInt64 - 3 - n.toInt64).toInt = f.toInt - 3 - n.toInt := by
    rw [Int64.toInt_sub, Int64.toInt_sub, i64_of, i64_of]
    show ((f.toInt - 3).bmod 18446744073709551616 - n.toInt).bmod 18446744073709551616 = _
    rw [bm64 (z := f.toInt - 3) (by omega) (by omega), bm64 (by omega) (by omega)]
  have l1 : lg_cmp (f.toInt64 - 3 - n.toInt64) 0 < 0 ↔ f.toInt - 3 - n.toInt < 0 := by
    rw [lg_lt, Int64.lt_iff_toInt_lt, e1]; rfl
  have l2 : 0 ≤ lg_cmp (f.toInt64 - 3 - n.toInt64) (nI h).toInt64 ↔ ¬ f.toInt - 3 - n.toInt < h := by
    rw [← Int32.not_lt, lg_lt, Int64.lt_iff_toInt_lt, e1, i64_of, nI_toInt (by omega)]
  have d1 : (f - 3).toInt = f.toInt - 3 ∨ (f - 3).toInt = f.toInt - 3 + 4294967296 ∧ f.toInt < -2147483645 := by
    rw [Int32.toInt_sub]
    show (f.toInt - 3).bmod 4294967296 = _ ∨ (f.toInt - 3).bmod 4294967296 = _ ∧ _
    unfold Int.bmod
    dsimp only
    split <;> omega
  have m1 : f - 3 < n ↔ (f - 3).toInt < n.toInt := Int32.lt_iff_toInt_lt
  have d2 : (f - 3 - nI h).toInt = (f - 3).toInt - h ∨ (f - 3 - nI h).toInt = (f - 3).toInt - h + 4294967296 ∧ (f - 3).toInt < -2147483624 := by
    have g1 := (f - 3).le_toInt
    have g2 := (f - 3).toInt_lt
    rw [Int32.toInt_sub, nI_toInt (by omega)]
    show ((f - 3).toInt - h).bmod 4294967296 = _ ∨ ((f - 3).toInt - h).bmod 4294967296 = _ ∧ _
    unfold Int.bmod
    dsimp only
    split <;> omega
  have m2 : n ≤ f - 3 - nI h ↔ n.toInt ≤ (f - 3 - nI h).toInt := Int32.le_iff_toInt_le
  unfold isArgM isArgB
  by_cases a : f - 3 < n
  · rw [if_pos a]
    have a' := m1.mp a
    by_cases b : lg_cmp (f.toInt64 - 3 - n.toInt64) 0 < 0
    · rw [if_pos b]
    · have b' : ¬ f.toInt - 3 - n.toInt < 0 := fun q => b (l1.mpr q)
      omega
  · rw [if_neg a]
    have a' : ¬ (f - 3).toInt < n.toInt := fun q => a (m1.mpr q)
    by_cases c : n ≤ f - 3 - nI h
    · rw [if_pos c]
      have c' := m2.mp c
      by_cases b : lg_cmp (f.toInt64 - 3 - n.toInt64) 0 < 0
      · rw [if_pos b]
      · rw [if_neg b, if_pos (l2.mpr (by
          have b' : ¬ f.toInt - 3 - n.toInt < 0 := fun q => b (l1.mpr q)
          omega))]
    · rw [if_neg c]
      have c' : ¬ n.toInt ≤ (f - 3 - nI h).toInt := fun q => c (m2.mpr q)
      rw [if_neg (fun q => by have q' := l1.mp q; omega), if_neg (fun q => by have q' := l2.mp q; omega)]
def growsL : List Int32 := [0, 1, -1, 1, 0, -1, -1, -1, -1, -1, 0, -2, 0, -1, -1, 2, 0, 1, 1, 1, 1]
def reck (op : Nat) (a b : Int32) : Int32 := match op with
  | 5 => a + b
  | 6 => a - b
  | 7 => a * b
  | 8 => a / b
  | _ => if a < b then 1 else 0
def brS (op : Nat) (n : Int32) (s : SS) : SS := match op with
  | 12 => setP s n
  | 13 => if topS s = 0 then setP (setH s (s.h - 1)) n else setH s (s.h - 1)
  | _ => if topS s < 0 then setP (setH s (s.h - 1)) n else setH s (s.h - 1)
