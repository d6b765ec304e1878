/-! ===== one step: the pure word ===== -/
def adv (s : SS) : SS := q5 (q1 s (s.p + 1)) (s.t + 1)
def stpOp (inputs : TF) (op : Nat) (n : Int32) (s : SS) : SS := match op with
  | 1 => pushS s n
  | 2 => setH s (s.h - 1)
  | 3 => pushS s (topS s)
  | 4 => swapS s
  | 5 => joinS s (belS s + topS s)
  | 6 => joinS s (belS s - topS s)
  | 7 => joinS s (belS s * topS s)
  | 8 => joinS s (belS s / topS s)
  | 9 => joinS s (if belS s < topS s then 1 else 0)
  | 10 => setK s (s.h - 1) (s.c (topS s).toNatClampNeg)
  | 11 => storeS s
  | 12 => setP s n
  | 13 => if topS s = 0 then setP (setH s (s.h - 1)) n else setH s (s.h - 1)
  | 14 => if topS s < 0 then setP (setH s (s.h - 1)) n else setH s (s.h - 1)
  | 15 => jsrS s n
  | 16 => retS s
  | 17 => pushS s (s.s (s.f - 3 - n).toNatClampNeg)
  | 18 => setTk (pushS s (inputs s.k.toNatClampNeg)) (s.k + 1)
  | 19 => pushS (setX s (nextX s.x)) (jrem (ush16 (nextX s.x)) n)
  | _ => pushS s s.f
def stpOpT (op : Nat) (s t : SS) : SS := match op with
  | 2 => t
  | 4 => swapT s t
  | 5 => joinT s t
  | 6 => joinT s t
  | 7 => joinT s t
  | 8 => joinT s t
  | 9 => joinT s t
  | 10 => addT t (s.h - 1) (s.s (s.h - 1).toNatClampNeg)
  | 11 => storeT s t
  | 12 => t
  | 13 => t
  | 14 => t
  | 15 => jsrT s t
  | 16 => retT s t
  | _ => pushT s t
abbrev wAt (code : TF) (s : SS) : Int32 := code s.p.toNatClampNeg
def stp (code inputs : TF) (s : SS) : SS := stpOp inputs (opOf (wAt code s)) (argOf (wAt code s)) (adv s)
def stpT (code : TF) (s t : SS) : SS := stpOpT (opOf (wAt code s)) (adv s) (begT s t)
theorem chk_inv {code : TF} {given : Int32} {s : SS} (h : chk code given s = 0) : ¬ s.p < 0 ∧ s.p < 64 ∧ opOf (wAt code s) < 21 ∧ ¬ opOf (wAt code s) = 0 ∧ ¬ s.h < opTakes.getD (opOf (wAt code s)) 0 ∧ chkOp given s (opOf (wAt code s)) (argOf (wAt code s)) = 0 ∧ s.h - opTakes.getD (opOf (wAt code s)) 0 + opLeaves.getD (opOf (wAt code s)) 0 ≤ 24 := by
  unfold chk at h
  split at h
  · exact absurd h (by decide)
  · next p0 =>
    split at h
    · next p1 =>
      unfold chkW at h
      split at h
      · exact absurd h (by decide)
      · next g1 =>
        split at h
        · exact absurd h (by decide)
        · next g2 =>
          split at h
          · exact absurd h (by decide)
          · next g3 =>
            split at h
            · next g4 =>
              split at h
              · next g5 => exact ⟨p0, p1, Decidable.not_not.mp g1, g2, g3, g4, g5⟩
              · exact absurd h (by decide)
            · next g4 => exact absurd h g4
    · exact absurd h (by decide)
/-- the numbers that an instruction needs and makes, as numbers -/
theorem chk_h {s : SS} {h tk lv : Nat} (hh : s.h = nI h) (h24 : h ≤ 24) (ht : tk ≤ 24) (hl : lv ≤ 24) (g3 : ¬ s.h < nI tk) (g5 : s.h - nI tk + nI lv ≤ 24) : tk ≤ h ∧ h - tk + lv ≤ 24 := by
  have h1 : tk ≤ h := by
    rcases Nat.lt_or_ge h tk with q | q
    · exact absurd (by rw [hh]; exact nI_lt q (by omega)) g3
    · exact q
  refine ⟨h1, ?_⟩
  rw [hh, pk_sub h1, nI_add] at g5
  exact (nI_leI (b := 24) (by omega) (by decide)).mp g5
theorem i64_of (x : Int32) : x.toInt64.toInt = x.toInt := by simp
theorem lg_lt {a b : Int64} : lg_cmp a b < 0 ↔ a < b := by
  unfold lg_cmp
  constructor
  · intro h
    split at h
    · exact absurd h (by decide)
    · split at h
      · exact absurd h (by decide)
      · next h1 h2 => exact Int64.lt_of_le_of_ne (Int64.not_lt.mp h1) (fun e => h2 e)
  · intro h
    rw [if_neg (fun q => absurd (Int64.lt_trans h q) (Int64.lt_irrefl)), if_neg (fun e => absurd (e ▸ h) (Int64.lt_irrefl))]
    decide
theorem bm64 {z : Int} (h1 : -9223372036854775808 ≤ z) (h2 : z < 9223372036854775808) : z.bmod 18446744073709551616 = z := by
  unfold Int.bmod
  dsimp only
  split <;> omega
theorem argJ {f n : Int32} {hh : Nat} (h24 : hh ≤ 24) (hne : ¬ isArgB f (nI hh) n = 0) : ∃ j, j < hh ∧ f - 3 - n = nI j := by
  unfold isArgB at hne
  split at hne
  · exact absurd rfl hne
  · next a1 =>
    split at hne
    · exact absurd rfl hne
    · next a2 =>
      have b1 : ¬ (f.toInt64 - 3 - n.toInt64) < 0 := fun q => a1 (lg_lt.mpr q)
      have b2 : (f.toInt64 - 3 - n.toInt64) < (nI hh).toInt64 := lg_lt.mp (k2_lt (fun q => a2 q))
      have f1 := f.le_toInt
      have f2 := f.toInt_lt
      have n1 := n.le_toInt
      have n2 := n.toInt_lt
      have e1 : (f.toInt64 - 3 - n.toInt64).toInt = f.toInt - 3 - n.toInt := by
        rw [Int64.toInt_sub, Int64.toInt_sub, i64_of, i64_of]
        show ((f.toInt - 3).bmod 18446744073709551616 - n.toInt).bmod 18446744073709551616 = _
        rw [bm64 (z := f.toInt - 3) (by omega) (by omega), bm64 (by omega) (by omega)]
      have c1 : 0 ≤ f.toInt - 3 - n.toInt := by
        rw [← e1]
        have := Int64.not_lt.mp b1
        simpa using Int64.le_iff_toInt_le.mp this
      have c2 : f.toInt - 3 - n.toInt < hh := by
        have := Int64.lt_iff_toInt_lt.mp b2
        rw [e1, i64_of, nI_toInt (by omega)] at this
        exact this
      refine ⟨(f.toInt - 3 - n.toInt).toNat, by omega, ?_⟩
      apply Int32.toInt_inj.mp
      rw [nI_toInt (by omega), Int32.toInt_sub, Int32.toInt_sub]
      show ((f.toInt - 3).bmod 4294967296 - n.toInt).bmod 4294967296 = _
      have e2 : (f.toInt - 3).bmod 4294967296 = f.toInt - 3 ∨ (f.toInt - 3).bmod 4294967296 = f.toInt - 3 + 4294967296 := by
        unfold Int.bmod
        dsimp only
        split <;> omega
      generalize (f.toInt - 3).bmod 4294967296 = a at e2 ⊢
      unfold Int.bmod
      dsimp only
      split <;> omega
