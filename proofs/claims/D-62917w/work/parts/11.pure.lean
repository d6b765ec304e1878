/-! ===== pure words for States and Notes ===== -/
def P2 (σ : SGG) (i j : Nat) (s t : SS) : SGG := sS (sT σ j t) i s
section PP
variable {σ : SGG} {i j : Nat} {s t s' t' : SS}
theorem P2_S : (P2 σ i j s t).S i = s := va_up_self _ _ _
theorem P2_T : (P2 σ i j s t).T j = t := va_up_self _ _ _
theorem P2_setS : sS (P2 σ i j s t) i s' = P2 σ i j s' t := sS_sS
theorem P2_setT : sT (P2 σ i j s t) j t' = P2 σ i j s t' := by
  show sS (sT (sT σ j t) j t') i s = sS (sT σ j t') i s
  rw [sT_sT]
theorem P2_set2 : sS (sT (P2 σ i j s t) j t') i s' = P2 σ i j s' t' := by rw [P2_setT, P2_setS]
theorem P2_eta : P2 σ i j (σ.S i) (σ.T j) = σ := by
  show sS (sT σ j (σ.T j)) i (σ.S i) = σ
  rw [sT_eta, sS_eta]
end PP
abbrev SS.h (s : SS) : Int32 := s.1
abbrev SS.p (s : SS) : Int32 := s.2.1
abbrev SS.f (s : SS) : Int32 := s.2.2.1
abbrev SS.x (s : SS) : Int32 := s.2.2.2.1
abbrev SS.k (s : SS) : Int32 := s.2.2.2.2.1
abbrev SS.t (s : SS) : Int32 := s.2.2.2.2.2.1
/-- a note's count of changes -/
abbrev SS.n (s : SS) : Int32 := s.2.2.2.2.2.1
section QP
variable {s : SS} {v : Int32} {g : TF}
theorem q0_h : (q0 s v).h = v := rfl
theorem q0_p : (q0 s v).p = s.p := rfl
theorem q0_f : (q0 s v).f = s.f := rfl
theorem q0_x : (q0 s v).x = s.x := rfl
theorem q0_k : (q0 s v).k = s.k := rfl
theorem q0_t : (q0 s v).t = s.t := rfl
theorem q0_c : (q0 s v).c = s.c := rfl
theorem q0_s : (q0 s v).s = s.s := rfl
theorem q1_h : (q1 s v).h = s.h := rfl
theorem q1_p : (q1 s v).p = v := rfl
theorem q1_f : (q1 s v).f = s.f := rfl
theorem q1_x : (q1 s v).x = s.x := rfl
theorem q1_k : (q1 s v).k = s.k := rfl
theorem q1_t : (q1 s v).t = s.t := rfl
theorem q1_c : (q1 s v).c = s.c := rfl
theorem q1_s : (q1 s v).s = s.s := rfl
theorem q2_h : (q2 s v).h = s.h := rfl
theorem q2_p : (q2 s v).p = s.p := rfl
theorem q2_f : (q2 s v).f = v := rfl
theorem q2_x : (q2 s v).x = s.x := rfl
theorem q2_k : (q2 s v).k = s.k := rfl
theorem q2_t : (q2 s v).t = s.t := rfl
theorem q2_c : (q2 s v).c = s.c := rfl
theorem q2_s : (q2 s v).s = s.s := rfl
theorem q3_h : (q3 s v).h = s.h := rfl
theorem q3_p : (q3 s v).p = s.p := rfl
theorem q3_f : (q3 s v).f = s.f := rfl
theorem q3_x : (q3 s v).x = v := rfl
theorem q3_k : (q3 s v).k = s.k := rfl
theorem q3_t : (q3 s v).t = s.t := rfl
theorem q3_c : (q3 s v).c = s.c := rfl
theorem q3_s : (q3 s v).s = s.s := rfl
theorem q4_h : (q4 s v).h = s.h := rfl
theorem q4_p : (q4 s v).p = s.p := rfl
theorem q4_f : (q4 s v).f = s.f := rfl
theorem q4_x : (q4 s v).x = s.x := rfl
theorem q4_k : (q4 s v).k = v := rfl
theorem q4_t : (q4 s v).t = s.t := rfl
theorem q4_c : (q4 s v).c = s.c := rfl
theorem q4_s : (q4 s v).s = s.s := rfl
theorem q5_h : (q5 s v).h = s.h := rfl
theorem q5_p : (q5 s v).p = s.p := rfl
theorem q5_f : (q5 s v).f = s.f := rfl
theorem q5_x : (q5 s v).x = s.x := rfl
theorem q5_k : (q5 s v).k = s.k := rfl
theorem q5_t : (q5 s v).t = v := rfl
theorem q5_c : (q5 s v).c = s.c := rfl
theorem q5_s : (q5 s v).s = s.s := rfl
theorem qc_h : (qc s g).h = s.h := rfl
theorem qs_h : (qs s g).h = s.h := rfl
theorem qc_p : (qc s g).p = s.p := rfl
theorem qs_p : (qs s g).p = s.p := rfl
theorem qc_f : (qc s g).f = s.f := rfl
theorem qs_f : (qs s g).f = s.f := rfl
theorem qc_x : (qc s g).x = s.x := rfl
theorem qs_x : (qs s g).x = s.x := rfl
theorem qc_k : (qc s g).k = s.k := rfl
theorem qs_k : (qs s g).k = s.k := rfl
theorem qc_t : (qc s g).t = s.t := rfl
theorem qs_t : (qs s g).t = s.t := rfl
theorem qc_c : (qc s g).c = g := rfl
theorem qs_c : (qs s g).c = s.c := rfl
theorem qc_s : (qc s g).s = s.s := rfl
theorem qs_s : (qs s g).s = g := rfl
end QP
def addT (t : SS) (p v : Int32) : SS := q5 (qs (qc t (upd t.c t.n.toNatClampNeg p)) (upd t.s t.n.toNatClampNeg v)) (t.n + 1)
abbrev setK (s : SS) (k v : Int32) : SS := qs s (upd s.s k.toNatClampNeg v)
abbrev setC (s : SS) (k v : Int32) : SS := qc s (upd s.c k.toNatClampNeg v)
abbrev setH (s : SS) (v : Int32) : SS := q0 s v
abbrev setP (s : SS) (v : Int32) : SS := q1 s v
abbrev setFr (s : SS) (v : Int32) : SS := q2 s v
abbrev setX (s : SS) (v : Int32) : SS := q3 s v
abbrev setTk (s : SS) (v : Int32) : SS := q4 s v
abbrev setTm (s : SS) (v : Int32) : SS := q5 s v
def topS (s : SS) : Int32 := s.s (s.h - 1).toNatClampNeg
def belS (s : SS) : Int32 := s.s (s.h - 2).toNatClampNeg
def pushS (s : SS) (v : Int32) : SS := setH (setK s s.h v) (s.h + 1)
def pushT (s t : SS) : SS := addT t s.h (s.s s.h.toNatClampNeg)
def joinS (s : SS) (v : Int32) : SS := setK (setH s (s.h - 1)) (s.h - 1 - 1) v
def joinT (s t : SS) : SS := addT t (s.h - 1 - 1) (s.s (s.h - 1 - 1).toNatClampNeg)
def storeS (s : SS) : SS := setH (setC s (topS s) (belS s)) (s.h - 2)
def storeT (s t : SS) : SS := addT t (100 + topS s) (s.c (topS s).toNatClampNeg)
def swapS1 (s : SS) : SS := setK s (s.h - 1) (belS s)
def swapS (s : SS) : SS := setK (swapS1 s) (s.h - 2) (topS s)
def swapT (s t : SS) : SS := addT (addT t (s.h - 1) (s.s (s.h - 1).toNatClampNeg)) (s.h - 2) ((swapS1 s).s (s.h - 2).toNatClampNeg)
def jsrS1 (s : SS) : SS := pushS s s.p
def jsrS2 (s : SS) : SS := pushS (jsrS1 s) s.f
def jsrS (s : SS) (to : Int32) : SS := setP (setFr (jsrS2 s) (jsrS2 s).h) to
def jsrT (s t : SS) : SS := pushT (jsrS1 s) (pushT s t)
def retS1 (s : SS) : SS := setH s s.f
def retS2 (s : SS) : SS := setFr (retS1 s) (topS (retS1 s))
def retS3 (s : SS) : SS := setP (retS2 s) (belS (retS2 s))
def retS4 (s : SS) : SS := setH (retS3 s) ((retS3 s).h - 2)
def retS (s : SS) : SS := pushS (retS4 s) (topS s)
def retT (s t : SS) : SS := pushT (retS4 s) t
def nextX (x : Int32) : Int32 := 1103515245 * x + 12345
def jrem (a b : Int32) : Int32 := a - a / b * b
def ush16 (x : Int32) : Int32 := (x.toUInt32 >>> ((16 : Int32).toUInt32 &&& Int32.toUInt32 31)).toInt32
theorem jsrS1_h {s : SS} : (jsrS1 s).h = s.h + 1 := rfl
theorem pushT_n {s t : SS} : (pushT s t).n = t.n + 1 := rfl
/-! the notebook -/
def begT (s t : SS) : SS := q5 (q4 (q3 (q2 (q1 (q0 t s.p) s.f) s.x) s.k) s.h) 0
def nx32 (n : Nat) : Nat := (n + 1) % 32
def pv32 (n : Nat) : Nat := (n + 31) % 32
def up32 (m : Nat) : Nat := if m < 32 then m + 1 else 32
def undo1 (s t : SS) (k : Nat) : SS := if t.c k < 100 then setK s (t.c k) (t.s k) else setC s (t.c k - 100) (t.s k)
def undoN (t : SS) : Nat → SS → SS
  | 0, s => s
  | k + 1, s => undoN t k (undo1 s t k)
def undoS (s t : SS) (c : Nat) : SS := (t.2.2.2.2.1, t.1, t.2.1, t.2.2.1, t.2.2.2.1, (undoN t c s).t - 1, (undoN t c s).c, (undoN t c s).s)
def undoOk (t : SS) (c : Nat) : Prop := ∀ k, k < c → (t.c k < 100 → vp_in (t.c k) 24) ∧ (¬ t.c k < 100 → vp_in (t.c k - 100) 32)
theorem rem32 {n : Nat} (h : n < 2 ^ 30) : nI n - nI n / 32 * 32 = nI (n % 32) := pk_rem (a := n) (d := 32) (by omega) (by decide) (by decide)
theorem i_m1 (a : Int32) : a + Int32.ofInt (-1) = a - 1 := by
  rw [show Int32.ofInt (-1) = -1 from rfl, Int32.sub_eq_add_neg]
theorem nI_1' (n : Nat) : nI n + Int32.ofInt 1 = nI (n + 1) := nI_1 n
def isArgB (f h n : Int32) : Int32 := if lg_cmp (f.toInt64 - 3 - n.toInt64) 0 < 0 then 0 else if 0 ≤ lg_cmp (f.toInt64 - 3 - n.toInt64) h.toInt64 then 0 else 1
