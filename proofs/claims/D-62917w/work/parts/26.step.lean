/-- all that a step, which can be done, keeps -/
theorem stp_op {ip : TF} {s T : SS} {h tk g op : Nat} {n : Int32} (hh : s.h = nI h) (h24 : h ≤ 24) (hk : s.k = nI tk) (htk : tk ≤ g) (hg : g ≤ 40) (o1 : op < 21) (o0 : ¬ op = 0) (g3 : ¬ s.h < opTakes.getD op 0) (g4 : chkOp (nI g) s op n = 0) (g5 : s.h - opTakes.getD op 0 + opLeaves.getD op 0 ≤ 24) : (∃ h2, h2 ≤ 24 ∧ (stpOp ip op n (adv s)).h = nI h2) ∧ (∃ k2, k2 ≤ g ∧ (stpOp ip op n (adv s)).k = nI k2) ∧ (stpOp ip op n (adv s)).t = s.t + 1 ∧ Und s (stpOp ip op n (adv s)) (stpOpT op (adv s) (begT s T)) := by
  have top1 : ∀ m : Nat, h = m + 1 → s.h - 1 = nI m := fun m e => by rw [hh, e, nI_pred]
  have top2 : 2 ≤ h → s.h - 2 = nI (h - 2) := fun e => by rw [hh, show (2 : Int32) = nI 2 from rfl, pk_sub e]
  have cl : ∀ m : Nat, m < 100 → (nI m).toNatClampNeg = m := fun m e => nI_clamp (by omega)
  rcases op_cases o1 o0 with rfl | rfl | rfl | rfl | rfl | rfl | rfl | rfl | rfl | rfl | rfl | rfl | rfl | rfl | rfl | rfl | rfl | rfl | rfl | rfl
  · obtain ⟨z1, z2⟩ := chk_h (tk := 0) (lv := 1) hh h24 (by decide) (by decide) g3 g5
    refine ⟨⟨h + 1, by omega, by show s.h + 1 = _; rw [hh, nI_1]⟩, ⟨tk, htk, hk⟩, rfl, fin1 (q := h) (w := n) (by omega) hh ?_ rfl rfl ?_⟩
    · show s.s s.h.toNatClampNeg = _; rw [hh, cl h (by omega)]
    · show upd s.s s.h.toNatClampNeg _ = _; rw [hh, cl h (by omega)]
  · obtain ⟨z1, z2⟩ := chk_h (tk := 1) (lv := 0) hh h24 (by decide) (by decide) g3 g5
    obtain ⟨m, rfl⟩ : ∃ m, h = m + 1 := ⟨h - 1, by omega⟩
    exact ⟨⟨m, by omega, top1 m rfl⟩, ⟨tk, htk, hk⟩, rfl, fin0 rfl rfl rfl⟩
  · obtain ⟨z1, z2⟩ := chk_h (tk := 1) (lv := 2) hh h24 (by decide) (by decide) g3 g5
    refine ⟨⟨h + 1, by omega, by show s.h + 1 = _; rw [hh, nI_1]⟩, ⟨tk, htk, hk⟩, rfl, fin1 (q := h) (w := topS (adv s)) (by omega) hh ?_ rfl rfl ?_⟩
    · show s.s s.h.toNatClampNeg = _; rw [hh, cl h (by omega)]
    · show upd s.s s.h.toNatClampNeg _ = _; rw [hh, cl h (by omega)]
  · obtain ⟨z1, z2⟩ := chk_h (tk := 2) (lv := 2) hh h24 (by decide) (by decide) g3 g5
    obtain ⟨m, rfl⟩ : ∃ m, h = m + 1 := ⟨h - 1, by omega⟩
    refine ⟨⟨m + 1, h24, hh⟩, ⟨tk, htk, hk⟩, rfl, fin2 (q := m) (r := m + 1 - 2) (w := belS s) (w2 := topS s) (by omega) (by omega) (top1 m rfl) ?_ (top2 (by omega)) ?_ rfl rfl ?_⟩
    · show s.s (s.h - 1).toNatClampNeg = _; rw [top1 m rfl, cl m (by omega)]
    · show upd s.s (s.h - 1).toNatClampNeg (belS s) (s.h - 2).toNatClampNeg = _; rw [top1 m rfl, top2 (by omega), cl m (by omega), cl _ (by omega)]
    · show upd (upd s.s (s.h - 1).toNatClampNeg (belS s)) (s.h - 2).toNatClampNeg (topS s) = _; rw [top1 m rfl, top2 (by omega), cl m (by omega), cl _ (by omega)]
  · obtain ⟨z1, z2⟩ := chk_h (tk := 2) (lv := 1) hh h24 (by decide) (by decide) g3 g5
    obtain ⟨m, rfl⟩ : ∃ m, h = m + 1 := ⟨h - 1, by omega⟩
    have j1 : s.h - 1 - 1 = nI (m + 1 - 2) := by rw [sub11]; exact top2 (by omega)
    refine ⟨⟨m, by omega, top1 m rfl⟩, ⟨tk, htk, hk⟩, rfl, fin1 (q := m + 1 - 2) (w := belS (adv s) + topS (adv s)) (by omega) j1 ?_ rfl rfl ?_⟩
    · show s.s (s.h - 1 - 1).toNatClampNeg = _; rw [j1, cl _ (by omega)]
    · show upd s.s (s.h - 1 - 1).toNatClampNeg _ = _; rw [j1, cl _ (by omega)]
  · obtain ⟨z1, z2⟩ := chk_h (tk := 2) (lv := 1) hh h24 (by decide) (by decide) g3 g5
    obtain ⟨m, rfl⟩ : ∃ m, h = m + 1 := ⟨h - 1, by omega⟩
    have j1 : s.h - 1 - 1 = nI (m + 1 - 2) := by rw [sub11]; exact top2 (by omega)
    refine ⟨⟨m, by omega, top1 m rfl⟩, ⟨tk, htk, hk⟩, rfl, fin1 (q := m + 1 - 2) (w := belS (adv s) - topS (adv s)) (by omega) j1 ?_ rfl rfl ?_⟩
    · show s.s (s.h - 1 - 1).toNatClampNeg = _; rw [j1, cl _ (by omega)]
    · show upd s.s (s.h - 1 - 1).toNatClampNeg _ = _; rw [j1, cl _ (by omega)]
  · obtain ⟨z1, z2⟩ := chk_h (tk := 2) (lv := 1) hh h24 (by decide) (by decide) g3 g5
    obtain ⟨m, rfl⟩ : ∃ m, h = m + 1 := ⟨h - 1, by omega⟩
    have j1 : s.h - 1 - 1 = nI (m + 1 - 2) := by rw [sub11]; exact top2 (by omega)
    refine ⟨⟨m, by omega, top1 m rfl⟩, ⟨tk, htk, hk⟩, rfl, fin1 (q := m + 1 - 2) (w := belS (adv s) * topS (adv s)) (by omega) j1 ?_ rfl rfl ?_⟩
    · show s.s (s.h - 1 - 1).toNatClampNeg = _; rw [j1, cl _ (by omega)]
    · show upd s.s (s.h - 1 - 1).toNatClampNeg _ = _; rw [j1, cl _ (by omega)]
  · obtain ⟨z1, z2⟩ := chk_h (tk := 2) (lv := 1) hh h24 (by decide) (by decide) g3 g5
    obtain ⟨m, rfl⟩ : ∃ m, h = m + 1 := ⟨h - 1, by omega⟩
    have j1 : s.h - 1 - 1 = nI (m + 1 - 2) := by rw [sub11]; exact top2 (by omega)
    refine ⟨⟨m, by omega, top1 m rfl⟩, ⟨tk, htk, hk⟩, rfl, fin1 (q := m + 1 - 2) (w := belS (adv s) / topS (adv s)) (by omega) j1 ?_ rfl rfl ?_⟩
    · show s.s (s.h - 1 - 1).toNatClampNeg = _; rw [j1, cl _ (by omega)]
    · show upd s.s (s.h - 1 - 1).toNatClampNeg _ = _; rw [j1, cl _ (by omega)]
  · obtain ⟨z1, z2⟩ := chk_h (tk := 2) (lv := 1) hh h24 (by decide) (by decide) g3 g5
    obtain ⟨m, rfl⟩ : ∃ m, h = m + 1 := ⟨h - 1, by omega⟩
    have j1 : s.h - 1 - 1 = nI (m + 1 - 2) := by rw [sub11]; exact top2 (by omega)
    refine ⟨⟨m, by omega, top1 m rfl⟩, ⟨tk, htk, hk⟩, rfl, fin1 (q := m + 1 - 2) (w := (if belS (adv s) < topS (adv s) then 1 else 0)) (by omega) j1 ?_ rfl rfl ?_⟩
    · show s.s (s.h - 1 - 1).toNatClampNeg = _; rw [j1, cl _ (by omega)]
    · show upd s.s (s.h - 1 - 1).toNatClampNeg _ = _; rw [j1, cl _ (by omega)]
  · obtain ⟨z1, z2⟩ := chk_h (tk := 1) (lv := 1) hh h24 (by decide) (by decide) g3 g5
    obtain ⟨m, rfl⟩ : ∃ m, h = m + 1 := ⟨h - 1, by omega⟩
    refine ⟨⟨m + 1, h24, hh⟩, ⟨tk, htk, hk⟩, rfl, fin1 (q := m) (w := (adv s).c (topS (adv s)).toNatClampNeg) (by omega) (top1 m rfl) ?_ rfl rfl ?_⟩
    · show s.s (s.h - 1).toNatClampNeg = _; rw [top1 m rfl, cl m (by omega)]
    · show upd s.s (s.h - 1).toNatClampNeg _ = _; rw [top1 m rfl, cl m (by omega)]
  · obtain ⟨z1, z2⟩ := chk_h (tk := 2) (lv := 0) hh h24 (by decide) (by decide) g3 g5
    have e : chkOp (nI g) s 11 n = (if topS s < 0 then 4 else if topS s < 32 then 0 else 4) := rfl
    rw [e] at g4
    obtain ⟨q, hq, eq⟩ : ∃ q, q < 32 ∧ topS s = nI q := by
      by_cases a : topS s < 0
      · rw [if_pos a] at g4; exact absurd g4 (by decide)
      · rw [if_neg a] at g4
        by_cases b : topS s < 32
        · exact in_ex a b (by decide)
        · rw [if_neg b] at g4; exact absurd g4 (by decide)
    refine ⟨⟨h - 2, by omega, top2 (by omega)⟩, ⟨tk, htk, hk⟩, rfl, fin1c (q := q) (w := belS s) hq ?_ ?_ rfl ?_ rfl⟩
    · show 100 + topS s = _; rw [eq]; exact nI_add 100 q
    · show s.c (topS s).toNatClampNeg = _; rw [eq, cl q (by omega)]
    · show upd s.c (topS s).toNatClampNeg (belS s) = _; rw [eq, cl q (by omega)]
  · obtain ⟨z1, z2⟩ := chk_h (tk := 0) (lv := 0) hh h24 (by decide) (by decide) g3 g5
    exact ⟨⟨h, h24, hh⟩, ⟨tk, htk, hk⟩, rfl, fin0 rfl rfl rfl⟩
  · obtain ⟨z1, z2⟩ := chk_h (tk := 1) (lv := 0) hh h24 (by decide) (by decide) g3 g5
    obtain ⟨m, rfl⟩ : ∃ m, h = m + 1 := ⟨h - 1, by omega⟩
    have e : stpOp ip 13 n (adv s) = if topS (adv s) = 0 then setP (setH (adv s) (s.h - 1)) n else setH (adv s) (s.h - 1) := rfl
    have e2 : stpOpT 13 (adv s) (begT s T) = begT s T := rfl
    rw [e, e2]
    split
    · exact ⟨⟨m, by omega, top1 m rfl⟩, ⟨tk, htk, hk⟩, rfl, fin0 rfl rfl rfl⟩
    · exact ⟨⟨m, by omega, top1 m rfl⟩, ⟨tk, htk, hk⟩, rfl, fin0 rfl rfl rfl⟩
  · obtain ⟨z1, z2⟩ := chk_h (tk := 1) (lv := 0) hh h24 (by decide) (by decide) g3 g5
    obtain ⟨m, rfl⟩ : ∃ m, h = m + 1 := ⟨h - 1, by omega⟩
    have e : stpOp ip 14 n (adv s) = if topS (adv s) < 0 then setP (setH (adv s) (s.h - 1)) n else setH (adv s) (s.h - 1) := rfl
    have e2 : stpOpT 14 (adv s) (begT s T) = begT s T := rfl
    rw [e, e2]
    split
    · exact ⟨⟨m, by omega, top1 m rfl⟩, ⟨tk, htk, hk⟩, rfl, fin0 rfl rfl rfl⟩
    · exact ⟨⟨m, by omega, top1 m rfl⟩, ⟨tk, htk, hk⟩, rfl, fin0 rfl rfl rfl⟩
  · obtain ⟨z1, z2⟩ := chk_h (tk := 0) (lv := 2) hh h24 (by decide) (by decide) g3 g5
    refine ⟨⟨h + 2, by omega, by show s.h + 1 + 1 = _; rw [hh, nI_1, nI_1]⟩, ⟨tk, htk, hk⟩, rfl, fin2 (q := h) (r := h + 1) (w := s.p + 1) (w2 := s.f) (by omega) (by omega) hh ?_ (by show s.h + 1 = _; rw [hh, nI_1]) ?_ rfl rfl ?_⟩
    · show s.s s.h.toNatClampNeg = _; rw [hh, cl h (by omega)]
    · show upd s.s s.h.toNatClampNeg (s.p + 1) (s.h + 1).toNatClampNeg = _; rw [hh, nI_1, cl h (by omega), cl (h + 1) (by omega)]
    · show upd (upd s.s s.h.toNatClampNeg (s.p + 1)) (s.h + 1).toNatClampNeg s.f = _; rw [hh, nI_1, cl h (by omega), cl (h + 1) (by omega)]
  · obtain ⟨z1, z2⟩ := chk_h (tk := 1) (lv := 1) hh h24 (by decide) (by decide) g3 g5
    have e : chkOp (nI g) s 16 n = (if s.f < 2 then 2 else if s.f < s.h then 0 else 2) := rfl
    rw [e] at g4
    obtain ⟨q, hq, eq⟩ : ∃ q, (2 ≤ q ∧ q < h) ∧ s.f = nI q := by
      by_cases a : s.f < 2
      · rw [if_pos a] at g4; exact absurd g4 (by decide)
      · rw [if_neg a] at g4
        by_cases b : s.f < s.h
        · rw [hh] at b
          obtain ⟨q, q1, q2⟩ := in_ex (n := h) (fun z => a (Int32.lt_trans z (by decide))) b (by omega)
          refine ⟨q, ⟨?_, q1⟩, q2⟩
          rcases Nat.lt_or_ge q 2 with w | w
          · exact absurd (by rw [q2]; exact nI_lt (b := 2) w (by decide)) a
          · exact w
        · rw [if_neg b] at g4; exact absurd g4 (by decide)
    have f2 : s.f - 2 = nI (q - 2) := by rw [eq, show (2 : Int32) = nI 2 from rfl, pk_sub hq.1]
    refine ⟨⟨q - 2 + 1, by omega, by show s.f - 2 + 1 = _; rw [f2, nI_1]⟩, ⟨tk, htk, hk⟩, rfl, fin1 (q := q - 2) (w := topS s) (by omega) f2 ?_ rfl rfl ?_⟩
    · show s.s (s.f - 2).toNatClampNeg = _; rw [f2, cl _ (by omega)]
    · show upd s.s (s.f - 2).toNatClampNeg _ = _; rw [f2, cl _ (by omega)]; rfl
  · obtain ⟨z1, z2⟩ := chk_h (tk := 0) (lv := 1) hh h24 (by decide) (by decide) g3 g5
    refine ⟨⟨h + 1, by omega, by show s.h + 1 = _; rw [hh, nI_1]⟩, ⟨tk, htk, hk⟩, rfl, fin1 (q := h) (w := (adv s).s ((adv s).f - 3 - n).toNatClampNeg) (by omega) hh ?_ rfl rfl ?_⟩
    · show s.s s.h.toNatClampNeg = _; rw [hh, cl h (by omega)]
    · show upd s.s s.h.toNatClampNeg _ = _; rw [hh, cl h (by omega)]
  · obtain ⟨z1, z2⟩ := chk_h (tk := 0) (lv := 1) hh h24 (by decide) (by decide) g3 g5
    have z3 : tk < g := by
      have e : chkOp (nI g) s 18 n = (if s.k < nI g then 0 else 7) := rfl
      rw [e] at g4
      by_cases q : s.k < nI g
      · rw [hk] at q; exact (nI_ltI (by omega) (by omega)).mp q
      · rw [if_neg q] at g4; exact absurd g4 (by decide)
    refine ⟨⟨h + 1, by omega, by show s.h + 1 = _; rw [hh, nI_1]⟩, ⟨tk + 1, z3, by show s.k + 1 = _; rw [hk, nI_1]⟩, rfl, fin1 (q := h) (w := ip (adv s).k.toNatClampNeg) (by omega) hh ?_ rfl rfl ?_⟩
    · show s.s s.h.toNatClampNeg = _; rw [hh, cl h (by omega)]
    · show upd s.s s.h.toNatClampNeg _ = _; rw [hh, cl h (by omega)]
  · obtain ⟨z1, z2⟩ := chk_h (tk := 0) (lv := 1) hh h24 (by decide) (by decide) g3 g5
    refine ⟨⟨h + 1, by omega, by show s.h + 1 = _; rw [hh, nI_1]⟩, ⟨tk, htk, hk⟩, rfl, fin1 (q := h) (w := jrem (ush16 (nextX (adv s).x)) n) (by omega) hh ?_ rfl rfl ?_⟩
    · show s.s s.h.toNatClampNeg = _; rw [hh, cl h (by omega)]
    · show upd s.s s.h.toNatClampNeg _ = _; rw [hh, cl h (by omega)]
  · obtain ⟨z1, z2⟩ := chk_h (tk := 0) (lv := 1) hh h24 (by decide) (by decide) g3 g5
    refine ⟨⟨h + 1, by omega, by show s.h + 1 = _; rw [hh, nI_1]⟩, ⟨tk, htk, hk⟩, rfl, fin1 (q := h) (w := (adv s).f) (by omega) hh ?_ rfl rfl ?_⟩
    · show s.s s.h.toNatClampNeg = _; rw [hh, cl h (by omega)]
    · show upd s.s s.h.toNatClampNeg _ = _; rw [hh, cl h (by omega)]
theorem stp_all {cd ip : TF} {s : SS} {h tk g : Nat} (hh : s.h = nI h) (h24 : h ≤ 24) (hk : s.k = nI tk) (htk : tk ≤ g) (hg : g ≤ 40) (hc : chk cd (nI g) s = 0) (T : SS) : (∃ h2, h2 ≤ 24 ∧ (stp cd ip s).h = nI h2) ∧ (∃ k2, k2 ≤ g ∧ (stp cd ip s).k = nI k2) ∧ (stp cd ip s).t = s.t + 1 ∧ Und s (stp cd ip s) (stpT cd s T) := by
  obtain ⟨-, -, o1, o0, g3, g4, g5⟩ := chk_inv hc
  exact stp_op hh h24 hk htk hg o1 o0 g3 g4 g5
theorem chkOp_g {a b : Int32} {s : SS} {op : Nat} {n : Int32} (h : ¬ op = 18) : chkOp a s op n = chkOp b s op n := by
  unfold chkOp
  rw [if_neg h, if_neg h]
theorem stpOp_g {ip ip2 : TF} {s : SS} {op : Nat} {n : Int32} (o1 : op < 21) (o0 : ¬ op = 0) (h : ¬ op = 18) : stpOp ip2 op n s = stpOp ip op n s := by
  rcases op_cases o1 o0 with rfl | rfl | rfl | rfl | rfl | rfl | rfl | rfl | rfl | rfl | rfl | rfl | rfl | rfl | rfl | rfl | rfl | rfl | rfl | rfl <;> first | rfl | exact absurd rfl h
/-- more input changes nothing of a step that could be done -/
theorem stp_more {cd ip ip2 : TF} {s : SS} {tk g g2 : Nat} (hk : s.k = nI tk) (htk : tk ≤ g) (hg : g ≤ g2) (hg2 : g2 ≤ 40) (hi : ∀ j, j < g → ip2 j = ip j) (hc : chk cd (nI g) s = 0) : chk cd (nI g2) s = 0 ∧ stp cd ip2 s = stp cd ip s := by
  obtain ⟨p0, p1, o1, o0, g3, g4, g5⟩ := chk_inv hc
  have key : chkOp (nI g2) s (opOf (wAt cd s)) (argOf (wAt cd s)) = 0 ∧ stp cd ip2 s = stp cd ip s := by
    unfold stp
    generalize opOf (wAt cd s) = op at *
    generalize argOf (wAt cd s) = n at *
    by_cases h18 : op = 18
    · subst h18
      have e : ∀ gg, chkOp gg s 18 n = (if s.k < gg then 0 else 7) := fun _ => rfl
      rw [e] at g4
      have z : tk < g := by
        by_cases q : s.k < nI g
        · rw [hk] at q; exact (nI_ltI (by omega) (by omega)).mp q
        · rw [if_neg q] at g4; exact absurd g4 (by decide)
      refine ⟨by rw [e, hk, if_pos (nI_lt (by omega) (by omega))], ?_⟩
      show setTk (pushS (adv s) (ip2 s.k.toNatClampNeg)) (s.k + 1) = setTk (pushS (adv s) (ip s.k.toNatClampNeg)) (s.k + 1)
      rw [hk, nI_clamp (by omega), hi tk z]
    · exact ⟨(chkOp_g h18).trans g4, stpOp_g o1 o0 h18⟩
  refine ⟨?_, key.2⟩
  unfold chk
  rw [if_neg p0, if_pos p1]
  unfold chkW
  rw [if_neg (fun q => q o1), if_neg o0, if_neg g3, if_pos key.1, if_pos g5]
