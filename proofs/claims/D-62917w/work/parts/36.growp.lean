/-! ===== the model's growing: plain laws ===== -/
section GP
variable {cd ip : TF} {x0 : Int32} {g t r u c e : Nat} {σ v w : SGG}
theorem mk_mul (a k i : Nat) : nI a * nI k + nI i = nI (a * k + i) := by rw [pk_mul, nI_add]
/-- marks behind a new one -/
theorem mm_mark {k : Nat} {f f2 : TF} (h : Mm cd ip x0 r σ) (hk : r + 1 = 250 * k) (h1 : ∀ j, j < 56 * k → f j = σ.MF 7 j) (h2 : ∀ j, j < 5 * k → f2 j = σ.MF 8 j) (h3 : Mk f f2 k (tr cd ip x0 (r + 1))) : ∀ q, 250 * q ≤ r + 1 → Mk f f2 q (tr cd ip x0 (250 * q)) := by
  intro q hq
  rcases Nat.lt_or_ge q k with z | z
  · obtain ⟨a1, a2, a3, a4, a5, a6, a7⟩ := h q (by omega)
    exact ⟨fun i hi => by rw [h1 _ (by omega)]; exact a1 i hi, fun i hi => by rw [h1 _ (by omega)]; exact a2 i hi, by rw [h2 _ (by omega)]; exact a3, by rw [h2 _ (by omega)]; exact a4, by rw [h2 _ (by omega)]; exact a5, by rw [h2 _ (by omega)]; exact a6, by rw [h2 _ (by omega)]; exact a7⟩
  · obtain rfl : q = k := by omega
    rw [← hk]; exact h3
theorem mm_no (h : Mm cd ip x0 r σ) (hk : ¬ (r + 1) % 250 = 0) : ∀ q, 250 * q ≤ r + 1 → Mk (σ.MF 7) (σ.MF 8) q (tr cd ip x0 (250 * q)) := fun q hq => h q (by omega)
/-- what stands in the middle of grow -/
def GJ (cd ip : TF) (x0 : Int32) (g r u c e : Nat) (σ w : SGG) : Prop :=
  Mg cd ip x0 g (r + 1) w ∧ w.MI 8 = nI (r + 1) ∧ w.MI 9 = nI u ∧ w.MI 10 = nI c ∧ w.MI 11 = nI (ev e) ∧ w.MI 12 = nI (r / ev e + 1) ∧ Mq r e w ∧ Mm cd ip x0 (r + 1) w ∧ frm σ w ∧ w.MF 6 = σ.MF 6
theorem gj_a (hb : Bd cd ip x0 g r r u e) (hc : chk cd (nI g) (tr cd ip x0 r) = 0) (h3k : r < 3000) (hm : ¬ (r + 1) % ev e = 0) (h : GJ cd ip x0 g r u c e σ w) : RD cd ip x0 g (r + 1) (r + 1) u c (eN r r e) w ∧ frm σ w ∧ w.MF 6 = σ.MF 6 := by
  obtain ⟨b1, b2, b3, b4, b5, b6, b7⟩ := hb
  obtain ⟨h1, h2, h3, h4, h5, h6, h7, h8, h9⟩ := h
  have hE : ¬ (r < r + 1 ∧ r + 1 = 8 * ev e) := fun q => hm (by rw [q.2]; exact Nat.mul_mod_left 8 (ev e))
  rw [show eN r r e = e from if_neg hE]
  have ed := div_succ_ne (ev_pos e) hm
  refine ⟨⟨⟨b1, Nat.le_refl _, by omega, b4.snoc hc, b5, b6, ?_⟩, h1, ⟨h2, h3, h4, h5, by rw [ed]; exact h6⟩, fun k hk => h7 k (by rw [ed] at hk; exact hk), h8⟩, h9⟩
  rcases Nat.lt_or_ge (r + 1) (8 * ev e) with q | q
  · exact q
  · exact absurd ⟨by omega, by omega⟩ hE
theorem gj_b (hb : Bd cd ip x0 g r r u e) (hc : chk cd (nI g) (tr cd ip x0 r) = 0) (h3k : r < 3000) (hm : (r + 1) % ev e = 0) (h8 : ¬ r / ev e + 1 = 8) (h : GJ cd ip x0 g r u c e σ w) : RD cd ip x0 g (r + 1) (r + 1) u c (eN r r e) (sMI (sMF w 9 (upd (w.MF 9) (r / ev e + 1) (nI (r + 1)))) 12 (nI (r / ev e + 1 + 1))) ∧ frm σ (sMI (sMF w 9 (upd (w.MF 9) (r / ev e + 1) (nI (r + 1)))) 12 (nI (r / ev e + 1 + 1))) ∧ (sMI (sMF w 9 (upd (w.MF 9) (r / ev e + 1) (nI (r + 1)))) 12 (nI (r / ev e + 1 + 1))).MF 6 = σ.MF 6 := by
  obtain ⟨b1, b2, b3, b4, b5, b6, b7⟩ := hb
  obtain ⟨⟨m1, m2, m3, m4⟩, h2, h3, h4, h5, h6, h7, h9, h10⟩ := h
  have ed := div_succ_eq (ev_pos e) hm
  have e2 := mul_of_mod hm
  rw [ed] at e2
  have z : r / ev e < 8 := Nat.div_lt_of_lt_mul (Nat.mul_comm 8 _ ▸ b7)
  have hE : eN r r e = e := if_neg (fun q => h8 (by
    have w : (r / ev e + 1) * ev e = 8 * ev e := by rw [← e2]; exact q.2
    exact Nat.eq_of_mul_eq_mul_right (ev_pos e) w))
  rw [hE]
  refine ⟨⟨⟨b1, Nat.le_refl _, by omega, b4.snoc hc, b5, b6, ?_⟩, ⟨?_, ?_, ?_, ?_⟩, ⟨?_, ?_, ?_, ?_, ?_⟩, fun k hk => ?_, fun k hk => ?_⟩, h10.1.trans ((frm_sMF (by decide)).trans (frm_sMI (by decide))), h10.2⟩
  · rw [e2]; exact Nat.mul_lt_mul_of_pos_right (by omega) (ev_pos e)
  · exact m1
  · exact m2
  · rw [sMI_In (by decide)]; exact m3
  · rw [mS_sMI (by decide), mS_sMF (by decide)]; exact m4
  · rw [sMI_In (by decide)]; exact h2
  · rw [sMI_In (by decide)]; exact h3
  · rw [sMI_In (by decide)]; exact h4
  · rw [sMI_In (by decide)]; exact h5
  · rw [sMI_I, ed]
  · show (sMF w 9 (upd (w.MF 9) (r / ev e + 1) (nI (r + 1)))).MF 9 k = _
    rw [sMF_F]
    rw [ed] at hk
    by_cases q : k = r / ev e + 1
    · rw [q, pk_us, ← e2]
    · rw [pk_un q]; exact h7 k (by omega)
  · exact h9 k hk
theorem gj_c (hb : Bd cd ip x0 g r r u e) (hc : chk cd (nI g) (tr cd ip x0 r) = 0) (h3k : r < 3000) (hm : (r + 1) % ev e = 0) (h8 : r / ev e + 1 = 8) (h : GJ cd ip x0 g r u c e σ w) {f : TF} {a b : Int32} (hf : ∀ m, m < 5 → f m = nI (m * (2 * ev e))) : RD cd ip x0 g (r + 1) (r + 1) u c (eN r r e) (sMI (sMF (sMI (sMI w 12 a) 11 (nI (2 * ev e))) 9 f) 12 (nI 5)) ∧ frm σ (sMI (sMF (sMI (sMI w 12 a) 11 (nI (2 * ev e))) 9 f) 12 (nI 5)) ∧ (sMI (sMF (sMI (sMI w 12 a) 11 (nI (2 * ev e))) 9 f) 12 (nI 5)).MF 6 = σ.MF 6 := by
  obtain ⟨b1, b2, b3, b4, b5, b6, b7⟩ := hb
  obtain ⟨⟨m1, m2, m3, m4⟩, h2, h3, h4, h5, h6, h7, h9, h10⟩ := h
  have ed := div_succ_eq (ev_pos e) hm
  have e2 := mul_of_mod hm
  rw [ed, h8] at e2
  have hE : eN r r e = e + 1 := if_pos ⟨by omega, e2⟩
  have e4 : e ≤ 4 := ev_e (by omega)
  have e5 := ev_pos e
  have hd : (r + 1) / (2 * ev e) = 4 := div8 (by omega) (by omega)
  rw [hE]
  refine ⟨⟨⟨b1, Nat.le_refl _, by omega, b4.snoc hc, b5, by omega, by rw [ev_succ]; omega⟩, ⟨?_, ?_, ?_, ?_⟩, ⟨?_, ?_, ?_, ?_, ?_⟩, fun k hk => ?_, fun k hk => ?_⟩, h10.1.trans ((frm_sMI (by decide)).trans ((frm_sMI (by decide)).trans ((frm_sMF (by decide)).trans (frm_sMI (by decide))))), h10.2⟩
  · exact m1
  · exact m2
  · rw [sMI_In (by decide)]
    show (sMI (sMI w 12 a) 11 (nI (2 * ev e))).MI 1 = _
    rw [sMI_In (by decide), sMI_In (by decide)]; exact m3
  · rw [mS_sMI (by decide), mS_sMF (by decide), mS_sMI (by decide), mS_sMI (by decide)]; exact m4
  · rw [sMI_In (by decide)]
    show (sMI (sMI w 12 a) 11 (nI (2 * ev e))).MI 8 = _
    rw [sMI_In (by decide), sMI_In (by decide)]; exact h2
  · rw [sMI_In (by decide)]
    show (sMI (sMI w 12 a) 11 (nI (2 * ev e))).MI 9 = _
    rw [sMI_In (by decide), sMI_In (by decide)]; exact h3
  · rw [sMI_In (by decide)]
    show (sMI (sMI w 12 a) 11 (nI (2 * ev e))).MI 10 = _
    rw [sMI_In (by decide), sMI_In (by decide)]; exact h4
  · rw [sMI_In (by decide), ev_succ]
    show (sMI (sMI w 12 a) 11 (nI (2 * ev e))).MI 11 = _
    rw [sMI_I]
  · rw [sMI_I, ev_succ, hd]
  · rw [ev_succ, hd] at hk
    show (sMF (sMI (sMI w 12 a) 11 (nI (2 * ev e))) 9 f).MF 9 k = _
    rw [sMF_F, ev_succ]
    exact hf k (by omega)
  · show Mk ((sMF (sMI (sMI w 12 a) 11 (nI (2 * ev e))) 9 f).MF 7) ((sMF (sMI (sMI w 12 a) 11 (nI (2 * ev e))) 9 f).MF 8) k _
    rw [sMF_Fn (by decide), sMF_Fn (by decide)]
    exact h9 k hk
end GP
