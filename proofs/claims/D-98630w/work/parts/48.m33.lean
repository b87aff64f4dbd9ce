/-! what is read fits: lines, the war -/
set_option maxRecDepth 100000
theorem adv_g {T : Nat → Int32} {tp : Nat} {X : Rs} (h : gdX (advX T tp X) = true) : gdX X = true := by
  cases X with
  | ok t => rfl
  | error e => cases h
theorem sem_g {X : Rs} (h : gdX (semX X) = true) : gdX X = true := by
  obtain ⟨t, ht⟩ := gd_ok h
  rw [(semX_ok ht).1]
  rfl
theorem first_IV {T : Nat → Int32} {tp : Nat} {X : Rs} {F : Nat → Nat} (h : IV F) (hg : gdX (rdFirst T tp X F).1 = true) : IV (rdFirst T tp X F).2 := by
  unfold rdFirst at hg ⊢
  dsimp only at hg ⊢
  obtain ⟨g3, -, r4⟩ := tld_g hg
  obtain ⟨g2, -, r3⟩ := tld_g g3
  obtain ⟨g1, -, r2⟩ := tld_g g2
  obtain ⟨g0, -, r1⟩ := tld_g g1
  refine IV_first h (fun j hj => ?_) ?_ ?_ ?_ ?_
  · rw [updN_n (by omega), updN_n (by omega), updN_n (by omega), updN_n (by omega)]
  · rw [updN_n (by omega), updN_n (by omega), updN_n (by omega), updN_s]; omega
  · rw [updN_n (by omega), updN_n (by omega), updN_s]; omega
  · rw [updN_n (by omega), updN_s]; omega
  · rw [updN_s]; omega
theorem need_IV {T : Nat → Int32} {tp : Nat} {X : Rs} {F : Nat → Nat} (h : IV F) (hg : gdX (rdNeed T tp X F).1 = true) : IV (rdNeed T tp X F).2 := by
  unfold rdNeed at hg ⊢
  dsimp only at hg ⊢
  rw [if_pos hg]
  obtain ⟨g1, -, r2⟩ := num_g hg
  obtain ⟨g0, -, r1⟩ := num_g g1
  refine IV_need h (p := 11 + numV 0 1 X) (by omega) (fun j hj => updN_n hj) ?_
  rw [updN_s]; omega
theorem train_IV {T : Nat → Int32} {tp : Nat} {X : Rs} {F : Nat → Nat} (h : IV F) (h8 : F 4 ≤ 8) (hg : gdX (rdTrain T tp X F).1 = true) : IV (rdTrain T tp X F).2 := by
  unfold rdTrain at hg ⊢
  dsimp only at hg ⊢
  obtain ⟨g5, -, r6⟩ := tld_g hg
  obtain ⟨g4, -, r5⟩ := tld_g g5
  obtain ⟨g3, -, r4⟩ := tld_g g4
  obtain ⟨g2, -, r3⟩ := tld_g g3
  obtain ⟨g1, -, r2⟩ := tld_g g2
  obtain ⟨g0, -, r1⟩ := num_g g1
  refine IV_train h h8 updN_s (fun j h4 hj => ?_) ⟨?_, ?_, ?_, ?_, ?_, ?_⟩
  · rw [updN_n h4, updN_n (by omega), updN_n (by omega), updN_n (by omega), updN_n (by omega), updN_n (by omega), updN_n (by omega)]
  · rw [updN_n (by omega), updN_n (by omega), updN_n (by omega), updN_n (by omega), updN_n (by omega), updN_n (by omega), updN_s]; omega
  · rw [updN_n (by omega), updN_n (by omega), updN_n (by omega), updN_n (by omega), updN_n (by omega), updN_s]; omega
  · rw [updN_n (by omega), updN_n (by omega), updN_n (by omega), updN_n (by omega), updN_s]; omega
  · rw [updN_n (by omega), updN_n (by omega), updN_n (by omega), updN_s]; omega
  · rw [updN_n (by omega), updN_n (by omega), updN_s]; omega
  · rw [updN_n (by omega), updN_s]; omega
theorem ask_IV {T : Nat → Int32} {tp : Nat} {X : Rs} {F : Nat → Nat} (h : IV F) (h8 : F 6 ≤ 7) (hg : gdX (rdAsk T tp X F).1 = true) : IV (rdAsk T tp X F).2 := by
  unfold rdAsk at hg ⊢
  dsimp only at hg ⊢
  obtain ⟨g3, -, r4⟩ := tld_g hg
  obtain ⟨g2, q3, r3⟩ := tld_g g3
  obtain ⟨g1, -, r2⟩ := tld_g g2
  obtain ⟨g0, -, r1⟩ := num_g g1
  refine IV_ask h h8 updN_s (fun j h4 hj => ?_) ⟨?_, ?_, ?_, ?_, ?_⟩
  · rw [updN_n h4, updN_n (by omega), updN_n (by omega), updN_n (by omega), updN_n (by omega)]
  · rw [updN_n (by omega), updN_n (by omega), updN_n (by omega), updN_n (by omega), updN_s]; omega
  · rw [updN_n (by omega), updN_n (by omega), updN_n (by omega), updN_s]; omega
  · rw [updN_n (by omega), updN_n (by omega), updN_s]; omega
  · rw [updN_n (by omega), updN_n (by omega), updN_s]; omega
  · rw [updN_n (by omega), updN_s]; omega
theorem tea_IV {T : Nat → Int32} {tp : Nat} {X : Rs} {F : Nat → Nat} (h : IV F) (h8 : F 5 ≤ 3) (hg : gdX (rdBounds T tp (67 + 2 * F 5) X F).1 = true) : IV (bump F 5 (rdBounds T tp (67 + 2 * F 5) X F)).2 := by
  unfold bump
  unfold rdBounds at hg ⊢
  dsimp only at hg ⊢
  obtain ⟨g1, -, r2⟩ := tld_g hg
  obtain ⟨g0, -, r1⟩ := num_g g1
  refine IV_tea h h8 updN_s (fun j h4 hj hk => ?_) ⟨?_, ?_⟩
  · rw [updN_n h4, updN_n hk, updN_n hj]
  · rw [updN_n (by omega), updN_n (by omega), updN_s]; omega
  · rw [updN_n (by omega), updN_s]; omega
theorem rule_IV {T : Nat → Int32} {tp : Nat} {X : Rs} {F : Nat → Nat} (h : IV F) (h8 : F 7 ≤ 3) (hg : gdX (rdBounds T tp (107 + 2 * F 7) X F).1 = true) : IV (bump F 7 (rdBounds T tp (107 + 2 * F 7) X F)).2 := by
  unfold bump
  unfold rdBounds at hg ⊢
  dsimp only at hg ⊢
  obtain ⟨g1, -, r2⟩ := tld_g hg
  obtain ⟨g0, -, r1⟩ := num_g g1
  refine IV_rule h h8 updN_s (fun j h4 hj hk => ?_) ⟨?_, ?_⟩
  · rw [updN_n h4, updN_n hk, updN_n hj]
  · rw [updN_n (by omega), updN_n (by omega), updN_s]; omega
  · rw [updN_n (by omega), updN_s]; omega
theorem spF_set {T : Nat → Int32} {tp n : Nat} : ∀ (f : Nat) (X : Rs) (s r : Nat), s < 2 ^ n → (spF T tp n f X s).2 = some r → r < 2 ^ n
  | 0, _, _, _, _, h => by cases h
  | f + 1, X, s, r, hs, h => by
    unfold spF at h
    split at h
    · rename_i hg
      have hv := (num_v hg).2
      have hlt : 2 ^ numV 0 ((n : Int) - 1) X < 2 ^ n := Nat.pow_lt_pow_right (by decide) (by omega)
      have hor := Nat.or_lt_two_pow hs hlt
      split at h
      · cases h; exact hor
      · exact spF_set f _ _ r hor h
    · cases h
theorem spy_IV {T : Nat → Int32} {tp : Nat} {X : Rs} {F : Nat → Nat} (h : IV F) (h8 : F 8 ≤ 4) : IV (rdSpy T tp X F).2 := by
  unfold rdSpy
  split
  · exact h
  · rename_i s hs
    have := spF_set (T := T) (tp := tp) (n := F 4) (tp + 3) (wrdX T tp (txN 16) X) 0 s (Nat.pow_pos (by decide)) (by rw [hs])
    show IV (updN (updN F (115 + F 8) s) 8 (F 8 + 1))
    refine IV_spy h h8 updN_s (fun j h1 h2 => ?_) ?_
    · rw [updN_n h1, updN_n h2]
    · rw [updN_n (by omega), updN_s]; exact this
theorem IV.if {F : Nat → Nat} (h : IV F) : IF F := ⟨h.2.2.2.2.1, h.2.2.2.2.2.1, h.2.2.2.2.2.2.1, h.2.2.2.2.2.2.2.1, h.2.2.2.2.2.2.2.2.1⟩
theorem next_IV {T : Nat → Int32} {tp : Nat} {X : Rs} {F : Nat → Nat} (h : IV F) (hg : gdX (rdNext T tp X F).1 = true) : IV (rdNext T tp X F).2 := by
  have hI := h.if
  unfold rdNext rdN2 at hg ⊢
  split
  · exact h
  · rename_i h0
    replace h0 : gdX (nxC T X F) = true := Bool.not_eq_false _ ▸ h0
    rw [if_neg (by rw [h0]; decide)] at hg
    split
    · rename_i w1
      rw [if_pos w1] at hg
      exact need_IV h hg
    · rename_i w1
      rw [if_neg w1] at hg
      split
      · rename_i w2
        rw [if_pos w2] at hg
        exact train_IV h (room4 hI h0 w2) hg
      · rename_i w2
        rw [if_neg w2] at hg
        split
        · rename_i w3
          rw [if_pos w3] at hg
          exact tea_IV h (room5 hI h0 w3) hg
        · rename_i w3
          rw [if_neg w3] at hg
          split
          · rename_i w4
            rw [if_pos w4] at hg
            exact ask_IV h (room6 hI h0 w4) hg
          · rename_i w4
            rw [if_neg w4] at hg
            split
            · rename_i w5
              rw [if_pos w5] at hg
              exact rule_IV h (room7 hI h0 w5) hg
            · rename_i w5
              exact spy_IV h (room8 hI h0 (Bool.eq_false_iff.mpr w1) (Bool.eq_false_iff.mpr w2) (Bool.eq_false_iff.mpr w3) (Bool.eq_false_iff.mpr w4) (Bool.eq_false_iff.mpr w5))
theorem line_IV {T : Nat → Int32} {tp : Nat} {X : Rs} {F : Nat → Nat} (h : IV F) (hg : gdX (rdLine T tp X F).1 = true) : IV (rdLine T tp X F).2 := by
  unfold rdLine at hg ⊢
  dsimp only at hg ⊢
  replace hg := sem_g (adv_g hg)
  refine IV_9 ?_
  unfold rdL1 at hg ⊢
  split
  · rename_i e; rw [if_pos e] at hg; exact first_IV h hg
  · rename_i e; rw [if_neg e] at hg; exact next_IV h hg
/-- a row of zeros, or some lines -/
theorem wrF_IV {T : Nat → Int32} {tp : Nat} : ∀ (f : Nat) (X : Rs) (F : Nat → Nat) (n : Nat), IV F → (F 9 = 0 → ∀ k, F k = 0) → F 9 + f ≤ n → gdX (wrF T tp f X F).1 = true → IV (wrF T tp f X F).2 ∧ ((wrF T tp f X F).2 9 = 0 → ∀ k, (wrF T tp f X F).2 k = 0) ∧ (wrF T tp f X F).2 9 ≤ n
  | 0, X, F, n, h, hz, hn, _ => ⟨h, hz, by show F 9 ≤ n; omega⟩
  | f + 1, X, F, n, h, hz, hn, hg => by
    unfold wrF at hg ⊢
    split
    · rename_i q
      rw [if_pos q] at hg
      have h9 : (rdLine T tp X F).2 9 = F 9 + 1 := line_9
      by_cases hl : gdX (rdLine T tp X F).1 = true
      · exact wrF_IV f _ _ n (line_IV h hl) (fun r => by omega) (by omega) hg
      · rw [wrF_n (fun r => hl r.1)] at hg
        exact absurd hg hl
    · exact ⟨h, hz, by show F 9 ≤ n; omega⟩
theorem IV_0 : IV (fun _ => 0) := by
  unfold IV
  refine ⟨by decide, by decide, by decide, by decide, by decide, by decide, by decide, by decide, by decide, by decide, by decide, by decide, fun t ht => absurd ht (Nat.not_lt_zero _), fun t ht => absurd ht (Nat.not_lt_zero _), fun t ht => absurd ht (Nat.not_lt_zero _), fun t ht => absurd ht (Nat.not_lt_zero _), fun t ht => absurd ht (Nat.not_lt_zero _), fun _ _ _ => (show 0 < 100000 by decide)⟩
theorem IV.inv {F : Nat → Nat} (h : IV F) (h9 : F 9 ≤ 1300) (hz : F 9 = 0 → ∀ k, F k = 0) : InvW F := by
  obtain ⟨i0, i1, i2, i3, i4, i5, i6, i7, i8, i10, i11, i12, iT, iE, iA, iR, iS, iL⟩ := h
  refine ⟨i0, i1, i2, i3, i4, i5, i6, i7, i8, h9, by omega, i11, i12, iT, iE, iA, iR, iS, fun k hk => by omega, fun k hk => ?_, fun q k _ => hz q k⟩
  by_cases e : k = 9
  · subst e; omega
  · exact iL k hk e
theorem war_inv {T : Nat → Int32} {tp : Nat} (htp : tp ≤ 1200) (hg : gdX (rdWar T tp).1 = true) : InvW (rdWar T tp).2 := by
  obtain ⟨h1, h2, h3⟩ := wrF_IV (T := T) (tp := tp) (tp + 3) (.ok (adv T tp 0)) (fun _ => 0) (tp + 3) IV_0 (fun _ _ => rfl) (by show 0 + (tp + 3) ≤ tp + 3; omega) hg
  exact h1.inv (Nat.le_trans h3 (by omega)) h2
theorem wWar_inv {W : Nat → Nat} {T : Nat → Int32} {tp : Nat} (hi : InvW W) (htp : tp ≤ 1200) : InvW (wWar W T tp) := by
  unfold wWar
  split
  · rename_i h; exact war_inv htp h
  · exact hi
theorem inv_0 : InvW (fun _ => 0) := IV_0.inv (by decide) (fun _ _ => rfl)
