/-! what is read fits -/
set_option maxRecDepth 100000
def IV (F : Nat → Nat) : Prop := F 0 ≤ 60 ∧ F 1 ≤ 60 ∧ F 2 ≤ 60 ∧ F 3 ≤ 100 ∧ F 4 ≤ 9 ∧ F 5 ≤ 4 ∧ F 6 ≤ 8 ∧ F 7 ≤ 4 ∧ F 8 ≤ 5 ∧ F 10 = 0 ∧ F 11 ≤ 999 ∧ F 12 ≤ 999 ∧
  (∀ t, t < F 4 → F (13 + 6 * t) ≤ 1 ∧ F (13 + 6 * t + 1) ≤ 99 ∧ F (13 + 6 * t + 2) ≤ 59 ∧ F (13 + 6 * t + 3) ≤ 100 ∧ F (13 + 6 * t + 4) ≤ 30 ∧ F (13 + 6 * t + 5) ≤ 999) ∧
  (∀ k, k < F 5 → F (67 + 2 * k) ≤ 59 ∧ F (67 + 2 * k + 1) ≤ 59) ∧
  (∀ k, k < F 6 → F (75 + 4 * k) ≤ 1 ∧ F (75 + 4 * k + 1) ≤ 59 ∧ 1 ≤ F (75 + 4 * k + 2) ∧ F (75 + 4 * k + 2) ≤ 20 ∧ F (75 + 4 * k + 3) ≤ 99) ∧
  (∀ k, k < F 7 → F (107 + 2 * k) ≤ 59 ∧ F (107 + 2 * k + 1) ≤ 59) ∧
  (∀ k, k < F 8 → F (115 + k) < 2 ^ F 4) ∧
  (∀ k, k < 240 → k ≠ 9 → F k < 100000)
/-- F' is F with a block told anew and one number one more -/
theorem num_g {T : Nat → Int32} {tp lo : Nat} {hi : Int} {X : Rs} (h : gdX (numX T tp lo hi X) = true) : gdX X = true ∧ lo ≤ numV lo hi X ∧ (numV lo hi X : Int) ≤ hi := by
  obtain ⟨u, hu⟩ := gd_ok h
  obtain ⟨t, h1, -⟩ := num_ok hu
  have := num_v h
  exact ⟨by rw [h1]; rfl, this.1, this.2⟩
theorem wrd_g {T : Nat → Int32} {tp : Nat} {w : List Nat} {X : Rs} (h : gdX (wrdX T tp w X) = true) : gdX X = true := by
  obtain ⟨u, hu⟩ := gd_ok h
  obtain ⟨t, h1, -⟩ := wrd_ok hu
  rw [h1]; rfl
theorem tld_g {T : Nat → Int32} {tp : Nat} {w : List Nat} {lo : Nat} {hi : Int} {X : Rs} (h : gdX (tldX T tp w lo hi X) = true) : gdX X = true ∧ lo ≤ tldV T tp w lo hi X ∧ (tldV T tp w lo hi X : Int) ≤ hi := by
  obtain ⟨h1, h2, h3⟩ := num_g h
  exact ⟨wrd_g h1, h2, h3⟩
theorem IV_first {F F' : Nat → Nat} (h : IV F) (hne : ∀ j, 3 < j → F' j = F j) (h0 : F' 0 ≤ 60) (h1 : F' 1 ≤ 60) (h2 : F' 2 ≤ 60) (h3 : F' 3 ≤ 100) : IV F' := by
  obtain ⟨i0, i1, i2, i3, i4, i5, i6, i7, i8, i10, i11, i12, iT, iE, iA, iR, iS, iL⟩ := h
  unfold IV
  rw [hne 4 (by decide), hne 5 (by decide), hne 6 (by decide), hne 7 (by decide), hne 8 (by decide), hne 10 (by decide), hne 11 (by decide), hne 12 (by decide)]
  refine ⟨h0, h1, h2, h3, i4, i5, i6, i7, i8, i10, i11, i12, fun t ht => ?_, fun k hk => ?_, fun k hk => ?_, fun k hk => ?_, fun k hk => ?_, fun k hk h9 => ?_⟩
  · rw [hne _ (by omega), hne _ (by omega), hne _ (by omega), hne _ (by omega), hne _ (by omega), hne _ (by omega)]; exact iT t ht
  · rw [hne _ (by omega), hne _ (by omega)]; exact iE k hk
  · rw [hne _ (by omega), hne _ (by omega), hne _ (by omega), hne _ (by omega)]; exact iA k hk
  · rw [hne _ (by omega), hne _ (by omega)]; exact iR k hk
  · rw [hne _ (by omega)]; exact iS k hk
  · by_cases e : 3 < k
    · rw [hne k e]; exact iL k hk h9
    · rcases (show k = 0 ∨ k = 1 ∨ k = 2 ∨ k = 3 by omega) with rfl | rfl | rfl | rfl <;> omega
theorem IV_need {F F' : Nat → Nat} (h : IV F) {p : Nat} (hp : p = 11 ∨ p = 12) (hne : ∀ j, j ≠ p → F' j = F j) (hv : F' p ≤ 999) : IV F' := by
  obtain ⟨i0, i1, i2, i3, i4, i5, i6, i7, i8, i10, i11, i12, iT, iE, iA, iR, iS, iL⟩ := h
  unfold IV
  rw [hne 0 (by omega), hne 1 (by omega), hne 2 (by omega), hne 3 (by omega), hne 4 (by omega), hne 5 (by omega), hne 6 (by omega), hne 7 (by omega), hne 8 (by omega), hne 10 (by omega)]
  refine ⟨i0, i1, i2, i3, i4, i5, i6, i7, i8, i10, ?_, ?_, fun t ht => ?_, fun k hk => ?_, fun k hk => ?_, fun k hk => ?_, fun k hk => ?_, fun k hk h9 => ?_⟩
  · by_cases e : p = 11
    · subst e; exact hv
    · rw [hne 11 (by omega)]; exact i11
  · by_cases e : p = 12
    · subst e; exact hv
    · rw [hne 12 (by omega)]; exact i12
  · rw [hne _ (by omega), hne _ (by omega), hne _ (by omega), hne _ (by omega), hne _ (by omega), hne _ (by omega)]; exact iT t ht
  · rw [hne _ (by omega), hne _ (by omega)]; exact iE k hk
  · rw [hne _ (by omega), hne _ (by omega), hne _ (by omega), hne _ (by omega)]; exact iA k hk
  · rw [hne _ (by omega), hne _ (by omega)]; exact iR k hk
  · rw [hne _ (by omega)]; exact iS k hk
  · by_cases e : k = p
    · subst e; omega
    · rw [hne k e]; exact iL k hk h9
theorem IV_train {F F' : Nat → Nat} (h : IV F) (h8 : F 4 ≤ 8) (h4 : F' 4 = F 4 + 1) (hne : ∀ j, j ≠ 4 → (j < 13 + 6 * F 4 ∨ 13 + 6 * F 4 + 5 < j) → F' j = F j) (hr : F' (13 + 6 * F 4) ≤ 1 ∧ F' (13 + 6 * F 4 + 1) ≤ 99 ∧ F' (13 + 6 * F 4 + 2) ≤ 59 ∧ F' (13 + 6 * F 4 + 3) ≤ 100 ∧ F' (13 + 6 * F 4 + 4) ≤ 30 ∧ F' (13 + 6 * F 4 + 5) ≤ 999) : IV F' := by
  obtain ⟨i0, i1, i2, i3, i4, i5, i6, i7, i8, i10, i11, i12, iT, iE, iA, iR, iS, iL⟩ := h
  unfold IV
  rw [hne 0 (by omega) (by omega), hne 1 (by omega) (by omega), hne 2 (by omega) (by omega), hne 3 (by omega) (by omega), h4, hne 5 (by omega) (by omega), hne 6 (by omega) (by omega), hne 7 (by omega) (by omega), hne 8 (by omega) (by omega), hne 10 (by omega) (by omega), hne 11 (by omega) (by omega), hne 12 (by omega) (by omega)]
  refine ⟨i0, i1, i2, i3, by omega, i5, i6, i7, i8, i10, i11, i12, fun t ht => ?_, fun k hk => ?_, fun k hk => ?_, fun k hk => ?_, fun k hk => ?_, fun k hk h9 => ?_⟩
  · by_cases e : t = F 4
    · rw [e]; exact hr
    · rw [hne _ (by omega) (by omega), hne _ (by omega) (by omega), hne _ (by omega) (by omega), hne _ (by omega) (by omega), hne _ (by omega) (by omega), hne _ (by omega) (by omega)]; exact iT t (by omega)
  · rw [hne _ (by omega) (by omega), hne _ (by omega) (by omega)]; exact iE k hk
  · rw [hne _ (by omega) (by omega), hne _ (by omega) (by omega), hne _ (by omega) (by omega), hne _ (by omega) (by omega)]; exact iA k hk
  · rw [hne _ (by omega) (by omega), hne _ (by omega) (by omega)]; exact iR k hk
  · rw [hne _ (by omega) (by omega)]; exact Nat.lt_of_lt_of_le (iS k hk) (pow_b (by omega))
  · by_cases e : k = 4
    · subst e; omega
    · by_cases e2 : k < 13 + 6 * F 4 ∨ 13 + 6 * F 4 + 5 < k
      · rw [hne k e e2]; exact iL k hk h9
      · obtain ⟨r0, r1, r2, r3, r4, r5⟩ := hr
        rcases (show k = 13 + 6 * F 4 ∨ k = 13 + 6 * F 4 + 1 ∨ k = 13 + 6 * F 4 + 2 ∨ k = 13 + 6 * F 4 + 3 ∨ k = 13 + 6 * F 4 + 4 ∨ k = 13 + 6 * F 4 + 5 by omega) with q | q | q | q | q | q <;> rw [q] <;> omega
theorem IV_tea {F F' : Nat → Nat} (h : IV F) (h8 : F 5 ≤ 3) (h4 : F' 5 = F 5 + 1) (hne : ∀ j, j ≠ 5 → j ≠ 67 + 2 * F 5 → j ≠ 67 + 2 * F 5 + 1 → F' j = F j) (hr : F' (67 + 2 * F 5) ≤ 59 ∧ F' (67 + 2 * F 5 + 1) ≤ 59) : IV F' := by
  obtain ⟨i0, i1, i2, i3, i4, i5, i6, i7, i8, i10, i11, i12, iT, iE, iA, iR, iS, iL⟩ := h
  have hn : ∀ j, j ≠ 5 → j < 67 ∨ 74 < j → F' j = F j := fun j a b => hne j a (by omega) (by omega)
  unfold IV
  rw [hn 0 (by omega) (by omega), hn 1 (by omega) (by omega), hn 2 (by omega) (by omega), hn 3 (by omega) (by omega), h4, hn 4 (by omega) (by omega), hn 6 (by omega) (by omega), hn 7 (by omega) (by omega), hn 8 (by omega) (by omega), hn 10 (by omega) (by omega), hn 11 (by omega) (by omega), hn 12 (by omega) (by omega)]
  refine ⟨i0, i1, i2, i3, i4, by omega, i6, i7, i8, i10, i11, i12, fun t ht => ?_, fun k hk => ?_, fun k hk => ?_, fun k hk => ?_, fun k hk => ?_, fun k hk h9 => ?_⟩
  · rw [hn _ (by omega) (by omega), hn _ (by omega) (by omega), hn _ (by omega) (by omega), hn _ (by omega) (by omega), hn _ (by omega) (by omega), hn _ (by omega) (by omega)]; exact iT t ht
  · by_cases e : k = F 5
    · rw [e]; exact hr
    · rw [hne _ (by omega) (by omega) (by omega), hne _ (by omega) (by omega) (by omega)]; exact iE k (by omega)
  · rw [hn _ (by omega) (by omega), hn _ (by omega) (by omega), hn _ (by omega) (by omega), hn _ (by omega) (by omega)]; exact iA k hk
  · rw [hn _ (by omega) (by omega), hn _ (by omega) (by omega)]; exact iR k hk
  · rw [hn _ (by omega) (by omega)]; exact iS k hk
  · by_cases e : k = 5
    · subst e; omega
    · by_cases e2 : k = 67 + 2 * F 5
      · rw [e2]; omega
      · by_cases e3 : k = 67 + 2 * F 5 + 1
        · rw [e3]; omega
        · rw [hne k e e2 e3]; exact iL k hk h9
theorem IV_rule {F F' : Nat → Nat} (h : IV F) (h8 : F 7 ≤ 3) (h4 : F' 7 = F 7 + 1) (hne : ∀ j, j ≠ 7 → j ≠ 107 + 2 * F 7 → j ≠ 107 + 2 * F 7 + 1 → F' j = F j) (hr : F' (107 + 2 * F 7) ≤ 59 ∧ F' (107 + 2 * F 7 + 1) ≤ 59) : IV F' := by
  obtain ⟨i0, i1, i2, i3, i4, i5, i6, i7, i8, i10, i11, i12, iT, iE, iA, iR, iS, iL⟩ := h
  have hn : ∀ j, j ≠ 7 → j < 107 ∨ 114 < j → F' j = F j := fun j a b => hne j a (by omega) (by omega)
  unfold IV
  rw [hn 0 (by omega) (by omega), hn 1 (by omega) (by omega), hn 2 (by omega) (by omega), hn 3 (by omega) (by omega), h4, hn 4 (by omega) (by omega), hn 6 (by omega) (by omega), hn 5 (by omega) (by omega), hn 8 (by omega) (by omega), hn 10 (by omega) (by omega), hn 11 (by omega) (by omega), hn 12 (by omega) (by omega)]
  refine ⟨i0, i1, i2, i3, i4, i5, i6, by omega, i8, i10, i11, i12, fun t ht => ?_, fun k hk => ?_, fun k hk => ?_, fun k hk => ?_, fun k hk => ?_, fun k hk h9 => ?_⟩
  · rw [hn _ (by omega) (by omega), hn _ (by omega) (by omega), hn _ (by omega) (by omega), hn _ (by omega) (by omega), hn _ (by omega) (by omega), hn _ (by omega) (by omega)]; exact iT t ht
  · rw [hn _ (by omega) (by omega), hn _ (by omega) (by omega)]; exact iE k hk
  · rw [hn _ (by omega) (by omega), hn _ (by omega) (by omega), hn _ (by omega) (by omega), hn _ (by omega) (by omega)]; exact iA k hk
  · by_cases e : k = F 7
    · rw [e]; exact hr
    · rw [hne _ (by omega) (by omega) (by omega), hne _ (by omega) (by omega) (by omega)]; exact iR k (by omega)
  · rw [hn _ (by omega) (by omega)]; exact iS k hk
  · by_cases e : k = 7
    · subst e; omega
    · by_cases e2 : k = 107 + 2 * F 7
      · rw [e2]; omega
      · by_cases e3 : k = 107 + 2 * F 7 + 1
        · rw [e3]; omega
        · rw [hne k e e2 e3]; exact iL k hk h9
theorem IV_ask {F F' : Nat → Nat} (h : IV F) (h8 : F 6 ≤ 7) (h4 : F' 6 = F 6 + 1) (hne : ∀ j, j ≠ 6 → (j < 75 + 4 * F 6 ∨ 75 + 4 * F 6 + 3 < j) → F' j = F j) (hr : F' (75 + 4 * F 6) ≤ 1 ∧ F' (75 + 4 * F 6 + 1) ≤ 59 ∧ 1 ≤ F' (75 + 4 * F 6 + 2) ∧ F' (75 + 4 * F 6 + 2) ≤ 20 ∧ F' (75 + 4 * F 6 + 3) ≤ 99) : IV F' := by
  obtain ⟨i0, i1, i2, i3, i4, i5, i6, i7, i8, i10, i11, i12, iT, iE, iA, iR, iS, iL⟩ := h
  unfold IV
  rw [hne 0 (by omega) (by omega), hne 1 (by omega) (by omega), hne 2 (by omega) (by omega), hne 3 (by omega) (by omega), h4, hne 5 (by omega) (by omega), hne 4 (by omega) (by omega), hne 7 (by omega) (by omega), hne 8 (by omega) (by omega), hne 10 (by omega) (by omega), hne 11 (by omega) (by omega), hne 12 (by omega) (by omega)]
  refine ⟨i0, i1, i2, i3, i4, i5, by omega, i7, i8, i10, i11, i12, fun t ht => ?_, fun k hk => ?_, fun k hk => ?_, fun k hk => ?_, fun k hk => ?_, fun k hk h9 => ?_⟩
  · rw [hne _ (by omega) (by omega), hne _ (by omega) (by omega), hne _ (by omega) (by omega), hne _ (by omega) (by omega), hne _ (by omega) (by omega), hne _ (by omega) (by omega)]; exact iT t ht
  · rw [hne _ (by omega) (by omega), hne _ (by omega) (by omega)]; exact iE k hk
  · by_cases e : k = F 6
    · rw [e]; exact hr
    · rw [hne _ (by omega) (by omega), hne _ (by omega) (by omega), hne _ (by omega) (by omega), hne _ (by omega) (by omega)]; exact iA k (by omega)
  · rw [hne _ (by omega) (by omega), hne _ (by omega) (by omega)]; exact iR k hk
  · rw [hne _ (by omega) (by omega)]; exact iS k hk
  · by_cases e : k = 6
    · subst e; omega
    · by_cases e2 : k < 75 + 4 * F 6 ∨ 75 + 4 * F 6 + 3 < k
      · rw [hne k e e2]; exact iL k hk h9
      · obtain ⟨r0, r1, r2, r3, r4⟩ := hr
        rcases (show k = 75 + 4 * F 6 ∨ k = 75 + 4 * F 6 + 1 ∨ k = 75 + 4 * F 6 + 2 ∨ k = 75 + 4 * F 6 + 3 by omega) with q | q | q | q <;> rw [q] <;> omega
theorem IV_spy {F F' : Nat → Nat} (h : IV F) (h8 : F 8 ≤ 4) (h4 : F' 8 = F 8 + 1) (hne : ∀ j, j ≠ 8 → j ≠ 115 + F 8 → F' j = F j) (hr : F' (115 + F 8) < 2 ^ F 4) : IV F' := by
  obtain ⟨i0, i1, i2, i3, i4, i5, i6, i7, i8, i10, i11, i12, iT, iE, iA, iR, iS, iL⟩ := h
  have hn : ∀ j, j ≠ 8 → j < 115 ∨ 119 < j → F' j = F j := fun j a b => hne j a (by omega)
  have hp := pow_b (k := F 4) (n := 9) i4
  unfold IV
  rw [hn 0 (by omega) (by omega), hn 1 (by omega) (by omega), hn 2 (by omega) (by omega), hn 3 (by omega) (by omega), h4, hn 4 (by omega) (by omega), hn 6 (by omega) (by omega), hn 5 (by omega) (by omega), hn 7 (by omega) (by omega), hn 10 (by omega) (by omega), hn 11 (by omega) (by omega), hn 12 (by omega) (by omega)]
  refine ⟨i0, i1, i2, i3, i4, i5, i6, i7, by omega, i10, i11, i12, fun t ht => ?_, fun k hk => ?_, fun k hk => ?_, fun k hk => ?_, fun k hk => ?_, fun k hk h9 => ?_⟩
  · rw [hn _ (by omega) (by omega), hn _ (by omega) (by omega), hn _ (by omega) (by omega), hn _ (by omega) (by omega), hn _ (by omega) (by omega), hn _ (by omega) (by omega)]; exact iT t ht
  · rw [hn _ (by omega) (by omega), hn _ (by omega) (by omega)]; exact iE k hk
  · rw [hn _ (by omega) (by omega), hn _ (by omega) (by omega), hn _ (by omega) (by omega), hn _ (by omega) (by omega)]; exact iA k hk
  · rw [hn _ (by omega) (by omega), hn _ (by omega) (by omega)]; exact iR k hk
  · by_cases e : k = F 8
    · rw [e]; exact hr
    · rw [hne _ (by omega) (by omega)]; exact iS k (by omega)
  · by_cases e : k = 8
    · subst e; omega
    · by_cases e2 : k = 115 + F 8
      · rw [e2]; omega
      · rw [hne k e e2]; exact iL k hk h9
theorem IV_9 {F : Nat → Nat} {v : Nat} (h : IV F) : IV (updN F 9 v) := by
  obtain ⟨i0, i1, i2, i3, i4, i5, i6, i7, i8, i10, i11, i12, iT, iE, iA, iR, iS, iL⟩ := h
  have hn : ∀ j, j ≠ 9 → updN F 9 v j = F j := fun j a => updN_n a
  unfold IV
  rw [hn 0 (by omega), hn 1 (by omega), hn 2 (by omega), hn 3 (by omega), hn 4 (by omega), hn 6 (by omega), hn 5 (by omega), hn 7 (by omega), hn 8 (by omega), hn 10 (by omega), hn 11 (by omega), hn 12 (by omega)]
  refine ⟨i0, i1, i2, i3, i4, i5, i6, i7, i8, i10, i11, i12, fun t ht => ?_, fun k hk => ?_, fun k hk => ?_, fun k hk => ?_, fun k hk => ?_, fun k hk h9 => ?_⟩
  · rw [hn _ (by omega), hn _ (by omega), hn _ (by omega), hn _ (by omega), hn _ (by omega), hn _ (by omega)]; exact iT t ht
  · rw [hn _ (by omega), hn _ (by omega)]; exact iE k hk
  · rw [hn _ (by omega), hn _ (by omega), hn _ (by omega), hn _ (by omega)]; exact iA k hk
  · rw [hn _ (by omega), hn _ (by omega)]; exact iR k hk
  · rw [hn _ (by omega)]; exact iS k hk
  · rw [hn _ h9]; exact iL k hk h9
