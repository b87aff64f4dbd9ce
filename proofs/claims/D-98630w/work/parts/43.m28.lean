/-! the reference: lines, a war read -/
set_option maxRecDepth 100000
def rdL1 (T : Nat → Int32) (tp : Nat) (X : Rs) (F : Nat → Nat) : Rs × (Nat → Nat) := if F 9 = 0 then rdFirst T tp X F else rdNext T tp X F
def semX (X : Rs) : Rs := if gdX X = true ∧ ¬ tokK X = 3 then errX 1 X else X
def rdLine (T : Nat → Int32) (tp : Nat) (X : Rs) (F : Nat → Nat) : Rs × (Nat → Nat) :=
  (advX T tp (semX (rdL1 T tp X F).1), updN (rdL1 T tp X F).2 9 ((rdL1 T tp X F).2 9 + 1))
theorem semX_ok {X : Rs} {t : Tk} (h : semX X = .ok t) : X = .ok t ∧ t.2.2.1 = 3 := by
  unfold semX at h
  split at h
  · cases X <;> cases h
  · rename_i q
    refine ⟨h, ?_⟩
    subst h
    exact Decidable.not_not.mp (fun r => q ⟨rfl, r⟩)
theorem tak_ok {T : Nat → Int32} {tp : Nat} {w : List Nat} {X : Rs} {u : Tk} (h : takX T tp w X = .ok u) (hw : isX T w X = true) : ∃ t, X = .ok t ∧ u = adv T tp t.1 := by
  rw [← wrd_t hw] at h
  obtain ⟨t, h1, h2, -⟩ := wrd_ok h
  exact ⟨t, h1, h2⟩
theorem tak_lt {T : Nat → Int32} {tp : Nat} {w : List Nat} {X : Rs} (hX : XB tp X) (hw : isX T w X = true) : lt' tp X (takX T tp w X) := by
  rw [← wrd_t hw]
  exact wrd_lt hX
theorem tak_xb {T : Nat → Int32} {tp : Nat} {w : List Nat} {X : Rs} (hX : XB tp X) (hw : isX T w X = true) : XB tp (takX T tp w X) := by
  rw [← wrd_t hw]
  exact wrd_xb hX
theorem adv_lt {T : Nat → Int32} {tp : Nat} {X : Rs} (hX : XB tp X) : lt' tp X (advX T tp X) := by
  intro u hu
  cases X with
  | error e => cases hu
  | ok t =>
    cases hu
    have := adv_gt (T := T) (hX t rfl).2.1
    exact ⟨t, rfl, this.1, this.2⟩
theorem adv_xb {T : Nat → Int32} {tp : Nat} {X : Rs} (hX : XB tp X) : XB tp (advX T tp X) := by
  intro u hu
  cases X with
  | error e => cases hu
  | ok t =>
    cases hu
    exact adv_b (hX t rfl).2.1
theorem er_lt {tp : Nat} {X Y : Rs} (h : gdX Y = false) : lt' tp X Y := by
  intro u hu
  subst hu
  cases h
theorem er_xb {tp : Nat} {Y : Rs} (h : gdX Y = false) : XB tp Y := by
  intro u hu
  subst hu
  cases h
theorem first_lt {T : Nat → Int32} {tp : Nat} {X : Rs} {F : Nat → Nat} (hX : XB tp X) : lt' tp X (rdFirst T tp X F).1 ∧ XB tp (rdFirst T tp X F).1 := by
  have h0 := wrd_xb (T := T) (w := txN 0) hX
  have l0 := wrd_lt (T := T) (w := txN 0) hX
  have h1 := tld_xb (T := T) (w := txN 1) (lo := 1) (hi := 60) h0
  have l1 := tld_lt (T := T) (w := txN 1) (lo := 1) (hi := 60) h0
  have h2 := tld_xb (T := T) (w := txN 2) (lo := 0) (hi := ((tldV T tp (txN 1) 1 60 (wrdX T tp (txN 0) X) : Int) - 1)) h1
  have l2 := tld_lt (T := T) (w := txN 2) (lo := 0) (hi := ((tldV T tp (txN 1) 1 60 (wrdX T tp (txN 0) X) : Int) - 1)) h1
  have h3 := tld_xb (T := T) (w := txN 3) (lo := 0) (hi := 60) h2
  have l3 := tld_lt (T := T) (w := txN 3) (lo := 0) (hi := 60) h2
  have h4 := tld_xb (T := T) (w := txN 4) (lo := 0) (hi := 100) h3
  have l4 := tld_lt (T := T) (w := txN 4) (lo := 0) (hi := 100) h3
  exact ⟨(((l0.tr l1).tr l2).tr l3).tr l4, h4⟩
theorem need_lt {T : Nat → Int32} {tp : Nat} {X : Rs} {F : Nat → Nat} (hX : XB tp X) : lt' tp X (rdNeed T tp X F).1 ∧ XB tp (rdNeed T tp X F).1 :=
  ⟨(num_lt hX).tr (num_lt (num_xb hX)), num_xb (num_xb hX)⟩
theorem train_lt {T : Nat → Int32} {tp : Nat} {X : Rs} {F : Nat → Nat} (hX : XB tp X) : lt' tp X (rdTrain T tp X F).1 ∧ XB tp (rdTrain T tp X F).1 := by
  have h1 := num_xb (T := T) (lo := 0) (hi := 1) hX
  have l1 := num_lt (T := T) (lo := 0) (hi := 1) hX
  have h2 := tld_xb (T := T) (w := txN 6) (lo := 1) (hi := 99) h1
  have l2 := tld_lt (T := T) (w := txN 6) (lo := 1) (hi := 99) h1
  have h3 := tld_xb (T := T) (w := txN 7) (lo := 0) (hi := 59) h2
  have l3 := tld_lt (T := T) (w := txN 7) (lo := 0) (hi := 59) h2
  have h4 := tld_xb (T := T) (w := txN 8) (lo := 0) (hi := 100) h3
  have l4 := tld_lt (T := T) (w := txN 8) (lo := 0) (hi := 100) h3
  have h5 := tld_xb (T := T) (w := txN 9) (lo := 1) (hi := 30) h4
  have l5 := tld_lt (T := T) (w := txN 9) (lo := 1) (hi := 30) h4
  have h6 := tld_xb (T := T) (w := txN 10) (lo := 0) (hi := 999) h5
  have l6 := tld_lt (T := T) (w := txN 10) (lo := 0) (hi := 999) h5
  exact ⟨((((l1.tr l2).tr l3).tr l4).tr l5).tr l6, h6⟩
theorem bounds_lt {T : Nat → Int32} {tp k : Nat} {X : Rs} {F : Nat → Nat} (hX : XB tp X) : lt' tp X (rdBounds T tp k X F).1 ∧ XB tp (rdBounds T tp k X F).1 :=
  ⟨(num_lt hX).tr (tld_lt (num_xb hX)), tld_xb (num_xb hX)⟩
theorem ask_lt {T : Nat → Int32} {tp : Nat} {X : Rs} {F : Nat → Nat} (hX : XB tp X) : lt' tp X (rdAsk T tp X F).1 ∧ XB tp (rdAsk T tp X F).1 := by
  have h1 := num_xb (T := T) (lo := 0) (hi := 1) hX
  have l1 := num_lt (T := T) (lo := 0) (hi := 1) hX
  have h2 := tld_xb (T := T) (w := txN 12) (lo := 0) (hi := 59) h1
  have l2 := tld_lt (T := T) (w := txN 12) (lo := 0) (hi := 59) h1
  have h3 := tld_xb (T := T) (w := txN 13) (lo := 1) (hi := 20) h2
  have l3 := tld_lt (T := T) (w := txN 13) (lo := 1) (hi := 20) h2
  have h4 := tld_xb (T := T) (w := txN 14) (lo := 1) (hi := 99) h3
  have l4 := tld_lt (T := T) (w := txN 14) (lo := 1) (hi := 99) h3
  exact ⟨((l1.tr l2).tr l3).tr l4, h4⟩
theorem spF_lt {T : Nat → Int32} {tp n : Nat} : ∀ (f : Nat) (X : Rs) (s : Nat), 0 < f → XB tp X → lt' tp X (spF T tp n f X s).1 ∧ XB tp (spF T tp n f X s).1
  | 0, _, _, h, _ => absurd h (Nat.lt_irrefl 0)
  | f + 1, X, s, _, hX => by
    have l1 := num_lt (T := T) (lo := 0) (hi := (n : Int) - 1) hX
    have h1 := num_xb (T := T) (lo := 0) (hi := (n : Int) - 1) hX
    unfold spF
    split
    · split
      · exact ⟨l1, h1⟩
      · cases f with
        | zero => exact ⟨l1, h1⟩
        | succ f =>
          have := spF_lt (T := T) (n := n) (f + 1) (numX T tp 0 ((n : Int) - 1) X) (s ||| 2 ^ numV 0 ((n : Int) - 1) X) (Nat.succ_pos _) h1
          exact ⟨l1.tr this.1, this.2⟩
    · exact ⟨l1, h1⟩
theorem rdSpy_1 (T : Nat → Int32) (tp : Nat) (X : Rs) (F : Nat → Nat) : (rdSpy T tp X F).1 = (spF T tp (F 4) (tp + 3) (wrdX T tp (txN 16) X) 0).1 := by
  unfold rdSpy
  split
  · rename_i h; rw [h]
  · rename_i h; rw [h]
theorem spy_lt {T : Nat → Int32} {tp : Nat} {X : Rs} {F : Nat → Nat} (hX : XB tp X) : lt' tp X (rdSpy T tp X F).1 ∧ XB tp (rdSpy T tp X F).1 := by
  rw [rdSpy_1]
  have := spF_lt (T := T) (n := F 4) (tp + 3) (wrdX T tp (txN 16) X) 0 (by omega) (wrd_xb hX)
  exact ⟨(wrd_lt hX).tr this.1, this.2⟩
theorem next_lt {T : Nat → Int32} {tp : Nat} {X : Rs} {F : Nat → Nat} (hX : XB tp X) : lt' tp X (rdNext T tp X F).1 ∧ XB tp (rdNext T tp X F).1 := by
  unfold rdNext rdN2
  split
  · rename_i h; exact ⟨er_lt h, er_xb h⟩
  · rename_i h
    obtain ⟨e, -, -, -⟩ := nx_gd (Bool.not_eq_false _ ▸ h)
    rw [e]
    split
    · rename_i hw; have := need_lt (T := T) (F := F) (tak_xb (T := T) hX hw); exact ⟨(tak_lt hX hw).tr this.1, this.2⟩
    · split
      · rename_i hw; have := train_lt (T := T) (F := F) (tak_xb (T := T) hX hw); exact ⟨(tak_lt hX hw).tr this.1, this.2⟩
      · split
        · rename_i hw; have := bounds_lt (T := T) (k := 67 + 2 * F 5) (F := F) (tak_xb (T := T) hX hw); exact ⟨(tak_lt hX hw).tr this.1, this.2⟩
        · split
          · rename_i hw; have := ask_lt (T := T) (F := F) (tak_xb (T := T) hX hw); exact ⟨(tak_lt hX hw).tr this.1, this.2⟩
          · split
            · rename_i hw; have := bounds_lt (T := T) (k := 107 + 2 * F 7) (F := F) (tak_xb (T := T) hX hw); exact ⟨(tak_lt hX hw).tr this.1, this.2⟩
            · have := spy_lt (T := T) (F := F) (adv_xb (T := T) hX); exact ⟨(adv_lt hX).tr this.1, this.2⟩
theorem l1_lt {T : Nat → Int32} {tp : Nat} {X : Rs} {F : Nat → Nat} (hX : XB tp X) : lt' tp X (rdL1 T tp X F).1 ∧ XB tp (rdL1 T tp X F).1 := by
  unfold rdL1
  split
  · exact first_lt hX
  · exact next_lt hX
def mw (tp : Nat) : Rs → Nat
  | .ok t => tp - t.1 + 1
  | .error _ => 0
theorem line_mw {T : Nat → Int32} {tp : Nat} {X : Rs} {F : Nat → Nat} (hX : XB tp X) (hg : gdX X = true) : mw tp (rdLine T tp X F).1 < mw tp X := by
  obtain ⟨t, ht⟩ := gd_ok hg
  obtain ⟨h1, h2⟩ := l1_lt (T := T) (F := F) hX
  have hb := (hX t ht).2.1
  unfold rdLine
  dsimp only
  cases hs : semX (rdL1 T tp X F).1 with
  | error e => rw [ht]; show 0 < tp - t.1 + 1; omega
  | ok u =>
    obtain ⟨h3, h4⟩ := semX_ok hs
    obtain ⟨t2, h5, h6, h7⟩ := h1 u h3
    have := h7 (by omega)
    have h8 := (h2 u h3).2.1
    have h9 := adv_gt (T := T) h8
    have h10 := adv_b (T := T) h8
    rw [ht] at h5
    cases h5
    rw [ht]
    show tp - (adv T tp u.1).1 + 1 < tp - t.1 + 1
    have := h10.2.1
    omega
theorem sem_xb {tp : Nat} {X : Rs} (h : XB tp X) : XB tp (semX X) := by
  intro u hu
  exact h u (semX_ok hu).1
theorem line_xb {T : Nat → Int32} {tp : Nat} {X : Rs} {F : Nat → Nat} (hX : XB tp X) : XB tp (rdLine T tp X F).1 := adv_xb (sem_xb (l1_lt hX).2)
/-- there stays room -/
theorem updN_IF {F : Nat → Nat} {j v : Nat} (h : IF F) (hj : j < 4 ∨ 8 < j) : IF (updN F j v) := by
  unfold IF
  rw [updN_n (by omega), updN_n (by omega), updN_n (by omega), updN_n (by omega), updN_n (by omega)]
  exact h
theorem updN_I2 {F G : Nat → Nat} {j : Nat} (h : IF F) (hG : IF G) (hj : j = 4 ∧ F 4 ≤ 8 ∨ j = 5 ∧ F 5 ≤ 3 ∨ j = 6 ∧ F 6 ≤ 7 ∨ j = 7 ∧ F 7 ≤ 3 ∨ j = 8 ∧ F 8 ≤ 4) : IF (updN G j (F j + 1)) := by
  obtain ⟨g4, g5, g6, g7, g8⟩ := hG
  unfold IF updN
  rcases hj with ⟨rfl, q⟩ | ⟨rfl, q⟩ | ⟨rfl, q⟩ | ⟨rfl, q⟩ | ⟨rfl, q⟩ <;> simp <;> omega
theorem line_IF {T : Nat → Int32} {tp : Nat} {X : Rs} {F : Nat → Nat} (hI : IF F) : IF (rdLine T tp X F).2 := by
  unfold rdLine
  refine updN_IF ?_ (by omega)
  unfold rdL1
  split
  · unfold rdFirst
    exact updN_IF (updN_IF (updN_IF (updN_IF hI (by omega)) (by omega)) (by omega)) (by omega)
  · unfold rdNext rdN2
    split
    · exact hI
    · rename_i hg
      replace hg : gdX (nxC T X F) = true := Bool.not_eq_false _ ▸ hg
      split
      · unfold rdNeed
        dsimp only
        split
        · exact updN_IF hI (by omega)
        · exact hI
      · rename_i w1
        split
        · rename_i hw
          have := room4 hI hg hw
          exact updN_I2 hI (updN_IF (updN_IF (updN_IF (updN_IF (updN_IF (updN_IF hI (by omega)) (by omega)) (by omega)) (by omega)) (by omega)) (by omega)) (Or.inl ⟨rfl, this⟩)
        · rename_i w2
          split
          · rename_i hw
            have := room5 hI hg hw
            exact updN_I2 hI (updN_IF (updN_IF hI (by omega)) (by omega)) (Or.inr (Or.inl ⟨rfl, this⟩))
          · rename_i w3
            split
            · rename_i hw
              have := room6 hI hg hw
              exact updN_I2 hI (updN_IF (updN_IF (updN_IF (updN_IF hI (by omega)) (by omega)) (by omega)) (by omega)) (Or.inr (Or.inr (Or.inl ⟨rfl, this⟩)))
            · rename_i w4
              split
              · rename_i hw
                have := room7 hI hg hw
                exact updN_I2 hI (updN_IF (updN_IF hI (by omega)) (by omega)) (Or.inr (Or.inr (Or.inr (Or.inl ⟨rfl, this⟩))))
              · rename_i w5
                have := room8 hI hg (Bool.eq_false_iff.mpr w1) (Bool.eq_false_iff.mpr w2) (Bool.eq_false_iff.mpr w3) (Bool.eq_false_iff.mpr w4) (Bool.eq_false_iff.mpr w5)
                unfold rdSpy
                split
                · exact hI
                · exact updN_I2 hI (updN_IF hI (by omega)) (Or.inr (Or.inr (Or.inr (Or.inr ⟨rfl, this⟩))))
def wrF (T : Nat → Int32) (tp : Nat) : Nat → Rs → (Nat → Nat) → Rs × (Nat → Nat)
  | 0, X, F => (X, F)
  | f + 1, X, F => if gdX X = true ∧ ¬ tokK X = 0 then wrF T tp f (rdLine T tp X F).1 (rdLine T tp X F).2 else (X, F)
theorem wrF_y {T : Nat → Int32} {tp f : Nat} {X : Rs} {F : Nat → Nat} (h : gdX X = true ∧ ¬ tokK X = 0) : wrF T tp (f + 1) X F = wrF T tp f (rdLine T tp X F).1 (rdLine T tp X F).2 := if_pos h
theorem wrF_n {T : Nat → Int32} {tp f : Nat} {X : Rs} {F : Nat → Nat} (h : ¬ (gdX X = true ∧ ¬ tokK X = 0)) : wrF T tp f X F = (X, F) := by
  cases f with
  | zero => rfl
  | succ f => exact if_neg h
def rdWar (T : Nat → Int32) (tp : Nat) : Rs × (Nat → Nat) := wrF T tp (tp + 3) (.ok (adv T tp 0)) (fun _ => 0)
set_option maxHeartbeats 4000000 in
theorem m_readLine {l : Launch} {g : Zg} {ad : Nat → Nat} {M : Zm} {st : Ms} (hm : Mod g ad M st) {tp : Nat} {T : Nat → Int32} {X : Rs} {F : Nat → Nat} (hg : Gok g) (hX : RSt st tp T X) (hF : FrR st F) (hI : IF F) (hF9 : F 9 < 2 ^ 30) : Cn l g yX11_readLine cX11_readLine 1 none 11 0 0 [.ref (ad 0)] M (PMG g ad st tp T (rdLine T tp X F)) := by
  refine Cn.start [(0, .ref (ad 0))] (by decide) (Nat.le_of_ble_eq_true rfl) rfl ?_
  intro γ el eg h hq
  subst el; subst eg
  have hk : kpF st st := kpF.rf st
  have join_52 : ∀ (M : Zm) (s1 : Ms) (hm : Mod (cg γ) ad M s1) (hk : kpF st s1) (hX : RSt s1 tp T (advX T tp (semX (rdL1 T tp X F).1))) (hF : FrR s1 ((rdL1 T tp X F).2)), Z γ M 0 0 52 (lof [(0, .ref (ad 0))]) [] := by
    intro M s1 hm hk hX hF
    refine z_aload_n 0 h dX11_readLine_52 rfl rfl rfl ?_
    refine z_get h kX11 (.inl (hm.at 0 (by decide))) 14 rfl q1861 rfl dX11_readLine_53 ?_
    refine z_bipush h dX11_readLine_56 kb_9 ?_
    refine z_dup2 h dX11_readLine_58 rfl rfl ?_
    refine z_ialdN (9) h (.inl (hm.at 14 (by decide))) rfl (by omega) (by decide) dX11_readLine_59 ?_
    rw [hF 9 (by decide)]
    refine z_iconst h dX11_readLine_60 ki_1 ?_
    refine z_iadd h dX11_readLine_61 ?_
    refine zm_iast 14 (9) h hm (by decide) (fun _ => rfl) rfl (by omega) (by decide) dX11_readLine_62 (fun M hm => ?_)
    generalize hs6 : uA s1 14 _ = s6 at hm
    replace hk := hk.A hs6
    replace hX := hX.up hs6
    replace hF := hF.up (v := (rdL1 T tp X F).2 9 + 1) hs6 (nI_1 _)
    exact z_vret h hq dX11_readLine_63 (Nat.le_of_ble_eq_true rfl) (Nat.le_of_ble_eq_true rfl) (⟨rfl, s6, hm, hk, hX, hF⟩)
  have join_41 : ∀ (M : Zm) (s1 : Ms) (hm : Mod (cg γ) ad M s1) (hk : kpF st s1) (hX : RSt s1 tp T (semX (rdL1 T tp X F).1)) (hF : FrR s1 ((rdL1 T tp X F).2)), Z γ M 0 0 41 (lof [(0, .ref (ad 0))]) [] := by
    intro M s1 hm hk hX hF
    refine z_aload_n 0 h dX11_readLine_41 rfl rfl rfl ?_
    refine z_callVP h (m_good hm hX) kX11 (.inl (hm.at 0 (by decide))) (lw_V q1987 q1989 qs66 q148 q1990) nX11_good rfl rfl rfl (Nat.le_of_ble_eq_true rfl) (Nat.le_of_ble_eq_true rfl) (Nat.le_of_ble_eq_true rfl) dX11_readLine_42 ?_
    refine z_ifz_eq 52 h dX11_readLine_45 (by decide) (fun c_45 => ?_) (fun c_45 => ?_)
    · have _z := c_45
      have hA : advX T tp (semX (rdL1 T tp X F).1) = semX (rdL1 T tp X F).1 := by (obtain ⟨e, he⟩ := gd_er c_45; rw [he]; rfl)
      refine Z.loc [(0, .ref (ad 0))] (ll1 rfl ll0) ?_
      exact join_52 _ _ hm hk (by rw [hA]; exact hX) hF
    · have _z := c_45
      obtain ⟨t, hYt⟩ := gd_ok c_45
      rw [hYt] at hX
      obtain ⟨hx, g12, g13, hT, hB⟩ := hX
      refine z_aload_n 0 h dX11_readLine_48 rfl rfl rfl ?_
      refine z_callV h (m_advance hm hx t.1 hT.1 hB.2.1) kX11 (.inl (hm.at 0 (by decide))) (lw_V q1973 q1975 qs64 q148 q1976) nX11_advance rfl rfl rfl (Nat.le_of_ble_eq_true rfl) (Nat.le_of_ble_eq_true rfl) (Nat.le_of_ble_eq_true rfl) dX11_readLine_49 (fun v M hv => ?_)
      obtain ⟨rfl, s2, hm, hkr, hT2⟩ := hv
      have hX := RSt.kp hx hkr g12 g13 hT2 (adv_b hB.2.1)
      replace hk := hk.tr hkr.D.F
      replace hF := hF.D hkr.D
      have hA : advX T tp (semX (rdL1 T tp X F).1) = .ok (adv T tp t.1) := by rw [hYt]; rfl
      refine Z.loc [(0, .ref (ad 0))] (ll1 rfl ll0) ?_
      exact join_52 _ _ hm hk (by rw [hA]; exact hX) hF
  have join_21 : ∀ (M : Zm) (s1 : Ms) (hm : Mod (cg γ) ad M s1) (hk : kpF st s1) (hX : RSt s1 tp T ((rdL1 T tp X F).1)) (hF : FrR s1 ((rdL1 T tp X F).2)), Z γ M 0 0 21 (lof [(0, .ref (ad 0))]) [] := by
    intro M s1 hm hk hX hF
    refine z_aload_n 0 h dX11_readLine_21 rfl rfl rfl ?_
    refine z_callVP h (m_good hm hX) kX11 (.inl (hm.at 0 (by decide))) (lw_V q1987 q1989 qs66 q148 q1990) nX11_good rfl rfl rfl (Nat.le_of_ble_eq_true rfl) (Nat.le_of_ble_eq_true rfl) (Nat.le_of_ble_eq_true rfl) dX11_readLine_22 ?_
    refine z_ifz_eq 41 h dX11_readLine_25 (by decide) (fun c_25 => ?_) (fun c_25 => ?_)
    · have _z := c_25
      have hS : semX (rdL1 T tp X F).1 = (rdL1 T tp X F).1 := if_neg (fun q => by rw [c_25] at q; exact absurd q.1 (by decide))
      refine Z.loc [(0, .ref (ad 0))] (ll1 rfl ll0) ?_
      exact join_41 _ _ hm hk (by rw [hS]; exact hX) hF
    · have _z := c_25
      have htk := hX.tk c_25
      refine z_aload_n 0 h dX11_readLine_28 rfl rfl rfl ?_
      refine z_get h kX11 (.inl (hm.at 0 (by decide))) 10 rfl q1857 rfl dX11_readLine_29 ?_
      rw [htk.1]
      refine z_iconst h dX11_readLine_32 ki_3 ?_
      refine z_icmp_eq 41 h dX11_readLine_33 (by decide) (fun c_33 => ?_) (fun c_33 => ?_)
      · have _z := c_33
        replace c_33 := (ieq (a := tokK (rdL1 T tp X F).1) (b := 3) rfl rfl (by omega) (by decide)).mp c_33
        have hS : semX (rdL1 T tp X F).1 = (rdL1 T tp X F).1 := if_neg (fun q => q.2 c_33)
        refine Z.loc [(0, .ref (ad 0))] (ll1 rfl ll0) ?_
        exact join_41 _ _ hm hk (by rw [hS]; exact hX) hF
      · have _z := c_33
        replace c_33 := (not_congr (ieq (a := tokK (rdL1 T tp X F).1) (b := 3) rfl rfl (by omega) (by decide))).mp c_33
        have hS : semX (rdL1 T tp X F).1 = errX 1 (rdL1 T tp X F).1 := if_pos ⟨c_25, c_33⟩
        refine z_aload_n 0 h dX11_readLine_36 rfl rfl rfl ?_
        refine z_iconst h dX11_readLine_37 ki_1 ?_
        refine z_callV h (m_errs hm hX 1 (by decide)) kX11 (.inl (hm.at 0 (by decide))) (lw_V q2014 q2016 qs72 q148 q2017) nX11_errs rfl rfl rfl (Nat.le_of_ble_eq_true rfl) (Nat.le_of_ble_eq_true rfl) (Nat.le_of_ble_eq_true rfl) dX11_readLine_38 (fun v M hv => ?_)
        obtain ⟨rfl, s2, hm, hkd, hX1⟩ := hv
        clear hX
        have hX := hX1
        clear hX1
        replace hk := hk.tr hkd.F
        replace hF := hF.D hkd
        refine Z.loc [(0, .ref (ad 0))] (ll1 rfl ll0) ?_
        exact join_41 _ _ hm hk (by rw [hS]; exact hX) hF
  refine z_aload_n 0 h dX11_readLine_0 rfl rfl rfl ?_
  refine z_get h kX11 (.inl (hm.at 0 (by decide))) 14 rfl q1861 rfl dX11_readLine_1 ?_
  refine z_bipush h dX11_readLine_4 kb_9 ?_
  refine z_ialdN (9) h (.inl (hm.at 14 (by decide))) rfl (by omega) (by decide) dX11_readLine_6 ?_
  rw [hF 9 (by decide)]
  refine z_if_ne 17 h dX11_readLine_7 (by decide) (fun c_7 => ?_) (fun c_7 => ?_)
  · have _z := c_7
    replace c_7 := (not_congr (ieq (a := F 9) (b := 0) rfl rfl (by omega) (by decide))).mp c_7
    have hL : rdL1 T tp X F = rdNext T tp X F := if_neg c_7
    refine z_aload_n 0 h dX11_readLine_17 rfl rfl rfl ?_
    refine z_callV h (m_readNext hm hg hX hF hI) kX11 (.inl (hm.at 0 (by decide))) (lw_V q2030 q2032 qs75 q148 q2033) nX11_readNext rfl rfl rfl (Nat.le_of_ble_eq_true rfl) (Nat.le_of_ble_eq_true rfl) (Nat.le_of_ble_eq_true rfl) dX11_readLine_18 (fun v M hv => ?_)
    obtain ⟨rfl, s2, hm, hkf, hX1, hF1⟩ := hv
    clear hX
    have hX := hX1
    clear hX1
    clear hF
    have hF := hF1
    clear hF1
    replace hk := hk.tr hkf
    refine Z.loc [(0, .ref (ad 0))] (ll1 rfl ll0) ?_
    exact join_21 _ _ hm hk (by rw [hL]; exact hX) (by rw [hL]; exact hF)
  · have _z := c_7
    replace c_7 := (ieq (a := F 9) (b := 0) rfl rfl (by omega) (by decide)).mp c_7
    have hL : rdL1 T tp X F = rdFirst T tp X F := if_pos c_7
    refine z_aload_n 0 h dX11_readLine_10 rfl rfl rfl ?_
    refine z_callV h (m_readFirst hm hg hX hF) kX11 (.inl (hm.at 0 (by decide))) (lw_V q1995 q1997 qs68 q148 q1998) nX11_readFirst rfl rfl rfl (Nat.le_of_ble_eq_true rfl) (Nat.le_of_ble_eq_true rfl) (Nat.le_of_ble_eq_true rfl) dX11_readLine_11 (fun v M hv => ?_)
    obtain ⟨rfl, s2, hm, hkf, hX1, hF1⟩ := hv
    clear hX
    have hX := hX1
    clear hX1
    clear hF
    have hF := hF1
    clear hF1
    replace hk := hk.tr hkf
    refine z_goto 21 h dX11_readLine_14 (by decide) ?_
    refine Z.loc [(0, .ref (ad 0))] (ll1 rfl ll0) ?_
    exact join_21 _ _ hm hk (by rw [hL]; exact hX) (by rw [hL]; exact hF)
