/-! the reference: how far reading comes; spies read -/
set_option maxRecDepth 100000
theorem skF_gt {p : Int → Bool} {T : Nat → Int32} {tp f a : Nat} (hp : p (-1) = false) (h : p (seeZ T tp a) = true) (ha : a ≤ tp) : a < skF p T tp (f + 1) a := by
  have h1 := c_e (p := p) (tp := tp) (k := a) hp h
  rw [skF_t h]
  have := skF_b (T := T) (tp := tp) hp f (a + 1) (by omega)
  omega
theorem nmF_gt {T : Nat → Int32} {tp f a v : Nat} (h : cDg (seeZ T tp a) = true) (ha : a ≤ tp) (hv : v ≤ 99999) : a < (nmF T tp (f + 1) a v).1 := by
  have h1 := c_e (p := cDg) (tp := tp) (k := a) (by decide) h
  rw [nmF_t h]
  have := nmF_b (T := T) (tp := tp) f (a + 1) (min 99999 (10 * v + (seeZ T tp a).toNat - 48)) (by omega) (by omega)
  omega
theorem adv_gt {T : Nat → Int32} {tp a : Nat} (ha : a ≤ tp) : a ≤ (adv T tp a).1 ∧ ((adv T tp a).2.2.1 ≠ 0 → a < (adv T tp a).1) := by
  have h1 := skF_b (T := T) (p := cSp) (by decide) (tp + 1) a ha
  unfold adv
  generalize skF cSp T tp (tp + 1) a = b at *
  unfold advT
  split
  · exact ⟨h1.1, fun q => absurd rfl q⟩
  · split
    · rename_i q
      have := skF_gt (f := tp) (by decide) q h1.2
      exact ⟨by show a ≤ skF cLo T tp (tp + 1) b; omega, fun _ => by show a < skF cLo T tp (tp + 1) b; omega⟩
    · split
      · rename_i q
        have := nmF_gt (f := tp) (v := 0) q h1.2 (by decide)
        exact ⟨by show a ≤ (nmF T tp (tp + 1) b 0).1; omega, fun _ => by show a < (nmF T tp (tp + 1) b 0).1; omega⟩
      · split
        · exact ⟨by show a ≤ b + 1; omega, fun _ => by show a < b + 1; omega⟩
        · exact ⟨by show a ≤ b + 1; omega, fun _ => by show a < b + 1; omega⟩
/-- what is read behind: good only if it was, and farther on -/
def XB (tp : Nat) (X : Rs) : Prop := ∀ t, X = .ok t → TkB tp t
def lt' (tp : Nat) (X Y : Rs) : Prop := ∀ u, Y = .ok u → ∃ t, X = .ok t ∧ t.1 ≤ u.1 ∧ (u.2.2.1 ≠ 0 → t.1 < u.1)
theorem lt'.tr {tp : Nat} {X Y Z : Rs} (h1 : lt' tp X Y) (h2 : lt' tp Y Z) : lt' tp X Z := by
  intro u hu
  obtain ⟨y, hy, h3, h4⟩ := h2 u hu
  obtain ⟨t, ht, h5, h6⟩ := h1 y hy
  exact ⟨t, ht, by omega, fun q => by have := h4 q; omega⟩
theorem RSt.xb {st : Ms} {tp : Nat} {T : Nat → Int32} {X : Rs} (h : RSt st tp T X) : XB tp X := by
  intro t e
  subst e
  exact h.2.2.2.2
theorem num_ok {T : Nat → Int32} {tp lo : Nat} {hi : Int} {X : Rs} {u : Tk} (h : numX T tp lo hi X = .ok u) : ∃ t, X = .ok t ∧ u = adv T tp t.1 ∧ t.2.2.1 = 2 ∧ numV lo hi X = t.2.2.2 ∧ lo ≤ t.2.2.2 ∧ (t.2.2.2 : Int) ≤ hi := by
  unfold numX at h
  cases hr : rngX lo hi (tokX X) with
  | error e => rw [hr] at h; cases h
  | ok t =>
    rw [hr] at h
    cases h
    obtain ⟨h1, h2, h3⟩ := rng_tok hr
    refine ⟨t, ?_, rfl, h1, by unfold numV; rw [hr]; rfl, h2, h3⟩
    cases X with
    | error e => cases hr
    | ok x =>
      unfold tokX at hr
      dsimp only at hr
      split at hr
      · unfold rngX at hr
        dsimp only at hr
        split at hr
        · exact hr
        · cases hr
      · cases hr
theorem wrd_ok {T : Nat → Int32} {tp : Nat} {w : List Nat} {X : Rs} {u : Tk} (h : wrdX T tp w X = .ok u) : ∃ t, X = .ok t ∧ u = adv T tp t.1 ∧ isX T w X = true := by
  cases X with
  | error e => cases h
  | ok t =>
    replace h : (if isX T w (.ok t) = true then Except.ok (adv T tp t.1) else Except.error (1, t.2.1)) = .ok u := h
    split at h
    · rename_i q; cases h; exact ⟨t, rfl, rfl, q⟩
    · cases h
theorem num_lt {T : Nat → Int32} {tp lo : Nat} {hi : Int} {X : Rs} (hX : XB tp X) : lt' tp X (numX T tp lo hi X) := by
  intro u hu
  obtain ⟨t, h1, h2, -⟩ := num_ok hu
  have := adv_gt (T := T) (hX t h1).2.1
  subst h2
  exact ⟨t, h1, this.1, this.2⟩
theorem wrd_lt {T : Nat → Int32} {tp : Nat} {w : List Nat} {X : Rs} (hX : XB tp X) : lt' tp X (wrdX T tp w X) := by
  intro u hu
  obtain ⟨t, h1, h2, -⟩ := wrd_ok hu
  have := adv_gt (T := T) (hX t h1).2.1
  subst h2
  exact ⟨t, h1, this.1, this.2⟩
theorem num_xb {T : Nat → Int32} {tp lo : Nat} {hi : Int} {X : Rs} (hX : XB tp X) : XB tp (numX T tp lo hi X) := by
  intro u hu
  obtain ⟨t, h1, h2, -⟩ := num_ok hu
  subst h2
  exact adv_b (hX t h1).2.1
theorem wrd_xb {T : Nat → Int32} {tp : Nat} {w : List Nat} {X : Rs} (hX : XB tp X) : XB tp (wrdX T tp w X) := by
  intro u hu
  obtain ⟨t, h1, h2, -⟩ := wrd_ok hu
  subst h2
  exact adv_b (hX t h1).2.1
theorem tld_lt {T : Nat → Int32} {tp : Nat} {w : List Nat} {lo : Nat} {hi : Int} {X : Rs} (hX : XB tp X) : lt' tp X (tldX T tp w lo hi X) := (wrd_lt hX).tr (num_lt (wrd_xb hX))
theorem tld_xb {T : Nat → Int32} {tp : Nat} {w : List Nat} {lo : Nat} {hi : Int} {X : Rs} (hX : XB tp X) : XB tp (tldX T tp w lo hi X) := num_xb (wrd_xb hX)
def tokK : Rs → Nat
  | .ok t => t.2.2.1
  | .error _ => 0
def mz (tp : Nat) : Rs → Nat
  | .ok t => if t.2.2.1 = 0 then 1 else tp - t.1 + 2
  | .error _ => 1
theorem num_mz {T : Nat → Int32} {tp lo : Nat} {hi : Int} {X : Rs} (hX : XB tp X) (hg : gdX (numX T tp lo hi X) = true) : mz tp (numX T tp lo hi X) < mz tp X := by
  obtain ⟨u, hu⟩ := gd_ok hg
  obtain ⟨t, h1, h2, h3, -⟩ := num_ok hu
  have h4 := adv_gt (T := T) (hX t h1).2.1
  have h5 := adv_b (T := T) (hX t h1).2.1
  rw [hu, h1]
  subst h2
  unfold mz
  dsimp only
  rw [if_neg (show ¬ t.2.2.1 = 0 by omega)]
  have := (hX t h1).2.1
  split
  · omega
  · rename_i q
    have := h4.2 q
    have := h5.2.1
    omega
def spF (T : Nat → Int32) (tp n : Nat) : Nat → Rs → Nat → Rs × Option Nat
  | 0, X, _ => (X, none)
  | f + 1, X, s =>
    if gdX (numX T tp 0 ((n : Int) - 1) X) = true then
      (if tokK (numX T tp 0 ((n : Int) - 1) X) = 3 then (numX T tp 0 ((n : Int) - 1) X, some (s ||| 2 ^ numV 0 ((n : Int) - 1) X)) else spF T tp n f (numX T tp 0 ((n : Int) - 1) X) (s ||| 2 ^ numV 0 ((n : Int) - 1) X))
    else (numX T tp 0 ((n : Int) - 1) X, none)
theorem spF_e {T : Nat → Int32} {tp n f s : Nat} {X : Rs} (h : gdX (numX T tp 0 ((n : Int) - 1) X) = false) : spF T tp n (f + 1) X s = (numX T tp 0 ((n : Int) - 1) X, none) := by
  unfold spF
  rw [h]
  rfl
theorem spF_3 {T : Nat → Int32} {tp n f s : Nat} {X : Rs} (h : gdX (numX T tp 0 ((n : Int) - 1) X) = true) (h3 : tokK (numX T tp 0 ((n : Int) - 1) X) = 3) : spF T tp n (f + 1) X s = (numX T tp 0 ((n : Int) - 1) X, some (s ||| 2 ^ numV 0 ((n : Int) - 1) X)) := by
  unfold spF
  rw [if_pos h, if_pos h3]
theorem spF_n {T : Nat → Int32} {tp n f s : Nat} {X : Rs} (h : gdX (numX T tp 0 ((n : Int) - 1) X) = true) (h3 : ¬ tokK (numX T tp 0 ((n : Int) - 1) X) = 3) : spF T tp n (f + 1) X s = spF T tp n f (numX T tp 0 ((n : Int) - 1) X) (s ||| 2 ^ numV 0 ((n : Int) - 1) X) := by
  rw [spF, if_pos h, if_neg h3]
def rdSpy (T : Nat → Int32) (tp : Nat) (X : Rs) (F : Nat → Nat) : Rs × (Nat → Nat) :=
  match spF T tp (F 4) (tp + 3) (wrdX T tp (txN 16) X) 0 with
  | (X1, none) => (X1, F)
  | (X1, some s) => (X1, updN (updN F (115 + F 8) s) 8 (F 8 + 1))
theorem mz_le (tp : Nat) (X : Rs) : mz tp X ≤ tp + 2 := by
  unfold mz
  split
  · split <;> omega
  · omega
theorem RSt.tk {st : Ms} {tp : Nat} {T : Nat → Int32} {X : Rs} (h : RSt st tp T X) (hg : gdX X = true) : st.1 10 = nI (tokK X) ∧ tokK X ≤ 4 := by
  obtain ⟨t, rfl⟩ := gd_ok hg
  exact ⟨h.2.2.2.1.2.2.1, h.2.2.2.2.2.2.1⟩
theorem num_v {T : Nat → Int32} {tp lo : Nat} {hi : Int} {X : Rs} (hg : gdX (numX T tp lo hi X) = true) : lo ≤ numV lo hi X ∧ (numV lo hi X : Int) ≤ hi := by
  obtain ⟨u, hu⟩ := gd_ok hg
  obtain ⟨t, h1, h2, h3, h4, h5, h6⟩ := num_ok hu
  rw [h4]
  exact ⟨h5, h6⟩
set_option maxHeartbeats 4000000 in
theorem m_readSpy {l : Launch} {g : Zg} {ad : Nat → Nat} {M : Zm} {st : Ms} (hm : Mod g ad M st) {tp : Nat} {T : Nat → Int32} {X : Rs} {F : Nat → Nat} (hg : Gok g) (hX : RSt st tp T X) (hF : FrR st F) (hF4 : F 4 ≤ 9) (hF8 : F 8 ≤ 4) : Cn l g yX11_readSpy cX11_readSpy 3 none 8 0 0 [.ref (ad 0)] M (PMG g ad st tp T (rdSpy T tp X F)) := by
  refine Cn.start [(0, .ref (ad 0))] (by decide) (Nat.le_of_ble_eq_true rfl) rfl ?_
  intro γ el eg h hq
  subst el; subst eg
  have hk : kpF st st := kpF.rf st
  refine z_aload_n 0 h dX11_readSpy_0 rfl rfl rfl ?_
  refine z_ldcS h twX11_192 dX11_readSpy_1 ?_
  refine z_callV h (m_needs hm hX hg (hg.2.2 16 (by decide))) kX11 (.inl (hm.at 0 (by decide))) (lw_V q2000 q2002 qs69 q148 q2003) nX11_needs rfl rfl rfl (Nat.le_of_ble_eq_true rfl) (Nat.le_of_ble_eq_true rfl) (Nat.le_of_ble_eq_true rfl) dX11_readSpy_3 (fun v M hv => ?_)
  obtain ⟨rfl, s1, hm, hkd, hX1⟩ := hv
  clear hX
  have hX := hX1
  clear hX1
  replace hk := hk.tr hkd.F
  replace hF := hF.D hkd
  refine z_iconst h dX11_readSpy_6 ki_0 ?_
  refine z_istore_n 1 h dX11_readSpy_7 rfl rfl ?_
  have loop_8 : ∀ (fz : Nat) (M : Zm) (s1 : Ms) (Xk : Rs) (s : Nat) (f : Nat) (hm : Mod (cg γ) ad M s1) (hk : kpF st s1) (hX : RSt s1 tp T Xk) (hF : FrR s1 F) (hs9 : s < 2 ^ 9) (hmf : mz tp Xk < f) (hS : spF T tp (F 4) f Xk s = spF T tp (F 4) (tp + 3) (wrdX T tp (txN 16) X) 0), (f) < fz → Z γ M 0 0 8 (lof [(0, .ref (ad 0)), (1, .int (nI s))]) [] := by
    intro fz
    induction fz with
    | zero => intro M s1 Xk s f hm hk hX hF hs9 hmf hS hz; exact absurd hz (Nat.not_lt_zero _)
    | succ fz ih_8 =>
      intro M s1 Xk s f hm hk hX hF hs9 hmf hS hz_8
      obtain ⟨f, rfl⟩ : ∃ q, f = q + 1 := ⟨f - 1, by omega⟩
      have hXB := hX.xb
      refine z_aload_n 0 h dX11_readSpy_8 rfl rfl rfl ?_
      refine z_iconst h dX11_readSpy_9 ki_0 ?_
      refine z_aload_n 0 h dX11_readSpy_10 rfl rfl rfl ?_
      refine z_get h kX11 (.inl (hm.at 0 (by decide))) 14 rfl q1861 rfl dX11_readSpy_11 ?_
      refine z_iconst h dX11_readSpy_14 ki_4 ?_
      refine z_ialdN (4) h (.inl (hm.at 14 (by decide))) rfl (by omega) (by decide) dX11_readSpy_15 ?_
      rw [hF 4 (by decide)]
      refine z_iconst h dX11_readSpy_16 ki_1 ?_
      refine z_isub h dX11_readSpy_17 ?_
      refine Z.st (show _ = _ by rw [show nI (F 4) - 1 = iI (((F 4 : Nat) : Int) - 1) from zsub (nz rfl) rfl]) ?_
      refine z_callV h (m_number hm hX 0 ((F 4 : Int) - 1) (by omega) (by omega)) kX11 (.inl (hm.at 0 (by decide))) (lw_V q2023 q2025 qs74 q148 q2026) nX11_number rfl rfl rfl (Nat.le_of_ble_eq_true rfl) (Nat.le_of_ble_eq_true rfl) (Nat.le_of_ble_eq_true rfl) dX11_readSpy_18 (fun v M hv => ?_)
      obtain ⟨rfl, s2, hm, hkd, hX1⟩ := hv
      clear hX
      have hX := hX1
      clear hX1
      replace hk := hk.tr hkd.F
      replace hF := hF.D hkd
      refine z_istore_n 2 h dX11_readSpy_21 rfl rfl ?_
      refine z_aload_n 0 h dX11_readSpy_22 rfl rfl rfl ?_
      refine z_callVP h (m_good hm hX) kX11 (.inl (hm.at 0 (by decide))) (lw_V q1987 q1989 qs66 q148 q1990) nX11_good rfl rfl rfl (Nat.le_of_ble_eq_true rfl) (Nat.le_of_ble_eq_true rfl) (Nat.le_of_ble_eq_true rfl) dX11_readSpy_23 ?_
      refine z_ifz_ne 30 h dX11_readSpy_26 (by decide) (fun c_26 => ?_) (fun c_26 => ?_)
      · have _z := c_26
        have hvb := num_v c_26
        have hpw := pow_b (k := numV 0 ((F 4 : Int) - 1) Xk) (n := 8) (by omega)
        have horl := Nat.or_lt_two_pow (n := 9) hs9 (show 2 ^ numV 0 ((F 4 : Int) - 1) Xk < 2 ^ 9 by omega)
        have htk := hX.tk c_26
        have hmz := num_mz hXB c_26
        refine z_iload_n 1 h dX11_readSpy_30 rfl rfl ?_
        refine z_iconst h dX11_readSpy_31 ki_1 ?_
        refine z_iload_n 2 h dX11_readSpy_32 rfl rfl ?_
        refine z_ishl h dX11_readSpy_33 ?_
        refine Z.st (show _ = .int (nI (2 ^ numV 0 ((F 4 : Int) - 1) Xk)) :: _ by rw [shl_N _ (by omega)]) ?_
        refine z_ior h dX11_readSpy_34 ?_
        refine Z.st (show _ = .int (nI (s ||| 2 ^ numV 0 ((F 4 : Int) - 1) Xk)) :: _ by rw [or_nI (by omega) (by omega)]) ?_
        refine z_istore_n 1 h dX11_readSpy_35 rfl rfl ?_
        refine z_aload_n 0 h dX11_readSpy_36 rfl rfl rfl ?_
        refine z_get h kX11 (.inl (hm.at 0 (by decide))) 10 rfl q1857 rfl dX11_readSpy_37 ?_
        rw [htk.1]
        refine z_iconst h dX11_readSpy_40 ki_3 ?_
        refine z_icmp_ne 8 h dX11_readSpy_41 (by decide) (fun c_41 => ?_) (fun c_41 => ?_)
        · have _z := c_41
          replace c_41 := (not_congr (ieq (a := tokK (numX T tp 0 ((F 4 : Int) - 1) Xk)) (b := 3) rfl rfl (by omega) (by decide))).mp c_41
          refine Z.loc [(0, .ref (ad 0)), (1, .int (nI (s ||| 2 ^ numV 0 ((F 4 : Int) - 1) Xk)))] (ll1 rfl (ll1 rfl ll0)) ?_
          exact ih_8 _ _ _ (s ||| 2 ^ numV 0 ((F 4 : Int) - 1) Xk) f hm hk hX hF horl (by omega) (by rw [← hS, spF_n c_26 (by omega)]) (by omega)
        · have _z := c_41
          replace c_41 := (ieq (a := tokK (numX T tp 0 ((F 4 : Int) - 1) Xk)) (b := 3) rfl rfl (by omega) (by decide)).mp c_41
          refine z_aload_n 0 h dX11_readSpy_44 rfl rfl rfl ?_
          refine z_get h kX11 (.inl (hm.at 0 (by decide))) 14 rfl q1861 rfl dX11_readSpy_45 ?_
          refine z_bipush h dX11_readSpy_48 kb_115 ?_
          refine z_aload_n 0 h dX11_readSpy_50 rfl rfl rfl ?_
          refine z_get h kX11 (.inl (hm.at 0 (by decide))) 14 rfl q1861 rfl dX11_readSpy_51 ?_
          refine z_bipush h dX11_readSpy_54 kb_8 ?_
          refine z_ialdN (8) h (.inl (hm.at 14 (by decide))) rfl (by omega) (by decide) dX11_readSpy_56 ?_
          rw [hF 8 (by decide)]
          refine z_iadd h dX11_readSpy_57 ?_
          refine z_iload_n 1 h dX11_readSpy_58 rfl rfl ?_
          refine zm_iast 14 (115 + (F 8)) h hm (by decide) (fun _ => rfl) (ixa rfl rfl) (by omega) (by decide) dX11_readSpy_59 (fun M hm => ?_)
          generalize hs3 : uA s2 14 _ = s3 at hm
          replace hk := hk.A hs3
          replace hX := hX.up hs3
          replace hF := hF.up (v := _) hs3 rfl
          refine z_aload_n 0 h dX11_readSpy_60 rfl rfl rfl ?_
          refine z_get h kX11 (.inl (hm.at 0 (by decide))) 14 rfl q1861 rfl dX11_readSpy_61 ?_
          refine z_bipush h dX11_readSpy_64 kb_8 ?_
          refine z_dup2 h dX11_readSpy_66 rfl rfl ?_
          refine z_ialdN (8) h (.inl (hm.at 14 (by decide))) rfl (by omega) (by decide) dX11_readSpy_67 ?_
          rw [hF 8 (by decide), updN_n (by omega)]
          refine z_iconst h dX11_readSpy_68 ki_1 ?_
          refine z_iadd h dX11_readSpy_69 ?_
          refine zm_iast 14 (8) h hm (by decide) (fun _ => rfl) rfl (by omega) (by decide) dX11_readSpy_70 (fun M hm => ?_)
          generalize hs4 : uA s3 14 _ = s4 at hm
          replace hk := hk.A hs4
          replace hX := hX.up hs4
          replace hF := hF.up (v := F 8 + 1) hs4 (nI_1 _)
          refine z_vret h hq dX11_readSpy_71 (Nat.le_of_ble_eq_true rfl) (Nat.le_of_ble_eq_true rfl) ?_
          refine ⟨rfl, s4, hm, hk, ?_, ?_⟩
          · unfold rdSpy; rw [← hS, spF_3 c_26 (by omega)]; exact hX
          · unfold rdSpy; rw [← hS, spF_3 c_26 (by omega)]; exact hF
      · have _z := c_26
        refine z_vret h hq dX11_readSpy_29 (Nat.le_of_ble_eq_true rfl) (Nat.le_of_ble_eq_true rfl) ?_
        refine ⟨rfl, s2, hm, hk, ?_, ?_⟩
        · unfold rdSpy; rw [← hS, spF_e c_26]; exact hX
        · unfold rdSpy; rw [← hS, spF_e c_26]; exact hF
  refine Z.loc [(0, .ref (ad 0)), (1, .int (nI 0))] (ll1 rfl (ll1 rfl ll0)) ?_
  exact loop_8 _ _ _ _ 0 (tp + 3) hm hk hX hF (by decide) (by have := mz_le tp (wrdX T tp (txN 16) X); omega) rfl (Nat.lt_succ_self _)
