/-! the reference: a war read -/
set_option maxRecDepth 100000
def aWar (T : Nat → Int32) (tp : Nat) : Int32 := if gdX (rdWar T tp).1 = true then nI ((rdWar T tp).2 9) else -4
def wWar (W : Nat → Nat) (T : Nat → Int32) (tp : Nat) : Nat → Nat := if gdX (rdWar T tp).1 = true then (rdWar T tp).2 else W
def fkX : Rs → Int32
  | .ok _ => 0
  | .error e => nI e.1
def fpX : Rs → Int32
  | .ok _ => -1
  | .error e => nI e.2
theorem RSt.fk {st : Ms} {tp : Nat} {T : Nat → Int32} {X : Rs} (h : RSt st tp T X) : st.1 12 = fkX X ∧ st.1 13 = fpX X := by
  cases X with
  | ok t => exact ⟨h.2.1, h.2.2.1⟩
  | error e => exact ⟨h.2.1, h.2.2.2.2⟩
theorem l1_9 {T : Nat → Int32} {tp : Nat} {X : Rs} {F : Nat → Nat} : (rdL1 T tp X F).2 9 = F 9 := by
  unfold rdL1
  split
  · unfold rdFirst
    dsimp only
    rw [updN_n (by decide), updN_n (by decide), updN_n (by decide), updN_n (by decide)]
  · unfold rdNext rdN2
    split
    · rfl
    · split
      · unfold rdNeed
        dsimp only
        split
        · rw [updN_n (by omega)]
        · rfl
      · split
        · unfold rdTrain
          dsimp only
          rw [updN_n (by decide), updN_n (by omega), updN_n (by omega), updN_n (by omega), updN_n (by omega), updN_n (by omega), updN_n (by omega)]
        · split
          · unfold bump rdBounds
            dsimp only
            rw [updN_n (by decide), updN_n (by omega), updN_n (by omega)]
          · split
            · unfold rdAsk
              dsimp only
              rw [updN_n (by decide), updN_n (by omega), updN_n (by omega), updN_n (by omega), updN_n (by omega)]
            · split
              · unfold bump rdBounds
                dsimp only
                rw [updN_n (by decide), updN_n (by omega), updN_n (by omega)]
              · unfold rdSpy
                split
                · rfl
                · dsimp only
                  rw [updN_n (by decide), updN_n (by omega)]
theorem line_9 {T : Nat → Int32} {tp : Nat} {X : Rs} {F : Nat → Nat} : (rdLine T tp X F).2 9 = F 9 + 1 := by
  unfold rdLine
  dsimp only
  rw [updN_s, l1_9]
def kpV (B : List Nat) (st st' : Ms) : Prop := ∀ k ∈ ([1, 2, 3, 4, 28, 29] : List Nat), k ∉ B → st'.2.1 k = st.2.1 k
theorem kpV.rf (B : List Nat) (st : Ms) : kpV B st st := fun _ _ _ => rfl
theorem kpV.A {B : List Nat} {a st s1 : Ms} {f : Nat → Int32} {q : Nat} (hq : q ∈ B ∨ q ∉ ([1, 2, 3, 4, 28, 29] : List Nat)) (h : kpV B a st) (e : uA st q f = s1) : kpV B a s1 := by
  intro k hk hB
  rw [← h k hk hB]
  refine (atq e).2 k (fun r => ?_)
  subst r
  rcases hq with q | q
  · exact hB q
  · exact q hk
theorem kpV.S {B : List Nat} {a st s1 : Ms} {v : Int32} {q : Nat} (h : kpV B a st) (e : uS st q v = s1) : kpV B a s1 := by
  intro k hk hB
  rw [← h k hk hB, (atS e).2.2]
theorem kpV.F {B : List Nat} {a st s1 : Ms} (h : kpV B a st) (e : kpF st s1) : kpV B a s1 := by
  intro k hk hB
  rw [← h k hk hB]
  exact e.2 k (fun r => by subst r; exact absurd hk (by decide))
def PMX (g : Zg) (ad : Nat → Nat) (st : Ms) (v : Option Value) (X : Ms → Prop) : Option Value → Zm → Prop := fun r M' => r = v ∧ ∃ st' : Ms, Mod g ad M' st' ∧ kpV [1] st st' ∧ X st'
theorem kpV.w {B B2 : List Nat} {a b : Ms} (h : kpV B a b) (hs : ∀ k, k ∈ B → k ∈ B2) : kpV B2 a b := fun k hk hB => h k hk (fun q => hB (hs k q))
set_option maxHeartbeats 4000000 in
theorem m_war {l : Launch} {g : Zg} {ad : Nat → Nat} {M : Zm} {st : Ms} {W : Nat → Nat} (hm : Mod g ad M st) (hw : WR st W) (hi : InvW W) {tp : Nat} {T : Nat → Int32} (hg : Gok g) (hT : TpR st tp T)  : Cn l g yX11_war cX11_war 2 (some .int) 12 0 0 [.ref (ad 0)] M (PMX g ad st (some (.int (aWar T tp))) (fun s9 => s9.1 5 = 0 ∧ s9.1 12 = fkX (rdWar T tp).1 ∧ s9.1 13 = fpX (rdWar T tp).1 ∧ WR s9 (wWar W T tp))) := by
  refine Cn.start [(0, .ref (ad 0))] (by decide) (Nat.le_of_ble_eq_true rfl) rfl ?_
  intro γ el eg h hq
  subst el; subst eg
  obtain ⟨ht0, ht5, ht4⟩ := hT
  have hk : kpV [] st st := kpV.rf _ st
  have join_75 : ∀ (M : Zm) (s1 : Ms) (hm : Mod (cg γ) ad M s1) (hk : kpV [] st s1) (hX : RSt s1 tp T (rdWar T tp).1) (hF9 : FrR s1 (rdWar T tp).2) (h5 : s1.1 5 = 0), Z γ M 0 0 75 (lof [(0, .ref (ad 0))]) [] := by
    intro M s1 hm hk hX hF9 h5
    refine z_aload_n 0 h dX11_war_75 rfl rfl rfl ?_
    refine z_callVP h (m_good hm hX) kX11 (.inl (hm.at 0 (by decide))) (lw_V q1987 q1989 qs66 q148 q1990) nX11_good rfl rfl rfl (Nat.le_of_ble_eq_true rfl) (Nat.le_of_ble_eq_true rfl) (Nat.le_of_ble_eq_true rfl) dX11_war_76 ?_
    refine z_ifz_ne 85 h dX11_war_79 (by decide) (fun c_79 => ?_) (fun c_79 => ?_)
    · have _z := c_79
      refine z_iconst h dX11_war_85 ki_0 ?_
      refine z_istore_n 1 h dX11_war_86 rfl rfl ?_
      have loop_87 : ∀ (fz : Nat) (M : Zm) (s2 : Ms) (k : Nat) (hm : Mod (cg γ) ad M s2) (hk : kpV [1] st s2) (hk2 : k ≤ 240) (hsc : s2.1 = s1.1) (hF9 : FrR s2 (rdWar T tp).2) (hcp : ∀ j, j < k → s2.2.1 1 j = nI ((rdWar T tp).2 j)), (240 - k) < fz → Z γ M 0 0 87 (lof [(0, .ref (ad 0)), (1, .int (nI k))]) [] := by
        intro fz
        induction fz with
        | zero => intro M s2 k hm hk hk2 hsc hF9 hcp hz; exact absurd hz (Nat.not_lt_zero _)
        | succ fz ih_87 =>
          intro M s2 k hm hk hk2 hsc hF9 hcp hz_87
          refine z_iload_n 1 h dX11_war_87 rfl rfl ?_
          refine z_sipush h dX11_war_88 ks_240 ?_
          refine z_icmp_ge 112 h dX11_war_91 (by decide) (fun c_91 => ?_) (fun c_91 => ?_)
          · have _z := c_91
            replace c_91 := (ile (a := 240) (b := k) rfl rfl (by decide) (by omega)).mp c_91
            refine z_aload_n 0 h dX11_war_112 rfl rfl rfl ?_
            refine z_get h kX11 (.inl (hm.at 0 (by decide))) 1 rfl q1848 rfl dX11_war_113 ?_
            refine z_bipush h dX11_war_116 kb_9 ?_
            refine z_ialdN (9) h (.inl (hm.at 1 (by decide))) rfl (by omega) (by decide) dX11_war_118 ?_
            refine Z.st (show _ = .int (nI ((rdWar T tp).2 9)) :: _ by rw [hcp 9 (by omega)]) ?_
            refine z_iret h hq dX11_war_119 (Nat.le_of_ble_eq_true rfl) (Nat.le_of_ble_eq_true rfl) ?_
            refine ⟨vS (by unfold aWar; rw [c_79]; rfl), s2, hm, hk, by rw [hsc]; exact h5, by rw [hsc]; exact hX.fk.1, by rw [hsc]; exact hX.fk.2, ?_⟩
            unfold wWar
            rw [c_79, if_pos rfl]
            exact fun q hq => hcp q (by omega)
          · have _z := c_91
            replace c_91 := (not_congr (ile (a := 240) (b := k) rfl rfl (by decide) (by omega))).mp c_91
            refine z_aload_n 0 h dX11_war_94 rfl rfl rfl ?_
            refine z_get h kX11 (.inl (hm.at 0 (by decide))) 1 rfl q1848 rfl dX11_war_95 ?_
            refine z_iload_n 1 h dX11_war_98 rfl rfl ?_
            refine z_aload_n 0 h dX11_war_99 rfl rfl rfl ?_
            refine z_get h kX11 (.inl (hm.at 0 (by decide))) 14 rfl q1861 rfl dX11_war_100 ?_
            refine z_iload_n 1 h dX11_war_103 rfl rfl ?_
            refine z_ialdN (k) h (.inl (hm.at 14 (by decide))) rfl (by omega) (by decide) dX11_war_104 ?_
            rw [hF9 k (by omega)]
            refine zm_iast 1 (k) h hm (by decide) (fun _ => rfl) rfl (by omega) (by decide) dX11_war_105 (fun M hm => ?_)
            generalize hs : uA s2 1 _ = s3 at hm
            replace hk := hk.A (Or.inl (by decide)) hs
            obtain ⟨g1, g2⟩ := atq hs
            have y1 : s3.1 = s2.1 := by rw [← hs]; rfl
            refine z_iinc h dX11_war_106 rfl rfl ki_1 ?_
            refine z_goto 87 h dX11_war_109 (by decide) ?_
            refine Z.loc [(0, .ref (ad 0)), (1, .int (nI (k + 1)))] (ll1 rfl (ll1 (vS (nI_1 k)) ll0)) ?_
            exact ih_87 _ _ (k + 1) hm hk (by omega) (y1.trans hsc) (fun q hq => by rw [g2 14 (by decide)]; exact hF9 q hq) (by rw [g1]; exact up_cp (f := fun j => nI ((rdWar T tp).2 j)) rfl hcp) (by omega)
      refine Z.loc [(0, .ref (ad 0)), (1, .int (nI 0))] (ll1 rfl (ll1 rfl ll0)) ?_
      exact loop_87 _ _ _ 0 hm (hk.w (fun k q => by cases q)) (Nat.zero_le _) rfl hF9 (fun j hj => absurd hj (Nat.not_lt_zero j)) (Nat.lt_succ_self _)
    · have _z := c_79
      refine z_bipush h dX11_war_82 kb_m4 ?_
      refine z_iret h hq dX11_war_84 (Nat.le_of_ble_eq_true rfl) (Nat.le_of_ble_eq_true rfl) ?_
      obtain ⟨k12, k13⟩ := hX.fk
      refine ⟨vS (by unfold aWar; rw [c_79]; rfl), s1, hm, hk.w (fun k q => by cases q), h5, k12, k13, ?_⟩
      unfold wWar
      rw [c_79, if_neg (by decide)]
      exact fun k q => by rw [hk 1 (by decide) (by decide)]; exact hw k q
  refine z_aload_n 0 h dX11_war_0 rfl rfl rfl ?_
  refine z_aload_n 0 h dX11_war_1 rfl rfl rfl ?_
  refine z_get h kX11 (.inl (hm.at 0 (by decide))) 5 rfl q1852 rfl dX11_war_2 ?_
  rw [ht5]
  refine zm_put 7 h hm (by decide) q1854 dX11_war_5 (fun M hm => ?_)
  generalize hs : uS st 7 _ = s1 at hm
  replace hk := hk.S hs
  obtain ⟨f7, e7, d7⟩ := atS hs
  clear hs
  refine z_aload_n 0 h dX11_war_8 rfl rfl rfl ?_
  refine z_iconst h dX11_war_9 ki_0 ?_
  refine zm_put 5 h hm (by decide) q1852 dX11_war_10 (fun M hm => ?_)
  generalize hs : uS s1 5 _ = s2 at hm
  replace hk := hk.S hs
  obtain ⟨f5, e5, d5⟩ := atS hs
  clear hs
  refine z_aload_n 0 h dX11_war_13 rfl rfl rfl ?_
  refine z_iconst h dX11_war_14 ki_0 ?_
  refine zm_put 8 h hm (by decide) q1855 dX11_war_15 (fun M hm => ?_)
  generalize hs : uS s2 8 _ = s3 at hm
  replace hk := hk.S hs
  obtain ⟨f8, e8, d8⟩ := atS hs
  clear hs
  refine z_aload_n 0 h dX11_war_18 rfl rfl rfl ?_
  refine z_iconst h dX11_war_19 ki_0 ?_
  refine zm_put 12 h hm (by decide) q1859 dX11_war_20 (fun M hm => ?_)
  generalize hs : uS s3 12 _ = s4 at hm
  replace hk := hk.S hs
  obtain ⟨f12, e12, d12⟩ := atS hs
  clear hs
  refine z_aload_n 0 h dX11_war_23 rfl rfl rfl ?_
  refine z_iconst h dX11_war_24 ki_m1 ?_
  refine zm_put 13 h hm (by decide) q1860 dX11_war_25 (fun M hm => ?_)
  generalize hs : uS s4 13 _ = s5 at hm
  replace hk := hk.S hs
  obtain ⟨f13, e13, d13⟩ := atS hs
  clear hs
  have x7 : s5.1 7 = nI tp := (e13 7 (by decide)).trans ((e12 7 (by decide)).trans ((e8 7 (by decide)).trans ((e5 7 (by decide)).trans f7)))
  have x5 : s5.1 5 = 0 := (e13 5 (by decide)).trans ((e12 5 (by decide)).trans ((e8 5 (by decide)).trans f5))
  have x8 : s5.1 8 = nI 0 := (e13 8 (by decide)).trans ((e12 8 (by decide)).trans f8)
  have x12 : s5.1 12 = 0 := (e13 12 (by decide)).trans f12
  refine z_iconst h dX11_war_28 ki_0 ?_
  refine z_istore_n 1 h dX11_war_29 rfl rfl ?_
  have loop_30 : ∀ (fz : Nat) (M : Zm) (s6 : Ms) (i : Nat) (hm : Mod (cg γ) ad M s6) (hk : kpV [] st s6) (hi2 : i ≤ 240) (hsc : s6.1 = s5.1) (hz : ∀ j, j < i → s6.2.1 14 j = 0), (240 - i) < fz → Z γ M 0 0 30 (lof [(0, .ref (ad 0)), (1, .int (nI i))]) [] := by
    intro fz
    induction fz with
    | zero => intro M s6 i hm hk hi2 hsc hz hz; exact absurd hz (Nat.not_lt_zero _)
    | succ fz ih_30 =>
      intro M s6 i hm hk hi2 hsc hz hz_30
      refine z_iload_n 1 h dX11_war_30 rfl rfl ?_
      refine z_sipush h dX11_war_31 ks_240 ?_
      refine z_icmp_ge 50 h dX11_war_34 (by decide) (fun c_34 => ?_) (fun c_34 => ?_)
      · have _z := c_34
        replace c_34 := (ile (a := 240) (b := i) rfl rfl (by decide) (by omega)).mp c_34
        refine z_aload_n 0 h dX11_war_50 rfl rfl rfl ?_
        have hRX : RX s6 tp T := ⟨ht0, by rw [hsc]; exact x7, fun j hj => by rw [hk 4 (by decide) (by decide)]; exact ht4 j hj⟩
        refine z_callV h (m_advance hm hRX 0 (by rw [hsc]; exact x8) (Nat.zero_le _)) kX11 (.inl (hm.at 0 (by decide))) (lw_V q1973 q1975 qs64 q148 q1976) nX11_advance rfl rfl rfl (Nat.le_of_ble_eq_true rfl) (Nat.le_of_ble_eq_true rfl) (Nat.le_of_ble_eq_true rfl) dX11_war_51 (fun v M hv => ?_)
        obtain ⟨rfl, s7, hm, hkr, hT⟩ := hv
        replace hk := hk.F hkr.D.F
        have hX := RSt.kp hRX hkr (by rw [hsc]; exact x12) (by rw [hsc]; exact f13) hT (adv_b (Nat.zero_le _))
        have hF : FrR s7 (fun _ => 0) := fun k hk => by rw [hkr.2]; exact hz k (by omega)
        have h5 : s7.1 5 = 0 := (hkr.1 5 (by decide) (by decide) (by decide) (by decide)).trans (by rw [hsc]; exact x5)
        have loop_54 : ∀ (fz : Nat) (M : Zm) (s1 : Ms) (Xk : Rs) (F : Nat → Nat) (f : Nat) (hm : Mod (cg γ) ad M s1) (hk : kpV [] st s1) (hX : RSt s1 tp T Xk) (hF : FrR s1 F) (h5 : s1.1 5 = 0) (hI : IF F) (hmf : mw tp Xk < f) (h9 : F 9 + f ≤ tp + 3) (hS : wrF T tp f Xk F = rdWar T tp), (f) < fz → Z γ M 0 0 54 (lof [(0, .ref (ad 0))]) [] := by
          intro fz
          induction fz with
          | zero => intro M s1 Xk F f hm hk hX hF h5 hI hmf h9 hS hz; exact absurd hz (Nat.not_lt_zero _)
          | succ fz ih_54 =>
            intro M s1 Xk F f hm hk hX hF h5 hI hmf h9 hS hz_54
            refine z_aload_n 0 h dX11_war_54 rfl rfl rfl ?_
            refine z_callVP h (m_good hm hX) kX11 (.inl (hm.at 0 (by decide))) (lw_V q1987 q1989 qs66 q148 q1990) nX11_good rfl rfl rfl (Nat.le_of_ble_eq_true rfl) (Nat.le_of_ble_eq_true rfl) (Nat.le_of_ble_eq_true rfl) dX11_war_55 ?_
            refine z_ifz_eq 75 h dX11_war_58 (by decide) (fun c_58 => ?_) (fun c_58 => ?_)
            · have _z := c_58
              have hx : wrF T tp f Xk F = (Xk, F) := wrF_n (fun q => by rw [c_58] at q; exact absurd q.1 (by decide))
              refine Z.loc [(0, .ref (ad 0))] (ll1 rfl ll0) ?_
              exact join_75 _ _ hm hk (by rw [← hS, hx]; exact hX) (by rw [← hS, hx]; exact hF) h5
            · have _z := c_58
              have htk := hX.tk c_58
              refine z_aload_n 0 h dX11_war_61 rfl rfl rfl ?_
              refine z_get h kX11 (.inl (hm.at 0 (by decide))) 10 rfl q1857 rfl dX11_war_62 ?_
              rw [htk.1]
              refine z_if_eq 75 h dX11_war_65 (by decide) (fun c_65 => ?_) (fun c_65 => ?_)
              · have _z := c_65
                replace c_65 := (ieq (a := tokK Xk) (b := 0) rfl rfl (by omega) (by decide)).mp c_65
                have hx : wrF T tp f Xk F = (Xk, F) := wrF_n (fun q => q.2 c_65)
                refine Z.loc [(0, .ref (ad 0))] (ll1 rfl ll0) ?_
                exact join_75 _ _ hm hk (by rw [← hS, hx]; exact hX) (by rw [← hS, hx]; exact hF) h5
              · have _z := c_65
                replace c_65 := (not_congr (ieq (a := tokK Xk) (b := 0) rfl rfl (by omega) (by decide))).mp c_65
                have hmw := line_mw (T := T) (F := F) hX.xb c_58
                obtain ⟨f, rfl⟩ : ∃ q, f = q + 1 := ⟨f - 1, by omega⟩
                refine z_aload_n 0 h dX11_war_68 rfl rfl rfl ?_
                refine z_callV h (m_readLine hm hg hX hF hI (by omega)) kX11 (.inl (hm.at 0 (by decide))) (lw_V q1991 q1993 qs67 q148 q1994) nX11_readLine rfl rfl rfl (Nat.le_of_ble_eq_true rfl) (Nat.le_of_ble_eq_true rfl) (Nat.le_of_ble_eq_true rfl) dX11_war_69 (fun v M hv => ?_)
                obtain ⟨rfl, s7, hm, hkf, hX1, hF1⟩ := hv
                replace hk := hk.F hkf
                have h5 := (hkf.1 5 (by decide)).trans h5
                refine z_goto 54 h dX11_war_72 (by decide) ?_
                refine Z.loc [(0, .ref (ad 0))] (ll1 rfl ll0) ?_
                exact ih_54 _ _ _ _ f hm hk hX1 hF1 h5 (line_IF hI) (by omega) (by rw [line_9]; omega) (by rw [← hS, wrF_y ⟨c_58, c_65⟩]) (by omega)
        refine Z.loc [(0, .ref (ad 0))] (ll1 rfl ll0) ?_
        exact loop_54 _ _ _ (.ok (adv T tp 0)) (fun _ => 0) (tp + 3) hm hk hX hF h5 ⟨by decide, by decide, by decide, by decide, by decide⟩ (by show tp - (adv T tp 0).1 + 1 < tp + 3; omega) (by show 0 + (tp + 3) ≤ tp + 3; omega) rfl (Nat.lt_succ_self _)
      · have _z := c_34
        replace c_34 := (not_congr (ile (a := 240) (b := i) rfl rfl (by decide) (by omega))).mp c_34
        refine z_aload_n 0 h dX11_war_37 rfl rfl rfl ?_
        refine z_get h kX11 (.inl (hm.at 0 (by decide))) 14 rfl q1861 rfl dX11_war_38 ?_
        refine z_iload_n 1 h dX11_war_41 rfl rfl ?_
        refine z_iconst h dX11_war_42 ki_0 ?_
        refine zm_iast 14 (i) h hm (by decide) (fun _ => rfl) rfl (by omega) (by decide) dX11_war_43 (fun M hm => ?_)
        generalize hs : uA s6 14 _ = s7 at hm
        replace hk := hk.A (Or.inr (by decide)) hs
        obtain ⟨g1, g2⟩ := atq hs
        have y1 : s7.1 = s6.1 := by rw [← hs]; rfl
        refine z_iinc h dX11_war_44 rfl rfl ki_1 ?_
        refine z_goto 30 h dX11_war_47 (by decide) ?_
        refine Z.loc [(0, .ref (ad 0)), (1, .int (nI (i + 1)))] (ll1 rfl (ll1 (vS (nI_1 i)) ll0)) ?_
        exact ih_30 _ _ (i + 1) hm hk (by omega) (y1.trans hsc) (by rw [g1]; exact up_cp (f := fun _ => 0) rfl hz) (by omega)
  refine Z.loc [(0, .ref (ad 0)), (1, .int (nI 0))] (ll1 rfl (ll1 rfl ll0)) ?_
  exact loop_30 _ _ _ 0 hm hk (Nat.zero_le _) rfl (fun j hj => absurd hj (Nat.not_lt_zero j)) (Nat.lt_succ_self _)
