/-! the reference: risks, bribes, guards -/
set_option maxRecDepth 100000
theorem argm_skip {P : Nat → Bool} {c : Nat → Nat} {k b : Nat} (h : argm P c k = some b) (hc : ¬ c k < c b) : argm P c (k + 1) = argm P c k := by
  rw [argm, h]
  simp only [upd1, if_neg hc]
  split <;> rfl
def farN (W : Nat → Nat) (o : Option Nat) : Nat := match o with
  | none => 1000000
  | some b => pC W b
theorem farN_le {W : Nat → Nat} (hi : InvW W) (o : Option Nat) : farN W o ≤ 1000000 := by
  cases o with
  | none => exact Nat.le_refl _
  | some b => have := priceN_lt hi b; unfold farN pC; simp only; omega
/-- which train to guard (-1: none), what it costs then; of the first t -/
def gF (W : Nat → Nat) (s : Nat) : Nat → Int × Nat
  | 0 => (-1, farN W (bribO W s 0))
  | t + 1 => if W (13 + 6 * t) = s then (if farN W (bribO W s (2 ^ t)) ≤ (gF W s t).2 then gF W s t else ((t : Int), farN W (bribO W s (2 ^ t)))) else gF W s t
theorem gF_b {W : Nat → Nat} (hi : InvW W) (s : Nat) : ∀ t : Nat, -1 ≤ (gF W s t).1 ∧ (gF W s t).1 < t ∧ (gF W s t).2 ≤ 1000000
  | 0 => ⟨by show (-1 : Int) ≤ -1; decide, by show (-1 : Int) < 0; decide, farN_le hi _⟩
  | t + 1 => by
    have h := gF_b hi s t
    have h2 := farN_le hi (bribO W s (2 ^ t))
    unfold gF
    split
    · split
      · omega
      · refine ⟨?_, ?_, h2⟩
        · show (-1 : Int) ≤ t; omega
        · show (t : Int) < (t + 1 : Nat); omega
    · omega
def aGuard (W : Nat → Nat) (s : Int32) : Int32 := if isSideB W s = true then iI (gF W (tn s) (W 4)).1 else -2
def aGuarded (W : Nat → Nat) (s : Int32) : Int32 := if isSideB W s = true then (if (gF W (tn s) (W 4)).1 = -1 then -2 else if (gF W (tn s) (W 4)).2 = 1000000 then -1 else nI (gF W (tn s) (W 4)).2) else -2
theorem hun_nat {v : Int32} (h : inI v 0 100 = true) : ∃ n : Nat, n ≤ 100 ∧ v = nI n := by
  obtain ⟨n, h1, h2, h3⟩ := inI_nat h
  exact ⟨n, by omega, h3⟩
theorem bribO_b {W : Nat → Nat} (hi : InvW W) (s w : Nat) : ∀ b, bribO W s w = some b → b < 2 ^ 31 ∧ pC W b < 2 ^ 31 := by
  have := allN_511 hi
  exact argm_b (N := 600) (by omega) (by decide) (fun b _ => by have := priceN_lt hi b; unfold pC; omega)
theorem riskO_b {W : Nat → Nat} (hi : InvW W) (s n : Nat) : ∀ b, riskO W s n = some b → b < 2 ^ 31 ∧ pC W b < 2 ^ 31 := by
  have := allN_511 hi
  exact argm_b (N := 600) (by omega) (by decide) (fun b _ => by have := priceN_lt hi b; unfold pC; omega)
theorem pC_b {W : Nat → Nat} (hi : InvW W) {P : Nat → Bool} {k : Nat} (hk : k ≤ 600) : ∀ b, argm P (pC W) k = some b → b < 2 ^ 31 ∧ pC W b < 2 ^ 31 := argm_b (N := 600) hk (by decide) (fun b _ => by have := priceN_lt hi b; unfold pC; omega)
theorem ZM.none {s : Ms} {c : Nat → Nat} {o : Option Nat} (hz : ZM s c o) (hb : ∀ b, o = some b → b < 2 ^ 31 ∧ c b < 2 ^ 31) (h : s.1 19 = -1) : o = none := by
  cases o with
  | none => rfl
  | some b => exact absurd ((hz.2 b rfl).1.symm.trans h) (nI_m1 (hb b rfl).1)
theorem ZM.some {s : Ms} {c : Nat → Nat} {o : Option Nat} (hz : ZM s c o) (h : ¬ s.1 19 = -1) : ∃ b, o = some b ∧ s.1 18 = nI (c b) := by
  cases o with
  | none => exact absurd (hz.1 rfl) h
  | some b => exact ⟨b, rfl, (hz.2 b rfl).2⟩
set_option maxHeartbeats 4000000 in
theorem m_findRisk {l : Launch} {g : Zg} {ad : Nat → Nat} {M : Zm} {st : Ms} {W : Nat → Nat} (hm : Mod g ad M st) (hw : WR st W) (hi : InvW W) (s n : Nat) (hs : s ≤ 1) (hn : n ≤ 100) : Cn l g yX11_findRisk cX11_findRisk 5 none 5 0 0 [.ref (ad 0), .int (nI s), .int (nI n)] M (PMT g ad st none (fun s9 => ZM s9 (pC W) (riskO W s n))) := by
  refine Cn.start [(0, .ref (ad 0)), (1, .int (nI s)), (2, .int (nI n))] (by decide) (Nat.le_of_ble_eq_true rfl) rfl ?_
  intro γ el eg h hq
  subst el; subst eg
  have h4 := hi.h4
  have hall := allN_511 hi
  have hown := ownN_lt hi s
  have hw0 := hw
  have hk : keepT st st := keepT.rf st
  refine z_aload_n 0 h dX11_findRisk_0 rfl rfl rfl ?_
  refine z_iconst h dX11_findRisk_1 ki_m1 ?_
  refine zm_put 19 h hm (by decide) q1866 dX11_findRisk_2 (fun M hm => ?_)
  replace hk := hk.s hm (Or.inr rfl)
  have hw := hk.k.w hw0
  refine z_aload_n 0 h dX11_findRisk_5 rfl rfl rfl ?_
  refine z_iload_n 1 h dX11_findRisk_6 rfl rfl ?_
  refine z_callVP h (m_trainsOf hm hw hi s hs) kX11 (.inl (hm.at 0 (by decide))) (lw_V q2250 q2252 qs98 q148 q2253) nX11_trainsOf rfl rfl rfl (Nat.le_of_ble_eq_true rfl) (Nat.le_of_ble_eq_true rfl) (Nat.le_of_ble_eq_true rfl) dX11_findRisk_7 ?_
  refine z_istore_n 3 h dX11_findRisk_10 rfl rfl ?_
  refine z_iconst h dX11_findRisk_11 ki_0 ?_
  refine z_istore h dX11_findRisk_12 rfl ?_
  have loop_14 : ∀ (fz : Nat) (M : Zm) (s1 : Ms) (k : Nat) (hm : Mod (cg γ) ad M s1) (hk : keepT st s1) (hk2 : k ≤ ownN W s + 1) (hz : ZM s1 (pC W) (argm (riskP W s n) (pC W) k)), (ownN W s + 1 - k) < fz → Z γ M 0 0 14 (lof [(0, .ref (ad 0)), (1, .int (nI s)), (2, .int (nI n)), (3, .int (nI (ownN W s))), (4, .int (nI k))]) [] := by
    intro fz
    induction fz with
    | zero => intro M s1 k hm hk hk2 hz hz; exact absurd hz (Nat.not_lt_zero _)
    | succ fz ih_14 =>
      intro M s1 k hm hk hk2 hz hz_14
      have hw := hk.k.w hw0
      refine z_iload h dX11_findRisk_14 rfl ?_
      refine z_iload_n 3 h dX11_findRisk_16 rfl rfl ?_
      refine z_icmp_gt 83 h dX11_findRisk_17 (by decide) (fun c_17 => ?_) (fun c_17 => ?_)
      · have _z := c_17
        replace c_17 := (ilt (a := ownN W s) (b := k) rfl rfl (by omega) (by omega)).mp c_17
        refine z_vret h hq dX11_findRisk_83 (Nat.le_of_ble_eq_true rfl) (Nat.le_of_ble_eq_true rfl) ?_
        obtain rfl : k = ownN W s + 1 := by omega
        rw [riskO_eq] at hz
        exact ⟨rfl, _, hm, hk, hz⟩
      · have _z := c_17
        replace c_17 := (not_congr (ilt (a := ownN W s) (b := k) rfl rfl (by omega) (by omega))).mp c_17
        refine z_iload h dX11_findRisk_20 rfl ?_
        refine z_iload_n 3 h dX11_findRisk_22 rfl rfl ?_
        refine z_iconst h dX11_findRisk_23 ki_m1 ?_
        refine z_ixor h dX11_findRisk_24 ?_
        refine z_iand h dX11_findRisk_25 ?_
        refine z_if_ne 77 h dX11_findRisk_26 (by decide) (fun c_26 => ?_) (fun c_26 => ?_)
        · have _z := c_26
          replace c_26 : subN k (ownN W s) = false := Bool.eq_false_iff.mpr (fun q => c_26 ((sub_iff (a := k) (b := ownN W s) (by omega) (by omega)).mpr q))
          refine z_iinc h dX11_findRisk_77 rfl rfl ki_1 ?_
          refine z_goto 14 h dX11_findRisk_80 (by decide) ?_
          refine Z.loc [(0, .ref (ad 0)), (1, .int (nI s)), (2, .int (nI n)), (3, .int (nI (ownN W s))), (4, .int (nI (k + 1)))] (ll1 rfl (ll1 rfl (ll1 rfl (ll1 rfl (ll1 (vS (nI_1 k)) ll0))))) ?_
          exact ih_14 _ _ (k + 1) hm hk (by omega) (by first | (refine hz.up ?_; simp [riskP, c_26, c_62]; done) | (refine hz.no ?_; simp [riskP, c_26, c_62]; done) | (refine hz.no ?_; simp [riskP, c_26]; done) | (rw [argm_skip ho (by unfold pC at *; omega)]; exact hz)) (by omega)
        · have _z := c_26
          replace c_26 := (sub_iff (a := k) (b := ownN W s) (by omega) (by omega)).mp c_26
          refine z_aload_n 0 h dX11_findRisk_29 rfl rfl rfl ?_
          refine z_get h kX11 (.inl (hm.at 0 (by decide))) 19 rfl q1866 rfl dX11_findRisk_30 ?_
          refine z_iconst h dX11_findRisk_33 ki_m1 ?_
          refine z_icmp_eq 50 h dX11_findRisk_34 (by decide) (fun c_34 => ?_) (fun c_34 => ?_)
          · have _z := c_34
            skip
            refine z_aload_n 0 h dX11_findRisk_50 rfl rfl rfl ?_
            refine z_aload_n 0 h dX11_findRisk_51 rfl rfl rfl ?_
            refine z_iload_n 1 h dX11_findRisk_52 rfl rfl ?_
            refine z_iload h dX11_findRisk_53 rfl ?_
            refine z_callVP h (m_enoughBy hm hw hi s k hs (by omega)) kX11 (.inl (hm.at 0 (by decide))) (lw_V q2290 q2292 qs105 q148 q2293) nX11_enoughBy rfl rfl rfl (Nat.le_of_ble_eq_true rfl) (Nat.le_of_ble_eq_true rfl) (Nat.le_of_ble_eq_true rfl) dX11_findRisk_55 ?_
            refine z_iload_n 2 h dX11_findRisk_58 rfl rfl ?_
            refine z_callVP h (m_isOften hm hw hi (enB W s k (allN W + 1)) n (enB_le hi s k) hn) kX11 (.inl (hm.at 0 (by decide))) (lw_V q2294 q2296 qs106 q148 q2297) nX11_isOften rfl rfl rfl (Nat.le_of_ble_eq_true rfl) (Nat.le_of_ble_eq_true rfl) (Nat.le_of_ble_eq_true rfl) dX11_findRisk_59 ?_
            refine z_ifz_eq 77 h dX11_findRisk_62 (by decide) (fun c_62 => ?_) (fun c_62 => ?_)
            · have _z := c_62
              refine z_iinc h dX11_findRisk_77 rfl rfl ki_1 ?_
              refine z_goto 14 h dX11_findRisk_80 (by decide) ?_
              refine Z.loc [(0, .ref (ad 0)), (1, .int (nI s)), (2, .int (nI n)), (3, .int (nI (ownN W s))), (4, .int (nI (k + 1)))] (ll1 rfl (ll1 rfl (ll1 rfl (ll1 rfl (ll1 (vS (nI_1 k)) ll0))))) ?_
              exact ih_14 _ _ (k + 1) hm hk (by omega) (by first | (refine hz.up ?_; simp [riskP, c_26, c_62]; done) | (refine hz.no ?_; simp [riskP, c_26, c_62]; done) | (refine hz.no ?_; simp [riskP, c_26]; done) | (rw [argm_skip ho (by unfold pC at *; omega)]; exact hz)) (by omega)
            · have _z := c_62
              refine z_aload_n 0 h dX11_findRisk_65 rfl rfl rfl ?_
              refine z_aload_n 0 h dX11_findRisk_66 rfl rfl rfl ?_
              refine z_iload h dX11_findRisk_67 rfl ?_
              refine z_callVP h (m_priceOf hm hw hi k (by omega)) kX11 (.inl (hm.at 0 (by decide))) (lw_V q2262 q2264 qs101 q148 q2265) nX11_priceOf rfl rfl rfl (Nat.le_of_ble_eq_true rfl) (Nat.le_of_ble_eq_true rfl) (Nat.le_of_ble_eq_true rfl) dX11_findRisk_69 ?_
              refine z_iload h dX11_findRisk_72 rfl ?_
              refine z_callV h (m_take hm (pC W) (argm (riskP W s n) (pC W) k) k (priceN W k (W 4)) hz rfl (by omega) (by have := priceN_lt hi k; omega) (pC_b hi (by omega))) kX11 (.inl (hm.at 0 (by decide))) (lw_V q2266 q2268 qs102 q148 q2269) nX11_take rfl rfl rfl (Nat.le_of_ble_eq_true rfl) (Nat.le_of_ble_eq_true rfl) (Nat.le_of_ble_eq_true rfl) dX11_findRisk_74 (fun v M hv => ?_)
              obtain ⟨rfl, s1, hm, hkt, hz⟩ := hv
              replace hk := hk.tr hkt
              have hw := hk.k.w hw0
              refine z_iinc h dX11_findRisk_77 rfl rfl ki_1 ?_
              refine z_goto 14 h dX11_findRisk_80 (by decide) ?_
              refine Z.loc [(0, .ref (ad 0)), (1, .int (nI s)), (2, .int (nI n)), (3, .int (nI (ownN W s))), (4, .int (nI (k + 1)))] (ll1 rfl (ll1 rfl (ll1 rfl (ll1 rfl (ll1 (vS (nI_1 k)) ll0))))) ?_
              exact ih_14 _ _ (k + 1) hm hk (by omega) (by first | (refine hz.up ?_; simp [riskP, c_26, c_62]; done) | (refine hz.no ?_; simp [riskP, c_26, c_62]; done) | (refine hz.no ?_; simp [riskP, c_26]; done) | (rw [argm_skip ho (by unfold pC at *; omega)]; exact hz)) (by omega)
          · have _z := c_34
            obtain ⟨b, ho, hb18⟩ := hz.some c_34
            have hbb := pC_b hi (by omega) b ho
            refine z_aload_n 0 h dX11_findRisk_37 rfl rfl rfl ?_
            refine z_iload h dX11_findRisk_38 rfl ?_
            refine z_callVP h (m_priceOf hm hw hi k (by omega)) kX11 (.inl (hm.at 0 (by decide))) (lw_V q2262 q2264 qs101 q148 q2265) nX11_priceOf rfl rfl rfl (Nat.le_of_ble_eq_true rfl) (Nat.le_of_ble_eq_true rfl) (Nat.le_of_ble_eq_true rfl) dX11_findRisk_40 ?_
            refine z_aload_n 0 h dX11_findRisk_43 rfl rfl rfl ?_
            refine z_get h kX11 (.inl (hm.at 0 (by decide))) 18 rfl q1865 rfl dX11_findRisk_44 ?_
            refine z_icmp_ge 77 h dX11_findRisk_47 (by decide) (fun c_47 => ?_) (fun c_47 => ?_)
            · have _z := c_47
              replace c_47 := (ile (a := pC W b) (b := priceN W k (W 4)) hb18 rfl hbb.2 (by have := priceN_lt hi k; omega)).mp c_47
              refine z_iinc h dX11_findRisk_77 rfl rfl ki_1 ?_
              refine z_goto 14 h dX11_findRisk_80 (by decide) ?_
              refine Z.loc [(0, .ref (ad 0)), (1, .int (nI s)), (2, .int (nI n)), (3, .int (nI (ownN W s))), (4, .int (nI (k + 1)))] (ll1 rfl (ll1 rfl (ll1 rfl (ll1 rfl (ll1 (vS (nI_1 k)) ll0))))) ?_
              exact ih_14 _ _ (k + 1) hm hk (by omega) (by first | (refine hz.up ?_; simp [riskP, c_26, c_62]; done) | (refine hz.no ?_; simp [riskP, c_26, c_62]; done) | (refine hz.no ?_; simp [riskP, c_26]; done) | (rw [argm_skip ho (by unfold pC at *; omega)]; exact hz)) (by omega)
            · have _z := c_47
              replace c_47 := (not_congr (ile (a := pC W b) (b := priceN W k (W 4)) hb18 rfl hbb.2 (by have := priceN_lt hi k; omega))).mp c_47
              refine z_aload_n 0 h dX11_findRisk_50 rfl rfl rfl ?_
              refine z_aload_n 0 h dX11_findRisk_51 rfl rfl rfl ?_
              refine z_iload_n 1 h dX11_findRisk_52 rfl rfl ?_
              refine z_iload h dX11_findRisk_53 rfl ?_
              refine z_callVP h (m_enoughBy hm hw hi s k hs (by omega)) kX11 (.inl (hm.at 0 (by decide))) (lw_V q2290 q2292 qs105 q148 q2293) nX11_enoughBy rfl rfl rfl (Nat.le_of_ble_eq_true rfl) (Nat.le_of_ble_eq_true rfl) (Nat.le_of_ble_eq_true rfl) dX11_findRisk_55 ?_
              refine z_iload_n 2 h dX11_findRisk_58 rfl rfl ?_
              refine z_callVP h (m_isOften hm hw hi (enB W s k (allN W + 1)) n (enB_le hi s k) hn) kX11 (.inl (hm.at 0 (by decide))) (lw_V q2294 q2296 qs106 q148 q2297) nX11_isOften rfl rfl rfl (Nat.le_of_ble_eq_true rfl) (Nat.le_of_ble_eq_true rfl) (Nat.le_of_ble_eq_true rfl) dX11_findRisk_59 ?_
              refine z_ifz_eq 77 h dX11_findRisk_62 (by decide) (fun c_62 => ?_) (fun c_62 => ?_)
              · have _z := c_62
                refine z_iinc h dX11_findRisk_77 rfl rfl ki_1 ?_
                refine z_goto 14 h dX11_findRisk_80 (by decide) ?_
                refine Z.loc [(0, .ref (ad 0)), (1, .int (nI s)), (2, .int (nI n)), (3, .int (nI (ownN W s))), (4, .int (nI (k + 1)))] (ll1 rfl (ll1 rfl (ll1 rfl (ll1 rfl (ll1 (vS (nI_1 k)) ll0))))) ?_
                exact ih_14 _ _ (k + 1) hm hk (by omega) (by first | (refine hz.up ?_; simp [riskP, c_26, c_62]; done) | (refine hz.no ?_; simp [riskP, c_26, c_62]; done) | (refine hz.no ?_; simp [riskP, c_26]; done) | (rw [argm_skip ho (by unfold pC at *; omega)]; exact hz)) (by omega)
              · have _z := c_62
                refine z_aload_n 0 h dX11_findRisk_65 rfl rfl rfl ?_
                refine z_aload_n 0 h dX11_findRisk_66 rfl rfl rfl ?_
                refine z_iload h dX11_findRisk_67 rfl ?_
                refine z_callVP h (m_priceOf hm hw hi k (by omega)) kX11 (.inl (hm.at 0 (by decide))) (lw_V q2262 q2264 qs101 q148 q2265) nX11_priceOf rfl rfl rfl (Nat.le_of_ble_eq_true rfl) (Nat.le_of_ble_eq_true rfl) (Nat.le_of_ble_eq_true rfl) dX11_findRisk_69 ?_
                refine z_iload h dX11_findRisk_72 rfl ?_
                refine z_callV h (m_take hm (pC W) (argm (riskP W s n) (pC W) k) k (priceN W k (W 4)) hz rfl (by omega) (by have := priceN_lt hi k; omega) (pC_b hi (by omega))) kX11 (.inl (hm.at 0 (by decide))) (lw_V q2266 q2268 qs102 q148 q2269) nX11_take rfl rfl rfl (Nat.le_of_ble_eq_true rfl) (Nat.le_of_ble_eq_true rfl) (Nat.le_of_ble_eq_true rfl) dX11_findRisk_74 (fun v M hv => ?_)
                obtain ⟨rfl, s1, hm, hkt, hz⟩ := hv
                replace hk := hk.tr hkt
                have hw := hk.k.w hw0
                refine z_iinc h dX11_findRisk_77 rfl rfl ki_1 ?_
                refine z_goto 14 h dX11_findRisk_80 (by decide) ?_
                refine Z.loc [(0, .ref (ad 0)), (1, .int (nI s)), (2, .int (nI n)), (3, .int (nI (ownN W s))), (4, .int (nI (k + 1)))] (ll1 rfl (ll1 rfl (ll1 rfl (ll1 rfl (ll1 (vS (nI_1 k)) ll0))))) ?_
                exact ih_14 _ _ (k + 1) hm hk (by omega) (by first | (refine hz.up ?_; simp [riskP, c_26, c_62]; done) | (refine hz.no ?_; simp [riskP, c_26, c_62]; done) | (refine hz.no ?_; simp [riskP, c_26]; done) | (rw [argm_skip ho (by unfold pC at *; omega)]; exact hz)) (by omega)
  refine Z.loc [(0, .ref (ad 0)), (1, .int (nI s)), (2, .int (nI n)), (3, .int (nI (ownN W s))), (4, .int (nI 0))] (ll1 rfl (ll1 rfl (ll1 rfl (ll1 rfl (ll1 rfl ll0))))) ?_
  exact loop_14 _ _ _ 0 hm hk (Nat.zero_le _) (ZM.start rfl) (Nat.lt_succ_self _)
set_option maxHeartbeats 4000000 in
theorem m_risk {l : Launch} {g : Zg} {ad : Nat → Nat} {M : Zm} {st : Ms} {W : Nat → Nat} (hm : Mod g ad M st) (hw : WR st W) (hi : InvW W) (sv nv : Int32) : Cn l g yX11_risk cX11_risk 3 (some .int) 6 0 0 [.ref (ad 0), .int sv, .int nv] M (PM g ad st (some (.int (aRisk W sv nv))) (fun _ => True)) := by
  refine Cn.start [(0, .ref (ad 0)), (1, .int sv), (2, .int nv)] (by decide) (Nat.le_of_ble_eq_true rfl) rfl ?_
  intro γ el eg h hq
  subst el; subst eg
  have h4 := hi.h4
  have h0 := hi.h0
  have hw0 := hw
  have hk : keep st st := keep.rf st
  refine z_aload_n 0 h dX11_risk_0 rfl rfl rfl ?_
  refine z_iload_n 1 h dX11_risk_1 rfl rfl ?_
  refine z_callVP h (m_isSide hm hw hi sv) kX11 (.inl (hm.at 0 (by decide))) (lw_V q2087 q2089 qs83 q148 q2090) nX11_isSide rfl rfl rfl (Nat.le_of_ble_eq_true rfl) (Nat.le_of_ble_eq_true rfl) (Nat.le_of_ble_eq_true rfl) dX11_risk_2 ?_
  refine z_ifz_eq 20 h dX11_risk_5 (by decide) (fun c_5 => ?_) (fun c_5 => ?_)
  · have _z := c_5
    refine z_bipush h dX11_risk_20 kb_m2 ?_
    refine z_iret h hq dX11_risk_22 (Nat.le_of_ble_eq_true rfl) (Nat.le_of_ble_eq_true rfl) ?_
    refine ⟨vS ?_, _, hm, hk, trivial⟩
    first | (simp [aRisk, c_5]; done) | (simp [aRisk, c_17]; done)
  · have _z := c_5
    obtain ⟨s, h_s, rfl⟩ := isSide_nat c_5
    refine z_iload_n 2 h dX11_risk_8 rfl rfl ?_
    refine z_i2l h dX11_risk_9 ?_
    refine z_lconst h dX11_risk_10 kl_0 ?_
    refine z_ldc2 h q2231 dX11_risk_11 ?_
    refine z_callSP h (m_inI nv 0 100 0 100 rfl rfl) (lw_S q1950 q1951 q148 q1952) nX11_in rfl rfl rfl (Nat.le_of_ble_eq_true rfl) (Nat.le_of_ble_eq_true rfl) (Nat.le_of_ble_eq_true rfl) dX11_risk_14 ?_
    refine z_ifz_ne 23 h dX11_risk_17 (by decide) (fun c_17 => ?_) (fun c_17 => ?_)
    · have _z := c_17
      obtain ⟨n, h_n, rfl⟩ := hun_nat c_17
      refine z_aload_n 0 h dX11_risk_23 rfl rfl rfl ?_
      refine z_iload_n 1 h dX11_risk_24 rfl rfl ?_
      refine z_iload_n 2 h dX11_risk_25 rfl rfl ?_
      refine z_callV h (m_findRisk hm hw hi s n (by omega) h_n) kX11 (.inl (hm.at 0 (by decide))) (lw_V q2286 q2288 qs104 q148 q2289) nX11_findRisk rfl rfl rfl (Nat.le_of_ble_eq_true rfl) (Nat.le_of_ble_eq_true rfl) (Nat.le_of_ble_eq_true rfl) dX11_risk_26 (fun v M hv => ?_)
      obtain ⟨rfl, s1, hm, hkt, hz⟩ := hv
      replace hk := hk.tr hkt.k
      have hw := hk.w hw0
      refine z_aload_n 0 h dX11_risk_29 rfl rfl rfl ?_
      refine z_callVP h (m_orNone hm (pC W) (riskO W s n) hz (riskO_b hi s n)) kX11 (.inl (hm.at 0 (by decide))) (lw_V q2270 q2272 qs103 q148 q2273) nX11_orNone rfl rfl rfl (Nat.le_of_ble_eq_true rfl) (Nat.le_of_ble_eq_true rfl) (Nat.le_of_ble_eq_true rfl) dX11_risk_30 ?_
      refine z_iret h hq dX11_risk_33 (Nat.le_of_ble_eq_true rfl) (Nat.le_of_ble_eq_true rfl) ?_
      refine ⟨vS ?_, _, hm, hk, trivial⟩
      simp [aRisk, c_5, c_17, tn_nI (show s < 2 ^ 31 by omega), tn_nI (show n < 2 ^ 31 by omega)]
    · have _z := c_17
      refine z_bipush h dX11_risk_20 kb_m2 ?_
      refine z_iret h hq dX11_risk_22 (Nat.le_of_ble_eq_true rfl) (Nat.le_of_ble_eq_true rfl) ?_
      refine ⟨vS ?_, _, hm, hk, trivial⟩
      first | (simp [aRisk, c_5]; done) | (simp [aRisk, c_17]; done)
set_option maxHeartbeats 4000000 in
theorem m_risked {l : Launch} {g : Zg} {ad : Nat → Nat} {M : Zm} {st : Ms} {W : Nat → Nat} (hm : Mod g ad M st) (hw : WR st W) (hi : InvW W) (sv nv : Int32) : Cn l g yX11_risked cX11_risked 3 (some .int) 6 0 0 [.ref (ad 0), .int sv, .int nv] M (PM g ad st (some (.int (aRisked W sv nv))) (fun _ => True)) := by
  refine Cn.start [(0, .ref (ad 0)), (1, .int sv), (2, .int nv)] (by decide) (Nat.le_of_ble_eq_true rfl) rfl ?_
  intro γ el eg h hq
  subst el; subst eg
  have h4 := hi.h4
  have h0 := hi.h0
  have hw0 := hw
  have hk : keep st st := keep.rf st
  refine z_aload_n 0 h dX11_risked_0 rfl rfl rfl ?_
  refine z_iload_n 1 h dX11_risked_1 rfl rfl ?_
  refine z_callVP h (m_isSide hm hw hi sv) kX11 (.inl (hm.at 0 (by decide))) (lw_V q2087 q2089 qs83 q148 q2090) nX11_isSide rfl rfl rfl (Nat.le_of_ble_eq_true rfl) (Nat.le_of_ble_eq_true rfl) (Nat.le_of_ble_eq_true rfl) dX11_risked_2 ?_
  refine z_ifz_eq 20 h dX11_risked_5 (by decide) (fun c_5 => ?_) (fun c_5 => ?_)
  · have _z := c_5
    refine z_bipush h dX11_risked_20 kb_m2 ?_
    refine z_iret h hq dX11_risked_22 (Nat.le_of_ble_eq_true rfl) (Nat.le_of_ble_eq_true rfl) ?_
    refine ⟨vS ?_, _, hm, hk, trivial⟩
    first | (simp [aRisked, c_5]; done) | (simp [aRisked, c_17]; done)
  · have _z := c_5
    obtain ⟨s, h_s, rfl⟩ := isSide_nat c_5
    refine z_iload_n 2 h dX11_risked_8 rfl rfl ?_
    refine z_i2l h dX11_risked_9 ?_
    refine z_lconst h dX11_risked_10 kl_0 ?_
    refine z_ldc2 h q2231 dX11_risked_11 ?_
    refine z_callSP h (m_inI nv 0 100 0 100 rfl rfl) (lw_S q1950 q1951 q148 q1952) nX11_in rfl rfl rfl (Nat.le_of_ble_eq_true rfl) (Nat.le_of_ble_eq_true rfl) (Nat.le_of_ble_eq_true rfl) dX11_risked_14 ?_
    refine z_ifz_ne 23 h dX11_risked_17 (by decide) (fun c_17 => ?_) (fun c_17 => ?_)
    · have _z := c_17
      obtain ⟨n, h_n, rfl⟩ := hun_nat c_17
      refine z_aload_n 0 h dX11_risked_23 rfl rfl rfl ?_
      refine z_iload_n 1 h dX11_risked_24 rfl rfl ?_
      refine z_iload_n 2 h dX11_risked_25 rfl rfl ?_
      refine z_callV h (m_findRisk hm hw hi s n (by omega) h_n) kX11 (.inl (hm.at 0 (by decide))) (lw_V q2286 q2288 qs104 q148 q2289) nX11_findRisk rfl rfl rfl (Nat.le_of_ble_eq_true rfl) (Nat.le_of_ble_eq_true rfl) (Nat.le_of_ble_eq_true rfl) dX11_risked_26 (fun v M hv => ?_)
      obtain ⟨rfl, s1, hm, hkt, hz⟩ := hv
      replace hk := hk.tr hkt.k
      have hw := hk.w hw0
      refine z_aload_n 0 h dX11_risked_29 rfl rfl rfl ?_
      refine z_get h kX11 (.inl (hm.at 0 (by decide))) 19 rfl q1866 rfl dX11_risked_30 ?_
      refine z_iret h hq dX11_risked_33 (Nat.le_of_ble_eq_true rfl) (Nat.le_of_ble_eq_true rfl) ?_
      refine ⟨vS ?_, _, hm, hk, trivial⟩
      rw [hz.or]
      simp [aRisked, c_5, c_17, tn_nI (show s < 2 ^ 31 by omega), tn_nI (show n < 2 ^ 31 by omega)]
    · have _z := c_17
      refine z_bipush h dX11_risked_20 kb_m2 ?_
      refine z_iret h hq dX11_risked_22 (Nat.le_of_ble_eq_true rfl) (Nat.le_of_ble_eq_true rfl) ?_
      refine ⟨vS ?_, _, hm, hk, trivial⟩
      first | (simp [aRisked, c_5]; done) | (simp [aRisked, c_17]; done)
set_option maxHeartbeats 4000000 in
theorem m_findBribe {l : Launch} {g : Zg} {ad : Nat → Nat} {M : Zm} {st : Ms} {W : Nat → Nat} (hm : Mod g ad M st) (hw : WR st W) (hi : InvW W) (s w : Nat) (hs : s ≤ 1) (hw2 : w < 2 ^ 31) : Cn l g yX11_findBribe cX11_findBribe 5 none 5 0 0 [.ref (ad 0), .int (nI s), .int (nI w)] M (PMT g ad st none (fun s9 => ZM s9 (pC W) (bribO W s w))) := by
  refine Cn.start [(0, .ref (ad 0)), (1, .int (nI s)), (2, .int (nI w))] (by decide) (Nat.le_of_ble_eq_true rfl) rfl ?_
  intro γ el eg h hq
  subst el; subst eg
  have h4 := hi.h4
  have hall := allN_511 hi
  have hown := ownN_lt hi s
  have hw0 := hw
  have hk : keepT st st := keepT.rf st
  have hle := andn_le (ownN W s) w
  refine z_aload_n 0 h dX11_findBribe_0 rfl rfl rfl ?_
  refine z_iconst h dX11_findBribe_1 ki_m1 ?_
  refine zm_put 19 h hm (by decide) q1866 dX11_findBribe_2 (fun M hm => ?_)
  replace hk := hk.s hm (Or.inr rfl)
  have hw := hk.k.w hw0
  refine z_aload_n 0 h dX11_findBribe_5 rfl rfl rfl ?_
  refine z_iload_n 1 h dX11_findBribe_6 rfl rfl ?_
  refine z_callVP h (m_trainsOf hm hw hi s hs) kX11 (.inl (hm.at 0 (by decide))) (lw_V q2250 q2252 qs98 q148 q2253) nX11_trainsOf rfl rfl rfl (Nat.le_of_ble_eq_true rfl) (Nat.le_of_ble_eq_true rfl) (Nat.le_of_ble_eq_true rfl) dX11_findBribe_7 ?_
  refine z_iload_n 2 h dX11_findBribe_10 rfl rfl ?_
  refine z_iconst h dX11_findBribe_11 ki_m1 ?_
  refine z_ixor h dX11_findBribe_12 ?_
  refine z_iand h dX11_findBribe_13 ?_
  refine z_istore_n 3 h dX11_findBribe_14 rfl rfl ?_
  refine z_iconst h dX11_findBribe_15 ki_0 ?_
  refine z_istore h dX11_findBribe_16 rfl ?_
  have loop_18 : ∀ (fz : Nat) (M : Zm) (s1 : Ms) (k : Nat) (hm : Mod (cg γ) ad M s1) (hk : keepT st s1) (hk2 : k ≤ andnN (ownN W s) w + 1) (hz : ZM s1 (pC W) (argm (fun k => subN k (andnN (ownN W s) w) && lateB W s k) (pC W) k)), (andnN (ownN W s) w + 1 - k) < fz → Z γ M 0 0 18 (lof [(0, .ref (ad 0)), (1, .int (nI s)), (2, .int (nI w)), (3, .int (nI (andnN (ownN W s) w))), (4, .int (nI k))]) [] := by
    intro fz
    induction fz with
    | zero => intro M s1 k hm hk hk2 hz hz; exact absurd hz (Nat.not_lt_zero _)
    | succ fz ih_18 =>
      intro M s1 k hm hk hk2 hz hz_18
      have hw := hk.k.w hw0
      refine z_iload h dX11_findBribe_18 rfl ?_
      refine z_iload_n 3 h dX11_findBribe_20 rfl rfl ?_
      refine z_icmp_gt 61 h dX11_findBribe_21 (by decide) (fun c_21 => ?_) (fun c_21 => ?_)
      · have _z := c_21
        replace c_21 := (ilt (a := andnN (ownN W s) w) (b := k) rfl rfl (by omega) (by omega)).mp c_21
        refine z_vret h hq dX11_findBribe_61 (Nat.le_of_ble_eq_true rfl) (Nat.le_of_ble_eq_true rfl) ?_
        obtain rfl : k = andnN (ownN W s) w + 1 := by omega
        rw [bribO_eq (andn_sub _ w) (andn_le _ w)] at hz
        exact ⟨rfl, _, hm, hk, hz⟩
      · have _z := c_21
        replace c_21 := (not_congr (ilt (a := andnN (ownN W s) w) (b := k) rfl rfl (by omega) (by omega))).mp c_21
        refine z_iload h dX11_findBribe_24 rfl ?_
        refine z_iload_n 3 h dX11_findBribe_26 rfl rfl ?_
        refine z_iconst h dX11_findBribe_27 ki_m1 ?_
        refine z_ixor h dX11_findBribe_28 ?_
        refine z_iand h dX11_findBribe_29 ?_
        refine z_if_ne 55 h dX11_findBribe_30 (by decide) (fun c_30 => ?_) (fun c_30 => ?_)
        · have _z := c_30
          replace c_30 : subN k (andnN (ownN W s) w) = false := Bool.eq_false_iff.mpr (fun q => c_30 ((sub_iff (a := k) (b := andnN (ownN W s) w) (by omega) (by omega)).mpr q))
          refine z_iinc h dX11_findBribe_55 rfl rfl ki_1 ?_
          refine z_goto 18 h dX11_findBribe_58 (by decide) ?_
          refine Z.loc [(0, .ref (ad 0)), (1, .int (nI s)), (2, .int (nI w)), (3, .int (nI (andnN (ownN W s) w))), (4, .int (nI (k + 1)))] (ll1 rfl (ll1 rfl (ll1 rfl (ll1 rfl (ll1 (vS (nI_1 k)) ll0))))) ?_
          exact ih_18 _ _ (k + 1) hm hk (by omega) (by first | (refine hz.up ?_; simp [c_30, c_40]; done) | (refine hz.no ?_; simp [c_30, c_40]; done) | (refine hz.no ?_; simp [c_30]; done)) (by omega)
        · have _z := c_30
          replace c_30 := (sub_iff (a := k) (b := andnN (ownN W s) w) (by omega) (by omega)).mp c_30
          refine z_aload_n 0 h dX11_findBribe_33 rfl rfl rfl ?_
          refine z_iload_n 1 h dX11_findBribe_34 rfl rfl ?_
          refine z_iload h dX11_findBribe_35 rfl ?_
          refine z_callVP h (m_isLate hm hw hi s k hs (by omega)) kX11 (.inl (hm.at 0 (by decide))) (lw_V q2155 q2157 qs91 q148 q2158) nX11_isLate rfl rfl rfl (Nat.le_of_ble_eq_true rfl) (Nat.le_of_ble_eq_true rfl) (Nat.le_of_ble_eq_true rfl) dX11_findBribe_37 ?_
          refine z_ifz_eq 55 h dX11_findBribe_40 (by decide) (fun c_40 => ?_) (fun c_40 => ?_)
          · have _z := c_40
            refine z_iinc h dX11_findBribe_55 rfl rfl ki_1 ?_
            refine z_goto 18 h dX11_findBribe_58 (by decide) ?_
            refine Z.loc [(0, .ref (ad 0)), (1, .int (nI s)), (2, .int (nI w)), (3, .int (nI (andnN (ownN W s) w))), (4, .int (nI (k + 1)))] (ll1 rfl (ll1 rfl (ll1 rfl (ll1 rfl (ll1 (vS (nI_1 k)) ll0))))) ?_
            exact ih_18 _ _ (k + 1) hm hk (by omega) (by first | (refine hz.up ?_; simp [c_30, c_40]; done) | (refine hz.no ?_; simp [c_30, c_40]; done) | (refine hz.no ?_; simp [c_30]; done)) (by omega)
          · have _z := c_40
            refine z_aload_n 0 h dX11_findBribe_43 rfl rfl rfl ?_
            refine z_aload_n 0 h dX11_findBribe_44 rfl rfl rfl ?_
            refine z_iload h dX11_findBribe_45 rfl ?_
            refine z_callVP h (m_priceOf hm hw hi k (by omega)) kX11 (.inl (hm.at 0 (by decide))) (lw_V q2262 q2264 qs101 q148 q2265) nX11_priceOf rfl rfl rfl (Nat.le_of_ble_eq_true rfl) (Nat.le_of_ble_eq_true rfl) (Nat.le_of_ble_eq_true rfl) dX11_findBribe_47 ?_
            refine z_iload h dX11_findBribe_50 rfl ?_
            refine z_callV h (m_take hm (pC W) (argm (fun k => subN k (andnN (ownN W s) w) && lateB W s k) (pC W) k) k (priceN W k (W 4)) hz rfl (by omega) (by have := priceN_lt hi k; omega) (pC_b hi (by omega))) kX11 (.inl (hm.at 0 (by decide))) (lw_V q2266 q2268 qs102 q148 q2269) nX11_take rfl rfl rfl (Nat.le_of_ble_eq_true rfl) (Nat.le_of_ble_eq_true rfl) (Nat.le_of_ble_eq_true rfl) dX11_findBribe_52 (fun v M hv => ?_)
            obtain ⟨rfl, s1, hm, hkt, hz⟩ := hv
            replace hk := hk.tr hkt
            have hw := hk.k.w hw0
            refine z_iinc h dX11_findBribe_55 rfl rfl ki_1 ?_
            refine z_goto 18 h dX11_findBribe_58 (by decide) ?_
            refine Z.loc [(0, .ref (ad 0)), (1, .int (nI s)), (2, .int (nI w)), (3, .int (nI (andnN (ownN W s) w))), (4, .int (nI (k + 1)))] (ll1 rfl (ll1 rfl (ll1 rfl (ll1 rfl (ll1 (vS (nI_1 k)) ll0))))) ?_
            exact ih_18 _ _ (k + 1) hm hk (by omega) (by first | (refine hz.up ?_; simp [c_30, c_40]; done) | (refine hz.no ?_; simp [c_30, c_40]; done) | (refine hz.no ?_; simp [c_30]; done)) (by omega)
  refine Z.loc [(0, .ref (ad 0)), (1, .int (nI s)), (2, .int (nI w)), (3, .int (nI (andnN (ownN W s) w))), (4, .int (nI 0))] (ll1 rfl (ll1 rfl (ll1 rfl (ll1 (vS (andn_at (by omega) hw2)) (ll1 rfl ll0))))) ?_
  exact loop_18 _ _ _ 0 hm hk (Nat.zero_le _) (ZM.start rfl) (Nat.lt_succ_self _)
set_option maxHeartbeats 4000000 in
theorem m_bribe {l : Launch} {g : Zg} {ad : Nat → Nat} {M : Zm} {st : Ms} {W : Nat → Nat} (hm : Mod g ad M st) (hw : WR st W) (hi : InvW W) (sv : Int32) : Cn l g yX11_bribe cX11_bribe 2 (some .int) 6 0 0 [.ref (ad 0), .int sv] M (PM g ad st (some (.int (aBribe W sv))) (fun _ => True)) := by
  refine Cn.start [(0, .ref (ad 0)), (1, .int sv)] (by decide) (Nat.le_of_ble_eq_true rfl) rfl ?_
  intro γ el eg h hq
  subst el; subst eg
  have h4 := hi.h4
  have h0 := hi.h0
  have hw0 := hw
  have hk : keep st st := keep.rf st
  refine z_aload_n 0 h dX11_bribe_0 rfl rfl rfl ?_
  refine z_iload_n 1 h dX11_bribe_1 rfl rfl ?_
  refine z_callVP h (m_isSide hm hw hi sv) kX11 (.inl (hm.at 0 (by decide))) (lw_V q2087 q2089 qs83 q148 q2090) nX11_isSide rfl rfl rfl (Nat.le_of_ble_eq_true rfl) (Nat.le_of_ble_eq_true rfl) (Nat.le_of_ble_eq_true rfl) dX11_bribe_2 ?_
  refine z_ifz_ne 11 h dX11_bribe_5 (by decide) (fun c_5 => ?_) (fun c_5 => ?_)
  · have _z := c_5
    obtain ⟨s, h_s, rfl⟩ := isSide_nat c_5
    refine z_aload_n 0 h dX11_bribe_11 rfl rfl rfl ?_
    refine z_iload_n 1 h dX11_bribe_12 rfl rfl ?_
    refine z_iconst h dX11_bribe_13 ki_0 ?_
    refine z_callV h (m_findBribe hm hw hi s 0 (by omega) (by decide)) kX11 (.inl (hm.at 0 (by decide))) (lw_V q2306 q2308 qs107 q148 q2309) nX11_findBribe rfl rfl rfl (Nat.le_of_ble_eq_true rfl) (Nat.le_of_ble_eq_true rfl) (Nat.le_of_ble_eq_true rfl) dX11_bribe_14 (fun v M hv => ?_)
    obtain ⟨rfl, s1, hm, hkt, hz⟩ := hv
    replace hk := hk.tr hkt.k
    have hw := hk.w hw0
    refine z_aload_n 0 h dX11_bribe_17 rfl rfl rfl ?_
    refine z_callVP h (m_orNone hm (pC W) (bribO W s 0) hz (bribO_b hi s 0)) kX11 (.inl (hm.at 0 (by decide))) (lw_V q2270 q2272 qs103 q148 q2273) nX11_orNone rfl rfl rfl (Nat.le_of_ble_eq_true rfl) (Nat.le_of_ble_eq_true rfl) (Nat.le_of_ble_eq_true rfl) dX11_bribe_18 ?_
    refine z_iret h hq dX11_bribe_21 (Nat.le_of_ble_eq_true rfl) (Nat.le_of_ble_eq_true rfl) ?_
    refine ⟨vS ?_, _, hm, hk, trivial⟩
    simp [aBribe, c_5, tn_nI (show s < 2 ^ 31 by omega)]
  · have _z := c_5
    refine z_bipush h dX11_bribe_8 kb_m2 ?_
    refine z_iret h hq dX11_bribe_10 (Nat.le_of_ble_eq_true rfl) (Nat.le_of_ble_eq_true rfl) ?_
    refine ⟨vS ?_, _, hm, hk, trivial⟩
    simp [aBribe, c_5]
set_option maxHeartbeats 4000000 in
theorem m_bribed {l : Launch} {g : Zg} {ad : Nat → Nat} {M : Zm} {st : Ms} {W : Nat → Nat} (hm : Mod g ad M st) (hw : WR st W) (hi : InvW W) (sv : Int32) : Cn l g yX11_bribed cX11_bribed 2 (some .int) 6 0 0 [.ref (ad 0), .int sv] M (PM g ad st (some (.int (aBribed W sv))) (fun _ => True)) := by
  refine Cn.start [(0, .ref (ad 0)), (1, .int sv)] (by decide) (Nat.le_of_ble_eq_true rfl) rfl ?_
  intro γ el eg h hq
  subst el; subst eg
  have h4 := hi.h4
  have h0 := hi.h0
  have hw0 := hw
  have hk : keep st st := keep.rf st
  refine z_aload_n 0 h dX11_bribed_0 rfl rfl rfl ?_
  refine z_iload_n 1 h dX11_bribed_1 rfl rfl ?_
  refine z_callVP h (m_isSide hm hw hi sv) kX11 (.inl (hm.at 0 (by decide))) (lw_V q2087 q2089 qs83 q148 q2090) nX11_isSide rfl rfl rfl (Nat.le_of_ble_eq_true rfl) (Nat.le_of_ble_eq_true rfl) (Nat.le_of_ble_eq_true rfl) dX11_bribed_2 ?_
  refine z_ifz_ne 11 h dX11_bribed_5 (by decide) (fun c_5 => ?_) (fun c_5 => ?_)
  · have _z := c_5
    obtain ⟨s, h_s, rfl⟩ := isSide_nat c_5
    refine z_aload_n 0 h dX11_bribed_11 rfl rfl rfl ?_
    refine z_iload_n 1 h dX11_bribed_12 rfl rfl ?_
    refine z_iconst h dX11_bribed_13 ki_0 ?_
    refine z_callV h (m_findBribe hm hw hi s 0 (by omega) (by decide)) kX11 (.inl (hm.at 0 (by decide))) (lw_V q2306 q2308 qs107 q148 q2309) nX11_findBribe rfl rfl rfl (Nat.le_of_ble_eq_true rfl) (Nat.le_of_ble_eq_true rfl) (Nat.le_of_ble_eq_true rfl) dX11_bribed_14 (fun v M hv => ?_)
    obtain ⟨rfl, s1, hm, hkt, hz⟩ := hv
    replace hk := hk.tr hkt.k
    have hw := hk.w hw0
    refine z_aload_n 0 h dX11_bribed_17 rfl rfl rfl ?_
    refine z_get h kX11 (.inl (hm.at 0 (by decide))) 19 rfl q1866 rfl dX11_bribed_18 ?_
    refine z_iret h hq dX11_bribed_21 (Nat.le_of_ble_eq_true rfl) (Nat.le_of_ble_eq_true rfl) ?_
    refine ⟨vS ?_, _, hm, hk, trivial⟩
    rw [hz.or]
    simp [aBribed, c_5, tn_nI (show s < 2 ^ 31 by omega)]
  · have _z := c_5
    refine z_bipush h dX11_bribed_8 kb_m2 ?_
    refine z_iret h hq dX11_bribed_10 (Nat.le_of_ble_eq_true rfl) (Nat.le_of_ble_eq_true rfl) ?_
    refine ⟨vS ?_, _, hm, hk, trivial⟩
    simp [aBribed, c_5]
set_option maxHeartbeats 4000000 in
theorem m_guardOf {l : Launch} {g : Zg} {ad : Nat → Nat} {M : Zm} {st : Ms} {W : Nat → Nat} (hm : Mod g ad M st) (hw : WR st W) (hi : InvW W) (s : Nat) (hs : s ≤ 1) : Cn l g yX11_guardOf cX11_guardOf 5 (some .int) 6 0 0 [.ref (ad 0), .int (nI s)] M (PM g ad st (some (.int (iI (gF W s (W 4)).1))) (fun s9 => s9.1 20 = nI (gF W s (W 4)).2)) := by
  refine Cn.start [(0, .ref (ad 0)), (1, .int (nI s))] (by decide) (Nat.le_of_ble_eq_true rfl) rfl ?_
  intro γ el eg h hq
  subst el; subst eg
  have h4 := hi.h4
  have h0 := hi.h0
  have hw0 := hw
  have hk : keep st st := keep.rf st
  refine z_aload_n 0 h dX11_guardOf_0 rfl rfl rfl ?_
  refine z_iload_n 1 h dX11_guardOf_1 rfl rfl ?_
  refine z_iconst h dX11_guardOf_2 ki_0 ?_
  refine z_callV h (m_findBribe hm hw hi s 0 hs (by decide)) kX11 (.inl (hm.at 0 (by decide))) (lw_V q2306 q2308 qs107 q148 q2309) nX11_findBribe rfl rfl rfl (Nat.le_of_ble_eq_true rfl) (Nat.le_of_ble_eq_true rfl) (Nat.le_of_ble_eq_true rfl) dX11_guardOf_3 (fun v M hv => ?_)
  obtain ⟨rfl, s1, hm, hkt, hz⟩ := hv
  replace hk := hk.tr hkt.k
  have hw := hk.w hw0
  have hz20 := hkt.1 20 (by decide) (by decide)
  refine z_iconst h dX11_guardOf_6 ki_m1 ?_
  refine z_istore_n 2 h dX11_guardOf_7 rfl rfl ?_
  have join_27 : ∀ (xv : Int32) (hx : xv = nI (farN W (bribO W s 0))), Z γ M 0 0 27 (lof [(0, .ref (ad 0)), (1, .int (nI s)), (2, .int (-1))]) [.int xv, .ref (ad 0)] := by
    intro xv hx
    refine zm_put 20 h hm (by decide) q1867 dX11_guardOf_27 (fun M hm => ?_)
    replace hk := keepS hk hm (by decide)
    have hw := hk.w hw0
    refine z_iconst h dX11_guardOf_30 ki_0 ?_
    refine z_istore_n 3 h dX11_guardOf_31 rfl rfl ?_
    have loop_32 : ∀ (fz : Nat) (M : Zm) (s1 : Ms) (t : Nat) (hm : Mod (cg γ) ad M s1) (hk : keep st s1) (ht : t ≤ W 4) (h20 : s1.1 20 = nI (gF W s t).2), (W 4 - t) < fz → Z γ M 0 0 32 (lof [(0, .ref (ad 0)), (1, .int (nI s)), (2, .int (iI (gF W s t).1)), (3, .int (nI t))]) [] := by
      intro fz
      induction fz with
      | zero => intro M s1 t hm hk ht h20 hz; exact absurd hz (Nat.not_lt_zero _)
      | succ fz ih_32 =>
        intro M s1 t hm hk ht h20 hz_32
        have hw := hk.w hw0
        have hgb := gF_b hi s t
        refine z_iload_n 3 h dX11_guardOf_32 rfl rfl ?_
        refine z_aload_n 0 h dX11_guardOf_33 rfl rfl rfl ?_
        refine z_get h kX11 (.inl (hm.at 0 (by decide))) 1 rfl q1848 rfl dX11_guardOf_34 ?_
        refine z_iconst h dX11_guardOf_37 ki_4 ?_
        refine zm_w (4) h hm hw rfl (by omega) dX11_guardOf_38 ?_
        refine z_icmp_ge 109 h dX11_guardOf_39 (by decide) (fun c_39 => ?_) (fun c_39 => ?_)
        · have _z := c_39
          replace c_39 := (ile (a := W (4)) (b := t) rfl rfl (hi.lt _ (by omega)) (by omega)).mp c_39
          refine z_iload_n 2 h dX11_guardOf_109 rfl rfl ?_
          refine z_iret h hq dX11_guardOf_110 (Nat.le_of_ble_eq_true rfl) (Nat.le_of_ble_eq_true rfl) ?_
          obtain rfl : t = W 4 := by omega
          exact ⟨rfl, _, hm, hk, h20⟩
        · have _z := c_39
          replace c_39 := (not_congr (ile (a := W (4)) (b := t) rfl rfl (hi.lt _ (by omega)) (by omega))).mp c_39
          refine z_aload_n 0 h dX11_guardOf_42 rfl rfl rfl ?_
          refine z_iload_n 3 h dX11_guardOf_43 rfl rfl ?_
          refine z_iconst h dX11_guardOf_44 ki_0 ?_
          refine z_callVP h (m_of0 hm hw hi t (by omega)) kX11 (.inl (hm.at 0 (by decide))) (lw_V q2079 q2081 qs82 q148 q2082) nX11_of rfl rfl rfl (Nat.le_of_ble_eq_true rfl) (Nat.le_of_ble_eq_true rfl) (Nat.le_of_ble_eq_true rfl) dX11_guardOf_45 ?_
          refine z_iload_n 1 h dX11_guardOf_48 rfl rfl ?_
          refine z_icmp_eq 55 h dX11_guardOf_49 (by decide) (fun c_49 => ?_) (fun c_49 => ?_)
          · have _z := c_49
            replace c_49 := (ieq (a := W (13 + 6 * t)) (b := s) rfl rfl (hi.lt _ (by omega)) (by omega)).mp c_49
            refine z_aload_n 0 h dX11_guardOf_55 rfl rfl rfl ?_
            refine z_iload_n 1 h dX11_guardOf_56 rfl rfl ?_
            refine z_iconst h dX11_guardOf_57 ki_1 ?_
            refine z_iload_n 3 h dX11_guardOf_58 rfl rfl ?_
            refine z_ishl h dX11_guardOf_59 ?_
            refine Z.st (show _ = _ by rw [shl_N t (by omega)]) ?_
            refine z_callV h (m_findBribe hm hw hi s (2 ^ t) hs (by have := pow_b (k := t) (n := 9) (by omega); omega)) kX11 (.inl (hm.at 0 (by decide))) (lw_V q2306 q2308 qs107 q148 q2309) nX11_findBribe rfl rfl rfl (Nat.le_of_ble_eq_true rfl) (Nat.le_of_ble_eq_true rfl) (Nat.le_of_ble_eq_true rfl) dX11_guardOf_60 (fun v M hv => ?_)
            obtain ⟨rfl, s1, hm, hkt, hz⟩ := hv
            replace hk := hk.tr hkt.k
            have hw := hk.w hw0
            have hz20 := hkt.1 20 (by decide) (by decide)
            rw [← hz20] at h20
            have join_81 : ∀ (xv : Int32) (hx : xv = nI (farN W (bribO W s (2 ^ t)))), Z γ M 0 0 81 (lof [(0, .ref (ad 0)), (1, .int (nI s)), (2, .int (iI (gF W s t).1)), (3, .int (nI t))]) [.int xv] := by
              intro xv hx
              have hfb := farN_le hi (bribO W s (2 ^ t))
              refine z_istore h dX11_guardOf_81 rfl ?_
              refine z_iload h dX11_guardOf_83 rfl ?_
              refine z_aload_n 0 h dX11_guardOf_85 rfl rfl rfl ?_
              refine z_get h kX11 (.inl (hm.at 0 (by decide))) 20 rfl q1867 rfl dX11_guardOf_86 ?_
              refine z_icmp_gt 95 h dX11_guardOf_89 (by decide) (fun c_89 => ?_) (fun c_89 => ?_)
              · have _z := c_89
                replace c_89 := (ilt (a := (gF W s t).2) (b := farN W (bribO W s (2 ^ t))) h20 hx (by omega) (by omega)).mp c_89
                refine z_aload_n 0 h dX11_guardOf_95 rfl rfl rfl ?_
                refine z_iload h dX11_guardOf_96 rfl ?_
                refine zm_put 20 h hm (by decide) q1867 dX11_guardOf_98 (fun M hm => ?_)
                replace hk := keepS hk hm (by decide)
                have hw := hk.w hw0
                refine z_iload_n 3 h dX11_guardOf_101 rfl rfl ?_
                refine z_istore_n 2 h dX11_guardOf_102 rfl rfl ?_
                refine z_iinc h dX11_guardOf_103 rfl rfl ki_1 ?_
                refine z_goto 32 h dX11_guardOf_106 (by decide) ?_
                refine Z.loc [(0, .ref (ad 0)), (1, .int (nI s)), (2, .int (iI (gF W s (t + 1)).1)), (3, .int (nI (t + 1)))] (ll1 rfl (ll1 rfl (ll1 (vS (by simp only [gF]; first | (rw [if_neg c_49]; done) | (rw [if_pos c_49, if_pos (by omega)]; done) | (rw [if_pos c_49, if_neg (by omega)]; exact nz rfl))) (ll1 (vS (nI_1 t)) ll0)))) ?_
                exact ih_32 _ _ (t + 1) hm hk (by omega) (by simp only [gF]; first | (rw [if_neg c_49]; exact h20) | (rw [if_pos c_49, if_pos (by omega)]; exact h20) | (rw [if_pos c_49, if_neg (by omega)]; exact hx)) (by omega)
              · have _z := c_89
                replace c_89 := (not_congr (ilt (a := (gF W s t).2) (b := farN W (bribO W s (2 ^ t))) h20 hx (by omega) (by omega))).mp c_89
                refine z_goto 103 h dX11_guardOf_92 (by decide) ?_
                refine z_iinc h dX11_guardOf_103 rfl rfl ki_1 ?_
                refine z_goto 32 h dX11_guardOf_106 (by decide) ?_
                refine Z.loc [(0, .ref (ad 0)), (1, .int (nI s)), (2, .int (iI (gF W s (t + 1)).1)), (3, .int (nI (t + 1)))] (ll1 rfl (ll1 rfl (ll1 (vS (by simp only [gF]; first | (rw [if_neg c_49]; done) | (rw [if_pos c_49, if_pos (by omega)]; done) | (rw [if_pos c_49, if_neg (by omega)]; exact nz rfl))) (ll1 (vS (nI_1 t)) ll0)))) ?_
                exact ih_32 _ _ (t + 1) hm hk (by omega) (by simp only [gF]; first | (rw [if_neg c_49]; exact h20) | (rw [if_pos c_49, if_pos (by omega)]; exact h20) | (rw [if_pos c_49, if_neg (by omega)]; exact hx)) (by omega)
            refine z_aload_n 0 h dX11_guardOf_63 rfl rfl rfl ?_
            refine z_get h kX11 (.inl (hm.at 0 (by decide))) 19 rfl q1866 rfl dX11_guardOf_64 ?_
            refine z_iconst h dX11_guardOf_67 ki_m1 ?_
            refine z_icmp_ne 77 h dX11_guardOf_68 (by decide) (fun c_68 => ?_) (fun c_68 => ?_)
            · have _z := c_68
              obtain ⟨b, ho, hb18⟩ := hz.some c_68
              refine z_aload_n 0 h dX11_guardOf_77 rfl rfl rfl ?_
              refine z_get h kX11 (.inl (hm.at 0 (by decide))) 18 rfl q1865 rfl dX11_guardOf_78 ?_
              refine Z.loc [(0, .ref (ad 0)), (1, .int (nI s)), (2, .int (iI (gF W s t).1)), (3, .int (nI t))] (ll1 rfl (ll1 rfl (ll1 rfl (ll1 rfl ll0)))) ?_
              exact join_81 _ (by rw [ho]; exact hb18)
            · have _z := c_68
              have ho := hz.none (bribO_b hi s (2 ^ t)) c_68
              refine z_ldcw h q2203 dX11_guardOf_71 ?_
              refine z_goto 81 h dX11_guardOf_74 (by decide) ?_
              refine Z.loc [(0, .ref (ad 0)), (1, .int (nI s)), (2, .int (iI (gF W s t).1)), (3, .int (nI t))] (ll1 rfl (ll1 rfl (ll1 rfl (ll1 rfl ll0)))) ?_
              exact join_81 _ (by rw [ho]; rfl)
          · have _z := c_49
            replace c_49 := (not_congr (ieq (a := W (13 + 6 * t)) (b := s) rfl rfl (hi.lt _ (by omega)) (by omega))).mp c_49
            refine z_goto 103 h dX11_guardOf_52 (by decide) ?_
            refine z_iinc h dX11_guardOf_103 rfl rfl ki_1 ?_
            refine z_goto 32 h dX11_guardOf_106 (by decide) ?_
            refine Z.loc [(0, .ref (ad 0)), (1, .int (nI s)), (2, .int (iI (gF W s (t + 1)).1)), (3, .int (nI (t + 1)))] (ll1 rfl (ll1 rfl (ll1 (vS (by simp only [gF]; first | (rw [if_neg c_49]; done) | (rw [if_pos c_49, if_pos (by omega)]; done) | (rw [if_pos c_49, if_neg (by omega)]; exact nz rfl))) (ll1 (vS (nI_1 t)) ll0)))) ?_
            exact ih_32 _ _ (t + 1) hm hk (by omega) (by simp only [gF]; first | (rw [if_neg c_49]; exact h20) | (rw [if_pos c_49, if_pos (by omega)]; exact h20) | (rw [if_pos c_49, if_neg (by omega)]; exact hx)) (by omega)
    refine Z.loc [(0, .ref (ad 0)), (1, .int (nI s)), (2, .int (iI (gF W s 0).1)), (3, .int (nI 0))] (ll1 rfl (ll1 rfl (ll1 rfl (ll1 rfl ll0)))) ?_
    exact loop_32 _ _ _ 0 hm hk (Nat.zero_le _) hx (Nat.lt_succ_self _)
  refine z_aload_n 0 h dX11_guardOf_8 rfl rfl rfl ?_
  refine z_aload_n 0 h dX11_guardOf_9 rfl rfl rfl ?_
  refine z_get h kX11 (.inl (hm.at 0 (by decide))) 19 rfl q1866 rfl dX11_guardOf_10 ?_
  refine z_iconst h dX11_guardOf_13 ki_m1 ?_
  refine z_icmp_ne 23 h dX11_guardOf_14 (by decide) (fun c_14 => ?_) (fun c_14 => ?_)
  · have _z := c_14
    obtain ⟨b, ho, hb18⟩ := hz.some c_14
    refine z_aload_n 0 h dX11_guardOf_23 rfl rfl rfl ?_
    refine z_get h kX11 (.inl (hm.at 0 (by decide))) 18 rfl q1865 rfl dX11_guardOf_24 ?_
    refine Z.loc [(0, .ref (ad 0)), (1, .int (nI s)), (2, .int (-1))] (ll1 rfl (ll1 rfl (ll1 rfl ll0))) ?_
    exact join_27 _ (by rw [ho]; exact hb18)
  · have _z := c_14
    have ho := hz.none (bribO_b hi s 0) c_14
    refine z_ldcw h q2203 dX11_guardOf_17 ?_
    refine z_goto 27 h dX11_guardOf_20 (by decide) ?_
    refine Z.loc [(0, .ref (ad 0)), (1, .int (nI s)), (2, .int (-1))] (ll1 rfl (ll1 rfl (ll1 rfl ll0))) ?_
    exact join_27 _ (by rw [ho]; rfl)
set_option maxHeartbeats 4000000 in
theorem m_guard {l : Launch} {g : Zg} {ad : Nat → Nat} {M : Zm} {st : Ms} {W : Nat → Nat} (hm : Mod g ad M st) (hw : WR st W) (hi : InvW W) (sv : Int32) : Cn l g yX11_guard cX11_guard 2 (some .int) 7 0 0 [.ref (ad 0), .int sv] M (PM g ad st (some (.int (aGuard W sv))) (fun _ => True)) := by
  refine Cn.start [(0, .ref (ad 0)), (1, .int sv)] (by decide) (Nat.le_of_ble_eq_true rfl) rfl ?_
  intro γ el eg h hq
  subst el; subst eg
  have h4 := hi.h4
  have h0 := hi.h0
  have hw0 := hw
  have hk : keep st st := keep.rf st
  refine z_aload_n 0 h dX11_guard_0 rfl rfl rfl ?_
  refine z_iload_n 1 h dX11_guard_1 rfl rfl ?_
  refine z_callVP h (m_isSide hm hw hi sv) kX11 (.inl (hm.at 0 (by decide))) (lw_V q2087 q2089 qs83 q148 q2090) nX11_isSide rfl rfl rfl (Nat.le_of_ble_eq_true rfl) (Nat.le_of_ble_eq_true rfl) (Nat.le_of_ble_eq_true rfl) dX11_guard_2 ?_
  refine z_ifz_eq 16 h dX11_guard_5 (by decide) (fun c_5 => ?_) (fun c_5 => ?_)
  · have _z := c_5
    refine z_bipush h dX11_guard_16 kb_m2 ?_
    refine z_iret h hq dX11_guard_18 (Nat.le_of_ble_eq_true rfl) (Nat.le_of_ble_eq_true rfl) ?_
    refine ⟨vS ?_, _, hm, hk, trivial⟩
    first | (simp [aGuard, c_5]; done) | (simp [aGuard, c_5, tn_nI (show s < 2 ^ 31 by omega)]; done)
  · have _z := c_5
    obtain ⟨s, h_s, rfl⟩ := isSide_nat c_5
    refine z_aload_n 0 h dX11_guard_8 rfl rfl rfl ?_
    refine z_iload_n 1 h dX11_guard_9 rfl rfl ?_
    refine z_callV h (m_guardOf hm hw hi s (by omega)) kX11 (.inl (hm.at 0 (by decide))) (lw_V q2318 q2320 qs108 q148 q2321) nX11_guardOf rfl rfl rfl (Nat.le_of_ble_eq_true rfl) (Nat.le_of_ble_eq_true rfl) (Nat.le_of_ble_eq_true rfl) dX11_guard_10 (fun v M hv => ?_)
    obtain ⟨rfl, s1, hm, hk1, hX⟩ := hv
    replace hk := hk.tr hk1
    have hw := hk.w hw0
    refine z_goto 18 h dX11_guard_13 (by decide) ?_
    refine z_iret h hq dX11_guard_18 (Nat.le_of_ble_eq_true rfl) (Nat.le_of_ble_eq_true rfl) ?_
    refine ⟨vS ?_, _, hm, hk, trivial⟩
    first | (simp [aGuard, c_5]; done) | (simp [aGuard, c_5, tn_nI (show s < 2 ^ 31 by omega)]; done)
set_option maxHeartbeats 4000000 in
theorem m_guarded {l : Launch} {g : Zg} {ad : Nat → Nat} {M : Zm} {st : Ms} {W : Nat → Nat} (hm : Mod g ad M st) (hw : WR st W) (hi : InvW W) (sv : Int32) : Cn l g yX11_guarded cX11_guarded 2 (some .int) 7 0 0 [.ref (ad 0), .int sv] M (PM g ad st (some (.int (aGuarded W sv))) (fun _ => True)) := by
  refine Cn.start [(0, .ref (ad 0)), (1, .int sv)] (by decide) (Nat.le_of_ble_eq_true rfl) rfl ?_
  intro γ el eg h hq
  subst el; subst eg
  have h4 := hi.h4
  have h0 := hi.h0
  have hw0 := hw
  have hk : keep st st := keep.rf st
  refine z_aload_n 0 h dX11_guarded_0 rfl rfl rfl ?_
  refine z_iload_n 1 h dX11_guarded_1 rfl rfl ?_
  refine z_callVP h (m_isSide hm hw hi sv) kX11 (.inl (hm.at 0 (by decide))) (lw_V q2087 q2089 qs83 q148 q2090) nX11_isSide rfl rfl rfl (Nat.le_of_ble_eq_true rfl) (Nat.le_of_ble_eq_true rfl) (Nat.le_of_ble_eq_true rfl) dX11_guarded_2 ?_
  refine z_ifz_eq 17 h dX11_guarded_5 (by decide) (fun c_5 => ?_) (fun c_5 => ?_)
  · have _z := c_5
    refine z_bipush h dX11_guarded_17 kb_m2 ?_
    refine z_iret h hq dX11_guarded_19 (Nat.le_of_ble_eq_true rfl) (Nat.le_of_ble_eq_true rfl) ?_
    refine ⟨vS ?_, _, hm, hk, trivial⟩
    first | (simp [aGuarded, c_5]; done) | (simp [aGuarded, c_5, tn_nI (show s < 2 ^ 31 by omega), c_14]; done)
  · have _z := c_5
    obtain ⟨s, h_s, rfl⟩ := isSide_nat c_5
    refine z_aload_n 0 h dX11_guarded_8 rfl rfl rfl ?_
    refine z_iload_n 1 h dX11_guarded_9 rfl rfl ?_
    refine z_callV h (m_guardOf hm hw hi s (by omega)) kX11 (.inl (hm.at 0 (by decide))) (lw_V q2318 q2320 qs108 q148 q2321) nX11_guardOf rfl rfl rfl (Nat.le_of_ble_eq_true rfl) (Nat.le_of_ble_eq_true rfl) (Nat.le_of_ble_eq_true rfl) dX11_guarded_10 (fun v M hv => ?_)
    obtain ⟨rfl, s1, hm, hk1, hX⟩ := hv
    replace hk := hk.tr hk1
    have hw := hk.w hw0
    have hgb := gF_b hi s (W 4)
    refine z_iconst h dX11_guarded_13 ki_m1 ?_
    refine z_icmp_ne 20 h dX11_guarded_14 (by decide) (fun c_14 => ?_) (fun c_14 => ?_)
    · have _z := c_14
      replace c_14 := (not_congr (zeq (a := (gF W s (W 4)).1) (b := (-1)) rfl (by decide) (by omega) (by decide))).mp c_14
      refine z_aload_n 0 h dX11_guarded_20 rfl rfl rfl ?_
      refine z_get h kX11 (.inl (hm.at 0 (by decide))) 20 rfl q1867 rfl dX11_guarded_21 ?_
      refine z_ldcw h q2203 dX11_guarded_24 ?_
      refine z_icmp_ne 34 h dX11_guarded_27 (by decide) (fun c_27 => ?_) (fun c_27 => ?_)
      · have _z := c_27
        replace c_27 := (not_congr (ieq (a := (gF W s (W 4)).2) (b := 1000000) hX rfl (by omega) (by decide))).mp c_27
        refine z_aload_n 0 h dX11_guarded_34 rfl rfl rfl ?_
        refine z_get h kX11 (.inl (hm.at 0 (by decide))) 20 rfl q1867 rfl dX11_guarded_35 ?_
        refine z_iret h hq dX11_guarded_38 (Nat.le_of_ble_eq_true rfl) (Nat.le_of_ble_eq_true rfl) ?_
        refine ⟨vS ?_, _, hm, hk, trivial⟩
        first | (simp [aGuarded, c_5, tn_nI (show s < 2 ^ 31 by omega), c_14, c_27]; done) | (rw [hX]; simp [aGuarded, c_5, tn_nI (show s < 2 ^ 31 by omega), c_14, c_27]; done)
      · have _z := c_27
        replace c_27 := (ieq (a := (gF W s (W 4)).2) (b := 1000000) hX rfl (by omega) (by decide)).mp c_27
        refine z_iconst h dX11_guarded_30 ki_m1 ?_
        refine z_goto 38 h dX11_guarded_31 (by decide) ?_
        refine z_iret h hq dX11_guarded_38 (Nat.le_of_ble_eq_true rfl) (Nat.le_of_ble_eq_true rfl) ?_
        refine ⟨vS ?_, _, hm, hk, trivial⟩
        first | (simp [aGuarded, c_5, tn_nI (show s < 2 ^ 31 by omega), c_14, c_27]; done) | (rw [hX]; simp [aGuarded, c_5, tn_nI (show s < 2 ^ 31 by omega), c_14, c_27]; done)
    · have _z := c_14
      replace c_14 := (zeq (a := (gF W s (W 4)).1) (b := (-1)) rfl (by decide) (by omega) (by decide)).mp c_14
      refine z_bipush h dX11_guarded_17 kb_m2 ?_
      refine z_iret h hq dX11_guarded_19 (Nat.le_of_ble_eq_true rfl) (Nat.le_of_ble_eq_true rfl) ?_
      refine ⟨vS ?_, _, hm, hk, trivial⟩
      first | (simp [aGuarded, c_5]; done) | (simp [aGuarded, c_5, tn_nI (show s < 2 ^ 31 by omega), c_14]; done)
