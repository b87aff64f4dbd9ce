/-! the reference: spoilt, answered, rests -/
set_option maxRecDepth 100000
theorem pr_nat {v : Int32} (h : inI v 0 999 = true) : ∃ n : Nat, n ≤ 999 ∧ v = nI n := by
  obtain ⟨n, h1, h2, h3⟩ := inI_nat h
  exact ⟨n, by omega, h3⟩
def boughtB (W : Nat → Nat) (s k n : Nat) : Bool := subN k (ownN W s) && decide (priceN W k (W 4) ≤ n)
def FrS (W : Nat → Nat) (s : Ms) : Prop := ∀ j, j < allN W + 1 → s.2.1 21 j = iI (frZ W j (W 0))
def gC (W : Nat → Nat) (s k : Nat) : Nat := (gdZ s (frZ W k (W 0)) + 100).toNat
theorem gC_lt {W : Nat → Nat} (hi : InvW W) (s a b : Nat) : gC W s a < gC W s b ↔ gdZ s (frZ W a (W 0)) < gdZ s (frZ W b (W 0)) := by
  have h1 := gd_b hi s a
  have h2 := gd_b hi s b
  unfold gC
  omega
def spO (W : Nat → Nat) (s n : Nat) : Nat → Option Nat := argm (fun k => boughtB W s k n) (gC W s)
def spS (W : Nat → Nat) (s n : Nat) : Nat := (spO W s n (allN W + 1)).getD 0
theorem sub_0 (o : Nat) : subN 0 o = true := by unfold subN; simp
theorem price_0 (W : Nat → Nat) : ∀ t, priceN W 0 t = 0
  | 0 => rfl
  | t + 1 => by
    have := price_0 W t
    unfold priceN at this ⊢
    show sN _ t + bN 0 t * _ = 0
    rw [this]
    simp [bN]
theorem bought_0 (W : Nat → Nat) (s n : Nat) : boughtB W s 0 n = true := by
  unfold boughtB
  rw [sub_0, price_0]
  simp
theorem argm_ne {P : Nat → Bool} {c : Nat → Nat} (h0 : P 0 = true) : ∀ n : Nat, ∃ b, argm P c (n + 1) = some b
  | 0 => ⟨0, by simp [argm, h0, upd1]⟩
  | n + 1 => by
    obtain ⟨b, hb⟩ := argm_ne (c := c) h0 n
    rw [argm, hb]
    split
    · simp only [upd1]
      split <;> exact ⟨_, rfl⟩
    · exact ⟨_, rfl⟩
/-- where the search for the most spoilt stands behind k sets -/
def pInv (W : Nat → Nat) (s n k : Nat) (lz : Int) (v : Int32) : Prop := (spO W s n k = none ∧ lz = 1000000) ∨ ∃ b, spO W s n k = some b ∧ lz = gdZ s (frZ W b (W 0)) ∧ v = nI b
theorem pInv_b {W : Nat → Nat} (hi : InvW W) {s n k : Nat} {lz : Int} {v : Int32} (h : pInv W s n k lz v) : -60 ≤ lz ∧ lz ≤ 1000000 := by
  rcases h with ⟨-, e⟩ | ⟨b, -, e, -⟩
  · omega
  · have := gd_b hi s b; omega
theorem pInv_no {W : Nat → Nat} {s n k : Nat} {lz : Int} {v : Int32} (h : pInv W s n k lz v) (hb : boughtB W s k n = false) : pInv W s n (k + 1) lz v := by
  unfold pInv spO at *
  rw [argm, if_neg (by rw [hb]; decide)]
  exact h
theorem pInv_skip {W : Nat → Nat} (hi : InvW W) {s n k : Nat} {lz : Int} {v : Int32} (h : pInv W s n k lz v) (hc : lz ≤ gdZ s (frZ W k (W 0))) : pInv W s n (k + 1) lz v := by
  have hg := gd_b hi s k
  rcases h with ⟨-, e⟩ | ⟨b, e1, e2, e3⟩
  · omega
  · refine Or.inr ⟨b, ?_, e2, e3⟩
    unfold spO at *
    rw [argm_skip e1 (by rw [gC_lt hi]; omega)]
    exact e1
theorem pInv_take {W : Nat → Nat} (hi : InvW W) {s n k : Nat} {lz : Int} {v : Int32} (h : pInv W s n k lz v) (hb : boughtB W s k n = true) (hc : gdZ s (frZ W k (W 0)) < lz) : pInv W s n (k + 1) (gdZ s (frZ W k (W 0))) (nI k) := by
  refine Or.inr ⟨k, ?_, rfl, rfl⟩
  unfold spO at *
  rw [argm, if_pos hb]
  rcases h with ⟨e, -⟩ | ⟨b, e1, e2, -⟩
  · unfold spO at e; rw [e]; rfl
  · unfold spO at e1
    rw [e1]
    exact if_pos (by rw [gC_lt hi]; omega)
theorem pInv_end {W : Nat → Nat} {s n : Nat} {lz : Int} {v : Int32} (h : pInv W s n (allN W + 1) lz v) : lz = gdZ s (frZ W (spS W s n) (W 0)) ∧ v = nI (spS W s n) := by
  obtain ⟨b, hb⟩ := argm_ne (P := fun k => boughtB W s k n) (c := gC W s) (bought_0 W s n) (allN W)
  rcases h with ⟨e, -⟩ | ⟨b2, e1, e2, e3⟩
  · unfold spO at e; rw [hb] at e; cases e
  · have : spS W s n = b2 := by unfold spS; rw [e1]; rfl
    rw [this]
    exact ⟨e2, e3⟩
def aSpoil (W : Nat → Nat) (s n : Int32) : Int32 := if (isSideB W s && inI n 0 999) = true then iI (gdZ (tn s) (frZ W (spS W (tn s) (tn n)) (W 0))) else -1000
def aSpoils (W : Nat → Nat) (s n : Int32) : Int32 := if (isSideB W s && inI n 0 999) = true then nI (spS W (tn s) (tn n)) else -2
/-- the most good left by the other's sets below k -/
def bgF (W : Nat → Nat) (s o n : Nat) : Nat → Int
  | 0 => -1000000
  | k + 1 => if boughtB W (1 - s) k n = true then (if bgF W s o n k < gdZ s (frZ W (o ||| k) (W 0)) then gdZ s (frZ W (o ||| k) (W 0)) else bgF W s o n k) else bgF W s o n k
theorem bgF_b {W : Nat → Nat} (hi : InvW W) (s o n : Nat) : ∀ k, -1000000 ≤ bgF W s o n k ∧ bgF W s o n k ≤ 60
  | 0 => ⟨by show (-1000000 : Int) ≤ -1000000; decide, by show (-1000000 : Int) ≤ 60; decide⟩
  | k + 1 => by
    have h := bgF_b hi s o n k
    have h2 := gd_b hi s (o ||| k)
    unfold bgF
    split
    · split <;> omega
    · exact h
def bgZ (W : Nat → Nat) (s o n : Nat) : Int := bgF W s o n (allN W + 1)
def anF (W : Nat → Nat) (s n : Nat) : Nat → Int
  | 0 => 1000000
  | k + 1 => if boughtB W s k n = true then (if bgZ W s k n < anF W s n k then bgZ W s k n else anF W s n k) else anF W s n k
theorem anF_b {W : Nat → Nat} (hi : InvW W) (s n : Nat) : ∀ k, -1000000 ≤ anF W s n k ∧ anF W s n k ≤ 1000000
  | 0 => ⟨by show (-1000000 : Int) ≤ 1000000; decide, Int.le_refl _⟩
  | k + 1 => by
    have h := anF_b hi s n k
    have h2 := bgF_b hi s k n (allN W + 1)
    unfold anF bgZ
    split
    · split <;> omega
    · exact h
def aAnswer (W : Nat → Nat) (s n : Int32) : Int32 := if (isSideB W s && inI n 0 999) = true then iI (anF W (tn s) (tn n) (allN W + 1)) else -1000
def rsI (W : Nat → Nat) (n a : Nat) : Nat → Nat := sN (fun b => if boughtB W 1 b n = true ∧ frZ W (a ||| b) (W 0) = bgZ W 0 a n ∧ -(frZ W (a ||| b) (W 0)) = bgZ W 1 b n then 1 else 0)
def rsO (W : Nat → Nat) (n : Nat) : Nat → Nat := sN (fun a => if boughtB W 0 a n = true then rsI W n a (allN W + 1) else 0)
def aRests (W : Nat → Nat) (n : Int32) : Int32 := if (isWarB W && inI n 0 999) = true then nI (rsO W (tn n) (allN W + 1)) else -2
theorem or_le {W : Nat → Nat} {a b : Nat} (ha : a < allN W + 1) (hb : b < allN W + 1) : a ||| b < allN W + 1 := by
  rw [all1] at *
  exact Nat.or_lt_two_pow ha hb
theorem max_iI {a b : Int} (ha : -2 ^ 31 ≤ a ∧ a < 2 ^ 31) (hb : -2 ^ 31 ≤ b ∧ b < 2 ^ 31) : (if iI a < iI b then iI b else iI a) = iI (if a < b then b else a) := by
  by_cases h : a < b
  · rw [if_pos h, if_pos ((zlt rfl rfl ha hb).mpr h)]
  · rw [if_neg h, if_neg (fun q => h ((zlt rfl rfl ha hb).mp q))]
theorem sN_1 {f : Nat → Nat} (h : ∀ k, f k ≤ 1) : ∀ n, sN f n ≤ n
  | 0 => Nat.le_refl _
  | n + 1 => by
    have := sN_1 h n
    have := h n
    simp only [sN]
    omega
set_option maxHeartbeats 4000000 in
theorem m_isPrice {l : Launch} {g : Zg} {M : Zm} (v : Int32) : Cn l g yX11_isPrice cX11_isPrice 1 (some .boolean) 2 0 0 [.int v] M (PV (.int (z2i (inI v 0 999))) M) := by
  refine Cn.start [(0, .int v)] (by decide) (Nat.le_of_ble_eq_true rfl) rfl ?_
  intro γ el eg h hq
  subst el; subst eg
  refine z_iload_n 0 h dX11_isPrice_0 rfl rfl ?_
  refine z_i2l h dX11_isPrice_1 ?_
  refine z_lconst h dX11_isPrice_2 kl_0 ?_
  refine z_ldc2 h q2333 dX11_isPrice_3 ?_
  refine z_callSP h (m_inI v 0 999 0 999 rfl rfl) (lw_S q1950 q1951 q148 q1952) nX11_in rfl rfl rfl (Nat.le_of_ble_eq_true rfl) (Nat.le_of_ble_eq_true rfl) (Nat.le_of_ble_eq_true rfl) dX11_isPrice_6 ?_
  exact z_zret h hq (z2i_n _) dX11_isPrice_9 (Nat.le_of_ble_eq_true rfl) (Nat.le_of_ble_eq_true rfl) (⟨rfl, rfl⟩)
set_option maxHeartbeats 4000000 in
theorem m_fillFronts {l : Launch} {g : Zg} {ad : Nat → Nat} {M : Zm} {st : Ms} {W : Nat → Nat} (hm : Mod g ad M st) (hw : WR st W) (hi : InvW W)  : Cn l g yX11_fillFronts cX11_fillFronts 2 none 6 0 0 [.ref (ad 0)] M (PM g ad st none (fun s9 => FrS W s9)) := by
  refine Cn.start [(0, .ref (ad 0))] (by decide) (Nat.le_of_ble_eq_true rfl) rfl ?_
  intro γ el eg h hq
  subst el; subst eg
  have h4 := hi.h4
  have h0 := hi.h0
  have hw0 := hw
  have hk : keep st st := keep.rf st
  have hall := allN_511 hi
  refine z_iconst h dX11_fillFronts_0 ki_0 ?_
  refine z_istore_n 1 h dX11_fillFronts_1 rfl rfl ?_
  have loop_2 : ∀ (fz : Nat) (M : Zm) (s1 : Ms) (k : Nat) (hm : Mod (cg γ) ad M s1) (hk : keep st s1) (hk2 : k ≤ allN W + 1) (hfs : ∀ j, j < k → s1.2.1 21 j = iI (frZ W j (W 0))), (allN W + 1 - k) < fz → Z γ M 0 0 2 (lof [(0, .ref (ad 0)), (1, .int (nI k))]) [] := by
    intro fz
    induction fz with
    | zero => intro M s1 k hm hk hk2 hfs hz; exact absurd hz (Nat.not_lt_zero _)
    | succ fz ih_2 =>
      intro M s1 k hm hk hk2 hfs hz_2
      have hw := hk.w hw0
      refine z_iload_n 1 h dX11_fillFronts_2 rfl rfl ?_
      refine z_aload_n 0 h dX11_fillFronts_3 rfl rfl rfl ?_
      refine z_callVP h (m_allTrains hm hw hi) kX11 (.inl (hm.at 0 (by decide))) (lw_V q2128 q2130 qs87 q148 q2131) nX11_allTrains rfl rfl rfl (Nat.le_of_ble_eq_true rfl) (Nat.le_of_ble_eq_true rfl) (Nat.le_of_ble_eq_true rfl) dX11_fillFronts_4 ?_
      refine z_icmp_gt 27 h dX11_fillFronts_7 (by decide) (fun c_7 => ?_) (fun c_7 => ?_)
      · have _z := c_7
        replace c_7 := (ilt (a := allN W) (b := k) rfl rfl (allN_lt hi) (by omega)).mp c_7
        refine z_vret h hq dX11_fillFronts_27 (Nat.le_of_ble_eq_true rfl) (Nat.le_of_ble_eq_true rfl) ?_
        obtain rfl : k = allN W + 1 := by omega
        exact ⟨rfl, _, hm, hk, hfs⟩
      · have _z := c_7
        replace c_7 := (not_congr (ilt (a := allN W) (b := k) rfl rfl (allN_lt hi) (by omega))).mp c_7
        refine z_aload_n 0 h dX11_fillFronts_10 rfl rfl rfl ?_
        refine z_get h kX11 (.inl (hm.at 0 (by decide))) 21 rfl q1868 rfl dX11_fillFronts_11 ?_
        refine z_iload_n 1 h dX11_fillFronts_14 rfl rfl ?_
        refine z_aload_n 0 h dX11_fillFronts_15 rfl rfl rfl ?_
        refine z_iload_n 1 h dX11_fillFronts_16 rfl rfl ?_
        refine z_callV h (m_lastFront hm hw hi k (by omega)) kX11 (.inl (hm.at 0 (by decide))) (lw_V q2167 q2169 qs93 q148 q2170) nX11_lastFront rfl rfl rfl (Nat.le_of_ble_eq_true rfl) (Nat.le_of_ble_eq_true rfl) (Nat.le_of_ble_eq_true rfl) dX11_fillFronts_17 (fun v M hv => ?_)
        obtain ⟨rfl, s1, hm, hkf, hX⟩ := hv
        replace hk := hk.tr hkf.k
        have hw := hk.w hw0
        have hfs2 := fun j hj => (congrFun (hkf.2.1 21 (by decide)) j).trans (hfs j hj)
        refine zm_iast 21 (k) h hm (by decide) (fun _ => rfl) rfl (by omega) (by decide) dX11_fillFronts_20 (fun M hm => ?_)
        replace hk := keepA hk hm (by decide)
        have hw := hk.w hw0
        refine z_iinc h dX11_fillFronts_21 rfl rfl ki_1 ?_
        refine z_goto 2 h dX11_fillFronts_24 (by decide) ?_
        refine Z.loc [(0, .ref (ad 0)), (1, .int (nI (k + 1)))] (ll1 rfl (ll1 (vS (nI_1 k)) ll0)) ?_
        exact ih_2 _ _ (k + 1) hm hk (by omega) (up_step (F := fun j => frZ W j (W 0)) hfs2) (by omega)
  refine Z.loc [(0, .ref (ad 0)), (1, .int (nI 0))] (ll1 rfl (ll1 rfl ll0)) ?_
  exact loop_2 _ _ _ 0 hm hk (Nat.zero_le _) (fun j hj => absurd hj (Nat.not_lt_zero j)) (Nat.lt_succ_self _)
set_option maxHeartbeats 4000000 in
theorem m_isBought {l : Launch} {g : Zg} {ad : Nat → Nat} {M : Zm} {st : Ms} {W : Nat → Nat} (hm : Mod g ad M st) (hw : WR st W) (hi : InvW W) (s k n : Nat) (hs : s ≤ 1) (hk : k < 2 ^ 31) (hn : n < 2 ^ 31) : Cn l g yX11_isBought cX11_isBought 4 (some .boolean) 3 0 0 [.ref (ad 0), .int (nI s), .int (nI k), .int (nI n)] M (PV (.int (z2i (boughtB W s k n))) M) := by
  refine Cn.start [(0, .ref (ad 0)), (1, .int (nI s)), (2, .int (nI k)), (3, .int (nI n))] (by decide) (Nat.le_of_ble_eq_true rfl) rfl ?_
  intro γ el eg h hq
  subst el; subst eg
  have hown := ownN_lt hi s
  refine z_iload_n 2 h dX11_isBought_0 rfl rfl ?_
  refine z_aload_n 0 h dX11_isBought_1 rfl rfl rfl ?_
  refine z_iload_n 1 h dX11_isBought_2 rfl rfl ?_
  refine z_callVP h (m_trainsOf hm hw hi s hs) kX11 (.inl (hm.at 0 (by decide))) (lw_V q2250 q2252 qs98 q148 q2253) nX11_trainsOf rfl rfl rfl (Nat.le_of_ble_eq_true rfl) (Nat.le_of_ble_eq_true rfl) (Nat.le_of_ble_eq_true rfl) dX11_isBought_3 ?_
  refine z_iconst h dX11_isBought_6 ki_m1 ?_
  refine z_ixor h dX11_isBought_7 ?_
  refine z_iand h dX11_isBought_8 ?_
  refine z_if_ne 25 h dX11_isBought_9 (by decide) (fun c_9 => ?_) (fun c_9 => ?_)
  · have _z := c_9
    replace c_9 : subN k (ownN W s) = false := Bool.eq_false_iff.mpr (fun q => c_9 ((sub_iff (a := k) (b := ownN W s) (by omega) (by omega)).mpr q))
    refine z_iconst h dX11_isBought_25 ki_0 ?_
    refine z_zret h hq rfl dX11_isBought_26 (Nat.le_of_ble_eq_true rfl) (Nat.le_of_ble_eq_true rfl) ?_
    first | (refine ⟨zb1 ?_, rfl⟩; simp [boughtB, c_9]; omega) | (refine ⟨zb0 ?_, rfl⟩; simp [boughtB, c_9]; done) | (refine ⟨zb0 ?_, rfl⟩; simp [boughtB, c_9]; omega)
  · have _z := c_9
    replace c_9 := (sub_iff (a := k) (b := ownN W s) (by omega) (by omega)).mp c_9
    refine z_aload_n 0 h dX11_isBought_12 rfl rfl rfl ?_
    refine z_iload_n 2 h dX11_isBought_13 rfl rfl ?_
    refine z_callVP h (m_priceOf hm hw hi k (by omega)) kX11 (.inl (hm.at 0 (by decide))) (lw_V q2262 q2264 qs101 q148 q2265) nX11_priceOf rfl rfl rfl (Nat.le_of_ble_eq_true rfl) (Nat.le_of_ble_eq_true rfl) (Nat.le_of_ble_eq_true rfl) dX11_isBought_14 ?_
    refine z_iload_n 3 h dX11_isBought_17 rfl rfl ?_
    refine z_icmp_gt 25 h dX11_isBought_18 (by decide) (fun c_18 => ?_) (fun c_18 => ?_)
    · have _z := c_18
      replace c_18 := (ilt (a := n) (b := priceN W k (W 4)) rfl rfl (by omega) (by have := priceN_lt hi k; omega)).mp c_18
      refine z_iconst h dX11_isBought_25 ki_0 ?_
      refine z_zret h hq rfl dX11_isBought_26 (Nat.le_of_ble_eq_true rfl) (Nat.le_of_ble_eq_true rfl) ?_
      first | (refine ⟨zb1 ?_, rfl⟩; simp [boughtB, c_9]; omega) | (refine ⟨zb0 ?_, rfl⟩; simp [boughtB, c_9]; done) | (refine ⟨zb0 ?_, rfl⟩; simp [boughtB, c_9]; omega)
    · have _z := c_18
      replace c_18 := (not_congr (ilt (a := n) (b := priceN W k (W 4)) rfl rfl (by omega) (by have := priceN_lt hi k; omega))).mp c_18
      refine z_iconst h dX11_isBought_21 ki_1 ?_
      refine z_goto 26 h dX11_isBought_22 (by decide) ?_
      refine z_zret h hq rfl dX11_isBought_26 (Nat.le_of_ble_eq_true rfl) (Nat.le_of_ble_eq_true rfl) ?_
      first | (refine ⟨zb1 ?_, rfl⟩; simp [boughtB, c_9]; omega) | (refine ⟨zb0 ?_, rfl⟩; simp [boughtB, c_9]; done) | (refine ⟨zb0 ?_, rfl⟩; simp [boughtB, c_9]; omega)
set_option maxHeartbeats 4000000 in
theorem m_spoilOf {l : Launch} {g : Zg} {ad : Nat → Nat} {M : Zm} {st : Ms} {W : Nat → Nat} (hm : Mod g ad M st) (hw : WR st W) (hi : InvW W) (s n : Nat) (hs : s ≤ 1) (hn : n ≤ 999) : Cn l g yX11_spoilOf cX11_spoilOf 5 (some .int) 7 0 0 [.ref (ad 0), .int (nI s), .int (nI n)] M (PM g ad st (some (.int (iI (gdZ s (frZ W (spS W s n) (W 0)))))) (fun s9 => s9.1 22 = nI (spS W s n))) := by
  refine Cn.start [(0, .ref (ad 0)), (1, .int (nI s)), (2, .int (nI n))] (by decide) (Nat.le_of_ble_eq_true rfl) rfl ?_
  intro γ el eg h hq
  subst el; subst eg
  have h4 := hi.h4
  have h0 := hi.h0
  have hw0 := hw
  have hk : keep st st := keep.rf st
  have hall := allN_511 hi
  refine z_aload_n 0 h dX11_spoilOf_0 rfl rfl rfl ?_
  refine z_callV h (m_fillFronts hm hw hi) kX11 (.inl (hm.at 0 (by decide))) (lw_V q2338 q2340 qs110 q148 q2341) nX11_fillFronts rfl rfl rfl (Nat.le_of_ble_eq_true rfl) (Nat.le_of_ble_eq_true rfl) (Nat.le_of_ble_eq_true rfl) dX11_spoilOf_1 (fun v M hv => ?_)
  obtain ⟨rfl, s1, hm, hk1, hX⟩ := hv
  replace hk := hk.tr hk1
  have hw := hk.w hw0
  refine z_ldcw h q2203 dX11_spoilOf_4 ?_
  refine z_istore_n 3 h dX11_spoilOf_7 rfl rfl ?_
  refine z_iconst h dX11_spoilOf_8 ki_0 ?_
  refine z_istore h dX11_spoilOf_9 rfl ?_
  have loop_11 : ∀ (fz : Nat) (M : Zm) (s1 : Ms) (k : Nat) (lz : Int) (hm : Mod (cg γ) ad M s1) (hk : keep st s1) (hk2 : k ≤ allN W + 1) (hfs : FrS W s1) (hv : pInv W s n k lz (s1.1 22)), (allN W + 1 - k) < fz → Z γ M 0 0 11 (lof [(0, .ref (ad 0)), (1, .int (nI s)), (2, .int (nI n)), (3, .int (iI lz)), (4, .int (nI k))]) [] := by
    intro fz
    induction fz with
    | zero => intro M s1 k lz hm hk hk2 hfs hv hz; exact absurd hz (Nat.not_lt_zero _)
    | succ fz ih_11 =>
      intro M s1 k lz hm hk hk2 hfs hv hz_11
      have hw := hk.w hw0
      have hlz := pInv_b hi hv
      refine z_iload h dX11_spoilOf_11 rfl ?_
      refine z_aload_n 0 h dX11_spoilOf_13 rfl rfl rfl ?_
      refine z_callVP h (m_allTrains hm hw hi) kX11 (.inl (hm.at 0 (by decide))) (lw_V q2128 q2130 qs87 q148 q2131) nX11_allTrains rfl rfl rfl (Nat.le_of_ble_eq_true rfl) (Nat.le_of_ble_eq_true rfl) (Nat.le_of_ble_eq_true rfl) dX11_spoilOf_14 ?_
      refine z_icmp_gt 73 h dX11_spoilOf_17 (by decide) (fun c_17 => ?_) (fun c_17 => ?_)
      · have _z := c_17
        replace c_17 := (ilt (a := allN W) (b := k) rfl rfl (allN_lt hi) (by omega)).mp c_17
        refine z_iload_n 3 h dX11_spoilOf_73 rfl rfl ?_
        refine z_iret h hq dX11_spoilOf_74 (Nat.le_of_ble_eq_true rfl) (Nat.le_of_ble_eq_true rfl) ?_
        obtain rfl : k = allN W + 1 := by omega
        obtain ⟨e1, e2⟩ := pInv_end hv
        exact ⟨by rw [e1], _, hm, hk, e2⟩
      · have _z := c_17
        replace c_17 := (not_congr (ilt (a := allN W) (b := k) rfl rfl (allN_lt hi) (by omega))).mp c_17
        refine z_aload_n 0 h dX11_spoilOf_20 rfl rfl rfl ?_
        refine z_iload_n 1 h dX11_spoilOf_21 rfl rfl ?_
        refine z_iload h dX11_spoilOf_22 rfl ?_
        refine z_iload_n 2 h dX11_spoilOf_24 rfl rfl ?_
        refine z_callVP h (m_isBought hm hw hi (s) k n hs (by omega) (by omega)) kX11 (.inl (hm.at 0 (by decide))) (lw_V q2342 q2344 qs111 q148 q2345) nX11_isBought rfl rfl rfl (Nat.le_of_ble_eq_true rfl) (Nat.le_of_ble_eq_true rfl) (Nat.le_of_ble_eq_true rfl) dX11_spoilOf_25 ?_
        refine z_ifz_eq 67 h dX11_spoilOf_28 (by decide) (fun c_28 => ?_) (fun c_28 => ?_)
        · have _z := c_28
          refine z_iinc h dX11_spoilOf_67 rfl rfl ki_1 ?_
          refine z_goto 11 h dX11_spoilOf_70 (by decide) ?_
          refine Z.loc [(0, .ref (ad 0)), (1, .int (nI s)), (2, .int (nI n)), (3, .int (iI _)), (4, .int (nI (k + 1)))] (ll1 rfl (ll1 rfl (ll1 rfl (ll1 rfl (ll1 (vS (nI_1 k)) ll0))))) ?_
          exact ih_11 _ _ (k + 1) _ hm hk (by omega) hfs (by first | exact pInv_no hv c_28 | exact pInv_skip hi hv (by omega) | exact pInv_take hi hv c_28 (by omega)) (by omega)
        · have _z := c_28
          refine z_iload_n 1 h dX11_spoilOf_31 rfl rfl ?_
          refine z_aload_n 0 h dX11_spoilOf_32 rfl rfl rfl ?_
          refine z_get h kX11 (.inl (hm.at 0 (by decide))) 21 rfl q1868 rfl dX11_spoilOf_33 ?_
          refine z_iload h dX11_spoilOf_36 rfl ?_
          refine z_ialdN (k) h (.inl (hm.at 21 (by decide))) rfl (by omega) (by decide) dX11_spoilOf_38 ?_
          rw [hfs k (by omega)]
          have hg := gd_b hi s k
          refine z_callSP h (m_goodBy s (frZ W (k) (W 0)) hs) (lw_S q2175 q2176 q148 q2177) nX11_goodBy rfl rfl rfl (Nat.le_of_ble_eq_true rfl) (Nat.le_of_ble_eq_true rfl) (Nat.le_of_ble_eq_true rfl) dX11_spoilOf_39 ?_
          refine z_iload_n 3 h dX11_spoilOf_42 rfl rfl ?_
          refine z_icmp_lt 49 h dX11_spoilOf_43 (by decide) (fun c_43 => ?_) (fun c_43 => ?_)
          · have _z := c_43
            replace c_43 := (zlt (a := gdZ s (frZ W (k) (W 0))) (b := lz) rfl rfl (by omega) (by omega)).mp c_43
            refine z_iload_n 1 h dX11_spoilOf_49 rfl rfl ?_
            refine z_aload_n 0 h dX11_spoilOf_50 rfl rfl rfl ?_
            refine z_get h kX11 (.inl (hm.at 0 (by decide))) 21 rfl q1868 rfl dX11_spoilOf_51 ?_
            refine z_iload h dX11_spoilOf_54 rfl ?_
            refine z_ialdN (k) h (.inl (hm.at 21 (by decide))) rfl (by omega) (by decide) dX11_spoilOf_56 ?_
            rw [hfs k (by omega)]
            refine z_callSP h (m_goodBy s (frZ W (k) (W 0)) hs) (lw_S q2175 q2176 q148 q2177) nX11_goodBy rfl rfl rfl (Nat.le_of_ble_eq_true rfl) (Nat.le_of_ble_eq_true rfl) (Nat.le_of_ble_eq_true rfl) dX11_spoilOf_57 ?_
            refine z_istore_n 3 h dX11_spoilOf_60 rfl rfl ?_
            refine z_aload_n 0 h dX11_spoilOf_61 rfl rfl rfl ?_
            refine z_iload h dX11_spoilOf_62 rfl ?_
            refine zm_put 22 h hm (by decide) q1869 dX11_spoilOf_64 (fun M hm => ?_)
            replace hk := keepS hk hm (by decide)
            have hw := hk.w hw0
            refine z_iinc h dX11_spoilOf_67 rfl rfl ki_1 ?_
            refine z_goto 11 h dX11_spoilOf_70 (by decide) ?_
            refine Z.loc [(0, .ref (ad 0)), (1, .int (nI s)), (2, .int (nI n)), (3, .int (iI _)), (4, .int (nI (k + 1)))] (ll1 rfl (ll1 rfl (ll1 rfl (ll1 rfl (ll1 (vS (nI_1 k)) ll0))))) ?_
            exact ih_11 _ _ (k + 1) _ hm hk (by omega) hfs (by first | exact pInv_no hv c_28 | exact pInv_skip hi hv (by omega) | exact pInv_take hi hv c_28 (by omega)) (by omega)
          · have _z := c_43
            replace c_43 := (not_congr (zlt (a := gdZ s (frZ W (k) (W 0))) (b := lz) rfl rfl (by omega) (by omega))).mp c_43
            refine z_goto 67 h dX11_spoilOf_46 (by decide) ?_
            refine z_iinc h dX11_spoilOf_67 rfl rfl ki_1 ?_
            refine z_goto 11 h dX11_spoilOf_70 (by decide) ?_
            refine Z.loc [(0, .ref (ad 0)), (1, .int (nI s)), (2, .int (nI n)), (3, .int (iI _)), (4, .int (nI (k + 1)))] (ll1 rfl (ll1 rfl (ll1 rfl (ll1 rfl (ll1 (vS (nI_1 k)) ll0))))) ?_
            exact ih_11 _ _ (k + 1) _ hm hk (by omega) hfs (by first | exact pInv_no hv c_28 | exact pInv_skip hi hv (by omega) | exact pInv_take hi hv c_28 (by omega)) (by omega)
  refine Z.loc [(0, .ref (ad 0)), (1, .int (nI s)), (2, .int (nI n)), (3, .int (iI 1000000)), (4, .int (nI 0))] (ll1 rfl (ll1 rfl (ll1 rfl (ll1 rfl (ll1 rfl ll0))))) ?_
  exact loop_11 _ _ _ 0 1000000 hm hk (Nat.zero_le _) hX (Or.inl ⟨rfl, rfl⟩) (Nat.lt_succ_self _)
set_option maxHeartbeats 4000000 in
theorem m_spoil {l : Launch} {g : Zg} {ad : Nat → Nat} {M : Zm} {st : Ms} {W : Nat → Nat} (hm : Mod g ad M st) (hw : WR st W) (hi : InvW W) (sv nv : Int32) : Cn l g yX11_spoil cX11_spoil 3 (some .int) 8 0 0 [.ref (ad 0), .int sv, .int nv] M (PM g ad st (some (.int (aSpoil W sv nv))) (fun _ => True)) := by
  refine Cn.start [(0, .ref (ad 0)), (1, .int sv), (2, .int nv)] (by decide) (Nat.le_of_ble_eq_true rfl) rfl ?_
  intro γ el eg h hq
  subst el; subst eg
  have h4 := hi.h4
  have h0 := hi.h0
  have hw0 := hw
  have hk : keep st st := keep.rf st
  refine z_aload_n 0 h dX11_spoil_0 rfl rfl rfl ?_
  refine z_iload_n 1 h dX11_spoil_1 rfl rfl ?_
  refine z_callVP h (m_isSide hm hw hi sv) kX11 (.inl (hm.at 0 (by decide))) (lw_V q2087 q2089 qs83 q148 q2090) nX11_isSide rfl rfl rfl (Nat.le_of_ble_eq_true rfl) (Nat.le_of_ble_eq_true rfl) (Nat.le_of_ble_eq_true rfl) dX11_spoil_2 ?_
  refine z_ifz_eq 24 h dX11_spoil_5 (by decide) (fun c_5 => ?_) (fun c_5 => ?_)
  · have _z := c_5
    refine z_sipush h dX11_spoil_24 ks_m1000 ?_
    refine z_iret h hq dX11_spoil_27 (Nat.le_of_ble_eq_true rfl) (Nat.le_of_ble_eq_true rfl) ?_
    refine ⟨vS ?_, _, hm, hk, trivial⟩
    first | (simp [aSpoil, c_5]; done) | (simp [aSpoil, c_12]; done) | (simp [aSpoil, c_5, c_12, tn_nI (show s < 2 ^ 31 by omega), tn_nI (show n < 2 ^ 31 by omega)]; done)
  · have _z := c_5
    obtain ⟨s, h_s, rfl⟩ := isSide_nat c_5
    refine z_iload_n 2 h dX11_spoil_8 rfl rfl ?_
    refine z_callSP h (m_isPrice nv) (lw_S q2330 q2331 q148 q2332) nX11_isPrice rfl rfl rfl (Nat.le_of_ble_eq_true rfl) (Nat.le_of_ble_eq_true rfl) (Nat.le_of_ble_eq_true rfl) dX11_spoil_9 ?_
    refine z_ifz_eq 24 h dX11_spoil_12 (by decide) (fun c_12 => ?_) (fun c_12 => ?_)
    · have _z := c_12
      refine z_sipush h dX11_spoil_24 ks_m1000 ?_
      refine z_iret h hq dX11_spoil_27 (Nat.le_of_ble_eq_true rfl) (Nat.le_of_ble_eq_true rfl) ?_
      refine ⟨vS ?_, _, hm, hk, trivial⟩
      first | (simp [aSpoil, c_5]; done) | (simp [aSpoil, c_12]; done) | (simp [aSpoil, c_5, c_12, tn_nI (show s < 2 ^ 31 by omega), tn_nI (show n < 2 ^ 31 by omega)]; done)
    · have _z := c_12
      obtain ⟨n, h_n, rfl⟩ := pr_nat c_12
      refine z_aload_n 0 h dX11_spoil_15 rfl rfl rfl ?_
      refine z_iload_n 1 h dX11_spoil_16 rfl rfl ?_
      refine z_iload_n 2 h dX11_spoil_17 rfl rfl ?_
      refine z_callV h (m_spoilOf hm hw hi s n (by omega) h_n) kX11 (.inl (hm.at 0 (by decide))) (lw_V q2334 q2336 qs109 q148 q2337) nX11_spoilOf rfl rfl rfl (Nat.le_of_ble_eq_true rfl) (Nat.le_of_ble_eq_true rfl) (Nat.le_of_ble_eq_true rfl) dX11_spoil_18 (fun v M hv => ?_)
      obtain ⟨rfl, s1, hm, hk1, hX⟩ := hv
      replace hk := hk.tr hk1
      have hw := hk.w hw0
      refine z_goto 27 h dX11_spoil_21 (by decide) ?_
      refine z_iret h hq dX11_spoil_27 (Nat.le_of_ble_eq_true rfl) (Nat.le_of_ble_eq_true rfl) ?_
      refine ⟨vS ?_, _, hm, hk, trivial⟩
      first | (simp [aSpoil, c_5]; done) | (simp [aSpoil, c_12]; done) | (simp [aSpoil, c_5, c_12, tn_nI (show s < 2 ^ 31 by omega), tn_nI (show n < 2 ^ 31 by omega)]; done)
set_option maxHeartbeats 4000000 in
theorem m_spoils {l : Launch} {g : Zg} {ad : Nat → Nat} {M : Zm} {st : Ms} {W : Nat → Nat} (hm : Mod g ad M st) (hw : WR st W) (hi : InvW W) (sv nv : Int32) : Cn l g yX11_spoils cX11_spoils 3 (some .int) 8 0 0 [.ref (ad 0), .int sv, .int nv] M (PM g ad st (some (.int (aSpoils W sv nv))) (fun _ => True)) := by
  refine Cn.start [(0, .ref (ad 0)), (1, .int sv), (2, .int nv)] (by decide) (Nat.le_of_ble_eq_true rfl) rfl ?_
  intro γ el eg h hq
  subst el; subst eg
  have h4 := hi.h4
  have h0 := hi.h0
  have hw0 := hw
  have hk : keep st st := keep.rf st
  refine z_aload_n 0 h dX11_spoils_0 rfl rfl rfl ?_
  refine z_iload_n 1 h dX11_spoils_1 rfl rfl ?_
  refine z_callVP h (m_isSide hm hw hi sv) kX11 (.inl (hm.at 0 (by decide))) (lw_V q2087 q2089 qs83 q148 q2090) nX11_isSide rfl rfl rfl (Nat.le_of_ble_eq_true rfl) (Nat.le_of_ble_eq_true rfl) (Nat.le_of_ble_eq_true rfl) dX11_spoils_2 ?_
  refine z_ifz_eq 15 h dX11_spoils_5 (by decide) (fun c_5 => ?_) (fun c_5 => ?_)
  · have _z := c_5
    refine z_bipush h dX11_spoils_15 kb_m2 ?_
    refine z_iret h hq dX11_spoils_17 (Nat.le_of_ble_eq_true rfl) (Nat.le_of_ble_eq_true rfl) ?_
    refine ⟨vS ?_, _, hm, hk, trivial⟩
    first | (simp [aSpoils, c_5]; done) | (simp [aSpoils, c_12]; done)
  · have _z := c_5
    obtain ⟨s, h_s, rfl⟩ := isSide_nat c_5
    refine z_iload_n 2 h dX11_spoils_8 rfl rfl ?_
    refine z_callSP h (m_isPrice nv) (lw_S q2330 q2331 q148 q2332) nX11_isPrice rfl rfl rfl (Nat.le_of_ble_eq_true rfl) (Nat.le_of_ble_eq_true rfl) (Nat.le_of_ble_eq_true rfl) dX11_spoils_9 ?_
    refine z_ifz_ne 18 h dX11_spoils_12 (by decide) (fun c_12 => ?_) (fun c_12 => ?_)
    · have _z := c_12
      obtain ⟨n, h_n, rfl⟩ := pr_nat c_12
      refine z_aload_n 0 h dX11_spoils_18 rfl rfl rfl ?_
      refine z_iload_n 1 h dX11_spoils_19 rfl rfl ?_
      refine z_iload_n 2 h dX11_spoils_20 rfl rfl ?_
      refine z_callV h (m_spoilOf hm hw hi s n (by omega) h_n) kX11 (.inl (hm.at 0 (by decide))) (lw_V q2334 q2336 qs109 q148 q2337) nX11_spoilOf rfl rfl rfl (Nat.le_of_ble_eq_true rfl) (Nat.le_of_ble_eq_true rfl) (Nat.le_of_ble_eq_true rfl) dX11_spoils_21 (fun v M hv => ?_)
      obtain ⟨rfl, s1, hm, hk1, hX⟩ := hv
      replace hk := hk.tr hk1
      have hw := hk.w hw0
      refine z_pop h dX11_spoils_24 rfl ?_
      refine z_aload_n 0 h dX11_spoils_25 rfl rfl rfl ?_
      refine z_get h kX11 (.inl (hm.at 0 (by decide))) 22 rfl q1869 rfl dX11_spoils_26 ?_
      refine z_iret h hq dX11_spoils_29 (Nat.le_of_ble_eq_true rfl) (Nat.le_of_ble_eq_true rfl) ?_
      refine ⟨vS ?_, _, hm, hk, trivial⟩
      rw [hX]
      simp [aSpoils, c_5, c_12, tn_nI (show s < 2 ^ 31 by omega), tn_nI (show n < 2 ^ 31 by omega)]
    · have _z := c_12
      refine z_bipush h dX11_spoils_15 kb_m2 ?_
      refine z_iret h hq dX11_spoils_17 (Nat.le_of_ble_eq_true rfl) (Nat.le_of_ble_eq_true rfl) ?_
      refine ⟨vS ?_, _, hm, hk, trivial⟩
      first | (simp [aSpoils, c_5]; done) | (simp [aSpoils, c_12]; done)
set_option maxHeartbeats 4000000 in
theorem m_bestGood {l : Launch} {g : Zg} {ad : Nat → Nat} {M : Zm} {st : Ms} {W : Nat → Nat} (hm : Mod g ad M st) (hw : WR st W) (hi : InvW W) (s o n : Nat) (hs : s ≤ 1) (ho : o < allN W + 1) (hn : n < 2 ^ 31) (hfs : FrS W st) : Cn l g yX11_bestGood cX11_bestGood 6 (some .int) 4 0 0 [.ref (ad 0), .int (nI s), .int (nI o), .int (nI n)] M (PV (.int (iI (bgZ W s o n))) M) := by
  refine Cn.start [(0, .ref (ad 0)), (1, .int (nI s)), (2, .int (nI o)), (3, .int (nI n))] (by decide) (Nat.le_of_ble_eq_true rfl) rfl ?_
  intro γ el eg h hq
  subst el; subst eg
  have hall := allN_511 hi
  refine z_ldcw h q2358 dX11_bestGood_0 ?_
  refine z_istore h dX11_bestGood_3 rfl ?_
  refine z_iconst h dX11_bestGood_5 ki_0 ?_
  refine z_istore h dX11_bestGood_6 rfl ?_
  have loop_8 : ∀ (fz : Nat) (k : Nat) (hk2 : k ≤ allN W + 1), (allN W + 1 - k) < fz → Z γ M 0 0 8 (lof [(0, .ref (ad 0)), (1, .int (nI s)), (2, .int (nI o)), (3, .int (nI n)), (4, .int (iI (bgF W s o n k))), (5, .int (nI k))]) [] := by
    intro fz
    induction fz with
    | zero => intro k hk2 hz; exact absurd hz (Nat.not_lt_zero _)
    | succ fz ih_8 =>
      intro k hk2 hz_8
      have hbg := bgF_b hi s o n k
      refine z_iload h dX11_bestGood_8 rfl ?_
      refine z_aload_n 0 h dX11_bestGood_10 rfl rfl rfl ?_
      refine z_callVP h (m_allTrains hm hw hi) kX11 (.inl (hm.at 0 (by decide))) (lw_V q2128 q2130 qs87 q148 q2131) nX11_allTrains rfl rfl rfl (Nat.le_of_ble_eq_true rfl) (Nat.le_of_ble_eq_true rfl) (Nat.le_of_ble_eq_true rfl) dX11_bestGood_11 ?_
      refine z_icmp_gt 56 h dX11_bestGood_14 (by decide) (fun c_14 => ?_) (fun c_14 => ?_)
      · have _z := c_14
        replace c_14 := (ilt (a := allN W) (b := k) rfl rfl (allN_lt hi) (by omega)).mp c_14
        refine z_iload h dX11_bestGood_56 rfl ?_
        refine z_iret h hq dX11_bestGood_58 (Nat.le_of_ble_eq_true rfl) (Nat.le_of_ble_eq_true rfl) ?_
        obtain rfl : k = allN W + 1 := by omega
        exact ⟨rfl, rfl⟩
      · have _z := c_14
        replace c_14 := (not_congr (ilt (a := allN W) (b := k) rfl rfl (allN_lt hi) (by omega))).mp c_14
        refine z_aload_n 0 h dX11_bestGood_17 rfl rfl rfl ?_
        refine z_iconst h dX11_bestGood_18 ki_1 ?_
        refine z_iload_n 1 h dX11_bestGood_19 rfl rfl ?_
        refine z_isub h dX11_bestGood_20 ?_
        refine z_iload h dX11_bestGood_21 rfl ?_
        refine z_iload_n 3 h dX11_bestGood_23 rfl rfl ?_
        refine Z.st (show _ = _ by rw [show (1 : Int32) - nI s = nI (1 - s) from pk_sub hs]) ?_
        refine z_callVP h (m_isBought hm hw hi (1 - s) k n (by omega) (by omega) hn) kX11 (.inl (hm.at 0 (by decide))) (lw_V q2342 q2344 qs111 q148 q2345) nX11_isBought rfl rfl rfl (Nat.le_of_ble_eq_true rfl) (Nat.le_of_ble_eq_true rfl) (Nat.le_of_ble_eq_true rfl) dX11_bestGood_24 ?_
        refine z_ifz_eq 50 h dX11_bestGood_27 (by decide) (fun c_27 => ?_) (fun c_27 => ?_)
        · have _z := c_27
          refine z_iinc h dX11_bestGood_50 rfl rfl ki_1 ?_
          refine z_goto 8 h dX11_bestGood_53 (by decide) ?_
          refine Z.loc [(0, .ref (ad 0)), (1, .int (nI s)), (2, .int (nI o)), (3, .int (nI n)), (4, .int (iI (bgF W s o n (k + 1)))), (5, .int (nI (k + 1)))] (ll1 rfl (ll1 rfl (ll1 rfl (ll1 rfl (ll1 (vS (by simp only [bgF]; first | (rw [if_pos c_27, max_iI (by omega) (by omega)]; done) | (rw [if_neg (by simp [c_27])]; done))) (ll1 (vS (nI_1 k)) ll0)))))) ?_
          exact ih_8 (k + 1) (by omega) (by omega)
        · have _z := c_27
          refine z_iload h dX11_bestGood_30 rfl ?_
          refine z_iload_n 1 h dX11_bestGood_32 rfl rfl ?_
          refine z_aload_n 0 h dX11_bestGood_33 rfl rfl rfl ?_
          refine z_get h kX11 (.inl (hm.at 0 (by decide))) 21 rfl q1868 rfl dX11_bestGood_34 ?_
          refine z_iload_n 2 h dX11_bestGood_37 rfl rfl ?_
          refine z_iload h dX11_bestGood_38 rfl ?_
          refine z_ior h dX11_bestGood_40 ?_
          have hor := or_le (W := W) ho (show k < allN W + 1 by omega)
          refine z_ialdN (o ||| k) h (.inl (hm.at 21 (by decide))) (or_nI (by omega) (by omega)) (by omega) (by decide) dX11_bestGood_41 ?_
          rw [hfs (o ||| k) hor]
          have hg := gd_b hi s (o ||| k)
          refine z_callSP h (m_goodBy s (frZ W (o ||| k) (W 0)) hs) (lw_S q2175 q2176 q148 q2177) nX11_goodBy rfl rfl rfl (Nat.le_of_ble_eq_true rfl) (Nat.le_of_ble_eq_true rfl) (Nat.le_of_ble_eq_true rfl) dX11_bestGood_42 ?_
          refine z_callSP h (j_max (iI (bgF W s o n k)) (iI (gdZ s (frZ W (o ||| k) (W 0))))) (lw_S q2359 q946 q150 q947) nJ3_max rfl rfl rfl (Nat.le_of_ble_eq_true rfl) (Nat.le_of_ble_eq_true rfl) (Nat.le_of_ble_eq_true rfl) dX11_bestGood_45 ?_
          refine z_istore h dX11_bestGood_48 rfl ?_
          refine z_iinc h dX11_bestGood_50 rfl rfl ki_1 ?_
          refine z_goto 8 h dX11_bestGood_53 (by decide) ?_
          refine Z.loc [(0, .ref (ad 0)), (1, .int (nI s)), (2, .int (nI o)), (3, .int (nI n)), (4, .int (iI (bgF W s o n (k + 1)))), (5, .int (nI (k + 1)))] (ll1 rfl (ll1 rfl (ll1 rfl (ll1 rfl (ll1 (vS (by simp only [bgF]; first | (rw [if_pos c_27, max_iI (by omega) (by omega)]; done) | (rw [if_neg (by simp [c_27])]; done))) (ll1 (vS (nI_1 k)) ll0)))))) ?_
          exact ih_8 (k + 1) (by omega) (by omega)
  refine Z.loc [(0, .ref (ad 0)), (1, .int (nI s)), (2, .int (nI o)), (3, .int (nI n)), (4, .int (iI (bgF W s o n 0))), (5, .int (nI 0))] (ll1 rfl (ll1 rfl (ll1 rfl (ll1 rfl (ll1 rfl (ll1 rfl ll0)))))) ?_
  exact loop_8 _ 0 (Nat.zero_le _) (Nat.lt_succ_self _)
theorem min_iI {a b : Int} (ha : -2 ^ 31 ≤ a ∧ a < 2 ^ 31) (hb : -2 ^ 31 ≤ b ∧ b < 2 ^ 31) : (if iI b < iI a then iI b else iI a) = iI (if b < a then b else a) := by
  by_cases h : b < a
  · rw [if_pos h, if_pos ((zlt rfl rfl hb ha).mpr h)]
  · rw [if_neg h, if_neg (fun q => h ((zlt rfl rfl hb ha).mp q))]
set_option maxHeartbeats 4000000 in
theorem m_answer {l : Launch} {g : Zg} {ad : Nat → Nat} {M : Zm} {st : Ms} {W : Nat → Nat} (hm : Mod g ad M st) (hw : WR st W) (hi : InvW W) (sv nv : Int32) : Cn l g yX11_answer cX11_answer 5 (some .int) 7 0 0 [.ref (ad 0), .int sv, .int nv] M (PM g ad st (some (.int (aAnswer W sv nv))) (fun _ => True)) := by
  refine Cn.start [(0, .ref (ad 0)), (1, .int sv), (2, .int nv)] (by decide) (Nat.le_of_ble_eq_true rfl) rfl ?_
  intro γ el eg h hq
  subst el; subst eg
  have h4 := hi.h4
  have h0 := hi.h0
  have hw0 := hw
  have hk : keep st st := keep.rf st
  have hall := allN_511 hi
  refine z_aload_n 0 h dX11_answer_0 rfl rfl rfl ?_
  refine z_iload_n 1 h dX11_answer_1 rfl rfl ?_
  refine z_callVP h (m_isSide hm hw hi sv) kX11 (.inl (hm.at 0 (by decide))) (lw_V q2087 q2089 qs83 q148 q2090) nX11_isSide rfl rfl rfl (Nat.le_of_ble_eq_true rfl) (Nat.le_of_ble_eq_true rfl) (Nat.le_of_ble_eq_true rfl) dX11_answer_2 ?_
  refine z_ifz_eq 15 h dX11_answer_5 (by decide) (fun c_5 => ?_) (fun c_5 => ?_)
  · have _z := c_5
    refine z_sipush h dX11_answer_15 ks_m1000 ?_
    refine z_iret h hq dX11_answer_18 (Nat.le_of_ble_eq_true rfl) (Nat.le_of_ble_eq_true rfl) ?_
    refine ⟨vS ?_, _, hm, hk, trivial⟩
    first | (simp [aAnswer, c_5]; done) | (simp [aAnswer, c_12]; done)
  · have _z := c_5
    obtain ⟨s, h_s, rfl⟩ := isSide_nat c_5
    refine z_iload_n 2 h dX11_answer_8 rfl rfl ?_
    refine z_callSP h (m_isPrice nv) (lw_S q2330 q2331 q148 q2332) nX11_isPrice rfl rfl rfl (Nat.le_of_ble_eq_true rfl) (Nat.le_of_ble_eq_true rfl) (Nat.le_of_ble_eq_true rfl) dX11_answer_9 ?_
    refine z_ifz_ne 19 h dX11_answer_12 (by decide) (fun c_12 => ?_) (fun c_12 => ?_)
    · have _z := c_12
      obtain ⟨n, h_n, rfl⟩ := pr_nat c_12
      refine z_aload_n 0 h dX11_answer_19 rfl rfl rfl ?_
      refine z_callV h (m_fillFronts hm hw hi) kX11 (.inl (hm.at 0 (by decide))) (lw_V q2338 q2340 qs110 q148 q2341) nX11_fillFronts rfl rfl rfl (Nat.le_of_ble_eq_true rfl) (Nat.le_of_ble_eq_true rfl) (Nat.le_of_ble_eq_true rfl) dX11_answer_20 (fun v M hv => ?_)
      obtain ⟨rfl, s1, hm, hk1, hX⟩ := hv
      replace hk := hk.tr hk1
      have hw := hk.w hw0
      have hfs := hX
      refine z_ldcw h q2203 dX11_answer_23 ?_
      refine z_istore_n 3 h dX11_answer_26 rfl rfl ?_
      refine z_iconst h dX11_answer_27 ki_0 ?_
      refine z_istore h dX11_answer_28 rfl ?_
      have loop_30 : ∀ (fz : Nat) (k : Nat) (hk2 : k ≤ allN W + 1), (allN W + 1 - k) < fz → Z γ M 0 0 30 (lof [(0, .ref (ad 0)), (1, .int (nI s)), (2, .int (nI n)), (3, .int (iI (anF W s n k))), (4, .int (nI k))]) [] := by
        intro fz
        induction fz with
        | zero => intro k hk2 hz; exact absurd hz (Nat.not_lt_zero _)
        | succ fz ih_30 =>
          intro k hk2 hz_30
          have han := anF_b hi s n k
          have hbg : -1000000 ≤ bgZ W s k n ∧ bgZ W s k n ≤ 60 := bgF_b hi s k n (allN W + 1)
          refine z_iload h dX11_answer_30 rfl ?_
          refine z_aload_n 0 h dX11_answer_32 rfl rfl rfl ?_
          refine z_callVP h (m_allTrains hm hw hi) kX11 (.inl (hm.at 0 (by decide))) (lw_V q2128 q2130 qs87 q148 q2131) nX11_allTrains rfl rfl rfl (Nat.le_of_ble_eq_true rfl) (Nat.le_of_ble_eq_true rfl) (Nat.le_of_ble_eq_true rfl) dX11_answer_33 ?_
          refine z_icmp_gt 69 h dX11_answer_36 (by decide) (fun c_36 => ?_) (fun c_36 => ?_)
          · have _z := c_36
            replace c_36 := (ilt (a := allN W) (b := k) rfl rfl (allN_lt hi) (by omega)).mp c_36
            refine z_iload_n 3 h dX11_answer_69 rfl rfl ?_
            refine z_iret h hq dX11_answer_70 (Nat.le_of_ble_eq_true rfl) (Nat.le_of_ble_eq_true rfl) ?_
            obtain rfl : k = allN W + 1 := by omega
            refine ⟨vS ?_, _, hm, hk, trivial⟩
            simp [aAnswer, c_5, c_12, tn_nI (show s < 2 ^ 31 by omega), tn_nI (show n < 2 ^ 31 by omega)]
          · have _z := c_36
            replace c_36 := (not_congr (ilt (a := allN W) (b := k) rfl rfl (allN_lt hi) (by omega))).mp c_36
            refine z_aload_n 0 h dX11_answer_39 rfl rfl rfl ?_
            refine z_iload_n 1 h dX11_answer_40 rfl rfl ?_
            refine z_iload h dX11_answer_41 rfl ?_
            refine z_iload_n 2 h dX11_answer_43 rfl rfl ?_
            refine z_callVP h (m_isBought hm hw hi (s) k n (by omega) (by omega) (by omega)) kX11 (.inl (hm.at 0 (by decide))) (lw_V q2342 q2344 qs111 q148 q2345) nX11_isBought rfl rfl rfl (Nat.le_of_ble_eq_true rfl) (Nat.le_of_ble_eq_true rfl) (Nat.le_of_ble_eq_true rfl) dX11_answer_44 ?_
            refine z_ifz_eq 63 h dX11_answer_47 (by decide) (fun c_47 => ?_) (fun c_47 => ?_)
            · have _z := c_47
              refine z_iinc h dX11_answer_63 rfl rfl ki_1 ?_
              refine z_goto 30 h dX11_answer_66 (by decide) ?_
              refine Z.loc [(0, .ref (ad 0)), (1, .int (nI s)), (2, .int (nI n)), (3, .int (iI (anF W s n (k + 1)))), (4, .int (nI (k + 1)))] (ll1 rfl (ll1 rfl (ll1 rfl (ll1 (vS (by simp only [anF]; first | (rw [if_pos c_47, min_iI (by omega) (by omega)]; done) | (rw [if_neg (by simp [c_47])]; done))) (ll1 (vS (nI_1 k)) ll0))))) ?_
              exact ih_30 (k + 1) (by omega) (by omega)
            · have _z := c_47
              refine z_iload_n 3 h dX11_answer_50 rfl rfl ?_
              refine z_aload_n 0 h dX11_answer_51 rfl rfl rfl ?_
              refine z_iload_n 1 h dX11_answer_52 rfl rfl ?_
              refine z_iload h dX11_answer_53 rfl ?_
              refine z_iload_n 2 h dX11_answer_55 rfl rfl ?_
              refine z_callVP h (m_bestGood hm hw hi s k n (by omega) (by omega) (by omega) hfs) kX11 (.inl (hm.at 0 (by decide))) (lw_V q2354 q2356 qs112 q148 q2357) nX11_bestGood rfl rfl rfl (Nat.le_of_ble_eq_true rfl) (Nat.le_of_ble_eq_true rfl) (Nat.le_of_ble_eq_true rfl) dX11_answer_56 ?_
              refine z_callSP h (j_min (iI (anF W s n k)) (iI (bgZ W s k n))) (lw_S q1986 q716 q150 q717) nJ3_min rfl rfl rfl (Nat.le_of_ble_eq_true rfl) (Nat.le_of_ble_eq_true rfl) (Nat.le_of_ble_eq_true rfl) dX11_answer_59 ?_
              refine z_istore_n 3 h dX11_answer_62 rfl rfl ?_
              refine z_iinc h dX11_answer_63 rfl rfl ki_1 ?_
              refine z_goto 30 h dX11_answer_66 (by decide) ?_
              refine Z.loc [(0, .ref (ad 0)), (1, .int (nI s)), (2, .int (nI n)), (3, .int (iI (anF W s n (k + 1)))), (4, .int (nI (k + 1)))] (ll1 rfl (ll1 rfl (ll1 rfl (ll1 (vS (by simp only [anF]; first | (rw [if_pos c_47, min_iI (by omega) (by omega)]; done) | (rw [if_neg (by simp [c_47])]; done))) (ll1 (vS (nI_1 k)) ll0))))) ?_
              exact ih_30 (k + 1) (by omega) (by omega)
      refine Z.loc [(0, .ref (ad 0)), (1, .int (nI s)), (2, .int (nI n)), (3, .int (iI (anF W s n 0))), (4, .int (nI 0))] (ll1 rfl (ll1 rfl (ll1 rfl (ll1 rfl (ll1 rfl ll0))))) ?_
      exact loop_30 _ 0 (Nat.zero_le _) (Nat.lt_succ_self _)
    · have _z := c_12
      refine z_sipush h dX11_answer_15 ks_m1000 ?_
      refine z_iret h hq dX11_answer_18 (Nat.le_of_ble_eq_true rfl) (Nat.le_of_ble_eq_true rfl) ?_
      refine ⟨vS ?_, _, hm, hk, trivial⟩
      first | (simp [aAnswer, c_5]; done) | (simp [aAnswer, c_12]; done)
set_option maxHeartbeats 4000000 in
theorem m_rests {l : Launch} {g : Zg} {ad : Nat → Nat} {M : Zm} {st : Ms} {W : Nat → Nat} (hm : Mod g ad M st) (hw : WR st W) (hi : InvW W) (nv : Int32) : Cn l g yX11_rests cX11_rests 6 (some .int) 7 0 0 [.ref (ad 0), .int nv] M (PM g ad st (some (.int (aRests W nv))) (fun _ => True)) := by
  refine Cn.start [(0, .ref (ad 0)), (1, .int nv)] (by decide) (Nat.le_of_ble_eq_true rfl) rfl ?_
  intro γ el eg h hq
  subst el; subst eg
  have h4 := hi.h4
  have h0 := hi.h0
  have hw0 := hw
  have hk : keep st st := keep.rf st
  have hall := allN_511 hi
  refine z_aload_n 0 h dX11_rests_0 rfl rfl rfl ?_
  refine z_callVP h (m_isWar hm hw hi) kX11 (.inl (hm.at 0 (by decide))) (lw_V q2091 q2093 qs84 q148 q2094) nX11_isWar rfl rfl rfl (Nat.le_of_ble_eq_true rfl) (Nat.le_of_ble_eq_true rfl) (Nat.le_of_ble_eq_true rfl) dX11_rests_1 ?_
  refine z_ifz_eq 14 h dX11_rests_4 (by decide) (fun c_4 => ?_) (fun c_4 => ?_)
  · have _z := c_4
    refine z_bipush h dX11_rests_14 kb_m2 ?_
    refine z_iret h hq dX11_rests_16 (Nat.le_of_ble_eq_true rfl) (Nat.le_of_ble_eq_true rfl) ?_
    refine ⟨vS ?_, _, hm, hk, trivial⟩
    first | (simp [aRests, c_4]; done) | (simp [aRests, c_11]; done)
  · have _z := c_4
    refine z_iload_n 1 h dX11_rests_7 rfl rfl ?_
    refine z_callSP h (m_isPrice nv) (lw_S q2330 q2331 q148 q2332) nX11_isPrice rfl rfl rfl (Nat.le_of_ble_eq_true rfl) (Nat.le_of_ble_eq_true rfl) (Nat.le_of_ble_eq_true rfl) dX11_rests_8 ?_
    refine z_ifz_ne 17 h dX11_rests_11 (by decide) (fun c_11 => ?_) (fun c_11 => ?_)
    · have _z := c_11
      obtain ⟨n, h_n, rfl⟩ := pr_nat c_11
      refine z_aload_n 0 h dX11_rests_17 rfl rfl rfl ?_
      refine z_callV h (m_fillFronts hm hw hi) kX11 (.inl (hm.at 0 (by decide))) (lw_V q2338 q2340 qs110 q148 q2341) nX11_fillFronts rfl rfl rfl (Nat.le_of_ble_eq_true rfl) (Nat.le_of_ble_eq_true rfl) (Nat.le_of_ble_eq_true rfl) dX11_rests_18 (fun v M hv => ?_)
      obtain ⟨rfl, s1, hm, hk1, hX⟩ := hv
      replace hk := hk.tr hk1
      have hw := hk.w hw0
      have hfs := hX
      refine z_iconst h dX11_rests_21 ki_0 ?_
      refine z_istore_n 2 h dX11_rests_22 rfl rfl ?_
      refine z_iconst h dX11_rests_23 ki_0 ?_
      refine z_istore_n 3 h dX11_rests_24 rfl rfl ?_
      have loop_25 : ∀ (fz : Nat) (a : Nat) (ha2 : a ≤ allN W + 1), (allN W + 1 - a) < fz → Z γ M 0 0 25 (lof [(0, .ref (ad 0)), (1, .int (nI n)), (2, .int (nI (rsO W n a))), (3, .int (nI a))]) [] := by
        intro fz
        induction fz with
        | zero => intro a ha2 hz; exact absurd hz (Nat.not_lt_zero _)
        | succ fz ih_25 =>
          intro a ha2 hz_25
          have hbg : -1000000 ≤ bgZ W 0 a n ∧ bgZ W 0 a n ≤ 60 := bgF_b hi 0 a n (allN W + 1)
          refine z_iload_n 3 h dX11_rests_25 rfl rfl ?_
          refine z_aload_n 0 h dX11_rests_26 rfl rfl rfl ?_
          refine z_callVP h (m_allTrains hm hw hi) kX11 (.inl (hm.at 0 (by decide))) (lw_V q2128 q2130 qs87 q148 q2131) nX11_allTrains rfl rfl rfl (Nat.le_of_ble_eq_true rfl) (Nat.le_of_ble_eq_true rfl) (Nat.le_of_ble_eq_true rfl) dX11_rests_27 ?_
          refine z_icmp_gt 128 h dX11_rests_30 (by decide) (fun c_30 => ?_) (fun c_30 => ?_)
          · have _z := c_30
            replace c_30 := (ilt (a := allN W) (b := a) rfl rfl (allN_lt hi) (by omega)).mp c_30
            refine z_iload_n 2 h dX11_rests_128 rfl rfl ?_
            refine z_iret h hq dX11_rests_129 (Nat.le_of_ble_eq_true rfl) (Nat.le_of_ble_eq_true rfl) ?_
            obtain rfl : a = allN W + 1 := by omega
            refine ⟨vS ?_, _, hm, hk, trivial⟩
            simp [aRests, c_4, c_11, tn_nI (show n < 2 ^ 31 by omega)]
          · have _z := c_30
            replace c_30 := (not_congr (ilt (a := allN W) (b := a) rfl rfl (allN_lt hi) (by omega))).mp c_30
            refine z_aload_n 0 h dX11_rests_33 rfl rfl rfl ?_
            refine z_iconst h dX11_rests_34 ki_0 ?_
            refine z_iload_n 3 h dX11_rests_35 rfl rfl ?_
            refine z_iload_n 1 h dX11_rests_36 rfl rfl ?_
            refine z_callVP h (m_isBought hm hw hi (0) a n (by decide) (by omega) (by omega)) kX11 (.inl (hm.at 0 (by decide))) (lw_V q2342 q2344 qs111 q148 q2345) nX11_isBought rfl rfl rfl (Nat.le_of_ble_eq_true rfl) (Nat.le_of_ble_eq_true rfl) (Nat.le_of_ble_eq_true rfl) dX11_rests_37 ?_
            refine z_ifz_ne 46 h dX11_rests_40 (by decide) (fun c_40 => ?_) (fun c_40 => ?_)
            · have _z := c_40
              refine z_aload_n 0 h dX11_rests_46 rfl rfl rfl ?_
              refine z_iconst h dX11_rests_47 ki_0 ?_
              refine z_iload_n 3 h dX11_rests_48 rfl rfl ?_
              refine z_iload_n 1 h dX11_rests_49 rfl rfl ?_
              refine z_callVP h (m_bestGood hm hw hi 0 a n (by decide) (by omega) (by omega) hfs) kX11 (.inl (hm.at 0 (by decide))) (lw_V q2354 q2356 qs112 q148 q2357) nX11_bestGood rfl rfl rfl (Nat.le_of_ble_eq_true rfl) (Nat.le_of_ble_eq_true rfl) (Nat.le_of_ble_eq_true rfl) dX11_rests_50 ?_
              refine z_istore h dX11_rests_53 rfl ?_
              refine z_iconst h dX11_rests_55 ki_0 ?_
              refine z_istore h dX11_rests_56 rfl ?_
              have loop_58 : ∀ (fz : Nat) (b : Nat) (hb2 : b ≤ allN W + 1), (allN W + 1 - b) < fz → Z γ M 0 0 58 (lof [(0, .ref (ad 0)), (1, .int (nI n)), (2, .int (nI (rsO W n a + rsI W n a b))), (3, .int (nI a)), (4, .int (iI (bgZ W 0 a n))), (5, .int (nI b))]) [] := by
                intro fz
                induction fz with
                | zero => intro b hb2 hz; exact absurd hz (Nat.not_lt_zero _)
                | succ fz ih_58 =>
                  intro b hb2 hz_58
                  have hbg1 : -1000000 ≤ bgZ W 1 b n ∧ bgZ W 1 b n ≤ 60 := bgF_b hi 1 b n (allN W + 1)
                  refine z_iload h dX11_rests_58 rfl ?_
                  refine z_aload_n 0 h dX11_rests_60 rfl rfl rfl ?_
                  refine z_callVP h (m_allTrains hm hw hi) kX11 (.inl (hm.at 0 (by decide))) (lw_V q2128 q2130 qs87 q148 q2131) nX11_allTrains rfl rfl rfl (Nat.le_of_ble_eq_true rfl) (Nat.le_of_ble_eq_true rfl) (Nat.le_of_ble_eq_true rfl) dX11_rests_61 ?_
                  refine z_icmp_gt 122 h dX11_rests_64 (by decide) (fun c_64 => ?_) (fun c_64 => ?_)
                  · have _z := c_64
                    replace c_64 := (ilt (a := allN W) (b := b) rfl rfl (allN_lt hi) (by omega)).mp c_64
                    refine z_iinc h dX11_rests_122 rfl rfl ki_1 ?_
                    refine z_goto 25 h dX11_rests_125 (by decide) ?_
                    refine Z.loc [(0, .ref (ad 0)), (1, .int (nI n)), (2, .int (nI (rsO W n (a + 1)))), (3, .int (nI (a + 1)))] (ll1 rfl (ll1 rfl (ll1 (vS (by simp only [rsO, sN]; first | (rw [if_neg (by simp [c_40])]; rfl) | (rw [if_pos c_40, show b = allN W + 1 by omega]; done))) (ll1 (vS (nI_1 a)) ll0)))) ?_
                    exact ih_25 (a + 1) (by omega) (by omega)
                  · have _z := c_64
                    replace c_64 := (not_congr (ilt (a := allN W) (b := b) rfl rfl (allN_lt hi) (by omega))).mp c_64
                    refine z_aload_n 0 h dX11_rests_67 rfl rfl rfl ?_
                    refine z_iconst h dX11_rests_68 ki_1 ?_
                    refine z_iload h dX11_rests_69 rfl ?_
                    refine z_iload_n 1 h dX11_rests_71 rfl rfl ?_
                    refine z_callVP h (m_isBought hm hw hi (1) b n (by decide) (by omega) (by omega)) kX11 (.inl (hm.at 0 (by decide))) (lw_V q2342 q2344 qs111 q148 q2345) nX11_isBought rfl rfl rfl (Nat.le_of_ble_eq_true rfl) (Nat.le_of_ble_eq_true rfl) (Nat.le_of_ble_eq_true rfl) dX11_rests_72 ?_
                    refine z_ifz_eq 116 h dX11_rests_75 (by decide) (fun c_75 => ?_) (fun c_75 => ?_)
                    · have _z := c_75
                      refine z_iinc h dX11_rests_116 rfl rfl ki_1 ?_
                      refine z_goto 58 h dX11_rests_119 (by decide) ?_
                      refine Z.loc [(0, .ref (ad 0)), (1, .int (nI n)), (2, .int (nI (rsO W n a + rsI W n a (b + 1)))), (3, .int (nI a)), (4, .int (iI (bgZ W 0 a n))), (5, .int (nI (b + 1)))] (ll1 rfl (ll1 rfl (ll1 (vS (by simp only [rsI, sN]; first | (rw [if_pos ⟨c_75, c_89, c_110⟩, ← Nat.add_assoc]; exact nI_1 _) | (rw [if_neg (fun q => Bool.false_ne_true (c_75.symm.trans q.1))]; rfl) | (rw [if_neg (fun q => c_89 q.2.1)]; rfl) | (rw [if_neg (fun q => c_110 q.2.2)]; rfl))) (ll1 rfl (ll1 rfl (ll1 (vS (nI_1 b)) ll0)))))) ?_
                      exact ih_58 (b + 1) (by omega) (by omega)
                    · have _z := c_75
                      refine z_aload_n 0 h dX11_rests_78 rfl rfl rfl ?_
                      refine z_get h kX11 (.inl (hm.at 0 (by decide))) 21 rfl q1868 rfl dX11_rests_79 ?_
                      refine z_iload_n 3 h dX11_rests_82 rfl rfl ?_
                      refine z_iload h dX11_rests_83 rfl ?_
                      refine z_ior h dX11_rests_85 ?_
                      have hor := or_le (W := W) (show a < allN W + 1 by omega) (show b < allN W + 1 by omega)
                      refine z_ialdN (a ||| b) h (.inl (hm.at 21 (by decide))) (or_nI (by omega) (by omega)) (by omega) (by decide) dX11_rests_86 ?_
                      rw [hfs (a ||| b) hor]
                      refine z_iload h dX11_rests_87 rfl ?_
                      refine z_icmp_ne 116 h dX11_rests_89 (by decide) (fun c_89 => ?_) (fun c_89 => ?_)
                      · have _z := c_89
                        replace c_89 := (not_congr (zeq (a := frZ W (a ||| b) (W 0)) (b := bgZ W 0 a n) rfl rfl (frZ_b2 W _ _ (by omega)) (by omega))).mp c_89
                        refine z_iinc h dX11_rests_116 rfl rfl ki_1 ?_
                        refine z_goto 58 h dX11_rests_119 (by decide) ?_
                        refine Z.loc [(0, .ref (ad 0)), (1, .int (nI n)), (2, .int (nI (rsO W n a + rsI W n a (b + 1)))), (3, .int (nI a)), (4, .int (iI (bgZ W 0 a n))), (5, .int (nI (b + 1)))] (ll1 rfl (ll1 rfl (ll1 (vS (by simp only [rsI, sN]; first | (rw [if_pos ⟨c_75, c_89, c_110⟩, ← Nat.add_assoc]; exact nI_1 _) | (rw [if_neg (fun q => Bool.false_ne_true (c_75.symm.trans q.1))]; rfl) | (rw [if_neg (fun q => c_89 q.2.1)]; rfl) | (rw [if_neg (fun q => c_110 q.2.2)]; rfl))) (ll1 rfl (ll1 rfl (ll1 (vS (nI_1 b)) ll0)))))) ?_
                        exact ih_58 (b + 1) (by omega) (by omega)
                      · have _z := c_89
                        replace c_89 := (zeq (a := frZ W (a ||| b) (W 0)) (b := bgZ W 0 a n) rfl rfl (frZ_b2 W _ _ (by omega)) (by omega)).mp c_89
                        refine z_aload_n 0 h dX11_rests_92 rfl rfl rfl ?_
                        refine z_get h kX11 (.inl (hm.at 0 (by decide))) 21 rfl q1868 rfl dX11_rests_93 ?_
                        refine z_iload_n 3 h dX11_rests_96 rfl rfl ?_
                        refine z_iload h dX11_rests_97 rfl ?_
                        refine z_ior h dX11_rests_99 ?_
                        have hor := or_le (W := W) (show a < allN W + 1 by omega) (show b < allN W + 1 by omega)
                        refine z_ialdN (a ||| b) h (.inl (hm.at 21 (by decide))) (or_nI (by omega) (by omega)) (by omega) (by decide) dX11_rests_100 ?_
                        rw [hfs (a ||| b) hor]
                        refine z_ineg h dX11_rests_101 ?_
                        refine z_aload_n 0 h dX11_rests_102 rfl rfl rfl ?_
                        refine z_iconst h dX11_rests_103 ki_1 ?_
                        refine z_iload h dX11_rests_104 rfl ?_
                        refine z_iload_n 1 h dX11_rests_106 rfl rfl ?_
                        refine z_callVP h (m_bestGood hm hw hi 1 b n (by decide) (by omega) (by omega) hfs) kX11 (.inl (hm.at 0 (by decide))) (lw_V q2354 q2356 qs112 q148 q2357) nX11_bestGood rfl rfl rfl (Nat.le_of_ble_eq_true rfl) (Nat.le_of_ble_eq_true rfl) (Nat.le_of_ble_eq_true rfl) dX11_rests_107 ?_
                        refine z_icmp_ne 116 h dX11_rests_110 (by decide) (fun c_110 => ?_) (fun c_110 => ?_)
                        · have _z := c_110
                          replace c_110 := (not_congr (zeq (a := -(frZ W (a ||| b) (W 0))) (b := bgZ W 1 b n) (zneg rfl) rfl (by omega) (by omega))).mp c_110
                          refine z_iinc h dX11_rests_116 rfl rfl ki_1 ?_
                          refine z_goto 58 h dX11_rests_119 (by decide) ?_
                          refine Z.loc [(0, .ref (ad 0)), (1, .int (nI n)), (2, .int (nI (rsO W n a + rsI W n a (b + 1)))), (3, .int (nI a)), (4, .int (iI (bgZ W 0 a n))), (5, .int (nI (b + 1)))] (ll1 rfl (ll1 rfl (ll1 (vS (by simp only [rsI, sN]; first | (rw [if_pos ⟨c_75, c_89, c_110⟩, ← Nat.add_assoc]; exact nI_1 _) | (rw [if_neg (fun q => Bool.false_ne_true (c_75.symm.trans q.1))]; rfl) | (rw [if_neg (fun q => c_89 q.2.1)]; rfl) | (rw [if_neg (fun q => c_110 q.2.2)]; rfl))) (ll1 rfl (ll1 rfl (ll1 (vS (nI_1 b)) ll0)))))) ?_
                          exact ih_58 (b + 1) (by omega) (by omega)
                        · have _z := c_110
                          replace c_110 := (zeq (a := -(frZ W (a ||| b) (W 0))) (b := bgZ W 1 b n) (zneg rfl) rfl (by omega) (by omega)).mp c_110
                          refine z_iinc h dX11_rests_113 rfl rfl ki_1 ?_
                          refine z_iinc h dX11_rests_116 rfl rfl ki_1 ?_
                          refine z_goto 58 h dX11_rests_119 (by decide) ?_
                          refine Z.loc [(0, .ref (ad 0)), (1, .int (nI n)), (2, .int (nI (rsO W n a + rsI W n a (b + 1)))), (3, .int (nI a)), (4, .int (iI (bgZ W 0 a n))), (5, .int (nI (b + 1)))] (ll1 rfl (ll1 rfl (ll1 (vS (by simp only [rsI, sN]; first | (rw [if_pos ⟨c_75, c_89, c_110⟩, ← Nat.add_assoc]; exact nI_1 _) | (rw [if_neg (fun q => Bool.false_ne_true (c_75.symm.trans q.1))]; rfl) | (rw [if_neg (fun q => c_89 q.2.1)]; rfl) | (rw [if_neg (fun q => c_110 q.2.2)]; rfl))) (ll1 rfl (ll1 rfl (ll1 (vS (nI_1 b)) ll0)))))) ?_
                          exact ih_58 (b + 1) (by omega) (by omega)
              refine Z.loc [(0, .ref (ad 0)), (1, .int (nI n)), (2, .int (nI (rsO W n a + rsI W n a 0))), (3, .int (nI a)), (4, .int (iI (bgZ W 0 a n))), (5, .int (nI 0))] (ll1 rfl (ll1 rfl (ll1 rfl (ll1 rfl (ll1 rfl (ll1 rfl ll0)))))) ?_
              exact loop_58 _ 0 (Nat.zero_le _) (Nat.lt_succ_self _)
            · have _z := c_40
              refine z_goto 122 h dX11_rests_43 (by decide) ?_
              refine z_iinc h dX11_rests_122 rfl rfl ki_1 ?_
              refine z_goto 25 h dX11_rests_125 (by decide) ?_
              refine Z.loc [(0, .ref (ad 0)), (1, .int (nI n)), (2, .int (nI (rsO W n (a + 1)))), (3, .int (nI (a + 1)))] (ll1 rfl (ll1 rfl (ll1 (vS (by simp only [rsO, sN]; first | (rw [if_neg (by simp [c_40])]; rfl) | (rw [if_pos c_40, show b = allN W + 1 by omega]; done))) (ll1 (vS (nI_1 a)) ll0)))) ?_
              exact ih_25 (a + 1) (by omega) (by omega)
      refine Z.loc [(0, .ref (ad 0)), (1, .int (nI n)), (2, .int (nI (rsO W n 0))), (3, .int (nI 0))] (ll1 rfl (ll1 rfl (ll1 rfl (ll1 rfl ll0)))) ?_
      exact loop_25 _ 0 (Nat.zero_le _) (Nat.lt_succ_self _)
    · have _z := c_11
      refine z_bipush h dX11_rests_14 kb_m2 ?_
      refine z_iret h hq dX11_rests_16 (Nat.le_of_ble_eq_true rfl) (Nat.le_of_ble_eq_true rfl) ?_
      refine ⟨vS ?_, _, hm, hk, trivial⟩
      first | (simp [aRests, c_4]; done) | (simp [aRests, c_11]; done)
