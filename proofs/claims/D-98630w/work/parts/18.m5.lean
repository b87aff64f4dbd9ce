/-! the reference: over all sets of late trains -/
set_option maxRecDepth 100000
theorem gd_b {W : Nat → Nat} (hi : InvW W) (s n : Nat) : -60 ≤ gdZ s (frZ W n (W 0)) ∧ gdZ s (frZ W n (W 0)) ≤ 60 := gdZ_b W s n (W 0) hi.h0
theorem allN_511 {W : Nat → Nat} (hi : InvW W) : allN W ≤ 511 := by
  have h2 : 2 ^ W 4 ≤ 2 ^ 9 := Nat.pow_le_pow_right (by decide) hi.h4
  unfold allN
  omega
def clrN (a t : Nat) : Nat := if a.testBit t = true then a - 2 ^ t else a
theorem clr_at : ∀ t, t < 9 → ∀ a, a < 512 → nI a &&& (((1 : Int32) <<< (nI t &&& 31)) ^^^ (-1)) = nI (clrN a t) := by decide +kernel
theorem clr_lt {a t : Nat} (h : a < 512) : clrN a t < 512 := by
  unfold clrN
  split
  · exact Nat.lt_of_le_of_lt (Nat.sub_le _ _) h
  · exact h
/-- trains whose delay changes nothing: after t of them in the set k -/
def idT (W : Nat → Nat) (k a : Nat) : Nat → Nat
  | 0 => a
  | t + 1 => if winZ W k = winZ W (k ^^^ 2 ^ t) then idT W k a t else clrN (idT W k a t) t
def idS (W : Nat → Nat) : Nat → Nat
  | 0 => allN W
  | k + 1 => idT W k (idS W k) (W 4)
theorem idT_lt {W : Nat → Nat} {k a : Nat} (h : a < 512) : ∀ t, idT W k a t < 512
  | 0 => h
  | t + 1 => by
    unfold idT
    split
    · exact idT_lt h t
    · exact clr_lt (idT_lt h t)
theorem idS_lt {W : Nat → Nat} (hi : InvW W) : ∀ k, idS W k < 512
  | 0 => by have := allN_511 hi; simp only [idS]; omega
  | k + 1 => idT_lt (idS_lt hi k) _
def aIdle (W : Nat → Nat) : Int32 := if isWarB W = true then nI (idS W (allN W + 1)) else -2
theorem xor_le {W : Nat → Nat} {k t : Nat} (hk : k ≤ allN W) (ht : t < W 4) : k ^^^ 2 ^ t ≤ allN W := by
  have h1 : k < 2 ^ W 4 := by have := Nat.one_le_two_pow (n := W 4); unfold allN at hk; omega
  have h2 : 2 ^ t < 2 ^ W 4 := Nat.pow_lt_pow_right (by decide) ht
  have := Nat.xor_lt_two_pow h1 h2
  unfold allN
  omega
/-- where the search for the worst set stands behind k sets -/
def wInv (W : Nat → Nat) (s k : Nat) (lz : Int) (b : Nat) (v : Int32) : Prop := v = nI b ∧ b ≤ k ∧ -60 ≤ lz ∧ lz ≤ 1000000 ∧ ((k = 0 ∧ lz = 1000000 ∧ b = 0) ∨ (worstO W s k = some b ∧ lz = gdZ s (frZ W b (W 0))))
theorem wInv_skip {W : Nat → Nat} (hi : InvW W) {s k : Nat} {lz : Int} {b : Nat} {v : Int32} (h : wInv W s k lz b v) (hc : lz < gdZ s (frZ W k (W 0)) ∨ (gdZ s (frZ W k (W 0)) = lz ∧ bcN b ≤ bcN k)) : wInv W s (k + 1) lz b v := by
  obtain ⟨h1, h2, h3, h4, h5⟩ := h
  have hg := gd_b hi s k
  refine ⟨h1, by omega, h3, h4, Or.inr ?_⟩
  rcases h5 with ⟨e1, e2, e3⟩ | ⟨e1, e2⟩
  · exfalso; omega
  · refine ⟨?_, e2⟩
    have hn : ¬ wC W s k < wC W s b := by rw [wC_lt hi]; omega
    unfold worstO at e1 ⊢
    rw [argm, if_pos rfl, e1]
    exact if_neg hn
theorem wInv_take {W : Nat → Nat} (hi : InvW W) {s k : Nat} {lz : Int} {b : Nat} {v : Int32} (h : wInv W s k lz b v) (hc : gdZ s (frZ W k (W 0)) < lz ∨ (gdZ s (frZ W k (W 0)) = lz ∧ bcN k < bcN b)) : wInv W s (k + 1) (gdZ s (frZ W k (W 0))) k (nI k) := by
  obtain ⟨h1, h2, h3, h4, h5⟩ := h
  have hg := gd_b hi s k
  refine ⟨rfl, by omega, by omega, by omega, Or.inr ⟨?_, rfl⟩⟩
  rcases h5 with ⟨e1, e2, e3⟩ | ⟨e1, e2⟩
  · subst e1; rfl
  · have hn : wC W s k < wC W s b := by rw [wC_lt hi]; omega
    unfold worstO at e1 ⊢
    rw [argm, if_pos rfl, e1]
    exact if_pos hn
theorem wInv_end {W : Nat → Nat} {s k : Nat} {lz : Int} {b : Nat} {v : Int32} (h : wInv W s (k + 1) lz b v) (hk : k = allN W) : worS W s = b ∧ lz = gdZ s (frZ W b (W 0)) ∧ v = nI b := by
  obtain ⟨h1, h2, h3, h4, h5⟩ := h
  subst hk
  rcases h5 with ⟨e1, e2, e3⟩ | ⟨e1, e2⟩
  · exact absurd e1 (by omega)
  · exact ⟨by rw [worS, e1]; rfl, e2, h1⟩
theorem worS_le {W : Nat → Nat} (s : Nat) : worS W s ≤ allN W := by
  obtain ⟨b, hb⟩ := argm_some (c := wC W s) (allN W)
  have h1 := (argm_lt hb).1
  have : worS W s = b := by unfold worS worstO; rw [hb]; rfl
  omega
set_option maxHeartbeats 4000000 in
theorem m_worstOf {l : Launch} {g : Zg} {ad : Nat → Nat} {M : Zm} {st : Ms} {W : Nat → Nat} (hm : Mod g ad M st) (hw : WR st W) (hi : InvW W) (s : Nat) (hs : s ≤ 1) : Cn l g yX11_worstOf cX11_worstOf 5 (some .int) 6 0 0 [.ref (ad 0), .int (nI s)] M (PM g ad st (some (.int (iI (gdZ s (frZ W (worS W s) (W 0)))))) (fun s9 => s9.1 16 = nI (worS W s))) := by
  refine Cn.start [(0, .ref (ad 0)), (1, .int (nI s))] (by decide) (Nat.le_of_ble_eq_true rfl) rfl ?_
  intro γ el eg h hq
  subst el; subst eg
  have h4 := hi.h4
  have h0 := hi.h0
  have hw0 := hw
  have hk : keep st st := keep.rf st
  have hall := allN_511 hi
  refine z_aload_n 0 h dX11_worstOf_0 rfl rfl rfl ?_
  refine z_iconst h dX11_worstOf_1 ki_0 ?_
  refine zm_put 16 h hm (by decide) q1863 dX11_worstOf_2 (fun M hm => ?_)
  replace hk := keepS hk hm (by decide)
  have hw := hk.w hw0
  refine z_ldcw h q2203 dX11_worstOf_5 ?_
  refine z_istore_n 2 h dX11_worstOf_8 rfl rfl ?_
  refine z_iconst h dX11_worstOf_9 ki_0 ?_
  refine z_istore_n 3 h dX11_worstOf_10 rfl rfl ?_
  have loop_11 : ∀ (fz : Nat) (M : Zm) (s1 : Ms) (k : Nat) (lz : Int) (hm : Mod (cg γ) ad M s1) (hk : keep st s1) (hk2 : k ≤ allN W + 1) (hv0 : ∃ b, wInv W s k lz b (s1.1 16)), (allN W + 1 - k) < fz → Z γ M 0 0 11 (lof [(0, .ref (ad 0)), (1, .int (nI s)), (2, .int (iI lz)), (3, .int (nI k))]) [] := by
    intro fz
    induction fz with
    | zero => intro M s1 k lz hm hk hk2 hv0 hz; exact absurd hz (Nat.not_lt_zero _)
    | succ fz ih_11 =>
      intro M s1 k lz hm hk hk2 hv0 hz_11
      have hw := hk.w hw0
      obtain ⟨b, hv⟩ := hv0
      have hlz := hv.2.2.1
      have hlz2 := hv.2.2.2.1
      refine z_iload_n 3 h dX11_worstOf_11 rfl rfl ?_
      refine z_aload_n 0 h dX11_worstOf_12 rfl rfl rfl ?_
      refine z_callVP h (m_allTrains hm hw hi) kX11 (.inl (hm.at 0 (by decide))) (lw_V q2128 q2130 qs87 q148 q2131) nX11_allTrains rfl rfl rfl (Nat.le_of_ble_eq_true rfl) (Nat.le_of_ble_eq_true rfl) (Nat.le_of_ble_eq_true rfl) dX11_worstOf_13 ?_
      refine z_icmp_gt 73 h dX11_worstOf_16 (by decide) (fun c_16 => ?_) (fun c_16 => ?_)
      · have _z := c_16
        replace c_16 := (ilt (a := allN W) (b := k) rfl rfl (allN_lt hi) (by omega)).mp c_16
        refine z_iload_n 2 h dX11_worstOf_73 rfl rfl ?_
        refine z_iret h hq dX11_worstOf_74 (Nat.le_of_ble_eq_true rfl) (Nat.le_of_ble_eq_true rfl) ?_
        obtain ⟨k, rfl⟩ : ∃ j, k = j + 1 := ⟨k - 1, by omega⟩
        obtain ⟨e1, e2, e3⟩ := wInv_end hv (by omega)
        refine ⟨?_, _, hm, hk, ?_⟩
        · rw [e2, e1]
        · exact e3.trans (by rw [e1])
      · have _z := c_16
        replace c_16 := (not_congr (ilt (a := allN W) (b := k) rfl rfl (allN_lt hi) (by omega))).mp c_16
        refine z_iload_n 1 h dX11_worstOf_19 rfl rfl ?_
        refine z_aload_n 0 h dX11_worstOf_20 rfl rfl rfl ?_
        refine z_iload_n 3 h dX11_worstOf_21 rfl rfl ?_
        refine z_callV h (m_lastFront hm hw hi k (by omega)) kX11 (.inl (hm.at 0 (by decide))) (lw_V q2167 q2169 qs93 q148 q2170) nX11_lastFront rfl rfl rfl (Nat.le_of_ble_eq_true rfl) (Nat.le_of_ble_eq_true rfl) (Nat.le_of_ble_eq_true rfl) dX11_worstOf_22 (fun v M hv => ?_)
        obtain ⟨rfl, s1, hm, hkf, hX⟩ := hv
        replace hk := hk.tr hkf.k
        have hw := hk.w hw0
        rw [← congrFun hkf.1 16] at hv
        have hb16 := hv.1
        have hg := gd_b hi s k
        have hgb := gd_b hi s b
        have hbk := hv.2.1
        have hlz := hv.2.2.1
        have hlz2 := hv.2.2.2.1
        refine z_callSP h (m_goodBy s (frZ W k (W 0)) hs) (lw_S q2175 q2176 q148 q2177) nX11_goodBy rfl rfl rfl (Nat.le_of_ble_eq_true rfl) (Nat.le_of_ble_eq_true rfl) (Nat.le_of_ble_eq_true rfl) dX11_worstOf_25 ?_
        refine z_istore h dX11_worstOf_28 rfl ?_
        refine z_iload h dX11_worstOf_30 rfl ?_
        refine z_iload_n 2 h dX11_worstOf_32 rfl rfl ?_
        refine z_icmp_gt 67 h dX11_worstOf_33 (by decide) (fun c_33 => ?_) (fun c_33 => ?_)
        · have _z := c_33
          replace c_33 := (zlt (a := lz) (b := gdZ s (frZ W k (W 0))) rfl rfl (by omega) (by omega)).mp c_33
          refine z_iinc h dX11_worstOf_67 rfl rfl ki_1 ?_
          refine z_goto 11 h dX11_worstOf_70 (by decide) ?_
          refine Z.loc [(0, .ref (ad 0)), (1, .int (nI s)), (2, .int (iI _)), (3, .int (nI (k + 1)))] (ll1 rfl (ll1 rfl (ll1 rfl (ll1 (vS (nI_1 k)) ll0)))) ?_
          exact ih_11 _ _ (k + 1) _ hm hk (by omega) (by first | exact ⟨_, wInv_skip hi hv (by omega)⟩ | exact ⟨_, wInv_take hi hv (by omega)⟩) (by omega)
        · have _z := c_33
          replace c_33 := (not_congr (zlt (a := lz) (b := gdZ s (frZ W k (W 0))) rfl rfl (by omega) (by omega))).mp c_33
          refine z_iload h dX11_worstOf_36 rfl ?_
          refine z_iload_n 2 h dX11_worstOf_38 rfl rfl ?_
          refine z_icmp_ne 59 h dX11_worstOf_39 (by decide) (fun c_39 => ?_) (fun c_39 => ?_)
          · have _z := c_39
            replace c_39 := (not_congr (zeq (a := gdZ s (frZ W k (W 0))) (b := lz) rfl rfl (by omega) (by omega))).mp c_39
            refine z_iload h dX11_worstOf_59 rfl ?_
            refine z_istore_n 2 h dX11_worstOf_61 rfl rfl ?_
            refine z_aload_n 0 h dX11_worstOf_62 rfl rfl rfl ?_
            refine z_iload_n 3 h dX11_worstOf_63 rfl rfl ?_
            refine zm_put 16 h hm (by decide) q1863 dX11_worstOf_64 (fun M hm => ?_)
            replace hk := keepS hk hm (by decide)
            have hw := hk.w hw0
            refine z_iinc h dX11_worstOf_67 rfl rfl ki_1 ?_
            refine z_goto 11 h dX11_worstOf_70 (by decide) ?_
            refine Z.loc [(0, .ref (ad 0)), (1, .int (nI s)), (2, .int (iI _)), (3, .int (nI (k + 1)))] (ll1 rfl (ll1 rfl (ll1 rfl (ll1 (vS (nI_1 k)) ll0)))) ?_
            exact ih_11 _ _ (k + 1) _ hm hk (by omega) (by first | exact ⟨_, wInv_skip hi hv (by omega)⟩ | exact ⟨_, wInv_take hi hv (by omega)⟩) (by omega)
          · have _z := c_39
            replace c_39 := (zeq (a := gdZ s (frZ W k (W 0))) (b := lz) rfl rfl (by omega) (by omega)).mp c_39
            refine z_iload_n 3 h dX11_worstOf_42 rfl rfl ?_
            refine z_callSP h (m_bits k (by omega)) (lw_S q2204 q2205 q148 q2206) nX11_bits rfl rfl rfl (Nat.le_of_ble_eq_true rfl) (Nat.le_of_ble_eq_true rfl) (Nat.le_of_ble_eq_true rfl) dX11_worstOf_43 ?_
            refine z_aload_n 0 h dX11_worstOf_46 rfl rfl rfl ?_
            refine z_get h kX11 (.inl (hm.at 0 (by decide))) 16 rfl q1863 rfl dX11_worstOf_47 ?_
            rw [hb16]
            refine z_callSP h (m_bits b (by omega)) (lw_S q2204 q2205 q148 q2206) nX11_bits rfl rfl rfl (Nat.le_of_ble_eq_true rfl) (Nat.le_of_ble_eq_true rfl) (Nat.le_of_ble_eq_true rfl) dX11_worstOf_50 ?_
            refine z_icmp_lt 59 h dX11_worstOf_53 (by decide) (fun c_53 => ?_) (fun c_53 => ?_)
            · have _z := c_53
              replace c_53 := (ilt (a := bcN k) (b := bcN b) rfl rfl (by have := bcN_le k; omega) (by have := bcN_le b; omega)).mp c_53
              refine z_iload h dX11_worstOf_59 rfl ?_
              refine z_istore_n 2 h dX11_worstOf_61 rfl rfl ?_
              refine z_aload_n 0 h dX11_worstOf_62 rfl rfl rfl ?_
              refine z_iload_n 3 h dX11_worstOf_63 rfl rfl ?_
              refine zm_put 16 h hm (by decide) q1863 dX11_worstOf_64 (fun M hm => ?_)
              replace hk := keepS hk hm (by decide)
              have hw := hk.w hw0
              refine z_iinc h dX11_worstOf_67 rfl rfl ki_1 ?_
              refine z_goto 11 h dX11_worstOf_70 (by decide) ?_
              refine Z.loc [(0, .ref (ad 0)), (1, .int (nI s)), (2, .int (iI _)), (3, .int (nI (k + 1)))] (ll1 rfl (ll1 rfl (ll1 rfl (ll1 (vS (nI_1 k)) ll0)))) ?_
              exact ih_11 _ _ (k + 1) _ hm hk (by omega) (by first | exact ⟨_, wInv_skip hi hv (by omega)⟩ | exact ⟨_, wInv_take hi hv (by omega)⟩) (by omega)
            · have _z := c_53
              replace c_53 := (not_congr (ilt (a := bcN k) (b := bcN b) rfl rfl (by have := bcN_le k; omega) (by have := bcN_le b; omega))).mp c_53
              refine z_goto 67 h dX11_worstOf_56 (by decide) ?_
              refine z_iinc h dX11_worstOf_67 rfl rfl ki_1 ?_
              refine z_goto 11 h dX11_worstOf_70 (by decide) ?_
              refine Z.loc [(0, .ref (ad 0)), (1, .int (nI s)), (2, .int (iI _)), (3, .int (nI (k + 1)))] (ll1 rfl (ll1 rfl (ll1 rfl (ll1 (vS (nI_1 k)) ll0)))) ?_
              exact ih_11 _ _ (k + 1) _ hm hk (by omega) (by first | exact ⟨_, wInv_skip hi hv (by omega)⟩ | exact ⟨_, wInv_take hi hv (by omega)⟩) (by omega)
  refine Z.loc [(0, .ref (ad 0)), (1, .int (nI s)), (2, .int (iI 1000000)), (3, .int (nI 0))] (ll1 rfl (ll1 rfl (ll1 rfl (ll1 rfl ll0)))) ?_
  exact loop_11 _ _ _ 0 1000000 hm hk (Nat.zero_le _) ⟨0, rfl, Nat.le_refl _, by decide, by decide, Or.inl ⟨rfl, rfl, rfl⟩⟩ (Nat.lt_succ_self _)
set_option maxHeartbeats 4000000 in
theorem m_worst {l : Launch} {g : Zg} {ad : Nat → Nat} {M : Zm} {st : Ms} {W : Nat → Nat} (hm : Mod g ad M st) (hw : WR st W) (hi : InvW W) (sv : Int32) : Cn l g yX11_worst cX11_worst 2 (some .int) 7 0 0 [.ref (ad 0), .int sv] M (PM g ad st (some (.int (aWorst W sv))) (fun _ => True)) := by
  refine Cn.start [(0, .ref (ad 0)), (1, .int sv)] (by decide) (Nat.le_of_ble_eq_true rfl) rfl ?_
  intro γ el eg h hq
  subst el; subst eg
  have h4 := hi.h4
  have h0 := hi.h0
  have hw0 := hw
  have hk : keep st st := keep.rf st
  refine z_aload_n 0 h dX11_worst_0 rfl rfl rfl ?_
  refine z_iload_n 1 h dX11_worst_1 rfl rfl ?_
  refine z_callVP h (m_isSide hm hw hi sv) kX11 (.inl (hm.at 0 (by decide))) (lw_V q2087 q2089 qs83 q148 q2090) nX11_isSide rfl rfl rfl (Nat.le_of_ble_eq_true rfl) (Nat.le_of_ble_eq_true rfl) (Nat.le_of_ble_eq_true rfl) dX11_worst_2 ?_
  refine z_ifz_eq 16 h dX11_worst_5 (by decide) (fun c_5 => ?_) (fun c_5 => ?_)
  · have _z := c_5
    refine z_sipush h dX11_worst_16 ks_m1000 ?_
    refine z_iret h hq dX11_worst_19 (Nat.le_of_ble_eq_true rfl) (Nat.le_of_ble_eq_true rfl) ?_
    refine ⟨vS ?_, _, hm, hk, trivial⟩
    first | (simp [aWorst, c_5]; done) | (simp [aWorst, c_5, tn_nI (show s < 2 ^ 31 by omega)]; done)
  · have _z := c_5
    obtain ⟨s, h_s, rfl⟩ := isSide_nat c_5
    refine z_aload_n 0 h dX11_worst_8 rfl rfl rfl ?_
    refine z_iload_n 1 h dX11_worst_9 rfl rfl ?_
    refine z_callV h (m_worstOf hm hw hi s (by omega)) kX11 (.inl (hm.at 0 (by decide))) (lw_V q2199 q2201 qs94 q148 q2202) nX11_worstOf rfl rfl rfl (Nat.le_of_ble_eq_true rfl) (Nat.le_of_ble_eq_true rfl) (Nat.le_of_ble_eq_true rfl) dX11_worst_10 (fun v M hv => ?_)
    obtain ⟨rfl, s1, hm, hk1, hX⟩ := hv
    replace hk := hk.tr hk1
    have hw := hk.w hw0
    refine z_goto 19 h dX11_worst_13 (by decide) ?_
    refine z_iret h hq dX11_worst_19 (Nat.le_of_ble_eq_true rfl) (Nat.le_of_ble_eq_true rfl) ?_
    refine ⟨vS ?_, _, hm, hk, trivial⟩
    first | (simp [aWorst, c_5]; done) | (simp [aWorst, c_5, tn_nI (show s < 2 ^ 31 by omega)]; done)
set_option maxHeartbeats 4000000 in
theorem m_by {l : Launch} {g : Zg} {ad : Nat → Nat} {M : Zm} {st : Ms} {W : Nat → Nat} (hm : Mod g ad M st) (hw : WR st W) (hi : InvW W) (sv : Int32) : Cn l g yX11_by cX11_by 2 (some .int) 7 0 0 [.ref (ad 0), .int sv] M (PM g ad st (some (.int (aBy W sv))) (fun _ => True)) := by
  refine Cn.start [(0, .ref (ad 0)), (1, .int sv)] (by decide) (Nat.le_of_ble_eq_true rfl) rfl ?_
  intro γ el eg h hq
  subst el; subst eg
  have h4 := hi.h4
  have h0 := hi.h0
  have hw0 := hw
  have hk : keep st st := keep.rf st
  refine z_aload_n 0 h dX11_by_0 rfl rfl rfl ?_
  refine z_iload_n 1 h dX11_by_1 rfl rfl ?_
  refine z_callVP h (m_isSide hm hw hi sv) kX11 (.inl (hm.at 0 (by decide))) (lw_V q2087 q2089 qs83 q148 q2090) nX11_isSide rfl rfl rfl (Nat.le_of_ble_eq_true rfl) (Nat.le_of_ble_eq_true rfl) (Nat.le_of_ble_eq_true rfl) dX11_by_2 ?_
  refine z_ifz_ne 11 h dX11_by_5 (by decide) (fun c_5 => ?_) (fun c_5 => ?_)
  · have _z := c_5
    obtain ⟨s, h_s, rfl⟩ := isSide_nat c_5
    refine z_aload_n 0 h dX11_by_11 rfl rfl rfl ?_
    refine z_iload_n 1 h dX11_by_12 rfl rfl ?_
    refine z_callV h (m_worstOf hm hw hi s (by omega)) kX11 (.inl (hm.at 0 (by decide))) (lw_V q2199 q2201 qs94 q148 q2202) nX11_worstOf rfl rfl rfl (Nat.le_of_ble_eq_true rfl) (Nat.le_of_ble_eq_true rfl) (Nat.le_of_ble_eq_true rfl) dX11_by_13 (fun v M hv => ?_)
    obtain ⟨rfl, s1, hm, hk1, hX⟩ := hv
    replace hk := hk.tr hk1
    have hw := hk.w hw0
    refine z_pop h dX11_by_16 rfl ?_
    refine z_aload_n 0 h dX11_by_17 rfl rfl rfl ?_
    refine z_get h kX11 (.inl (hm.at 0 (by decide))) 16 rfl q1863 rfl dX11_by_18 ?_
    refine z_iret h hq dX11_by_21 (Nat.le_of_ble_eq_true rfl) (Nat.le_of_ble_eq_true rfl) ?_
    refine ⟨vS ?_, _, hm, hk, trivial⟩
    rw [hX]
    simp [aBy, c_5, tn_nI (show s < 2 ^ 31 by omega)]
  · have _z := c_5
    refine z_bipush h dX11_by_8 kb_m2 ?_
    refine z_iret h hq dX11_by_10 (Nat.le_of_ble_eq_true rfl) (Nat.le_of_ble_eq_true rfl) ?_
    refine ⟨vS ?_, _, hm, hk, trivial⟩
    simp [aBy, c_5]
set_option maxHeartbeats 4000000 in
theorem m_ways {l : Launch} {g : Zg} {ad : Nat → Nat} {M : Zm} {st : Ms} {W : Nat → Nat} (hm : Mod g ad M st) (hw : WR st W) (hi : InvW W) (sv : Int32) : Cn l g yX11_ways cX11_ways 4 (some .int) 7 0 0 [.ref (ad 0), .int sv] M (PM g ad st (some (.int (aWays W sv))) (fun _ => True)) := by
  refine Cn.start [(0, .ref (ad 0)), (1, .int sv)] (by decide) (Nat.le_of_ble_eq_true rfl) rfl ?_
  intro γ el eg h hq
  subst el; subst eg
  have h4 := hi.h4
  have h0 := hi.h0
  have hw0 := hw
  have hk : keep st st := keep.rf st
  have hall := allN_511 hi
  refine z_aload_n 0 h dX11_ways_0 rfl rfl rfl ?_
  refine z_iload_n 1 h dX11_ways_1 rfl rfl ?_
  refine z_callVP h (m_isSide hm hw hi sv) kX11 (.inl (hm.at 0 (by decide))) (lw_V q2087 q2089 qs83 q148 q2090) nX11_isSide rfl rfl rfl (Nat.le_of_ble_eq_true rfl) (Nat.le_of_ble_eq_true rfl) (Nat.le_of_ble_eq_true rfl) dX11_ways_2 ?_
  refine z_ifz_ne 11 h dX11_ways_5 (by decide) (fun c_5 => ?_) (fun c_5 => ?_)
  · have _z := c_5
    obtain ⟨s, h_s, rfl⟩ := isSide_nat c_5
    refine z_iconst h dX11_ways_11 ki_0 ?_
    refine z_istore_n 2 h dX11_ways_12 rfl rfl ?_
    refine z_iconst h dX11_ways_13 ki_0 ?_
    refine z_istore_n 3 h dX11_ways_14 rfl rfl ?_
    have loop_15 : ∀ (fz : Nat) (M : Zm) (s1 : Ms) (k : Nat) (hm : Mod (cg γ) ad M s1) (hk : keep st s1) (hk2 : k ≤ allN W + 1), (allN W + 1 - k) < fz → Z γ M 0 0 15 (lof [(0, .ref (ad 0)), (1, .int (nI s)), (2, .int (nI (waysN W s k))), (3, .int (nI k))]) [] := by
      intro fz
      induction fz with
      | zero => intro M s1 k hm hk hk2 hz; exact absurd hz (Nat.not_lt_zero _)
      | succ fz ih_15 =>
        intro M s1 k hm hk hk2 hz_15
        have hw := hk.w hw0
        refine z_iload_n 3 h dX11_ways_15 rfl rfl ?_
        refine z_aload_n 0 h dX11_ways_16 rfl rfl rfl ?_
        refine z_callVP h (m_allTrains hm hw hi) kX11 (.inl (hm.at 0 (by decide))) (lw_V q2128 q2130 qs87 q148 q2131) nX11_allTrains rfl rfl rfl (Nat.le_of_ble_eq_true rfl) (Nat.le_of_ble_eq_true rfl) (Nat.le_of_ble_eq_true rfl) dX11_ways_17 ?_
        refine z_icmp_gt 46 h dX11_ways_20 (by decide) (fun c_20 => ?_) (fun c_20 => ?_)
        · have _z := c_20
          replace c_20 := (ilt (a := allN W) (b := k) rfl rfl (allN_lt hi) (by omega)).mp c_20
          refine z_iload_n 2 h dX11_ways_46 rfl rfl ?_
          refine z_iret h hq dX11_ways_47 (Nat.le_of_ble_eq_true rfl) (Nat.le_of_ble_eq_true rfl) ?_
          obtain rfl : k = allN W + 1 := by omega
          refine ⟨vS ?_, _, hm, hk, trivial⟩
          simp [aWays, c_5, tn_nI (show s < 2 ^ 31 by omega)]
        · have _z := c_20
          replace c_20 := (not_congr (ilt (a := allN W) (b := k) rfl rfl (allN_lt hi) (by omega))).mp c_20
          refine z_iload_n 2 h dX11_ways_23 rfl rfl ?_
          refine z_aload_n 0 h dX11_ways_24 rfl rfl rfl ?_
          refine z_iload_n 3 h dX11_ways_25 rfl rfl ?_
          refine z_callV h (m_winner hm hw hi k (by omega)) kX11 (.inl (hm.at 0 (by decide))) (lw_V q2163 q2165 qs92 q148 q2166) nX11_winner rfl rfl rfl (Nat.le_of_ble_eq_true rfl) (Nat.le_of_ble_eq_true rfl) (Nat.le_of_ble_eq_true rfl) dX11_ways_26 (fun v M hv => ?_)
          obtain ⟨rfl, s1, hm, hkf, hX⟩ := hv
          replace hk := hk.tr hkf.k
          have hw := hk.w hw0
          refine z_iload_n 1 h dX11_ways_29 rfl rfl ?_
          refine z_icmp_ne 37 h dX11_ways_30 (by decide) (fun c_30 => ?_) (fun c_30 => ?_)
          · have _z := c_30
            replace c_30 := (not_congr (zeq (a := winZ W k) (b := ((s : Nat) : Int)) rfl (nz rfl) (by have := winZ_b W k; omega) (by omega))).mp c_30
            refine z_iconst h dX11_ways_37 ki_0 ?_
            refine z_iadd h dX11_ways_38 ?_
            refine z_istore_n 2 h dX11_ways_39 rfl rfl ?_
            refine z_iinc h dX11_ways_40 rfl rfl ki_1 ?_
            refine z_goto 15 h dX11_ways_43 (by decide) ?_
            refine Z.loc [(0, .ref (ad 0)), (1, .int (nI s)), (2, .int (nI (waysN W s (k + 1)))), (3, .int (nI (k + 1)))] (ll1 rfl (ll1 rfl (ll1 (vS (by simp only [waysN, sN]; first | (rw [if_pos c_30]; exact nI_1 _) | (rw [if_neg c_30, show (0 : Int32) = nI 0 from rfl, nI_add]; done))) (ll1 (vS (nI_1 k)) ll0)))) ?_
            exact ih_15 _ _ (k + 1) hm hk (by omega) (by omega)
          · have _z := c_30
            replace c_30 := (zeq (a := winZ W k) (b := ((s : Nat) : Int)) rfl (nz rfl) (by have := winZ_b W k; omega) (by omega)).mp c_30
            refine z_iconst h dX11_ways_33 ki_1 ?_
            refine z_goto 38 h dX11_ways_34 (by decide) ?_
            refine z_iadd h dX11_ways_38 ?_
            refine z_istore_n 2 h dX11_ways_39 rfl rfl ?_
            refine z_iinc h dX11_ways_40 rfl rfl ki_1 ?_
            refine z_goto 15 h dX11_ways_43 (by decide) ?_
            refine Z.loc [(0, .ref (ad 0)), (1, .int (nI s)), (2, .int (nI (waysN W s (k + 1)))), (3, .int (nI (k + 1)))] (ll1 rfl (ll1 rfl (ll1 (vS (by simp only [waysN, sN]; first | (rw [if_pos c_30]; exact nI_1 _) | (rw [if_neg c_30, show (0 : Int32) = nI 0 from rfl, nI_add]; done))) (ll1 (vS (nI_1 k)) ll0)))) ?_
            exact ih_15 _ _ (k + 1) hm hk (by omega) (by omega)
    refine Z.loc [(0, .ref (ad 0)), (1, .int (nI s)), (2, .int (nI (waysN W s 0))), (3, .int (nI 0))] (ll1 rfl (ll1 rfl (ll1 rfl (ll1 rfl ll0)))) ?_
    exact loop_15 _ _ _ 0 hm hk (Nat.zero_le _) (Nat.lt_succ_self _)
  · have _z := c_5
    refine z_bipush h dX11_ways_8 kb_m2 ?_
    refine z_iret h hq dX11_ways_10 (Nat.le_of_ble_eq_true rfl) (Nat.le_of_ble_eq_true rfl) ?_
    refine ⟨vS ?_, _, hm, hk, trivial⟩
    simp [aWays, c_5]
theorem up_step {F : Nat → Int} {f : Nat → Int32} {k : Nat} (h : ∀ j, j < k → f j = iI (F j)) : ∀ j, j < k + 1 → upd f k (iI (F k)) j = iI (F j) := by
  intro j hj
  by_cases e : j = k
  · subst e; simp [upd]
  · simp [upd, e, h j (by omega)]
set_option maxHeartbeats 4000000 in
theorem m_idle {l : Launch} {g : Zg} {ad : Nat → Nat} {M : Zm} {st : Ms} {W : Nat → Nat} (hm : Mod g ad M st) (hw : WR st W) (hi : InvW W)  : Cn l g yX11_idle cX11_idle 4 (some .int) 7 0 0 [.ref (ad 0)] M (PM g ad st (some (.int (aIdle W))) (fun _ => True)) := by
  refine Cn.start [(0, .ref (ad 0))] (by decide) (Nat.le_of_ble_eq_true rfl) rfl ?_
  intro γ el eg h hq
  subst el; subst eg
  have h4 := hi.h4
  have h0 := hi.h0
  have hw0 := hw
  have hk : keep st st := keep.rf st
  have hall := allN_511 hi
  refine z_aload_n 0 h dX11_idle_0 rfl rfl rfl ?_
  refine z_callVP h (m_isWar hm hw hi) kX11 (.inl (hm.at 0 (by decide))) (lw_V q2091 q2093 qs84 q148 q2094) nX11_isWar rfl rfl rfl (Nat.le_of_ble_eq_true rfl) (Nat.le_of_ble_eq_true rfl) (Nat.le_of_ble_eq_true rfl) dX11_idle_1 ?_
  refine z_ifz_ne 10 h dX11_idle_4 (by decide) (fun c_4 => ?_) (fun c_4 => ?_)
  · have _z := c_4
    refine z_aload_n 0 h dX11_idle_10 rfl rfl rfl ?_
    refine z_callVP h (m_allTrains hm hw hi) kX11 (.inl (hm.at 0 (by decide))) (lw_V q2128 q2130 qs87 q148 q2131) nX11_allTrains rfl rfl rfl (Nat.le_of_ble_eq_true rfl) (Nat.le_of_ble_eq_true rfl) (Nat.le_of_ble_eq_true rfl) dX11_idle_11 ?_
    refine z_istore_n 1 h dX11_idle_14 rfl rfl ?_
    refine z_iconst h dX11_idle_15 ki_0 ?_
    refine z_istore_n 2 h dX11_idle_16 rfl rfl ?_
    have loop_17 : ∀ (fz : Nat) (M : Zm) (s1 : Ms) (k : Nat) (hm : Mod (cg γ) ad M s1) (hk : keep st s1) (hk2 : k ≤ allN W + 1) (hwn : ∀ j, j < k → s1.2.1 17 j = iI (winZ W j)), (allN W + 1 - k) < fz → Z γ M 0 0 17 (lof [(0, .ref (ad 0)), (1, .int (nI (allN W))), (2, .int (nI k))]) [] := by
      intro fz
      induction fz with
      | zero => intro M s1 k hm hk hk2 hwn hz; exact absurd hz (Nat.not_lt_zero _)
      | succ fz ih_17 =>
        intro M s1 k hm hk hk2 hwn hz_17
        have hw := hk.w hw0
        refine z_iload_n 2 h dX11_idle_17 rfl rfl ?_
        refine z_aload_n 0 h dX11_idle_18 rfl rfl rfl ?_
        refine z_callVP h (m_allTrains hm hw hi) kX11 (.inl (hm.at 0 (by decide))) (lw_V q2128 q2130 qs87 q148 q2131) nX11_allTrains rfl rfl rfl (Nat.le_of_ble_eq_true rfl) (Nat.le_of_ble_eq_true rfl) (Nat.le_of_ble_eq_true rfl) dX11_idle_19 ?_
        refine z_icmp_gt 42 h dX11_idle_22 (by decide) (fun c_22 => ?_) (fun c_22 => ?_)
        · have _z := c_22
          replace c_22 := (ilt (a := allN W) (b := k) rfl rfl (allN_lt hi) (by omega)).mp c_22
          refine z_iconst h dX11_idle_42 ki_0 ?_
          refine z_istore_n 2 h dX11_idle_43 rfl rfl ?_
          have loop_44 : ∀ (fz : Nat) (k : Nat) (hk3 : k ≤ allN W + 1), (allN W + 1 - k) < fz → Z γ M 0 0 44 (lof [(0, .ref (ad 0)), (1, .int (nI (idS W k))), (2, .int (nI k))]) [] := by
            intro fz
            induction fz with
            | zero => intro k hk3 hz; exact absurd hz (Nat.not_lt_zero _)
            | succ fz ih_44 =>
              intro k hk3 hz_44
              refine z_iload_n 2 h dX11_idle_44 rfl rfl ?_
              refine z_aload_n 0 h dX11_idle_45 rfl rfl rfl ?_
              refine z_callVP h (m_allTrains hm hw hi) kX11 (.inl (hm.at 0 (by decide))) (lw_V q2128 q2130 qs87 q148 q2131) nX11_allTrains rfl rfl rfl (Nat.le_of_ble_eq_true rfl) (Nat.le_of_ble_eq_true rfl) (Nat.le_of_ble_eq_true rfl) dX11_idle_46 ?_
              refine z_icmp_gt 103 h dX11_idle_49 (by decide) (fun c_49 => ?_) (fun c_49 => ?_)
              · have _z := c_49
                replace c_49 := (ilt (a := allN W) (b := k) rfl rfl (allN_lt hi) (by omega)).mp c_49
                refine z_iload_n 1 h dX11_idle_103 rfl rfl ?_
                refine z_iret h hq dX11_idle_104 (Nat.le_of_ble_eq_true rfl) (Nat.le_of_ble_eq_true rfl) ?_
                obtain rfl : k = allN W + 1 := by omega
                refine ⟨vS ?_, _, hm, hk, trivial⟩
                simp [aIdle, c_4]
              · have _z := c_49
                replace c_49 := (not_congr (ilt (a := allN W) (b := k) rfl rfl (allN_lt hi) (by omega))).mp c_49
                refine z_iconst h dX11_idle_52 ki_0 ?_
                refine z_istore_n 3 h dX11_idle_53 rfl rfl ?_
                have loop_54 : ∀ (fz : Nat) (t : Nat) (ht : t ≤ W 4), (W 4 - t) < fz → Z γ M 0 0 54 (lof [(0, .ref (ad 0)), (1, .int (nI (idT W k (idS W k) t))), (2, .int (nI k)), (3, .int (nI t))]) [] := by
                  intro fz
                  induction fz with
                  | zero => intro t ht hz; exact absurd hz (Nat.not_lt_zero _)
                  | succ fz ih_54 =>
                    intro t ht hz_54
                    have hid := idT_lt (W := W) (k := k) (idS_lt hi k) t
                    refine z_iload_n 3 h dX11_idle_54 rfl rfl ?_
                    refine z_aload_n 0 h dX11_idle_55 rfl rfl rfl ?_
                    refine z_get h kX11 (.inl (hm.at 0 (by decide))) 1 rfl q1848 rfl dX11_idle_56 ?_
                    refine z_iconst h dX11_idle_59 ki_4 ?_
                    refine zm_w (4) h hm hw rfl (by omega) dX11_idle_60 ?_
                    refine z_icmp_ge 97 h dX11_idle_61 (by decide) (fun c_61 => ?_) (fun c_61 => ?_)
                    · have _z := c_61
                      replace c_61 := (ile (a := W (4)) (b := t) rfl rfl (hi.lt _ (by omega)) (by omega)).mp c_61
                      refine z_iinc h dX11_idle_97 rfl rfl ki_1 ?_
                      refine z_goto 44 h dX11_idle_100 (by decide) ?_
                      refine Z.loc [(0, .ref (ad 0)), (1, .int (nI (idS W (k + 1)))), (2, .int (nI (k + 1)))] (ll1 rfl (ll1 (vS (by rw [show t = W 4 by omega]; rfl)) (ll1 (vS (nI_1 k)) ll0))) ?_
                      exact ih_44 (k + 1) (by omega) (by omega)
                    · have _z := c_61
                      replace c_61 := (not_congr (ile (a := W (4)) (b := t) rfl rfl (hi.lt _ (by omega)) (by omega))).mp c_61
                      refine z_aload_n 0 h dX11_idle_64 rfl rfl rfl ?_
                      refine z_get h kX11 (.inl (hm.at 0 (by decide))) 17 rfl q1864 rfl dX11_idle_65 ?_
                      refine z_iload_n 2 h dX11_idle_68 rfl rfl ?_
                      refine z_ialdN (k) h (.inl (hm.at 17 (by decide))) rfl (by omega) (by decide) dX11_idle_69 ?_
                      refine z_aload_n 0 h dX11_idle_70 rfl rfl rfl ?_
                      refine z_get h kX11 (.inl (hm.at 0 (by decide))) 17 rfl q1864 rfl dX11_idle_71 ?_
                      refine z_iload_n 2 h dX11_idle_74 rfl rfl ?_
                      refine z_iconst h dX11_idle_75 ki_1 ?_
                      refine z_iload_n 3 h dX11_idle_76 rfl rfl ?_
                      refine z_ishl h dX11_idle_77 ?_
                      refine z_ixor h dX11_idle_78 ?_
                      have hx9 := xor_le (W := W) (k := k) (t := t) (by omega) (by omega)
                      have hp9 : 2 ^ t ≤ 2 ^ 9 := Nat.pow_le_pow_right (by decide) (by omega)
                      refine z_ialdN (k ^^^ 2 ^ t) h (.inl (hm.at 17 (by decide))) (by rw [shl_N t (by omega)]; exact xor_nI (by omega) (by omega)) (by omega) (by decide) dX11_idle_79 ?_
                      refine z_icmp_eq 91 h dX11_idle_80 (by decide) (fun c_80 => ?_) (fun c_80 => ?_)
                      · have _z := c_80
                        replace c_80 := (zeq (a := winZ W k) (b := winZ W (k ^^^ 2 ^ t)) (hwn k (by omega)) (hwn _ (by omega)) (by have := winZ_b W k; omega) (by have := winZ_b W (k ^^^ 2 ^ t); omega)).mp c_80
                        refine z_iinc h dX11_idle_91 rfl rfl ki_1 ?_
                        refine z_goto 54 h dX11_idle_94 (by decide) ?_
                        refine Z.loc [(0, .ref (ad 0)), (1, .int (nI (idT W k (idS W k) (t + 1)))), (2, .int (nI k)), (3, .int (nI (t + 1)))] (ll1 rfl (ll1 (vS (by simp only [idT]; first | (rw [if_pos c_80]; done) | (rw [if_neg c_80]; exact clr_at t (by omega) _ hid))) (ll1 rfl (ll1 (vS (nI_1 t)) ll0)))) ?_
                        exact ih_54 (t + 1) (by omega) (by omega)
                      · have _z := c_80
                        replace c_80 := (not_congr (zeq (a := winZ W k) (b := winZ W (k ^^^ 2 ^ t)) (hwn k (by omega)) (hwn _ (by omega)) (by have := winZ_b W k; omega) (by have := winZ_b W (k ^^^ 2 ^ t); omega))).mp c_80
                        refine z_iload_n 1 h dX11_idle_83 rfl rfl ?_
                        refine z_iconst h dX11_idle_84 ki_1 ?_
                        refine z_iload_n 3 h dX11_idle_85 rfl rfl ?_
                        refine z_ishl h dX11_idle_86 ?_
                        refine z_iconst h dX11_idle_87 ki_m1 ?_
                        refine z_ixor h dX11_idle_88 ?_
                        refine z_iand h dX11_idle_89 ?_
                        refine z_istore_n 1 h dX11_idle_90 rfl rfl ?_
                        refine z_iinc h dX11_idle_91 rfl rfl ki_1 ?_
                        refine z_goto 54 h dX11_idle_94 (by decide) ?_
                        refine Z.loc [(0, .ref (ad 0)), (1, .int (nI (idT W k (idS W k) (t + 1)))), (2, .int (nI k)), (3, .int (nI (t + 1)))] (ll1 rfl (ll1 (vS (by simp only [idT]; first | (rw [if_pos c_80]; done) | (rw [if_neg c_80]; exact clr_at t (by omega) _ hid))) (ll1 rfl (ll1 (vS (nI_1 t)) ll0)))) ?_
                        exact ih_54 (t + 1) (by omega) (by omega)
                refine Z.loc [(0, .ref (ad 0)), (1, .int (nI (idT W k (idS W k) 0))), (2, .int (nI k)), (3, .int (nI 0))] (ll1 rfl (ll1 rfl (ll1 rfl (ll1 rfl ll0)))) ?_
                exact loop_54 _ 0 (Nat.zero_le _) (Nat.lt_succ_self _)
          have hwn : ∀ j, j ≤ allN W → s1.2.1 17 j = iI (winZ W j) := fun j hj => hwn j (by omega)
          refine Z.loc [(0, .ref (ad 0)), (1, .int (nI (idS W 0))), (2, .int (nI 0))] (ll1 rfl (ll1 rfl (ll1 rfl ll0))) ?_
          exact loop_44 _ 0 (Nat.zero_le _) (Nat.lt_succ_self _)
        · have _z := c_22
          replace c_22 := (not_congr (ilt (a := allN W) (b := k) rfl rfl (allN_lt hi) (by omega))).mp c_22
          refine z_aload_n 0 h dX11_idle_25 rfl rfl rfl ?_
          refine z_get h kX11 (.inl (hm.at 0 (by decide))) 17 rfl q1864 rfl dX11_idle_26 ?_
          refine z_iload_n 2 h dX11_idle_29 rfl rfl ?_
          refine z_aload_n 0 h dX11_idle_30 rfl rfl rfl ?_
          refine z_iload_n 2 h dX11_idle_31 rfl rfl ?_
          refine z_callV h (m_winner hm hw hi k (by omega)) kX11 (.inl (hm.at 0 (by decide))) (lw_V q2163 q2165 qs92 q148 q2166) nX11_winner rfl rfl rfl (Nat.le_of_ble_eq_true rfl) (Nat.le_of_ble_eq_true rfl) (Nat.le_of_ble_eq_true rfl) dX11_idle_32 (fun v M hv => ?_)
          obtain ⟨rfl, s1, hm, hkf, hX⟩ := hv
          replace hk := hk.tr hkf.k
          have hw := hk.w hw0
          have hwn2 := fun j hj => (congrFun (hkf.2.1 17 (by decide)) j).trans (hwn j hj)
          refine zm_iast 17 (k) h hm (by decide) (fun _ => rfl) rfl (by omega) (by decide) dX11_idle_35 (fun M hm => ?_)
          replace hk := keepA hk hm (by decide)
          have hw := hk.w hw0
          refine z_iinc h dX11_idle_36 rfl rfl ki_1 ?_
          refine z_goto 17 h dX11_idle_39 (by decide) ?_
          refine Z.loc [(0, .ref (ad 0)), (1, .int (nI (allN W))), (2, .int (nI (k + 1)))] (ll1 rfl (ll1 rfl (ll1 (vS (nI_1 k)) ll0))) ?_
          exact ih_17 _ _ (k + 1) hm hk (by omega) (up_step hwn2) (by omega)
    refine Z.loc [(0, .ref (ad 0)), (1, .int (nI (allN W))), (2, .int (nI 0))] (ll1 rfl (ll1 rfl (ll1 rfl ll0))) ?_
    exact loop_17 _ _ _ 0 hm hk (Nat.zero_le _) (fun j hj => absurd hj (Nat.not_lt_zero j)) (Nat.lt_succ_self _)
  · have _z := c_4
    refine z_bipush h dX11_idle_7 kb_m2 ?_
    refine z_iret h hq dX11_idle_9 (Nat.le_of_ble_eq_true rfl) (Nat.le_of_ble_eq_true rfl) ?_
    refine ⟨vS ?_, _, hm, hk, trivial⟩
    simp [aIdle, c_4]
