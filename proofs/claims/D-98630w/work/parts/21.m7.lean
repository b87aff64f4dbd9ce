/-! the reference: trains sent, risked, bribed, guarded -/
set_option maxRecDepth 100000
theorem argm_b {P : Nat → Bool} {c : Nat → Nat} {n N : Nat} (hn : n ≤ N) (hN : N < 2 ^ 31) (hc : ∀ b, b < N → c b < 2 ^ 31) : ∀ b, argm P c n = some b → b < 2 ^ 31 ∧ c b < 2 ^ 31 := fun b h => by
  have h1 := (argm_lt h).1
  exact ⟨by omega, hc b (by omega)⟩
theorem ZM.up {s : Ms} {P : Nat → Bool} {c : Nat → Nat} {k : Nat} (h : ZM s c (upd1 c (argm P c k) k)) (hp : P k = true) : ZM s c (argm P c (k + 1)) := by
  rw [argm, if_pos hp]
  exact h
theorem ZM.no {s : Ms} {P : Nat → Bool} {c : Nat → Nat} {k : Nat} (h : ZM s c (argm P c k)) (hp : P k = false) : ZM s c (argm P c (k + 1)) := by
  rw [argm, if_neg (by rw [hp]; decide)]
  exact h
theorem ZM.same {s s' : Ms} {c : Nat → Nat} {o : Option Nat} (h : ZM s c o) (h1 : s'.1 19 = s.1 19) (h2 : s'.1 18 = s.1 18) : ZM s' c o := ⟨fun q => h1.trans (h.1 q), fun b q => ⟨h1.trans (h.2 b q).1, h2.trans (h.2 b q).2⟩⟩
theorem ZM.start {s : Ms} {c : Nat → Nat} (h : s.1 19 = -1) : ZM s c none := ⟨fun _ => h, fun b q => by cases q⟩
theorem sendO_eq {W : Nat → Nat} {s : Nat} {c : Nat → Nat} : argm (fun k => subN k (ownN W s) && sureB W s k) c (ownN W s + 1) = sendO W s c := by
  refine (argm_stop ?_ ?_).symm
  · have := ownN_all (W := W) s; omega
  · intro k h1 _
    cases h : subN k (ownN W s) with
    | true => have := subN_le h; omega
    | false => rfl
def isC (W : Nat → Nat) (b : Bool) : Nat → Nat := if b = true then pC W else bcN
theorem isC_lt {W : Nat → Nat} (hi : InvW W) (b : Bool) (k : Nat) : isC W b k < 2 ^ 31 := by
  unfold isC
  split
  · have := priceN_lt hi k; unfold pC; omega
  · have := bcN_le k; omega
/-- how often enough of a set come: by all delays -/
def enB (W : Nat → Nat) (s o : Nat) : Nat → Nat := sN (fun n => if W (11 + s) ≤ sentN W o n (W 4) then oftN W n (W 4) else 0)
theorem enB_le {W : Nat → Nat} (hi : InvW W) (s o : Nat) : enB W s o (allN W + 1) ≤ 100 ^ W 4 := by
  rw [← oft_all hi]
  refine sN_le (fun n _ => ?_)
  show (if _ then _ else _) ≤ _
  split <;> omega
def oftB (W : Nat → Nat) (a n : Nat) : Bool := if W 4 = 0 then decide (n ≤ a * 100) else decide (100 ^ W 4 / 100 * n ≤ a)
def riskP (W : Nat → Nat) (s n k : Nat) : Bool := subN k (ownN W s) && oftB W (enB W s k (allN W + 1)) n
def riskO (W : Nat → Nat) (s n : Nat) : Option Nat := argm (riskP W s n) (pC W) (allN W + 1)
def bribP (W : Nat → Nat) (s w k : Nat) : Bool := subN k (ownN W s) && (k &&& w == 0) && lateB W s k
def bribO (W : Nat → Nat) (s w : Nat) : Option Nat := argm (bribP W s w) (pC W) (allN W + 1)
def aRisk (W : Nat → Nat) (s n : Int32) : Int32 := if (isSideB W s && inI n 0 100) = true then orN (pC W) (riskO W (tn s) (tn n)) else -2
def aRisked (W : Nat → Nat) (s n : Int32) : Int32 := if (isSideB W s && inI n 0 100) = true then setO (riskO W (tn s) (tn n)) else -2
def aBribe (W : Nat → Nat) (s : Int32) : Int32 := if isSideB W s = true then orN (pC W) (bribO W (tn s) 0) else -2
def aBribed (W : Nat → Nat) (s : Int32) : Int32 := if isSideB W s = true then setO (bribO W (tn s) 0) else -2
theorem riskO_eq {W : Nat → Nat} {s n : Nat} : argm (riskP W s n) (pC W) (ownN W s + 1) = riskO W s n := by
  refine (argm_stop ?_ ?_).symm
  · have := ownN_all (W := W) s; omega
  · intro k h1 _
    unfold riskP
    cases h : subN k (ownN W s) with
    | true => have := subN_le h; omega
    | false => rfl
/-- own sets without w -/
def owN (W : Nat → Nat) (s w : Nat) : Nat := ownN W s &&& (ownN W s ^^^ (ownN W s &&& w))
theorem bribO_eq {W : Nat → Nat} {s w o : Nat} (ho : ∀ k, subN k o = (subN k (ownN W s) && (k &&& w == 0))) (hl : o ≤ ownN W s) : argm (fun k => subN k o && lateB W s k) (pC W) (o + 1) = bribO W s w := by
  unfold bribO
  have e : argm (fun k => subN k o && lateB W s k) (pC W) (allN W + 1) = argm (bribP W s w) (pC W) (allN W + 1) := argm_ext (fun k _ => by unfold bribP; rw [ho k]) (fun _ _ _ => rfl)
  rw [← e]
  refine (argm_stop ?_ ?_).symm
  · have := ownN_all (W := W) s; omega
  · intro k h1 _
    cases h : subN k o with
    | true => have := subN_le h; omega
    | false => rfl
/-- all but w, of a -/
def andnN (a w : Nat) : Nat := a ^^^ (a &&& w)
theorem andn_at {a w : Nat} (ha : a < 2 ^ 31) (hw : w < 2 ^ 31) : nI a &&& (nI w ^^^ (-1)) = nI (andnN a w) := by
  have h1 : (nI a &&& (nI w ^^^ (-1))) = nI a ^^^ (nI a &&& nI w) := by
    apply Int32.toBitVec_inj.mp
    rw [Int32.toBitVec_and, Int32.toBitVec_xor, Int32.toBitVec_xor, Int32.toBitVec_and]
    generalize (nI a).toBitVec = p
    generalize (nI w).toBitVec = z
    rw [show (-1 : Int32).toBitVec = BitVec.allOnes 32 by decide]
    apply BitVec.eq_of_getLsbD_eq
    intro i hi
    rw [BitVec.getLsbD_and, BitVec.getLsbD_xor, BitVec.getLsbD_xor, BitVec.getLsbD_and, BitVec.getLsbD_allOnes, decide_eq_true hi]
    cases p.getLsbD i <;> cases z.getLsbD i <;> rfl
  rw [h1, and_nI (by omega) (by omega), xor_nI (by omega) (by have := Nat.and_le_left (n := a) (m := w); omega)]
  rfl
theorem andn_bit (a w i : Nat) : (andnN a w).testBit i = (a.testBit i && !w.testBit i) := by
  unfold andnN
  rw [Nat.testBit_xor, Nat.testBit_and]
  cases a.testBit i <;> cases w.testBit i <;> rfl
theorem sub_bits {a b : Nat} : subN a b = true ↔ ∀ i, a.testBit i = true → b.testBit i = true := by
  unfold subN
  rw [decide_eq_true_iff]
  constructor
  · intro h i hi
    rw [← h, Nat.testBit_and] at hi
    exact (Bool.and_eq_true_iff.mp hi).2
  · intro h
    apply Nat.eq_of_testBit_eq
    intro i
    rw [Nat.testBit_and]
    cases ha : a.testBit i with
    | false => rfl
    | true => rw [h i ha]; rfl
theorem and0_bits {a w : Nat} : (a &&& w == 0) = true ↔ ∀ i, a.testBit i = true → w.testBit i = false := by
  rw [beq_iff_eq]
  constructor
  · intro h i hi
    have := congrArg (fun z => z.testBit i) h
    simp only [Nat.testBit_and, Nat.zero_testBit, hi, Bool.true_and] at this
    exact this
  · intro h
    apply Nat.eq_of_testBit_eq
    intro i
    rw [Nat.testBit_and, Nat.zero_testBit]
    cases ha : a.testBit i with
    | false => rfl
    | true => rw [h i ha]; rfl
theorem andn_sub (o w k : Nat) : subN k (andnN o w) = (subN k o && (k &&& w == 0)) := by
  rw [Bool.eq_iff_iff, Bool.and_eq_true_iff, sub_bits, sub_bits, and0_bits]
  constructor
  · intro h
    refine ⟨fun i hi => ?_, fun i hi => ?_⟩
    · have := h i hi
      rw [andn_bit] at this
      exact (Bool.and_eq_true_iff.mp this).1
    · have := h i hi
      rw [andn_bit] at this
      simpa using (Bool.and_eq_true_iff.mp this).2
  · intro h i hi
    rw [andn_bit, h.1 i hi, h.2 i hi]
    rfl
theorem andn_le (o w : Nat) : andnN o w ≤ o := subN_le (sub_bits.mpr (fun i hi => by rw [andn_bit] at hi; exact (Bool.and_eq_true_iff.mp hi).1))
set_option maxHeartbeats 4000000 in
theorem m_findSend {l : Launch} {g : Zg} {ad : Nat → Nat} {M : Zm} {st : Ms} {W : Nat → Nat} (hm : Mod g ad M st) (hw : WR st W) (hi : InvW W) (s : Nat) (b : Bool) (hs : s ≤ 1) : Cn l g yX11_findSend cX11_findSend 5 none 5 0 0 [.ref (ad 0), .int (nI s), .int (z2i b)] M (PMT g ad st none (fun s9 => ZM s9 (isC W b) (sendO W s (isC W b)))) := by
  refine Cn.start [(0, .ref (ad 0)), (1, .int (nI s)), (2, .int (z2i b))] (by decide) (Nat.le_of_ble_eq_true rfl) rfl ?_
  intro γ el eg h hq
  subst el; subst eg
  have h4 := hi.h4
  have hall := allN_511 hi
  have hown := ownN_lt hi s
  have hw0 := hw
  have hk : keepT st st := keepT.rf st
  refine z_aload_n 0 h dX11_findSend_0 rfl rfl rfl ?_
  refine z_iconst h dX11_findSend_1 ki_m1 ?_
  refine zm_put 19 h hm (by decide) q1866 dX11_findSend_2 (fun M hm => ?_)
  replace hk := hk.s hm (Or.inr rfl)
  have hw := hk.k.w hw0
  refine z_aload_n 0 h dX11_findSend_5 rfl rfl rfl ?_
  refine z_iload_n 1 h dX11_findSend_6 rfl rfl ?_
  refine z_callVP h (m_trainsOf hm hw hi s hs) kX11 (.inl (hm.at 0 (by decide))) (lw_V q2250 q2252 qs98 q148 q2253) nX11_trainsOf rfl rfl rfl (Nat.le_of_ble_eq_true rfl) (Nat.le_of_ble_eq_true rfl) (Nat.le_of_ble_eq_true rfl) dX11_findSend_7 ?_
  refine z_istore_n 3 h dX11_findSend_10 rfl rfl ?_
  refine z_iconst h dX11_findSend_11 ki_0 ?_
  refine z_istore h dX11_findSend_12 rfl ?_
  have loop_14 : ∀ (fz : Nat) (M : Zm) (s1 : Ms) (k : Nat) (hm : Mod (cg γ) ad M s1) (hk : keepT st s1) (hk2 : k ≤ ownN W s + 1) (hz : ZM s1 (isC W b) (argm (fun k => subN k (ownN W s) && sureB W s k) (isC W b) k)), (ownN W s + 1 - k) < fz → Z γ M 0 0 14 (lof [(0, .ref (ad 0)), (1, .int (nI s)), (2, .int (z2i b)), (3, .int (nI (ownN W s))), (4, .int (nI k))]) [] := by
    intro fz
    induction fz with
    | zero => intro M s1 k hm hk hk2 hz hz; exact absurd hz (Nat.not_lt_zero _)
    | succ fz ih_14 =>
      intro M s1 k hm hk hk2 hz hz_14
      have hw := hk.k.w hw0
      refine z_iload h dX11_findSend_14 rfl ?_
      refine z_iload_n 3 h dX11_findSend_16 rfl rfl ?_
      refine z_icmp_gt 69 h dX11_findSend_17 (by decide) (fun c_17 => ?_) (fun c_17 => ?_)
      · have _z := c_17
        replace c_17 := (ilt (a := ownN W s) (b := k) rfl rfl (by omega) (by omega)).mp c_17
        refine z_vret h hq dX11_findSend_69 (Nat.le_of_ble_eq_true rfl) (Nat.le_of_ble_eq_true rfl) ?_
        obtain rfl : k = ownN W s + 1 := by omega
        rw [sendO_eq] at hz
        exact ⟨rfl, _, hm, hk, hz⟩
      · have _z := c_17
        replace c_17 := (not_congr (ilt (a := ownN W s) (b := k) rfl rfl (by omega) (by omega))).mp c_17
        refine z_iload h dX11_findSend_20 rfl ?_
        refine z_iload_n 3 h dX11_findSend_22 rfl rfl ?_
        refine z_iconst h dX11_findSend_23 ki_m1 ?_
        refine z_ixor h dX11_findSend_24 ?_
        refine z_iand h dX11_findSend_25 ?_
        refine z_if_ne 63 h dX11_findSend_26 (by decide) (fun c_26 => ?_) (fun c_26 => ?_)
        · have _z := c_26
          replace c_26 : subN k (ownN W s) = false := Bool.eq_false_iff.mpr (fun q => c_26 ((sub_iff (a := k) (b := ownN W s) (by omega) (by omega)).mpr q))
          refine z_iinc h dX11_findSend_63 rfl rfl ki_1 ?_
          refine z_goto 14 h dX11_findSend_66 (by decide) ?_
          refine Z.loc [(0, .ref (ad 0)), (1, .int (nI s)), (2, .int (z2i b)), (3, .int (nI (ownN W s))), (4, .int (nI (k + 1)))] (ll1 rfl (ll1 rfl (ll1 rfl (ll1 rfl (ll1 (vS (nI_1 k)) ll0))))) ?_
          exact ih_14 _ _ (k + 1) hm hk (by omega) (by first | (refine hz.up ?_; simp [c_26, c_36]; done) | (refine hz.no ?_; simp [c_26, c_36]; done) | (refine hz.no ?_; simp [c_26]; done)) (by omega)
        · have _z := c_26
          replace c_26 := (sub_iff (a := k) (b := ownN W s) (by omega) (by omega)).mp c_26
          refine z_aload_n 0 h dX11_findSend_29 rfl rfl rfl ?_
          refine z_iload_n 1 h dX11_findSend_30 rfl rfl ?_
          refine z_iload h dX11_findSend_31 rfl ?_
          refine z_callVP h (m_isSurely hm hw hi s k hs (by omega)) kX11 (.inl (hm.at 0 (by decide))) (lw_V q2254 q2256 qs99 q148 q2257) nX11_isSurely rfl rfl rfl (Nat.le_of_ble_eq_true rfl) (Nat.le_of_ble_eq_true rfl) (Nat.le_of_ble_eq_true rfl) dX11_findSend_33 ?_
          refine z_ifz_eq 63 h dX11_findSend_36 (by decide) (fun c_36 => ?_) (fun c_36 => ?_)
          · have _z := c_36
            refine z_iinc h dX11_findSend_63 rfl rfl ki_1 ?_
            refine z_goto 14 h dX11_findSend_66 (by decide) ?_
            refine Z.loc [(0, .ref (ad 0)), (1, .int (nI s)), (2, .int (z2i b)), (3, .int (nI (ownN W s))), (4, .int (nI (k + 1)))] (ll1 rfl (ll1 rfl (ll1 rfl (ll1 rfl (ll1 (vS (nI_1 k)) ll0))))) ?_
            exact ih_14 _ _ (k + 1) hm hk (by omega) (by first | (refine hz.up ?_; simp [c_26, c_36]; done) | (refine hz.no ?_; simp [c_26, c_36]; done) | (refine hz.no ?_; simp [c_26]; done)) (by omega)
          · have _z := c_36
            refine z_aload_n 0 h dX11_findSend_39 rfl rfl rfl ?_
            refine z_iload_n 2 h dX11_findSend_40 rfl rfl ?_
            refine z_ifz_eq 53 h dX11_findSend_41 (by decide) (fun c_41 => ?_) (fun c_41 => ?_)
            · have _z := c_41
              refine z_iload h dX11_findSend_53 rfl ?_
              refine z_callSP h (m_bits k (by omega)) (lw_S q2204 q2205 q148 q2206) nX11_bits rfl rfl rfl (Nat.le_of_ble_eq_true rfl) (Nat.le_of_ble_eq_true rfl) (Nat.le_of_ble_eq_true rfl) dX11_findSend_55 ?_
              refine z_iload h dX11_findSend_58 rfl ?_
              refine z_callV h (m_take hm (isC W b) (argm (fun k => subN k (ownN W s) && sureB W s k) (isC W b) k) k _ hz (by first | (rw [isC, if_pos c_41]; rfl) | (rw [isC, if_neg (by simp [c_41])]; done)) (by omega) (by first | (have := priceN_lt hi k; omega) | (have := bcN_le k; omega)) (argm_b (N := 600) (by omega) (by decide) (fun b2 _ => isC_lt hi b b2))) kX11 (.inl (hm.at 0 (by decide))) (lw_V q2266 q2268 qs102 q148 q2269) nX11_take rfl rfl rfl (Nat.le_of_ble_eq_true rfl) (Nat.le_of_ble_eq_true rfl) (Nat.le_of_ble_eq_true rfl) dX11_findSend_60 (fun v M hv => ?_)
              obtain ⟨rfl, s1, hm, hkt, hz⟩ := hv
              replace hk := hk.tr hkt
              have hw := hk.k.w hw0
              refine z_iinc h dX11_findSend_63 rfl rfl ki_1 ?_
              refine z_goto 14 h dX11_findSend_66 (by decide) ?_
              refine Z.loc [(0, .ref (ad 0)), (1, .int (nI s)), (2, .int (z2i b)), (3, .int (nI (ownN W s))), (4, .int (nI (k + 1)))] (ll1 rfl (ll1 rfl (ll1 rfl (ll1 rfl (ll1 (vS (nI_1 k)) ll0))))) ?_
              exact ih_14 _ _ (k + 1) hm hk (by omega) (by first | (refine hz.up ?_; simp [c_26, c_36]; done) | (refine hz.no ?_; simp [c_26, c_36]; done) | (refine hz.no ?_; simp [c_26]; done)) (by omega)
            · have _z := c_41
              refine z_aload_n 0 h dX11_findSend_44 rfl rfl rfl ?_
              refine z_iload h dX11_findSend_45 rfl ?_
              refine z_callVP h (m_priceOf hm hw hi k (by omega)) kX11 (.inl (hm.at 0 (by decide))) (lw_V q2262 q2264 qs101 q148 q2265) nX11_priceOf rfl rfl rfl (Nat.le_of_ble_eq_true rfl) (Nat.le_of_ble_eq_true rfl) (Nat.le_of_ble_eq_true rfl) dX11_findSend_47 ?_
              refine z_goto 58 h dX11_findSend_50 (by decide) ?_
              refine z_iload h dX11_findSend_58 rfl ?_
              refine z_callV h (m_take hm (isC W b) (argm (fun k => subN k (ownN W s) && sureB W s k) (isC W b) k) k _ hz (by first | (rw [isC, if_pos c_41]; rfl) | (rw [isC, if_neg (by simp [c_41])]; done)) (by omega) (by first | (have := priceN_lt hi k; omega) | (have := bcN_le k; omega)) (argm_b (N := 600) (by omega) (by decide) (fun b2 _ => isC_lt hi b b2))) kX11 (.inl (hm.at 0 (by decide))) (lw_V q2266 q2268 qs102 q148 q2269) nX11_take rfl rfl rfl (Nat.le_of_ble_eq_true rfl) (Nat.le_of_ble_eq_true rfl) (Nat.le_of_ble_eq_true rfl) dX11_findSend_60 (fun v M hv => ?_)
              obtain ⟨rfl, s1, hm, hkt, hz⟩ := hv
              replace hk := hk.tr hkt
              have hw := hk.k.w hw0
              refine z_iinc h dX11_findSend_63 rfl rfl ki_1 ?_
              refine z_goto 14 h dX11_findSend_66 (by decide) ?_
              refine Z.loc [(0, .ref (ad 0)), (1, .int (nI s)), (2, .int (z2i b)), (3, .int (nI (ownN W s))), (4, .int (nI (k + 1)))] (ll1 rfl (ll1 rfl (ll1 rfl (ll1 rfl (ll1 (vS (nI_1 k)) ll0))))) ?_
              exact ih_14 _ _ (k + 1) hm hk (by omega) (by first | (refine hz.up ?_; simp [c_26, c_36]; done) | (refine hz.no ?_; simp [c_26, c_36]; done) | (refine hz.no ?_; simp [c_26]; done)) (by omega)
  refine Z.loc [(0, .ref (ad 0)), (1, .int (nI s)), (2, .int (z2i b)), (3, .int (nI (ownN W s))), (4, .int (nI 0))] (ll1 rfl (ll1 rfl (ll1 rfl (ll1 rfl (ll1 rfl ll0))))) ?_
  exact loop_14 _ _ _ 0 hm hk (Nat.zero_le _) (ZM.start rfl) (Nat.lt_succ_self _)
set_option maxHeartbeats 4000000 in
theorem m_send {l : Launch} {g : Zg} {ad : Nat → Nat} {M : Zm} {st : Ms} {W : Nat → Nat} (hm : Mod g ad M st) (hw : WR st W) (hi : InvW W) (sv : Int32) : Cn l g yX11_send cX11_send 2 (some .int) 6 0 0 [.ref (ad 0), .int sv] M (PM g ad st (some (.int (aSend W sv))) (fun _ => True)) := by
  refine Cn.start [(0, .ref (ad 0)), (1, .int sv)] (by decide) (Nat.le_of_ble_eq_true rfl) rfl ?_
  intro γ el eg h hq
  subst el; subst eg
  have h4 := hi.h4
  have h0 := hi.h0
  have hw0 := hw
  have hk : keep st st := keep.rf st
  have hall := allN_511 hi
  refine z_aload_n 0 h dX11_send_0 rfl rfl rfl ?_
  refine z_iload_n 1 h dX11_send_1 rfl rfl ?_
  refine z_callVP h (m_isSide hm hw hi sv) kX11 (.inl (hm.at 0 (by decide))) (lw_V q2087 q2089 qs83 q148 q2090) nX11_isSide rfl rfl rfl (Nat.le_of_ble_eq_true rfl) (Nat.le_of_ble_eq_true rfl) (Nat.le_of_ble_eq_true rfl) dX11_send_2 ?_
  refine z_ifz_ne 11 h dX11_send_5 (by decide) (fun c_5 => ?_) (fun c_5 => ?_)
  · have _z := c_5
    obtain ⟨s, h_s, rfl⟩ := isSide_nat c_5
    refine z_aload_n 0 h dX11_send_11 rfl rfl rfl ?_
    refine z_iload_n 1 h dX11_send_12 rfl rfl ?_
    refine z_iconst h dX11_send_13 ki_1 ?_
    refine z_callV h (m_findSend hm hw hi s true (by omega)) kX11 (.inl (hm.at 0 (by decide))) (lw_V q2246 q2248 qs97 q148 q2249) nX11_findSend rfl rfl rfl (Nat.le_of_ble_eq_true rfl) (Nat.le_of_ble_eq_true rfl) (Nat.le_of_ble_eq_true rfl) dX11_send_14 (fun v M hv => ?_)
    obtain ⟨rfl, s1, hm, hkt, hz⟩ := hv
    replace hk := hk.tr hkt.k
    have hw := hk.w hw0
    refine z_aload_n 0 h dX11_send_17 rfl rfl rfl ?_
    refine z_callVP h (m_orNone hm (isC W true) (sendO W s (isC W true)) hz (fun b2 hb2 => argm_b (N := 600) (by omega) (by decide) (fun b3 _ => isC_lt hi true b3) b2 hb2)) kX11 (.inl (hm.at 0 (by decide))) (lw_V q2270 q2272 qs103 q148 q2273) nX11_orNone rfl rfl rfl (Nat.le_of_ble_eq_true rfl) (Nat.le_of_ble_eq_true rfl) (Nat.le_of_ble_eq_true rfl) dX11_send_18 ?_
    refine z_iret h hq dX11_send_21 (Nat.le_of_ble_eq_true rfl) (Nat.le_of_ble_eq_true rfl) ?_
    refine ⟨vS ?_, _, hm, hk, trivial⟩
    simp [aSend, c_5, tn_nI (show s < 2 ^ 31 by omega), isC]
  · have _z := c_5
    refine z_bipush h dX11_send_8 kb_m2 ?_
    refine z_iret h hq dX11_send_10 (Nat.le_of_ble_eq_true rfl) (Nat.le_of_ble_eq_true rfl) ?_
    refine ⟨vS ?_, _, hm, hk, trivial⟩
    simp [aSend, c_5]
set_option maxHeartbeats 4000000 in
theorem m_fewest {l : Launch} {g : Zg} {ad : Nat → Nat} {M : Zm} {st : Ms} {W : Nat → Nat} (hm : Mod g ad M st) (hw : WR st W) (hi : InvW W) (sv : Int32) : Cn l g yX11_fewest cX11_fewest 2 (some .int) 6 0 0 [.ref (ad 0), .int sv] M (PM g ad st (some (.int (aFewest W sv))) (fun _ => True)) := by
  refine Cn.start [(0, .ref (ad 0)), (1, .int sv)] (by decide) (Nat.le_of_ble_eq_true rfl) rfl ?_
  intro γ el eg h hq
  subst el; subst eg
  have h4 := hi.h4
  have h0 := hi.h0
  have hw0 := hw
  have hk : keep st st := keep.rf st
  have hall := allN_511 hi
  refine z_aload_n 0 h dX11_fewest_0 rfl rfl rfl ?_
  refine z_iload_n 1 h dX11_fewest_1 rfl rfl ?_
  refine z_callVP h (m_isSide hm hw hi sv) kX11 (.inl (hm.at 0 (by decide))) (lw_V q2087 q2089 qs83 q148 q2090) nX11_isSide rfl rfl rfl (Nat.le_of_ble_eq_true rfl) (Nat.le_of_ble_eq_true rfl) (Nat.le_of_ble_eq_true rfl) dX11_fewest_2 ?_
  refine z_ifz_ne 11 h dX11_fewest_5 (by decide) (fun c_5 => ?_) (fun c_5 => ?_)
  · have _z := c_5
    obtain ⟨s, h_s, rfl⟩ := isSide_nat c_5
    refine z_aload_n 0 h dX11_fewest_11 rfl rfl rfl ?_
    refine z_iload_n 1 h dX11_fewest_12 rfl rfl ?_
    refine z_iconst h dX11_fewest_13 ki_0 ?_
    refine z_callV h (m_findSend hm hw hi s false (by omega)) kX11 (.inl (hm.at 0 (by decide))) (lw_V q2246 q2248 qs97 q148 q2249) nX11_findSend rfl rfl rfl (Nat.le_of_ble_eq_true rfl) (Nat.le_of_ble_eq_true rfl) (Nat.le_of_ble_eq_true rfl) dX11_fewest_14 (fun v M hv => ?_)
    obtain ⟨rfl, s1, hm, hkt, hz⟩ := hv
    replace hk := hk.tr hkt.k
    have hw := hk.w hw0
    refine z_aload_n 0 h dX11_fewest_17 rfl rfl rfl ?_
    refine z_callVP h (m_orNone hm (isC W false) (sendO W s (isC W false)) hz (fun b2 hb2 => argm_b (N := 600) (by omega) (by decide) (fun b3 _ => isC_lt hi false b3) b2 hb2)) kX11 (.inl (hm.at 0 (by decide))) (lw_V q2270 q2272 qs103 q148 q2273) nX11_orNone rfl rfl rfl (Nat.le_of_ble_eq_true rfl) (Nat.le_of_ble_eq_true rfl) (Nat.le_of_ble_eq_true rfl) dX11_fewest_18 ?_
    refine z_iret h hq dX11_fewest_21 (Nat.le_of_ble_eq_true rfl) (Nat.le_of_ble_eq_true rfl) ?_
    refine ⟨vS ?_, _, hm, hk, trivial⟩
    simp [aFewest, c_5, tn_nI (show s < 2 ^ 31 by omega), isC]
  · have _z := c_5
    refine z_bipush h dX11_fewest_8 kb_m2 ?_
    refine z_iret h hq dX11_fewest_10 (Nat.le_of_ble_eq_true rfl) (Nat.le_of_ble_eq_true rfl) ?_
    refine ⟨vS ?_, _, hm, hk, trivial⟩
    simp [aFewest, c_5]
set_option maxHeartbeats 4000000 in
theorem m_sent {l : Launch} {g : Zg} {ad : Nat → Nat} {M : Zm} {st : Ms} {W : Nat → Nat} (hm : Mod g ad M st) (hw : WR st W) (hi : InvW W) (sv : Int32) : Cn l g yX11_sent cX11_sent 2 (some .int) 6 0 0 [.ref (ad 0), .int sv] M (PM g ad st (some (.int (aSent W sv))) (fun _ => True)) := by
  refine Cn.start [(0, .ref (ad 0)), (1, .int sv)] (by decide) (Nat.le_of_ble_eq_true rfl) rfl ?_
  intro γ el eg h hq
  subst el; subst eg
  have h4 := hi.h4
  have h0 := hi.h0
  have hw0 := hw
  have hk : keep st st := keep.rf st
  refine z_aload_n 0 h dX11_sent_0 rfl rfl rfl ?_
  refine z_iload_n 1 h dX11_sent_1 rfl rfl ?_
  refine z_callVP h (m_isSide hm hw hi sv) kX11 (.inl (hm.at 0 (by decide))) (lw_V q2087 q2089 qs83 q148 q2090) nX11_isSide rfl rfl rfl (Nat.le_of_ble_eq_true rfl) (Nat.le_of_ble_eq_true rfl) (Nat.le_of_ble_eq_true rfl) dX11_sent_2 ?_
  refine z_ifz_ne 11 h dX11_sent_5 (by decide) (fun c_5 => ?_) (fun c_5 => ?_)
  · have _z := c_5
    obtain ⟨s, h_s, rfl⟩ := isSide_nat c_5
    refine z_aload_n 0 h dX11_sent_11 rfl rfl rfl ?_
    refine z_iload_n 1 h dX11_sent_12 rfl rfl ?_
    refine z_iconst h dX11_sent_13 ki_1 ?_
    refine z_callV h (m_findSend hm hw hi s true (by omega)) kX11 (.inl (hm.at 0 (by decide))) (lw_V q2246 q2248 qs97 q148 q2249) nX11_findSend rfl rfl rfl (Nat.le_of_ble_eq_true rfl) (Nat.le_of_ble_eq_true rfl) (Nat.le_of_ble_eq_true rfl) dX11_sent_14 (fun v M hv => ?_)
    obtain ⟨rfl, s1, hm, hkt, hz⟩ := hv
    replace hk := hk.tr hkt.k
    have hw := hk.w hw0
    refine z_aload_n 0 h dX11_sent_17 rfl rfl rfl ?_
    refine z_get h kX11 (.inl (hm.at 0 (by decide))) 19 rfl q1866 rfl dX11_sent_18 ?_
    refine z_iret h hq dX11_sent_21 (Nat.le_of_ble_eq_true rfl) (Nat.le_of_ble_eq_true rfl) ?_
    refine ⟨vS ?_, _, hm, hk, trivial⟩
    rw [hz.or]
    simp [aSent, c_5, tn_nI (show s < 2 ^ 31 by omega), isC]
  · have _z := c_5
    refine z_bipush h dX11_sent_8 kb_m2 ?_
    refine z_iret h hq dX11_sent_10 (Nat.le_of_ble_eq_true rfl) (Nat.le_of_ble_eq_true rfl) ?_
    refine ⟨vS ?_, _, hm, hk, trivial⟩
    simp [aSent, c_5]
set_option maxHeartbeats 4000000 in
theorem m_isOften {l : Launch} {g : Zg} {ad : Nat → Nat} {M : Zm} {st : Ms} {W : Nat → Nat} (hm : Mod g ad M st) (hw : WR st W) (hi : InvW W) (a n : Nat) (ha : a ≤ 100 ^ W 4) (hn : n ≤ 100) : Cn l g yX11_isOften cX11_isOften 4 (some .boolean) 2 0 0 [.ref (ad 0), .long (lN a), .int (nI n)] M (PV (.int (z2i (oftB W a n))) M) := by
  refine Cn.start [(0, .ref (ad 0)), (1, .long (lN a)), (3, .int (nI n))] (by decide) (Nat.le_of_ble_eq_true rfl) rfl ?_
  intro γ el eg h hq
  subst el; subst eg
  have hp := p100 hi
  have hd : 100 ^ W 4 / 100 * n ≤ 100 ^ W 4 := by
    have h1 := Nat.mul_le_mul_left (100 ^ W 4 / 100) hn
    have h2 := Nat.div_mul_le_self (100 ^ W 4) 100
    omega
  refine z_aload_n 0 h dX11_isOften_0 rfl rfl rfl ?_
  refine z_get h kX11 (.inl (hm.at 0 (by decide))) 1 rfl q1848 rfl dX11_isOften_1 ?_
  refine z_iconst h dX11_isOften_4 ki_4 ?_
  refine zm_w (4) h hm hw rfl (by omega) dX11_isOften_5 ?_
  refine z_if_ne 28 h dX11_isOften_6 (by decide) (fun c_6 => ?_) (fun c_6 => ?_)
  · have _z := c_6
    replace c_6 := (not_congr (ieq (a := W (4)) (b := 0) rfl rfl (hi.lt _ (by omega)) (by decide))).mp c_6
    refine z_lload_n 1 h dX11_isOften_28 rfl rfl ?_
    refine z_aload_n 0 h dX11_isOften_29 rfl rfl rfl ?_
    refine z_callVP h (m_allOften hm hw hi) kX11 (.inl (hm.at 0 (by decide))) (lw_V q2227 q2229 qs96 q148 q2230) nX11_allOften rfl rfl rfl (Nat.le_of_ble_eq_true rfl) (Nat.le_of_ble_eq_true rfl) (Nat.le_of_ble_eq_true rfl) dX11_isOften_30 ?_
    refine z_ldc2 h q2231 dX11_isOften_33 ?_
    refine z_ldiv h dX11_isOften_36 (by decide) ?_
    refine z_iload_n 3 h dX11_isOften_37 rfl rfl ?_
    refine z_i2l h dX11_isOften_38 ?_
    refine z_lmul h dX11_isOften_39 ?_
    refine z_lcmp h dX11_isOften_40 ?_
    refine z_if_lt 48 h dX11_isOften_41 (by decide) (fun c_41 => ?_) (fun c_41 => ?_)
    · have _z := c_41
      rw [lg_cmp_lt, nI_l (by omega), show (100 : Int64) = lN 100 from rfl, pk_lDiv (by omega) (by decide) (by decide), lN_mul, pk_lLT (by omega) (by omega)] at c_41
      refine z_iconst h dX11_isOften_48 ki_0 ?_
      refine z_zret h hq rfl dX11_isOften_49 (Nat.le_of_ble_eq_true rfl) (Nat.le_of_ble_eq_true rfl) ?_
      first | (refine ⟨zb1 ?_, rfl⟩; rw [oftB, if_pos c_6]; exact decide_eq_true (by omega)) | (refine ⟨zb0 ?_, rfl⟩; rw [oftB, if_pos c_6]; exact decide_eq_false (by omega)) | (refine ⟨zb1 ?_, rfl⟩; rw [oftB, if_neg c_6]; exact decide_eq_true (by omega)) | (refine ⟨zb0 ?_, rfl⟩; rw [oftB, if_neg c_6]; exact decide_eq_false (by omega))
    · have _z := c_41
      rw [lg_cmp_lt, nI_l (by omega), show (100 : Int64) = lN 100 from rfl, pk_lDiv (by omega) (by decide) (by decide), lN_mul, pk_lLT (by omega) (by omega)] at c_41
      refine z_iconst h dX11_isOften_44 ki_1 ?_
      refine z_goto 49 h dX11_isOften_45 (by decide) ?_
      refine z_zret h hq rfl dX11_isOften_49 (Nat.le_of_ble_eq_true rfl) (Nat.le_of_ble_eq_true rfl) ?_
      first | (refine ⟨zb1 ?_, rfl⟩; rw [oftB, if_pos c_6]; exact decide_eq_true (by omega)) | (refine ⟨zb0 ?_, rfl⟩; rw [oftB, if_pos c_6]; exact decide_eq_false (by omega)) | (refine ⟨zb1 ?_, rfl⟩; rw [oftB, if_neg c_6]; exact decide_eq_true (by omega)) | (refine ⟨zb0 ?_, rfl⟩; rw [oftB, if_neg c_6]; exact decide_eq_false (by omega))
  · have _z := c_6
    replace c_6 := (ieq (a := W (4)) (b := 0) rfl rfl (hi.lt _ (by omega)) (by decide)).mp c_6
    refine z_lload_n 1 h dX11_isOften_9 rfl rfl ?_
    refine z_ldc2 h q2231 dX11_isOften_10 ?_
    refine z_lmul h dX11_isOften_13 ?_
    refine z_iload_n 3 h dX11_isOften_14 rfl rfl ?_
    refine z_i2l h dX11_isOften_15 ?_
    refine z_lcmp h dX11_isOften_16 ?_
    have ha2 : a ≤ 1 := by rw [c_6] at ha; exact ha
    refine z_if_lt 24 h dX11_isOften_17 (by decide) (fun c_17 => ?_) (fun c_17 => ?_)
    · have _z := c_17
      rw [lg_cmp_lt, nI_l (by omega), show (100 : Int64) = lN 100 from rfl, lN_mul, pk_lLT (by omega) (by omega)] at c_17
      refine z_iconst h dX11_isOften_24 ki_0 ?_
      refine z_goto 49 h dX11_isOften_25 (by decide) ?_
      refine z_zret h hq rfl dX11_isOften_49 (Nat.le_of_ble_eq_true rfl) (Nat.le_of_ble_eq_true rfl) ?_
      first | (refine ⟨zb1 ?_, rfl⟩; rw [oftB, if_pos c_6]; exact decide_eq_true (by omega)) | (refine ⟨zb0 ?_, rfl⟩; rw [oftB, if_pos c_6]; exact decide_eq_false (by omega)) | (refine ⟨zb1 ?_, rfl⟩; rw [oftB, if_neg c_6]; exact decide_eq_true (by omega)) | (refine ⟨zb0 ?_, rfl⟩; rw [oftB, if_neg c_6]; exact decide_eq_false (by omega))
    · have _z := c_17
      rw [lg_cmp_lt, nI_l (by omega), show (100 : Int64) = lN 100 from rfl, lN_mul, pk_lLT (by omega) (by omega)] at c_17
      refine z_iconst h dX11_isOften_20 ki_1 ?_
      refine z_goto 49 h dX11_isOften_21 (by decide) ?_
      refine z_zret h hq rfl dX11_isOften_49 (Nat.le_of_ble_eq_true rfl) (Nat.le_of_ble_eq_true rfl) ?_
      first | (refine ⟨zb1 ?_, rfl⟩; rw [oftB, if_pos c_6]; exact decide_eq_true (by omega)) | (refine ⟨zb0 ?_, rfl⟩; rw [oftB, if_pos c_6]; exact decide_eq_false (by omega)) | (refine ⟨zb1 ?_, rfl⟩; rw [oftB, if_neg c_6]; exact decide_eq_true (by omega)) | (refine ⟨zb0 ?_, rfl⟩; rw [oftB, if_neg c_6]; exact decide_eq_false (by omega))
set_option maxHeartbeats 4000000 in
theorem m_enoughBy {l : Launch} {g : Zg} {ad : Nat → Nat} {M : Zm} {st : Ms} {W : Nat → Nat} (hm : Mod g ad M st) (hw : WR st W) (hi : InvW W) (s o : Nat) (hs : s ≤ 1) (ho : o < 2 ^ 31) : Cn l g yX11_enoughBy cX11_enoughBy 6 (some .long) 4 0 0 [.ref (ad 0), .int (nI s), .int (nI o)] M (PV (.long (lN (enB W s o (allN W + 1)))) M) := by
  refine Cn.start [(0, .ref (ad 0)), (1, .int (nI s)), (2, .int (nI o))] (by decide) (Nat.le_of_ble_eq_true rfl) rfl ?_
  intro γ el eg h hq
  subst el; subst eg
  have hall := allN_511 hi
  refine z_lconst h dX11_enoughBy_0 kl_0 ?_
  refine z_lstore_n 3 h dX11_enoughBy_1 rfl rfl ?_
  refine z_iconst h dX11_enoughBy_2 ki_0 ?_
  refine z_istore h dX11_enoughBy_3 rfl ?_
  have loop_5 : ∀ (fz : Nat) (k : Nat) (hk2 : k ≤ allN W + 1), (allN W + 1 - k) < fz → Z γ M 0 0 5 (lof [(0, .ref (ad 0)), (1, .int (nI s)), (2, .int (nI o)), (3, .long (lN (enB W s o k))), (5, .int (nI k))]) [] := by
    intro fz
    induction fz with
    | zero => intro k hk2 hz; exact absurd hz (Nat.not_lt_zero _)
    | succ fz ih_5 =>
      intro k hk2 hz_5
      refine z_iload h dX11_enoughBy_5 rfl ?_
      refine z_aload_n 0 h dX11_enoughBy_7 rfl rfl rfl ?_
      refine z_callVP h (m_allTrains hm hw hi) kX11 (.inl (hm.at 0 (by decide))) (lw_V q2128 q2130 qs87 q148 q2131) nX11_allTrains rfl rfl rfl (Nat.le_of_ble_eq_true rfl) (Nat.le_of_ble_eq_true rfl) (Nat.le_of_ble_eq_true rfl) dX11_enoughBy_8 ?_
      refine z_icmp_gt 52 h dX11_enoughBy_11 (by decide) (fun c_11 => ?_) (fun c_11 => ?_)
      · have _z := c_11
        replace c_11 := (ilt (a := allN W) (b := k) rfl rfl (allN_lt hi) (by omega)).mp c_11
        refine z_lload_n 3 h dX11_enoughBy_52 rfl rfl ?_
        refine z_lret h hq dX11_enoughBy_53 (Nat.le_of_ble_eq_true rfl) (Nat.le_of_ble_eq_true rfl) ?_
        obtain rfl : k = allN W + 1 := by omega
        exact ⟨rfl, rfl⟩
      · have _z := c_11
        replace c_11 := (not_congr (ilt (a := allN W) (b := k) rfl rfl (allN_lt hi) (by omega))).mp c_11
        refine z_lload_n 3 h dX11_enoughBy_14 rfl rfl ?_
        refine z_aload_n 0 h dX11_enoughBy_15 rfl rfl rfl ?_
        refine z_iload_n 2 h dX11_enoughBy_16 rfl rfl ?_
        refine z_iload h dX11_enoughBy_17 rfl ?_
        refine z_callVP h (m_menSent hm hw hi o k ho (by omega)) kX11 (.inl (hm.at 0 (by decide))) (lw_V q2258 q2260 qs100 q148 q2261) nX11_menSent rfl rfl rfl (Nat.le_of_ble_eq_true rfl) (Nat.le_of_ble_eq_true rfl) (Nat.le_of_ble_eq_true rfl) dX11_enoughBy_19 ?_
        refine z_aload_n 0 h dX11_enoughBy_22 rfl rfl rfl ?_
        refine z_get h kX11 (.inl (hm.at 0 (by decide))) 1 rfl q1848 rfl dX11_enoughBy_23 ?_
        refine z_bipush h dX11_enoughBy_26 kb_11 ?_
        refine z_iload_n 1 h dX11_enoughBy_28 rfl rfl ?_
        refine z_iadd h dX11_enoughBy_29 ?_
        refine zm_w (11 + s) h hm hw (ixa rfl rfl) (by omega) dX11_enoughBy_30 ?_
        refine z_icmp_lt 43 h dX11_enoughBy_31 (by decide) (fun c_31 => ?_) (fun c_31 => ?_)
        · have _z := c_31
          replace c_31 := (ilt (a := sentN W o k (W 4)) (b := W (11 + s)) rfl rfl (sentN_lt hi _ _) (hi.lt _ (by omega))).mp c_31
          refine z_lconst h dX11_enoughBy_43 kl_0 ?_
          refine z_ladd h dX11_enoughBy_44 ?_
          refine z_lstore_n 3 h dX11_enoughBy_45 rfl rfl ?_
          refine z_iinc h dX11_enoughBy_46 rfl rfl ki_1 ?_
          refine z_goto 5 h dX11_enoughBy_49 (by decide) ?_
          refine Z.loc [(0, .ref (ad 0)), (1, .int (nI s)), (2, .int (nI o)), (3, .long (lN (enB W s o (k + 1)))), (5, .int (nI (k + 1)))] (ll1 rfl (ll1 rfl (ll1 rfl (ll1 (vL2 (by simp only [enB, sN]; first | (rw [if_pos (by omega), lN_add]; done) | (rw [if_neg (by omega), show (0 : Int64) = lN 0 from rfl, lN_add]; done))) (ll1 (vS (nI_1 k)) ll0))))) ?_
          exact ih_5 (k + 1) (by omega) (by omega)
        · have _z := c_31
          replace c_31 := (not_congr (ilt (a := sentN W o k (W 4)) (b := W (11 + s)) rfl rfl (sentN_lt hi _ _) (hi.lt _ (by omega)))).mp c_31
          refine z_aload_n 0 h dX11_enoughBy_34 rfl rfl rfl ?_
          refine z_iload h dX11_enoughBy_35 rfl ?_
          refine z_callVP h (m_oftenOf hm hw hi k (by omega)) kX11 (.inl (hm.at 0 (by decide))) (lw_V q2223 q2225 qs95 q148 q2226) nX11_oftenOf rfl rfl rfl (Nat.le_of_ble_eq_true rfl) (Nat.le_of_ble_eq_true rfl) (Nat.le_of_ble_eq_true rfl) dX11_enoughBy_37 ?_
          refine z_goto 44 h dX11_enoughBy_40 (by decide) ?_
          refine z_ladd h dX11_enoughBy_44 ?_
          refine z_lstore_n 3 h dX11_enoughBy_45 rfl rfl ?_
          refine z_iinc h dX11_enoughBy_46 rfl rfl ki_1 ?_
          refine z_goto 5 h dX11_enoughBy_49 (by decide) ?_
          refine Z.loc [(0, .ref (ad 0)), (1, .int (nI s)), (2, .int (nI o)), (3, .long (lN (enB W s o (k + 1)))), (5, .int (nI (k + 1)))] (ll1 rfl (ll1 rfl (ll1 rfl (ll1 (vL2 (by simp only [enB, sN]; first | (rw [if_pos (by omega), lN_add]; done) | (rw [if_neg (by omega), show (0 : Int64) = lN 0 from rfl, lN_add]; done))) (ll1 (vS (nI_1 k)) ll0))))) ?_
          exact ih_5 (k + 1) (by omega) (by omega)
  refine Z.loc [(0, .ref (ad 0)), (1, .int (nI s)), (2, .int (nI o)), (3, .long (lN (enB W s o 0))), (5, .int (nI 0))] (ll1 rfl (ll1 rfl (ll1 rfl (ll1 rfl (ll1 rfl ll0))))) ?_
  exact loop_5 _ 0 (Nat.zero_le _) (Nat.lt_succ_self _)
