/-! the reference: swings, the worst, chances -/
set_option maxRecDepth 100000
/-- the first of those that may, of least cost, among the numbers below n -/
def upd1 (c : Nat → Nat) (o : Option Nat) (k : Nat) : Option Nat := match o with
  | none => some k
  | some b => if c k < c b then some k else some b
def argm (P : Nat → Bool) (c : Nat → Nat) : Nat → Option Nat
  | 0 => none
  | n + 1 => if P n = true then upd1 c (argm P c n) n else argm P c n
theorem argm_lt {P : Nat → Bool} {c : Nat → Nat} : ∀ {n b : Nat}, argm P c n = some b → b < n ∧ P b = true
  | 0, b, h => by simp [argm] at h
  | n + 1, b, h => by
    unfold argm at h
    split at h
    · rename_i hp
      cases ho : argm P c n with
      | none => rw [ho] at h; cases h; exact ⟨by omega, hp⟩
      | some q =>
        rw [ho] at h
        simp only [upd1] at h
        split at h
        · cases h; exact ⟨by omega, hp⟩
        · cases h
          have := argm_lt ho
          exact ⟨by omega, this.2⟩
    · have := argm_lt h
      exact ⟨by omega, this.2⟩
theorem argm_stop {P : Nat → Bool} {c : Nat → Nat} {n : Nat} : ∀ {m : Nat}, n ≤ m → (∀ k, n ≤ k → k < m → P k = false) → argm P c m = argm P c n
  | 0, h, _ => by rw [Nat.le_zero.mp h]
  | m + 1, h, hp => by
    by_cases e : n = m + 1
    · rw [e]
    · rw [argm, if_neg (by rw [hp m (by omega) (by omega)]; decide)]
      exact argm_stop (by omega) (fun k h1 h2 => hp k h1 (by omega))
theorem argm_ext {P Q : Nat → Bool} {c e : Nat → Nat} : ∀ {n : Nat}, (∀ k, k < n → P k = Q k) → (∀ k, k < n → P k = true → c k = e k) → argm P c n = argm Q e n
  | 0, _, _ => rfl
  | n + 1, h1, h2 => by
    have ih := argm_ext (P := P) (Q := Q) (c := c) (e := e) (n := n) (fun k hk => h1 k (by omega)) (fun k hk => h2 k (by omega))
    unfold argm
    rw [← h1 n (by omega), ← ih]
    by_cases hp : P n = true
    · rw [if_pos hp, if_pos hp]
      cases ho : argm P c n with
      | none => rfl
      | some b =>
        have hb := argm_lt ho
        simp only [upd1]
        rw [h2 n (by omega) hp, h2 b (by omega) hb.2]
    · rw [if_neg hp, if_neg hp]
/-- a set among another -/
def subN (a b : Nat) : Bool := decide (a &&& b = a)
theorem subN_le {a b : Nat} (h : subN a b = true) : a ≤ b := by
  have h1 := of_decide_eq_true h
  rw [← h1]
  exact Nat.and_le_right
theorem sub_iff {a b : Nat} (ha : a < 2 ^ 31) (hb : b < 2 ^ 31) : (nI a &&& (nI b ^^^ (-1))) = 0 ↔ subN a b = true := by
  have key : (nI a &&& (nI b ^^^ (-1))) = 0 ↔ nI a &&& nI b = nI a := by
    rw [← Int32.toBitVec_inj, ← Int32.toBitVec_inj, Int32.toBitVec_and, Int32.toBitVec_and, Int32.toBitVec_xor]
    generalize (nI a).toBitVec = x
    generalize (nI b).toBitVec = z
    have e1 : (-1 : Int32).toBitVec = BitVec.allOnes 32 := by decide
    have e0 : (0 : Int32).toBitVec = 0#32 := by decide
    rw [e1, e0]
    have hb : ∀ i, i < 32 → ((x &&& (z ^^^ BitVec.allOnes 32)).getLsbD i = (x.getLsbD i && !z.getLsbD i)) := by
      intro i hi
      rw [BitVec.getLsbD_and, BitVec.getLsbD_xor, BitVec.getLsbD_allOnes, decide_eq_true hi, Bool.xor_true]
    constructor
    · intro h
      apply BitVec.eq_of_getLsbD_eq
      intro i hi
      have h2 := hb i hi
      rw [h, BitVec.getLsbD_zero] at h2
      rw [BitVec.getLsbD_and]
      cases hx : x.getLsbD i <;> cases hz : z.getLsbD i <;> simp_all
    · intro h
      apply BitVec.eq_of_getLsbD_eq
      intro i hi
      have h2 := congrArg (fun w => BitVec.getLsbD w i) h
      simp only [BitVec.getLsbD_and] at h2
      rw [hb i hi, BitVec.getLsbD_zero]
      cases hx : x.getLsbD i <;> cases hz : z.getLsbD i <;> simp_all
  rw [key, and_nI (by omega) (by omega), nI_eq (Nat.lt_of_le_of_lt Nat.and_le_left ha) ha]
  exact (decide_eq_true_iff (p := a &&& b = a)).symm
theorem bcN_le (n : Nat) : bcN n ≤ 12 := by
  have h : ∀ k, sN (bN n) k ≤ k := by
    intro k
    induction k with
    | zero => exact Nat.le_refl _
    | succ k ih =>
      have := bN_le n k
      simp only [sN]
      omega
  exact h 12
/-- the cost of a set by the worst front -/
def wC (W : Nat → Nat) (s n : Nat) : Nat := (gdZ s (frZ W n (W 0)) + 100).toNat * 16 + bcN n
def worstO (W : Nat → Nat) (s : Nat) : Nat → Option Nat := argm (fun _ => true) (wC W s)
theorem wC_lt {W : Nat → Nat} (hi : InvW W) (s a b : Nat) : wC W s a < wC W s b ↔ gdZ s (frZ W a (W 0)) < gdZ s (frZ W b (W 0)) ∨ (gdZ s (frZ W a (W 0)) = gdZ s (frZ W b (W 0)) ∧ bcN a < bcN b) := by
  have h1 := gdZ_b W s a (W 0) hi.h0
  have h2 := gdZ_b W s b (W 0) hi.h0
  have h3 := bcN_le a
  have h4 := bcN_le b
  unfold wC
  omega
theorem argm_some {c : Nat → Nat} : ∀ n : Nat, ∃ b, argm (fun _ => true) c (n + 1) = some b
  | 0 => ⟨0, rfl⟩
  | n + 1 => by
    obtain ⟨b, hb⟩ := argm_some (c := c) n
    rw [argm, if_pos rfl, hb]
    simp only [upd1]
    split <;> exact ⟨_, rfl⟩
def worS (W : Nat → Nat) (s : Nat) : Nat := (worstO W s (allN W + 1)).getD 0
def aWorst (W : Nat → Nat) (s : Int32) : Int32 := if isSideB W s = true then iI (gdZ (tn s) (frZ W (worS W (tn s)) (W 0))) else -1000
def aBy (W : Nat → Nat) (s : Int32) : Int32 := if isSideB W s = true then nI (worS W (tn s)) else -2
def waysN (W : Nat → Nat) (s : Nat) : Nat → Nat := sN (fun n => if winZ W n = (s : Int) then 1 else 0)
def aWays (W : Nat → Nat) (s : Int32) : Int32 := if isSideB W s = true then nI (waysN W (tn s) (allN W + 1)) else -2
theorem winZ_b (W : Nat → Nat) (n : Nat) : -1 ≤ winZ W n ∧ winZ W n ≤ 1 := by
  unfold winZ
  split
  · split
    · decide
    · split <;> decide
  · split <;> decide
set_option maxHeartbeats 4000000 in
theorem m_swings {l : Launch} {g : Zg} {ad : Nat → Nat} {M : Zm} {st : Ms} {W : Nat → Nat} (hm : Mod g ad M st) (hw : WR st W) (hi : InvW W) (v : Int32) : Cn l g yX11_swings cX11_swings 6 (some .int) 6 0 0 [.ref (ad 0), .int v] M (PM g ad st (some (.int (aSwings W v))) (fun _ => True)) := by
  refine Cn.start [(0, .ref (ad 0)), (1, .int v)] (by decide) (Nat.le_of_ble_eq_true rfl) rfl ?_
  intro γ el eg h hq
  subst el; subst eg
  have h4 := hi.h4
  have h0 := hi.h0
  have hw0 := hw
  have hk : keep st st := keep.rf st
  refine z_aload_n 0 h dX11_swings_0 rfl rfl rfl ?_
  refine z_iload_n 1 h dX11_swings_1 rfl rfl ?_
  refine z_callVP h (m_areTrains hm hw hi v) kX11 (.inl (hm.at 0 (by decide))) (lw_V q2124 q2126 qs86 q148 q2127) nX11_areTrains rfl rfl rfl (Nat.le_of_ble_eq_true rfl) (Nat.le_of_ble_eq_true rfl) (Nat.le_of_ble_eq_true rfl) dX11_swings_2 ?_
  refine z_ifz_ne 11 h dX11_swings_5 (by decide) (fun c_5 => ?_) (fun c_5 => ?_)
  · have _z := c_5
    obtain ⟨n, h_n, hn, rfl⟩ := areTr_nat c_5
    refine z_aload_n 0 h dX11_swings_11 rfl rfl rfl ?_
    refine z_iload_n 1 h dX11_swings_12 rfl rfl ?_
    refine z_callV h (m_lastFront hm hw hi n hn) kX11 (.inl (hm.at 0 (by decide))) (lw_V q2167 q2169 qs93 q148 q2170) nX11_lastFront rfl rfl rfl (Nat.le_of_ble_eq_true rfl) (Nat.le_of_ble_eq_true rfl) (Nat.le_of_ble_eq_true rfl) dX11_swings_13 (fun v M hv => ?_)
    obtain ⟨rfl, s1, hm, hkf, hX⟩ := hv
    replace hk := hk.tr hkf.k
    have hw := hk.w hw0
    refine z_pop h dX11_swings_16 rfl ?_
    refine z_iconst h dX11_swings_17 ki_0 ?_
    refine z_istore_n 2 h dX11_swings_18 rfl rfl ?_
    refine z_iconst h dX11_swings_19 ki_0 ?_
    refine z_istore_n 3 h dX11_swings_20 rfl rfl ?_
    refine z_iconst h dX11_swings_21 ki_1 ?_
    refine z_istore h dX11_swings_22 rfl ?_
    have loop_24 : ∀ (fz : Nat) (k : Nat) (hk2 : k ≤ W 0), (W 0 + 1 - k) < fz → Z γ M 0 0 24 (lof [(0, .ref (ad 0)), (1, .int (nI n)), (2, .int (nI (swF W n k).1)), (3, .int (iI (swF W n k).2)), (4, .int (nI (k + 1)))]) [] := by
      intro fz
      induction fz with
      | zero => intro k hk2 hz; exact absurd hz (Nat.not_lt_zero _)
      | succ fz ih_24 =>
        intro k hk2 hz_24
        have hsw := swF_b W n k
        refine z_iload h dX11_swings_24 rfl ?_
        refine z_aload_n 0 h dX11_swings_26 rfl rfl rfl ?_
        refine z_get h kX11 (.inl (hm.at 0 (by decide))) 1 rfl q1848 rfl dX11_swings_27 ?_
        refine z_iconst h dX11_swings_30 ki_0 ?_
        refine zm_w (0) h hm hw rfl (by omega) dX11_swings_31 ?_
        refine z_icmp_gt 101 h dX11_swings_32 (by decide) (fun c_32 => ?_) (fun c_32 => ?_)
        · have _z := c_32
          replace c_32 := (ilt (a := W (0)) (b := k + 1) rfl rfl (hi.lt _ (by omega)) (by omega)).mp c_32
          refine z_iload_n 2 h dX11_swings_101 rfl rfl ?_
          refine z_iret h hq dX11_swings_102 (Nat.le_of_ble_eq_true rfl) (Nat.le_of_ble_eq_true rfl) ?_
          obtain rfl : k = W 0 := by omega
          refine ⟨vS ?_, _, hm, hk, trivial⟩
          simp [aSwings, c_5, tn_nI hn]
        · have _z := c_32
          replace c_32 := (not_congr (ilt (a := W (0)) (b := k + 1) rfl rfl (hi.lt _ (by omega)) (by omega))).mp c_32
          have join_64 : ∀ (xv : Int32) (a : Int) (hx : xv = iI a) (ha : a = sgZ (frZ W n (k + 1))), Z γ M 0 0 64 (lof [(0, .ref (ad 0)), (1, .int (nI n)), (2, .int (nI (swF W n k).1)), (3, .int (iI (swF W n k).2)), (4, .int (nI (k + 1)))]) [.int xv] := by
            intro xv a hx ha
            have hab := sgZ_b (frZ W n (k + 1))
            refine z_istore h dX11_swings_64 rfl ?_
            refine z_iload h dX11_swings_66 rfl ?_
            refine z_if_ne 74 h dX11_swings_68 (by decide) (fun c_68 => ?_) (fun c_68 => ?_)
            · have _z := c_68
              replace c_68 := (not_congr (zeq (a := a) (b := 0) hx rfl (by omega) (by decide))).mp c_68
              refine z_iload_n 2 h dX11_swings_74 rfl rfl ?_
              refine z_iload_n 3 h dX11_swings_75 rfl rfl ?_
              refine z_if_eq 89 h dX11_swings_76 (by decide) (fun c_76 => ?_) (fun c_76 => ?_)
              · have _z := c_76
                replace c_76 := (zeq (a := (swF W n k).2) (b := 0) rfl rfl (by omega) (by decide)).mp c_76
                refine z_iconst h dX11_swings_89 ki_0 ?_
                refine z_iadd h dX11_swings_90 ?_
                refine z_istore_n 2 h dX11_swings_91 rfl rfl ?_
                refine z_iload h dX11_swings_92 rfl ?_
                refine z_istore_n 3 h dX11_swings_94 rfl rfl ?_
                refine z_iinc h dX11_swings_95 rfl rfl ki_1 ?_
                refine z_goto 24 h dX11_swings_98 (by decide) ?_
                refine Z.loc [(0, .ref (ad 0)), (1, .int (nI n)), (2, .int (nI (swF W n (k + 1)).1)), (3, .int (iI (swF W n (k + 1)).2)), (4, .int (nI ((k + 1) + 1)))] (ll1 rfl (ll1 rfl (ll1 (vS (by simp only [swF]; rw [← ha]; first | (rw [if_pos c_68]; done) | (rw [if_neg c_68, if_pos ⟨c_76, fun q => c_82 q.symm⟩, nI_1]; done) | (rw [if_neg c_68, if_neg (fun q => q.2 c_82.symm), show (0 : Int32) = nI 0 from rfl, nI_add]; done) | (rw [if_neg c_68, if_neg (fun q => q.1 c_76), show (0 : Int32) = nI 0 from rfl, nI_add]; done))) (ll1 (vS (by simp only [swF]; rw [← ha]; first | (rw [if_pos c_68]; done) | (rw [if_neg c_68]; exact hx))) (ll1 (vS (nI_1 (k + 1))) ll0))))) ?_
                exact ih_24 (k + 1) (by omega) (by omega)
              · have _z := c_76
                replace c_76 := (not_congr (zeq (a := (swF W n k).2) (b := 0) rfl rfl (by omega) (by decide))).mp c_76
                refine z_iload_n 3 h dX11_swings_79 rfl rfl ?_
                refine z_iload h dX11_swings_80 rfl ?_
                refine z_icmp_eq 89 h dX11_swings_82 (by decide) (fun c_82 => ?_) (fun c_82 => ?_)
                · have _z := c_82
                  replace c_82 := (zeq (a := (swF W n k).2) (b := a) rfl hx (by omega) (by omega)).mp c_82
                  refine z_iconst h dX11_swings_89 ki_0 ?_
                  refine z_iadd h dX11_swings_90 ?_
                  refine z_istore_n 2 h dX11_swings_91 rfl rfl ?_
                  refine z_iload h dX11_swings_92 rfl ?_
                  refine z_istore_n 3 h dX11_swings_94 rfl rfl ?_
                  refine z_iinc h dX11_swings_95 rfl rfl ki_1 ?_
                  refine z_goto 24 h dX11_swings_98 (by decide) ?_
                  refine Z.loc [(0, .ref (ad 0)), (1, .int (nI n)), (2, .int (nI (swF W n (k + 1)).1)), (3, .int (iI (swF W n (k + 1)).2)), (4, .int (nI ((k + 1) + 1)))] (ll1 rfl (ll1 rfl (ll1 (vS (by simp only [swF]; rw [← ha]; first | (rw [if_pos c_68]; done) | (rw [if_neg c_68, if_pos ⟨c_76, fun q => c_82 q.symm⟩, nI_1]; done) | (rw [if_neg c_68, if_neg (fun q => q.2 c_82.symm), show (0 : Int32) = nI 0 from rfl, nI_add]; done) | (rw [if_neg c_68, if_neg (fun q => q.1 c_76), show (0 : Int32) = nI 0 from rfl, nI_add]; done))) (ll1 (vS (by simp only [swF]; rw [← ha]; first | (rw [if_pos c_68]; done) | (rw [if_neg c_68]; exact hx))) (ll1 (vS (nI_1 (k + 1))) ll0))))) ?_
                  exact ih_24 (k + 1) (by omega) (by omega)
                · have _z := c_82
                  replace c_82 := (not_congr (zeq (a := (swF W n k).2) (b := a) rfl hx (by omega) (by omega))).mp c_82
                  refine z_iconst h dX11_swings_85 ki_1 ?_
                  refine z_goto 90 h dX11_swings_86 (by decide) ?_
                  refine z_iadd h dX11_swings_90 ?_
                  refine z_istore_n 2 h dX11_swings_91 rfl rfl ?_
                  refine z_iload h dX11_swings_92 rfl ?_
                  refine z_istore_n 3 h dX11_swings_94 rfl rfl ?_
                  refine z_iinc h dX11_swings_95 rfl rfl ki_1 ?_
                  refine z_goto 24 h dX11_swings_98 (by decide) ?_
                  refine Z.loc [(0, .ref (ad 0)), (1, .int (nI n)), (2, .int (nI (swF W n (k + 1)).1)), (3, .int (iI (swF W n (k + 1)).2)), (4, .int (nI ((k + 1) + 1)))] (ll1 rfl (ll1 rfl (ll1 (vS (by simp only [swF]; rw [← ha]; first | (rw [if_pos c_68]; done) | (rw [if_neg c_68, if_pos ⟨c_76, fun q => c_82 q.symm⟩, nI_1]; done) | (rw [if_neg c_68, if_neg (fun q => q.2 c_82.symm), show (0 : Int32) = nI 0 from rfl, nI_add]; done) | (rw [if_neg c_68, if_neg (fun q => q.1 c_76), show (0 : Int32) = nI 0 from rfl, nI_add]; done))) (ll1 (vS (by simp only [swF]; rw [← ha]; first | (rw [if_pos c_68]; done) | (rw [if_neg c_68]; exact hx))) (ll1 (vS (nI_1 (k + 1))) ll0))))) ?_
                  exact ih_24 (k + 1) (by omega) (by omega)
            · have _z := c_68
              replace c_68 := (zeq (a := a) (b := 0) hx rfl (by omega) (by decide)).mp c_68
              refine z_goto 95 h dX11_swings_71 (by decide) ?_
              refine z_iinc h dX11_swings_95 rfl rfl ki_1 ?_
              refine z_goto 24 h dX11_swings_98 (by decide) ?_
              refine Z.loc [(0, .ref (ad 0)), (1, .int (nI n)), (2, .int (nI (swF W n (k + 1)).1)), (3, .int (iI (swF W n (k + 1)).2)), (4, .int (nI ((k + 1) + 1)))] (ll1 rfl (ll1 rfl (ll1 (vS (by simp only [swF]; rw [← ha]; first | (rw [if_pos c_68]; done) | (rw [if_neg c_68, if_pos ⟨c_76, fun q => c_82 q.symm⟩, nI_1]; done) | (rw [if_neg c_68, if_neg (fun q => q.2 c_82.symm), show (0 : Int32) = nI 0 from rfl, nI_add]; done) | (rw [if_neg c_68, if_neg (fun q => q.1 c_76), show (0 : Int32) = nI 0 from rfl, nI_add]; done))) (ll1 (vS (by simp only [swF]; rw [← ha]; first | (rw [if_pos c_68]; done) | (rw [if_neg c_68]; exact hx))) (ll1 (vS (nI_1 (k + 1))) ll0))))) ?_
              exact ih_24 (k + 1) (by omega) (by omega)
          refine z_aload_n 0 h dX11_swings_35 rfl rfl rfl ?_
          refine z_get h kX11 (.inl (hm.at 0 (by decide))) 15 rfl q1862 rfl dX11_swings_36 ?_
          refine z_iload h dX11_swings_39 rfl ?_
          refine z_ialdN (k + 1) h (.inl (hm.at 15 (by decide))) rfl (by omega) (by decide) dX11_swings_41 ?_
          refine z_if_le 49 h dX11_swings_42 (by decide) (fun c_42 => ?_) (fun c_42 => ?_)
          · have _z := c_42
            replace c_42 := (zle (a := frZ W n (k + 1)) (b := 0) (hX (k + 1) (by omega)) rfl (frZ_b2 W n _ (by omega)) (by decide)).mp c_42
            refine z_aload_n 0 h dX11_swings_49 rfl rfl rfl ?_
            refine z_get h kX11 (.inl (hm.at 0 (by decide))) 15 rfl q1862 rfl dX11_swings_50 ?_
            refine z_iload h dX11_swings_53 rfl ?_
            refine z_ialdN (k + 1) h (.inl (hm.at 15 (by decide))) rfl (by omega) (by decide) dX11_swings_55 ?_
            refine z_if_ge 63 h dX11_swings_56 (by decide) (fun c_56 => ?_) (fun c_56 => ?_)
            · have _z := c_56
              replace c_56 := (zle (a := 0) (b := frZ W n (k + 1)) rfl (hX (k + 1) (by omega)) (by decide) (frZ_b2 W n _ (by omega))).mp c_56
              refine z_iconst h dX11_swings_63 ki_0 ?_
              refine Z.loc [(0, .ref (ad 0)), (1, .int (nI n)), (2, .int (nI (swF W n k).1)), (3, .int (iI (swF W n k).2)), (4, .int (nI (k + 1)))] (ll1 rfl (ll1 rfl (ll1 rfl (ll1 rfl (ll1 rfl ll0))))) ?_
              exact join_64 _ 0 rfl (by rw [sgZ, if_neg (by omega), if_neg (by omega)])
            · have _z := c_56
              replace c_56 := (not_congr (zle (a := 0) (b := frZ W n (k + 1)) rfl (hX (k + 1) (by omega)) (by decide) (frZ_b2 W n _ (by omega)))).mp c_56
              refine z_iconst h dX11_swings_59 ki_m1 ?_
              refine z_goto 64 h dX11_swings_60 (by decide) ?_
              refine Z.loc [(0, .ref (ad 0)), (1, .int (nI n)), (2, .int (nI (swF W n k).1)), (3, .int (iI (swF W n k).2)), (4, .int (nI (k + 1)))] (ll1 rfl (ll1 rfl (ll1 rfl (ll1 rfl (ll1 rfl ll0))))) ?_
              exact join_64 _ (-1) rfl (by rw [sgZ, if_neg (by omega), if_pos (by omega)])
          · have _z := c_42
            replace c_42 := (not_congr (zle (a := frZ W n (k + 1)) (b := 0) (hX (k + 1) (by omega)) rfl (frZ_b2 W n _ (by omega)) (by decide))).mp c_42
            refine z_iconst h dX11_swings_45 ki_1 ?_
            refine z_goto 64 h dX11_swings_46 (by decide) ?_
            refine Z.loc [(0, .ref (ad 0)), (1, .int (nI n)), (2, .int (nI (swF W n k).1)), (3, .int (iI (swF W n k).2)), (4, .int (nI (k + 1)))] (ll1 rfl (ll1 rfl (ll1 rfl (ll1 rfl (ll1 rfl ll0))))) ?_
            exact join_64 _ 1 rfl (by rw [sgZ, if_pos (by omega)])
    refine Z.loc [(0, .ref (ad 0)), (1, .int (nI n)), (2, .int (nI (swF W n 0).1)), (3, .int (iI (swF W n 0).2)), (4, .int (nI (0 + 1)))] (ll1 rfl (ll1 rfl (ll1 rfl (ll1 rfl (ll1 rfl ll0))))) ?_
    exact loop_24 _ 0 (Nat.zero_le _) (Nat.lt_succ_self _)
  · have _z := c_5
    refine z_bipush h dX11_swings_8 kb_m2 ?_
    refine z_iret h hq dX11_swings_10 (Nat.le_of_ble_eq_true rfl) (Nat.le_of_ble_eq_true rfl) ?_
    refine ⟨vS ?_, _, hm, hk, trivial⟩
    simp [aSwings, c_5]
