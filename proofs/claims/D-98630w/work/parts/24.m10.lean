/-! the reference: places held -/
set_option maxRecDepth 100000
/-- the first of least value among rows (a, b) with a + b ≤ n -/
def hbI (v : Nat → Int) (a : Nat) (s : Int × Nat × Nat) : Nat → Int × Nat × Nat
  | 0 => s
  | b + 1 => if v b < (hbI v a s b).1 then (v b, a, b) else hbI v a s b
def hbO (v : Nat → Nat → Int) (n : Nat) : Nat → Int × Nat × Nat
  | 0 => (1000000, 0, 0)
  | a + 1 => hbI (v a) a (hbO v n a) (n + 1 - a)
def HB (n : Nat) (r : Int × Nat × Nat) : Prop := -3 ≤ r.1 ∧ r.1 ≤ 1000000 ∧ r.2.1 + r.2.2 ≤ n
theorem hbI_b {v : Nat → Int} {a n : Nat} {s : Int × Nat × Nat} (hv : ∀ b, -3 ≤ v b ∧ v b ≤ 3) (hs : HB n s) (ha : a ≤ n) : ∀ b, b ≤ n + 1 - a → HB n (hbI v a s b)
  | 0, _ => hs
  | b + 1, h => by
    have := hbI_b hv hs ha b (by omega)
    unfold hbI
    split
    · have := hv b
      exact ⟨this.1, by show v b ≤ 1000000; omega, by show a + b ≤ n; omega⟩
    · exact this
theorem hbO_b {v : Nat → Nat → Int} {n : Nat} (hv : ∀ a b, -3 ≤ v a b ∧ v a b ≤ 3) : ∀ a, a ≤ n + 1 → HB n (hbO v n a)
  | 0, _ => ⟨by show (-3 : Int) ≤ 1000000; decide, by show (1000000 : Int) ≤ 1000000; decide, Nat.zero_le _⟩
  | a + 1, h => hbI_b (hv a) (hbO_b hv a (by omega)) (by omega) _ (Nat.le_refl _)
theorem hbI_3 {v : Nat → Int} {a : Nat} {s : Int × Nat × Nat} (hv : ∀ b, v b ≤ 3) : ∀ b, (s.1 ≤ 3 ∨ 0 < b) → (hbI v a s b).1 ≤ 3
  | 0, h => by rcases h with h | h
               · exact h
               · exact absurd h (Nat.lt_irrefl _)
  | b + 1, _ => by
    have := hv b
    unfold hbI
    split
    · exact this
    · omega
theorem hbO_3 {v : Nat → Nat → Int} {n : Nat} (hv : ∀ a b, v a b ≤ 3) : ∀ a, a ≤ n → (hbO v n (a + 1)).1 ≤ 3
  | 0, _ => hbI_3 (hv 0) (n + 1 - 0) (Or.inr (by omega))
  | a + 1, h => hbI_3 (hv (a + 1)) _ (Or.inl (hbO_3 hv a (by omega)))
def hv3 (a b c m x y : Nat) : Int := sgZ ((a : Int) - x) + sgZ ((b : Int) - y) + sgZ ((c : Int) - ((m : Int) - x - y))
theorem hv3_b (a b c m x y : Nat) : -3 ≤ hv3 a b c m x y ∧ hv3 a b c m x y ≤ 3 := by
  have h1 := sgZ_b ((a : Int) - x)
  have h2 := sgZ_b ((b : Int) - y)
  have h3 := sgZ_b ((c : Int) - ((m : Int) - x - y))
  unfold hv3
  omega
def H1 (a b c m : Nat) : Int × Nat × Nat := hbO (hv3 a b c m) m (m + 1)
theorem H1_b (a b c m : Nat) : HB m (H1 a b c m) := hbO_b (hv3_b a b c m) _ (Nat.le_refl _)
theorem H1_3 (a b c m : Nat) : (H1 a b c m).1 ≤ 3 := hbO_3 (fun x y => (hv3_b a b c m x y).2) m (Nat.le_refl _)
def hm2 (n m a b : Nat) : Int := -(H1 a b (n - a - b) m).1
theorem hm2_b (n m a b : Nat) : -3 ≤ hm2 n m a b ∧ hm2 n m a b ≤ 3 := by
  have h1 := H1_b a b (n - a - b) m
  have h2 := H1_3 a b (n - a - b) m
  unfold hm2
  exact ⟨by omega, by have := h1.1; omega⟩
def HM (n m : Nat) : Int × Nat × Nat := hbO (hm2 n m) n (n + 1)
theorem HM_b (n m : Nat) : HB n (HM n m) := hbO_b (hm2_b n m) _ (Nat.le_refl _)
theorem HM_3 (n m : Nat) : (HM n m).1 ≤ 3 := hbO_3 (fun x y => (hm2_b n m x y).2) n (Nat.le_refl _)
/-- a row of three -/
def tri (n : Nat) (p : Nat × Nat) (i : Nat) : Nat := if i = 0 then p.1 else if i = 1 then p.2 else n - p.1 - p.2
def HRep (n : Nat) (r : Int × Nat × Nat) (f : Nat → Int32) : Prop := r.1 < 1000000 → ∀ i, i < 3 → f i = nI (tri n r.2 i)
def hre (n m : Nat) : Nat × Nat := (H1 (HM n m).2.1 (HM n m).2.2 (n - (HM n m).2.1 - (HM n m).2.2) m).2
def areMenB (n m : Int32) : Bool := inI n 0 9 && inI m 0 9
def aHold (n m : Int32) : Int32 := if areMenB n m = true then iI (-(HM (tn n) (tn m)).1) else -1000
def aHolds (n m i : Int32) : Int32 := if (areMenB n m && inI i 0 2) = true then nI (tri (tn n) (HM (tn n) (tn m)).2 (tn i)) else -2
def aReply (n m i : Int32) : Int32 := if (areMenB n m && inI i 0 2) = true then nI (tri (tn m) (hre (tn n) (tn m)) (tn i)) else -2
theorem HRep_new {n a b : Nat} {v : Int} {f : Nat → Int32} {x y z : Int32} (hx : x = nI a) (hy : y = nI b) (hz : z = nI (n - a - b)) : HRep n (v, a, b) (upd (upd (upd f 0 x) 1 y) 2 z) := by
  intro _ i hi3
  rcases (show i = 0 ∨ i = 1 ∨ i = 2 by omega) with rfl | rfl | rfl
  · simpa [upd, tri] using hx
  · simpa [upd, tri] using hy
  · simpa [upd, tri] using hz
theorem HRep_cp {n : Nat} {r : Int × Nat × Nat} {f f2 : Nat → Int32} (h : HRep n r f) (hc : ∀ i, i < 3 → f2 i = f i) : HRep n r f2 := fun h1 i h2 => (hc i h2).trans (h h1 i h2)
theorem HRep_of {n : Nat} {r : Int × Nat × Nat} {f : Nat → Int32} (h : ∀ i, i < 3 → f i = nI (tri n r.2 i)) : HRep n r f := fun _ => h
theorem hbI_lt {v : Nat → Int} {a b : Nat} {s : Int × Nat × Nat} (h : v b < (hbI v a s b).1) : hbI v a s (b + 1) = (v b, a, b) := if_pos h
theorem hbI_ge {v : Nat → Int} {a b : Nat} {s : Int × Nat × Nat} (h : ¬ v b < (hbI v a s b).1) : hbI v a s (b + 1) = hbI v a s b := if_neg h
theorem up_cp {f g : Nat → Int32} {k : Nat} {x : Int32} (hx : x = f k) (h : ∀ j, j < k → g j = f j) : ∀ j, j < k + 1 → upd g k x j = f j := by
  intro j hj
  by_cases e : j = k
  · subst e; simpa [upd] using hx
  · simp [upd, e, h j (by omega)]
theorem nine_nat {v : Int32} (h : inI v 0 9 = true) : ∃ n : Nat, n ≤ 9 ∧ v = nI n := by
  obtain ⟨n, h1, h2, h3⟩ := inI_nat h
  exact ⟨n, by omega, h3⟩
theorem two_nat {v : Int32} (h : inI v 0 2 = true) : ∃ n : Nat, n ≤ 2 ∧ v = nI n := by
  obtain ⟨n, h1, h2, h3⟩ := inI_nat h
  exact ⟨n, by omega, h3⟩
theorem men_nat {n m : Int32} (h : areMenB n m = true) : (∃ a : Nat, a ≤ 9 ∧ n = nI a) ∧ ∃ b : Nat, b ≤ 9 ∧ m = nI b := by
  unfold areMenB at h
  rw [Bool.and_eq_true] at h
  exact ⟨nine_nat h.1, nine_nat h.2⟩
set_option maxHeartbeats 4000000 in
theorem m_valueOf {l : Launch} {g : Zg} {M : Zm} {e : Int32} (d : Int) (he : e = iI d) (hd : -2 ^ 31 ≤ d ∧ d < 2 ^ 31) : Cn l g yX11_valueOf cX11_valueOf 1 (some .int) 1 0 0 [.int e] M (PV (.int (iI (sgZ d))) M) := by
  refine Cn.start [(0, .int e)] (by decide) (Nat.le_of_ble_eq_true rfl) rfl ?_
  intro γ el eg h hq
  subst el; subst eg
  have join_17 : ∀ (xv : Int32) (hx : xv = iI (sgZ d)), Z γ M 0 0 17 (lof [(0, .int e)]) [.int xv] := by
    intro xv hx
    exact z_iret h hq dX11_valueOf_17 (Nat.le_of_ble_eq_true rfl) (Nat.le_of_ble_eq_true rfl) (⟨vS hx, rfl⟩)
  refine z_iload_n 0 h dX11_valueOf_0 rfl rfl ?_
  refine z_if_le 8 h dX11_valueOf_1 (by decide) (fun c_1 => ?_) (fun c_1 => ?_)
  · have _z := c_1
    replace c_1 := (zle (a := d) (b := 0) he rfl hd (by decide)).mp c_1
    refine z_iload_n 0 h dX11_valueOf_8 rfl rfl ?_
    refine z_if_ge 16 h dX11_valueOf_9 (by decide) (fun c_9 => ?_) (fun c_9 => ?_)
    · have _z := c_9
      replace c_9 := (zle (a := 0) (b := d) rfl he (by decide) hd).mp c_9
      refine z_iconst h dX11_valueOf_16 ki_0 ?_
      refine Z.loc [(0, .int e)] (ll1 rfl ll0) ?_
      exact join_17 _ (by unfold sgZ; rw [if_neg (by omega), if_neg (by omega)]; rfl)
    · have _z := c_9
      replace c_9 := (not_congr (zle (a := 0) (b := d) rfl he (by decide) hd)).mp c_9
      refine z_iconst h dX11_valueOf_12 ki_m1 ?_
      refine z_goto 17 h dX11_valueOf_13 (by decide) ?_
      refine Z.loc [(0, .int e)] (ll1 rfl ll0) ?_
      exact join_17 _ (by unfold sgZ; rw [if_neg (by omega), if_pos (by omega)]; rfl)
  · have _z := c_1
    replace c_1 := (not_congr (zle (a := d) (b := 0) he rfl hd (by decide))).mp c_1
    refine z_iconst h dX11_valueOf_4 ki_1 ?_
    refine z_goto 17 h dX11_valueOf_5 (by decide) ?_
    refine Z.loc [(0, .int e)] (ll1 rfl ll0) ?_
    exact join_17 _ (by unfold sgZ; rw [if_pos (by omega)]; rfl)
set_option maxHeartbeats 4000000 in
theorem m_heldBy {l : Launch} {g : Zg} {ad : Nat → Nat} {M : Zm} {st : Ms} (hm : Mod g ad M st) {f23 : Nat → Int32} (a b c m : Nat) (h23 : st.2.1 23 = f23) (h0 : f23 0 = nI a) (h1 : f23 1 = nI b) (h2 : f23 2 = nI c) (ha : a ≤ 9) (hb : b ≤ 9) (hc : c ≤ 9) (hm9 : m ≤ 9) : Cn l g yX11_heldBy cX11_heldBy 6 (some .int) 2 0 0 [.ref (ad 0), .int (nI m)] M (PM g ad st (some (.int (iI (H1 a b c m).1))) (fun s9 => s9.2.1 23 = f23 ∧ s9.2.1 24 = st.2.1 24 ∧ HRep m (H1 a b c m) (s9.2.1 25))) := by
  refine Cn.start [(0, .ref (ad 0)), (1, .int (nI m))] (by decide) (Nat.le_of_ble_eq_true rfl) rfl ?_
  intro γ el eg h hq
  subst el; subst eg
  have hk : keep st st := keep.rf st
  refine z_ldcw h q2203 dX11_heldBy_0 ?_
  refine z_istore_n 2 h dX11_heldBy_3 rfl rfl ?_
  refine z_iconst h dX11_heldBy_4 ki_0 ?_
  refine z_istore_n 3 h dX11_heldBy_5 rfl rfl ?_
  have loop_6 : ∀ (fz : Nat) (M : Zm) (s1 : Ms) (x : Nat) (hm : Mod (cg γ) ad M s1) (hk : keep st s1) (hx : x ≤ m + 1) (h23 : s1.2.1 23 = f23) (h24 : s1.2.1 24 = st.2.1 24) (hr : HRep m (hbO (hv3 a b c m) m x) (s1.2.1 25)), (m + 1 - x) < fz → Z γ M 0 0 6 (lof [(0, .ref (ad 0)), (1, .int (nI m)), (2, .int (iI (hbO (hv3 a b c m) m x).1)), (3, .int (nI x))]) [] := by
    intro fz
    induction fz with
    | zero => intro M s1 x hm hk hx h23 h24 hr hz; exact absurd hz (Nat.not_lt_zero _)
    | succ fz ih_6 =>
      intro M s1 x hm hk hx h23 h24 hr hz_6
      refine z_iload_n 3 h dX11_heldBy_6 rfl rfl ?_
      refine z_iload_n 1 h dX11_heldBy_7 rfl rfl ?_
      refine z_icmp_gt 116 h dX11_heldBy_8 (by decide) (fun c_8 => ?_) (fun c_8 => ?_)
      · have _z := c_8
        replace c_8 := (ilt (a := m) (b := x) rfl rfl (by omega) (by omega)).mp c_8
        refine z_iload_n 2 h dX11_heldBy_116 rfl rfl ?_
        refine z_iret h hq dX11_heldBy_117 (Nat.le_of_ble_eq_true rfl) (Nat.le_of_ble_eq_true rfl) ?_
        obtain rfl : x = m + 1 := by omega
        exact ⟨rfl, _, hm, hk, h23, h24, hr⟩
      · have _z := c_8
        replace c_8 := (not_congr (ilt (a := m) (b := x) rfl rfl (by omega) (by omega))).mp c_8
        refine z_iconst h dX11_heldBy_11 ki_0 ?_
        refine z_istore h dX11_heldBy_12 rfl ?_
        have loop_14 : ∀ (fz : Nat) (M : Zm) (s1 : Ms) (y : Nat) (hm : Mod (cg γ) ad M s1) (hk : keep st s1) (hy : y ≤ m + 1 - x) (h23 : s1.2.1 23 = f23) (h24 : s1.2.1 24 = st.2.1 24) (hr : HRep m (hbI (hv3 a b c m x) x (hbO (hv3 a b c m) m x) y) (s1.2.1 25)), (m + 1 - x - y) < fz → Z γ M 0 0 14 (lof [(0, .ref (ad 0)), (1, .int (nI m)), (2, .int (iI (hbI (hv3 a b c m x) x (hbO (hv3 a b c m) m x) y).1)), (3, .int (nI x)), (4, .int (nI y))]) [] := by
          intro fz
          induction fz with
          | zero => intro M s1 y hm hk hy h23 h24 hr hz; exact absurd hz (Nat.not_lt_zero _)
          | succ fz ih_14 =>
            intro M s1 y hm hk hy h23 h24 hr hz_14
            have hhb := hbI_b (hv3_b a b c m x) (hbO_b (n := m) (hv3_b a b c m) x (by omega)) (by omega) y hy
            obtain ⟨hb1, hb2, -⟩ := hhb
            refine z_iload_n 3 h dX11_heldBy_14 rfl rfl ?_
            refine z_iload h dX11_heldBy_15 rfl ?_
            refine z_iadd h dX11_heldBy_17 ?_
            refine z_iload_n 1 h dX11_heldBy_18 rfl rfl ?_
            refine z_icmp_gt 110 h dX11_heldBy_19 (by decide) (fun c_19 => ?_) (fun c_19 => ?_)
            · have _z := c_19
              replace c_19 := (ilt (a := m) (b := x + y) rfl (ixa rfl rfl) (by omega) (by omega)).mp c_19
              refine z_iinc h dX11_heldBy_110 rfl rfl ki_1 ?_
              refine z_goto 6 h dX11_heldBy_113 (by decide) ?_
              obtain rfl : y = m + 1 - x := by omega
              refine Z.loc [(0, .ref (ad 0)), (1, .int (nI m)), (2, .int (iI (hbO (hv3 a b c m) m (x + 1)).1)), (3, .int (nI (x + 1)))] (ll1 rfl (ll1 rfl (ll1 rfl (ll1 (vS (nI_1 x)) ll0)))) ?_
              exact ih_6 _ _ (x + 1) hm hk (by omega) h23 h24 hr (by omega)
            · have _z := c_19
              replace c_19 := (not_congr (ilt (a := m) (b := x + y) rfl (ixa rfl rfl) (by omega) (by omega))).mp c_19
              refine z_aload_n 0 h dX11_heldBy_22 rfl rfl rfl ?_
              refine z_get h kX11 (.inl (hm.at 0 (by decide))) 23 rfl q1870 rfl dX11_heldBy_23 ?_
              refine z_iconst h dX11_heldBy_26 ki_0 ?_
              refine z_ialdN (0) h (.inl (hm.at 23 (by decide))) rfl (by decide) (by decide) dX11_heldBy_27 ?_
              refine Z.st (show _ = [.int (f23 0)] by rw [h23]) ?_
              refine z_iload_n 3 h dX11_heldBy_28 rfl rfl ?_
              refine z_isub h dX11_heldBy_29 ?_
              refine z_callSP h (m_valueOf ((a : Int) - x) (zsub (nz h0) (nz rfl)) (by omega)) (lw_S q2380 q2381 q148 q2382) nX11_valueOf rfl rfl rfl (Nat.le_of_ble_eq_true rfl) (Nat.le_of_ble_eq_true rfl) (Nat.le_of_ble_eq_true rfl) dX11_heldBy_30 ?_
              refine z_aload_n 0 h dX11_heldBy_33 rfl rfl rfl ?_
              refine z_get h kX11 (.inl (hm.at 0 (by decide))) 23 rfl q1870 rfl dX11_heldBy_34 ?_
              refine z_iconst h dX11_heldBy_37 ki_1 ?_
              refine z_ialdN (1) h (.inl (hm.at 23 (by decide))) rfl (by decide) (by decide) dX11_heldBy_38 ?_
              refine Z.st (show _ = [.int (f23 1), _] by rw [h23]) ?_
              refine z_iload h dX11_heldBy_39 rfl ?_
              refine z_isub h dX11_heldBy_41 ?_
              refine z_callSP h (m_valueOf ((b : Int) - y) (zsub (nz h1) (nz rfl)) (by omega)) (lw_S q2380 q2381 q148 q2382) nX11_valueOf rfl rfl rfl (Nat.le_of_ble_eq_true rfl) (Nat.le_of_ble_eq_true rfl) (Nat.le_of_ble_eq_true rfl) dX11_heldBy_42 ?_
              refine z_iadd h dX11_heldBy_45 ?_
              refine z_aload_n 0 h dX11_heldBy_46 rfl rfl rfl ?_
              refine z_get h kX11 (.inl (hm.at 0 (by decide))) 23 rfl q1870 rfl dX11_heldBy_47 ?_
              refine z_iconst h dX11_heldBy_50 ki_2 ?_
              refine z_ialdN (2) h (.inl (hm.at 23 (by decide))) rfl (by decide) (by decide) dX11_heldBy_51 ?_
              refine Z.st (show _ = [.int (f23 2), _] by rw [h23]) ?_
              refine z_iload_n 1 h dX11_heldBy_52 rfl rfl ?_
              refine z_iload_n 3 h dX11_heldBy_53 rfl rfl ?_
              refine z_isub h dX11_heldBy_54 ?_
              refine z_iload h dX11_heldBy_55 rfl ?_
              refine z_isub h dX11_heldBy_57 ?_
              refine z_isub h dX11_heldBy_58 ?_
              refine z_callSP h (m_valueOf ((c : Int) - ((m : Int) - x - y)) (zsub (nz h2) (zsub (zsub (nz rfl) (nz rfl)) (nz rfl))) (by omega)) (lw_S q2380 q2381 q148 q2382) nX11_valueOf rfl rfl rfl (Nat.le_of_ble_eq_true rfl) (Nat.le_of_ble_eq_true rfl) (Nat.le_of_ble_eq_true rfl) dX11_heldBy_59 ?_
              refine z_iadd h dX11_heldBy_62 ?_
              refine z_istore h dX11_heldBy_63 rfl ?_
              refine z_iload h dX11_heldBy_65 rfl ?_
              refine z_iload_n 2 h dX11_heldBy_67 rfl rfl ?_
              refine z_icmp_lt 74 h dX11_heldBy_68 (by decide) (fun c_68 => ?_) (fun c_68 => ?_)
              · have _z := c_68
                replace c_68 := (zlt (a := hv3 a b c m x y) (b := (hbI (hv3 a b c m x) x (hbO (hv3 a b c m) m x) y).1) (zadd (zadd rfl rfl) rfl) rfl (by have := hv3_b a b c m x y; omega) (by omega)).mp c_68
                refine z_iload h dX11_heldBy_74 rfl ?_
                refine z_istore_n 2 h dX11_heldBy_76 rfl rfl ?_
                refine z_aload_n 0 h dX11_heldBy_77 rfl rfl rfl ?_
                refine z_get h kX11 (.inl (hm.at 0 (by decide))) 25 rfl q1872 rfl dX11_heldBy_78 ?_
                refine z_iconst h dX11_heldBy_81 ki_0 ?_
                refine z_iload_n 3 h dX11_heldBy_82 rfl rfl ?_
                refine zm_iast 25 (0) h hm (by decide) (fun _ => rfl) rfl (by decide) (by decide) dX11_heldBy_83 (fun M hm => ?_)
                replace hk := keepA hk hm (by decide)
                refine z_aload_n 0 h dX11_heldBy_84 rfl rfl rfl ?_
                refine z_get h kX11 (.inl (hm.at 0 (by decide))) 25 rfl q1872 rfl dX11_heldBy_85 ?_
                refine z_iconst h dX11_heldBy_88 ki_1 ?_
                refine z_iload h dX11_heldBy_89 rfl ?_
                refine zm_iast 25 (1) h hm (by decide) (fun _ => rfl) rfl (by decide) (by decide) dX11_heldBy_91 (fun M hm => ?_)
                replace hk := keepA hk hm (by decide)
                refine z_aload_n 0 h dX11_heldBy_92 rfl rfl rfl ?_
                refine z_get h kX11 (.inl (hm.at 0 (by decide))) 25 rfl q1872 rfl dX11_heldBy_93 ?_
                refine z_iconst h dX11_heldBy_96 ki_2 ?_
                refine z_iload_n 1 h dX11_heldBy_97 rfl rfl ?_
                refine z_iload_n 3 h dX11_heldBy_98 rfl rfl ?_
                refine z_isub h dX11_heldBy_99 ?_
                refine z_iload h dX11_heldBy_100 rfl ?_
                refine z_isub h dX11_heldBy_102 ?_
                refine zm_iast 25 (2) h hm (by decide) (fun _ => rfl) rfl (by decide) (by decide) dX11_heldBy_103 (fun M hm => ?_)
                replace hk := keepA hk hm (by decide)
                refine z_iinc h dX11_heldBy_104 rfl rfl ki_1 ?_
                refine z_goto 14 h dX11_heldBy_107 (by decide) ?_
                refine Z.loc [(0, .ref (ad 0)), (1, .int (nI m)), (2, .int (iI (hbI (hv3 a b c m x) x (hbO (hv3 a b c m) m x) (y + 1)).1)), (3, .int (nI x)), (4, .int (nI (y + 1)))] (ll1 rfl (ll1 rfl (ll1 (vS (by first | (rw [hbI_lt c_68]; exact zadd (zadd rfl rfl) rfl) | (rw [hbI_ge c_68]))) (ll1 rfl (ll1 (vS (nI_1 y)) ll0))))) ?_
                exact ih_14 _ _ (y + 1) hm hk (by omega) (by simpa [uA] using h23) (by simpa [uA] using h24) (by first | (rw [hbI_lt c_68]; simp only [uA, if_true]; exact HRep_new rfl rfl (ixs (ixs rfl rfl (by omega)) rfl (by omega))) | (rw [hbI_ge c_68]; exact hr)) (by omega)
              · have _z := c_68
                replace c_68 := (not_congr (zlt (a := hv3 a b c m x y) (b := (hbI (hv3 a b c m x) x (hbO (hv3 a b c m) m x) y).1) (zadd (zadd rfl rfl) rfl) rfl (by have := hv3_b a b c m x y; omega) (by omega))).mp c_68
                refine z_goto 104 h dX11_heldBy_71 (by decide) ?_
                refine z_iinc h dX11_heldBy_104 rfl rfl ki_1 ?_
                refine z_goto 14 h dX11_heldBy_107 (by decide) ?_
                refine Z.loc [(0, .ref (ad 0)), (1, .int (nI m)), (2, .int (iI (hbI (hv3 a b c m x) x (hbO (hv3 a b c m) m x) (y + 1)).1)), (3, .int (nI x)), (4, .int (nI (y + 1)))] (ll1 rfl (ll1 rfl (ll1 (vS (by first | (rw [hbI_lt c_68]; exact zadd (zadd rfl rfl) rfl) | (rw [hbI_ge c_68]))) (ll1 rfl (ll1 (vS (nI_1 y)) ll0))))) ?_
                exact ih_14 _ _ (y + 1) hm hk (by omega) (by simpa [uA] using h23) (by simpa [uA] using h24) (by first | (rw [hbI_lt c_68]; simp only [uA, if_true]; exact HRep_new rfl rfl (ixs (ixs rfl rfl (by omega)) rfl (by omega))) | (rw [hbI_ge c_68]; exact hr)) (by omega)
        refine Z.loc [(0, .ref (ad 0)), (1, .int (nI m)), (2, .int (iI (hbI (hv3 a b c m x) x (hbO (hv3 a b c m) m x) 0).1)), (3, .int (nI x)), (4, .int (nI 0))] (ll1 rfl (ll1 rfl (ll1 rfl (ll1 rfl (ll1 rfl ll0))))) ?_
        exact loop_14 _ _ _ 0 hm hk (Nat.zero_le _) h23 h24 hr (Nat.lt_succ_self _)
  refine Z.loc [(0, .ref (ad 0)), (1, .int (nI m)), (2, .int (iI (hbO (hv3 a b c m) m 0).1)), (3, .int (nI 0))] (ll1 rfl (ll1 rfl (ll1 rfl (ll1 rfl ll0)))) ?_
  exact loop_6 _ _ _ 0 hm hk (Nat.zero_le _) h23 rfl (fun q => absurd q (by show ¬ ((1000000 : Int) < 1000000); decide)) (Nat.lt_succ_self _)
set_option maxHeartbeats 4000000 in
theorem m_holdOf {l : Launch} {g : Zg} {ad : Nat → Nat} {M : Zm} {st : Ms} (hm : Mod g ad M st) (n m : Nat) (hn : n ≤ 9) (hm9 : m ≤ 9) : Cn l g yX11_holdOf cX11_holdOf 8 (some .int) 3 0 0 [.ref (ad 0), .int (nI n), .int (nI m)] M (PM g ad st (some (.int (iI (-(HM n m).1)))) (fun s9 => (∀ i, i < 3 → s9.2.1 24 i = nI (tri n (HM n m).2 i)) ∧ ∀ i, i < 3 → s9.2.1 25 i = nI (tri m (hre n m) i))) := by
  refine Cn.start [(0, .ref (ad 0)), (1, .int (nI n)), (2, .int (nI m))] (by decide) (Nat.le_of_ble_eq_true rfl) rfl ?_
  intro γ el eg h hq
  subst el; subst eg
  have hk : keep st st := keep.rf st
  obtain ⟨hHb1, hHb2, hHb3⟩ := HM_b n m
  have hH3 := HM_3 n m
  refine z_ldcw h q2358 dX11_holdOf_0 ?_
  refine z_istore_n 3 h dX11_holdOf_3 rfl rfl ?_
  refine z_iconst h dX11_holdOf_4 ki_0 ?_
  refine z_istore h dX11_holdOf_5 rfl ?_
  have loop_7 : ∀ (fz : Nat) (M : Zm) (s1 : Ms) (a : Nat) (hm : Mod (cg γ) ad M s1) (hk : keep st s1) (ha : a ≤ n + 1) (h24 : HRep n (hbO (hm2 n m) n a) (s1.2.1 24)), (n + 1 - a) < fz → Z γ M 0 0 7 (lof [(0, .ref (ad 0)), (1, .int (nI n)), (2, .int (nI m)), (3, .int (iI (-(hbO (hm2 n m) n a).1))), (4, .int (nI a))]) [] := by
    intro fz
    induction fz with
    | zero => intro M s1 a hm hk ha h24 hz; exact absurd hz (Nat.not_lt_zero _)
    | succ fz ih_7 =>
      intro M s1 a hm hk ha h24 hz_7
      refine z_iload h dX11_holdOf_7 rfl ?_
      refine z_iload_n 1 h dX11_holdOf_9 rfl rfl ?_
      refine z_icmp_gt 114 h dX11_holdOf_10 (by decide) (fun c_10 => ?_) (fun c_10 => ?_)
      · have _z := c_10
        replace c_10 := (ilt (a := n) (b := a) rfl rfl (by omega) (by omega)).mp c_10
        refine z_iconst h dX11_holdOf_114 ki_0 ?_
        refine z_istore h dX11_holdOf_115 rfl ?_
        have loop_117 : ∀ (fz : Nat) (M : Zm) (s2 : Ms) (k : Nat) (hm : Mod (cg γ) ad M s2) (hk : keep st s2) (hk3 : k ≤ 3) (h24 : ∀ i, i < 3 → s2.2.1 24 i = nI (tri n (HM n m).2 i)) (h23 : ∀ i, i < k → s2.2.1 23 i = nI (tri n (HM n m).2 i)), (3 - k) < fz → Z γ M 0 0 117 (lof [(0, .ref (ad 0)), (1, .int (nI n)), (2, .int (nI m)), (3, .int (iI (-(HM n m).1))), (4, .int (nI k))]) [] := by
          intro fz
          induction fz with
          | zero => intro M s2 k hm hk hk3 h24 h23 hz; exact absurd hz (Nat.not_lt_zero _)
          | succ fz ih_117 =>
            intro M s2 k hm hk hk3 h24 h23 hz_117
            refine z_iload h dX11_holdOf_117 rfl ?_
            refine z_iconst h dX11_holdOf_119 ki_3 ?_
            refine z_icmp_ge 143 h dX11_holdOf_120 (by decide) (fun c_120 => ?_) (fun c_120 => ?_)
            · have _z := c_120
              replace c_120 := (ile (a := 3) (b := k) rfl rfl (by decide) (by omega)).mp c_120
              refine z_aload_n 0 h dX11_holdOf_143 rfl rfl rfl ?_
              refine z_iload_n 2 h dX11_holdOf_144 rfl rfl ?_
              refine z_callV h (m_heldBy hm (HM n m).2.1 (HM n m).2.2 (n - (HM n m).2.1 - (HM n m).2.2) m rfl (h23 0 (by omega)) (h23 1 (by omega)) (h23 2 (by omega)) (by omega) (by omega) (by omega) hm9) kX11 (.inl (hm.at 0 (by decide))) (lw_V q2376 q2378 qs114 q148 q2379) nX11_heldBy rfl rfl rfl (Nat.le_of_ble_eq_true rfl) (Nat.le_of_ble_eq_true rfl) (Nat.le_of_ble_eq_true rfl) dX11_holdOf_145 (fun v M hv => ?_)
              obtain ⟨rfl, s3, hm, hk1, -, g24, g25⟩ := hv
              replace hk := hk.tr hk1
              refine z_pop h dX11_holdOf_148 rfl ?_
              refine z_iload_n 3 h dX11_holdOf_149 rfl rfl ?_
              refine z_iret h hq dX11_holdOf_150 (Nat.le_of_ble_eq_true rfl) (Nat.le_of_ble_eq_true rfl) ?_
              refine ⟨rfl, _, hm, hk, (fun i hi3 => by rw [g24]; exact h24 i hi3), g25 ?_⟩
              have := H1_3 (HM n m).2.1 (HM n m).2.2 (n - (HM n m).2.1 - (HM n m).2.2) m
              omega
            · have _z := c_120
              replace c_120 := (not_congr (ile (a := 3) (b := k) rfl rfl (by decide) (by omega))).mp c_120
              refine z_aload_n 0 h dX11_holdOf_123 rfl rfl rfl ?_
              refine z_get h kX11 (.inl (hm.at 0 (by decide))) 23 rfl q1870 rfl dX11_holdOf_124 ?_
              refine z_iload h dX11_holdOf_127 rfl ?_
              refine z_aload_n 0 h dX11_holdOf_129 rfl rfl rfl ?_
              refine z_get h kX11 (.inl (hm.at 0 (by decide))) 24 rfl q1871 rfl dX11_holdOf_130 ?_
              refine z_iload h dX11_holdOf_133 rfl ?_
              refine z_ialdN (k) h (.inl (hm.at 24 (by decide))) rfl (by omega) (by decide) dX11_holdOf_135 ?_
              refine zm_iast 23 (k) h hm (by decide) (fun _ => rfl) rfl (by omega) (by decide) dX11_holdOf_136 (fun M hm => ?_)
              replace hk := keepA hk hm (by decide)
              refine z_iinc h dX11_holdOf_137 rfl rfl ki_1 ?_
              refine z_goto 117 h dX11_holdOf_140 (by decide) ?_
              refine Z.loc [(0, .ref (ad 0)), (1, .int (nI n)), (2, .int (nI m)), (3, .int (iI (-(HM n m).1))), (4, .int (nI (k + 1)))] (ll1 rfl (ll1 rfl (ll1 rfl (ll1 rfl (ll1 (vS (nI_1 k)) ll0))))) ?_
              exact ih_117 _ _ (k + 1) hm hk (by omega) h24 (by intro i hi3; by_cases e : i = k; (subst e; simpa [uA, upd] using h24 i (by omega)); (simpa [uA, upd, e] using h23 i (by omega))) (by omega)
        obtain rfl : a = n + 1 := by omega
        refine Z.loc [(0, .ref (ad 0)), (1, .int (nI n)), (2, .int (nI m)), (3, .int (iI (-(HM n m).1))), (4, .int (nI 0))] (ll1 rfl (ll1 rfl (ll1 rfl (ll1 rfl (ll1 rfl ll0))))) ?_
        exact loop_117 _ _ _ 0 hm hk (by omega) (h24 (show (HM n m).1 < 1000000 by omega)) (fun j hj => absurd hj (Nat.not_lt_zero j)) (Nat.lt_succ_self _)
      · have _z := c_10
        replace c_10 := (not_congr (ilt (a := n) (b := a) rfl rfl (by omega) (by omega))).mp c_10
        refine z_iconst h dX11_holdOf_13 ki_0 ?_
        refine z_istore h dX11_holdOf_14 rfl ?_
        have loop_16 : ∀ (fz : Nat) (M : Zm) (s1 : Ms) (b : Nat) (hm : Mod (cg γ) ad M s1) (hk : keep st s1) (hb : b ≤ n + 1 - a) (h24 : HRep n (hbI (hm2 n m a) a (hbO (hm2 n m) n a) b) (s1.2.1 24)), (n + 1 - a - b) < fz → Z γ M 0 0 16 (lof [(0, .ref (ad 0)), (1, .int (nI n)), (2, .int (nI m)), (3, .int (iI (-(hbI (hm2 n m a) a (hbO (hm2 n m) n a) b).1))), (4, .int (nI a)), (5, .int (nI b))]) [] := by
          intro fz
          induction fz with
          | zero => intro M s1 b hm hk hb h24 hz; exact absurd hz (Nat.not_lt_zero _)
          | succ fz ih_16 =>
            intro M s1 b hm hk hb h24 hz_16
            obtain ⟨hb1, hb2, -⟩ := hbI_b (hm2_b n m a) (hbO_b (n := n) (hm2_b n m) a (by omega)) (by omega) b hb
            refine z_iload h dX11_holdOf_16 rfl ?_
            refine z_iload h dX11_holdOf_18 rfl ?_
            refine z_iadd h dX11_holdOf_20 ?_
            refine z_iload_n 1 h dX11_holdOf_21 rfl rfl ?_
            refine z_icmp_gt 108 h dX11_holdOf_22 (by decide) (fun c_22 => ?_) (fun c_22 => ?_)
            · have _z := c_22
              replace c_22 := (ilt (a := n) (b := a + b) rfl (ixa rfl rfl) (by omega) (by omega)).mp c_22
              refine z_iinc h dX11_holdOf_108 rfl rfl ki_1 ?_
              refine z_goto 7 h dX11_holdOf_111 (by decide) ?_
              obtain rfl : b = n + 1 - a := by omega
              refine Z.loc [(0, .ref (ad 0)), (1, .int (nI n)), (2, .int (nI m)), (3, .int (iI (-(hbO (hm2 n m) n (a + 1)).1))), (4, .int (nI (a + 1)))] (ll1 rfl (ll1 rfl (ll1 rfl (ll1 rfl (ll1 (vS (nI_1 a)) ll0))))) ?_
              exact ih_7 _ _ (a + 1) hm hk (by omega) h24 (by omega)
            · have _z := c_22
              replace c_22 := (not_congr (ilt (a := n) (b := a + b) rfl (ixa rfl rfl) (by omega) (by omega))).mp c_22
              refine z_aload_n 0 h dX11_holdOf_25 rfl rfl rfl ?_
              refine z_get h kX11 (.inl (hm.at 0 (by decide))) 23 rfl q1870 rfl dX11_holdOf_26 ?_
              refine z_iconst h dX11_holdOf_29 ki_0 ?_
              refine z_iload h dX11_holdOf_30 rfl ?_
              refine zm_iast 23 (0) h hm (by decide) (fun _ => rfl) rfl (by decide) (by decide) dX11_holdOf_32 (fun M hm => ?_)
              replace hk := keepA hk hm (by decide)
              refine z_aload_n 0 h dX11_holdOf_33 rfl rfl rfl ?_
              refine z_get h kX11 (.inl (hm.at 0 (by decide))) 23 rfl q1870 rfl dX11_holdOf_34 ?_
              refine z_iconst h dX11_holdOf_37 ki_1 ?_
              refine z_iload h dX11_holdOf_38 rfl ?_
              refine zm_iast 23 (1) h hm (by decide) (fun _ => rfl) rfl (by decide) (by decide) dX11_holdOf_40 (fun M hm => ?_)
              replace hk := keepA hk hm (by decide)
              refine z_aload_n 0 h dX11_holdOf_41 rfl rfl rfl ?_
              refine z_get h kX11 (.inl (hm.at 0 (by decide))) 23 rfl q1870 rfl dX11_holdOf_42 ?_
              refine z_iconst h dX11_holdOf_45 ki_2 ?_
              refine z_iload_n 1 h dX11_holdOf_46 rfl rfl ?_
              refine z_iload h dX11_holdOf_47 rfl ?_
              refine z_isub h dX11_holdOf_49 ?_
              refine z_iload h dX11_holdOf_50 rfl ?_
              refine z_isub h dX11_holdOf_52 ?_
              refine zm_iast 23 (2) h hm (by decide) (fun _ => rfl) rfl (by decide) (by decide) dX11_holdOf_53 (fun M hm => ?_)
              replace hk := keepA hk hm (by decide)
              refine z_aload_n 0 h dX11_holdOf_54 rfl rfl rfl ?_
              refine z_iload_n 2 h dX11_holdOf_55 rfl rfl ?_
              have sv24 := h24
              refine z_callV h (m_heldBy hm a b (n - a - b) m rfl (by simp [uA, upd]) (by simp [uA, upd]) (by simpa [uA, upd] using ixs (ixs rfl rfl (by omega)) rfl (by omega)) (by omega) (by omega) (by omega) hm9) kX11 (.inl (hm.at 0 (by decide))) (lw_V q2376 q2378 qs114 q148 q2379) nX11_heldBy rfl rfl rfl (Nat.le_of_ble_eq_true rfl) (Nat.le_of_ble_eq_true rfl) (Nat.le_of_ble_eq_true rfl) dX11_holdOf_56 (fun v M hv => ?_)
              obtain ⟨rfl, s3, hm, hk1, g23, g24, -⟩ := hv
              replace hk := hk.tr hk1
              replace g23 : ∀ i, i < 3 → s3.2.1 23 i = nI (tri n (a, b) i) := by
                intro i hi3
                rw [g23]
                rcases (show i = 0 ∨ i = 1 ∨ i = 2 by omega) with rfl | rfl | rfl
                · simp [uA, upd, tri]
                · simp [uA, upd, tri]
                · simpa [uA, upd, tri] using ixs (ixs rfl rfl (by omega)) rfl (by omega)
              replace h24 : HRep n (hbI (hm2 n m a) a (hbO (hm2 n m) n a) b) (s3.2.1 24) := HRep_cp h24 (fun i _ => by rw [g24]; rfl)
              have hb3 := H1_3 a b (n - a - b) m
              obtain ⟨hb4, hb5, -⟩ := H1_b a b (n - a - b) m
              refine z_istore h dX11_holdOf_59 rfl ?_
              refine z_iload h dX11_holdOf_61 rfl ?_
              refine z_iload_n 3 h dX11_holdOf_63 rfl rfl ?_
              refine z_icmp_gt 70 h dX11_holdOf_64 (by decide) (fun c_64 => ?_) (fun c_64 => ?_)
              · have _z := c_64
                replace c_64 := (zlt (a := -(hbI (hm2 n m a) a (hbO (hm2 n m) n a) b).1) (b := (H1 a b (n - a - b) m).1) rfl rfl (by omega) (by omega)).mp c_64
                have hlt : hm2 n m a b < (hbI (hm2 n m a) a (hbO (hm2 n m) n a) b).1 := by have : hm2 n m a b = -(H1 a b (n - a - b) m).1 := rfl; omega
                refine z_iload h dX11_holdOf_70 rfl ?_
                refine z_istore_n 3 h dX11_holdOf_72 rfl rfl ?_
                refine z_iconst h dX11_holdOf_73 ki_0 ?_
                refine z_istore h dX11_holdOf_74 rfl ?_
                have loop_76 : ∀ (fz : Nat) (M : Zm) (s2 : Ms) (k : Nat) (hm : Mod (cg γ) ad M s2) (hk : keep st s2) (hk3 : k ≤ 3) (h23 : s2.2.1 23 = s3.2.1 23) (hcp : ∀ j, j < k → s2.2.1 24 j = s3.2.1 23 j), (3 - k) < fz → Z γ M 0 0 76 (lof [(0, .ref (ad 0)), (1, .int (nI n)), (2, .int (nI m)), (3, .int (iI (H1 a b (n - a - b) m).1)), (4, .int (nI a)), (5, .int (nI b)), (7, .int (nI k))]) [] := by
                  intro fz
                  induction fz with
                  | zero => intro M s2 k hm hk hk3 h23 hcp hz; exact absurd hz (Nat.not_lt_zero _)
                  | succ fz ih_76 =>
                    intro M s2 k hm hk hk3 h23 hcp hz_76
                    refine z_iload h dX11_holdOf_76 rfl ?_
                    refine z_iconst h dX11_holdOf_78 ki_3 ?_
                    refine z_icmp_ge 102 h dX11_holdOf_79 (by decide) (fun c_79 => ?_) (fun c_79 => ?_)
                    · have _z := c_79
                      replace c_79 := (ile (a := 3) (b := k) rfl rfl (by decide) (by omega)).mp c_79
                      refine z_iinc h dX11_holdOf_102 rfl rfl ki_1 ?_
                      refine z_goto 16 h dX11_holdOf_105 (by decide) ?_
                      refine Z.loc [(0, .ref (ad 0)), (1, .int (nI n)), (2, .int (nI m)), (3, .int (iI (-(hbI (hm2 n m a) a (hbO (hm2 n m) n a) (b + 1)).1))), (4, .int (nI a)), (5, .int (nI (b + 1)))] (ll1 rfl (ll1 rfl (ll1 rfl (ll1 (vS (by first | (rw [hbI_lt hlt]; show _ = iI (-(hm2 n m a b)); unfold hm2; rw [Int.neg_neg]; done) | (rw [hbI_ge hge]; done))) (ll1 rfl (ll1 (vS (nI_1 b)) ll0)))))) ?_
                      exact ih_16 _ _ (b + 1) hm hk (by omega) (by first | (rw [hbI_lt hlt]; obtain rfl : k = 3 := (by omega); exact HRep_of (fun i hi3 => (hcp i hi3).trans (g23 i hi3))) | (rw [hbI_ge hge]; exact h24)) (by omega)
                    · have _z := c_79
                      replace c_79 := (not_congr (ile (a := 3) (b := k) rfl rfl (by decide) (by omega))).mp c_79
                      refine z_aload_n 0 h dX11_holdOf_82 rfl rfl rfl ?_
                      refine z_get h kX11 (.inl (hm.at 0 (by decide))) 24 rfl q1871 rfl dX11_holdOf_83 ?_
                      refine z_iload h dX11_holdOf_86 rfl ?_
                      refine z_aload_n 0 h dX11_holdOf_88 rfl rfl rfl ?_
                      refine z_get h kX11 (.inl (hm.at 0 (by decide))) 23 rfl q1870 rfl dX11_holdOf_89 ?_
                      refine z_iload h dX11_holdOf_92 rfl ?_
                      refine z_ialdN (k) h (.inl (hm.at 23 (by decide))) rfl (by omega) (by decide) dX11_holdOf_94 ?_
                      refine zm_iast 24 (k) h hm (by decide) (fun _ => rfl) rfl (by omega) (by decide) dX11_holdOf_95 (fun M hm => ?_)
                      replace hk := keepA hk hm (by decide)
                      refine z_iinc h dX11_holdOf_96 rfl rfl ki_1 ?_
                      refine z_goto 76 h dX11_holdOf_99 (by decide) ?_
                      refine Z.loc [(0, .ref (ad 0)), (1, .int (nI n)), (2, .int (nI m)), (3, .int (iI (H1 a b (n - a - b) m).1)), (4, .int (nI a)), (5, .int (nI b)), (7, .int (nI (k + 1)))] (ll1 rfl (ll1 rfl (ll1 rfl (ll1 rfl (ll1 rfl (ll1 rfl (ll1 (vS (nI_1 k)) ll0))))))) ?_
                      exact ih_76 _ _ (k + 1) hm hk (by omega) h23 (up_cp (congrFun h23 k) hcp) (by omega)
                refine Z.loc [(0, .ref (ad 0)), (1, .int (nI n)), (2, .int (nI m)), (3, .int (iI (H1 a b (n - a - b) m).1)), (4, .int (nI a)), (5, .int (nI b)), (7, .int (nI 0))] (ll1 rfl (ll1 rfl (ll1 rfl (ll1 rfl (ll1 rfl (ll1 rfl (ll1 rfl ll0))))))) ?_
                exact loop_76 _ _ _ 0 hm hk (by omega) rfl (fun j hj => absurd hj (Nat.not_lt_zero j)) (Nat.lt_succ_self _)
              · have _z := c_64
                replace c_64 := (not_congr (zlt (a := -(hbI (hm2 n m a) a (hbO (hm2 n m) n a) b).1) (b := (H1 a b (n - a - b) m).1) rfl rfl (by omega) (by omega))).mp c_64
                have hge : ¬ hm2 n m a b < (hbI (hm2 n m a) a (hbO (hm2 n m) n a) b).1 := by have : hm2 n m a b = -(H1 a b (n - a - b) m).1 := rfl; omega
                refine z_goto 102 h dX11_holdOf_67 (by decide) ?_
                refine z_iinc h dX11_holdOf_102 rfl rfl ki_1 ?_
                refine z_goto 16 h dX11_holdOf_105 (by decide) ?_
                refine Z.loc [(0, .ref (ad 0)), (1, .int (nI n)), (2, .int (nI m)), (3, .int (iI (-(hbI (hm2 n m a) a (hbO (hm2 n m) n a) (b + 1)).1))), (4, .int (nI a)), (5, .int (nI (b + 1)))] (ll1 rfl (ll1 rfl (ll1 rfl (ll1 (vS (by first | (rw [hbI_lt hlt]; show _ = iI (-(hm2 n m a b)); unfold hm2; rw [Int.neg_neg]; done) | (rw [hbI_ge hge]; done))) (ll1 rfl (ll1 (vS (nI_1 b)) ll0)))))) ?_
                exact ih_16 _ _ (b + 1) hm hk (by omega) (by first | (rw [hbI_lt hlt]; obtain rfl : k = 3 := (by omega); exact HRep_of (fun i hi3 => (hcp i hi3).trans (g23 i hi3))) | (rw [hbI_ge hge]; exact h24)) (by omega)
        refine Z.loc [(0, .ref (ad 0)), (1, .int (nI n)), (2, .int (nI m)), (3, .int (iI (-(hbI (hm2 n m a) a (hbO (hm2 n m) n a) 0).1))), (4, .int (nI a)), (5, .int (nI 0))] (ll1 rfl (ll1 rfl (ll1 rfl (ll1 rfl (ll1 rfl (ll1 rfl ll0)))))) ?_
        exact loop_16 _ _ _ 0 hm hk (Nat.zero_le _) h24 (Nat.lt_succ_self _)
  refine Z.loc [(0, .ref (ad 0)), (1, .int (nI n)), (2, .int (nI m)), (3, .int (iI (-(hbO (hm2 n m) n 0).1))), (4, .int (nI 0))] (ll1 rfl (ll1 rfl (ll1 rfl (ll1 (vS (by show _ = iI (-(1000000 : Int)); decide)) (ll1 rfl ll0))))) ?_
  exact loop_7 _ _ _ 0 hm hk (Nat.zero_le _) (fun q => absurd q (by show ¬ ((1000000 : Int) < 1000000); decide)) (Nat.lt_succ_self _)
set_option maxHeartbeats 4000000 in
theorem m_areMen {l : Launch} {g : Zg} {M : Zm} (n m : Int32) : Cn l g yX11_areMen cX11_areMen 2 (some .boolean) 2 0 0 [.int n, .int m] M (PV (.int (z2i (areMenB n m))) M) := by
  refine Cn.start [(0, .int n), (1, .int m)] (by decide) (Nat.le_of_ble_eq_true rfl) rfl ?_
  intro γ el eg h hq
  subst el; subst eg
  refine z_iload_n 0 h dX11_areMen_0 rfl rfl ?_
  refine z_i2l h dX11_areMen_1 ?_
  refine z_lconst h dX11_areMen_2 kl_0 ?_
  refine z_ldc2 h q2371 dX11_areMen_3 ?_
  refine z_callSP h (m_inI n 0 9 0 9 rfl rfl) (lw_S q1950 q1951 q148 q1952) nX11_in rfl rfl rfl (Nat.le_of_ble_eq_true rfl) (Nat.le_of_ble_eq_true rfl) (Nat.le_of_ble_eq_true rfl) dX11_areMen_6 ?_
  refine z_ifz_eq 28 h dX11_areMen_9 (by decide) (fun c_9 => ?_) (fun c_9 => ?_)
  · have _z := c_9
    refine z_iconst h dX11_areMen_28 ki_0 ?_
    refine z_zret h hq rfl dX11_areMen_29 (Nat.le_of_ble_eq_true rfl) (Nat.le_of_ble_eq_true rfl) ?_
    first | (refine ⟨zb1 ?_, rfl⟩; simp [areMenB, *]; done) | (refine ⟨zb0 ?_, rfl⟩; simp [areMenB, *]; done) | (refine ⟨zb1 ?_, rfl⟩; simp [areMenB, *]; omega) | (refine ⟨zb0 ?_, rfl⟩; simp [areMenB, *]; omega)
  · have _z := c_9
    refine z_iload_n 1 h dX11_areMen_12 rfl rfl ?_
    refine z_i2l h dX11_areMen_13 ?_
    refine z_lconst h dX11_areMen_14 kl_0 ?_
    refine z_ldc2 h q2371 dX11_areMen_15 ?_
    refine z_callSP h (m_inI m 0 9 0 9 rfl rfl) (lw_S q1950 q1951 q148 q1952) nX11_in rfl rfl rfl (Nat.le_of_ble_eq_true rfl) (Nat.le_of_ble_eq_true rfl) (Nat.le_of_ble_eq_true rfl) dX11_areMen_18 ?_
    refine z_ifz_eq 28 h dX11_areMen_21 (by decide) (fun c_21 => ?_) (fun c_21 => ?_)
    · have _z := c_21
      refine z_iconst h dX11_areMen_28 ki_0 ?_
      refine z_zret h hq rfl dX11_areMen_29 (Nat.le_of_ble_eq_true rfl) (Nat.le_of_ble_eq_true rfl) ?_
      first | (refine ⟨zb1 ?_, rfl⟩; simp [areMenB, *]; done) | (refine ⟨zb0 ?_, rfl⟩; simp [areMenB, *]; done) | (refine ⟨zb1 ?_, rfl⟩; simp [areMenB, *]; omega) | (refine ⟨zb0 ?_, rfl⟩; simp [areMenB, *]; omega)
    · have _z := c_21
      refine z_iconst h dX11_areMen_24 ki_1 ?_
      refine z_goto 29 h dX11_areMen_25 (by decide) ?_
      refine z_zret h hq rfl dX11_areMen_29 (Nat.le_of_ble_eq_true rfl) (Nat.le_of_ble_eq_true rfl) ?_
      first | (refine ⟨zb1 ?_, rfl⟩; simp [areMenB, *]; done) | (refine ⟨zb0 ?_, rfl⟩; simp [areMenB, *]; done) | (refine ⟨zb1 ?_, rfl⟩; simp [areMenB, *]; omega) | (refine ⟨zb0 ?_, rfl⟩; simp [areMenB, *]; omega)
set_option maxHeartbeats 4000000 in
theorem m_hold {l : Launch} {g : Zg} {ad : Nat → Nat} {M : Zm} {st : Ms} (hm : Mod g ad M st) (nv mv : Int32) : Cn l g yX11_hold cX11_hold 3 (some .int) 4 0 0 [.ref (ad 0), .int nv, .int mv] M (PM g ad st (some (.int (aHold nv mv))) (fun _ => True)) := by
  refine Cn.start [(0, .ref (ad 0)), (1, .int nv), (2, .int mv)] (by decide) (Nat.le_of_ble_eq_true rfl) rfl ?_
  intro γ el eg h hq
  subst el; subst eg
  have hk : keep st st := keep.rf st
  refine z_iload_n 1 h dX11_hold_0 rfl rfl ?_
  refine z_iload_n 2 h dX11_hold_1 rfl rfl ?_
  refine z_callSP h (m_areMen nv mv) (lw_S q2368 q2369 q148 q2370) nX11_areMen rfl rfl rfl (Nat.le_of_ble_eq_true rfl) (Nat.le_of_ble_eq_true rfl) (Nat.le_of_ble_eq_true rfl) dX11_hold_2 ?_
  refine z_ifz_eq 17 h dX11_hold_5 (by decide) (fun c_5 => ?_) (fun c_5 => ?_)
  · have _z := c_5
    refine z_sipush h dX11_hold_17 ks_m1000 ?_
    refine z_iret h hq dX11_hold_20 (Nat.le_of_ble_eq_true rfl) (Nat.le_of_ble_eq_true rfl) ?_
    refine ⟨vS ?_, _, hm, hk, trivial⟩
    first | (simp [aHold, c_5]; done) | (simp [aHold, c_5, tn_nI (show n < 2 ^ 31 by omega), tn_nI (show m < 2 ^ 31 by omega)]; done)
  · have _z := c_5
    obtain ⟨⟨n, h_n, rfl⟩, m, h_m, rfl⟩ := men_nat c_5
    refine z_aload_n 0 h dX11_hold_8 rfl rfl rfl ?_
    refine z_iload_n 1 h dX11_hold_9 rfl rfl ?_
    refine z_iload_n 2 h dX11_hold_10 rfl rfl ?_
    refine z_callV h (m_holdOf hm n m h_n h_m) kX11 (.inl (hm.at 0 (by decide))) (lw_V q2372 q2374 qs113 q148 q2375) nX11_holdOf rfl rfl rfl (Nat.le_of_ble_eq_true rfl) (Nat.le_of_ble_eq_true rfl) (Nat.le_of_ble_eq_true rfl) dX11_hold_11 (fun v M hv => ?_)
    obtain ⟨rfl, s1, hm, hk1, hX⟩ := hv
    replace hk := hk.tr hk1
    obtain ⟨g24, g25⟩ := hX
    refine z_goto 20 h dX11_hold_14 (by decide) ?_
    refine z_iret h hq dX11_hold_20 (Nat.le_of_ble_eq_true rfl) (Nat.le_of_ble_eq_true rfl) ?_
    refine ⟨vS ?_, _, hm, hk, trivial⟩
    first | (simp [aHold, c_5]; done) | (simp [aHold, c_5, tn_nI (show n < 2 ^ 31 by omega), tn_nI (show m < 2 ^ 31 by omega)]; done)
set_option maxHeartbeats 4000000 in
theorem m_holds {l : Launch} {g : Zg} {ad : Nat → Nat} {M : Zm} {st : Ms} (hm : Mod g ad M st) (nv mv iv : Int32) : Cn l g yX11_holds cX11_holds 4 (some .int) 4 0 0 [.ref (ad 0), .int nv, .int mv, .int iv] M (PM g ad st (some (.int (aHolds nv mv iv))) (fun _ => True)) := by
  refine Cn.start [(0, .ref (ad 0)), (1, .int nv), (2, .int mv), (3, .int iv)] (by decide) (Nat.le_of_ble_eq_true rfl) rfl ?_
  intro γ el eg h hq
  subst el; subst eg
  have hk : keep st st := keep.rf st
  refine z_iload_n 1 h dX11_holds_0 rfl rfl ?_
  refine z_iload_n 2 h dX11_holds_1 rfl rfl ?_
  refine z_callSP h (m_areMen nv mv) (lw_S q2368 q2369 q148 q2370) nX11_areMen rfl rfl rfl (Nat.le_of_ble_eq_true rfl) (Nat.le_of_ble_eq_true rfl) (Nat.le_of_ble_eq_true rfl) dX11_holds_2 ?_
  refine z_ifz_eq 20 h dX11_holds_5 (by decide) (fun c_5 => ?_) (fun c_5 => ?_)
  · have _z := c_5
    refine z_bipush h dX11_holds_20 kb_m2 ?_
    refine z_iret h hq dX11_holds_22 (Nat.le_of_ble_eq_true rfl) (Nat.le_of_ble_eq_true rfl) ?_
    refine ⟨vS ?_, _, hm, hk, trivial⟩
    first | (simp [aHolds, c_5]; done) | (simp [aHolds, c_17]; done)
  · have _z := c_5
    obtain ⟨⟨n, h_n, rfl⟩, m, h_m, rfl⟩ := men_nat c_5
    refine z_iload_n 3 h dX11_holds_8 rfl rfl ?_
    refine z_i2l h dX11_holds_9 ?_
    refine z_lconst h dX11_holds_10 kl_0 ?_
    refine z_ldc2 h q1949 dX11_holds_11 ?_
    refine z_callSP h (m_inI iv 0 2 0 2 rfl rfl) (lw_S q1950 q1951 q148 q1952) nX11_in rfl rfl rfl (Nat.le_of_ble_eq_true rfl) (Nat.le_of_ble_eq_true rfl) (Nat.le_of_ble_eq_true rfl) dX11_holds_14 ?_
    refine z_ifz_ne 23 h dX11_holds_17 (by decide) (fun c_17 => ?_) (fun c_17 => ?_)
    · have _z := c_17
      obtain ⟨i, h_i, rfl⟩ := two_nat c_17
      refine z_aload_n 0 h dX11_holds_23 rfl rfl rfl ?_
      refine z_iload_n 1 h dX11_holds_24 rfl rfl ?_
      refine z_iload_n 2 h dX11_holds_25 rfl rfl ?_
      refine z_callV h (m_holdOf hm n m h_n h_m) kX11 (.inl (hm.at 0 (by decide))) (lw_V q2372 q2374 qs113 q148 q2375) nX11_holdOf rfl rfl rfl (Nat.le_of_ble_eq_true rfl) (Nat.le_of_ble_eq_true rfl) (Nat.le_of_ble_eq_true rfl) dX11_holds_26 (fun v M hv => ?_)
      obtain ⟨rfl, s1, hm, hk1, hX⟩ := hv
      replace hk := hk.tr hk1
      obtain ⟨g24, g25⟩ := hX
      refine z_pop h dX11_holds_29 rfl ?_
      refine z_aload_n 0 h dX11_holds_30 rfl rfl rfl ?_
      refine z_get h kX11 (.inl (hm.at 0 (by decide))) 24 rfl q1871 rfl dX11_holds_31 ?_
      refine z_iload_n 3 h dX11_holds_34 rfl rfl ?_
      refine z_ialdN (i) h (.inl (hm.at 24 (by decide))) rfl (by omega) (by decide) dX11_holds_35 ?_
      refine z_iret h hq dX11_holds_36 (Nat.le_of_ble_eq_true rfl) (Nat.le_of_ble_eq_true rfl) ?_
      refine ⟨vS ?_, _, hm, hk, trivial⟩
      rw [g24 i (by omega)]
      simp [aHolds, c_5, c_17, tn_nI (show n < 2 ^ 31 by omega), tn_nI (show m < 2 ^ 31 by omega), tn_nI (show i < 2 ^ 31 by omega)]
    · have _z := c_17
      refine z_bipush h dX11_holds_20 kb_m2 ?_
      refine z_iret h hq dX11_holds_22 (Nat.le_of_ble_eq_true rfl) (Nat.le_of_ble_eq_true rfl) ?_
      refine ⟨vS ?_, _, hm, hk, trivial⟩
      first | (simp [aHolds, c_5]; done) | (simp [aHolds, c_17]; done)
set_option maxHeartbeats 4000000 in
theorem m_reply {l : Launch} {g : Zg} {ad : Nat → Nat} {M : Zm} {st : Ms} (hm : Mod g ad M st) (nv mv iv : Int32) : Cn l g yX11_reply cX11_reply 4 (some .int) 4 0 0 [.ref (ad 0), .int nv, .int mv, .int iv] M (PM g ad st (some (.int (aReply nv mv iv))) (fun _ => True)) := by
  refine Cn.start [(0, .ref (ad 0)), (1, .int nv), (2, .int mv), (3, .int iv)] (by decide) (Nat.le_of_ble_eq_true rfl) rfl ?_
  intro γ el eg h hq
  subst el; subst eg
  have hk : keep st st := keep.rf st
  refine z_iload_n 1 h dX11_reply_0 rfl rfl ?_
  refine z_iload_n 2 h dX11_reply_1 rfl rfl ?_
  refine z_callSP h (m_areMen nv mv) (lw_S q2368 q2369 q148 q2370) nX11_areMen rfl rfl rfl (Nat.le_of_ble_eq_true rfl) (Nat.le_of_ble_eq_true rfl) (Nat.le_of_ble_eq_true rfl) dX11_reply_2 ?_
  refine z_ifz_eq 20 h dX11_reply_5 (by decide) (fun c_5 => ?_) (fun c_5 => ?_)
  · have _z := c_5
    refine z_bipush h dX11_reply_20 kb_m2 ?_
    refine z_iret h hq dX11_reply_22 (Nat.le_of_ble_eq_true rfl) (Nat.le_of_ble_eq_true rfl) ?_
    refine ⟨vS ?_, _, hm, hk, trivial⟩
    first | (simp [aReply, c_5]; done) | (simp [aReply, c_17]; done)
  · have _z := c_5
    obtain ⟨⟨n, h_n, rfl⟩, m, h_m, rfl⟩ := men_nat c_5
    refine z_iload_n 3 h dX11_reply_8 rfl rfl ?_
    refine z_i2l h dX11_reply_9 ?_
    refine z_lconst h dX11_reply_10 kl_0 ?_
    refine z_ldc2 h q1949 dX11_reply_11 ?_
    refine z_callSP h (m_inI iv 0 2 0 2 rfl rfl) (lw_S q1950 q1951 q148 q1952) nX11_in rfl rfl rfl (Nat.le_of_ble_eq_true rfl) (Nat.le_of_ble_eq_true rfl) (Nat.le_of_ble_eq_true rfl) dX11_reply_14 ?_
    refine z_ifz_ne 23 h dX11_reply_17 (by decide) (fun c_17 => ?_) (fun c_17 => ?_)
    · have _z := c_17
      obtain ⟨i, h_i, rfl⟩ := two_nat c_17
      refine z_aload_n 0 h dX11_reply_23 rfl rfl rfl ?_
      refine z_iload_n 1 h dX11_reply_24 rfl rfl ?_
      refine z_iload_n 2 h dX11_reply_25 rfl rfl ?_
      refine z_callV h (m_holdOf hm n m h_n h_m) kX11 (.inl (hm.at 0 (by decide))) (lw_V q2372 q2374 qs113 q148 q2375) nX11_holdOf rfl rfl rfl (Nat.le_of_ble_eq_true rfl) (Nat.le_of_ble_eq_true rfl) (Nat.le_of_ble_eq_true rfl) dX11_reply_26 (fun v M hv => ?_)
      obtain ⟨rfl, s1, hm, hk1, hX⟩ := hv
      replace hk := hk.tr hk1
      obtain ⟨g24, g25⟩ := hX
      refine z_pop h dX11_reply_29 rfl ?_
      refine z_aload_n 0 h dX11_reply_30 rfl rfl rfl ?_
      refine z_get h kX11 (.inl (hm.at 0 (by decide))) 25 rfl q1872 rfl dX11_reply_31 ?_
      refine z_iload_n 3 h dX11_reply_34 rfl rfl ?_
      refine z_ialdN (i) h (.inl (hm.at 25 (by decide))) rfl (by omega) (by decide) dX11_reply_35 ?_
      refine z_iret h hq dX11_reply_36 (Nat.le_of_ble_eq_true rfl) (Nat.le_of_ble_eq_true rfl) ?_
      refine ⟨vS ?_, _, hm, hk, trivial⟩
      rw [g25 i (by omega)]
      simp [aReply, c_5, c_17, tn_nI (show n < 2 ^ 31 by omega), tn_nI (show m < 2 ^ 31 by omega), tn_nI (show i < 2 ^ 31 by omega)]
    · have _z := c_17
      refine z_bipush h dX11_reply_20 kb_m2 ?_
      refine z_iret h hq dX11_reply_22 (Nat.le_of_ble_eq_true rfl) (Nat.le_of_ble_eq_true rfl) ?_
      refine ⟨vS ?_, _, hm, hk, trivial⟩
      first | (simp [aReply, c_5]; done) | (simp [aReply, c_17]; done)
