/-! the reference: words, numbers, faults -/
set_option maxRecDepth 100000
abbrev Er : Type := Nat × Nat
abbrev Rs : Type := Except Er Tk
def RSt (st : Ms) (tp : Nat) (T : Nat → Int32) (X : Rs) : Prop := RX st tp T ∧ match X with
  | .ok t => st.1 12 = 0 ∧ st.1 13 = -1 ∧ tkR st t ∧ TkB tp t
  | .error e => st.1 12 = nI e.1 ∧ 1 ≤ e.1 ∧ e.1 ≤ 3 ∧ st.1 13 = nI e.2
def gdX : Rs → Bool
  | .ok _ => true
  | .error _ => false
theorem gd_ok {X : Rs} (h : gdX X = true) : ∃ t, X = .ok t := by
  cases X with
  | ok t => exact ⟨t, rfl⟩
  | error e => cases h
theorem gd_er {X : Rs} (h : gdX X = false) : ∃ e, X = .error e := by
  cases X with
  | ok t => cases h
  | error e => exact ⟨e, rfl⟩
theorem RSt.g12 {st : Ms} {tp : Nat} {T : Nat → Int32} {X : Rs} (h : RSt st tp T X) : st.1 12 = 0 ↔ gdX X = true := by
  cases X with
  | ok t => exact ⟨fun _ => rfl, fun _ => h.2.1⟩
  | error e =>
    obtain ⟨-, h1, h2, h3, -⟩ := h
    refine ⟨fun q => ?_, fun q => by cases q⟩
    rw [h1] at q
    have := (ieq (a := e.1) (b := 0) rfl rfl (by omega) (by decide)).mp q
    omega
/-- what stays when words are read -/
def kpD (st st' : Ms) : Prop := (∀ k, k < 8 ∨ 13 < k → st'.1 k = st.1 k) ∧ st'.2 = st.2
theorem kpD.rf (st : Ms) : kpD st st := ⟨fun _ _ => rfl, rfl⟩
theorem kpD.tr {a b c : Ms} (h1 : kpD a b) (h2 : kpD b c) : kpD a c := ⟨fun k q => (h2.1 k q).trans (h1.1 k q), h2.2.trans h1.2⟩
theorem kpR.D {a b : Ms} (h : kpR a b) : kpD a b := ⟨fun k q => h.1 k (by omega) (by omega) (by omega) (by omega), h.2⟩
theorem kpD.S {a st s1 : Ms} {v : Int32} {q : Nat} (hq : q = 12 ∨ q = 13) (h : kpD a st) (e : uS st q v = s1) : kpD a s1 := by
  subst e
  refine ⟨fun k r => ?_, h.2⟩
  rw [← h.1 k r]
  have : k ≠ q := by omega
  simp [uS, this]
def PMD (g : Zg) (ad : Nat → Nat) (st : Ms) (v : Option Value) (X : Ms → Prop) : Option Value → Zm → Prop := fun r M' => r = v ∧ ∃ st' : Ms, Mod g ad M' st' ∧ kpD st st' ∧ X st'
/-- a word -/
def eqT (T : Nat → Int32) (b : Nat) (w : List Nat) : Nat → Bool
  | 0 => true
  | k + 1 => eqT T b w k && decide (T (b + k) = nI (w.getD k 0))
theorem eqT_f {T : Nat → Int32} {b : Nat} {w : List Nat} {k : Nat} (h : eqT T b w k = false) : ∀ n, k ≤ n → eqT T b w n = false
  | 0, q => by
    obtain rfl : k = 0 := by omega
    exact h
  | n + 1, q => by
    by_cases e : k = n + 1
    · subst e; exact h
    · unfold eqT
      rw [eqT_f h n (by omega)]
      rfl
def isA (w : List Nat) : Rs → Bool
  | .ok t => decide (t.2.2.1 = 1) && decide (t.1 - t.2.1 = w.length)
  | .error _ => false
def isE (T : Nat → Int32) (w : List Nat) (X : Rs) (k : Nat) : Bool := match X with
  | .ok t => eqT T t.2.1 w k
  | .error _ => true
def isX (T : Nat → Int32) (w : List Nat) (X : Rs) : Bool := isA w X && isE T w X w.length
theorem isA_ok {w : List Nat} {X : Rs} (h : isA w X = true) : ∃ t : Tk, X = .ok t ∧ t.2.2.1 = 1 ∧ t.1 - t.2.1 = w.length := by
  cases X with
  | ok t =>
    unfold isA at h
    rw [Bool.and_eq_true] at h
    exact ⟨t, rfl, of_decide_eq_true h.1, of_decide_eq_true h.2⟩
  | error e => cases h
theorem isX_f {T : Nat → Int32} {w : List Nat} {X : Rs} {k : Nat} (hk : k ≤ w.length) (h : (isA w X && isE T w X k) = false) : isX T w X = false := by
  unfold isX
  cases X with
  | ok t =>
    rw [Bool.and_eq_false_iff] at h
    rcases h with h | h
    · rw [h]; rfl
    · rw [show isE T w (.ok t) w.length = false from eqT_f h _ hk, Bool.and_false]
  | error e => rfl
/-- behind a word that may be there; behind one that must -/
def takX (T : Nat → Int32) (tp : Nat) (w : List Nat) (X : Rs) : Rs := match X with
  | .ok t => if isX T w X = true then .ok (adv T tp t.1) else .ok t
  | .error e => .error e
def wrdX (T : Nat → Int32) (tp : Nat) (w : List Nat) (X : Rs) : Rs := match X with
  | .ok t => if isX T w X = true then .ok (adv T tp t.1) else .error (1, t.2.1)
  | .error e => .error e
def errX (k : Nat) (X : Rs) : Rs := match X with
  | .ok t => .error (k, t.2.1)
  | .error e => .error e
def tokX (X : Rs) : Rs := match X with
  | .ok t => if t.2.2.1 = 2 then .ok t else .error (1, t.2.1)
  | .error e => .error e
def rngX (lo : Nat) (hi : Int) (X : Rs) : Rs := match X with
  | .ok t => if lo ≤ t.2.2.2 ∧ (t.2.2.2 : Int) ≤ hi then .ok t else .error (2, t.2.1)
  | .error e => .error e
def advX (T : Nat → Int32) (tp : Nat) (X : Rs) : Rs := match X with
  | .ok t => .ok (adv T tp t.1)
  | .error e => .error e
def valX (X : Rs) : Nat := match X with
  | .ok t => t.2.2.2
  | .error _ => 0
def numX (T : Nat → Int32) (tp lo : Nat) (hi : Int) (X : Rs) : Rs := advX T tp (rngX lo hi (tokX X))
def numV (lo : Nat) (hi : Int) (X : Rs) : Nat := valX (rngX lo hi (tokX X))
def tldX (T : Nat → Int32) (tp : Nat) (w : List Nat) (lo : Nat) (hi : Int) (X : Rs) : Rs := numX T tp lo hi (wrdX T tp w X)
def tldV (T : Nat → Int32) (tp : Nat) (w : List Nat) (lo : Nat) (hi : Int) (X : Rs) : Nat := numV lo hi (wrdX T tp w X)
theorem rng_tok {lo : Nat} {hi : Int} {X : Rs} {t : Tk} (h : rngX lo hi (tokX X) = .ok t) : t.2.2.1 = 2 ∧ lo ≤ t.2.2.2 ∧ (t.2.2.2 : Int) ≤ hi := by
  cases X with
  | error e => cases h
  | ok u =>
    unfold tokX at h
    dsimp only at h
    split at h
    · rename_i q
      unfold rngX at h
      dsimp only at h
      split at h
      · rename_i q2
        cases h
        exact ⟨q, q2⟩
      · cases h
    · cases h
set_option maxHeartbeats 4000000 in
theorem m_good {l : Launch} {g : Zg} {ad : Nat → Nat} {M : Zm} {st : Ms} (hm : Mod g ad M st) {tp : Nat} {T : Nat → Int32} {X : Rs} (hX : RSt st tp T X)  : Cn l g yX11_good cX11_good 1 (some .boolean) 1 0 0 [.ref (ad 0)] M (PV (.int (z2i (gdX X))) M) := by
  refine Cn.start [(0, .ref (ad 0))] (by decide) (Nat.le_of_ble_eq_true rfl) rfl ?_
  intro γ el eg h hq
  subst el; subst eg
  have hgd := hX.g12
  refine z_aload_n 0 h dX11_good_0 rfl rfl rfl ?_
  refine z_get h kX11 (.inl (hm.at 0 (by decide))) 12 rfl q1859 rfl dX11_good_1 ?_
  refine z_if_ne 11 h dX11_good_4 (by decide) (fun c_4 => ?_) (fun c_4 => ?_)
  · have _z := c_4
    refine z_iconst h dX11_good_11 ki_0 ?_
    refine z_zret h hq rfl dX11_good_12 (Nat.le_of_ble_eq_true rfl) (Nat.le_of_ble_eq_true rfl) ?_
    refine ⟨?_, rfl⟩
    first | exact zb1 (hgd.mp c_4) | exact zb0 (Bool.eq_false_iff.mpr (fun q => c_4 (hgd.mpr q)))
  · have _z := c_4
    refine z_iconst h dX11_good_7 ki_1 ?_
    refine z_goto 12 h dX11_good_8 (by decide) ?_
    refine z_zret h hq rfl dX11_good_12 (Nat.le_of_ble_eq_true rfl) (Nat.le_of_ble_eq_true rfl) ?_
    refine ⟨?_, rfl⟩
    first | exact zb1 (hgd.mp c_4) | exact zb0 (Bool.eq_false_iff.mpr (fun q => c_4 (hgd.mpr q)))
set_option maxHeartbeats 4000000 in
theorem m_errs {l : Launch} {g : Zg} {ad : Nat → Nat} {M : Zm} {st : Ms} (hm : Mod g ad M st) {tp : Nat} {T : Nat → Int32} {X : Rs} (hX : RSt st tp T X) (k : Nat) (hk3 : 1 ≤ k ∧ k ≤ 3) : Cn l g yX11_errs cX11_errs 2 none 2 0 0 [.ref (ad 0), .int (nI k)] M (PMD g ad st none (fun s9 => RSt s9 tp T (errX k X))) := by
  refine Cn.start [(0, .ref (ad 0)), (1, .int (nI k))] (by decide) (Nat.le_of_ble_eq_true rfl) rfl ?_
  intro γ el eg h hq
  subst el; subst eg
  have hk : kpD st st := kpD.rf st
  refine z_aload_n 0 h dX11_errs_0 rfl rfl rfl ?_
  refine z_callVP h (m_good hm hX) kX11 (.inl (hm.at 0 (by decide))) (lw_V q1987 q1989 qs66 q148 q1990) nX11_good rfl rfl rfl (Nat.le_of_ble_eq_true rfl) (Nat.le_of_ble_eq_true rfl) (Nat.le_of_ble_eq_true rfl) dX11_errs_1 ?_
  refine z_ifz_ne 8 h dX11_errs_4 (by decide) (fun c_4 => ?_) (fun c_4 => ?_)
  · have _z := c_4
    obtain ⟨t, rfl⟩ := gd_ok c_4
    obtain ⟨hx, g12, g13, ⟨t8, t9, t10, t11⟩, tB⟩ := hX
    refine z_aload_n 0 h dX11_errs_8 rfl rfl rfl ?_
    refine z_iload_n 1 h dX11_errs_9 rfl rfl ?_
    refine zm_put 12 h hm (by decide) q1859 dX11_errs_10 (fun M hm => ?_)
    generalize hs1 : uS st 12 _ = s1 at hm
    obtain ⟨f1, e1, e1b⟩ := atS hs1
    replace hk := hk.S (Or.inl rfl) hs1
    refine z_aload_n 0 h dX11_errs_13 rfl rfl rfl ?_
    refine z_aload_n 0 h dX11_errs_14 rfl rfl rfl ?_
    refine z_get h kX11 (.inl (hm.at 0 (by decide))) 9 rfl q1856 rfl dX11_errs_15 ?_
    rw [e1 9 (by decide), t9]
    refine zm_put 13 h hm (by decide) q1860 dX11_errs_18 (fun M hm => ?_)
    generalize hs2 : uS s1 13 _ = s2 at hm
    obtain ⟨f2, e2, e2b⟩ := atS hs2
    replace hk := hk.S (Or.inr rfl) hs2
    exact z_vret h hq dX11_errs_21 (Nat.le_of_ble_eq_true rfl) (Nat.le_of_ble_eq_true rfl) (⟨rfl, s2, hm, hk, ⟨hx.1, (hk.1 7 (by decide)).trans hx.2.1, fun j hj => by rw [hk.2]; exact hx.2.2 j hj⟩, (e2 12 (by decide)).trans f1, hk3.1, hk3.2, f2⟩)
  · have _z := c_4
    obtain ⟨e, rfl⟩ := gd_er c_4
    exact z_vret h hq dX11_errs_7 (Nat.le_of_ble_eq_true rfl) (Nat.le_of_ble_eq_true rfl) (⟨rfl, st, hm, hk, hX⟩)
