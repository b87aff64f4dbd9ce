/-! the reference: tokens -/
set_option maxRecDepth 100000
/-- a letter of the tape; behind its end -1 -/
def seeZ (T : Nat → Int32) (tp k : Nat) : Int := if k < tp then (((T k).toBitVec.toNat % 256 : Nat) : Int) else -1
theorem seeZ_b (T : Nat → Int32) (tp k : Nat) : -1 ≤ seeZ T tp k ∧ seeZ T tp k ≤ 255 := by
  unfold seeZ
  split
  · have := Nat.mod_lt (T k).toBitVec.toNat (show 0 < 256 by decide); omega
  · omega
theorem seeZ_e {T : Nat → Int32} {tp k : Nat} (h : seeZ T tp k ≠ -1) : k < tp := by
  unfold seeZ at h
  split at h
  · assumption
  · exact absurd rfl h
def cSp (c : Int) : Bool := decide (c = 32) || decide (c = 10)
def cLo (c : Int) : Bool := decide (97 ≤ c ∧ c ≤ 122)
def cDg (c : Int) : Bool := decide (48 ≤ c ∧ c ≤ 57)
theorem c_e {T : Nat → Int32} {tp k : Nat} {p : Int → Bool} (hp : p (-1) = false) (h : p (seeZ T tp k) = true) : k < tp := seeZ_e (fun q => by rw [q, hp] at h; cases h)
/-- goes on while p -/
def skF (p : Int → Bool) (T : Nat → Int32) (tp : Nat) : Nat → Nat → Nat
  | 0, a => a
  | f + 1, a => if p (seeZ T tp a) = true then skF p T tp f (a + 1) else a
theorem skF_b {p : Int → Bool} (hp : p (-1) = false) {T : Nat → Int32} {tp : Nat} : ∀ f a, a ≤ tp → a ≤ skF p T tp f a ∧ skF p T tp f a ≤ tp
  | 0, a, h => ⟨Nat.le_refl _, h⟩
  | f + 1, a, h => by
    unfold skF
    split
    · rename_i q
      have h1 := c_e (p := p) (tp := tp) (k := a) hp q
      have := skF_b (T := T) (tp := tp) hp f (a + 1) (by omega)
      omega
    · exact ⟨Nat.le_refl _, h⟩
theorem skF_t {p : Int → Bool} {T : Nat → Int32} {tp f a : Nat} (h : p (seeZ T tp a) = true) : skF p T tp (f + 1) a = skF p T tp f (a + 1) := if_pos h
theorem skF_f {p : Int → Bool} {T : Nat → Int32} {tp f a : Nat} (h : p (seeZ T tp a) = false) : skF p T tp f a = a := by
  cases f with
  | zero => rfl
  | succ f => exact if_neg (by rw [h]; decide)
def nmF (T : Nat → Int32) (tp : Nat) : Nat → Nat → Nat → Nat × Nat
  | 0, a, v => (a, v)
  | f + 1, a, v => if cDg (seeZ T tp a) = true then nmF T tp f (a + 1) (min 99999 (10 * v + (seeZ T tp a).toNat - 48)) else (a, v)
theorem nmF_b {T : Nat → Int32} {tp : Nat} : ∀ f a v, a ≤ tp → v ≤ 99999 → a ≤ (nmF T tp f a v).1 ∧ (nmF T tp f a v).1 ≤ tp ∧ (nmF T tp f a v).2 ≤ 99999
  | 0, a, v, h, hv => ⟨Nat.le_refl _, h, hv⟩
  | f + 1, a, v, h, hv => by
    unfold nmF
    split
    · rename_i q
      have h1 := c_e (p := cDg) (k := a) (by decide) q
      have := nmF_b (T := T) (tp := tp) f (a + 1) (min 99999 (10 * v + (seeZ T tp a).toNat - 48)) (by omega) (by omega)
      omega
    · exact ⟨Nat.le_refl _, h, hv⟩
theorem nmF_t {T : Nat → Int32} {tp f a v : Nat} (h : cDg (seeZ T tp a) = true) : nmF T tp (f + 1) a v = nmF T tp f (a + 1) (min 99999 (10 * v + (seeZ T tp a).toNat - 48)) := if_pos h
theorem nmF_f {T : Nat → Int32} {tp f a v : Nat} (h : cDg (seeZ T tp a) = false) : nmF T tp f a v = (a, v) := by
  cases f with
  | zero => rfl
  | succ f => exact if_neg (by rw [h]; decide)
/-- the next token from a: where it ends, where it begins, its kind, its value -/
abbrev Tk : Type := Nat × Nat × Nat × Nat
def advT (T : Nat → Int32) (tp b : Nat) : Tk :=
  if seeZ T tp b = -1 then (b, b, 0, 0) else if cLo (seeZ T tp b) = true then (skF cLo T tp (tp + 1) b, b, 1, 0) else if cDg (seeZ T tp b) = true then ((nmF T tp (tp + 1) b 0).1, b, 2, (nmF T tp (tp + 1) b 0).2) else if seeZ T tp b = 59 then (b + 1, b, 3, 0) else (b + 1, b, 4, 0)
def adv (T : Nat → Int32) (tp a : Nat) : Tk := advT T tp (skF cSp T tp (tp + 1) a)
/-- a token of a text of so many letters -/
def TkB (tp : Nat) (t : Tk) : Prop := t.2.1 ≤ t.1 ∧ t.1 ≤ tp ∧ t.2.2.1 ≤ 4 ∧ t.2.2.2 ≤ 99999 ∧ (t.2.2.1 ≠ 0 → t.2.1 < tp)
theorem advT_b {T : Nat → Int32} {tp b : Nat} (hb : b ≤ tp) : TkB tp (advT T tp b) := by
  unfold advT
  split
  · exact ⟨Nat.le_refl _, hb, by show 0 ≤ 4; decide, by show 0 ≤ 99999; decide, fun q => absurd rfl q⟩
  · rename_i h
    have hlt := seeZ_e h
    split
    · have := skF_b (T := T) (p := cLo) (by decide) (tp + 1) b hb
      exact ⟨this.1, this.2, by show 1 ≤ 4; decide, by show 0 ≤ 99999; decide, fun _ => hlt⟩
    · split
      · have := nmF_b (T := T) (tp + 1) b 0 hb (by decide)
        exact ⟨this.1, this.2.1, by show 2 ≤ 4; decide, this.2.2, fun _ => hlt⟩
      · split
        · exact ⟨by show b ≤ b + 1; omega, hlt, by show 3 ≤ 4; decide, by show 0 ≤ 99999; decide, fun _ => hlt⟩
        · exact ⟨by show b ≤ b + 1; omega, hlt, by show 4 ≤ 4; decide, by show 0 ≤ 99999; decide, fun _ => hlt⟩
theorem adv_b {T : Nat → Int32} {tp a : Nat} (ha : a ≤ tp) : TkB tp (adv T tp a) := advT_b (skF_b (p := cSp) (by decide) _ _ ha).2
/-- the reader's tape -/
def RX (st : Ms) (tp : Nat) (T : Nat → Int32) : Prop := tp ≤ 1200 ∧ st.1 7 = nI tp ∧ ∀ j, j < tp → st.2.1 4 j = T j
/-- what stays when tokens are read -/
def kpR (st st' : Ms) : Prop := (∀ k, k ≠ 8 → k ≠ 9 → k ≠ 10 → k ≠ 11 → st'.1 k = st.1 k) ∧ st'.2 = st.2
theorem kpR.rf (st : Ms) : kpR st st := ⟨fun _ _ _ _ _ => rfl, rfl⟩
theorem kpR.tr {a b c : Ms} (h1 : kpR a b) (h2 : kpR b c) : kpR a c := ⟨fun k a1 a2 a3 a4 => (h2.1 k a1 a2 a3 a4).trans (h1.1 k a1 a2 a3 a4), h2.2.trans h1.2⟩
theorem kpR.S {a st s1 : Ms} {v : Int32} {q : Nat} (hq : q = 8 ∨ q = 9 ∨ q = 10 ∨ q = 11) (h : kpR a st) (e : uS st q v = s1) : kpR a s1 := by
  subst e
  refine ⟨fun k a1 a2 a3 a4 => ?_, h.2⟩
  rw [← h.1 k a1 a2 a3 a4]
  have : k ≠ q := by omega
  simp [uS, this]
theorem RX.kp {st st' : Ms} {tp : Nat} {T : Nat → Int32} (h : RX st tp T) (hk : kpR st st') : RX st' tp T := ⟨h.1, (hk.1 7 (by decide) (by decide) (by decide) (by decide)).trans h.2.1, fun j hj => by rw [hk.2]; exact h.2.2 j hj⟩
def tkR (st : Ms) (t : Tk) : Prop := st.1 8 = nI t.1 ∧ st.1 9 = nI t.2.1 ∧ st.1 10 = nI t.2.2.1 ∧ (t.2.2.1 = 2 → st.1 11 = nI t.2.2.2)
def PMR (g : Zg) (ad : Nat → Nat) (st : Ms) (v : Option Value) (X : Ms → Prop) : Option Value → Zm → Prop := fun r M' => r = v ∧ ∃ st' : Ms, Mod g ad M' st' ∧ kpR st st' ∧ X st'
theorem inI_iI {z a b : Int} (h : -2 ^ 31 ≤ z ∧ z < 2 ^ 31) : inI (iI z) a b = decide (a ≤ z ∧ z ≤ b) := by unfold inI; rw [iI_toInt h]
set_option maxHeartbeats 4000000 in
theorem m_see {l : Launch} {g : Zg} {ad : Nat → Nat} {M : Zm} {st : Ms} (hm : Mod g ad M st) {tp : Nat} {T : Nat → Int32} (hx : RX st tp T) (k : Nat) (hk : k ≤ 2000) : Cn l g yX11_see cX11_see 2 (some .int) 1 0 0 [.ref (ad 0), .int (nI k)] M (PV (.int (iI (seeZ T tp k))) M) := by
  refine Cn.start [(0, .ref (ad 0)), (1, .int (nI k))] (by decide) (Nat.le_of_ble_eq_true rfl) rfl ?_
  intro γ el eg h hq
  subst el; subst eg
  obtain ⟨x1, x2, x3⟩ := hx
  refine z_iload_n 1 h dX11_see_0 rfl rfl ?_
  refine z_aload_n 0 h dX11_see_1 rfl rfl rfl ?_
  refine z_get h kX11 (.inl (hm.at 0 (by decide))) 7 rfl q1854 rfl dX11_see_2 ?_
  rw [x2]
  refine z_icmp_ge 21 h dX11_see_5 (by decide) (fun c_5 => ?_) (fun c_5 => ?_)
  · have _z := c_5
    replace c_5 := (ile (a := tp) (b := k) rfl rfl (by omega) (by omega)).mp c_5
    refine z_iconst h dX11_see_21 ki_m1 ?_
    refine z_iret h hq dX11_see_22 (Nat.le_of_ble_eq_true rfl) (Nat.le_of_ble_eq_true rfl) ?_
    refine ⟨vS ?_, rfl⟩
    unfold seeZ
    first | (rw [if_pos (Nat.lt_of_not_le c_5), pk_and (m := 255) (T k) 8 (by decide)]; exact nz rfl) | (rw [if_neg (Nat.not_lt.mpr c_5)]; decide)
  · have _z := c_5
    replace c_5 := (not_congr (ile (a := tp) (b := k) rfl rfl (by omega) (by omega))).mp c_5
    refine z_aload_n 0 h dX11_see_8 rfl rfl rfl ?_
    refine z_get h kX11 (.inl (hm.at 0 (by decide))) 4 rfl q1851 rfl dX11_see_9 ?_
    refine z_iload_n 1 h dX11_see_12 rfl rfl ?_
    refine z_baldN (k) h (.inl (hm.at 4 (by decide))) rfl (by omega) (by decide) dX11_see_13 ?_
    rw [x3 k (by omega)]
    refine z_sipush h dX11_see_14 ks_255 ?_
    refine z_iand h dX11_see_17 ?_
    refine z_goto 22 h dX11_see_18 (by decide) ?_
    refine z_iret h hq dX11_see_22 (Nat.le_of_ble_eq_true rfl) (Nat.le_of_ble_eq_true rfl) ?_
    refine ⟨vS ?_, rfl⟩
    unfold seeZ
    first | (rw [if_pos (Nat.lt_of_not_le c_5), pk_and (m := 255) (T k) 8 (by decide)]; exact nz rfl) | (rw [if_neg (Nat.not_lt.mpr c_5)]; decide)
theorem dg_val {v : Nat} {z : Int} (h : 48 ≤ z ∧ z ≤ 57) : (10 : Int32) * nI v + iI z - 48 = nI (10 * v + z.toNat - 48) := by
  rw [show iI z = nI z.toNat from by rw [nz (a := z.toNat) rfl]; congr 1; omega]
  exact ixs (b := 48) (ixa (ixm (a := 10) rfl rfl) rfl) rfl (by omega)
theorem min_nI {a b : Nat} (ha : a < 2 ^ 31) (hb : b < 2 ^ 31) : (if nI b < nI a then nI b else nI a) = nI (min a b) := by
  by_cases h : b < a
  · rw [if_pos ((ilt rfl rfl hb ha).mpr h), Nat.min_eq_right (by omega)]
  · rw [if_neg (fun q => h ((ilt rfl rfl hb ha).mp q)), Nat.min_eq_left (by omega)]
set_option maxHeartbeats 4000000 in
theorem m_advance {l : Launch} {g : Zg} {ad : Nat → Nat} {M : Zm} {st : Ms} (hm : Mod g ad M st) {tp : Nat} {T : Nat → Int32} (hx : RX st tp T) (a0 : Nat) (h8 : st.1 8 = nI a0) (ha0 : a0 ≤ tp) : Cn l g yX11_advance cX11_advance 2 none 2 0 0 [.ref (ad 0)] M (PMR g ad st none (fun s9 => tkR s9 (adv T tp a0))) := by
  refine Cn.start [(0, .ref (ad 0))] (by decide) (Nat.le_of_ble_eq_true rfl) rfl ?_
  intro γ el eg h hq
  subst el; subst eg
  have htp := hx.1
  have hk : kpR st st := kpR.rf st
  have loop_0 : ∀ (fz : Nat) (M : Zm) (s1 : Ms) (a : Nat) (f : Nat) (hm : Mod (cg γ) ad M s1) (hk : kpR st s1) (h8 : s1.1 8 = nI a) (ha : a ≤ tp) (hf : tp < a + f) (hF : skF cSp T tp f a = skF cSp T tp (tp + 1) a0), (f) < fz → Z γ M 0 0 0 (lof [(0, .ref (ad 0))]) [] := by
    intro fz
    induction fz with
    | zero => intro M s1 a f hm hk h8 ha hf hF hz; exact absurd hz (Nat.not_lt_zero _)
    | succ fz ih_0 =>
      intro M s1 a f hm hk h8 ha hf hF hz_0
      obtain ⟨f, rfl⟩ : ∃ q, f = q + 1 := ⟨f - 1, by omega⟩
      refine z_aload_n 0 h dX11_advance_0 rfl rfl rfl ?_
      refine z_aload_n 0 h dX11_advance_1 rfl rfl rfl ?_
      refine z_get h kX11 (.inl (hm.at 0 (by decide))) 8 rfl q1855 rfl dX11_advance_2 ?_
      rw [h8]
      refine z_callVP h (m_see hm (hx.kp hk) (a) (by omega)) kX11 (.inl (hm.at 0 (by decide))) (lw_V q1977 q1979 qs65 q148 q1980) nX11_see rfl rfl rfl (Nat.le_of_ble_eq_true rfl) (Nat.le_of_ble_eq_true rfl) (Nat.le_of_ble_eq_true rfl) dX11_advance_5 ?_
      refine z_bipush h dX11_advance_8 kb_32 ?_
      refine z_icmp_eq 26 h dX11_advance_10 (by decide) (fun c_10 => ?_) (fun c_10 => ?_)
      · have _z := c_10
        replace c_10 := (zeq (a := seeZ T tp a) (b := (32)) rfl rfl (by have := seeZ_b T tp (a); omega) (by decide)).mp c_10
        have hsp : cSp (seeZ T tp a) = true := by unfold cSp; rw [c_10]; decide
        have hat := c_e (p := cSp) (by decide) hsp
        refine z_aload_n 0 h dX11_advance_26 rfl rfl rfl ?_
        refine z_dup h dX11_advance_27 rfl ?_
        refine z_get h kX11 (.inl (hm.at 0 (by decide))) 8 rfl q1855 rfl dX11_advance_28 ?_
        rw [h8]
        refine z_iconst h dX11_advance_31 ki_1 ?_
        refine z_iadd h dX11_advance_32 ?_
        refine zm_put 8 h hm (by decide) q1855 dX11_advance_33 (fun M hm => ?_)
        generalize hs1 : uS s1 8 _ = s2 at hm
        obtain ⟨f1, e1, -⟩ := atS hs1
        replace hk := hk.S (by decide) hs1
        refine z_goto 0 h dX11_advance_36 (by decide) ?_
        refine Z.loc [(0, .ref (ad 0))] (ll1 rfl ll0) ?_
        exact ih_0 _ _ (a + 1) f hm hk (f1.trans (nI_1 a)) (by omega) (by omega) (by rw [← hF, skF_t hsp]) (by omega)
      · have _z := c_10
        replace c_10 := (not_congr (zeq (a := seeZ T tp a) (b := (32)) rfl rfl (by have := seeZ_b T tp (a); omega) (by decide))).mp c_10
        refine z_aload_n 0 h dX11_advance_13 rfl rfl rfl ?_
        refine z_aload_n 0 h dX11_advance_14 rfl rfl rfl ?_
        refine z_get h kX11 (.inl (hm.at 0 (by decide))) 8 rfl q1855 rfl dX11_advance_15 ?_
        rw [h8]
        refine z_callVP h (m_see hm (hx.kp hk) (a) (by omega)) kX11 (.inl (hm.at 0 (by decide))) (lw_V q1977 q1979 qs65 q148 q1980) nX11_see rfl rfl rfl (Nat.le_of_ble_eq_true rfl) (Nat.le_of_ble_eq_true rfl) (Nat.le_of_ble_eq_true rfl) dX11_advance_18 ?_
        refine z_bipush h dX11_advance_21 kb_10 ?_
        refine z_icmp_ne 39 h dX11_advance_23 (by decide) (fun c_23 => ?_) (fun c_23 => ?_)
        · have _z := c_23
          replace c_23 := (not_congr (zeq (a := seeZ T tp a) (b := (10)) rfl rfl (by have := seeZ_b T tp (a); omega) (by decide))).mp c_23
          have hsp : cSp (seeZ T tp a) = false := by unfold cSp; rw [decide_eq_false c_10, decide_eq_false c_23]; rfl
          have hb : skF cSp T tp (tp + 1) a0 = a := by rw [← hF, skF_f hsp]
          refine z_aload_n 0 h dX11_advance_39 rfl rfl rfl ?_
          refine z_aload_n 0 h dX11_advance_40 rfl rfl rfl ?_
          refine z_get h kX11 (.inl (hm.at 0 (by decide))) 8 rfl q1855 rfl dX11_advance_41 ?_
          rw [h8]
          refine zm_put 9 h hm (by decide) q1856 dX11_advance_44 (fun M hm => ?_)
          generalize hs2 : uS s1 9 _ = s2 at hm
          obtain ⟨f2, e2, -⟩ := atS hs2
          replace hk := hk.S (by decide) hs2
          replace h8 : s2.1 8 = nI a := (e2 8 (by decide)).trans h8
          refine z_aload_n 0 h dX11_advance_47 rfl rfl rfl ?_
          refine z_aload_n 0 h dX11_advance_48 rfl rfl rfl ?_
          refine z_get h kX11 (.inl (hm.at 0 (by decide))) 8 rfl q1855 rfl dX11_advance_49 ?_
          rw [h8]
          refine z_callVP h (m_see hm (hx.kp hk) (a) (by omega)) kX11 (.inl (hm.at 0 (by decide))) (lw_V q1977 q1979 qs65 q148 q1980) nX11_see rfl rfl rfl (Nat.le_of_ble_eq_true rfl) (Nat.le_of_ble_eq_true rfl) (Nat.le_of_ble_eq_true rfl) dX11_advance_52 ?_
          refine z_istore_n 1 h dX11_advance_55 rfl rfl ?_
          refine z_iload_n 1 h dX11_advance_56 rfl rfl ?_
          refine z_iconst h dX11_advance_57 ki_m1 ?_
          refine z_icmp_ne 69 h dX11_advance_58 (by decide) (fun c_58 => ?_) (fun c_58 => ?_)
          · have _z := c_58
            replace c_58 := (not_congr (zeq (a := seeZ T tp a) (b := (-1)) rfl (by decide) (by have := seeZ_b T tp (a); omega) (by decide))).mp c_58
            have hne : seeZ T tp a ≠ -1 := by omega
            have hat := seeZ_e hne
            refine z_iload_n 1 h dX11_advance_69 rfl rfl ?_
            refine z_i2l h dX11_advance_70 ?_
            refine z_ldc2 h q1981 dX11_advance_71 ?_
            refine z_ldc2 h q1982 dX11_advance_74 ?_
            refine z_callSP h (m_inI (iI (seeZ T tp a)) 97 122 97 122 rfl rfl) (lw_S q1950 q1951 q148 q1952) nX11_in rfl rfl rfl (Nat.le_of_ble_eq_true rfl) (Nat.le_of_ble_eq_true rfl) (Nat.le_of_ble_eq_true rfl) dX11_advance_77 ?_
            rw [show inI (iI (seeZ T tp a)) 97 122 = cLo (seeZ T tp a) from inI_iI (by have := seeZ_b T tp a; omega)]
            refine z_ifz_eq 125 h dX11_advance_80 (by decide) (fun c_80 => ?_) (fun c_80 => ?_)
            · have _z := c_80
              refine z_iload_n 1 h dX11_advance_125 rfl rfl ?_
              refine z_i2l h dX11_advance_126 ?_
              refine z_ldc2 h q1983 dX11_advance_127 ?_
              refine z_ldc2 h q1984 dX11_advance_130 ?_
              refine z_callSP h (m_inI (iI (seeZ T tp a)) 48 57 48 57 rfl rfl) (lw_S q1950 q1951 q148 q1952) nX11_in rfl rfl rfl (Nat.le_of_ble_eq_true rfl) (Nat.le_of_ble_eq_true rfl) (Nat.le_of_ble_eq_true rfl) dX11_advance_133 ?_
              rw [show inI (iI (seeZ T tp a)) 48 57 = cDg (seeZ T tp a) from inI_iI (by have := seeZ_b T tp a; omega)]
              refine z_ifz_eq 214 h dX11_advance_136 (by decide) (fun c_136 => ?_) (fun c_136 => ?_)
              · have _z := c_136
                refine z_aload_n 0 h dX11_advance_214 rfl rfl rfl ?_
                refine z_iload_n 1 h dX11_advance_215 rfl rfl ?_
                refine z_bipush h dX11_advance_216 kb_59 ?_
                refine z_icmp_ne 225 h dX11_advance_218 (by decide) (fun c_218 => ?_) (fun c_218 => ?_)
                · have _z := c_218
                  replace c_218 := (not_congr (zeq (a := seeZ T tp a) (b := (59)) rfl rfl (by have := seeZ_b T tp (a); omega) (by decide))).mp c_218
                  have h59 : ¬ seeZ T tp a = 59 := c_218
                  refine z_iconst h dX11_advance_225 ki_4 ?_
                  refine zm_put 10 h hm (by decide) q1857 dX11_advance_226 (fun M hm => ?_)
                  generalize hs3 : uS s2 10 _ = s3 at hm
                  obtain ⟨f3, e3, -⟩ := atS hs3
                  replace hk := hk.S (by decide) hs3
                  replace h8 : s3.1 8 = nI a := (e3 8 (by decide)).trans h8
                  refine z_aload_n 0 h dX11_advance_229 rfl rfl rfl ?_
                  refine z_dup h dX11_advance_230 rfl ?_
                  refine z_get h kX11 (.inl (hm.at 0 (by decide))) 8 rfl q1855 rfl dX11_advance_231 ?_
                  rw [h8]
                  refine z_iconst h dX11_advance_234 ki_1 ?_
                  refine z_iadd h dX11_advance_235 ?_
                  refine zm_put 8 h hm (by decide) q1855 dX11_advance_236 (fun M hm => ?_)
                  generalize hs4 : uS s3 8 _ = s4 at hm
                  obtain ⟨f4, e4, -⟩ := atS hs4
                  replace hk := hk.S (by decide) hs4
                  refine z_vret h hq dX11_advance_239 (Nat.le_of_ble_eq_true rfl) (Nat.le_of_ble_eq_true rfl) ?_
                  first | (refine ⟨rfl, s3, hm, hk, ?_⟩; rw [adv, hb, advT, if_pos hend]; exact ⟨(e3 8 (by decide)).trans h8, (e3 9 (by decide)).trans f2, f3, fun q => absurd (show (0 : Nat) = 2 from q) (by decide)⟩) | (refine ⟨rfl, s4, hm, hk, ?_⟩; rw [adv, hb, advT, if_neg hne, if_pos c_80, ← hG, skF_f c_101]; exact ⟨(e4 8 (by decide)).trans h8, (e4 9 (by decide)).trans h9, f4, fun q => absurd (show (1 : Nat) = 2 from q) (by decide)⟩) | (refine ⟨rfl, s5, hm, hk, ?_⟩; rw [adv, hb, advT, if_neg hne, if_neg (by rw [c_80]; decide), if_pos c_136, ← hG, nmF_f c_162]; exact ⟨(e5 8 (by decide)).trans h8, (e5 9 (by decide)).trans h9, f5, fun _ => (e5 11 (by decide)).trans h11⟩) | (refine ⟨rfl, s4, hm, hk, ?_⟩; rw [adv, hb, advT, if_neg hne, if_neg (by rw [c_80]; decide), if_neg (by rw [c_136]; decide), if_pos h59]; exact ⟨f4.trans (nI_1 a), (e4 9 (by decide)).trans ((e3 9 (by decide)).trans f2), (e4 10 (by decide)).trans f3, fun q => absurd (show (3 : Nat) = 2 from q) (by decide)⟩) | (refine ⟨rfl, s4, hm, hk, ?_⟩; rw [adv, hb, advT, if_neg hne, if_neg (by rw [c_80]; decide), if_neg (by rw [c_136]; decide), if_neg h59]; exact ⟨f4.trans (nI_1 a), (e4 9 (by decide)).trans ((e3 9 (by decide)).trans f2), (e4 10 (by decide)).trans f3, fun q => absurd (show (4 : Nat) = 2 from q) (by decide)⟩)
                · have _z := c_218
                  replace c_218 := (zeq (a := seeZ T tp a) (b := (59)) rfl rfl (by have := seeZ_b T tp (a); omega) (by decide)).mp c_218
                  have h59 : seeZ T tp a = 59 := by omega
                  refine z_iconst h dX11_advance_221 ki_3 ?_
                  refine z_goto 226 h dX11_advance_222 (by decide) ?_
                  refine zm_put 10 h hm (by decide) q1857 dX11_advance_226 (fun M hm => ?_)
                  generalize hs3 : uS s2 10 _ = s3 at hm
                  obtain ⟨f3, e3, -⟩ := atS hs3
                  replace hk := hk.S (by decide) hs3
                  replace h8 : s3.1 8 = nI a := (e3 8 (by decide)).trans h8
                  refine z_aload_n 0 h dX11_advance_229 rfl rfl rfl ?_
                  refine z_dup h dX11_advance_230 rfl ?_
                  refine z_get h kX11 (.inl (hm.at 0 (by decide))) 8 rfl q1855 rfl dX11_advance_231 ?_
                  rw [h8]
                  refine z_iconst h dX11_advance_234 ki_1 ?_
                  refine z_iadd h dX11_advance_235 ?_
                  refine zm_put 8 h hm (by decide) q1855 dX11_advance_236 (fun M hm => ?_)
                  generalize hs4 : uS s3 8 _ = s4 at hm
                  obtain ⟨f4, e4, -⟩ := atS hs4
                  replace hk := hk.S (by decide) hs4
                  refine z_vret h hq dX11_advance_239 (Nat.le_of_ble_eq_true rfl) (Nat.le_of_ble_eq_true rfl) ?_
                  first | (refine ⟨rfl, s3, hm, hk, ?_⟩; rw [adv, hb, advT, if_pos hend]; exact ⟨(e3 8 (by decide)).trans h8, (e3 9 (by decide)).trans f2, f3, fun q => absurd (show (0 : Nat) = 2 from q) (by decide)⟩) | (refine ⟨rfl, s4, hm, hk, ?_⟩; rw [adv, hb, advT, if_neg hne, if_pos c_80, ← hG, skF_f c_101]; exact ⟨(e4 8 (by decide)).trans h8, (e4 9 (by decide)).trans h9, f4, fun q => absurd (show (1 : Nat) = 2 from q) (by decide)⟩) | (refine ⟨rfl, s5, hm, hk, ?_⟩; rw [adv, hb, advT, if_neg hne, if_neg (by rw [c_80]; decide), if_pos c_136, ← hG, nmF_f c_162]; exact ⟨(e5 8 (by decide)).trans h8, (e5 9 (by decide)).trans h9, f5, fun _ => (e5 11 (by decide)).trans h11⟩) | (refine ⟨rfl, s4, hm, hk, ?_⟩; rw [adv, hb, advT, if_neg hne, if_neg (by rw [c_80]; decide), if_neg (by rw [c_136]; decide), if_pos h59]; exact ⟨f4.trans (nI_1 a), (e4 9 (by decide)).trans ((e3 9 (by decide)).trans f2), (e4 10 (by decide)).trans f3, fun q => absurd (show (3 : Nat) = 2 from q) (by decide)⟩) | (refine ⟨rfl, s4, hm, hk, ?_⟩; rw [adv, hb, advT, if_neg hne, if_neg (by rw [c_80]; decide), if_neg (by rw [c_136]; decide), if_neg h59]; exact ⟨f4.trans (nI_1 a), (e4 9 (by decide)).trans ((e3 9 (by decide)).trans f2), (e4 10 (by decide)).trans f3, fun q => absurd (show (4 : Nat) = 2 from q) (by decide)⟩)
              · have _z := c_136
                refine z_aload_n 0 h dX11_advance_139 rfl rfl rfl ?_
                refine z_iconst h dX11_advance_140 ki_0 ?_
                refine zm_put 11 h hm (by decide) q1858 dX11_advance_141 (fun M hm => ?_)
                generalize hs3 : uS s2 11 _ = s3 at hm
                obtain ⟨f3, e3, -⟩ := atS hs3
                replace hk := hk.S (by decide) hs3
                replace h8 : s3.1 8 = nI a := (e3 8 (by decide)).trans h8
                have loop_144 : ∀ (fz : Nat) (M : Zm) (s4 : Ms) (q : Nat) (v : Nat) (f : Nat) (hm : Mod (cg γ) ad M s4) (hk : kpR st s4) (h8 : s4.1 8 = nI q) (h11 : s4.1 11 = nI v) (hq1 : q ≤ tp) (hv : v ≤ 99999) (hf : tp < q + f) (hG : nmF T tp f q v = nmF T tp (tp + 1) a 0) (h9 : s4.1 9 = nI a), (f) < fz → Z γ M 0 0 144 (lof [(0, .ref (ad 0)), (1, .int (iI (seeZ T tp a)))]) [] := by
                  intro fz
                  induction fz with
                  | zero => intro M s4 q v f hm hk h8 h11 hq1 hv hf hG h9 hz; exact absurd hz (Nat.not_lt_zero _)
                  | succ fz ih_144 =>
                    intro M s4 q v f hm hk h8 h11 hq1 hv hf hG h9 hz_144
                    obtain ⟨f, rfl⟩ : ∃ q, f = q + 1 := ⟨f - 1, by omega⟩
                    refine z_aload_n 0 h dX11_advance_144 rfl rfl rfl ?_
                    refine z_aload_n 0 h dX11_advance_145 rfl rfl rfl ?_
                    refine z_get h kX11 (.inl (hm.at 0 (by decide))) 8 rfl q1855 rfl dX11_advance_146 ?_
                    rw [h8]
                    refine z_callVP h (m_see hm (hx.kp hk) (q) (by omega)) kX11 (.inl (hm.at 0 (by decide))) (lw_V q1977 q1979 qs65 q148 q1980) nX11_see rfl rfl rfl (Nat.le_of_ble_eq_true rfl) (Nat.le_of_ble_eq_true rfl) (Nat.le_of_ble_eq_true rfl) dX11_advance_149 ?_
                    refine z_i2l h dX11_advance_152 ?_
                    refine z_ldc2 h q1983 dX11_advance_153 ?_
                    refine z_ldc2 h q1984 dX11_advance_156 ?_
                    refine z_callSP h (m_inI (iI (seeZ T tp q)) 48 57 48 57 rfl rfl) (lw_S q1950 q1951 q148 q1952) nX11_in rfl rfl rfl (Nat.le_of_ble_eq_true rfl) (Nat.le_of_ble_eq_true rfl) (Nat.le_of_ble_eq_true rfl) dX11_advance_159 ?_
                    rw [show inI (iI (seeZ T tp q)) 48 57 = cDg (seeZ T tp q) from inI_iI (by have := seeZ_b T tp q; omega)]
                    refine z_ifz_eq 206 h dX11_advance_162 (by decide) (fun c_162 => ?_) (fun c_162 => ?_)
                    · have _z := c_162
                      refine z_aload_n 0 h dX11_advance_206 rfl rfl rfl ?_
                      refine z_iconst h dX11_advance_207 ki_2 ?_
                      refine zm_put 10 h hm (by decide) q1857 dX11_advance_208 (fun M hm => ?_)
                      generalize hs5 : uS s4 10 _ = s5 at hm
                      obtain ⟨f5, e5, -⟩ := atS hs5
                      replace hk := hk.S (by decide) hs5
                      refine z_goto 239 h dX11_advance_211 (by decide) ?_
                      refine z_vret h hq dX11_advance_239 (Nat.le_of_ble_eq_true rfl) (Nat.le_of_ble_eq_true rfl) ?_
                      first | (refine ⟨rfl, s3, hm, hk, ?_⟩; rw [adv, hb, advT, if_pos hend]; exact ⟨(e3 8 (by decide)).trans h8, (e3 9 (by decide)).trans f2, f3, fun q => absurd (show (0 : Nat) = 2 from q) (by decide)⟩) | (refine ⟨rfl, s4, hm, hk, ?_⟩; rw [adv, hb, advT, if_neg hne, if_pos c_80, ← hG, skF_f c_101]; exact ⟨(e4 8 (by decide)).trans h8, (e4 9 (by decide)).trans h9, f4, fun q => absurd (show (1 : Nat) = 2 from q) (by decide)⟩) | (refine ⟨rfl, s5, hm, hk, ?_⟩; rw [adv, hb, advT, if_neg hne, if_neg (by rw [c_80]; decide), if_pos c_136, ← hG, nmF_f c_162]; exact ⟨(e5 8 (by decide)).trans h8, (e5 9 (by decide)).trans h9, f5, fun _ => (e5 11 (by decide)).trans h11⟩) | (refine ⟨rfl, s4, hm, hk, ?_⟩; rw [adv, hb, advT, if_neg hne, if_neg (by rw [c_80]; decide), if_neg (by rw [c_136]; decide), if_pos h59]; exact ⟨f4.trans (nI_1 a), (e4 9 (by decide)).trans ((e3 9 (by decide)).trans f2), (e4 10 (by decide)).trans f3, fun q => absurd (show (3 : Nat) = 2 from q) (by decide)⟩) | (refine ⟨rfl, s4, hm, hk, ?_⟩; rw [adv, hb, advT, if_neg hne, if_neg (by rw [c_80]; decide), if_neg (by rw [c_136]; decide), if_neg h59]; exact ⟨f4.trans (nI_1 a), (e4 9 (by decide)).trans ((e3 9 (by decide)).trans f2), (e4 10 (by decide)).trans f3, fun q => absurd (show (4 : Nat) = 2 from q) (by decide)⟩)
                    · have _z := c_162
                      have hqt := c_e (p := cDg) (k := q) (by decide) c_162
                      have hdg : 48 ≤ seeZ T tp q ∧ seeZ T tp q ≤ 57 := of_decide_eq_true c_162
                      refine z_aload_n 0 h dX11_advance_165 rfl rfl rfl ?_
                      refine z_ldc h q1985 dX11_advance_166 ?_
                      refine z_bipush h dX11_advance_168 kb_10 ?_
                      refine z_aload_n 0 h dX11_advance_170 rfl rfl rfl ?_
                      refine z_get h kX11 (.inl (hm.at 0 (by decide))) 11 rfl q1858 rfl dX11_advance_171 ?_
                      rw [h11]
                      refine z_imul h dX11_advance_174 ?_
                      refine z_aload_n 0 h dX11_advance_175 rfl rfl rfl ?_
                      refine z_aload_n 0 h dX11_advance_176 rfl rfl rfl ?_
                      refine z_get h kX11 (.inl (hm.at 0 (by decide))) 8 rfl q1855 rfl dX11_advance_177 ?_
                      rw [h8]
                      refine z_callVP h (m_see hm (hx.kp hk) (q) (by omega)) kX11 (.inl (hm.at 0 (by decide))) (lw_V q1977 q1979 qs65 q148 q1980) nX11_see rfl rfl rfl (Nat.le_of_ble_eq_true rfl) (Nat.le_of_ble_eq_true rfl) (Nat.le_of_ble_eq_true rfl) dX11_advance_180 ?_
                      refine z_iadd h dX11_advance_183 ?_
                      refine z_bipush h dX11_advance_184 kb_48 ?_
                      refine z_isub h dX11_advance_186 ?_
                      refine Z.st (show _ = [.int (nI (10 * v + (seeZ T tp q).toNat - 48)), .int (nI 99999), .ref (ad 0)] by rw [dg_val hdg]; rfl) ?_
                      refine z_callSP h (j_min (nI 99999) (nI (10 * v + (seeZ T tp q).toNat - 48))) (lw_S q1986 q716 q150 q717) nJ3_min rfl rfl rfl (Nat.le_of_ble_eq_true rfl) (Nat.le_of_ble_eq_true rfl) (Nat.le_of_ble_eq_true rfl) dX11_advance_187 ?_
                      rw [min_nI (by omega) (by omega)]
                      refine zm_put 11 h hm (by decide) q1858 dX11_advance_190 (fun M hm => ?_)
                      generalize hs5 : uS s4 11 _ = s5 at hm
                      obtain ⟨f5, e5, -⟩ := atS hs5
                      replace hk := hk.S (by decide) hs5
                      replace h8 : s5.1 8 = nI q := (e5 8 (by decide)).trans h8
                      refine z_aload_n 0 h dX11_advance_193 rfl rfl rfl ?_
                      refine z_dup h dX11_advance_194 rfl ?_
                      refine z_get h kX11 (.inl (hm.at 0 (by decide))) 8 rfl q1855 rfl dX11_advance_195 ?_
                      rw [h8]
                      refine z_iconst h dX11_advance_198 ki_1 ?_
                      refine z_iadd h dX11_advance_199 ?_
                      refine zm_put 8 h hm (by decide) q1855 dX11_advance_200 (fun M hm => ?_)
                      generalize hs6 : uS s5 8 _ = s6 at hm
                      obtain ⟨f6, e6, -⟩ := atS hs6
                      replace hk := hk.S (by decide) hs6
                      refine z_goto 144 h dX11_advance_203 (by decide) ?_
                      refine Z.loc [(0, .ref (ad 0)), (1, .int (iI (seeZ T tp a)))] (ll1 rfl (ll1 rfl ll0)) ?_
                      exact ih_144 _ _ (q + 1) (min 99999 (10 * v + (seeZ T tp q).toNat - 48)) f hm hk (f6.trans (nI_1 q)) ((e6 11 (by decide)).trans f5) (by omega) (by omega) (by omega) (by rw [← hG, nmF_t c_162]) ((e6 9 (by decide)).trans ((e5 9 (by decide)).trans h9)) (by omega)
                refine Z.loc [(0, .ref (ad 0)), (1, .int (iI (seeZ T tp a)))] (ll1 rfl (ll1 rfl ll0)) ?_
                exact loop_144 _ _ _ a 0 (tp + 1) hm hk h8 f3 ha (by omega) (by omega) rfl ((e3 9 (by decide)).trans f2) (Nat.lt_succ_self _)
            · have _z := c_80
              have loop_83 : ∀ (fz : Nat) (M : Zm) (s3 : Ms) (q : Nat) (f : Nat) (hm : Mod (cg γ) ad M s3) (hk : kpR st s3) (h8 : s3.1 8 = nI q) (hq1 : q ≤ tp) (hf : tp < q + f) (hG : skF cLo T tp f q = skF cLo T tp (tp + 1) a) (h9 : s3.1 9 = nI a), (f) < fz → Z γ M 0 0 83 (lof [(0, .ref (ad 0)), (1, .int (iI (seeZ T tp a)))]) [] := by
                intro fz
                induction fz with
                | zero => intro M s3 q f hm hk h8 hq1 hf hG h9 hz; exact absurd hz (Nat.not_lt_zero _)
                | succ fz ih_83 =>
                  intro M s3 q f hm hk h8 hq1 hf hG h9 hz_83
                  obtain ⟨f, rfl⟩ : ∃ q, f = q + 1 := ⟨f - 1, by omega⟩
                  refine z_aload_n 0 h dX11_advance_83 rfl rfl rfl ?_
                  refine z_aload_n 0 h dX11_advance_84 rfl rfl rfl ?_
                  refine z_get h kX11 (.inl (hm.at 0 (by decide))) 8 rfl q1855 rfl dX11_advance_85 ?_
                  rw [h8]
                  refine z_callVP h (m_see hm (hx.kp hk) (q) (by omega)) kX11 (.inl (hm.at 0 (by decide))) (lw_V q1977 q1979 qs65 q148 q1980) nX11_see rfl rfl rfl (Nat.le_of_ble_eq_true rfl) (Nat.le_of_ble_eq_true rfl) (Nat.le_of_ble_eq_true rfl) dX11_advance_88 ?_
                  refine z_i2l h dX11_advance_91 ?_
                  refine z_ldc2 h q1981 dX11_advance_92 ?_
                  refine z_ldc2 h q1982 dX11_advance_95 ?_
                  refine z_callSP h (m_inI (iI (seeZ T tp q)) 97 122 97 122 rfl rfl) (lw_S q1950 q1951 q148 q1952) nX11_in rfl rfl rfl (Nat.le_of_ble_eq_true rfl) (Nat.le_of_ble_eq_true rfl) (Nat.le_of_ble_eq_true rfl) dX11_advance_98 ?_
                  rw [show inI (iI (seeZ T tp q)) 97 122 = cLo (seeZ T tp q) from inI_iI (by have := seeZ_b T tp q; omega)]
                  refine z_ifz_eq 117 h dX11_advance_101 (by decide) (fun c_101 => ?_) (fun c_101 => ?_)
                  · have _z := c_101
                    refine z_aload_n 0 h dX11_advance_117 rfl rfl rfl ?_
                    refine z_iconst h dX11_advance_118 ki_1 ?_
                    refine zm_put 10 h hm (by decide) q1857 dX11_advance_119 (fun M hm => ?_)
                    generalize hs4 : uS s3 10 _ = s4 at hm
                    obtain ⟨f4, e4, -⟩ := atS hs4
                    replace hk := hk.S (by decide) hs4
                    refine z_goto 239 h dX11_advance_122 (by decide) ?_
                    refine z_vret h hq dX11_advance_239 (Nat.le_of_ble_eq_true rfl) (Nat.le_of_ble_eq_true rfl) ?_
                    first | (refine ⟨rfl, s3, hm, hk, ?_⟩; rw [adv, hb, advT, if_pos hend]; exact ⟨(e3 8 (by decide)).trans h8, (e3 9 (by decide)).trans f2, f3, fun q => absurd (show (0 : Nat) = 2 from q) (by decide)⟩) | (refine ⟨rfl, s4, hm, hk, ?_⟩; rw [adv, hb, advT, if_neg hne, if_pos c_80, ← hG, skF_f c_101]; exact ⟨(e4 8 (by decide)).trans h8, (e4 9 (by decide)).trans h9, f4, fun q => absurd (show (1 : Nat) = 2 from q) (by decide)⟩) | (refine ⟨rfl, s5, hm, hk, ?_⟩; rw [adv, hb, advT, if_neg hne, if_neg (by rw [c_80]; decide), if_pos c_136, ← hG, nmF_f c_162]; exact ⟨(e5 8 (by decide)).trans h8, (e5 9 (by decide)).trans h9, f5, fun _ => (e5 11 (by decide)).trans h11⟩) | (refine ⟨rfl, s4, hm, hk, ?_⟩; rw [adv, hb, advT, if_neg hne, if_neg (by rw [c_80]; decide), if_neg (by rw [c_136]; decide), if_pos h59]; exact ⟨f4.trans (nI_1 a), (e4 9 (by decide)).trans ((e3 9 (by decide)).trans f2), (e4 10 (by decide)).trans f3, fun q => absurd (show (3 : Nat) = 2 from q) (by decide)⟩) | (refine ⟨rfl, s4, hm, hk, ?_⟩; rw [adv, hb, advT, if_neg hne, if_neg (by rw [c_80]; decide), if_neg (by rw [c_136]; decide), if_neg h59]; exact ⟨f4.trans (nI_1 a), (e4 9 (by decide)).trans ((e3 9 (by decide)).trans f2), (e4 10 (by decide)).trans f3, fun q => absurd (show (4 : Nat) = 2 from q) (by decide)⟩)
                  · have _z := c_101
                    have hqt := c_e (p := cLo) (k := q) (by decide) c_101
                    refine z_aload_n 0 h dX11_advance_104 rfl rfl rfl ?_
                    refine z_dup h dX11_advance_105 rfl ?_
                    refine z_get h kX11 (.inl (hm.at 0 (by decide))) 8 rfl q1855 rfl dX11_advance_106 ?_
                    rw [h8]
                    refine z_iconst h dX11_advance_109 ki_1 ?_
                    refine z_iadd h dX11_advance_110 ?_
                    refine zm_put 8 h hm (by decide) q1855 dX11_advance_111 (fun M hm => ?_)
                    generalize hs4 : uS s3 8 _ = s4 at hm
                    obtain ⟨f4, e4, -⟩ := atS hs4
                    replace hk := hk.S (by decide) hs4
                    refine z_goto 83 h dX11_advance_114 (by decide) ?_
                    refine Z.loc [(0, .ref (ad 0)), (1, .int (iI (seeZ T tp a)))] (ll1 rfl (ll1 rfl ll0)) ?_
                    exact ih_83 _ _ (q + 1) f hm hk (f4.trans (nI_1 q)) (by omega) (by omega) (by rw [← hG, skF_t c_101]) ((e4 9 (by decide)).trans h9) (by omega)
              refine Z.loc [(0, .ref (ad 0)), (1, .int (iI (seeZ T tp a)))] (ll1 rfl (ll1 rfl ll0)) ?_
              exact loop_83 _ _ _ a (tp + 1) hm hk h8 ha (by omega) rfl f2 (Nat.lt_succ_self _)
          · have _z := c_58
            replace c_58 := (zeq (a := seeZ T tp a) (b := (-1)) rfl (by decide) (by have := seeZ_b T tp (a); omega) (by decide)).mp c_58
            have hend : seeZ T tp a = -1 := by omega
            refine z_aload_n 0 h dX11_advance_61 rfl rfl rfl ?_
            refine z_iconst h dX11_advance_62 ki_0 ?_
            refine zm_put 10 h hm (by decide) q1857 dX11_advance_63 (fun M hm => ?_)
            generalize hs3 : uS s2 10 _ = s3 at hm
            obtain ⟨f3, e3, -⟩ := atS hs3
            replace hk := hk.S (by decide) hs3
            refine z_goto 239 h dX11_advance_66 (by decide) ?_
            refine z_vret h hq dX11_advance_239 (Nat.le_of_ble_eq_true rfl) (Nat.le_of_ble_eq_true rfl) ?_
            first | (refine ⟨rfl, s3, hm, hk, ?_⟩; rw [adv, hb, advT, if_pos hend]; exact ⟨(e3 8 (by decide)).trans h8, (e3 9 (by decide)).trans f2, f3, fun q => absurd (show (0 : Nat) = 2 from q) (by decide)⟩) | (refine ⟨rfl, s4, hm, hk, ?_⟩; rw [adv, hb, advT, if_neg hne, if_pos c_80, ← hG, skF_f c_101]; exact ⟨(e4 8 (by decide)).trans h8, (e4 9 (by decide)).trans h9, f4, fun q => absurd (show (1 : Nat) = 2 from q) (by decide)⟩) | (refine ⟨rfl, s5, hm, hk, ?_⟩; rw [adv, hb, advT, if_neg hne, if_neg (by rw [c_80]; decide), if_pos c_136, ← hG, nmF_f c_162]; exact ⟨(e5 8 (by decide)).trans h8, (e5 9 (by decide)).trans h9, f5, fun _ => (e5 11 (by decide)).trans h11⟩) | (refine ⟨rfl, s4, hm, hk, ?_⟩; rw [adv, hb, advT, if_neg hne, if_neg (by rw [c_80]; decide), if_neg (by rw [c_136]; decide), if_pos h59]; exact ⟨f4.trans (nI_1 a), (e4 9 (by decide)).trans ((e3 9 (by decide)).trans f2), (e4 10 (by decide)).trans f3, fun q => absurd (show (3 : Nat) = 2 from q) (by decide)⟩) | (refine ⟨rfl, s4, hm, hk, ?_⟩; rw [adv, hb, advT, if_neg hne, if_neg (by rw [c_80]; decide), if_neg (by rw [c_136]; decide), if_neg h59]; exact ⟨f4.trans (nI_1 a), (e4 9 (by decide)).trans ((e3 9 (by decide)).trans f2), (e4 10 (by decide)).trans f3, fun q => absurd (show (4 : Nat) = 2 from q) (by decide)⟩)
        · have _z := c_23
          replace c_23 := (zeq (a := seeZ T tp a) (b := (10)) rfl rfl (by have := seeZ_b T tp (a); omega) (by decide)).mp c_23
          have hsp : cSp (seeZ T tp a) = true := by unfold cSp; rw [c_23]; decide
          have hat := c_e (p := cSp) (by decide) hsp
          refine z_aload_n 0 h dX11_advance_26 rfl rfl rfl ?_
          refine z_dup h dX11_advance_27 rfl ?_
          refine z_get h kX11 (.inl (hm.at 0 (by decide))) 8 rfl q1855 rfl dX11_advance_28 ?_
          rw [h8]
          refine z_iconst h dX11_advance_31 ki_1 ?_
          refine z_iadd h dX11_advance_32 ?_
          refine zm_put 8 h hm (by decide) q1855 dX11_advance_33 (fun M hm => ?_)
          generalize hs1 : uS s1 8 _ = s2 at hm
          obtain ⟨f1, e1, -⟩ := atS hs1
          replace hk := hk.S (by decide) hs1
          refine z_goto 0 h dX11_advance_36 (by decide) ?_
          refine Z.loc [(0, .ref (ad 0))] (ll1 rfl ll0) ?_
          exact ih_0 _ _ (a + 1) f hm hk (f1.trans (nI_1 a)) (by omega) (by omega) (by rw [← hF, skF_t hsp]) (by omega)
  refine Z.loc [(0, .ref (ad 0))] (ll1 rfl ll0) ?_
  exact loop_0 _ _ _ a0 (tp + 1) hm hk h8 ha0 (by omega) rfl (Nat.lt_succ_self _)
