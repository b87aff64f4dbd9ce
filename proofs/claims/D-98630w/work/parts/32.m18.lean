/-! the reference: images, slots, tape -/
set_option maxRecDepth 100000
/-- images -/
def ImR (st : Ms) (Im : Nat → Option (Nat → Nat)) : Prop := ∀ k, k < 3 → (Im k = none → st.2.1 3 k = 0) ∧ ∀ V, Im k = some V → st.2.1 3 k = 1 ∧ ∀ j, j < 240 → st.2.1 2 (240 * k + j) = nI (V j)
def aImage (v : Int32) : Int32 := if inI v 0 2 = true then 0 else -2
def wImage (W : Nat → Nat) (Im : Nat → Option (Nat → Nat)) (v : Int32) : Nat → Option (Nat → Nat) := if inI v 0 2 = true then (fun k => if k = tn v then some W else Im k) else Im
def aBack (Im : Nat → Option (Nat → Nat)) (v : Int32) : Int32 := if inI v 0 2 = true then (match Im (tn v) with | none => -6 | some _ => 0) else -2
def wBack (W : Nat → Nat) (Im : Nat → Option (Nat → Nat)) (v : Int32) : Nat → Nat := if inI v 0 2 = true then (match Im (tn v) with | none => W | some V => V) else W
/-- all stays but the arrays of a list -/
def kpA (B : List Nat) (st st' : Ms) : Prop := (∀ k ∈ ([5, 12, 13] : List Nat), st'.1 k = st.1 k) ∧ ∀ k ∈ ([1, 2, 3, 4, 28, 29] : List Nat), k ∉ B → st'.2.1 k = st.2.1 k
theorem kpA.rf (B : List Nat) (st : Ms) : kpA B st st := ⟨fun _ _ => rfl, fun _ _ _ => rfl⟩
theorem kpA.A {B : List Nat} {a st s1 : Ms} {f : Nat → Int32} {q : Nat} (hq : q ∈ B ∨ q ∉ ([1, 2, 3, 4, 28, 29] : List Nat)) (h : kpA B a st) (e : uA st q f = s1) : kpA B a s1 := by
  subst e
  refine ⟨h.1, fun k hk hB => ?_⟩
  rw [← h.2 k hk hB]
  have : k ≠ q := fun r => by
    subst r
    rcases hq with q | q
    · exact hB q
    · exact q hk
  simp [uA, this]
theorem kpA.L {B : List Nat} {a st s1 : Ms} {f : Nat → Int64} {q : Nat} (h : kpA B a st) (e : uL st q f = s1) : kpA B a s1 := by
  subst e
  exact ⟨h.1, h.2⟩
theorem atq {st s1 : Ms} {q : Nat} {f : Nat → Int32} (e : uA st q f = s1) : s1.2.1 q = f ∧ ∀ j, j ≠ q → s1.2.1 j = st.2.1 j := by subst e; exact ⟨by simp [uA], fun j h => by simp [uA, h]⟩
theorem atL {st s1 : Ms} {q : Nat} {f : Nat → Int64} (e : uL st q f = s1) : s1.2.1 = st.2.1 := by subst e; rfl
theorem kpA.w {B : List Nat} {st st' : Ms} {W : Nat → Nat} (h : kpA B st st') (hB : 1 ∉ B) (hw : WR st W) : WR st' W := fun k hk => by rw [h.2 1 (by decide) hB]; exact hw k hk
def PMK (g : Zg) (ad : Nat → Nat) (B : List Nat) (st : Ms) (v : Option Value) (X : Ms → Prop) : Option Value → Zm → Prop := fun r M' => r = v ∧ ∃ st' : Ms, Mod g ad M' st' ∧ kpA B st st' ∧ X st'
theorem up_in {f : Nat → Int32} {g : Nat → Int32} {a k : Nat} {x : Int32} (hx : x = g k) (h : ∀ j, j < k → f (a + j) = g j) : ∀ j, j < k + 1 → upd f (a + k) x (a + j) = g j := by
  intro j hj
  unfold upd
  by_cases e : j = k
  · subst e; rw [if_pos rfl]; exact hx
  · rw [if_neg (by omega)]; exact h j (by omega)
set_option maxHeartbeats 4000000 in
theorem m_image {l : Launch} {g : Zg} {ad : Nat → Nat} {M : Zm} {st : Ms} {W : Nat → Nat} (hm : Mod g ad M st) (hw : WR st W) (hi : InvW W) {Im : Nat → Option (Nat → Nat)} (hIm : ImR st Im) (v : Int32) : Cn l g yX11_image cX11_image 3 (some .int) 2 0 0 [.ref (ad 0), .int v] M (PMK g ad [2, 3] st (some (.int (aImage v))) (fun s9 => ImR s9 (wImage W Im v))) := by
  refine Cn.start [(0, .ref (ad 0)), (1, .int v)] (by decide) (Nat.le_of_ble_eq_true rfl) rfl ?_
  intro γ el eg h hq
  subst el; subst eg
  have hw0 := hw
  have hk0 : kpA [2, 3] st st := kpA.rf _ st
  refine z_iload_n 1 h dX11_image_0 rfl rfl ?_
  refine z_i2l h dX11_image_1 ?_
  refine z_lconst h dX11_image_2 kl_0 ?_
  refine z_ldc2 h q1949 dX11_image_3 ?_
  refine z_callSP h (m_inI v 0 2 0 2 rfl rfl) (lw_S q1950 q1951 q148 q1952) nX11_in rfl rfl rfl (Nat.le_of_ble_eq_true rfl) (Nat.le_of_ble_eq_true rfl) (Nat.le_of_ble_eq_true rfl) dX11_image_6 ?_
  refine z_ifz_ne 15 h dX11_image_9 (by decide) (fun c_9 => ?_) (fun c_9 => ?_)
  · have _z := c_9
    obtain ⟨k, h_k, rfl⟩ := two_nat c_9
    refine z_iconst h dX11_image_15 ki_0 ?_
    refine z_istore_n 2 h dX11_image_16 rfl rfl ?_
    have loop_17 : ∀ (fz : Nat) (M : Zm) (s1 : Ms) (i : Nat) (hm : Mod (cg γ) ad M s1) (hk : kpA [2, 3] st s1) (hi4 : i ≤ 240) (h3 : s1.2.1 3 = st.2.1 3) (hcp : ∀ j, j < i → s1.2.1 2 (240 * k + j) = nI (W j)) (ho : ∀ q, (q < 240 * k ∨ 240 * k + 240 ≤ q) → s1.2.1 2 q = st.2.1 2 q), (240 - i) < fz → Z γ M 0 0 17 (lof [(0, .ref (ad 0)), (1, .int (nI k)), (2, .int (nI i))]) [] := by
      intro fz
      induction fz with
      | zero => intro M s1 i hm hk hi4 h3 hcp ho hz; exact absurd hz (Nat.not_lt_zero _)
      | succ fz ih_17 =>
        intro M s1 i hm hk hi4 h3 hcp ho hz_17
        have hw := hk.w (by decide) hw0
        refine z_iload_n 2 h dX11_image_17 rfl rfl ?_
        refine z_sipush h dX11_image_18 ks_240 ?_
        refine z_icmp_ge 48 h dX11_image_21 (by decide) (fun c_21 => ?_) (fun c_21 => ?_)
        · have _z := c_21
          replace c_21 := (ile (a := 240) (b := i) rfl rfl (by decide) (by omega)).mp c_21
          refine z_aload_n 0 h dX11_image_48 rfl rfl rfl ?_
          refine z_get h kX11 (.inl (hm.at 0 (by decide))) 3 rfl q1850 rfl dX11_image_49 ?_
          refine z_iload_n 1 h dX11_image_52 rfl rfl ?_
          refine z_iconst h dX11_image_53 ki_1 ?_
          refine zm_zast 3 (k) h hm (by decide) (fun _ => rfl) rfl (by omega) (by decide) dX11_image_54 (fun M hm => ?_)
          generalize hs1 : uA s1 3 _ = s2 at hm
          obtain ⟨f1, f2⟩ := atq hs1
          replace hk := hk.A (Or.inl (by decide)) hs1
          obtain rfl : i = 240 := by omega
          refine z_iconst h dX11_image_55 ki_0 ?_
          refine z_iret h hq dX11_image_56 (Nat.le_of_ble_eq_true rfl) (Nat.le_of_ble_eq_true rfl) ?_
          refine ⟨vS (by simp [aImage, c_9]), s2, hm, hk, ?_⟩
          unfold wImage
          rw [c_9, if_pos rfl, tn_nI (show k < 2 ^ 31 by omega)]
          intro q hq3
          by_cases e : q = k
          · subst e
            refine ⟨fun r => by simp at r, fun V r => ?_⟩
            simp only [if_true, Option.some.injEq] at r
            subst r
            refine ⟨by rw [f1]; unfold upd; rw [if_pos rfl]; rfl, fun j hj => ?_⟩
            rw [f2 2 (by decide)]
            exact hcp j hj
          · simp only [if_neg e]
            refine ⟨fun r => ?_, fun V r => ⟨?_, fun j hj => ?_⟩⟩
            · rw [f1]; unfold upd; rw [if_neg e, h3]; exact (hIm q hq3).1 r
            · rw [f1]; unfold upd; rw [if_neg e, h3]; exact ((hIm q hq3).2 V r).1
            · rw [f2 2 (by decide), ho _ (by omega)]; exact ((hIm q hq3).2 V r).2 j hj
        · have _z := c_21
          replace c_21 := (not_congr (ile (a := 240) (b := i) rfl rfl (by decide) (by omega))).mp c_21
          refine z_aload_n 0 h dX11_image_24 rfl rfl rfl ?_
          refine z_get h kX11 (.inl (hm.at 0 (by decide))) 2 rfl q1849 rfl dX11_image_25 ?_
          refine z_sipush h dX11_image_28 ks_240 ?_
          refine z_iload_n 1 h dX11_image_31 rfl rfl ?_
          refine z_imul h dX11_image_32 ?_
          refine z_iload_n 2 h dX11_image_33 rfl rfl ?_
          refine z_iadd h dX11_image_34 ?_
          refine z_aload_n 0 h dX11_image_35 rfl rfl rfl ?_
          refine z_get h kX11 (.inl (hm.at 0 (by decide))) 1 rfl q1848 rfl dX11_image_36 ?_
          refine z_iload_n 2 h dX11_image_39 rfl rfl ?_
          refine zm_w (i) h hm hw rfl (by omega) dX11_image_40 ?_
          refine zm_iast 2 ((240 * k) + i) h hm (by decide) (fun _ => rfl) (ixa (ixm rfl rfl) rfl) (by omega) (by decide) dX11_image_41 (fun M hm => ?_)
          generalize hs1 : uA s1 2 _ = s2 at hm
          obtain ⟨f1, f2⟩ := atq hs1
          replace hk := hk.A (Or.inl (by decide)) hs1
          refine z_iinc h dX11_image_42 rfl rfl ki_1 ?_
          refine z_goto 17 h dX11_image_45 (by decide) ?_
          refine Z.loc [(0, .ref (ad 0)), (1, .int (nI k)), (2, .int (nI (i + 1)))] (ll1 rfl (ll1 rfl (ll1 (vS (nI_1 i)) ll0))) ?_
          exact ih_17 _ _ (i + 1) hm hk (by omega) ((f2 3 (by decide)).trans h3) (by rw [f1]; exact up_in (g := fun j => nI (W j)) rfl hcp) (fun q hq3 => by rw [f1]; unfold upd; rw [if_neg (by omega)]; exact ho q hq3) (by omega)
    refine Z.loc [(0, .ref (ad 0)), (1, .int (nI k)), (2, .int (nI 0))] (ll1 rfl (ll1 rfl (ll1 rfl ll0))) ?_
    exact loop_17 _ _ _ 0 hm hk0 (Nat.zero_le _) rfl (fun j hj => absurd hj (Nat.not_lt_zero j)) (fun _ _ => rfl) (Nat.lt_succ_self _)
  · have _z := c_9
    refine z_bipush h dX11_image_12 kb_m2 ?_
    exact z_iret h hq dX11_image_14 (Nat.le_of_ble_eq_true rfl) (Nat.le_of_ble_eq_true rfl) (⟨vS (by simp [aImage, c_9]), st, hm, hk0, by unfold wImage; rw [c_9]; exact hIm⟩)
theorem im_some {o : Option (Nat → Nat)} {x : Int32} (h : o = none → x = 0) (hx : ¬ x = 0) : ∃ V, o = some V := by
  cases o with
  | none => exact absurd (h rfl) hx
  | some V => exact ⟨V, rfl⟩
theorem im_none {o : Option (Nat → Nat)} {x : Int32} (h : ∀ V, o = some V → x = 1) (hx : x = 0) : o = none := by
  cases o with
  | none => rfl
  | some V => rw [hx] at h; exact absurd (h V rfl) (by decide)
set_option maxHeartbeats 4000000 in
theorem m_back {l : Launch} {g : Zg} {ad : Nat → Nat} {M : Zm} {st : Ms} {W : Nat → Nat} (hm : Mod g ad M st) (hw : WR st W) (hi : InvW W) {Im : Nat → Option (Nat → Nat)} (hIm : ImR st Im) (v : Int32) : Cn l g yX11_back cX11_back 3 (some .int) 2 0 0 [.ref (ad 0), .int v] M (PMW g ad st (some (.int (aBack Im v))) (wBack W Im v)) := by
  refine Cn.start [(0, .ref (ad 0)), (1, .int v)] (by decide) (Nat.le_of_ble_eq_true rfl) rfl ?_
  intro γ el eg h hq
  subst el; subst eg
  have hk0 : keepW st st := keepW.rf st
  refine z_iload_n 1 h dX11_back_0 rfl rfl ?_
  refine z_i2l h dX11_back_1 ?_
  refine z_lconst h dX11_back_2 kl_0 ?_
  refine z_ldc2 h q1949 dX11_back_3 ?_
  refine z_callSP h (m_inI v 0 2 0 2 rfl rfl) (lw_S q1950 q1951 q148 q1952) nX11_in rfl rfl rfl (Nat.le_of_ble_eq_true rfl) (Nat.le_of_ble_eq_true rfl) (Nat.le_of_ble_eq_true rfl) dX11_back_6 ?_
  refine z_ifz_ne 15 h dX11_back_9 (by decide) (fun c_9 => ?_) (fun c_9 => ?_)
  · have _z := c_9
    obtain ⟨k, h_k, rfl⟩ := two_nat c_9
    refine z_aload_n 0 h dX11_back_15 rfl rfl rfl ?_
    refine z_get h kX11 (.inl (hm.at 0 (by decide))) 3 rfl q1850 rfl dX11_back_16 ?_
    refine z_iload_n 1 h dX11_back_19 rfl rfl ?_
    refine z_zaldN (k) h (.inl (hm.at 3 (by decide))) rfl (by omega) (by decide) dX11_back_20 ?_
    refine z_if_ne 27 h dX11_back_21 (by decide) (fun c_21 => ?_) (fun c_21 => ?_)
    · have _z := c_21
      obtain ⟨V, hV⟩ := im_some (hIm k (by omega)).1 c_21
      have hVj := ((hIm k (by omega)).2 V hV).2
      refine z_iconst h dX11_back_27 ki_0 ?_
      refine z_istore_n 2 h dX11_back_28 rfl rfl ?_
      have loop_29 : ∀ (fz : Nat) (M : Zm) (s1 : Ms) (i : Nat) (hm : Mod (cg γ) ad M s1) (hk : keepW st s1) (hi4 : i ≤ 240) (hcp : ∀ j, j < i → s1.2.1 1 j = nI (V j)), (240 - i) < fz → Z γ M 0 0 29 (lof [(0, .ref (ad 0)), (1, .int (nI k)), (2, .int (nI i))]) [] := by
        intro fz
        induction fz with
        | zero => intro M s1 i hm hk hi4 hcp hz; exact absurd hz (Nat.not_lt_zero _)
        | succ fz ih_29 =>
          intro M s1 i hm hk hi4 hcp hz_29
          refine z_iload_n 2 h dX11_back_29 rfl rfl ?_
          refine z_sipush h dX11_back_30 ks_240 ?_
          refine z_icmp_ge 60 h dX11_back_33 (by decide) (fun c_33 => ?_) (fun c_33 => ?_)
          · have _z := c_33
            replace c_33 := (ile (a := 240) (b := i) rfl rfl (by decide) (by omega)).mp c_33
            refine z_iconst h dX11_back_60 ki_0 ?_
            refine z_iret h hq dX11_back_61 (Nat.le_of_ble_eq_true rfl) (Nat.le_of_ble_eq_true rfl) ?_
            refine ⟨vS (by simp [aBack, c_9, tn_nI (show k < 2 ^ 31 by omega), hV]), s1, hm, hk, ?_⟩
            unfold wBack WR
            rw [c_9, if_pos rfl, tn_nI (show k < 2 ^ 31 by omega), hV]
            obtain rfl : i = 240 := by omega
            exact hcp
          · have _z := c_33
            replace c_33 := (not_congr (ile (a := 240) (b := i) rfl rfl (by decide) (by omega))).mp c_33
            refine z_aload_n 0 h dX11_back_36 rfl rfl rfl ?_
            refine z_get h kX11 (.inl (hm.at 0 (by decide))) 1 rfl q1848 rfl dX11_back_37 ?_
            refine z_iload_n 2 h dX11_back_40 rfl rfl ?_
            refine z_aload_n 0 h dX11_back_41 rfl rfl rfl ?_
            refine z_get h kX11 (.inl (hm.at 0 (by decide))) 2 rfl q1849 rfl dX11_back_42 ?_
            refine z_sipush h dX11_back_45 ks_240 ?_
            refine z_iload_n 1 h dX11_back_48 rfl rfl ?_
            refine z_imul h dX11_back_49 ?_
            refine z_iload_n 2 h dX11_back_50 rfl rfl ?_
            refine z_iadd h dX11_back_51 ?_
            refine z_ialdN ((240 * k) + i) h (.inl (hm.at 2 (by decide))) (ixa (ixm rfl rfl) rfl) (by omega) (by decide) dX11_back_52 ?_
            rw [hk.2.1 2 (by decide), hVj i (by omega)]
            refine zm_iast 1 (i) h hm (by decide) (fun _ => rfl) rfl (by omega) (by decide) dX11_back_53 (fun M hm => ?_)
            generalize hs1 : uA s1 1 _ = s2 at hm
            obtain ⟨f1, f2⟩ := atq hs1
            replace hk := hk.A hs1
            refine z_iinc h dX11_back_54 rfl rfl ki_1 ?_
            refine z_goto 29 h dX11_back_57 (by decide) ?_
            refine Z.loc [(0, .ref (ad 0)), (1, .int (nI k)), (2, .int (nI (i + 1)))] (ll1 rfl (ll1 rfl (ll1 (vS (nI_1 i)) ll0))) ?_
            exact ih_29 _ _ (i + 1) hm hk (by omega) (by rw [f1]; exact up_cp (f := fun j => nI (V j)) rfl hcp) (by omega)
      refine Z.loc [(0, .ref (ad 0)), (1, .int (nI k)), (2, .int (nI 0))] (ll1 rfl (ll1 rfl (ll1 rfl ll0))) ?_
      exact loop_29 _ _ _ 0 hm hk0 (Nat.zero_le _) (fun j hj => absurd hj (Nat.not_lt_zero j)) (Nat.lt_succ_self _)
    · have _z := c_21
      have hN := im_none (fun V hV => ((hIm k (by omega)).2 V hV).1) c_21
      refine z_bipush h dX11_back_24 kb_m6 ?_
      exact z_iret h hq dX11_back_26 (Nat.le_of_ble_eq_true rfl) (Nat.le_of_ble_eq_true rfl) (⟨vS (by simp [aBack, c_9, tn_nI (show k < 2 ^ 31 by omega), hN]), st, hm, hk0, by unfold wBack; rw [c_9, if_pos rfl, tn_nI (show k < 2 ^ 31 by omega), hN]; exact hw⟩)
  · have _z := c_9
    refine z_bipush h dX11_back_12 kb_m2 ?_
    exact z_iret h hq dX11_back_14 (Nat.le_of_ble_eq_true rfl) (Nat.le_of_ble_eq_true rfl) (⟨vS (by simp [aBack, c_9]), st, hm, hk0, by unfold wBack; rw [c_9]; exact hw⟩)
