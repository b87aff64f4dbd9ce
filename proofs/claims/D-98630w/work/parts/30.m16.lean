/-! the reference: told anew, taken back -/
set_option maxRecDepth 100000
/-- a place that may be told anew, and what fits there -/
def chV (W : Nat → Nat) (p n : Nat) : Prop := (p = 11 ∧ n ≤ 999) ∨ (p = 12 ∧ n ≤ 999) ∨ ∃ t, t < W 4 ∧ ((p = 13 + 6 * t + 2 ∧ n ≤ 59) ∨ (p = 13 + 6 * t + 3 ∧ n ≤ 100) ∨ (p = 13 + 6 * t + 5 ∧ n ≤ 999))
theorem InvW.cg {W : Nat → Nat} (hi : InvW W) (k : Nat) (hk : k < W 10) : chV W (W (120 + 2 * k)) (W (120 + 2 * k + 1)) := hi.2.2.2.2.2.2.2.2.2.2.2.2.2.2.2.2.2.2.1 k hk
theorem chV_p {W : Nat → Nat} (hi : InvW W) {p n : Nat} (h : chV W p n) : 11 ≤ p ∧ p < 67 ∧ n ≤ 999 := by
  have h4 := hi.h4
  rcases h with ⟨e, h⟩ | ⟨e, h⟩ | ⟨t, ht, h⟩ <;> omega
theorem inv_new {W W' : Nat → Nat} (hi : InvW W) (h9 : W 9 ≠ 0) {p n : Nat} (hv : chV W p n) (hs : ∀ j, j < 120 → j ≠ 10 → j ≠ p → W' j = W j) (hp : W' p = n) (h10 : W' 10 ≤ 60) (hc : ∀ k, k < W' 10 → chV W (W' (120 + 2 * k)) (W' (120 + 2 * k + 1))) (hl : ∀ k, 120 ≤ k → k < 240 → W' k < 100000) : InvW W' := by
  have hpb := chV_p hi hv
  have hj : ∀ j, j < 120 → j ≠ 10 → W' j = if j = p then n else W j := by
    intro j h1 h2
    by_cases e : j = p
    · rw [if_pos e, e, hp]
    · rw [if_neg e, hs j h1 h2 e]
  have hz : ∀ j, j < 10 → W' j = W j := fun j h => hs j (by omega) (by omega) (by omega)
  have h4 := hi.h4
  have h5 := hi.h5
  have h6 := hi.h6
  have h7 := hi.h7
  have h8 := hi.h8
  obtain ⟨i0, i1, i2, i3, i4, i5, i6, i7, i8, i9, i10, i11, i12, iT, iE, iA, iR, iS, iC, iL, iZ⟩ := hi
  have e4 := hz 4 (by decide)
  refine ⟨by rw [hz 0 (by decide)]; exact i0, by rw [hz 1 (by decide)]; exact i1, by rw [hz 2 (by decide)]; exact i2, by rw [hz 3 (by decide)]; exact i3, by rw [e4]; exact i4, by rw [hz 5 (by decide)]; exact i5, by rw [hz 6 (by decide)]; exact i6, by rw [hz 7 (by decide)]; exact i7, by rw [hz 8 (by decide)]; exact i8, by rw [hz 9 (by decide)]; exact i9, h10, ?_, ?_, ?_, ?_, ?_, ?_, ?_, ?_, ?_, ?_⟩
  · rw [hj 11 (by decide) (by decide)]; split
    · exact hpb.2.2
    · exact i11
  · rw [hj 12 (by decide) (by decide)]; split
    · exact hpb.2.2
    · exact i12
  · intro t ht
    rw [e4] at ht
    have := iT t ht
    rw [hj _ (by omega) (by omega), hj _ (by omega) (by omega), hj _ (by omega) (by omega), hj _ (by omega) (by omega), hj _ (by omega) (by omega), hj _ (by omega) (by omega)]
    rcases hv with ⟨e, h⟩ | ⟨e, h⟩ | ⟨u, hu, ⟨e, h⟩ | ⟨e, h⟩ | ⟨e, h⟩⟩ <;> refine ⟨?_, ?_, ?_, ?_, ?_, ?_⟩ <;> split <;> omega
  · intro k hk
    rw [hz 5 (by decide)] at hk
    rw [hs _ (by omega) (by omega) (by omega), hs _ (by omega) (by omega) (by omega)]
    exact iE k hk
  · intro k hk
    rw [hz 6 (by decide)] at hk
    rw [hs _ (by omega) (by omega) (by omega), hs _ (by omega) (by omega) (by omega), hs _ (by omega) (by omega) (by omega), hs _ (by omega) (by omega) (by omega)]
    exact iA k hk
  · intro k hk
    rw [hz 7 (by decide)] at hk
    rw [hs _ (by omega) (by omega) (by omega), hs _ (by omega) (by omega) (by omega)]
    exact iR k hk
  · intro k hk
    rw [hz 8 (by decide)] at hk
    rw [hs _ (by omega) (by omega) (by omega), e4]
    exact iS k hk
  · intro k hk
    rw [e4]
    exact hc k hk
  · intro k hk
    by_cases q : k < 120
    · by_cases q2 : k = 10
      · subst q2; omega
      · rw [hj k q q2]
        split
        · omega
        · exact iL k hk
    · exact hl k (by omega) hk
  · intro q
    rw [hz 9 (by decide)] at q
    exact absurd q h9
theorem war9 {W : Nat → Nat} (hi : InvW W) {k : Nat} (hk : k < 240) (h : W k ≠ 0) : W 9 ≠ 0 := fun q => h (hi.2.2.2.2.2.2.2.2.2.2.2.2.2.2.2.2.2.2.2.2 q k hk)
theorem InvW.le {W : Nat → Nat} (hi : InvW W) (k : Nat) (hk : k < 240) : W k < 100000 := hi.2.2.2.2.2.2.2.2.2.2.2.2.2.2.2.2.2.2.2.1 k hk
/-- the world with place p told anew -/
def chW (W : Nat → Nat) (p n : Nat) : Nat → Nat := fun j => if j = 10 then W 10 + 1 else if j = p then n else if j = 120 + 2 * W 10 + 1 then W p else if j = 120 + 2 * W 10 then p else W j
def unW (W : Nat → Nat) : Nat → Nat := fun j => if j = W (120 + 2 * (W 10 - 1)) then W (120 + 2 * (W 10 - 1) + 1) else if j = 10 then W 10 - 1 else W j
/-- what stands at a place fits it -/
theorem chV_at {W : Nat → Nat} (hi : InvW W) {p n : Nat} (h : chV W p n) : chV W p (W p) := by
  rcases h with ⟨rfl, -⟩ | ⟨rfl, -⟩ | ⟨t, ht, ⟨rfl, -⟩ | ⟨rfl, -⟩ | ⟨rfl, -⟩⟩
  · exact Or.inl ⟨rfl, hi.2.2.2.2.2.2.2.2.2.2.2.1⟩
  · exact Or.inr (Or.inl ⟨rfl, hi.2.2.2.2.2.2.2.2.2.2.2.2.1⟩)
  · exact Or.inr (Or.inr ⟨t, ht, Or.inl ⟨rfl, (hi.tr t ht).2.2.1⟩⟩)
  · exact Or.inr (Or.inr ⟨t, ht, Or.inr (Or.inl ⟨rfl, (hi.tr t ht).2.2.2.1⟩)⟩)
  · exact Or.inr (Or.inr ⟨t, ht, Or.inr (Or.inr ⟨rfl, (hi.tr t ht).2.2.2.2.2⟩)⟩)
theorem chW_inv {W : Nat → Nat} (hi : InvW W) (h9 : W 9 ≠ 0) {p n : Nat} (hv : chV W p n) (h10 : W 10 < 60) : InvW (chW W p n) := by
  have hpb := chV_p hi hv
  have e10 : chW W p n 10 = W 10 + 1 := rfl
  refine inv_new hi h9 hv ?_ ?_ ?_ ?_ ?_
  · intro j h1 h2 h3
    unfold chW
    rw [if_neg h2, if_neg h3, if_neg (by omega), if_neg (by omega)]
  · unfold chW
    rw [if_neg (by omega), if_pos rfl]
  · rw [e10]; omega
  · intro k hk
    rw [e10] at hk
    by_cases e : k = W 10
    · have e1 : chW W p n (120 + 2 * k) = p := by unfold chW; rw [if_neg (by omega), if_neg (by omega), if_neg (by omega), if_pos (by omega)]
      have e2 : chW W p n (120 + 2 * k + 1) = W p := by unfold chW; rw [if_neg (by omega), if_neg (by omega), if_pos (by omega)]
      rw [e1, e2]
      exact chV_at hi hv
    · have e1 : chW W p n (120 + 2 * k) = W (120 + 2 * k) := by unfold chW; rw [if_neg (by omega), if_neg (by omega), if_neg (by omega), if_neg (by omega)]
      have e2 : chW W p n (120 + 2 * k + 1) = W (120 + 2 * k + 1) := by unfold chW; rw [if_neg (by omega), if_neg (by omega), if_neg (by omega), if_neg (by omega)]
      rw [e1, e2]
      exact hi.cg k (by omega)
  · intro k h1 h2
    have hk := hi.le k h2
    have hp := hi.le p (by omega)
    unfold chW
    rw [if_neg (by omega), if_neg (by omega)]
    split
    · exact hp
    · split <;> omega
theorem unW_inv {W : Nat → Nat} (hi : InvW W) (h9 : W 9 ≠ 0) (h10 : W 10 ≠ 0) : InvW (unW W) := by
  have hv := hi.cg (W 10 - 1) (by omega)
  have hpb := chV_p hi hv
  have h60 := hi.h10
  have e10 : unW W 10 = W 10 - 1 := by unfold unW; rw [if_neg (by omega), if_pos rfl]
  refine inv_new hi h9 hv ?_ ?_ ?_ ?_ ?_
  · intro j h1 h2 h3
    unfold unW
    rw [if_neg h3, if_neg h2]
  · unfold unW
    rw [if_pos rfl]
  · rw [e10]; omega
  · intro k hk
    rw [e10] at hk
    unfold unW
    rw [if_neg (by omega), if_neg (by omega), if_neg (by omega), if_neg (by omega)]
    exact hi.cg k (by omega)
  · intro k h1 h2
    unfold unW
    rw [if_neg (by omega), if_neg (by omega)]
    exact hi.le k h2
def aChd (W : Nat → Nat) (p : Nat) : Int32 := if W 10 = 60 then -5 else nI (W p)
def wChd (W : Nat → Nat) (p n : Nat) : Nat → Nat := if W 10 = 60 then W else chW W p n
theorem wChd_inv {W : Nat → Nat} (hi : InvW W) (h9 : W 9 ≠ 0) {p n : Nat} (hv : chV W p n) : InvW (wChd W p n) := by
  have := hi.h10
  unfold wChd
  split
  · exact hi
  · exact chW_inv hi h9 hv (by omega)
def telP (t w : Nat) : Nat := 13 + 6 * t + (if w = 0 then 2 else if w = 1 then 3 else 5)
def telM (w : Nat) : Int := if w = 0 then 59 else if w = 1 then 100 else 999
def telB (W : Nat → Nat) (t w n : Int32) : Bool := isTrainB W t && inI w 0 2 && inI n 0 (telM (tn w))
def aTell (W : Nat → Nat) (t w n : Int32) : Int32 := if telB W t w n = true then aChd W (telP (tn t) (tn w)) else -2
def wTell (W : Nat → Nat) (t w n : Int32) : Nat → Nat := if telB W t w n = true then wChd W (telP (tn t) (tn w)) (tn n) else W
def aNeeds (W : Nat → Nat) (s n : Int32) : Int32 := if (isSideB W s && inI n 0 999) = true then aChd W (11 + tn s) else -2
def wNeeds (W : Nat → Nat) (s n : Int32) : Nat → Nat := if (isSideB W s && inI n 0 999) = true then wChd W (11 + tn s) (tn n) else W
def aUndo (W : Nat → Nat) : Int32 := if isWarB W = true then (if W 10 = 0 then -5 else nI (W 10 - 1)) else -2
def wUndo (W : Nat → Nat) : Nat → Nat := if isWarB W = true ∧ W 10 ≠ 0 then unW W else W
theorem train_nat {W : Nat → Nat} {x : Int32} (h : isTrainB W x = true) : ∃ t : Nat, t < W 4 ∧ t < 2 ^ 31 ∧ x = nI t := by
  obtain ⟨n, h1, h2, h3⟩ := inI_nat h
  exact ⟨n, by omega, h2, h3⟩
theorem tel_nat {W : Nat → Nat} (hi : InvW W) {t w n : Int32} (h : telB W t w n = true) : W 9 ≠ 0 ∧ chV W (telP (tn t) (tn w)) (tn n) := by
  unfold telB at h
  rw [Bool.and_eq_true, Bool.and_eq_true] at h
  obtain ⟨⟨h1, h2⟩, h3⟩ := h
  obtain ⟨a, ha, ha2, rfl⟩ := train_nat h1
  obtain ⟨b, hb, rfl⟩ := two_nat h2
  obtain ⟨c, hc, hc2, rfl⟩ := inI_nat h3
  rw [tn_nI ha2, tn_nI hc2, tn_nI (by omega)] at *
  refine ⟨war9 hi (k := 4) (by decide) (by omega), Or.inr (Or.inr ⟨a, ha, ?_⟩)⟩
  unfold telP
  unfold telM at hc
  rcases (show b = 0 ∨ b = 1 ∨ b = 2 by omega) with rfl | rfl | rfl
  · left; exact ⟨rfl, by simp at hc; omega⟩
  · right; left; exact ⟨rfl, by simp at hc; omega⟩
  · right; right; exact ⟨rfl, by simp at hc; omega⟩
theorem wTell_inv {W : Nat → Nat} (hi : InvW W) (t w n : Int32) : InvW (wTell W t w n) := by
  unfold wTell
  split
  · rename_i h
    obtain ⟨h9, hv⟩ := tel_nat hi h
    exact wChd_inv hi h9 hv
  · exact hi
theorem war_9 {W : Nat → Nat} (h : isWarB W = true) : W 9 ≠ 0 := by
  have := of_decide_eq_true h
  omega
theorem side_w {W : Nat → Nat} {s : Int32} (h : isSideB W s = true) : isWarB W = true := by
  unfold isSideB at h
  rw [Bool.and_eq_true] at h
  exact h.1
theorem need_nat {W : Nat → Nat} {s n : Int32} (h : (isSideB W s && inI n 0 999) = true) : W 9 ≠ 0 ∧ chV W (11 + tn s) (tn n) := by
  rw [Bool.and_eq_true] at h
  obtain ⟨h1, h2⟩ := h
  obtain ⟨a, ha, rfl⟩ := isSide_nat h1
  obtain ⟨c, hc, hc2, rfl⟩ := inI_nat h2
  rw [tn_nI (by omega), tn_nI hc2]
  refine ⟨war_9 (side_w h1), ?_⟩
  rcases (show a = 0 ∨ a = 1 by omega) with rfl | rfl
  · exact Or.inl ⟨rfl, by omega⟩
  · exact Or.inr (Or.inl ⟨rfl, by omega⟩)
theorem wNeeds_inv {W : Nat → Nat} (hi : InvW W) (s n : Int32) : InvW (wNeeds W s n) := by
  unfold wNeeds
  split
  · rename_i h
    obtain ⟨h9, hv⟩ := need_nat h
    exact wChd_inv hi h9 hv
  · exact hi
theorem wUndo_inv {W : Nat → Nat} (hi : InvW W) : InvW (wUndo W) := by
  unfold wUndo
  split
  · rename_i h
    exact unW_inv hi (war_9 h.1) h.2
  · exact hi
/-- what stays when the world changes -/
def keepW (st st' : Ms) : Prop := (∀ k ∈ ([5, 12, 13] : List Nat), st'.1 k = st.1 k) ∧ (∀ k ∈ ([2, 3, 4, 28, 29] : List Nat), st'.2.1 k = st.2.1 k) ∧ st'.2.2 30 = st.2.2 30
theorem keepW.rf (st : Ms) : keepW st st := ⟨fun _ _ => rfl, fun _ _ => rfl, rfl⟩
theorem keepW.A {a st s1 : Ms} {f : Nat → Int32} (h : keepW a st) (e : uA st 1 f = s1) : keepW a s1 := by
  subst e
  refine ⟨h.1, fun k hk => ?_, h.2.2⟩
  rw [← h.2.1 k hk]
  simp [uA, show k ≠ 1 from fun q => by subst q; revert hk; decide]
theorem at1 {st s1 : Ms} {f : Nat → Int32} (e : uA st 1 f = s1) : s1.2.1 1 = f := by subst e; simp [uA]
def PMW (g : Zg) (ad : Nat → Nat) (st : Ms) (v : Option Value) (W' : Nat → Nat) : Option Value → Zm → Prop := fun r M' => r = v ∧ ∃ st' : Ms, Mod g ad M' st' ∧ keepW st st' ∧ WR st' W'
theorem ch_wr {f : Nat → Int32} {W : Nat → Nat} {p n : Nat} (hf : ∀ k, k < 240 → f k = nI (W k)) : ∀ k, k < 240 → upd (upd (upd (upd f (120 + 2 * W 10) (nI p)) (120 + 2 * W 10 + 1) (nI (W p))) p (nI n)) 10 (nI (W 10 + 1)) k = nI (chW W p n k) := by
  intro k hk
  have := hf k hk
  unfold chW upd
  by_cases e1 : k = 10
  · rw [if_pos e1, if_pos e1]
  · rw [if_neg e1, if_neg e1]
    by_cases e2 : k = p
    · rw [if_pos e2, if_pos e2]
    · rw [if_neg e2, if_neg e2]
      by_cases e3 : k = 120 + 2 * W 10 + 1
      · rw [if_pos e3, if_pos e3]
      · rw [if_neg e3, if_neg e3]
        by_cases e4 : k = 120 + 2 * W 10
        · rw [if_pos e4, if_pos e4]
        · rw [if_neg e4, if_neg e4]
          exact this
theorem un_wr {f : Nat → Int32} {W : Nat → Nat} (hf : ∀ k, k < 240 → f k = nI (W k)) : ∀ k, k < 240 → upd (upd f 10 (nI (W 10 - 1))) (W (120 + 2 * (W 10 - 1))) (nI (W (120 + 2 * (W 10 - 1) + 1))) k = nI (unW W k) := by
  intro k hk
  have := hf k hk
  unfold unW upd
  by_cases e1 : k = W (120 + 2 * (W 10 - 1))
  · rw [if_pos e1, if_pos e1]
  · rw [if_neg e1, if_neg e1]
    by_cases e2 : k = 10
    · rw [if_pos e2, if_pos e2]
    · rw [if_neg e2, if_neg e2]
      exact this
theorem upd_n {f : Nat → Int32} {k j : Nat} {x y : Int32} (h : j ≠ k) (e : f j = y) : upd f k x j = y := by unfold upd; rw [if_neg h]; exact e
theorem upd_s {f : Nat → Int32} {k : Nat} {x : Int32} : upd f k x k = x := by unfold upd; rw [if_pos rfl]
set_option maxHeartbeats 4000000 in
theorem m_change {l : Launch} {g : Zg} {ad : Nat → Nat} {M : Zm} {st : Ms} {W : Nat → Nat} (hm : Mod g ad M st) (hw : WR st W) (hi : InvW W) (p n : Nat) (hp : 11 ≤ p ∧ p < 67) (h10 : W 10 < 60) : Cn l g yX11_change cX11_change 4 none 1 0 0 [.ref (ad 0), .int (nI p), .int (nI n)] M (PMW g ad st none (chW W p n)) := by
  refine Cn.start [(0, .ref (ad 0)), (1, .int (nI p)), (2, .int (nI n))] (by decide) (Nat.le_of_ble_eq_true rfl) rfl ?_
  intro γ el eg h hq
  subst el; subst eg
  have hk : keepW st st := keepW.rf st
  refine z_bipush h dX11_change_0 kb_120 ?_
  refine z_iconst h dX11_change_2 ki_2 ?_
  refine z_aload_n 0 h dX11_change_3 rfl rfl rfl ?_
  refine z_get h kX11 (.inl (hm.at 0 (by decide))) 1 rfl q1848 rfl dX11_change_4 ?_
  refine z_bipush h dX11_change_7 kb_10 ?_
  refine zm_w (10) h hm hw rfl (by omega) dX11_change_9 ?_
  refine z_imul h dX11_change_10 ?_
  refine z_iadd h dX11_change_11 ?_
  refine z_istore_n 3 h dX11_change_12 rfl rfl ?_
  refine z_aload_n 0 h dX11_change_13 rfl rfl rfl ?_
  refine z_get h kX11 (.inl (hm.at 0 (by decide))) 1 rfl q1848 rfl dX11_change_14 ?_
  refine z_iload_n 3 h dX11_change_17 rfl rfl ?_
  refine z_iload_n 1 h dX11_change_18 rfl rfl ?_
  refine zm_iast 1 (120 + (2 * (W (10)))) h hm (by decide) (fun _ => rfl) (ixa rfl (ixm rfl rfl)) (by omega) (by decide) dX11_change_19 (fun M hm => ?_)
  generalize hs1 : uA st 1 _ = s1 at hm
  have f1 := at1 hs1
  replace hk := hk.A hs1
  refine z_aload_n 0 h dX11_change_20 rfl rfl rfl ?_
  refine z_get h kX11 (.inl (hm.at 0 (by decide))) 1 rfl q1848 rfl dX11_change_21 ?_
  refine z_iload_n 3 h dX11_change_24 rfl rfl ?_
  refine z_iconst h dX11_change_25 ki_1 ?_
  refine z_iadd h dX11_change_26 ?_
  refine z_aload_n 0 h dX11_change_27 rfl rfl rfl ?_
  refine z_get h kX11 (.inl (hm.at 0 (by decide))) 1 rfl q1848 rfl dX11_change_28 ?_
  refine z_iload_n 1 h dX11_change_31 rfl rfl ?_
  refine z_ialdN (p) h (.inl (hm.at 1 (by decide))) rfl (by omega) (by decide) dX11_change_32 ?_
  refine Z.st (show _ = [.int (nI (W p)), _, _] by rw [f1, upd_n (show p ≠ 120 + 2 * W 10 by omega) (hw p (by omega))]) ?_
  refine zm_iast 1 ((120 + (2 * (W (10)))) + 1) h hm (by decide) (fun _ => rfl) (ixa (ixa rfl (ixm rfl rfl)) rfl) (by omega) (by decide) dX11_change_33 (fun M hm => ?_)
  generalize hs2 : uA s1 1 _ = s2 at hm
  have f2 := at1 hs2
  replace hk := hk.A hs2
  refine z_aload_n 0 h dX11_change_34 rfl rfl rfl ?_
  refine z_get h kX11 (.inl (hm.at 0 (by decide))) 1 rfl q1848 rfl dX11_change_35 ?_
  refine z_iload_n 1 h dX11_change_38 rfl rfl ?_
  refine z_iload_n 2 h dX11_change_39 rfl rfl ?_
  refine zm_iast 1 (p) h hm (by decide) (fun _ => rfl) rfl (by omega) (by decide) dX11_change_40 (fun M hm => ?_)
  generalize hs3 : uA s2 1 _ = s3 at hm
  have f3 := at1 hs3
  replace hk := hk.A hs3
  refine z_aload_n 0 h dX11_change_41 rfl rfl rfl ?_
  refine z_get h kX11 (.inl (hm.at 0 (by decide))) 1 rfl q1848 rfl dX11_change_42 ?_
  refine z_bipush h dX11_change_45 kb_10 ?_
  refine z_dup2 h dX11_change_47 rfl rfl ?_
  refine z_ialdN (10) h (.inl (hm.at 1 (by decide))) rfl (by omega) (by decide) dX11_change_48 ?_
  refine Z.st (show _ = [.int (nI (W 10)), _, _] by rw [f3, upd_n (show 10 ≠ p by omega) (y := nI (W 10)) (by rw [f2, upd_n (show 10 ≠ 120 + 2 * W 10 + 1 by omega) (y := nI (W 10))]; rw [f1]; exact upd_n (show 10 ≠ 120 + 2 * W 10 by omega) (hw 10 (by decide)))]) ?_
  refine z_iconst h dX11_change_49 ki_1 ?_
  refine z_iadd h dX11_change_50 ?_
  refine zm_iast 1 (10) h hm (by decide) (fun _ => rfl) rfl (by omega) (by decide) dX11_change_51 (fun M hm => ?_)
  generalize hs4 : uA s3 1 _ = s4 at hm
  have f4 := at1 hs4
  replace hk := hk.A hs4
  refine z_vret h hq dX11_change_52 (Nat.le_of_ble_eq_true rfl) (Nat.le_of_ble_eq_true rfl) ?_
  refine ⟨rfl, s4, hm, hk, ?_⟩
  unfold WR
  rw [f4, f3, f2, f1, show nI (W 10) + 1 = nI (W 10 + 1) from nI_1 _]
  exact ch_wr hw
set_option maxHeartbeats 4000000 in
theorem m_changed {l : Launch} {g : Zg} {ad : Nat → Nat} {M : Zm} {st : Ms} {W : Nat → Nat} (hm : Mod g ad M st) (hw : WR st W) (hi : InvW W) (p n : Nat) (hp : 11 ≤ p ∧ p < 67) : Cn l g yX11_changed cX11_changed 4 (some .int) 2 0 0 [.ref (ad 0), .int (nI p), .int (nI n)] M (PMW g ad st (some (.int (aChd W p))) (wChd W p n)) := by
  refine Cn.start [(0, .ref (ad 0)), (1, .int (nI p)), (2, .int (nI n))] (by decide) (Nat.le_of_ble_eq_true rfl) rfl ?_
  intro γ el eg h hq
  subst el; subst eg
  have hk : keepW st st := keepW.rf st
  have h10 := hi.h10
  refine z_aload_n 0 h dX11_changed_0 rfl rfl rfl ?_
  refine z_get h kX11 (.inl (hm.at 0 (by decide))) 1 rfl q1848 rfl dX11_changed_1 ?_
  refine z_bipush h dX11_changed_4 kb_10 ?_
  refine zm_w (10) h hm hw rfl (by omega) dX11_changed_6 ?_
  refine z_bipush h dX11_changed_7 kb_60 ?_
  refine z_icmp_ne 15 h dX11_changed_9 (by decide) (fun c_9 => ?_) (fun c_9 => ?_)
  · have _z := c_9
    replace c_9 := (not_congr (ieq (a := W (10)) (b := 60) rfl rfl (hi.lt _ (by omega)) (by decide))).mp c_9
    refine z_aload_n 0 h dX11_changed_15 rfl rfl rfl ?_
    refine z_get h kX11 (.inl (hm.at 0 (by decide))) 1 rfl q1848 rfl dX11_changed_16 ?_
    refine z_iload_n 1 h dX11_changed_19 rfl rfl ?_
    refine zm_w (p) h hm hw rfl (by omega) dX11_changed_20 ?_
    refine z_istore_n 3 h dX11_changed_21 rfl rfl ?_
    refine z_aload_n 0 h dX11_changed_22 rfl rfl rfl ?_
    refine z_iload_n 1 h dX11_changed_23 rfl rfl ?_
    refine z_iload_n 2 h dX11_changed_24 rfl rfl ?_
    refine z_callV h (m_change hm hw hi p n hp (by omega)) kX11 (.inl (hm.at 0 (by decide))) (lw_V q2525 q2527 qs130 q148 q2528) nX11_change rfl rfl rfl (Nat.le_of_ble_eq_true rfl) (Nat.le_of_ble_eq_true rfl) (Nat.le_of_ble_eq_true rfl) dX11_changed_25 (fun v M hv => ?_)
    obtain ⟨rfl, s9, hm, hk9, hw9⟩ := hv
    refine z_iload_n 3 h dX11_changed_28 rfl rfl ?_
    exact z_iret h hq dX11_changed_29 (Nat.le_of_ble_eq_true rfl) (Nat.le_of_ble_eq_true rfl) (⟨vS (by simp [aChd, c_9]), s9, hm, hk9, by rw [wChd, if_neg c_9]; exact hw9⟩)
  · have _z := c_9
    replace c_9 := (ieq (a := W (10)) (b := 60) rfl rfl (hi.lt _ (by omega)) (by decide)).mp c_9
    refine z_bipush h dX11_changed_12 kb_m5 ?_
    exact z_iret h hq dX11_changed_14 (Nat.le_of_ble_eq_true rfl) (Nat.le_of_ble_eq_true rfl) (⟨vS (by simp [aChd, c_9]), st, hm, hk, by rw [wChd, if_pos c_9]; exact hw⟩)
set_option maxHeartbeats 4000000 in
theorem m_needs_2 {l : Launch} {g : Zg} {ad : Nat → Nat} {M : Zm} {st : Ms} {W : Nat → Nat} (hm : Mod g ad M st) (hw : WR st W) (hi : InvW W) (sv nv : Int32) : Cn l g yX11_needs_2 cX11_needs_2 3 (some .int) 3 0 0 [.ref (ad 0), .int sv, .int nv] M (PMW g ad st (some (.int (aNeeds W sv nv))) (wNeeds W sv nv)) := by
  refine Cn.start [(0, .ref (ad 0)), (1, .int sv), (2, .int nv)] (by decide) (Nat.le_of_ble_eq_true rfl) rfl ?_
  intro γ el eg h hq
  subst el; subst eg
  have hk : keepW st st := keepW.rf st
  refine z_aload_n 0 h dX11_needs_2_0 rfl rfl rfl ?_
  refine z_iload_n 1 h dX11_needs_2_1 rfl rfl ?_
  refine z_callVP h (m_isSide hm hw hi sv) kX11 (.inl (hm.at 0 (by decide))) (lw_V q2087 q2089 qs83 q148 q2090) nX11_isSide rfl rfl rfl (Nat.le_of_ble_eq_true rfl) (Nat.le_of_ble_eq_true rfl) (Nat.le_of_ble_eq_true rfl) dX11_needs_2_2 ?_
  refine z_ifz_eq 32 h dX11_needs_2_5 (by decide) (fun c_5 => ?_) (fun c_5 => ?_)
  · have _z := c_5
    refine z_bipush h dX11_needs_2_32 kb_m2 ?_
    refine z_iret h hq dX11_needs_2_34 (Nat.le_of_ble_eq_true rfl) (Nat.le_of_ble_eq_true rfl) ?_
    first | (refine ⟨vS ?_, st, hm, hk, ?_⟩; rotate_left; (unfold wNeeds; rw [c_5]; exact hw); simp [aNeeds, c_5]; done) | (refine ⟨vS ?_, st, hm, hk, ?_⟩; rotate_left; (unfold wNeeds; rw [c_17, Bool.and_false]; exact hw); simp [aNeeds, c_17]; done) | (refine ⟨vS ?_, s9, hm, hk9, ?_⟩; rotate_left; (unfold wNeeds; rw [c_5, c_17, tn_nI (show s < 2 ^ 31 by omega), tn_nI (show n < 2 ^ 31 by omega)]; exact hw9); simp [aNeeds, c_5, c_17, tn_nI (show s < 2 ^ 31 by omega)]; done)
  · have _z := c_5
    obtain ⟨s, h_s, rfl⟩ := isSide_nat c_5
    refine z_iload_n 2 h dX11_needs_2_8 rfl rfl ?_
    refine z_i2l h dX11_needs_2_9 ?_
    refine z_lconst h dX11_needs_2_10 kl_0 ?_
    refine z_ldc2 h q2333 dX11_needs_2_11 ?_
    refine z_callSP h (m_inI nv 0 999 0 999 rfl rfl) (lw_S q1950 q1951 q148 q1952) nX11_in rfl rfl rfl (Nat.le_of_ble_eq_true rfl) (Nat.le_of_ble_eq_true rfl) (Nat.le_of_ble_eq_true rfl) dX11_needs_2_14 ?_
    refine z_ifz_eq 32 h dX11_needs_2_17 (by decide) (fun c_17 => ?_) (fun c_17 => ?_)
    · have _z := c_17
      refine z_bipush h dX11_needs_2_32 kb_m2 ?_
      refine z_iret h hq dX11_needs_2_34 (Nat.le_of_ble_eq_true rfl) (Nat.le_of_ble_eq_true rfl) ?_
      first | (refine ⟨vS ?_, st, hm, hk, ?_⟩; rotate_left; (unfold wNeeds; rw [c_5]; exact hw); simp [aNeeds, c_5]; done) | (refine ⟨vS ?_, st, hm, hk, ?_⟩; rotate_left; (unfold wNeeds; rw [c_17, Bool.and_false]; exact hw); simp [aNeeds, c_17]; done) | (refine ⟨vS ?_, s9, hm, hk9, ?_⟩; rotate_left; (unfold wNeeds; rw [c_5, c_17, tn_nI (show s < 2 ^ 31 by omega), tn_nI (show n < 2 ^ 31 by omega)]; exact hw9); simp [aNeeds, c_5, c_17, tn_nI (show s < 2 ^ 31 by omega)]; done)
    · have _z := c_17
      obtain ⟨n, h_n, rfl⟩ := pr_nat c_17
      refine z_aload_n 0 h dX11_needs_2_20 rfl rfl rfl ?_
      refine z_bipush h dX11_needs_2_21 kb_11 ?_
      refine z_iload_n 1 h dX11_needs_2_23 rfl rfl ?_
      refine z_iadd h dX11_needs_2_24 ?_
      refine z_iload_n 2 h dX11_needs_2_25 rfl rfl ?_
      refine Z.st (show _ = [.int (nI n), .int (nI (11 + s)), .ref (ad 0)] by rw [show (11 : Int32) + nI s = nI (11 + s) from ixa (a := 11) rfl rfl]) ?_
      refine z_callV h (m_changed hm hw hi (11 + s) n (by omega)) kX11 (.inl (hm.at 0 (by decide))) (lw_V q2521 q2523 qs129 q148 q2524) nX11_changed rfl rfl rfl (Nat.le_of_ble_eq_true rfl) (Nat.le_of_ble_eq_true rfl) (Nat.le_of_ble_eq_true rfl) dX11_needs_2_26 (fun v M hv => ?_)
      obtain ⟨rfl, s9, hm, hk9, hw9⟩ := hv
      refine z_goto 34 h dX11_needs_2_29 (by decide) ?_
      refine z_iret h hq dX11_needs_2_34 (Nat.le_of_ble_eq_true rfl) (Nat.le_of_ble_eq_true rfl) ?_
      first | (refine ⟨vS ?_, st, hm, hk, ?_⟩; rotate_left; (unfold wNeeds; rw [c_5]; exact hw); simp [aNeeds, c_5]; done) | (refine ⟨vS ?_, st, hm, hk, ?_⟩; rotate_left; (unfold wNeeds; rw [c_17, Bool.and_false]; exact hw); simp [aNeeds, c_17]; done) | (refine ⟨vS ?_, s9, hm, hk9, ?_⟩; rotate_left; (unfold wNeeds; rw [c_5, c_17, tn_nI (show s < 2 ^ 31 by omega), tn_nI (show n < 2 ^ 31 by omega)]; exact hw9); simp [aNeeds, c_5, c_17, tn_nI (show s < 2 ^ 31 by omega)]; done)
