/-! indices as naturals -/
set_option maxRecDepth 100000
theorem ixa {x z : Int32} {a b : Nat} (hx : x = nI a) (hz : z = nI b) : x + z = nI (a + b) := by rw [hx, hz, nI_add]
theorem ixm {x z : Int32} {a b : Nat} (hx : x = nI a) (hz : z = nI b) : x * z = nI (a * b) := by rw [hx, hz, pk_mul]
theorem ixs {x z : Int32} {a b : Nat} (hx : x = nI a) (hz : z = nI b) (h : b ≤ a) : x - z = nI (a - b) := by rw [hx, hz, pk_sub h]
theorem vI {x z : Int32} (h : x = z) : some (Value.int x) = some (Value.int z) := by rw [h]
theorem vL {x z : Int64} (h : x = z) : some (Value.long x) = some (Value.long z) := by rw [h]
section ZN
variable {γ : Zc} {y : MethodName} {cc : ByteArray} {nL d mc ms : Nat} {M : Zm} {kc ks pc : Nat} {L : Nat → Option Value} {S : List Value}
theorem z_ialdN (j : Nat) (h : Zok γ y cc nL d mc ms) {a n : Nat} {f : Nat → Int32} {i : Int32} (hM : zrd (cg γ) M a (eI (cg γ) n f)) (hi : i = nI j) (hj : j < n) (hn : n < 2 ^ 31) (hdg : decode cc pc = .ok (.iaload, 1)) (kk : Z γ M kc ks (pc + 1) L (.int (f j) :: S)) : Z γ M kc ks pc L (.int i :: .ref a :: S) := by
  have hc : i.toNatClampNeg = j := by rw [hi]; exact nI_clamp (by omega)
  refine z_iald h hM (by rw [hi]; exact vp_in_nI hj hn) hdg ?_
  rw [hc]
  exact kk
theorem z_baldN (j : Nat) (h : Zok γ y cc nL d mc ms) {a n : Nat} {f : Nat → Int32} {i : Int32} (hM : zrd (cg γ) M a (eB (cg γ) n f)) (hi : i = nI j) (hj : j < n) (hn : n < 2 ^ 31) (hdg : decode cc pc = .ok (.baload, 1)) (kk : Z γ M kc ks (pc + 1) L (.int (f j) :: S)) : Z γ M kc ks pc L (.int i :: .ref a :: S) := by
  have hc : i.toNatClampNeg = j := by rw [hi]; exact nI_clamp (by omega)
  refine z_bald h hM (by rw [hi]; exact vp_in_nI hj hn) hdg ?_
  rw [hc]
  exact kk
theorem z_saldN (j : Nat) (h : Zok γ y cc nL d mc ms) {a n : Nat} {f : Nat → Int32} {i : Int32} (hM : zrd (cg γ) M a (eS (cg γ) n f)) (hi : i = nI j) (hj : j < n) (hn : n < 2 ^ 31) (hdg : decode cc pc = .ok (.saload, 1)) (kk : Z γ M kc ks (pc + 1) L (.int (f j) :: S)) : Z γ M kc ks pc L (.int i :: .ref a :: S) := by
  have hc : i.toNatClampNeg = j := by rw [hi]; exact nI_clamp (by omega)
  refine z_sald h hM (by rw [hi]; exact vp_in_nI hj hn) hdg ?_
  rw [hc]
  exact kk
theorem z_zaldN (j : Nat) (h : Zok γ y cc nL d mc ms) {a n : Nat} {f : Nat → Int32} {i : Int32} (hM : zrd (cg γ) M a (eZ (cg γ) n f)) (hi : i = nI j) (hj : j < n) (hn : n < 2 ^ 31) (hdg : decode cc pc = .ok (.baload, 1)) (kk : Z γ M kc ks (pc + 1) L (.int (f j) :: S)) : Z γ M kc ks pc L (.int i :: .ref a :: S) := by
  have hc : i.toNatClampNeg = j := by rw [hi]; exact nI_clamp (by omega)
  refine z_zald h hM (by rw [hi]; exact vp_in_nI hj hn) hdg ?_
  rw [hc]
  exact kk
theorem z_laldN (j : Nat) (h : Zok γ y cc nL d mc ms) {a n : Nat} {f : Nat → Int64} {i : Int32} (hM : zrd (cg γ) M a (eJ (cg γ) n f)) (hi : i = nI j) (hj : j < n) (hn : n < 2 ^ 31) (hdg : decode cc pc = .ok (.laload, 1)) (kk : Z γ M kc ks (pc + 1) L (.long (f j) :: S)) : Z γ M kc ks pc L (.int i :: .ref a :: S) := by
  have hc : i.toNatClampNeg = j := by rw [hi]; exact nI_clamp (by omega)
  refine z_lald h hM (by rw [hi]; exact vp_in_nI hj hn) hdg ?_
  rw [hc]
  exact kk
theorem z_iastN (j : Nat) (h : Zok γ y cc nL d mc ms) {a n : Nat} {f : Nat → Int32} {i : Int32} {x : Int32} (hM : M a = some (eI (cg γ) n f)) (hi : i = nI j) (hj : j < n) (hn : n < 2 ^ 31) (hdg : decode cc pc = .ok (.iastore, 1)) (kk : Z γ (zup M a (eI (cg γ) n (upd f j x))) kc ks (pc + 1) L S) : Z γ M kc ks pc L (.int x :: .int i :: .ref a :: S) := by
  have hc : i.toNatClampNeg = j := by rw [hi]; exact nI_clamp (by omega)
  refine z_iast h hM (by rw [hi]; exact vp_in_nI hj hn) hdg ?_
  rw [hc]
  exact kk
theorem z_bastN (j : Nat) (h : Zok γ y cc nL d mc ms) {a n : Nat} {f : Nat → Int32} {i : Int32} {x : Int32} (hM : M a = some (eB (cg γ) n f)) (hi : i = nI j) (hj : j < n) (hn : n < 2 ^ 31) (hdg : decode cc pc = .ok (.bastore, 1)) (kk : Z γ (zup M a (eB (cg γ) n (upd f j (vp_nar .byte x)))) kc ks (pc + 1) L S) : Z γ M kc ks pc L (.int x :: .int i :: .ref a :: S) := by
  have hc : i.toNatClampNeg = j := by rw [hi]; exact nI_clamp (by omega)
  refine z_bast h hM (by rw [hi]; exact vp_in_nI hj hn) hdg ?_
  rw [hc]
  exact kk
theorem z_sastN (j : Nat) (h : Zok γ y cc nL d mc ms) {a n : Nat} {f : Nat → Int32} {i : Int32} {x : Int32} (hM : M a = some (eS (cg γ) n f)) (hi : i = nI j) (hj : j < n) (hn : n < 2 ^ 31) (hdg : decode cc pc = .ok (.sastore, 1)) (kk : Z γ (zup M a (eS (cg γ) n (upd f j (vp_nar .short x)))) kc ks (pc + 1) L S) : Z γ M kc ks pc L (.int x :: .int i :: .ref a :: S) := by
  have hc : i.toNatClampNeg = j := by rw [hi]; exact nI_clamp (by omega)
  refine z_sast h hM (by rw [hi]; exact vp_in_nI hj hn) hdg ?_
  rw [hc]
  exact kk
theorem z_zastN (j : Nat) (h : Zok γ y cc nL d mc ms) {a n : Nat} {f : Nat → Int32} {i : Int32} {x : Int32} (hM : M a = some (eZ (cg γ) n f)) (hi : i = nI j) (hj : j < n) (hn : n < 2 ^ 31) (hdg : decode cc pc = .ok (.bastore, 1)) (kk : Z γ (zup M a (eZ (cg γ) n (upd f j (vp_nar .boolean x)))) kc ks (pc + 1) L S) : Z γ M kc ks pc L (.int x :: .int i :: .ref a :: S) := by
  have hc : i.toNatClampNeg = j := by rw [hi]; exact nI_clamp (by omega)
  refine z_zast h hM (by rw [hi]; exact vp_in_nI hj hn) hdg ?_
  rw [hc]
  exact kk
theorem z_lastN (j : Nat) (h : Zok γ y cc nL d mc ms) {a n : Nat} {f : Nat → Int64} {i : Int32} {x : Int64} (hM : M a = some (eJ (cg γ) n f)) (hi : i = nI j) (hj : j < n) (hn : n < 2 ^ 31) (hdg : decode cc pc = .ok (.lastore, 1)) (kk : Z γ (zup M a (eJ (cg γ) n (vp_updL f j x))) kc ks (pc + 1) L S) : Z γ M kc ks pc L (.long x :: .int i :: .ref a :: S) := by
  have hc : i.toNatClampNeg = j := by rw [hi]; exact nI_clamp (by omega)
  refine z_last h hM (by rw [hi]; exact vp_in_nI hj hn) hdg ?_
  rw [hc]
  exact kk
/-- a call of a method that only reads -/
theorem z_callVP (h : Zok γ y cc nL d mc ms) {y2 : MethodName} {cc2 : ByteArray} {nL2 : Nat} {ret2 : Option FieldType} {d2 index : Nat} {As : List Value} {S0 : List Value} {v : Value} {b ci N : Nat} {fs : List Value} {T : u_T} {ty : Nat → FieldType} (hc : Cn (cl' γ) (cg γ) y2 cc2 nL2 ret2 d2 0 0 (.ref b :: As) M (PV v M)) (hcl : zcl ci y2.cls T N ty) (hM : zrd (cg γ) M b (eo ci fs)) (hG : GoodIn lw_all (wsV y.cls index y2.cls y2 (ws_ y2 cc2 nL2 ret2))) (hpl : zpl y2 As.length) (hd : Nat.ble (d2 + 1) d = true) (hL : Nat.ble nL2 21 = true) (hst : S0 = As.reverse ++ .ref b :: S) (hS : (S.map fun v => v.category).sum ≤ 8) (hk1 : kc ≤ mc) (hk2 : ks ≤ ms) (hdg : decode cc pc = .ok (.invokevirtual index, 3)) (kk : Z γ M kc ks (pc + 3) L (v :: S)) : Z γ M kc ks pc L S0 :=
  z_callV h hc hcl hM hG hpl hd hL hst hS hk1 hk2 hdg (fun v' M' q => by obtain ⟨rfl, rfl⟩ := q; exact kk)
theorem z_callSP (h : Zok γ y cc nL d mc ms) {y2 : MethodName} {cc2 : ByteArray} {nL2 : Nat} {ret2 : Option FieldType} {d2 index : Nat} {As : List Value} {S0 : List Value} {v : Value} (hc : Cn (cl' γ) (cg γ) y2 cc2 nL2 ret2 d2 0 0 As M (PV v M)) (hG : GoodIn lw_all (va_wsS y.cls index y2 (ws_ y2 cc2 nL2 ret2))) (hpl : zpl y2 As.length) (hd : Nat.ble (d2 + 1) d = true) (hL : Nat.ble nL2 21 = true) (hst : S0 = As.reverse ++ S) (hS : (S.map fun v => v.category).sum ≤ 8) (hk1 : kc ≤ mc) (hk2 : ks ≤ ms) (hdg : decode cc pc = .ok (.invokestatic index, 3)) (kk : Z γ M kc ks (pc + 3) L (v :: S)) : Z γ M kc ks pc L S0 :=
  z_callS h hc hG hpl hd hL hst hS hk1 hk2 hdg (fun v' M' q => by obtain ⟨rfl, rfl⟩ := q; exact kk)
end ZN
/-! the reference's memory: its whole numbers by their field, its arrays by their field -/
abbrev Ms : Type := (Nat → Int32) × (Nat → Nat → Int32) × (Nat → Nat → Int64)
def uS (st : Ms) (k : Nat) (v : Int32) : Ms := (fun j => if j = k then v else st.1 j, st.2.1, st.2.2)
def uA (st : Ms) (k : Nat) (f : Nat → Int32) : Ms := (st.1, fun j => if j = k then f else st.2.1 j, st.2.2)
def uL (st : Ms) (k : Nat) (f : Nat → Int64) : Ms := (st.1, st.2.1, fun j => if j = k then f else st.2.2 j)
def mfs (ad : Nat → Nat) (s : Nat → Int32) : List Value := [.int (s 0), .ref (ad 1), .ref (ad 2), .ref (ad 3), .ref (ad 4), .int (s 5), .ref (ad 6), .int (s 7), .int (s 8), .int (s 9), .int (s 10), .int (s 11), .int (s 12), .int (s 13), .ref (ad 14), .ref (ad 15), .int (s 16), .ref (ad 17), .int (s 18), .int (s 19), .int (s 20), .ref (ad 21), .int (s 22), .ref (ad 23), .ref (ad 24), .ref (ad 25), .int (s 26), .int (s 27), .ref (ad 28), .ref (ad 29), .ref (ad 30), .ref (ad 31)]
def mE (g : Zg) (ad : Nat → Nat) (st : Ms) : Nat → va_E := fun k => match k with
  | 0 => eo 10 (mfs ad st.1)
  | 1 => eI g 240 (st.2.1 1)
  | 2 => eI g 720 (st.2.1 2)
  | 3 => eZ g 3 (st.2.1 3)
  | 4 => eB g 1200 (st.2.1 4)
  | 6 => eI g 5 (st.2.1 6)
  | 14 => eI g 240 (st.2.1 14)
  | 15 => eI g 61 (st.2.1 15)
  | 17 => eI g 512 (st.2.1 17)
  | 21 => eI g 512 (st.2.1 21)
  | 23 => eI g 3 (st.2.1 23)
  | 24 => eI g 3 (st.2.1 24)
  | 25 => eI g 3 (st.2.1 25)
  | 28 => eI g 4 (st.2.1 28)
  | 29 => eI g 4 (st.2.1 29)
  | 30 => eJ g 240 (st.2.2 30)
  | 31 => eJ g 60 (st.2.2 31)
  | _ => eo 0 []
def mIx : List Nat := [0, 1, 2, 3, 4, 6, 14, 15, 17, 21, 23, 24, 25, 28, 29, 30, 31]
def mSc : List Nat := [0, 5, 7, 8, 9, 10, 11, 12, 13, 16, 18, 19, 20, 22, 26, 27]
/-- the memory M holds the reference st at the addresses ad (ad 0: the object itself; ad k: the array in its field k) -/
def Mod (g : Zg) (ad : Nat → Nat) (M : Zm) (st : Ms) : Prop := (∀ i ∈ mIx, ∀ j ∈ mIx, ad i = ad j → i = j) ∧ ∀ k ∈ mIx, M (ad k) = some (mE g ad st k)
theorem Mod.at {g : Zg} {ad : Nat → Nat} {M : Zm} {st : Ms} (h : Mod g ad M st) (k : Nat) (hk : k ∈ mIx) : M (ad k) = some (mE g ad st k) := h.2 k hk
theorem Mod.up {g : Zg} {ad : Nat → Nat} {M : Zm} {st st' : Ms} {k : Nat} {e : va_E} (h : Mod g ad M st) (hk : k ∈ mIx) (he : mE g ad st' k = e) (ho : ∀ j ∈ mIx, j ≠ k → mE g ad st' j = mE g ad st j) : Mod g ad (zup M (ad k) e) st' := by
  refine ⟨h.1, fun j hj => ?_⟩
  by_cases hjk : j = k
  · subst hjk
    rw [zup_s, he]
  · rw [zup_n (fun q => hjk (h.1 j hj k hk q)), h.2 j hj, ho j hj hjk]
theorem mE_uS (g : Zg) (ad : Nat → Nat) (st : Ms) (k : Nat) (v : Int32) : ∀ j ∈ mIx, j ≠ 0 → mE g ad (uS st k v) j = mE g ad st j := by
  intro j hj h0
  simp only [mIx, List.mem_cons, List.not_mem_nil, or_false] at hj
  rcases hj with rfl | rfl | rfl | rfl | rfl | rfl | rfl | rfl | rfl | rfl | rfl | rfl | rfl | rfl | rfl | rfl | rfl <;> first | rfl | exact absurd rfl h0 | simp [mE, uS, uA, uL, Ne.symm h0, h0]
theorem mE_uA (g : Zg) (ad : Nat → Nat) (st : Ms) (k : Nat) (f : Nat → Int32) : ∀ j ∈ mIx, j ≠ k → mE g ad (uA st k f) j = mE g ad st j := by
  intro j hj h0
  simp only [mIx, List.mem_cons, List.not_mem_nil, or_false] at hj
  rcases hj with rfl | rfl | rfl | rfl | rfl | rfl | rfl | rfl | rfl | rfl | rfl | rfl | rfl | rfl | rfl | rfl | rfl <;> first | rfl | exact absurd rfl h0 | simp [mE, uS, uA, uL, Ne.symm h0, h0]
theorem mE_uL (g : Zg) (ad : Nat → Nat) (st : Ms) (k : Nat) (f : Nat → Int64) : ∀ j ∈ mIx, j ≠ k → mE g ad (uL st k f) j = mE g ad st j := by
  intro j hj h0
  simp only [mIx, List.mem_cons, List.not_mem_nil, or_false] at hj
  rcases hj with rfl | rfl | rfl | rfl | rfl | rfl | rfl | rfl | rfl | rfl | rfl | rfl | rfl | rfl | rfl | rfl | rfl <;> first | rfl | exact absurd rfl h0 | simp [mE, uS, uA, uL, Ne.symm h0, h0]
theorem mfs_set (ad : Nat → Nat) (st : Ms) (k : Nat) (hk : k ∈ mSc) (v : Int32) : (mfs ad st.1).set k (.int v) = mfs ad (uS st k v).1 := by
  simp only [mSc, List.mem_cons, List.not_mem_nil, or_false] at hk
  rcases hk with rfl | rfl | rfl | rfl | rfl | rfl | rfl | rfl | rfl | rfl | rfl | rfl | rfl | rfl | rfl | rfl <;> rfl
section ZM
variable {γ : Zc} {y : MethodName} {cc : ByteArray} {nL d mc ms : Nat} {M : Zm} {kc ks pc : Nat} {L : Nat → Option Value} {S : List Value} {ad : Nat → Nat} {st : Ms}
theorem tyX11_sc : ∀ k ∈ mSc, tyX11 k = .int ∧ (TX11 k).2.2.2 = false ∧ Nat.ble (k + 1) 32 = true ∧ (TX11 k).2.1 ≠ "this$0" := by decide +kernel
theorem zm_put (k : Nat) (h : Zok γ y cc nL d mc ms) (hm : Mod (cg γ) ad M st) {index : Nat} {x : Int32} (hk : k ∈ mSc) (hq : Cond.fieldLink y.cls index (TX11 k).1 (TX11 k).2.1 (TX11 k).2.2.1 ∈ lw_all) (hdg : decode cc pc = .ok (.putfield index, 3)) (kk : ∀ M' : Zm, Mod (cg γ) ad M' (uS st k x) → Z γ M' kc ks (pc + 3) L S) : Z γ M kc ks pc L (.int x :: .ref (ad 0) :: S) := by
  obtain ⟨h1, h2, h3, h4⟩ := tyX11_sc k hk
  refine z_put h kX11 (hm.at 0 (by decide)) k h3 hq h2 (by rw [h1]; rfl) (by rw [h1]; rfl) rfl (kX11n k (Nat.le_of_ble_eq_true h3) h4) hdg ?_
  refine kk _ (hm.up (by decide) ?_ (mE_uS _ _ _ _ _))
  rw [mfs_set ad st k hk x]
  rfl
theorem zm_iast (k j : Nat) (h : Zok γ y cc nL d mc ms) (hm : Mod (cg γ) ad M st) {n : Nat} {i : Int32} {x : Int32} (hk : k ∈ mIx) (hE : ∀ s : Ms, mE (cg γ) ad s k = eI (cg γ) n (s.2.1 k)) (hi : i = nI j) (hj : j < n) (hn : n < 2 ^ 31) (hdg : decode cc pc = .ok (.iastore, 1)) (kk : ∀ M' : Zm, Mod (cg γ) ad M' (uA st k (upd (st.2.1 k) j x)) → Z γ M' kc ks (pc + 1) L S) : Z γ M kc ks pc L (.int x :: .int i :: .ref (ad k) :: S) := by
  refine z_iastN j h ((hm.at k hk).trans (by rw [hE])) hi hj hn hdg ?_
  refine kk _ (hm.up hk ?_ (mE_uA _ _ _ _ _))
  rw [hE]
  simp [uA]
theorem zm_zast (k j : Nat) (h : Zok γ y cc nL d mc ms) (hm : Mod (cg γ) ad M st) {n : Nat} {i : Int32} {x : Int32} (hk : k ∈ mIx) (hE : ∀ s : Ms, mE (cg γ) ad s k = eZ (cg γ) n (s.2.1 k)) (hi : i = nI j) (hj : j < n) (hn : n < 2 ^ 31) (hdg : decode cc pc = .ok (.bastore, 1)) (kk : ∀ M' : Zm, Mod (cg γ) ad M' (uA st k (upd (st.2.1 k) j (vp_nar .boolean x))) → Z γ M' kc ks (pc + 1) L S) : Z γ M kc ks pc L (.int x :: .int i :: .ref (ad k) :: S) := by
  refine z_zastN j h ((hm.at k hk).trans (by rw [hE])) hi hj hn hdg ?_
  refine kk _ (hm.up hk ?_ (mE_uA _ _ _ _ _))
  rw [hE]
  simp [uA]
theorem zm_bast (k j : Nat) (h : Zok γ y cc nL d mc ms) (hm : Mod (cg γ) ad M st) {n : Nat} {i : Int32} {x : Int32} (hk : k ∈ mIx) (hE : ∀ s : Ms, mE (cg γ) ad s k = eB (cg γ) n (s.2.1 k)) (hi : i = nI j) (hj : j < n) (hn : n < 2 ^ 31) (hdg : decode cc pc = .ok (.bastore, 1)) (kk : ∀ M' : Zm, Mod (cg γ) ad M' (uA st k (upd (st.2.1 k) j (vp_nar .byte x))) → Z γ M' kc ks (pc + 1) L S) : Z γ M kc ks pc L (.int x :: .int i :: .ref (ad k) :: S) := by
  refine z_bastN j h ((hm.at k hk).trans (by rw [hE])) hi hj hn hdg ?_
  refine kk _ (hm.up hk ?_ (mE_uA _ _ _ _ _))
  rw [hE]
  simp [uA]
theorem zm_last (k j : Nat) (h : Zok γ y cc nL d mc ms) (hm : Mod (cg γ) ad M st) {n : Nat} {i : Int32} {x : Int64} (hk : k ∈ mIx) (hE : ∀ s : Ms, mE (cg γ) ad s k = eJ (cg γ) n (s.2.2 k)) (hi : i = nI j) (hj : j < n) (hn : n < 2 ^ 31) (hdg : decode cc pc = .ok (.lastore, 1)) (kk : ∀ M' : Zm, Mod (cg γ) ad M' (uL st k (vp_updL (st.2.2 k) j x)) → Z γ M' kc ks (pc + 1) L S) : Z γ M kc ks pc L (.long x :: .int i :: .ref (ad k) :: S) := by
  refine z_lastN j h ((hm.at k hk).trans (by rw [hE])) hi hj hn hdg ?_
  refine kk _ (hm.up hk ?_ (mE_uL _ _ _ _ _))
  rw [hE]
  simp [uL]
end ZM
