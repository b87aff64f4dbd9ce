/-! the reference made -/
set_option maxRecDepth 100000
/-- an object at a with fields fs, and cells beside it, all apart -/
def IM (ci : Nat) (M : Zm) (a : Nat) (fs : List Value) (cs : List (Nat × va_E)) : Prop := M a = some (eo ci fs) ∧ (∀ p ∈ cs, M p.1 = some p.2) ∧ (a :: cs.map Prod.fst).Nodup
theorem IM.alloc {ci : Nat} {M : Zm} {a : Nat} {fs : List Value} {cs : List (Nat × va_E)} {q : Nat} {e : va_E} (h : IM ci M a fs cs) (hq : M q = none) : IM ci (zup M q e) a fs (cs ++ [(q, e)]) := by
  obtain ⟨h1, h2, h3⟩ := h
  have hqa : a ≠ q := fun r => by subst r; rw [hq] at h1; cases h1
  have hqc : ∀ p ∈ cs, p.1 ≠ q := fun p hp r => by have := h2 p hp; rw [r, hq] at this; cases this
  refine ⟨by rw [zup_n hqa]; exact h1, fun p hp => ?_, ?_⟩
  · rcases List.mem_append.mp hp with hp | hp
    · rw [zup_n (hqc p hp)]; exact h2 p hp
    · cases List.mem_singleton.mp hp; exact zup_s M q e
  · rw [List.map_append, ← List.cons_append, List.nodup_append]
    refine ⟨h3, by simp, ?_⟩
    intro x hx y hy
    have hy2 : y = q := by simpa using hy
    subst hy2
    rcases List.mem_cons.mp hx with hx | hx
    · subst hx; exact hqa
    · obtain ⟨p, hp, e⟩ := List.mem_map.mp hx
      subst e
      exact hqc p hp
theorem IM.put {ci : Nat} {M : Zm} {a : Nat} {fs fs' : List Value} {cs : List (Nat × va_E)} (h : IM ci M a fs cs) : IM ci (zup M a (eo ci fs')) a fs' cs := by
  obtain ⟨h1, h2, h3⟩ := h
  refine ⟨zup_s M a _, fun p hp => ?_, h3⟩
  have : p.1 ≠ a := fun r => by
    rw [List.nodup_cons] at h3
    exact h3.1 (List.mem_map.mpr ⟨p, hp, r⟩)
  rw [zup_n this]
  exact h2 p hp
theorem IM.last {ci : Nat} {M : Zm} {a : Nat} {fs : List Value} {cs : List (Nat × va_E)} {q : Nat} {e e' : va_E} (h : IM ci M a fs (cs ++ [(q, e)])) : IM ci (zup M q e') a fs (cs ++ [(q, e')]) := by
  obtain ⟨h1, h2, h3⟩ := h
  have hn : (a :: (cs ++ [(q, e)]).map Prod.fst) = (a :: (cs ++ [(q, e')]).map Prod.fst) := by simp
  have h4 := h3
  rw [List.map_append, ← List.cons_append, List.nodup_append] at h4
  have hd : ∀ x ∈ a :: cs.map Prod.fst, x ≠ q := fun x hx => h4.2.2 x hx q (by simp)
  refine ⟨by rw [zup_n (hd a List.mem_cons_self)]; exact h1, fun p hp => ?_, hn ▸ h3⟩
  rcases List.mem_append.mp hp with hp | hp
  · rw [zup_n (hd p.1 (List.mem_cons_of_mem _ (List.mem_map.mpr ⟨p, hp, rfl⟩)))]
    exact h2 p (List.mem_append_left _ hp)
  · cases List.mem_singleton.mp hp; exact zup_s M q e'
theorem IM.top {ci : Nat} {M : Zm} {a : Nat} {fs : List Value} {cs : List (Nat × va_E)} {q : Nat} {e : va_E} (h : IM ci M a fs (cs ++ [(q, e)])) : M q = some e := h.2.1 (q, e) (by simp)
theorem inj_nodup {f : Nat → Nat} : ∀ {l : List Nat}, (l.map f).Nodup → ∀ i ∈ l, ∀ j ∈ l, f i = f j → i = j
  | [], _, i, hi, _, _, _ => absurd hi (by simp)
  | x :: l, h, i, hi, j, hj, e => by
    rw [List.map_cons, List.nodup_cons] at h
    rcases List.mem_cons.mp hi with hi | hi
    · rcases List.mem_cons.mp hj with hj | hj
      · rw [hi, hj]
      · rw [hi] at e; exact absurd (List.mem_map.mpr ⟨j, hj, e.symm⟩) h.1
    · rcases List.mem_cons.mp hj with hj | hj
      · rw [hj] at e; exact absurd (List.mem_map.mpr ⟨i, hi, e⟩) h.1
      · exact inj_nodup h.2 i hi j hj e
/-- the reference's first state -/
def ms0 : Ms := (fun k => if k = 13 then -1 else 0, fun k => if k = 28 then upd (upd (upd (upd (fun _ => 0) 0 (-1)) 1 (-1)) 2 (-1)) 3 (-1) else fun _ => 0, fun _ _ => 0)
def adX (a q1 q2 q3 q4 q6 q14 q15 q17 q21 q23 q24 q25 q28 q29 q30 q31 : Nat) : Nat → Nat
  | 0 => a
  | 1 => q1
  | 2 => q2
  | 3 => q3
  | 4 => q4
  | 6 => q6
  | 14 => q14
  | 15 => q15
  | 17 => q17
  | 21 => q21
  | 23 => q23
  | 24 => q24
  | 25 => q25
  | 28 => q28
  | 29 => q29
  | 30 => q30
  | 31 => q31
  | _ => 0
def dfX11 : List Value := [.int 0, .null, .null, .null, .null, .int 0, .null, .int 0, .int 0, .int 0, .int 0, .int 0, .int 0, .int 0, .null, .null, .int 0, .null, .int 0, .int 0, .int 0, .null, .int 0, .null, .null, .null, .int 0, .int 0, .null, .null, .null, .null]
theorem im_mod {g : Zg} {M : Zm} {a q1 q2 q3 q4 q6 q14 q15 q17 q21 q23 q24 q25 q28 q29 q30 q31 : Nat} (h : IM 10 M a (mfs (adX a q1 q2 q3 q4 q6 q14 q15 q17 q21 q23 q24 q25 q28 q29 q30 q31) ms0.1) [(q1, eI g 240 (fun _ => 0)), (q2, eI g 720 (fun _ => 0)), (q3, eZ g 3 (fun _ => 0)), (q4, eB g 1200 (fun _ => 0)), (q6, eI g 5 (fun _ => 0)), (q14, eI g 240 (fun _ => 0)), (q15, eI g 61 (fun _ => 0)), (q17, eI g 512 (fun _ => 0)), (q21, eI g 512 (fun _ => 0)), (q23, eI g 3 (fun _ => 0)), (q24, eI g 3 (fun _ => 0)), (q25, eI g 3 (fun _ => 0)), (q28, eI g 4 (upd (upd (upd (upd (fun _ => 0) 0 (-1)) 1 (-1)) 2 (-1)) 3 (-1))), (q29, eI g 4 (fun _ => 0)), (q30, eJ g 240 (fun _ => 0)), (q31, eJ g 60 (fun _ => 0))]) : Mod g (adX a q1 q2 q3 q4 q6 q14 q15 q17 q21 q23 q24 q25 q28 q29 q30 q31) M ms0 := by
  obtain ⟨h1, h2, h3⟩ := h
  refine ⟨inj_nodup (l := mIx) h3, ?_⟩
  intro k hk
  simp only [mIx, List.mem_cons, List.not_mem_nil, or_false] at hk
  rcases hk with rfl | rfl | rfl | rfl | rfl | rfl | rfl | rfl | rfl | rfl | rfl | rfl | rfl | rfl | rfl | rfl | rfl
  · exact h1
  · exact h2 (q1, eI g 240 (fun _ => 0)) (List.mem_of_getElem? (i := 0) rfl)
  · exact h2 (q2, eI g 720 (fun _ => 0)) (List.mem_of_getElem? (i := 1) rfl)
  · exact h2 (q3, eZ g 3 (fun _ => 0)) (List.mem_of_getElem? (i := 2) rfl)
  · exact h2 (q4, eB g 1200 (fun _ => 0)) (List.mem_of_getElem? (i := 3) rfl)
  · exact h2 (q6, eI g 5 (fun _ => 0)) (List.mem_of_getElem? (i := 4) rfl)
  · exact h2 (q14, eI g 240 (fun _ => 0)) (List.mem_of_getElem? (i := 5) rfl)
  · exact h2 (q15, eI g 61 (fun _ => 0)) (List.mem_of_getElem? (i := 6) rfl)
  · exact h2 (q17, eI g 512 (fun _ => 0)) (List.mem_of_getElem? (i := 7) rfl)
  · exact h2 (q21, eI g 512 (fun _ => 0)) (List.mem_of_getElem? (i := 8) rfl)
  · exact h2 (q23, eI g 3 (fun _ => 0)) (List.mem_of_getElem? (i := 9) rfl)
  · exact h2 (q24, eI g 3 (fun _ => 0)) (List.mem_of_getElem? (i := 10) rfl)
  · exact h2 (q25, eI g 3 (fun _ => 0)) (List.mem_of_getElem? (i := 11) rfl)
  · exact h2 (q28, eI g 4 (upd (upd (upd (upd (fun _ => 0) 0 (-1)) 1 (-1)) 2 (-1)) 3 (-1))) (List.mem_of_getElem? (i := 12) rfl)
  · exact h2 (q29, eI g 4 (fun _ => 0)) (List.mem_of_getElem? (i := 13) rfl)
  · exact h2 (q30, eJ g 240 (fun _ => 0)) (List.mem_of_getElem? (i := 14) rfl)
  · exact h2 (q31, eJ g 60 (fun _ => 0)) (List.mem_of_getElem? (i := 15) rfl)
set_option maxHeartbeats 4000000 in
theorem m_init {l : Launch} {g : Zg} {M : Zm} {a : Nat} (hM : M a = some (eo 10 dfX11)) : Cn l g yX11_init cX11_init 1 none 2 16 3810 [.ref a] M (fun r M' => r = none ∧ ∃ ad, ad 0 = a ∧ Mod g ad M' ms0) := by
  refine Cn.start [(0, .ref a)] (by decide) (Nat.le_of_ble_eq_true rfl) rfl ?_
  intro γ el eg h hq
  subst el; subst eg
  have hI : IM 10 M a [.int 0, .null, .null, .null, .null, .int 0, .null, .int 0, .int 0, .int 0, .int 0, .int 0, .int 0, .int 0, .null, .null, .int 0, .null, .int 0, .int 0, .int 0, .null, .int 0, .null, .null, .null, .int 0, .int 0, .null, .null, .null, .null] [] := ⟨hM, fun p hp => absurd hp (by simp), by simp⟩
  refine z_aload_n 0 h dX11_init_0 rfl rfl rfl ?_
  refine z_objInit h q1847 q205 q206 (Nat.le_of_ble_eq_true rfl) (Nat.le_of_ble_eq_true rfl) dX11_init_1 ?_
  refine z_aload_n 0 h dX11_init_4 rfl rfl rfl ?_
  refine z_sipush h dX11_init_5 ks_240 ?_
  refine z_newi h q280 (by decide) (N := 240) (by decide) (by decide) (Nat.le_of_ble_eq_true rfl) (Nat.le_of_ble_eq_true rfl) dX11_init_8 (fun q1 hq1 => ?_)
  replace hI : IM 10 _ a [.int 0, .null, .null, .null, .null, .int 0, .null, .int 0, .int 0, .int 0, .int 0, .int 0, .int 0, .int 0, .null, .null, .int 0, .null, .int 0, .int 0, .int 0, .null, .int 0, .null, .null, .null, .int 0, .int 0, .null, .null, .null, .null] [(q1, eI (cg γ) 240 (fun _ => 0))] := hI.alloc hq1
  clear hq1
  generalize zup M q1 (eI (cg γ) 240 (fun _ => 0)) = M at hI ⊢
  refine z_putF h kX11 hI.1 1 rfl q1848 rfl rfl rfl rfl rfl rfl (kX11n 1 (by decide) (by decide)) dX11_init_10 ?_
  replace hI : IM 10 _ a [.int 0, .ref q1, .null, .null, .null, .int 0, .null, .int 0, .int 0, .int 0, .int 0, .int 0, .int 0, .int 0, .null, .null, .int 0, .null, .int 0, .int 0, .int 0, .null, .int 0, .null, .null, .null, .int 0, .int 0, .null, .null, .null, .null] [(q1, eI (cg γ) 240 (fun _ => 0))] := IM.put (fs' := [.int 0, .ref q1, .null, .null, .null, .int 0, .null, .int 0, .int 0, .int 0, .int 0, .int 0, .int 0, .int 0, .null, .null, .int 0, .null, .int 0, .int 0, .int 0, .null, .int 0, .null, .null, .null, .int 0, .int 0, .null, .null, .null, .null]) hI
  show Z γ (zup M a (eo 10 [.int 0, .ref q1, .null, .null, .null, .int 0, .null, .int 0, .int 0, .int 0, .int 0, .int 0, .int 0, .int 0, .null, .null, .int 0, .null, .int 0, .int 0, .int 0, .null, .int 0, .null, .null, .null, .int 0, .int 0, .null, .null, .null, .null])) _ _ _ _ _
  generalize zup M a (eo 10 [.int 0, .ref q1, .null, .null, .null, .int 0, .null, .int 0, .int 0, .int 0, .int 0, .int 0, .int 0, .int 0, .null, .null, .int 0, .null, .int 0, .int 0, .int 0, .null, .int 0, .null, .null, .null, .int 0, .int 0, .null, .null, .null, .null]) = M at hI ⊢
  refine z_aload_n 0 h dX11_init_13 rfl rfl rfl ?_
  refine z_sipush h dX11_init_14 ks_720 ?_
  refine z_newi h q280 (by decide) (N := 720) (by decide) (by decide) (Nat.le_of_ble_eq_true rfl) (Nat.le_of_ble_eq_true rfl) dX11_init_17 (fun q2 hq2 => ?_)
  replace hI : IM 10 _ a [.int 0, .ref q1, .null, .null, .null, .int 0, .null, .int 0, .int 0, .int 0, .int 0, .int 0, .int 0, .int 0, .null, .null, .int 0, .null, .int 0, .int 0, .int 0, .null, .int 0, .null, .null, .null, .int 0, .int 0, .null, .null, .null, .null] [(q1, eI (cg γ) 240 (fun _ => 0)), (q2, eI (cg γ) 720 (fun _ => 0))] := hI.alloc hq2
  clear hq2
  generalize zup M q2 (eI (cg γ) 720 (fun _ => 0)) = M at hI ⊢
  refine z_putF h kX11 hI.1 2 rfl q1849 rfl rfl rfl rfl rfl rfl (kX11n 2 (by decide) (by decide)) dX11_init_19 ?_
  replace hI : IM 10 _ a [.int 0, .ref q1, .ref q2, .null, .null, .int 0, .null, .int 0, .int 0, .int 0, .int 0, .int 0, .int 0, .int 0, .null, .null, .int 0, .null, .int 0, .int 0, .int 0, .null, .int 0, .null, .null, .null, .int 0, .int 0, .null, .null, .null, .null] [(q1, eI (cg γ) 240 (fun _ => 0)), (q2, eI (cg γ) 720 (fun _ => 0))] := IM.put (fs' := [.int 0, .ref q1, .ref q2, .null, .null, .int 0, .null, .int 0, .int 0, .int 0, .int 0, .int 0, .int 0, .int 0, .null, .null, .int 0, .null, .int 0, .int 0, .int 0, .null, .int 0, .null, .null, .null, .int 0, .int 0, .null, .null, .null, .null]) hI
  show Z γ (zup M a (eo 10 [.int 0, .ref q1, .ref q2, .null, .null, .int 0, .null, .int 0, .int 0, .int 0, .int 0, .int 0, .int 0, .int 0, .null, .null, .int 0, .null, .int 0, .int 0, .int 0, .null, .int 0, .null, .null, .null, .int 0, .int 0, .null, .null, .null, .null])) _ _ _ _ _
  generalize zup M a (eo 10 [.int 0, .ref q1, .ref q2, .null, .null, .int 0, .null, .int 0, .int 0, .int 0, .int 0, .int 0, .int 0, .int 0, .null, .null, .int 0, .null, .int 0, .int 0, .int 0, .null, .int 0, .null, .null, .null, .int 0, .int 0, .null, .null, .null, .null]) = M at hI ⊢
  refine z_aload_n 0 h dX11_init_22 rfl rfl rfl ?_
  refine z_iconst h dX11_init_23 ki_3 ?_
  refine z_newz h q1944 (by decide) (N := 3) (by decide) (by decide) (Nat.le_of_ble_eq_true rfl) (Nat.le_of_ble_eq_true rfl) dX11_init_24 (fun q3 hq3 => ?_)
  replace hI : IM 10 _ a [.int 0, .ref q1, .ref q2, .null, .null, .int 0, .null, .int 0, .int 0, .int 0, .int 0, .int 0, .int 0, .int 0, .null, .null, .int 0, .null, .int 0, .int 0, .int 0, .null, .int 0, .null, .null, .null, .int 0, .int 0, .null, .null, .null, .null] [(q1, eI (cg γ) 240 (fun _ => 0)), (q2, eI (cg γ) 720 (fun _ => 0)), (q3, eZ (cg γ) 3 (fun _ => 0))] := hI.alloc hq3
  clear hq3
  generalize zup M q3 (eZ (cg γ) 3 (fun _ => 0)) = M at hI ⊢
  refine z_putF h kX11 hI.1 3 rfl q1850 rfl rfl rfl rfl rfl rfl (kX11n 3 (by decide) (by decide)) dX11_init_26 ?_
  replace hI : IM 10 _ a [.int 0, .ref q1, .ref q2, .ref q3, .null, .int 0, .null, .int 0, .int 0, .int 0, .int 0, .int 0, .int 0, .int 0, .null, .null, .int 0, .null, .int 0, .int 0, .int 0, .null, .int 0, .null, .null, .null, .int 0, .int 0, .null, .null, .null, .null] [(q1, eI (cg γ) 240 (fun _ => 0)), (q2, eI (cg γ) 720 (fun _ => 0)), (q3, eZ (cg γ) 3 (fun _ => 0))] := IM.put (fs' := [.int 0, .ref q1, .ref q2, .ref q3, .null, .int 0, .null, .int 0, .int 0, .int 0, .int 0, .int 0, .int 0, .int 0, .null, .null, .int 0, .null, .int 0, .int 0, .int 0, .null, .int 0, .null, .null, .null, .int 0, .int 0, .null, .null, .null, .null]) hI
  show Z γ (zup M a (eo 10 [.int 0, .ref q1, .ref q2, .ref q3, .null, .int 0, .null, .int 0, .int 0, .int 0, .int 0, .int 0, .int 0, .int 0, .null, .null, .int 0, .null, .int 0, .int 0, .int 0, .null, .int 0, .null, .null, .null, .int 0, .int 0, .null, .null, .null, .null])) _ _ _ _ _
  generalize zup M a (eo 10 [.int 0, .ref q1, .ref q2, .ref q3, .null, .int 0, .null, .int 0, .int 0, .int 0, .int 0, .int 0, .int 0, .int 0, .null, .null, .int 0, .null, .int 0, .int 0, .int 0, .null, .int 0, .null, .null, .null, .int 0, .int 0, .null, .null, .null, .null]) = M at hI ⊢
  refine z_aload_n 0 h dX11_init_29 rfl rfl rfl ?_
  refine z_sipush h dX11_init_30 ks_1200 ?_
  refine z_newb h q274 (by decide) (N := 1200) (by decide) (by decide) (Nat.le_of_ble_eq_true rfl) (Nat.le_of_ble_eq_true rfl) dX11_init_33 (fun q4 hq4 => ?_)
  replace hI : IM 10 _ a [.int 0, .ref q1, .ref q2, .ref q3, .null, .int 0, .null, .int 0, .int 0, .int 0, .int 0, .int 0, .int 0, .int 0, .null, .null, .int 0, .null, .int 0, .int 0, .int 0, .null, .int 0, .null, .null, .null, .int 0, .int 0, .null, .null, .null, .null] [(q1, eI (cg γ) 240 (fun _ => 0)), (q2, eI (cg γ) 720 (fun _ => 0)), (q3, eZ (cg γ) 3 (fun _ => 0)), (q4, eB (cg γ) 1200 (fun _ => 0))] := hI.alloc hq4
  clear hq4
  generalize zup M q4 (eB (cg γ) 1200 (fun _ => 0)) = M at hI ⊢
  refine z_putF h kX11 hI.1 4 rfl q1851 rfl rfl rfl rfl rfl rfl (kX11n 4 (by decide) (by decide)) dX11_init_35 ?_
  replace hI : IM 10 _ a [.int 0, .ref q1, .ref q2, .ref q3, .ref q4, .int 0, .null, .int 0, .int 0, .int 0, .int 0, .int 0, .int 0, .int 0, .null, .null, .int 0, .null, .int 0, .int 0, .int 0, .null, .int 0, .null, .null, .null, .int 0, .int 0, .null, .null, .null, .null] [(q1, eI (cg γ) 240 (fun _ => 0)), (q2, eI (cg γ) 720 (fun _ => 0)), (q3, eZ (cg γ) 3 (fun _ => 0)), (q4, eB (cg γ) 1200 (fun _ => 0))] := IM.put (fs' := [.int 0, .ref q1, .ref q2, .ref q3, .ref q4, .int 0, .null, .int 0, .int 0, .int 0, .int 0, .int 0, .int 0, .int 0, .null, .null, .int 0, .null, .int 0, .int 0, .int 0, .null, .int 0, .null, .null, .null, .int 0, .int 0, .null, .null, .null, .null]) hI
  show Z γ (zup M a (eo 10 [.int 0, .ref q1, .ref q2, .ref q3, .ref q4, .int 0, .null, .int 0, .int 0, .int 0, .int 0, .int 0, .int 0, .int 0, .null, .null, .int 0, .null, .int 0, .int 0, .int 0, .null, .int 0, .null, .null, .null, .int 0, .int 0, .null, .null, .null, .null])) _ _ _ _ _
  generalize zup M a (eo 10 [.int 0, .ref q1, .ref q2, .ref q3, .ref q4, .int 0, .null, .int 0, .int 0, .int 0, .int 0, .int 0, .int 0, .int 0, .null, .null, .int 0, .null, .int 0, .int 0, .int 0, .null, .int 0, .null, .null, .null, .int 0, .int 0, .null, .null, .null, .null]) = M at hI ⊢
  refine z_aload_n 0 h dX11_init_38 rfl rfl rfl ?_
  refine z_iconst h dX11_init_39 ki_5 ?_
  refine z_newi h q280 (by decide) (N := 5) (by decide) (by decide) (Nat.le_of_ble_eq_true rfl) (Nat.le_of_ble_eq_true rfl) dX11_init_40 (fun q6 hq6 => ?_)
  replace hI : IM 10 _ a [.int 0, .ref q1, .ref q2, .ref q3, .ref q4, .int 0, .null, .int 0, .int 0, .int 0, .int 0, .int 0, .int 0, .int 0, .null, .null, .int 0, .null, .int 0, .int 0, .int 0, .null, .int 0, .null, .null, .null, .int 0, .int 0, .null, .null, .null, .null] [(q1, eI (cg γ) 240 (fun _ => 0)), (q2, eI (cg γ) 720 (fun _ => 0)), (q3, eZ (cg γ) 3 (fun _ => 0)), (q4, eB (cg γ) 1200 (fun _ => 0)), (q6, eI (cg γ) 5 (fun _ => 0))] := hI.alloc hq6
  clear hq6
  generalize zup M q6 (eI (cg γ) 5 (fun _ => 0)) = M at hI ⊢
  refine z_putF h kX11 hI.1 6 rfl q1853 rfl rfl rfl rfl rfl rfl (kX11n 6 (by decide) (by decide)) dX11_init_42 ?_
  replace hI : IM 10 _ a [.int 0, .ref q1, .ref q2, .ref q3, .ref q4, .int 0, .ref q6, .int 0, .int 0, .int 0, .int 0, .int 0, .int 0, .int 0, .null, .null, .int 0, .null, .int 0, .int 0, .int 0, .null, .int 0, .null, .null, .null, .int 0, .int 0, .null, .null, .null, .null] [(q1, eI (cg γ) 240 (fun _ => 0)), (q2, eI (cg γ) 720 (fun _ => 0)), (q3, eZ (cg γ) 3 (fun _ => 0)), (q4, eB (cg γ) 1200 (fun _ => 0)), (q6, eI (cg γ) 5 (fun _ => 0))] := IM.put (fs' := [.int 0, .ref q1, .ref q2, .ref q3, .ref q4, .int 0, .ref q6, .int 0, .int 0, .int 0, .int 0, .int 0, .int 0, .int 0, .null, .null, .int 0, .null, .int 0, .int 0, .int 0, .null, .int 0, .null, .null, .null, .int 0, .int 0, .null, .null, .null, .null]) hI
  show Z γ (zup M a (eo 10 [.int 0, .ref q1, .ref q2, .ref q3, .ref q4, .int 0, .ref q6, .int 0, .int 0, .int 0, .int 0, .int 0, .int 0, .int 0, .null, .null, .int 0, .null, .int 0, .int 0, .int 0, .null, .int 0, .null, .null, .null, .int 0, .int 0, .null, .null, .null, .null])) _ _ _ _ _
  generalize zup M a (eo 10 [.int 0, .ref q1, .ref q2, .ref q3, .ref q4, .int 0, .ref q6, .int 0, .int 0, .int 0, .int 0, .int 0, .int 0, .int 0, .null, .null, .int 0, .null, .int 0, .int 0, .int 0, .null, .int 0, .null, .null, .null, .int 0, .int 0, .null, .null, .null, .null]) = M at hI ⊢
  refine z_aload_n 0 h dX11_init_45 rfl rfl rfl ?_
  refine z_iconst h dX11_init_46 ki_m1 ?_
  refine z_put h kX11 hI.1 13 rfl q1860 rfl rfl rfl rfl (kX11n 13 (by decide) (by decide)) dX11_init_47 ?_
  replace hI : IM 10 _ a [.int 0, .ref q1, .ref q2, .ref q3, .ref q4, .int 0, .ref q6, .int 0, .int 0, .int 0, .int 0, .int 0, .int 0, .int (-1), .null, .null, .int 0, .null, .int 0, .int 0, .int 0, .null, .int 0, .null, .null, .null, .int 0, .int 0, .null, .null, .null, .null] [(q1, eI (cg γ) 240 (fun _ => 0)), (q2, eI (cg γ) 720 (fun _ => 0)), (q3, eZ (cg γ) 3 (fun _ => 0)), (q4, eB (cg γ) 1200 (fun _ => 0)), (q6, eI (cg γ) 5 (fun _ => 0))] := IM.put (fs' := [.int 0, .ref q1, .ref q2, .ref q3, .ref q4, .int 0, .ref q6, .int 0, .int 0, .int 0, .int 0, .int 0, .int 0, .int (-1), .null, .null, .int 0, .null, .int 0, .int 0, .int 0, .null, .int 0, .null, .null, .null, .int 0, .int 0, .null, .null, .null, .null]) hI
  show Z γ (zup M a (eo 10 [.int 0, .ref q1, .ref q2, .ref q3, .ref q4, .int 0, .ref q6, .int 0, .int 0, .int 0, .int 0, .int 0, .int 0, .int (-1), .null, .null, .int 0, .null, .int 0, .int 0, .int 0, .null, .int 0, .null, .null, .null, .int 0, .int 0, .null, .null, .null, .null])) _ _ _ _ _
  generalize zup M a (eo 10 [.int 0, .ref q1, .ref q2, .ref q3, .ref q4, .int 0, .ref q6, .int 0, .int 0, .int 0, .int 0, .int 0, .int 0, .int (-1), .null, .null, .int 0, .null, .int 0, .int 0, .int 0, .null, .int 0, .null, .null, .null, .int 0, .int 0, .null, .null, .null, .null]) = M at hI ⊢
  refine z_aload_n 0 h dX11_init_50 rfl rfl rfl ?_
  refine z_sipush h dX11_init_51 ks_240 ?_
  refine z_newi h q280 (by decide) (N := 240) (by decide) (by decide) (Nat.le_of_ble_eq_true rfl) (Nat.le_of_ble_eq_true rfl) dX11_init_54 (fun q14 hq14 => ?_)
  replace hI : IM 10 _ a [.int 0, .ref q1, .ref q2, .ref q3, .ref q4, .int 0, .ref q6, .int 0, .int 0, .int 0, .int 0, .int 0, .int 0, .int (-1), .null, .null, .int 0, .null, .int 0, .int 0, .int 0, .null, .int 0, .null, .null, .null, .int 0, .int 0, .null, .null, .null, .null] [(q1, eI (cg γ) 240 (fun _ => 0)), (q2, eI (cg γ) 720 (fun _ => 0)), (q3, eZ (cg γ) 3 (fun _ => 0)), (q4, eB (cg γ) 1200 (fun _ => 0)), (q6, eI (cg γ) 5 (fun _ => 0)), (q14, eI (cg γ) 240 (fun _ => 0))] := hI.alloc hq14
  clear hq14
  generalize zup M q14 (eI (cg γ) 240 (fun _ => 0)) = M at hI ⊢
  refine z_putF h kX11 hI.1 14 rfl q1861 rfl rfl rfl rfl rfl rfl (kX11n 14 (by decide) (by decide)) dX11_init_56 ?_
  replace hI : IM 10 _ a [.int 0, .ref q1, .ref q2, .ref q3, .ref q4, .int 0, .ref q6, .int 0, .int 0, .int 0, .int 0, .int 0, .int 0, .int (-1), .ref q14, .null, .int 0, .null, .int 0, .int 0, .int 0, .null, .int 0, .null, .null, .null, .int 0, .int 0, .null, .null, .null, .null] [(q1, eI (cg γ) 240 (fun _ => 0)), (q2, eI (cg γ) 720 (fun _ => 0)), (q3, eZ (cg γ) 3 (fun _ => 0)), (q4, eB (cg γ) 1200 (fun _ => 0)), (q6, eI (cg γ) 5 (fun _ => 0)), (q14, eI (cg γ) 240 (fun _ => 0))] := IM.put (fs' := [.int 0, .ref q1, .ref q2, .ref q3, .ref q4, .int 0, .ref q6, .int 0, .int 0, .int 0, .int 0, .int 0, .int 0, .int (-1), .ref q14, .null, .int 0, .null, .int 0, .int 0, .int 0, .null, .int 0, .null, .null, .null, .int 0, .int 0, .null, .null, .null, .null]) hI
  show Z γ (zup M a (eo 10 [.int 0, .ref q1, .ref q2, .ref q3, .ref q4, .int 0, .ref q6, .int 0, .int 0, .int 0, .int 0, .int 0, .int 0, .int (-1), .ref q14, .null, .int 0, .null, .int 0, .int 0, .int 0, .null, .int 0, .null, .null, .null, .int 0, .int 0, .null, .null, .null, .null])) _ _ _ _ _
  generalize zup M a (eo 10 [.int 0, .ref q1, .ref q2, .ref q3, .ref q4, .int 0, .ref q6, .int 0, .int 0, .int 0, .int 0, .int 0, .int 0, .int (-1), .ref q14, .null, .int 0, .null, .int 0, .int 0, .int 0, .null, .int 0, .null, .null, .null, .int 0, .int 0, .null, .null, .null, .null]) = M at hI ⊢
  refine z_aload_n 0 h dX11_init_59 rfl rfl rfl ?_
  refine z_bipush h dX11_init_60 kb_61 ?_
  refine z_newi h q280 (by decide) (N := 61) (by decide) (by decide) (Nat.le_of_ble_eq_true rfl) (Nat.le_of_ble_eq_true rfl) dX11_init_62 (fun q15 hq15 => ?_)
  replace hI : IM 10 _ a [.int 0, .ref q1, .ref q2, .ref q3, .ref q4, .int 0, .ref q6, .int 0, .int 0, .int 0, .int 0, .int 0, .int 0, .int (-1), .ref q14, .null, .int 0, .null, .int 0, .int 0, .int 0, .null, .int 0, .null, .null, .null, .int 0, .int 0, .null, .null, .null, .null] [(q1, eI (cg γ) 240 (fun _ => 0)), (q2, eI (cg γ) 720 (fun _ => 0)), (q3, eZ (cg γ) 3 (fun _ => 0)), (q4, eB (cg γ) 1200 (fun _ => 0)), (q6, eI (cg γ) 5 (fun _ => 0)), (q14, eI (cg γ) 240 (fun _ => 0)), (q15, eI (cg γ) 61 (fun _ => 0))] := hI.alloc hq15
  clear hq15
  generalize zup M q15 (eI (cg γ) 61 (fun _ => 0)) = M at hI ⊢
  refine z_putF h kX11 hI.1 15 rfl q1862 rfl rfl rfl rfl rfl rfl (kX11n 15 (by decide) (by decide)) dX11_init_64 ?_
  replace hI : IM 10 _ a [.int 0, .ref q1, .ref q2, .ref q3, .ref q4, .int 0, .ref q6, .int 0, .int 0, .int 0, .int 0, .int 0, .int 0, .int (-1), .ref q14, .ref q15, .int 0, .null, .int 0, .int 0, .int 0, .null, .int 0, .null, .null, .null, .int 0, .int 0, .null, .null, .null, .null] [(q1, eI (cg γ) 240 (fun _ => 0)), (q2, eI (cg γ) 720 (fun _ => 0)), (q3, eZ (cg γ) 3 (fun _ => 0)), (q4, eB (cg γ) 1200 (fun _ => 0)), (q6, eI (cg γ) 5 (fun _ => 0)), (q14, eI (cg γ) 240 (fun _ => 0)), (q15, eI (cg γ) 61 (fun _ => 0))] := IM.put (fs' := [.int 0, .ref q1, .ref q2, .ref q3, .ref q4, .int 0, .ref q6, .int 0, .int 0, .int 0, .int 0, .int 0, .int 0, .int (-1), .ref q14, .ref q15, .int 0, .null, .int 0, .int 0, .int 0, .null, .int 0, .null, .null, .null, .int 0, .int 0, .null, .null, .null, .null]) hI
  show Z γ (zup M a (eo 10 [.int 0, .ref q1, .ref q2, .ref q3, .ref q4, .int 0, .ref q6, .int 0, .int 0, .int 0, .int 0, .int 0, .int 0, .int (-1), .ref q14, .ref q15, .int 0, .null, .int 0, .int 0, .int 0, .null, .int 0, .null, .null, .null, .int 0, .int 0, .null, .null, .null, .null])) _ _ _ _ _
  generalize zup M a (eo 10 [.int 0, .ref q1, .ref q2, .ref q3, .ref q4, .int 0, .ref q6, .int 0, .int 0, .int 0, .int 0, .int 0, .int 0, .int (-1), .ref q14, .ref q15, .int 0, .null, .int 0, .int 0, .int 0, .null, .int 0, .null, .null, .null, .int 0, .int 0, .null, .null, .null, .null]) = M at hI ⊢
  refine z_aload_n 0 h dX11_init_67 rfl rfl rfl ?_
  refine z_sipush h dX11_init_68 ks_512 ?_
  refine z_newi h q280 (by decide) (N := 512) (by decide) (by decide) (Nat.le_of_ble_eq_true rfl) (Nat.le_of_ble_eq_true rfl) dX11_init_71 (fun q17 hq17 => ?_)
  replace hI : IM 10 _ a [.int 0, .ref q1, .ref q2, .ref q3, .ref q4, .int 0, .ref q6, .int 0, .int 0, .int 0, .int 0, .int 0, .int 0, .int (-1), .ref q14, .ref q15, .int 0, .null, .int 0, .int 0, .int 0, .null, .int 0, .null, .null, .null, .int 0, .int 0, .null, .null, .null, .null] [(q1, eI (cg γ) 240 (fun _ => 0)), (q2, eI (cg γ) 720 (fun _ => 0)), (q3, eZ (cg γ) 3 (fun _ => 0)), (q4, eB (cg γ) 1200 (fun _ => 0)), (q6, eI (cg γ) 5 (fun _ => 0)), (q14, eI (cg γ) 240 (fun _ => 0)), (q15, eI (cg γ) 61 (fun _ => 0)), (q17, eI (cg γ) 512 (fun _ => 0))] := hI.alloc hq17
  clear hq17
  generalize zup M q17 (eI (cg γ) 512 (fun _ => 0)) = M at hI ⊢
  refine z_putF h kX11 hI.1 17 rfl q1864 rfl rfl rfl rfl rfl rfl (kX11n 17 (by decide) (by decide)) dX11_init_73 ?_
  replace hI : IM 10 _ a [.int 0, .ref q1, .ref q2, .ref q3, .ref q4, .int 0, .ref q6, .int 0, .int 0, .int 0, .int 0, .int 0, .int 0, .int (-1), .ref q14, .ref q15, .int 0, .ref q17, .int 0, .int 0, .int 0, .null, .int 0, .null, .null, .null, .int 0, .int 0, .null, .null, .null, .null] [(q1, eI (cg γ) 240 (fun _ => 0)), (q2, eI (cg γ) 720 (fun _ => 0)), (q3, eZ (cg γ) 3 (fun _ => 0)), (q4, eB (cg γ) 1200 (fun _ => 0)), (q6, eI (cg γ) 5 (fun _ => 0)), (q14, eI (cg γ) 240 (fun _ => 0)), (q15, eI (cg γ) 61 (fun _ => 0)), (q17, eI (cg γ) 512 (fun _ => 0))] := IM.put (fs' := [.int 0, .ref q1, .ref q2, .ref q3, .ref q4, .int 0, .ref q6, .int 0, .int 0, .int 0, .int 0, .int 0, .int 0, .int (-1), .ref q14, .ref q15, .int 0, .ref q17, .int 0, .int 0, .int 0, .null, .int 0, .null, .null, .null, .int 0, .int 0, .null, .null, .null, .null]) hI
  show Z γ (zup M a (eo 10 [.int 0, .ref q1, .ref q2, .ref q3, .ref q4, .int 0, .ref q6, .int 0, .int 0, .int 0, .int 0, .int 0, .int 0, .int (-1), .ref q14, .ref q15, .int 0, .ref q17, .int 0, .int 0, .int 0, .null, .int 0, .null, .null, .null, .int 0, .int 0, .null, .null, .null, .null])) _ _ _ _ _
  generalize zup M a (eo 10 [.int 0, .ref q1, .ref q2, .ref q3, .ref q4, .int 0, .ref q6, .int 0, .int 0, .int 0, .int 0, .int 0, .int 0, .int (-1), .ref q14, .ref q15, .int 0, .ref q17, .int 0, .int 0, .int 0, .null, .int 0, .null, .null, .null, .int 0, .int 0, .null, .null, .null, .null]) = M at hI ⊢
  refine z_aload_n 0 h dX11_init_76 rfl rfl rfl ?_
  refine z_sipush h dX11_init_77 ks_512 ?_
  refine z_newi h q280 (by decide) (N := 512) (by decide) (by decide) (Nat.le_of_ble_eq_true rfl) (Nat.le_of_ble_eq_true rfl) dX11_init_80 (fun q21 hq21 => ?_)
  replace hI : IM 10 _ a [.int 0, .ref q1, .ref q2, .ref q3, .ref q4, .int 0, .ref q6, .int 0, .int 0, .int 0, .int 0, .int 0, .int 0, .int (-1), .ref q14, .ref q15, .int 0, .ref q17, .int 0, .int 0, .int 0, .null, .int 0, .null, .null, .null, .int 0, .int 0, .null, .null, .null, .null] [(q1, eI (cg γ) 240 (fun _ => 0)), (q2, eI (cg γ) 720 (fun _ => 0)), (q3, eZ (cg γ) 3 (fun _ => 0)), (q4, eB (cg γ) 1200 (fun _ => 0)), (q6, eI (cg γ) 5 (fun _ => 0)), (q14, eI (cg γ) 240 (fun _ => 0)), (q15, eI (cg γ) 61 (fun _ => 0)), (q17, eI (cg γ) 512 (fun _ => 0)), (q21, eI (cg γ) 512 (fun _ => 0))] := hI.alloc hq21
  clear hq21
  generalize zup M q21 (eI (cg γ) 512 (fun _ => 0)) = M at hI ⊢
  refine z_putF h kX11 hI.1 21 rfl q1868 rfl rfl rfl rfl rfl rfl (kX11n 21 (by decide) (by decide)) dX11_init_82 ?_
  replace hI : IM 10 _ a [.int 0, .ref q1, .ref q2, .ref q3, .ref q4, .int 0, .ref q6, .int 0, .int 0, .int 0, .int 0, .int 0, .int 0, .int (-1), .ref q14, .ref q15, .int 0, .ref q17, .int 0, .int 0, .int 0, .ref q21, .int 0, .null, .null, .null, .int 0, .int 0, .null, .null, .null, .null] [(q1, eI (cg γ) 240 (fun _ => 0)), (q2, eI (cg γ) 720 (fun _ => 0)), (q3, eZ (cg γ) 3 (fun _ => 0)), (q4, eB (cg γ) 1200 (fun _ => 0)), (q6, eI (cg γ) 5 (fun _ => 0)), (q14, eI (cg γ) 240 (fun _ => 0)), (q15, eI (cg γ) 61 (fun _ => 0)), (q17, eI (cg γ) 512 (fun _ => 0)), (q21, eI (cg γ) 512 (fun _ => 0))] := IM.put (fs' := [.int 0, .ref q1, .ref q2, .ref q3, .ref q4, .int 0, .ref q6, .int 0, .int 0, .int 0, .int 0, .int 0, .int 0, .int (-1), .ref q14, .ref q15, .int 0, .ref q17, .int 0, .int 0, .int 0, .ref q21, .int 0, .null, .null, .null, .int 0, .int 0, .null, .null, .null, .null]) hI
  show Z γ (zup M a (eo 10 [.int 0, .ref q1, .ref q2, .ref q3, .ref q4, .int 0, .ref q6, .int 0, .int 0, .int 0, .int 0, .int 0, .int 0, .int (-1), .ref q14, .ref q15, .int 0, .ref q17, .int 0, .int 0, .int 0, .ref q21, .int 0, .null, .null, .null, .int 0, .int 0, .null, .null, .null, .null])) _ _ _ _ _
  generalize zup M a (eo 10 [.int 0, .ref q1, .ref q2, .ref q3, .ref q4, .int 0, .ref q6, .int 0, .int 0, .int 0, .int 0, .int 0, .int 0, .int (-1), .ref q14, .ref q15, .int 0, .ref q17, .int 0, .int 0, .int 0, .ref q21, .int 0, .null, .null, .null, .int 0, .int 0, .null, .null, .null, .null]) = M at hI ⊢
  refine z_aload_n 0 h dX11_init_85 rfl rfl rfl ?_
  refine z_iconst h dX11_init_86 ki_3 ?_
  refine z_newi h q280 (by decide) (N := 3) (by decide) (by decide) (Nat.le_of_ble_eq_true rfl) (Nat.le_of_ble_eq_true rfl) dX11_init_87 (fun q23 hq23 => ?_)
  replace hI : IM 10 _ a [.int 0, .ref q1, .ref q2, .ref q3, .ref q4, .int 0, .ref q6, .int 0, .int 0, .int 0, .int 0, .int 0, .int 0, .int (-1), .ref q14, .ref q15, .int 0, .ref q17, .int 0, .int 0, .int 0, .ref q21, .int 0, .null, .null, .null, .int 0, .int 0, .null, .null, .null, .null] [(q1, eI (cg γ) 240 (fun _ => 0)), (q2, eI (cg γ) 720 (fun _ => 0)), (q3, eZ (cg γ) 3 (fun _ => 0)), (q4, eB (cg γ) 1200 (fun _ => 0)), (q6, eI (cg γ) 5 (fun _ => 0)), (q14, eI (cg γ) 240 (fun _ => 0)), (q15, eI (cg γ) 61 (fun _ => 0)), (q17, eI (cg γ) 512 (fun _ => 0)), (q21, eI (cg γ) 512 (fun _ => 0)), (q23, eI (cg γ) 3 (fun _ => 0))] := hI.alloc hq23
  clear hq23
  generalize zup M q23 (eI (cg γ) 3 (fun _ => 0)) = M at hI ⊢
  refine z_putF h kX11 hI.1 23 rfl q1870 rfl rfl rfl rfl rfl rfl (kX11n 23 (by decide) (by decide)) dX11_init_89 ?_
  replace hI : IM 10 _ a [.int 0, .ref q1, .ref q2, .ref q3, .ref q4, .int 0, .ref q6, .int 0, .int 0, .int 0, .int 0, .int 0, .int 0, .int (-1), .ref q14, .ref q15, .int 0, .ref q17, .int 0, .int 0, .int 0, .ref q21, .int 0, .ref q23, .null, .null, .int 0, .int 0, .null, .null, .null, .null] [(q1, eI (cg γ) 240 (fun _ => 0)), (q2, eI (cg γ) 720 (fun _ => 0)), (q3, eZ (cg γ) 3 (fun _ => 0)), (q4, eB (cg γ) 1200 (fun _ => 0)), (q6, eI (cg γ) 5 (fun _ => 0)), (q14, eI (cg γ) 240 (fun _ => 0)), (q15, eI (cg γ) 61 (fun _ => 0)), (q17, eI (cg γ) 512 (fun _ => 0)), (q21, eI (cg γ) 512 (fun _ => 0)), (q23, eI (cg γ) 3 (fun _ => 0))] := IM.put (fs' := [.int 0, .ref q1, .ref q2, .ref q3, .ref q4, .int 0, .ref q6, .int 0, .int 0, .int 0, .int 0, .int 0, .int 0, .int (-1), .ref q14, .ref q15, .int 0, .ref q17, .int 0, .int 0, .int 0, .ref q21, .int 0, .ref q23, .null, .null, .int 0, .int 0, .null, .null, .null, .null]) hI
  show Z γ (zup M a (eo 10 [.int 0, .ref q1, .ref q2, .ref q3, .ref q4, .int 0, .ref q6, .int 0, .int 0, .int 0, .int 0, .int 0, .int 0, .int (-1), .ref q14, .ref q15, .int 0, .ref q17, .int 0, .int 0, .int 0, .ref q21, .int 0, .ref q23, .null, .null, .int 0, .int 0, .null, .null, .null, .null])) _ _ _ _ _
  generalize zup M a (eo 10 [.int 0, .ref q1, .ref q2, .ref q3, .ref q4, .int 0, .ref q6, .int 0, .int 0, .int 0, .int 0, .int 0, .int 0, .int (-1), .ref q14, .ref q15, .int 0, .ref q17, .int 0, .int 0, .int 0, .ref q21, .int 0, .ref q23, .null, .null, .int 0, .int 0, .null, .null, .null, .null]) = M at hI ⊢
  refine z_aload_n 0 h dX11_init_92 rfl rfl rfl ?_
  refine z_iconst h dX11_init_93 ki_3 ?_
  refine z_newi h q280 (by decide) (N := 3) (by decide) (by decide) (Nat.le_of_ble_eq_true rfl) (Nat.le_of_ble_eq_true rfl) dX11_init_94 (fun q24 hq24 => ?_)
  replace hI : IM 10 _ a [.int 0, .ref q1, .ref q2, .ref q3, .ref q4, .int 0, .ref q6, .int 0, .int 0, .int 0, .int 0, .int 0, .int 0, .int (-1), .ref q14, .ref q15, .int 0, .ref q17, .int 0, .int 0, .int 0, .ref q21, .int 0, .ref q23, .null, .null, .int 0, .int 0, .null, .null, .null, .null] [(q1, eI (cg γ) 240 (fun _ => 0)), (q2, eI (cg γ) 720 (fun _ => 0)), (q3, eZ (cg γ) 3 (fun _ => 0)), (q4, eB (cg γ) 1200 (fun _ => 0)), (q6, eI (cg γ) 5 (fun _ => 0)), (q14, eI (cg γ) 240 (fun _ => 0)), (q15, eI (cg γ) 61 (fun _ => 0)), (q17, eI (cg γ) 512 (fun _ => 0)), (q21, eI (cg γ) 512 (fun _ => 0)), (q23, eI (cg γ) 3 (fun _ => 0)), (q24, eI (cg γ) 3 (fun _ => 0))] := hI.alloc hq24
  clear hq24
  generalize zup M q24 (eI (cg γ) 3 (fun _ => 0)) = M at hI ⊢
  refine z_putF h kX11 hI.1 24 rfl q1871 rfl rfl rfl rfl rfl rfl (kX11n 24 (by decide) (by decide)) dX11_init_96 ?_
  replace hI : IM 10 _ a [.int 0, .ref q1, .ref q2, .ref q3, .ref q4, .int 0, .ref q6, .int 0, .int 0, .int 0, .int 0, .int 0, .int 0, .int (-1), .ref q14, .ref q15, .int 0, .ref q17, .int 0, .int 0, .int 0, .ref q21, .int 0, .ref q23, .ref q24, .null, .int 0, .int 0, .null, .null, .null, .null] [(q1, eI (cg γ) 240 (fun _ => 0)), (q2, eI (cg γ) 720 (fun _ => 0)), (q3, eZ (cg γ) 3 (fun _ => 0)), (q4, eB (cg γ) 1200 (fun _ => 0)), (q6, eI (cg γ) 5 (fun _ => 0)), (q14, eI (cg γ) 240 (fun _ => 0)), (q15, eI (cg γ) 61 (fun _ => 0)), (q17, eI (cg γ) 512 (fun _ => 0)), (q21, eI (cg γ) 512 (fun _ => 0)), (q23, eI (cg γ) 3 (fun _ => 0)), (q24, eI (cg γ) 3 (fun _ => 0))] := IM.put (fs' := [.int 0, .ref q1, .ref q2, .ref q3, .ref q4, .int 0, .ref q6, .int 0, .int 0, .int 0, .int 0, .int 0, .int 0, .int (-1), .ref q14, .ref q15, .int 0, .ref q17, .int 0, .int 0, .int 0, .ref q21, .int 0, .ref q23, .ref q24, .null, .int 0, .int 0, .null, .null, .null, .null]) hI
  show Z γ (zup M a (eo 10 [.int 0, .ref q1, .ref q2, .ref q3, .ref q4, .int 0, .ref q6, .int 0, .int 0, .int 0, .int 0, .int 0, .int 0, .int (-1), .ref q14, .ref q15, .int 0, .ref q17, .int 0, .int 0, .int 0, .ref q21, .int 0, .ref q23, .ref q24, .null, .int 0, .int 0, .null, .null, .null, .null])) _ _ _ _ _
  generalize zup M a (eo 10 [.int 0, .ref q1, .ref q2, .ref q3, .ref q4, .int 0, .ref q6, .int 0, .int 0, .int 0, .int 0, .int 0, .int 0, .int (-1), .ref q14, .ref q15, .int 0, .ref q17, .int 0, .int 0, .int 0, .ref q21, .int 0, .ref q23, .ref q24, .null, .int 0, .int 0, .null, .null, .null, .null]) = M at hI ⊢
  refine z_aload_n 0 h dX11_init_99 rfl rfl rfl ?_
  refine z_iconst h dX11_init_100 ki_3 ?_
  refine z_newi h q280 (by decide) (N := 3) (by decide) (by decide) (Nat.le_of_ble_eq_true rfl) (Nat.le_of_ble_eq_true rfl) dX11_init_101 (fun q25 hq25 => ?_)
  replace hI : IM 10 _ a [.int 0, .ref q1, .ref q2, .ref q3, .ref q4, .int 0, .ref q6, .int 0, .int 0, .int 0, .int 0, .int 0, .int 0, .int (-1), .ref q14, .ref q15, .int 0, .ref q17, .int 0, .int 0, .int 0, .ref q21, .int 0, .ref q23, .ref q24, .null, .int 0, .int 0, .null, .null, .null, .null] [(q1, eI (cg γ) 240 (fun _ => 0)), (q2, eI (cg γ) 720 (fun _ => 0)), (q3, eZ (cg γ) 3 (fun _ => 0)), (q4, eB (cg γ) 1200 (fun _ => 0)), (q6, eI (cg γ) 5 (fun _ => 0)), (q14, eI (cg γ) 240 (fun _ => 0)), (q15, eI (cg γ) 61 (fun _ => 0)), (q17, eI (cg γ) 512 (fun _ => 0)), (q21, eI (cg γ) 512 (fun _ => 0)), (q23, eI (cg γ) 3 (fun _ => 0)), (q24, eI (cg γ) 3 (fun _ => 0)), (q25, eI (cg γ) 3 (fun _ => 0))] := hI.alloc hq25
  clear hq25
  generalize zup M q25 (eI (cg γ) 3 (fun _ => 0)) = M at hI ⊢
  refine z_putF h kX11 hI.1 25 rfl q1872 rfl rfl rfl rfl rfl rfl (kX11n 25 (by decide) (by decide)) dX11_init_103 ?_
  replace hI : IM 10 _ a [.int 0, .ref q1, .ref q2, .ref q3, .ref q4, .int 0, .ref q6, .int 0, .int 0, .int 0, .int 0, .int 0, .int 0, .int (-1), .ref q14, .ref q15, .int 0, .ref q17, .int 0, .int 0, .int 0, .ref q21, .int 0, .ref q23, .ref q24, .ref q25, .int 0, .int 0, .null, .null, .null, .null] [(q1, eI (cg γ) 240 (fun _ => 0)), (q2, eI (cg γ) 720 (fun _ => 0)), (q3, eZ (cg γ) 3 (fun _ => 0)), (q4, eB (cg γ) 1200 (fun _ => 0)), (q6, eI (cg γ) 5 (fun _ => 0)), (q14, eI (cg γ) 240 (fun _ => 0)), (q15, eI (cg γ) 61 (fun _ => 0)), (q17, eI (cg γ) 512 (fun _ => 0)), (q21, eI (cg γ) 512 (fun _ => 0)), (q23, eI (cg γ) 3 (fun _ => 0)), (q24, eI (cg γ) 3 (fun _ => 0)), (q25, eI (cg γ) 3 (fun _ => 0))] := IM.put (fs' := [.int 0, .ref q1, .ref q2, .ref q3, .ref q4, .int 0, .ref q6, .int 0, .int 0, .int 0, .int 0, .int 0, .int 0, .int (-1), .ref q14, .ref q15, .int 0, .ref q17, .int 0, .int 0, .int 0, .ref q21, .int 0, .ref q23, .ref q24, .ref q25, .int 0, .int 0, .null, .null, .null, .null]) hI
  show Z γ (zup M a (eo 10 [.int 0, .ref q1, .ref q2, .ref q3, .ref q4, .int 0, .ref q6, .int 0, .int 0, .int 0, .int 0, .int 0, .int 0, .int (-1), .ref q14, .ref q15, .int 0, .ref q17, .int 0, .int 0, .int 0, .ref q21, .int 0, .ref q23, .ref q24, .ref q25, .int 0, .int 0, .null, .null, .null, .null])) _ _ _ _ _
  generalize zup M a (eo 10 [.int 0, .ref q1, .ref q2, .ref q3, .ref q4, .int 0, .ref q6, .int 0, .int 0, .int 0, .int 0, .int 0, .int 0, .int (-1), .ref q14, .ref q15, .int 0, .ref q17, .int 0, .int 0, .int 0, .ref q21, .int 0, .ref q23, .ref q24, .ref q25, .int 0, .int 0, .null, .null, .null, .null]) = M at hI ⊢
  refine z_aload_n 0 h dX11_init_106 rfl rfl rfl ?_
  refine z_iconst h dX11_init_107 ki_4 ?_
  refine z_newi h q280 (by decide) (N := 4) (by decide) (by decide) (Nat.le_of_ble_eq_true rfl) (Nat.le_of_ble_eq_true rfl) dX11_init_108 (fun q28 hq28 => ?_)
  replace hI : IM 10 _ a [.int 0, .ref q1, .ref q2, .ref q3, .ref q4, .int 0, .ref q6, .int 0, .int 0, .int 0, .int 0, .int 0, .int 0, .int (-1), .ref q14, .ref q15, .int 0, .ref q17, .int 0, .int 0, .int 0, .ref q21, .int 0, .ref q23, .ref q24, .ref q25, .int 0, .int 0, .null, .null, .null, .null] [(q1, eI (cg γ) 240 (fun _ => 0)), (q2, eI (cg γ) 720 (fun _ => 0)), (q3, eZ (cg γ) 3 (fun _ => 0)), (q4, eB (cg γ) 1200 (fun _ => 0)), (q6, eI (cg γ) 5 (fun _ => 0)), (q14, eI (cg γ) 240 (fun _ => 0)), (q15, eI (cg γ) 61 (fun _ => 0)), (q17, eI (cg γ) 512 (fun _ => 0)), (q21, eI (cg γ) 512 (fun _ => 0)), (q23, eI (cg γ) 3 (fun _ => 0)), (q24, eI (cg γ) 3 (fun _ => 0)), (q25, eI (cg γ) 3 (fun _ => 0)), (q28, eI (cg γ) 4 (fun _ => 0))] := hI.alloc hq28
  clear hq28
  generalize zup M q28 (eI (cg γ) 4 (fun _ => 0)) = M at hI ⊢
  refine z_dup h dX11_init_110 rfl ?_
  refine z_iconst h dX11_init_111 ki_0 ?_
  refine z_iconst h dX11_init_112 ki_m1 ?_
  refine z_iastN 0 h (hI.2.1 (q28, _) (List.mem_of_getElem? (i := 12) rfl)) rfl (by decide) (by decide) dX11_init_113 ?_
  replace hI : IM 10 _ a [.int 0, .ref q1, .ref q2, .ref q3, .ref q4, .int 0, .ref q6, .int 0, .int 0, .int 0, .int 0, .int 0, .int 0, .int (-1), .ref q14, .ref q15, .int 0, .ref q17, .int 0, .int 0, .int 0, .ref q21, .int 0, .ref q23, .ref q24, .ref q25, .int 0, .int 0, .null, .null, .null, .null] [(q1, eI (cg γ) 240 (fun _ => 0)), (q2, eI (cg γ) 720 (fun _ => 0)), (q3, eZ (cg γ) 3 (fun _ => 0)), (q4, eB (cg γ) 1200 (fun _ => 0)), (q6, eI (cg γ) 5 (fun _ => 0)), (q14, eI (cg γ) 240 (fun _ => 0)), (q15, eI (cg γ) 61 (fun _ => 0)), (q17, eI (cg γ) 512 (fun _ => 0)), (q21, eI (cg γ) 512 (fun _ => 0)), (q23, eI (cg γ) 3 (fun _ => 0)), (q24, eI (cg γ) 3 (fun _ => 0)), (q25, eI (cg γ) 3 (fun _ => 0)), (q28, eI (cg γ) 4 (upd (fun _ => 0) 0 (-1)))] := IM.last (cs := [(q1, eI (cg γ) 240 (fun _ => 0)), (q2, eI (cg γ) 720 (fun _ => 0)), (q3, eZ (cg γ) 3 (fun _ => 0)), (q4, eB (cg γ) 1200 (fun _ => 0)), (q6, eI (cg γ) 5 (fun _ => 0)), (q14, eI (cg γ) 240 (fun _ => 0)), (q15, eI (cg γ) 61 (fun _ => 0)), (q17, eI (cg γ) 512 (fun _ => 0)), (q21, eI (cg γ) 512 (fun _ => 0)), (q23, eI (cg γ) 3 (fun _ => 0)), (q24, eI (cg γ) 3 (fun _ => 0)), (q25, eI (cg γ) 3 (fun _ => 0))]) hI
  generalize zup M q28 (eI (cg γ) 4 (upd (fun _ => 0) 0 (-1))) = M at hI ⊢
  refine z_dup h dX11_init_114 rfl ?_
  refine z_iconst h dX11_init_115 ki_1 ?_
  refine z_iconst h dX11_init_116 ki_m1 ?_
  refine z_iastN 1 h (hI.2.1 (q28, _) (List.mem_of_getElem? (i := 12) rfl)) rfl (by decide) (by decide) dX11_init_117 ?_
  replace hI : IM 10 _ a [.int 0, .ref q1, .ref q2, .ref q3, .ref q4, .int 0, .ref q6, .int 0, .int 0, .int 0, .int 0, .int 0, .int 0, .int (-1), .ref q14, .ref q15, .int 0, .ref q17, .int 0, .int 0, .int 0, .ref q21, .int 0, .ref q23, .ref q24, .ref q25, .int 0, .int 0, .null, .null, .null, .null] [(q1, eI (cg γ) 240 (fun _ => 0)), (q2, eI (cg γ) 720 (fun _ => 0)), (q3, eZ (cg γ) 3 (fun _ => 0)), (q4, eB (cg γ) 1200 (fun _ => 0)), (q6, eI (cg γ) 5 (fun _ => 0)), (q14, eI (cg γ) 240 (fun _ => 0)), (q15, eI (cg γ) 61 (fun _ => 0)), (q17, eI (cg γ) 512 (fun _ => 0)), (q21, eI (cg γ) 512 (fun _ => 0)), (q23, eI (cg γ) 3 (fun _ => 0)), (q24, eI (cg γ) 3 (fun _ => 0)), (q25, eI (cg γ) 3 (fun _ => 0)), (q28, eI (cg γ) 4 (upd (upd (fun _ => 0) 0 (-1)) 1 (-1)))] := IM.last (cs := [(q1, eI (cg γ) 240 (fun _ => 0)), (q2, eI (cg γ) 720 (fun _ => 0)), (q3, eZ (cg γ) 3 (fun _ => 0)), (q4, eB (cg γ) 1200 (fun _ => 0)), (q6, eI (cg γ) 5 (fun _ => 0)), (q14, eI (cg γ) 240 (fun _ => 0)), (q15, eI (cg γ) 61 (fun _ => 0)), (q17, eI (cg γ) 512 (fun _ => 0)), (q21, eI (cg γ) 512 (fun _ => 0)), (q23, eI (cg γ) 3 (fun _ => 0)), (q24, eI (cg γ) 3 (fun _ => 0)), (q25, eI (cg γ) 3 (fun _ => 0))]) hI
  generalize zup M q28 (eI (cg γ) 4 (upd (upd (fun _ => 0) 0 (-1)) 1 (-1))) = M at hI ⊢
  refine z_dup h dX11_init_118 rfl ?_
  refine z_iconst h dX11_init_119 ki_2 ?_
  refine z_iconst h dX11_init_120 ki_m1 ?_
  refine z_iastN 2 h (hI.2.1 (q28, _) (List.mem_of_getElem? (i := 12) rfl)) rfl (by decide) (by decide) dX11_init_121 ?_
  replace hI : IM 10 _ a [.int 0, .ref q1, .ref q2, .ref q3, .ref q4, .int 0, .ref q6, .int 0, .int 0, .int 0, .int 0, .int 0, .int 0, .int (-1), .ref q14, .ref q15, .int 0, .ref q17, .int 0, .int 0, .int 0, .ref q21, .int 0, .ref q23, .ref q24, .ref q25, .int 0, .int 0, .null, .null, .null, .null] [(q1, eI (cg γ) 240 (fun _ => 0)), (q2, eI (cg γ) 720 (fun _ => 0)), (q3, eZ (cg γ) 3 (fun _ => 0)), (q4, eB (cg γ) 1200 (fun _ => 0)), (q6, eI (cg γ) 5 (fun _ => 0)), (q14, eI (cg γ) 240 (fun _ => 0)), (q15, eI (cg γ) 61 (fun _ => 0)), (q17, eI (cg γ) 512 (fun _ => 0)), (q21, eI (cg γ) 512 (fun _ => 0)), (q23, eI (cg γ) 3 (fun _ => 0)), (q24, eI (cg γ) 3 (fun _ => 0)), (q25, eI (cg γ) 3 (fun _ => 0)), (q28, eI (cg γ) 4 (upd (upd (upd (fun _ => 0) 0 (-1)) 1 (-1)) 2 (-1)))] := IM.last (cs := [(q1, eI (cg γ) 240 (fun _ => 0)), (q2, eI (cg γ) 720 (fun _ => 0)), (q3, eZ (cg γ) 3 (fun _ => 0)), (q4, eB (cg γ) 1200 (fun _ => 0)), (q6, eI (cg γ) 5 (fun _ => 0)), (q14, eI (cg γ) 240 (fun _ => 0)), (q15, eI (cg γ) 61 (fun _ => 0)), (q17, eI (cg γ) 512 (fun _ => 0)), (q21, eI (cg γ) 512 (fun _ => 0)), (q23, eI (cg γ) 3 (fun _ => 0)), (q24, eI (cg γ) 3 (fun _ => 0)), (q25, eI (cg γ) 3 (fun _ => 0))]) hI
  generalize zup M q28 (eI (cg γ) 4 (upd (upd (upd (fun _ => 0) 0 (-1)) 1 (-1)) 2 (-1))) = M at hI ⊢
  refine z_dup h dX11_init_122 rfl ?_
  refine z_iconst h dX11_init_123 ki_3 ?_
  refine z_iconst h dX11_init_124 ki_m1 ?_
  refine z_iastN 3 h (hI.2.1 (q28, _) (List.mem_of_getElem? (i := 12) rfl)) rfl (by decide) (by decide) dX11_init_125 ?_
  replace hI : IM 10 _ a [.int 0, .ref q1, .ref q2, .ref q3, .ref q4, .int 0, .ref q6, .int 0, .int 0, .int 0, .int 0, .int 0, .int 0, .int (-1), .ref q14, .ref q15, .int 0, .ref q17, .int 0, .int 0, .int 0, .ref q21, .int 0, .ref q23, .ref q24, .ref q25, .int 0, .int 0, .null, .null, .null, .null] [(q1, eI (cg γ) 240 (fun _ => 0)), (q2, eI (cg γ) 720 (fun _ => 0)), (q3, eZ (cg γ) 3 (fun _ => 0)), (q4, eB (cg γ) 1200 (fun _ => 0)), (q6, eI (cg γ) 5 (fun _ => 0)), (q14, eI (cg γ) 240 (fun _ => 0)), (q15, eI (cg γ) 61 (fun _ => 0)), (q17, eI (cg γ) 512 (fun _ => 0)), (q21, eI (cg γ) 512 (fun _ => 0)), (q23, eI (cg γ) 3 (fun _ => 0)), (q24, eI (cg γ) 3 (fun _ => 0)), (q25, eI (cg γ) 3 (fun _ => 0)), (q28, eI (cg γ) 4 (upd (upd (upd (upd (fun _ => 0) 0 (-1)) 1 (-1)) 2 (-1)) 3 (-1)))] := IM.last (cs := [(q1, eI (cg γ) 240 (fun _ => 0)), (q2, eI (cg γ) 720 (fun _ => 0)), (q3, eZ (cg γ) 3 (fun _ => 0)), (q4, eB (cg γ) 1200 (fun _ => 0)), (q6, eI (cg γ) 5 (fun _ => 0)), (q14, eI (cg γ) 240 (fun _ => 0)), (q15, eI (cg γ) 61 (fun _ => 0)), (q17, eI (cg γ) 512 (fun _ => 0)), (q21, eI (cg γ) 512 (fun _ => 0)), (q23, eI (cg γ) 3 (fun _ => 0)), (q24, eI (cg γ) 3 (fun _ => 0)), (q25, eI (cg γ) 3 (fun _ => 0))]) hI
  generalize zup M q28 (eI (cg γ) 4 (upd (upd (upd (upd (fun _ => 0) 0 (-1)) 1 (-1)) 2 (-1)) 3 (-1))) = M at hI ⊢
  refine z_putF h kX11 hI.1 28 rfl q1875 rfl rfl rfl rfl rfl rfl (kX11n 28 (by decide) (by decide)) dX11_init_126 ?_
  replace hI : IM 10 _ a [.int 0, .ref q1, .ref q2, .ref q3, .ref q4, .int 0, .ref q6, .int 0, .int 0, .int 0, .int 0, .int 0, .int 0, .int (-1), .ref q14, .ref q15, .int 0, .ref q17, .int 0, .int 0, .int 0, .ref q21, .int 0, .ref q23, .ref q24, .ref q25, .int 0, .int 0, .ref q28, .null, .null, .null] [(q1, eI (cg γ) 240 (fun _ => 0)), (q2, eI (cg γ) 720 (fun _ => 0)), (q3, eZ (cg γ) 3 (fun _ => 0)), (q4, eB (cg γ) 1200 (fun _ => 0)), (q6, eI (cg γ) 5 (fun _ => 0)), (q14, eI (cg γ) 240 (fun _ => 0)), (q15, eI (cg γ) 61 (fun _ => 0)), (q17, eI (cg γ) 512 (fun _ => 0)), (q21, eI (cg γ) 512 (fun _ => 0)), (q23, eI (cg γ) 3 (fun _ => 0)), (q24, eI (cg γ) 3 (fun _ => 0)), (q25, eI (cg γ) 3 (fun _ => 0)), (q28, eI (cg γ) 4 (upd (upd (upd (upd (fun _ => 0) 0 (-1)) 1 (-1)) 2 (-1)) 3 (-1)))] := IM.put (fs' := [.int 0, .ref q1, .ref q2, .ref q3, .ref q4, .int 0, .ref q6, .int 0, .int 0, .int 0, .int 0, .int 0, .int 0, .int (-1), .ref q14, .ref q15, .int 0, .ref q17, .int 0, .int 0, .int 0, .ref q21, .int 0, .ref q23, .ref q24, .ref q25, .int 0, .int 0, .ref q28, .null, .null, .null]) hI
  show Z γ (zup M a (eo 10 [.int 0, .ref q1, .ref q2, .ref q3, .ref q4, .int 0, .ref q6, .int 0, .int 0, .int 0, .int 0, .int 0, .int 0, .int (-1), .ref q14, .ref q15, .int 0, .ref q17, .int 0, .int 0, .int 0, .ref q21, .int 0, .ref q23, .ref q24, .ref q25, .int 0, .int 0, .ref q28, .null, .null, .null])) _ _ _ _ _
  generalize zup M a (eo 10 [.int 0, .ref q1, .ref q2, .ref q3, .ref q4, .int 0, .ref q6, .int 0, .int 0, .int 0, .int 0, .int 0, .int 0, .int (-1), .ref q14, .ref q15, .int 0, .ref q17, .int 0, .int 0, .int 0, .ref q21, .int 0, .ref q23, .ref q24, .ref q25, .int 0, .int 0, .ref q28, .null, .null, .null]) = M at hI ⊢
  refine z_aload_n 0 h dX11_init_129 rfl rfl rfl ?_
  refine z_iconst h dX11_init_130 ki_4 ?_
  refine z_newi h q280 (by decide) (N := 4) (by decide) (by decide) (Nat.le_of_ble_eq_true rfl) (Nat.le_of_ble_eq_true rfl) dX11_init_131 (fun q29 hq29 => ?_)
  replace hI : IM 10 _ a [.int 0, .ref q1, .ref q2, .ref q3, .ref q4, .int 0, .ref q6, .int 0, .int 0, .int 0, .int 0, .int 0, .int 0, .int (-1), .ref q14, .ref q15, .int 0, .ref q17, .int 0, .int 0, .int 0, .ref q21, .int 0, .ref q23, .ref q24, .ref q25, .int 0, .int 0, .ref q28, .null, .null, .null] [(q1, eI (cg γ) 240 (fun _ => 0)), (q2, eI (cg γ) 720 (fun _ => 0)), (q3, eZ (cg γ) 3 (fun _ => 0)), (q4, eB (cg γ) 1200 (fun _ => 0)), (q6, eI (cg γ) 5 (fun _ => 0)), (q14, eI (cg γ) 240 (fun _ => 0)), (q15, eI (cg γ) 61 (fun _ => 0)), (q17, eI (cg γ) 512 (fun _ => 0)), (q21, eI (cg γ) 512 (fun _ => 0)), (q23, eI (cg γ) 3 (fun _ => 0)), (q24, eI (cg γ) 3 (fun _ => 0)), (q25, eI (cg γ) 3 (fun _ => 0)), (q28, eI (cg γ) 4 (upd (upd (upd (upd (fun _ => 0) 0 (-1)) 1 (-1)) 2 (-1)) 3 (-1))), (q29, eI (cg γ) 4 (fun _ => 0))] := hI.alloc hq29
  clear hq29
  generalize zup M q29 (eI (cg γ) 4 (fun _ => 0)) = M at hI ⊢
  refine z_putF h kX11 hI.1 29 rfl q1876 rfl rfl rfl rfl rfl rfl (kX11n 29 (by decide) (by decide)) dX11_init_133 ?_
  replace hI : IM 10 _ a [.int 0, .ref q1, .ref q2, .ref q3, .ref q4, .int 0, .ref q6, .int 0, .int 0, .int 0, .int 0, .int 0, .int 0, .int (-1), .ref q14, .ref q15, .int 0, .ref q17, .int 0, .int 0, .int 0, .ref q21, .int 0, .ref q23, .ref q24, .ref q25, .int 0, .int 0, .ref q28, .ref q29, .null, .null] [(q1, eI (cg γ) 240 (fun _ => 0)), (q2, eI (cg γ) 720 (fun _ => 0)), (q3, eZ (cg γ) 3 (fun _ => 0)), (q4, eB (cg γ) 1200 (fun _ => 0)), (q6, eI (cg γ) 5 (fun _ => 0)), (q14, eI (cg γ) 240 (fun _ => 0)), (q15, eI (cg γ) 61 (fun _ => 0)), (q17, eI (cg γ) 512 (fun _ => 0)), (q21, eI (cg γ) 512 (fun _ => 0)), (q23, eI (cg γ) 3 (fun _ => 0)), (q24, eI (cg γ) 3 (fun _ => 0)), (q25, eI (cg γ) 3 (fun _ => 0)), (q28, eI (cg γ) 4 (upd (upd (upd (upd (fun _ => 0) 0 (-1)) 1 (-1)) 2 (-1)) 3 (-1))), (q29, eI (cg γ) 4 (fun _ => 0))] := IM.put (fs' := [.int 0, .ref q1, .ref q2, .ref q3, .ref q4, .int 0, .ref q6, .int 0, .int 0, .int 0, .int 0, .int 0, .int 0, .int (-1), .ref q14, .ref q15, .int 0, .ref q17, .int 0, .int 0, .int 0, .ref q21, .int 0, .ref q23, .ref q24, .ref q25, .int 0, .int 0, .ref q28, .ref q29, .null, .null]) hI
  show Z γ (zup M a (eo 10 [.int 0, .ref q1, .ref q2, .ref q3, .ref q4, .int 0, .ref q6, .int 0, .int 0, .int 0, .int 0, .int 0, .int 0, .int (-1), .ref q14, .ref q15, .int 0, .ref q17, .int 0, .int 0, .int 0, .ref q21, .int 0, .ref q23, .ref q24, .ref q25, .int 0, .int 0, .ref q28, .ref q29, .null, .null])) _ _ _ _ _
  generalize zup M a (eo 10 [.int 0, .ref q1, .ref q2, .ref q3, .ref q4, .int 0, .ref q6, .int 0, .int 0, .int 0, .int 0, .int 0, .int 0, .int (-1), .ref q14, .ref q15, .int 0, .ref q17, .int 0, .int 0, .int 0, .ref q21, .int 0, .ref q23, .ref q24, .ref q25, .int 0, .int 0, .ref q28, .ref q29, .null, .null]) = M at hI ⊢
  refine z_aload_n 0 h dX11_init_136 rfl rfl rfl ?_
  refine z_sipush h dX11_init_137 ks_240 ?_
  refine z_newj h q281 (by decide) (N := 240) (by decide) (by decide) (Nat.le_of_ble_eq_true rfl) (Nat.le_of_ble_eq_true rfl) dX11_init_140 (fun q30 hq30 => ?_)
  replace hI : IM 10 _ a [.int 0, .ref q1, .ref q2, .ref q3, .ref q4, .int 0, .ref q6, .int 0, .int 0, .int 0, .int 0, .int 0, .int 0, .int (-1), .ref q14, .ref q15, .int 0, .ref q17, .int 0, .int 0, .int 0, .ref q21, .int 0, .ref q23, .ref q24, .ref q25, .int 0, .int 0, .ref q28, .ref q29, .null, .null] [(q1, eI (cg γ) 240 (fun _ => 0)), (q2, eI (cg γ) 720 (fun _ => 0)), (q3, eZ (cg γ) 3 (fun _ => 0)), (q4, eB (cg γ) 1200 (fun _ => 0)), (q6, eI (cg γ) 5 (fun _ => 0)), (q14, eI (cg γ) 240 (fun _ => 0)), (q15, eI (cg γ) 61 (fun _ => 0)), (q17, eI (cg γ) 512 (fun _ => 0)), (q21, eI (cg γ) 512 (fun _ => 0)), (q23, eI (cg γ) 3 (fun _ => 0)), (q24, eI (cg γ) 3 (fun _ => 0)), (q25, eI (cg γ) 3 (fun _ => 0)), (q28, eI (cg γ) 4 (upd (upd (upd (upd (fun _ => 0) 0 (-1)) 1 (-1)) 2 (-1)) 3 (-1))), (q29, eI (cg γ) 4 (fun _ => 0)), (q30, eJ (cg γ) 240 (fun _ => 0))] := hI.alloc hq30
  clear hq30
  generalize zup M q30 (eJ (cg γ) 240 (fun _ => 0)) = M at hI ⊢
  refine z_putF h kX11 hI.1 30 rfl q1877 rfl rfl rfl rfl rfl rfl (kX11n 30 (by decide) (by decide)) dX11_init_142 ?_
  replace hI : IM 10 _ a [.int 0, .ref q1, .ref q2, .ref q3, .ref q4, .int 0, .ref q6, .int 0, .int 0, .int 0, .int 0, .int 0, .int 0, .int (-1), .ref q14, .ref q15, .int 0, .ref q17, .int 0, .int 0, .int 0, .ref q21, .int 0, .ref q23, .ref q24, .ref q25, .int 0, .int 0, .ref q28, .ref q29, .ref q30, .null] [(q1, eI (cg γ) 240 (fun _ => 0)), (q2, eI (cg γ) 720 (fun _ => 0)), (q3, eZ (cg γ) 3 (fun _ => 0)), (q4, eB (cg γ) 1200 (fun _ => 0)), (q6, eI (cg γ) 5 (fun _ => 0)), (q14, eI (cg γ) 240 (fun _ => 0)), (q15, eI (cg γ) 61 (fun _ => 0)), (q17, eI (cg γ) 512 (fun _ => 0)), (q21, eI (cg γ) 512 (fun _ => 0)), (q23, eI (cg γ) 3 (fun _ => 0)), (q24, eI (cg γ) 3 (fun _ => 0)), (q25, eI (cg γ) 3 (fun _ => 0)), (q28, eI (cg γ) 4 (upd (upd (upd (upd (fun _ => 0) 0 (-1)) 1 (-1)) 2 (-1)) 3 (-1))), (q29, eI (cg γ) 4 (fun _ => 0)), (q30, eJ (cg γ) 240 (fun _ => 0))] := IM.put (fs' := [.int 0, .ref q1, .ref q2, .ref q3, .ref q4, .int 0, .ref q6, .int 0, .int 0, .int 0, .int 0, .int 0, .int 0, .int (-1), .ref q14, .ref q15, .int 0, .ref q17, .int 0, .int 0, .int 0, .ref q21, .int 0, .ref q23, .ref q24, .ref q25, .int 0, .int 0, .ref q28, .ref q29, .ref q30, .null]) hI
  show Z γ (zup M a (eo 10 [.int 0, .ref q1, .ref q2, .ref q3, .ref q4, .int 0, .ref q6, .int 0, .int 0, .int 0, .int 0, .int 0, .int 0, .int (-1), .ref q14, .ref q15, .int 0, .ref q17, .int 0, .int 0, .int 0, .ref q21, .int 0, .ref q23, .ref q24, .ref q25, .int 0, .int 0, .ref q28, .ref q29, .ref q30, .null])) _ _ _ _ _
  generalize zup M a (eo 10 [.int 0, .ref q1, .ref q2, .ref q3, .ref q4, .int 0, .ref q6, .int 0, .int 0, .int 0, .int 0, .int 0, .int 0, .int (-1), .ref q14, .ref q15, .int 0, .ref q17, .int 0, .int 0, .int 0, .ref q21, .int 0, .ref q23, .ref q24, .ref q25, .int 0, .int 0, .ref q28, .ref q29, .ref q30, .null]) = M at hI ⊢
  refine z_aload_n 0 h dX11_init_145 rfl rfl rfl ?_
  refine z_bipush h dX11_init_146 kb_60 ?_
  refine z_newj h q281 (by decide) (N := 60) (by decide) (by decide) (Nat.le_of_ble_eq_true rfl) (Nat.le_of_ble_eq_true rfl) dX11_init_148 (fun q31 hq31 => ?_)
  replace hI : IM 10 _ a [.int 0, .ref q1, .ref q2, .ref q3, .ref q4, .int 0, .ref q6, .int 0, .int 0, .int 0, .int 0, .int 0, .int 0, .int (-1), .ref q14, .ref q15, .int 0, .ref q17, .int 0, .int 0, .int 0, .ref q21, .int 0, .ref q23, .ref q24, .ref q25, .int 0, .int 0, .ref q28, .ref q29, .ref q30, .null] [(q1, eI (cg γ) 240 (fun _ => 0)), (q2, eI (cg γ) 720 (fun _ => 0)), (q3, eZ (cg γ) 3 (fun _ => 0)), (q4, eB (cg γ) 1200 (fun _ => 0)), (q6, eI (cg γ) 5 (fun _ => 0)), (q14, eI (cg γ) 240 (fun _ => 0)), (q15, eI (cg γ) 61 (fun _ => 0)), (q17, eI (cg γ) 512 (fun _ => 0)), (q21, eI (cg γ) 512 (fun _ => 0)), (q23, eI (cg γ) 3 (fun _ => 0)), (q24, eI (cg γ) 3 (fun _ => 0)), (q25, eI (cg γ) 3 (fun _ => 0)), (q28, eI (cg γ) 4 (upd (upd (upd (upd (fun _ => 0) 0 (-1)) 1 (-1)) 2 (-1)) 3 (-1))), (q29, eI (cg γ) 4 (fun _ => 0)), (q30, eJ (cg γ) 240 (fun _ => 0)), (q31, eJ (cg γ) 60 (fun _ => 0))] := hI.alloc hq31
  clear hq31
  generalize zup M q31 (eJ (cg γ) 60 (fun _ => 0)) = M at hI ⊢
  refine z_putF h kX11 hI.1 31 rfl q1878 rfl rfl rfl rfl rfl rfl (kX11n 31 (by decide) (by decide)) dX11_init_150 ?_
  replace hI : IM 10 _ a [.int 0, .ref q1, .ref q2, .ref q3, .ref q4, .int 0, .ref q6, .int 0, .int 0, .int 0, .int 0, .int 0, .int 0, .int (-1), .ref q14, .ref q15, .int 0, .ref q17, .int 0, .int 0, .int 0, .ref q21, .int 0, .ref q23, .ref q24, .ref q25, .int 0, .int 0, .ref q28, .ref q29, .ref q30, .ref q31] [(q1, eI (cg γ) 240 (fun _ => 0)), (q2, eI (cg γ) 720 (fun _ => 0)), (q3, eZ (cg γ) 3 (fun _ => 0)), (q4, eB (cg γ) 1200 (fun _ => 0)), (q6, eI (cg γ) 5 (fun _ => 0)), (q14, eI (cg γ) 240 (fun _ => 0)), (q15, eI (cg γ) 61 (fun _ => 0)), (q17, eI (cg γ) 512 (fun _ => 0)), (q21, eI (cg γ) 512 (fun _ => 0)), (q23, eI (cg γ) 3 (fun _ => 0)), (q24, eI (cg γ) 3 (fun _ => 0)), (q25, eI (cg γ) 3 (fun _ => 0)), (q28, eI (cg γ) 4 (upd (upd (upd (upd (fun _ => 0) 0 (-1)) 1 (-1)) 2 (-1)) 3 (-1))), (q29, eI (cg γ) 4 (fun _ => 0)), (q30, eJ (cg γ) 240 (fun _ => 0)), (q31, eJ (cg γ) 60 (fun _ => 0))] := IM.put (fs' := [.int 0, .ref q1, .ref q2, .ref q3, .ref q4, .int 0, .ref q6, .int 0, .int 0, .int 0, .int 0, .int 0, .int 0, .int (-1), .ref q14, .ref q15, .int 0, .ref q17, .int 0, .int 0, .int 0, .ref q21, .int 0, .ref q23, .ref q24, .ref q25, .int 0, .int 0, .ref q28, .ref q29, .ref q30, .ref q31]) hI
  show Z γ (zup M a (eo 10 [.int 0, .ref q1, .ref q2, .ref q3, .ref q4, .int 0, .ref q6, .int 0, .int 0, .int 0, .int 0, .int 0, .int 0, .int (-1), .ref q14, .ref q15, .int 0, .ref q17, .int 0, .int 0, .int 0, .ref q21, .int 0, .ref q23, .ref q24, .ref q25, .int 0, .int 0, .ref q28, .ref q29, .ref q30, .ref q31])) _ _ _ _ _
  generalize zup M a (eo 10 [.int 0, .ref q1, .ref q2, .ref q3, .ref q4, .int 0, .ref q6, .int 0, .int 0, .int 0, .int 0, .int 0, .int 0, .int (-1), .ref q14, .ref q15, .int 0, .ref q17, .int 0, .int 0, .int 0, .ref q21, .int 0, .ref q23, .ref q24, .ref q25, .int 0, .int 0, .ref q28, .ref q29, .ref q30, .ref q31]) = M at hI ⊢
  refine z_vret h hq dX11_init_153 (Nat.le_of_ble_eq_true rfl) (Nat.le_of_ble_eq_true rfl) ?_
  exact ⟨rfl, adX a q1 q2 q3 q4 q6 q14 q15 q17 q21 q23 q24 q25 q28 q29 q30 q31, rfl, im_mod hI⟩
