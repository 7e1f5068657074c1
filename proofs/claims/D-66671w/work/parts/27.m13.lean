def s00 : sg_T := (fun j => if j = 5 then -1 else 0, fun k => match ka k with
  | some (_, m) => List.replicate m 0
  | none => [])
def mfp (ma : Nat → Nat) (n : Nat) : List ab_V := [vI 0, (if 1 < n then vA (ma 1) else vN), vI 0, vI 0, vI 0, (if 5 < n then vI (-1) else vI 0), (if 6 < n then vA (ma 6) else vN), (if 7 < n then vA (ma 7) else vN), (if 8 < n then vA (ma 8) else vN), (if 9 < n then vA (ma 9) else vN), (if 10 < n then vA (ma 10) else vN), vI 0, (if 12 < n then vA (ma 12) else vN), (if 13 < n then vA (ma 13) else vN), (if 14 < n then vA (ma 14) else vN), (if 15 < n then vA (ma 15) else vN), vI 0, (if 17 < n then vA (ma 17) else vN), (if 18 < n then vA (ma 18) else vN), (if 19 < n then vA (ma 19) else vN), (if 20 < n then vA (ma 20) else vN), vI 0, (if 22 < n then vA (ma 22) else vN), (if 23 < n then vA (ma 23) else vN), (if 24 < n then vA (ma 24) else vN), vI 0, (if 26 < n then vA (ma 26) else vN)]
def upn (ma : Nat → Nat) (k a : Nat) : Nat → Nat := fun j => if j = k then a else ma j
def PM (h0 h : ab_H) (q : Nat) (ma : Nat → Nat) (n : Nat) : Prop := h q = some (oJ 1000 7 (mfp ma n)) ∧ ma 0 = q ∧ (∀ (j kd m : Nat), ka j = some (kd, m) → j < n → h (ma j) = some (oN (1000 + j) kd (List.replicate m 0))) ∧ ∀ p o, h0 p = some o → p ≠ q → h p = some o
section EvMI
variable {G : gt_T} {M : mt_T} {F L C S C2 S2 : Nat} {pc a0 b0 j0 a1 b1 j1 : Nat} {z0 z1 : Int} {ls : List (Option ab_V)} {st : List ab_V} {h h0 : ab_H} {Φ : Option ab_V → ab_H → Prop} {Θ : Nat → ab_H → Prop} {ma : Nat → Nat} {q n : Nat}
theorem ev_minA {k kd m : Nat} (d1 : ri_at M (pc, 2, 53, kd, b0, j0, z0)) (d2 : ri_at M (pc + 2, 3, 51, 7, k, j1, z1)) (hp : PM h0 h q ma n) (hka : ka k = some (kd, m)) (hkd : kd < 3) (hm : m ≤ 65536) (hk0 : 0 < k) (hk27 : k < 27) (hnk : ∀ j : Nat, (ka j).isSome = true → j < k → j < n) (hfk : ∀ a, fk (ft 7 k) (vA a) = true) (he : ∀ a, (mfp ma n).set k (vA a) = mfp (upn ma k a) (k + 1)) (hC : C2 + 1 ≤ C) (hS : S2 + m ≤ S)
    (kk : ∀ h' a, PM h0 h' q (upn ma k a) (k + 1) → ev G M F L C2 S2 (pc + 2 + 3) ls st h' Φ Θ) : ev G M F L C S pc ls (vI (m : Int) :: vA q :: st) h Φ Θ := by
  obtain ⟨p1, p2, p3, p4⟩ := hp
  refine ev_newa (1000 + k) d1 hkd hm hC hS (fun a ha _ => ?_)
  have haq : q ≠ a := by intro e; rw [e, ha] at p1; cases p1
  refine ev_putF (fs := mfp ma n) (tag := 1000) d2 (by rw [hu_ne _ _ haq]; exact p1) hk27 (hfk a) (kk _ a ⟨?_, ?_, ?_, ?_⟩)
  · rw [hu_self, he]
  · show (if 0 = k then a else ma 0) = q
    rw [if_neg (by omega)]; exact p2
  · intro j kd' m' hj hjk
    show hu _ q _ (if j = k then a else ma j) = _
    by_cases e : j = k
    · subst e
      rw [if_pos rfl, hu_ne _ _ (Ne.symm haq), hu_self]
      rw [hka] at hj; cases hj; rfl
    · rw [if_neg e]
      have h3 := p3 j kd' m' hj (hnk j (by rw [hj]; rfl) (by omega))
      have e1 : ma j ≠ q := by intro z; rw [z, p1] at h3; have h2 := congrArg (fun o : Option ab_O => o.map (fun x => x.2)) h3; simp at h2
      have e2 : ma j ≠ a := by intro z; rw [z, ha] at h3; cases h3
      rw [hu_ne _ _ e1, hu_ne _ _ e2]; exact h3
  · intro p o hpo hpq
    have h4 := p4 p o hpo hpq
    rw [hu_ne _ _ hpq, hu_ne _ _ (by intro z; rw [z, ha] at h4; cases h4)]; exact h4
theorem ev_minS {k : Nat} {z : Int} (d2 : ri_at M (pc, 3, 50, 7, k, j1, z1)) (hp : PM h0 h q ma n) (hk27 : k < 27) (hnk : ∀ j : Nat, (ka j).isSome = true → j < k + 1 → j < n) (hfk : fk (ft 7 k) (vI z) = true) (he : (mfp ma n).set k (vI z) = mfp ma (k + 1))
    (kk : ∀ h', PM h0 h' q ma (k + 1) → ev G M F L C S (pc + 3) ls st h' Φ Θ) : ev G M F L C S pc ls (vI z :: vA q :: st) h Φ Θ := by
  obtain ⟨p1, p2, p3, p4⟩ := hp
  refine ev_put d2 p1 hk27 hfk (kk _ ⟨?_, p2, ?_, ?_⟩)
  · rw [hu_self, he]
  · intro j kd' m' hj hjk
    have h3 := p3 j kd' m' hj (hnk j (by rw [hj]; rfl) (by omega))
    have e1 : ma j ≠ q := by intro z; rw [z, p1] at h3; have h2 := congrArg (fun o : Option ab_O => o.map (fun x => x.2)) h3; simp at h2
    rw [hu_ne _ _ e1]; exact h3
  · intro p o hpo hpq
    rw [hu_ne _ _ hpq]; exact p4 p o hpo hpq
end EvMI
theorem ka_lt {j : Nat} (h : (ka j).isSome = true) : j < 27 := by
  by_cases e : j < 27
  · exact e
  · exfalso
    rw [show ka j = none by unfold ka; split <;> first | omega | rfl] at h
    cases h
theorem ka_all {n k : Nat} (hk : k ≤ 27) (h : (List.range k).all (fun j => !(ka j).isSome || decide (j < n)) = true) : ∀ j : Nat, (ka j).isSome = true → j < k → j < n := by
  intro j hj hjk
  have := List.all_eq_true.mp h j (List.mem_range.mpr hjk)
  rw [hj] at this
  simpa using this
set_option maxHeartbeats 4000000 in
theorem c_m_init (G : gt_T) (h : ab_H) (q : Nat) (hq : h q = some (oJ 1000 7 (df 7))) : ct G M_m_init 1 20 18 1970 [vA q] h (rV fun h' => ∃ ma, ma 0 = q ∧ MR h' ma s00 ∧ ∀ p o, h p = some o → p ≠ q → h' p = some o) nT := by
  show ev _ _ _ _ _ _ 0 [some (vA q)] [] _ _ _
  have hp : PM h h q (fun _ => q) 1 := ⟨hq, rfl, fun j kd m hj hj1 => absurd hj (by rw [show j = 0 by omega]; simp [ka]), fun p o a _ => a⟩
  refine ev_al (k_m_init_0 0 rfl) rfl ?_
  refine ev_objInit (k_m_init_0 1 rfl) (le_b rfl) (le_b rfl) ?_
  refine ev_al (k_m_init_0 2 rfl) rfl ?_
  refine ev_sp (k_m_init_0 3 rfl) ?_
  refine ev_minA (m := 400) (C2 := 17) (S2 := 1570) (k_m_init_0 4 rfl) (k_m_init_0 5 rfl) hp rfl (le_b rfl) (le_b rfl) (by decide) (by decide) (ka_all (by decide) rfl) (fun _ => rfl) (fun _ => rfl) (le_b rfl) (le_b rfl) (fun h781 a781 p781 => ?_)
  refine ev_al (k_m_init_0 6 rfl) rfl ?_
  refine ev_ic (k_m_init_0 7 rfl) ?_
  refine ev_minS (k_m_init_0 8 rfl) p781 (by decide) (ka_all (by decide) rfl) rfl rfl (fun h782 p782 => ?_)
  refine ev_al (k_m_init_0 9 rfl) rfl ?_
  refine ev_ic (k_m_init_0 10 rfl) ?_
  refine ev_minA (m := 4) (C2 := 16) (S2 := 1566) (k_m_init_0 11 rfl) (k_m_init_0 12 rfl) p782 rfl (le_b rfl) (le_b rfl) (by decide) (by decide) (ka_all (by decide) rfl) (fun _ => rfl) (fun _ => rfl) (le_b rfl) (le_b rfl) (fun h783 a783 p783 => ?_)
  refine ev_al (k_m_init_0 13 rfl) rfl ?_
  refine ev_sp (k_m_init_0 14 rfl) ?_
  refine ev_minA (m := 160) (C2 := 15) (S2 := 1406) (k_m_init_0 15 rfl) (k_m_init_0 16 rfl) p783 rfl (le_b rfl) (le_b rfl) (by decide) (by decide) (ka_all (by decide) rfl) (fun _ => rfl) (fun _ => rfl) (le_b rfl) (le_b rfl) (fun h784 a784 p784 => ?_)
  refine ev_al (k_m_init_0 17 rfl) rfl ?_
  refine ev_sp (k_m_init_0 18 rfl) ?_
  refine ev_minA (m := 160) (C2 := 14) (S2 := 1246) (k_m_init_0 19 rfl) (k_m_init_0 20 rfl) p784 rfl (le_b rfl) (le_b rfl) (by decide) (by decide) (ka_all (by decide) rfl) (fun _ => rfl) (fun _ => rfl) (le_b rfl) (le_b rfl) (fun h785 a785 p785 => ?_)
  refine ev_al (k_m_init_0 21 rfl) rfl ?_
  refine ev_sp (k_m_init_0 22 rfl) ?_
  refine ev_minA (m := 160) (C2 := 13) (S2 := 1086) (k_m_init_0 23 rfl) (k_m_init_0 24 rfl) p785 rfl (le_b rfl) (le_b rfl) (by decide) (by decide) (ka_all (by decide) rfl) (fun _ => rfl) (fun _ => rfl) (le_b rfl) (le_b rfl) (fun h786 a786 p786 => ?_)
  refine ev_al (k_m_init_0 25 rfl) rfl ?_
  refine ev_sp (k_m_init_0 26 rfl) ?_
  refine ev_minA (m := 640) (C2 := 12) (S2 := 446) (k_m_init_0 27 rfl) (k_m_init_0 28 rfl) p786 rfl (le_b rfl) (le_b rfl) (by decide) (by decide) (ka_all (by decide) rfl) (fun _ => rfl) (fun _ => rfl) (le_b rfl) (le_b rfl) (fun h787 a787 p787 => ?_)
  refine ev_al (k_m_init_0 29 rfl) rfl ?_
  refine ev_bp (k_m_init_0 30 rfl) ?_
  refine ev_minA (m := 20) (C2 := 11) (S2 := 426) (k_m_init_0 31 rfl) (k_m_init_0 32 rfl) p787 rfl (le_b rfl) (le_b rfl) (by decide) (by decide) (ka_all (by decide) rfl) (fun _ => rfl) (fun _ => rfl) (le_b rfl) (le_b rfl) (fun h788 a788 p788 => ?_)
  refine ev_al (k_m_init_0 33 rfl) rfl ?_
  refine ev_bp (k_m_init_0 34 rfl) ?_
  refine ev_minA (m := 20) (C2 := 10) (S2 := 406) (k_m_init_0 35 rfl) (k_m_init_0 36 rfl) p788 rfl (le_b rfl) (le_b rfl) (by decide) (by decide) (ka_all (by decide) rfl) (fun _ => rfl) (fun _ => rfl) (le_b rfl) (le_b rfl) (fun h789 a789 p789 => ?_)
  refine ev_al (k_m_init_0 37 rfl) rfl ?_
  refine ev_bp (k_m_init_0 38 rfl) ?_
  refine ev_minA (m := 20) (C2 := 9) (S2 := 386) (k_m_init_0 39 rfl) (k_m_init_0 40 rfl) p789 rfl (le_b rfl) (le_b rfl) (by decide) (by decide) (ka_all (by decide) rfl) (fun _ => rfl) (fun _ => rfl) (le_b rfl) (le_b rfl) (fun h790 a790 p790 => ?_)
  refine ev_al (k_m_init_0 41 rfl) rfl ?_
  refine ev_bp (k_m_init_0 42 rfl) ?_
  refine ev_minA (m := 20) (C2 := 8) (S2 := 366) (k_m_init_0 43 rfl) (k_m_init_0 44 rfl) p790 rfl (le_b rfl) (le_b rfl) (by decide) (by decide) (ka_all (by decide) rfl) (fun _ => rfl) (fun _ => rfl) (le_b rfl) (le_b rfl) (fun h791 a791 p791 => ?_)
  refine ev_al (k_m_init_0 45 rfl) rfl ?_
  refine ev_bp (k_m_init_0 46 rfl) ?_
  refine ev_minA (m := 60) (C2 := 7) (S2 := 306) (k_m_init_0 47 rfl) (k_m_init_0 48 rfl) p791 rfl (le_b rfl) (le_b rfl) (by decide) (by decide) (ka_all (by decide) rfl) (fun _ => rfl) (fun _ => rfl) (le_b rfl) (le_b rfl) (fun h792 a792 p792 => ?_)
  refine ev_al (k_m_init_0 49 rfl) rfl ?_
  refine ev_bp (k_m_init_0 50 rfl) ?_
  refine ev_minA (m := 60) (C2 := 6) (S2 := 246) (k_m_init_0 51 rfl) (k_m_init_0 52 rfl) p792 rfl (le_b rfl) (le_b rfl) (by decide) (by decide) (ka_all (by decide) rfl) (fun _ => rfl) (fun _ => rfl) (le_b rfl) (le_b rfl) (fun h793 a793 p793 => ?_)
  refine ev_al (k_m_init_0 53 rfl) rfl ?_
  refine ev_bp (k_m_init_0 54 rfl) ?_
  refine ev_minA (m := 60) (C2 := 5) (S2 := 186) (k_m_init_0 55 rfl) (k_m_init_0 56 rfl) p793 rfl (le_b rfl) (le_b rfl) (by decide) (by decide) (ka_all (by decide) rfl) (fun _ => rfl) (fun _ => rfl) (le_b rfl) (le_b rfl) (fun h794 a794 p794 => ?_)
  refine ev_al (k_m_init_0 57 rfl) rfl ?_
  refine ev_bp (k_m_init_0 58 rfl) ?_
  refine ev_minA (m := 60) (C2 := 4) (S2 := 126) (k_m_init_0 59 rfl) (k_m_init_1 0 rfl) p794 rfl (le_b rfl) (le_b rfl) (by decide) (by decide) (ka_all (by decide) rfl) (fun _ => rfl) (fun _ => rfl) (le_b rfl) (le_b rfl) (fun h795 a795 p795 => ?_)
  refine ev_al (k_m_init_1 1 rfl) rfl ?_
  refine ev_bp (k_m_init_1 2 rfl) ?_
  refine ev_minA (m := 40) (C2 := 3) (S2 := 86) (k_m_init_1 3 rfl) (k_m_init_1 4 rfl) p795 rfl (le_b rfl) (le_b rfl) (by decide) (by decide) (ka_all (by decide) rfl) (fun _ => rfl) (fun _ => rfl) (le_b rfl) (le_b rfl) (fun h796 a796 p796 => ?_)
  refine ev_al (k_m_init_1 5 rfl) rfl ?_
  refine ev_bp (k_m_init_1 6 rfl) ?_
  refine ev_minA (m := 40) (C2 := 2) (S2 := 46) (k_m_init_1 7 rfl) (k_m_init_1 8 rfl) p796 rfl (le_b rfl) (le_b rfl) (by decide) (by decide) (ka_all (by decide) rfl) (fun _ => rfl) (fun _ => rfl) (le_b rfl) (le_b rfl) (fun h797 a797 p797 => ?_)
  refine ev_al (k_m_init_1 9 rfl) rfl ?_
  refine ev_bp (k_m_init_1 10 rfl) ?_
  refine ev_minA (m := 6) (C2 := 1) (S2 := 40) (k_m_init_1 11 rfl) (k_m_init_1 12 rfl) p797 rfl (le_b rfl) (le_b rfl) (by decide) (by decide) (ka_all (by decide) rfl) (fun _ => rfl) (fun _ => rfl) (le_b rfl) (le_b rfl) (fun h798 a798 p798 => ?_)
  refine ev_al (k_m_init_1 13 rfl) rfl ?_
  refine ev_bp (k_m_init_1 14 rfl) ?_
  refine ev_minA (m := 40) (C2 := 0) (S2 := 0) (k_m_init_1 15 rfl) (k_m_init_1 16 rfl) p798 rfl (le_b rfl) (le_b rfl) (by decide) (by decide) (ka_all (by decide) rfl) (fun _ => rfl) (fun _ => rfl) (le_b rfl) (le_b rfl) (fun h799 a799 p799 => ?_)
  exact ev_vret (k_m_init_1 17 rfl) rfl ⟨rfl, _, p799.2.1, ⟨by rw [p799.2.1]; exact p799.1, fun k kd n hk => ⟨(p799.2.2.1 k kd n hk (ka_lt (by rw [hk]; rfl))).trans (by simp [s00, hk]), by simp [s00, hk]⟩⟩, p799.2.2.2⟩
