theorem fi_rg (p : Nat → Bool) : ∀ n : Nat, fi p n = (List.range n).filter p
  | 0 => rfl
  | n + 1 => by
    rw [List.range_succ, List.filter_append, ← fi_rg p n]
    by_cases h : p n = true
    · rw [fi_t h]; simp [h]
    · rw [fi_f (by simpa using h)]; simp [h]
def kf (p : Nat → Bool) (m n : Nat) : List Nat := (List.range' m (n - m)).filter p
theorem kf_n (p : Nat → Bool) (n : Nat) : kf p n n = [] := by simp [kf]
theorem kf_0 (p : Nat → Bool) (n : Nat) : kf p 0 n = fi p n := by rw [fi_rg, kf, List.range_eq_range']; rfl
theorem kf_s {p : Nat → Bool} {m n : Nat} (h : m < n) : kf p m n = if p m then m :: kf p (m + 1) n else kf p (m + 1) n := by
  unfold kf
  rw [show n - m = (n - (m + 1)) + 1 by omega, List.range'_succ, List.filter_cons]
def fgl (na : List Nat) (p : Nat → Bool) (m : Nat) : List Nat := na.take m ++ (kf p m na.length).map fun i => na.getD i 0
theorem fgl_n (na : List Nat) (p : Nat → Bool) : fgl na p na.length = na := by unfold fgl; rw [kf_n]; simp
theorem take_s {na : List Nat} {m : Nat} (h : m < na.length) : na.take (m + 1) = na.take m ++ [na.getD m 0] := by
  rw [List.take_succ, List.getD_eq_getElem?_getD, List.getElem?_eq_getElem h]; rfl
theorem fgl_t {na : List Nat} {p : Nat → Bool} {m : Nat} (h : m < na.length) (hp : p m = true) : fgl na p m = fgl na p (m + 1) := by
  unfold fgl
  rw [kf_s h, if_pos hp, take_s h]
  simp
theorem er_mid (l ys : List Nat) (x : Nat) : (l ++ x :: ys).eraseIdx l.length = l ++ ys := by
  induction l with
  | nil => rfl
  | cons a l ih => simp [ih]
theorem fgl_f {na : List Nat} {p : Nat → Bool} {m : Nat} (h : m < na.length) (hp : p m = false) : fgl na p m = (fgl na p (m + 1)).eraseIdx m := by
  unfold fgl
  rw [kf_s h, hp, take_s h]
  have hl : (na.take m).length = m := by simp; omega
  have := er_mid (na.take m) ((kf p (m + 1) na.length).map fun i => na.getD i 0) (na.getD m 0)
  rw [hl] at this
  rw [List.append_assoc]
  exact this.symm
theorem fgl_get {na : List Nat} {p : Nat → Bool} {m : Nat} (h : m < na.length) : (fgl na p (m + 1)).getD m 0 = na.getD m 0 ∧ m < (fgl na p (m + 1)).length := by
  unfold fgl
  rw [take_s h]
  have hl : (na.take m).length = m := by simp; omega
  constructor
  · rw [List.append_assoc, List.getD_eq_getElem?_getD, List.getElem?_append_right (by omega), hl]
    simp
  · simp; omega
theorem fgl_mem {na : List Nat} {p : Nat → Bool} {m y : Nat} (h : y ∈ fgl na p m) : y ∈ na := by
  unfold fgl at h
  rcases List.mem_append.mp h with h | h
  · exact List.mem_of_mem_take h
  · obtain ⟨i, hi, rfl⟩ := List.mem_map.mp h
    have h2 := (List.mem_filter.mp hi).1
    rw [List.mem_range'] at h2
    obtain ⟨j, hj, rfl⟩ := h2
    rw [List.getD_eq_getElem?_getD, List.getElem?_eq_getElem (by omega)]
    exact List.getElem_mem _
theorem fgl_0 (na : List Nat) (p : Nat → Bool) : fgl na p 0 = (fi p na.length).map fun i => na.getD i 0 := by unfold fgl; rw [kf_0]; simp
/-- what forgetting asks of the heap -/
def FGP (h : ab_H) (xa : Nat → Nat) (na la : List Nat) (σ : sg_T) : Prop := (∃ fs, h (xa 1) = some (oJ 1 0 fs) ∧ fs[2]? = some (vA (xa 20)) ∧ fs[3]? = some (vA (xa 22))) ∧ (∀ e, e < 3 → ∃ fs, h (xa (5 + e)) = some (oJ (5 + e) 2 fs)) ∧ (∀ k, k < na.length → ∃ (ne : Nat) (r1 r2 r3 : ab_V), ne < 3 ∧ gd (σ.2 12) k = (ne : Int) ∧ h (na.getD k 0) = some (oJ 30 4 [vA (xa (5 + ne)), r1, r2, r3])) ∧ (∀ k, k < la.length → ∃ (le lf : Nat) (r1 r2 : ab_V), le < 3 ∧ lf < 3 ∧ gd (σ.2 17) k = (le : Int) ∧ gd (σ.2 19) k = (lf : Int) ∧ h (la.getD k 0) = some (oJ 31 5 [vA (xa (5 + le)), r1, vA (xa (5 + lf)), r2]))
theorem FGP_kp {P : Nat → Prop} {h h' : ab_H} {xa : Nat → Nat} {na la : List Nat} {σ : sg_T} (k : FRp P h h') (hP : ∀ t, P t → 20 ≤ t ∧ t < 30) (a : FGP h xa na la σ) : FGP h' xa na la σ := by
  obtain ⟨⟨fs, a1, a2⟩, b, c, d⟩ := a
  have hN : ∀ t, (t < 20 ∨ 30 ≤ t) → ¬ P t := fun t ht z => by have := hP t z; omega
  refine ⟨⟨fs, kp k a1 (hN _ (by omega)), a2⟩, fun e he => ?_, fun m hm => ?_, fun m hm => ?_⟩
  · obtain ⟨fs, b1⟩ := b e he
    exact ⟨fs, kp k b1 (hN _ (by omega))⟩
  · obtain ⟨ne, r1, r2, r3, c1, c2, c3⟩ := c m hm
    exact ⟨ne, r1, r2, r3, c1, c2, kp k c3 (hN _ (by omega))⟩
  · obtain ⟨le, lf, r1, r2, c1, c2, c3, c4, c5⟩ := d m hm
    exact ⟨le, lf, r1, r2, c1, c2, c3, c4, kp k c5 (hN _ (by omega))⟩
theorem FGP_ed {h : ab_H} {xa : Nat → Nat} {na la : List Nat} {σ : sg_T} (a : FGP h xa na la σ) {e f : Nat} (he : e < 3) (hf : f < 3) : (some (xa (5 + e)) = some (xa (5 + f))) ↔ e = f := by
  constructor
  · intro z
    obtain ⟨fs, h1⟩ := a.2.1 e he
    obtain ⟨gs, h2⟩ := a.2.1 f hf
    rw [Option.some.inj z, h2] at h1
    have h3 : 5 + f = 5 + e := congrArg Prod.fst (Option.some.inj h1)
    omega
  · rintro rfl; rfl
theorem xx46 : True := trivial
set_option maxHeartbeats 4000000 in
theorem lp_gf1 {G : gt_T} {Cc Ss : Nat} {Φ : Option ab_V → ab_H → Prop} {Θ : Nat → ab_H → Prop} {h0 : ab_H} {xa : Nat → Nat} {na la : List Nat} {σ : sg_T} {e : Nat} (he : e < 3) (hmx : na.length ≤ 20) (k0 : ∀ (h1 : ab_H), FGP h1 xa na la σ → AL G h1 (xa 20) 20 (fgl na (kn σ (e : Int)) 0) → (∀ y ∈ na, isO 20 h1 y) → FRp (t2 20) h0 h1 → ev G M_g_forget 3 86 Cc Ss 47 [some (vA (xa 1)), some (vA (xa (5 + e))), none] [] h1 Φ Θ) : ∀ (fu : Nat) (h1 : ab_H) (m : Nat), (FGP h1 xa na la σ) → (AL G h1 (xa 20) 20 (fgl na (kn σ (e : Int)) m)) → (∀ y ∈ na, isO 20 h1 y) → (FRp (t2 20) h0 h1) → (m ≤ na.length) → m < fu → ev G M_g_forget 3 86 Cc Ss 10 [some (vA (xa 1)), some (vA (xa (5 + e))), some (vI ((m : Int) - 1))] [] h1 Φ Θ := by
  intro fu
  induction fu with
  | zero => intros; omega
  | succ fu ih =>
      intro h1 m hF1 hA1 hel1 fm1 hm hn
      obtain ⟨⟨fs1, hx1, hx2, hx3⟩, -, hnts, hlks⟩ := id hF1
      refine ev_il (k_g_forget 6 rfl) rfl ?_
      cases m with
      | zero =>
          refine ev_if_lt (k_g_forget 7 rfl) (fun _ => ?_) (fun c => absurd c (by omega))
          refine ev_dead 2 (show ev _ _ _ _ _ _ 47 [some (vA (xa 1)), some (vA (xa (5 + e))), none] _ _ _ _ from ?_)
          exact k0 _ hF1 hA1 hel1 fm1
      | succ m =>
          refine ev_if_lt (k_g_forget 7 rfl) (fun c => absurd c (by omega)) (fun _ => ?_)
          rw [show ((m + 1 : Nat) : Int) - 1 = (m : Int) by omega]
          obtain ⟨ne, r1, r2, r3, hne, n12, hno⟩ := hnts m (by omega)
          refine ev_al (k_g_forget 8 rfl) rfl ?_
          refine ev_get (v := vA (xa 20)) (k_g_forget 9 rfl) hx1 hx2 ?_
          refine ev_il (k_g_forget 10 rfl) rfl ?_
          obtain ⟨fs458, ho458⟩ := AL_recv hA1
          refine ev_cV (k_g_forget 11 rfl) rfl v_al_get ho458 rfl (c_al_get G _ _ _ _ hA1 m (fgl_get (by omega)).2) rfl (le_b rfl) (le_b rfl) (le_b rfl) k_n (k_R fun z458 h458 q458 => ?_)
          obtain ⟨rfl, rfl⟩ := q458
          rw [(fgl_get (by omega)).1]
          refine ev_chk (k_g_forget 12 rfl) hno ?_
          refine ev_get (v := vA (xa (5 + ne))) (k_g_forget 13 rfl) hno rfl ?_
          refine ev_al (k_g_forget 14 rfl) rfl ?_
          refine ev_ac_ne (k_g_forget 15 rfl) (fun c459 => ?_) (fun c459 => ?_)
          · rw [ne_eq, FGP_ed hF1 (by omega) (by omega)] at c459
            refine ev_iinc (k_g_forget 21 rfl) rfl (by omega) (show ev _ _ _ _ _ _ 44 [some (vA (xa 1)), some (vA (xa (5 + e))), some (vI ((m : Int) + (-1)))] _ _ _ _ from ?_)
            refine ev_goto (k_g_forget 22 rfl) ?_
            have hq : kn σ (e : Int) m = true := (by unfold kn; rw [n12]; simp; omega)
            rw [← fgl_t (by omega) hq] at hA1
            rw [show (m : Int) + (-1) = (m : Int) - 1 by omega]
            exact ih _ m hF1 hA1 hel1 fm1 (by omega) (by omega)
          · rw [FGP_ed hF1 (by omega) (by omega)] at c459
            refine ev_al (k_g_forget 16 rfl) rfl ?_
            refine ev_get (v := vA (xa 20)) (k_g_forget 17 rfl) hx1 hx2 ?_
            refine ev_il (k_g_forget 18 rfl) rfl ?_
            obtain ⟨fs460, ho460⟩ := AL_recv hA1
            refine ev_cV (k_g_forget 19 rfl) rfl v_al_remove ho460 rfl (c_al_remove G _ _ _ _ m hA1 (fgl_get (by omega)).2 (fun y hy => hel1 y (fgl_mem hy))) rfl (le_b rfl) (le_b rfl) (le_b rfl) k_n (k_R fun z460 h460 q460 => ?_)
            obtain ⟨hA460, fm460⟩ := q460
            refine ev_pop (k_g_forget 20 rfl) rfl ?_
            refine ev_iinc (k_g_forget 21 rfl) rfl (by omega) (show ev _ _ _ _ _ _ 44 [some (vA (xa 1)), some (vA (xa (5 + e))), some (vI ((m : Int) + (-1)))] _ _ _ _ from ?_)
            refine ev_goto (k_g_forget 22 rfl) ?_
            have hq : kn σ (e : Int) m = false := (by unfold kn; rw [n12]; simp; omega)
            rw [← fgl_f (by omega) hq] at hA460
            have hF2 := FGP_kp fm460 (fun t z => by unfold t2 at z; omega) hF1
            rw [show (m : Int) + (-1) = (m : Int) - 1 by omega]
            exact ih _ m hF2 hA460 (fun y hy => isO_kp fm460 (fun t z => z) (hel1 y hy)) (fr_tr fm1 fm460 (fun t z => z)) (by omega) (by omega)
set_option maxHeartbeats 4000000 in
theorem lp_gf2 {G : gt_T} {Cc Ss : Nat} {Φ : Option ab_V → ab_H → Prop} {Θ : Nat → ab_H → Prop} {h0 : ab_H} {xa : Nat → Nat} {na la : List Nat} {σ : sg_T} {e : Nat} (he : e < 3) (hmx : la.length ≤ 60) (k0 : ∀ (h1 : ab_H), FGP h1 xa na la σ → AL G h1 (xa 22) 22 (fgl la (kl σ (e : Int)) 0) → (∀ y ∈ la, isO 22 h1 y) → FRp (t2 22) h0 h1 → ev G M_g_forget 3 86 Cc Ss 112 [some (vA (xa 1)), some (vA (xa (5 + e))), none] [] h1 Φ Θ) : ∀ (fu : Nat) (h1 : ab_H) (m : Nat), (FGP h1 xa na la σ) → (AL G h1 (xa 22) 22 (fgl la (kl σ (e : Int)) m)) → (∀ y ∈ la, isO 22 h1 y) → (FRp (t2 22) h0 h1) → (m ≤ la.length) → m < fu → ev G M_g_forget 3 86 Cc Ss 57 [some (vA (xa 1)), some (vA (xa (5 + e))), some (vI ((m : Int) - 1))] [] h1 Φ Θ := by
  intro fu
  induction fu with
  | zero => intros; omega
  | succ fu ih =>
      intro h1 m hF1 hA1 hel1 fm1 hm hn
      obtain ⟨⟨fs1, hx1, hx2, hx3⟩, -, hnts, hlks⟩ := id hF1
      refine ev_il (k_g_forget 29 rfl) rfl ?_
      cases m with
      | zero =>
          refine ev_if_lt (k_g_forget 30 rfl) (fun _ => ?_) (fun c => absurd c (by omega))
          refine ev_dead 2 (show ev _ _ _ _ _ _ 112 [some (vA (xa 1)), some (vA (xa (5 + e))), none] _ _ _ _ from ?_)
          exact k0 _ hF1 hA1 hel1 fm1
      | succ m =>
          refine ev_if_lt (k_g_forget 30 rfl) (fun c => absurd c (by omega)) (fun _ => ?_)
          rw [show ((m + 1 : Nat) : Int) - 1 = (m : Int) by omega]
          obtain ⟨le, lf, r1, r2, hle, hlf, l17, l19, hno⟩ := hlks m (by omega)
          refine ev_al (k_g_forget 31 rfl) rfl ?_
          refine ev_get (v := vA (xa 22)) (k_g_forget 32 rfl) hx1 hx3 ?_
          refine ev_il (k_g_forget 33 rfl) rfl ?_
          obtain ⟨fs461, ho461⟩ := AL_recv hA1
          refine ev_cV (k_g_forget 34 rfl) rfl v_al_get ho461 rfl (c_al_get G _ _ _ _ hA1 m (fgl_get (by omega)).2) rfl (le_b rfl) (le_b rfl) (le_b rfl) k_n (k_R fun z461 h461 q461 => ?_)
          obtain ⟨rfl, rfl⟩ := q461
          rw [(fgl_get (by omega)).1]
          refine ev_chk (k_g_forget 35 rfl) hno ?_
          refine ev_get (v := vA (xa (5 + le))) (k_g_forget 36 rfl) hno rfl ?_
          refine ev_al (k_g_forget 37 rfl) rfl ?_
          refine ev_ac_eq (k_g_forget 38 rfl) (fun c462 => ?_) (fun c462 => ?_)
          · rw [FGP_ed hF1 (by omega) (by omega)] at c462
            refine ev_al (k_g_forget 47 rfl) rfl ?_
            refine ev_get (v := vA (xa 22)) (k_g_forget 48 rfl) hx1 hx3 ?_
            refine ev_il (k_g_forget 49 rfl) rfl ?_
            obtain ⟨fs463, ho463⟩ := AL_recv hA1
            refine ev_cV (k_g_forget 50 rfl) rfl v_al_remove ho463 rfl (c_al_remove G _ _ _ _ m hA1 (fgl_get (by omega)).2 (fun y hy => hel1 y (fgl_mem hy))) rfl (le_b rfl) (le_b rfl) (le_b rfl) k_n (k_R fun z463 h463 q463 => ?_)
            obtain ⟨hA463, fm463⟩ := q463
            refine ev_pop (k_g_forget 51 rfl) rfl ?_
            refine ev_iinc (k_g_forget 52 rfl) rfl (by omega) (show ev _ _ _ _ _ _ 109 [some (vA (xa 1)), some (vA (xa (5 + e))), some (vI ((m : Int) + (-1)))] _ _ _ _ from ?_)
            refine ev_goto (k_g_forget 53 rfl) ?_
            have hq : kl σ (e : Int) m = false := (by unfold kl; rw [l17, l19]; simp; omega)
            rw [← fgl_f (by omega) hq] at hA463
            have hF2 := FGP_kp fm463 (fun t z => by unfold t2 at z; omega) hF1
            rw [show (m : Int) + (-1) = (m : Int) - 1 by omega]
            exact ih _ m hF2 hA463 (fun y hy => isO_kp fm463 (fun t z => z) (hel1 y hy)) (fr_tr fm1 fm463 (fun t z => z)) (by omega) (by omega)
          · rw [ne_eq, FGP_ed hF1 (by omega) (by omega)] at c462
            refine ev_al (k_g_forget 39 rfl) rfl ?_
            refine ev_get (v := vA (xa 22)) (k_g_forget 40 rfl) hx1 hx3 ?_
            refine ev_il (k_g_forget 41 rfl) rfl ?_
            obtain ⟨fs464, ho464⟩ := AL_recv hA1
            refine ev_cV (k_g_forget 42 rfl) rfl v_al_get ho464 rfl (c_al_get G _ _ _ _ hA1 m (fgl_get (by omega)).2) rfl (le_b rfl) (le_b rfl) (le_b rfl) k_n (k_R fun z464 h464 q464 => ?_)
            obtain ⟨rfl, rfl⟩ := q464
            rw [(fgl_get (by omega)).1]
            refine ev_chk (k_g_forget 43 rfl) hno ?_
            refine ev_get (v := vA (xa (5 + lf))) (k_g_forget 44 rfl) hno rfl ?_
            refine ev_al (k_g_forget 45 rfl) rfl ?_
            refine ev_ac_ne (k_g_forget 46 rfl) (fun c465 => ?_) (fun c465 => ?_)
            · rw [ne_eq, FGP_ed hF1 (by omega) (by omega)] at c465
              refine ev_iinc (k_g_forget 52 rfl) rfl (by omega) (show ev _ _ _ _ _ _ 109 [some (vA (xa 1)), some (vA (xa (5 + e))), some (vI ((m : Int) + (-1)))] _ _ _ _ from ?_)
              refine ev_goto (k_g_forget 53 rfl) ?_
              have hq : kl σ (e : Int) m = true := (by unfold kl; rw [l17, l19]; simp; omega)
              rw [← fgl_t (by omega) hq] at hA1
              rw [show (m : Int) + (-1) = (m : Int) - 1 by omega]
              exact ih _ m hF1 hA1 hel1 fm1 (by omega) (by omega)
            · rw [FGP_ed hF1 (by omega) (by omega)] at c465
              refine ev_al (k_g_forget 47 rfl) rfl ?_
              refine ev_get (v := vA (xa 22)) (k_g_forget 48 rfl) hx1 hx3 ?_
              refine ev_il (k_g_forget 49 rfl) rfl ?_
              obtain ⟨fs466, ho466⟩ := AL_recv hA1
              refine ev_cV (k_g_forget 50 rfl) rfl v_al_remove ho466 rfl (c_al_remove G _ _ _ _ m hA1 (fgl_get (by omega)).2 (fun y hy => hel1 y (fgl_mem hy))) rfl (le_b rfl) (le_b rfl) (le_b rfl) k_n (k_R fun z466 h466 q466 => ?_)
              obtain ⟨hA466, fm466⟩ := q466
              refine ev_pop (k_g_forget 51 rfl) rfl ?_
              refine ev_iinc (k_g_forget 52 rfl) rfl (by omega) (show ev _ _ _ _ _ _ 109 [some (vA (xa 1)), some (vA (xa (5 + e))), some (vI ((m : Int) + (-1)))] _ _ _ _ from ?_)
              refine ev_goto (k_g_forget 53 rfl) ?_
              have hq : kl σ (e : Int) m = false := (by unfold kl; rw [l17, l19]; simp; omega)
              rw [← fgl_f (by omega) hq] at hA466
              have hF2 := FGP_kp fm466 (fun t z => by unfold t2 at z; omega) hF1
              rw [show (m : Int) + (-1) = (m : Int) - 1 by omega]
              exact ih _ m hF2 hA466 (fun y hy => isO_kp fm466 (fun t z => z) (hel1 y hy)) (fr_tr fm1 fm466 (fun t z => z)) (by omega) (by omega)
theorem gmap (xs : List Nat) (na : List Nat) (j : Nat) (hj : j < xs.length) : (xs.map fun i => na.getD i 0).getD j 0 = na.getD (xs.getD j 0) 0 := by
  rw [List.getD_eq_getElem?_getD, List.getElem?_map, List.getElem?_eq_getElem hj, List.getD_eq_getElem?_getD (l := xs), List.getElem?_eq_getElem hj]
  rfl
def fgn (na : List Nat) (σ : sg_T) (e : Nat) : List Nat := (fi (kn σ (e : Int)) na.length).map fun i => na.getD i 0
def fgk (la : List Nat) (σ : sg_T) (e : Nat) : List Nat := (fi (kl σ (e : Int)) la.length).map fun i => la.getD i 0
def t4 : Nat → Prop := fun t => 20 ≤ t ∧ t ≤ 23
set_option maxHeartbeats 4000000 in
theorem c_g_forget (G : gt_T) (h : ab_H) (xa : Nat → Nat) (na la : List Nat) (σ : sg_T) (e : Nat) (he : e < 3) (hn20 : na.length ≤ 20) (hl60 : la.length ≤ 60) (hF : FGP h xa na la σ) (hA : AL G h (xa 20) 20 na) (hB : AL G h (xa 22) 22 la) : ct G M_g_forget 3 86 0 0 [vA (xa 1), vA (xa (5 + e))] h (rV fun h' => AL G h' (xa 20) 20 (fgn na σ e) ∧ AL G h' (xa 22) 22 (fgk la σ e) ∧ FRp t4 h h') nT := by
  show ev _ _ _ _ _ _ 0 [some (vA (xa 1)), some (vA (xa (5 + e))), none] [] _ _ _
  obtain ⟨⟨fs0, hx1, hx2, hx3⟩, -, hnts, hlks⟩ := id hF
  refine ev_al (k_g_forget 0 rfl) rfl ?_
  refine ev_get (v := vA (xa 20)) (k_g_forget 1 rfl) hx1 hx2 ?_
  obtain ⟨fs467, ho467⟩ := AL_recv hA
  refine ev_cV (k_g_forget 2 rfl) rfl v_al_size ho467 rfl (c_al_size G _ _ _ _ hA) rfl (le_b rfl) (le_b rfl) (le_b rfl) k_n (k_I fun z467 h467 q467 => ?_)
  obtain ⟨rfl, rfl⟩ := q467
  refine ev_ic (k_g_forget 3 rfl) ?_
  refine ev_isub (k_g_forget 4 rfl) (by omega) ?_
  refine ev_is (k_g_forget 5 rfl) (le_b rfl) (show ev _ _ _ _ _ _ 10 [some (vA (xa 1)), some (vA (xa (5 + e))), some (vI ((na.length : Int) - 1))] _ _ _ _ from ?_)
  have hel0 : ∀ y ∈ na, isO 20 h y := by
    intro y hy
    obtain ⟨k, hk, rfl⟩ := List.getElem_of_mem hy
    obtain ⟨ne, r1, r2, r3, c1, c2, c3⟩ := hnts k hk
    rw [List.getD_eq_getElem?_getD, List.getElem?_eq_getElem hk] at c3
    exact ⟨30, 4, _, c3, rfl, by decide, by decide⟩
  refine lp_gf1 he hn20 (fun h1 hF1 hA1 hel1 fm1 => ?_) (na.length + 1) _ na.length hF (by rw [fgl_n]; exact hA) hel0 (fr_rf _ _) (Nat.le_refl _) (by omega)
  have hB1 := AL_kp fm1 hB (by unfold t2; omega) (by unfold t2; omega)
  obtain ⟨⟨fs1, hx1, hx2, hx3⟩, -, hnts1, hlks1⟩ := id hF1
  refine ev_al (k_g_forget 23 rfl) rfl ?_
  refine ev_get (v := vA (xa 22)) (k_g_forget 24 rfl) hx1 hx3 ?_
  obtain ⟨fs468, ho468⟩ := AL_recv hB1
  refine ev_cV (k_g_forget 25 rfl) rfl v_al_size ho468 rfl (c_al_size G _ _ _ _ hB1) rfl (le_b rfl) (le_b rfl) (le_b rfl) k_n (k_I fun z468 h468 q468 => ?_)
  obtain ⟨rfl, rfl⟩ := q468
  refine ev_ic (k_g_forget 26 rfl) ?_
  refine ev_isub (k_g_forget 27 rfl) (by omega) ?_
  refine ev_is (k_g_forget 28 rfl) (le_b rfl) (show ev _ _ _ _ _ _ 57 [some (vA (xa 1)), some (vA (xa (5 + e))), some (vI ((la.length : Int) - 1))] _ _ _ _ from ?_)
  have hel2 : ∀ y ∈ la, isO 22 h1 y := by
    intro y hy
    obtain ⟨k, hk, rfl⟩ := List.getElem_of_mem hy
    obtain ⟨le, lf, r1, r2, c1, c2, c3, c4, c5⟩ := hlks1 k hk
    rw [List.getD_eq_getElem?_getD, List.getElem?_eq_getElem hk] at c5
    exact ⟨31, 5, _, c5, rfl, by decide, by decide⟩
  refine lp_gf2 he hl60 (fun h2 hF2 hA2 hel2 fm2 => ?_) (la.length + 1) _ la.length hF1 (by rw [fgl_n]; exact hB1) hel2 (fr_rf _ _) (Nat.le_refl _) (by omega)
  rw [fgl_0] at hA1 hA2
  exact ev_vret (k_g_forget 54 rfl) rfl ⟨rfl, AL_kp fm2 hA1 (by unfold t2; omega) (by unfold t2; omega), hA2, fr_tr (fr_wk fm1 (fun t z => by unfold t2 at z; unfold t4; omega)) fm2 (fun t z => by unfold t2 at z; unfold t4; omega)⟩
set_option maxHeartbeats 2000000 in
theorem c_g_fail_n (G : gt_T) (h : ab_H) (xa : Nat → Nat) (pz w0 p0 fz s0 at_ : Int) (hx : h (xa 1) = some (oJ 1 0 [vA (xa 2), vA (xa 4), vA (xa 20), vA (xa 22), vI pz, vI w0, vI p0, vA (xa 24), vA (xa 25), vI fz])) (hr : h (xa 2) = some (oJ 2 1 [vA (xa 3), vI s0, vI at_])) : ct G M_g_fail 0 0 0 0 [vA (xa 1), vN] h (rV fun h' => h' (xa 1) = some (oJ 1 0 [vA (xa 2), vA (xa 4), vA (xa 20), vA (xa 22), vI pz, vI 0, vI (-1), vA (xa 24), vA (xa 25), vI fz]) ∧ h' (xa 2) = some (oJ 2 1 [vA (xa 3), vI 0, vI at_]) ∧ FRp (t2 1) h h') nT := by
  show ev _ _ _ _ _ _ 0 [some (vA (xa 1)), some (vN)] [] _ _ _
  refine ev_al (k_g_fail 0 rfl) rfl ?_
  refine ev_al (k_g_fail 1 rfl) rfl ?_
  refine ev_ifnn (k_g_fail 2 rfl) (fun c => absurd rfl c) (fun _ => ?_)
  refine ev_ic (k_g_fail 3 rfl) ?_
  refine ev_goto (k_g_fail 4 rfl) ?_
  refine ev_putT (k_g_fail 7 rfl) hx (le_b rfl) rfl rfl (fun h470 e470 f470 => ?_)
  have o471 := kp f470 hr (by unfold t1; omega)
  refine ev_al (k_g_fail 8 rfl) rfl ?_
  refine ev_al (k_g_fail 9 rfl) rfl ?_
  refine ev_ifnn (k_g_fail 10 rfl) (fun c => absurd rfl c) (fun _ => ?_)
  refine ev_ic (k_g_fail 11 rfl) ?_
  refine ev_goto (k_g_fail 12 rfl) ?_
  refine ev_putT (k_g_fail 15 rfl) e470 (le_b rfl) rfl rfl (fun h473 e473 f473 => ?_)
  have o474 := kp f473 o471 (by unfold t1; omega)
  refine ev_al (k_g_fail 16 rfl) rfl ?_
  refine ev_get (v := vA (xa 2)) (k_g_fail 17 rfl) e473 rfl ?_
  refine ev_ic (k_g_fail 18 rfl) ?_
  refine ev_putT (k_g_fail 19 rfl) o474 (le_b rfl) rfl rfl (fun h475 e475 f475 => ?_)
  have o476 := kp f475 e473 (by unfold t1; omega)
  exact ev_vret (k_g_fail 20 rfl) rfl (⟨rfl, o476, e475, fr_tr (fr_tr (fr_wk f470 (fun t z => Or.inl z)) f473 (fun t z => Or.inl z)) f475 (fun t z => Or.inr z)⟩)
set_option maxHeartbeats 2000000 in
theorem c_g_fail_f (G : gt_T) (h : ab_H) (xa : Nat → Nat) (pz w0 p0 fz s0 at_ : Int) (a tg : Nat) (y p : Int) (ha : h a = some (oJ tg 8 [vI y, vI p])) (htg : tg = 40) (hx : h (xa 1) = some (oJ 1 0 [vA (xa 2), vA (xa 4), vA (xa 20), vA (xa 22), vI pz, vI w0, vI p0, vA (xa 24), vA (xa 25), vI fz])) (hr : h (xa 2) = some (oJ 2 1 [vA (xa 3), vI s0, vI at_])) : ct G M_g_fail 0 0 0 0 [vA (xa 1), vA a] h (rV fun h' => h' (xa 1) = some (oJ 1 0 [vA (xa 2), vA (xa 4), vA (xa 20), vA (xa 22), vI pz, vI y, vI p, vA (xa 24), vA (xa 25), vI fz]) ∧ h' (xa 2) = some (oJ 2 1 [vA (xa 3), vI 0, vI at_]) ∧ FRp (t2 1) h h') nT := by
  show ev _ _ _ _ _ _ 0 [some (vA (xa 1)), some (vA a)] [] _ _ _
  refine ev_al (k_g_fail 0 rfl) rfl ?_
  refine ev_al (k_g_fail 1 rfl) rfl ?_
  refine ev_ifnn (k_g_fail 2 rfl) (fun _ => ?_) (fun c => by cases c)
  refine ev_al (k_g_fail 5 rfl) rfl ?_
  refine ev_get (v := vI y) (k_g_fail 6 rfl) ha rfl ?_
  refine ev_putT (k_g_fail 7 rfl) hx (le_b rfl) rfl rfl (fun h478 e478 f478 => ?_)
  have o479 := kp f478 hr (by unfold t1; omega)
  have o480 := kp f478 ha (by unfold t1; omega)
  refine ev_al (k_g_fail 8 rfl) rfl ?_
  refine ev_al (k_g_fail 9 rfl) rfl ?_
  refine ev_ifnn (k_g_fail 10 rfl) (fun _ => ?_) (fun c => by cases c)
  refine ev_al (k_g_fail 13 rfl) rfl ?_
  refine ev_get (v := vI p) (k_g_fail 14 rfl) o480 rfl ?_
  refine ev_putT (k_g_fail 15 rfl) e478 (le_b rfl) rfl rfl (fun h482 e482 f482 => ?_)
  have o483 := kp f482 o479 (by unfold t1; omega)
  have o484 := kp f482 o480 (by unfold t1; omega)
  refine ev_al (k_g_fail 16 rfl) rfl ?_
  refine ev_get (v := vA (xa 2)) (k_g_fail 17 rfl) e482 rfl ?_
  refine ev_ic (k_g_fail 18 rfl) ?_
  refine ev_putT (k_g_fail 19 rfl) o483 (le_b rfl) rfl rfl (fun h485 e485 f485 => ?_)
  have o486 := kp f485 e482 (by unfold t1; omega)
  have o487 := kp f485 o484 (by unfold t1; omega)
  exact ev_vret (k_g_fail 20 rfl) rfl (⟨rfl, o486, e485, fr_tr (fr_tr (fr_wk f478 (fun t z => Or.inl z)) f482 (fun t z => Or.inl z)) f485 (fun t z => Or.inr z)⟩)
