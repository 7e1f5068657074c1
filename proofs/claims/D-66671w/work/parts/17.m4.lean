set_option maxHeartbeats 2000000 in
theorem c_m_thrown (G : gt_T) (ma : Nat → Nat) (σ : sg_T) (h : ab_H) (hm : MR h ma σ)  : ct G M_m_thrown 0 0 0 0 [vA (ma 0)] h (rI fun z h' => h = h' ∧ z = σ.1 0) nT := by
  show ev _ _ _ _ _ _ 0 [some (vA (ma 0))] [] _ _ _
  refine ev_al (k_m_thrown 0 rfl) rfl ?_
  refine ev_get (v := vI (σ.1 0)) (k_m_thrown 1 rfl) hm.1 rfl ?_
  exact ev_iret (k_m_thrown 2 rfl) rfl (⟨_, rfl, rfl, rfl⟩)
set_option maxHeartbeats 2000000 in
theorem c_m_refuse (G : gt_T) (ma : Nat → Nat) (σ : sg_T) (h : ab_H) (hm : MR h ma σ) (w : Int) : ct G M_m_refuse 0 0 0 0 [vA (ma 0), vI w] h (rI fun z h' => z = 0 ∧ MR h' ma (sS σ 0 w) ∧ fM h h') nT := by
  show ev _ _ _ _ _ _ 0 [some (vA (ma 0)), some (vI w)] [] _ _ _
  refine ev_al (k_m_refuse 0 rfl) rfl ?_
  refine ev_il (k_m_refuse 1 rfl) rfl ?_
  refine ev_mput (z := w) (k_m_refuse 2 rfl) hm (fM_rf _) (le_b rfl) rfl rfl (fun h84 (hm84 : MR h84 ma (sS σ 0 w)) fm84 => ?_)
  refine ev_ic (k_m_refuse 3 rfl) ?_
  exact ev_iret (k_m_refuse 4 rfl) rfl (⟨_, rfl, rfl, hm84, fm84⟩)
set_option maxHeartbeats 2000000 in
theorem c_m_fails (G : gt_T) (ma : Nat → Nat) (σ : sg_T) (h : ab_H) (hm : MR h ma σ) (w p : Int) : ct G M_m_fails 0 0 0 0 [vA (ma 0), vI w, vI p] h (rB fun z h' => z = false ∧ MR h' ma (sS (sS σ 4 w) 5 p) ∧ fM h h') nT := by
  show ev _ _ _ _ _ _ 0 [some (vA (ma 0)), some (vI w), some (vI p)] [] _ _ _
  refine ev_al (k_m_fails 0 rfl) rfl ?_
  refine ev_il (k_m_fails 1 rfl) rfl ?_
  refine ev_mput (z := w) (k_m_fails 2 rfl) hm (fM_rf _) (le_b rfl) rfl rfl (fun h85 (hm85 : MR h85 ma (sS σ 4 w)) fm85 => ?_)
  refine ev_al (k_m_fails 3 rfl) rfl ?_
  refine ev_il (k_m_fails 4 rfl) rfl ?_
  refine ev_mput (z := p) (k_m_fails 5 rfl) hm85 fm85 (le_b rfl) rfl rfl (fun h86 (hm86 : MR h86 ma (sS (sS σ 4 w) 5 p)) fm86 => ?_)
  refine ev_ic (k_m_fails 6 rfl) ?_
  exact ev_zret (x := false) (k_m_fails 7 rfl) rfl (⟨false, rfl, rfl, hm86, fm86⟩)
set_option maxHeartbeats 2000000 in
theorem c_m_find (G : gt_T) (ma : Nat → Nat) (σ : sg_T) (h : ab_H) (hm : MR h ma σ) (HR : ∀ e, e < 3 → 0 ≤ gd (σ.2 6) e ∧ gd (σ.2 6) e ≤ 40) (pn : Nat) (hp : σ.1 3 = (pn : Int)) (hp2 : pn < 3) (c : Int) : ct G M_m_find 1 25 0 0 [vA (ma 0), vL c] h (rI fun z h' => z = oix (rof σ pn c) ∧ MR h' ma (sS σ 0 0) ∧ fM h h') nT := by
  show ev _ _ _ _ _ _ 0 [some (vA (ma 0)), some (vL c), none] [] _ _ _
  refine ev_al (k_m_find 0 rfl) rfl ?_
  refine ev_ic (k_m_find 1 rfl) ?_
  refine ev_mput (z := 0) (k_m_find 2 rfl) hm (fM_rf _) (le_b rfl) rfl rfl (fun h87 (hm87 : MR h87 ma (sS σ 0 0)) fm87 => ?_)
  refine ev_al (k_m_find 3 rfl) rfl ?_
  refine ev_al (k_m_find 4 rfl) rfl ?_
  refine ev_get (v := vI (pn : Int)) (k_m_find 5 rfl) hm87.1 (congrArg (fun z => some (vI z)) hp) ?_
  refine ev_ll (k_m_find 6 rfl) rfl ?_
  refine ev_cV (k_m_find 7 rfl) rfl v_m_rowOf hm87.1 rfl (c_m_rowOf G ma _ _ hm87 pn c (by (try simp only [sS]); omega) (HR _ (by (try simp only [sS]); omega)).2) rfl (le_b rfl) (le_b rfl) (le_b rfl) k_n (k_I fun z88 h88 q88 => ?_)
  obtain ⟨rfl, (rfl : z88 = oix (rof σ pn c))⟩ := q88
  exact ev_iret (k_m_find 8 rfl) rfl (⟨_, rfl, rfl, hm87, fm87⟩)
set_option maxHeartbeats 2000000 in
theorem c_m_failure (G : gt_T) (ma : Nat → Nat) (σ : sg_T) (h : ab_H) (hm : MR h ma σ) (w : Int) : ct G M_m_failure 0 0 0 0 [vA (ma 0), vI w] h (rI fun z h' => z = (if w = 0 then σ.1 4 else if w = 1 then σ.1 5 else -1) ∧ MR h' ma (sS σ 0 0) ∧ fM h h') nT := by
  show ev _ _ _ _ _ _ 0 [some (vA (ma 0)), some (vI w)] [] _ _ _
  refine ev_al (k_m_failure 0 rfl) rfl ?_
  refine ev_ic (k_m_failure 1 rfl) ?_
  refine ev_mput (z := 0) (k_m_failure 2 rfl) hm (fM_rf _) (le_b rfl) rfl rfl (fun h89 (hm89 : MR h89 ma (sS σ 0 0)) fm89 => ?_)
  refine ev_il (k_m_failure 3 rfl) rfl ?_
  refine ev_if_ne (k_m_failure 4 rfl) (fun c90 => ?_) (fun c90 => ?_)
  · refine ev_il (k_m_failure 8 rfl) rfl ?_
    refine ev_ic (k_m_failure 9 rfl) ?_
    refine ev_ic_ne (k_m_failure 10 rfl) (fun c91 => ?_) (fun c91 => ?_)
    · refine ev_ic (k_m_failure 14 rfl) ?_
      exact ev_iret (k_m_failure 15 rfl) rfl (⟨_, rfl, by simp [c90, c91], hm89, fm89⟩)
    · refine ev_al (k_m_failure 11 rfl) rfl ?_
      refine ev_get (v := vI (σ.1 5)) (k_m_failure 12 rfl) hm89.1 rfl ?_
      refine ev_goto (k_m_failure 13 rfl) ?_
      exact ev_iret (k_m_failure 15 rfl) rfl (⟨_, rfl, by simp [c90, c91], hm89, fm89⟩)
  · refine ev_al (k_m_failure 5 rfl) rfl ?_
    refine ev_get (v := vI (σ.1 4)) (k_m_failure 6 rfl) hm89.1 rfl ?_
    refine ev_goto (k_m_failure 7 rfl) ?_
    exact ev_iret (k_m_failure 15 rfl) rfl (⟨_, rfl, by simp [c90], hm89, fm89⟩)
set_option maxHeartbeats 2000000 in
theorem c_m_edition (G : gt_T) (ma : Nat → Nat) (σ : sg_T) (h : ab_H) (hm : MR h ma σ) (pn : Nat) (hp : σ.1 3 = (pn : Int)) (hp2 : pn < 3) (e : Int) : ct G M_m_edition 1 20 0 0 [vA (ma 0), vI e] h (rB fun z h' => z = (inb e 0 2 && decide (e ≠ (pn : Int))) ∧ MR h' ma (if z then sS (sS σ 0 0) 3 e else sS σ 0 0) ∧ fM h h') nT := by
  show ev _ _ _ _ _ _ 0 [some (vA (ma 0)), some (vI e)] [] _ _ _
  refine ev_al (k_m_edition 0 rfl) rfl ?_
  refine ev_ic (k_m_edition 1 rfl) ?_
  refine ev_mput (z := 0) (k_m_edition 2 rfl) hm (fM_rf _) (le_b rfl) rfl rfl (fun h92 (hm92 : MR h92 ma (sS σ 0 0)) fm92 => ?_)
  refine ev_il (k_m_edition 3 rfl) rfl ?_
  refine ev_cS (k_m_edition 4 rfl) rfl v_m_isEdition (c_m_isEdition G _ e) rfl (le_b rfl) (le_b rfl) (le_b rfl) k_n (k_B fun z93 h93 q93 => ?_)
  obtain ⟨rfl, (rfl : z93 = (inb e 0 2))⟩ := q93
  refine ev_b_eq (k_m_edition 5 rfl) (fun c94 => ?_) (fun c94 => ?_)
  · have j94 := inb_f c94
    refine ev_ic (k_m_edition 10 rfl) ?_
    exact ev_zret (x := false) (k_m_edition 11 rfl) rfl (⟨false, rfl, by simp [c94], hm92, fm92⟩)
  · have j94 := inb_t c94
    refine ev_il (k_m_edition 6 rfl) rfl ?_
    refine ev_al (k_m_edition 7 rfl) rfl ?_
    refine ev_get (v := vI (pn : Int)) (k_m_edition 8 rfl) hm92.1 (congrArg (fun z => some (vI z)) hp) ?_
    refine ev_ic_ne (k_m_edition 9 rfl) (fun c95 => ?_) (fun c95 => ?_)
    · refine ev_al (k_m_edition 12 rfl) rfl ?_
      refine ev_il (k_m_edition 13 rfl) rfl ?_
      refine ev_mput (z := e) (k_m_edition 14 rfl) hm92 fm92 (le_b rfl) rfl rfl (fun h96 (hm96 : MR h96 ma (sS (sS σ 0 0) 3 e)) fm96 => ?_)
      refine ev_ic (k_m_edition 15 rfl) ?_
      exact ev_zret (x := true) (k_m_edition 16 rfl) rfl (⟨true, rfl, by simp [c94, c95], hm96, fm96⟩)
    · refine ev_ic (k_m_edition 10 rfl) ?_
      exact ev_zret (x := false) (k_m_edition 11 rfl) rfl (⟨false, rfl, by simp [c94, c95], hm92, fm92⟩)
def fnv (σ : sg_T) (i w : Int) : Int := if w = 0 then gd (σ.2 22) i.toNat else gd (σ.2 23) i.toNat
set_option maxHeartbeats 2000000 in
theorem c_m_found (G : gt_T) (ma : Nat → Nat) (σ : sg_T) (h : ab_H) (hm : MR h ma σ) (i w : Int) (hf : σ.1 21 ≤ 40) : ct G M_m_found 1 22 0 0 [vA (ma 0), vI i, vI w] h (rL fun z h' => ∃ t, MR h' ma (sS σ 0 t) ∧ fM h h' ∧ ((((0 ≤ i ∧ i < σ.1 21) ∧ inb w 0 1 = true) ∧ t = 0 ∧ z = fnv σ i w) ∨ (¬ ((0 ≤ i ∧ i < σ.1 21) ∧ inb w 0 1 = true) ∧ t = 1 ∧ z = 0))) nT := by
  show ev _ _ _ _ _ _ 0 [some (vA (ma 0)), some (vI i), some (vI w)] [] _ _ _
  have l22 := mr_l hm 22 rfl
  have l23 := mr_l hm 23 rfl
  refine ev_al (k_m_found 0 rfl) rfl ?_
  refine ev_il (k_m_found 1 rfl) rfl ?_
  refine ev_if_lt (k_m_found 2 rfl) (fun c97 => ?_) (fun c97 => ?_)
  · refine ev_ic (k_m_found 14 rfl) ?_
    refine ev_mput (z := 1) (k_m_found 15 rfl) hm (fM_rf _) (le_b rfl) rfl rfl (fun h98 (hm98 : MR h98 ma (sS σ 0 1)) fm98 => ?_)
    refine ev_al (k_m_found 16 rfl) rfl ?_
    refine ev_get (v := vI 1) (k_m_found 17 rfl) hm98.1 rfl ?_
    refine ev_if_le (k_m_found 18 rfl) (fun c => absurd c (by decide)) (fun _ => ?_)
    refine ev_lc (k_m_found 19 rfl) ?_
    refine ev_goto (k_m_found 20 rfl) ?_
    exact ev_lret (k_m_found 33 rfl) rfl (⟨_, rfl, _, hm98, fm98, Or.inr ⟨by simp [c97]; try omega, rfl, rfl⟩⟩)
  · refine ev_il (k_m_found 3 rfl) rfl ?_
    refine ev_al (k_m_found 4 rfl) rfl ?_
    refine ev_get (v := vI (σ.1 21)) (k_m_found 5 rfl) hm.1 rfl ?_
    refine ev_ic_ge (k_m_found 6 rfl) (fun c100 => ?_) (fun c100 => ?_)
    · refine ev_ic (k_m_found 14 rfl) ?_
      refine ev_mput (z := 1) (k_m_found 15 rfl) hm (fM_rf _) (le_b rfl) rfl rfl (fun h101 (hm101 : MR h101 ma (sS σ 0 1)) fm101 => ?_)
      refine ev_al (k_m_found 16 rfl) rfl ?_
      refine ev_get (v := vI 1) (k_m_found 17 rfl) hm101.1 rfl ?_
      refine ev_if_le (k_m_found 18 rfl) (fun c => absurd c (by decide)) (fun _ => ?_)
      refine ev_lc (k_m_found 19 rfl) ?_
      refine ev_goto (k_m_found 20 rfl) ?_
      exact ev_lret (k_m_found 33 rfl) rfl (⟨_, rfl, _, hm101, fm101, Or.inr ⟨by simp [c97, c100]; try omega, rfl, rfl⟩⟩)
    · refine ev_il (k_m_found 7 rfl) rfl ?_
      refine ev_ic (k_m_found 8 rfl) ?_
      refine ev_ic (k_m_found 9 rfl) ?_
      refine ev_cS (k_m_found 10 rfl) rfl v_m_in (c_m_in G _ w 0 1) rfl (le_b rfl) (le_b rfl) (le_b rfl) k_n (k_B fun z103 h103 q103 => ?_)
      obtain ⟨rfl, rfl⟩ := q103
      refine ev_b_eq (k_m_found 11 rfl) (fun c104 => ?_) (fun c104 => ?_)
      · have j104 := inb_f c104
        refine ev_ic (k_m_found 14 rfl) ?_
        refine ev_mput (z := 1) (k_m_found 15 rfl) hm (fM_rf _) (le_b rfl) rfl rfl (fun h105 (hm105 : MR h105 ma (sS σ 0 1)) fm105 => ?_)
        refine ev_al (k_m_found 16 rfl) rfl ?_
        refine ev_get (v := vI 1) (k_m_found 17 rfl) hm105.1 rfl ?_
        refine ev_if_le (k_m_found 18 rfl) (fun c => absurd c (by decide)) (fun _ => ?_)
        refine ev_lc (k_m_found 19 rfl) ?_
        refine ev_goto (k_m_found 20 rfl) ?_
        exact ev_lret (k_m_found 33 rfl) rfl (⟨_, rfl, _, hm105, fm105, Or.inr ⟨by simp [c97, c100, c104]; try omega, rfl, rfl⟩⟩)
      · have j104 := inb_t c104
        refine ev_ic (k_m_found 12 rfl) ?_
        refine ev_goto (k_m_found 13 rfl) ?_
        refine ev_mput (z := 0) (k_m_found 15 rfl) hm (fM_rf _) (le_b rfl) rfl rfl (fun h107 (hm107 : MR h107 ma (sS σ 0 0)) fm107 => ?_)
        refine ev_al (k_m_found 16 rfl) rfl ?_
        refine ev_get (v := vI 0) (k_m_found 17 rfl) hm107.1 rfl ?_
        refine ev_if_le (k_m_found 18 rfl) (fun _ => ?_) (fun c => absurd c (by decide))
        refine ev_il (k_m_found 21 rfl) rfl ?_
        refine ev_if_ne (k_m_found 22 rfl) (fun c109 => ?_) (fun c109 => ?_)
        · refine ev_al (k_m_found 28 rfl) rfl ?_
          refine ev_get (v := vA (ma 23)) (k_m_found 29 rfl) hm107.1 rfl ?_
          refine ev_il (k_m_found 30 rfl) rfl ?_
          refine ev_iald (xs := σ.2 23) (k_m_found 31 rfl) (mr_a hm107 23 rfl) (by omega) (by omega) (show ev _ _ _ _ _ _ _ _ (vI (gd (σ.2 23) i.toNat) :: _) _ _ _ from ?_)
          refine ev_i2l (k_m_found 32 rfl) ?_
          exact ev_lret (k_m_found 33 rfl) rfl (⟨_, rfl, _, hm107, fm107, Or.inl ⟨⟨⟨by omega, by omega⟩, c104⟩, rfl, by simp [fnv, c97, c100, c104, c109]⟩⟩)
        · refine ev_al (k_m_found 23 rfl) rfl ?_
          refine ev_get (v := vA (ma 22)) (k_m_found 24 rfl) hm107.1 rfl ?_
          refine ev_il (k_m_found 25 rfl) rfl ?_
          refine ev_lald (xs := σ.2 22) (k_m_found 26 rfl) (mr_a hm107 22 rfl) (by omega) (by omega) (show ev _ _ _ _ _ _ _ _ (vL (gd (σ.2 22) i.toNat) :: _) _ _ _ from ?_)
          refine ev_goto (k_m_found 27 rfl) ?_
          exact ev_lret (k_m_found 33 rfl) rfl (⟨_, rfl, _, hm107, fm107, Or.inl ⟨⟨⟨by omega, by omega⟩, c104⟩, rfl, by simp [fnv, c97, c100, c104, c109]⟩⟩)
def chp (σ : sg_T) (e : Nat) : Nat := cnt (fun k => gd (σ.2 8) (40 * e + k) == 0) (gd (σ.2 6) e).toNat
def cou (σ : sg_T) (w : Int) : Int := if 20 ≤ w ∧ w ≤ 22 then (chp σ (w - 20).toNat : Int) else if 10 ≤ w ∧ w ≤ 12 then gd (σ.2 6) (w - 10).toNat
  else if w = 0 then σ.1 2 else if w = 1 then σ.1 3 else if w = 2 then σ.1 11 else if w = 3 then σ.1 16 else if w = 4 then σ.1 21 else -1
set_option maxHeartbeats 2000000 in
theorem c_m_count (G : gt_T) (ma : Nat → Nat) (σ : sg_T) (h : ab_H) (hm : MR h ma σ) (HR : ∀ e, e < 3 → 0 ≤ gd (σ.2 6) e ∧ gd (σ.2 6) e ≤ 40) (w : Int) : ct G M_m_count 1 20 0 0 [vA (ma 0), vI w] h (rI fun z h' => z = cou σ w ∧ MR h' ma (sS σ 0 0) ∧ fM h h') nT := by
  show ev _ _ _ _ _ _ 0 [some (vA (ma 0)), some (vI w), none, none] [] _ _ _
  have l6 := mr_l hm 6 rfl
  have l8 := mr_l hm 8 rfl
  have loop : ∀ (fu : Nat) (h1 : ab_H) (hm1 : MR h1 ma (sS σ 0 0)) (fm1 : fM h h1) (k : Nat) (n : Int), (20 ≤ w) → ((w ≤ 22 → k ≤ (gd (σ.2 6) (w - 20).toNat).toNat) ∧ k ≤ 40) → (n = (cnt (fun k => gd (σ.2 8) (40 * (w - 20).toNat + k) == 0) k : Int)) → 40 - k < fu → ev G M_m_count 1 20 0 0 15 [some (vA (ma 0)), some (vI w), some (vI n), some (vI (k : Int))] [] h1 (rI fun z h' => z = cou σ w ∧ MR h' ma (sS σ 0 0) ∧ fM h h') nT := by
    intro fu
    induction fu with
    | zero => intros; omega
    | succ fu ih =>
      intro h1 hm1 fm1 k n hw h1x h2 hn
      refine ev_loc 1 rfl (fun (okw : inI w) => ?_)
      have hre := HR (w - 20).toNat
      have hc := cnt_le (fun k => gd (σ.2 8) (40 * (w - 20).toNat + k) == 0) k
      refine ev_il (k_m_count_0 10 rfl) rfl ?_
      refine ev_bp (k_m_count_0 11 rfl) ?_
      refine ev_isub (k_m_count_0 12 rfl) (by omega) ?_
      refine ev_cS (k_m_count_0 13 rfl) rfl v_m_isEdition (c_m_isEdition G _ (w - 20)) rfl (le_b rfl) (le_b rfl) (le_b rfl) k_n (k_B fun z110 h110 q110 => ?_)
      obtain ⟨rfl, (rfl : z110 = (inb (w - 20) 0 2))⟩ := q110
      refine ev_b_eq (k_m_count_0 14 rfl) (fun c111 => ?_) (fun c111 => ?_)
      · have j111 := inb_f c111
        refine ev_il (k_m_count_0 42 rfl) rfl ?_
        refine ev_bp (k_m_count_0 43 rfl) ?_
        refine ev_isub (k_m_count_0 44 rfl) (by omega) ?_
        refine ev_cS (k_m_count_0 45 rfl) rfl v_m_isEdition (c_m_isEdition G _ (w - 20)) rfl (le_b rfl) (le_b rfl) (le_b rfl) k_n (k_B fun z112 h112 q112 => ?_)
        obtain ⟨rfl, (rfl : z112 = (inb (w - 20) 0 2))⟩ := q112
        refine ev_b_eq (k_m_count_0 46 rfl) (fun _ => ?_) (fun c => absurd (c111.symm.trans c) (by decide))
        refine ev_ic (k_m_count_0 49 rfl) ?_
        exact ev_iret (k_m_count_0 50 rfl) rfl (⟨_, rfl, by unfold cou; first | (simp [*]; done) | (rw [if_neg (by omega), if_neg (by omega)]; simp [c111]; done) | (rw [if_neg (by omega), if_pos (by omega)]; done) | (rw [if_neg (by omega), if_neg (by omega), if_neg (by omega), if_neg (by omega), if_neg (by omega), if_neg (by omega), if_neg (by omega)]; done) | (rw [if_pos (by omega)]; rw [h2]; unfold chp; rw [show (gd (σ.2 6) (w - 20).toNat).toNat = k by omega]), hm1, fm1⟩)
      · have j111 := inb_t c111
        refine ev_il (k_m_count_0 15 rfl) rfl ?_
        refine ev_al (k_m_count_0 16 rfl) rfl ?_
        refine ev_get (v := vA (ma 6)) (k_m_count_0 17 rfl) hm1.1 rfl ?_
        refine ev_il (k_m_count_0 18 rfl) rfl ?_
        refine ev_bp (k_m_count_0 19 rfl) ?_
        refine ev_isub (k_m_count_0 20 rfl) (by omega) ?_
        refine ev_iald (xs := σ.2 6) (k_m_count_0 21 rfl) (mr_a hm1 6 rfl) (by omega) (by omega) (show ev _ _ _ _ _ _ _ _ (vI (gd (σ.2 6) (w - 20).toNat) :: _) _ _ _ from ?_)
        refine ev_ic_ge (k_m_count_0 22 rfl) (fun c114 => ?_) (fun c114 => ?_)
        · refine ev_il (k_m_count_0 42 rfl) rfl ?_
          refine ev_bp (k_m_count_0 43 rfl) ?_
          refine ev_isub (k_m_count_0 44 rfl) (by omega) ?_
          refine ev_cS (k_m_count_0 45 rfl) rfl v_m_isEdition (c_m_isEdition G _ (w - 20)) rfl (le_b rfl) (le_b rfl) (le_b rfl) k_n (k_B fun z115 h115 q115 => ?_)
          obtain ⟨rfl, (rfl : z115 = (inb (w - 20) 0 2))⟩ := q115
          refine ev_b_eq (k_m_count_0 46 rfl) (fun c => absurd (c111.symm.trans c) (by decide)) (fun _ => ?_)
          refine ev_il (k_m_count_0 47 rfl) rfl ?_
          refine ev_goto (k_m_count_0 48 rfl) ?_
          exact ev_iret (k_m_count_0 50 rfl) rfl (⟨_, rfl, by unfold cou; first | (simp [*]; done) | (rw [if_neg (by omega), if_neg (by omega)]; simp [c111, c114]; done) | (rw [if_neg (by omega), if_pos (by omega)]; done) | (rw [if_neg (by omega), if_neg (by omega), if_neg (by omega), if_neg (by omega), if_neg (by omega), if_neg (by omega), if_neg (by omega)]; done) | (rw [if_pos (by omega)]; rw [h2]; unfold chp; rw [show (gd (σ.2 6) (w - 20).toNat).toNat = k by omega]), hm1, fm1⟩)
        · refine ev_il (k_m_count_0 23 rfl) rfl ?_
          refine ev_al (k_m_count_0 24 rfl) rfl ?_
          refine ev_get (v := vA (ma 8)) (k_m_count_0 25 rfl) hm1.1 rfl ?_
          refine ev_bp (k_m_count_0 26 rfl) ?_
          refine ev_il (k_m_count_0 27 rfl) rfl ?_
          refine ev_bp (k_m_count_0 28 rfl) ?_
          refine ev_isub (k_m_count_0 29 rfl) (by omega) ?_
          refine ev_imul (k_m_count_0 30 rfl) (by omega) ?_
          refine ev_il (k_m_count_0 31 rfl) rfl ?_
          refine ev_iadd (k_m_count_0 32 rfl) (by omega) ?_
          refine ev_iald (xs := σ.2 8) (k_m_count_0 33 rfl) (mr_a hm1 8 rfl) (by omega) (by omega) (show ev _ _ _ _ _ _ _ _ (vI (gd (σ.2 8) ((40 * (w - 20)) + (k : Int)).toNat) :: _) _ _ _ from ?_)
          refine ev_if_ne (k_m_count_0 34 rfl) (fun c117 => ?_) (fun c117 => ?_)
          · refine ev_ic (k_m_count_0 37 rfl) ?_
            refine ev_iadd (k_m_count_0 38 rfl) (by omega) ?_
            refine ev_is (k_m_count_0 39 rfl) (le_b rfl) (show ev _ _ _ _ _ _ 63 [some (vA (ma 0)), some (vI w), some (vI (n + 0)), some (vI (k : Int))] _ _ _ _ from ?_)
            refine ev_iinc (k_m_count_0 40 rfl) rfl (by omega) (show ev _ _ _ _ _ _ 66 [some (vA (ma 0)), some (vI w), some (vI (n + 0)), some (vI ((k : Int) + 1))] _ _ _ _ from ?_)
            refine ev_goto (k_m_count_0 41 rfl) ?_
            rw [show (k : Int) + 1 = ((k + 1 : Nat) : Int) by omega]
            exact ih _ hm1 fm1 (k + 1) _ hw ⟨by intros; omega, by omega⟩ (by rw [cnt_f (bq_f (by rw [show 40 * (w - 20).toNat + k = (40 * (w - 20) + k).toNat by omega]; omega)), h2]) (by omega)
          · refine ev_ic (k_m_count_0 35 rfl) ?_
            refine ev_goto (k_m_count_0 36 rfl) ?_
            refine ev_iadd (k_m_count_0 38 rfl) (by omega) ?_
            refine ev_is (k_m_count_0 39 rfl) (le_b rfl) (show ev _ _ _ _ _ _ 63 [some (vA (ma 0)), some (vI w), some (vI (n + 1)), some (vI (k : Int))] _ _ _ _ from ?_)
            refine ev_iinc (k_m_count_0 40 rfl) rfl (by omega) (show ev _ _ _ _ _ _ 66 [some (vA (ma 0)), some (vI w), some (vI (n + 1)), some (vI ((k : Int) + 1))] _ _ _ _ from ?_)
            refine ev_goto (k_m_count_0 41 rfl) ?_
            rw [show (k : Int) + 1 = ((k + 1 : Nat) : Int) by omega]
            exact ih _ hm1 fm1 (k + 1) _ hw ⟨by intros; omega, by omega⟩ (by rw [cnt_t (bq_t (by rw [show 40 * (w - 20).toNat + k = (40 * (w - 20) + k).toNat by omega]; omega)), h2]) (by omega)
  refine ev_al (k_m_count_0 0 rfl) rfl ?_
  refine ev_ic (k_m_count_0 1 rfl) ?_
  refine ev_mput (z := 0) (k_m_count_0 2 rfl) hm (fM_rf _) (le_b rfl) rfl rfl (fun h118 (hm118 : MR h118 ma (sS σ 0 0)) fm118 => ?_)
  refine ev_il (k_m_count_0 3 rfl) rfl ?_
  refine ev_bp (k_m_count_0 4 rfl) ?_
  refine ev_ic_lt (k_m_count_0 5 rfl) (fun c119 => ?_) (fun c119 => ?_)
  · refine ev_il (k_m_count_0 51 rfl) rfl ?_
    refine ev_bp (k_m_count_0 52 rfl) ?_
    refine ev_ic_lt (k_m_count_0 53 rfl) (fun c120 => ?_) (fun c120 => ?_)
    · refine ev_il (k_m_count_1 8 rfl) rfl ?_
      by_cases c121 : w = 0
      · refine ev_tsI (tgt := 152) s_m_count_116 (by omega) (by omega) (by rw [c121]; rfl) (by decide) ?_
        refine ev_al (k_m_count_1 9 rfl) rfl ?_
        refine ev_get (v := vI (σ.1 2)) (k_m_count_1 10 rfl) hm118.1 rfl ?_
        exact ev_iret (k_m_count_1 11 rfl) rfl (⟨_, rfl, by unfold cou; first | (simp [*]; done) | (rw [if_neg (by omega), if_neg (by omega)]; simp [c119, c120, c121]; done) | (rw [if_neg (by omega), if_pos (by omega)]; done) | (rw [if_neg (by omega), if_neg (by omega), if_neg (by omega), if_neg (by omega), if_neg (by omega), if_neg (by omega), if_neg (by omega)]; done) | (rw [if_pos (by omega)]; rw [h2]; unfold chp; rw [show (gd (σ.2 6) (w - 20).toNat).toNat = k by omega]), hm118, fm118⟩)
      · by_cases c122 : w = 1
        · refine ev_tsI (tgt := 157) s_m_count_116 (by omega) (by omega) (by rw [c122]; rfl) (by decide) ?_
          refine ev_al (k_m_count_1 12 rfl) rfl ?_
          refine ev_get (v := vI (σ.1 3)) (k_m_count_1 13 rfl) hm118.1 rfl ?_
          exact ev_iret (k_m_count_1 14 rfl) rfl (⟨_, rfl, by unfold cou; first | (simp [*]; done) | (rw [if_neg (by omega), if_neg (by omega)]; simp [c119, c120, c121, c122]; done) | (rw [if_neg (by omega), if_pos (by omega)]; done) | (rw [if_neg (by omega), if_neg (by omega), if_neg (by omega), if_neg (by omega), if_neg (by omega), if_neg (by omega), if_neg (by omega)]; done) | (rw [if_pos (by omega)]; rw [h2]; unfold chp; rw [show (gd (σ.2 6) (w - 20).toNat).toNat = k by omega]), hm118, fm118⟩)
        · by_cases c123 : w = 2
          · refine ev_tsI (tgt := 162) s_m_count_116 (by omega) (by omega) (by rw [c123]; rfl) (by decide) ?_
            refine ev_al (k_m_count_1 15 rfl) rfl ?_
            refine ev_get (v := vI (σ.1 11)) (k_m_count_1 16 rfl) hm118.1 rfl ?_
            exact ev_iret (k_m_count_1 17 rfl) rfl (⟨_, rfl, by unfold cou; first | (simp [*]; done) | (rw [if_neg (by omega), if_neg (by omega)]; simp [c119, c120, c121, c122, c123]; done) | (rw [if_neg (by omega), if_pos (by omega)]; done) | (rw [if_neg (by omega), if_neg (by omega), if_neg (by omega), if_neg (by omega), if_neg (by omega), if_neg (by omega), if_neg (by omega)]; done) | (rw [if_pos (by omega)]; rw [h2]; unfold chp; rw [show (gd (σ.2 6) (w - 20).toNat).toNat = k by omega]), hm118, fm118⟩)
          · by_cases c124 : w = 3
            · refine ev_tsI (tgt := 167) s_m_count_116 (by omega) (by omega) (by rw [c124]; rfl) (by decide) ?_
              refine ev_al (k_m_count_1 18 rfl) rfl ?_
              refine ev_get (v := vI (σ.1 16)) (k_m_count_1 19 rfl) hm118.1 rfl ?_
              exact ev_iret (k_m_count_1 20 rfl) rfl (⟨_, rfl, by unfold cou; first | (simp [*]; done) | (rw [if_neg (by omega), if_neg (by omega)]; simp [c119, c120, c121, c122, c123, c124]; done) | (rw [if_neg (by omega), if_pos (by omega)]; done) | (rw [if_neg (by omega), if_neg (by omega), if_neg (by omega), if_neg (by omega), if_neg (by omega), if_neg (by omega), if_neg (by omega)]; done) | (rw [if_pos (by omega)]; rw [h2]; unfold chp; rw [show (gd (σ.2 6) (w - 20).toNat).toNat = k by omega]), hm118, fm118⟩)
            · by_cases c125 : w = 4
              · refine ev_tsI (tgt := 172) s_m_count_116 (by omega) (by omega) (by rw [c125]; rfl) (by decide) ?_
                refine ev_al (k_m_count_1 21 rfl) rfl ?_
                refine ev_get (v := vI (σ.1 21)) (k_m_count_1 22 rfl) hm118.1 rfl ?_
                exact ev_iret (k_m_count_1 23 rfl) rfl (⟨_, rfl, by unfold cou; first | (simp [*]; done) | (rw [if_neg (by omega), if_neg (by omega)]; simp [c119, c120, c121, c122, c123, c124, c125]; done) | (rw [if_neg (by omega), if_pos (by omega)]; done) | (rw [if_neg (by omega), if_neg (by omega), if_neg (by omega), if_neg (by omega), if_neg (by omega), if_neg (by omega), if_neg (by omega)]; done) | (rw [if_pos (by omega)]; rw [h2]; unfold chp; rw [show (gd (σ.2 6) (w - 20).toNat).toNat = k by omega]), hm118, fm118⟩)
              · refine ev_tsO (tgt := 177) s_m_count_116 (by omega) (by decide) ?_
                refine ev_ic (k_m_count_1 24 rfl) ?_
                exact ev_iret (k_m_count_1 25 rfl) rfl (⟨_, rfl, by unfold cou; first | (simp [*]; done) | (rw [if_neg (by omega), if_neg (by omega)]; simp [c119, c120, c121, c122, c123, c124, c125]; done) | (rw [if_neg (by omega), if_pos (by omega)]; done) | (rw [if_neg (by omega), if_neg (by omega), if_neg (by omega), if_neg (by omega), if_neg (by omega), if_neg (by omega), if_neg (by omega)]; done) | (rw [if_pos (by omega)]; rw [h2]; unfold chp; rw [show (gd (σ.2 6) (w - 20).toNat).toNat = k by omega]), hm118, fm118⟩)
    · refine ev_il (k_m_count_0 54 rfl) rfl ?_
      refine ev_bp (k_m_count_0 55 rfl) ?_
      refine ev_isub (k_m_count_0 56 rfl) (by omega) ?_
      refine ev_cS (k_m_count_0 57 rfl) rfl v_m_isEdition (c_m_isEdition G _ (w - 10)) rfl (le_b rfl) (le_b rfl) (le_b rfl) k_n (k_B fun z126 h126 q126 => ?_)
      obtain ⟨rfl, (rfl : z126 = (inb (w - 10) 0 2))⟩ := q126
      refine ev_b_eq (k_m_count_0 58 rfl) (fun c127 => ?_) (fun c127 => ?_)
      · have j127 := inb_f c127
        refine ev_ic (k_m_count_1 6 rfl) ?_
        exact ev_iret (k_m_count_1 7 rfl) rfl (⟨_, rfl, by unfold cou; first | (simp [*]; done) | (rw [if_neg (by omega), if_neg (by omega)]; simp [c119, c120, c127]; done) | (rw [if_neg (by omega), if_pos (by omega)]; done) | (rw [if_neg (by omega), if_neg (by omega), if_neg (by omega), if_neg (by omega), if_neg (by omega), if_neg (by omega), if_neg (by omega)]; done) | (rw [if_pos (by omega)]; rw [h2]; unfold chp; rw [show (gd (σ.2 6) (w - 20).toNat).toNat = k by omega]), hm118, fm118⟩)
      · have j127 := inb_t c127
        refine ev_al (k_m_count_0 59 rfl) rfl ?_
        refine ev_get (v := vA (ma 6)) (k_m_count_1 0 rfl) hm118.1 rfl ?_
        refine ev_il (k_m_count_1 1 rfl) rfl ?_
        refine ev_bp (k_m_count_1 2 rfl) ?_
        refine ev_isub (k_m_count_1 3 rfl) (by omega) ?_
        refine ev_iald (xs := σ.2 6) (k_m_count_1 4 rfl) (mr_a hm118 6 rfl) (by omega) (by omega) (show ev _ _ _ _ _ _ _ _ (vI (gd (σ.2 6) (w - 10).toNat) :: _) _ _ _ from ?_)
        refine ev_goto (k_m_count_1 5 rfl) ?_
        exact ev_iret (k_m_count_1 7 rfl) rfl (⟨_, rfl, by unfold cou; first | (simp [*]; done) | (rw [if_neg (by omega), if_neg (by omega)]; simp [c119, c120, c127]; done) | (rw [if_neg (by omega), if_pos (by omega)]; done) | (rw [if_neg (by omega), if_neg (by omega), if_neg (by omega), if_neg (by omega), if_neg (by omega), if_neg (by omega), if_neg (by omega)]; done) | (rw [if_pos (by omega)]; rw [h2]; unfold chp; rw [show (gd (σ.2 6) (w - 20).toNat).toNat = k by omega]), hm118, fm118⟩)
  · refine ev_ic (k_m_count_0 6 rfl) ?_
    refine ev_is (k_m_count_0 7 rfl) (le_b rfl) (show ev _ _ _ _ _ _ 13 [some (vA (ma 0)), some (vI w), some (vI 0), none] _ _ _ _ from ?_)
    refine ev_ic (k_m_count_0 8 rfl) ?_
    refine ev_is (k_m_count_0 9 rfl) (le_b rfl) (show ev _ _ _ _ _ _ 15 [some (vA (ma 0)), some (vI w), some (vI 0), some (vI 0)] _ _ _ _ from ?_)
    exact loop 41 _ hm118 fm118 0 0 (by omega) ⟨by intros; omega, by omega⟩ rfl (by omega)
