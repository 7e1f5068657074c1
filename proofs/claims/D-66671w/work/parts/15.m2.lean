def abv (d : List Int) (f t : Nat) : Int := if gd d t = 0 then -1 else match lix (fun j => gd d (f + j) == gd d t - 1) (t - f) with
  | none => -1
  | some j => ((f + j : Nat) : Int)
theorem abv_0 {d : List Int} {f t : Nat} (h : gd d t = 0) : abv d f t = -1 := if_pos h
theorem abv_n {d : List Int} {f t : Nat} (h : lix (fun j => gd d (f + j) == gd d t - 1) (t - f) = none) : abv d f t = -1 := by
  unfold abv; rw [h]; split <;> rfl
theorem abv_s {d : List Int} {f t j : Nat} (h0 : gd d t ≠ 0) (h : lix (fun j => gd d (f + j) == gd d t - 1) (t - f) = some j) : abv d f t = ((f + j : Nat) : Int) := by
  unfold abv; rw [if_neg h0, h]
theorem abv_lt (d : List Int) {f t : Nat} : -1 ≤ abv d f t ∧ abv d f t < t ∧ (abv d f t = -1 ∨ (f : Int) ≤ abv d f t) := by
  unfold abv
  split
  · exact ⟨by omega, by omega, Or.inl rfl⟩
  · cases e : lix (fun j => gd d (f + j) == gd d t - 1) (t - f) with
    | none => exact ⟨by simp, by simp; omega, Or.inl rfl⟩
    | some j => have := (lix_lt e).1; exact ⟨by simp; omega, by simp; omega, Or.inr (by simp; omega)⟩
set_option maxHeartbeats 2000000 in
theorem c_m_above (G : gt_T) (ma : Nat → Nat) (σ : sg_T) (h : ab_H) (hm : MR h ma σ) (f t : Nat) (hft : f ≤ t) (ht : t < 160) (hd : 0 ≤ gd (σ.2 8) t) : ct G M_m_above 0 0 0 0 [vA (ma 0), vI (f : Int), vI (t : Int)] h (rI fun z h' => h = h' ∧ z = abv (σ.2 8) f t) nT := by
  show ev _ _ _ _ _ _ 0 [some (vA (ma 0)), some (vI (f : Int)), some (vI (t : Int)), none] [] _ _ _
  have l8 := mr_l hm 8 rfl
  refine ev_cell (mr_a hm 8 rfl) (fun okd => ?_)
  have ok8 : inI (gd (σ.2 8) t) := (okd _ (gD_mem (by omega))).1 rfl
  have loop : ∀ (fu : Nat) (k : Int), ((f : Int) - 1 ≤ k) → (k < t) → (lix (fun j => gd (σ.2 8) (f + j) == gd (σ.2 8) t - 1) (t - f) = lix (fun j => gd (σ.2 8) (f + j) == gd (σ.2 8) t - 1) (k + 1 - f).toNat) → (k + 1 - f).toNat < fu → ev G M_m_above 0 0 0 0 4 [some (vA (ma 0)), some (vI (f : Int)), some (vI (t : Int)), some (vI k)] [] h (rI fun z h' => h = h' ∧ z = abv (σ.2 8) f t) nT := by
    intro fu
    induction fu with
    | zero => intros; omega
    | succ fu ih =>
      intro k h1 h2 h3 hn
      refine ev_il (k_m_above 4 rfl) rfl ?_
      refine ev_il (k_m_above 5 rfl) rfl ?_
      refine ev_ic_lt (k_m_above 6 rfl) (fun c31 => ?_) (fun c31 => ?_)
      · refine ev_al (k_m_above 20 rfl) rfl ?_
        refine ev_get (v := vA (ma 8)) (k_m_above 21 rfl) hm.1 rfl ?_
        refine ev_il (k_m_above 22 rfl) rfl ?_
        refine ev_iald (xs := σ.2 8) (k_m_above 23 rfl) (mr_a hm 8 rfl) (by omega) (by omega) (show ev _ _ _ _ _ _ _ _ (vI (gd (σ.2 8) (t)) :: _) _ _ _ from ?_)
        refine ev_if_eq (k_m_above 24 rfl) (fun c32 => ?_) (fun c32 => ?_)
        · refine ev_ic (k_m_above 28 rfl) ?_
          refine ev_goto (k_m_above 29 rfl) ?_
          exact ev_iret (k_m_above 31 rfl) rfl (⟨_, rfl, rfl, by first | (rw [abv_0 (by assumption)]; done) | (rw [abv_n (by first | (rw [h3, show (k + 1 - f).toNat = 0 by omega]; rfl) | (exfalso; omega))]; done) | (exfalso; omega)⟩)
        · refine ev_il (k_m_above 25 rfl) rfl ?_
          refine ev_il (k_m_above 26 rfl) rfl ?_
          refine ev_ic_ge (k_m_above 27 rfl) (fun c33 => ?_) (fun c33 => ?_)
          · refine ev_il (k_m_above 30 rfl) rfl ?_
            exact ev_iret (k_m_above 31 rfl) rfl (⟨_, rfl, rfl, by first | (exfalso; omega) | (rw [abv_s (j := (k - f).toNat) (by assumption) (by rw [h3, show (k + 1 - f).toNat = (k - f).toNat + 1 by omega]; simp only [lix]; rw [if_pos (by rw [show f + (k - f).toNat = k.toNat by omega]; exact bq_t (by omega))])]; omega)⟩)
          · refine ev_ic (k_m_above 28 rfl) ?_
            refine ev_goto (k_m_above 29 rfl) ?_
            exact ev_iret (k_m_above 31 rfl) rfl (⟨_, rfl, rfl, by first | (rw [abv_0 (by assumption)]; done) | (rw [abv_n (by first | (rw [h3, show (k + 1 - f).toNat = 0 by omega]; rfl) | (exfalso; omega))]; done) | (exfalso; omega)⟩)
      · refine ev_al (k_m_above 7 rfl) rfl ?_
        refine ev_get (v := vA (ma 8)) (k_m_above 8 rfl) hm.1 rfl ?_
        refine ev_il (k_m_above 9 rfl) rfl ?_
        refine ev_iald (xs := σ.2 8) (k_m_above 10 rfl) (mr_a hm 8 rfl) (by omega) (by omega) (show ev _ _ _ _ _ _ _ _ (vI (gd (σ.2 8) k.toNat) :: _) _ _ _ from ?_)
        refine ev_al (k_m_above 11 rfl) rfl ?_
        refine ev_get (v := vA (ma 8)) (k_m_above 12 rfl) hm.1 rfl ?_
        refine ev_il (k_m_above 13 rfl) rfl ?_
        refine ev_iald (xs := σ.2 8) (k_m_above 14 rfl) (mr_a hm 8 rfl) (by omega) (by omega) (show ev _ _ _ _ _ _ _ _ (vI (gd (σ.2 8) (t)) :: _) _ _ _ from ?_)
        refine ev_ic (k_m_above 15 rfl) ?_
        refine ev_isub (k_m_above 16 rfl) (by omega) ?_
        refine ev_ic_eq (k_m_above 17 rfl) (fun c34 => ?_) (fun c34 => ?_)
        · refine ev_al (k_m_above 20 rfl) rfl ?_
          refine ev_get (v := vA (ma 8)) (k_m_above 21 rfl) hm.1 rfl ?_
          refine ev_il (k_m_above 22 rfl) rfl ?_
          refine ev_iald (xs := σ.2 8) (k_m_above 23 rfl) (mr_a hm 8 rfl) (by omega) (by omega) (show ev _ _ _ _ _ _ _ _ (vI (gd (σ.2 8) (t)) :: _) _ _ _ from ?_)
          refine ev_if_eq (k_m_above 24 rfl) (fun c35 => ?_) (fun c35 => ?_)
          · refine ev_ic (k_m_above 28 rfl) ?_
            refine ev_goto (k_m_above 29 rfl) ?_
            exact ev_iret (k_m_above 31 rfl) rfl (⟨_, rfl, rfl, by first | (rw [abv_0 (by assumption)]; done) | (rw [abv_n (by first | (rw [h3, show (k + 1 - f).toNat = 0 by omega]; rfl) | (exfalso; omega))]; done) | (exfalso; omega)⟩)
          · refine ev_il (k_m_above 25 rfl) rfl ?_
            refine ev_il (k_m_above 26 rfl) rfl ?_
            refine ev_ic_ge (k_m_above 27 rfl) (fun c36 => ?_) (fun c36 => ?_)
            · refine ev_il (k_m_above 30 rfl) rfl ?_
              exact ev_iret (k_m_above 31 rfl) rfl (⟨_, rfl, rfl, by first | (exfalso; omega) | (rw [abv_s (j := (k - f).toNat) (by assumption) (by rw [h3, show (k + 1 - f).toNat = (k - f).toNat + 1 by omega]; simp only [lix]; rw [if_pos (by rw [show f + (k - f).toNat = k.toNat by omega]; exact bq_t (by omega))])]; omega)⟩)
            · refine ev_ic (k_m_above 28 rfl) ?_
              refine ev_goto (k_m_above 29 rfl) ?_
              exact ev_iret (k_m_above 31 rfl) rfl (⟨_, rfl, rfl, by first | (rw [abv_0 (by assumption)]; done) | (rw [abv_n (by first | (rw [h3, show (k + 1 - f).toNat = 0 by omega]; rfl) | (exfalso; omega))]; done) | (exfalso; omega)⟩)
        · refine ev_iinc (k_m_above 18 rfl) rfl (by omega) (show ev _ _ _ _ _ _ 29 [some (vA (ma 0)), some (vI (f : Int)), some (vI (t : Int)), some (vI (k + (-1)))] _ _ _ _ from ?_)
          refine ev_goto (k_m_above 19 rfl) ?_
          exact ih (k - 1) (by omega) (by omega) (by rw [h3, show (k + 1 - f).toNat = (k - 1 + 1 - f).toNat + 1 by omega]; simp only [lix]; rw [if_neg]; rw [show f + (k - 1 + 1 - f).toNat = k.toNat by omega, bq_f (by omega)]; decide) (by omega)
  refine ev_il (k_m_above 0 rfl) rfl ?_
  refine ev_ic (k_m_above 1 rfl) ?_
  refine ev_isub (k_m_above 2 rfl) (by omega) ?_
  refine ev_is (k_m_above 3 rfl) (le_b rfl) (show ev _ _ _ _ _ _ 4 [some (vA (ma 0)), some (vI (f : Int)), some (vI (t : Int)), some (vI ((t : Int) - 1))] _ _ _ _ from ?_)
  exact loop (t - f + 1) ((t : Int) - 1) (by omega) (by omega) (by rw [show ((t : Int) - 1 + 1 - f).toNat = t - f by omega]) (by omega)
theorem cnt_s (p : Nat → Bool) (k : Nat) : cnt p (k + 1) = cnt p k + (if p k then 1 else 0) := rfl
theorem lix_s (p : Nat → Bool) (k : Nat) : lix p (k + 1) = if p k then some k else lix p k := rfl
theorem anb_s (p : Nat → Bool) (k : Nat) : anb p (k + 1) = (anb p k || p k) := rfl
theorem oix_0 : oix none = -1 := rfl
theorem oix_s (k : Nat) : oix (some k) = (k : Int) := rfl
theorem cnt_t {p : Nat → Bool} {k : Nat} (h : p k = true) : ((cnt p (k + 1) : Nat) : Int) = (cnt p k : Int) + 1 := by rw [cnt_s, if_pos h]; omega
theorem cnt_f {p : Nat → Bool} {k : Nat} (h : p k = false) : ((cnt p (k + 1) : Nat) : Int) = (cnt p k : Int) + 0 := by rw [cnt_s, h]; simp
theorem lix_t {p : Nat → Bool} {k : Nat} (h : p k = true) : lix p (k + 1) = some k := by rw [lix_s, if_pos h]
theorem lix_f {p : Nat → Bool} {k : Nat} (h : p k = false) : lix p (k + 1) = lix p k := by rw [lix_s, h]; rfl
def rof (σ : sg_T) (e : Nat) (c : Int) : Option Nat := lix (fun k => gd (σ.2 7) (40 * e + k) == c) (gd (σ.2 6) e).toNat
set_option maxHeartbeats 2000000 in
theorem c_m_rowOf (G : gt_T) (ma : Nat → Nat) (σ : sg_T) (h : ab_H) (hm : MR h ma σ) (e : Nat) (c : Int) (he : e < 3) (hr : gd (σ.2 6) e ≤ 40) : ct G M_m_rowOf 0 0 0 0 [vA (ma 0), vI (e : Int), vL c] h (rI fun z h' => h = h' ∧ z = oix (rof σ e c)) nT := by
  show ev _ _ _ _ _ _ 0 [some (vA (ma 0)), some (vI (e : Int)), some (vL c), none, none, none] [] _ _ _
  have l6 := mr_l hm 6 rfl
  have l7 := mr_l hm 7 rfl
  have loop : ∀ (fu : Nat) (k : Nat) (f : Int), (k ≤ (gd (σ.2 6) e).toNat) → (f = oix (lix (fun k => gd (σ.2 7) (40 * e + k) == c) k)) → (gd (σ.2 6) e).toNat - k < fu → ev G M_m_rowOf 0 0 0 0 6 [some (vA (ma 0)), some (vI (e : Int)), some (vL c), none, some (vI f), some (vI (k : Int))] [] h (rI fun z h' => h = h' ∧ z = oix (rof σ e c)) nT := by
    intro fu
    induction fu with
    | zero => intros; omega
    | succ fu ih =>
      intro k f h1 h2 hn
      refine ev_ilw (k_m_rowOf 4 rfl) rfl ?_
      refine ev_al (k_m_rowOf 5 rfl) rfl ?_
      refine ev_get (v := vA (ma 6)) (k_m_rowOf 6 rfl) hm.1 rfl ?_
      refine ev_il (k_m_rowOf 7 rfl) rfl ?_
      refine ev_iald (xs := σ.2 6) (k_m_rowOf 8 rfl) (mr_a hm 6 rfl) (by omega) (by omega) (show ev _ _ _ _ _ _ _ _ (vI (gd (σ.2 6) (e)) :: _) _ _ _ from ?_)
      refine ev_ic_ge (k_m_rowOf 9 rfl) (fun c37 => ?_) (fun c37 => ?_)
      · refine ev_ilw (k_m_rowOf 27 rfl) rfl ?_
        exact ev_iret (k_m_rowOf 28 rfl) rfl (⟨_, rfl, rfl, by rw [h2]; unfold rof; rw [show (gd (σ.2 6) e).toNat = k by omega]⟩)
      · refine ev_al (k_m_rowOf 10 rfl) rfl ?_
        refine ev_get (v := vA (ma 7)) (k_m_rowOf 11 rfl) hm.1 rfl ?_
        refine ev_bp (k_m_rowOf 12 rfl) ?_
        refine ev_il (k_m_rowOf 13 rfl) rfl ?_
        refine ev_imul (k_m_rowOf 14 rfl) (by omega) ?_
        refine ev_ilw (k_m_rowOf 15 rfl) rfl ?_
        refine ev_iadd (k_m_rowOf 16 rfl) (by omega) ?_
        refine ev_lald (xs := σ.2 7) (k_m_rowOf 17 rfl) (mr_a hm 7 rfl) (by omega) (by omega) (show ev _ _ _ _ _ _ _ _ (vL (gd (σ.2 7) ((40 * (e)) + (k))) :: _) _ _ _ from ?_)
        refine ev_ll (k_m_rowOf 18 rfl) rfl ?_
        refine ev_lc_ne (k_m_rowOf 19 rfl) (k_m_rowOf 20 rfl) (fun c38 => ?_) (fun c38 => ?_)
        · refine ev_ilw (k_m_rowOf 23 rfl) rfl ?_
          refine ev_isw (k_m_rowOf 24 rfl) (le_b rfl) (show ev _ _ _ _ _ _ 43 [some (vA (ma 0)), some (vI (e : Int)), some (vL c), none, some (vI f), some (vI (k : Int))] _ _ _ _ from ?_)
          refine ev_iinc (k_m_rowOf 25 rfl) rfl (by omega) (show ev _ _ _ _ _ _ 46 [some (vA (ma 0)), some (vI (e : Int)), some (vL c), none, some (vI f), some (vI ((k : Int) + 1))] _ _ _ _ from ?_)
          refine ev_goto (k_m_rowOf 26 rfl) ?_
          rw [show (k : Int) + 1 = ((k + 1 : Nat) : Int) by omega]
          exact ih (k + 1) f (by omega) (by rw [lix_f (bq_f (by omega))]; exact h2) (by omega)
        · refine ev_ilw (k_m_rowOf 21 rfl) rfl ?_
          refine ev_goto (k_m_rowOf 22 rfl) ?_
          refine ev_isw (k_m_rowOf 24 rfl) (le_b rfl) (show ev _ _ _ _ _ _ 43 [some (vA (ma 0)), some (vI (e : Int)), some (vL c), none, some (vI (k : Int)), some (vI (k : Int))] _ _ _ _ from ?_)
          refine ev_iinc (k_m_rowOf 25 rfl) rfl (by omega) (show ev _ _ _ _ _ _ 46 [some (vA (ma 0)), some (vI (e : Int)), some (vL c), none, some (vI (k : Int)), some (vI ((k : Int) + 1))] _ _ _ _ from ?_)
          refine ev_goto (k_m_rowOf 26 rfl) ?_
          rw [show (k : Int) + 1 = ((k + 1 : Nat) : Int) by omega]
          exact ih (k + 1) (k : Int) (by omega) (by rw [lix_t (bq_t (by omega))]; rfl) (by omega)
  refine ev_ic (k_m_rowOf 0 rfl) ?_
  refine ev_isw (k_m_rowOf 1 rfl) (le_b rfl) (show ev _ _ _ _ _ _ 3 [some (vA (ma 0)), some (vI (e : Int)), some (vL c), none, some (vI (-1)), none] _ _ _ _ from ?_)
  refine ev_ic (k_m_rowOf 2 rfl) ?_
  refine ev_isw (k_m_rowOf 3 rfl) (le_b rfl) (show ev _ _ _ _ _ _ 6 [some (vA (ma 0)), some (vI (e : Int)), some (vL c), none, some (vI (-1)), some (vI 0)] _ _ _ _ from ?_)
  exact loop ((gd (σ.2 6) e).toNat + 1) 0 (-1) (by omega) rfl (by omega)
def nof (σ : sg_T) (e : Int) : Nat := cnt (fun k => gd (σ.2 12) k == e) (σ.1 11).toNat
set_option maxHeartbeats 2000000 in
theorem c_m_notesOf (G : gt_T) (ma : Nat → Nat) (σ : sg_T) (h : ab_H) (hm : MR h ma σ) (e : Int) (hn0 : σ.1 11 ≤ 20) : ct G M_m_notesOf 0 0 0 0 [vA (ma 0), vI e] h (rI fun z h' => h = h' ∧ z = (nof σ e : Int)) nT := by
  show ev _ _ _ _ _ _ 0 [some (vA (ma 0)), some (vI e), none, none] [] _ _ _
  have l12 := mr_l hm 12 rfl
  have loop : ∀ (fu : Nat) (k : Nat) (c : Int), (k ≤ (σ.1 11).toNat) → (c = (cnt (fun k => gd (σ.2 12) k == e) k : Int)) → (σ.1 11).toNat - k < fu → ev G M_m_notesOf 0 0 0 0 4 [some (vA (ma 0)), some (vI e), some (vI c), some (vI (k : Int))] [] h (rI fun z h' => h = h' ∧ z = (nof σ e : Int)) nT := by
    intro fu
    induction fu with
    | zero => intros; omega
    | succ fu ih =>
      intro k c h1 h2 hn
      have hc := cnt_le (fun k => gd (σ.2 12) k == e) k
      refine ev_il (k_m_notesOf 4 rfl) rfl ?_
      refine ev_al (k_m_notesOf 5 rfl) rfl ?_
      refine ev_get (v := vI (σ.1 11)) (k_m_notesOf 6 rfl) hm.1 rfl ?_
      refine ev_ic_ge (k_m_notesOf 7 rfl) (fun c39 => ?_) (fun c39 => ?_)
      · refine ev_il (k_m_notesOf 22 rfl) rfl ?_
        exact ev_iret (k_m_notesOf 23 rfl) rfl (⟨_, rfl, rfl, by rw [h2]; unfold nof; rw [show (σ.1 11).toNat = k by omega]⟩)
      · refine ev_il (k_m_notesOf 8 rfl) rfl ?_
        refine ev_al (k_m_notesOf 9 rfl) rfl ?_
        refine ev_get (v := vA (ma 12)) (k_m_notesOf 10 rfl) hm.1 rfl ?_
        refine ev_il (k_m_notesOf 11 rfl) rfl ?_
        refine ev_iald (xs := σ.2 12) (k_m_notesOf 12 rfl) (mr_a hm 12 rfl) (by omega) (by omega) (show ev _ _ _ _ _ _ _ _ (vI (gd (σ.2 12) (k)) :: _) _ _ _ from ?_)
        refine ev_il (k_m_notesOf 13 rfl) rfl ?_
        refine ev_ic_ne (k_m_notesOf 14 rfl) (fun c40 => ?_) (fun c40 => ?_)
        · refine ev_ic (k_m_notesOf 17 rfl) ?_
          refine ev_iadd (k_m_notesOf 18 rfl) (by omega) ?_
          refine ev_is (k_m_notesOf 19 rfl) (le_b rfl) (show ev _ _ _ _ _ _ 30 [some (vA (ma 0)), some (vI e), some (vI (c + 0)), some (vI (k : Int))] _ _ _ _ from ?_)
          refine ev_iinc (k_m_notesOf 20 rfl) rfl (by omega) (show ev _ _ _ _ _ _ 33 [some (vA (ma 0)), some (vI e), some (vI (c + 0)), some (vI ((k : Int) + 1))] _ _ _ _ from ?_)
          refine ev_goto (k_m_notesOf 21 rfl) ?_
          rw [show (k : Int) + 1 = ((k + 1 : Nat) : Int) by omega]
          exact ih (k + 1) _ (by omega) (by rw [cnt_f (bq_f (by omega)), h2]) (by omega)
        · refine ev_ic (k_m_notesOf 15 rfl) ?_
          refine ev_goto (k_m_notesOf 16 rfl) ?_
          refine ev_iadd (k_m_notesOf 18 rfl) (by omega) ?_
          refine ev_is (k_m_notesOf 19 rfl) (le_b rfl) (show ev _ _ _ _ _ _ 30 [some (vA (ma 0)), some (vI e), some (vI (c + 1)), some (vI (k : Int))] _ _ _ _ from ?_)
          refine ev_iinc (k_m_notesOf 20 rfl) rfl (by omega) (show ev _ _ _ _ _ _ 33 [some (vA (ma 0)), some (vI e), some (vI (c + 1)), some (vI ((k : Int) + 1))] _ _ _ _ from ?_)
          refine ev_goto (k_m_notesOf 21 rfl) ?_
          rw [show (k : Int) + 1 = ((k + 1 : Nat) : Int) by omega]
          exact ih (k + 1) _ (by omega) (by rw [cnt_t (bq_t (by omega)), h2]) (by omega)
  refine ev_ic (k_m_notesOf 0 rfl) ?_
  refine ev_is (k_m_notesOf 1 rfl) (le_b rfl) (show ev _ _ _ _ _ _ 2 [some (vA (ma 0)), some (vI e), some (vI 0), none] _ _ _ _ from ?_)
  refine ev_ic (k_m_notesOf 2 rfl) ?_
  refine ev_is (k_m_notesOf 3 rfl) (le_b rfl) (show ev _ _ _ _ _ _ 4 [some (vA (ma 0)), some (vI e), some (vI 0), some (vI 0)] _ _ _ _ from ?_)
  exact loop ((σ.1 11).toNat + 1) 0 0 (by omega) rfl (by omega)
def isn (σ : sg_T) (c kd o : Int) (k : Nat) : Bool := gd (σ.2 12) k == σ.1 3 && gd (σ.2 13) k == c && gd (σ.2 14) k == kd && gd (σ.2 15) k == o
def hsn (σ : sg_T) (c kd o : Int) : Bool := anb (isn σ c kd o) (σ.1 11).toNat
def isl (σ : sg_T) (a c b : Int) (k : Nat) : Bool := gd (σ.2 17) k == a && gd (σ.2 18) k == c && gd (σ.2 19) k == b
def lof (σ : sg_T) (a c b : Int) : Nat := cnt (isl σ a c b) (σ.1 16).toNat
def ist (σ : sg_T) (a b o : Int) (k : Nat) : Bool := gd (σ.2 17) k == a && gd (σ.2 19) k == b && gd (σ.2 20) k == o
def lto (σ : sg_T) (a b o : Int) : Nat := cnt (ist σ a b o) (σ.1 16).toNat
set_option maxHeartbeats 2000000 in
theorem c_m_isNote (G : gt_T) (ma : Nat → Nat) (σ : sg_T) (h : ab_H) (hm : MR h ma σ) (k : Nat) (c kd o : Int) (hk : k < 20) : ct G M_m_isNote 0 0 0 0 [vA (ma 0), vI (k : Int), vL c, vI kd, vL o] h (rB fun z h' => h = h' ∧ z = isn σ c kd o k) nT := by
  show ev _ _ _ _ _ _ 0 [some (vA (ma 0)), some (vI (k : Int)), some (vL c), none, some (vI kd), some (vL o), none] [] _ _ _
  have l12 := mr_l hm 12 rfl
  have l13 := mr_l hm 13 rfl
  have l14 := mr_l hm 14 rfl
  have l15 := mr_l hm 15 rfl
  refine ev_al (k_m_isNote 0 rfl) rfl ?_
  refine ev_get (v := vA (ma 12)) (k_m_isNote 1 rfl) hm.1 rfl ?_
  refine ev_il (k_m_isNote 2 rfl) rfl ?_
  refine ev_iald (xs := σ.2 12) (k_m_isNote 3 rfl) (mr_a hm 12 rfl) (by omega) (by omega) (show ev _ _ _ _ _ _ _ _ (vI (gd (σ.2 12) (k)) :: _) _ _ _ from ?_)
  refine ev_al (k_m_isNote 4 rfl) rfl ?_
  refine ev_get (v := vI (σ.1 3)) (k_m_isNote 5 rfl) hm.1 rfl ?_
  refine ev_ic_ne (k_m_isNote 6 rfl) (fun c41 => ?_) (fun c41 => ?_)
  · refine ev_ic (k_m_isNote 29 rfl) ?_
    exact ev_zret (x := false) (k_m_isNote 30 rfl) rfl (⟨false, rfl, rfl, by simp [isn]; simp_all⟩)
  · refine ev_al (k_m_isNote 7 rfl) rfl ?_
    refine ev_get (v := vA (ma 13)) (k_m_isNote 8 rfl) hm.1 rfl ?_
    refine ev_il (k_m_isNote 9 rfl) rfl ?_
    refine ev_lald (xs := σ.2 13) (k_m_isNote 10 rfl) (mr_a hm 13 rfl) (by omega) (by omega) (show ev _ _ _ _ _ _ _ _ (vL (gd (σ.2 13) (k)) :: _) _ _ _ from ?_)
    refine ev_ll (k_m_isNote 11 rfl) rfl ?_
    refine ev_lc_ne (k_m_isNote 12 rfl) (k_m_isNote 13 rfl) (fun c42 => ?_) (fun c42 => ?_)
    · refine ev_ic (k_m_isNote 29 rfl) ?_
      exact ev_zret (x := false) (k_m_isNote 30 rfl) rfl (⟨false, rfl, rfl, by simp [isn]; simp_all⟩)
    · refine ev_al (k_m_isNote 14 rfl) rfl ?_
      refine ev_get (v := vA (ma 14)) (k_m_isNote 15 rfl) hm.1 rfl ?_
      refine ev_il (k_m_isNote 16 rfl) rfl ?_
      refine ev_iald (xs := σ.2 14) (k_m_isNote 17 rfl) (mr_a hm 14 rfl) (by omega) (by omega) (show ev _ _ _ _ _ _ _ _ (vI (gd (σ.2 14) (k)) :: _) _ _ _ from ?_)
      refine ev_ilw (k_m_isNote 18 rfl) rfl ?_
      refine ev_ic_ne (k_m_isNote 19 rfl) (fun c43 => ?_) (fun c43 => ?_)
      · refine ev_ic (k_m_isNote 29 rfl) ?_
        exact ev_zret (x := false) (k_m_isNote 30 rfl) rfl (⟨false, rfl, rfl, by simp [isn]; simp_all⟩)
      · refine ev_al (k_m_isNote 20 rfl) rfl ?_
        refine ev_get (v := vA (ma 15)) (k_m_isNote 21 rfl) hm.1 rfl ?_
        refine ev_il (k_m_isNote 22 rfl) rfl ?_
        refine ev_lald (xs := σ.2 15) (k_m_isNote 23 rfl) (mr_a hm 15 rfl) (by omega) (by omega) (show ev _ _ _ _ _ _ _ _ (vL (gd (σ.2 15) (k)) :: _) _ _ _ from ?_)
        refine ev_llw (k_m_isNote 24 rfl) rfl ?_
        refine ev_lc_ne (k_m_isNote 25 rfl) (k_m_isNote 26 rfl) (fun c44 => ?_) (fun c44 => ?_)
        · refine ev_ic (k_m_isNote 29 rfl) ?_
          exact ev_zret (x := false) (k_m_isNote 30 rfl) rfl (⟨false, rfl, rfl, by simp [isn]; simp_all⟩)
        · refine ev_ic (k_m_isNote 27 rfl) ?_
          refine ev_goto (k_m_isNote 28 rfl) ?_
          exact ev_zret (x := true) (k_m_isNote 30 rfl) rfl (⟨true, rfl, rfl, by simp [isn]; simp_all⟩)
set_option maxHeartbeats 2000000 in
theorem c_m_hasNote (G : gt_T) (ma : Nat → Nat) (σ : sg_T) (h : ab_H) (hm : MR h ma σ) (c kd o : Int) (hn0 : σ.1 11 ≤ 20) : ct G M_m_hasNote 1 26 0 0 [vA (ma 0), vL c, vI kd, vL o] h (rB fun z h' => h = h' ∧ z = hsn σ c kd o) nT := by
  show ev _ _ _ _ _ _ 0 [some (vA (ma 0)), some (vL c), none, some (vI kd), some (vL o), none, none, none] [] _ _ _
  have loop : ∀ (fu : Nat) (k : Nat) (b : Bool), (k ≤ (σ.1 11).toNat) → (b = anb (isn σ c kd o) k) → (σ.1 11).toNat - k < fu → ev G M_m_hasNote 1 26 0 0 6 [some (vA (ma 0)), some (vL c), none, some (vI kd), some (vL o), none, some (vI (bi b)), some (vI (k : Int))] [] h (rB fun z h' => h = h' ∧ z = hsn σ c kd o) nT := by
    intro fu
    induction fu with
    | zero => intros; omega
    | succ fu ih =>
      intro k b h1 h2 hn
      refine ev_ilw (k_m_hasNote 4 rfl) rfl ?_
      refine ev_al (k_m_hasNote 5 rfl) rfl ?_
      refine ev_get (v := vI (σ.1 11)) (k_m_hasNote 6 rfl) hm.1 rfl ?_
      refine ev_ic_ge (k_m_hasNote 7 rfl) (fun c45 => ?_) (fun c45 => ?_)
      · refine ev_ilw (k_m_hasNote 23 rfl) rfl ?_
        exact ev_zret (k_m_hasNote 24 rfl) rfl (⟨_, rfl, rfl, by rw [h2]; unfold hsn; rw [show (σ.1 11).toNat = k by omega]⟩)
      · refine ev_ilw (k_m_hasNote 8 rfl) rfl ?_
        refine ev_b_ne (k_m_hasNote 9 rfl) (fun c46 => ?_) (fun c46 => ?_)
        · refine ev_ic (k_m_hasNote 17 rfl) ?_
          refine ev_goto (k_m_hasNote 18 rfl) ?_
          refine ev_isw (k_m_hasNote 20 rfl) (le_b rfl) (show ev _ _ _ _ _ _ 40 [some (vA (ma 0)), some (vL c), none, some (vI kd), some (vL o), none, some (vI 1), some (vI (k : Int))] _ _ _ _ from ?_)
          refine ev_iinc (k_m_hasNote 21 rfl) rfl (by omega) (show ev _ _ _ _ _ _ 43 [some (vA (ma 0)), some (vL c), none, some (vI kd), some (vL o), none, some (vI 1), some (vI ((k : Int) + 1))] _ _ _ _ from ?_)
          refine ev_goto (k_m_hasNote 22 rfl) ?_
          rw [show (k : Int) + 1 = ((k + 1 : Nat) : Int) by omega]
          exact ih (k + 1) true (by omega) (by rw [anb_s]; simp_all) (by omega)
        · refine ev_al (k_m_hasNote 10 rfl) rfl ?_
          refine ev_ilw (k_m_hasNote 11 rfl) rfl ?_
          refine ev_ll (k_m_hasNote 12 rfl) rfl ?_
          refine ev_il (k_m_hasNote 13 rfl) rfl ?_
          refine ev_llw (k_m_hasNote 14 rfl) rfl ?_
          refine ev_cV (k_m_hasNote 15 rfl) rfl v_m_isNote hm.1 rfl (c_m_isNote G ma _ _ hm k c kd o (by omega)) rfl (le_b rfl) (le_b rfl) (le_b rfl) k_n (k_B fun z47 h47 q47 => ?_)
          obtain ⟨rfl, rfl⟩ := q47
          refine ev_b_eq (k_m_hasNote 16 rfl) (fun c48 => ?_) (fun c48 => ?_)
          · refine ev_ic (k_m_hasNote 19 rfl) ?_
            refine ev_isw (k_m_hasNote 20 rfl) (le_b rfl) (show ev _ _ _ _ _ _ 40 [some (vA (ma 0)), some (vL c), none, some (vI kd), some (vL o), none, some (vI 0), some (vI (k : Int))] _ _ _ _ from ?_)
            refine ev_iinc (k_m_hasNote 21 rfl) rfl (by omega) (show ev _ _ _ _ _ _ 43 [some (vA (ma 0)), some (vL c), none, some (vI kd), some (vL o), none, some (vI 0), some (vI ((k : Int) + 1))] _ _ _ _ from ?_)
            refine ev_goto (k_m_hasNote 22 rfl) ?_
            rw [show (k : Int) + 1 = ((k + 1 : Nat) : Int) by omega]
            exact ih (k + 1) false (by omega) (by rw [anb_s]; simp_all) (by omega)
          · refine ev_ic (k_m_hasNote 17 rfl) ?_
            refine ev_goto (k_m_hasNote 18 rfl) ?_
            refine ev_isw (k_m_hasNote 20 rfl) (le_b rfl) (show ev _ _ _ _ _ _ 40 [some (vA (ma 0)), some (vL c), none, some (vI kd), some (vL o), none, some (vI 1), some (vI (k : Int))] _ _ _ _ from ?_)
            refine ev_iinc (k_m_hasNote 21 rfl) rfl (by omega) (show ev _ _ _ _ _ _ 43 [some (vA (ma 0)), some (vL c), none, some (vI kd), some (vL o), none, some (vI 1), some (vI ((k : Int) + 1))] _ _ _ _ from ?_)
            refine ev_goto (k_m_hasNote 22 rfl) ?_
            rw [show (k : Int) + 1 = ((k + 1 : Nat) : Int) by omega]
            exact ih (k + 1) true (by omega) (by rw [anb_s]; simp_all) (by omega)
  refine ev_ic (k_m_hasNote 0 rfl) ?_
  refine ev_isw (k_m_hasNote 1 rfl) (le_b rfl) (show ev _ _ _ _ _ _ 3 [some (vA (ma 0)), some (vL c), none, some (vI kd), some (vL o), none, some (vI 0), none] _ _ _ _ from ?_)
  refine ev_ic (k_m_hasNote 2 rfl) ?_
  refine ev_isw (k_m_hasNote 3 rfl) (le_b rfl) (show ev _ _ _ _ _ _ 6 [some (vA (ma 0)), some (vL c), none, some (vI kd), some (vL o), none, some (vI 0), some (vI 0)] _ _ _ _ from ?_)
  exact loop ((σ.1 11).toNat + 1) 0 false (by omega) rfl (by omega)
set_option maxHeartbeats 2000000 in
theorem c_m_isLink (G : gt_T) (ma : Nat → Nat) (σ : sg_T) (h : ab_H) (hm : MR h ma σ) (k : Nat) (a c b : Int) (hk : k < 60) : ct G M_m_isLink 0 0 0 0 [vA (ma 0), vI (k : Int), vI a, vL c, vI b] h (rB fun z h' => h = h' ∧ z = isl σ a c b k) nT := by
  show ev _ _ _ _ _ _ 0 [some (vA (ma 0)), some (vI (k : Int)), some (vI a), some (vL c), none, some (vI b)] [] _ _ _
  have l17 := mr_l hm 17 rfl
  have l18 := mr_l hm 18 rfl
  have l19 := mr_l hm 19 rfl
  refine ev_al (k_m_isLink 0 rfl) rfl ?_
  refine ev_get (v := vA (ma 17)) (k_m_isLink 1 rfl) hm.1 rfl ?_
  refine ev_il (k_m_isLink 2 rfl) rfl ?_
  refine ev_iald (xs := σ.2 17) (k_m_isLink 3 rfl) (mr_a hm 17 rfl) (by omega) (by omega) (show ev _ _ _ _ _ _ _ _ (vI (gd (σ.2 17) (k)) :: _) _ _ _ from ?_)
  refine ev_il (k_m_isLink 4 rfl) rfl ?_
  refine ev_ic_ne (k_m_isLink 5 rfl) (fun c49 => ?_) (fun c49 => ?_)
  · refine ev_ic (k_m_isLink 21 rfl) ?_
    exact ev_zret (x := false) (k_m_isLink 22 rfl) rfl (⟨false, rfl, rfl, by simp [isl]; simp_all⟩)
  · refine ev_al (k_m_isLink 6 rfl) rfl ?_
    refine ev_get (v := vA (ma 18)) (k_m_isLink 7 rfl) hm.1 rfl ?_
    refine ev_il (k_m_isLink 8 rfl) rfl ?_
    refine ev_lald (xs := σ.2 18) (k_m_isLink 9 rfl) (mr_a hm 18 rfl) (by omega) (by omega) (show ev _ _ _ _ _ _ _ _ (vL (gd (σ.2 18) (k)) :: _) _ _ _ from ?_)
    refine ev_ll (k_m_isLink 10 rfl) rfl ?_
    refine ev_lc_ne (k_m_isLink 11 rfl) (k_m_isLink 12 rfl) (fun c50 => ?_) (fun c50 => ?_)
    · refine ev_ic (k_m_isLink 21 rfl) ?_
      exact ev_zret (x := false) (k_m_isLink 22 rfl) rfl (⟨false, rfl, rfl, by simp [isl]; simp_all⟩)
    · refine ev_al (k_m_isLink 13 rfl) rfl ?_
      refine ev_get (v := vA (ma 19)) (k_m_isLink 14 rfl) hm.1 rfl ?_
      refine ev_il (k_m_isLink 15 rfl) rfl ?_
      refine ev_iald (xs := σ.2 19) (k_m_isLink 16 rfl) (mr_a hm 19 rfl) (by omega) (by omega) (show ev _ _ _ _ _ _ _ _ (vI (gd (σ.2 19) (k)) :: _) _ _ _ from ?_)
      refine ev_ilw (k_m_isLink 17 rfl) rfl ?_
      refine ev_ic_ne (k_m_isLink 18 rfl) (fun c51 => ?_) (fun c51 => ?_)
      · refine ev_ic (k_m_isLink 21 rfl) ?_
        exact ev_zret (x := false) (k_m_isLink 22 rfl) rfl (⟨false, rfl, rfl, by simp [isl]; simp_all⟩)
      · refine ev_ic (k_m_isLink 19 rfl) ?_
        refine ev_goto (k_m_isLink 20 rfl) ?_
        exact ev_zret (x := true) (k_m_isLink 22 rfl) rfl (⟨true, rfl, rfl, by simp [isl]; simp_all⟩)
set_option maxHeartbeats 2000000 in
theorem c_m_linksOf (G : gt_T) (ma : Nat → Nat) (σ : sg_T) (h : ab_H) (hm : MR h ma σ) (a c b : Int) (hn0 : σ.1 16 ≤ 60) : ct G M_m_linksOf 1 25 0 0 [vA (ma 0), vI a, vL c, vI b] h (rI fun z h' => h = h' ∧ z = (lof σ a c b : Int)) nT := by
  show ev _ _ _ _ _ _ 0 [some (vA (ma 0)), some (vI a), some (vL c), none, some (vI b), none, none] [] _ _ _
  have loop : ∀ (fu : Nat) (k : Nat) (n : Int), (k ≤ (σ.1 16).toNat) → (n = (cnt (isl σ a c b) k : Int)) → (σ.1 16).toNat - k < fu → ev G M_m_linksOf 1 25 0 0 6 [some (vA (ma 0)), some (vI a), some (vL c), none, some (vI b), some (vI n), some (vI (k : Int))] [] h (rI fun z h' => h = h' ∧ z = (lof σ a c b : Int)) nT := by
    intro fu
    induction fu with
    | zero => intros; omega
    | succ fu ih =>
      intro k n h1 h2 hn
      have hc := cnt_le (isl σ a c b) k
      refine ev_ilw (k_m_linksOf 4 rfl) rfl ?_
      refine ev_al (k_m_linksOf 5 rfl) rfl ?_
      refine ev_get (v := vI (σ.1 16)) (k_m_linksOf 6 rfl) hm.1 rfl ?_
      refine ev_ic_ge (k_m_linksOf 7 rfl) (fun c52 => ?_) (fun c52 => ?_)
      · refine ev_ilw (k_m_linksOf 23 rfl) rfl ?_
        exact ev_iret (k_m_linksOf 24 rfl) rfl (⟨_, rfl, rfl, by rw [h2]; unfold lof; rw [show (σ.1 16).toNat = k by omega]⟩)
      · refine ev_ilw (k_m_linksOf 8 rfl) rfl ?_
        refine ev_al (k_m_linksOf 9 rfl) rfl ?_
        refine ev_ilw (k_m_linksOf 10 rfl) rfl ?_
        refine ev_il (k_m_linksOf 11 rfl) rfl ?_
        refine ev_ll (k_m_linksOf 12 rfl) rfl ?_
        refine ev_ilw (k_m_linksOf 13 rfl) rfl ?_
        refine ev_cV (k_m_linksOf 14 rfl) rfl v_m_isLink hm.1 rfl (c_m_isLink G ma _ _ hm k a c b (by omega)) rfl (le_b rfl) (le_b rfl) (le_b rfl) k_n (k_B fun z53 h53 q53 => ?_)
        obtain ⟨rfl, rfl⟩ := q53
        refine ev_b_eq (k_m_linksOf 15 rfl) (fun c54 => ?_) (fun c54 => ?_)
        · refine ev_ic (k_m_linksOf 18 rfl) ?_
          refine ev_iadd (k_m_linksOf 19 rfl) (by omega) ?_
          refine ev_isw (k_m_linksOf 20 rfl) (le_b rfl) (show ev _ _ _ _ _ _ 38 [some (vA (ma 0)), some (vI a), some (vL c), none, some (vI b), some (vI (n + 0)), some (vI (k : Int))] _ _ _ _ from ?_)
          refine ev_iinc (k_m_linksOf 21 rfl) rfl (by omega) (show ev _ _ _ _ _ _ 41 [some (vA (ma 0)), some (vI a), some (vL c), none, some (vI b), some (vI (n + 0)), some (vI ((k : Int) + 1))] _ _ _ _ from ?_)
          refine ev_goto (k_m_linksOf 22 rfl) ?_
          rw [show (k : Int) + 1 = ((k + 1 : Nat) : Int) by omega]
          exact ih (k + 1) _ (by omega) (by rw [cnt_f (by assumption), h2]) (by omega)
        · refine ev_ic (k_m_linksOf 16 rfl) ?_
          refine ev_goto (k_m_linksOf 17 rfl) ?_
          refine ev_iadd (k_m_linksOf 19 rfl) (by omega) ?_
          refine ev_isw (k_m_linksOf 20 rfl) (le_b rfl) (show ev _ _ _ _ _ _ 38 [some (vA (ma 0)), some (vI a), some (vL c), none, some (vI b), some (vI (n + 1)), some (vI (k : Int))] _ _ _ _ from ?_)
          refine ev_iinc (k_m_linksOf 21 rfl) rfl (by omega) (show ev _ _ _ _ _ _ 41 [some (vA (ma 0)), some (vI a), some (vL c), none, some (vI b), some (vI (n + 1)), some (vI ((k : Int) + 1))] _ _ _ _ from ?_)
          refine ev_goto (k_m_linksOf 22 rfl) ?_
          rw [show (k : Int) + 1 = ((k + 1 : Nat) : Int) by omega]
          exact ih (k + 1) _ (by omega) (by rw [cnt_t (by assumption), h2]) (by omega)
  refine ev_ic (k_m_linksOf 0 rfl) ?_
  refine ev_isw (k_m_linksOf 1 rfl) (le_b rfl) (show ev _ _ _ _ _ _ 3 [some (vA (ma 0)), some (vI a), some (vL c), none, some (vI b), some (vI 0), none] _ _ _ _ from ?_)
  refine ev_ic (k_m_linksOf 2 rfl) ?_
  refine ev_isw (k_m_linksOf 3 rfl) (le_b rfl) (show ev _ _ _ _ _ _ 6 [some (vA (ma 0)), some (vI a), some (vL c), none, some (vI b), some (vI 0), some (vI 0)] _ _ _ _ from ?_)
  exact loop ((σ.1 16).toNat + 1) 0 0 (by omega) rfl (by omega)
set_option maxHeartbeats 2000000 in
theorem c_m_linksTo (G : gt_T) (ma : Nat → Nat) (σ : sg_T) (h : ab_H) (hm : MR h ma σ) (a b o : Int) (hn0 : σ.1 16 ≤ 60) : ct G M_m_linksTo 0 0 0 0 [vA (ma 0), vI a, vI b, vL o] h (rI fun z h' => h = h' ∧ z = (lto σ a b o : Int)) nT := by
  show ev _ _ _ _ _ _ 0 [some (vA (ma 0)), some (vI a), some (vI b), some (vL o), none, none, none] [] _ _ _
  have l17 := mr_l hm 17 rfl
  have l19 := mr_l hm 19 rfl
  have l20 := mr_l hm 20 rfl
  have loop : ∀ (fu : Nat) (k : Nat) (n : Int), (k ≤ (σ.1 16).toNat) → (n = (cnt (ist σ a b o) k : Int)) → (σ.1 16).toNat - k < fu → ev G M_m_linksTo 0 0 0 0 6 [some (vA (ma 0)), some (vI a), some (vI b), some (vL o), none, some (vI n), some (vI (k : Int))] [] h (rI fun z h' => h = h' ∧ z = (lto σ a b o : Int)) nT := by
    intro fu
    induction fu with
    | zero => intros; omega
    | succ fu ih =>
      intro k n h1 h2 hn
      have hc := cnt_le (ist σ a b o) k
      refine ev_ilw (k_m_linksTo 4 rfl) rfl ?_
      refine ev_al (k_m_linksTo 5 rfl) rfl ?_
      refine ev_get (v := vI (σ.1 16)) (k_m_linksTo 6 rfl) hm.1 rfl ?_
      refine ev_ic_ge (k_m_linksTo 7 rfl) (fun c55 => ?_) (fun c55 => ?_)
      · refine ev_ilw (k_m_linksTo 35 rfl) rfl ?_
        exact ev_iret (k_m_linksTo 36 rfl) rfl (⟨_, rfl, rfl, by rw [h2]; unfold lto; rw [show (σ.1 16).toNat = k by omega]⟩)
      · refine ev_ilw (k_m_linksTo 8 rfl) rfl ?_
        refine ev_al (k_m_linksTo 9 rfl) rfl ?_
        refine ev_get (v := vA (ma 17)) (k_m_linksTo 10 rfl) hm.1 rfl ?_
        refine ev_ilw (k_m_linksTo 11 rfl) rfl ?_
        refine ev_iald (xs := σ.2 17) (k_m_linksTo 12 rfl) (mr_a hm 17 rfl) (by omega) (by omega) (show ev _ _ _ _ _ _ _ _ (vI (gd (σ.2 17) (k)) :: _) _ _ _ from ?_)
        refine ev_il (k_m_linksTo 13 rfl) rfl ?_
        refine ev_ic_ne (k_m_linksTo 14 rfl) (fun c56 => ?_) (fun c56 => ?_)
        · refine ev_ic (k_m_linksTo 30 rfl) ?_
          refine ev_iadd (k_m_linksTo 31 rfl) (by omega) ?_
          refine ev_isw (k_m_linksTo 32 rfl) (le_b rfl) (show ev _ _ _ _ _ _ 59 [some (vA (ma 0)), some (vI a), some (vI b), some (vL o), none, some (vI (n + 0)), some (vI (k : Int))] _ _ _ _ from ?_)
          refine ev_iinc (k_m_linksTo 33 rfl) rfl (by omega) (show ev _ _ _ _ _ _ 62 [some (vA (ma 0)), some (vI a), some (vI b), some (vL o), none, some (vI (n + 0)), some (vI ((k : Int) + 1))] _ _ _ _ from ?_)
          refine ev_goto (k_m_linksTo 34 rfl) ?_
          rw [show (k : Int) + 1 = ((k + 1 : Nat) : Int) by omega]
          exact ih (k + 1) _ (by omega) (by rw [cnt_f (by simp only [ist]; simp_all), h2]) (by omega)
        · refine ev_al (k_m_linksTo 15 rfl) rfl ?_
          refine ev_get (v := vA (ma 19)) (k_m_linksTo 16 rfl) hm.1 rfl ?_
          refine ev_ilw (k_m_linksTo 17 rfl) rfl ?_
          refine ev_iald (xs := σ.2 19) (k_m_linksTo 18 rfl) (mr_a hm 19 rfl) (by omega) (by omega) (show ev _ _ _ _ _ _ _ _ (vI (gd (σ.2 19) (k)) :: _) _ _ _ from ?_)
          refine ev_il (k_m_linksTo 19 rfl) rfl ?_
          refine ev_ic_ne (k_m_linksTo 20 rfl) (fun c57 => ?_) (fun c57 => ?_)
          · refine ev_ic (k_m_linksTo 30 rfl) ?_
            refine ev_iadd (k_m_linksTo 31 rfl) (by omega) ?_
            refine ev_isw (k_m_linksTo 32 rfl) (le_b rfl) (show ev _ _ _ _ _ _ 59 [some (vA (ma 0)), some (vI a), some (vI b), some (vL o), none, some (vI (n + 0)), some (vI (k : Int))] _ _ _ _ from ?_)
            refine ev_iinc (k_m_linksTo 33 rfl) rfl (by omega) (show ev _ _ _ _ _ _ 62 [some (vA (ma 0)), some (vI a), some (vI b), some (vL o), none, some (vI (n + 0)), some (vI ((k : Int) + 1))] _ _ _ _ from ?_)
            refine ev_goto (k_m_linksTo 34 rfl) ?_
            rw [show (k : Int) + 1 = ((k + 1 : Nat) : Int) by omega]
            exact ih (k + 1) _ (by omega) (by rw [cnt_f (by simp only [ist]; simp_all), h2]) (by omega)
          · refine ev_al (k_m_linksTo 21 rfl) rfl ?_
            refine ev_get (v := vA (ma 20)) (k_m_linksTo 22 rfl) hm.1 rfl ?_
            refine ev_ilw (k_m_linksTo 23 rfl) rfl ?_
            refine ev_lald (xs := σ.2 20) (k_m_linksTo 24 rfl) (mr_a hm 20 rfl) (by omega) (by omega) (show ev _ _ _ _ _ _ _ _ (vL (gd (σ.2 20) (k)) :: _) _ _ _ from ?_)
            refine ev_ll (k_m_linksTo 25 rfl) rfl ?_
            refine ev_lc_ne (k_m_linksTo 26 rfl) (k_m_linksTo 27 rfl) (fun c58 => ?_) (fun c58 => ?_)
            · refine ev_ic (k_m_linksTo 30 rfl) ?_
              refine ev_iadd (k_m_linksTo 31 rfl) (by omega) ?_
              refine ev_isw (k_m_linksTo 32 rfl) (le_b rfl) (show ev _ _ _ _ _ _ 59 [some (vA (ma 0)), some (vI a), some (vI b), some (vL o), none, some (vI (n + 0)), some (vI (k : Int))] _ _ _ _ from ?_)
              refine ev_iinc (k_m_linksTo 33 rfl) rfl (by omega) (show ev _ _ _ _ _ _ 62 [some (vA (ma 0)), some (vI a), some (vI b), some (vL o), none, some (vI (n + 0)), some (vI ((k : Int) + 1))] _ _ _ _ from ?_)
              refine ev_goto (k_m_linksTo 34 rfl) ?_
              rw [show (k : Int) + 1 = ((k + 1 : Nat) : Int) by omega]
              exact ih (k + 1) _ (by omega) (by rw [cnt_f (by simp only [ist]; simp_all), h2]) (by omega)
            · refine ev_ic (k_m_linksTo 28 rfl) ?_
              refine ev_goto (k_m_linksTo 29 rfl) ?_
              refine ev_iadd (k_m_linksTo 31 rfl) (by omega) ?_
              refine ev_isw (k_m_linksTo 32 rfl) (le_b rfl) (show ev _ _ _ _ _ _ 59 [some (vA (ma 0)), some (vI a), some (vI b), some (vL o), none, some (vI (n + 1)), some (vI (k : Int))] _ _ _ _ from ?_)
              refine ev_iinc (k_m_linksTo 33 rfl) rfl (by omega) (show ev _ _ _ _ _ _ 62 [some (vA (ma 0)), some (vI a), some (vI b), some (vL o), none, some (vI (n + 1)), some (vI ((k : Int) + 1))] _ _ _ _ from ?_)
              refine ev_goto (k_m_linksTo 34 rfl) ?_
              rw [show (k : Int) + 1 = ((k + 1 : Nat) : Int) by omega]
              exact ih (k + 1) _ (by omega) (by rw [cnt_t (by simp only [ist]; simp_all), h2]) (by omega)
  refine ev_ic (k_m_linksTo 0 rfl) ?_
  refine ev_isw (k_m_linksTo 1 rfl) (le_b rfl) (show ev _ _ _ _ _ _ 3 [some (vA (ma 0)), some (vI a), some (vI b), some (vL o), none, some (vI 0), none] _ _ _ _ from ?_)
  refine ev_ic (k_m_linksTo 2 rfl) ?_
  refine ev_isw (k_m_linksTo 3 rfl) (le_b rfl) (show ev _ _ _ _ _ _ 6 [some (vA (ma 0)), some (vI a), some (vI b), some (vL o), none, some (vI 0), some (vI 0)] _ _ _ _ from ?_)
  exact loop ((σ.1 16).toNat + 1) 0 0 (by omega) rfl (by omega)
