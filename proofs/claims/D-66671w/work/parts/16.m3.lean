section EvM
variable {G : gt_T} {M : mt_T} {F L C S : Nat} {pc a0 b0 j0 : Nat} {z0 : Int} {ls : List (Option ab_V)} {st : List ab_V} {h h0 : ab_H} {Φ : Option ab_V → ab_H → Prop} {Θ : Nat → ab_H → Prop} {ma : Nat → Nat} {σ : sg_T}
theorem ev_mput (d : ri_at M (pc, 3, 50, 7, b0, j0, z0)) {z : Int} (hm : MR h ma σ) (hf : fM h0 h) (hl : b0 < 27) (hk : fk (ft 7 b0) (vI z) = true) (he : (mf ma σ).set b0 (vI z) = mf ma (sS σ b0 z)) (k : ∀ h', MR h' ma (sS σ b0 z) → fM h0 h' → ev G M F L C S (pc + 3) ls st h' Φ Θ) : ev G M F L C S pc ls (vI z :: vA (ma 0) :: st) h Φ Θ :=
  ev_put d hm.1 hl hk (k _ (mr_o hm he rfl) (fM_tr hf (fM_hu hm.1 (Nat.le_refl 1000))))
theorem ev_mias (d : ri_at M (pc, 1, 60, a0, b0, j0, z0)) (kf : Nat) {n : Nat} (hka : ka kf = some (0, n)) (hm : MR h ma σ) (hf : fM h0 h) {i x : Int} {iN : Nat} (hi : i = (iN : Int)) (hn : iN < n) (k : ∀ h', MR h' ma (sA σ kf ((σ.2 kf).set iN x)) → fM h0 h' → ev G M F L C S (pc + 1) ls st h' Φ Θ) : ev G M F L C S pc ls (vI x :: vI i :: vA (ma kf) :: st) h Φ Θ := by
  subst hi
  have hl := mr_l hm kf hka
  refine ev_iast d (mr_a hm kf hka) (by omega) (by omega) (k _ ?_ (fM_tr hf (fM_hu (mr_a hm kf hka) (by show 1000 ≤ 1000 + kf; omega))))
  exact mr_u hm kf hka (by rw [List.length_set]; exact hl)
theorem ev_mlas (d : ri_at M (pc, 1, 61, a0, b0, j0, z0)) (kf : Nat) {n : Nat} (hka : ka kf = some (1, n)) (hm : MR h ma σ) (hf : fM h0 h) {i x : Int} {iN : Nat} (hi : i = (iN : Int)) (hn : iN < n) (k : ∀ h', MR h' ma (sA σ kf ((σ.2 kf).set iN x)) → fM h0 h' → ev G M F L C S (pc + 1) ls st h' Φ Θ) : ev G M F L C S pc ls (vL x :: vI i :: vA (ma kf) :: st) h Φ Θ := by
  subst hi
  have hl := mr_l hm kf hka
  refine ev_last d (mr_a hm kf hka) (by omega) (by omega) (k _ ?_ (fM_tr hf (fM_hu (mr_a hm kf hka) (by show 1000 ≤ 1000 + kf; omega))))
  exact mr_u hm kf hka (by rw [List.length_set]; exact hl)
theorem ev_o_lt (d : ri_at M (pc, 3, 33, a0, b0, j0, z0)) {o : Option Nat} (kt : o = none → ev G M F L C S a0 ls st h Φ Θ) (kf : ∀ i, o = some i → ev G M F L C S (pc + 3) ls st h Φ Θ) : ev G M F L C S pc ls (vI (oix o) :: st) h Φ Θ := by
  refine ev_if_lt d (fun q => kt ?_) (fun q => ?_)
  · cases o with
    | none => rfl
    | some i => simp [oix] at q; omega
  · cases o with
    | none => simp [oix] at q
    | some i => exact kf i rfl
theorem ev_o_ge (d : ri_at M (pc, 3, 34, a0, b0, j0, z0)) {o : Option Nat} (kt : ∀ i, o = some i → ev G M F L C S a0 ls st h Φ Θ) (kf : o = none → ev G M F L C S (pc + 3) ls st h Φ Θ) : ev G M F L C S pc ls (vI (oix o) :: st) h Φ Θ := by
  refine ev_if_ge d (fun q => ?_) (fun q => kf ?_)
  · cases o with
    | none => simp [oix] at q
    | some i => exact kt i rfl
  · cases o with
    | none => rfl
    | some i => simp [oix] at q; omega
end EvM
theorem bmod_dec {x : Int} (h : inI x) : Int.bmod (x - 1) 4294967296 = if x = -2147483648 then 2147483647 else x - 1 := by
  have h1 := h.1
  have h2 := h.2
  rw [Int.bmod_def]
  split <;> split <;> omega
theorem c_m_rowOfI (G : gt_T) (ma : Nat → Nat) (σ : sg_T) (h : ab_H) (hm : MR h ma σ) (e c : Int) (h1 : 0 ≤ e) (h2 : e < 3) (hr : gd (σ.2 6) e.toNat ≤ 40) : ct G M_m_rowOf 0 0 0 0 [vA (ma 0), vI e, vL c] h (rI fun z h' => h = h' ∧ z = oix (rof σ e.toNat c)) nT := by
  have := c_m_rowOf G ma σ h hm e.toNat c (by omega) hr
  rwa [Int.toNat_of_nonneg h1] at this
def iso (σ : sg_T) (a c b : Int) : Bool := inb a 0 2 && inb b 0 2 && decide (a ≠ b) && (rof σ a.toNat c).isSome
set_option maxHeartbeats 2000000 in
theorem c_m_isOf (G : gt_T) (ma : Nat → Nat) (σ : sg_T) (h : ab_H) (hm : MR h ma σ) (HR : ∀ e, e < 3 → 0 ≤ gd (σ.2 6) e ∧ gd (σ.2 6) e ≤ 40) (a c b : Int) : ct G M_m_isOf 1 25 0 0 [vA (ma 0), vI a, vL c, vI b] h (rB fun z h' => h = h' ∧ z = iso σ a c b) nT := by
  show ev _ _ _ _ _ _ 0 [some (vA (ma 0)), some (vI a), some (vL c), none, some (vI b)] [] _ _ _
  refine ev_il (k_m_isOf 0 rfl) rfl ?_
  refine ev_cS (k_m_isOf 1 rfl) rfl v_m_isEdition (c_m_isEdition G _ a) rfl (le_b rfl) (le_b rfl) (le_b rfl) k_n (k_B fun z59 h59 q59 => ?_)
  obtain ⟨rfl, rfl⟩ := q59
  refine ev_b_eq (k_m_isOf 2 rfl) (fun c60 => ?_) (fun c60 => ?_)
  · have j60 := inb_f c60
    refine ev_ic (k_m_isOf 21 rfl) ?_
    exact ev_zret (x := false) (k_m_isOf 22 rfl) rfl (⟨false, rfl, rfl, by simp [iso, c60]⟩)
  · have j60 := inb_t c60
    refine ev_ilw (k_m_isOf 3 rfl) rfl ?_
    refine ev_cS (k_m_isOf 4 rfl) rfl v_m_isEdition (c_m_isEdition G _ b) rfl (le_b rfl) (le_b rfl) (le_b rfl) k_n (k_B fun z61 h61 q61 => ?_)
    obtain ⟨rfl, rfl⟩ := q61
    refine ev_b_eq (k_m_isOf 5 rfl) (fun c62 => ?_) (fun c62 => ?_)
    · have j62 := inb_f c62
      refine ev_ic (k_m_isOf 21 rfl) ?_
      exact ev_zret (x := false) (k_m_isOf 22 rfl) rfl (⟨false, rfl, rfl, by simp [iso, c60, c62]⟩)
    · have j62 := inb_t c62
      refine ev_il (k_m_isOf 6 rfl) rfl ?_
      refine ev_ilw (k_m_isOf 7 rfl) rfl ?_
      refine ev_ic_eq (k_m_isOf 8 rfl) (fun c63 => ?_) (fun c63 => ?_)
      · refine ev_ic (k_m_isOf 21 rfl) ?_
        exact ev_zret (x := false) (k_m_isOf 22 rfl) rfl (⟨false, rfl, rfl, by simp [iso, c60, c62, c63]⟩)
      · refine ev_al (k_m_isOf 9 rfl) rfl ?_
        refine ev_il (k_m_isOf 10 rfl) rfl ?_
        refine ev_cS (k_m_isOf 11 rfl) rfl v_m_isEdition (c_m_isEdition G _ a) rfl (le_b rfl) (le_b rfl) (le_b rfl) k_n (k_B fun z64 h64 q64 => ?_)
        obtain ⟨rfl, rfl⟩ := q64
        refine ev_b_eq (k_m_isOf 12 rfl) (fun c => absurd (c60.symm.trans c) (by decide)) (fun _ => ?_)
        refine ev_il (k_m_isOf 13 rfl) rfl ?_
        refine ev_goto (k_m_isOf 14 rfl) ?_
        refine ev_ll (k_m_isOf 16 rfl) rfl ?_
        refine ev_cV (k_m_isOf 17 rfl) rfl v_m_rowOf hm.1 rfl (c_m_rowOfI G ma _ _ hm a c (by omega) (by omega) (by exact (HR _ (by omega)).2)) rfl (le_b rfl) (le_b rfl) (le_b rfl) k_n (k_I fun z66 h66 q66 => ?_)
        obtain ⟨rfl, rfl⟩ := q66
        refine ev_o_lt (k_m_isOf 18 rfl) (fun c67 => ?_) (fun i67 c67 => ?_)
        · refine ev_ic (k_m_isOf 21 rfl) ?_
          exact ev_zret (x := false) (k_m_isOf 22 rfl) rfl (⟨false, rfl, rfl, by simp [iso, c60, c62, c63, c67]⟩)
        · refine ev_ic (k_m_isOf 19 rfl) ?_
          refine ev_goto (k_m_isOf 20 rfl) ?_
          exact ev_zret (x := true) (k_m_isOf 22 rfl) rfl (⟨true, rfl, rfl, by simp [iso, c60, c62, c63, c67]⟩)
def bel (σ : sg_T) (e r : Nat) : Nat := cnt (fun j => abv (σ.2 8) (40 * e) (r + 1 + j) == (r : Int)) (40 * e + (gd (σ.2 6) e).toNat - (r + 1))
set_option maxHeartbeats 2000000 in
theorem c_m_below (G : gt_T) (ma : Nat → Nat) (σ : sg_T) (h : ab_H) (hm : MR h ma σ) (HR : ∀ e, e < 3 → 0 ≤ gd (σ.2 6) e ∧ gd (σ.2 6) e ≤ 40) (e r : Nat) (he : e < 3) (hr : 40 * e ≤ r) (hr2 : r < 40 * e + (gd (σ.2 6) e).toNat) (hd : ∀ j, 40 * e ≤ j → j < 40 * e + (gd (σ.2 6) e).toNat → 0 ≤ gd (σ.2 8) j) : ct G M_m_below 1 23 0 0 [vA (ma 0), vI (e : Int), vI (r : Int)] h (rI fun z h' => h = h' ∧ z = (bel σ e r : Int)) nT := by
  show ev _ _ _ _ _ _ 0 [some (vA (ma 0)), some (vI (e : Int)), some (vI (r : Int)), none, none] [] _ _ _
  have l6 := mr_l hm 6 rfl
  have l8 := mr_l hm 8 rfl
  have hre := HR e he
  have loop : ∀ (fu : Nat) (k : Nat) (n : Int), (k ≤ 40 * e + (gd (σ.2 6) e).toNat - (r + 1)) → (n = (cnt (fun j => abv (σ.2 8) (40 * e) (r + 1 + j) == (r : Int)) k : Int)) → 40 * e + (gd (σ.2 6) e).toNat - (r + 1) - k < fu → ev G M_m_below 1 23 0 0 7 [some (vA (ma 0)), some (vI (e : Int)), some (vI (r : Int)), some (vI n), some (vI ((r + 1 + k : Nat) : Int))] [] h (rI fun z h' => h = h' ∧ z = (bel σ e r : Int)) nT := by
    intro fu
    induction fu with
    | zero => intros; omega
    | succ fu ih =>
      intro k n h1 h2 hn
      have hc := cnt_le (fun j => abv (σ.2 8) (40 * e) (r + 1 + j) == (r : Int)) k
      refine ev_ilw (k_m_below 6 rfl) rfl ?_
      refine ev_bp (k_m_below 7 rfl) ?_
      refine ev_il (k_m_below 8 rfl) rfl ?_
      refine ev_imul (k_m_below 9 rfl) (by omega) ?_
      refine ev_al (k_m_below 10 rfl) rfl ?_
      refine ev_get (v := vA (ma 6)) (k_m_below 11 rfl) hm.1 rfl ?_
      refine ev_il (k_m_below 12 rfl) rfl ?_
      refine ev_iald (xs := σ.2 6) (k_m_below 13 rfl) (mr_a hm 6 rfl) (by omega) (by omega) (show ev _ _ _ _ _ _ _ _ (vI (gd (σ.2 6) (e)) :: _) _ _ _ from ?_)
      refine ev_iadd (k_m_below 14 rfl) (by omega) ?_
      refine ev_ic_ge (k_m_below 15 rfl) (fun c68 => ?_) (fun c68 => ?_)
      · refine ev_il (k_m_below 32 rfl) rfl ?_
        exact ev_iret (k_m_below 33 rfl) rfl (⟨_, rfl, rfl, by rw [h2]; unfold bel; rw [show 40 * e + (gd (σ.2 6) e).toNat - (r + 1) = k by omega]⟩)
      · refine ev_il (k_m_below 16 rfl) rfl ?_
        refine ev_al (k_m_below 17 rfl) rfl ?_
        refine ev_bp (k_m_below 18 rfl) ?_
        refine ev_il (k_m_below 19 rfl) rfl ?_
        refine ev_imul (k_m_below 20 rfl) (by omega) ?_
        refine ev_ilw (k_m_below 21 rfl) rfl ?_
        refine ev_cV (k_m_below 22 rfl) rfl v_m_above hm.1 rfl (c_m_above G ma _ _ hm (40 * (e)) (r + 1 + k) (by omega) (by omega) (hd _ (by omega) (by omega))) rfl (le_b rfl) (le_b rfl) (le_b rfl) k_n (k_I fun z69 h69 q69 => ?_)
        obtain ⟨rfl, rfl⟩ := q69
        refine ev_il (k_m_below 23 rfl) rfl ?_
        refine ev_ic_ne (k_m_below 24 rfl) (fun c70 => ?_) (fun c70 => ?_)
        · refine ev_ic (k_m_below 27 rfl) ?_
          refine ev_iadd (k_m_below 28 rfl) (by omega) ?_
          refine ev_is (k_m_below 29 rfl) (le_b rfl) (show ev _ _ _ _ _ _ 45 [some (vA (ma 0)), some (vI (e : Int)), some (vI (r : Int)), some (vI (n + 0)), some (vI ((r + 1 + k : Nat) : Int))] _ _ _ _ from ?_)
          refine ev_iinc (k_m_below 30 rfl) rfl (by omega) (show ev _ _ _ _ _ _ 48 [some (vA (ma 0)), some (vI (e : Int)), some (vI (r : Int)), some (vI (n + 0)), some (vI (((r + 1 + k : Nat) : Int) + 1))] _ _ _ _ from ?_)
          refine ev_goto (k_m_below 31 rfl) ?_
          rw [show ((r + 1 + k : Nat) : Int) + 1 = ((r + 1 + (k + 1) : Nat) : Int) by omega]
          exact ih (k + 1) _ (by omega) (by rw [cnt_f (bq_f (by omega)), h2]) (by omega)
        · refine ev_ic (k_m_below 25 rfl) ?_
          refine ev_goto (k_m_below 26 rfl) ?_
          refine ev_iadd (k_m_below 28 rfl) (by omega) ?_
          refine ev_is (k_m_below 29 rfl) (le_b rfl) (show ev _ _ _ _ _ _ 45 [some (vA (ma 0)), some (vI (e : Int)), some (vI (r : Int)), some (vI (n + 1)), some (vI ((r + 1 + k : Nat) : Int))] _ _ _ _ from ?_)
          refine ev_iinc (k_m_below 30 rfl) rfl (by omega) (show ev _ _ _ _ _ _ 48 [some (vA (ma 0)), some (vI (e : Int)), some (vI (r : Int)), some (vI (n + 1)), some (vI (((r + 1 + k : Nat) : Int) + 1))] _ _ _ _ from ?_)
          refine ev_goto (k_m_below 31 rfl) ?_
          rw [show ((r + 1 + k : Nat) : Int) + 1 = ((r + 1 + (k + 1) : Nat) : Int) by omega]
          exact ih (k + 1) _ (by omega) (by rw [cnt_t (bq_t (by omega)), h2]) (by omega)
  refine ev_ic (k_m_below 0 rfl) ?_
  refine ev_is (k_m_below 1 rfl) (le_b rfl) (show ev _ _ _ _ _ _ 2 [some (vA (ma 0)), some (vI (e : Int)), some (vI (r : Int)), some (vI 0), none] _ _ _ _ from ?_)
  refine ev_il (k_m_below 2 rfl) rfl ?_
  refine ev_ic (k_m_below 3 rfl) ?_
  refine ev_iadd (k_m_below 4 rfl) (by omega) ?_
  refine ev_isw (k_m_below 5 rfl) (le_b rfl) (show ev _ _ _ _ _ _ 7 [some (vA (ma 0)), some (vI (e : Int)), some (vI (r : Int)), some (vI 0), some (vI ((r : Int) + 1))] _ _ _ _ from ?_)
  rw [show (r : Int) + 1 = ((r + 1 + 0 : Nat) : Int) by omega]
  exact loop (40 * e + (gd (σ.2 6) e).toNat + 1) 0 0 (by omega) rfl (by omega)
def hsw (σ : sg_T) (r : Nat) (w : Int) : Bool := anb (fun j => gd (σ.2 10) (4 * r + j) == w) (gd (σ.2 9) r).toNat
set_option maxHeartbeats 2000000 in
theorem c_m_has (G : gt_T) (ma : Nat → Nat) (σ : sg_T) (h : ab_H) (hm : MR h ma σ) (r : Nat) (w : Int) (hr : r < 160) (hw : 0 ≤ gd (σ.2 9) r) (hw4 : gd (σ.2 9) r ≤ 4) : ct G M_m_has 0 0 0 0 [vA (ma 0), vI (r : Int), vL w] h (rB fun z h' => h = h' ∧ z = hsw σ r w) nT := by
  show ev _ _ _ _ _ _ 0 [some (vA (ma 0)), some (vI (r : Int)), some (vL w), none, none, none] [] _ _ _
  have l9 := mr_l hm 9 rfl
  have l10 := mr_l hm 10 rfl
  have loop : ∀ (fu : Nat) (k : Nat) (b : Bool), (k ≤ (gd (σ.2 9) r).toNat) → (b = anb (fun j => gd (σ.2 10) (4 * r + j) == w) k) → (gd (σ.2 9) r).toNat - k < fu → ev G M_m_has 0 0 0 0 8 [some (vA (ma 0)), some (vI (r : Int)), some (vL w), none, some (vI (bi b)), some (vI ((4 * r + k : Nat) : Int))] [] h (rB fun z h' => h = h' ∧ z = hsw σ r w) nT := by
    intro fu
    induction fu with
    | zero => intros; omega
    | succ fu ih =>
      intro k b h1 h2 hn
      refine ev_ilw (k_m_has 6 rfl) rfl ?_
      refine ev_ic (k_m_has 7 rfl) ?_
      refine ev_il (k_m_has 8 rfl) rfl ?_
      refine ev_imul (k_m_has 9 rfl) (by omega) ?_
      refine ev_al (k_m_has 10 rfl) rfl ?_
      refine ev_get (v := vA (ma 9)) (k_m_has 11 rfl) hm.1 rfl ?_
      refine ev_il (k_m_has 12 rfl) rfl ?_
      refine ev_iald (xs := σ.2 9) (k_m_has 13 rfl) (mr_a hm 9 rfl) (by omega) (by omega) (show ev _ _ _ _ _ _ _ _ (vI (gd (σ.2 9) (r)) :: _) _ _ _ from ?_)
      refine ev_iadd (k_m_has 14 rfl) (by omega) ?_
      refine ev_ic_ge (k_m_has 15 rfl) (fun c71 => ?_) (fun c71 => ?_)
      · refine ev_ilw (k_m_has 31 rfl) rfl ?_
        exact ev_zret (k_m_has 32 rfl) rfl (⟨_, rfl, rfl, by rw [h2]; unfold hsw; rw [show (gd (σ.2 9) r).toNat = k by omega]⟩)
      · refine ev_ilw (k_m_has 16 rfl) rfl ?_
        refine ev_b_ne (k_m_has 17 rfl) (fun c72 => ?_) (fun c72 => ?_)
        · refine ev_ic (k_m_has 25 rfl) ?_
          refine ev_goto (k_m_has 26 rfl) ?_
          refine ev_isw (k_m_has 28 rfl) (le_b rfl) (show ev _ _ _ _ _ _ 47 [some (vA (ma 0)), some (vI (r : Int)), some (vL w), none, some (vI 1), some (vI ((4 * r + k : Nat) : Int))] _ _ _ _ from ?_)
          refine ev_iinc (k_m_has 29 rfl) rfl (by omega) (show ev _ _ _ _ _ _ 50 [some (vA (ma 0)), some (vI (r : Int)), some (vL w), none, some (vI 1), some (vI (((4 * r + k : Nat) : Int) + 1))] _ _ _ _ from ?_)
          refine ev_goto (k_m_has 30 rfl) ?_
          rw [show ((4 * r + k : Nat) : Int) + 1 = ((4 * r + (k + 1) : Nat) : Int) by omega]
          exact ih (k + 1) true (by omega) (by rw [anb_s]; simp_all) (by omega)
        · refine ev_al (k_m_has 18 rfl) rfl ?_
          refine ev_get (v := vA (ma 10)) (k_m_has 19 rfl) hm.1 rfl ?_
          refine ev_ilw (k_m_has 20 rfl) rfl ?_
          refine ev_lald (xs := σ.2 10) (k_m_has 21 rfl) (mr_a hm 10 rfl) (by omega) (by omega) (show ev _ _ _ _ _ _ _ _ (vL (gd (σ.2 10) (4 * r + k)) :: _) _ _ _ from ?_)
          refine ev_ll (k_m_has 22 rfl) rfl ?_
          refine ev_lc_ne (k_m_has 23 rfl) (k_m_has 24 rfl) (fun c73 => ?_) (fun c73 => ?_)
          · refine ev_ic (k_m_has 27 rfl) ?_
            refine ev_isw (k_m_has 28 rfl) (le_b rfl) (show ev _ _ _ _ _ _ 47 [some (vA (ma 0)), some (vI (r : Int)), some (vL w), none, some (vI 0), some (vI ((4 * r + k : Nat) : Int))] _ _ _ _ from ?_)
            refine ev_iinc (k_m_has 29 rfl) rfl (by omega) (show ev _ _ _ _ _ _ 50 [some (vA (ma 0)), some (vI (r : Int)), some (vL w), none, some (vI 0), some (vI (((4 * r + k : Nat) : Int) + 1))] _ _ _ _ from ?_)
            refine ev_goto (k_m_has 30 rfl) ?_
            rw [show ((4 * r + k : Nat) : Int) + 1 = ((4 * r + (k + 1) : Nat) : Int) by omega]
            exact ih (k + 1) false (by omega) (by rw [anb_s]; simp_all) (by omega)
          · refine ev_ic (k_m_has 25 rfl) ?_
            refine ev_goto (k_m_has 26 rfl) ?_
            refine ev_isw (k_m_has 28 rfl) (le_b rfl) (show ev _ _ _ _ _ _ 47 [some (vA (ma 0)), some (vI (r : Int)), some (vL w), none, some (vI 1), some (vI ((4 * r + k : Nat) : Int))] _ _ _ _ from ?_)
            refine ev_iinc (k_m_has 29 rfl) rfl (by omega) (show ev _ _ _ _ _ _ 50 [some (vA (ma 0)), some (vI (r : Int)), some (vL w), none, some (vI 1), some (vI (((4 * r + k : Nat) : Int) + 1))] _ _ _ _ from ?_)
            refine ev_goto (k_m_has 30 rfl) ?_
            rw [show ((4 * r + k : Nat) : Int) + 1 = ((4 * r + (k + 1) : Nat) : Int) by omega]
            exact ih (k + 1) true (by omega) (by rw [anb_s]; simp_all) (by omega)
  refine ev_ic (k_m_has 0 rfl) ?_
  refine ev_isw (k_m_has 1 rfl) (le_b rfl) (show ev _ _ _ _ _ _ 3 [some (vA (ma 0)), some (vI (r : Int)), some (vL w), none, some (vI 0), none] _ _ _ _ from ?_)
  refine ev_ic (k_m_has 2 rfl) ?_
  refine ev_il (k_m_has 3 rfl) rfl ?_
  refine ev_imul (k_m_has 4 rfl) (by omega) ?_
  refine ev_isw (k_m_has 5 rfl) (le_b rfl) (show ev _ _ _ _ _ _ 8 [some (vA (ma 0)), some (vI (r : Int)), some (vL w), none, some (vI 0), some (vI (4 * (r : Int)))] _ _ _ _ from ?_)
  rw [show 4 * (r : Int) = ((4 * r + 0 : Nat) : Int) by omega]
  exact loop ((gd (σ.2 9) r).toNat + 1) 0 false (by omega) rfl (by omega)
def rkd (kd c : Int) : Bool := if kd = 0 then c == 45 else if kd = 1 then inb c 48 57 else inb c 97 122
/-- how many of a kind stand at the front of a text's rest -/
def rn (T : Nat → Int) (kd : Int) (p : Nat) : Nat → Nat
  | 0 => 0
  | n + 1 => if rkd kd (T p) then rn T kd (p + 1) n + 1 else 0
theorem rn_le (T : Nat → Int) (kd : Int) : ∀ (n p : Nat), rn T kd p n ≤ n
  | 0, _ => Nat.le_refl _
  | n + 1, p => by unfold rn; split; have := rn_le T kd n (p + 1); omega; omega
theorem rn_t {T : Nat → Int} {kd : Int} {p n : Nat} (h : rkd kd (T p) = true) : rn T kd p (n + 1) = rn T kd (p + 1) n + 1 := by rw [rn, if_pos h]
theorem rn_f {T : Nat → Int} {kd : Int} {p n : Nat} (h : rkd kd (T p) = false) : rn T kd p n = 0 := by cases n with
  | zero => rfl
  | succ n => rw [rn, h]; rfl
set_option maxHeartbeats 2000000 in
theorem c_m_run (G : gt_T) (ma : Nat → Nat) (σ : sg_T) (h : ab_H) (hm : MR h ma σ) (n p : Nat) (kd : Int) (hn0 : σ.1 2 = (n : Int)) (hn4 : n ≤ 400) (hp : p ≤ n) : ct G M_m_run 2 42 0 0 [vA (ma 0), vI (p : Int), vI kd] h (rI fun z h' => h = h' ∧ z = (rn (gd (σ.2 1)) kd p (n - p) : Int)) nT := by
  show ev _ _ _ _ _ _ 0 [some (vA (ma 0)), some (vI (p : Int)), some (vI kd), none] [] _ _ _
  have l1 := mr_l hm 1 rfl
  have loop : ∀ (fu : Nat) (k : Nat), (p + k ≤ n) → (rn (gd (σ.2 1)) kd p (n - p) = k + rn (gd (σ.2 1)) kd (p + k) (n - (p + k))) → n - k < fu → ev G M_m_run 2 42 0 0 2 [some (vA (ma 0)), some (vI (p : Int)), some (vI kd), some (vI (k : Int))] [] h (rI fun z h' => h = h' ∧ z = (rn (gd (σ.2 1)) kd p (n - p) : Int)) nT := by
    intro fu
    induction fu with
    | zero => intros; omega
    | succ fu ih =>
      intro k h1 h2 hn
      refine ev_il (k_m_run 2 rfl) rfl ?_
      refine ev_il (k_m_run 3 rfl) rfl ?_
      refine ev_iadd (k_m_run 4 rfl) (by omega) ?_
      refine ev_al (k_m_run 5 rfl) rfl ?_
      refine ev_get (v := vI (n : Int)) (k_m_run 6 rfl) hm.1 (congrArg (fun z => some (vI z)) hn0) ?_
      refine ev_ic_ge (k_m_run 7 rfl) (fun c74 => ?_) (fun c74 => ?_)
      · refine ev_il (k_m_run 41 rfl) rfl ?_
        exact ev_iret (k_m_run 42 rfl) rfl (⟨_, rfl, rfl, by rw [h2]; first | (rw [show n - (p + k) = 0 by omega]; rfl) | (rw [rn_f (by simp [rkd, *])]; rfl)⟩)
      · refine ev_il (k_m_run 8 rfl) rfl ?_
        refine ev_if_ne (k_m_run 9 rfl) (fun c75 => ?_) (fun c75 => ?_)
        · refine ev_il (k_m_run 19 rfl) rfl ?_
          refine ev_ic (k_m_run 20 rfl) ?_
          refine ev_ic_ne (k_m_run 21 rfl) (fun c76 => ?_) (fun c76 => ?_)
          · refine ev_al (k_m_run 31 rfl) rfl ?_
            refine ev_get (v := vA (ma 1)) (k_m_run 32 rfl) hm.1 rfl ?_
            refine ev_il (k_m_run 33 rfl) rfl ?_
            refine ev_il (k_m_run 34 rfl) rfl ?_
            refine ev_iadd (k_m_run 35 rfl) (by omega) ?_
            refine ev_iald (xs := σ.2 1) (k_m_run 36 rfl) (mr_a hm 1 rfl) (by omega) (by omega) (show ev _ _ _ _ _ _ _ _ (vI (gd (σ.2 1) ((p) + (k))) :: _) _ _ _ from ?_)
            refine ev_cS (k_m_run 37 rfl) rfl v_m_isLetter (c_m_isLetter G _ (gd (σ.2 1) ((p) + (k)))) rfl (le_b rfl) (le_b rfl) (le_b rfl) k_n (k_B fun z77 h77 q77 => ?_)
            obtain ⟨rfl, rfl⟩ := q77
            refine ev_b_eq (k_m_run 38 rfl) (fun c78 => ?_) (fun c78 => ?_)
            · have j78 := inb_f c78
              refine ev_il (k_m_run 41 rfl) rfl ?_
              exact ev_iret (k_m_run 42 rfl) rfl (⟨_, rfl, rfl, by rw [h2]; first | (rw [show n - (p + k) = 0 by omega]; rfl) | (rw [rn_f (by simp [rkd, *])]; rfl)⟩)
            · have j78 := inb_t c78
              refine ev_iinc (k_m_run 39 rfl) rfl (by omega) (show ev _ _ _ _ _ _ 71 [some (vA (ma 0)), some (vI (p : Int)), some (vI kd), some (vI ((k : Int) + 1))] _ _ _ _ from ?_)
              refine ev_goto (k_m_run 40 rfl) ?_
              rw [show (k : Int) + 1 = ((k + 1 : Nat) : Int) by omega]
              have e : rkd kd (gd (σ.2 1) (p + k)) = true := by simp [rkd, *]
              exact ih (k + 1) (by omega) (by rw [h2, show n - (p + k) = (n - (p + (k + 1))) + 1 by omega, rn_t e, Nat.add_assoc p k 1]; omega) (by omega)
          · refine ev_al (k_m_run 22 rfl) rfl ?_
            refine ev_get (v := vA (ma 1)) (k_m_run 23 rfl) hm.1 rfl ?_
            refine ev_il (k_m_run 24 rfl) rfl ?_
            refine ev_il (k_m_run 25 rfl) rfl ?_
            refine ev_iadd (k_m_run 26 rfl) (by omega) ?_
            refine ev_iald (xs := σ.2 1) (k_m_run 27 rfl) (mr_a hm 1 rfl) (by omega) (by omega) (show ev _ _ _ _ _ _ _ _ (vI (gd (σ.2 1) ((p) + (k))) :: _) _ _ _ from ?_)
            refine ev_cS (k_m_run 28 rfl) rfl v_m_isDigit (c_m_isDigit G _ (gd (σ.2 1) ((p) + (k)))) rfl (le_b rfl) (le_b rfl) (le_b rfl) k_n (k_B fun z79 h79 q79 => ?_)
            obtain ⟨rfl, rfl⟩ := q79
            refine ev_b_eq (k_m_run 29 rfl) (fun c80 => ?_) (fun c80 => ?_)
            · have j80 := inb_f c80
              refine ev_il (k_m_run 41 rfl) rfl ?_
              exact ev_iret (k_m_run 42 rfl) rfl (⟨_, rfl, rfl, by rw [h2]; first | (rw [show n - (p + k) = 0 by omega]; rfl) | (rw [rn_f (by simp [rkd, *])]; rfl)⟩)
            · have j80 := inb_t c80
              refine ev_goto (k_m_run 30 rfl) ?_
              refine ev_iinc (k_m_run 39 rfl) rfl (by omega) (show ev _ _ _ _ _ _ 71 [some (vA (ma 0)), some (vI (p : Int)), some (vI kd), some (vI ((k : Int) + 1))] _ _ _ _ from ?_)
              refine ev_goto (k_m_run 40 rfl) ?_
              rw [show (k : Int) + 1 = ((k + 1 : Nat) : Int) by omega]
              have e : rkd kd (gd (σ.2 1) (p + k)) = true := by simp [rkd, *]
              exact ih (k + 1) (by omega) (by rw [h2, show n - (p + k) = (n - (p + (k + 1))) + 1 by omega, rn_t e, Nat.add_assoc p k 1]; omega) (by omega)
        · refine ev_al (k_m_run 10 rfl) rfl ?_
          refine ev_get (v := vA (ma 1)) (k_m_run 11 rfl) hm.1 rfl ?_
          refine ev_il (k_m_run 12 rfl) rfl ?_
          refine ev_il (k_m_run 13 rfl) rfl ?_
          refine ev_iadd (k_m_run 14 rfl) (by omega) ?_
          refine ev_iald (xs := σ.2 1) (k_m_run 15 rfl) (mr_a hm 1 rfl) (by omega) (by omega) (show ev _ _ _ _ _ _ _ _ (vI (gd (σ.2 1) ((p) + (k))) :: _) _ _ _ from ?_)
          refine ev_bp (k_m_run 16 rfl) ?_
          refine ev_ic_ne (k_m_run 17 rfl) (fun c81 => ?_) (fun c81 => ?_)
          · refine ev_il (k_m_run 41 rfl) rfl ?_
            exact ev_iret (k_m_run 42 rfl) rfl (⟨_, rfl, rfl, by rw [h2]; first | (rw [show n - (p + k) = 0 by omega]; rfl) | (rw [rn_f (by simp [rkd, *])]; rfl)⟩)
          · refine ev_goto (k_m_run 18 rfl) ?_
            refine ev_iinc (k_m_run 39 rfl) rfl (by omega) (show ev _ _ _ _ _ _ 71 [some (vA (ma 0)), some (vI (p : Int)), some (vI kd), some (vI ((k : Int) + 1))] _ _ _ _ from ?_)
            refine ev_goto (k_m_run 40 rfl) ?_
            rw [show (k : Int) + 1 = ((k + 1 : Nat) : Int) by omega]
            have e : rkd kd (gd (σ.2 1) (p + k)) = true := by simp [rkd, *]
            exact ih (k + 1) (by omega) (by rw [h2, show n - (p + k) = (n - (p + (k + 1))) + 1 by omega, rn_t e, Nat.add_assoc p k 1]; omega) (by omega)
  refine ev_ic (k_m_run 0 rfl) ?_
  refine ev_is (k_m_run 1 rfl) (le_b rfl) (show ev _ _ _ _ _ _ 2 [some (vA (ma 0)), some (vI (p : Int)), some (vI kd), some (vI 0)] _ _ _ _ from ?_)
  exact loop (n + 1) 0 (by omega) (by rw [Nat.add_zero, Nat.zero_add]) (by omega)
theorem ipow_mono {b : Int} (hb : 1 ≤ b) {k m : Nat} (h : k ≤ m) : b ^ k ≤ b ^ m := by
  obtain ⟨d, rfl⟩ := Nat.exists_eq_add_of_le h
  clear h
  induction d with
  | zero => exact Int.le_refl _
  | succ d ih =>
    refine Int.le_trans ih ?_
    rw [← Nat.add_assoc, Int.pow_succ]
    have h0 : 0 ≤ b ^ (k + d) := Int.pow_nonneg (by omega)
    have := Int.mul_le_mul_of_nonneg_left hb h0
    omega
def pw (b o v : Int) (T : Nat → Int) (p : Nat) : Nat → Int
  | 0 => v
  | n + 1 => b * pw b o v T p n + T (p + n) - o
theorem pw_m_wordAt {T : Nat → Int} {p : Nat} {n : Nat} (hT : ∀ j, j < n → 97 ≤ T (p + j) ∧ T (p + j) ≤ 122) : 0 ≤ pw 32 96 0 T p n ∧ pw 32 96 0 T p n < 2 * 32 ^ n := by
  induction n with
  | zero => simp [pw]
  | succ n ih =>
    have h1 := ih (fun j hj => hT j (by omega))
    have h2 := hT n (by omega)
    simp only [pw, Int.pow_succ]
    omega
set_option maxHeartbeats 2000000 in
theorem c_m_wordAt (G : gt_T) (ma : Nat → Nat) (σ : sg_T) (h : ab_H) (hm : MR h ma σ) (p n : Nat) (hn : n ≤ 8) (hpn : p + n ≤ 400) (hT : ∀ j, j < n → 97 ≤ gd (σ.2 1) (p + j) ∧ gd (σ.2 1) (p + j) ≤ 122) : ct G M_m_wordAt 0 0 0 0 [vA (ma 0), vI (p : Int), vI (n : Int)] h (rL fun z h' => h = h' ∧ z = pw 32 96 0 (gd (σ.2 1)) p n) nT := by
  show ev _ _ _ _ _ _ 0 [some (vA (ma 0)), some (vI (p : Int)), some (vI (n : Int)), none, none, none] [] _ _ _
  have l1 := mr_l hm 1 rfl
  have loop : ∀ (fu : Nat) (k : Nat) (v : Int), (k ≤ n) → (v = pw 32 96 0 (gd (σ.2 1)) p k) → n - k < fu → ev G M_m_wordAt 0 0 0 0 5 [some (vA (ma 0)), some (vI (p : Int)), some (vI (n : Int)), some (vL v), none, some (vI (k : Int))] [] h (rL fun z h' => h = h' ∧ z = pw 32 96 0 (gd (σ.2 1)) p n) nT := by
    intro fu
    induction fu with
    | zero => intros; omega
    | succ fu ih =>
      intro k v h1 h2 hn
      have hb := pw_m_wordAt (T := gd (σ.2 1)) (p := p) (n := k) (fun j hj => hT j (by omega))
      rw [← h2] at hb
      have hpw : (2 * 32 ^ k : Int) ≤ 2 * 32 ^ 8 := by have := ipow_mono (show (1 : Int) ≤ 32 by decide) (show k ≤ 8 by omega); omega
      have hTk := hT k
      refine ev_ilw (k_m_wordAt 4 rfl) rfl ?_
      refine ev_il (k_m_wordAt 5 rfl) rfl ?_
      refine ev_ic_ge (k_m_wordAt 6 rfl) (fun c82 => ?_) (fun c82 => ?_)
      · refine ev_ll (k_m_wordAt 23 rfl) rfl ?_
        exact ev_lret (k_m_wordAt 24 rfl) rfl (⟨_, rfl, rfl, by rw [h2, show k = n by omega]⟩)
      · refine ev_ldc2 (k_m_wordAt 7 rfl) ?_
        refine ev_ll (k_m_wordAt 8 rfl) rfl ?_
        refine ev_lmul (k_m_wordAt 9 rfl) (by omega) ?_
        refine ev_al (k_m_wordAt 10 rfl) rfl ?_
        refine ev_get (v := vA (ma 1)) (k_m_wordAt 11 rfl) hm.1 rfl ?_
        refine ev_il (k_m_wordAt 12 rfl) rfl ?_
        refine ev_ilw (k_m_wordAt 13 rfl) rfl ?_
        refine ev_iadd (k_m_wordAt 14 rfl) (by omega) ?_
        refine ev_iald (xs := σ.2 1) (k_m_wordAt 15 rfl) (mr_a hm 1 rfl) (by omega) (by omega) (show ev _ _ _ _ _ _ _ _ (vI (gd (σ.2 1) ((p) + (k))) :: _) _ _ _ from ?_)
        refine ev_i2l (k_m_wordAt 16 rfl) ?_
        refine ev_ladd (k_m_wordAt 17 rfl) (by omega) ?_
        refine ev_ldc2 (k_m_wordAt 18 rfl) ?_
        refine ev_lsub (k_m_wordAt 19 rfl) (by omega) ?_
        refine ev_ls (k_m_wordAt 20 rfl) (le_b rfl) (show ev _ _ _ _ _ _ 32 [some (vA (ma 0)), some (vI (p : Int)), some (vI (n : Int)), some (vL (((32 * v) + (gd (σ.2 1) ((p) + (k)))) - 96)), none, some (vI (k : Int))] _ _ _ _ from ?_)
        refine ev_iinc (k_m_wordAt 21 rfl) rfl (by omega) (show ev _ _ _ _ _ _ 35 [some (vA (ma 0)), some (vI (p : Int)), some (vI (n : Int)), some (vL (((32 * v) + (gd (σ.2 1) ((p) + (k)))) - 96)), none, some (vI ((k : Int) + 1))] _ _ _ _ from ?_)
        refine ev_goto (k_m_wordAt 22 rfl) ?_
        rw [show (k : Int) + 1 = ((k + 1 : Nat) : Int) by omega]
        exact ih (k + 1) _ (by omega) (by rw [pw, h2]) (by omega)
  refine ev_lc (k_m_wordAt 0 rfl) ?_
  refine ev_ls (k_m_wordAt 1 rfl) (le_b rfl) (show ev _ _ _ _ _ _ 2 [some (vA (ma 0)), some (vI (p : Int)), some (vI (n : Int)), some (vL 0), none, none] _ _ _ _ from ?_)
  refine ev_ic (k_m_wordAt 2 rfl) ?_
  refine ev_isw (k_m_wordAt 3 rfl) (le_b rfl) (show ev _ _ _ _ _ _ 5 [some (vA (ma 0)), some (vI (p : Int)), some (vI (n : Int)), some (vL 0), none, some (vI 0)] _ _ _ _ from ?_)
  exact loop (n + 1) 0 0 (by omega) rfl (by omega)
theorem pw_m_codeAt {T : Nat → Int} {p : Nat} {n : Nat} (hT : ∀ j, j < n → 48 ≤ T (p + j) ∧ T (p + j) ≤ 57) : 0 ≤ pw 10 48 1 T p n ∧ pw 10 48 1 T p n < 2 * 10 ^ n := by
  induction n with
  | zero => simp [pw]
  | succ n ih =>
    have h1 := ih (fun j hj => hT j (by omega))
    have h2 := hT n (by omega)
    simp only [pw, Int.pow_succ]
    omega
set_option maxHeartbeats 2000000 in
theorem c_m_codeAt (G : gt_T) (ma : Nat → Nat) (σ : sg_T) (h : ab_H) (hm : MR h ma σ) (p n : Nat) (hn : n ≤ 10) (hpn : p + n ≤ 400) (hT : ∀ j, j < n → 48 ≤ gd (σ.2 1) (p + j) ∧ gd (σ.2 1) (p + j) ≤ 57) : ct G M_m_codeAt 0 0 0 0 [vA (ma 0), vI (p : Int), vI (n : Int)] h (rL fun z h' => h = h' ∧ z = pw 10 48 1 (gd (σ.2 1)) p n) nT := by
  show ev _ _ _ _ _ _ 0 [some (vA (ma 0)), some (vI (p : Int)), some (vI (n : Int)), none, none, none] [] _ _ _
  have l1 := mr_l hm 1 rfl
  have loop : ∀ (fu : Nat) (k : Nat) (v : Int), (k ≤ n) → (v = pw 10 48 1 (gd (σ.2 1)) p k) → n - k < fu → ev G M_m_codeAt 0 0 0 0 5 [some (vA (ma 0)), some (vI (p : Int)), some (vI (n : Int)), some (vL v), none, some (vI (k : Int))] [] h (rL fun z h' => h = h' ∧ z = pw 10 48 1 (gd (σ.2 1)) p n) nT := by
    intro fu
    induction fu with
    | zero => intros; omega
    | succ fu ih =>
      intro k v h1 h2 hn
      have hb := pw_m_codeAt (T := gd (σ.2 1)) (p := p) (n := k) (fun j hj => hT j (by omega))
      rw [← h2] at hb
      have hpw : (2 * 10 ^ k : Int) ≤ 2 * 10 ^ 10 := by have := ipow_mono (show (1 : Int) ≤ 10 by decide) (show k ≤ 10 by omega); omega
      have hTk := hT k
      refine ev_ilw (k_m_codeAt 4 rfl) rfl ?_
      refine ev_il (k_m_codeAt 5 rfl) rfl ?_
      refine ev_ic_ge (k_m_codeAt 6 rfl) (fun c83 => ?_) (fun c83 => ?_)
      · refine ev_ll (k_m_codeAt 23 rfl) rfl ?_
        exact ev_lret (k_m_codeAt 24 rfl) rfl (⟨_, rfl, rfl, by rw [h2, show k = n by omega]⟩)
      · refine ev_ldc2 (k_m_codeAt 7 rfl) ?_
        refine ev_ll (k_m_codeAt 8 rfl) rfl ?_
        refine ev_lmul (k_m_codeAt 9 rfl) (by omega) ?_
        refine ev_al (k_m_codeAt 10 rfl) rfl ?_
        refine ev_get (v := vA (ma 1)) (k_m_codeAt 11 rfl) hm.1 rfl ?_
        refine ev_il (k_m_codeAt 12 rfl) rfl ?_
        refine ev_ilw (k_m_codeAt 13 rfl) rfl ?_
        refine ev_iadd (k_m_codeAt 14 rfl) (by omega) ?_
        refine ev_iald (xs := σ.2 1) (k_m_codeAt 15 rfl) (mr_a hm 1 rfl) (by omega) (by omega) (show ev _ _ _ _ _ _ _ _ (vI (gd (σ.2 1) ((p) + (k))) :: _) _ _ _ from ?_)
        refine ev_i2l (k_m_codeAt 16 rfl) ?_
        refine ev_ladd (k_m_codeAt 17 rfl) (by omega) ?_
        refine ev_ldc2 (k_m_codeAt 18 rfl) ?_
        refine ev_lsub (k_m_codeAt 19 rfl) (by omega) ?_
        refine ev_ls (k_m_codeAt 20 rfl) (le_b rfl) (show ev _ _ _ _ _ _ 32 [some (vA (ma 0)), some (vI (p : Int)), some (vI (n : Int)), some (vL (((10 * v) + (gd (σ.2 1) ((p) + (k)))) - 48)), none, some (vI (k : Int))] _ _ _ _ from ?_)
        refine ev_iinc (k_m_codeAt 21 rfl) rfl (by omega) (show ev _ _ _ _ _ _ 35 [some (vA (ma 0)), some (vI (p : Int)), some (vI (n : Int)), some (vL (((10 * v) + (gd (σ.2 1) ((p) + (k)))) - 48)), none, some (vI ((k : Int) + 1))] _ _ _ _ from ?_)
        refine ev_goto (k_m_codeAt 22 rfl) ?_
        rw [show (k : Int) + 1 = ((k + 1 : Nat) : Int) by omega]
        exact ih (k + 1) _ (by omega) (by rw [pw, h2]) (by omega)
  refine ev_lc (k_m_codeAt 0 rfl) ?_
  refine ev_ls (k_m_codeAt 1 rfl) (le_b rfl) (show ev _ _ _ _ _ _ 2 [some (vA (ma 0)), some (vI (p : Int)), some (vI (n : Int)), some (vL 1), none, none] _ _ _ _ from ?_)
  refine ev_ic (k_m_codeAt 2 rfl) ?_
  refine ev_isw (k_m_codeAt 3 rfl) (le_b rfl) (show ev _ _ _ _ _ _ 5 [some (vA (ma 0)), some (vI (p : Int)), some (vI (n : Int)), some (vL 1), none, some (vI 0)] _ _ _ _ from ?_)
  exact loop (n + 1) 0 1 (by omega) rfl (by omega)
