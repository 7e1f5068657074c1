def rwv (σ : sg_T) (e i : Nat) (w : Int) : Int := if w = 0 then gd (σ.2 7) (40 * e + i) else if w = 1 then gd (σ.2 8) (40 * e + i) else if w = 2 then gd (σ.2 9) (40 * e + i)
  else if w = 3 then (if abv (σ.2 8) (40 * e) (40 * e + i) < 0 then 0 else gd (σ.2 7) (abv (σ.2 8) (40 * e) (40 * e + i)).toNat) else (bel σ e (40 * e + i) : Int)
set_option maxHeartbeats 2000000 in
theorem c_m_row_ok (G : gt_T) (ma : Nat → Nat) (σ : sg_T) (h : ab_H) (hm : MR h ma σ) (HR : ∀ e, e < 3 → 0 ≤ gd (σ.2 6) e ∧ gd (σ.2 6) e ≤ 40) (pn : Nat) (hp : σ.1 3 = (pn : Int)) (hp2 : pn < 3) (hd : ∀ j, 40 * pn ≤ j → j < 40 * pn + (gd (σ.2 6) pn).toNat → 0 ≤ gd (σ.2 8) j) (i : Nat) (hi : (i : Int) < gd (σ.2 6) pn) (w : Int) (hw : inb w 0 4 = true) : ct G M_m_row 2 47 0 0 [vA (ma 0), vI (i : Int), vI w] h (rL fun z h' => z = rwv σ pn i w ∧ MR h' ma (sS σ 0 0) ∧ fM h h') nT := by
  show ev _ _ _ _ _ _ 0 [some (vA (ma 0)), some (vI (i : Int)), some (vI w), none, none] [] _ _ _
  have l6 := mr_l hm 6 rfl
  have l7 := mr_l hm 7 rfl
  have l8 := mr_l hm 8 rfl
  have l9 := mr_l hm 9 rfl
  have hre := HR pn hp2
  have hab := abv_lt (σ.2 8) (f := 40 * pn) (t := 40 * pn + i)
  refine ev_il (k_m_row_0 0 rfl) rfl ?_
  refine ev_if_lt (k_m_row_0 1 rfl) (fun c128 => ?_) (fun c128 => ?_)
  · exfalso; omega
  · refine ev_il (k_m_row_0 2 rfl) rfl ?_
    refine ev_al (k_m_row_0 3 rfl) rfl ?_
    refine ev_get (v := vA (ma 6)) (k_m_row_0 4 rfl) hm.1 rfl ?_
    refine ev_al (k_m_row_0 5 rfl) rfl ?_
    refine ev_get (v := vI (pn : Int)) (k_m_row_0 6 rfl) hm.1 (congrArg (fun z => some (vI z)) hp) ?_
    refine ev_iald (xs := σ.2 6) (k_m_row_0 7 rfl) (mr_a hm 6 rfl) (by omega) (by omega) (show ev _ _ _ _ _ _ _ _ (vI (gd (σ.2 6) (pn)) :: _) _ _ _ from ?_)
    refine ev_ic_ge (k_m_row_0 8 rfl) (fun c129 => ?_) (fun c129 => ?_)
    · exfalso; omega
    · refine ev_il (k_m_row_0 9 rfl) rfl ?_
      refine ev_ic (k_m_row_0 10 rfl) ?_
      refine ev_ic (k_m_row_0 11 rfl) ?_
      refine ev_cS (k_m_row_0 12 rfl) rfl v_m_in (c_m_in G _ w 0 4) rfl (le_b rfl) (le_b rfl) (le_b rfl) k_n (k_B fun z130 h130 q130 => ?_)
      obtain ⟨rfl, rfl⟩ := q130
      refine ev_b_ne (k_m_row_0 13 rfl) (fun _ => ?_) (fun c => absurd (hw.symm.trans c) (by decide))
      refine ev_al (k_m_row_0 19 rfl) rfl ?_
      refine ev_ic (k_m_row_0 20 rfl) ?_
      refine ev_mput (z := 0) (k_m_row_0 21 rfl) hm (fM_rf _) (le_b rfl) rfl rfl (fun h132 (hm132 : MR h132 ma (sS σ 0 0)) fm132 => ?_)
      refine ev_bp (k_m_row_0 22 rfl) ?_
      refine ev_al (k_m_row_0 23 rfl) rfl ?_
      refine ev_get (v := vI (pn : Int)) (k_m_row_0 24 rfl) hm132.1 (congrArg (fun z => some (vI z)) hp) ?_
      refine ev_imul (k_m_row_0 25 rfl) (by omega) ?_
      refine ev_il (k_m_row_0 26 rfl) rfl ?_
      refine ev_iadd (k_m_row_0 27 rfl) (by omega) ?_
      refine ev_is (k_m_row_0 28 rfl) (le_b rfl) (show ev _ _ _ _ _ _ 48 [some (vA (ma 0)), some (vI (i : Int)), some (vI w), some (vI ((40 * (pn : Int)) + (i : Int))), none] _ _ _ _ from ?_)
      refine ev_al (k_m_row_0 29 rfl) rfl ?_
      refine ev_bp (k_m_row_0 30 rfl) ?_
      refine ev_al (k_m_row_0 31 rfl) rfl ?_
      refine ev_get (v := vI (pn : Int)) (k_m_row_0 32 rfl) hm132.1 (congrArg (fun z => some (vI z)) hp) ?_
      refine ev_imul (k_m_row_0 33 rfl) (by omega) ?_
      refine ev_il (k_m_row_0 34 rfl) rfl ?_
      refine ev_cV (k_m_row_0 35 rfl) rfl v_m_above hm132.1 rfl (c_m_above G ma _ _ hm132 (40 * (pn)) ((40 * (pn)) + (i)) (by (try simp only [sS]); omega) (by (try simp only [sS]); omega) (hd _ (by (try simp only [sS]); omega) (by (try simp only [sS]); omega))) rfl (le_b rfl) (le_b rfl) (le_b rfl) k_n (k_I fun z133 h133 q133 => ?_)
      obtain ⟨rfl, (rfl : z133 = abv (σ.2 8) (40 * (pn)) ((40 * (pn)) + (i)))⟩ := q133
      refine ev_isw (k_m_row_0 36 rfl) (le_b rfl) (show ev _ _ _ _ _ _ 62 [some (vA (ma 0)), some (vI (i : Int)), some (vI w), some (vI ((40 * (pn : Int)) + (i : Int))), some (vI (abv (σ.2 8) (40 * (pn)) ((40 * (pn)) + (i))))] _ _ _ _ from ?_)
      refine ev_il (k_m_row_0 37 rfl) rfl ?_
      by_cases c134 : w = 0
      · refine ev_tsI (tgt := 92) s_m_row_63 (by omega) (by omega) (by rw [c134]; rfl) (by decide) ?_
        refine ev_al (k_m_row_0 38 rfl) rfl ?_
        refine ev_get (v := vA (ma 7)) (k_m_row_0 39 rfl) hm132.1 rfl ?_
        refine ev_il (k_m_row_0 40 rfl) rfl ?_
        refine ev_lald (xs := σ.2 7) (k_m_row_0 41 rfl) (mr_a hm132 7 rfl) (by omega) (by omega) (show ev _ _ _ _ _ _ _ _ (vL (gd (σ.2 7) ((40 * (pn)) + (i))) :: _) _ _ _ from ?_)
        exact ev_lret (k_m_row_0 42 rfl) rfl (⟨_, rfl, by simp [rwv, c128, c129, c134]; try omega, hm132, fm132⟩)
      · by_cases c135 : w = 1
        · refine ev_tsI (tgt := 99) s_m_row_63 (by omega) (by omega) (by rw [c135]; rfl) (by decide) ?_
          refine ev_al (k_m_row_0 43 rfl) rfl ?_
          refine ev_get (v := vA (ma 8)) (k_m_row_0 44 rfl) hm132.1 rfl ?_
          refine ev_il (k_m_row_0 45 rfl) rfl ?_
          refine ev_iald (xs := σ.2 8) (k_m_row_0 46 rfl) (mr_a hm132 8 rfl) (by omega) (by omega) (show ev _ _ _ _ _ _ _ _ (vI (gd (σ.2 8) ((40 * (pn)) + (i))) :: _) _ _ _ from ?_)
          refine ev_i2l (k_m_row_0 47 rfl) ?_
          exact ev_lret (k_m_row_0 48 rfl) rfl (⟨_, rfl, by simp [rwv, c128, c129, c134, c135]; try omega, hm132, fm132⟩)
        · by_cases c136 : w = 2
          · refine ev_tsI (tgt := 107) s_m_row_63 (by omega) (by omega) (by rw [c136]; rfl) (by decide) ?_
            refine ev_al (k_m_row_0 49 rfl) rfl ?_
            refine ev_get (v := vA (ma 9)) (k_m_row_0 50 rfl) hm132.1 rfl ?_
            refine ev_il (k_m_row_0 51 rfl) rfl ?_
            refine ev_iald (xs := σ.2 9) (k_m_row_0 52 rfl) (mr_a hm132 9 rfl) (by omega) (by omega) (show ev _ _ _ _ _ _ _ _ (vI (gd (σ.2 9) ((40 * (pn)) + (i))) :: _) _ _ _ from ?_)
            refine ev_i2l (k_m_row_0 53 rfl) ?_
            exact ev_lret (k_m_row_0 54 rfl) rfl (⟨_, rfl, by simp [rwv, c128, c129, c134, c135, c136]; try omega, hm132, fm132⟩)
          · by_cases c137 : w = 3
            · refine ev_tsI (tgt := 115) s_m_row_63 (by omega) (by omega) (by rw [c137]; rfl) (by decide) ?_
              refine ev_ilw (k_m_row_0 55 rfl) rfl ?_
              refine ev_if_ge (k_m_row_0 56 rfl) (fun c138 => ?_) (fun c138 => ?_)
              · refine ev_al (k_m_row_0 59 rfl) rfl ?_
                refine ev_get (v := vA (ma 7)) (k_m_row_1 0 rfl) hm132.1 rfl ?_
                refine ev_ilw (k_m_row_1 1 rfl) rfl ?_
                refine ev_lald (xs := σ.2 7) (k_m_row_1 2 rfl) (mr_a hm132 7 rfl) (by omega) (by omega) (show ev _ _ _ _ _ _ _ _ (vL (gd (σ.2 7) (abv (σ.2 8) (40 * (pn)) ((40 * (pn)) + (i))).toNat) :: _) _ _ _ from ?_)
                exact ev_lret (k_m_row_1 3 rfl) rfl (⟨_, rfl, by simp [rwv, c128, c129, c134, c135, c136, c137, c138]; try omega, hm132, fm132⟩)
              · refine ev_lc (k_m_row_0 57 rfl) ?_
                refine ev_goto (k_m_row_0 58 rfl) ?_
                exact ev_lret (k_m_row_1 3 rfl) rfl (⟨_, rfl, by simp [rwv, c128, c129, c134, c135, c136, c137, c138]; try omega, hm132, fm132⟩)
            · refine ev_tsO (tgt := 132) s_m_row_63 (by omega) (by decide) ?_
              refine ev_al (k_m_row_1 4 rfl) rfl ?_
              refine ev_al (k_m_row_1 5 rfl) rfl ?_
              refine ev_get (v := vI (pn : Int)) (k_m_row_1 6 rfl) hm132.1 (congrArg (fun z => some (vI z)) hp) ?_
              refine ev_il (k_m_row_1 7 rfl) rfl ?_
              refine ev_cV (k_m_row_1 8 rfl) rfl v_m_below hm132.1 rfl (c_m_below G ma _ _ hm132 HR pn ((40 * (pn)) + (i)) (by (try simp only [sS]); omega) (by (try simp only [sS]); omega) (by (try simp only [sS]); omega) hd) rfl (le_b rfl) (le_b rfl) (le_b rfl) k_n (k_I fun z139 h139 q139 => ?_)
              obtain ⟨rfl, (rfl : z139 = ((bel σ pn ((40 * (pn)) + (i)) : Nat) : Int))⟩ := q139
              refine ev_i2l (k_m_row_1 9 rfl) ?_
              exact ev_lret (k_m_row_1 10 rfl) rfl (⟨_, rfl, by simp [rwv, c128, c129, c134, c135, c136, c137]; try omega, hm132, fm132⟩)
set_option maxHeartbeats 2000000 in
theorem c_m_row_bad (G : gt_T) (ma : Nat → Nat) (σ : sg_T) (h : ab_H) (hm : MR h ma σ) (HR : ∀ e, e < 3 → 0 ≤ gd (σ.2 6) e ∧ gd (σ.2 6) e ≤ 40) (pn : Nat) (hp : σ.1 3 = (pn : Int)) (hp2 : pn < 3) (i w : Int) (hi : ¬ ((0 ≤ i ∧ i < gd (σ.2 6) pn) ∧ inb w 0 4 = true)) : ct G M_m_row 2 47 0 0 [vA (ma 0), vI i, vI w] h (rL fun z h' => z = 0 ∧ MR h' ma (sS σ 0 1) ∧ fM h h') nT := by
  show ev _ _ _ _ _ _ 0 [some (vA (ma 0)), some (vI i), some (vI w), none, none] [] _ _ _
  have l6 := mr_l hm 6 rfl
  refine ev_il (k_m_row_0 0 rfl) rfl ?_
  refine ev_if_lt (k_m_row_0 1 rfl) (fun c140 => ?_) (fun c140 => ?_)
  · refine ev_al (k_m_row_0 14 rfl) rfl ?_
    refine ev_ic (k_m_row_0 15 rfl) ?_
    refine ev_cV (k_m_row_0 16 rfl) rfl v_m_refuse hm.1 rfl (c_m_refuse G ma _ _ hm 1) rfl (le_b rfl) (le_b rfl) (le_b rfl) k_n (k_I fun z141 h141 q141 => ?_)
    obtain ⟨rfl, hm141, fmx141⟩ := q141
    have fm141 := fM_tr (fM_rf _) fmx141
    refine ev_i2l (k_m_row_0 17 rfl) ?_
    exact ev_lret (k_m_row_0 18 rfl) rfl (⟨_, rfl, rfl, hm141, fm141⟩)
  · refine ev_il (k_m_row_0 2 rfl) rfl ?_
    refine ev_al (k_m_row_0 3 rfl) rfl ?_
    refine ev_get (v := vA (ma 6)) (k_m_row_0 4 rfl) hm.1 rfl ?_
    refine ev_al (k_m_row_0 5 rfl) rfl ?_
    refine ev_get (v := vI (pn : Int)) (k_m_row_0 6 rfl) hm.1 (congrArg (fun z => some (vI z)) hp) ?_
    refine ev_iald (xs := σ.2 6) (k_m_row_0 7 rfl) (mr_a hm 6 rfl) (by omega) (by omega) (show ev _ _ _ _ _ _ _ _ (vI (gd (σ.2 6) (pn)) :: _) _ _ _ from ?_)
    refine ev_ic_ge (k_m_row_0 8 rfl) (fun c142 => ?_) (fun c142 => ?_)
    · refine ev_al (k_m_row_0 14 rfl) rfl ?_
      refine ev_ic (k_m_row_0 15 rfl) ?_
      refine ev_cV (k_m_row_0 16 rfl) rfl v_m_refuse hm.1 rfl (c_m_refuse G ma _ _ hm 1) rfl (le_b rfl) (le_b rfl) (le_b rfl) k_n (k_I fun z143 h143 q143 => ?_)
      obtain ⟨rfl, hm143, fmx143⟩ := q143
      have fm143 := fM_tr (fM_rf _) fmx143
      refine ev_i2l (k_m_row_0 17 rfl) ?_
      exact ev_lret (k_m_row_0 18 rfl) rfl (⟨_, rfl, rfl, hm143, fm143⟩)
    · refine ev_il (k_m_row_0 9 rfl) rfl ?_
      refine ev_ic (k_m_row_0 10 rfl) ?_
      refine ev_ic (k_m_row_0 11 rfl) ?_
      refine ev_cS (k_m_row_0 12 rfl) rfl v_m_in (c_m_in G _ w 0 4) rfl (le_b rfl) (le_b rfl) (le_b rfl) k_n (k_B fun z144 h144 q144 => ?_)
      obtain ⟨rfl, rfl⟩ := q144
      refine ev_b_ne (k_m_row_0 13 rfl) (fun c145 => ?_) (fun c145 => ?_)
      · have j145 := inb_t c145
        exact absurd ⟨⟨c140, c142⟩, c145⟩ hi
      · have j145 := inb_f c145
        refine ev_al (k_m_row_0 14 rfl) rfl ?_
        refine ev_ic (k_m_row_0 15 rfl) ?_
        refine ev_cV (k_m_row_0 16 rfl) rfl v_m_refuse hm.1 rfl (c_m_refuse G ma _ _ hm 1) rfl (le_b rfl) (le_b rfl) (le_b rfl) k_n (k_I fun z146 h146 q146 => ?_)
        obtain ⟨rfl, hm146, fmx146⟩ := q146
        have fm146 := fM_tr (fM_rf _) fmx146
        refine ev_i2l (k_m_row_0 17 rfl) ?_
        exact ev_lret (k_m_row_0 18 rfl) rfl (⟨_, rfl, rfl, hm146, fm146⟩)
def nix (q : Nat → Bool) (n : Nat) (i : Int) : Option Nat := lix (fun k => q k && ((cnt q k : Int) == i)) n
theorem cnt_mono (p : Nat → Bool) {a b : Nat} (h : a ≤ b) : cnt p a ≤ cnt p b := by
  induction b with
  | zero => have : a = 0 := by omega
            subst this; exact Nat.le_refl _
  | succ b ih =>
    by_cases e : a = b + 1
    · subst e; exact Nat.le_refl _
    · have := ih (by omega); rw [cnt_s]; omega
theorem nix_hit {q : Nat → Bool} {n k : Nat} {i : Int} (hk : k < n) (hq : q k = true) (hc : (cnt q k : Int) = i) : nix q n i = some k := by
  unfold nix
  induction n with
  | zero => omega
  | succ n ih =>
    by_cases e : k = n
    · subst e; exact lix_t (by simp [hq, hc])
    · rw [lix_f]
      · exact ih (by omega)
      · have h1 := cnt_mono q (show k + 1 ≤ n by omega)
        rw [cnt_s, if_pos hq] at h1
        have : ¬ ((cnt q n : Int) = i) := by omega
        simp [this]
theorem nix_no {q : Nat → Bool} {k : Nat} {i : Int} (h : nix q k i = none) (hq : ¬ (q k = true ∧ (cnt q k : Int) = i)) : nix q (k + 1) i = none := by
  unfold nix at *
  rw [lix_f, h]
  simpa using hq
def dcl (x : Int) : Int := if x = -2147483648 then 2147483647 else x - 1
theorem rof_lt {σ : sg_T} {e i : Nat} {c : Int} (h : rof σ e c = some i) : i < (gd (σ.2 6) e).toNat ∧ gd (σ.2 7) (40 * e + i) = c := by
  have := lix_lt h
  exact ⟨this.1, by simpa using this.2⟩
theorem rof_b (σ : sg_T) (e : Nat) (c : Int) (h : gd (σ.2 6) e ≤ 40) : -1 ≤ oix (rof σ e c) ∧ oix (rof σ e c) < 40 := by
  cases hq : rof σ e c with
  | none => simp [oix]
  | some i => have := (rof_lt hq).1; simp [oix]; omega
def nq (σ : sg_T) (e : Nat) (c : Int) (k : Nat) : Bool := gd (σ.2 12) k == (e : Int) && gd (σ.2 13) k == c
def ntv (σ : sg_T) (e : Nat) (c i : Int) : Int := match nix (nq σ e c) (σ.1 11).toNat i with
  | none => -1
  | some k => 2 * oix (rof σ e (gd (σ.2 15) k)) + gd (σ.2 14) k
def lkv (σ : sg_T) (a c b i : Int) : Int := match nix (isl σ a c b) (σ.1 16).toNat i with
  | none => 0
  | some k => gd (σ.2 20) k
set_option maxHeartbeats 2000000 in
theorem c_m_noted (G : gt_T) (ma : Nat → Nat) (σ : sg_T) (h : ab_H) (hm : MR h ma σ) (HR : ∀ e, e < 3 → 0 ≤ gd (σ.2 6) e ∧ gd (σ.2 6) e ≤ 40) (pn : Nat) (hp : σ.1 3 = (pn : Int)) (hp2 : pn < 3) (hn0 : σ.1 11 ≤ 20) (hkd : ∀ k : Nat, (k : Int) < σ.1 11 → 0 ≤ gd (σ.2 14) k ∧ gd (σ.2 14) k ≤ 1) (c i : Int) : ct G M_m_noted 1 25 0 0 [vA (ma 0), vL c, vI i] h (rI fun z h' => ∃ t, MR h' ma (sS σ 0 t) ∧ fM h h' ∧ ((rof σ pn c ≠ none ∧ t = 0 ∧ z = ntv σ pn c i) ∨ (rof σ pn c = none ∧ t = 1 ∧ z = 0))) nT := by
  show ev _ _ _ _ _ _ 0 [some (vA (ma 0)), some (vL c), none, some (vI i), none, none, none] [] _ _ _
  have l12 := mr_l hm 12 rfl
  have l13 := mr_l hm 13 rfl
  have l14 := mr_l hm 14 rfl
  have l15 := mr_l hm 15 rfl
  refine ev_loc 3 rfl (fun (oki : inI i) => ?_)
  have loop : ∀ (fu : Nat) (h1 : ab_H) (hm1 : MR h1 ma (sS σ 0 0)) (fm1 : fM h h1) (k : Nat) (left : Int), (rof σ pn c ≠ none) → (k ≤ (σ.1 11).toNat) → (left = i - cnt (nq σ pn c) k ∨ (i < 0 ∧ left = i - cnt (nq σ pn c) k + 4294967296)) → (nix (nq σ pn c) k i = none) → (σ.1 11).toNat - k < fu → ev G M_m_noted 1 25 0 0 29 [some (vA (ma 0)), some (vL c), none, some (vI i), some (vI left), some (vI (k : Int)), none] [] h1 (rI fun z h' => ∃ t, MR h' ma (sS σ 0 t) ∧ fM h h' ∧ ((rof σ pn c ≠ none ∧ t = 0 ∧ z = ntv σ pn c i) ∨ (rof σ pn c = none ∧ t = 1 ∧ z = 0))) nT := by
    intro fu
    induction fu with
    | zero => intros; omega
    | succ fu ih =>
      intro h1 hm1 fm1 k left hrf h1x h2 h3 hn
      refine ev_loc 4 rfl (fun (okl : inI left) => ?_)
      have hc := cnt_le (nq σ pn c) k
      have hro := rof_b σ pn (gd (σ.2 15) k) (HR pn hp2).2
      have hkk := hkd k
      refine ev_ilw (k_m_noted_0 17 rfl) rfl ?_
      refine ev_al (k_m_noted_0 18 rfl) rfl ?_
      refine ev_get (v := vI (σ.1 11)) (k_m_noted_0 19 rfl) hm1.1 rfl ?_
      refine ev_ic_ge (k_m_noted_0 20 rfl) (fun c147 => ?_) (fun c147 => ?_)
      · refine ev_ic (k_m_noted_1 9 rfl) ?_
        exact ev_iret (k_m_noted_1 10 rfl) rfl (⟨_, rfl, 0, hm1, fm1, Or.inl ⟨hrf, rfl, by unfold ntv; rw [show (σ.1 11).toNat = k by omega, h3]⟩⟩)
      · refine ev_al (k_m_noted_0 21 rfl) rfl ?_
        refine ev_get (v := vA (ma 12)) (k_m_noted_0 22 rfl) hm1.1 rfl ?_
        refine ev_ilw (k_m_noted_0 23 rfl) rfl ?_
        refine ev_iald (xs := σ.2 12) (k_m_noted_0 24 rfl) (mr_a hm1 12 rfl) (by omega) (by omega) (show ev _ _ _ _ _ _ _ _ (vI (gd (σ.2 12) (k)) :: _) _ _ _ from ?_)
        refine ev_al (k_m_noted_0 25 rfl) rfl ?_
        refine ev_get (v := vI (pn : Int)) (k_m_noted_0 26 rfl) hm1.1 (congrArg (fun z => some (vI z)) hp) ?_
        refine ev_ic_ne (k_m_noted_0 27 rfl) (fun c148 => ?_) (fun c148 => ?_)
        · refine ev_ic (k_m_noted_0 37 rfl) ?_
          refine ev_isw (k_m_noted_0 38 rfl) (le_b rfl) (show ev _ _ _ _ _ _ 71 [some (vA (ma 0)), some (vL c), none, some (vI i), some (vI left), some (vI (k : Int)), some (vI 0)] _ _ _ _ from ?_)
          refine ev_ilw (k_m_noted_0 39 rfl) rfl ?_
          refine ev_if_eq (k_m_noted_0 40 rfl) (fun _ => ?_) (fun c => absurd c (by decide))
          refine ev_ilw (k_m_noted_0 59 rfl) rfl ?_
          refine ev_ilw (k_m_noted_1 0 rfl) rfl ?_
          refine ev_if_eq (k_m_noted_1 1 rfl) (fun _ => ?_) (fun c => absurd c (by decide))
          refine ev_ic (k_m_noted_1 4 rfl) ?_
          refine ev_isub (k_m_noted_1 5 rfl) (by omega) ?_
          refine ev_isw (k_m_noted_1 6 rfl) (le_b rfl) (show ev _ _ _ _ _ _ 122 [some (vA (ma 0)), some (vL c), none, some (vI i), some (vI (left - 0)), some (vI (k : Int)), some (vI 0)] _ _ _ _ from ?_)
          refine ev_iinc (k_m_noted_1 7 rfl) rfl (by omega) (show ev _ _ _ _ _ _ 125 [some (vA (ma 0)), some (vL c), none, some (vI i), some (vI (left - 0)), some (vI ((k : Int) + 1)), some (vI 0)] _ _ _ _ from ?_)
          refine ev_goto (k_m_noted_1 8 rfl) ?_
          refine ev_dead 6 (show ev _ _ _ _ _ _ 29 [some (vA (ma 0)), some (vL c), none, some (vI i), some (vI (left - 0)), some (vI ((k : Int) + 1)), none] _ _ _ _ from ?_)
          rw [show (k : Int) + 1 = ((k + 1 : Nat) : Int) by omega]
          have hq : nq σ pn c k = false := by simp [nq, c147, c148]
          exact ih _ hm1 fm1 (k + 1) (left - 0) hrf (by omega) (by rw [cnt_f hq]; omega) (nix_no h3 (fun x => by rw [hq] at x; exact absurd x.1 (by decide))) (by omega)
        · refine ev_al (k_m_noted_0 28 rfl) rfl ?_
          refine ev_get (v := vA (ma 13)) (k_m_noted_0 29 rfl) hm1.1 rfl ?_
          refine ev_ilw (k_m_noted_0 30 rfl) rfl ?_
          refine ev_lald (xs := σ.2 13) (k_m_noted_0 31 rfl) (mr_a hm1 13 rfl) (by omega) (by omega) (show ev _ _ _ _ _ _ _ _ (vL (gd (σ.2 13) (k)) :: _) _ _ _ from ?_)
          refine ev_ll (k_m_noted_0 32 rfl) rfl ?_
          refine ev_lc_ne (k_m_noted_0 33 rfl) (k_m_noted_0 34 rfl) (fun c151 => ?_) (fun c151 => ?_)
          · refine ev_ic (k_m_noted_0 37 rfl) ?_
            refine ev_isw (k_m_noted_0 38 rfl) (le_b rfl) (show ev _ _ _ _ _ _ 71 [some (vA (ma 0)), some (vL c), none, some (vI i), some (vI left), some (vI (k : Int)), some (vI 0)] _ _ _ _ from ?_)
            refine ev_ilw (k_m_noted_0 39 rfl) rfl ?_
            refine ev_if_eq (k_m_noted_0 40 rfl) (fun _ => ?_) (fun c => absurd c (by decide))
            refine ev_ilw (k_m_noted_0 59 rfl) rfl ?_
            refine ev_ilw (k_m_noted_1 0 rfl) rfl ?_
            refine ev_if_eq (k_m_noted_1 1 rfl) (fun _ => ?_) (fun c => absurd c (by decide))
            refine ev_ic (k_m_noted_1 4 rfl) ?_
            refine ev_isub (k_m_noted_1 5 rfl) (by omega) ?_
            refine ev_isw (k_m_noted_1 6 rfl) (le_b rfl) (show ev _ _ _ _ _ _ 122 [some (vA (ma 0)), some (vL c), none, some (vI i), some (vI (left - 0)), some (vI (k : Int)), some (vI 0)] _ _ _ _ from ?_)
            refine ev_iinc (k_m_noted_1 7 rfl) rfl (by omega) (show ev _ _ _ _ _ _ 125 [some (vA (ma 0)), some (vL c), none, some (vI i), some (vI (left - 0)), some (vI ((k : Int) + 1)), some (vI 0)] _ _ _ _ from ?_)
            refine ev_goto (k_m_noted_1 8 rfl) ?_
            refine ev_dead 6 (show ev _ _ _ _ _ _ 29 [some (vA (ma 0)), some (vL c), none, some (vI i), some (vI (left - 0)), some (vI ((k : Int) + 1)), none] _ _ _ _ from ?_)
            rw [show (k : Int) + 1 = ((k + 1 : Nat) : Int) by omega]
            have hq : nq σ pn c k = false := by simp [nq, c147, c148, c151]
            exact ih _ hm1 fm1 (k + 1) (left - 0) hrf (by omega) (by rw [cnt_f hq]; omega) (nix_no h3 (fun x => by rw [hq] at x; exact absurd x.1 (by decide))) (by omega)
          · refine ev_ic (k_m_noted_0 35 rfl) ?_
            refine ev_goto (k_m_noted_0 36 rfl) ?_
            refine ev_isw (k_m_noted_0 38 rfl) (le_b rfl) (show ev _ _ _ _ _ _ 71 [some (vA (ma 0)), some (vL c), none, some (vI i), some (vI left), some (vI (k : Int)), some (vI 1)] _ _ _ _ from ?_)
            refine ev_ilw (k_m_noted_0 39 rfl) rfl ?_
            refine ev_if_eq (k_m_noted_0 40 rfl) (fun c => absurd c (by decide)) (fun _ => ?_)
            refine ev_ilw (k_m_noted_0 41 rfl) rfl ?_
            refine ev_if_ne (k_m_noted_0 42 rfl) (fun c155 => ?_) (fun c155 => ?_)
            · refine ev_ilw (k_m_noted_0 59 rfl) rfl ?_
              refine ev_ilw (k_m_noted_1 0 rfl) rfl ?_
              refine ev_if_eq (k_m_noted_1 1 rfl) (fun c => absurd c (by decide)) (fun _ => ?_)
              refine ev_ic (k_m_noted_1 2 rfl) ?_
              refine ev_goto (k_m_noted_1 3 rfl) ?_
              refine ev_isubW (k_m_noted_1 5 rfl) (ev_eqv (congrArg vI (bmod_dec okl)) (show ev _ _ _ _ _ _ _ _ (vI (dcl left) :: _) _ _ _ from ?_))
              refine ev_isw (k_m_noted_1 6 rfl) (le_b rfl) (show ev _ _ _ _ _ _ 122 [some (vA (ma 0)), some (vL c), none, some (vI i), some (vI (dcl left)), some (vI (k : Int)), some (vI 1)] _ _ _ _ from ?_)
              refine ev_iinc (k_m_noted_1 7 rfl) rfl (by omega) (show ev _ _ _ _ _ _ 125 [some (vA (ma 0)), some (vL c), none, some (vI i), some (vI (dcl left)), some (vI ((k : Int) + 1)), some (vI 1)] _ _ _ _ from ?_)
              refine ev_goto (k_m_noted_1 8 rfl) ?_
              refine ev_dead 6 (show ev _ _ _ _ _ _ 29 [some (vA (ma 0)), some (vL c), none, some (vI i), some (vI (dcl left)), some (vI ((k : Int) + 1)), none] _ _ _ _ from ?_)
              rw [show (k : Int) + 1 = ((k + 1 : Nat) : Int) by omega]
              have hq : nq σ pn c k = true := by simp [nq, c147, c148, c151, c155]
              exact ih _ hm1 fm1 (k + 1) (dcl left) hrf (by omega) (by rw [cnt_t hq]; unfold dcl; split <;> omega) (nix_no h3 (fun x => by omega)) (by omega)
            · refine ev_ic (k_m_noted_0 43 rfl) ?_
              refine ev_al (k_m_noted_0 44 rfl) rfl ?_
              refine ev_al (k_m_noted_0 45 rfl) rfl ?_
              refine ev_get (v := vI (pn : Int)) (k_m_noted_0 46 rfl) hm1.1 (congrArg (fun z => some (vI z)) hp) ?_
              refine ev_al (k_m_noted_0 47 rfl) rfl ?_
              refine ev_get (v := vA (ma 15)) (k_m_noted_0 48 rfl) hm1.1 rfl ?_
              refine ev_ilw (k_m_noted_0 49 rfl) rfl ?_
              refine ev_lald (xs := σ.2 15) (k_m_noted_0 50 rfl) (mr_a hm1 15 rfl) (by omega) (by omega) (show ev _ _ _ _ _ _ _ _ (vL (gd (σ.2 15) (k)) :: _) _ _ _ from ?_)
              refine ev_cV (k_m_noted_0 51 rfl) rfl v_m_rowOf hm1.1 rfl (c_m_rowOf G ma _ _ hm1 pn (gd (σ.2 15) (k)) (by (try simp only [sS]); omega) (HR _ (by (try simp only [sS]); omega)).2) rfl (le_b rfl) (le_b rfl) (le_b rfl) k_n (k_I fun z157 h157 q157 => ?_)
              obtain ⟨rfl, (rfl : z157 = oix (rof σ pn (gd (σ.2 15) (k))))⟩ := q157
              refine ev_imul (k_m_noted_0 52 rfl) (by omega) ?_
              refine ev_al (k_m_noted_0 53 rfl) rfl ?_
              refine ev_get (v := vA (ma 14)) (k_m_noted_0 54 rfl) hm1.1 rfl ?_
              refine ev_ilw (k_m_noted_0 55 rfl) rfl ?_
              refine ev_iald (xs := σ.2 14) (k_m_noted_0 56 rfl) (mr_a hm1 14 rfl) (by omega) (by omega) (show ev _ _ _ _ _ _ _ _ (vI (gd (σ.2 14) (k)) :: _) _ _ _ from ?_)
              refine ev_iadd (k_m_noted_0 57 rfl) (by omega) ?_
              exact ev_iret (k_m_noted_0 58 rfl) rfl (⟨_, rfl, 0, hm1, fm1, Or.inl ⟨hrf, rfl, by unfold ntv; rw [nix_hit (k := k) (by omega) (by simp [nq, c147, c148, c151, c155]) (by omega)]⟩⟩)
  refine ev_al (k_m_noted_0 0 rfl) rfl ?_
  refine ev_al (k_m_noted_0 1 rfl) rfl ?_
  refine ev_get (v := vI (pn : Int)) (k_m_noted_0 2 rfl) hm.1 (congrArg (fun z => some (vI z)) hp) ?_
  refine ev_ll (k_m_noted_0 3 rfl) rfl ?_
  refine ev_cV (k_m_noted_0 4 rfl) rfl v_m_rowOf hm.1 rfl (c_m_rowOf G ma _ _ hm pn c (by omega) (HR _ (by omega)).2) rfl (le_b rfl) (le_b rfl) (le_b rfl) k_n (k_I fun z158 h158 q158 => ?_)
  obtain ⟨rfl, rfl⟩ := q158
  refine ev_o_ge (k_m_noted_0 5 rfl) (fun i159 c159 => ?_) (fun c159 => ?_)
  · refine ev_al (k_m_noted_0 10 rfl) rfl ?_
    refine ev_ic (k_m_noted_0 11 rfl) ?_
    refine ev_mput (z := 0) (k_m_noted_0 12 rfl) hm (fM_rf _) (le_b rfl) rfl rfl (fun h160 (hm160 : MR h160 ma (sS σ 0 0)) fm160 => ?_)
    refine ev_il (k_m_noted_0 13 rfl) rfl ?_
    refine ev_isw (k_m_noted_0 14 rfl) (le_b rfl) (show ev _ _ _ _ _ _ 26 [some (vA (ma 0)), some (vL c), none, some (vI i), some (vI i), none, none] _ _ _ _ from ?_)
    refine ev_ic (k_m_noted_0 15 rfl) ?_
    refine ev_isw (k_m_noted_0 16 rfl) (le_b rfl) (show ev _ _ _ _ _ _ 29 [some (vA (ma 0)), some (vL c), none, some (vI i), some (vI i), some (vI 0), none] _ _ _ _ from ?_)
    exact loop ((σ.1 11).toNat + 1) _ hm160 fm160 0 i (by rw [c159]; simp) (by omega) (Or.inl (by simp [cnt])) rfl (by omega)
  · refine ev_al (k_m_noted_0 6 rfl) rfl ?_
    refine ev_ic (k_m_noted_0 7 rfl) ?_
    refine ev_cV (k_m_noted_0 8 rfl) rfl v_m_refuse hm.1 rfl (c_m_refuse G ma _ _ hm 1) rfl (le_b rfl) (le_b rfl) (le_b rfl) k_n (k_I fun z161 h161 q161 => ?_)
    obtain ⟨rfl, hm161, fmx161⟩ := q161
    have fm161 := fM_tr (fM_rf _) fmx161
    exact ev_iret (k_m_noted_0 9 rfl) rfl (⟨_, rfl, 1, hm161, fm161, Or.inr ⟨c159, rfl, rfl⟩⟩)
set_option maxHeartbeats 2000000 in
theorem c_m_linked (G : gt_T) (ma : Nat → Nat) (σ : sg_T) (h : ab_H) (hm : MR h ma σ) (HR : ∀ e, e < 3 → 0 ≤ gd (σ.2 6) e ∧ gd (σ.2 6) e ≤ 40) (hn0 : σ.1 16 ≤ 60) (a c b i : Int) : ct G M_m_linked 2 49 0 0 [vA (ma 0), vI a, vL c, vI b, vI i] h (rL fun z h' => ∃ t, MR h' ma (sS σ 0 t) ∧ fM h h' ∧ ((iso σ a c b = true ∧ t = 0 ∧ z = lkv σ a c b i) ∨ (iso σ a c b = false ∧ t = 1 ∧ z = 0))) nT := by
  show ev _ _ _ _ _ _ 0 [some (vA (ma 0)), some (vI a), some (vL c), none, some (vI b), some (vI i), none, none] [] _ _ _
  have l20 := mr_l hm 20 rfl
  refine ev_loc 5 rfl (fun (oki : inI i) => ?_)
  have loop : ∀ (fu : Nat) (h1 : ab_H) (hm1 : MR h1 ma (sS σ 0 0)) (fm1 : fM h h1) (k : Nat) (left : Int), (iso σ a c b = true) → (k ≤ (σ.1 16).toNat) → (left = i - cnt (isl σ a c b) k ∨ (i < 0 ∧ left = i - cnt (isl σ a c b) k + 4294967296)) → (nix (isl σ a c b) k i = none) → (σ.1 16).toNat - k < fu → ev G M_m_linked 2 49 0 0 30 [some (vA (ma 0)), some (vI a), some (vL c), none, some (vI b), some (vI i), some (vI left), some (vI (k : Int))] [] h1 (rL fun z h' => ∃ t, MR h' ma (sS σ 0 t) ∧ fM h h' ∧ ((iso σ a c b = true ∧ t = 0 ∧ z = lkv σ a c b i) ∨ (iso σ a c b = false ∧ t = 1 ∧ z = 0))) nT := by
    intro fu
    induction fu with
    | zero => intros; omega
    | succ fu ih =>
      intro h1 hm1 fm1 k left hrf h1x h2 h3 hn
      refine ev_loc 6 rfl (fun (okl : inI left) => ?_)
      have hc := cnt_le (isl σ a c b) k
      refine ev_ilw (k_m_linked 18 rfl) rfl ?_
      refine ev_al (k_m_linked 19 rfl) rfl ?_
      refine ev_get (v := vI (σ.1 16)) (k_m_linked 20 rfl) hm1.1 rfl ?_
      refine ev_ic_ge (k_m_linked 21 rfl) (fun c162 => ?_) (fun c162 => ?_)
      · refine ev_lc (k_m_linked 51 rfl) ?_
        exact ev_lret (k_m_linked 52 rfl) rfl (⟨_, rfl, 0, hm1, fm1, Or.inl ⟨hrf, rfl, by unfold lkv; rw [show (σ.1 16).toNat = k by omega, h3]⟩⟩)
      · refine ev_al (k_m_linked 22 rfl) rfl ?_
        refine ev_ilw (k_m_linked 23 rfl) rfl ?_
        refine ev_il (k_m_linked 24 rfl) rfl ?_
        refine ev_ll (k_m_linked 25 rfl) rfl ?_
        refine ev_ilw (k_m_linked 26 rfl) rfl ?_
        refine ev_cV (k_m_linked 27 rfl) rfl v_m_isLink hm1.1 rfl (c_m_isLink G ma _ _ hm1 k a c b (by (try simp only [sS]); omega)) rfl (le_b rfl) (le_b rfl) (le_b rfl) k_n (k_B fun z163 h163 q163 => ?_)
        obtain ⟨rfl, (rfl : z163 = (isl σ a c b k))⟩ := q163
        refine ev_b_eq (k_m_linked 28 rfl) (fun c164 => ?_) (fun c164 => ?_)
        · refine ev_ilw (k_m_linked 36 rfl) rfl ?_
          refine ev_al (k_m_linked 37 rfl) rfl ?_
          refine ev_ilw (k_m_linked 38 rfl) rfl ?_
          refine ev_il (k_m_linked 39 rfl) rfl ?_
          refine ev_ll (k_m_linked 40 rfl) rfl ?_
          refine ev_ilw (k_m_linked 41 rfl) rfl ?_
          refine ev_cV (k_m_linked 42 rfl) rfl v_m_isLink hm1.1 rfl (c_m_isLink G ma _ _ hm1 k a c b (by (try simp only [sS]); omega)) rfl (le_b rfl) (le_b rfl) (le_b rfl) k_n (k_B fun z165 h165 q165 => ?_)
          obtain ⟨rfl, (rfl : z165 = (isl σ a c b k))⟩ := q165
          refine ev_b_eq (k_m_linked 43 rfl) (fun _ => ?_) (fun c => absurd (c164.symm.trans c) (by decide))
          refine ev_ic (k_m_linked 46 rfl) ?_
          refine ev_isub (k_m_linked 47 rfl) (by omega) ?_
          refine ev_isw (k_m_linked 48 rfl) (le_b rfl) (show ev _ _ _ _ _ _ 88 [some (vA (ma 0)), some (vI a), some (vL c), none, some (vI b), some (vI i), some (vI (left - 0)), some (vI (k : Int))] _ _ _ _ from ?_)
          refine ev_iinc (k_m_linked 49 rfl) rfl (by omega) (show ev _ _ _ _ _ _ 91 [some (vA (ma 0)), some (vI a), some (vL c), none, some (vI b), some (vI i), some (vI (left - 0)), some (vI ((k : Int) + 1))] _ _ _ _ from ?_)
          refine ev_goto (k_m_linked 50 rfl) ?_
          rw [show (k : Int) + 1 = ((k + 1 : Nat) : Int) by omega]
          have hq : isl σ a c b k = false := by simp [c162, c164]
          exact ih _ hm1 fm1 (k + 1) (left - 0) hrf (by omega) (by rw [cnt_f hq]; omega) (nix_no h3 (fun x => by rw [hq] at x; exact absurd x.1 (by decide))) (by omega)
        · refine ev_ilw (k_m_linked 29 rfl) rfl ?_
          refine ev_if_ne (k_m_linked 30 rfl) (fun c167 => ?_) (fun c167 => ?_)
          · refine ev_ilw (k_m_linked 36 rfl) rfl ?_
            refine ev_al (k_m_linked 37 rfl) rfl ?_
            refine ev_ilw (k_m_linked 38 rfl) rfl ?_
            refine ev_il (k_m_linked 39 rfl) rfl ?_
            refine ev_ll (k_m_linked 40 rfl) rfl ?_
            refine ev_ilw (k_m_linked 41 rfl) rfl ?_
            refine ev_cV (k_m_linked 42 rfl) rfl v_m_isLink hm1.1 rfl (c_m_isLink G ma _ _ hm1 k a c b (by (try simp only [sS]); omega)) rfl (le_b rfl) (le_b rfl) (le_b rfl) k_n (k_B fun z168 h168 q168 => ?_)
            obtain ⟨rfl, (rfl : z168 = (isl σ a c b k))⟩ := q168
            refine ev_b_eq (k_m_linked 43 rfl) (fun c => absurd (c164.symm.trans c) (by decide)) (fun _ => ?_)
            refine ev_ic (k_m_linked 44 rfl) ?_
            refine ev_goto (k_m_linked 45 rfl) ?_
            refine ev_isubW (k_m_linked 47 rfl) (ev_eqv (congrArg vI (bmod_dec okl)) (show ev _ _ _ _ _ _ _ _ (vI (dcl left) :: _) _ _ _ from ?_))
            refine ev_isw (k_m_linked 48 rfl) (le_b rfl) (show ev _ _ _ _ _ _ 88 [some (vA (ma 0)), some (vI a), some (vL c), none, some (vI b), some (vI i), some (vI (dcl left)), some (vI (k : Int))] _ _ _ _ from ?_)
            refine ev_iinc (k_m_linked 49 rfl) rfl (by omega) (show ev _ _ _ _ _ _ 91 [some (vA (ma 0)), some (vI a), some (vL c), none, some (vI b), some (vI i), some (vI (dcl left)), some (vI ((k : Int) + 1))] _ _ _ _ from ?_)
            refine ev_goto (k_m_linked 50 rfl) ?_
            rw [show (k : Int) + 1 = ((k + 1 : Nat) : Int) by omega]
            have hq : isl σ a c b k = true := by simp [c162, c164, c167]
            exact ih _ hm1 fm1 (k + 1) (dcl left) hrf (by omega) (by rw [cnt_t hq]; unfold dcl; split <;> omega) (nix_no h3 (fun x => by omega)) (by omega)
          · refine ev_al (k_m_linked 31 rfl) rfl ?_
            refine ev_get (v := vA (ma 20)) (k_m_linked 32 rfl) hm1.1 rfl ?_
            refine ev_ilw (k_m_linked 33 rfl) rfl ?_
            refine ev_lald (xs := σ.2 20) (k_m_linked 34 rfl) (mr_a hm1 20 rfl) (by omega) (by omega) (show ev _ _ _ _ _ _ _ _ (vL (gd (σ.2 20) (k)) :: _) _ _ _ from ?_)
            exact ev_lret (k_m_linked 35 rfl) rfl (⟨_, rfl, 0, hm1, fm1, Or.inl ⟨hrf, rfl, by unfold lkv; rw [nix_hit (k := k) (by omega) (by assumption) (by omega)]⟩⟩)
  refine ev_al (k_m_linked 0 rfl) rfl ?_
  refine ev_il (k_m_linked 1 rfl) rfl ?_
  refine ev_ll (k_m_linked 2 rfl) rfl ?_
  refine ev_ilw (k_m_linked 3 rfl) rfl ?_
  refine ev_cV (k_m_linked 4 rfl) rfl v_m_isOf hm.1 rfl (c_m_isOf G ma _ _ hm HR a c b) rfl (le_b rfl) (le_b rfl) (le_b rfl) k_n (k_B fun z170 h170 q170 => ?_)
  obtain ⟨rfl, rfl⟩ := q170
  refine ev_b_ne (k_m_linked 5 rfl) (fun c171 => ?_) (fun c171 => ?_)
  · refine ev_al (k_m_linked 11 rfl) rfl ?_
    refine ev_ic (k_m_linked 12 rfl) ?_
    refine ev_mput (z := 0) (k_m_linked 13 rfl) hm (fM_rf _) (le_b rfl) rfl rfl (fun h172 (hm172 : MR h172 ma (sS σ 0 0)) fm172 => ?_)
    refine ev_ilw (k_m_linked 14 rfl) rfl ?_
    refine ev_isw (k_m_linked 15 rfl) (le_b rfl) (show ev _ _ _ _ _ _ 27 [some (vA (ma 0)), some (vI a), some (vL c), none, some (vI b), some (vI i), some (vI i), none] _ _ _ _ from ?_)
    refine ev_ic (k_m_linked 16 rfl) ?_
    refine ev_isw (k_m_linked 17 rfl) (le_b rfl) (show ev _ _ _ _ _ _ 30 [some (vA (ma 0)), some (vI a), some (vL c), none, some (vI b), some (vI i), some (vI i), some (vI 0)] _ _ _ _ from ?_)
    exact loop ((σ.1 16).toNat + 1) _ hm172 fm172 0 i c171 (by omega) (Or.inl (by simp [cnt])) rfl (by omega)
  · refine ev_al (k_m_linked 6 rfl) rfl ?_
    refine ev_ic (k_m_linked 7 rfl) ?_
    refine ev_cV (k_m_linked 8 rfl) rfl v_m_refuse hm.1 rfl (c_m_refuse G ma _ _ hm 1) rfl (le_b rfl) (le_b rfl) (le_b rfl) k_n (k_I fun z173 h173 q173 => ?_)
    obtain ⟨rfl, hm173, fmx173⟩ := q173
    have fm173 := fM_tr (fM_rf _) fmx173
    refine ev_i2l (k_m_linked 9 rfl) ?_
    exact ev_lret (k_m_linked 10 rfl) rfl (⟨_, rfl, 1, hm173, fm173, Or.inr ⟨c171, rfl, rfl⟩⟩)
def shr (σ : sg_T) (a c b : Int) (k : Nat) : Bool := isl σ a c b k && decide (1 < lto σ a b (gd (σ.2 20) k))
def bcm (σ : sg_T) (a c b : Int) : Int := if lof σ a c b = 0 then 0 else if lof σ a c b = 1 then (if anb (shr σ a c b) (σ.1 16).toNat then 3 else 1) else if anb (shr σ a c b) (σ.1 16).toNat then 4 else 2
set_option maxHeartbeats 2000000 in
theorem c_m_became (G : gt_T) (ma : Nat → Nat) (σ : sg_T) (h : ab_H) (hm : MR h ma σ) (HR : ∀ e, e < 3 → 0 ≤ gd (σ.2 6) e ∧ gd (σ.2 6) e ≤ 40) (hn0 : σ.1 16 ≤ 60) (a c b : Int) : ct G M_m_became 2 51 0 0 [vA (ma 0), vI a, vL c, vI b] h (rI fun z h' => ∃ t, MR h' ma (sS σ 0 t) ∧ fM h h' ∧ ((iso σ a c b = true ∧ t = 0 ∧ z = bcm σ a c b) ∨ (iso σ a c b = false ∧ t = 1 ∧ z = 0))) nT := by
  show ev _ _ _ _ _ _ 0 [some (vA (ma 0)), some (vI a), some (vL c), none, some (vI b), none, none, none] [] _ _ _
  have l20 := mr_l hm 20 rfl
  have loop : ∀ (fu : Nat) (h1 : ab_H) (hm1 : MR h1 ma (sS σ 0 0)) (fm1 : fM h h1) (k : Nat) (v : Bool), (iso σ a c b = true) → (k ≤ (σ.1 16).toNat) → (v = anb (shr σ a c b) k) → (σ.1 16).toNat - k < fu → ev G M_m_became 2 51 0 0 38 [some (vA (ma 0)), some (vI a), some (vL c), none, some (vI b), some (vI ((lof σ a c b : Nat) : Int)), some (vI (bi v)), some (vI (k : Int))] [] h1 (rI fun z h' => ∃ t, MR h' ma (sS σ 0 t) ∧ fM h h' ∧ ((iso σ a c b = true ∧ t = 0 ∧ z = bcm σ a c b) ∨ (iso σ a c b = false ∧ t = 1 ∧ z = 0))) nT := by
    intro fu
    induction fu with
    | zero => intros; omega
    | succ fu ih =>
      intro h1 hm1 fm1 k v hrf h1x h2 hn
      refine ev_ilw (k_m_became_0 23 rfl) rfl ?_
      refine ev_al (k_m_became_0 24 rfl) rfl ?_
      refine ev_get (v := vI (σ.1 16)) (k_m_became_0 25 rfl) hm1.1 rfl ?_
      refine ev_ic_ge (k_m_became_0 26 rfl) (fun c174 => ?_) (fun c174 => ?_)
      · refine ev_ilw (k_m_became_0 52 rfl) rfl ?_
        refine ev_if_ne (k_m_became_0 53 rfl) (fun c175 => ?_) (fun c175 => ?_)
        · refine ev_ilw (k_m_became_0 56 rfl) rfl ?_
          refine ev_ic (k_m_became_0 57 rfl) ?_
          refine ev_ic_ne (k_m_became_0 58 rfl) (fun c176 => ?_) (fun c176 => ?_)
          · refine ev_ilw (k_m_became_1 5 rfl) rfl ?_
            refine ev_b_eq (k_m_became_1 6 rfl) (fun c177 => ?_) (fun c177 => ?_)
            · refine ev_ic (k_m_became_1 9 rfl) ?_
              exact ev_iret (k_m_became_1 10 rfl) rfl (⟨_, rfl, 0, hm1, fm1, Or.inl ⟨hrf, rfl, by unfold bcm; rw [show (σ.1 16).toNat = k by omega]; rw [← h2]; first | rw [if_pos (by omega)] | (rw [if_neg (by omega), if_pos (by omega), c177]; rfl) | (rw [if_neg (by omega), if_neg (by omega), c177]; rfl)⟩⟩)
            · refine ev_ic (k_m_became_1 7 rfl) ?_
              refine ev_goto (k_m_became_1 8 rfl) ?_
              exact ev_iret (k_m_became_1 10 rfl) rfl (⟨_, rfl, 0, hm1, fm1, Or.inl ⟨hrf, rfl, by unfold bcm; rw [show (σ.1 16).toNat = k by omega]; rw [← h2]; first | rw [if_pos (by omega)] | (rw [if_neg (by omega), if_pos (by omega), c177]; rfl) | (rw [if_neg (by omega), if_neg (by omega), c177]; rfl)⟩⟩)
          · refine ev_ilw (k_m_became_0 59 rfl) rfl ?_
            refine ev_b_eq (k_m_became_1 0 rfl) (fun c178 => ?_) (fun c178 => ?_)
            · refine ev_ic (k_m_became_1 3 rfl) ?_
              refine ev_goto (k_m_became_1 4 rfl) ?_
              exact ev_iret (k_m_became_1 10 rfl) rfl (⟨_, rfl, 0, hm1, fm1, Or.inl ⟨hrf, rfl, by unfold bcm; rw [show (σ.1 16).toNat = k by omega]; rw [← h2]; first | rw [if_pos (by omega)] | (rw [if_neg (by omega), if_pos (by omega), c178]; rfl) | (rw [if_neg (by omega), if_neg (by omega), c178]; rfl)⟩⟩)
            · refine ev_ic (k_m_became_1 1 rfl) ?_
              refine ev_goto (k_m_became_1 2 rfl) ?_
              exact ev_iret (k_m_became_1 10 rfl) rfl (⟨_, rfl, 0, hm1, fm1, Or.inl ⟨hrf, rfl, by unfold bcm; rw [show (σ.1 16).toNat = k by omega]; rw [← h2]; first | rw [if_pos (by omega)] | (rw [if_neg (by omega), if_pos (by omega), c178]; rfl) | (rw [if_neg (by omega), if_neg (by omega), c178]; rfl)⟩⟩)
        · refine ev_ic (k_m_became_0 54 rfl) ?_
          refine ev_goto (k_m_became_0 55 rfl) ?_
          exact ev_iret (k_m_became_1 10 rfl) rfl (⟨_, rfl, 0, hm1, fm1, Or.inl ⟨hrf, rfl, by unfold bcm; rw [show (σ.1 16).toNat = k by omega]; rw [← h2]; first | rw [if_pos (by omega)] | (rw [if_neg (by omega), if_pos (by omega), c175]; rfl) | (rw [if_neg (by omega), if_neg (by omega), c175]; rfl)⟩⟩)
      · refine ev_ilw (k_m_became_0 27 rfl) rfl ?_
        refine ev_b_ne (k_m_became_0 28 rfl) (fun c179 => ?_) (fun c179 => ?_)
        · refine ev_ic (k_m_became_0 46 rfl) ?_
          refine ev_goto (k_m_became_0 47 rfl) ?_
          refine ev_isw (k_m_became_0 49 rfl) (le_b rfl) (show ev _ _ _ _ _ _ 90 [some (vA (ma 0)), some (vI a), some (vL c), none, some (vI b), some (vI ((lof σ a c b : Nat) : Int)), some (vI 1), some (vI (k : Int))] _ _ _ _ from ?_)
          refine ev_iinc (k_m_became_0 50 rfl) rfl (by omega) (show ev _ _ _ _ _ _ 93 [some (vA (ma 0)), some (vI a), some (vL c), none, some (vI b), some (vI ((lof σ a c b : Nat) : Int)), some (vI 1), some (vI ((k : Int) + 1))] _ _ _ _ from ?_)
          refine ev_goto (k_m_became_0 51 rfl) ?_
          rw [show (k : Int) + 1 = ((k + 1 : Nat) : Int) by omega]
          exact ih _ hm1 fm1 (k + 1) true hrf (by omega) (by rw [anb_s, ← h2]; simp [shr, c174, c179]; try omega) (by omega)
        · refine ev_al (k_m_became_0 29 rfl) rfl ?_
          refine ev_ilw (k_m_became_0 30 rfl) rfl ?_
          refine ev_il (k_m_became_0 31 rfl) rfl ?_
          refine ev_ll (k_m_became_0 32 rfl) rfl ?_
          refine ev_ilw (k_m_became_0 33 rfl) rfl ?_
          refine ev_cV (k_m_became_0 34 rfl) rfl v_m_isLink hm1.1 rfl (c_m_isLink G ma _ _ hm1 k a c b (by (try simp only [sS]); omega)) rfl (le_b rfl) (le_b rfl) (le_b rfl) k_n (k_B fun z180 h180 q180 => ?_)
          obtain ⟨rfl, (rfl : z180 = (isl σ a c b k))⟩ := q180
          refine ev_b_eq (k_m_became_0 35 rfl) (fun c181 => ?_) (fun c181 => ?_)
          · refine ev_ic (k_m_became_0 48 rfl) ?_
            refine ev_isw (k_m_became_0 49 rfl) (le_b rfl) (show ev _ _ _ _ _ _ 90 [some (vA (ma 0)), some (vI a), some (vL c), none, some (vI b), some (vI ((lof σ a c b : Nat) : Int)), some (vI 0), some (vI (k : Int))] _ _ _ _ from ?_)
            refine ev_iinc (k_m_became_0 50 rfl) rfl (by omega) (show ev _ _ _ _ _ _ 93 [some (vA (ma 0)), some (vI a), some (vL c), none, some (vI b), some (vI ((lof σ a c b : Nat) : Int)), some (vI 0), some (vI ((k : Int) + 1))] _ _ _ _ from ?_)
            refine ev_goto (k_m_became_0 51 rfl) ?_
            rw [show (k : Int) + 1 = ((k + 1 : Nat) : Int) by omega]
            exact ih _ hm1 fm1 (k + 1) false hrf (by omega) (by rw [anb_s, ← h2]; simp [shr, c174, c179, c181]; try omega) (by omega)
          · refine ev_al (k_m_became_0 36 rfl) rfl ?_
            refine ev_il (k_m_became_0 37 rfl) rfl ?_
            refine ev_ilw (k_m_became_0 38 rfl) rfl ?_
            refine ev_al (k_m_became_0 39 rfl) rfl ?_
            refine ev_get (v := vA (ma 20)) (k_m_became_0 40 rfl) hm1.1 rfl ?_
            refine ev_ilw (k_m_became_0 41 rfl) rfl ?_
            refine ev_lald (xs := σ.2 20) (k_m_became_0 42 rfl) (mr_a hm1 20 rfl) (by omega) (by omega) (show ev _ _ _ _ _ _ _ _ (vL (gd (σ.2 20) (k)) :: _) _ _ _ from ?_)
            refine ev_cV (k_m_became_0 43 rfl) rfl v_m_linksTo hm1.1 rfl (c_m_linksTo G ma _ _ hm1 a b (gd (σ.2 20) (k)) (by (try simp only [sS]); omega)) rfl (le_b rfl) (le_b rfl) (le_b rfl) k_n (k_I fun z182 h182 q182 => ?_)
            obtain ⟨rfl, (rfl : z182 = ((lto σ a b (gd (σ.2 20) (k)) : Nat) : Int))⟩ := q182
            refine ev_ic (k_m_became_0 44 rfl) ?_
            refine ev_ic_le (k_m_became_0 45 rfl) (fun c183 => ?_) (fun c183 => ?_)
            · refine ev_ic (k_m_became_0 48 rfl) ?_
              refine ev_isw (k_m_became_0 49 rfl) (le_b rfl) (show ev _ _ _ _ _ _ 90 [some (vA (ma 0)), some (vI a), some (vL c), none, some (vI b), some (vI ((lof σ a c b : Nat) : Int)), some (vI 0), some (vI (k : Int))] _ _ _ _ from ?_)
              refine ev_iinc (k_m_became_0 50 rfl) rfl (by omega) (show ev _ _ _ _ _ _ 93 [some (vA (ma 0)), some (vI a), some (vL c), none, some (vI b), some (vI ((lof σ a c b : Nat) : Int)), some (vI 0), some (vI ((k : Int) + 1))] _ _ _ _ from ?_)
              refine ev_goto (k_m_became_0 51 rfl) ?_
              rw [show (k : Int) + 1 = ((k + 1 : Nat) : Int) by omega]
              exact ih _ hm1 fm1 (k + 1) false hrf (by omega) (by rw [anb_s, ← h2]; simp [shr, c174, c179, c181, c183]; try omega) (by omega)
            · refine ev_ic (k_m_became_0 46 rfl) ?_
              refine ev_goto (k_m_became_0 47 rfl) ?_
              refine ev_isw (k_m_became_0 49 rfl) (le_b rfl) (show ev _ _ _ _ _ _ 90 [some (vA (ma 0)), some (vI a), some (vL c), none, some (vI b), some (vI ((lof σ a c b : Nat) : Int)), some (vI 1), some (vI (k : Int))] _ _ _ _ from ?_)
              refine ev_iinc (k_m_became_0 50 rfl) rfl (by omega) (show ev _ _ _ _ _ _ 93 [some (vA (ma 0)), some (vI a), some (vL c), none, some (vI b), some (vI ((lof σ a c b : Nat) : Int)), some (vI 1), some (vI ((k : Int) + 1))] _ _ _ _ from ?_)
              refine ev_goto (k_m_became_0 51 rfl) ?_
              rw [show (k : Int) + 1 = ((k + 1 : Nat) : Int) by omega]
              exact ih _ hm1 fm1 (k + 1) true hrf (by omega) (by rw [anb_s, ← h2]; simp [shr, c174, c179, c181, c183]; try omega) (by omega)
  refine ev_al (k_m_became_0 0 rfl) rfl ?_
  refine ev_il (k_m_became_0 1 rfl) rfl ?_
  refine ev_ll (k_m_became_0 2 rfl) rfl ?_
  refine ev_ilw (k_m_became_0 3 rfl) rfl ?_
  refine ev_cV (k_m_became_0 4 rfl) rfl v_m_isOf hm.1 rfl (c_m_isOf G ma _ _ hm HR a c b) rfl (le_b rfl) (le_b rfl) (le_b rfl) k_n (k_B fun z184 h184 q184 => ?_)
  obtain ⟨rfl, rfl⟩ := q184
  refine ev_b_ne (k_m_became_0 5 rfl) (fun c185 => ?_) (fun c185 => ?_)
  · refine ev_al (k_m_became_0 10 rfl) rfl ?_
    refine ev_ic (k_m_became_0 11 rfl) ?_
    refine ev_mput (z := 0) (k_m_became_0 12 rfl) hm (fM_rf _) (le_b rfl) rfl rfl (fun h186 (hm186 : MR h186 ma (sS σ 0 0)) fm186 => ?_)
    refine ev_al (k_m_became_0 13 rfl) rfl ?_
    refine ev_il (k_m_became_0 14 rfl) rfl ?_
    refine ev_ll (k_m_became_0 15 rfl) rfl ?_
    refine ev_ilw (k_m_became_0 16 rfl) rfl ?_
    refine ev_cV (k_m_became_0 17 rfl) rfl v_m_linksOf hm186.1 rfl (c_m_linksOf G ma _ _ hm186 a c b (by (try simp only [sS]); omega)) rfl (le_b rfl) (le_b rfl) (le_b rfl) k_n (k_I fun z187 h187 q187 => ?_)
    obtain ⟨rfl, (rfl : z187 = ((lof σ a c b : Nat) : Int))⟩ := q187
    refine ev_isw (k_m_became_0 18 rfl) (le_b rfl) (show ev _ _ _ _ _ _ 32 [some (vA (ma 0)), some (vI a), some (vL c), none, some (vI b), some (vI ((lof σ a c b : Nat) : Int)), none, none] _ _ _ _ from ?_)
    refine ev_ic (k_m_became_0 19 rfl) ?_
    refine ev_isw (k_m_became_0 20 rfl) (le_b rfl) (show ev _ _ _ _ _ _ 35 [some (vA (ma 0)), some (vI a), some (vL c), none, some (vI b), some (vI ((lof σ a c b : Nat) : Int)), some (vI 0), none] _ _ _ _ from ?_)
    refine ev_ic (k_m_became_0 21 rfl) ?_
    refine ev_isw (k_m_became_0 22 rfl) (le_b rfl) (show ev _ _ _ _ _ _ 38 [some (vA (ma 0)), some (vI a), some (vL c), none, some (vI b), some (vI ((lof σ a c b : Nat) : Int)), some (vI 0), some (vI 0)] _ _ _ _ from ?_)
    exact loop ((σ.1 16).toNat + 1) _ hm186 fm186 0 false c185 (by omega) rfl (by omega)
  · refine ev_al (k_m_became_0 6 rfl) rfl ?_
    refine ev_ic (k_m_became_0 7 rfl) ?_
    refine ev_cV (k_m_became_0 8 rfl) rfl v_m_refuse hm.1 rfl (c_m_refuse G ma _ _ hm 1) rfl (le_b rfl) (le_b rfl) (le_b rfl) k_n (k_I fun z188 h188 q188 => ?_)
    obtain ⟨rfl, hm188, fmx188⟩ := q188
    have fm188 := fM_tr (fM_rf _) fmx188
    exact ev_iret (k_m_became_0 9 rfl) rfl (⟨_, rfl, 1, hm188, fm188, Or.inr ⟨c185, rfl, rfl⟩⟩)
def lsq (σ : sg_T) (a b : Nat) (j : Nat) : Bool := bel σ a (40 * a + j) == 0 && lof σ a (gd (σ.2 7) (40 * a + j)) b == 0
def lsv (σ : sg_T) (a b : Nat) : Nat := cnt (lsq σ a b) (gd (σ.2 6) a).toNat
set_option maxHeartbeats 2000000 in
theorem c_m_lost_ok (G : gt_T) (ma : Nat → Nat) (σ : sg_T) (h : ab_H) (hm : MR h ma σ) (a b : Nat) (HR : ∀ e, e < 3 → 0 ≤ gd (σ.2 6) e ∧ gd (σ.2 6) e ≤ 40) (hd : ∀ j, 40 * a ≤ j → j < 40 * a + (gd (σ.2 6) a).toNat → 0 ≤ gd (σ.2 8) j) (hn0 : σ.1 16 ≤ 60) (ha : a < 3) (hb : b < 3) (hab : a ≠ b) : ct G M_m_lost 2 51 0 0 [vA (ma 0), vI (a : Int), vI (b : Int)] h (rI fun z h' => z = (lsv σ a b : Int) ∧ MR h' ma (sS σ 0 0) ∧ fM h h') nT := by
  show ev _ _ _ _ _ _ 0 [some (vA (ma 0)), some (vI (a : Int)), some (vI (b : Int)), none, none] [] _ _ _
  have l6 := mr_l hm 6 rfl
  have l7 := mr_l hm 7 rfl
  have hre := HR a ha
  have loop : ∀ (fu : Nat) (h1 : ab_H) (hm1 : MR h1 ma (sS σ 0 0)) (fm1 : fM h h1) (k : Nat) (n : Int), (k ≤ (gd (σ.2 6) a).toNat) → (n = (cnt (lsq σ a b) k : Int)) → (gd (σ.2 6) a).toNat - k < fu → ev G M_m_lost 2 51 0 0 38 [some (vA (ma 0)), some (vI (a : Int)), some (vI (b : Int)), some (vI n), some (vI ((40 * a + k : Nat) : Int))] [] h1 (rI fun z h' => z = (lsv σ a b : Int) ∧ MR h' ma (sS σ 0 0) ∧ fM h h') nT := by
    intro fu
    induction fu with
    | zero => intros; omega
    | succ fu ih =>
      intro h1 hm1 fm1 k n h1x h2 hn
      have hc := cnt_le (lsq σ a b) k
      refine ev_ilw (k_m_lost 22 rfl) rfl ?_
      refine ev_bp (k_m_lost 23 rfl) ?_
      refine ev_il (k_m_lost 24 rfl) rfl ?_
      refine ev_imul (k_m_lost 25 rfl) (by omega) ?_
      refine ev_al (k_m_lost 26 rfl) rfl ?_
      refine ev_get (v := vA (ma 6)) (k_m_lost 27 rfl) hm1.1 rfl ?_
      refine ev_il (k_m_lost 28 rfl) rfl ?_
      refine ev_iald (xs := σ.2 6) (k_m_lost 29 rfl) (mr_a hm1 6 rfl) (by omega) (by omega) (show ev _ _ _ _ _ _ _ _ (vI (gd (σ.2 6) (a)) :: _) _ _ _ from ?_)
      refine ev_iadd (k_m_lost 30 rfl) (by omega) ?_
      refine ev_ic_ge (k_m_lost 31 rfl) (fun c189 => ?_) (fun c189 => ?_)
      · refine ev_il (k_m_lost 54 rfl) rfl ?_
        exact ev_iret (k_m_lost 55 rfl) rfl (⟨_, rfl, by rw [h2]; unfold lsv; rw [show (gd (σ.2 6) a).toNat = k by omega], hm1, fm1⟩)
      · refine ev_il (k_m_lost 32 rfl) rfl ?_
        refine ev_al (k_m_lost 33 rfl) rfl ?_
        refine ev_il (k_m_lost 34 rfl) rfl ?_
        refine ev_ilw (k_m_lost 35 rfl) rfl ?_
        refine ev_cV (k_m_lost 36 rfl) rfl v_m_below hm1.1 rfl (c_m_below G ma _ _ hm1 HR a (40 * a + k) (by (try simp only [sS]); omega) (by (try simp only [sS]); omega) (by (try simp only [sS]); omega) hd) rfl (le_b rfl) (le_b rfl) (le_b rfl) k_n (k_I fun z190 h190 q190 => ?_)
        obtain ⟨rfl, (rfl : z190 = ((bel σ a (40 * a + k) : Nat) : Int))⟩ := q190
        refine ev_if_ne (k_m_lost 37 rfl) (fun c191 => ?_) (fun c191 => ?_)
        · refine ev_ic (k_m_lost 49 rfl) ?_
          refine ev_iadd (k_m_lost 50 rfl) (by omega) ?_
          refine ev_is (k_m_lost 51 rfl) (le_b rfl) (show ev _ _ _ _ _ _ 88 [some (vA (ma 0)), some (vI (a : Int)), some (vI (b : Int)), some (vI (n + 0)), some (vI ((40 * a + k : Nat) : Int))] _ _ _ _ from ?_)
          refine ev_iinc (k_m_lost 52 rfl) rfl (by omega) (show ev _ _ _ _ _ _ 91 [some (vA (ma 0)), some (vI (a : Int)), some (vI (b : Int)), some (vI (n + 0)), some (vI (((40 * a + k : Nat) : Int) + 1))] _ _ _ _ from ?_)
          refine ev_goto (k_m_lost 53 rfl) ?_
          have hq : lsq σ a b k = false := by simp [lsq]; intros; omega
          rw [show ((40 * a + k : Nat) : Int) + 1 = ((40 * a + (k + 1) : Nat) : Int) by omega]
          exact ih _ hm1 fm1 (k + 1) _ (by omega) (by rw [cnt_f hq, h2]) (by omega)
        · refine ev_al (k_m_lost 38 rfl) rfl ?_
          refine ev_il (k_m_lost 39 rfl) rfl ?_
          refine ev_al (k_m_lost 40 rfl) rfl ?_
          refine ev_get (v := vA (ma 7)) (k_m_lost 41 rfl) hm1.1 rfl ?_
          refine ev_ilw (k_m_lost 42 rfl) rfl ?_
          refine ev_lald (xs := σ.2 7) (k_m_lost 43 rfl) (mr_a hm1 7 rfl) (by omega) (by omega) (show ev _ _ _ _ _ _ _ _ (vL (gd (σ.2 7) (40 * a + k)) :: _) _ _ _ from ?_)
          refine ev_il (k_m_lost 44 rfl) rfl ?_
          refine ev_cV (k_m_lost 45 rfl) rfl v_m_linksOf hm1.1 rfl (c_m_linksOf G ma _ _ hm1 (a : Int) (gd (σ.2 7) (40 * a + k)) (b : Int) (by (try simp only [sS]); omega)) rfl (le_b rfl) (le_b rfl) (le_b rfl) k_n (k_I fun z192 h192 q192 => ?_)
          obtain ⟨rfl, (rfl : z192 = ((lof σ (a : Int) (gd (σ.2 7) (40 * a + k)) (b : Int) : Nat) : Int))⟩ := q192
          refine ev_if_ne (k_m_lost 46 rfl) (fun c193 => ?_) (fun c193 => ?_)
          · refine ev_ic (k_m_lost 49 rfl) ?_
            refine ev_iadd (k_m_lost 50 rfl) (by omega) ?_
            refine ev_is (k_m_lost 51 rfl) (le_b rfl) (show ev _ _ _ _ _ _ 88 [some (vA (ma 0)), some (vI (a : Int)), some (vI (b : Int)), some (vI (n + 0)), some (vI ((40 * a + k : Nat) : Int))] _ _ _ _ from ?_)
            refine ev_iinc (k_m_lost 52 rfl) rfl (by omega) (show ev _ _ _ _ _ _ 91 [some (vA (ma 0)), some (vI (a : Int)), some (vI (b : Int)), some (vI (n + 0)), some (vI (((40 * a + k : Nat) : Int) + 1))] _ _ _ _ from ?_)
            refine ev_goto (k_m_lost 53 rfl) ?_
            have hq : lsq σ a b k = false := by simp [lsq]; intros; omega
            rw [show ((40 * a + k : Nat) : Int) + 1 = ((40 * a + (k + 1) : Nat) : Int) by omega]
            exact ih _ hm1 fm1 (k + 1) _ (by omega) (by rw [cnt_f hq, h2]) (by omega)
          · refine ev_ic (k_m_lost 47 rfl) ?_
            refine ev_goto (k_m_lost 48 rfl) ?_
            refine ev_iadd (k_m_lost 50 rfl) (by omega) ?_
            refine ev_is (k_m_lost 51 rfl) (le_b rfl) (show ev _ _ _ _ _ _ 88 [some (vA (ma 0)), some (vI (a : Int)), some (vI (b : Int)), some (vI (n + 1)), some (vI ((40 * a + k : Nat) : Int))] _ _ _ _ from ?_)
            refine ev_iinc (k_m_lost 52 rfl) rfl (by omega) (show ev _ _ _ _ _ _ 91 [some (vA (ma 0)), some (vI (a : Int)), some (vI (b : Int)), some (vI (n + 1)), some (vI (((40 * a + k : Nat) : Int) + 1))] _ _ _ _ from ?_)
            refine ev_goto (k_m_lost 53 rfl) ?_
            have hq : lsq σ a b k = true := by simp [lsq]; omega
            rw [show ((40 * a + k : Nat) : Int) + 1 = ((40 * a + (k + 1) : Nat) : Int) by omega]
            exact ih _ hm1 fm1 (k + 1) _ (by omega) (by rw [cnt_t hq, h2]) (by omega)
  refine ev_il (k_m_lost 0 rfl) rfl ?_
  refine ev_cS (k_m_lost 1 rfl) rfl v_m_isEdition (c_m_isEdition G _ (a : Int)) rfl (le_b rfl) (le_b rfl) (le_b rfl) k_n (k_B fun z194 h194 q194 => ?_)
  obtain ⟨rfl, rfl⟩ := q194
  refine ev_b_eq (k_m_lost 2 rfl) (fun c195 => ?_) (fun c195 => ?_)
  · have j195 := inb_f c195
    exfalso; omega
  · have j195 := inb_t c195
    refine ev_il (k_m_lost 3 rfl) rfl ?_
    refine ev_cS (k_m_lost 4 rfl) rfl v_m_isEdition (c_m_isEdition G _ (b : Int)) rfl (le_b rfl) (le_b rfl) (le_b rfl) k_n (k_B fun z196 h196 q196 => ?_)
    obtain ⟨rfl, rfl⟩ := q196
    refine ev_b_eq (k_m_lost 5 rfl) (fun c197 => ?_) (fun c197 => ?_)
    · have j197 := inb_f c197
      exfalso; omega
    · have j197 := inb_t c197
      refine ev_il (k_m_lost 6 rfl) rfl ?_
      refine ev_il (k_m_lost 7 rfl) rfl ?_
      refine ev_ic_ne (k_m_lost 8 rfl) (fun c198 => ?_) (fun c198 => ?_)
      · refine ev_al (k_m_lost 13 rfl) rfl ?_
        refine ev_ic (k_m_lost 14 rfl) ?_
        refine ev_mput (z := 0) (k_m_lost 15 rfl) hm (fM_rf _) (le_b rfl) rfl rfl (fun h199 (hm199 : MR h199 ma (sS σ 0 0)) fm199 => ?_)
        refine ev_ic (k_m_lost 16 rfl) ?_
        refine ev_is (k_m_lost 17 rfl) (le_b rfl) (show ev _ _ _ _ _ _ 32 [some (vA (ma 0)), some (vI (a : Int)), some (vI (b : Int)), some (vI 0), none] _ _ _ _ from ?_)
        refine ev_bp (k_m_lost 18 rfl) ?_
        refine ev_il (k_m_lost 19 rfl) rfl ?_
        refine ev_imul (k_m_lost 20 rfl) (by omega) ?_
        refine ev_isw (k_m_lost 21 rfl) (le_b rfl) (show ev _ _ _ _ _ _ 38 [some (vA (ma 0)), some (vI (a : Int)), some (vI (b : Int)), some (vI 0), some (vI (40 * (a : Int)))] _ _ _ _ from ?_)
        rw [show 40 * (a : Int) = ((40 * a + 0 : Nat) : Int) by omega]
        exact loop ((gd (σ.2 6) a).toNat + 1) _ hm199 fm199 0 0 (by omega) rfl (by omega)
      · exfalso; omega
set_option maxHeartbeats 2000000 in
theorem c_m_lost_bad (G : gt_T) (ma : Nat → Nat) (σ : sg_T) (h : ab_H) (hm : MR h ma σ) (a b : Int) (hx : ¬ (inb a 0 2 = true ∧ inb b 0 2 = true ∧ a ≠ b)) : ct G M_m_lost 2 51 0 0 [vA (ma 0), vI a, vI b] h (rI fun z h' => z = 0 ∧ MR h' ma (sS σ 0 1) ∧ fM h h') nT := by
  show ev _ _ _ _ _ _ 0 [some (vA (ma 0)), some (vI a), some (vI b), none, none] [] _ _ _
  refine ev_il (k_m_lost 0 rfl) rfl ?_
  refine ev_cS (k_m_lost 1 rfl) rfl v_m_isEdition (c_m_isEdition G _ a) rfl (le_b rfl) (le_b rfl) (le_b rfl) k_n (k_B fun z200 h200 q200 => ?_)
  obtain ⟨rfl, rfl⟩ := q200
  refine ev_b_eq (k_m_lost 2 rfl) (fun c201 => ?_) (fun c201 => ?_)
  · have j201 := inb_f c201
    refine ev_al (k_m_lost 9 rfl) rfl ?_
    refine ev_ic (k_m_lost 10 rfl) ?_
    refine ev_cV (k_m_lost 11 rfl) rfl v_m_refuse hm.1 rfl (c_m_refuse G ma _ _ hm 1) rfl (le_b rfl) (le_b rfl) (le_b rfl) k_n (k_I fun z202 h202 q202 => ?_)
    obtain ⟨rfl, hm202, fmx202⟩ := q202
    have fm202 := fM_tr (fM_rf _) fmx202
    exact ev_iret (k_m_lost 12 rfl) rfl (⟨_, rfl, rfl, hm202, fm202⟩)
  · have j201 := inb_t c201
    refine ev_il (k_m_lost 3 rfl) rfl ?_
    refine ev_cS (k_m_lost 4 rfl) rfl v_m_isEdition (c_m_isEdition G _ b) rfl (le_b rfl) (le_b rfl) (le_b rfl) k_n (k_B fun z203 h203 q203 => ?_)
    obtain ⟨rfl, rfl⟩ := q203
    refine ev_b_eq (k_m_lost 5 rfl) (fun c204 => ?_) (fun c204 => ?_)
    · have j204 := inb_f c204
      refine ev_al (k_m_lost 9 rfl) rfl ?_
      refine ev_ic (k_m_lost 10 rfl) ?_
      refine ev_cV (k_m_lost 11 rfl) rfl v_m_refuse hm.1 rfl (c_m_refuse G ma _ _ hm 1) rfl (le_b rfl) (le_b rfl) (le_b rfl) k_n (k_I fun z205 h205 q205 => ?_)
      obtain ⟨rfl, hm205, fmx205⟩ := q205
      have fm205 := fM_tr (fM_rf _) fmx205
      exact ev_iret (k_m_lost 12 rfl) rfl (⟨_, rfl, rfl, hm205, fm205⟩)
    · have j204 := inb_t c204
      refine ev_il (k_m_lost 6 rfl) rfl ?_
      refine ev_il (k_m_lost 7 rfl) rfl ?_
      refine ev_ic_ne (k_m_lost 8 rfl) (fun c206 => ?_) (fun c206 => ?_)
      · exact absurd ⟨c201, c204, c206⟩ hx
      · refine ev_al (k_m_lost 9 rfl) rfl ?_
        refine ev_ic (k_m_lost 10 rfl) ?_
        refine ev_cV (k_m_lost 11 rfl) rfl v_m_refuse hm.1 rfl (c_m_refuse G ma _ _ hm 1) rfl (le_b rfl) (le_b rfl) (le_b rfl) k_n (k_I fun z207 h207 q207 => ?_)
        obtain ⟨rfl, hm207, fmx207⟩ := q207
        have fm207 := fM_tr (fM_rf _) fmx207
        exact ev_iret (k_m_lost 12 rfl) rfl (⟨_, rfl, rfl, hm207, fm207⟩)
def ntd (σ : sg_T) (e n : Nat) (c kd o : Int) : sg_T := sS (sA (sA (sA (sA (sS σ 0 0) 12 ((σ.2 12).set n (e : Int))) 13 ((σ.2 13).set n c)) 14 ((σ.2 14).set n kd)) 15 ((σ.2 15).set n o)) 11 ((n : Int) + 1)
def lkd (σ : sg_T) (n : Nat) (a c b o : Int) : sg_T := sS (sA (sA (sA (sA (sS σ 0 0) 17 ((σ.2 17).set n a)) 18 ((σ.2 18).set n c)) 19 ((σ.2 19).set n b)) 20 ((σ.2 20).set n o)) 16 ((n : Int) + 1)
def nok (σ : sg_T) (e : Nat) (c kd o : Int) : Prop := (rof σ e c).isSome = true ∧ (rof σ e o).isSome = true ∧ c ≠ o ∧ inb kd 0 1 = true
set_option maxHeartbeats 2000000 in
theorem c_m_note (G : gt_T) (ma : Nat → Nat) (σ : sg_T) (h : ab_H) (hm : MR h ma σ) (HR : ∀ e, e < 3 → 0 ≤ gd (σ.2 6) e ∧ gd (σ.2 6) e ≤ 40) (pn : Nat) (hp : σ.1 3 = (pn : Int)) (hp2 : pn < 3) (nn : Nat) (hnn : σ.1 11 = (nn : Int)) (hn0 : nn ≤ 20) (c kd o : Int) : ct G M_m_note 2 53 0 0 [vA (ma 0), vL c, vI kd, vL o] h (rI fun z h' => ∃ σ', MR h' ma σ' ∧ fM h h' ∧ ((¬ nok σ pn c kd o ∧ σ' = sS σ 0 1 ∧ z = 0) ∨ (nok σ pn c kd o ∧ (nn = 20 ∨ hsn σ c kd o = true) ∧ σ' = sS σ 0 2 ∧ z = 0) ∨ (nok σ pn c kd o ∧ ¬ (nn = 20 ∨ hsn σ c kd o = true) ∧ σ' = ntd σ pn nn c kd o ∧ z = (nof (ntd σ pn nn c kd o) (pn : Int) : Int)))) nT := by
  show ev _ _ _ _ _ _ 0 [some (vA (ma 0)), some (vL c), none, some (vI kd), some (vL o), none] [] _ _ _
  have l12 := mr_l hm 12 rfl
  have l13 := mr_l hm 13 rfl
  have l14 := mr_l hm 14 rfl
  have l15 := mr_l hm 15 rfl
  refine ev_al (k_m_note_0 0 rfl) rfl ?_
  refine ev_al (k_m_note_0 1 rfl) rfl ?_
  refine ev_get (v := vI (pn : Int)) (k_m_note_0 2 rfl) hm.1 (congrArg (fun z => some (vI z)) hp) ?_
  refine ev_ll (k_m_note_0 3 rfl) rfl ?_
  refine ev_cV (k_m_note_0 4 rfl) rfl v_m_rowOf hm.1 rfl (c_m_rowOf G ma _ _ hm pn c (by omega) (HR _ (by omega)).2) rfl (le_b rfl) (le_b rfl) (le_b rfl) k_n (k_I fun z208 h208 q208 => ?_)
  obtain ⟨rfl, rfl⟩ := q208
  refine ev_o_lt (k_m_note_0 5 rfl) (fun c209 => ?_) (fun i209 c209 => ?_)
  · refine ev_al (k_m_note_0 21 rfl) rfl ?_
    refine ev_ic (k_m_note_0 22 rfl) ?_
    refine ev_cV (k_m_note_0 23 rfl) rfl v_m_refuse hm.1 rfl (c_m_refuse G ma _ _ hm 1) rfl (le_b rfl) (le_b rfl) (le_b rfl) k_n (k_I fun z210 h210 q210 => ?_)
    obtain ⟨rfl, hm210, fmx210⟩ := q210
    have fm210 := fM_tr (fM_rf _) fmx210
    exact ev_iret (k_m_note_0 24 rfl) rfl (⟨_, rfl, _, hm210, fm210, Or.inl ⟨by simp [nok, c209], rfl, rfl⟩⟩)
  · refine ev_al (k_m_note_0 6 rfl) rfl ?_
    refine ev_al (k_m_note_0 7 rfl) rfl ?_
    refine ev_get (v := vI (pn : Int)) (k_m_note_0 8 rfl) hm.1 (congrArg (fun z => some (vI z)) hp) ?_
    refine ev_llw (k_m_note_0 9 rfl) rfl ?_
    refine ev_cV (k_m_note_0 10 rfl) rfl v_m_rowOf hm.1 rfl (c_m_rowOf G ma _ _ hm pn o (by omega) (HR _ (by omega)).2) rfl (le_b rfl) (le_b rfl) (le_b rfl) k_n (k_I fun z211 h211 q211 => ?_)
    obtain ⟨rfl, rfl⟩ := q211
    refine ev_o_lt (k_m_note_0 11 rfl) (fun c212 => ?_) (fun i212 c212 => ?_)
    · refine ev_al (k_m_note_0 21 rfl) rfl ?_
      refine ev_ic (k_m_note_0 22 rfl) ?_
      refine ev_cV (k_m_note_0 23 rfl) rfl v_m_refuse hm.1 rfl (c_m_refuse G ma _ _ hm 1) rfl (le_b rfl) (le_b rfl) (le_b rfl) k_n (k_I fun z213 h213 q213 => ?_)
      obtain ⟨rfl, hm213, fmx213⟩ := q213
      have fm213 := fM_tr (fM_rf _) fmx213
      exact ev_iret (k_m_note_0 24 rfl) rfl (⟨_, rfl, _, hm213, fm213, Or.inl ⟨by simp [nok, c209, c212], rfl, rfl⟩⟩)
    · refine ev_ll (k_m_note_0 12 rfl) rfl ?_
      refine ev_llw (k_m_note_0 13 rfl) rfl ?_
      refine ev_lc_eq (k_m_note_0 14 rfl) (k_m_note_0 15 rfl) (fun c214 => ?_) (fun c214 => ?_)
      · refine ev_al (k_m_note_0 21 rfl) rfl ?_
        refine ev_ic (k_m_note_0 22 rfl) ?_
        refine ev_cV (k_m_note_0 23 rfl) rfl v_m_refuse hm.1 rfl (c_m_refuse G ma _ _ hm 1) rfl (le_b rfl) (le_b rfl) (le_b rfl) k_n (k_I fun z215 h215 q215 => ?_)
        obtain ⟨rfl, hm215, fmx215⟩ := q215
        have fm215 := fM_tr (fM_rf _) fmx215
        exact ev_iret (k_m_note_0 24 rfl) rfl (⟨_, rfl, _, hm215, fm215, Or.inl ⟨by simp [nok, c209, c212, c214], rfl, rfl⟩⟩)
      · refine ev_il (k_m_note_0 16 rfl) rfl ?_
        refine ev_ic (k_m_note_0 17 rfl) ?_
        refine ev_ic (k_m_note_0 18 rfl) ?_
        refine ev_cS (k_m_note_0 19 rfl) rfl v_m_in (c_m_in G _ kd 0 1) rfl (le_b rfl) (le_b rfl) (le_b rfl) k_n (k_B fun z216 h216 q216 => ?_)
        obtain ⟨rfl, rfl⟩ := q216
        refine ev_b_ne (k_m_note_0 20 rfl) (fun c217 => ?_) (fun c217 => ?_)
        · have j217 := inb_t c217
          refine ev_al (k_m_note_0 25 rfl) rfl ?_
          refine ev_get (v := vI (nn : Int)) (k_m_note_0 26 rfl) hm.1 (congrArg (fun z => some (vI z)) hnn) ?_
          refine ev_bp (k_m_note_0 27 rfl) ?_
          refine ev_ic_eq (k_m_note_0 28 rfl) (fun c218 => ?_) (fun c218 => ?_)
          · refine ev_al (k_m_note_0 35 rfl) rfl ?_
            refine ev_ic (k_m_note_0 36 rfl) ?_
            refine ev_cV (k_m_note_0 37 rfl) rfl v_m_refuse hm.1 rfl (c_m_refuse G ma _ _ hm 2) rfl (le_b rfl) (le_b rfl) (le_b rfl) k_n (k_I fun z219 h219 q219 => ?_)
            obtain ⟨rfl, hm219, fmx219⟩ := q219
            have fm219 := fM_tr (fM_rf _) fmx219
            exact ev_iret (k_m_note_0 38 rfl) rfl (⟨_, rfl, _, hm219, fm219, Or.inr (Or.inl ⟨by simp [nok, c209, c212, c214, c217, c218], by first | (left; omega) | (right; assumption), rfl, rfl⟩)⟩)
          · refine ev_al (k_m_note_0 29 rfl) rfl ?_
            refine ev_ll (k_m_note_0 30 rfl) rfl ?_
            refine ev_il (k_m_note_0 31 rfl) rfl ?_
            refine ev_llw (k_m_note_0 32 rfl) rfl ?_
            refine ev_cV (k_m_note_0 33 rfl) rfl v_m_hasNote hm.1 rfl (c_m_hasNote G ma _ _ hm c kd o (by omega)) rfl (le_b rfl) (le_b rfl) (le_b rfl) k_n (k_B fun z220 h220 q220 => ?_)
            obtain ⟨rfl, rfl⟩ := q220
            refine ev_b_eq (k_m_note_0 34 rfl) (fun c221 => ?_) (fun c221 => ?_)
            · refine ev_al (k_m_note_0 39 rfl) rfl ?_
              refine ev_ic (k_m_note_0 40 rfl) ?_
              refine ev_mput (z := 0) (k_m_note_0 41 rfl) hm (fM_rf _) (le_b rfl) rfl rfl (fun h222 (hm222 : MR h222 ma (sS σ 0 0)) fm222 => ?_)
              refine ev_al (k_m_note_0 42 rfl) rfl ?_
              refine ev_get (v := vA (ma 12)) (k_m_note_0 43 rfl) hm222.1 rfl ?_
              refine ev_al (k_m_note_0 44 rfl) rfl ?_
              refine ev_get (v := vI (nn : Int)) (k_m_note_0 45 rfl) hm222.1 (congrArg (fun z => some (vI z)) hnn) ?_
              refine ev_al (k_m_note_0 46 rfl) rfl ?_
              refine ev_get (v := vI (pn : Int)) (k_m_note_0 47 rfl) hm222.1 (congrArg (fun z => some (vI z)) hp) ?_
              refine ev_mias (iN := (nn)) (k_m_note_0 48 rfl) 12 rfl hm222 fm222 (by omega) (by omega) (fun h223 (hm223 : MR h223 ma (sA (sS σ 0 0) 12 ((σ.2 12).set (nn) (pn : Int)))) fm223 => ?_)
              refine ev_al (k_m_note_0 49 rfl) rfl ?_
              refine ev_get (v := vA (ma 13)) (k_m_note_0 50 rfl) hm223.1 rfl ?_
              refine ev_al (k_m_note_0 51 rfl) rfl ?_
              refine ev_get (v := vI (nn : Int)) (k_m_note_0 52 rfl) hm223.1 (congrArg (fun z => some (vI z)) hnn) ?_
              refine ev_ll (k_m_note_0 53 rfl) rfl ?_
              refine ev_mlas (iN := (nn)) (k_m_note_0 54 rfl) 13 rfl hm223 fm223 (by omega) (by omega) (fun h224 (hm224 : MR h224 ma (sA (sA (sS σ 0 0) 12 ((σ.2 12).set (nn) (pn : Int))) 13 ((σ.2 13).set (nn) c))) fm224 => ?_)
              refine ev_al (k_m_note_0 55 rfl) rfl ?_
              refine ev_get (v := vA (ma 14)) (k_m_note_0 56 rfl) hm224.1 rfl ?_
              refine ev_al (k_m_note_0 57 rfl) rfl ?_
              refine ev_get (v := vI (nn : Int)) (k_m_note_0 58 rfl) hm224.1 (congrArg (fun z => some (vI z)) hnn) ?_
              refine ev_il (k_m_note_0 59 rfl) rfl ?_
              refine ev_mias (iN := (nn)) (k_m_note_1 0 rfl) 14 rfl hm224 fm224 (by omega) (by omega) (fun h225 (hm225 : MR h225 ma (sA (sA (sA (sS σ 0 0) 12 ((σ.2 12).set (nn) (pn : Int))) 13 ((σ.2 13).set (nn) c)) 14 ((σ.2 14).set (nn) kd))) fm225 => ?_)
              refine ev_al (k_m_note_1 1 rfl) rfl ?_
              refine ev_get (v := vA (ma 15)) (k_m_note_1 2 rfl) hm225.1 rfl ?_
              refine ev_al (k_m_note_1 3 rfl) rfl ?_
              refine ev_get (v := vI (nn : Int)) (k_m_note_1 4 rfl) hm225.1 (congrArg (fun z => some (vI z)) hnn) ?_
              refine ev_llw (k_m_note_1 5 rfl) rfl ?_
              refine ev_mlas (iN := (nn)) (k_m_note_1 6 rfl) 15 rfl hm225 fm225 (by omega) (by omega) (fun h226 (hm226 : MR h226 ma (sA (sA (sA (sA (sS σ 0 0) 12 ((σ.2 12).set (nn) (pn : Int))) 13 ((σ.2 13).set (nn) c)) 14 ((σ.2 14).set (nn) kd)) 15 ((σ.2 15).set (nn) o))) fm226 => ?_)
              refine ev_al (k_m_note_1 7 rfl) rfl ?_
              refine ev_dup (k_m_note_1 8 rfl) rfl ?_
              refine ev_get (v := vI (nn : Int)) (k_m_note_1 9 rfl) hm226.1 (congrArg (fun z => some (vI z)) hnn) ?_
              refine ev_ic (k_m_note_1 10 rfl) ?_
              refine ev_iadd (k_m_note_1 11 rfl) (by omega) ?_
              refine ev_mput (z := (nn : Int) + 1) (k_m_note_1 12 rfl) hm226 fm226 (le_b rfl) rfl rfl (fun h227 (hm227 : MR h227 ma (sS (sA (sA (sA (sA (sS σ 0 0) 12 ((σ.2 12).set (nn) (pn : Int))) 13 ((σ.2 13).set (nn) c)) 14 ((σ.2 14).set (nn) kd)) 15 ((σ.2 15).set (nn) o)) 11 ((nn : Int) + 1))) fm227 => ?_)
              refine ev_al (k_m_note_1 13 rfl) rfl ?_
              refine ev_al (k_m_note_1 14 rfl) rfl ?_
              refine ev_get (v := vI (pn : Int)) (k_m_note_1 15 rfl) hm227.1 (congrArg (fun z => some (vI z)) hp) ?_
              refine ev_cV (k_m_note_1 16 rfl) rfl v_m_notesOf hm227.1 rfl (c_m_notesOf G ma _ _ hm227 (pn : Int) (show ((nn : Int) + 1 : Int) ≤ 20 by omega)) rfl (le_b rfl) (le_b rfl) (le_b rfl) k_n (k_I fun z228 h228 q228 => ?_)
              obtain ⟨rfl, (rfl : z228 = ((nof (sS (sA (sA (sA (sA (sS σ 0 0) 12 ((σ.2 12).set (nn) (pn : Int))) 13 ((σ.2 13).set (nn) c)) 14 ((σ.2 14).set (nn) kd)) 15 ((σ.2 15).set (nn) o)) 11 ((nn : Int) + 1)) (pn : Int) : Nat) : Int))⟩ := q228
              exact ev_iret (k_m_note_1 17 rfl) rfl (⟨_, rfl, _, hm227, fm227, Or.inr (Or.inr ⟨by simp [nok, c209, c212, c214, c217, c218, c221], fun x => x.elim (fun y => by omega) (fun y => absurd (y.symm.trans c221) (by decide)), rfl, rfl⟩)⟩)
            · refine ev_al (k_m_note_0 35 rfl) rfl ?_
              refine ev_ic (k_m_note_0 36 rfl) ?_
              refine ev_cV (k_m_note_0 37 rfl) rfl v_m_refuse hm.1 rfl (c_m_refuse G ma _ _ hm 2) rfl (le_b rfl) (le_b rfl) (le_b rfl) k_n (k_I fun z229 h229 q229 => ?_)
              obtain ⟨rfl, hm229, fmx229⟩ := q229
              have fm229 := fM_tr (fM_rf _) fmx229
              exact ev_iret (k_m_note_0 38 rfl) rfl (⟨_, rfl, _, hm229, fm229, Or.inr (Or.inl ⟨by simp [nok, c209, c212, c214, c217, c218, c221], by first | (left; omega) | (right; assumption), rfl, rfl⟩)⟩)
        · have j217 := inb_f c217
          refine ev_al (k_m_note_0 21 rfl) rfl ?_
          refine ev_ic (k_m_note_0 22 rfl) ?_
          refine ev_cV (k_m_note_0 23 rfl) rfl v_m_refuse hm.1 rfl (c_m_refuse G ma _ _ hm 1) rfl (le_b rfl) (le_b rfl) (le_b rfl) k_n (k_I fun z230 h230 q230 => ?_)
          obtain ⟨rfl, hm230, fmx230⟩ := q230
          have fm230 := fM_tr (fM_rf _) fmx230
          exact ev_iret (k_m_note_0 24 rfl) rfl (⟨_, rfl, _, hm230, fm230, Or.inl ⟨by simp [nok, c209, c212, c214, c217], rfl, rfl⟩⟩)
def lok (σ : sg_T) (a c b o : Int) : Bool := inb a 0 2 && inb b 0 2 && decide (a ≠ b) && (rof σ a.toNat c).isSome && (rof σ b.toNat o).isSome && decide (σ.1 16 ≠ 60) && !anb (fun k => isl σ a c b k && gd (σ.2 20) k == o) (σ.1 16).toNat
theorem anb_of {p : Nat → Bool} {n k : Nat} (hk : k < n) (h : p k = true) : anb p n = true := by
  induction n with
  | zero => omega
  | succ n ih =>
    rw [anb_s]
    by_cases e : k = n
    · subst e; rw [h]; simp
    · rw [ih (by omega)]; rfl
set_option maxHeartbeats 2000000 in
theorem c_m_link (G : gt_T) (ma : Nat → Nat) (σ : sg_T) (h : ab_H) (hm : MR h ma σ) (HR : ∀ e, e < 3 → 0 ≤ gd (σ.2 6) e ∧ gd (σ.2 6) e ≤ 40) (nn : Nat) (hnn : σ.1 16 = (nn : Int)) (hn0 : nn ≤ 60) (a c b o : Int) : ct G M_m_link 1 25 0 0 [vA (ma 0), vI a, vL c, vI b, vL o] h (rB fun z h' => z = lok σ a c b o ∧ MR h' ma (if z then lkd σ nn a c b o else sS σ 0 0) ∧ fM h h') nT := by
  show ev _ _ _ _ _ _ 0 [some (vA (ma 0)), some (vI a), some (vL c), none, some (vI b), some (vL o), none, none] [] _ _ _
  have l17 := mr_l hm 17 rfl
  have l18 := mr_l hm 18 rfl
  have l19 := mr_l hm 19 rfl
  have l20 := mr_l hm 20 rfl
  have loop : ∀ (fu : Nat) (h1 : ab_H) (hm1 : MR h1 ma (sS σ 0 0)) (fm1 : fM h h1) (k : Nat), (inb a 0 2 = true ∧ inb b 0 2 = true ∧ a ≠ b ∧ (rof σ a.toNat c).isSome = true ∧ (rof σ b.toNat o).isSome = true ∧ nn ≠ 60) → (k ≤ nn) → (anb (fun k => isl σ a c b k && gd (σ.2 20) k == o) k = false) → nn - k < fu → ev G M_m_link 1 25 0 0 83 [some (vA (ma 0)), some (vI a), some (vL c), none, some (vI b), some (vL o), none, some (vI (k : Int))] [] h1 (rB fun z h' => z = lok σ a c b o ∧ MR h' ma (if z then lkd σ nn a c b o else sS σ 0 0) ∧ fM h h') nT := by
    intro fu
    induction fu with
    | zero => intros; omega
    | succ fu ih =>
      intro h1 hm1 fm1 k pr h1x h2 hn
      refine ev_ilw (k_m_link_0 40 rfl) rfl ?_
      refine ev_al (k_m_link_0 41 rfl) rfl ?_
      refine ev_get (v := vI (nn : Int)) (k_m_link_0 42 rfl) hm1.1 (congrArg (fun z => some (vI z)) hnn) ?_
      refine ev_ic_ge (k_m_link_0 43 rfl) (fun c231 => ?_) (fun c231 => ?_)
      · refine ev_al (k_m_link_1 2 rfl) rfl ?_
        refine ev_get (v := vA (ma 17)) (k_m_link_1 3 rfl) hm1.1 rfl ?_
        refine ev_al (k_m_link_1 4 rfl) rfl ?_
        refine ev_get (v := vI (nn : Int)) (k_m_link_1 5 rfl) hm1.1 (congrArg (fun z => some (vI z)) hnn) ?_
        refine ev_il (k_m_link_1 6 rfl) rfl ?_
        refine ev_mias (iN := (nn)) (k_m_link_1 7 rfl) 17 rfl hm1 fm1 (by omega) (by omega) (fun h232 (hm232 : MR h232 ma (sA (sS σ 0 0) 17 ((σ.2 17).set (nn) a))) fm232 => ?_)
        refine ev_al (k_m_link_1 8 rfl) rfl ?_
        refine ev_get (v := vA (ma 18)) (k_m_link_1 9 rfl) hm232.1 rfl ?_
        refine ev_al (k_m_link_1 10 rfl) rfl ?_
        refine ev_get (v := vI (nn : Int)) (k_m_link_1 11 rfl) hm232.1 (congrArg (fun z => some (vI z)) hnn) ?_
        refine ev_ll (k_m_link_1 12 rfl) rfl ?_
        refine ev_mlas (iN := (nn)) (k_m_link_1 13 rfl) 18 rfl hm232 fm232 (by omega) (by omega) (fun h233 (hm233 : MR h233 ma (sA (sA (sS σ 0 0) 17 ((σ.2 17).set (nn) a)) 18 ((σ.2 18).set (nn) c))) fm233 => ?_)
        refine ev_al (k_m_link_1 14 rfl) rfl ?_
        refine ev_get (v := vA (ma 19)) (k_m_link_1 15 rfl) hm233.1 rfl ?_
        refine ev_al (k_m_link_1 16 rfl) rfl ?_
        refine ev_get (v := vI (nn : Int)) (k_m_link_1 17 rfl) hm233.1 (congrArg (fun z => some (vI z)) hnn) ?_
        refine ev_ilw (k_m_link_1 18 rfl) rfl ?_
        refine ev_mias (iN := (nn)) (k_m_link_1 19 rfl) 19 rfl hm233 fm233 (by omega) (by omega) (fun h234 (hm234 : MR h234 ma (sA (sA (sA (sS σ 0 0) 17 ((σ.2 17).set (nn) a)) 18 ((σ.2 18).set (nn) c)) 19 ((σ.2 19).set (nn) b))) fm234 => ?_)
        refine ev_al (k_m_link_1 20 rfl) rfl ?_
        refine ev_get (v := vA (ma 20)) (k_m_link_1 21 rfl) hm234.1 rfl ?_
        refine ev_al (k_m_link_1 22 rfl) rfl ?_
        refine ev_get (v := vI (nn : Int)) (k_m_link_1 23 rfl) hm234.1 (congrArg (fun z => some (vI z)) hnn) ?_
        refine ev_llw (k_m_link_1 24 rfl) rfl ?_
        refine ev_mlas (iN := (nn)) (k_m_link_1 25 rfl) 20 rfl hm234 fm234 (by omega) (by omega) (fun h235 (hm235 : MR h235 ma (sA (sA (sA (sA (sS σ 0 0) 17 ((σ.2 17).set (nn) a)) 18 ((σ.2 18).set (nn) c)) 19 ((σ.2 19).set (nn) b)) 20 ((σ.2 20).set (nn) o))) fm235 => ?_)
        refine ev_al (k_m_link_1 26 rfl) rfl ?_
        refine ev_dup (k_m_link_1 27 rfl) rfl ?_
        refine ev_get (v := vI (nn : Int)) (k_m_link_1 28 rfl) hm235.1 (congrArg (fun z => some (vI z)) hnn) ?_
        refine ev_ic (k_m_link_1 29 rfl) ?_
        refine ev_iadd (k_m_link_1 30 rfl) (by omega) ?_
        refine ev_mput (z := (nn : Int) + 1) (k_m_link_1 31 rfl) hm235 fm235 (le_b rfl) rfl rfl (fun h236 (hm236 : MR h236 ma (sS (sA (sA (sA (sA (sS σ 0 0) 17 ((σ.2 17).set (nn) a)) 18 ((σ.2 18).set (nn) c)) 19 ((σ.2 19).set (nn) b)) 20 ((σ.2 20).set (nn) o)) 16 ((nn : Int) + 1))) fm236 => ?_)
        refine ev_ic (k_m_link_1 32 rfl) ?_
        exact ev_zret (x := true) (k_m_link_1 33 rfl) rfl (⟨true, rfl, by unfold lok; rw [hnn, show ((nn : Int)).toNat = nn from rfl, show nn = k by omega, h2, pr.1, pr.2.1, pr.2.2.2.1, pr.2.2.2.2.1]; simp; exact ⟨pr.2.2.1, by omega⟩, hm236, fm236⟩)
      · refine ev_al (k_m_link_0 44 rfl) rfl ?_
        refine ev_ilw (k_m_link_0 45 rfl) rfl ?_
        refine ev_il (k_m_link_0 46 rfl) rfl ?_
        refine ev_ll (k_m_link_0 47 rfl) rfl ?_
        refine ev_ilw (k_m_link_0 48 rfl) rfl ?_
        refine ev_cV (k_m_link_0 49 rfl) rfl v_m_isLink hm1.1 rfl (c_m_isLink G ma _ _ hm1 k a c b (by (try simp only [sS]); omega)) rfl (le_b rfl) (le_b rfl) (le_b rfl) k_n (k_B fun z237 h237 q237 => ?_)
        obtain ⟨rfl, (rfl : z237 = (isl σ a c b k))⟩ := q237
        refine ev_b_eq (k_m_link_0 50 rfl) (fun c238 => ?_) (fun c238 => ?_)
        · refine ev_iinc (k_m_link_1 0 rfl) rfl (by omega) (show ev _ _ _ _ _ _ 123 [some (vA (ma 0)), some (vI a), some (vL c), none, some (vI b), some (vL o), none, some (vI ((k : Int) + 1))] _ _ _ _ from ?_)
          refine ev_goto (k_m_link_1 1 rfl) ?_
          rw [show (k : Int) + 1 = ((k + 1 : Nat) : Int) by omega]
          exact ih _ hm1 fm1 (k + 1) pr (by omega) (by rw [anb_s, h2]; simp [c231, c238]) (by omega)
        · refine ev_al (k_m_link_0 51 rfl) rfl ?_
          refine ev_get (v := vA (ma 20)) (k_m_link_0 52 rfl) hm1.1 rfl ?_
          refine ev_ilw (k_m_link_0 53 rfl) rfl ?_
          refine ev_lald (xs := σ.2 20) (k_m_link_0 54 rfl) (mr_a hm1 20 rfl) (by omega) (by omega) (show ev _ _ _ _ _ _ _ _ (vL (gd (σ.2 20) (k)) :: _) _ _ _ from ?_)
          refine ev_llw (k_m_link_0 55 rfl) rfl ?_
          refine ev_lc_ne (k_m_link_0 56 rfl) (k_m_link_0 57 rfl) (fun c239 => ?_) (fun c239 => ?_)
          · refine ev_iinc (k_m_link_1 0 rfl) rfl (by omega) (show ev _ _ _ _ _ _ 123 [some (vA (ma 0)), some (vI a), some (vL c), none, some (vI b), some (vL o), none, some (vI ((k : Int) + 1))] _ _ _ _ from ?_)
            refine ev_goto (k_m_link_1 1 rfl) ?_
            rw [show (k : Int) + 1 = ((k + 1 : Nat) : Int) by omega]
            exact ih _ hm1 fm1 (k + 1) pr (by omega) (by rw [anb_s, h2]; simp [c231, c238, c239]) (by omega)
          · refine ev_ic (k_m_link_0 58 rfl) ?_
            exact ev_zret (x := false) (k_m_link_0 59 rfl) rfl (⟨false, rfl, by have hz := anb_of (p := fun k => isl σ a c b k && gd (σ.2 20) k == o) (n := nn) (k := k) (by omega) (by simp [c231, c238, c239]); unfold lok; rw [hnn, show ((nn : Int)).toNat = nn from rfl, hz]; simp, hm1, fm1⟩)
  refine ev_al (k_m_link_0 0 rfl) rfl ?_
  refine ev_ic (k_m_link_0 1 rfl) ?_
  refine ev_mput (z := 0) (k_m_link_0 2 rfl) hm (fM_rf _) (le_b rfl) rfl rfl (fun h240 (hm240 : MR h240 ma (sS σ 0 0)) fm240 => ?_)
  refine ev_il (k_m_link_0 3 rfl) rfl ?_
  refine ev_cS (k_m_link_0 4 rfl) rfl v_m_isEdition (c_m_isEdition G _ a) rfl (le_b rfl) (le_b rfl) (le_b rfl) k_n (k_B fun z241 h241 q241 => ?_)
  obtain ⟨rfl, (rfl : z241 = (inb a 0 2))⟩ := q241
  refine ev_b_eq (k_m_link_0 5 rfl) (fun c242 => ?_) (fun c242 => ?_)
  · have j242 := inb_f c242
    refine ev_ic (k_m_link_0 36 rfl) ?_
    exact ev_zret (x := false) (k_m_link_0 37 rfl) rfl (⟨false, rfl, by simp [lok, hnn, c242], hm240, fm240⟩)
  · have j242 := inb_t c242
    refine ev_ilw (k_m_link_0 6 rfl) rfl ?_
    refine ev_cS (k_m_link_0 7 rfl) rfl v_m_isEdition (c_m_isEdition G _ b) rfl (le_b rfl) (le_b rfl) (le_b rfl) k_n (k_B fun z243 h243 q243 => ?_)
    obtain ⟨rfl, (rfl : z243 = (inb b 0 2))⟩ := q243
    refine ev_b_eq (k_m_link_0 8 rfl) (fun c244 => ?_) (fun c244 => ?_)
    · have j244 := inb_f c244
      refine ev_ic (k_m_link_0 36 rfl) ?_
      exact ev_zret (x := false) (k_m_link_0 37 rfl) rfl (⟨false, rfl, by simp [lok, hnn, c242, c244], hm240, fm240⟩)
    · have j244 := inb_t c244
      refine ev_il (k_m_link_0 9 rfl) rfl ?_
      refine ev_ilw (k_m_link_0 10 rfl) rfl ?_
      refine ev_ic_eq (k_m_link_0 11 rfl) (fun c245 => ?_) (fun c245 => ?_)
      · refine ev_ic (k_m_link_0 36 rfl) ?_
        exact ev_zret (x := false) (k_m_link_0 37 rfl) rfl (⟨false, rfl, by simp [lok, hnn, c242, c244, c245], hm240, fm240⟩)
      · refine ev_al (k_m_link_0 12 rfl) rfl ?_
        refine ev_il (k_m_link_0 13 rfl) rfl ?_
        refine ev_cS (k_m_link_0 14 rfl) rfl v_m_isEdition (c_m_isEdition G _ a) rfl (le_b rfl) (le_b rfl) (le_b rfl) k_n (k_B fun z246 h246 q246 => ?_)
        obtain ⟨rfl, (rfl : z246 = (inb a 0 2))⟩ := q246
        refine ev_b_eq (k_m_link_0 15 rfl) (fun c => absurd (c242.symm.trans c) (by decide)) (fun _ => ?_)
        refine ev_il (k_m_link_0 16 rfl) rfl ?_
        refine ev_goto (k_m_link_0 17 rfl) ?_
        refine ev_ll (k_m_link_0 19 rfl) rfl ?_
        refine ev_cV (k_m_link_0 20 rfl) rfl v_m_rowOf hm240.1 rfl (c_m_rowOfI G ma _ _ hm240 a c (by (try simp only [sS]); omega) (by (try simp only [sS]); omega) (by exact (HR _ (by (try simp only [sS]); omega)).2)) rfl (le_b rfl) (le_b rfl) (le_b rfl) k_n (k_I fun z248 h248 q248 => ?_)
        obtain ⟨rfl, (rfl : z248 = oix (rof σ a.toNat c))⟩ := q248
        refine ev_o_lt (k_m_link_0 21 rfl) (fun c249 => ?_) (fun i249 c249 => ?_)
        · refine ev_ic (k_m_link_0 36 rfl) ?_
          exact ev_zret (x := false) (k_m_link_0 37 rfl) rfl (⟨false, rfl, by simp [lok, hnn, c242, c244, c245, c249], hm240, fm240⟩)
        · refine ev_al (k_m_link_0 22 rfl) rfl ?_
          refine ev_ilw (k_m_link_0 23 rfl) rfl ?_
          refine ev_cS (k_m_link_0 24 rfl) rfl v_m_isEdition (c_m_isEdition G _ b) rfl (le_b rfl) (le_b rfl) (le_b rfl) k_n (k_B fun z250 h250 q250 => ?_)
          obtain ⟨rfl, (rfl : z250 = (inb b 0 2))⟩ := q250
          refine ev_b_eq (k_m_link_0 25 rfl) (fun c => absurd (c244.symm.trans c) (by decide)) (fun _ => ?_)
          refine ev_ilw (k_m_link_0 26 rfl) rfl ?_
          refine ev_goto (k_m_link_0 27 rfl) ?_
          refine ev_llw (k_m_link_0 29 rfl) rfl ?_
          refine ev_cV (k_m_link_0 30 rfl) rfl v_m_rowOf hm240.1 rfl (c_m_rowOfI G ma _ _ hm240 b o (by (try simp only [sS]); omega) (by (try simp only [sS]); omega) (by exact (HR _ (by (try simp only [sS]); omega)).2)) rfl (le_b rfl) (le_b rfl) (le_b rfl) k_n (k_I fun z252 h252 q252 => ?_)
          obtain ⟨rfl, (rfl : z252 = oix (rof σ b.toNat o))⟩ := q252
          refine ev_o_lt (k_m_link_0 31 rfl) (fun c253 => ?_) (fun i253 c253 => ?_)
          · refine ev_ic (k_m_link_0 36 rfl) ?_
            exact ev_zret (x := false) (k_m_link_0 37 rfl) rfl (⟨false, rfl, by simp [lok, hnn, c242, c244, c245, c249, c253], hm240, fm240⟩)
          · refine ev_al (k_m_link_0 32 rfl) rfl ?_
            refine ev_get (v := vI (nn : Int)) (k_m_link_0 33 rfl) hm240.1 (congrArg (fun z => some (vI z)) hnn) ?_
            refine ev_bp (k_m_link_0 34 rfl) ?_
            refine ev_ic_ne (k_m_link_0 35 rfl) (fun c254 => ?_) (fun c254 => ?_)
            · refine ev_ic (k_m_link_0 38 rfl) ?_
              refine ev_isw (k_m_link_0 39 rfl) (le_b rfl) (show ev _ _ _ _ _ _ 83 [some (vA (ma 0)), some (vI a), some (vL c), none, some (vI b), some (vL o), none, some (vI 0)] _ _ _ _ from ?_)
              exact loop (nn + 1) _ hm240 fm240 0 ⟨c242, c244, c245, by simp [c249], by simp [c253], by omega⟩ (by omega) rfl (by omega)
            · refine ev_ic (k_m_link_0 36 rfl) ?_
              exact ev_zret (x := false) (k_m_link_0 37 rfl) rfl (⟨false, rfl, by simp [lok, hnn, c242, c244, c245, c249, c253, c254], hm240, fm240⟩)
def sgc (c : Int) : Int := if inb c 65 90 then c + 32 else c
def gS (s : Int) : Bool := inb s 97 122 || inb s 48 57 || s == 45 || s == 46 || s == 59
def sgd (σ : sg_T) (n : Nat) (s : Int) : sg_T := sS (sA (sS σ 0 0) 1 ((σ.2 1).set n s)) 2 ((n : Int) + 1)
set_option maxHeartbeats 2000000 in
theorem c_m_sign (G : gt_T) (ma : Nat → Nat) (σ : sg_T) (h : ab_H) (hm : MR h ma σ) (nn : Nat) (hnn : σ.1 2 = (nn : Int)) (hn0 : nn ≤ 400) (c : Int) : ct G M_m_sign 2 42 0 0 [vA (ma 0), vI c] h (rB fun z h' => z = (gS (sgc c) && decide (nn ≠ 400)) ∧ MR h' ma (if z then sgd σ nn (sgc c) else sS σ 0 0) ∧ fM h h') nT := by
  show ev _ _ _ _ _ _ 0 [some (vA (ma 0)), some (vI c), none] [] _ _ _
  have l1 := mr_l hm 1 rfl
  refine ev_al (k_m_sign 0 rfl) rfl ?_
  refine ev_ic (k_m_sign 1 rfl) ?_
  refine ev_mput (z := 0) (k_m_sign 2 rfl) hm (fM_rf _) (le_b rfl) rfl rfl (fun h255 (hm255 : MR h255 ma (sS σ 0 0)) fm255 => ?_)
  refine ev_il (k_m_sign 3 rfl) rfl ?_
  refine ev_bp (k_m_sign 4 rfl) ?_
  refine ev_bp (k_m_sign 5 rfl) ?_
  refine ev_cS (k_m_sign 6 rfl) rfl v_m_in (c_m_in G _ c 65 90) rfl (le_b rfl) (le_b rfl) (le_b rfl) k_n (k_B fun z256 h256 q256 => ?_)
  obtain ⟨rfl, (rfl : z256 = (inb c 65 90))⟩ := q256
  refine ev_b_eq (k_m_sign 7 rfl) (fun c257 => ?_) (fun c257 => ?_)
  · have j257 := inb_f c257
    refine ev_il (k_m_sign 12 rfl) rfl ?_
    refine ev_is (k_m_sign 13 rfl) (le_b rfl) (show ev _ _ _ _ _ _ 25 [some (vA (ma 0)), some (vI c), some (vI c)] _ _ _ _ from ?_)
    refine ev_il (k_m_sign 14 rfl) rfl ?_
    refine ev_cS (k_m_sign 15 rfl) rfl v_m_isLetter (c_m_isLetter G _ c) rfl (le_b rfl) (le_b rfl) (le_b rfl) k_n (k_B fun z258 h258 q258 => ?_)
    obtain ⟨rfl, (rfl : z258 = (inb c 97 122))⟩ := q258
    refine ev_b_ne (k_m_sign 16 rfl) (fun c259 => ?_) (fun c259 => ?_)
    · have j259 := inb_t c259
      refine ev_al (k_m_sign 29 rfl) rfl ?_
      refine ev_get (v := vI (nn : Int)) (k_m_sign 30 rfl) hm255.1 (congrArg (fun z => some (vI z)) hnn) ?_
      refine ev_sp (k_m_sign 31 rfl) ?_
      refine ev_ic_ne (k_m_sign 32 rfl) (fun c260 => ?_) (fun c260 => ?_)
      · refine ev_al (k_m_sign 35 rfl) rfl ?_
        refine ev_get (v := vA (ma 1)) (k_m_sign 36 rfl) hm255.1 rfl ?_
        refine ev_al (k_m_sign 37 rfl) rfl ?_
        refine ev_get (v := vI (nn : Int)) (k_m_sign 38 rfl) hm255.1 (congrArg (fun z => some (vI z)) hnn) ?_
        refine ev_il (k_m_sign 39 rfl) rfl ?_
        refine ev_mias (iN := (nn)) (k_m_sign 40 rfl) 1 rfl hm255 fm255 (by omega) (by omega) (fun h261 (hm261 : MR h261 ma (sA (sS σ 0 0) 1 ((σ.2 1).set (nn) c))) fm261 => ?_)
        refine ev_al (k_m_sign 41 rfl) rfl ?_
        refine ev_dup (k_m_sign 42 rfl) rfl ?_
        refine ev_get (v := vI (nn : Int)) (k_m_sign 43 rfl) hm261.1 (congrArg (fun z => some (vI z)) hnn) ?_
        refine ev_ic (k_m_sign 44 rfl) ?_
        refine ev_iadd (k_m_sign 45 rfl) (by omega) ?_
        refine ev_mput (z := (nn : Int) + 1) (k_m_sign 46 rfl) hm261 fm261 (le_b rfl) rfl rfl (fun h262 (hm262 : MR h262 ma (sS (sA (sS σ 0 0) 1 ((σ.2 1).set (nn) c)) 2 ((nn : Int) + 1))) fm262 => ?_)
        refine ev_ic (k_m_sign 47 rfl) ?_
        exact ev_zret (x := true) (k_m_sign 48 rfl) rfl (⟨true, rfl, by rw [show sgc c = c by simp [sgc, c257]]; simp [gS, c259, c260]; try omega, by rw [show sgc c = c by simp [sgc, c257]]; exact hm262, fm262⟩)
      · refine ev_ic (k_m_sign 33 rfl) ?_
        exact ev_zret (x := false) (k_m_sign 34 rfl) rfl (⟨false, rfl, by rw [show sgc c = c by simp [sgc, c257]]; simp [gS, c259, c260]; try omega, by rw [show sgc c = c by simp [sgc, c257]]; exact hm255, fm255⟩)
    · have j259 := inb_f c259
      refine ev_il (k_m_sign 17 rfl) rfl ?_
      refine ev_cS (k_m_sign 18 rfl) rfl v_m_isDigit (c_m_isDigit G _ c) rfl (le_b rfl) (le_b rfl) (le_b rfl) k_n (k_B fun z263 h263 q263 => ?_)
      obtain ⟨rfl, (rfl : z263 = (inb c 48 57))⟩ := q263
      refine ev_b_ne (k_m_sign 19 rfl) (fun c264 => ?_) (fun c264 => ?_)
      · have j264 := inb_t c264
        refine ev_al (k_m_sign 29 rfl) rfl ?_
        refine ev_get (v := vI (nn : Int)) (k_m_sign 30 rfl) hm255.1 (congrArg (fun z => some (vI z)) hnn) ?_
        refine ev_sp (k_m_sign 31 rfl) ?_
        refine ev_ic_ne (k_m_sign 32 rfl) (fun c265 => ?_) (fun c265 => ?_)
        · refine ev_al (k_m_sign 35 rfl) rfl ?_
          refine ev_get (v := vA (ma 1)) (k_m_sign 36 rfl) hm255.1 rfl ?_
          refine ev_al (k_m_sign 37 rfl) rfl ?_
          refine ev_get (v := vI (nn : Int)) (k_m_sign 38 rfl) hm255.1 (congrArg (fun z => some (vI z)) hnn) ?_
          refine ev_il (k_m_sign 39 rfl) rfl ?_
          refine ev_mias (iN := (nn)) (k_m_sign 40 rfl) 1 rfl hm255 fm255 (by omega) (by omega) (fun h266 (hm266 : MR h266 ma (sA (sS σ 0 0) 1 ((σ.2 1).set (nn) c))) fm266 => ?_)
          refine ev_al (k_m_sign 41 rfl) rfl ?_
          refine ev_dup (k_m_sign 42 rfl) rfl ?_
          refine ev_get (v := vI (nn : Int)) (k_m_sign 43 rfl) hm266.1 (congrArg (fun z => some (vI z)) hnn) ?_
          refine ev_ic (k_m_sign 44 rfl) ?_
          refine ev_iadd (k_m_sign 45 rfl) (by omega) ?_
          refine ev_mput (z := (nn : Int) + 1) (k_m_sign 46 rfl) hm266 fm266 (le_b rfl) rfl rfl (fun h267 (hm267 : MR h267 ma (sS (sA (sS σ 0 0) 1 ((σ.2 1).set (nn) c)) 2 ((nn : Int) + 1))) fm267 => ?_)
          refine ev_ic (k_m_sign 47 rfl) ?_
          exact ev_zret (x := true) (k_m_sign 48 rfl) rfl (⟨true, rfl, by rw [show sgc c = c by simp [sgc, c257]]; simp [gS, c259, c264, c265]; try omega, by rw [show sgc c = c by simp [sgc, c257]]; exact hm267, fm267⟩)
        · refine ev_ic (k_m_sign 33 rfl) ?_
          exact ev_zret (x := false) (k_m_sign 34 rfl) rfl (⟨false, rfl, by rw [show sgc c = c by simp [sgc, c257]]; simp [gS, c259, c264, c265]; try omega, by rw [show sgc c = c by simp [sgc, c257]]; exact hm255, fm255⟩)
      · have j264 := inb_f c264
        refine ev_il (k_m_sign 20 rfl) rfl ?_
        refine ev_bp (k_m_sign 21 rfl) ?_
        refine ev_ic_eq (k_m_sign 22 rfl) (fun c268 => ?_) (fun c268 => ?_)
        · refine ev_al (k_m_sign 29 rfl) rfl ?_
          refine ev_get (v := vI (nn : Int)) (k_m_sign 30 rfl) hm255.1 (congrArg (fun z => some (vI z)) hnn) ?_
          refine ev_sp (k_m_sign 31 rfl) ?_
          refine ev_ic_ne (k_m_sign 32 rfl) (fun c269 => ?_) (fun c269 => ?_)
          · refine ev_al (k_m_sign 35 rfl) rfl ?_
            refine ev_get (v := vA (ma 1)) (k_m_sign 36 rfl) hm255.1 rfl ?_
            refine ev_al (k_m_sign 37 rfl) rfl ?_
            refine ev_get (v := vI (nn : Int)) (k_m_sign 38 rfl) hm255.1 (congrArg (fun z => some (vI z)) hnn) ?_
            refine ev_il (k_m_sign 39 rfl) rfl ?_
            refine ev_mias (iN := (nn)) (k_m_sign 40 rfl) 1 rfl hm255 fm255 (by omega) (by omega) (fun h270 (hm270 : MR h270 ma (sA (sS σ 0 0) 1 ((σ.2 1).set (nn) c))) fm270 => ?_)
            refine ev_al (k_m_sign 41 rfl) rfl ?_
            refine ev_dup (k_m_sign 42 rfl) rfl ?_
            refine ev_get (v := vI (nn : Int)) (k_m_sign 43 rfl) hm270.1 (congrArg (fun z => some (vI z)) hnn) ?_
            refine ev_ic (k_m_sign 44 rfl) ?_
            refine ev_iadd (k_m_sign 45 rfl) (by omega) ?_
            refine ev_mput (z := (nn : Int) + 1) (k_m_sign 46 rfl) hm270 fm270 (le_b rfl) rfl rfl (fun h271 (hm271 : MR h271 ma (sS (sA (sS σ 0 0) 1 ((σ.2 1).set (nn) c)) 2 ((nn : Int) + 1))) fm271 => ?_)
            refine ev_ic (k_m_sign 47 rfl) ?_
            exact ev_zret (x := true) (k_m_sign 48 rfl) rfl (⟨true, rfl, by rw [show sgc c = c by simp [sgc, c257]]; simp [gS, c259, c264, c268, c269]; try omega, by rw [show sgc c = c by simp [sgc, c257]]; exact hm271, fm271⟩)
          · refine ev_ic (k_m_sign 33 rfl) ?_
            exact ev_zret (x := false) (k_m_sign 34 rfl) rfl (⟨false, rfl, by rw [show sgc c = c by simp [sgc, c257]]; simp [gS, c259, c264, c268, c269]; try omega, by rw [show sgc c = c by simp [sgc, c257]]; exact hm255, fm255⟩)
        · refine ev_il (k_m_sign 23 rfl) rfl ?_
          refine ev_bp (k_m_sign 24 rfl) ?_
          refine ev_ic_eq (k_m_sign 25 rfl) (fun c272 => ?_) (fun c272 => ?_)
          · refine ev_al (k_m_sign 29 rfl) rfl ?_
            refine ev_get (v := vI (nn : Int)) (k_m_sign 30 rfl) hm255.1 (congrArg (fun z => some (vI z)) hnn) ?_
            refine ev_sp (k_m_sign 31 rfl) ?_
            refine ev_ic_ne (k_m_sign 32 rfl) (fun c273 => ?_) (fun c273 => ?_)
            · refine ev_al (k_m_sign 35 rfl) rfl ?_
              refine ev_get (v := vA (ma 1)) (k_m_sign 36 rfl) hm255.1 rfl ?_
              refine ev_al (k_m_sign 37 rfl) rfl ?_
              refine ev_get (v := vI (nn : Int)) (k_m_sign 38 rfl) hm255.1 (congrArg (fun z => some (vI z)) hnn) ?_
              refine ev_il (k_m_sign 39 rfl) rfl ?_
              refine ev_mias (iN := (nn)) (k_m_sign 40 rfl) 1 rfl hm255 fm255 (by omega) (by omega) (fun h274 (hm274 : MR h274 ma (sA (sS σ 0 0) 1 ((σ.2 1).set (nn) c))) fm274 => ?_)
              refine ev_al (k_m_sign 41 rfl) rfl ?_
              refine ev_dup (k_m_sign 42 rfl) rfl ?_
              refine ev_get (v := vI (nn : Int)) (k_m_sign 43 rfl) hm274.1 (congrArg (fun z => some (vI z)) hnn) ?_
              refine ev_ic (k_m_sign 44 rfl) ?_
              refine ev_iadd (k_m_sign 45 rfl) (by omega) ?_
              refine ev_mput (z := (nn : Int) + 1) (k_m_sign 46 rfl) hm274 fm274 (le_b rfl) rfl rfl (fun h275 (hm275 : MR h275 ma (sS (sA (sS σ 0 0) 1 ((σ.2 1).set (nn) c)) 2 ((nn : Int) + 1))) fm275 => ?_)
              refine ev_ic (k_m_sign 47 rfl) ?_
              exact ev_zret (x := true) (k_m_sign 48 rfl) rfl (⟨true, rfl, by rw [show sgc c = c by simp [sgc, c257]]; simp [gS, c259, c264, c268, c272, c273]; try omega, by rw [show sgc c = c by simp [sgc, c257]]; exact hm275, fm275⟩)
            · refine ev_ic (k_m_sign 33 rfl) ?_
              exact ev_zret (x := false) (k_m_sign 34 rfl) rfl (⟨false, rfl, by rw [show sgc c = c by simp [sgc, c257]]; simp [gS, c259, c264, c268, c272, c273]; try omega, by rw [show sgc c = c by simp [sgc, c257]]; exact hm255, fm255⟩)
          · refine ev_il (k_m_sign 26 rfl) rfl ?_
            refine ev_bp (k_m_sign 27 rfl) ?_
            refine ev_ic_ne (k_m_sign 28 rfl) (fun c276 => ?_) (fun c276 => ?_)
            · refine ev_ic (k_m_sign 33 rfl) ?_
              exact ev_zret (x := false) (k_m_sign 34 rfl) rfl (⟨false, rfl, by rw [show sgc c = c by simp [sgc, c257]]; simp [gS, c259, c264, c268, c272, c276]; try omega, by rw [show sgc c = c by simp [sgc, c257]]; exact hm255, fm255⟩)
            · refine ev_al (k_m_sign 29 rfl) rfl ?_
              refine ev_get (v := vI (nn : Int)) (k_m_sign 30 rfl) hm255.1 (congrArg (fun z => some (vI z)) hnn) ?_
              refine ev_sp (k_m_sign 31 rfl) ?_
              refine ev_ic_ne (k_m_sign 32 rfl) (fun c277 => ?_) (fun c277 => ?_)
              · refine ev_al (k_m_sign 35 rfl) rfl ?_
                refine ev_get (v := vA (ma 1)) (k_m_sign 36 rfl) hm255.1 rfl ?_
                refine ev_al (k_m_sign 37 rfl) rfl ?_
                refine ev_get (v := vI (nn : Int)) (k_m_sign 38 rfl) hm255.1 (congrArg (fun z => some (vI z)) hnn) ?_
                refine ev_il (k_m_sign 39 rfl) rfl ?_
                refine ev_mias (iN := (nn)) (k_m_sign 40 rfl) 1 rfl hm255 fm255 (by omega) (by omega) (fun h278 (hm278 : MR h278 ma (sA (sS σ 0 0) 1 ((σ.2 1).set (nn) c))) fm278 => ?_)
                refine ev_al (k_m_sign 41 rfl) rfl ?_
                refine ev_dup (k_m_sign 42 rfl) rfl ?_
                refine ev_get (v := vI (nn : Int)) (k_m_sign 43 rfl) hm278.1 (congrArg (fun z => some (vI z)) hnn) ?_
                refine ev_ic (k_m_sign 44 rfl) ?_
                refine ev_iadd (k_m_sign 45 rfl) (by omega) ?_
                refine ev_mput (z := (nn : Int) + 1) (k_m_sign 46 rfl) hm278 fm278 (le_b rfl) rfl rfl (fun h279 (hm279 : MR h279 ma (sS (sA (sS σ 0 0) 1 ((σ.2 1).set (nn) c)) 2 ((nn : Int) + 1))) fm279 => ?_)
                refine ev_ic (k_m_sign 47 rfl) ?_
                exact ev_zret (x := true) (k_m_sign 48 rfl) rfl (⟨true, rfl, by rw [show sgc c = c by simp [sgc, c257]]; simp [gS, c259, c264, c268, c272, c276, c277]; try omega, by rw [show sgc c = c by simp [sgc, c257]]; exact hm279, fm279⟩)
              · refine ev_ic (k_m_sign 33 rfl) ?_
                exact ev_zret (x := false) (k_m_sign 34 rfl) rfl (⟨false, rfl, by rw [show sgc c = c by simp [sgc, c257]]; simp [gS, c259, c264, c268, c272, c276, c277]; try omega, by rw [show sgc c = c by simp [sgc, c257]]; exact hm255, fm255⟩)
  · have j257 := inb_t c257
    refine ev_il (k_m_sign 8 rfl) rfl ?_
    refine ev_bp (k_m_sign 9 rfl) ?_
    refine ev_iadd (k_m_sign 10 rfl) (by omega) ?_
    refine ev_goto (k_m_sign 11 rfl) ?_
    refine ev_is (k_m_sign 13 rfl) (le_b rfl) (show ev _ _ _ _ _ _ 25 [some (vA (ma 0)), some (vI c), some (vI (c + 32))] _ _ _ _ from ?_)
    refine ev_il (k_m_sign 14 rfl) rfl ?_
    refine ev_cS (k_m_sign 15 rfl) rfl v_m_isLetter (c_m_isLetter G _ (c + 32)) rfl (le_b rfl) (le_b rfl) (le_b rfl) k_n (k_B fun z280 h280 q280 => ?_)
    obtain ⟨rfl, (rfl : z280 = (inb (c + 32) 97 122))⟩ := q280
    refine ev_b_ne (k_m_sign 16 rfl) (fun c281 => ?_) (fun c281 => ?_)
    · have j281 := inb_t c281
      refine ev_al (k_m_sign 29 rfl) rfl ?_
      refine ev_get (v := vI (nn : Int)) (k_m_sign 30 rfl) hm255.1 (congrArg (fun z => some (vI z)) hnn) ?_
      refine ev_sp (k_m_sign 31 rfl) ?_
      refine ev_ic_ne (k_m_sign 32 rfl) (fun c282 => ?_) (fun c282 => ?_)
      · refine ev_al (k_m_sign 35 rfl) rfl ?_
        refine ev_get (v := vA (ma 1)) (k_m_sign 36 rfl) hm255.1 rfl ?_
        refine ev_al (k_m_sign 37 rfl) rfl ?_
        refine ev_get (v := vI (nn : Int)) (k_m_sign 38 rfl) hm255.1 (congrArg (fun z => some (vI z)) hnn) ?_
        refine ev_il (k_m_sign 39 rfl) rfl ?_
        refine ev_mias (iN := (nn)) (k_m_sign 40 rfl) 1 rfl hm255 fm255 (by omega) (by omega) (fun h283 (hm283 : MR h283 ma (sA (sS σ 0 0) 1 ((σ.2 1).set (nn) (c + 32)))) fm283 => ?_)
        refine ev_al (k_m_sign 41 rfl) rfl ?_
        refine ev_dup (k_m_sign 42 rfl) rfl ?_
        refine ev_get (v := vI (nn : Int)) (k_m_sign 43 rfl) hm283.1 (congrArg (fun z => some (vI z)) hnn) ?_
        refine ev_ic (k_m_sign 44 rfl) ?_
        refine ev_iadd (k_m_sign 45 rfl) (by omega) ?_
        refine ev_mput (z := (nn : Int) + 1) (k_m_sign 46 rfl) hm283 fm283 (le_b rfl) rfl rfl (fun h284 (hm284 : MR h284 ma (sS (sA (sS σ 0 0) 1 ((σ.2 1).set (nn) (c + 32))) 2 ((nn : Int) + 1))) fm284 => ?_)
        refine ev_ic (k_m_sign 47 rfl) ?_
        exact ev_zret (x := true) (k_m_sign 48 rfl) rfl (⟨true, rfl, by rw [show sgc c = c + 32 by simp [sgc, c257]]; simp [gS, c281, c282]; try omega, by rw [show sgc c = c + 32 by simp [sgc, c257]]; exact hm284, fm284⟩)
      · refine ev_ic (k_m_sign 33 rfl) ?_
        exact ev_zret (x := false) (k_m_sign 34 rfl) rfl (⟨false, rfl, by rw [show sgc c = c + 32 by simp [sgc, c257]]; simp [gS, c281, c282]; try omega, by rw [show sgc c = c + 32 by simp [sgc, c257]]; exact hm255, fm255⟩)
    · have j281 := inb_f c281
      refine ev_il (k_m_sign 17 rfl) rfl ?_
      refine ev_cS (k_m_sign 18 rfl) rfl v_m_isDigit (c_m_isDigit G _ (c + 32)) rfl (le_b rfl) (le_b rfl) (le_b rfl) k_n (k_B fun z285 h285 q285 => ?_)
      obtain ⟨rfl, (rfl : z285 = (inb (c + 32) 48 57))⟩ := q285
      refine ev_b_ne (k_m_sign 19 rfl) (fun c286 => ?_) (fun c286 => ?_)
      · have j286 := inb_t c286
        refine ev_al (k_m_sign 29 rfl) rfl ?_
        refine ev_get (v := vI (nn : Int)) (k_m_sign 30 rfl) hm255.1 (congrArg (fun z => some (vI z)) hnn) ?_
        refine ev_sp (k_m_sign 31 rfl) ?_
        refine ev_ic_ne (k_m_sign 32 rfl) (fun c287 => ?_) (fun c287 => ?_)
        · refine ev_al (k_m_sign 35 rfl) rfl ?_
          refine ev_get (v := vA (ma 1)) (k_m_sign 36 rfl) hm255.1 rfl ?_
          refine ev_al (k_m_sign 37 rfl) rfl ?_
          refine ev_get (v := vI (nn : Int)) (k_m_sign 38 rfl) hm255.1 (congrArg (fun z => some (vI z)) hnn) ?_
          refine ev_il (k_m_sign 39 rfl) rfl ?_
          refine ev_mias (iN := (nn)) (k_m_sign 40 rfl) 1 rfl hm255 fm255 (by omega) (by omega) (fun h288 (hm288 : MR h288 ma (sA (sS σ 0 0) 1 ((σ.2 1).set (nn) (c + 32)))) fm288 => ?_)
          refine ev_al (k_m_sign 41 rfl) rfl ?_
          refine ev_dup (k_m_sign 42 rfl) rfl ?_
          refine ev_get (v := vI (nn : Int)) (k_m_sign 43 rfl) hm288.1 (congrArg (fun z => some (vI z)) hnn) ?_
          refine ev_ic (k_m_sign 44 rfl) ?_
          refine ev_iadd (k_m_sign 45 rfl) (by omega) ?_
          refine ev_mput (z := (nn : Int) + 1) (k_m_sign 46 rfl) hm288 fm288 (le_b rfl) rfl rfl (fun h289 (hm289 : MR h289 ma (sS (sA (sS σ 0 0) 1 ((σ.2 1).set (nn) (c + 32))) 2 ((nn : Int) + 1))) fm289 => ?_)
          refine ev_ic (k_m_sign 47 rfl) ?_
          exact ev_zret (x := true) (k_m_sign 48 rfl) rfl (⟨true, rfl, by rw [show sgc c = c + 32 by simp [sgc, c257]]; simp [gS, c281, c286, c287]; try omega, by rw [show sgc c = c + 32 by simp [sgc, c257]]; exact hm289, fm289⟩)
        · refine ev_ic (k_m_sign 33 rfl) ?_
          exact ev_zret (x := false) (k_m_sign 34 rfl) rfl (⟨false, rfl, by rw [show sgc c = c + 32 by simp [sgc, c257]]; simp [gS, c281, c286, c287]; try omega, by rw [show sgc c = c + 32 by simp [sgc, c257]]; exact hm255, fm255⟩)
      · have j286 := inb_f c286
        refine ev_il (k_m_sign 20 rfl) rfl ?_
        refine ev_bp (k_m_sign 21 rfl) ?_
        refine ev_ic_eq (k_m_sign 22 rfl) (fun c290 => ?_) (fun c290 => ?_)
        · refine ev_al (k_m_sign 29 rfl) rfl ?_
          refine ev_get (v := vI (nn : Int)) (k_m_sign 30 rfl) hm255.1 (congrArg (fun z => some (vI z)) hnn) ?_
          refine ev_sp (k_m_sign 31 rfl) ?_
          refine ev_ic_ne (k_m_sign 32 rfl) (fun c291 => ?_) (fun c291 => ?_)
          · refine ev_al (k_m_sign 35 rfl) rfl ?_
            refine ev_get (v := vA (ma 1)) (k_m_sign 36 rfl) hm255.1 rfl ?_
            refine ev_al (k_m_sign 37 rfl) rfl ?_
            refine ev_get (v := vI (nn : Int)) (k_m_sign 38 rfl) hm255.1 (congrArg (fun z => some (vI z)) hnn) ?_
            refine ev_il (k_m_sign 39 rfl) rfl ?_
            refine ev_mias (iN := (nn)) (k_m_sign 40 rfl) 1 rfl hm255 fm255 (by omega) (by omega) (fun h292 (hm292 : MR h292 ma (sA (sS σ 0 0) 1 ((σ.2 1).set (nn) (c + 32)))) fm292 => ?_)
            refine ev_al (k_m_sign 41 rfl) rfl ?_
            refine ev_dup (k_m_sign 42 rfl) rfl ?_
            refine ev_get (v := vI (nn : Int)) (k_m_sign 43 rfl) hm292.1 (congrArg (fun z => some (vI z)) hnn) ?_
            refine ev_ic (k_m_sign 44 rfl) ?_
            refine ev_iadd (k_m_sign 45 rfl) (by omega) ?_
            refine ev_mput (z := (nn : Int) + 1) (k_m_sign 46 rfl) hm292 fm292 (le_b rfl) rfl rfl (fun h293 (hm293 : MR h293 ma (sS (sA (sS σ 0 0) 1 ((σ.2 1).set (nn) (c + 32))) 2 ((nn : Int) + 1))) fm293 => ?_)
            refine ev_ic (k_m_sign 47 rfl) ?_
            exact ev_zret (x := true) (k_m_sign 48 rfl) rfl (⟨true, rfl, by rw [show sgc c = c + 32 by simp [sgc, c257]]; simp [gS, c281, c286, c290, c291]; try omega, by rw [show sgc c = c + 32 by simp [sgc, c257]]; exact hm293, fm293⟩)
          · refine ev_ic (k_m_sign 33 rfl) ?_
            exact ev_zret (x := false) (k_m_sign 34 rfl) rfl (⟨false, rfl, by rw [show sgc c = c + 32 by simp [sgc, c257]]; simp [gS, c281, c286, c290, c291]; try omega, by rw [show sgc c = c + 32 by simp [sgc, c257]]; exact hm255, fm255⟩)
        · refine ev_il (k_m_sign 23 rfl) rfl ?_
          refine ev_bp (k_m_sign 24 rfl) ?_
          refine ev_ic_eq (k_m_sign 25 rfl) (fun c294 => ?_) (fun c294 => ?_)
          · refine ev_al (k_m_sign 29 rfl) rfl ?_
            refine ev_get (v := vI (nn : Int)) (k_m_sign 30 rfl) hm255.1 (congrArg (fun z => some (vI z)) hnn) ?_
            refine ev_sp (k_m_sign 31 rfl) ?_
            refine ev_ic_ne (k_m_sign 32 rfl) (fun c295 => ?_) (fun c295 => ?_)
            · refine ev_al (k_m_sign 35 rfl) rfl ?_
              refine ev_get (v := vA (ma 1)) (k_m_sign 36 rfl) hm255.1 rfl ?_
              refine ev_al (k_m_sign 37 rfl) rfl ?_
              refine ev_get (v := vI (nn : Int)) (k_m_sign 38 rfl) hm255.1 (congrArg (fun z => some (vI z)) hnn) ?_
              refine ev_il (k_m_sign 39 rfl) rfl ?_
              refine ev_mias (iN := (nn)) (k_m_sign 40 rfl) 1 rfl hm255 fm255 (by omega) (by omega) (fun h296 (hm296 : MR h296 ma (sA (sS σ 0 0) 1 ((σ.2 1).set (nn) (c + 32)))) fm296 => ?_)
              refine ev_al (k_m_sign 41 rfl) rfl ?_
              refine ev_dup (k_m_sign 42 rfl) rfl ?_
              refine ev_get (v := vI (nn : Int)) (k_m_sign 43 rfl) hm296.1 (congrArg (fun z => some (vI z)) hnn) ?_
              refine ev_ic (k_m_sign 44 rfl) ?_
              refine ev_iadd (k_m_sign 45 rfl) (by omega) ?_
              refine ev_mput (z := (nn : Int) + 1) (k_m_sign 46 rfl) hm296 fm296 (le_b rfl) rfl rfl (fun h297 (hm297 : MR h297 ma (sS (sA (sS σ 0 0) 1 ((σ.2 1).set (nn) (c + 32))) 2 ((nn : Int) + 1))) fm297 => ?_)
              refine ev_ic (k_m_sign 47 rfl) ?_
              exact ev_zret (x := true) (k_m_sign 48 rfl) rfl (⟨true, rfl, by rw [show sgc c = c + 32 by simp [sgc, c257]]; simp [gS, c281, c286, c290, c294, c295]; try omega, by rw [show sgc c = c + 32 by simp [sgc, c257]]; exact hm297, fm297⟩)
            · refine ev_ic (k_m_sign 33 rfl) ?_
              exact ev_zret (x := false) (k_m_sign 34 rfl) rfl (⟨false, rfl, by rw [show sgc c = c + 32 by simp [sgc, c257]]; simp [gS, c281, c286, c290, c294, c295]; try omega, by rw [show sgc c = c + 32 by simp [sgc, c257]]; exact hm255, fm255⟩)
          · refine ev_il (k_m_sign 26 rfl) rfl ?_
            refine ev_bp (k_m_sign 27 rfl) ?_
            refine ev_ic_ne (k_m_sign 28 rfl) (fun c298 => ?_) (fun c298 => ?_)
            · refine ev_ic (k_m_sign 33 rfl) ?_
              exact ev_zret (x := false) (k_m_sign 34 rfl) rfl (⟨false, rfl, by rw [show sgc c = c + 32 by simp [sgc, c257]]; simp [gS, c281, c286, c290, c294, c298]; try omega, by rw [show sgc c = c + 32 by simp [sgc, c257]]; exact hm255, fm255⟩)
            · refine ev_al (k_m_sign 29 rfl) rfl ?_
              refine ev_get (v := vI (nn : Int)) (k_m_sign 30 rfl) hm255.1 (congrArg (fun z => some (vI z)) hnn) ?_
              refine ev_sp (k_m_sign 31 rfl) ?_
              refine ev_ic_ne (k_m_sign 32 rfl) (fun c299 => ?_) (fun c299 => ?_)
              · refine ev_al (k_m_sign 35 rfl) rfl ?_
                refine ev_get (v := vA (ma 1)) (k_m_sign 36 rfl) hm255.1 rfl ?_
                refine ev_al (k_m_sign 37 rfl) rfl ?_
                refine ev_get (v := vI (nn : Int)) (k_m_sign 38 rfl) hm255.1 (congrArg (fun z => some (vI z)) hnn) ?_
                refine ev_il (k_m_sign 39 rfl) rfl ?_
                refine ev_mias (iN := (nn)) (k_m_sign 40 rfl) 1 rfl hm255 fm255 (by omega) (by omega) (fun h300 (hm300 : MR h300 ma (sA (sS σ 0 0) 1 ((σ.2 1).set (nn) (c + 32)))) fm300 => ?_)
                refine ev_al (k_m_sign 41 rfl) rfl ?_
                refine ev_dup (k_m_sign 42 rfl) rfl ?_
                refine ev_get (v := vI (nn : Int)) (k_m_sign 43 rfl) hm300.1 (congrArg (fun z => some (vI z)) hnn) ?_
                refine ev_ic (k_m_sign 44 rfl) ?_
                refine ev_iadd (k_m_sign 45 rfl) (by omega) ?_
                refine ev_mput (z := (nn : Int) + 1) (k_m_sign 46 rfl) hm300 fm300 (le_b rfl) rfl rfl (fun h301 (hm301 : MR h301 ma (sS (sA (sS σ 0 0) 1 ((σ.2 1).set (nn) (c + 32))) 2 ((nn : Int) + 1))) fm301 => ?_)
                refine ev_ic (k_m_sign 47 rfl) ?_
                exact ev_zret (x := true) (k_m_sign 48 rfl) rfl (⟨true, rfl, by rw [show sgc c = c + 32 by simp [sgc, c257]]; simp [gS, c281, c286, c290, c294, c298, c299]; try omega, by rw [show sgc c = c + 32 by simp [sgc, c257]]; exact hm301, fm301⟩)
              · refine ev_ic (k_m_sign 33 rfl) ?_
                exact ev_zret (x := false) (k_m_sign 34 rfl) rfl (⟨false, rfl, by rw [show sgc c = c + 32 by simp [sgc, c257]]; simp [gS, c281, c286, c290, c294, c298, c299]; try omega, by rw [show sgc c = c + 32 by simp [sgc, c257]]; exact hm255, fm255⟩)
