theorem sA_self (σ : sg_T) (k : Nat) : sA σ k (σ.2 k) = σ := by
  refine sgx (fun j => rfl) (fun j => ?_)
  simp only [sA]; split
  · rename_i e; rw [e]
  · rfl
theorem sA_sA (σ : sg_T) (k : Nat) (xs ys : List Int) : sA (sA σ k xs) k ys = sA σ k ys := by
  refine sgx (fun j => rfl) (fun j => ?_)
  simp only [sA]; split <;> rfl
theorem dgn_pow : ∀ (k n : Nat), 10 ^ k ≤ n → n < 10 ^ (k + 1) → dgn n = k
  | 0, n, h1, h2 => dgn_0 (by omega)
  | k + 1, n, h1, h2 => by
    have h3 : 10 ^ k ≤ n / 10 := by rw [Nat.le_div_iff_mul_le (by decide)]; rw [Nat.pow_succ] at h1; omega
    have h4 : n / 10 < 10 ^ (k + 1) := by rw [Nat.div_lt_iff_lt_mul (by decide)]; rw [Nat.pow_succ] at h2; omega
    have h5 : 0 < 10 ^ k := Nat.pow_pos (by decide)
    rw [dgn_s (by rw [Nat.pow_succ] at h1; omega), dgn_pow k (n / 10) h3 h4]
theorem dgn_code {T : Nat → Int} {n p k : Nat} (hk : rn T 1 p n = k ∨ k ≤ rn T 1 p n) : dgn (pw 10 48 1 T p k).toNat = k := by
  have h1 := pw_code (T := T) (p := p) (k := k) (fun j hj => rn_digs (n := n) (by omega))
  have e : ((10 ^ k : Nat) : Int) = 10 ^ k := by simp
  refine dgn_pow k _ ?_ ?_
  · omega
  · rw [Nat.pow_succ]; omega
theorem frd_A10W {σ : sg_T} {W : List Int} (hW : ∀ i, i < 480 → gd W i = gd (σ.2 10) i) : frd σ (sA σ 10 W) :=
  ⟨fun _ _ _ _ => rfl, fun k _ _ _ _ h _ => sA_ne _ _ h, fun _ _ => rfl, fun j hj => ⟨rfl, rfl, rfl⟩, fun j hj => by rw [sA_eq]; exact hW j hj⟩
theorem SCR_app {τ τ' : sg_T} {R : List rw_T} {c : Int} {m : Nat} {ws : List (List Int)} (hs : SCR τ R) (hR : R.length < 40) (h6 : gd (τ'.2 6) 3 = (R.length : Int) + 1) (h7 : ∀ i, i < R.length → gd (τ'.2 7) (120 + i) = gd (τ.2 7) (120 + i)) (h8 : ∀ i, i < R.length → gd (τ'.2 8) (120 + i) = gd (τ.2 8) (120 + i)) (h9 : ∀ i, i < R.length → gd (τ'.2 9) (120 + i) = gd (τ.2 9) (120 + i)) (h10 : ∀ i, i < 480 + 4 * R.length → gd (τ'.2 10) i = gd (τ.2 10) i)
    (n7 : gd (τ'.2 7) (120 + R.length) = c) (n8 : gd (τ'.2 8) (120 + R.length) = (m : Int)) (n9 : gd (τ'.2 9) (120 + R.length) = (ws.length : Int)) (hw : ws.length ≤ 4) (n10 : ∀ j, j < 4 → gd (τ'.2 10) (480 + 4 * R.length + j) = enc 32 (ws.getD j [])) (hc : 0 < c) (hm : m ≤ 4) : SCR τ' (R ++ [(c, (m : Int), ws)]) := by
  refine ⟨by rw [h6]; simp, by simp; omega, fun i hi => ?_⟩
  have hi' : i < R.length + 1 := by simpa using hi
  rw [rc_app, rd_app, rws_app]
  by_cases e : i < R.length
  · rw [if_pos e, if_pos e, if_pos e, h7 i e, h8 i e, h9 i e]
    obtain ⟨a1, a2, a3, a4, a5, a6⟩ := hs.2.2 i e
    exact ⟨a1, a2, a3, a4, fun j hj => by rw [h10 _ (by omega)]; exact a5 j hj, a6⟩
  · have e2 : i = R.length := by omega
    subst e2
    rw [if_neg e, if_neg e, if_neg e, if_pos rfl, if_pos rfl, if_pos rfl]
    exact ⟨n7, n8, n9, hw, n10, hc, by show (0 : Int) ≤ (m : Int); omega, by show (m : Int) ≤ 4; omega⟩
theorem enc_nil (b : Int) : enc b [] = 0 := rfl
theorem upx_ok : True := trivial
set_option maxHeartbeats 4000000 in
theorem lp_reads {G : gt_T} {F L Cc Ss : Nat} {Φ : Option ab_V → ab_H → Prop} {Θ : Nat → ab_H → Prop} {ma : Nat → Nat} {τ : sg_T} {h0 : ab_H} {at_ cN : Nat} {pl bh : Int} (hat : at_ < 160) (hc6 : cN ≤ 6) (hcN : τ.1 25 = (cN : Int)) (lA : (τ.2 24).length = 6) (k0 : ∀ (hx : ab_H) (W : List Int), MR hx ma (sA τ 10 W) → fM h0 hx → (∀ j, j < 4 → gd W (4 * at_ + j) = if j < cN then gd (τ.2 24) j else 0) → (∀ i, (i < 4 * at_ ∨ 4 * at_ + 4 ≤ i) → gd W i = gd (τ.2 10) i) → ev G M_m_reads F L Cc Ss 125 [some (vA (ma 0)), some (vI pl), some (vI (at_ : Int)), some (vI bh), none] [] hx Φ Θ) : ∀ (fu : Nat) (h1 : ab_H) (W : List Int) (hm1 : MR h1 ma (sA τ 10 W)) (fm1 : fM h0 h1) (k : Nat), (k ≤ 4) → (∀ j, j < k → gd W (4 * at_ + j) = if j < cN then gd (τ.2 24) j else 0) → (∀ i, (i < 4 * at_ ∨ 4 * at_ + 4 ≤ i) → gd W i = gd (τ.2 10) i) → 4 - k < fu → ev G M_m_reads F L Cc Ss 82 [some (vA (ma 0)), some (vI pl), some (vI (at_ : Int)), some (vI bh), some (vI (k : Int))] [] h1 Φ Θ := by
  intro fu
  induction fu with
  | zero => intros; omega
  | succ fu ih =>
      intro h1 W hm1 fm1 k h4 g1 g2 hn
      have lW : W.length = 640 := mr_l hm1 10 rfl
      refine ev_ilw (k_m_reads_0 53 rfl) rfl ?_
      refine ev_ic (k_m_reads_0 54 rfl) ?_
      refine ev_ic_ge (k_m_reads_0 55 rfl) (fun c678 => ?_) (fun c678 => ?_)
      · refine ev_dead 4 (show ev _ _ _ _ _ _ 125 [some (vA (ma 0)), some (vI pl), some (vI (at_ : Int)), some (vI bh), none] _ _ _ _ from ?_)
        exact k0 _ _ hm1 fm1 (fun j hj => g1 j (by omega)) g2
      · refine ev_al (k_m_reads_0 56 rfl) rfl ?_
        refine ev_get (v := vA (ma 10)) (k_m_reads_0 57 rfl) hm1.1 rfl ?_
        refine ev_ic (k_m_reads_0 58 rfl) ?_
        refine ev_il (k_m_reads_0 59 rfl) rfl ?_
        refine ev_imul (k_m_reads_1 0 rfl) (by omega) ?_
        refine ev_ilw (k_m_reads_1 1 rfl) rfl ?_
        refine ev_iadd (k_m_reads_1 2 rfl) (by omega) ?_
        refine ev_ilw (k_m_reads_1 3 rfl) rfl ?_
        refine ev_al (k_m_reads_1 4 rfl) rfl ?_
        refine ev_get (v := vI (cN : Int)) (k_m_reads_1 5 rfl) hm1.1 (congrArg (fun z => some (vI z)) hcN) ?_
        refine ev_ic_ge (k_m_reads_1 6 rfl) (fun c679 => ?_) (fun c679 => ?_)
        · refine ev_lc (k_m_reads_1 12 rfl) ?_
          refine ev_mlas (iN := (4 * (at_)) + (k)) (k_m_reads_1 13 rfl) 10 rfl hm1 fm1 (by omega) (by omega) (fun h680 (hm680 : MR h680 ma (sA (sA τ 10 W) 10 ((W).set ((4 * (at_)) + (k)) 0))) fm680 => ?_)
          refine ev_iinc (k_m_reads_1 14 rfl) rfl (by omega) (show ev _ _ _ _ _ _ 122 [some (vA (ma 0)), some (vI pl), some (vI (at_ : Int)), some (vI bh), some (vI ((k : Int) + 1))] _ _ _ _ from ?_)
          refine ev_goto (k_m_reads_1 15 rfl) ?_
          rw [sA_sA] at hm680
          rw [show (k : Int) + 1 = ((k + 1 : Nat) : Int) by omega]
          refine ih _ _ hm680 fm680 (k + 1) (by omega) (fun j hj => ?_) (fun i hi => ?_) (by omega)
          · rw [gd_set _ (by omega)]
            by_cases e : j = k
            · subst e; rw [if_pos rfl]; first | rw [if_pos (by omega)] | rw [if_neg (by omega)]
            · rw [if_neg (by omega)]; exact g1 j (by omega)
          · rw [gd_set_ne _ (by omega)]; exact g2 i hi
        · refine ev_al (k_m_reads_1 7 rfl) rfl ?_
          refine ev_get (v := vA (ma 24)) (k_m_reads_1 8 rfl) hm1.1 rfl ?_
          refine ev_ilw (k_m_reads_1 9 rfl) rfl ?_
          refine ev_lald (xs := τ.2 24) (k_m_reads_1 10 rfl) (mr_a hm1 24 rfl) (by omega) (by omega) (show ev _ _ _ _ _ _ _ _ (vL (gd (τ.2 24) (k)) :: _) _ _ _ from ?_)
          refine ev_goto (k_m_reads_1 11 rfl) ?_
          refine ev_mlas (iN := (4 * (at_)) + (k)) (k_m_reads_1 13 rfl) 10 rfl hm1 fm1 (by omega) (by omega) (fun h681 (hm681 : MR h681 ma (sA (sA τ 10 W) 10 ((W).set ((4 * (at_)) + (k)) (gd (τ.2 24) (k))))) fm681 => ?_)
          refine ev_iinc (k_m_reads_1 14 rfl) rfl (by omega) (show ev _ _ _ _ _ _ 122 [some (vA (ma 0)), some (vI pl), some (vI (at_ : Int)), some (vI bh), some (vI ((k : Int) + 1))] _ _ _ _ from ?_)
          refine ev_goto (k_m_reads_1 15 rfl) ?_
          rw [sA_sA] at hm681
          rw [show (k : Int) + 1 = ((k + 1 : Nat) : Int) by omega]
          refine ih _ _ hm681 fm681 (k + 1) (by omega) (fun j hj => ?_) (fun i hi => ?_) (by omega)
          · rw [gd_set _ (by omega)]
            by_cases e : j = k
            · subst e; rw [if_pos rfl]; first | rw [if_pos (by omega)] | rw [if_neg (by omega)]
            · rw [if_neg (by omega)]; exact g1 j (by omega)
          · rw [gd_set_ne _ (by omega)]; exact g2 i hi
theorem rn_00 (T : Nat → Int) (kd : Int) (p : Nat) : rn T kd p 0 = 0 := rfl
theorem prs_0 (T : Nat → Int) : prs T 0 = .inl (1, 0) := by
  unfold prs prws prow pcod pcA
  rw [show rn T 0 0 (0 - 0) = 0 from rfl, if_pos ⟨rfl, fun x => absurd x.1 (by decide)⟩]
theorem prws_f {T : Nat → Int} {n f p : Nat} {R : List rw_T} {x : Int × Nat} (h : pcod T n R p = .inl x) : prws T n (f + 1) p R = .inl x := by
  rw [prws]; unfold prow; rw [h]
theorem prws_w {T : Nat → Int} {n f p m k q : Nat} {R : List rw_T} {c : Int} (h : pcod T n R p = .inr (m, k, c)) (h2 : pwd T n 4 59 (p + m + k) = (q, none)) : prws T n (f + 1) p R = .inl (1, q) := by
  rw [prws]; unfold prow; rw [h]; simp only []; rw [h2]
theorem prws_s {T : Nat → Int} {n f p m k q : Nat} {R : List rw_T} {c : Int} {ws : List (List Int)} (h : pcod T n R p = .inr (m, k, c)) (h2 : pwd T n 4 59 (p + m + k) = (q, some ws)) : prws T n (f + 1) p R = if q + 1 < n then prws T n f (q + 1) (R ++ [(c, (m : Int), ws)]) else .inr (R ++ [(c, (m : Int), ws)]) := by
  rw [prws]; unfold prow; rw [h]; simp only []; rw [h2]
theorem pcA_inv {T : Nat → Int} {n p m : Nat} {R : List rw_T} {x : Nat × Nat × Int} (h : pcA T n R p m = .inr x) : ¬ (m = 0 ∧ ¬ (p < n ∧ inb (T p) 48 57 = true)) ∧ ¬ ((if R.length = 0 then 0 else rd R (R.length - 1) + 1) < (m : Int)) ∧ R.length ≠ 40 ∧ ¬ 4 < m ∧ pcB T R (p + m) m (rn T 1 (p + m) (n - (p + m))) = .inr x := by
  unfold pcA at h
  by_cases c1 : m = 0 ∧ ¬ (p < n ∧ inb (T p) 48 57 = true)
  · rw [if_pos c1] at h; cases h
  · rw [if_neg c1] at h
    by_cases c2 : (if R.length = 0 then 0 else rd R (R.length - 1) + 1) < (m : Int)
    · rw [if_pos c2] at h; cases h
    · rw [if_neg c2] at h
      by_cases c3 : R.length = 40
      · rw [if_pos c3] at h; cases h
      · rw [if_neg c3] at h
        by_cases c4 : 4 < m
        · rw [if_pos c4] at h; cases h
        · rw [if_neg c4] at h; exact ⟨c1, c2, c3, c4, h⟩
theorem pcB_inv {T : Nat → Int} {d m k : Nat} {R : List rw_T} {x : Nat × Nat × Int} (h : pcB T R d m k = .inr x) : k ≠ 0 ∧ k ≤ 10 ∧ k % 2 = 0 ∧ pcC R d m k (pw 10 48 1 T d k) = .inr x := by
  unfold pcB at h
  by_cases c1 : k = 0
  · rw [if_pos c1] at h; cases h
  · rw [if_neg c1] at h
    by_cases c2 : 10 < k
    · rw [if_pos c2] at h; cases h
    · rw [if_neg c2] at h
      by_cases c3 : k % 2 = 1
      · rw [if_pos c3] at h; cases h
      · rw [if_neg c3] at h; exact ⟨c1, by omega, by omega, h⟩
theorem pcC_inv {d m k : Nat} {c : Int} {R : List rw_T} {x : Nat × Nat × Int} (h : pcC R d m k c = .inr x) : ¬ ((m = 0 ∧ k ≠ 2) ∨ (0 < m ∧ bgn c (upc R m c) = false)) ∧ ¬ (R.length ≠ 0 ∧ bhd c (rc R (R.length - 1)) = false) ∧ x = (m, k, c) := by
  unfold pcC at h
  by_cases c1 : (m = 0 ∧ k ≠ 2) ∨ (0 < m ∧ bgn c (upc R m c) = false)
  · rw [if_pos c1] at h; cases h
  · rw [if_neg c1] at h
    by_cases c2 : R.length ≠ 0 ∧ bhd c (rc R (R.length - 1)) = false
    · rw [if_pos c2] at h; cases h
    · rw [if_neg c2] at h; cases h; exact ⟨c1, c2, rfl⟩
theorem pcod_inv {T : Nat → Int} {n p m k : Nat} {c : Int} {R : List rw_T} (h : pcod T n R p = .inr (m, k, c)) : m = rn T 0 p (n - p) ∧ k = rn T 1 (p + m) (n - (p + m)) ∧ c = pw 10 48 1 T (p + m) k ∧ ¬ ((if R.length = 0 then 0 else rd R (R.length - 1) + 1) < (m : Int)) ∧ R.length ≠ 40 ∧ m ≤ 4 ∧ k ≠ 0 ∧ k ≤ 10 ∧ k % 2 = 0 ∧ ¬ ((m = 0 ∧ k ≠ 2) ∨ (0 < m ∧ bgn c (upc R m c) = false)) ∧ ¬ (R.length ≠ 0 ∧ bhd c (rc R (R.length - 1)) = false) := by
  unfold pcod at h
  obtain ⟨-, a2, a3, a4, a5⟩ := pcA_inv h
  obtain ⟨b1, b2, b3, b4⟩ := pcB_inv a5
  obtain ⟨d1, d2, d3⟩ := pcC_inv b4
  injection d3 with e1 e2
  injection e2 with e2 e3
  subst e1; subst e2; subst e3
  exact ⟨rfl, rfl, rfl, a2, a3, by omega, b1, b2, b3, d1, d2⟩
theorem pcod_lt {T : Nat → Int} {n p m k : Nat} {c : Int} {R : List rw_T} (h : pcod T n R p = .inr (m, k, c)) : R.length ≠ 40 := (pcod_inv h).2.2.2.2.1
theorem pcod_k {T : Nat → Int} {n p m k : Nat} {R : List rw_T} {c : Int} (h : pcod T n R p = .inr (m, k, c)) : k ≤ rn T 1 (p + m) (n - (p + m)) := Nat.le_of_eq (pcod_inv h).2.1
theorem pwd_end {T : Nat → Int} {n most p q : Nat} {en : Int} {ws : List (List Int)} (h : pwd T n most en p = (q, some ws)) (h0 : en ≠ 0) : q < n := by
  unfold pwd at h
  split at h
  · cases h
  · split at h
    · rename_i hc
      cases h
      unfold cAt at hc
      split at hc
      · assumption
      · exact absurd hc.symm h0
    · cases h
set_option maxHeartbeats 2000000 in
theorem c_m_reads (G : gt_T) (ma : Nat → Nat) (σ : sg_T) (h : ab_H) (hm : MR h ma σ) (n : Nat) (hn0 : σ.1 2 = (n : Int)) (hn4 : n ≤ 400)  : ct G M_m_reads 5 123 0 0 [vA (ma 0)] h (rB fun z h' => ∃ σ', MR h' ma σ' ∧ fM h h' ∧ frd σ σ' ∧ ((∃ (y : Int) (pl : Nat), prs (gd (σ.2 1)) n = .inl (y, pl) ∧ z = false ∧ σ'.1 4 = y ∧ σ'.1 5 = (pl : Int)) ∨ (∃ R : List rw_T, prs (gd (σ.2 1)) n = .inr R ∧ z = true ∧ SCR σ' R ∧ R ≠ [] ∧ σ'.1 4 = σ.1 4 ∧ σ'.1 5 = σ.1 5))) nT := by
  show ev _ _ _ _ _ _ 0 [some (vA (ma 0)), none, none, none, none] [] _ _ _
  have l1 := mr_l hm 1 rfl
  have l6 := mr_l hm 6 rfl
  have l7 := mr_l hm 7 rfl
  have l8 := mr_l hm 8 rfl
  have l9 := mr_l hm 9 rfl
  have l10 := mr_l hm 10 rfl
  have l24 := mr_l hm 24 rfl
  have loop : ∀ (fu : Nat) (h1 : ab_H) (τ : sg_T) (hm1 : MR h1 ma τ) (fm1 : fM h h1) (p : Nat) (R : List rw_T), (frd σ τ) → (SCR τ R) → ((p < n ∧ prws (gd (σ.2 1)) n (41 - R.length) p R = prs (gd (σ.2 1)) n) ∨ (p = n ∧ R ≠ [] ∧ prs (gd (σ.2 1)) n = .inr R) ∨ (n = 0 ∧ p = 0 ∧ R = [])) → (τ.1 4 = σ.1 4 ∧ τ.1 5 = σ.1 5) → 41 - R.length < fu → ev G M_m_reads 5 123 0 0 9 [some (vA (ma 0)), some (vI (p : Int)), none, none, none] [] h1 (rB fun z h' => ∃ σ', MR h' ma σ' ∧ fM h h' ∧ frd σ σ' ∧ ((∃ (y : Int) (pl : Nat), prs (gd (σ.2 1)) n = .inl (y, pl) ∧ z = false ∧ σ'.1 4 = y ∧ σ'.1 5 = (pl : Int)) ∨ (∃ R : List rw_T, prs (gd (σ.2 1)) n = .inr R ∧ z = true ∧ SCR σ' R ∧ R ≠ [] ∧ σ'.1 4 = σ.1 4 ∧ σ'.1 5 = σ.1 5))) nT := by
    intro fu
    induction fu with
    | zero => intros; omega
    | succ fu ih =>
      intro h1 τ hm1 fm1 p R fr hsc hpr hf4 hn
      have ht1 : τ.2 1 = σ.2 1 := fr.2.1 1 (by decide) (by decide) (by decide) (by decide) (by decide) (by decide)
      have ht2 : τ.1 2 = (n : Int) := (fr.1 2 (by decide) (by decide) (by decide)).trans hn0
      have hR40 := hsc.2.1
      have l6 := mr_l hm1 6 rfl
      have hpn : p ≤ n := by rcases hpr with hx | hx; omega; rcases hx with hx | hx <;> omega
      have hend : n ≤ p → 0 < R.length → prs (gd (σ.2 1)) n = .inr R := by
        intro x y
        rcases hpr with hx | hx
        · omega
        · rcases hx with hx | hx
          · exact hx.2.2
          · rw [hx.2.2] at y; simp at y
      have hst : p < n → prws (gd (σ.2 1)) n (40 - R.length + 1) p R = prs (gd (σ.2 1)) n := by
        intro x
        rcases hpr with hx | hx
        · rw [show 40 - R.length + 1 = 41 - R.length by omega]; exact hx.2
        · rcases hx with hx | hx <;> omega
      rw [← ht1] at hend hst
      refine ev_il (k_m_reads_0 7 rfl) rfl ?_
      refine ev_if_lt (k_m_reads_0 8 rfl) (fun c => absurd c (by omega)) (fun _ => ?_)
      refine ev_il (k_m_reads_0 9 rfl) rfl ?_
      refine ev_al (k_m_reads_0 10 rfl) rfl ?_
      refine ev_get (v := vI (n : Int)) (k_m_reads_0 11 rfl) hm1.1 (congrArg (fun z => some (vI z)) ht2) ?_
      refine ev_ic_ge (k_m_reads_0 12 rfl) (fun c682 => ?_) (fun c682 => ?_)
      · refine ev_il (k_m_reads_1 25 rfl) rfl ?_
        refine ev_if_ge (k_m_reads_1 26 rfl) (fun _ => ?_) (fun c => absurd c (by omega))
        refine ev_al (k_m_reads_1 29 rfl) rfl ?_
        refine ev_get (v := vA (ma 6)) (k_m_reads_1 30 rfl) hm1.1 rfl ?_
        refine ev_ic (k_m_reads_1 31 rfl) ?_
        refine ev_iald (xs := τ.2 6) (k_m_reads_1 32 rfl) (mr_a hm1 6 rfl) (by omega) (by omega) (show ev _ _ _ _ _ _ _ _ (vI (gd (τ.2 6) 3) :: _) _ _ _ from ?_)
        rw [hsc.1]
        refine ev_if_gt (k_m_reads_1 33 rfl) (fun c683 => ?_) (fun c683 => ?_)
        · refine ev_ic (k_m_reads_1 39 rfl) ?_
          refine ev_goto (k_m_reads_1 40 rfl) ?_
          exact ev_zret (x := true) (k_m_reads_1 42 rfl) rfl (⟨true, rfl, _, hm1, fm1, fr, Or.inr ⟨R, (by rw [← ht1]; exact hend (by omega) (by omega)), rfl, hsc, fun x => absurd c683 (by rw [x]; simp), hf4.1, hf4.2⟩⟩)
        · refine ev_al (k_m_reads_1 34 rfl) rfl ?_
          refine ev_ic (k_m_reads_1 35 rfl) ?_
          refine ev_ic (k_m_reads_1 36 rfl) ?_
          refine ev_cV (k_m_reads_1 37 rfl) rfl v_m_fails hm1.1 rfl (c_m_fails G ma _ _ hm1 1 0) rfl (le_b rfl) (le_b rfl) (le_b rfl) k_n (k_B fun z684 h684 q684 => ?_)
          obtain ⟨rfl, hm684, fmx684⟩ := q684
          have fm684 := fM_tr fm1 fmx684
          refine ev_if_eq (k_m_reads_1 38 rfl) (fun _ => ?_) (fun c => absurd c (by decide))
          refine ev_ic (k_m_reads_1 41 rfl) ?_
          exact ev_zret (x := false) (k_m_reads_1 42 rfl) rfl (⟨false, rfl, _, hm684, fm684, frd_tr fr (frd_tr (frd_S (Or.inl rfl)) (frd_S (Or.inr (Or.inl rfl)))), Or.inl ⟨1, 0, by rcases hpr with hx | hx; omega; rcases hx with hx | hx; (exfalso; have := hx.2.1; cases R with | nil => exact this rfl | cons _ _ => simp at *; omega); rw [hx.1]; exact prs_0 _, rfl, rfl, rfl⟩⟩)
      · refine ev_al (k_m_reads_0 13 rfl) rfl ?_
        refine ev_il (k_m_reads_0 14 rfl) rfl ?_
        refine ev_cV (k_m_reads_0 15 rfl) rfl v_m_readsCode hm1.1 rfl (c_m_readsCode G ma τ _ hm1 n ht2 hn4 R hsc p (by omega)) rfl (le_b rfl) (le_b rfl) (le_b rfl) k_n (k_B fun z686 h686 q686 => ?_)
        obtain ⟨τ1, hmc, fmc0, hqc⟩ := q686
        have fmc := fM_tr fm1 fmc0
        rcases hqc with ⟨y, ple, e1, rfl, fr1, e4, e5, -⟩ | ⟨m, k, cc, e1, rfl, rfl, hcp, hm4, hpmk, hcc⟩
        · refine ev_if_ne (k_m_reads_0 16 rfl) (fun c => absurd c (by decide)) (fun _ => ?_)
          refine ev_ic (k_m_reads_0 17 rfl) ?_
          exact ev_zret (x := false) (k_m_reads_0 18 rfl) rfl (⟨false, rfl, _, hmc, fmc, frd_tr fr fr1, Or.inl ⟨_, _, (by rw [← ht1]; exact (hst (by omega)).symm.trans (prws_f e1)), rfl, e4, e5⟩⟩)
        · have l7 := mr_l hm1 7 rfl
          have l8 := mr_l hm1 8 rfl
          have hR4 := pcod_lt e1
          have hR5 := hsc.2.1
          have hdg : dgn cc.toNat = k := by rw [← hcc]; exact dgn_code (n := n - (p + m)) (Or.inr (pcod_k e1))
          refine ev_if_ne (k_m_reads_0 16 rfl) (fun _ => ?_) (fun c => absurd c (by decide))
          refine ev_bp (k_m_reads_0 19 rfl) ?_
          refine ev_al (k_m_reads_0 20 rfl) rfl ?_
          refine ev_get (v := vA (ma 6)) (k_m_reads_0 21 rfl) hmc.1 rfl ?_
          refine ev_ic (k_m_reads_0 22 rfl) ?_
          refine ev_iald (xs := τ.2 6) (k_m_reads_0 23 rfl) (mr_a hmc 6 rfl) (by omega) (by omega) (show ev _ _ _ _ _ _ _ _ (vI (gd (τ.2 6) 3) :: _) _ _ _ from ?_)
          rw [hsc.1]
          refine ev_iadd (k_m_reads_0 24 rfl) (by omega) ?_
          refine ev_is (k_m_reads_0 25 rfl) (le_b rfl) (show ev _ _ _ _ _ _ 41 [some (vA (ma 0)), some (vI (p : Int)), some (vI (120 + (R.length : Int))), none, none] _ _ _ _ from ?_)
          refine ev_il (k_m_reads_0 26 rfl) rfl ?_
          refine ev_al (k_m_reads_0 27 rfl) rfl ?_
          refine ev_get (v := vA (ma 8)) (k_m_reads_0 28 rfl) hmc.1 rfl ?_
          refine ev_il (k_m_reads_0 29 rfl) rfl ?_
          refine ev_iald (xs := ((τ.2 8).set (120 + R.length) (m : Int))) (k_m_reads_0 30 rfl) (mr_a hmc 8 rfl) (by omega) (by simp only [List.length_set]; omega) (show ev _ _ _ _ _ _ _ _ (vI (gd ((τ.2 8).set (120 + R.length) (m : Int)) (120 + (R.length))) :: _) _ _ _ from ?_)
          rw [gd_set_eq _ (by omega)]
          refine ev_iadd (k_m_reads_0 31 rfl) (by omega) ?_
          refine ev_al (k_m_reads_0 32 rfl) rfl ?_
          refine ev_get (v := vA (ma 7)) (k_m_reads_0 33 rfl) hmc.1 rfl ?_
          refine ev_il (k_m_reads_0 34 rfl) rfl ?_
          refine ev_lald (xs := ((τ.2 7).set (120 + R.length) cc)) (k_m_reads_0 35 rfl) (mr_a hmc 7 rfl) (by omega) (by simp only [List.length_set]; omega) (show ev _ _ _ _ _ _ _ _ (vL (gd ((τ.2 7).set (120 + R.length) cc) (120 + (R.length))) :: _) _ _ _ from ?_)
          rw [gd_set_eq _ (by omega)]
          refine ev_cS (k_m_reads_0 36 rfl) rfl v_m_digitsOf (c_m_digitsOf G _ cc) rfl (le_b rfl) (le_b rfl) (le_b rfl) k_n (k_I fun z689 h689 q689 => ?_)
          obtain ⟨rfl, rfl⟩ := q689
          rw [hdg]
          refine ev_iadd (k_m_reads_0 37 rfl) (by omega) ?_
          refine ev_is (k_m_reads_0 38 rfl) (le_b rfl) (show ev _ _ _ _ _ _ 60 [some (vA (ma 0)), some (vI (p : Int)), some (vI (120 + (R.length : Int))), some (vI (((p : Int) + (m : Int)) + (k : Int))), none] _ _ _ _ from ?_)
          refine ev_al (k_m_reads_0 39 rfl) rfl ?_
          refine ev_il (k_m_reads_0 40 rfl) rfl ?_
          refine ev_ic (k_m_reads_0 41 rfl) ?_
          refine ev_bp (k_m_reads_0 42 rfl) ?_
          refine ev_cV (k_m_reads_0 43 rfl) rfl v_m_readsWords hmc.1 rfl (c_m_readsWords G ma _ _ hmc n ht2 hn4 (p + m + k) 4 59 (by (try simp only [sS]); omega) (by (try simp only [sS]); omega) (by (try simp only [sS]); omega) (by decide)) rfl (le_b rfl) (le_b rfl) (le_b rfl) k_n (k_I fun z690 h690 q690 => ?_)
          obtain ⟨A, τ2, hmw, fmw0, hqw⟩ := q690
          have fmw := fM_tr fmc fmw0
          rcases hqw with ⟨q, cN0, e2, hqn, rfl, rfl, hc0, hc4⟩ | ⟨q, ws, e2, hqn, rfl, rfl, hw4, hAw⟩
          · obtain ⟨cN, rfl⟩ : ∃ cN : Nat, cN0 = (cN : Int) := ⟨cN0.toNat, by omega⟩
            have l24 : A.length = 6 := mr_l hmw 24 rfl
            have l9 := mr_l hm1 9 rfl
            refine ev_is (k_m_reads_0 44 rfl) (le_b rfl) (show ev _ _ _ _ _ _ 69 [some (vA (ma 0)), some (vI (-1)), some (vI (120 + (R.length : Int))), some (vI (((p : Int) + (m : Int)) + (k : Int))), none] _ _ _ _ from ?_)
            refine ev_al (k_m_reads_0 45 rfl) rfl ?_
            refine ev_get (v := vA (ma 9)) (k_m_reads_0 46 rfl) hmw.1 rfl ?_
            refine ev_il (k_m_reads_0 47 rfl) rfl ?_
            refine ev_al (k_m_reads_0 48 rfl) rfl ?_
            refine ev_get (v := vI (cN : Int)) (k_m_reads_0 49 rfl) hmw.1 rfl ?_
            refine ev_mias (iN := 120 + (R.length)) (k_m_reads_0 50 rfl) 9 rfl hmw fmw (by omega) (by omega) (fun h691 (hm691 : MR h691 ma (sA (sS (sS (sS (sA (sA (sA τ 8 ((τ.2 8).set (120 + R.length) (m : Int))) 7 ((τ.2 7).set (120 + R.length) cc)) 24 A) 25 (cN : Int)) 4 1) 5 (q : Int)) 9 ((τ.2 9).set (120 + (R.length)) (cN : Int)))) fm691 => ?_)
            refine ev_ic (k_m_reads_0 51 rfl) ?_
            refine ev_isw (k_m_reads_0 52 rfl) (le_b rfl) (show ev _ _ _ _ _ _ 82 [some (vA (ma 0)), some (vI (-1)), some (vI (120 + (R.length : Int))), some (vI (((p : Int) + (m : Int)) + (k : Int))), some (vI 0)] _ _ _ _ from ?_)
            have hmi : MR h691 ma (sA (sA (sS (sS (sS (sA (sA (sA τ 8 ((τ.2 8).set (120 + R.length) (m : Int))) 7 ((τ.2 7).set (120 + R.length) cc)) 24 A) 25 (cN : Int)) 4 1) 5 (q : Int)) 9 ((τ.2 9).set (120 + (R.length)) (cN : Int))) 10 ((sA (sS (sS (sS (sA (sA (sA τ 8 ((τ.2 8).set (120 + R.length) (m : Int))) 7 ((τ.2 7).set (120 + R.length) cc)) 24 A) 25 (cN : Int)) 4 1) 5 (q : Int)) 9 ((τ.2 9).set (120 + (R.length)) (cN : Int))).2 10)) := by rw [sA_self]; exact hm691
            rw [show (120 : Int) + (R.length : Int) = ((120 + R.length : Nat) : Int) by omega]
            refine lp_reads (τ := (sA (sS (sS (sS (sA (sA (sA τ 8 ((τ.2 8).set (120 + R.length) (m : Int))) 7 ((τ.2 7).set (120 + R.length) cc)) 24 A) 25 (cN : Int)) 4 1) 5 (q : Int)) 9 ((τ.2 9).set (120 + (R.length)) (cN : Int)))) (cN := cN) (at_ := 120 + R.length) (by omega) (by omega) rfl l24 (fun hx W hmx fmx gW1 gW2 => ?_) 5 _ _ hmi fm691 0 (by omega) (fun j hj => absurd hj (by omega)) (fun i _ => rfl) (by omega)
            refine ev_al (k_m_reads_1 16 rfl) rfl ?_
            refine ev_get (v := vA (ma 6)) (k_m_reads_1 17 rfl) hmx.1 rfl ?_
            refine ev_ic (k_m_reads_1 18 rfl) ?_
            refine ev_dup2 (k_m_reads_1 19 rfl) rfl rfl ?_
            refine ev_iald (xs := τ.2 6) (k_m_reads_1 20 rfl) (mr_a hmx 6 rfl) (by omega) (by omega) (show ev _ _ _ _ _ _ _ _ (vI (gd (τ.2 6) 3) :: _) _ _ _ from ?_)
            rw [hsc.1]
            refine ev_ic (k_m_reads_1 21 rfl) ?_
            refine ev_iadd (k_m_reads_1 22 rfl) (by omega) ?_
            refine ev_mias (iN := 3) (k_m_reads_1 23 rfl) 6 rfl hmx fmx (by omega) (by omega) (fun h692 (hm692 : MR h692 ma (sA (sA (sA (sS (sS (sS (sA (sA (sA τ 8 ((τ.2 8).set (120 + R.length) (m : Int))) 7 ((τ.2 7).set (120 + R.length) cc)) 24 A) 25 (cN : Int)) 4 1) 5 (q : Int)) 9 ((τ.2 9).set (120 + (R.length)) (cN : Int))) 10 W) 6 ((τ.2 6).set 3 ((R.length : Int) + 1)))) fm692 => ?_)
            refine ev_goto (k_m_reads_1 24 rfl) ?_
            refine ev_dead 2 (show ev _ _ _ _ _ _ 9 [some (vA (ma 0)), some (vI (-1)), none, some (vI (((p : Int) + (m : Int)) + (k : Int))), none] _ _ _ _ from ?_)
            refine ev_dead 3 (show ev _ _ _ _ _ _ 9 [some (vA (ma 0)), some (vI (-1)), none, none, none] _ _ _ _ from ?_)
            refine ev_il (k_m_reads_0 7 rfl) rfl ?_
            refine ev_if_lt (k_m_reads_0 8 rfl) (fun _ => ?_) (fun c => absurd c (by decide))
            refine ev_il (k_m_reads_1 25 rfl) rfl ?_
            refine ev_if_ge (k_m_reads_1 26 rfl) (fun c => absurd c (by decide)) (fun _ => ?_)
            refine ev_ic (k_m_reads_1 27 rfl) ?_
            refine ev_goto (k_m_reads_1 28 rfl) ?_
            exact ev_zret (x := false) (k_m_reads_1 42 rfl) rfl (⟨false, rfl, _, hm692, fm692, frd_tr fr (frd_tr (frd_A8 (σ := τ) (z := (m : Int)) (i := 120 + R.length) (by omega)) (frd_tr (frd_A7 (z := cc) (i := 120 + R.length) (by omega)) (frd_tr (frd_A24 (A := A)) (frd_tr (frd_S (j := 25) (Or.inr (Or.inr rfl))) (frd_tr (frd_S (j := 4) (Or.inl rfl)) (frd_tr (frd_S (j := 5) (Or.inr (Or.inl rfl))) (frd_tr (frd_A9 (i := 120 + R.length) (by omega)) (frd_tr (frd_A10W (W := W) (fun i hi => gW2 i (Or.inl (by omega)))) frd_A6)))))))), Or.inl ⟨1, q, (by rw [← ht1]; exact (hst (by omega)).symm.trans (prws_w e1 e2)), rfl, rfl, rfl⟩⟩)
          · have l24 : A.length = 6 := mr_l hmw 24 rfl
            have l9 := mr_l hm1 9 rfl
            refine ev_is (k_m_reads_0 44 rfl) (le_b rfl) (show ev _ _ _ _ _ _ 69 [some (vA (ma 0)), some (vI ((q : Int) + 1)), some (vI (120 + (R.length : Int))), some (vI (((p : Int) + (m : Int)) + (k : Int))), none] _ _ _ _ from ?_)
            refine ev_al (k_m_reads_0 45 rfl) rfl ?_
            refine ev_get (v := vA (ma 9)) (k_m_reads_0 46 rfl) hmw.1 rfl ?_
            refine ev_il (k_m_reads_0 47 rfl) rfl ?_
            refine ev_al (k_m_reads_0 48 rfl) rfl ?_
            refine ev_get (v := vI (ws.length : Int)) (k_m_reads_0 49 rfl) hmw.1 rfl ?_
            refine ev_mias (iN := 120 + (R.length)) (k_m_reads_0 50 rfl) 9 rfl hmw fmw (by omega) (by omega) (fun h695 (hm695 : MR h695 ma (sA (sS (sA (sA (sA τ 8 ((τ.2 8).set (120 + R.length) (m : Int))) 7 ((τ.2 7).set (120 + R.length) cc)) 24 A) 25 (ws.length : Int)) 9 ((τ.2 9).set (120 + (R.length)) (ws.length : Int)))) fm695 => ?_)
            refine ev_ic (k_m_reads_0 51 rfl) ?_
            refine ev_isw (k_m_reads_0 52 rfl) (le_b rfl) (show ev _ _ _ _ _ _ 82 [some (vA (ma 0)), some (vI ((q : Int) + 1)), some (vI (120 + (R.length : Int))), some (vI (((p : Int) + (m : Int)) + (k : Int))), some (vI 0)] _ _ _ _ from ?_)
            have hmi : MR h695 ma (sA (sA (sS (sA (sA (sA τ 8 ((τ.2 8).set (120 + R.length) (m : Int))) 7 ((τ.2 7).set (120 + R.length) cc)) 24 A) 25 (ws.length : Int)) 9 ((τ.2 9).set (120 + (R.length)) (ws.length : Int))) 10 ((sA (sS (sA (sA (sA τ 8 ((τ.2 8).set (120 + R.length) (m : Int))) 7 ((τ.2 7).set (120 + R.length) cc)) 24 A) 25 (ws.length : Int)) 9 ((τ.2 9).set (120 + (R.length)) (ws.length : Int))).2 10)) := by rw [sA_self]; exact hm695
            rw [show (120 : Int) + (R.length : Int) = ((120 + R.length : Nat) : Int) by omega]
            refine lp_reads (τ := (sA (sS (sA (sA (sA τ 8 ((τ.2 8).set (120 + R.length) (m : Int))) 7 ((τ.2 7).set (120 + R.length) cc)) 24 A) 25 (ws.length : Int)) 9 ((τ.2 9).set (120 + (R.length)) (ws.length : Int)))) (cN := ws.length) (at_ := 120 + R.length) (by omega) (by omega) rfl l24 (fun hx W hmx fmx gW1 gW2 => ?_) 5 _ _ hmi fm695 0 (by omega) (fun j hj => absurd hj (by omega)) (fun i _ => rfl) (by omega)
            refine ev_al (k_m_reads_1 16 rfl) rfl ?_
            refine ev_get (v := vA (ma 6)) (k_m_reads_1 17 rfl) hmx.1 rfl ?_
            refine ev_ic (k_m_reads_1 18 rfl) ?_
            refine ev_dup2 (k_m_reads_1 19 rfl) rfl rfl ?_
            refine ev_iald (xs := τ.2 6) (k_m_reads_1 20 rfl) (mr_a hmx 6 rfl) (by omega) (by omega) (show ev _ _ _ _ _ _ _ _ (vI (gd (τ.2 6) 3) :: _) _ _ _ from ?_)
            rw [hsc.1]
            refine ev_ic (k_m_reads_1 21 rfl) ?_
            refine ev_iadd (k_m_reads_1 22 rfl) (by omega) ?_
            refine ev_mias (iN := 3) (k_m_reads_1 23 rfl) 6 rfl hmx fmx (by omega) (by omega) (fun h696 (hm696 : MR h696 ma (sA (sA (sA (sS (sA (sA (sA τ 8 ((τ.2 8).set (120 + R.length) (m : Int))) 7 ((τ.2 7).set (120 + R.length) cc)) 24 A) 25 (ws.length : Int)) 9 ((τ.2 9).set (120 + (R.length)) (ws.length : Int))) 10 W) 6 ((τ.2 6).set 3 ((R.length : Int) + 1)))) fm696 => ?_)
            refine ev_goto (k_m_reads_1 24 rfl) ?_
            refine ev_dead 2 (show ev _ _ _ _ _ _ 9 [some (vA (ma 0)), some (vI ((q : Int) + 1)), none, some (vI (((p : Int) + (m : Int)) + (k : Int))), none] _ _ _ _ from ?_)
            refine ev_dead 3 (show ev _ _ _ _ _ _ 9 [some (vA (ma 0)), some (vI ((q : Int) + 1)), none, none, none] _ _ _ _ from ?_)
            have frn : frd σ (sA (sA (sA (sS (sA (sA (sA τ 8 ((τ.2 8).set (120 + R.length) (m : Int))) 7 ((τ.2 7).set (120 + R.length) cc)) 24 A) 25 (ws.length : Int)) 9 ((τ.2 9).set (120 + (R.length)) (ws.length : Int))) 10 W) 6 ((τ.2 6).set 3 ((R.length : Int) + 1))) := frd_tr fr (frd_tr (frd_A8 (σ := τ) (z := (m : Int)) (i := 120 + R.length) (by omega)) (frd_tr (frd_A7 (z := cc) (i := 120 + R.length) (by omega)) (frd_tr (frd_A24 (A := A)) (frd_tr (frd_S (j := 25) (Or.inr (Or.inr rfl))) (frd_tr (frd_A9 (i := 120 + R.length) (by omega)) (frd_tr (frd_A10W (W := W) (fun i hi => gW2 i (Or.inl (by omega)))) frd_A6))))))
            have hsn : SCR (sA (sA (sA (sS (sA (sA (sA τ 8 ((τ.2 8).set (120 + R.length) (m : Int))) 7 ((τ.2 7).set (120 + R.length) cc)) 24 A) 25 (ws.length : Int)) 9 ((τ.2 9).set (120 + (R.length)) (ws.length : Int))) 10 W) 6 ((τ.2 6).set 3 ((R.length : Int) + 1))) (R ++ [(cc, (m : Int), ws)]) := by
              refine SCR_app hsc (by omega) (gd_set_eq _ (by omega)) (fun i hi => gd_set_ne _ (by omega)) (fun i hi => gd_set_ne _ (by omega)) (fun i hi => gd_set_ne _ (by omega)) (fun i hi => gW2 i (Or.inl (by omega))) (gd_set_eq _ (by omega)) (gd_set_eq _ (by omega)) (gd_set_eq _ (by omega)) hw4 (fun j hj => ?_) hcp hm4
              have hz := gW1 j hj
              rw [show 4 * (120 + R.length) + j = 480 + 4 * R.length + j by omega] at hz
              refine hz.trans ?_
              by_cases e : j < ws.length
              · rw [if_pos e]; exact hAw j e
              · rw [if_neg e, List.getD_eq_getElem?_getD, List.getElem?_eq_none (by omega)]; rfl
            have hqe := pwd_end e2 (by decide)
            rw [show (q : Int) + 1 = ((q + 1 : Nat) : Int) by omega]
            exact ih _ _ hm696 fm696 (q + 1) (R ++ [(cc, (m : Int), ws)]) frn hsn (by rw [← ht1]; have hz := (hst (by omega)).symm.trans (prws_s e1 e2); exact if e : q + 1 < n then Or.inl ⟨e, by rw [if_pos e] at hz; rw [hz]; simp⟩ else Or.inr (Or.inl ⟨by omega, by simp, by rw [if_neg e] at hz; exact hz⟩)) ⟨hf4.1, hf4.2⟩ (by simp; omega)
  refine ev_al (k_m_reads_0 0 rfl) rfl ?_
  refine ev_get (v := vA (ma 6)) (k_m_reads_0 1 rfl) hm.1 rfl ?_
  refine ev_ic (k_m_reads_0 2 rfl) ?_
  refine ev_ic (k_m_reads_0 3 rfl) ?_
  refine ev_mias (iN := 3) (k_m_reads_0 4 rfl) 6 rfl hm (fM_rf _) (by omega) (by omega) (fun h697 (hm697 : MR h697 ma (sA σ 6 ((σ.2 6).set 3 0))) fm697 => ?_)
  refine ev_ic (k_m_reads_0 5 rfl) ?_
  refine ev_is (k_m_reads_0 6 rfl) (le_b rfl) (show ev _ _ _ _ _ _ 9 [some (vA (ma 0)), some (vI 0), none, none, none] _ _ _ _ from ?_)
  refine loop 42 _ _ hm697 fm697 0 [] frd_A6 ⟨gd_set_eq _ (by omega), by simp, fun i hi => absurd hi (by simp)⟩ (by by_cases e : n = 0; exact Or.inr (Or.inr ⟨e, rfl, rfl⟩); exact Or.inl ⟨by omega, rfl⟩) ⟨rfl, rfl⟩ (by simp)
