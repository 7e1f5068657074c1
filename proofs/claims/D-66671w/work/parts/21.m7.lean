def ou (o : Option Nat) : Int := match o with
  | none => -1
  | some j => ((120 + j : Nat) : Int)
theorem pw_code {T : Nat → Int} {p k : Nat} (hT : ∀ j, j < k → 48 ≤ T (p + j) ∧ T (p + j) ≤ 57) : 10 ^ k ≤ pw 10 48 1 T p k ∧ pw 10 48 1 T p k < 2 * 10 ^ k := by
  induction k with
  | zero => simp [pw]
  | succ k ih =>
    have h1 := ih (fun j hj => hT j (by omega))
    have h2 := hT k (by omega)
    simp only [pw, Int.pow_succ]
    omega
theorem pw_pos {T : Nat → Int} {n p k : Nat} (hk : rn T 1 p n = k) : 0 < pw 10 48 1 T p k := by
  have h1 := (pw_code (T := T) (p := p) (k := k) (fun j hj => rn_digs (n := n) (by rw [hk]; exact hj))).1
  have h2 : (0 : Int) < 10 ^ k := Int.pow_pos (by decide)
  omega
theorem abv_O {σ : sg_T} {R : List rw_T} (hs : SCR σ R) (hl : (σ.2 8).length = 160) (hR : R.length < 40) (m : Nat) : abv ((σ.2 8).set (120 + R.length) (m : Int)) 120 (120 + R.length) = ou (upx R m) := by
  rw [abv_R hs hl hR m]; cases upx R m <;> rfl
set_option maxHeartbeats 4000000 in
theorem c_m_readsCode (G : gt_T) (ma : Nat → Nat) (σ : sg_T) (h : ab_H) (hm : MR h ma σ) (n : Nat) (hn0 : σ.1 2 = (n : Int)) (hn4 : n ≤ 400) (R : List rw_T) (hs : SCR σ R) (p : Nat) (hp : p < n) : ct G M_m_readsCode 4 96 0 0 [vA (ma 0), vI (p : Int)] h (rB fun z h' => ∃ σ', MR h' ma σ' ∧ fM h h' ∧ ((∃ (y : Int) (pl : Nat), pcod (gd (σ.2 1)) n R p = .inl (y, pl) ∧ z = false ∧ frd σ σ' ∧ σ'.1 4 = y ∧ σ'.1 5 = (pl : Int) ∧ pl ≤ 400) ∨ (∃ (m k : Nat) (cc : Int), pcod (gd (σ.2 1)) n R p = .inr (m, k, cc) ∧ z = true ∧ σ' = sA (sA σ 8 ((σ.2 8).set (120 + R.length) (m : Int))) 7 ((σ.2 7).set (120 + R.length) cc) ∧ 0 < cc ∧ m ≤ 4 ∧ p + m + k ≤ n ∧ pw 10 48 1 (gd (σ.2 1)) (p + m) k = cc))) nT := by
  show ev _ _ _ _ _ _ 0 [some (vA (ma 0)), some (vI (p : Int)), none, none, none, none, none, none] [] _ _ _
  have l1 := mr_l hm 1 rfl
  have l6 := mr_l hm 6 rfl
  have l7 := mr_l hm 7 rfl
  have l8 := mr_l hm 8 rfl
  have hR40 := hs.2.1
  have hlast : R.length ≠ 0 → 0 < rc R (R.length - 1) ∧ 0 ≤ rd R (R.length - 1) ∧ rd R (R.length - 1) ≤ 4 := fun q => (hs.2.2 (R.length - 1) (by omega)).2.2.2.2.2
  refine ev_al (k_m_readsCode_0 0 rfl) rfl ?_
  refine ev_get (v := vA (ma 6)) (k_m_readsCode_0 1 rfl) hm.1 rfl ?_
  refine ev_ic (k_m_readsCode_0 2 rfl) ?_
  refine ev_iald (xs := σ.2 6) (k_m_readsCode_0 3 rfl) (mr_a hm 6 rfl) (by omega) (by omega) (show ev _ _ _ _ _ _ _ _ (vI (gd (σ.2 6) 3) :: _) _ _ _ from ?_)
  rw [hs.1]
  refine ev_is (k_m_readsCode_0 4 rfl) (le_b rfl) (show ev _ _ _ _ _ _ 7 [some (vA (ma 0)), some (vI (p : Int)), some (vI (R.length : Int)), none, none, none, none, none] _ _ _ _ from ?_)
  refine ev_bp (k_m_readsCode_0 5 rfl) ?_
  refine ev_il (k_m_readsCode_0 6 rfl) rfl ?_
  refine ev_iadd (k_m_readsCode_0 7 rfl) (by omega) ?_
  refine ev_is (k_m_readsCode_0 8 rfl) (le_b rfl) (show ev _ _ _ _ _ _ 12 [some (vA (ma 0)), some (vI (p : Int)), some (vI (R.length : Int)), some (vI (120 + (R.length : Int))), none, none, none, none] _ _ _ _ from ?_)
  refine ev_al (k_m_readsCode_0 9 rfl) rfl ?_
  refine ev_il (k_m_readsCode_0 10 rfl) rfl ?_
  refine ev_ic (k_m_readsCode_0 11 rfl) ?_
  refine ev_cV (k_m_readsCode_0 12 rfl) rfl v_m_run hm.1 rfl (c_m_run G ma _ _ hm n p 0 hn0 hn4 (by omega)) rfl (le_b rfl) (le_b rfl) (le_b rfl) k_n (k_I fun z331 h331 q331 => ?_)
  obtain ⟨rfl, (rfl : z331 = ((rn (gd (σ.2 1)) 0 p (n - p) : Nat) : Int))⟩ := q331
  have rl331 := rn_le (gd (σ.2 1)) 0 (n - p) p
  generalize hk331 : rn (gd (σ.2 1)) 0 p (n - p) = k331 at rl331 ⊢
  refine ev_isw (k_m_readsCode_0 13 rfl) (le_b rfl) (show ev _ _ _ _ _ _ 20 [some (vA (ma 0)), some (vI (p : Int)), some (vI (R.length : Int)), some (vI (120 + (R.length : Int))), some (vI (k331 : Int)), none, none, none] _ _ _ _ from ?_)
  refine ev_il (k_m_readsCode_0 14 rfl) rfl ?_
  refine ev_ilw (k_m_readsCode_0 15 rfl) rfl ?_
  refine ev_iadd (k_m_readsCode_0 16 rfl) (by omega) ?_
  refine ev_isw (k_m_readsCode_0 17 rfl) (le_b rfl) (show ev _ _ _ _ _ _ 26 [some (vA (ma 0)), some (vI (p : Int)), some (vI (R.length : Int)), some (vI (120 + (R.length : Int))), some (vI (k331 : Int)), some (vI ((p : Int) + (k331 : Int))), none, none] _ _ _ _ from ?_)
  refine ev_ilw (k_m_readsCode_0 18 rfl) rfl ?_
  refine ev_if_ne (k_m_readsCode_0 19 rfl) (fun c332 => ?_) (fun c332 => ?_)
  · refine ev_ilw (k_m_readsCode_0 31 rfl) rfl ?_
    refine ev_il (k_m_readsCode_0 32 rfl) rfl ?_
    refine ev_if_ne (k_m_readsCode_0 33 rfl) (fun c333 => ?_) (fun c333 => ?_)
    · refine ev_al (k_m_readsCode_0 36 rfl) rfl ?_
      refine ev_get (v := vA (ma 8)) (k_m_readsCode_0 37 rfl) hm.1 rfl ?_
      refine ev_il (k_m_readsCode_0 38 rfl) rfl ?_
      refine ev_ic (k_m_readsCode_0 39 rfl) ?_
      refine ev_isub (k_m_readsCode_0 40 rfl) (by omega) ?_
      refine ev_iald (xs := σ.2 8) (k_m_readsCode_0 41 rfl) (mr_a hm 8 rfl) (by omega) (by omega) (show ev _ _ _ _ _ _ _ _ (vI (gd (σ.2 8) ((120 + (R.length : Int)) - 1).toNat) :: _) _ _ _ from ?_)
      rw [show ((120 + (R.length : Int)) - 1).toNat = 120 + (R.length - 1) by omega, (hs.2.2 (R.length - 1) (by omega)).2.1]
      refine ev_ic (k_m_readsCode_0 42 rfl) ?_
      refine ev_iadd (k_m_readsCode_0 43 rfl) (by omega) ?_
      refine ev_ic_le (k_m_readsCode_0 44 rfl) (fun c334 => ?_) (fun c334 => ?_)
      · refine ev_il (k_m_readsCode_0 50 rfl) rfl ?_
        refine ev_bp (k_m_readsCode_0 51 rfl) ?_
        refine ev_ic_ne (k_m_readsCode_0 52 rfl) (fun c335 => ?_) (fun c335 => ?_)
        · refine ev_ilw (k_m_readsCode_0 58 rfl) rfl ?_
          refine ev_ic (k_m_readsCode_0 59 rfl) ?_
          refine ev_ic_le (k_m_readsCode_1 0 rfl) (fun c336 => ?_) (fun c336 => ?_)
          · refine ev_al (k_m_readsCode_1 8 rfl) rfl ?_
            refine ev_ilw (k_m_readsCode_1 9 rfl) rfl ?_
            refine ev_ic (k_m_readsCode_1 10 rfl) ?_
            refine ev_cV (k_m_readsCode_1 11 rfl) rfl v_m_run hm.1 rfl (c_m_run G ma _ _ hm n ((p) + (k331)) 1 hn0 hn4 (by omega)) rfl (le_b rfl) (le_b rfl) (le_b rfl) k_n (k_I fun z337 h337 q337 => ?_)
            obtain ⟨rfl, (rfl : z337 = ((rn (gd (σ.2 1)) 1 ((p) + (k331)) (n - ((p) + (k331))) : Nat) : Int))⟩ := q337
            have rl337 := rn_le (gd (σ.2 1)) 1 (n - ((p) + (k331))) ((p) + (k331))
            generalize hk337 : rn (gd (σ.2 1)) 1 ((p) + (k331)) (n - ((p) + (k331))) = k337 at rl337 ⊢
            refine ev_isw (k_m_readsCode_1 12 rfl) (le_b rfl) (show ev _ _ _ _ _ _ 117 [some (vA (ma 0)), some (vI (p : Int)), some (vI (R.length : Int)), some (vI (120 + (R.length : Int))), some (vI (k331 : Int)), some (vI ((p : Int) + (k331 : Int))), some (vI (k337 : Int)), none] _ _ _ _ from ?_)
            refine ev_ilw (k_m_readsCode_1 13 rfl) rfl ?_
            refine ev_if_ne (k_m_readsCode_1 14 rfl) (fun c338 => ?_) (fun c338 => ?_)
            · refine ev_ilw (k_m_readsCode_1 20 rfl) rfl ?_
              refine ev_bp (k_m_readsCode_1 21 rfl) ?_
              refine ev_ic_gt (k_m_readsCode_1 22 rfl) (fun c339 => ?_) (fun c339 => ?_)
              · refine ev_al (k_m_readsCode_1 28 rfl) rfl ?_
                refine ev_ic (k_m_readsCode_1 29 rfl) ?_
                refine ev_ilw (k_m_readsCode_1 30 rfl) rfl ?_
                refine ev_bp (k_m_readsCode_1 31 rfl) ?_
                refine ev_ic_le (k_m_readsCode_1 32 rfl) (fun c340 => ?_) (fun c340 => ?_)
                · refine ev_ilw (k_m_readsCode_1 37 rfl) rfl ?_
                  refine ev_ilw (k_m_readsCode_1 38 rfl) rfl ?_
                  refine ev_iadd (k_m_readsCode_1 39 rfl) (by omega) ?_
                  refine ev_cV (k_m_readsCode_1 40 rfl) rfl v_m_fails hm.1 rfl (c_m_fails G ma _ _ hm 1 (((p : Int) + (k331 : Int)) + (k337 : Int))) rfl (le_b rfl) (le_b rfl) (le_b rfl) k_n (k_B fun z341 h341 q341 => ?_)
                  obtain ⟨rfl, hm341, fmx341⟩ := q341
                  have fm341 := fM_tr (fM_rf _) fmx341
                  exact ev_zret (x := false) (k_m_readsCode_1 41 rfl) rfl (⟨false, rfl, _, hm341, fm341, Or.inl ⟨1, ((p) + (k331)) + (k337), by first | (exfalso; omega) | (unfold pcod; rw [hk331]; unfold pcA; rw [if_neg (by rintro ⟨x, y⟩; first | omega | exact y ⟨by omega, by assumption⟩), if_neg (by split <;> omega), if_neg (by omega), if_neg (by omega), hk337]; unfold pcB; first | rw [if_neg (by omega), if_pos (by omega)] | rw [if_neg (by omega), if_neg (by omega), if_pos (by omega)]), rfl, by first | exact frd_tr (frd_S (Or.inl rfl)) (frd_S (Or.inr (Or.inl rfl))) | exact frd_tr (frd_tr (frd_A8 (by omega)) (frd_A7 (by omega))) (frd_tr (frd_S (Or.inl rfl)) (frd_S (Or.inr (Or.inl rfl)))), rfl, by simp [sS], by omega⟩⟩)
                · refine ev_ilw (k_m_readsCode_1 33 rfl) rfl ?_
                  refine ev_bp (k_m_readsCode_1 34 rfl) ?_
                  refine ev_iadd (k_m_readsCode_1 35 rfl) (by omega) ?_
                  refine ev_goto (k_m_readsCode_1 36 rfl) ?_
                  refine ev_cV (k_m_readsCode_1 40 rfl) rfl v_m_fails hm.1 rfl (c_m_fails G ma _ _ hm 1 (((p : Int) + (k331 : Int)) + 10)) rfl (le_b rfl) (le_b rfl) (le_b rfl) k_n (k_B fun z342 h342 q342 => ?_)
                  obtain ⟨rfl, hm342, fmx342⟩ := q342
                  have fm342 := fM_tr (fM_rf _) fmx342
                  exact ev_zret (x := false) (k_m_readsCode_1 41 rfl) rfl (⟨false, rfl, _, hm342, fm342, Or.inl ⟨1, ((p) + (k331)) + 10, by first | (exfalso; omega) | (unfold pcod; rw [hk331]; unfold pcA; rw [if_neg (by rintro ⟨x, y⟩; first | omega | exact y ⟨by omega, by assumption⟩), if_neg (by split <;> omega), if_neg (by omega), if_neg (by omega), hk337]; unfold pcB; first | rw [if_neg (by omega), if_pos (by omega)] | rw [if_neg (by omega), if_neg (by omega), if_pos (by omega)]), rfl, by first | exact frd_tr (frd_S (Or.inl rfl)) (frd_S (Or.inr (Or.inl rfl))) | exact frd_tr (frd_tr (frd_A8 (by omega)) (frd_A7 (by omega))) (frd_tr (frd_S (Or.inl rfl)) (frd_S (Or.inr (Or.inl rfl)))), rfl, by simp [sS], by omega⟩⟩)
              · refine ev_ilw (k_m_readsCode_1 23 rfl) rfl ?_
                refine ev_ic (k_m_readsCode_1 24 rfl) ?_
                refine ev_irem (k_m_readsCode_1 25 rfl) (by omega) (by omega) ?_
                refine ev_ic (k_m_readsCode_1 26 rfl) ?_
                refine ev_ic_ne (k_m_readsCode_1 27 rfl) (fun c343 => ?_) (fun c343 => ?_)
                · refine ev_al (k_m_readsCode_1 42 rfl) rfl ?_
                  refine ev_get (v := vA (ma 8)) (k_m_readsCode_1 43 rfl) hm.1 rfl ?_
                  refine ev_il (k_m_readsCode_1 44 rfl) rfl ?_
                  refine ev_ilw (k_m_readsCode_1 45 rfl) rfl ?_
                  refine ev_mias (iN := 120 + (R.length)) (k_m_readsCode_1 46 rfl) 8 rfl hm (fM_rf _) (by omega) (by omega) (fun h344 (hm344 : MR h344 ma (sA σ 8 ((σ.2 8).set (120 + (R.length)) (k331 : Int)))) fm344 => ?_)
                  refine ev_al (k_m_readsCode_1 47 rfl) rfl ?_
                  refine ev_get (v := vA (ma 7)) (k_m_readsCode_1 48 rfl) hm344.1 rfl ?_
                  refine ev_il (k_m_readsCode_1 49 rfl) rfl ?_
                  refine ev_al (k_m_readsCode_1 50 rfl) rfl ?_
                  refine ev_ilw (k_m_readsCode_1 51 rfl) rfl ?_
                  refine ev_ilw (k_m_readsCode_1 52 rfl) rfl ?_
                  refine ev_cV (k_m_readsCode_1 53 rfl) rfl v_m_codeAt hm344.1 rfl (c_m_codeAt G ma _ _ hm344 ((p) + (k331)) k337 (by (try simp only [sS]); omega) (by (try simp only [sS]); omega) (fun j hj => rn_digs (T := gd (σ.2 1)) (n := n - ((p) + (k331))) (by rw [hk337]; exact hj))) rfl (le_b rfl) (le_b rfl) (le_b rfl) k_n (k_L fun z345 h345 q345 => ?_)
                  obtain ⟨rfl, (rfl : z345 = pw 10 48 1 (gd (σ.2 1)) ((p) + (k331)) k337)⟩ := q345
                  have hcb : 0 < pw 10 48 1 (gd (σ.2 1)) ((p) + (k331)) k337 := pw_pos hk337
                  generalize hcc : pw 10 48 1 (gd (σ.2 1)) ((p) + (k331)) k337 = cc at hcb ⊢
                  refine ev_mlas (iN := 120 + (R.length)) (k_m_readsCode_1 54 rfl) 7 rfl hm344 fm344 (by omega) (by omega) (fun h346 (hm346 : MR h346 ma (sA (sA σ 8 ((σ.2 8).set (120 + (R.length)) (k331 : Int))) 7 ((σ.2 7).set (120 + (R.length)) cc))) fm346 => ?_)
                  refine ev_al (k_m_readsCode_1 55 rfl) rfl ?_
                  refine ev_bp (k_m_readsCode_1 56 rfl) ?_
                  refine ev_il (k_m_readsCode_1 57 rfl) rfl ?_
                  refine ev_cV (k_m_readsCode_1 58 rfl) rfl v_m_above hm346.1 rfl (c_m_above G ma _ _ hm346 120 (120 + (R.length)) (by (try simp only [sS]); omega) (by (try simp only [sS]); omega) (by show 0 ≤ gd ((σ.2 8).set (120 + R.length) _) (120 + R.length); rw [gd_set_eq _ (by (try simp only [sS]); omega)]; omega)) rfl (le_b rfl) (le_b rfl) (le_b rfl) k_n (k_I fun z347 h347 q347 => ?_)
                  obtain ⟨rfl, (rfl : z347 = abv (((σ.2 8).set (120 + (R.length)) (k331 : Int))) 120 (120 + (R.length)))⟩ := q347
                  rw [show abv _ _ _ = ou (upx R k331) from abv_O hs l8 (by omega) k331]
                  cases hU : upx R k331 with
                  | none =>
                      show ev _ _ _ _ _ _ _ _ (vI (-1) :: _) _ _ _
                      refine ev_isw (k_m_readsCode_1 59 rfl) (le_b rfl) (show ev _ _ _ _ _ _ 202 [some (vA (ma 0)), some (vI (p : Int)), some (vI (R.length : Int)), some (vI (120 + (R.length : Int))), some (vI (k331 : Int)), some (vI ((p : Int) + (k331 : Int))), some (vI (k337 : Int)), some (vI (-1))] _ _ _ _ from ?_)
                      refine ev_ilw (k_m_readsCode_2 0 rfl) rfl ?_
                      refine ev_if_ne (k_m_readsCode_2 1 rfl) (fun c348 => ?_) (fun c348 => ?_)
                      · refine ev_ilw (k_m_readsCode_2 5 rfl) rfl ?_
                        refine ev_if_le (k_m_readsCode_2 6 rfl) (fun c349 => ?_) (fun c349 => ?_)
                        · refine ev_il (k_m_readsCode_2 26 rfl) rfl ?_
                          refine ev_if_eq (k_m_readsCode_2 27 rfl) (fun c350 => ?_) (fun c350 => ?_)
                          · refine ev_ic (k_m_readsCode_2 45 rfl) ?_
                            refine ev_goto (k_m_readsCode_2 46 rfl) ?_
                            exact ev_zret (x := true) (k_m_readsCode_2 48 rfl) rfl (⟨true, rfl, _, hm346, fm346, Or.inr ⟨k331, k337, cc, by unfold pcod; rw [hk331]; unfold pcA; rw [if_neg (by rintro ⟨x, y⟩; first | omega | exact y ⟨by omega, by assumption⟩), if_neg (by split <;> omega), if_neg (by omega), if_neg (by omega), hk337]; unfold pcB; rw [if_neg (by omega), if_neg (by omega), if_neg (by omega), hcc]; unfold pcC; rw [if_neg (by rintro (⟨x, y⟩ | ⟨x, y⟩); omega; first | omega | (rw [upc_u hU] at y; exact absurd (Eq.trans y.symm (by assumption : _ = true)) (by decide)) | (rw [upc_s hU] at y; exact absurd (Eq.trans y.symm (by assumption : _ = true)) (by decide))), if_neg (by rintro ⟨x, y⟩; first | omega | exact absurd (Eq.trans y.symm (by assumption : _ = true)) (by decide))], rfl, rfl, hcb, by omega, by omega, hcc⟩⟩)
                          · refine ev_al (k_m_readsCode_2 28 rfl) rfl ?_
                            refine ev_get (v := vA (ma 7)) (k_m_readsCode_2 29 rfl) hm346.1 rfl ?_
                            refine ev_il (k_m_readsCode_2 30 rfl) rfl ?_
                            refine ev_lald (xs := ((σ.2 7).set (120 + (R.length)) cc)) (k_m_readsCode_2 31 rfl) (mr_a hm346 7 rfl) (by omega) (by simp only [List.length_set]; omega) (show ev _ _ _ _ _ _ _ _ (vL (gd ((σ.2 7).set (120 + (R.length)) cc) (120 + (R.length))) :: _) _ _ _ from ?_)
                            rw [gd_set_eq _ (by omega)]
                            refine ev_al (k_m_readsCode_2 32 rfl) rfl ?_
                            refine ev_get (v := vA (ma 7)) (k_m_readsCode_2 33 rfl) hm346.1 rfl ?_
                            refine ev_il (k_m_readsCode_2 34 rfl) rfl ?_
                            refine ev_ic (k_m_readsCode_2 35 rfl) ?_
                            refine ev_isub (k_m_readsCode_2 36 rfl) (by omega) ?_
                            refine ev_lald (xs := ((σ.2 7).set (120 + (R.length)) cc)) (k_m_readsCode_2 37 rfl) (mr_a hm346 7 rfl) (by omega) (by simp only [List.length_set]; omega) (show ev _ _ _ _ _ _ _ _ (vL (gd ((σ.2 7).set (120 + (R.length)) cc) ((120 + (R.length : Int)) - 1).toNat) :: _) _ _ _ from ?_)
                            rw [show ((120 + (R.length : Int)) - 1).toNat = 120 + (R.length - 1) by omega, gd_set_ne _ (by omega), (hs.2.2 (R.length - 1) (by omega)).1]
                            refine ev_cS (k_m_readsCode_2 38 rfl) rfl v_m_isBehind (c_m_isBehind G _ cc (rc R (R.length - 1)) (by (try simp only [sS]); omega) (by (try simp only [sS]); omega)) rfl (le_b rfl) (le_b rfl) (le_b rfl) k_n (k_B fun z351 h351 q351 => ?_)
                            obtain ⟨rfl, (rfl : z351 = (bhd cc (rc R (R.length - 1))))⟩ := q351
                            refine ev_b_ne (k_m_readsCode_2 39 rfl) (fun c352 => ?_) (fun c352 => ?_)
                            · refine ev_ic (k_m_readsCode_2 45 rfl) ?_
                              refine ev_goto (k_m_readsCode_2 46 rfl) ?_
                              exact ev_zret (x := true) (k_m_readsCode_2 48 rfl) rfl (⟨true, rfl, _, hm346, fm346, Or.inr ⟨k331, k337, cc, by unfold pcod; rw [hk331]; unfold pcA; rw [if_neg (by rintro ⟨x, y⟩; first | omega | exact y ⟨by omega, by assumption⟩), if_neg (by split <;> omega), if_neg (by omega), if_neg (by omega), hk337]; unfold pcB; rw [if_neg (by omega), if_neg (by omega), if_neg (by omega), hcc]; unfold pcC; rw [if_neg (by rintro (⟨x, y⟩ | ⟨x, y⟩); omega; first | omega | (rw [upc_u hU] at y; exact absurd (Eq.trans y.symm (by assumption : _ = true)) (by decide)) | (rw [upc_s hU] at y; exact absurd (Eq.trans y.symm (by assumption : _ = true)) (by decide))), if_neg (by rintro ⟨x, y⟩; first | omega | exact absurd (Eq.trans y.symm (by assumption : _ = true)) (by decide))], rfl, rfl, hcb, by omega, by omega, hcc⟩⟩)
                            · refine ev_al (k_m_readsCode_2 40 rfl) rfl ?_
                              refine ev_ic (k_m_readsCode_2 41 rfl) ?_
                              refine ev_ilw (k_m_readsCode_2 42 rfl) rfl ?_
                              refine ev_cV (k_m_readsCode_2 43 rfl) rfl v_m_fails hm346.1 rfl (c_m_fails G ma _ _ hm346 4 ((p : Int) + (k331 : Int))) rfl (le_b rfl) (le_b rfl) (le_b rfl) k_n (k_B fun z353 h353 q353 => ?_)
                              obtain ⟨rfl, hm353, fmx353⟩ := q353
                              have fm353 := fM_tr fm346 fmx353
                              refine ev_if_eq (k_m_readsCode_2 44 rfl) (fun _ => ?_) (fun c => absurd c (by decide))
                              refine ev_ic (k_m_readsCode_2 47 rfl) ?_
                              exact ev_zret (x := false) (k_m_readsCode_2 48 rfl) rfl (⟨false, rfl, _, hm353, fm353, Or.inl ⟨4, (p) + (k331), by first | (exfalso; omega) | (unfold pcod; rw [hk331]; unfold pcA; rw [if_neg (by rintro ⟨x, y⟩; first | omega | exact y ⟨by omega, by assumption⟩), if_neg (by split <;> omega), if_neg (by omega), if_neg (by omega), hk337]; unfold pcB; rw [if_neg (by omega), if_neg (by omega), if_neg (by omega), hcc]; unfold pcC; rw [if_neg (by rintro (⟨x, y⟩ | ⟨x, y⟩); omega; first | omega | (rw [upc_u hU] at y; exact absurd (Eq.trans y.symm (by assumption : _ = true)) (by decide)) | (rw [upc_s hU] at y; exact absurd (Eq.trans y.symm (by assumption : _ = true)) (by decide))), if_pos ⟨by omega, by assumption⟩]), rfl, by first | exact frd_tr (frd_S (Or.inl rfl)) (frd_S (Or.inr (Or.inl rfl))) | exact frd_tr (frd_tr (frd_A8 (by omega)) (frd_A7 (by omega))) (frd_tr (frd_S (Or.inl rfl)) (frd_S (Or.inr (Or.inl rfl)))), rfl, by simp [sS], by omega⟩⟩)
                        · refine ev_al (k_m_readsCode_2 7 rfl) rfl ?_
                          refine ev_get (v := vA (ma 7)) (k_m_readsCode_2 8 rfl) hm346.1 rfl ?_
                          refine ev_il (k_m_readsCode_2 9 rfl) rfl ?_
                          refine ev_lald (xs := ((σ.2 7).set (120 + (R.length)) cc)) (k_m_readsCode_2 10 rfl) (mr_a hm346 7 rfl) (by omega) (by simp only [List.length_set]; omega) (show ev _ _ _ _ _ _ _ _ (vL (gd ((σ.2 7).set (120 + (R.length)) cc) (120 + (R.length))) :: _) _ _ _ from ?_)
                          rw [gd_set_eq _ (by omega)]
                          refine ev_al (k_m_readsCode_2 11 rfl) rfl ?_
                          refine ev_get (v := vA (ma 7)) (k_m_readsCode_2 12 rfl) hm346.1 rfl ?_
                          refine ev_ilw (k_m_readsCode_2 13 rfl) rfl ?_
                          refine ev_if_ge (k_m_readsCode_2 14 rfl) (fun c => absurd c (by decide)) (fun _ => ?_)
                          refine ev_il (k_m_readsCode_2 15 rfl) rfl ?_
                          refine ev_goto (k_m_readsCode_2 16 rfl) ?_
                          refine ev_lald (xs := ((σ.2 7).set (120 + (R.length)) cc)) (k_m_readsCode_2 18 rfl) (mr_a hm346 7 rfl) (by omega) (by simp only [List.length_set]; omega) (show ev _ _ _ _ _ _ _ _ (vL (gd ((σ.2 7).set (120 + (R.length)) cc) (120 + (R.length))) :: _) _ _ _ from ?_)
                          rw [gd_set_eq _ (by omega)]
                          refine ev_cS (k_m_readsCode_2 19 rfl) rfl v_m_begins (c_m_begins G _ cc cc (by (try simp only [sS]); omega)) rfl (le_b rfl) (le_b rfl) (le_b rfl) k_n (k_B fun z356 h356 q356 => ?_)
                          obtain ⟨rfl, (rfl : z356 = (bgn cc cc))⟩ := q356
                          refine ev_b_ne (k_m_readsCode_2 20 rfl) (fun c357 => ?_) (fun c357 => ?_)
                          · refine ev_il (k_m_readsCode_2 26 rfl) rfl ?_
                            refine ev_if_eq (k_m_readsCode_2 27 rfl) (fun c358 => ?_) (fun c358 => ?_)
                            · refine ev_ic (k_m_readsCode_2 45 rfl) ?_
                              refine ev_goto (k_m_readsCode_2 46 rfl) ?_
                              exact ev_zret (x := true) (k_m_readsCode_2 48 rfl) rfl (⟨true, rfl, _, hm346, fm346, Or.inr ⟨k331, k337, cc, by unfold pcod; rw [hk331]; unfold pcA; rw [if_neg (by rintro ⟨x, y⟩; first | omega | exact y ⟨by omega, by assumption⟩), if_neg (by split <;> omega), if_neg (by omega), if_neg (by omega), hk337]; unfold pcB; rw [if_neg (by omega), if_neg (by omega), if_neg (by omega), hcc]; unfold pcC; rw [if_neg (by rintro (⟨x, y⟩ | ⟨x, y⟩); omega; first | omega | (rw [upc_u hU] at y; exact absurd (Eq.trans y.symm (by assumption : _ = true)) (by decide)) | (rw [upc_s hU] at y; exact absurd (Eq.trans y.symm (by assumption : _ = true)) (by decide))), if_neg (by rintro ⟨x, y⟩; first | omega | exact absurd (Eq.trans y.symm (by assumption : _ = true)) (by decide))], rfl, rfl, hcb, by omega, by omega, hcc⟩⟩)
                            · refine ev_al (k_m_readsCode_2 28 rfl) rfl ?_
                              refine ev_get (v := vA (ma 7)) (k_m_readsCode_2 29 rfl) hm346.1 rfl ?_
                              refine ev_il (k_m_readsCode_2 30 rfl) rfl ?_
                              refine ev_lald (xs := ((σ.2 7).set (120 + (R.length)) cc)) (k_m_readsCode_2 31 rfl) (mr_a hm346 7 rfl) (by omega) (by simp only [List.length_set]; omega) (show ev _ _ _ _ _ _ _ _ (vL (gd ((σ.2 7).set (120 + (R.length)) cc) (120 + (R.length))) :: _) _ _ _ from ?_)
                              rw [gd_set_eq _ (by omega)]
                              refine ev_al (k_m_readsCode_2 32 rfl) rfl ?_
                              refine ev_get (v := vA (ma 7)) (k_m_readsCode_2 33 rfl) hm346.1 rfl ?_
                              refine ev_il (k_m_readsCode_2 34 rfl) rfl ?_
                              refine ev_ic (k_m_readsCode_2 35 rfl) ?_
                              refine ev_isub (k_m_readsCode_2 36 rfl) (by omega) ?_
                              refine ev_lald (xs := ((σ.2 7).set (120 + (R.length)) cc)) (k_m_readsCode_2 37 rfl) (mr_a hm346 7 rfl) (by omega) (by simp only [List.length_set]; omega) (show ev _ _ _ _ _ _ _ _ (vL (gd ((σ.2 7).set (120 + (R.length)) cc) ((120 + (R.length : Int)) - 1).toNat) :: _) _ _ _ from ?_)
                              rw [show ((120 + (R.length : Int)) - 1).toNat = 120 + (R.length - 1) by omega, gd_set_ne _ (by omega), (hs.2.2 (R.length - 1) (by omega)).1]
                              refine ev_cS (k_m_readsCode_2 38 rfl) rfl v_m_isBehind (c_m_isBehind G _ cc (rc R (R.length - 1)) (by (try simp only [sS]); omega) (by (try simp only [sS]); omega)) rfl (le_b rfl) (le_b rfl) (le_b rfl) k_n (k_B fun z359 h359 q359 => ?_)
                              obtain ⟨rfl, (rfl : z359 = (bhd cc (rc R (R.length - 1))))⟩ := q359
                              refine ev_b_ne (k_m_readsCode_2 39 rfl) (fun c360 => ?_) (fun c360 => ?_)
                              · refine ev_ic (k_m_readsCode_2 45 rfl) ?_
                                refine ev_goto (k_m_readsCode_2 46 rfl) ?_
                                exact ev_zret (x := true) (k_m_readsCode_2 48 rfl) rfl (⟨true, rfl, _, hm346, fm346, Or.inr ⟨k331, k337, cc, by unfold pcod; rw [hk331]; unfold pcA; rw [if_neg (by rintro ⟨x, y⟩; first | omega | exact y ⟨by omega, by assumption⟩), if_neg (by split <;> omega), if_neg (by omega), if_neg (by omega), hk337]; unfold pcB; rw [if_neg (by omega), if_neg (by omega), if_neg (by omega), hcc]; unfold pcC; rw [if_neg (by rintro (⟨x, y⟩ | ⟨x, y⟩); omega; first | omega | (rw [upc_u hU] at y; exact absurd (Eq.trans y.symm (by assumption : _ = true)) (by decide)) | (rw [upc_s hU] at y; exact absurd (Eq.trans y.symm (by assumption : _ = true)) (by decide))), if_neg (by rintro ⟨x, y⟩; first | omega | exact absurd (Eq.trans y.symm (by assumption : _ = true)) (by decide))], rfl, rfl, hcb, by omega, by omega, hcc⟩⟩)
                              · refine ev_al (k_m_readsCode_2 40 rfl) rfl ?_
                                refine ev_ic (k_m_readsCode_2 41 rfl) ?_
                                refine ev_ilw (k_m_readsCode_2 42 rfl) rfl ?_
                                refine ev_cV (k_m_readsCode_2 43 rfl) rfl v_m_fails hm346.1 rfl (c_m_fails G ma _ _ hm346 4 ((p : Int) + (k331 : Int))) rfl (le_b rfl) (le_b rfl) (le_b rfl) k_n (k_B fun z361 h361 q361 => ?_)
                                obtain ⟨rfl, hm361, fmx361⟩ := q361
                                have fm361 := fM_tr fm346 fmx361
                                refine ev_if_eq (k_m_readsCode_2 44 rfl) (fun _ => ?_) (fun c => absurd c (by decide))
                                refine ev_ic (k_m_readsCode_2 47 rfl) ?_
                                exact ev_zret (x := false) (k_m_readsCode_2 48 rfl) rfl (⟨false, rfl, _, hm361, fm361, Or.inl ⟨4, (p) + (k331), by first | (exfalso; omega) | (unfold pcod; rw [hk331]; unfold pcA; rw [if_neg (by rintro ⟨x, y⟩; first | omega | exact y ⟨by omega, by assumption⟩), if_neg (by split <;> omega), if_neg (by omega), if_neg (by omega), hk337]; unfold pcB; rw [if_neg (by omega), if_neg (by omega), if_neg (by omega), hcc]; unfold pcC; rw [if_neg (by rintro (⟨x, y⟩ | ⟨x, y⟩); omega; first | omega | (rw [upc_u hU] at y; exact absurd (Eq.trans y.symm (by assumption : _ = true)) (by decide)) | (rw [upc_s hU] at y; exact absurd (Eq.trans y.symm (by assumption : _ = true)) (by decide))), if_pos ⟨by omega, by assumption⟩]), rfl, by first | exact frd_tr (frd_S (Or.inl rfl)) (frd_S (Or.inr (Or.inl rfl))) | exact frd_tr (frd_tr (frd_A8 (by omega)) (frd_A7 (by omega))) (frd_tr (frd_S (Or.inl rfl)) (frd_S (Or.inr (Or.inl rfl)))), rfl, by simp [sS], by omega⟩⟩)
                          · refine ev_al (k_m_readsCode_2 21 rfl) rfl ?_
                            refine ev_ic (k_m_readsCode_2 22 rfl) ?_
                            refine ev_ilw (k_m_readsCode_2 23 rfl) rfl ?_
                            refine ev_cV (k_m_readsCode_2 24 rfl) rfl v_m_fails hm346.1 rfl (c_m_fails G ma _ _ hm346 3 ((p : Int) + (k331 : Int))) rfl (le_b rfl) (le_b rfl) (le_b rfl) k_n (k_B fun z363 h363 q363 => ?_)
                            obtain ⟨rfl, hm363, fmx363⟩ := q363
                            have fm363 := fM_tr fm346 fmx363
                            exact ev_zret (x := false) (k_m_readsCode_2 25 rfl) rfl (⟨false, rfl, _, hm363, fm363, Or.inl ⟨3, (p) + (k331), by first | (exfalso; omega) | (unfold pcod; rw [hk331]; unfold pcA; rw [if_neg (by rintro ⟨x, y⟩; first | omega | exact y ⟨by omega, by assumption⟩), if_neg (by split <;> omega), if_neg (by omega), if_neg (by omega), hk337]; unfold pcB; rw [if_neg (by omega), if_neg (by omega), if_neg (by omega), hcc]; unfold pcC; rw [if_pos (by first | exact Or.inl ⟨by omega, by omega⟩ | exact Or.inr ⟨by omega, by rw [upc_u hU]; assumption⟩ | exact Or.inr ⟨by omega, by rw [upc_s hU]; assumption⟩)]), rfl, by first | exact frd_tr (frd_S (Or.inl rfl)) (frd_S (Or.inr (Or.inl rfl))) | exact frd_tr (frd_tr (frd_A8 (by omega)) (frd_A7 (by omega))) (frd_tr (frd_S (Or.inl rfl)) (frd_S (Or.inr (Or.inl rfl)))), rfl, by simp [sS], by omega⟩⟩)
                      · refine ev_ilw (k_m_readsCode_2 2 rfl) rfl ?_
                        refine ev_ic (k_m_readsCode_2 3 rfl) ?_
                        refine ev_ic_ne (k_m_readsCode_2 4 rfl) (fun c364 => ?_) (fun c364 => ?_)
                        · refine ev_al (k_m_readsCode_2 21 rfl) rfl ?_
                          refine ev_ic (k_m_readsCode_2 22 rfl) ?_
                          refine ev_ilw (k_m_readsCode_2 23 rfl) rfl ?_
                          refine ev_cV (k_m_readsCode_2 24 rfl) rfl v_m_fails hm346.1 rfl (c_m_fails G ma _ _ hm346 3 ((p : Int) + (k331 : Int))) rfl (le_b rfl) (le_b rfl) (le_b rfl) k_n (k_B fun z365 h365 q365 => ?_)
                          obtain ⟨rfl, hm365, fmx365⟩ := q365
                          have fm365 := fM_tr fm346 fmx365
                          exact ev_zret (x := false) (k_m_readsCode_2 25 rfl) rfl (⟨false, rfl, _, hm365, fm365, Or.inl ⟨3, (p) + (k331), by first | (exfalso; omega) | (unfold pcod; rw [hk331]; unfold pcA; rw [if_neg (by rintro ⟨x, y⟩; first | omega | exact y ⟨by omega, by assumption⟩), if_neg (by split <;> omega), if_neg (by omega), if_neg (by omega), hk337]; unfold pcB; rw [if_neg (by omega), if_neg (by omega), if_neg (by omega), hcc]; unfold pcC; rw [if_pos (by first | exact Or.inl ⟨by omega, by omega⟩ | exact Or.inr ⟨by omega, by rw [upc_u hU]; assumption⟩ | exact Or.inr ⟨by omega, by rw [upc_s hU]; assumption⟩)]), rfl, by first | exact frd_tr (frd_S (Or.inl rfl)) (frd_S (Or.inr (Or.inl rfl))) | exact frd_tr (frd_tr (frd_A8 (by omega)) (frd_A7 (by omega))) (frd_tr (frd_S (Or.inl rfl)) (frd_S (Or.inr (Or.inl rfl)))), rfl, by simp [sS], by omega⟩⟩)
                        · refine ev_ilw (k_m_readsCode_2 5 rfl) rfl ?_
                          refine ev_if_le (k_m_readsCode_2 6 rfl) (fun c366 => ?_) (fun c366 => ?_)
                          · refine ev_il (k_m_readsCode_2 26 rfl) rfl ?_
                            refine ev_if_eq (k_m_readsCode_2 27 rfl) (fun c367 => ?_) (fun c367 => ?_)
                            · refine ev_ic (k_m_readsCode_2 45 rfl) ?_
                              refine ev_goto (k_m_readsCode_2 46 rfl) ?_
                              exact ev_zret (x := true) (k_m_readsCode_2 48 rfl) rfl (⟨true, rfl, _, hm346, fm346, Or.inr ⟨k331, k337, cc, by unfold pcod; rw [hk331]; unfold pcA; rw [if_neg (by rintro ⟨x, y⟩; first | omega | exact y ⟨by omega, by assumption⟩), if_neg (by split <;> omega), if_neg (by omega), if_neg (by omega), hk337]; unfold pcB; rw [if_neg (by omega), if_neg (by omega), if_neg (by omega), hcc]; unfold pcC; rw [if_neg (by rintro (⟨x, y⟩ | ⟨x, y⟩); omega; first | omega | (rw [upc_u hU] at y; exact absurd (Eq.trans y.symm (by assumption : _ = true)) (by decide)) | (rw [upc_s hU] at y; exact absurd (Eq.trans y.symm (by assumption : _ = true)) (by decide))), if_neg (by rintro ⟨x, y⟩; first | omega | exact absurd (Eq.trans y.symm (by assumption : _ = true)) (by decide))], rfl, rfl, hcb, by omega, by omega, hcc⟩⟩)
                            · refine ev_al (k_m_readsCode_2 28 rfl) rfl ?_
                              refine ev_get (v := vA (ma 7)) (k_m_readsCode_2 29 rfl) hm346.1 rfl ?_
                              refine ev_il (k_m_readsCode_2 30 rfl) rfl ?_
                              refine ev_lald (xs := ((σ.2 7).set (120 + (R.length)) cc)) (k_m_readsCode_2 31 rfl) (mr_a hm346 7 rfl) (by omega) (by simp only [List.length_set]; omega) (show ev _ _ _ _ _ _ _ _ (vL (gd ((σ.2 7).set (120 + (R.length)) cc) (120 + (R.length))) :: _) _ _ _ from ?_)
                              rw [gd_set_eq _ (by omega)]
                              refine ev_al (k_m_readsCode_2 32 rfl) rfl ?_
                              refine ev_get (v := vA (ma 7)) (k_m_readsCode_2 33 rfl) hm346.1 rfl ?_
                              refine ev_il (k_m_readsCode_2 34 rfl) rfl ?_
                              refine ev_ic (k_m_readsCode_2 35 rfl) ?_
                              refine ev_isub (k_m_readsCode_2 36 rfl) (by omega) ?_
                              refine ev_lald (xs := ((σ.2 7).set (120 + (R.length)) cc)) (k_m_readsCode_2 37 rfl) (mr_a hm346 7 rfl) (by omega) (by simp only [List.length_set]; omega) (show ev _ _ _ _ _ _ _ _ (vL (gd ((σ.2 7).set (120 + (R.length)) cc) ((120 + (R.length : Int)) - 1).toNat) :: _) _ _ _ from ?_)
                              rw [show ((120 + (R.length : Int)) - 1).toNat = 120 + (R.length - 1) by omega, gd_set_ne _ (by omega), (hs.2.2 (R.length - 1) (by omega)).1]
                              refine ev_cS (k_m_readsCode_2 38 rfl) rfl v_m_isBehind (c_m_isBehind G _ cc (rc R (R.length - 1)) (by (try simp only [sS]); omega) (by (try simp only [sS]); omega)) rfl (le_b rfl) (le_b rfl) (le_b rfl) k_n (k_B fun z368 h368 q368 => ?_)
                              obtain ⟨rfl, (rfl : z368 = (bhd cc (rc R (R.length - 1))))⟩ := q368
                              refine ev_b_ne (k_m_readsCode_2 39 rfl) (fun c369 => ?_) (fun c369 => ?_)
                              · refine ev_ic (k_m_readsCode_2 45 rfl) ?_
                                refine ev_goto (k_m_readsCode_2 46 rfl) ?_
                                exact ev_zret (x := true) (k_m_readsCode_2 48 rfl) rfl (⟨true, rfl, _, hm346, fm346, Or.inr ⟨k331, k337, cc, by unfold pcod; rw [hk331]; unfold pcA; rw [if_neg (by rintro ⟨x, y⟩; first | omega | exact y ⟨by omega, by assumption⟩), if_neg (by split <;> omega), if_neg (by omega), if_neg (by omega), hk337]; unfold pcB; rw [if_neg (by omega), if_neg (by omega), if_neg (by omega), hcc]; unfold pcC; rw [if_neg (by rintro (⟨x, y⟩ | ⟨x, y⟩); omega; first | omega | (rw [upc_u hU] at y; exact absurd (Eq.trans y.symm (by assumption : _ = true)) (by decide)) | (rw [upc_s hU] at y; exact absurd (Eq.trans y.symm (by assumption : _ = true)) (by decide))), if_neg (by rintro ⟨x, y⟩; first | omega | exact absurd (Eq.trans y.symm (by assumption : _ = true)) (by decide))], rfl, rfl, hcb, by omega, by omega, hcc⟩⟩)
                              · refine ev_al (k_m_readsCode_2 40 rfl) rfl ?_
                                refine ev_ic (k_m_readsCode_2 41 rfl) ?_
                                refine ev_ilw (k_m_readsCode_2 42 rfl) rfl ?_
                                refine ev_cV (k_m_readsCode_2 43 rfl) rfl v_m_fails hm346.1 rfl (c_m_fails G ma _ _ hm346 4 ((p : Int) + (k331 : Int))) rfl (le_b rfl) (le_b rfl) (le_b rfl) k_n (k_B fun z370 h370 q370 => ?_)
                                obtain ⟨rfl, hm370, fmx370⟩ := q370
                                have fm370 := fM_tr fm346 fmx370
                                refine ev_if_eq (k_m_readsCode_2 44 rfl) (fun _ => ?_) (fun c => absurd c (by decide))
                                refine ev_ic (k_m_readsCode_2 47 rfl) ?_
                                exact ev_zret (x := false) (k_m_readsCode_2 48 rfl) rfl (⟨false, rfl, _, hm370, fm370, Or.inl ⟨4, (p) + (k331), by first | (exfalso; omega) | (unfold pcod; rw [hk331]; unfold pcA; rw [if_neg (by rintro ⟨x, y⟩; first | omega | exact y ⟨by omega, by assumption⟩), if_neg (by split <;> omega), if_neg (by omega), if_neg (by omega), hk337]; unfold pcB; rw [if_neg (by omega), if_neg (by omega), if_neg (by omega), hcc]; unfold pcC; rw [if_neg (by rintro (⟨x, y⟩ | ⟨x, y⟩); omega; first | omega | (rw [upc_u hU] at y; exact absurd (Eq.trans y.symm (by assumption : _ = true)) (by decide)) | (rw [upc_s hU] at y; exact absurd (Eq.trans y.symm (by assumption : _ = true)) (by decide))), if_pos ⟨by omega, by assumption⟩]), rfl, by first | exact frd_tr (frd_S (Or.inl rfl)) (frd_S (Or.inr (Or.inl rfl))) | exact frd_tr (frd_tr (frd_A8 (by omega)) (frd_A7 (by omega))) (frd_tr (frd_S (Or.inl rfl)) (frd_S (Or.inr (Or.inl rfl)))), rfl, by simp [sS], by omega⟩⟩)
                          · refine ev_al (k_m_readsCode_2 7 rfl) rfl ?_
                            refine ev_get (v := vA (ma 7)) (k_m_readsCode_2 8 rfl) hm346.1 rfl ?_
                            refine ev_il (k_m_readsCode_2 9 rfl) rfl ?_
                            refine ev_lald (xs := ((σ.2 7).set (120 + (R.length)) cc)) (k_m_readsCode_2 10 rfl) (mr_a hm346 7 rfl) (by omega) (by simp only [List.length_set]; omega) (show ev _ _ _ _ _ _ _ _ (vL (gd ((σ.2 7).set (120 + (R.length)) cc) (120 + (R.length))) :: _) _ _ _ from ?_)
                            rw [gd_set_eq _ (by omega)]
                            refine ev_al (k_m_readsCode_2 11 rfl) rfl ?_
                            refine ev_get (v := vA (ma 7)) (k_m_readsCode_2 12 rfl) hm346.1 rfl ?_
                            refine ev_ilw (k_m_readsCode_2 13 rfl) rfl ?_
                            refine ev_if_ge (k_m_readsCode_2 14 rfl) (fun c => absurd c (by decide)) (fun _ => ?_)
                            refine ev_il (k_m_readsCode_2 15 rfl) rfl ?_
                            refine ev_goto (k_m_readsCode_2 16 rfl) ?_
                            refine ev_lald (xs := ((σ.2 7).set (120 + (R.length)) cc)) (k_m_readsCode_2 18 rfl) (mr_a hm346 7 rfl) (by omega) (by simp only [List.length_set]; omega) (show ev _ _ _ _ _ _ _ _ (vL (gd ((σ.2 7).set (120 + (R.length)) cc) (120 + (R.length))) :: _) _ _ _ from ?_)
                            rw [gd_set_eq _ (by omega)]
                            refine ev_cS (k_m_readsCode_2 19 rfl) rfl v_m_begins (c_m_begins G _ cc cc (by (try simp only [sS]); omega)) rfl (le_b rfl) (le_b rfl) (le_b rfl) k_n (k_B fun z373 h373 q373 => ?_)
                            obtain ⟨rfl, (rfl : z373 = (bgn cc cc))⟩ := q373
                            refine ev_b_ne (k_m_readsCode_2 20 rfl) (fun c374 => ?_) (fun c374 => ?_)
                            · refine ev_il (k_m_readsCode_2 26 rfl) rfl ?_
                              refine ev_if_eq (k_m_readsCode_2 27 rfl) (fun c375 => ?_) (fun c375 => ?_)
                              · refine ev_ic (k_m_readsCode_2 45 rfl) ?_
                                refine ev_goto (k_m_readsCode_2 46 rfl) ?_
                                exact ev_zret (x := true) (k_m_readsCode_2 48 rfl) rfl (⟨true, rfl, _, hm346, fm346, Or.inr ⟨k331, k337, cc, by unfold pcod; rw [hk331]; unfold pcA; rw [if_neg (by rintro ⟨x, y⟩; first | omega | exact y ⟨by omega, by assumption⟩), if_neg (by split <;> omega), if_neg (by omega), if_neg (by omega), hk337]; unfold pcB; rw [if_neg (by omega), if_neg (by omega), if_neg (by omega), hcc]; unfold pcC; rw [if_neg (by rintro (⟨x, y⟩ | ⟨x, y⟩); omega; first | omega | (rw [upc_u hU] at y; exact absurd (Eq.trans y.symm (by assumption : _ = true)) (by decide)) | (rw [upc_s hU] at y; exact absurd (Eq.trans y.symm (by assumption : _ = true)) (by decide))), if_neg (by rintro ⟨x, y⟩; first | omega | exact absurd (Eq.trans y.symm (by assumption : _ = true)) (by decide))], rfl, rfl, hcb, by omega, by omega, hcc⟩⟩)
                              · refine ev_al (k_m_readsCode_2 28 rfl) rfl ?_
                                refine ev_get (v := vA (ma 7)) (k_m_readsCode_2 29 rfl) hm346.1 rfl ?_
                                refine ev_il (k_m_readsCode_2 30 rfl) rfl ?_
                                refine ev_lald (xs := ((σ.2 7).set (120 + (R.length)) cc)) (k_m_readsCode_2 31 rfl) (mr_a hm346 7 rfl) (by omega) (by simp only [List.length_set]; omega) (show ev _ _ _ _ _ _ _ _ (vL (gd ((σ.2 7).set (120 + (R.length)) cc) (120 + (R.length))) :: _) _ _ _ from ?_)
                                rw [gd_set_eq _ (by omega)]
                                refine ev_al (k_m_readsCode_2 32 rfl) rfl ?_
                                refine ev_get (v := vA (ma 7)) (k_m_readsCode_2 33 rfl) hm346.1 rfl ?_
                                refine ev_il (k_m_readsCode_2 34 rfl) rfl ?_
                                refine ev_ic (k_m_readsCode_2 35 rfl) ?_
                                refine ev_isub (k_m_readsCode_2 36 rfl) (by omega) ?_
                                refine ev_lald (xs := ((σ.2 7).set (120 + (R.length)) cc)) (k_m_readsCode_2 37 rfl) (mr_a hm346 7 rfl) (by omega) (by simp only [List.length_set]; omega) (show ev _ _ _ _ _ _ _ _ (vL (gd ((σ.2 7).set (120 + (R.length)) cc) ((120 + (R.length : Int)) - 1).toNat) :: _) _ _ _ from ?_)
                                rw [show ((120 + (R.length : Int)) - 1).toNat = 120 + (R.length - 1) by omega, gd_set_ne _ (by omega), (hs.2.2 (R.length - 1) (by omega)).1]
                                refine ev_cS (k_m_readsCode_2 38 rfl) rfl v_m_isBehind (c_m_isBehind G _ cc (rc R (R.length - 1)) (by (try simp only [sS]); omega) (by (try simp only [sS]); omega)) rfl (le_b rfl) (le_b rfl) (le_b rfl) k_n (k_B fun z376 h376 q376 => ?_)
                                obtain ⟨rfl, (rfl : z376 = (bhd cc (rc R (R.length - 1))))⟩ := q376
                                refine ev_b_ne (k_m_readsCode_2 39 rfl) (fun c377 => ?_) (fun c377 => ?_)
                                · refine ev_ic (k_m_readsCode_2 45 rfl) ?_
                                  refine ev_goto (k_m_readsCode_2 46 rfl) ?_
                                  exact ev_zret (x := true) (k_m_readsCode_2 48 rfl) rfl (⟨true, rfl, _, hm346, fm346, Or.inr ⟨k331, k337, cc, by unfold pcod; rw [hk331]; unfold pcA; rw [if_neg (by rintro ⟨x, y⟩; first | omega | exact y ⟨by omega, by assumption⟩), if_neg (by split <;> omega), if_neg (by omega), if_neg (by omega), hk337]; unfold pcB; rw [if_neg (by omega), if_neg (by omega), if_neg (by omega), hcc]; unfold pcC; rw [if_neg (by rintro (⟨x, y⟩ | ⟨x, y⟩); omega; first | omega | (rw [upc_u hU] at y; exact absurd (Eq.trans y.symm (by assumption : _ = true)) (by decide)) | (rw [upc_s hU] at y; exact absurd (Eq.trans y.symm (by assumption : _ = true)) (by decide))), if_neg (by rintro ⟨x, y⟩; first | omega | exact absurd (Eq.trans y.symm (by assumption : _ = true)) (by decide))], rfl, rfl, hcb, by omega, by omega, hcc⟩⟩)
                                · refine ev_al (k_m_readsCode_2 40 rfl) rfl ?_
                                  refine ev_ic (k_m_readsCode_2 41 rfl) ?_
                                  refine ev_ilw (k_m_readsCode_2 42 rfl) rfl ?_
                                  refine ev_cV (k_m_readsCode_2 43 rfl) rfl v_m_fails hm346.1 rfl (c_m_fails G ma _ _ hm346 4 ((p : Int) + (k331 : Int))) rfl (le_b rfl) (le_b rfl) (le_b rfl) k_n (k_B fun z378 h378 q378 => ?_)
                                  obtain ⟨rfl, hm378, fmx378⟩ := q378
                                  have fm378 := fM_tr fm346 fmx378
                                  refine ev_if_eq (k_m_readsCode_2 44 rfl) (fun _ => ?_) (fun c => absurd c (by decide))
                                  refine ev_ic (k_m_readsCode_2 47 rfl) ?_
                                  exact ev_zret (x := false) (k_m_readsCode_2 48 rfl) rfl (⟨false, rfl, _, hm378, fm378, Or.inl ⟨4, (p) + (k331), by first | (exfalso; omega) | (unfold pcod; rw [hk331]; unfold pcA; rw [if_neg (by rintro ⟨x, y⟩; first | omega | exact y ⟨by omega, by assumption⟩), if_neg (by split <;> omega), if_neg (by omega), if_neg (by omega), hk337]; unfold pcB; rw [if_neg (by omega), if_neg (by omega), if_neg (by omega), hcc]; unfold pcC; rw [if_neg (by rintro (⟨x, y⟩ | ⟨x, y⟩); omega; first | omega | (rw [upc_u hU] at y; exact absurd (Eq.trans y.symm (by assumption : _ = true)) (by decide)) | (rw [upc_s hU] at y; exact absurd (Eq.trans y.symm (by assumption : _ = true)) (by decide))), if_pos ⟨by omega, by assumption⟩]), rfl, by first | exact frd_tr (frd_S (Or.inl rfl)) (frd_S (Or.inr (Or.inl rfl))) | exact frd_tr (frd_tr (frd_A8 (by omega)) (frd_A7 (by omega))) (frd_tr (frd_S (Or.inl rfl)) (frd_S (Or.inr (Or.inl rfl)))), rfl, by simp [sS], by omega⟩⟩)
                            · refine ev_al (k_m_readsCode_2 21 rfl) rfl ?_
                              refine ev_ic (k_m_readsCode_2 22 rfl) ?_
                              refine ev_ilw (k_m_readsCode_2 23 rfl) rfl ?_
                              refine ev_cV (k_m_readsCode_2 24 rfl) rfl v_m_fails hm346.1 rfl (c_m_fails G ma _ _ hm346 3 ((p : Int) + (k331 : Int))) rfl (le_b rfl) (le_b rfl) (le_b rfl) k_n (k_B fun z380 h380 q380 => ?_)
                              obtain ⟨rfl, hm380, fmx380⟩ := q380
                              have fm380 := fM_tr fm346 fmx380
                              exact ev_zret (x := false) (k_m_readsCode_2 25 rfl) rfl (⟨false, rfl, _, hm380, fm380, Or.inl ⟨3, (p) + (k331), by first | (exfalso; omega) | (unfold pcod; rw [hk331]; unfold pcA; rw [if_neg (by rintro ⟨x, y⟩; first | omega | exact y ⟨by omega, by assumption⟩), if_neg (by split <;> omega), if_neg (by omega), if_neg (by omega), hk337]; unfold pcB; rw [if_neg (by omega), if_neg (by omega), if_neg (by omega), hcc]; unfold pcC; rw [if_pos (by first | exact Or.inl ⟨by omega, by omega⟩ | exact Or.inr ⟨by omega, by rw [upc_u hU]; assumption⟩ | exact Or.inr ⟨by omega, by rw [upc_s hU]; assumption⟩)]), rfl, by first | exact frd_tr (frd_S (Or.inl rfl)) (frd_S (Or.inr (Or.inl rfl))) | exact frd_tr (frd_tr (frd_A8 (by omega)) (frd_A7 (by omega))) (frd_tr (frd_S (Or.inl rfl)) (frd_S (Or.inr (Or.inl rfl)))), rfl, by simp [sS], by omega⟩⟩)
                  | some j =>
                      show ev _ _ _ _ _ _ _ _ (vI ((120 + j : Nat) : Int) :: _) _ _ _
                      have huj := upx_lt hU
                      refine ev_isw (k_m_readsCode_1 59 rfl) (le_b rfl) (show ev _ _ _ _ _ _ 202 [some (vA (ma 0)), some (vI (p : Int)), some (vI (R.length : Int)), some (vI (120 + (R.length : Int))), some (vI (k331 : Int)), some (vI ((p : Int) + (k331 : Int))), some (vI (k337 : Int)), some (vI ((120 + j : Nat) : Int))] _ _ _ _ from ?_)
                      refine ev_ilw (k_m_readsCode_2 0 rfl) rfl ?_
                      refine ev_if_ne (k_m_readsCode_2 1 rfl) (fun c381 => ?_) (fun c381 => ?_)
                      · refine ev_ilw (k_m_readsCode_2 5 rfl) rfl ?_
                        refine ev_if_le (k_m_readsCode_2 6 rfl) (fun c382 => ?_) (fun c382 => ?_)
                        · refine ev_il (k_m_readsCode_2 26 rfl) rfl ?_
                          refine ev_if_eq (k_m_readsCode_2 27 rfl) (fun c383 => ?_) (fun c383 => ?_)
                          · refine ev_ic (k_m_readsCode_2 45 rfl) ?_
                            refine ev_goto (k_m_readsCode_2 46 rfl) ?_
                            exact ev_zret (x := true) (k_m_readsCode_2 48 rfl) rfl (⟨true, rfl, _, hm346, fm346, Or.inr ⟨k331, k337, cc, by unfold pcod; rw [hk331]; unfold pcA; rw [if_neg (by rintro ⟨x, y⟩; first | omega | exact y ⟨by omega, by assumption⟩), if_neg (by split <;> omega), if_neg (by omega), if_neg (by omega), hk337]; unfold pcB; rw [if_neg (by omega), if_neg (by omega), if_neg (by omega), hcc]; unfold pcC; rw [if_neg (by rintro (⟨x, y⟩ | ⟨x, y⟩); omega; first | omega | (rw [upc_u hU] at y; exact absurd (Eq.trans y.symm (by assumption : _ = true)) (by decide)) | (rw [upc_s hU] at y; exact absurd (Eq.trans y.symm (by assumption : _ = true)) (by decide))), if_neg (by rintro ⟨x, y⟩; first | omega | exact absurd (Eq.trans y.symm (by assumption : _ = true)) (by decide))], rfl, rfl, hcb, by omega, by omega, hcc⟩⟩)
                          · refine ev_al (k_m_readsCode_2 28 rfl) rfl ?_
                            refine ev_get (v := vA (ma 7)) (k_m_readsCode_2 29 rfl) hm346.1 rfl ?_
                            refine ev_il (k_m_readsCode_2 30 rfl) rfl ?_
                            refine ev_lald (xs := ((σ.2 7).set (120 + (R.length)) cc)) (k_m_readsCode_2 31 rfl) (mr_a hm346 7 rfl) (by omega) (by simp only [List.length_set]; omega) (show ev _ _ _ _ _ _ _ _ (vL (gd ((σ.2 7).set (120 + (R.length)) cc) (120 + (R.length))) :: _) _ _ _ from ?_)
                            rw [gd_set_eq _ (by omega)]
                            refine ev_al (k_m_readsCode_2 32 rfl) rfl ?_
                            refine ev_get (v := vA (ma 7)) (k_m_readsCode_2 33 rfl) hm346.1 rfl ?_
                            refine ev_il (k_m_readsCode_2 34 rfl) rfl ?_
                            refine ev_ic (k_m_readsCode_2 35 rfl) ?_
                            refine ev_isub (k_m_readsCode_2 36 rfl) (by omega) ?_
                            refine ev_lald (xs := ((σ.2 7).set (120 + (R.length)) cc)) (k_m_readsCode_2 37 rfl) (mr_a hm346 7 rfl) (by omega) (by simp only [List.length_set]; omega) (show ev _ _ _ _ _ _ _ _ (vL (gd ((σ.2 7).set (120 + (R.length)) cc) ((120 + (R.length : Int)) - 1).toNat) :: _) _ _ _ from ?_)
                            rw [show ((120 + (R.length : Int)) - 1).toNat = 120 + (R.length - 1) by omega, gd_set_ne _ (by omega), (hs.2.2 (R.length - 1) (by omega)).1]
                            refine ev_cS (k_m_readsCode_2 38 rfl) rfl v_m_isBehind (c_m_isBehind G _ cc (rc R (R.length - 1)) (by (try simp only [sS]); omega) (by (try simp only [sS]); omega)) rfl (le_b rfl) (le_b rfl) (le_b rfl) k_n (k_B fun z384 h384 q384 => ?_)
                            obtain ⟨rfl, (rfl : z384 = (bhd cc (rc R (R.length - 1))))⟩ := q384
                            refine ev_b_ne (k_m_readsCode_2 39 rfl) (fun c385 => ?_) (fun c385 => ?_)
                            · refine ev_ic (k_m_readsCode_2 45 rfl) ?_
                              refine ev_goto (k_m_readsCode_2 46 rfl) ?_
                              exact ev_zret (x := true) (k_m_readsCode_2 48 rfl) rfl (⟨true, rfl, _, hm346, fm346, Or.inr ⟨k331, k337, cc, by unfold pcod; rw [hk331]; unfold pcA; rw [if_neg (by rintro ⟨x, y⟩; first | omega | exact y ⟨by omega, by assumption⟩), if_neg (by split <;> omega), if_neg (by omega), if_neg (by omega), hk337]; unfold pcB; rw [if_neg (by omega), if_neg (by omega), if_neg (by omega), hcc]; unfold pcC; rw [if_neg (by rintro (⟨x, y⟩ | ⟨x, y⟩); omega; first | omega | (rw [upc_u hU] at y; exact absurd (Eq.trans y.symm (by assumption : _ = true)) (by decide)) | (rw [upc_s hU] at y; exact absurd (Eq.trans y.symm (by assumption : _ = true)) (by decide))), if_neg (by rintro ⟨x, y⟩; first | omega | exact absurd (Eq.trans y.symm (by assumption : _ = true)) (by decide))], rfl, rfl, hcb, by omega, by omega, hcc⟩⟩)
                            · refine ev_al (k_m_readsCode_2 40 rfl) rfl ?_
                              refine ev_ic (k_m_readsCode_2 41 rfl) ?_
                              refine ev_ilw (k_m_readsCode_2 42 rfl) rfl ?_
                              refine ev_cV (k_m_readsCode_2 43 rfl) rfl v_m_fails hm346.1 rfl (c_m_fails G ma _ _ hm346 4 ((p : Int) + (k331 : Int))) rfl (le_b rfl) (le_b rfl) (le_b rfl) k_n (k_B fun z386 h386 q386 => ?_)
                              obtain ⟨rfl, hm386, fmx386⟩ := q386
                              have fm386 := fM_tr fm346 fmx386
                              refine ev_if_eq (k_m_readsCode_2 44 rfl) (fun _ => ?_) (fun c => absurd c (by decide))
                              refine ev_ic (k_m_readsCode_2 47 rfl) ?_
                              exact ev_zret (x := false) (k_m_readsCode_2 48 rfl) rfl (⟨false, rfl, _, hm386, fm386, Or.inl ⟨4, (p) + (k331), by first | (exfalso; omega) | (unfold pcod; rw [hk331]; unfold pcA; rw [if_neg (by rintro ⟨x, y⟩; first | omega | exact y ⟨by omega, by assumption⟩), if_neg (by split <;> omega), if_neg (by omega), if_neg (by omega), hk337]; unfold pcB; rw [if_neg (by omega), if_neg (by omega), if_neg (by omega), hcc]; unfold pcC; rw [if_neg (by rintro (⟨x, y⟩ | ⟨x, y⟩); omega; first | omega | (rw [upc_u hU] at y; exact absurd (Eq.trans y.symm (by assumption : _ = true)) (by decide)) | (rw [upc_s hU] at y; exact absurd (Eq.trans y.symm (by assumption : _ = true)) (by decide))), if_pos ⟨by omega, by assumption⟩]), rfl, by first | exact frd_tr (frd_S (Or.inl rfl)) (frd_S (Or.inr (Or.inl rfl))) | exact frd_tr (frd_tr (frd_A8 (by omega)) (frd_A7 (by omega))) (frd_tr (frd_S (Or.inl rfl)) (frd_S (Or.inr (Or.inl rfl)))), rfl, by simp [sS], by omega⟩⟩)
                        · refine ev_al (k_m_readsCode_2 7 rfl) rfl ?_
                          refine ev_get (v := vA (ma 7)) (k_m_readsCode_2 8 rfl) hm346.1 rfl ?_
                          refine ev_il (k_m_readsCode_2 9 rfl) rfl ?_
                          refine ev_lald (xs := ((σ.2 7).set (120 + (R.length)) cc)) (k_m_readsCode_2 10 rfl) (mr_a hm346 7 rfl) (by omega) (by simp only [List.length_set]; omega) (show ev _ _ _ _ _ _ _ _ (vL (gd ((σ.2 7).set (120 + (R.length)) cc) (120 + (R.length))) :: _) _ _ _ from ?_)
                          rw [gd_set_eq _ (by omega)]
                          refine ev_al (k_m_readsCode_2 11 rfl) rfl ?_
                          refine ev_get (v := vA (ma 7)) (k_m_readsCode_2 12 rfl) hm346.1 rfl ?_
                          refine ev_ilw (k_m_readsCode_2 13 rfl) rfl ?_
                          refine ev_if_ge (k_m_readsCode_2 14 rfl) (fun _ => ?_) (fun c => absurd c (by omega))
                          refine ev_ilw (k_m_readsCode_2 17 rfl) rfl ?_
                          refine ev_lald (xs := ((σ.2 7).set (120 + (R.length)) cc)) (k_m_readsCode_2 18 rfl) (mr_a hm346 7 rfl) (by omega) (by simp only [List.length_set]; omega) (show ev _ _ _ _ _ _ _ _ (vL (gd ((σ.2 7).set (120 + (R.length)) cc) (120 + j)) :: _) _ _ _ from ?_)
                          rw [gd_set_ne _ (by omega), (hs.2.2 j huj.1).1]
                          refine ev_cS (k_m_readsCode_2 19 rfl) rfl v_m_begins (c_m_begins G _ cc (rc R j) (by (try simp only [sS]); omega)) rfl (le_b rfl) (le_b rfl) (le_b rfl) k_n (k_B fun z388 h388 q388 => ?_)
                          obtain ⟨rfl, (rfl : z388 = (bgn cc (rc R j)))⟩ := q388
                          refine ev_b_ne (k_m_readsCode_2 20 rfl) (fun c389 => ?_) (fun c389 => ?_)
                          · refine ev_il (k_m_readsCode_2 26 rfl) rfl ?_
                            refine ev_if_eq (k_m_readsCode_2 27 rfl) (fun c390 => ?_) (fun c390 => ?_)
                            · refine ev_ic (k_m_readsCode_2 45 rfl) ?_
                              refine ev_goto (k_m_readsCode_2 46 rfl) ?_
                              exact ev_zret (x := true) (k_m_readsCode_2 48 rfl) rfl (⟨true, rfl, _, hm346, fm346, Or.inr ⟨k331, k337, cc, by unfold pcod; rw [hk331]; unfold pcA; rw [if_neg (by rintro ⟨x, y⟩; first | omega | exact y ⟨by omega, by assumption⟩), if_neg (by split <;> omega), if_neg (by omega), if_neg (by omega), hk337]; unfold pcB; rw [if_neg (by omega), if_neg (by omega), if_neg (by omega), hcc]; unfold pcC; rw [if_neg (by rintro (⟨x, y⟩ | ⟨x, y⟩); omega; first | omega | (rw [upc_u hU] at y; exact absurd (Eq.trans y.symm (by assumption : _ = true)) (by decide)) | (rw [upc_s hU] at y; exact absurd (Eq.trans y.symm (by assumption : _ = true)) (by decide))), if_neg (by rintro ⟨x, y⟩; first | omega | exact absurd (Eq.trans y.symm (by assumption : _ = true)) (by decide))], rfl, rfl, hcb, by omega, by omega, hcc⟩⟩)
                            · refine ev_al (k_m_readsCode_2 28 rfl) rfl ?_
                              refine ev_get (v := vA (ma 7)) (k_m_readsCode_2 29 rfl) hm346.1 rfl ?_
                              refine ev_il (k_m_readsCode_2 30 rfl) rfl ?_
                              refine ev_lald (xs := ((σ.2 7).set (120 + (R.length)) cc)) (k_m_readsCode_2 31 rfl) (mr_a hm346 7 rfl) (by omega) (by simp only [List.length_set]; omega) (show ev _ _ _ _ _ _ _ _ (vL (gd ((σ.2 7).set (120 + (R.length)) cc) (120 + (R.length))) :: _) _ _ _ from ?_)
                              rw [gd_set_eq _ (by omega)]
                              refine ev_al (k_m_readsCode_2 32 rfl) rfl ?_
                              refine ev_get (v := vA (ma 7)) (k_m_readsCode_2 33 rfl) hm346.1 rfl ?_
                              refine ev_il (k_m_readsCode_2 34 rfl) rfl ?_
                              refine ev_ic (k_m_readsCode_2 35 rfl) ?_
                              refine ev_isub (k_m_readsCode_2 36 rfl) (by omega) ?_
                              refine ev_lald (xs := ((σ.2 7).set (120 + (R.length)) cc)) (k_m_readsCode_2 37 rfl) (mr_a hm346 7 rfl) (by omega) (by simp only [List.length_set]; omega) (show ev _ _ _ _ _ _ _ _ (vL (gd ((σ.2 7).set (120 + (R.length)) cc) ((120 + (R.length : Int)) - 1).toNat) :: _) _ _ _ from ?_)
                              rw [show ((120 + (R.length : Int)) - 1).toNat = 120 + (R.length - 1) by omega, gd_set_ne _ (by omega), (hs.2.2 (R.length - 1) (by omega)).1]
                              refine ev_cS (k_m_readsCode_2 38 rfl) rfl v_m_isBehind (c_m_isBehind G _ cc (rc R (R.length - 1)) (by (try simp only [sS]); omega) (by (try simp only [sS]); omega)) rfl (le_b rfl) (le_b rfl) (le_b rfl) k_n (k_B fun z391 h391 q391 => ?_)
                              obtain ⟨rfl, (rfl : z391 = (bhd cc (rc R (R.length - 1))))⟩ := q391
                              refine ev_b_ne (k_m_readsCode_2 39 rfl) (fun c392 => ?_) (fun c392 => ?_)
                              · refine ev_ic (k_m_readsCode_2 45 rfl) ?_
                                refine ev_goto (k_m_readsCode_2 46 rfl) ?_
                                exact ev_zret (x := true) (k_m_readsCode_2 48 rfl) rfl (⟨true, rfl, _, hm346, fm346, Or.inr ⟨k331, k337, cc, by unfold pcod; rw [hk331]; unfold pcA; rw [if_neg (by rintro ⟨x, y⟩; first | omega | exact y ⟨by omega, by assumption⟩), if_neg (by split <;> omega), if_neg (by omega), if_neg (by omega), hk337]; unfold pcB; rw [if_neg (by omega), if_neg (by omega), if_neg (by omega), hcc]; unfold pcC; rw [if_neg (by rintro (⟨x, y⟩ | ⟨x, y⟩); omega; first | omega | (rw [upc_u hU] at y; exact absurd (Eq.trans y.symm (by assumption : _ = true)) (by decide)) | (rw [upc_s hU] at y; exact absurd (Eq.trans y.symm (by assumption : _ = true)) (by decide))), if_neg (by rintro ⟨x, y⟩; first | omega | exact absurd (Eq.trans y.symm (by assumption : _ = true)) (by decide))], rfl, rfl, hcb, by omega, by omega, hcc⟩⟩)
                              · refine ev_al (k_m_readsCode_2 40 rfl) rfl ?_
                                refine ev_ic (k_m_readsCode_2 41 rfl) ?_
                                refine ev_ilw (k_m_readsCode_2 42 rfl) rfl ?_
                                refine ev_cV (k_m_readsCode_2 43 rfl) rfl v_m_fails hm346.1 rfl (c_m_fails G ma _ _ hm346 4 ((p : Int) + (k331 : Int))) rfl (le_b rfl) (le_b rfl) (le_b rfl) k_n (k_B fun z393 h393 q393 => ?_)
                                obtain ⟨rfl, hm393, fmx393⟩ := q393
                                have fm393 := fM_tr fm346 fmx393
                                refine ev_if_eq (k_m_readsCode_2 44 rfl) (fun _ => ?_) (fun c => absurd c (by decide))
                                refine ev_ic (k_m_readsCode_2 47 rfl) ?_
                                exact ev_zret (x := false) (k_m_readsCode_2 48 rfl) rfl (⟨false, rfl, _, hm393, fm393, Or.inl ⟨4, (p) + (k331), by first | (exfalso; omega) | (unfold pcod; rw [hk331]; unfold pcA; rw [if_neg (by rintro ⟨x, y⟩; first | omega | exact y ⟨by omega, by assumption⟩), if_neg (by split <;> omega), if_neg (by omega), if_neg (by omega), hk337]; unfold pcB; rw [if_neg (by omega), if_neg (by omega), if_neg (by omega), hcc]; unfold pcC; rw [if_neg (by rintro (⟨x, y⟩ | ⟨x, y⟩); omega; first | omega | (rw [upc_u hU] at y; exact absurd (Eq.trans y.symm (by assumption : _ = true)) (by decide)) | (rw [upc_s hU] at y; exact absurd (Eq.trans y.symm (by assumption : _ = true)) (by decide))), if_pos ⟨by omega, by assumption⟩]), rfl, by first | exact frd_tr (frd_S (Or.inl rfl)) (frd_S (Or.inr (Or.inl rfl))) | exact frd_tr (frd_tr (frd_A8 (by omega)) (frd_A7 (by omega))) (frd_tr (frd_S (Or.inl rfl)) (frd_S (Or.inr (Or.inl rfl)))), rfl, by simp [sS], by omega⟩⟩)
                          · refine ev_al (k_m_readsCode_2 21 rfl) rfl ?_
                            refine ev_ic (k_m_readsCode_2 22 rfl) ?_
                            refine ev_ilw (k_m_readsCode_2 23 rfl) rfl ?_
                            refine ev_cV (k_m_readsCode_2 24 rfl) rfl v_m_fails hm346.1 rfl (c_m_fails G ma _ _ hm346 3 ((p : Int) + (k331 : Int))) rfl (le_b rfl) (le_b rfl) (le_b rfl) k_n (k_B fun z395 h395 q395 => ?_)
                            obtain ⟨rfl, hm395, fmx395⟩ := q395
                            have fm395 := fM_tr fm346 fmx395
                            exact ev_zret (x := false) (k_m_readsCode_2 25 rfl) rfl (⟨false, rfl, _, hm395, fm395, Or.inl ⟨3, (p) + (k331), by first | (exfalso; omega) | (unfold pcod; rw [hk331]; unfold pcA; rw [if_neg (by rintro ⟨x, y⟩; first | omega | exact y ⟨by omega, by assumption⟩), if_neg (by split <;> omega), if_neg (by omega), if_neg (by omega), hk337]; unfold pcB; rw [if_neg (by omega), if_neg (by omega), if_neg (by omega), hcc]; unfold pcC; rw [if_pos (by first | exact Or.inl ⟨by omega, by omega⟩ | exact Or.inr ⟨by omega, by rw [upc_u hU]; assumption⟩ | exact Or.inr ⟨by omega, by rw [upc_s hU]; assumption⟩)]), rfl, by first | exact frd_tr (frd_S (Or.inl rfl)) (frd_S (Or.inr (Or.inl rfl))) | exact frd_tr (frd_tr (frd_A8 (by omega)) (frd_A7 (by omega))) (frd_tr (frd_S (Or.inl rfl)) (frd_S (Or.inr (Or.inl rfl)))), rfl, by simp [sS], by omega⟩⟩)
                      · refine ev_ilw (k_m_readsCode_2 2 rfl) rfl ?_
                        refine ev_ic (k_m_readsCode_2 3 rfl) ?_
                        refine ev_ic_ne (k_m_readsCode_2 4 rfl) (fun c396 => ?_) (fun c396 => ?_)
                        · refine ev_al (k_m_readsCode_2 21 rfl) rfl ?_
                          refine ev_ic (k_m_readsCode_2 22 rfl) ?_
                          refine ev_ilw (k_m_readsCode_2 23 rfl) rfl ?_
                          refine ev_cV (k_m_readsCode_2 24 rfl) rfl v_m_fails hm346.1 rfl (c_m_fails G ma _ _ hm346 3 ((p : Int) + (k331 : Int))) rfl (le_b rfl) (le_b rfl) (le_b rfl) k_n (k_B fun z397 h397 q397 => ?_)
                          obtain ⟨rfl, hm397, fmx397⟩ := q397
                          have fm397 := fM_tr fm346 fmx397
                          exact ev_zret (x := false) (k_m_readsCode_2 25 rfl) rfl (⟨false, rfl, _, hm397, fm397, Or.inl ⟨3, (p) + (k331), by first | (exfalso; omega) | (unfold pcod; rw [hk331]; unfold pcA; rw [if_neg (by rintro ⟨x, y⟩; first | omega | exact y ⟨by omega, by assumption⟩), if_neg (by split <;> omega), if_neg (by omega), if_neg (by omega), hk337]; unfold pcB; rw [if_neg (by omega), if_neg (by omega), if_neg (by omega), hcc]; unfold pcC; rw [if_pos (by first | exact Or.inl ⟨by omega, by omega⟩ | exact Or.inr ⟨by omega, by rw [upc_u hU]; assumption⟩ | exact Or.inr ⟨by omega, by rw [upc_s hU]; assumption⟩)]), rfl, by first | exact frd_tr (frd_S (Or.inl rfl)) (frd_S (Or.inr (Or.inl rfl))) | exact frd_tr (frd_tr (frd_A8 (by omega)) (frd_A7 (by omega))) (frd_tr (frd_S (Or.inl rfl)) (frd_S (Or.inr (Or.inl rfl)))), rfl, by simp [sS], by omega⟩⟩)
                        · refine ev_ilw (k_m_readsCode_2 5 rfl) rfl ?_
                          refine ev_if_le (k_m_readsCode_2 6 rfl) (fun c398 => ?_) (fun c398 => ?_)
                          · refine ev_il (k_m_readsCode_2 26 rfl) rfl ?_
                            refine ev_if_eq (k_m_readsCode_2 27 rfl) (fun c399 => ?_) (fun c399 => ?_)
                            · refine ev_ic (k_m_readsCode_2 45 rfl) ?_
                              refine ev_goto (k_m_readsCode_2 46 rfl) ?_
                              exact ev_zret (x := true) (k_m_readsCode_2 48 rfl) rfl (⟨true, rfl, _, hm346, fm346, Or.inr ⟨k331, k337, cc, by unfold pcod; rw [hk331]; unfold pcA; rw [if_neg (by rintro ⟨x, y⟩; first | omega | exact y ⟨by omega, by assumption⟩), if_neg (by split <;> omega), if_neg (by omega), if_neg (by omega), hk337]; unfold pcB; rw [if_neg (by omega), if_neg (by omega), if_neg (by omega), hcc]; unfold pcC; rw [if_neg (by rintro (⟨x, y⟩ | ⟨x, y⟩); omega; first | omega | (rw [upc_u hU] at y; exact absurd (Eq.trans y.symm (by assumption : _ = true)) (by decide)) | (rw [upc_s hU] at y; exact absurd (Eq.trans y.symm (by assumption : _ = true)) (by decide))), if_neg (by rintro ⟨x, y⟩; first | omega | exact absurd (Eq.trans y.symm (by assumption : _ = true)) (by decide))], rfl, rfl, hcb, by omega, by omega, hcc⟩⟩)
                            · refine ev_al (k_m_readsCode_2 28 rfl) rfl ?_
                              refine ev_get (v := vA (ma 7)) (k_m_readsCode_2 29 rfl) hm346.1 rfl ?_
                              refine ev_il (k_m_readsCode_2 30 rfl) rfl ?_
                              refine ev_lald (xs := ((σ.2 7).set (120 + (R.length)) cc)) (k_m_readsCode_2 31 rfl) (mr_a hm346 7 rfl) (by omega) (by simp only [List.length_set]; omega) (show ev _ _ _ _ _ _ _ _ (vL (gd ((σ.2 7).set (120 + (R.length)) cc) (120 + (R.length))) :: _) _ _ _ from ?_)
                              rw [gd_set_eq _ (by omega)]
                              refine ev_al (k_m_readsCode_2 32 rfl) rfl ?_
                              refine ev_get (v := vA (ma 7)) (k_m_readsCode_2 33 rfl) hm346.1 rfl ?_
                              refine ev_il (k_m_readsCode_2 34 rfl) rfl ?_
                              refine ev_ic (k_m_readsCode_2 35 rfl) ?_
                              refine ev_isub (k_m_readsCode_2 36 rfl) (by omega) ?_
                              refine ev_lald (xs := ((σ.2 7).set (120 + (R.length)) cc)) (k_m_readsCode_2 37 rfl) (mr_a hm346 7 rfl) (by omega) (by simp only [List.length_set]; omega) (show ev _ _ _ _ _ _ _ _ (vL (gd ((σ.2 7).set (120 + (R.length)) cc) ((120 + (R.length : Int)) - 1).toNat) :: _) _ _ _ from ?_)
                              rw [show ((120 + (R.length : Int)) - 1).toNat = 120 + (R.length - 1) by omega, gd_set_ne _ (by omega), (hs.2.2 (R.length - 1) (by omega)).1]
                              refine ev_cS (k_m_readsCode_2 38 rfl) rfl v_m_isBehind (c_m_isBehind G _ cc (rc R (R.length - 1)) (by (try simp only [sS]); omega) (by (try simp only [sS]); omega)) rfl (le_b rfl) (le_b rfl) (le_b rfl) k_n (k_B fun z400 h400 q400 => ?_)
                              obtain ⟨rfl, (rfl : z400 = (bhd cc (rc R (R.length - 1))))⟩ := q400
                              refine ev_b_ne (k_m_readsCode_2 39 rfl) (fun c401 => ?_) (fun c401 => ?_)
                              · refine ev_ic (k_m_readsCode_2 45 rfl) ?_
                                refine ev_goto (k_m_readsCode_2 46 rfl) ?_
                                exact ev_zret (x := true) (k_m_readsCode_2 48 rfl) rfl (⟨true, rfl, _, hm346, fm346, Or.inr ⟨k331, k337, cc, by unfold pcod; rw [hk331]; unfold pcA; rw [if_neg (by rintro ⟨x, y⟩; first | omega | exact y ⟨by omega, by assumption⟩), if_neg (by split <;> omega), if_neg (by omega), if_neg (by omega), hk337]; unfold pcB; rw [if_neg (by omega), if_neg (by omega), if_neg (by omega), hcc]; unfold pcC; rw [if_neg (by rintro (⟨x, y⟩ | ⟨x, y⟩); omega; first | omega | (rw [upc_u hU] at y; exact absurd (Eq.trans y.symm (by assumption : _ = true)) (by decide)) | (rw [upc_s hU] at y; exact absurd (Eq.trans y.symm (by assumption : _ = true)) (by decide))), if_neg (by rintro ⟨x, y⟩; first | omega | exact absurd (Eq.trans y.symm (by assumption : _ = true)) (by decide))], rfl, rfl, hcb, by omega, by omega, hcc⟩⟩)
                              · refine ev_al (k_m_readsCode_2 40 rfl) rfl ?_
                                refine ev_ic (k_m_readsCode_2 41 rfl) ?_
                                refine ev_ilw (k_m_readsCode_2 42 rfl) rfl ?_
                                refine ev_cV (k_m_readsCode_2 43 rfl) rfl v_m_fails hm346.1 rfl (c_m_fails G ma _ _ hm346 4 ((p : Int) + (k331 : Int))) rfl (le_b rfl) (le_b rfl) (le_b rfl) k_n (k_B fun z402 h402 q402 => ?_)
                                obtain ⟨rfl, hm402, fmx402⟩ := q402
                                have fm402 := fM_tr fm346 fmx402
                                refine ev_if_eq (k_m_readsCode_2 44 rfl) (fun _ => ?_) (fun c => absurd c (by decide))
                                refine ev_ic (k_m_readsCode_2 47 rfl) ?_
                                exact ev_zret (x := false) (k_m_readsCode_2 48 rfl) rfl (⟨false, rfl, _, hm402, fm402, Or.inl ⟨4, (p) + (k331), by first | (exfalso; omega) | (unfold pcod; rw [hk331]; unfold pcA; rw [if_neg (by rintro ⟨x, y⟩; first | omega | exact y ⟨by omega, by assumption⟩), if_neg (by split <;> omega), if_neg (by omega), if_neg (by omega), hk337]; unfold pcB; rw [if_neg (by omega), if_neg (by omega), if_neg (by omega), hcc]; unfold pcC; rw [if_neg (by rintro (⟨x, y⟩ | ⟨x, y⟩); omega; first | omega | (rw [upc_u hU] at y; exact absurd (Eq.trans y.symm (by assumption : _ = true)) (by decide)) | (rw [upc_s hU] at y; exact absurd (Eq.trans y.symm (by assumption : _ = true)) (by decide))), if_pos ⟨by omega, by assumption⟩]), rfl, by first | exact frd_tr (frd_S (Or.inl rfl)) (frd_S (Or.inr (Or.inl rfl))) | exact frd_tr (frd_tr (frd_A8 (by omega)) (frd_A7 (by omega))) (frd_tr (frd_S (Or.inl rfl)) (frd_S (Or.inr (Or.inl rfl)))), rfl, by simp [sS], by omega⟩⟩)
                          · refine ev_al (k_m_readsCode_2 7 rfl) rfl ?_
                            refine ev_get (v := vA (ma 7)) (k_m_readsCode_2 8 rfl) hm346.1 rfl ?_
                            refine ev_il (k_m_readsCode_2 9 rfl) rfl ?_
                            refine ev_lald (xs := ((σ.2 7).set (120 + (R.length)) cc)) (k_m_readsCode_2 10 rfl) (mr_a hm346 7 rfl) (by omega) (by simp only [List.length_set]; omega) (show ev _ _ _ _ _ _ _ _ (vL (gd ((σ.2 7).set (120 + (R.length)) cc) (120 + (R.length))) :: _) _ _ _ from ?_)
                            rw [gd_set_eq _ (by omega)]
                            refine ev_al (k_m_readsCode_2 11 rfl) rfl ?_
                            refine ev_get (v := vA (ma 7)) (k_m_readsCode_2 12 rfl) hm346.1 rfl ?_
                            refine ev_ilw (k_m_readsCode_2 13 rfl) rfl ?_
                            refine ev_if_ge (k_m_readsCode_2 14 rfl) (fun _ => ?_) (fun c => absurd c (by omega))
                            refine ev_ilw (k_m_readsCode_2 17 rfl) rfl ?_
                            refine ev_lald (xs := ((σ.2 7).set (120 + (R.length)) cc)) (k_m_readsCode_2 18 rfl) (mr_a hm346 7 rfl) (by omega) (by simp only [List.length_set]; omega) (show ev _ _ _ _ _ _ _ _ (vL (gd ((σ.2 7).set (120 + (R.length)) cc) (120 + j)) :: _) _ _ _ from ?_)
                            rw [gd_set_ne _ (by omega), (hs.2.2 j huj.1).1]
                            refine ev_cS (k_m_readsCode_2 19 rfl) rfl v_m_begins (c_m_begins G _ cc (rc R j) (by (try simp only [sS]); omega)) rfl (le_b rfl) (le_b rfl) (le_b rfl) k_n (k_B fun z404 h404 q404 => ?_)
                            obtain ⟨rfl, (rfl : z404 = (bgn cc (rc R j)))⟩ := q404
                            refine ev_b_ne (k_m_readsCode_2 20 rfl) (fun c405 => ?_) (fun c405 => ?_)
                            · refine ev_il (k_m_readsCode_2 26 rfl) rfl ?_
                              refine ev_if_eq (k_m_readsCode_2 27 rfl) (fun c406 => ?_) (fun c406 => ?_)
                              · refine ev_ic (k_m_readsCode_2 45 rfl) ?_
                                refine ev_goto (k_m_readsCode_2 46 rfl) ?_
                                exact ev_zret (x := true) (k_m_readsCode_2 48 rfl) rfl (⟨true, rfl, _, hm346, fm346, Or.inr ⟨k331, k337, cc, by unfold pcod; rw [hk331]; unfold pcA; rw [if_neg (by rintro ⟨x, y⟩; first | omega | exact y ⟨by omega, by assumption⟩), if_neg (by split <;> omega), if_neg (by omega), if_neg (by omega), hk337]; unfold pcB; rw [if_neg (by omega), if_neg (by omega), if_neg (by omega), hcc]; unfold pcC; rw [if_neg (by rintro (⟨x, y⟩ | ⟨x, y⟩); omega; first | omega | (rw [upc_u hU] at y; exact absurd (Eq.trans y.symm (by assumption : _ = true)) (by decide)) | (rw [upc_s hU] at y; exact absurd (Eq.trans y.symm (by assumption : _ = true)) (by decide))), if_neg (by rintro ⟨x, y⟩; first | omega | exact absurd (Eq.trans y.symm (by assumption : _ = true)) (by decide))], rfl, rfl, hcb, by omega, by omega, hcc⟩⟩)
                              · refine ev_al (k_m_readsCode_2 28 rfl) rfl ?_
                                refine ev_get (v := vA (ma 7)) (k_m_readsCode_2 29 rfl) hm346.1 rfl ?_
                                refine ev_il (k_m_readsCode_2 30 rfl) rfl ?_
                                refine ev_lald (xs := ((σ.2 7).set (120 + (R.length)) cc)) (k_m_readsCode_2 31 rfl) (mr_a hm346 7 rfl) (by omega) (by simp only [List.length_set]; omega) (show ev _ _ _ _ _ _ _ _ (vL (gd ((σ.2 7).set (120 + (R.length)) cc) (120 + (R.length))) :: _) _ _ _ from ?_)
                                rw [gd_set_eq _ (by omega)]
                                refine ev_al (k_m_readsCode_2 32 rfl) rfl ?_
                                refine ev_get (v := vA (ma 7)) (k_m_readsCode_2 33 rfl) hm346.1 rfl ?_
                                refine ev_il (k_m_readsCode_2 34 rfl) rfl ?_
                                refine ev_ic (k_m_readsCode_2 35 rfl) ?_
                                refine ev_isub (k_m_readsCode_2 36 rfl) (by omega) ?_
                                refine ev_lald (xs := ((σ.2 7).set (120 + (R.length)) cc)) (k_m_readsCode_2 37 rfl) (mr_a hm346 7 rfl) (by omega) (by simp only [List.length_set]; omega) (show ev _ _ _ _ _ _ _ _ (vL (gd ((σ.2 7).set (120 + (R.length)) cc) ((120 + (R.length : Int)) - 1).toNat) :: _) _ _ _ from ?_)
                                rw [show ((120 + (R.length : Int)) - 1).toNat = 120 + (R.length - 1) by omega, gd_set_ne _ (by omega), (hs.2.2 (R.length - 1) (by omega)).1]
                                refine ev_cS (k_m_readsCode_2 38 rfl) rfl v_m_isBehind (c_m_isBehind G _ cc (rc R (R.length - 1)) (by (try simp only [sS]); omega) (by (try simp only [sS]); omega)) rfl (le_b rfl) (le_b rfl) (le_b rfl) k_n (k_B fun z407 h407 q407 => ?_)
                                obtain ⟨rfl, (rfl : z407 = (bhd cc (rc R (R.length - 1))))⟩ := q407
                                refine ev_b_ne (k_m_readsCode_2 39 rfl) (fun c408 => ?_) (fun c408 => ?_)
                                · refine ev_ic (k_m_readsCode_2 45 rfl) ?_
                                  refine ev_goto (k_m_readsCode_2 46 rfl) ?_
                                  exact ev_zret (x := true) (k_m_readsCode_2 48 rfl) rfl (⟨true, rfl, _, hm346, fm346, Or.inr ⟨k331, k337, cc, by unfold pcod; rw [hk331]; unfold pcA; rw [if_neg (by rintro ⟨x, y⟩; first | omega | exact y ⟨by omega, by assumption⟩), if_neg (by split <;> omega), if_neg (by omega), if_neg (by omega), hk337]; unfold pcB; rw [if_neg (by omega), if_neg (by omega), if_neg (by omega), hcc]; unfold pcC; rw [if_neg (by rintro (⟨x, y⟩ | ⟨x, y⟩); omega; first | omega | (rw [upc_u hU] at y; exact absurd (Eq.trans y.symm (by assumption : _ = true)) (by decide)) | (rw [upc_s hU] at y; exact absurd (Eq.trans y.symm (by assumption : _ = true)) (by decide))), if_neg (by rintro ⟨x, y⟩; first | omega | exact absurd (Eq.trans y.symm (by assumption : _ = true)) (by decide))], rfl, rfl, hcb, by omega, by omega, hcc⟩⟩)
                                · refine ev_al (k_m_readsCode_2 40 rfl) rfl ?_
                                  refine ev_ic (k_m_readsCode_2 41 rfl) ?_
                                  refine ev_ilw (k_m_readsCode_2 42 rfl) rfl ?_
                                  refine ev_cV (k_m_readsCode_2 43 rfl) rfl v_m_fails hm346.1 rfl (c_m_fails G ma _ _ hm346 4 ((p : Int) + (k331 : Int))) rfl (le_b rfl) (le_b rfl) (le_b rfl) k_n (k_B fun z409 h409 q409 => ?_)
                                  obtain ⟨rfl, hm409, fmx409⟩ := q409
                                  have fm409 := fM_tr fm346 fmx409
                                  refine ev_if_eq (k_m_readsCode_2 44 rfl) (fun _ => ?_) (fun c => absurd c (by decide))
                                  refine ev_ic (k_m_readsCode_2 47 rfl) ?_
                                  exact ev_zret (x := false) (k_m_readsCode_2 48 rfl) rfl (⟨false, rfl, _, hm409, fm409, Or.inl ⟨4, (p) + (k331), by first | (exfalso; omega) | (unfold pcod; rw [hk331]; unfold pcA; rw [if_neg (by rintro ⟨x, y⟩; first | omega | exact y ⟨by omega, by assumption⟩), if_neg (by split <;> omega), if_neg (by omega), if_neg (by omega), hk337]; unfold pcB; rw [if_neg (by omega), if_neg (by omega), if_neg (by omega), hcc]; unfold pcC; rw [if_neg (by rintro (⟨x, y⟩ | ⟨x, y⟩); omega; first | omega | (rw [upc_u hU] at y; exact absurd (Eq.trans y.symm (by assumption : _ = true)) (by decide)) | (rw [upc_s hU] at y; exact absurd (Eq.trans y.symm (by assumption : _ = true)) (by decide))), if_pos ⟨by omega, by assumption⟩]), rfl, by first | exact frd_tr (frd_S (Or.inl rfl)) (frd_S (Or.inr (Or.inl rfl))) | exact frd_tr (frd_tr (frd_A8 (by omega)) (frd_A7 (by omega))) (frd_tr (frd_S (Or.inl rfl)) (frd_S (Or.inr (Or.inl rfl)))), rfl, by simp [sS], by omega⟩⟩)
                            · refine ev_al (k_m_readsCode_2 21 rfl) rfl ?_
                              refine ev_ic (k_m_readsCode_2 22 rfl) ?_
                              refine ev_ilw (k_m_readsCode_2 23 rfl) rfl ?_
                              refine ev_cV (k_m_readsCode_2 24 rfl) rfl v_m_fails hm346.1 rfl (c_m_fails G ma _ _ hm346 3 ((p : Int) + (k331 : Int))) rfl (le_b rfl) (le_b rfl) (le_b rfl) k_n (k_B fun z411 h411 q411 => ?_)
                              obtain ⟨rfl, hm411, fmx411⟩ := q411
                              have fm411 := fM_tr fm346 fmx411
                              exact ev_zret (x := false) (k_m_readsCode_2 25 rfl) rfl (⟨false, rfl, _, hm411, fm411, Or.inl ⟨3, (p) + (k331), by first | (exfalso; omega) | (unfold pcod; rw [hk331]; unfold pcA; rw [if_neg (by rintro ⟨x, y⟩; first | omega | exact y ⟨by omega, by assumption⟩), if_neg (by split <;> omega), if_neg (by omega), if_neg (by omega), hk337]; unfold pcB; rw [if_neg (by omega), if_neg (by omega), if_neg (by omega), hcc]; unfold pcC; rw [if_pos (by first | exact Or.inl ⟨by omega, by omega⟩ | exact Or.inr ⟨by omega, by rw [upc_u hU]; assumption⟩ | exact Or.inr ⟨by omega, by rw [upc_s hU]; assumption⟩)]), rfl, by first | exact frd_tr (frd_S (Or.inl rfl)) (frd_S (Or.inr (Or.inl rfl))) | exact frd_tr (frd_tr (frd_A8 (by omega)) (frd_A7 (by omega))) (frd_tr (frd_S (Or.inl rfl)) (frd_S (Or.inr (Or.inl rfl)))), rfl, by simp [sS], by omega⟩⟩)
                · refine ev_al (k_m_readsCode_1 28 rfl) rfl ?_
                  refine ev_ic (k_m_readsCode_1 29 rfl) ?_
                  refine ev_ilw (k_m_readsCode_1 30 rfl) rfl ?_
                  refine ev_bp (k_m_readsCode_1 31 rfl) ?_
                  refine ev_ic_le (k_m_readsCode_1 32 rfl) (fun c412 => ?_) (fun c412 => ?_)
                  · refine ev_ilw (k_m_readsCode_1 37 rfl) rfl ?_
                    refine ev_ilw (k_m_readsCode_1 38 rfl) rfl ?_
                    refine ev_iadd (k_m_readsCode_1 39 rfl) (by omega) ?_
                    refine ev_cV (k_m_readsCode_1 40 rfl) rfl v_m_fails hm.1 rfl (c_m_fails G ma _ _ hm 1 (((p : Int) + (k331 : Int)) + (k337 : Int))) rfl (le_b rfl) (le_b rfl) (le_b rfl) k_n (k_B fun z413 h413 q413 => ?_)
                    obtain ⟨rfl, hm413, fmx413⟩ := q413
                    have fm413 := fM_tr (fM_rf _) fmx413
                    exact ev_zret (x := false) (k_m_readsCode_1 41 rfl) rfl (⟨false, rfl, _, hm413, fm413, Or.inl ⟨1, ((p) + (k331)) + (k337), by first | (exfalso; omega) | (unfold pcod; rw [hk331]; unfold pcA; rw [if_neg (by rintro ⟨x, y⟩; first | omega | exact y ⟨by omega, by assumption⟩), if_neg (by split <;> omega), if_neg (by omega), if_neg (by omega), hk337]; unfold pcB; first | rw [if_neg (by omega), if_pos (by omega)] | rw [if_neg (by omega), if_neg (by omega), if_pos (by omega)]), rfl, by first | exact frd_tr (frd_S (Or.inl rfl)) (frd_S (Or.inr (Or.inl rfl))) | exact frd_tr (frd_tr (frd_A8 (by omega)) (frd_A7 (by omega))) (frd_tr (frd_S (Or.inl rfl)) (frd_S (Or.inr (Or.inl rfl)))), rfl, by simp [sS], by omega⟩⟩)
                  · refine ev_ilw (k_m_readsCode_1 33 rfl) rfl ?_
                    refine ev_bp (k_m_readsCode_1 34 rfl) ?_
                    refine ev_iadd (k_m_readsCode_1 35 rfl) (by omega) ?_
                    refine ev_goto (k_m_readsCode_1 36 rfl) ?_
                    refine ev_cV (k_m_readsCode_1 40 rfl) rfl v_m_fails hm.1 rfl (c_m_fails G ma _ _ hm 1 (((p : Int) + (k331 : Int)) + 10)) rfl (le_b rfl) (le_b rfl) (le_b rfl) k_n (k_B fun z414 h414 q414 => ?_)
                    obtain ⟨rfl, hm414, fmx414⟩ := q414
                    have fm414 := fM_tr (fM_rf _) fmx414
                    exact ev_zret (x := false) (k_m_readsCode_1 41 rfl) rfl (⟨false, rfl, _, hm414, fm414, Or.inl ⟨1, ((p) + (k331)) + 10, by first | (exfalso; omega) | (unfold pcod; rw [hk331]; unfold pcA; rw [if_neg (by rintro ⟨x, y⟩; first | omega | exact y ⟨by omega, by assumption⟩), if_neg (by split <;> omega), if_neg (by omega), if_neg (by omega), hk337]; unfold pcB; first | rw [if_neg (by omega), if_pos (by omega)] | rw [if_neg (by omega), if_neg (by omega), if_pos (by omega)]), rfl, by first | exact frd_tr (frd_S (Or.inl rfl)) (frd_S (Or.inr (Or.inl rfl))) | exact frd_tr (frd_tr (frd_A8 (by omega)) (frd_A7 (by omega))) (frd_tr (frd_S (Or.inl rfl)) (frd_S (Or.inr (Or.inl rfl)))), rfl, by simp [sS], by omega⟩⟩)
            · refine ev_al (k_m_readsCode_1 15 rfl) rfl ?_
              refine ev_ic (k_m_readsCode_1 16 rfl) ?_
              refine ev_ilw (k_m_readsCode_1 17 rfl) rfl ?_
              refine ev_cV (k_m_readsCode_1 18 rfl) rfl v_m_fails hm.1 rfl (c_m_fails G ma _ _ hm 1 ((p : Int) + (k331 : Int))) rfl (le_b rfl) (le_b rfl) (le_b rfl) k_n (k_B fun z415 h415 q415 => ?_)
              obtain ⟨rfl, hm415, fmx415⟩ := q415
              have fm415 := fM_tr (fM_rf _) fmx415
              exact ev_zret (x := false) (k_m_readsCode_1 19 rfl) rfl (⟨false, rfl, _, hm415, fm415, Or.inl ⟨1, (p) + (k331), by first | (exfalso; omega) | (unfold pcod; rw [hk331]; unfold pcA; rw [if_neg (by rintro ⟨x, y⟩; first | omega | exact y ⟨by omega, by assumption⟩), if_neg (by split <;> omega), if_neg (by omega), if_neg (by omega), hk337]; unfold pcB; rw [if_pos (by omega)]), rfl, by first | exact frd_tr (frd_S (Or.inl rfl)) (frd_S (Or.inr (Or.inl rfl))) | exact frd_tr (frd_tr (frd_A8 (by omega)) (frd_A7 (by omega))) (frd_tr (frd_S (Or.inl rfl)) (frd_S (Or.inr (Or.inl rfl)))), rfl, by simp [sS], by omega⟩⟩)
          · refine ev_al (k_m_readsCode_1 1 rfl) rfl ?_
            refine ev_ic (k_m_readsCode_1 2 rfl) ?_
            refine ev_il (k_m_readsCode_1 3 rfl) rfl ?_
            refine ev_ic (k_m_readsCode_1 4 rfl) ?_
            refine ev_iadd (k_m_readsCode_1 5 rfl) (by omega) ?_
            refine ev_cV (k_m_readsCode_1 6 rfl) rfl v_m_fails hm.1 rfl (c_m_fails G ma _ _ hm 1 ((p : Int) + 4)) rfl (le_b rfl) (le_b rfl) (le_b rfl) k_n (k_B fun z416 h416 q416 => ?_)
            obtain ⟨rfl, hm416, fmx416⟩ := q416
            have fm416 := fM_tr (fM_rf _) fmx416
            exact ev_zret (x := false) (k_m_readsCode_1 7 rfl) rfl (⟨false, rfl, _, hm416, fm416, Or.inl ⟨1, (p) + 4, by first | (exfalso; omega) | (unfold pcod; rw [hk331]; unfold pcA; rw [if_neg (by rintro ⟨x, y⟩; first | omega | exact y ⟨by omega, by assumption⟩), if_neg (by split <;> omega), if_neg (by omega), if_pos (by omega)]), rfl, by first | exact frd_tr (frd_S (Or.inl rfl)) (frd_S (Or.inr (Or.inl rfl))) | exact frd_tr (frd_tr (frd_A8 (by omega)) (frd_A7 (by omega))) (frd_tr (frd_S (Or.inl rfl)) (frd_S (Or.inr (Or.inl rfl)))), rfl, by simp [sS], by omega⟩⟩)
        · refine ev_al (k_m_readsCode_0 53 rfl) rfl ?_
          refine ev_ic (k_m_readsCode_0 54 rfl) ?_
          refine ev_il (k_m_readsCode_0 55 rfl) rfl ?_
          refine ev_cV (k_m_readsCode_0 56 rfl) rfl v_m_fails hm.1 rfl (c_m_fails G ma _ _ hm 5 (p : Int)) rfl (le_b rfl) (le_b rfl) (le_b rfl) k_n (k_B fun z417 h417 q417 => ?_)
          obtain ⟨rfl, hm417, fmx417⟩ := q417
          have fm417 := fM_tr (fM_rf _) fmx417
          exact ev_zret (x := false) (k_m_readsCode_0 57 rfl) rfl (⟨false, rfl, _, hm417, fm417, Or.inl ⟨5, p, by first | (exfalso; omega) | (unfold pcod; rw [hk331]; unfold pcA; rw [if_neg (by rintro ⟨x, y⟩; first | omega | exact y ⟨by omega, by assumption⟩), if_neg (by split <;> omega), if_pos (by omega)]), rfl, by first | exact frd_tr (frd_S (Or.inl rfl)) (frd_S (Or.inr (Or.inl rfl))) | exact frd_tr (frd_tr (frd_A8 (by omega)) (frd_A7 (by omega))) (frd_tr (frd_S (Or.inl rfl)) (frd_S (Or.inr (Or.inl rfl)))), rfl, by simp [sS], by omega⟩⟩)
      · refine ev_al (k_m_readsCode_0 45 rfl) rfl ?_
        refine ev_ic (k_m_readsCode_0 46 rfl) ?_
        refine ev_il (k_m_readsCode_0 47 rfl) rfl ?_
        refine ev_cV (k_m_readsCode_0 48 rfl) rfl v_m_fails hm.1 rfl (c_m_fails G ma _ _ hm 2 (p : Int)) rfl (le_b rfl) (le_b rfl) (le_b rfl) k_n (k_B fun z418 h418 q418 => ?_)
        obtain ⟨rfl, hm418, fmx418⟩ := q418
        have fm418 := fM_tr (fM_rf _) fmx418
        exact ev_zret (x := false) (k_m_readsCode_0 49 rfl) rfl (⟨false, rfl, _, hm418, fm418, Or.inl ⟨2, p, by first | (exfalso; omega) | (unfold pcod; rw [hk331]; unfold pcA; rw [if_neg (by rintro ⟨x, y⟩; first | omega | exact y ⟨by omega, by assumption⟩), if_pos (by split <;> omega)]), rfl, by first | exact frd_tr (frd_S (Or.inl rfl)) (frd_S (Or.inr (Or.inl rfl))) | exact frd_tr (frd_tr (frd_A8 (by omega)) (frd_A7 (by omega))) (frd_tr (frd_S (Or.inl rfl)) (frd_S (Or.inr (Or.inl rfl)))), rfl, by simp [sS], by omega⟩⟩)
    · refine ev_ic (k_m_readsCode_0 34 rfl) ?_
      refine ev_goto (k_m_readsCode_0 35 rfl) ?_
      refine ev_ic_le (k_m_readsCode_0 44 rfl) (fun c419 => ?_) (fun c419 => ?_)
      · refine ev_il (k_m_readsCode_0 50 rfl) rfl ?_
        refine ev_bp (k_m_readsCode_0 51 rfl) ?_
        refine ev_ic_ne (k_m_readsCode_0 52 rfl) (fun c420 => ?_) (fun c420 => ?_)
        · refine ev_ilw (k_m_readsCode_0 58 rfl) rfl ?_
          refine ev_ic (k_m_readsCode_0 59 rfl) ?_
          refine ev_ic_le (k_m_readsCode_1 0 rfl) (fun c421 => ?_) (fun c421 => ?_)
          · refine ev_al (k_m_readsCode_1 8 rfl) rfl ?_
            refine ev_ilw (k_m_readsCode_1 9 rfl) rfl ?_
            refine ev_ic (k_m_readsCode_1 10 rfl) ?_
            refine ev_cV (k_m_readsCode_1 11 rfl) rfl v_m_run hm.1 rfl (c_m_run G ma _ _ hm n ((p) + (k331)) 1 hn0 hn4 (by omega)) rfl (le_b rfl) (le_b rfl) (le_b rfl) k_n (k_I fun z422 h422 q422 => ?_)
            obtain ⟨rfl, (rfl : z422 = ((rn (gd (σ.2 1)) 1 ((p) + (k331)) (n - ((p) + (k331))) : Nat) : Int))⟩ := q422
            have rl422 := rn_le (gd (σ.2 1)) 1 (n - ((p) + (k331))) ((p) + (k331))
            generalize hk422 : rn (gd (σ.2 1)) 1 ((p) + (k331)) (n - ((p) + (k331))) = k422 at rl422 ⊢
            refine ev_isw (k_m_readsCode_1 12 rfl) (le_b rfl) (show ev _ _ _ _ _ _ 117 [some (vA (ma 0)), some (vI (p : Int)), some (vI (R.length : Int)), some (vI (120 + (R.length : Int))), some (vI (k331 : Int)), some (vI ((p : Int) + (k331 : Int))), some (vI (k422 : Int)), none] _ _ _ _ from ?_)
            refine ev_ilw (k_m_readsCode_1 13 rfl) rfl ?_
            refine ev_if_ne (k_m_readsCode_1 14 rfl) (fun c423 => ?_) (fun c423 => ?_)
            · refine ev_ilw (k_m_readsCode_1 20 rfl) rfl ?_
              refine ev_bp (k_m_readsCode_1 21 rfl) ?_
              refine ev_ic_gt (k_m_readsCode_1 22 rfl) (fun c424 => ?_) (fun c424 => ?_)
              · refine ev_al (k_m_readsCode_1 28 rfl) rfl ?_
                refine ev_ic (k_m_readsCode_1 29 rfl) ?_
                refine ev_ilw (k_m_readsCode_1 30 rfl) rfl ?_
                refine ev_bp (k_m_readsCode_1 31 rfl) ?_
                refine ev_ic_le (k_m_readsCode_1 32 rfl) (fun c425 => ?_) (fun c425 => ?_)
                · refine ev_ilw (k_m_readsCode_1 37 rfl) rfl ?_
                  refine ev_ilw (k_m_readsCode_1 38 rfl) rfl ?_
                  refine ev_iadd (k_m_readsCode_1 39 rfl) (by omega) ?_
                  refine ev_cV (k_m_readsCode_1 40 rfl) rfl v_m_fails hm.1 rfl (c_m_fails G ma _ _ hm 1 (((p : Int) + (k331 : Int)) + (k422 : Int))) rfl (le_b rfl) (le_b rfl) (le_b rfl) k_n (k_B fun z426 h426 q426 => ?_)
                  obtain ⟨rfl, hm426, fmx426⟩ := q426
                  have fm426 := fM_tr (fM_rf _) fmx426
                  exact ev_zret (x := false) (k_m_readsCode_1 41 rfl) rfl (⟨false, rfl, _, hm426, fm426, Or.inl ⟨1, ((p) + (k331)) + (k422), by first | (exfalso; omega) | (unfold pcod; rw [hk331]; unfold pcA; rw [if_neg (by rintro ⟨x, y⟩; first | omega | exact y ⟨by omega, by assumption⟩), if_neg (by split <;> omega), if_neg (by omega), if_neg (by omega), hk422]; unfold pcB; first | rw [if_neg (by omega), if_pos (by omega)] | rw [if_neg (by omega), if_neg (by omega), if_pos (by omega)]), rfl, by first | exact frd_tr (frd_S (Or.inl rfl)) (frd_S (Or.inr (Or.inl rfl))) | exact frd_tr (frd_tr (frd_A8 (by omega)) (frd_A7 (by omega))) (frd_tr (frd_S (Or.inl rfl)) (frd_S (Or.inr (Or.inl rfl)))), rfl, by simp [sS], by omega⟩⟩)
                · refine ev_ilw (k_m_readsCode_1 33 rfl) rfl ?_
                  refine ev_bp (k_m_readsCode_1 34 rfl) ?_
                  refine ev_iadd (k_m_readsCode_1 35 rfl) (by omega) ?_
                  refine ev_goto (k_m_readsCode_1 36 rfl) ?_
                  refine ev_cV (k_m_readsCode_1 40 rfl) rfl v_m_fails hm.1 rfl (c_m_fails G ma _ _ hm 1 (((p : Int) + (k331 : Int)) + 10)) rfl (le_b rfl) (le_b rfl) (le_b rfl) k_n (k_B fun z427 h427 q427 => ?_)
                  obtain ⟨rfl, hm427, fmx427⟩ := q427
                  have fm427 := fM_tr (fM_rf _) fmx427
                  exact ev_zret (x := false) (k_m_readsCode_1 41 rfl) rfl (⟨false, rfl, _, hm427, fm427, Or.inl ⟨1, ((p) + (k331)) + 10, by first | (exfalso; omega) | (unfold pcod; rw [hk331]; unfold pcA; rw [if_neg (by rintro ⟨x, y⟩; first | omega | exact y ⟨by omega, by assumption⟩), if_neg (by split <;> omega), if_neg (by omega), if_neg (by omega), hk422]; unfold pcB; first | rw [if_neg (by omega), if_pos (by omega)] | rw [if_neg (by omega), if_neg (by omega), if_pos (by omega)]), rfl, by first | exact frd_tr (frd_S (Or.inl rfl)) (frd_S (Or.inr (Or.inl rfl))) | exact frd_tr (frd_tr (frd_A8 (by omega)) (frd_A7 (by omega))) (frd_tr (frd_S (Or.inl rfl)) (frd_S (Or.inr (Or.inl rfl)))), rfl, by simp [sS], by omega⟩⟩)
              · refine ev_ilw (k_m_readsCode_1 23 rfl) rfl ?_
                refine ev_ic (k_m_readsCode_1 24 rfl) ?_
                refine ev_irem (k_m_readsCode_1 25 rfl) (by omega) (by omega) ?_
                refine ev_ic (k_m_readsCode_1 26 rfl) ?_
                refine ev_ic_ne (k_m_readsCode_1 27 rfl) (fun c428 => ?_) (fun c428 => ?_)
                · refine ev_al (k_m_readsCode_1 42 rfl) rfl ?_
                  refine ev_get (v := vA (ma 8)) (k_m_readsCode_1 43 rfl) hm.1 rfl ?_
                  refine ev_il (k_m_readsCode_1 44 rfl) rfl ?_
                  refine ev_ilw (k_m_readsCode_1 45 rfl) rfl ?_
                  refine ev_mias (iN := 120 + (R.length)) (k_m_readsCode_1 46 rfl) 8 rfl hm (fM_rf _) (by omega) (by omega) (fun h429 (hm429 : MR h429 ma (sA σ 8 ((σ.2 8).set (120 + (R.length)) (k331 : Int)))) fm429 => ?_)
                  refine ev_al (k_m_readsCode_1 47 rfl) rfl ?_
                  refine ev_get (v := vA (ma 7)) (k_m_readsCode_1 48 rfl) hm429.1 rfl ?_
                  refine ev_il (k_m_readsCode_1 49 rfl) rfl ?_
                  refine ev_al (k_m_readsCode_1 50 rfl) rfl ?_
                  refine ev_ilw (k_m_readsCode_1 51 rfl) rfl ?_
                  refine ev_ilw (k_m_readsCode_1 52 rfl) rfl ?_
                  refine ev_cV (k_m_readsCode_1 53 rfl) rfl v_m_codeAt hm429.1 rfl (c_m_codeAt G ma _ _ hm429 ((p) + (k331)) k422 (by (try simp only [sS]); omega) (by (try simp only [sS]); omega) (fun j hj => rn_digs (T := gd (σ.2 1)) (n := n - ((p) + (k331))) (by rw [hk422]; exact hj))) rfl (le_b rfl) (le_b rfl) (le_b rfl) k_n (k_L fun z430 h430 q430 => ?_)
                  obtain ⟨rfl, (rfl : z430 = pw 10 48 1 (gd (σ.2 1)) ((p) + (k331)) k422)⟩ := q430
                  have hcb : 0 < pw 10 48 1 (gd (σ.2 1)) ((p) + (k331)) k422 := pw_pos hk422
                  generalize hcc : pw 10 48 1 (gd (σ.2 1)) ((p) + (k331)) k422 = cc at hcb ⊢
                  refine ev_mlas (iN := 120 + (R.length)) (k_m_readsCode_1 54 rfl) 7 rfl hm429 fm429 (by omega) (by omega) (fun h431 (hm431 : MR h431 ma (sA (sA σ 8 ((σ.2 8).set (120 + (R.length)) (k331 : Int))) 7 ((σ.2 7).set (120 + (R.length)) cc))) fm431 => ?_)
                  refine ev_al (k_m_readsCode_1 55 rfl) rfl ?_
                  refine ev_bp (k_m_readsCode_1 56 rfl) ?_
                  refine ev_il (k_m_readsCode_1 57 rfl) rfl ?_
                  refine ev_cV (k_m_readsCode_1 58 rfl) rfl v_m_above hm431.1 rfl (c_m_above G ma _ _ hm431 120 (120 + (R.length)) (by (try simp only [sS]); omega) (by (try simp only [sS]); omega) (by show 0 ≤ gd ((σ.2 8).set (120 + R.length) _) (120 + R.length); rw [gd_set_eq _ (by (try simp only [sS]); omega)]; omega)) rfl (le_b rfl) (le_b rfl) (le_b rfl) k_n (k_I fun z432 h432 q432 => ?_)
                  obtain ⟨rfl, (rfl : z432 = abv (((σ.2 8).set (120 + (R.length)) (k331 : Int))) 120 (120 + (R.length)))⟩ := q432
                  rw [show abv _ _ _ = ou (upx R k331) from abv_O hs l8 (by omega) k331]
                  cases hU : upx R k331 with
                  | none =>
                      show ev _ _ _ _ _ _ _ _ (vI (-1) :: _) _ _ _
                      refine ev_isw (k_m_readsCode_1 59 rfl) (le_b rfl) (show ev _ _ _ _ _ _ 202 [some (vA (ma 0)), some (vI (p : Int)), some (vI (R.length : Int)), some (vI (120 + (R.length : Int))), some (vI (k331 : Int)), some (vI ((p : Int) + (k331 : Int))), some (vI (k422 : Int)), some (vI (-1))] _ _ _ _ from ?_)
                      refine ev_ilw (k_m_readsCode_2 0 rfl) rfl ?_
                      refine ev_if_ne (k_m_readsCode_2 1 rfl) (fun c433 => ?_) (fun c433 => ?_)
                      · refine ev_ilw (k_m_readsCode_2 5 rfl) rfl ?_
                        refine ev_if_le (k_m_readsCode_2 6 rfl) (fun c434 => ?_) (fun c434 => ?_)
                        · refine ev_il (k_m_readsCode_2 26 rfl) rfl ?_
                          refine ev_if_eq (k_m_readsCode_2 27 rfl) (fun c435 => ?_) (fun c435 => ?_)
                          · refine ev_ic (k_m_readsCode_2 45 rfl) ?_
                            refine ev_goto (k_m_readsCode_2 46 rfl) ?_
                            exact ev_zret (x := true) (k_m_readsCode_2 48 rfl) rfl (⟨true, rfl, _, hm431, fm431, Or.inr ⟨k331, k422, cc, by unfold pcod; rw [hk331]; unfold pcA; rw [if_neg (by rintro ⟨x, y⟩; first | omega | exact y ⟨by omega, by assumption⟩), if_neg (by split <;> omega), if_neg (by omega), if_neg (by omega), hk422]; unfold pcB; rw [if_neg (by omega), if_neg (by omega), if_neg (by omega), hcc]; unfold pcC; rw [if_neg (by rintro (⟨x, y⟩ | ⟨x, y⟩); omega; first | omega | (rw [upc_u hU] at y; exact absurd (Eq.trans y.symm (by assumption : _ = true)) (by decide)) | (rw [upc_s hU] at y; exact absurd (Eq.trans y.symm (by assumption : _ = true)) (by decide))), if_neg (by rintro ⟨x, y⟩; first | omega | exact absurd (Eq.trans y.symm (by assumption : _ = true)) (by decide))], rfl, rfl, hcb, by omega, by omega, hcc⟩⟩)
                          · refine ev_al (k_m_readsCode_2 28 rfl) rfl ?_
                            refine ev_get (v := vA (ma 7)) (k_m_readsCode_2 29 rfl) hm431.1 rfl ?_
                            refine ev_il (k_m_readsCode_2 30 rfl) rfl ?_
                            refine ev_lald (xs := ((σ.2 7).set (120 + (R.length)) cc)) (k_m_readsCode_2 31 rfl) (mr_a hm431 7 rfl) (by omega) (by simp only [List.length_set]; omega) (show ev _ _ _ _ _ _ _ _ (vL (gd ((σ.2 7).set (120 + (R.length)) cc) (120 + (R.length))) :: _) _ _ _ from ?_)
                            rw [gd_set_eq _ (by omega)]
                            refine ev_al (k_m_readsCode_2 32 rfl) rfl ?_
                            refine ev_get (v := vA (ma 7)) (k_m_readsCode_2 33 rfl) hm431.1 rfl ?_
                            refine ev_il (k_m_readsCode_2 34 rfl) rfl ?_
                            refine ev_ic (k_m_readsCode_2 35 rfl) ?_
                            refine ev_isub (k_m_readsCode_2 36 rfl) (by omega) ?_
                            refine ev_lald (xs := ((σ.2 7).set (120 + (R.length)) cc)) (k_m_readsCode_2 37 rfl) (mr_a hm431 7 rfl) (by omega) (by simp only [List.length_set]; omega) (show ev _ _ _ _ _ _ _ _ (vL (gd ((σ.2 7).set (120 + (R.length)) cc) ((120 + (R.length : Int)) - 1).toNat) :: _) _ _ _ from ?_)
                            rw [show ((120 + (R.length : Int)) - 1).toNat = 120 + (R.length - 1) by omega, gd_set_ne _ (by omega), (hs.2.2 (R.length - 1) (by omega)).1]
                            refine ev_cS (k_m_readsCode_2 38 rfl) rfl v_m_isBehind (c_m_isBehind G _ cc (rc R (R.length - 1)) (by (try simp only [sS]); omega) (by (try simp only [sS]); omega)) rfl (le_b rfl) (le_b rfl) (le_b rfl) k_n (k_B fun z436 h436 q436 => ?_)
                            obtain ⟨rfl, (rfl : z436 = (bhd cc (rc R (R.length - 1))))⟩ := q436
                            refine ev_b_ne (k_m_readsCode_2 39 rfl) (fun c437 => ?_) (fun c437 => ?_)
                            · refine ev_ic (k_m_readsCode_2 45 rfl) ?_
                              refine ev_goto (k_m_readsCode_2 46 rfl) ?_
                              exact ev_zret (x := true) (k_m_readsCode_2 48 rfl) rfl (⟨true, rfl, _, hm431, fm431, Or.inr ⟨k331, k422, cc, by unfold pcod; rw [hk331]; unfold pcA; rw [if_neg (by rintro ⟨x, y⟩; first | omega | exact y ⟨by omega, by assumption⟩), if_neg (by split <;> omega), if_neg (by omega), if_neg (by omega), hk422]; unfold pcB; rw [if_neg (by omega), if_neg (by omega), if_neg (by omega), hcc]; unfold pcC; rw [if_neg (by rintro (⟨x, y⟩ | ⟨x, y⟩); omega; first | omega | (rw [upc_u hU] at y; exact absurd (Eq.trans y.symm (by assumption : _ = true)) (by decide)) | (rw [upc_s hU] at y; exact absurd (Eq.trans y.symm (by assumption : _ = true)) (by decide))), if_neg (by rintro ⟨x, y⟩; first | omega | exact absurd (Eq.trans y.symm (by assumption : _ = true)) (by decide))], rfl, rfl, hcb, by omega, by omega, hcc⟩⟩)
                            · refine ev_al (k_m_readsCode_2 40 rfl) rfl ?_
                              refine ev_ic (k_m_readsCode_2 41 rfl) ?_
                              refine ev_ilw (k_m_readsCode_2 42 rfl) rfl ?_
                              refine ev_cV (k_m_readsCode_2 43 rfl) rfl v_m_fails hm431.1 rfl (c_m_fails G ma _ _ hm431 4 ((p : Int) + (k331 : Int))) rfl (le_b rfl) (le_b rfl) (le_b rfl) k_n (k_B fun z438 h438 q438 => ?_)
                              obtain ⟨rfl, hm438, fmx438⟩ := q438
                              have fm438 := fM_tr fm431 fmx438
                              refine ev_if_eq (k_m_readsCode_2 44 rfl) (fun _ => ?_) (fun c => absurd c (by decide))
                              refine ev_ic (k_m_readsCode_2 47 rfl) ?_
                              exact ev_zret (x := false) (k_m_readsCode_2 48 rfl) rfl (⟨false, rfl, _, hm438, fm438, Or.inl ⟨4, (p) + (k331), by first | (exfalso; omega) | (unfold pcod; rw [hk331]; unfold pcA; rw [if_neg (by rintro ⟨x, y⟩; first | omega | exact y ⟨by omega, by assumption⟩), if_neg (by split <;> omega), if_neg (by omega), if_neg (by omega), hk422]; unfold pcB; rw [if_neg (by omega), if_neg (by omega), if_neg (by omega), hcc]; unfold pcC; rw [if_neg (by rintro (⟨x, y⟩ | ⟨x, y⟩); omega; first | omega | (rw [upc_u hU] at y; exact absurd (Eq.trans y.symm (by assumption : _ = true)) (by decide)) | (rw [upc_s hU] at y; exact absurd (Eq.trans y.symm (by assumption : _ = true)) (by decide))), if_pos ⟨by omega, by assumption⟩]), rfl, by first | exact frd_tr (frd_S (Or.inl rfl)) (frd_S (Or.inr (Or.inl rfl))) | exact frd_tr (frd_tr (frd_A8 (by omega)) (frd_A7 (by omega))) (frd_tr (frd_S (Or.inl rfl)) (frd_S (Or.inr (Or.inl rfl)))), rfl, by simp [sS], by omega⟩⟩)
                        · refine ev_al (k_m_readsCode_2 7 rfl) rfl ?_
                          refine ev_get (v := vA (ma 7)) (k_m_readsCode_2 8 rfl) hm431.1 rfl ?_
                          refine ev_il (k_m_readsCode_2 9 rfl) rfl ?_
                          refine ev_lald (xs := ((σ.2 7).set (120 + (R.length)) cc)) (k_m_readsCode_2 10 rfl) (mr_a hm431 7 rfl) (by omega) (by simp only [List.length_set]; omega) (show ev _ _ _ _ _ _ _ _ (vL (gd ((σ.2 7).set (120 + (R.length)) cc) (120 + (R.length))) :: _) _ _ _ from ?_)
                          rw [gd_set_eq _ (by omega)]
                          refine ev_al (k_m_readsCode_2 11 rfl) rfl ?_
                          refine ev_get (v := vA (ma 7)) (k_m_readsCode_2 12 rfl) hm431.1 rfl ?_
                          refine ev_ilw (k_m_readsCode_2 13 rfl) rfl ?_
                          refine ev_if_ge (k_m_readsCode_2 14 rfl) (fun c => absurd c (by decide)) (fun _ => ?_)
                          refine ev_il (k_m_readsCode_2 15 rfl) rfl ?_
                          refine ev_goto (k_m_readsCode_2 16 rfl) ?_
                          refine ev_lald (xs := ((σ.2 7).set (120 + (R.length)) cc)) (k_m_readsCode_2 18 rfl) (mr_a hm431 7 rfl) (by omega) (by simp only [List.length_set]; omega) (show ev _ _ _ _ _ _ _ _ (vL (gd ((σ.2 7).set (120 + (R.length)) cc) (120 + (R.length))) :: _) _ _ _ from ?_)
                          rw [gd_set_eq _ (by omega)]
                          refine ev_cS (k_m_readsCode_2 19 rfl) rfl v_m_begins (c_m_begins G _ cc cc (by (try simp only [sS]); omega)) rfl (le_b rfl) (le_b rfl) (le_b rfl) k_n (k_B fun z441 h441 q441 => ?_)
                          obtain ⟨rfl, (rfl : z441 = (bgn cc cc))⟩ := q441
                          refine ev_b_ne (k_m_readsCode_2 20 rfl) (fun c442 => ?_) (fun c442 => ?_)
                          · refine ev_il (k_m_readsCode_2 26 rfl) rfl ?_
                            refine ev_if_eq (k_m_readsCode_2 27 rfl) (fun c443 => ?_) (fun c443 => ?_)
                            · refine ev_ic (k_m_readsCode_2 45 rfl) ?_
                              refine ev_goto (k_m_readsCode_2 46 rfl) ?_
                              exact ev_zret (x := true) (k_m_readsCode_2 48 rfl) rfl (⟨true, rfl, _, hm431, fm431, Or.inr ⟨k331, k422, cc, by unfold pcod; rw [hk331]; unfold pcA; rw [if_neg (by rintro ⟨x, y⟩; first | omega | exact y ⟨by omega, by assumption⟩), if_neg (by split <;> omega), if_neg (by omega), if_neg (by omega), hk422]; unfold pcB; rw [if_neg (by omega), if_neg (by omega), if_neg (by omega), hcc]; unfold pcC; rw [if_neg (by rintro (⟨x, y⟩ | ⟨x, y⟩); omega; first | omega | (rw [upc_u hU] at y; exact absurd (Eq.trans y.symm (by assumption : _ = true)) (by decide)) | (rw [upc_s hU] at y; exact absurd (Eq.trans y.symm (by assumption : _ = true)) (by decide))), if_neg (by rintro ⟨x, y⟩; first | omega | exact absurd (Eq.trans y.symm (by assumption : _ = true)) (by decide))], rfl, rfl, hcb, by omega, by omega, hcc⟩⟩)
                            · refine ev_al (k_m_readsCode_2 28 rfl) rfl ?_
                              refine ev_get (v := vA (ma 7)) (k_m_readsCode_2 29 rfl) hm431.1 rfl ?_
                              refine ev_il (k_m_readsCode_2 30 rfl) rfl ?_
                              refine ev_lald (xs := ((σ.2 7).set (120 + (R.length)) cc)) (k_m_readsCode_2 31 rfl) (mr_a hm431 7 rfl) (by omega) (by simp only [List.length_set]; omega) (show ev _ _ _ _ _ _ _ _ (vL (gd ((σ.2 7).set (120 + (R.length)) cc) (120 + (R.length))) :: _) _ _ _ from ?_)
                              rw [gd_set_eq _ (by omega)]
                              refine ev_al (k_m_readsCode_2 32 rfl) rfl ?_
                              refine ev_get (v := vA (ma 7)) (k_m_readsCode_2 33 rfl) hm431.1 rfl ?_
                              refine ev_il (k_m_readsCode_2 34 rfl) rfl ?_
                              refine ev_ic (k_m_readsCode_2 35 rfl) ?_
                              refine ev_isub (k_m_readsCode_2 36 rfl) (by omega) ?_
                              refine ev_lald (xs := ((σ.2 7).set (120 + (R.length)) cc)) (k_m_readsCode_2 37 rfl) (mr_a hm431 7 rfl) (by omega) (by simp only [List.length_set]; omega) (show ev _ _ _ _ _ _ _ _ (vL (gd ((σ.2 7).set (120 + (R.length)) cc) ((120 + (R.length : Int)) - 1).toNat) :: _) _ _ _ from ?_)
                              rw [show ((120 + (R.length : Int)) - 1).toNat = 120 + (R.length - 1) by omega, gd_set_ne _ (by omega), (hs.2.2 (R.length - 1) (by omega)).1]
                              refine ev_cS (k_m_readsCode_2 38 rfl) rfl v_m_isBehind (c_m_isBehind G _ cc (rc R (R.length - 1)) (by (try simp only [sS]); omega) (by (try simp only [sS]); omega)) rfl (le_b rfl) (le_b rfl) (le_b rfl) k_n (k_B fun z444 h444 q444 => ?_)
                              obtain ⟨rfl, (rfl : z444 = (bhd cc (rc R (R.length - 1))))⟩ := q444
                              refine ev_b_ne (k_m_readsCode_2 39 rfl) (fun c445 => ?_) (fun c445 => ?_)
                              · refine ev_ic (k_m_readsCode_2 45 rfl) ?_
                                refine ev_goto (k_m_readsCode_2 46 rfl) ?_
                                exact ev_zret (x := true) (k_m_readsCode_2 48 rfl) rfl (⟨true, rfl, _, hm431, fm431, Or.inr ⟨k331, k422, cc, by unfold pcod; rw [hk331]; unfold pcA; rw [if_neg (by rintro ⟨x, y⟩; first | omega | exact y ⟨by omega, by assumption⟩), if_neg (by split <;> omega), if_neg (by omega), if_neg (by omega), hk422]; unfold pcB; rw [if_neg (by omega), if_neg (by omega), if_neg (by omega), hcc]; unfold pcC; rw [if_neg (by rintro (⟨x, y⟩ | ⟨x, y⟩); omega; first | omega | (rw [upc_u hU] at y; exact absurd (Eq.trans y.symm (by assumption : _ = true)) (by decide)) | (rw [upc_s hU] at y; exact absurd (Eq.trans y.symm (by assumption : _ = true)) (by decide))), if_neg (by rintro ⟨x, y⟩; first | omega | exact absurd (Eq.trans y.symm (by assumption : _ = true)) (by decide))], rfl, rfl, hcb, by omega, by omega, hcc⟩⟩)
                              · refine ev_al (k_m_readsCode_2 40 rfl) rfl ?_
                                refine ev_ic (k_m_readsCode_2 41 rfl) ?_
                                refine ev_ilw (k_m_readsCode_2 42 rfl) rfl ?_
                                refine ev_cV (k_m_readsCode_2 43 rfl) rfl v_m_fails hm431.1 rfl (c_m_fails G ma _ _ hm431 4 ((p : Int) + (k331 : Int))) rfl (le_b rfl) (le_b rfl) (le_b rfl) k_n (k_B fun z446 h446 q446 => ?_)
                                obtain ⟨rfl, hm446, fmx446⟩ := q446
                                have fm446 := fM_tr fm431 fmx446
                                refine ev_if_eq (k_m_readsCode_2 44 rfl) (fun _ => ?_) (fun c => absurd c (by decide))
                                refine ev_ic (k_m_readsCode_2 47 rfl) ?_
                                exact ev_zret (x := false) (k_m_readsCode_2 48 rfl) rfl (⟨false, rfl, _, hm446, fm446, Or.inl ⟨4, (p) + (k331), by first | (exfalso; omega) | (unfold pcod; rw [hk331]; unfold pcA; rw [if_neg (by rintro ⟨x, y⟩; first | omega | exact y ⟨by omega, by assumption⟩), if_neg (by split <;> omega), if_neg (by omega), if_neg (by omega), hk422]; unfold pcB; rw [if_neg (by omega), if_neg (by omega), if_neg (by omega), hcc]; unfold pcC; rw [if_neg (by rintro (⟨x, y⟩ | ⟨x, y⟩); omega; first | omega | (rw [upc_u hU] at y; exact absurd (Eq.trans y.symm (by assumption : _ = true)) (by decide)) | (rw [upc_s hU] at y; exact absurd (Eq.trans y.symm (by assumption : _ = true)) (by decide))), if_pos ⟨by omega, by assumption⟩]), rfl, by first | exact frd_tr (frd_S (Or.inl rfl)) (frd_S (Or.inr (Or.inl rfl))) | exact frd_tr (frd_tr (frd_A8 (by omega)) (frd_A7 (by omega))) (frd_tr (frd_S (Or.inl rfl)) (frd_S (Or.inr (Or.inl rfl)))), rfl, by simp [sS], by omega⟩⟩)
                          · refine ev_al (k_m_readsCode_2 21 rfl) rfl ?_
                            refine ev_ic (k_m_readsCode_2 22 rfl) ?_
                            refine ev_ilw (k_m_readsCode_2 23 rfl) rfl ?_
                            refine ev_cV (k_m_readsCode_2 24 rfl) rfl v_m_fails hm431.1 rfl (c_m_fails G ma _ _ hm431 3 ((p : Int) + (k331 : Int))) rfl (le_b rfl) (le_b rfl) (le_b rfl) k_n (k_B fun z448 h448 q448 => ?_)
                            obtain ⟨rfl, hm448, fmx448⟩ := q448
                            have fm448 := fM_tr fm431 fmx448
                            exact ev_zret (x := false) (k_m_readsCode_2 25 rfl) rfl (⟨false, rfl, _, hm448, fm448, Or.inl ⟨3, (p) + (k331), by first | (exfalso; omega) | (unfold pcod; rw [hk331]; unfold pcA; rw [if_neg (by rintro ⟨x, y⟩; first | omega | exact y ⟨by omega, by assumption⟩), if_neg (by split <;> omega), if_neg (by omega), if_neg (by omega), hk422]; unfold pcB; rw [if_neg (by omega), if_neg (by omega), if_neg (by omega), hcc]; unfold pcC; rw [if_pos (by first | exact Or.inl ⟨by omega, by omega⟩ | exact Or.inr ⟨by omega, by rw [upc_u hU]; assumption⟩ | exact Or.inr ⟨by omega, by rw [upc_s hU]; assumption⟩)]), rfl, by first | exact frd_tr (frd_S (Or.inl rfl)) (frd_S (Or.inr (Or.inl rfl))) | exact frd_tr (frd_tr (frd_A8 (by omega)) (frd_A7 (by omega))) (frd_tr (frd_S (Or.inl rfl)) (frd_S (Or.inr (Or.inl rfl)))), rfl, by simp [sS], by omega⟩⟩)
                      · refine ev_ilw (k_m_readsCode_2 2 rfl) rfl ?_
                        refine ev_ic (k_m_readsCode_2 3 rfl) ?_
                        refine ev_ic_ne (k_m_readsCode_2 4 rfl) (fun c449 => ?_) (fun c449 => ?_)
                        · refine ev_al (k_m_readsCode_2 21 rfl) rfl ?_
                          refine ev_ic (k_m_readsCode_2 22 rfl) ?_
                          refine ev_ilw (k_m_readsCode_2 23 rfl) rfl ?_
                          refine ev_cV (k_m_readsCode_2 24 rfl) rfl v_m_fails hm431.1 rfl (c_m_fails G ma _ _ hm431 3 ((p : Int) + (k331 : Int))) rfl (le_b rfl) (le_b rfl) (le_b rfl) k_n (k_B fun z450 h450 q450 => ?_)
                          obtain ⟨rfl, hm450, fmx450⟩ := q450
                          have fm450 := fM_tr fm431 fmx450
                          exact ev_zret (x := false) (k_m_readsCode_2 25 rfl) rfl (⟨false, rfl, _, hm450, fm450, Or.inl ⟨3, (p) + (k331), by first | (exfalso; omega) | (unfold pcod; rw [hk331]; unfold pcA; rw [if_neg (by rintro ⟨x, y⟩; first | omega | exact y ⟨by omega, by assumption⟩), if_neg (by split <;> omega), if_neg (by omega), if_neg (by omega), hk422]; unfold pcB; rw [if_neg (by omega), if_neg (by omega), if_neg (by omega), hcc]; unfold pcC; rw [if_pos (by first | exact Or.inl ⟨by omega, by omega⟩ | exact Or.inr ⟨by omega, by rw [upc_u hU]; assumption⟩ | exact Or.inr ⟨by omega, by rw [upc_s hU]; assumption⟩)]), rfl, by first | exact frd_tr (frd_S (Or.inl rfl)) (frd_S (Or.inr (Or.inl rfl))) | exact frd_tr (frd_tr (frd_A8 (by omega)) (frd_A7 (by omega))) (frd_tr (frd_S (Or.inl rfl)) (frd_S (Or.inr (Or.inl rfl)))), rfl, by simp [sS], by omega⟩⟩)
                        · refine ev_ilw (k_m_readsCode_2 5 rfl) rfl ?_
                          refine ev_if_le (k_m_readsCode_2 6 rfl) (fun c451 => ?_) (fun c451 => ?_)
                          · refine ev_il (k_m_readsCode_2 26 rfl) rfl ?_
                            refine ev_if_eq (k_m_readsCode_2 27 rfl) (fun c452 => ?_) (fun c452 => ?_)
                            · refine ev_ic (k_m_readsCode_2 45 rfl) ?_
                              refine ev_goto (k_m_readsCode_2 46 rfl) ?_
                              exact ev_zret (x := true) (k_m_readsCode_2 48 rfl) rfl (⟨true, rfl, _, hm431, fm431, Or.inr ⟨k331, k422, cc, by unfold pcod; rw [hk331]; unfold pcA; rw [if_neg (by rintro ⟨x, y⟩; first | omega | exact y ⟨by omega, by assumption⟩), if_neg (by split <;> omega), if_neg (by omega), if_neg (by omega), hk422]; unfold pcB; rw [if_neg (by omega), if_neg (by omega), if_neg (by omega), hcc]; unfold pcC; rw [if_neg (by rintro (⟨x, y⟩ | ⟨x, y⟩); omega; first | omega | (rw [upc_u hU] at y; exact absurd (Eq.trans y.symm (by assumption : _ = true)) (by decide)) | (rw [upc_s hU] at y; exact absurd (Eq.trans y.symm (by assumption : _ = true)) (by decide))), if_neg (by rintro ⟨x, y⟩; first | omega | exact absurd (Eq.trans y.symm (by assumption : _ = true)) (by decide))], rfl, rfl, hcb, by omega, by omega, hcc⟩⟩)
                            · refine ev_al (k_m_readsCode_2 28 rfl) rfl ?_
                              refine ev_get (v := vA (ma 7)) (k_m_readsCode_2 29 rfl) hm431.1 rfl ?_
                              refine ev_il (k_m_readsCode_2 30 rfl) rfl ?_
                              refine ev_lald (xs := ((σ.2 7).set (120 + (R.length)) cc)) (k_m_readsCode_2 31 rfl) (mr_a hm431 7 rfl) (by omega) (by simp only [List.length_set]; omega) (show ev _ _ _ _ _ _ _ _ (vL (gd ((σ.2 7).set (120 + (R.length)) cc) (120 + (R.length))) :: _) _ _ _ from ?_)
                              rw [gd_set_eq _ (by omega)]
                              refine ev_al (k_m_readsCode_2 32 rfl) rfl ?_
                              refine ev_get (v := vA (ma 7)) (k_m_readsCode_2 33 rfl) hm431.1 rfl ?_
                              refine ev_il (k_m_readsCode_2 34 rfl) rfl ?_
                              refine ev_ic (k_m_readsCode_2 35 rfl) ?_
                              refine ev_isub (k_m_readsCode_2 36 rfl) (by omega) ?_
                              refine ev_lald (xs := ((σ.2 7).set (120 + (R.length)) cc)) (k_m_readsCode_2 37 rfl) (mr_a hm431 7 rfl) (by omega) (by simp only [List.length_set]; omega) (show ev _ _ _ _ _ _ _ _ (vL (gd ((σ.2 7).set (120 + (R.length)) cc) ((120 + (R.length : Int)) - 1).toNat) :: _) _ _ _ from ?_)
                              rw [show ((120 + (R.length : Int)) - 1).toNat = 120 + (R.length - 1) by omega, gd_set_ne _ (by omega), (hs.2.2 (R.length - 1) (by omega)).1]
                              refine ev_cS (k_m_readsCode_2 38 rfl) rfl v_m_isBehind (c_m_isBehind G _ cc (rc R (R.length - 1)) (by (try simp only [sS]); omega) (by (try simp only [sS]); omega)) rfl (le_b rfl) (le_b rfl) (le_b rfl) k_n (k_B fun z453 h453 q453 => ?_)
                              obtain ⟨rfl, (rfl : z453 = (bhd cc (rc R (R.length - 1))))⟩ := q453
                              refine ev_b_ne (k_m_readsCode_2 39 rfl) (fun c454 => ?_) (fun c454 => ?_)
                              · refine ev_ic (k_m_readsCode_2 45 rfl) ?_
                                refine ev_goto (k_m_readsCode_2 46 rfl) ?_
                                exact ev_zret (x := true) (k_m_readsCode_2 48 rfl) rfl (⟨true, rfl, _, hm431, fm431, Or.inr ⟨k331, k422, cc, by unfold pcod; rw [hk331]; unfold pcA; rw [if_neg (by rintro ⟨x, y⟩; first | omega | exact y ⟨by omega, by assumption⟩), if_neg (by split <;> omega), if_neg (by omega), if_neg (by omega), hk422]; unfold pcB; rw [if_neg (by omega), if_neg (by omega), if_neg (by omega), hcc]; unfold pcC; rw [if_neg (by rintro (⟨x, y⟩ | ⟨x, y⟩); omega; first | omega | (rw [upc_u hU] at y; exact absurd (Eq.trans y.symm (by assumption : _ = true)) (by decide)) | (rw [upc_s hU] at y; exact absurd (Eq.trans y.symm (by assumption : _ = true)) (by decide))), if_neg (by rintro ⟨x, y⟩; first | omega | exact absurd (Eq.trans y.symm (by assumption : _ = true)) (by decide))], rfl, rfl, hcb, by omega, by omega, hcc⟩⟩)
                              · refine ev_al (k_m_readsCode_2 40 rfl) rfl ?_
                                refine ev_ic (k_m_readsCode_2 41 rfl) ?_
                                refine ev_ilw (k_m_readsCode_2 42 rfl) rfl ?_
                                refine ev_cV (k_m_readsCode_2 43 rfl) rfl v_m_fails hm431.1 rfl (c_m_fails G ma _ _ hm431 4 ((p : Int) + (k331 : Int))) rfl (le_b rfl) (le_b rfl) (le_b rfl) k_n (k_B fun z455 h455 q455 => ?_)
                                obtain ⟨rfl, hm455, fmx455⟩ := q455
                                have fm455 := fM_tr fm431 fmx455
                                refine ev_if_eq (k_m_readsCode_2 44 rfl) (fun _ => ?_) (fun c => absurd c (by decide))
                                refine ev_ic (k_m_readsCode_2 47 rfl) ?_
                                exact ev_zret (x := false) (k_m_readsCode_2 48 rfl) rfl (⟨false, rfl, _, hm455, fm455, Or.inl ⟨4, (p) + (k331), by first | (exfalso; omega) | (unfold pcod; rw [hk331]; unfold pcA; rw [if_neg (by rintro ⟨x, y⟩; first | omega | exact y ⟨by omega, by assumption⟩), if_neg (by split <;> omega), if_neg (by omega), if_neg (by omega), hk422]; unfold pcB; rw [if_neg (by omega), if_neg (by omega), if_neg (by omega), hcc]; unfold pcC; rw [if_neg (by rintro (⟨x, y⟩ | ⟨x, y⟩); omega; first | omega | (rw [upc_u hU] at y; exact absurd (Eq.trans y.symm (by assumption : _ = true)) (by decide)) | (rw [upc_s hU] at y; exact absurd (Eq.trans y.symm (by assumption : _ = true)) (by decide))), if_pos ⟨by omega, by assumption⟩]), rfl, by first | exact frd_tr (frd_S (Or.inl rfl)) (frd_S (Or.inr (Or.inl rfl))) | exact frd_tr (frd_tr (frd_A8 (by omega)) (frd_A7 (by omega))) (frd_tr (frd_S (Or.inl rfl)) (frd_S (Or.inr (Or.inl rfl)))), rfl, by simp [sS], by omega⟩⟩)
                          · refine ev_al (k_m_readsCode_2 7 rfl) rfl ?_
                            refine ev_get (v := vA (ma 7)) (k_m_readsCode_2 8 rfl) hm431.1 rfl ?_
                            refine ev_il (k_m_readsCode_2 9 rfl) rfl ?_
                            refine ev_lald (xs := ((σ.2 7).set (120 + (R.length)) cc)) (k_m_readsCode_2 10 rfl) (mr_a hm431 7 rfl) (by omega) (by simp only [List.length_set]; omega) (show ev _ _ _ _ _ _ _ _ (vL (gd ((σ.2 7).set (120 + (R.length)) cc) (120 + (R.length))) :: _) _ _ _ from ?_)
                            rw [gd_set_eq _ (by omega)]
                            refine ev_al (k_m_readsCode_2 11 rfl) rfl ?_
                            refine ev_get (v := vA (ma 7)) (k_m_readsCode_2 12 rfl) hm431.1 rfl ?_
                            refine ev_ilw (k_m_readsCode_2 13 rfl) rfl ?_
                            refine ev_if_ge (k_m_readsCode_2 14 rfl) (fun c => absurd c (by decide)) (fun _ => ?_)
                            refine ev_il (k_m_readsCode_2 15 rfl) rfl ?_
                            refine ev_goto (k_m_readsCode_2 16 rfl) ?_
                            refine ev_lald (xs := ((σ.2 7).set (120 + (R.length)) cc)) (k_m_readsCode_2 18 rfl) (mr_a hm431 7 rfl) (by omega) (by simp only [List.length_set]; omega) (show ev _ _ _ _ _ _ _ _ (vL (gd ((σ.2 7).set (120 + (R.length)) cc) (120 + (R.length))) :: _) _ _ _ from ?_)
                            rw [gd_set_eq _ (by omega)]
                            refine ev_cS (k_m_readsCode_2 19 rfl) rfl v_m_begins (c_m_begins G _ cc cc (by (try simp only [sS]); omega)) rfl (le_b rfl) (le_b rfl) (le_b rfl) k_n (k_B fun z458 h458 q458 => ?_)
                            obtain ⟨rfl, (rfl : z458 = (bgn cc cc))⟩ := q458
                            refine ev_b_ne (k_m_readsCode_2 20 rfl) (fun c459 => ?_) (fun c459 => ?_)
                            · refine ev_il (k_m_readsCode_2 26 rfl) rfl ?_
                              refine ev_if_eq (k_m_readsCode_2 27 rfl) (fun c460 => ?_) (fun c460 => ?_)
                              · refine ev_ic (k_m_readsCode_2 45 rfl) ?_
                                refine ev_goto (k_m_readsCode_2 46 rfl) ?_
                                exact ev_zret (x := true) (k_m_readsCode_2 48 rfl) rfl (⟨true, rfl, _, hm431, fm431, Or.inr ⟨k331, k422, cc, by unfold pcod; rw [hk331]; unfold pcA; rw [if_neg (by rintro ⟨x, y⟩; first | omega | exact y ⟨by omega, by assumption⟩), if_neg (by split <;> omega), if_neg (by omega), if_neg (by omega), hk422]; unfold pcB; rw [if_neg (by omega), if_neg (by omega), if_neg (by omega), hcc]; unfold pcC; rw [if_neg (by rintro (⟨x, y⟩ | ⟨x, y⟩); omega; first | omega | (rw [upc_u hU] at y; exact absurd (Eq.trans y.symm (by assumption : _ = true)) (by decide)) | (rw [upc_s hU] at y; exact absurd (Eq.trans y.symm (by assumption : _ = true)) (by decide))), if_neg (by rintro ⟨x, y⟩; first | omega | exact absurd (Eq.trans y.symm (by assumption : _ = true)) (by decide))], rfl, rfl, hcb, by omega, by omega, hcc⟩⟩)
                              · refine ev_al (k_m_readsCode_2 28 rfl) rfl ?_
                                refine ev_get (v := vA (ma 7)) (k_m_readsCode_2 29 rfl) hm431.1 rfl ?_
                                refine ev_il (k_m_readsCode_2 30 rfl) rfl ?_
                                refine ev_lald (xs := ((σ.2 7).set (120 + (R.length)) cc)) (k_m_readsCode_2 31 rfl) (mr_a hm431 7 rfl) (by omega) (by simp only [List.length_set]; omega) (show ev _ _ _ _ _ _ _ _ (vL (gd ((σ.2 7).set (120 + (R.length)) cc) (120 + (R.length))) :: _) _ _ _ from ?_)
                                rw [gd_set_eq _ (by omega)]
                                refine ev_al (k_m_readsCode_2 32 rfl) rfl ?_
                                refine ev_get (v := vA (ma 7)) (k_m_readsCode_2 33 rfl) hm431.1 rfl ?_
                                refine ev_il (k_m_readsCode_2 34 rfl) rfl ?_
                                refine ev_ic (k_m_readsCode_2 35 rfl) ?_
                                refine ev_isub (k_m_readsCode_2 36 rfl) (by omega) ?_
                                refine ev_lald (xs := ((σ.2 7).set (120 + (R.length)) cc)) (k_m_readsCode_2 37 rfl) (mr_a hm431 7 rfl) (by omega) (by simp only [List.length_set]; omega) (show ev _ _ _ _ _ _ _ _ (vL (gd ((σ.2 7).set (120 + (R.length)) cc) ((120 + (R.length : Int)) - 1).toNat) :: _) _ _ _ from ?_)
                                rw [show ((120 + (R.length : Int)) - 1).toNat = 120 + (R.length - 1) by omega, gd_set_ne _ (by omega), (hs.2.2 (R.length - 1) (by omega)).1]
                                refine ev_cS (k_m_readsCode_2 38 rfl) rfl v_m_isBehind (c_m_isBehind G _ cc (rc R (R.length - 1)) (by (try simp only [sS]); omega) (by (try simp only [sS]); omega)) rfl (le_b rfl) (le_b rfl) (le_b rfl) k_n (k_B fun z461 h461 q461 => ?_)
                                obtain ⟨rfl, (rfl : z461 = (bhd cc (rc R (R.length - 1))))⟩ := q461
                                refine ev_b_ne (k_m_readsCode_2 39 rfl) (fun c462 => ?_) (fun c462 => ?_)
                                · refine ev_ic (k_m_readsCode_2 45 rfl) ?_
                                  refine ev_goto (k_m_readsCode_2 46 rfl) ?_
                                  exact ev_zret (x := true) (k_m_readsCode_2 48 rfl) rfl (⟨true, rfl, _, hm431, fm431, Or.inr ⟨k331, k422, cc, by unfold pcod; rw [hk331]; unfold pcA; rw [if_neg (by rintro ⟨x, y⟩; first | omega | exact y ⟨by omega, by assumption⟩), if_neg (by split <;> omega), if_neg (by omega), if_neg (by omega), hk422]; unfold pcB; rw [if_neg (by omega), if_neg (by omega), if_neg (by omega), hcc]; unfold pcC; rw [if_neg (by rintro (⟨x, y⟩ | ⟨x, y⟩); omega; first | omega | (rw [upc_u hU] at y; exact absurd (Eq.trans y.symm (by assumption : _ = true)) (by decide)) | (rw [upc_s hU] at y; exact absurd (Eq.trans y.symm (by assumption : _ = true)) (by decide))), if_neg (by rintro ⟨x, y⟩; first | omega | exact absurd (Eq.trans y.symm (by assumption : _ = true)) (by decide))], rfl, rfl, hcb, by omega, by omega, hcc⟩⟩)
                                · refine ev_al (k_m_readsCode_2 40 rfl) rfl ?_
                                  refine ev_ic (k_m_readsCode_2 41 rfl) ?_
                                  refine ev_ilw (k_m_readsCode_2 42 rfl) rfl ?_
                                  refine ev_cV (k_m_readsCode_2 43 rfl) rfl v_m_fails hm431.1 rfl (c_m_fails G ma _ _ hm431 4 ((p : Int) + (k331 : Int))) rfl (le_b rfl) (le_b rfl) (le_b rfl) k_n (k_B fun z463 h463 q463 => ?_)
                                  obtain ⟨rfl, hm463, fmx463⟩ := q463
                                  have fm463 := fM_tr fm431 fmx463
                                  refine ev_if_eq (k_m_readsCode_2 44 rfl) (fun _ => ?_) (fun c => absurd c (by decide))
                                  refine ev_ic (k_m_readsCode_2 47 rfl) ?_
                                  exact ev_zret (x := false) (k_m_readsCode_2 48 rfl) rfl (⟨false, rfl, _, hm463, fm463, Or.inl ⟨4, (p) + (k331), by first | (exfalso; omega) | (unfold pcod; rw [hk331]; unfold pcA; rw [if_neg (by rintro ⟨x, y⟩; first | omega | exact y ⟨by omega, by assumption⟩), if_neg (by split <;> omega), if_neg (by omega), if_neg (by omega), hk422]; unfold pcB; rw [if_neg (by omega), if_neg (by omega), if_neg (by omega), hcc]; unfold pcC; rw [if_neg (by rintro (⟨x, y⟩ | ⟨x, y⟩); omega; first | omega | (rw [upc_u hU] at y; exact absurd (Eq.trans y.symm (by assumption : _ = true)) (by decide)) | (rw [upc_s hU] at y; exact absurd (Eq.trans y.symm (by assumption : _ = true)) (by decide))), if_pos ⟨by omega, by assumption⟩]), rfl, by first | exact frd_tr (frd_S (Or.inl rfl)) (frd_S (Or.inr (Or.inl rfl))) | exact frd_tr (frd_tr (frd_A8 (by omega)) (frd_A7 (by omega))) (frd_tr (frd_S (Or.inl rfl)) (frd_S (Or.inr (Or.inl rfl)))), rfl, by simp [sS], by omega⟩⟩)
                            · refine ev_al (k_m_readsCode_2 21 rfl) rfl ?_
                              refine ev_ic (k_m_readsCode_2 22 rfl) ?_
                              refine ev_ilw (k_m_readsCode_2 23 rfl) rfl ?_
                              refine ev_cV (k_m_readsCode_2 24 rfl) rfl v_m_fails hm431.1 rfl (c_m_fails G ma _ _ hm431 3 ((p : Int) + (k331 : Int))) rfl (le_b rfl) (le_b rfl) (le_b rfl) k_n (k_B fun z465 h465 q465 => ?_)
                              obtain ⟨rfl, hm465, fmx465⟩ := q465
                              have fm465 := fM_tr fm431 fmx465
                              exact ev_zret (x := false) (k_m_readsCode_2 25 rfl) rfl (⟨false, rfl, _, hm465, fm465, Or.inl ⟨3, (p) + (k331), by first | (exfalso; omega) | (unfold pcod; rw [hk331]; unfold pcA; rw [if_neg (by rintro ⟨x, y⟩; first | omega | exact y ⟨by omega, by assumption⟩), if_neg (by split <;> omega), if_neg (by omega), if_neg (by omega), hk422]; unfold pcB; rw [if_neg (by omega), if_neg (by omega), if_neg (by omega), hcc]; unfold pcC; rw [if_pos (by first | exact Or.inl ⟨by omega, by omega⟩ | exact Or.inr ⟨by omega, by rw [upc_u hU]; assumption⟩ | exact Or.inr ⟨by omega, by rw [upc_s hU]; assumption⟩)]), rfl, by first | exact frd_tr (frd_S (Or.inl rfl)) (frd_S (Or.inr (Or.inl rfl))) | exact frd_tr (frd_tr (frd_A8 (by omega)) (frd_A7 (by omega))) (frd_tr (frd_S (Or.inl rfl)) (frd_S (Or.inr (Or.inl rfl)))), rfl, by simp [sS], by omega⟩⟩)
                  | some j =>
                      show ev _ _ _ _ _ _ _ _ (vI ((120 + j : Nat) : Int) :: _) _ _ _
                      have huj := upx_lt hU
                      refine ev_isw (k_m_readsCode_1 59 rfl) (le_b rfl) (show ev _ _ _ _ _ _ 202 [some (vA (ma 0)), some (vI (p : Int)), some (vI (R.length : Int)), some (vI (120 + (R.length : Int))), some (vI (k331 : Int)), some (vI ((p : Int) + (k331 : Int))), some (vI (k422 : Int)), some (vI ((120 + j : Nat) : Int))] _ _ _ _ from ?_)
                      refine ev_ilw (k_m_readsCode_2 0 rfl) rfl ?_
                      refine ev_if_ne (k_m_readsCode_2 1 rfl) (fun c466 => ?_) (fun c466 => ?_)
                      · refine ev_ilw (k_m_readsCode_2 5 rfl) rfl ?_
                        refine ev_if_le (k_m_readsCode_2 6 rfl) (fun c467 => ?_) (fun c467 => ?_)
                        · refine ev_il (k_m_readsCode_2 26 rfl) rfl ?_
                          refine ev_if_eq (k_m_readsCode_2 27 rfl) (fun c468 => ?_) (fun c468 => ?_)
                          · refine ev_ic (k_m_readsCode_2 45 rfl) ?_
                            refine ev_goto (k_m_readsCode_2 46 rfl) ?_
                            exact ev_zret (x := true) (k_m_readsCode_2 48 rfl) rfl (⟨true, rfl, _, hm431, fm431, Or.inr ⟨k331, k422, cc, by unfold pcod; rw [hk331]; unfold pcA; rw [if_neg (by rintro ⟨x, y⟩; first | omega | exact y ⟨by omega, by assumption⟩), if_neg (by split <;> omega), if_neg (by omega), if_neg (by omega), hk422]; unfold pcB; rw [if_neg (by omega), if_neg (by omega), if_neg (by omega), hcc]; unfold pcC; rw [if_neg (by rintro (⟨x, y⟩ | ⟨x, y⟩); omega; first | omega | (rw [upc_u hU] at y; exact absurd (Eq.trans y.symm (by assumption : _ = true)) (by decide)) | (rw [upc_s hU] at y; exact absurd (Eq.trans y.symm (by assumption : _ = true)) (by decide))), if_neg (by rintro ⟨x, y⟩; first | omega | exact absurd (Eq.trans y.symm (by assumption : _ = true)) (by decide))], rfl, rfl, hcb, by omega, by omega, hcc⟩⟩)
                          · refine ev_al (k_m_readsCode_2 28 rfl) rfl ?_
                            refine ev_get (v := vA (ma 7)) (k_m_readsCode_2 29 rfl) hm431.1 rfl ?_
                            refine ev_il (k_m_readsCode_2 30 rfl) rfl ?_
                            refine ev_lald (xs := ((σ.2 7).set (120 + (R.length)) cc)) (k_m_readsCode_2 31 rfl) (mr_a hm431 7 rfl) (by omega) (by simp only [List.length_set]; omega) (show ev _ _ _ _ _ _ _ _ (vL (gd ((σ.2 7).set (120 + (R.length)) cc) (120 + (R.length))) :: _) _ _ _ from ?_)
                            rw [gd_set_eq _ (by omega)]
                            refine ev_al (k_m_readsCode_2 32 rfl) rfl ?_
                            refine ev_get (v := vA (ma 7)) (k_m_readsCode_2 33 rfl) hm431.1 rfl ?_
                            refine ev_il (k_m_readsCode_2 34 rfl) rfl ?_
                            refine ev_ic (k_m_readsCode_2 35 rfl) ?_
                            refine ev_isub (k_m_readsCode_2 36 rfl) (by omega) ?_
                            refine ev_lald (xs := ((σ.2 7).set (120 + (R.length)) cc)) (k_m_readsCode_2 37 rfl) (mr_a hm431 7 rfl) (by omega) (by simp only [List.length_set]; omega) (show ev _ _ _ _ _ _ _ _ (vL (gd ((σ.2 7).set (120 + (R.length)) cc) ((120 + (R.length : Int)) - 1).toNat) :: _) _ _ _ from ?_)
                            rw [show ((120 + (R.length : Int)) - 1).toNat = 120 + (R.length - 1) by omega, gd_set_ne _ (by omega), (hs.2.2 (R.length - 1) (by omega)).1]
                            refine ev_cS (k_m_readsCode_2 38 rfl) rfl v_m_isBehind (c_m_isBehind G _ cc (rc R (R.length - 1)) (by (try simp only [sS]); omega) (by (try simp only [sS]); omega)) rfl (le_b rfl) (le_b rfl) (le_b rfl) k_n (k_B fun z469 h469 q469 => ?_)
                            obtain ⟨rfl, (rfl : z469 = (bhd cc (rc R (R.length - 1))))⟩ := q469
                            refine ev_b_ne (k_m_readsCode_2 39 rfl) (fun c470 => ?_) (fun c470 => ?_)
                            · refine ev_ic (k_m_readsCode_2 45 rfl) ?_
                              refine ev_goto (k_m_readsCode_2 46 rfl) ?_
                              exact ev_zret (x := true) (k_m_readsCode_2 48 rfl) rfl (⟨true, rfl, _, hm431, fm431, Or.inr ⟨k331, k422, cc, by unfold pcod; rw [hk331]; unfold pcA; rw [if_neg (by rintro ⟨x, y⟩; first | omega | exact y ⟨by omega, by assumption⟩), if_neg (by split <;> omega), if_neg (by omega), if_neg (by omega), hk422]; unfold pcB; rw [if_neg (by omega), if_neg (by omega), if_neg (by omega), hcc]; unfold pcC; rw [if_neg (by rintro (⟨x, y⟩ | ⟨x, y⟩); omega; first | omega | (rw [upc_u hU] at y; exact absurd (Eq.trans y.symm (by assumption : _ = true)) (by decide)) | (rw [upc_s hU] at y; exact absurd (Eq.trans y.symm (by assumption : _ = true)) (by decide))), if_neg (by rintro ⟨x, y⟩; first | omega | exact absurd (Eq.trans y.symm (by assumption : _ = true)) (by decide))], rfl, rfl, hcb, by omega, by omega, hcc⟩⟩)
                            · refine ev_al (k_m_readsCode_2 40 rfl) rfl ?_
                              refine ev_ic (k_m_readsCode_2 41 rfl) ?_
                              refine ev_ilw (k_m_readsCode_2 42 rfl) rfl ?_
                              refine ev_cV (k_m_readsCode_2 43 rfl) rfl v_m_fails hm431.1 rfl (c_m_fails G ma _ _ hm431 4 ((p : Int) + (k331 : Int))) rfl (le_b rfl) (le_b rfl) (le_b rfl) k_n (k_B fun z471 h471 q471 => ?_)
                              obtain ⟨rfl, hm471, fmx471⟩ := q471
                              have fm471 := fM_tr fm431 fmx471
                              refine ev_if_eq (k_m_readsCode_2 44 rfl) (fun _ => ?_) (fun c => absurd c (by decide))
                              refine ev_ic (k_m_readsCode_2 47 rfl) ?_
                              exact ev_zret (x := false) (k_m_readsCode_2 48 rfl) rfl (⟨false, rfl, _, hm471, fm471, Or.inl ⟨4, (p) + (k331), by first | (exfalso; omega) | (unfold pcod; rw [hk331]; unfold pcA; rw [if_neg (by rintro ⟨x, y⟩; first | omega | exact y ⟨by omega, by assumption⟩), if_neg (by split <;> omega), if_neg (by omega), if_neg (by omega), hk422]; unfold pcB; rw [if_neg (by omega), if_neg (by omega), if_neg (by omega), hcc]; unfold pcC; rw [if_neg (by rintro (⟨x, y⟩ | ⟨x, y⟩); omega; first | omega | (rw [upc_u hU] at y; exact absurd (Eq.trans y.symm (by assumption : _ = true)) (by decide)) | (rw [upc_s hU] at y; exact absurd (Eq.trans y.symm (by assumption : _ = true)) (by decide))), if_pos ⟨by omega, by assumption⟩]), rfl, by first | exact frd_tr (frd_S (Or.inl rfl)) (frd_S (Or.inr (Or.inl rfl))) | exact frd_tr (frd_tr (frd_A8 (by omega)) (frd_A7 (by omega))) (frd_tr (frd_S (Or.inl rfl)) (frd_S (Or.inr (Or.inl rfl)))), rfl, by simp [sS], by omega⟩⟩)
                        · refine ev_al (k_m_readsCode_2 7 rfl) rfl ?_
                          refine ev_get (v := vA (ma 7)) (k_m_readsCode_2 8 rfl) hm431.1 rfl ?_
                          refine ev_il (k_m_readsCode_2 9 rfl) rfl ?_
                          refine ev_lald (xs := ((σ.2 7).set (120 + (R.length)) cc)) (k_m_readsCode_2 10 rfl) (mr_a hm431 7 rfl) (by omega) (by simp only [List.length_set]; omega) (show ev _ _ _ _ _ _ _ _ (vL (gd ((σ.2 7).set (120 + (R.length)) cc) (120 + (R.length))) :: _) _ _ _ from ?_)
                          rw [gd_set_eq _ (by omega)]
                          refine ev_al (k_m_readsCode_2 11 rfl) rfl ?_
                          refine ev_get (v := vA (ma 7)) (k_m_readsCode_2 12 rfl) hm431.1 rfl ?_
                          refine ev_ilw (k_m_readsCode_2 13 rfl) rfl ?_
                          refine ev_if_ge (k_m_readsCode_2 14 rfl) (fun _ => ?_) (fun c => absurd c (by omega))
                          refine ev_ilw (k_m_readsCode_2 17 rfl) rfl ?_
                          refine ev_lald (xs := ((σ.2 7).set (120 + (R.length)) cc)) (k_m_readsCode_2 18 rfl) (mr_a hm431 7 rfl) (by omega) (by simp only [List.length_set]; omega) (show ev _ _ _ _ _ _ _ _ (vL (gd ((σ.2 7).set (120 + (R.length)) cc) (120 + j)) :: _) _ _ _ from ?_)
                          rw [gd_set_ne _ (by omega), (hs.2.2 j huj.1).1]
                          refine ev_cS (k_m_readsCode_2 19 rfl) rfl v_m_begins (c_m_begins G _ cc (rc R j) (by (try simp only [sS]); omega)) rfl (le_b rfl) (le_b rfl) (le_b rfl) k_n (k_B fun z473 h473 q473 => ?_)
                          obtain ⟨rfl, (rfl : z473 = (bgn cc (rc R j)))⟩ := q473
                          refine ev_b_ne (k_m_readsCode_2 20 rfl) (fun c474 => ?_) (fun c474 => ?_)
                          · refine ev_il (k_m_readsCode_2 26 rfl) rfl ?_
                            refine ev_if_eq (k_m_readsCode_2 27 rfl) (fun c475 => ?_) (fun c475 => ?_)
                            · refine ev_ic (k_m_readsCode_2 45 rfl) ?_
                              refine ev_goto (k_m_readsCode_2 46 rfl) ?_
                              exact ev_zret (x := true) (k_m_readsCode_2 48 rfl) rfl (⟨true, rfl, _, hm431, fm431, Or.inr ⟨k331, k422, cc, by unfold pcod; rw [hk331]; unfold pcA; rw [if_neg (by rintro ⟨x, y⟩; first | omega | exact y ⟨by omega, by assumption⟩), if_neg (by split <;> omega), if_neg (by omega), if_neg (by omega), hk422]; unfold pcB; rw [if_neg (by omega), if_neg (by omega), if_neg (by omega), hcc]; unfold pcC; rw [if_neg (by rintro (⟨x, y⟩ | ⟨x, y⟩); omega; first | omega | (rw [upc_u hU] at y; exact absurd (Eq.trans y.symm (by assumption : _ = true)) (by decide)) | (rw [upc_s hU] at y; exact absurd (Eq.trans y.symm (by assumption : _ = true)) (by decide))), if_neg (by rintro ⟨x, y⟩; first | omega | exact absurd (Eq.trans y.symm (by assumption : _ = true)) (by decide))], rfl, rfl, hcb, by omega, by omega, hcc⟩⟩)
                            · refine ev_al (k_m_readsCode_2 28 rfl) rfl ?_
                              refine ev_get (v := vA (ma 7)) (k_m_readsCode_2 29 rfl) hm431.1 rfl ?_
                              refine ev_il (k_m_readsCode_2 30 rfl) rfl ?_
                              refine ev_lald (xs := ((σ.2 7).set (120 + (R.length)) cc)) (k_m_readsCode_2 31 rfl) (mr_a hm431 7 rfl) (by omega) (by simp only [List.length_set]; omega) (show ev _ _ _ _ _ _ _ _ (vL (gd ((σ.2 7).set (120 + (R.length)) cc) (120 + (R.length))) :: _) _ _ _ from ?_)
                              rw [gd_set_eq _ (by omega)]
                              refine ev_al (k_m_readsCode_2 32 rfl) rfl ?_
                              refine ev_get (v := vA (ma 7)) (k_m_readsCode_2 33 rfl) hm431.1 rfl ?_
                              refine ev_il (k_m_readsCode_2 34 rfl) rfl ?_
                              refine ev_ic (k_m_readsCode_2 35 rfl) ?_
                              refine ev_isub (k_m_readsCode_2 36 rfl) (by omega) ?_
                              refine ev_lald (xs := ((σ.2 7).set (120 + (R.length)) cc)) (k_m_readsCode_2 37 rfl) (mr_a hm431 7 rfl) (by omega) (by simp only [List.length_set]; omega) (show ev _ _ _ _ _ _ _ _ (vL (gd ((σ.2 7).set (120 + (R.length)) cc) ((120 + (R.length : Int)) - 1).toNat) :: _) _ _ _ from ?_)
                              rw [show ((120 + (R.length : Int)) - 1).toNat = 120 + (R.length - 1) by omega, gd_set_ne _ (by omega), (hs.2.2 (R.length - 1) (by omega)).1]
                              refine ev_cS (k_m_readsCode_2 38 rfl) rfl v_m_isBehind (c_m_isBehind G _ cc (rc R (R.length - 1)) (by (try simp only [sS]); omega) (by (try simp only [sS]); omega)) rfl (le_b rfl) (le_b rfl) (le_b rfl) k_n (k_B fun z476 h476 q476 => ?_)
                              obtain ⟨rfl, (rfl : z476 = (bhd cc (rc R (R.length - 1))))⟩ := q476
                              refine ev_b_ne (k_m_readsCode_2 39 rfl) (fun c477 => ?_) (fun c477 => ?_)
                              · refine ev_ic (k_m_readsCode_2 45 rfl) ?_
                                refine ev_goto (k_m_readsCode_2 46 rfl) ?_
                                exact ev_zret (x := true) (k_m_readsCode_2 48 rfl) rfl (⟨true, rfl, _, hm431, fm431, Or.inr ⟨k331, k422, cc, by unfold pcod; rw [hk331]; unfold pcA; rw [if_neg (by rintro ⟨x, y⟩; first | omega | exact y ⟨by omega, by assumption⟩), if_neg (by split <;> omega), if_neg (by omega), if_neg (by omega), hk422]; unfold pcB; rw [if_neg (by omega), if_neg (by omega), if_neg (by omega), hcc]; unfold pcC; rw [if_neg (by rintro (⟨x, y⟩ | ⟨x, y⟩); omega; first | omega | (rw [upc_u hU] at y; exact absurd (Eq.trans y.symm (by assumption : _ = true)) (by decide)) | (rw [upc_s hU] at y; exact absurd (Eq.trans y.symm (by assumption : _ = true)) (by decide))), if_neg (by rintro ⟨x, y⟩; first | omega | exact absurd (Eq.trans y.symm (by assumption : _ = true)) (by decide))], rfl, rfl, hcb, by omega, by omega, hcc⟩⟩)
                              · refine ev_al (k_m_readsCode_2 40 rfl) rfl ?_
                                refine ev_ic (k_m_readsCode_2 41 rfl) ?_
                                refine ev_ilw (k_m_readsCode_2 42 rfl) rfl ?_
                                refine ev_cV (k_m_readsCode_2 43 rfl) rfl v_m_fails hm431.1 rfl (c_m_fails G ma _ _ hm431 4 ((p : Int) + (k331 : Int))) rfl (le_b rfl) (le_b rfl) (le_b rfl) k_n (k_B fun z478 h478 q478 => ?_)
                                obtain ⟨rfl, hm478, fmx478⟩ := q478
                                have fm478 := fM_tr fm431 fmx478
                                refine ev_if_eq (k_m_readsCode_2 44 rfl) (fun _ => ?_) (fun c => absurd c (by decide))
                                refine ev_ic (k_m_readsCode_2 47 rfl) ?_
                                exact ev_zret (x := false) (k_m_readsCode_2 48 rfl) rfl (⟨false, rfl, _, hm478, fm478, Or.inl ⟨4, (p) + (k331), by first | (exfalso; omega) | (unfold pcod; rw [hk331]; unfold pcA; rw [if_neg (by rintro ⟨x, y⟩; first | omega | exact y ⟨by omega, by assumption⟩), if_neg (by split <;> omega), if_neg (by omega), if_neg (by omega), hk422]; unfold pcB; rw [if_neg (by omega), if_neg (by omega), if_neg (by omega), hcc]; unfold pcC; rw [if_neg (by rintro (⟨x, y⟩ | ⟨x, y⟩); omega; first | omega | (rw [upc_u hU] at y; exact absurd (Eq.trans y.symm (by assumption : _ = true)) (by decide)) | (rw [upc_s hU] at y; exact absurd (Eq.trans y.symm (by assumption : _ = true)) (by decide))), if_pos ⟨by omega, by assumption⟩]), rfl, by first | exact frd_tr (frd_S (Or.inl rfl)) (frd_S (Or.inr (Or.inl rfl))) | exact frd_tr (frd_tr (frd_A8 (by omega)) (frd_A7 (by omega))) (frd_tr (frd_S (Or.inl rfl)) (frd_S (Or.inr (Or.inl rfl)))), rfl, by simp [sS], by omega⟩⟩)
                          · refine ev_al (k_m_readsCode_2 21 rfl) rfl ?_
                            refine ev_ic (k_m_readsCode_2 22 rfl) ?_
                            refine ev_ilw (k_m_readsCode_2 23 rfl) rfl ?_
                            refine ev_cV (k_m_readsCode_2 24 rfl) rfl v_m_fails hm431.1 rfl (c_m_fails G ma _ _ hm431 3 ((p : Int) + (k331 : Int))) rfl (le_b rfl) (le_b rfl) (le_b rfl) k_n (k_B fun z480 h480 q480 => ?_)
                            obtain ⟨rfl, hm480, fmx480⟩ := q480
                            have fm480 := fM_tr fm431 fmx480
                            exact ev_zret (x := false) (k_m_readsCode_2 25 rfl) rfl (⟨false, rfl, _, hm480, fm480, Or.inl ⟨3, (p) + (k331), by first | (exfalso; omega) | (unfold pcod; rw [hk331]; unfold pcA; rw [if_neg (by rintro ⟨x, y⟩; first | omega | exact y ⟨by omega, by assumption⟩), if_neg (by split <;> omega), if_neg (by omega), if_neg (by omega), hk422]; unfold pcB; rw [if_neg (by omega), if_neg (by omega), if_neg (by omega), hcc]; unfold pcC; rw [if_pos (by first | exact Or.inl ⟨by omega, by omega⟩ | exact Or.inr ⟨by omega, by rw [upc_u hU]; assumption⟩ | exact Or.inr ⟨by omega, by rw [upc_s hU]; assumption⟩)]), rfl, by first | exact frd_tr (frd_S (Or.inl rfl)) (frd_S (Or.inr (Or.inl rfl))) | exact frd_tr (frd_tr (frd_A8 (by omega)) (frd_A7 (by omega))) (frd_tr (frd_S (Or.inl rfl)) (frd_S (Or.inr (Or.inl rfl)))), rfl, by simp [sS], by omega⟩⟩)
                      · refine ev_ilw (k_m_readsCode_2 2 rfl) rfl ?_
                        refine ev_ic (k_m_readsCode_2 3 rfl) ?_
                        refine ev_ic_ne (k_m_readsCode_2 4 rfl) (fun c481 => ?_) (fun c481 => ?_)
                        · refine ev_al (k_m_readsCode_2 21 rfl) rfl ?_
                          refine ev_ic (k_m_readsCode_2 22 rfl) ?_
                          refine ev_ilw (k_m_readsCode_2 23 rfl) rfl ?_
                          refine ev_cV (k_m_readsCode_2 24 rfl) rfl v_m_fails hm431.1 rfl (c_m_fails G ma _ _ hm431 3 ((p : Int) + (k331 : Int))) rfl (le_b rfl) (le_b rfl) (le_b rfl) k_n (k_B fun z482 h482 q482 => ?_)
                          obtain ⟨rfl, hm482, fmx482⟩ := q482
                          have fm482 := fM_tr fm431 fmx482
                          exact ev_zret (x := false) (k_m_readsCode_2 25 rfl) rfl (⟨false, rfl, _, hm482, fm482, Or.inl ⟨3, (p) + (k331), by first | (exfalso; omega) | (unfold pcod; rw [hk331]; unfold pcA; rw [if_neg (by rintro ⟨x, y⟩; first | omega | exact y ⟨by omega, by assumption⟩), if_neg (by split <;> omega), if_neg (by omega), if_neg (by omega), hk422]; unfold pcB; rw [if_neg (by omega), if_neg (by omega), if_neg (by omega), hcc]; unfold pcC; rw [if_pos (by first | exact Or.inl ⟨by omega, by omega⟩ | exact Or.inr ⟨by omega, by rw [upc_u hU]; assumption⟩ | exact Or.inr ⟨by omega, by rw [upc_s hU]; assumption⟩)]), rfl, by first | exact frd_tr (frd_S (Or.inl rfl)) (frd_S (Or.inr (Or.inl rfl))) | exact frd_tr (frd_tr (frd_A8 (by omega)) (frd_A7 (by omega))) (frd_tr (frd_S (Or.inl rfl)) (frd_S (Or.inr (Or.inl rfl)))), rfl, by simp [sS], by omega⟩⟩)
                        · refine ev_ilw (k_m_readsCode_2 5 rfl) rfl ?_
                          refine ev_if_le (k_m_readsCode_2 6 rfl) (fun c483 => ?_) (fun c483 => ?_)
                          · refine ev_il (k_m_readsCode_2 26 rfl) rfl ?_
                            refine ev_if_eq (k_m_readsCode_2 27 rfl) (fun c484 => ?_) (fun c484 => ?_)
                            · refine ev_ic (k_m_readsCode_2 45 rfl) ?_
                              refine ev_goto (k_m_readsCode_2 46 rfl) ?_
                              exact ev_zret (x := true) (k_m_readsCode_2 48 rfl) rfl (⟨true, rfl, _, hm431, fm431, Or.inr ⟨k331, k422, cc, by unfold pcod; rw [hk331]; unfold pcA; rw [if_neg (by rintro ⟨x, y⟩; first | omega | exact y ⟨by omega, by assumption⟩), if_neg (by split <;> omega), if_neg (by omega), if_neg (by omega), hk422]; unfold pcB; rw [if_neg (by omega), if_neg (by omega), if_neg (by omega), hcc]; unfold pcC; rw [if_neg (by rintro (⟨x, y⟩ | ⟨x, y⟩); omega; first | omega | (rw [upc_u hU] at y; exact absurd (Eq.trans y.symm (by assumption : _ = true)) (by decide)) | (rw [upc_s hU] at y; exact absurd (Eq.trans y.symm (by assumption : _ = true)) (by decide))), if_neg (by rintro ⟨x, y⟩; first | omega | exact absurd (Eq.trans y.symm (by assumption : _ = true)) (by decide))], rfl, rfl, hcb, by omega, by omega, hcc⟩⟩)
                            · refine ev_al (k_m_readsCode_2 28 rfl) rfl ?_
                              refine ev_get (v := vA (ma 7)) (k_m_readsCode_2 29 rfl) hm431.1 rfl ?_
                              refine ev_il (k_m_readsCode_2 30 rfl) rfl ?_
                              refine ev_lald (xs := ((σ.2 7).set (120 + (R.length)) cc)) (k_m_readsCode_2 31 rfl) (mr_a hm431 7 rfl) (by omega) (by simp only [List.length_set]; omega) (show ev _ _ _ _ _ _ _ _ (vL (gd ((σ.2 7).set (120 + (R.length)) cc) (120 + (R.length))) :: _) _ _ _ from ?_)
                              rw [gd_set_eq _ (by omega)]
                              refine ev_al (k_m_readsCode_2 32 rfl) rfl ?_
                              refine ev_get (v := vA (ma 7)) (k_m_readsCode_2 33 rfl) hm431.1 rfl ?_
                              refine ev_il (k_m_readsCode_2 34 rfl) rfl ?_
                              refine ev_ic (k_m_readsCode_2 35 rfl) ?_
                              refine ev_isub (k_m_readsCode_2 36 rfl) (by omega) ?_
                              refine ev_lald (xs := ((σ.2 7).set (120 + (R.length)) cc)) (k_m_readsCode_2 37 rfl) (mr_a hm431 7 rfl) (by omega) (by simp only [List.length_set]; omega) (show ev _ _ _ _ _ _ _ _ (vL (gd ((σ.2 7).set (120 + (R.length)) cc) ((120 + (R.length : Int)) - 1).toNat) :: _) _ _ _ from ?_)
                              rw [show ((120 + (R.length : Int)) - 1).toNat = 120 + (R.length - 1) by omega, gd_set_ne _ (by omega), (hs.2.2 (R.length - 1) (by omega)).1]
                              refine ev_cS (k_m_readsCode_2 38 rfl) rfl v_m_isBehind (c_m_isBehind G _ cc (rc R (R.length - 1)) (by (try simp only [sS]); omega) (by (try simp only [sS]); omega)) rfl (le_b rfl) (le_b rfl) (le_b rfl) k_n (k_B fun z485 h485 q485 => ?_)
                              obtain ⟨rfl, (rfl : z485 = (bhd cc (rc R (R.length - 1))))⟩ := q485
                              refine ev_b_ne (k_m_readsCode_2 39 rfl) (fun c486 => ?_) (fun c486 => ?_)
                              · refine ev_ic (k_m_readsCode_2 45 rfl) ?_
                                refine ev_goto (k_m_readsCode_2 46 rfl) ?_
                                exact ev_zret (x := true) (k_m_readsCode_2 48 rfl) rfl (⟨true, rfl, _, hm431, fm431, Or.inr ⟨k331, k422, cc, by unfold pcod; rw [hk331]; unfold pcA; rw [if_neg (by rintro ⟨x, y⟩; first | omega | exact y ⟨by omega, by assumption⟩), if_neg (by split <;> omega), if_neg (by omega), if_neg (by omega), hk422]; unfold pcB; rw [if_neg (by omega), if_neg (by omega), if_neg (by omega), hcc]; unfold pcC; rw [if_neg (by rintro (⟨x, y⟩ | ⟨x, y⟩); omega; first | omega | (rw [upc_u hU] at y; exact absurd (Eq.trans y.symm (by assumption : _ = true)) (by decide)) | (rw [upc_s hU] at y; exact absurd (Eq.trans y.symm (by assumption : _ = true)) (by decide))), if_neg (by rintro ⟨x, y⟩; first | omega | exact absurd (Eq.trans y.symm (by assumption : _ = true)) (by decide))], rfl, rfl, hcb, by omega, by omega, hcc⟩⟩)
                              · refine ev_al (k_m_readsCode_2 40 rfl) rfl ?_
                                refine ev_ic (k_m_readsCode_2 41 rfl) ?_
                                refine ev_ilw (k_m_readsCode_2 42 rfl) rfl ?_
                                refine ev_cV (k_m_readsCode_2 43 rfl) rfl v_m_fails hm431.1 rfl (c_m_fails G ma _ _ hm431 4 ((p : Int) + (k331 : Int))) rfl (le_b rfl) (le_b rfl) (le_b rfl) k_n (k_B fun z487 h487 q487 => ?_)
                                obtain ⟨rfl, hm487, fmx487⟩ := q487
                                have fm487 := fM_tr fm431 fmx487
                                refine ev_if_eq (k_m_readsCode_2 44 rfl) (fun _ => ?_) (fun c => absurd c (by decide))
                                refine ev_ic (k_m_readsCode_2 47 rfl) ?_
                                exact ev_zret (x := false) (k_m_readsCode_2 48 rfl) rfl (⟨false, rfl, _, hm487, fm487, Or.inl ⟨4, (p) + (k331), by first | (exfalso; omega) | (unfold pcod; rw [hk331]; unfold pcA; rw [if_neg (by rintro ⟨x, y⟩; first | omega | exact y ⟨by omega, by assumption⟩), if_neg (by split <;> omega), if_neg (by omega), if_neg (by omega), hk422]; unfold pcB; rw [if_neg (by omega), if_neg (by omega), if_neg (by omega), hcc]; unfold pcC; rw [if_neg (by rintro (⟨x, y⟩ | ⟨x, y⟩); omega; first | omega | (rw [upc_u hU] at y; exact absurd (Eq.trans y.symm (by assumption : _ = true)) (by decide)) | (rw [upc_s hU] at y; exact absurd (Eq.trans y.symm (by assumption : _ = true)) (by decide))), if_pos ⟨by omega, by assumption⟩]), rfl, by first | exact frd_tr (frd_S (Or.inl rfl)) (frd_S (Or.inr (Or.inl rfl))) | exact frd_tr (frd_tr (frd_A8 (by omega)) (frd_A7 (by omega))) (frd_tr (frd_S (Or.inl rfl)) (frd_S (Or.inr (Or.inl rfl)))), rfl, by simp [sS], by omega⟩⟩)
                          · refine ev_al (k_m_readsCode_2 7 rfl) rfl ?_
                            refine ev_get (v := vA (ma 7)) (k_m_readsCode_2 8 rfl) hm431.1 rfl ?_
                            refine ev_il (k_m_readsCode_2 9 rfl) rfl ?_
                            refine ev_lald (xs := ((σ.2 7).set (120 + (R.length)) cc)) (k_m_readsCode_2 10 rfl) (mr_a hm431 7 rfl) (by omega) (by simp only [List.length_set]; omega) (show ev _ _ _ _ _ _ _ _ (vL (gd ((σ.2 7).set (120 + (R.length)) cc) (120 + (R.length))) :: _) _ _ _ from ?_)
                            rw [gd_set_eq _ (by omega)]
                            refine ev_al (k_m_readsCode_2 11 rfl) rfl ?_
                            refine ev_get (v := vA (ma 7)) (k_m_readsCode_2 12 rfl) hm431.1 rfl ?_
                            refine ev_ilw (k_m_readsCode_2 13 rfl) rfl ?_
                            refine ev_if_ge (k_m_readsCode_2 14 rfl) (fun _ => ?_) (fun c => absurd c (by omega))
                            refine ev_ilw (k_m_readsCode_2 17 rfl) rfl ?_
                            refine ev_lald (xs := ((σ.2 7).set (120 + (R.length)) cc)) (k_m_readsCode_2 18 rfl) (mr_a hm431 7 rfl) (by omega) (by simp only [List.length_set]; omega) (show ev _ _ _ _ _ _ _ _ (vL (gd ((σ.2 7).set (120 + (R.length)) cc) (120 + j)) :: _) _ _ _ from ?_)
                            rw [gd_set_ne _ (by omega), (hs.2.2 j huj.1).1]
                            refine ev_cS (k_m_readsCode_2 19 rfl) rfl v_m_begins (c_m_begins G _ cc (rc R j) (by (try simp only [sS]); omega)) rfl (le_b rfl) (le_b rfl) (le_b rfl) k_n (k_B fun z489 h489 q489 => ?_)
                            obtain ⟨rfl, (rfl : z489 = (bgn cc (rc R j)))⟩ := q489
                            refine ev_b_ne (k_m_readsCode_2 20 rfl) (fun c490 => ?_) (fun c490 => ?_)
                            · refine ev_il (k_m_readsCode_2 26 rfl) rfl ?_
                              refine ev_if_eq (k_m_readsCode_2 27 rfl) (fun c491 => ?_) (fun c491 => ?_)
                              · refine ev_ic (k_m_readsCode_2 45 rfl) ?_
                                refine ev_goto (k_m_readsCode_2 46 rfl) ?_
                                exact ev_zret (x := true) (k_m_readsCode_2 48 rfl) rfl (⟨true, rfl, _, hm431, fm431, Or.inr ⟨k331, k422, cc, by unfold pcod; rw [hk331]; unfold pcA; rw [if_neg (by rintro ⟨x, y⟩; first | omega | exact y ⟨by omega, by assumption⟩), if_neg (by split <;> omega), if_neg (by omega), if_neg (by omega), hk422]; unfold pcB; rw [if_neg (by omega), if_neg (by omega), if_neg (by omega), hcc]; unfold pcC; rw [if_neg (by rintro (⟨x, y⟩ | ⟨x, y⟩); omega; first | omega | (rw [upc_u hU] at y; exact absurd (Eq.trans y.symm (by assumption : _ = true)) (by decide)) | (rw [upc_s hU] at y; exact absurd (Eq.trans y.symm (by assumption : _ = true)) (by decide))), if_neg (by rintro ⟨x, y⟩; first | omega | exact absurd (Eq.trans y.symm (by assumption : _ = true)) (by decide))], rfl, rfl, hcb, by omega, by omega, hcc⟩⟩)
                              · refine ev_al (k_m_readsCode_2 28 rfl) rfl ?_
                                refine ev_get (v := vA (ma 7)) (k_m_readsCode_2 29 rfl) hm431.1 rfl ?_
                                refine ev_il (k_m_readsCode_2 30 rfl) rfl ?_
                                refine ev_lald (xs := ((σ.2 7).set (120 + (R.length)) cc)) (k_m_readsCode_2 31 rfl) (mr_a hm431 7 rfl) (by omega) (by simp only [List.length_set]; omega) (show ev _ _ _ _ _ _ _ _ (vL (gd ((σ.2 7).set (120 + (R.length)) cc) (120 + (R.length))) :: _) _ _ _ from ?_)
                                rw [gd_set_eq _ (by omega)]
                                refine ev_al (k_m_readsCode_2 32 rfl) rfl ?_
                                refine ev_get (v := vA (ma 7)) (k_m_readsCode_2 33 rfl) hm431.1 rfl ?_
                                refine ev_il (k_m_readsCode_2 34 rfl) rfl ?_
                                refine ev_ic (k_m_readsCode_2 35 rfl) ?_
                                refine ev_isub (k_m_readsCode_2 36 rfl) (by omega) ?_
                                refine ev_lald (xs := ((σ.2 7).set (120 + (R.length)) cc)) (k_m_readsCode_2 37 rfl) (mr_a hm431 7 rfl) (by omega) (by simp only [List.length_set]; omega) (show ev _ _ _ _ _ _ _ _ (vL (gd ((σ.2 7).set (120 + (R.length)) cc) ((120 + (R.length : Int)) - 1).toNat) :: _) _ _ _ from ?_)
                                rw [show ((120 + (R.length : Int)) - 1).toNat = 120 + (R.length - 1) by omega, gd_set_ne _ (by omega), (hs.2.2 (R.length - 1) (by omega)).1]
                                refine ev_cS (k_m_readsCode_2 38 rfl) rfl v_m_isBehind (c_m_isBehind G _ cc (rc R (R.length - 1)) (by (try simp only [sS]); omega) (by (try simp only [sS]); omega)) rfl (le_b rfl) (le_b rfl) (le_b rfl) k_n (k_B fun z492 h492 q492 => ?_)
                                obtain ⟨rfl, (rfl : z492 = (bhd cc (rc R (R.length - 1))))⟩ := q492
                                refine ev_b_ne (k_m_readsCode_2 39 rfl) (fun c493 => ?_) (fun c493 => ?_)
                                · refine ev_ic (k_m_readsCode_2 45 rfl) ?_
                                  refine ev_goto (k_m_readsCode_2 46 rfl) ?_
                                  exact ev_zret (x := true) (k_m_readsCode_2 48 rfl) rfl (⟨true, rfl, _, hm431, fm431, Or.inr ⟨k331, k422, cc, by unfold pcod; rw [hk331]; unfold pcA; rw [if_neg (by rintro ⟨x, y⟩; first | omega | exact y ⟨by omega, by assumption⟩), if_neg (by split <;> omega), if_neg (by omega), if_neg (by omega), hk422]; unfold pcB; rw [if_neg (by omega), if_neg (by omega), if_neg (by omega), hcc]; unfold pcC; rw [if_neg (by rintro (⟨x, y⟩ | ⟨x, y⟩); omega; first | omega | (rw [upc_u hU] at y; exact absurd (Eq.trans y.symm (by assumption : _ = true)) (by decide)) | (rw [upc_s hU] at y; exact absurd (Eq.trans y.symm (by assumption : _ = true)) (by decide))), if_neg (by rintro ⟨x, y⟩; first | omega | exact absurd (Eq.trans y.symm (by assumption : _ = true)) (by decide))], rfl, rfl, hcb, by omega, by omega, hcc⟩⟩)
                                · refine ev_al (k_m_readsCode_2 40 rfl) rfl ?_
                                  refine ev_ic (k_m_readsCode_2 41 rfl) ?_
                                  refine ev_ilw (k_m_readsCode_2 42 rfl) rfl ?_
                                  refine ev_cV (k_m_readsCode_2 43 rfl) rfl v_m_fails hm431.1 rfl (c_m_fails G ma _ _ hm431 4 ((p : Int) + (k331 : Int))) rfl (le_b rfl) (le_b rfl) (le_b rfl) k_n (k_B fun z494 h494 q494 => ?_)
                                  obtain ⟨rfl, hm494, fmx494⟩ := q494
                                  have fm494 := fM_tr fm431 fmx494
                                  refine ev_if_eq (k_m_readsCode_2 44 rfl) (fun _ => ?_) (fun c => absurd c (by decide))
                                  refine ev_ic (k_m_readsCode_2 47 rfl) ?_
                                  exact ev_zret (x := false) (k_m_readsCode_2 48 rfl) rfl (⟨false, rfl, _, hm494, fm494, Or.inl ⟨4, (p) + (k331), by first | (exfalso; omega) | (unfold pcod; rw [hk331]; unfold pcA; rw [if_neg (by rintro ⟨x, y⟩; first | omega | exact y ⟨by omega, by assumption⟩), if_neg (by split <;> omega), if_neg (by omega), if_neg (by omega), hk422]; unfold pcB; rw [if_neg (by omega), if_neg (by omega), if_neg (by omega), hcc]; unfold pcC; rw [if_neg (by rintro (⟨x, y⟩ | ⟨x, y⟩); omega; first | omega | (rw [upc_u hU] at y; exact absurd (Eq.trans y.symm (by assumption : _ = true)) (by decide)) | (rw [upc_s hU] at y; exact absurd (Eq.trans y.symm (by assumption : _ = true)) (by decide))), if_pos ⟨by omega, by assumption⟩]), rfl, by first | exact frd_tr (frd_S (Or.inl rfl)) (frd_S (Or.inr (Or.inl rfl))) | exact frd_tr (frd_tr (frd_A8 (by omega)) (frd_A7 (by omega))) (frd_tr (frd_S (Or.inl rfl)) (frd_S (Or.inr (Or.inl rfl)))), rfl, by simp [sS], by omega⟩⟩)
                            · refine ev_al (k_m_readsCode_2 21 rfl) rfl ?_
                              refine ev_ic (k_m_readsCode_2 22 rfl) ?_
                              refine ev_ilw (k_m_readsCode_2 23 rfl) rfl ?_
                              refine ev_cV (k_m_readsCode_2 24 rfl) rfl v_m_fails hm431.1 rfl (c_m_fails G ma _ _ hm431 3 ((p : Int) + (k331 : Int))) rfl (le_b rfl) (le_b rfl) (le_b rfl) k_n (k_B fun z496 h496 q496 => ?_)
                              obtain ⟨rfl, hm496, fmx496⟩ := q496
                              have fm496 := fM_tr fm431 fmx496
                              exact ev_zret (x := false) (k_m_readsCode_2 25 rfl) rfl (⟨false, rfl, _, hm496, fm496, Or.inl ⟨3, (p) + (k331), by first | (exfalso; omega) | (unfold pcod; rw [hk331]; unfold pcA; rw [if_neg (by rintro ⟨x, y⟩; first | omega | exact y ⟨by omega, by assumption⟩), if_neg (by split <;> omega), if_neg (by omega), if_neg (by omega), hk422]; unfold pcB; rw [if_neg (by omega), if_neg (by omega), if_neg (by omega), hcc]; unfold pcC; rw [if_pos (by first | exact Or.inl ⟨by omega, by omega⟩ | exact Or.inr ⟨by omega, by rw [upc_u hU]; assumption⟩ | exact Or.inr ⟨by omega, by rw [upc_s hU]; assumption⟩)]), rfl, by first | exact frd_tr (frd_S (Or.inl rfl)) (frd_S (Or.inr (Or.inl rfl))) | exact frd_tr (frd_tr (frd_A8 (by omega)) (frd_A7 (by omega))) (frd_tr (frd_S (Or.inl rfl)) (frd_S (Or.inr (Or.inl rfl)))), rfl, by simp [sS], by omega⟩⟩)
                · refine ev_al (k_m_readsCode_1 28 rfl) rfl ?_
                  refine ev_ic (k_m_readsCode_1 29 rfl) ?_
                  refine ev_ilw (k_m_readsCode_1 30 rfl) rfl ?_
                  refine ev_bp (k_m_readsCode_1 31 rfl) ?_
                  refine ev_ic_le (k_m_readsCode_1 32 rfl) (fun c497 => ?_) (fun c497 => ?_)
                  · refine ev_ilw (k_m_readsCode_1 37 rfl) rfl ?_
                    refine ev_ilw (k_m_readsCode_1 38 rfl) rfl ?_
                    refine ev_iadd (k_m_readsCode_1 39 rfl) (by omega) ?_
                    refine ev_cV (k_m_readsCode_1 40 rfl) rfl v_m_fails hm.1 rfl (c_m_fails G ma _ _ hm 1 (((p : Int) + (k331 : Int)) + (k422 : Int))) rfl (le_b rfl) (le_b rfl) (le_b rfl) k_n (k_B fun z498 h498 q498 => ?_)
                    obtain ⟨rfl, hm498, fmx498⟩ := q498
                    have fm498 := fM_tr (fM_rf _) fmx498
                    exact ev_zret (x := false) (k_m_readsCode_1 41 rfl) rfl (⟨false, rfl, _, hm498, fm498, Or.inl ⟨1, ((p) + (k331)) + (k422), by first | (exfalso; omega) | (unfold pcod; rw [hk331]; unfold pcA; rw [if_neg (by rintro ⟨x, y⟩; first | omega | exact y ⟨by omega, by assumption⟩), if_neg (by split <;> omega), if_neg (by omega), if_neg (by omega), hk422]; unfold pcB; first | rw [if_neg (by omega), if_pos (by omega)] | rw [if_neg (by omega), if_neg (by omega), if_pos (by omega)]), rfl, by first | exact frd_tr (frd_S (Or.inl rfl)) (frd_S (Or.inr (Or.inl rfl))) | exact frd_tr (frd_tr (frd_A8 (by omega)) (frd_A7 (by omega))) (frd_tr (frd_S (Or.inl rfl)) (frd_S (Or.inr (Or.inl rfl)))), rfl, by simp [sS], by omega⟩⟩)
                  · refine ev_ilw (k_m_readsCode_1 33 rfl) rfl ?_
                    refine ev_bp (k_m_readsCode_1 34 rfl) ?_
                    refine ev_iadd (k_m_readsCode_1 35 rfl) (by omega) ?_
                    refine ev_goto (k_m_readsCode_1 36 rfl) ?_
                    refine ev_cV (k_m_readsCode_1 40 rfl) rfl v_m_fails hm.1 rfl (c_m_fails G ma _ _ hm 1 (((p : Int) + (k331 : Int)) + 10)) rfl (le_b rfl) (le_b rfl) (le_b rfl) k_n (k_B fun z499 h499 q499 => ?_)
                    obtain ⟨rfl, hm499, fmx499⟩ := q499
                    have fm499 := fM_tr (fM_rf _) fmx499
                    exact ev_zret (x := false) (k_m_readsCode_1 41 rfl) rfl (⟨false, rfl, _, hm499, fm499, Or.inl ⟨1, ((p) + (k331)) + 10, by first | (exfalso; omega) | (unfold pcod; rw [hk331]; unfold pcA; rw [if_neg (by rintro ⟨x, y⟩; first | omega | exact y ⟨by omega, by assumption⟩), if_neg (by split <;> omega), if_neg (by omega), if_neg (by omega), hk422]; unfold pcB; first | rw [if_neg (by omega), if_pos (by omega)] | rw [if_neg (by omega), if_neg (by omega), if_pos (by omega)]), rfl, by first | exact frd_tr (frd_S (Or.inl rfl)) (frd_S (Or.inr (Or.inl rfl))) | exact frd_tr (frd_tr (frd_A8 (by omega)) (frd_A7 (by omega))) (frd_tr (frd_S (Or.inl rfl)) (frd_S (Or.inr (Or.inl rfl)))), rfl, by simp [sS], by omega⟩⟩)
            · refine ev_al (k_m_readsCode_1 15 rfl) rfl ?_
              refine ev_ic (k_m_readsCode_1 16 rfl) ?_
              refine ev_ilw (k_m_readsCode_1 17 rfl) rfl ?_
              refine ev_cV (k_m_readsCode_1 18 rfl) rfl v_m_fails hm.1 rfl (c_m_fails G ma _ _ hm 1 ((p : Int) + (k331 : Int))) rfl (le_b rfl) (le_b rfl) (le_b rfl) k_n (k_B fun z500 h500 q500 => ?_)
              obtain ⟨rfl, hm500, fmx500⟩ := q500
              have fm500 := fM_tr (fM_rf _) fmx500
              exact ev_zret (x := false) (k_m_readsCode_1 19 rfl) rfl (⟨false, rfl, _, hm500, fm500, Or.inl ⟨1, (p) + (k331), by first | (exfalso; omega) | (unfold pcod; rw [hk331]; unfold pcA; rw [if_neg (by rintro ⟨x, y⟩; first | omega | exact y ⟨by omega, by assumption⟩), if_neg (by split <;> omega), if_neg (by omega), if_neg (by omega), hk422]; unfold pcB; rw [if_pos (by omega)]), rfl, by first | exact frd_tr (frd_S (Or.inl rfl)) (frd_S (Or.inr (Or.inl rfl))) | exact frd_tr (frd_tr (frd_A8 (by omega)) (frd_A7 (by omega))) (frd_tr (frd_S (Or.inl rfl)) (frd_S (Or.inr (Or.inl rfl)))), rfl, by simp [sS], by omega⟩⟩)
          · refine ev_al (k_m_readsCode_1 1 rfl) rfl ?_
            refine ev_ic (k_m_readsCode_1 2 rfl) ?_
            refine ev_il (k_m_readsCode_1 3 rfl) rfl ?_
            refine ev_ic (k_m_readsCode_1 4 rfl) ?_
            refine ev_iadd (k_m_readsCode_1 5 rfl) (by omega) ?_
            refine ev_cV (k_m_readsCode_1 6 rfl) rfl v_m_fails hm.1 rfl (c_m_fails G ma _ _ hm 1 ((p : Int) + 4)) rfl (le_b rfl) (le_b rfl) (le_b rfl) k_n (k_B fun z501 h501 q501 => ?_)
            obtain ⟨rfl, hm501, fmx501⟩ := q501
            have fm501 := fM_tr (fM_rf _) fmx501
            exact ev_zret (x := false) (k_m_readsCode_1 7 rfl) rfl (⟨false, rfl, _, hm501, fm501, Or.inl ⟨1, (p) + 4, by first | (exfalso; omega) | (unfold pcod; rw [hk331]; unfold pcA; rw [if_neg (by rintro ⟨x, y⟩; first | omega | exact y ⟨by omega, by assumption⟩), if_neg (by split <;> omega), if_neg (by omega), if_pos (by omega)]), rfl, by first | exact frd_tr (frd_S (Or.inl rfl)) (frd_S (Or.inr (Or.inl rfl))) | exact frd_tr (frd_tr (frd_A8 (by omega)) (frd_A7 (by omega))) (frd_tr (frd_S (Or.inl rfl)) (frd_S (Or.inr (Or.inl rfl)))), rfl, by simp [sS], by omega⟩⟩)
        · refine ev_al (k_m_readsCode_0 53 rfl) rfl ?_
          refine ev_ic (k_m_readsCode_0 54 rfl) ?_
          refine ev_il (k_m_readsCode_0 55 rfl) rfl ?_
          refine ev_cV (k_m_readsCode_0 56 rfl) rfl v_m_fails hm.1 rfl (c_m_fails G ma _ _ hm 5 (p : Int)) rfl (le_b rfl) (le_b rfl) (le_b rfl) k_n (k_B fun z502 h502 q502 => ?_)
          obtain ⟨rfl, hm502, fmx502⟩ := q502
          have fm502 := fM_tr (fM_rf _) fmx502
          exact ev_zret (x := false) (k_m_readsCode_0 57 rfl) rfl (⟨false, rfl, _, hm502, fm502, Or.inl ⟨5, p, by first | (exfalso; omega) | (unfold pcod; rw [hk331]; unfold pcA; rw [if_neg (by rintro ⟨x, y⟩; first | omega | exact y ⟨by omega, by assumption⟩), if_neg (by split <;> omega), if_pos (by omega)]), rfl, by first | exact frd_tr (frd_S (Or.inl rfl)) (frd_S (Or.inr (Or.inl rfl))) | exact frd_tr (frd_tr (frd_A8 (by omega)) (frd_A7 (by omega))) (frd_tr (frd_S (Or.inl rfl)) (frd_S (Or.inr (Or.inl rfl)))), rfl, by simp [sS], by omega⟩⟩)
      · refine ev_al (k_m_readsCode_0 45 rfl) rfl ?_
        refine ev_ic (k_m_readsCode_0 46 rfl) ?_
        refine ev_il (k_m_readsCode_0 47 rfl) rfl ?_
        refine ev_cV (k_m_readsCode_0 48 rfl) rfl v_m_fails hm.1 rfl (c_m_fails G ma _ _ hm 2 (p : Int)) rfl (le_b rfl) (le_b rfl) (le_b rfl) k_n (k_B fun z503 h503 q503 => ?_)
        obtain ⟨rfl, hm503, fmx503⟩ := q503
        have fm503 := fM_tr (fM_rf _) fmx503
        exact ev_zret (x := false) (k_m_readsCode_0 49 rfl) rfl (⟨false, rfl, _, hm503, fm503, Or.inl ⟨2, p, by first | (exfalso; omega) | (unfold pcod; rw [hk331]; unfold pcA; rw [if_neg (by rintro ⟨x, y⟩; first | omega | exact y ⟨by omega, by assumption⟩), if_pos (by split <;> omega)]), rfl, by first | exact frd_tr (frd_S (Or.inl rfl)) (frd_S (Or.inr (Or.inl rfl))) | exact frd_tr (frd_tr (frd_A8 (by omega)) (frd_A7 (by omega))) (frd_tr (frd_S (Or.inl rfl)) (frd_S (Or.inr (Or.inl rfl)))), rfl, by simp [sS], by omega⟩⟩)
  · refine ev_al (k_m_readsCode_0 20 rfl) rfl ?_
    refine ev_get (v := vA (ma 1)) (k_m_readsCode_0 21 rfl) hm.1 rfl ?_
    refine ev_il (k_m_readsCode_0 22 rfl) rfl ?_
    refine ev_iald (xs := σ.2 1) (k_m_readsCode_0 23 rfl) (mr_a hm 1 rfl) (by omega) (by omega) (show ev _ _ _ _ _ _ _ _ (vI (gd (σ.2 1) (p)) :: _) _ _ _ from ?_)
    refine ev_cS (k_m_readsCode_0 24 rfl) rfl v_m_isDigit (c_m_isDigit G _ (gd (σ.2 1) (p))) rfl (le_b rfl) (le_b rfl) (le_b rfl) k_n (k_B fun z504 h504 q504 => ?_)
    obtain ⟨rfl, rfl⟩ := q504
    refine ev_b_ne (k_m_readsCode_0 25 rfl) (fun c505 => ?_) (fun c505 => ?_)
    · have j505 := inb_t c505
      refine ev_ilw (k_m_readsCode_0 31 rfl) rfl ?_
      refine ev_il (k_m_readsCode_0 32 rfl) rfl ?_
      refine ev_if_ne (k_m_readsCode_0 33 rfl) (fun c506 => ?_) (fun c506 => ?_)
      · refine ev_al (k_m_readsCode_0 36 rfl) rfl ?_
        refine ev_get (v := vA (ma 8)) (k_m_readsCode_0 37 rfl) hm.1 rfl ?_
        refine ev_il (k_m_readsCode_0 38 rfl) rfl ?_
        refine ev_ic (k_m_readsCode_0 39 rfl) ?_
        refine ev_isub (k_m_readsCode_0 40 rfl) (by omega) ?_
        refine ev_iald (xs := σ.2 8) (k_m_readsCode_0 41 rfl) (mr_a hm 8 rfl) (by omega) (by omega) (show ev _ _ _ _ _ _ _ _ (vI (gd (σ.2 8) ((120 + (R.length : Int)) - 1).toNat) :: _) _ _ _ from ?_)
        rw [show ((120 + (R.length : Int)) - 1).toNat = 120 + (R.length - 1) by omega, (hs.2.2 (R.length - 1) (by omega)).2.1]
        refine ev_ic (k_m_readsCode_0 42 rfl) ?_
        refine ev_iadd (k_m_readsCode_0 43 rfl) (by omega) ?_
        refine ev_ic_le (k_m_readsCode_0 44 rfl) (fun c507 => ?_) (fun c507 => ?_)
        · refine ev_il (k_m_readsCode_0 50 rfl) rfl ?_
          refine ev_bp (k_m_readsCode_0 51 rfl) ?_
          refine ev_ic_ne (k_m_readsCode_0 52 rfl) (fun c508 => ?_) (fun c508 => ?_)
          · refine ev_ilw (k_m_readsCode_0 58 rfl) rfl ?_
            refine ev_ic (k_m_readsCode_0 59 rfl) ?_
            refine ev_ic_le (k_m_readsCode_1 0 rfl) (fun c509 => ?_) (fun c509 => ?_)
            · refine ev_al (k_m_readsCode_1 8 rfl) rfl ?_
              refine ev_ilw (k_m_readsCode_1 9 rfl) rfl ?_
              refine ev_ic (k_m_readsCode_1 10 rfl) ?_
              refine ev_cV (k_m_readsCode_1 11 rfl) rfl v_m_run hm.1 rfl (c_m_run G ma _ _ hm n ((p) + (k331)) 1 hn0 hn4 (by omega)) rfl (le_b rfl) (le_b rfl) (le_b rfl) k_n (k_I fun z510 h510 q510 => ?_)
              obtain ⟨rfl, (rfl : z510 = ((rn (gd (σ.2 1)) 1 ((p) + (k331)) (n - ((p) + (k331))) : Nat) : Int))⟩ := q510
              have rl510 := rn_le (gd (σ.2 1)) 1 (n - ((p) + (k331))) ((p) + (k331))
              generalize hk510 : rn (gd (σ.2 1)) 1 ((p) + (k331)) (n - ((p) + (k331))) = k510 at rl510 ⊢
              refine ev_isw (k_m_readsCode_1 12 rfl) (le_b rfl) (show ev _ _ _ _ _ _ 117 [some (vA (ma 0)), some (vI (p : Int)), some (vI (R.length : Int)), some (vI (120 + (R.length : Int))), some (vI (k331 : Int)), some (vI ((p : Int) + (k331 : Int))), some (vI (k510 : Int)), none] _ _ _ _ from ?_)
              refine ev_ilw (k_m_readsCode_1 13 rfl) rfl ?_
              refine ev_if_ne (k_m_readsCode_1 14 rfl) (fun c511 => ?_) (fun c511 => ?_)
              · refine ev_ilw (k_m_readsCode_1 20 rfl) rfl ?_
                refine ev_bp (k_m_readsCode_1 21 rfl) ?_
                refine ev_ic_gt (k_m_readsCode_1 22 rfl) (fun c512 => ?_) (fun c512 => ?_)
                · refine ev_al (k_m_readsCode_1 28 rfl) rfl ?_
                  refine ev_ic (k_m_readsCode_1 29 rfl) ?_
                  refine ev_ilw (k_m_readsCode_1 30 rfl) rfl ?_
                  refine ev_bp (k_m_readsCode_1 31 rfl) ?_
                  refine ev_ic_le (k_m_readsCode_1 32 rfl) (fun c513 => ?_) (fun c513 => ?_)
                  · refine ev_ilw (k_m_readsCode_1 37 rfl) rfl ?_
                    refine ev_ilw (k_m_readsCode_1 38 rfl) rfl ?_
                    refine ev_iadd (k_m_readsCode_1 39 rfl) (by omega) ?_
                    refine ev_cV (k_m_readsCode_1 40 rfl) rfl v_m_fails hm.1 rfl (c_m_fails G ma _ _ hm 1 (((p : Int) + (k331 : Int)) + (k510 : Int))) rfl (le_b rfl) (le_b rfl) (le_b rfl) k_n (k_B fun z514 h514 q514 => ?_)
                    obtain ⟨rfl, hm514, fmx514⟩ := q514
                    have fm514 := fM_tr (fM_rf _) fmx514
                    exact ev_zret (x := false) (k_m_readsCode_1 41 rfl) rfl (⟨false, rfl, _, hm514, fm514, Or.inl ⟨1, ((p) + (k331)) + (k510), by first | (exfalso; omega) | (unfold pcod; rw [hk331]; unfold pcA; rw [if_neg (by rintro ⟨x, y⟩; first | omega | exact y ⟨by omega, by assumption⟩), if_neg (by split <;> omega), if_neg (by omega), if_neg (by omega), hk510]; unfold pcB; first | rw [if_neg (by omega), if_pos (by omega)] | rw [if_neg (by omega), if_neg (by omega), if_pos (by omega)]), rfl, by first | exact frd_tr (frd_S (Or.inl rfl)) (frd_S (Or.inr (Or.inl rfl))) | exact frd_tr (frd_tr (frd_A8 (by omega)) (frd_A7 (by omega))) (frd_tr (frd_S (Or.inl rfl)) (frd_S (Or.inr (Or.inl rfl)))), rfl, by simp [sS], by omega⟩⟩)
                  · refine ev_ilw (k_m_readsCode_1 33 rfl) rfl ?_
                    refine ev_bp (k_m_readsCode_1 34 rfl) ?_
                    refine ev_iadd (k_m_readsCode_1 35 rfl) (by omega) ?_
                    refine ev_goto (k_m_readsCode_1 36 rfl) ?_
                    refine ev_cV (k_m_readsCode_1 40 rfl) rfl v_m_fails hm.1 rfl (c_m_fails G ma _ _ hm 1 (((p : Int) + (k331 : Int)) + 10)) rfl (le_b rfl) (le_b rfl) (le_b rfl) k_n (k_B fun z515 h515 q515 => ?_)
                    obtain ⟨rfl, hm515, fmx515⟩ := q515
                    have fm515 := fM_tr (fM_rf _) fmx515
                    exact ev_zret (x := false) (k_m_readsCode_1 41 rfl) rfl (⟨false, rfl, _, hm515, fm515, Or.inl ⟨1, ((p) + (k331)) + 10, by first | (exfalso; omega) | (unfold pcod; rw [hk331]; unfold pcA; rw [if_neg (by rintro ⟨x, y⟩; first | omega | exact y ⟨by omega, by assumption⟩), if_neg (by split <;> omega), if_neg (by omega), if_neg (by omega), hk510]; unfold pcB; first | rw [if_neg (by omega), if_pos (by omega)] | rw [if_neg (by omega), if_neg (by omega), if_pos (by omega)]), rfl, by first | exact frd_tr (frd_S (Or.inl rfl)) (frd_S (Or.inr (Or.inl rfl))) | exact frd_tr (frd_tr (frd_A8 (by omega)) (frd_A7 (by omega))) (frd_tr (frd_S (Or.inl rfl)) (frd_S (Or.inr (Or.inl rfl)))), rfl, by simp [sS], by omega⟩⟩)
                · refine ev_ilw (k_m_readsCode_1 23 rfl) rfl ?_
                  refine ev_ic (k_m_readsCode_1 24 rfl) ?_
                  refine ev_irem (k_m_readsCode_1 25 rfl) (by omega) (by omega) ?_
                  refine ev_ic (k_m_readsCode_1 26 rfl) ?_
                  refine ev_ic_ne (k_m_readsCode_1 27 rfl) (fun c516 => ?_) (fun c516 => ?_)
                  · refine ev_al (k_m_readsCode_1 42 rfl) rfl ?_
                    refine ev_get (v := vA (ma 8)) (k_m_readsCode_1 43 rfl) hm.1 rfl ?_
                    refine ev_il (k_m_readsCode_1 44 rfl) rfl ?_
                    refine ev_ilw (k_m_readsCode_1 45 rfl) rfl ?_
                    refine ev_mias (iN := 120 + (R.length)) (k_m_readsCode_1 46 rfl) 8 rfl hm (fM_rf _) (by omega) (by omega) (fun h517 (hm517 : MR h517 ma (sA σ 8 ((σ.2 8).set (120 + (R.length)) (k331 : Int)))) fm517 => ?_)
                    refine ev_al (k_m_readsCode_1 47 rfl) rfl ?_
                    refine ev_get (v := vA (ma 7)) (k_m_readsCode_1 48 rfl) hm517.1 rfl ?_
                    refine ev_il (k_m_readsCode_1 49 rfl) rfl ?_
                    refine ev_al (k_m_readsCode_1 50 rfl) rfl ?_
                    refine ev_ilw (k_m_readsCode_1 51 rfl) rfl ?_
                    refine ev_ilw (k_m_readsCode_1 52 rfl) rfl ?_
                    refine ev_cV (k_m_readsCode_1 53 rfl) rfl v_m_codeAt hm517.1 rfl (c_m_codeAt G ma _ _ hm517 ((p) + (k331)) k510 (by (try simp only [sS]); omega) (by (try simp only [sS]); omega) (fun j hj => rn_digs (T := gd (σ.2 1)) (n := n - ((p) + (k331))) (by rw [hk510]; exact hj))) rfl (le_b rfl) (le_b rfl) (le_b rfl) k_n (k_L fun z518 h518 q518 => ?_)
                    obtain ⟨rfl, (rfl : z518 = pw 10 48 1 (gd (σ.2 1)) ((p) + (k331)) k510)⟩ := q518
                    have hcb : 0 < pw 10 48 1 (gd (σ.2 1)) ((p) + (k331)) k510 := pw_pos hk510
                    generalize hcc : pw 10 48 1 (gd (σ.2 1)) ((p) + (k331)) k510 = cc at hcb ⊢
                    refine ev_mlas (iN := 120 + (R.length)) (k_m_readsCode_1 54 rfl) 7 rfl hm517 fm517 (by omega) (by omega) (fun h519 (hm519 : MR h519 ma (sA (sA σ 8 ((σ.2 8).set (120 + (R.length)) (k331 : Int))) 7 ((σ.2 7).set (120 + (R.length)) cc))) fm519 => ?_)
                    refine ev_al (k_m_readsCode_1 55 rfl) rfl ?_
                    refine ev_bp (k_m_readsCode_1 56 rfl) ?_
                    refine ev_il (k_m_readsCode_1 57 rfl) rfl ?_
                    refine ev_cV (k_m_readsCode_1 58 rfl) rfl v_m_above hm519.1 rfl (c_m_above G ma _ _ hm519 120 (120 + (R.length)) (by (try simp only [sS]); omega) (by (try simp only [sS]); omega) (by show 0 ≤ gd ((σ.2 8).set (120 + R.length) _) (120 + R.length); rw [gd_set_eq _ (by (try simp only [sS]); omega)]; omega)) rfl (le_b rfl) (le_b rfl) (le_b rfl) k_n (k_I fun z520 h520 q520 => ?_)
                    obtain ⟨rfl, (rfl : z520 = abv (((σ.2 8).set (120 + (R.length)) (k331 : Int))) 120 (120 + (R.length)))⟩ := q520
                    rw [show abv _ _ _ = ou (upx R k331) from abv_O hs l8 (by omega) k331]
                    cases hU : upx R k331 with
                    | none =>
                        show ev _ _ _ _ _ _ _ _ (vI (-1) :: _) _ _ _
                        refine ev_isw (k_m_readsCode_1 59 rfl) (le_b rfl) (show ev _ _ _ _ _ _ 202 [some (vA (ma 0)), some (vI (p : Int)), some (vI (R.length : Int)), some (vI (120 + (R.length : Int))), some (vI (k331 : Int)), some (vI ((p : Int) + (k331 : Int))), some (vI (k510 : Int)), some (vI (-1))] _ _ _ _ from ?_)
                        refine ev_ilw (k_m_readsCode_2 0 rfl) rfl ?_
                        refine ev_if_ne (k_m_readsCode_2 1 rfl) (fun c521 => ?_) (fun c521 => ?_)
                        · refine ev_ilw (k_m_readsCode_2 5 rfl) rfl ?_
                          refine ev_if_le (k_m_readsCode_2 6 rfl) (fun c522 => ?_) (fun c522 => ?_)
                          · refine ev_il (k_m_readsCode_2 26 rfl) rfl ?_
                            refine ev_if_eq (k_m_readsCode_2 27 rfl) (fun c523 => ?_) (fun c523 => ?_)
                            · refine ev_ic (k_m_readsCode_2 45 rfl) ?_
                              refine ev_goto (k_m_readsCode_2 46 rfl) ?_
                              exact ev_zret (x := true) (k_m_readsCode_2 48 rfl) rfl (⟨true, rfl, _, hm519, fm519, Or.inr ⟨k331, k510, cc, by unfold pcod; rw [hk331]; unfold pcA; rw [if_neg (by rintro ⟨x, y⟩; first | omega | exact y ⟨by omega, by assumption⟩), if_neg (by split <;> omega), if_neg (by omega), if_neg (by omega), hk510]; unfold pcB; rw [if_neg (by omega), if_neg (by omega), if_neg (by omega), hcc]; unfold pcC; rw [if_neg (by rintro (⟨x, y⟩ | ⟨x, y⟩); omega; first | omega | (rw [upc_u hU] at y; exact absurd (Eq.trans y.symm (by assumption : _ = true)) (by decide)) | (rw [upc_s hU] at y; exact absurd (Eq.trans y.symm (by assumption : _ = true)) (by decide))), if_neg (by rintro ⟨x, y⟩; first | omega | exact absurd (Eq.trans y.symm (by assumption : _ = true)) (by decide))], rfl, rfl, hcb, by omega, by omega, hcc⟩⟩)
                            · refine ev_al (k_m_readsCode_2 28 rfl) rfl ?_
                              refine ev_get (v := vA (ma 7)) (k_m_readsCode_2 29 rfl) hm519.1 rfl ?_
                              refine ev_il (k_m_readsCode_2 30 rfl) rfl ?_
                              refine ev_lald (xs := ((σ.2 7).set (120 + (R.length)) cc)) (k_m_readsCode_2 31 rfl) (mr_a hm519 7 rfl) (by omega) (by simp only [List.length_set]; omega) (show ev _ _ _ _ _ _ _ _ (vL (gd ((σ.2 7).set (120 + (R.length)) cc) (120 + (R.length))) :: _) _ _ _ from ?_)
                              rw [gd_set_eq _ (by omega)]
                              refine ev_al (k_m_readsCode_2 32 rfl) rfl ?_
                              refine ev_get (v := vA (ma 7)) (k_m_readsCode_2 33 rfl) hm519.1 rfl ?_
                              refine ev_il (k_m_readsCode_2 34 rfl) rfl ?_
                              refine ev_ic (k_m_readsCode_2 35 rfl) ?_
                              refine ev_isub (k_m_readsCode_2 36 rfl) (by omega) ?_
                              refine ev_lald (xs := ((σ.2 7).set (120 + (R.length)) cc)) (k_m_readsCode_2 37 rfl) (mr_a hm519 7 rfl) (by omega) (by simp only [List.length_set]; omega) (show ev _ _ _ _ _ _ _ _ (vL (gd ((σ.2 7).set (120 + (R.length)) cc) ((120 + (R.length : Int)) - 1).toNat) :: _) _ _ _ from ?_)
                              rw [show ((120 + (R.length : Int)) - 1).toNat = 120 + (R.length - 1) by omega, gd_set_ne _ (by omega), (hs.2.2 (R.length - 1) (by omega)).1]
                              refine ev_cS (k_m_readsCode_2 38 rfl) rfl v_m_isBehind (c_m_isBehind G _ cc (rc R (R.length - 1)) (by (try simp only [sS]); omega) (by (try simp only [sS]); omega)) rfl (le_b rfl) (le_b rfl) (le_b rfl) k_n (k_B fun z524 h524 q524 => ?_)
                              obtain ⟨rfl, (rfl : z524 = (bhd cc (rc R (R.length - 1))))⟩ := q524
                              refine ev_b_ne (k_m_readsCode_2 39 rfl) (fun c525 => ?_) (fun c525 => ?_)
                              · refine ev_ic (k_m_readsCode_2 45 rfl) ?_
                                refine ev_goto (k_m_readsCode_2 46 rfl) ?_
                                exact ev_zret (x := true) (k_m_readsCode_2 48 rfl) rfl (⟨true, rfl, _, hm519, fm519, Or.inr ⟨k331, k510, cc, by unfold pcod; rw [hk331]; unfold pcA; rw [if_neg (by rintro ⟨x, y⟩; first | omega | exact y ⟨by omega, by assumption⟩), if_neg (by split <;> omega), if_neg (by omega), if_neg (by omega), hk510]; unfold pcB; rw [if_neg (by omega), if_neg (by omega), if_neg (by omega), hcc]; unfold pcC; rw [if_neg (by rintro (⟨x, y⟩ | ⟨x, y⟩); omega; first | omega | (rw [upc_u hU] at y; exact absurd (Eq.trans y.symm (by assumption : _ = true)) (by decide)) | (rw [upc_s hU] at y; exact absurd (Eq.trans y.symm (by assumption : _ = true)) (by decide))), if_neg (by rintro ⟨x, y⟩; first | omega | exact absurd (Eq.trans y.symm (by assumption : _ = true)) (by decide))], rfl, rfl, hcb, by omega, by omega, hcc⟩⟩)
                              · refine ev_al (k_m_readsCode_2 40 rfl) rfl ?_
                                refine ev_ic (k_m_readsCode_2 41 rfl) ?_
                                refine ev_ilw (k_m_readsCode_2 42 rfl) rfl ?_
                                refine ev_cV (k_m_readsCode_2 43 rfl) rfl v_m_fails hm519.1 rfl (c_m_fails G ma _ _ hm519 4 ((p : Int) + (k331 : Int))) rfl (le_b rfl) (le_b rfl) (le_b rfl) k_n (k_B fun z526 h526 q526 => ?_)
                                obtain ⟨rfl, hm526, fmx526⟩ := q526
                                have fm526 := fM_tr fm519 fmx526
                                refine ev_if_eq (k_m_readsCode_2 44 rfl) (fun _ => ?_) (fun c => absurd c (by decide))
                                refine ev_ic (k_m_readsCode_2 47 rfl) ?_
                                exact ev_zret (x := false) (k_m_readsCode_2 48 rfl) rfl (⟨false, rfl, _, hm526, fm526, Or.inl ⟨4, (p) + (k331), by first | (exfalso; omega) | (unfold pcod; rw [hk331]; unfold pcA; rw [if_neg (by rintro ⟨x, y⟩; first | omega | exact y ⟨by omega, by assumption⟩), if_neg (by split <;> omega), if_neg (by omega), if_neg (by omega), hk510]; unfold pcB; rw [if_neg (by omega), if_neg (by omega), if_neg (by omega), hcc]; unfold pcC; rw [if_neg (by rintro (⟨x, y⟩ | ⟨x, y⟩); omega; first | omega | (rw [upc_u hU] at y; exact absurd (Eq.trans y.symm (by assumption : _ = true)) (by decide)) | (rw [upc_s hU] at y; exact absurd (Eq.trans y.symm (by assumption : _ = true)) (by decide))), if_pos ⟨by omega, by assumption⟩]), rfl, by first | exact frd_tr (frd_S (Or.inl rfl)) (frd_S (Or.inr (Or.inl rfl))) | exact frd_tr (frd_tr (frd_A8 (by omega)) (frd_A7 (by omega))) (frd_tr (frd_S (Or.inl rfl)) (frd_S (Or.inr (Or.inl rfl)))), rfl, by simp [sS], by omega⟩⟩)
                          · refine ev_al (k_m_readsCode_2 7 rfl) rfl ?_
                            refine ev_get (v := vA (ma 7)) (k_m_readsCode_2 8 rfl) hm519.1 rfl ?_
                            refine ev_il (k_m_readsCode_2 9 rfl) rfl ?_
                            refine ev_lald (xs := ((σ.2 7).set (120 + (R.length)) cc)) (k_m_readsCode_2 10 rfl) (mr_a hm519 7 rfl) (by omega) (by simp only [List.length_set]; omega) (show ev _ _ _ _ _ _ _ _ (vL (gd ((σ.2 7).set (120 + (R.length)) cc) (120 + (R.length))) :: _) _ _ _ from ?_)
                            rw [gd_set_eq _ (by omega)]
                            refine ev_al (k_m_readsCode_2 11 rfl) rfl ?_
                            refine ev_get (v := vA (ma 7)) (k_m_readsCode_2 12 rfl) hm519.1 rfl ?_
                            refine ev_ilw (k_m_readsCode_2 13 rfl) rfl ?_
                            refine ev_if_ge (k_m_readsCode_2 14 rfl) (fun c => absurd c (by decide)) (fun _ => ?_)
                            refine ev_il (k_m_readsCode_2 15 rfl) rfl ?_
                            refine ev_goto (k_m_readsCode_2 16 rfl) ?_
                            refine ev_lald (xs := ((σ.2 7).set (120 + (R.length)) cc)) (k_m_readsCode_2 18 rfl) (mr_a hm519 7 rfl) (by omega) (by simp only [List.length_set]; omega) (show ev _ _ _ _ _ _ _ _ (vL (gd ((σ.2 7).set (120 + (R.length)) cc) (120 + (R.length))) :: _) _ _ _ from ?_)
                            rw [gd_set_eq _ (by omega)]
                            refine ev_cS (k_m_readsCode_2 19 rfl) rfl v_m_begins (c_m_begins G _ cc cc (by (try simp only [sS]); omega)) rfl (le_b rfl) (le_b rfl) (le_b rfl) k_n (k_B fun z529 h529 q529 => ?_)
                            obtain ⟨rfl, (rfl : z529 = (bgn cc cc))⟩ := q529
                            refine ev_b_ne (k_m_readsCode_2 20 rfl) (fun c530 => ?_) (fun c530 => ?_)
                            · refine ev_il (k_m_readsCode_2 26 rfl) rfl ?_
                              refine ev_if_eq (k_m_readsCode_2 27 rfl) (fun c531 => ?_) (fun c531 => ?_)
                              · refine ev_ic (k_m_readsCode_2 45 rfl) ?_
                                refine ev_goto (k_m_readsCode_2 46 rfl) ?_
                                exact ev_zret (x := true) (k_m_readsCode_2 48 rfl) rfl (⟨true, rfl, _, hm519, fm519, Or.inr ⟨k331, k510, cc, by unfold pcod; rw [hk331]; unfold pcA; rw [if_neg (by rintro ⟨x, y⟩; first | omega | exact y ⟨by omega, by assumption⟩), if_neg (by split <;> omega), if_neg (by omega), if_neg (by omega), hk510]; unfold pcB; rw [if_neg (by omega), if_neg (by omega), if_neg (by omega), hcc]; unfold pcC; rw [if_neg (by rintro (⟨x, y⟩ | ⟨x, y⟩); omega; first | omega | (rw [upc_u hU] at y; exact absurd (Eq.trans y.symm (by assumption : _ = true)) (by decide)) | (rw [upc_s hU] at y; exact absurd (Eq.trans y.symm (by assumption : _ = true)) (by decide))), if_neg (by rintro ⟨x, y⟩; first | omega | exact absurd (Eq.trans y.symm (by assumption : _ = true)) (by decide))], rfl, rfl, hcb, by omega, by omega, hcc⟩⟩)
                              · refine ev_al (k_m_readsCode_2 28 rfl) rfl ?_
                                refine ev_get (v := vA (ma 7)) (k_m_readsCode_2 29 rfl) hm519.1 rfl ?_
                                refine ev_il (k_m_readsCode_2 30 rfl) rfl ?_
                                refine ev_lald (xs := ((σ.2 7).set (120 + (R.length)) cc)) (k_m_readsCode_2 31 rfl) (mr_a hm519 7 rfl) (by omega) (by simp only [List.length_set]; omega) (show ev _ _ _ _ _ _ _ _ (vL (gd ((σ.2 7).set (120 + (R.length)) cc) (120 + (R.length))) :: _) _ _ _ from ?_)
                                rw [gd_set_eq _ (by omega)]
                                refine ev_al (k_m_readsCode_2 32 rfl) rfl ?_
                                refine ev_get (v := vA (ma 7)) (k_m_readsCode_2 33 rfl) hm519.1 rfl ?_
                                refine ev_il (k_m_readsCode_2 34 rfl) rfl ?_
                                refine ev_ic (k_m_readsCode_2 35 rfl) ?_
                                refine ev_isub (k_m_readsCode_2 36 rfl) (by omega) ?_
                                refine ev_lald (xs := ((σ.2 7).set (120 + (R.length)) cc)) (k_m_readsCode_2 37 rfl) (mr_a hm519 7 rfl) (by omega) (by simp only [List.length_set]; omega) (show ev _ _ _ _ _ _ _ _ (vL (gd ((σ.2 7).set (120 + (R.length)) cc) ((120 + (R.length : Int)) - 1).toNat) :: _) _ _ _ from ?_)
                                rw [show ((120 + (R.length : Int)) - 1).toNat = 120 + (R.length - 1) by omega, gd_set_ne _ (by omega), (hs.2.2 (R.length - 1) (by omega)).1]
                                refine ev_cS (k_m_readsCode_2 38 rfl) rfl v_m_isBehind (c_m_isBehind G _ cc (rc R (R.length - 1)) (by (try simp only [sS]); omega) (by (try simp only [sS]); omega)) rfl (le_b rfl) (le_b rfl) (le_b rfl) k_n (k_B fun z532 h532 q532 => ?_)
                                obtain ⟨rfl, (rfl : z532 = (bhd cc (rc R (R.length - 1))))⟩ := q532
                                refine ev_b_ne (k_m_readsCode_2 39 rfl) (fun c533 => ?_) (fun c533 => ?_)
                                · refine ev_ic (k_m_readsCode_2 45 rfl) ?_
                                  refine ev_goto (k_m_readsCode_2 46 rfl) ?_
                                  exact ev_zret (x := true) (k_m_readsCode_2 48 rfl) rfl (⟨true, rfl, _, hm519, fm519, Or.inr ⟨k331, k510, cc, by unfold pcod; rw [hk331]; unfold pcA; rw [if_neg (by rintro ⟨x, y⟩; first | omega | exact y ⟨by omega, by assumption⟩), if_neg (by split <;> omega), if_neg (by omega), if_neg (by omega), hk510]; unfold pcB; rw [if_neg (by omega), if_neg (by omega), if_neg (by omega), hcc]; unfold pcC; rw [if_neg (by rintro (⟨x, y⟩ | ⟨x, y⟩); omega; first | omega | (rw [upc_u hU] at y; exact absurd (Eq.trans y.symm (by assumption : _ = true)) (by decide)) | (rw [upc_s hU] at y; exact absurd (Eq.trans y.symm (by assumption : _ = true)) (by decide))), if_neg (by rintro ⟨x, y⟩; first | omega | exact absurd (Eq.trans y.symm (by assumption : _ = true)) (by decide))], rfl, rfl, hcb, by omega, by omega, hcc⟩⟩)
                                · refine ev_al (k_m_readsCode_2 40 rfl) rfl ?_
                                  refine ev_ic (k_m_readsCode_2 41 rfl) ?_
                                  refine ev_ilw (k_m_readsCode_2 42 rfl) rfl ?_
                                  refine ev_cV (k_m_readsCode_2 43 rfl) rfl v_m_fails hm519.1 rfl (c_m_fails G ma _ _ hm519 4 ((p : Int) + (k331 : Int))) rfl (le_b rfl) (le_b rfl) (le_b rfl) k_n (k_B fun z534 h534 q534 => ?_)
                                  obtain ⟨rfl, hm534, fmx534⟩ := q534
                                  have fm534 := fM_tr fm519 fmx534
                                  refine ev_if_eq (k_m_readsCode_2 44 rfl) (fun _ => ?_) (fun c => absurd c (by decide))
                                  refine ev_ic (k_m_readsCode_2 47 rfl) ?_
                                  exact ev_zret (x := false) (k_m_readsCode_2 48 rfl) rfl (⟨false, rfl, _, hm534, fm534, Or.inl ⟨4, (p) + (k331), by first | (exfalso; omega) | (unfold pcod; rw [hk331]; unfold pcA; rw [if_neg (by rintro ⟨x, y⟩; first | omega | exact y ⟨by omega, by assumption⟩), if_neg (by split <;> omega), if_neg (by omega), if_neg (by omega), hk510]; unfold pcB; rw [if_neg (by omega), if_neg (by omega), if_neg (by omega), hcc]; unfold pcC; rw [if_neg (by rintro (⟨x, y⟩ | ⟨x, y⟩); omega; first | omega | (rw [upc_u hU] at y; exact absurd (Eq.trans y.symm (by assumption : _ = true)) (by decide)) | (rw [upc_s hU] at y; exact absurd (Eq.trans y.symm (by assumption : _ = true)) (by decide))), if_pos ⟨by omega, by assumption⟩]), rfl, by first | exact frd_tr (frd_S (Or.inl rfl)) (frd_S (Or.inr (Or.inl rfl))) | exact frd_tr (frd_tr (frd_A8 (by omega)) (frd_A7 (by omega))) (frd_tr (frd_S (Or.inl rfl)) (frd_S (Or.inr (Or.inl rfl)))), rfl, by simp [sS], by omega⟩⟩)
                            · refine ev_al (k_m_readsCode_2 21 rfl) rfl ?_
                              refine ev_ic (k_m_readsCode_2 22 rfl) ?_
                              refine ev_ilw (k_m_readsCode_2 23 rfl) rfl ?_
                              refine ev_cV (k_m_readsCode_2 24 rfl) rfl v_m_fails hm519.1 rfl (c_m_fails G ma _ _ hm519 3 ((p : Int) + (k331 : Int))) rfl (le_b rfl) (le_b rfl) (le_b rfl) k_n (k_B fun z536 h536 q536 => ?_)
                              obtain ⟨rfl, hm536, fmx536⟩ := q536
                              have fm536 := fM_tr fm519 fmx536
                              exact ev_zret (x := false) (k_m_readsCode_2 25 rfl) rfl (⟨false, rfl, _, hm536, fm536, Or.inl ⟨3, (p) + (k331), by first | (exfalso; omega) | (unfold pcod; rw [hk331]; unfold pcA; rw [if_neg (by rintro ⟨x, y⟩; first | omega | exact y ⟨by omega, by assumption⟩), if_neg (by split <;> omega), if_neg (by omega), if_neg (by omega), hk510]; unfold pcB; rw [if_neg (by omega), if_neg (by omega), if_neg (by omega), hcc]; unfold pcC; rw [if_pos (by first | exact Or.inl ⟨by omega, by omega⟩ | exact Or.inr ⟨by omega, by rw [upc_u hU]; assumption⟩ | exact Or.inr ⟨by omega, by rw [upc_s hU]; assumption⟩)]), rfl, by first | exact frd_tr (frd_S (Or.inl rfl)) (frd_S (Or.inr (Or.inl rfl))) | exact frd_tr (frd_tr (frd_A8 (by omega)) (frd_A7 (by omega))) (frd_tr (frd_S (Or.inl rfl)) (frd_S (Or.inr (Or.inl rfl)))), rfl, by simp [sS], by omega⟩⟩)
                        · refine ev_ilw (k_m_readsCode_2 2 rfl) rfl ?_
                          refine ev_ic (k_m_readsCode_2 3 rfl) ?_
                          refine ev_ic_ne (k_m_readsCode_2 4 rfl) (fun c537 => ?_) (fun c537 => ?_)
                          · refine ev_al (k_m_readsCode_2 21 rfl) rfl ?_
                            refine ev_ic (k_m_readsCode_2 22 rfl) ?_
                            refine ev_ilw (k_m_readsCode_2 23 rfl) rfl ?_
                            refine ev_cV (k_m_readsCode_2 24 rfl) rfl v_m_fails hm519.1 rfl (c_m_fails G ma _ _ hm519 3 ((p : Int) + (k331 : Int))) rfl (le_b rfl) (le_b rfl) (le_b rfl) k_n (k_B fun z538 h538 q538 => ?_)
                            obtain ⟨rfl, hm538, fmx538⟩ := q538
                            have fm538 := fM_tr fm519 fmx538
                            exact ev_zret (x := false) (k_m_readsCode_2 25 rfl) rfl (⟨false, rfl, _, hm538, fm538, Or.inl ⟨3, (p) + (k331), by first | (exfalso; omega) | (unfold pcod; rw [hk331]; unfold pcA; rw [if_neg (by rintro ⟨x, y⟩; first | omega | exact y ⟨by omega, by assumption⟩), if_neg (by split <;> omega), if_neg (by omega), if_neg (by omega), hk510]; unfold pcB; rw [if_neg (by omega), if_neg (by omega), if_neg (by omega), hcc]; unfold pcC; rw [if_pos (by first | exact Or.inl ⟨by omega, by omega⟩ | exact Or.inr ⟨by omega, by rw [upc_u hU]; assumption⟩ | exact Or.inr ⟨by omega, by rw [upc_s hU]; assumption⟩)]), rfl, by first | exact frd_tr (frd_S (Or.inl rfl)) (frd_S (Or.inr (Or.inl rfl))) | exact frd_tr (frd_tr (frd_A8 (by omega)) (frd_A7 (by omega))) (frd_tr (frd_S (Or.inl rfl)) (frd_S (Or.inr (Or.inl rfl)))), rfl, by simp [sS], by omega⟩⟩)
                          · refine ev_ilw (k_m_readsCode_2 5 rfl) rfl ?_
                            refine ev_if_le (k_m_readsCode_2 6 rfl) (fun c539 => ?_) (fun c539 => ?_)
                            · refine ev_il (k_m_readsCode_2 26 rfl) rfl ?_
                              refine ev_if_eq (k_m_readsCode_2 27 rfl) (fun c540 => ?_) (fun c540 => ?_)
                              · refine ev_ic (k_m_readsCode_2 45 rfl) ?_
                                refine ev_goto (k_m_readsCode_2 46 rfl) ?_
                                exact ev_zret (x := true) (k_m_readsCode_2 48 rfl) rfl (⟨true, rfl, _, hm519, fm519, Or.inr ⟨k331, k510, cc, by unfold pcod; rw [hk331]; unfold pcA; rw [if_neg (by rintro ⟨x, y⟩; first | omega | exact y ⟨by omega, by assumption⟩), if_neg (by split <;> omega), if_neg (by omega), if_neg (by omega), hk510]; unfold pcB; rw [if_neg (by omega), if_neg (by omega), if_neg (by omega), hcc]; unfold pcC; rw [if_neg (by rintro (⟨x, y⟩ | ⟨x, y⟩); omega; first | omega | (rw [upc_u hU] at y; exact absurd (Eq.trans y.symm (by assumption : _ = true)) (by decide)) | (rw [upc_s hU] at y; exact absurd (Eq.trans y.symm (by assumption : _ = true)) (by decide))), if_neg (by rintro ⟨x, y⟩; first | omega | exact absurd (Eq.trans y.symm (by assumption : _ = true)) (by decide))], rfl, rfl, hcb, by omega, by omega, hcc⟩⟩)
                              · refine ev_al (k_m_readsCode_2 28 rfl) rfl ?_
                                refine ev_get (v := vA (ma 7)) (k_m_readsCode_2 29 rfl) hm519.1 rfl ?_
                                refine ev_il (k_m_readsCode_2 30 rfl) rfl ?_
                                refine ev_lald (xs := ((σ.2 7).set (120 + (R.length)) cc)) (k_m_readsCode_2 31 rfl) (mr_a hm519 7 rfl) (by omega) (by simp only [List.length_set]; omega) (show ev _ _ _ _ _ _ _ _ (vL (gd ((σ.2 7).set (120 + (R.length)) cc) (120 + (R.length))) :: _) _ _ _ from ?_)
                                rw [gd_set_eq _ (by omega)]
                                refine ev_al (k_m_readsCode_2 32 rfl) rfl ?_
                                refine ev_get (v := vA (ma 7)) (k_m_readsCode_2 33 rfl) hm519.1 rfl ?_
                                refine ev_il (k_m_readsCode_2 34 rfl) rfl ?_
                                refine ev_ic (k_m_readsCode_2 35 rfl) ?_
                                refine ev_isub (k_m_readsCode_2 36 rfl) (by omega) ?_
                                refine ev_lald (xs := ((σ.2 7).set (120 + (R.length)) cc)) (k_m_readsCode_2 37 rfl) (mr_a hm519 7 rfl) (by omega) (by simp only [List.length_set]; omega) (show ev _ _ _ _ _ _ _ _ (vL (gd ((σ.2 7).set (120 + (R.length)) cc) ((120 + (R.length : Int)) - 1).toNat) :: _) _ _ _ from ?_)
                                rw [show ((120 + (R.length : Int)) - 1).toNat = 120 + (R.length - 1) by omega, gd_set_ne _ (by omega), (hs.2.2 (R.length - 1) (by omega)).1]
                                refine ev_cS (k_m_readsCode_2 38 rfl) rfl v_m_isBehind (c_m_isBehind G _ cc (rc R (R.length - 1)) (by (try simp only [sS]); omega) (by (try simp only [sS]); omega)) rfl (le_b rfl) (le_b rfl) (le_b rfl) k_n (k_B fun z541 h541 q541 => ?_)
                                obtain ⟨rfl, (rfl : z541 = (bhd cc (rc R (R.length - 1))))⟩ := q541
                                refine ev_b_ne (k_m_readsCode_2 39 rfl) (fun c542 => ?_) (fun c542 => ?_)
                                · refine ev_ic (k_m_readsCode_2 45 rfl) ?_
                                  refine ev_goto (k_m_readsCode_2 46 rfl) ?_
                                  exact ev_zret (x := true) (k_m_readsCode_2 48 rfl) rfl (⟨true, rfl, _, hm519, fm519, Or.inr ⟨k331, k510, cc, by unfold pcod; rw [hk331]; unfold pcA; rw [if_neg (by rintro ⟨x, y⟩; first | omega | exact y ⟨by omega, by assumption⟩), if_neg (by split <;> omega), if_neg (by omega), if_neg (by omega), hk510]; unfold pcB; rw [if_neg (by omega), if_neg (by omega), if_neg (by omega), hcc]; unfold pcC; rw [if_neg (by rintro (⟨x, y⟩ | ⟨x, y⟩); omega; first | omega | (rw [upc_u hU] at y; exact absurd (Eq.trans y.symm (by assumption : _ = true)) (by decide)) | (rw [upc_s hU] at y; exact absurd (Eq.trans y.symm (by assumption : _ = true)) (by decide))), if_neg (by rintro ⟨x, y⟩; first | omega | exact absurd (Eq.trans y.symm (by assumption : _ = true)) (by decide))], rfl, rfl, hcb, by omega, by omega, hcc⟩⟩)
                                · refine ev_al (k_m_readsCode_2 40 rfl) rfl ?_
                                  refine ev_ic (k_m_readsCode_2 41 rfl) ?_
                                  refine ev_ilw (k_m_readsCode_2 42 rfl) rfl ?_
                                  refine ev_cV (k_m_readsCode_2 43 rfl) rfl v_m_fails hm519.1 rfl (c_m_fails G ma _ _ hm519 4 ((p : Int) + (k331 : Int))) rfl (le_b rfl) (le_b rfl) (le_b rfl) k_n (k_B fun z543 h543 q543 => ?_)
                                  obtain ⟨rfl, hm543, fmx543⟩ := q543
                                  have fm543 := fM_tr fm519 fmx543
                                  refine ev_if_eq (k_m_readsCode_2 44 rfl) (fun _ => ?_) (fun c => absurd c (by decide))
                                  refine ev_ic (k_m_readsCode_2 47 rfl) ?_
                                  exact ev_zret (x := false) (k_m_readsCode_2 48 rfl) rfl (⟨false, rfl, _, hm543, fm543, Or.inl ⟨4, (p) + (k331), by first | (exfalso; omega) | (unfold pcod; rw [hk331]; unfold pcA; rw [if_neg (by rintro ⟨x, y⟩; first | omega | exact y ⟨by omega, by assumption⟩), if_neg (by split <;> omega), if_neg (by omega), if_neg (by omega), hk510]; unfold pcB; rw [if_neg (by omega), if_neg (by omega), if_neg (by omega), hcc]; unfold pcC; rw [if_neg (by rintro (⟨x, y⟩ | ⟨x, y⟩); omega; first | omega | (rw [upc_u hU] at y; exact absurd (Eq.trans y.symm (by assumption : _ = true)) (by decide)) | (rw [upc_s hU] at y; exact absurd (Eq.trans y.symm (by assumption : _ = true)) (by decide))), if_pos ⟨by omega, by assumption⟩]), rfl, by first | exact frd_tr (frd_S (Or.inl rfl)) (frd_S (Or.inr (Or.inl rfl))) | exact frd_tr (frd_tr (frd_A8 (by omega)) (frd_A7 (by omega))) (frd_tr (frd_S (Or.inl rfl)) (frd_S (Or.inr (Or.inl rfl)))), rfl, by simp [sS], by omega⟩⟩)
                            · refine ev_al (k_m_readsCode_2 7 rfl) rfl ?_
                              refine ev_get (v := vA (ma 7)) (k_m_readsCode_2 8 rfl) hm519.1 rfl ?_
                              refine ev_il (k_m_readsCode_2 9 rfl) rfl ?_
                              refine ev_lald (xs := ((σ.2 7).set (120 + (R.length)) cc)) (k_m_readsCode_2 10 rfl) (mr_a hm519 7 rfl) (by omega) (by simp only [List.length_set]; omega) (show ev _ _ _ _ _ _ _ _ (vL (gd ((σ.2 7).set (120 + (R.length)) cc) (120 + (R.length))) :: _) _ _ _ from ?_)
                              rw [gd_set_eq _ (by omega)]
                              refine ev_al (k_m_readsCode_2 11 rfl) rfl ?_
                              refine ev_get (v := vA (ma 7)) (k_m_readsCode_2 12 rfl) hm519.1 rfl ?_
                              refine ev_ilw (k_m_readsCode_2 13 rfl) rfl ?_
                              refine ev_if_ge (k_m_readsCode_2 14 rfl) (fun c => absurd c (by decide)) (fun _ => ?_)
                              refine ev_il (k_m_readsCode_2 15 rfl) rfl ?_
                              refine ev_goto (k_m_readsCode_2 16 rfl) ?_
                              refine ev_lald (xs := ((σ.2 7).set (120 + (R.length)) cc)) (k_m_readsCode_2 18 rfl) (mr_a hm519 7 rfl) (by omega) (by simp only [List.length_set]; omega) (show ev _ _ _ _ _ _ _ _ (vL (gd ((σ.2 7).set (120 + (R.length)) cc) (120 + (R.length))) :: _) _ _ _ from ?_)
                              rw [gd_set_eq _ (by omega)]
                              refine ev_cS (k_m_readsCode_2 19 rfl) rfl v_m_begins (c_m_begins G _ cc cc (by (try simp only [sS]); omega)) rfl (le_b rfl) (le_b rfl) (le_b rfl) k_n (k_B fun z546 h546 q546 => ?_)
                              obtain ⟨rfl, (rfl : z546 = (bgn cc cc))⟩ := q546
                              refine ev_b_ne (k_m_readsCode_2 20 rfl) (fun c547 => ?_) (fun c547 => ?_)
                              · refine ev_il (k_m_readsCode_2 26 rfl) rfl ?_
                                refine ev_if_eq (k_m_readsCode_2 27 rfl) (fun c548 => ?_) (fun c548 => ?_)
                                · refine ev_ic (k_m_readsCode_2 45 rfl) ?_
                                  refine ev_goto (k_m_readsCode_2 46 rfl) ?_
                                  exact ev_zret (x := true) (k_m_readsCode_2 48 rfl) rfl (⟨true, rfl, _, hm519, fm519, Or.inr ⟨k331, k510, cc, by unfold pcod; rw [hk331]; unfold pcA; rw [if_neg (by rintro ⟨x, y⟩; first | omega | exact y ⟨by omega, by assumption⟩), if_neg (by split <;> omega), if_neg (by omega), if_neg (by omega), hk510]; unfold pcB; rw [if_neg (by omega), if_neg (by omega), if_neg (by omega), hcc]; unfold pcC; rw [if_neg (by rintro (⟨x, y⟩ | ⟨x, y⟩); omega; first | omega | (rw [upc_u hU] at y; exact absurd (Eq.trans y.symm (by assumption : _ = true)) (by decide)) | (rw [upc_s hU] at y; exact absurd (Eq.trans y.symm (by assumption : _ = true)) (by decide))), if_neg (by rintro ⟨x, y⟩; first | omega | exact absurd (Eq.trans y.symm (by assumption : _ = true)) (by decide))], rfl, rfl, hcb, by omega, by omega, hcc⟩⟩)
                                · refine ev_al (k_m_readsCode_2 28 rfl) rfl ?_
                                  refine ev_get (v := vA (ma 7)) (k_m_readsCode_2 29 rfl) hm519.1 rfl ?_
                                  refine ev_il (k_m_readsCode_2 30 rfl) rfl ?_
                                  refine ev_lald (xs := ((σ.2 7).set (120 + (R.length)) cc)) (k_m_readsCode_2 31 rfl) (mr_a hm519 7 rfl) (by omega) (by simp only [List.length_set]; omega) (show ev _ _ _ _ _ _ _ _ (vL (gd ((σ.2 7).set (120 + (R.length)) cc) (120 + (R.length))) :: _) _ _ _ from ?_)
                                  rw [gd_set_eq _ (by omega)]
                                  refine ev_al (k_m_readsCode_2 32 rfl) rfl ?_
                                  refine ev_get (v := vA (ma 7)) (k_m_readsCode_2 33 rfl) hm519.1 rfl ?_
                                  refine ev_il (k_m_readsCode_2 34 rfl) rfl ?_
                                  refine ev_ic (k_m_readsCode_2 35 rfl) ?_
                                  refine ev_isub (k_m_readsCode_2 36 rfl) (by omega) ?_
                                  refine ev_lald (xs := ((σ.2 7).set (120 + (R.length)) cc)) (k_m_readsCode_2 37 rfl) (mr_a hm519 7 rfl) (by omega) (by simp only [List.length_set]; omega) (show ev _ _ _ _ _ _ _ _ (vL (gd ((σ.2 7).set (120 + (R.length)) cc) ((120 + (R.length : Int)) - 1).toNat) :: _) _ _ _ from ?_)
                                  rw [show ((120 + (R.length : Int)) - 1).toNat = 120 + (R.length - 1) by omega, gd_set_ne _ (by omega), (hs.2.2 (R.length - 1) (by omega)).1]
                                  refine ev_cS (k_m_readsCode_2 38 rfl) rfl v_m_isBehind (c_m_isBehind G _ cc (rc R (R.length - 1)) (by (try simp only [sS]); omega) (by (try simp only [sS]); omega)) rfl (le_b rfl) (le_b rfl) (le_b rfl) k_n (k_B fun z549 h549 q549 => ?_)
                                  obtain ⟨rfl, (rfl : z549 = (bhd cc (rc R (R.length - 1))))⟩ := q549
                                  refine ev_b_ne (k_m_readsCode_2 39 rfl) (fun c550 => ?_) (fun c550 => ?_)
                                  · refine ev_ic (k_m_readsCode_2 45 rfl) ?_
                                    refine ev_goto (k_m_readsCode_2 46 rfl) ?_
                                    exact ev_zret (x := true) (k_m_readsCode_2 48 rfl) rfl (⟨true, rfl, _, hm519, fm519, Or.inr ⟨k331, k510, cc, by unfold pcod; rw [hk331]; unfold pcA; rw [if_neg (by rintro ⟨x, y⟩; first | omega | exact y ⟨by omega, by assumption⟩), if_neg (by split <;> omega), if_neg (by omega), if_neg (by omega), hk510]; unfold pcB; rw [if_neg (by omega), if_neg (by omega), if_neg (by omega), hcc]; unfold pcC; rw [if_neg (by rintro (⟨x, y⟩ | ⟨x, y⟩); omega; first | omega | (rw [upc_u hU] at y; exact absurd (Eq.trans y.symm (by assumption : _ = true)) (by decide)) | (rw [upc_s hU] at y; exact absurd (Eq.trans y.symm (by assumption : _ = true)) (by decide))), if_neg (by rintro ⟨x, y⟩; first | omega | exact absurd (Eq.trans y.symm (by assumption : _ = true)) (by decide))], rfl, rfl, hcb, by omega, by omega, hcc⟩⟩)
                                  · refine ev_al (k_m_readsCode_2 40 rfl) rfl ?_
                                    refine ev_ic (k_m_readsCode_2 41 rfl) ?_
                                    refine ev_ilw (k_m_readsCode_2 42 rfl) rfl ?_
                                    refine ev_cV (k_m_readsCode_2 43 rfl) rfl v_m_fails hm519.1 rfl (c_m_fails G ma _ _ hm519 4 ((p : Int) + (k331 : Int))) rfl (le_b rfl) (le_b rfl) (le_b rfl) k_n (k_B fun z551 h551 q551 => ?_)
                                    obtain ⟨rfl, hm551, fmx551⟩ := q551
                                    have fm551 := fM_tr fm519 fmx551
                                    refine ev_if_eq (k_m_readsCode_2 44 rfl) (fun _ => ?_) (fun c => absurd c (by decide))
                                    refine ev_ic (k_m_readsCode_2 47 rfl) ?_
                                    exact ev_zret (x := false) (k_m_readsCode_2 48 rfl) rfl (⟨false, rfl, _, hm551, fm551, Or.inl ⟨4, (p) + (k331), by first | (exfalso; omega) | (unfold pcod; rw [hk331]; unfold pcA; rw [if_neg (by rintro ⟨x, y⟩; first | omega | exact y ⟨by omega, by assumption⟩), if_neg (by split <;> omega), if_neg (by omega), if_neg (by omega), hk510]; unfold pcB; rw [if_neg (by omega), if_neg (by omega), if_neg (by omega), hcc]; unfold pcC; rw [if_neg (by rintro (⟨x, y⟩ | ⟨x, y⟩); omega; first | omega | (rw [upc_u hU] at y; exact absurd (Eq.trans y.symm (by assumption : _ = true)) (by decide)) | (rw [upc_s hU] at y; exact absurd (Eq.trans y.symm (by assumption : _ = true)) (by decide))), if_pos ⟨by omega, by assumption⟩]), rfl, by first | exact frd_tr (frd_S (Or.inl rfl)) (frd_S (Or.inr (Or.inl rfl))) | exact frd_tr (frd_tr (frd_A8 (by omega)) (frd_A7 (by omega))) (frd_tr (frd_S (Or.inl rfl)) (frd_S (Or.inr (Or.inl rfl)))), rfl, by simp [sS], by omega⟩⟩)
                              · refine ev_al (k_m_readsCode_2 21 rfl) rfl ?_
                                refine ev_ic (k_m_readsCode_2 22 rfl) ?_
                                refine ev_ilw (k_m_readsCode_2 23 rfl) rfl ?_
                                refine ev_cV (k_m_readsCode_2 24 rfl) rfl v_m_fails hm519.1 rfl (c_m_fails G ma _ _ hm519 3 ((p : Int) + (k331 : Int))) rfl (le_b rfl) (le_b rfl) (le_b rfl) k_n (k_B fun z553 h553 q553 => ?_)
                                obtain ⟨rfl, hm553, fmx553⟩ := q553
                                have fm553 := fM_tr fm519 fmx553
                                exact ev_zret (x := false) (k_m_readsCode_2 25 rfl) rfl (⟨false, rfl, _, hm553, fm553, Or.inl ⟨3, (p) + (k331), by first | (exfalso; omega) | (unfold pcod; rw [hk331]; unfold pcA; rw [if_neg (by rintro ⟨x, y⟩; first | omega | exact y ⟨by omega, by assumption⟩), if_neg (by split <;> omega), if_neg (by omega), if_neg (by omega), hk510]; unfold pcB; rw [if_neg (by omega), if_neg (by omega), if_neg (by omega), hcc]; unfold pcC; rw [if_pos (by first | exact Or.inl ⟨by omega, by omega⟩ | exact Or.inr ⟨by omega, by rw [upc_u hU]; assumption⟩ | exact Or.inr ⟨by omega, by rw [upc_s hU]; assumption⟩)]), rfl, by first | exact frd_tr (frd_S (Or.inl rfl)) (frd_S (Or.inr (Or.inl rfl))) | exact frd_tr (frd_tr (frd_A8 (by omega)) (frd_A7 (by omega))) (frd_tr (frd_S (Or.inl rfl)) (frd_S (Or.inr (Or.inl rfl)))), rfl, by simp [sS], by omega⟩⟩)
                    | some j =>
                        show ev _ _ _ _ _ _ _ _ (vI ((120 + j : Nat) : Int) :: _) _ _ _
                        have huj := upx_lt hU
                        refine ev_isw (k_m_readsCode_1 59 rfl) (le_b rfl) (show ev _ _ _ _ _ _ 202 [some (vA (ma 0)), some (vI (p : Int)), some (vI (R.length : Int)), some (vI (120 + (R.length : Int))), some (vI (k331 : Int)), some (vI ((p : Int) + (k331 : Int))), some (vI (k510 : Int)), some (vI ((120 + j : Nat) : Int))] _ _ _ _ from ?_)
                        refine ev_ilw (k_m_readsCode_2 0 rfl) rfl ?_
                        refine ev_if_ne (k_m_readsCode_2 1 rfl) (fun c554 => ?_) (fun c554 => ?_)
                        · refine ev_ilw (k_m_readsCode_2 5 rfl) rfl ?_
                          refine ev_if_le (k_m_readsCode_2 6 rfl) (fun c555 => ?_) (fun c555 => ?_)
                          · refine ev_il (k_m_readsCode_2 26 rfl) rfl ?_
                            refine ev_if_eq (k_m_readsCode_2 27 rfl) (fun c556 => ?_) (fun c556 => ?_)
                            · refine ev_ic (k_m_readsCode_2 45 rfl) ?_
                              refine ev_goto (k_m_readsCode_2 46 rfl) ?_
                              exact ev_zret (x := true) (k_m_readsCode_2 48 rfl) rfl (⟨true, rfl, _, hm519, fm519, Or.inr ⟨k331, k510, cc, by unfold pcod; rw [hk331]; unfold pcA; rw [if_neg (by rintro ⟨x, y⟩; first | omega | exact y ⟨by omega, by assumption⟩), if_neg (by split <;> omega), if_neg (by omega), if_neg (by omega), hk510]; unfold pcB; rw [if_neg (by omega), if_neg (by omega), if_neg (by omega), hcc]; unfold pcC; rw [if_neg (by rintro (⟨x, y⟩ | ⟨x, y⟩); omega; first | omega | (rw [upc_u hU] at y; exact absurd (Eq.trans y.symm (by assumption : _ = true)) (by decide)) | (rw [upc_s hU] at y; exact absurd (Eq.trans y.symm (by assumption : _ = true)) (by decide))), if_neg (by rintro ⟨x, y⟩; first | omega | exact absurd (Eq.trans y.symm (by assumption : _ = true)) (by decide))], rfl, rfl, hcb, by omega, by omega, hcc⟩⟩)
                            · refine ev_al (k_m_readsCode_2 28 rfl) rfl ?_
                              refine ev_get (v := vA (ma 7)) (k_m_readsCode_2 29 rfl) hm519.1 rfl ?_
                              refine ev_il (k_m_readsCode_2 30 rfl) rfl ?_
                              refine ev_lald (xs := ((σ.2 7).set (120 + (R.length)) cc)) (k_m_readsCode_2 31 rfl) (mr_a hm519 7 rfl) (by omega) (by simp only [List.length_set]; omega) (show ev _ _ _ _ _ _ _ _ (vL (gd ((σ.2 7).set (120 + (R.length)) cc) (120 + (R.length))) :: _) _ _ _ from ?_)
                              rw [gd_set_eq _ (by omega)]
                              refine ev_al (k_m_readsCode_2 32 rfl) rfl ?_
                              refine ev_get (v := vA (ma 7)) (k_m_readsCode_2 33 rfl) hm519.1 rfl ?_
                              refine ev_il (k_m_readsCode_2 34 rfl) rfl ?_
                              refine ev_ic (k_m_readsCode_2 35 rfl) ?_
                              refine ev_isub (k_m_readsCode_2 36 rfl) (by omega) ?_
                              refine ev_lald (xs := ((σ.2 7).set (120 + (R.length)) cc)) (k_m_readsCode_2 37 rfl) (mr_a hm519 7 rfl) (by omega) (by simp only [List.length_set]; omega) (show ev _ _ _ _ _ _ _ _ (vL (gd ((σ.2 7).set (120 + (R.length)) cc) ((120 + (R.length : Int)) - 1).toNat) :: _) _ _ _ from ?_)
                              rw [show ((120 + (R.length : Int)) - 1).toNat = 120 + (R.length - 1) by omega, gd_set_ne _ (by omega), (hs.2.2 (R.length - 1) (by omega)).1]
                              refine ev_cS (k_m_readsCode_2 38 rfl) rfl v_m_isBehind (c_m_isBehind G _ cc (rc R (R.length - 1)) (by (try simp only [sS]); omega) (by (try simp only [sS]); omega)) rfl (le_b rfl) (le_b rfl) (le_b rfl) k_n (k_B fun z557 h557 q557 => ?_)
                              obtain ⟨rfl, (rfl : z557 = (bhd cc (rc R (R.length - 1))))⟩ := q557
                              refine ev_b_ne (k_m_readsCode_2 39 rfl) (fun c558 => ?_) (fun c558 => ?_)
                              · refine ev_ic (k_m_readsCode_2 45 rfl) ?_
                                refine ev_goto (k_m_readsCode_2 46 rfl) ?_
                                exact ev_zret (x := true) (k_m_readsCode_2 48 rfl) rfl (⟨true, rfl, _, hm519, fm519, Or.inr ⟨k331, k510, cc, by unfold pcod; rw [hk331]; unfold pcA; rw [if_neg (by rintro ⟨x, y⟩; first | omega | exact y ⟨by omega, by assumption⟩), if_neg (by split <;> omega), if_neg (by omega), if_neg (by omega), hk510]; unfold pcB; rw [if_neg (by omega), if_neg (by omega), if_neg (by omega), hcc]; unfold pcC; rw [if_neg (by rintro (⟨x, y⟩ | ⟨x, y⟩); omega; first | omega | (rw [upc_u hU] at y; exact absurd (Eq.trans y.symm (by assumption : _ = true)) (by decide)) | (rw [upc_s hU] at y; exact absurd (Eq.trans y.symm (by assumption : _ = true)) (by decide))), if_neg (by rintro ⟨x, y⟩; first | omega | exact absurd (Eq.trans y.symm (by assumption : _ = true)) (by decide))], rfl, rfl, hcb, by omega, by omega, hcc⟩⟩)
                              · refine ev_al (k_m_readsCode_2 40 rfl) rfl ?_
                                refine ev_ic (k_m_readsCode_2 41 rfl) ?_
                                refine ev_ilw (k_m_readsCode_2 42 rfl) rfl ?_
                                refine ev_cV (k_m_readsCode_2 43 rfl) rfl v_m_fails hm519.1 rfl (c_m_fails G ma _ _ hm519 4 ((p : Int) + (k331 : Int))) rfl (le_b rfl) (le_b rfl) (le_b rfl) k_n (k_B fun z559 h559 q559 => ?_)
                                obtain ⟨rfl, hm559, fmx559⟩ := q559
                                have fm559 := fM_tr fm519 fmx559
                                refine ev_if_eq (k_m_readsCode_2 44 rfl) (fun _ => ?_) (fun c => absurd c (by decide))
                                refine ev_ic (k_m_readsCode_2 47 rfl) ?_
                                exact ev_zret (x := false) (k_m_readsCode_2 48 rfl) rfl (⟨false, rfl, _, hm559, fm559, Or.inl ⟨4, (p) + (k331), by first | (exfalso; omega) | (unfold pcod; rw [hk331]; unfold pcA; rw [if_neg (by rintro ⟨x, y⟩; first | omega | exact y ⟨by omega, by assumption⟩), if_neg (by split <;> omega), if_neg (by omega), if_neg (by omega), hk510]; unfold pcB; rw [if_neg (by omega), if_neg (by omega), if_neg (by omega), hcc]; unfold pcC; rw [if_neg (by rintro (⟨x, y⟩ | ⟨x, y⟩); omega; first | omega | (rw [upc_u hU] at y; exact absurd (Eq.trans y.symm (by assumption : _ = true)) (by decide)) | (rw [upc_s hU] at y; exact absurd (Eq.trans y.symm (by assumption : _ = true)) (by decide))), if_pos ⟨by omega, by assumption⟩]), rfl, by first | exact frd_tr (frd_S (Or.inl rfl)) (frd_S (Or.inr (Or.inl rfl))) | exact frd_tr (frd_tr (frd_A8 (by omega)) (frd_A7 (by omega))) (frd_tr (frd_S (Or.inl rfl)) (frd_S (Or.inr (Or.inl rfl)))), rfl, by simp [sS], by omega⟩⟩)
                          · refine ev_al (k_m_readsCode_2 7 rfl) rfl ?_
                            refine ev_get (v := vA (ma 7)) (k_m_readsCode_2 8 rfl) hm519.1 rfl ?_
                            refine ev_il (k_m_readsCode_2 9 rfl) rfl ?_
                            refine ev_lald (xs := ((σ.2 7).set (120 + (R.length)) cc)) (k_m_readsCode_2 10 rfl) (mr_a hm519 7 rfl) (by omega) (by simp only [List.length_set]; omega) (show ev _ _ _ _ _ _ _ _ (vL (gd ((σ.2 7).set (120 + (R.length)) cc) (120 + (R.length))) :: _) _ _ _ from ?_)
                            rw [gd_set_eq _ (by omega)]
                            refine ev_al (k_m_readsCode_2 11 rfl) rfl ?_
                            refine ev_get (v := vA (ma 7)) (k_m_readsCode_2 12 rfl) hm519.1 rfl ?_
                            refine ev_ilw (k_m_readsCode_2 13 rfl) rfl ?_
                            refine ev_if_ge (k_m_readsCode_2 14 rfl) (fun _ => ?_) (fun c => absurd c (by omega))
                            refine ev_ilw (k_m_readsCode_2 17 rfl) rfl ?_
                            refine ev_lald (xs := ((σ.2 7).set (120 + (R.length)) cc)) (k_m_readsCode_2 18 rfl) (mr_a hm519 7 rfl) (by omega) (by simp only [List.length_set]; omega) (show ev _ _ _ _ _ _ _ _ (vL (gd ((σ.2 7).set (120 + (R.length)) cc) (120 + j)) :: _) _ _ _ from ?_)
                            rw [gd_set_ne _ (by omega), (hs.2.2 j huj.1).1]
                            refine ev_cS (k_m_readsCode_2 19 rfl) rfl v_m_begins (c_m_begins G _ cc (rc R j) (by (try simp only [sS]); omega)) rfl (le_b rfl) (le_b rfl) (le_b rfl) k_n (k_B fun z561 h561 q561 => ?_)
                            obtain ⟨rfl, (rfl : z561 = (bgn cc (rc R j)))⟩ := q561
                            refine ev_b_ne (k_m_readsCode_2 20 rfl) (fun c562 => ?_) (fun c562 => ?_)
                            · refine ev_il (k_m_readsCode_2 26 rfl) rfl ?_
                              refine ev_if_eq (k_m_readsCode_2 27 rfl) (fun c563 => ?_) (fun c563 => ?_)
                              · refine ev_ic (k_m_readsCode_2 45 rfl) ?_
                                refine ev_goto (k_m_readsCode_2 46 rfl) ?_
                                exact ev_zret (x := true) (k_m_readsCode_2 48 rfl) rfl (⟨true, rfl, _, hm519, fm519, Or.inr ⟨k331, k510, cc, by unfold pcod; rw [hk331]; unfold pcA; rw [if_neg (by rintro ⟨x, y⟩; first | omega | exact y ⟨by omega, by assumption⟩), if_neg (by split <;> omega), if_neg (by omega), if_neg (by omega), hk510]; unfold pcB; rw [if_neg (by omega), if_neg (by omega), if_neg (by omega), hcc]; unfold pcC; rw [if_neg (by rintro (⟨x, y⟩ | ⟨x, y⟩); omega; first | omega | (rw [upc_u hU] at y; exact absurd (Eq.trans y.symm (by assumption : _ = true)) (by decide)) | (rw [upc_s hU] at y; exact absurd (Eq.trans y.symm (by assumption : _ = true)) (by decide))), if_neg (by rintro ⟨x, y⟩; first | omega | exact absurd (Eq.trans y.symm (by assumption : _ = true)) (by decide))], rfl, rfl, hcb, by omega, by omega, hcc⟩⟩)
                              · refine ev_al (k_m_readsCode_2 28 rfl) rfl ?_
                                refine ev_get (v := vA (ma 7)) (k_m_readsCode_2 29 rfl) hm519.1 rfl ?_
                                refine ev_il (k_m_readsCode_2 30 rfl) rfl ?_
                                refine ev_lald (xs := ((σ.2 7).set (120 + (R.length)) cc)) (k_m_readsCode_2 31 rfl) (mr_a hm519 7 rfl) (by omega) (by simp only [List.length_set]; omega) (show ev _ _ _ _ _ _ _ _ (vL (gd ((σ.2 7).set (120 + (R.length)) cc) (120 + (R.length))) :: _) _ _ _ from ?_)
                                rw [gd_set_eq _ (by omega)]
                                refine ev_al (k_m_readsCode_2 32 rfl) rfl ?_
                                refine ev_get (v := vA (ma 7)) (k_m_readsCode_2 33 rfl) hm519.1 rfl ?_
                                refine ev_il (k_m_readsCode_2 34 rfl) rfl ?_
                                refine ev_ic (k_m_readsCode_2 35 rfl) ?_
                                refine ev_isub (k_m_readsCode_2 36 rfl) (by omega) ?_
                                refine ev_lald (xs := ((σ.2 7).set (120 + (R.length)) cc)) (k_m_readsCode_2 37 rfl) (mr_a hm519 7 rfl) (by omega) (by simp only [List.length_set]; omega) (show ev _ _ _ _ _ _ _ _ (vL (gd ((σ.2 7).set (120 + (R.length)) cc) ((120 + (R.length : Int)) - 1).toNat) :: _) _ _ _ from ?_)
                                rw [show ((120 + (R.length : Int)) - 1).toNat = 120 + (R.length - 1) by omega, gd_set_ne _ (by omega), (hs.2.2 (R.length - 1) (by omega)).1]
                                refine ev_cS (k_m_readsCode_2 38 rfl) rfl v_m_isBehind (c_m_isBehind G _ cc (rc R (R.length - 1)) (by (try simp only [sS]); omega) (by (try simp only [sS]); omega)) rfl (le_b rfl) (le_b rfl) (le_b rfl) k_n (k_B fun z564 h564 q564 => ?_)
                                obtain ⟨rfl, (rfl : z564 = (bhd cc (rc R (R.length - 1))))⟩ := q564
                                refine ev_b_ne (k_m_readsCode_2 39 rfl) (fun c565 => ?_) (fun c565 => ?_)
                                · refine ev_ic (k_m_readsCode_2 45 rfl) ?_
                                  refine ev_goto (k_m_readsCode_2 46 rfl) ?_
                                  exact ev_zret (x := true) (k_m_readsCode_2 48 rfl) rfl (⟨true, rfl, _, hm519, fm519, Or.inr ⟨k331, k510, cc, by unfold pcod; rw [hk331]; unfold pcA; rw [if_neg (by rintro ⟨x, y⟩; first | omega | exact y ⟨by omega, by assumption⟩), if_neg (by split <;> omega), if_neg (by omega), if_neg (by omega), hk510]; unfold pcB; rw [if_neg (by omega), if_neg (by omega), if_neg (by omega), hcc]; unfold pcC; rw [if_neg (by rintro (⟨x, y⟩ | ⟨x, y⟩); omega; first | omega | (rw [upc_u hU] at y; exact absurd (Eq.trans y.symm (by assumption : _ = true)) (by decide)) | (rw [upc_s hU] at y; exact absurd (Eq.trans y.symm (by assumption : _ = true)) (by decide))), if_neg (by rintro ⟨x, y⟩; first | omega | exact absurd (Eq.trans y.symm (by assumption : _ = true)) (by decide))], rfl, rfl, hcb, by omega, by omega, hcc⟩⟩)
                                · refine ev_al (k_m_readsCode_2 40 rfl) rfl ?_
                                  refine ev_ic (k_m_readsCode_2 41 rfl) ?_
                                  refine ev_ilw (k_m_readsCode_2 42 rfl) rfl ?_
                                  refine ev_cV (k_m_readsCode_2 43 rfl) rfl v_m_fails hm519.1 rfl (c_m_fails G ma _ _ hm519 4 ((p : Int) + (k331 : Int))) rfl (le_b rfl) (le_b rfl) (le_b rfl) k_n (k_B fun z566 h566 q566 => ?_)
                                  obtain ⟨rfl, hm566, fmx566⟩ := q566
                                  have fm566 := fM_tr fm519 fmx566
                                  refine ev_if_eq (k_m_readsCode_2 44 rfl) (fun _ => ?_) (fun c => absurd c (by decide))
                                  refine ev_ic (k_m_readsCode_2 47 rfl) ?_
                                  exact ev_zret (x := false) (k_m_readsCode_2 48 rfl) rfl (⟨false, rfl, _, hm566, fm566, Or.inl ⟨4, (p) + (k331), by first | (exfalso; omega) | (unfold pcod; rw [hk331]; unfold pcA; rw [if_neg (by rintro ⟨x, y⟩; first | omega | exact y ⟨by omega, by assumption⟩), if_neg (by split <;> omega), if_neg (by omega), if_neg (by omega), hk510]; unfold pcB; rw [if_neg (by omega), if_neg (by omega), if_neg (by omega), hcc]; unfold pcC; rw [if_neg (by rintro (⟨x, y⟩ | ⟨x, y⟩); omega; first | omega | (rw [upc_u hU] at y; exact absurd (Eq.trans y.symm (by assumption : _ = true)) (by decide)) | (rw [upc_s hU] at y; exact absurd (Eq.trans y.symm (by assumption : _ = true)) (by decide))), if_pos ⟨by omega, by assumption⟩]), rfl, by first | exact frd_tr (frd_S (Or.inl rfl)) (frd_S (Or.inr (Or.inl rfl))) | exact frd_tr (frd_tr (frd_A8 (by omega)) (frd_A7 (by omega))) (frd_tr (frd_S (Or.inl rfl)) (frd_S (Or.inr (Or.inl rfl)))), rfl, by simp [sS], by omega⟩⟩)
                            · refine ev_al (k_m_readsCode_2 21 rfl) rfl ?_
                              refine ev_ic (k_m_readsCode_2 22 rfl) ?_
                              refine ev_ilw (k_m_readsCode_2 23 rfl) rfl ?_
                              refine ev_cV (k_m_readsCode_2 24 rfl) rfl v_m_fails hm519.1 rfl (c_m_fails G ma _ _ hm519 3 ((p : Int) + (k331 : Int))) rfl (le_b rfl) (le_b rfl) (le_b rfl) k_n (k_B fun z568 h568 q568 => ?_)
                              obtain ⟨rfl, hm568, fmx568⟩ := q568
                              have fm568 := fM_tr fm519 fmx568
                              exact ev_zret (x := false) (k_m_readsCode_2 25 rfl) rfl (⟨false, rfl, _, hm568, fm568, Or.inl ⟨3, (p) + (k331), by first | (exfalso; omega) | (unfold pcod; rw [hk331]; unfold pcA; rw [if_neg (by rintro ⟨x, y⟩; first | omega | exact y ⟨by omega, by assumption⟩), if_neg (by split <;> omega), if_neg (by omega), if_neg (by omega), hk510]; unfold pcB; rw [if_neg (by omega), if_neg (by omega), if_neg (by omega), hcc]; unfold pcC; rw [if_pos (by first | exact Or.inl ⟨by omega, by omega⟩ | exact Or.inr ⟨by omega, by rw [upc_u hU]; assumption⟩ | exact Or.inr ⟨by omega, by rw [upc_s hU]; assumption⟩)]), rfl, by first | exact frd_tr (frd_S (Or.inl rfl)) (frd_S (Or.inr (Or.inl rfl))) | exact frd_tr (frd_tr (frd_A8 (by omega)) (frd_A7 (by omega))) (frd_tr (frd_S (Or.inl rfl)) (frd_S (Or.inr (Or.inl rfl)))), rfl, by simp [sS], by omega⟩⟩)
                        · refine ev_ilw (k_m_readsCode_2 2 rfl) rfl ?_
                          refine ev_ic (k_m_readsCode_2 3 rfl) ?_
                          refine ev_ic_ne (k_m_readsCode_2 4 rfl) (fun c569 => ?_) (fun c569 => ?_)
                          · refine ev_al (k_m_readsCode_2 21 rfl) rfl ?_
                            refine ev_ic (k_m_readsCode_2 22 rfl) ?_
                            refine ev_ilw (k_m_readsCode_2 23 rfl) rfl ?_
                            refine ev_cV (k_m_readsCode_2 24 rfl) rfl v_m_fails hm519.1 rfl (c_m_fails G ma _ _ hm519 3 ((p : Int) + (k331 : Int))) rfl (le_b rfl) (le_b rfl) (le_b rfl) k_n (k_B fun z570 h570 q570 => ?_)
                            obtain ⟨rfl, hm570, fmx570⟩ := q570
                            have fm570 := fM_tr fm519 fmx570
                            exact ev_zret (x := false) (k_m_readsCode_2 25 rfl) rfl (⟨false, rfl, _, hm570, fm570, Or.inl ⟨3, (p) + (k331), by first | (exfalso; omega) | (unfold pcod; rw [hk331]; unfold pcA; rw [if_neg (by rintro ⟨x, y⟩; first | omega | exact y ⟨by omega, by assumption⟩), if_neg (by split <;> omega), if_neg (by omega), if_neg (by omega), hk510]; unfold pcB; rw [if_neg (by omega), if_neg (by omega), if_neg (by omega), hcc]; unfold pcC; rw [if_pos (by first | exact Or.inl ⟨by omega, by omega⟩ | exact Or.inr ⟨by omega, by rw [upc_u hU]; assumption⟩ | exact Or.inr ⟨by omega, by rw [upc_s hU]; assumption⟩)]), rfl, by first | exact frd_tr (frd_S (Or.inl rfl)) (frd_S (Or.inr (Or.inl rfl))) | exact frd_tr (frd_tr (frd_A8 (by omega)) (frd_A7 (by omega))) (frd_tr (frd_S (Or.inl rfl)) (frd_S (Or.inr (Or.inl rfl)))), rfl, by simp [sS], by omega⟩⟩)
                          · refine ev_ilw (k_m_readsCode_2 5 rfl) rfl ?_
                            refine ev_if_le (k_m_readsCode_2 6 rfl) (fun c571 => ?_) (fun c571 => ?_)
                            · refine ev_il (k_m_readsCode_2 26 rfl) rfl ?_
                              refine ev_if_eq (k_m_readsCode_2 27 rfl) (fun c572 => ?_) (fun c572 => ?_)
                              · refine ev_ic (k_m_readsCode_2 45 rfl) ?_
                                refine ev_goto (k_m_readsCode_2 46 rfl) ?_
                                exact ev_zret (x := true) (k_m_readsCode_2 48 rfl) rfl (⟨true, rfl, _, hm519, fm519, Or.inr ⟨k331, k510, cc, by unfold pcod; rw [hk331]; unfold pcA; rw [if_neg (by rintro ⟨x, y⟩; first | omega | exact y ⟨by omega, by assumption⟩), if_neg (by split <;> omega), if_neg (by omega), if_neg (by omega), hk510]; unfold pcB; rw [if_neg (by omega), if_neg (by omega), if_neg (by omega), hcc]; unfold pcC; rw [if_neg (by rintro (⟨x, y⟩ | ⟨x, y⟩); omega; first | omega | (rw [upc_u hU] at y; exact absurd (Eq.trans y.symm (by assumption : _ = true)) (by decide)) | (rw [upc_s hU] at y; exact absurd (Eq.trans y.symm (by assumption : _ = true)) (by decide))), if_neg (by rintro ⟨x, y⟩; first | omega | exact absurd (Eq.trans y.symm (by assumption : _ = true)) (by decide))], rfl, rfl, hcb, by omega, by omega, hcc⟩⟩)
                              · refine ev_al (k_m_readsCode_2 28 rfl) rfl ?_
                                refine ev_get (v := vA (ma 7)) (k_m_readsCode_2 29 rfl) hm519.1 rfl ?_
                                refine ev_il (k_m_readsCode_2 30 rfl) rfl ?_
                                refine ev_lald (xs := ((σ.2 7).set (120 + (R.length)) cc)) (k_m_readsCode_2 31 rfl) (mr_a hm519 7 rfl) (by omega) (by simp only [List.length_set]; omega) (show ev _ _ _ _ _ _ _ _ (vL (gd ((σ.2 7).set (120 + (R.length)) cc) (120 + (R.length))) :: _) _ _ _ from ?_)
                                rw [gd_set_eq _ (by omega)]
                                refine ev_al (k_m_readsCode_2 32 rfl) rfl ?_
                                refine ev_get (v := vA (ma 7)) (k_m_readsCode_2 33 rfl) hm519.1 rfl ?_
                                refine ev_il (k_m_readsCode_2 34 rfl) rfl ?_
                                refine ev_ic (k_m_readsCode_2 35 rfl) ?_
                                refine ev_isub (k_m_readsCode_2 36 rfl) (by omega) ?_
                                refine ev_lald (xs := ((σ.2 7).set (120 + (R.length)) cc)) (k_m_readsCode_2 37 rfl) (mr_a hm519 7 rfl) (by omega) (by simp only [List.length_set]; omega) (show ev _ _ _ _ _ _ _ _ (vL (gd ((σ.2 7).set (120 + (R.length)) cc) ((120 + (R.length : Int)) - 1).toNat) :: _) _ _ _ from ?_)
                                rw [show ((120 + (R.length : Int)) - 1).toNat = 120 + (R.length - 1) by omega, gd_set_ne _ (by omega), (hs.2.2 (R.length - 1) (by omega)).1]
                                refine ev_cS (k_m_readsCode_2 38 rfl) rfl v_m_isBehind (c_m_isBehind G _ cc (rc R (R.length - 1)) (by (try simp only [sS]); omega) (by (try simp only [sS]); omega)) rfl (le_b rfl) (le_b rfl) (le_b rfl) k_n (k_B fun z573 h573 q573 => ?_)
                                obtain ⟨rfl, (rfl : z573 = (bhd cc (rc R (R.length - 1))))⟩ := q573
                                refine ev_b_ne (k_m_readsCode_2 39 rfl) (fun c574 => ?_) (fun c574 => ?_)
                                · refine ev_ic (k_m_readsCode_2 45 rfl) ?_
                                  refine ev_goto (k_m_readsCode_2 46 rfl) ?_
                                  exact ev_zret (x := true) (k_m_readsCode_2 48 rfl) rfl (⟨true, rfl, _, hm519, fm519, Or.inr ⟨k331, k510, cc, by unfold pcod; rw [hk331]; unfold pcA; rw [if_neg (by rintro ⟨x, y⟩; first | omega | exact y ⟨by omega, by assumption⟩), if_neg (by split <;> omega), if_neg (by omega), if_neg (by omega), hk510]; unfold pcB; rw [if_neg (by omega), if_neg (by omega), if_neg (by omega), hcc]; unfold pcC; rw [if_neg (by rintro (⟨x, y⟩ | ⟨x, y⟩); omega; first | omega | (rw [upc_u hU] at y; exact absurd (Eq.trans y.symm (by assumption : _ = true)) (by decide)) | (rw [upc_s hU] at y; exact absurd (Eq.trans y.symm (by assumption : _ = true)) (by decide))), if_neg (by rintro ⟨x, y⟩; first | omega | exact absurd (Eq.trans y.symm (by assumption : _ = true)) (by decide))], rfl, rfl, hcb, by omega, by omega, hcc⟩⟩)
                                · refine ev_al (k_m_readsCode_2 40 rfl) rfl ?_
                                  refine ev_ic (k_m_readsCode_2 41 rfl) ?_
                                  refine ev_ilw (k_m_readsCode_2 42 rfl) rfl ?_
                                  refine ev_cV (k_m_readsCode_2 43 rfl) rfl v_m_fails hm519.1 rfl (c_m_fails G ma _ _ hm519 4 ((p : Int) + (k331 : Int))) rfl (le_b rfl) (le_b rfl) (le_b rfl) k_n (k_B fun z575 h575 q575 => ?_)
                                  obtain ⟨rfl, hm575, fmx575⟩ := q575
                                  have fm575 := fM_tr fm519 fmx575
                                  refine ev_if_eq (k_m_readsCode_2 44 rfl) (fun _ => ?_) (fun c => absurd c (by decide))
                                  refine ev_ic (k_m_readsCode_2 47 rfl) ?_
                                  exact ev_zret (x := false) (k_m_readsCode_2 48 rfl) rfl (⟨false, rfl, _, hm575, fm575, Or.inl ⟨4, (p) + (k331), by first | (exfalso; omega) | (unfold pcod; rw [hk331]; unfold pcA; rw [if_neg (by rintro ⟨x, y⟩; first | omega | exact y ⟨by omega, by assumption⟩), if_neg (by split <;> omega), if_neg (by omega), if_neg (by omega), hk510]; unfold pcB; rw [if_neg (by omega), if_neg (by omega), if_neg (by omega), hcc]; unfold pcC; rw [if_neg (by rintro (⟨x, y⟩ | ⟨x, y⟩); omega; first | omega | (rw [upc_u hU] at y; exact absurd (Eq.trans y.symm (by assumption : _ = true)) (by decide)) | (rw [upc_s hU] at y; exact absurd (Eq.trans y.symm (by assumption : _ = true)) (by decide))), if_pos ⟨by omega, by assumption⟩]), rfl, by first | exact frd_tr (frd_S (Or.inl rfl)) (frd_S (Or.inr (Or.inl rfl))) | exact frd_tr (frd_tr (frd_A8 (by omega)) (frd_A7 (by omega))) (frd_tr (frd_S (Or.inl rfl)) (frd_S (Or.inr (Or.inl rfl)))), rfl, by simp [sS], by omega⟩⟩)
                            · refine ev_al (k_m_readsCode_2 7 rfl) rfl ?_
                              refine ev_get (v := vA (ma 7)) (k_m_readsCode_2 8 rfl) hm519.1 rfl ?_
                              refine ev_il (k_m_readsCode_2 9 rfl) rfl ?_
                              refine ev_lald (xs := ((σ.2 7).set (120 + (R.length)) cc)) (k_m_readsCode_2 10 rfl) (mr_a hm519 7 rfl) (by omega) (by simp only [List.length_set]; omega) (show ev _ _ _ _ _ _ _ _ (vL (gd ((σ.2 7).set (120 + (R.length)) cc) (120 + (R.length))) :: _) _ _ _ from ?_)
                              rw [gd_set_eq _ (by omega)]
                              refine ev_al (k_m_readsCode_2 11 rfl) rfl ?_
                              refine ev_get (v := vA (ma 7)) (k_m_readsCode_2 12 rfl) hm519.1 rfl ?_
                              refine ev_ilw (k_m_readsCode_2 13 rfl) rfl ?_
                              refine ev_if_ge (k_m_readsCode_2 14 rfl) (fun _ => ?_) (fun c => absurd c (by omega))
                              refine ev_ilw (k_m_readsCode_2 17 rfl) rfl ?_
                              refine ev_lald (xs := ((σ.2 7).set (120 + (R.length)) cc)) (k_m_readsCode_2 18 rfl) (mr_a hm519 7 rfl) (by omega) (by simp only [List.length_set]; omega) (show ev _ _ _ _ _ _ _ _ (vL (gd ((σ.2 7).set (120 + (R.length)) cc) (120 + j)) :: _) _ _ _ from ?_)
                              rw [gd_set_ne _ (by omega), (hs.2.2 j huj.1).1]
                              refine ev_cS (k_m_readsCode_2 19 rfl) rfl v_m_begins (c_m_begins G _ cc (rc R j) (by (try simp only [sS]); omega)) rfl (le_b rfl) (le_b rfl) (le_b rfl) k_n (k_B fun z577 h577 q577 => ?_)
                              obtain ⟨rfl, (rfl : z577 = (bgn cc (rc R j)))⟩ := q577
                              refine ev_b_ne (k_m_readsCode_2 20 rfl) (fun c578 => ?_) (fun c578 => ?_)
                              · refine ev_il (k_m_readsCode_2 26 rfl) rfl ?_
                                refine ev_if_eq (k_m_readsCode_2 27 rfl) (fun c579 => ?_) (fun c579 => ?_)
                                · refine ev_ic (k_m_readsCode_2 45 rfl) ?_
                                  refine ev_goto (k_m_readsCode_2 46 rfl) ?_
                                  exact ev_zret (x := true) (k_m_readsCode_2 48 rfl) rfl (⟨true, rfl, _, hm519, fm519, Or.inr ⟨k331, k510, cc, by unfold pcod; rw [hk331]; unfold pcA; rw [if_neg (by rintro ⟨x, y⟩; first | omega | exact y ⟨by omega, by assumption⟩), if_neg (by split <;> omega), if_neg (by omega), if_neg (by omega), hk510]; unfold pcB; rw [if_neg (by omega), if_neg (by omega), if_neg (by omega), hcc]; unfold pcC; rw [if_neg (by rintro (⟨x, y⟩ | ⟨x, y⟩); omega; first | omega | (rw [upc_u hU] at y; exact absurd (Eq.trans y.symm (by assumption : _ = true)) (by decide)) | (rw [upc_s hU] at y; exact absurd (Eq.trans y.symm (by assumption : _ = true)) (by decide))), if_neg (by rintro ⟨x, y⟩; first | omega | exact absurd (Eq.trans y.symm (by assumption : _ = true)) (by decide))], rfl, rfl, hcb, by omega, by omega, hcc⟩⟩)
                                · refine ev_al (k_m_readsCode_2 28 rfl) rfl ?_
                                  refine ev_get (v := vA (ma 7)) (k_m_readsCode_2 29 rfl) hm519.1 rfl ?_
                                  refine ev_il (k_m_readsCode_2 30 rfl) rfl ?_
                                  refine ev_lald (xs := ((σ.2 7).set (120 + (R.length)) cc)) (k_m_readsCode_2 31 rfl) (mr_a hm519 7 rfl) (by omega) (by simp only [List.length_set]; omega) (show ev _ _ _ _ _ _ _ _ (vL (gd ((σ.2 7).set (120 + (R.length)) cc) (120 + (R.length))) :: _) _ _ _ from ?_)
                                  rw [gd_set_eq _ (by omega)]
                                  refine ev_al (k_m_readsCode_2 32 rfl) rfl ?_
                                  refine ev_get (v := vA (ma 7)) (k_m_readsCode_2 33 rfl) hm519.1 rfl ?_
                                  refine ev_il (k_m_readsCode_2 34 rfl) rfl ?_
                                  refine ev_ic (k_m_readsCode_2 35 rfl) ?_
                                  refine ev_isub (k_m_readsCode_2 36 rfl) (by omega) ?_
                                  refine ev_lald (xs := ((σ.2 7).set (120 + (R.length)) cc)) (k_m_readsCode_2 37 rfl) (mr_a hm519 7 rfl) (by omega) (by simp only [List.length_set]; omega) (show ev _ _ _ _ _ _ _ _ (vL (gd ((σ.2 7).set (120 + (R.length)) cc) ((120 + (R.length : Int)) - 1).toNat) :: _) _ _ _ from ?_)
                                  rw [show ((120 + (R.length : Int)) - 1).toNat = 120 + (R.length - 1) by omega, gd_set_ne _ (by omega), (hs.2.2 (R.length - 1) (by omega)).1]
                                  refine ev_cS (k_m_readsCode_2 38 rfl) rfl v_m_isBehind (c_m_isBehind G _ cc (rc R (R.length - 1)) (by (try simp only [sS]); omega) (by (try simp only [sS]); omega)) rfl (le_b rfl) (le_b rfl) (le_b rfl) k_n (k_B fun z580 h580 q580 => ?_)
                                  obtain ⟨rfl, (rfl : z580 = (bhd cc (rc R (R.length - 1))))⟩ := q580
                                  refine ev_b_ne (k_m_readsCode_2 39 rfl) (fun c581 => ?_) (fun c581 => ?_)
                                  · refine ev_ic (k_m_readsCode_2 45 rfl) ?_
                                    refine ev_goto (k_m_readsCode_2 46 rfl) ?_
                                    exact ev_zret (x := true) (k_m_readsCode_2 48 rfl) rfl (⟨true, rfl, _, hm519, fm519, Or.inr ⟨k331, k510, cc, by unfold pcod; rw [hk331]; unfold pcA; rw [if_neg (by rintro ⟨x, y⟩; first | omega | exact y ⟨by omega, by assumption⟩), if_neg (by split <;> omega), if_neg (by omega), if_neg (by omega), hk510]; unfold pcB; rw [if_neg (by omega), if_neg (by omega), if_neg (by omega), hcc]; unfold pcC; rw [if_neg (by rintro (⟨x, y⟩ | ⟨x, y⟩); omega; first | omega | (rw [upc_u hU] at y; exact absurd (Eq.trans y.symm (by assumption : _ = true)) (by decide)) | (rw [upc_s hU] at y; exact absurd (Eq.trans y.symm (by assumption : _ = true)) (by decide))), if_neg (by rintro ⟨x, y⟩; first | omega | exact absurd (Eq.trans y.symm (by assumption : _ = true)) (by decide))], rfl, rfl, hcb, by omega, by omega, hcc⟩⟩)
                                  · refine ev_al (k_m_readsCode_2 40 rfl) rfl ?_
                                    refine ev_ic (k_m_readsCode_2 41 rfl) ?_
                                    refine ev_ilw (k_m_readsCode_2 42 rfl) rfl ?_
                                    refine ev_cV (k_m_readsCode_2 43 rfl) rfl v_m_fails hm519.1 rfl (c_m_fails G ma _ _ hm519 4 ((p : Int) + (k331 : Int))) rfl (le_b rfl) (le_b rfl) (le_b rfl) k_n (k_B fun z582 h582 q582 => ?_)
                                    obtain ⟨rfl, hm582, fmx582⟩ := q582
                                    have fm582 := fM_tr fm519 fmx582
                                    refine ev_if_eq (k_m_readsCode_2 44 rfl) (fun _ => ?_) (fun c => absurd c (by decide))
                                    refine ev_ic (k_m_readsCode_2 47 rfl) ?_
                                    exact ev_zret (x := false) (k_m_readsCode_2 48 rfl) rfl (⟨false, rfl, _, hm582, fm582, Or.inl ⟨4, (p) + (k331), by first | (exfalso; omega) | (unfold pcod; rw [hk331]; unfold pcA; rw [if_neg (by rintro ⟨x, y⟩; first | omega | exact y ⟨by omega, by assumption⟩), if_neg (by split <;> omega), if_neg (by omega), if_neg (by omega), hk510]; unfold pcB; rw [if_neg (by omega), if_neg (by omega), if_neg (by omega), hcc]; unfold pcC; rw [if_neg (by rintro (⟨x, y⟩ | ⟨x, y⟩); omega; first | omega | (rw [upc_u hU] at y; exact absurd (Eq.trans y.symm (by assumption : _ = true)) (by decide)) | (rw [upc_s hU] at y; exact absurd (Eq.trans y.symm (by assumption : _ = true)) (by decide))), if_pos ⟨by omega, by assumption⟩]), rfl, by first | exact frd_tr (frd_S (Or.inl rfl)) (frd_S (Or.inr (Or.inl rfl))) | exact frd_tr (frd_tr (frd_A8 (by omega)) (frd_A7 (by omega))) (frd_tr (frd_S (Or.inl rfl)) (frd_S (Or.inr (Or.inl rfl)))), rfl, by simp [sS], by omega⟩⟩)
                              · refine ev_al (k_m_readsCode_2 21 rfl) rfl ?_
                                refine ev_ic (k_m_readsCode_2 22 rfl) ?_
                                refine ev_ilw (k_m_readsCode_2 23 rfl) rfl ?_
                                refine ev_cV (k_m_readsCode_2 24 rfl) rfl v_m_fails hm519.1 rfl (c_m_fails G ma _ _ hm519 3 ((p : Int) + (k331 : Int))) rfl (le_b rfl) (le_b rfl) (le_b rfl) k_n (k_B fun z584 h584 q584 => ?_)
                                obtain ⟨rfl, hm584, fmx584⟩ := q584
                                have fm584 := fM_tr fm519 fmx584
                                exact ev_zret (x := false) (k_m_readsCode_2 25 rfl) rfl (⟨false, rfl, _, hm584, fm584, Or.inl ⟨3, (p) + (k331), by first | (exfalso; omega) | (unfold pcod; rw [hk331]; unfold pcA; rw [if_neg (by rintro ⟨x, y⟩; first | omega | exact y ⟨by omega, by assumption⟩), if_neg (by split <;> omega), if_neg (by omega), if_neg (by omega), hk510]; unfold pcB; rw [if_neg (by omega), if_neg (by omega), if_neg (by omega), hcc]; unfold pcC; rw [if_pos (by first | exact Or.inl ⟨by omega, by omega⟩ | exact Or.inr ⟨by omega, by rw [upc_u hU]; assumption⟩ | exact Or.inr ⟨by omega, by rw [upc_s hU]; assumption⟩)]), rfl, by first | exact frd_tr (frd_S (Or.inl rfl)) (frd_S (Or.inr (Or.inl rfl))) | exact frd_tr (frd_tr (frd_A8 (by omega)) (frd_A7 (by omega))) (frd_tr (frd_S (Or.inl rfl)) (frd_S (Or.inr (Or.inl rfl)))), rfl, by simp [sS], by omega⟩⟩)
                  · refine ev_al (k_m_readsCode_1 28 rfl) rfl ?_
                    refine ev_ic (k_m_readsCode_1 29 rfl) ?_
                    refine ev_ilw (k_m_readsCode_1 30 rfl) rfl ?_
                    refine ev_bp (k_m_readsCode_1 31 rfl) ?_
                    refine ev_ic_le (k_m_readsCode_1 32 rfl) (fun c585 => ?_) (fun c585 => ?_)
                    · refine ev_ilw (k_m_readsCode_1 37 rfl) rfl ?_
                      refine ev_ilw (k_m_readsCode_1 38 rfl) rfl ?_
                      refine ev_iadd (k_m_readsCode_1 39 rfl) (by omega) ?_
                      refine ev_cV (k_m_readsCode_1 40 rfl) rfl v_m_fails hm.1 rfl (c_m_fails G ma _ _ hm 1 (((p : Int) + (k331 : Int)) + (k510 : Int))) rfl (le_b rfl) (le_b rfl) (le_b rfl) k_n (k_B fun z586 h586 q586 => ?_)
                      obtain ⟨rfl, hm586, fmx586⟩ := q586
                      have fm586 := fM_tr (fM_rf _) fmx586
                      exact ev_zret (x := false) (k_m_readsCode_1 41 rfl) rfl (⟨false, rfl, _, hm586, fm586, Or.inl ⟨1, ((p) + (k331)) + (k510), by first | (exfalso; omega) | (unfold pcod; rw [hk331]; unfold pcA; rw [if_neg (by rintro ⟨x, y⟩; first | omega | exact y ⟨by omega, by assumption⟩), if_neg (by split <;> omega), if_neg (by omega), if_neg (by omega), hk510]; unfold pcB; first | rw [if_neg (by omega), if_pos (by omega)] | rw [if_neg (by omega), if_neg (by omega), if_pos (by omega)]), rfl, by first | exact frd_tr (frd_S (Or.inl rfl)) (frd_S (Or.inr (Or.inl rfl))) | exact frd_tr (frd_tr (frd_A8 (by omega)) (frd_A7 (by omega))) (frd_tr (frd_S (Or.inl rfl)) (frd_S (Or.inr (Or.inl rfl)))), rfl, by simp [sS], by omega⟩⟩)
                    · refine ev_ilw (k_m_readsCode_1 33 rfl) rfl ?_
                      refine ev_bp (k_m_readsCode_1 34 rfl) ?_
                      refine ev_iadd (k_m_readsCode_1 35 rfl) (by omega) ?_
                      refine ev_goto (k_m_readsCode_1 36 rfl) ?_
                      refine ev_cV (k_m_readsCode_1 40 rfl) rfl v_m_fails hm.1 rfl (c_m_fails G ma _ _ hm 1 (((p : Int) + (k331 : Int)) + 10)) rfl (le_b rfl) (le_b rfl) (le_b rfl) k_n (k_B fun z587 h587 q587 => ?_)
                      obtain ⟨rfl, hm587, fmx587⟩ := q587
                      have fm587 := fM_tr (fM_rf _) fmx587
                      exact ev_zret (x := false) (k_m_readsCode_1 41 rfl) rfl (⟨false, rfl, _, hm587, fm587, Or.inl ⟨1, ((p) + (k331)) + 10, by first | (exfalso; omega) | (unfold pcod; rw [hk331]; unfold pcA; rw [if_neg (by rintro ⟨x, y⟩; first | omega | exact y ⟨by omega, by assumption⟩), if_neg (by split <;> omega), if_neg (by omega), if_neg (by omega), hk510]; unfold pcB; first | rw [if_neg (by omega), if_pos (by omega)] | rw [if_neg (by omega), if_neg (by omega), if_pos (by omega)]), rfl, by first | exact frd_tr (frd_S (Or.inl rfl)) (frd_S (Or.inr (Or.inl rfl))) | exact frd_tr (frd_tr (frd_A8 (by omega)) (frd_A7 (by omega))) (frd_tr (frd_S (Or.inl rfl)) (frd_S (Or.inr (Or.inl rfl)))), rfl, by simp [sS], by omega⟩⟩)
              · refine ev_al (k_m_readsCode_1 15 rfl) rfl ?_
                refine ev_ic (k_m_readsCode_1 16 rfl) ?_
                refine ev_ilw (k_m_readsCode_1 17 rfl) rfl ?_
                refine ev_cV (k_m_readsCode_1 18 rfl) rfl v_m_fails hm.1 rfl (c_m_fails G ma _ _ hm 1 ((p : Int) + (k331 : Int))) rfl (le_b rfl) (le_b rfl) (le_b rfl) k_n (k_B fun z588 h588 q588 => ?_)
                obtain ⟨rfl, hm588, fmx588⟩ := q588
                have fm588 := fM_tr (fM_rf _) fmx588
                exact ev_zret (x := false) (k_m_readsCode_1 19 rfl) rfl (⟨false, rfl, _, hm588, fm588, Or.inl ⟨1, (p) + (k331), by first | (exfalso; omega) | (unfold pcod; rw [hk331]; unfold pcA; rw [if_neg (by rintro ⟨x, y⟩; first | omega | exact y ⟨by omega, by assumption⟩), if_neg (by split <;> omega), if_neg (by omega), if_neg (by omega), hk510]; unfold pcB; rw [if_pos (by omega)]), rfl, by first | exact frd_tr (frd_S (Or.inl rfl)) (frd_S (Or.inr (Or.inl rfl))) | exact frd_tr (frd_tr (frd_A8 (by omega)) (frd_A7 (by omega))) (frd_tr (frd_S (Or.inl rfl)) (frd_S (Or.inr (Or.inl rfl)))), rfl, by simp [sS], by omega⟩⟩)
            · refine ev_al (k_m_readsCode_1 1 rfl) rfl ?_
              refine ev_ic (k_m_readsCode_1 2 rfl) ?_
              refine ev_il (k_m_readsCode_1 3 rfl) rfl ?_
              refine ev_ic (k_m_readsCode_1 4 rfl) ?_
              refine ev_iadd (k_m_readsCode_1 5 rfl) (by omega) ?_
              refine ev_cV (k_m_readsCode_1 6 rfl) rfl v_m_fails hm.1 rfl (c_m_fails G ma _ _ hm 1 ((p : Int) + 4)) rfl (le_b rfl) (le_b rfl) (le_b rfl) k_n (k_B fun z589 h589 q589 => ?_)
              obtain ⟨rfl, hm589, fmx589⟩ := q589
              have fm589 := fM_tr (fM_rf _) fmx589
              exact ev_zret (x := false) (k_m_readsCode_1 7 rfl) rfl (⟨false, rfl, _, hm589, fm589, Or.inl ⟨1, (p) + 4, by first | (exfalso; omega) | (unfold pcod; rw [hk331]; unfold pcA; rw [if_neg (by rintro ⟨x, y⟩; first | omega | exact y ⟨by omega, by assumption⟩), if_neg (by split <;> omega), if_neg (by omega), if_pos (by omega)]), rfl, by first | exact frd_tr (frd_S (Or.inl rfl)) (frd_S (Or.inr (Or.inl rfl))) | exact frd_tr (frd_tr (frd_A8 (by omega)) (frd_A7 (by omega))) (frd_tr (frd_S (Or.inl rfl)) (frd_S (Or.inr (Or.inl rfl)))), rfl, by simp [sS], by omega⟩⟩)
          · refine ev_al (k_m_readsCode_0 53 rfl) rfl ?_
            refine ev_ic (k_m_readsCode_0 54 rfl) ?_
            refine ev_il (k_m_readsCode_0 55 rfl) rfl ?_
            refine ev_cV (k_m_readsCode_0 56 rfl) rfl v_m_fails hm.1 rfl (c_m_fails G ma _ _ hm 5 (p : Int)) rfl (le_b rfl) (le_b rfl) (le_b rfl) k_n (k_B fun z590 h590 q590 => ?_)
            obtain ⟨rfl, hm590, fmx590⟩ := q590
            have fm590 := fM_tr (fM_rf _) fmx590
            exact ev_zret (x := false) (k_m_readsCode_0 57 rfl) rfl (⟨false, rfl, _, hm590, fm590, Or.inl ⟨5, p, by first | (exfalso; omega) | (unfold pcod; rw [hk331]; unfold pcA; rw [if_neg (by rintro ⟨x, y⟩; first | omega | exact y ⟨by omega, by assumption⟩), if_neg (by split <;> omega), if_pos (by omega)]), rfl, by first | exact frd_tr (frd_S (Or.inl rfl)) (frd_S (Or.inr (Or.inl rfl))) | exact frd_tr (frd_tr (frd_A8 (by omega)) (frd_A7 (by omega))) (frd_tr (frd_S (Or.inl rfl)) (frd_S (Or.inr (Or.inl rfl)))), rfl, by simp [sS], by omega⟩⟩)
        · refine ev_al (k_m_readsCode_0 45 rfl) rfl ?_
          refine ev_ic (k_m_readsCode_0 46 rfl) ?_
          refine ev_il (k_m_readsCode_0 47 rfl) rfl ?_
          refine ev_cV (k_m_readsCode_0 48 rfl) rfl v_m_fails hm.1 rfl (c_m_fails G ma _ _ hm 2 (p : Int)) rfl (le_b rfl) (le_b rfl) (le_b rfl) k_n (k_B fun z591 h591 q591 => ?_)
          obtain ⟨rfl, hm591, fmx591⟩ := q591
          have fm591 := fM_tr (fM_rf _) fmx591
          exact ev_zret (x := false) (k_m_readsCode_0 49 rfl) rfl (⟨false, rfl, _, hm591, fm591, Or.inl ⟨2, p, by first | (exfalso; omega) | (unfold pcod; rw [hk331]; unfold pcA; rw [if_neg (by rintro ⟨x, y⟩; first | omega | exact y ⟨by omega, by assumption⟩), if_pos (by split <;> omega)]), rfl, by first | exact frd_tr (frd_S (Or.inl rfl)) (frd_S (Or.inr (Or.inl rfl))) | exact frd_tr (frd_tr (frd_A8 (by omega)) (frd_A7 (by omega))) (frd_tr (frd_S (Or.inl rfl)) (frd_S (Or.inr (Or.inl rfl)))), rfl, by simp [sS], by omega⟩⟩)
      · refine ev_ic (k_m_readsCode_0 34 rfl) ?_
        refine ev_goto (k_m_readsCode_0 35 rfl) ?_
        refine ev_ic_le (k_m_readsCode_0 44 rfl) (fun c592 => ?_) (fun c592 => ?_)
        · refine ev_il (k_m_readsCode_0 50 rfl) rfl ?_
          refine ev_bp (k_m_readsCode_0 51 rfl) ?_
          refine ev_ic_ne (k_m_readsCode_0 52 rfl) (fun c593 => ?_) (fun c593 => ?_)
          · refine ev_ilw (k_m_readsCode_0 58 rfl) rfl ?_
            refine ev_ic (k_m_readsCode_0 59 rfl) ?_
            refine ev_ic_le (k_m_readsCode_1 0 rfl) (fun c594 => ?_) (fun c594 => ?_)
            · refine ev_al (k_m_readsCode_1 8 rfl) rfl ?_
              refine ev_ilw (k_m_readsCode_1 9 rfl) rfl ?_
              refine ev_ic (k_m_readsCode_1 10 rfl) ?_
              refine ev_cV (k_m_readsCode_1 11 rfl) rfl v_m_run hm.1 rfl (c_m_run G ma _ _ hm n ((p) + (k331)) 1 hn0 hn4 (by omega)) rfl (le_b rfl) (le_b rfl) (le_b rfl) k_n (k_I fun z595 h595 q595 => ?_)
              obtain ⟨rfl, (rfl : z595 = ((rn (gd (σ.2 1)) 1 ((p) + (k331)) (n - ((p) + (k331))) : Nat) : Int))⟩ := q595
              have rl595 := rn_le (gd (σ.2 1)) 1 (n - ((p) + (k331))) ((p) + (k331))
              generalize hk595 : rn (gd (σ.2 1)) 1 ((p) + (k331)) (n - ((p) + (k331))) = k595 at rl595 ⊢
              refine ev_isw (k_m_readsCode_1 12 rfl) (le_b rfl) (show ev _ _ _ _ _ _ 117 [some (vA (ma 0)), some (vI (p : Int)), some (vI (R.length : Int)), some (vI (120 + (R.length : Int))), some (vI (k331 : Int)), some (vI ((p : Int) + (k331 : Int))), some (vI (k595 : Int)), none] _ _ _ _ from ?_)
              refine ev_ilw (k_m_readsCode_1 13 rfl) rfl ?_
              refine ev_if_ne (k_m_readsCode_1 14 rfl) (fun c596 => ?_) (fun c596 => ?_)
              · refine ev_ilw (k_m_readsCode_1 20 rfl) rfl ?_
                refine ev_bp (k_m_readsCode_1 21 rfl) ?_
                refine ev_ic_gt (k_m_readsCode_1 22 rfl) (fun c597 => ?_) (fun c597 => ?_)
                · refine ev_al (k_m_readsCode_1 28 rfl) rfl ?_
                  refine ev_ic (k_m_readsCode_1 29 rfl) ?_
                  refine ev_ilw (k_m_readsCode_1 30 rfl) rfl ?_
                  refine ev_bp (k_m_readsCode_1 31 rfl) ?_
                  refine ev_ic_le (k_m_readsCode_1 32 rfl) (fun c598 => ?_) (fun c598 => ?_)
                  · refine ev_ilw (k_m_readsCode_1 37 rfl) rfl ?_
                    refine ev_ilw (k_m_readsCode_1 38 rfl) rfl ?_
                    refine ev_iadd (k_m_readsCode_1 39 rfl) (by omega) ?_
                    refine ev_cV (k_m_readsCode_1 40 rfl) rfl v_m_fails hm.1 rfl (c_m_fails G ma _ _ hm 1 (((p : Int) + (k331 : Int)) + (k595 : Int))) rfl (le_b rfl) (le_b rfl) (le_b rfl) k_n (k_B fun z599 h599 q599 => ?_)
                    obtain ⟨rfl, hm599, fmx599⟩ := q599
                    have fm599 := fM_tr (fM_rf _) fmx599
                    exact ev_zret (x := false) (k_m_readsCode_1 41 rfl) rfl (⟨false, rfl, _, hm599, fm599, Or.inl ⟨1, ((p) + (k331)) + (k595), by first | (exfalso; omega) | (unfold pcod; rw [hk331]; unfold pcA; rw [if_neg (by rintro ⟨x, y⟩; first | omega | exact y ⟨by omega, by assumption⟩), if_neg (by split <;> omega), if_neg (by omega), if_neg (by omega), hk595]; unfold pcB; first | rw [if_neg (by omega), if_pos (by omega)] | rw [if_neg (by omega), if_neg (by omega), if_pos (by omega)]), rfl, by first | exact frd_tr (frd_S (Or.inl rfl)) (frd_S (Or.inr (Or.inl rfl))) | exact frd_tr (frd_tr (frd_A8 (by omega)) (frd_A7 (by omega))) (frd_tr (frd_S (Or.inl rfl)) (frd_S (Or.inr (Or.inl rfl)))), rfl, by simp [sS], by omega⟩⟩)
                  · refine ev_ilw (k_m_readsCode_1 33 rfl) rfl ?_
                    refine ev_bp (k_m_readsCode_1 34 rfl) ?_
                    refine ev_iadd (k_m_readsCode_1 35 rfl) (by omega) ?_
                    refine ev_goto (k_m_readsCode_1 36 rfl) ?_
                    refine ev_cV (k_m_readsCode_1 40 rfl) rfl v_m_fails hm.1 rfl (c_m_fails G ma _ _ hm 1 (((p : Int) + (k331 : Int)) + 10)) rfl (le_b rfl) (le_b rfl) (le_b rfl) k_n (k_B fun z600 h600 q600 => ?_)
                    obtain ⟨rfl, hm600, fmx600⟩ := q600
                    have fm600 := fM_tr (fM_rf _) fmx600
                    exact ev_zret (x := false) (k_m_readsCode_1 41 rfl) rfl (⟨false, rfl, _, hm600, fm600, Or.inl ⟨1, ((p) + (k331)) + 10, by first | (exfalso; omega) | (unfold pcod; rw [hk331]; unfold pcA; rw [if_neg (by rintro ⟨x, y⟩; first | omega | exact y ⟨by omega, by assumption⟩), if_neg (by split <;> omega), if_neg (by omega), if_neg (by omega), hk595]; unfold pcB; first | rw [if_neg (by omega), if_pos (by omega)] | rw [if_neg (by omega), if_neg (by omega), if_pos (by omega)]), rfl, by first | exact frd_tr (frd_S (Or.inl rfl)) (frd_S (Or.inr (Or.inl rfl))) | exact frd_tr (frd_tr (frd_A8 (by omega)) (frd_A7 (by omega))) (frd_tr (frd_S (Or.inl rfl)) (frd_S (Or.inr (Or.inl rfl)))), rfl, by simp [sS], by omega⟩⟩)
                · refine ev_ilw (k_m_readsCode_1 23 rfl) rfl ?_
                  refine ev_ic (k_m_readsCode_1 24 rfl) ?_
                  refine ev_irem (k_m_readsCode_1 25 rfl) (by omega) (by omega) ?_
                  refine ev_ic (k_m_readsCode_1 26 rfl) ?_
                  refine ev_ic_ne (k_m_readsCode_1 27 rfl) (fun c601 => ?_) (fun c601 => ?_)
                  · refine ev_al (k_m_readsCode_1 42 rfl) rfl ?_
                    refine ev_get (v := vA (ma 8)) (k_m_readsCode_1 43 rfl) hm.1 rfl ?_
                    refine ev_il (k_m_readsCode_1 44 rfl) rfl ?_
                    refine ev_ilw (k_m_readsCode_1 45 rfl) rfl ?_
                    refine ev_mias (iN := 120 + (R.length)) (k_m_readsCode_1 46 rfl) 8 rfl hm (fM_rf _) (by omega) (by omega) (fun h602 (hm602 : MR h602 ma (sA σ 8 ((σ.2 8).set (120 + (R.length)) (k331 : Int)))) fm602 => ?_)
                    refine ev_al (k_m_readsCode_1 47 rfl) rfl ?_
                    refine ev_get (v := vA (ma 7)) (k_m_readsCode_1 48 rfl) hm602.1 rfl ?_
                    refine ev_il (k_m_readsCode_1 49 rfl) rfl ?_
                    refine ev_al (k_m_readsCode_1 50 rfl) rfl ?_
                    refine ev_ilw (k_m_readsCode_1 51 rfl) rfl ?_
                    refine ev_ilw (k_m_readsCode_1 52 rfl) rfl ?_
                    refine ev_cV (k_m_readsCode_1 53 rfl) rfl v_m_codeAt hm602.1 rfl (c_m_codeAt G ma _ _ hm602 ((p) + (k331)) k595 (by (try simp only [sS]); omega) (by (try simp only [sS]); omega) (fun j hj => rn_digs (T := gd (σ.2 1)) (n := n - ((p) + (k331))) (by rw [hk595]; exact hj))) rfl (le_b rfl) (le_b rfl) (le_b rfl) k_n (k_L fun z603 h603 q603 => ?_)
                    obtain ⟨rfl, (rfl : z603 = pw 10 48 1 (gd (σ.2 1)) ((p) + (k331)) k595)⟩ := q603
                    have hcb : 0 < pw 10 48 1 (gd (σ.2 1)) ((p) + (k331)) k595 := pw_pos hk595
                    generalize hcc : pw 10 48 1 (gd (σ.2 1)) ((p) + (k331)) k595 = cc at hcb ⊢
                    refine ev_mlas (iN := 120 + (R.length)) (k_m_readsCode_1 54 rfl) 7 rfl hm602 fm602 (by omega) (by omega) (fun h604 (hm604 : MR h604 ma (sA (sA σ 8 ((σ.2 8).set (120 + (R.length)) (k331 : Int))) 7 ((σ.2 7).set (120 + (R.length)) cc))) fm604 => ?_)
                    refine ev_al (k_m_readsCode_1 55 rfl) rfl ?_
                    refine ev_bp (k_m_readsCode_1 56 rfl) ?_
                    refine ev_il (k_m_readsCode_1 57 rfl) rfl ?_
                    refine ev_cV (k_m_readsCode_1 58 rfl) rfl v_m_above hm604.1 rfl (c_m_above G ma _ _ hm604 120 (120 + (R.length)) (by (try simp only [sS]); omega) (by (try simp only [sS]); omega) (by show 0 ≤ gd ((σ.2 8).set (120 + R.length) _) (120 + R.length); rw [gd_set_eq _ (by (try simp only [sS]); omega)]; omega)) rfl (le_b rfl) (le_b rfl) (le_b rfl) k_n (k_I fun z605 h605 q605 => ?_)
                    obtain ⟨rfl, (rfl : z605 = abv (((σ.2 8).set (120 + (R.length)) (k331 : Int))) 120 (120 + (R.length)))⟩ := q605
                    rw [show abv _ _ _ = ou (upx R k331) from abv_O hs l8 (by omega) k331]
                    cases hU : upx R k331 with
                    | none =>
                        show ev _ _ _ _ _ _ _ _ (vI (-1) :: _) _ _ _
                        refine ev_isw (k_m_readsCode_1 59 rfl) (le_b rfl) (show ev _ _ _ _ _ _ 202 [some (vA (ma 0)), some (vI (p : Int)), some (vI (R.length : Int)), some (vI (120 + (R.length : Int))), some (vI (k331 : Int)), some (vI ((p : Int) + (k331 : Int))), some (vI (k595 : Int)), some (vI (-1))] _ _ _ _ from ?_)
                        refine ev_ilw (k_m_readsCode_2 0 rfl) rfl ?_
                        refine ev_if_ne (k_m_readsCode_2 1 rfl) (fun c606 => ?_) (fun c606 => ?_)
                        · refine ev_ilw (k_m_readsCode_2 5 rfl) rfl ?_
                          refine ev_if_le (k_m_readsCode_2 6 rfl) (fun c607 => ?_) (fun c607 => ?_)
                          · refine ev_il (k_m_readsCode_2 26 rfl) rfl ?_
                            refine ev_if_eq (k_m_readsCode_2 27 rfl) (fun c608 => ?_) (fun c608 => ?_)
                            · refine ev_ic (k_m_readsCode_2 45 rfl) ?_
                              refine ev_goto (k_m_readsCode_2 46 rfl) ?_
                              exact ev_zret (x := true) (k_m_readsCode_2 48 rfl) rfl (⟨true, rfl, _, hm604, fm604, Or.inr ⟨k331, k595, cc, by unfold pcod; rw [hk331]; unfold pcA; rw [if_neg (by rintro ⟨x, y⟩; first | omega | exact y ⟨by omega, by assumption⟩), if_neg (by split <;> omega), if_neg (by omega), if_neg (by omega), hk595]; unfold pcB; rw [if_neg (by omega), if_neg (by omega), if_neg (by omega), hcc]; unfold pcC; rw [if_neg (by rintro (⟨x, y⟩ | ⟨x, y⟩); omega; first | omega | (rw [upc_u hU] at y; exact absurd (Eq.trans y.symm (by assumption : _ = true)) (by decide)) | (rw [upc_s hU] at y; exact absurd (Eq.trans y.symm (by assumption : _ = true)) (by decide))), if_neg (by rintro ⟨x, y⟩; first | omega | exact absurd (Eq.trans y.symm (by assumption : _ = true)) (by decide))], rfl, rfl, hcb, by omega, by omega, hcc⟩⟩)
                            · refine ev_al (k_m_readsCode_2 28 rfl) rfl ?_
                              refine ev_get (v := vA (ma 7)) (k_m_readsCode_2 29 rfl) hm604.1 rfl ?_
                              refine ev_il (k_m_readsCode_2 30 rfl) rfl ?_
                              refine ev_lald (xs := ((σ.2 7).set (120 + (R.length)) cc)) (k_m_readsCode_2 31 rfl) (mr_a hm604 7 rfl) (by omega) (by simp only [List.length_set]; omega) (show ev _ _ _ _ _ _ _ _ (vL (gd ((σ.2 7).set (120 + (R.length)) cc) (120 + (R.length))) :: _) _ _ _ from ?_)
                              rw [gd_set_eq _ (by omega)]
                              refine ev_al (k_m_readsCode_2 32 rfl) rfl ?_
                              refine ev_get (v := vA (ma 7)) (k_m_readsCode_2 33 rfl) hm604.1 rfl ?_
                              refine ev_il (k_m_readsCode_2 34 rfl) rfl ?_
                              refine ev_ic (k_m_readsCode_2 35 rfl) ?_
                              refine ev_isub (k_m_readsCode_2 36 rfl) (by omega) ?_
                              refine ev_lald (xs := ((σ.2 7).set (120 + (R.length)) cc)) (k_m_readsCode_2 37 rfl) (mr_a hm604 7 rfl) (by omega) (by simp only [List.length_set]; omega) (show ev _ _ _ _ _ _ _ _ (vL (gd ((σ.2 7).set (120 + (R.length)) cc) ((120 + (R.length : Int)) - 1).toNat) :: _) _ _ _ from ?_)
                              rw [show ((120 + (R.length : Int)) - 1).toNat = 120 + (R.length - 1) by omega, gd_set_ne _ (by omega), (hs.2.2 (R.length - 1) (by omega)).1]
                              refine ev_cS (k_m_readsCode_2 38 rfl) rfl v_m_isBehind (c_m_isBehind G _ cc (rc R (R.length - 1)) (by (try simp only [sS]); omega) (by (try simp only [sS]); omega)) rfl (le_b rfl) (le_b rfl) (le_b rfl) k_n (k_B fun z609 h609 q609 => ?_)
                              obtain ⟨rfl, (rfl : z609 = (bhd cc (rc R (R.length - 1))))⟩ := q609
                              refine ev_b_ne (k_m_readsCode_2 39 rfl) (fun c610 => ?_) (fun c610 => ?_)
                              · refine ev_ic (k_m_readsCode_2 45 rfl) ?_
                                refine ev_goto (k_m_readsCode_2 46 rfl) ?_
                                exact ev_zret (x := true) (k_m_readsCode_2 48 rfl) rfl (⟨true, rfl, _, hm604, fm604, Or.inr ⟨k331, k595, cc, by unfold pcod; rw [hk331]; unfold pcA; rw [if_neg (by rintro ⟨x, y⟩; first | omega | exact y ⟨by omega, by assumption⟩), if_neg (by split <;> omega), if_neg (by omega), if_neg (by omega), hk595]; unfold pcB; rw [if_neg (by omega), if_neg (by omega), if_neg (by omega), hcc]; unfold pcC; rw [if_neg (by rintro (⟨x, y⟩ | ⟨x, y⟩); omega; first | omega | (rw [upc_u hU] at y; exact absurd (Eq.trans y.symm (by assumption : _ = true)) (by decide)) | (rw [upc_s hU] at y; exact absurd (Eq.trans y.symm (by assumption : _ = true)) (by decide))), if_neg (by rintro ⟨x, y⟩; first | omega | exact absurd (Eq.trans y.symm (by assumption : _ = true)) (by decide))], rfl, rfl, hcb, by omega, by omega, hcc⟩⟩)
                              · refine ev_al (k_m_readsCode_2 40 rfl) rfl ?_
                                refine ev_ic (k_m_readsCode_2 41 rfl) ?_
                                refine ev_ilw (k_m_readsCode_2 42 rfl) rfl ?_
                                refine ev_cV (k_m_readsCode_2 43 rfl) rfl v_m_fails hm604.1 rfl (c_m_fails G ma _ _ hm604 4 ((p : Int) + (k331 : Int))) rfl (le_b rfl) (le_b rfl) (le_b rfl) k_n (k_B fun z611 h611 q611 => ?_)
                                obtain ⟨rfl, hm611, fmx611⟩ := q611
                                have fm611 := fM_tr fm604 fmx611
                                refine ev_if_eq (k_m_readsCode_2 44 rfl) (fun _ => ?_) (fun c => absurd c (by decide))
                                refine ev_ic (k_m_readsCode_2 47 rfl) ?_
                                exact ev_zret (x := false) (k_m_readsCode_2 48 rfl) rfl (⟨false, rfl, _, hm611, fm611, Or.inl ⟨4, (p) + (k331), by first | (exfalso; omega) | (unfold pcod; rw [hk331]; unfold pcA; rw [if_neg (by rintro ⟨x, y⟩; first | omega | exact y ⟨by omega, by assumption⟩), if_neg (by split <;> omega), if_neg (by omega), if_neg (by omega), hk595]; unfold pcB; rw [if_neg (by omega), if_neg (by omega), if_neg (by omega), hcc]; unfold pcC; rw [if_neg (by rintro (⟨x, y⟩ | ⟨x, y⟩); omega; first | omega | (rw [upc_u hU] at y; exact absurd (Eq.trans y.symm (by assumption : _ = true)) (by decide)) | (rw [upc_s hU] at y; exact absurd (Eq.trans y.symm (by assumption : _ = true)) (by decide))), if_pos ⟨by omega, by assumption⟩]), rfl, by first | exact frd_tr (frd_S (Or.inl rfl)) (frd_S (Or.inr (Or.inl rfl))) | exact frd_tr (frd_tr (frd_A8 (by omega)) (frd_A7 (by omega))) (frd_tr (frd_S (Or.inl rfl)) (frd_S (Or.inr (Or.inl rfl)))), rfl, by simp [sS], by omega⟩⟩)
                          · refine ev_al (k_m_readsCode_2 7 rfl) rfl ?_
                            refine ev_get (v := vA (ma 7)) (k_m_readsCode_2 8 rfl) hm604.1 rfl ?_
                            refine ev_il (k_m_readsCode_2 9 rfl) rfl ?_
                            refine ev_lald (xs := ((σ.2 7).set (120 + (R.length)) cc)) (k_m_readsCode_2 10 rfl) (mr_a hm604 7 rfl) (by omega) (by simp only [List.length_set]; omega) (show ev _ _ _ _ _ _ _ _ (vL (gd ((σ.2 7).set (120 + (R.length)) cc) (120 + (R.length))) :: _) _ _ _ from ?_)
                            rw [gd_set_eq _ (by omega)]
                            refine ev_al (k_m_readsCode_2 11 rfl) rfl ?_
                            refine ev_get (v := vA (ma 7)) (k_m_readsCode_2 12 rfl) hm604.1 rfl ?_
                            refine ev_ilw (k_m_readsCode_2 13 rfl) rfl ?_
                            refine ev_if_ge (k_m_readsCode_2 14 rfl) (fun c => absurd c (by decide)) (fun _ => ?_)
                            refine ev_il (k_m_readsCode_2 15 rfl) rfl ?_
                            refine ev_goto (k_m_readsCode_2 16 rfl) ?_
                            refine ev_lald (xs := ((σ.2 7).set (120 + (R.length)) cc)) (k_m_readsCode_2 18 rfl) (mr_a hm604 7 rfl) (by omega) (by simp only [List.length_set]; omega) (show ev _ _ _ _ _ _ _ _ (vL (gd ((σ.2 7).set (120 + (R.length)) cc) (120 + (R.length))) :: _) _ _ _ from ?_)
                            rw [gd_set_eq _ (by omega)]
                            refine ev_cS (k_m_readsCode_2 19 rfl) rfl v_m_begins (c_m_begins G _ cc cc (by (try simp only [sS]); omega)) rfl (le_b rfl) (le_b rfl) (le_b rfl) k_n (k_B fun z614 h614 q614 => ?_)
                            obtain ⟨rfl, (rfl : z614 = (bgn cc cc))⟩ := q614
                            refine ev_b_ne (k_m_readsCode_2 20 rfl) (fun c615 => ?_) (fun c615 => ?_)
                            · refine ev_il (k_m_readsCode_2 26 rfl) rfl ?_
                              refine ev_if_eq (k_m_readsCode_2 27 rfl) (fun c616 => ?_) (fun c616 => ?_)
                              · refine ev_ic (k_m_readsCode_2 45 rfl) ?_
                                refine ev_goto (k_m_readsCode_2 46 rfl) ?_
                                exact ev_zret (x := true) (k_m_readsCode_2 48 rfl) rfl (⟨true, rfl, _, hm604, fm604, Or.inr ⟨k331, k595, cc, by unfold pcod; rw [hk331]; unfold pcA; rw [if_neg (by rintro ⟨x, y⟩; first | omega | exact y ⟨by omega, by assumption⟩), if_neg (by split <;> omega), if_neg (by omega), if_neg (by omega), hk595]; unfold pcB; rw [if_neg (by omega), if_neg (by omega), if_neg (by omega), hcc]; unfold pcC; rw [if_neg (by rintro (⟨x, y⟩ | ⟨x, y⟩); omega; first | omega | (rw [upc_u hU] at y; exact absurd (Eq.trans y.symm (by assumption : _ = true)) (by decide)) | (rw [upc_s hU] at y; exact absurd (Eq.trans y.symm (by assumption : _ = true)) (by decide))), if_neg (by rintro ⟨x, y⟩; first | omega | exact absurd (Eq.trans y.symm (by assumption : _ = true)) (by decide))], rfl, rfl, hcb, by omega, by omega, hcc⟩⟩)
                              · refine ev_al (k_m_readsCode_2 28 rfl) rfl ?_
                                refine ev_get (v := vA (ma 7)) (k_m_readsCode_2 29 rfl) hm604.1 rfl ?_
                                refine ev_il (k_m_readsCode_2 30 rfl) rfl ?_
                                refine ev_lald (xs := ((σ.2 7).set (120 + (R.length)) cc)) (k_m_readsCode_2 31 rfl) (mr_a hm604 7 rfl) (by omega) (by simp only [List.length_set]; omega) (show ev _ _ _ _ _ _ _ _ (vL (gd ((σ.2 7).set (120 + (R.length)) cc) (120 + (R.length))) :: _) _ _ _ from ?_)
                                rw [gd_set_eq _ (by omega)]
                                refine ev_al (k_m_readsCode_2 32 rfl) rfl ?_
                                refine ev_get (v := vA (ma 7)) (k_m_readsCode_2 33 rfl) hm604.1 rfl ?_
                                refine ev_il (k_m_readsCode_2 34 rfl) rfl ?_
                                refine ev_ic (k_m_readsCode_2 35 rfl) ?_
                                refine ev_isub (k_m_readsCode_2 36 rfl) (by omega) ?_
                                refine ev_lald (xs := ((σ.2 7).set (120 + (R.length)) cc)) (k_m_readsCode_2 37 rfl) (mr_a hm604 7 rfl) (by omega) (by simp only [List.length_set]; omega) (show ev _ _ _ _ _ _ _ _ (vL (gd ((σ.2 7).set (120 + (R.length)) cc) ((120 + (R.length : Int)) - 1).toNat) :: _) _ _ _ from ?_)
                                rw [show ((120 + (R.length : Int)) - 1).toNat = 120 + (R.length - 1) by omega, gd_set_ne _ (by omega), (hs.2.2 (R.length - 1) (by omega)).1]
                                refine ev_cS (k_m_readsCode_2 38 rfl) rfl v_m_isBehind (c_m_isBehind G _ cc (rc R (R.length - 1)) (by (try simp only [sS]); omega) (by (try simp only [sS]); omega)) rfl (le_b rfl) (le_b rfl) (le_b rfl) k_n (k_B fun z617 h617 q617 => ?_)
                                obtain ⟨rfl, (rfl : z617 = (bhd cc (rc R (R.length - 1))))⟩ := q617
                                refine ev_b_ne (k_m_readsCode_2 39 rfl) (fun c618 => ?_) (fun c618 => ?_)
                                · refine ev_ic (k_m_readsCode_2 45 rfl) ?_
                                  refine ev_goto (k_m_readsCode_2 46 rfl) ?_
                                  exact ev_zret (x := true) (k_m_readsCode_2 48 rfl) rfl (⟨true, rfl, _, hm604, fm604, Or.inr ⟨k331, k595, cc, by unfold pcod; rw [hk331]; unfold pcA; rw [if_neg (by rintro ⟨x, y⟩; first | omega | exact y ⟨by omega, by assumption⟩), if_neg (by split <;> omega), if_neg (by omega), if_neg (by omega), hk595]; unfold pcB; rw [if_neg (by omega), if_neg (by omega), if_neg (by omega), hcc]; unfold pcC; rw [if_neg (by rintro (⟨x, y⟩ | ⟨x, y⟩); omega; first | omega | (rw [upc_u hU] at y; exact absurd (Eq.trans y.symm (by assumption : _ = true)) (by decide)) | (rw [upc_s hU] at y; exact absurd (Eq.trans y.symm (by assumption : _ = true)) (by decide))), if_neg (by rintro ⟨x, y⟩; first | omega | exact absurd (Eq.trans y.symm (by assumption : _ = true)) (by decide))], rfl, rfl, hcb, by omega, by omega, hcc⟩⟩)
                                · refine ev_al (k_m_readsCode_2 40 rfl) rfl ?_
                                  refine ev_ic (k_m_readsCode_2 41 rfl) ?_
                                  refine ev_ilw (k_m_readsCode_2 42 rfl) rfl ?_
                                  refine ev_cV (k_m_readsCode_2 43 rfl) rfl v_m_fails hm604.1 rfl (c_m_fails G ma _ _ hm604 4 ((p : Int) + (k331 : Int))) rfl (le_b rfl) (le_b rfl) (le_b rfl) k_n (k_B fun z619 h619 q619 => ?_)
                                  obtain ⟨rfl, hm619, fmx619⟩ := q619
                                  have fm619 := fM_tr fm604 fmx619
                                  refine ev_if_eq (k_m_readsCode_2 44 rfl) (fun _ => ?_) (fun c => absurd c (by decide))
                                  refine ev_ic (k_m_readsCode_2 47 rfl) ?_
                                  exact ev_zret (x := false) (k_m_readsCode_2 48 rfl) rfl (⟨false, rfl, _, hm619, fm619, Or.inl ⟨4, (p) + (k331), by first | (exfalso; omega) | (unfold pcod; rw [hk331]; unfold pcA; rw [if_neg (by rintro ⟨x, y⟩; first | omega | exact y ⟨by omega, by assumption⟩), if_neg (by split <;> omega), if_neg (by omega), if_neg (by omega), hk595]; unfold pcB; rw [if_neg (by omega), if_neg (by omega), if_neg (by omega), hcc]; unfold pcC; rw [if_neg (by rintro (⟨x, y⟩ | ⟨x, y⟩); omega; first | omega | (rw [upc_u hU] at y; exact absurd (Eq.trans y.symm (by assumption : _ = true)) (by decide)) | (rw [upc_s hU] at y; exact absurd (Eq.trans y.symm (by assumption : _ = true)) (by decide))), if_pos ⟨by omega, by assumption⟩]), rfl, by first | exact frd_tr (frd_S (Or.inl rfl)) (frd_S (Or.inr (Or.inl rfl))) | exact frd_tr (frd_tr (frd_A8 (by omega)) (frd_A7 (by omega))) (frd_tr (frd_S (Or.inl rfl)) (frd_S (Or.inr (Or.inl rfl)))), rfl, by simp [sS], by omega⟩⟩)
                            · refine ev_al (k_m_readsCode_2 21 rfl) rfl ?_
                              refine ev_ic (k_m_readsCode_2 22 rfl) ?_
                              refine ev_ilw (k_m_readsCode_2 23 rfl) rfl ?_
                              refine ev_cV (k_m_readsCode_2 24 rfl) rfl v_m_fails hm604.1 rfl (c_m_fails G ma _ _ hm604 3 ((p : Int) + (k331 : Int))) rfl (le_b rfl) (le_b rfl) (le_b rfl) k_n (k_B fun z621 h621 q621 => ?_)
                              obtain ⟨rfl, hm621, fmx621⟩ := q621
                              have fm621 := fM_tr fm604 fmx621
                              exact ev_zret (x := false) (k_m_readsCode_2 25 rfl) rfl (⟨false, rfl, _, hm621, fm621, Or.inl ⟨3, (p) + (k331), by first | (exfalso; omega) | (unfold pcod; rw [hk331]; unfold pcA; rw [if_neg (by rintro ⟨x, y⟩; first | omega | exact y ⟨by omega, by assumption⟩), if_neg (by split <;> omega), if_neg (by omega), if_neg (by omega), hk595]; unfold pcB; rw [if_neg (by omega), if_neg (by omega), if_neg (by omega), hcc]; unfold pcC; rw [if_pos (by first | exact Or.inl ⟨by omega, by omega⟩ | exact Or.inr ⟨by omega, by rw [upc_u hU]; assumption⟩ | exact Or.inr ⟨by omega, by rw [upc_s hU]; assumption⟩)]), rfl, by first | exact frd_tr (frd_S (Or.inl rfl)) (frd_S (Or.inr (Or.inl rfl))) | exact frd_tr (frd_tr (frd_A8 (by omega)) (frd_A7 (by omega))) (frd_tr (frd_S (Or.inl rfl)) (frd_S (Or.inr (Or.inl rfl)))), rfl, by simp [sS], by omega⟩⟩)
                        · refine ev_ilw (k_m_readsCode_2 2 rfl) rfl ?_
                          refine ev_ic (k_m_readsCode_2 3 rfl) ?_
                          refine ev_ic_ne (k_m_readsCode_2 4 rfl) (fun c622 => ?_) (fun c622 => ?_)
                          · refine ev_al (k_m_readsCode_2 21 rfl) rfl ?_
                            refine ev_ic (k_m_readsCode_2 22 rfl) ?_
                            refine ev_ilw (k_m_readsCode_2 23 rfl) rfl ?_
                            refine ev_cV (k_m_readsCode_2 24 rfl) rfl v_m_fails hm604.1 rfl (c_m_fails G ma _ _ hm604 3 ((p : Int) + (k331 : Int))) rfl (le_b rfl) (le_b rfl) (le_b rfl) k_n (k_B fun z623 h623 q623 => ?_)
                            obtain ⟨rfl, hm623, fmx623⟩ := q623
                            have fm623 := fM_tr fm604 fmx623
                            exact ev_zret (x := false) (k_m_readsCode_2 25 rfl) rfl (⟨false, rfl, _, hm623, fm623, Or.inl ⟨3, (p) + (k331), by first | (exfalso; omega) | (unfold pcod; rw [hk331]; unfold pcA; rw [if_neg (by rintro ⟨x, y⟩; first | omega | exact y ⟨by omega, by assumption⟩), if_neg (by split <;> omega), if_neg (by omega), if_neg (by omega), hk595]; unfold pcB; rw [if_neg (by omega), if_neg (by omega), if_neg (by omega), hcc]; unfold pcC; rw [if_pos (by first | exact Or.inl ⟨by omega, by omega⟩ | exact Or.inr ⟨by omega, by rw [upc_u hU]; assumption⟩ | exact Or.inr ⟨by omega, by rw [upc_s hU]; assumption⟩)]), rfl, by first | exact frd_tr (frd_S (Or.inl rfl)) (frd_S (Or.inr (Or.inl rfl))) | exact frd_tr (frd_tr (frd_A8 (by omega)) (frd_A7 (by omega))) (frd_tr (frd_S (Or.inl rfl)) (frd_S (Or.inr (Or.inl rfl)))), rfl, by simp [sS], by omega⟩⟩)
                          · refine ev_ilw (k_m_readsCode_2 5 rfl) rfl ?_
                            refine ev_if_le (k_m_readsCode_2 6 rfl) (fun c624 => ?_) (fun c624 => ?_)
                            · refine ev_il (k_m_readsCode_2 26 rfl) rfl ?_
                              refine ev_if_eq (k_m_readsCode_2 27 rfl) (fun c625 => ?_) (fun c625 => ?_)
                              · refine ev_ic (k_m_readsCode_2 45 rfl) ?_
                                refine ev_goto (k_m_readsCode_2 46 rfl) ?_
                                exact ev_zret (x := true) (k_m_readsCode_2 48 rfl) rfl (⟨true, rfl, _, hm604, fm604, Or.inr ⟨k331, k595, cc, by unfold pcod; rw [hk331]; unfold pcA; rw [if_neg (by rintro ⟨x, y⟩; first | omega | exact y ⟨by omega, by assumption⟩), if_neg (by split <;> omega), if_neg (by omega), if_neg (by omega), hk595]; unfold pcB; rw [if_neg (by omega), if_neg (by omega), if_neg (by omega), hcc]; unfold pcC; rw [if_neg (by rintro (⟨x, y⟩ | ⟨x, y⟩); omega; first | omega | (rw [upc_u hU] at y; exact absurd (Eq.trans y.symm (by assumption : _ = true)) (by decide)) | (rw [upc_s hU] at y; exact absurd (Eq.trans y.symm (by assumption : _ = true)) (by decide))), if_neg (by rintro ⟨x, y⟩; first | omega | exact absurd (Eq.trans y.symm (by assumption : _ = true)) (by decide))], rfl, rfl, hcb, by omega, by omega, hcc⟩⟩)
                              · refine ev_al (k_m_readsCode_2 28 rfl) rfl ?_
                                refine ev_get (v := vA (ma 7)) (k_m_readsCode_2 29 rfl) hm604.1 rfl ?_
                                refine ev_il (k_m_readsCode_2 30 rfl) rfl ?_
                                refine ev_lald (xs := ((σ.2 7).set (120 + (R.length)) cc)) (k_m_readsCode_2 31 rfl) (mr_a hm604 7 rfl) (by omega) (by simp only [List.length_set]; omega) (show ev _ _ _ _ _ _ _ _ (vL (gd ((σ.2 7).set (120 + (R.length)) cc) (120 + (R.length))) :: _) _ _ _ from ?_)
                                rw [gd_set_eq _ (by omega)]
                                refine ev_al (k_m_readsCode_2 32 rfl) rfl ?_
                                refine ev_get (v := vA (ma 7)) (k_m_readsCode_2 33 rfl) hm604.1 rfl ?_
                                refine ev_il (k_m_readsCode_2 34 rfl) rfl ?_
                                refine ev_ic (k_m_readsCode_2 35 rfl) ?_
                                refine ev_isub (k_m_readsCode_2 36 rfl) (by omega) ?_
                                refine ev_lald (xs := ((σ.2 7).set (120 + (R.length)) cc)) (k_m_readsCode_2 37 rfl) (mr_a hm604 7 rfl) (by omega) (by simp only [List.length_set]; omega) (show ev _ _ _ _ _ _ _ _ (vL (gd ((σ.2 7).set (120 + (R.length)) cc) ((120 + (R.length : Int)) - 1).toNat) :: _) _ _ _ from ?_)
                                rw [show ((120 + (R.length : Int)) - 1).toNat = 120 + (R.length - 1) by omega, gd_set_ne _ (by omega), (hs.2.2 (R.length - 1) (by omega)).1]
                                refine ev_cS (k_m_readsCode_2 38 rfl) rfl v_m_isBehind (c_m_isBehind G _ cc (rc R (R.length - 1)) (by (try simp only [sS]); omega) (by (try simp only [sS]); omega)) rfl (le_b rfl) (le_b rfl) (le_b rfl) k_n (k_B fun z626 h626 q626 => ?_)
                                obtain ⟨rfl, (rfl : z626 = (bhd cc (rc R (R.length - 1))))⟩ := q626
                                refine ev_b_ne (k_m_readsCode_2 39 rfl) (fun c627 => ?_) (fun c627 => ?_)
                                · refine ev_ic (k_m_readsCode_2 45 rfl) ?_
                                  refine ev_goto (k_m_readsCode_2 46 rfl) ?_
                                  exact ev_zret (x := true) (k_m_readsCode_2 48 rfl) rfl (⟨true, rfl, _, hm604, fm604, Or.inr ⟨k331, k595, cc, by unfold pcod; rw [hk331]; unfold pcA; rw [if_neg (by rintro ⟨x, y⟩; first | omega | exact y ⟨by omega, by assumption⟩), if_neg (by split <;> omega), if_neg (by omega), if_neg (by omega), hk595]; unfold pcB; rw [if_neg (by omega), if_neg (by omega), if_neg (by omega), hcc]; unfold pcC; rw [if_neg (by rintro (⟨x, y⟩ | ⟨x, y⟩); omega; first | omega | (rw [upc_u hU] at y; exact absurd (Eq.trans y.symm (by assumption : _ = true)) (by decide)) | (rw [upc_s hU] at y; exact absurd (Eq.trans y.symm (by assumption : _ = true)) (by decide))), if_neg (by rintro ⟨x, y⟩; first | omega | exact absurd (Eq.trans y.symm (by assumption : _ = true)) (by decide))], rfl, rfl, hcb, by omega, by omega, hcc⟩⟩)
                                · refine ev_al (k_m_readsCode_2 40 rfl) rfl ?_
                                  refine ev_ic (k_m_readsCode_2 41 rfl) ?_
                                  refine ev_ilw (k_m_readsCode_2 42 rfl) rfl ?_
                                  refine ev_cV (k_m_readsCode_2 43 rfl) rfl v_m_fails hm604.1 rfl (c_m_fails G ma _ _ hm604 4 ((p : Int) + (k331 : Int))) rfl (le_b rfl) (le_b rfl) (le_b rfl) k_n (k_B fun z628 h628 q628 => ?_)
                                  obtain ⟨rfl, hm628, fmx628⟩ := q628
                                  have fm628 := fM_tr fm604 fmx628
                                  refine ev_if_eq (k_m_readsCode_2 44 rfl) (fun _ => ?_) (fun c => absurd c (by decide))
                                  refine ev_ic (k_m_readsCode_2 47 rfl) ?_
                                  exact ev_zret (x := false) (k_m_readsCode_2 48 rfl) rfl (⟨false, rfl, _, hm628, fm628, Or.inl ⟨4, (p) + (k331), by first | (exfalso; omega) | (unfold pcod; rw [hk331]; unfold pcA; rw [if_neg (by rintro ⟨x, y⟩; first | omega | exact y ⟨by omega, by assumption⟩), if_neg (by split <;> omega), if_neg (by omega), if_neg (by omega), hk595]; unfold pcB; rw [if_neg (by omega), if_neg (by omega), if_neg (by omega), hcc]; unfold pcC; rw [if_neg (by rintro (⟨x, y⟩ | ⟨x, y⟩); omega; first | omega | (rw [upc_u hU] at y; exact absurd (Eq.trans y.symm (by assumption : _ = true)) (by decide)) | (rw [upc_s hU] at y; exact absurd (Eq.trans y.symm (by assumption : _ = true)) (by decide))), if_pos ⟨by omega, by assumption⟩]), rfl, by first | exact frd_tr (frd_S (Or.inl rfl)) (frd_S (Or.inr (Or.inl rfl))) | exact frd_tr (frd_tr (frd_A8 (by omega)) (frd_A7 (by omega))) (frd_tr (frd_S (Or.inl rfl)) (frd_S (Or.inr (Or.inl rfl)))), rfl, by simp [sS], by omega⟩⟩)
                            · refine ev_al (k_m_readsCode_2 7 rfl) rfl ?_
                              refine ev_get (v := vA (ma 7)) (k_m_readsCode_2 8 rfl) hm604.1 rfl ?_
                              refine ev_il (k_m_readsCode_2 9 rfl) rfl ?_
                              refine ev_lald (xs := ((σ.2 7).set (120 + (R.length)) cc)) (k_m_readsCode_2 10 rfl) (mr_a hm604 7 rfl) (by omega) (by simp only [List.length_set]; omega) (show ev _ _ _ _ _ _ _ _ (vL (gd ((σ.2 7).set (120 + (R.length)) cc) (120 + (R.length))) :: _) _ _ _ from ?_)
                              rw [gd_set_eq _ (by omega)]
                              refine ev_al (k_m_readsCode_2 11 rfl) rfl ?_
                              refine ev_get (v := vA (ma 7)) (k_m_readsCode_2 12 rfl) hm604.1 rfl ?_
                              refine ev_ilw (k_m_readsCode_2 13 rfl) rfl ?_
                              refine ev_if_ge (k_m_readsCode_2 14 rfl) (fun c => absurd c (by decide)) (fun _ => ?_)
                              refine ev_il (k_m_readsCode_2 15 rfl) rfl ?_
                              refine ev_goto (k_m_readsCode_2 16 rfl) ?_
                              refine ev_lald (xs := ((σ.2 7).set (120 + (R.length)) cc)) (k_m_readsCode_2 18 rfl) (mr_a hm604 7 rfl) (by omega) (by simp only [List.length_set]; omega) (show ev _ _ _ _ _ _ _ _ (vL (gd ((σ.2 7).set (120 + (R.length)) cc) (120 + (R.length))) :: _) _ _ _ from ?_)
                              rw [gd_set_eq _ (by omega)]
                              refine ev_cS (k_m_readsCode_2 19 rfl) rfl v_m_begins (c_m_begins G _ cc cc (by (try simp only [sS]); omega)) rfl (le_b rfl) (le_b rfl) (le_b rfl) k_n (k_B fun z631 h631 q631 => ?_)
                              obtain ⟨rfl, (rfl : z631 = (bgn cc cc))⟩ := q631
                              refine ev_b_ne (k_m_readsCode_2 20 rfl) (fun c632 => ?_) (fun c632 => ?_)
                              · refine ev_il (k_m_readsCode_2 26 rfl) rfl ?_
                                refine ev_if_eq (k_m_readsCode_2 27 rfl) (fun c633 => ?_) (fun c633 => ?_)
                                · refine ev_ic (k_m_readsCode_2 45 rfl) ?_
                                  refine ev_goto (k_m_readsCode_2 46 rfl) ?_
                                  exact ev_zret (x := true) (k_m_readsCode_2 48 rfl) rfl (⟨true, rfl, _, hm604, fm604, Or.inr ⟨k331, k595, cc, by unfold pcod; rw [hk331]; unfold pcA; rw [if_neg (by rintro ⟨x, y⟩; first | omega | exact y ⟨by omega, by assumption⟩), if_neg (by split <;> omega), if_neg (by omega), if_neg (by omega), hk595]; unfold pcB; rw [if_neg (by omega), if_neg (by omega), if_neg (by omega), hcc]; unfold pcC; rw [if_neg (by rintro (⟨x, y⟩ | ⟨x, y⟩); omega; first | omega | (rw [upc_u hU] at y; exact absurd (Eq.trans y.symm (by assumption : _ = true)) (by decide)) | (rw [upc_s hU] at y; exact absurd (Eq.trans y.symm (by assumption : _ = true)) (by decide))), if_neg (by rintro ⟨x, y⟩; first | omega | exact absurd (Eq.trans y.symm (by assumption : _ = true)) (by decide))], rfl, rfl, hcb, by omega, by omega, hcc⟩⟩)
                                · refine ev_al (k_m_readsCode_2 28 rfl) rfl ?_
                                  refine ev_get (v := vA (ma 7)) (k_m_readsCode_2 29 rfl) hm604.1 rfl ?_
                                  refine ev_il (k_m_readsCode_2 30 rfl) rfl ?_
                                  refine ev_lald (xs := ((σ.2 7).set (120 + (R.length)) cc)) (k_m_readsCode_2 31 rfl) (mr_a hm604 7 rfl) (by omega) (by simp only [List.length_set]; omega) (show ev _ _ _ _ _ _ _ _ (vL (gd ((σ.2 7).set (120 + (R.length)) cc) (120 + (R.length))) :: _) _ _ _ from ?_)
                                  rw [gd_set_eq _ (by omega)]
                                  refine ev_al (k_m_readsCode_2 32 rfl) rfl ?_
                                  refine ev_get (v := vA (ma 7)) (k_m_readsCode_2 33 rfl) hm604.1 rfl ?_
                                  refine ev_il (k_m_readsCode_2 34 rfl) rfl ?_
                                  refine ev_ic (k_m_readsCode_2 35 rfl) ?_
                                  refine ev_isub (k_m_readsCode_2 36 rfl) (by omega) ?_
                                  refine ev_lald (xs := ((σ.2 7).set (120 + (R.length)) cc)) (k_m_readsCode_2 37 rfl) (mr_a hm604 7 rfl) (by omega) (by simp only [List.length_set]; omega) (show ev _ _ _ _ _ _ _ _ (vL (gd ((σ.2 7).set (120 + (R.length)) cc) ((120 + (R.length : Int)) - 1).toNat) :: _) _ _ _ from ?_)
                                  rw [show ((120 + (R.length : Int)) - 1).toNat = 120 + (R.length - 1) by omega, gd_set_ne _ (by omega), (hs.2.2 (R.length - 1) (by omega)).1]
                                  refine ev_cS (k_m_readsCode_2 38 rfl) rfl v_m_isBehind (c_m_isBehind G _ cc (rc R (R.length - 1)) (by (try simp only [sS]); omega) (by (try simp only [sS]); omega)) rfl (le_b rfl) (le_b rfl) (le_b rfl) k_n (k_B fun z634 h634 q634 => ?_)
                                  obtain ⟨rfl, (rfl : z634 = (bhd cc (rc R (R.length - 1))))⟩ := q634
                                  refine ev_b_ne (k_m_readsCode_2 39 rfl) (fun c635 => ?_) (fun c635 => ?_)
                                  · refine ev_ic (k_m_readsCode_2 45 rfl) ?_
                                    refine ev_goto (k_m_readsCode_2 46 rfl) ?_
                                    exact ev_zret (x := true) (k_m_readsCode_2 48 rfl) rfl (⟨true, rfl, _, hm604, fm604, Or.inr ⟨k331, k595, cc, by unfold pcod; rw [hk331]; unfold pcA; rw [if_neg (by rintro ⟨x, y⟩; first | omega | exact y ⟨by omega, by assumption⟩), if_neg (by split <;> omega), if_neg (by omega), if_neg (by omega), hk595]; unfold pcB; rw [if_neg (by omega), if_neg (by omega), if_neg (by omega), hcc]; unfold pcC; rw [if_neg (by rintro (⟨x, y⟩ | ⟨x, y⟩); omega; first | omega | (rw [upc_u hU] at y; exact absurd (Eq.trans y.symm (by assumption : _ = true)) (by decide)) | (rw [upc_s hU] at y; exact absurd (Eq.trans y.symm (by assumption : _ = true)) (by decide))), if_neg (by rintro ⟨x, y⟩; first | omega | exact absurd (Eq.trans y.symm (by assumption : _ = true)) (by decide))], rfl, rfl, hcb, by omega, by omega, hcc⟩⟩)
                                  · refine ev_al (k_m_readsCode_2 40 rfl) rfl ?_
                                    refine ev_ic (k_m_readsCode_2 41 rfl) ?_
                                    refine ev_ilw (k_m_readsCode_2 42 rfl) rfl ?_
                                    refine ev_cV (k_m_readsCode_2 43 rfl) rfl v_m_fails hm604.1 rfl (c_m_fails G ma _ _ hm604 4 ((p : Int) + (k331 : Int))) rfl (le_b rfl) (le_b rfl) (le_b rfl) k_n (k_B fun z636 h636 q636 => ?_)
                                    obtain ⟨rfl, hm636, fmx636⟩ := q636
                                    have fm636 := fM_tr fm604 fmx636
                                    refine ev_if_eq (k_m_readsCode_2 44 rfl) (fun _ => ?_) (fun c => absurd c (by decide))
                                    refine ev_ic (k_m_readsCode_2 47 rfl) ?_
                                    exact ev_zret (x := false) (k_m_readsCode_2 48 rfl) rfl (⟨false, rfl, _, hm636, fm636, Or.inl ⟨4, (p) + (k331), by first | (exfalso; omega) | (unfold pcod; rw [hk331]; unfold pcA; rw [if_neg (by rintro ⟨x, y⟩; first | omega | exact y ⟨by omega, by assumption⟩), if_neg (by split <;> omega), if_neg (by omega), if_neg (by omega), hk595]; unfold pcB; rw [if_neg (by omega), if_neg (by omega), if_neg (by omega), hcc]; unfold pcC; rw [if_neg (by rintro (⟨x, y⟩ | ⟨x, y⟩); omega; first | omega | (rw [upc_u hU] at y; exact absurd (Eq.trans y.symm (by assumption : _ = true)) (by decide)) | (rw [upc_s hU] at y; exact absurd (Eq.trans y.symm (by assumption : _ = true)) (by decide))), if_pos ⟨by omega, by assumption⟩]), rfl, by first | exact frd_tr (frd_S (Or.inl rfl)) (frd_S (Or.inr (Or.inl rfl))) | exact frd_tr (frd_tr (frd_A8 (by omega)) (frd_A7 (by omega))) (frd_tr (frd_S (Or.inl rfl)) (frd_S (Or.inr (Or.inl rfl)))), rfl, by simp [sS], by omega⟩⟩)
                              · refine ev_al (k_m_readsCode_2 21 rfl) rfl ?_
                                refine ev_ic (k_m_readsCode_2 22 rfl) ?_
                                refine ev_ilw (k_m_readsCode_2 23 rfl) rfl ?_
                                refine ev_cV (k_m_readsCode_2 24 rfl) rfl v_m_fails hm604.1 rfl (c_m_fails G ma _ _ hm604 3 ((p : Int) + (k331 : Int))) rfl (le_b rfl) (le_b rfl) (le_b rfl) k_n (k_B fun z638 h638 q638 => ?_)
                                obtain ⟨rfl, hm638, fmx638⟩ := q638
                                have fm638 := fM_tr fm604 fmx638
                                exact ev_zret (x := false) (k_m_readsCode_2 25 rfl) rfl (⟨false, rfl, _, hm638, fm638, Or.inl ⟨3, (p) + (k331), by first | (exfalso; omega) | (unfold pcod; rw [hk331]; unfold pcA; rw [if_neg (by rintro ⟨x, y⟩; first | omega | exact y ⟨by omega, by assumption⟩), if_neg (by split <;> omega), if_neg (by omega), if_neg (by omega), hk595]; unfold pcB; rw [if_neg (by omega), if_neg (by omega), if_neg (by omega), hcc]; unfold pcC; rw [if_pos (by first | exact Or.inl ⟨by omega, by omega⟩ | exact Or.inr ⟨by omega, by rw [upc_u hU]; assumption⟩ | exact Or.inr ⟨by omega, by rw [upc_s hU]; assumption⟩)]), rfl, by first | exact frd_tr (frd_S (Or.inl rfl)) (frd_S (Or.inr (Or.inl rfl))) | exact frd_tr (frd_tr (frd_A8 (by omega)) (frd_A7 (by omega))) (frd_tr (frd_S (Or.inl rfl)) (frd_S (Or.inr (Or.inl rfl)))), rfl, by simp [sS], by omega⟩⟩)
                    | some j =>
                        show ev _ _ _ _ _ _ _ _ (vI ((120 + j : Nat) : Int) :: _) _ _ _
                        have huj := upx_lt hU
                        refine ev_isw (k_m_readsCode_1 59 rfl) (le_b rfl) (show ev _ _ _ _ _ _ 202 [some (vA (ma 0)), some (vI (p : Int)), some (vI (R.length : Int)), some (vI (120 + (R.length : Int))), some (vI (k331 : Int)), some (vI ((p : Int) + (k331 : Int))), some (vI (k595 : Int)), some (vI ((120 + j : Nat) : Int))] _ _ _ _ from ?_)
                        refine ev_ilw (k_m_readsCode_2 0 rfl) rfl ?_
                        refine ev_if_ne (k_m_readsCode_2 1 rfl) (fun c639 => ?_) (fun c639 => ?_)
                        · refine ev_ilw (k_m_readsCode_2 5 rfl) rfl ?_
                          refine ev_if_le (k_m_readsCode_2 6 rfl) (fun c640 => ?_) (fun c640 => ?_)
                          · refine ev_il (k_m_readsCode_2 26 rfl) rfl ?_
                            refine ev_if_eq (k_m_readsCode_2 27 rfl) (fun c641 => ?_) (fun c641 => ?_)
                            · refine ev_ic (k_m_readsCode_2 45 rfl) ?_
                              refine ev_goto (k_m_readsCode_2 46 rfl) ?_
                              exact ev_zret (x := true) (k_m_readsCode_2 48 rfl) rfl (⟨true, rfl, _, hm604, fm604, Or.inr ⟨k331, k595, cc, by unfold pcod; rw [hk331]; unfold pcA; rw [if_neg (by rintro ⟨x, y⟩; first | omega | exact y ⟨by omega, by assumption⟩), if_neg (by split <;> omega), if_neg (by omega), if_neg (by omega), hk595]; unfold pcB; rw [if_neg (by omega), if_neg (by omega), if_neg (by omega), hcc]; unfold pcC; rw [if_neg (by rintro (⟨x, y⟩ | ⟨x, y⟩); omega; first | omega | (rw [upc_u hU] at y; exact absurd (Eq.trans y.symm (by assumption : _ = true)) (by decide)) | (rw [upc_s hU] at y; exact absurd (Eq.trans y.symm (by assumption : _ = true)) (by decide))), if_neg (by rintro ⟨x, y⟩; first | omega | exact absurd (Eq.trans y.symm (by assumption : _ = true)) (by decide))], rfl, rfl, hcb, by omega, by omega, hcc⟩⟩)
                            · refine ev_al (k_m_readsCode_2 28 rfl) rfl ?_
                              refine ev_get (v := vA (ma 7)) (k_m_readsCode_2 29 rfl) hm604.1 rfl ?_
                              refine ev_il (k_m_readsCode_2 30 rfl) rfl ?_
                              refine ev_lald (xs := ((σ.2 7).set (120 + (R.length)) cc)) (k_m_readsCode_2 31 rfl) (mr_a hm604 7 rfl) (by omega) (by simp only [List.length_set]; omega) (show ev _ _ _ _ _ _ _ _ (vL (gd ((σ.2 7).set (120 + (R.length)) cc) (120 + (R.length))) :: _) _ _ _ from ?_)
                              rw [gd_set_eq _ (by omega)]
                              refine ev_al (k_m_readsCode_2 32 rfl) rfl ?_
                              refine ev_get (v := vA (ma 7)) (k_m_readsCode_2 33 rfl) hm604.1 rfl ?_
                              refine ev_il (k_m_readsCode_2 34 rfl) rfl ?_
                              refine ev_ic (k_m_readsCode_2 35 rfl) ?_
                              refine ev_isub (k_m_readsCode_2 36 rfl) (by omega) ?_
                              refine ev_lald (xs := ((σ.2 7).set (120 + (R.length)) cc)) (k_m_readsCode_2 37 rfl) (mr_a hm604 7 rfl) (by omega) (by simp only [List.length_set]; omega) (show ev _ _ _ _ _ _ _ _ (vL (gd ((σ.2 7).set (120 + (R.length)) cc) ((120 + (R.length : Int)) - 1).toNat) :: _) _ _ _ from ?_)
                              rw [show ((120 + (R.length : Int)) - 1).toNat = 120 + (R.length - 1) by omega, gd_set_ne _ (by omega), (hs.2.2 (R.length - 1) (by omega)).1]
                              refine ev_cS (k_m_readsCode_2 38 rfl) rfl v_m_isBehind (c_m_isBehind G _ cc (rc R (R.length - 1)) (by (try simp only [sS]); omega) (by (try simp only [sS]); omega)) rfl (le_b rfl) (le_b rfl) (le_b rfl) k_n (k_B fun z642 h642 q642 => ?_)
                              obtain ⟨rfl, (rfl : z642 = (bhd cc (rc R (R.length - 1))))⟩ := q642
                              refine ev_b_ne (k_m_readsCode_2 39 rfl) (fun c643 => ?_) (fun c643 => ?_)
                              · refine ev_ic (k_m_readsCode_2 45 rfl) ?_
                                refine ev_goto (k_m_readsCode_2 46 rfl) ?_
                                exact ev_zret (x := true) (k_m_readsCode_2 48 rfl) rfl (⟨true, rfl, _, hm604, fm604, Or.inr ⟨k331, k595, cc, by unfold pcod; rw [hk331]; unfold pcA; rw [if_neg (by rintro ⟨x, y⟩; first | omega | exact y ⟨by omega, by assumption⟩), if_neg (by split <;> omega), if_neg (by omega), if_neg (by omega), hk595]; unfold pcB; rw [if_neg (by omega), if_neg (by omega), if_neg (by omega), hcc]; unfold pcC; rw [if_neg (by rintro (⟨x, y⟩ | ⟨x, y⟩); omega; first | omega | (rw [upc_u hU] at y; exact absurd (Eq.trans y.symm (by assumption : _ = true)) (by decide)) | (rw [upc_s hU] at y; exact absurd (Eq.trans y.symm (by assumption : _ = true)) (by decide))), if_neg (by rintro ⟨x, y⟩; first | omega | exact absurd (Eq.trans y.symm (by assumption : _ = true)) (by decide))], rfl, rfl, hcb, by omega, by omega, hcc⟩⟩)
                              · refine ev_al (k_m_readsCode_2 40 rfl) rfl ?_
                                refine ev_ic (k_m_readsCode_2 41 rfl) ?_
                                refine ev_ilw (k_m_readsCode_2 42 rfl) rfl ?_
                                refine ev_cV (k_m_readsCode_2 43 rfl) rfl v_m_fails hm604.1 rfl (c_m_fails G ma _ _ hm604 4 ((p : Int) + (k331 : Int))) rfl (le_b rfl) (le_b rfl) (le_b rfl) k_n (k_B fun z644 h644 q644 => ?_)
                                obtain ⟨rfl, hm644, fmx644⟩ := q644
                                have fm644 := fM_tr fm604 fmx644
                                refine ev_if_eq (k_m_readsCode_2 44 rfl) (fun _ => ?_) (fun c => absurd c (by decide))
                                refine ev_ic (k_m_readsCode_2 47 rfl) ?_
                                exact ev_zret (x := false) (k_m_readsCode_2 48 rfl) rfl (⟨false, rfl, _, hm644, fm644, Or.inl ⟨4, (p) + (k331), by first | (exfalso; omega) | (unfold pcod; rw [hk331]; unfold pcA; rw [if_neg (by rintro ⟨x, y⟩; first | omega | exact y ⟨by omega, by assumption⟩), if_neg (by split <;> omega), if_neg (by omega), if_neg (by omega), hk595]; unfold pcB; rw [if_neg (by omega), if_neg (by omega), if_neg (by omega), hcc]; unfold pcC; rw [if_neg (by rintro (⟨x, y⟩ | ⟨x, y⟩); omega; first | omega | (rw [upc_u hU] at y; exact absurd (Eq.trans y.symm (by assumption : _ = true)) (by decide)) | (rw [upc_s hU] at y; exact absurd (Eq.trans y.symm (by assumption : _ = true)) (by decide))), if_pos ⟨by omega, by assumption⟩]), rfl, by first | exact frd_tr (frd_S (Or.inl rfl)) (frd_S (Or.inr (Or.inl rfl))) | exact frd_tr (frd_tr (frd_A8 (by omega)) (frd_A7 (by omega))) (frd_tr (frd_S (Or.inl rfl)) (frd_S (Or.inr (Or.inl rfl)))), rfl, by simp [sS], by omega⟩⟩)
                          · refine ev_al (k_m_readsCode_2 7 rfl) rfl ?_
                            refine ev_get (v := vA (ma 7)) (k_m_readsCode_2 8 rfl) hm604.1 rfl ?_
                            refine ev_il (k_m_readsCode_2 9 rfl) rfl ?_
                            refine ev_lald (xs := ((σ.2 7).set (120 + (R.length)) cc)) (k_m_readsCode_2 10 rfl) (mr_a hm604 7 rfl) (by omega) (by simp only [List.length_set]; omega) (show ev _ _ _ _ _ _ _ _ (vL (gd ((σ.2 7).set (120 + (R.length)) cc) (120 + (R.length))) :: _) _ _ _ from ?_)
                            rw [gd_set_eq _ (by omega)]
                            refine ev_al (k_m_readsCode_2 11 rfl) rfl ?_
                            refine ev_get (v := vA (ma 7)) (k_m_readsCode_2 12 rfl) hm604.1 rfl ?_
                            refine ev_ilw (k_m_readsCode_2 13 rfl) rfl ?_
                            refine ev_if_ge (k_m_readsCode_2 14 rfl) (fun _ => ?_) (fun c => absurd c (by omega))
                            refine ev_ilw (k_m_readsCode_2 17 rfl) rfl ?_
                            refine ev_lald (xs := ((σ.2 7).set (120 + (R.length)) cc)) (k_m_readsCode_2 18 rfl) (mr_a hm604 7 rfl) (by omega) (by simp only [List.length_set]; omega) (show ev _ _ _ _ _ _ _ _ (vL (gd ((σ.2 7).set (120 + (R.length)) cc) (120 + j)) :: _) _ _ _ from ?_)
                            rw [gd_set_ne _ (by omega), (hs.2.2 j huj.1).1]
                            refine ev_cS (k_m_readsCode_2 19 rfl) rfl v_m_begins (c_m_begins G _ cc (rc R j) (by (try simp only [sS]); omega)) rfl (le_b rfl) (le_b rfl) (le_b rfl) k_n (k_B fun z646 h646 q646 => ?_)
                            obtain ⟨rfl, (rfl : z646 = (bgn cc (rc R j)))⟩ := q646
                            refine ev_b_ne (k_m_readsCode_2 20 rfl) (fun c647 => ?_) (fun c647 => ?_)
                            · refine ev_il (k_m_readsCode_2 26 rfl) rfl ?_
                              refine ev_if_eq (k_m_readsCode_2 27 rfl) (fun c648 => ?_) (fun c648 => ?_)
                              · refine ev_ic (k_m_readsCode_2 45 rfl) ?_
                                refine ev_goto (k_m_readsCode_2 46 rfl) ?_
                                exact ev_zret (x := true) (k_m_readsCode_2 48 rfl) rfl (⟨true, rfl, _, hm604, fm604, Or.inr ⟨k331, k595, cc, by unfold pcod; rw [hk331]; unfold pcA; rw [if_neg (by rintro ⟨x, y⟩; first | omega | exact y ⟨by omega, by assumption⟩), if_neg (by split <;> omega), if_neg (by omega), if_neg (by omega), hk595]; unfold pcB; rw [if_neg (by omega), if_neg (by omega), if_neg (by omega), hcc]; unfold pcC; rw [if_neg (by rintro (⟨x, y⟩ | ⟨x, y⟩); omega; first | omega | (rw [upc_u hU] at y; exact absurd (Eq.trans y.symm (by assumption : _ = true)) (by decide)) | (rw [upc_s hU] at y; exact absurd (Eq.trans y.symm (by assumption : _ = true)) (by decide))), if_neg (by rintro ⟨x, y⟩; first | omega | exact absurd (Eq.trans y.symm (by assumption : _ = true)) (by decide))], rfl, rfl, hcb, by omega, by omega, hcc⟩⟩)
                              · refine ev_al (k_m_readsCode_2 28 rfl) rfl ?_
                                refine ev_get (v := vA (ma 7)) (k_m_readsCode_2 29 rfl) hm604.1 rfl ?_
                                refine ev_il (k_m_readsCode_2 30 rfl) rfl ?_
                                refine ev_lald (xs := ((σ.2 7).set (120 + (R.length)) cc)) (k_m_readsCode_2 31 rfl) (mr_a hm604 7 rfl) (by omega) (by simp only [List.length_set]; omega) (show ev _ _ _ _ _ _ _ _ (vL (gd ((σ.2 7).set (120 + (R.length)) cc) (120 + (R.length))) :: _) _ _ _ from ?_)
                                rw [gd_set_eq _ (by omega)]
                                refine ev_al (k_m_readsCode_2 32 rfl) rfl ?_
                                refine ev_get (v := vA (ma 7)) (k_m_readsCode_2 33 rfl) hm604.1 rfl ?_
                                refine ev_il (k_m_readsCode_2 34 rfl) rfl ?_
                                refine ev_ic (k_m_readsCode_2 35 rfl) ?_
                                refine ev_isub (k_m_readsCode_2 36 rfl) (by omega) ?_
                                refine ev_lald (xs := ((σ.2 7).set (120 + (R.length)) cc)) (k_m_readsCode_2 37 rfl) (mr_a hm604 7 rfl) (by omega) (by simp only [List.length_set]; omega) (show ev _ _ _ _ _ _ _ _ (vL (gd ((σ.2 7).set (120 + (R.length)) cc) ((120 + (R.length : Int)) - 1).toNat) :: _) _ _ _ from ?_)
                                rw [show ((120 + (R.length : Int)) - 1).toNat = 120 + (R.length - 1) by omega, gd_set_ne _ (by omega), (hs.2.2 (R.length - 1) (by omega)).1]
                                refine ev_cS (k_m_readsCode_2 38 rfl) rfl v_m_isBehind (c_m_isBehind G _ cc (rc R (R.length - 1)) (by (try simp only [sS]); omega) (by (try simp only [sS]); omega)) rfl (le_b rfl) (le_b rfl) (le_b rfl) k_n (k_B fun z649 h649 q649 => ?_)
                                obtain ⟨rfl, (rfl : z649 = (bhd cc (rc R (R.length - 1))))⟩ := q649
                                refine ev_b_ne (k_m_readsCode_2 39 rfl) (fun c650 => ?_) (fun c650 => ?_)
                                · refine ev_ic (k_m_readsCode_2 45 rfl) ?_
                                  refine ev_goto (k_m_readsCode_2 46 rfl) ?_
                                  exact ev_zret (x := true) (k_m_readsCode_2 48 rfl) rfl (⟨true, rfl, _, hm604, fm604, Or.inr ⟨k331, k595, cc, by unfold pcod; rw [hk331]; unfold pcA; rw [if_neg (by rintro ⟨x, y⟩; first | omega | exact y ⟨by omega, by assumption⟩), if_neg (by split <;> omega), if_neg (by omega), if_neg (by omega), hk595]; unfold pcB; rw [if_neg (by omega), if_neg (by omega), if_neg (by omega), hcc]; unfold pcC; rw [if_neg (by rintro (⟨x, y⟩ | ⟨x, y⟩); omega; first | omega | (rw [upc_u hU] at y; exact absurd (Eq.trans y.symm (by assumption : _ = true)) (by decide)) | (rw [upc_s hU] at y; exact absurd (Eq.trans y.symm (by assumption : _ = true)) (by decide))), if_neg (by rintro ⟨x, y⟩; first | omega | exact absurd (Eq.trans y.symm (by assumption : _ = true)) (by decide))], rfl, rfl, hcb, by omega, by omega, hcc⟩⟩)
                                · refine ev_al (k_m_readsCode_2 40 rfl) rfl ?_
                                  refine ev_ic (k_m_readsCode_2 41 rfl) ?_
                                  refine ev_ilw (k_m_readsCode_2 42 rfl) rfl ?_
                                  refine ev_cV (k_m_readsCode_2 43 rfl) rfl v_m_fails hm604.1 rfl (c_m_fails G ma _ _ hm604 4 ((p : Int) + (k331 : Int))) rfl (le_b rfl) (le_b rfl) (le_b rfl) k_n (k_B fun z651 h651 q651 => ?_)
                                  obtain ⟨rfl, hm651, fmx651⟩ := q651
                                  have fm651 := fM_tr fm604 fmx651
                                  refine ev_if_eq (k_m_readsCode_2 44 rfl) (fun _ => ?_) (fun c => absurd c (by decide))
                                  refine ev_ic (k_m_readsCode_2 47 rfl) ?_
                                  exact ev_zret (x := false) (k_m_readsCode_2 48 rfl) rfl (⟨false, rfl, _, hm651, fm651, Or.inl ⟨4, (p) + (k331), by first | (exfalso; omega) | (unfold pcod; rw [hk331]; unfold pcA; rw [if_neg (by rintro ⟨x, y⟩; first | omega | exact y ⟨by omega, by assumption⟩), if_neg (by split <;> omega), if_neg (by omega), if_neg (by omega), hk595]; unfold pcB; rw [if_neg (by omega), if_neg (by omega), if_neg (by omega), hcc]; unfold pcC; rw [if_neg (by rintro (⟨x, y⟩ | ⟨x, y⟩); omega; first | omega | (rw [upc_u hU] at y; exact absurd (Eq.trans y.symm (by assumption : _ = true)) (by decide)) | (rw [upc_s hU] at y; exact absurd (Eq.trans y.symm (by assumption : _ = true)) (by decide))), if_pos ⟨by omega, by assumption⟩]), rfl, by first | exact frd_tr (frd_S (Or.inl rfl)) (frd_S (Or.inr (Or.inl rfl))) | exact frd_tr (frd_tr (frd_A8 (by omega)) (frd_A7 (by omega))) (frd_tr (frd_S (Or.inl rfl)) (frd_S (Or.inr (Or.inl rfl)))), rfl, by simp [sS], by omega⟩⟩)
                            · refine ev_al (k_m_readsCode_2 21 rfl) rfl ?_
                              refine ev_ic (k_m_readsCode_2 22 rfl) ?_
                              refine ev_ilw (k_m_readsCode_2 23 rfl) rfl ?_
                              refine ev_cV (k_m_readsCode_2 24 rfl) rfl v_m_fails hm604.1 rfl (c_m_fails G ma _ _ hm604 3 ((p : Int) + (k331 : Int))) rfl (le_b rfl) (le_b rfl) (le_b rfl) k_n (k_B fun z653 h653 q653 => ?_)
                              obtain ⟨rfl, hm653, fmx653⟩ := q653
                              have fm653 := fM_tr fm604 fmx653
                              exact ev_zret (x := false) (k_m_readsCode_2 25 rfl) rfl (⟨false, rfl, _, hm653, fm653, Or.inl ⟨3, (p) + (k331), by first | (exfalso; omega) | (unfold pcod; rw [hk331]; unfold pcA; rw [if_neg (by rintro ⟨x, y⟩; first | omega | exact y ⟨by omega, by assumption⟩), if_neg (by split <;> omega), if_neg (by omega), if_neg (by omega), hk595]; unfold pcB; rw [if_neg (by omega), if_neg (by omega), if_neg (by omega), hcc]; unfold pcC; rw [if_pos (by first | exact Or.inl ⟨by omega, by omega⟩ | exact Or.inr ⟨by omega, by rw [upc_u hU]; assumption⟩ | exact Or.inr ⟨by omega, by rw [upc_s hU]; assumption⟩)]), rfl, by first | exact frd_tr (frd_S (Or.inl rfl)) (frd_S (Or.inr (Or.inl rfl))) | exact frd_tr (frd_tr (frd_A8 (by omega)) (frd_A7 (by omega))) (frd_tr (frd_S (Or.inl rfl)) (frd_S (Or.inr (Or.inl rfl)))), rfl, by simp [sS], by omega⟩⟩)
                        · refine ev_ilw (k_m_readsCode_2 2 rfl) rfl ?_
                          refine ev_ic (k_m_readsCode_2 3 rfl) ?_
                          refine ev_ic_ne (k_m_readsCode_2 4 rfl) (fun c654 => ?_) (fun c654 => ?_)
                          · refine ev_al (k_m_readsCode_2 21 rfl) rfl ?_
                            refine ev_ic (k_m_readsCode_2 22 rfl) ?_
                            refine ev_ilw (k_m_readsCode_2 23 rfl) rfl ?_
                            refine ev_cV (k_m_readsCode_2 24 rfl) rfl v_m_fails hm604.1 rfl (c_m_fails G ma _ _ hm604 3 ((p : Int) + (k331 : Int))) rfl (le_b rfl) (le_b rfl) (le_b rfl) k_n (k_B fun z655 h655 q655 => ?_)
                            obtain ⟨rfl, hm655, fmx655⟩ := q655
                            have fm655 := fM_tr fm604 fmx655
                            exact ev_zret (x := false) (k_m_readsCode_2 25 rfl) rfl (⟨false, rfl, _, hm655, fm655, Or.inl ⟨3, (p) + (k331), by first | (exfalso; omega) | (unfold pcod; rw [hk331]; unfold pcA; rw [if_neg (by rintro ⟨x, y⟩; first | omega | exact y ⟨by omega, by assumption⟩), if_neg (by split <;> omega), if_neg (by omega), if_neg (by omega), hk595]; unfold pcB; rw [if_neg (by omega), if_neg (by omega), if_neg (by omega), hcc]; unfold pcC; rw [if_pos (by first | exact Or.inl ⟨by omega, by omega⟩ | exact Or.inr ⟨by omega, by rw [upc_u hU]; assumption⟩ | exact Or.inr ⟨by omega, by rw [upc_s hU]; assumption⟩)]), rfl, by first | exact frd_tr (frd_S (Or.inl rfl)) (frd_S (Or.inr (Or.inl rfl))) | exact frd_tr (frd_tr (frd_A8 (by omega)) (frd_A7 (by omega))) (frd_tr (frd_S (Or.inl rfl)) (frd_S (Or.inr (Or.inl rfl)))), rfl, by simp [sS], by omega⟩⟩)
                          · refine ev_ilw (k_m_readsCode_2 5 rfl) rfl ?_
                            refine ev_if_le (k_m_readsCode_2 6 rfl) (fun c656 => ?_) (fun c656 => ?_)
                            · refine ev_il (k_m_readsCode_2 26 rfl) rfl ?_
                              refine ev_if_eq (k_m_readsCode_2 27 rfl) (fun c657 => ?_) (fun c657 => ?_)
                              · refine ev_ic (k_m_readsCode_2 45 rfl) ?_
                                refine ev_goto (k_m_readsCode_2 46 rfl) ?_
                                exact ev_zret (x := true) (k_m_readsCode_2 48 rfl) rfl (⟨true, rfl, _, hm604, fm604, Or.inr ⟨k331, k595, cc, by unfold pcod; rw [hk331]; unfold pcA; rw [if_neg (by rintro ⟨x, y⟩; first | omega | exact y ⟨by omega, by assumption⟩), if_neg (by split <;> omega), if_neg (by omega), if_neg (by omega), hk595]; unfold pcB; rw [if_neg (by omega), if_neg (by omega), if_neg (by omega), hcc]; unfold pcC; rw [if_neg (by rintro (⟨x, y⟩ | ⟨x, y⟩); omega; first | omega | (rw [upc_u hU] at y; exact absurd (Eq.trans y.symm (by assumption : _ = true)) (by decide)) | (rw [upc_s hU] at y; exact absurd (Eq.trans y.symm (by assumption : _ = true)) (by decide))), if_neg (by rintro ⟨x, y⟩; first | omega | exact absurd (Eq.trans y.symm (by assumption : _ = true)) (by decide))], rfl, rfl, hcb, by omega, by omega, hcc⟩⟩)
                              · refine ev_al (k_m_readsCode_2 28 rfl) rfl ?_
                                refine ev_get (v := vA (ma 7)) (k_m_readsCode_2 29 rfl) hm604.1 rfl ?_
                                refine ev_il (k_m_readsCode_2 30 rfl) rfl ?_
                                refine ev_lald (xs := ((σ.2 7).set (120 + (R.length)) cc)) (k_m_readsCode_2 31 rfl) (mr_a hm604 7 rfl) (by omega) (by simp only [List.length_set]; omega) (show ev _ _ _ _ _ _ _ _ (vL (gd ((σ.2 7).set (120 + (R.length)) cc) (120 + (R.length))) :: _) _ _ _ from ?_)
                                rw [gd_set_eq _ (by omega)]
                                refine ev_al (k_m_readsCode_2 32 rfl) rfl ?_
                                refine ev_get (v := vA (ma 7)) (k_m_readsCode_2 33 rfl) hm604.1 rfl ?_
                                refine ev_il (k_m_readsCode_2 34 rfl) rfl ?_
                                refine ev_ic (k_m_readsCode_2 35 rfl) ?_
                                refine ev_isub (k_m_readsCode_2 36 rfl) (by omega) ?_
                                refine ev_lald (xs := ((σ.2 7).set (120 + (R.length)) cc)) (k_m_readsCode_2 37 rfl) (mr_a hm604 7 rfl) (by omega) (by simp only [List.length_set]; omega) (show ev _ _ _ _ _ _ _ _ (vL (gd ((σ.2 7).set (120 + (R.length)) cc) ((120 + (R.length : Int)) - 1).toNat) :: _) _ _ _ from ?_)
                                rw [show ((120 + (R.length : Int)) - 1).toNat = 120 + (R.length - 1) by omega, gd_set_ne _ (by omega), (hs.2.2 (R.length - 1) (by omega)).1]
                                refine ev_cS (k_m_readsCode_2 38 rfl) rfl v_m_isBehind (c_m_isBehind G _ cc (rc R (R.length - 1)) (by (try simp only [sS]); omega) (by (try simp only [sS]); omega)) rfl (le_b rfl) (le_b rfl) (le_b rfl) k_n (k_B fun z658 h658 q658 => ?_)
                                obtain ⟨rfl, (rfl : z658 = (bhd cc (rc R (R.length - 1))))⟩ := q658
                                refine ev_b_ne (k_m_readsCode_2 39 rfl) (fun c659 => ?_) (fun c659 => ?_)
                                · refine ev_ic (k_m_readsCode_2 45 rfl) ?_
                                  refine ev_goto (k_m_readsCode_2 46 rfl) ?_
                                  exact ev_zret (x := true) (k_m_readsCode_2 48 rfl) rfl (⟨true, rfl, _, hm604, fm604, Or.inr ⟨k331, k595, cc, by unfold pcod; rw [hk331]; unfold pcA; rw [if_neg (by rintro ⟨x, y⟩; first | omega | exact y ⟨by omega, by assumption⟩), if_neg (by split <;> omega), if_neg (by omega), if_neg (by omega), hk595]; unfold pcB; rw [if_neg (by omega), if_neg (by omega), if_neg (by omega), hcc]; unfold pcC; rw [if_neg (by rintro (⟨x, y⟩ | ⟨x, y⟩); omega; first | omega | (rw [upc_u hU] at y; exact absurd (Eq.trans y.symm (by assumption : _ = true)) (by decide)) | (rw [upc_s hU] at y; exact absurd (Eq.trans y.symm (by assumption : _ = true)) (by decide))), if_neg (by rintro ⟨x, y⟩; first | omega | exact absurd (Eq.trans y.symm (by assumption : _ = true)) (by decide))], rfl, rfl, hcb, by omega, by omega, hcc⟩⟩)
                                · refine ev_al (k_m_readsCode_2 40 rfl) rfl ?_
                                  refine ev_ic (k_m_readsCode_2 41 rfl) ?_
                                  refine ev_ilw (k_m_readsCode_2 42 rfl) rfl ?_
                                  refine ev_cV (k_m_readsCode_2 43 rfl) rfl v_m_fails hm604.1 rfl (c_m_fails G ma _ _ hm604 4 ((p : Int) + (k331 : Int))) rfl (le_b rfl) (le_b rfl) (le_b rfl) k_n (k_B fun z660 h660 q660 => ?_)
                                  obtain ⟨rfl, hm660, fmx660⟩ := q660
                                  have fm660 := fM_tr fm604 fmx660
                                  refine ev_if_eq (k_m_readsCode_2 44 rfl) (fun _ => ?_) (fun c => absurd c (by decide))
                                  refine ev_ic (k_m_readsCode_2 47 rfl) ?_
                                  exact ev_zret (x := false) (k_m_readsCode_2 48 rfl) rfl (⟨false, rfl, _, hm660, fm660, Or.inl ⟨4, (p) + (k331), by first | (exfalso; omega) | (unfold pcod; rw [hk331]; unfold pcA; rw [if_neg (by rintro ⟨x, y⟩; first | omega | exact y ⟨by omega, by assumption⟩), if_neg (by split <;> omega), if_neg (by omega), if_neg (by omega), hk595]; unfold pcB; rw [if_neg (by omega), if_neg (by omega), if_neg (by omega), hcc]; unfold pcC; rw [if_neg (by rintro (⟨x, y⟩ | ⟨x, y⟩); omega; first | omega | (rw [upc_u hU] at y; exact absurd (Eq.trans y.symm (by assumption : _ = true)) (by decide)) | (rw [upc_s hU] at y; exact absurd (Eq.trans y.symm (by assumption : _ = true)) (by decide))), if_pos ⟨by omega, by assumption⟩]), rfl, by first | exact frd_tr (frd_S (Or.inl rfl)) (frd_S (Or.inr (Or.inl rfl))) | exact frd_tr (frd_tr (frd_A8 (by omega)) (frd_A7 (by omega))) (frd_tr (frd_S (Or.inl rfl)) (frd_S (Or.inr (Or.inl rfl)))), rfl, by simp [sS], by omega⟩⟩)
                            · refine ev_al (k_m_readsCode_2 7 rfl) rfl ?_
                              refine ev_get (v := vA (ma 7)) (k_m_readsCode_2 8 rfl) hm604.1 rfl ?_
                              refine ev_il (k_m_readsCode_2 9 rfl) rfl ?_
                              refine ev_lald (xs := ((σ.2 7).set (120 + (R.length)) cc)) (k_m_readsCode_2 10 rfl) (mr_a hm604 7 rfl) (by omega) (by simp only [List.length_set]; omega) (show ev _ _ _ _ _ _ _ _ (vL (gd ((σ.2 7).set (120 + (R.length)) cc) (120 + (R.length))) :: _) _ _ _ from ?_)
                              rw [gd_set_eq _ (by omega)]
                              refine ev_al (k_m_readsCode_2 11 rfl) rfl ?_
                              refine ev_get (v := vA (ma 7)) (k_m_readsCode_2 12 rfl) hm604.1 rfl ?_
                              refine ev_ilw (k_m_readsCode_2 13 rfl) rfl ?_
                              refine ev_if_ge (k_m_readsCode_2 14 rfl) (fun _ => ?_) (fun c => absurd c (by omega))
                              refine ev_ilw (k_m_readsCode_2 17 rfl) rfl ?_
                              refine ev_lald (xs := ((σ.2 7).set (120 + (R.length)) cc)) (k_m_readsCode_2 18 rfl) (mr_a hm604 7 rfl) (by omega) (by simp only [List.length_set]; omega) (show ev _ _ _ _ _ _ _ _ (vL (gd ((σ.2 7).set (120 + (R.length)) cc) (120 + j)) :: _) _ _ _ from ?_)
                              rw [gd_set_ne _ (by omega), (hs.2.2 j huj.1).1]
                              refine ev_cS (k_m_readsCode_2 19 rfl) rfl v_m_begins (c_m_begins G _ cc (rc R j) (by (try simp only [sS]); omega)) rfl (le_b rfl) (le_b rfl) (le_b rfl) k_n (k_B fun z662 h662 q662 => ?_)
                              obtain ⟨rfl, (rfl : z662 = (bgn cc (rc R j)))⟩ := q662
                              refine ev_b_ne (k_m_readsCode_2 20 rfl) (fun c663 => ?_) (fun c663 => ?_)
                              · refine ev_il (k_m_readsCode_2 26 rfl) rfl ?_
                                refine ev_if_eq (k_m_readsCode_2 27 rfl) (fun c664 => ?_) (fun c664 => ?_)
                                · refine ev_ic (k_m_readsCode_2 45 rfl) ?_
                                  refine ev_goto (k_m_readsCode_2 46 rfl) ?_
                                  exact ev_zret (x := true) (k_m_readsCode_2 48 rfl) rfl (⟨true, rfl, _, hm604, fm604, Or.inr ⟨k331, k595, cc, by unfold pcod; rw [hk331]; unfold pcA; rw [if_neg (by rintro ⟨x, y⟩; first | omega | exact y ⟨by omega, by assumption⟩), if_neg (by split <;> omega), if_neg (by omega), if_neg (by omega), hk595]; unfold pcB; rw [if_neg (by omega), if_neg (by omega), if_neg (by omega), hcc]; unfold pcC; rw [if_neg (by rintro (⟨x, y⟩ | ⟨x, y⟩); omega; first | omega | (rw [upc_u hU] at y; exact absurd (Eq.trans y.symm (by assumption : _ = true)) (by decide)) | (rw [upc_s hU] at y; exact absurd (Eq.trans y.symm (by assumption : _ = true)) (by decide))), if_neg (by rintro ⟨x, y⟩; first | omega | exact absurd (Eq.trans y.symm (by assumption : _ = true)) (by decide))], rfl, rfl, hcb, by omega, by omega, hcc⟩⟩)
                                · refine ev_al (k_m_readsCode_2 28 rfl) rfl ?_
                                  refine ev_get (v := vA (ma 7)) (k_m_readsCode_2 29 rfl) hm604.1 rfl ?_
                                  refine ev_il (k_m_readsCode_2 30 rfl) rfl ?_
                                  refine ev_lald (xs := ((σ.2 7).set (120 + (R.length)) cc)) (k_m_readsCode_2 31 rfl) (mr_a hm604 7 rfl) (by omega) (by simp only [List.length_set]; omega) (show ev _ _ _ _ _ _ _ _ (vL (gd ((σ.2 7).set (120 + (R.length)) cc) (120 + (R.length))) :: _) _ _ _ from ?_)
                                  rw [gd_set_eq _ (by omega)]
                                  refine ev_al (k_m_readsCode_2 32 rfl) rfl ?_
                                  refine ev_get (v := vA (ma 7)) (k_m_readsCode_2 33 rfl) hm604.1 rfl ?_
                                  refine ev_il (k_m_readsCode_2 34 rfl) rfl ?_
                                  refine ev_ic (k_m_readsCode_2 35 rfl) ?_
                                  refine ev_isub (k_m_readsCode_2 36 rfl) (by omega) ?_
                                  refine ev_lald (xs := ((σ.2 7).set (120 + (R.length)) cc)) (k_m_readsCode_2 37 rfl) (mr_a hm604 7 rfl) (by omega) (by simp only [List.length_set]; omega) (show ev _ _ _ _ _ _ _ _ (vL (gd ((σ.2 7).set (120 + (R.length)) cc) ((120 + (R.length : Int)) - 1).toNat) :: _) _ _ _ from ?_)
                                  rw [show ((120 + (R.length : Int)) - 1).toNat = 120 + (R.length - 1) by omega, gd_set_ne _ (by omega), (hs.2.2 (R.length - 1) (by omega)).1]
                                  refine ev_cS (k_m_readsCode_2 38 rfl) rfl v_m_isBehind (c_m_isBehind G _ cc (rc R (R.length - 1)) (by (try simp only [sS]); omega) (by (try simp only [sS]); omega)) rfl (le_b rfl) (le_b rfl) (le_b rfl) k_n (k_B fun z665 h665 q665 => ?_)
                                  obtain ⟨rfl, (rfl : z665 = (bhd cc (rc R (R.length - 1))))⟩ := q665
                                  refine ev_b_ne (k_m_readsCode_2 39 rfl) (fun c666 => ?_) (fun c666 => ?_)
                                  · refine ev_ic (k_m_readsCode_2 45 rfl) ?_
                                    refine ev_goto (k_m_readsCode_2 46 rfl) ?_
                                    exact ev_zret (x := true) (k_m_readsCode_2 48 rfl) rfl (⟨true, rfl, _, hm604, fm604, Or.inr ⟨k331, k595, cc, by unfold pcod; rw [hk331]; unfold pcA; rw [if_neg (by rintro ⟨x, y⟩; first | omega | exact y ⟨by omega, by assumption⟩), if_neg (by split <;> omega), if_neg (by omega), if_neg (by omega), hk595]; unfold pcB; rw [if_neg (by omega), if_neg (by omega), if_neg (by omega), hcc]; unfold pcC; rw [if_neg (by rintro (⟨x, y⟩ | ⟨x, y⟩); omega; first | omega | (rw [upc_u hU] at y; exact absurd (Eq.trans y.symm (by assumption : _ = true)) (by decide)) | (rw [upc_s hU] at y; exact absurd (Eq.trans y.symm (by assumption : _ = true)) (by decide))), if_neg (by rintro ⟨x, y⟩; first | omega | exact absurd (Eq.trans y.symm (by assumption : _ = true)) (by decide))], rfl, rfl, hcb, by omega, by omega, hcc⟩⟩)
                                  · refine ev_al (k_m_readsCode_2 40 rfl) rfl ?_
                                    refine ev_ic (k_m_readsCode_2 41 rfl) ?_
                                    refine ev_ilw (k_m_readsCode_2 42 rfl) rfl ?_
                                    refine ev_cV (k_m_readsCode_2 43 rfl) rfl v_m_fails hm604.1 rfl (c_m_fails G ma _ _ hm604 4 ((p : Int) + (k331 : Int))) rfl (le_b rfl) (le_b rfl) (le_b rfl) k_n (k_B fun z667 h667 q667 => ?_)
                                    obtain ⟨rfl, hm667, fmx667⟩ := q667
                                    have fm667 := fM_tr fm604 fmx667
                                    refine ev_if_eq (k_m_readsCode_2 44 rfl) (fun _ => ?_) (fun c => absurd c (by decide))
                                    refine ev_ic (k_m_readsCode_2 47 rfl) ?_
                                    exact ev_zret (x := false) (k_m_readsCode_2 48 rfl) rfl (⟨false, rfl, _, hm667, fm667, Or.inl ⟨4, (p) + (k331), by first | (exfalso; omega) | (unfold pcod; rw [hk331]; unfold pcA; rw [if_neg (by rintro ⟨x, y⟩; first | omega | exact y ⟨by omega, by assumption⟩), if_neg (by split <;> omega), if_neg (by omega), if_neg (by omega), hk595]; unfold pcB; rw [if_neg (by omega), if_neg (by omega), if_neg (by omega), hcc]; unfold pcC; rw [if_neg (by rintro (⟨x, y⟩ | ⟨x, y⟩); omega; first | omega | (rw [upc_u hU] at y; exact absurd (Eq.trans y.symm (by assumption : _ = true)) (by decide)) | (rw [upc_s hU] at y; exact absurd (Eq.trans y.symm (by assumption : _ = true)) (by decide))), if_pos ⟨by omega, by assumption⟩]), rfl, by first | exact frd_tr (frd_S (Or.inl rfl)) (frd_S (Or.inr (Or.inl rfl))) | exact frd_tr (frd_tr (frd_A8 (by omega)) (frd_A7 (by omega))) (frd_tr (frd_S (Or.inl rfl)) (frd_S (Or.inr (Or.inl rfl)))), rfl, by simp [sS], by omega⟩⟩)
                              · refine ev_al (k_m_readsCode_2 21 rfl) rfl ?_
                                refine ev_ic (k_m_readsCode_2 22 rfl) ?_
                                refine ev_ilw (k_m_readsCode_2 23 rfl) rfl ?_
                                refine ev_cV (k_m_readsCode_2 24 rfl) rfl v_m_fails hm604.1 rfl (c_m_fails G ma _ _ hm604 3 ((p : Int) + (k331 : Int))) rfl (le_b rfl) (le_b rfl) (le_b rfl) k_n (k_B fun z669 h669 q669 => ?_)
                                obtain ⟨rfl, hm669, fmx669⟩ := q669
                                have fm669 := fM_tr fm604 fmx669
                                exact ev_zret (x := false) (k_m_readsCode_2 25 rfl) rfl (⟨false, rfl, _, hm669, fm669, Or.inl ⟨3, (p) + (k331), by first | (exfalso; omega) | (unfold pcod; rw [hk331]; unfold pcA; rw [if_neg (by rintro ⟨x, y⟩; first | omega | exact y ⟨by omega, by assumption⟩), if_neg (by split <;> omega), if_neg (by omega), if_neg (by omega), hk595]; unfold pcB; rw [if_neg (by omega), if_neg (by omega), if_neg (by omega), hcc]; unfold pcC; rw [if_pos (by first | exact Or.inl ⟨by omega, by omega⟩ | exact Or.inr ⟨by omega, by rw [upc_u hU]; assumption⟩ | exact Or.inr ⟨by omega, by rw [upc_s hU]; assumption⟩)]), rfl, by first | exact frd_tr (frd_S (Or.inl rfl)) (frd_S (Or.inr (Or.inl rfl))) | exact frd_tr (frd_tr (frd_A8 (by omega)) (frd_A7 (by omega))) (frd_tr (frd_S (Or.inl rfl)) (frd_S (Or.inr (Or.inl rfl)))), rfl, by simp [sS], by omega⟩⟩)
                  · refine ev_al (k_m_readsCode_1 28 rfl) rfl ?_
                    refine ev_ic (k_m_readsCode_1 29 rfl) ?_
                    refine ev_ilw (k_m_readsCode_1 30 rfl) rfl ?_
                    refine ev_bp (k_m_readsCode_1 31 rfl) ?_
                    refine ev_ic_le (k_m_readsCode_1 32 rfl) (fun c670 => ?_) (fun c670 => ?_)
                    · refine ev_ilw (k_m_readsCode_1 37 rfl) rfl ?_
                      refine ev_ilw (k_m_readsCode_1 38 rfl) rfl ?_
                      refine ev_iadd (k_m_readsCode_1 39 rfl) (by omega) ?_
                      refine ev_cV (k_m_readsCode_1 40 rfl) rfl v_m_fails hm.1 rfl (c_m_fails G ma _ _ hm 1 (((p : Int) + (k331 : Int)) + (k595 : Int))) rfl (le_b rfl) (le_b rfl) (le_b rfl) k_n (k_B fun z671 h671 q671 => ?_)
                      obtain ⟨rfl, hm671, fmx671⟩ := q671
                      have fm671 := fM_tr (fM_rf _) fmx671
                      exact ev_zret (x := false) (k_m_readsCode_1 41 rfl) rfl (⟨false, rfl, _, hm671, fm671, Or.inl ⟨1, ((p) + (k331)) + (k595), by first | (exfalso; omega) | (unfold pcod; rw [hk331]; unfold pcA; rw [if_neg (by rintro ⟨x, y⟩; first | omega | exact y ⟨by omega, by assumption⟩), if_neg (by split <;> omega), if_neg (by omega), if_neg (by omega), hk595]; unfold pcB; first | rw [if_neg (by omega), if_pos (by omega)] | rw [if_neg (by omega), if_neg (by omega), if_pos (by omega)]), rfl, by first | exact frd_tr (frd_S (Or.inl rfl)) (frd_S (Or.inr (Or.inl rfl))) | exact frd_tr (frd_tr (frd_A8 (by omega)) (frd_A7 (by omega))) (frd_tr (frd_S (Or.inl rfl)) (frd_S (Or.inr (Or.inl rfl)))), rfl, by simp [sS], by omega⟩⟩)
                    · refine ev_ilw (k_m_readsCode_1 33 rfl) rfl ?_
                      refine ev_bp (k_m_readsCode_1 34 rfl) ?_
                      refine ev_iadd (k_m_readsCode_1 35 rfl) (by omega) ?_
                      refine ev_goto (k_m_readsCode_1 36 rfl) ?_
                      refine ev_cV (k_m_readsCode_1 40 rfl) rfl v_m_fails hm.1 rfl (c_m_fails G ma _ _ hm 1 (((p : Int) + (k331 : Int)) + 10)) rfl (le_b rfl) (le_b rfl) (le_b rfl) k_n (k_B fun z672 h672 q672 => ?_)
                      obtain ⟨rfl, hm672, fmx672⟩ := q672
                      have fm672 := fM_tr (fM_rf _) fmx672
                      exact ev_zret (x := false) (k_m_readsCode_1 41 rfl) rfl (⟨false, rfl, _, hm672, fm672, Or.inl ⟨1, ((p) + (k331)) + 10, by first | (exfalso; omega) | (unfold pcod; rw [hk331]; unfold pcA; rw [if_neg (by rintro ⟨x, y⟩; first | omega | exact y ⟨by omega, by assumption⟩), if_neg (by split <;> omega), if_neg (by omega), if_neg (by omega), hk595]; unfold pcB; first | rw [if_neg (by omega), if_pos (by omega)] | rw [if_neg (by omega), if_neg (by omega), if_pos (by omega)]), rfl, by first | exact frd_tr (frd_S (Or.inl rfl)) (frd_S (Or.inr (Or.inl rfl))) | exact frd_tr (frd_tr (frd_A8 (by omega)) (frd_A7 (by omega))) (frd_tr (frd_S (Or.inl rfl)) (frd_S (Or.inr (Or.inl rfl)))), rfl, by simp [sS], by omega⟩⟩)
              · refine ev_al (k_m_readsCode_1 15 rfl) rfl ?_
                refine ev_ic (k_m_readsCode_1 16 rfl) ?_
                refine ev_ilw (k_m_readsCode_1 17 rfl) rfl ?_
                refine ev_cV (k_m_readsCode_1 18 rfl) rfl v_m_fails hm.1 rfl (c_m_fails G ma _ _ hm 1 ((p : Int) + (k331 : Int))) rfl (le_b rfl) (le_b rfl) (le_b rfl) k_n (k_B fun z673 h673 q673 => ?_)
                obtain ⟨rfl, hm673, fmx673⟩ := q673
                have fm673 := fM_tr (fM_rf _) fmx673
                exact ev_zret (x := false) (k_m_readsCode_1 19 rfl) rfl (⟨false, rfl, _, hm673, fm673, Or.inl ⟨1, (p) + (k331), by first | (exfalso; omega) | (unfold pcod; rw [hk331]; unfold pcA; rw [if_neg (by rintro ⟨x, y⟩; first | omega | exact y ⟨by omega, by assumption⟩), if_neg (by split <;> omega), if_neg (by omega), if_neg (by omega), hk595]; unfold pcB; rw [if_pos (by omega)]), rfl, by first | exact frd_tr (frd_S (Or.inl rfl)) (frd_S (Or.inr (Or.inl rfl))) | exact frd_tr (frd_tr (frd_A8 (by omega)) (frd_A7 (by omega))) (frd_tr (frd_S (Or.inl rfl)) (frd_S (Or.inr (Or.inl rfl)))), rfl, by simp [sS], by omega⟩⟩)
            · refine ev_al (k_m_readsCode_1 1 rfl) rfl ?_
              refine ev_ic (k_m_readsCode_1 2 rfl) ?_
              refine ev_il (k_m_readsCode_1 3 rfl) rfl ?_
              refine ev_ic (k_m_readsCode_1 4 rfl) ?_
              refine ev_iadd (k_m_readsCode_1 5 rfl) (by omega) ?_
              refine ev_cV (k_m_readsCode_1 6 rfl) rfl v_m_fails hm.1 rfl (c_m_fails G ma _ _ hm 1 ((p : Int) + 4)) rfl (le_b rfl) (le_b rfl) (le_b rfl) k_n (k_B fun z674 h674 q674 => ?_)
              obtain ⟨rfl, hm674, fmx674⟩ := q674
              have fm674 := fM_tr (fM_rf _) fmx674
              exact ev_zret (x := false) (k_m_readsCode_1 7 rfl) rfl (⟨false, rfl, _, hm674, fm674, Or.inl ⟨1, (p) + 4, by first | (exfalso; omega) | (unfold pcod; rw [hk331]; unfold pcA; rw [if_neg (by rintro ⟨x, y⟩; first | omega | exact y ⟨by omega, by assumption⟩), if_neg (by split <;> omega), if_neg (by omega), if_pos (by omega)]), rfl, by first | exact frd_tr (frd_S (Or.inl rfl)) (frd_S (Or.inr (Or.inl rfl))) | exact frd_tr (frd_tr (frd_A8 (by omega)) (frd_A7 (by omega))) (frd_tr (frd_S (Or.inl rfl)) (frd_S (Or.inr (Or.inl rfl)))), rfl, by simp [sS], by omega⟩⟩)
          · refine ev_al (k_m_readsCode_0 53 rfl) rfl ?_
            refine ev_ic (k_m_readsCode_0 54 rfl) ?_
            refine ev_il (k_m_readsCode_0 55 rfl) rfl ?_
            refine ev_cV (k_m_readsCode_0 56 rfl) rfl v_m_fails hm.1 rfl (c_m_fails G ma _ _ hm 5 (p : Int)) rfl (le_b rfl) (le_b rfl) (le_b rfl) k_n (k_B fun z675 h675 q675 => ?_)
            obtain ⟨rfl, hm675, fmx675⟩ := q675
            have fm675 := fM_tr (fM_rf _) fmx675
            exact ev_zret (x := false) (k_m_readsCode_0 57 rfl) rfl (⟨false, rfl, _, hm675, fm675, Or.inl ⟨5, p, by first | (exfalso; omega) | (unfold pcod; rw [hk331]; unfold pcA; rw [if_neg (by rintro ⟨x, y⟩; first | omega | exact y ⟨by omega, by assumption⟩), if_neg (by split <;> omega), if_pos (by omega)]), rfl, by first | exact frd_tr (frd_S (Or.inl rfl)) (frd_S (Or.inr (Or.inl rfl))) | exact frd_tr (frd_tr (frd_A8 (by omega)) (frd_A7 (by omega))) (frd_tr (frd_S (Or.inl rfl)) (frd_S (Or.inr (Or.inl rfl)))), rfl, by simp [sS], by omega⟩⟩)
        · refine ev_al (k_m_readsCode_0 45 rfl) rfl ?_
          refine ev_ic (k_m_readsCode_0 46 rfl) ?_
          refine ev_il (k_m_readsCode_0 47 rfl) rfl ?_
          refine ev_cV (k_m_readsCode_0 48 rfl) rfl v_m_fails hm.1 rfl (c_m_fails G ma _ _ hm 2 (p : Int)) rfl (le_b rfl) (le_b rfl) (le_b rfl) k_n (k_B fun z676 h676 q676 => ?_)
          obtain ⟨rfl, hm676, fmx676⟩ := q676
          have fm676 := fM_tr (fM_rf _) fmx676
          exact ev_zret (x := false) (k_m_readsCode_0 49 rfl) rfl (⟨false, rfl, _, hm676, fm676, Or.inl ⟨2, p, by first | (exfalso; omega) | (unfold pcod; rw [hk331]; unfold pcA; rw [if_neg (by rintro ⟨x, y⟩; first | omega | exact y ⟨by omega, by assumption⟩), if_pos (by split <;> omega)]), rfl, by first | exact frd_tr (frd_S (Or.inl rfl)) (frd_S (Or.inr (Or.inl rfl))) | exact frd_tr (frd_tr (frd_A8 (by omega)) (frd_A7 (by omega))) (frd_tr (frd_S (Or.inl rfl)) (frd_S (Or.inr (Or.inl rfl)))), rfl, by simp [sS], by omega⟩⟩)
    · have j505 := inb_f c505
      refine ev_al (k_m_readsCode_0 26 rfl) rfl ?_
      refine ev_ic (k_m_readsCode_0 27 rfl) ?_
      refine ev_il (k_m_readsCode_0 28 rfl) rfl ?_
      refine ev_cV (k_m_readsCode_0 29 rfl) rfl v_m_fails hm.1 rfl (c_m_fails G ma _ _ hm 1 (p : Int)) rfl (le_b rfl) (le_b rfl) (le_b rfl) k_n (k_B fun z677 h677 q677 => ?_)
      obtain ⟨rfl, hm677, fmx677⟩ := q677
      have fm677 := fM_tr (fM_rf _) fmx677
      exact ev_zret (x := false) (k_m_readsCode_0 30 rfl) rfl (⟨false, rfl, _, hm677, fm677, Or.inl ⟨1, p, by first | (exfalso; omega) | (unfold pcod; rw [hk331]; unfold pcA; rw [if_pos ⟨by omega, fun y => absurd (Eq.trans y.2.symm (by assumption : _ = false)) (by decide)⟩]), rfl, by first | exact frd_tr (frd_S (Or.inl rfl)) (frd_S (Or.inr (Or.inl rfl))) | exact frd_tr (frd_tr (frd_A8 (by omega)) (frd_A7 (by omega))) (frd_tr (frd_S (Or.inl rfl)) (frd_S (Or.inr (Or.inl rfl)))), rfl, by simp [sS], by omega⟩⟩)
