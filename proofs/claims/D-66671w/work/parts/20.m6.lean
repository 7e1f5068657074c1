theorem nrm1 (σ : sg_T) (A A' : List Int) (c c' : Int) : sS (sA (sS (sA σ 24 A) 25 c) 24 A') 25 c' = sS (sA σ 24 A') 25 c' := by
  refine sgx (fun j => ?_) (fun j => ?_)
  · simp only [sS, sA]; split <;> rfl
  · simp only [sS, sA]; split <;> rfl
theorem nrm0 (σ : sg_T) (c : Int) : sS σ 25 c = sS (sA σ 24 (σ.2 24)) 25 c := by
  refine sgx (fun j => rfl) (fun j => ?_)
  simp only [sS, sA]; split
  · rename_i e; rw [e]
  · rfl
theorem cAt_lt {T : Nat → Int} {n q : Nat} (h : q < n) : cAt T n q = T q := if_pos h
theorem cAt_ge {T : Nat → Int} {n q : Nat} (h : n ≤ q) : cAt T n q = 0 := if_neg (by omega)
theorem getD_app1 {ws : List (List Int)} {x : List Int} (j : Nat) : (ws ++ [x]).getD j [] = if j < ws.length then ws.getD j [] else if j = ws.length then x else [] := by
  by_cases h : j < ws.length
  · rw [if_pos h]; simp [List.getD_eq_getElem?_getD, List.getElem?_append_left h]
  · rw [if_neg h]
    by_cases e : j = ws.length
    · subst e; simp
    · rw [if_neg e]; rw [List.getD_eq_getElem?_getD, List.getElem?_eq_none (by simp; omega)]; rfl
set_option maxHeartbeats 2000000 in
theorem c_m_readsWords (G : gt_T) (ma : Nat → Nat) (σ : sg_T) (h : ab_H) (hm : MR h ma σ) (n : Nat) (hn0 : σ.1 2 = (n : Int)) (hn4 : n ≤ 400) (p0 most : Nat) (en : Int) (hp0 : p0 ≤ n) (hmo : 0 < most) (hmo6 : most ≤ 6) (hen : en ≠ 46) : ct G M_m_readsWords 3 65 0 0 [vA (ma 0), vI (p0 : Int), vI (most : Int), vI en] h (rI fun z h' => ∃ (A : List Int) (σ' : sg_T), MR h' ma σ' ∧ fM h h' ∧ ((∃ (q : Nat) (cN : Int), pwd (gd (σ.2 1)) n most en p0 = (q, none) ∧ q ≤ n ∧ z = -1 ∧ σ' = sS (sS (sS (sA σ 24 A) 25 cN) 4 1) 5 (q : Int) ∧ 0 ≤ cN ∧ cN ≤ most) ∨ (∃ (q : Nat) (ws : List (List Int)), pwd (gd (σ.2 1)) n most en p0 = (q, some ws) ∧ q ≤ n ∧ z = (q : Int) + 1 ∧ σ' = sS (sA σ 24 A) 25 (ws.length : Int) ∧ ws.length ≤ most ∧ ∀ j, j < ws.length → gd A j = enc 32 (ws.getD j [])))) nT := by
  show ev _ _ _ _ _ _ 0 [some (vA (ma 0)), some (vI (p0 : Int)), some (vI (most : Int)), some (vI en), none, none, none] [] _ _ _
  have l1 := mr_l hm 1 rfl
  have loop : ∀ (fu : Nat) (h1 : ab_H) (A : List Int) (ws : List (List Int)) (hm1 : MR h1 ma (sS (sA σ 24 A) 25 (ws.length : Int))) (fm1 : fM h h1) (p f : Nat), (pwc (gd (σ.2 1)) n (f + 1) p ws = pwc (gd (σ.2 1)) n most p0 []) → (f + 1 + ws.length = most) → (∀ j, j < ws.length → gd A j = enc 32 (ws.getD j [])) → (p ≤ n) → f < fu → ev G M_m_readsWords 3 65 0 0 8 [some (vA (ma 0)), some (vI (p0 : Int)), some (vI (most : Int)), some (vI en), some (vI (p : Int)), none, none] [] h1 (rI fun z h' => ∃ (A : List Int) (σ' : sg_T), MR h' ma σ' ∧ fM h h' ∧ ((∃ (q : Nat) (cN : Int), pwd (gd (σ.2 1)) n most en p0 = (q, none) ∧ q ≤ n ∧ z = -1 ∧ σ' = sS (sS (sS (sA σ 24 A) 25 cN) 4 1) 5 (q : Int) ∧ 0 ≤ cN ∧ cN ≤ most) ∨ (∃ (q : Nat) (ws : List (List Int)), pwd (gd (σ.2 1)) n most en p0 = (q, some ws) ∧ q ≤ n ∧ z = (q : Int) + 1 ∧ σ' = sS (sA σ 24 A) 25 (ws.length : Int) ∧ ws.length ≤ most ∧ ∀ j, j < ws.length → gd A j = enc 32 (ws.getD j [])))) nT := by
    intro fu
    induction fu with
    | zero => intros; omega
    | succ fu ih =>
      intro h1 A ws hm1 fm1 p f g1 hf h4 hpn hn
      have l24 : A.length = 6 := mr_l hm1 24 rfl
      have hAs : ∀ (k : Nat) (j : Nat), j < (ws ++ [lt (gd (σ.2 1)) p k]).length → gd (A.set ws.length (enc 32 (lt (gd (σ.2 1)) p k))) j = enc 32 ((ws ++ [lt (gd (σ.2 1)) p k]).getD j []) := by
        intro k j hj
        rw [getD_app1, gd_set _ (by omega)]
        have hj2 : j < ws.length + 1 := by simpa using hj
        by_cases e : j = ws.length
        · rw [if_pos e, if_neg (by omega), if_pos e]
        · rw [if_neg e, if_pos (by omega)]; exact h4 j (by omega)
      refine ev_al (k_m_readsWords_0 5 rfl) rfl ?_
      refine ev_ilw (k_m_readsWords_0 6 rfl) rfl ?_
      refine ev_ic (k_m_readsWords_0 7 rfl) ?_
      refine ev_cV (k_m_readsWords_0 8 rfl) rfl v_m_run hm1.1 rfl (c_m_run G ma _ _ hm1 n p 2 hn0 hn4 (by (try simp only [sS]); omega)) rfl (le_b rfl) (le_b rfl) (le_b rfl) k_n (k_I fun z302 h302 q302 => ?_)
      obtain ⟨rfl, (rfl : z302 = ((rn (gd (σ.2 1)) 2 p (n - p) : Nat) : Int))⟩ := q302
      have rl302 := rn_le (gd (σ.2 1)) 2 (n - p) p
      generalize hk302 : rn (gd (σ.2 1)) 2 p (n - p) = k302 at rl302 ⊢
      refine ev_isw (k_m_readsWords_0 9 rfl) (le_b rfl) (show ev _ _ _ _ _ _ 17 [some (vA (ma 0)), some (vI (p0 : Int)), some (vI (most : Int)), some (vI en), some (vI (p : Int)), some (vI (k302 : Int)), none] _ _ _ _ from ?_)
      refine ev_ilw (k_m_readsWords_0 10 rfl) rfl ?_
      refine ev_if_eq (k_m_readsWords_0 11 rfl) (fun c303 => ?_) (fun c303 => ?_)
      · refine ev_al (k_m_readsWords_0 15 rfl) rfl ?_
        refine ev_ic (k_m_readsWords_0 16 rfl) ?_
        refine ev_ilw (k_m_readsWords_0 17 rfl) rfl ?_
        refine ev_if_ne (k_m_readsWords_0 18 rfl) (fun c304 => ?_) (fun c304 => ?_)
        · refine ev_ilw (k_m_readsWords_0 21 rfl) rfl ?_
          refine ev_bp (k_m_readsWords_0 22 rfl) ?_
          refine ev_iadd (k_m_readsWords_0 23 rfl) (by omega) ?_
          refine ev_cV (k_m_readsWords_0 24 rfl) rfl v_m_fails hm1.1 rfl (c_m_fails G ma _ _ hm1 1 ((p : Int) + 8)) rfl (le_b rfl) (le_b rfl) (le_b rfl) k_n (k_B fun z305 h305 q305 => ?_)
          obtain ⟨rfl, hm305, fmx305⟩ := q305
          have fm305 := fM_tr fm1 fmx305
          refine ev_if_eq (k_m_readsWords_0 25 rfl) (fun _ => ?_) (fun c => absurd c (by decide))
          refine ev_ic (k_m_readsWords_0 28 rfl) ?_
          exact ev_iret (k_m_readsWords_0 29 rfl) rfl (⟨_, rfl, A, _, hm305, fm305, Or.inl ⟨p + 8, ws.length, pwd_n (g1.symm.trans (pwc_9 hk302 (by omega))), by omega, rfl, by simp, by omega, by omega⟩⟩)
        · refine ev_ilw (k_m_readsWords_0 19 rfl) rfl ?_
          refine ev_goto (k_m_readsWords_0 20 rfl) ?_
          refine ev_cV (k_m_readsWords_0 24 rfl) rfl v_m_fails hm1.1 rfl (c_m_fails G ma _ _ hm1 1 (p : Int)) rfl (le_b rfl) (le_b rfl) (le_b rfl) k_n (k_B fun z307 h307 q307 => ?_)
          obtain ⟨rfl, hm307, fmx307⟩ := q307
          have fm307 := fM_tr fm1 fmx307
          refine ev_if_eq (k_m_readsWords_0 25 rfl) (fun _ => ?_) (fun c => absurd c (by decide))
          refine ev_ic (k_m_readsWords_0 28 rfl) ?_
          exact ev_iret (k_m_readsWords_0 29 rfl) rfl (⟨_, rfl, A, _, hm307, fm307, Or.inl ⟨p, ws.length, pwd_n (g1.symm.trans (pwc_0 (by rw [hk302]; omega))), by omega, rfl, rfl, by omega, by omega⟩⟩)
      · refine ev_ilw (k_m_readsWords_0 12 rfl) rfl ?_
        refine ev_bp (k_m_readsWords_0 13 rfl) ?_
        refine ev_ic_le (k_m_readsWords_0 14 rfl) (fun c309 => ?_) (fun c309 => ?_)
        · refine ev_al (k_m_readsWords_0 30 rfl) rfl ?_
          refine ev_get (v := vI (ws.length : Int)) (k_m_readsWords_0 31 rfl) hm1.1 rfl ?_
          refine ev_bp (k_m_readsWords_0 32 rfl) ?_
          refine ev_ic_ge (k_m_readsWords_0 33 rfl) (fun c => absurd c (by omega)) (fun _ => ?_)
          refine ev_al (k_m_readsWords_0 34 rfl) rfl ?_
          refine ev_get (v := vA (ma 24)) (k_m_readsWords_0 35 rfl) hm1.1 rfl ?_
          refine ev_al (k_m_readsWords_0 36 rfl) rfl ?_
          refine ev_get (v := vI (ws.length : Int)) (k_m_readsWords_0 37 rfl) hm1.1 rfl ?_
          refine ev_al (k_m_readsWords_0 38 rfl) rfl ?_
          refine ev_ilw (k_m_readsWords_0 39 rfl) rfl ?_
          refine ev_ilw (k_m_readsWords_0 40 rfl) rfl ?_
          refine ev_cV (k_m_readsWords_0 41 rfl) rfl v_m_wordAt hm1.1 rfl (c_m_wordAt G ma _ _ hm1 p k302 (by (try simp only [sS]); omega) (by (try simp only [sS]); omega) (fun j hj => rn_lets (T := gd (σ.2 1)) (n := n - p) (by rw [hk302]; exact hj))) rfl (le_b rfl) (le_b rfl) (le_b rfl) k_n (k_L fun z310 h310 q310 => ?_)
          obtain ⟨rfl, (rfl : z310 = pw 32 96 0 (gd (σ.2 1)) p k302)⟩ := q310
          refine ev_mlas (iN := (ws.length)) (k_m_readsWords_0 42 rfl) 24 rfl hm1 fm1 (by omega) (by omega) (fun h311 (hm311 : MR h311 ma (sA (sS (sA σ 24 A) 25 (ws.length : Int)) 24 ((A).set (ws.length) (pw 32 96 0 (gd (σ.2 1)) p k302)))) fm311 => ?_)
          refine ev_al (k_m_readsWords_0 43 rfl) rfl ?_
          refine ev_dup (k_m_readsWords_0 44 rfl) rfl ?_
          refine ev_get (v := vI (ws.length : Int)) (k_m_readsWords_0 45 rfl) hm311.1 rfl ?_
          refine ev_ic (k_m_readsWords_0 46 rfl) ?_
          refine ev_iadd (k_m_readsWords_0 47 rfl) (by omega) ?_
          refine ev_mput (z := (ws.length : Int) + 1) (k_m_readsWords_0 48 rfl) hm311 fm311 (le_b rfl) rfl rfl (fun h312 (hm312 : MR h312 ma (sS (sA (sS (sA σ 24 A) 25 (ws.length : Int)) 24 ((A).set (ws.length) (pw 32 96 0 (gd (σ.2 1)) p k302))) 25 ((ws.length : Int) + 1))) fm312 => ?_)
          refine ev_ilw (k_m_readsWords_0 49 rfl) rfl ?_
          refine ev_ilw (k_m_readsWords_0 50 rfl) rfl ?_
          refine ev_iadd (k_m_readsWords_0 51 rfl) (by omega) ?_
          refine ev_isw (k_m_readsWords_0 52 rfl) (le_b rfl) (show ev _ _ _ _ _ _ 101 [some (vA (ma 0)), some (vI (p0 : Int)), some (vI (most : Int)), some (vI en), some (vI ((p : Int) + (k302 : Int))), some (vI (k302 : Int)), none] _ _ _ _ from ?_)
          refine ev_ilw (k_m_readsWords_0 53 rfl) rfl ?_
          refine ev_al (k_m_readsWords_0 54 rfl) rfl ?_
          refine ev_get (v := vI (n : Int)) (k_m_readsWords_0 55 rfl) hm312.1 (congrArg (fun z => some (vI z)) hn0) ?_
          refine ev_ic_ge (k_m_readsWords_0 56 rfl) (fun c313 => ?_) (fun c313 => ?_)
          · refine ev_ic (k_m_readsWords_1 2 rfl) ?_
            refine ev_isw (k_m_readsWords_1 3 rfl) (le_b rfl) (show ev _ _ _ _ _ _ 123 [some (vA (ma 0)), some (vI (p0 : Int)), some (vI (most : Int)), some (vI en), some (vI ((p : Int) + (k302 : Int))), some (vI (k302 : Int)), some (vI 0)] _ _ _ _ from ?_)
            refine ev_ilw (k_m_readsWords_1 4 rfl) rfl ?_
            refine ev_il (k_m_readsWords_1 5 rfl) rfl ?_
            refine ev_ic_ne (k_m_readsWords_1 6 rfl) (fun c314 => ?_) (fun c314 => ?_)
            · refine ev_ilw (k_m_readsWords_1 11 rfl) rfl ?_
              refine ev_bp (k_m_readsWords_1 12 rfl) ?_
              refine ev_ic_ne (k_m_readsWords_1 13 rfl) (fun _ => ?_) (fun c => absurd c (by decide))
              refine ev_al (k_m_readsWords_1 18 rfl) rfl ?_
              refine ev_ic (k_m_readsWords_1 19 rfl) ?_
              refine ev_ilw (k_m_readsWords_1 20 rfl) rfl ?_
              refine ev_cV (k_m_readsWords_1 21 rfl) rfl v_m_fails hm312.1 rfl (c_m_fails G ma _ _ hm312 1 ((p : Int) + (k302 : Int))) rfl (le_b rfl) (le_b rfl) (le_b rfl) k_n (k_B fun z316 h316 q316 => ?_)
              obtain ⟨rfl, hm316, fmx316⟩ := q316
              have fm316 := fM_tr fm312 fmx316
              refine ev_if_eq (k_m_readsWords_1 22 rfl) (fun _ => ?_) (fun c => absurd c (by decide))
              refine ev_ic (k_m_readsWords_1 25 rfl) ?_
              have hcat : cAt (gd (σ.2 1)) n (p + k302) = 0 := by first | exact cAt_lt (by omega) | exact cAt_ge (by omega)
              have hms : MR h316 ma (sS (sS (sS (sA σ 24 (A.set ws.length (enc 32 (lt (gd (σ.2 1)) p k302)))) 25 ((ws.length : Int) + 1)) 4 1) 5 ((p + k302 : Nat) : Int)) := by rw [← pw_enc, show ((p + k302 : Nat) : Int) = (p : Int) + k302 by omega, ← nrm1 σ A _ (ws.length : Int)]; exact hm316
              exact ev_iret (k_m_readsWords_1 26 rfl) rfl (⟨_, rfl, (A.set ws.length (enc 32 (lt (gd (σ.2 1)) p k302))), _, hms, fm316, Or.inl ⟨p + k302, (ws.length : Int) + 1, pwd_f (g1.symm.trans (pwc_s hk302 (by omega) (by omega) (by rw [hcat]; omega))) (by rw [hcat]; omega), by omega, rfl, rfl, by omega, by omega⟩⟩)
            · refine ev_ilw (k_m_readsWords_1 7 rfl) rfl ?_
              refine ev_ic (k_m_readsWords_1 8 rfl) ?_
              refine ev_iadd (k_m_readsWords_1 9 rfl) (by omega) ?_
              have hcat : cAt (gd (σ.2 1)) n (p + k302) = 0 := by first | exact cAt_lt (by omega) | exact cAt_ge (by omega)
              have hms : MR h312 ma (sS (sA σ 24 (A.set ws.length (enc 32 (lt (gd (σ.2 1)) p k302)))) 25 ((ws ++ [lt (gd (σ.2 1)) p k302]).length : Int)) := by rw [← pw_enc, show ((ws ++ [lt (gd (σ.2 1)) p k302]).length : Int) = (ws.length : Int) + 1 by simp, ← nrm1 σ A _ (ws.length : Int)]; exact hm312
              exact ev_iret (k_m_readsWords_1 10 rfl) rfl (⟨_, rfl, (A.set ws.length (enc 32 (lt (gd (σ.2 1)) p k302))), _, hms, fm312, Or.inr ⟨p + k302, (ws ++ [lt (gd (σ.2 1)) p k302]), pwd_t (g1.symm.trans (pwc_s hk302 (by omega) (by omega) (by rw [hcat]; omega))) (by rw [hcat]; omega), by omega, by omega, rfl, by simp; omega, hAs k302⟩⟩)
          · refine ev_al (k_m_readsWords_0 57 rfl) rfl ?_
            refine ev_get (v := vA (ma 1)) (k_m_readsWords_0 58 rfl) hm312.1 rfl ?_
            refine ev_ilw (k_m_readsWords_0 59 rfl) rfl ?_
            refine ev_iald (xs := σ.2 1) (k_m_readsWords_1 0 rfl) (mr_a hm312 1 rfl) (by omega) (by omega) (show ev _ _ _ _ _ _ _ _ (vI (gd (σ.2 1) ((p) + (k302))) :: _) _ _ _ from ?_)
            refine ev_goto (k_m_readsWords_1 1 rfl) ?_
            refine ev_isw (k_m_readsWords_1 3 rfl) (le_b rfl) (show ev _ _ _ _ _ _ 123 [some (vA (ma 0)), some (vI (p0 : Int)), some (vI (most : Int)), some (vI en), some (vI ((p : Int) + (k302 : Int))), some (vI (k302 : Int)), some (vI (gd (σ.2 1) ((p) + (k302))))] _ _ _ _ from ?_)
            refine ev_ilw (k_m_readsWords_1 4 rfl) rfl ?_
            refine ev_il (k_m_readsWords_1 5 rfl) rfl ?_
            refine ev_ic_ne (k_m_readsWords_1 6 rfl) (fun c318 => ?_) (fun c318 => ?_)
            · refine ev_ilw (k_m_readsWords_1 11 rfl) rfl ?_
              refine ev_bp (k_m_readsWords_1 12 rfl) ?_
              refine ev_ic_ne (k_m_readsWords_1 13 rfl) (fun c319 => ?_) (fun c319 => ?_)
              · refine ev_al (k_m_readsWords_1 18 rfl) rfl ?_
                refine ev_ic (k_m_readsWords_1 19 rfl) ?_
                refine ev_ilw (k_m_readsWords_1 20 rfl) rfl ?_
                refine ev_cV (k_m_readsWords_1 21 rfl) rfl v_m_fails hm312.1 rfl (c_m_fails G ma _ _ hm312 1 ((p : Int) + (k302 : Int))) rfl (le_b rfl) (le_b rfl) (le_b rfl) k_n (k_B fun z320 h320 q320 => ?_)
                obtain ⟨rfl, hm320, fmx320⟩ := q320
                have fm320 := fM_tr fm312 fmx320
                refine ev_if_eq (k_m_readsWords_1 22 rfl) (fun _ => ?_) (fun c => absurd c (by decide))
                refine ev_ic (k_m_readsWords_1 25 rfl) ?_
                have hcat : cAt (gd (σ.2 1)) n (p + k302) = gd (σ.2 1) ((p) + (k302)) := by first | exact cAt_lt (by omega) | exact cAt_ge (by omega)
                have hms : MR h320 ma (sS (sS (sS (sA σ 24 (A.set ws.length (enc 32 (lt (gd (σ.2 1)) p k302)))) 25 ((ws.length : Int) + 1)) 4 1) 5 ((p + k302 : Nat) : Int)) := by rw [← pw_enc, show ((p + k302 : Nat) : Int) = (p : Int) + k302 by omega, ← nrm1 σ A _ (ws.length : Int)]; exact hm320
                exact ev_iret (k_m_readsWords_1 26 rfl) rfl (⟨_, rfl, (A.set ws.length (enc 32 (lt (gd (σ.2 1)) p k302))), _, hms, fm320, Or.inl ⟨p + k302, (ws.length : Int) + 1, pwd_f (g1.symm.trans (pwc_s hk302 (by omega) (by omega) (by rw [hcat]; omega))) (by rw [hcat]; omega), by omega, rfl, rfl, by omega, by omega⟩⟩)
              · refine ev_al (k_m_readsWords_1 14 rfl) rfl ?_
                refine ev_get (v := vI ((ws.length : Int) + 1)) (k_m_readsWords_1 15 rfl) hm312.1 rfl ?_
                refine ev_il (k_m_readsWords_1 16 rfl) rfl ?_
                refine ev_ic_ne (k_m_readsWords_1 17 rfl) (fun c322 => ?_) (fun c322 => ?_)
                · refine ev_iinc (k_m_readsWords_1 27 rfl) rfl (by omega) (show ev _ _ _ _ _ _ 168 [some (vA (ma 0)), some (vI (p0 : Int)), some (vI (most : Int)), some (vI en), some (vI ((p : Int) + (k302 : Int) + 1)), some (vI (k302 : Int)), some (vI (gd (σ.2 1) ((p) + (k302))))] _ _ _ _ from ?_)
                  refine ev_goto (k_m_readsWords_1 28 rfl) ?_
                  refine ev_dead 5 (show ev _ _ _ _ _ _ 8 [some (vA (ma 0)), some (vI (p0 : Int)), some (vI (most : Int)), some (vI en), some (vI ((p : Int) + (k302 : Int) + 1)), none, some (vI (gd (σ.2 1) ((p) + (k302))))] _ _ _ _ from ?_)
                  refine ev_dead 6 (show ev _ _ _ _ _ _ 8 [some (vA (ma 0)), some (vI (p0 : Int)), some (vI (most : Int)), some (vI en), some (vI ((p : Int) + (k302 : Int) + 1)), none, none] _ _ _ _ from ?_)
                  have hcat : cAt (gd (σ.2 1)) n (p + k302) = gd (σ.2 1) ((p) + (k302)) := by first | exact cAt_lt (by omega) | exact cAt_ge (by omega)
                  have hms : MR h312 ma (sS (sA σ 24 (A.set ws.length (enc 32 (lt (gd (σ.2 1)) p k302)))) 25 ((ws ++ [lt (gd (σ.2 1)) p k302]).length : Int)) := by rw [← pw_enc, show ((ws ++ [lt (gd (σ.2 1)) p k302]).length : Int) = (ws.length : Int) + 1 by simp, ← nrm1 σ A _ (ws.length : Int)]; exact hm312
                  obtain ⟨f, rfl⟩ : ∃ j, f = j + 1 := ⟨f - 1, by omega⟩
                  rw [show (p : Int) + k302 + 1 = ((p + k302 + 1 : Nat) : Int) by omega]
                  exact ih _ _ _ hms fm312 (p + k302 + 1) f (by rw [← g1, pwc_c hk302 (by omega) (by omega) (by rw [hcat]; omega) (by omega)]) (by simp; omega) (hAs k302) (by omega) (by omega)
                · refine ev_al (k_m_readsWords_1 18 rfl) rfl ?_
                  refine ev_ic (k_m_readsWords_1 19 rfl) ?_
                  refine ev_ilw (k_m_readsWords_1 20 rfl) rfl ?_
                  refine ev_cV (k_m_readsWords_1 21 rfl) rfl v_m_fails hm312.1 rfl (c_m_fails G ma _ _ hm312 1 ((p : Int) + (k302 : Int))) rfl (le_b rfl) (le_b rfl) (le_b rfl) k_n (k_B fun z323 h323 q323 => ?_)
                  obtain ⟨rfl, hm323, fmx323⟩ := q323
                  have fm323 := fM_tr fm312 fmx323
                  refine ev_if_eq (k_m_readsWords_1 22 rfl) (fun _ => ?_) (fun c => absurd c (by decide))
                  refine ev_ic (k_m_readsWords_1 25 rfl) ?_
                  have hcat : cAt (gd (σ.2 1)) n (p + k302) = gd (σ.2 1) ((p) + (k302)) := by first | exact cAt_lt (by omega) | exact cAt_ge (by omega)
                  have hms : MR h323 ma (sS (sS (sS (sA σ 24 (A.set ws.length (enc 32 (lt (gd (σ.2 1)) p k302)))) 25 ((ws.length : Int) + 1)) 4 1) 5 ((p + k302 : Nat) : Int)) := by rw [← pw_enc, show ((p + k302 : Nat) : Int) = (p : Int) + k302 by omega, ← nrm1 σ A _ (ws.length : Int)]; exact hm323
                  exact ev_iret (k_m_readsWords_1 26 rfl) rfl (⟨_, rfl, (A.set ws.length (enc 32 (lt (gd (σ.2 1)) p k302))), _, hms, fm323, Or.inl ⟨p + k302, (ws.length : Int) + 1, pwd_f (g1.symm.trans (pwc_s hk302 (by omega) (by omega) (by rw [hcat]; omega))) (by rw [hcat]; omega), by omega, rfl, rfl, by omega, by omega⟩⟩)
            · refine ev_ilw (k_m_readsWords_1 7 rfl) rfl ?_
              refine ev_ic (k_m_readsWords_1 8 rfl) ?_
              refine ev_iadd (k_m_readsWords_1 9 rfl) (by omega) ?_
              have hcat : cAt (gd (σ.2 1)) n (p + k302) = gd (σ.2 1) ((p) + (k302)) := by first | exact cAt_lt (by omega) | exact cAt_ge (by omega)
              have hms : MR h312 ma (sS (sA σ 24 (A.set ws.length (enc 32 (lt (gd (σ.2 1)) p k302)))) 25 ((ws ++ [lt (gd (σ.2 1)) p k302]).length : Int)) := by rw [← pw_enc, show ((ws ++ [lt (gd (σ.2 1)) p k302]).length : Int) = (ws.length : Int) + 1 by simp, ← nrm1 σ A _ (ws.length : Int)]; exact hm312
              exact ev_iret (k_m_readsWords_1 10 rfl) rfl (⟨_, rfl, (A.set ws.length (enc 32 (lt (gd (σ.2 1)) p k302))), _, hms, fm312, Or.inr ⟨p + k302, (ws ++ [lt (gd (σ.2 1)) p k302]), pwd_t (g1.symm.trans (pwc_s hk302 (by omega) (by omega) (by rw [hcat]; omega))) (by rw [hcat]; omega), by omega, by omega, rfl, by simp; omega, hAs k302⟩⟩)
        · refine ev_al (k_m_readsWords_0 15 rfl) rfl ?_
          refine ev_ic (k_m_readsWords_0 16 rfl) ?_
          refine ev_ilw (k_m_readsWords_0 17 rfl) rfl ?_
          refine ev_if_ne (k_m_readsWords_0 18 rfl) (fun c325 => ?_) (fun c325 => ?_)
          · refine ev_ilw (k_m_readsWords_0 21 rfl) rfl ?_
            refine ev_bp (k_m_readsWords_0 22 rfl) ?_
            refine ev_iadd (k_m_readsWords_0 23 rfl) (by omega) ?_
            refine ev_cV (k_m_readsWords_0 24 rfl) rfl v_m_fails hm1.1 rfl (c_m_fails G ma _ _ hm1 1 ((p : Int) + 8)) rfl (le_b rfl) (le_b rfl) (le_b rfl) k_n (k_B fun z326 h326 q326 => ?_)
            obtain ⟨rfl, hm326, fmx326⟩ := q326
            have fm326 := fM_tr fm1 fmx326
            refine ev_if_eq (k_m_readsWords_0 25 rfl) (fun _ => ?_) (fun c => absurd c (by decide))
            refine ev_ic (k_m_readsWords_0 28 rfl) ?_
            exact ev_iret (k_m_readsWords_0 29 rfl) rfl (⟨_, rfl, A, _, hm326, fm326, Or.inl ⟨p + 8, ws.length, pwd_n (g1.symm.trans (pwc_9 hk302 (by omega))), by omega, rfl, by simp, by omega, by omega⟩⟩)
          · refine ev_ilw (k_m_readsWords_0 19 rfl) rfl ?_
            refine ev_goto (k_m_readsWords_0 20 rfl) ?_
            refine ev_cV (k_m_readsWords_0 24 rfl) rfl v_m_fails hm1.1 rfl (c_m_fails G ma _ _ hm1 1 (p : Int)) rfl (le_b rfl) (le_b rfl) (le_b rfl) k_n (k_B fun z328 h328 q328 => ?_)
            obtain ⟨rfl, hm328, fmx328⟩ := q328
            have fm328 := fM_tr fm1 fmx328
            refine ev_if_eq (k_m_readsWords_0 25 rfl) (fun _ => ?_) (fun c => absurd c (by decide))
            refine ev_ic (k_m_readsWords_0 28 rfl) ?_
            exact ev_iret (k_m_readsWords_0 29 rfl) rfl (⟨_, rfl, A, _, hm328, fm328, Or.inl ⟨p, ws.length, pwd_n (g1.symm.trans (pwc_0 (by rw [hk302]; omega))), by omega, rfl, rfl, by omega, by omega⟩⟩)
  refine ev_il (k_m_readsWords_0 0 rfl) rfl ?_
  refine ev_isw (k_m_readsWords_0 1 rfl) (le_b rfl) (show ev _ _ _ _ _ _ 3 [some (vA (ma 0)), some (vI (p0 : Int)), some (vI (most : Int)), some (vI en), some (vI (p0 : Int)), none, none] _ _ _ _ from ?_)
  refine ev_al (k_m_readsWords_0 2 rfl) rfl ?_
  refine ev_ic (k_m_readsWords_0 3 rfl) ?_
  refine ev_mput (z := 0) (k_m_readsWords_0 4 rfl) hm (fM_rf _) (le_b rfl) rfl rfl (fun h330 (hm330 : MR h330 ma (sS σ 25 0)) fm330 => ?_)
  refine loop most _ (σ.2 24) [] (by have hq := hm330; rw [nrm0] at hq; exact hq) fm330 p0 (most - 1) (by rw [show most - 1 + 1 = most by omega]) (by simp; omega) (fun j hj => absurd hj (by simp)) hp0 (by omega)
