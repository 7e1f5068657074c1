theorem frd_cg {σ τ : sg_T} (h : frd σ τ) (j : Nat) (z : Int) : frd (sS σ j z) (sS τ j z) :=
  ⟨fun i h4 h5 h25 => by simp only [sS]; split; rfl; exact h.1 i h4 h5 h25, h.2.1, h.2.2.1, h.2.2.2.1, h.2.2.2.2⟩
theorem gd4 {W : List Int} {b : Nat} (v0 v1 v2 v3 : Int) (hb : b + 3 < W.length) (i : Nat) : gd ((((W.set (b + 0) v0).set (b + 1) v1).set (b + 2) v2).set (b + 3) v3) i = if i = b + 3 then v3 else if i = b + 2 then v2 else if i = b + 1 then v1 else if i = b + 0 then v0 else gd W i := by
  rw [gd_set _ (by simp only [List.length_set]; omega), gd_set _ (by simp only [List.length_set]; omega), gd_set _ (by simp only [List.length_set]; omega), gd_set _ (by omega)]
def cpyA (b k : Nat) (xs ys : List Int) : Prop := (∀ i, i < k → gd ys (b + i) = gd xs (120 + i)) ∧ ∀ i, (i < b ∨ b + k ≤ i) → gd ys i = gd xs i
def cpyW (b k : Nat) (xs ys : List Int) : Prop := (∀ i j, i < k → j < 4 → gd ys (b + 4 * i + j) = gd xs (480 + 4 * i + j)) ∧ ∀ i, (i < b ∨ b + 4 * k ≤ i) → gd ys i = gd xs i
def cpy_ (σ τ : sg_T) (e k : Nat) : Prop := τ.1 = σ.1 ∧ (∀ j, j < 7 ∨ 10 < j → τ.2 j = σ.2 j) ∧ cpyA (40 * e) k (σ.2 7) (τ.2 7) ∧ cpyA (40 * e) k (σ.2 8) (τ.2 8) ∧ cpyA (40 * e) k (σ.2 9) (τ.2 9) ∧ cpyW (160 * e) k (σ.2 10) (τ.2 10)
theorem cpyA_0 (b : Nat) (xs : List Int) : cpyA b 0 xs xs := ⟨fun i h => absurd h (by omega), fun _ _ => rfl⟩
theorem cpyW_0 (b : Nat) (xs : List Int) : cpyW b 0 xs xs := ⟨fun i _ h => absurd h (by omega), fun _ _ => rfl⟩
theorem cpyA_s {b k : Nat} {xs ys : List Int} (h : cpyA b k xs ys) (hl : b + k < ys.length) (hb : b + k < 120) : cpyA b (k + 1) xs (ys.set (b + k) (gd ys (120 + k))) := by
  refine ⟨fun i hi => ?_, fun i hi => ?_⟩
  · rw [gd_set _ hl]
    by_cases e : i = k
    · subst e; rw [if_pos rfl]; exact h.2 _ (by omega)
    · rw [if_neg (by omega)]; exact h.1 i (by omega)
  · rw [gd_set_ne _ (by omega)]; exact h.2 i (by omega)
theorem cpyW_s {e k : Nat} {xs ys : List Int} (h : cpyW (160 * e) k xs ys) (hl : 4 * (40 * e + k) + 3 < ys.length) (hb : 160 * e + 4 * k + 3 < 480) : cpyW (160 * e) (k + 1) xs ((((ys.set (4 * (40 * e + k) + 0) (gd ys (480 + 4 * k + 0))).set (4 * (40 * e + k) + 1) (gd ys (480 + 4 * k + 1))).set (4 * (40 * e + k) + 2) (gd ys (480 + 4 * k + 2))).set (4 * (40 * e + k) + 3) (gd ys (480 + 4 * k + 3))) := by
  refine ⟨fun i j hi hj => ?_, fun i hi => ?_⟩
  · rw [gd4 _ _ _ _ hl]
    by_cases e1 : i = k
    · subst e1
      have : j = 0 ∨ j = 1 ∨ j = 2 ∨ j = 3 := by omega
      rcases this with rfl | rfl | rfl | rfl
      · rw [if_neg (by omega), if_neg (by omega), if_neg (by omega), if_pos (by omega)]; exact h.2 _ (by omega)
      · rw [if_neg (by omega), if_neg (by omega), if_pos (by omega)]; exact h.2 _ (by omega)
      · rw [if_neg (by omega), if_pos (by omega)]; exact h.2 _ (by omega)
      · rw [if_pos (by omega)]; exact h.2 _ (by omega)
    · rw [if_neg (by omega), if_neg (by omega), if_neg (by omega), if_neg (by omega)]; exact h.1 i j (by omega) hj
  · rw [gd4 _ _ _ _ hl, if_neg (by omega), if_neg (by omega), if_neg (by omega), if_neg (by omega)]; exact h.2 i (by omega)
set_option maxHeartbeats 4000000 in
theorem lp_read {G : gt_T} {F L Cc Ss : Nat} {Φ : Option ab_V → ab_H → Prop} {Θ : Nat → ab_H → Prop} {ma : Nat → Nat} {σ : sg_T} {h0 : ab_H} {pn rl : Nat} {g : Int} (hp : σ.1 3 = (pn : Int)) (hp2 : pn < 3) (hr : gd (σ.2 6) 3 = (rl : Int)) (hrl : rl ≤ 40) (k0 : ∀ (hx : ab_H) (τ : sg_T), MR hx ma τ → fM h0 hx → cpy_ σ τ pn rl → ev G M_m_read F L Cc Ss 164 [some (vA (ma 0)), some (vI g), none, none, none] [] hx Φ Θ) : ∀ (fu : Nat) (h1 : ab_H) (τ : sg_T) (hm1 : MR h1 ma τ) (fm1 : fM h0 h1) (k : Nat), (k ≤ rl) → (cpy_ σ τ pn k) → rl - k < fu → ev G M_m_read F L Cc Ss 52 [some (vA (ma 0)), some (vI g), some (vI (k : Int)), none, none] [] h1 Φ Θ := by
  intro fu
  induction fu with
  | zero => intros; omega
  | succ fu ih =>
      intro h1 τ hm1 fm1 k hk hcp hn
      have hpt : τ.1 3 = (pn : Int) := by rw [hcp.1]; exact hp
      have hr3 : gd (τ.2 6) 3 = (rl : Int) := by rw [hcp.2.1 6 (by omega)]; exact hr
      have l6 := mr_l hm1 6 rfl
      have l7 := mr_l hm1 7 rfl
      have l8 := mr_l hm1 8 rfl
      have l9 := mr_l hm1 9 rfl
      have l10 := mr_l hm1 10 rfl
      refine ev_il (k_m_read_0 32 rfl) rfl ?_
      refine ev_al (k_m_read_0 33 rfl) rfl ?_
      refine ev_get (v := vA (ma 6)) (k_m_read_0 34 rfl) hm1.1 rfl ?_
      refine ev_ic (k_m_read_0 35 rfl) ?_
      refine ev_iald (xs := τ.2 6) (k_m_read_0 36 rfl) (mr_a hm1 6 rfl) (by omega) (by omega) (show ev _ _ _ _ _ _ _ _ (vI (gd (τ.2 6) 3) :: _) _ _ _ from ?_)
      rw [hr3]
      refine ev_ic_ge (k_m_read_0 37 rfl) (fun c713 => ?_) (fun c713 => ?_)
      · refine ev_dead 2 (show ev _ _ _ _ _ _ 164 [some (vA (ma 0)), some (vI g), none, none, none] _ _ _ _ from ?_)
        have hkn : k = rl := by omega
        subst hkn
        exact k0 _ _ hm1 fm1 hcp
      · refine ev_bp (k_m_read_0 38 rfl) ?_
        refine ev_al (k_m_read_0 39 rfl) rfl ?_
        refine ev_get (v := vI (pn : Int)) (k_m_read_0 40 rfl) hm1.1 (congrArg (fun z => some (vI z)) hpt) ?_
        refine ev_imul (k_m_read_0 41 rfl) (by omega) ?_
        refine ev_il (k_m_read_0 42 rfl) rfl ?_
        refine ev_iadd (k_m_read_0 43 rfl) (by omega) ?_
        refine ev_is (k_m_read_0 44 rfl) (le_b rfl) (show ev _ _ _ _ _ _ 72 [some (vA (ma 0)), some (vI g), some (vI (k : Int)), some (vI ((40 * (pn : Int)) + (k : Int))), none] _ _ _ _ from ?_)
        refine ev_al (k_m_read_0 45 rfl) rfl ?_
        refine ev_get (v := vA (ma 7)) (k_m_read_0 46 rfl) hm1.1 rfl ?_
        refine ev_il (k_m_read_0 47 rfl) rfl ?_
        refine ev_al (k_m_read_0 48 rfl) rfl ?_
        refine ev_get (v := vA (ma 7)) (k_m_read_0 49 rfl) hm1.1 rfl ?_
        refine ev_bp (k_m_read_0 50 rfl) ?_
        refine ev_il (k_m_read_0 51 rfl) rfl ?_
        refine ev_iadd (k_m_read_0 52 rfl) (by omega) ?_
        refine ev_lald (xs := τ.2 7) (k_m_read_0 53 rfl) (mr_a hm1 7 rfl) (by omega) (by omega) (show ev _ _ _ _ _ _ _ _ (vL (gd (τ.2 7) (120 + (k))) :: _) _ _ _ from ?_)
        refine ev_mlas (iN := (40 * (pn)) + (k)) (k_m_read_0 54 rfl) 7 rfl hm1 fm1 (by omega) (by omega) (fun h714 (hm714 : MR h714 ma (sA τ 7 ((τ.2 7).set ((40 * (pn)) + (k)) (gd (τ.2 7) (120 + (k)))))) fm714 => ?_)
        refine ev_al (k_m_read_0 55 rfl) rfl ?_
        refine ev_get (v := vA (ma 8)) (k_m_read_0 56 rfl) hm714.1 rfl ?_
        refine ev_il (k_m_read_0 57 rfl) rfl ?_
        refine ev_al (k_m_read_0 58 rfl) rfl ?_
        refine ev_get (v := vA (ma 8)) (k_m_read_0 59 rfl) hm714.1 rfl ?_
        refine ev_bp (k_m_read_1 0 rfl) ?_
        refine ev_il (k_m_read_1 1 rfl) rfl ?_
        refine ev_iadd (k_m_read_1 2 rfl) (by omega) ?_
        refine ev_iald (xs := τ.2 8) (k_m_read_1 3 rfl) (mr_a hm714 8 rfl) (by omega) (by omega) (show ev _ _ _ _ _ _ _ _ (vI (gd (τ.2 8) (120 + (k))) :: _) _ _ _ from ?_)
        refine ev_mias (iN := (40 * (pn)) + (k)) (k_m_read_1 4 rfl) 8 rfl hm714 fm714 (by omega) (by omega) (fun h715 (hm715 : MR h715 ma (sA (sA τ 7 ((τ.2 7).set ((40 * (pn)) + (k)) (gd (τ.2 7) (120 + (k))))) 8 ((τ.2 8).set ((40 * (pn)) + (k)) (gd (τ.2 8) (120 + (k)))))) fm715 => ?_)
        refine ev_al (k_m_read_1 5 rfl) rfl ?_
        refine ev_get (v := vA (ma 9)) (k_m_read_1 6 rfl) hm715.1 rfl ?_
        refine ev_il (k_m_read_1 7 rfl) rfl ?_
        refine ev_al (k_m_read_1 8 rfl) rfl ?_
        refine ev_get (v := vA (ma 9)) (k_m_read_1 9 rfl) hm715.1 rfl ?_
        refine ev_bp (k_m_read_1 10 rfl) ?_
        refine ev_il (k_m_read_1 11 rfl) rfl ?_
        refine ev_iadd (k_m_read_1 12 rfl) (by omega) ?_
        refine ev_iald (xs := τ.2 9) (k_m_read_1 13 rfl) (mr_a hm715 9 rfl) (by omega) (by omega) (show ev _ _ _ _ _ _ _ _ (vI (gd (τ.2 9) (120 + (k))) :: _) _ _ _ from ?_)
        refine ev_mias (iN := (40 * (pn)) + (k)) (k_m_read_1 14 rfl) 9 rfl hm715 fm715 (by omega) (by omega) (fun h716 (hm716 : MR h716 ma (sA (sA (sA τ 7 ((τ.2 7).set ((40 * (pn)) + (k)) (gd (τ.2 7) (120 + (k))))) 8 ((τ.2 8).set ((40 * (pn)) + (k)) (gd (τ.2 8) (120 + (k))))) 9 ((τ.2 9).set ((40 * (pn)) + (k)) (gd (τ.2 9) (120 + (k)))))) fm716 => ?_)
        refine ev_ic (k_m_read_1 15 rfl) ?_
        refine ev_isw (k_m_read_1 16 rfl) (le_b rfl) (show ev _ _ _ _ _ _ 120 [some (vA (ma 0)), some (vI g), some (vI (k : Int)), some (vI ((40 * (pn : Int)) + (k : Int))), some (vI 0)] _ _ _ _ from ?_)
        refine ev_ilw (k_m_read_1 17 rfl) rfl ?_
        refine ev_ic (k_m_read_1 18 rfl) ?_
        refine ev_ic_ge (k_m_read_1 19 rfl) (fun c => absurd c (by decide)) (fun _ => ?_)
        refine ev_al (k_m_read_1 20 rfl) rfl ?_
        refine ev_get (v := vA (ma 10)) (k_m_read_1 21 rfl) hm716.1 rfl ?_
        refine ev_ic (k_m_read_1 22 rfl) ?_
        refine ev_il (k_m_read_1 23 rfl) rfl ?_
        refine ev_imul (k_m_read_1 24 rfl) (by omega) ?_
        refine ev_ilw (k_m_read_1 25 rfl) rfl ?_
        refine ev_iadd (k_m_read_1 26 rfl) (by omega) ?_
        refine ev_al (k_m_read_1 27 rfl) rfl ?_
        refine ev_get (v := vA (ma 10)) (k_m_read_1 28 rfl) hm716.1 rfl ?_
        refine ev_sp (k_m_read_1 29 rfl) ?_
        refine ev_ic (k_m_read_1 30 rfl) ?_
        refine ev_il (k_m_read_1 31 rfl) rfl ?_
        refine ev_imul (k_m_read_1 32 rfl) (by omega) ?_
        refine ev_iadd (k_m_read_1 33 rfl) (by omega) ?_
        refine ev_ilw (k_m_read_1 34 rfl) rfl ?_
        refine ev_iadd (k_m_read_1 35 rfl) (by omega) ?_
        refine ev_lald (xs := τ.2 10) (k_m_read_1 36 rfl) (mr_a hm716 10 rfl) (by omega) (by omega) (show ev _ _ _ _ _ _ _ _ (vL (gd (τ.2 10) ((480 + (4 * (k))) + 0)) :: _) _ _ _ from ?_)
        refine ev_mlas (iN := (4 * ((40 * (pn)) + (k))) + 0) (k_m_read_1 37 rfl) 10 rfl hm716 fm716 (by omega) (by omega) (fun h718 (hm718 : MR h718 ma (sA (sA (sA (sA τ 7 ((τ.2 7).set ((40 * (pn)) + (k)) (gd (τ.2 7) (120 + (k))))) 8 ((τ.2 8).set ((40 * (pn)) + (k)) (gd (τ.2 8) (120 + (k))))) 9 ((τ.2 9).set ((40 * (pn)) + (k)) (gd (τ.2 9) (120 + (k))))) 10 ((τ.2 10).set ((4 * ((40 * (pn)) + (k))) + 0) (gd (τ.2 10) ((480 + (4 * (k))) + 0))))) fm718 => ?_)
        refine ev_iinc (k_m_read_1 38 rfl) rfl (by omega) (show ev _ _ _ _ _ _ 155 [some (vA (ma 0)), some (vI g), some (vI (k : Int)), some (vI ((40 * (pn : Int)) + (k : Int))), some (vI 1)] _ _ _ _ from ?_)
        refine ev_goto (k_m_read_1 39 rfl) ?_
        refine ev_ilw (k_m_read_1 17 rfl) rfl ?_
        refine ev_ic (k_m_read_1 18 rfl) ?_
        refine ev_ic_ge (k_m_read_1 19 rfl) (fun c => absurd c (by decide)) (fun _ => ?_)
        refine ev_al (k_m_read_1 20 rfl) rfl ?_
        refine ev_get (v := vA (ma 10)) (k_m_read_1 21 rfl) hm718.1 rfl ?_
        refine ev_ic (k_m_read_1 22 rfl) ?_
        refine ev_il (k_m_read_1 23 rfl) rfl ?_
        refine ev_imul (k_m_read_1 24 rfl) (by omega) ?_
        refine ev_ilw (k_m_read_1 25 rfl) rfl ?_
        refine ev_iadd (k_m_read_1 26 rfl) (by omega) ?_
        refine ev_al (k_m_read_1 27 rfl) rfl ?_
        refine ev_get (v := vA (ma 10)) (k_m_read_1 28 rfl) hm718.1 rfl ?_
        refine ev_sp (k_m_read_1 29 rfl) ?_
        refine ev_ic (k_m_read_1 30 rfl) ?_
        refine ev_il (k_m_read_1 31 rfl) rfl ?_
        refine ev_imul (k_m_read_1 32 rfl) (by omega) ?_
        refine ev_iadd (k_m_read_1 33 rfl) (by omega) ?_
        refine ev_ilw (k_m_read_1 34 rfl) rfl ?_
        refine ev_iadd (k_m_read_1 35 rfl) (by omega) ?_
        refine ev_lald (xs := ((τ.2 10).set ((4 * ((40 * (pn)) + (k))) + 0) (gd (τ.2 10) ((480 + (4 * (k))) + 0)))) (k_m_read_1 36 rfl) (mr_a hm718 10 rfl) (by omega) (by simp only [List.length_set]; omega) (show ev _ _ _ _ _ _ _ _ (vL (gd ((τ.2 10).set ((4 * ((40 * (pn)) + (k))) + 0) (gd (τ.2 10) ((480 + (4 * (k))) + 0))) ((480 + (4 * (k))) + 1)) :: _) _ _ _ from ?_)
        rw [gd_set_ne _ (by omega)]
        refine ev_mlas (iN := (4 * ((40 * (pn)) + (k))) + 1) (k_m_read_1 37 rfl) 10 rfl hm718 fm718 (by omega) (by omega) (fun h720 (hm720 : MR h720 ma (sA (sA (sA (sA (sA τ 7 ((τ.2 7).set ((40 * (pn)) + (k)) (gd (τ.2 7) (120 + (k))))) 8 ((τ.2 8).set ((40 * (pn)) + (k)) (gd (τ.2 8) (120 + (k))))) 9 ((τ.2 9).set ((40 * (pn)) + (k)) (gd (τ.2 9) (120 + (k))))) 10 ((τ.2 10).set ((4 * ((40 * (pn)) + (k))) + 0) (gd (τ.2 10) ((480 + (4 * (k))) + 0)))) 10 ((((τ.2 10).set ((4 * ((40 * (pn)) + (k))) + 0) (gd (τ.2 10) ((480 + (4 * (k))) + 0)))).set ((4 * ((40 * (pn)) + (k))) + 1) (gd (τ.2 10) ((480 + (4 * (k))) + 1))))) fm720 => ?_)
        refine ev_iinc (k_m_read_1 38 rfl) rfl (by omega) (show ev _ _ _ _ _ _ 155 [some (vA (ma 0)), some (vI g), some (vI (k : Int)), some (vI ((40 * (pn : Int)) + (k : Int))), some (vI 2)] _ _ _ _ from ?_)
        refine ev_goto (k_m_read_1 39 rfl) ?_
        refine ev_ilw (k_m_read_1 17 rfl) rfl ?_
        refine ev_ic (k_m_read_1 18 rfl) ?_
        refine ev_ic_ge (k_m_read_1 19 rfl) (fun c => absurd c (by decide)) (fun _ => ?_)
        refine ev_al (k_m_read_1 20 rfl) rfl ?_
        refine ev_get (v := vA (ma 10)) (k_m_read_1 21 rfl) hm720.1 rfl ?_
        refine ev_ic (k_m_read_1 22 rfl) ?_
        refine ev_il (k_m_read_1 23 rfl) rfl ?_
        refine ev_imul (k_m_read_1 24 rfl) (by omega) ?_
        refine ev_ilw (k_m_read_1 25 rfl) rfl ?_
        refine ev_iadd (k_m_read_1 26 rfl) (by omega) ?_
        refine ev_al (k_m_read_1 27 rfl) rfl ?_
        refine ev_get (v := vA (ma 10)) (k_m_read_1 28 rfl) hm720.1 rfl ?_
        refine ev_sp (k_m_read_1 29 rfl) ?_
        refine ev_ic (k_m_read_1 30 rfl) ?_
        refine ev_il (k_m_read_1 31 rfl) rfl ?_
        refine ev_imul (k_m_read_1 32 rfl) (by omega) ?_
        refine ev_iadd (k_m_read_1 33 rfl) (by omega) ?_
        refine ev_ilw (k_m_read_1 34 rfl) rfl ?_
        refine ev_iadd (k_m_read_1 35 rfl) (by omega) ?_
        refine ev_lald (xs := ((((τ.2 10).set ((4 * ((40 * (pn)) + (k))) + 0) (gd (τ.2 10) ((480 + (4 * (k))) + 0)))).set ((4 * ((40 * (pn)) + (k))) + 1) (gd (τ.2 10) ((480 + (4 * (k))) + 1)))) (k_m_read_1 36 rfl) (mr_a hm720 10 rfl) (by omega) (by simp only [List.length_set]; omega) (show ev _ _ _ _ _ _ _ _ (vL (gd ((((τ.2 10).set ((4 * ((40 * (pn)) + (k))) + 0) (gd (τ.2 10) ((480 + (4 * (k))) + 0)))).set ((4 * ((40 * (pn)) + (k))) + 1) (gd (τ.2 10) ((480 + (4 * (k))) + 1))) ((480 + (4 * (k))) + 2)) :: _) _ _ _ from ?_)
        rw [gd_set_ne _ (by omega), gd_set_ne _ (by omega)]
        refine ev_mlas (iN := (4 * ((40 * (pn)) + (k))) + 2) (k_m_read_1 37 rfl) 10 rfl hm720 fm720 (by omega) (by omega) (fun h722 (hm722 : MR h722 ma (sA (sA (sA (sA (sA (sA τ 7 ((τ.2 7).set ((40 * (pn)) + (k)) (gd (τ.2 7) (120 + (k))))) 8 ((τ.2 8).set ((40 * (pn)) + (k)) (gd (τ.2 8) (120 + (k))))) 9 ((τ.2 9).set ((40 * (pn)) + (k)) (gd (τ.2 9) (120 + (k))))) 10 ((τ.2 10).set ((4 * ((40 * (pn)) + (k))) + 0) (gd (τ.2 10) ((480 + (4 * (k))) + 0)))) 10 ((((τ.2 10).set ((4 * ((40 * (pn)) + (k))) + 0) (gd (τ.2 10) ((480 + (4 * (k))) + 0)))).set ((4 * ((40 * (pn)) + (k))) + 1) (gd (τ.2 10) ((480 + (4 * (k))) + 1)))) 10 ((((((τ.2 10).set ((4 * ((40 * (pn)) + (k))) + 0) (gd (τ.2 10) ((480 + (4 * (k))) + 0)))).set ((4 * ((40 * (pn)) + (k))) + 1) (gd (τ.2 10) ((480 + (4 * (k))) + 1)))).set ((4 * ((40 * (pn)) + (k))) + 2) (gd (τ.2 10) ((480 + (4 * (k))) + 2))))) fm722 => ?_)
        refine ev_iinc (k_m_read_1 38 rfl) rfl (by omega) (show ev _ _ _ _ _ _ 155 [some (vA (ma 0)), some (vI g), some (vI (k : Int)), some (vI ((40 * (pn : Int)) + (k : Int))), some (vI 3)] _ _ _ _ from ?_)
        refine ev_goto (k_m_read_1 39 rfl) ?_
        refine ev_ilw (k_m_read_1 17 rfl) rfl ?_
        refine ev_ic (k_m_read_1 18 rfl) ?_
        refine ev_ic_ge (k_m_read_1 19 rfl) (fun c => absurd c (by decide)) (fun _ => ?_)
        refine ev_al (k_m_read_1 20 rfl) rfl ?_
        refine ev_get (v := vA (ma 10)) (k_m_read_1 21 rfl) hm722.1 rfl ?_
        refine ev_ic (k_m_read_1 22 rfl) ?_
        refine ev_il (k_m_read_1 23 rfl) rfl ?_
        refine ev_imul (k_m_read_1 24 rfl) (by omega) ?_
        refine ev_ilw (k_m_read_1 25 rfl) rfl ?_
        refine ev_iadd (k_m_read_1 26 rfl) (by omega) ?_
        refine ev_al (k_m_read_1 27 rfl) rfl ?_
        refine ev_get (v := vA (ma 10)) (k_m_read_1 28 rfl) hm722.1 rfl ?_
        refine ev_sp (k_m_read_1 29 rfl) ?_
        refine ev_ic (k_m_read_1 30 rfl) ?_
        refine ev_il (k_m_read_1 31 rfl) rfl ?_
        refine ev_imul (k_m_read_1 32 rfl) (by omega) ?_
        refine ev_iadd (k_m_read_1 33 rfl) (by omega) ?_
        refine ev_ilw (k_m_read_1 34 rfl) rfl ?_
        refine ev_iadd (k_m_read_1 35 rfl) (by omega) ?_
        refine ev_lald (xs := ((((((τ.2 10).set ((4 * ((40 * (pn)) + (k))) + 0) (gd (τ.2 10) ((480 + (4 * (k))) + 0)))).set ((4 * ((40 * (pn)) + (k))) + 1) (gd (τ.2 10) ((480 + (4 * (k))) + 1)))).set ((4 * ((40 * (pn)) + (k))) + 2) (gd (τ.2 10) ((480 + (4 * (k))) + 2)))) (k_m_read_1 36 rfl) (mr_a hm722 10 rfl) (by omega) (by simp only [List.length_set]; omega) (show ev _ _ _ _ _ _ _ _ (vL (gd ((((((τ.2 10).set ((4 * ((40 * (pn)) + (k))) + 0) (gd (τ.2 10) ((480 + (4 * (k))) + 0)))).set ((4 * ((40 * (pn)) + (k))) + 1) (gd (τ.2 10) ((480 + (4 * (k))) + 1)))).set ((4 * ((40 * (pn)) + (k))) + 2) (gd (τ.2 10) ((480 + (4 * (k))) + 2))) ((480 + (4 * (k))) + 3)) :: _) _ _ _ from ?_)
        rw [gd_set_ne _ (by omega), gd_set_ne _ (by omega), gd_set_ne _ (by omega)]
        refine ev_mlas (iN := (4 * ((40 * (pn)) + (k))) + 3) (k_m_read_1 37 rfl) 10 rfl hm722 fm722 (by omega) (by omega) (fun h724 (hm724 : MR h724 ma (sA (sA (sA (sA (sA (sA (sA τ 7 ((τ.2 7).set ((40 * (pn)) + (k)) (gd (τ.2 7) (120 + (k))))) 8 ((τ.2 8).set ((40 * (pn)) + (k)) (gd (τ.2 8) (120 + (k))))) 9 ((τ.2 9).set ((40 * (pn)) + (k)) (gd (τ.2 9) (120 + (k))))) 10 ((τ.2 10).set ((4 * ((40 * (pn)) + (k))) + 0) (gd (τ.2 10) ((480 + (4 * (k))) + 0)))) 10 ((((τ.2 10).set ((4 * ((40 * (pn)) + (k))) + 0) (gd (τ.2 10) ((480 + (4 * (k))) + 0)))).set ((4 * ((40 * (pn)) + (k))) + 1) (gd (τ.2 10) ((480 + (4 * (k))) + 1)))) 10 ((((((τ.2 10).set ((4 * ((40 * (pn)) + (k))) + 0) (gd (τ.2 10) ((480 + (4 * (k))) + 0)))).set ((4 * ((40 * (pn)) + (k))) + 1) (gd (τ.2 10) ((480 + (4 * (k))) + 1)))).set ((4 * ((40 * (pn)) + (k))) + 2) (gd (τ.2 10) ((480 + (4 * (k))) + 2)))) 10 ((((((((τ.2 10).set ((4 * ((40 * (pn)) + (k))) + 0) (gd (τ.2 10) ((480 + (4 * (k))) + 0)))).set ((4 * ((40 * (pn)) + (k))) + 1) (gd (τ.2 10) ((480 + (4 * (k))) + 1)))).set ((4 * ((40 * (pn)) + (k))) + 2) (gd (τ.2 10) ((480 + (4 * (k))) + 2)))).set ((4 * ((40 * (pn)) + (k))) + 3) (gd (τ.2 10) ((480 + (4 * (k))) + 3))))) fm724 => ?_)
        refine ev_iinc (k_m_read_1 38 rfl) rfl (by omega) (show ev _ _ _ _ _ _ 155 [some (vA (ma 0)), some (vI g), some (vI (k : Int)), some (vI ((40 * (pn : Int)) + (k : Int))), some (vI 4)] _ _ _ _ from ?_)
        refine ev_goto (k_m_read_1 39 rfl) ?_
        refine ev_ilw (k_m_read_1 17 rfl) rfl ?_
        refine ev_ic (k_m_read_1 18 rfl) ?_
        refine ev_ic_ge (k_m_read_1 19 rfl) (fun _ => ?_) (fun c => absurd c (by decide))
        refine ev_iinc (k_m_read_1 40 rfl) rfl (by omega) (show ev _ _ _ _ _ _ 161 [some (vA (ma 0)), some (vI g), some (vI ((k : Int) + 1)), some (vI ((40 * (pn : Int)) + (k : Int))), some (vI 4)] _ _ _ _ from ?_)
        refine ev_goto (k_m_read_1 41 rfl) ?_
        refine ev_dead 3 (show ev _ _ _ _ _ _ 52 [some (vA (ma 0)), some (vI g), some (vI ((k : Int) + 1)), none, some (vI 4)] _ _ _ _ from ?_)
        refine ev_dead 4 (show ev _ _ _ _ _ _ 52 [some (vA (ma 0)), some (vI g), some (vI ((k : Int) + 1)), none, none] _ _ _ _ from ?_)
        have hcn : cpy_ σ (sA (sA (sA (sA (sA (sA (sA τ 7 ((τ.2 7).set ((40 * (pn)) + (k)) (gd (τ.2 7) (120 + (k))))) 8 ((τ.2 8).set ((40 * (pn)) + (k)) (gd (τ.2 8) (120 + (k))))) 9 ((τ.2 9).set ((40 * (pn)) + (k)) (gd (τ.2 9) (120 + (k))))) 10 ((τ.2 10).set ((4 * ((40 * (pn)) + (k))) + 0) (gd (τ.2 10) ((480 + (4 * (k))) + 0)))) 10 ((((τ.2 10).set ((4 * ((40 * (pn)) + (k))) + 0) (gd (τ.2 10) ((480 + (4 * (k))) + 0)))).set ((4 * ((40 * (pn)) + (k))) + 1) (gd (τ.2 10) ((480 + (4 * (k))) + 1)))) 10 ((((((τ.2 10).set ((4 * ((40 * (pn)) + (k))) + 0) (gd (τ.2 10) ((480 + (4 * (k))) + 0)))).set ((4 * ((40 * (pn)) + (k))) + 1) (gd (τ.2 10) ((480 + (4 * (k))) + 1)))).set ((4 * ((40 * (pn)) + (k))) + 2) (gd (τ.2 10) ((480 + (4 * (k))) + 2)))) 10 ((((((((τ.2 10).set ((4 * ((40 * (pn)) + (k))) + 0) (gd (τ.2 10) ((480 + (4 * (k))) + 0)))).set ((4 * ((40 * (pn)) + (k))) + 1) (gd (τ.2 10) ((480 + (4 * (k))) + 1)))).set ((4 * ((40 * (pn)) + (k))) + 2) (gd (τ.2 10) ((480 + (4 * (k))) + 2)))).set ((4 * ((40 * (pn)) + (k))) + 3) (gd (τ.2 10) ((480 + (4 * (k))) + 3)))) pn (k + 1) := ⟨hcp.1, fun j hj => by simp only [sA]; rw [if_neg (by omega), if_neg (by omega), if_neg (by omega), if_neg (by omega), if_neg (by omega), if_neg (by omega), if_neg (by omega)]; exact hcp.2.1 j hj, cpyA_s hcp.2.2.1 (by omega) (by omega), cpyA_s hcp.2.2.2.1 (by omega) (by omega), cpyA_s hcp.2.2.2.2.1 (by omega) (by omega), cpyW_s hcp.2.2.2.2.2 (by omega) (by omega)⟩
        rw [show (k : Int) + 1 = ((k + 1 : Nat) : Int) by omega]
        exact ih _ _ hm724 fm724 (k + 1) (by omega) hcn (by omega)
/-- an edition is read anew: its rows -/
def rdC (σ υ : sg_T) (e : Nat) (R : List rw_T) : Prop := (∀ j, j ≠ 0 → j ≠ 2 → j ≠ 4 → j ≠ 5 → j ≠ 25 → υ.1 j = σ.1 j) ∧ (υ.1 0 = 0 ∧ υ.1 2 = 0 ∧ υ.1 4 = 0 ∧ υ.1 5 = -1) ∧ (∀ k, k ≠ 6 → k ≠ 7 → k ≠ 8 → k ≠ 9 → k ≠ 10 → k ≠ 24 → υ.2 k = σ.2 k)
  ∧ (∀ i, i < 3 → gd (υ.2 6) i = if i = e then (R.length : Int) else gd (σ.2 6) i)
  ∧ (∀ i, i < 120 → (i < 40 * e ∨ 40 * e + 40 ≤ i) → gd (υ.2 7) i = gd (σ.2 7) i ∧ gd (υ.2 8) i = gd (σ.2 8) i ∧ gd (υ.2 9) i = gd (σ.2 9) i ∧ ∀ j, j < 4 → gd (υ.2 10) (4 * i + j) = gd (σ.2 10) (4 * i + j))
  ∧ (∀ i, i < R.length → gd (υ.2 7) (40 * e + i) = rc R i ∧ gd (υ.2 8) (40 * e + i) = rd R i ∧ gd (υ.2 9) (40 * e + i) = ((rws R i).length : Int) ∧ ((rws R i).length ≤ 4) ∧ (∀ j, j < 4 → gd (υ.2 10) (4 * (40 * e + i) + j) = enc 32 ((rws R i).getD j [])) ∧ 0 < rc R i ∧ 0 ≤ rd R i ∧ rd R i ≤ 4)
  ∧ R ≠ [] ∧ R.length ≤ 40
theorem rdC_of {σ τ υ : sg_T} {e : Nat} {R : List rw_T} (he : e < 3) (hl : (τ.2 6).length = 4) (fr : frd σ τ) (hs : SCR τ R) (h4 : τ.1 4 = 0) (h5 : τ.1 5 = -1) (hne : R ≠ []) (hc : cpy_ (sA (sS (sS τ 2 0) 0 0) 6 ((τ.2 6).set e (R.length : Int))) υ e R.length) : rdC σ υ e R := by
  obtain ⟨c1, c2, c7, c8, c9, c10⟩ := hc
  have c7 : cpyA (40 * e) R.length (τ.2 7) (υ.2 7) := c7
  have c8 : cpyA (40 * e) R.length (τ.2 8) (υ.2 8) := c8
  have c9 : cpyA (40 * e) R.length (τ.2 9) (υ.2 9) := c9
  have c10 : cpyW (160 * e) R.length (τ.2 10) (υ.2 10) := c10
  have hR := hs.2.1
  have e6 : υ.2 6 = (τ.2 6).set e (R.length : Int) := c2 6 (by omega)
  refine ⟨fun j h0 h2 h4 h5 h25 => ?_, ⟨?_, ?_, ?_, ?_⟩, fun k a6 a7 a8 a9 a10 a24 => ?_, fun i hi => ?_, fun i hi ho => ?_, fun i hi => ?_, hne, hR⟩
  · rw [c1]; simp only [sA, sS]; rw [if_neg h0, if_neg h2]; exact fr.1 j h4 h5 h25
  · rw [c1]; rfl
  · rw [c1]; rfl
  · rw [c1]; exact h4
  · rw [c1]; exact h5
  · rw [c2 k (by omega)]; simp only [sA, sS]; rw [if_neg a6]; exact fr.2.1 k a6 a7 a8 a9 a10 a24
  · rw [e6, gd_set _ (by omega)]
    split
    · rfl
    · exact fr.2.2.1 i hi
  · obtain ⟨f7, f8, f9⟩ := fr.2.2.2.1 i hi
    refine ⟨(c7.2 i (by omega)).trans f7, (c8.2 i (by omega)).trans f8, (c9.2 i (by omega)).trans f9, fun j hj => (c10.2 _ (by omega)).trans (fr.2.2.2.2 _ (by omega))⟩
  · obtain ⟨s1, s2, s3, s4, s5, s6⟩ := hs.2.2 i hi
    refine ⟨(c7.1 i hi).trans s1, (c8.1 i hi).trans s2, (c9.1 i hi).trans s3, s4, fun j hj => ?_, s6⟩
    have := c10.1 i j hi hj
    rw [show 4 * (40 * e + i) + j = 160 * e + 4 * i + j by omega]
    exact this.trans (s5 j hj)
set_option maxHeartbeats 4000000 in
theorem c_m_read (G : gt_T) (ma : Nat → Nat) (σ : sg_T) (h : ab_H) (hm : MR h ma σ) (n : Nat) (hn0 : σ.1 2 = (n : Int)) (hn4 : n ≤ 400) (pn : Nat) (hp : σ.1 3 = (pn : Int)) (hp2 : pn < 3) (n1 n2 : Nat) (hnn : σ.1 11 = (n1 : Int)) (hn20 : n1 ≤ 20) (hn2 : σ.1 16 = (n2 : Int)) (hn60 : n2 ≤ 60) : ct G M_m_read 6 147 0 0 [vA (ma 0)] h (rI fun z h' => ∃ τ, MR h' ma τ ∧ fM h h' ∧ ((∃ (y : Int) (pl : Nat), prs (gd (σ.2 1)) n = .inl (y, pl) ∧ z = 0 ∧ frd (sS (sS σ 2 0) 0 1) τ ∧ τ.1 4 = y ∧ τ.1 5 = (pl : Int)) ∨ (∃ (R : List rw_T) (υ : sg_T), prs (gd (σ.2 1)) n = .inr R ∧ z = (R.length : Int) ∧ rdC σ υ pn R ∧ fgt υ τ (pn : Int) n1 n2))) nT := by
  show ev _ _ _ _ _ _ 0 [some (vA (ma 0)), none, none, none, none] [] _ _ _
  refine ev_al (k_m_read_0 0 rfl) rfl ?_
  refine ev_ic (k_m_read_0 1 rfl) ?_
  refine ev_mput (z := 0) (k_m_read_0 2 rfl) hm (fM_rf _) (le_b rfl) rfl rfl (fun h726 (hm726 : MR h726 ma (sS σ 4 0)) fm726 => ?_)
  refine ev_al (k_m_read_0 3 rfl) rfl ?_
  refine ev_ic (k_m_read_0 4 rfl) ?_
  refine ev_mput (z := (-1)) (k_m_read_0 5 rfl) hm726 fm726 (le_b rfl) rfl rfl (fun h727 (hm727 : MR h727 ma (sS (sS σ 4 0) 5 (-1))) fm727 => ?_)
  refine ev_al (k_m_read_0 6 rfl) rfl ?_
  refine ev_cV (k_m_read_0 7 rfl) rfl v_m_reads hm727.1 rfl (c_m_reads G ma _ _ hm727 n hn0 hn4) rfl (le_b rfl) (le_b rfl) (le_b rfl) k_n (k_B fun z728 h728 q728 => ?_)
  obtain ⟨τ, hmr, fmr0, frr, hqr⟩ := q728
  have fmr := fM_tr fm727 fmr0
  have fr : frd σ τ := frd_tr (frd_tr (frd_S (Or.inl rfl)) (frd_S (Or.inr (Or.inl rfl)))) frr
  have hpt : τ.1 3 = (pn : Int) := (fr.1 3 (by decide) (by decide) (by decide)).trans hp
  refine ev_is (k_m_read_0 8 rfl) (le_b rfl) (show ev _ _ _ _ _ _ 15 [some (vA (ma 0)), some (vI (bi z728)), none, none, none] _ _ _ _ from ?_)
  refine ev_al (k_m_read_0 9 rfl) rfl ?_
  refine ev_ic (k_m_read_0 10 rfl) ?_
  refine ev_mput (z := 0) (k_m_read_0 11 rfl) hmr fmr (le_b rfl) rfl rfl (fun h729 (hm729 : MR h729 ma (sS τ 2 0)) fm729 => ?_)
  refine ev_il (k_m_read_0 12 rfl) rfl ?_
  rcases hqr with ⟨y, pl, e1, rfl, e4, e5⟩ | ⟨R, e1, rfl, hsc, hne, e4, e5⟩
  · refine ev_if_ne (k_m_read_0 13 rfl) (fun c => absurd c (by decide)) (fun _ => ?_)
    refine ev_al (k_m_read_0 14 rfl) rfl ?_
    refine ev_ic (k_m_read_0 15 rfl) ?_
    refine ev_cV (k_m_read_0 16 rfl) rfl v_m_refuse hm729.1 rfl (c_m_refuse G ma _ _ hm729 1) rfl (le_b rfl) (le_b rfl) (le_b rfl) k_n (k_I fun z731 h731 q731 => ?_)
    obtain ⟨rfl, hm731, fmx731⟩ := q731
    have fm731 := fM_tr fm729 fmx731
    exact ev_iret (k_m_read_0 17 rfl) rfl (⟨_, rfl, _, hm731, fm731, Or.inl ⟨y, pl, e1, rfl, frd_cg (frd_cg fr 2 0) 0 1, e4, e5⟩⟩)
  · have l6 := mr_l hmr 6 rfl
    have hR40 := hsc.2.1
    refine ev_if_ne (k_m_read_0 13 rfl) (fun _ => ?_) (fun c => absurd c (by decide))
    refine ev_al (k_m_read_0 18 rfl) rfl ?_
    refine ev_ic (k_m_read_0 19 rfl) ?_
    refine ev_mput (z := 0) (k_m_read_0 20 rfl) hm729 fm729 (le_b rfl) rfl rfl (fun h733 (hm733 : MR h733 ma (sS (sS τ 2 0) 0 0)) fm733 => ?_)
    refine ev_al (k_m_read_0 21 rfl) rfl ?_
    refine ev_get (v := vA (ma 6)) (k_m_read_0 22 rfl) hm733.1 rfl ?_
    refine ev_al (k_m_read_0 23 rfl) rfl ?_
    refine ev_get (v := vI (pn : Int)) (k_m_read_0 24 rfl) hm733.1 (congrArg (fun z => some (vI z)) hpt) ?_
    refine ev_al (k_m_read_0 25 rfl) rfl ?_
    refine ev_get (v := vA (ma 6)) (k_m_read_0 26 rfl) hm733.1 rfl ?_
    refine ev_ic (k_m_read_0 27 rfl) ?_
    refine ev_iald (xs := τ.2 6) (k_m_read_0 28 rfl) (mr_a hm733 6 rfl) (by omega) (by omega) (show ev _ _ _ _ _ _ _ _ (vI (gd (τ.2 6) 3) :: _) _ _ _ from ?_)
    rw [hsc.1]
    refine ev_mias (iN := (pn)) (k_m_read_0 29 rfl) 6 rfl hm733 fm733 (by omega) (by omega) (fun h734 (hm734 : MR h734 ma (sA (sS (sS τ 2 0) 0 0) 6 ((τ.2 6).set (pn) (R.length : Int)))) fm734 => ?_)
    refine ev_ic (k_m_read_0 30 rfl) ?_
    refine ev_is (k_m_read_0 31 rfl) (le_b rfl) (show ev _ _ _ _ _ _ 52 [some (vA (ma 0)), some (vI (bi true)), some (vI 0), none, none] _ _ _ _ from ?_)
    rw [show (0 : Int) = ((0 : Nat) : Int) from rfl]
    refine lp_read (σ := (sA (sS (sS τ 2 0) 0 0) 6 ((τ.2 6).set pn (R.length : Int)))) (rl := R.length) hpt hp2 (by rw [sA_eq, gd_set_ne _ (by omega)]; exact hsc.1) hR40 (fun hx υ hmx fmx hcx => ?_) (R.length + 1) _ _ hm734 fm734 0 (by omega) ⟨rfl, fun _ _ => rfl, cpyA_0 _ _, cpyA_0 _ _, cpyA_0 _ _, cpyW_0 _ _⟩ (by omega)
    have hrd : rdC σ υ pn R := rdC_of hp2 l6 fr hsc e4 e5 hne hcx
    have hpu : υ.1 3 = (pn : Int) := (hrd.1 3 (by decide) (by decide) (by decide) (by decide) (by decide)).trans hp
    have hu1 := hrd.1 11 (by decide) (by decide) (by decide) (by decide) (by decide)
    have hu2 := hrd.1 16 (by decide) (by decide) (by decide) (by decide) (by decide)
    refine ev_al (k_m_read_1 42 rfl) rfl ?_
    refine ev_al (k_m_read_1 43 rfl) rfl ?_
    refine ev_get (v := vI (pn : Int)) (k_m_read_1 44 rfl) hmx.1 (congrArg (fun z => some (vI z)) hpu) ?_
    refine ev_cV (k_m_read_1 45 rfl) rfl v_m_forget hmx.1 rfl (c_m_forget G ma _ _ hmx (pn : Int) n1 n2 (hu1.trans hnn) hn20 (hu2.trans hn2) hn60) rfl (le_b rfl) (le_b rfl) (le_b rfl) k_n (k_V fun h735 q735 => ?_)
    obtain ⟨τ2, hmf, fmf0, hff⟩ := q735
    have fmf := fM_tr fmx fmf0
    have hr2 : gd (τ2.2 6) 3 = (R.length : Int) := by rw [hff.2.1 6 (by omega), hcx.2.1 6 (by omega), sA_eq, gd_set_ne _ (by omega)]; exact hsc.1
    have l6x := mr_l hmf 6 rfl
    refine ev_al (k_m_read_1 46 rfl) rfl ?_
    refine ev_get (v := vA (ma 6)) (k_m_read_1 47 rfl) hmf.1 rfl ?_
    refine ev_ic (k_m_read_1 48 rfl) ?_
    refine ev_iald (xs := τ2.2 6) (k_m_read_1 49 rfl) (mr_a hmf 6 rfl) (by omega) (by omega) (show ev _ _ _ _ _ _ _ _ (vI (gd (τ2.2 6) 3) :: _) _ _ _ from ?_)
    rw [hr2]
    exact ev_iret (k_m_read_1 50 rfl) rfl (⟨_, rfl, _, hmf, fmf, Or.inr ⟨R, υ, e1, rfl, hrd, hff⟩⟩)
