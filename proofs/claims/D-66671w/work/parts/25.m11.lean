/-- the rows above a row, the nearest first -/
def anc (d : List Int) (f t : Nat) : List Nat := if abv d f t < 0 then [] else (abv d f t).toNat :: anc d f (abv d f t).toNat
termination_by t
decreasing_by have := abv_lt d (f := f) (t := t); omega
def ancO (d : List Int) (f : Nat) (u : Int) : List Nat := if u < 0 then [] else u.toNat :: anc d f u.toNat
theorem anc_eq (d : List Int) (f t : Nat) : anc d f t = ancO d f (abv d f t) := by rw [anc]; rfl
theorem ancO_n {d : List Int} {f : Nat} {u : Int} (h : u < 0) : ancO d f u = [] := if_pos h
theorem ancO_s {d : List Int} {f u : Nat} : ancO d f (u : Int) = u :: ancO d f (abv d f u) := by
  unfold ancO
  rw [if_neg (by omega), show ((u : Int)).toNat = u by omega, anc]
def ovr (σ : sg_T) (e t : Nat) (w : Int) : Bool := (anc (σ.2 8) (40 * e) t).any fun u => hsw σ u w
def lft (σ : sg_T) (e t : Nat) : Bool := (anc (σ.2 8) (40 * e) t).any fun u => hsn σ (gd (σ.2 7) u) 1 (gd (σ.2 7) t)
def ptw (σ : sg_T) (e t : Nat) (w : Int) : Int := if hsw σ t w then 4 else if ovr σ e t w then 2 else 0
def smw (σ : sg_T) (e t : Nat) (f : Nat → Int) : Nat → Int
  | 0 => 0
  | n + 1 => smw σ e t f n + ptw σ e t (f n)
theorem ptw_b (σ : sg_T) (e t : Nat) (w : Int) : 0 ≤ ptw σ e t w ∧ ptw σ e t w ≤ 4 := by unfold ptw; split; omega; split <;> omega
theorem smw_b (σ : sg_T) (e t : Nat) (f : Nat → Int) : ∀ n : Nat, 0 ≤ smw σ e t f n ∧ smw σ e t f n ≤ 4 * n
  | 0 => by simp [smw]
  | n + 1 => by have := smw_b σ e t f n; have := ptw_b σ e t (f n); unfold smw; omega
theorem smw_cg {σ : sg_T} {e t : Nat} {f g : Nat → Int} : ∀ {n : Nat}, (∀ k, k < n → f k = g k) → smw σ e t f n = smw σ e t g n
  | 0, _ => rfl
  | n + 1, h => by unfold smw; rw [smw_cg (fun k hk => h k (by omega)), h n (by omega)]
def pts (σ : sg_T) (e t : Nat) (f : Nat → Int) (n : Nat) : Int := if lft σ e t then smw σ e t f n / 2 else smw σ e t f n
theorem pts_b (σ : sg_T) (e t : Nat) (f : Nat → Int) (n : Nat) : 0 ≤ pts σ e t f n ∧ pts σ e t f n ≤ 4 * n := by have := smw_b σ e t f n; unfold pts; split <;> omega
theorem smw_s (σ : sg_T) (e t : Nat) (f : Nat → Int) (n : Nat) : smw σ e t f (n + 1) = smw σ e t f n + ptw σ e t (f n) := rfl
theorem pts_fin {σ : sg_T} {e t k : Nat} {f : Nat → Int} {vt : Bool} (h2 : vt = if k = 0 then false else lft σ e t) : pts σ e t f k = if vt then smw σ e t f k / 2 else smw σ e t f k := by
  unfold pts
  cases k with
  | zero => simp [h2, smw]
  | succ k => simp [h2]
def inE (σ : sg_T) (e : Nat) : Prop := ∀ j, 40 * e ≤ j → j < 40 * e + (gd (σ.2 6) e).toNat → 0 ≤ gd (σ.2 8) j ∧ 0 ≤ gd (σ.2 9) j ∧ gd (σ.2 9) j ≤ 4
set_option maxHeartbeats 4000000 in
theorem lp_up {G : gt_T} {C S : Nat} {Φ : Option ab_V → ab_H → Prop} {Θ : Nat → ab_H → Prop} {ma : Nat → Nat} {σ : sg_T} {h : ab_H} {pn t na : Nat} (hm : MR h ma σ) (HR : ∀ e, e < 3 → 0 ≤ gd (σ.2 6) e ∧ gd (σ.2 6) e ≤ 40) (hp : σ.1 3 = (pn : Int)) (hp2 : pn < 3) (hE : inE σ pn) (hna : σ.1 25 = (na : Int)) (hn6 : na ≤ 6) (ht1 : 40 * pn ≤ t) (ht2 : t < 40 * pn + (gd (σ.2 6) pn).toNat) (hno : σ.1 11 ≤ 20) {k : Nat} {nv : Int} (hk : k < na) {vo vt : Bool} (k0 : ev G M_m_pointsOf 2 53 C S 115 [some (vA (ma 0)), some (vI (t : Int)), some (vI nv), some (vI (bi vt)), some (vI (k : Int)), some (vI (bi vo)), none] [] h Φ Θ) : ∀ (fu : Nat) (up : Int) (ov ot : Bool), ((up = -1 ∨ (40 * pn : Int) ≤ up) ∧ up < 40 * pn + (gd (σ.2 6) pn).toNat) → ((ov || (ancO (σ.2 8) (40 * pn) up).any fun u => hsw σ u (gd (σ.2 24) k)) = vo) → ((ot || (ancO (σ.2 8) (40 * pn) up).any fun u => hsn σ (gd (σ.2 7) u) 1 (gd (σ.2 7) t)) = vt) → (up + 1).toNat < fu → ev G M_m_pointsOf 2 53 C S 33 [some (vA (ma 0)), some (vI (t : Int)), some (vI nv), some (vI (bi ot)), some (vI (k : Int)), some (vI (bi ov)), some (vI up)] [] h Φ Θ := by
  intro fu
  induction fu with
  | zero => intros; omega
  | succ fu ih =>
    intro up ov ot hup h1 h2 hn
    have hre := HR pn hp2
    have l7 := mr_l hm 7 rfl
    have l24 := mr_l hm 24 rfl
    by_cases hu0 : up < 0
    · refine ev_ilw (k_m_pointsOf_0 20 rfl) rfl ?_
      refine ev_if_lt (k_m_pointsOf_0 21 rfl) (fun _ => ?_) (fun c => absurd c (by omega))
      refine ev_dead 6 (show ev _ _ _ _ _ _ 115 [some (vA (ma 0)), some (vI (t : Int)), some (vI nv), some (vI (bi ot)), some (vI (k : Int)), some (vI (bi ov)), none] _ _ _ _ from ?_)
      rw [ancO_n hu0] at h1 h2
      simp at h1 h2
      subst h1
      subst h2
      exact k0
    · obtain ⟨u, rfl⟩ : ∃ u : Nat, up = (u : Int) := ⟨up.toNat, by omega⟩
      have hab := abv_lt (σ.2 8) (f := 40 * pn) (t := u)
      refine ev_ilw (k_m_pointsOf_0 20 rfl) rfl ?_
      refine ev_if_lt (k_m_pointsOf_0 21 rfl) (fun c => absurd c (by omega)) (fun _ => ?_)
      refine ev_ilw (k_m_pointsOf_0 22 rfl) rfl ?_
      refine ev_b_ne (k_m_pointsOf_0 23 rfl) (fun c736 => ?_) (fun c736 => ?_)
      · refine ev_ic (k_m_pointsOf_0 32 rfl) ?_
        refine ev_goto (k_m_pointsOf_0 33 rfl) ?_
        refine ev_isw (k_m_pointsOf_0 35 rfl) (le_b rfl) (show ev _ _ _ _ _ _ 66 [some (vA (ma 0)), some (vI (t : Int)), some (vI nv), some (vI (bi ot)), some (vI (k : Int)), some (vI 1), some (vI (u : Int))] _ _ _ _ from ?_)
        refine ev_il (k_m_pointsOf_0 36 rfl) rfl ?_
        refine ev_b_ne (k_m_pointsOf_0 37 rfl) (fun c737 => ?_) (fun c737 => ?_)
        · refine ev_ic (k_m_pointsOf_0 50 rfl) ?_
          refine ev_goto (k_m_pointsOf_0 51 rfl) ?_
          refine ev_is (k_m_pointsOf_0 53 rfl) (le_b rfl) (show ev _ _ _ _ _ _ 97 [some (vA (ma 0)), some (vI (t : Int)), some (vI nv), some (vI 1), some (vI (k : Int)), some (vI 1), some (vI (u : Int))] _ _ _ _ from ?_)
          refine ev_al (k_m_pointsOf_0 54 rfl) rfl ?_
          refine ev_bp (k_m_pointsOf_0 55 rfl) ?_
          refine ev_al (k_m_pointsOf_0 56 rfl) rfl ?_
          refine ev_get (v := vI (pn : Int)) (k_m_pointsOf_0 57 rfl) hm.1 (congrArg (fun z => some (vI z)) hp) ?_
          refine ev_imul (k_m_pointsOf_0 58 rfl) (by omega) ?_
          refine ev_ilw (k_m_pointsOf_0 59 rfl) rfl ?_
          refine ev_cV (k_m_pointsOf_1 0 rfl) rfl v_m_above hm.1 rfl (c_m_above G ma _ _ hm (40 * (pn)) u (by omega) (by omega) (hE _ (by omega) (by omega)).1) rfl (le_b rfl) (le_b rfl) (le_b rfl) k_n (k_I fun z738 h738 q738 => ?_)
          obtain ⟨rfl, rfl⟩ := q738
          refine ev_isw (k_m_pointsOf_1 1 rfl) (le_b rfl) (show ev _ _ _ _ _ _ 112 [some (vA (ma 0)), some (vI (t : Int)), some (vI nv), some (vI 1), some (vI (k : Int)), some (vI 1), some (vI (abv (σ.2 8) (40 * (pn)) u))] _ _ _ _ from ?_)
          refine ev_goto (k_m_pointsOf_1 2 rfl) ?_
          exact ih _ true true (by omega) (by rw [← h1, ancO_s]; simp [c736, c737]) (by rw [← h2, ancO_s]; simp [c736, c737]) (by omega)
        · refine ev_al (k_m_pointsOf_0 38 rfl) rfl ?_
          refine ev_al (k_m_pointsOf_0 39 rfl) rfl ?_
          refine ev_get (v := vA (ma 7)) (k_m_pointsOf_0 40 rfl) hm.1 rfl ?_
          refine ev_ilw (k_m_pointsOf_0 41 rfl) rfl ?_
          refine ev_lald (xs := σ.2 7) (k_m_pointsOf_0 42 rfl) (mr_a hm 7 rfl) (by omega) (by omega) (show ev _ _ _ _ _ _ _ _ (vL (gd (σ.2 7) (u)) :: _) _ _ _ from ?_)
          refine ev_ic (k_m_pointsOf_0 43 rfl) ?_
          refine ev_al (k_m_pointsOf_0 44 rfl) rfl ?_
          refine ev_get (v := vA (ma 7)) (k_m_pointsOf_0 45 rfl) hm.1 rfl ?_
          refine ev_il (k_m_pointsOf_0 46 rfl) rfl ?_
          refine ev_lald (xs := σ.2 7) (k_m_pointsOf_0 47 rfl) (mr_a hm 7 rfl) (by omega) (by omega) (show ev _ _ _ _ _ _ _ _ (vL (gd (σ.2 7) (t)) :: _) _ _ _ from ?_)
          refine ev_cV (k_m_pointsOf_0 48 rfl) rfl v_m_hasNote hm.1 rfl (c_m_hasNote G ma _ _ hm (gd (σ.2 7) (u)) 1 (gd (σ.2 7) (t)) (by omega)) rfl (le_b rfl) (le_b rfl) (le_b rfl) k_n (k_B fun z739 h739 q739 => ?_)
          obtain ⟨rfl, rfl⟩ := q739
          refine ev_b_eq (k_m_pointsOf_0 49 rfl) (fun c740 => ?_) (fun c740 => ?_)
          · refine ev_ic (k_m_pointsOf_0 52 rfl) ?_
            refine ev_is (k_m_pointsOf_0 53 rfl) (le_b rfl) (show ev _ _ _ _ _ _ 97 [some (vA (ma 0)), some (vI (t : Int)), some (vI nv), some (vI 0), some (vI (k : Int)), some (vI 1), some (vI (u : Int))] _ _ _ _ from ?_)
            refine ev_al (k_m_pointsOf_0 54 rfl) rfl ?_
            refine ev_bp (k_m_pointsOf_0 55 rfl) ?_
            refine ev_al (k_m_pointsOf_0 56 rfl) rfl ?_
            refine ev_get (v := vI (pn : Int)) (k_m_pointsOf_0 57 rfl) hm.1 (congrArg (fun z => some (vI z)) hp) ?_
            refine ev_imul (k_m_pointsOf_0 58 rfl) (by omega) ?_
            refine ev_ilw (k_m_pointsOf_0 59 rfl) rfl ?_
            refine ev_cV (k_m_pointsOf_1 0 rfl) rfl v_m_above hm.1 rfl (c_m_above G ma _ _ hm (40 * (pn)) u (by omega) (by omega) (hE _ (by omega) (by omega)).1) rfl (le_b rfl) (le_b rfl) (le_b rfl) k_n (k_I fun z741 h741 q741 => ?_)
            obtain ⟨rfl, rfl⟩ := q741
            refine ev_isw (k_m_pointsOf_1 1 rfl) (le_b rfl) (show ev _ _ _ _ _ _ 112 [some (vA (ma 0)), some (vI (t : Int)), some (vI nv), some (vI 0), some (vI (k : Int)), some (vI 1), some (vI (abv (σ.2 8) (40 * (pn)) u))] _ _ _ _ from ?_)
            refine ev_goto (k_m_pointsOf_1 2 rfl) ?_
            exact ih _ true false (by omega) (by rw [← h1, ancO_s]; simp [c736, c737, c740]) (by rw [← h2, ancO_s]; simp [c736, c737, c740]) (by omega)
          · refine ev_ic (k_m_pointsOf_0 50 rfl) ?_
            refine ev_goto (k_m_pointsOf_0 51 rfl) ?_
            refine ev_is (k_m_pointsOf_0 53 rfl) (le_b rfl) (show ev _ _ _ _ _ _ 97 [some (vA (ma 0)), some (vI (t : Int)), some (vI nv), some (vI 1), some (vI (k : Int)), some (vI 1), some (vI (u : Int))] _ _ _ _ from ?_)
            refine ev_al (k_m_pointsOf_0 54 rfl) rfl ?_
            refine ev_bp (k_m_pointsOf_0 55 rfl) ?_
            refine ev_al (k_m_pointsOf_0 56 rfl) rfl ?_
            refine ev_get (v := vI (pn : Int)) (k_m_pointsOf_0 57 rfl) hm.1 (congrArg (fun z => some (vI z)) hp) ?_
            refine ev_imul (k_m_pointsOf_0 58 rfl) (by omega) ?_
            refine ev_ilw (k_m_pointsOf_0 59 rfl) rfl ?_
            refine ev_cV (k_m_pointsOf_1 0 rfl) rfl v_m_above hm.1 rfl (c_m_above G ma _ _ hm (40 * (pn)) u (by omega) (by omega) (hE _ (by omega) (by omega)).1) rfl (le_b rfl) (le_b rfl) (le_b rfl) k_n (k_I fun z742 h742 q742 => ?_)
            obtain ⟨rfl, rfl⟩ := q742
            refine ev_isw (k_m_pointsOf_1 1 rfl) (le_b rfl) (show ev _ _ _ _ _ _ 112 [some (vA (ma 0)), some (vI (t : Int)), some (vI nv), some (vI 1), some (vI (k : Int)), some (vI 1), some (vI (abv (σ.2 8) (40 * (pn)) u))] _ _ _ _ from ?_)
            refine ev_goto (k_m_pointsOf_1 2 rfl) ?_
            exact ih _ true true (by omega) (by rw [← h1, ancO_s]; simp [c736, c737, c740]) (by rw [← h2, ancO_s]; simp [c736, c737, c740]) (by omega)
      · refine ev_al (k_m_pointsOf_0 24 rfl) rfl ?_
        refine ev_ilw (k_m_pointsOf_0 25 rfl) rfl ?_
        refine ev_al (k_m_pointsOf_0 26 rfl) rfl ?_
        refine ev_get (v := vA (ma 24)) (k_m_pointsOf_0 27 rfl) hm.1 rfl ?_
        refine ev_ilw (k_m_pointsOf_0 28 rfl) rfl ?_
        refine ev_lald (xs := σ.2 24) (k_m_pointsOf_0 29 rfl) (mr_a hm 24 rfl) (by omega) (by omega) (show ev _ _ _ _ _ _ _ _ (vL (gd (σ.2 24) (k)) :: _) _ _ _ from ?_)
        refine ev_cV (k_m_pointsOf_0 30 rfl) rfl v_m_has hm.1 rfl (c_m_has G ma _ _ hm u (gd (σ.2 24) (k)) (by omega) (hE _ (by omega) (by omega)).2.1 (hE _ (by omega) (by omega)).2.2) rfl (le_b rfl) (le_b rfl) (le_b rfl) k_n (k_B fun z743 h743 q743 => ?_)
        obtain ⟨rfl, rfl⟩ := q743
        refine ev_b_eq (k_m_pointsOf_0 31 rfl) (fun c744 => ?_) (fun c744 => ?_)
        · refine ev_ic (k_m_pointsOf_0 34 rfl) ?_
          refine ev_isw (k_m_pointsOf_0 35 rfl) (le_b rfl) (show ev _ _ _ _ _ _ 66 [some (vA (ma 0)), some (vI (t : Int)), some (vI nv), some (vI (bi ot)), some (vI (k : Int)), some (vI 0), some (vI (u : Int))] _ _ _ _ from ?_)
          refine ev_il (k_m_pointsOf_0 36 rfl) rfl ?_
          refine ev_b_ne (k_m_pointsOf_0 37 rfl) (fun c745 => ?_) (fun c745 => ?_)
          · refine ev_ic (k_m_pointsOf_0 50 rfl) ?_
            refine ev_goto (k_m_pointsOf_0 51 rfl) ?_
            refine ev_is (k_m_pointsOf_0 53 rfl) (le_b rfl) (show ev _ _ _ _ _ _ 97 [some (vA (ma 0)), some (vI (t : Int)), some (vI nv), some (vI 1), some (vI (k : Int)), some (vI 0), some (vI (u : Int))] _ _ _ _ from ?_)
            refine ev_al (k_m_pointsOf_0 54 rfl) rfl ?_
            refine ev_bp (k_m_pointsOf_0 55 rfl) ?_
            refine ev_al (k_m_pointsOf_0 56 rfl) rfl ?_
            refine ev_get (v := vI (pn : Int)) (k_m_pointsOf_0 57 rfl) hm.1 (congrArg (fun z => some (vI z)) hp) ?_
            refine ev_imul (k_m_pointsOf_0 58 rfl) (by omega) ?_
            refine ev_ilw (k_m_pointsOf_0 59 rfl) rfl ?_
            refine ev_cV (k_m_pointsOf_1 0 rfl) rfl v_m_above hm.1 rfl (c_m_above G ma _ _ hm (40 * (pn)) u (by omega) (by omega) (hE _ (by omega) (by omega)).1) rfl (le_b rfl) (le_b rfl) (le_b rfl) k_n (k_I fun z746 h746 q746 => ?_)
            obtain ⟨rfl, rfl⟩ := q746
            refine ev_isw (k_m_pointsOf_1 1 rfl) (le_b rfl) (show ev _ _ _ _ _ _ 112 [some (vA (ma 0)), some (vI (t : Int)), some (vI nv), some (vI 1), some (vI (k : Int)), some (vI 0), some (vI (abv (σ.2 8) (40 * (pn)) u))] _ _ _ _ from ?_)
            refine ev_goto (k_m_pointsOf_1 2 rfl) ?_
            exact ih _ false true (by omega) (by rw [← h1, ancO_s]; simp [c736, c744, c745]) (by rw [← h2, ancO_s]; simp [c736, c744, c745]) (by omega)
          · refine ev_al (k_m_pointsOf_0 38 rfl) rfl ?_
            refine ev_al (k_m_pointsOf_0 39 rfl) rfl ?_
            refine ev_get (v := vA (ma 7)) (k_m_pointsOf_0 40 rfl) hm.1 rfl ?_
            refine ev_ilw (k_m_pointsOf_0 41 rfl) rfl ?_
            refine ev_lald (xs := σ.2 7) (k_m_pointsOf_0 42 rfl) (mr_a hm 7 rfl) (by omega) (by omega) (show ev _ _ _ _ _ _ _ _ (vL (gd (σ.2 7) (u)) :: _) _ _ _ from ?_)
            refine ev_ic (k_m_pointsOf_0 43 rfl) ?_
            refine ev_al (k_m_pointsOf_0 44 rfl) rfl ?_
            refine ev_get (v := vA (ma 7)) (k_m_pointsOf_0 45 rfl) hm.1 rfl ?_
            refine ev_il (k_m_pointsOf_0 46 rfl) rfl ?_
            refine ev_lald (xs := σ.2 7) (k_m_pointsOf_0 47 rfl) (mr_a hm 7 rfl) (by omega) (by omega) (show ev _ _ _ _ _ _ _ _ (vL (gd (σ.2 7) (t)) :: _) _ _ _ from ?_)
            refine ev_cV (k_m_pointsOf_0 48 rfl) rfl v_m_hasNote hm.1 rfl (c_m_hasNote G ma _ _ hm (gd (σ.2 7) (u)) 1 (gd (σ.2 7) (t)) (by omega)) rfl (le_b rfl) (le_b rfl) (le_b rfl) k_n (k_B fun z747 h747 q747 => ?_)
            obtain ⟨rfl, rfl⟩ := q747
            refine ev_b_eq (k_m_pointsOf_0 49 rfl) (fun c748 => ?_) (fun c748 => ?_)
            · refine ev_ic (k_m_pointsOf_0 52 rfl) ?_
              refine ev_is (k_m_pointsOf_0 53 rfl) (le_b rfl) (show ev _ _ _ _ _ _ 97 [some (vA (ma 0)), some (vI (t : Int)), some (vI nv), some (vI 0), some (vI (k : Int)), some (vI 0), some (vI (u : Int))] _ _ _ _ from ?_)
              refine ev_al (k_m_pointsOf_0 54 rfl) rfl ?_
              refine ev_bp (k_m_pointsOf_0 55 rfl) ?_
              refine ev_al (k_m_pointsOf_0 56 rfl) rfl ?_
              refine ev_get (v := vI (pn : Int)) (k_m_pointsOf_0 57 rfl) hm.1 (congrArg (fun z => some (vI z)) hp) ?_
              refine ev_imul (k_m_pointsOf_0 58 rfl) (by omega) ?_
              refine ev_ilw (k_m_pointsOf_0 59 rfl) rfl ?_
              refine ev_cV (k_m_pointsOf_1 0 rfl) rfl v_m_above hm.1 rfl (c_m_above G ma _ _ hm (40 * (pn)) u (by omega) (by omega) (hE _ (by omega) (by omega)).1) rfl (le_b rfl) (le_b rfl) (le_b rfl) k_n (k_I fun z749 h749 q749 => ?_)
              obtain ⟨rfl, rfl⟩ := q749
              refine ev_isw (k_m_pointsOf_1 1 rfl) (le_b rfl) (show ev _ _ _ _ _ _ 112 [some (vA (ma 0)), some (vI (t : Int)), some (vI nv), some (vI 0), some (vI (k : Int)), some (vI 0), some (vI (abv (σ.2 8) (40 * (pn)) u))] _ _ _ _ from ?_)
              refine ev_goto (k_m_pointsOf_1 2 rfl) ?_
              exact ih _ false false (by omega) (by rw [← h1, ancO_s]; simp [c736, c744, c745, c748]) (by rw [← h2, ancO_s]; simp [c736, c744, c745, c748]) (by omega)
            · refine ev_ic (k_m_pointsOf_0 50 rfl) ?_
              refine ev_goto (k_m_pointsOf_0 51 rfl) ?_
              refine ev_is (k_m_pointsOf_0 53 rfl) (le_b rfl) (show ev _ _ _ _ _ _ 97 [some (vA (ma 0)), some (vI (t : Int)), some (vI nv), some (vI 1), some (vI (k : Int)), some (vI 0), some (vI (u : Int))] _ _ _ _ from ?_)
              refine ev_al (k_m_pointsOf_0 54 rfl) rfl ?_
              refine ev_bp (k_m_pointsOf_0 55 rfl) ?_
              refine ev_al (k_m_pointsOf_0 56 rfl) rfl ?_
              refine ev_get (v := vI (pn : Int)) (k_m_pointsOf_0 57 rfl) hm.1 (congrArg (fun z => some (vI z)) hp) ?_
              refine ev_imul (k_m_pointsOf_0 58 rfl) (by omega) ?_
              refine ev_ilw (k_m_pointsOf_0 59 rfl) rfl ?_
              refine ev_cV (k_m_pointsOf_1 0 rfl) rfl v_m_above hm.1 rfl (c_m_above G ma _ _ hm (40 * (pn)) u (by omega) (by omega) (hE _ (by omega) (by omega)).1) rfl (le_b rfl) (le_b rfl) (le_b rfl) k_n (k_I fun z750 h750 q750 => ?_)
              obtain ⟨rfl, rfl⟩ := q750
              refine ev_isw (k_m_pointsOf_1 1 rfl) (le_b rfl) (show ev _ _ _ _ _ _ 112 [some (vA (ma 0)), some (vI (t : Int)), some (vI nv), some (vI 1), some (vI (k : Int)), some (vI 0), some (vI (abv (σ.2 8) (40 * (pn)) u))] _ _ _ _ from ?_)
              refine ev_goto (k_m_pointsOf_1 2 rfl) ?_
              exact ih _ false true (by omega) (by rw [← h1, ancO_s]; simp [c736, c744, c745, c748]) (by rw [← h2, ancO_s]; simp [c736, c744, c745, c748]) (by omega)
        · refine ev_ic (k_m_pointsOf_0 32 rfl) ?_
          refine ev_goto (k_m_pointsOf_0 33 rfl) ?_
          refine ev_isw (k_m_pointsOf_0 35 rfl) (le_b rfl) (show ev _ _ _ _ _ _ 66 [some (vA (ma 0)), some (vI (t : Int)), some (vI nv), some (vI (bi ot)), some (vI (k : Int)), some (vI 1), some (vI (u : Int))] _ _ _ _ from ?_)
          refine ev_il (k_m_pointsOf_0 36 rfl) rfl ?_
          refine ev_b_ne (k_m_pointsOf_0 37 rfl) (fun c751 => ?_) (fun c751 => ?_)
          · refine ev_ic (k_m_pointsOf_0 50 rfl) ?_
            refine ev_goto (k_m_pointsOf_0 51 rfl) ?_
            refine ev_is (k_m_pointsOf_0 53 rfl) (le_b rfl) (show ev _ _ _ _ _ _ 97 [some (vA (ma 0)), some (vI (t : Int)), some (vI nv), some (vI 1), some (vI (k : Int)), some (vI 1), some (vI (u : Int))] _ _ _ _ from ?_)
            refine ev_al (k_m_pointsOf_0 54 rfl) rfl ?_
            refine ev_bp (k_m_pointsOf_0 55 rfl) ?_
            refine ev_al (k_m_pointsOf_0 56 rfl) rfl ?_
            refine ev_get (v := vI (pn : Int)) (k_m_pointsOf_0 57 rfl) hm.1 (congrArg (fun z => some (vI z)) hp) ?_
            refine ev_imul (k_m_pointsOf_0 58 rfl) (by omega) ?_
            refine ev_ilw (k_m_pointsOf_0 59 rfl) rfl ?_
            refine ev_cV (k_m_pointsOf_1 0 rfl) rfl v_m_above hm.1 rfl (c_m_above G ma _ _ hm (40 * (pn)) u (by omega) (by omega) (hE _ (by omega) (by omega)).1) rfl (le_b rfl) (le_b rfl) (le_b rfl) k_n (k_I fun z752 h752 q752 => ?_)
            obtain ⟨rfl, rfl⟩ := q752
            refine ev_isw (k_m_pointsOf_1 1 rfl) (le_b rfl) (show ev _ _ _ _ _ _ 112 [some (vA (ma 0)), some (vI (t : Int)), some (vI nv), some (vI 1), some (vI (k : Int)), some (vI 1), some (vI (abv (σ.2 8) (40 * (pn)) u))] _ _ _ _ from ?_)
            refine ev_goto (k_m_pointsOf_1 2 rfl) ?_
            exact ih _ true true (by omega) (by rw [← h1, ancO_s]; simp [c736, c744, c751]) (by rw [← h2, ancO_s]; simp [c736, c744, c751]) (by omega)
          · refine ev_al (k_m_pointsOf_0 38 rfl) rfl ?_
            refine ev_al (k_m_pointsOf_0 39 rfl) rfl ?_
            refine ev_get (v := vA (ma 7)) (k_m_pointsOf_0 40 rfl) hm.1 rfl ?_
            refine ev_ilw (k_m_pointsOf_0 41 rfl) rfl ?_
            refine ev_lald (xs := σ.2 7) (k_m_pointsOf_0 42 rfl) (mr_a hm 7 rfl) (by omega) (by omega) (show ev _ _ _ _ _ _ _ _ (vL (gd (σ.2 7) (u)) :: _) _ _ _ from ?_)
            refine ev_ic (k_m_pointsOf_0 43 rfl) ?_
            refine ev_al (k_m_pointsOf_0 44 rfl) rfl ?_
            refine ev_get (v := vA (ma 7)) (k_m_pointsOf_0 45 rfl) hm.1 rfl ?_
            refine ev_il (k_m_pointsOf_0 46 rfl) rfl ?_
            refine ev_lald (xs := σ.2 7) (k_m_pointsOf_0 47 rfl) (mr_a hm 7 rfl) (by omega) (by omega) (show ev _ _ _ _ _ _ _ _ (vL (gd (σ.2 7) (t)) :: _) _ _ _ from ?_)
            refine ev_cV (k_m_pointsOf_0 48 rfl) rfl v_m_hasNote hm.1 rfl (c_m_hasNote G ma _ _ hm (gd (σ.2 7) (u)) 1 (gd (σ.2 7) (t)) (by omega)) rfl (le_b rfl) (le_b rfl) (le_b rfl) k_n (k_B fun z753 h753 q753 => ?_)
            obtain ⟨rfl, rfl⟩ := q753
            refine ev_b_eq (k_m_pointsOf_0 49 rfl) (fun c754 => ?_) (fun c754 => ?_)
            · refine ev_ic (k_m_pointsOf_0 52 rfl) ?_
              refine ev_is (k_m_pointsOf_0 53 rfl) (le_b rfl) (show ev _ _ _ _ _ _ 97 [some (vA (ma 0)), some (vI (t : Int)), some (vI nv), some (vI 0), some (vI (k : Int)), some (vI 1), some (vI (u : Int))] _ _ _ _ from ?_)
              refine ev_al (k_m_pointsOf_0 54 rfl) rfl ?_
              refine ev_bp (k_m_pointsOf_0 55 rfl) ?_
              refine ev_al (k_m_pointsOf_0 56 rfl) rfl ?_
              refine ev_get (v := vI (pn : Int)) (k_m_pointsOf_0 57 rfl) hm.1 (congrArg (fun z => some (vI z)) hp) ?_
              refine ev_imul (k_m_pointsOf_0 58 rfl) (by omega) ?_
              refine ev_ilw (k_m_pointsOf_0 59 rfl) rfl ?_
              refine ev_cV (k_m_pointsOf_1 0 rfl) rfl v_m_above hm.1 rfl (c_m_above G ma _ _ hm (40 * (pn)) u (by omega) (by omega) (hE _ (by omega) (by omega)).1) rfl (le_b rfl) (le_b rfl) (le_b rfl) k_n (k_I fun z755 h755 q755 => ?_)
              obtain ⟨rfl, rfl⟩ := q755
              refine ev_isw (k_m_pointsOf_1 1 rfl) (le_b rfl) (show ev _ _ _ _ _ _ 112 [some (vA (ma 0)), some (vI (t : Int)), some (vI nv), some (vI 0), some (vI (k : Int)), some (vI 1), some (vI (abv (σ.2 8) (40 * (pn)) u))] _ _ _ _ from ?_)
              refine ev_goto (k_m_pointsOf_1 2 rfl) ?_
              exact ih _ true false (by omega) (by rw [← h1, ancO_s]; simp [c736, c744, c751, c754]) (by rw [← h2, ancO_s]; simp [c736, c744, c751, c754]) (by omega)
            · refine ev_ic (k_m_pointsOf_0 50 rfl) ?_
              refine ev_goto (k_m_pointsOf_0 51 rfl) ?_
              refine ev_is (k_m_pointsOf_0 53 rfl) (le_b rfl) (show ev _ _ _ _ _ _ 97 [some (vA (ma 0)), some (vI (t : Int)), some (vI nv), some (vI 1), some (vI (k : Int)), some (vI 1), some (vI (u : Int))] _ _ _ _ from ?_)
              refine ev_al (k_m_pointsOf_0 54 rfl) rfl ?_
              refine ev_bp (k_m_pointsOf_0 55 rfl) ?_
              refine ev_al (k_m_pointsOf_0 56 rfl) rfl ?_
              refine ev_get (v := vI (pn : Int)) (k_m_pointsOf_0 57 rfl) hm.1 (congrArg (fun z => some (vI z)) hp) ?_
              refine ev_imul (k_m_pointsOf_0 58 rfl) (by omega) ?_
              refine ev_ilw (k_m_pointsOf_0 59 rfl) rfl ?_
              refine ev_cV (k_m_pointsOf_1 0 rfl) rfl v_m_above hm.1 rfl (c_m_above G ma _ _ hm (40 * (pn)) u (by omega) (by omega) (hE _ (by omega) (by omega)).1) rfl (le_b rfl) (le_b rfl) (le_b rfl) k_n (k_I fun z756 h756 q756 => ?_)
              obtain ⟨rfl, rfl⟩ := q756
              refine ev_isw (k_m_pointsOf_1 1 rfl) (le_b rfl) (show ev _ _ _ _ _ _ 112 [some (vA (ma 0)), some (vI (t : Int)), some (vI nv), some (vI 1), some (vI (k : Int)), some (vI 1), some (vI (abv (σ.2 8) (40 * (pn)) u))] _ _ _ _ from ?_)
              refine ev_goto (k_m_pointsOf_1 2 rfl) ?_
              exact ih _ true true (by omega) (by rw [← h1, ancO_s]; simp [c736, c744, c751, c754]) (by rw [← h2, ancO_s]; simp [c736, c744, c751, c754]) (by omega)
set_option maxHeartbeats 2000000 in
theorem c_m_pointsOf (G : gt_T) (ma : Nat → Nat) (σ : sg_T) (h : ab_H) (hm : MR h ma σ) (HR : ∀ e, e < 3 → 0 ≤ gd (σ.2 6) e ∧ gd (σ.2 6) e ≤ 40) (pn t na : Nat) (hp : σ.1 3 = (pn : Int)) (hp2 : pn < 3) (hE : inE σ pn) (hna : σ.1 25 = (na : Int)) (hn6 : na ≤ 6) (ht1 : 40 * pn ≤ t) (ht2 : t < 40 * pn + (gd (σ.2 6) pn).toNat) (hno : σ.1 11 ≤ 20) : ct G M_m_pointsOf 2 53 0 0 [vA (ma 0), vI (t : Int)] h (rI fun z h' => h = h' ∧ z = pts σ pn t (gd (σ.2 24)) na) nT := by
  show ev _ _ _ _ _ _ 0 [some (vA (ma 0)), some (vI (t : Int)), none, none, none, none, none] [] _ _ _
  have l7 := mr_l hm 7 rfl
  have l8 := mr_l hm 8 rfl
  have l24 := mr_l hm 24 rfl
  have hre := HR pn hp2
  have loop : ∀ (fu : Nat) (k : Nat) (v : Int) (vt : Bool), (k ≤ na) → (v = smw σ pn t (gd (σ.2 24)) k) → (vt = if k = 0 then false else lft σ pn t) → na - k < fu → ev G M_m_pointsOf 2 53 0 0 7 [some (vA (ma 0)), some (vI (t : Int)), some (vI v), some (vI (bi vt)), some (vI (k : Int)), none, none] [] h (rI fun z h' => h = h' ∧ z = pts σ pn t (gd (σ.2 24)) na) nT := by
    intro fu
    induction fu with
    | zero => intros; omega
    | succ fu ih =>
      intro k v vt hk h1 h2 hn
      have hsb := smw_b σ pn t (gd (σ.2 24)) k
      refine ev_ilw (k_m_pointsOf_0 6 rfl) rfl ?_
      refine ev_al (k_m_pointsOf_0 7 rfl) rfl ?_
      refine ev_get (v := vI (na : Int)) (k_m_pointsOf_0 8 rfl) hm.1 (congrArg (fun z => some (vI z)) hna) ?_
      refine ev_ic_ge (k_m_pointsOf_0 9 rfl) (fun c757 => ?_) (fun c757 => ?_)
      · refine ev_il (k_m_pointsOf_1 23 rfl) rfl ?_
        refine ev_b_eq (k_m_pointsOf_1 24 rfl) (fun c758 => ?_) (fun c758 => ?_)
        · refine ev_il (k_m_pointsOf_1 29 rfl) rfl ?_
          exact ev_iret (k_m_pointsOf_1 30 rfl) rfl (⟨_, rfl, rfl, by rw [show na = k by omega]; rw [h1, pts_fin h2, c758]; rfl⟩)
        · refine ev_il (k_m_pointsOf_1 25 rfl) rfl ?_
          refine ev_ic (k_m_pointsOf_1 26 rfl) ?_
          refine ev_idiv (k_m_pointsOf_1 27 rfl) (by omega) (by omega) ?_
          refine ev_goto (k_m_pointsOf_1 28 rfl) ?_
          exact ev_iret (k_m_pointsOf_1 30 rfl) rfl (⟨_, rfl, rfl, by rw [show na = k by omega]; rw [h1, pts_fin h2, c758]; rfl⟩)
      · refine ev_ic (k_m_pointsOf_0 10 rfl) ?_
        refine ev_isw (k_m_pointsOf_0 11 rfl) (le_b rfl) (show ev _ _ _ _ _ _ 19 [some (vA (ma 0)), some (vI (t : Int)), some (vI v), some (vI (bi vt)), some (vI (k : Int)), some (vI 0), none] _ _ _ _ from ?_)
        refine ev_al (k_m_pointsOf_0 12 rfl) rfl ?_
        refine ev_bp (k_m_pointsOf_0 13 rfl) ?_
        refine ev_al (k_m_pointsOf_0 14 rfl) rfl ?_
        refine ev_get (v := vI (pn : Int)) (k_m_pointsOf_0 15 rfl) hm.1 (congrArg (fun z => some (vI z)) hp) ?_
        refine ev_imul (k_m_pointsOf_0 16 rfl) (by omega) ?_
        refine ev_il (k_m_pointsOf_0 17 rfl) rfl ?_
        refine ev_cV (k_m_pointsOf_0 18 rfl) rfl v_m_above hm.1 rfl (c_m_above G ma _ _ hm (40 * (pn)) t (by omega) (by omega) (hE _ (by omega) (by omega)).1) rfl (le_b rfl) (le_b rfl) (le_b rfl) k_n (k_I fun z759 h759 q759 => ?_)
        obtain ⟨rfl, rfl⟩ := q759
        refine ev_isw (k_m_pointsOf_0 19 rfl) (le_b rfl) (show ev _ _ _ _ _ _ 33 [some (vA (ma 0)), some (vI (t : Int)), some (vI v), some (vI (bi vt)), some (vI (k : Int)), some (vI 0), some (vI (abv (σ.2 8) (40 * (pn)) t))] _ _ _ _ from ?_)
        have hab := abv_lt (σ.2 8) (f := 40 * pn) (t := t)
        refine lp_up hm HR hp hp2 hE hna hn6 ht1 ht2 hno (by omega) (vo := ovr σ pn t (gd (σ.2 24) k)) (vt := vt || lft σ pn t) ?_ (t + 2) _ false vt ⟨by omega, by omega⟩ (by unfold ovr; rw [anc_eq]; simp) (by unfold lft; rw [anc_eq]) (by omega)
        refine ev_il (k_m_pointsOf_1 3 rfl) rfl ?_
        refine ev_al (k_m_pointsOf_1 4 rfl) rfl ?_
        refine ev_il (k_m_pointsOf_1 5 rfl) rfl ?_
        refine ev_al (k_m_pointsOf_1 6 rfl) rfl ?_
        refine ev_get (v := vA (ma 24)) (k_m_pointsOf_1 7 rfl) hm.1 rfl ?_
        refine ev_ilw (k_m_pointsOf_1 8 rfl) rfl ?_
        refine ev_lald (xs := σ.2 24) (k_m_pointsOf_1 9 rfl) (mr_a hm 24 rfl) (by omega) (by omega) (show ev _ _ _ _ _ _ _ _ (vL (gd (σ.2 24) (k)) :: _) _ _ _ from ?_)
        refine ev_cV (k_m_pointsOf_1 10 rfl) rfl v_m_has hm.1 rfl (c_m_has G ma _ _ hm t (gd (σ.2 24) (k)) (by omega) (hE _ (by omega) (by omega)).2.1 (hE _ (by omega) (by omega)).2.2) rfl (le_b rfl) (le_b rfl) (le_b rfl) k_n (k_B fun z760 h760 q760 => ?_)
        obtain ⟨rfl, rfl⟩ := q760
        refine ev_b_eq (k_m_pointsOf_1 11 rfl) (fun c761 => ?_) (fun c761 => ?_)
        · refine ev_ilw (k_m_pointsOf_1 14 rfl) rfl ?_
          refine ev_b_eq (k_m_pointsOf_1 15 rfl) (fun c762 => ?_) (fun c762 => ?_)
          · refine ev_ic (k_m_pointsOf_1 18 rfl) ?_
            refine ev_iadd (k_m_pointsOf_1 19 rfl) (by omega) ?_
            refine ev_is (k_m_pointsOf_1 20 rfl) (le_b rfl) (show ev _ _ _ _ _ _ 147 [some (vA (ma 0)), some (vI (t : Int)), some (vI (v + 0)), some (vI (bi (vt || lft σ pn t))), some (vI (k : Int)), some (vI (bi (ovr σ pn t (gd (σ.2 24) k)))), none] _ _ _ _ from ?_)
            refine ev_iinc (k_m_pointsOf_1 21 rfl) rfl (by omega) (show ev _ _ _ _ _ _ 150 [some (vA (ma 0)), some (vI (t : Int)), some (vI (v + 0)), some (vI (bi (vt || lft σ pn t))), some (vI ((k : Int) + 1)), some (vI (bi (ovr σ pn t (gd (σ.2 24) k)))), none] _ _ _ _ from ?_)
            refine ev_goto (k_m_pointsOf_1 22 rfl) ?_
            refine ev_dead 5 (show ev _ _ _ _ _ _ 7 [some (vA (ma 0)), some (vI (t : Int)), some (vI (v + 0)), some (vI (bi (vt || lft σ pn t))), some (vI ((k : Int) + 1)), none, none] _ _ _ _ from ?_)
            rw [show (k : Int) + 1 = ((k + 1 : Nat) : Int) by omega]
            exact ih (k + 1) _ _ (by omega) (by rw [h1, smw_s]; simp [ptw, c757, c761, c762]) (by rw [h2]; cases k with | zero => simp | succ k => simp) (by omega)
          · refine ev_ic (k_m_pointsOf_1 16 rfl) ?_
            refine ev_goto (k_m_pointsOf_1 17 rfl) ?_
            refine ev_iadd (k_m_pointsOf_1 19 rfl) (by omega) ?_
            refine ev_is (k_m_pointsOf_1 20 rfl) (le_b rfl) (show ev _ _ _ _ _ _ 147 [some (vA (ma 0)), some (vI (t : Int)), some (vI (v + 2)), some (vI (bi (vt || lft σ pn t))), some (vI (k : Int)), some (vI (bi (ovr σ pn t (gd (σ.2 24) k)))), none] _ _ _ _ from ?_)
            refine ev_iinc (k_m_pointsOf_1 21 rfl) rfl (by omega) (show ev _ _ _ _ _ _ 150 [some (vA (ma 0)), some (vI (t : Int)), some (vI (v + 2)), some (vI (bi (vt || lft σ pn t))), some (vI ((k : Int) + 1)), some (vI (bi (ovr σ pn t (gd (σ.2 24) k)))), none] _ _ _ _ from ?_)
            refine ev_goto (k_m_pointsOf_1 22 rfl) ?_
            refine ev_dead 5 (show ev _ _ _ _ _ _ 7 [some (vA (ma 0)), some (vI (t : Int)), some (vI (v + 2)), some (vI (bi (vt || lft σ pn t))), some (vI ((k : Int) + 1)), none, none] _ _ _ _ from ?_)
            rw [show (k : Int) + 1 = ((k + 1 : Nat) : Int) by omega]
            exact ih (k + 1) _ _ (by omega) (by rw [h1, smw_s]; simp [ptw, c757, c761, c762]) (by rw [h2]; cases k with | zero => simp | succ k => simp) (by omega)
        · refine ev_ic (k_m_pointsOf_1 12 rfl) ?_
          refine ev_goto (k_m_pointsOf_1 13 rfl) ?_
          refine ev_iadd (k_m_pointsOf_1 19 rfl) (by omega) ?_
          refine ev_is (k_m_pointsOf_1 20 rfl) (le_b rfl) (show ev _ _ _ _ _ _ 147 [some (vA (ma 0)), some (vI (t : Int)), some (vI (v + 4)), some (vI (bi (vt || lft σ pn t))), some (vI (k : Int)), some (vI (bi (ovr σ pn t (gd (σ.2 24) k)))), none] _ _ _ _ from ?_)
          refine ev_iinc (k_m_pointsOf_1 21 rfl) rfl (by omega) (show ev _ _ _ _ _ _ 150 [some (vA (ma 0)), some (vI (t : Int)), some (vI (v + 4)), some (vI (bi (vt || lft σ pn t))), some (vI ((k : Int) + 1)), some (vI (bi (ovr σ pn t (gd (σ.2 24) k)))), none] _ _ _ _ from ?_)
          refine ev_goto (k_m_pointsOf_1 22 rfl) ?_
          refine ev_dead 5 (show ev _ _ _ _ _ _ 7 [some (vA (ma 0)), some (vI (t : Int)), some (vI (v + 4)), some (vI (bi (vt || lft σ pn t))), some (vI ((k : Int) + 1)), none, none] _ _ _ _ from ?_)
          rw [show (k : Int) + 1 = ((k + 1 : Nat) : Int) by omega]
          exact ih (k + 1) _ _ (by omega) (by rw [h1, smw_s]; simp [ptw, c757, c761]) (by rw [h2]; cases k with | zero => simp | succ k => simp) (by omega)
  refine ev_ic (k_m_pointsOf_0 0 rfl) ?_
  refine ev_is (k_m_pointsOf_0 1 rfl) (le_b rfl) (show ev _ _ _ _ _ _ 2 [some (vA (ma 0)), some (vI (t : Int)), some (vI 0), none, none, none, none] _ _ _ _ from ?_)
  refine ev_ic (k_m_pointsOf_0 2 rfl) ?_
  refine ev_is (k_m_pointsOf_0 3 rfl) (le_b rfl) (show ev _ _ _ _ _ _ 4 [some (vA (ma 0)), some (vI (t : Int)), some (vI 0), some (vI 0), none, none, none] _ _ _ _ from ?_)
  refine ev_ic (k_m_pointsOf_0 4 rfl) ?_
  refine ev_isw (k_m_pointsOf_0 5 rfl) (le_b rfl) (show ev _ _ _ _ _ _ 7 [some (vA (ma 0)), some (vI (t : Int)), some (vI 0), some (vI 0), some (vI 0), none, none] _ _ _ _ from ?_)
  exact loop (na + 1) 0 0 false (by omega) rfl rfl (by omega)
