theorem pts_cg {σ τ : sg_T} (h3 : σ.1 3 = τ.1 3) (h11 : σ.1 11 = τ.1 11) (h7 : σ.2 7 = τ.2 7) (h8 : σ.2 8 = τ.2 8) (h9 : σ.2 9 = τ.2 9) (h10 : σ.2 10 = τ.2 10) (h12 : σ.2 12 = τ.2 12) (h13 : σ.2 13 = τ.2 13) (h14 : σ.2 14 = τ.2 14) (h15 : σ.2 15 = τ.2 15) (e t : Nat) (f : Nat → Int) (n : Nat) : pts σ e t f n = pts τ e t f n := by
  have a1 : ∀ u w, hsw σ u w = hsw τ u w := fun u w => by unfold hsw; rw [h9, h10]
  have a2 : ∀ c k o, hsn σ c k o = hsn τ c k o := fun c k o => by unfold hsn; rw [h11]; exact anb_congr (fun j _ => by unfold isn; rw [h3, h12, h13, h14, h15])
  have a3 : lft σ e t = lft τ e t := by unfold lft; rw [h8, h7]; simp only [a2]
  have a4 : ∀ w, ptw σ e t w = ptw τ e t w := fun w => by unfold ptw ovr; rw [h8, a1]; simp only [a1]
  have a5 : ∀ n, smw σ e t f n = smw τ e t f n := by
    intro n
    induction n with
    | zero => rfl
    | succ n ih => rw [smw_s, smw_s, ih, a4]
  unfold pts
  rw [a3, a5]
/-- the rows by points, the greatest first, of points m at most -/
def sr (pt : Nat → Int) : Nat → Nat → List Nat
  | 0, _ => []
  | m + 1, n => fi (fun k => pt k == ((m + 1 : Nat) : Int)) n ++ sr pt m n
theorem sr_s (pt : Nat → Int) (m n : Nat) : sr pt (m + 1) n = fi (fun k => pt k == ((m + 1 : Nat) : Int)) n ++ sr pt m n := rfl
theorem fi_cnt (p : Nat → Bool) : ∀ n : Nat, (fi p n).length = cnt p n
  | 0 => rfl
  | n + 1 => by
    rw [cnt_s, ← fi_cnt p n]
    by_cases h : p n = true
    · rw [fi_t h, if_pos h]; simp
    · rw [fi_f (by simpa using h), if_neg h]; rfl
theorem cnt_add {p q r : Nat → Bool} : ∀ {n : Nat}, (∀ k, (r k = (p k || q k)) ∧ ¬ (p k = true ∧ q k = true)) → cnt p n + cnt q n = cnt r n
  | 0, _ => rfl
  | n + 1, h => by
    have ih := cnt_add (n := n) h
    have h1 := h n
    rw [cnt_s, cnt_s, cnt_s]
    cases e1 : p n <;> cases e2 : q n <;> simp [e1, e2] at h1 <;> simp [h1] <;> omega
theorem sr_len (pt : Nat → Int) (n : Nat) : ∀ m : Nat, (sr pt m n).length = cnt (fun k => decide (1 ≤ pt k ∧ pt k ≤ (m : Int))) n
  | 0 => by
    have : cnt (fun k => decide (1 ≤ pt k ∧ pt k ≤ ((0 : Nat) : Int))) n = cnt (fun _ => false) n := cnt_congr (fun k _ => by simp; omega)
    rw [this]
    show 0 = _
    clear this
    induction n with
    | zero => rfl
    | succ n ih => rw [cnt_s, ← ih]; rfl
  | m + 1 => by
    rw [sr_s, List.length_append, fi_cnt, sr_len pt n m]
    refine cnt_add (fun k => ⟨?_, ?_⟩)
    · by_cases h1 : pt k = ((m + 1 : Nat) : Int)
      · simp [h1]; omega
      · have e : (pt k == ((m + 1 : Nat) : Int)) = false := bq_f h1
        rw [e, Bool.false_or]
        exact decide_eq_decide.mpr (by omega)
    · rintro ⟨a, b⟩
      have a := eq_of_beq a
      have b := of_decide_eq_true b
      omega
theorem sr_le (pt : Nat → Int) (m n : Nat) : (sr pt m n).length ≤ n := by rw [sr_len]; exact cnt_le _ _
theorem fi_mono (p : Nat → Bool) {a b : Nat} (h : a ≤ b) : (fi p a).length ≤ (fi p b).length := by rw [fi_cnt, fi_cnt]; exact cnt_mono p h
theorem sr_cg {pt pu : Nat → Int} {n : Nat} (h : ∀ k, k < n → pt k = pu k) : ∀ m : Nat, sr pt m n = sr pu m n
  | 0 => rfl
  | m + 1 => by rw [sr_s, sr_s, sr_cg h m, fi_congr (fun k hk => by rw [h k hk])]
theorem sr_get {pt : Nat → Int} {n : Nat} : ∀ {m j : Nat}, j < (sr pt m n).length → (sr pt m n).getD j 0 < n
  | 0, j, h => by simp [sr] at h
  | m + 1, j, h => by
    rw [sr_s] at h ⊢
    by_cases c : j < (fi (fun k => pt k == ((m + 1 : Nat) : Int)) n).length
    · rw [List.getD_eq_getElem?_getD, List.getElem?_append_left c, ← List.getD_eq_getElem?_getD]; exact (fi_get c).1
    · rw [List.getD_eq_getElem?_getD, List.getElem?_append_right (by omega), ← List.getD_eq_getElem?_getD]; exact sr_get (by rw [List.length_append] at h; omega)
/-- what is found: L the rows -/
def seR (σ τ : sg_T) (e : Nat) (L : List Nat) : Prop := (∀ j, j ≠ 21 → τ.1 j = σ.1 j) ∧ τ.1 21 = (L.length : Int) ∧ (∀ k, k ≠ 22 → k ≠ 23 → τ.2 k = σ.2 k) ∧ ∀ i, i < L.length → gd (τ.2 22) i = gd (σ.2 7) (40 * e + L.getD i 0) ∧ gd (τ.2 23) i = gd (σ.2 26) (L.getD i 0)
theorem seR_app {σ τ : sg_T} {e x : Nat} {L : List Nat} {c p : Int} (h : seR σ τ e L) (l2 : L.length < (τ.2 22).length) (l3 : L.length < (τ.2 23).length) (hc : c = gd (σ.2 7) (40 * e + x)) (hp : p = gd (σ.2 26) x) {n0 : Nat} (hn0 : L.length = n0) : seR σ (sS (sA (sA τ 22 ((τ.2 22).set n0 c)) 23 ((τ.2 23).set n0 p)) 21 ((n0 : Int) + 1)) e (L ++ [x]) := by
  subst hn0
  refine ⟨fun j hj => ?_, ?_, fun k h2 h3 => ?_, fun i hi => ?_⟩
  · simp only [sS, sA]; rw [if_neg hj]; exact h.1 j hj
  · simp [sS]
  · simp only [sS, sA]; rw [if_neg h3, if_neg h2]; exact h.2.2.1 k h2 h3
  · have hi' : i < L.length + 1 := by simpa using hi
    show gd ((τ.2 22).set L.length c) i = _ ∧ gd ((τ.2 23).set L.length p) i = _
    rw [gN_app, gd_set _ l2, gd_set _ l3]
    by_cases q : i = L.length
    · rw [if_pos q, if_neg (by omega), if_pos q, if_pos q]; exact ⟨hc, hp⟩
    · rw [if_neg q, if_pos (by omega), if_neg q]; exact h.2.2.2 i (by omega)
set_option maxHeartbeats 4000000 in
theorem lp_se1 {G : gt_T} {Cc Ss : Nat} {Φ : Option ab_V → ab_H → Prop} {Θ : Nat → ab_H → Prop} {ma : Nat → Nat} {σ : sg_T} {h0 : ab_H} {pn rl : Nat} {e1 : Int} (HR : ∀ e, e < 3 → 0 ≤ gd (σ.2 6) e ∧ gd (σ.2 6) e ≤ 40) (hp : σ.1 3 = (pn : Int)) (hp2 : pn < 3) (hrl : gd (σ.2 6) pn = (rl : Int)) {na : Nat} (hE : inE σ pn) (hna : σ.1 25 = (na : Int)) (hn6 : na ≤ 6) (hno : σ.1 11 ≤ 20) (k0 : ∀ (hx : ab_H) (A : List Int), MR hx ma (sA σ 26 A) → fM h0 hx → (∀ j, j < rl → gd A j = pts σ pn (40 * pn + j) (gd (σ.2 24)) na) → ev G M_m_search 4 91 Cc Ss 84 [some (vA (ma 0)), some (vI e1), none, none] [] hx Φ Θ) : ∀ (fu : Nat) (h1 : ab_H) (A : List Int) (hm1 : MR h1 ma (sA σ 26 A)) (fm1 : fM h0 h1) (k : Nat), (k ≤ rl) → (∀ j, j < k → gd A j = pts σ pn (40 * pn + j) (gd (σ.2 24)) na) → rl - k < fu → ev G M_m_search 4 91 Cc Ss 46 [some (vA (ma 0)), some (vI e1), some (vI (k : Int)), none] [] h1 Φ Θ := by
  intro fu
  induction fu with
  | zero => intros; omega
  | succ fu ih =>
      intro h1 A hm1 fm1 k hk g1 hn
      have hre := HR pn hp2
      have lA : A.length = 40 := mr_l hm1 26 rfl
      have l6 : (σ.2 6).length = 4 := mr_l hm1 6 rfl
      refine ev_il (k_m_search_0 29 rfl) rfl ?_
      refine ev_al (k_m_search_0 30 rfl) rfl ?_
      refine ev_get (v := vA (ma 6)) (k_m_search_0 31 rfl) hm1.1 rfl ?_
      refine ev_al (k_m_search_0 32 rfl) rfl ?_
      refine ev_get (v := vI (pn : Int)) (k_m_search_0 33 rfl) hm1.1 (congrArg (fun z => some (vI z)) hp) ?_
      refine ev_iald (xs := σ.2 6) (k_m_search_0 34 rfl) (mr_a hm1 6 rfl) (by omega) (by omega) (show ev _ _ _ _ _ _ _ _ (vI (gd (σ.2 6) (pn)) :: _) _ _ _ from ?_)
      rw [hrl]
      refine ev_ic_ge (k_m_search_0 35 rfl) (fun c763 => ?_) (fun c763 => ?_)
      · refine ev_dead 2 (show ev _ _ _ _ _ _ 84 [some (vA (ma 0)), some (vI e1), none, none] _ _ _ _ from ?_)
        have hkn : k = rl := by omega
        subst hkn
        exact k0 _ _ hm1 fm1 g1
      · refine ev_al (k_m_search_0 36 rfl) rfl ?_
        refine ev_get (v := vA (ma 26)) (k_m_search_0 37 rfl) hm1.1 rfl ?_
        refine ev_il (k_m_search_0 38 rfl) rfl ?_
        refine ev_al (k_m_search_0 39 rfl) rfl ?_
        refine ev_bp (k_m_search_0 40 rfl) ?_
        refine ev_al (k_m_search_0 41 rfl) rfl ?_
        refine ev_get (v := vI (pn : Int)) (k_m_search_0 42 rfl) hm1.1 (congrArg (fun z => some (vI z)) hp) ?_
        refine ev_imul (k_m_search_0 43 rfl) (by omega) ?_
        refine ev_il (k_m_search_0 44 rfl) rfl ?_
        refine ev_iadd (k_m_search_0 45 rfl) (by omega) ?_
        refine ev_cV (k_m_search_0 46 rfl) rfl v_m_pointsOf hm1.1 rfl (c_m_pointsOf G ma _ _ hm1 HR pn ((40 * (pn)) + (k)) na hp hp2 hE hna hn6 (by (try simp only [sS]); omega) (show (40 * (pn)) + (k) < 40 * pn + (gd (σ.2 6) pn).toNat by omega) hno) rfl (le_b rfl) (le_b rfl) (le_b rfl) k_n (k_I fun z764 h764 q764 => ?_)
        obtain ⟨rfl, rfl⟩ := q764
        rw [pts_cg (σ := sA σ 26 A) (τ := σ) rfl rfl rfl rfl rfl rfl rfl rfl rfl rfl]
        show ev _ _ _ _ _ _ _ _ (vI (pts σ pn ((40 * (pn)) + (k)) (gd (σ.2 24)) na) :: _) _ _ _
        refine ev_mias (iN := (k)) (k_m_search_0 47 rfl) 26 rfl hm1 fm1 (by omega) (by omega) (fun h765 (hm765 : MR h765 ma (sA (sA σ 26 A) 26 ((A).set (k) (pts σ pn ((40 * (pn)) + (k)) (gd (σ.2 24)) na)))) fm765 => ?_)
        refine ev_iinc (k_m_search_0 48 rfl) rfl (by omega) (show ev _ _ _ _ _ _ 81 [some (vA (ma 0)), some (vI e1), some (vI ((k : Int) + 1)), none] _ _ _ _ from ?_)
        refine ev_goto (k_m_search_0 49 rfl) ?_
        rw [sA_sA] at hm765
        rw [show (k : Int) + 1 = ((k + 1 : Nat) : Int) by omega]
        refine ih _ _ hm765 fm765 (k + 1) (by omega) (fun j hj => ?_) (by omega)
        rw [gd_set _ (by omega)]
        by_cases q : j = k
        · rw [if_pos q, q]
        · rw [if_neg q]; exact g1 j (by omega)
set_option maxHeartbeats 4000000 in
theorem lp_se3 {G : gt_T} {F L Cc Ss : Nat} {Φ : Option ab_V → ab_H → Prop} {Θ : Nat → ab_H → Prop} {ma : Nat → Nat} {σ : sg_T} {h0 : ab_H} {pn rl : Nat} {e1 : Int} (HR : ∀ e, e < 3 → 0 ≤ gd (σ.2 6) e ∧ gd (σ.2 6) e ≤ 40) (hp : σ.1 3 = (pn : Int)) (hp2 : pn < 3) (hrl : gd (σ.2 6) pn = (rl : Int)) {p : Nat} {Lx : List Nat} (hb : Lx.length + (fi (fun k => gd (σ.2 26) k == (p : Int)) rl).length ≤ 40) (k0 : ∀ (hx : ab_H) (τ : sg_T), MR hx ma τ → fM h0 hx → seR σ τ pn (Lx ++ fi (fun k => gd (σ.2 26) k == (p : Int)) rl) → ev G M_m_search F L Cc Ss 165 [some (vA (ma 0)), some (vI e1), some (vI (p : Int)), none] [] hx Φ Θ) : ∀ (fu : Nat) (h1 : ab_H) (τ : sg_T) (hm1 : MR h1 ma τ) (fm1 : fM h0 h1) (k : Nat), (k ≤ rl) → (seR σ τ pn (Lx ++ fi (fun k => gd (σ.2 26) k == (p : Int)) k)) → rl - k < fu → ev G M_m_search F L Cc Ss 93 [some (vA (ma 0)), some (vI e1), some (vI (p : Int)), some (vI (k : Int))] [] h1 Φ Θ := by
  intro fu
  induction fu with
  | zero => intros; omega
  | succ fu ih =>
      intro h1 τ hm1 fm1 k hk g1 hn
      have hre := HR pn hp2
      have hfl := List.length_append (as := Lx) (bs := fi (fun k => gd (σ.2 26) k == (p : Int)) k)
      obtain ⟨nf, hnf⟩ : ∃ nf, (Lx ++ fi (fun k => gd (σ.2 26) k == (p : Int)) k).length = nf := ⟨_, rfl⟩
      have g21 : τ.1 21 = (nf : Int) := by rw [← hnf]; exact g1.2.1
      have hmn := fun q : k + 1 ≤ rl => fi_mono (fun k => gd (σ.2 26) k == (p : Int)) q
      have hm0 := fi_mono (fun k => gd (σ.2 26) k == (p : Int)) (show k ≤ rl by omega)
      have hpt : τ.1 3 = (pn : Int) := (g1.1 3 (by decide)).trans hp
      have hrt : gd (τ.2 6) pn = (rl : Int) := by rw [g1.2.2.1 6 (by decide) (by decide)]; exact hrl
      have h26 := g1.2.2.1 26 (by decide) (by decide)
      have hst : ∀ q : k + 1 ≤ rl, gd (τ.2 26) k = (p : Int) → (fi (fun k => gd (σ.2 26) k == (p : Int)) k).length + 1 ≤ (fi (fun k => gd (σ.2 26) k == (p : Int)) rl).length := fun q z => by rw [h26] at z; have := hmn q; rw [fi_t (bq_t z)] at this; simpa using this
      have l6 := mr_l hm1 6 rfl
      have l7 := mr_l hm1 7 rfl
      have l22 := mr_l hm1 22 rfl
      have l23 := mr_l hm1 23 rfl
      have l26 := mr_l hm1 26 rfl
      refine ev_il (k_m_search_0 56 rfl) rfl ?_
      refine ev_al (k_m_search_0 57 rfl) rfl ?_
      refine ev_get (v := vA (ma 6)) (k_m_search_0 58 rfl) hm1.1 rfl ?_
      refine ev_al (k_m_search_0 59 rfl) rfl ?_
      refine ev_get (v := vI (pn : Int)) (k_m_search_1 0 rfl) hm1.1 (congrArg (fun z => some (vI z)) hpt) ?_
      refine ev_iald (xs := τ.2 6) (k_m_search_1 1 rfl) (mr_a hm1 6 rfl) (by omega) (by omega) (show ev _ _ _ _ _ _ _ _ (vI (gd (τ.2 6) (pn)) :: _) _ _ _ from ?_)
      rw [hrt]
      refine ev_ic_ge (k_m_search_1 2 rfl) (fun c766 => ?_) (fun c766 => ?_)
      · refine ev_dead 3 (show ev _ _ _ _ _ _ 165 [some (vA (ma 0)), some (vI e1), some (vI (p : Int)), none] _ _ _ _ from ?_)
        have hkn : k = rl := by omega
        subst hkn
        exact k0 _ _ hm1 fm1 g1
      · refine ev_al (k_m_search_1 3 rfl) rfl ?_
        refine ev_get (v := vA (ma 26)) (k_m_search_1 4 rfl) hm1.1 rfl ?_
        refine ev_il (k_m_search_1 5 rfl) rfl ?_
        refine ev_iald (xs := τ.2 26) (k_m_search_1 6 rfl) (mr_a hm1 26 rfl) (by omega) (by omega) (show ev _ _ _ _ _ _ _ _ (vI (gd (τ.2 26) (k)) :: _) _ _ _ from ?_)
        refine ev_il (k_m_search_1 7 rfl) rfl ?_
        refine ev_ic_ne (k_m_search_1 8 rfl) (fun c767 => ?_) (fun c767 => ?_)
        · refine ev_iinc (k_m_search_1 35 rfl) rfl (by omega) (show ev _ _ _ _ _ _ 162 [some (vA (ma 0)), some (vI e1), some (vI (p : Int)), some (vI ((k : Int) + 1))] _ _ _ _ from ?_)
          refine ev_goto (k_m_search_1 36 rfl) ?_
          rw [show (k : Int) + 1 = ((k + 1 : Nat) : Int) by omega]
          refine ih _ _ hm1 fm1 (k + 1) (by omega) ?_ (by omega)
          rw [fi_f (by rw [g1.2.2.1 26 (by decide) (by decide)] at c767; exact bq_f c767)]
          exact g1
        · refine ev_al (k_m_search_1 9 rfl) rfl ?_
          refine ev_get (v := vA (ma 22)) (k_m_search_1 10 rfl) hm1.1 rfl ?_
          refine ev_al (k_m_search_1 11 rfl) rfl ?_
          refine ev_get (v := vI (nf : Int)) (k_m_search_1 12 rfl) hm1.1 (congrArg (fun z => some (vI z)) g21) ?_
          refine ev_al (k_m_search_1 13 rfl) rfl ?_
          refine ev_get (v := vA (ma 7)) (k_m_search_1 14 rfl) hm1.1 rfl ?_
          refine ev_bp (k_m_search_1 15 rfl) ?_
          refine ev_al (k_m_search_1 16 rfl) rfl ?_
          refine ev_get (v := vI (pn : Int)) (k_m_search_1 17 rfl) hm1.1 (congrArg (fun z => some (vI z)) hpt) ?_
          refine ev_imul (k_m_search_1 18 rfl) (by omega) ?_
          refine ev_il (k_m_search_1 19 rfl) rfl ?_
          refine ev_iadd (k_m_search_1 20 rfl) (by omega) ?_
          refine ev_lald (xs := τ.2 7) (k_m_search_1 21 rfl) (mr_a hm1 7 rfl) (by omega) (by omega) (show ev _ _ _ _ _ _ _ _ (vL (gd (τ.2 7) ((40 * (pn)) + (k))) :: _) _ _ _ from ?_)
          refine ev_mlas (iN := (nf)) (k_m_search_1 22 rfl) 22 rfl hm1 fm1 (by omega) (by omega) (fun h768 (hm768 : MR h768 ma (sA τ 22 ((τ.2 22).set (nf) (gd (τ.2 7) ((40 * (pn)) + (k)))))) fm768 => ?_)
          refine ev_al (k_m_search_1 23 rfl) rfl ?_
          refine ev_get (v := vA (ma 23)) (k_m_search_1 24 rfl) hm768.1 rfl ?_
          refine ev_al (k_m_search_1 25 rfl) rfl ?_
          refine ev_get (v := vI (nf : Int)) (k_m_search_1 26 rfl) hm768.1 (congrArg (fun z => some (vI z)) g21) ?_
          refine ev_il (k_m_search_1 27 rfl) rfl ?_
          refine ev_mias (iN := (nf)) (k_m_search_1 28 rfl) 23 rfl hm768 fm768 (by omega) (by omega) (fun h769 (hm769 : MR h769 ma (sA (sA τ 22 ((τ.2 22).set (nf) (gd (τ.2 7) ((40 * (pn)) + (k))))) 23 ((τ.2 23).set (nf) (p : Int)))) fm769 => ?_)
          refine ev_al (k_m_search_1 29 rfl) rfl ?_
          refine ev_dup (k_m_search_1 30 rfl) rfl ?_
          refine ev_get (v := vI (nf : Int)) (k_m_search_1 31 rfl) hm769.1 (congrArg (fun z => some (vI z)) g21) ?_
          refine ev_ic (k_m_search_1 32 rfl) ?_
          refine ev_iadd (k_m_search_1 33 rfl) (by omega) ?_
          refine ev_mput (z := (nf : Int) + 1) (k_m_search_1 34 rfl) hm769 fm769 (le_b rfl) rfl rfl (fun h770 (hm770 : MR h770 ma (sS (sA (sA τ 22 ((τ.2 22).set (nf) (gd (τ.2 7) ((40 * (pn)) + (k))))) 23 ((τ.2 23).set (nf) (p : Int))) 21 ((nf : Int) + 1))) fm770 => ?_)
          refine ev_iinc (k_m_search_1 35 rfl) rfl (by omega) (show ev _ _ _ _ _ _ 162 [some (vA (ma 0)), some (vI e1), some (vI (p : Int)), some (vI ((k : Int) + 1))] _ _ _ _ from ?_)
          refine ev_goto (k_m_search_1 36 rfl) ?_
          rw [show (k : Int) + 1 = ((k + 1 : Nat) : Int) by omega]
          refine ih _ _ hm770 fm770 (k + 1) (by omega) ?_ (by omega)
          rw [fi_t (by rw [g1.2.2.1 26 (by decide) (by decide)] at c767; exact bq_t c767), ← List.append_assoc]
          exact seR_app g1 (by omega) (by omega) (by rw [g1.2.2.1 7 (by decide) (by decide)]) (by rw [g1.2.2.1 26 (by decide) (by decide)] at c767; exact c767.symm) hnf
set_option maxHeartbeats 4000000 in
theorem lp_se2 {G : gt_T} {F L Cc Ss : Nat} {Φ : Option ab_V → ab_H → Prop} {Θ : Nat → ab_H → Prop} {ma : Nat → Nat} {σ : sg_T} {h0 : ab_H} {pn rl : Nat} {e1 : Int} (HR : ∀ e, e < 3 → 0 ≤ gd (σ.2 6) e ∧ gd (σ.2 6) e ≤ 40) (hp : σ.1 3 = (pn : Int)) (hp2 : pn < 3) (hrl : gd (σ.2 6) pn = (rl : Int))  (k0 : ∀ (hx : ab_H) (τ : sg_T), MR hx ma τ → fM h0 hx → seR σ τ pn (sr (fun k => gd (σ.2 26) k) 24 rl) → ev G M_m_search F L Cc Ss 171 [some (vA (ma 0)), some (vI e1), none, none] [] hx Φ Θ) : ∀ (fu : Nat) (h1 : ab_H) (τ : sg_T) (hm1 : MR h1 ma τ) (fm1 : fM h0 h1) (p : Nat) (Lx : List Nat), (seR σ τ pn Lx) → (Lx ++ sr (fun k => gd (σ.2 26) k) p rl = sr (fun k => gd (σ.2 26) k) 24 rl) → p < fu → ev G M_m_search F L Cc Ss 87 [some (vA (ma 0)), some (vI e1), some (vI (p : Int)), none] [] h1 Φ Θ := by
  intro fu
  induction fu with
  | zero => intros; omega
  | succ fu ih =>
      intro h1 τ hm1 fm1 p Lx g1 g2 hn
      have hre := HR pn hp2
      refine ev_loc 2 rfl (fun (okp : inI (p : Int)) => ?_)
      refine ev_il (k_m_search_0 52 rfl) rfl ?_
      refine ev_if_le (k_m_search_0 53 rfl) (fun c771 => ?_) (fun c771 => ?_)
      · refine ev_dead 2 (show ev _ _ _ _ _ _ 171 [some (vA (ma 0)), some (vI e1), none, none] _ _ _ _ from ?_)
        have hp0 : p = 0 := by omega
        subst hp0
        rw [show sr _ 0 _ = [] from rfl, List.append_nil] at g2
        subst g2
        exact k0 _ _ hm1 fm1 g1
      · refine ev_ic (k_m_search_0 54 rfl) ?_
        refine ev_is (k_m_search_0 55 rfl) (le_b rfl) (show ev _ _ _ _ _ _ 93 [some (vA (ma 0)), some (vI e1), some (vI (p : Int)), some (vI 0)] _ _ _ _ from ?_)
        obtain ⟨p, rfl⟩ : ∃ j, p = j + 1 := ⟨p - 1, by omega⟩
        rw [show (0 : Int) = ((0 : Nat) : Int) from rfl]
        rw [sr_s, ← List.append_assoc] at g2
        have hlen := congrArg List.length g2
        have hsl := sr_le (fun k => gd (σ.2 26) k) 24 rl
        rw [List.length_append, List.length_append] at hlen
        refine lp_se3 HR hp hp2 hrl (p := p + 1) (Lx := Lx) (by omega) (fun hx τ2 hmx fmx hsx => ?_) (rl + 1) _ _ hm1 fm1 0 (by omega) (by rw [show fi _ 0 = [] from rfl, List.append_nil]; exact g1) (by omega)
        refine ev_iinc (k_m_search_1 37 rfl) rfl (by omega) (show ev _ _ _ _ _ _ 168 [some (vA (ma 0)), some (vI e1), some (vI (((p + 1 : Nat) : Int) + (-1))), none] _ _ _ _ from ?_)
        refine ev_goto (k_m_search_1 38 rfl) ?_
        rw [show ((p + 1 : Nat) : Int) + (-1) = (p : Int) by omega]
        exact ih _ _ hmx fmx p _ hsx g2 (by omega)
def ptF (σ : sg_T) (e : Nat) (ws : List (List Int)) (k : Nat) : Int := pts σ e (40 * e + k) (fun j => enc 32 (ws.getD j [])) ws.length
/-- a search went well -/
def seK (σ τ : sg_T) (e : Nat) (ws : List (List Int)) : Prop := (∀ j, j ≠ 0 → j ≠ 2 → j ≠ 4 → j ≠ 5 → j ≠ 21 → j ≠ 25 → τ.1 j = σ.1 j) ∧ (τ.1 0 = 0 ∧ τ.1 2 = 0 ∧ τ.1 4 = 0 ∧ τ.1 5 = -1) ∧ (∀ k, k ≠ 22 → k ≠ 23 → k ≠ 24 → k ≠ 26 → τ.2 k = σ.2 k)
  ∧ τ.1 21 = ((sr (ptF σ e ws) 24 (gd (σ.2 6) e).toNat).length : Int) ∧ ∀ i, i < (sr (ptF σ e ws) 24 (gd (σ.2 6) e).toNat).length → gd (τ.2 22) i = gd (σ.2 7) (40 * e + (sr (ptF σ e ws) 24 (gd (σ.2 6) e).toNat).getD i 0) ∧ gd (τ.2 23) i = ptF σ e ws ((sr (ptF σ e ws) 24 (gd (σ.2 6) e).toNat).getD i 0)
set_option maxHeartbeats 4000000 in
theorem c_m_search (G : gt_T) (ma : Nat → Nat) (σ : sg_T) (h : ab_H) (hm : MR h ma σ) (n : Nat) (hn0 : σ.1 2 = (n : Int)) (hn4 : n ≤ 400) (HR : ∀ e, e < 3 → 0 ≤ gd (σ.2 6) e ∧ gd (σ.2 6) e ≤ 40) (pn : Nat) (hp : σ.1 3 = (pn : Int)) (hp2 : pn < 3) (hE : inE σ pn) (hno : σ.1 11 ≤ 20) : ct G M_m_search 4 91 0 0 [vA (ma 0)] h (rI fun z h' => ∃ τ, MR h' ma τ ∧ fM h h' ∧ ((∃ q : Nat, pwd (gd (σ.2 1)) n 6 0 0 = (q, none) ∧ z = 0 ∧ frd (sS (sS σ 2 0) 0 1) τ ∧ τ.1 4 = 1 ∧ τ.1 5 = (q : Int)) ∨ (∃ (q : Nat) (ws : List (List Int)), pwd (gd (σ.2 1)) n 6 0 0 = (q, some ws) ∧ z = ((sr (ptF σ pn ws) 24 (gd (σ.2 6) pn).toNat).length : Int) ∧ seK σ τ pn ws ∧ ws.length ≤ 6))) nT := by
  show ev _ _ _ _ _ _ 0 [some (vA (ma 0)), none, none, none] [] _ _ _
  refine ev_al (k_m_search_0 0 rfl) rfl ?_
  refine ev_ic (k_m_search_0 1 rfl) ?_
  refine ev_mput (z := 0) (k_m_search_0 2 rfl) hm (fM_rf _) (le_b rfl) rfl rfl (fun h772 (hm772 : MR h772 ma (sS σ 4 0)) fm772 => ?_)
  refine ev_al (k_m_search_0 3 rfl) rfl ?_
  refine ev_ic (k_m_search_0 4 rfl) ?_
  refine ev_mput (z := (-1)) (k_m_search_0 5 rfl) hm772 fm772 (le_b rfl) rfl rfl (fun h773 (hm773 : MR h773 ma (sS (sS σ 4 0) 5 (-1))) fm773 => ?_)
  refine ev_al (k_m_search_0 6 rfl) rfl ?_
  refine ev_ic (k_m_search_0 7 rfl) ?_
  refine ev_bp (k_m_search_0 8 rfl) ?_
  refine ev_ic (k_m_search_0 9 rfl) ?_
  refine ev_cV (k_m_search_0 10 rfl) rfl v_m_readsWords hm773.1 rfl (c_m_readsWords G ma _ _ hm773 n hn0 hn4 0 6 0 (by (try simp only [sS]); omega) (by (try simp only [sS]); omega) (by (try simp only [sS]); omega) (by decide)) rfl (le_b rfl) (le_b rfl) (le_b rfl) k_n (k_I fun z774 h774 q774 => ?_)
  obtain ⟨A, τ0, hmw, fmw0, hqw⟩ := q774
  have fmw := fM_tr fm773 fmw0
  rcases hqw with ⟨q, cN, e2, hqn, rfl, rfl, hc0, hc4⟩ | ⟨q, ws, e2, hqn, rfl, rfl, hw6, hAw⟩
  · refine ev_is (k_m_search_0 11 rfl) (le_b rfl) (show ev _ _ _ _ _ _ 19 [some (vA (ma 0)), some (vI (-1)), none, none] _ _ _ _ from ?_)
    refine ev_al (k_m_search_0 12 rfl) rfl ?_
    refine ev_ic (k_m_search_0 13 rfl) ?_
    refine ev_mput (z := 0) (k_m_search_0 14 rfl) hmw fmw (le_b rfl) rfl rfl (fun h775 (hm775 : MR h775 ma (sS (sS (sS (sS (sA (sS (sS σ 4 0) 5 (-1)) 24 A) 25 cN) 4 1) 5 (q : Int)) 2 0)) fm775 => ?_)
    refine ev_il (k_m_search_0 15 rfl) rfl ?_
    refine ev_if_ge (k_m_search_0 16 rfl) (fun c => absurd c (by decide)) (fun _ => ?_)
    refine ev_al (k_m_search_0 17 rfl) rfl ?_
    refine ev_ic (k_m_search_0 18 rfl) ?_
    refine ev_cV (k_m_search_0 19 rfl) rfl v_m_refuse hm775.1 rfl (c_m_refuse G ma _ _ hm775 1) rfl (le_b rfl) (le_b rfl) (le_b rfl) k_n (k_I fun z777 h777 q777 => ?_)
    obtain ⟨rfl, hm777, fmx777⟩ := q777
    have fm777 := fM_tr fm775 fmx777
    exact ev_iret (k_m_search_0 20 rfl) rfl (⟨_, rfl, _, hm777, fm777, Or.inl ⟨q, e2, rfl, frd_cg (frd_cg (frd_tr (frd_S (j := 4) (z := 0) (Or.inl rfl)) (frd_tr (frd_S (j := 5) (z := -1) (Or.inr (Or.inl rfl))) (frd_tr (frd_A24 (A := A)) (frd_tr (frd_S (j := 25) (z := cN) (Or.inr (Or.inr rfl))) (frd_tr (frd_S (j := 4) (z := 1) (Or.inl rfl)) (frd_S (j := 5) (Or.inr (Or.inl rfl)))))))) 2 0) 0 1, rfl, rfl⟩⟩)
  · refine ev_is (k_m_search_0 11 rfl) (le_b rfl) (show ev _ _ _ _ _ _ 19 [some (vA (ma 0)), some (vI ((q : Int) + 1)), none, none] _ _ _ _ from ?_)
    refine ev_al (k_m_search_0 12 rfl) rfl ?_
    refine ev_ic (k_m_search_0 13 rfl) ?_
    refine ev_mput (z := 0) (k_m_search_0 14 rfl) hmw fmw (le_b rfl) rfl rfl (fun h778 (hm778 : MR h778 ma (sS (sS (sA (sS (sS σ 4 0) 5 (-1)) 24 A) 25 (ws.length : Int)) 2 0)) fm778 => ?_)
    refine ev_il (k_m_search_0 15 rfl) rfl ?_
    refine ev_if_ge (k_m_search_0 16 rfl) (fun _ => ?_) (fun c => absurd c (by omega))
    refine ev_al (k_m_search_0 21 rfl) rfl ?_
    refine ev_ic (k_m_search_0 22 rfl) ?_
    refine ev_mput (z := 0) (k_m_search_0 23 rfl) hm778 fm778 (le_b rfl) rfl rfl (fun h779 (hm779 : MR h779 ma (sS (sS (sS (sA (sS (sS σ 4 0) 5 (-1)) 24 A) 25 (ws.length : Int)) 2 0) 0 0)) fm779 => ?_)
    refine ev_al (k_m_search_0 24 rfl) rfl ?_
    refine ev_ic (k_m_search_0 25 rfl) ?_
    refine ev_mput (z := 0) (k_m_search_0 26 rfl) hm779 fm779 (le_b rfl) rfl rfl (fun h780 (hm780 : MR h780 ma (sS (sS (sS (sS (sA (sS (sS σ 4 0) 5 (-1)) 24 A) 25 (ws.length : Int)) 2 0) 0 0) 21 0)) fm780 => ?_)
    refine ev_ic (k_m_search_0 27 rfl) ?_
    refine ev_is (k_m_search_0 28 rfl) (le_b rfl) (show ev _ _ _ _ _ _ 46 [some (vA (ma 0)), some (vI ((q : Int) + 1)), some (vI 0), none] _ _ _ _ from ?_)
    generalize hS0 : (sS (sS (sS (sS (sA (sS (sS σ 4 0) 5 (-1)) 24 A) 25 (ws.length : Int)) 2 0) 0 0) 21 0) = σ0 at hm780
    have hE0 : inE σ0 pn := by rw [← hS0]; exact hE
    have HR0 : ∀ e, e < 3 → 0 ≤ gd (σ0.2 6) e ∧ gd (σ0.2 6) e ≤ 40 := by rw [← hS0]; exact HR
    have hp0 : σ0.1 3 = (pn : Int) := by rw [← hS0]; exact hp
    have hr0 : gd (σ0.2 6) pn = (((gd (σ.2 6) pn).toNat : Nat) : Int) := by rw [← hS0]; have := HR pn hp2; show gd (σ.2 6) pn = _; omega
    rw [show (0 : Int) = ((0 : Nat) : Int) from rfl]
    refine lp_se1 HR0 hp0 hp2 hr0 (na := ws.length) hE0 (by rw [← hS0]; rfl) hw6 (by rw [← hS0]; exact hno) (fun hx P hmx fmx gP => ?_) ((gd (σ.2 6) pn).toNat + 1) _ (σ0.2 26) (by rw [sA_self]; exact hm780) fm780 0 (by omega) (fun j hj => absurd hj (by omega)) (by omega)
    refine ev_bp (k_m_search_0 50 rfl) ?_
    refine ev_is (k_m_search_0 51 rfl) (le_b rfl) (show ev _ _ _ _ _ _ 87 [some (vA (ma 0)), some (vI ((q : Int) + 1)), some (vI 24), none] _ _ _ _ from ?_)
    rw [show (24 : Int) = ((24 : Nat) : Int) from rfl]
    refine lp_se2 (σ := sA σ0 26 P) HR0 hp0 hp2 hr0 (fun hy τ2 hmy fmy hsy => ?_) 25 _ _ hmx fmx 24 [] ⟨fun _ _ => rfl, by rw [← hS0]; rfl, fun _ _ _ => rfl, fun i hi => absurd hi (by simp)⟩ rfl (by omega)
    have hPF : ∀ j, j < (gd (σ.2 6) pn).toNat → gd P j = ptF σ pn ws j := by
      intro j hj
      rw [gP j hj, ← hS0]
      unfold ptF
      rw [pts_cg (σ := sS (sS (sS (sS (sA (sS (sS σ 4 0) 5 (-1)) 24 A) 25 (ws.length : Int)) 2 0) 0 0) 21 0) (τ := σ) rfl rfl rfl rfl rfl rfl rfl rfl rfl rfl]
      unfold pts
      rw [show smw σ pn (40 * pn + j) (gd ((sS (sS (sS (sS (sA (sS (sS σ 4 0) 5 (-1)) 24 A) 25 (ws.length : Int)) 2 0) 0 0) 21 0).2 24)) ws.length = smw σ pn (40 * pn + j) (fun j => enc 32 (ws.getD j [])) ws.length from smw_cg (fun k hk => hAw k hk)]
    have hsr : sr (fun k => gd ((sA σ0 26 P).2 26) k) 24 (gd (σ.2 6) pn).toNat = sr (ptF σ pn ws) 24 (gd (σ.2 6) pn).toNat := sr_cg hPF 24
    rw [hsr] at hsy
    have hsk : seK σ τ2 pn ws := by
      refine ⟨fun j a0 a2 a4 a5 a21 a25 => ?_, ⟨?_, ?_, ?_, ?_⟩, fun k b22 b23 b24 b26 => ?_, hsy.2.1, fun i hi => ?_⟩
      · rw [hsy.1 j a21]; show σ0.1 j = _; rw [← hS0]; simp only [sS, sA]; rw [if_neg a21, if_neg a0, if_neg a2, if_neg a25, if_neg a5, if_neg a4]
      · rw [hsy.1 0 (by decide)]; show σ0.1 0 = _; rw [← hS0]; rfl
      · rw [hsy.1 2 (by decide)]; show σ0.1 2 = _; rw [← hS0]; rfl
      · rw [hsy.1 4 (by decide)]; show σ0.1 4 = _; rw [← hS0]; rfl
      · rw [hsy.1 5 (by decide)]; show σ0.1 5 = _; rw [← hS0]; rfl
      · rw [hsy.2.2.1 k b22 b23, sA_ne _ _ b26, ← hS0]; simp only [sS, sA]; rw [if_neg b24]
      · obtain ⟨c1, c2⟩ := hsy.2.2.2 i hi
        refine ⟨?_, ?_⟩
        · rw [c1]; show gd (σ0.2 7) _ = _; rw [← hS0]; rfl
        · rw [c2]; exact hPF _ (sr_get hi)
    refine ev_al (k_m_search_1 39 rfl) rfl ?_
    refine ev_get (v := vI ((sr (ptF σ pn ws) 24 (gd (σ.2 6) pn).toNat).length : Int)) (k_m_search_1 40 rfl) hmy.1 (congrArg (fun z => some (vI z)) hsk.2.2.2.1) ?_
    exact ev_iret (k_m_search_1 41 rfl) rfl (⟨_, rfl, _, hmy, fmy, Or.inr ⟨q, ws, e2, rfl, hsk, hw6⟩⟩)
