/-- the numbers below n that p keeps -/
def fi (p : Nat → Bool) : Nat → List Nat
  | 0 => []
  | n + 1 => if p n then fi p n ++ [n] else fi p n
theorem fi_t {p : Nat → Bool} {n : Nat} (h : p n = true) : fi p (n + 1) = fi p n ++ [n] := by rw [fi, if_pos h]
theorem fi_f {p : Nat → Bool} {n : Nat} (h : p n = false) : fi p (n + 1) = fi p n := by rw [fi, h]; rfl
theorem fi_le (p : Nat → Bool) : ∀ n : Nat, (fi p n).length ≤ n
  | 0 => Nat.le_refl _
  | n + 1 => by
    have := fi_le p n
    by_cases h : p n = true
    · rw [fi_t h]; simp; omega
    · rw [fi_f (by simpa using h)]; omega
theorem gN_app (xs : List Nat) (x j : Nat) : (xs ++ [x]).getD j 0 = if j < xs.length then xs.getD j 0 else if j = xs.length then x else 0 := by
  by_cases h : j < xs.length
  · rw [if_pos h]; simp [List.getD_eq_getElem?_getD, List.getElem?_append_left h]
  · rw [if_neg h]
    by_cases e : j = xs.length
    · subst e; simp
    · rw [if_neg e]; rw [List.getD_eq_getElem?_getD, List.getElem?_eq_none (by simp; omega)]; rfl
theorem fi_get {p : Nat → Bool} : ∀ {n j : Nat}, j < (fi p n).length → (fi p n).getD j 0 < n ∧ p ((fi p n).getD j 0) = true
  | 0, j, h => by simp [fi] at h
  | n + 1, j, h => by
    by_cases e : p n = true
    · rw [fi_t e] at h ⊢
      rw [gN_app]
      by_cases c : j < (fi p n).length
      · rw [if_pos c]; have := fi_get c; exact ⟨by omega, this.2⟩
      · have : j = (fi p n).length := by simp at h; omega
        rw [if_neg c, if_pos this]; exact ⟨by omega, e⟩
    · rw [fi_f (by simpa using e)] at h ⊢
      have := fi_get h
      exact ⟨by omega, this.2⟩
theorem fi_inj {p : Nat → Bool} : ∀ {n i j : Nat}, j < (fi p n).length → i < j → (fi p n).getD i 0 < (fi p n).getD j 0
  | 0, i, j, h, _ => by simp [fi] at h
  | n + 1, i, j, h, hij => by
    by_cases e : p n = true
    · rw [fi_t e] at h ⊢
      rw [gN_app, gN_app]
      have hl : j < (fi p n).length + 1 := by simpa using h
      rw [if_pos (show i < (fi p n).length by omega)]
      by_cases c : j < (fi p n).length
      · rw [if_pos c]; exact fi_inj c hij
      · rw [if_neg c, if_pos (by omega)]; exact (fi_get (by omega)).1
    · rw [fi_f (by simpa using e)] at h ⊢
      exact fi_inj h hij
def FR (p : Nat → Bool) (k : Nat) (xs ys : List Int) : Prop := (∀ j, j < (fi p k).length → gd ys j = gd xs ((fi p k).getD j 0)) ∧ ∀ i, k ≤ i → gd ys i = gd xs i
theorem FR_0 (p : Nat → Bool) (xs : List Int) : FR p 0 xs xs := ⟨fun j h => absurd h (by simp [fi]), fun _ _ => rfl⟩
theorem FR_f {p : Nat → Bool} {k : Nat} {xs ys : List Int} (h : FR p k xs ys) (hp : p k = false) : FR p (k + 1) xs ys := by
  refine ⟨fun j hj => ?_, fun i hi => h.2 i (by omega)⟩
  rw [fi_f hp] at hj ⊢
  exact h.1 j hj
theorem FR_t {p : Nat → Bool} {k : Nat} {xs ys : List Int} (h : FR p k xs ys) (hp : p k = true) (hl : k < ys.length) {n0 : Nat} (hn0 : n0 = (fi p k).length) : FR p (k + 1) xs (ys.set n0 (gd ys k)) := by
  subst hn0
  have hle := fi_le p k
  refine ⟨fun j hj => ?_, fun i hi => ?_⟩
  · rw [fi_t hp] at hj ⊢
    have hj' : j < (fi p k).length + 1 := by simpa using hj
    rw [gN_app, gd_set _ (by omega)]
    by_cases c : j = (fi p k).length
    · rw [if_pos c, if_neg (by omega), if_pos c]; exact h.2 k (Nat.le_refl _)
    · rw [if_neg c, if_pos (by omega)]; exact h.1 j (by omega)
  · rw [gd_set_ne _ (by omega)]; exact h.2 i (by omega)
def kn (σ : sg_T) (e : Int) (k : Nat) : Bool := !(gd (σ.2 12) k == e)
def kl (σ : sg_T) (e : Int) (k : Nat) : Bool := !(gd (σ.2 17) k == e) && !(gd (σ.2 19) k == e)
/-- the notes and links of an edition are gone -/
def fg1 (σ τ : sg_T) (e : Int) (k : Nat) : Prop := τ.1 = σ.1 ∧ (∀ j, j < 12 ∨ 15 < j → τ.2 j = σ.2 j) ∧ FR (kn σ e) k (σ.2 12) (τ.2 12) ∧ FR (kn σ e) k (σ.2 13) (τ.2 13) ∧ FR (kn σ e) k (σ.2 14) (τ.2 14) ∧ FR (kn σ e) k (σ.2 15) (τ.2 15)
def fg2 (σ τ : sg_T) (e : Int) (k : Nat) : Prop := τ.1 = σ.1 ∧ (∀ j, j < 17 ∨ 20 < j → τ.2 j = σ.2 j) ∧ FR (kl σ e) k (σ.2 17) (τ.2 17) ∧ FR (kl σ e) k (σ.2 18) (τ.2 18) ∧ FR (kl σ e) k (σ.2 19) (τ.2 19) ∧ FR (kl σ e) k (σ.2 20) (τ.2 20)
theorem kn_eq {σ : sg_T} {e : Int} {k : Nat} : kn σ e k = false ↔ gd (σ.2 12) k = e := by simp [kn]
set_option maxHeartbeats 4000000 in
theorem lp_fg1 {G : gt_T} {F L Cc Ss : Nat} {Φ : Option ab_V → ab_H → Prop} {Θ : Nat → ab_H → Prop} {ma : Nat → Nat} {σ : sg_T} {h0 : ab_H} {e : Int} {nn : Nat} (hnn : σ.1 11 = (nn : Int)) (hn20 : nn ≤ 20) (k0 : ∀ (hx : ab_H) (τ : sg_T), MR hx ma τ → fM h0 hx → fg1 σ τ e nn → ev G M_m_forget F L Cc Ss 79 [some (vA (ma 0)), some (vI e), some (vI ((fi (kn σ e) nn).length : Int)), none] [] hx Φ Θ) : ∀ (fu : Nat) (h1 : ab_H) (τ : sg_T) (hm1 : MR h1 ma τ) (fm1 : fM h0 h1) (k nl : Nat), (k ≤ nn) → (fg1 σ τ e k) → (nl = (fi (kn σ e) k).length) → nn - k < fu → ev G M_m_forget F L Cc Ss 4 [some (vA (ma 0)), some (vI e), some (vI (nl : Int)), some (vI (k : Int))] [] h1 Φ Θ := by
  intro fu
  induction fu with
  | zero => intros; omega
  | succ fu ih =>
      intro h1 τ hm1 fm1 k nl hk hfg hnl hn
      have hnt : τ.1 11 = (nn : Int) := by rw [hfg.1]; exact hnn
      have hfl := fi_le (kn σ e) k
      have l12 := mr_l hm1 12 rfl
      have l13 := mr_l hm1 13 rfl
      have l14 := mr_l hm1 14 rfl
      have l15 := mr_l hm1 15 rfl
      refine ev_il (k_m_forget_0 4 rfl) rfl ?_
      refine ev_al (k_m_forget_0 5 rfl) rfl ?_
      refine ev_get (v := vI (nn : Int)) (k_m_forget_0 6 rfl) hm1.1 (congrArg (fun z => some (vI z)) hnt) ?_
      refine ev_ic_ge (k_m_forget_0 7 rfl) (fun c698 => ?_) (fun c698 => ?_)
      · refine ev_dead 3 (show ev _ _ _ _ _ _ 79 [some (vA (ma 0)), some (vI e), some (vI (nl : Int)), none] _ _ _ _ from ?_)
        have hkn : k = nn := by omega
        subst hkn
        subst hnl
        exact k0 _ _ hm1 fm1 hfg
      · refine ev_al (k_m_forget_0 8 rfl) rfl ?_
        refine ev_get (v := vA (ma 12)) (k_m_forget_0 9 rfl) hm1.1 rfl ?_
        refine ev_il (k_m_forget_0 10 rfl) rfl ?_
        refine ev_iald (xs := τ.2 12) (k_m_forget_0 11 rfl) (mr_a hm1 12 rfl) (by omega) (by omega) (show ev _ _ _ _ _ _ _ _ (vI (gd (τ.2 12) (k)) :: _) _ _ _ from ?_)
        refine ev_il (k_m_forget_0 12 rfl) rfl ?_
        refine ev_ic_eq (k_m_forget_0 13 rfl) (fun c699 => ?_) (fun c699 => ?_)
        · refine ev_iinc (k_m_forget_0 47 rfl) rfl (by omega) (show ev _ _ _ _ _ _ 76 [some (vA (ma 0)), some (vI e), some (vI (nl : Int)), some (vI ((k : Int) + 1))] _ _ _ _ from ?_)
          refine ev_goto (k_m_forget_0 48 rfl) ?_
          have hq : kn σ e k = false := by simp [kn]; have := hfg.2.2.1.2 k (Nat.le_refl _); omega
          have hfr : fg1 σ τ e (k + 1) := ⟨hfg.1, hfg.2.1, FR_f hfg.2.2.1 hq, FR_f hfg.2.2.2.1 hq, FR_f hfg.2.2.2.2.1 hq, FR_f hfg.2.2.2.2.2 hq⟩
          rw [show (k : Int) + 1 = ((k + 1 : Nat) : Int) by omega]
          exact ih _ _ hm1 fm1 (k + 1) nl (by omega) hfr (by rw [fi_f hq, hnl]) (by omega)
        · refine ev_al (k_m_forget_0 14 rfl) rfl ?_
          refine ev_get (v := vA (ma 12)) (k_m_forget_0 15 rfl) hm1.1 rfl ?_
          refine ev_il (k_m_forget_0 16 rfl) rfl ?_
          refine ev_al (k_m_forget_0 17 rfl) rfl ?_
          refine ev_get (v := vA (ma 12)) (k_m_forget_0 18 rfl) hm1.1 rfl ?_
          refine ev_il (k_m_forget_0 19 rfl) rfl ?_
          refine ev_iald (xs := τ.2 12) (k_m_forget_0 20 rfl) (mr_a hm1 12 rfl) (by omega) (by omega) (show ev _ _ _ _ _ _ _ _ (vI (gd (τ.2 12) (k)) :: _) _ _ _ from ?_)
          refine ev_mias (iN := (nl)) (k_m_forget_0 21 rfl) 12 rfl hm1 fm1 (by omega) (by omega) (fun h700 (hm700 : MR h700 ma (sA τ 12 ((τ.2 12).set (nl) (gd (τ.2 12) (k))))) fm700 => ?_)
          refine ev_al (k_m_forget_0 22 rfl) rfl ?_
          refine ev_get (v := vA (ma 13)) (k_m_forget_0 23 rfl) hm700.1 rfl ?_
          refine ev_il (k_m_forget_0 24 rfl) rfl ?_
          refine ev_al (k_m_forget_0 25 rfl) rfl ?_
          refine ev_get (v := vA (ma 13)) (k_m_forget_0 26 rfl) hm700.1 rfl ?_
          refine ev_il (k_m_forget_0 27 rfl) rfl ?_
          refine ev_lald (xs := τ.2 13) (k_m_forget_0 28 rfl) (mr_a hm700 13 rfl) (by omega) (by omega) (show ev _ _ _ _ _ _ _ _ (vL (gd (τ.2 13) (k)) :: _) _ _ _ from ?_)
          refine ev_mlas (iN := (nl)) (k_m_forget_0 29 rfl) 13 rfl hm700 fm700 (by omega) (by omega) (fun h701 (hm701 : MR h701 ma (sA (sA τ 12 ((τ.2 12).set (nl) (gd (τ.2 12) (k)))) 13 ((τ.2 13).set (nl) (gd (τ.2 13) (k))))) fm701 => ?_)
          refine ev_al (k_m_forget_0 30 rfl) rfl ?_
          refine ev_get (v := vA (ma 14)) (k_m_forget_0 31 rfl) hm701.1 rfl ?_
          refine ev_il (k_m_forget_0 32 rfl) rfl ?_
          refine ev_al (k_m_forget_0 33 rfl) rfl ?_
          refine ev_get (v := vA (ma 14)) (k_m_forget_0 34 rfl) hm701.1 rfl ?_
          refine ev_il (k_m_forget_0 35 rfl) rfl ?_
          refine ev_iald (xs := τ.2 14) (k_m_forget_0 36 rfl) (mr_a hm701 14 rfl) (by omega) (by omega) (show ev _ _ _ _ _ _ _ _ (vI (gd (τ.2 14) (k)) :: _) _ _ _ from ?_)
          refine ev_mias (iN := (nl)) (k_m_forget_0 37 rfl) 14 rfl hm701 fm701 (by omega) (by omega) (fun h702 (hm702 : MR h702 ma (sA (sA (sA τ 12 ((τ.2 12).set (nl) (gd (τ.2 12) (k)))) 13 ((τ.2 13).set (nl) (gd (τ.2 13) (k)))) 14 ((τ.2 14).set (nl) (gd (τ.2 14) (k))))) fm702 => ?_)
          refine ev_al (k_m_forget_0 38 rfl) rfl ?_
          refine ev_get (v := vA (ma 15)) (k_m_forget_0 39 rfl) hm702.1 rfl ?_
          refine ev_il (k_m_forget_0 40 rfl) rfl ?_
          refine ev_al (k_m_forget_0 41 rfl) rfl ?_
          refine ev_get (v := vA (ma 15)) (k_m_forget_0 42 rfl) hm702.1 rfl ?_
          refine ev_il (k_m_forget_0 43 rfl) rfl ?_
          refine ev_lald (xs := τ.2 15) (k_m_forget_0 44 rfl) (mr_a hm702 15 rfl) (by omega) (by omega) (show ev _ _ _ _ _ _ _ _ (vL (gd (τ.2 15) (k)) :: _) _ _ _ from ?_)
          refine ev_mlas (iN := (nl)) (k_m_forget_0 45 rfl) 15 rfl hm702 fm702 (by omega) (by omega) (fun h703 (hm703 : MR h703 ma (sA (sA (sA (sA τ 12 ((τ.2 12).set (nl) (gd (τ.2 12) (k)))) 13 ((τ.2 13).set (nl) (gd (τ.2 13) (k)))) 14 ((τ.2 14).set (nl) (gd (τ.2 14) (k)))) 15 ((τ.2 15).set (nl) (gd (τ.2 15) (k))))) fm703 => ?_)
          refine ev_iinc (k_m_forget_0 46 rfl) rfl (by omega) (show ev _ _ _ _ _ _ 73 [some (vA (ma 0)), some (vI e), some (vI ((nl : Int) + 1)), some (vI (k : Int))] _ _ _ _ from ?_)
          refine ev_iinc (k_m_forget_0 47 rfl) rfl (by omega) (show ev _ _ _ _ _ _ 76 [some (vA (ma 0)), some (vI e), some (vI ((nl : Int) + 1)), some (vI ((k : Int) + 1))] _ _ _ _ from ?_)
          refine ev_goto (k_m_forget_0 48 rfl) ?_
          have hq : kn σ e k = true := by simp [kn]; have := hfg.2.2.1.2 k (Nat.le_refl _); omega
          have hfr : fg1 σ (sA (sA (sA (sA τ 12 ((τ.2 12).set (nl) (gd (τ.2 12) (k)))) 13 ((τ.2 13).set (nl) (gd (τ.2 13) (k)))) 14 ((τ.2 14).set (nl) (gd (τ.2 14) (k)))) 15 ((τ.2 15).set (nl) (gd (τ.2 15) (k)))) e (k + 1) := ⟨hfg.1, fun j hj => ((sA_ne _ _ (by omega)).trans ((sA_ne _ _ (by omega)).trans ((sA_ne _ _ (by omega)).trans (sA_ne _ _ (by omega))))).trans (hfg.2.1 j hj), FR_t hfg.2.2.1 hq (by omega) hnl, FR_t hfg.2.2.2.1 hq (by omega) hnl, FR_t hfg.2.2.2.2.1 hq (by omega) hnl, FR_t hfg.2.2.2.2.2 hq (by omega) hnl⟩
          rw [show (nl : Int) + 1 = ((nl + 1 : Nat) : Int) by omega]
          rw [show (k : Int) + 1 = ((k + 1 : Nat) : Int) by omega]
          exact ih _ _ hm703 fm703 (k + 1) (nl + 1) (by omega) hfr (by rw [fi_t hq, hnl]; simp) (by omega)
set_option maxHeartbeats 4000000 in
theorem lp_fg2 {G : gt_T} {F L Cc Ss : Nat} {Φ : Option ab_V → ab_H → Prop} {Θ : Nat → ab_H → Prop} {ma : Nat → Nat} {σ : sg_T} {h0 : ab_H} {e : Int} {nn : Nat} (hnn : σ.1 16 = (nn : Int)) (hn20 : nn ≤ 60) (k0 : ∀ (hx : ab_H) (τ : sg_T), MR hx ma τ → fM h0 hx → fg2 σ τ e nn → ev G M_m_forget F L Cc Ss 173 [some (vA (ma 0)), some (vI e), some (vI ((fi (kl σ e) nn).length : Int)), none] [] hx Φ Θ) : ∀ (fu : Nat) (h1 : ab_H) (τ : sg_T) (hm1 : MR h1 ma τ) (fm1 : fM h0 h1) (k nl : Nat), (k ≤ nn) → (fg2 σ τ e k) → (nl = (fi (kl σ e) k).length) → nn - k < fu → ev G M_m_forget F L Cc Ss 88 [some (vA (ma 0)), some (vI e), some (vI (nl : Int)), some (vI (k : Int))] [] h1 Φ Θ := by
  intro fu
  induction fu with
  | zero => intros; omega
  | succ fu ih =>
      intro h1 τ hm1 fm1 k nl hk hfg hnl hn
      have hnt : τ.1 16 = (nn : Int) := by rw [hfg.1]; exact hnn
      have hfl := fi_le (kl σ e) k
      have l17 := mr_l hm1 17 rfl
      have l18 := mr_l hm1 18 rfl
      have l19 := mr_l hm1 19 rfl
      have l20 := mr_l hm1 20 rfl
      refine ev_il (k_m_forget_0 56 rfl) rfl ?_
      refine ev_al (k_m_forget_0 57 rfl) rfl ?_
      refine ev_get (v := vI (nn : Int)) (k_m_forget_0 58 rfl) hm1.1 (congrArg (fun z => some (vI z)) hnt) ?_
      refine ev_ic_ge (k_m_forget_0 59 rfl) (fun c704 => ?_) (fun c704 => ?_)
      · refine ev_dead 3 (show ev _ _ _ _ _ _ 173 [some (vA (ma 0)), some (vI e), some (vI (nl : Int)), none] _ _ _ _ from ?_)
        have hkn : k = nn := by omega
        subst hkn
        subst hnl
        exact k0 _ _ hm1 fm1 hfg
      · refine ev_al (k_m_forget_1 0 rfl) rfl ?_
        refine ev_get (v := vA (ma 17)) (k_m_forget_1 1 rfl) hm1.1 rfl ?_
        refine ev_il (k_m_forget_1 2 rfl) rfl ?_
        refine ev_iald (xs := τ.2 17) (k_m_forget_1 3 rfl) (mr_a hm1 17 rfl) (by omega) (by omega) (show ev _ _ _ _ _ _ _ _ (vI (gd (τ.2 17) (k)) :: _) _ _ _ from ?_)
        refine ev_il (k_m_forget_1 4 rfl) rfl ?_
        refine ev_ic_eq (k_m_forget_1 5 rfl) (fun c705 => ?_) (fun c705 => ?_)
        · refine ev_iinc (k_m_forget_1 45 rfl) rfl (by omega) (show ev _ _ _ _ _ _ 170 [some (vA (ma 0)), some (vI e), some (vI (nl : Int)), some (vI ((k : Int) + 1))] _ _ _ _ from ?_)
          refine ev_goto (k_m_forget_1 46 rfl) ?_
          have hq : kl σ e k = false := by simp [kl]; have h17 := hfg.2.2.1.2 k (Nat.le_refl _); have h19 := hfg.2.2.2.2.1.2 k (Nat.le_refl _); omega
          have hfr : fg2 σ τ e (k + 1) := ⟨hfg.1, hfg.2.1, FR_f hfg.2.2.1 hq, FR_f hfg.2.2.2.1 hq, FR_f hfg.2.2.2.2.1 hq, FR_f hfg.2.2.2.2.2 hq⟩
          rw [show (k : Int) + 1 = ((k + 1 : Nat) : Int) by omega]
          exact ih _ _ hm1 fm1 (k + 1) nl (by omega) hfr (by rw [fi_f hq, hnl]) (by omega)
        · refine ev_al (k_m_forget_1 6 rfl) rfl ?_
          refine ev_get (v := vA (ma 19)) (k_m_forget_1 7 rfl) hm1.1 rfl ?_
          refine ev_il (k_m_forget_1 8 rfl) rfl ?_
          refine ev_iald (xs := τ.2 19) (k_m_forget_1 9 rfl) (mr_a hm1 19 rfl) (by omega) (by omega) (show ev _ _ _ _ _ _ _ _ (vI (gd (τ.2 19) (k)) :: _) _ _ _ from ?_)
          refine ev_il (k_m_forget_1 10 rfl) rfl ?_
          refine ev_ic_eq (k_m_forget_1 11 rfl) (fun c706 => ?_) (fun c706 => ?_)
          · refine ev_iinc (k_m_forget_1 45 rfl) rfl (by omega) (show ev _ _ _ _ _ _ 170 [some (vA (ma 0)), some (vI e), some (vI (nl : Int)), some (vI ((k : Int) + 1))] _ _ _ _ from ?_)
            refine ev_goto (k_m_forget_1 46 rfl) ?_
            have hq : kl σ e k = false := by simp [kl]; have h17 := hfg.2.2.1.2 k (Nat.le_refl _); have h19 := hfg.2.2.2.2.1.2 k (Nat.le_refl _); omega
            have hfr : fg2 σ τ e (k + 1) := ⟨hfg.1, hfg.2.1, FR_f hfg.2.2.1 hq, FR_f hfg.2.2.2.1 hq, FR_f hfg.2.2.2.2.1 hq, FR_f hfg.2.2.2.2.2 hq⟩
            rw [show (k : Int) + 1 = ((k + 1 : Nat) : Int) by omega]
            exact ih _ _ hm1 fm1 (k + 1) nl (by omega) hfr (by rw [fi_f hq, hnl]) (by omega)
          · refine ev_al (k_m_forget_1 12 rfl) rfl ?_
            refine ev_get (v := vA (ma 17)) (k_m_forget_1 13 rfl) hm1.1 rfl ?_
            refine ev_il (k_m_forget_1 14 rfl) rfl ?_
            refine ev_al (k_m_forget_1 15 rfl) rfl ?_
            refine ev_get (v := vA (ma 17)) (k_m_forget_1 16 rfl) hm1.1 rfl ?_
            refine ev_il (k_m_forget_1 17 rfl) rfl ?_
            refine ev_iald (xs := τ.2 17) (k_m_forget_1 18 rfl) (mr_a hm1 17 rfl) (by omega) (by omega) (show ev _ _ _ _ _ _ _ _ (vI (gd (τ.2 17) (k)) :: _) _ _ _ from ?_)
            refine ev_mias (iN := (nl)) (k_m_forget_1 19 rfl) 17 rfl hm1 fm1 (by omega) (by omega) (fun h707 (hm707 : MR h707 ma (sA τ 17 ((τ.2 17).set (nl) (gd (τ.2 17) (k))))) fm707 => ?_)
            refine ev_al (k_m_forget_1 20 rfl) rfl ?_
            refine ev_get (v := vA (ma 18)) (k_m_forget_1 21 rfl) hm707.1 rfl ?_
            refine ev_il (k_m_forget_1 22 rfl) rfl ?_
            refine ev_al (k_m_forget_1 23 rfl) rfl ?_
            refine ev_get (v := vA (ma 18)) (k_m_forget_1 24 rfl) hm707.1 rfl ?_
            refine ev_il (k_m_forget_1 25 rfl) rfl ?_
            refine ev_lald (xs := τ.2 18) (k_m_forget_1 26 rfl) (mr_a hm707 18 rfl) (by omega) (by omega) (show ev _ _ _ _ _ _ _ _ (vL (gd (τ.2 18) (k)) :: _) _ _ _ from ?_)
            refine ev_mlas (iN := (nl)) (k_m_forget_1 27 rfl) 18 rfl hm707 fm707 (by omega) (by omega) (fun h708 (hm708 : MR h708 ma (sA (sA τ 17 ((τ.2 17).set (nl) (gd (τ.2 17) (k)))) 18 ((τ.2 18).set (nl) (gd (τ.2 18) (k))))) fm708 => ?_)
            refine ev_al (k_m_forget_1 28 rfl) rfl ?_
            refine ev_get (v := vA (ma 19)) (k_m_forget_1 29 rfl) hm708.1 rfl ?_
            refine ev_il (k_m_forget_1 30 rfl) rfl ?_
            refine ev_al (k_m_forget_1 31 rfl) rfl ?_
            refine ev_get (v := vA (ma 19)) (k_m_forget_1 32 rfl) hm708.1 rfl ?_
            refine ev_il (k_m_forget_1 33 rfl) rfl ?_
            refine ev_iald (xs := τ.2 19) (k_m_forget_1 34 rfl) (mr_a hm708 19 rfl) (by omega) (by omega) (show ev _ _ _ _ _ _ _ _ (vI (gd (τ.2 19) (k)) :: _) _ _ _ from ?_)
            refine ev_mias (iN := (nl)) (k_m_forget_1 35 rfl) 19 rfl hm708 fm708 (by omega) (by omega) (fun h709 (hm709 : MR h709 ma (sA (sA (sA τ 17 ((τ.2 17).set (nl) (gd (τ.2 17) (k)))) 18 ((τ.2 18).set (nl) (gd (τ.2 18) (k)))) 19 ((τ.2 19).set (nl) (gd (τ.2 19) (k))))) fm709 => ?_)
            refine ev_al (k_m_forget_1 36 rfl) rfl ?_
            refine ev_get (v := vA (ma 20)) (k_m_forget_1 37 rfl) hm709.1 rfl ?_
            refine ev_il (k_m_forget_1 38 rfl) rfl ?_
            refine ev_al (k_m_forget_1 39 rfl) rfl ?_
            refine ev_get (v := vA (ma 20)) (k_m_forget_1 40 rfl) hm709.1 rfl ?_
            refine ev_il (k_m_forget_1 41 rfl) rfl ?_
            refine ev_lald (xs := τ.2 20) (k_m_forget_1 42 rfl) (mr_a hm709 20 rfl) (by omega) (by omega) (show ev _ _ _ _ _ _ _ _ (vL (gd (τ.2 20) (k)) :: _) _ _ _ from ?_)
            refine ev_mlas (iN := (nl)) (k_m_forget_1 43 rfl) 20 rfl hm709 fm709 (by omega) (by omega) (fun h710 (hm710 : MR h710 ma (sA (sA (sA (sA τ 17 ((τ.2 17).set (nl) (gd (τ.2 17) (k)))) 18 ((τ.2 18).set (nl) (gd (τ.2 18) (k)))) 19 ((τ.2 19).set (nl) (gd (τ.2 19) (k)))) 20 ((τ.2 20).set (nl) (gd (τ.2 20) (k))))) fm710 => ?_)
            refine ev_iinc (k_m_forget_1 44 rfl) rfl (by omega) (show ev _ _ _ _ _ _ 167 [some (vA (ma 0)), some (vI e), some (vI ((nl : Int) + 1)), some (vI (k : Int))] _ _ _ _ from ?_)
            refine ev_iinc (k_m_forget_1 45 rfl) rfl (by omega) (show ev _ _ _ _ _ _ 170 [some (vA (ma 0)), some (vI e), some (vI ((nl : Int) + 1)), some (vI ((k : Int) + 1))] _ _ _ _ from ?_)
            refine ev_goto (k_m_forget_1 46 rfl) ?_
            have hq : kl σ e k = true := by simp [kl]; have h17 := hfg.2.2.1.2 k (Nat.le_refl _); have h19 := hfg.2.2.2.2.1.2 k (Nat.le_refl _); omega
            have hfr : fg2 σ (sA (sA (sA (sA τ 17 ((τ.2 17).set (nl) (gd (τ.2 17) (k)))) 18 ((τ.2 18).set (nl) (gd (τ.2 18) (k)))) 19 ((τ.2 19).set (nl) (gd (τ.2 19) (k)))) 20 ((τ.2 20).set (nl) (gd (τ.2 20) (k)))) e (k + 1) := ⟨hfg.1, fun j hj => ((sA_ne _ _ (by omega)).trans ((sA_ne _ _ (by omega)).trans ((sA_ne _ _ (by omega)).trans (sA_ne _ _ (by omega))))).trans (hfg.2.1 j hj), FR_t hfg.2.2.1 hq (by omega) hnl, FR_t hfg.2.2.2.1 hq (by omega) hnl, FR_t hfg.2.2.2.2.1 hq (by omega) hnl, FR_t hfg.2.2.2.2.2 hq (by omega) hnl⟩
            rw [show (nl : Int) + 1 = ((nl + 1 : Nat) : Int) by omega]
            rw [show (k : Int) + 1 = ((k + 1 : Nat) : Int) by omega]
            exact ih _ _ hm710 fm710 (k + 1) (nl + 1) (by omega) hfr (by rw [fi_t hq, hnl]; simp) (by omega)
def fgt (σ τ : sg_T) (e : Int) (n1 n2 : Nat) : Prop := (∀ j, j ≠ 11 → j ≠ 16 → τ.1 j = σ.1 j) ∧ (∀ j, j < 12 ∨ j = 16 ∨ 20 < j → τ.2 j = σ.2 j) ∧ τ.1 11 = ((fi (kn σ e) n1).length : Int) ∧ τ.1 16 = ((fi (kl σ e) n2).length : Int)
  ∧ (∀ j, j < (fi (kn σ e) n1).length → gd (τ.2 12) j = gd (σ.2 12) ((fi (kn σ e) n1).getD j 0) ∧ gd (τ.2 13) j = gd (σ.2 13) ((fi (kn σ e) n1).getD j 0) ∧ gd (τ.2 14) j = gd (σ.2 14) ((fi (kn σ e) n1).getD j 0) ∧ gd (τ.2 15) j = gd (σ.2 15) ((fi (kn σ e) n1).getD j 0))
  ∧ (∀ j, j < (fi (kl σ e) n2).length → gd (τ.2 17) j = gd (σ.2 17) ((fi (kl σ e) n2).getD j 0) ∧ gd (τ.2 18) j = gd (σ.2 18) ((fi (kl σ e) n2).getD j 0) ∧ gd (τ.2 19) j = gd (σ.2 19) ((fi (kl σ e) n2).getD j 0) ∧ gd (τ.2 20) j = gd (σ.2 20) ((fi (kl σ e) n2).getD j 0))
theorem fi_congr {p q : Nat → Bool} : ∀ {n : Nat}, (∀ k, k < n → p k = q k) → fi p n = fi q n
  | 0, _ => rfl
  | n + 1, h => by
    have ih : fi p n = fi q n := fi_congr (fun k hk => h k (by omega))
    cases e : q n with
    | true => rw [fi_t e, fi_t ((h n (by omega)).trans e), ih]
    | false => rw [fi_f e, fi_f ((h n (by omega)).trans e), ih]
theorem fgt_of {σ τ1 τ2 : sg_T} {e : Int} {n1 n2 : Nat} (a : fg1 σ τ1 e n1) (b : fg2 (sS τ1 11 ((fi (kn σ e) n1).length : Int)) τ2 e n2) : fgt σ (sS τ2 16 ((fi (kl σ e) n2).length : Int)) e n1 n2 := by
  obtain ⟨a1, a2, a3, a4, a5, a6⟩ := a
  obtain ⟨b1, b2, b3, b4, b5, b6⟩ := b
  have ek : kl (sS τ1 11 ((fi (kn σ e) n1).length : Int)) e = kl σ e := by
    funext k
    show (!(gd (τ1.2 17) k == e) && !(gd (τ1.2 19) k == e)) = _
    rw [a2 17 (by omega), a2 19 (by omega)]; rfl
  rw [ek] at b3 b4 b5 b6
  refine ⟨fun j h1 h2 => ?_, fun j hj => ?_, ?_, by simp [sS], fun j hj => ?_, fun j hj => ?_⟩
  · show (if j = 16 then _ else τ2.1 j) = _
    rw [if_neg h2, b1]
    show (if j = 11 then _ else τ1.1 j) = _
    rw [if_neg h1, a1]
  · show τ2.2 j = _
    rw [b2 j (by omega)]
    exact a2 j (by omega)
  · show τ2.1 11 = _
    rw [b1]; rfl
  · show gd (τ2.2 12) j = _ ∧ gd (τ2.2 13) j = _ ∧ gd (τ2.2 14) j = _ ∧ gd (τ2.2 15) j = _
    rw [b2 12 (by omega), b2 13 (by omega), b2 14 (by omega), b2 15 (by omega)]
    exact ⟨a3.1 j hj, a4.1 j hj, a5.1 j hj, a6.1 j hj⟩
  · have c17 := b3.1 j hj
    have c18 := b4.1 j hj
    have c19 := b5.1 j hj
    have c20 := b6.1 j hj
    simp only [sS] at c17 c18 c19 c20 ⊢
    rw [a2 17 (by omega)] at c17
    rw [a2 18 (by omega)] at c18
    rw [a2 19 (by omega)] at c19
    rw [a2 20 (by omega)] at c20
    exact ⟨c17, c18, c19, c20⟩
set_option maxHeartbeats 2000000 in
theorem c_m_forget (G : gt_T) (ma : Nat → Nat) (σ : sg_T) (h : ab_H) (hm : MR h ma σ) (e : Int) (n1 n2 : Nat) (hnn : σ.1 11 = (n1 : Int)) (hn20 : n1 ≤ 20) (hn2 : σ.1 16 = (n2 : Int)) (hn60 : n2 ≤ 60) : ct G M_m_forget 0 0 0 0 [vA (ma 0), vI e] h (rV fun h' => ∃ τ, MR h' ma τ ∧ fM h h' ∧ fgt σ τ e n1 n2) nT := by
  show ev _ _ _ _ _ _ 0 [some (vA (ma 0)), some (vI e), none, none] [] _ _ _
  refine ev_ic (k_m_forget_0 0 rfl) ?_
  refine ev_is (k_m_forget_0 1 rfl) (le_b rfl) (show ev _ _ _ _ _ _ 2 [some (vA (ma 0)), some (vI e), some (vI 0), none] _ _ _ _ from ?_)
  refine ev_ic (k_m_forget_0 2 rfl) ?_
  refine ev_is (k_m_forget_0 3 rfl) (le_b rfl) (show ev _ _ _ _ _ _ 4 [some (vA (ma 0)), some (vI e), some (vI 0), some (vI 0)] _ _ _ _ from ?_)
  rw [show (0 : Int) = ((0 : Nat) : Int) from rfl]
  refine lp_fg1 hnn hn20 (fun hx τ hmx fmx hfx => ?_) (n1 + 1) _ _ hm (fM_rf _) 0 0 (by omega) ⟨rfl, fun _ _ => rfl, FR_0 _ _, FR_0 _ _, FR_0 _ _, FR_0 _ _⟩ rfl (by omega)
  refine ev_al (k_m_forget_0 49 rfl) rfl ?_
  refine ev_il (k_m_forget_0 50 rfl) rfl ?_
  refine ev_mput (z := ((fi (kn σ e) n1).length : Int)) (k_m_forget_0 51 rfl) hmx fmx (le_b rfl) rfl rfl (fun h711 (hm711 : MR h711 ma (sS τ 11 ((fi (kn σ e) n1).length : Int))) fm711 => ?_)
  refine ev_ic (k_m_forget_0 52 rfl) ?_
  refine ev_is (k_m_forget_0 53 rfl) (le_b rfl) (show ev _ _ _ _ _ _ 86 [some (vA (ma 0)), some (vI e), some (vI 0), none] _ _ _ _ from ?_)
  refine ev_ic (k_m_forget_0 54 rfl) ?_
  refine ev_is (k_m_forget_0 55 rfl) (le_b rfl) (show ev _ _ _ _ _ _ 88 [some (vA (ma 0)), some (vI e), some (vI 0), some (vI 0)] _ _ _ _ from ?_)
  rw [show (0 : Int) = ((0 : Nat) : Int) from rfl]
  refine lp_fg2 (σ := sS τ 11 ((fi (kn σ e) n1).length : Int)) (nn := n2) (by rw [← hn2]; show τ.1 16 = σ.1 16; rw [hfx.1]) hn60 (fun hy τ2 hmy fmy hfy => ?_) (n2 + 1) _ _ hm711 fm711 0 0 (by omega) ⟨rfl, fun _ _ => rfl, FR_0 _ _, FR_0 _ _, FR_0 _ _, FR_0 _ _⟩ rfl (by omega)
  have ek : kl (sS τ 11 ((fi (kn σ e) n1).length : Int)) e = kl σ e := by
    funext k
    show (!(gd (τ.2 17) k == e) && !(gd (τ.2 19) k == e)) = _
    rw [hfx.2.1 17 (by omega), hfx.2.1 19 (by omega)]; rfl
  rw [ek]
  refine ev_al (k_m_forget_1 47 rfl) rfl ?_
  refine ev_il (k_m_forget_1 48 rfl) rfl ?_
  refine ev_mput (z := ((fi (kl σ e) n2).length : Int)) (k_m_forget_1 49 rfl) hmy fmy (le_b rfl) rfl rfl (fun h712 (hm712 : MR h712 ma (sS τ2 16 ((fi (kl σ e) n2).length : Int))) fm712 => ?_)
  exact ev_vret (k_m_forget_1 50 rfl) rfl (⟨rfl, _, hm712, fm712, fgt_of hfx hfy⟩)
