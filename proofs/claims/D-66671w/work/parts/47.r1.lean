/-- the reader at place p of the text T of n signs -/
def RDR (h : ab_H) (xa : Nat → Nat) (T : Nat → Int) (n p : Nat) : Prop := n ≤ 400 ∧ p ≤ n ∧ h (xa 2) = some (oJ 2 1 [vA (xa 3), vI (n : Int), vI (p : Int)]) ∧ ∃ cs, h (xa 3) = some (oN 3 2 cs) ∧ cs.length = 400 ∧ ∀ i, i < n → gd cs i = T i
def gT (T : Nat → Int) (n : Nat) : Prop := ∀ i, i < n → 45 ≤ T i ∧ T i ≤ 122
def lk (T : Nat → Int) (n p : Nat) : Int := if p < n then T p else -1
theorem lk_lt {T : Nat → Int} {n p : Nat} (h : p < n) : lk T n p = T p := if_pos h
theorem lk_ge {T : Nat → Int} {n p : Nat} (h : n ≤ p) : lk T n p = -1 := if_neg (by omega)
def tS : Nat → Prop := fun t => t = 2 ∨ t = 16 ∨ t = 17 ∨ (700 ≤ t ∧ t < 900)
/-- a Failure is thrown: why and where -/
def xF (P : Nat → Prop) (h : ab_H) (Q : Int → Nat → Prop) : Nat → ab_H → Prop := fun a h' => ∃ (y : Int) (pl : Nat), Q y pl ∧ h' a = some (oJ 40 8 [vI y, vI (pl : Int)]) ∧ FRp P h h'
theorem RDR_mv {h h' : ab_H} {xa : Nat → Nat} {T : Nat → Int} {n p q : Nat} (r : RDR h xa T n p) (e : h' (xa 2) = some (oJ 2 1 [vA (xa 3), vI (n : Int), vI (q : Int)])) (f : FRp (t1 2) h h') (hq : q ≤ n) : RDR h' xa T n q := by
  obtain ⟨a1, a2, a3, cs, b1, b2⟩ := r
  exact ⟨a1, hq, e, cs, kp f b1 (by unfold t1; omega), b2⟩
theorem RDR_kp {P : Nat → Prop} {h h' : ab_H} {xa : Nat → Nat} {T : Nat → Int} {n p : Nat} (f : FRp P h h') (h2 : ¬ P 2) (h3 : ¬ P 3) (r : RDR h xa T n p) : RDR h' xa T n p := by
  obtain ⟨a1, a2, a3, cs, b1, b2⟩ := r
  exact ⟨a1, a2, kp f a3 h2, cs, kp f b1 h3, b2⟩
theorem rn_0 {T : Nat → Int} {kd : Int} {n p : Nat} (h : n ≤ p) : rn T kd p (n - p) = 0 := by rw [show n - p = 0 by omega]; rfl
theorem rn_u {T : Nat → Int} {kd : Int} {n p : Nat} (h : p < n) (hr : rkd kd (T p) = true) : rn T kd p (n - p) = rn T kd (p + 1) (n - (p + 1)) + 1 := by
  rw [show n - p = (n - (p + 1)) + 1 by omega, rn_t hr]
theorem rkd_1 (c : Int) : rkd 1 c = inb c 48 57 := rfl
theorem rkd_2 (c : Int) : rkd 2 c = inb c 97 122 := rfl
theorem rkd_0 (c : Int) : rkd 0 c = (c == 45) := rfl
theorem lk1_f {T : Nat → Int} {n p : Nat} (h : inb (lk T n p) 48 57 = false) : rn T 1 p (n - p) = 0 := by
  by_cases c : p < n
  · rw [lk_lt c] at h; exact rn_f h
  · exact rn_0 (by omega)
theorem lk1_t {T : Nat → Int} {n p : Nat} (h : inb (lk T n p) 48 57 = true) : p < n ∧ rn T 1 p (n - p) = rn T 1 (p + 1) (n - (p + 1)) + 1 := by
  have c : p < n := by
    by_cases c : p < n
    · exact c
    · rw [lk_ge (by omega)] at h; exact absurd h (by decide)
  rw [lk_lt c] at h
  exact ⟨c, rn_u c h⟩
theorem lk2_f {T : Nat → Int} {n p : Nat} (h : inb (lk T n p) 97 122 = false) : rn T 2 p (n - p) = 0 := by
  by_cases c : p < n
  · rw [lk_lt c] at h; exact rn_f h
  · exact rn_0 (by omega)
theorem lk2_t {T : Nat → Int} {n p : Nat} (h : inb (lk T n p) 97 122 = true) : p < n ∧ rn T 2 p (n - p) = rn T 2 (p + 1) (n - (p + 1)) + 1 := by
  have c : p < n := by
    by_cases c : p < n
    · exact c
    · rw [lk_ge (by omega)] at h; exact absurd h (by decide)
  rw [lk_lt c] at h
  exact ⟨c, rn_u c h⟩
theorem lk0_f {T : Nat → Int} {n p : Nat} (h : lk T n p ≠ 45) : rn T 0 p (n - p) = 0 := by
  by_cases c : p < n
  · rw [lk_lt c] at h; exact rn_f (bq_f h)
  · exact rn_0 (by omega)
theorem lk0_t {T : Nat → Int} {n p : Nat} (h : lk T n p = 45) : p < n ∧ rn T 0 p (n - p) = rn T 0 (p + 1) (n - (p + 1)) + 1 := by
  have c : p < n := by
    by_cases c : p < n
    · exact c
    · rw [lk_ge (by omega)] at h; exact absurd h (by decide)
  rw [lk_lt c] at h
  exact ⟨c, rn_u c (bq_t h)⟩
set_option maxHeartbeats 2000000 in
theorem c_r_look (G : gt_T) (h : ab_H) (xa : Nat → Nat) (T : Nat → Int) (n p : Nat) (hR : RDR h xa T n p) (hT : gT T n)  : ct G M_r_look 0 0 0 0 [vA (xa 2)] h (rI fun z h' => h = h' ∧ z = lk T n p) nT := by
  show ev _ _ _ _ _ _ 0 [some (vA (xa 2))] [] _ _ _
  refine ev_al (k_r_look 0 rfl) rfl ?_
  refine ev_get (v := vI ((p : Nat) : Int)) (k_r_look 1 rfl) hR.2.2.1 rfl ?_
  refine ev_al (k_r_look 2 rfl) rfl ?_
  refine ev_get (v := vI (n : Int)) (k_r_look 3 rfl) hR.2.2.1 rfl ?_
  refine ev_ic_ge (k_r_look 4 rfl) (fun c488 => ?_) (fun c488 => ?_)
  · refine ev_ic (k_r_look 11 rfl) ?_
    exact ev_iret (k_r_look 12 rfl) rfl (⟨_, rfl, rfl, by first | rw [lk_ge (by omega)] | rw [lk_lt (by omega)]⟩)
  · refine ev_al (k_r_look 5 rfl) rfl ?_
    refine ev_get (v := vA (xa 3)) (k_r_look 6 rfl) hR.2.2.1 rfl ?_
    refine ev_al (k_r_look 7 rfl) rfl ?_
    refine ev_get (v := vI ((p : Nat) : Int)) (k_r_look 8 rfl) hR.2.2.1 rfl ?_
    obtain ⟨cs489, htx489, lcs489, hcs489⟩ := hR.2.2.2
    have hRa := hR.1
    have hRb := hR.2.1
    refine ev_cald (xs := cs489) (k_r_look 9 rfl) htx489 (by omega) (by omega) (show ev _ _ _ _ _ _ _ _ (vI (gd cs489 (p)) :: _) _ _ _ from ?_)
    rw [hcs489 p (by omega)]
    refine ev_goto (k_r_look 10 rfl) ?_
    exact ev_iret (k_r_look 12 rfl) rfl (⟨_, rfl, rfl, by first | rw [lk_ge (by omega)] | rw [lk_lt (by omega)]⟩)
set_option maxHeartbeats 2000000 in
theorem c_r_isDigit (G : gt_T) (h : ab_H) (xa : Nat → Nat) (T : Nat → Int) (n p : Nat) (hR : RDR h xa T n p) (hT : gT T n)  : ct G M_r_isDigit 1 22 0 0 [vA (xa 2)] h (rB fun z h' => h = h' ∧ z = inb (lk T n p) 48 57) nT := by
  show ev _ _ _ _ _ _ 0 [some (vA (xa 2))] [] _ _ _
  refine ev_al (k_r_isDigit 0 rfl) rfl ?_
  refine ev_cV (k_r_isDigit 1 rfl) rfl v_r_look hR.2.2.1 rfl (c_r_look G _ xa T n p hR hT) rfl (le_b rfl) (le_b rfl) (le_b rfl) k_n (k_I fun z490 h490 q490 => ?_)
  obtain ⟨rfl, rfl⟩ := q490
  refine ev_bp (k_r_isDigit 2 rfl) ?_
  refine ev_bp (k_r_isDigit 3 rfl) ?_
  refine ev_cS (k_r_isDigit 4 rfl) rfl v_g_in (c_g_in G _ (lk T n p) 48 57) rfl (le_b rfl) (le_b rfl) (le_b rfl) k_n (k_B fun z491 h491 q491 => ?_)
  obtain ⟨rfl, rfl⟩ := q491
  exact ev_zret (k_r_isDigit 5 rfl) rfl (⟨_, rfl, rfl, rfl⟩)
set_option maxHeartbeats 2000000 in
theorem c_r_isLetter (G : gt_T) (h : ab_H) (xa : Nat → Nat) (T : Nat → Int) (n p : Nat) (hR : RDR h xa T n p) (hT : gT T n)  : ct G M_r_isLetter 1 22 0 0 [vA (xa 2)] h (rB fun z h' => h = h' ∧ z = inb (lk T n p) 97 122) nT := by
  show ev _ _ _ _ _ _ 0 [some (vA (xa 2))] [] _ _ _
  refine ev_al (k_r_isLetter 0 rfl) rfl ?_
  refine ev_cV (k_r_isLetter 1 rfl) rfl v_r_look hR.2.2.1 rfl (c_r_look G _ xa T n p hR hT) rfl (le_b rfl) (le_b rfl) (le_b rfl) k_n (k_I fun z492 h492 q492 => ?_)
  obtain ⟨rfl, rfl⟩ := q492
  refine ev_bp (k_r_isLetter 2 rfl) ?_
  refine ev_bp (k_r_isLetter 3 rfl) ?_
  refine ev_cS (k_r_isLetter 4 rfl) rfl v_g_in (c_g_in G _ (lk T n p) 97 122) rfl (le_b rfl) (le_b rfl) (le_b rfl) k_n (k_B fun z493 h493 q493 => ?_)
  obtain ⟨rfl, rfl⟩ := q493
  exact ev_zret (k_r_isLetter 5 rfl) rfl (⟨_, rfl, rfl, rfl⟩)
set_option maxHeartbeats 2000000 in
theorem c_r_dashes (G : gt_T) (h : ab_H) (xa : Nat → Nat) (T : Nat → Int) (n p : Nat) (hR : RDR h xa T n p) (hT : gT T n)  : ct G M_r_dashes 1 20 0 0 [vA (xa 2)] h (rI fun z h' => z = (rn T 0 p (n - p) : Int) ∧ RDR h' xa T n (p + rn T 0 p (n - p)) ∧ FRp (t1 2) h h') nT := by
  show ev _ _ _ _ _ _ 0 [some (vA (xa 2)), none] [] _ _ _
  have loop : ∀ (fu : Nat) (h1 : ab_H) (k : Nat) (hR1 : RDR h1 xa T n (p + k)) (fm1 : FRp (t1 2) h h1), (rn T 0 p (n - p) = k + rn T 0 (p + k) (n - (p + k))) → n - (p + k) < fu → ev G M_r_dashes 1 20 0 0 2 [some (vA (xa 2)), some (vI (k : Int))] [] h1 (rI fun z h' => z = (rn T 0 p (n - p) : Int) ∧ RDR h' xa T n (p + rn T 0 p (n - p)) ∧ FRp (t1 2) h h') nT := by
    intro fu
    induction fu with
    | zero => intros; omega
    | succ fu ih =>
      intro h1 k hR1 fm1 h2 hn
      have hRa := hR1.1
      have hRb := hR1.2.1
      refine ev_al (k_r_dashes 2 rfl) rfl ?_
      refine ev_cV (k_r_dashes 3 rfl) rfl v_r_look hR1.2.2.1 rfl (c_r_look G _ xa T n (p + k) hR1 hT) rfl (le_b rfl) (le_b rfl) (le_b rfl) k_n (k_I fun z494 h494 q494 => ?_)
      obtain ⟨rfl, rfl⟩ := q494
      refine ev_bp (k_r_dashes 4 rfl) ?_
      refine ev_ic_ne (k_r_dashes 5 rfl) (fun c495 => ?_) (fun c495 => ?_)
      · refine ev_il (k_r_dashes 14 rfl) rfl ?_
        exact ev_iret (k_r_dashes 15 rfl) rfl (⟨_, rfl, by have hz := lk0_f c495; rw [h2, hz]; omega, by have hz := lk0_f c495; rw [show rn T 0 p (n - p) = k by omega]; exact hR1, fm1⟩)
      · have hz := lk0_t c495
        refine ev_al (k_r_dashes 6 rfl) rfl ?_
        refine ev_dup (k_r_dashes 7 rfl) rfl ?_
        refine ev_get (v := vI ((p + k : Nat) : Int)) (k_r_dashes 8 rfl) hR1.2.2.1 rfl ?_
        refine ev_ic (k_r_dashes 9 rfl) ?_
        refine ev_iadd (k_r_dashes 10 rfl) (by omega) ?_
        refine ev_putT (k_r_dashes 11 rfl) hR1.2.2.1 (le_b rfl) rfl rfl (fun h496 e496 f496 => ?_)
        have hR496 : RDR h496 xa T n ((p + k) + 1) := RDR_mv hR1 (e496.trans (by rw [show (((p + k) + 1 : Nat) : Int) = ((p + k : Nat) : Int) + 1 by omega]; rfl)) f496 (by omega)
        have fr496 := fr_tr fm1 f496 (fun t z => z)
        refine ev_iinc (k_r_dashes 12 rfl) rfl (by omega) (show ev _ _ _ _ _ _ 24 [some (vA (xa 2)), some (vI ((k : Int) + 1))] _ _ _ _ from ?_)
        refine ev_goto (k_r_dashes 13 rfl) ?_
        rw [show (k : Int) + 1 = ((k + 1 : Nat) : Int) by omega]
        exact ih _ (k + 1) hR496 fr496 (by rw [h2, Nat.add_assoc p k 1] at *; omega) (by have := hR496.2.1; omega)
  refine ev_ic (k_r_dashes 0 rfl) ?_
  refine ev_is (k_r_dashes 1 rfl) (le_b rfl) (show ev _ _ _ _ _ _ 2 [some (vA (xa 2)), some (vI 0)] _ _ _ _ from ?_)
  exact loop (n + 1) _ 0 hR (fr_rf _ _) (by simp) (by omega)
theorem pw_ub {b o : Int} {T : Nat → Int} {p : Nat} (hb : 10 ≤ b) (hb2 : b ≤ 32) : ∀ (k : Nat) (v : Int), 0 ≤ v → v ≤ 1 → (∀ j, j < k → 0 ≤ T (p + j) - o ∧ T (p + j) - o ≤ 26) → 0 ≤ pw b o v T p k := by
  intro k
  induction k with
  | zero => intro v h0 _ _; exact h0
  | succ k ih =>
    intro v h0 h1 hT
    have h2 := ih v h0 h1 (fun j hj => hT j (by omega))
    have h3 := hT k (by omega)
    have h4 : 0 ≤ b * pw b o v T p k := Int.mul_nonneg (by omega) h2
    unfold pw
    omega
theorem pw27 {T : Nat → Int} {p : Nat} {n : Nat} (hT : ∀ j, j < n → 97 ≤ T (p + j) ∧ T (p + j) ≤ 122) : 0 ≤ pw 27 96 0 T p n ∧ pw 27 96 0 T p n < 2 * 27 ^ n := by
  induction n with
  | zero => simp [pw]
  | succ n ih =>
    have h1 := ih (fun j hj => hT j (by omega))
    have h2 := hT n (by omega)
    simp only [pw, Int.pow_succ]
    omega
set_option maxHeartbeats 2000000 in
theorem c_r_code (G : gt_T) (h : ab_H) (xa : Nat → Nat) (T : Nat → Int) (n p : Nat) (hR : RDR h xa T n p) (hT : gT T n)  : ct G M_r_code 7 119 2 16 [vA (xa 2)] h (rL fun z h' => ∃ k, rn T 1 p (n - p) = k ∧ 0 < k ∧ k ≤ 10 ∧ k % 2 = 0 ∧ z = pw 10 48 1 T p k ∧ RDR h' xa T n (p + k) ∧ FRp (t1 2) h h') (xF (t1 2) h (fun y pl => y = 1 ∧ ((rn T 1 p (n - p) = 0 ∧ pl = p) ∨ (10 < rn T 1 p (n - p) ∧ pl = p + 10) ∨ (rn T 1 p (n - p) ≤ 10 ∧ rn T 1 p (n - p) % 2 = 1 ∧ pl = p + rn T 1 p (n - p))))) := by
  show ev _ _ _ _ _ _ 0 [some (vA (xa 2)), none, none, none] [] _ _ _
  have loop : ∀ (fu : Nat) (h1 : ab_H) (k : Nat) (v : Int) (hR1 : RDR h1 xa T n (p + k)) (fm1 : FRp (t1 2) h h1), (k ≤ 10 ∧ 0 < rn T 1 p (n - p)) → (v = pw 10 48 1 T p k) → (rn T 1 p (n - p) = k + rn T 1 (p + k) (n - (p + k))) → n - (p + k) < fu → ev G M_r_code 7 119 1 8 16 [some (vA (xa 2)), some (vL v), none, some (vI (k : Int))] [] h1 (rL fun z h' => ∃ k, rn T 1 p (n - p) = k ∧ 0 < k ∧ k ≤ 10 ∧ k % 2 = 0 ∧ z = pw 10 48 1 T p k ∧ RDR h' xa T n (p + k) ∧ FRp (t1 2) h h') (xF (t1 2) h (fun y pl => y = 1 ∧ ((rn T 1 p (n - p) = 0 ∧ pl = p) ∨ (10 < rn T 1 p (n - p) ∧ pl = p + 10) ∨ (rn T 1 p (n - p) ≤ 10 ∧ rn T 1 p (n - p) % 2 = 1 ∧ pl = p + rn T 1 p (n - p))))) := by
    intro fu
    induction fu with
    | zero => intros; omega
    | succ fu ih =>
      intro h1 k v hR1 fm1 hk h3 h2 hn
      have hRa := hR1.1
      have hRb := hR1.2.1
      have hdg : ∀ j, j < k → 48 ≤ T (p + j) ∧ T (p + j) ≤ 57 := fun j hj => rn_digs (n := n - p) (by omega)
      have hb := pw_m_codeAt hdg
      rw [← h3] at hb
      have hpw : (2 * 10 ^ k : Int) ≤ 2 * 10 ^ 10 := by have := ipow_mono (show (1 : Int) ≤ 10 by decide) (show k ≤ 10 by omega); omega
      refine ev_il (k_r_code 10 rfl) rfl ?_
      refine ev_bp (k_r_code 11 rfl) ?_
      refine ev_ic_ge (k_r_code 12 rfl) (fun c497 => ?_) (fun c497 => ?_)
      · refine ev_al (k_r_code 37 rfl) rfl ?_
        refine ev_cV (k_r_code 38 rfl) rfl v_r_isDigit hR1.2.2.1 rfl (c_r_isDigit G _ xa T n (p + k) hR1 hT) rfl (le_b rfl) (le_b rfl) (le_b rfl) k_n (k_B fun z498 h498 q498 => ?_)
        obtain ⟨rfl, rfl⟩ := q498
        refine ev_b_ne (k_r_code 39 rfl) (fun c499 => ?_) (fun c499 => ?_)
        · have j499 := inb_t c499
          refine ev_ic (k_r_code 46 rfl) ?_
          refine ev_ic (k_r_code 47 rfl) ?_
          refine ev_al (k_r_code 48 rfl) rfl ?_
          refine ev_get (v := vI ((p + k : Nat) : Int)) (k_r_code 49 rfl) hR1.2.2.1 rfl ?_
          refine ev_cSA (C2 := 0) (S2 := 0) (k_r_code 50 rfl) rfl v_g_need (c_g_need G _ false 1 ((p + k : Nat) : Int)) rfl (le_b rfl) (le_b rfl) (le_b rfl) (le_b rfl) (le_b rfl) (k_t rfl (fun a h' q => ⟨1, p + k, ⟨rfl, by first | (right; left; refine ⟨?_, ?_⟩ <;> (have hz := lk1_t (by assumption); omega)) | (right; right; have hz := lk1_f (by assumption); refine ⟨?_, ?_, ?_⟩ <;> omega)⟩, by rw [q.2.2, show ((p + k : Nat) : Int) = ((p + k : Nat) : Int) by omega]; exact hu_self _ _ _, by rw [q.2.2]; exact fr_tr fm1 (fr_new q.2.1) (fun t z => z.elim)⟩)) (k_V fun h501 q501 => ?_)
          exact absurd q501.2 (by decide)
        · have j499 := inb_f c499
          refine ev_il (k_r_code 40 rfl) rfl ?_
          refine ev_ic (k_r_code 41 rfl) ?_
          refine ev_irem (k_r_code 42 rfl) (by omega) (by omega) ?_
          refine ev_if_ne (k_r_code 43 rfl) (fun c502 => ?_) (fun c502 => ?_)
          · refine ev_ic (k_r_code 46 rfl) ?_
            refine ev_ic (k_r_code 47 rfl) ?_
            refine ev_al (k_r_code 48 rfl) rfl ?_
            refine ev_get (v := vI ((p + k : Nat) : Int)) (k_r_code 49 rfl) hR1.2.2.1 rfl ?_
            refine ev_cSA (C2 := 0) (S2 := 0) (k_r_code 50 rfl) rfl v_g_need (c_g_need G _ false 1 ((p + k : Nat) : Int)) rfl (le_b rfl) (le_b rfl) (le_b rfl) (le_b rfl) (le_b rfl) (k_t rfl (fun a h' q => ⟨1, p + k, ⟨rfl, by first | (right; left; refine ⟨?_, ?_⟩ <;> (have hz := lk1_t (by assumption); omega)) | (right; right; have hz := lk1_f (by assumption); refine ⟨?_, ?_, ?_⟩ <;> omega)⟩, by rw [q.2.2, show ((p + k : Nat) : Int) = ((p + k : Nat) : Int) by omega]; exact hu_self _ _ _, by rw [q.2.2]; exact fr_tr fm1 (fr_new q.2.1) (fun t z => z.elim)⟩)) (k_V fun h504 q504 => ?_)
            exact absurd q504.2 (by decide)
          · refine ev_ic (k_r_code 44 rfl) ?_
            refine ev_goto (k_r_code 45 rfl) ?_
            refine ev_ic (k_r_code 47 rfl) ?_
            refine ev_al (k_r_code 48 rfl) rfl ?_
            refine ev_get (v := vI ((p + k : Nat) : Int)) (k_r_code 49 rfl) hR1.2.2.1 rfl ?_
            refine ev_cSA (C2 := 0) (S2 := 0) (k_r_code 50 rfl) rfl v_g_need (c_g_need G _ true 1 ((p + k : Nat) : Int)) rfl (le_b rfl) (le_b rfl) (le_b rfl) (le_b rfl) (le_b rfl) (k_t rfl (fun a h' q => absurd q.1 (by decide))) (k_V fun h506 q506 => ?_)
            obtain ⟨rfl, g506⟩ := q506
            refine ev_ll (k_r_code 51 rfl) rfl ?_
            exact ev_lret (k_r_code 52 rfl) rfl (⟨_, rfl, k, by have hz := lk1_f (by assumption); omega, by have hz := lk1_f (by assumption); omega, by omega, by omega, h3, hR1, fm1⟩)
      · refine ev_al (k_r_code 13 rfl) rfl ?_
        refine ev_cV (k_r_code 14 rfl) rfl v_r_isDigit hR1.2.2.1 rfl (c_r_isDigit G _ xa T n (p + k) hR1 hT) rfl (le_b rfl) (le_b rfl) (le_b rfl) k_n (k_B fun z507 h507 q507 => ?_)
        obtain ⟨rfl, rfl⟩ := q507
        refine ev_b_eq (k_r_code 15 rfl) (fun c508 => ?_) (fun c508 => ?_)
        · have j508 := inb_f c508
          refine ev_al (k_r_code 37 rfl) rfl ?_
          refine ev_cV (k_r_code 38 rfl) rfl v_r_isDigit hR1.2.2.1 rfl (c_r_isDigit G _ xa T n (p + k) hR1 hT) rfl (le_b rfl) (le_b rfl) (le_b rfl) k_n (k_B fun z509 h509 q509 => ?_)
          obtain ⟨rfl, rfl⟩ := q509
          refine ev_b_ne (k_r_code 39 rfl) (fun c => absurd (c508.symm.trans c) (by decide)) (fun _ => ?_)
          refine ev_il (k_r_code 40 rfl) rfl ?_
          refine ev_ic (k_r_code 41 rfl) ?_
          refine ev_irem (k_r_code 42 rfl) (by omega) (by omega) ?_
          refine ev_if_ne (k_r_code 43 rfl) (fun c511 => ?_) (fun c511 => ?_)
          · refine ev_ic (k_r_code 46 rfl) ?_
            refine ev_ic (k_r_code 47 rfl) ?_
            refine ev_al (k_r_code 48 rfl) rfl ?_
            refine ev_get (v := vI ((p + k : Nat) : Int)) (k_r_code 49 rfl) hR1.2.2.1 rfl ?_
            refine ev_cSA (C2 := 0) (S2 := 0) (k_r_code 50 rfl) rfl v_g_need (c_g_need G _ false 1 ((p + k : Nat) : Int)) rfl (le_b rfl) (le_b rfl) (le_b rfl) (le_b rfl) (le_b rfl) (k_t rfl (fun a h' q => ⟨1, p + k, ⟨rfl, by first | (right; left; refine ⟨?_, ?_⟩ <;> (have hz := lk1_t (by assumption); omega)) | (right; right; have hz := lk1_f (by assumption); refine ⟨?_, ?_, ?_⟩ <;> omega)⟩, by rw [q.2.2, show ((p + k : Nat) : Int) = ((p + k : Nat) : Int) by omega]; exact hu_self _ _ _, by rw [q.2.2]; exact fr_tr fm1 (fr_new q.2.1) (fun t z => z.elim)⟩)) (k_V fun h513 q513 => ?_)
            exact absurd q513.2 (by decide)
          · refine ev_ic (k_r_code 44 rfl) ?_
            refine ev_goto (k_r_code 45 rfl) ?_
            refine ev_ic (k_r_code 47 rfl) ?_
            refine ev_al (k_r_code 48 rfl) rfl ?_
            refine ev_get (v := vI ((p + k : Nat) : Int)) (k_r_code 49 rfl) hR1.2.2.1 rfl ?_
            refine ev_cSA (C2 := 0) (S2 := 0) (k_r_code 50 rfl) rfl v_g_need (c_g_need G _ true 1 ((p + k : Nat) : Int)) rfl (le_b rfl) (le_b rfl) (le_b rfl) (le_b rfl) (le_b rfl) (k_t rfl (fun a h' q => absurd q.1 (by decide))) (k_V fun h515 q515 => ?_)
            obtain ⟨rfl, g515⟩ := q515
            refine ev_ll (k_r_code 51 rfl) rfl ?_
            exact ev_lret (k_r_code 52 rfl) rfl (⟨_, rfl, k, by have hz := lk1_f (by assumption); omega, by have hz := lk1_f (by assumption); omega, by omega, by omega, h3, hR1, fm1⟩)
        · have j508 := inb_t c508
          have hz := lk1_t c508
          have hTk := inb_t (by have := c508; rw [lk_lt hz.1] at this; exact this)
          refine ev_ldc2 (k_r_code 16 rfl) ?_
          refine ev_ll (k_r_code 17 rfl) rfl ?_
          refine ev_lmul (k_r_code 18 rfl) (by omega) ?_
          refine ev_al (k_r_code 19 rfl) rfl ?_
          refine ev_get (v := vA (xa 3)) (k_r_code 20 rfl) hR1.2.2.1 rfl ?_
          refine ev_al (k_r_code 21 rfl) rfl ?_
          refine ev_get (v := vI ((p + k : Nat) : Int)) (k_r_code 22 rfl) hR1.2.2.1 rfl ?_
          obtain ⟨cs516, htx516, lcs516, hcs516⟩ := hR1.2.2.2
          have hRa := hR1.1
          have hRb := hR1.2.1
          refine ev_cald (xs := cs516) (k_r_code 23 rfl) htx516 (by omega) (by omega) (show ev _ _ _ _ _ _ _ _ (vI (gd cs516 (p + k)) :: _) _ _ _ from ?_)
          rw [hcs516 (p + k) (by omega)]
          refine ev_i2l (k_r_code 24 rfl) ?_
          refine ev_ladd (k_r_code 25 rfl) (by omega) ?_
          refine ev_ldc2 (k_r_code 26 rfl) ?_
          refine ev_lsub (k_r_code 27 rfl) (by omega) ?_
          refine ev_ls (k_r_code 28 rfl) (le_b rfl) (show ev _ _ _ _ _ _ 50 [some (vA (xa 2)), some (vL (((10 * v) + (T (p + k))) - 48)), none, some (vI (k : Int))] _ _ _ _ from ?_)
          refine ev_al (k_r_code 29 rfl) rfl ?_
          refine ev_dup (k_r_code 30 rfl) rfl ?_
          refine ev_get (v := vI ((p + k : Nat) : Int)) (k_r_code 31 rfl) hR1.2.2.1 rfl ?_
          refine ev_ic (k_r_code 32 rfl) ?_
          refine ev_iadd (k_r_code 33 rfl) (by omega) ?_
          refine ev_putT (k_r_code 34 rfl) hR1.2.2.1 (le_b rfl) rfl rfl (fun h517 e517 f517 => ?_)
          have hR517 : RDR h517 xa T n ((p + k) + 1) := RDR_mv hR1 (e517.trans (by rw [show (((p + k) + 1 : Nat) : Int) = ((p + k : Nat) : Int) + 1 by omega]; rfl)) f517 (by omega)
          have fr517 := fr_tr fm1 f517 (fun t z => z)
          refine ev_iinc (k_r_code 35 rfl) rfl (by omega) (show ev _ _ _ _ _ _ 63 [some (vA (xa 2)), some (vL (((10 * v) + (T (p + k))) - 48)), none, some (vI ((k : Int) + 1))] _ _ _ _ from ?_)
          refine ev_goto (k_r_code 36 rfl) ?_
          rw [show (k : Int) + 1 = ((k + 1 : Nat) : Int) by omega]
          exact ih _ (k + 1) _ hR517 fr517 (by omega) (by rw [pw, ← h3]) (by rw [h2, Nat.add_assoc p k 1] at *; omega) (by have := hR517.2.1; omega)
  refine ev_lc (k_r_code 0 rfl) ?_
  refine ev_ls (k_r_code 1 rfl) (le_b rfl) (show ev _ _ _ _ _ _ 2 [some (vA (xa 2)), some (vL 1), none, none] _ _ _ _ from ?_)
  refine ev_ic (k_r_code 2 rfl) ?_
  refine ev_is (k_r_code 3 rfl) (le_b rfl) (show ev _ _ _ _ _ _ 4 [some (vA (xa 2)), some (vL 1), none, some (vI 0)] _ _ _ _ from ?_)
  refine ev_al (k_r_code 4 rfl) rfl ?_
  refine ev_cV (k_r_code 5 rfl) rfl v_r_isDigit hR.2.2.1 rfl (c_r_isDigit G _ xa T n p hR hT) rfl (le_b rfl) (le_b rfl) (le_b rfl) k_n (k_B fun z518 h518 q518 => ?_)
  obtain ⟨rfl, rfl⟩ := q518
  refine ev_ic (k_r_code 6 rfl) ?_
  refine ev_al (k_r_code 7 rfl) rfl ?_
  refine ev_get (v := vI ((p : Nat) : Int)) (k_r_code 8 rfl) hR.2.2.1 rfl ?_
  refine ev_cSA (C2 := 1) (S2 := 8) (k_r_code 9 rfl) rfl v_g_need (c_g_need G _ (inb (lk T n p) 48 57) 1 ((p : Nat) : Int)) rfl (le_b rfl) (le_b rfl) (le_b rfl) (le_b rfl) (le_b rfl) (k_t rfl (fun a h' q => ⟨1, p, ⟨rfl, Or.inl ⟨lk1_f q.1, rfl⟩⟩, by rw [q.2.2, show ((p : Nat) : Int) = ((p : Nat) : Int) by omega]; exact hu_self _ _ _, by rw [q.2.2]; exact fr_tr (fr_rf (t1 2) _) (fr_new q.2.1) (fun t z => z.elim)⟩)) (k_V fun h520 q520 => ?_)
  obtain ⟨rfl, g520⟩ := q520
  have hz := lk1_t g520
  exact loop (n + 1) _ 0 1 hR (fr_rf _ _) ⟨by omega, by omega⟩ rfl (by simp) (by omega)
set_option maxHeartbeats 2000000 in
theorem c_r_word (G : gt_T) (h : ab_H) (xa : Nat → Nat) (T : Nat → Int) (n p : Nat) (hR : RDR h xa T n p) (hT : gT T n)  : ct G M_r_word 7 119 2 16 [vA (xa 2)] h (rL fun z h' => ∃ k, rn T 2 p (n - p) = k ∧ 0 < k ∧ k ≤ 8 ∧  z = pw 27 96 0 T p k ∧ RDR h' xa T n (p + k) ∧ FRp (t1 2) h h') (xF (t1 2) h (fun y pl => y = 1 ∧ ((rn T 2 p (n - p) = 0 ∧ pl = p) ∨ (8 < rn T 2 p (n - p) ∧ pl = p + 8)))) := by
  show ev _ _ _ _ _ _ 0 [some (vA (xa 2)), none, none, none] [] _ _ _
  have loop : ∀ (fu : Nat) (h1 : ab_H) (k : Nat) (v : Int) (hR1 : RDR h1 xa T n (p + k)) (fm1 : FRp (t1 2) h h1), (k ≤ 8 ∧ 0 < rn T 2 p (n - p)) → (v = pw 27 96 0 T p k) → (rn T 2 p (n - p) = k + rn T 2 (p + k) (n - (p + k))) → n - (p + k) < fu → ev G M_r_word 7 119 1 8 16 [some (vA (xa 2)), some (vL v), none, some (vI (k : Int))] [] h1 (rL fun z h' => ∃ k, rn T 2 p (n - p) = k ∧ 0 < k ∧ k ≤ 8 ∧  z = pw 27 96 0 T p k ∧ RDR h' xa T n (p + k) ∧ FRp (t1 2) h h') (xF (t1 2) h (fun y pl => y = 1 ∧ ((rn T 2 p (n - p) = 0 ∧ pl = p) ∨ (8 < rn T 2 p (n - p) ∧ pl = p + 8)))) := by
    intro fu
    induction fu with
    | zero => intros; omega
    | succ fu ih =>
      intro h1 k v hR1 fm1 hk h3 h2 hn
      have hRa := hR1.1
      have hRb := hR1.2.1
      have hdg : ∀ j, j < k → 97 ≤ T (p + j) ∧ T (p + j) ≤ 122 := fun j hj => rn_lets (n := n - p) (by omega)
      have hb := pw27 hdg
      rw [← h3] at hb
      have hpw : (2 * 27 ^ k : Int) ≤ 2 * 27 ^ 8 := by have := ipow_mono (show (1 : Int) ≤ 27 by decide) (show k ≤ 8 by omega); omega
      refine ev_il (k_r_word 10 rfl) rfl ?_
      refine ev_bp (k_r_word 11 rfl) ?_
      refine ev_ic_ge (k_r_word 12 rfl) (fun c521 => ?_) (fun c521 => ?_)
      · refine ev_al (k_r_word 39 rfl) rfl ?_
        refine ev_cV (k_r_word 40 rfl) rfl v_r_isLetter hR1.2.2.1 rfl (c_r_isLetter G _ xa T n (p + k) hR1 hT) rfl (le_b rfl) (le_b rfl) (le_b rfl) k_n (k_B fun z522 h522 q522 => ?_)
        obtain ⟨rfl, rfl⟩ := q522
        refine ev_b_ne (k_r_word 41 rfl) (fun c523 => ?_) (fun c523 => ?_)
        · have j523 := inb_t c523
          refine ev_ic (k_r_word 44 rfl) ?_
          refine ev_ic (k_r_word 45 rfl) ?_
          refine ev_al (k_r_word 46 rfl) rfl ?_
          refine ev_get (v := vI ((p + k : Nat) : Int)) (k_r_word 47 rfl) hR1.2.2.1 rfl ?_
          refine ev_cSA (C2 := 0) (S2 := 0) (k_r_word 48 rfl) rfl v_g_need (c_g_need G _ false 1 ((p + k : Nat) : Int)) rfl (le_b rfl) (le_b rfl) (le_b rfl) (le_b rfl) (le_b rfl) (k_t rfl (fun a h' q => ⟨1, p + k, ⟨rfl, by right; have hz := lk2_t (by assumption); refine ⟨?_, ?_⟩ <;> omega⟩, by rw [q.2.2, show ((p + k : Nat) : Int) = ((p + k : Nat) : Int) by omega]; exact hu_self _ _ _, by rw [q.2.2]; exact fr_tr fm1 (fr_new q.2.1) (fun t z => z.elim)⟩)) (k_V fun h525 q525 => ?_)
          exact absurd q525.2 (by decide)
        · have j523 := inb_f c523
          refine ev_ic (k_r_word 42 rfl) ?_
          refine ev_goto (k_r_word 43 rfl) ?_
          refine ev_ic (k_r_word 45 rfl) ?_
          refine ev_al (k_r_word 46 rfl) rfl ?_
          refine ev_get (v := vI ((p + k : Nat) : Int)) (k_r_word 47 rfl) hR1.2.2.1 rfl ?_
          refine ev_cSA (C2 := 0) (S2 := 0) (k_r_word 48 rfl) rfl v_g_need (c_g_need G _ true 1 ((p + k : Nat) : Int)) rfl (le_b rfl) (le_b rfl) (le_b rfl) (le_b rfl) (le_b rfl) (k_t rfl (fun a h' q => absurd q.1 (by decide))) (k_V fun h527 q527 => ?_)
          obtain ⟨rfl, g527⟩ := q527
          refine ev_ll (k_r_word 49 rfl) rfl ?_
          exact ev_lret (k_r_word 50 rfl) rfl (⟨_, rfl, k, by have hz := lk2_f (by assumption); omega, by have hz := lk2_f (by assumption); omega, by omega, h3, hR1, fm1⟩)
      · refine ev_al (k_r_word 13 rfl) rfl ?_
        refine ev_cV (k_r_word 14 rfl) rfl v_r_isLetter hR1.2.2.1 rfl (c_r_isLetter G _ xa T n (p + k) hR1 hT) rfl (le_b rfl) (le_b rfl) (le_b rfl) k_n (k_B fun z528 h528 q528 => ?_)
        obtain ⟨rfl, rfl⟩ := q528
        refine ev_b_eq (k_r_word 15 rfl) (fun c529 => ?_) (fun c529 => ?_)
        · have j529 := inb_f c529
          refine ev_al (k_r_word 39 rfl) rfl ?_
          refine ev_cV (k_r_word 40 rfl) rfl v_r_isLetter hR1.2.2.1 rfl (c_r_isLetter G _ xa T n (p + k) hR1 hT) rfl (le_b rfl) (le_b rfl) (le_b rfl) k_n (k_B fun z530 h530 q530 => ?_)
          obtain ⟨rfl, rfl⟩ := q530
          refine ev_b_ne (k_r_word 41 rfl) (fun c => absurd (c529.symm.trans c) (by decide)) (fun _ => ?_)
          refine ev_ic (k_r_word 42 rfl) ?_
          refine ev_goto (k_r_word 43 rfl) ?_
          refine ev_ic (k_r_word 45 rfl) ?_
          refine ev_al (k_r_word 46 rfl) rfl ?_
          refine ev_get (v := vI ((p + k : Nat) : Int)) (k_r_word 47 rfl) hR1.2.2.1 rfl ?_
          refine ev_cSA (C2 := 0) (S2 := 0) (k_r_word 48 rfl) rfl v_g_need (c_g_need G _ true 1 ((p + k : Nat) : Int)) rfl (le_b rfl) (le_b rfl) (le_b rfl) (le_b rfl) (le_b rfl) (k_t rfl (fun a h' q => absurd q.1 (by decide))) (k_V fun h533 q533 => ?_)
          obtain ⟨rfl, g533⟩ := q533
          refine ev_ll (k_r_word 49 rfl) rfl ?_
          exact ev_lret (k_r_word 50 rfl) rfl (⟨_, rfl, k, by have hz := lk2_f (by assumption); omega, by have hz := lk2_f (by assumption); omega, by omega, h3, hR1, fm1⟩)
        · have j529 := inb_t c529
          have hz := lk2_t c529
          have hTk := inb_t (by have := c529; rw [lk_lt hz.1] at this; exact this)
          refine ev_ldc2 (k_r_word 16 rfl) ?_
          refine ev_ll (k_r_word 17 rfl) rfl ?_
          refine ev_lmul (k_r_word 18 rfl) (by omega) ?_
          refine ev_al (k_r_word 19 rfl) rfl ?_
          refine ev_get (v := vA (xa 3)) (k_r_word 20 rfl) hR1.2.2.1 rfl ?_
          refine ev_al (k_r_word 21 rfl) rfl ?_
          refine ev_get (v := vI ((p + k : Nat) : Int)) (k_r_word 22 rfl) hR1.2.2.1 rfl ?_
          obtain ⟨cs534, htx534, lcs534, hcs534⟩ := hR1.2.2.2
          have hRa := hR1.1
          have hRb := hR1.2.1
          refine ev_cald (xs := cs534) (k_r_word 23 rfl) htx534 (by omega) (by omega) (show ev _ _ _ _ _ _ _ _ (vI (gd cs534 (p + k)) :: _) _ _ _ from ?_)
          rw [hcs534 (p + k) (by omega)]
          refine ev_i2l (k_r_word 24 rfl) ?_
          refine ev_ladd (k_r_word 25 rfl) (by omega) ?_
          refine ev_ldc2 (k_r_word 26 rfl) ?_
          refine ev_lsub (k_r_word 27 rfl) (by omega) ?_
          refine ev_lc (k_r_word 28 rfl) ?_
          refine ev_ladd (k_r_word 29 rfl) (by omega) ?_
          refine ev_ls (k_r_word 30 rfl) (le_b rfl) (show ev _ _ _ _ _ _ 52 [some (vA (xa 2)), some (vL ((((27 * v) + (T (p + k))) - 97) + 1)), none, some (vI (k : Int))] _ _ _ _ from ?_)
          refine ev_al (k_r_word 31 rfl) rfl ?_
          refine ev_dup (k_r_word 32 rfl) rfl ?_
          refine ev_get (v := vI ((p + k : Nat) : Int)) (k_r_word 33 rfl) hR1.2.2.1 rfl ?_
          refine ev_ic (k_r_word 34 rfl) ?_
          refine ev_iadd (k_r_word 35 rfl) (by omega) ?_
          refine ev_putT (k_r_word 36 rfl) hR1.2.2.1 (le_b rfl) rfl rfl (fun h535 e535 f535 => ?_)
          have hR535 : RDR h535 xa T n ((p + k) + 1) := RDR_mv hR1 (e535.trans (by rw [show (((p + k) + 1 : Nat) : Int) = ((p + k : Nat) : Int) + 1 by omega]; rfl)) f535 (by omega)
          have fr535 := fr_tr fm1 f535 (fun t z => z)
          refine ev_iinc (k_r_word 37 rfl) rfl (by omega) (show ev _ _ _ _ _ _ 65 [some (vA (xa 2)), some (vL ((((27 * v) + (T (p + k))) - 97) + 1)), none, some (vI ((k : Int) + 1))] _ _ _ _ from ?_)
          refine ev_goto (k_r_word 38 rfl) ?_
          rw [show (k : Int) + 1 = ((k + 1 : Nat) : Int) by omega]
          exact ih _ (k + 1) _ hR535 fr535 (by omega) (by rw [pw, ← h3]; omega) (by rw [h2, Nat.add_assoc p k 1] at *; omega) (by have := hR535.2.1; omega)
  refine ev_lc (k_r_word 0 rfl) ?_
  refine ev_ls (k_r_word 1 rfl) (le_b rfl) (show ev _ _ _ _ _ _ 2 [some (vA (xa 2)), some (vL 0), none, none] _ _ _ _ from ?_)
  refine ev_ic (k_r_word 2 rfl) ?_
  refine ev_is (k_r_word 3 rfl) (le_b rfl) (show ev _ _ _ _ _ _ 4 [some (vA (xa 2)), some (vL 0), none, some (vI 0)] _ _ _ _ from ?_)
  refine ev_al (k_r_word 4 rfl) rfl ?_
  refine ev_cV (k_r_word 5 rfl) rfl v_r_isLetter hR.2.2.1 rfl (c_r_isLetter G _ xa T n p hR hT) rfl (le_b rfl) (le_b rfl) (le_b rfl) k_n (k_B fun z536 h536 q536 => ?_)
  obtain ⟨rfl, rfl⟩ := q536
  refine ev_ic (k_r_word 6 rfl) ?_
  refine ev_al (k_r_word 7 rfl) rfl ?_
  refine ev_get (v := vI ((p : Nat) : Int)) (k_r_word 8 rfl) hR.2.2.1 rfl ?_
  refine ev_cSA (C2 := 1) (S2 := 8) (k_r_word 9 rfl) rfl v_g_need (c_g_need G _ (inb (lk T n p) 97 122) 1 ((p : Nat) : Int)) rfl (le_b rfl) (le_b rfl) (le_b rfl) (le_b rfl) (le_b rfl) (k_t rfl (fun a h' q => ⟨1, p, ⟨rfl, Or.inl ⟨lk2_f q.1, rfl⟩⟩, by rw [q.2.2, show ((p : Nat) : Int) = ((p : Nat) : Int) by omega]; exact hu_self _ _ _, by rw [q.2.2]; exact fr_tr (fr_rf (t1 2) _) (fr_new q.2.1) (fun t z => z.elim)⟩)) (k_V fun h538 q538 => ?_)
  obtain ⟨rfl, g538⟩ := q538
  have hz := lk2_t g538
  exact loop (n + 1) _ 0 0 hR (fr_rf _ _) ⟨by omega, by omega⟩ rfl (by simp) (by omega)
