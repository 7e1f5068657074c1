set_option maxHeartbeats 2000000 in
theorem c_m_in (G : gt_T) (h : ab_H) (v a b : Int) : ct G M_m_in 0 0 0 0 [vI v, vI a, vI b] h (rB fun z h' => h = h' ∧ z = inb v a b) nT := by
  show ev _ _ _ _ _ _ 0 [some (vI v), some (vI a), some (vI b)] [] _ _ _
  refine ev_il (k_m_in 0 rfl) rfl ?_
  refine ev_il (k_m_in 1 rfl) rfl ?_
  refine ev_ic_lt (k_m_in 2 rfl) (fun c1 => ?_) (fun c1 => ?_)
  · refine ev_ic (k_m_in 8 rfl) ?_
    exact ev_zret (x := false) (k_m_in 9 rfl) rfl (⟨false, rfl, rfl, by simp [inb]; omega⟩)
  · refine ev_il (k_m_in 3 rfl) rfl ?_
    refine ev_il (k_m_in 4 rfl) rfl ?_
    refine ev_ic_gt (k_m_in 5 rfl) (fun c2 => ?_) (fun c2 => ?_)
    · refine ev_ic (k_m_in 8 rfl) ?_
      exact ev_zret (x := false) (k_m_in 9 rfl) rfl (⟨false, rfl, rfl, by simp [inb]; omega⟩)
    · refine ev_ic (k_m_in 6 rfl) ?_
      refine ev_goto (k_m_in 7 rfl) ?_
      exact ev_zret (x := true) (k_m_in 9 rfl) rfl (⟨true, rfl, rfl, by simp [inb]; omega⟩)
set_option maxHeartbeats 2000000 in
theorem c_m_isEdition (G : gt_T) (h : ab_H) (e : Int) : ct G M_m_isEdition 0 0 0 0 [vI e] h (rB fun z h' => h = h' ∧ z = inb e 0 2) nT := by
  show ev _ _ _ _ _ _ 0 [some (vI e)] [] _ _ _
  refine ev_il (k_m_isEdition 0 rfl) rfl ?_
  refine ev_if_lt (k_m_isEdition 1 rfl) (fun c3 => ?_) (fun c3 => ?_)
  · refine ev_ic (k_m_isEdition 7 rfl) ?_
    exact ev_zret (x := false) (k_m_isEdition 8 rfl) rfl (⟨false, rfl, rfl, by simp [inb]; omega⟩)
  · refine ev_il (k_m_isEdition 2 rfl) rfl ?_
    refine ev_ic (k_m_isEdition 3 rfl) ?_
    refine ev_ic_ge (k_m_isEdition 4 rfl) (fun c4 => ?_) (fun c4 => ?_)
    · refine ev_ic (k_m_isEdition 7 rfl) ?_
      exact ev_zret (x := false) (k_m_isEdition 8 rfl) rfl (⟨false, rfl, rfl, by simp [inb]; omega⟩)
    · refine ev_ic (k_m_isEdition 5 rfl) ?_
      refine ev_goto (k_m_isEdition 6 rfl) ?_
      exact ev_zret (x := true) (k_m_isEdition 8 rfl) rfl (⟨true, rfl, rfl, by simp [inb]; omega⟩)
set_option maxHeartbeats 2000000 in
theorem c_m_isLetter (G : gt_T) (h : ab_H) (c : Int) : ct G M_m_isLetter 1 22 0 0 [vI c] h (rB fun z h' => h = h' ∧ z = inb c 97 122) nT := by
  show ev _ _ _ _ _ _ 0 [some (vI c)] [] _ _ _
  refine ev_il (k_m_isLetter 0 rfl) rfl ?_
  refine ev_bp (k_m_isLetter 1 rfl) ?_
  refine ev_bp (k_m_isLetter 2 rfl) ?_
  refine ev_cS (k_m_isLetter 3 rfl) rfl v_m_in (c_m_in G _ c 97 122) rfl (le_b rfl) (le_b rfl) (le_b rfl) k_n (k_B fun z5 h5 q5 => ?_)
  obtain ⟨rfl, rfl⟩ := q5
  exact ev_zret (k_m_isLetter 4 rfl) rfl (⟨_, rfl, rfl, rfl⟩)
set_option maxHeartbeats 2000000 in
theorem c_m_isDigit (G : gt_T) (h : ab_H) (c : Int) : ct G M_m_isDigit 1 22 0 0 [vI c] h (rB fun z h' => h = h' ∧ z = inb c 48 57) nT := by
  show ev _ _ _ _ _ _ 0 [some (vI c)] [] _ _ _
  refine ev_il (k_m_isDigit 0 rfl) rfl ?_
  refine ev_bp (k_m_isDigit 1 rfl) ?_
  refine ev_bp (k_m_isDigit 2 rfl) ?_
  refine ev_cS (k_m_isDigit 3 rfl) rfl v_m_in (c_m_in G _ c 48 57) rfl (le_b rfl) (le_b rfl) (le_b rfl) k_n (k_B fun z6 h6 q6 => ?_)
  obtain ⟨rfl, rfl⟩ := q6
  exact ev_zret (k_m_isDigit 4 rfl) rfl (⟨_, rfl, rfl, rfl⟩)
def dgn (n : Nat) : Nat := if 9 < n then dgn (n / 10) + 1 else 0
termination_by n
decreasing_by omega
theorem dgn_s {n : Nat} (h : 9 < n) : dgn n = dgn (n / 10) + 1 := by rw [dgn, if_pos h]
theorem dgn_0 {n : Nat} (h : n ≤ 9) : dgn n = 0 := by rw [dgn, if_neg (by omega)]
theorem dgn_le (k : Nat) : ∀ n : Nat, n < 10 ^ (k + 1) → dgn n ≤ k := by
  induction k with
  | zero => intro n hn; rw [dgn_0 (by omega)]; exact Nat.le_refl _
  | succ k ih =>
    intro n hn
    by_cases h : 9 < n
    · rw [dgn_s h]
      have : n / 10 < 10 ^ (k + 1) := by rw [Nat.div_lt_iff_lt_mul (by decide)]; rw [Nat.pow_succ] at hn; omega
      have := ih (n / 10) this
      omega
    · rw [dgn_0 (by omega)]; omega
theorem dgn_18 {c : Int} (h : inL c) : dgn c.toNat ≤ 18 := dgn_le 18 _ (by have := h.2; omega)
def cutZ (c : Int) (n : Nat) : Int := c / 10 ^ (dgn c.toNat - n)
def bgn (c w : Int) : Bool := decide (dgn w.toNat < dgn c.toNat) && decide (cutZ c (dgn w.toNat) = w)
def bhd (c o : Int) : Bool := decide (cutZ o (min (dgn c.toNat) (dgn o.toNat)) < cutZ c (min (dgn c.toNat) (dgn o.toNat))) || bgn c o
set_option maxHeartbeats 2000000 in
theorem c_m_digitsOf (G : gt_T) (h : ab_H) (c : Int) : ct G M_m_digitsOf 0 0 0 0 [vL c] h (rI fun z h' => h = h' ∧ z = (dgn c.toNat : Int)) nT := by
  show ev _ _ _ _ _ _ 0 [some (vL c), none, none, none, none] [] _ _ _
  refine ev_loc 0 rfl (fun (ok : inL c) => ?_)
  have hb := dgn_18 ok
  have loop : ∀ (fu : Nat) (nn v : Int), (0 ≤ nn) → (nn + dgn v.toNat = dgn c.toNat) → v.toNat < fu → ev G M_m_digitsOf 0 0 0 0 4 [some (vL c), none, some (vI nn), some (vL v), none] [] h (rI fun z h' => h = h' ∧ z = (dgn c.toNat : Int)) nT := by
    intro fu
    induction fu with
    | zero => intros; omega
    | succ fu ih =>
      intro nn v h1 h2 hn
      refine ev_ll (k_m_digitsOf 4 rfl) rfl ?_
      refine ev_ldc2 (k_m_digitsOf 5 rfl) ?_
      refine ev_lc_le (k_m_digitsOf 6 rfl) (k_m_digitsOf 7 rfl) (fun c7 => ?_) (fun c7 => ?_)
      · refine ev_il (k_m_digitsOf 14 rfl) rfl ?_
        exact ev_iret (k_m_digitsOf 15 rfl) rfl (⟨_, rfl, rfl, by rw [dgn_0 (show v.toNat ≤ 9 by omega)] at h2; omega⟩)
      · refine ev_iinc (k_m_digitsOf 8 rfl) rfl (by omega) (show ev _ _ _ _ _ _ 15 [some (vL c), none, some (vI (nn + 1)), some (vL v), none] _ _ _ _ from ?_)
        refine ev_ll (k_m_digitsOf 9 rfl) rfl ?_
        refine ev_ldc2 (k_m_digitsOf 10 rfl) ?_
        refine ev_ldiv (k_m_digitsOf 11 rfl) (by omega) (by omega) ?_
        refine ev_ls (k_m_digitsOf 12 rfl) (le_b rfl) (show ev _ _ _ _ _ _ 21 [some (vL c), none, some (vI (nn + 1)), some (vL (v / 10)), none] _ _ _ _ from ?_)
        refine ev_goto (k_m_digitsOf 13 rfl) ?_
        exact ih (nn + 1) (v / 10) (by omega) (by rw [dgn_s (show 9 < v.toNat by omega)] at h2; rw [show (v / 10).toNat = v.toNat / 10 by omega]; omega) (by omega)
  refine ev_ic (k_m_digitsOf 0 rfl) ?_
  refine ev_is (k_m_digitsOf 1 rfl) (le_b rfl) (show ev _ _ _ _ _ _ 2 [some (vL c), none, some (vI 0), none, none] _ _ _ _ from ?_)
  refine ev_ll (k_m_digitsOf 2 rfl) rfl ?_
  refine ev_ls (k_m_digitsOf 3 rfl) (le_b rfl) (show ev _ _ _ _ _ _ 4 [some (vL c), none, some (vI 0), some (vL c), none] _ _ _ _ from ?_)
  exact loop (c.toNat + 1) 0 c (by omega) (by omega) (by omega)
theorem ediv_step (c : Int) (a : Nat) : c / 10 ^ a / 10 = c / 10 ^ (a + 1) := by
  rw [Int.ediv_ediv_of_nonneg (Int.pow_nonneg (by decide)), Int.pow_succ]
theorem cutZ_le {c : Int} (h : 0 ≤ c) (n : Nat) : 0 ≤ cutZ c n ∧ cutZ c n ≤ c := ⟨Int.ediv_nonneg h (Int.pow_nonneg (by decide)), Int.ediv_le_self _ h⟩
set_option maxHeartbeats 2000000 in
theorem c_m_cut (G : gt_T) (h : ab_H) (c : Int) (n : Nat) (hc : 0 ≤ c) : ct G M_m_cut 1 24 0 0 [vL c, vI (n : Int)] h (rL fun z h' => h = h' ∧ z = cutZ c n) nT := by
  show ev _ _ _ _ _ _ 0 [some (vL c), none, some (vI (n : Int)), none, none, none] [] _ _ _
  refine ev_loc 0 rfl (fun (ok : inL c) => ?_)
  have hb := dgn_18 ok
  have loop : ∀ (fu : Nat) (k : Nat) (v : Int), (k ≤ dgn c.toNat) → (n ≤ k ∨ k = dgn c.toNat) → (v = c / 10 ^ (dgn c.toNat - k)) → k < fu → ev G M_m_cut 1 24 0 0 8 [some (vL c), none, some (vI (n : Int)), some (vL v), none, some (vI (k : Int))] [] h (rL fun z h' => h = h' ∧ z = cutZ c n) nT := by
    intro fu
    induction fu with
    | zero => intros; omega
    | succ fu ih =>
      intro k v h1 h2 h3 hn
      have hv : 0 ≤ v := by rw [h3]; exact Int.ediv_nonneg hc (Int.pow_nonneg (by decide))
      refine ev_ilw (k_m_cut 5 rfl) rfl ?_
      refine ev_il (k_m_cut 6 rfl) rfl ?_
      refine ev_ic_le (k_m_cut 7 rfl) (fun c8 => ?_) (fun c8 => ?_)
      · refine ev_ll (k_m_cut 14 rfl) rfl ?_
        exact ev_lret (k_m_cut 15 rfl) rfl (⟨_, rfl, rfl, by rw [h3, show dgn c.toNat - k = dgn c.toNat - n by omega]; rfl⟩)
      · refine ev_ll (k_m_cut 8 rfl) rfl ?_
        refine ev_ldc2 (k_m_cut 9 rfl) ?_
        refine ev_ldiv (k_m_cut 10 rfl) (by omega) (by omega) ?_
        refine ev_ls (k_m_cut 11 rfl) (le_b rfl) (show ev _ _ _ _ _ _ 20 [some (vL c), none, some (vI (n : Int)), some (vL (v / 10)), none, some (vI (k : Int))] _ _ _ _ from ?_)
        refine ev_iinc (k_m_cut 12 rfl) rfl (by omega) (show ev _ _ _ _ _ _ 23 [some (vL c), none, some (vI (n : Int)), some (vL (v / 10)), none, some (vI ((k : Int) + (-1)))] _ _ _ _ from ?_)
        refine ev_goto (k_m_cut 13 rfl) ?_
        obtain ⟨k, rfl⟩ : ∃ j, k = j + 1 := ⟨k - 1, by omega⟩
        have e : ((k + 1 : Nat) : Int) + (-1) = (k : Int) := by omega
        rw [e]
        exact ih k (v / 10) (by omega) (by omega) (by rw [h3, ediv_step, show dgn c.toNat - (k + 1) + 1 = dgn c.toNat - k by omega]) (by omega)
  refine ev_ll (k_m_cut 0 rfl) rfl ?_
  refine ev_ls (k_m_cut 1 rfl) (le_b rfl) (show ev _ _ _ _ _ _ 2 [some (vL c), none, some (vI (n : Int)), some (vL c), none, none] _ _ _ _ from ?_)
  refine ev_ll (k_m_cut 2 rfl) rfl ?_
  refine ev_cS (k_m_cut 3 rfl) rfl v_m_digitsOf (c_m_digitsOf G _ c) rfl (le_b rfl) (le_b rfl) (le_b rfl) k_n (k_I fun z9 h9 q9 => ?_)
  obtain ⟨rfl, rfl⟩ := q9
  refine ev_isw (k_m_cut 4 rfl) (le_b rfl) (show ev _ _ _ _ _ _ 8 [some (vL c), none, some (vI (n : Int)), some (vL c), none, some (vI ((dgn c.toNat : Nat) : Int))] _ _ _ _ from ?_)
  exact loop (dgn c.toNat + 1) (dgn c.toNat) c (by omega) (by omega) (by rw [Nat.sub_self]; simp) (by omega)
set_option maxHeartbeats 2000000 in
theorem c_m_begins (G : gt_T) (h : ab_H) (c w : Int) (hc : 0 ≤ c) : ct G M_m_begins 2 49 0 0 [vL c, vL w] h (rB fun z h' => h = h' ∧ z = bgn c w) nT := by
  show ev _ _ _ _ _ _ 0 [some (vL c), none, some (vL w), none] [] _ _ _
  refine ev_ll (k_m_begins 0 rfl) rfl ?_
  refine ev_cS (k_m_begins 1 rfl) rfl v_m_digitsOf (c_m_digitsOf G _ c) rfl (le_b rfl) (le_b rfl) (le_b rfl) k_n (k_I fun z10 h10 q10 => ?_)
  obtain ⟨rfl, rfl⟩ := q10
  refine ev_ll (k_m_begins 2 rfl) rfl ?_
  refine ev_cS (k_m_begins 3 rfl) rfl v_m_digitsOf (c_m_digitsOf G _ w) rfl (le_b rfl) (le_b rfl) (le_b rfl) k_n (k_I fun z11 h11 q11 => ?_)
  obtain ⟨rfl, rfl⟩ := q11
  refine ev_ic_le (k_m_begins 4 rfl) (fun c12 => ?_) (fun c12 => ?_)
  · refine ev_ic (k_m_begins 14 rfl) ?_
    exact ev_zret (x := false) (k_m_begins 15 rfl) rfl (⟨false, rfl, rfl, by simp only [bgn]; simp; omega⟩)
  · refine ev_ll (k_m_begins 5 rfl) rfl ?_
    refine ev_ll (k_m_begins 6 rfl) rfl ?_
    refine ev_cS (k_m_begins 7 rfl) rfl v_m_digitsOf (c_m_digitsOf G _ w) rfl (le_b rfl) (le_b rfl) (le_b rfl) k_n (k_I fun z13 h13 q13 => ?_)
    obtain ⟨rfl, rfl⟩ := q13
    refine ev_cS (k_m_begins 8 rfl) rfl v_m_cut (c_m_cut G _ c (dgn w.toNat) (by omega)) rfl (le_b rfl) (le_b rfl) (le_b rfl) k_n (k_L fun z14 h14 q14 => ?_)
    obtain ⟨rfl, rfl⟩ := q14
    refine ev_ll (k_m_begins 9 rfl) rfl ?_
    refine ev_lc_ne (k_m_begins 10 rfl) (k_m_begins 11 rfl) (fun c15 => ?_) (fun c15 => ?_)
    · refine ev_ic (k_m_begins 14 rfl) ?_
      exact ev_zret (x := false) (k_m_begins 15 rfl) rfl (⟨false, rfl, rfl, by simp only [bgn]; simp; omega⟩)
    · refine ev_ic (k_m_begins 12 rfl) ?_
      refine ev_goto (k_m_begins 13 rfl) ?_
      exact ev_zret (x := true) (k_m_begins 15 rfl) rfl (⟨true, rfl, rfl, by simp only [bgn]; simp; omega⟩)
set_option maxHeartbeats 2000000 in
theorem c_m_isBehind (G : gt_T) (h : ab_H) (c o : Int) (hc : 0 ≤ c) (ho : 0 ≤ o) : ct G M_m_isBehind 3 72 0 0 [vL c, vL o] h (rB fun z h' => h = h' ∧ z = bhd c o) nT := by
  show ev _ _ _ _ _ _ 0 [some (vL c), none, some (vL o), none, none] [] _ _ _
  refine ev_ll (k_m_isBehind 0 rfl) rfl ?_
  refine ev_cS (k_m_isBehind 1 rfl) rfl v_m_digitsOf (c_m_digitsOf G _ c) rfl (le_b rfl) (le_b rfl) (le_b rfl) k_n (k_I fun z16 h16 q16 => ?_)
  obtain ⟨rfl, rfl⟩ := q16
  refine ev_ll (k_m_isBehind 2 rfl) rfl ?_
  refine ev_cS (k_m_isBehind 3 rfl) rfl v_m_digitsOf (c_m_digitsOf G _ o) rfl (le_b rfl) (le_b rfl) (le_b rfl) k_n (k_I fun z17 h17 q17 => ?_)
  obtain ⟨rfl, rfl⟩ := q17
  refine ev_ic_ge (k_m_isBehind 4 rfl) (fun c18 => ?_) (fun c18 => ?_)
  · refine ev_ll (k_m_isBehind 8 rfl) rfl ?_
    refine ev_cS (k_m_isBehind 9 rfl) rfl v_m_digitsOf (c_m_digitsOf G _ o) rfl (le_b rfl) (le_b rfl) (le_b rfl) k_n (k_I fun z19 h19 q19 => ?_)
    obtain ⟨rfl, rfl⟩ := q19
    refine ev_isw (k_m_isBehind 10 rfl) (le_b rfl) (show ev _ _ _ _ _ _ 24 [some (vL c), none, some (vL o), none, some (vI ((dgn o.toNat : Nat) : Int))] _ _ _ _ from ?_)
    refine ev_ll (k_m_isBehind 11 rfl) rfl ?_
    refine ev_ilw (k_m_isBehind 12 rfl) rfl ?_
    refine ev_cS (k_m_isBehind 13 rfl) rfl v_m_cut (c_m_cut G _ c (dgn o.toNat) (by omega)) rfl (le_b rfl) (le_b rfl) (le_b rfl) k_n (k_L fun z20 h20 q20 => ?_)
    obtain ⟨rfl, rfl⟩ := q20
    refine ev_ll (k_m_isBehind 14 rfl) rfl ?_
    refine ev_ilw (k_m_isBehind 15 rfl) rfl ?_
    refine ev_cS (k_m_isBehind 16 rfl) rfl v_m_cut (c_m_cut G _ o (dgn o.toNat) (by omega)) rfl (le_b rfl) (le_b rfl) (le_b rfl) k_n (k_L fun z21 h21 q21 => ?_)
    obtain ⟨rfl, rfl⟩ := q21
    refine ev_lc_gt (k_m_isBehind 17 rfl) (k_m_isBehind 18 rfl) (fun c22 => ?_) (fun c22 => ?_)
    · refine ev_ic (k_m_isBehind 23 rfl) ?_
      refine ev_goto (k_m_isBehind 24 rfl) ?_
      exact ev_zret (x := true) (k_m_isBehind 26 rfl) rfl (⟨true, rfl, rfl, by first | (simp only [bhd, show min (dgn c.toNat) (dgn o.toNat) = dgn c.toNat by omega]; simp_all; done) | (simp only [bhd, show min (dgn c.toNat) (dgn o.toNat) = dgn o.toNat by omega]; simp_all; done)⟩)
    · refine ev_ll (k_m_isBehind 19 rfl) rfl ?_
      refine ev_ll (k_m_isBehind 20 rfl) rfl ?_
      refine ev_cS (k_m_isBehind 21 rfl) rfl v_m_begins (c_m_begins G _ c o (by omega)) rfl (le_b rfl) (le_b rfl) (le_b rfl) k_n (k_B fun z23 h23 q23 => ?_)
      obtain ⟨rfl, rfl⟩ := q23
      refine ev_b_eq (k_m_isBehind 22 rfl) (fun c24 => ?_) (fun c24 => ?_)
      · refine ev_ic (k_m_isBehind 25 rfl) ?_
        exact ev_zret (x := false) (k_m_isBehind 26 rfl) rfl (⟨false, rfl, rfl, by first | (simp only [bhd, show min (dgn c.toNat) (dgn o.toNat) = dgn c.toNat by omega]; simp_all; done) | (simp only [bhd, show min (dgn c.toNat) (dgn o.toNat) = dgn o.toNat by omega]; simp_all; done)⟩)
      · refine ev_ic (k_m_isBehind 23 rfl) ?_
        refine ev_goto (k_m_isBehind 24 rfl) ?_
        exact ev_zret (x := true) (k_m_isBehind 26 rfl) rfl (⟨true, rfl, rfl, by first | (simp only [bhd, show min (dgn c.toNat) (dgn o.toNat) = dgn c.toNat by omega]; simp_all; done) | (simp only [bhd, show min (dgn c.toNat) (dgn o.toNat) = dgn o.toNat by omega]; simp_all; done)⟩)
  · refine ev_ll (k_m_isBehind 5 rfl) rfl ?_
    refine ev_cS (k_m_isBehind 6 rfl) rfl v_m_digitsOf (c_m_digitsOf G _ c) rfl (le_b rfl) (le_b rfl) (le_b rfl) k_n (k_I fun z25 h25 q25 => ?_)
    obtain ⟨rfl, rfl⟩ := q25
    refine ev_goto (k_m_isBehind 7 rfl) ?_
    refine ev_isw (k_m_isBehind 10 rfl) (le_b rfl) (show ev _ _ _ _ _ _ 24 [some (vL c), none, some (vL o), none, some (vI ((dgn c.toNat : Nat) : Int))] _ _ _ _ from ?_)
    refine ev_ll (k_m_isBehind 11 rfl) rfl ?_
    refine ev_ilw (k_m_isBehind 12 rfl) rfl ?_
    refine ev_cS (k_m_isBehind 13 rfl) rfl v_m_cut (c_m_cut G _ c (dgn c.toNat) (by omega)) rfl (le_b rfl) (le_b rfl) (le_b rfl) k_n (k_L fun z26 h26 q26 => ?_)
    obtain ⟨rfl, rfl⟩ := q26
    refine ev_ll (k_m_isBehind 14 rfl) rfl ?_
    refine ev_ilw (k_m_isBehind 15 rfl) rfl ?_
    refine ev_cS (k_m_isBehind 16 rfl) rfl v_m_cut (c_m_cut G _ o (dgn c.toNat) (by omega)) rfl (le_b rfl) (le_b rfl) (le_b rfl) k_n (k_L fun z27 h27 q27 => ?_)
    obtain ⟨rfl, rfl⟩ := q27
    refine ev_lc_gt (k_m_isBehind 17 rfl) (k_m_isBehind 18 rfl) (fun c28 => ?_) (fun c28 => ?_)
    · refine ev_ic (k_m_isBehind 23 rfl) ?_
      refine ev_goto (k_m_isBehind 24 rfl) ?_
      exact ev_zret (x := true) (k_m_isBehind 26 rfl) rfl (⟨true, rfl, rfl, by first | (simp only [bhd, show min (dgn c.toNat) (dgn o.toNat) = dgn c.toNat by omega]; simp_all; done) | (simp only [bhd, show min (dgn c.toNat) (dgn o.toNat) = dgn o.toNat by omega]; simp_all; done)⟩)
    · refine ev_ll (k_m_isBehind 19 rfl) rfl ?_
      refine ev_ll (k_m_isBehind 20 rfl) rfl ?_
      refine ev_cS (k_m_isBehind 21 rfl) rfl v_m_begins (c_m_begins G _ c o (by omega)) rfl (le_b rfl) (le_b rfl) (le_b rfl) k_n (k_B fun z29 h29 q29 => ?_)
      obtain ⟨rfl, rfl⟩ := q29
      refine ev_b_eq (k_m_isBehind 22 rfl) (fun c30 => ?_) (fun c30 => ?_)
      · refine ev_ic (k_m_isBehind 25 rfl) ?_
        exact ev_zret (x := false) (k_m_isBehind 26 rfl) rfl (⟨false, rfl, rfl, by first | (simp only [bhd, show min (dgn c.toNat) (dgn o.toNat) = dgn c.toNat by omega]; simp_all; done) | (simp only [bhd, show min (dgn c.toNat) (dgn o.toNat) = dgn o.toNat by omega]; simp_all; done)⟩)
      · refine ev_ic (k_m_isBehind 23 rfl) ?_
        refine ev_goto (k_m_isBehind 24 rfl) ?_
        exact ev_zret (x := true) (k_m_isBehind 26 rfl) rfl (⟨true, rfl, rfl, by first | (simp only [bhd, show min (dgn c.toNat) (dgn o.toNat) = dgn c.toNat by omega]; simp_all; done) | (simp only [bhd, show min (dgn c.toNat) (dgn o.toNat) = dgn o.toNat by omega]; simp_all; done)⟩)
