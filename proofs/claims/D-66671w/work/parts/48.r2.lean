def ln10 (v : Nat) : Nat := if v = 0 then 0 else dgn v + 1
theorem ln10_s {v : Nat} (h : 0 < v) : ln10 v = ln10 (v / 10) + 1 := by
  unfold ln10
  rw [if_neg (by omega)]
  by_cases c : 9 < v
  · rw [dgn_s c, if_neg (by omega)]
  · rw [dgn_0 (by omega), if_pos (by omega)]
theorem len_fin {c v : Int} {k : Nat} (hc : 0 < c) (h : k + ln10 v.toNat = ln10 c.toNat) (hv : v.toNat = 0) : k = dgn c.toNat + 1 := by
  rw [hv] at h
  unfold ln10 at h
  rw [if_pos rfl, if_neg (by omega)] at h
  omega
theorem dgn_div {c : Nat} : ∀ j : Nat, 0 < c / 10 ^ j → dgn (c / 10 ^ j) + j = dgn c
  | 0, _ => by simp
  | j + 1, h => by
    have e : c / 10 ^ (j + 1) = c / 10 ^ j / 10 := by rw [Nat.pow_succ, Nat.div_div_eq_div_mul]
    rw [e] at h ⊢
    have h9 : 9 < c / 10 ^ j := by omega
    have ih := dgn_div (c := c) j (by omega)
    rw [dgn_s h9] at ih
    omega
theorem toNat_div {c : Int} (hc : 0 ≤ c) (j : Nat) : (c / 10 ^ j).toNat = c.toNat / 10 ^ j := by
  obtain ⟨n, rfl⟩ := Int.eq_ofNat_of_zero_le hc
  rw [show ((10 : Int) ^ j) = ((10 ^ j : Nat) : Int) by simp, ← Int.natCast_ediv]
  rfl
theorem bgn_iff {c w : Int} (hc : 0 < c) (hw : 0 < w) : bgn c w = true ↔ ∃ j, 0 < j ∧ c / 10 ^ j = w := by
  unfold bgn cutZ
  rw [Bool.and_eq_true, decide_eq_true_iff, decide_eq_true_iff]
  constructor
  · rintro ⟨h1, h2⟩
    exact ⟨dgn c.toNat - dgn w.toNat, by omega, h2⟩
  · rintro ⟨j, h1, h2⟩
    have h3 := toNat_div (c := c) (by omega) j
    rw [h2] at h3
    have h4 := dgn_div (c := c.toNat) j (by omega)
    rw [← h3] at h4
    refine ⟨by omega, ?_⟩
    rw [show dgn c.toNat - dgn w.toNat = j by omega]; exact h2
theorem ediv_mono {c : Int} (hc : 0 ≤ c) {i j : Nat} (h : i ≤ j) : c / 10 ^ j ≤ c / 10 ^ i := by
  obtain ⟨d, rfl⟩ := Nat.exists_eq_add_of_le h
  rw [Int.pow_add, ← Int.ediv_ediv_of_nonneg (Int.pow_nonneg (by decide))]
  exact Int.ediv_le_self _ (Int.ediv_nonneg hc (Int.pow_nonneg (by decide)))
theorem ediv_lt1 {c : Int} (hc : 0 < c) {j : Nat} (hj : 0 < j) : c / 10 ^ j < c := by
  have h1 := ediv_mono (c := c) (by omega) (show 1 ≤ j from hj)
  have h2 : c / 10 ^ 1 < c := by rw [Int.pow_one]; omega
  omega
set_option maxHeartbeats 2000000 in
theorem c_r_length (G : gt_T) (h : ab_H) (c : Int) (hc : 0 < c) : ct G M_r_length 0 0 0 0 [vL c] h (rI fun z h' => h = h' ∧ z = ((dgn c.toNat + 1 : Nat) : Int)) nT := by
  show ev _ _ _ _ _ _ 0 [some (vL c), none, none, none, none] [] _ _ _
  refine ev_loc 0 rfl (fun (ok : inL c) => ?_)
  have hb := dgn_18 ok
  have loop : ∀ (fu : Nat) (k : Nat) (v : Int), (0 ≤ v ∧ k ≤ 19) → (k + ln10 v.toNat = ln10 c.toNat) → v.toNat < fu → ev G M_r_length 0 0 0 0 4 [some (vL c), none, some (vI (k : Int)), some (vL v), none] [] h (rI fun z h' => h = h' ∧ z = ((dgn c.toNat + 1 : Nat) : Int)) nT := by
    intro fu
    induction fu with
    | zero => intros; omega
    | succ fu ih =>
      intro k v h1 h2 hn
      have hl : ln10 c.toNat ≤ 19 := by unfold ln10; split <;> omega
      refine ev_ll (k_r_length 4 rfl) rfl ?_
      refine ev_lc (k_r_length 5 rfl) ?_
      refine ev_lc_le (k_r_length 6 rfl) (k_r_length 7 rfl) (fun c539 => ?_) (fun c539 => ?_)
      · refine ev_il (k_r_length 14 rfl) rfl ?_
        exact ev_iret (k_r_length 15 rfl) rfl (⟨_, rfl, rfl, by rw [len_fin hc h2 (by omega)]⟩)
      · refine ev_iinc (k_r_length 8 rfl) rfl (by omega) (show ev _ _ _ _ _ _ 13 [some (vL c), none, some (vI ((k : Int) + 1)), some (vL v), none] _ _ _ _ from ?_)
        refine ev_ll (k_r_length 9 rfl) rfl ?_
        refine ev_ldc2 (k_r_length 10 rfl) ?_
        refine ev_ldiv (k_r_length 11 rfl) (by omega) (by omega) ?_
        refine ev_ls (k_r_length 12 rfl) (le_b rfl) (show ev _ _ _ _ _ _ 19 [some (vL c), none, some (vI ((k : Int) + 1)), some (vL (v / 10)), none] _ _ _ _ from ?_)
        refine ev_goto (k_r_length 13 rfl) ?_
        rw [show (k : Int) + 1 = ((k + 1 : Nat) : Int) by omega]
        have hs := ln10_s (v := v.toNat) (by omega)
        exact ih (k + 1) (v / 10) ⟨by omega, by omega⟩ (by rw [show (v / 10).toNat = v.toNat / 10 by omega]; omega) (by omega)
  refine ev_ic (k_r_length 0 rfl) ?_
  refine ev_is (k_r_length 1 rfl) (le_b rfl) (show ev _ _ _ _ _ _ 2 [some (vL c), none, some (vI 0), none, none] _ _ _ _ from ?_)
  refine ev_ll (k_r_length 2 rfl) rfl ?_
  refine ev_ls (k_r_length 3 rfl) (le_b rfl) (show ev _ _ _ _ _ _ 4 [some (vL c), none, some (vI 0), some (vL c), none] _ _ _ _ from ?_)
  exact loop (c.toNat + 1) 0 c ⟨by omega, by omega⟩ (by omega) (by omega)
set_option maxHeartbeats 2000000 in
theorem c_r_begins (G : gt_T) (h : ab_H) (c w : Int) (hc : 0 < c) (hw : 0 < w) : ct G M_r_begins 0 0 0 0 [vL c, vL w] h (rB fun z h' => h = h' ∧ z = bgn c w) nT := by
  show ev _ _ _ _ _ _ 0 [some (vL c), none, some (vL w), none, none, none] [] _ _ _
  have loop : ∀ (fu : Nat) (j : Nat) (v : Int), (0 ≤ v) → (v = c / 10 ^ j) → (∀ i, i < j → w < c / 10 ^ i) → v.toNat < fu → ev G M_r_begins 0 0 0 0 3 [some (vL c), none, some (vL w), none, some (vL v), none] [] h (rB fun z h' => h = h' ∧ z = bgn c w) nT := by
    intro fu
    induction fu with
    | zero => intros; omega
    | succ fu ih =>
      intro j v h1 h3 h4 hn
      refine ev_llw (k_r_begins 2 rfl) rfl ?_
      refine ev_ll (k_r_begins 3 rfl) rfl ?_
      refine ev_lc_le (k_r_begins 4 rfl) (k_r_begins 5 rfl) (fun c540 => ?_) (fun c540 => ?_)
      · refine ev_llw (k_r_begins 11 rfl) rfl ?_
        refine ev_ll (k_r_begins 12 rfl) rfl ?_
        refine ev_lc_ne (k_r_begins 13 rfl) (k_r_begins 14 rfl) (fun c541 => ?_) (fun c541 => ?_)
        · refine ev_ic (k_r_begins 21 rfl) ?_
          exact ev_zret (x := false) (k_r_begins 22 rfl) rfl (⟨false, rfl, rfl, by cases hz : bgn c w with | false => rfl | true => (exfalso; obtain ⟨q, q1, q2⟩ := (bgn_iff hc hw).mp hz; have hq1 := ediv_lt1 hc q1; have hq : j ≤ q := (by by_cases z : j ≤ q; exact z; exact absurd (h4 q (by omega)) (by omega)); have hq3 := ediv_mono (c := c) (by omega) hq; omega)⟩)
        · refine ev_ll (k_r_begins 15 rfl) rfl ?_
          refine ev_ll (k_r_begins 16 rfl) rfl ?_
          refine ev_lc_le (k_r_begins 17 rfl) (k_r_begins 18 rfl) (fun c542 => ?_) (fun c542 => ?_)
          · refine ev_ic (k_r_begins 21 rfl) ?_
            exact ev_zret (x := false) (k_r_begins 22 rfl) rfl (⟨false, rfl, rfl, by cases hz : bgn c w with | false => rfl | true => (exfalso; obtain ⟨q, q1, q2⟩ := (bgn_iff hc hw).mp hz; have hq1 := ediv_lt1 hc q1; have hq : j ≤ q := (by by_cases z : j ≤ q; exact z; exact absurd (h4 q (by omega)) (by omega)); have hq3 := ediv_mono (c := c) (by omega) hq; omega)⟩)
          · refine ev_ic (k_r_begins 19 rfl) ?_
            refine ev_goto (k_r_begins 20 rfl) ?_
            exact ev_zret (x := true) (k_r_begins 22 rfl) rfl (⟨true, rfl, rfl, ((bgn_iff hc hw).mpr ⟨j, by by_cases z : j = 0; (rw [z] at h3; simp at h3; omega); omega, by omega⟩).symm⟩)
      · refine ev_llw (k_r_begins 6 rfl) rfl ?_
        refine ev_ldc2 (k_r_begins 7 rfl) ?_
        refine ev_ldiv (k_r_begins 8 rfl) (by omega) (by omega) ?_
        refine ev_lsw (k_r_begins 9 rfl) (le_b rfl) (show ev _ _ _ _ _ _ 18 [some (vL c), none, some (vL w), none, some (vL (v / 10)), none] _ _ _ _ from ?_)
        refine ev_goto (k_r_begins 10 rfl) ?_
        exact ih (j + 1) (v / 10) (by omega) (by rw [h3, ediv_step]) (fun i hi => by by_cases z : i = j; (rw [z, ← h3]; omega); exact h4 i (by omega)) (by omega)
  refine ev_ll (k_r_begins 0 rfl) rfl ?_
  refine ev_lsw (k_r_begins 1 rfl) (le_b rfl) (show ev _ _ _ _ _ _ 3 [some (vL c), none, some (vL w), none, some (vL c), none] _ _ _ _ from ?_)
  exact loop (c.toNat + 1) 0 c (by omega) (by simp) (fun i hi => absurd hi (by omega)) (by omega)
theorem dgn_lo {n : Nat} (h : 0 < n) : 10 ^ dgn n ≤ n := by
  induction n using Nat.strongRecOn with
  | _ n ih =>
    by_cases c : 9 < n
    · rw [dgn_s c, Nat.pow_succ]
      have := ih (n / 10) (by omega) (by omega)
      omega
    · rw [dgn_0 (by omega)]; omega
theorem dgn_hi (n : Nat) : n < 10 ^ (dgn n + 1) := by
  induction n using Nat.strongRecOn with
  | _ n ih =>
    by_cases c : 9 < n
    · rw [dgn_s c, Nat.pow_succ]
      have := ih (n / 10) (by omega)
      omega
    · rw [dgn_0 (by omega)]; omega
/-- both as if they had as many digits -/
def pdA (c o : Int) : Int := c * 10 ^ (dgn o.toNat - dgn c.toNat)
theorem bhd_eq {c o : Int} (hc : 0 < c) (ho : 0 < o) : bhd c o = (if pdA c o ≠ pdA o c then decide (pdA o c < pdA c o) else decide (o < c)) := by
  unfold bhd pdA
  have hp : ∀ k : Nat, (0 : Int) < 10 ^ k := fun k => Int.pow_pos (by decide)
  have hlo : (10 : Int) ^ dgn o.toNat ≤ o := by
    have := dgn_lo (n := o.toNat) (by omega)
    have e : ((10 ^ dgn o.toNat : Nat) : Int) = 10 ^ dgn o.toNat := by simp
    omega
  have hclo : (10 : Int) ^ dgn c.toNat ≤ c := by
    have := dgn_lo (n := c.toNat) (by omega)
    have e : ((10 ^ dgn c.toNat : Nat) : Int) = 10 ^ dgn c.toNat := by simp
    omega
  rcases Nat.lt_trichotomy (dgn c.toNat) (dgn o.toNat) with hl | hl | hl
  · -- o is longer
    rw [show min (dgn c.toNat) (dgn o.toNat) = dgn c.toNat by omega, show dgn c.toNat - dgn o.toNat = 0 by omega]
    have e1 : cutZ c (dgn c.toNat) = c := by unfold cutZ; rw [Nat.sub_self]; simp
    have e2 : bgn c o = false := by unfold bgn; rw [decide_eq_false (by omega)]; rfl
    rw [e1, e2, Bool.or_false]
    unfold cutZ
    generalize dgn o.toNat - dgn c.toNat = k at *
    have h1 := hp k
    have h2 : o / 10 ^ k < c ↔ o < c * 10 ^ k := Int.ediv_lt_iff_lt_mul h1
    simp only [Int.pow_zero, Int.mul_one]
    by_cases h3 : c * 10 ^ k ≠ o
    · rw [if_pos h3]
      exact decide_eq_decide.mpr h2
    · rw [if_neg h3]
      refine decide_eq_decide.mpr ?_
      rw [h2]
      have h4 : c * 10 ^ k = o := by omega
      have h5 : c ≤ c * 10 ^ k := by have := Int.mul_le_mul_of_nonneg_left (show (1 : Int) ≤ 10 ^ k by omega) (show 0 ≤ c by omega); omega
      omega
  · rw [hl, Nat.min_self, Nat.sub_self]
    have e1 : cutZ c (dgn o.toNat) = c := by unfold cutZ; rw [hl, Nat.sub_self]; simp
    have e3 : cutZ o (dgn o.toNat) = o := by unfold cutZ; rw [Nat.sub_self]; simp
    have e2 : bgn c o = false := by unfold bgn; rw [decide_eq_false (by omega)]; rfl
    rw [e1, e2, e3, Bool.or_false]
    simp only [Int.pow_zero, Int.mul_one]
    split <;> rfl
  · rw [show min (dgn c.toNat) (dgn o.toNat) = dgn o.toNat by omega, show dgn o.toNat - dgn c.toNat = 0 by omega]
    have e3 : cutZ o (dgn o.toNat) = o := by unfold cutZ; rw [Nat.sub_self]; simp
    have e2 : bgn c o = decide (cutZ c (dgn o.toNat) = o) := by unfold bgn; rw [decide_eq_true hl]; rfl
    rw [e2, e3]
    unfold cutZ
    generalize dgn c.toNat - dgn o.toNat = k at *
    have h1 := hp k
    have h2 : o ≤ c / 10 ^ k ↔ o * 10 ^ k ≤ c := Int.le_ediv_iff_mul_le h1
    have h5 : o ≤ o * 10 ^ k := by have := Int.mul_le_mul_of_nonneg_left (show (1 : Int) ≤ 10 ^ k by omega) (show 0 ≤ o by omega); omega
    simp only [Int.pow_zero, Int.mul_one]
    rw [← Bool.decide_or]
    have key : (o < c / 10 ^ k ∨ c / 10 ^ k = o) ↔ o * 10 ^ k ≤ c := by rw [← h2]; omega
    by_cases h3 : c ≠ o * 10 ^ k
    · rw [if_pos h3]
      exact decide_eq_decide.mpr (by rw [key]; omega)
    · rw [if_neg h3]
      refine decide_eq_decide.mpr ?_
      rw [key]
      have hk : o < c := by
        have a1 := dgn_hi o.toNat
        have a2 := dgn_lo (n := c.toNat) (by omega)
        have a3 : 10 ^ (dgn o.toNat + 1) ≤ 10 ^ dgn c.toNat := Nat.pow_le_pow_right (by decide) (by omega)
        omega
      omega
theorem dgn_12 {c : Int} (h0 : 0 < c) (h : c < 1000000000000) : dgn c.toNat ≤ 11 := dgn_le 11 _ (by omega)
theorem pd_b {c : Int} {k m : Nat} (hc : 0 < c) (h : dgn c.toNat + k ≤ m) (hm : m ≤ 11) : 0 ≤ c * 10 ^ k ∧ c * 10 ^ k < 1000000000000 := by
  have h1 := dgn_hi c.toNat
  have e : ((10 ^ (dgn c.toNat + 1) : Nat) : Int) = 10 ^ (dgn c.toNat + 1) := by simp
  have hp : (0 : Int) < 10 ^ k := Int.pow_pos (by decide)
  refine ⟨Int.mul_nonneg (by omega) (by omega), ?_⟩
  have h2 : c * 10 ^ k < 10 ^ (dgn c.toNat + 1) * 10 ^ k := Int.mul_lt_mul_of_pos_right (by omega) hp
  rw [← Int.pow_add] at h2
  have h3 := ipow_mono (show (1 : Int) ≤ 10 by decide) (show dgn c.toNat + 1 + k ≤ 12 by omega)
  have h4 : (10 : Int) ^ 12 = 1000000000000 := by decide
  omega
set_option maxHeartbeats 4000000 in
theorem lp_pa {G : gt_T} {Cc Ss : Nat} {Φ : Option ab_V → ab_H → Prop} {Θ : Nat → ab_H → Prop} {h : ab_H} {c o : Int} (hc : 0 < c) (ho : 0 < o) (hc12 : c < 1000000000000) (ho12 : o < 1000000000000) (k0 : ∀ (_ : True), ev G M_r_comesBehind 1 24 Cc Ss 35 [some (vL c), none, some (vL o), none, some (vL (pdA c o)), none, some (vL o), none, none] [] h Φ Θ) : ∀ (fu : Nat) (k : Nat), (k ≤ dgn o.toNat - dgn c.toNat) → dgn o.toNat - dgn c.toNat - k < fu → ev G M_r_comesBehind 1 24 Cc Ss 12 [some (vL c), none, some (vL o), none, some (vL (c * 10 ^ k)), none, some (vL o), none, some (vI ((dgn c.toNat + 1 + k : Nat) : Int))] [] h Φ Θ := by
  intro fu
  induction fu with
  | zero => intros; omega
  | succ fu ih =>
      intro k h1 hn
      have hd1 := dgn_12 hc hc12
      have hd2 := dgn_12 ho ho12
      have hb := fun z : k + 1 ≤ dgn o.toNat - dgn c.toNat => pd_b (c := c) (k := k) (m := 11) (by omega) (by omega) (by omega)
      refine ev_ilw (k_r_comesBehind 7 rfl) rfl ?_
      refine ev_ll (k_r_comesBehind 8 rfl) rfl ?_
      refine ev_cS (k_r_comesBehind 9 rfl) rfl v_r_length (c_r_length G _ o (by omega)) rfl (le_b rfl) (le_b rfl) (le_b rfl) k_n (k_I fun z543 h543 q543 => ?_)
      obtain ⟨rfl, rfl⟩ := q543
      refine ev_ic_ge (k_r_comesBehind 10 rfl) (fun c544 => ?_) (fun c544 => ?_)
      · refine ev_dead 8 (show ev _ _ _ _ _ _ 35 [some (vL c), none, some (vL o), none, some (vL (c * 10 ^ k)), none, some (vL o), none, none] _ _ _ _ from ?_)
        have hkk : k = dgn o.toNat - dgn c.toNat := by omega
        subst hkk
        exact k0 trivial
      · refine ev_llw (k_r_comesBehind 11 rfl) rfl ?_
        refine ev_ldc2 (k_r_comesBehind 12 rfl) ?_
        refine ev_lmul (k_r_comesBehind 13 rfl) (by omega) ?_
        refine ev_lsw (k_r_comesBehind 14 rfl) (le_b rfl) (show ev _ _ _ _ _ _ 29 [some (vL c), none, some (vL o), none, some (vL ((c * 10 ^ k) * 10)), none, some (vL o), none, some (vI ((dgn c.toNat + 1 + k : Nat) : Int))] _ _ _ _ from ?_)
        refine ev_iinc (k_r_comesBehind 15 rfl) rfl (by omega) (show ev _ _ _ _ _ _ 32 [some (vL c), none, some (vL o), none, some (vL ((c * 10 ^ k) * 10)), none, some (vL o), none, some (vI (((dgn c.toNat + 1 + k : Nat) : Int) + 1))] _ _ _ _ from ?_)
        refine ev_goto (k_r_comesBehind 16 rfl) ?_
        rw [show c * 10 ^ k * 10 = c * 10 ^ (k + 1) by rw [Int.pow_succ, Int.mul_assoc], show ((dgn c.toNat + 1 + k : Nat) : Int) + 1 = ((dgn c.toNat + 1 + (k + 1) : Nat) : Int) by omega]
        exact ih (k + 1) (by omega) (by omega)
set_option maxHeartbeats 4000000 in
theorem lp_pb {G : gt_T} {Cc Ss : Nat} {Φ : Option ab_V → ab_H → Prop} {Θ : Nat → ab_H → Prop} {h : ab_H} {c o : Int} (hc : 0 < c) (ho : 0 < o) (hc12 : c < 1000000000000) (ho12 : o < 1000000000000) (k0 : ∀ (_ : True), ev G M_r_comesBehind 1 24 Cc Ss 64 [some (vL c), none, some (vL o), none, some (vL (pdA c o)), none, some (vL (pdA o c)), none, none] [] h Φ Θ) : ∀ (fu : Nat) (k : Nat), (k ≤ dgn c.toNat - dgn o.toNat) → dgn c.toNat - dgn o.toNat - k < fu → ev G M_r_comesBehind 1 24 Cc Ss 41 [some (vL c), none, some (vL o), none, some (vL (pdA c o)), none, some (vL (o * 10 ^ k)), none, some (vI ((dgn o.toNat + 1 + k : Nat) : Int))] [] h Φ Θ := by
  intro fu
  induction fu with
  | zero => intros; omega
  | succ fu ih =>
      intro k h1 hn
      have hd1 := dgn_12 hc hc12
      have hd2 := dgn_12 ho ho12
      have hb := fun z : k + 1 ≤ dgn c.toNat - dgn o.toNat => pd_b (c := o) (k := k) (m := 11) (by omega) (by omega) (by omega)
      refine ev_ilw (k_r_comesBehind 20 rfl) rfl ?_
      refine ev_ll (k_r_comesBehind 21 rfl) rfl ?_
      refine ev_cS (k_r_comesBehind 22 rfl) rfl v_r_length (c_r_length G _ c (by omega)) rfl (le_b rfl) (le_b rfl) (le_b rfl) k_n (k_I fun z545 h545 q545 => ?_)
      obtain ⟨rfl, rfl⟩ := q545
      refine ev_ic_ge (k_r_comesBehind 23 rfl) (fun c546 => ?_) (fun c546 => ?_)
      · refine ev_dead 8 (show ev _ _ _ _ _ _ 64 [some (vL c), none, some (vL o), none, some (vL (pdA c o)), none, some (vL (o * 10 ^ k)), none, none] _ _ _ _ from ?_)
        have hkk : k = dgn c.toNat - dgn o.toNat := by omega
        subst hkk
        exact k0 trivial
      · refine ev_llw (k_r_comesBehind 24 rfl) rfl ?_
        refine ev_ldc2 (k_r_comesBehind 25 rfl) ?_
        refine ev_lmul (k_r_comesBehind 26 rfl) (by omega) ?_
        refine ev_lsw (k_r_comesBehind 27 rfl) (le_b rfl) (show ev _ _ _ _ _ _ 58 [some (vL c), none, some (vL o), none, some (vL (pdA c o)), none, some (vL ((o * 10 ^ k) * 10)), none, some (vI ((dgn o.toNat + 1 + k : Nat) : Int))] _ _ _ _ from ?_)
        refine ev_iinc (k_r_comesBehind 28 rfl) rfl (by omega) (show ev _ _ _ _ _ _ 61 [some (vL c), none, some (vL o), none, some (vL (pdA c o)), none, some (vL ((o * 10 ^ k) * 10)), none, some (vI (((dgn o.toNat + 1 + k : Nat) : Int) + 1))] _ _ _ _ from ?_)
        refine ev_goto (k_r_comesBehind 29 rfl) ?_
        rw [show o * 10 ^ k * 10 = o * 10 ^ (k + 1) by rw [Int.pow_succ, Int.mul_assoc], show ((dgn o.toNat + 1 + k : Nat) : Int) + 1 = ((dgn o.toNat + 1 + (k + 1) : Nat) : Int) by omega]
        exact ih (k + 1) (by omega) (by omega)
set_option maxHeartbeats 4000000 in
theorem c_r_comesBehind (G : gt_T) (h : ab_H) (c o : Int) (hc : 0 < c) (ho : 0 < o) (hc12 : c < 1000000000000) (ho12 : o < 1000000000000) : ct G M_r_comesBehind 1 24 0 0 [vL c, vL o] h (rB fun z h' => h = h' ∧ z = bhd c o) nT := by
  show ev _ _ _ _ _ _ 0 [some (vL c), none, some (vL o), none, none, none, none, none, none] [] _ _ _
  refine ev_ll (k_r_comesBehind 0 rfl) rfl ?_
  refine ev_lsw (k_r_comesBehind 1 rfl) (le_b rfl) (show ev _ _ _ _ _ _ 3 [some (vL c), none, some (vL o), none, some (vL c), none, none, none, none] _ _ _ _ from ?_)
  refine ev_ll (k_r_comesBehind 2 rfl) rfl ?_
  refine ev_lsw (k_r_comesBehind 3 rfl) (le_b rfl) (show ev _ _ _ _ _ _ 6 [some (vL c), none, some (vL o), none, some (vL c), none, some (vL o), none, none] _ _ _ _ from ?_)
  refine ev_ll (k_r_comesBehind 4 rfl) rfl ?_
  refine ev_cS (k_r_comesBehind 5 rfl) rfl v_r_length (c_r_length G _ c (by omega)) rfl (le_b rfl) (le_b rfl) (le_b rfl) k_n (k_I fun z547 h547 q547 => ?_)
  obtain ⟨rfl, rfl⟩ := q547
  refine ev_isw (k_r_comesBehind 6 rfl) (le_b rfl) (show ev _ _ _ _ _ _ 12 [some (vL c), none, some (vL o), none, some (vL c), none, some (vL o), none, some (vI ((dgn c.toNat + 1 : Nat) : Int))] _ _ _ _ from ?_)
  rw [show ((dgn c.toNat + 1 : Nat) : Int) = ((dgn c.toNat + 1 + 0 : Nat) : Int) from rfl]
  refine ev_dead 99 ?_
  show ev _ _ _ _ _ _ 12 [some (vL c), none, some (vL o), none, some (vL c), none, some (vL o), none, some (vI ((dgn c.toNat + 1 + 0 : Nat) : Int))] [] _ _ _
  have hA := lp_pa (G := G) (Cc := 0) (Ss := 0) (h := h) (Φ := rB fun z h' => h = h' ∧ z = bhd c o) (Θ := nT) hc ho hc12 ho12 (fun _ => ?_) (dgn o.toNat + 1) 0 (by omega) (by omega)
  · rw [Int.pow_zero, Int.mul_one] at hA; exact hA
  refine ev_ll (k_r_comesBehind 17 rfl) rfl ?_
  refine ev_cS (k_r_comesBehind 18 rfl) rfl v_r_length (c_r_length G _ o (by omega)) rfl (le_b rfl) (le_b rfl) (le_b rfl) k_n (k_I fun z548 h548 q548 => ?_)
  obtain ⟨rfl, rfl⟩ := q548
  refine ev_isw (k_r_comesBehind 19 rfl) (le_b rfl) (show ev _ _ _ _ _ _ 41 [some (vL c), none, some (vL o), none, some (vL (pdA c o)), none, some (vL o), none, some (vI ((dgn o.toNat + 1 : Nat) : Int))] _ _ _ _ from ?_)
  rw [show ((dgn o.toNat + 1 : Nat) : Int) = ((dgn o.toNat + 1 + 0 : Nat) : Int) from rfl]
  have hB := lp_pb (G := G) (Cc := 0) (Ss := 0) (h := h) (Φ := rB fun z h' => h = h' ∧ z = bhd c o) (Θ := nT) hc ho hc12 ho12 (fun _ => ?_) (dgn c.toNat + 1) 0 (by omega) (by omega)
  · rw [Int.pow_zero, Int.mul_one] at hB; exact hB
  refine ev_llw (k_r_comesBehind 30 rfl) rfl ?_
  refine ev_llw (k_r_comesBehind 31 rfl) rfl ?_
  refine ev_lc_eq (k_r_comesBehind 32 rfl) (k_r_comesBehind 33 rfl) (fun c549 => ?_) (fun c549 => ?_)
  · refine ev_ll (k_r_comesBehind 42 rfl) rfl ?_
    refine ev_ll (k_r_comesBehind 43 rfl) rfl ?_
    refine ev_lc_le (k_r_comesBehind 44 rfl) (k_r_comesBehind 45 rfl) (fun c550 => ?_) (fun c550 => ?_)
    · refine ev_ic (k_r_comesBehind 48 rfl) ?_
      exact ev_zret (x := false) (k_r_comesBehind 49 rfl) rfl (⟨false, rfl, rfl, by rw [bhd_eq hc ho]; first | (rw [if_pos (by assumption)]; symm; first | exact decide_eq_true (by omega) | exact decide_eq_false (by omega)) | (rw [if_neg (by omega)]; symm; first | exact decide_eq_true (by omega) | exact decide_eq_false (by omega))⟩)
    · refine ev_ic (k_r_comesBehind 46 rfl) ?_
      refine ev_goto (k_r_comesBehind 47 rfl) ?_
      exact ev_zret (x := true) (k_r_comesBehind 49 rfl) rfl (⟨true, rfl, rfl, by rw [bhd_eq hc ho]; first | (rw [if_pos (by assumption)]; symm; first | exact decide_eq_true (by omega) | exact decide_eq_false (by omega)) | (rw [if_neg (by omega)]; symm; first | exact decide_eq_true (by omega) | exact decide_eq_false (by omega))⟩)
  · refine ev_llw (k_r_comesBehind 34 rfl) rfl ?_
    refine ev_llw (k_r_comesBehind 35 rfl) rfl ?_
    refine ev_lc_le (k_r_comesBehind 36 rfl) (k_r_comesBehind 37 rfl) (fun c551 => ?_) (fun c551 => ?_)
    · refine ev_ic (k_r_comesBehind 40 rfl) ?_
      refine ev_goto (k_r_comesBehind 41 rfl) ?_
      exact ev_zret (x := false) (k_r_comesBehind 49 rfl) rfl (⟨false, rfl, rfl, by rw [bhd_eq hc ho]; first | (rw [if_pos (by assumption)]; symm; first | exact decide_eq_true (by omega) | exact decide_eq_false (by omega)) | (rw [if_neg (by omega)]; symm; first | exact decide_eq_true (by omega) | exact decide_eq_false (by omega))⟩)
    · refine ev_ic (k_r_comesBehind 38 rfl) ?_
      refine ev_goto (k_r_comesBehind 39 rfl) ?_
      exact ev_zret (x := true) (k_r_comesBehind 49 rfl) rfl (⟨true, rfl, rfl, by rw [bhd_eq hc ho]; first | (rw [if_pos (by assumption)]; symm; first | exact decide_eq_true (by omega) | exact decide_eq_false (by omega)) | (rw [if_neg (by omega)]; symm; first | exact decide_eq_true (by omega) | exact decide_eq_false (by omega))⟩)
