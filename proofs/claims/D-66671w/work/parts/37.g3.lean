theorem enc_app32 (w : List Int) (x : Int) : enc 32 (w ++ [x]) = 32 * enc 32 w + x := by simp [enc]
theorem enc_nn32 : ∀ (n : Nat) (w : List Int), w.length ≤ n → (∀ x ∈ w, 1 ≤ x ∧ x ≤ 26) → 0 ≤ enc 32 w := by
  intro n
  induction n with
  | zero => intro w hl _; have : w = [] := List.eq_nil_of_length_eq_zero (by omega); subst this; decide
  | succ n ih =>
    intro w hl hx
    rcases List.eq_nil_or_concat w with rfl | ⟨l, x, rfl⟩
    · decide
    · rw [List.concat_eq_append, enc_app32]
      have h1 := ih l (by simp at hl; omega) (fun y hy => hx y (by simp [hy]))
      have h2 := hx x (by simp)
      omega
theorem enc_inj32 : ∀ (n : Nat) (w v : List Int), w.length ≤ n → (∀ x ∈ w, 1 ≤ x ∧ x ≤ 26) → (∀ x ∈ v, 1 ≤ x ∧ x ≤ 26) → enc 32 w = enc 32 v → w = v := by
  intro n
  induction n with
  | zero =>
    intro w v hl hw hv he
    have : w = [] := List.eq_nil_of_length_eq_zero (by omega)
    subst this
    rcases List.eq_nil_or_concat v with rfl | ⟨l, x, rfl⟩
    · rfl
    · exfalso
      rw [List.concat_eq_append, enc_app32] at he
      have h1 := enc_nn32 _ l (Nat.le_refl _) (fun y hy => hv y (by simp [hy]))
      have h2 := hv x (by simp)
      have h3 : enc 32 [] = 0 := rfl
      omega
  | succ n ih =>
    intro w v hl hw hv he
    rcases List.eq_nil_or_concat w with rfl | ⟨l, x, rfl⟩
    · rcases List.eq_nil_or_concat v with rfl | ⟨l, x, rfl⟩
      · rfl
      · exfalso
        rw [List.concat_eq_append, enc_app32] at he
        have h1 := enc_nn32 _ l (Nat.le_refl _) (fun y hy => hv y (by simp [hy]))
        have h2 := hv x (by simp)
        have h3 : enc 32 [] = 0 := rfl
        omega
    · rcases List.eq_nil_or_concat v with rfl | ⟨m, y, rfl⟩
      · exfalso
        rw [List.concat_eq_append, enc_app32] at he
        have h1 := enc_nn32 _ l (Nat.le_refl _) (fun y hy => hw y (by simp [hy]))
        have h2 := hw x (by simp)
        have h3 : enc 32 [] = 0 := rfl
        omega
      · rw [List.concat_eq_append, List.concat_eq_append, enc_app32, enc_app32] at he
        have h2 := hw x (by simp)
        have h3 := hv y (by simp)
        have e1 : enc 32 l = enc 32 m := by omega
        have e2 : x = y := by omega
        rw [ih l m (by simp at hl; omega) (fun z hz => hw z (by simp [hz])) (fun z hz => hv z (by simp [hz])) e1, e2]
theorem enc_app27 (w : List Int) (x : Int) : enc 27 (w ++ [x]) = 27 * enc 27 w + x := by simp [enc]
theorem enc_nn27 : ∀ (n : Nat) (w : List Int), w.length ≤ n → (∀ x ∈ w, 1 ≤ x ∧ x ≤ 26) → 0 ≤ enc 27 w := by
  intro n
  induction n with
  | zero => intro w hl _; have : w = [] := List.eq_nil_of_length_eq_zero (by omega); subst this; decide
  | succ n ih =>
    intro w hl hx
    rcases List.eq_nil_or_concat w with rfl | ⟨l, x, rfl⟩
    · decide
    · rw [List.concat_eq_append, enc_app27]
      have h1 := ih l (by simp at hl; omega) (fun y hy => hx y (by simp [hy]))
      have h2 := hx x (by simp)
      omega
theorem enc_inj27 : ∀ (n : Nat) (w v : List Int), w.length ≤ n → (∀ x ∈ w, 1 ≤ x ∧ x ≤ 26) → (∀ x ∈ v, 1 ≤ x ∧ x ≤ 26) → enc 27 w = enc 27 v → w = v := by
  intro n
  induction n with
  | zero =>
    intro w v hl hw hv he
    have : w = [] := List.eq_nil_of_length_eq_zero (by omega)
    subst this
    rcases List.eq_nil_or_concat v with rfl | ⟨l, x, rfl⟩
    · rfl
    · exfalso
      rw [List.concat_eq_append, enc_app27] at he
      have h1 := enc_nn27 _ l (Nat.le_refl _) (fun y hy => hv y (by simp [hy]))
      have h2 := hv x (by simp)
      have h3 : enc 27 [] = 0 := rfl
      omega
  | succ n ih =>
    intro w v hl hw hv he
    rcases List.eq_nil_or_concat w with rfl | ⟨l, x, rfl⟩
    · rcases List.eq_nil_or_concat v with rfl | ⟨l, x, rfl⟩
      · rfl
      · exfalso
        rw [List.concat_eq_append, enc_app27] at he
        have h1 := enc_nn27 _ l (Nat.le_refl _) (fun y hy => hv y (by simp [hy]))
        have h2 := hv x (by simp)
        have h3 : enc 27 [] = 0 := rfl
        omega
    · rcases List.eq_nil_or_concat v with rfl | ⟨m, y, rfl⟩
      · exfalso
        rw [List.concat_eq_append, enc_app27] at he
        have h1 := enc_nn27 _ l (Nat.le_refl _) (fun y hy => hw y (by simp [hy]))
        have h2 := hw x (by simp)
        have h3 : enc 27 [] = 0 := rfl
        omega
      · rw [List.concat_eq_append, List.concat_eq_append, enc_app27, enc_app27] at he
        have h2 := hw x (by simp)
        have h3 := hv y (by simp)
        have e1 : enc 27 l = enc 27 m := by omega
        have e2 : x = y := by omega
        rw [ih l m (by simp at hl; omega) (fun z hz => hw z (by simp [hz])) (fun z hz => hv z (by simp [hz])) e1, e2]
theorem WW_inj {a b c d : Int} (h1 : WW a b) (h2 : WW c d) : a = c ↔ b = d := by
  obtain ⟨w, w1, w2, w3, w4⟩ := h1
  obtain ⟨v, v1, v2, v3, v4⟩ := h2
  subst w3; subst w4; subst v3; subst v4
  constructor
  · intro h; rw [enc_inj32 _ w v (Nat.le_refl _) w1 v1 h]
  · intro h; rw [enc_inj27 _ w v (Nat.le_refl _) w1 v1 h]
set_option maxHeartbeats 2000000 in
theorem c_w_has (G : gt_T) (h : ab_H) (xa : Nat → Nat) (na la : List Nat) (σ : sg_T) (C : CR G h xa na la σ) (hw : WF σ) (e i : Nat) (he : e < 3) (hi : i < nr σ e) (w v : Int) (hW : WW w v) : ct G M_w_has 0 0 0 0 [vA (xa (rt e i 0)), vL v] h (rB fun z h' => h = h' ∧ z = hsw σ (40 * e + i) w) nT := by
  show ev _ _ _ _ _ _ 0 [some (vA (xa (rt e i 0))), some (vL v), none, none, none] [] _ _ _
  obtain ⟨ws, hws, lws, hww⟩ := cr_ws C e i he hi
  have hwr := hw.2.2.2.2.2.2.1 e i he hi
  have loop : ∀ (fu : Nat) (k : Nat) (b : Bool), (k ≤ (gd (σ.2 9) (40 * e + i)).toNat) → (b = anb (fun j => gd (σ.2 10) (4 * (40 * e + i) + j) == w) k) → (gd (σ.2 9) (40 * e + i)).toNat - k < fu → ev G M_w_has 0 0 0 0 5 [some (vA (xa (rt e i 0))), some (vL v), none, some (vI (bi b)), some (vI (k : Int))] [] h (rB fun z h' => h = h' ∧ z = hsw σ (40 * e + i) w) nT := by
    intro fu
    induction fu with
    | zero => intros; omega
    | succ fu ih =>
      intro k b h1 h2 hn
      refine ev_ilw (k_w_has 4 rfl) rfl ?_
      refine ev_al (k_w_has 5 rfl) rfl ?_
      refine ev_get (v := vI (gd (σ.2 9) (40 * e + i))) (k_w_has 6 rfl) (cr_row C e i (by omega) (by omega)) rfl ?_
      refine ev_ic_ge (k_w_has 7 rfl) (fun c106 => ?_) (fun c106 => ?_)
      · refine ev_il (k_w_has 23 rfl) rfl ?_
        exact ev_zret (k_w_has 24 rfl) rfl (⟨_, rfl, rfl, by rw [h2]; unfold hsw; rw [show (gd (σ.2 9) (40 * e + i)).toNat = k by omega]⟩)
      · refine ev_il (k_w_has 8 rfl) rfl ?_
        refine ev_al (k_w_has 9 rfl) rfl ?_
        refine ev_get (v := vA (xa (rt e i 1))) (k_w_has 10 rfl) (cr_row C e i (by omega) (by omega)) rfl ?_
        refine ev_ilw (k_w_has 11 rfl) rfl ?_
        refine ev_lald (xs := ws) (k_w_has 12 rfl) hws (by omega) (by omega) (show ev _ _ _ _ _ _ _ _ (vL (gd ws (k)) :: _) _ _ _ from ?_)
        refine ev_ll (k_w_has 13 rfl) rfl ?_
        refine ev_lc_ne (k_w_has 14 rfl) (k_w_has 15 rfl) (fun c107 => ?_) (fun c107 => ?_)
        · refine ev_ic (k_w_has 18 rfl) ?_
          refine ev_iorB (y := false) (k_w_has 19 rfl) ?_
          refine ev_is (k_w_has 20 rfl) (le_b rfl) (show ev _ _ _ _ _ _ 34 [some (vA (xa (rt e i 0))), some (vL v), none, some (vI (bi (b || false))), some (vI (k : Int))] _ _ _ _ from ?_)
          refine ev_iinc (k_w_has 21 rfl) rfl (by omega) (show ev _ _ _ _ _ _ 37 [some (vA (xa (rt e i 0))), some (vL v), none, some (vI (bi (b || false))), some (vI ((k : Int) + 1))] _ _ _ _ from ?_)
          refine ev_goto (k_w_has 22 rfl) ?_
          rw [show (k : Int) + 1 = ((k + 1 : Nat) : Int) by omega]
          exact ih (k + 1) _ (by omega) (by rw [anb_s, ← h2, show (gd (σ.2 10) (4 * (40 * e + i) + k) == w) = false from bq_f (fun z => c107 ((WW_inj (hww k (by omega)) hW).mp z))]) (by omega)
        · refine ev_ic (k_w_has 16 rfl) ?_
          refine ev_goto (k_w_has 17 rfl) ?_
          refine ev_iorB (y := true) (k_w_has 19 rfl) ?_
          refine ev_is (k_w_has 20 rfl) (le_b rfl) (show ev _ _ _ _ _ _ 34 [some (vA (xa (rt e i 0))), some (vL v), none, some (vI (bi (b || true))), some (vI (k : Int))] _ _ _ _ from ?_)
          refine ev_iinc (k_w_has 21 rfl) rfl (by omega) (show ev _ _ _ _ _ _ 37 [some (vA (xa (rt e i 0))), some (vL v), none, some (vI (bi (b || true))), some (vI ((k : Int) + 1))] _ _ _ _ from ?_)
          refine ev_goto (k_w_has 22 rfl) ?_
          rw [show (k : Int) + 1 = ((k + 1 : Nat) : Int) by omega]
          exact ih (k + 1) _ (by omega) (by rw [anb_s, ← h2, show (gd (σ.2 10) (4 * (40 * e + i) + k) == w) = true from bq_t ((WW_inj (hww k (by omega)) hW).mpr c107)]) (by omega)
  refine ev_ic (k_w_has 0 rfl) ?_
  refine ev_is (k_w_has 1 rfl) (le_b rfl) (show ev _ _ _ _ _ _ 2 [some (vA (xa (rt e i 0))), some (vL v), none, some (vI 0), none] _ _ _ _ from ?_)
  refine ev_ic (k_w_has 2 rfl) ?_
  refine ev_isw (k_w_has 3 rfl) (le_b rfl) (show ev _ _ _ _ _ _ 5 [some (vA (xa (rt e i 0))), some (vL v), none, some (vI 0), some (vI 0)] _ _ _ _ from ?_)
  exact loop ((gd (σ.2 9) (40 * e + i)).toNat + 1) 0 false (by omega) rfl (by omega)
def upO (xa : Nat → Nat) (e : Nat) (u : Int) : Option Nat := if u < 0 then none else some (xa (rt e (u.toNat - 40 * e) 0))
theorem upO_n {xa : Nat → Nat} {e : Nat} {u : Int} (h : u < 0) : upO xa e u = none := if_pos h
theorem upO_s {xa : Nat → Nat} {e t : Nat} : upO xa e ((40 * e + t : Nat) : Int) = some (xa (rt e t 0)) := by
  unfold upO
  rw [if_neg (by omega), show (((40 * e + t : Nat) : Int)).toNat - 40 * e = t by omega]
theorem abo_u (xa : Nat → Nat) (σ : sg_T) (e i : Nat) : abo xa σ e i = upO xa e (abv (σ.2 8) (40 * e) (40 * e + i)) := rfl
theorem by_has {p : Prop} (b : Bool) (t : b = true → p) (f : b = false → p) : p := by cases b; exact f rfl; exact t rfl
set_option maxHeartbeats 4000000 in
theorem c_w_points (G : gt_T) (h : ab_H) (xa : Nat → Nat) (na la : List Nat) (σ : sg_T) (C : CR G h xa na la σ) (hw : WF σ) (e i : Nat) (he : e < 3) (hi : i < nr σ e) (w v : Int) (hW : WW w v) : ct G M_w_points 1 24 0 0 [vA (xa (rt e i 0)), vL v] h (rI fun z h' => h = h' ∧ z = ptw σ e (40 * e + i) w) nT := by
  show ev _ _ _ _ _ _ 0 [some (vA (xa (rt e i 0))), some (vL v), none, none] [] _ _ _
  have loop : ∀ (fu : Nat) (u : Int), hsw σ (40 * e + i) w = false → ((u = -1 ∨ (40 * e : Int) ≤ u) ∧ u < 40 * e + nr σ e) → (((ancO (σ.2 8) (40 * e) u).any fun u => hsw σ u w) = ovr σ e (40 * e + i) w) → (u + 1).toNat < fu → ev G M_w_points 1 24 0 0 15 [some (vA (xa (rt e i 0))), some (vL v), none, some (vR (upO xa e u))] [] h (rI fun z h' => h = h' ∧ z = ptw σ e (40 * e + i) w) nT := by
    intro fu
    induction fu with
    | zero => intros; omega
    | succ fu ih =>
      intro u hnh hu h2 hn
      have hre := hw.2.2.2.2.2.1 e he
      have hnr : nr σ e ≤ 40 := by unfold nr; omega
      by_cases hu0 : u < 0
      · rw [upO_n hu0]
        show ev _ _ _ _ _ _ 15 [some (vA (xa (rt e i 0))), some (vL v), none, some (vN)] [] _ _ _
        rw [ancO_n hu0] at h2
        refine ev_al (k_w_points 9 rfl) rfl ?_
        refine ev_ifn (k_w_points 10 rfl) (fun _ => ?_) (fun c => absurd rfl c)
        refine ev_al (k_w_points 19 rfl) rfl ?_
        refine ev_ifnn (k_w_points 20 rfl) (fun c => absurd rfl c) (fun _ => ?_)
        refine ev_ic (k_w_points 21 rfl) ?_
        refine ev_goto (k_w_points 22 rfl) ?_
        exact ev_iret (k_w_points 24 rfl) rfl (⟨_, rfl, rfl, by unfold ptw; rw [hnh]; rw [show ovr σ e (40 * e + i) w = false by rw [← h2]; rfl]; rfl⟩)
      · obtain ⟨t, rfl⟩ : ∃ t : Nat, u = ((40 * e + t : Nat) : Int) := ⟨(u - 40 * e).toNat, by omega⟩
        rw [upO_s]
        show ev _ _ _ _ _ _ 15 [some (vA (xa (rt e i 0))), some (vL v), none, some (vA (xa (rt e t 0)))] [] _ _ _
        rw [ancO_s] at h2
        have hab := abv_lt (σ.2 8) (f := 40 * e) (t := 40 * e + t)
        refine ev_al (k_w_points 9 rfl) rfl ?_
        refine ev_ifn (k_w_points 10 rfl) (fun c => by cases c) (fun _ => ?_)
        refine ev_al (k_w_points 11 rfl) rfl ?_
        refine ev_ll (k_w_points 12 rfl) rfl ?_
        refine ev_cV (k_w_points 13 rfl) rfl v_w_has (cr_row C e t (by omega) (by omega)) rfl (c_w_has G _ xa na la σ C hw e t (by omega) (by omega) w _ hW) rfl (le_b rfl) (le_b rfl) (le_b rfl) k_n (k_B fun z111 h111 q111 => ?_)
        obtain ⟨rfl, rfl⟩ := q111
        refine ev_b_ne (k_w_points 14 rfl) (fun c112 => ?_) (fun c112 => ?_)
        · refine ev_al (k_w_points 19 rfl) rfl ?_
          refine ev_ifnn (k_w_points 20 rfl) (fun _ => ?_) (fun c => by cases c)
          refine ev_ic (k_w_points 23 rfl) ?_
          exact ev_iret (k_w_points 24 rfl) rfl (⟨_, rfl, rfl, by unfold ptw; rw [hnh]; rw [show ovr σ e (40 * e + i) w = true by rw [← h2]; simp [c112]]; rfl⟩)
        · refine ev_al (k_w_points 15 rfl) rfl ?_
          refine ev_get (v := vR (abo xa σ e t)) (k_w_points 16 rfl) (cr_row C e t (by omega) (by omega)) rfl ?_
          refine ev_as (k_w_points 17 rfl) (le_b rfl) (show ev _ _ _ _ _ _ 32 [some (vA (xa (rt e i 0))), some (vL v), none, some (vR (abo xa σ e t))] _ _ _ _ from ?_)
          refine ev_goto (k_w_points 18 rfl) ?_
          rw [abo_u]
          exact ih _ hnh (by omega) (by rw [← h2]; simp [c112]) (by omega)
  refine ev_al (k_w_points 0 rfl) rfl ?_
  refine ev_ll (k_w_points 1 rfl) rfl ?_
  refine ev_cV (k_w_points 2 rfl) rfl v_w_has (cr_row C e i (by omega) (by omega)) rfl (c_w_has G _ xa na la σ C hw e i (by omega) (by omega) w _ hW) rfl (le_b rfl) (le_b rfl) (le_b rfl) k_n (k_B fun z114 h114 q114 => ?_)
  obtain ⟨rfl, rfl⟩ := q114
  refine ev_b_eq (k_w_points 3 rfl) (fun c115 => ?_) (fun c115 => ?_)
  · refine ev_al (k_w_points 6 rfl) rfl ?_
    refine ev_get (v := vR (abo xa σ e i)) (k_w_points 7 rfl) (cr_row C e i (by omega) (by omega)) rfl ?_
    refine ev_as (k_w_points 8 rfl) (le_b rfl) (show ev _ _ _ _ _ _ 15 [some (vA (xa (rt e i 0))), some (vL v), none, some (vR (abo xa σ e i))] _ _ _ _ from ?_)
    rw [abo_u]
    have hab := abv_lt (σ.2 8) (f := 40 * e) (t := 40 * e + i)
    exact loop (40 * e + i + 2) _ c115 (by omega) (by unfold ovr; rw [anc_eq]) (by omega)
  · refine ev_ic (k_w_points 4 rfl) ?_
    exact ev_iret (k_w_points 5 rfl) rfl (⟨_, rfl, rfl, by unfold ptw; rw [c115]; rfl⟩)
set_option maxHeartbeats 4000000 in
theorem c_w_isBelow (G : gt_T) (h : ab_H) (xa : Nat → Nat) (na la : List Nat) (σ : sg_T) (C : CR G h xa na la σ) (hw : WF σ) (e i : Nat) (he : e < 3) (hi : i < nr σ e) (f j : Nat) (hf : f < 3) (hj : j < nr σ f) : ct G M_w_isBelow 0 0 0 0 [vA (xa (rt e i 0)), vA (xa (rt f j 0))] h (rB fun z h' => h = h' ∧ z = ((anc (σ.2 8) (40 * e) (40 * e + i)).any fun u => decide (e = f ∧ u = 40 * e + j))) nT := by
  show ev _ _ _ _ _ _ 0 [some (vA (xa (rt e i 0))), some (vA (xa (rt f j 0))), none] [] _ _ _
  have loop : ∀ (fu : Nat) (u : Int), ((u = -1 ∨ (40 * e : Int) ≤ u) ∧ u < 40 * e + nr σ e) → (((ancO (σ.2 8) (40 * e) u).any fun u => decide (e = f ∧ u = 40 * e + j)) = ((anc (σ.2 8) (40 * e) (40 * e + i)).any fun u => decide (e = f ∧ u = 40 * e + j))) → (u + 1).toNat < fu → ev G M_w_isBelow 0 0 0 0 5 [some (vA (xa (rt e i 0))), some (vA (xa (rt f j 0))), some (vR (upO xa e u))] [] h (rB fun z h' => h = h' ∧ z = ((anc (σ.2 8) (40 * e) (40 * e + i)).any fun u => decide (e = f ∧ u = 40 * e + j))) nT := by
    intro fu
    induction fu with
    | zero => intros; omega
    | succ fu ih =>
      intro u hu h2 hn
      have hre := hw.2.2.2.2.2.1 e he
      have hnr : nr σ e ≤ 40 := by unfold nr; omega
      by_cases hu0 : u < 0
      · rw [upO_n hu0]
        show ev _ _ _ _ _ _ 5 [some (vA (xa (rt e i 0))), some (vA (xa (rt f j 0))), some (vN)] [] _ _ _
        rw [ancO_n hu0] at h2
        refine ev_al (k_w_isBelow 3 rfl) rfl ?_
        refine ev_ifn (k_w_isBelow 4 rfl) (fun _ => ?_) (fun c => absurd rfl c)
        refine ev_al (k_w_isBelow 12 rfl) rfl ?_
        refine ev_ifn (k_w_isBelow 13 rfl) (fun _ => ?_) (fun c => absurd rfl c)
        refine ev_ic (k_w_isBelow 16 rfl) ?_
        exact ev_zret (x := false) (k_w_isBelow 17 rfl) rfl (⟨false, rfl, rfl, by rw [← h2]; rfl⟩)
      · obtain ⟨t, rfl⟩ : ∃ t : Nat, u = ((40 * e + t : Nat) : Int) := ⟨(u - 40 * e).toNat, by omega⟩
        rw [upO_s]
        show ev _ _ _ _ _ _ 5 [some (vA (xa (rt e i 0))), some (vA (xa (rt f j 0))), some (vA (xa (rt e t 0)))] [] _ _ _
        rw [ancO_s] at h2
        have hab := abv_lt (σ.2 8) (f := 40 * e) (t := 40 * e + t)
        refine ev_al (k_w_isBelow 3 rfl) rfl ?_
        refine ev_ifn (k_w_isBelow 4 rfl) (fun c => by cases c) (fun _ => ?_)
        refine ev_al (k_w_isBelow 5 rfl) rfl ?_
        refine ev_al (k_w_isBelow 6 rfl) rfl ?_
        refine ev_ac_eq (k_w_isBelow 7 rfl) (fun c119 => ?_) (fun c119 => ?_)
        · rw [se_row C hw (by omega) (by omega) (by omega) (by omega)] at c119
          refine ev_al (k_w_isBelow 12 rfl) rfl ?_
          refine ev_ifn (k_w_isBelow 13 rfl) (fun c => by cases c) (fun _ => ?_)
          refine ev_ic (k_w_isBelow 14 rfl) ?_
          refine ev_goto (k_w_isBelow 15 rfl) ?_
          exact ev_zret (x := true) (k_w_isBelow 17 rfl) rfl (⟨true, rfl, rfl, by rw [← h2]; simp [c119]⟩)
        · rw [ne_eq, se_row C hw (by omega) (by omega) (by omega) (by omega)] at c119
          refine ev_al (k_w_isBelow 8 rfl) rfl ?_
          refine ev_get (v := vR (abo xa σ e t)) (k_w_isBelow 9 rfl) (cr_row C e t (by omega) (by omega)) rfl ?_
          refine ev_as (k_w_isBelow 10 rfl) (le_b rfl) (show ev _ _ _ _ _ _ 19 [some (vA (xa (rt e i 0))), some (vA (xa (rt f j 0))), some (vR (abo xa σ e t))] _ _ _ _ from ?_)
          refine ev_goto (k_w_isBelow 11 rfl) ?_
          rw [abo_u]
          exact ih _ (by omega) (by rw [← h2]; simp; intro z1 z2; exact absurd ⟨z1, z2⟩ c119) (by omega)
  refine ev_al (k_w_isBelow 0 rfl) rfl ?_
  refine ev_get (v := vR (abo xa σ e i)) (k_w_isBelow 1 rfl) (cr_row C e i (by omega) (by omega)) rfl ?_
  refine ev_as (k_w_isBelow 2 rfl) (le_b rfl) (show ev _ _ _ _ _ _ 5 [some (vA (xa (rt e i 0))), some (vA (xa (rt f j 0))), some (vR (abo xa σ e i))] _ _ _ _ from ?_)
  rw [abo_u]
  have hab := abv_lt (σ.2 8) (f := 40 * e) (t := 40 * e + i)
  exact loop (40 * e + i + 2) _ (by omega) (by rw [anc_eq]) (by omega)
