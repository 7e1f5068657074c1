set_option maxHeartbeats 2000000 in
theorem c_g_linked_ok (G : gt_T) (h : ab_H) (xa : Nat → Nat) (na la : List Nat) (σ : sg_T) (C : CR G h xa na la σ) (hw : WF σ) (a b i0 : Nat) (c : Int) (ha : a < 3) (hb : b < 3) (hab : a ≠ b) (hr : rof σ a c = some i0) (i : Int) : ct G M_g_linked 8 146 2 12 [vA (xa 1), vI (a : Int), vL c, vI (b : Int), vI i] h (rL fun z h' => h = h' ∧ z = lkv σ (a : Int) c (b : Int) i) nT := by
  show ev _ _ _ _ _ _ 0 [some (vA (xa 1)), some (vI (a : Int)), some (vL c), none, some (vI (b : Int)), some (vI i), none, none, none] [] _ _ _
  have hln := cr_ln C
  have hw16 := hw.2.2.2.1
  have hll : la.length ≤ 60 := by omega
  have hi0 : i0 < nr σ a := (rof_lt hr).1
  have hc0 : gd (σ.2 7) (40 * a + i0) = c := (rof_lt hr).2
  refine ev_loc 5 rfl (fun (oki : inI i) => ?_)
  have loop : ∀ (fu : Nat) (k : Nat) (left : Int), (k ≤ la.length) → (left = i - cnt (isl σ (a : Int) c (b : Int)) k) → (nix (isl σ (a : Int) c (b : Int)) k i = none) → (0 ≤ i → 0 ≤ left) → la.length - k < fu → ev G M_g_linked 8 146 0 0 17 [some (vA (xa 1)), some (vI (a : Int)), some (vL c), none, some (vI (b : Int)), some (vI i), some (vA (xa (rt a i0 0))), some (vI left), some (vI (k : Int))] [] h (rL fun z h' => h = h' ∧ z = lkv σ (a : Int) c (b : Int) i) nT := by
    intro fu
    induction fu with
    | zero => intros; omega
    | succ fu ih =>
      intro k left h1 h2 h3 h4 hn
      have hc := cnt_le (isl σ (a : Int) c (b : Int)) k
      refine ev_ilw (k_g_linked 10 rfl) rfl ?_
      refine ev_al (k_g_linked 11 rfl) rfl ?_
      refine ev_get (v := vA (xa 22)) (k_g_linked 12 rfl) (cr_x C) rfl ?_
      obtain ⟨fs200, ho200⟩ := AL_recv (cr_ll C)
      refine ev_cV (k_g_linked 13 rfl) rfl v_al_size ho200 rfl (c_al_size G _ _ _ _ (cr_ll C)) rfl (le_b rfl) (le_b rfl) (le_b rfl) k_n (k_I fun z200 h200 q200 => ?_)
      obtain ⟨rfl, rfl⟩ := q200
      refine ev_ic_ge (k_g_linked 14 rfl) (fun c201 => ?_) (fun c201 => ?_)
      · refine ev_lc (k_g_linked 50 rfl) ?_
        exact ev_lret (k_g_linked 51 rfl) rfl (⟨_, rfl, rfl, by unfold lkv; rw [show nix (isl σ (a : Int) c (b : Int)) (σ.1 16).toNat i = none from (by first | (rw [show (σ.1 16).toNat = k by omega]; exact h3) | exact nix_neg (by omega))]⟩)
      · refine ev_ilw (k_g_linked 15 rfl) rfl ?_
        refine ev_if_lt (k_g_linked 16 rfl) (fun c202 => ?_) (fun c202 => ?_)
        · refine ev_lc (k_g_linked 50 rfl) ?_
          exact ev_lret (k_g_linked 51 rfl) rfl (⟨_, rfl, rfl, by unfold lkv; rw [show nix (isl σ (a : Int) c (b : Int)) (σ.1 16).toNat i = none from (by first | (rw [show (σ.1 16).toNat = k by omega]; exact h3) | exact nix_neg (by omega))]⟩)
        · refine ev_al (k_g_linked 17 rfl) rfl ?_
          refine ev_get (v := vA (xa 22)) (k_g_linked 18 rfl) (cr_x C) rfl ?_
          refine ev_ilw (k_g_linked 19 rfl) rfl ?_
          obtain ⟨fs203, ho203⟩ := AL_recv (cr_ll C)
          refine ev_cV (k_g_linked 20 rfl) rfl v_al_get ho203 rfl (c_al_get G _ _ _ _ (cr_ll C) k (by omega)) rfl (le_b rfl) (le_b rfl) (le_b rfl) k_n (k_R fun z203 h203 q203 => ?_)
          obtain ⟨rfl, rfl⟩ := q203
          obtain ⟨le204, li204, lf204, lj204, hle204, hlf204, hlne204, hli204, hlj204, l17204, l18204, l19204, l20204, hlo204⟩ := cr_lk C k (by omega)
          have hlb204 := nr40 hw hle204
          have hlc204 := nr40 hw hlf204
          refine ev_chk (k_g_linked 21 rfl) hlo204 ?_
          refine ev_get (v := vA (xa (rt le204 li204 0))) (k_g_linked 22 rfl) hlo204 rfl ?_
          refine ev_alw (k_g_linked 23 rfl) rfl ?_
          refine ev_ac_ne (k_g_linked 24 rfl) (fun c205 => ?_) (fun c205 => ?_)
          · rw [ne_eq, se_row C hw (by omega) (by omega) (by omega) (by omega)] at c205
            refine ev_iinc (k_g_linked 48 rfl) rfl (by omega) (show ev _ _ _ _ _ _ 112 [some (vA (xa 1)), some (vI (a : Int)), some (vL c), none, some (vI (b : Int)), some (vI i), some (vA (xa (rt a i0 0))), some (vI left), some (vI ((k : Int) + 1))] _ _ _ _ from ?_)
            refine ev_goto (k_g_linked 49 rfl) ?_
            have hiff := isl_ok hw (f := b) ha hi0 hle204 hli204 l17204 l18204 l19204
            rw [hc0] at hiff
            rw [show (k : Int) + 1 = ((k + 1 : Nat) : Int) by omega]
            have hq : isl σ (a : Int) c (b : Int) k = false := b_f hiff (by omega)
            exact ih (k + 1) _ (by omega) (by rw [cnt_f hq]; omega) (nix_no h3 (fun x => by rw [hq] at x; exact absurd x.1 (by decide))) (by omega) (by omega)
          · rw [se_row C hw (by omega) (by omega) (by omega) (by omega)] at c205
            refine ev_al (k_g_linked 25 rfl) rfl ?_
            refine ev_get (v := vA (xa 22)) (k_g_linked 26 rfl) (cr_x C) rfl ?_
            refine ev_ilw (k_g_linked 27 rfl) rfl ?_
            obtain ⟨fs206, ho206⟩ := AL_recv (cr_ll C)
            refine ev_cV (k_g_linked 28 rfl) rfl v_al_get ho206 rfl (c_al_get G _ _ _ _ (cr_ll C) k (by omega)) rfl (le_b rfl) (le_b rfl) (le_b rfl) k_n (k_R fun z206 h206 q206 => ?_)
            obtain ⟨rfl, rfl⟩ := q206
            refine ev_chk (k_g_linked 29 rfl) hlo204 ?_
            refine ev_get (v := vA (xa (5 + lf204))) (k_g_linked 30 rfl) hlo204 rfl ?_
            refine ev_al (k_g_linked 31 rfl) rfl ?_
            refine ev_get (v := vA (xa 4)) (k_g_linked 32 rfl) (cr_x C) rfl ?_
            refine ev_ilw (k_g_linked 33 rfl) rfl ?_
            refine ev_aald (k_g_linked 34 rfl) (le_b rfl) (cr_es C) (by omega) (by simp; omega) ?_
            rw [show ([some (xa 5), some (xa 6), some (xa 7)] : List (Option Nat)).getD (((b : Int) : Int)).toNat none = some (xa (5 + b)) from es_get (by omega)]
            refine ev_ac_eq (k_g_linked 35 rfl) (fun c207 => ?_) (fun c207 => ?_)
            · rw [se_ed C (by omega) (by omega)] at c207
              refine ev_ilw (k_g_linked 37 rfl) rfl ?_
              refine ev_if_ne (k_g_linked 38 rfl) (fun c208 => ?_) (fun c208 => ?_)
              · refine ev_iinc (k_g_linked 47 rfl) rfl (by omega) (show ev _ _ _ _ _ _ 109 [some (vA (xa 1)), some (vI (a : Int)), some (vL c), none, some (vI (b : Int)), some (vI i), some (vA (xa (rt a i0 0))), some (vI (left + (-1))), some (vI (k : Int))] _ _ _ _ from ?_)
                refine ev_iinc (k_g_linked 48 rfl) rfl (by omega) (show ev _ _ _ _ _ _ 112 [some (vA (xa 1)), some (vI (a : Int)), some (vL c), none, some (vI (b : Int)), some (vI i), some (vA (xa (rt a i0 0))), some (vI (left + (-1))), some (vI ((k : Int) + 1))] _ _ _ _ from ?_)
                refine ev_goto (k_g_linked 49 rfl) ?_
                have hiff := isl_ok hw (f := b) ha hi0 hle204 hli204 l17204 l18204 l19204
                rw [hc0] at hiff
                rw [show (k : Int) + 1 = ((k + 1 : Nat) : Int) by omega]
                have hq : isl σ (a : Int) c (b : Int) k = true := hiff.mpr (by omega)
                exact ih (k + 1) _ (by omega) (by rw [cnt_t hq]; omega) (nix_no h3 (fun x => by omega)) (by omega) (by omega)
              · refine ev_al (k_g_linked 39 rfl) rfl ?_
                refine ev_get (v := vA (xa 22)) (k_g_linked 40 rfl) (cr_x C) rfl ?_
                refine ev_ilw (k_g_linked 41 rfl) rfl ?_
                obtain ⟨fs209, ho209⟩ := AL_recv (cr_ll C)
                refine ev_cV (k_g_linked 42 rfl) rfl v_al_get ho209 rfl (c_al_get G _ _ _ _ (cr_ll C) k (by omega)) rfl (le_b rfl) (le_b rfl) (le_b rfl) k_n (k_R fun z209 h209 q209 => ?_)
                obtain ⟨rfl, rfl⟩ := q209
                refine ev_chk (k_g_linked 43 rfl) hlo204 ?_
                refine ev_get (v := vA (xa (rt lf204 lj204 0))) (k_g_linked 44 rfl) hlo204 rfl ?_
                refine ev_get (v := vL (gd (σ.2 7) (40 * lf204 + lj204))) (k_g_linked 45 rfl) (cr_row C lf204 lj204 (by omega) (by omega)) rfl ?_
                have hiff := isl_ok hw (f := b) ha hi0 hle204 hli204 l17204 l18204 l19204
                rw [hc0] at hiff
                exact ev_lret (k_g_linked 46 rfl) rfl (⟨_, rfl, rfl, by unfold lkv; rw [nix_hit (k := k) (by omega) (hiff.mpr (by omega)) (by omega)]; simp only []; rw [l20204]⟩)
            · rw [ne_eq, se_ed C (by omega) (by omega)] at c207
              refine ev_goto (k_g_linked 36 rfl) ?_
              refine ev_iinc (k_g_linked 48 rfl) rfl (by omega) (show ev _ _ _ _ _ _ 112 [some (vA (xa 1)), some (vI (a : Int)), some (vL c), none, some (vI (b : Int)), some (vI i), some (vA (xa (rt a i0 0))), some (vI left), some (vI ((k : Int) + 1))] _ _ _ _ from ?_)
              refine ev_goto (k_g_linked 49 rfl) ?_
              have hiff := isl_ok hw (f := b) ha hi0 hle204 hli204 l17204 l18204 l19204
              rw [hc0] at hiff
              rw [show (k : Int) + 1 = ((k + 1 : Nat) : Int) by omega]
              have hq : isl σ (a : Int) c (b : Int) k = false := b_f hiff (by omega)
              exact ih (k + 1) _ (by omega) (by rw [cnt_f hq]; omega) (nix_no h3 (fun x => by rw [hq] at x; exact absurd x.1 (by decide))) (by omega) (by omega)
  refine ev_al (k_g_linked 0 rfl) rfl ?_
  refine ev_il (k_g_linked 1 rfl) rfl ?_
  refine ev_ll (k_g_linked 2 rfl) rfl ?_
  refine ev_ilw (k_g_linked 3 rfl) rfl ?_
  refine ev_cVA (C2 := 0) (S2 := 0) (k_g_linked 4 rfl) rfl v_g_rowOf (cr_x C) rfl (c_g_rowOf_ok G _ xa na la σ C hw a b i0 c ha hb hab hr) rfl (le_b rfl) (le_b rfl) (le_b rfl) (le_b rfl) (le_b rfl) k_n (k_R fun z210 h210 q210 => ?_)
  obtain ⟨rfl, rfl⟩ := q210
  refine ev_asw (k_g_linked 5 rfl) (le_b rfl) (show ev _ _ _ _ _ _ 10 [some (vA (xa 1)), some (vI (a : Int)), some (vL c), none, some (vI (b : Int)), some (vI i), some (vA (xa (rt a i0 0))), none, none] _ _ _ _ from ?_)
  refine ev_ilw (k_g_linked 6 rfl) rfl ?_
  refine ev_isw (k_g_linked 7 rfl) (le_b rfl) (show ev _ _ _ _ _ _ 14 [some (vA (xa 1)), some (vI (a : Int)), some (vL c), none, some (vI (b : Int)), some (vI i), some (vA (xa (rt a i0 0))), some (vI i), none] _ _ _ _ from ?_)
  refine ev_ic (k_g_linked 8 rfl) ?_
  refine ev_isw (k_g_linked 9 rfl) (le_b rfl) (show ev _ _ _ _ _ _ 17 [some (vA (xa 1)), some (vI (a : Int)), some (vL c), none, some (vI (b : Int)), some (vI i), some (vA (xa (rt a i0 0))), some (vI i), some (vI 0)] _ _ _ _ from ?_)
  exact loop (la.length + 1) 0 i (by omega) (by simp [cnt]) rfl (fun z => z) (by omega)
set_option maxHeartbeats 4000000 in
theorem c_g_linked_bad (G : gt_T) (h : ab_H) (xa : Nat → Nat) (na la : List Nat) (σ : sg_T) (C : CR G h xa na la σ) (hw : WF σ) (a c b i : Int) (hx : iso σ a c b = false) : ct G M_g_linked 8 146 2 12 [vA (xa 1), vI a, vL c, vI b, vI i] h (rL fun z h' => False) (xT 9 h True) := by
  show ev _ _ _ _ _ _ 0 [some (vA (xa 1)), some (vI a), some (vL c), none, some (vI b), some (vI i), none, none, none] [] _ _ _
  refine ev_al (k_g_linked 0 rfl) rfl ?_
  refine ev_il (k_g_linked 1 rfl) rfl ?_
  refine ev_ll (k_g_linked 2 rfl) rfl ?_
  refine ev_ilw (k_g_linked 3 rfl) rfl ?_
  refine ev_cVA (C2 := 0) (S2 := 0) (k_g_linked 4 rfl) rfl v_g_rowOf (cr_x C) rfl (c_g_rowOf_bad G _ xa na la σ C hw _ _ _ hx) rfl (le_b rfl) (le_b rfl) (le_b rfl) (le_b rfl) (le_b rfl) (k_t rfl (fun a h' q => q)) (k_R fun z211 h211 q211 => ?_)
  exact q211.elim
theorem cnt_two {p : Nat → Bool} {n k : Nat} (hk : k < n) (hp : p k = true) : 1 < cnt p n ↔ ∃ m, m < n ∧ m ≠ k ∧ p m = true := by
  induction n with
  | zero => omega
  | succ n ih =>
    rw [cnt_s]
    by_cases e : k = n
    · subst e
      rw [if_pos hp]
      constructor
      · intro h
        have h1 : 0 < cnt p k := by omega
        clear h ih hk hp
        induction k with
        | zero => simp [cnt] at h1
        | succ k ih2 =>
          rw [cnt_s] at h1
          by_cases c : p k = true
          · exact ⟨k, by omega, by omega, c⟩
          · rw [if_neg c] at h1
            obtain ⟨m, a1, a2, a3⟩ := ih2 (by omega)
            exact ⟨m, by omega, by omega, a3⟩
      · rintro ⟨m, a1, a2, a3⟩
        have h2 := cnt_mono p (show m + 1 ≤ k by omega)
        rw [cnt_s, if_pos a3] at h2
        omega
    · have ih' := ih (by omega)
      by_cases c : p n = true
      · rw [if_pos c]
        constructor
        · intro _; exact ⟨n, by omega, by omega, c⟩
        · intro _
          have h2 := cnt_mono p (show k + 1 ≤ n by omega)
          rw [cnt_s, if_pos hp] at h2
          omega
      · rw [if_neg c]
        constructor
        · intro h
          obtain ⟨m, a1, a2, a3⟩ := ih'.mp (by omega)
          exact ⟨m, by omega, a2, a3⟩
        · rintro ⟨m, a1, a2, a3⟩
          have hm : m ≠ n := by intro z; rw [z] at a3; exact c a3
          have := ih'.mpr ⟨m, by omega, a2, a3⟩
          omega
def jnq (σ : sg_T) (a c b : Int) (k m : Nat) : Bool := ist σ a b (gd (σ.2 20) k) m && !(gd (σ.2 18) m == c)
theorem shr_eq {σ : sg_T} (hw : WF σ) {a c b : Int} {k : Nat} (hk : (k : Int) < σ.1 16) : shr σ a c b k = (isl σ a c b k && anb (jnq σ a c b k) (σ.1 16).toNat) := by
  unfold shr
  cases hi : isl σ a c b k with
  | false => rfl
  | true =>
    rw [Bool.true_and, Bool.true_and]
    simp only [isl, Bool.and_eq_true, beq_iff_eq] at hi
    obtain ⟨⟨h1, h2⟩, h3⟩ := hi
    have hp : ist σ a b (gd (σ.2 20) k) k = true := by simp [ist, h1, h3]
    rw [Bool.eq_iff_iff, decide_eq_true_iff, anb_iff]
    unfold lto
    rw [cnt_two (show k < (σ.1 16).toNat by omega) hp]
    constructor
    · rintro ⟨m, a1, a2, a3⟩
      refine ⟨m, a1, ?_⟩
      unfold jnq
      rw [a3, Bool.true_and]
      have hne : gd (σ.2 18) m ≠ c := by
        intro z
        simp only [ist, Bool.and_eq_true, beq_iff_eq] at a3
        obtain ⟨⟨b1, b2⟩, b3⟩ := a3
        exact a2 (hw.2.2.2.2.2.2.2.2.2.2.1 m k (by omega) hk (b1.trans h1.symm) (z.trans h2.symm) (b2.trans h3.symm) b3)
      rw [bq_f hne]; rfl
    · rintro ⟨m, a1, a2⟩
      unfold jnq at a2
      simp only [Bool.and_eq_true, Bool.not_eq_true', beq_eq_false_iff_ne] at a2
      exact ⟨m, a1, fun z => a2.2 (by rw [z]; exact h2), a2.1⟩
theorem jnq_ok {σ : sg_T} (hw : WF σ) {a i0 b k m le li lf lj kf kj : Nat} {c : Int} (ha : a < 3) (hi0 : i0 < nr σ a) (hc0 : gd (σ.2 7) (40 * a + i0) = c) (hle : le < 3) (hli : li < nr σ le) (hlf : lf < 3) (hlj : lj < nr σ lf) (hkf : kf < 3) (hkj : kj < nr σ kf) (hkb : kf = b)
    (l17 : gd (σ.2 17) m = (le : Int)) (l18 : gd (σ.2 18) m = gd (σ.2 7) (40 * le + li)) (l19 : gd (σ.2 19) m = (lf : Int)) (l20 : gd (σ.2 20) m = gd (σ.2 7) (40 * lf + lj)) (k20 : gd (σ.2 20) k = gd (σ.2 7) (40 * kf + kj)) :
    jnq σ (a : Int) c (b : Int) k m = true ↔ (((lf = kf ∧ lj = kj) ∧ le = a) ∧ ¬ (le = a ∧ li = i0)) := by
  subst hkb
  unfold jnq ist
  simp only [Bool.and_eq_true, Bool.not_eq_true', beq_iff_eq, beq_eq_false_iff_ne]
  rw [l17, l18, l19, l20, k20, ← hc0]
  constructor
  · rintro ⟨⟨⟨h1, h2⟩, h3⟩, h4⟩
    have e1 : le = a := by omega
    refine ⟨⟨(code_eq hw hkf hkj hlf hlj).mp ⟨h2, h3⟩, e1⟩, ?_⟩
    rintro ⟨-, e2⟩
    subst e1; subst e2
    exact h4 rfl
  · rintro ⟨⟨⟨h1, h2⟩, h3⟩, h4⟩
    subst h1; subst h2; subst h3
    refine ⟨⟨⟨rfl, rfl⟩, rfl⟩, fun z => h4 ⟨rfl, ?_⟩⟩
    exact hw.2.2.2.2.2.2.2.1 le li i0 hle hli hi0 z
set_option maxHeartbeats 4000000 in
theorem lp_join {G : gt_T} {Cc Ss : Nat} {Φ : Option ab_V → ab_H → Prop} {Θ : Nat → ab_H → Prop} {h : ab_H} {xa : Nat → Nat} {na la : List Nat} {σ : sg_T} (C : CR G h xa na la σ) (hw : WF σ) {a i0 b k ke ki kf kj : Nat} {c : Int} (ha : a < 3) (hb : b < 3) (hi0 : i0 < nr σ a) (hc0 : gd (σ.2 7) (40 * a + i0) = c) (hkl : k < la.length) (hke : ke < 3) (hki : ki < nr σ ke) (hkf : kf < 3) (hkj : kj < nr σ kf) (k17 : gd (σ.2 17) k = (ke : Int)) (k18 : gd (σ.2 18) k = gd (σ.2 7) (40 * ke + ki)) (k19 : gd (σ.2 19) k = (kf : Int)) (k20 : gd (σ.2 20) k = gd (σ.2 7) (40 * kf + kj)) (kho : h (la.getD k 0) = some (oJ 31 5 [vA (xa (5 + ke)), vA (xa (rt ke ki 0)), vA (xa (5 + kf)), vA (xa (rt kf kj 0))])) {is0 : Bool}  (k0 : ∀ (b0 : Bool), b0 = (is0 || (isl σ (a : Int) c (b : Int) k && anb (jnq σ (a : Int) c (b : Int) k) la.length)) → ev G M_g_isJoined 3 64 Cc Ss 142 [some (vA (xa 1)), some (vA (xa (rt a i0 0))), some (vA (xa (5 + a))), some (vA (xa (5 + b))), some (vI (bi b0)), some (vI (k : Int)), none, none] [] h Φ Θ) : ∀ (fu : Nat) (m : Nat) (is_ : Bool), (m ≤ la.length) → (is_ = (is0 || anb (jnq σ (a : Int) c (b : Int) k) m)) → (0 < m → ((ke = a ∧ ki = i0) ∧ kf = b)) → la.length - m < fu → ev G M_g_isJoined 3 64 Cc Ss 35 [some (vA (xa 1)), some (vA (xa (rt a i0 0))), some (vA (xa (5 + a))), some (vA (xa (5 + b))), some (vI (bi is_)), some (vI (k : Int)), some (vA (la.getD k 0)), some (vI (m : Int))] [] h Φ Θ := by
  intro fu
  induction fu with
  | zero => intros; omega
  | succ fu ih =>
      intro m is_ h1 h2 h5 hn
      have hln := cr_ln C
      have hw16 := hw.2.2.2.1
      have hll : la.length ≤ 60 := by omega
      refine ev_ilw (k_g_isJoined_0 17 rfl) rfl ?_
      refine ev_al (k_g_isJoined_0 18 rfl) rfl ?_
      refine ev_get (v := vA (xa 22)) (k_g_isJoined_0 19 rfl) (cr_x C) rfl ?_
      obtain ⟨fs212, ho212⟩ := AL_recv (cr_ll C)
      refine ev_cV (k_g_isJoined_0 20 rfl) rfl v_al_size ho212 rfl (c_al_size G _ _ _ _ (cr_ll C)) rfl (le_b rfl) (le_b rfl) (le_b rfl) k_n (k_I fun z212 h212 q212 => ?_)
      obtain ⟨rfl, rfl⟩ := q212
      refine ev_ic_ge (k_g_isJoined_0 21 rfl) (fun c213 => ?_) (fun c213 => ?_)
      · refine ev_dead 6 (show ev _ _ _ _ _ _ 142 [some (vA (xa 1)), some (vA (xa (rt a i0 0))), some (vA (xa (5 + a))), some (vA (xa (5 + b))), some (vI (bi is_)), some (vI (k : Int)), none, some (vI (m : Int))] _ _ _ _ from ?_)
        refine ev_dead 7 (show ev _ _ _ _ _ _ 142 [some (vA (xa 1)), some (vA (xa (rt a i0 0))), some (vA (xa (5 + a))), some (vA (xa (5 + b))), some (vI (bi is_)), some (vI (k : Int)), none, none] _ _ _ _ from ?_)
        have hiffk := isl_ok hw (f := b) ha hi0 hke hki k17 k18 k19
        rw [hc0] at hiffk
        have hmn : m = la.length := by omega
        subst hmn
        exact k0 _ (by rw [h2, hiffk.mpr (h5 (by omega))]; rfl)
      · refine ev_alw (k_g_isJoined_0 22 rfl) rfl ?_
        refine ev_get (v := vA (xa (rt ke ki 0))) (k_g_isJoined_0 23 rfl) kho rfl ?_
        refine ev_al (k_g_isJoined_0 24 rfl) rfl ?_
        refine ev_ac_ne (k_g_isJoined_0 25 rfl) (fun c214 => ?_) (fun c214 => ?_)
        · rw [ne_eq, se_row C hw (by omega) (by omega) (by omega) (by omega)] at c214
          refine ev_dead 6 (show ev _ _ _ _ _ _ 142 [some (vA (xa 1)), some (vA (xa (rt a i0 0))), some (vA (xa (5 + a))), some (vA (xa (5 + b))), some (vI (bi is_)), some (vI (k : Int)), none, some (vI (m : Int))] _ _ _ _ from ?_)
          refine ev_dead 7 (show ev _ _ _ _ _ _ 142 [some (vA (xa 1)), some (vA (xa (rt a i0 0))), some (vA (xa (5 + a))), some (vA (xa (5 + b))), some (vI (bi is_)), some (vI (k : Int)), none, none] _ _ _ _ from ?_)
          have hiffk := isl_ok hw (f := b) ha hi0 hke hki k17 k18 k19
          rw [hc0] at hiffk
          have hm0 : m = 0 := by by_cases z : 0 < m; (exfalso; have := h5 z; omega); omega
          subst hm0
          exact k0 _ (by rw [h2, b_f hiffk (by omega)]; rfl)
        · rw [se_row C hw (by omega) (by omega) (by omega) (by omega)] at c214
          refine ev_alw (k_g_isJoined_0 26 rfl) rfl ?_
          refine ev_get (v := vA (xa (5 + kf))) (k_g_isJoined_0 27 rfl) kho rfl ?_
          refine ev_al (k_g_isJoined_0 28 rfl) rfl ?_
          refine ev_ac_ne (k_g_isJoined_0 29 rfl) (fun c215 => ?_) (fun c215 => ?_)
          · rw [ne_eq, se_ed C (by omega) (by omega)] at c215
            refine ev_dead 6 (show ev _ _ _ _ _ _ 142 [some (vA (xa 1)), some (vA (xa (rt a i0 0))), some (vA (xa (5 + a))), some (vA (xa (5 + b))), some (vI (bi is_)), some (vI (k : Int)), none, some (vI (m : Int))] _ _ _ _ from ?_)
            refine ev_dead 7 (show ev _ _ _ _ _ _ 142 [some (vA (xa 1)), some (vA (xa (rt a i0 0))), some (vA (xa (5 + a))), some (vA (xa (5 + b))), some (vI (bi is_)), some (vI (k : Int)), none, none] _ _ _ _ from ?_)
            have hiffk := isl_ok hw (f := b) ha hi0 hke hki k17 k18 k19
            rw [hc0] at hiffk
            have hm0 : m = 0 := by by_cases z : 0 < m; (exfalso; have := h5 z; omega); omega
            subst hm0
            exact k0 _ (by rw [h2, b_f hiffk (by omega)]; rfl)
          · rw [se_ed C (by omega) (by omega)] at c215
            refine ev_ilw (k_g_isJoined_0 30 rfl) rfl ?_
            refine ev_al (k_g_isJoined_0 31 rfl) rfl ?_
            refine ev_get (v := vA (xa 22)) (k_g_isJoined_0 32 rfl) (cr_x C) rfl ?_
            refine ev_ilw (k_g_isJoined_0 33 rfl) rfl ?_
            obtain ⟨fs216, ho216⟩ := AL_recv (cr_ll C)
            refine ev_cV (k_g_isJoined_0 34 rfl) rfl v_al_get ho216 rfl (c_al_get G _ _ _ _ (cr_ll C) m (by omega)) rfl (le_b rfl) (le_b rfl) (le_b rfl) k_n (k_R fun z216 h216 q216 => ?_)
            obtain ⟨rfl, rfl⟩ := q216
            obtain ⟨le217, li217, lf217, lj217, hle217, hlf217, hlne217, hli217, hlj217, l17217, l18217, l19217, l20217, hlo217⟩ := cr_lk C m (by omega)
            have hlb217 := nr40 hw hle217
            have hlc217 := nr40 hw hlf217
            refine ev_chk (k_g_isJoined_0 35 rfl) hlo217 ?_
            refine ev_get (v := vA (xa (rt lf217 lj217 0))) (k_g_isJoined_0 36 rfl) hlo217 rfl ?_
            refine ev_alw (k_g_isJoined_0 37 rfl) rfl ?_
            refine ev_get (v := vA (xa (rt kf kj 0))) (k_g_isJoined_0 38 rfl) kho rfl ?_
            refine ev_ac_ne (k_g_isJoined_0 39 rfl) (fun c218 => ?_) (fun c218 => ?_)
            · rw [ne_eq, se_row C hw (by omega) (by omega) (by omega) (by omega)] at c218
              refine ev_ic (k_g_isJoined_0 58 rfl) ?_
              refine ev_iorB (y := false) (k_g_isJoined_0 59 rfl) ?_
              refine ev_isw (k_g_isJoined_1 0 rfl) (le_b rfl) (show ev _ _ _ _ _ _ 136 [some (vA (xa 1)), some (vA (xa (rt a i0 0))), some (vA (xa (5 + a))), some (vA (xa (5 + b))), some (vI (bi (is_ || false))), some (vI (k : Int)), some (vA (la.getD k 0)), some (vI (m : Int))] _ _ _ _ from ?_)
              refine ev_iinc (k_g_isJoined_1 1 rfl) rfl (by omega) (show ev _ _ _ _ _ _ 139 [some (vA (xa 1)), some (vA (xa (rt a i0 0))), some (vA (xa (5 + a))), some (vA (xa (5 + b))), some (vI (bi (is_ || false))), some (vI (k : Int)), some (vA (la.getD k 0)), some (vI ((m : Int) + 1))] _ _ _ _ from ?_)
              refine ev_goto (k_g_isJoined_1 2 rfl) ?_
              have hiff := jnq_ok hw (k := k) ha hi0 hc0 hle217 hli217 hlf217 hlj217 hkf hkj (by omega) l17217 l18217 l19217 l20217 k20
              rw [show (m : Int) + 1 = ((m + 1 : Nat) : Int) by omega]
              exact ih (m + 1) _ (by omega) (by rw [anb_s, show jnq σ (a : Int) c (b : Int) k m = false from b_f hiff (by omega), ← Bool.or_assoc, ← h2]) (fun _ => by omega) (by omega)
            · rw [se_row C hw (by omega) (by omega) (by omega) (by omega)] at c218
              refine ev_al (k_g_isJoined_0 40 rfl) rfl ?_
              refine ev_get (v := vA (xa 22)) (k_g_isJoined_0 41 rfl) (cr_x C) rfl ?_
              refine ev_ilw (k_g_isJoined_0 42 rfl) rfl ?_
              obtain ⟨fs219, ho219⟩ := AL_recv (cr_ll C)
              refine ev_cV (k_g_isJoined_0 43 rfl) rfl v_al_get ho219 rfl (c_al_get G _ _ _ _ (cr_ll C) m (by omega)) rfl (le_b rfl) (le_b rfl) (le_b rfl) k_n (k_R fun z219 h219 q219 => ?_)
              obtain ⟨rfl, rfl⟩ := q219
              refine ev_chk (k_g_isJoined_0 44 rfl) hlo217 ?_
              refine ev_get (v := vA (xa (5 + le217))) (k_g_isJoined_0 45 rfl) hlo217 rfl ?_
              refine ev_al (k_g_isJoined_0 46 rfl) rfl ?_
              refine ev_ac_ne (k_g_isJoined_0 47 rfl) (fun c220 => ?_) (fun c220 => ?_)
              · rw [ne_eq, se_ed C (by omega) (by omega)] at c220
                refine ev_ic (k_g_isJoined_0 58 rfl) ?_
                refine ev_iorB (y := false) (k_g_isJoined_0 59 rfl) ?_
                refine ev_isw (k_g_isJoined_1 0 rfl) (le_b rfl) (show ev _ _ _ _ _ _ 136 [some (vA (xa 1)), some (vA (xa (rt a i0 0))), some (vA (xa (5 + a))), some (vA (xa (5 + b))), some (vI (bi (is_ || false))), some (vI (k : Int)), some (vA (la.getD k 0)), some (vI (m : Int))] _ _ _ _ from ?_)
                refine ev_iinc (k_g_isJoined_1 1 rfl) rfl (by omega) (show ev _ _ _ _ _ _ 139 [some (vA (xa 1)), some (vA (xa (rt a i0 0))), some (vA (xa (5 + a))), some (vA (xa (5 + b))), some (vI (bi (is_ || false))), some (vI (k : Int)), some (vA (la.getD k 0)), some (vI ((m : Int) + 1))] _ _ _ _ from ?_)
                refine ev_goto (k_g_isJoined_1 2 rfl) ?_
                have hiff := jnq_ok hw (k := k) ha hi0 hc0 hle217 hli217 hlf217 hlj217 hkf hkj (by omega) l17217 l18217 l19217 l20217 k20
                rw [show (m : Int) + 1 = ((m + 1 : Nat) : Int) by omega]
                exact ih (m + 1) _ (by omega) (by rw [anb_s, show jnq σ (a : Int) c (b : Int) k m = false from b_f hiff (by omega), ← Bool.or_assoc, ← h2]) (fun _ => by omega) (by omega)
              · rw [se_ed C (by omega) (by omega)] at c220
                refine ev_al (k_g_isJoined_0 48 rfl) rfl ?_
                refine ev_get (v := vA (xa 22)) (k_g_isJoined_0 49 rfl) (cr_x C) rfl ?_
                refine ev_ilw (k_g_isJoined_0 50 rfl) rfl ?_
                obtain ⟨fs221, ho221⟩ := AL_recv (cr_ll C)
                refine ev_cV (k_g_isJoined_0 51 rfl) rfl v_al_get ho221 rfl (c_al_get G _ _ _ _ (cr_ll C) m (by omega)) rfl (le_b rfl) (le_b rfl) (le_b rfl) k_n (k_R fun z221 h221 q221 => ?_)
                obtain ⟨rfl, rfl⟩ := q221
                refine ev_chk (k_g_isJoined_0 52 rfl) hlo217 ?_
                refine ev_get (v := vA (xa (rt le217 li217 0))) (k_g_isJoined_0 53 rfl) hlo217 rfl ?_
                refine ev_al (k_g_isJoined_0 54 rfl) rfl ?_
                refine ev_ac_eq (k_g_isJoined_0 55 rfl) (fun c222 => ?_) (fun c222 => ?_)
                · rw [se_row C hw (by omega) (by omega) (by omega) (by omega)] at c222
                  refine ev_ic (k_g_isJoined_0 58 rfl) ?_
                  refine ev_iorB (y := false) (k_g_isJoined_0 59 rfl) ?_
                  refine ev_isw (k_g_isJoined_1 0 rfl) (le_b rfl) (show ev _ _ _ _ _ _ 136 [some (vA (xa 1)), some (vA (xa (rt a i0 0))), some (vA (xa (5 + a))), some (vA (xa (5 + b))), some (vI (bi (is_ || false))), some (vI (k : Int)), some (vA (la.getD k 0)), some (vI (m : Int))] _ _ _ _ from ?_)
                  refine ev_iinc (k_g_isJoined_1 1 rfl) rfl (by omega) (show ev _ _ _ _ _ _ 139 [some (vA (xa 1)), some (vA (xa (rt a i0 0))), some (vA (xa (5 + a))), some (vA (xa (5 + b))), some (vI (bi (is_ || false))), some (vI (k : Int)), some (vA (la.getD k 0)), some (vI ((m : Int) + 1))] _ _ _ _ from ?_)
                  refine ev_goto (k_g_isJoined_1 2 rfl) ?_
                  have hiff := jnq_ok hw (k := k) ha hi0 hc0 hle217 hli217 hlf217 hlj217 hkf hkj (by omega) l17217 l18217 l19217 l20217 k20
                  rw [show (m : Int) + 1 = ((m + 1 : Nat) : Int) by omega]
                  exact ih (m + 1) _ (by omega) (by rw [anb_s, show jnq σ (a : Int) c (b : Int) k m = false from b_f hiff (by omega), ← Bool.or_assoc, ← h2]) (fun _ => by omega) (by omega)
                · rw [ne_eq, se_row C hw (by omega) (by omega) (by omega) (by omega)] at c222
                  refine ev_ic (k_g_isJoined_0 56 rfl) ?_
                  refine ev_goto (k_g_isJoined_0 57 rfl) ?_
                  refine ev_iorB (y := true) (k_g_isJoined_0 59 rfl) ?_
                  refine ev_isw (k_g_isJoined_1 0 rfl) (le_b rfl) (show ev _ _ _ _ _ _ 136 [some (vA (xa 1)), some (vA (xa (rt a i0 0))), some (vA (xa (5 + a))), some (vA (xa (5 + b))), some (vI (bi (is_ || true))), some (vI (k : Int)), some (vA (la.getD k 0)), some (vI (m : Int))] _ _ _ _ from ?_)
                  refine ev_iinc (k_g_isJoined_1 1 rfl) rfl (by omega) (show ev _ _ _ _ _ _ 139 [some (vA (xa 1)), some (vA (xa (rt a i0 0))), some (vA (xa (5 + a))), some (vA (xa (5 + b))), some (vI (bi (is_ || true))), some (vI (k : Int)), some (vA (la.getD k 0)), some (vI ((m : Int) + 1))] _ _ _ _ from ?_)
                  refine ev_goto (k_g_isJoined_1 2 rfl) ?_
                  have hiff := jnq_ok hw (k := k) ha hi0 hc0 hle217 hli217 hlf217 hlj217 hkf hkj (by omega) l17217 l18217 l19217 l20217 k20
                  rw [show (m : Int) + 1 = ((m + 1 : Nat) : Int) by omega]
                  exact ih (m + 1) _ (by omega) (by rw [anb_s, show jnq σ (a : Int) c (b : Int) k m = true from hiff.mpr (by omega), ← Bool.or_assoc, ← h2]) (fun _ => by omega) (by omega)
set_option maxHeartbeats 2000000 in
theorem c_g_isJoined (G : gt_T) (h : ab_H) (xa : Nat → Nat) (na la : List Nat) (σ : sg_T) (C : CR G h xa na la σ) (hw : WF σ) (a i0 b : Nat) (c : Int) (ha : a < 3) (hb : b < 3) (hi0 : i0 < nr σ a) (hc0 : gd (σ.2 7) (40 * a + i0) = c)  : ct G M_g_isJoined 3 64 0 0 [vA (xa 1), vA (xa (rt a i0 0)), vA (xa (5 + a)), vA (xa (5 + b))] h (rB fun z h' => h = h' ∧ z = anb (shr σ (a : Int) c (b : Int)) (σ.1 16).toNat) nT := by
  show ev _ _ _ _ _ _ 0 [some (vA (xa 1)), some (vA (xa (rt a i0 0))), some (vA (xa (5 + a))), some (vA (xa (5 + b))), none, none, none, none] [] _ _ _
  have hln := cr_ln C
  have hw16 := hw.2.2.2.1
  have hll : la.length ≤ 60 := by omega
  have loop : ∀ (fu : Nat) (k : Nat) (v : Bool), (k ≤ la.length) → (v = anb (shr σ (a : Int) c (b : Int)) k) → la.length - k < fu → ev G M_g_isJoined 3 64 0 0 6 [some (vA (xa 1)), some (vA (xa (rt a i0 0))), some (vA (xa (5 + a))), some (vA (xa (5 + b))), some (vI (bi v)), some (vI (k : Int)), none, none] [] h (rB fun z h' => h = h' ∧ z = anb (shr σ (a : Int) c (b : Int)) (σ.1 16).toNat) nT := by
    intro fu
    induction fu with
    | zero => intros; omega
    | succ fu ih =>
      intro k v h1 h2 hn
      refine ev_ilw (k_g_isJoined_0 4 rfl) rfl ?_
      refine ev_al (k_g_isJoined_0 5 rfl) rfl ?_
      refine ev_get (v := vA (xa 22)) (k_g_isJoined_0 6 rfl) (cr_x C) rfl ?_
      obtain ⟨fs223, ho223⟩ := AL_recv (cr_ll C)
      refine ev_cV (k_g_isJoined_0 7 rfl) rfl v_al_size ho223 rfl (c_al_size G _ _ _ _ (cr_ll C)) rfl (le_b rfl) (le_b rfl) (le_b rfl) k_n (k_I fun z223 h223 q223 => ?_)
      obtain ⟨rfl, rfl⟩ := q223
      refine ev_ic_ge (k_g_isJoined_0 8 rfl) (fun c224 => ?_) (fun c224 => ?_)
      · refine ev_ilw (k_g_isJoined_1 5 rfl) rfl ?_
        exact ev_zret (k_g_isJoined_1 6 rfl) rfl (⟨_, rfl, rfl, by rw [h2, show (σ.1 16).toNat = k by omega]⟩)
      · refine ev_al (k_g_isJoined_0 9 rfl) rfl ?_
        refine ev_get (v := vA (xa 22)) (k_g_isJoined_0 10 rfl) (cr_x C) rfl ?_
        refine ev_ilw (k_g_isJoined_0 11 rfl) rfl ?_
        obtain ⟨fs225, ho225⟩ := AL_recv (cr_ll C)
        refine ev_cV (k_g_isJoined_0 12 rfl) rfl v_al_get ho225 rfl (c_al_get G _ _ _ _ (cr_ll C) k (by omega)) rfl (le_b rfl) (le_b rfl) (le_b rfl) k_n (k_R fun z225 h225 q225 => ?_)
        obtain ⟨rfl, rfl⟩ := q225
        obtain ⟨le226, li226, lf226, lj226, hle226, hlf226, hlne226, hli226, hlj226, l17226, l18226, l19226, l20226, hlo226⟩ := cr_lk C k (by omega)
        have hlb226 := nr40 hw hle226
        have hlc226 := nr40 hw hlf226
        refine ev_chk (k_g_isJoined_0 13 rfl) hlo226 ?_
        refine ev_asw (k_g_isJoined_0 14 rfl) (le_b rfl) (show ev _ _ _ _ _ _ 32 [some (vA (xa 1)), some (vA (xa (rt a i0 0))), some (vA (xa (5 + a))), some (vA (xa (5 + b))), some (vI (bi v)), some (vI (k : Int)), some (vA (la.getD k 0)), none] _ _ _ _ from ?_)
        refine ev_ic (k_g_isJoined_0 15 rfl) ?_
        refine ev_isw (k_g_isJoined_0 16 rfl) (le_b rfl) (show ev _ _ _ _ _ _ 35 [some (vA (xa 1)), some (vA (xa (rt a i0 0))), some (vA (xa (5 + a))), some (vA (xa (5 + b))), some (vI (bi v)), some (vI (k : Int)), some (vA (la.getD k 0)), some (vI 0)] _ _ _ _ from ?_)
        rw [show (0 : Int) = ((0 : Nat) : Int) from rfl]
        refine lp_join C hw (is0 := v) ha hb hi0 hc0 (by omega) hle226 hli226 hlf226 hlj226 l17226 l18226 l19226 l20226 hlo226 (fun b0 hb0 => ?_) (la.length + 1) 0 v (by omega) (by simp [anb]) (fun z => absurd z (by omega)) (by omega)
        refine ev_iinc (k_g_isJoined_1 3 rfl) rfl (by omega) (show ev _ _ _ _ _ _ 145 [some (vA (xa 1)), some (vA (xa (rt a i0 0))), some (vA (xa (5 + a))), some (vA (xa (5 + b))), some (vI (bi b0)), some (vI ((k : Int) + 1)), none, none] _ _ _ _ from ?_)
        refine ev_goto (k_g_isJoined_1 4 rfl) ?_
        rw [show (k : Int) + 1 = ((k + 1 : Nat) : Int) by omega]
        exact ih (k + 1) _ (by omega) (by rw [hb0, anb_s, ← h2, shr_eq hw (by omega), show (σ.1 16).toNat = la.length by omega]) (by omega)
  refine ev_ic (k_g_isJoined_0 0 rfl) ?_
  refine ev_isw (k_g_isJoined_0 1 rfl) (le_b rfl) (show ev _ _ _ _ _ _ 3 [some (vA (xa 1)), some (vA (xa (rt a i0 0))), some (vA (xa (5 + a))), some (vA (xa (5 + b))), some (vI 0), none, none, none] _ _ _ _ from ?_)
  refine ev_ic (k_g_isJoined_0 2 rfl) ?_
  refine ev_isw (k_g_isJoined_0 3 rfl) (le_b rfl) (show ev _ _ _ _ _ _ 6 [some (vA (xa 1)), some (vA (xa (rt a i0 0))), some (vA (xa (5 + a))), some (vA (xa (5 + b))), some (vI 0), some (vI 0), none, none] _ _ _ _ from ?_)
  exact loop (la.length + 1) 0 false (by omega) rfl (by omega)
set_option maxHeartbeats 4000000 in
theorem c_g_became_ok (G : gt_T) (h : ab_H) (xa : Nat → Nat) (na la : List Nat) (σ : sg_T) (C : CR G h xa na la σ) (hw : WF σ) (a b i0 : Nat) (c : Int) (ha : a < 3) (hb : b < 3) (hab : a ≠ b) (hr : rof σ a c = some i0)  : ct G M_g_became 8 146 2 12 [vA (xa 1), vI (a : Int), vL c, vI (b : Int)] h (rI fun z h' => h = h' ∧ z = bcm σ (a : Int) c (b : Int)) nT := by
  show ev _ _ _ _ _ _ 0 [some (vA (xa 1)), some (vI (a : Int)), some (vL c), none, some (vI (b : Int)), none, none, none] [] _ _ _
  have hln := cr_ln C
  have hw16 := hw.2.2.2.1
  have hll : la.length ≤ 60 := by omega
  have hi0 : i0 < nr σ a := (rof_lt hr).1
  have hc0 : gd (σ.2 7) (40 * a + i0) = c := (rof_lt hr).2
  refine ev_al (k_g_became 0 rfl) rfl ?_
  refine ev_il (k_g_became 1 rfl) rfl ?_
  refine ev_ll (k_g_became 2 rfl) rfl ?_
  refine ev_ilw (k_g_became 3 rfl) rfl ?_
  refine ev_cVA (C2 := 0) (S2 := 0) (k_g_became 4 rfl) rfl v_g_rowOf (cr_x C) rfl (c_g_rowOf_ok G _ xa na la σ C hw a b i0 c ha hb hab hr) rfl (le_b rfl) (le_b rfl) (le_b rfl) (le_b rfl) (le_b rfl) k_n (k_R fun z227 h227 q227 => ?_)
  obtain ⟨rfl, rfl⟩ := q227
  refine ev_asw (k_g_became 5 rfl) (le_b rfl) (show ev _ _ _ _ _ _ 10 [some (vA (xa 1)), some (vI (a : Int)), some (vL c), none, some (vI (b : Int)), some (vA (xa (rt a i0 0))), none, none] _ _ _ _ from ?_)
  refine ev_al (k_g_became 6 rfl) rfl ?_
  refine ev_alw (k_g_became 7 rfl) rfl ?_
  refine ev_al (k_g_became 8 rfl) rfl ?_
  refine ev_get (v := vA (xa 4)) (k_g_became 9 rfl) (cr_x C) rfl ?_
  refine ev_ilw (k_g_became 10 rfl) rfl ?_
  refine ev_aald (k_g_became 11 rfl) (le_b rfl) (cr_es C) (by omega) (by simp; omega) ?_
  rw [show ([some (xa 5), some (xa 6), some (xa 7)] : List (Option Nat)).getD (((b : Int) : Int)).toNat none = some (xa (5 + b)) from es_get (by omega)]
  refine ev_cV (k_g_became 12 rfl) rfl v_g_linksOf (cr_x C) rfl (c_g_linksOf G _ xa na la σ C hw a i0 b (by omega) (by omega) (by omega)) rfl (le_b rfl) (le_b rfl) (le_b rfl) k_n (k_I fun z228 h228 q228 => ?_)
  obtain ⟨rfl, rfl⟩ := q228
  rw [hc0]
  refine ev_isw (k_g_became 13 rfl) (le_b rfl) (show ev _ _ _ _ _ _ 25 [some (vA (xa 1)), some (vI (a : Int)), some (vL c), none, some (vI (b : Int)), some (vA (xa (rt a i0 0))), some (vI ((lof σ (a : Int) c (b : Int) : Nat) : Int)), none] _ _ _ _ from ?_)
  refine ev_ilw (k_g_became 14 rfl) rfl ?_
  refine ev_if_ne (k_g_became 15 rfl) (fun c229 => ?_) (fun c229 => ?_)
  · refine ev_al (k_g_became 18 rfl) rfl ?_
    refine ev_alw (k_g_became 19 rfl) rfl ?_
    refine ev_al (k_g_became 20 rfl) rfl ?_
    refine ev_get (v := vA (xa 4)) (k_g_became 21 rfl) (cr_x C) rfl ?_
    refine ev_il (k_g_became 22 rfl) rfl ?_
    refine ev_aald (k_g_became 23 rfl) (le_b rfl) (cr_es C) (by omega) (by simp; omega) ?_
    rw [show ([some (xa 5), some (xa 6), some (xa 7)] : List (Option Nat)).getD (((a : Int) : Int)).toNat none = some (xa (5 + a)) from es_get (by omega)]
    refine ev_al (k_g_became 24 rfl) rfl ?_
    refine ev_get (v := vA (xa 4)) (k_g_became 25 rfl) (cr_x C) rfl ?_
    refine ev_ilw (k_g_became 26 rfl) rfl ?_
    refine ev_aald (k_g_became 27 rfl) (le_b rfl) (cr_es C) (by omega) (by simp; omega) ?_
    rw [show ([some (xa 5), some (xa 6), some (xa 7)] : List (Option Nat)).getD (((b : Int) : Int)).toNat none = some (xa (5 + b)) from es_get (by omega)]
    refine ev_cV (k_g_became 28 rfl) rfl v_g_isJoined (cr_x C) rfl (c_g_isJoined G _ xa na la σ C hw a i0 b c ha hb hi0 hc0) rfl (le_b rfl) (le_b rfl) (le_b rfl) k_n (k_B fun z230 h230 q230 => ?_)
    obtain ⟨rfl, rfl⟩ := q230
    refine ev_isw (k_g_became 29 rfl) (le_b rfl) (show ev _ _ _ _ _ _ 53 [some (vA (xa 1)), some (vI (a : Int)), some (vL c), none, some (vI (b : Int)), some (vA (xa (rt a i0 0))), some (vI ((lof σ (a : Int) c (b : Int) : Nat) : Int)), some (vI (bi (anb (shr σ (a : Int) c (b : Int)) (σ.1 16).toNat)))] _ _ _ _ from ?_)
    refine ev_ilw (k_g_became 30 rfl) rfl ?_
    refine ev_ic (k_g_became 31 rfl) ?_
    refine ev_ic_ne (k_g_became 32 rfl) (fun c231 => ?_) (fun c231 => ?_)
    · refine ev_ilw (k_g_became 39 rfl) rfl ?_
      refine ev_b_eq (k_g_became 40 rfl) (fun c232 => ?_) (fun c232 => ?_)
      · refine ev_ic (k_g_became 43 rfl) ?_
        exact ev_iret (k_g_became 44 rfl) rfl (⟨_, rfl, rfl, by unfold bcm; first | (rw [if_neg (by omega), if_pos (by omega), c232]; rfl) | (rw [if_neg (by omega), if_neg (by omega), c232]; rfl)⟩)
      · refine ev_ic (k_g_became 41 rfl) ?_
        refine ev_goto (k_g_became 42 rfl) ?_
        exact ev_iret (k_g_became 44 rfl) rfl (⟨_, rfl, rfl, by unfold bcm; first | (rw [if_neg (by omega), if_pos (by omega), c232]; rfl) | (rw [if_neg (by omega), if_neg (by omega), c232]; rfl)⟩)
    · refine ev_ilw (k_g_became 33 rfl) rfl ?_
      refine ev_b_eq (k_g_became 34 rfl) (fun c233 => ?_) (fun c233 => ?_)
      · refine ev_ic (k_g_became 37 rfl) ?_
        refine ev_goto (k_g_became 38 rfl) ?_
        exact ev_iret (k_g_became 44 rfl) rfl (⟨_, rfl, rfl, by unfold bcm; first | (rw [if_neg (by omega), if_pos (by omega), c233]; rfl) | (rw [if_neg (by omega), if_neg (by omega), c233]; rfl)⟩)
      · refine ev_ic (k_g_became 35 rfl) ?_
        refine ev_goto (k_g_became 36 rfl) ?_
        exact ev_iret (k_g_became 44 rfl) rfl (⟨_, rfl, rfl, by unfold bcm; first | (rw [if_neg (by omega), if_pos (by omega), c233]; rfl) | (rw [if_neg (by omega), if_neg (by omega), c233]; rfl)⟩)
  · refine ev_ic (k_g_became 16 rfl) ?_
    exact ev_iret (k_g_became 17 rfl) rfl (⟨_, rfl, rfl, by unfold bcm; rw [if_pos (by omega)]⟩)
set_option maxHeartbeats 4000000 in
theorem c_g_became_bad (G : gt_T) (h : ab_H) (xa : Nat → Nat) (na la : List Nat) (σ : sg_T) (C : CR G h xa na la σ) (hw : WF σ) (a c b : Int) (hx : iso σ a c b = false) : ct G M_g_became 8 146 2 12 [vA (xa 1), vI a, vL c, vI b] h (rI fun z h' => False) (xT 9 h True) := by
  show ev _ _ _ _ _ _ 0 [some (vA (xa 1)), some (vI a), some (vL c), none, some (vI b), none, none, none] [] _ _ _
  refine ev_al (k_g_became 0 rfl) rfl ?_
  refine ev_il (k_g_became 1 rfl) rfl ?_
  refine ev_ll (k_g_became 2 rfl) rfl ?_
  refine ev_ilw (k_g_became 3 rfl) rfl ?_
  refine ev_cVA (C2 := 0) (S2 := 0) (k_g_became 4 rfl) rfl v_g_rowOf (cr_x C) rfl (c_g_rowOf_bad G _ xa na la σ C hw _ _ _ hx) rfl (le_b rfl) (le_b rfl) (le_b rfl) (le_b rfl) (le_b rfl) (k_t rfl (fun a h' q => q)) (k_R fun z234 h234 q234 => ?_)
  exact q234.elim
set_option maxHeartbeats 2000000 in
theorem c_g_lost_ok (G : gt_T) (h : ab_H) (xa : Nat → Nat) (na la : List Nat) (σ : sg_T) (C : CR G h xa na la σ) (hw : WF σ) (a b : Nat) (ha : a < 3) (hb : b < 3) (hab : a ≠ b) : ct G M_g_lost 7 121 1 6 [vA (xa 1), vI (a : Int), vI (b : Int)] h (rI fun z h' => h = h' ∧ z = (lsv σ a b : Int)) nT := by
  show ev _ _ _ _ _ _ 0 [some (vA (xa 1)), some (vI (a : Int)), some (vI (b : Int)), none, none, none] [] _ _ _
  have hna := nr40 hw ha
  have loop : ∀ (fu : Nat) (k : Nat) (n : Int), (k ≤ nr σ a) → (n = (cnt (lsq σ a b) k : Int)) → nr σ a - k < fu → ev G M_g_lost 7 121 0 0 43 [some (vA (xa 1)), some (vI (a : Int)), some (vI (b : Int)), some (vA (xa (10 + 2 * a))), some (vI n), some (vI (k : Int))] [] h (rI fun z h' => h = h' ∧ z = (lsv σ a b : Int)) nT := by
    intro fu
    induction fu with
    | zero => intros; omega
    | succ fu ih =>
      intro k n h1 h2 hn
      have hc := cnt_le (lsq σ a b) k
      refine ev_ilw (k_g_lost 23 rfl) rfl ?_
      refine ev_al (k_g_lost 24 rfl) rfl ?_
      obtain ⟨fs235, ho235⟩ := AL_recv (cr_rl C a (by omega))
      refine ev_cV (k_g_lost 25 rfl) rfl v_al_size ho235 rfl (c_al_size G _ _ _ _ (cr_rl C a (by omega))) rfl (le_b rfl) (le_b rfl) (le_b rfl) k_n (k_I fun z235 h235 q235 => ?_)
      obtain ⟨rfl, rfl⟩ := q235
      rw [rwl_len]
      refine ev_ic_ge (k_g_lost 26 rfl) (fun c236 => ?_) (fun c236 => ?_)
      · refine ev_ilw (k_g_lost 53 rfl) rfl ?_
        exact ev_iret (k_g_lost 54 rfl) rfl (⟨_, rfl, rfl, by rw [h2]; unfold lsv; rw [show (gd (σ.2 6) a).toNat = k by unfold nr at *; omega]⟩)
      · refine ev_ilw (k_g_lost 27 rfl) rfl ?_
        refine ev_al (k_g_lost 28 rfl) rfl ?_
        refine ev_ilw (k_g_lost 29 rfl) rfl ?_
        obtain ⟨fs237, ho237⟩ := AL_recv (cr_rl C a (by omega))
        refine ev_cV (k_g_lost 30 rfl) rfl v_al_get ho237 rfl (c_al_get G _ _ _ _ (cr_rl C a (by omega)) k (by rw [rwl_len]; omega)) rfl (le_b rfl) (le_b rfl) (le_b rfl) k_n (k_R fun z237 h237 q237 => ?_)
        obtain ⟨rfl, rfl⟩ := q237
        rw [rwl_get (by omega)]
        refine ev_chk (k_g_lost 31 rfl) (cr_row C a k (by omega) (by omega)) ?_
        refine ev_get (v := vA (xa (rt a k 2))) (k_g_lost 32 rfl) (cr_row C a k (by omega) (by omega)) rfl ?_
        obtain ⟨bl239, hb239, hbl239⟩ := cr_bl C a k (by omega) (by omega)
        obtain ⟨fs239, ho239⟩ := AL_recv hb239
        refine ev_cV (k_g_lost 33 rfl) rfl v_al_isEmpty ho239 rfl (c_al_isEmpty G _ _ _ _ hb239) rfl (le_b rfl) (le_b rfl) (le_b rfl) k_n (k_B fun z239 h239 q239 => ?_)
        obtain ⟨rfl, rfl⟩ := q239
        rw [hbl239]
        refine ev_b_eq (k_g_lost 34 rfl) (fun c240 => ?_) (fun c240 => ?_)
        · refine ev_ic (k_g_lost 48 rfl) ?_
          refine ev_iadd (k_g_lost 49 rfl) (by omega) ?_
          refine ev_isw (k_g_lost 50 rfl) (le_b rfl) (show ev _ _ _ _ _ _ 102 [some (vA (xa 1)), some (vI (a : Int)), some (vI (b : Int)), some (vA (xa (10 + 2 * a))), some (vI (n + 0)), some (vI (k : Int))] _ _ _ _ from ?_)
          refine ev_iinc (k_g_lost 51 rfl) rfl (by omega) (show ev _ _ _ _ _ _ 105 [some (vA (xa 1)), some (vI (a : Int)), some (vI (b : Int)), some (vA (xa (10 + 2 * a))), some (vI (n + 0)), some (vI ((k : Int) + 1))] _ _ _ _ from ?_)
          refine ev_goto (k_g_lost 52 rfl) ?_
          have hq : lsq σ a b k = false := by unfold lsq; rw [show (bel σ a (40 * a + k) == 0) = false from beq_eq_false_iff_ne.mpr (of_decide_eq_false c240)]; rfl
          rw [show (k : Int) + 1 = ((k + 1 : Nat) : Int) by omega]
          exact ih (k + 1) _ (by omega) (by rw [cnt_f hq, h2]) (by omega)
        · refine ev_al (k_g_lost 35 rfl) rfl ?_
          refine ev_al (k_g_lost 36 rfl) rfl ?_
          refine ev_ilw (k_g_lost 37 rfl) rfl ?_
          obtain ⟨fs241, ho241⟩ := AL_recv (cr_rl C a (by omega))
          refine ev_cV (k_g_lost 38 rfl) rfl v_al_get ho241 rfl (c_al_get G _ _ _ _ (cr_rl C a (by omega)) k (by rw [rwl_len]; omega)) rfl (le_b rfl) (le_b rfl) (le_b rfl) k_n (k_R fun z241 h241 q241 => ?_)
          obtain ⟨rfl, rfl⟩ := q241
          rw [rwl_get (by omega)]
          refine ev_chk (k_g_lost 39 rfl) (cr_row C a k (by omega) (by omega)) ?_
          refine ev_al (k_g_lost 40 rfl) rfl ?_
          refine ev_get (v := vA (xa 4)) (k_g_lost 41 rfl) (cr_x C) rfl ?_
          refine ev_il (k_g_lost 42 rfl) rfl ?_
          refine ev_aald (k_g_lost 43 rfl) (le_b rfl) (cr_es C) (by omega) (by simp; omega) ?_
          rw [show ([some (xa 5), some (xa 6), some (xa 7)] : List (Option Nat)).getD (((b : Int) : Int)).toNat none = some (xa (5 + b)) from es_get (by omega)]
          refine ev_cV (k_g_lost 44 rfl) rfl v_g_linksOf (cr_x C) rfl (c_g_linksOf G _ xa na la σ C hw a k b (by omega) (by omega) (by omega)) rfl (le_b rfl) (le_b rfl) (le_b rfl) k_n (k_I fun z243 h243 q243 => ?_)
          obtain ⟨rfl, rfl⟩ := q243
          refine ev_if_ne (k_g_lost 45 rfl) (fun c244 => ?_) (fun c244 => ?_)
          · refine ev_ic (k_g_lost 48 rfl) ?_
            refine ev_iadd (k_g_lost 49 rfl) (by omega) ?_
            refine ev_isw (k_g_lost 50 rfl) (le_b rfl) (show ev _ _ _ _ _ _ 102 [some (vA (xa 1)), some (vI (a : Int)), some (vI (b : Int)), some (vA (xa (10 + 2 * a))), some (vI (n + 0)), some (vI (k : Int))] _ _ _ _ from ?_)
            refine ev_iinc (k_g_lost 51 rfl) rfl (by omega) (show ev _ _ _ _ _ _ 105 [some (vA (xa 1)), some (vI (a : Int)), some (vI (b : Int)), some (vA (xa (10 + 2 * a))), some (vI (n + 0)), some (vI ((k : Int) + 1))] _ _ _ _ from ?_)
            refine ev_goto (k_g_lost 52 rfl) ?_
            have hq : lsq σ a b k = false := by unfold lsq; rw [show (lof σ (a : Int) (gd (σ.2 7) (40 * a + k)) (b : Int) == 0) = false from beq_eq_false_iff_ne.mpr (by omega)]; simp
            rw [show (k : Int) + 1 = ((k + 1 : Nat) : Int) by omega]
            exact ih (k + 1) _ (by omega) (by rw [cnt_f hq, h2]) (by omega)
          · refine ev_ic (k_g_lost 46 rfl) ?_
            refine ev_goto (k_g_lost 47 rfl) ?_
            refine ev_iadd (k_g_lost 49 rfl) (by omega) ?_
            refine ev_isw (k_g_lost 50 rfl) (le_b rfl) (show ev _ _ _ _ _ _ 102 [some (vA (xa 1)), some (vI (a : Int)), some (vI (b : Int)), some (vA (xa (10 + 2 * a))), some (vI (n + 1)), some (vI (k : Int))] _ _ _ _ from ?_)
            refine ev_iinc (k_g_lost 51 rfl) rfl (by omega) (show ev _ _ _ _ _ _ 105 [some (vA (xa 1)), some (vI (a : Int)), some (vI (b : Int)), some (vA (xa (10 + 2 * a))), some (vI (n + 1)), some (vI ((k : Int) + 1))] _ _ _ _ from ?_)
            refine ev_goto (k_g_lost 52 rfl) ?_
            have hq : lsq σ a b k = true := by unfold lsq; rw [of_decide_eq_true c240]; simp; omega
            rw [show (k : Int) + 1 = ((k + 1 : Nat) : Int) by omega]
            exact ih (k + 1) _ (by omega) (by rw [cnt_t hq, h2]) (by omega)
  refine ev_il (k_g_lost 0 rfl) rfl ?_
  refine ev_cS (k_g_lost 1 rfl) rfl v_g_isEdition (c_g_isEdition G _ (a : Int)) rfl (le_b rfl) (le_b rfl) (le_b rfl) k_n (k_B fun z245 h245 q245 => ?_)
  obtain ⟨rfl, rfl⟩ := q245
  refine ev_b_eq (k_g_lost 2 rfl) (fun c246 => ?_) (fun c246 => ?_)
  · have j246 := inb_f c246
    exfalso; omega
  · have j246 := inb_t c246
    refine ev_il (k_g_lost 3 rfl) rfl ?_
    refine ev_cS (k_g_lost 4 rfl) rfl v_g_isEdition (c_g_isEdition G _ (b : Int)) rfl (le_b rfl) (le_b rfl) (le_b rfl) k_n (k_B fun z247 h247 q247 => ?_)
    obtain ⟨rfl, rfl⟩ := q247
    refine ev_b_eq (k_g_lost 5 rfl) (fun c248 => ?_) (fun c248 => ?_)
    · have j248 := inb_f c248
      exfalso; omega
    · have j248 := inb_t c248
      refine ev_il (k_g_lost 6 rfl) rfl ?_
      refine ev_il (k_g_lost 7 rfl) rfl ?_
      refine ev_ic_eq (k_g_lost 8 rfl) (fun c249 => ?_) (fun c249 => ?_)
      · exfalso; omega
      · refine ev_ic (k_g_lost 9 rfl) ?_
        refine ev_goto (k_g_lost 10 rfl) ?_
        refine ev_cSA (C2 := 0) (S2 := 0) (k_g_lost 12 rfl) rfl v_g_allow (c_g_allow G _ true) rfl (le_b rfl) (le_b rfl) (le_b rfl) (le_b rfl) (le_b rfl) (k_t rfl (fun a h' q => absurd q.1 (by decide))) (k_V fun h250 q250 => ?_)
        obtain ⟨rfl, -⟩ := q250
        refine ev_al (k_g_lost 13 rfl) rfl ?_
        refine ev_get (v := vA (xa 4)) (k_g_lost 14 rfl) (cr_x C) rfl ?_
        refine ev_il (k_g_lost 15 rfl) rfl ?_
        refine ev_aald (k_g_lost 16 rfl) (le_b rfl) (cr_es C) (by omega) (by simp; omega) ?_
        rw [show ([some (xa 5), some (xa 6), some (xa 7)] : List (Option Nat)).getD (((a : Int) : Int)).toNat none = some (xa (5 + a)) from es_get (by omega)]
        refine ev_get (v := vA (xa (10 + 2 * a))) (k_g_lost 17 rfl) (cr_ed C a (by omega)) rfl ?_
        refine ev_as (k_g_lost 18 rfl) (le_b rfl) (show ev _ _ _ _ _ _ 37 [some (vA (xa 1)), some (vI (a : Int)), some (vI (b : Int)), some (vA (xa (10 + 2 * a))), none, none] _ _ _ _ from ?_)
        refine ev_ic (k_g_lost 19 rfl) ?_
        refine ev_isw (k_g_lost 20 rfl) (le_b rfl) (show ev _ _ _ _ _ _ 40 [some (vA (xa 1)), some (vI (a : Int)), some (vI (b : Int)), some (vA (xa (10 + 2 * a))), some (vI 0), none] _ _ _ _ from ?_)
        refine ev_ic (k_g_lost 21 rfl) ?_
        refine ev_isw (k_g_lost 22 rfl) (le_b rfl) (show ev _ _ _ _ _ _ 43 [some (vA (xa 1)), some (vI (a : Int)), some (vI (b : Int)), some (vA (xa (10 + 2 * a))), some (vI 0), some (vI 0)] _ _ _ _ from ?_)
        exact loop (nr σ a + 1) 0 0 (by omega) rfl (by omega)
set_option maxHeartbeats 4000000 in
theorem c_g_lost_bad (G : gt_T) (h : ab_H) (xa : Nat → Nat) (na la : List Nat) (σ : sg_T) (C : CR G h xa na la σ) (hw : WF σ) (a b : Int) (hx : ¬ (inb a 0 2 = true ∧ inb b 0 2 = true ∧ a ≠ b)) : ct G M_g_lost 7 121 1 6 [vA (xa 1), vI a, vI b] h (rI fun z h' => False) (xT 9 h True) := by
  show ev _ _ _ _ _ _ 0 [some (vA (xa 1)), some (vI a), some (vI b), none, none, none] [] _ _ _
  refine ev_il (k_g_lost 0 rfl) rfl ?_
  refine ev_cS (k_g_lost 1 rfl) rfl v_g_isEdition (c_g_isEdition G _ a) rfl (le_b rfl) (le_b rfl) (le_b rfl) k_n (k_B fun z251 h251 q251 => ?_)
  obtain ⟨rfl, rfl⟩ := q251
  refine ev_b_eq (k_g_lost 2 rfl) (fun c252 => ?_) (fun c252 => ?_)
  · have j252 := inb_f c252
    refine ev_ic (k_g_lost 11 rfl) ?_
    refine ev_cSA (C2 := 0) (S2 := 0) (k_g_lost 12 rfl) rfl v_g_allow (c_g_allow G _ false) rfl (le_b rfl) (le_b rfl) (le_b rfl) (le_b rfl) (le_b rfl) (k_t rfl (fun a h' q => xT_of trivial q.2.1 q.2.2)) (k_V fun h253 q253 => ?_)
    exact absurd q253.2 (by decide)
  · have j252 := inb_t c252
    refine ev_il (k_g_lost 3 rfl) rfl ?_
    refine ev_cS (k_g_lost 4 rfl) rfl v_g_isEdition (c_g_isEdition G _ b) rfl (le_b rfl) (le_b rfl) (le_b rfl) k_n (k_B fun z254 h254 q254 => ?_)
    obtain ⟨rfl, rfl⟩ := q254
    refine ev_b_eq (k_g_lost 5 rfl) (fun c255 => ?_) (fun c255 => ?_)
    · have j255 := inb_f c255
      refine ev_ic (k_g_lost 11 rfl) ?_
      refine ev_cSA (C2 := 0) (S2 := 0) (k_g_lost 12 rfl) rfl v_g_allow (c_g_allow G _ false) rfl (le_b rfl) (le_b rfl) (le_b rfl) (le_b rfl) (le_b rfl) (k_t rfl (fun a h' q => xT_of trivial q.2.1 q.2.2)) (k_V fun h256 q256 => ?_)
      exact absurd q256.2 (by decide)
    · have j255 := inb_t c255
      refine ev_il (k_g_lost 6 rfl) rfl ?_
      refine ev_il (k_g_lost 7 rfl) rfl ?_
      refine ev_ic_eq (k_g_lost 8 rfl) (fun c257 => ?_) (fun c257 => ?_)
      · refine ev_ic (k_g_lost 11 rfl) ?_
        refine ev_cSA (C2 := 0) (S2 := 0) (k_g_lost 12 rfl) rfl v_g_allow (c_g_allow G _ false) rfl (le_b rfl) (le_b rfl) (le_b rfl) (le_b rfl) (le_b rfl) (k_t rfl (fun a h' q => xT_of trivial q.2.1 q.2.2)) (k_V fun h258 q258 => ?_)
        exact absurd q258.2 (by decide)
      · exact absurd ⟨c252, c255, c257⟩ hx
