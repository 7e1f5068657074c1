theorem es_get {xa : Nat → Nat} {e : Nat} (he : e < 3) : ([some (xa 5), some (xa 6), some (xa 7)] : List (Option Nat)).getD ((e : Int)).toNat none = some (xa (5 + e)) := by
  have : e = 0 ∨ e = 1 ∨ e = 2 := by omega
  rcases this with rfl | rfl | rfl <;> rfl
theorem rof_some {σ : sg_T} (hw : WF σ) {e i : Nat} {c : Int} (he : e < 3) (hi : i < nr σ e) (hc : gd (σ.2 7) (40 * e + i) = c) : rof σ e c = some i := by
  unfold rof
  refine lix_only hi (bq_t hc) (fun j hj hq => ?_)
  exact hw.2.2.2.2.2.2.2.1 e j i he hj hi ((eq_of_beq hq).trans hc.symm)
theorem rof_none {σ : sg_T} {e : Nat} {c : Int} (hn : ∀ j, j < nr σ e → gd (σ.2 7) (40 * e + j) ≠ c) : rof σ e c = none := lix_none (fun j hj => bq_f (hn j hj))
set_option maxHeartbeats 2000000 in
theorem c_g_in (G : gt_T) (h : ab_H) (v a b : Int) : ct G M_g_in 0 0 0 0 [vI v, vI a, vI b] h (rB fun z h' => h = h' ∧ z = inb v a b) nT := by
  show ev _ _ _ _ _ _ 0 [some (vI v), some (vI a), some (vI b)] [] _ _ _
  refine ev_il (k_g_in 0 rfl) rfl ?_
  refine ev_il (k_g_in 1 rfl) rfl ?_
  refine ev_ic_lt (k_g_in 2 rfl) (fun c59 => ?_) (fun c59 => ?_)
  · refine ev_ic (k_g_in 8 rfl) ?_
    exact ev_zret (x := false) (k_g_in 9 rfl) rfl (⟨false, rfl, rfl, by simp [inb]; omega⟩)
  · refine ev_il (k_g_in 3 rfl) rfl ?_
    refine ev_il (k_g_in 4 rfl) rfl ?_
    refine ev_ic_gt (k_g_in 5 rfl) (fun c60 => ?_) (fun c60 => ?_)
    · refine ev_ic (k_g_in 8 rfl) ?_
      exact ev_zret (x := false) (k_g_in 9 rfl) rfl (⟨false, rfl, rfl, by simp [inb]; omega⟩)
    · refine ev_ic (k_g_in 6 rfl) ?_
      refine ev_goto (k_g_in 7 rfl) ?_
      exact ev_zret (x := true) (k_g_in 9 rfl) rfl (⟨true, rfl, rfl, by simp [inb]; omega⟩)
set_option maxHeartbeats 2000000 in
theorem c_g_isEdition (G : gt_T) (h : ab_H) (e : Int) : ct G M_g_isEdition 1 22 0 0 [vI e] h (rB fun z h' => h = h' ∧ z = inb e 0 2) nT := by
  show ev _ _ _ _ _ _ 0 [some (vI e)] [] _ _ _
  refine ev_il (k_g_isEdition 0 rfl) rfl ?_
  refine ev_ic (k_g_isEdition 1 rfl) ?_
  refine ev_ic (k_g_isEdition 2 rfl) ?_
  refine ev_cS (k_g_isEdition 3 rfl) rfl v_g_in (c_g_in G _ e 0 2) rfl (le_b rfl) (le_b rfl) (le_b rfl) k_n (k_B fun z61 h61 q61 => ?_)
  obtain ⟨rfl, rfl⟩ := q61
  exact ev_zret (k_g_isEdition 4 rfl) rfl (⟨_, rfl, rfl, rfl⟩)
set_option maxHeartbeats 2000000 in
theorem c_g_now (G : gt_T) (h : ab_H) (xa : Nat → Nat) (na la : List Nat) (σ : sg_T) (C : CR G h xa na la σ) (hw : WF σ) (pn : Nat) (hp : σ.1 3 = (pn : Int)) (hp2 : pn < 3)  : ct G M_g_now 0 0 0 0 [vA (xa 1)] h (rR fun z h' => h = h' ∧ z = some (xa (5 + pn))) nT := by
  show ev _ _ _ _ _ _ 0 [some (vA (xa 1))] [] _ _ _
  refine ev_al (k_g_now 0 rfl) rfl ?_
  refine ev_get (v := vA (xa 4)) (k_g_now 1 rfl) (cr_x C) rfl ?_
  refine ev_al (k_g_now 2 rfl) rfl ?_
  refine ev_get (v := vI (pn : Int)) (k_g_now 3 rfl) (cr_x C) (congrArg (fun z => some (vI z)) hp) ?_
  refine ev_aald (k_g_now 4 rfl) (le_b rfl) (cr_es C) (by omega) (by simp; omega) ?_
  rw [show ([some (xa 5), some (xa 6), some (xa 7)] : List (Option Nat)).getD (((pn : Int) : Int)).toNat none = some (xa (5 + pn)) from es_get (by omega)]
  exact ev_aret (k_g_now 5 rfl) rfl (⟨_, rfl, rfl, rfl⟩)
set_option maxHeartbeats 2000000 in
theorem c_e_find (G : gt_T) (h : ab_H) (xa : Nat → Nat) (na la : List Nat) (σ : sg_T) (C : CR G h xa na la σ) (hw : WF σ) (e : Nat) (he : e < 3) (c : Int) : ct G M_e_find 3 64 0 0 [vA (xa (5 + e)), vL c] h (rR fun z h' => h = h' ∧ z = rwa xa e (rof σ e c)) nT := by
  show ev _ _ _ _ _ _ 0 [some (vA (xa (5 + e))), some (vL c), none, none] [] _ _ _
  have loop : ∀ (fu : Nat) (k : Nat), (k ≤ nr σ e) → (∀ j, j < k → gd (σ.2 7) (40 * e + j) ≠ c) → nr σ e - k < fu → ev G M_e_find 3 64 0 0 2 [some (vA (xa (5 + e))), some (vL c), none, some (vI (k : Int))] [] h (rR fun z h' => h = h' ∧ z = rwa xa e (rof σ e c)) nT := by
    intro fu
    induction fu with
    | zero => intros; omega
    | succ fu ih =>
      intro k h1 h2 hn
      have hre := hw.2.2.2.2.2.1 e he
      have hnr : nr σ e ≤ 40 := by unfold nr; omega
      refine ev_il (k_e_find 2 rfl) rfl ?_
      refine ev_al (k_e_find 3 rfl) rfl ?_
      refine ev_get (v := vA (xa (10 + 2 * e))) (k_e_find 4 rfl) (cr_ed C e (by omega)) rfl ?_
      obtain ⟨fs62, ho62⟩ := AL_recv (cr_rl C e (by omega))
      refine ev_cV (k_e_find 5 rfl) rfl v_al_size ho62 rfl (c_al_size G _ _ _ _ (cr_rl C e (by omega))) rfl (le_b rfl) (le_b rfl) (le_b rfl) k_n (k_I fun z62 h62 q62 => ?_)
      obtain ⟨rfl, rfl⟩ := q62
      rw [rwl_len]
      refine ev_ic_ge (k_e_find 6 rfl) (fun c63 => ?_) (fun c63 => ?_)
      · refine ev_il (k_e_find 18 rfl) rfl ?_
        refine ev_al (k_e_find 19 rfl) rfl ?_
        refine ev_get (v := vA (xa (10 + 2 * e))) (k_e_find 20 rfl) (cr_ed C e (by omega)) rfl ?_
        obtain ⟨fs64, ho64⟩ := AL_recv (cr_rl C e (by omega))
        refine ev_cV (k_e_find 21 rfl) rfl v_al_size ho64 rfl (c_al_size G _ _ _ _ (cr_rl C e (by omega))) rfl (le_b rfl) (le_b rfl) (le_b rfl) k_n (k_I fun z64 h64 q64 => ?_)
        obtain ⟨rfl, rfl⟩ := q64
        rw [rwl_len]
        refine ev_ic_ge (k_e_find 22 rfl) (fun c65 => ?_) (fun c65 => ?_)
        · refine ev_null (k_e_find 29 rfl) ?_
          exact ev_aret (k_e_find 30 rfl) rfl (⟨_, rfl, rfl, by rw [rof_none (fun j hj => h2 j (by omega))]; rfl⟩)
        · refine ev_al (k_e_find 23 rfl) rfl ?_
          refine ev_get (v := vA (xa (10 + 2 * e))) (k_e_find 24 rfl) (cr_ed C e (by omega)) rfl ?_
          refine ev_il (k_e_find 25 rfl) rfl ?_
          obtain ⟨fs66, ho66⟩ := AL_recv (cr_rl C e (by omega))
          refine ev_cV (k_e_find 26 rfl) rfl v_al_get ho66 rfl (c_al_get G _ _ _ _ (cr_rl C e (by omega)) k (by rw [rwl_len]; omega)) rfl (le_b rfl) (le_b rfl) (le_b rfl) k_n (k_R fun z66 h66 q66 => ?_)
          obtain ⟨rfl, rfl⟩ := q66
          rw [rwl_get (by omega)]
          refine ev_chk (k_e_find 27 rfl) (cr_row C e k (by omega) (by omega)) ?_
          refine ev_goto (k_e_find 28 rfl) ?_
          exact ev_aret (k_e_find 30 rfl) rfl (⟨_, rfl, rfl, by rw [rof_some hw he (i := k) (by omega) (by first | assumption | omega)]; rfl⟩)
      · refine ev_al (k_e_find 7 rfl) rfl ?_
        refine ev_get (v := vA (xa (10 + 2 * e))) (k_e_find 8 rfl) (cr_ed C e (by omega)) rfl ?_
        refine ev_il (k_e_find 9 rfl) rfl ?_
        obtain ⟨fs67, ho67⟩ := AL_recv (cr_rl C e (by omega))
        refine ev_cV (k_e_find 10 rfl) rfl v_al_get ho67 rfl (c_al_get G _ _ _ _ (cr_rl C e (by omega)) k (by rw [rwl_len]; omega)) rfl (le_b rfl) (le_b rfl) (le_b rfl) k_n (k_R fun z67 h67 q67 => ?_)
        obtain ⟨rfl, rfl⟩ := q67
        rw [rwl_get (by omega)]
        refine ev_chk (k_e_find 11 rfl) (cr_row C e k (by omega) (by omega)) ?_
        refine ev_get (v := vL (gd (σ.2 7) (40 * e + k))) (k_e_find 12 rfl) (cr_row C e k (by omega) (by omega)) rfl ?_
        refine ev_ll (k_e_find 13 rfl) rfl ?_
        refine ev_lc_eq (k_e_find 14 rfl) (k_e_find 15 rfl) (fun c68 => ?_) (fun c68 => ?_)
        · refine ev_il (k_e_find 18 rfl) rfl ?_
          refine ev_al (k_e_find 19 rfl) rfl ?_
          refine ev_get (v := vA (xa (10 + 2 * e))) (k_e_find 20 rfl) (cr_ed C e (by omega)) rfl ?_
          obtain ⟨fs69, ho69⟩ := AL_recv (cr_rl C e (by omega))
          refine ev_cV (k_e_find 21 rfl) rfl v_al_size ho69 rfl (c_al_size G _ _ _ _ (cr_rl C e (by omega))) rfl (le_b rfl) (le_b rfl) (le_b rfl) k_n (k_I fun z69 h69 q69 => ?_)
          obtain ⟨rfl, rfl⟩ := q69
          rw [rwl_len]
          refine ev_ic_ge (k_e_find 22 rfl) (fun c70 => ?_) (fun c70 => ?_)
          · refine ev_null (k_e_find 29 rfl) ?_
            exact ev_aret (k_e_find 30 rfl) rfl (⟨_, rfl, rfl, by rw [rof_none (fun j hj => h2 j (by omega))]; rfl⟩)
          · refine ev_al (k_e_find 23 rfl) rfl ?_
            refine ev_get (v := vA (xa (10 + 2 * e))) (k_e_find 24 rfl) (cr_ed C e (by omega)) rfl ?_
            refine ev_il (k_e_find 25 rfl) rfl ?_
            obtain ⟨fs71, ho71⟩ := AL_recv (cr_rl C e (by omega))
            refine ev_cV (k_e_find 26 rfl) rfl v_al_get ho71 rfl (c_al_get G _ _ _ _ (cr_rl C e (by omega)) k (by rw [rwl_len]; omega)) rfl (le_b rfl) (le_b rfl) (le_b rfl) k_n (k_R fun z71 h71 q71 => ?_)
            obtain ⟨rfl, rfl⟩ := q71
            rw [rwl_get (by omega)]
            refine ev_chk (k_e_find 27 rfl) (cr_row C e k (by omega) (by omega)) ?_
            refine ev_goto (k_e_find 28 rfl) ?_
            exact ev_aret (k_e_find 30 rfl) rfl (⟨_, rfl, rfl, by rw [rof_some hw he (i := k) (by omega) (by first | assumption | omega)]; rfl⟩)
        · refine ev_iinc (k_e_find 16 rfl) rfl (by omega) (show ev _ _ _ _ _ _ 35 [some (vA (xa (5 + e))), some (vL c), none, some (vI ((k : Int) + 1))] _ _ _ _ from ?_)
          refine ev_goto (k_e_find 17 rfl) ?_
          rw [show (k : Int) + 1 = ((k + 1 : Nat) : Int) by omega]
          exact ih (k + 1) (by omega) (fun j hj => by by_cases e1 : j = k; (rw [e1]; exact c68); exact h2 j (by omega)) (by omega)
  refine ev_ic (k_e_find 0 rfl) ?_
  refine ev_is (k_e_find 1 rfl) (le_b rfl) (show ev _ _ _ _ _ _ 2 [some (vA (xa (5 + e))), some (vL c), none, some (vI 0)] _ _ _ _ from ?_)
  exact loop (nr σ e + 1) 0 (by omega) (fun j hj => absurd hj (by omega)) (by omega)
theorem abo_n {xa : Nat → Nat} {σ : sg_T} {e i : Nat} (h : abv (σ.2 8) (40 * e) (40 * e + i) < 0) : abo xa σ e i = none := if_pos h
theorem abo_s {xa : Nat → Nat} {σ : sg_T} {e i : Nat} (h : ¬ abv (σ.2 8) (40 * e) (40 * e + i) < 0) : abo xa σ e i = some (xa (rt e ((abv (σ.2 8) (40 * e) (40 * e + i)).toNat - 40 * e) 0)) := if_neg h
theorem abo_0 {xa : Nat → Nat} {σ : sg_T} (hw : WF σ) {e i : Nat} (he : e < 3) (hi : i < nr σ e) : abo xa σ e i = none ↔ gd (σ.2 8) (40 * e + i) = 0 := by
  constructor
  · intro z
    unfold abo at z
    split at z
    · rcases hw.2.2.2.2.2.2.2.2.2.2.2 e i he hi with q | q
      · exact q
      · omega
    · cases z
  · intro z; exact abo_n (by rw [abv_0 z]; decide)
set_option maxHeartbeats 2000000 in
theorem c_e_chapters (G : gt_T) (h : ab_H) (xa : Nat → Nat) (na la : List Nat) (σ : sg_T) (C : CR G h xa na la σ) (hw : WF σ) (e : Nat) (he : e < 3) : ct G M_e_chapters 3 64 0 0 [vA (xa (5 + e))] h (rI fun z h' => h = h' ∧ z = (chp σ e : Int)) nT := by
  show ev _ _ _ _ _ _ 0 [some (vA (xa (5 + e))), none, none] [] _ _ _
  have loop : ∀ (fu : Nat) (k : Nat) (n : Int), (k ≤ nr σ e) → (n = (cnt (fun k => gd (σ.2 8) (40 * e + k) == 0) k : Int)) → nr σ e - k < fu → ev G M_e_chapters 3 64 0 0 4 [some (vA (xa (5 + e))), some (vI n), some (vI (k : Int))] [] h (rI fun z h' => h = h' ∧ z = (chp σ e : Int)) nT := by
    intro fu
    induction fu with
    | zero => intros; omega
    | succ fu ih =>
      intro k n h1 h2 hn
      have hre := hw.2.2.2.2.2.1 e he
      have hnr : nr σ e ≤ 40 := by unfold nr; omega
      have hc := cnt_le (fun k => gd (σ.2 8) (40 * e + k) == 0) k
      refine ev_il (k_e_chapters 4 rfl) rfl ?_
      refine ev_al (k_e_chapters 5 rfl) rfl ?_
      refine ev_get (v := vA (xa (10 + 2 * e))) (k_e_chapters 6 rfl) (cr_ed C e (by omega)) rfl ?_
      obtain ⟨fs72, ho72⟩ := AL_recv (cr_rl C e (by omega))
      refine ev_cV (k_e_chapters 7 rfl) rfl v_al_size ho72 rfl (c_al_size G _ _ _ _ (cr_rl C e (by omega))) rfl (le_b rfl) (le_b rfl) (le_b rfl) k_n (k_I fun z72 h72 q72 => ?_)
      obtain ⟨rfl, rfl⟩ := q72
      rw [rwl_len]
      refine ev_ic_ge (k_e_chapters 8 rfl) (fun c73 => ?_) (fun c73 => ?_)
      · refine ev_il (k_e_chapters 24 rfl) rfl ?_
        exact ev_iret (k_e_chapters 25 rfl) rfl (⟨_, rfl, rfl, by rw [h2]; unfold chp; rw [show (gd (σ.2 6) e).toNat = k by unfold nr at *; omega]⟩)
      · refine ev_il (k_e_chapters 9 rfl) rfl ?_
        refine ev_al (k_e_chapters 10 rfl) rfl ?_
        refine ev_get (v := vA (xa (10 + 2 * e))) (k_e_chapters 11 rfl) (cr_ed C e (by omega)) rfl ?_
        refine ev_il (k_e_chapters 12 rfl) rfl ?_
        obtain ⟨fs74, ho74⟩ := AL_recv (cr_rl C e (by omega))
        refine ev_cV (k_e_chapters 13 rfl) rfl v_al_get ho74 rfl (c_al_get G _ _ _ _ (cr_rl C e (by omega)) k (by rw [rwl_len]; omega)) rfl (le_b rfl) (le_b rfl) (le_b rfl) k_n (k_R fun z74 h74 q74 => ?_)
        obtain ⟨rfl, rfl⟩ := q74
        rw [rwl_get (by omega)]
        refine ev_chk (k_e_chapters 14 rfl) (cr_row C e k (by omega) (by omega)) ?_
        refine ev_get (v := vR (abo xa σ e k)) (k_e_chapters 15 rfl) (cr_row C e k (by omega) (by omega)) rfl ?_
        refine ev_ifnn (k_e_chapters 16 rfl) (fun c75 => ?_) (fun c75 => ?_)
        · refine ev_ic (k_e_chapters 19 rfl) ?_
          refine ev_iadd (k_e_chapters 20 rfl) (by omega) ?_
          refine ev_is (k_e_chapters 21 rfl) (le_b rfl) (show ev _ _ _ _ _ _ 40 [some (vA (xa (5 + e))), some (vI (n + 0)), some (vI (k : Int))] _ _ _ _ from ?_)
          refine ev_iinc (k_e_chapters 22 rfl) rfl (by omega) (show ev _ _ _ _ _ _ 43 [some (vA (xa (5 + e))), some (vI (n + 0)), some (vI ((k : Int) + 1))] _ _ _ _ from ?_)
          refine ev_goto (k_e_chapters 23 rfl) ?_
          rw [show (k : Int) + 1 = ((k + 1 : Nat) : Int) by omega]
          exact ih (k + 1) _ (by omega) (by rw [cnt_f (bq_f (fun z => c75 ((abo_0 hw he (by omega)).mpr z))), h2]) (by omega)
        · refine ev_ic (k_e_chapters 17 rfl) ?_
          refine ev_goto (k_e_chapters 18 rfl) ?_
          refine ev_iadd (k_e_chapters 20 rfl) (by omega) ?_
          refine ev_is (k_e_chapters 21 rfl) (le_b rfl) (show ev _ _ _ _ _ _ 40 [some (vA (xa (5 + e))), some (vI (n + 1)), some (vI (k : Int))] _ _ _ _ from ?_)
          refine ev_iinc (k_e_chapters 22 rfl) rfl (by omega) (show ev _ _ _ _ _ _ 43 [some (vA (xa (5 + e))), some (vI (n + 1)), some (vI ((k : Int) + 1))] _ _ _ _ from ?_)
          refine ev_goto (k_e_chapters 23 rfl) ?_
          rw [show (k : Int) + 1 = ((k + 1 : Nat) : Int) by omega]
          exact ih (k + 1) _ (by omega) (by rw [cnt_t (bq_t ((abo_0 hw he (by omega)).mp c75)), h2]) (by omega)
  refine ev_ic (k_e_chapters 0 rfl) ?_
  refine ev_is (k_e_chapters 1 rfl) (le_b rfl) (show ev _ _ _ _ _ _ 2 [some (vA (xa (5 + e))), some (vI 0), none] _ _ _ _ from ?_)
  refine ev_ic (k_e_chapters 2 rfl) ?_
  refine ev_is (k_e_chapters 3 rfl) (le_b rfl) (show ev _ _ _ _ _ _ 4 [some (vA (xa (5 + e))), some (vI 0), some (vI 0)] _ _ _ _ from ?_)
  exact loop (nr σ e + 1) 0 0 (by omega) rfl (by omega)
set_option maxHeartbeats 2000000 in
theorem c_g_find (G : gt_T) (h : ab_H) (xa : Nat → Nat) (na la : List Nat) (σ : sg_T) (C : CR G h xa na la σ) (hw : WF σ) (pn : Nat) (hp : σ.1 3 = (pn : Int)) (hp2 : pn < 3) (c : Int) : ct G M_g_find 4 87 0 0 [vA (xa 1), vL c] h (rI fun z h' => h = h' ∧ z = oix (rof σ pn c)) nT := by
  show ev _ _ _ _ _ _ 0 [some (vA (xa 1)), some (vL c), none, none] [] _ _ _
  refine ev_al (k_g_find 0 rfl) rfl ?_
  refine ev_cV (k_g_find 1 rfl) rfl v_g_now (cr_x C) rfl (c_g_now G _ xa na la σ C hw pn hp hp2) rfl (le_b rfl) (le_b rfl) (le_b rfl) k_n (k_R fun z76 h76 q76 => ?_)
  obtain ⟨rfl, rfl⟩ := q76
  refine ev_ll (k_g_find 2 rfl) rfl ?_
  refine ev_cV (k_g_find 3 rfl) rfl v_e_find (cr_ed C pn (by omega)) rfl (c_e_find G _ xa na la σ C hw pn (by omega) c) rfl (le_b rfl) (le_b rfl) (le_b rfl) k_n (k_R fun z77 h77 q77 => ?_)
  obtain ⟨rfl, rfl⟩ := q77
  refine ev_as (k_g_find 4 rfl) (le_b rfl) (show ev _ _ _ _ _ _ 9 [some (vA (xa 1)), some (vL c), none, some (vR (rwa xa pn (rof σ pn c)))] _ _ _ _ from ?_)
  refine ev_al (k_g_find 5 rfl) rfl ?_
  refine ev_rnn (k_g_find 6 rfl) (fun i78 c78 => ?_) (fun c78 => ?_)
  · (try rw [c78])
    show ev _ _ _ _ _ _ 17 [some (vA (xa 1)), some (vL c), none, some (vA (xa (rt pn i78 0)))] [] _ _ _
    have bi78 : i78 < nr σ pn := (rof_lt c78).1
    refine ev_al (k_g_find 9 rfl) rfl ?_
    refine ev_get (v := vI (i78 : Int)) (k_g_find 10 rfl) (cr_row C pn i78 (by omega) (by omega)) rfl ?_
    exact ev_iret (k_g_find 11 rfl) rfl (⟨_, rfl, rfl, rfl⟩)
  · (try rw [c78])
    show ev _ _ _ _ _ _ 13 [some (vA (xa 1)), some (vL c), none, some (vN)] [] _ _ _
    refine ev_ic (k_g_find 7 rfl) ?_
    refine ev_goto (k_g_find 8 rfl) ?_
    exact ev_iret (k_g_find 11 rfl) rfl (⟨_, rfl, rfl, rfl⟩)
set_option maxHeartbeats 2000000 in
theorem c_g_failure (G : gt_T) (h : ab_H) (xa : Nat → Nat) (na la : List Nat) (σ : sg_T) (C : CR G h xa na la σ) (hw : WF σ) (w : Int) : ct G M_g_failure 0 0 0 0 [vA (xa 1), vI w] h (rI fun z h' => h = h' ∧ z = (if w = 0 then σ.1 4 else if w = 1 then σ.1 5 else -1)) nT := by
  show ev _ _ _ _ _ _ 0 [some (vA (xa 1)), some (vI w)] [] _ _ _
  refine ev_il (k_g_failure 0 rfl) rfl ?_
  refine ev_if_ne (k_g_failure 1 rfl) (fun c79 => ?_) (fun c79 => ?_)
  · refine ev_il (k_g_failure 5 rfl) rfl ?_
    refine ev_ic (k_g_failure 6 rfl) ?_
    refine ev_ic_ne (k_g_failure 7 rfl) (fun c80 => ?_) (fun c80 => ?_)
    · refine ev_ic (k_g_failure 11 rfl) ?_
      exact ev_iret (k_g_failure 12 rfl) rfl (⟨_, rfl, rfl, by simp [c79, c80]⟩)
    · refine ev_al (k_g_failure 8 rfl) rfl ?_
      refine ev_get (v := vI (σ.1 5)) (k_g_failure 9 rfl) (cr_x C) rfl ?_
      refine ev_goto (k_g_failure 10 rfl) ?_
      exact ev_iret (k_g_failure 12 rfl) rfl (⟨_, rfl, rfl, by simp [c79, c80]⟩)
  · refine ev_al (k_g_failure 2 rfl) rfl ?_
    refine ev_get (v := vI (σ.1 4)) (k_g_failure 3 rfl) (cr_x C) rfl ?_
    refine ev_goto (k_g_failure 4 rfl) ?_
    exact ev_iret (k_g_failure 12 rfl) rfl (⟨_, rfl, rfl, by simp [c79]⟩)
