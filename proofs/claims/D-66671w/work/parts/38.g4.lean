def xT (ci : Nat) (h : ab_H) (p : Prop) : Nat → ab_H → Prop := fun a h' => p ∧ h' a = some (oJ 40 ci []) ∧ FRp t0 h h'
theorem xT_of {ci : Nat} {h h' : ab_H} {p : Prop} {a : Nat} (hp : p) (hn : h a = none) (e : h' = hu h a (oJ 40 ci [])) : xT ci h p a h' := by
  subst e; exact ⟨hp, hu_self _ _ _, fr_new hn⟩
theorem anb_iff {p : Nat → Bool} {n : Nat} : anb p n = true ↔ ∃ k, k < n ∧ p k = true := by
  induction n with
  | zero => simp [anb]
  | succ n ih =>
    rw [anb_s, Bool.or_eq_true, ih]
    constructor
    · rintro (⟨k, h1, h2⟩ | h)
      · exact ⟨k, by omega, h2⟩
      · exact ⟨n, by omega, h⟩
    · rintro ⟨k, h1, h2⟩
      by_cases e : k = n
      · subst e; exact Or.inr h2
      · exact Or.inl ⟨k, by omega, h2⟩
def lfq (σ : sg_T) (e t : Nat) (k : Nat) : Bool := gd (σ.2 14) k == 1 && gd (σ.2 12) k == (e : Int) && gd (σ.2 15) k == gd (σ.2 7) t && (anc (σ.2 8) (40 * e) t).any fun u => gd (σ.2 7) u == gd (σ.2 13) k
theorem lft_eq {σ : sg_T} {e t : Nat} (hp : σ.1 3 = (e : Int)) : anb (lfq σ e t) (σ.1 11).toNat = lft σ e t := by
  rw [Bool.eq_iff_iff, anb_iff]
  unfold lft
  rw [List.any_eq_true]
  constructor
  · rintro ⟨k, hk, h⟩
    simp only [lfq, Bool.and_eq_true, beq_iff_eq, List.any_eq_true] at h
    obtain ⟨⟨⟨h1, h2⟩, h3⟩, u, hu, h4⟩ := h
    refine ⟨u, hu, ?_⟩
    unfold hsn
    rw [anb_iff]
    exact ⟨k, hk, by simp [isn, hp, h1, h2, h3, h4]⟩
  · rintro ⟨u, hu, h⟩
    unfold hsn at h
    rw [anb_iff] at h
    obtain ⟨k, hk, h⟩ := h
    simp only [isn, Bool.and_eq_true, beq_iff_eq, hp] at h
    obtain ⟨⟨⟨h1, h2⟩, h3⟩, h4⟩ := h
    refine ⟨k, hk, ?_⟩
    simp only [lfq, Bool.and_eq_true, beq_iff_eq, List.any_eq_true]
    exact ⟨⟨⟨h3, h1⟩, h4⟩, u, hu, h2.symm⟩
theorem anc_in {σ : sg_T} {e : Nat} : ∀ (n t : Nat), t ≤ n → ∀ u ∈ anc (σ.2 8) (40 * e) t, 40 * e ≤ u ∧ u < t := by
  intro n
  induction n with
  | zero =>
    intro t ht u hu
    rw [anc] at hu
    have := abv_lt (σ.2 8) (f := 40 * e) (t := t)
    rw [if_pos (by omega)] at hu
    cases hu
  | succ n ih =>
    intro t ht u hu
    rw [anc] at hu
    have := abv_lt (σ.2 8) (f := 40 * e) (t := t)
    split at hu
    · cases hu
    · rcases List.mem_cons.mp hu with rfl | hu
      · omega
      · have := ih _ (by omega) u hu; omega
theorem anc_code {σ : sg_T} (hw : WF σ) {e i j : Nat} (he : e < 3) (hi : i < nr σ e) (hj : j < nr σ e) : ((anc (σ.2 8) (40 * e) (40 * e + i)).any fun u => gd (σ.2 7) u == gd (σ.2 7) (40 * e + j)) = ((anc (σ.2 8) (40 * e) (40 * e + i)).any fun u => decide (e = e ∧ u = 40 * e + j)) := by
  rw [Bool.eq_iff_iff, List.any_eq_true, List.any_eq_true]
  constructor
  · rintro ⟨u, hu, h⟩
    have hb := anc_in _ _ (Nat.le_refl _) u hu
    refine ⟨u, hu, decide_eq_true ⟨rfl, ?_⟩⟩
    have := hw.2.2.2.2.2.2.2.1 e (u - 40 * e) j he (by omega) hj (by rw [show 40 * e + (u - 40 * e) = u by omega]; exact eq_of_beq h)
    omega
  · rintro ⟨u, hu, h⟩
    have h := (of_decide_eq_true h).2
    exact ⟨u, hu, bq_t (by rw [h])⟩
set_option maxHeartbeats 2000000 in
theorem c_g_isLeftOut (G : gt_T) (h : ab_H) (xa : Nat → Nat) (na la : List Nat) (σ : sg_T) (C : CR G h xa na la σ) (hw : WF σ) (e i : Nat) (he : e < 3) (hi : i < nr σ e) (hp : σ.1 3 = (e : Int)) : ct G M_g_isLeftOut 3 64 0 0 [vA (xa 1), vA (xa (rt e i 0))] h (rB fun z h' => h = h' ∧ z = lft σ e (40 * e + i)) nT := by
  show ev _ _ _ _ _ _ 0 [some (vA (xa 1)), some (vA (xa (rt e i 0))), none, none] [] _ _ _
  have hnn := cr_nn C
  have hw11 := hw.2.2.1
  have hnl : na.length ≤ 20 := by omega
  have loop : ∀ (fu : Nat) (k : Nat) (b : Bool), (k ≤ na.length) → (b = anb (lfq σ e (40 * e + i)) k) → na.length - k < fu → ev G M_g_isLeftOut 3 64 0 0 4 [some (vA (xa 1)), some (vA (xa (rt e i 0))), some (vI (bi b)), some (vI (k : Int))] [] h (rB fun z h' => h = h' ∧ z = lft σ e (40 * e + i)) nT := by
    intro fu
    induction fu with
    | zero => intros; omega
    | succ fu ih =>
      intro k b h1 h2 hn
      refine ev_il (k_g_isLeftOut 4 rfl) rfl ?_
      refine ev_al (k_g_isLeftOut 5 rfl) rfl ?_
      refine ev_get (v := vA (xa 20)) (k_g_isLeftOut 6 rfl) (cr_x C) rfl ?_
      obtain ⟨fs121, ho121⟩ := AL_recv (cr_nl C)
      refine ev_cV (k_g_isLeftOut 7 rfl) rfl v_al_size ho121 rfl (c_al_size G _ _ _ _ (cr_nl C)) rfl (le_b rfl) (le_b rfl) (le_b rfl) k_n (k_I fun z121 h121 q121 => ?_)
      obtain ⟨rfl, rfl⟩ := q121
      refine ev_ic_ge (k_g_isLeftOut 8 rfl) (fun c122 => ?_) (fun c122 => ?_)
      · refine ev_il (k_g_isLeftOut 42 rfl) rfl ?_
        exact ev_zret (k_g_isLeftOut 43 rfl) rfl (⟨_, rfl, rfl, by rw [h2, ← lft_eq hp]; rw [show (σ.1 11).toNat = k by omega]⟩)
      · refine ev_il (k_g_isLeftOut 9 rfl) rfl ?_
        refine ev_al (k_g_isLeftOut 10 rfl) rfl ?_
        refine ev_get (v := vA (xa 20)) (k_g_isLeftOut 11 rfl) (cr_x C) rfl ?_
        refine ev_il (k_g_isLeftOut 12 rfl) rfl ?_
        obtain ⟨fs123, ho123⟩ := AL_recv (cr_nl C)
        refine ev_cV (k_g_isLeftOut 13 rfl) rfl v_al_get ho123 rfl (c_al_get G _ _ _ _ (cr_nl C) k (by omega)) rfl (le_b rfl) (le_b rfl) (le_b rfl) k_n (k_R fun z123 h123 q123 => ?_)
        obtain ⟨rfl, rfl⟩ := q123
        obtain ⟨ne124, ni124, nj124, hne124, hni124, hnj124, n12124, n13124, n15124, hno124⟩ := cr_no C k (by omega)
        have hnb124 := nr40 hw hne124
        refine ev_chk (k_g_isLeftOut 14 rfl) hno124 ?_
        refine ev_get (v := vI (gd (σ.2 14) k)) (k_g_isLeftOut 15 rfl) hno124 rfl ?_
        refine ev_ic (k_g_isLeftOut 16 rfl) ?_
        refine ev_ic_ne (k_g_isLeftOut 17 rfl) (fun c125 => ?_) (fun c125 => ?_)
        · refine ev_ic (k_g_isLeftOut 37 rfl) ?_
          refine ev_iorB (y := false) (k_g_isLeftOut 38 rfl) ?_
          refine ev_is (k_g_isLeftOut 39 rfl) (le_b rfl) (show ev _ _ _ _ _ _ 80 [some (vA (xa 1)), some (vA (xa (rt e i 0))), some (vI (bi (b || false))), some (vI (k : Int))] _ _ _ _ from ?_)
          refine ev_iinc (k_g_isLeftOut 40 rfl) rfl (by omega) (show ev _ _ _ _ _ _ 83 [some (vA (xa 1)), some (vA (xa (rt e i 0))), some (vI (bi (b || false))), some (vI ((k : Int) + 1))] _ _ _ _ from ?_)
          refine ev_goto (k_g_isLeftOut 41 rfl) ?_
          rw [show (k : Int) + 1 = ((k + 1 : Nat) : Int) by omega]
          exact ih (k + 1) _ (by omega) (by rw [anb_s, ← h2, show lfq σ e (40 * e + i) k = false from by unfold lfq; rw [bq_f c125]; rfl]) (by omega)
        · refine ev_al (k_g_isLeftOut 18 rfl) rfl ?_
          refine ev_get (v := vA (xa 20)) (k_g_isLeftOut 19 rfl) (cr_x C) rfl ?_
          refine ev_il (k_g_isLeftOut 20 rfl) rfl ?_
          obtain ⟨fs126, ho126⟩ := AL_recv (cr_nl C)
          refine ev_cV (k_g_isLeftOut 21 rfl) rfl v_al_get ho126 rfl (c_al_get G _ _ _ _ (cr_nl C) k (by omega)) rfl (le_b rfl) (le_b rfl) (le_b rfl) k_n (k_R fun z126 h126 q126 => ?_)
          obtain ⟨rfl, rfl⟩ := q126
          refine ev_chk (k_g_isLeftOut 22 rfl) hno124 ?_
          refine ev_get (v := vA (xa (rt ne124 nj124 0))) (k_g_isLeftOut 23 rfl) hno124 rfl ?_
          refine ev_al (k_g_isLeftOut 24 rfl) rfl ?_
          refine ev_ac_ne (k_g_isLeftOut 25 rfl) (fun c127 => ?_) (fun c127 => ?_)
          · rw [ne_eq, se_row C hw (by omega) (by omega) (by omega) (by omega)] at c127
            refine ev_ic (k_g_isLeftOut 37 rfl) ?_
            refine ev_iorB (y := false) (k_g_isLeftOut 38 rfl) ?_
            refine ev_is (k_g_isLeftOut 39 rfl) (le_b rfl) (show ev _ _ _ _ _ _ 80 [some (vA (xa 1)), some (vA (xa (rt e i 0))), some (vI (bi (b || false))), some (vI (k : Int))] _ _ _ _ from ?_)
            refine ev_iinc (k_g_isLeftOut 40 rfl) rfl (by omega) (show ev _ _ _ _ _ _ 83 [some (vA (xa 1)), some (vA (xa (rt e i 0))), some (vI (bi (b || false))), some (vI ((k : Int) + 1))] _ _ _ _ from ?_)
            refine ev_goto (k_g_isLeftOut 41 rfl) ?_
            rw [show (k : Int) + 1 = ((k + 1 : Nat) : Int) by omega]
            exact ih (k + 1) _ (by omega) (by rw [anb_s, ← h2, show lfq σ e (40 * e + i) k = false from by unfold lfq; rw [n12124, n15124]; cases hz : ((ne124 : Int) == (e : Int) && gd (σ.2 7) (40 * ne124 + nj124) == gd (σ.2 7) (40 * e + i)) with | false => (rw [Bool.and_assoc (_ == 1), hz]; simp) | true => (exfalso; simp only [Bool.and_eq_true, beq_iff_eq] at hz; exact c127 ((code_eq hw he hi hne124 hnj124).mp hz))]) (by omega)
          · rw [se_row C hw (by omega) (by omega) (by omega) (by omega)] at c127
            refine ev_al (k_g_isLeftOut 26 rfl) rfl ?_
            refine ev_al (k_g_isLeftOut 27 rfl) rfl ?_
            refine ev_get (v := vA (xa 20)) (k_g_isLeftOut 28 rfl) (cr_x C) rfl ?_
            refine ev_il (k_g_isLeftOut 29 rfl) rfl ?_
            obtain ⟨fs128, ho128⟩ := AL_recv (cr_nl C)
            refine ev_cV (k_g_isLeftOut 30 rfl) rfl v_al_get ho128 rfl (c_al_get G _ _ _ _ (cr_nl C) k (by omega)) rfl (le_b rfl) (le_b rfl) (le_b rfl) k_n (k_R fun z128 h128 q128 => ?_)
            obtain ⟨rfl, rfl⟩ := q128
            refine ev_chk (k_g_isLeftOut 31 rfl) hno124 ?_
            refine ev_get (v := vA (xa (rt ne124 ni124 0))) (k_g_isLeftOut 32 rfl) hno124 rfl ?_
            refine ev_cV (k_g_isLeftOut 33 rfl) rfl v_w_isBelow (cr_row C e i (by omega) (by omega)) rfl (c_w_isBelow G _ xa na la σ C hw e i (by omega) (by omega) ne124 ni124 (by omega) (by omega)) rfl (le_b rfl) (le_b rfl) (le_b rfl) k_n (k_B fun z129 h129 q129 => ?_)
            obtain ⟨rfl, rfl⟩ := q129
            refine ev_b_eq (k_g_isLeftOut 34 rfl) (fun c130 => ?_) (fun c130 => ?_)
            · refine ev_ic (k_g_isLeftOut 37 rfl) ?_
              refine ev_iorB (y := false) (k_g_isLeftOut 38 rfl) ?_
              refine ev_is (k_g_isLeftOut 39 rfl) (le_b rfl) (show ev _ _ _ _ _ _ 80 [some (vA (xa 1)), some (vA (xa (rt e i 0))), some (vI (bi (b || false))), some (vI (k : Int))] _ _ _ _ from ?_)
              refine ev_iinc (k_g_isLeftOut 40 rfl) rfl (by omega) (show ev _ _ _ _ _ _ 83 [some (vA (xa 1)), some (vA (xa (rt e i 0))), some (vI (bi (b || false))), some (vI ((k : Int) + 1))] _ _ _ _ from ?_)
              refine ev_goto (k_g_isLeftOut 41 rfl) ?_
              rw [show (k : Int) + 1 = ((k + 1 : Nat) : Int) by omega]
              exact ih (k + 1) _ (by omega) (by rw [anb_s, ← h2, show lfq σ e (40 * e + i) k = false from by obtain ⟨z1, z2⟩ := c127; subst z1; subst z2; unfold lfq; rw [n13124, anc_code hw he hi hni124, c130]; simp]) (by omega)
            · refine ev_ic (k_g_isLeftOut 35 rfl) ?_
              refine ev_goto (k_g_isLeftOut 36 rfl) ?_
              refine ev_iorB (y := true) (k_g_isLeftOut 38 rfl) ?_
              refine ev_is (k_g_isLeftOut 39 rfl) (le_b rfl) (show ev _ _ _ _ _ _ 80 [some (vA (xa 1)), some (vA (xa (rt e i 0))), some (vI (bi (b || true))), some (vI (k : Int))] _ _ _ _ from ?_)
              refine ev_iinc (k_g_isLeftOut 40 rfl) rfl (by omega) (show ev _ _ _ _ _ _ 83 [some (vA (xa 1)), some (vA (xa (rt e i 0))), some (vI (bi (b || true))), some (vI ((k : Int) + 1))] _ _ _ _ from ?_)
              refine ev_goto (k_g_isLeftOut 41 rfl) ?_
              rw [show (k : Int) + 1 = ((k + 1 : Nat) : Int) by omega]
              exact ih (k + 1) _ (by omega) (by rw [anb_s, ← h2, show lfq σ e (40 * e + i) k = true from by obtain ⟨z1, z2⟩ := c127; subst z1; subst z2; unfold lfq; rw [c125, n12124, n15124, n13124, anc_code hw he hi hni124, c130]; simp]) (by omega)
  refine ev_ic (k_g_isLeftOut 0 rfl) ?_
  refine ev_is (k_g_isLeftOut 1 rfl) (le_b rfl) (show ev _ _ _ _ _ _ 2 [some (vA (xa 1)), some (vA (xa (rt e i 0))), some (vI 0), none] _ _ _ _ from ?_)
  refine ev_ic (k_g_isLeftOut 2 rfl) ?_
  refine ev_is (k_g_isLeftOut 3 rfl) (le_b rfl) (show ev _ _ _ _ _ _ 4 [some (vA (xa 1)), some (vA (xa (rt e i 0))), some (vI 0), some (vI 0)] _ _ _ _ from ?_)
  exact loop (na.length + 1) 0 false (by omega) rfl (by omega)
