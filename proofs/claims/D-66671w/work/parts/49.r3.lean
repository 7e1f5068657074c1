set_option maxHeartbeats 2000000 in
theorem c_r_peek (G : gt_T) (h : ab_H) (xa : Nat → Nat) (T : Nat → Int) (n p : Nat) (hR : RDR h xa T n p) (hT : gT T n)  : ct G M_r_peek 1 22 0 0 [vA (xa 2)] h (rL fun z h' => h = h' ∧ z = if rn T 1 p (n - p) ≤ 10 ∧ rn T 1 p (n - p) % 2 = 0 then pw 10 48 1 T p (rn T 1 p (n - p)) else 0) nT := by
  show ev _ _ _ _ _ _ 0 [some (vA (xa 2)), none, none, none] [] _ _ _
  have loop : ∀ (fu : Nat) (k : Nat) (v : Int), (k ≤ 11 ∧ p + k ≤ n) → (v = pw 10 48 1 T p k) → (rn T 1 p (n - p) = k + rn T 1 (p + k) (n - (p + k))) → 11 - k < fu → ev G M_r_peek 1 22 0 0 4 [some (vA (xa 2)), some (vI (k : Int)), some (vL v), none] [] h (rL fun z h' => h = h' ∧ z = if rn T 1 p (n - p) ≤ 10 ∧ rn T 1 p (n - p) % 2 = 0 then pw 10 48 1 T p (rn T 1 p (n - p)) else 0) nT := by
    intro fu
    induction fu with
    | zero => intros; omega
    | succ fu ih =>
      intro k v hk h3 h2 hn
      have hRa := hR.1
      have hRb := hR.2.1
      have hdg : ∀ j, j < k → 48 ≤ T (p + j) ∧ T (p + j) ≤ 57 := fun j hj => rn_digs (n := n - p) (by omega)
      have hb := pw_m_codeAt hdg
      rw [← h3] at hb
      have hpw : (2 * 10 ^ k : Int) ≤ 2 * 10 ^ 11 := by have := ipow_mono (show (1 : Int) ≤ 10 by decide) (show k ≤ 11 by omega); omega
      have hfin : (n ≤ p + k ∨ inb (T (p + k)) 48 57 = false ∨ 10 < k) → (rn T 1 p (n - p) = k ∨ 10 < k ∧ 10 < rn T 1 p (n - p)) := by
        intro z
        rcases z with z | z | z
        · have := rn_0 (T := T) (kd := 1) (p := p + k) z; omega
        · have := rn_f (T := T) (kd := 1) (p := p + k) (n := n - (p + k)) z; omega
        · omega
      refine ev_al (k_r_peek 4 rfl) rfl ?_
      refine ev_get (v := vI ((p : Nat) : Int)) (k_r_peek 5 rfl) hR.2.2.1 rfl ?_
      refine ev_il (k_r_peek 6 rfl) rfl ?_
      refine ev_iadd (k_r_peek 7 rfl) (by omega) ?_
      refine ev_al (k_r_peek 8 rfl) rfl ?_
      refine ev_get (v := vI (n : Int)) (k_r_peek 9 rfl) hR.2.2.1 rfl ?_
      refine ev_ic_ge (k_r_peek 10 rfl) (fun c552 => ?_) (fun c552 => ?_)
      · refine ev_il (k_r_peek 42 rfl) rfl ?_
        refine ev_ic (k_r_peek 43 rfl) ?_
        refine ev_irem (k_r_peek 44 rfl) (by omega) (by omega) ?_
        refine ev_if_ne (k_r_peek 45 rfl) (fun c553 => ?_) (fun c553 => ?_)
        · refine ev_lc (k_r_peek 51 rfl) ?_
          exact ev_lret (k_r_peek 52 rfl) rfl (⟨_, rfl, rfl, by rw [if_neg]; intro z; have hz := hfin (by first | exact Or.inl (by omega) | exact Or.inr (Or.inl (by assumption)) | exact Or.inr (Or.inr (by omega))); omega⟩)
        · refine ev_il (k_r_peek 46 rfl) rfl ?_
          refine ev_bp (k_r_peek 47 rfl) ?_
          refine ev_ic_gt (k_r_peek 48 rfl) (fun c554 => ?_) (fun c554 => ?_)
          · refine ev_lc (k_r_peek 51 rfl) ?_
            exact ev_lret (k_r_peek 52 rfl) rfl (⟨_, rfl, rfl, by rw [if_neg]; intro z; have hz := hfin (by first | exact Or.inl (by omega) | exact Or.inr (Or.inl (by assumption)) | exact Or.inr (Or.inr (by omega))); omega⟩)
          · refine ev_ll (k_r_peek 49 rfl) rfl ?_
            refine ev_goto (k_r_peek 50 rfl) ?_
            exact ev_lret (k_r_peek 52 rfl) rfl (⟨_, rfl, rfl, by have hz := hfin (by first | exact Or.inl (by omega) | exact Or.inr (Or.inl (by assumption)) | exact Or.inr (Or.inr (by omega))); rw [if_pos (by omega), show rn T 1 p (n - p) = k by omega]; exact h3⟩)
      · refine ev_al (k_r_peek 11 rfl) rfl ?_
        refine ev_get (v := vA (xa 3)) (k_r_peek 12 rfl) hR.2.2.1 rfl ?_
        refine ev_al (k_r_peek 13 rfl) rfl ?_
        refine ev_get (v := vI ((p : Nat) : Int)) (k_r_peek 14 rfl) hR.2.2.1 rfl ?_
        refine ev_il (k_r_peek 15 rfl) rfl ?_
        refine ev_iadd (k_r_peek 16 rfl) (by omega) ?_
        obtain ⟨cs555, htx555, lcs555, hcs555⟩ := hR.2.2.2
        have hRa := hR.1
        have hRb := hR.2.1
        refine ev_cald (xs := cs555) (k_r_peek 17 rfl) htx555 (by omega) (by omega) (show ev _ _ _ _ _ _ _ _ (vI (gd cs555 ((p) + (k))) :: _) _ _ _ from ?_)
        rw [hcs555 ((p) + (k)) (by omega)]
        refine ev_bp (k_r_peek 18 rfl) ?_
        refine ev_bp (k_r_peek 19 rfl) ?_
        refine ev_cS (k_r_peek 20 rfl) rfl v_g_in (c_g_in G _ (T ((p) + (k))) 48 57) rfl (le_b rfl) (le_b rfl) (le_b rfl) k_n (k_B fun z556 h556 q556 => ?_)
        obtain ⟨rfl, rfl⟩ := q556
        refine ev_b_eq (k_r_peek 21 rfl) (fun c557 => ?_) (fun c557 => ?_)
        · have j557 := inb_f c557
          refine ev_il (k_r_peek 42 rfl) rfl ?_
          refine ev_ic (k_r_peek 43 rfl) ?_
          refine ev_irem (k_r_peek 44 rfl) (by omega) (by omega) ?_
          refine ev_if_ne (k_r_peek 45 rfl) (fun c558 => ?_) (fun c558 => ?_)
          · refine ev_lc (k_r_peek 51 rfl) ?_
            exact ev_lret (k_r_peek 52 rfl) rfl (⟨_, rfl, rfl, by rw [if_neg]; intro z; have hz := hfin (by first | exact Or.inl (by omega) | exact Or.inr (Or.inl (by assumption)) | exact Or.inr (Or.inr (by omega))); omega⟩)
          · refine ev_il (k_r_peek 46 rfl) rfl ?_
            refine ev_bp (k_r_peek 47 rfl) ?_
            refine ev_ic_gt (k_r_peek 48 rfl) (fun c559 => ?_) (fun c559 => ?_)
            · refine ev_lc (k_r_peek 51 rfl) ?_
              exact ev_lret (k_r_peek 52 rfl) rfl (⟨_, rfl, rfl, by rw [if_neg]; intro z; have hz := hfin (by first | exact Or.inl (by omega) | exact Or.inr (Or.inl (by assumption)) | exact Or.inr (Or.inr (by omega))); omega⟩)
            · refine ev_ll (k_r_peek 49 rfl) rfl ?_
              refine ev_goto (k_r_peek 50 rfl) ?_
              exact ev_lret (k_r_peek 52 rfl) rfl (⟨_, rfl, rfl, by have hz := hfin (by first | exact Or.inl (by omega) | exact Or.inr (Or.inl (by assumption)) | exact Or.inr (Or.inr (by omega))); rw [if_pos (by omega), show rn T 1 p (n - p) = k by omega]; exact h3⟩)
        · have j557 := inb_t c557
          refine ev_il (k_r_peek 22 rfl) rfl ?_
          refine ev_bp (k_r_peek 23 rfl) ?_
          refine ev_ic_gt (k_r_peek 24 rfl) (fun c560 => ?_) (fun c560 => ?_)
          · refine ev_il (k_r_peek 42 rfl) rfl ?_
            refine ev_ic (k_r_peek 43 rfl) ?_
            refine ev_irem (k_r_peek 44 rfl) (by omega) (by omega) ?_
            refine ev_if_ne (k_r_peek 45 rfl) (fun c561 => ?_) (fun c561 => ?_)
            · refine ev_lc (k_r_peek 51 rfl) ?_
              exact ev_lret (k_r_peek 52 rfl) rfl (⟨_, rfl, rfl, by rw [if_neg]; intro z; have hz := hfin (by first | exact Or.inl (by omega) | exact Or.inr (Or.inl (by assumption)) | exact Or.inr (Or.inr (by omega))); omega⟩)
            · refine ev_il (k_r_peek 46 rfl) rfl ?_
              refine ev_bp (k_r_peek 47 rfl) ?_
              refine ev_ic_gt (k_r_peek 48 rfl) (fun c562 => ?_) (fun c562 => ?_)
              · refine ev_lc (k_r_peek 51 rfl) ?_
                exact ev_lret (k_r_peek 52 rfl) rfl (⟨_, rfl, rfl, by rw [if_neg]; intro z; have hz := hfin (by first | exact Or.inl (by omega) | exact Or.inr (Or.inl (by assumption)) | exact Or.inr (Or.inr (by omega))); omega⟩)
              · refine ev_ll (k_r_peek 49 rfl) rfl ?_
                refine ev_goto (k_r_peek 50 rfl) ?_
                exact ev_lret (k_r_peek 52 rfl) rfl (⟨_, rfl, rfl, by have hz := hfin (by first | exact Or.inl (by omega) | exact Or.inr (Or.inl (by assumption)) | exact Or.inr (Or.inr (by omega))); rw [if_pos (by omega), show rn T 1 p (n - p) = k by omega]; exact h3⟩)
          · have hu := rn_u (T := T) (kd := 1) (p := p + k) (n := n) (by omega) c557
            refine ev_ldc2 (k_r_peek 25 rfl) ?_
            refine ev_ll (k_r_peek 26 rfl) rfl ?_
            refine ev_lmul (k_r_peek 27 rfl) (by omega) ?_
            refine ev_al (k_r_peek 28 rfl) rfl ?_
            refine ev_get (v := vA (xa 3)) (k_r_peek 29 rfl) hR.2.2.1 rfl ?_
            refine ev_al (k_r_peek 30 rfl) rfl ?_
            refine ev_get (v := vI ((p : Nat) : Int)) (k_r_peek 31 rfl) hR.2.2.1 rfl ?_
            refine ev_il (k_r_peek 32 rfl) rfl ?_
            refine ev_iadd (k_r_peek 33 rfl) (by omega) ?_
            obtain ⟨cs563, htx563, lcs563, hcs563⟩ := hR.2.2.2
            have hRa := hR.1
            have hRb := hR.2.1
            refine ev_cald (xs := cs563) (k_r_peek 34 rfl) htx563 (by omega) (by omega) (show ev _ _ _ _ _ _ _ _ (vI (gd cs563 ((p) + (k))) :: _) _ _ _ from ?_)
            rw [hcs563 ((p) + (k)) (by omega)]
            refine ev_i2l (k_r_peek 35 rfl) ?_
            refine ev_ladd (k_r_peek 36 rfl) (by omega) ?_
            refine ev_ldc2 (k_r_peek 37 rfl) ?_
            refine ev_lsub (k_r_peek 38 rfl) (by omega) ?_
            refine ev_ls (k_r_peek 39 rfl) (le_b rfl) (show ev _ _ _ _ _ _ 67 [some (vA (xa 2)), some (vI (k : Int)), some (vL (((10 * v) + (T ((p) + (k)))) - 48)), none] _ _ _ _ from ?_)
            refine ev_iinc (k_r_peek 40 rfl) rfl (by omega) (show ev _ _ _ _ _ _ 70 [some (vA (xa 2)), some (vI ((k : Int) + 1)), some (vL (((10 * v) + (T ((p) + (k)))) - 48)), none] _ _ _ _ from ?_)
            refine ev_goto (k_r_peek 41 rfl) ?_
            rw [show (k : Int) + 1 = ((k + 1 : Nat) : Int) by omega]
            exact ih (k + 1) _ (by omega) (by rw [pw, ← h3]) (by rw [h2, Nat.add_assoc p k 1] at *; omega) (by omega)
  refine ev_ic (k_r_peek 0 rfl) ?_
  refine ev_is (k_r_peek 1 rfl) (le_b rfl) (show ev _ _ _ _ _ _ 2 [some (vA (xa 2)), some (vI 0), none, none] _ _ _ _ from ?_)
  refine ev_lc (k_r_peek 2 rfl) ?_
  refine ev_ls (k_r_peek 3 rfl) (le_b rfl) (show ev _ _ _ _ _ _ 4 [some (vA (xa 2)), some (vI 0), some (vL 1), none] _ _ _ _ from ?_)
  exact loop 12 0 1 (by have := hR.2.1; omega) rfl (by simp) (by omega)
set_option maxHeartbeats 4000000 in
theorem c_r_take (G : gt_T) (h : ab_H) (xa : Nat → Nat) (T : Nat → Int) (n p : Nat) (hR : RDR h xa T n p) (hT : gT T n) (c : Int) (hc0 : c ≠ -1) : ct G M_r_take 7 119 1 8 [vA (xa 2), vI c] h (rV fun h' => lk T n p = c ∧ RDR h' xa T n (p + 1) ∧ FRp (t1 2) h h') (xF (t1 2) h (fun y pl => y = 1 ∧ pl = p ∧ lk T n p ≠ c)) := by
  show ev _ _ _ _ _ _ 0 [some (vA (xa 2)), some (vI c)] [] _ _ _
  have hRa := hR.1
  have hRb := hR.2.1
  have hlk : lk T n p = c → p < n := fun z => by by_cases q : p < n; exact q; (rw [lk_ge (by omega)] at z; omega)
  refine ev_al (k_r_take 0 rfl) rfl ?_
  refine ev_cV (k_r_take 1 rfl) rfl v_r_look hR.2.2.1 rfl (c_r_look G _ xa T n p hR hT) rfl (le_b rfl) (le_b rfl) (le_b rfl) k_n (k_I fun z564 h564 q564 => ?_)
  obtain ⟨rfl, rfl⟩ := q564
  refine ev_il (k_r_take 2 rfl) rfl ?_
  refine ev_ic_ne (k_r_take 3 rfl) (fun c565 => ?_) (fun c565 => ?_)
  · refine ev_ic (k_r_take 6 rfl) ?_
    refine ev_ic (k_r_take 7 rfl) ?_
    refine ev_al (k_r_take 8 rfl) rfl ?_
    refine ev_get (v := vI ((p : Nat) : Int)) (k_r_take 9 rfl) hR.2.2.1 rfl ?_
    refine ev_cSA (C2 := 0) (S2 := 0) (k_r_take 10 rfl) rfl v_g_need (c_g_need G _ false 1 ((p : Nat) : Int)) rfl (le_b rfl) (le_b rfl) (le_b rfl) (le_b rfl) (le_b rfl) (k_t rfl (fun a h' q => ⟨1, p, ⟨rfl, rfl, by assumption⟩, by rw [q.2.2, show ((p : Nat) : Int) = ((p : Nat) : Int) by omega]; exact hu_self _ _ _, by rw [q.2.2]; exact fr_tr (fr_rf (t1 2) _) (fr_new q.2.1) (fun t z => z.elim)⟩)) (k_V fun h567 q567 => ?_)
    exact absurd q567.2 (by decide)
  · refine ev_ic (k_r_take 4 rfl) ?_
    refine ev_goto (k_r_take 5 rfl) ?_
    refine ev_ic (k_r_take 7 rfl) ?_
    refine ev_al (k_r_take 8 rfl) rfl ?_
    refine ev_get (v := vI ((p : Nat) : Int)) (k_r_take 9 rfl) hR.2.2.1 rfl ?_
    refine ev_cSA (C2 := 0) (S2 := 0) (k_r_take 10 rfl) rfl v_g_need (c_g_need G _ true 1 ((p : Nat) : Int)) rfl (le_b rfl) (le_b rfl) (le_b rfl) (le_b rfl) (le_b rfl) (k_t rfl (fun a h' q => absurd q.1 (by decide))) (k_V fun h569 q569 => ?_)
    obtain ⟨rfl, g569⟩ := q569
    refine ev_al (k_r_take 11 rfl) rfl ?_
    refine ev_dup (k_r_take 12 rfl) rfl ?_
    refine ev_get (v := vI ((p : Nat) : Int)) (k_r_take 13 rfl) hR.2.2.1 rfl ?_
    refine ev_ic (k_r_take 14 rfl) ?_
    refine ev_iadd (k_r_take 15 rfl) (by omega) ?_
    refine ev_putT (k_r_take 16 rfl) hR.2.2.1 (le_b rfl) rfl rfl (fun h570 e570 f570 => ?_)
    have hR570 : RDR h570 xa T n ((p) + 1) := RDR_mv hR (e570.trans (by rw [show (((p) + 1 : Nat) : Int) = ((p : Nat) : Int) + 1 by omega]; rfl)) f570 (by omega)
    have fr570 := fr_tr (fr_rf (t1 2) _) f570 (fun t z => z)
    exact ev_vret (k_r_take 17 rfl) rfl (⟨rfl, by assumption, hR570, fr570⟩)
def tW (w : Nat) : Nat → Prop := fun t => t = 2 ∨ t = w
theorem cAt_46 {T : Nat → Int} {n q : Nat} : cAt T n q = 46 ↔ lk T n q = 46 := by
  unfold cAt lk
  split
  · exact Iff.rfl
  · constructor <;> intro z <;> omega
theorem pwc_w {T : Nat → Int} {n f p k : Nat} {ws : List (List Int)} (h : rn T 2 p (n - p) = k) (h0 : 0 < k) (h8 : k ≤ 8) : pwc T n (f + 1) p ws = if lk T n (p + k) = 46 ∧ 0 < f then pwc T n f (p + k + 1) (ws ++ [lt T p k]) else (p + k, some (ws ++ [lt T p k])) := by
  by_cases c : lk T n (p + k) = 46 ∧ 0 < f
  · rw [if_pos c]; exact pwc_c h h0 h8 (cAt_46.mpr c.1) c.2
  · rw [if_neg c]; exact pwc_s h h0 h8 (fun z => c ⟨cAt_46.mp z.1, z.2⟩)
theorem lt_ok {T : Nat → Int} {n p k : Nat} (h : rn T 2 p (n - p) = k) : ∀ x ∈ lt T p k, 1 ≤ x ∧ x ≤ 26 := by
  intro x hx
  simp only [lt, List.mem_map, List.mem_range] at hx
  obtain ⟨j, hj, rfl⟩ := hx
  have := rn_lets (T := T) (n := n - p) (p := p) (j := j) (by omega)
  omega
theorem lt_len (T : Nat → Int) (p k : Nat) : (lt T p k).length = k := by simp [lt]
/-- the words so far lie in an array -/
def WA (A : List Int) (ws : List (List Int)) : Prop := ∀ j, j < ws.length → gd A j = enc 27 (ws.getD j [])
theorem WA_app {A : List Int} {ws : List (List Int)} {w : List Int} (h : WA A ws) (hl : ws.length < A.length) : WA (A.set ws.length (enc 27 w)) (ws ++ [w]) := by
  intro j hj
  have hj2 : j < ws.length + 1 := by simpa using hj
  rw [getD_app1, gd_set _ hl]
  by_cases e : j = ws.length
  · rw [if_pos e, if_neg (by omega), if_pos e]
  · rw [if_neg e, if_pos (by omega)]; exact h j (by omega)
set_option maxHeartbeats 2000000 in
theorem c_r_words (G : gt_T) (h : ab_H) (xa : Nat → Nat) (T : Nat → Int) (n p : Nat) (hR : RDR h xa T n p) (hT : gT T n) (b tw M : Nat) (A0 : List Int) (hb : h b = some (oN tw 1 A0)) (hA0 : A0.length = M) (hM : 0 < M) (hM6 : M ≤ 6) (htw : tw ≠ 2) (htw3 : tw ≠ 3)  : ct G M_r_words 8 142 12 96 [vA (xa 2), vA b] h (rI fun z h' => ∃ (q : Nat) (ws : List (List Int)) (A : List Int), pwc T n M p [] = (q, some ws) ∧ z = (ws.length : Int) ∧ RDR h' xa T n q ∧ h' b = some (oN tw 1 A) ∧ A.length = M ∧ WA A ws ∧ ws.length ≤ M ∧ (∀ x ∈ ws, (∀ y ∈ x, 1 ≤ y ∧ y ≤ 26) ∧ x.length ≤ 8) ∧ FRp (tW tw) h h') (xF (tW tw) h (fun y pl => y = 1 ∧ pwc T n M p [] = (pl, none))) := by
  show ev _ _ _ _ _ _ 0 [some (vA (xa 2)), some (vA b), none] [] _ _ _
  have loop : ∀ (fu : Nat) (h1 : ab_H) (q : Nat) (ws : List (List Int)) (A : List Int) (hR1 : RDR h1 xa T n q) (ob1 : h1 b = some (oN tw 1 A)) (hAl : A.length = M) (hWA : WA A ws) (fm1 : FRp (tW tw) h h1), (pwc T n M p [] = if lk T n q = 46 ∧ 0 < M - ws.length then pwc T n (M - ws.length) (q + 1) ws else (q, some ws)) → (0 < ws.length ∧ ws.length ≤ M) → (∀ x ∈ ws, (∀ y ∈ x, 1 ≤ y ∧ y ≤ 26) ∧ x.length ≤ 8) → M - ws.length < fu → ev G M_r_words 8 142 (2 * (M - ws.length)) (16 * (M - ws.length)) 12 [some (vA (xa 2)), some (vA b), some (vI (ws.length : Int))] [] h1 (rI fun z h' => ∃ (q : Nat) (ws : List (List Int)) (A : List Int), pwc T n M p [] = (q, some ws) ∧ z = (ws.length : Int) ∧ RDR h' xa T n q ∧ h' b = some (oN tw 1 A) ∧ A.length = M ∧ WA A ws ∧ ws.length ≤ M ∧ (∀ x ∈ ws, (∀ y ∈ x, 1 ≤ y ∧ y ≤ 26) ∧ x.length ≤ 8) ∧ FRp (tW tw) h h') (xF (tW tw) h (fun y pl => y = 1 ∧ pwc T n M p [] = (pl, none))) := by
    intro fu
    induction fu with
    | zero => intros; omega
    | succ fu ih =>
      intro h1 q ws A hR1 ob1 hAl hWA fm1 hinv hl hok hn
      have hRa := hR1.1
      have hRb := hR1.2.1
      have hlk : lk T n q = 46 → q < n := fun z => by by_cases q0 : q < n; exact q0; (rw [lk_ge (by omega)] at z; omega)
      refine ev_al (k_r_words 8 rfl) rfl ?_
      refine ev_cV (k_r_words 9 rfl) rfl v_r_look hR1.2.2.1 rfl (c_r_look G _ xa T n q hR1 hT) rfl (le_b rfl) (le_b rfl) (le_b rfl) k_n (k_I fun z571 h571 q571 => ?_)
      obtain ⟨rfl, rfl⟩ := q571
      refine ev_bp (k_r_words 10 rfl) ?_
      refine ev_ic_ne (k_r_words 11 rfl) (fun c572 => ?_) (fun c572 => ?_)
      · refine ev_il (k_r_words 29 rfl) rfl ?_
        exact ev_iret (k_r_words 30 rfl) rfl (⟨_, rfl, q, ws, A, by rw [hinv, if_neg (by omega)], rfl, hR1, ob1, hAl, hWA, hl.2, hok, fm1⟩)
      · refine ev_il (k_r_words 12 rfl) rfl ?_
        refine ev_al (k_r_words 13 rfl) rfl ?_
        refine ev_alen (k_r_words 14 rfl) (le_b rfl) (by omega) ob1 ?_
        rw [hAl]
        refine ev_ic_ge (k_r_words 15 rfl) (fun c573 => ?_) (fun c573 => ?_)
        · refine ev_il (k_r_words 29 rfl) rfl ?_
          exact ev_iret (k_r_words 30 rfl) rfl (⟨_, rfl, q, ws, A, by rw [hinv, if_neg (by omega)], rfl, hR1, ob1, hAl, hWA, hl.2, hok, fm1⟩)
        · refine ev_al (k_r_words 16 rfl) rfl ?_
          refine ev_dup (k_r_words 17 rfl) rfl ?_
          refine ev_get (v := vI ((q : Nat) : Int)) (k_r_words 18 rfl) hR1.2.2.1 rfl ?_
          refine ev_ic (k_r_words 19 rfl) ?_
          refine ev_iadd (k_r_words 20 rfl) (by omega) ?_
          refine ev_putT (k_r_words 21 rfl) hR1.2.2.1 (le_b rfl) rfl rfl (fun h574 e574 f574 => ?_)
          have hR574 : RDR h574 xa T n ((q) + 1) := RDR_mv hR1 (e574.trans (by rw [show (((q) + 1 : Nat) : Int) = ((q : Nat) : Int) + 1 by omega]; rfl)) f574 (by omega)
          have fr574 := fr_tr fm1 f574 (fun t z => Or.inl z)
          have ob574 := kp f574 ob1 (by unfold t1; omega)
          refine ev_al (k_r_words 22 rfl) rfl ?_
          refine ev_il (k_r_words 23 rfl) rfl ?_
          refine ev_al (k_r_words 24 rfl) rfl ?_
          refine ev_cVA (C2 := 2 * (M - ws.length) - 2) (S2 := 16 * (M - ws.length) - 16) (k_r_words 25 rfl) rfl v_r_word hR574.2.2.1 rfl (c_r_word G _ xa T n ((q) + 1) hR574 hT) rfl (le_b rfl) (le_b rfl) (le_b rfl) (by omega) (by omega) (k_t rfl (fun a h' q => by obtain ⟨y, pl, ⟨rfl, q1⟩, q2, q3⟩ := q; exact ⟨1, pl, ⟨rfl, by rw [hinv, if_pos ⟨by assumption, by omega⟩, show M - ws.length = (M - ws.length - 1) + 1 by omega]; rcases q1 with ⟨q4, rfl⟩ | ⟨q4, rfl⟩; exact pwc_0 q4; exact pwc_9 rfl q4⟩, q2, fr_tr fr574 q3 (fun t z => Or.inl z)⟩)) (k_L fun z575 h575 q575 => ?_)
          obtain ⟨k575, hk575, hk0575, hk8575, rfl, hR575, fx575⟩ := q575
          have ob575 := kp fx575 ob574 (by unfold t1; omega)
          have fr575 := fr_tr fr574 fx575 (fun t z => Or.inl z)
          rw [show pw 27 96 0 T ((q) + 1) k575 = enc 27 (lt T ((q) + 1) k575) from pw_enc 27 T _ _]
          refine ev_lastT (iN := ws.length) (k_r_words 26 rfl) (by omega) ob575 (by omega) (fun h576 e576 f576 => ?_)
          have hR576 := RDR_kp f576 (by unfold t1; omega) (by unfold t1; omega) hR575
          have fr576 := fr_tr fr575 f576 (fun t z => Or.inr z)
          refine ev_iinc (k_r_words 27 rfl) rfl (by omega) (show ev _ _ _ _ _ _ 47 [some (vA (xa 2)), some (vA b), some (vI ((ws.length : Int) + 1))] _ _ _ _ from ?_)
          refine ev_goto (k_r_words 28 rfl) ?_
          have hwc := pwc_w (T := T) (n := n) (f := M - ws.length - 1) (ws := ws) hk575 hk0575 hk8575
          rw [show (ws.length : Int) + 1 = ((ws ++ [lt T ((q) + 1) k575]).length : Int) by simp]
          refine ev_room (Nat.le_refl _) (Nat.le_refl _) (show 2 * (M - (ws ++ [lt T ((q) + 1) k575]).length) ≤ _ by simp; omega) (show 16 * (M - (ws ++ [lt T ((q) + 1) k575]).length) ≤ _ by simp; omega) ?_
          refine ih _ _ (ws ++ [lt T ((q) + 1) k575]) _ hR576 e576 (by rw [List.length_set]; exact hAl) (WA_app hWA (by omega)) fr576 ?_ ⟨by simp, by simp; omega⟩ ?_ (by simp; omega)
          · rw [hinv, if_pos ⟨c572, by omega⟩, show M - ws.length = (M - ws.length - 1) + 1 by omega, hwc]; simp only [List.length_append, List.length_cons, List.length_nil]; rw [show M - ws.length - 1 = M - (ws.length + (0 + 1)) by omega]
          · intro x hx; rcases List.mem_append.mp hx with z | z
            · exact hok x z
            · rw [List.mem_singleton.mp z]; exact ⟨lt_ok hk575, by rw [lt_len]; exact hk8575⟩
  refine ev_ic (k_r_words 0 rfl) ?_
  refine ev_is (k_r_words 1 rfl) (le_b rfl) (show ev _ _ _ _ _ _ 2 [some (vA (xa 2)), some (vA b), some (vI 0)] _ _ _ _ from ?_)
  refine ev_al (k_r_words 2 rfl) rfl ?_
  refine ev_il (k_r_words 3 rfl) rfl ?_
  refine ev_al (k_r_words 4 rfl) rfl ?_
  refine ev_cVA (C2 := 10) (S2 := 80) (k_r_words 5 rfl) rfl v_r_word hR.2.2.1 rfl (c_r_word G _ xa T n p hR hT) rfl (le_b rfl) (le_b rfl) (le_b rfl) (by omega) (by omega) (k_t rfl (fun a h' q => by obtain ⟨y, pl, ⟨rfl, q1⟩, q2, q3⟩ := q; exact ⟨1, pl, ⟨rfl, by rw [show M = (M - 1) + 1 by omega]; rcases q1 with ⟨q4, rfl⟩ | ⟨q4, rfl⟩; exact pwc_0 q4; exact pwc_9 rfl q4⟩, q2, fr_tr (fr_rf (tW tw) _) q3 (fun t z => Or.inl z)⟩)) (k_L fun z577 h577 q577 => ?_)
  obtain ⟨k577, hk577, hk0577, hk8577, rfl, hR577, fx577⟩ := q577
  have ob577 := kp fx577 hb (by unfold t1; omega)
  have fr577 := fr_tr (fr_rf (tW tw) _) fx577 (fun t z => Or.inl z)
  rw [show pw 27 96 0 T (p) k577 = enc 27 (lt T (p) k577) from pw_enc 27 T _ _]
  refine ev_lastT (iN := 0) (k_r_words 6 rfl) (by omega) ob577 (by omega) (fun h578 e578 f578 => ?_)
  have hR578 := RDR_kp f578 (by unfold t1; omega) (by unfold t1; omega) hR577
  have fr578 := fr_tr fr577 f578 (fun t z => Or.inr z)
  refine ev_iinc (k_r_words 7 rfl) rfl (by omega) (show ev _ _ _ _ _ _ 12 [some (vA (xa 2)), some (vA b), some (vI 1)] _ _ _ _ from ?_)
  have hwc := pwc_w (T := T) (n := n) (f := M - 1) (ws := []) hk577 hk0577 hk8577
  refine ev_room (Nat.le_refl _) (Nat.le_refl _) (show 2 * (M - ([lt T p k577] : List (List Int)).length) ≤ _ by simp; omega) (show 16 * (M - ([lt T p k577] : List (List Int)).length) ≤ _ by simp; omega) ?_
  refine loop (M + 1) _ _ [lt T p k577] _ hR578 e578 (by rw [List.length_set]; exact hA0) (WA_app (ws := []) (fun j hj => absurd hj (by simp)) (by simp; omega)) fr578 ?_ ⟨by simp, by simp; omega⟩ ?_ (by simp)
  · rw [show M = (M - 1) + 1 by omega, hwc]; simp
  · intro x hx; rw [List.mem_singleton.mp hx]; exact ⟨lt_ok hk577, by rw [lt_len]; exact hk8577⟩
