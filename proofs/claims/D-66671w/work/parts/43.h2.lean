set_option maxHeartbeats 2000000 in
theorem c_n_init (G : gt_T) (h : ab_H) (q : Nat) (a b : Nat) (k : Int) (c : Nat) (hq : h q = some (oJ 30 4 (df 4))) : ct G M_n_init 1 20 0 0 [vA q, vA a, vA b, vI k, vA c] h (rV fun h' => h' = hu h q (oJ 30 4 [vA a, vA b, vI k, vA c])) nT := by
  show ev _ _ _ _ _ _ 0 [some (vA q), some (vA a), some (vA b), some (vI k), some (vA c)] [] _ _ _
  refine ev_al (k_n_init 0 rfl) rfl ?_
  refine ev_objInit (k_n_init 1 rfl) (le_b rfl) (le_b rfl) ?_
  refine ev_al (k_n_init 2 rfl) rfl ?_
  refine ev_al (k_n_init 3 rfl) rfl ?_
  refine ev_putF (k_n_init 4 rfl) hq (le_b rfl) rfl ?_
  refine ev_al (k_n_init 5 rfl) rfl ?_
  refine ev_al (k_n_init 6 rfl) rfl ?_
  refine ev_putF (k_n_init 7 rfl) (hu_self _ _ _) (le_b rfl) rfl ?_
  rw [hu_hu]
  refine ev_al (k_n_init 8 rfl) rfl ?_
  refine ev_il (k_n_init 9 rfl) rfl ?_
  refine ev_putF (k_n_init 10 rfl) (hu_self _ _ _) (le_b rfl) rfl ?_
  rw [hu_hu]
  refine ev_al (k_n_init 11 rfl) rfl ?_
  refine ev_alw (k_n_init 12 rfl) rfl ?_
  refine ev_putF (k_n_init 13 rfl) (hu_self _ _ _) (le_b rfl) rfl ?_
  rw [hu_hu]
  exact ev_vret (k_n_init 14 rfl) rfl ⟨rfl, rfl⟩
set_option maxHeartbeats 2000000 in
theorem c_k_init (G : gt_T) (h : ab_H) (q : Nat) (a b c d : Nat) (hq : h q = some (oJ 31 5 (df 5))) : ct G M_k_init 1 20 0 0 [vA q, vA a, vA b, vA c, vA d] h (rV fun h' => h' = hu h q (oJ 31 5 [vA a, vA b, vA c, vA d])) nT := by
  show ev _ _ _ _ _ _ 0 [some (vA q), some (vA a), some (vA b), some (vA c), some (vA d)] [] _ _ _
  refine ev_al (k_k_init 0 rfl) rfl ?_
  refine ev_objInit (k_k_init 1 rfl) (le_b rfl) (le_b rfl) ?_
  refine ev_al (k_k_init 2 rfl) rfl ?_
  refine ev_al (k_k_init 3 rfl) rfl ?_
  refine ev_putF (k_k_init 4 rfl) hq (le_b rfl) rfl ?_
  refine ev_al (k_k_init 5 rfl) rfl ?_
  refine ev_al (k_k_init 6 rfl) rfl ?_
  refine ev_putF (k_k_init 7 rfl) (hu_self _ _ _) (le_b rfl) rfl ?_
  rw [hu_hu]
  refine ev_al (k_k_init 8 rfl) rfl ?_
  refine ev_al (k_k_init 9 rfl) rfl ?_
  refine ev_putF (k_k_init 10 rfl) (hu_self _ _ _) (le_b rfl) rfl ?_
  rw [hu_hu]
  refine ev_al (k_k_init 11 rfl) rfl ?_
  refine ev_alw (k_k_init 12 rfl) rfl ?_
  refine ev_putF (k_k_init 13 rfl) (hu_self _ _ _) (le_b rfl) rfl ?_
  rw [hu_hu]
  exact ev_vret (k_k_init 14 rfl) rfl ⟨rfl, rfl⟩
def WFL (σ : sg_T) : Prop := ∀ (k kd n : Nat), ka k = some (kd, n) → (σ.2 k).length = n
theorem MR_WFL {h : ab_H} {ma : Nat → Nat} {σ : sg_T} (m : MR h ma σ) : WFL σ := fun k kd n hk => (m.2 k kd n hk).2
theorem gL_app (xs : List Nat) (x k : Nat) (hk : k < xs.length) : (xs ++ [x]).getD k 0 = xs.getD k 0 := by rw [gN_app, if_pos hk]
theorem gL_end (xs : List Nat) (x : Nat) : (xs ++ [x]).getD xs.length 0 = x := by rw [gN_app, if_neg (by omega), if_pos rfl]
theorem CR_note {G : gt_T} {h h2 : ab_H} {xa : Nat → Nat} {na la : List Nat} {σ : sg_T} (C : CR G h xa na la σ) (hw : WF σ) (hL : WFL σ) {q pn i j nn : Nat} {c kd o : Int} (hp2 : pn < 3) (hi : i < nr σ pn) (hj : j < nr σ pn) (hc : gd (σ.2 7) (40 * pn + i) = c) (ho : gd (σ.2 7) (40 * pn + j) = o) (hnn : σ.1 11 = (nn : Int)) (hn20 : nn < 20) (hq : h q = none) (A : AL G h2 (xa 20) 20 (na ++ [q])) (f2 : FRp (t2 20) (hu h q (oJ 30 4 [vA (xa (5 + pn)), vA (xa (rt pn i 0)), vI kd, vA (xa (rt pn j 0))])) h2) : CR G h2 xa (na ++ [q]) la (ntd σ pn nn c kd o) := by
  have hln := cr_nn C
  have f : FRp (t2 20) h h2 := fr_tr (fr_wk (fr_new hq) (fun t z => z.elim)) f2 (fun t z => z)
  have hq2 := kp f2 (hu_self _ _ _) (by unfold t2; omega)
  obtain ⟨c1, ⟨at_, c2⟩, ⟨cs, c3, c3'⟩, c4, c5, c6, ⟨d1, d2, d3⟩, ⟨g1, g2, g3⟩, fc, fp, k1, k2, k3⟩ := C
  have hN : ∀ t, ¬ (t = 20 ∨ t = 21) → ¬ t2 20 t := fun t z => z
  refine ⟨kp f c1 (hN _ (by omega)), ⟨at_, kp f c2 (hN _ (by omega))⟩, ⟨cs, kp f c3 (hN _ (by omega)), c3'⟩, kp f c4 (hN _ (by omega)), fun e he => kp f (c5 e he) (hN _ (by omega)), fun e he => EDR_kp f (nr40 hw he) (fun i j hi hj => hN _ (by unfold rt; omega)) (hN _ (by omega)) (hN _ (by omega)) (c6 e he), ⟨A, ?_, fun k hk => ?_⟩, ⟨AL_kp f g1 (hN _ (by omega)) (hN _ (by omega)), g2, fun m hm => LNK_kp f (hN _ (by omega)) (g3 m hm)⟩, fc, fp, kp f k1 (hN _ (by omega)), kp f k2 (hN _ (by omega)), k3⟩
  · show (((na ++ [q]).length : Nat) : Int) = (nn : Int) + 1
    simp; omega
  · have hk' : k < na.length + 1 := by simpa using hk
    by_cases e : k < na.length
    · rw [gL_app _ _ _ e]
      obtain ⟨e1, i1, j1, b1, b2, b3, b4, b5, b6, b7⟩ := d3 k e
      refine ⟨e1, i1, j1, b1, b2, b3, ?_, ?_, ?_, ?_⟩
      · show gd ((σ.2 12).set nn _) k = _
        rw [gd_set_ne _ (by omega)]; exact b4
      · show gd ((σ.2 13).set nn _) k = _
        rw [gd_set_ne _ (by omega)]; exact b5
      · show gd ((σ.2 15).set nn _) k = _
        rw [gd_set_ne _ (by omega)]; exact b6
      · show h2 _ = some (oJ 30 4 [_, _, vI (gd ((σ.2 14).set nn _) k), _])
        rw [gd_set_ne _ (by omega)]; exact kp f b7 (hN _ (by omega))
    · have hkn : k = na.length := by omega
      subst hkn
      rw [gL_end]
      have l12 := hL 12 0 20 rfl
      have l13 := hL 13 1 20 rfl
      have l14 := hL 14 0 20 rfl
      have l15 := hL 15 1 20 rfl
      have hkn : na.length = nn := by omega
      refine ⟨pn, i, j, hp2, hi, hj, ?_, ?_, ?_, ?_⟩
      · show gd ((σ.2 12).set nn _) _ = _
        rw [hkn, gd_set_eq _ (by omega)]
      · show gd ((σ.2 13).set nn _) _ = gd (σ.2 7) _
        rw [hkn, gd_set_eq _ (by omega), hc]
      · show gd ((σ.2 15).set nn _) _ = gd (σ.2 7) _
        rw [hkn, gd_set_eq _ (by omega), ho]
      · show h2 _ = some (oJ 30 4 [_, _, vI (gd ((σ.2 14).set nn _) _), _])
        rw [hkn, gd_set_eq _ (by omega)]; exact hq2
theorem WF_note {σ : sg_T} (hw : WF σ) (hL : WFL σ) {pn nn : Nat} {c kd o : Int} (hnn : σ.1 11 = (nn : Int)) (hn20 : nn < 20) (hk : 0 ≤ kd ∧ kd ≤ 1) : WF (ntd σ pn nn c kd o) := by
  obtain ⟨a1, a2, a3, a4, a5, a6, a7, a8, a9, a10, a11, a12⟩ := hw
  refine ⟨a1, a2, ⟨by show (0 : Int) ≤ (nn : Int) + 1; omega, by show (nn : Int) + 1 ≤ 20; omega⟩, a4, a5, a6, a7, a8, a9, fun k hk2 => ?_, a11, a12⟩
  have hk3 : (k : Int) < (nn : Int) + 1 := hk2
  have l14 := hL 14 0 20 rfl
  show 0 ≤ gd ((σ.2 14).set nn kd) k ∧ gd ((σ.2 14).set nn kd) k ≤ 1
  rw [gd_set _ (by omega)]
  split
  · exact hk
  · exact a10 k (by omega)
theorem isn_ok {σ : sg_T} (hw : WF σ) {k pn i j ne ni nj : Nat} {c kd o : Int} (hp : σ.1 3 = (pn : Int)) (hp2 : pn < 3) (hi : i < nr σ pn) (hj : j < nr σ pn) (hc : gd (σ.2 7) (40 * pn + i) = c) (ho : gd (σ.2 7) (40 * pn + j) = o) (hne : ne < 3) (hni : ni < nr σ ne) (hnj : nj < nr σ ne) (h12 : gd (σ.2 12) k = (ne : Int)) (h13 : gd (σ.2 13) k = gd (σ.2 7) (40 * ne + ni)) (h15 : gd (σ.2 15) k = gd (σ.2 7) (40 * ne + nj)) : isn σ c kd o k = true ↔ ((ne = pn ∧ ni = i) ∧ (ne = pn ∧ nj = j)) ∧ gd (σ.2 14) k = kd := by
  unfold isn
  simp only [Bool.and_eq_true, beq_iff_eq]
  rw [h12, h13, h15, hp, ← hc, ← ho]
  constructor
  · rintro ⟨⟨⟨h1, h2⟩, h3⟩, h4⟩
    exact ⟨⟨(code_eq hw hp2 hi hne hni).mp ⟨h1, h2⟩, (code_eq hw hp2 hj hne hnj).mp ⟨h1, h4⟩⟩, h3⟩
  · rintro ⟨⟨⟨rfl, rfl⟩, -, rfl⟩, h3⟩
    exact ⟨⟨⟨rfl, rfl⟩, h3⟩, rfl⟩
set_option maxHeartbeats 4000000 in
theorem lp_note {G : gt_T} {Cc Ss : Nat} {Φ : Option ab_V → ab_H → Prop} {Θ : Nat → ab_H → Prop} {h : ab_H} {xa : Nat → Nat} {na la : List Nat} {σ : sg_T} (C : CR G h xa na la σ) (hw : WF σ) {pn i j : Nat} {c kd o : Int} (hp : σ.1 3 = (pn : Int)) (hp2 : pn < 3) (hi : i < nr σ pn) (hj : j < nr σ pn) (hc : gd (σ.2 7) (40 * pn + i) = c) (ho : gd (σ.2 7) (40 * pn + j) = o) {s0 : Bool}  (k0 : ∀ (v : Bool), v = (s0 || anb (isn σ c kd o) na.length) → ev G M_g_note 7 171 Cc Ss 164 [some (vA (xa 1)), some (vL c), none, some (vI kd), some (vL o), none, some (vA (xa (rt pn i 0))), some (vA (xa (rt pn j 0))), some (vI (bi v)), none] [] h Φ Θ) : ∀ (fu : Nat) (k : Nat) (v : Bool), (k ≤ na.length) → (v = (s0 || anb (isn σ c kd o) k)) → na.length - k < fu → ev G M_g_note 7 171 Cc Ss 77 [some (vA (xa 1)), some (vL c), none, some (vI kd), some (vL o), none, some (vA (xa (rt pn i 0))), some (vA (xa (rt pn j 0))), some (vI (bi v)), some (vI (k : Int))] [] h Φ Θ := by
  intro fu
  induction fu with
  | zero => intros; omega
  | succ fu ih =>
      intro k v h1 h2 hn
      have hnn := cr_nn C
      have hw11 := hw.2.2.1
      have hnl : na.length ≤ 20 := by omega
      refine ev_ilw (k_g_note_0 37 rfl) rfl ?_
      refine ev_al (k_g_note_0 38 rfl) rfl ?_
      refine ev_get (v := vA (xa 20)) (k_g_note_0 39 rfl) (cr_x C) rfl ?_
      obtain ⟨fs361, ho361⟩ := AL_recv (cr_nl C)
      refine ev_cV (k_g_note_0 40 rfl) rfl v_al_size ho361 rfl (c_al_size G _ _ _ _ (cr_nl C)) rfl (le_b rfl) (le_b rfl) (le_b rfl) k_n (k_I fun z361 h361 q361 => ?_)
      obtain ⟨rfl, rfl⟩ := q361
      refine ev_ic_ge (k_g_note_0 41 rfl) (fun c362 => ?_) (fun c362 => ?_)
      · refine ev_dead 9 (show ev _ _ _ _ _ _ 164 [some (vA (xa 1)), some (vL c), none, some (vI kd), some (vL o), none, some (vA (xa (rt pn i 0))), some (vA (xa (rt pn j 0))), some (vI (bi v)), none] _ _ _ _ from ?_)
        have hkn : k = na.length := by omega
        subst hkn
        exact k0 _ h2
      · refine ev_ilw (k_g_note_0 42 rfl) rfl ?_
        refine ev_al (k_g_note_0 43 rfl) rfl ?_
        refine ev_get (v := vA (xa 20)) (k_g_note_0 44 rfl) (cr_x C) rfl ?_
        refine ev_ilw (k_g_note_0 45 rfl) rfl ?_
        obtain ⟨fs363, ho363⟩ := AL_recv (cr_nl C)
        refine ev_cV (k_g_note_0 46 rfl) rfl v_al_get ho363 rfl (c_al_get G _ _ _ _ (cr_nl C) k (by omega)) rfl (le_b rfl) (le_b rfl) (le_b rfl) k_n (k_R fun z363 h363 q363 => ?_)
        obtain ⟨rfl, rfl⟩ := q363
        obtain ⟨ne364, ni364, nj364, hne364, hni364, hnj364, n12364, n13364, n15364, hno364⟩ := cr_no C k (by omega)
        have hnb364 := nr40 hw hne364
        refine ev_chk (k_g_note_0 47 rfl) hno364 ?_
        refine ev_get (v := vA (xa (rt ne364 ni364 0))) (k_g_note_0 48 rfl) hno364 rfl ?_
        refine ev_alw (k_g_note_0 49 rfl) rfl ?_
        refine ev_ac_ne (k_g_note_0 50 rfl) (fun c365 => ?_) (fun c365 => ?_)
        · rw [ne_eq, se_row C hw (by omega) (by omega) (by omega) (by omega)] at c365
          refine ev_ic (k_g_note_1 9 rfl) ?_
          refine ev_iorB (y := false) (k_g_note_1 10 rfl) ?_
          refine ev_isw (k_g_note_1 11 rfl) (le_b rfl) (show ev _ _ _ _ _ _ 158 [some (vA (xa 1)), some (vL c), none, some (vI kd), some (vL o), none, some (vA (xa (rt pn i 0))), some (vA (xa (rt pn j 0))), some (vI (bi (v || false))), some (vI (k : Int))] _ _ _ _ from ?_)
          refine ev_iinc (k_g_note_1 12 rfl) rfl (by omega) (show ev _ _ _ _ _ _ 161 [some (vA (xa 1)), some (vL c), none, some (vI kd), some (vL o), none, some (vA (xa (rt pn i 0))), some (vA (xa (rt pn j 0))), some (vI (bi (v || false))), some (vI ((k : Int) + 1))] _ _ _ _ from ?_)
          refine ev_goto (k_g_note_1 13 rfl) ?_
          have hiff := isn_ok hw (kd := kd) hp hp2 hi hj hc ho hne364 hni364 hnj364 n12364 n13364 n15364
          rw [show (k : Int) + 1 = ((k + 1 : Nat) : Int) by omega]
          exact ih (k + 1) _ (by omega) (by rw [anb_s, show isn σ c kd o k = false from b_f hiff (by omega), ← Bool.or_assoc, ← h2]) (by omega)
        · rw [se_row C hw (by omega) (by omega) (by omega) (by omega)] at c365
          refine ev_al (k_g_note_0 51 rfl) rfl ?_
          refine ev_get (v := vA (xa 20)) (k_g_note_0 52 rfl) (cr_x C) rfl ?_
          refine ev_ilw (k_g_note_0 53 rfl) rfl ?_
          obtain ⟨fs366, ho366⟩ := AL_recv (cr_nl C)
          refine ev_cV (k_g_note_0 54 rfl) rfl v_al_get ho366 rfl (c_al_get G _ _ _ _ (cr_nl C) k (by omega)) rfl (le_b rfl) (le_b rfl) (le_b rfl) k_n (k_R fun z366 h366 q366 => ?_)
          obtain ⟨rfl, rfl⟩ := q366
          refine ev_chk (k_g_note_0 55 rfl) hno364 ?_
          refine ev_get (v := vA (xa (rt ne364 nj364 0))) (k_g_note_0 56 rfl) hno364 rfl ?_
          refine ev_alw (k_g_note_0 57 rfl) rfl ?_
          refine ev_ac_ne (k_g_note_0 58 rfl) (fun c367 => ?_) (fun c367 => ?_)
          · rw [ne_eq, se_row C hw (by omega) (by omega) (by omega) (by omega)] at c367
            refine ev_ic (k_g_note_1 9 rfl) ?_
            refine ev_iorB (y := false) (k_g_note_1 10 rfl) ?_
            refine ev_isw (k_g_note_1 11 rfl) (le_b rfl) (show ev _ _ _ _ _ _ 158 [some (vA (xa 1)), some (vL c), none, some (vI kd), some (vL o), none, some (vA (xa (rt pn i 0))), some (vA (xa (rt pn j 0))), some (vI (bi (v || false))), some (vI (k : Int))] _ _ _ _ from ?_)
            refine ev_iinc (k_g_note_1 12 rfl) rfl (by omega) (show ev _ _ _ _ _ _ 161 [some (vA (xa 1)), some (vL c), none, some (vI kd), some (vL o), none, some (vA (xa (rt pn i 0))), some (vA (xa (rt pn j 0))), some (vI (bi (v || false))), some (vI ((k : Int) + 1))] _ _ _ _ from ?_)
            refine ev_goto (k_g_note_1 13 rfl) ?_
            have hiff := isn_ok hw (kd := kd) hp hp2 hi hj hc ho hne364 hni364 hnj364 n12364 n13364 n15364
            rw [show (k : Int) + 1 = ((k + 1 : Nat) : Int) by omega]
            exact ih (k + 1) _ (by omega) (by rw [anb_s, show isn σ c kd o k = false from b_f hiff (by omega), ← Bool.or_assoc, ← h2]) (by omega)
          · rw [se_row C hw (by omega) (by omega) (by omega) (by omega)] at c367
            refine ev_al (k_g_note_0 59 rfl) rfl ?_
            refine ev_get (v := vA (xa 20)) (k_g_note_1 0 rfl) (cr_x C) rfl ?_
            refine ev_ilw (k_g_note_1 1 rfl) rfl ?_
            obtain ⟨fs368, ho368⟩ := AL_recv (cr_nl C)
            refine ev_cV (k_g_note_1 2 rfl) rfl v_al_get ho368 rfl (c_al_get G _ _ _ _ (cr_nl C) k (by omega)) rfl (le_b rfl) (le_b rfl) (le_b rfl) k_n (k_R fun z368 h368 q368 => ?_)
            obtain ⟨rfl, rfl⟩ := q368
            refine ev_chk (k_g_note_1 3 rfl) hno364 ?_
            refine ev_get (v := vI (gd (σ.2 14) k)) (k_g_note_1 4 rfl) hno364 rfl ?_
            refine ev_il (k_g_note_1 5 rfl) rfl ?_
            refine ev_ic_ne (k_g_note_1 6 rfl) (fun c369 => ?_) (fun c369 => ?_)
            · refine ev_ic (k_g_note_1 9 rfl) ?_
              refine ev_iorB (y := false) (k_g_note_1 10 rfl) ?_
              refine ev_isw (k_g_note_1 11 rfl) (le_b rfl) (show ev _ _ _ _ _ _ 158 [some (vA (xa 1)), some (vL c), none, some (vI kd), some (vL o), none, some (vA (xa (rt pn i 0))), some (vA (xa (rt pn j 0))), some (vI (bi (v || false))), some (vI (k : Int))] _ _ _ _ from ?_)
              refine ev_iinc (k_g_note_1 12 rfl) rfl (by omega) (show ev _ _ _ _ _ _ 161 [some (vA (xa 1)), some (vL c), none, some (vI kd), some (vL o), none, some (vA (xa (rt pn i 0))), some (vA (xa (rt pn j 0))), some (vI (bi (v || false))), some (vI ((k : Int) + 1))] _ _ _ _ from ?_)
              refine ev_goto (k_g_note_1 13 rfl) ?_
              have hiff := isn_ok hw (kd := kd) hp hp2 hi hj hc ho hne364 hni364 hnj364 n12364 n13364 n15364
              rw [show (k : Int) + 1 = ((k + 1 : Nat) : Int) by omega]
              exact ih (k + 1) _ (by omega) (by rw [anb_s, show isn σ c kd o k = false from b_f hiff (by omega), ← Bool.or_assoc, ← h2]) (by omega)
            · refine ev_ic (k_g_note_1 7 rfl) ?_
              refine ev_goto (k_g_note_1 8 rfl) ?_
              refine ev_iorB (y := true) (k_g_note_1 10 rfl) ?_
              refine ev_isw (k_g_note_1 11 rfl) (le_b rfl) (show ev _ _ _ _ _ _ 158 [some (vA (xa 1)), some (vL c), none, some (vI kd), some (vL o), none, some (vA (xa (rt pn i 0))), some (vA (xa (rt pn j 0))), some (vI (bi (v || true))), some (vI (k : Int))] _ _ _ _ from ?_)
              refine ev_iinc (k_g_note_1 12 rfl) rfl (by omega) (show ev _ _ _ _ _ _ 161 [some (vA (xa 1)), some (vL c), none, some (vI kd), some (vL o), none, some (vA (xa (rt pn i 0))), some (vA (xa (rt pn j 0))), some (vI (bi (v || true))), some (vI ((k : Int) + 1))] _ _ _ _ from ?_)
              refine ev_goto (k_g_note_1 13 rfl) ?_
              have hiff := isn_ok hw (kd := kd) hp hp2 hi hj hc ho hne364 hni364 hnj364 n12364 n13364 n15364
              rw [show (k : Int) + 1 = ((k + 1 : Nat) : Int) by omega]
              exact ih (k + 1) _ (by omega) (by rw [anb_s, show isn σ c kd o k = true from hiff.mpr (by omega), ← Bool.or_assoc, ← h2]) (by omega)
theorem nok_of {σ : sg_T} {e i j : Nat} {c kd o : Int} (h1 : rof σ e c = some i) (h2 : rof σ e o = some j) (h3 : ¬ (e = e ∧ i = j)) (h4 : inb kd 0 1 = true) : nok σ e c kd o := by
  refine ⟨by rw [h1]; rfl, by rw [h2]; rfl, fun z => h3 ⟨rfl, ?_⟩, h4⟩
  rw [z, h2] at h1; cases h1; rfl
theorem nok_to {σ : sg_T} (hw : WF σ) {e : Nat} {c kd o : Int} (he : e < 3) (h : nok σ e c kd o) : ∃ i j, rof σ e c = some i ∧ rof σ e o = some j ∧ i ≠ j ∧ inb kd 0 1 = true := by
  obtain ⟨h1, h2, h3, h4⟩ := h
  obtain ⟨i, hi⟩ := Option.isSome_iff_exists.mp h1
  obtain ⟨j, hj⟩ := Option.isSome_iff_exists.mp h2
  refine ⟨i, j, hi, hj, fun z => h3 ?_, h4⟩
  rw [← (rof_lt hi).2, ← (rof_lt hj).2, z]
set_option maxHeartbeats 4000000 in
theorem c_g_note_bad1 (G : gt_T) (h : ab_H) (xa : Nat → Nat) (na la : List Nat) (σ : sg_T) (C : CR G h xa na la σ) (hw : WF σ) (pn : Nat) (hp : σ.1 3 = (pn : Int)) (hp2 : pn < 3) (c kd o : Int) (hx : ¬ nok σ pn c kd o) : ct G M_g_note 7 171 4 106 [vA (xa 1), vL c, vI kd, vL o] h (rI fun z h' => False) (xT 9 h True) := by
  show ev _ _ _ _ _ _ 0 [some (vA (xa 1)), some (vL c), none, some (vI kd), some (vL o), none, none, none, none, none] [] _ _ _
  refine ev_al (k_g_note_0 0 rfl) rfl ?_
  refine ev_cV (k_g_note_0 1 rfl) rfl v_g_now (cr_x C) rfl (c_g_now G _ xa na la σ C hw pn hp hp2) rfl (le_b rfl) (le_b rfl) (le_b rfl) k_n (k_R fun z370 h370 q370 => ?_)
  obtain ⟨rfl, rfl⟩ := q370
  refine ev_ll (k_g_note_0 2 rfl) rfl ?_
  refine ev_cV (k_g_note_0 3 rfl) rfl v_e_find (cr_ed C pn (by omega)) rfl (c_e_find G _ xa na la σ C hw pn (by omega) c) rfl (le_b rfl) (le_b rfl) (le_b rfl) k_n (k_R fun z371 h371 q371 => ?_)
  obtain ⟨rfl, rfl⟩ := q371
  refine ev_asw (k_g_note_0 4 rfl) (le_b rfl) (show ev _ _ _ _ _ _ 10 [some (vA (xa 1)), some (vL c), none, some (vI kd), some (vL o), none, some (vR (rwa xa pn (rof σ pn c))), none, none, none] _ _ _ _ from ?_)
  refine ev_al (k_g_note_0 5 rfl) rfl ?_
  refine ev_cV (k_g_note_0 6 rfl) rfl v_g_now (cr_x C) rfl (c_g_now G _ xa na la σ C hw pn hp hp2) rfl (le_b rfl) (le_b rfl) (le_b rfl) k_n (k_R fun z372 h372 q372 => ?_)
  obtain ⟨rfl, rfl⟩ := q372
  refine ev_llw (k_g_note_0 7 rfl) rfl ?_
  refine ev_cV (k_g_note_0 8 rfl) rfl v_e_find (cr_ed C pn (by omega)) rfl (c_e_find G _ xa na la σ C hw pn (by omega) o) rfl (le_b rfl) (le_b rfl) (le_b rfl) k_n (k_R fun z373 h373 q373 => ?_)
  obtain ⟨rfl, rfl⟩ := q373
  refine ev_asw (k_g_note_0 9 rfl) (le_b rfl) (show ev _ _ _ _ _ _ 21 [some (vA (xa 1)), some (vL c), none, some (vI kd), some (vL o), none, some (vR (rwa xa pn (rof σ pn c))), some (vR (rwa xa pn (rof σ pn o))), none, none] _ _ _ _ from ?_)
  refine ev_alw (k_g_note_0 10 rfl) rfl ?_
  refine ev_rn (k_g_note_0 11 rfl) (fun c374 => ?_) (fun i374 c374 => ?_)
  · (try rw [c374])
    show ev _ _ _ _ _ _ 51 [some (vA (xa 1)), some (vL c), none, some (vI kd), some (vL o), none, some (vN), some (vR (rwa xa pn (rof σ pn o))), none, none] [] _ _ _
    refine ev_ic (k_g_note_0 24 rfl) ?_
    refine ev_cSA (C2 := 3) (S2 := 100) (k_g_note_0 25 rfl) rfl v_g_allow (c_g_allow G _ false) rfl (le_b rfl) (le_b rfl) (le_b rfl) (le_b rfl) (le_b rfl) (k_t rfl (fun a h' q => xT_of trivial q.2.1 q.2.2)) (k_V fun h375 q375 => ?_)
    exact absurd q375.2 (by decide)
  · (try rw [c374])
    show ev _ _ _ _ _ _ 26 [some (vA (xa 1)), some (vL c), none, some (vI kd), some (vL o), none, some (vA (xa (rt pn i374 0))), some (vR (rwa xa pn (rof σ pn o))), none, none] [] _ _ _
    have bi374 : i374 < nr σ pn := (rof_lt c374).1
    refine ev_alw (k_g_note_0 12 rfl) rfl ?_
    refine ev_rn (k_g_note_0 13 rfl) (fun c376 => ?_) (fun i376 c376 => ?_)
    · (try rw [c376])
      show ev _ _ _ _ _ _ 51 [some (vA (xa 1)), some (vL c), none, some (vI kd), some (vL o), none, some (vA (xa (rt pn i374 0))), some (vN), none, none] [] _ _ _
      refine ev_ic (k_g_note_0 24 rfl) ?_
      refine ev_cSA (C2 := 3) (S2 := 100) (k_g_note_0 25 rfl) rfl v_g_allow (c_g_allow G _ false) rfl (le_b rfl) (le_b rfl) (le_b rfl) (le_b rfl) (le_b rfl) (k_t rfl (fun a h' q => xT_of trivial q.2.1 q.2.2)) (k_V fun h377 q377 => ?_)
      exact absurd q377.2 (by decide)
    · (try rw [c376])
      show ev _ _ _ _ _ _ 31 [some (vA (xa 1)), some (vL c), none, some (vI kd), some (vL o), none, some (vA (xa (rt pn i374 0))), some (vA (xa (rt pn i376 0))), none, none] [] _ _ _
      have bi376 : i376 < nr σ pn := (rof_lt c376).1
      refine ev_alw (k_g_note_0 14 rfl) rfl ?_
      refine ev_alw (k_g_note_0 15 rfl) rfl ?_
      refine ev_ac_eq (k_g_note_0 16 rfl) (fun c378 => ?_) (fun c378 => ?_)
      · rw [se_row C hw (by omega) (by omega) (by omega) (by omega)] at c378
        refine ev_ic (k_g_note_0 24 rfl) ?_
        refine ev_cSA (C2 := 3) (S2 := 100) (k_g_note_0 25 rfl) rfl v_g_allow (c_g_allow G _ false) rfl (le_b rfl) (le_b rfl) (le_b rfl) (le_b rfl) (le_b rfl) (k_t rfl (fun a h' q => xT_of trivial q.2.1 q.2.2)) (k_V fun h379 q379 => ?_)
        exact absurd q379.2 (by decide)
      · rw [ne_eq, se_row C hw (by omega) (by omega) (by omega) (by omega)] at c378
        refine ev_il (k_g_note_0 17 rfl) rfl ?_
        refine ev_ic (k_g_note_0 18 rfl) ?_
        refine ev_ic (k_g_note_0 19 rfl) ?_
        refine ev_cS (k_g_note_0 20 rfl) rfl v_g_in (c_g_in G _ kd 0 1) rfl (le_b rfl) (le_b rfl) (le_b rfl) k_n (k_B fun z380 h380 q380 => ?_)
        obtain ⟨rfl, rfl⟩ := q380
        refine ev_b_eq (k_g_note_0 21 rfl) (fun c381 => ?_) (fun c381 => ?_)
        · have j381 := inb_f c381
          refine ev_ic (k_g_note_0 24 rfl) ?_
          refine ev_cSA (C2 := 3) (S2 := 100) (k_g_note_0 25 rfl) rfl v_g_allow (c_g_allow G _ false) rfl (le_b rfl) (le_b rfl) (le_b rfl) (le_b rfl) (le_b rfl) (k_t rfl (fun a h' q => xT_of trivial q.2.1 q.2.2)) (k_V fun h382 q382 => ?_)
          exact absurd q382.2 (by decide)
        · have j381 := inb_t c381
          exact absurd (nok_of c374 c376 c378 c381) hx
set_option maxHeartbeats 4000000 in
theorem c_g_note_bad2 (G : gt_T) (h : ab_H) (xa : Nat → Nat) (na la : List Nat) (σ : sg_T) (C : CR G h xa na la σ) (hw : WF σ) (pn : Nat) (hp : σ.1 3 = (pn : Int)) (hp2 : pn < 3) (c kd o : Int) (i j : Nat) (hri : rof σ pn c = some i) (hrj : rof σ pn o = some j) (hij : i ≠ j) (hkd : inb kd 0 1 = true) (hfull : na.length = 20 ∨ hsn σ c kd o = true) : ct G M_g_note 7 171 4 106 [vA (xa 1), vL c, vI kd, vL o] h (rI fun z h' => False) (xT 10 h True) := by
  show ev _ _ _ _ _ _ 0 [some (vA (xa 1)), some (vL c), none, some (vI kd), some (vL o), none, none, none, none, none] [] _ _ _
  have hnn := cr_nn C
  have hw11 := hw.2.2.1
  have hnl : na.length ≤ 20 := by omega
  have hi : i < nr σ pn := (rof_lt hri).1
  have hc : gd (σ.2 7) (40 * pn + i) = c := (rof_lt hri).2
  have hj : j < nr σ pn := (rof_lt hrj).1
  have ho : gd (σ.2 7) (40 * pn + j) = o := (rof_lt hrj).2
  refine ev_al (k_g_note_0 0 rfl) rfl ?_
  refine ev_cV (k_g_note_0 1 rfl) rfl v_g_now (cr_x C) rfl (c_g_now G _ xa na la σ C hw pn hp hp2) rfl (le_b rfl) (le_b rfl) (le_b rfl) k_n (k_R fun z383 h383 q383 => ?_)
  obtain ⟨rfl, rfl⟩ := q383
  refine ev_ll (k_g_note_0 2 rfl) rfl ?_
  refine ev_cV (k_g_note_0 3 rfl) rfl v_e_find (cr_ed C pn (by omega)) rfl (c_e_find G _ xa na la σ C hw pn (by omega) c) rfl (le_b rfl) (le_b rfl) (le_b rfl) k_n (k_R fun z384 h384 q384 => ?_)
  obtain ⟨rfl, rfl⟩ := q384
  refine ev_asw (k_g_note_0 4 rfl) (le_b rfl) (show ev _ _ _ _ _ _ 10 [some (vA (xa 1)), some (vL c), none, some (vI kd), some (vL o), none, some (vR (rwa xa pn (rof σ pn c))), none, none, none] _ _ _ _ from ?_)
  refine ev_al (k_g_note_0 5 rfl) rfl ?_
  refine ev_cV (k_g_note_0 6 rfl) rfl v_g_now (cr_x C) rfl (c_g_now G _ xa na la σ C hw pn hp hp2) rfl (le_b rfl) (le_b rfl) (le_b rfl) k_n (k_R fun z385 h385 q385 => ?_)
  obtain ⟨rfl, rfl⟩ := q385
  refine ev_llw (k_g_note_0 7 rfl) rfl ?_
  refine ev_cV (k_g_note_0 8 rfl) rfl v_e_find (cr_ed C pn (by omega)) rfl (c_e_find G _ xa na la σ C hw pn (by omega) o) rfl (le_b rfl) (le_b rfl) (le_b rfl) k_n (k_R fun z386 h386 q386 => ?_)
  obtain ⟨rfl, rfl⟩ := q386
  refine ev_asw (k_g_note_0 9 rfl) (le_b rfl) (show ev _ _ _ _ _ _ 21 [some (vA (xa 1)), some (vL c), none, some (vI kd), some (vL o), none, some (vR (rwa xa pn (rof σ pn c))), some (vR (rwa xa pn (rof σ pn o))), none, none] _ _ _ _ from ?_)
  refine ev_alw (k_g_note_0 10 rfl) rfl ?_
  refine ev_rn (k_g_note_0 11 rfl) (fun c387 => ?_) (fun i387 c387 => ?_)
  · (try rw [c387])
    show ev _ _ _ _ _ _ 51 [some (vA (xa 1)), some (vL c), none, some (vI kd), some (vL o), none, some (vN), some (vR (rwa xa pn (rof σ pn o))), none, none] [] _ _ _
    first | (rw [c387] at hri; cases hri; done) | (rw [c387] at hrj; cases hrj; done) | (exfalso; rw [c387] at hri; rw [c387] at hrj; cases hri; cases hrj; exact hij c387.2) | exact absurd (hkd.symm.trans c387) (by decide)
  · (try rw [c387])
    show ev _ _ _ _ _ _ 26 [some (vA (xa 1)), some (vL c), none, some (vI kd), some (vL o), none, some (vA (xa (rt pn i387 0))), some (vR (rwa xa pn (rof σ pn o))), none, none] [] _ _ _
    have bi387 : i387 < nr σ pn := (rof_lt c387).1
    refine ev_alw (k_g_note_0 12 rfl) rfl ?_
    refine ev_rn (k_g_note_0 13 rfl) (fun c388 => ?_) (fun i388 c388 => ?_)
    · (try rw [c388])
      show ev _ _ _ _ _ _ 51 [some (vA (xa 1)), some (vL c), none, some (vI kd), some (vL o), none, some (vA (xa (rt pn i387 0))), some (vN), none, none] [] _ _ _
      first | (rw [c387] at hri; cases hri; done) | (rw [c388] at hrj; cases hrj; done) | (exfalso; rw [c387] at hri; rw [c388] at hrj; cases hri; cases hrj; exact hij c387.2) | exact absurd (hkd.symm.trans c388) (by decide)
    · (try rw [c388])
      show ev _ _ _ _ _ _ 31 [some (vA (xa 1)), some (vL c), none, some (vI kd), some (vL o), none, some (vA (xa (rt pn i387 0))), some (vA (xa (rt pn i388 0))), none, none] [] _ _ _
      have bi388 : i388 < nr σ pn := (rof_lt c388).1
      refine ev_alw (k_g_note_0 14 rfl) rfl ?_
      refine ev_alw (k_g_note_0 15 rfl) rfl ?_
      refine ev_ac_eq (k_g_note_0 16 rfl) (fun c389 => ?_) (fun c389 => ?_)
      · rw [se_row C hw (by omega) (by omega) (by omega) (by omega)] at c389
        first | (rw [c387] at hri; cases hri; done) | (rw [c389] at hrj; cases hrj; done) | (exfalso; rw [c387] at hri; rw [c388] at hrj; cases hri; cases hrj; exact hij c389.2) | exact absurd (hkd.symm.trans c389) (by decide)
      · rw [ne_eq, se_row C hw (by omega) (by omega) (by omega) (by omega)] at c389
        refine ev_il (k_g_note_0 17 rfl) rfl ?_
        refine ev_ic (k_g_note_0 18 rfl) ?_
        refine ev_ic (k_g_note_0 19 rfl) ?_
        refine ev_cS (k_g_note_0 20 rfl) rfl v_g_in (c_g_in G _ kd 0 1) rfl (le_b rfl) (le_b rfl) (le_b rfl) k_n (k_B fun z390 h390 q390 => ?_)
        obtain ⟨rfl, rfl⟩ := q390
        refine ev_b_eq (k_g_note_0 21 rfl) (fun c391 => ?_) (fun c391 => ?_)
        · have j391 := inb_f c391
          first | (rw [c387] at hri; cases hri; done) | (rw [c391] at hrj; cases hrj; done) | (exfalso; rw [c387] at hri; rw [c388] at hrj; cases hri; cases hrj; exact hij c389.2) | exact absurd (hkd.symm.trans c391) (by decide)
        · have j391 := inb_t c391
          refine ev_ic (k_g_note_0 22 rfl) ?_
          refine ev_goto (k_g_note_0 23 rfl) ?_
          refine ev_cSA (C2 := 3) (S2 := 100) (k_g_note_0 25 rfl) rfl v_g_allow (c_g_allow G _ true) rfl (le_b rfl) (le_b rfl) (le_b rfl) (le_b rfl) (le_b rfl) (k_t rfl (fun a h' q => absurd q.1 (by decide))) (k_V fun h392 q392 => ?_)
          obtain ⟨rfl, -⟩ := q392
          refine ev_al (k_g_note_0 26 rfl) rfl ?_
          refine ev_get (v := vA (xa 20)) (k_g_note_0 27 rfl) (cr_x C) rfl ?_
          obtain ⟨fs393, ho393⟩ := AL_recv (cr_nl C)
          refine ev_cV (k_g_note_0 28 rfl) rfl v_al_size ho393 rfl (c_al_size G _ _ _ _ (cr_nl C)) rfl (le_b rfl) (le_b rfl) (le_b rfl) k_n (k_I fun z393 h393 q393 => ?_)
          obtain ⟨rfl, rfl⟩ := q393
          refine ev_bp (k_g_note_0 29 rfl) ?_
          refine ev_ic_ne (k_g_note_0 30 rfl) (fun c394 => ?_) (fun c394 => ?_)
          · refine ev_ic (k_g_note_0 33 rfl) ?_
            refine ev_isw (k_g_note_0 34 rfl) (le_b rfl) (show ev _ _ _ _ _ _ 74 [some (vA (xa 1)), some (vL c), none, some (vI kd), some (vL o), none, some (vA (xa (rt pn i387 0))), some (vA (xa (rt pn i388 0))), some (vI 0), none] _ _ _ _ from ?_)
            refine ev_ic (k_g_note_0 35 rfl) ?_
            refine ev_isw (k_g_note_0 36 rfl) (le_b rfl) (show ev _ _ _ _ _ _ 77 [some (vA (xa 1)), some (vL c), none, some (vI kd), some (vL o), none, some (vA (xa (rt pn i387 0))), some (vA (xa (rt pn i388 0))), some (vI 0), some (vI 0)] _ _ _ _ from ?_)
            have hii : i387 = i := by rw [c387] at hri; cases hri; rfl
            have hjj : i388 = j := by rw [c388] at hrj; cases hrj; rfl
            subst hii
            subst hjj
            rw [show (0 : Int) = ((0 : Nat) : Int) from rfl]
            refine lp_note C hw (i := i387) (j := i388) (s0 := false) hp hp2 hi hj hc ho (fun v hv => ?_) (na.length + 1) 0 false (by omega) (by simp [anb]) (by omega)
            refine ev_ilw (k_g_note_1 14 rfl) rfl ?_
            refine ev_b_ne (k_g_note_1 15 rfl) (fun c395 => ?_) (fun c395 => ?_)
            · refine ev_ic (k_g_note_1 18 rfl) ?_
              refine ev_cSA (C2 := 2) (S2 := 94) (k_g_note_1 19 rfl) rfl v_g_may (c_g_may G _ false) rfl (le_b rfl) (le_b rfl) (le_b rfl) (le_b rfl) (le_b rfl) (k_t rfl (fun a h' q => xT_of trivial q.2.1 q.2.2)) (k_V fun h396 q396 => ?_)
              exact absurd q396.2 (by decide)
            · exfalso
              rw [c395] at hv
              rcases hfull with z | z
              · first | (omega) | (simp at hv)
              · unfold hsn at z; rw [show (σ.1 11).toNat = na.length by omega] at z; rw [z] at hv; simp at hv
          · refine ev_ic (k_g_note_0 31 rfl) ?_
            refine ev_goto (k_g_note_0 32 rfl) ?_
            refine ev_isw (k_g_note_0 34 rfl) (le_b rfl) (show ev _ _ _ _ _ _ 74 [some (vA (xa 1)), some (vL c), none, some (vI kd), some (vL o), none, some (vA (xa (rt pn i387 0))), some (vA (xa (rt pn i388 0))), some (vI 1), none] _ _ _ _ from ?_)
            refine ev_ic (k_g_note_0 35 rfl) ?_
            refine ev_isw (k_g_note_0 36 rfl) (le_b rfl) (show ev _ _ _ _ _ _ 77 [some (vA (xa 1)), some (vL c), none, some (vI kd), some (vL o), none, some (vA (xa (rt pn i387 0))), some (vA (xa (rt pn i388 0))), some (vI 1), some (vI 0)] _ _ _ _ from ?_)
            have hii : i387 = i := by rw [c387] at hri; cases hri; rfl
            have hjj : i388 = j := by rw [c388] at hrj; cases hrj; rfl
            subst hii
            subst hjj
            rw [show (0 : Int) = ((0 : Nat) : Int) from rfl]
            refine lp_note C hw (i := i387) (j := i388) (s0 := true) hp hp2 hi hj hc ho (fun v hv => ?_) (na.length + 1) 0 true (by omega) (by simp [anb]) (by omega)
            refine ev_ilw (k_g_note_1 14 rfl) rfl ?_
            refine ev_b_ne (k_g_note_1 15 rfl) (fun c397 => ?_) (fun c397 => ?_)
            · refine ev_ic (k_g_note_1 18 rfl) ?_
              refine ev_cSA (C2 := 2) (S2 := 94) (k_g_note_1 19 rfl) rfl v_g_may (c_g_may G _ false) rfl (le_b rfl) (le_b rfl) (le_b rfl) (le_b rfl) (le_b rfl) (k_t rfl (fun a h' q => xT_of trivial q.2.1 q.2.2)) (k_V fun h398 q398 => ?_)
              exact absurd q398.2 (by decide)
            · exfalso
              rw [c397] at hv
              rcases hfull with z | z
              · first | (omega) | (simp at hv)
              · unfold hsn at z; rw [show (σ.1 11).toNat = na.length by omega] at z; rw [z] at hv; simp at hv
theorem t0w {t : Nat} : t0 t → 40 ≤ t ∧ ¬ (100 ≤ t ∧ t < 1000) := fun z => z.elim
set_option maxHeartbeats 4000000 in
theorem c_g_note_ok (G : gt_T) (h : ab_H) (xa : Nat → Nat) (na la : List Nat) (σ : sg_T) (C : CR G h xa na la σ) (hw : WF σ) (pn : Nat) (hp : σ.1 3 = (pn : Int)) (hp2 : pn < 3) (c kd o : Int) (i j : Nat) (hri : rof σ pn c = some i) (hrj : rof σ pn o = some j) (hij : i ≠ j) (hkd : inb kd 0 1 = true) (hL : WFL σ) (nn : Nat) (hnn2 : σ.1 11 = (nn : Int)) (hfull : ¬ (nn = 20 ∨ hsn σ c kd o = true)) : ct G M_g_note 7 171 4 106 [vA (xa 1), vL c, vI kd, vL o] h (rI fun z h' => ∃ q, CR G h' xa (na ++ [q]) la (ntd σ pn nn c kd o) ∧ WF (ntd σ pn nn c kd o) ∧ FRp (t2 20) h h' ∧ z = (nof (ntd σ pn nn c kd o) (pn : Int) : Int)) nT := by
  show ev _ _ _ _ _ _ 0 [some (vA (xa 1)), some (vL c), none, some (vI kd), some (vL o), none, none, none, none, none] [] _ _ _
  have hnn := cr_nn C
  have hw11 := hw.2.2.1
  have hnl : na.length ≤ 20 := by omega
  have hi : i < nr σ pn := (rof_lt hri).1
  have hc : gd (σ.2 7) (40 * pn + i) = c := (rof_lt hri).2
  have hj : j < nr σ pn := (rof_lt hrj).1
  have ho : gd (σ.2 7) (40 * pn + j) = o := (rof_lt hrj).2
  refine ev_al (k_g_note_0 0 rfl) rfl ?_
  refine ev_cV (k_g_note_0 1 rfl) rfl v_g_now (cr_x C) rfl (c_g_now G _ xa na la σ C hw pn hp hp2) rfl (le_b rfl) (le_b rfl) (le_b rfl) k_n (k_R fun z399 h399 q399 => ?_)
  obtain ⟨rfl, rfl⟩ := q399
  refine ev_ll (k_g_note_0 2 rfl) rfl ?_
  refine ev_cV (k_g_note_0 3 rfl) rfl v_e_find (cr_ed C pn (by omega)) rfl (c_e_find G _ xa na la σ C hw pn (by omega) c) rfl (le_b rfl) (le_b rfl) (le_b rfl) k_n (k_R fun z400 h400 q400 => ?_)
  obtain ⟨rfl, rfl⟩ := q400
  refine ev_asw (k_g_note_0 4 rfl) (le_b rfl) (show ev _ _ _ _ _ _ 10 [some (vA (xa 1)), some (vL c), none, some (vI kd), some (vL o), none, some (vR (rwa xa pn (rof σ pn c))), none, none, none] _ _ _ _ from ?_)
  refine ev_al (k_g_note_0 5 rfl) rfl ?_
  refine ev_cV (k_g_note_0 6 rfl) rfl v_g_now (cr_x C) rfl (c_g_now G _ xa na la σ C hw pn hp hp2) rfl (le_b rfl) (le_b rfl) (le_b rfl) k_n (k_R fun z401 h401 q401 => ?_)
  obtain ⟨rfl, rfl⟩ := q401
  refine ev_llw (k_g_note_0 7 rfl) rfl ?_
  refine ev_cV (k_g_note_0 8 rfl) rfl v_e_find (cr_ed C pn (by omega)) rfl (c_e_find G _ xa na la σ C hw pn (by omega) o) rfl (le_b rfl) (le_b rfl) (le_b rfl) k_n (k_R fun z402 h402 q402 => ?_)
  obtain ⟨rfl, rfl⟩ := q402
  refine ev_asw (k_g_note_0 9 rfl) (le_b rfl) (show ev _ _ _ _ _ _ 21 [some (vA (xa 1)), some (vL c), none, some (vI kd), some (vL o), none, some (vR (rwa xa pn (rof σ pn c))), some (vR (rwa xa pn (rof σ pn o))), none, none] _ _ _ _ from ?_)
  refine ev_alw (k_g_note_0 10 rfl) rfl ?_
  refine ev_rn (k_g_note_0 11 rfl) (fun c403 => ?_) (fun i403 c403 => ?_)
  · (try rw [c403])
    show ev _ _ _ _ _ _ 51 [some (vA (xa 1)), some (vL c), none, some (vI kd), some (vL o), none, some (vN), some (vR (rwa xa pn (rof σ pn o))), none, none] [] _ _ _
    first | (rw [c403] at hri; cases hri; done) | (rw [c403] at hrj; cases hrj; done) | (exfalso; rw [c403] at hri; rw [c403] at hrj; cases hri; cases hrj; exact hij c403.2) | exact absurd (hkd.symm.trans c403) (by decide)
  · (try rw [c403])
    show ev _ _ _ _ _ _ 26 [some (vA (xa 1)), some (vL c), none, some (vI kd), some (vL o), none, some (vA (xa (rt pn i403 0))), some (vR (rwa xa pn (rof σ pn o))), none, none] [] _ _ _
    have bi403 : i403 < nr σ pn := (rof_lt c403).1
    refine ev_alw (k_g_note_0 12 rfl) rfl ?_
    refine ev_rn (k_g_note_0 13 rfl) (fun c404 => ?_) (fun i404 c404 => ?_)
    · (try rw [c404])
      show ev _ _ _ _ _ _ 51 [some (vA (xa 1)), some (vL c), none, some (vI kd), some (vL o), none, some (vA (xa (rt pn i403 0))), some (vN), none, none] [] _ _ _
      first | (rw [c403] at hri; cases hri; done) | (rw [c404] at hrj; cases hrj; done) | (exfalso; rw [c403] at hri; rw [c404] at hrj; cases hri; cases hrj; exact hij c403.2) | exact absurd (hkd.symm.trans c404) (by decide)
    · (try rw [c404])
      show ev _ _ _ _ _ _ 31 [some (vA (xa 1)), some (vL c), none, some (vI kd), some (vL o), none, some (vA (xa (rt pn i403 0))), some (vA (xa (rt pn i404 0))), none, none] [] _ _ _
      have bi404 : i404 < nr σ pn := (rof_lt c404).1
      refine ev_alw (k_g_note_0 14 rfl) rfl ?_
      refine ev_alw (k_g_note_0 15 rfl) rfl ?_
      refine ev_ac_eq (k_g_note_0 16 rfl) (fun c405 => ?_) (fun c405 => ?_)
      · rw [se_row C hw (by omega) (by omega) (by omega) (by omega)] at c405
        first | (rw [c403] at hri; cases hri; done) | (rw [c405] at hrj; cases hrj; done) | (exfalso; rw [c403] at hri; rw [c404] at hrj; cases hri; cases hrj; exact hij c405.2) | exact absurd (hkd.symm.trans c405) (by decide)
      · rw [ne_eq, se_row C hw (by omega) (by omega) (by omega) (by omega)] at c405
        refine ev_il (k_g_note_0 17 rfl) rfl ?_
        refine ev_ic (k_g_note_0 18 rfl) ?_
        refine ev_ic (k_g_note_0 19 rfl) ?_
        refine ev_cS (k_g_note_0 20 rfl) rfl v_g_in (c_g_in G _ kd 0 1) rfl (le_b rfl) (le_b rfl) (le_b rfl) k_n (k_B fun z406 h406 q406 => ?_)
        obtain ⟨rfl, rfl⟩ := q406
        refine ev_b_eq (k_g_note_0 21 rfl) (fun c407 => ?_) (fun c407 => ?_)
        · have j407 := inb_f c407
          first | (rw [c403] at hri; cases hri; done) | (rw [c407] at hrj; cases hrj; done) | (exfalso; rw [c403] at hri; rw [c404] at hrj; cases hri; cases hrj; exact hij c405.2) | exact absurd (hkd.symm.trans c407) (by decide)
        · have j407 := inb_t c407
          refine ev_ic (k_g_note_0 22 rfl) ?_
          refine ev_goto (k_g_note_0 23 rfl) ?_
          refine ev_cSA (C2 := 3) (S2 := 100) (k_g_note_0 25 rfl) rfl v_g_allow (c_g_allow G _ true) rfl (le_b rfl) (le_b rfl) (le_b rfl) (le_b rfl) (le_b rfl) (k_t rfl (fun a h' q => absurd q.1 (by decide))) (k_V fun h408 q408 => ?_)
          obtain ⟨rfl, -⟩ := q408
          refine ev_al (k_g_note_0 26 rfl) rfl ?_
          refine ev_get (v := vA (xa 20)) (k_g_note_0 27 rfl) (cr_x C) rfl ?_
          obtain ⟨fs409, ho409⟩ := AL_recv (cr_nl C)
          refine ev_cV (k_g_note_0 28 rfl) rfl v_al_size ho409 rfl (c_al_size G _ _ _ _ (cr_nl C)) rfl (le_b rfl) (le_b rfl) (le_b rfl) k_n (k_I fun z409 h409 q409 => ?_)
          obtain ⟨rfl, rfl⟩ := q409
          refine ev_bp (k_g_note_0 29 rfl) ?_
          refine ev_ic_ne (k_g_note_0 30 rfl) (fun c410 => ?_) (fun c410 => ?_)
          · refine ev_ic (k_g_note_0 33 rfl) ?_
            refine ev_isw (k_g_note_0 34 rfl) (le_b rfl) (show ev _ _ _ _ _ _ 74 [some (vA (xa 1)), some (vL c), none, some (vI kd), some (vL o), none, some (vA (xa (rt pn i403 0))), some (vA (xa (rt pn i404 0))), some (vI 0), none] _ _ _ _ from ?_)
            refine ev_ic (k_g_note_0 35 rfl) ?_
            refine ev_isw (k_g_note_0 36 rfl) (le_b rfl) (show ev _ _ _ _ _ _ 77 [some (vA (xa 1)), some (vL c), none, some (vI kd), some (vL o), none, some (vA (xa (rt pn i403 0))), some (vA (xa (rt pn i404 0))), some (vI 0), some (vI 0)] _ _ _ _ from ?_)
            have hii : i403 = i := by rw [c403] at hri; cases hri; rfl
            have hjj : i404 = j := by rw [c404] at hrj; cases hrj; rfl
            subst hii
            subst hjj
            rw [show (0 : Int) = ((0 : Nat) : Int) from rfl]
            refine lp_note C hw (i := i403) (j := i404) (s0 := false) hp hp2 hi hj hc ho (fun v hv => ?_) (na.length + 1) 0 false (by omega) (by simp [anb]) (by omega)
            refine ev_ilw (k_g_note_1 14 rfl) rfl ?_
            refine ev_b_ne (k_g_note_1 15 rfl) (fun c411 => ?_) (fun c411 => ?_)
            · exfalso
              rw [c411] at hv
              have hv2 := hv.symm
              rw [Bool.or_eq_true] at hv2
              rcases hv2 with z | z
              · first | (cases z; done) | (exact hfull (Or.inl (by omega)))
              · exact hfull (Or.inr (by unfold hsn; rw [show (σ.1 11).toNat = na.length by omega]; exact z))
            · refine ev_ic (k_g_note_1 16 rfl) ?_
              refine ev_goto (k_g_note_1 17 rfl) ?_
              refine ev_cSA (C2 := 2) (S2 := 94) (k_g_note_1 19 rfl) rfl v_g_may (c_g_may G _ true) rfl (le_b rfl) (le_b rfl) (le_b rfl) (le_b rfl) (le_b rfl) (k_t rfl (fun a h' q => absurd q.1 (by decide))) (k_V fun h412 q412 => ?_)
              obtain ⟨rfl, -⟩ := q412
              refine ev_al (k_g_note_1 20 rfl) rfl ?_
              refine ev_get (v := vA (xa 20)) (k_g_note_1 21 rfl) (cr_x C) rfl ?_
              refine ev_new (C2 := 1) (S2 := 90) 30 (k_g_note_1 22 rfl) (le_b rfl) (le_b rfl) (le_b rfl) (fun q hq hqe => ?_)
              have C1 := CR_kp hw (fr_new (o' := oJ 30 4 (df 4)) hq) (fun t z => t0w z) C
              refine ev_dup (k_g_note_1 23 rfl) rfl ?_
              refine ev_al (k_g_note_1 24 rfl) rfl ?_
              refine ev_cV (k_g_note_1 25 rfl) rfl v_g_now (cr_x C1) rfl (c_g_now G _ xa na la σ C1 hw pn hp hp2) rfl (le_b rfl) (le_b rfl) (le_b rfl) k_n (k_R fun z413 h413 q413 => ?_)
              obtain ⟨rfl, rfl⟩ := q413
              refine ev_alw (k_g_note_1 26 rfl) rfl ?_
              refine ev_il (k_g_note_1 27 rfl) rfl ?_
              refine ev_alw (k_g_note_1 28 rfl) rfl ?_
              refine ev_cI (k_g_note_1 29 rfl) rfl v_n_init (c_n_init G _ q (xa (5 + pn)) (xa (rt pn i403 0)) kd (xa (rt pn i404 0)) (hu_self _ _ _)) rfl (le_b rfl) (le_b rfl) (le_b rfl) k_n (k_V fun h9 q9 => ?_)
              rw [hu_hu] at q9
              subst q9
              have hN := fr_new (o' := oJ 30 4 [vA (xa (5 + pn)), vA (xa (rt pn i403 0)), vI kd, vA (xa (rt pn i404 0))]) hq
              have hA1 := AL_kp hN (cr_nl C) (fun z => z) (fun z => z)
              obtain ⟨fsA, hoA⟩ := AL_recv hA1
              refine ev_cVA (C2 := 0) (S2 := 0) (k_g_note_1 30 rfl) rfl v_al_add hoA rfl (c_al_add G _ (xa 20) 20 na q hA1 (by omega) (fun y hy => ?_) ⟨30, 4, _, hu_self _ _ _, rfl, by decide, by decide⟩) rfl (le_b rfl) (le_b rfl) (le_b rfl) (le_b rfl) (le_b rfl) k_n (k_B fun z8 h8 q8 => ?_)
              · obtain ⟨k, hk, rfl⟩ := List.getElem_of_mem hy
                have hk2 := cr_no C k hk
                rw [List.getD_eq_getElem?_getD, List.getElem?_eq_getElem hk] at hk2
                obtain ⟨e1, i1, j1, -, -, -, -, -, -, b7⟩ := hk2
                exact ⟨30, 4, _, kp hN b7 (fun z => z), rfl, by decide, by decide⟩
              obtain ⟨rfl, hA2, f8⟩ := q8
              have C2 := CR_note C hw hL (kd := kd) hp2 hi hj hc ho hnn2 (by omega) hq hA2 f8
              have hw2 := WF_note hw hL (pn := pn) (c := c) (kd := kd) (o := o) hnn2 (by omega) (inb_t hkd)
              refine ev_pop (k_g_note_1 31 rfl) rfl ?_
              refine ev_al (k_g_note_1 32 rfl) rfl ?_
              refine ev_al (k_g_note_1 33 rfl) rfl ?_
              refine ev_cV (k_g_note_1 34 rfl) rfl v_g_now (cr_x C2) rfl (c_g_now G _ xa (na ++ [q]) la _ C2 hw2 pn hp hp2) rfl (le_b rfl) (le_b rfl) (le_b rfl) k_n (k_R fun z414 h414 q414 => ?_)
              obtain ⟨rfl, rfl⟩ := q414
              refine ev_cV (k_g_note_1 35 rfl) rfl v_g_notesOf (cr_x C2) rfl (c_g_notesOf G _ xa (na ++ [q]) la _ C2 hw2 pn hp2) rfl (le_b rfl) (le_b rfl) (le_b rfl) k_n (k_I fun z415 h415 q415 => ?_)
              obtain ⟨rfl, rfl⟩ := q415
              exact ev_iret (k_g_note_1 36 rfl) rfl ⟨_, rfl, _, C2, hw2, fr_tr (fr_wk hN (fun t z => z.elim)) f8 (fun t z => z), rfl⟩
          · refine ev_ic (k_g_note_0 31 rfl) ?_
            refine ev_goto (k_g_note_0 32 rfl) ?_
            refine ev_isw (k_g_note_0 34 rfl) (le_b rfl) (show ev _ _ _ _ _ _ 74 [some (vA (xa 1)), some (vL c), none, some (vI kd), some (vL o), none, some (vA (xa (rt pn i403 0))), some (vA (xa (rt pn i404 0))), some (vI 1), none] _ _ _ _ from ?_)
            refine ev_ic (k_g_note_0 35 rfl) ?_
            refine ev_isw (k_g_note_0 36 rfl) (le_b rfl) (show ev _ _ _ _ _ _ 77 [some (vA (xa 1)), some (vL c), none, some (vI kd), some (vL o), none, some (vA (xa (rt pn i403 0))), some (vA (xa (rt pn i404 0))), some (vI 1), some (vI 0)] _ _ _ _ from ?_)
            have hii : i403 = i := by rw [c403] at hri; cases hri; rfl
            have hjj : i404 = j := by rw [c404] at hrj; cases hrj; rfl
            subst hii
            subst hjj
            rw [show (0 : Int) = ((0 : Nat) : Int) from rfl]
            refine lp_note C hw (i := i403) (j := i404) (s0 := true) hp hp2 hi hj hc ho (fun v hv => ?_) (na.length + 1) 0 true (by omega) (by simp [anb]) (by omega)
            refine ev_ilw (k_g_note_1 14 rfl) rfl ?_
            refine ev_b_ne (k_g_note_1 15 rfl) (fun c416 => ?_) (fun c416 => ?_)
            · exfalso
              rw [c416] at hv
              have hv2 := hv.symm
              rw [Bool.or_eq_true] at hv2
              rcases hv2 with z | z
              · first | (cases z; done) | (exact hfull (Or.inl (by omega)))
              · exact hfull (Or.inr (by unfold hsn; rw [show (σ.1 11).toNat = na.length by omega]; exact z))
            · refine ev_ic (k_g_note_1 16 rfl) ?_
              refine ev_goto (k_g_note_1 17 rfl) ?_
              refine ev_cSA (C2 := 2) (S2 := 94) (k_g_note_1 19 rfl) rfl v_g_may (c_g_may G _ true) rfl (le_b rfl) (le_b rfl) (le_b rfl) (le_b rfl) (le_b rfl) (k_t rfl (fun a h' q => absurd q.1 (by decide))) (k_V fun h417 q417 => ?_)
              obtain ⟨rfl, -⟩ := q417
              refine ev_al (k_g_note_1 20 rfl) rfl ?_
              refine ev_get (v := vA (xa 20)) (k_g_note_1 21 rfl) (cr_x C) rfl ?_
              refine ev_new (C2 := 1) (S2 := 90) 30 (k_g_note_1 22 rfl) (le_b rfl) (le_b rfl) (le_b rfl) (fun q hq hqe => ?_)
              have C1 := CR_kp hw (fr_new (o' := oJ 30 4 (df 4)) hq) (fun t z => t0w z) C
              refine ev_dup (k_g_note_1 23 rfl) rfl ?_
              refine ev_al (k_g_note_1 24 rfl) rfl ?_
              refine ev_cV (k_g_note_1 25 rfl) rfl v_g_now (cr_x C1) rfl (c_g_now G _ xa na la σ C1 hw pn hp hp2) rfl (le_b rfl) (le_b rfl) (le_b rfl) k_n (k_R fun z418 h418 q418 => ?_)
              obtain ⟨rfl, rfl⟩ := q418
              refine ev_alw (k_g_note_1 26 rfl) rfl ?_
              refine ev_il (k_g_note_1 27 rfl) rfl ?_
              refine ev_alw (k_g_note_1 28 rfl) rfl ?_
              refine ev_cI (k_g_note_1 29 rfl) rfl v_n_init (c_n_init G _ q (xa (5 + pn)) (xa (rt pn i403 0)) kd (xa (rt pn i404 0)) (hu_self _ _ _)) rfl (le_b rfl) (le_b rfl) (le_b rfl) k_n (k_V fun h9 q9 => ?_)
              rw [hu_hu] at q9
              subst q9
              have hN := fr_new (o' := oJ 30 4 [vA (xa (5 + pn)), vA (xa (rt pn i403 0)), vI kd, vA (xa (rt pn i404 0))]) hq
              have hA1 := AL_kp hN (cr_nl C) (fun z => z) (fun z => z)
              obtain ⟨fsA, hoA⟩ := AL_recv hA1
              refine ev_cVA (C2 := 0) (S2 := 0) (k_g_note_1 30 rfl) rfl v_al_add hoA rfl (c_al_add G _ (xa 20) 20 na q hA1 (by omega) (fun y hy => ?_) ⟨30, 4, _, hu_self _ _ _, rfl, by decide, by decide⟩) rfl (le_b rfl) (le_b rfl) (le_b rfl) (le_b rfl) (le_b rfl) k_n (k_B fun z8 h8 q8 => ?_)
              · obtain ⟨k, hk, rfl⟩ := List.getElem_of_mem hy
                have hk2 := cr_no C k hk
                rw [List.getD_eq_getElem?_getD, List.getElem?_eq_getElem hk] at hk2
                obtain ⟨e1, i1, j1, -, -, -, -, -, -, b7⟩ := hk2
                exact ⟨30, 4, _, kp hN b7 (fun z => z), rfl, by decide, by decide⟩
              obtain ⟨rfl, hA2, f8⟩ := q8
              have C2 := CR_note C hw hL (kd := kd) hp2 hi hj hc ho hnn2 (by omega) hq hA2 f8
              have hw2 := WF_note hw hL (pn := pn) (c := c) (kd := kd) (o := o) hnn2 (by omega) (inb_t hkd)
              refine ev_pop (k_g_note_1 31 rfl) rfl ?_
              refine ev_al (k_g_note_1 32 rfl) rfl ?_
              refine ev_al (k_g_note_1 33 rfl) rfl ?_
              refine ev_cV (k_g_note_1 34 rfl) rfl v_g_now (cr_x C2) rfl (c_g_now G _ xa (na ++ [q]) la _ C2 hw2 pn hp hp2) rfl (le_b rfl) (le_b rfl) (le_b rfl) k_n (k_R fun z419 h419 q419 => ?_)
              obtain ⟨rfl, rfl⟩ := q419
              refine ev_cV (k_g_note_1 35 rfl) rfl v_g_notesOf (cr_x C2) rfl (c_g_notesOf G _ xa (na ++ [q]) la _ C2 hw2 pn hp2) rfl (le_b rfl) (le_b rfl) (le_b rfl) k_n (k_I fun z420 h420 q420 => ?_)
              obtain ⟨rfl, rfl⟩ := q420
              exact ev_iret (k_g_note_1 36 rfl) rfl ⟨_, rfl, _, C2, hw2, fr_tr (fr_wk hN (fun t z => z.elim)) f8 (fun t z => z), rfl⟩
