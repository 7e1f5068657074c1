theorem lok_t {σ : sg_T} {a b i j nn : Nat} {c o : Int} (ha : a < 3) (hb : b < 3) (hab : a ≠ b) (hri : rof σ a c = some i) (hrj : rof σ b o = some j) (hnn : σ.1 16 = (nn : Int)) (hn : nn ≠ 60) (hno : anb (lkq σ (a : Int) c (b : Int) o) nn = false) : lok σ (a : Int) c (b : Int) o = true := by
  unfold lok
  rw [show inb (a : Int) 0 2 = true from decide_eq_true (by omega), show inb (b : Int) 0 2 = true from decide_eq_true (by omega), show ((a : Int)).toNat = a from rfl, show ((b : Int)).toNat = b from rfl, hri, hrj, hnn, show ((nn : Int)).toNat = nn from rfl, show anb (fun k => isl σ (a : Int) c (b : Int) k && gd (σ.2 20) k == o) nn = false from hno]
  simp
  omega
theorem lok_to {σ : sg_T} {a c b o : Int} (h : lok σ a c b o = true) : ∃ a' b' i j : Nat, a = (a' : Int) ∧ b = (b' : Int) ∧ a' < 3 ∧ b' < 3 ∧ a' ≠ b' ∧ rof σ a' c = some i ∧ rof σ b' o = some j ∧ σ.1 16 ≠ 60 ∧ anb (lkq σ a c b o) (σ.1 16).toNat = false := by
  unfold lok at h
  simp only [Bool.and_eq_true, decide_eq_true_eq, Bool.not_eq_true'] at h
  obtain ⟨⟨⟨⟨⟨⟨h1, h2⟩, h3⟩, h4⟩, h5⟩, h6⟩, h7⟩ := h
  have i1 := inb_t h1
  have i2 := inb_t h2
  obtain ⟨i, hi⟩ := Option.isSome_iff_exists.mp h4
  obtain ⟨j, hj⟩ := Option.isSome_iff_exists.mp h5
  exact ⟨a.toNat, b.toNat, i, j, by omega, by omega, by omega, by omega, by omega, hi, hj, h6, h7⟩
set_option maxHeartbeats 4000000 in
theorem c_g_link_no (G : gt_T) (h : ab_H) (xa : Nat → Nat) (na la : List Nat) (σ : sg_T) (C : CR G h xa na la σ) (hw : WF σ) (a b c o : Int) (hx : lok σ a c b o = false) : ct G M_g_link 7 171 2 94 [vA (xa 1), vI a, vL c, vI b, vL o] h (rB fun z h' => h = h' ∧ z = false) nT := by
  show ev _ _ _ _ _ _ 0 [some (vA (xa 1)), some (vI a), some (vL c), none, some (vI b), some (vL o), none, none, none, none, none] [] _ _ _
  have hln := cr_ln C
  have hw16 := hw.2.2.2.1
  have hll : la.length ≤ 60 := by omega
  refine ev_il (k_g_link_0 0 rfl) rfl ?_
  refine ev_cS (k_g_link_0 1 rfl) rfl v_g_isEdition (c_g_isEdition G _ a) rfl (le_b rfl) (le_b rfl) (le_b rfl) k_n (k_B fun z447 h447 q447 => ?_)
  obtain ⟨rfl, rfl⟩ := q447
  refine ev_b_eq (k_g_link_0 2 rfl) (fun c448 => ?_) (fun c448 => ?_)
  · have j448 := inb_f c448
    refine ev_ic (k_g_link_0 14 rfl) ?_
    exact ev_zret (x := false) (k_g_link_0 15 rfl) rfl (⟨false, rfl, rfl, rfl⟩)
  · have j448 := inb_t c448
    refine ev_ilw (k_g_link_0 3 rfl) rfl ?_
    refine ev_cS (k_g_link_0 4 rfl) rfl v_g_isEdition (c_g_isEdition G _ b) rfl (le_b rfl) (le_b rfl) (le_b rfl) k_n (k_B fun z449 h449 q449 => ?_)
    obtain ⟨rfl, rfl⟩ := q449
    refine ev_b_eq (k_g_link_0 5 rfl) (fun c450 => ?_) (fun c450 => ?_)
    · have j450 := inb_f c450
      refine ev_ic (k_g_link_0 14 rfl) ?_
      exact ev_zret (x := false) (k_g_link_0 15 rfl) rfl (⟨false, rfl, rfl, rfl⟩)
    · have j450 := inb_t c450
      refine ev_il (k_g_link_0 6 rfl) rfl ?_
      refine ev_ilw (k_g_link_0 7 rfl) rfl ?_
      refine ev_ic_eq (k_g_link_0 8 rfl) (fun c451 => ?_) (fun c451 => ?_)
      · refine ev_ic (k_g_link_0 14 rfl) ?_
        exact ev_zret (x := false) (k_g_link_0 15 rfl) rfl (⟨false, rfl, rfl, rfl⟩)
      · refine ev_al (k_g_link_0 9 rfl) rfl ?_
        refine ev_get (v := vA (xa 22)) (k_g_link_0 10 rfl) (cr_x C) rfl ?_
        obtain ⟨fs452, ho452⟩ := AL_recv (cr_ll C)
        refine ev_cV (k_g_link_0 11 rfl) rfl v_al_size ho452 rfl (c_al_size G _ _ _ _ (cr_ll C)) rfl (le_b rfl) (le_b rfl) (le_b rfl) k_n (k_I fun z452 h452 q452 => ?_)
        obtain ⟨rfl, rfl⟩ := q452
        refine ev_bp (k_g_link_0 12 rfl) ?_
        refine ev_ic_ne (k_g_link_0 13 rfl) (fun c453 => ?_) (fun c453 => ?_)
        · refine ev_al (k_g_link_0 16 rfl) rfl ?_
          refine ev_get (v := vA (xa 4)) (k_g_link_0 17 rfl) (cr_x C) rfl ?_
          refine ev_il (k_g_link_0 18 rfl) rfl ?_
          refine ev_aald (k_g_link_0 19 rfl) (le_b rfl) (cr_es C) (by omega) (by simp; omega) ?_
          obtain ⟨an, rfl⟩ : ∃ n : Nat, a = (n : Int) := ⟨a.toNat, by omega⟩
          rw [show ([some (xa 5), some (xa 6), some (xa 7)] : List (Option Nat)).getD ((an : Int)).toNat none = some (xa (5 + an)) from es_get (by omega)]
          refine ev_ll (k_g_link_0 20 rfl) rfl ?_
          refine ev_cV (k_g_link_0 21 rfl) rfl v_e_find (cr_ed C an (by omega)) rfl (c_e_find G _ xa na la σ C hw an (by omega) c) rfl (le_b rfl) (le_b rfl) (le_b rfl) k_n (k_R fun z454 h454 q454 => ?_)
          obtain ⟨rfl, rfl⟩ := q454
          refine ev_asw (k_g_link_0 22 rfl) (le_b rfl) (show ev _ _ _ _ _ _ 47 [some (vA (xa 1)), some (vI (an : Int)), some (vL c), none, some (vI b), some (vL o), none, some (vR (rwa xa an (rof σ an c))), none, none, none] _ _ _ _ from ?_)
          refine ev_al (k_g_link_0 23 rfl) rfl ?_
          refine ev_get (v := vA (xa 4)) (k_g_link_0 24 rfl) (cr_x C) rfl ?_
          refine ev_ilw (k_g_link_0 25 rfl) rfl ?_
          refine ev_aald (k_g_link_0 26 rfl) (le_b rfl) (cr_es C) (by omega) (by simp; omega) ?_
          obtain ⟨bn, rfl⟩ : ∃ n : Nat, b = (n : Int) := ⟨b.toNat, by omega⟩
          rw [show ([some (xa 5), some (xa 6), some (xa 7)] : List (Option Nat)).getD ((bn : Int)).toNat none = some (xa (5 + bn)) from es_get (by omega)]
          refine ev_llw (k_g_link_0 27 rfl) rfl ?_
          refine ev_cV (k_g_link_0 28 rfl) rfl v_e_find (cr_ed C bn (by omega)) rfl (c_e_find G _ xa na la σ C hw bn (by omega) o) rfl (le_b rfl) (le_b rfl) (le_b rfl) k_n (k_R fun z455 h455 q455 => ?_)
          obtain ⟨rfl, rfl⟩ := q455
          refine ev_asw (k_g_link_0 29 rfl) (le_b rfl) (show ev _ _ _ _ _ _ 61 [some (vA (xa 1)), some (vI (an : Int)), some (vL c), none, some (vI (bn : Int)), some (vL o), none, some (vR (rwa xa an (rof σ an c))), some (vR (rwa xa bn (rof σ bn o))), none, none] _ _ _ _ from ?_)
          refine ev_alw (k_g_link_0 30 rfl) rfl ?_
          refine ev_rn (k_g_link_0 31 rfl) (fun c456 => ?_) (fun i456 c456 => ?_)
          · (try rw [c456])
            show ev _ _ _ _ _ _ 75 [some (vA (xa 1)), some (vI (an : Int)), some (vL c), none, some (vI (bn : Int)), some (vL o), none, some (vN), some (vR (rwa xa bn (rof σ bn o))), none, none] [] _ _ _
            refine ev_ic (k_g_link_0 36 rfl) ?_
            refine ev_isw (k_g_link_0 37 rfl) (le_b rfl) (show ev _ _ _ _ _ _ 78 [some (vA (xa 1)), some (vI (an : Int)), some (vL c), none, some (vI (bn : Int)), some (vL o), none, some (vN), some (vR (rwa xa bn (rof σ bn o))), some (vI 0), none] _ _ _ _ from ?_)
            refine ev_ic (k_g_link_0 38 rfl) ?_
            refine ev_isw (k_g_link_0 39 rfl) (le_b rfl) (show ev _ _ _ _ _ _ 81 [some (vA (xa 1)), some (vI (an : Int)), some (vL c), none, some (vI (bn : Int)), some (vL o), none, some (vN), some (vR (rwa xa bn (rof σ bn o))), some (vI 0), some (vI 0)] _ _ _ _ from ?_)
            rw [show (0 : Int) = ((0 : Nat) : Int) from rfl]
            refine lp_linkN C hw (a := an) (b := bn) (by omega) (by omega) (r7 := none) (r8 := rwa xa bn (rof σ bn o)) (fun v hv => ?_) (la.length + 1) 0 false (by omega) rfl (by omega)
            subst hv
            refine ev_ilw (k_g_link_1 9 rfl) rfl ?_
            refine ev_b_eq (k_g_link_1 10 rfl) (fun _ => ?_) (fun c => absurd c (by decide))
            refine ev_ilw (k_g_link_1 28 rfl) rfl ?_
            exact ev_zret (k_g_link_1 29 rfl) rfl ⟨false, rfl, rfl, rfl⟩
          · (try rw [c456])
            show ev _ _ _ _ _ _ 66 [some (vA (xa 1)), some (vI (an : Int)), some (vL c), none, some (vI (bn : Int)), some (vL o), none, some (vA (xa (rt an i456 0))), some (vR (rwa xa bn (rof σ bn o))), none, none] [] _ _ _
            have bi456 : i456 < nr σ an := (rof_lt c456).1
            refine ev_alw (k_g_link_0 32 rfl) rfl ?_
            refine ev_rn (k_g_link_0 33 rfl) (fun c457 => ?_) (fun i457 c457 => ?_)
            · (try rw [c457])
              show ev _ _ _ _ _ _ 75 [some (vA (xa 1)), some (vI (an : Int)), some (vL c), none, some (vI (bn : Int)), some (vL o), none, some (vA (xa (rt an i456 0))), some (vN), none, none] [] _ _ _
              refine ev_ic (k_g_link_0 36 rfl) ?_
              refine ev_isw (k_g_link_0 37 rfl) (le_b rfl) (show ev _ _ _ _ _ _ 78 [some (vA (xa 1)), some (vI (an : Int)), some (vL c), none, some (vI (bn : Int)), some (vL o), none, some (vA (xa (rt an i456 0))), some (vN), some (vI 0), none] _ _ _ _ from ?_)
              refine ev_ic (k_g_link_0 38 rfl) ?_
              refine ev_isw (k_g_link_0 39 rfl) (le_b rfl) (show ev _ _ _ _ _ _ 81 [some (vA (xa 1)), some (vI (an : Int)), some (vL c), none, some (vI (bn : Int)), some (vL o), none, some (vA (xa (rt an i456 0))), some (vN), some (vI 0), some (vI 0)] _ _ _ _ from ?_)
              rw [show (0 : Int) = ((0 : Nat) : Int) from rfl]
              refine lp_linkN C hw (a := an) (b := bn) (by omega) (by omega) (r7 := some (xa (rt an i456 0))) (r8 := none) (fun v hv => ?_) (la.length + 1) 0 false (by omega) rfl (by omega)
              subst hv
              refine ev_ilw (k_g_link_1 9 rfl) rfl ?_
              refine ev_b_eq (k_g_link_1 10 rfl) (fun _ => ?_) (fun c => absurd c (by decide))
              refine ev_ilw (k_g_link_1 28 rfl) rfl ?_
              exact ev_zret (k_g_link_1 29 rfl) rfl ⟨false, rfl, rfl, rfl⟩
            · (try rw [c457])
              show ev _ _ _ _ _ _ 71 [some (vA (xa 1)), some (vI (an : Int)), some (vL c), none, some (vI (bn : Int)), some (vL o), none, some (vA (xa (rt an i456 0))), some (vA (xa (rt bn i457 0))), none, none] [] _ _ _
              have bi457 : i457 < nr σ bn := (rof_lt c457).1
              refine ev_ic (k_g_link_0 34 rfl) ?_
              refine ev_goto (k_g_link_0 35 rfl) ?_
              refine ev_isw (k_g_link_0 37 rfl) (le_b rfl) (show ev _ _ _ _ _ _ 78 [some (vA (xa 1)), some (vI (an : Int)), some (vL c), none, some (vI (bn : Int)), some (vL o), none, some (vA (xa (rt an i456 0))), some (vA (xa (rt bn i457 0))), some (vI 1), none] _ _ _ _ from ?_)
              refine ev_ic (k_g_link_0 38 rfl) ?_
              refine ev_isw (k_g_link_0 39 rfl) (le_b rfl) (show ev _ _ _ _ _ _ 81 [some (vA (xa 1)), some (vI (an : Int)), some (vL c), none, some (vI (bn : Int)), some (vL o), none, some (vA (xa (rt an i456 0))), some (vA (xa (rt bn i457 0))), some (vI 1), some (vI 0)] _ _ _ _ from ?_)
              rw [show (0 : Int) = ((0 : Nat) : Int) from rfl]
              have hc := (rof_lt c456).2
              have ho := (rof_lt c457).2
              refine lp_link C hw (a := an) (b := bn) (by omega) (by omega) (i := i456) (j := i457) (by omega) (by omega) hc ho (fun v hv => ?_) (la.length + 1) 0 true (by omega) rfl (by omega)
              cases hz : anb (lkq σ (an : Int) c (bn : Int) o) la.length with
              | false => exact absurd ((lok_t (nn := la.length) (by omega) (by omega) (by omega) c456 c457 hln.symm (by omega) hz).symm.trans hx) (by decide)
              | true =>
                rw [hz] at hv
                have hv : v = false := hv
                subst hv
                refine ev_ilw (k_g_link_1 9 rfl) rfl ?_
                refine ev_b_eq (k_g_link_1 10 rfl) (fun _ => ?_) (fun c => absurd c (by decide))
                refine ev_ilw (k_g_link_1 28 rfl) rfl ?_
                exact ev_zret (k_g_link_1 29 rfl) rfl ⟨false, rfl, rfl, rfl⟩
        · refine ev_ic (k_g_link_0 14 rfl) ?_
          exact ev_zret (x := false) (k_g_link_0 15 rfl) rfl (⟨false, rfl, rfl, rfl⟩)
